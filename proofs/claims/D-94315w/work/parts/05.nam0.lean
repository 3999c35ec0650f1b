/-! NumberComes -/
set_option maxRecDepth 100000
def RX0 : String := "NumberComes"
def TX0 : u_T := fun k => match k with
  | 0 => ("NumberComes", "now", "LNumberComes$State;", true)
  | 1 => ("NumberComes", "image", "LNumberComes$State;", true)
  | 2 => ("NumberComes", "tape", "[B", true)
  | 3 => ("NumberComes", "taped", "I", false)
  | 4 => ("NumberComes", "fault", "I", false)
  | 5 => ("NumberComes", "faultAt", "I", false)
  | 6 => ("NumberComes", "names", "[I", true)
  | 7 => ("NumberComes", "least", "J", false)
  | 8 => ("NumberComes", "step", "J", false)
  | 9 => ("NumberComes", "begins", "J", false)
  | 10 => ("NumberComes", "mine", "[J", true)
  | 11 => ("NumberComes", "holder", "[I", true)
  | 12 => ("NumberComes", "asked", "[Z", true)
  | 13 => ("NumberComes", "speaking", "[I", true)
  | 14 => ("NumberComes", "firsts", "[I", true)
  | 15 => ("NumberComes", "mostOf", "[I", true)
  | 16 => ("NumberComes", "partner", "[I", true)
  | _ => ("NumberComes", "shared", "[I", true)
def tyX0 : Nat → FieldType := fun k => match k with
  | 0 => .object "NumberComes$State"
  | 1 => .object "NumberComes$State"
  | 2 => .array .byte
  | 3 => .int
  | 4 => .int
  | 5 => .int
  | 6 => .array .int
  | 7 => .long
  | 8 => .long
  | 9 => .long
  | 10 => .array .long
  | 11 => .array .int
  | 12 => .array .boolean
  | 13 => .array .int
  | 14 => .array .int
  | 15 => .array .int
  | 16 => .array .int
  | _ => .array .int
abbrev wsX00 : List Cond := u_ws RX0 TX0 18
set_option maxRecDepth 100000 in
theorem nmX0 : ∀ a, a < 18 → ∀ b, b < 18 → a ≠ b → (TX0 a).2.1 ≠ (TX0 b).2.1 := by decide +kernel
set_option maxRecDepth 100000 in
theorem tyX0_ok : ∀ k, k < 18 → parseFieldDescriptor (TX0 k).2.2.1 = some (tyX0 k) := by decide +kernel
abbrev cX0_init : ByteArray := prog_1_method_1_code
def yX0_init : MethodName := ⟨RX0, "<init>", "()V"⟩
def dkwX0_init_5 : List UInt8 := [181, 0, 57, 42, 180, 0, 16, 42, 180, 0, 10, 182, 0, 60, 177]
abbrev dktX0_init_5 : List UInt8 := dkwX0_init_5 ++ []
def dkwX0_init_4 : List UInt8 := [42, 17, 16, 0, 188, 10, 181, 0, 51, 42, 17, 16, 0, 188, 10, 181, 0, 54, 42, 17, 0, 144, 188, 10]
abbrev dktX0_init_4 : List UInt8 := dkwX0_init_4 ++ dktX0_init_5
def dkwX0_init_3 : List UInt8 := [16, 64, 188, 4, 181, 0, 41, 42, 17, 19, 176, 188, 10, 181, 0, 45, 42, 16, 12, 188, 10, 181, 0, 48]
abbrev dktX0_init_3 : List UInt8 := dkwX0_init_3 ++ dktX0_init_4
def dkwX0_init_2 : List UInt8 := [16, 7, 188, 10, 181, 0, 30, 42, 16, 12, 188, 11, 181, 0, 34, 42, 16, 64, 188, 10, 181, 0, 38, 42]
abbrev dktX0_init_2 : List UInt8 := dkwX0_init_2 ++ dktX0_init_3
def dkwX0_init_1 : List UInt8 := [181, 0, 16, 42, 17, 1, 44, 188, 8, 181, 0, 19, 42, 2, 181, 0, 23, 42, 2, 181, 0, 27, 42]
abbrev dktX0_init_1 : List UInt8 := dkwX0_init_1 ++ dktX0_init_2
def dkwX0_init_0 : List UInt8 := [42, 183, 0, 1, 42, 187, 0, 7, 89, 183, 0, 9, 181, 0, 10, 42, 187, 0, 7, 89, 183, 0, 9]
abbrev dktX0_init_0 : List UInt8 := dkwX0_init_0 ++ dktX0_init_1
theorem dksX0_init_0 : cX0_init.data.toList.drop 0 = dktX0_init_0 := by decide +kernel
theorem dksX0_init_1 : cX0_init.data.toList.drop 23 = dktX0_init_1 := dk_seg dksX0_init_0 23 rfl rfl
theorem dksX0_init_2 : cX0_init.data.toList.drop 46 = dktX0_init_2 := dk_seg dksX0_init_1 23 rfl rfl
theorem dksX0_init_3 : cX0_init.data.toList.drop 70 = dktX0_init_3 := dk_seg dksX0_init_2 24 rfl rfl
theorem dksX0_init_4 : cX0_init.data.toList.drop 94 = dktX0_init_4 := dk_seg dksX0_init_3 24 rfl rfl
theorem dksX0_init_5 : cX0_init.data.toList.drop 118 = dktX0_init_5 := dk_seg dksX0_init_4 24 rfl rfl
theorem dX0_init_0 : decode cX0_init 0 = .ok (.aload_n 0, 1) := dk_42 (dk_at dksX0_init_0 0 rfl rfl)
theorem dX0_init_1 : decode cX0_init 1 = .ok (.invokespecial 1, 3) := dk_183 0 1 (dk_at dksX0_init_0 1 rfl rfl)
theorem dX0_init_4 : decode cX0_init 4 = .ok (.aload_n 0, 1) := dk_42 (dk_at dksX0_init_0 4 rfl rfl)
theorem dX0_init_5 : decode cX0_init 5 = .ok (.new 7, 3) := dk_187 0 7 (dk_at dksX0_init_0 5 rfl rfl)
theorem dX0_init_8 : decode cX0_init 8 = .ok (.dup, 1) := dk_89 (dk_at dksX0_init_0 8 rfl rfl)
theorem dX0_init_9 : decode cX0_init 9 = .ok (.invokespecial 9, 3) := dk_183 0 9 (dk_at dksX0_init_0 9 rfl rfl)
theorem dX0_init_12 : decode cX0_init 12 = .ok (.putfield 10, 3) := dk_181 0 10 (dk_at dksX0_init_0 12 rfl rfl)
theorem dX0_init_15 : decode cX0_init 15 = .ok (.aload_n 0, 1) := dk_42 (dk_at dksX0_init_0 15 rfl rfl)
theorem dX0_init_16 : decode cX0_init 16 = .ok (.new 7, 3) := dk_187 0 7 (dk_at dksX0_init_0 16 rfl rfl)
theorem dX0_init_19 : decode cX0_init 19 = .ok (.dup, 1) := dk_89 (dk_at dksX0_init_0 19 rfl rfl)
theorem dX0_init_20 : decode cX0_init 20 = .ok (.invokespecial 9, 3) := dk_183 0 9 (dk_at dksX0_init_0 20 rfl rfl)
theorem dX0_init_23 : decode cX0_init 23 = .ok (.putfield 16, 3) := dk_181 0 16 (dk_at dksX0_init_1 0 rfl rfl)
theorem dX0_init_26 : decode cX0_init 26 = .ok (.aload_n 0, 1) := dk_42 (dk_at dksX0_init_1 3 rfl rfl)
theorem dX0_init_27 : decode cX0_init 27 = .ok (.sipush 300, 3) := dk_17 1 44 (dk_at dksX0_init_1 4 rfl rfl)
theorem dX0_init_30 : decode cX0_init 30 = .ok (.newarray .byte, 2) := dk_188_8 (dk_at dksX0_init_1 7 rfl rfl)
theorem dX0_init_32 : decode cX0_init 32 = .ok (.putfield 19, 3) := dk_181 0 19 (dk_at dksX0_init_1 9 rfl rfl)
theorem dX0_init_35 : decode cX0_init 35 = .ok (.aload_n 0, 1) := dk_42 (dk_at dksX0_init_1 12 rfl rfl)
theorem dX0_init_36 : decode cX0_init 36 = .ok (.iconst (-1), 1) := dk_2 (dk_at dksX0_init_1 13 rfl rfl)
theorem dX0_init_37 : decode cX0_init 37 = .ok (.putfield 23, 3) := dk_181 0 23 (dk_at dksX0_init_1 14 rfl rfl)
theorem dX0_init_40 : decode cX0_init 40 = .ok (.aload_n 0, 1) := dk_42 (dk_at dksX0_init_1 17 rfl rfl)
theorem dX0_init_41 : decode cX0_init 41 = .ok (.iconst (-1), 1) := dk_2 (dk_at dksX0_init_1 18 rfl rfl)
theorem dX0_init_42 : decode cX0_init 42 = .ok (.putfield 27, 3) := dk_181 0 27 (dk_at dksX0_init_1 19 rfl rfl)
theorem dX0_init_45 : decode cX0_init 45 = .ok (.aload_n 0, 1) := dk_42 (dk_at dksX0_init_1 22 rfl rfl)
theorem dX0_init_46 : decode cX0_init 46 = .ok (.bipush 7, 2) := dk_16 7 (dk_at dksX0_init_2 0 rfl rfl)
theorem dX0_init_48 : decode cX0_init 48 = .ok (.newarray .int, 2) := dk_188_10 (dk_at dksX0_init_2 2 rfl rfl)
theorem dX0_init_50 : decode cX0_init 50 = .ok (.putfield 30, 3) := dk_181 0 30 (dk_at dksX0_init_2 4 rfl rfl)
theorem dX0_init_53 : decode cX0_init 53 = .ok (.aload_n 0, 1) := dk_42 (dk_at dksX0_init_2 7 rfl rfl)
theorem dX0_init_54 : decode cX0_init 54 = .ok (.bipush 12, 2) := dk_16 12 (dk_at dksX0_init_2 8 rfl rfl)
theorem dX0_init_56 : decode cX0_init 56 = .ok (.newarray .long, 2) := dk_188_11 (dk_at dksX0_init_2 10 rfl rfl)
theorem dX0_init_58 : decode cX0_init 58 = .ok (.putfield 34, 3) := dk_181 0 34 (dk_at dksX0_init_2 12 rfl rfl)
theorem dX0_init_61 : decode cX0_init 61 = .ok (.aload_n 0, 1) := dk_42 (dk_at dksX0_init_2 15 rfl rfl)
theorem dX0_init_62 : decode cX0_init 62 = .ok (.bipush 64, 2) := dk_16 64 (dk_at dksX0_init_2 16 rfl rfl)
theorem dX0_init_64 : decode cX0_init 64 = .ok (.newarray .int, 2) := dk_188_10 (dk_at dksX0_init_2 18 rfl rfl)
theorem dX0_init_66 : decode cX0_init 66 = .ok (.putfield 38, 3) := dk_181 0 38 (dk_at dksX0_init_2 20 rfl rfl)
theorem dX0_init_69 : decode cX0_init 69 = .ok (.aload_n 0, 1) := dk_42 (dk_at dksX0_init_2 23 rfl rfl)
theorem dX0_init_70 : decode cX0_init 70 = .ok (.bipush 64, 2) := dk_16 64 (dk_at dksX0_init_3 0 rfl rfl)
theorem dX0_init_72 : decode cX0_init 72 = .ok (.newarray .boolean, 2) := dk_188_4 (dk_at dksX0_init_3 2 rfl rfl)
theorem dX0_init_74 : decode cX0_init 74 = .ok (.putfield 41, 3) := dk_181 0 41 (dk_at dksX0_init_3 4 rfl rfl)
theorem dX0_init_77 : decode cX0_init 77 = .ok (.aload_n 0, 1) := dk_42 (dk_at dksX0_init_3 7 rfl rfl)
theorem dX0_init_78 : decode cX0_init 78 = .ok (.sipush 5040, 3) := dk_17 19 176 (dk_at dksX0_init_3 8 rfl rfl)
theorem dX0_init_81 : decode cX0_init 81 = .ok (.newarray .int, 2) := dk_188_10 (dk_at dksX0_init_3 11 rfl rfl)
theorem dX0_init_83 : decode cX0_init 83 = .ok (.putfield 45, 3) := dk_181 0 45 (dk_at dksX0_init_3 13 rfl rfl)
theorem dX0_init_86 : decode cX0_init 86 = .ok (.aload_n 0, 1) := dk_42 (dk_at dksX0_init_3 16 rfl rfl)
theorem dX0_init_87 : decode cX0_init 87 = .ok (.bipush 12, 2) := dk_16 12 (dk_at dksX0_init_3 17 rfl rfl)
theorem dX0_init_89 : decode cX0_init 89 = .ok (.newarray .int, 2) := dk_188_10 (dk_at dksX0_init_3 19 rfl rfl)
theorem dX0_init_91 : decode cX0_init 91 = .ok (.putfield 48, 3) := dk_181 0 48 (dk_at dksX0_init_3 21 rfl rfl)
theorem dX0_init_94 : decode cX0_init 94 = .ok (.aload_n 0, 1) := dk_42 (dk_at dksX0_init_4 0 rfl rfl)
theorem dX0_init_95 : decode cX0_init 95 = .ok (.sipush 4096, 3) := dk_17 16 0 (dk_at dksX0_init_4 1 rfl rfl)
theorem dX0_init_98 : decode cX0_init 98 = .ok (.newarray .int, 2) := dk_188_10 (dk_at dksX0_init_4 4 rfl rfl)
theorem dX0_init_100 : decode cX0_init 100 = .ok (.putfield 51, 3) := dk_181 0 51 (dk_at dksX0_init_4 6 rfl rfl)
theorem dX0_init_103 : decode cX0_init 103 = .ok (.aload_n 0, 1) := dk_42 (dk_at dksX0_init_4 9 rfl rfl)
theorem dX0_init_104 : decode cX0_init 104 = .ok (.sipush 4096, 3) := dk_17 16 0 (dk_at dksX0_init_4 10 rfl rfl)
theorem dX0_init_107 : decode cX0_init 107 = .ok (.newarray .int, 2) := dk_188_10 (dk_at dksX0_init_4 13 rfl rfl)
theorem dX0_init_109 : decode cX0_init 109 = .ok (.putfield 54, 3) := dk_181 0 54 (dk_at dksX0_init_4 15 rfl rfl)
theorem dX0_init_112 : decode cX0_init 112 = .ok (.aload_n 0, 1) := dk_42 (dk_at dksX0_init_4 18 rfl rfl)
theorem dX0_init_113 : decode cX0_init 113 = .ok (.sipush 144, 3) := dk_17 0 144 (dk_at dksX0_init_4 19 rfl rfl)
theorem dX0_init_116 : decode cX0_init 116 = .ok (.newarray .int, 2) := dk_188_10 (dk_at dksX0_init_4 22 rfl rfl)
theorem dX0_init_118 : decode cX0_init 118 = .ok (.putfield 57, 3) := dk_181 0 57 (dk_at dksX0_init_5 0 rfl rfl)
theorem dX0_init_121 : decode cX0_init 121 = .ok (.aload_n 0, 1) := dk_42 (dk_at dksX0_init_5 3 rfl rfl)
theorem dX0_init_122 : decode cX0_init 122 = .ok (.getfield 16, 3) := dk_180 0 16 (dk_at dksX0_init_5 4 rfl rfl)
theorem dX0_init_125 : decode cX0_init 125 = .ok (.aload_n 0, 1) := dk_42 (dk_at dksX0_init_5 7 rfl rfl)
theorem dX0_init_126 : decode cX0_init 126 = .ok (.getfield 10, 3) := dk_180 0 10 (dk_at dksX0_init_5 8 rfl rfl)
theorem dX0_init_129 : decode cX0_init 129 = .ok (.invokevirtual 60, 3) := dk_182 0 60 (dk_at dksX0_init_5 11 rfl rfl)
theorem dX0_init_132 : decode cX0_init 132 = .ok (.return_, 1) := dk_177 (dk_at dksX0_init_5 14 rfl rfl)
abbrev cX0_person : ByteArray := prog_1_method_11_code
def yX0_person : MethodName := ⟨RX0, "person", "(II)I"⟩
def dkwX0_person_3 : List UInt8 := [180, 0, 10, 180, 0, 64, 3, 92, 46, 4, 96, 79, 29, 172]
abbrev dktX0_person_3 : List UInt8 := dkwX0_person_3 ++ []
def dkwX0_person_2 : List UInt8 := [29, 27, 79, 42, 180, 0, 10, 180, 0, 89, 29, 28, 79, 42, 180, 0, 10, 180, 0, 92, 29, 3, 79, 42]
abbrev dktX0_person_2 : List UInt8 := dkwX0_person_2 ++ dktX0_person_3
def dkwX0_person_1 : List UInt8 := [16, 12, 160, 0, 5, 2, 172, 42, 180, 0, 10, 180, 0, 64, 3, 46, 62, 42, 180, 0, 10, 180, 0, 86]
abbrev dktX0_person_1 : List UInt8 := dkwX0_person_1 ++ dktX0_person_2
def dkwX0_person_0 : List UInt8 := [27, 184, 0, 79, 153, 0, 24, 28, 184, 0, 83, 153, 0, 17, 42, 180, 0, 10, 180, 0, 64, 3, 46]
abbrev dktX0_person_0 : List UInt8 := dkwX0_person_0 ++ dktX0_person_1
theorem dksX0_person_0 : cX0_person.data.toList.drop 0 = dktX0_person_0 := by decide +kernel
theorem dksX0_person_1 : cX0_person.data.toList.drop 23 = dktX0_person_1 := dk_seg dksX0_person_0 23 rfl rfl
theorem dksX0_person_2 : cX0_person.data.toList.drop 47 = dktX0_person_2 := dk_seg dksX0_person_1 24 rfl rfl
theorem dksX0_person_3 : cX0_person.data.toList.drop 71 = dktX0_person_3 := dk_seg dksX0_person_2 24 rfl rfl
theorem dX0_person_0 : decode cX0_person 0 = .ok (.iload_n 1, 1) := dk_27 (dk_at dksX0_person_0 0 rfl rfl)
theorem dX0_person_1 : decode cX0_person 1 = .ok (.invokestatic 79, 3) := dk_184 0 79 (dk_at dksX0_person_0 1 rfl rfl)
theorem dX0_person_4 : decode cX0_person 4 = .ok (.ifCond .eq 24, 3) := dk_153 0 24 (dk_at dksX0_person_0 4 rfl rfl)
theorem dX0_person_7 : decode cX0_person 7 = .ok (.iload_n 2, 1) := dk_28 (dk_at dksX0_person_0 7 rfl rfl)
theorem dX0_person_8 : decode cX0_person 8 = .ok (.invokestatic 83, 3) := dk_184 0 83 (dk_at dksX0_person_0 8 rfl rfl)
theorem dX0_person_11 : decode cX0_person 11 = .ok (.ifCond .eq 17, 3) := dk_153 0 17 (dk_at dksX0_person_0 11 rfl rfl)
theorem dX0_person_14 : decode cX0_person 14 = .ok (.aload_n 0, 1) := dk_42 (dk_at dksX0_person_0 14 rfl rfl)
theorem dX0_person_15 : decode cX0_person 15 = .ok (.getfield 10, 3) := dk_180 0 10 (dk_at dksX0_person_0 15 rfl rfl)
theorem dX0_person_18 : decode cX0_person 18 = .ok (.getfield 64, 3) := dk_180 0 64 (dk_at dksX0_person_0 18 rfl rfl)
theorem dX0_person_21 : decode cX0_person 21 = .ok (.iconst 0, 1) := dk_3 (dk_at dksX0_person_0 21 rfl rfl)
theorem dX0_person_22 : decode cX0_person 22 = .ok (.iaload, 1) := dk_46 (dk_at dksX0_person_0 22 rfl rfl)
theorem dX0_person_23 : decode cX0_person 23 = .ok (.bipush 12, 2) := dk_16 12 (dk_at dksX0_person_1 0 rfl rfl)
theorem dX0_person_25 : decode cX0_person 25 = .ok (.if_icmp .ne 5, 3) := dk_160 0 5 (dk_at dksX0_person_1 2 rfl rfl)
theorem dX0_person_28 : decode cX0_person 28 = .ok (.iconst (-1), 1) := dk_2 (dk_at dksX0_person_1 5 rfl rfl)
theorem dX0_person_29 : decode cX0_person 29 = .ok (.ireturn, 1) := dk_172 (dk_at dksX0_person_1 6 rfl rfl)
theorem dX0_person_30 : decode cX0_person 30 = .ok (.aload_n 0, 1) := dk_42 (dk_at dksX0_person_1 7 rfl rfl)
theorem dX0_person_31 : decode cX0_person 31 = .ok (.getfield 10, 3) := dk_180 0 10 (dk_at dksX0_person_1 8 rfl rfl)
theorem dX0_person_34 : decode cX0_person 34 = .ok (.getfield 64, 3) := dk_180 0 64 (dk_at dksX0_person_1 11 rfl rfl)
theorem dX0_person_37 : decode cX0_person 37 = .ok (.iconst 0, 1) := dk_3 (dk_at dksX0_person_1 14 rfl rfl)
theorem dX0_person_38 : decode cX0_person 38 = .ok (.iaload, 1) := dk_46 (dk_at dksX0_person_1 15 rfl rfl)
theorem dX0_person_39 : decode cX0_person 39 = .ok (.istore_n 3, 1) := dk_62 (dk_at dksX0_person_1 16 rfl rfl)
theorem dX0_person_40 : decode cX0_person 40 = .ok (.aload_n 0, 1) := dk_42 (dk_at dksX0_person_1 17 rfl rfl)
theorem dX0_person_41 : decode cX0_person 41 = .ok (.getfield 10, 3) := dk_180 0 10 (dk_at dksX0_person_1 18 rfl rfl)
theorem dX0_person_44 : decode cX0_person 44 = .ok (.getfield 86, 3) := dk_180 0 86 (dk_at dksX0_person_1 21 rfl rfl)
theorem dX0_person_47 : decode cX0_person 47 = .ok (.iload_n 3, 1) := dk_29 (dk_at dksX0_person_2 0 rfl rfl)
theorem dX0_person_48 : decode cX0_person 48 = .ok (.iload_n 1, 1) := dk_27 (dk_at dksX0_person_2 1 rfl rfl)
theorem dX0_person_49 : decode cX0_person 49 = .ok (.iastore, 1) := dk_79 (dk_at dksX0_person_2 2 rfl rfl)
theorem dX0_person_50 : decode cX0_person 50 = .ok (.aload_n 0, 1) := dk_42 (dk_at dksX0_person_2 3 rfl rfl)
theorem dX0_person_51 : decode cX0_person 51 = .ok (.getfield 10, 3) := dk_180 0 10 (dk_at dksX0_person_2 4 rfl rfl)
theorem dX0_person_54 : decode cX0_person 54 = .ok (.getfield 89, 3) := dk_180 0 89 (dk_at dksX0_person_2 7 rfl rfl)
theorem dX0_person_57 : decode cX0_person 57 = .ok (.iload_n 3, 1) := dk_29 (dk_at dksX0_person_2 10 rfl rfl)
theorem dX0_person_58 : decode cX0_person 58 = .ok (.iload_n 2, 1) := dk_28 (dk_at dksX0_person_2 11 rfl rfl)
theorem dX0_person_59 : decode cX0_person 59 = .ok (.iastore, 1) := dk_79 (dk_at dksX0_person_2 12 rfl rfl)
theorem dX0_person_60 : decode cX0_person 60 = .ok (.aload_n 0, 1) := dk_42 (dk_at dksX0_person_2 13 rfl rfl)
theorem dX0_person_61 : decode cX0_person 61 = .ok (.getfield 10, 3) := dk_180 0 10 (dk_at dksX0_person_2 14 rfl rfl)
theorem dX0_person_64 : decode cX0_person 64 = .ok (.getfield 92, 3) := dk_180 0 92 (dk_at dksX0_person_2 17 rfl rfl)
theorem dX0_person_67 : decode cX0_person 67 = .ok (.iload_n 3, 1) := dk_29 (dk_at dksX0_person_2 20 rfl rfl)
theorem dX0_person_68 : decode cX0_person 68 = .ok (.iconst 0, 1) := dk_3 (dk_at dksX0_person_2 21 rfl rfl)
theorem dX0_person_69 : decode cX0_person 69 = .ok (.iastore, 1) := dk_79 (dk_at dksX0_person_2 22 rfl rfl)
theorem dX0_person_70 : decode cX0_person 70 = .ok (.aload_n 0, 1) := dk_42 (dk_at dksX0_person_2 23 rfl rfl)
theorem dX0_person_71 : decode cX0_person 71 = .ok (.getfield 10, 3) := dk_180 0 10 (dk_at dksX0_person_3 0 rfl rfl)
theorem dX0_person_74 : decode cX0_person 74 = .ok (.getfield 64, 3) := dk_180 0 64 (dk_at dksX0_person_3 3 rfl rfl)
theorem dX0_person_77 : decode cX0_person 77 = .ok (.iconst 0, 1) := dk_3 (dk_at dksX0_person_3 6 rfl rfl)
theorem dX0_person_78 : decode cX0_person 78 = .ok (.dup2, 1) := dk_92 (dk_at dksX0_person_3 7 rfl rfl)
theorem dX0_person_79 : decode cX0_person 79 = .ok (.iaload, 1) := dk_46 (dk_at dksX0_person_3 8 rfl rfl)
theorem dX0_person_80 : decode cX0_person 80 = .ok (.iconst 1, 1) := dk_4 (dk_at dksX0_person_3 9 rfl rfl)
theorem dX0_person_81 : decode cX0_person 81 = .ok (.iadd, 1) := dk_96 (dk_at dksX0_person_3 10 rfl rfl)
theorem dX0_person_82 : decode cX0_person 82 = .ok (.iastore, 1) := dk_79 (dk_at dksX0_person_3 11 rfl rfl)
theorem dX0_person_83 : decode cX0_person 83 = .ok (.iload_n 3, 1) := dk_29 (dk_at dksX0_person_3 12 rfl rfl)
theorem dX0_person_84 : decode cX0_person 84 = .ok (.ireturn, 1) := dk_172 (dk_at dksX0_person_3 13 rfl rfl)
abbrev cX0_isNumber : ByteArray := prog_1_method_9_code
def yX0_isNumber : MethodName := ⟨RX0, "isNumber", "(I)Z"⟩
def dkwX0_isNumber_0 : List UInt8 := [26, 133, 10, 20, 0, 77, 184, 0, 67, 172]
abbrev dktX0_isNumber_0 : List UInt8 := dkwX0_isNumber_0 ++ []
theorem dksX0_isNumber_0 : cX0_isNumber.data.toList.drop 0 = dktX0_isNumber_0 := by decide +kernel
theorem dX0_isNumber_0 : decode cX0_isNumber 0 = .ok (.iload_n 0, 1) := dk_26 (dk_at dksX0_isNumber_0 0 rfl rfl)
theorem dX0_isNumber_1 : decode cX0_isNumber 1 = .ok (.i2l, 1) := dk_133 (dk_at dksX0_isNumber_0 1 rfl rfl)
theorem dX0_isNumber_2 : decode cX0_isNumber 2 = .ok (.lconst 1, 1) := dk_10 (dk_at dksX0_isNumber_0 2 rfl rfl)
theorem dX0_isNumber_3 : decode cX0_isNumber 3 = .ok (.ldc2_w 77, 3) := dk_20 0 77 (dk_at dksX0_isNumber_0 3 rfl rfl)
theorem dX0_isNumber_6 : decode cX0_isNumber 6 = .ok (.invokestatic 67, 3) := dk_184 0 67 (dk_at dksX0_isNumber_0 6 rfl rfl)
theorem dX0_isNumber_9 : decode cX0_isNumber 9 = .ok (.ireturn, 1) := dk_172 (dk_at dksX0_isNumber_0 9 rfl rfl)
abbrev cX0_in : ByteArray := prog_1_method_2_code
def yX0_in : MethodName := ⟨RX0, "in", "(JJJ)Z"⟩
def dkwX0_in_0 : List UInt8 := [30, 32, 148, 155, 0, 14, 30, 22, 4, 148, 157, 0, 7, 4, 167, 0, 4, 3, 172]
abbrev dktX0_in_0 : List UInt8 := dkwX0_in_0 ++ []
theorem dksX0_in_0 : cX0_in.data.toList.drop 0 = dktX0_in_0 := by decide +kernel
theorem dX0_in_0 : decode cX0_in 0 = .ok (.lload_n 0, 1) := dk_30 (dk_at dksX0_in_0 0 rfl rfl)
theorem dX0_in_1 : decode cX0_in 1 = .ok (.lload_n 2, 1) := dk_32 (dk_at dksX0_in_0 1 rfl rfl)
theorem dX0_in_2 : decode cX0_in 2 = .ok (.lcmp, 1) := dk_148 (dk_at dksX0_in_0 2 rfl rfl)
theorem dX0_in_3 : decode cX0_in 3 = .ok (.ifCond .lt 14, 3) := dk_155 0 14 (dk_at dksX0_in_0 3 rfl rfl)
theorem dX0_in_6 : decode cX0_in 6 = .ok (.lload_n 0, 1) := dk_30 (dk_at dksX0_in_0 6 rfl rfl)
theorem dX0_in_7 : decode cX0_in 7 = .ok (.lload 4, 2) := dk_22 4 (dk_at dksX0_in_0 7 rfl rfl)
theorem dX0_in_9 : decode cX0_in 9 = .ok (.lcmp, 1) := dk_148 (dk_at dksX0_in_0 9 rfl rfl)
theorem dX0_in_10 : decode cX0_in 10 = .ok (.ifCond .gt 7, 3) := dk_157 0 7 (dk_at dksX0_in_0 10 rfl rfl)
theorem dX0_in_13 : decode cX0_in 13 = .ok (.iconst 1, 1) := dk_4 (dk_at dksX0_in_0 13 rfl rfl)
theorem dX0_in_14 : decode cX0_in 14 = .ok (.goto 4, 3) := dk_167 0 4 (dk_at dksX0_in_0 14 rfl rfl)
theorem dX0_in_17 : decode cX0_in 17 = .ok (.iconst 0, 1) := dk_3 (dk_at dksX0_in_0 17 rfl rfl)
theorem dX0_in_18 : decode cX0_in 18 = .ok (.ireturn, 1) := dk_172 (dk_at dksX0_in_0 18 rfl rfl)
abbrev cX0_isFirst : ByteArray := prog_1_method_10_code
def yX0_isFirst : MethodName := ⟨RX0, "isFirst", "(I)Z"⟩
def dkwX0_isFirst_0 : List UInt8 := [26, 133, 9, 20, 0, 77, 184, 0, 67, 172]
abbrev dktX0_isFirst_0 : List UInt8 := dkwX0_isFirst_0 ++ []
theorem dksX0_isFirst_0 : cX0_isFirst.data.toList.drop 0 = dktX0_isFirst_0 := by decide +kernel
theorem dX0_isFirst_0 : decode cX0_isFirst 0 = .ok (.iload_n 0, 1) := dk_26 (dk_at dksX0_isFirst_0 0 rfl rfl)
theorem dX0_isFirst_1 : decode cX0_isFirst 1 = .ok (.i2l, 1) := dk_133 (dk_at dksX0_isFirst_0 1 rfl rfl)
theorem dX0_isFirst_2 : decode cX0_isFirst 2 = .ok (.lconst 0, 1) := dk_9 (dk_at dksX0_isFirst_0 2 rfl rfl)
theorem dX0_isFirst_3 : decode cX0_isFirst 3 = .ok (.ldc2_w 77, 3) := dk_20 0 77 (dk_at dksX0_isFirst_0 3 rfl rfl)
theorem dX0_isFirst_6 : decode cX0_isFirst 6 = .ok (.invokestatic 67, 3) := dk_184 0 67 (dk_at dksX0_isFirst_0 6 rfl rfl)
theorem dX0_isFirst_9 : decode cX0_isFirst 9 = .ok (.ireturn, 1) := dk_172 (dk_at dksX0_isFirst_0 9 rfl rfl)
abbrev cX0_change : ByteArray := prog_1_method_12_code
def yX0_change : MethodName := ⟨RX0, "change", "(III)Z"⟩
def dkwX0_change_1 : List UInt8 := [42, 180, 0, 10, 180, 0, 86, 27, 28, 79, 42, 180, 0, 10, 180, 0, 89, 27, 29, 79, 4, 172]
abbrev dktX0_change_1 : List UInt8 := dkwX0_change_1 ++ []
def dkwX0_change_0 : List UInt8 := [42, 27, 182, 0, 95, 153, 0, 17, 28, 184, 0, 79, 153, 0, 10, 29, 184, 0, 83, 154, 0, 5, 3, 172]
abbrev dktX0_change_0 : List UInt8 := dkwX0_change_0 ++ dktX0_change_1
theorem dksX0_change_0 : cX0_change.data.toList.drop 0 = dktX0_change_0 := by decide +kernel
theorem dksX0_change_1 : cX0_change.data.toList.drop 24 = dktX0_change_1 := dk_seg dksX0_change_0 24 rfl rfl
theorem dX0_change_0 : decode cX0_change 0 = .ok (.aload_n 0, 1) := dk_42 (dk_at dksX0_change_0 0 rfl rfl)
theorem dX0_change_1 : decode cX0_change 1 = .ok (.iload_n 1, 1) := dk_27 (dk_at dksX0_change_0 1 rfl rfl)
theorem dX0_change_2 : decode cX0_change 2 = .ok (.invokevirtual 95, 3) := dk_182 0 95 (dk_at dksX0_change_0 2 rfl rfl)
theorem dX0_change_5 : decode cX0_change 5 = .ok (.ifCond .eq 17, 3) := dk_153 0 17 (dk_at dksX0_change_0 5 rfl rfl)
theorem dX0_change_8 : decode cX0_change 8 = .ok (.iload_n 2, 1) := dk_28 (dk_at dksX0_change_0 8 rfl rfl)
theorem dX0_change_9 : decode cX0_change 9 = .ok (.invokestatic 79, 3) := dk_184 0 79 (dk_at dksX0_change_0 9 rfl rfl)
theorem dX0_change_12 : decode cX0_change 12 = .ok (.ifCond .eq 10, 3) := dk_153 0 10 (dk_at dksX0_change_0 12 rfl rfl)
theorem dX0_change_15 : decode cX0_change 15 = .ok (.iload_n 3, 1) := dk_29 (dk_at dksX0_change_0 15 rfl rfl)
theorem dX0_change_16 : decode cX0_change 16 = .ok (.invokestatic 83, 3) := dk_184 0 83 (dk_at dksX0_change_0 16 rfl rfl)
theorem dX0_change_19 : decode cX0_change 19 = .ok (.ifCond .ne 5, 3) := dk_154 0 5 (dk_at dksX0_change_0 19 rfl rfl)
theorem dX0_change_22 : decode cX0_change 22 = .ok (.iconst 0, 1) := dk_3 (dk_at dksX0_change_0 22 rfl rfl)
theorem dX0_change_23 : decode cX0_change 23 = .ok (.ireturn, 1) := dk_172 (dk_at dksX0_change_0 23 rfl rfl)
theorem dX0_change_24 : decode cX0_change 24 = .ok (.aload_n 0, 1) := dk_42 (dk_at dksX0_change_1 0 rfl rfl)
theorem dX0_change_25 : decode cX0_change 25 = .ok (.getfield 10, 3) := dk_180 0 10 (dk_at dksX0_change_1 1 rfl rfl)
theorem dX0_change_28 : decode cX0_change 28 = .ok (.getfield 86, 3) := dk_180 0 86 (dk_at dksX0_change_1 4 rfl rfl)
theorem dX0_change_31 : decode cX0_change 31 = .ok (.iload_n 1, 1) := dk_27 (dk_at dksX0_change_1 7 rfl rfl)
theorem dX0_change_32 : decode cX0_change 32 = .ok (.iload_n 2, 1) := dk_28 (dk_at dksX0_change_1 8 rfl rfl)
theorem dX0_change_33 : decode cX0_change 33 = .ok (.iastore, 1) := dk_79 (dk_at dksX0_change_1 9 rfl rfl)
theorem dX0_change_34 : decode cX0_change 34 = .ok (.aload_n 0, 1) := dk_42 (dk_at dksX0_change_1 10 rfl rfl)
theorem dX0_change_35 : decode cX0_change 35 = .ok (.getfield 10, 3) := dk_180 0 10 (dk_at dksX0_change_1 11 rfl rfl)
theorem dX0_change_38 : decode cX0_change 38 = .ok (.getfield 89, 3) := dk_180 0 89 (dk_at dksX0_change_1 14 rfl rfl)
theorem dX0_change_41 : decode cX0_change 41 = .ok (.iload_n 1, 1) := dk_27 (dk_at dksX0_change_1 17 rfl rfl)
theorem dX0_change_42 : decode cX0_change 42 = .ok (.iload_n 3, 1) := dk_29 (dk_at dksX0_change_1 18 rfl rfl)
theorem dX0_change_43 : decode cX0_change 43 = .ok (.iastore, 1) := dk_79 (dk_at dksX0_change_1 19 rfl rfl)
theorem dX0_change_44 : decode cX0_change 44 = .ok (.iconst 1, 1) := dk_4 (dk_at dksX0_change_1 20 rfl rfl)
theorem dX0_change_45 : decode cX0_change 45 = .ok (.ireturn, 1) := dk_172 (dk_at dksX0_change_1 21 rfl rfl)
abbrev cX0_isPerson : ByteArray := prog_1_method_3_code
def yX0_isPerson : MethodName := ⟨RX0, "isPerson", "(I)Z"⟩
def dkwX0_isPerson_0 : List UInt8 := [27, 133, 9, 42, 180, 0, 10, 180, 0, 64, 3, 46, 4, 100, 133, 184, 0, 67, 172]
abbrev dktX0_isPerson_0 : List UInt8 := dkwX0_isPerson_0 ++ []
theorem dksX0_isPerson_0 : cX0_isPerson.data.toList.drop 0 = dktX0_isPerson_0 := by decide +kernel
theorem dX0_isPerson_0 : decode cX0_isPerson 0 = .ok (.iload_n 1, 1) := dk_27 (dk_at dksX0_isPerson_0 0 rfl rfl)
theorem dX0_isPerson_1 : decode cX0_isPerson 1 = .ok (.i2l, 1) := dk_133 (dk_at dksX0_isPerson_0 1 rfl rfl)
theorem dX0_isPerson_2 : decode cX0_isPerson 2 = .ok (.lconst 0, 1) := dk_9 (dk_at dksX0_isPerson_0 2 rfl rfl)
theorem dX0_isPerson_3 : decode cX0_isPerson 3 = .ok (.aload_n 0, 1) := dk_42 (dk_at dksX0_isPerson_0 3 rfl rfl)
theorem dX0_isPerson_4 : decode cX0_isPerson 4 = .ok (.getfield 10, 3) := dk_180 0 10 (dk_at dksX0_isPerson_0 4 rfl rfl)
theorem dX0_isPerson_7 : decode cX0_isPerson 7 = .ok (.getfield 64, 3) := dk_180 0 64 (dk_at dksX0_isPerson_0 7 rfl rfl)
theorem dX0_isPerson_10 : decode cX0_isPerson 10 = .ok (.iconst 0, 1) := dk_3 (dk_at dksX0_isPerson_0 10 rfl rfl)
theorem dX0_isPerson_11 : decode cX0_isPerson 11 = .ok (.iaload, 1) := dk_46 (dk_at dksX0_isPerson_0 11 rfl rfl)
theorem dX0_isPerson_12 : decode cX0_isPerson 12 = .ok (.iconst 1, 1) := dk_4 (dk_at dksX0_isPerson_0 12 rfl rfl)
theorem dX0_isPerson_13 : decode cX0_isPerson 13 = .ok (.isub, 1) := dk_100 (dk_at dksX0_isPerson_0 13 rfl rfl)
theorem dX0_isPerson_14 : decode cX0_isPerson 14 = .ok (.i2l, 1) := dk_133 (dk_at dksX0_isPerson_0 14 rfl rfl)
theorem dX0_isPerson_15 : decode cX0_isPerson 15 = .ok (.invokestatic 67, 3) := dk_184 0 67 (dk_at dksX0_isPerson_0 15 rfl rfl)
theorem dX0_isPerson_18 : decode cX0_isPerson 18 = .ok (.ireturn, 1) := dk_172 (dk_at dksX0_isPerson_0 18 rfl rfl)
abbrev cX0_day : ByteArray := prog_1_method_14_code
def yX0_day : MethodName := ⟨RX0, "day", "(I)Z"⟩
def dkwX0_day_0 : List UInt8 := [27, 184, 0, 102, 154, 0, 5, 3, 172, 42, 180, 0, 10, 180, 0, 64, 4, 27, 79, 4, 172]
abbrev dktX0_day_0 : List UInt8 := dkwX0_day_0 ++ []
theorem dksX0_day_0 : cX0_day.data.toList.drop 0 = dktX0_day_0 := by decide +kernel
theorem dX0_day_0 : decode cX0_day 0 = .ok (.iload_n 1, 1) := dk_27 (dk_at dksX0_day_0 0 rfl rfl)
theorem dX0_day_1 : decode cX0_day 1 = .ok (.invokestatic 102, 3) := dk_184 0 102 (dk_at dksX0_day_0 1 rfl rfl)
theorem dX0_day_4 : decode cX0_day 4 = .ok (.ifCond .ne 5, 3) := dk_154 0 5 (dk_at dksX0_day_0 4 rfl rfl)
theorem dX0_day_7 : decode cX0_day 7 = .ok (.iconst 0, 1) := dk_3 (dk_at dksX0_day_0 7 rfl rfl)
theorem dX0_day_8 : decode cX0_day 8 = .ok (.ireturn, 1) := dk_172 (dk_at dksX0_day_0 8 rfl rfl)
theorem dX0_day_9 : decode cX0_day 9 = .ok (.aload_n 0, 1) := dk_42 (dk_at dksX0_day_0 9 rfl rfl)
theorem dX0_day_10 : decode cX0_day 10 = .ok (.getfield 10, 3) := dk_180 0 10 (dk_at dksX0_day_0 10 rfl rfl)
theorem dX0_day_13 : decode cX0_day 13 = .ok (.getfield 64, 3) := dk_180 0 64 (dk_at dksX0_day_0 13 rfl rfl)
theorem dX0_day_16 : decode cX0_day 16 = .ok (.iconst 1, 1) := dk_4 (dk_at dksX0_day_0 16 rfl rfl)
theorem dX0_day_17 : decode cX0_day 17 = .ok (.iload_n 1, 1) := dk_27 (dk_at dksX0_day_0 17 rfl rfl)
theorem dX0_day_18 : decode cX0_day 18 = .ok (.iastore, 1) := dk_79 (dk_at dksX0_day_0 18 rfl rfl)
theorem dX0_day_19 : decode cX0_day 19 = .ok (.iconst 1, 1) := dk_4 (dk_at dksX0_day_0 19 rfl rfl)
theorem dX0_day_20 : decode cX0_day 20 = .ok (.ireturn, 1) := dk_172 (dk_at dksX0_day_0 20 rfl rfl)
abbrev cX0_isDay : ByteArray := prog_1_method_13_code
def yX0_isDay : MethodName := ⟨RX0, "isDay", "(I)Z"⟩
def dkwX0_isDay_0 : List UInt8 := [26, 153, 0, 17, 26, 133, 20, 0, 98, 20, 0, 100, 184, 0, 67, 153, 0, 7, 4, 167, 0, 4, 3, 172]
abbrev dktX0_isDay_0 : List UInt8 := dkwX0_isDay_0 ++ []
theorem dksX0_isDay_0 : cX0_isDay.data.toList.drop 0 = dktX0_isDay_0 := by decide +kernel
theorem dX0_isDay_0 : decode cX0_isDay 0 = .ok (.iload_n 0, 1) := dk_26 (dk_at dksX0_isDay_0 0 rfl rfl)
theorem dX0_isDay_1 : decode cX0_isDay 1 = .ok (.ifCond .eq 17, 3) := dk_153 0 17 (dk_at dksX0_isDay_0 1 rfl rfl)
theorem dX0_isDay_4 : decode cX0_isDay 4 = .ok (.iload_n 0, 1) := dk_26 (dk_at dksX0_isDay_0 4 rfl rfl)
theorem dX0_isDay_5 : decode cX0_isDay 5 = .ok (.i2l, 1) := dk_133 (dk_at dksX0_isDay_0 5 rfl rfl)
theorem dX0_isDay_6 : decode cX0_isDay 6 = .ok (.ldc2_w 98, 3) := dk_20 0 98 (dk_at dksX0_isDay_0 6 rfl rfl)
theorem dX0_isDay_9 : decode cX0_isDay 9 = .ok (.ldc2_w 100, 3) := dk_20 0 100 (dk_at dksX0_isDay_0 9 rfl rfl)
theorem dX0_isDay_12 : decode cX0_isDay 12 = .ok (.invokestatic 67, 3) := dk_184 0 67 (dk_at dksX0_isDay_0 12 rfl rfl)
theorem dX0_isDay_15 : decode cX0_isDay 15 = .ok (.ifCond .eq 7, 3) := dk_153 0 7 (dk_at dksX0_isDay_0 15 rfl rfl)
theorem dX0_isDay_18 : decode cX0_isDay 18 = .ok (.iconst 1, 1) := dk_4 (dk_at dksX0_isDay_0 18 rfl rfl)
theorem dX0_isDay_19 : decode cX0_isDay 19 = .ok (.goto 4, 3) := dk_167 0 4 (dk_at dksX0_isDay_0 19 rfl rfl)
theorem dX0_isDay_22 : decode cX0_isDay 22 = .ok (.iconst 0, 1) := dk_3 (dk_at dksX0_isDay_0 22 rfl rfl)
theorem dX0_isDay_23 : decode cX0_isDay 23 = .ok (.ireturn, 1) := dk_172 (dk_at dksX0_isDay_0 23 rfl rfl)
abbrev cX0_clock : ByteArray := prog_1_method_15_code
def yX0_clock : MethodName := ⟨RX0, "clock", "(I)Z"⟩
def dkwX0_clock_1 : List UInt8 := [4, 172]
abbrev dktX0_clock_1 : List UInt8 := dkwX0_clock_1 ++ []
def dkwX0_clock_0 : List UInt8 := [27, 133, 10, 20, 0, 105, 184, 0, 67, 154, 0, 5, 3, 172, 42, 180, 0, 10, 180, 0, 64, 5, 27, 79]
abbrev dktX0_clock_0 : List UInt8 := dkwX0_clock_0 ++ dktX0_clock_1
theorem dksX0_clock_0 : cX0_clock.data.toList.drop 0 = dktX0_clock_0 := by decide +kernel
theorem dksX0_clock_1 : cX0_clock.data.toList.drop 24 = dktX0_clock_1 := dk_seg dksX0_clock_0 24 rfl rfl
theorem dX0_clock_0 : decode cX0_clock 0 = .ok (.iload_n 1, 1) := dk_27 (dk_at dksX0_clock_0 0 rfl rfl)
theorem dX0_clock_1 : decode cX0_clock 1 = .ok (.i2l, 1) := dk_133 (dk_at dksX0_clock_0 1 rfl rfl)
theorem dX0_clock_2 : decode cX0_clock 2 = .ok (.lconst 1, 1) := dk_10 (dk_at dksX0_clock_0 2 rfl rfl)
theorem dX0_clock_3 : decode cX0_clock 3 = .ok (.ldc2_w 105, 3) := dk_20 0 105 (dk_at dksX0_clock_0 3 rfl rfl)
theorem dX0_clock_6 : decode cX0_clock 6 = .ok (.invokestatic 67, 3) := dk_184 0 67 (dk_at dksX0_clock_0 6 rfl rfl)
theorem dX0_clock_9 : decode cX0_clock 9 = .ok (.ifCond .ne 5, 3) := dk_154 0 5 (dk_at dksX0_clock_0 9 rfl rfl)
theorem dX0_clock_12 : decode cX0_clock 12 = .ok (.iconst 0, 1) := dk_3 (dk_at dksX0_clock_0 12 rfl rfl)
theorem dX0_clock_13 : decode cX0_clock 13 = .ok (.ireturn, 1) := dk_172 (dk_at dksX0_clock_0 13 rfl rfl)
theorem dX0_clock_14 : decode cX0_clock 14 = .ok (.aload_n 0, 1) := dk_42 (dk_at dksX0_clock_0 14 rfl rfl)
theorem dX0_clock_15 : decode cX0_clock 15 = .ok (.getfield 10, 3) := dk_180 0 10 (dk_at dksX0_clock_0 15 rfl rfl)
theorem dX0_clock_18 : decode cX0_clock 18 = .ok (.getfield 64, 3) := dk_180 0 64 (dk_at dksX0_clock_0 18 rfl rfl)
theorem dX0_clock_21 : decode cX0_clock 21 = .ok (.iconst 2, 1) := dk_5 (dk_at dksX0_clock_0 21 rfl rfl)
theorem dX0_clock_22 : decode cX0_clock 22 = .ok (.iload_n 1, 1) := dk_27 (dk_at dksX0_clock_0 22 rfl rfl)
theorem dX0_clock_23 : decode cX0_clock 23 = .ok (.iastore, 1) := dk_79 (dk_at dksX0_clock_0 23 rfl rfl)
theorem dX0_clock_24 : decode cX0_clock 24 = .ok (.iconst 1, 1) := dk_4 (dk_at dksX0_clock_1 0 rfl rfl)
theorem dX0_clock_25 : decode cX0_clock 25 = .ok (.ireturn, 1) := dk_172 (dk_at dksX0_clock_1 1 rfl rfl)
abbrev cX0_near : ByteArray := prog_1_method_16_code
def yX0_near : MethodName := ⟨RX0, "near", "(IIZ)Z"⟩
def dkwX0_near_4 : List UInt8 := [42, 180, 0, 10, 180, 0, 92, 28, 46, 4, 27, 120, 2, 130, 126, 79, 4, 172]
abbrev dktX0_near_4 : List UInt8 := dkwX0_near_4 ++ []
def dkwX0_near_3 : List UInt8 := [180, 0, 92, 28, 29, 153, 0, 19, 42, 180, 0, 10, 180, 0, 92, 28, 46, 4, 27, 120, 128, 167, 0, 18]
abbrev dktX0_near_3 : List UInt8 := dkwX0_near_3 ++ dktX0_near_4
def dkwX0_near_2 : List UInt8 := [167, 0, 18, 42, 180, 0, 10, 180, 0, 92, 27, 46, 4, 28, 120, 2, 130, 126, 79, 42, 180, 0, 10]
abbrev dktX0_near_2 : List UInt8 := dkwX0_near_2 ++ dktX0_near_3
def dkwX0_near_1 : List UInt8 := [180, 0, 10, 180, 0, 92, 27, 29, 153, 0, 19, 42, 180, 0, 10, 180, 0, 92, 27, 46, 4, 28, 120, 128]
abbrev dktX0_near_1 : List UInt8 := dkwX0_near_1 ++ dktX0_near_2
def dkwX0_near_0 : List UInt8 := [42, 27, 182, 0, 95, 153, 0, 16, 42, 28, 182, 0, 95, 153, 0, 8, 27, 28, 160, 0, 5, 3, 172, 42]
abbrev dktX0_near_0 : List UInt8 := dkwX0_near_0 ++ dktX0_near_1
theorem dksX0_near_0 : cX0_near.data.toList.drop 0 = dktX0_near_0 := by decide +kernel
theorem dksX0_near_1 : cX0_near.data.toList.drop 24 = dktX0_near_1 := dk_seg dksX0_near_0 24 rfl rfl
theorem dksX0_near_2 : cX0_near.data.toList.drop 48 = dktX0_near_2 := dk_seg dksX0_near_1 24 rfl rfl
theorem dksX0_near_3 : cX0_near.data.toList.drop 71 = dktX0_near_3 := dk_seg dksX0_near_2 23 rfl rfl
theorem dksX0_near_4 : cX0_near.data.toList.drop 95 = dktX0_near_4 := dk_seg dksX0_near_3 24 rfl rfl
theorem dX0_near_0 : decode cX0_near 0 = .ok (.aload_n 0, 1) := dk_42 (dk_at dksX0_near_0 0 rfl rfl)
theorem dX0_near_1 : decode cX0_near 1 = .ok (.iload_n 1, 1) := dk_27 (dk_at dksX0_near_0 1 rfl rfl)
theorem dX0_near_2 : decode cX0_near 2 = .ok (.invokevirtual 95, 3) := dk_182 0 95 (dk_at dksX0_near_0 2 rfl rfl)
theorem dX0_near_5 : decode cX0_near 5 = .ok (.ifCond .eq 16, 3) := dk_153 0 16 (dk_at dksX0_near_0 5 rfl rfl)
theorem dX0_near_8 : decode cX0_near 8 = .ok (.aload_n 0, 1) := dk_42 (dk_at dksX0_near_0 8 rfl rfl)
theorem dX0_near_9 : decode cX0_near 9 = .ok (.iload_n 2, 1) := dk_28 (dk_at dksX0_near_0 9 rfl rfl)
theorem dX0_near_10 : decode cX0_near 10 = .ok (.invokevirtual 95, 3) := dk_182 0 95 (dk_at dksX0_near_0 10 rfl rfl)
theorem dX0_near_13 : decode cX0_near 13 = .ok (.ifCond .eq 8, 3) := dk_153 0 8 (dk_at dksX0_near_0 13 rfl rfl)
theorem dX0_near_16 : decode cX0_near 16 = .ok (.iload_n 1, 1) := dk_27 (dk_at dksX0_near_0 16 rfl rfl)
theorem dX0_near_17 : decode cX0_near 17 = .ok (.iload_n 2, 1) := dk_28 (dk_at dksX0_near_0 17 rfl rfl)
theorem dX0_near_18 : decode cX0_near 18 = .ok (.if_icmp .ne 5, 3) := dk_160 0 5 (dk_at dksX0_near_0 18 rfl rfl)
theorem dX0_near_21 : decode cX0_near 21 = .ok (.iconst 0, 1) := dk_3 (dk_at dksX0_near_0 21 rfl rfl)
theorem dX0_near_22 : decode cX0_near 22 = .ok (.ireturn, 1) := dk_172 (dk_at dksX0_near_0 22 rfl rfl)
theorem dX0_near_23 : decode cX0_near 23 = .ok (.aload_n 0, 1) := dk_42 (dk_at dksX0_near_0 23 rfl rfl)
theorem dX0_near_24 : decode cX0_near 24 = .ok (.getfield 10, 3) := dk_180 0 10 (dk_at dksX0_near_1 0 rfl rfl)
theorem dX0_near_27 : decode cX0_near 27 = .ok (.getfield 92, 3) := dk_180 0 92 (dk_at dksX0_near_1 3 rfl rfl)
theorem dX0_near_30 : decode cX0_near 30 = .ok (.iload_n 1, 1) := dk_27 (dk_at dksX0_near_1 6 rfl rfl)
theorem dX0_near_31 : decode cX0_near 31 = .ok (.iload_n 3, 1) := dk_29 (dk_at dksX0_near_1 7 rfl rfl)
theorem dX0_near_32 : decode cX0_near 32 = .ok (.ifCond .eq 19, 3) := dk_153 0 19 (dk_at dksX0_near_1 8 rfl rfl)
theorem dX0_near_35 : decode cX0_near 35 = .ok (.aload_n 0, 1) := dk_42 (dk_at dksX0_near_1 11 rfl rfl)
theorem dX0_near_36 : decode cX0_near 36 = .ok (.getfield 10, 3) := dk_180 0 10 (dk_at dksX0_near_1 12 rfl rfl)
theorem dX0_near_39 : decode cX0_near 39 = .ok (.getfield 92, 3) := dk_180 0 92 (dk_at dksX0_near_1 15 rfl rfl)
theorem dX0_near_42 : decode cX0_near 42 = .ok (.iload_n 1, 1) := dk_27 (dk_at dksX0_near_1 18 rfl rfl)
theorem dX0_near_43 : decode cX0_near 43 = .ok (.iaload, 1) := dk_46 (dk_at dksX0_near_1 19 rfl rfl)
theorem dX0_near_44 : decode cX0_near 44 = .ok (.iconst 1, 1) := dk_4 (dk_at dksX0_near_1 20 rfl rfl)
theorem dX0_near_45 : decode cX0_near 45 = .ok (.iload_n 2, 1) := dk_28 (dk_at dksX0_near_1 21 rfl rfl)
theorem dX0_near_46 : decode cX0_near 46 = .ok (.ishl, 1) := dk_120 (dk_at dksX0_near_1 22 rfl rfl)
theorem dX0_near_47 : decode cX0_near 47 = .ok (.ior, 1) := dk_128 (dk_at dksX0_near_1 23 rfl rfl)
theorem dX0_near_48 : decode cX0_near 48 = .ok (.goto 18, 3) := dk_167 0 18 (dk_at dksX0_near_2 0 rfl rfl)
theorem dX0_near_51 : decode cX0_near 51 = .ok (.aload_n 0, 1) := dk_42 (dk_at dksX0_near_2 3 rfl rfl)
theorem dX0_near_52 : decode cX0_near 52 = .ok (.getfield 10, 3) := dk_180 0 10 (dk_at dksX0_near_2 4 rfl rfl)
theorem dX0_near_55 : decode cX0_near 55 = .ok (.getfield 92, 3) := dk_180 0 92 (dk_at dksX0_near_2 7 rfl rfl)
theorem dX0_near_58 : decode cX0_near 58 = .ok (.iload_n 1, 1) := dk_27 (dk_at dksX0_near_2 10 rfl rfl)
theorem dX0_near_59 : decode cX0_near 59 = .ok (.iaload, 1) := dk_46 (dk_at dksX0_near_2 11 rfl rfl)
theorem dX0_near_60 : decode cX0_near 60 = .ok (.iconst 1, 1) := dk_4 (dk_at dksX0_near_2 12 rfl rfl)
theorem dX0_near_61 : decode cX0_near 61 = .ok (.iload_n 2, 1) := dk_28 (dk_at dksX0_near_2 13 rfl rfl)
theorem dX0_near_62 : decode cX0_near 62 = .ok (.ishl, 1) := dk_120 (dk_at dksX0_near_2 14 rfl rfl)
theorem dX0_near_63 : decode cX0_near 63 = .ok (.iconst (-1), 1) := dk_2 (dk_at dksX0_near_2 15 rfl rfl)
theorem dX0_near_64 : decode cX0_near 64 = .ok (.ixor, 1) := dk_130 (dk_at dksX0_near_2 16 rfl rfl)
theorem dX0_near_65 : decode cX0_near 65 = .ok (.iand, 1) := dk_126 (dk_at dksX0_near_2 17 rfl rfl)
theorem dX0_near_66 : decode cX0_near 66 = .ok (.iastore, 1) := dk_79 (dk_at dksX0_near_2 18 rfl rfl)
theorem dX0_near_67 : decode cX0_near 67 = .ok (.aload_n 0, 1) := dk_42 (dk_at dksX0_near_2 19 rfl rfl)
theorem dX0_near_68 : decode cX0_near 68 = .ok (.getfield 10, 3) := dk_180 0 10 (dk_at dksX0_near_2 20 rfl rfl)
theorem dX0_near_71 : decode cX0_near 71 = .ok (.getfield 92, 3) := dk_180 0 92 (dk_at dksX0_near_3 0 rfl rfl)
theorem dX0_near_74 : decode cX0_near 74 = .ok (.iload_n 2, 1) := dk_28 (dk_at dksX0_near_3 3 rfl rfl)
theorem dX0_near_75 : decode cX0_near 75 = .ok (.iload_n 3, 1) := dk_29 (dk_at dksX0_near_3 4 rfl rfl)
theorem dX0_near_76 : decode cX0_near 76 = .ok (.ifCond .eq 19, 3) := dk_153 0 19 (dk_at dksX0_near_3 5 rfl rfl)
theorem dX0_near_79 : decode cX0_near 79 = .ok (.aload_n 0, 1) := dk_42 (dk_at dksX0_near_3 8 rfl rfl)
theorem dX0_near_80 : decode cX0_near 80 = .ok (.getfield 10, 3) := dk_180 0 10 (dk_at dksX0_near_3 9 rfl rfl)
theorem dX0_near_83 : decode cX0_near 83 = .ok (.getfield 92, 3) := dk_180 0 92 (dk_at dksX0_near_3 12 rfl rfl)
theorem dX0_near_86 : decode cX0_near 86 = .ok (.iload_n 2, 1) := dk_28 (dk_at dksX0_near_3 15 rfl rfl)
theorem dX0_near_87 : decode cX0_near 87 = .ok (.iaload, 1) := dk_46 (dk_at dksX0_near_3 16 rfl rfl)
theorem dX0_near_88 : decode cX0_near 88 = .ok (.iconst 1, 1) := dk_4 (dk_at dksX0_near_3 17 rfl rfl)
theorem dX0_near_89 : decode cX0_near 89 = .ok (.iload_n 1, 1) := dk_27 (dk_at dksX0_near_3 18 rfl rfl)
theorem dX0_near_90 : decode cX0_near 90 = .ok (.ishl, 1) := dk_120 (dk_at dksX0_near_3 19 rfl rfl)
theorem dX0_near_91 : decode cX0_near 91 = .ok (.ior, 1) := dk_128 (dk_at dksX0_near_3 20 rfl rfl)
theorem dX0_near_92 : decode cX0_near 92 = .ok (.goto 18, 3) := dk_167 0 18 (dk_at dksX0_near_3 21 rfl rfl)
theorem dX0_near_95 : decode cX0_near 95 = .ok (.aload_n 0, 1) := dk_42 (dk_at dksX0_near_4 0 rfl rfl)
theorem dX0_near_96 : decode cX0_near 96 = .ok (.getfield 10, 3) := dk_180 0 10 (dk_at dksX0_near_4 1 rfl rfl)
theorem dX0_near_99 : decode cX0_near 99 = .ok (.getfield 92, 3) := dk_180 0 92 (dk_at dksX0_near_4 4 rfl rfl)
theorem dX0_near_102 : decode cX0_near 102 = .ok (.iload_n 2, 1) := dk_28 (dk_at dksX0_near_4 7 rfl rfl)
theorem dX0_near_103 : decode cX0_near 103 = .ok (.iaload, 1) := dk_46 (dk_at dksX0_near_4 8 rfl rfl)
theorem dX0_near_104 : decode cX0_near 104 = .ok (.iconst 1, 1) := dk_4 (dk_at dksX0_near_4 9 rfl rfl)
theorem dX0_near_105 : decode cX0_near 105 = .ok (.iload_n 1, 1) := dk_27 (dk_at dksX0_near_4 10 rfl rfl)
theorem dX0_near_106 : decode cX0_near 106 = .ok (.ishl, 1) := dk_120 (dk_at dksX0_near_4 11 rfl rfl)
theorem dX0_near_107 : decode cX0_near 107 = .ok (.iconst (-1), 1) := dk_2 (dk_at dksX0_near_4 12 rfl rfl)
theorem dX0_near_108 : decode cX0_near 108 = .ok (.ixor, 1) := dk_130 (dk_at dksX0_near_4 13 rfl rfl)
theorem dX0_near_109 : decode cX0_near 109 = .ok (.iand, 1) := dk_126 (dk_at dksX0_near_4 14 rfl rfl)
theorem dX0_near_110 : decode cX0_near 110 = .ok (.iastore, 1) := dk_79 (dk_at dksX0_near_4 15 rfl rfl)
theorem dX0_near_111 : decode cX0_near 111 = .ok (.iconst 1, 1) := dk_4 (dk_at dksX0_near_4 16 rfl rfl)
theorem dX0_near_112 : decode cX0_near 112 = .ok (.ireturn, 1) := dk_172 (dk_at dksX0_near_4 17 rfl rfl)
abbrev cX0_feed : ByteArray := prog_1_method_18_code
def yX0_feed : MethodName := ⟨RX0, "feed", "(IIIII)I"⟩
def dkwX0_feed_2 : List UInt8 := [172]
abbrev dktX0_feed_2 : List UInt8 := dkwX0_feed_2 ++ []
def dkwX0_feed_1 : List UInt8 := [182, 0, 110, 42, 29, 182, 0, 110, 42, 21, 4, 182, 0, 110, 42, 21, 5, 182, 0, 110, 42, 180, 0, 107]
abbrev dktX0_feed_1 : List UInt8 := dkwX0_feed_1 ++ dktX0_feed_2
def dkwX0_feed_0 : List UInt8 := [42, 180, 0, 107, 16, 20, 96, 17, 1, 44, 164, 0, 5, 2, 172, 42, 27, 182, 0, 110, 42, 28]
abbrev dktX0_feed_0 : List UInt8 := dkwX0_feed_0 ++ dktX0_feed_1
theorem dksX0_feed_0 : cX0_feed.data.toList.drop 0 = dktX0_feed_0 := by decide +kernel
theorem dksX0_feed_1 : cX0_feed.data.toList.drop 22 = dktX0_feed_1 := dk_seg dksX0_feed_0 22 rfl rfl
theorem dksX0_feed_2 : cX0_feed.data.toList.drop 46 = dktX0_feed_2 := dk_seg dksX0_feed_1 24 rfl rfl
theorem dX0_feed_0 : decode cX0_feed 0 = .ok (.aload_n 0, 1) := dk_42 (dk_at dksX0_feed_0 0 rfl rfl)
theorem dX0_feed_1 : decode cX0_feed 1 = .ok (.getfield 107, 3) := dk_180 0 107 (dk_at dksX0_feed_0 1 rfl rfl)
theorem dX0_feed_4 : decode cX0_feed 4 = .ok (.bipush 20, 2) := dk_16 20 (dk_at dksX0_feed_0 4 rfl rfl)
theorem dX0_feed_6 : decode cX0_feed 6 = .ok (.iadd, 1) := dk_96 (dk_at dksX0_feed_0 6 rfl rfl)
theorem dX0_feed_7 : decode cX0_feed 7 = .ok (.sipush 300, 3) := dk_17 1 44 (dk_at dksX0_feed_0 7 rfl rfl)
theorem dX0_feed_10 : decode cX0_feed 10 = .ok (.if_icmp .le 5, 3) := dk_164 0 5 (dk_at dksX0_feed_0 10 rfl rfl)
theorem dX0_feed_13 : decode cX0_feed 13 = .ok (.iconst (-1), 1) := dk_2 (dk_at dksX0_feed_0 13 rfl rfl)
theorem dX0_feed_14 : decode cX0_feed 14 = .ok (.ireturn, 1) := dk_172 (dk_at dksX0_feed_0 14 rfl rfl)
theorem dX0_feed_15 : decode cX0_feed 15 = .ok (.aload_n 0, 1) := dk_42 (dk_at dksX0_feed_0 15 rfl rfl)
theorem dX0_feed_16 : decode cX0_feed 16 = .ok (.iload_n 1, 1) := dk_27 (dk_at dksX0_feed_0 16 rfl rfl)
theorem dX0_feed_17 : decode cX0_feed 17 = .ok (.invokevirtual 110, 3) := dk_182 0 110 (dk_at dksX0_feed_0 17 rfl rfl)
theorem dX0_feed_20 : decode cX0_feed 20 = .ok (.aload_n 0, 1) := dk_42 (dk_at dksX0_feed_0 20 rfl rfl)
theorem dX0_feed_21 : decode cX0_feed 21 = .ok (.iload_n 2, 1) := dk_28 (dk_at dksX0_feed_0 21 rfl rfl)
theorem dX0_feed_22 : decode cX0_feed 22 = .ok (.invokevirtual 110, 3) := dk_182 0 110 (dk_at dksX0_feed_1 0 rfl rfl)
theorem dX0_feed_25 : decode cX0_feed 25 = .ok (.aload_n 0, 1) := dk_42 (dk_at dksX0_feed_1 3 rfl rfl)
theorem dX0_feed_26 : decode cX0_feed 26 = .ok (.iload_n 3, 1) := dk_29 (dk_at dksX0_feed_1 4 rfl rfl)
theorem dX0_feed_27 : decode cX0_feed 27 = .ok (.invokevirtual 110, 3) := dk_182 0 110 (dk_at dksX0_feed_1 5 rfl rfl)
theorem dX0_feed_30 : decode cX0_feed 30 = .ok (.aload_n 0, 1) := dk_42 (dk_at dksX0_feed_1 8 rfl rfl)
theorem dX0_feed_31 : decode cX0_feed 31 = .ok (.iload 4, 2) := dk_21 4 (dk_at dksX0_feed_1 9 rfl rfl)
theorem dX0_feed_33 : decode cX0_feed 33 = .ok (.invokevirtual 110, 3) := dk_182 0 110 (dk_at dksX0_feed_1 11 rfl rfl)
theorem dX0_feed_36 : decode cX0_feed 36 = .ok (.aload_n 0, 1) := dk_42 (dk_at dksX0_feed_1 14 rfl rfl)
theorem dX0_feed_37 : decode cX0_feed 37 = .ok (.iload 5, 2) := dk_21 5 (dk_at dksX0_feed_1 15 rfl rfl)
theorem dX0_feed_39 : decode cX0_feed 39 = .ok (.invokevirtual 110, 3) := dk_182 0 110 (dk_at dksX0_feed_1 17 rfl rfl)
theorem dX0_feed_42 : decode cX0_feed 42 = .ok (.aload_n 0, 1) := dk_42 (dk_at dksX0_feed_1 20 rfl rfl)
theorem dX0_feed_43 : decode cX0_feed 43 = .ok (.getfield 107, 3) := dk_180 0 107 (dk_at dksX0_feed_1 21 rfl rfl)
theorem dX0_feed_46 : decode cX0_feed 46 = .ok (.ireturn, 1) := dk_172 (dk_at dksX0_feed_2 0 rfl rfl)
abbrev cX0_put : ByteArray := prog_1_method_17_code
def yX0_put : MethodName := ⟨RX0, "put", "(I)V"⟩
def dkwX0_put_1 : List UInt8 := [180, 0, 107, 4, 96, 181, 0, 107, 132, 2, 248, 167, 255, 226, 177]
abbrev dktX0_put_1 : List UInt8 := dkwX0_put_1 ++ []
def dkwX0_put_0 : List UInt8 := [16, 24, 61, 28, 155, 0, 32, 42, 180, 0, 19, 42, 180, 0, 107, 27, 28, 122, 145, 84, 42, 89]
abbrev dktX0_put_0 : List UInt8 := dkwX0_put_0 ++ dktX0_put_1
theorem dksX0_put_0 : cX0_put.data.toList.drop 0 = dktX0_put_0 := by decide +kernel
theorem dksX0_put_1 : cX0_put.data.toList.drop 22 = dktX0_put_1 := dk_seg dksX0_put_0 22 rfl rfl
theorem dX0_put_0 : decode cX0_put 0 = .ok (.bipush 24, 2) := dk_16 24 (dk_at dksX0_put_0 0 rfl rfl)
theorem dX0_put_2 : decode cX0_put 2 = .ok (.istore_n 2, 1) := dk_61 (dk_at dksX0_put_0 2 rfl rfl)
theorem dX0_put_3 : decode cX0_put 3 = .ok (.iload_n 2, 1) := dk_28 (dk_at dksX0_put_0 3 rfl rfl)
theorem dX0_put_4 : decode cX0_put 4 = .ok (.ifCond .lt 32, 3) := dk_155 0 32 (dk_at dksX0_put_0 4 rfl rfl)
theorem dX0_put_7 : decode cX0_put 7 = .ok (.aload_n 0, 1) := dk_42 (dk_at dksX0_put_0 7 rfl rfl)
theorem dX0_put_8 : decode cX0_put 8 = .ok (.getfield 19, 3) := dk_180 0 19 (dk_at dksX0_put_0 8 rfl rfl)
theorem dX0_put_11 : decode cX0_put 11 = .ok (.aload_n 0, 1) := dk_42 (dk_at dksX0_put_0 11 rfl rfl)
theorem dX0_put_12 : decode cX0_put 12 = .ok (.getfield 107, 3) := dk_180 0 107 (dk_at dksX0_put_0 12 rfl rfl)
theorem dX0_put_15 : decode cX0_put 15 = .ok (.iload_n 1, 1) := dk_27 (dk_at dksX0_put_0 15 rfl rfl)
theorem dX0_put_16 : decode cX0_put 16 = .ok (.iload_n 2, 1) := dk_28 (dk_at dksX0_put_0 16 rfl rfl)
theorem dX0_put_17 : decode cX0_put 17 = .ok (.ishr, 1) := dk_122 (dk_at dksX0_put_0 17 rfl rfl)
theorem dX0_put_18 : decode cX0_put 18 = .ok (.i2b, 1) := dk_145 (dk_at dksX0_put_0 18 rfl rfl)
theorem dX0_put_19 : decode cX0_put 19 = .ok (.bastore, 1) := dk_84 (dk_at dksX0_put_0 19 rfl rfl)
theorem dX0_put_20 : decode cX0_put 20 = .ok (.aload_n 0, 1) := dk_42 (dk_at dksX0_put_0 20 rfl rfl)
theorem dX0_put_21 : decode cX0_put 21 = .ok (.dup, 1) := dk_89 (dk_at dksX0_put_0 21 rfl rfl)
theorem dX0_put_22 : decode cX0_put 22 = .ok (.getfield 107, 3) := dk_180 0 107 (dk_at dksX0_put_1 0 rfl rfl)
theorem dX0_put_25 : decode cX0_put 25 = .ok (.iconst 1, 1) := dk_4 (dk_at dksX0_put_1 3 rfl rfl)
theorem dX0_put_26 : decode cX0_put 26 = .ok (.iadd, 1) := dk_96 (dk_at dksX0_put_1 4 rfl rfl)
theorem dX0_put_27 : decode cX0_put 27 = .ok (.putfield 107, 3) := dk_181 0 107 (dk_at dksX0_put_1 5 rfl rfl)
theorem dX0_put_30 : decode cX0_put 30 = .ok (.iinc 2 (-8), 3) := dk_132 2 248 (dk_at dksX0_put_1 8 rfl rfl)
theorem dX0_put_33 : decode cX0_put 33 = .ok (.goto (-30), 3) := dk_167 255 226 (dk_at dksX0_put_1 11 rfl rfl)
theorem dX0_put_36 : decode cX0_put 36 = .ok (.return_, 1) := dk_177 (dk_at dksX0_put_1 14 rfl rfl)
abbrev cX0_end : ByteArray := prog_1_method_19_code
def yX0_end : MethodName := ⟨RX0, "end", "(I)I"⟩
def dkwX0_end_0 : List UInt8 := [27, 133, 9, 42, 180, 0, 107, 133, 184, 0, 67, 154, 0, 5, 2, 172, 42, 27, 181, 0, 107, 27, 172]
abbrev dktX0_end_0 : List UInt8 := dkwX0_end_0 ++ []
theorem dksX0_end_0 : cX0_end.data.toList.drop 0 = dktX0_end_0 := by decide +kernel
theorem dX0_end_0 : decode cX0_end 0 = .ok (.iload_n 1, 1) := dk_27 (dk_at dksX0_end_0 0 rfl rfl)
theorem dX0_end_1 : decode cX0_end 1 = .ok (.i2l, 1) := dk_133 (dk_at dksX0_end_0 1 rfl rfl)
theorem dX0_end_2 : decode cX0_end 2 = .ok (.lconst 0, 1) := dk_9 (dk_at dksX0_end_0 2 rfl rfl)
theorem dX0_end_3 : decode cX0_end 3 = .ok (.aload_n 0, 1) := dk_42 (dk_at dksX0_end_0 3 rfl rfl)
theorem dX0_end_4 : decode cX0_end 4 = .ok (.getfield 107, 3) := dk_180 0 107 (dk_at dksX0_end_0 4 rfl rfl)
theorem dX0_end_7 : decode cX0_end 7 = .ok (.i2l, 1) := dk_133 (dk_at dksX0_end_0 7 rfl rfl)
theorem dX0_end_8 : decode cX0_end 8 = .ok (.invokestatic 67, 3) := dk_184 0 67 (dk_at dksX0_end_0 8 rfl rfl)
theorem dX0_end_11 : decode cX0_end 11 = .ok (.ifCond .ne 5, 3) := dk_154 0 5 (dk_at dksX0_end_0 11 rfl rfl)
theorem dX0_end_14 : decode cX0_end 14 = .ok (.iconst (-1), 1) := dk_2 (dk_at dksX0_end_0 14 rfl rfl)
theorem dX0_end_15 : decode cX0_end 15 = .ok (.ireturn, 1) := dk_172 (dk_at dksX0_end_0 15 rfl rfl)
theorem dX0_end_16 : decode cX0_end 16 = .ok (.aload_n 0, 1) := dk_42 (dk_at dksX0_end_0 16 rfl rfl)
theorem dX0_end_17 : decode cX0_end 17 = .ok (.iload_n 1, 1) := dk_27 (dk_at dksX0_end_0 17 rfl rfl)
theorem dX0_end_18 : decode cX0_end 18 = .ok (.putfield 107, 3) := dk_181 0 107 (dk_at dksX0_end_0 18 rfl rfl)
theorem dX0_end_21 : decode cX0_end 21 = .ok (.iload_n 1, 1) := dk_27 (dk_at dksX0_end_0 21 rfl rfl)
theorem dX0_end_22 : decode cX0_end 22 = .ok (.ireturn, 1) := dk_172 (dk_at dksX0_end_0 22 rfl rfl)
abbrev cX0_text : ByteArray := prog_1_method_20_code
def yX0_text : MethodName := ⟨RX0, "text", "()I"⟩
def dkwX0_text_5 : List UInt8 := [79, 42, 180, 0, 10, 180, 0, 64, 6, 46, 4, 100, 172]
abbrev dktX0_text_5 : List UInt8 := dkwX0_text_5 ++ []
def dkwX0_text_4 : List UInt8 := [29, 172, 58, 4, 42, 3, 181, 0, 107, 25, 4, 191, 42, 180, 0, 10, 180, 0, 64, 6, 92, 46, 4, 96]
abbrev dktX0_text_4 : List UInt8 := dkwX0_text_4 ++ dktX0_text_5
def dkwX0_text_3 : List UInt8 := [77, 42, 44, 180, 0, 129, 181, 0, 23, 42, 44, 180, 0, 130, 181, 0, 27, 2, 62, 42, 3, 181, 0, 107]
abbrev dktX0_text_3 : List UInt8 := dkwX0_text_3 ++ dktX0_text_4
def dkwX0_text_2 : List UInt8 := [187, 0, 118, 89, 42, 180, 0, 19, 27, 183, 0, 120, 182, 0, 123, 83, 42, 3, 181, 0, 107, 167, 0, 39]
abbrev dktX0_text_2 : List UInt8 := dkwX0_text_2 ++ dktX0_text_3
def dkwX0_text_1 : List UInt8 := [181, 0, 23, 42, 2, 181, 0, 27, 42, 180, 0, 10, 180, 0, 114, 42, 180, 0, 10, 180, 0, 64, 6, 46]
abbrev dktX0_text_1 : List UInt8 := dkwX0_text_1 ++ dktX0_text_2
def dkwX0_text_0 : List UInt8 := [42, 180, 0, 10, 180, 0, 64, 6, 46, 7, 160, 0, 5, 2, 172, 42, 180, 0, 107, 60, 42, 3]
abbrev dktX0_text_0 : List UInt8 := dkwX0_text_0 ++ dktX0_text_1
theorem dksX0_text_0 : cX0_text.data.toList.drop 0 = dktX0_text_0 := by decide +kernel
theorem dksX0_text_1 : cX0_text.data.toList.drop 22 = dktX0_text_1 := dk_seg dksX0_text_0 22 rfl rfl
theorem dksX0_text_2 : cX0_text.data.toList.drop 46 = dktX0_text_2 := dk_seg dksX0_text_1 24 rfl rfl
theorem dksX0_text_3 : cX0_text.data.toList.drop 70 = dktX0_text_3 := dk_seg dksX0_text_2 24 rfl rfl
theorem dksX0_text_4 : cX0_text.data.toList.drop 94 = dktX0_text_4 := dk_seg dksX0_text_3 24 rfl rfl
theorem dksX0_text_5 : cX0_text.data.toList.drop 118 = dktX0_text_5 := dk_seg dksX0_text_4 24 rfl rfl
theorem dX0_text_0 : decode cX0_text 0 = .ok (.aload_n 0, 1) := dk_42 (dk_at dksX0_text_0 0 rfl rfl)
theorem dX0_text_1 : decode cX0_text 1 = .ok (.getfield 10, 3) := dk_180 0 10 (dk_at dksX0_text_0 1 rfl rfl)
theorem dX0_text_4 : decode cX0_text 4 = .ok (.getfield 64, 3) := dk_180 0 64 (dk_at dksX0_text_0 4 rfl rfl)
theorem dX0_text_7 : decode cX0_text 7 = .ok (.iconst 3, 1) := dk_6 (dk_at dksX0_text_0 7 rfl rfl)
theorem dX0_text_8 : decode cX0_text 8 = .ok (.iaload, 1) := dk_46 (dk_at dksX0_text_0 8 rfl rfl)
theorem dX0_text_9 : decode cX0_text 9 = .ok (.iconst 4, 1) := dk_7 (dk_at dksX0_text_0 9 rfl rfl)
theorem dX0_text_10 : decode cX0_text 10 = .ok (.if_icmp .ne 5, 3) := dk_160 0 5 (dk_at dksX0_text_0 10 rfl rfl)
theorem dX0_text_13 : decode cX0_text 13 = .ok (.iconst (-1), 1) := dk_2 (dk_at dksX0_text_0 13 rfl rfl)
theorem dX0_text_14 : decode cX0_text 14 = .ok (.ireturn, 1) := dk_172 (dk_at dksX0_text_0 14 rfl rfl)
theorem dX0_text_15 : decode cX0_text 15 = .ok (.aload_n 0, 1) := dk_42 (dk_at dksX0_text_0 15 rfl rfl)
theorem dX0_text_16 : decode cX0_text 16 = .ok (.getfield 107, 3) := dk_180 0 107 (dk_at dksX0_text_0 16 rfl rfl)
theorem dX0_text_19 : decode cX0_text 19 = .ok (.istore_n 1, 1) := dk_60 (dk_at dksX0_text_0 19 rfl rfl)
theorem dX0_text_20 : decode cX0_text 20 = .ok (.aload_n 0, 1) := dk_42 (dk_at dksX0_text_0 20 rfl rfl)
theorem dX0_text_21 : decode cX0_text 21 = .ok (.iconst 0, 1) := dk_3 (dk_at dksX0_text_0 21 rfl rfl)
theorem dX0_text_22 : decode cX0_text 22 = .ok (.putfield 23, 3) := dk_181 0 23 (dk_at dksX0_text_1 0 rfl rfl)
theorem dX0_text_25 : decode cX0_text 25 = .ok (.aload_n 0, 1) := dk_42 (dk_at dksX0_text_1 3 rfl rfl)
theorem dX0_text_26 : decode cX0_text 26 = .ok (.iconst (-1), 1) := dk_2 (dk_at dksX0_text_1 4 rfl rfl)
theorem dX0_text_27 : decode cX0_text 27 = .ok (.putfield 27, 3) := dk_181 0 27 (dk_at dksX0_text_1 5 rfl rfl)
theorem dX0_text_30 : decode cX0_text 30 = .ok (.aload_n 0, 1) := dk_42 (dk_at dksX0_text_1 8 rfl rfl)
theorem dX0_text_31 : decode cX0_text 31 = .ok (.getfield 10, 3) := dk_180 0 10 (dk_at dksX0_text_1 9 rfl rfl)
theorem dX0_text_34 : decode cX0_text 34 = .ok (.getfield 114, 3) := dk_180 0 114 (dk_at dksX0_text_1 12 rfl rfl)
theorem dX0_text_37 : decode cX0_text 37 = .ok (.aload_n 0, 1) := dk_42 (dk_at dksX0_text_1 15 rfl rfl)
theorem dX0_text_38 : decode cX0_text 38 = .ok (.getfield 10, 3) := dk_180 0 10 (dk_at dksX0_text_1 16 rfl rfl)
theorem dX0_text_41 : decode cX0_text 41 = .ok (.getfield 64, 3) := dk_180 0 64 (dk_at dksX0_text_1 19 rfl rfl)
theorem dX0_text_44 : decode cX0_text 44 = .ok (.iconst 3, 1) := dk_6 (dk_at dksX0_text_1 22 rfl rfl)
theorem dX0_text_45 : decode cX0_text 45 = .ok (.iaload, 1) := dk_46 (dk_at dksX0_text_1 23 rfl rfl)
theorem dX0_text_46 : decode cX0_text 46 = .ok (.new 118, 3) := dk_187 0 118 (dk_at dksX0_text_2 0 rfl rfl)
theorem dX0_text_49 : decode cX0_text 49 = .ok (.dup, 1) := dk_89 (dk_at dksX0_text_2 3 rfl rfl)
theorem dX0_text_50 : decode cX0_text 50 = .ok (.aload_n 0, 1) := dk_42 (dk_at dksX0_text_2 4 rfl rfl)
theorem dX0_text_51 : decode cX0_text 51 = .ok (.getfield 19, 3) := dk_180 0 19 (dk_at dksX0_text_2 5 rfl rfl)
theorem dX0_text_54 : decode cX0_text 54 = .ok (.iload_n 1, 1) := dk_27 (dk_at dksX0_text_2 8 rfl rfl)
theorem dX0_text_55 : decode cX0_text 55 = .ok (.invokespecial 120, 3) := dk_183 0 120 (dk_at dksX0_text_2 9 rfl rfl)
theorem dX0_text_58 : decode cX0_text 58 = .ok (.invokevirtual 123, 3) := dk_182 0 123 (dk_at dksX0_text_2 12 rfl rfl)
theorem dX0_text_61 : decode cX0_text 61 = .ok (.aastore, 1) := dk_83 (dk_at dksX0_text_2 15 rfl rfl)
theorem dX0_text_62 : decode cX0_text 62 = .ok (.aload_n 0, 1) := dk_42 (dk_at dksX0_text_2 16 rfl rfl)
theorem dX0_text_63 : decode cX0_text 63 = .ok (.iconst 0, 1) := dk_3 (dk_at dksX0_text_2 17 rfl rfl)
theorem dX0_text_64 : decode cX0_text 64 = .ok (.putfield 107, 3) := dk_181 0 107 (dk_at dksX0_text_2 18 rfl rfl)
theorem dX0_text_67 : decode cX0_text 67 = .ok (.goto 39, 3) := dk_167 0 39 (dk_at dksX0_text_2 21 rfl rfl)
theorem dX0_text_70 : decode cX0_text 70 = .ok (.astore_n 2, 1) := dk_77 (dk_at dksX0_text_3 0 rfl rfl)
theorem dX0_text_71 : decode cX0_text 71 = .ok (.aload_n 0, 1) := dk_42 (dk_at dksX0_text_3 1 rfl rfl)
theorem dX0_text_72 : decode cX0_text 72 = .ok (.aload_n 2, 1) := dk_44 (dk_at dksX0_text_3 2 rfl rfl)
theorem dX0_text_73 : decode cX0_text 73 = .ok (.getfield 129, 3) := dk_180 0 129 (dk_at dksX0_text_3 3 rfl rfl)
theorem dX0_text_76 : decode cX0_text 76 = .ok (.putfield 23, 3) := dk_181 0 23 (dk_at dksX0_text_3 6 rfl rfl)
theorem dX0_text_79 : decode cX0_text 79 = .ok (.aload_n 0, 1) := dk_42 (dk_at dksX0_text_3 9 rfl rfl)
theorem dX0_text_80 : decode cX0_text 80 = .ok (.aload_n 2, 1) := dk_44 (dk_at dksX0_text_3 10 rfl rfl)
theorem dX0_text_81 : decode cX0_text 81 = .ok (.getfield 130, 3) := dk_180 0 130 (dk_at dksX0_text_3 11 rfl rfl)
theorem dX0_text_84 : decode cX0_text 84 = .ok (.putfield 27, 3) := dk_181 0 27 (dk_at dksX0_text_3 14 rfl rfl)
theorem dX0_text_87 : decode cX0_text 87 = .ok (.iconst (-1), 1) := dk_2 (dk_at dksX0_text_3 17 rfl rfl)
theorem dX0_text_88 : decode cX0_text 88 = .ok (.istore_n 3, 1) := dk_62 (dk_at dksX0_text_3 18 rfl rfl)
theorem dX0_text_89 : decode cX0_text 89 = .ok (.aload_n 0, 1) := dk_42 (dk_at dksX0_text_3 19 rfl rfl)
theorem dX0_text_90 : decode cX0_text 90 = .ok (.iconst 0, 1) := dk_3 (dk_at dksX0_text_3 20 rfl rfl)
theorem dX0_text_91 : decode cX0_text 91 = .ok (.putfield 107, 3) := dk_181 0 107 (dk_at dksX0_text_3 21 rfl rfl)
theorem dX0_text_94 : decode cX0_text 94 = .ok (.iload_n 3, 1) := dk_29 (dk_at dksX0_text_4 0 rfl rfl)
theorem dX0_text_95 : decode cX0_text 95 = .ok (.ireturn, 1) := dk_172 (dk_at dksX0_text_4 1 rfl rfl)
theorem dX0_text_96 : decode cX0_text 96 = .ok (.astore 4, 2) := dk_58 4 (dk_at dksX0_text_4 2 rfl rfl)
theorem dX0_text_98 : decode cX0_text 98 = .ok (.aload_n 0, 1) := dk_42 (dk_at dksX0_text_4 4 rfl rfl)
theorem dX0_text_99 : decode cX0_text 99 = .ok (.iconst 0, 1) := dk_3 (dk_at dksX0_text_4 5 rfl rfl)
theorem dX0_text_100 : decode cX0_text 100 = .ok (.putfield 107, 3) := dk_181 0 107 (dk_at dksX0_text_4 6 rfl rfl)
theorem dX0_text_103 : decode cX0_text 103 = .ok (.aload 4, 2) := dk_25 4 (dk_at dksX0_text_4 9 rfl rfl)
theorem dX0_text_105 : decode cX0_text 105 = .ok (.athrow, 1) := dk_191 (dk_at dksX0_text_4 11 rfl rfl)
theorem dX0_text_106 : decode cX0_text 106 = .ok (.aload_n 0, 1) := dk_42 (dk_at dksX0_text_4 12 rfl rfl)
theorem dX0_text_107 : decode cX0_text 107 = .ok (.getfield 10, 3) := dk_180 0 10 (dk_at dksX0_text_4 13 rfl rfl)
theorem dX0_text_110 : decode cX0_text 110 = .ok (.getfield 64, 3) := dk_180 0 64 (dk_at dksX0_text_4 16 rfl rfl)
theorem dX0_text_113 : decode cX0_text 113 = .ok (.iconst 3, 1) := dk_6 (dk_at dksX0_text_4 19 rfl rfl)
theorem dX0_text_114 : decode cX0_text 114 = .ok (.dup2, 1) := dk_92 (dk_at dksX0_text_4 20 rfl rfl)
theorem dX0_text_115 : decode cX0_text 115 = .ok (.iaload, 1) := dk_46 (dk_at dksX0_text_4 21 rfl rfl)
theorem dX0_text_116 : decode cX0_text 116 = .ok (.iconst 1, 1) := dk_4 (dk_at dksX0_text_4 22 rfl rfl)
theorem dX0_text_117 : decode cX0_text 117 = .ok (.iadd, 1) := dk_96 (dk_at dksX0_text_4 23 rfl rfl)
theorem dX0_text_118 : decode cX0_text 118 = .ok (.iastore, 1) := dk_79 (dk_at dksX0_text_5 0 rfl rfl)
theorem dX0_text_119 : decode cX0_text 119 = .ok (.aload_n 0, 1) := dk_42 (dk_at dksX0_text_5 1 rfl rfl)
theorem dX0_text_120 : decode cX0_text 120 = .ok (.getfield 10, 3) := dk_180 0 10 (dk_at dksX0_text_5 2 rfl rfl)
theorem dX0_text_123 : decode cX0_text 123 = .ok (.getfield 64, 3) := dk_180 0 64 (dk_at dksX0_text_5 5 rfl rfl)
theorem dX0_text_126 : decode cX0_text 126 = .ok (.iconst 3, 1) := dk_6 (dk_at dksX0_text_5 8 rfl rfl)
theorem dX0_text_127 : decode cX0_text 127 = .ok (.iaload, 1) := dk_46 (dk_at dksX0_text_5 9 rfl rfl)
theorem dX0_text_128 : decode cX0_text 128 = .ok (.iconst 1, 1) := dk_4 (dk_at dksX0_text_5 10 rfl rfl)
theorem dX0_text_129 : decode cX0_text 129 = .ok (.isub, 1) := dk_100 (dk_at dksX0_text_5 11 rfl rfl)
theorem dX0_text_130 : decode cX0_text 130 = .ok (.ireturn, 1) := dk_172 (dk_at dksX0_text_5 12 rfl rfl)
abbrev cX0_fault : ByteArray := prog_1_method_21_code
def yX0_fault : MethodName := ⟨RX0, "fault", "(I)I"⟩
def dkwX0_fault_1 : List UInt8 := [172]
abbrev dktX0_fault_1 : List UInt8 := dkwX0_fault_1 ++ []
def dkwX0_fault_0 : List UInt8 := [27, 154, 0, 10, 42, 180, 0, 23, 167, 0, 16, 27, 4, 160, 0, 10, 42, 180, 0, 27, 167, 0, 4, 2]
abbrev dktX0_fault_0 : List UInt8 := dkwX0_fault_0 ++ dktX0_fault_1
theorem dksX0_fault_0 : cX0_fault.data.toList.drop 0 = dktX0_fault_0 := by decide +kernel
theorem dksX0_fault_1 : cX0_fault.data.toList.drop 24 = dktX0_fault_1 := dk_seg dksX0_fault_0 24 rfl rfl
theorem dX0_fault_0 : decode cX0_fault 0 = .ok (.iload_n 1, 1) := dk_27 (dk_at dksX0_fault_0 0 rfl rfl)
theorem dX0_fault_1 : decode cX0_fault 1 = .ok (.ifCond .ne 10, 3) := dk_154 0 10 (dk_at dksX0_fault_0 1 rfl rfl)
theorem dX0_fault_4 : decode cX0_fault 4 = .ok (.aload_n 0, 1) := dk_42 (dk_at dksX0_fault_0 4 rfl rfl)
theorem dX0_fault_5 : decode cX0_fault 5 = .ok (.getfield 23, 3) := dk_180 0 23 (dk_at dksX0_fault_0 5 rfl rfl)
theorem dX0_fault_8 : decode cX0_fault 8 = .ok (.goto 16, 3) := dk_167 0 16 (dk_at dksX0_fault_0 8 rfl rfl)
theorem dX0_fault_11 : decode cX0_fault 11 = .ok (.iload_n 1, 1) := dk_27 (dk_at dksX0_fault_0 11 rfl rfl)
theorem dX0_fault_12 : decode cX0_fault 12 = .ok (.iconst 1, 1) := dk_4 (dk_at dksX0_fault_0 12 rfl rfl)
theorem dX0_fault_13 : decode cX0_fault 13 = .ok (.if_icmp .ne 10, 3) := dk_160 0 10 (dk_at dksX0_fault_0 13 rfl rfl)
theorem dX0_fault_16 : decode cX0_fault 16 = .ok (.aload_n 0, 1) := dk_42 (dk_at dksX0_fault_0 16 rfl rfl)
theorem dX0_fault_17 : decode cX0_fault 17 = .ok (.getfield 27, 3) := dk_180 0 27 (dk_at dksX0_fault_0 17 rfl rfl)
theorem dX0_fault_20 : decode cX0_fault 20 = .ok (.goto 4, 3) := dk_167 0 4 (dk_at dksX0_fault_0 20 rfl rfl)
theorem dX0_fault_23 : decode cX0_fault 23 = .ok (.iconst (-1), 1) := dk_2 (dk_at dksX0_fault_0 23 rfl rfl)
theorem dX0_fault_24 : decode cX0_fault 24 = .ok (.ireturn, 1) := dk_172 (dk_at dksX0_fault_1 0 rfl rfl)
abbrev cX0_by : ByteArray := prog_1_method_22_code
def yX0_by : MethodName := ⟨RX0, "by", "(I)Z"⟩
def dkwX0_by_1 : List UInt8 := [154, 0, 5, 3, 172, 42, 180, 0, 10, 180, 0, 64, 7, 27, 79, 4, 172]
abbrev dktX0_by_1 : List UInt8 := dkwX0_by_1 ++ []
def dkwX0_by_0 : List UInt8 := [27, 2, 159, 0, 26, 27, 133, 9, 42, 180, 0, 10, 180, 0, 64, 6, 46, 4, 100, 133, 184, 0, 67]
abbrev dktX0_by_0 : List UInt8 := dkwX0_by_0 ++ dktX0_by_1
theorem dksX0_by_0 : cX0_by.data.toList.drop 0 = dktX0_by_0 := by decide +kernel
theorem dksX0_by_1 : cX0_by.data.toList.drop 23 = dktX0_by_1 := dk_seg dksX0_by_0 23 rfl rfl
theorem dX0_by_0 : decode cX0_by 0 = .ok (.iload_n 1, 1) := dk_27 (dk_at dksX0_by_0 0 rfl rfl)
theorem dX0_by_1 : decode cX0_by 1 = .ok (.iconst (-1), 1) := dk_2 (dk_at dksX0_by_0 1 rfl rfl)
theorem dX0_by_2 : decode cX0_by 2 = .ok (.if_icmp .eq 26, 3) := dk_159 0 26 (dk_at dksX0_by_0 2 rfl rfl)
theorem dX0_by_5 : decode cX0_by 5 = .ok (.iload_n 1, 1) := dk_27 (dk_at dksX0_by_0 5 rfl rfl)
theorem dX0_by_6 : decode cX0_by 6 = .ok (.i2l, 1) := dk_133 (dk_at dksX0_by_0 6 rfl rfl)
theorem dX0_by_7 : decode cX0_by 7 = .ok (.lconst 0, 1) := dk_9 (dk_at dksX0_by_0 7 rfl rfl)
theorem dX0_by_8 : decode cX0_by 8 = .ok (.aload_n 0, 1) := dk_42 (dk_at dksX0_by_0 8 rfl rfl)
theorem dX0_by_9 : decode cX0_by 9 = .ok (.getfield 10, 3) := dk_180 0 10 (dk_at dksX0_by_0 9 rfl rfl)
theorem dX0_by_12 : decode cX0_by 12 = .ok (.getfield 64, 3) := dk_180 0 64 (dk_at dksX0_by_0 12 rfl rfl)
theorem dX0_by_15 : decode cX0_by 15 = .ok (.iconst 3, 1) := dk_6 (dk_at dksX0_by_0 15 rfl rfl)
theorem dX0_by_16 : decode cX0_by 16 = .ok (.iaload, 1) := dk_46 (dk_at dksX0_by_0 16 rfl rfl)
theorem dX0_by_17 : decode cX0_by 17 = .ok (.iconst 1, 1) := dk_4 (dk_at dksX0_by_0 17 rfl rfl)
theorem dX0_by_18 : decode cX0_by 18 = .ok (.isub, 1) := dk_100 (dk_at dksX0_by_0 18 rfl rfl)
theorem dX0_by_19 : decode cX0_by 19 = .ok (.i2l, 1) := dk_133 (dk_at dksX0_by_0 19 rfl rfl)
theorem dX0_by_20 : decode cX0_by 20 = .ok (.invokestatic 67, 3) := dk_184 0 67 (dk_at dksX0_by_0 20 rfl rfl)
theorem dX0_by_23 : decode cX0_by 23 = .ok (.ifCond .ne 5, 3) := dk_154 0 5 (dk_at dksX0_by_1 0 rfl rfl)
theorem dX0_by_26 : decode cX0_by 26 = .ok (.iconst 0, 1) := dk_3 (dk_at dksX0_by_1 3 rfl rfl)
theorem dX0_by_27 : decode cX0_by 27 = .ok (.ireturn, 1) := dk_172 (dk_at dksX0_by_1 4 rfl rfl)
theorem dX0_by_28 : decode cX0_by 28 = .ok (.aload_n 0, 1) := dk_42 (dk_at dksX0_by_1 5 rfl rfl)
theorem dX0_by_29 : decode cX0_by 29 = .ok (.getfield 10, 3) := dk_180 0 10 (dk_at dksX0_by_1 6 rfl rfl)
theorem dX0_by_32 : decode cX0_by 32 = .ok (.getfield 64, 3) := dk_180 0 64 (dk_at dksX0_by_1 9 rfl rfl)
theorem dX0_by_35 : decode cX0_by 35 = .ok (.iconst 4, 1) := dk_7 (dk_at dksX0_by_1 12 rfl rfl)
theorem dX0_by_36 : decode cX0_by 36 = .ok (.iload_n 1, 1) := dk_27 (dk_at dksX0_by_1 13 rfl rfl)
theorem dX0_by_37 : decode cX0_by 37 = .ok (.iastore, 1) := dk_79 (dk_at dksX0_by_1 14 rfl rfl)
theorem dX0_by_38 : decode cX0_by 38 = .ok (.iconst 1, 1) := dk_4 (dk_at dksX0_by_1 15 rfl rfl)
theorem dX0_by_39 : decode cX0_by 39 = .ok (.ireturn, 1) := dk_172 (dk_at dksX0_by_1 16 rfl rfl)
abbrev cX0_speaks : ByteArray := prog_1_method_28_code
def yX0_speaks : MethodName := ⟨RX0, "speaks", "(IJ)Z"⟩
def dkwX0_speaks_1 : List UInt8 := [4, 167, 0, 4, 3, 172]
abbrev dktX0_speaks_1 : List UInt8 := dkwX0_speaks_1 ++ []
def dkwX0_speaks_0 : List UInt8 := [42, 27, 182, 0, 95, 153, 0, 23, 32, 184, 0, 73, 153, 0, 16, 42, 27, 32, 182, 0, 169, 153, 0, 7]
abbrev dktX0_speaks_0 : List UInt8 := dkwX0_speaks_0 ++ dktX0_speaks_1
theorem dksX0_speaks_0 : cX0_speaks.data.toList.drop 0 = dktX0_speaks_0 := by decide +kernel
theorem dksX0_speaks_1 : cX0_speaks.data.toList.drop 24 = dktX0_speaks_1 := dk_seg dksX0_speaks_0 24 rfl rfl
theorem dX0_speaks_0 : decode cX0_speaks 0 = .ok (.aload_n 0, 1) := dk_42 (dk_at dksX0_speaks_0 0 rfl rfl)
theorem dX0_speaks_1 : decode cX0_speaks 1 = .ok (.iload_n 1, 1) := dk_27 (dk_at dksX0_speaks_0 1 rfl rfl)
theorem dX0_speaks_2 : decode cX0_speaks 2 = .ok (.invokevirtual 95, 3) := dk_182 0 95 (dk_at dksX0_speaks_0 2 rfl rfl)
theorem dX0_speaks_5 : decode cX0_speaks 5 = .ok (.ifCond .eq 23, 3) := dk_153 0 23 (dk_at dksX0_speaks_0 5 rfl rfl)
theorem dX0_speaks_8 : decode cX0_speaks 8 = .ok (.lload_n 2, 1) := dk_32 (dk_at dksX0_speaks_0 8 rfl rfl)
theorem dX0_speaks_9 : decode cX0_speaks 9 = .ok (.invokestatic 73, 3) := dk_184 0 73 (dk_at dksX0_speaks_0 9 rfl rfl)
theorem dX0_speaks_12 : decode cX0_speaks 12 = .ok (.ifCond .eq 16, 3) := dk_153 0 16 (dk_at dksX0_speaks_0 12 rfl rfl)
theorem dX0_speaks_15 : decode cX0_speaks 15 = .ok (.aload_n 0, 1) := dk_42 (dk_at dksX0_speaks_0 15 rfl rfl)
theorem dX0_speaks_16 : decode cX0_speaks 16 = .ok (.iload_n 1, 1) := dk_27 (dk_at dksX0_speaks_0 16 rfl rfl)
theorem dX0_speaks_17 : decode cX0_speaks 17 = .ok (.lload_n 2, 1) := dk_32 (dk_at dksX0_speaks_0 17 rfl rfl)
theorem dX0_speaks_18 : decode cX0_speaks 18 = .ok (.invokevirtual 169, 3) := dk_182 0 169 (dk_at dksX0_speaks_0 18 rfl rfl)
theorem dX0_speaks_21 : decode cX0_speaks 21 = .ok (.ifCond .eq 7, 3) := dk_153 0 7 (dk_at dksX0_speaks_0 21 rfl rfl)
theorem dX0_speaks_24 : decode cX0_speaks 24 = .ok (.iconst 1, 1) := dk_4 (dk_at dksX0_speaks_1 0 rfl rfl)
theorem dX0_speaks_25 : decode cX0_speaks 25 = .ok (.goto 4, 3) := dk_167 0 4 (dk_at dksX0_speaks_1 1 rfl rfl)
theorem dX0_speaks_28 : decode cX0_speaks 28 = .ok (.iconst 0, 1) := dk_3 (dk_at dksX0_speaks_1 4 rfl rfl)
theorem dX0_speaks_29 : decode cX0_speaks 29 = .ok (.ireturn, 1) := dk_172 (dk_at dksX0_speaks_1 5 rfl rfl)
abbrev cX0_isHour : ByteArray := prog_1_method_6_code
def yX0_isHour : MethodName := ⟨RX0, "isHour", "(J)Z"⟩
def dkwX0_isHour_0 : List UInt8 := [30, 9, 20, 0, 71, 184, 0, 67, 172]
abbrev dktX0_isHour_0 : List UInt8 := dkwX0_isHour_0 ++ []
theorem dksX0_isHour_0 : cX0_isHour.data.toList.drop 0 = dktX0_isHour_0 := by decide +kernel
theorem dX0_isHour_0 : decode cX0_isHour 0 = .ok (.lload_n 0, 1) := dk_30 (dk_at dksX0_isHour_0 0 rfl rfl)
theorem dX0_isHour_1 : decode cX0_isHour 1 = .ok (.lconst 0, 1) := dk_9 (dk_at dksX0_isHour_0 1 rfl rfl)
theorem dX0_isHour_2 : decode cX0_isHour 2 = .ok (.ldc2_w 71, 3) := dk_20 0 71 (dk_at dksX0_isHour_0 2 rfl rfl)
theorem dX0_isHour_5 : decode cX0_isHour 5 = .ok (.invokestatic 67, 3) := dk_184 0 67 (dk_at dksX0_isHour_0 5 rfl rfl)
theorem dX0_isHour_8 : decode cX0_isHour 8 = .ok (.ireturn, 1) := dk_172 (dk_at dksX0_isHour_0 8 rfl rfl)
abbrev cX0_speaksIn : ByteArray := prog_1_method_27_code
def yX0_speaksIn : MethodName := ⟨RX0, "speaksIn", "(IJ)Z"⟩
def dkwX0_speaksIn_0 : List UInt8 := [42, 27, 32, 42, 180, 0, 10, 180, 0, 64, 4, 46, 182, 0, 166, 172]
abbrev dktX0_speaksIn_0 : List UInt8 := dkwX0_speaksIn_0 ++ []
theorem dksX0_speaksIn_0 : cX0_speaksIn.data.toList.drop 0 = dktX0_speaksIn_0 := by decide +kernel
theorem dX0_speaksIn_0 : decode cX0_speaksIn 0 = .ok (.aload_n 0, 1) := dk_42 (dk_at dksX0_speaksIn_0 0 rfl rfl)
theorem dX0_speaksIn_1 : decode cX0_speaksIn 1 = .ok (.iload_n 1, 1) := dk_27 (dk_at dksX0_speaksIn_0 1 rfl rfl)
theorem dX0_speaksIn_2 : decode cX0_speaksIn 2 = .ok (.lload_n 2, 1) := dk_32 (dk_at dksX0_speaksIn_0 2 rfl rfl)
theorem dX0_speaksIn_3 : decode cX0_speaksIn 3 = .ok (.aload_n 0, 1) := dk_42 (dk_at dksX0_speaksIn_0 3 rfl rfl)
theorem dX0_speaksIn_4 : decode cX0_speaksIn 4 = .ok (.getfield 10, 3) := dk_180 0 10 (dk_at dksX0_speaksIn_0 4 rfl rfl)
theorem dX0_speaksIn_7 : decode cX0_speaksIn 7 = .ok (.getfield 64, 3) := dk_180 0 64 (dk_at dksX0_speaksIn_0 7 rfl rfl)
theorem dX0_speaksIn_10 : decode cX0_speaksIn 10 = .ok (.iconst 1, 1) := dk_4 (dk_at dksX0_speaksIn_0 10 rfl rfl)
theorem dX0_speaksIn_11 : decode cX0_speaksIn 11 = .ok (.iaload, 1) := dk_46 (dk_at dksX0_speaksIn_0 11 rfl rfl)
theorem dX0_speaksIn_12 : decode cX0_speaksIn 12 = .ok (.invokevirtual 166, 3) := dk_182 0 166 (dk_at dksX0_speaksIn_0 12 rfl rfl)
theorem dX0_speaksIn_15 : decode cX0_speaksIn 15 = .ok (.ireturn, 1) := dk_172 (dk_at dksX0_speaksIn_0 15 rfl rfl)
abbrev cX0_speaksBy : ByteArray := prog_1_method_26_code
def yX0_speaksBy : MethodName := ⟨RX0, "speaksBy", "(IJI)Z"⟩
def dkwX0_speaksBy_1 : List UInt8 := [113, 136, 182, 0, 162, 154, 0, 7, 4, 167, 0, 4, 3, 172]
abbrev dktX0_speaksBy_1 : List UInt8 := dkwX0_speaksBy_1 ++ []
def dkwX0_speaksBy_0 : List UInt8 := [42, 27, 32, 21, 4, 182, 0, 158, 153, 0, 28, 42, 27, 32, 42, 180, 0, 10, 180, 0, 64, 5, 46, 133]
abbrev dktX0_speaksBy_0 : List UInt8 := dkwX0_speaksBy_0 ++ dktX0_speaksBy_1
theorem dksX0_speaksBy_0 : cX0_speaksBy.data.toList.drop 0 = dktX0_speaksBy_0 := by decide +kernel
theorem dksX0_speaksBy_1 : cX0_speaksBy.data.toList.drop 24 = dktX0_speaksBy_1 := dk_seg dksX0_speaksBy_0 24 rfl rfl
theorem dX0_speaksBy_0 : decode cX0_speaksBy 0 = .ok (.aload_n 0, 1) := dk_42 (dk_at dksX0_speaksBy_0 0 rfl rfl)
theorem dX0_speaksBy_1 : decode cX0_speaksBy 1 = .ok (.iload_n 1, 1) := dk_27 (dk_at dksX0_speaksBy_0 1 rfl rfl)
theorem dX0_speaksBy_2 : decode cX0_speaksBy 2 = .ok (.lload_n 2, 1) := dk_32 (dk_at dksX0_speaksBy_0 2 rfl rfl)
theorem dX0_speaksBy_3 : decode cX0_speaksBy 3 = .ok (.iload 4, 2) := dk_21 4 (dk_at dksX0_speaksBy_0 3 rfl rfl)
theorem dX0_speaksBy_5 : decode cX0_speaksBy 5 = .ok (.invokevirtual 158, 3) := dk_182 0 158 (dk_at dksX0_speaksBy_0 5 rfl rfl)
theorem dX0_speaksBy_8 : decode cX0_speaksBy 8 = .ok (.ifCond .eq 28, 3) := dk_153 0 28 (dk_at dksX0_speaksBy_0 8 rfl rfl)
theorem dX0_speaksBy_11 : decode cX0_speaksBy 11 = .ok (.aload_n 0, 1) := dk_42 (dk_at dksX0_speaksBy_0 11 rfl rfl)
theorem dX0_speaksBy_12 : decode cX0_speaksBy 12 = .ok (.iload_n 1, 1) := dk_27 (dk_at dksX0_speaksBy_0 12 rfl rfl)
theorem dX0_speaksBy_13 : decode cX0_speaksBy 13 = .ok (.lload_n 2, 1) := dk_32 (dk_at dksX0_speaksBy_0 13 rfl rfl)
theorem dX0_speaksBy_14 : decode cX0_speaksBy 14 = .ok (.aload_n 0, 1) := dk_42 (dk_at dksX0_speaksBy_0 14 rfl rfl)
theorem dX0_speaksBy_15 : decode cX0_speaksBy 15 = .ok (.getfield 10, 3) := dk_180 0 10 (dk_at dksX0_speaksBy_0 15 rfl rfl)
theorem dX0_speaksBy_18 : decode cX0_speaksBy 18 = .ok (.getfield 64, 3) := dk_180 0 64 (dk_at dksX0_speaksBy_0 18 rfl rfl)
theorem dX0_speaksBy_21 : decode cX0_speaksBy 21 = .ok (.iconst 2, 1) := dk_5 (dk_at dksX0_speaksBy_0 21 rfl rfl)
theorem dX0_speaksBy_22 : decode cX0_speaksBy 22 = .ok (.iaload, 1) := dk_46 (dk_at dksX0_speaksBy_0 22 rfl rfl)
theorem dX0_speaksBy_23 : decode cX0_speaksBy 23 = .ok (.i2l, 1) := dk_133 (dk_at dksX0_speaksBy_0 23 rfl rfl)
theorem dX0_speaksBy_24 : decode cX0_speaksBy 24 = .ok (.lrem, 1) := dk_113 (dk_at dksX0_speaksBy_1 0 rfl rfl)
theorem dX0_speaksBy_25 : decode cX0_speaksBy 25 = .ok (.l2i, 1) := dk_136 (dk_at dksX0_speaksBy_1 1 rfl rfl)
theorem dX0_speaksBy_26 : decode cX0_speaksBy 26 = .ok (.invokevirtual 162, 3) := dk_182 0 162 (dk_at dksX0_speaksBy_1 2 rfl rfl)
theorem dX0_speaksBy_29 : decode cX0_speaksBy 29 = .ok (.ifCond .ne 7, 3) := dk_154 0 7 (dk_at dksX0_speaksBy_1 5 rfl rfl)
theorem dX0_speaksBy_32 : decode cX0_speaksBy 32 = .ok (.iconst 1, 1) := dk_4 (dk_at dksX0_speaksBy_1 8 rfl rfl)
theorem dX0_speaksBy_33 : decode cX0_speaksBy 33 = .ok (.goto 4, 3) := dk_167 0 4 (dk_at dksX0_speaksBy_1 9 rfl rfl)
theorem dX0_speaksBy_36 : decode cX0_speaksBy 36 = .ok (.iconst 0, 1) := dk_3 (dk_at dksX0_speaksBy_1 12 rfl rfl)
theorem dX0_speaksBy_37 : decode cX0_speaksBy 37 = .ok (.ireturn, 1) := dk_172 (dk_at dksX0_speaksBy_1 13 rfl rfl)
abbrev cX0_isDue : ByteArray := prog_1_method_25_code
def yX0_isDue : MethodName := ⟨RX0, "isDue", "(IJI)Z"⟩
def dkwX0_isDue_2 : List UInt8 := [148, 154, 0, 7, 4, 167, 0, 4, 3, 172]
abbrev dktX0_isDue_2 : List UInt8 := dkwX0_isDue_2 ++ []
def dkwX0_isDue_1 : List UInt8 := [101, 55, 5, 22, 5, 9, 148, 155, 0, 25, 22, 5, 42, 180, 0, 10, 180, 0, 86, 27, 46, 133, 113, 9]
abbrev dktX0_isDue_1 : List UInt8 := dkwX0_isDue_1 ++ dktX0_isDue_2
def dkwX0_isDue_0 : List UInt8 := [21, 4, 154, 0, 7, 32, 167, 0, 8, 32, 21, 4, 133, 113, 42, 180, 0, 10, 180, 0, 89, 27, 46, 133]
abbrev dktX0_isDue_0 : List UInt8 := dkwX0_isDue_0 ++ dktX0_isDue_1
theorem dksX0_isDue_0 : cX0_isDue.data.toList.drop 0 = dktX0_isDue_0 := by decide +kernel
theorem dksX0_isDue_1 : cX0_isDue.data.toList.drop 24 = dktX0_isDue_1 := dk_seg dksX0_isDue_0 24 rfl rfl
theorem dksX0_isDue_2 : cX0_isDue.data.toList.drop 48 = dktX0_isDue_2 := dk_seg dksX0_isDue_1 24 rfl rfl
theorem dX0_isDue_0 : decode cX0_isDue 0 = .ok (.iload 4, 2) := dk_21 4 (dk_at dksX0_isDue_0 0 rfl rfl)
theorem dX0_isDue_2 : decode cX0_isDue 2 = .ok (.ifCond .ne 7, 3) := dk_154 0 7 (dk_at dksX0_isDue_0 2 rfl rfl)
theorem dX0_isDue_5 : decode cX0_isDue 5 = .ok (.lload_n 2, 1) := dk_32 (dk_at dksX0_isDue_0 5 rfl rfl)
theorem dX0_isDue_6 : decode cX0_isDue 6 = .ok (.goto 8, 3) := dk_167 0 8 (dk_at dksX0_isDue_0 6 rfl rfl)
theorem dX0_isDue_9 : decode cX0_isDue 9 = .ok (.lload_n 2, 1) := dk_32 (dk_at dksX0_isDue_0 9 rfl rfl)
theorem dX0_isDue_10 : decode cX0_isDue 10 = .ok (.iload 4, 2) := dk_21 4 (dk_at dksX0_isDue_0 10 rfl rfl)
theorem dX0_isDue_12 : decode cX0_isDue 12 = .ok (.i2l, 1) := dk_133 (dk_at dksX0_isDue_0 12 rfl rfl)
theorem dX0_isDue_13 : decode cX0_isDue 13 = .ok (.lrem, 1) := dk_113 (dk_at dksX0_isDue_0 13 rfl rfl)
theorem dX0_isDue_14 : decode cX0_isDue 14 = .ok (.aload_n 0, 1) := dk_42 (dk_at dksX0_isDue_0 14 rfl rfl)
theorem dX0_isDue_15 : decode cX0_isDue 15 = .ok (.getfield 10, 3) := dk_180 0 10 (dk_at dksX0_isDue_0 15 rfl rfl)
theorem dX0_isDue_18 : decode cX0_isDue 18 = .ok (.getfield 89, 3) := dk_180 0 89 (dk_at dksX0_isDue_0 18 rfl rfl)
theorem dX0_isDue_21 : decode cX0_isDue 21 = .ok (.iload_n 1, 1) := dk_27 (dk_at dksX0_isDue_0 21 rfl rfl)
theorem dX0_isDue_22 : decode cX0_isDue 22 = .ok (.iaload, 1) := dk_46 (dk_at dksX0_isDue_0 22 rfl rfl)
theorem dX0_isDue_23 : decode cX0_isDue 23 = .ok (.i2l, 1) := dk_133 (dk_at dksX0_isDue_0 23 rfl rfl)
theorem dX0_isDue_24 : decode cX0_isDue 24 = .ok (.lsub, 1) := dk_101 (dk_at dksX0_isDue_1 0 rfl rfl)
theorem dX0_isDue_25 : decode cX0_isDue 25 = .ok (.lstore 5, 2) := dk_55 5 (dk_at dksX0_isDue_1 1 rfl rfl)
theorem dX0_isDue_27 : decode cX0_isDue 27 = .ok (.lload 5, 2) := dk_22 5 (dk_at dksX0_isDue_1 3 rfl rfl)
theorem dX0_isDue_29 : decode cX0_isDue 29 = .ok (.lconst 0, 1) := dk_9 (dk_at dksX0_isDue_1 5 rfl rfl)
theorem dX0_isDue_30 : decode cX0_isDue 30 = .ok (.lcmp, 1) := dk_148 (dk_at dksX0_isDue_1 6 rfl rfl)
theorem dX0_isDue_31 : decode cX0_isDue 31 = .ok (.ifCond .lt 25, 3) := dk_155 0 25 (dk_at dksX0_isDue_1 7 rfl rfl)
theorem dX0_isDue_34 : decode cX0_isDue 34 = .ok (.lload 5, 2) := dk_22 5 (dk_at dksX0_isDue_1 10 rfl rfl)
theorem dX0_isDue_36 : decode cX0_isDue 36 = .ok (.aload_n 0, 1) := dk_42 (dk_at dksX0_isDue_1 12 rfl rfl)
theorem dX0_isDue_37 : decode cX0_isDue 37 = .ok (.getfield 10, 3) := dk_180 0 10 (dk_at dksX0_isDue_1 13 rfl rfl)
theorem dX0_isDue_40 : decode cX0_isDue 40 = .ok (.getfield 86, 3) := dk_180 0 86 (dk_at dksX0_isDue_1 16 rfl rfl)
theorem dX0_isDue_43 : decode cX0_isDue 43 = .ok (.iload_n 1, 1) := dk_27 (dk_at dksX0_isDue_1 19 rfl rfl)
theorem dX0_isDue_44 : decode cX0_isDue 44 = .ok (.iaload, 1) := dk_46 (dk_at dksX0_isDue_1 20 rfl rfl)
theorem dX0_isDue_45 : decode cX0_isDue 45 = .ok (.i2l, 1) := dk_133 (dk_at dksX0_isDue_1 21 rfl rfl)
theorem dX0_isDue_46 : decode cX0_isDue 46 = .ok (.lrem, 1) := dk_113 (dk_at dksX0_isDue_1 22 rfl rfl)
theorem dX0_isDue_47 : decode cX0_isDue 47 = .ok (.lconst 0, 1) := dk_9 (dk_at dksX0_isDue_1 23 rfl rfl)
theorem dX0_isDue_48 : decode cX0_isDue 48 = .ok (.lcmp, 1) := dk_148 (dk_at dksX0_isDue_2 0 rfl rfl)
theorem dX0_isDue_49 : decode cX0_isDue 49 = .ok (.ifCond .ne 7, 3) := dk_154 0 7 (dk_at dksX0_isDue_2 1 rfl rfl)
theorem dX0_isDue_52 : decode cX0_isDue 52 = .ok (.iconst 1, 1) := dk_4 (dk_at dksX0_isDue_2 4 rfl rfl)
theorem dX0_isDue_53 : decode cX0_isDue 53 = .ok (.goto 4, 3) := dk_167 0 4 (dk_at dksX0_isDue_2 5 rfl rfl)
theorem dX0_isDue_56 : decode cX0_isDue 56 = .ok (.iconst 0, 1) := dk_3 (dk_at dksX0_isDue_2 8 rfl rfl)
theorem dX0_isDue_57 : decode cX0_isDue 57 = .ok (.ireturn, 1) := dk_172 (dk_at dksX0_isDue_2 9 rfl rfl)
abbrev cX0_isBarred : ByteArray := prog_1_method_24_code
def yX0_isBarred : MethodName := ⟨RX0, "isBarred", "(II)Z"⟩
def dkwX0_isBarred_4 : List UInt8 := [172, 132, 4, 1, 167, 255, 215, 3, 172]
abbrev dktX0_isBarred_4 : List UInt8 := dkwX0_isBarred_4 ++ []
def dkwX0_isBarred_3 : List UInt8 := [180, 0, 136, 21, 4, 182, 0, 148, 192, 0, 152, 42, 180, 0, 30, 185, 0, 154, 2, 0, 153, 0, 5, 4]
abbrev dktX0_isBarred_3 : List UInt8 := dkwX0_isBarred_3 ++ dktX0_isBarred_4
def dkwX0_isBarred_2 : List UInt8 := [42, 180, 0, 30, 6, 27, 79, 3, 54, 4, 21, 4, 45, 180, 0, 136, 182, 0, 142, 162, 0, 35, 45]
abbrev dktX0_isBarred_2 : List UInt8 := dkwX0_isBarred_2 ++ dktX0_isBarred_3
def dkwX0_isBarred_1 : List UInt8 := [180, 0, 10, 180, 0, 86, 27, 46, 79, 42, 180, 0, 30, 5, 42, 180, 0, 10, 180, 0, 89, 27, 46, 79]
abbrev dktX0_isBarred_1 : List UInt8 := dkwX0_isBarred_1 ++ dktX0_isBarred_2
def dkwX0_isBarred_0 : List UInt8 := [42, 182, 0, 133, 78, 45, 199, 0, 5, 3, 172, 42, 180, 0, 30, 3, 28, 79, 42, 180, 0, 30, 4, 42]
abbrev dktX0_isBarred_0 : List UInt8 := dkwX0_isBarred_0 ++ dktX0_isBarred_1
theorem dksX0_isBarred_0 : cX0_isBarred.data.toList.drop 0 = dktX0_isBarred_0 := by decide +kernel
theorem dksX0_isBarred_1 : cX0_isBarred.data.toList.drop 24 = dktX0_isBarred_1 := dk_seg dksX0_isBarred_0 24 rfl rfl
theorem dksX0_isBarred_2 : cX0_isBarred.data.toList.drop 48 = dktX0_isBarred_2 := dk_seg dksX0_isBarred_1 24 rfl rfl
theorem dksX0_isBarred_3 : cX0_isBarred.data.toList.drop 71 = dktX0_isBarred_3 := dk_seg dksX0_isBarred_2 23 rfl rfl
theorem dksX0_isBarred_4 : cX0_isBarred.data.toList.drop 95 = dktX0_isBarred_4 := dk_seg dksX0_isBarred_3 24 rfl rfl
theorem dX0_isBarred_0 : decode cX0_isBarred 0 = .ok (.aload_n 0, 1) := dk_42 (dk_at dksX0_isBarred_0 0 rfl rfl)
theorem dX0_isBarred_1 : decode cX0_isBarred 1 = .ok (.invokevirtual 133, 3) := dk_182 0 133 (dk_at dksX0_isBarred_0 1 rfl rfl)
theorem dX0_isBarred_4 : decode cX0_isBarred 4 = .ok (.astore_n 3, 1) := dk_78 (dk_at dksX0_isBarred_0 4 rfl rfl)
theorem dX0_isBarred_5 : decode cX0_isBarred 5 = .ok (.aload_n 3, 1) := dk_45 (dk_at dksX0_isBarred_0 5 rfl rfl)
theorem dX0_isBarred_6 : decode cX0_isBarred 6 = .ok (.ifnonnull 5, 3) := dk_199 0 5 (dk_at dksX0_isBarred_0 6 rfl rfl)
theorem dX0_isBarred_9 : decode cX0_isBarred 9 = .ok (.iconst 0, 1) := dk_3 (dk_at dksX0_isBarred_0 9 rfl rfl)
theorem dX0_isBarred_10 : decode cX0_isBarred 10 = .ok (.ireturn, 1) := dk_172 (dk_at dksX0_isBarred_0 10 rfl rfl)
theorem dX0_isBarred_11 : decode cX0_isBarred 11 = .ok (.aload_n 0, 1) := dk_42 (dk_at dksX0_isBarred_0 11 rfl rfl)
theorem dX0_isBarred_12 : decode cX0_isBarred 12 = .ok (.getfield 30, 3) := dk_180 0 30 (dk_at dksX0_isBarred_0 12 rfl rfl)
theorem dX0_isBarred_15 : decode cX0_isBarred 15 = .ok (.iconst 0, 1) := dk_3 (dk_at dksX0_isBarred_0 15 rfl rfl)
theorem dX0_isBarred_16 : decode cX0_isBarred 16 = .ok (.iload_n 2, 1) := dk_28 (dk_at dksX0_isBarred_0 16 rfl rfl)
theorem dX0_isBarred_17 : decode cX0_isBarred 17 = .ok (.iastore, 1) := dk_79 (dk_at dksX0_isBarred_0 17 rfl rfl)
theorem dX0_isBarred_18 : decode cX0_isBarred 18 = .ok (.aload_n 0, 1) := dk_42 (dk_at dksX0_isBarred_0 18 rfl rfl)
theorem dX0_isBarred_19 : decode cX0_isBarred 19 = .ok (.getfield 30, 3) := dk_180 0 30 (dk_at dksX0_isBarred_0 19 rfl rfl)
theorem dX0_isBarred_22 : decode cX0_isBarred 22 = .ok (.iconst 1, 1) := dk_4 (dk_at dksX0_isBarred_0 22 rfl rfl)
theorem dX0_isBarred_23 : decode cX0_isBarred 23 = .ok (.aload_n 0, 1) := dk_42 (dk_at dksX0_isBarred_0 23 rfl rfl)
theorem dX0_isBarred_24 : decode cX0_isBarred 24 = .ok (.getfield 10, 3) := dk_180 0 10 (dk_at dksX0_isBarred_1 0 rfl rfl)
theorem dX0_isBarred_27 : decode cX0_isBarred 27 = .ok (.getfield 86, 3) := dk_180 0 86 (dk_at dksX0_isBarred_1 3 rfl rfl)
theorem dX0_isBarred_30 : decode cX0_isBarred 30 = .ok (.iload_n 1, 1) := dk_27 (dk_at dksX0_isBarred_1 6 rfl rfl)
theorem dX0_isBarred_31 : decode cX0_isBarred 31 = .ok (.iaload, 1) := dk_46 (dk_at dksX0_isBarred_1 7 rfl rfl)
theorem dX0_isBarred_32 : decode cX0_isBarred 32 = .ok (.iastore, 1) := dk_79 (dk_at dksX0_isBarred_1 8 rfl rfl)
theorem dX0_isBarred_33 : decode cX0_isBarred 33 = .ok (.aload_n 0, 1) := dk_42 (dk_at dksX0_isBarred_1 9 rfl rfl)
theorem dX0_isBarred_34 : decode cX0_isBarred 34 = .ok (.getfield 30, 3) := dk_180 0 30 (dk_at dksX0_isBarred_1 10 rfl rfl)
theorem dX0_isBarred_37 : decode cX0_isBarred 37 = .ok (.iconst 2, 1) := dk_5 (dk_at dksX0_isBarred_1 13 rfl rfl)
theorem dX0_isBarred_38 : decode cX0_isBarred 38 = .ok (.aload_n 0, 1) := dk_42 (dk_at dksX0_isBarred_1 14 rfl rfl)
theorem dX0_isBarred_39 : decode cX0_isBarred 39 = .ok (.getfield 10, 3) := dk_180 0 10 (dk_at dksX0_isBarred_1 15 rfl rfl)
theorem dX0_isBarred_42 : decode cX0_isBarred 42 = .ok (.getfield 89, 3) := dk_180 0 89 (dk_at dksX0_isBarred_1 18 rfl rfl)
theorem dX0_isBarred_45 : decode cX0_isBarred 45 = .ok (.iload_n 1, 1) := dk_27 (dk_at dksX0_isBarred_1 21 rfl rfl)
theorem dX0_isBarred_46 : decode cX0_isBarred 46 = .ok (.iaload, 1) := dk_46 (dk_at dksX0_isBarred_1 22 rfl rfl)
theorem dX0_isBarred_47 : decode cX0_isBarred 47 = .ok (.iastore, 1) := dk_79 (dk_at dksX0_isBarred_1 23 rfl rfl)
theorem dX0_isBarred_48 : decode cX0_isBarred 48 = .ok (.aload_n 0, 1) := dk_42 (dk_at dksX0_isBarred_2 0 rfl rfl)
theorem dX0_isBarred_49 : decode cX0_isBarred 49 = .ok (.getfield 30, 3) := dk_180 0 30 (dk_at dksX0_isBarred_2 1 rfl rfl)
theorem dX0_isBarred_52 : decode cX0_isBarred 52 = .ok (.iconst 3, 1) := dk_6 (dk_at dksX0_isBarred_2 4 rfl rfl)
theorem dX0_isBarred_53 : decode cX0_isBarred 53 = .ok (.iload_n 1, 1) := dk_27 (dk_at dksX0_isBarred_2 5 rfl rfl)
theorem dX0_isBarred_54 : decode cX0_isBarred 54 = .ok (.iastore, 1) := dk_79 (dk_at dksX0_isBarred_2 6 rfl rfl)
theorem dX0_isBarred_55 : decode cX0_isBarred 55 = .ok (.iconst 0, 1) := dk_3 (dk_at dksX0_isBarred_2 7 rfl rfl)
theorem dX0_isBarred_56 : decode cX0_isBarred 56 = .ok (.istore 4, 2) := dk_54 4 (dk_at dksX0_isBarred_2 8 rfl rfl)
theorem dX0_isBarred_58 : decode cX0_isBarred 58 = .ok (.iload 4, 2) := dk_21 4 (dk_at dksX0_isBarred_2 10 rfl rfl)
theorem dX0_isBarred_60 : decode cX0_isBarred 60 = .ok (.aload_n 3, 1) := dk_45 (dk_at dksX0_isBarred_2 12 rfl rfl)
theorem dX0_isBarred_61 : decode cX0_isBarred 61 = .ok (.getfield 136, 3) := dk_180 0 136 (dk_at dksX0_isBarred_2 13 rfl rfl)
theorem dX0_isBarred_64 : decode cX0_isBarred 64 = .ok (.invokevirtual 142, 3) := dk_182 0 142 (dk_at dksX0_isBarred_2 16 rfl rfl)
theorem dX0_isBarred_67 : decode cX0_isBarred 67 = .ok (.if_icmp .ge 35, 3) := dk_162 0 35 (dk_at dksX0_isBarred_2 19 rfl rfl)
theorem dX0_isBarred_70 : decode cX0_isBarred 70 = .ok (.aload_n 3, 1) := dk_45 (dk_at dksX0_isBarred_2 22 rfl rfl)
theorem dX0_isBarred_71 : decode cX0_isBarred 71 = .ok (.getfield 136, 3) := dk_180 0 136 (dk_at dksX0_isBarred_3 0 rfl rfl)
theorem dX0_isBarred_74 : decode cX0_isBarred 74 = .ok (.iload 4, 2) := dk_21 4 (dk_at dksX0_isBarred_3 3 rfl rfl)
theorem dX0_isBarred_76 : decode cX0_isBarred 76 = .ok (.invokevirtual 148, 3) := dk_182 0 148 (dk_at dksX0_isBarred_3 5 rfl rfl)
theorem dX0_isBarred_79 : decode cX0_isBarred 79 = .ok (.checkcast 152, 3) := dk_192 0 152 (dk_at dksX0_isBarred_3 8 rfl rfl)
theorem dX0_isBarred_82 : decode cX0_isBarred 82 = .ok (.aload_n 0, 1) := dk_42 (dk_at dksX0_isBarred_3 11 rfl rfl)
theorem dX0_isBarred_83 : decode cX0_isBarred 83 = .ok (.getfield 30, 3) := dk_180 0 30 (dk_at dksX0_isBarred_3 12 rfl rfl)
theorem dX0_isBarred_86 : decode cX0_isBarred 86 = .ok (.invokeinterface 154 2, 5) := by decide +kernel
theorem dX0_isBarred_91 : decode cX0_isBarred 91 = .ok (.ifCond .eq 5, 3) := dk_153 0 5 (dk_at dksX0_isBarred_3 20 rfl rfl)
theorem dX0_isBarred_94 : decode cX0_isBarred 94 = .ok (.iconst 1, 1) := dk_4 (dk_at dksX0_isBarred_3 23 rfl rfl)
theorem dX0_isBarred_95 : decode cX0_isBarred 95 = .ok (.ireturn, 1) := dk_172 (dk_at dksX0_isBarred_4 0 rfl rfl)
theorem dX0_isBarred_96 : decode cX0_isBarred 96 = .ok (.iinc 4 1, 3) := dk_132 4 1 (dk_at dksX0_isBarred_4 1 rfl rfl)
theorem dX0_isBarred_99 : decode cX0_isBarred 99 = .ok (.goto (-41), 3) := dk_167 255 215 (dk_at dksX0_isBarred_4 4 rfl rfl)
theorem dX0_isBarred_102 : decode cX0_isBarred 102 = .ok (.iconst 0, 1) := dk_3 (dk_at dksX0_isBarred_4 7 rfl rfl)
theorem dX0_isBarred_103 : decode cX0_isBarred 103 = .ok (.ireturn, 1) := dk_172 (dk_at dksX0_isBarred_4 8 rfl rfl)
abbrev cX0_rules : ByteArray := prog_1_method_23_code
def yX0_rules : MethodName := ⟨RX0, "rules", "()LNumberComes$Text;"⟩
def dkwX0_rules_1 : List UInt8 := [42, 180, 0, 10, 180, 0, 64, 7, 46, 50, 176]
abbrev dktX0_rules_1 : List UInt8 := dkwX0_rules_1 ++ []
def dkwX0_rules_0 : List UInt8 := [42, 180, 0, 10, 180, 0, 64, 7, 46, 2, 160, 0, 7, 1, 167, 0, 20, 42, 180, 0, 10, 180, 0, 114]
abbrev dktX0_rules_0 : List UInt8 := dkwX0_rules_0 ++ dktX0_rules_1
theorem dksX0_rules_0 : cX0_rules.data.toList.drop 0 = dktX0_rules_0 := by decide +kernel
theorem dksX0_rules_1 : cX0_rules.data.toList.drop 24 = dktX0_rules_1 := dk_seg dksX0_rules_0 24 rfl rfl
theorem dX0_rules_0 : decode cX0_rules 0 = .ok (.aload_n 0, 1) := dk_42 (dk_at dksX0_rules_0 0 rfl rfl)
theorem dX0_rules_1 : decode cX0_rules 1 = .ok (.getfield 10, 3) := dk_180 0 10 (dk_at dksX0_rules_0 1 rfl rfl)
theorem dX0_rules_4 : decode cX0_rules 4 = .ok (.getfield 64, 3) := dk_180 0 64 (dk_at dksX0_rules_0 4 rfl rfl)
theorem dX0_rules_7 : decode cX0_rules 7 = .ok (.iconst 4, 1) := dk_7 (dk_at dksX0_rules_0 7 rfl rfl)
theorem dX0_rules_8 : decode cX0_rules 8 = .ok (.iaload, 1) := dk_46 (dk_at dksX0_rules_0 8 rfl rfl)
theorem dX0_rules_9 : decode cX0_rules 9 = .ok (.iconst (-1), 1) := dk_2 (dk_at dksX0_rules_0 9 rfl rfl)
theorem dX0_rules_10 : decode cX0_rules 10 = .ok (.if_icmp .ne 7, 3) := dk_160 0 7 (dk_at dksX0_rules_0 10 rfl rfl)
theorem dX0_rules_13 : decode cX0_rules 13 = .ok (.aconst_null, 1) := dk_1 (dk_at dksX0_rules_0 13 rfl rfl)
theorem dX0_rules_14 : decode cX0_rules 14 = .ok (.goto 20, 3) := dk_167 0 20 (dk_at dksX0_rules_0 14 rfl rfl)
theorem dX0_rules_17 : decode cX0_rules 17 = .ok (.aload_n 0, 1) := dk_42 (dk_at dksX0_rules_0 17 rfl rfl)
theorem dX0_rules_18 : decode cX0_rules 18 = .ok (.getfield 10, 3) := dk_180 0 10 (dk_at dksX0_rules_0 18 rfl rfl)
theorem dX0_rules_21 : decode cX0_rules 21 = .ok (.getfield 114, 3) := dk_180 0 114 (dk_at dksX0_rules_0 21 rfl rfl)
theorem dX0_rules_24 : decode cX0_rules 24 = .ok (.aload_n 0, 1) := dk_42 (dk_at dksX0_rules_1 0 rfl rfl)
theorem dX0_rules_25 : decode cX0_rules 25 = .ok (.getfield 10, 3) := dk_180 0 10 (dk_at dksX0_rules_1 1 rfl rfl)
theorem dX0_rules_28 : decode cX0_rules 28 = .ok (.getfield 64, 3) := dk_180 0 64 (dk_at dksX0_rules_1 4 rfl rfl)
theorem dX0_rules_31 : decode cX0_rules 31 = .ok (.iconst 4, 1) := dk_7 (dk_at dksX0_rules_1 7 rfl rfl)
theorem dX0_rules_32 : decode cX0_rules 32 = .ok (.iaload, 1) := dk_46 (dk_at dksX0_rules_1 8 rfl rfl)
theorem dX0_rules_33 : decode cX0_rules 33 = .ok (.aaload, 1) := dk_50 (dk_at dksX0_rules_1 9 rfl rfl)
theorem dX0_rules_34 : decode cX0_rules 34 = .ok (.areturn, 1) := dk_176 (dk_at dksX0_rules_1 10 rfl rfl)
abbrev cX0_next : ByteArray := prog_1_method_39_code
def yX0_next : MethodName := ⟨RX0, "next", "(IJ)J"⟩
def dkwX0_next_8 : List UInt8 := [55, 4, 167, 255, 199, 22, 4, 20, 0, 71, 148, 158, 0, 9, 20, 0, 223, 167, 0, 5, 22, 4, 173]
abbrev dktX0_next_8 : List UInt8 := dkwX0_next_8 ++ []
def dkwX0_next_7 : List UInt8 := [180, 0, 187, 20, 0, 71, 148, 158, 0, 9, 20, 0, 204, 167, 0, 10, 22, 4, 42, 180, 0, 187, 97]
abbrev dktX0_next_7 : List UInt8 := dkwX0_next_7 ++ dktX0_next_8
def dkwX0_next_6 : List UInt8 := [27, 22, 4, 42, 180, 0, 10, 180, 0, 64, 5, 46, 133, 113, 136, 182, 0, 209, 154, 0, 32, 42]
abbrev dktX0_next_6 : List UInt8 := dkwX0_next_6 ++ dktX0_next_7
def dkwX0_next_5 : List UInt8 := [154, 0, 7, 20, 0, 223, 173, 42, 32, 182, 0, 235, 55, 4, 22, 4, 20, 0, 71, 148, 157, 0, 54, 42]
abbrev dktX0_next_5 : List UInt8 := dkwX0_next_5 ++ dktX0_next_6
def dkwX0_next_4 : List UInt8 := [182, 0, 225, 2, 160, 0, 11, 42, 27, 182, 0, 229, 154, 0, 7, 20, 0, 215, 173, 42, 27, 182, 0, 232]
abbrev dktX0_next_4 : List UInt8 := dkwX0_next_4 ++ dktX0_next_5
def dkwX0_next_3 : List UInt8 := [20, 0, 223, 167, 0, 8, 32, 21, 4, 133, 97, 173, 132, 4, 1, 167, 255, 207, 20, 0, 215, 173, 42, 27]
abbrev dktX0_next_3 : List UInt8 := dkwX0_next_3 ++ dktX0_next_4
def dkwX0_next_2 : List UInt8 := [21, 4, 133, 97, 182, 0, 220, 153, 0, 27, 32, 21, 4, 133, 97, 20, 0, 71, 148, 158, 0, 9]
abbrev dktX0_next_2 : List UInt8 := dkwX0_next_2 ++ dktX0_next_3
def dkwX0_next_1 : List UInt8 := [180, 0, 64, 4, 46, 158, 0, 62, 3, 54, 4, 21, 4, 42, 182, 0, 217, 162, 0, 46, 42, 27, 32]
abbrev dktX0_next_1 : List UInt8 := dkwX0_next_1 ++ dktX0_next_2
def dkwX0_next_0 : List UInt8 := [42, 27, 182, 0, 212, 153, 0, 10, 32, 184, 0, 73, 154, 0, 7, 20, 0, 215, 173, 42, 180, 0, 10]
abbrev dktX0_next_0 : List UInt8 := dkwX0_next_0 ++ dktX0_next_1
theorem dksX0_next_0 : cX0_next.data.toList.drop 0 = dktX0_next_0 := by decide +kernel
theorem dksX0_next_1 : cX0_next.data.toList.drop 23 = dktX0_next_1 := dk_seg dksX0_next_0 23 rfl rfl
theorem dksX0_next_2 : cX0_next.data.toList.drop 46 = dktX0_next_2 := dk_seg dksX0_next_1 23 rfl rfl
theorem dksX0_next_3 : cX0_next.data.toList.drop 68 = dktX0_next_3 := dk_seg dksX0_next_2 22 rfl rfl
theorem dksX0_next_4 : cX0_next.data.toList.drop 92 = dktX0_next_4 := dk_seg dksX0_next_3 24 rfl rfl
theorem dksX0_next_5 : cX0_next.data.toList.drop 116 = dktX0_next_5 := dk_seg dksX0_next_4 24 rfl rfl
theorem dksX0_next_6 : cX0_next.data.toList.drop 140 = dktX0_next_6 := dk_seg dksX0_next_5 24 rfl rfl
theorem dksX0_next_7 : cX0_next.data.toList.drop 162 = dktX0_next_7 := dk_seg dksX0_next_6 22 rfl rfl
theorem dksX0_next_8 : cX0_next.data.toList.drop 185 = dktX0_next_8 := dk_seg dksX0_next_7 23 rfl rfl
theorem dX0_next_0 : decode cX0_next 0 = .ok (.aload_n 0, 1) := dk_42 (dk_at dksX0_next_0 0 rfl rfl)
theorem dX0_next_1 : decode cX0_next 1 = .ok (.iload_n 1, 1) := dk_27 (dk_at dksX0_next_0 1 rfl rfl)
theorem dX0_next_2 : decode cX0_next 2 = .ok (.invokevirtual 212, 3) := dk_182 0 212 (dk_at dksX0_next_0 2 rfl rfl)
theorem dX0_next_5 : decode cX0_next 5 = .ok (.ifCond .eq 10, 3) := dk_153 0 10 (dk_at dksX0_next_0 5 rfl rfl)
theorem dX0_next_8 : decode cX0_next 8 = .ok (.lload_n 2, 1) := dk_32 (dk_at dksX0_next_0 8 rfl rfl)
theorem dX0_next_9 : decode cX0_next 9 = .ok (.invokestatic 73, 3) := dk_184 0 73 (dk_at dksX0_next_0 9 rfl rfl)
theorem dX0_next_12 : decode cX0_next 12 = .ok (.ifCond .ne 7, 3) := dk_154 0 7 (dk_at dksX0_next_0 12 rfl rfl)
theorem dX0_next_15 : decode cX0_next 15 = .ok (.ldc2_w 215, 3) := dk_20 0 215 (dk_at dksX0_next_0 15 rfl rfl)
theorem dX0_next_18 : decode cX0_next 18 = .ok (.lreturn, 1) := dk_173 (dk_at dksX0_next_0 18 rfl rfl)
theorem dX0_next_19 : decode cX0_next 19 = .ok (.aload_n 0, 1) := dk_42 (dk_at dksX0_next_0 19 rfl rfl)
theorem dX0_next_20 : decode cX0_next 20 = .ok (.getfield 10, 3) := dk_180 0 10 (dk_at dksX0_next_0 20 rfl rfl)
theorem dX0_next_23 : decode cX0_next 23 = .ok (.getfield 64, 3) := dk_180 0 64 (dk_at dksX0_next_1 0 rfl rfl)
theorem dX0_next_26 : decode cX0_next 26 = .ok (.iconst 1, 1) := dk_4 (dk_at dksX0_next_1 3 rfl rfl)
theorem dX0_next_27 : decode cX0_next 27 = .ok (.iaload, 1) := dk_46 (dk_at dksX0_next_1 4 rfl rfl)
theorem dX0_next_28 : decode cX0_next 28 = .ok (.ifCond .le 62, 3) := dk_158 0 62 (dk_at dksX0_next_1 5 rfl rfl)
theorem dX0_next_31 : decode cX0_next 31 = .ok (.iconst 0, 1) := dk_3 (dk_at dksX0_next_1 8 rfl rfl)
theorem dX0_next_32 : decode cX0_next 32 = .ok (.istore 4, 2) := dk_54 4 (dk_at dksX0_next_1 9 rfl rfl)
theorem dX0_next_34 : decode cX0_next 34 = .ok (.iload 4, 2) := dk_21 4 (dk_at dksX0_next_1 11 rfl rfl)
theorem dX0_next_36 : decode cX0_next 36 = .ok (.aload_n 0, 1) := dk_42 (dk_at dksX0_next_1 13 rfl rfl)
theorem dX0_next_37 : decode cX0_next 37 = .ok (.invokevirtual 217, 3) := dk_182 0 217 (dk_at dksX0_next_1 14 rfl rfl)
theorem dX0_next_40 : decode cX0_next 40 = .ok (.if_icmp .ge 46, 3) := dk_162 0 46 (dk_at dksX0_next_1 17 rfl rfl)
theorem dX0_next_43 : decode cX0_next 43 = .ok (.aload_n 0, 1) := dk_42 (dk_at dksX0_next_1 20 rfl rfl)
theorem dX0_next_44 : decode cX0_next 44 = .ok (.iload_n 1, 1) := dk_27 (dk_at dksX0_next_1 21 rfl rfl)
theorem dX0_next_45 : decode cX0_next 45 = .ok (.lload_n 2, 1) := dk_32 (dk_at dksX0_next_1 22 rfl rfl)
theorem dX0_next_46 : decode cX0_next 46 = .ok (.iload 4, 2) := dk_21 4 (dk_at dksX0_next_2 0 rfl rfl)
theorem dX0_next_48 : decode cX0_next 48 = .ok (.i2l, 1) := dk_133 (dk_at dksX0_next_2 2 rfl rfl)
theorem dX0_next_49 : decode cX0_next 49 = .ok (.ladd, 1) := dk_97 (dk_at dksX0_next_2 3 rfl rfl)
theorem dX0_next_50 : decode cX0_next 50 = .ok (.invokevirtual 220, 3) := dk_182 0 220 (dk_at dksX0_next_2 4 rfl rfl)
theorem dX0_next_53 : decode cX0_next 53 = .ok (.ifCond .eq 27, 3) := dk_153 0 27 (dk_at dksX0_next_2 7 rfl rfl)
theorem dX0_next_56 : decode cX0_next 56 = .ok (.lload_n 2, 1) := dk_32 (dk_at dksX0_next_2 10 rfl rfl)
theorem dX0_next_57 : decode cX0_next 57 = .ok (.iload 4, 2) := dk_21 4 (dk_at dksX0_next_2 11 rfl rfl)
theorem dX0_next_59 : decode cX0_next 59 = .ok (.i2l, 1) := dk_133 (dk_at dksX0_next_2 13 rfl rfl)
theorem dX0_next_60 : decode cX0_next 60 = .ok (.ladd, 1) := dk_97 (dk_at dksX0_next_2 14 rfl rfl)
theorem dX0_next_61 : decode cX0_next 61 = .ok (.ldc2_w 71, 3) := dk_20 0 71 (dk_at dksX0_next_2 15 rfl rfl)
theorem dX0_next_64 : decode cX0_next 64 = .ok (.lcmp, 1) := dk_148 (dk_at dksX0_next_2 18 rfl rfl)
theorem dX0_next_65 : decode cX0_next 65 = .ok (.ifCond .le 9, 3) := dk_158 0 9 (dk_at dksX0_next_2 19 rfl rfl)
theorem dX0_next_68 : decode cX0_next 68 = .ok (.ldc2_w 223, 3) := dk_20 0 223 (dk_at dksX0_next_3 0 rfl rfl)
theorem dX0_next_71 : decode cX0_next 71 = .ok (.goto 8, 3) := dk_167 0 8 (dk_at dksX0_next_3 3 rfl rfl)
theorem dX0_next_74 : decode cX0_next 74 = .ok (.lload_n 2, 1) := dk_32 (dk_at dksX0_next_3 6 rfl rfl)
theorem dX0_next_75 : decode cX0_next 75 = .ok (.iload 4, 2) := dk_21 4 (dk_at dksX0_next_3 7 rfl rfl)
theorem dX0_next_77 : decode cX0_next 77 = .ok (.i2l, 1) := dk_133 (dk_at dksX0_next_3 9 rfl rfl)
theorem dX0_next_78 : decode cX0_next 78 = .ok (.ladd, 1) := dk_97 (dk_at dksX0_next_3 10 rfl rfl)
theorem dX0_next_79 : decode cX0_next 79 = .ok (.lreturn, 1) := dk_173 (dk_at dksX0_next_3 11 rfl rfl)
theorem dX0_next_80 : decode cX0_next 80 = .ok (.iinc 4 1, 3) := dk_132 4 1 (dk_at dksX0_next_3 12 rfl rfl)
theorem dX0_next_83 : decode cX0_next 83 = .ok (.goto (-49), 3) := dk_167 255 207 (dk_at dksX0_next_3 15 rfl rfl)
theorem dX0_next_86 : decode cX0_next 86 = .ok (.ldc2_w 215, 3) := dk_20 0 215 (dk_at dksX0_next_3 18 rfl rfl)
theorem dX0_next_89 : decode cX0_next 89 = .ok (.lreturn, 1) := dk_173 (dk_at dksX0_next_3 21 rfl rfl)
theorem dX0_next_90 : decode cX0_next 90 = .ok (.aload_n 0, 1) := dk_42 (dk_at dksX0_next_3 22 rfl rfl)
theorem dX0_next_91 : decode cX0_next 91 = .ok (.iload_n 1, 1) := dk_27 (dk_at dksX0_next_3 23 rfl rfl)
theorem dX0_next_92 : decode cX0_next 92 = .ok (.invokevirtual 225, 3) := dk_182 0 225 (dk_at dksX0_next_4 0 rfl rfl)
theorem dX0_next_95 : decode cX0_next 95 = .ok (.iconst (-1), 1) := dk_2 (dk_at dksX0_next_4 3 rfl rfl)
theorem dX0_next_96 : decode cX0_next 96 = .ok (.if_icmp .ne 11, 3) := dk_160 0 11 (dk_at dksX0_next_4 4 rfl rfl)
theorem dX0_next_99 : decode cX0_next 99 = .ok (.aload_n 0, 1) := dk_42 (dk_at dksX0_next_4 7 rfl rfl)
theorem dX0_next_100 : decode cX0_next 100 = .ok (.iload_n 1, 1) := dk_27 (dk_at dksX0_next_4 8 rfl rfl)
theorem dX0_next_101 : decode cX0_next 101 = .ok (.invokevirtual 229, 3) := dk_182 0 229 (dk_at dksX0_next_4 9 rfl rfl)
theorem dX0_next_104 : decode cX0_next 104 = .ok (.ifCond .ne 7, 3) := dk_154 0 7 (dk_at dksX0_next_4 12 rfl rfl)
theorem dX0_next_107 : decode cX0_next 107 = .ok (.ldc2_w 215, 3) := dk_20 0 215 (dk_at dksX0_next_4 15 rfl rfl)
theorem dX0_next_110 : decode cX0_next 110 = .ok (.lreturn, 1) := dk_173 (dk_at dksX0_next_4 18 rfl rfl)
theorem dX0_next_111 : decode cX0_next 111 = .ok (.aload_n 0, 1) := dk_42 (dk_at dksX0_next_4 19 rfl rfl)
theorem dX0_next_112 : decode cX0_next 112 = .ok (.iload_n 1, 1) := dk_27 (dk_at dksX0_next_4 20 rfl rfl)
theorem dX0_next_113 : decode cX0_next 113 = .ok (.invokevirtual 232, 3) := dk_182 0 232 (dk_at dksX0_next_4 21 rfl rfl)
theorem dX0_next_116 : decode cX0_next 116 = .ok (.ifCond .ne 7, 3) := dk_154 0 7 (dk_at dksX0_next_5 0 rfl rfl)
theorem dX0_next_119 : decode cX0_next 119 = .ok (.ldc2_w 223, 3) := dk_20 0 223 (dk_at dksX0_next_5 3 rfl rfl)
theorem dX0_next_122 : decode cX0_next 122 = .ok (.lreturn, 1) := dk_173 (dk_at dksX0_next_5 6 rfl rfl)
theorem dX0_next_123 : decode cX0_next 123 = .ok (.aload_n 0, 1) := dk_42 (dk_at dksX0_next_5 7 rfl rfl)
theorem dX0_next_124 : decode cX0_next 124 = .ok (.lload_n 2, 1) := dk_32 (dk_at dksX0_next_5 8 rfl rfl)
theorem dX0_next_125 : decode cX0_next 125 = .ok (.invokevirtual 235, 3) := dk_182 0 235 (dk_at dksX0_next_5 9 rfl rfl)
theorem dX0_next_128 : decode cX0_next 128 = .ok (.lstore 4, 2) := dk_55 4 (dk_at dksX0_next_5 12 rfl rfl)
theorem dX0_next_130 : decode cX0_next 130 = .ok (.lload 4, 2) := dk_22 4 (dk_at dksX0_next_5 14 rfl rfl)
theorem dX0_next_132 : decode cX0_next 132 = .ok (.ldc2_w 71, 3) := dk_20 0 71 (dk_at dksX0_next_5 16 rfl rfl)
theorem dX0_next_135 : decode cX0_next 135 = .ok (.lcmp, 1) := dk_148 (dk_at dksX0_next_5 19 rfl rfl)
theorem dX0_next_136 : decode cX0_next 136 = .ok (.ifCond .gt 54, 3) := dk_157 0 54 (dk_at dksX0_next_5 20 rfl rfl)
theorem dX0_next_139 : decode cX0_next 139 = .ok (.aload_n 0, 1) := dk_42 (dk_at dksX0_next_5 23 rfl rfl)
theorem dX0_next_140 : decode cX0_next 140 = .ok (.iload_n 1, 1) := dk_27 (dk_at dksX0_next_6 0 rfl rfl)
theorem dX0_next_141 : decode cX0_next 141 = .ok (.lload 4, 2) := dk_22 4 (dk_at dksX0_next_6 1 rfl rfl)
theorem dX0_next_143 : decode cX0_next 143 = .ok (.aload_n 0, 1) := dk_42 (dk_at dksX0_next_6 3 rfl rfl)
theorem dX0_next_144 : decode cX0_next 144 = .ok (.getfield 10, 3) := dk_180 0 10 (dk_at dksX0_next_6 4 rfl rfl)
theorem dX0_next_147 : decode cX0_next 147 = .ok (.getfield 64, 3) := dk_180 0 64 (dk_at dksX0_next_6 7 rfl rfl)
theorem dX0_next_150 : decode cX0_next 150 = .ok (.iconst 2, 1) := dk_5 (dk_at dksX0_next_6 10 rfl rfl)
theorem dX0_next_151 : decode cX0_next 151 = .ok (.iaload, 1) := dk_46 (dk_at dksX0_next_6 11 rfl rfl)
theorem dX0_next_152 : decode cX0_next 152 = .ok (.i2l, 1) := dk_133 (dk_at dksX0_next_6 12 rfl rfl)
theorem dX0_next_153 : decode cX0_next 153 = .ok (.lrem, 1) := dk_113 (dk_at dksX0_next_6 13 rfl rfl)
theorem dX0_next_154 : decode cX0_next 154 = .ok (.l2i, 1) := dk_136 (dk_at dksX0_next_6 14 rfl rfl)
theorem dX0_next_155 : decode cX0_next 155 = .ok (.invokevirtual 209, 3) := dk_182 0 209 (dk_at dksX0_next_6 15 rfl rfl)
theorem dX0_next_158 : decode cX0_next 158 = .ok (.ifCond .ne 32, 3) := dk_154 0 32 (dk_at dksX0_next_6 18 rfl rfl)
theorem dX0_next_161 : decode cX0_next 161 = .ok (.aload_n 0, 1) := dk_42 (dk_at dksX0_next_6 21 rfl rfl)
theorem dX0_next_162 : decode cX0_next 162 = .ok (.getfield 187, 3) := dk_180 0 187 (dk_at dksX0_next_7 0 rfl rfl)
theorem dX0_next_165 : decode cX0_next 165 = .ok (.ldc2_w 71, 3) := dk_20 0 71 (dk_at dksX0_next_7 3 rfl rfl)
theorem dX0_next_168 : decode cX0_next 168 = .ok (.lcmp, 1) := dk_148 (dk_at dksX0_next_7 6 rfl rfl)
theorem dX0_next_169 : decode cX0_next 169 = .ok (.ifCond .le 9, 3) := dk_158 0 9 (dk_at dksX0_next_7 7 rfl rfl)
theorem dX0_next_172 : decode cX0_next 172 = .ok (.ldc2_w 204, 3) := dk_20 0 204 (dk_at dksX0_next_7 10 rfl rfl)
theorem dX0_next_175 : decode cX0_next 175 = .ok (.goto 10, 3) := dk_167 0 10 (dk_at dksX0_next_7 13 rfl rfl)
theorem dX0_next_178 : decode cX0_next 178 = .ok (.lload 4, 2) := dk_22 4 (dk_at dksX0_next_7 16 rfl rfl)
theorem dX0_next_180 : decode cX0_next 180 = .ok (.aload_n 0, 1) := dk_42 (dk_at dksX0_next_7 18 rfl rfl)
theorem dX0_next_181 : decode cX0_next 181 = .ok (.getfield 187, 3) := dk_180 0 187 (dk_at dksX0_next_7 19 rfl rfl)
theorem dX0_next_184 : decode cX0_next 184 = .ok (.ladd, 1) := dk_97 (dk_at dksX0_next_7 22 rfl rfl)
theorem dX0_next_185 : decode cX0_next 185 = .ok (.lstore 4, 2) := dk_55 4 (dk_at dksX0_next_8 0 rfl rfl)
theorem dX0_next_187 : decode cX0_next 187 = .ok (.goto (-57), 3) := dk_167 255 199 (dk_at dksX0_next_8 2 rfl rfl)
theorem dX0_next_190 : decode cX0_next 190 = .ok (.lload 4, 2) := dk_22 4 (dk_at dksX0_next_8 5 rfl rfl)
theorem dX0_next_192 : decode cX0_next 192 = .ok (.ldc2_w 71, 3) := dk_20 0 71 (dk_at dksX0_next_8 7 rfl rfl)
theorem dX0_next_195 : decode cX0_next 195 = .ok (.lcmp, 1) := dk_148 (dk_at dksX0_next_8 10 rfl rfl)
theorem dX0_next_196 : decode cX0_next 196 = .ok (.ifCond .le 9, 3) := dk_158 0 9 (dk_at dksX0_next_8 11 rfl rfl)
theorem dX0_next_199 : decode cX0_next 199 = .ok (.ldc2_w 223, 3) := dk_20 0 223 (dk_at dksX0_next_8 14 rfl rfl)
theorem dX0_next_202 : decode cX0_next 202 = .ok (.goto 5, 3) := dk_167 0 5 (dk_at dksX0_next_8 17 rfl rfl)
theorem dX0_next_205 : decode cX0_next 205 = .ok (.lload 4, 2) := dk_22 4 (dk_at dksX0_next_8 20 rfl rfl)
theorem dX0_next_207 : decode cX0_next 207 = .ok (.lreturn, 1) := dk_173 (dk_at dksX0_next_8 22 rfl rfl)
abbrev cX0_isSet : ByteArray := prog_1_method_4_code
def yX0_isSet : MethodName := ⟨RX0, "isSet", "(I)Z"⟩
def dkwX0_isSet_0 : List UInt8 := [27, 133, 10, 4, 42, 180, 0, 10, 180, 0, 64, 3, 46, 120, 4, 100, 133, 184, 0, 67, 172]
abbrev dktX0_isSet_0 : List UInt8 := dkwX0_isSet_0 ++ []
theorem dksX0_isSet_0 : cX0_isSet.data.toList.drop 0 = dktX0_isSet_0 := by decide +kernel
theorem dX0_isSet_0 : decode cX0_isSet 0 = .ok (.iload_n 1, 1) := dk_27 (dk_at dksX0_isSet_0 0 rfl rfl)
theorem dX0_isSet_1 : decode cX0_isSet 1 = .ok (.i2l, 1) := dk_133 (dk_at dksX0_isSet_0 1 rfl rfl)
theorem dX0_isSet_2 : decode cX0_isSet 2 = .ok (.lconst 1, 1) := dk_10 (dk_at dksX0_isSet_0 2 rfl rfl)
theorem dX0_isSet_3 : decode cX0_isSet 3 = .ok (.iconst 1, 1) := dk_4 (dk_at dksX0_isSet_0 3 rfl rfl)
theorem dX0_isSet_4 : decode cX0_isSet 4 = .ok (.aload_n 0, 1) := dk_42 (dk_at dksX0_isSet_0 4 rfl rfl)
theorem dX0_isSet_5 : decode cX0_isSet 5 = .ok (.getfield 10, 3) := dk_180 0 10 (dk_at dksX0_isSet_0 5 rfl rfl)
theorem dX0_isSet_8 : decode cX0_isSet 8 = .ok (.getfield 64, 3) := dk_180 0 64 (dk_at dksX0_isSet_0 8 rfl rfl)
theorem dX0_isSet_11 : decode cX0_isSet 11 = .ok (.iconst 0, 1) := dk_3 (dk_at dksX0_isSet_0 11 rfl rfl)
theorem dX0_isSet_12 : decode cX0_isSet 12 = .ok (.iaload, 1) := dk_46 (dk_at dksX0_isSet_0 12 rfl rfl)
theorem dX0_isSet_13 : decode cX0_isSet 13 = .ok (.ishl, 1) := dk_120 (dk_at dksX0_isSet_0 13 rfl rfl)
theorem dX0_isSet_14 : decode cX0_isSet 14 = .ok (.iconst 1, 1) := dk_4 (dk_at dksX0_isSet_0 14 rfl rfl)
theorem dX0_isSet_15 : decode cX0_isSet 15 = .ok (.isub, 1) := dk_100 (dk_at dksX0_isSet_0 15 rfl rfl)
theorem dX0_isSet_16 : decode cX0_isSet 16 = .ok (.i2l, 1) := dk_133 (dk_at dksX0_isSet_0 16 rfl rfl)
theorem dX0_isSet_17 : decode cX0_isSet 17 = .ok (.invokestatic 67, 3) := dk_184 0 67 (dk_at dksX0_isSet_0 17 rfl rfl)
theorem dX0_isSet_20 : decode cX0_isSet 20 = .ok (.ireturn, 1) := dk_172 (dk_at dksX0_isSet_0 20 rfl rfl)
abbrev cX0_period : ByteArray := prog_1_method_38_code
def yX0_period : MethodName := ⟨RX0, "period", "()I"⟩
def dkwX0_period_1 : List UInt8 := [180, 0, 64, 5, 46, 133, 184, 0, 176, 109, 136, 42, 180, 0, 10, 180, 0, 64, 5, 46, 104, 172]
abbrev dktX0_period_1 : List UInt8 := dkwX0_period_1 ++ []
def dkwX0_period_0 : List UInt8 := [42, 180, 0, 10, 180, 0, 64, 4, 46, 133, 42, 180, 0, 10, 180, 0, 64, 4, 46, 133, 42, 180, 0, 10]
abbrev dktX0_period_0 : List UInt8 := dkwX0_period_0 ++ dktX0_period_1
theorem dksX0_period_0 : cX0_period.data.toList.drop 0 = dktX0_period_0 := by decide +kernel
theorem dksX0_period_1 : cX0_period.data.toList.drop 24 = dktX0_period_1 := dk_seg dksX0_period_0 24 rfl rfl
theorem dX0_period_0 : decode cX0_period 0 = .ok (.aload_n 0, 1) := dk_42 (dk_at dksX0_period_0 0 rfl rfl)
theorem dX0_period_1 : decode cX0_period 1 = .ok (.getfield 10, 3) := dk_180 0 10 (dk_at dksX0_period_0 1 rfl rfl)
theorem dX0_period_4 : decode cX0_period 4 = .ok (.getfield 64, 3) := dk_180 0 64 (dk_at dksX0_period_0 4 rfl rfl)
theorem dX0_period_7 : decode cX0_period 7 = .ok (.iconst 1, 1) := dk_4 (dk_at dksX0_period_0 7 rfl rfl)
theorem dX0_period_8 : decode cX0_period 8 = .ok (.iaload, 1) := dk_46 (dk_at dksX0_period_0 8 rfl rfl)
theorem dX0_period_9 : decode cX0_period 9 = .ok (.i2l, 1) := dk_133 (dk_at dksX0_period_0 9 rfl rfl)
theorem dX0_period_10 : decode cX0_period 10 = .ok (.aload_n 0, 1) := dk_42 (dk_at dksX0_period_0 10 rfl rfl)
theorem dX0_period_11 : decode cX0_period 11 = .ok (.getfield 10, 3) := dk_180 0 10 (dk_at dksX0_period_0 11 rfl rfl)
theorem dX0_period_14 : decode cX0_period 14 = .ok (.getfield 64, 3) := dk_180 0 64 (dk_at dksX0_period_0 14 rfl rfl)
theorem dX0_period_17 : decode cX0_period 17 = .ok (.iconst 1, 1) := dk_4 (dk_at dksX0_period_0 17 rfl rfl)
theorem dX0_period_18 : decode cX0_period 18 = .ok (.iaload, 1) := dk_46 (dk_at dksX0_period_0 18 rfl rfl)
theorem dX0_period_19 : decode cX0_period 19 = .ok (.i2l, 1) := dk_133 (dk_at dksX0_period_0 19 rfl rfl)
theorem dX0_period_20 : decode cX0_period 20 = .ok (.aload_n 0, 1) := dk_42 (dk_at dksX0_period_0 20 rfl rfl)
theorem dX0_period_21 : decode cX0_period 21 = .ok (.getfield 10, 3) := dk_180 0 10 (dk_at dksX0_period_0 21 rfl rfl)
theorem dX0_period_24 : decode cX0_period 24 = .ok (.getfield 64, 3) := dk_180 0 64 (dk_at dksX0_period_1 0 rfl rfl)
theorem dX0_period_27 : decode cX0_period 27 = .ok (.iconst 2, 1) := dk_5 (dk_at dksX0_period_1 3 rfl rfl)
theorem dX0_period_28 : decode cX0_period 28 = .ok (.iaload, 1) := dk_46 (dk_at dksX0_period_1 4 rfl rfl)
theorem dX0_period_29 : decode cX0_period 29 = .ok (.i2l, 1) := dk_133 (dk_at dksX0_period_1 5 rfl rfl)
theorem dX0_period_30 : decode cX0_period 30 = .ok (.invokestatic 176, 3) := dk_184 0 176 (dk_at dksX0_period_1 6 rfl rfl)
theorem dX0_period_33 : decode cX0_period 33 = .ok (.ldiv, 1) := dk_109 (dk_at dksX0_period_1 9 rfl rfl)
theorem dX0_period_34 : decode cX0_period 34 = .ok (.l2i, 1) := dk_136 (dk_at dksX0_period_1 10 rfl rfl)
theorem dX0_period_35 : decode cX0_period 35 = .ok (.aload_n 0, 1) := dk_42 (dk_at dksX0_period_1 11 rfl rfl)
theorem dX0_period_36 : decode cX0_period 36 = .ok (.getfield 10, 3) := dk_180 0 10 (dk_at dksX0_period_1 12 rfl rfl)
theorem dX0_period_39 : decode cX0_period 39 = .ok (.getfield 64, 3) := dk_180 0 64 (dk_at dksX0_period_1 15 rfl rfl)
theorem dX0_period_42 : decode cX0_period 42 = .ok (.iconst 2, 1) := dk_5 (dk_at dksX0_period_1 18 rfl rfl)
theorem dX0_period_43 : decode cX0_period 43 = .ok (.iaload, 1) := dk_46 (dk_at dksX0_period_1 19 rfl rfl)
theorem dX0_period_44 : decode cX0_period 44 = .ok (.imul, 1) := dk_104 (dk_at dksX0_period_1 20 rfl rfl)
theorem dX0_period_45 : decode cX0_period 45 = .ok (.ireturn, 1) := dk_172 (dk_at dksX0_period_1 21 rfl rfl)
abbrev cX0_common : ByteArray := prog_1_method_8_code
def yX0_common : MethodName := ⟨RX0, "common", "(JJ)J"⟩
def dkwX0_common_1 : List UInt8 := [22, 8, 55, 6, 167, 255, 234, 22, 4, 173]
abbrev dktX0_common_1 : List UInt8 := dkwX0_common_1 ++ []
def dkwX0_common_0 : List UInt8 := [30, 55, 4, 32, 55, 6, 22, 6, 9, 148, 153, 0, 21, 22, 4, 22, 6, 113, 55, 8, 22, 6, 55, 4]
abbrev dktX0_common_0 : List UInt8 := dkwX0_common_0 ++ dktX0_common_1
theorem dksX0_common_0 : cX0_common.data.toList.drop 0 = dktX0_common_0 := by decide +kernel
theorem dksX0_common_1 : cX0_common.data.toList.drop 24 = dktX0_common_1 := dk_seg dksX0_common_0 24 rfl rfl
theorem dX0_common_0 : decode cX0_common 0 = .ok (.lload_n 0, 1) := dk_30 (dk_at dksX0_common_0 0 rfl rfl)
theorem dX0_common_1 : decode cX0_common 1 = .ok (.lstore 4, 2) := dk_55 4 (dk_at dksX0_common_0 1 rfl rfl)
theorem dX0_common_3 : decode cX0_common 3 = .ok (.lload_n 2, 1) := dk_32 (dk_at dksX0_common_0 3 rfl rfl)
theorem dX0_common_4 : decode cX0_common 4 = .ok (.lstore 6, 2) := dk_55 6 (dk_at dksX0_common_0 4 rfl rfl)
theorem dX0_common_6 : decode cX0_common 6 = .ok (.lload 6, 2) := dk_22 6 (dk_at dksX0_common_0 6 rfl rfl)
theorem dX0_common_8 : decode cX0_common 8 = .ok (.lconst 0, 1) := dk_9 (dk_at dksX0_common_0 8 rfl rfl)
theorem dX0_common_9 : decode cX0_common 9 = .ok (.lcmp, 1) := dk_148 (dk_at dksX0_common_0 9 rfl rfl)
theorem dX0_common_10 : decode cX0_common 10 = .ok (.ifCond .eq 21, 3) := dk_153 0 21 (dk_at dksX0_common_0 10 rfl rfl)
theorem dX0_common_13 : decode cX0_common 13 = .ok (.lload 4, 2) := dk_22 4 (dk_at dksX0_common_0 13 rfl rfl)
theorem dX0_common_15 : decode cX0_common 15 = .ok (.lload 6, 2) := dk_22 6 (dk_at dksX0_common_0 15 rfl rfl)
theorem dX0_common_17 : decode cX0_common 17 = .ok (.lrem, 1) := dk_113 (dk_at dksX0_common_0 17 rfl rfl)
theorem dX0_common_18 : decode cX0_common 18 = .ok (.lstore 8, 2) := dk_55 8 (dk_at dksX0_common_0 18 rfl rfl)
theorem dX0_common_20 : decode cX0_common 20 = .ok (.lload 6, 2) := dk_22 6 (dk_at dksX0_common_0 20 rfl rfl)
theorem dX0_common_22 : decode cX0_common 22 = .ok (.lstore 4, 2) := dk_55 4 (dk_at dksX0_common_0 22 rfl rfl)
theorem dX0_common_24 : decode cX0_common 24 = .ok (.lload 8, 2) := dk_22 8 (dk_at dksX0_common_1 0 rfl rfl)
theorem dX0_common_26 : decode cX0_common 26 = .ok (.lstore 6, 2) := dk_55 6 (dk_at dksX0_common_1 2 rfl rfl)
theorem dX0_common_28 : decode cX0_common 28 = .ok (.goto (-22), 3) := dk_167 255 234 (dk_at dksX0_common_1 4 rfl rfl)
theorem dX0_common_31 : decode cX0_common 31 = .ok (.lload 4, 2) := dk_22 4 (dk_at dksX0_common_1 7 rfl rfl)
theorem dX0_common_33 : decode cX0_common 33 = .ok (.lreturn, 1) := dk_173 (dk_at dksX0_common_1 9 rfl rfl)
abbrev cX0_allSpeak : ByteArray := prog_1_method_30_code
def yX0_allSpeak : MethodName := ⟨RX0, "allSpeak", "(IJ)Z"⟩
def dkwX0_allSpeak_1 : List UInt8 := [153, 0, 15, 42, 21, 4, 32, 182, 0, 169, 154, 0, 5, 3, 172, 132, 4, 1, 167, 255, 218, 4, 172]
abbrev dktX0_allSpeak_1 : List UInt8 := dkwX0_allSpeak_1 ++ []
def dkwX0_allSpeak_0 : List UInt8 := [3, 54, 4, 21, 4, 42, 180, 0, 10, 180, 0, 64, 3, 46, 162, 0, 30, 27, 21, 4, 184, 0, 173]
abbrev dktX0_allSpeak_0 : List UInt8 := dkwX0_allSpeak_0 ++ dktX0_allSpeak_1
theorem dksX0_allSpeak_0 : cX0_allSpeak.data.toList.drop 0 = dktX0_allSpeak_0 := by decide +kernel
theorem dksX0_allSpeak_1 : cX0_allSpeak.data.toList.drop 23 = dktX0_allSpeak_1 := dk_seg dksX0_allSpeak_0 23 rfl rfl
theorem dX0_allSpeak_0 : decode cX0_allSpeak 0 = .ok (.iconst 0, 1) := dk_3 (dk_at dksX0_allSpeak_0 0 rfl rfl)
theorem dX0_allSpeak_1 : decode cX0_allSpeak 1 = .ok (.istore 4, 2) := dk_54 4 (dk_at dksX0_allSpeak_0 1 rfl rfl)
theorem dX0_allSpeak_3 : decode cX0_allSpeak 3 = .ok (.iload 4, 2) := dk_21 4 (dk_at dksX0_allSpeak_0 3 rfl rfl)
theorem dX0_allSpeak_5 : decode cX0_allSpeak 5 = .ok (.aload_n 0, 1) := dk_42 (dk_at dksX0_allSpeak_0 5 rfl rfl)
theorem dX0_allSpeak_6 : decode cX0_allSpeak 6 = .ok (.getfield 10, 3) := dk_180 0 10 (dk_at dksX0_allSpeak_0 6 rfl rfl)
theorem dX0_allSpeak_9 : decode cX0_allSpeak 9 = .ok (.getfield 64, 3) := dk_180 0 64 (dk_at dksX0_allSpeak_0 9 rfl rfl)
theorem dX0_allSpeak_12 : decode cX0_allSpeak 12 = .ok (.iconst 0, 1) := dk_3 (dk_at dksX0_allSpeak_0 12 rfl rfl)
theorem dX0_allSpeak_13 : decode cX0_allSpeak 13 = .ok (.iaload, 1) := dk_46 (dk_at dksX0_allSpeak_0 13 rfl rfl)
theorem dX0_allSpeak_14 : decode cX0_allSpeak 14 = .ok (.if_icmp .ge 30, 3) := dk_162 0 30 (dk_at dksX0_allSpeak_0 14 rfl rfl)
theorem dX0_allSpeak_17 : decode cX0_allSpeak 17 = .ok (.iload_n 1, 1) := dk_27 (dk_at dksX0_allSpeak_0 17 rfl rfl)
theorem dX0_allSpeak_18 : decode cX0_allSpeak 18 = .ok (.iload 4, 2) := dk_21 4 (dk_at dksX0_allSpeak_0 18 rfl rfl)
theorem dX0_allSpeak_20 : decode cX0_allSpeak 20 = .ok (.invokestatic 173, 3) := dk_184 0 173 (dk_at dksX0_allSpeak_0 20 rfl rfl)
theorem dX0_allSpeak_23 : decode cX0_allSpeak 23 = .ok (.ifCond .eq 15, 3) := dk_153 0 15 (dk_at dksX0_allSpeak_1 0 rfl rfl)
theorem dX0_allSpeak_26 : decode cX0_allSpeak 26 = .ok (.aload_n 0, 1) := dk_42 (dk_at dksX0_allSpeak_1 3 rfl rfl)
theorem dX0_allSpeak_27 : decode cX0_allSpeak 27 = .ok (.iload 4, 2) := dk_21 4 (dk_at dksX0_allSpeak_1 4 rfl rfl)
theorem dX0_allSpeak_29 : decode cX0_allSpeak 29 = .ok (.lload_n 2, 1) := dk_32 (dk_at dksX0_allSpeak_1 6 rfl rfl)
theorem dX0_allSpeak_30 : decode cX0_allSpeak 30 = .ok (.invokevirtual 169, 3) := dk_182 0 169 (dk_at dksX0_allSpeak_1 7 rfl rfl)
theorem dX0_allSpeak_33 : decode cX0_allSpeak 33 = .ok (.ifCond .ne 5, 3) := dk_154 0 5 (dk_at dksX0_allSpeak_1 10 rfl rfl)
theorem dX0_allSpeak_36 : decode cX0_allSpeak 36 = .ok (.iconst 0, 1) := dk_3 (dk_at dksX0_allSpeak_1 13 rfl rfl)
theorem dX0_allSpeak_37 : decode cX0_allSpeak 37 = .ok (.ireturn, 1) := dk_172 (dk_at dksX0_allSpeak_1 14 rfl rfl)
theorem dX0_allSpeak_38 : decode cX0_allSpeak 38 = .ok (.iinc 4 1, 3) := dk_132 4 1 (dk_at dksX0_allSpeak_1 15 rfl rfl)
theorem dX0_allSpeak_41 : decode cX0_allSpeak 41 = .ok (.goto (-38), 3) := dk_167 255 218 (dk_at dksX0_allSpeak_1 18 rfl rfl)
theorem dX0_allSpeak_44 : decode cX0_allSpeak 44 = .ok (.iconst 1, 1) := dk_4 (dk_at dksX0_allSpeak_1 21 rfl rfl)
theorem dX0_allSpeak_45 : decode cX0_allSpeak 45 = .ok (.ireturn, 1) := dk_172 (dk_at dksX0_allSpeak_1 22 rfl rfl)
abbrev cX0_isPart : ByteArray := prog_1_method_5_code
def yX0_isPart : MethodName := ⟨RX0, "isPart", "(II)Z"⟩
def dkwX0_isPart_0 : List UInt8 := [26, 27, 122, 4, 126, 4, 160, 0, 7, 4, 167, 0, 4, 3, 172]
abbrev dktX0_isPart_0 : List UInt8 := dkwX0_isPart_0 ++ []
theorem dksX0_isPart_0 : cX0_isPart.data.toList.drop 0 = dktX0_isPart_0 := by decide +kernel
theorem dX0_isPart_0 : decode cX0_isPart 0 = .ok (.iload_n 0, 1) := dk_26 (dk_at dksX0_isPart_0 0 rfl rfl)
theorem dX0_isPart_1 : decode cX0_isPart 1 = .ok (.iload_n 1, 1) := dk_27 (dk_at dksX0_isPart_0 1 rfl rfl)
theorem dX0_isPart_2 : decode cX0_isPart 2 = .ok (.ishr, 1) := dk_122 (dk_at dksX0_isPart_0 2 rfl rfl)
theorem dX0_isPart_3 : decode cX0_isPart 3 = .ok (.iconst 1, 1) := dk_4 (dk_at dksX0_isPart_0 3 rfl rfl)
theorem dX0_isPart_4 : decode cX0_isPart 4 = .ok (.iand, 1) := dk_126 (dk_at dksX0_isPart_0 4 rfl rfl)
theorem dX0_isPart_5 : decode cX0_isPart 5 = .ok (.iconst 1, 1) := dk_4 (dk_at dksX0_isPart_0 5 rfl rfl)
theorem dX0_isPart_6 : decode cX0_isPart 6 = .ok (.if_icmp .ne 7, 3) := dk_160 0 7 (dk_at dksX0_isPart_0 6 rfl rfl)
theorem dX0_isPart_9 : decode cX0_isPart 9 = .ok (.iconst 1, 1) := dk_4 (dk_at dksX0_isPart_0 9 rfl rfl)
theorem dX0_isPart_10 : decode cX0_isPart 10 = .ok (.goto 4, 3) := dk_167 0 4 (dk_at dksX0_isPart_0 10 rfl rfl)
theorem dX0_isPart_13 : decode cX0_isPart 13 = .ok (.iconst 0, 1) := dk_3 (dk_at dksX0_isPart_0 13 rfl rfl)
theorem dX0_isPart_14 : decode cX0_isPart 14 = .ok (.ireturn, 1) := dk_172 (dk_at dksX0_isPart_0 14 rfl rfl)
abbrev cX0_against : ByteArray := prog_1_method_33_code
def yX0_against : MethodName := ⟨RX0, "against", "(I)I"⟩
def dkwX0_against_3 : List UInt8 := [132, 2, 1, 167, 255, 185, 2, 172]
abbrev dktX0_against_3 : List UInt8 := dkwX0_against_3 ++ []
def dkwX0_against_2 : List UInt8 := [42, 28, 29, 182, 0, 180, 154, 0, 10, 16, 12, 28, 104, 29, 96, 172, 132, 3, 1, 167, 255, 208]
abbrev dktX0_against_2 : List UInt8 := dkwX0_against_2 ++ dktX0_against_3
def dkwX0_against_1 : List UInt8 := [180, 0, 64, 3, 46, 162, 0, 41, 27, 28, 184, 0, 173, 153, 0, 27, 27, 29, 184, 0, 173, 153, 0, 19]
abbrev dktX0_against_1 : List UInt8 := dkwX0_against_1 ++ dktX0_against_2
def dkwX0_against_0 : List UInt8 := [3, 61, 28, 42, 180, 0, 10, 180, 0, 64, 3, 46, 162, 0, 64, 28, 4, 96, 62, 29, 42, 180, 0, 10]
abbrev dktX0_against_0 : List UInt8 := dkwX0_against_0 ++ dktX0_against_1
theorem dksX0_against_0 : cX0_against.data.toList.drop 0 = dktX0_against_0 := by decide +kernel
theorem dksX0_against_1 : cX0_against.data.toList.drop 24 = dktX0_against_1 := dk_seg dksX0_against_0 24 rfl rfl
theorem dksX0_against_2 : cX0_against.data.toList.drop 48 = dktX0_against_2 := dk_seg dksX0_against_1 24 rfl rfl
theorem dksX0_against_3 : cX0_against.data.toList.drop 70 = dktX0_against_3 := dk_seg dksX0_against_2 22 rfl rfl
theorem dX0_against_0 : decode cX0_against 0 = .ok (.iconst 0, 1) := dk_3 (dk_at dksX0_against_0 0 rfl rfl)
theorem dX0_against_1 : decode cX0_against 1 = .ok (.istore_n 2, 1) := dk_61 (dk_at dksX0_against_0 1 rfl rfl)
theorem dX0_against_2 : decode cX0_against 2 = .ok (.iload_n 2, 1) := dk_28 (dk_at dksX0_against_0 2 rfl rfl)
theorem dX0_against_3 : decode cX0_against 3 = .ok (.aload_n 0, 1) := dk_42 (dk_at dksX0_against_0 3 rfl rfl)
theorem dX0_against_4 : decode cX0_against 4 = .ok (.getfield 10, 3) := dk_180 0 10 (dk_at dksX0_against_0 4 rfl rfl)
theorem dX0_against_7 : decode cX0_against 7 = .ok (.getfield 64, 3) := dk_180 0 64 (dk_at dksX0_against_0 7 rfl rfl)
theorem dX0_against_10 : decode cX0_against 10 = .ok (.iconst 0, 1) := dk_3 (dk_at dksX0_against_0 10 rfl rfl)
theorem dX0_against_11 : decode cX0_against 11 = .ok (.iaload, 1) := dk_46 (dk_at dksX0_against_0 11 rfl rfl)
theorem dX0_against_12 : decode cX0_against 12 = .ok (.if_icmp .ge 64, 3) := dk_162 0 64 (dk_at dksX0_against_0 12 rfl rfl)
theorem dX0_against_15 : decode cX0_against 15 = .ok (.iload_n 2, 1) := dk_28 (dk_at dksX0_against_0 15 rfl rfl)
theorem dX0_against_16 : decode cX0_against 16 = .ok (.iconst 1, 1) := dk_4 (dk_at dksX0_against_0 16 rfl rfl)
theorem dX0_against_17 : decode cX0_against 17 = .ok (.iadd, 1) := dk_96 (dk_at dksX0_against_0 17 rfl rfl)
theorem dX0_against_18 : decode cX0_against 18 = .ok (.istore_n 3, 1) := dk_62 (dk_at dksX0_against_0 18 rfl rfl)
theorem dX0_against_19 : decode cX0_against 19 = .ok (.iload_n 3, 1) := dk_29 (dk_at dksX0_against_0 19 rfl rfl)
theorem dX0_against_20 : decode cX0_against 20 = .ok (.aload_n 0, 1) := dk_42 (dk_at dksX0_against_0 20 rfl rfl)
theorem dX0_against_21 : decode cX0_against 21 = .ok (.getfield 10, 3) := dk_180 0 10 (dk_at dksX0_against_0 21 rfl rfl)
theorem dX0_against_24 : decode cX0_against 24 = .ok (.getfield 64, 3) := dk_180 0 64 (dk_at dksX0_against_1 0 rfl rfl)
theorem dX0_against_27 : decode cX0_against 27 = .ok (.iconst 0, 1) := dk_3 (dk_at dksX0_against_1 3 rfl rfl)
theorem dX0_against_28 : decode cX0_against 28 = .ok (.iaload, 1) := dk_46 (dk_at dksX0_against_1 4 rfl rfl)
theorem dX0_against_29 : decode cX0_against 29 = .ok (.if_icmp .ge 41, 3) := dk_162 0 41 (dk_at dksX0_against_1 5 rfl rfl)
theorem dX0_against_32 : decode cX0_against 32 = .ok (.iload_n 1, 1) := dk_27 (dk_at dksX0_against_1 8 rfl rfl)
theorem dX0_against_33 : decode cX0_against 33 = .ok (.iload_n 2, 1) := dk_28 (dk_at dksX0_against_1 9 rfl rfl)
theorem dX0_against_34 : decode cX0_against 34 = .ok (.invokestatic 173, 3) := dk_184 0 173 (dk_at dksX0_against_1 10 rfl rfl)
theorem dX0_against_37 : decode cX0_against 37 = .ok (.ifCond .eq 27, 3) := dk_153 0 27 (dk_at dksX0_against_1 13 rfl rfl)
theorem dX0_against_40 : decode cX0_against 40 = .ok (.iload_n 1, 1) := dk_27 (dk_at dksX0_against_1 16 rfl rfl)
theorem dX0_against_41 : decode cX0_against 41 = .ok (.iload_n 3, 1) := dk_29 (dk_at dksX0_against_1 17 rfl rfl)
theorem dX0_against_42 : decode cX0_against 42 = .ok (.invokestatic 173, 3) := dk_184 0 173 (dk_at dksX0_against_1 18 rfl rfl)
theorem dX0_against_45 : decode cX0_against 45 = .ok (.ifCond .eq 19, 3) := dk_153 0 19 (dk_at dksX0_against_1 21 rfl rfl)
theorem dX0_against_48 : decode cX0_against 48 = .ok (.aload_n 0, 1) := dk_42 (dk_at dksX0_against_2 0 rfl rfl)
theorem dX0_against_49 : decode cX0_against 49 = .ok (.iload_n 2, 1) := dk_28 (dk_at dksX0_against_2 1 rfl rfl)
theorem dX0_against_50 : decode cX0_against 50 = .ok (.iload_n 3, 1) := dk_29 (dk_at dksX0_against_2 2 rfl rfl)
theorem dX0_against_51 : decode cX0_against 51 = .ok (.invokevirtual 180, 3) := dk_182 0 180 (dk_at dksX0_against_2 3 rfl rfl)
theorem dX0_against_54 : decode cX0_against 54 = .ok (.ifCond .ne 10, 3) := dk_154 0 10 (dk_at dksX0_against_2 6 rfl rfl)
theorem dX0_against_57 : decode cX0_against 57 = .ok (.bipush 12, 2) := dk_16 12 (dk_at dksX0_against_2 9 rfl rfl)
theorem dX0_against_59 : decode cX0_against 59 = .ok (.iload_n 2, 1) := dk_28 (dk_at dksX0_against_2 11 rfl rfl)
theorem dX0_against_60 : decode cX0_against 60 = .ok (.imul, 1) := dk_104 (dk_at dksX0_against_2 12 rfl rfl)
theorem dX0_against_61 : decode cX0_against 61 = .ok (.iload_n 3, 1) := dk_29 (dk_at dksX0_against_2 13 rfl rfl)
theorem dX0_against_62 : decode cX0_against 62 = .ok (.iadd, 1) := dk_96 (dk_at dksX0_against_2 14 rfl rfl)
theorem dX0_against_63 : decode cX0_against 63 = .ok (.ireturn, 1) := dk_172 (dk_at dksX0_against_2 15 rfl rfl)
theorem dX0_against_64 : decode cX0_against 64 = .ok (.iinc 3 1, 3) := dk_132 3 1 (dk_at dksX0_against_2 16 rfl rfl)
theorem dX0_against_67 : decode cX0_against 67 = .ok (.goto (-48), 3) := dk_167 255 208 (dk_at dksX0_against_2 19 rfl rfl)
theorem dX0_against_70 : decode cX0_against 70 = .ok (.iinc 2 1, 3) := dk_132 2 1 (dk_at dksX0_against_3 0 rfl rfl)
theorem dX0_against_73 : decode cX0_against 73 = .ok (.goto (-71), 3) := dk_167 255 185 (dk_at dksX0_against_3 3 rfl rfl)
theorem dX0_against_76 : decode cX0_against 76 = .ok (.iconst (-1), 1) := dk_2 (dk_at dksX0_against_3 6 rfl rfl)
theorem dX0_against_77 : decode cX0_against 77 = .ok (.ireturn, 1) := dk_172 (dk_at dksX0_against_3 7 rfl rfl)
abbrev cX0_meet : ByteArray := prog_1_method_32_code
def yX0_meet : MethodName := ⟨RX0, "meet", "(II)Z"⟩
def dkwX0_meet_2 : List UInt8 := [154, 0, 7, 4, 167, 0, 4, 3, 172]
abbrev dktX0_meet_2 : List UInt8 := dkwX0_meet_2 ++ []
def dkwX0_meet_1 : List UInt8 := [180, 0, 86, 27, 46, 133, 42, 180, 0, 10, 180, 0, 86, 28, 46, 133, 184, 0, 176, 113, 9, 148]
abbrev dktX0_meet_1 : List UInt8 := dkwX0_meet_1 ++ dktX0_meet_2
def dkwX0_meet_0 : List UInt8 := [42, 180, 0, 10, 180, 0, 89, 27, 46, 42, 180, 0, 10, 180, 0, 89, 28, 46, 100, 133, 42, 180, 0, 10]
abbrev dktX0_meet_0 : List UInt8 := dkwX0_meet_0 ++ dktX0_meet_1
theorem dksX0_meet_0 : cX0_meet.data.toList.drop 0 = dktX0_meet_0 := by decide +kernel
theorem dksX0_meet_1 : cX0_meet.data.toList.drop 24 = dktX0_meet_1 := dk_seg dksX0_meet_0 24 rfl rfl
theorem dksX0_meet_2 : cX0_meet.data.toList.drop 46 = dktX0_meet_2 := dk_seg dksX0_meet_1 22 rfl rfl
theorem dX0_meet_0 : decode cX0_meet 0 = .ok (.aload_n 0, 1) := dk_42 (dk_at dksX0_meet_0 0 rfl rfl)
theorem dX0_meet_1 : decode cX0_meet 1 = .ok (.getfield 10, 3) := dk_180 0 10 (dk_at dksX0_meet_0 1 rfl rfl)
theorem dX0_meet_4 : decode cX0_meet 4 = .ok (.getfield 89, 3) := dk_180 0 89 (dk_at dksX0_meet_0 4 rfl rfl)
theorem dX0_meet_7 : decode cX0_meet 7 = .ok (.iload_n 1, 1) := dk_27 (dk_at dksX0_meet_0 7 rfl rfl)
theorem dX0_meet_8 : decode cX0_meet 8 = .ok (.iaload, 1) := dk_46 (dk_at dksX0_meet_0 8 rfl rfl)
theorem dX0_meet_9 : decode cX0_meet 9 = .ok (.aload_n 0, 1) := dk_42 (dk_at dksX0_meet_0 9 rfl rfl)
theorem dX0_meet_10 : decode cX0_meet 10 = .ok (.getfield 10, 3) := dk_180 0 10 (dk_at dksX0_meet_0 10 rfl rfl)
theorem dX0_meet_13 : decode cX0_meet 13 = .ok (.getfield 89, 3) := dk_180 0 89 (dk_at dksX0_meet_0 13 rfl rfl)
theorem dX0_meet_16 : decode cX0_meet 16 = .ok (.iload_n 2, 1) := dk_28 (dk_at dksX0_meet_0 16 rfl rfl)
theorem dX0_meet_17 : decode cX0_meet 17 = .ok (.iaload, 1) := dk_46 (dk_at dksX0_meet_0 17 rfl rfl)
theorem dX0_meet_18 : decode cX0_meet 18 = .ok (.isub, 1) := dk_100 (dk_at dksX0_meet_0 18 rfl rfl)
theorem dX0_meet_19 : decode cX0_meet 19 = .ok (.i2l, 1) := dk_133 (dk_at dksX0_meet_0 19 rfl rfl)
theorem dX0_meet_20 : decode cX0_meet 20 = .ok (.aload_n 0, 1) := dk_42 (dk_at dksX0_meet_0 20 rfl rfl)
theorem dX0_meet_21 : decode cX0_meet 21 = .ok (.getfield 10, 3) := dk_180 0 10 (dk_at dksX0_meet_0 21 rfl rfl)
theorem dX0_meet_24 : decode cX0_meet 24 = .ok (.getfield 86, 3) := dk_180 0 86 (dk_at dksX0_meet_1 0 rfl rfl)
theorem dX0_meet_27 : decode cX0_meet 27 = .ok (.iload_n 1, 1) := dk_27 (dk_at dksX0_meet_1 3 rfl rfl)
theorem dX0_meet_28 : decode cX0_meet 28 = .ok (.iaload, 1) := dk_46 (dk_at dksX0_meet_1 4 rfl rfl)
theorem dX0_meet_29 : decode cX0_meet 29 = .ok (.i2l, 1) := dk_133 (dk_at dksX0_meet_1 5 rfl rfl)
theorem dX0_meet_30 : decode cX0_meet 30 = .ok (.aload_n 0, 1) := dk_42 (dk_at dksX0_meet_1 6 rfl rfl)
theorem dX0_meet_31 : decode cX0_meet 31 = .ok (.getfield 10, 3) := dk_180 0 10 (dk_at dksX0_meet_1 7 rfl rfl)
theorem dX0_meet_34 : decode cX0_meet 34 = .ok (.getfield 86, 3) := dk_180 0 86 (dk_at dksX0_meet_1 10 rfl rfl)
theorem dX0_meet_37 : decode cX0_meet 37 = .ok (.iload_n 2, 1) := dk_28 (dk_at dksX0_meet_1 13 rfl rfl)
theorem dX0_meet_38 : decode cX0_meet 38 = .ok (.iaload, 1) := dk_46 (dk_at dksX0_meet_1 14 rfl rfl)
theorem dX0_meet_39 : decode cX0_meet 39 = .ok (.i2l, 1) := dk_133 (dk_at dksX0_meet_1 15 rfl rfl)
theorem dX0_meet_40 : decode cX0_meet 40 = .ok (.invokestatic 176, 3) := dk_184 0 176 (dk_at dksX0_meet_1 16 rfl rfl)
theorem dX0_meet_43 : decode cX0_meet 43 = .ok (.lrem, 1) := dk_113 (dk_at dksX0_meet_1 19 rfl rfl)
theorem dX0_meet_44 : decode cX0_meet 44 = .ok (.lconst 0, 1) := dk_9 (dk_at dksX0_meet_1 20 rfl rfl)
theorem dX0_meet_45 : decode cX0_meet 45 = .ok (.lcmp, 1) := dk_148 (dk_at dksX0_meet_1 21 rfl rfl)
theorem dX0_meet_46 : decode cX0_meet 46 = .ok (.ifCond .ne 7, 3) := dk_154 0 7 (dk_at dksX0_meet_2 0 rfl rfl)
theorem dX0_meet_49 : decode cX0_meet 49 = .ok (.iconst 1, 1) := dk_4 (dk_at dksX0_meet_2 3 rfl rfl)
theorem dX0_meet_50 : decode cX0_meet 50 = .ok (.goto 4, 3) := dk_167 0 4 (dk_at dksX0_meet_2 4 rfl rfl)
theorem dX0_meet_53 : decode cX0_meet 53 = .ok (.iconst 0, 1) := dk_3 (dk_at dksX0_meet_2 7 rfl rfl)
theorem dX0_meet_54 : decode cX0_meet 54 = .ok (.ireturn, 1) := dk_172 (dk_at dksX0_meet_2 8 rfl rfl)
abbrev cX0_hasClock : ByteArray := prog_1_method_37_code
def yX0_hasClock : MethodName := ⟨RX0, "hasClock", "(I)Z"⟩
def dkwX0_hasClock_5 : List UInt8 := [167, 255, 142, 3, 172]
abbrev dktX0_hasClock_5 : List UInt8 := dkwX0_hasClock_5 ++ []
def dkwX0_hasClock_4 : List UInt8 := [154, 0, 7, 4, 167, 0, 4, 3, 62, 132, 4, 1, 167, 255, 177, 29, 153, 0, 5, 4, 172, 132, 2, 1]
abbrev dktX0_hasClock_4 : List UInt8 := dkwX0_hasClock_4 ++ dktX0_hasClock_5
def dkwX0_hasClock_3 : List UInt8 := [180, 0, 86, 21, 4, 46, 133, 42, 180, 0, 10, 180, 0, 64, 5, 46, 133, 184, 0, 176, 113, 9, 148]
abbrev dktX0_hasClock_3 : List UInt8 := dkwX0_hasClock_3 ++ dktX0_hasClock_4
def dkwX0_hasClock_2 : List UInt8 := [184, 0, 173, 153, 0, 46, 28, 42, 180, 0, 10, 180, 0, 89, 21, 4, 46, 100, 133, 42, 180, 0, 10]
abbrev dktX0_hasClock_2 : List UInt8 := dkwX0_hasClock_2 ++ dktX0_hasClock_3
def dkwX0_hasClock_1 : List UInt8 := [54, 4, 21, 4, 42, 180, 0, 10, 180, 0, 64, 3, 46, 162, 0, 71, 29, 153, 0, 67, 27, 21, 4]
abbrev dktX0_hasClock_1 : List UInt8 := dkwX0_hasClock_1 ++ dktX0_hasClock_2
def dkwX0_hasClock_0 : List UInt8 := [3, 61, 28, 42, 180, 0, 10, 180, 0, 64, 5, 46, 162, 0, 107, 42, 27, 28, 182, 0, 209, 62, 3]
abbrev dktX0_hasClock_0 : List UInt8 := dkwX0_hasClock_0 ++ dktX0_hasClock_1
theorem dksX0_hasClock_0 : cX0_hasClock.data.toList.drop 0 = dktX0_hasClock_0 := by decide +kernel
theorem dksX0_hasClock_1 : cX0_hasClock.data.toList.drop 23 = dktX0_hasClock_1 := dk_seg dksX0_hasClock_0 23 rfl rfl
theorem dksX0_hasClock_2 : cX0_hasClock.data.toList.drop 46 = dktX0_hasClock_2 := dk_seg dksX0_hasClock_1 23 rfl rfl
theorem dksX0_hasClock_3 : cX0_hasClock.data.toList.drop 69 = dktX0_hasClock_3 := dk_seg dksX0_hasClock_2 23 rfl rfl
theorem dksX0_hasClock_4 : cX0_hasClock.data.toList.drop 92 = dktX0_hasClock_4 := dk_seg dksX0_hasClock_3 23 rfl rfl
theorem dksX0_hasClock_5 : cX0_hasClock.data.toList.drop 116 = dktX0_hasClock_5 := dk_seg dksX0_hasClock_4 24 rfl rfl
theorem dX0_hasClock_0 : decode cX0_hasClock 0 = .ok (.iconst 0, 1) := dk_3 (dk_at dksX0_hasClock_0 0 rfl rfl)
theorem dX0_hasClock_1 : decode cX0_hasClock 1 = .ok (.istore_n 2, 1) := dk_61 (dk_at dksX0_hasClock_0 1 rfl rfl)
theorem dX0_hasClock_2 : decode cX0_hasClock 2 = .ok (.iload_n 2, 1) := dk_28 (dk_at dksX0_hasClock_0 2 rfl rfl)
theorem dX0_hasClock_3 : decode cX0_hasClock 3 = .ok (.aload_n 0, 1) := dk_42 (dk_at dksX0_hasClock_0 3 rfl rfl)
theorem dX0_hasClock_4 : decode cX0_hasClock 4 = .ok (.getfield 10, 3) := dk_180 0 10 (dk_at dksX0_hasClock_0 4 rfl rfl)
theorem dX0_hasClock_7 : decode cX0_hasClock 7 = .ok (.getfield 64, 3) := dk_180 0 64 (dk_at dksX0_hasClock_0 7 rfl rfl)
theorem dX0_hasClock_10 : decode cX0_hasClock 10 = .ok (.iconst 2, 1) := dk_5 (dk_at dksX0_hasClock_0 10 rfl rfl)
theorem dX0_hasClock_11 : decode cX0_hasClock 11 = .ok (.iaload, 1) := dk_46 (dk_at dksX0_hasClock_0 11 rfl rfl)
theorem dX0_hasClock_12 : decode cX0_hasClock 12 = .ok (.if_icmp .ge 107, 3) := dk_162 0 107 (dk_at dksX0_hasClock_0 12 rfl rfl)
theorem dX0_hasClock_15 : decode cX0_hasClock 15 = .ok (.aload_n 0, 1) := dk_42 (dk_at dksX0_hasClock_0 15 rfl rfl)
theorem dX0_hasClock_16 : decode cX0_hasClock 16 = .ok (.iload_n 1, 1) := dk_27 (dk_at dksX0_hasClock_0 16 rfl rfl)
theorem dX0_hasClock_17 : decode cX0_hasClock 17 = .ok (.iload_n 2, 1) := dk_28 (dk_at dksX0_hasClock_0 17 rfl rfl)
theorem dX0_hasClock_18 : decode cX0_hasClock 18 = .ok (.invokevirtual 209, 3) := dk_182 0 209 (dk_at dksX0_hasClock_0 18 rfl rfl)
theorem dX0_hasClock_21 : decode cX0_hasClock 21 = .ok (.istore_n 3, 1) := dk_62 (dk_at dksX0_hasClock_0 21 rfl rfl)
theorem dX0_hasClock_22 : decode cX0_hasClock 22 = .ok (.iconst 0, 1) := dk_3 (dk_at dksX0_hasClock_0 22 rfl rfl)
theorem dX0_hasClock_23 : decode cX0_hasClock 23 = .ok (.istore 4, 2) := dk_54 4 (dk_at dksX0_hasClock_1 0 rfl rfl)
theorem dX0_hasClock_25 : decode cX0_hasClock 25 = .ok (.iload 4, 2) := dk_21 4 (dk_at dksX0_hasClock_1 2 rfl rfl)
theorem dX0_hasClock_27 : decode cX0_hasClock 27 = .ok (.aload_n 0, 1) := dk_42 (dk_at dksX0_hasClock_1 4 rfl rfl)
theorem dX0_hasClock_28 : decode cX0_hasClock 28 = .ok (.getfield 10, 3) := dk_180 0 10 (dk_at dksX0_hasClock_1 5 rfl rfl)
theorem dX0_hasClock_31 : decode cX0_hasClock 31 = .ok (.getfield 64, 3) := dk_180 0 64 (dk_at dksX0_hasClock_1 8 rfl rfl)
theorem dX0_hasClock_34 : decode cX0_hasClock 34 = .ok (.iconst 0, 1) := dk_3 (dk_at dksX0_hasClock_1 11 rfl rfl)
theorem dX0_hasClock_35 : decode cX0_hasClock 35 = .ok (.iaload, 1) := dk_46 (dk_at dksX0_hasClock_1 12 rfl rfl)
theorem dX0_hasClock_36 : decode cX0_hasClock 36 = .ok (.if_icmp .ge 71, 3) := dk_162 0 71 (dk_at dksX0_hasClock_1 13 rfl rfl)
theorem dX0_hasClock_39 : decode cX0_hasClock 39 = .ok (.iload_n 3, 1) := dk_29 (dk_at dksX0_hasClock_1 16 rfl rfl)
theorem dX0_hasClock_40 : decode cX0_hasClock 40 = .ok (.ifCond .eq 67, 3) := dk_153 0 67 (dk_at dksX0_hasClock_1 17 rfl rfl)
theorem dX0_hasClock_43 : decode cX0_hasClock 43 = .ok (.iload_n 1, 1) := dk_27 (dk_at dksX0_hasClock_1 20 rfl rfl)
theorem dX0_hasClock_44 : decode cX0_hasClock 44 = .ok (.iload 4, 2) := dk_21 4 (dk_at dksX0_hasClock_1 21 rfl rfl)
theorem dX0_hasClock_46 : decode cX0_hasClock 46 = .ok (.invokestatic 173, 3) := dk_184 0 173 (dk_at dksX0_hasClock_2 0 rfl rfl)
theorem dX0_hasClock_49 : decode cX0_hasClock 49 = .ok (.ifCond .eq 46, 3) := dk_153 0 46 (dk_at dksX0_hasClock_2 3 rfl rfl)
theorem dX0_hasClock_52 : decode cX0_hasClock 52 = .ok (.iload_n 2, 1) := dk_28 (dk_at dksX0_hasClock_2 6 rfl rfl)
theorem dX0_hasClock_53 : decode cX0_hasClock 53 = .ok (.aload_n 0, 1) := dk_42 (dk_at dksX0_hasClock_2 7 rfl rfl)
theorem dX0_hasClock_54 : decode cX0_hasClock 54 = .ok (.getfield 10, 3) := dk_180 0 10 (dk_at dksX0_hasClock_2 8 rfl rfl)
theorem dX0_hasClock_57 : decode cX0_hasClock 57 = .ok (.getfield 89, 3) := dk_180 0 89 (dk_at dksX0_hasClock_2 11 rfl rfl)
theorem dX0_hasClock_60 : decode cX0_hasClock 60 = .ok (.iload 4, 2) := dk_21 4 (dk_at dksX0_hasClock_2 14 rfl rfl)
theorem dX0_hasClock_62 : decode cX0_hasClock 62 = .ok (.iaload, 1) := dk_46 (dk_at dksX0_hasClock_2 16 rfl rfl)
theorem dX0_hasClock_63 : decode cX0_hasClock 63 = .ok (.isub, 1) := dk_100 (dk_at dksX0_hasClock_2 17 rfl rfl)
theorem dX0_hasClock_64 : decode cX0_hasClock 64 = .ok (.i2l, 1) := dk_133 (dk_at dksX0_hasClock_2 18 rfl rfl)
theorem dX0_hasClock_65 : decode cX0_hasClock 65 = .ok (.aload_n 0, 1) := dk_42 (dk_at dksX0_hasClock_2 19 rfl rfl)
theorem dX0_hasClock_66 : decode cX0_hasClock 66 = .ok (.getfield 10, 3) := dk_180 0 10 (dk_at dksX0_hasClock_2 20 rfl rfl)
theorem dX0_hasClock_69 : decode cX0_hasClock 69 = .ok (.getfield 86, 3) := dk_180 0 86 (dk_at dksX0_hasClock_3 0 rfl rfl)
theorem dX0_hasClock_72 : decode cX0_hasClock 72 = .ok (.iload 4, 2) := dk_21 4 (dk_at dksX0_hasClock_3 3 rfl rfl)
theorem dX0_hasClock_74 : decode cX0_hasClock 74 = .ok (.iaload, 1) := dk_46 (dk_at dksX0_hasClock_3 5 rfl rfl)
theorem dX0_hasClock_75 : decode cX0_hasClock 75 = .ok (.i2l, 1) := dk_133 (dk_at dksX0_hasClock_3 6 rfl rfl)
theorem dX0_hasClock_76 : decode cX0_hasClock 76 = .ok (.aload_n 0, 1) := dk_42 (dk_at dksX0_hasClock_3 7 rfl rfl)
theorem dX0_hasClock_77 : decode cX0_hasClock 77 = .ok (.getfield 10, 3) := dk_180 0 10 (dk_at dksX0_hasClock_3 8 rfl rfl)
theorem dX0_hasClock_80 : decode cX0_hasClock 80 = .ok (.getfield 64, 3) := dk_180 0 64 (dk_at dksX0_hasClock_3 11 rfl rfl)
theorem dX0_hasClock_83 : decode cX0_hasClock 83 = .ok (.iconst 2, 1) := dk_5 (dk_at dksX0_hasClock_3 14 rfl rfl)
theorem dX0_hasClock_84 : decode cX0_hasClock 84 = .ok (.iaload, 1) := dk_46 (dk_at dksX0_hasClock_3 15 rfl rfl)
theorem dX0_hasClock_85 : decode cX0_hasClock 85 = .ok (.i2l, 1) := dk_133 (dk_at dksX0_hasClock_3 16 rfl rfl)
theorem dX0_hasClock_86 : decode cX0_hasClock 86 = .ok (.invokestatic 176, 3) := dk_184 0 176 (dk_at dksX0_hasClock_3 17 rfl rfl)
theorem dX0_hasClock_89 : decode cX0_hasClock 89 = .ok (.lrem, 1) := dk_113 (dk_at dksX0_hasClock_3 20 rfl rfl)
theorem dX0_hasClock_90 : decode cX0_hasClock 90 = .ok (.lconst 0, 1) := dk_9 (dk_at dksX0_hasClock_3 21 rfl rfl)
theorem dX0_hasClock_91 : decode cX0_hasClock 91 = .ok (.lcmp, 1) := dk_148 (dk_at dksX0_hasClock_3 22 rfl rfl)
theorem dX0_hasClock_92 : decode cX0_hasClock 92 = .ok (.ifCond .ne 7, 3) := dk_154 0 7 (dk_at dksX0_hasClock_4 0 rfl rfl)
theorem dX0_hasClock_95 : decode cX0_hasClock 95 = .ok (.iconst 1, 1) := dk_4 (dk_at dksX0_hasClock_4 3 rfl rfl)
theorem dX0_hasClock_96 : decode cX0_hasClock 96 = .ok (.goto 4, 3) := dk_167 0 4 (dk_at dksX0_hasClock_4 4 rfl rfl)
theorem dX0_hasClock_99 : decode cX0_hasClock 99 = .ok (.iconst 0, 1) := dk_3 (dk_at dksX0_hasClock_4 7 rfl rfl)
theorem dX0_hasClock_100 : decode cX0_hasClock 100 = .ok (.istore_n 3, 1) := dk_62 (dk_at dksX0_hasClock_4 8 rfl rfl)
theorem dX0_hasClock_101 : decode cX0_hasClock 101 = .ok (.iinc 4 1, 3) := dk_132 4 1 (dk_at dksX0_hasClock_4 9 rfl rfl)
theorem dX0_hasClock_104 : decode cX0_hasClock 104 = .ok (.goto (-79), 3) := dk_167 255 177 (dk_at dksX0_hasClock_4 12 rfl rfl)
theorem dX0_hasClock_107 : decode cX0_hasClock 107 = .ok (.iload_n 3, 1) := dk_29 (dk_at dksX0_hasClock_4 15 rfl rfl)
theorem dX0_hasClock_108 : decode cX0_hasClock 108 = .ok (.ifCond .eq 5, 3) := dk_153 0 5 (dk_at dksX0_hasClock_4 16 rfl rfl)
theorem dX0_hasClock_111 : decode cX0_hasClock 111 = .ok (.iconst 1, 1) := dk_4 (dk_at dksX0_hasClock_4 19 rfl rfl)
theorem dX0_hasClock_112 : decode cX0_hasClock 112 = .ok (.ireturn, 1) := dk_172 (dk_at dksX0_hasClock_4 20 rfl rfl)
theorem dX0_hasClock_113 : decode cX0_hasClock 113 = .ok (.iinc 2 1, 3) := dk_132 2 1 (dk_at dksX0_hasClock_4 21 rfl rfl)
theorem dX0_hasClock_116 : decode cX0_hasClock 116 = .ok (.goto (-114), 3) := dk_167 255 142 (dk_at dksX0_hasClock_5 0 rfl rfl)
theorem dX0_hasClock_119 : decode cX0_hasClock 119 = .ok (.iconst 0, 1) := dk_3 (dk_at dksX0_hasClock_5 3 rfl rfl)
theorem dX0_hasClock_120 : decode cX0_hasClock 120 = .ok (.ireturn, 1) := dk_172 (dk_at dksX0_hasClock_5 4 rfl rfl)
abbrev cX0_isClear : ByteArray := prog_1_method_31_code
def yX0_isClear : MethodName := ⟨RX0, "isClear", "(II)Z"⟩
def dkwX0_isClear_1 : List UInt8 := [29, 28, 182, 0, 162, 153, 0, 5, 3, 172, 132, 3, 1, 167, 255, 221, 4, 172]
abbrev dktX0_isClear_1 : List UInt8 := dkwX0_isClear_1 ++ []
def dkwX0_isClear_0 : List UInt8 := [3, 62, 29, 42, 180, 0, 10, 180, 0, 64, 3, 46, 162, 0, 28, 27, 29, 184, 0, 173, 153, 0, 14, 42]
abbrev dktX0_isClear_0 : List UInt8 := dkwX0_isClear_0 ++ dktX0_isClear_1
theorem dksX0_isClear_0 : cX0_isClear.data.toList.drop 0 = dktX0_isClear_0 := by decide +kernel
theorem dksX0_isClear_1 : cX0_isClear.data.toList.drop 24 = dktX0_isClear_1 := dk_seg dksX0_isClear_0 24 rfl rfl
theorem dX0_isClear_0 : decode cX0_isClear 0 = .ok (.iconst 0, 1) := dk_3 (dk_at dksX0_isClear_0 0 rfl rfl)
theorem dX0_isClear_1 : decode cX0_isClear 1 = .ok (.istore_n 3, 1) := dk_62 (dk_at dksX0_isClear_0 1 rfl rfl)
theorem dX0_isClear_2 : decode cX0_isClear 2 = .ok (.iload_n 3, 1) := dk_29 (dk_at dksX0_isClear_0 2 rfl rfl)
theorem dX0_isClear_3 : decode cX0_isClear 3 = .ok (.aload_n 0, 1) := dk_42 (dk_at dksX0_isClear_0 3 rfl rfl)
theorem dX0_isClear_4 : decode cX0_isClear 4 = .ok (.getfield 10, 3) := dk_180 0 10 (dk_at dksX0_isClear_0 4 rfl rfl)
theorem dX0_isClear_7 : decode cX0_isClear 7 = .ok (.getfield 64, 3) := dk_180 0 64 (dk_at dksX0_isClear_0 7 rfl rfl)
theorem dX0_isClear_10 : decode cX0_isClear 10 = .ok (.iconst 0, 1) := dk_3 (dk_at dksX0_isClear_0 10 rfl rfl)
theorem dX0_isClear_11 : decode cX0_isClear 11 = .ok (.iaload, 1) := dk_46 (dk_at dksX0_isClear_0 11 rfl rfl)
theorem dX0_isClear_12 : decode cX0_isClear 12 = .ok (.if_icmp .ge 28, 3) := dk_162 0 28 (dk_at dksX0_isClear_0 12 rfl rfl)
theorem dX0_isClear_15 : decode cX0_isClear 15 = .ok (.iload_n 1, 1) := dk_27 (dk_at dksX0_isClear_0 15 rfl rfl)
theorem dX0_isClear_16 : decode cX0_isClear 16 = .ok (.iload_n 3, 1) := dk_29 (dk_at dksX0_isClear_0 16 rfl rfl)
theorem dX0_isClear_17 : decode cX0_isClear 17 = .ok (.invokestatic 173, 3) := dk_184 0 173 (dk_at dksX0_isClear_0 17 rfl rfl)
theorem dX0_isClear_20 : decode cX0_isClear 20 = .ok (.ifCond .eq 14, 3) := dk_153 0 14 (dk_at dksX0_isClear_0 20 rfl rfl)
theorem dX0_isClear_23 : decode cX0_isClear 23 = .ok (.aload_n 0, 1) := dk_42 (dk_at dksX0_isClear_0 23 rfl rfl)
theorem dX0_isClear_24 : decode cX0_isClear 24 = .ok (.iload_n 3, 1) := dk_29 (dk_at dksX0_isClear_1 0 rfl rfl)
theorem dX0_isClear_25 : decode cX0_isClear 25 = .ok (.iload_n 2, 1) := dk_28 (dk_at dksX0_isClear_1 1 rfl rfl)
theorem dX0_isClear_26 : decode cX0_isClear 26 = .ok (.invokevirtual 162, 3) := dk_182 0 162 (dk_at dksX0_isClear_1 2 rfl rfl)
theorem dX0_isClear_29 : decode cX0_isClear 29 = .ok (.ifCond .eq 5, 3) := dk_153 0 5 (dk_at dksX0_isClear_1 5 rfl rfl)
theorem dX0_isClear_32 : decode cX0_isClear 32 = .ok (.iconst 0, 1) := dk_3 (dk_at dksX0_isClear_1 8 rfl rfl)
theorem dX0_isClear_33 : decode cX0_isClear 33 = .ok (.ireturn, 1) := dk_172 (dk_at dksX0_isClear_1 9 rfl rfl)
theorem dX0_isClear_34 : decode cX0_isClear 34 = .ok (.iinc 3 1, 3) := dk_132 3 1 (dk_at dksX0_isClear_1 10 rfl rfl)
theorem dX0_isClear_37 : decode cX0_isClear 37 = .ok (.goto (-35), 3) := dk_167 255 221 (dk_at dksX0_isClear_1 13 rfl rfl)
theorem dX0_isClear_40 : decode cX0_isClear 40 = .ok (.iconst 1, 1) := dk_4 (dk_at dksX0_isClear_1 16 rfl rfl)
theorem dX0_isClear_41 : decode cX0_isClear 41 = .ok (.ireturn, 1) := dk_172 (dk_at dksX0_isClear_1 17 rfl rfl)
abbrev cX0_laysHours : ByteArray := prog_1_method_34_code
def yX0_laysHours : MethodName := ⟨RX0, "laysHours", "(I)Z"⟩
def dkwX0_laysHours_2 : List UInt8 := [3, 172, 132, 2, 1, 167, 255, 222, 4, 172]
abbrev dktX0_laysHours_2 : List UInt8 := dkwX0_laysHours_2 ++ []
def dkwX0_laysHours_1 : List UInt8 := [180, 0, 64, 3, 46, 162, 0, 27, 27, 28, 184, 0, 173, 153, 0, 13, 42, 28, 182, 0, 193, 154, 0, 5]
abbrev dktX0_laysHours_1 : List UInt8 := dkwX0_laysHours_1 ++ dktX0_laysHours_2
def dkwX0_laysHours_0 : List UInt8 := [42, 9, 181, 0, 183, 42, 10, 181, 0, 187, 42, 9, 181, 0, 190, 3, 61, 28, 42, 180, 0, 10]
abbrev dktX0_laysHours_0 : List UInt8 := dkwX0_laysHours_0 ++ dktX0_laysHours_1
theorem dksX0_laysHours_0 : cX0_laysHours.data.toList.drop 0 = dktX0_laysHours_0 := by decide +kernel
theorem dksX0_laysHours_1 : cX0_laysHours.data.toList.drop 22 = dktX0_laysHours_1 := dk_seg dksX0_laysHours_0 22 rfl rfl
theorem dksX0_laysHours_2 : cX0_laysHours.data.toList.drop 46 = dktX0_laysHours_2 := dk_seg dksX0_laysHours_1 24 rfl rfl
theorem dX0_laysHours_0 : decode cX0_laysHours 0 = .ok (.aload_n 0, 1) := dk_42 (dk_at dksX0_laysHours_0 0 rfl rfl)
theorem dX0_laysHours_1 : decode cX0_laysHours 1 = .ok (.lconst 0, 1) := dk_9 (dk_at dksX0_laysHours_0 1 rfl rfl)
theorem dX0_laysHours_2 : decode cX0_laysHours 2 = .ok (.putfield 183, 3) := dk_181 0 183 (dk_at dksX0_laysHours_0 2 rfl rfl)
theorem dX0_laysHours_5 : decode cX0_laysHours 5 = .ok (.aload_n 0, 1) := dk_42 (dk_at dksX0_laysHours_0 5 rfl rfl)
theorem dX0_laysHours_6 : decode cX0_laysHours 6 = .ok (.lconst 1, 1) := dk_10 (dk_at dksX0_laysHours_0 6 rfl rfl)
theorem dX0_laysHours_7 : decode cX0_laysHours 7 = .ok (.putfield 187, 3) := dk_181 0 187 (dk_at dksX0_laysHours_0 7 rfl rfl)
theorem dX0_laysHours_10 : decode cX0_laysHours 10 = .ok (.aload_n 0, 1) := dk_42 (dk_at dksX0_laysHours_0 10 rfl rfl)
theorem dX0_laysHours_11 : decode cX0_laysHours 11 = .ok (.lconst 0, 1) := dk_9 (dk_at dksX0_laysHours_0 11 rfl rfl)
theorem dX0_laysHours_12 : decode cX0_laysHours 12 = .ok (.putfield 190, 3) := dk_181 0 190 (dk_at dksX0_laysHours_0 12 rfl rfl)
theorem dX0_laysHours_15 : decode cX0_laysHours 15 = .ok (.iconst 0, 1) := dk_3 (dk_at dksX0_laysHours_0 15 rfl rfl)
theorem dX0_laysHours_16 : decode cX0_laysHours 16 = .ok (.istore_n 2, 1) := dk_61 (dk_at dksX0_laysHours_0 16 rfl rfl)
theorem dX0_laysHours_17 : decode cX0_laysHours 17 = .ok (.iload_n 2, 1) := dk_28 (dk_at dksX0_laysHours_0 17 rfl rfl)
theorem dX0_laysHours_18 : decode cX0_laysHours 18 = .ok (.aload_n 0, 1) := dk_42 (dk_at dksX0_laysHours_0 18 rfl rfl)
theorem dX0_laysHours_19 : decode cX0_laysHours 19 = .ok (.getfield 10, 3) := dk_180 0 10 (dk_at dksX0_laysHours_0 19 rfl rfl)
theorem dX0_laysHours_22 : decode cX0_laysHours 22 = .ok (.getfield 64, 3) := dk_180 0 64 (dk_at dksX0_laysHours_1 0 rfl rfl)
theorem dX0_laysHours_25 : decode cX0_laysHours 25 = .ok (.iconst 0, 1) := dk_3 (dk_at dksX0_laysHours_1 3 rfl rfl)
theorem dX0_laysHours_26 : decode cX0_laysHours 26 = .ok (.iaload, 1) := dk_46 (dk_at dksX0_laysHours_1 4 rfl rfl)
theorem dX0_laysHours_27 : decode cX0_laysHours 27 = .ok (.if_icmp .ge 27, 3) := dk_162 0 27 (dk_at dksX0_laysHours_1 5 rfl rfl)
theorem dX0_laysHours_30 : decode cX0_laysHours 30 = .ok (.iload_n 1, 1) := dk_27 (dk_at dksX0_laysHours_1 8 rfl rfl)
theorem dX0_laysHours_31 : decode cX0_laysHours 31 = .ok (.iload_n 2, 1) := dk_28 (dk_at dksX0_laysHours_1 9 rfl rfl)
theorem dX0_laysHours_32 : decode cX0_laysHours 32 = .ok (.invokestatic 173, 3) := dk_184 0 173 (dk_at dksX0_laysHours_1 10 rfl rfl)
theorem dX0_laysHours_35 : decode cX0_laysHours 35 = .ok (.ifCond .eq 13, 3) := dk_153 0 13 (dk_at dksX0_laysHours_1 13 rfl rfl)
theorem dX0_laysHours_38 : decode cX0_laysHours 38 = .ok (.aload_n 0, 1) := dk_42 (dk_at dksX0_laysHours_1 16 rfl rfl)
theorem dX0_laysHours_39 : decode cX0_laysHours 39 = .ok (.iload_n 2, 1) := dk_28 (dk_at dksX0_laysHours_1 17 rfl rfl)
theorem dX0_laysHours_40 : decode cX0_laysHours 40 = .ok (.invokevirtual 193, 3) := dk_182 0 193 (dk_at dksX0_laysHours_1 18 rfl rfl)
theorem dX0_laysHours_43 : decode cX0_laysHours 43 = .ok (.ifCond .ne 5, 3) := dk_154 0 5 (dk_at dksX0_laysHours_1 21 rfl rfl)
theorem dX0_laysHours_46 : decode cX0_laysHours 46 = .ok (.iconst 0, 1) := dk_3 (dk_at dksX0_laysHours_2 0 rfl rfl)
theorem dX0_laysHours_47 : decode cX0_laysHours 47 = .ok (.ireturn, 1) := dk_172 (dk_at dksX0_laysHours_2 1 rfl rfl)
theorem dX0_laysHours_48 : decode cX0_laysHours 48 = .ok (.iinc 2 1, 3) := dk_132 2 1 (dk_at dksX0_laysHours_2 2 rfl rfl)
theorem dX0_laysHours_51 : decode cX0_laysHours 51 = .ok (.goto (-34), 3) := dk_167 255 222 (dk_at dksX0_laysHours_2 5 rfl rfl)
theorem dX0_laysHours_54 : decode cX0_laysHours 54 = .ok (.iconst 1, 1) := dk_4 (dk_at dksX0_laysHours_2 8 rfl rfl)
theorem dX0_laysHours_55 : decode cX0_laysHours 55 = .ok (.ireturn, 1) := dk_172 (dk_at dksX0_laysHours_2 9 rfl rfl)
abbrev cX0_joins : ByteArray := prog_1_method_35_code
def yX0_joins : MethodName := ⟨RX0, "joins", "(I)Z"⟩
def dkwX0_joins_7 : List UInt8 := [105, 181, 0, 187, 4, 172]
abbrev dktX0_joins_7 : List UInt8 := dkwX0_joins_7 ++ []
def dkwX0_joins_6 : List UInt8 := [148, 158, 0, 9, 20, 0, 204, 167, 0, 18, 42, 180, 0, 187, 42, 180, 0, 187, 32, 184, 0, 176, 109, 32]
abbrev dktX0_joins_6 : List UInt8 := dkwX0_joins_6 ++ dktX0_joins_7
def dkwX0_joins_5 : List UInt8 := [180, 0, 187, 167, 0, 46, 42, 180, 0, 187, 42, 180, 0, 187, 32, 184, 0, 176, 109, 20, 0, 71, 32, 109]
abbrev dktX0_joins_5 : List UInt8 := dkwX0_joins_5 ++ dktX0_joins_6
def dkwX0_joins_4 : List UInt8 := [55, 4, 167, 255, 198, 42, 22, 4, 181, 0, 183, 42, 42, 180, 0, 187, 20, 0, 71, 148, 158, 0, 10, 42]
abbrev dktX0_joins_4 : List UInt8 := dkwX0_joins_4 ++ dktX0_joins_5
def dkwX0_joins_3 : List UInt8 := [22, 4, 42, 180, 0, 187, 97, 20, 0, 71, 148, 158, 0, 5, 3, 172, 22, 4, 42, 180, 0, 187, 97]
abbrev dktX0_joins_3 : List UInt8 := dkwX0_joins_3 ++ dktX0_joins_4
def dkwX0_joins_2 : List UInt8 := [46, 133, 101, 32, 184, 0, 201, 9, 148, 153, 0, 42, 42, 180, 0, 187, 20, 0, 71, 148, 157, 0, 17]
abbrev dktX0_joins_2 : List UInt8 := dkwX0_joins_2 ++ dktX0_joins_3
def dkwX0_joins_1 : List UInt8 := [46, 133, 184, 0, 196, 181, 0, 190, 42, 180, 0, 183, 55, 4, 22, 4, 42, 180, 0, 10, 180, 0, 89, 27]
abbrev dktX0_joins_1 : List UInt8 := dkwX0_joins_1 ++ dktX0_joins_2
def dkwX0_joins_0 : List UInt8 := [42, 180, 0, 10, 180, 0, 86, 27, 46, 133, 65, 42, 42, 180, 0, 190, 42, 180, 0, 10, 180, 0, 89, 27]
abbrev dktX0_joins_0 : List UInt8 := dkwX0_joins_0 ++ dktX0_joins_1
theorem dksX0_joins_0 : cX0_joins.data.toList.drop 0 = dktX0_joins_0 := by decide +kernel
theorem dksX0_joins_1 : cX0_joins.data.toList.drop 24 = dktX0_joins_1 := dk_seg dksX0_joins_0 24 rfl rfl
theorem dksX0_joins_2 : cX0_joins.data.toList.drop 48 = dktX0_joins_2 := dk_seg dksX0_joins_1 24 rfl rfl
theorem dksX0_joins_3 : cX0_joins.data.toList.drop 71 = dktX0_joins_3 := dk_seg dksX0_joins_2 23 rfl rfl
theorem dksX0_joins_4 : cX0_joins.data.toList.drop 94 = dktX0_joins_4 := dk_seg dksX0_joins_3 23 rfl rfl
theorem dksX0_joins_5 : cX0_joins.data.toList.drop 118 = dktX0_joins_5 := dk_seg dksX0_joins_4 24 rfl rfl
theorem dksX0_joins_6 : cX0_joins.data.toList.drop 142 = dktX0_joins_6 := dk_seg dksX0_joins_5 24 rfl rfl
theorem dksX0_joins_7 : cX0_joins.data.toList.drop 166 = dktX0_joins_7 := dk_seg dksX0_joins_6 24 rfl rfl
theorem dX0_joins_0 : decode cX0_joins 0 = .ok (.aload_n 0, 1) := dk_42 (dk_at dksX0_joins_0 0 rfl rfl)
theorem dX0_joins_1 : decode cX0_joins 1 = .ok (.getfield 10, 3) := dk_180 0 10 (dk_at dksX0_joins_0 1 rfl rfl)
theorem dX0_joins_4 : decode cX0_joins 4 = .ok (.getfield 86, 3) := dk_180 0 86 (dk_at dksX0_joins_0 4 rfl rfl)
theorem dX0_joins_7 : decode cX0_joins 7 = .ok (.iload_n 1, 1) := dk_27 (dk_at dksX0_joins_0 7 rfl rfl)
theorem dX0_joins_8 : decode cX0_joins 8 = .ok (.iaload, 1) := dk_46 (dk_at dksX0_joins_0 8 rfl rfl)
theorem dX0_joins_9 : decode cX0_joins 9 = .ok (.i2l, 1) := dk_133 (dk_at dksX0_joins_0 9 rfl rfl)
theorem dX0_joins_10 : decode cX0_joins 10 = .ok (.lstore_n 2, 1) := dk_65 (dk_at dksX0_joins_0 10 rfl rfl)
theorem dX0_joins_11 : decode cX0_joins 11 = .ok (.aload_n 0, 1) := dk_42 (dk_at dksX0_joins_0 11 rfl rfl)
theorem dX0_joins_12 : decode cX0_joins 12 = .ok (.aload_n 0, 1) := dk_42 (dk_at dksX0_joins_0 12 rfl rfl)
theorem dX0_joins_13 : decode cX0_joins 13 = .ok (.getfield 190, 3) := dk_180 0 190 (dk_at dksX0_joins_0 13 rfl rfl)
theorem dX0_joins_16 : decode cX0_joins 16 = .ok (.aload_n 0, 1) := dk_42 (dk_at dksX0_joins_0 16 rfl rfl)
theorem dX0_joins_17 : decode cX0_joins 17 = .ok (.getfield 10, 3) := dk_180 0 10 (dk_at dksX0_joins_0 17 rfl rfl)
theorem dX0_joins_20 : decode cX0_joins 20 = .ok (.getfield 89, 3) := dk_180 0 89 (dk_at dksX0_joins_0 20 rfl rfl)
theorem dX0_joins_23 : decode cX0_joins 23 = .ok (.iload_n 1, 1) := dk_27 (dk_at dksX0_joins_0 23 rfl rfl)
theorem dX0_joins_24 : decode cX0_joins 24 = .ok (.iaload, 1) := dk_46 (dk_at dksX0_joins_1 0 rfl rfl)
theorem dX0_joins_25 : decode cX0_joins 25 = .ok (.i2l, 1) := dk_133 (dk_at dksX0_joins_1 1 rfl rfl)
theorem dX0_joins_26 : decode cX0_joins 26 = .ok (.invokestatic 196, 3) := dk_184 0 196 (dk_at dksX0_joins_1 2 rfl rfl)
theorem dX0_joins_29 : decode cX0_joins 29 = .ok (.putfield 190, 3) := dk_181 0 190 (dk_at dksX0_joins_1 5 rfl rfl)
theorem dX0_joins_32 : decode cX0_joins 32 = .ok (.aload_n 0, 1) := dk_42 (dk_at dksX0_joins_1 8 rfl rfl)
theorem dX0_joins_33 : decode cX0_joins 33 = .ok (.getfield 183, 3) := dk_180 0 183 (dk_at dksX0_joins_1 9 rfl rfl)
theorem dX0_joins_36 : decode cX0_joins 36 = .ok (.lstore 4, 2) := dk_55 4 (dk_at dksX0_joins_1 12 rfl rfl)
theorem dX0_joins_38 : decode cX0_joins 38 = .ok (.lload 4, 2) := dk_22 4 (dk_at dksX0_joins_1 14 rfl rfl)
theorem dX0_joins_40 : decode cX0_joins 40 = .ok (.aload_n 0, 1) := dk_42 (dk_at dksX0_joins_1 16 rfl rfl)
theorem dX0_joins_41 : decode cX0_joins 41 = .ok (.getfield 10, 3) := dk_180 0 10 (dk_at dksX0_joins_1 17 rfl rfl)
theorem dX0_joins_44 : decode cX0_joins 44 = .ok (.getfield 89, 3) := dk_180 0 89 (dk_at dksX0_joins_1 20 rfl rfl)
theorem dX0_joins_47 : decode cX0_joins 47 = .ok (.iload_n 1, 1) := dk_27 (dk_at dksX0_joins_1 23 rfl rfl)
theorem dX0_joins_48 : decode cX0_joins 48 = .ok (.iaload, 1) := dk_46 (dk_at dksX0_joins_2 0 rfl rfl)
theorem dX0_joins_49 : decode cX0_joins 49 = .ok (.i2l, 1) := dk_133 (dk_at dksX0_joins_2 1 rfl rfl)
theorem dX0_joins_50 : decode cX0_joins 50 = .ok (.lsub, 1) := dk_101 (dk_at dksX0_joins_2 2 rfl rfl)
theorem dX0_joins_51 : decode cX0_joins 51 = .ok (.lload_n 2, 1) := dk_32 (dk_at dksX0_joins_2 3 rfl rfl)
theorem dX0_joins_52 : decode cX0_joins 52 = .ok (.invokestatic 201, 3) := dk_184 0 201 (dk_at dksX0_joins_2 4 rfl rfl)
theorem dX0_joins_55 : decode cX0_joins 55 = .ok (.lconst 0, 1) := dk_9 (dk_at dksX0_joins_2 7 rfl rfl)
theorem dX0_joins_56 : decode cX0_joins 56 = .ok (.lcmp, 1) := dk_148 (dk_at dksX0_joins_2 8 rfl rfl)
theorem dX0_joins_57 : decode cX0_joins 57 = .ok (.ifCond .eq 42, 3) := dk_153 0 42 (dk_at dksX0_joins_2 9 rfl rfl)
theorem dX0_joins_60 : decode cX0_joins 60 = .ok (.aload_n 0, 1) := dk_42 (dk_at dksX0_joins_2 12 rfl rfl)
theorem dX0_joins_61 : decode cX0_joins 61 = .ok (.getfield 187, 3) := dk_180 0 187 (dk_at dksX0_joins_2 13 rfl rfl)
theorem dX0_joins_64 : decode cX0_joins 64 = .ok (.ldc2_w 71, 3) := dk_20 0 71 (dk_at dksX0_joins_2 16 rfl rfl)
theorem dX0_joins_67 : decode cX0_joins 67 = .ok (.lcmp, 1) := dk_148 (dk_at dksX0_joins_2 19 rfl rfl)
theorem dX0_joins_68 : decode cX0_joins 68 = .ok (.ifCond .gt 17, 3) := dk_157 0 17 (dk_at dksX0_joins_2 20 rfl rfl)
theorem dX0_joins_71 : decode cX0_joins 71 = .ok (.lload 4, 2) := dk_22 4 (dk_at dksX0_joins_3 0 rfl rfl)
theorem dX0_joins_73 : decode cX0_joins 73 = .ok (.aload_n 0, 1) := dk_42 (dk_at dksX0_joins_3 2 rfl rfl)
theorem dX0_joins_74 : decode cX0_joins 74 = .ok (.getfield 187, 3) := dk_180 0 187 (dk_at dksX0_joins_3 3 rfl rfl)
theorem dX0_joins_77 : decode cX0_joins 77 = .ok (.ladd, 1) := dk_97 (dk_at dksX0_joins_3 6 rfl rfl)
theorem dX0_joins_78 : decode cX0_joins 78 = .ok (.ldc2_w 71, 3) := dk_20 0 71 (dk_at dksX0_joins_3 7 rfl rfl)
theorem dX0_joins_81 : decode cX0_joins 81 = .ok (.lcmp, 1) := dk_148 (dk_at dksX0_joins_3 10 rfl rfl)
theorem dX0_joins_82 : decode cX0_joins 82 = .ok (.ifCond .le 5, 3) := dk_158 0 5 (dk_at dksX0_joins_3 11 rfl rfl)
theorem dX0_joins_85 : decode cX0_joins 85 = .ok (.iconst 0, 1) := dk_3 (dk_at dksX0_joins_3 14 rfl rfl)
theorem dX0_joins_86 : decode cX0_joins 86 = .ok (.ireturn, 1) := dk_172 (dk_at dksX0_joins_3 15 rfl rfl)
theorem dX0_joins_87 : decode cX0_joins 87 = .ok (.lload 4, 2) := dk_22 4 (dk_at dksX0_joins_3 16 rfl rfl)
theorem dX0_joins_89 : decode cX0_joins 89 = .ok (.aload_n 0, 1) := dk_42 (dk_at dksX0_joins_3 18 rfl rfl)
theorem dX0_joins_90 : decode cX0_joins 90 = .ok (.getfield 187, 3) := dk_180 0 187 (dk_at dksX0_joins_3 19 rfl rfl)
theorem dX0_joins_93 : decode cX0_joins 93 = .ok (.ladd, 1) := dk_97 (dk_at dksX0_joins_3 22 rfl rfl)
theorem dX0_joins_94 : decode cX0_joins 94 = .ok (.lstore 4, 2) := dk_55 4 (dk_at dksX0_joins_4 0 rfl rfl)
theorem dX0_joins_96 : decode cX0_joins 96 = .ok (.goto (-58), 3) := dk_167 255 198 (dk_at dksX0_joins_4 2 rfl rfl)
theorem dX0_joins_99 : decode cX0_joins 99 = .ok (.aload_n 0, 1) := dk_42 (dk_at dksX0_joins_4 5 rfl rfl)
theorem dX0_joins_100 : decode cX0_joins 100 = .ok (.lload 4, 2) := dk_22 4 (dk_at dksX0_joins_4 6 rfl rfl)
theorem dX0_joins_102 : decode cX0_joins 102 = .ok (.putfield 183, 3) := dk_181 0 183 (dk_at dksX0_joins_4 8 rfl rfl)
theorem dX0_joins_105 : decode cX0_joins 105 = .ok (.aload_n 0, 1) := dk_42 (dk_at dksX0_joins_4 11 rfl rfl)
theorem dX0_joins_106 : decode cX0_joins 106 = .ok (.aload_n 0, 1) := dk_42 (dk_at dksX0_joins_4 12 rfl rfl)
theorem dX0_joins_107 : decode cX0_joins 107 = .ok (.getfield 187, 3) := dk_180 0 187 (dk_at dksX0_joins_4 13 rfl rfl)
theorem dX0_joins_110 : decode cX0_joins 110 = .ok (.ldc2_w 71, 3) := dk_20 0 71 (dk_at dksX0_joins_4 16 rfl rfl)
theorem dX0_joins_113 : decode cX0_joins 113 = .ok (.lcmp, 1) := dk_148 (dk_at dksX0_joins_4 19 rfl rfl)
theorem dX0_joins_114 : decode cX0_joins 114 = .ok (.ifCond .le 10, 3) := dk_158 0 10 (dk_at dksX0_joins_4 20 rfl rfl)
theorem dX0_joins_117 : decode cX0_joins 117 = .ok (.aload_n 0, 1) := dk_42 (dk_at dksX0_joins_4 23 rfl rfl)
theorem dX0_joins_118 : decode cX0_joins 118 = .ok (.getfield 187, 3) := dk_180 0 187 (dk_at dksX0_joins_5 0 rfl rfl)
theorem dX0_joins_121 : decode cX0_joins 121 = .ok (.goto 46, 3) := dk_167 0 46 (dk_at dksX0_joins_5 3 rfl rfl)
theorem dX0_joins_124 : decode cX0_joins 124 = .ok (.aload_n 0, 1) := dk_42 (dk_at dksX0_joins_5 6 rfl rfl)
theorem dX0_joins_125 : decode cX0_joins 125 = .ok (.getfield 187, 3) := dk_180 0 187 (dk_at dksX0_joins_5 7 rfl rfl)
theorem dX0_joins_128 : decode cX0_joins 128 = .ok (.aload_n 0, 1) := dk_42 (dk_at dksX0_joins_5 10 rfl rfl)
theorem dX0_joins_129 : decode cX0_joins 129 = .ok (.getfield 187, 3) := dk_180 0 187 (dk_at dksX0_joins_5 11 rfl rfl)
theorem dX0_joins_132 : decode cX0_joins 132 = .ok (.lload_n 2, 1) := dk_32 (dk_at dksX0_joins_5 14 rfl rfl)
theorem dX0_joins_133 : decode cX0_joins 133 = .ok (.invokestatic 176, 3) := dk_184 0 176 (dk_at dksX0_joins_5 15 rfl rfl)
theorem dX0_joins_136 : decode cX0_joins 136 = .ok (.ldiv, 1) := dk_109 (dk_at dksX0_joins_5 18 rfl rfl)
theorem dX0_joins_137 : decode cX0_joins 137 = .ok (.ldc2_w 71, 3) := dk_20 0 71 (dk_at dksX0_joins_5 19 rfl rfl)
theorem dX0_joins_140 : decode cX0_joins 140 = .ok (.lload_n 2, 1) := dk_32 (dk_at dksX0_joins_5 22 rfl rfl)
theorem dX0_joins_141 : decode cX0_joins 141 = .ok (.ldiv, 1) := dk_109 (dk_at dksX0_joins_5 23 rfl rfl)
theorem dX0_joins_142 : decode cX0_joins 142 = .ok (.lcmp, 1) := dk_148 (dk_at dksX0_joins_6 0 rfl rfl)
theorem dX0_joins_143 : decode cX0_joins 143 = .ok (.ifCond .le 9, 3) := dk_158 0 9 (dk_at dksX0_joins_6 1 rfl rfl)
theorem dX0_joins_146 : decode cX0_joins 146 = .ok (.ldc2_w 204, 3) := dk_20 0 204 (dk_at dksX0_joins_6 4 rfl rfl)
theorem dX0_joins_149 : decode cX0_joins 149 = .ok (.goto 18, 3) := dk_167 0 18 (dk_at dksX0_joins_6 7 rfl rfl)
theorem dX0_joins_152 : decode cX0_joins 152 = .ok (.aload_n 0, 1) := dk_42 (dk_at dksX0_joins_6 10 rfl rfl)
theorem dX0_joins_153 : decode cX0_joins 153 = .ok (.getfield 187, 3) := dk_180 0 187 (dk_at dksX0_joins_6 11 rfl rfl)
theorem dX0_joins_156 : decode cX0_joins 156 = .ok (.aload_n 0, 1) := dk_42 (dk_at dksX0_joins_6 14 rfl rfl)
theorem dX0_joins_157 : decode cX0_joins 157 = .ok (.getfield 187, 3) := dk_180 0 187 (dk_at dksX0_joins_6 15 rfl rfl)
theorem dX0_joins_160 : decode cX0_joins 160 = .ok (.lload_n 2, 1) := dk_32 (dk_at dksX0_joins_6 18 rfl rfl)
theorem dX0_joins_161 : decode cX0_joins 161 = .ok (.invokestatic 176, 3) := dk_184 0 176 (dk_at dksX0_joins_6 19 rfl rfl)
theorem dX0_joins_164 : decode cX0_joins 164 = .ok (.ldiv, 1) := dk_109 (dk_at dksX0_joins_6 22 rfl rfl)
theorem dX0_joins_165 : decode cX0_joins 165 = .ok (.lload_n 2, 1) := dk_32 (dk_at dksX0_joins_6 23 rfl rfl)
theorem dX0_joins_166 : decode cX0_joins 166 = .ok (.lmul, 1) := dk_105 (dk_at dksX0_joins_7 0 rfl rfl)
theorem dX0_joins_167 : decode cX0_joins 167 = .ok (.putfield 187, 3) := dk_181 0 187 (dk_at dksX0_joins_7 1 rfl rfl)
theorem dX0_joins_170 : decode cX0_joins 170 = .ok (.iconst 1, 1) := dk_4 (dk_at dksX0_joins_7 4 rfl rfl)
theorem dX0_joins_171 : decode cX0_joins 171 = .ok (.ireturn, 1) := dk_172 (dk_at dksX0_joins_7 5 rfl rfl)
abbrev cX0_from : ByteArray := prog_1_method_36_code
def yX0_from : MethodName := ⟨RX0, "from", "(J)J"⟩
def dkwX0_from_3 : List UInt8 := [20, 0, 204, 184, 0, 206, 173]
abbrev dktX0_from_3 : List UInt8 := dkwX0_from_3 ++ []
def dkwX0_from_2 : List UInt8 := [42, 180, 0, 187, 97, 10, 101, 42, 180, 0, 187, 109, 42, 180, 0, 187, 105, 97, 55, 5, 22, 5]
abbrev dktX0_from_2 : List UInt8 := dkwX0_from_2 ++ dktX0_from_3
def dkwX0_from_1 : List UInt8 := [180, 0, 187, 20, 0, 71, 148, 158, 0, 7, 20, 0, 204, 173, 42, 180, 0, 183, 33, 42, 180, 0, 183, 101]
abbrev dktX0_from_1 : List UInt8 := dkwX0_from_1 ++ dktX0_from_2
def dkwX0_from_0 : List UInt8 := [31, 42, 180, 0, 190, 184, 0, 196, 66, 42, 180, 0, 183, 33, 148, 155, 0, 8, 42, 180, 0, 183, 173, 42]
abbrev dktX0_from_0 : List UInt8 := dkwX0_from_0 ++ dktX0_from_1
theorem dksX0_from_0 : cX0_from.data.toList.drop 0 = dktX0_from_0 := by decide +kernel
theorem dksX0_from_1 : cX0_from.data.toList.drop 24 = dktX0_from_1 := dk_seg dksX0_from_0 24 rfl rfl
theorem dksX0_from_2 : cX0_from.data.toList.drop 48 = dktX0_from_2 := dk_seg dksX0_from_1 24 rfl rfl
theorem dksX0_from_3 : cX0_from.data.toList.drop 70 = dktX0_from_3 := dk_seg dksX0_from_2 22 rfl rfl
theorem dX0_from_0 : decode cX0_from 0 = .ok (.lload_n 1, 1) := dk_31 (dk_at dksX0_from_0 0 rfl rfl)
theorem dX0_from_1 : decode cX0_from 1 = .ok (.aload_n 0, 1) := dk_42 (dk_at dksX0_from_0 1 rfl rfl)
theorem dX0_from_2 : decode cX0_from 2 = .ok (.getfield 190, 3) := dk_180 0 190 (dk_at dksX0_from_0 2 rfl rfl)
theorem dX0_from_5 : decode cX0_from 5 = .ok (.invokestatic 196, 3) := dk_184 0 196 (dk_at dksX0_from_0 5 rfl rfl)
theorem dX0_from_8 : decode cX0_from 8 = .ok (.lstore_n 3, 1) := dk_66 (dk_at dksX0_from_0 8 rfl rfl)
theorem dX0_from_9 : decode cX0_from 9 = .ok (.aload_n 0, 1) := dk_42 (dk_at dksX0_from_0 9 rfl rfl)
theorem dX0_from_10 : decode cX0_from 10 = .ok (.getfield 183, 3) := dk_180 0 183 (dk_at dksX0_from_0 10 rfl rfl)
theorem dX0_from_13 : decode cX0_from 13 = .ok (.lload_n 3, 1) := dk_33 (dk_at dksX0_from_0 13 rfl rfl)
theorem dX0_from_14 : decode cX0_from 14 = .ok (.lcmp, 1) := dk_148 (dk_at dksX0_from_0 14 rfl rfl)
theorem dX0_from_15 : decode cX0_from 15 = .ok (.ifCond .lt 8, 3) := dk_155 0 8 (dk_at dksX0_from_0 15 rfl rfl)
theorem dX0_from_18 : decode cX0_from 18 = .ok (.aload_n 0, 1) := dk_42 (dk_at dksX0_from_0 18 rfl rfl)
theorem dX0_from_19 : decode cX0_from 19 = .ok (.getfield 183, 3) := dk_180 0 183 (dk_at dksX0_from_0 19 rfl rfl)
theorem dX0_from_22 : decode cX0_from 22 = .ok (.lreturn, 1) := dk_173 (dk_at dksX0_from_0 22 rfl rfl)
theorem dX0_from_23 : decode cX0_from 23 = .ok (.aload_n 0, 1) := dk_42 (dk_at dksX0_from_0 23 rfl rfl)
theorem dX0_from_24 : decode cX0_from 24 = .ok (.getfield 187, 3) := dk_180 0 187 (dk_at dksX0_from_1 0 rfl rfl)
theorem dX0_from_27 : decode cX0_from 27 = .ok (.ldc2_w 71, 3) := dk_20 0 71 (dk_at dksX0_from_1 3 rfl rfl)
theorem dX0_from_30 : decode cX0_from 30 = .ok (.lcmp, 1) := dk_148 (dk_at dksX0_from_1 6 rfl rfl)
theorem dX0_from_31 : decode cX0_from 31 = .ok (.ifCond .le 7, 3) := dk_158 0 7 (dk_at dksX0_from_1 7 rfl rfl)
theorem dX0_from_34 : decode cX0_from 34 = .ok (.ldc2_w 204, 3) := dk_20 0 204 (dk_at dksX0_from_1 10 rfl rfl)
theorem dX0_from_37 : decode cX0_from 37 = .ok (.lreturn, 1) := dk_173 (dk_at dksX0_from_1 13 rfl rfl)
theorem dX0_from_38 : decode cX0_from 38 = .ok (.aload_n 0, 1) := dk_42 (dk_at dksX0_from_1 14 rfl rfl)
theorem dX0_from_39 : decode cX0_from 39 = .ok (.getfield 183, 3) := dk_180 0 183 (dk_at dksX0_from_1 15 rfl rfl)
theorem dX0_from_42 : decode cX0_from 42 = .ok (.lload_n 3, 1) := dk_33 (dk_at dksX0_from_1 18 rfl rfl)
theorem dX0_from_43 : decode cX0_from 43 = .ok (.aload_n 0, 1) := dk_42 (dk_at dksX0_from_1 19 rfl rfl)
theorem dX0_from_44 : decode cX0_from 44 = .ok (.getfield 183, 3) := dk_180 0 183 (dk_at dksX0_from_1 20 rfl rfl)
theorem dX0_from_47 : decode cX0_from 47 = .ok (.lsub, 1) := dk_101 (dk_at dksX0_from_1 23 rfl rfl)
theorem dX0_from_48 : decode cX0_from 48 = .ok (.aload_n 0, 1) := dk_42 (dk_at dksX0_from_2 0 rfl rfl)
theorem dX0_from_49 : decode cX0_from 49 = .ok (.getfield 187, 3) := dk_180 0 187 (dk_at dksX0_from_2 1 rfl rfl)
theorem dX0_from_52 : decode cX0_from 52 = .ok (.ladd, 1) := dk_97 (dk_at dksX0_from_2 4 rfl rfl)
theorem dX0_from_53 : decode cX0_from 53 = .ok (.lconst 1, 1) := dk_10 (dk_at dksX0_from_2 5 rfl rfl)
theorem dX0_from_54 : decode cX0_from 54 = .ok (.lsub, 1) := dk_101 (dk_at dksX0_from_2 6 rfl rfl)
theorem dX0_from_55 : decode cX0_from 55 = .ok (.aload_n 0, 1) := dk_42 (dk_at dksX0_from_2 7 rfl rfl)
theorem dX0_from_56 : decode cX0_from 56 = .ok (.getfield 187, 3) := dk_180 0 187 (dk_at dksX0_from_2 8 rfl rfl)
theorem dX0_from_59 : decode cX0_from 59 = .ok (.ldiv, 1) := dk_109 (dk_at dksX0_from_2 11 rfl rfl)
theorem dX0_from_60 : decode cX0_from 60 = .ok (.aload_n 0, 1) := dk_42 (dk_at dksX0_from_2 12 rfl rfl)
theorem dX0_from_61 : decode cX0_from 61 = .ok (.getfield 187, 3) := dk_180 0 187 (dk_at dksX0_from_2 13 rfl rfl)
theorem dX0_from_64 : decode cX0_from 64 = .ok (.lmul, 1) := dk_105 (dk_at dksX0_from_2 16 rfl rfl)
theorem dX0_from_65 : decode cX0_from 65 = .ok (.ladd, 1) := dk_97 (dk_at dksX0_from_2 17 rfl rfl)
theorem dX0_from_66 : decode cX0_from 66 = .ok (.lstore 5, 2) := dk_55 5 (dk_at dksX0_from_2 18 rfl rfl)
theorem dX0_from_68 : decode cX0_from 68 = .ok (.lload 5, 2) := dk_22 5 (dk_at dksX0_from_2 20 rfl rfl)
theorem dX0_from_70 : decode cX0_from 70 = .ok (.ldc2_w 204, 3) := dk_20 0 204 (dk_at dksX0_from_3 0 rfl rfl)
theorem dX0_from_73 : decode cX0_from 73 = .ok (.invokestatic 206, 3) := dk_184 0 206 (dk_at dksX0_from_3 3 rfl rfl)
theorem dX0_from_76 : decode cX0_from 76 = .ok (.lreturn, 1) := dk_173 (dk_at dksX0_from_3 6 rfl rfl)
abbrev cX0_barred : ByteArray := prog_1_method_40_code
def yX0_barred : MethodName := ⟨RX0, "barred", "(II)I"⟩
def dkwX0_barred_2 : List UInt8 := [154, 0, 10, 29, 16, 12, 108, 167, 0, 7, 29, 16, 12, 112, 172]
abbrev dktX0_barred_2 : List UInt8 := dkwX0_barred_2 ++ []
def dkwX0_barred_1 : List UInt8 := [184, 0, 67, 154, 0, 5, 2, 172, 42, 27, 182, 0, 225, 62, 29, 2, 160, 0, 7, 2, 167, 0, 18, 28]
abbrev dktX0_barred_1 : List UInt8 := dkwX0_barred_1 ++ dktX0_barred_2
def dkwX0_barred_0 : List UInt8 := [42, 27, 182, 0, 212, 153, 0, 25, 42, 180, 0, 10, 180, 0, 64, 4, 46, 157, 0, 13, 28, 133, 9, 10]
abbrev dktX0_barred_0 : List UInt8 := dkwX0_barred_0 ++ dktX0_barred_1
theorem dksX0_barred_0 : cX0_barred.data.toList.drop 0 = dktX0_barred_0 := by decide +kernel
theorem dksX0_barred_1 : cX0_barred.data.toList.drop 24 = dktX0_barred_1 := dk_seg dksX0_barred_0 24 rfl rfl
theorem dksX0_barred_2 : cX0_barred.data.toList.drop 48 = dktX0_barred_2 := dk_seg dksX0_barred_1 24 rfl rfl
theorem dX0_barred_0 : decode cX0_barred 0 = .ok (.aload_n 0, 1) := dk_42 (dk_at dksX0_barred_0 0 rfl rfl)
theorem dX0_barred_1 : decode cX0_barred 1 = .ok (.iload_n 1, 1) := dk_27 (dk_at dksX0_barred_0 1 rfl rfl)
theorem dX0_barred_2 : decode cX0_barred 2 = .ok (.invokevirtual 212, 3) := dk_182 0 212 (dk_at dksX0_barred_0 2 rfl rfl)
theorem dX0_barred_5 : decode cX0_barred 5 = .ok (.ifCond .eq 25, 3) := dk_153 0 25 (dk_at dksX0_barred_0 5 rfl rfl)
theorem dX0_barred_8 : decode cX0_barred 8 = .ok (.aload_n 0, 1) := dk_42 (dk_at dksX0_barred_0 8 rfl rfl)
theorem dX0_barred_9 : decode cX0_barred 9 = .ok (.getfield 10, 3) := dk_180 0 10 (dk_at dksX0_barred_0 9 rfl rfl)
theorem dX0_barred_12 : decode cX0_barred 12 = .ok (.getfield 64, 3) := dk_180 0 64 (dk_at dksX0_barred_0 12 rfl rfl)
theorem dX0_barred_15 : decode cX0_barred 15 = .ok (.iconst 1, 1) := dk_4 (dk_at dksX0_barred_0 15 rfl rfl)
theorem dX0_barred_16 : decode cX0_barred 16 = .ok (.iaload, 1) := dk_46 (dk_at dksX0_barred_0 16 rfl rfl)
theorem dX0_barred_17 : decode cX0_barred 17 = .ok (.ifCond .gt 13, 3) := dk_157 0 13 (dk_at dksX0_barred_0 17 rfl rfl)
theorem dX0_barred_20 : decode cX0_barred 20 = .ok (.iload_n 2, 1) := dk_28 (dk_at dksX0_barred_0 20 rfl rfl)
theorem dX0_barred_21 : decode cX0_barred 21 = .ok (.i2l, 1) := dk_133 (dk_at dksX0_barred_0 21 rfl rfl)
theorem dX0_barred_22 : decode cX0_barred 22 = .ok (.lconst 0, 1) := dk_9 (dk_at dksX0_barred_0 22 rfl rfl)
theorem dX0_barred_23 : decode cX0_barred 23 = .ok (.lconst 1, 1) := dk_10 (dk_at dksX0_barred_0 23 rfl rfl)
theorem dX0_barred_24 : decode cX0_barred 24 = .ok (.invokestatic 67, 3) := dk_184 0 67 (dk_at dksX0_barred_1 0 rfl rfl)
theorem dX0_barred_27 : decode cX0_barred 27 = .ok (.ifCond .ne 5, 3) := dk_154 0 5 (dk_at dksX0_barred_1 3 rfl rfl)
theorem dX0_barred_30 : decode cX0_barred 30 = .ok (.iconst (-1), 1) := dk_2 (dk_at dksX0_barred_1 6 rfl rfl)
theorem dX0_barred_31 : decode cX0_barred 31 = .ok (.ireturn, 1) := dk_172 (dk_at dksX0_barred_1 7 rfl rfl)
theorem dX0_barred_32 : decode cX0_barred 32 = .ok (.aload_n 0, 1) := dk_42 (dk_at dksX0_barred_1 8 rfl rfl)
theorem dX0_barred_33 : decode cX0_barred 33 = .ok (.iload_n 1, 1) := dk_27 (dk_at dksX0_barred_1 9 rfl rfl)
theorem dX0_barred_34 : decode cX0_barred 34 = .ok (.invokevirtual 225, 3) := dk_182 0 225 (dk_at dksX0_barred_1 10 rfl rfl)
theorem dX0_barred_37 : decode cX0_barred 37 = .ok (.istore_n 3, 1) := dk_62 (dk_at dksX0_barred_1 13 rfl rfl)
theorem dX0_barred_38 : decode cX0_barred 38 = .ok (.iload_n 3, 1) := dk_29 (dk_at dksX0_barred_1 14 rfl rfl)
theorem dX0_barred_39 : decode cX0_barred 39 = .ok (.iconst (-1), 1) := dk_2 (dk_at dksX0_barred_1 15 rfl rfl)
theorem dX0_barred_40 : decode cX0_barred 40 = .ok (.if_icmp .ne 7, 3) := dk_160 0 7 (dk_at dksX0_barred_1 16 rfl rfl)
theorem dX0_barred_43 : decode cX0_barred 43 = .ok (.iconst (-1), 1) := dk_2 (dk_at dksX0_barred_1 19 rfl rfl)
theorem dX0_barred_44 : decode cX0_barred 44 = .ok (.goto 18, 3) := dk_167 0 18 (dk_at dksX0_barred_1 20 rfl rfl)
theorem dX0_barred_47 : decode cX0_barred 47 = .ok (.iload_n 2, 1) := dk_28 (dk_at dksX0_barred_1 23 rfl rfl)
theorem dX0_barred_48 : decode cX0_barred 48 = .ok (.ifCond .ne 10, 3) := dk_154 0 10 (dk_at dksX0_barred_2 0 rfl rfl)
theorem dX0_barred_51 : decode cX0_barred 51 = .ok (.iload_n 3, 1) := dk_29 (dk_at dksX0_barred_2 3 rfl rfl)
theorem dX0_barred_52 : decode cX0_barred 52 = .ok (.bipush 12, 2) := dk_16 12 (dk_at dksX0_barred_2 4 rfl rfl)
theorem dX0_barred_54 : decode cX0_barred 54 = .ok (.idiv, 1) := dk_108 (dk_at dksX0_barred_2 6 rfl rfl)
theorem dX0_barred_55 : decode cX0_barred 55 = .ok (.goto 7, 3) := dk_167 0 7 (dk_at dksX0_barred_2 7 rfl rfl)
theorem dX0_barred_58 : decode cX0_barred 58 = .ok (.iload_n 3, 1) := dk_29 (dk_at dksX0_barred_2 10 rfl rfl)
theorem dX0_barred_59 : decode cX0_barred 59 = .ok (.bipush 12, 2) := dk_16 12 (dk_at dksX0_barred_2 11 rfl rfl)
theorem dX0_barred_61 : decode cX0_barred 61 = .ok (.irem, 1) := dk_112 (dk_at dksX0_barred_2 13 rfl rfl)
theorem dX0_barred_62 : decode cX0_barred 62 = .ok (.ireturn, 1) := dk_172 (dk_at dksX0_barred_2 14 rfl rfl)
abbrev cX0_together : ByteArray := prog_1_method_43_code
def yX0_together : MethodName := ⟨RX0, "together", "(IJJ)J"⟩
def dkwX0_together_1 : List UInt8 := [184, 0, 243, 153, 0, 14, 42, 27, 32, 22, 4, 182, 0, 247, 167, 0, 6, 20, 0, 215, 173]
abbrev dktX0_together_1 : List UInt8 := dkwX0_together_1 ++ []
def dkwX0_together_0 : List UInt8 := [42, 27, 182, 0, 212, 153, 0, 35, 22, 4, 10, 20, 0, 71, 184, 0, 67, 153, 0, 23, 32, 22, 4]
abbrev dktX0_together_0 : List UInt8 := dkwX0_together_0 ++ dktX0_together_1
theorem dksX0_together_0 : cX0_together.data.toList.drop 0 = dktX0_together_0 := by decide +kernel
theorem dksX0_together_1 : cX0_together.data.toList.drop 23 = dktX0_together_1 := dk_seg dksX0_together_0 23 rfl rfl
theorem dX0_together_0 : decode cX0_together 0 = .ok (.aload_n 0, 1) := dk_42 (dk_at dksX0_together_0 0 rfl rfl)
theorem dX0_together_1 : decode cX0_together 1 = .ok (.iload_n 1, 1) := dk_27 (dk_at dksX0_together_0 1 rfl rfl)
theorem dX0_together_2 : decode cX0_together 2 = .ok (.invokevirtual 212, 3) := dk_182 0 212 (dk_at dksX0_together_0 2 rfl rfl)
theorem dX0_together_5 : decode cX0_together 5 = .ok (.ifCond .eq 35, 3) := dk_153 0 35 (dk_at dksX0_together_0 5 rfl rfl)
theorem dX0_together_8 : decode cX0_together 8 = .ok (.lload 4, 2) := dk_22 4 (dk_at dksX0_together_0 8 rfl rfl)
theorem dX0_together_10 : decode cX0_together 10 = .ok (.lconst 1, 1) := dk_10 (dk_at dksX0_together_0 10 rfl rfl)
theorem dX0_together_11 : decode cX0_together 11 = .ok (.ldc2_w 71, 3) := dk_20 0 71 (dk_at dksX0_together_0 11 rfl rfl)
theorem dX0_together_14 : decode cX0_together 14 = .ok (.invokestatic 67, 3) := dk_184 0 67 (dk_at dksX0_together_0 14 rfl rfl)
theorem dX0_together_17 : decode cX0_together 17 = .ok (.ifCond .eq 23, 3) := dk_153 0 23 (dk_at dksX0_together_0 17 rfl rfl)
theorem dX0_together_20 : decode cX0_together 20 = .ok (.lload_n 2, 1) := dk_32 (dk_at dksX0_together_0 20 rfl rfl)
theorem dX0_together_21 : decode cX0_together 21 = .ok (.lload 4, 2) := dk_22 4 (dk_at dksX0_together_0 21 rfl rfl)
theorem dX0_together_23 : decode cX0_together 23 = .ok (.invokestatic 243, 3) := dk_184 0 243 (dk_at dksX0_together_1 0 rfl rfl)
theorem dX0_together_26 : decode cX0_together 26 = .ok (.ifCond .eq 14, 3) := dk_153 0 14 (dk_at dksX0_together_1 3 rfl rfl)
theorem dX0_together_29 : decode cX0_together 29 = .ok (.aload_n 0, 1) := dk_42 (dk_at dksX0_together_1 6 rfl rfl)
theorem dX0_together_30 : decode cX0_together 30 = .ok (.iload_n 1, 1) := dk_27 (dk_at dksX0_together_1 7 rfl rfl)
theorem dX0_together_31 : decode cX0_together 31 = .ok (.lload_n 2, 1) := dk_32 (dk_at dksX0_together_1 8 rfl rfl)
theorem dX0_together_32 : decode cX0_together 32 = .ok (.lload 4, 2) := dk_22 4 (dk_at dksX0_together_1 9 rfl rfl)
theorem dX0_together_34 : decode cX0_together 34 = .ok (.invokevirtual 247, 3) := dk_182 0 247 (dk_at dksX0_together_1 11 rfl rfl)
theorem dX0_together_37 : decode cX0_together 37 = .ok (.goto 6, 3) := dk_167 0 6 (dk_at dksX0_together_1 14 rfl rfl)
theorem dX0_together_40 : decode cX0_together 40 = .ok (.ldc2_w 215, 3) := dk_20 0 215 (dk_at dksX0_together_1 17 rfl rfl)
theorem dX0_together_43 : decode cX0_together 43 = .ok (.lreturn, 1) := dk_173 (dk_at dksX0_together_1 20 rfl rfl)
abbrev cX0_areHours : ByteArray := prog_1_method_7_code
def yX0_areHours : MethodName := ⟨RX0, "areHours", "(JJ)Z"⟩
def dkwX0_areHours_1 : List UInt8 := [172]
abbrev dktX0_areHours_1 : List UInt8 := dkwX0_areHours_1 ++ []
def dkwX0_areHours_0 : List UInt8 := [30, 184, 0, 73, 153, 0, 19, 30, 32, 97, 10, 101, 20, 0, 71, 148, 157, 0, 7, 4, 167, 0, 4, 3]
abbrev dktX0_areHours_0 : List UInt8 := dkwX0_areHours_0 ++ dktX0_areHours_1
theorem dksX0_areHours_0 : cX0_areHours.data.toList.drop 0 = dktX0_areHours_0 := by decide +kernel
theorem dksX0_areHours_1 : cX0_areHours.data.toList.drop 24 = dktX0_areHours_1 := dk_seg dksX0_areHours_0 24 rfl rfl
theorem dX0_areHours_0 : decode cX0_areHours 0 = .ok (.lload_n 0, 1) := dk_30 (dk_at dksX0_areHours_0 0 rfl rfl)
theorem dX0_areHours_1 : decode cX0_areHours 1 = .ok (.invokestatic 73, 3) := dk_184 0 73 (dk_at dksX0_areHours_0 1 rfl rfl)
theorem dX0_areHours_4 : decode cX0_areHours 4 = .ok (.ifCond .eq 19, 3) := dk_153 0 19 (dk_at dksX0_areHours_0 4 rfl rfl)
theorem dX0_areHours_7 : decode cX0_areHours 7 = .ok (.lload_n 0, 1) := dk_30 (dk_at dksX0_areHours_0 7 rfl rfl)
theorem dX0_areHours_8 : decode cX0_areHours 8 = .ok (.lload_n 2, 1) := dk_32 (dk_at dksX0_areHours_0 8 rfl rfl)
theorem dX0_areHours_9 : decode cX0_areHours 9 = .ok (.ladd, 1) := dk_97 (dk_at dksX0_areHours_0 9 rfl rfl)
theorem dX0_areHours_10 : decode cX0_areHours 10 = .ok (.lconst 1, 1) := dk_10 (dk_at dksX0_areHours_0 10 rfl rfl)
theorem dX0_areHours_11 : decode cX0_areHours 11 = .ok (.lsub, 1) := dk_101 (dk_at dksX0_areHours_0 11 rfl rfl)
theorem dX0_areHours_12 : decode cX0_areHours 12 = .ok (.ldc2_w 71, 3) := dk_20 0 71 (dk_at dksX0_areHours_0 12 rfl rfl)
theorem dX0_areHours_15 : decode cX0_areHours 15 = .ok (.lcmp, 1) := dk_148 (dk_at dksX0_areHours_0 15 rfl rfl)
theorem dX0_areHours_16 : decode cX0_areHours 16 = .ok (.ifCond .gt 7, 3) := dk_157 0 7 (dk_at dksX0_areHours_0 16 rfl rfl)
theorem dX0_areHours_19 : decode cX0_areHours 19 = .ok (.iconst 1, 1) := dk_4 (dk_at dksX0_areHours_0 19 rfl rfl)
theorem dX0_areHours_20 : decode cX0_areHours 20 = .ok (.goto 4, 3) := dk_167 0 4 (dk_at dksX0_areHours_0 20 rfl rfl)
theorem dX0_areHours_23 : decode cX0_areHours 23 = .ok (.iconst 0, 1) := dk_3 (dk_at dksX0_areHours_0 23 rfl rfl)
theorem dX0_areHours_24 : decode cX0_areHours 24 = .ok (.ireturn, 1) := dk_172 (dk_at dksX0_areHours_1 0 rfl rfl)
abbrev cX0_countOf : ByteArray := prog_1_method_42_code
def yX0_countOf : MethodName := ⟨RX0, "countOf", "(IJJ)J"⟩
def dkwX0_countOf_9 : List UInt8 := [55, 14, 167, 255, 183, 22, 12, 173]
abbrev dktX0_countOf_9 : List UInt8 := dkwX0_countOf_9 ++ []
def dkwX0_countOf_8 : List UInt8 := [42, 180, 0, 187, 105, 109, 97, 97, 55, 12, 22, 8, 42, 180, 0, 187, 97, 55, 8, 22, 14, 10, 97]
abbrev dktX0_countOf_8 : List UInt8 := dkwX0_countOf_8 ++ dktX0_countOf_9
def dkwX0_countOf_7 : List UInt8 := [180, 0, 64, 5, 46, 133, 113, 136, 182, 0, 209, 153, 0, 23, 22, 12, 10, 22, 6, 22, 8, 101, 22, 10]
abbrev dktX0_countOf_7 : List UInt8 := dkwX0_countOf_7 ++ dktX0_countOf_8
def dkwX0_countOf_6 : List UInt8 := [22, 10, 148, 156, 0, 71, 22, 8, 22, 6, 148, 157, 0, 63, 42, 27, 22, 8, 42, 180, 0, 10]
abbrev dktX0_countOf_6 : List UInt8 := dkwX0_countOf_6 ++ dktX0_countOf_7
def dkwX0_countOf_5 : List UInt8 := [180, 0, 64, 5, 46, 133, 42, 180, 0, 187, 184, 0, 176, 109, 55, 10, 9, 55, 12, 9, 55, 14, 22, 14]
abbrev dktX0_countOf_5 : List UInt8 := dkwX0_countOf_5 ++ dktX0_countOf_6
def dkwX0_countOf_4 : List UInt8 := [153, 0, 7, 10, 167, 0, 4, 9, 173, 42, 180, 0, 10, 180, 0, 64, 5, 46, 133, 42, 180, 0, 10]
abbrev dktX0_countOf_4 : List UInt8 := dkwX0_countOf_4 ++ dktX0_countOf_5
def dkwX0_countOf_3 : List UInt8 := [148, 157, 0, 29, 42, 27, 22, 8, 42, 180, 0, 10, 180, 0, 64, 5, 46, 133, 113, 136, 182, 0, 209]
abbrev dktX0_countOf_3 : List UInt8 := dkwX0_countOf_3 ++ dktX0_countOf_4
def dkwX0_countOf_2 : List UInt8 := [55, 6, 42, 32, 182, 0, 235, 55, 8, 42, 180, 0, 187, 20, 0, 71, 148, 158, 0, 39, 22, 8, 22, 6]
abbrev dktX0_countOf_2 : List UInt8 := dkwX0_countOf_2 ++ dktX0_countOf_3
def dkwX0_countOf_1 : List UInt8 := [182, 0, 225, 2, 160, 0, 11, 42, 27, 182, 0, 232, 154, 0, 5, 9, 173, 32, 22, 4, 97, 10, 101]
abbrev dktX0_countOf_1 : List UInt8 := dkwX0_countOf_1 ++ dktX0_countOf_2
def dkwX0_countOf_0 : List UInt8 := [42, 180, 0, 10, 180, 0, 64, 4, 46, 158, 0, 12, 42, 27, 32, 22, 4, 182, 0, 239, 173, 42, 27]
abbrev dktX0_countOf_0 : List UInt8 := dkwX0_countOf_0 ++ dktX0_countOf_1
theorem dksX0_countOf_0 : cX0_countOf.data.toList.drop 0 = dktX0_countOf_0 := by decide +kernel
theorem dksX0_countOf_1 : cX0_countOf.data.toList.drop 23 = dktX0_countOf_1 := dk_seg dksX0_countOf_0 23 rfl rfl
theorem dksX0_countOf_2 : cX0_countOf.data.toList.drop 46 = dktX0_countOf_2 := dk_seg dksX0_countOf_1 23 rfl rfl
theorem dksX0_countOf_3 : cX0_countOf.data.toList.drop 70 = dktX0_countOf_3 := dk_seg dksX0_countOf_2 24 rfl rfl
theorem dksX0_countOf_4 : cX0_countOf.data.toList.drop 93 = dktX0_countOf_4 := dk_seg dksX0_countOf_3 23 rfl rfl
theorem dksX0_countOf_5 : cX0_countOf.data.toList.drop 116 = dktX0_countOf_5 := dk_seg dksX0_countOf_4 23 rfl rfl
theorem dksX0_countOf_6 : cX0_countOf.data.toList.drop 140 = dktX0_countOf_6 := dk_seg dksX0_countOf_5 24 rfl rfl
theorem dksX0_countOf_7 : cX0_countOf.data.toList.drop 162 = dktX0_countOf_7 := dk_seg dksX0_countOf_6 22 rfl rfl
theorem dksX0_countOf_8 : cX0_countOf.data.toList.drop 186 = dktX0_countOf_8 := dk_seg dksX0_countOf_7 24 rfl rfl
theorem dksX0_countOf_9 : cX0_countOf.data.toList.drop 209 = dktX0_countOf_9 := dk_seg dksX0_countOf_8 23 rfl rfl
theorem dX0_countOf_0 : decode cX0_countOf 0 = .ok (.aload_n 0, 1) := dk_42 (dk_at dksX0_countOf_0 0 rfl rfl)
theorem dX0_countOf_1 : decode cX0_countOf 1 = .ok (.getfield 10, 3) := dk_180 0 10 (dk_at dksX0_countOf_0 1 rfl rfl)
theorem dX0_countOf_4 : decode cX0_countOf 4 = .ok (.getfield 64, 3) := dk_180 0 64 (dk_at dksX0_countOf_0 4 rfl rfl)
theorem dX0_countOf_7 : decode cX0_countOf 7 = .ok (.iconst 1, 1) := dk_4 (dk_at dksX0_countOf_0 7 rfl rfl)
theorem dX0_countOf_8 : decode cX0_countOf 8 = .ok (.iaload, 1) := dk_46 (dk_at dksX0_countOf_0 8 rfl rfl)
theorem dX0_countOf_9 : decode cX0_countOf 9 = .ok (.ifCond .le 12, 3) := dk_158 0 12 (dk_at dksX0_countOf_0 9 rfl rfl)
theorem dX0_countOf_12 : decode cX0_countOf 12 = .ok (.aload_n 0, 1) := dk_42 (dk_at dksX0_countOf_0 12 rfl rfl)
theorem dX0_countOf_13 : decode cX0_countOf 13 = .ok (.iload_n 1, 1) := dk_27 (dk_at dksX0_countOf_0 13 rfl rfl)
theorem dX0_countOf_14 : decode cX0_countOf 14 = .ok (.lload_n 2, 1) := dk_32 (dk_at dksX0_countOf_0 14 rfl rfl)
theorem dX0_countOf_15 : decode cX0_countOf 15 = .ok (.lload 4, 2) := dk_22 4 (dk_at dksX0_countOf_0 15 rfl rfl)
theorem dX0_countOf_17 : decode cX0_countOf 17 = .ok (.invokevirtual 239, 3) := dk_182 0 239 (dk_at dksX0_countOf_0 17 rfl rfl)
theorem dX0_countOf_20 : decode cX0_countOf 20 = .ok (.lreturn, 1) := dk_173 (dk_at dksX0_countOf_0 20 rfl rfl)
theorem dX0_countOf_21 : decode cX0_countOf 21 = .ok (.aload_n 0, 1) := dk_42 (dk_at dksX0_countOf_0 21 rfl rfl)
theorem dX0_countOf_22 : decode cX0_countOf 22 = .ok (.iload_n 1, 1) := dk_27 (dk_at dksX0_countOf_0 22 rfl rfl)
theorem dX0_countOf_23 : decode cX0_countOf 23 = .ok (.invokevirtual 225, 3) := dk_182 0 225 (dk_at dksX0_countOf_1 0 rfl rfl)
theorem dX0_countOf_26 : decode cX0_countOf 26 = .ok (.iconst (-1), 1) := dk_2 (dk_at dksX0_countOf_1 3 rfl rfl)
theorem dX0_countOf_27 : decode cX0_countOf 27 = .ok (.if_icmp .ne 11, 3) := dk_160 0 11 (dk_at dksX0_countOf_1 4 rfl rfl)
theorem dX0_countOf_30 : decode cX0_countOf 30 = .ok (.aload_n 0, 1) := dk_42 (dk_at dksX0_countOf_1 7 rfl rfl)
theorem dX0_countOf_31 : decode cX0_countOf 31 = .ok (.iload_n 1, 1) := dk_27 (dk_at dksX0_countOf_1 8 rfl rfl)
theorem dX0_countOf_32 : decode cX0_countOf 32 = .ok (.invokevirtual 232, 3) := dk_182 0 232 (dk_at dksX0_countOf_1 9 rfl rfl)
theorem dX0_countOf_35 : decode cX0_countOf 35 = .ok (.ifCond .ne 5, 3) := dk_154 0 5 (dk_at dksX0_countOf_1 12 rfl rfl)
theorem dX0_countOf_38 : decode cX0_countOf 38 = .ok (.lconst 0, 1) := dk_9 (dk_at dksX0_countOf_1 15 rfl rfl)
theorem dX0_countOf_39 : decode cX0_countOf 39 = .ok (.lreturn, 1) := dk_173 (dk_at dksX0_countOf_1 16 rfl rfl)
theorem dX0_countOf_40 : decode cX0_countOf 40 = .ok (.lload_n 2, 1) := dk_32 (dk_at dksX0_countOf_1 17 rfl rfl)
theorem dX0_countOf_41 : decode cX0_countOf 41 = .ok (.lload 4, 2) := dk_22 4 (dk_at dksX0_countOf_1 18 rfl rfl)
theorem dX0_countOf_43 : decode cX0_countOf 43 = .ok (.ladd, 1) := dk_97 (dk_at dksX0_countOf_1 20 rfl rfl)
theorem dX0_countOf_44 : decode cX0_countOf 44 = .ok (.lconst 1, 1) := dk_10 (dk_at dksX0_countOf_1 21 rfl rfl)
theorem dX0_countOf_45 : decode cX0_countOf 45 = .ok (.lsub, 1) := dk_101 (dk_at dksX0_countOf_1 22 rfl rfl)
theorem dX0_countOf_46 : decode cX0_countOf 46 = .ok (.lstore 6, 2) := dk_55 6 (dk_at dksX0_countOf_2 0 rfl rfl)
theorem dX0_countOf_48 : decode cX0_countOf 48 = .ok (.aload_n 0, 1) := dk_42 (dk_at dksX0_countOf_2 2 rfl rfl)
theorem dX0_countOf_49 : decode cX0_countOf 49 = .ok (.lload_n 2, 1) := dk_32 (dk_at dksX0_countOf_2 3 rfl rfl)
theorem dX0_countOf_50 : decode cX0_countOf 50 = .ok (.invokevirtual 235, 3) := dk_182 0 235 (dk_at dksX0_countOf_2 4 rfl rfl)
theorem dX0_countOf_53 : decode cX0_countOf 53 = .ok (.lstore 8, 2) := dk_55 8 (dk_at dksX0_countOf_2 7 rfl rfl)
theorem dX0_countOf_55 : decode cX0_countOf 55 = .ok (.aload_n 0, 1) := dk_42 (dk_at dksX0_countOf_2 9 rfl rfl)
theorem dX0_countOf_56 : decode cX0_countOf 56 = .ok (.getfield 187, 3) := dk_180 0 187 (dk_at dksX0_countOf_2 10 rfl rfl)
theorem dX0_countOf_59 : decode cX0_countOf 59 = .ok (.ldc2_w 71, 3) := dk_20 0 71 (dk_at dksX0_countOf_2 13 rfl rfl)
theorem dX0_countOf_62 : decode cX0_countOf 62 = .ok (.lcmp, 1) := dk_148 (dk_at dksX0_countOf_2 16 rfl rfl)
theorem dX0_countOf_63 : decode cX0_countOf 63 = .ok (.ifCond .le 39, 3) := dk_158 0 39 (dk_at dksX0_countOf_2 17 rfl rfl)
theorem dX0_countOf_66 : decode cX0_countOf 66 = .ok (.lload 8, 2) := dk_22 8 (dk_at dksX0_countOf_2 20 rfl rfl)
theorem dX0_countOf_68 : decode cX0_countOf 68 = .ok (.lload 6, 2) := dk_22 6 (dk_at dksX0_countOf_2 22 rfl rfl)
theorem dX0_countOf_70 : decode cX0_countOf 70 = .ok (.lcmp, 1) := dk_148 (dk_at dksX0_countOf_3 0 rfl rfl)
theorem dX0_countOf_71 : decode cX0_countOf 71 = .ok (.ifCond .gt 29, 3) := dk_157 0 29 (dk_at dksX0_countOf_3 1 rfl rfl)
theorem dX0_countOf_74 : decode cX0_countOf 74 = .ok (.aload_n 0, 1) := dk_42 (dk_at dksX0_countOf_3 4 rfl rfl)
theorem dX0_countOf_75 : decode cX0_countOf 75 = .ok (.iload_n 1, 1) := dk_27 (dk_at dksX0_countOf_3 5 rfl rfl)
theorem dX0_countOf_76 : decode cX0_countOf 76 = .ok (.lload 8, 2) := dk_22 8 (dk_at dksX0_countOf_3 6 rfl rfl)
theorem dX0_countOf_78 : decode cX0_countOf 78 = .ok (.aload_n 0, 1) := dk_42 (dk_at dksX0_countOf_3 8 rfl rfl)
theorem dX0_countOf_79 : decode cX0_countOf 79 = .ok (.getfield 10, 3) := dk_180 0 10 (dk_at dksX0_countOf_3 9 rfl rfl)
theorem dX0_countOf_82 : decode cX0_countOf 82 = .ok (.getfield 64, 3) := dk_180 0 64 (dk_at dksX0_countOf_3 12 rfl rfl)
theorem dX0_countOf_85 : decode cX0_countOf 85 = .ok (.iconst 2, 1) := dk_5 (dk_at dksX0_countOf_3 15 rfl rfl)
theorem dX0_countOf_86 : decode cX0_countOf 86 = .ok (.iaload, 1) := dk_46 (dk_at dksX0_countOf_3 16 rfl rfl)
theorem dX0_countOf_87 : decode cX0_countOf 87 = .ok (.i2l, 1) := dk_133 (dk_at dksX0_countOf_3 17 rfl rfl)
theorem dX0_countOf_88 : decode cX0_countOf 88 = .ok (.lrem, 1) := dk_113 (dk_at dksX0_countOf_3 18 rfl rfl)
theorem dX0_countOf_89 : decode cX0_countOf 89 = .ok (.l2i, 1) := dk_136 (dk_at dksX0_countOf_3 19 rfl rfl)
theorem dX0_countOf_90 : decode cX0_countOf 90 = .ok (.invokevirtual 209, 3) := dk_182 0 209 (dk_at dksX0_countOf_3 20 rfl rfl)
theorem dX0_countOf_93 : decode cX0_countOf 93 = .ok (.ifCond .eq 7, 3) := dk_153 0 7 (dk_at dksX0_countOf_4 0 rfl rfl)
theorem dX0_countOf_96 : decode cX0_countOf 96 = .ok (.lconst 1, 1) := dk_10 (dk_at dksX0_countOf_4 3 rfl rfl)
theorem dX0_countOf_97 : decode cX0_countOf 97 = .ok (.goto 4, 3) := dk_167 0 4 (dk_at dksX0_countOf_4 4 rfl rfl)
theorem dX0_countOf_100 : decode cX0_countOf 100 = .ok (.lconst 0, 1) := dk_9 (dk_at dksX0_countOf_4 7 rfl rfl)
theorem dX0_countOf_101 : decode cX0_countOf 101 = .ok (.lreturn, 1) := dk_173 (dk_at dksX0_countOf_4 8 rfl rfl)
theorem dX0_countOf_102 : decode cX0_countOf 102 = .ok (.aload_n 0, 1) := dk_42 (dk_at dksX0_countOf_4 9 rfl rfl)
theorem dX0_countOf_103 : decode cX0_countOf 103 = .ok (.getfield 10, 3) := dk_180 0 10 (dk_at dksX0_countOf_4 10 rfl rfl)
theorem dX0_countOf_106 : decode cX0_countOf 106 = .ok (.getfield 64, 3) := dk_180 0 64 (dk_at dksX0_countOf_4 13 rfl rfl)
theorem dX0_countOf_109 : decode cX0_countOf 109 = .ok (.iconst 2, 1) := dk_5 (dk_at dksX0_countOf_4 16 rfl rfl)
theorem dX0_countOf_110 : decode cX0_countOf 110 = .ok (.iaload, 1) := dk_46 (dk_at dksX0_countOf_4 17 rfl rfl)
theorem dX0_countOf_111 : decode cX0_countOf 111 = .ok (.i2l, 1) := dk_133 (dk_at dksX0_countOf_4 18 rfl rfl)
theorem dX0_countOf_112 : decode cX0_countOf 112 = .ok (.aload_n 0, 1) := dk_42 (dk_at dksX0_countOf_4 19 rfl rfl)
theorem dX0_countOf_113 : decode cX0_countOf 113 = .ok (.getfield 10, 3) := dk_180 0 10 (dk_at dksX0_countOf_4 20 rfl rfl)
theorem dX0_countOf_116 : decode cX0_countOf 116 = .ok (.getfield 64, 3) := dk_180 0 64 (dk_at dksX0_countOf_5 0 rfl rfl)
theorem dX0_countOf_119 : decode cX0_countOf 119 = .ok (.iconst 2, 1) := dk_5 (dk_at dksX0_countOf_5 3 rfl rfl)
theorem dX0_countOf_120 : decode cX0_countOf 120 = .ok (.iaload, 1) := dk_46 (dk_at dksX0_countOf_5 4 rfl rfl)
theorem dX0_countOf_121 : decode cX0_countOf 121 = .ok (.i2l, 1) := dk_133 (dk_at dksX0_countOf_5 5 rfl rfl)
theorem dX0_countOf_122 : decode cX0_countOf 122 = .ok (.aload_n 0, 1) := dk_42 (dk_at dksX0_countOf_5 6 rfl rfl)
theorem dX0_countOf_123 : decode cX0_countOf 123 = .ok (.getfield 187, 3) := dk_180 0 187 (dk_at dksX0_countOf_5 7 rfl rfl)
theorem dX0_countOf_126 : decode cX0_countOf 126 = .ok (.invokestatic 176, 3) := dk_184 0 176 (dk_at dksX0_countOf_5 10 rfl rfl)
theorem dX0_countOf_129 : decode cX0_countOf 129 = .ok (.ldiv, 1) := dk_109 (dk_at dksX0_countOf_5 13 rfl rfl)
theorem dX0_countOf_130 : decode cX0_countOf 130 = .ok (.lstore 10, 2) := dk_55 10 (dk_at dksX0_countOf_5 14 rfl rfl)
theorem dX0_countOf_132 : decode cX0_countOf 132 = .ok (.lconst 0, 1) := dk_9 (dk_at dksX0_countOf_5 16 rfl rfl)
theorem dX0_countOf_133 : decode cX0_countOf 133 = .ok (.lstore 12, 2) := dk_55 12 (dk_at dksX0_countOf_5 17 rfl rfl)
theorem dX0_countOf_135 : decode cX0_countOf 135 = .ok (.lconst 0, 1) := dk_9 (dk_at dksX0_countOf_5 19 rfl rfl)
theorem dX0_countOf_136 : decode cX0_countOf 136 = .ok (.lstore 14, 2) := dk_55 14 (dk_at dksX0_countOf_5 20 rfl rfl)
theorem dX0_countOf_138 : decode cX0_countOf 138 = .ok (.lload 14, 2) := dk_22 14 (dk_at dksX0_countOf_5 22 rfl rfl)
theorem dX0_countOf_140 : decode cX0_countOf 140 = .ok (.lload 10, 2) := dk_22 10 (dk_at dksX0_countOf_6 0 rfl rfl)
theorem dX0_countOf_142 : decode cX0_countOf 142 = .ok (.lcmp, 1) := dk_148 (dk_at dksX0_countOf_6 2 rfl rfl)
theorem dX0_countOf_143 : decode cX0_countOf 143 = .ok (.ifCond .ge 71, 3) := dk_156 0 71 (dk_at dksX0_countOf_6 3 rfl rfl)
theorem dX0_countOf_146 : decode cX0_countOf 146 = .ok (.lload 8, 2) := dk_22 8 (dk_at dksX0_countOf_6 6 rfl rfl)
theorem dX0_countOf_148 : decode cX0_countOf 148 = .ok (.lload 6, 2) := dk_22 6 (dk_at dksX0_countOf_6 8 rfl rfl)
theorem dX0_countOf_150 : decode cX0_countOf 150 = .ok (.lcmp, 1) := dk_148 (dk_at dksX0_countOf_6 10 rfl rfl)
theorem dX0_countOf_151 : decode cX0_countOf 151 = .ok (.ifCond .gt 63, 3) := dk_157 0 63 (dk_at dksX0_countOf_6 11 rfl rfl)
theorem dX0_countOf_154 : decode cX0_countOf 154 = .ok (.aload_n 0, 1) := dk_42 (dk_at dksX0_countOf_6 14 rfl rfl)
theorem dX0_countOf_155 : decode cX0_countOf 155 = .ok (.iload_n 1, 1) := dk_27 (dk_at dksX0_countOf_6 15 rfl rfl)
theorem dX0_countOf_156 : decode cX0_countOf 156 = .ok (.lload 8, 2) := dk_22 8 (dk_at dksX0_countOf_6 16 rfl rfl)
theorem dX0_countOf_158 : decode cX0_countOf 158 = .ok (.aload_n 0, 1) := dk_42 (dk_at dksX0_countOf_6 18 rfl rfl)
theorem dX0_countOf_159 : decode cX0_countOf 159 = .ok (.getfield 10, 3) := dk_180 0 10 (dk_at dksX0_countOf_6 19 rfl rfl)
theorem dX0_countOf_162 : decode cX0_countOf 162 = .ok (.getfield 64, 3) := dk_180 0 64 (dk_at dksX0_countOf_7 0 rfl rfl)
theorem dX0_countOf_165 : decode cX0_countOf 165 = .ok (.iconst 2, 1) := dk_5 (dk_at dksX0_countOf_7 3 rfl rfl)
theorem dX0_countOf_166 : decode cX0_countOf 166 = .ok (.iaload, 1) := dk_46 (dk_at dksX0_countOf_7 4 rfl rfl)
theorem dX0_countOf_167 : decode cX0_countOf 167 = .ok (.i2l, 1) := dk_133 (dk_at dksX0_countOf_7 5 rfl rfl)
theorem dX0_countOf_168 : decode cX0_countOf 168 = .ok (.lrem, 1) := dk_113 (dk_at dksX0_countOf_7 6 rfl rfl)
theorem dX0_countOf_169 : decode cX0_countOf 169 = .ok (.l2i, 1) := dk_136 (dk_at dksX0_countOf_7 7 rfl rfl)
theorem dX0_countOf_170 : decode cX0_countOf 170 = .ok (.invokevirtual 209, 3) := dk_182 0 209 (dk_at dksX0_countOf_7 8 rfl rfl)
theorem dX0_countOf_173 : decode cX0_countOf 173 = .ok (.ifCond .eq 23, 3) := dk_153 0 23 (dk_at dksX0_countOf_7 11 rfl rfl)
theorem dX0_countOf_176 : decode cX0_countOf 176 = .ok (.lload 12, 2) := dk_22 12 (dk_at dksX0_countOf_7 14 rfl rfl)
theorem dX0_countOf_178 : decode cX0_countOf 178 = .ok (.lconst 1, 1) := dk_10 (dk_at dksX0_countOf_7 16 rfl rfl)
theorem dX0_countOf_179 : decode cX0_countOf 179 = .ok (.lload 6, 2) := dk_22 6 (dk_at dksX0_countOf_7 17 rfl rfl)
theorem dX0_countOf_181 : decode cX0_countOf 181 = .ok (.lload 8, 2) := dk_22 8 (dk_at dksX0_countOf_7 19 rfl rfl)
theorem dX0_countOf_183 : decode cX0_countOf 183 = .ok (.lsub, 1) := dk_101 (dk_at dksX0_countOf_7 21 rfl rfl)
theorem dX0_countOf_184 : decode cX0_countOf 184 = .ok (.lload 10, 2) := dk_22 10 (dk_at dksX0_countOf_7 22 rfl rfl)
theorem dX0_countOf_186 : decode cX0_countOf 186 = .ok (.aload_n 0, 1) := dk_42 (dk_at dksX0_countOf_8 0 rfl rfl)
theorem dX0_countOf_187 : decode cX0_countOf 187 = .ok (.getfield 187, 3) := dk_180 0 187 (dk_at dksX0_countOf_8 1 rfl rfl)
theorem dX0_countOf_190 : decode cX0_countOf 190 = .ok (.lmul, 1) := dk_105 (dk_at dksX0_countOf_8 4 rfl rfl)
theorem dX0_countOf_191 : decode cX0_countOf 191 = .ok (.ldiv, 1) := dk_109 (dk_at dksX0_countOf_8 5 rfl rfl)
theorem dX0_countOf_192 : decode cX0_countOf 192 = .ok (.ladd, 1) := dk_97 (dk_at dksX0_countOf_8 6 rfl rfl)
theorem dX0_countOf_193 : decode cX0_countOf 193 = .ok (.ladd, 1) := dk_97 (dk_at dksX0_countOf_8 7 rfl rfl)
theorem dX0_countOf_194 : decode cX0_countOf 194 = .ok (.lstore 12, 2) := dk_55 12 (dk_at dksX0_countOf_8 8 rfl rfl)
theorem dX0_countOf_196 : decode cX0_countOf 196 = .ok (.lload 8, 2) := dk_22 8 (dk_at dksX0_countOf_8 10 rfl rfl)
theorem dX0_countOf_198 : decode cX0_countOf 198 = .ok (.aload_n 0, 1) := dk_42 (dk_at dksX0_countOf_8 12 rfl rfl)
theorem dX0_countOf_199 : decode cX0_countOf 199 = .ok (.getfield 187, 3) := dk_180 0 187 (dk_at dksX0_countOf_8 13 rfl rfl)
theorem dX0_countOf_202 : decode cX0_countOf 202 = .ok (.ladd, 1) := dk_97 (dk_at dksX0_countOf_8 16 rfl rfl)
theorem dX0_countOf_203 : decode cX0_countOf 203 = .ok (.lstore 8, 2) := dk_55 8 (dk_at dksX0_countOf_8 17 rfl rfl)
theorem dX0_countOf_205 : decode cX0_countOf 205 = .ok (.lload 14, 2) := dk_22 14 (dk_at dksX0_countOf_8 19 rfl rfl)
theorem dX0_countOf_207 : decode cX0_countOf 207 = .ok (.lconst 1, 1) := dk_10 (dk_at dksX0_countOf_8 21 rfl rfl)
theorem dX0_countOf_208 : decode cX0_countOf 208 = .ok (.ladd, 1) := dk_97 (dk_at dksX0_countOf_8 22 rfl rfl)
theorem dX0_countOf_209 : decode cX0_countOf 209 = .ok (.lstore 14, 2) := dk_55 14 (dk_at dksX0_countOf_9 0 rfl rfl)
theorem dX0_countOf_211 : decode cX0_countOf 211 = .ok (.goto (-73), 3) := dk_167 255 183 (dk_at dksX0_countOf_9 2 rfl rfl)
theorem dX0_countOf_214 : decode cX0_countOf 214 = .ok (.lload 12, 2) := dk_22 12 (dk_at dksX0_countOf_9 5 rfl rfl)
theorem dX0_countOf_216 : decode cX0_countOf 216 = .ok (.lreturn, 1) := dk_173 (dk_at dksX0_countOf_9 7 rfl rfl)
abbrev cX0_countDays : ByteArray := prog_1_method_41_code
def yX0_countDays : MethodName := ⟨RX0, "countDays", "(IJJ)J"⟩
def dkwX0_countDays_3 : List UInt8 := [22, 9, 148, 156, 0, 7, 10, 167, 0, 4, 9, 97, 97, 55, 11, 132, 13, 1, 167, 255, 195, 22, 11, 173]
abbrev dktX0_countDays_3 : List UInt8 := dkwX0_countDays_3 ++ []
def dkwX0_countDays_2 : List UInt8 := [148, 156, 0, 44, 42, 27, 32, 21, 13, 133, 97, 182, 0, 220, 153, 0, 25, 22, 11, 22, 7, 21, 13, 133]
abbrev dktX0_countDays_2 : List UInt8 := dkwX0_countDays_2 ++ dktX0_countDays_3
def dkwX0_countDays_1 : List UInt8 := [55, 11, 3, 54, 13, 21, 13, 21, 6, 162, 0, 60, 22, 7, 9, 148, 157, 0, 12, 21, 13, 133, 22, 9]
abbrev dktX0_countDays_1 : List UInt8 := dkwX0_countDays_1 ++ dktX0_countDays_2
def dkwX0_countDays_0 : List UInt8 := [42, 182, 0, 217, 54, 6, 22, 4, 21, 6, 133, 109, 55, 7, 22, 4, 21, 6, 133, 113, 55, 9, 9]
abbrev dktX0_countDays_0 : List UInt8 := dkwX0_countDays_0 ++ dktX0_countDays_1
theorem dksX0_countDays_0 : cX0_countDays.data.toList.drop 0 = dktX0_countDays_0 := by decide +kernel
theorem dksX0_countDays_1 : cX0_countDays.data.toList.drop 23 = dktX0_countDays_1 := dk_seg dksX0_countDays_0 23 rfl rfl
theorem dksX0_countDays_2 : cX0_countDays.data.toList.drop 47 = dktX0_countDays_2 := dk_seg dksX0_countDays_1 24 rfl rfl
theorem dksX0_countDays_3 : cX0_countDays.data.toList.drop 71 = dktX0_countDays_3 := dk_seg dksX0_countDays_2 24 rfl rfl
theorem dX0_countDays_0 : decode cX0_countDays 0 = .ok (.aload_n 0, 1) := dk_42 (dk_at dksX0_countDays_0 0 rfl rfl)
theorem dX0_countDays_1 : decode cX0_countDays 1 = .ok (.invokevirtual 217, 3) := dk_182 0 217 (dk_at dksX0_countDays_0 1 rfl rfl)
theorem dX0_countDays_4 : decode cX0_countDays 4 = .ok (.istore 6, 2) := dk_54 6 (dk_at dksX0_countDays_0 4 rfl rfl)
theorem dX0_countDays_6 : decode cX0_countDays 6 = .ok (.lload 4, 2) := dk_22 4 (dk_at dksX0_countDays_0 6 rfl rfl)
theorem dX0_countDays_8 : decode cX0_countDays 8 = .ok (.iload 6, 2) := dk_21 6 (dk_at dksX0_countDays_0 8 rfl rfl)
theorem dX0_countDays_10 : decode cX0_countDays 10 = .ok (.i2l, 1) := dk_133 (dk_at dksX0_countDays_0 10 rfl rfl)
theorem dX0_countDays_11 : decode cX0_countDays 11 = .ok (.ldiv, 1) := dk_109 (dk_at dksX0_countDays_0 11 rfl rfl)
theorem dX0_countDays_12 : decode cX0_countDays 12 = .ok (.lstore 7, 2) := dk_55 7 (dk_at dksX0_countDays_0 12 rfl rfl)
theorem dX0_countDays_14 : decode cX0_countDays 14 = .ok (.lload 4, 2) := dk_22 4 (dk_at dksX0_countDays_0 14 rfl rfl)
theorem dX0_countDays_16 : decode cX0_countDays 16 = .ok (.iload 6, 2) := dk_21 6 (dk_at dksX0_countDays_0 16 rfl rfl)
theorem dX0_countDays_18 : decode cX0_countDays 18 = .ok (.i2l, 1) := dk_133 (dk_at dksX0_countDays_0 18 rfl rfl)
theorem dX0_countDays_19 : decode cX0_countDays 19 = .ok (.lrem, 1) := dk_113 (dk_at dksX0_countDays_0 19 rfl rfl)
theorem dX0_countDays_20 : decode cX0_countDays 20 = .ok (.lstore 9, 2) := dk_55 9 (dk_at dksX0_countDays_0 20 rfl rfl)
theorem dX0_countDays_22 : decode cX0_countDays 22 = .ok (.lconst 0, 1) := dk_9 (dk_at dksX0_countDays_0 22 rfl rfl)
theorem dX0_countDays_23 : decode cX0_countDays 23 = .ok (.lstore 11, 2) := dk_55 11 (dk_at dksX0_countDays_1 0 rfl rfl)
theorem dX0_countDays_25 : decode cX0_countDays 25 = .ok (.iconst 0, 1) := dk_3 (dk_at dksX0_countDays_1 2 rfl rfl)
theorem dX0_countDays_26 : decode cX0_countDays 26 = .ok (.istore 13, 2) := dk_54 13 (dk_at dksX0_countDays_1 3 rfl rfl)
theorem dX0_countDays_28 : decode cX0_countDays 28 = .ok (.iload 13, 2) := dk_21 13 (dk_at dksX0_countDays_1 5 rfl rfl)
theorem dX0_countDays_30 : decode cX0_countDays 30 = .ok (.iload 6, 2) := dk_21 6 (dk_at dksX0_countDays_1 7 rfl rfl)
theorem dX0_countDays_32 : decode cX0_countDays 32 = .ok (.if_icmp .ge 60, 3) := dk_162 0 60 (dk_at dksX0_countDays_1 9 rfl rfl)
theorem dX0_countDays_35 : decode cX0_countDays 35 = .ok (.lload 7, 2) := dk_22 7 (dk_at dksX0_countDays_1 12 rfl rfl)
theorem dX0_countDays_37 : decode cX0_countDays 37 = .ok (.lconst 0, 1) := dk_9 (dk_at dksX0_countDays_1 14 rfl rfl)
theorem dX0_countDays_38 : decode cX0_countDays 38 = .ok (.lcmp, 1) := dk_148 (dk_at dksX0_countDays_1 15 rfl rfl)
theorem dX0_countDays_39 : decode cX0_countDays 39 = .ok (.ifCond .gt 12, 3) := dk_157 0 12 (dk_at dksX0_countDays_1 16 rfl rfl)
theorem dX0_countDays_42 : decode cX0_countDays 42 = .ok (.iload 13, 2) := dk_21 13 (dk_at dksX0_countDays_1 19 rfl rfl)
theorem dX0_countDays_44 : decode cX0_countDays 44 = .ok (.i2l, 1) := dk_133 (dk_at dksX0_countDays_1 21 rfl rfl)
theorem dX0_countDays_45 : decode cX0_countDays 45 = .ok (.lload 9, 2) := dk_22 9 (dk_at dksX0_countDays_1 22 rfl rfl)
theorem dX0_countDays_47 : decode cX0_countDays 47 = .ok (.lcmp, 1) := dk_148 (dk_at dksX0_countDays_2 0 rfl rfl)
theorem dX0_countDays_48 : decode cX0_countDays 48 = .ok (.ifCond .ge 44, 3) := dk_156 0 44 (dk_at dksX0_countDays_2 1 rfl rfl)
theorem dX0_countDays_51 : decode cX0_countDays 51 = .ok (.aload_n 0, 1) := dk_42 (dk_at dksX0_countDays_2 4 rfl rfl)
theorem dX0_countDays_52 : decode cX0_countDays 52 = .ok (.iload_n 1, 1) := dk_27 (dk_at dksX0_countDays_2 5 rfl rfl)
theorem dX0_countDays_53 : decode cX0_countDays 53 = .ok (.lload_n 2, 1) := dk_32 (dk_at dksX0_countDays_2 6 rfl rfl)
theorem dX0_countDays_54 : decode cX0_countDays 54 = .ok (.iload 13, 2) := dk_21 13 (dk_at dksX0_countDays_2 7 rfl rfl)
theorem dX0_countDays_56 : decode cX0_countDays 56 = .ok (.i2l, 1) := dk_133 (dk_at dksX0_countDays_2 9 rfl rfl)
theorem dX0_countDays_57 : decode cX0_countDays 57 = .ok (.ladd, 1) := dk_97 (dk_at dksX0_countDays_2 10 rfl rfl)
theorem dX0_countDays_58 : decode cX0_countDays 58 = .ok (.invokevirtual 220, 3) := dk_182 0 220 (dk_at dksX0_countDays_2 11 rfl rfl)
theorem dX0_countDays_61 : decode cX0_countDays 61 = .ok (.ifCond .eq 25, 3) := dk_153 0 25 (dk_at dksX0_countDays_2 14 rfl rfl)
theorem dX0_countDays_64 : decode cX0_countDays 64 = .ok (.lload 11, 2) := dk_22 11 (dk_at dksX0_countDays_2 17 rfl rfl)
theorem dX0_countDays_66 : decode cX0_countDays 66 = .ok (.lload 7, 2) := dk_22 7 (dk_at dksX0_countDays_2 19 rfl rfl)
theorem dX0_countDays_68 : decode cX0_countDays 68 = .ok (.iload 13, 2) := dk_21 13 (dk_at dksX0_countDays_2 21 rfl rfl)
theorem dX0_countDays_70 : decode cX0_countDays 70 = .ok (.i2l, 1) := dk_133 (dk_at dksX0_countDays_2 23 rfl rfl)
theorem dX0_countDays_71 : decode cX0_countDays 71 = .ok (.lload 9, 2) := dk_22 9 (dk_at dksX0_countDays_3 0 rfl rfl)
theorem dX0_countDays_73 : decode cX0_countDays 73 = .ok (.lcmp, 1) := dk_148 (dk_at dksX0_countDays_3 2 rfl rfl)
theorem dX0_countDays_74 : decode cX0_countDays 74 = .ok (.ifCond .ge 7, 3) := dk_156 0 7 (dk_at dksX0_countDays_3 3 rfl rfl)
theorem dX0_countDays_77 : decode cX0_countDays 77 = .ok (.lconst 1, 1) := dk_10 (dk_at dksX0_countDays_3 6 rfl rfl)
theorem dX0_countDays_78 : decode cX0_countDays 78 = .ok (.goto 4, 3) := dk_167 0 4 (dk_at dksX0_countDays_3 7 rfl rfl)
theorem dX0_countDays_81 : decode cX0_countDays 81 = .ok (.lconst 0, 1) := dk_9 (dk_at dksX0_countDays_3 10 rfl rfl)
theorem dX0_countDays_82 : decode cX0_countDays 82 = .ok (.ladd, 1) := dk_97 (dk_at dksX0_countDays_3 11 rfl rfl)
theorem dX0_countDays_83 : decode cX0_countDays 83 = .ok (.ladd, 1) := dk_97 (dk_at dksX0_countDays_3 12 rfl rfl)
theorem dX0_countDays_84 : decode cX0_countDays 84 = .ok (.lstore 11, 2) := dk_55 11 (dk_at dksX0_countDays_3 13 rfl rfl)
theorem dX0_countDays_86 : decode cX0_countDays 86 = .ok (.iinc 13 1, 3) := dk_132 13 1 (dk_at dksX0_countDays_3 15 rfl rfl)
theorem dX0_countDays_89 : decode cX0_countDays 89 = .ok (.goto (-61), 3) := dk_167 255 195 (dk_at dksX0_countDays_3 18 rfl rfl)
theorem dX0_countDays_92 : decode cX0_countDays 92 = .ok (.lload 11, 2) := dk_22 11 (dk_at dksX0_countDays_3 21 rfl rfl)
theorem dX0_countDays_94 : decode cX0_countDays 94 = .ok (.lreturn, 1) := dk_173 (dk_at dksX0_countDays_3 23 rfl rfl)
abbrev cX0_alone : ByteArray := prog_1_method_44_code
def yX0_alone : MethodName := ⟨RX0, "alone", "(IJI)I"⟩
def dkwX0_alone_6 : List UInt8 := [96, 54, 5, 132, 6, 1, 167, 255, 176, 21, 5, 172]
abbrev dktX0_alone_6 : List UInt8 := dkwX0_alone_6 ++ []
def dkwX0_alone_5 : List UInt8 := [160, 0, 7, 4, 167, 0, 20, 3, 167, 0, 16, 21, 7, 4, 27, 120, 160, 0, 7, 4, 167, 0, 4, 3]
abbrev dktX0_alone_5 : List UInt8 := dkwX0_alone_5 ++ dktX0_alone_6
def dkwX0_alone_4 : List UInt8 := [154, 0, 7, 4, 167, 0, 43, 3, 167, 0, 39, 27, 16, 12, 160, 0, 20, 21, 7, 184, 1, 2, 4]
abbrev dktX0_alone_4 : List UInt8 := dkwX0_alone_4 ++ dktX0_alone_5
def dkwX0_alone_3 : List UInt8 := [162, 0, 79, 42, 32, 21, 6, 133, 97, 182, 0, 254, 54, 7, 21, 5, 27, 2, 160, 0, 16, 21, 7]
abbrev dktX0_alone_3 : List UInt8 := dkwX0_alone_3 ++ dktX0_alone_4
def dkwX0_alone_2 : List UInt8 := [32, 21, 4, 133, 184, 0, 243, 154, 0, 5, 2, 172, 3, 54, 5, 3, 54, 6, 21, 6, 21, 4]
abbrev dktX0_alone_2 : List UInt8 := dkwX0_alone_2 ++ dktX0_alone_3
def dkwX0_alone_1 : List UInt8 := [159, 0, 11, 42, 27, 182, 0, 95, 153, 0, 26, 21, 4, 133, 10, 20, 0, 252, 184, 0, 67, 153, 0, 13]
abbrev dktX0_alone_1 : List UInt8 := dkwX0_alone_1 ++ dktX0_alone_2
def dkwX0_alone_0 : List UInt8 := [27, 133, 20, 0, 215, 20, 0, 250, 184, 0, 67, 153, 0, 45, 27, 16, 12, 162, 0, 16, 27, 2]
abbrev dktX0_alone_0 : List UInt8 := dkwX0_alone_0 ++ dktX0_alone_1
theorem dksX0_alone_0 : cX0_alone.data.toList.drop 0 = dktX0_alone_0 := by decide +kernel
theorem dksX0_alone_1 : cX0_alone.data.toList.drop 22 = dktX0_alone_1 := dk_seg dksX0_alone_0 22 rfl rfl
theorem dksX0_alone_2 : cX0_alone.data.toList.drop 46 = dktX0_alone_2 := dk_seg dksX0_alone_1 24 rfl rfl
theorem dksX0_alone_3 : cX0_alone.data.toList.drop 68 = dktX0_alone_3 := dk_seg dksX0_alone_2 22 rfl rfl
theorem dksX0_alone_4 : cX0_alone.data.toList.drop 91 = dktX0_alone_4 := dk_seg dksX0_alone_3 23 rfl rfl
theorem dksX0_alone_5 : cX0_alone.data.toList.drop 114 = dktX0_alone_5 := dk_seg dksX0_alone_4 23 rfl rfl
theorem dksX0_alone_6 : cX0_alone.data.toList.drop 138 = dktX0_alone_6 := dk_seg dksX0_alone_5 24 rfl rfl
theorem dX0_alone_0 : decode cX0_alone 0 = .ok (.iload_n 1, 1) := dk_27 (dk_at dksX0_alone_0 0 rfl rfl)
theorem dX0_alone_1 : decode cX0_alone 1 = .ok (.i2l, 1) := dk_133 (dk_at dksX0_alone_0 1 rfl rfl)
theorem dX0_alone_2 : decode cX0_alone 2 = .ok (.ldc2_w 215, 3) := dk_20 0 215 (dk_at dksX0_alone_0 2 rfl rfl)
theorem dX0_alone_5 : decode cX0_alone 5 = .ok (.ldc2_w 250, 3) := dk_20 0 250 (dk_at dksX0_alone_0 5 rfl rfl)
theorem dX0_alone_8 : decode cX0_alone 8 = .ok (.invokestatic 67, 3) := dk_184 0 67 (dk_at dksX0_alone_0 8 rfl rfl)
theorem dX0_alone_11 : decode cX0_alone 11 = .ok (.ifCond .eq 45, 3) := dk_153 0 45 (dk_at dksX0_alone_0 11 rfl rfl)
theorem dX0_alone_14 : decode cX0_alone 14 = .ok (.iload_n 1, 1) := dk_27 (dk_at dksX0_alone_0 14 rfl rfl)
theorem dX0_alone_15 : decode cX0_alone 15 = .ok (.bipush 12, 2) := dk_16 12 (dk_at dksX0_alone_0 15 rfl rfl)
theorem dX0_alone_17 : decode cX0_alone 17 = .ok (.if_icmp .ge 16, 3) := dk_162 0 16 (dk_at dksX0_alone_0 17 rfl rfl)
theorem dX0_alone_20 : decode cX0_alone 20 = .ok (.iload_n 1, 1) := dk_27 (dk_at dksX0_alone_0 20 rfl rfl)
theorem dX0_alone_21 : decode cX0_alone 21 = .ok (.iconst (-1), 1) := dk_2 (dk_at dksX0_alone_0 21 rfl rfl)
theorem dX0_alone_22 : decode cX0_alone 22 = .ok (.if_icmp .eq 11, 3) := dk_159 0 11 (dk_at dksX0_alone_1 0 rfl rfl)
theorem dX0_alone_25 : decode cX0_alone 25 = .ok (.aload_n 0, 1) := dk_42 (dk_at dksX0_alone_1 3 rfl rfl)
theorem dX0_alone_26 : decode cX0_alone 26 = .ok (.iload_n 1, 1) := dk_27 (dk_at dksX0_alone_1 4 rfl rfl)
theorem dX0_alone_27 : decode cX0_alone 27 = .ok (.invokevirtual 95, 3) := dk_182 0 95 (dk_at dksX0_alone_1 5 rfl rfl)
theorem dX0_alone_30 : decode cX0_alone 30 = .ok (.ifCond .eq 26, 3) := dk_153 0 26 (dk_at dksX0_alone_1 8 rfl rfl)
theorem dX0_alone_33 : decode cX0_alone 33 = .ok (.iload 4, 2) := dk_21 4 (dk_at dksX0_alone_1 11 rfl rfl)
theorem dX0_alone_35 : decode cX0_alone 35 = .ok (.i2l, 1) := dk_133 (dk_at dksX0_alone_1 13 rfl rfl)
theorem dX0_alone_36 : decode cX0_alone 36 = .ok (.lconst 1, 1) := dk_10 (dk_at dksX0_alone_1 14 rfl rfl)
theorem dX0_alone_37 : decode cX0_alone 37 = .ok (.ldc2_w 252, 3) := dk_20 0 252 (dk_at dksX0_alone_1 15 rfl rfl)
theorem dX0_alone_40 : decode cX0_alone 40 = .ok (.invokestatic 67, 3) := dk_184 0 67 (dk_at dksX0_alone_1 18 rfl rfl)
theorem dX0_alone_43 : decode cX0_alone 43 = .ok (.ifCond .eq 13, 3) := dk_153 0 13 (dk_at dksX0_alone_1 21 rfl rfl)
theorem dX0_alone_46 : decode cX0_alone 46 = .ok (.lload_n 2, 1) := dk_32 (dk_at dksX0_alone_2 0 rfl rfl)
theorem dX0_alone_47 : decode cX0_alone 47 = .ok (.iload 4, 2) := dk_21 4 (dk_at dksX0_alone_2 1 rfl rfl)
theorem dX0_alone_49 : decode cX0_alone 49 = .ok (.i2l, 1) := dk_133 (dk_at dksX0_alone_2 3 rfl rfl)
theorem dX0_alone_50 : decode cX0_alone 50 = .ok (.invokestatic 243, 3) := dk_184 0 243 (dk_at dksX0_alone_2 4 rfl rfl)
theorem dX0_alone_53 : decode cX0_alone 53 = .ok (.ifCond .ne 5, 3) := dk_154 0 5 (dk_at dksX0_alone_2 7 rfl rfl)
theorem dX0_alone_56 : decode cX0_alone 56 = .ok (.iconst (-1), 1) := dk_2 (dk_at dksX0_alone_2 10 rfl rfl)
theorem dX0_alone_57 : decode cX0_alone 57 = .ok (.ireturn, 1) := dk_172 (dk_at dksX0_alone_2 11 rfl rfl)
theorem dX0_alone_58 : decode cX0_alone 58 = .ok (.iconst 0, 1) := dk_3 (dk_at dksX0_alone_2 12 rfl rfl)
theorem dX0_alone_59 : decode cX0_alone 59 = .ok (.istore 5, 2) := dk_54 5 (dk_at dksX0_alone_2 13 rfl rfl)
theorem dX0_alone_61 : decode cX0_alone 61 = .ok (.iconst 0, 1) := dk_3 (dk_at dksX0_alone_2 15 rfl rfl)
theorem dX0_alone_62 : decode cX0_alone 62 = .ok (.istore 6, 2) := dk_54 6 (dk_at dksX0_alone_2 16 rfl rfl)
theorem dX0_alone_64 : decode cX0_alone 64 = .ok (.iload 6, 2) := dk_21 6 (dk_at dksX0_alone_2 18 rfl rfl)
theorem dX0_alone_66 : decode cX0_alone 66 = .ok (.iload 4, 2) := dk_21 4 (dk_at dksX0_alone_2 20 rfl rfl)
theorem dX0_alone_68 : decode cX0_alone 68 = .ok (.if_icmp .ge 79, 3) := dk_162 0 79 (dk_at dksX0_alone_3 0 rfl rfl)
theorem dX0_alone_71 : decode cX0_alone 71 = .ok (.aload_n 0, 1) := dk_42 (dk_at dksX0_alone_3 3 rfl rfl)
theorem dX0_alone_72 : decode cX0_alone 72 = .ok (.lload_n 2, 1) := dk_32 (dk_at dksX0_alone_3 4 rfl rfl)
theorem dX0_alone_73 : decode cX0_alone 73 = .ok (.iload 6, 2) := dk_21 6 (dk_at dksX0_alone_3 5 rfl rfl)
theorem dX0_alone_75 : decode cX0_alone 75 = .ok (.i2l, 1) := dk_133 (dk_at dksX0_alone_3 7 rfl rfl)
theorem dX0_alone_76 : decode cX0_alone 76 = .ok (.ladd, 1) := dk_97 (dk_at dksX0_alone_3 8 rfl rfl)
theorem dX0_alone_77 : decode cX0_alone 77 = .ok (.invokevirtual 254, 3) := dk_182 0 254 (dk_at dksX0_alone_3 9 rfl rfl)
theorem dX0_alone_80 : decode cX0_alone 80 = .ok (.istore 7, 2) := dk_54 7 (dk_at dksX0_alone_3 12 rfl rfl)
theorem dX0_alone_82 : decode cX0_alone 82 = .ok (.iload 5, 2) := dk_21 5 (dk_at dksX0_alone_3 14 rfl rfl)
theorem dX0_alone_84 : decode cX0_alone 84 = .ok (.iload_n 1, 1) := dk_27 (dk_at dksX0_alone_3 16 rfl rfl)
theorem dX0_alone_85 : decode cX0_alone 85 = .ok (.iconst (-1), 1) := dk_2 (dk_at dksX0_alone_3 17 rfl rfl)
theorem dX0_alone_86 : decode cX0_alone 86 = .ok (.if_icmp .ne 16, 3) := dk_160 0 16 (dk_at dksX0_alone_3 18 rfl rfl)
theorem dX0_alone_89 : decode cX0_alone 89 = .ok (.iload 7, 2) := dk_21 7 (dk_at dksX0_alone_3 21 rfl rfl)
theorem dX0_alone_91 : decode cX0_alone 91 = .ok (.ifCond .ne 7, 3) := dk_154 0 7 (dk_at dksX0_alone_4 0 rfl rfl)
theorem dX0_alone_94 : decode cX0_alone 94 = .ok (.iconst 1, 1) := dk_4 (dk_at dksX0_alone_4 3 rfl rfl)
theorem dX0_alone_95 : decode cX0_alone 95 = .ok (.goto 43, 3) := dk_167 0 43 (dk_at dksX0_alone_4 4 rfl rfl)
theorem dX0_alone_98 : decode cX0_alone 98 = .ok (.iconst 0, 1) := dk_3 (dk_at dksX0_alone_4 7 rfl rfl)
theorem dX0_alone_99 : decode cX0_alone 99 = .ok (.goto 39, 3) := dk_167 0 39 (dk_at dksX0_alone_4 8 rfl rfl)
theorem dX0_alone_102 : decode cX0_alone 102 = .ok (.iload_n 1, 1) := dk_27 (dk_at dksX0_alone_4 11 rfl rfl)
theorem dX0_alone_103 : decode cX0_alone 103 = .ok (.bipush 12, 2) := dk_16 12 (dk_at dksX0_alone_4 12 rfl rfl)
theorem dX0_alone_105 : decode cX0_alone 105 = .ok (.if_icmp .ne 20, 3) := dk_160 0 20 (dk_at dksX0_alone_4 14 rfl rfl)
theorem dX0_alone_108 : decode cX0_alone 108 = .ok (.iload 7, 2) := dk_21 7 (dk_at dksX0_alone_4 17 rfl rfl)
theorem dX0_alone_110 : decode cX0_alone 110 = .ok (.invokestatic 258, 3) := dk_184 1 2 (dk_at dksX0_alone_4 19 rfl rfl)
theorem dX0_alone_113 : decode cX0_alone 113 = .ok (.iconst 1, 1) := dk_4 (dk_at dksX0_alone_4 22 rfl rfl)
theorem dX0_alone_114 : decode cX0_alone 114 = .ok (.if_icmp .ne 7, 3) := dk_160 0 7 (dk_at dksX0_alone_5 0 rfl rfl)
theorem dX0_alone_117 : decode cX0_alone 117 = .ok (.iconst 1, 1) := dk_4 (dk_at dksX0_alone_5 3 rfl rfl)
theorem dX0_alone_118 : decode cX0_alone 118 = .ok (.goto 20, 3) := dk_167 0 20 (dk_at dksX0_alone_5 4 rfl rfl)
theorem dX0_alone_121 : decode cX0_alone 121 = .ok (.iconst 0, 1) := dk_3 (dk_at dksX0_alone_5 7 rfl rfl)
theorem dX0_alone_122 : decode cX0_alone 122 = .ok (.goto 16, 3) := dk_167 0 16 (dk_at dksX0_alone_5 8 rfl rfl)
theorem dX0_alone_125 : decode cX0_alone 125 = .ok (.iload 7, 2) := dk_21 7 (dk_at dksX0_alone_5 11 rfl rfl)
theorem dX0_alone_127 : decode cX0_alone 127 = .ok (.iconst 1, 1) := dk_4 (dk_at dksX0_alone_5 13 rfl rfl)
theorem dX0_alone_128 : decode cX0_alone 128 = .ok (.iload_n 1, 1) := dk_27 (dk_at dksX0_alone_5 14 rfl rfl)
theorem dX0_alone_129 : decode cX0_alone 129 = .ok (.ishl, 1) := dk_120 (dk_at dksX0_alone_5 15 rfl rfl)
theorem dX0_alone_130 : decode cX0_alone 130 = .ok (.if_icmp .ne 7, 3) := dk_160 0 7 (dk_at dksX0_alone_5 16 rfl rfl)
theorem dX0_alone_133 : decode cX0_alone 133 = .ok (.iconst 1, 1) := dk_4 (dk_at dksX0_alone_5 19 rfl rfl)
theorem dX0_alone_134 : decode cX0_alone 134 = .ok (.goto 4, 3) := dk_167 0 4 (dk_at dksX0_alone_5 20 rfl rfl)
theorem dX0_alone_137 : decode cX0_alone 137 = .ok (.iconst 0, 1) := dk_3 (dk_at dksX0_alone_5 23 rfl rfl)
theorem dX0_alone_138 : decode cX0_alone 138 = .ok (.iadd, 1) := dk_96 (dk_at dksX0_alone_6 0 rfl rfl)
theorem dX0_alone_139 : decode cX0_alone 139 = .ok (.istore 5, 2) := dk_54 5 (dk_at dksX0_alone_6 1 rfl rfl)
theorem dX0_alone_141 : decode cX0_alone 141 = .ok (.iinc 6 1, 3) := dk_132 6 1 (dk_at dksX0_alone_6 3 rfl rfl)
theorem dX0_alone_144 : decode cX0_alone 144 = .ok (.goto (-80), 3) := dk_167 255 176 (dk_at dksX0_alone_6 6 rfl rfl)
theorem dX0_alone_147 : decode cX0_alone 147 = .ok (.iload 5, 2) := dk_21 5 (dk_at dksX0_alone_6 9 rfl rfl)
theorem dX0_alone_149 : decode cX0_alone 149 = .ok (.ireturn, 1) := dk_172 (dk_at dksX0_alone_6 11 rfl rfl)
abbrev cX0_speakers : ByteArray := prog_1_method_29_code
def yX0_speakers : MethodName := ⟨RX0, "speakers", "(J)I"⟩
def dkwX0_speakers_1 : List UInt8 := [182, 0, 169, 153, 0, 10, 4, 21, 4, 120, 167, 0, 4, 3, 128, 62, 132, 4, 1, 167, 255, 218, 29, 172]
abbrev dktX0_speakers_1 : List UInt8 := dkwX0_speakers_1 ++ []
def dkwX0_speakers_0 : List UInt8 := [3, 62, 3, 54, 4, 21, 4, 42, 180, 0, 10, 180, 0, 64, 3, 46, 162, 0, 30, 29, 42, 21, 4, 31]
abbrev dktX0_speakers_0 : List UInt8 := dkwX0_speakers_0 ++ dktX0_speakers_1
theorem dksX0_speakers_0 : cX0_speakers.data.toList.drop 0 = dktX0_speakers_0 := by decide +kernel
theorem dksX0_speakers_1 : cX0_speakers.data.toList.drop 24 = dktX0_speakers_1 := dk_seg dksX0_speakers_0 24 rfl rfl
theorem dX0_speakers_0 : decode cX0_speakers 0 = .ok (.iconst 0, 1) := dk_3 (dk_at dksX0_speakers_0 0 rfl rfl)
theorem dX0_speakers_1 : decode cX0_speakers 1 = .ok (.istore_n 3, 1) := dk_62 (dk_at dksX0_speakers_0 1 rfl rfl)
theorem dX0_speakers_2 : decode cX0_speakers 2 = .ok (.iconst 0, 1) := dk_3 (dk_at dksX0_speakers_0 2 rfl rfl)
theorem dX0_speakers_3 : decode cX0_speakers 3 = .ok (.istore 4, 2) := dk_54 4 (dk_at dksX0_speakers_0 3 rfl rfl)
theorem dX0_speakers_5 : decode cX0_speakers 5 = .ok (.iload 4, 2) := dk_21 4 (dk_at dksX0_speakers_0 5 rfl rfl)
theorem dX0_speakers_7 : decode cX0_speakers 7 = .ok (.aload_n 0, 1) := dk_42 (dk_at dksX0_speakers_0 7 rfl rfl)
theorem dX0_speakers_8 : decode cX0_speakers 8 = .ok (.getfield 10, 3) := dk_180 0 10 (dk_at dksX0_speakers_0 8 rfl rfl)
theorem dX0_speakers_11 : decode cX0_speakers 11 = .ok (.getfield 64, 3) := dk_180 0 64 (dk_at dksX0_speakers_0 11 rfl rfl)
theorem dX0_speakers_14 : decode cX0_speakers 14 = .ok (.iconst 0, 1) := dk_3 (dk_at dksX0_speakers_0 14 rfl rfl)
theorem dX0_speakers_15 : decode cX0_speakers 15 = .ok (.iaload, 1) := dk_46 (dk_at dksX0_speakers_0 15 rfl rfl)
theorem dX0_speakers_16 : decode cX0_speakers 16 = .ok (.if_icmp .ge 30, 3) := dk_162 0 30 (dk_at dksX0_speakers_0 16 rfl rfl)
theorem dX0_speakers_19 : decode cX0_speakers 19 = .ok (.iload_n 3, 1) := dk_29 (dk_at dksX0_speakers_0 19 rfl rfl)
theorem dX0_speakers_20 : decode cX0_speakers 20 = .ok (.aload_n 0, 1) := dk_42 (dk_at dksX0_speakers_0 20 rfl rfl)
theorem dX0_speakers_21 : decode cX0_speakers 21 = .ok (.iload 4, 2) := dk_21 4 (dk_at dksX0_speakers_0 21 rfl rfl)
theorem dX0_speakers_23 : decode cX0_speakers 23 = .ok (.lload_n 1, 1) := dk_31 (dk_at dksX0_speakers_0 23 rfl rfl)
theorem dX0_speakers_24 : decode cX0_speakers 24 = .ok (.invokevirtual 169, 3) := dk_182 0 169 (dk_at dksX0_speakers_1 0 rfl rfl)
theorem dX0_speakers_27 : decode cX0_speakers 27 = .ok (.ifCond .eq 10, 3) := dk_153 0 10 (dk_at dksX0_speakers_1 3 rfl rfl)
theorem dX0_speakers_30 : decode cX0_speakers 30 = .ok (.iconst 1, 1) := dk_4 (dk_at dksX0_speakers_1 6 rfl rfl)
theorem dX0_speakers_31 : decode cX0_speakers 31 = .ok (.iload 4, 2) := dk_21 4 (dk_at dksX0_speakers_1 7 rfl rfl)
theorem dX0_speakers_33 : decode cX0_speakers 33 = .ok (.ishl, 1) := dk_120 (dk_at dksX0_speakers_1 9 rfl rfl)
theorem dX0_speakers_34 : decode cX0_speakers 34 = .ok (.goto 4, 3) := dk_167 0 4 (dk_at dksX0_speakers_1 10 rfl rfl)
theorem dX0_speakers_37 : decode cX0_speakers 37 = .ok (.iconst 0, 1) := dk_3 (dk_at dksX0_speakers_1 13 rfl rfl)
theorem dX0_speakers_38 : decode cX0_speakers 38 = .ok (.ior, 1) := dk_128 (dk_at dksX0_speakers_1 14 rfl rfl)
theorem dX0_speakers_39 : decode cX0_speakers 39 = .ok (.istore_n 3, 1) := dk_62 (dk_at dksX0_speakers_1 15 rfl rfl)
theorem dX0_speakers_40 : decode cX0_speakers 40 = .ok (.iinc 4 1, 3) := dk_132 4 1 (dk_at dksX0_speakers_1 16 rfl rfl)
theorem dX0_speakers_43 : decode cX0_speakers 43 = .ok (.goto (-38), 3) := dk_167 255 218 (dk_at dksX0_speakers_1 19 rfl rfl)
theorem dX0_speakers_46 : decode cX0_speakers 46 = .ok (.iload_n 3, 1) := dk_29 (dk_at dksX0_speakers_1 22 rfl rfl)
theorem dX0_speakers_47 : decode cX0_speakers 47 = .ok (.ireturn, 1) := dk_172 (dk_at dksX0_speakers_1 23 rfl rfl)
abbrev cX0_secret : ByteArray := prog_1_method_47_code
def yX0_secret : MethodName := ⟨RX0, "secret", "(IIJI)J"⟩
def dkwX0_secret_5 : List UInt8 := [167, 255, 204, 21, 5, 154, 0, 9, 20, 0, 215, 167, 0, 6, 21, 6, 133, 173]
abbrev dktX0_secret_5 : List UInt8 := dkwX0_secret_5 ++ []
def dkwX0_secret_4 : List UInt8 := [154, 0, 6, 167, 0, 17, 21, 5, 154, 0, 9, 33, 21, 7, 133, 97, 173, 132, 6, 1, 132, 7, 1]
abbrev dktX0_secret_4 : List UInt8 := dkwX0_secret_4 ++ dktX0_secret_5
def dkwX0_secret_3 : List UInt8 := [19, 1, 11, 167, 0, 5, 21, 5, 162, 0, 40, 42, 27, 28, 33, 21, 7, 133, 97, 182, 1, 12]
abbrev dktX0_secret_3 : List UInt8 := dkwX0_secret_3 ++ dktX0_secret_4
def dkwX0_secret_2 : List UInt8 := [133, 184, 0, 243, 154, 0, 7, 20, 0, 215, 173, 3, 54, 6, 3, 54, 7, 21, 7, 21, 5, 154, 0, 9]
abbrev dktX0_secret_2 : List UInt8 := dkwX0_secret_2 ++ dktX0_secret_3
def dkwX0_secret_1 : List UInt8 := [9, 20, 0, 252, 184, 0, 67, 153, 0, 24, 33, 21, 5, 154, 0, 9, 20, 0, 252, 167, 0, 6, 21, 5]
abbrev dktX0_secret_1 : List UInt8 := dkwX0_secret_1 ++ dktX0_secret_2
def dkwX0_secret_0 : List UInt8 := [42, 27, 182, 0, 95, 153, 0, 50, 42, 28, 182, 0, 95, 153, 0, 42, 27, 28, 159, 0, 37, 21, 5, 133]
abbrev dktX0_secret_0 : List UInt8 := dkwX0_secret_0 ++ dktX0_secret_1
theorem dksX0_secret_0 : cX0_secret.data.toList.drop 0 = dktX0_secret_0 := by decide +kernel
theorem dksX0_secret_1 : cX0_secret.data.toList.drop 24 = dktX0_secret_1 := dk_seg dksX0_secret_0 24 rfl rfl
theorem dksX0_secret_2 : cX0_secret.data.toList.drop 48 = dktX0_secret_2 := dk_seg dksX0_secret_1 24 rfl rfl
theorem dksX0_secret_3 : cX0_secret.data.toList.drop 72 = dktX0_secret_3 := dk_seg dksX0_secret_2 24 rfl rfl
theorem dksX0_secret_4 : cX0_secret.data.toList.drop 94 = dktX0_secret_4 := dk_seg dksX0_secret_3 22 rfl rfl
theorem dksX0_secret_5 : cX0_secret.data.toList.drop 117 = dktX0_secret_5 := dk_seg dksX0_secret_4 23 rfl rfl
theorem dX0_secret_0 : decode cX0_secret 0 = .ok (.aload_n 0, 1) := dk_42 (dk_at dksX0_secret_0 0 rfl rfl)
theorem dX0_secret_1 : decode cX0_secret 1 = .ok (.iload_n 1, 1) := dk_27 (dk_at dksX0_secret_0 1 rfl rfl)
theorem dX0_secret_2 : decode cX0_secret 2 = .ok (.invokevirtual 95, 3) := dk_182 0 95 (dk_at dksX0_secret_0 2 rfl rfl)
theorem dX0_secret_5 : decode cX0_secret 5 = .ok (.ifCond .eq 50, 3) := dk_153 0 50 (dk_at dksX0_secret_0 5 rfl rfl)
theorem dX0_secret_8 : decode cX0_secret 8 = .ok (.aload_n 0, 1) := dk_42 (dk_at dksX0_secret_0 8 rfl rfl)
theorem dX0_secret_9 : decode cX0_secret 9 = .ok (.iload_n 2, 1) := dk_28 (dk_at dksX0_secret_0 9 rfl rfl)
theorem dX0_secret_10 : decode cX0_secret 10 = .ok (.invokevirtual 95, 3) := dk_182 0 95 (dk_at dksX0_secret_0 10 rfl rfl)
theorem dX0_secret_13 : decode cX0_secret 13 = .ok (.ifCond .eq 42, 3) := dk_153 0 42 (dk_at dksX0_secret_0 13 rfl rfl)
theorem dX0_secret_16 : decode cX0_secret 16 = .ok (.iload_n 1, 1) := dk_27 (dk_at dksX0_secret_0 16 rfl rfl)
theorem dX0_secret_17 : decode cX0_secret 17 = .ok (.iload_n 2, 1) := dk_28 (dk_at dksX0_secret_0 17 rfl rfl)
theorem dX0_secret_18 : decode cX0_secret 18 = .ok (.if_icmp .eq 37, 3) := dk_159 0 37 (dk_at dksX0_secret_0 18 rfl rfl)
theorem dX0_secret_21 : decode cX0_secret 21 = .ok (.iload 5, 2) := dk_21 5 (dk_at dksX0_secret_0 21 rfl rfl)
theorem dX0_secret_23 : decode cX0_secret 23 = .ok (.i2l, 1) := dk_133 (dk_at dksX0_secret_0 23 rfl rfl)
theorem dX0_secret_24 : decode cX0_secret 24 = .ok (.lconst 0, 1) := dk_9 (dk_at dksX0_secret_1 0 rfl rfl)
theorem dX0_secret_25 : decode cX0_secret 25 = .ok (.ldc2_w 252, 3) := dk_20 0 252 (dk_at dksX0_secret_1 1 rfl rfl)
theorem dX0_secret_28 : decode cX0_secret 28 = .ok (.invokestatic 67, 3) := dk_184 0 67 (dk_at dksX0_secret_1 4 rfl rfl)
theorem dX0_secret_31 : decode cX0_secret 31 = .ok (.ifCond .eq 24, 3) := dk_153 0 24 (dk_at dksX0_secret_1 7 rfl rfl)
theorem dX0_secret_34 : decode cX0_secret 34 = .ok (.lload_n 3, 1) := dk_33 (dk_at dksX0_secret_1 10 rfl rfl)
theorem dX0_secret_35 : decode cX0_secret 35 = .ok (.iload 5, 2) := dk_21 5 (dk_at dksX0_secret_1 11 rfl rfl)
theorem dX0_secret_37 : decode cX0_secret 37 = .ok (.ifCond .ne 9, 3) := dk_154 0 9 (dk_at dksX0_secret_1 13 rfl rfl)
theorem dX0_secret_40 : decode cX0_secret 40 = .ok (.ldc2_w 252, 3) := dk_20 0 252 (dk_at dksX0_secret_1 16 rfl rfl)
theorem dX0_secret_43 : decode cX0_secret 43 = .ok (.goto 6, 3) := dk_167 0 6 (dk_at dksX0_secret_1 19 rfl rfl)
theorem dX0_secret_46 : decode cX0_secret 46 = .ok (.iload 5, 2) := dk_21 5 (dk_at dksX0_secret_1 22 rfl rfl)
theorem dX0_secret_48 : decode cX0_secret 48 = .ok (.i2l, 1) := dk_133 (dk_at dksX0_secret_2 0 rfl rfl)
theorem dX0_secret_49 : decode cX0_secret 49 = .ok (.invokestatic 243, 3) := dk_184 0 243 (dk_at dksX0_secret_2 1 rfl rfl)
theorem dX0_secret_52 : decode cX0_secret 52 = .ok (.ifCond .ne 7, 3) := dk_154 0 7 (dk_at dksX0_secret_2 4 rfl rfl)
theorem dX0_secret_55 : decode cX0_secret 55 = .ok (.ldc2_w 215, 3) := dk_20 0 215 (dk_at dksX0_secret_2 7 rfl rfl)
theorem dX0_secret_58 : decode cX0_secret 58 = .ok (.lreturn, 1) := dk_173 (dk_at dksX0_secret_2 10 rfl rfl)
theorem dX0_secret_59 : decode cX0_secret 59 = .ok (.iconst 0, 1) := dk_3 (dk_at dksX0_secret_2 11 rfl rfl)
theorem dX0_secret_60 : decode cX0_secret 60 = .ok (.istore 6, 2) := dk_54 6 (dk_at dksX0_secret_2 12 rfl rfl)
theorem dX0_secret_62 : decode cX0_secret 62 = .ok (.iconst 0, 1) := dk_3 (dk_at dksX0_secret_2 14 rfl rfl)
theorem dX0_secret_63 : decode cX0_secret 63 = .ok (.istore 7, 2) := dk_54 7 (dk_at dksX0_secret_2 15 rfl rfl)
theorem dX0_secret_65 : decode cX0_secret 65 = .ok (.iload 7, 2) := dk_21 7 (dk_at dksX0_secret_2 17 rfl rfl)
theorem dX0_secret_67 : decode cX0_secret 67 = .ok (.iload 5, 2) := dk_21 5 (dk_at dksX0_secret_2 19 rfl rfl)
theorem dX0_secret_69 : decode cX0_secret 69 = .ok (.ifCond .ne 9, 3) := dk_154 0 9 (dk_at dksX0_secret_2 21 rfl rfl)
theorem dX0_secret_72 : decode cX0_secret 72 = .ok (.ldc_w 267, 3) := dk_19 1 11 (dk_at dksX0_secret_3 0 rfl rfl)
theorem dX0_secret_75 : decode cX0_secret 75 = .ok (.goto 5, 3) := dk_167 0 5 (dk_at dksX0_secret_3 3 rfl rfl)
theorem dX0_secret_78 : decode cX0_secret 78 = .ok (.iload 5, 2) := dk_21 5 (dk_at dksX0_secret_3 6 rfl rfl)
theorem dX0_secret_80 : decode cX0_secret 80 = .ok (.if_icmp .ge 40, 3) := dk_162 0 40 (dk_at dksX0_secret_3 8 rfl rfl)
theorem dX0_secret_83 : decode cX0_secret 83 = .ok (.aload_n 0, 1) := dk_42 (dk_at dksX0_secret_3 11 rfl rfl)
theorem dX0_secret_84 : decode cX0_secret 84 = .ok (.iload_n 1, 1) := dk_27 (dk_at dksX0_secret_3 12 rfl rfl)
theorem dX0_secret_85 : decode cX0_secret 85 = .ok (.iload_n 2, 1) := dk_28 (dk_at dksX0_secret_3 13 rfl rfl)
theorem dX0_secret_86 : decode cX0_secret 86 = .ok (.lload_n 3, 1) := dk_33 (dk_at dksX0_secret_3 14 rfl rfl)
theorem dX0_secret_87 : decode cX0_secret 87 = .ok (.iload 7, 2) := dk_21 7 (dk_at dksX0_secret_3 15 rfl rfl)
theorem dX0_secret_89 : decode cX0_secret 89 = .ok (.i2l, 1) := dk_133 (dk_at dksX0_secret_3 17 rfl rfl)
theorem dX0_secret_90 : decode cX0_secret 90 = .ok (.ladd, 1) := dk_97 (dk_at dksX0_secret_3 18 rfl rfl)
theorem dX0_secret_91 : decode cX0_secret 91 = .ok (.invokevirtual 268, 3) := dk_182 1 12 (dk_at dksX0_secret_3 19 rfl rfl)
theorem dX0_secret_94 : decode cX0_secret 94 = .ok (.ifCond .ne 6, 3) := dk_154 0 6 (dk_at dksX0_secret_4 0 rfl rfl)
theorem dX0_secret_97 : decode cX0_secret 97 = .ok (.goto 17, 3) := dk_167 0 17 (dk_at dksX0_secret_4 3 rfl rfl)
theorem dX0_secret_100 : decode cX0_secret 100 = .ok (.iload 5, 2) := dk_21 5 (dk_at dksX0_secret_4 6 rfl rfl)
theorem dX0_secret_102 : decode cX0_secret 102 = .ok (.ifCond .ne 9, 3) := dk_154 0 9 (dk_at dksX0_secret_4 8 rfl rfl)
theorem dX0_secret_105 : decode cX0_secret 105 = .ok (.lload_n 3, 1) := dk_33 (dk_at dksX0_secret_4 11 rfl rfl)
theorem dX0_secret_106 : decode cX0_secret 106 = .ok (.iload 7, 2) := dk_21 7 (dk_at dksX0_secret_4 12 rfl rfl)
theorem dX0_secret_108 : decode cX0_secret 108 = .ok (.i2l, 1) := dk_133 (dk_at dksX0_secret_4 14 rfl rfl)
theorem dX0_secret_109 : decode cX0_secret 109 = .ok (.ladd, 1) := dk_97 (dk_at dksX0_secret_4 15 rfl rfl)
theorem dX0_secret_110 : decode cX0_secret 110 = .ok (.lreturn, 1) := dk_173 (dk_at dksX0_secret_4 16 rfl rfl)
theorem dX0_secret_111 : decode cX0_secret 111 = .ok (.iinc 6 1, 3) := dk_132 6 1 (dk_at dksX0_secret_4 17 rfl rfl)
theorem dX0_secret_114 : decode cX0_secret 114 = .ok (.iinc 7 1, 3) := dk_132 7 1 (dk_at dksX0_secret_4 20 rfl rfl)
theorem dX0_secret_117 : decode cX0_secret 117 = .ok (.goto (-52), 3) := dk_167 255 204 (dk_at dksX0_secret_5 0 rfl rfl)
theorem dX0_secret_120 : decode cX0_secret 120 = .ok (.iload 5, 2) := dk_21 5 (dk_at dksX0_secret_5 3 rfl rfl)
theorem dX0_secret_122 : decode cX0_secret 122 = .ok (.ifCond .ne 9, 3) := dk_154 0 9 (dk_at dksX0_secret_5 5 rfl rfl)
theorem dX0_secret_125 : decode cX0_secret 125 = .ok (.ldc2_w 215, 3) := dk_20 0 215 (dk_at dksX0_secret_5 8 rfl rfl)
theorem dX0_secret_128 : decode cX0_secret 128 = .ok (.goto 6, 3) := dk_167 0 6 (dk_at dksX0_secret_5 11 rfl rfl)
theorem dX0_secret_131 : decode cX0_secret 131 = .ok (.iload 6, 2) := dk_21 6 (dk_at dksX0_secret_5 14 rfl rfl)
theorem dX0_secret_133 : decode cX0_secret 133 = .ok (.i2l, 1) := dk_133 (dk_at dksX0_secret_5 16 rfl rfl)
theorem dX0_secret_134 : decode cX0_secret 134 = .ok (.lreturn, 1) := dk_173 (dk_at dksX0_secret_5 17 rfl rfl)
abbrev cX0_isSecret : ByteArray := prog_1_method_46_code
def yX0_isSecret : MethodName := ⟨RX0, "isSecret", "(IIJ)Z"⟩
def dkwX0_isSecret_1 : List UInt8 := [182, 1, 7, 154, 0, 7, 4, 167, 0, 4, 3, 172]
abbrev dktX0_isSecret_1 : List UInt8 := dkwX0_isSecret_1 ++ []
def dkwX0_isSecret_0 : List UInt8 := [42, 27, 33, 182, 0, 169, 153, 0, 26, 42, 28, 33, 182, 0, 169, 153, 0, 17, 42, 27, 28, 33]
abbrev dktX0_isSecret_0 : List UInt8 := dkwX0_isSecret_0 ++ dktX0_isSecret_1
theorem dksX0_isSecret_0 : cX0_isSecret.data.toList.drop 0 = dktX0_isSecret_0 := by decide +kernel
theorem dksX0_isSecret_1 : cX0_isSecret.data.toList.drop 22 = dktX0_isSecret_1 := dk_seg dksX0_isSecret_0 22 rfl rfl
theorem dX0_isSecret_0 : decode cX0_isSecret 0 = .ok (.aload_n 0, 1) := dk_42 (dk_at dksX0_isSecret_0 0 rfl rfl)
theorem dX0_isSecret_1 : decode cX0_isSecret 1 = .ok (.iload_n 1, 1) := dk_27 (dk_at dksX0_isSecret_0 1 rfl rfl)
theorem dX0_isSecret_2 : decode cX0_isSecret 2 = .ok (.lload_n 3, 1) := dk_33 (dk_at dksX0_isSecret_0 2 rfl rfl)
theorem dX0_isSecret_3 : decode cX0_isSecret 3 = .ok (.invokevirtual 169, 3) := dk_182 0 169 (dk_at dksX0_isSecret_0 3 rfl rfl)
theorem dX0_isSecret_6 : decode cX0_isSecret 6 = .ok (.ifCond .eq 26, 3) := dk_153 0 26 (dk_at dksX0_isSecret_0 6 rfl rfl)
theorem dX0_isSecret_9 : decode cX0_isSecret 9 = .ok (.aload_n 0, 1) := dk_42 (dk_at dksX0_isSecret_0 9 rfl rfl)
theorem dX0_isSecret_10 : decode cX0_isSecret 10 = .ok (.iload_n 2, 1) := dk_28 (dk_at dksX0_isSecret_0 10 rfl rfl)
theorem dX0_isSecret_11 : decode cX0_isSecret 11 = .ok (.lload_n 3, 1) := dk_33 (dk_at dksX0_isSecret_0 11 rfl rfl)
theorem dX0_isSecret_12 : decode cX0_isSecret 12 = .ok (.invokevirtual 169, 3) := dk_182 0 169 (dk_at dksX0_isSecret_0 12 rfl rfl)
theorem dX0_isSecret_15 : decode cX0_isSecret 15 = .ok (.ifCond .eq 17, 3) := dk_153 0 17 (dk_at dksX0_isSecret_0 15 rfl rfl)
theorem dX0_isSecret_18 : decode cX0_isSecret 18 = .ok (.aload_n 0, 1) := dk_42 (dk_at dksX0_isSecret_0 18 rfl rfl)
theorem dX0_isSecret_19 : decode cX0_isSecret 19 = .ok (.iload_n 1, 1) := dk_27 (dk_at dksX0_isSecret_0 19 rfl rfl)
theorem dX0_isSecret_20 : decode cX0_isSecret 20 = .ok (.iload_n 2, 1) := dk_28 (dk_at dksX0_isSecret_0 20 rfl rfl)
theorem dX0_isSecret_21 : decode cX0_isSecret 21 = .ok (.lload_n 3, 1) := dk_33 (dk_at dksX0_isSecret_0 21 rfl rfl)
theorem dX0_isSecret_22 : decode cX0_isSecret 22 = .ok (.invokevirtual 263, 3) := dk_182 1 7 (dk_at dksX0_isSecret_1 0 rfl rfl)
theorem dX0_isSecret_25 : decode cX0_isSecret 25 = .ok (.ifCond .ne 7, 3) := dk_154 0 7 (dk_at dksX0_isSecret_1 3 rfl rfl)
theorem dX0_isSecret_28 : decode cX0_isSecret 28 = .ok (.iconst 1, 1) := dk_4 (dk_at dksX0_isSecret_1 6 rfl rfl)
theorem dX0_isSecret_29 : decode cX0_isSecret 29 = .ok (.goto 4, 3) := dk_167 0 4 (dk_at dksX0_isSecret_1 7 rfl rfl)
theorem dX0_isSecret_32 : decode cX0_isSecret 32 = .ok (.iconst 0, 1) := dk_3 (dk_at dksX0_isSecret_1 10 rfl rfl)
theorem dX0_isSecret_33 : decode cX0_isSecret 33 = .ok (.ireturn, 1) := dk_172 (dk_at dksX0_isSecret_1 11 rfl rfl)
abbrev cX0_hears : ByteArray := prog_1_method_45_code
def yX0_hears : MethodName := ⟨RX0, "hears", "(IIJ)I"⟩
def dkwX0_hears_1 : List UInt8 := [126, 4, 27, 120, 4, 28, 120, 128, 2, 130, 126, 172]
abbrev dktX0_hears_1 : List UInt8 := dkwX0_hears_1 ++ []
def dkwX0_hears_0 : List UInt8 := [42, 33, 182, 0, 254, 42, 180, 0, 10, 180, 0, 92, 27, 46, 42, 180, 0, 10, 180, 0, 92, 28, 46, 128]
abbrev dktX0_hears_0 : List UInt8 := dkwX0_hears_0 ++ dktX0_hears_1
theorem dksX0_hears_0 : cX0_hears.data.toList.drop 0 = dktX0_hears_0 := by decide +kernel
theorem dksX0_hears_1 : cX0_hears.data.toList.drop 24 = dktX0_hears_1 := dk_seg dksX0_hears_0 24 rfl rfl
theorem dX0_hears_0 : decode cX0_hears 0 = .ok (.aload_n 0, 1) := dk_42 (dk_at dksX0_hears_0 0 rfl rfl)
theorem dX0_hears_1 : decode cX0_hears 1 = .ok (.lload_n 3, 1) := dk_33 (dk_at dksX0_hears_0 1 rfl rfl)
theorem dX0_hears_2 : decode cX0_hears 2 = .ok (.invokevirtual 254, 3) := dk_182 0 254 (dk_at dksX0_hears_0 2 rfl rfl)
theorem dX0_hears_5 : decode cX0_hears 5 = .ok (.aload_n 0, 1) := dk_42 (dk_at dksX0_hears_0 5 rfl rfl)
theorem dX0_hears_6 : decode cX0_hears 6 = .ok (.getfield 10, 3) := dk_180 0 10 (dk_at dksX0_hears_0 6 rfl rfl)
theorem dX0_hears_9 : decode cX0_hears 9 = .ok (.getfield 92, 3) := dk_180 0 92 (dk_at dksX0_hears_0 9 rfl rfl)
theorem dX0_hears_12 : decode cX0_hears 12 = .ok (.iload_n 1, 1) := dk_27 (dk_at dksX0_hears_0 12 rfl rfl)
theorem dX0_hears_13 : decode cX0_hears 13 = .ok (.iaload, 1) := dk_46 (dk_at dksX0_hears_0 13 rfl rfl)
theorem dX0_hears_14 : decode cX0_hears 14 = .ok (.aload_n 0, 1) := dk_42 (dk_at dksX0_hears_0 14 rfl rfl)
theorem dX0_hears_15 : decode cX0_hears 15 = .ok (.getfield 10, 3) := dk_180 0 10 (dk_at dksX0_hears_0 15 rfl rfl)
theorem dX0_hears_18 : decode cX0_hears 18 = .ok (.getfield 92, 3) := dk_180 0 92 (dk_at dksX0_hears_0 18 rfl rfl)
theorem dX0_hears_21 : decode cX0_hears 21 = .ok (.iload_n 2, 1) := dk_28 (dk_at dksX0_hears_0 21 rfl rfl)
theorem dX0_hears_22 : decode cX0_hears 22 = .ok (.iaload, 1) := dk_46 (dk_at dksX0_hears_0 22 rfl rfl)
theorem dX0_hears_23 : decode cX0_hears 23 = .ok (.ior, 1) := dk_128 (dk_at dksX0_hears_0 23 rfl rfl)
theorem dX0_hears_24 : decode cX0_hears 24 = .ok (.iand, 1) := dk_126 (dk_at dksX0_hears_1 0 rfl rfl)
theorem dX0_hears_25 : decode cX0_hears 25 = .ok (.iconst 1, 1) := dk_4 (dk_at dksX0_hears_1 1 rfl rfl)
theorem dX0_hears_26 : decode cX0_hears 26 = .ok (.iload_n 1, 1) := dk_27 (dk_at dksX0_hears_1 2 rfl rfl)
theorem dX0_hears_27 : decode cX0_hears 27 = .ok (.ishl, 1) := dk_120 (dk_at dksX0_hears_1 3 rfl rfl)
theorem dX0_hears_28 : decode cX0_hears 28 = .ok (.iconst 1, 1) := dk_4 (dk_at dksX0_hears_1 4 rfl rfl)
theorem dX0_hears_29 : decode cX0_hears 29 = .ok (.iload_n 2, 1) := dk_28 (dk_at dksX0_hears_1 5 rfl rfl)
theorem dX0_hears_30 : decode cX0_hears 30 = .ok (.ishl, 1) := dk_120 (dk_at dksX0_hears_1 6 rfl rfl)
theorem dX0_hears_31 : decode cX0_hears 31 = .ok (.ior, 1) := dk_128 (dk_at dksX0_hears_1 7 rfl rfl)
theorem dX0_hears_32 : decode cX0_hears 32 = .ok (.iconst (-1), 1) := dk_2 (dk_at dksX0_hears_1 8 rfl rfl)
theorem dX0_hears_33 : decode cX0_hears 33 = .ok (.ixor, 1) := dk_130 (dk_at dksX0_hears_1 9 rfl rfl)
theorem dX0_hears_34 : decode cX0_hears 34 = .ok (.iand, 1) := dk_126 (dk_at dksX0_hears_1 10 rfl rfl)
theorem dX0_hears_35 : decode cX0_hears 35 = .ok (.ireturn, 1) := dk_172 (dk_at dksX0_hears_1 11 rfl rfl)
abbrev cX0_pass : ByteArray := prog_1_method_48_code
def yX0_pass : MethodName := ⟨RX0, "pass", "(IJII)J"⟩
def dkwX0_pass_6 : List UInt8 := [54, 6, 132, 7, 1, 167, 255, 182, 20, 0, 215, 173]
abbrev dktX0_pass_6 : List UInt8 := dkwX0_pass_6 ++ []
def dkwX0_pass_5 : List UInt8 := [154, 0, 11, 32, 21, 7, 133, 97, 167, 0, 9, 21, 9, 184, 1, 18, 133, 173, 21, 6, 21, 8, 128]
abbrev dktX0_pass_5 : List UInt8 := dkwX0_pass_5 ++ dktX0_pass_6
def dkwX0_pass_4 : List UInt8 := [54, 9, 21, 9, 154, 0, 6, 167, 0, 40, 21, 8, 21, 4, 184, 0, 173, 153, 0, 23, 21, 5]
abbrev dktX0_pass_4 : List UInt8 := dkwX0_pass_4 ++ dktX0_pass_5
def dkwX0_pass_3 : List UInt8 := [21, 7, 19, 1, 11, 162, 0, 72, 42, 32, 21, 7, 133, 97, 182, 0, 254, 54, 8, 21, 8, 21, 6, 126]
abbrev dktX0_pass_3 : List UInt8 := dkwX0_pass_3 ++ dktX0_pass_4
def dkwX0_pass_2 : List UInt8 := [160, 0, 16, 21, 5, 154, 0, 7, 32, 167, 0, 6, 20, 0, 215, 173, 4, 27, 120, 54, 6, 3, 54, 7]
abbrev dktX0_pass_2 : List UInt8 := dkwX0_pass_2 ++ dktX0_pass_3
def dkwX0_pass_1 : List UInt8 := [184, 0, 67, 153, 0, 14, 21, 5, 133, 9, 10, 184, 0, 67, 154, 0, 7, 20, 0, 215, 173, 27, 21, 4]
abbrev dktX0_pass_1 : List UInt8 := dkwX0_pass_1 ++ dktX0_pass_2
def dkwX0_pass_0 : List UInt8 := [42, 27, 182, 0, 95, 153, 0, 34, 42, 21, 4, 182, 0, 95, 153, 0, 25, 32, 9, 20, 1, 16]
abbrev dktX0_pass_0 : List UInt8 := dkwX0_pass_0 ++ dktX0_pass_1
theorem dksX0_pass_0 : cX0_pass.data.toList.drop 0 = dktX0_pass_0 := by decide +kernel
theorem dksX0_pass_1 : cX0_pass.data.toList.drop 22 = dktX0_pass_1 := dk_seg dksX0_pass_0 22 rfl rfl
theorem dksX0_pass_2 : cX0_pass.data.toList.drop 46 = dktX0_pass_2 := dk_seg dksX0_pass_1 24 rfl rfl
theorem dksX0_pass_3 : cX0_pass.data.toList.drop 70 = dktX0_pass_3 := dk_seg dksX0_pass_2 24 rfl rfl
theorem dksX0_pass_4 : cX0_pass.data.toList.drop 94 = dktX0_pass_4 := dk_seg dksX0_pass_3 24 rfl rfl
theorem dksX0_pass_5 : cX0_pass.data.toList.drop 116 = dktX0_pass_5 := dk_seg dksX0_pass_4 22 rfl rfl
theorem dksX0_pass_6 : cX0_pass.data.toList.drop 139 = dktX0_pass_6 := dk_seg dksX0_pass_5 23 rfl rfl
theorem dX0_pass_0 : decode cX0_pass 0 = .ok (.aload_n 0, 1) := dk_42 (dk_at dksX0_pass_0 0 rfl rfl)
theorem dX0_pass_1 : decode cX0_pass 1 = .ok (.iload_n 1, 1) := dk_27 (dk_at dksX0_pass_0 1 rfl rfl)
theorem dX0_pass_2 : decode cX0_pass 2 = .ok (.invokevirtual 95, 3) := dk_182 0 95 (dk_at dksX0_pass_0 2 rfl rfl)
theorem dX0_pass_5 : decode cX0_pass 5 = .ok (.ifCond .eq 34, 3) := dk_153 0 34 (dk_at dksX0_pass_0 5 rfl rfl)
theorem dX0_pass_8 : decode cX0_pass 8 = .ok (.aload_n 0, 1) := dk_42 (dk_at dksX0_pass_0 8 rfl rfl)
theorem dX0_pass_9 : decode cX0_pass 9 = .ok (.iload 4, 2) := dk_21 4 (dk_at dksX0_pass_0 9 rfl rfl)
theorem dX0_pass_11 : decode cX0_pass 11 = .ok (.invokevirtual 95, 3) := dk_182 0 95 (dk_at dksX0_pass_0 11 rfl rfl)
theorem dX0_pass_14 : decode cX0_pass 14 = .ok (.ifCond .eq 25, 3) := dk_153 0 25 (dk_at dksX0_pass_0 14 rfl rfl)
theorem dX0_pass_17 : decode cX0_pass 17 = .ok (.lload_n 2, 1) := dk_32 (dk_at dksX0_pass_0 17 rfl rfl)
theorem dX0_pass_18 : decode cX0_pass 18 = .ok (.lconst 0, 1) := dk_9 (dk_at dksX0_pass_0 18 rfl rfl)
theorem dX0_pass_19 : decode cX0_pass 19 = .ok (.ldc2_w 272, 3) := dk_20 1 16 (dk_at dksX0_pass_0 19 rfl rfl)
theorem dX0_pass_22 : decode cX0_pass 22 = .ok (.invokestatic 67, 3) := dk_184 0 67 (dk_at dksX0_pass_1 0 rfl rfl)
theorem dX0_pass_25 : decode cX0_pass 25 = .ok (.ifCond .eq 14, 3) := dk_153 0 14 (dk_at dksX0_pass_1 3 rfl rfl)
theorem dX0_pass_28 : decode cX0_pass 28 = .ok (.iload 5, 2) := dk_21 5 (dk_at dksX0_pass_1 6 rfl rfl)
theorem dX0_pass_30 : decode cX0_pass 30 = .ok (.i2l, 1) := dk_133 (dk_at dksX0_pass_1 8 rfl rfl)
theorem dX0_pass_31 : decode cX0_pass 31 = .ok (.lconst 0, 1) := dk_9 (dk_at dksX0_pass_1 9 rfl rfl)
theorem dX0_pass_32 : decode cX0_pass 32 = .ok (.lconst 1, 1) := dk_10 (dk_at dksX0_pass_1 10 rfl rfl)
theorem dX0_pass_33 : decode cX0_pass 33 = .ok (.invokestatic 67, 3) := dk_184 0 67 (dk_at dksX0_pass_1 11 rfl rfl)
theorem dX0_pass_36 : decode cX0_pass 36 = .ok (.ifCond .ne 7, 3) := dk_154 0 7 (dk_at dksX0_pass_1 14 rfl rfl)
theorem dX0_pass_39 : decode cX0_pass 39 = .ok (.ldc2_w 215, 3) := dk_20 0 215 (dk_at dksX0_pass_1 17 rfl rfl)
theorem dX0_pass_42 : decode cX0_pass 42 = .ok (.lreturn, 1) := dk_173 (dk_at dksX0_pass_1 20 rfl rfl)
theorem dX0_pass_43 : decode cX0_pass 43 = .ok (.iload_n 1, 1) := dk_27 (dk_at dksX0_pass_1 21 rfl rfl)
theorem dX0_pass_44 : decode cX0_pass 44 = .ok (.iload 4, 2) := dk_21 4 (dk_at dksX0_pass_1 22 rfl rfl)
theorem dX0_pass_46 : decode cX0_pass 46 = .ok (.if_icmp .ne 16, 3) := dk_160 0 16 (dk_at dksX0_pass_2 0 rfl rfl)
theorem dX0_pass_49 : decode cX0_pass 49 = .ok (.iload 5, 2) := dk_21 5 (dk_at dksX0_pass_2 3 rfl rfl)
theorem dX0_pass_51 : decode cX0_pass 51 = .ok (.ifCond .ne 7, 3) := dk_154 0 7 (dk_at dksX0_pass_2 5 rfl rfl)
theorem dX0_pass_54 : decode cX0_pass 54 = .ok (.lload_n 2, 1) := dk_32 (dk_at dksX0_pass_2 8 rfl rfl)
theorem dX0_pass_55 : decode cX0_pass 55 = .ok (.goto 6, 3) := dk_167 0 6 (dk_at dksX0_pass_2 9 rfl rfl)
theorem dX0_pass_58 : decode cX0_pass 58 = .ok (.ldc2_w 215, 3) := dk_20 0 215 (dk_at dksX0_pass_2 12 rfl rfl)
theorem dX0_pass_61 : decode cX0_pass 61 = .ok (.lreturn, 1) := dk_173 (dk_at dksX0_pass_2 15 rfl rfl)
theorem dX0_pass_62 : decode cX0_pass 62 = .ok (.iconst 1, 1) := dk_4 (dk_at dksX0_pass_2 16 rfl rfl)
theorem dX0_pass_63 : decode cX0_pass 63 = .ok (.iload_n 1, 1) := dk_27 (dk_at dksX0_pass_2 17 rfl rfl)
theorem dX0_pass_64 : decode cX0_pass 64 = .ok (.ishl, 1) := dk_120 (dk_at dksX0_pass_2 18 rfl rfl)
theorem dX0_pass_65 : decode cX0_pass 65 = .ok (.istore 6, 2) := dk_54 6 (dk_at dksX0_pass_2 19 rfl rfl)
theorem dX0_pass_67 : decode cX0_pass 67 = .ok (.iconst 0, 1) := dk_3 (dk_at dksX0_pass_2 21 rfl rfl)
theorem dX0_pass_68 : decode cX0_pass 68 = .ok (.istore 7, 2) := dk_54 7 (dk_at dksX0_pass_2 22 rfl rfl)
theorem dX0_pass_70 : decode cX0_pass 70 = .ok (.iload 7, 2) := dk_21 7 (dk_at dksX0_pass_3 0 rfl rfl)
theorem dX0_pass_72 : decode cX0_pass 72 = .ok (.ldc_w 267, 3) := dk_19 1 11 (dk_at dksX0_pass_3 2 rfl rfl)
theorem dX0_pass_75 : decode cX0_pass 75 = .ok (.if_icmp .ge 72, 3) := dk_162 0 72 (dk_at dksX0_pass_3 5 rfl rfl)
theorem dX0_pass_78 : decode cX0_pass 78 = .ok (.aload_n 0, 1) := dk_42 (dk_at dksX0_pass_3 8 rfl rfl)
theorem dX0_pass_79 : decode cX0_pass 79 = .ok (.lload_n 2, 1) := dk_32 (dk_at dksX0_pass_3 9 rfl rfl)
theorem dX0_pass_80 : decode cX0_pass 80 = .ok (.iload 7, 2) := dk_21 7 (dk_at dksX0_pass_3 10 rfl rfl)
theorem dX0_pass_82 : decode cX0_pass 82 = .ok (.i2l, 1) := dk_133 (dk_at dksX0_pass_3 12 rfl rfl)
theorem dX0_pass_83 : decode cX0_pass 83 = .ok (.ladd, 1) := dk_97 (dk_at dksX0_pass_3 13 rfl rfl)
theorem dX0_pass_84 : decode cX0_pass 84 = .ok (.invokevirtual 254, 3) := dk_182 0 254 (dk_at dksX0_pass_3 14 rfl rfl)
theorem dX0_pass_87 : decode cX0_pass 87 = .ok (.istore 8, 2) := dk_54 8 (dk_at dksX0_pass_3 17 rfl rfl)
theorem dX0_pass_89 : decode cX0_pass 89 = .ok (.iload 8, 2) := dk_21 8 (dk_at dksX0_pass_3 19 rfl rfl)
theorem dX0_pass_91 : decode cX0_pass 91 = .ok (.iload 6, 2) := dk_21 6 (dk_at dksX0_pass_3 21 rfl rfl)
theorem dX0_pass_93 : decode cX0_pass 93 = .ok (.iand, 1) := dk_126 (dk_at dksX0_pass_3 23 rfl rfl)
theorem dX0_pass_94 : decode cX0_pass 94 = .ok (.istore 9, 2) := dk_54 9 (dk_at dksX0_pass_4 0 rfl rfl)
theorem dX0_pass_96 : decode cX0_pass 96 = .ok (.iload 9, 2) := dk_21 9 (dk_at dksX0_pass_4 2 rfl rfl)
theorem dX0_pass_98 : decode cX0_pass 98 = .ok (.ifCond .ne 6, 3) := dk_154 0 6 (dk_at dksX0_pass_4 4 rfl rfl)
theorem dX0_pass_101 : decode cX0_pass 101 = .ok (.goto 40, 3) := dk_167 0 40 (dk_at dksX0_pass_4 7 rfl rfl)
theorem dX0_pass_104 : decode cX0_pass 104 = .ok (.iload 8, 2) := dk_21 8 (dk_at dksX0_pass_4 10 rfl rfl)
theorem dX0_pass_106 : decode cX0_pass 106 = .ok (.iload 4, 2) := dk_21 4 (dk_at dksX0_pass_4 12 rfl rfl)
theorem dX0_pass_108 : decode cX0_pass 108 = .ok (.invokestatic 173, 3) := dk_184 0 173 (dk_at dksX0_pass_4 14 rfl rfl)
theorem dX0_pass_111 : decode cX0_pass 111 = .ok (.ifCond .eq 23, 3) := dk_153 0 23 (dk_at dksX0_pass_4 17 rfl rfl)
theorem dX0_pass_114 : decode cX0_pass 114 = .ok (.iload 5, 2) := dk_21 5 (dk_at dksX0_pass_4 20 rfl rfl)
theorem dX0_pass_116 : decode cX0_pass 116 = .ok (.ifCond .ne 11, 3) := dk_154 0 11 (dk_at dksX0_pass_5 0 rfl rfl)
theorem dX0_pass_119 : decode cX0_pass 119 = .ok (.lload_n 2, 1) := dk_32 (dk_at dksX0_pass_5 3 rfl rfl)
theorem dX0_pass_120 : decode cX0_pass 120 = .ok (.iload 7, 2) := dk_21 7 (dk_at dksX0_pass_5 4 rfl rfl)
theorem dX0_pass_122 : decode cX0_pass 122 = .ok (.i2l, 1) := dk_133 (dk_at dksX0_pass_5 6 rfl rfl)
theorem dX0_pass_123 : decode cX0_pass 123 = .ok (.ladd, 1) := dk_97 (dk_at dksX0_pass_5 7 rfl rfl)
theorem dX0_pass_124 : decode cX0_pass 124 = .ok (.goto 9, 3) := dk_167 0 9 (dk_at dksX0_pass_5 8 rfl rfl)
theorem dX0_pass_127 : decode cX0_pass 127 = .ok (.iload 9, 2) := dk_21 9 (dk_at dksX0_pass_5 11 rfl rfl)
theorem dX0_pass_129 : decode cX0_pass 129 = .ok (.invokestatic 274, 3) := dk_184 1 18 (dk_at dksX0_pass_5 13 rfl rfl)
theorem dX0_pass_132 : decode cX0_pass 132 = .ok (.i2l, 1) := dk_133 (dk_at dksX0_pass_5 16 rfl rfl)
theorem dX0_pass_133 : decode cX0_pass 133 = .ok (.lreturn, 1) := dk_173 (dk_at dksX0_pass_5 17 rfl rfl)
theorem dX0_pass_134 : decode cX0_pass 134 = .ok (.iload 6, 2) := dk_21 6 (dk_at dksX0_pass_5 18 rfl rfl)
theorem dX0_pass_136 : decode cX0_pass 136 = .ok (.iload 8, 2) := dk_21 8 (dk_at dksX0_pass_5 20 rfl rfl)
theorem dX0_pass_138 : decode cX0_pass 138 = .ok (.ior, 1) := dk_128 (dk_at dksX0_pass_5 22 rfl rfl)
theorem dX0_pass_139 : decode cX0_pass 139 = .ok (.istore 6, 2) := dk_54 6 (dk_at dksX0_pass_6 0 rfl rfl)
theorem dX0_pass_141 : decode cX0_pass 141 = .ok (.iinc 7 1, 3) := dk_132 7 1 (dk_at dksX0_pass_6 2 rfl rfl)
theorem dX0_pass_144 : decode cX0_pass 144 = .ok (.goto (-74), 3) := dk_167 255 182 (dk_at dksX0_pass_6 5 rfl rfl)
theorem dX0_pass_147 : decode cX0_pass 147 = .ok (.ldc2_w 215, 3) := dk_20 0 215 (dk_at dksX0_pass_6 8 rfl rfl)
theorem dX0_pass_150 : decode cX0_pass 150 = .ok (.lreturn, 1) := dk_173 (dk_at dksX0_pass_6 11 rfl rfl)
abbrev cX0_talk : ByteArray := prog_1_method_49_code
def yX0_talk : MethodName := ⟨RX0, "talk", "(JII)I"⟩
def dkwX0_talk_4 : List UInt8 := [21, 4, 79, 42, 180, 0, 10, 180, 0, 64, 8, 92, 46, 4, 96, 79, 21, 5, 172]
abbrev dktX0_talk_4 : List UInt8 := dkwX0_talk_4 ++ []
def dkwX0_talk_3 : List UInt8 := [180, 0, 10, 180, 1, 24, 21, 5, 50, 3, 29, 79, 42, 180, 0, 10, 180, 1, 24, 21, 5, 50, 4]
abbrev dktX0_talk_3 : List UInt8 := dkwX0_talk_3 ++ dktX0_talk_4
def dkwX0_talk_2 : List UInt8 := [180, 0, 10, 180, 0, 64, 8, 46, 54, 5, 42, 180, 0, 10, 180, 1, 21, 21, 5, 31, 80, 42]
abbrev dktX0_talk_2 : List UInt8 := dkwX0_talk_2 ++ dktX0_talk_3
def dkwX0_talk_1 : List UInt8 := [29, 21, 4, 159, 0, 17, 42, 180, 0, 10, 180, 0, 64, 8, 46, 16, 30, 160, 0, 5, 2, 172, 42]
abbrev dktX0_talk_1 : List UInt8 := dkwX0_talk_1 ++ dktX0_talk_2
def dkwX0_talk_0 : List UInt8 := [31, 184, 0, 73, 153, 0, 40, 42, 29, 182, 0, 95, 153, 0, 32, 42, 21, 4, 182, 0, 95, 153, 0, 23]
abbrev dktX0_talk_0 : List UInt8 := dkwX0_talk_0 ++ dktX0_talk_1
theorem dksX0_talk_0 : cX0_talk.data.toList.drop 0 = dktX0_talk_0 := by decide +kernel
theorem dksX0_talk_1 : cX0_talk.data.toList.drop 24 = dktX0_talk_1 := dk_seg dksX0_talk_0 24 rfl rfl
theorem dksX0_talk_2 : cX0_talk.data.toList.drop 47 = dktX0_talk_2 := dk_seg dksX0_talk_1 23 rfl rfl
theorem dksX0_talk_3 : cX0_talk.data.toList.drop 69 = dktX0_talk_3 := dk_seg dksX0_talk_2 22 rfl rfl
theorem dksX0_talk_4 : cX0_talk.data.toList.drop 92 = dktX0_talk_4 := dk_seg dksX0_talk_3 23 rfl rfl
theorem dX0_talk_0 : decode cX0_talk 0 = .ok (.lload_n 1, 1) := dk_31 (dk_at dksX0_talk_0 0 rfl rfl)
theorem dX0_talk_1 : decode cX0_talk 1 = .ok (.invokestatic 73, 3) := dk_184 0 73 (dk_at dksX0_talk_0 1 rfl rfl)
theorem dX0_talk_4 : decode cX0_talk 4 = .ok (.ifCond .eq 40, 3) := dk_153 0 40 (dk_at dksX0_talk_0 4 rfl rfl)
theorem dX0_talk_7 : decode cX0_talk 7 = .ok (.aload_n 0, 1) := dk_42 (dk_at dksX0_talk_0 7 rfl rfl)
theorem dX0_talk_8 : decode cX0_talk 8 = .ok (.iload_n 3, 1) := dk_29 (dk_at dksX0_talk_0 8 rfl rfl)
theorem dX0_talk_9 : decode cX0_talk 9 = .ok (.invokevirtual 95, 3) := dk_182 0 95 (dk_at dksX0_talk_0 9 rfl rfl)
theorem dX0_talk_12 : decode cX0_talk 12 = .ok (.ifCond .eq 32, 3) := dk_153 0 32 (dk_at dksX0_talk_0 12 rfl rfl)
theorem dX0_talk_15 : decode cX0_talk 15 = .ok (.aload_n 0, 1) := dk_42 (dk_at dksX0_talk_0 15 rfl rfl)
theorem dX0_talk_16 : decode cX0_talk 16 = .ok (.iload 4, 2) := dk_21 4 (dk_at dksX0_talk_0 16 rfl rfl)
theorem dX0_talk_18 : decode cX0_talk 18 = .ok (.invokevirtual 95, 3) := dk_182 0 95 (dk_at dksX0_talk_0 18 rfl rfl)
theorem dX0_talk_21 : decode cX0_talk 21 = .ok (.ifCond .eq 23, 3) := dk_153 0 23 (dk_at dksX0_talk_0 21 rfl rfl)
theorem dX0_talk_24 : decode cX0_talk 24 = .ok (.iload_n 3, 1) := dk_29 (dk_at dksX0_talk_1 0 rfl rfl)
theorem dX0_talk_25 : decode cX0_talk 25 = .ok (.iload 4, 2) := dk_21 4 (dk_at dksX0_talk_1 1 rfl rfl)
theorem dX0_talk_27 : decode cX0_talk 27 = .ok (.if_icmp .eq 17, 3) := dk_159 0 17 (dk_at dksX0_talk_1 3 rfl rfl)
theorem dX0_talk_30 : decode cX0_talk 30 = .ok (.aload_n 0, 1) := dk_42 (dk_at dksX0_talk_1 6 rfl rfl)
theorem dX0_talk_31 : decode cX0_talk 31 = .ok (.getfield 10, 3) := dk_180 0 10 (dk_at dksX0_talk_1 7 rfl rfl)
theorem dX0_talk_34 : decode cX0_talk 34 = .ok (.getfield 64, 3) := dk_180 0 64 (dk_at dksX0_talk_1 10 rfl rfl)
theorem dX0_talk_37 : decode cX0_talk 37 = .ok (.iconst 5, 1) := dk_8 (dk_at dksX0_talk_1 13 rfl rfl)
theorem dX0_talk_38 : decode cX0_talk 38 = .ok (.iaload, 1) := dk_46 (dk_at dksX0_talk_1 14 rfl rfl)
theorem dX0_talk_39 : decode cX0_talk 39 = .ok (.bipush 30, 2) := dk_16 30 (dk_at dksX0_talk_1 15 rfl rfl)
theorem dX0_talk_41 : decode cX0_talk 41 = .ok (.if_icmp .ne 5, 3) := dk_160 0 5 (dk_at dksX0_talk_1 17 rfl rfl)
theorem dX0_talk_44 : decode cX0_talk 44 = .ok (.iconst (-1), 1) := dk_2 (dk_at dksX0_talk_1 20 rfl rfl)
theorem dX0_talk_45 : decode cX0_talk 45 = .ok (.ireturn, 1) := dk_172 (dk_at dksX0_talk_1 21 rfl rfl)
theorem dX0_talk_46 : decode cX0_talk 46 = .ok (.aload_n 0, 1) := dk_42 (dk_at dksX0_talk_1 22 rfl rfl)
theorem dX0_talk_47 : decode cX0_talk 47 = .ok (.getfield 10, 3) := dk_180 0 10 (dk_at dksX0_talk_2 0 rfl rfl)
theorem dX0_talk_50 : decode cX0_talk 50 = .ok (.getfield 64, 3) := dk_180 0 64 (dk_at dksX0_talk_2 3 rfl rfl)
theorem dX0_talk_53 : decode cX0_talk 53 = .ok (.iconst 5, 1) := dk_8 (dk_at dksX0_talk_2 6 rfl rfl)
theorem dX0_talk_54 : decode cX0_talk 54 = .ok (.iaload, 1) := dk_46 (dk_at dksX0_talk_2 7 rfl rfl)
theorem dX0_talk_55 : decode cX0_talk 55 = .ok (.istore 5, 2) := dk_54 5 (dk_at dksX0_talk_2 8 rfl rfl)
theorem dX0_talk_57 : decode cX0_talk 57 = .ok (.aload_n 0, 1) := dk_42 (dk_at dksX0_talk_2 10 rfl rfl)
theorem dX0_talk_58 : decode cX0_talk 58 = .ok (.getfield 10, 3) := dk_180 0 10 (dk_at dksX0_talk_2 11 rfl rfl)
theorem dX0_talk_61 : decode cX0_talk 61 = .ok (.getfield 277, 3) := dk_180 1 21 (dk_at dksX0_talk_2 14 rfl rfl)
theorem dX0_talk_64 : decode cX0_talk 64 = .ok (.iload 5, 2) := dk_21 5 (dk_at dksX0_talk_2 17 rfl rfl)
theorem dX0_talk_66 : decode cX0_talk 66 = .ok (.lload_n 1, 1) := dk_31 (dk_at dksX0_talk_2 19 rfl rfl)
theorem dX0_talk_67 : decode cX0_talk 67 = .ok (.lastore, 1) := dk_80 (dk_at dksX0_talk_2 20 rfl rfl)
theorem dX0_talk_68 : decode cX0_talk 68 = .ok (.aload_n 0, 1) := dk_42 (dk_at dksX0_talk_2 21 rfl rfl)
theorem dX0_talk_69 : decode cX0_talk 69 = .ok (.getfield 10, 3) := dk_180 0 10 (dk_at dksX0_talk_3 0 rfl rfl)
theorem dX0_talk_72 : decode cX0_talk 72 = .ok (.getfield 280, 3) := dk_180 1 24 (dk_at dksX0_talk_3 3 rfl rfl)
theorem dX0_talk_75 : decode cX0_talk 75 = .ok (.iload 5, 2) := dk_21 5 (dk_at dksX0_talk_3 6 rfl rfl)
theorem dX0_talk_77 : decode cX0_talk 77 = .ok (.aaload, 1) := dk_50 (dk_at dksX0_talk_3 8 rfl rfl)
theorem dX0_talk_78 : decode cX0_talk 78 = .ok (.iconst 0, 1) := dk_3 (dk_at dksX0_talk_3 9 rfl rfl)
theorem dX0_talk_79 : decode cX0_talk 79 = .ok (.iload_n 3, 1) := dk_29 (dk_at dksX0_talk_3 10 rfl rfl)
theorem dX0_talk_80 : decode cX0_talk 80 = .ok (.iastore, 1) := dk_79 (dk_at dksX0_talk_3 11 rfl rfl)
theorem dX0_talk_81 : decode cX0_talk 81 = .ok (.aload_n 0, 1) := dk_42 (dk_at dksX0_talk_3 12 rfl rfl)
theorem dX0_talk_82 : decode cX0_talk 82 = .ok (.getfield 10, 3) := dk_180 0 10 (dk_at dksX0_talk_3 13 rfl rfl)
theorem dX0_talk_85 : decode cX0_talk 85 = .ok (.getfield 280, 3) := dk_180 1 24 (dk_at dksX0_talk_3 16 rfl rfl)
theorem dX0_talk_88 : decode cX0_talk 88 = .ok (.iload 5, 2) := dk_21 5 (dk_at dksX0_talk_3 19 rfl rfl)
theorem dX0_talk_90 : decode cX0_talk 90 = .ok (.aaload, 1) := dk_50 (dk_at dksX0_talk_3 21 rfl rfl)
theorem dX0_talk_91 : decode cX0_talk 91 = .ok (.iconst 1, 1) := dk_4 (dk_at dksX0_talk_3 22 rfl rfl)
theorem dX0_talk_92 : decode cX0_talk 92 = .ok (.iload 4, 2) := dk_21 4 (dk_at dksX0_talk_4 0 rfl rfl)
theorem dX0_talk_94 : decode cX0_talk 94 = .ok (.iastore, 1) := dk_79 (dk_at dksX0_talk_4 2 rfl rfl)
theorem dX0_talk_95 : decode cX0_talk 95 = .ok (.aload_n 0, 1) := dk_42 (dk_at dksX0_talk_4 3 rfl rfl)
theorem dX0_talk_96 : decode cX0_talk 96 = .ok (.getfield 10, 3) := dk_180 0 10 (dk_at dksX0_talk_4 4 rfl rfl)
theorem dX0_talk_99 : decode cX0_talk 99 = .ok (.getfield 64, 3) := dk_180 0 64 (dk_at dksX0_talk_4 7 rfl rfl)
theorem dX0_talk_102 : decode cX0_talk 102 = .ok (.iconst 5, 1) := dk_8 (dk_at dksX0_talk_4 10 rfl rfl)
theorem dX0_talk_103 : decode cX0_talk 103 = .ok (.dup2, 1) := dk_92 (dk_at dksX0_talk_4 11 rfl rfl)
theorem dX0_talk_104 : decode cX0_talk 104 = .ok (.iaload, 1) := dk_46 (dk_at dksX0_talk_4 12 rfl rfl)
theorem dX0_talk_105 : decode cX0_talk 105 = .ok (.iconst 1, 1) := dk_4 (dk_at dksX0_talk_4 13 rfl rfl)
theorem dX0_talk_106 : decode cX0_talk 106 = .ok (.iadd, 1) := dk_96 (dk_at dksX0_talk_4 14 rfl rfl)
theorem dX0_talk_107 : decode cX0_talk 107 = .ok (.iastore, 1) := dk_79 (dk_at dksX0_talk_4 15 rfl rfl)
theorem dX0_talk_108 : decode cX0_talk 108 = .ok (.iload 5, 2) := dk_21 5 (dk_at dksX0_talk_4 16 rfl rfl)
theorem dX0_talk_110 : decode cX0_talk 110 = .ok (.ireturn, 1) := dk_172 (dk_at dksX0_talk_4 18 rfl rfl)
abbrev cX0_judge : ByteArray := prog_1_method_50_code
def yX0_judge : MethodName := ⟨RX0, "judge", "()I"⟩
def dkwX0_judge_3 : List UInt8 := [132, 1, 1, 167, 255, 184, 2, 172]
abbrev dktX0_judge_3 : List UInt8 := dkwX0_judge_3 ++ []
def dkwX0_judge_2 : List UInt8 := [180, 1, 24, 27, 50, 4, 46, 42, 180, 0, 10, 180, 1, 21, 27, 47, 182, 0, 169, 154, 0, 5, 27, 172]
abbrev dktX0_judge_2 : List UInt8 := dkwX0_judge_2 ++ dktX0_judge_3
def dkwX0_judge_1 : List UInt8 := [50, 3, 46, 42, 180, 0, 10, 180, 1, 21, 27, 47, 182, 0, 169, 153, 0, 30, 42, 42, 180, 0, 10]
abbrev dktX0_judge_1 : List UInt8 := dkwX0_judge_1 ++ dktX0_judge_2
def dkwX0_judge_0 : List UInt8 := [3, 60, 27, 42, 180, 0, 10, 180, 0, 64, 8, 46, 162, 0, 65, 42, 42, 180, 0, 10, 180, 1, 24, 27]
abbrev dktX0_judge_0 : List UInt8 := dkwX0_judge_0 ++ dktX0_judge_1
theorem dksX0_judge_0 : cX0_judge.data.toList.drop 0 = dktX0_judge_0 := by decide +kernel
theorem dksX0_judge_1 : cX0_judge.data.toList.drop 24 = dktX0_judge_1 := dk_seg dksX0_judge_0 24 rfl rfl
theorem dksX0_judge_2 : cX0_judge.data.toList.drop 47 = dktX0_judge_2 := dk_seg dksX0_judge_1 23 rfl rfl
theorem dksX0_judge_3 : cX0_judge.data.toList.drop 71 = dktX0_judge_3 := dk_seg dksX0_judge_2 24 rfl rfl
theorem dX0_judge_0 : decode cX0_judge 0 = .ok (.iconst 0, 1) := dk_3 (dk_at dksX0_judge_0 0 rfl rfl)
theorem dX0_judge_1 : decode cX0_judge 1 = .ok (.istore_n 1, 1) := dk_60 (dk_at dksX0_judge_0 1 rfl rfl)
theorem dX0_judge_2 : decode cX0_judge 2 = .ok (.iload_n 1, 1) := dk_27 (dk_at dksX0_judge_0 2 rfl rfl)
theorem dX0_judge_3 : decode cX0_judge 3 = .ok (.aload_n 0, 1) := dk_42 (dk_at dksX0_judge_0 3 rfl rfl)
theorem dX0_judge_4 : decode cX0_judge 4 = .ok (.getfield 10, 3) := dk_180 0 10 (dk_at dksX0_judge_0 4 rfl rfl)
theorem dX0_judge_7 : decode cX0_judge 7 = .ok (.getfield 64, 3) := dk_180 0 64 (dk_at dksX0_judge_0 7 rfl rfl)
theorem dX0_judge_10 : decode cX0_judge 10 = .ok (.iconst 5, 1) := dk_8 (dk_at dksX0_judge_0 10 rfl rfl)
theorem dX0_judge_11 : decode cX0_judge 11 = .ok (.iaload, 1) := dk_46 (dk_at dksX0_judge_0 11 rfl rfl)
theorem dX0_judge_12 : decode cX0_judge 12 = .ok (.if_icmp .ge 65, 3) := dk_162 0 65 (dk_at dksX0_judge_0 12 rfl rfl)
theorem dX0_judge_15 : decode cX0_judge 15 = .ok (.aload_n 0, 1) := dk_42 (dk_at dksX0_judge_0 15 rfl rfl)
theorem dX0_judge_16 : decode cX0_judge 16 = .ok (.aload_n 0, 1) := dk_42 (dk_at dksX0_judge_0 16 rfl rfl)
theorem dX0_judge_17 : decode cX0_judge 17 = .ok (.getfield 10, 3) := dk_180 0 10 (dk_at dksX0_judge_0 17 rfl rfl)
theorem dX0_judge_20 : decode cX0_judge 20 = .ok (.getfield 280, 3) := dk_180 1 24 (dk_at dksX0_judge_0 20 rfl rfl)
theorem dX0_judge_23 : decode cX0_judge 23 = .ok (.iload_n 1, 1) := dk_27 (dk_at dksX0_judge_0 23 rfl rfl)
theorem dX0_judge_24 : decode cX0_judge 24 = .ok (.aaload, 1) := dk_50 (dk_at dksX0_judge_1 0 rfl rfl)
theorem dX0_judge_25 : decode cX0_judge 25 = .ok (.iconst 0, 1) := dk_3 (dk_at dksX0_judge_1 1 rfl rfl)
theorem dX0_judge_26 : decode cX0_judge 26 = .ok (.iaload, 1) := dk_46 (dk_at dksX0_judge_1 2 rfl rfl)
theorem dX0_judge_27 : decode cX0_judge 27 = .ok (.aload_n 0, 1) := dk_42 (dk_at dksX0_judge_1 3 rfl rfl)
theorem dX0_judge_28 : decode cX0_judge 28 = .ok (.getfield 10, 3) := dk_180 0 10 (dk_at dksX0_judge_1 4 rfl rfl)
theorem dX0_judge_31 : decode cX0_judge 31 = .ok (.getfield 277, 3) := dk_180 1 21 (dk_at dksX0_judge_1 7 rfl rfl)
theorem dX0_judge_34 : decode cX0_judge 34 = .ok (.iload_n 1, 1) := dk_27 (dk_at dksX0_judge_1 10 rfl rfl)
theorem dX0_judge_35 : decode cX0_judge 35 = .ok (.laload, 1) := dk_47 (dk_at dksX0_judge_1 11 rfl rfl)
theorem dX0_judge_36 : decode cX0_judge 36 = .ok (.invokevirtual 169, 3) := dk_182 0 169 (dk_at dksX0_judge_1 12 rfl rfl)
theorem dX0_judge_39 : decode cX0_judge 39 = .ok (.ifCond .eq 30, 3) := dk_153 0 30 (dk_at dksX0_judge_1 15 rfl rfl)
theorem dX0_judge_42 : decode cX0_judge 42 = .ok (.aload_n 0, 1) := dk_42 (dk_at dksX0_judge_1 18 rfl rfl)
theorem dX0_judge_43 : decode cX0_judge 43 = .ok (.aload_n 0, 1) := dk_42 (dk_at dksX0_judge_1 19 rfl rfl)
theorem dX0_judge_44 : decode cX0_judge 44 = .ok (.getfield 10, 3) := dk_180 0 10 (dk_at dksX0_judge_1 20 rfl rfl)
theorem dX0_judge_47 : decode cX0_judge 47 = .ok (.getfield 280, 3) := dk_180 1 24 (dk_at dksX0_judge_2 0 rfl rfl)
theorem dX0_judge_50 : decode cX0_judge 50 = .ok (.iload_n 1, 1) := dk_27 (dk_at dksX0_judge_2 3 rfl rfl)
theorem dX0_judge_51 : decode cX0_judge 51 = .ok (.aaload, 1) := dk_50 (dk_at dksX0_judge_2 4 rfl rfl)
theorem dX0_judge_52 : decode cX0_judge 52 = .ok (.iconst 1, 1) := dk_4 (dk_at dksX0_judge_2 5 rfl rfl)
theorem dX0_judge_53 : decode cX0_judge 53 = .ok (.iaload, 1) := dk_46 (dk_at dksX0_judge_2 6 rfl rfl)
theorem dX0_judge_54 : decode cX0_judge 54 = .ok (.aload_n 0, 1) := dk_42 (dk_at dksX0_judge_2 7 rfl rfl)
theorem dX0_judge_55 : decode cX0_judge 55 = .ok (.getfield 10, 3) := dk_180 0 10 (dk_at dksX0_judge_2 8 rfl rfl)
theorem dX0_judge_58 : decode cX0_judge 58 = .ok (.getfield 277, 3) := dk_180 1 21 (dk_at dksX0_judge_2 11 rfl rfl)
theorem dX0_judge_61 : decode cX0_judge 61 = .ok (.iload_n 1, 1) := dk_27 (dk_at dksX0_judge_2 14 rfl rfl)
theorem dX0_judge_62 : decode cX0_judge 62 = .ok (.laload, 1) := dk_47 (dk_at dksX0_judge_2 15 rfl rfl)
theorem dX0_judge_63 : decode cX0_judge 63 = .ok (.invokevirtual 169, 3) := dk_182 0 169 (dk_at dksX0_judge_2 16 rfl rfl)
theorem dX0_judge_66 : decode cX0_judge 66 = .ok (.ifCond .ne 5, 3) := dk_154 0 5 (dk_at dksX0_judge_2 19 rfl rfl)
theorem dX0_judge_69 : decode cX0_judge 69 = .ok (.iload_n 1, 1) := dk_27 (dk_at dksX0_judge_2 22 rfl rfl)
theorem dX0_judge_70 : decode cX0_judge 70 = .ok (.ireturn, 1) := dk_172 (dk_at dksX0_judge_2 23 rfl rfl)
theorem dX0_judge_71 : decode cX0_judge 71 = .ok (.iinc 1 1, 3) := dk_132 1 1 (dk_at dksX0_judge_3 0 rfl rfl)
theorem dX0_judge_74 : decode cX0_judge 74 = .ok (.goto (-72), 3) := dk_167 255 184 (dk_at dksX0_judge_3 3 rfl rfl)
theorem dX0_judge_77 : decode cX0_judge 77 = .ok (.iconst (-1), 1) := dk_2 (dk_at dksX0_judge_3 6 rfl rfl)
theorem dX0_judge_78 : decode cX0_judge 78 = .ok (.ireturn, 1) := dk_172 (dk_at dksX0_judge_3 7 rfl rfl)
abbrev cX0_overheard : ByteArray := prog_1_method_51_code
def yX0_overheard : MethodName := ⟨RX0, "overheard", "(I)I"⟩
def dkwX0_overheard_2 : List UInt8 := [180, 0, 10, 180, 1, 21, 27, 47, 182, 1, 7, 167, 0, 4, 2, 172]
abbrev dktX0_overheard_2 : List UInt8 := dkwX0_overheard_2 ++ []
def dkwX0_overheard_1 : List UInt8 := [180, 0, 10, 180, 1, 24, 27, 50, 3, 46, 42, 180, 0, 10, 180, 1, 24, 27, 50, 4, 46, 42]
abbrev dktX0_overheard_1 : List UInt8 := dkwX0_overheard_1 ++ dktX0_overheard_2
def dkwX0_overheard_0 : List UInt8 := [27, 133, 9, 42, 180, 0, 10, 180, 0, 64, 8, 46, 4, 100, 133, 184, 0, 67, 153, 0, 41, 42, 42]
abbrev dktX0_overheard_0 : List UInt8 := dkwX0_overheard_0 ++ dktX0_overheard_1
theorem dksX0_overheard_0 : cX0_overheard.data.toList.drop 0 = dktX0_overheard_0 := by decide +kernel
theorem dksX0_overheard_1 : cX0_overheard.data.toList.drop 23 = dktX0_overheard_1 := dk_seg dksX0_overheard_0 23 rfl rfl
theorem dksX0_overheard_2 : cX0_overheard.data.toList.drop 45 = dktX0_overheard_2 := dk_seg dksX0_overheard_1 22 rfl rfl
theorem dX0_overheard_0 : decode cX0_overheard 0 = .ok (.iload_n 1, 1) := dk_27 (dk_at dksX0_overheard_0 0 rfl rfl)
theorem dX0_overheard_1 : decode cX0_overheard 1 = .ok (.i2l, 1) := dk_133 (dk_at dksX0_overheard_0 1 rfl rfl)
theorem dX0_overheard_2 : decode cX0_overheard 2 = .ok (.lconst 0, 1) := dk_9 (dk_at dksX0_overheard_0 2 rfl rfl)
theorem dX0_overheard_3 : decode cX0_overheard 3 = .ok (.aload_n 0, 1) := dk_42 (dk_at dksX0_overheard_0 3 rfl rfl)
theorem dX0_overheard_4 : decode cX0_overheard 4 = .ok (.getfield 10, 3) := dk_180 0 10 (dk_at dksX0_overheard_0 4 rfl rfl)
theorem dX0_overheard_7 : decode cX0_overheard 7 = .ok (.getfield 64, 3) := dk_180 0 64 (dk_at dksX0_overheard_0 7 rfl rfl)
theorem dX0_overheard_10 : decode cX0_overheard 10 = .ok (.iconst 5, 1) := dk_8 (dk_at dksX0_overheard_0 10 rfl rfl)
theorem dX0_overheard_11 : decode cX0_overheard 11 = .ok (.iaload, 1) := dk_46 (dk_at dksX0_overheard_0 11 rfl rfl)
theorem dX0_overheard_12 : decode cX0_overheard 12 = .ok (.iconst 1, 1) := dk_4 (dk_at dksX0_overheard_0 12 rfl rfl)
theorem dX0_overheard_13 : decode cX0_overheard 13 = .ok (.isub, 1) := dk_100 (dk_at dksX0_overheard_0 13 rfl rfl)
theorem dX0_overheard_14 : decode cX0_overheard 14 = .ok (.i2l, 1) := dk_133 (dk_at dksX0_overheard_0 14 rfl rfl)
theorem dX0_overheard_15 : decode cX0_overheard 15 = .ok (.invokestatic 67, 3) := dk_184 0 67 (dk_at dksX0_overheard_0 15 rfl rfl)
theorem dX0_overheard_18 : decode cX0_overheard 18 = .ok (.ifCond .eq 41, 3) := dk_153 0 41 (dk_at dksX0_overheard_0 18 rfl rfl)
theorem dX0_overheard_21 : decode cX0_overheard 21 = .ok (.aload_n 0, 1) := dk_42 (dk_at dksX0_overheard_0 21 rfl rfl)
theorem dX0_overheard_22 : decode cX0_overheard 22 = .ok (.aload_n 0, 1) := dk_42 (dk_at dksX0_overheard_0 22 rfl rfl)
theorem dX0_overheard_23 : decode cX0_overheard 23 = .ok (.getfield 10, 3) := dk_180 0 10 (dk_at dksX0_overheard_1 0 rfl rfl)
theorem dX0_overheard_26 : decode cX0_overheard 26 = .ok (.getfield 280, 3) := dk_180 1 24 (dk_at dksX0_overheard_1 3 rfl rfl)
theorem dX0_overheard_29 : decode cX0_overheard 29 = .ok (.iload_n 1, 1) := dk_27 (dk_at dksX0_overheard_1 6 rfl rfl)
theorem dX0_overheard_30 : decode cX0_overheard 30 = .ok (.aaload, 1) := dk_50 (dk_at dksX0_overheard_1 7 rfl rfl)
theorem dX0_overheard_31 : decode cX0_overheard 31 = .ok (.iconst 0, 1) := dk_3 (dk_at dksX0_overheard_1 8 rfl rfl)
theorem dX0_overheard_32 : decode cX0_overheard 32 = .ok (.iaload, 1) := dk_46 (dk_at dksX0_overheard_1 9 rfl rfl)
theorem dX0_overheard_33 : decode cX0_overheard 33 = .ok (.aload_n 0, 1) := dk_42 (dk_at dksX0_overheard_1 10 rfl rfl)
theorem dX0_overheard_34 : decode cX0_overheard 34 = .ok (.getfield 10, 3) := dk_180 0 10 (dk_at dksX0_overheard_1 11 rfl rfl)
theorem dX0_overheard_37 : decode cX0_overheard 37 = .ok (.getfield 280, 3) := dk_180 1 24 (dk_at dksX0_overheard_1 14 rfl rfl)
theorem dX0_overheard_40 : decode cX0_overheard 40 = .ok (.iload_n 1, 1) := dk_27 (dk_at dksX0_overheard_1 17 rfl rfl)
theorem dX0_overheard_41 : decode cX0_overheard 41 = .ok (.aaload, 1) := dk_50 (dk_at dksX0_overheard_1 18 rfl rfl)
theorem dX0_overheard_42 : decode cX0_overheard 42 = .ok (.iconst 1, 1) := dk_4 (dk_at dksX0_overheard_1 19 rfl rfl)
theorem dX0_overheard_43 : decode cX0_overheard 43 = .ok (.iaload, 1) := dk_46 (dk_at dksX0_overheard_1 20 rfl rfl)
theorem dX0_overheard_44 : decode cX0_overheard 44 = .ok (.aload_n 0, 1) := dk_42 (dk_at dksX0_overheard_1 21 rfl rfl)
theorem dX0_overheard_45 : decode cX0_overheard 45 = .ok (.getfield 10, 3) := dk_180 0 10 (dk_at dksX0_overheard_2 0 rfl rfl)
theorem dX0_overheard_48 : decode cX0_overheard 48 = .ok (.getfield 277, 3) := dk_180 1 21 (dk_at dksX0_overheard_2 3 rfl rfl)
theorem dX0_overheard_51 : decode cX0_overheard 51 = .ok (.iload_n 1, 1) := dk_27 (dk_at dksX0_overheard_2 6 rfl rfl)
theorem dX0_overheard_52 : decode cX0_overheard 52 = .ok (.laload, 1) := dk_47 (dk_at dksX0_overheard_2 7 rfl rfl)
theorem dX0_overheard_53 : decode cX0_overheard 53 = .ok (.invokevirtual 263, 3) := dk_182 1 7 (dk_at dksX0_overheard_2 8 rfl rfl)
theorem dX0_overheard_56 : decode cX0_overheard 56 = .ok (.goto 4, 3) := dk_167 0 4 (dk_at dksX0_overheard_2 11 rfl rfl)
theorem dX0_overheard_59 : decode cX0_overheard 59 = .ok (.iconst (-1), 1) := dk_2 (dk_at dksX0_overheard_2 14 rfl rfl)
theorem dX0_overheard_60 : decode cX0_overheard 60 = .ok (.ireturn, 1) := dk_172 (dk_at dksX0_overheard_2 15 rfl rfl)
abbrev cX0_turn : ByteArray := prog_1_method_54_code
def yX0_turn : MethodName := ⟨RX0, "turn", "(IJI)J"⟩
def dkwX0_turn_13 : List UInt8 := [167, 255, 148, 20, 0, 215, 173]
abbrev dktX0_turn_13 : List UInt8 := dkwX0_turn_13 ++ []
def dkwX0_turn_12 : List UInt8 := [20, 0, 215, 131, 127, 55, 6, 21, 9, 21, 4, 160, 0, 9, 32, 21, 10, 133, 97, 173, 132, 9, 1]
abbrev dktX0_turn_12 : List UInt8 := dkwX0_turn_12 ++ dktX0_turn_13
def dkwX0_turn_11 : List UInt8 := [121, 20, 0, 215, 131, 127, 182, 1, 40, 154, 0, 9, 132, 10, 1, 167, 255, 213, 22, 6, 10, 21, 10, 121]
abbrev dktX0_turn_11 : List UInt8 := dkwX0_turn_11 ++ dktX0_turn_12
def dkwX0_turn_10 : List UInt8 := [21, 9, 47, 22, 6, 127, 10, 21, 10, 121, 127, 9, 148, 153, 0, 23, 42, 21, 8, 22, 6, 10, 21, 10]
abbrev dktX0_turn_10 : List UInt8 := dkwX0_turn_10 ++ dktX0_turn_11
def dkwX0_turn_9 : List UInt8 := [154, 0, 6, 167, 0, 89, 21, 8, 4, 21, 9, 120, 2, 130, 126, 54, 8, 3, 54, 10, 42, 180, 0, 34]
abbrev dktX0_turn_9 : List UInt8 := dkwX0_turn_9 ++ dktX0_turn_10
def dkwX0_turn_8 : List UInt8 := [100, 125, 55, 6, 27, 54, 8, 3, 54, 9, 21, 9, 21, 4, 163, 0, 107, 27, 21, 9, 184, 0, 173]
abbrev dktX0_turn_8 : List UInt8 := dkwX0_turn_8 ++ dktX0_turn_9
def dkwX0_turn_7 : List UInt8 := [164, 0, 7, 20, 0, 215, 173, 21, 4, 2, 160, 0, 7, 21, 5, 133, 173, 20, 0, 215, 16, 64, 21, 5]
abbrev dktX0_turn_7 : List UInt8 := dkwX0_turn_7 ++ dktX0_turn_8
def dkwX0_turn_6 : List UInt8 := [16, 64, 21, 5, 100, 125, 182, 1, 40, 154, 0, 9, 132, 5, 1, 167, 255, 229, 21, 5, 16, 64]
abbrev dktX0_turn_6 : List UInt8 := dkwX0_turn_6 ++ dktX0_turn_7
def dkwX0_turn_5 : List UInt8 := [167, 255, 214, 132, 5, 1, 167, 255, 183, 4, 54, 5, 21, 5, 16, 64, 163, 0, 26, 42, 27, 20, 0, 215]
abbrev dktX0_turn_5 : List UInt8 := dkwX0_turn_5 ++ dktX0_turn_6
def dkwX0_turn_4 : List UInt8 := [21, 6, 133, 97, 182, 0, 169, 153, 0, 10, 10, 21, 6, 121, 167, 0, 4, 9, 129, 80, 132, 6, 1]
abbrev dktX0_turn_4 : List UInt8 := dkwX0_turn_4 ++ dktX0_turn_5
def dkwX0_turn_3 : List UInt8 := [9, 80, 3, 54, 6, 21, 6, 16, 64, 162, 0, 41, 42, 180, 0, 34, 21, 5, 92, 47, 42, 21, 5, 32]
abbrev dktX0_turn_3 : List UInt8 := dkwX0_turn_3 ++ dktX0_turn_4
def dkwX0_turn_2 : List UInt8 := [173, 3, 54, 5, 21, 5, 42, 180, 0, 10, 180, 0, 64, 3, 46, 162, 0, 65, 42, 180, 0, 34, 21, 5]
abbrev dktX0_turn_2 : List UInt8 := dkwX0_turn_2 ++ dktX0_turn_3
def dkwX0_turn_1 : List UInt8 := [159, 0, 25, 42, 21, 4, 182, 0, 95, 153, 0, 12, 27, 21, 4, 184, 0, 173, 154, 0, 7, 20, 0, 215]
abbrev dktX0_turn_1 : List UInt8 := dkwX0_turn_1 ++ dktX0_turn_2
def dkwX0_turn_0 : List UInt8 := [42, 27, 182, 0, 212, 153, 0, 38, 32, 9, 20, 1, 16, 184, 0, 67, 153, 0, 27, 21, 4, 2]
abbrev dktX0_turn_0 : List UInt8 := dkwX0_turn_0 ++ dktX0_turn_1
theorem dksX0_turn_0 : cX0_turn.data.toList.drop 0 = dktX0_turn_0 := by decide +kernel
theorem dksX0_turn_1 : cX0_turn.data.toList.drop 22 = dktX0_turn_1 := dk_seg dksX0_turn_0 22 rfl rfl
theorem dksX0_turn_2 : cX0_turn.data.toList.drop 46 = dktX0_turn_2 := dk_seg dksX0_turn_1 24 rfl rfl
theorem dksX0_turn_3 : cX0_turn.data.toList.drop 70 = dktX0_turn_3 := dk_seg dksX0_turn_2 24 rfl rfl
theorem dksX0_turn_4 : cX0_turn.data.toList.drop 94 = dktX0_turn_4 := dk_seg dksX0_turn_3 24 rfl rfl
theorem dksX0_turn_5 : cX0_turn.data.toList.drop 117 = dktX0_turn_5 := dk_seg dksX0_turn_4 23 rfl rfl
theorem dksX0_turn_6 : cX0_turn.data.toList.drop 141 = dktX0_turn_6 := dk_seg dksX0_turn_5 24 rfl rfl
theorem dksX0_turn_7 : cX0_turn.data.toList.drop 163 = dktX0_turn_7 := dk_seg dksX0_turn_6 22 rfl rfl
theorem dksX0_turn_8 : cX0_turn.data.toList.drop 187 = dktX0_turn_8 := dk_seg dksX0_turn_7 24 rfl rfl
theorem dksX0_turn_9 : cX0_turn.data.toList.drop 210 = dktX0_turn_9 := dk_seg dksX0_turn_8 23 rfl rfl
theorem dksX0_turn_10 : cX0_turn.data.toList.drop 234 = dktX0_turn_10 := dk_seg dksX0_turn_9 24 rfl rfl
theorem dksX0_turn_11 : cX0_turn.data.toList.drop 258 = dktX0_turn_11 := dk_seg dksX0_turn_10 24 rfl rfl
theorem dksX0_turn_12 : cX0_turn.data.toList.drop 282 = dktX0_turn_12 := dk_seg dksX0_turn_11 24 rfl rfl
theorem dksX0_turn_13 : cX0_turn.data.toList.drop 305 = dktX0_turn_13 := dk_seg dksX0_turn_12 23 rfl rfl
theorem dX0_turn_0 : decode cX0_turn 0 = .ok (.aload_n 0, 1) := dk_42 (dk_at dksX0_turn_0 0 rfl rfl)
theorem dX0_turn_1 : decode cX0_turn 1 = .ok (.iload_n 1, 1) := dk_27 (dk_at dksX0_turn_0 1 rfl rfl)
theorem dX0_turn_2 : decode cX0_turn 2 = .ok (.invokevirtual 212, 3) := dk_182 0 212 (dk_at dksX0_turn_0 2 rfl rfl)
theorem dX0_turn_5 : decode cX0_turn 5 = .ok (.ifCond .eq 38, 3) := dk_153 0 38 (dk_at dksX0_turn_0 5 rfl rfl)
theorem dX0_turn_8 : decode cX0_turn 8 = .ok (.lload_n 2, 1) := dk_32 (dk_at dksX0_turn_0 8 rfl rfl)
theorem dX0_turn_9 : decode cX0_turn 9 = .ok (.lconst 0, 1) := dk_9 (dk_at dksX0_turn_0 9 rfl rfl)
theorem dX0_turn_10 : decode cX0_turn 10 = .ok (.ldc2_w 272, 3) := dk_20 1 16 (dk_at dksX0_turn_0 10 rfl rfl)
theorem dX0_turn_13 : decode cX0_turn 13 = .ok (.invokestatic 67, 3) := dk_184 0 67 (dk_at dksX0_turn_0 13 rfl rfl)
theorem dX0_turn_16 : decode cX0_turn 16 = .ok (.ifCond .eq 27, 3) := dk_153 0 27 (dk_at dksX0_turn_0 16 rfl rfl)
theorem dX0_turn_19 : decode cX0_turn 19 = .ok (.iload 4, 2) := dk_21 4 (dk_at dksX0_turn_0 19 rfl rfl)
theorem dX0_turn_21 : decode cX0_turn 21 = .ok (.iconst (-1), 1) := dk_2 (dk_at dksX0_turn_0 21 rfl rfl)
theorem dX0_turn_22 : decode cX0_turn 22 = .ok (.if_icmp .eq 25, 3) := dk_159 0 25 (dk_at dksX0_turn_1 0 rfl rfl)
theorem dX0_turn_25 : decode cX0_turn 25 = .ok (.aload_n 0, 1) := dk_42 (dk_at dksX0_turn_1 3 rfl rfl)
theorem dX0_turn_26 : decode cX0_turn 26 = .ok (.iload 4, 2) := dk_21 4 (dk_at dksX0_turn_1 4 rfl rfl)
theorem dX0_turn_28 : decode cX0_turn 28 = .ok (.invokevirtual 95, 3) := dk_182 0 95 (dk_at dksX0_turn_1 6 rfl rfl)
theorem dX0_turn_31 : decode cX0_turn 31 = .ok (.ifCond .eq 12, 3) := dk_153 0 12 (dk_at dksX0_turn_1 9 rfl rfl)
theorem dX0_turn_34 : decode cX0_turn 34 = .ok (.iload_n 1, 1) := dk_27 (dk_at dksX0_turn_1 12 rfl rfl)
theorem dX0_turn_35 : decode cX0_turn 35 = .ok (.iload 4, 2) := dk_21 4 (dk_at dksX0_turn_1 13 rfl rfl)
theorem dX0_turn_37 : decode cX0_turn 37 = .ok (.invokestatic 173, 3) := dk_184 0 173 (dk_at dksX0_turn_1 15 rfl rfl)
theorem dX0_turn_40 : decode cX0_turn 40 = .ok (.ifCond .ne 7, 3) := dk_154 0 7 (dk_at dksX0_turn_1 18 rfl rfl)
theorem dX0_turn_43 : decode cX0_turn 43 = .ok (.ldc2_w 215, 3) := dk_20 0 215 (dk_at dksX0_turn_1 21 rfl rfl)
theorem dX0_turn_46 : decode cX0_turn 46 = .ok (.lreturn, 1) := dk_173 (dk_at dksX0_turn_2 0 rfl rfl)
theorem dX0_turn_47 : decode cX0_turn 47 = .ok (.iconst 0, 1) := dk_3 (dk_at dksX0_turn_2 1 rfl rfl)
theorem dX0_turn_48 : decode cX0_turn 48 = .ok (.istore 5, 2) := dk_54 5 (dk_at dksX0_turn_2 2 rfl rfl)
theorem dX0_turn_50 : decode cX0_turn 50 = .ok (.iload 5, 2) := dk_21 5 (dk_at dksX0_turn_2 4 rfl rfl)
theorem dX0_turn_52 : decode cX0_turn 52 = .ok (.aload_n 0, 1) := dk_42 (dk_at dksX0_turn_2 6 rfl rfl)
theorem dX0_turn_53 : decode cX0_turn 53 = .ok (.getfield 10, 3) := dk_180 0 10 (dk_at dksX0_turn_2 7 rfl rfl)
theorem dX0_turn_56 : decode cX0_turn 56 = .ok (.getfield 64, 3) := dk_180 0 64 (dk_at dksX0_turn_2 10 rfl rfl)
theorem dX0_turn_59 : decode cX0_turn 59 = .ok (.iconst 0, 1) := dk_3 (dk_at dksX0_turn_2 13 rfl rfl)
theorem dX0_turn_60 : decode cX0_turn 60 = .ok (.iaload, 1) := dk_46 (dk_at dksX0_turn_2 14 rfl rfl)
theorem dX0_turn_61 : decode cX0_turn 61 = .ok (.if_icmp .ge 65, 3) := dk_162 0 65 (dk_at dksX0_turn_2 15 rfl rfl)
theorem dX0_turn_64 : decode cX0_turn 64 = .ok (.aload_n 0, 1) := dk_42 (dk_at dksX0_turn_2 18 rfl rfl)
theorem dX0_turn_65 : decode cX0_turn 65 = .ok (.getfield 34, 3) := dk_180 0 34 (dk_at dksX0_turn_2 19 rfl rfl)
theorem dX0_turn_68 : decode cX0_turn 68 = .ok (.iload 5, 2) := dk_21 5 (dk_at dksX0_turn_2 22 rfl rfl)
theorem dX0_turn_70 : decode cX0_turn 70 = .ok (.lconst 0, 1) := dk_9 (dk_at dksX0_turn_3 0 rfl rfl)
theorem dX0_turn_71 : decode cX0_turn 71 = .ok (.lastore, 1) := dk_80 (dk_at dksX0_turn_3 1 rfl rfl)
theorem dX0_turn_72 : decode cX0_turn 72 = .ok (.iconst 0, 1) := dk_3 (dk_at dksX0_turn_3 2 rfl rfl)
theorem dX0_turn_73 : decode cX0_turn 73 = .ok (.istore 6, 2) := dk_54 6 (dk_at dksX0_turn_3 3 rfl rfl)
theorem dX0_turn_75 : decode cX0_turn 75 = .ok (.iload 6, 2) := dk_21 6 (dk_at dksX0_turn_3 5 rfl rfl)
theorem dX0_turn_77 : decode cX0_turn 77 = .ok (.bipush 64, 2) := dk_16 64 (dk_at dksX0_turn_3 7 rfl rfl)
theorem dX0_turn_79 : decode cX0_turn 79 = .ok (.if_icmp .ge 41, 3) := dk_162 0 41 (dk_at dksX0_turn_3 9 rfl rfl)
theorem dX0_turn_82 : decode cX0_turn 82 = .ok (.aload_n 0, 1) := dk_42 (dk_at dksX0_turn_3 12 rfl rfl)
theorem dX0_turn_83 : decode cX0_turn 83 = .ok (.getfield 34, 3) := dk_180 0 34 (dk_at dksX0_turn_3 13 rfl rfl)
theorem dX0_turn_86 : decode cX0_turn 86 = .ok (.iload 5, 2) := dk_21 5 (dk_at dksX0_turn_3 16 rfl rfl)
theorem dX0_turn_88 : decode cX0_turn 88 = .ok (.dup2, 1) := dk_92 (dk_at dksX0_turn_3 18 rfl rfl)
theorem dX0_turn_89 : decode cX0_turn 89 = .ok (.laload, 1) := dk_47 (dk_at dksX0_turn_3 19 rfl rfl)
theorem dX0_turn_90 : decode cX0_turn 90 = .ok (.aload_n 0, 1) := dk_42 (dk_at dksX0_turn_3 20 rfl rfl)
theorem dX0_turn_91 : decode cX0_turn 91 = .ok (.iload 5, 2) := dk_21 5 (dk_at dksX0_turn_3 21 rfl rfl)
theorem dX0_turn_93 : decode cX0_turn 93 = .ok (.lload_n 2, 1) := dk_32 (dk_at dksX0_turn_3 23 rfl rfl)
theorem dX0_turn_94 : decode cX0_turn 94 = .ok (.iload 6, 2) := dk_21 6 (dk_at dksX0_turn_4 0 rfl rfl)
theorem dX0_turn_96 : decode cX0_turn 96 = .ok (.i2l, 1) := dk_133 (dk_at dksX0_turn_4 2 rfl rfl)
theorem dX0_turn_97 : decode cX0_turn 97 = .ok (.ladd, 1) := dk_97 (dk_at dksX0_turn_4 3 rfl rfl)
theorem dX0_turn_98 : decode cX0_turn 98 = .ok (.invokevirtual 169, 3) := dk_182 0 169 (dk_at dksX0_turn_4 4 rfl rfl)
theorem dX0_turn_101 : decode cX0_turn 101 = .ok (.ifCond .eq 10, 3) := dk_153 0 10 (dk_at dksX0_turn_4 7 rfl rfl)
theorem dX0_turn_104 : decode cX0_turn 104 = .ok (.lconst 1, 1) := dk_10 (dk_at dksX0_turn_4 10 rfl rfl)
theorem dX0_turn_105 : decode cX0_turn 105 = .ok (.iload 6, 2) := dk_21 6 (dk_at dksX0_turn_4 11 rfl rfl)
theorem dX0_turn_107 : decode cX0_turn 107 = .ok (.lshl, 1) := dk_121 (dk_at dksX0_turn_4 13 rfl rfl)
theorem dX0_turn_108 : decode cX0_turn 108 = .ok (.goto 4, 3) := dk_167 0 4 (dk_at dksX0_turn_4 14 rfl rfl)
theorem dX0_turn_111 : decode cX0_turn 111 = .ok (.lconst 0, 1) := dk_9 (dk_at dksX0_turn_4 17 rfl rfl)
theorem dX0_turn_112 : decode cX0_turn 112 = .ok (.lor, 1) := dk_129 (dk_at dksX0_turn_4 18 rfl rfl)
theorem dX0_turn_113 : decode cX0_turn 113 = .ok (.lastore, 1) := dk_80 (dk_at dksX0_turn_4 19 rfl rfl)
theorem dX0_turn_114 : decode cX0_turn 114 = .ok (.iinc 6 1, 3) := dk_132 6 1 (dk_at dksX0_turn_4 20 rfl rfl)
theorem dX0_turn_117 : decode cX0_turn 117 = .ok (.goto (-42), 3) := dk_167 255 214 (dk_at dksX0_turn_5 0 rfl rfl)
theorem dX0_turn_120 : decode cX0_turn 120 = .ok (.iinc 5 1, 3) := dk_132 5 1 (dk_at dksX0_turn_5 3 rfl rfl)
theorem dX0_turn_123 : decode cX0_turn 123 = .ok (.goto (-73), 3) := dk_167 255 183 (dk_at dksX0_turn_5 6 rfl rfl)
theorem dX0_turn_126 : decode cX0_turn 126 = .ok (.iconst 1, 1) := dk_4 (dk_at dksX0_turn_5 9 rfl rfl)
theorem dX0_turn_127 : decode cX0_turn 127 = .ok (.istore 5, 2) := dk_54 5 (dk_at dksX0_turn_5 10 rfl rfl)
theorem dX0_turn_129 : decode cX0_turn 129 = .ok (.iload 5, 2) := dk_21 5 (dk_at dksX0_turn_5 12 rfl rfl)
theorem dX0_turn_131 : decode cX0_turn 131 = .ok (.bipush 64, 2) := dk_16 64 (dk_at dksX0_turn_5 14 rfl rfl)
theorem dX0_turn_133 : decode cX0_turn 133 = .ok (.if_icmp .gt 26, 3) := dk_163 0 26 (dk_at dksX0_turn_5 16 rfl rfl)
theorem dX0_turn_136 : decode cX0_turn 136 = .ok (.aload_n 0, 1) := dk_42 (dk_at dksX0_turn_5 19 rfl rfl)
theorem dX0_turn_137 : decode cX0_turn 137 = .ok (.iload_n 1, 1) := dk_27 (dk_at dksX0_turn_5 20 rfl rfl)
theorem dX0_turn_138 : decode cX0_turn 138 = .ok (.ldc2_w 215, 3) := dk_20 0 215 (dk_at dksX0_turn_5 21 rfl rfl)
theorem dX0_turn_141 : decode cX0_turn 141 = .ok (.bipush 64, 2) := dk_16 64 (dk_at dksX0_turn_6 0 rfl rfl)
theorem dX0_turn_143 : decode cX0_turn 143 = .ok (.iload 5, 2) := dk_21 5 (dk_at dksX0_turn_6 2 rfl rfl)
theorem dX0_turn_145 : decode cX0_turn 145 = .ok (.isub, 1) := dk_100 (dk_at dksX0_turn_6 4 rfl rfl)
theorem dX0_turn_146 : decode cX0_turn 146 = .ok (.lushr, 1) := dk_125 (dk_at dksX0_turn_6 5 rfl rfl)
theorem dX0_turn_147 : decode cX0_turn 147 = .ok (.invokevirtual 296, 3) := dk_182 1 40 (dk_at dksX0_turn_6 6 rfl rfl)
theorem dX0_turn_150 : decode cX0_turn 150 = .ok (.ifCond .ne 9, 3) := dk_154 0 9 (dk_at dksX0_turn_6 9 rfl rfl)
theorem dX0_turn_153 : decode cX0_turn 153 = .ok (.iinc 5 1, 3) := dk_132 5 1 (dk_at dksX0_turn_6 12 rfl rfl)
theorem dX0_turn_156 : decode cX0_turn 156 = .ok (.goto (-27), 3) := dk_167 255 229 (dk_at dksX0_turn_6 15 rfl rfl)
theorem dX0_turn_159 : decode cX0_turn 159 = .ok (.iload 5, 2) := dk_21 5 (dk_at dksX0_turn_6 18 rfl rfl)
theorem dX0_turn_161 : decode cX0_turn 161 = .ok (.bipush 64, 2) := dk_16 64 (dk_at dksX0_turn_6 20 rfl rfl)
theorem dX0_turn_163 : decode cX0_turn 163 = .ok (.if_icmp .le 7, 3) := dk_164 0 7 (dk_at dksX0_turn_7 0 rfl rfl)
theorem dX0_turn_166 : decode cX0_turn 166 = .ok (.ldc2_w 215, 3) := dk_20 0 215 (dk_at dksX0_turn_7 3 rfl rfl)
theorem dX0_turn_169 : decode cX0_turn 169 = .ok (.lreturn, 1) := dk_173 (dk_at dksX0_turn_7 6 rfl rfl)
theorem dX0_turn_170 : decode cX0_turn 170 = .ok (.iload 4, 2) := dk_21 4 (dk_at dksX0_turn_7 7 rfl rfl)
theorem dX0_turn_172 : decode cX0_turn 172 = .ok (.iconst (-1), 1) := dk_2 (dk_at dksX0_turn_7 9 rfl rfl)
theorem dX0_turn_173 : decode cX0_turn 173 = .ok (.if_icmp .ne 7, 3) := dk_160 0 7 (dk_at dksX0_turn_7 10 rfl rfl)
theorem dX0_turn_176 : decode cX0_turn 176 = .ok (.iload 5, 2) := dk_21 5 (dk_at dksX0_turn_7 13 rfl rfl)
theorem dX0_turn_178 : decode cX0_turn 178 = .ok (.i2l, 1) := dk_133 (dk_at dksX0_turn_7 15 rfl rfl)
theorem dX0_turn_179 : decode cX0_turn 179 = .ok (.lreturn, 1) := dk_173 (dk_at dksX0_turn_7 16 rfl rfl)
theorem dX0_turn_180 : decode cX0_turn 180 = .ok (.ldc2_w 215, 3) := dk_20 0 215 (dk_at dksX0_turn_7 17 rfl rfl)
theorem dX0_turn_183 : decode cX0_turn 183 = .ok (.bipush 64, 2) := dk_16 64 (dk_at dksX0_turn_7 20 rfl rfl)
theorem dX0_turn_185 : decode cX0_turn 185 = .ok (.iload 5, 2) := dk_21 5 (dk_at dksX0_turn_7 22 rfl rfl)
theorem dX0_turn_187 : decode cX0_turn 187 = .ok (.isub, 1) := dk_100 (dk_at dksX0_turn_8 0 rfl rfl)
theorem dX0_turn_188 : decode cX0_turn 188 = .ok (.lushr, 1) := dk_125 (dk_at dksX0_turn_8 1 rfl rfl)
theorem dX0_turn_189 : decode cX0_turn 189 = .ok (.lstore 6, 2) := dk_55 6 (dk_at dksX0_turn_8 2 rfl rfl)
theorem dX0_turn_191 : decode cX0_turn 191 = .ok (.iload_n 1, 1) := dk_27 (dk_at dksX0_turn_8 4 rfl rfl)
theorem dX0_turn_192 : decode cX0_turn 192 = .ok (.istore 8, 2) := dk_54 8 (dk_at dksX0_turn_8 5 rfl rfl)
theorem dX0_turn_194 : decode cX0_turn 194 = .ok (.iconst 0, 1) := dk_3 (dk_at dksX0_turn_8 7 rfl rfl)
theorem dX0_turn_195 : decode cX0_turn 195 = .ok (.istore 9, 2) := dk_54 9 (dk_at dksX0_turn_8 8 rfl rfl)
theorem dX0_turn_197 : decode cX0_turn 197 = .ok (.iload 9, 2) := dk_21 9 (dk_at dksX0_turn_8 10 rfl rfl)
theorem dX0_turn_199 : decode cX0_turn 199 = .ok (.iload 4, 2) := dk_21 4 (dk_at dksX0_turn_8 12 rfl rfl)
theorem dX0_turn_201 : decode cX0_turn 201 = .ok (.if_icmp .gt 107, 3) := dk_163 0 107 (dk_at dksX0_turn_8 14 rfl rfl)
theorem dX0_turn_204 : decode cX0_turn 204 = .ok (.iload_n 1, 1) := dk_27 (dk_at dksX0_turn_8 17 rfl rfl)
theorem dX0_turn_205 : decode cX0_turn 205 = .ok (.iload 9, 2) := dk_21 9 (dk_at dksX0_turn_8 18 rfl rfl)
theorem dX0_turn_207 : decode cX0_turn 207 = .ok (.invokestatic 173, 3) := dk_184 0 173 (dk_at dksX0_turn_8 20 rfl rfl)
theorem dX0_turn_210 : decode cX0_turn 210 = .ok (.ifCond .ne 6, 3) := dk_154 0 6 (dk_at dksX0_turn_9 0 rfl rfl)
theorem dX0_turn_213 : decode cX0_turn 213 = .ok (.goto 89, 3) := dk_167 0 89 (dk_at dksX0_turn_9 3 rfl rfl)
theorem dX0_turn_216 : decode cX0_turn 216 = .ok (.iload 8, 2) := dk_21 8 (dk_at dksX0_turn_9 6 rfl rfl)
theorem dX0_turn_218 : decode cX0_turn 218 = .ok (.iconst 1, 1) := dk_4 (dk_at dksX0_turn_9 8 rfl rfl)
theorem dX0_turn_219 : decode cX0_turn 219 = .ok (.iload 9, 2) := dk_21 9 (dk_at dksX0_turn_9 9 rfl rfl)
theorem dX0_turn_221 : decode cX0_turn 221 = .ok (.ishl, 1) := dk_120 (dk_at dksX0_turn_9 11 rfl rfl)
theorem dX0_turn_222 : decode cX0_turn 222 = .ok (.iconst (-1), 1) := dk_2 (dk_at dksX0_turn_9 12 rfl rfl)
theorem dX0_turn_223 : decode cX0_turn 223 = .ok (.ixor, 1) := dk_130 (dk_at dksX0_turn_9 13 rfl rfl)
theorem dX0_turn_224 : decode cX0_turn 224 = .ok (.iand, 1) := dk_126 (dk_at dksX0_turn_9 14 rfl rfl)
theorem dX0_turn_225 : decode cX0_turn 225 = .ok (.istore 8, 2) := dk_54 8 (dk_at dksX0_turn_9 15 rfl rfl)
theorem dX0_turn_227 : decode cX0_turn 227 = .ok (.iconst 0, 1) := dk_3 (dk_at dksX0_turn_9 17 rfl rfl)
theorem dX0_turn_228 : decode cX0_turn 228 = .ok (.istore 10, 2) := dk_54 10 (dk_at dksX0_turn_9 18 rfl rfl)
theorem dX0_turn_230 : decode cX0_turn 230 = .ok (.aload_n 0, 1) := dk_42 (dk_at dksX0_turn_9 20 rfl rfl)
theorem dX0_turn_231 : decode cX0_turn 231 = .ok (.getfield 34, 3) := dk_180 0 34 (dk_at dksX0_turn_9 21 rfl rfl)
theorem dX0_turn_234 : decode cX0_turn 234 = .ok (.iload 9, 2) := dk_21 9 (dk_at dksX0_turn_10 0 rfl rfl)
theorem dX0_turn_236 : decode cX0_turn 236 = .ok (.laload, 1) := dk_47 (dk_at dksX0_turn_10 2 rfl rfl)
theorem dX0_turn_237 : decode cX0_turn 237 = .ok (.lload 6, 2) := dk_22 6 (dk_at dksX0_turn_10 3 rfl rfl)
theorem dX0_turn_239 : decode cX0_turn 239 = .ok (.land, 1) := dk_127 (dk_at dksX0_turn_10 5 rfl rfl)
theorem dX0_turn_240 : decode cX0_turn 240 = .ok (.lconst 1, 1) := dk_10 (dk_at dksX0_turn_10 6 rfl rfl)
theorem dX0_turn_241 : decode cX0_turn 241 = .ok (.iload 10, 2) := dk_21 10 (dk_at dksX0_turn_10 7 rfl rfl)
theorem dX0_turn_243 : decode cX0_turn 243 = .ok (.lshl, 1) := dk_121 (dk_at dksX0_turn_10 9 rfl rfl)
theorem dX0_turn_244 : decode cX0_turn 244 = .ok (.land, 1) := dk_127 (dk_at dksX0_turn_10 10 rfl rfl)
theorem dX0_turn_245 : decode cX0_turn 245 = .ok (.lconst 0, 1) := dk_9 (dk_at dksX0_turn_10 11 rfl rfl)
theorem dX0_turn_246 : decode cX0_turn 246 = .ok (.lcmp, 1) := dk_148 (dk_at dksX0_turn_10 12 rfl rfl)
theorem dX0_turn_247 : decode cX0_turn 247 = .ok (.ifCond .eq 23, 3) := dk_153 0 23 (dk_at dksX0_turn_10 13 rfl rfl)
theorem dX0_turn_250 : decode cX0_turn 250 = .ok (.aload_n 0, 1) := dk_42 (dk_at dksX0_turn_10 16 rfl rfl)
theorem dX0_turn_251 : decode cX0_turn 251 = .ok (.iload 8, 2) := dk_21 8 (dk_at dksX0_turn_10 17 rfl rfl)
theorem dX0_turn_253 : decode cX0_turn 253 = .ok (.lload 6, 2) := dk_22 6 (dk_at dksX0_turn_10 19 rfl rfl)
theorem dX0_turn_255 : decode cX0_turn 255 = .ok (.lconst 1, 1) := dk_10 (dk_at dksX0_turn_10 21 rfl rfl)
theorem dX0_turn_256 : decode cX0_turn 256 = .ok (.iload 10, 2) := dk_21 10 (dk_at dksX0_turn_10 22 rfl rfl)
theorem dX0_turn_258 : decode cX0_turn 258 = .ok (.lshl, 1) := dk_121 (dk_at dksX0_turn_11 0 rfl rfl)
theorem dX0_turn_259 : decode cX0_turn 259 = .ok (.ldc2_w 215, 3) := dk_20 0 215 (dk_at dksX0_turn_11 1 rfl rfl)
theorem dX0_turn_262 : decode cX0_turn 262 = .ok (.lxor, 1) := dk_131 (dk_at dksX0_turn_11 4 rfl rfl)
theorem dX0_turn_263 : decode cX0_turn 263 = .ok (.land, 1) := dk_127 (dk_at dksX0_turn_11 5 rfl rfl)
theorem dX0_turn_264 : decode cX0_turn 264 = .ok (.invokevirtual 296, 3) := dk_182 1 40 (dk_at dksX0_turn_11 6 rfl rfl)
theorem dX0_turn_267 : decode cX0_turn 267 = .ok (.ifCond .ne 9, 3) := dk_154 0 9 (dk_at dksX0_turn_11 9 rfl rfl)
theorem dX0_turn_270 : decode cX0_turn 270 = .ok (.iinc 10 1, 3) := dk_132 10 1 (dk_at dksX0_turn_11 12 rfl rfl)
theorem dX0_turn_273 : decode cX0_turn 273 = .ok (.goto (-43), 3) := dk_167 255 213 (dk_at dksX0_turn_11 15 rfl rfl)
theorem dX0_turn_276 : decode cX0_turn 276 = .ok (.lload 6, 2) := dk_22 6 (dk_at dksX0_turn_11 18 rfl rfl)
theorem dX0_turn_278 : decode cX0_turn 278 = .ok (.lconst 1, 1) := dk_10 (dk_at dksX0_turn_11 20 rfl rfl)
theorem dX0_turn_279 : decode cX0_turn 279 = .ok (.iload 10, 2) := dk_21 10 (dk_at dksX0_turn_11 21 rfl rfl)
theorem dX0_turn_281 : decode cX0_turn 281 = .ok (.lshl, 1) := dk_121 (dk_at dksX0_turn_11 23 rfl rfl)
theorem dX0_turn_282 : decode cX0_turn 282 = .ok (.ldc2_w 215, 3) := dk_20 0 215 (dk_at dksX0_turn_12 0 rfl rfl)
theorem dX0_turn_285 : decode cX0_turn 285 = .ok (.lxor, 1) := dk_131 (dk_at dksX0_turn_12 3 rfl rfl)
theorem dX0_turn_286 : decode cX0_turn 286 = .ok (.land, 1) := dk_127 (dk_at dksX0_turn_12 4 rfl rfl)
theorem dX0_turn_287 : decode cX0_turn 287 = .ok (.lstore 6, 2) := dk_55 6 (dk_at dksX0_turn_12 5 rfl rfl)
theorem dX0_turn_289 : decode cX0_turn 289 = .ok (.iload 9, 2) := dk_21 9 (dk_at dksX0_turn_12 7 rfl rfl)
theorem dX0_turn_291 : decode cX0_turn 291 = .ok (.iload 4, 2) := dk_21 4 (dk_at dksX0_turn_12 9 rfl rfl)
theorem dX0_turn_293 : decode cX0_turn 293 = .ok (.if_icmp .ne 9, 3) := dk_160 0 9 (dk_at dksX0_turn_12 11 rfl rfl)
theorem dX0_turn_296 : decode cX0_turn 296 = .ok (.lload_n 2, 1) := dk_32 (dk_at dksX0_turn_12 14 rfl rfl)
theorem dX0_turn_297 : decode cX0_turn 297 = .ok (.iload 10, 2) := dk_21 10 (dk_at dksX0_turn_12 15 rfl rfl)
theorem dX0_turn_299 : decode cX0_turn 299 = .ok (.i2l, 1) := dk_133 (dk_at dksX0_turn_12 17 rfl rfl)
theorem dX0_turn_300 : decode cX0_turn 300 = .ok (.ladd, 1) := dk_97 (dk_at dksX0_turn_12 18 rfl rfl)
theorem dX0_turn_301 : decode cX0_turn 301 = .ok (.lreturn, 1) := dk_173 (dk_at dksX0_turn_12 19 rfl rfl)
theorem dX0_turn_302 : decode cX0_turn 302 = .ok (.iinc 9 1, 3) := dk_132 9 1 (dk_at dksX0_turn_12 20 rfl rfl)
theorem dX0_turn_305 : decode cX0_turn 305 = .ok (.goto (-108), 3) := dk_167 255 148 (dk_at dksX0_turn_13 0 rfl rfl)
theorem dX0_turn_308 : decode cX0_turn 308 = .ok (.ldc2_w 215, 3) := dk_20 0 215 (dk_at dksX0_turn_13 3 rfl rfl)
theorem dX0_turn_311 : decode cX0_turn 311 = .ok (.lreturn, 1) := dk_173 (dk_at dksX0_turn_13 6 rfl rfl)
abbrev cX0_canAll : ByteArray := prog_1_method_53_code
def yX0_canAll : MethodName := ⟨RX0, "canAll", "(IJ)Z"⟩
def dkwX0_canAll_2 : List UInt8 := [132, 4, 1, 167, 255, 217, 4, 172]
abbrev dktX0_canAll_2 : List UInt8 := dkwX0_canAll_2 ++ []
def dkwX0_canAll_1 : List UInt8 := [184, 1, 37, 27, 21, 4, 184, 0, 173, 153, 0, 15, 42, 21, 4, 32, 182, 1, 28, 154, 0, 5, 3, 172]
abbrev dktX0_canAll_1 : List UInt8 := dkwX0_canAll_1 ++ dktX0_canAll_2
def dkwX0_canAll_0 : List UInt8 := [42, 180, 0, 38, 2, 184, 1, 31, 3, 54, 4, 21, 4, 16, 12, 162, 0, 38, 42, 180, 0, 41, 3]
abbrev dktX0_canAll_0 : List UInt8 := dkwX0_canAll_0 ++ dktX0_canAll_1
theorem dksX0_canAll_0 : cX0_canAll.data.toList.drop 0 = dktX0_canAll_0 := by decide +kernel
theorem dksX0_canAll_1 : cX0_canAll.data.toList.drop 23 = dktX0_canAll_1 := dk_seg dksX0_canAll_0 23 rfl rfl
theorem dksX0_canAll_2 : cX0_canAll.data.toList.drop 47 = dktX0_canAll_2 := dk_seg dksX0_canAll_1 24 rfl rfl
theorem dX0_canAll_0 : decode cX0_canAll 0 = .ok (.aload_n 0, 1) := dk_42 (dk_at dksX0_canAll_0 0 rfl rfl)
theorem dX0_canAll_1 : decode cX0_canAll 1 = .ok (.getfield 38, 3) := dk_180 0 38 (dk_at dksX0_canAll_0 1 rfl rfl)
theorem dX0_canAll_4 : decode cX0_canAll 4 = .ok (.iconst (-1), 1) := dk_2 (dk_at dksX0_canAll_0 4 rfl rfl)
theorem dX0_canAll_5 : decode cX0_canAll 5 = .ok (.invokestatic 287, 3) := dk_184 1 31 (dk_at dksX0_canAll_0 5 rfl rfl)
theorem dX0_canAll_8 : decode cX0_canAll 8 = .ok (.iconst 0, 1) := dk_3 (dk_at dksX0_canAll_0 8 rfl rfl)
theorem dX0_canAll_9 : decode cX0_canAll 9 = .ok (.istore 4, 2) := dk_54 4 (dk_at dksX0_canAll_0 9 rfl rfl)
theorem dX0_canAll_11 : decode cX0_canAll 11 = .ok (.iload 4, 2) := dk_21 4 (dk_at dksX0_canAll_0 11 rfl rfl)
theorem dX0_canAll_13 : decode cX0_canAll 13 = .ok (.bipush 12, 2) := dk_16 12 (dk_at dksX0_canAll_0 13 rfl rfl)
theorem dX0_canAll_15 : decode cX0_canAll 15 = .ok (.if_icmp .ge 38, 3) := dk_162 0 38 (dk_at dksX0_canAll_0 15 rfl rfl)
theorem dX0_canAll_18 : decode cX0_canAll 18 = .ok (.aload_n 0, 1) := dk_42 (dk_at dksX0_canAll_0 18 rfl rfl)
theorem dX0_canAll_19 : decode cX0_canAll 19 = .ok (.getfield 41, 3) := dk_180 0 41 (dk_at dksX0_canAll_0 19 rfl rfl)
theorem dX0_canAll_22 : decode cX0_canAll 22 = .ok (.iconst 0, 1) := dk_3 (dk_at dksX0_canAll_0 22 rfl rfl)
theorem dX0_canAll_23 : decode cX0_canAll 23 = .ok (.invokestatic 293, 3) := dk_184 1 37 (dk_at dksX0_canAll_1 0 rfl rfl)
theorem dX0_canAll_26 : decode cX0_canAll 26 = .ok (.iload_n 1, 1) := dk_27 (dk_at dksX0_canAll_1 3 rfl rfl)
theorem dX0_canAll_27 : decode cX0_canAll 27 = .ok (.iload 4, 2) := dk_21 4 (dk_at dksX0_canAll_1 4 rfl rfl)
theorem dX0_canAll_29 : decode cX0_canAll 29 = .ok (.invokestatic 173, 3) := dk_184 0 173 (dk_at dksX0_canAll_1 6 rfl rfl)
theorem dX0_canAll_32 : decode cX0_canAll 32 = .ok (.ifCond .eq 15, 3) := dk_153 0 15 (dk_at dksX0_canAll_1 9 rfl rfl)
theorem dX0_canAll_35 : decode cX0_canAll 35 = .ok (.aload_n 0, 1) := dk_42 (dk_at dksX0_canAll_1 12 rfl rfl)
theorem dX0_canAll_36 : decode cX0_canAll 36 = .ok (.iload 4, 2) := dk_21 4 (dk_at dksX0_canAll_1 13 rfl rfl)
theorem dX0_canAll_38 : decode cX0_canAll 38 = .ok (.lload_n 2, 1) := dk_32 (dk_at dksX0_canAll_1 15 rfl rfl)
theorem dX0_canAll_39 : decode cX0_canAll 39 = .ok (.invokevirtual 284, 3) := dk_182 1 28 (dk_at dksX0_canAll_1 16 rfl rfl)
theorem dX0_canAll_42 : decode cX0_canAll 42 = .ok (.ifCond .ne 5, 3) := dk_154 0 5 (dk_at dksX0_canAll_1 19 rfl rfl)
theorem dX0_canAll_45 : decode cX0_canAll 45 = .ok (.iconst 0, 1) := dk_3 (dk_at dksX0_canAll_1 22 rfl rfl)
theorem dX0_canAll_46 : decode cX0_canAll 46 = .ok (.ireturn, 1) := dk_172 (dk_at dksX0_canAll_1 23 rfl rfl)
theorem dX0_canAll_47 : decode cX0_canAll 47 = .ok (.iinc 4 1, 3) := dk_132 4 1 (dk_at dksX0_canAll_2 0 rfl rfl)
theorem dX0_canAll_50 : decode cX0_canAll 50 = .ok (.goto (-39), 3) := dk_167 255 217 (dk_at dksX0_canAll_2 3 rfl rfl)
theorem dX0_canAll_53 : decode cX0_canAll 53 = .ok (.iconst 1, 1) := dk_4 (dk_at dksX0_canAll_2 6 rfl rfl)
theorem dX0_canAll_54 : decode cX0_canAll 54 = .ok (.ireturn, 1) := dk_172 (dk_at dksX0_canAll_2 7 rfl rfl)
abbrev cX0_seats : ByteArray := prog_1_method_52_code
def yX0_seats : MethodName := ⟨RX0, "seats", "(IJ)Z"⟩
def dkwX0_seats_3 : List UInt8 := [154, 0, 6, 167, 0, 13, 42, 180, 0, 38, 21, 4, 27, 79, 4, 172, 132, 4, 1, 167, 255, 168, 3, 172]
abbrev dktX0_seats_3 : List UInt8 := dkwX0_seats_3 ++ []
def dkwX0_seats_2 : List UInt8 := [84, 42, 180, 0, 38, 21, 4, 46, 2, 159, 0, 21, 42, 42, 180, 0, 38, 21, 4, 46, 32, 182, 1, 28]
abbrev dktX0_seats_2 : List UInt8 := dkwX0_seats_2 ++ dktX0_seats_3
def dkwX0_seats_1 : List UInt8 := [148, 153, 0, 63, 42, 180, 0, 41, 21, 4, 51, 153, 0, 6, 167, 0, 50, 42, 180, 0, 41, 21, 4, 4]
abbrev dktX0_seats_1 : List UInt8 := dkwX0_seats_1 ++ dktX0_seats_2
def dkwX0_seats_0 : List UInt8 := [3, 54, 4, 21, 4, 16, 64, 162, 0, 87, 42, 180, 0, 34, 27, 47, 32, 127, 10, 21, 4, 121, 127, 9]
abbrev dktX0_seats_0 : List UInt8 := dkwX0_seats_0 ++ dktX0_seats_1
theorem dksX0_seats_0 : cX0_seats.data.toList.drop 0 = dktX0_seats_0 := by decide +kernel
theorem dksX0_seats_1 : cX0_seats.data.toList.drop 24 = dktX0_seats_1 := dk_seg dksX0_seats_0 24 rfl rfl
theorem dksX0_seats_2 : cX0_seats.data.toList.drop 48 = dktX0_seats_2 := dk_seg dksX0_seats_1 24 rfl rfl
theorem dksX0_seats_3 : cX0_seats.data.toList.drop 72 = dktX0_seats_3 := dk_seg dksX0_seats_2 24 rfl rfl
theorem dX0_seats_0 : decode cX0_seats 0 = .ok (.iconst 0, 1) := dk_3 (dk_at dksX0_seats_0 0 rfl rfl)
theorem dX0_seats_1 : decode cX0_seats 1 = .ok (.istore 4, 2) := dk_54 4 (dk_at dksX0_seats_0 1 rfl rfl)
theorem dX0_seats_3 : decode cX0_seats 3 = .ok (.iload 4, 2) := dk_21 4 (dk_at dksX0_seats_0 3 rfl rfl)
theorem dX0_seats_5 : decode cX0_seats 5 = .ok (.bipush 64, 2) := dk_16 64 (dk_at dksX0_seats_0 5 rfl rfl)
theorem dX0_seats_7 : decode cX0_seats 7 = .ok (.if_icmp .ge 87, 3) := dk_162 0 87 (dk_at dksX0_seats_0 7 rfl rfl)
theorem dX0_seats_10 : decode cX0_seats 10 = .ok (.aload_n 0, 1) := dk_42 (dk_at dksX0_seats_0 10 rfl rfl)
theorem dX0_seats_11 : decode cX0_seats 11 = .ok (.getfield 34, 3) := dk_180 0 34 (dk_at dksX0_seats_0 11 rfl rfl)
theorem dX0_seats_14 : decode cX0_seats 14 = .ok (.iload_n 1, 1) := dk_27 (dk_at dksX0_seats_0 14 rfl rfl)
theorem dX0_seats_15 : decode cX0_seats 15 = .ok (.laload, 1) := dk_47 (dk_at dksX0_seats_0 15 rfl rfl)
theorem dX0_seats_16 : decode cX0_seats 16 = .ok (.lload_n 2, 1) := dk_32 (dk_at dksX0_seats_0 16 rfl rfl)
theorem dX0_seats_17 : decode cX0_seats 17 = .ok (.land, 1) := dk_127 (dk_at dksX0_seats_0 17 rfl rfl)
theorem dX0_seats_18 : decode cX0_seats 18 = .ok (.lconst 1, 1) := dk_10 (dk_at dksX0_seats_0 18 rfl rfl)
theorem dX0_seats_19 : decode cX0_seats 19 = .ok (.iload 4, 2) := dk_21 4 (dk_at dksX0_seats_0 19 rfl rfl)
theorem dX0_seats_21 : decode cX0_seats 21 = .ok (.lshl, 1) := dk_121 (dk_at dksX0_seats_0 21 rfl rfl)
theorem dX0_seats_22 : decode cX0_seats 22 = .ok (.land, 1) := dk_127 (dk_at dksX0_seats_0 22 rfl rfl)
theorem dX0_seats_23 : decode cX0_seats 23 = .ok (.lconst 0, 1) := dk_9 (dk_at dksX0_seats_0 23 rfl rfl)
theorem dX0_seats_24 : decode cX0_seats 24 = .ok (.lcmp, 1) := dk_148 (dk_at dksX0_seats_1 0 rfl rfl)
theorem dX0_seats_25 : decode cX0_seats 25 = .ok (.ifCond .eq 63, 3) := dk_153 0 63 (dk_at dksX0_seats_1 1 rfl rfl)
theorem dX0_seats_28 : decode cX0_seats 28 = .ok (.aload_n 0, 1) := dk_42 (dk_at dksX0_seats_1 4 rfl rfl)
theorem dX0_seats_29 : decode cX0_seats 29 = .ok (.getfield 41, 3) := dk_180 0 41 (dk_at dksX0_seats_1 5 rfl rfl)
theorem dX0_seats_32 : decode cX0_seats 32 = .ok (.iload 4, 2) := dk_21 4 (dk_at dksX0_seats_1 8 rfl rfl)
theorem dX0_seats_34 : decode cX0_seats 34 = .ok (.baload, 1) := dk_51 (dk_at dksX0_seats_1 10 rfl rfl)
theorem dX0_seats_35 : decode cX0_seats 35 = .ok (.ifCond .eq 6, 3) := dk_153 0 6 (dk_at dksX0_seats_1 11 rfl rfl)
theorem dX0_seats_38 : decode cX0_seats 38 = .ok (.goto 50, 3) := dk_167 0 50 (dk_at dksX0_seats_1 14 rfl rfl)
theorem dX0_seats_41 : decode cX0_seats 41 = .ok (.aload_n 0, 1) := dk_42 (dk_at dksX0_seats_1 17 rfl rfl)
theorem dX0_seats_42 : decode cX0_seats 42 = .ok (.getfield 41, 3) := dk_180 0 41 (dk_at dksX0_seats_1 18 rfl rfl)
theorem dX0_seats_45 : decode cX0_seats 45 = .ok (.iload 4, 2) := dk_21 4 (dk_at dksX0_seats_1 21 rfl rfl)
theorem dX0_seats_47 : decode cX0_seats 47 = .ok (.iconst 1, 1) := dk_4 (dk_at dksX0_seats_1 23 rfl rfl)
theorem dX0_seats_48 : decode cX0_seats 48 = .ok (.bastore, 1) := dk_84 (dk_at dksX0_seats_2 0 rfl rfl)
theorem dX0_seats_49 : decode cX0_seats 49 = .ok (.aload_n 0, 1) := dk_42 (dk_at dksX0_seats_2 1 rfl rfl)
theorem dX0_seats_50 : decode cX0_seats 50 = .ok (.getfield 38, 3) := dk_180 0 38 (dk_at dksX0_seats_2 2 rfl rfl)
theorem dX0_seats_53 : decode cX0_seats 53 = .ok (.iload 4, 2) := dk_21 4 (dk_at dksX0_seats_2 5 rfl rfl)
theorem dX0_seats_55 : decode cX0_seats 55 = .ok (.iaload, 1) := dk_46 (dk_at dksX0_seats_2 7 rfl rfl)
theorem dX0_seats_56 : decode cX0_seats 56 = .ok (.iconst (-1), 1) := dk_2 (dk_at dksX0_seats_2 8 rfl rfl)
theorem dX0_seats_57 : decode cX0_seats 57 = .ok (.if_icmp .eq 21, 3) := dk_159 0 21 (dk_at dksX0_seats_2 9 rfl rfl)
theorem dX0_seats_60 : decode cX0_seats 60 = .ok (.aload_n 0, 1) := dk_42 (dk_at dksX0_seats_2 12 rfl rfl)
theorem dX0_seats_61 : decode cX0_seats 61 = .ok (.aload_n 0, 1) := dk_42 (dk_at dksX0_seats_2 13 rfl rfl)
theorem dX0_seats_62 : decode cX0_seats 62 = .ok (.getfield 38, 3) := dk_180 0 38 (dk_at dksX0_seats_2 14 rfl rfl)
theorem dX0_seats_65 : decode cX0_seats 65 = .ok (.iload 4, 2) := dk_21 4 (dk_at dksX0_seats_2 17 rfl rfl)
theorem dX0_seats_67 : decode cX0_seats 67 = .ok (.iaload, 1) := dk_46 (dk_at dksX0_seats_2 19 rfl rfl)
theorem dX0_seats_68 : decode cX0_seats 68 = .ok (.lload_n 2, 1) := dk_32 (dk_at dksX0_seats_2 20 rfl rfl)
theorem dX0_seats_69 : decode cX0_seats 69 = .ok (.invokevirtual 284, 3) := dk_182 1 28 (dk_at dksX0_seats_2 21 rfl rfl)
theorem dX0_seats_72 : decode cX0_seats 72 = .ok (.ifCond .ne 6, 3) := dk_154 0 6 (dk_at dksX0_seats_3 0 rfl rfl)
theorem dX0_seats_75 : decode cX0_seats 75 = .ok (.goto 13, 3) := dk_167 0 13 (dk_at dksX0_seats_3 3 rfl rfl)
theorem dX0_seats_78 : decode cX0_seats 78 = .ok (.aload_n 0, 1) := dk_42 (dk_at dksX0_seats_3 6 rfl rfl)
theorem dX0_seats_79 : decode cX0_seats 79 = .ok (.getfield 38, 3) := dk_180 0 38 (dk_at dksX0_seats_3 7 rfl rfl)
theorem dX0_seats_82 : decode cX0_seats 82 = .ok (.iload 4, 2) := dk_21 4 (dk_at dksX0_seats_3 10 rfl rfl)
theorem dX0_seats_84 : decode cX0_seats 84 = .ok (.iload_n 1, 1) := dk_27 (dk_at dksX0_seats_3 12 rfl rfl)
theorem dX0_seats_85 : decode cX0_seats 85 = .ok (.iastore, 1) := dk_79 (dk_at dksX0_seats_3 13 rfl rfl)
theorem dX0_seats_86 : decode cX0_seats 86 = .ok (.iconst 1, 1) := dk_4 (dk_at dksX0_seats_3 14 rfl rfl)
theorem dX0_seats_87 : decode cX0_seats 87 = .ok (.ireturn, 1) := dk_172 (dk_at dksX0_seats_3 15 rfl rfl)
theorem dX0_seats_88 : decode cX0_seats 88 = .ok (.iinc 4 1, 3) := dk_132 4 1 (dk_at dksX0_seats_3 16 rfl rfl)
theorem dX0_seats_91 : decode cX0_seats 91 = .ok (.goto (-88), 3) := dk_167 255 168 (dk_at dksX0_seats_3 19 rfl rfl)
theorem dX0_seats_94 : decode cX0_seats 94 = .ok (.iconst 0, 1) := dk_3 (dk_at dksX0_seats_3 22 rfl rfl)
theorem dX0_seats_95 : decode cX0_seats 95 = .ok (.ireturn, 1) := dk_172 (dk_at dksX0_seats_3 23 rfl rfl)
abbrev cX0_given : ByteArray := prog_1_method_55_code
def yX0_given : MethodName := ⟨RX0, "given", "(I)I"⟩
def dkwX0_given_4 : List UInt8 := [180, 0, 10, 180, 0, 64, 16, 6, 46, 172]
abbrev dktX0_given_4 : List UInt8 := dkwX0_given_4 ++ []
def dkwX0_given_3 : List UInt8 := [180, 0, 64, 16, 6, 46, 27, 79, 42, 180, 0, 10, 180, 0, 64, 16, 6, 92, 46, 4, 96, 79, 42]
abbrev dktX0_given_3 : List UInt8 := dkwX0_given_3 ++ dktX0_given_4
def dkwX0_given_2 : List UInt8 := [46, 27, 160, 0, 5, 2, 172, 132, 2, 1, 167, 255, 224, 42, 180, 0, 10, 180, 1, 43, 42, 180, 0, 10]
abbrev dktX0_given_2 : List UInt8 := dkwX0_given_2 ++ dktX0_given_3
def dkwX0_given_1 : List UInt8 := [3, 61, 28, 42, 180, 0, 10, 180, 0, 64, 16, 6, 46, 162, 0, 24, 42, 180, 0, 10, 180, 1, 43, 28]
abbrev dktX0_given_1 : List UInt8 := dkwX0_given_1 ++ dktX0_given_2
def dkwX0_given_0 : List UInt8 := [27, 184, 0, 79, 153, 0, 18, 42, 180, 0, 10, 180, 0, 64, 16, 6, 46, 16, 6, 160, 0, 5, 2, 172]
abbrev dktX0_given_0 : List UInt8 := dkwX0_given_0 ++ dktX0_given_1
theorem dksX0_given_0 : cX0_given.data.toList.drop 0 = dktX0_given_0 := by decide +kernel
theorem dksX0_given_1 : cX0_given.data.toList.drop 24 = dktX0_given_1 := dk_seg dksX0_given_0 24 rfl rfl
theorem dksX0_given_2 : cX0_given.data.toList.drop 48 = dktX0_given_2 := dk_seg dksX0_given_1 24 rfl rfl
theorem dksX0_given_3 : cX0_given.data.toList.drop 72 = dktX0_given_3 := dk_seg dksX0_given_2 24 rfl rfl
theorem dksX0_given_4 : cX0_given.data.toList.drop 95 = dktX0_given_4 := dk_seg dksX0_given_3 23 rfl rfl
theorem dX0_given_0 : decode cX0_given 0 = .ok (.iload_n 1, 1) := dk_27 (dk_at dksX0_given_0 0 rfl rfl)
theorem dX0_given_1 : decode cX0_given 1 = .ok (.invokestatic 79, 3) := dk_184 0 79 (dk_at dksX0_given_0 1 rfl rfl)
theorem dX0_given_4 : decode cX0_given 4 = .ok (.ifCond .eq 18, 3) := dk_153 0 18 (dk_at dksX0_given_0 4 rfl rfl)
theorem dX0_given_7 : decode cX0_given 7 = .ok (.aload_n 0, 1) := dk_42 (dk_at dksX0_given_0 7 rfl rfl)
theorem dX0_given_8 : decode cX0_given 8 = .ok (.getfield 10, 3) := dk_180 0 10 (dk_at dksX0_given_0 8 rfl rfl)
theorem dX0_given_11 : decode cX0_given 11 = .ok (.getfield 64, 3) := dk_180 0 64 (dk_at dksX0_given_0 11 rfl rfl)
theorem dX0_given_14 : decode cX0_given 14 = .ok (.bipush 6, 2) := dk_16 6 (dk_at dksX0_given_0 14 rfl rfl)
theorem dX0_given_16 : decode cX0_given 16 = .ok (.iaload, 1) := dk_46 (dk_at dksX0_given_0 16 rfl rfl)
theorem dX0_given_17 : decode cX0_given 17 = .ok (.bipush 6, 2) := dk_16 6 (dk_at dksX0_given_0 17 rfl rfl)
theorem dX0_given_19 : decode cX0_given 19 = .ok (.if_icmp .ne 5, 3) := dk_160 0 5 (dk_at dksX0_given_0 19 rfl rfl)
theorem dX0_given_22 : decode cX0_given 22 = .ok (.iconst (-1), 1) := dk_2 (dk_at dksX0_given_0 22 rfl rfl)
theorem dX0_given_23 : decode cX0_given 23 = .ok (.ireturn, 1) := dk_172 (dk_at dksX0_given_0 23 rfl rfl)
theorem dX0_given_24 : decode cX0_given 24 = .ok (.iconst 0, 1) := dk_3 (dk_at dksX0_given_1 0 rfl rfl)
theorem dX0_given_25 : decode cX0_given 25 = .ok (.istore_n 2, 1) := dk_61 (dk_at dksX0_given_1 1 rfl rfl)
theorem dX0_given_26 : decode cX0_given 26 = .ok (.iload_n 2, 1) := dk_28 (dk_at dksX0_given_1 2 rfl rfl)
theorem dX0_given_27 : decode cX0_given 27 = .ok (.aload_n 0, 1) := dk_42 (dk_at dksX0_given_1 3 rfl rfl)
theorem dX0_given_28 : decode cX0_given 28 = .ok (.getfield 10, 3) := dk_180 0 10 (dk_at dksX0_given_1 4 rfl rfl)
theorem dX0_given_31 : decode cX0_given 31 = .ok (.getfield 64, 3) := dk_180 0 64 (dk_at dksX0_given_1 7 rfl rfl)
theorem dX0_given_34 : decode cX0_given 34 = .ok (.bipush 6, 2) := dk_16 6 (dk_at dksX0_given_1 10 rfl rfl)
theorem dX0_given_36 : decode cX0_given 36 = .ok (.iaload, 1) := dk_46 (dk_at dksX0_given_1 12 rfl rfl)
theorem dX0_given_37 : decode cX0_given 37 = .ok (.if_icmp .ge 24, 3) := dk_162 0 24 (dk_at dksX0_given_1 13 rfl rfl)
theorem dX0_given_40 : decode cX0_given 40 = .ok (.aload_n 0, 1) := dk_42 (dk_at dksX0_given_1 16 rfl rfl)
theorem dX0_given_41 : decode cX0_given 41 = .ok (.getfield 10, 3) := dk_180 0 10 (dk_at dksX0_given_1 17 rfl rfl)
theorem dX0_given_44 : decode cX0_given 44 = .ok (.getfield 299, 3) := dk_180 1 43 (dk_at dksX0_given_1 20 rfl rfl)
theorem dX0_given_47 : decode cX0_given 47 = .ok (.iload_n 2, 1) := dk_28 (dk_at dksX0_given_1 23 rfl rfl)
theorem dX0_given_48 : decode cX0_given 48 = .ok (.iaload, 1) := dk_46 (dk_at dksX0_given_2 0 rfl rfl)
theorem dX0_given_49 : decode cX0_given 49 = .ok (.iload_n 1, 1) := dk_27 (dk_at dksX0_given_2 1 rfl rfl)
theorem dX0_given_50 : decode cX0_given 50 = .ok (.if_icmp .ne 5, 3) := dk_160 0 5 (dk_at dksX0_given_2 2 rfl rfl)
theorem dX0_given_53 : decode cX0_given 53 = .ok (.iconst (-1), 1) := dk_2 (dk_at dksX0_given_2 5 rfl rfl)
theorem dX0_given_54 : decode cX0_given 54 = .ok (.ireturn, 1) := dk_172 (dk_at dksX0_given_2 6 rfl rfl)
theorem dX0_given_55 : decode cX0_given 55 = .ok (.iinc 2 1, 3) := dk_132 2 1 (dk_at dksX0_given_2 7 rfl rfl)
theorem dX0_given_58 : decode cX0_given 58 = .ok (.goto (-32), 3) := dk_167 255 224 (dk_at dksX0_given_2 10 rfl rfl)
theorem dX0_given_61 : decode cX0_given 61 = .ok (.aload_n 0, 1) := dk_42 (dk_at dksX0_given_2 13 rfl rfl)
theorem dX0_given_62 : decode cX0_given 62 = .ok (.getfield 10, 3) := dk_180 0 10 (dk_at dksX0_given_2 14 rfl rfl)
theorem dX0_given_65 : decode cX0_given 65 = .ok (.getfield 299, 3) := dk_180 1 43 (dk_at dksX0_given_2 17 rfl rfl)
theorem dX0_given_68 : decode cX0_given 68 = .ok (.aload_n 0, 1) := dk_42 (dk_at dksX0_given_2 20 rfl rfl)
theorem dX0_given_69 : decode cX0_given 69 = .ok (.getfield 10, 3) := dk_180 0 10 (dk_at dksX0_given_2 21 rfl rfl)
theorem dX0_given_72 : decode cX0_given 72 = .ok (.getfield 64, 3) := dk_180 0 64 (dk_at dksX0_given_3 0 rfl rfl)
theorem dX0_given_75 : decode cX0_given 75 = .ok (.bipush 6, 2) := dk_16 6 (dk_at dksX0_given_3 3 rfl rfl)
theorem dX0_given_77 : decode cX0_given 77 = .ok (.iaload, 1) := dk_46 (dk_at dksX0_given_3 5 rfl rfl)
theorem dX0_given_78 : decode cX0_given 78 = .ok (.iload_n 1, 1) := dk_27 (dk_at dksX0_given_3 6 rfl rfl)
theorem dX0_given_79 : decode cX0_given 79 = .ok (.iastore, 1) := dk_79 (dk_at dksX0_given_3 7 rfl rfl)
theorem dX0_given_80 : decode cX0_given 80 = .ok (.aload_n 0, 1) := dk_42 (dk_at dksX0_given_3 8 rfl rfl)
theorem dX0_given_81 : decode cX0_given 81 = .ok (.getfield 10, 3) := dk_180 0 10 (dk_at dksX0_given_3 9 rfl rfl)
theorem dX0_given_84 : decode cX0_given 84 = .ok (.getfield 64, 3) := dk_180 0 64 (dk_at dksX0_given_3 12 rfl rfl)
theorem dX0_given_87 : decode cX0_given 87 = .ok (.bipush 6, 2) := dk_16 6 (dk_at dksX0_given_3 15 rfl rfl)
theorem dX0_given_89 : decode cX0_given 89 = .ok (.dup2, 1) := dk_92 (dk_at dksX0_given_3 17 rfl rfl)
theorem dX0_given_90 : decode cX0_given 90 = .ok (.iaload, 1) := dk_46 (dk_at dksX0_given_3 18 rfl rfl)
theorem dX0_given_91 : decode cX0_given 91 = .ok (.iconst 1, 1) := dk_4 (dk_at dksX0_given_3 19 rfl rfl)
theorem dX0_given_92 : decode cX0_given 92 = .ok (.iadd, 1) := dk_96 (dk_at dksX0_given_3 20 rfl rfl)
theorem dX0_given_93 : decode cX0_given 93 = .ok (.iastore, 1) := dk_79 (dk_at dksX0_given_3 21 rfl rfl)
theorem dX0_given_94 : decode cX0_given 94 = .ok (.aload_n 0, 1) := dk_42 (dk_at dksX0_given_3 22 rfl rfl)
theorem dX0_given_95 : decode cX0_given 95 = .ok (.getfield 10, 3) := dk_180 0 10 (dk_at dksX0_given_4 0 rfl rfl)
theorem dX0_given_98 : decode cX0_given 98 = .ok (.getfield 64, 3) := dk_180 0 64 (dk_at dksX0_given_4 3 rfl rfl)
theorem dX0_given_101 : decode cX0_given 101 = .ok (.bipush 6, 2) := dk_16 6 (dk_at dksX0_given_4 6 rfl rfl)
theorem dX0_given_103 : decode cX0_given 103 = .ok (.iaload, 1) := dk_46 (dk_at dksX0_given_4 8 rfl rfl)
theorem dX0_given_104 : decode cX0_given 104 = .ok (.ireturn, 1) := dk_172 (dk_at dksX0_given_4 9 rfl rfl)
abbrev cX0_need : ByteArray := prog_1_method_56_code
def yX0_need : MethodName := ⟨RX0, "need", "(IIII)I"⟩
def dkwX0_need_5 : List UInt8 := [16, 7, 92, 46, 4, 96, 79, 42, 180, 0, 10, 180, 0, 64, 16, 7, 46, 4, 100, 172]
abbrev dktX0_need_5 : List UInt8 := dkwX0_need_5 ++ []
def dkwX0_need_4 : List UInt8 := [42, 180, 0, 10, 180, 0, 64, 16, 7, 46, 50, 3, 7, 184, 1, 49, 42, 180, 0, 10, 180, 0, 64]
abbrev dktX0_need_4 : List UInt8 := dkwX0_need_4 ++ dktX0_need_5
def dkwX0_need_3 : List UInt8 := [4, 28, 79, 89, 5, 29, 79, 89, 6, 21, 4, 79, 58, 5, 25, 5, 3, 42, 180, 0, 10, 180, 1, 46]
abbrev dktX0_need_3 : List UInt8 := dkwX0_need_3 ++ dktX0_need_4
def dkwX0_need_2 : List UInt8 := [180, 0, 10, 180, 0, 64, 16, 7, 46, 16, 12, 160, 0, 5, 2, 172, 7, 188, 10, 89, 3, 27, 79, 89]
abbrev dktX0_need_2 : List UInt8 := dkwX0_need_2 ++ dktX0_need_3
def dkwX0_need_1 : List UInt8 := [20, 0, 100, 184, 0, 67, 153, 0, 31, 21, 4, 133, 10, 20, 0, 252, 184, 0, 67, 153, 0, 18, 42]
abbrev dktX0_need_1 : List UInt8 := dkwX0_need_1 ++ dktX0_need_2
def dkwX0_need_0 : List UInt8 := [42, 27, 182, 0, 95, 153, 0, 56, 42, 28, 182, 0, 95, 153, 0, 48, 27, 28, 159, 0, 43, 29, 133, 10]
abbrev dktX0_need_0 : List UInt8 := dkwX0_need_0 ++ dktX0_need_1
theorem dksX0_need_0 : cX0_need.data.toList.drop 0 = dktX0_need_0 := by decide +kernel
theorem dksX0_need_1 : cX0_need.data.toList.drop 24 = dktX0_need_1 := dk_seg dksX0_need_0 24 rfl rfl
theorem dksX0_need_2 : cX0_need.data.toList.drop 47 = dktX0_need_2 := dk_seg dksX0_need_1 23 rfl rfl
theorem dksX0_need_3 : cX0_need.data.toList.drop 71 = dktX0_need_3 := dk_seg dksX0_need_2 24 rfl rfl
theorem dksX0_need_4 : cX0_need.data.toList.drop 95 = dktX0_need_4 := dk_seg dksX0_need_3 24 rfl rfl
theorem dksX0_need_5 : cX0_need.data.toList.drop 118 = dktX0_need_5 := dk_seg dksX0_need_4 23 rfl rfl
theorem dX0_need_0 : decode cX0_need 0 = .ok (.aload_n 0, 1) := dk_42 (dk_at dksX0_need_0 0 rfl rfl)
theorem dX0_need_1 : decode cX0_need 1 = .ok (.iload_n 1, 1) := dk_27 (dk_at dksX0_need_0 1 rfl rfl)
theorem dX0_need_2 : decode cX0_need 2 = .ok (.invokevirtual 95, 3) := dk_182 0 95 (dk_at dksX0_need_0 2 rfl rfl)
theorem dX0_need_5 : decode cX0_need 5 = .ok (.ifCond .eq 56, 3) := dk_153 0 56 (dk_at dksX0_need_0 5 rfl rfl)
theorem dX0_need_8 : decode cX0_need 8 = .ok (.aload_n 0, 1) := dk_42 (dk_at dksX0_need_0 8 rfl rfl)
theorem dX0_need_9 : decode cX0_need 9 = .ok (.iload_n 2, 1) := dk_28 (dk_at dksX0_need_0 9 rfl rfl)
theorem dX0_need_10 : decode cX0_need 10 = .ok (.invokevirtual 95, 3) := dk_182 0 95 (dk_at dksX0_need_0 10 rfl rfl)
theorem dX0_need_13 : decode cX0_need 13 = .ok (.ifCond .eq 48, 3) := dk_153 0 48 (dk_at dksX0_need_0 13 rfl rfl)
theorem dX0_need_16 : decode cX0_need 16 = .ok (.iload_n 1, 1) := dk_27 (dk_at dksX0_need_0 16 rfl rfl)
theorem dX0_need_17 : decode cX0_need 17 = .ok (.iload_n 2, 1) := dk_28 (dk_at dksX0_need_0 17 rfl rfl)
theorem dX0_need_18 : decode cX0_need 18 = .ok (.if_icmp .eq 43, 3) := dk_159 0 43 (dk_at dksX0_need_0 18 rfl rfl)
theorem dX0_need_21 : decode cX0_need 21 = .ok (.iload_n 3, 1) := dk_29 (dk_at dksX0_need_0 21 rfl rfl)
theorem dX0_need_22 : decode cX0_need 22 = .ok (.i2l, 1) := dk_133 (dk_at dksX0_need_0 22 rfl rfl)
theorem dX0_need_23 : decode cX0_need 23 = .ok (.lconst 1, 1) := dk_10 (dk_at dksX0_need_0 23 rfl rfl)
theorem dX0_need_24 : decode cX0_need 24 = .ok (.ldc2_w 100, 3) := dk_20 0 100 (dk_at dksX0_need_1 0 rfl rfl)
theorem dX0_need_27 : decode cX0_need 27 = .ok (.invokestatic 67, 3) := dk_184 0 67 (dk_at dksX0_need_1 3 rfl rfl)
theorem dX0_need_30 : decode cX0_need 30 = .ok (.ifCond .eq 31, 3) := dk_153 0 31 (dk_at dksX0_need_1 6 rfl rfl)
theorem dX0_need_33 : decode cX0_need 33 = .ok (.iload 4, 2) := dk_21 4 (dk_at dksX0_need_1 9 rfl rfl)
theorem dX0_need_35 : decode cX0_need 35 = .ok (.i2l, 1) := dk_133 (dk_at dksX0_need_1 11 rfl rfl)
theorem dX0_need_36 : decode cX0_need 36 = .ok (.lconst 1, 1) := dk_10 (dk_at dksX0_need_1 12 rfl rfl)
theorem dX0_need_37 : decode cX0_need 37 = .ok (.ldc2_w 252, 3) := dk_20 0 252 (dk_at dksX0_need_1 13 rfl rfl)
theorem dX0_need_40 : decode cX0_need 40 = .ok (.invokestatic 67, 3) := dk_184 0 67 (dk_at dksX0_need_1 16 rfl rfl)
theorem dX0_need_43 : decode cX0_need 43 = .ok (.ifCond .eq 18, 3) := dk_153 0 18 (dk_at dksX0_need_1 19 rfl rfl)
theorem dX0_need_46 : decode cX0_need 46 = .ok (.aload_n 0, 1) := dk_42 (dk_at dksX0_need_1 22 rfl rfl)
theorem dX0_need_47 : decode cX0_need 47 = .ok (.getfield 10, 3) := dk_180 0 10 (dk_at dksX0_need_2 0 rfl rfl)
theorem dX0_need_50 : decode cX0_need 50 = .ok (.getfield 64, 3) := dk_180 0 64 (dk_at dksX0_need_2 3 rfl rfl)
theorem dX0_need_53 : decode cX0_need 53 = .ok (.bipush 7, 2) := dk_16 7 (dk_at dksX0_need_2 6 rfl rfl)
theorem dX0_need_55 : decode cX0_need 55 = .ok (.iaload, 1) := dk_46 (dk_at dksX0_need_2 8 rfl rfl)
theorem dX0_need_56 : decode cX0_need 56 = .ok (.bipush 12, 2) := dk_16 12 (dk_at dksX0_need_2 9 rfl rfl)
theorem dX0_need_58 : decode cX0_need 58 = .ok (.if_icmp .ne 5, 3) := dk_160 0 5 (dk_at dksX0_need_2 11 rfl rfl)
theorem dX0_need_61 : decode cX0_need 61 = .ok (.iconst (-1), 1) := dk_2 (dk_at dksX0_need_2 14 rfl rfl)
theorem dX0_need_62 : decode cX0_need 62 = .ok (.ireturn, 1) := dk_172 (dk_at dksX0_need_2 15 rfl rfl)
theorem dX0_need_63 : decode cX0_need 63 = .ok (.iconst 4, 1) := dk_7 (dk_at dksX0_need_2 16 rfl rfl)
theorem dX0_need_64 : decode cX0_need 64 = .ok (.newarray .int, 2) := dk_188_10 (dk_at dksX0_need_2 17 rfl rfl)
theorem dX0_need_66 : decode cX0_need 66 = .ok (.dup, 1) := dk_89 (dk_at dksX0_need_2 19 rfl rfl)
theorem dX0_need_67 : decode cX0_need 67 = .ok (.iconst 0, 1) := dk_3 (dk_at dksX0_need_2 20 rfl rfl)
theorem dX0_need_68 : decode cX0_need 68 = .ok (.iload_n 1, 1) := dk_27 (dk_at dksX0_need_2 21 rfl rfl)
theorem dX0_need_69 : decode cX0_need 69 = .ok (.iastore, 1) := dk_79 (dk_at dksX0_need_2 22 rfl rfl)
theorem dX0_need_70 : decode cX0_need 70 = .ok (.dup, 1) := dk_89 (dk_at dksX0_need_2 23 rfl rfl)
theorem dX0_need_71 : decode cX0_need 71 = .ok (.iconst 1, 1) := dk_4 (dk_at dksX0_need_3 0 rfl rfl)
theorem dX0_need_72 : decode cX0_need 72 = .ok (.iload_n 2, 1) := dk_28 (dk_at dksX0_need_3 1 rfl rfl)
theorem dX0_need_73 : decode cX0_need 73 = .ok (.iastore, 1) := dk_79 (dk_at dksX0_need_3 2 rfl rfl)
theorem dX0_need_74 : decode cX0_need 74 = .ok (.dup, 1) := dk_89 (dk_at dksX0_need_3 3 rfl rfl)
theorem dX0_need_75 : decode cX0_need 75 = .ok (.iconst 2, 1) := dk_5 (dk_at dksX0_need_3 4 rfl rfl)
theorem dX0_need_76 : decode cX0_need 76 = .ok (.iload_n 3, 1) := dk_29 (dk_at dksX0_need_3 5 rfl rfl)
theorem dX0_need_77 : decode cX0_need 77 = .ok (.iastore, 1) := dk_79 (dk_at dksX0_need_3 6 rfl rfl)
theorem dX0_need_78 : decode cX0_need 78 = .ok (.dup, 1) := dk_89 (dk_at dksX0_need_3 7 rfl rfl)
theorem dX0_need_79 : decode cX0_need 79 = .ok (.iconst 3, 1) := dk_6 (dk_at dksX0_need_3 8 rfl rfl)
theorem dX0_need_80 : decode cX0_need 80 = .ok (.iload 4, 2) := dk_21 4 (dk_at dksX0_need_3 9 rfl rfl)
theorem dX0_need_82 : decode cX0_need 82 = .ok (.iastore, 1) := dk_79 (dk_at dksX0_need_3 11 rfl rfl)
theorem dX0_need_83 : decode cX0_need 83 = .ok (.astore 5, 2) := dk_58 5 (dk_at dksX0_need_3 12 rfl rfl)
theorem dX0_need_85 : decode cX0_need 85 = .ok (.aload 5, 2) := dk_25 5 (dk_at dksX0_need_3 14 rfl rfl)
theorem dX0_need_87 : decode cX0_need 87 = .ok (.iconst 0, 1) := dk_3 (dk_at dksX0_need_3 16 rfl rfl)
theorem dX0_need_88 : decode cX0_need 88 = .ok (.aload_n 0, 1) := dk_42 (dk_at dksX0_need_3 17 rfl rfl)
theorem dX0_need_89 : decode cX0_need 89 = .ok (.getfield 10, 3) := dk_180 0 10 (dk_at dksX0_need_3 18 rfl rfl)
theorem dX0_need_92 : decode cX0_need 92 = .ok (.getfield 302, 3) := dk_180 1 46 (dk_at dksX0_need_3 21 rfl rfl)
theorem dX0_need_95 : decode cX0_need 95 = .ok (.aload_n 0, 1) := dk_42 (dk_at dksX0_need_4 0 rfl rfl)
theorem dX0_need_96 : decode cX0_need 96 = .ok (.getfield 10, 3) := dk_180 0 10 (dk_at dksX0_need_4 1 rfl rfl)
theorem dX0_need_99 : decode cX0_need 99 = .ok (.getfield 64, 3) := dk_180 0 64 (dk_at dksX0_need_4 4 rfl rfl)
theorem dX0_need_102 : decode cX0_need 102 = .ok (.bipush 7, 2) := dk_16 7 (dk_at dksX0_need_4 7 rfl rfl)
theorem dX0_need_104 : decode cX0_need 104 = .ok (.iaload, 1) := dk_46 (dk_at dksX0_need_4 9 rfl rfl)
theorem dX0_need_105 : decode cX0_need 105 = .ok (.aaload, 1) := dk_50 (dk_at dksX0_need_4 10 rfl rfl)
theorem dX0_need_106 : decode cX0_need 106 = .ok (.iconst 0, 1) := dk_3 (dk_at dksX0_need_4 11 rfl rfl)
theorem dX0_need_107 : decode cX0_need 107 = .ok (.iconst 4, 1) := dk_7 (dk_at dksX0_need_4 12 rfl rfl)
theorem dX0_need_108 : decode cX0_need 108 = .ok (.invokestatic 305, 3) := dk_184 1 49 (dk_at dksX0_need_4 13 rfl rfl)
theorem dX0_need_111 : decode cX0_need 111 = .ok (.aload_n 0, 1) := dk_42 (dk_at dksX0_need_4 16 rfl rfl)
theorem dX0_need_112 : decode cX0_need 112 = .ok (.getfield 10, 3) := dk_180 0 10 (dk_at dksX0_need_4 17 rfl rfl)
theorem dX0_need_115 : decode cX0_need 115 = .ok (.getfield 64, 3) := dk_180 0 64 (dk_at dksX0_need_4 20 rfl rfl)
theorem dX0_need_118 : decode cX0_need 118 = .ok (.bipush 7, 2) := dk_16 7 (dk_at dksX0_need_5 0 rfl rfl)
theorem dX0_need_120 : decode cX0_need 120 = .ok (.dup2, 1) := dk_92 (dk_at dksX0_need_5 2 rfl rfl)
theorem dX0_need_121 : decode cX0_need 121 = .ok (.iaload, 1) := dk_46 (dk_at dksX0_need_5 3 rfl rfl)
theorem dX0_need_122 : decode cX0_need 122 = .ok (.iconst 1, 1) := dk_4 (dk_at dksX0_need_5 4 rfl rfl)
theorem dX0_need_123 : decode cX0_need 123 = .ok (.iadd, 1) := dk_96 (dk_at dksX0_need_5 5 rfl rfl)
theorem dX0_need_124 : decode cX0_need 124 = .ok (.iastore, 1) := dk_79 (dk_at dksX0_need_5 6 rfl rfl)
theorem dX0_need_125 : decode cX0_need 125 = .ok (.aload_n 0, 1) := dk_42 (dk_at dksX0_need_5 7 rfl rfl)
theorem dX0_need_126 : decode cX0_need 126 = .ok (.getfield 10, 3) := dk_180 0 10 (dk_at dksX0_need_5 8 rfl rfl)
theorem dX0_need_129 : decode cX0_need 129 = .ok (.getfield 64, 3) := dk_180 0 64 (dk_at dksX0_need_5 11 rfl rfl)
theorem dX0_need_132 : decode cX0_need 132 = .ok (.bipush 7, 2) := dk_16 7 (dk_at dksX0_need_5 14 rfl rfl)
theorem dX0_need_134 : decode cX0_need 134 = .ok (.iaload, 1) := dk_46 (dk_at dksX0_need_5 16 rfl rfl)
theorem dX0_need_135 : decode cX0_need 135 = .ok (.iconst 1, 1) := dk_4 (dk_at dksX0_need_5 17 rfl rfl)
theorem dX0_need_136 : decode cX0_need 136 = .ok (.isub, 1) := dk_100 (dk_at dksX0_need_5 18 rfl rfl)
theorem dX0_need_137 : decode cX0_need 137 = .ok (.ireturn, 1) := dk_172 (dk_at dksX0_need_5 19 rfl rfl)
abbrev cX0_worth : ByteArray := prog_1_method_59_code
def yX0_worth : MethodName := ⟨RX0, "worth", "(I)I"⟩
def dkwX0_worth_1 : List UInt8 := [46, 4, 100, 133, 184, 0, 67, 153, 0, 11, 42, 27, 182, 1, 67, 167, 0, 6, 19, 1, 73, 172]
abbrev dktX0_worth_1 : List UInt8 := dkwX0_worth_1 ++ []
def dkwX0_worth_0 : List UInt8 := [27, 2, 160, 0, 10, 42, 182, 1, 70, 167, 0, 36, 27, 133, 9, 42, 180, 0, 10, 180, 0, 64, 16, 7]
abbrev dktX0_worth_0 : List UInt8 := dkwX0_worth_0 ++ dktX0_worth_1
theorem dksX0_worth_0 : cX0_worth.data.toList.drop 0 = dktX0_worth_0 := by decide +kernel
theorem dksX0_worth_1 : cX0_worth.data.toList.drop 24 = dktX0_worth_1 := dk_seg dksX0_worth_0 24 rfl rfl
theorem dX0_worth_0 : decode cX0_worth 0 = .ok (.iload_n 1, 1) := dk_27 (dk_at dksX0_worth_0 0 rfl rfl)
theorem dX0_worth_1 : decode cX0_worth 1 = .ok (.iconst (-1), 1) := dk_2 (dk_at dksX0_worth_0 1 rfl rfl)
theorem dX0_worth_2 : decode cX0_worth 2 = .ok (.if_icmp .ne 10, 3) := dk_160 0 10 (dk_at dksX0_worth_0 2 rfl rfl)
theorem dX0_worth_5 : decode cX0_worth 5 = .ok (.aload_n 0, 1) := dk_42 (dk_at dksX0_worth_0 5 rfl rfl)
theorem dX0_worth_6 : decode cX0_worth 6 = .ok (.invokevirtual 326, 3) := dk_182 1 70 (dk_at dksX0_worth_0 6 rfl rfl)
theorem dX0_worth_9 : decode cX0_worth 9 = .ok (.goto 36, 3) := dk_167 0 36 (dk_at dksX0_worth_0 9 rfl rfl)
theorem dX0_worth_12 : decode cX0_worth 12 = .ok (.iload_n 1, 1) := dk_27 (dk_at dksX0_worth_0 12 rfl rfl)
theorem dX0_worth_13 : decode cX0_worth 13 = .ok (.i2l, 1) := dk_133 (dk_at dksX0_worth_0 13 rfl rfl)
theorem dX0_worth_14 : decode cX0_worth 14 = .ok (.lconst 0, 1) := dk_9 (dk_at dksX0_worth_0 14 rfl rfl)
theorem dX0_worth_15 : decode cX0_worth 15 = .ok (.aload_n 0, 1) := dk_42 (dk_at dksX0_worth_0 15 rfl rfl)
theorem dX0_worth_16 : decode cX0_worth 16 = .ok (.getfield 10, 3) := dk_180 0 10 (dk_at dksX0_worth_0 16 rfl rfl)
theorem dX0_worth_19 : decode cX0_worth 19 = .ok (.getfield 64, 3) := dk_180 0 64 (dk_at dksX0_worth_0 19 rfl rfl)
theorem dX0_worth_22 : decode cX0_worth 22 = .ok (.bipush 7, 2) := dk_16 7 (dk_at dksX0_worth_0 22 rfl rfl)
theorem dX0_worth_24 : decode cX0_worth 24 = .ok (.iaload, 1) := dk_46 (dk_at dksX0_worth_1 0 rfl rfl)
theorem dX0_worth_25 : decode cX0_worth 25 = .ok (.iconst 1, 1) := dk_4 (dk_at dksX0_worth_1 1 rfl rfl)
theorem dX0_worth_26 : decode cX0_worth 26 = .ok (.isub, 1) := dk_100 (dk_at dksX0_worth_1 2 rfl rfl)
theorem dX0_worth_27 : decode cX0_worth 27 = .ok (.i2l, 1) := dk_133 (dk_at dksX0_worth_1 3 rfl rfl)
theorem dX0_worth_28 : decode cX0_worth 28 = .ok (.invokestatic 67, 3) := dk_184 0 67 (dk_at dksX0_worth_1 4 rfl rfl)
theorem dX0_worth_31 : decode cX0_worth 31 = .ok (.ifCond .eq 11, 3) := dk_153 0 11 (dk_at dksX0_worth_1 7 rfl rfl)
theorem dX0_worth_34 : decode cX0_worth 34 = .ok (.aload_n 0, 1) := dk_42 (dk_at dksX0_worth_1 10 rfl rfl)
theorem dX0_worth_35 : decode cX0_worth 35 = .ok (.iload_n 1, 1) := dk_27 (dk_at dksX0_worth_1 11 rfl rfl)
theorem dX0_worth_36 : decode cX0_worth 36 = .ok (.invokevirtual 323, 3) := dk_182 1 67 (dk_at dksX0_worth_1 12 rfl rfl)
theorem dX0_worth_39 : decode cX0_worth 39 = .ok (.goto 6, 3) := dk_167 0 6 (dk_at dksX0_worth_1 15 rfl rfl)
theorem dX0_worth_42 : decode cX0_worth 42 = .ok (.ldc_w 329, 3) := dk_19 1 73 (dk_at dksX0_worth_1 18 rfl rfl)
theorem dX0_worth_45 : decode cX0_worth 45 = .ok (.ireturn, 1) := dk_172 (dk_at dksX0_worth_1 21 rfl rfl)
abbrev cX0_worthOfAll : ByteArray := prog_1_method_58_code
def yX0_worthOfAll : MethodName := ⟨RX0, "worthOfAll", "()I"⟩
def dkwX0_worthOfAll_1 : List UInt8 := [96, 60, 132, 2, 1, 167, 255, 231, 27, 172]
abbrev dktX0_worthOfAll_1 : List UInt8 := dkwX0_worthOfAll_1 ++ []
def dkwX0_worthOfAll_0 : List UInt8 := [3, 60, 3, 61, 28, 42, 180, 0, 10, 180, 0, 64, 16, 7, 46, 162, 0, 17, 27, 42, 28, 182, 1, 67]
abbrev dktX0_worthOfAll_0 : List UInt8 := dkwX0_worthOfAll_0 ++ dktX0_worthOfAll_1
theorem dksX0_worthOfAll_0 : cX0_worthOfAll.data.toList.drop 0 = dktX0_worthOfAll_0 := by decide +kernel
theorem dksX0_worthOfAll_1 : cX0_worthOfAll.data.toList.drop 24 = dktX0_worthOfAll_1 := dk_seg dksX0_worthOfAll_0 24 rfl rfl
theorem dX0_worthOfAll_0 : decode cX0_worthOfAll 0 = .ok (.iconst 0, 1) := dk_3 (dk_at dksX0_worthOfAll_0 0 rfl rfl)
theorem dX0_worthOfAll_1 : decode cX0_worthOfAll 1 = .ok (.istore_n 1, 1) := dk_60 (dk_at dksX0_worthOfAll_0 1 rfl rfl)
theorem dX0_worthOfAll_2 : decode cX0_worthOfAll 2 = .ok (.iconst 0, 1) := dk_3 (dk_at dksX0_worthOfAll_0 2 rfl rfl)
theorem dX0_worthOfAll_3 : decode cX0_worthOfAll 3 = .ok (.istore_n 2, 1) := dk_61 (dk_at dksX0_worthOfAll_0 3 rfl rfl)
theorem dX0_worthOfAll_4 : decode cX0_worthOfAll 4 = .ok (.iload_n 2, 1) := dk_28 (dk_at dksX0_worthOfAll_0 4 rfl rfl)
theorem dX0_worthOfAll_5 : decode cX0_worthOfAll 5 = .ok (.aload_n 0, 1) := dk_42 (dk_at dksX0_worthOfAll_0 5 rfl rfl)
theorem dX0_worthOfAll_6 : decode cX0_worthOfAll 6 = .ok (.getfield 10, 3) := dk_180 0 10 (dk_at dksX0_worthOfAll_0 6 rfl rfl)
theorem dX0_worthOfAll_9 : decode cX0_worthOfAll 9 = .ok (.getfield 64, 3) := dk_180 0 64 (dk_at dksX0_worthOfAll_0 9 rfl rfl)
theorem dX0_worthOfAll_12 : decode cX0_worthOfAll 12 = .ok (.bipush 7, 2) := dk_16 7 (dk_at dksX0_worthOfAll_0 12 rfl rfl)
theorem dX0_worthOfAll_14 : decode cX0_worthOfAll 14 = .ok (.iaload, 1) := dk_46 (dk_at dksX0_worthOfAll_0 14 rfl rfl)
theorem dX0_worthOfAll_15 : decode cX0_worthOfAll 15 = .ok (.if_icmp .ge 17, 3) := dk_162 0 17 (dk_at dksX0_worthOfAll_0 15 rfl rfl)
theorem dX0_worthOfAll_18 : decode cX0_worthOfAll 18 = .ok (.iload_n 1, 1) := dk_27 (dk_at dksX0_worthOfAll_0 18 rfl rfl)
theorem dX0_worthOfAll_19 : decode cX0_worthOfAll 19 = .ok (.aload_n 0, 1) := dk_42 (dk_at dksX0_worthOfAll_0 19 rfl rfl)
theorem dX0_worthOfAll_20 : decode cX0_worthOfAll 20 = .ok (.iload_n 2, 1) := dk_28 (dk_at dksX0_worthOfAll_0 20 rfl rfl)
theorem dX0_worthOfAll_21 : decode cX0_worthOfAll 21 = .ok (.invokevirtual 323, 3) := dk_182 1 67 (dk_at dksX0_worthOfAll_0 21 rfl rfl)
theorem dX0_worthOfAll_24 : decode cX0_worthOfAll 24 = .ok (.iadd, 1) := dk_96 (dk_at dksX0_worthOfAll_1 0 rfl rfl)
theorem dX0_worthOfAll_25 : decode cX0_worthOfAll 25 = .ok (.istore_n 1, 1) := dk_60 (dk_at dksX0_worthOfAll_1 1 rfl rfl)
theorem dX0_worthOfAll_26 : decode cX0_worthOfAll 26 = .ok (.iinc 2 1, 3) := dk_132 2 1 (dk_at dksX0_worthOfAll_1 2 rfl rfl)
theorem dX0_worthOfAll_29 : decode cX0_worthOfAll 29 = .ok (.goto (-25), 3) := dk_167 255 231 (dk_at dksX0_worthOfAll_1 5 rfl rfl)
theorem dX0_worthOfAll_32 : decode cX0_worthOfAll 32 = .ok (.iload_n 1, 1) := dk_27 (dk_at dksX0_worthOfAll_1 8 rfl rfl)
theorem dX0_worthOfAll_33 : decode cX0_worthOfAll 33 = .ok (.ireturn, 1) := dk_172 (dk_at dksX0_worthOfAll_1 9 rfl rfl)
abbrev cX0_worthOf : ByteArray := prog_1_method_57_code
def yX0_worthOf : MethodName := ⟨RX0, "worthOf", "(I)I"⟩
def dkwX0_worthOf_4 : List UInt8 := [25, 4, 180, 1, 55, 42, 180, 0, 30, 185, 1, 61, 2, 0, 184, 0, 206, 184, 0, 196, 136, 172]
abbrev dktX0_worthOf_4 : List UInt8 := dkwX0_worthOf_4 ++ []
def dkwX0_worthOf_3 : List UInt8 := [180, 0, 30, 8, 44, 5, 46, 79, 42, 180, 0, 30, 16, 6, 44, 6, 46, 79, 20, 1, 59, 20, 0, 77]
abbrev dktX0_worthOf_3 : List UInt8 := dkwX0_worthOf_3 ++ dktX0_worthOf_4
def dkwX0_worthOf_2 : List UInt8 := [199, 0, 16, 29, 44, 5, 46, 161, 0, 7, 4, 167, 0, 4, 3, 172, 42, 180, 0, 30, 7, 29, 79, 42]
abbrev dktX0_worthOf_2 : List UInt8 := dkwX0_worthOf_2 ++ dktX0_worthOf_3
def dkwX0_worthOf_1 : List UInt8 := [6, 46, 133, 182, 0, 247, 136, 62, 42, 182, 0, 133, 58, 4, 25, 4, 198, 0, 11, 25, 4, 180, 1, 55]
abbrev dktX0_worthOf_1 : List UInt8 := dkwX0_worthOf_1 ++ dktX0_worthOf_2
def dkwX0_worthOf_0 : List UInt8 := [42, 180, 0, 10, 180, 1, 46, 27, 50, 77, 42, 4, 44, 3, 46, 120, 4, 44, 4, 46, 120, 128, 9, 44]
abbrev dktX0_worthOf_0 : List UInt8 := dkwX0_worthOf_0 ++ dktX0_worthOf_1
theorem dksX0_worthOf_0 : cX0_worthOf.data.toList.drop 0 = dktX0_worthOf_0 := by decide +kernel
theorem dksX0_worthOf_1 : cX0_worthOf.data.toList.drop 24 = dktX0_worthOf_1 := dk_seg dksX0_worthOf_0 24 rfl rfl
theorem dksX0_worthOf_2 : cX0_worthOf.data.toList.drop 48 = dktX0_worthOf_2 := dk_seg dksX0_worthOf_1 24 rfl rfl
theorem dksX0_worthOf_3 : cX0_worthOf.data.toList.drop 72 = dktX0_worthOf_3 := dk_seg dksX0_worthOf_2 24 rfl rfl
theorem dksX0_worthOf_4 : cX0_worthOf.data.toList.drop 96 = dktX0_worthOf_4 := dk_seg dksX0_worthOf_3 24 rfl rfl
theorem dX0_worthOf_0 : decode cX0_worthOf 0 = .ok (.aload_n 0, 1) := dk_42 (dk_at dksX0_worthOf_0 0 rfl rfl)
theorem dX0_worthOf_1 : decode cX0_worthOf 1 = .ok (.getfield 10, 3) := dk_180 0 10 (dk_at dksX0_worthOf_0 1 rfl rfl)
theorem dX0_worthOf_4 : decode cX0_worthOf 4 = .ok (.getfield 302, 3) := dk_180 1 46 (dk_at dksX0_worthOf_0 4 rfl rfl)
theorem dX0_worthOf_7 : decode cX0_worthOf 7 = .ok (.iload_n 1, 1) := dk_27 (dk_at dksX0_worthOf_0 7 rfl rfl)
theorem dX0_worthOf_8 : decode cX0_worthOf 8 = .ok (.aaload, 1) := dk_50 (dk_at dksX0_worthOf_0 8 rfl rfl)
theorem dX0_worthOf_9 : decode cX0_worthOf 9 = .ok (.astore_n 2, 1) := dk_77 (dk_at dksX0_worthOf_0 9 rfl rfl)
theorem dX0_worthOf_10 : decode cX0_worthOf 10 = .ok (.aload_n 0, 1) := dk_42 (dk_at dksX0_worthOf_0 10 rfl rfl)
theorem dX0_worthOf_11 : decode cX0_worthOf 11 = .ok (.iconst 1, 1) := dk_4 (dk_at dksX0_worthOf_0 11 rfl rfl)
theorem dX0_worthOf_12 : decode cX0_worthOf 12 = .ok (.aload_n 2, 1) := dk_44 (dk_at dksX0_worthOf_0 12 rfl rfl)
theorem dX0_worthOf_13 : decode cX0_worthOf 13 = .ok (.iconst 0, 1) := dk_3 (dk_at dksX0_worthOf_0 13 rfl rfl)
theorem dX0_worthOf_14 : decode cX0_worthOf 14 = .ok (.iaload, 1) := dk_46 (dk_at dksX0_worthOf_0 14 rfl rfl)
theorem dX0_worthOf_15 : decode cX0_worthOf 15 = .ok (.ishl, 1) := dk_120 (dk_at dksX0_worthOf_0 15 rfl rfl)
theorem dX0_worthOf_16 : decode cX0_worthOf 16 = .ok (.iconst 1, 1) := dk_4 (dk_at dksX0_worthOf_0 16 rfl rfl)
theorem dX0_worthOf_17 : decode cX0_worthOf 17 = .ok (.aload_n 2, 1) := dk_44 (dk_at dksX0_worthOf_0 17 rfl rfl)
theorem dX0_worthOf_18 : decode cX0_worthOf 18 = .ok (.iconst 1, 1) := dk_4 (dk_at dksX0_worthOf_0 18 rfl rfl)
theorem dX0_worthOf_19 : decode cX0_worthOf 19 = .ok (.iaload, 1) := dk_46 (dk_at dksX0_worthOf_0 19 rfl rfl)
theorem dX0_worthOf_20 : decode cX0_worthOf 20 = .ok (.ishl, 1) := dk_120 (dk_at dksX0_worthOf_0 20 rfl rfl)
theorem dX0_worthOf_21 : decode cX0_worthOf 21 = .ok (.ior, 1) := dk_128 (dk_at dksX0_worthOf_0 21 rfl rfl)
theorem dX0_worthOf_22 : decode cX0_worthOf 22 = .ok (.lconst 0, 1) := dk_9 (dk_at dksX0_worthOf_0 22 rfl rfl)
theorem dX0_worthOf_23 : decode cX0_worthOf 23 = .ok (.aload_n 2, 1) := dk_44 (dk_at dksX0_worthOf_0 23 rfl rfl)
theorem dX0_worthOf_24 : decode cX0_worthOf 24 = .ok (.iconst 3, 1) := dk_6 (dk_at dksX0_worthOf_1 0 rfl rfl)
theorem dX0_worthOf_25 : decode cX0_worthOf 25 = .ok (.iaload, 1) := dk_46 (dk_at dksX0_worthOf_1 1 rfl rfl)
theorem dX0_worthOf_26 : decode cX0_worthOf 26 = .ok (.i2l, 1) := dk_133 (dk_at dksX0_worthOf_1 2 rfl rfl)
theorem dX0_worthOf_27 : decode cX0_worthOf 27 = .ok (.invokevirtual 247, 3) := dk_182 0 247 (dk_at dksX0_worthOf_1 3 rfl rfl)
theorem dX0_worthOf_30 : decode cX0_worthOf 30 = .ok (.l2i, 1) := dk_136 (dk_at dksX0_worthOf_1 6 rfl rfl)
theorem dX0_worthOf_31 : decode cX0_worthOf 31 = .ok (.istore_n 3, 1) := dk_62 (dk_at dksX0_worthOf_1 7 rfl rfl)
theorem dX0_worthOf_32 : decode cX0_worthOf 32 = .ok (.aload_n 0, 1) := dk_42 (dk_at dksX0_worthOf_1 8 rfl rfl)
theorem dX0_worthOf_33 : decode cX0_worthOf 33 = .ok (.invokevirtual 133, 3) := dk_182 0 133 (dk_at dksX0_worthOf_1 9 rfl rfl)
theorem dX0_worthOf_36 : decode cX0_worthOf 36 = .ok (.astore 4, 2) := dk_58 4 (dk_at dksX0_worthOf_1 12 rfl rfl)
theorem dX0_worthOf_38 : decode cX0_worthOf 38 = .ok (.aload 4, 2) := dk_25 4 (dk_at dksX0_worthOf_1 14 rfl rfl)
theorem dX0_worthOf_40 : decode cX0_worthOf 40 = .ok (.ifnull 11, 3) := dk_198 0 11 (dk_at dksX0_worthOf_1 16 rfl rfl)
theorem dX0_worthOf_43 : decode cX0_worthOf 43 = .ok (.aload 4, 2) := dk_25 4 (dk_at dksX0_worthOf_1 19 rfl rfl)
theorem dX0_worthOf_45 : decode cX0_worthOf 45 = .ok (.getfield 311, 3) := dk_180 1 55 (dk_at dksX0_worthOf_1 21 rfl rfl)
theorem dX0_worthOf_48 : decode cX0_worthOf 48 = .ok (.ifnonnull 16, 3) := dk_199 0 16 (dk_at dksX0_worthOf_2 0 rfl rfl)
theorem dX0_worthOf_51 : decode cX0_worthOf 51 = .ok (.iload_n 3, 1) := dk_29 (dk_at dksX0_worthOf_2 3 rfl rfl)
theorem dX0_worthOf_52 : decode cX0_worthOf 52 = .ok (.aload_n 2, 1) := dk_44 (dk_at dksX0_worthOf_2 4 rfl rfl)
theorem dX0_worthOf_53 : decode cX0_worthOf 53 = .ok (.iconst 2, 1) := dk_5 (dk_at dksX0_worthOf_2 5 rfl rfl)
theorem dX0_worthOf_54 : decode cX0_worthOf 54 = .ok (.iaload, 1) := dk_46 (dk_at dksX0_worthOf_2 6 rfl rfl)
theorem dX0_worthOf_55 : decode cX0_worthOf 55 = .ok (.if_icmp .lt 7, 3) := dk_161 0 7 (dk_at dksX0_worthOf_2 7 rfl rfl)
theorem dX0_worthOf_58 : decode cX0_worthOf 58 = .ok (.iconst 1, 1) := dk_4 (dk_at dksX0_worthOf_2 10 rfl rfl)
theorem dX0_worthOf_59 : decode cX0_worthOf 59 = .ok (.goto 4, 3) := dk_167 0 4 (dk_at dksX0_worthOf_2 11 rfl rfl)
theorem dX0_worthOf_62 : decode cX0_worthOf 62 = .ok (.iconst 0, 1) := dk_3 (dk_at dksX0_worthOf_2 14 rfl rfl)
theorem dX0_worthOf_63 : decode cX0_worthOf 63 = .ok (.ireturn, 1) := dk_172 (dk_at dksX0_worthOf_2 15 rfl rfl)
theorem dX0_worthOf_64 : decode cX0_worthOf 64 = .ok (.aload_n 0, 1) := dk_42 (dk_at dksX0_worthOf_2 16 rfl rfl)
theorem dX0_worthOf_65 : decode cX0_worthOf 65 = .ok (.getfield 30, 3) := dk_180 0 30 (dk_at dksX0_worthOf_2 17 rfl rfl)
theorem dX0_worthOf_68 : decode cX0_worthOf 68 = .ok (.iconst 4, 1) := dk_7 (dk_at dksX0_worthOf_2 20 rfl rfl)
theorem dX0_worthOf_69 : decode cX0_worthOf 69 = .ok (.iload_n 3, 1) := dk_29 (dk_at dksX0_worthOf_2 21 rfl rfl)
theorem dX0_worthOf_70 : decode cX0_worthOf 70 = .ok (.iastore, 1) := dk_79 (dk_at dksX0_worthOf_2 22 rfl rfl)
theorem dX0_worthOf_71 : decode cX0_worthOf 71 = .ok (.aload_n 0, 1) := dk_42 (dk_at dksX0_worthOf_2 23 rfl rfl)
theorem dX0_worthOf_72 : decode cX0_worthOf 72 = .ok (.getfield 30, 3) := dk_180 0 30 (dk_at dksX0_worthOf_3 0 rfl rfl)
theorem dX0_worthOf_75 : decode cX0_worthOf 75 = .ok (.iconst 5, 1) := dk_8 (dk_at dksX0_worthOf_3 3 rfl rfl)
theorem dX0_worthOf_76 : decode cX0_worthOf 76 = .ok (.aload_n 2, 1) := dk_44 (dk_at dksX0_worthOf_3 4 rfl rfl)
theorem dX0_worthOf_77 : decode cX0_worthOf 77 = .ok (.iconst 2, 1) := dk_5 (dk_at dksX0_worthOf_3 5 rfl rfl)
theorem dX0_worthOf_78 : decode cX0_worthOf 78 = .ok (.iaload, 1) := dk_46 (dk_at dksX0_worthOf_3 6 rfl rfl)
theorem dX0_worthOf_79 : decode cX0_worthOf 79 = .ok (.iastore, 1) := dk_79 (dk_at dksX0_worthOf_3 7 rfl rfl)
theorem dX0_worthOf_80 : decode cX0_worthOf 80 = .ok (.aload_n 0, 1) := dk_42 (dk_at dksX0_worthOf_3 8 rfl rfl)
theorem dX0_worthOf_81 : decode cX0_worthOf 81 = .ok (.getfield 30, 3) := dk_180 0 30 (dk_at dksX0_worthOf_3 9 rfl rfl)
theorem dX0_worthOf_84 : decode cX0_worthOf 84 = .ok (.bipush 6, 2) := dk_16 6 (dk_at dksX0_worthOf_3 12 rfl rfl)
theorem dX0_worthOf_86 : decode cX0_worthOf 86 = .ok (.aload_n 2, 1) := dk_44 (dk_at dksX0_worthOf_3 14 rfl rfl)
theorem dX0_worthOf_87 : decode cX0_worthOf 87 = .ok (.iconst 3, 1) := dk_6 (dk_at dksX0_worthOf_3 15 rfl rfl)
theorem dX0_worthOf_88 : decode cX0_worthOf 88 = .ok (.iaload, 1) := dk_46 (dk_at dksX0_worthOf_3 16 rfl rfl)
theorem dX0_worthOf_89 : decode cX0_worthOf 89 = .ok (.iastore, 1) := dk_79 (dk_at dksX0_worthOf_3 17 rfl rfl)
theorem dX0_worthOf_90 : decode cX0_worthOf 90 = .ok (.ldc2_w 315, 3) := dk_20 1 59 (dk_at dksX0_worthOf_3 18 rfl rfl)
theorem dX0_worthOf_93 : decode cX0_worthOf 93 = .ok (.ldc2_w 77, 3) := dk_20 0 77 (dk_at dksX0_worthOf_3 21 rfl rfl)
theorem dX0_worthOf_96 : decode cX0_worthOf 96 = .ok (.aload 4, 2) := dk_25 4 (dk_at dksX0_worthOf_4 0 rfl rfl)
theorem dX0_worthOf_98 : decode cX0_worthOf 98 = .ok (.getfield 311, 3) := dk_180 1 55 (dk_at dksX0_worthOf_4 2 rfl rfl)
theorem dX0_worthOf_101 : decode cX0_worthOf 101 = .ok (.aload_n 0, 1) := dk_42 (dk_at dksX0_worthOf_4 5 rfl rfl)
theorem dX0_worthOf_102 : decode cX0_worthOf 102 = .ok (.getfield 30, 3) := dk_180 0 30 (dk_at dksX0_worthOf_4 6 rfl rfl)
theorem dX0_worthOf_105 : decode cX0_worthOf 105 = .ok (.invokeinterface 317 2, 5) := by decide +kernel
theorem dX0_worthOf_110 : decode cX0_worthOf 110 = .ok (.invokestatic 206, 3) := dk_184 0 206 (dk_at dksX0_worthOf_4 14 rfl rfl)
theorem dX0_worthOf_113 : decode cX0_worthOf 113 = .ok (.invokestatic 196, 3) := dk_184 0 196 (dk_at dksX0_worthOf_4 17 rfl rfl)
theorem dX0_worthOf_116 : decode cX0_worthOf 116 = .ok (.l2i, 1) := dk_136 (dk_at dksX0_worthOf_4 20 rfl rfl)
theorem dX0_worthOf_117 : decode cX0_worthOf 117 = .ok (.ireturn, 1) := dk_172 (dk_at dksX0_worthOf_4 21 rfl rfl)
abbrev cX0_give : ByteArray := prog_1_method_60_code
def yX0_give : MethodName := ⟨RX0, "give", "(II)I"⟩
def dkwX0_give_11 : List UInt8 := [160, 0, 10, 21, 8, 29, 108, 167, 0, 7, 21, 8, 29, 112, 46, 172]
abbrev dktX0_give_11 : List UInt8 := dkwX0_give_11 ++ []
def dkwX0_give_10 : List UInt8 := [21, 7, 79, 28, 2, 160, 0, 8, 21, 9, 167, 0, 28, 42, 180, 0, 10, 180, 1, 43, 28, 21, 4]
abbrev dktX0_give_10 : List UInt8 := dkwX0_give_10 ++ dktX0_give_11
def dkwX0_give_9 : List UInt8 := [167, 255, 150, 42, 180, 0, 10, 180, 0, 86, 21, 4, 21, 6, 79, 42, 180, 0, 10, 180, 0, 86, 21, 5]
abbrev dktX0_give_9 : List UInt8 := dkwX0_give_9 ++ dktX0_give_10
def dkwX0_give_8 : List UInt8 := [159, 0, 13, 21, 11, 21, 9, 163, 0, 6, 167, 0, 11, 21, 10, 54, 8, 21, 11, 54, 9, 132, 10, 1]
abbrev dktX0_give_8 : List UInt8 := dkwX0_give_8 ++ dktX0_give_9
def dkwX0_give_7 : List UInt8 := [42, 180, 0, 10, 180, 1, 43, 21, 10, 29, 112, 46, 79, 42, 182, 1, 70, 54, 11, 21, 8, 2]
abbrev dktX0_give_7 : List UInt8 := dkwX0_give_7 ++ dktX0_give_8
def dkwX0_give_6 : List UInt8 := [21, 4, 42, 180, 0, 10, 180, 1, 43, 21, 10, 29, 108, 46, 79, 42, 180, 0, 10, 180, 0, 86, 21, 5]
abbrev dktX0_give_6 : List UInt8 := dkwX0_give_6 ++ dktX0_give_7
def dkwX0_give_5 : List UInt8 := [160, 0, 17, 21, 10, 29, 112, 21, 10, 29, 108, 159, 0, 6, 167, 0, 77, 42, 180, 0, 10, 180, 0, 86]
abbrev dktX0_give_5 : List UInt8 := dkwX0_give_5 ++ dktX0_give_6
def dkwX0_give_4 : List UInt8 := [54, 7, 2, 54, 8, 3, 54, 9, 3, 54, 10, 21, 10, 29, 29, 104, 162, 0, 104, 21, 4, 21, 5]
abbrev dktX0_give_4 : List UInt8 := dkwX0_give_4 ++ dktX0_give_5
def dkwX0_give_3 : List UInt8 := [54, 5, 42, 180, 0, 10, 180, 0, 86, 21, 4, 46, 54, 6, 42, 180, 0, 10, 180, 0, 86, 21, 5, 46]
abbrev dktX0_give_3 : List UInt8 := dkwX0_give_3 ++ dktX0_give_4
def dkwX0_give_2 : List UInt8 := [29, 154, 0, 7, 19, 1, 73, 172, 27, 184, 1, 18, 54, 4, 16, 11, 27, 184, 1, 74, 16, 20, 100, 100]
abbrev dktX0_give_2 : List UInt8 := dkwX0_give_2 ++ dktX0_give_3
def dkwX0_give_1 : List UInt8 := [163, 0, 28, 28, 2, 159, 0, 19, 42, 28, 182, 0, 95, 153, 0, 15, 27, 28, 184, 0, 173, 153, 0, 7]
abbrev dktX0_give_1 : List UInt8 := dkwX0_give_1 ++ dktX0_give_2
def dkwX0_give_0 : List UInt8 := [42, 180, 0, 10, 180, 0, 64, 16, 6, 46, 62, 42, 27, 182, 0, 212, 153, 0, 36, 27, 184, 1, 2, 5]
abbrev dktX0_give_0 : List UInt8 := dkwX0_give_0 ++ dktX0_give_1
theorem dksX0_give_0 : cX0_give.data.toList.drop 0 = dktX0_give_0 := by decide +kernel
theorem dksX0_give_1 : cX0_give.data.toList.drop 24 = dktX0_give_1 := dk_seg dksX0_give_0 24 rfl rfl
theorem dksX0_give_2 : cX0_give.data.toList.drop 48 = dktX0_give_2 := dk_seg dksX0_give_1 24 rfl rfl
theorem dksX0_give_3 : cX0_give.data.toList.drop 72 = dktX0_give_3 := dk_seg dksX0_give_2 24 rfl rfl
theorem dksX0_give_4 : cX0_give.data.toList.drop 96 = dktX0_give_4 := dk_seg dksX0_give_3 24 rfl rfl
theorem dksX0_give_5 : cX0_give.data.toList.drop 119 = dktX0_give_5 := dk_seg dksX0_give_4 23 rfl rfl
theorem dksX0_give_6 : cX0_give.data.toList.drop 143 = dktX0_give_6 := dk_seg dksX0_give_5 24 rfl rfl
theorem dksX0_give_7 : cX0_give.data.toList.drop 167 = dktX0_give_7 := dk_seg dksX0_give_6 24 rfl rfl
theorem dksX0_give_8 : cX0_give.data.toList.drop 189 = dktX0_give_8 := dk_seg dksX0_give_7 22 rfl rfl
theorem dksX0_give_9 : cX0_give.data.toList.drop 213 = dktX0_give_9 := dk_seg dksX0_give_8 24 rfl rfl
theorem dksX0_give_10 : cX0_give.data.toList.drop 237 = dktX0_give_10 := dk_seg dksX0_give_9 24 rfl rfl
theorem dksX0_give_11 : cX0_give.data.toList.drop 260 = dktX0_give_11 := dk_seg dksX0_give_10 23 rfl rfl
theorem dX0_give_0 : decode cX0_give 0 = .ok (.aload_n 0, 1) := dk_42 (dk_at dksX0_give_0 0 rfl rfl)
theorem dX0_give_1 : decode cX0_give 1 = .ok (.getfield 10, 3) := dk_180 0 10 (dk_at dksX0_give_0 1 rfl rfl)
theorem dX0_give_4 : decode cX0_give 4 = .ok (.getfield 64, 3) := dk_180 0 64 (dk_at dksX0_give_0 4 rfl rfl)
theorem dX0_give_7 : decode cX0_give 7 = .ok (.bipush 6, 2) := dk_16 6 (dk_at dksX0_give_0 7 rfl rfl)
theorem dX0_give_9 : decode cX0_give 9 = .ok (.iaload, 1) := dk_46 (dk_at dksX0_give_0 9 rfl rfl)
theorem dX0_give_10 : decode cX0_give 10 = .ok (.istore_n 3, 1) := dk_62 (dk_at dksX0_give_0 10 rfl rfl)
theorem dX0_give_11 : decode cX0_give 11 = .ok (.aload_n 0, 1) := dk_42 (dk_at dksX0_give_0 11 rfl rfl)
theorem dX0_give_12 : decode cX0_give 12 = .ok (.iload_n 1, 1) := dk_27 (dk_at dksX0_give_0 12 rfl rfl)
theorem dX0_give_13 : decode cX0_give 13 = .ok (.invokevirtual 212, 3) := dk_182 0 212 (dk_at dksX0_give_0 13 rfl rfl)
theorem dX0_give_16 : decode cX0_give 16 = .ok (.ifCond .eq 36, 3) := dk_153 0 36 (dk_at dksX0_give_0 16 rfl rfl)
theorem dX0_give_19 : decode cX0_give 19 = .ok (.iload_n 1, 1) := dk_27 (dk_at dksX0_give_0 19 rfl rfl)
theorem dX0_give_20 : decode cX0_give 20 = .ok (.invokestatic 258, 3) := dk_184 1 2 (dk_at dksX0_give_0 20 rfl rfl)
theorem dX0_give_23 : decode cX0_give 23 = .ok (.iconst 2, 1) := dk_5 (dk_at dksX0_give_0 23 rfl rfl)
theorem dX0_give_24 : decode cX0_give 24 = .ok (.if_icmp .gt 28, 3) := dk_163 0 28 (dk_at dksX0_give_1 0 rfl rfl)
theorem dX0_give_27 : decode cX0_give 27 = .ok (.iload_n 2, 1) := dk_28 (dk_at dksX0_give_1 3 rfl rfl)
theorem dX0_give_28 : decode cX0_give 28 = .ok (.iconst (-1), 1) := dk_2 (dk_at dksX0_give_1 4 rfl rfl)
theorem dX0_give_29 : decode cX0_give 29 = .ok (.if_icmp .eq 19, 3) := dk_159 0 19 (dk_at dksX0_give_1 5 rfl rfl)
theorem dX0_give_32 : decode cX0_give 32 = .ok (.aload_n 0, 1) := dk_42 (dk_at dksX0_give_1 8 rfl rfl)
theorem dX0_give_33 : decode cX0_give 33 = .ok (.iload_n 2, 1) := dk_28 (dk_at dksX0_give_1 9 rfl rfl)
theorem dX0_give_34 : decode cX0_give 34 = .ok (.invokevirtual 95, 3) := dk_182 0 95 (dk_at dksX0_give_1 10 rfl rfl)
theorem dX0_give_37 : decode cX0_give 37 = .ok (.ifCond .eq 15, 3) := dk_153 0 15 (dk_at dksX0_give_1 13 rfl rfl)
theorem dX0_give_40 : decode cX0_give 40 = .ok (.iload_n 1, 1) := dk_27 (dk_at dksX0_give_1 16 rfl rfl)
theorem dX0_give_41 : decode cX0_give 41 = .ok (.iload_n 2, 1) := dk_28 (dk_at dksX0_give_1 17 rfl rfl)
theorem dX0_give_42 : decode cX0_give 42 = .ok (.invokestatic 173, 3) := dk_184 0 173 (dk_at dksX0_give_1 18 rfl rfl)
theorem dX0_give_45 : decode cX0_give 45 = .ok (.ifCond .eq 7, 3) := dk_153 0 7 (dk_at dksX0_give_1 21 rfl rfl)
theorem dX0_give_48 : decode cX0_give 48 = .ok (.iload_n 3, 1) := dk_29 (dk_at dksX0_give_2 0 rfl rfl)
theorem dX0_give_49 : decode cX0_give 49 = .ok (.ifCond .ne 7, 3) := dk_154 0 7 (dk_at dksX0_give_2 1 rfl rfl)
theorem dX0_give_52 : decode cX0_give 52 = .ok (.ldc_w 329, 3) := dk_19 1 73 (dk_at dksX0_give_2 4 rfl rfl)
theorem dX0_give_55 : decode cX0_give 55 = .ok (.ireturn, 1) := dk_172 (dk_at dksX0_give_2 7 rfl rfl)
theorem dX0_give_56 : decode cX0_give 56 = .ok (.iload_n 1, 1) := dk_27 (dk_at dksX0_give_2 8 rfl rfl)
theorem dX0_give_57 : decode cX0_give 57 = .ok (.invokestatic 274, 3) := dk_184 1 18 (dk_at dksX0_give_2 9 rfl rfl)
theorem dX0_give_60 : decode cX0_give 60 = .ok (.istore 4, 2) := dk_54 4 (dk_at dksX0_give_2 12 rfl rfl)
theorem dX0_give_62 : decode cX0_give 62 = .ok (.bipush 11, 2) := dk_16 11 (dk_at dksX0_give_2 14 rfl rfl)
theorem dX0_give_64 : decode cX0_give 64 = .ok (.iload_n 1, 1) := dk_27 (dk_at dksX0_give_2 16 rfl rfl)
theorem dX0_give_65 : decode cX0_give 65 = .ok (.invokestatic 330, 3) := dk_184 1 74 (dk_at dksX0_give_2 17 rfl rfl)
theorem dX0_give_68 : decode cX0_give 68 = .ok (.bipush 20, 2) := dk_16 20 (dk_at dksX0_give_2 20 rfl rfl)
theorem dX0_give_70 : decode cX0_give 70 = .ok (.isub, 1) := dk_100 (dk_at dksX0_give_2 22 rfl rfl)
theorem dX0_give_71 : decode cX0_give 71 = .ok (.isub, 1) := dk_100 (dk_at dksX0_give_2 23 rfl rfl)
theorem dX0_give_72 : decode cX0_give 72 = .ok (.istore 5, 2) := dk_54 5 (dk_at dksX0_give_3 0 rfl rfl)
theorem dX0_give_74 : decode cX0_give 74 = .ok (.aload_n 0, 1) := dk_42 (dk_at dksX0_give_3 2 rfl rfl)
theorem dX0_give_75 : decode cX0_give 75 = .ok (.getfield 10, 3) := dk_180 0 10 (dk_at dksX0_give_3 3 rfl rfl)
theorem dX0_give_78 : decode cX0_give 78 = .ok (.getfield 86, 3) := dk_180 0 86 (dk_at dksX0_give_3 6 rfl rfl)
theorem dX0_give_81 : decode cX0_give 81 = .ok (.iload 4, 2) := dk_21 4 (dk_at dksX0_give_3 9 rfl rfl)
theorem dX0_give_83 : decode cX0_give 83 = .ok (.iaload, 1) := dk_46 (dk_at dksX0_give_3 11 rfl rfl)
theorem dX0_give_84 : decode cX0_give 84 = .ok (.istore 6, 2) := dk_54 6 (dk_at dksX0_give_3 12 rfl rfl)
theorem dX0_give_86 : decode cX0_give 86 = .ok (.aload_n 0, 1) := dk_42 (dk_at dksX0_give_3 14 rfl rfl)
theorem dX0_give_87 : decode cX0_give 87 = .ok (.getfield 10, 3) := dk_180 0 10 (dk_at dksX0_give_3 15 rfl rfl)
theorem dX0_give_90 : decode cX0_give 90 = .ok (.getfield 86, 3) := dk_180 0 86 (dk_at dksX0_give_3 18 rfl rfl)
theorem dX0_give_93 : decode cX0_give 93 = .ok (.iload 5, 2) := dk_21 5 (dk_at dksX0_give_3 21 rfl rfl)
theorem dX0_give_95 : decode cX0_give 95 = .ok (.iaload, 1) := dk_46 (dk_at dksX0_give_3 23 rfl rfl)
theorem dX0_give_96 : decode cX0_give 96 = .ok (.istore 7, 2) := dk_54 7 (dk_at dksX0_give_4 0 rfl rfl)
theorem dX0_give_98 : decode cX0_give 98 = .ok (.iconst (-1), 1) := dk_2 (dk_at dksX0_give_4 2 rfl rfl)
theorem dX0_give_99 : decode cX0_give 99 = .ok (.istore 8, 2) := dk_54 8 (dk_at dksX0_give_4 3 rfl rfl)
theorem dX0_give_101 : decode cX0_give 101 = .ok (.iconst 0, 1) := dk_3 (dk_at dksX0_give_4 5 rfl rfl)
theorem dX0_give_102 : decode cX0_give 102 = .ok (.istore 9, 2) := dk_54 9 (dk_at dksX0_give_4 6 rfl rfl)
theorem dX0_give_104 : decode cX0_give 104 = .ok (.iconst 0, 1) := dk_3 (dk_at dksX0_give_4 8 rfl rfl)
theorem dX0_give_105 : decode cX0_give 105 = .ok (.istore 10, 2) := dk_54 10 (dk_at dksX0_give_4 9 rfl rfl)
theorem dX0_give_107 : decode cX0_give 107 = .ok (.iload 10, 2) := dk_21 10 (dk_at dksX0_give_4 11 rfl rfl)
theorem dX0_give_109 : decode cX0_give 109 = .ok (.iload_n 3, 1) := dk_29 (dk_at dksX0_give_4 13 rfl rfl)
theorem dX0_give_110 : decode cX0_give 110 = .ok (.iload_n 3, 1) := dk_29 (dk_at dksX0_give_4 14 rfl rfl)
theorem dX0_give_111 : decode cX0_give 111 = .ok (.imul, 1) := dk_104 (dk_at dksX0_give_4 15 rfl rfl)
theorem dX0_give_112 : decode cX0_give 112 = .ok (.if_icmp .ge 104, 3) := dk_162 0 104 (dk_at dksX0_give_4 16 rfl rfl)
theorem dX0_give_115 : decode cX0_give 115 = .ok (.iload 4, 2) := dk_21 4 (dk_at dksX0_give_4 19 rfl rfl)
theorem dX0_give_117 : decode cX0_give 117 = .ok (.iload 5, 2) := dk_21 5 (dk_at dksX0_give_4 21 rfl rfl)
theorem dX0_give_119 : decode cX0_give 119 = .ok (.if_icmp .ne 17, 3) := dk_160 0 17 (dk_at dksX0_give_5 0 rfl rfl)
theorem dX0_give_122 : decode cX0_give 122 = .ok (.iload 10, 2) := dk_21 10 (dk_at dksX0_give_5 3 rfl rfl)
theorem dX0_give_124 : decode cX0_give 124 = .ok (.iload_n 3, 1) := dk_29 (dk_at dksX0_give_5 5 rfl rfl)
theorem dX0_give_125 : decode cX0_give 125 = .ok (.irem, 1) := dk_112 (dk_at dksX0_give_5 6 rfl rfl)
theorem dX0_give_126 : decode cX0_give 126 = .ok (.iload 10, 2) := dk_21 10 (dk_at dksX0_give_5 7 rfl rfl)
theorem dX0_give_128 : decode cX0_give 128 = .ok (.iload_n 3, 1) := dk_29 (dk_at dksX0_give_5 9 rfl rfl)
theorem dX0_give_129 : decode cX0_give 129 = .ok (.idiv, 1) := dk_108 (dk_at dksX0_give_5 10 rfl rfl)
theorem dX0_give_130 : decode cX0_give 130 = .ok (.if_icmp .eq 6, 3) := dk_159 0 6 (dk_at dksX0_give_5 11 rfl rfl)
theorem dX0_give_133 : decode cX0_give 133 = .ok (.goto 77, 3) := dk_167 0 77 (dk_at dksX0_give_5 14 rfl rfl)
theorem dX0_give_136 : decode cX0_give 136 = .ok (.aload_n 0, 1) := dk_42 (dk_at dksX0_give_5 17 rfl rfl)
theorem dX0_give_137 : decode cX0_give 137 = .ok (.getfield 10, 3) := dk_180 0 10 (dk_at dksX0_give_5 18 rfl rfl)
theorem dX0_give_140 : decode cX0_give 140 = .ok (.getfield 86, 3) := dk_180 0 86 (dk_at dksX0_give_5 21 rfl rfl)
theorem dX0_give_143 : decode cX0_give 143 = .ok (.iload 4, 2) := dk_21 4 (dk_at dksX0_give_6 0 rfl rfl)
theorem dX0_give_145 : decode cX0_give 145 = .ok (.aload_n 0, 1) := dk_42 (dk_at dksX0_give_6 2 rfl rfl)
theorem dX0_give_146 : decode cX0_give 146 = .ok (.getfield 10, 3) := dk_180 0 10 (dk_at dksX0_give_6 3 rfl rfl)
theorem dX0_give_149 : decode cX0_give 149 = .ok (.getfield 299, 3) := dk_180 1 43 (dk_at dksX0_give_6 6 rfl rfl)
theorem dX0_give_152 : decode cX0_give 152 = .ok (.iload 10, 2) := dk_21 10 (dk_at dksX0_give_6 9 rfl rfl)
theorem dX0_give_154 : decode cX0_give 154 = .ok (.iload_n 3, 1) := dk_29 (dk_at dksX0_give_6 11 rfl rfl)
theorem dX0_give_155 : decode cX0_give 155 = .ok (.idiv, 1) := dk_108 (dk_at dksX0_give_6 12 rfl rfl)
theorem dX0_give_156 : decode cX0_give 156 = .ok (.iaload, 1) := dk_46 (dk_at dksX0_give_6 13 rfl rfl)
theorem dX0_give_157 : decode cX0_give 157 = .ok (.iastore, 1) := dk_79 (dk_at dksX0_give_6 14 rfl rfl)
theorem dX0_give_158 : decode cX0_give 158 = .ok (.aload_n 0, 1) := dk_42 (dk_at dksX0_give_6 15 rfl rfl)
theorem dX0_give_159 : decode cX0_give 159 = .ok (.getfield 10, 3) := dk_180 0 10 (dk_at dksX0_give_6 16 rfl rfl)
theorem dX0_give_162 : decode cX0_give 162 = .ok (.getfield 86, 3) := dk_180 0 86 (dk_at dksX0_give_6 19 rfl rfl)
theorem dX0_give_165 : decode cX0_give 165 = .ok (.iload 5, 2) := dk_21 5 (dk_at dksX0_give_6 22 rfl rfl)
theorem dX0_give_167 : decode cX0_give 167 = .ok (.aload_n 0, 1) := dk_42 (dk_at dksX0_give_7 0 rfl rfl)
theorem dX0_give_168 : decode cX0_give 168 = .ok (.getfield 10, 3) := dk_180 0 10 (dk_at dksX0_give_7 1 rfl rfl)
theorem dX0_give_171 : decode cX0_give 171 = .ok (.getfield 299, 3) := dk_180 1 43 (dk_at dksX0_give_7 4 rfl rfl)
theorem dX0_give_174 : decode cX0_give 174 = .ok (.iload 10, 2) := dk_21 10 (dk_at dksX0_give_7 7 rfl rfl)
theorem dX0_give_176 : decode cX0_give 176 = .ok (.iload_n 3, 1) := dk_29 (dk_at dksX0_give_7 9 rfl rfl)
theorem dX0_give_177 : decode cX0_give 177 = .ok (.irem, 1) := dk_112 (dk_at dksX0_give_7 10 rfl rfl)
theorem dX0_give_178 : decode cX0_give 178 = .ok (.iaload, 1) := dk_46 (dk_at dksX0_give_7 11 rfl rfl)
theorem dX0_give_179 : decode cX0_give 179 = .ok (.iastore, 1) := dk_79 (dk_at dksX0_give_7 12 rfl rfl)
theorem dX0_give_180 : decode cX0_give 180 = .ok (.aload_n 0, 1) := dk_42 (dk_at dksX0_give_7 13 rfl rfl)
theorem dX0_give_181 : decode cX0_give 181 = .ok (.invokevirtual 326, 3) := dk_182 1 70 (dk_at dksX0_give_7 14 rfl rfl)
theorem dX0_give_184 : decode cX0_give 184 = .ok (.istore 11, 2) := dk_54 11 (dk_at dksX0_give_7 17 rfl rfl)
theorem dX0_give_186 : decode cX0_give 186 = .ok (.iload 8, 2) := dk_21 8 (dk_at dksX0_give_7 19 rfl rfl)
theorem dX0_give_188 : decode cX0_give 188 = .ok (.iconst (-1), 1) := dk_2 (dk_at dksX0_give_7 21 rfl rfl)
theorem dX0_give_189 : decode cX0_give 189 = .ok (.if_icmp .eq 13, 3) := dk_159 0 13 (dk_at dksX0_give_8 0 rfl rfl)
theorem dX0_give_192 : decode cX0_give 192 = .ok (.iload 11, 2) := dk_21 11 (dk_at dksX0_give_8 3 rfl rfl)
theorem dX0_give_194 : decode cX0_give 194 = .ok (.iload 9, 2) := dk_21 9 (dk_at dksX0_give_8 5 rfl rfl)
theorem dX0_give_196 : decode cX0_give 196 = .ok (.if_icmp .gt 6, 3) := dk_163 0 6 (dk_at dksX0_give_8 7 rfl rfl)
theorem dX0_give_199 : decode cX0_give 199 = .ok (.goto 11, 3) := dk_167 0 11 (dk_at dksX0_give_8 10 rfl rfl)
theorem dX0_give_202 : decode cX0_give 202 = .ok (.iload 10, 2) := dk_21 10 (dk_at dksX0_give_8 13 rfl rfl)
theorem dX0_give_204 : decode cX0_give 204 = .ok (.istore 8, 2) := dk_54 8 (dk_at dksX0_give_8 15 rfl rfl)
theorem dX0_give_206 : decode cX0_give 206 = .ok (.iload 11, 2) := dk_21 11 (dk_at dksX0_give_8 17 rfl rfl)
theorem dX0_give_208 : decode cX0_give 208 = .ok (.istore 9, 2) := dk_54 9 (dk_at dksX0_give_8 19 rfl rfl)
theorem dX0_give_210 : decode cX0_give 210 = .ok (.iinc 10 1, 3) := dk_132 10 1 (dk_at dksX0_give_8 21 rfl rfl)
theorem dX0_give_213 : decode cX0_give 213 = .ok (.goto (-106), 3) := dk_167 255 150 (dk_at dksX0_give_9 0 rfl rfl)
theorem dX0_give_216 : decode cX0_give 216 = .ok (.aload_n 0, 1) := dk_42 (dk_at dksX0_give_9 3 rfl rfl)
theorem dX0_give_217 : decode cX0_give 217 = .ok (.getfield 10, 3) := dk_180 0 10 (dk_at dksX0_give_9 4 rfl rfl)
theorem dX0_give_220 : decode cX0_give 220 = .ok (.getfield 86, 3) := dk_180 0 86 (dk_at dksX0_give_9 7 rfl rfl)
theorem dX0_give_223 : decode cX0_give 223 = .ok (.iload 4, 2) := dk_21 4 (dk_at dksX0_give_9 10 rfl rfl)
theorem dX0_give_225 : decode cX0_give 225 = .ok (.iload 6, 2) := dk_21 6 (dk_at dksX0_give_9 12 rfl rfl)
theorem dX0_give_227 : decode cX0_give 227 = .ok (.iastore, 1) := dk_79 (dk_at dksX0_give_9 14 rfl rfl)
theorem dX0_give_228 : decode cX0_give 228 = .ok (.aload_n 0, 1) := dk_42 (dk_at dksX0_give_9 15 rfl rfl)
theorem dX0_give_229 : decode cX0_give 229 = .ok (.getfield 10, 3) := dk_180 0 10 (dk_at dksX0_give_9 16 rfl rfl)
theorem dX0_give_232 : decode cX0_give 232 = .ok (.getfield 86, 3) := dk_180 0 86 (dk_at dksX0_give_9 19 rfl rfl)
theorem dX0_give_235 : decode cX0_give 235 = .ok (.iload 5, 2) := dk_21 5 (dk_at dksX0_give_9 22 rfl rfl)
theorem dX0_give_237 : decode cX0_give 237 = .ok (.iload 7, 2) := dk_21 7 (dk_at dksX0_give_10 0 rfl rfl)
theorem dX0_give_239 : decode cX0_give 239 = .ok (.iastore, 1) := dk_79 (dk_at dksX0_give_10 2 rfl rfl)
theorem dX0_give_240 : decode cX0_give 240 = .ok (.iload_n 2, 1) := dk_28 (dk_at dksX0_give_10 3 rfl rfl)
theorem dX0_give_241 : decode cX0_give 241 = .ok (.iconst (-1), 1) := dk_2 (dk_at dksX0_give_10 4 rfl rfl)
theorem dX0_give_242 : decode cX0_give 242 = .ok (.if_icmp .ne 8, 3) := dk_160 0 8 (dk_at dksX0_give_10 5 rfl rfl)
theorem dX0_give_245 : decode cX0_give 245 = .ok (.iload 9, 2) := dk_21 9 (dk_at dksX0_give_10 8 rfl rfl)
theorem dX0_give_247 : decode cX0_give 247 = .ok (.goto 28, 3) := dk_167 0 28 (dk_at dksX0_give_10 10 rfl rfl)
theorem dX0_give_250 : decode cX0_give 250 = .ok (.aload_n 0, 1) := dk_42 (dk_at dksX0_give_10 13 rfl rfl)
theorem dX0_give_251 : decode cX0_give 251 = .ok (.getfield 10, 3) := dk_180 0 10 (dk_at dksX0_give_10 14 rfl rfl)
theorem dX0_give_254 : decode cX0_give 254 = .ok (.getfield 299, 3) := dk_180 1 43 (dk_at dksX0_give_10 17 rfl rfl)
theorem dX0_give_257 : decode cX0_give 257 = .ok (.iload_n 2, 1) := dk_28 (dk_at dksX0_give_10 20 rfl rfl)
theorem dX0_give_258 : decode cX0_give 258 = .ok (.iload 4, 2) := dk_21 4 (dk_at dksX0_give_10 21 rfl rfl)
theorem dX0_give_260 : decode cX0_give 260 = .ok (.if_icmp .ne 10, 3) := dk_160 0 10 (dk_at dksX0_give_11 0 rfl rfl)
theorem dX0_give_263 : decode cX0_give 263 = .ok (.iload 8, 2) := dk_21 8 (dk_at dksX0_give_11 3 rfl rfl)
theorem dX0_give_265 : decode cX0_give 265 = .ok (.iload_n 3, 1) := dk_29 (dk_at dksX0_give_11 5 rfl rfl)
theorem dX0_give_266 : decode cX0_give 266 = .ok (.idiv, 1) := dk_108 (dk_at dksX0_give_11 6 rfl rfl)
theorem dX0_give_267 : decode cX0_give 267 = .ok (.goto 7, 3) := dk_167 0 7 (dk_at dksX0_give_11 7 rfl rfl)
theorem dX0_give_270 : decode cX0_give 270 = .ok (.iload 8, 2) := dk_21 8 (dk_at dksX0_give_11 10 rfl rfl)
theorem dX0_give_272 : decode cX0_give 272 = .ok (.iload_n 3, 1) := dk_29 (dk_at dksX0_give_11 12 rfl rfl)
theorem dX0_give_273 : decode cX0_give 273 = .ok (.irem, 1) := dk_112 (dk_at dksX0_give_11 13 rfl rfl)
theorem dX0_give_274 : decode cX0_give 274 = .ok (.iaload, 1) := dk_46 (dk_at dksX0_give_11 14 rfl rfl)
theorem dX0_give_275 : decode cX0_give 275 = .ok (.ireturn, 1) := dk_172 (dk_at dksX0_give_11 15 rfl rfl)
abbrev cX0_mend : ByteArray := prog_1_method_61_code
def yX0_mend : MethodName := ⟨RX0, "mend", "(I)I"⟩
def dkwX0_mend_7 : List UInt8 := [160, 0, 18, 42, 180, 0, 10, 180, 1, 43, 28, 16, 6, 112, 46, 167, 0, 4, 29, 172]
abbrev dktX0_mend_7 : List UInt8 := dkwX0_mend_7 ++ []
def dkwX0_mend_6 : List UInt8 := [28, 2, 160, 0, 9, 19, 1, 73, 167, 0, 35, 27, 154, 0, 10, 28, 16, 6, 108, 167, 0, 24, 27, 4]
abbrev dktX0_mend_6 : List UInt8 := dkwX0_mend_6 ++ dktX0_mend_7
def dkwX0_mend_5 : List UInt8 := [132, 6, 1, 167, 255, 191, 42, 180, 0, 10, 180, 0, 86, 21, 4, 21, 5, 79, 132, 4, 1, 167, 255, 144]
abbrev dktX0_mend_5 : List UInt8 := dkwX0_mend_5 ++ dktX0_mend_6
def dkwX0_mend_4 : List UInt8 := [54, 7, 21, 7, 29, 163, 0, 6, 167, 0, 15, 16, 6, 21, 4, 104, 21, 6, 96, 61, 21, 7, 62]
abbrev dktX0_mend_4 : List UInt8 := dkwX0_mend_4 ++ dktX0_mend_5
def dkwX0_mend_3 : List UInt8 := [180, 0, 10, 180, 0, 86, 21, 4, 42, 180, 0, 10, 180, 1, 43, 21, 6, 46, 79, 42, 182, 1, 70]
abbrev dktX0_mend_3 : List UInt8 := dkwX0_mend_3 ++ dktX0_mend_4
def dkwX0_mend_2 : List UInt8 := [21, 4, 46, 54, 5, 3, 54, 6, 21, 6, 42, 180, 0, 10, 180, 0, 64, 16, 6, 46, 162, 0, 56, 42]
abbrev dktX0_mend_2 : List UInt8 := dkwX0_mend_2 ++ dktX0_mend_3
def dkwX0_mend_1 : List UInt8 := [54, 4, 21, 4, 42, 180, 0, 10, 180, 0, 64, 3, 46, 162, 0, 104, 42, 180, 0, 10, 180, 0, 86]
abbrev dktX0_mend_1 : List UInt8 := dkwX0_mend_1 ++ dktX0_mend_2
def dkwX0_mend_0 : List UInt8 := [27, 133, 9, 20, 0, 98, 184, 0, 67, 154, 0, 7, 19, 1, 73, 172, 2, 61, 42, 182, 1, 70, 62, 3]
abbrev dktX0_mend_0 : List UInt8 := dkwX0_mend_0 ++ dktX0_mend_1
theorem dksX0_mend_0 : cX0_mend.data.toList.drop 0 = dktX0_mend_0 := by decide +kernel
theorem dksX0_mend_1 : cX0_mend.data.toList.drop 24 = dktX0_mend_1 := dk_seg dksX0_mend_0 24 rfl rfl
theorem dksX0_mend_2 : cX0_mend.data.toList.drop 47 = dktX0_mend_2 := dk_seg dksX0_mend_1 23 rfl rfl
theorem dksX0_mend_3 : cX0_mend.data.toList.drop 71 = dktX0_mend_3 := dk_seg dksX0_mend_2 24 rfl rfl
theorem dksX0_mend_4 : cX0_mend.data.toList.drop 94 = dktX0_mend_4 := dk_seg dksX0_mend_3 23 rfl rfl
theorem dksX0_mend_5 : cX0_mend.data.toList.drop 117 = dktX0_mend_5 := dk_seg dksX0_mend_4 23 rfl rfl
theorem dksX0_mend_6 : cX0_mend.data.toList.drop 141 = dktX0_mend_6 := dk_seg dksX0_mend_5 24 rfl rfl
theorem dksX0_mend_7 : cX0_mend.data.toList.drop 165 = dktX0_mend_7 := dk_seg dksX0_mend_6 24 rfl rfl
theorem dX0_mend_0 : decode cX0_mend 0 = .ok (.iload_n 1, 1) := dk_27 (dk_at dksX0_mend_0 0 rfl rfl)
theorem dX0_mend_1 : decode cX0_mend 1 = .ok (.i2l, 1) := dk_133 (dk_at dksX0_mend_0 1 rfl rfl)
theorem dX0_mend_2 : decode cX0_mend 2 = .ok (.lconst 0, 1) := dk_9 (dk_at dksX0_mend_0 2 rfl rfl)
theorem dX0_mend_3 : decode cX0_mend 3 = .ok (.ldc2_w 98, 3) := dk_20 0 98 (dk_at dksX0_mend_0 3 rfl rfl)
theorem dX0_mend_6 : decode cX0_mend 6 = .ok (.invokestatic 67, 3) := dk_184 0 67 (dk_at dksX0_mend_0 6 rfl rfl)
theorem dX0_mend_9 : decode cX0_mend 9 = .ok (.ifCond .ne 7, 3) := dk_154 0 7 (dk_at dksX0_mend_0 9 rfl rfl)
theorem dX0_mend_12 : decode cX0_mend 12 = .ok (.ldc_w 329, 3) := dk_19 1 73 (dk_at dksX0_mend_0 12 rfl rfl)
theorem dX0_mend_15 : decode cX0_mend 15 = .ok (.ireturn, 1) := dk_172 (dk_at dksX0_mend_0 15 rfl rfl)
theorem dX0_mend_16 : decode cX0_mend 16 = .ok (.iconst (-1), 1) := dk_2 (dk_at dksX0_mend_0 16 rfl rfl)
theorem dX0_mend_17 : decode cX0_mend 17 = .ok (.istore_n 2, 1) := dk_61 (dk_at dksX0_mend_0 17 rfl rfl)
theorem dX0_mend_18 : decode cX0_mend 18 = .ok (.aload_n 0, 1) := dk_42 (dk_at dksX0_mend_0 18 rfl rfl)
theorem dX0_mend_19 : decode cX0_mend 19 = .ok (.invokevirtual 326, 3) := dk_182 1 70 (dk_at dksX0_mend_0 19 rfl rfl)
theorem dX0_mend_22 : decode cX0_mend 22 = .ok (.istore_n 3, 1) := dk_62 (dk_at dksX0_mend_0 22 rfl rfl)
theorem dX0_mend_23 : decode cX0_mend 23 = .ok (.iconst 0, 1) := dk_3 (dk_at dksX0_mend_0 23 rfl rfl)
theorem dX0_mend_24 : decode cX0_mend 24 = .ok (.istore 4, 2) := dk_54 4 (dk_at dksX0_mend_1 0 rfl rfl)
theorem dX0_mend_26 : decode cX0_mend 26 = .ok (.iload 4, 2) := dk_21 4 (dk_at dksX0_mend_1 2 rfl rfl)
theorem dX0_mend_28 : decode cX0_mend 28 = .ok (.aload_n 0, 1) := dk_42 (dk_at dksX0_mend_1 4 rfl rfl)
theorem dX0_mend_29 : decode cX0_mend 29 = .ok (.getfield 10, 3) := dk_180 0 10 (dk_at dksX0_mend_1 5 rfl rfl)
theorem dX0_mend_32 : decode cX0_mend 32 = .ok (.getfield 64, 3) := dk_180 0 64 (dk_at dksX0_mend_1 8 rfl rfl)
theorem dX0_mend_35 : decode cX0_mend 35 = .ok (.iconst 0, 1) := dk_3 (dk_at dksX0_mend_1 11 rfl rfl)
theorem dX0_mend_36 : decode cX0_mend 36 = .ok (.iaload, 1) := dk_46 (dk_at dksX0_mend_1 12 rfl rfl)
theorem dX0_mend_37 : decode cX0_mend 37 = .ok (.if_icmp .ge 104, 3) := dk_162 0 104 (dk_at dksX0_mend_1 13 rfl rfl)
theorem dX0_mend_40 : decode cX0_mend 40 = .ok (.aload_n 0, 1) := dk_42 (dk_at dksX0_mend_1 16 rfl rfl)
theorem dX0_mend_41 : decode cX0_mend 41 = .ok (.getfield 10, 3) := dk_180 0 10 (dk_at dksX0_mend_1 17 rfl rfl)
theorem dX0_mend_44 : decode cX0_mend 44 = .ok (.getfield 86, 3) := dk_180 0 86 (dk_at dksX0_mend_1 20 rfl rfl)
theorem dX0_mend_47 : decode cX0_mend 47 = .ok (.iload 4, 2) := dk_21 4 (dk_at dksX0_mend_2 0 rfl rfl)
theorem dX0_mend_49 : decode cX0_mend 49 = .ok (.iaload, 1) := dk_46 (dk_at dksX0_mend_2 2 rfl rfl)
theorem dX0_mend_50 : decode cX0_mend 50 = .ok (.istore 5, 2) := dk_54 5 (dk_at dksX0_mend_2 3 rfl rfl)
theorem dX0_mend_52 : decode cX0_mend 52 = .ok (.iconst 0, 1) := dk_3 (dk_at dksX0_mend_2 5 rfl rfl)
theorem dX0_mend_53 : decode cX0_mend 53 = .ok (.istore 6, 2) := dk_54 6 (dk_at dksX0_mend_2 6 rfl rfl)
theorem dX0_mend_55 : decode cX0_mend 55 = .ok (.iload 6, 2) := dk_21 6 (dk_at dksX0_mend_2 8 rfl rfl)
theorem dX0_mend_57 : decode cX0_mend 57 = .ok (.aload_n 0, 1) := dk_42 (dk_at dksX0_mend_2 10 rfl rfl)
theorem dX0_mend_58 : decode cX0_mend 58 = .ok (.getfield 10, 3) := dk_180 0 10 (dk_at dksX0_mend_2 11 rfl rfl)
theorem dX0_mend_61 : decode cX0_mend 61 = .ok (.getfield 64, 3) := dk_180 0 64 (dk_at dksX0_mend_2 14 rfl rfl)
theorem dX0_mend_64 : decode cX0_mend 64 = .ok (.bipush 6, 2) := dk_16 6 (dk_at dksX0_mend_2 17 rfl rfl)
theorem dX0_mend_66 : decode cX0_mend 66 = .ok (.iaload, 1) := dk_46 (dk_at dksX0_mend_2 19 rfl rfl)
theorem dX0_mend_67 : decode cX0_mend 67 = .ok (.if_icmp .ge 56, 3) := dk_162 0 56 (dk_at dksX0_mend_2 20 rfl rfl)
theorem dX0_mend_70 : decode cX0_mend 70 = .ok (.aload_n 0, 1) := dk_42 (dk_at dksX0_mend_2 23 rfl rfl)
theorem dX0_mend_71 : decode cX0_mend 71 = .ok (.getfield 10, 3) := dk_180 0 10 (dk_at dksX0_mend_3 0 rfl rfl)
theorem dX0_mend_74 : decode cX0_mend 74 = .ok (.getfield 86, 3) := dk_180 0 86 (dk_at dksX0_mend_3 3 rfl rfl)
theorem dX0_mend_77 : decode cX0_mend 77 = .ok (.iload 4, 2) := dk_21 4 (dk_at dksX0_mend_3 6 rfl rfl)
theorem dX0_mend_79 : decode cX0_mend 79 = .ok (.aload_n 0, 1) := dk_42 (dk_at dksX0_mend_3 8 rfl rfl)
theorem dX0_mend_80 : decode cX0_mend 80 = .ok (.getfield 10, 3) := dk_180 0 10 (dk_at dksX0_mend_3 9 rfl rfl)
theorem dX0_mend_83 : decode cX0_mend 83 = .ok (.getfield 299, 3) := dk_180 1 43 (dk_at dksX0_mend_3 12 rfl rfl)
theorem dX0_mend_86 : decode cX0_mend 86 = .ok (.iload 6, 2) := dk_21 6 (dk_at dksX0_mend_3 15 rfl rfl)
theorem dX0_mend_88 : decode cX0_mend 88 = .ok (.iaload, 1) := dk_46 (dk_at dksX0_mend_3 17 rfl rfl)
theorem dX0_mend_89 : decode cX0_mend 89 = .ok (.iastore, 1) := dk_79 (dk_at dksX0_mend_3 18 rfl rfl)
theorem dX0_mend_90 : decode cX0_mend 90 = .ok (.aload_n 0, 1) := dk_42 (dk_at dksX0_mend_3 19 rfl rfl)
theorem dX0_mend_91 : decode cX0_mend 91 = .ok (.invokevirtual 326, 3) := dk_182 1 70 (dk_at dksX0_mend_3 20 rfl rfl)
theorem dX0_mend_94 : decode cX0_mend 94 = .ok (.istore 7, 2) := dk_54 7 (dk_at dksX0_mend_4 0 rfl rfl)
theorem dX0_mend_96 : decode cX0_mend 96 = .ok (.iload 7, 2) := dk_21 7 (dk_at dksX0_mend_4 2 rfl rfl)
theorem dX0_mend_98 : decode cX0_mend 98 = .ok (.iload_n 3, 1) := dk_29 (dk_at dksX0_mend_4 4 rfl rfl)
theorem dX0_mend_99 : decode cX0_mend 99 = .ok (.if_icmp .gt 6, 3) := dk_163 0 6 (dk_at dksX0_mend_4 5 rfl rfl)
theorem dX0_mend_102 : decode cX0_mend 102 = .ok (.goto 15, 3) := dk_167 0 15 (dk_at dksX0_mend_4 8 rfl rfl)
theorem dX0_mend_105 : decode cX0_mend 105 = .ok (.bipush 6, 2) := dk_16 6 (dk_at dksX0_mend_4 11 rfl rfl)
theorem dX0_mend_107 : decode cX0_mend 107 = .ok (.iload 4, 2) := dk_21 4 (dk_at dksX0_mend_4 13 rfl rfl)
theorem dX0_mend_109 : decode cX0_mend 109 = .ok (.imul, 1) := dk_104 (dk_at dksX0_mend_4 15 rfl rfl)
theorem dX0_mend_110 : decode cX0_mend 110 = .ok (.iload 6, 2) := dk_21 6 (dk_at dksX0_mend_4 16 rfl rfl)
theorem dX0_mend_112 : decode cX0_mend 112 = .ok (.iadd, 1) := dk_96 (dk_at dksX0_mend_4 18 rfl rfl)
theorem dX0_mend_113 : decode cX0_mend 113 = .ok (.istore_n 2, 1) := dk_61 (dk_at dksX0_mend_4 19 rfl rfl)
theorem dX0_mend_114 : decode cX0_mend 114 = .ok (.iload 7, 2) := dk_21 7 (dk_at dksX0_mend_4 20 rfl rfl)
theorem dX0_mend_116 : decode cX0_mend 116 = .ok (.istore_n 3, 1) := dk_62 (dk_at dksX0_mend_4 22 rfl rfl)
theorem dX0_mend_117 : decode cX0_mend 117 = .ok (.iinc 6 1, 3) := dk_132 6 1 (dk_at dksX0_mend_5 0 rfl rfl)
theorem dX0_mend_120 : decode cX0_mend 120 = .ok (.goto (-65), 3) := dk_167 255 191 (dk_at dksX0_mend_5 3 rfl rfl)
theorem dX0_mend_123 : decode cX0_mend 123 = .ok (.aload_n 0, 1) := dk_42 (dk_at dksX0_mend_5 6 rfl rfl)
theorem dX0_mend_124 : decode cX0_mend 124 = .ok (.getfield 10, 3) := dk_180 0 10 (dk_at dksX0_mend_5 7 rfl rfl)
theorem dX0_mend_127 : decode cX0_mend 127 = .ok (.getfield 86, 3) := dk_180 0 86 (dk_at dksX0_mend_5 10 rfl rfl)
theorem dX0_mend_130 : decode cX0_mend 130 = .ok (.iload 4, 2) := dk_21 4 (dk_at dksX0_mend_5 13 rfl rfl)
theorem dX0_mend_132 : decode cX0_mend 132 = .ok (.iload 5, 2) := dk_21 5 (dk_at dksX0_mend_5 15 rfl rfl)
theorem dX0_mend_134 : decode cX0_mend 134 = .ok (.iastore, 1) := dk_79 (dk_at dksX0_mend_5 17 rfl rfl)
theorem dX0_mend_135 : decode cX0_mend 135 = .ok (.iinc 4 1, 3) := dk_132 4 1 (dk_at dksX0_mend_5 18 rfl rfl)
theorem dX0_mend_138 : decode cX0_mend 138 = .ok (.goto (-112), 3) := dk_167 255 144 (dk_at dksX0_mend_5 21 rfl rfl)
theorem dX0_mend_141 : decode cX0_mend 141 = .ok (.iload_n 2, 1) := dk_28 (dk_at dksX0_mend_6 0 rfl rfl)
theorem dX0_mend_142 : decode cX0_mend 142 = .ok (.iconst (-1), 1) := dk_2 (dk_at dksX0_mend_6 1 rfl rfl)
theorem dX0_mend_143 : decode cX0_mend 143 = .ok (.if_icmp .ne 9, 3) := dk_160 0 9 (dk_at dksX0_mend_6 2 rfl rfl)
theorem dX0_mend_146 : decode cX0_mend 146 = .ok (.ldc_w 329, 3) := dk_19 1 73 (dk_at dksX0_mend_6 5 rfl rfl)
theorem dX0_mend_149 : decode cX0_mend 149 = .ok (.goto 35, 3) := dk_167 0 35 (dk_at dksX0_mend_6 8 rfl rfl)
theorem dX0_mend_152 : decode cX0_mend 152 = .ok (.iload_n 1, 1) := dk_27 (dk_at dksX0_mend_6 11 rfl rfl)
theorem dX0_mend_153 : decode cX0_mend 153 = .ok (.ifCond .ne 10, 3) := dk_154 0 10 (dk_at dksX0_mend_6 12 rfl rfl)
theorem dX0_mend_156 : decode cX0_mend 156 = .ok (.iload_n 2, 1) := dk_28 (dk_at dksX0_mend_6 15 rfl rfl)
theorem dX0_mend_157 : decode cX0_mend 157 = .ok (.bipush 6, 2) := dk_16 6 (dk_at dksX0_mend_6 16 rfl rfl)
theorem dX0_mend_159 : decode cX0_mend 159 = .ok (.idiv, 1) := dk_108 (dk_at dksX0_mend_6 18 rfl rfl)
theorem dX0_mend_160 : decode cX0_mend 160 = .ok (.goto 24, 3) := dk_167 0 24 (dk_at dksX0_mend_6 19 rfl rfl)
theorem dX0_mend_163 : decode cX0_mend 163 = .ok (.iload_n 1, 1) := dk_27 (dk_at dksX0_mend_6 22 rfl rfl)
theorem dX0_mend_164 : decode cX0_mend 164 = .ok (.iconst 1, 1) := dk_4 (dk_at dksX0_mend_6 23 rfl rfl)
theorem dX0_mend_165 : decode cX0_mend 165 = .ok (.if_icmp .ne 18, 3) := dk_160 0 18 (dk_at dksX0_mend_7 0 rfl rfl)
theorem dX0_mend_168 : decode cX0_mend 168 = .ok (.aload_n 0, 1) := dk_42 (dk_at dksX0_mend_7 3 rfl rfl)
theorem dX0_mend_169 : decode cX0_mend 169 = .ok (.getfield 10, 3) := dk_180 0 10 (dk_at dksX0_mend_7 4 rfl rfl)
theorem dX0_mend_172 : decode cX0_mend 172 = .ok (.getfield 299, 3) := dk_180 1 43 (dk_at dksX0_mend_7 7 rfl rfl)
theorem dX0_mend_175 : decode cX0_mend 175 = .ok (.iload_n 2, 1) := dk_28 (dk_at dksX0_mend_7 10 rfl rfl)
theorem dX0_mend_176 : decode cX0_mend 176 = .ok (.bipush 6, 2) := dk_16 6 (dk_at dksX0_mend_7 11 rfl rfl)
theorem dX0_mend_178 : decode cX0_mend 178 = .ok (.irem, 1) := dk_112 (dk_at dksX0_mend_7 13 rfl rfl)
theorem dX0_mend_179 : decode cX0_mend 179 = .ok (.iaload, 1) := dk_46 (dk_at dksX0_mend_7 14 rfl rfl)
theorem dX0_mend_180 : decode cX0_mend 180 = .ok (.goto 4, 3) := dk_167 0 4 (dk_at dksX0_mend_7 15 rfl rfl)
theorem dX0_mend_183 : decode cX0_mend 183 = .ok (.iload_n 3, 1) := dk_29 (dk_at dksX0_mend_7 18 rfl rfl)
theorem dX0_mend_184 : decode cX0_mend 184 = .ok (.ireturn, 1) := dk_172 (dk_at dksX0_mend_7 19 rfl rfl)
abbrev cX0_cover : ByteArray := prog_1_method_63_code
def yX0_cover : MethodName := ⟨RX0, "cover", "()I"⟩
def dkwX0_cover_6 : List UInt8 := [28, 172]
abbrev dktX0_cover_6 : List UInt8 := dkwX0_cover_6 ++ []
def dkwX0_cover_5 : List UInt8 := [132, 4, 1, 167, 255, 235, 21, 4, 27, 160, 0, 7, 29, 167, 0, 4, 28, 61, 132, 3, 1, 167, 255, 180]
abbrev dktX0_cover_5 : List UInt8 := dkwX0_cover_5 ++ dktX0_cover_6
def dkwX0_cover_4 : List UInt8 := [167, 0, 42, 3, 54, 4, 21, 4, 27, 162, 0, 21, 42, 180, 0, 45, 21, 4, 46, 29, 126, 153, 0, 9]
abbrev dktX0_cover_4 : List UInt8 := dkwX0_cover_4 ++ dktX0_cover_5
def dkwX0_cover_3 : List UInt8 := [3, 46, 120, 162, 0, 67, 28, 2, 159, 0, 17, 29, 184, 1, 2, 28, 184, 1, 2, 161, 0, 6]
abbrev dktX0_cover_3 : List UInt8 := dkwX0_cover_3 ++ dktX0_cover_4
def dkwX0_cover_2 : List UInt8 := [133, 182, 0, 254, 79, 132, 2, 1, 167, 255, 232, 2, 61, 4, 62, 29, 4, 42, 180, 0, 10, 180, 0, 64]
abbrev dktX0_cover_2 : List UInt8 := dkwX0_cover_2 ++ dktX0_cover_3
def dkwX0_cover_1 : List UInt8 := [160, 0, 6, 16, 254, 172, 3, 61, 28, 27, 162, 0, 25, 42, 180, 0, 45, 28, 42, 17, 39, 16, 28, 96]
abbrev dktX0_cover_1 : List UInt8 := dkwX0_cover_1 ++ dktX0_cover_2
def dkwX0_cover_0 : List UInt8 := [42, 182, 1, 79, 60, 42, 180, 0, 10, 180, 0, 64, 3, 46, 154, 0, 5, 2, 172, 27, 16, 254]
abbrev dktX0_cover_0 : List UInt8 := dkwX0_cover_0 ++ dktX0_cover_1
theorem dksX0_cover_0 : cX0_cover.data.toList.drop 0 = dktX0_cover_0 := by decide +kernel
theorem dksX0_cover_1 : cX0_cover.data.toList.drop 22 = dktX0_cover_1 := dk_seg dksX0_cover_0 22 rfl rfl
theorem dksX0_cover_2 : cX0_cover.data.toList.drop 46 = dktX0_cover_2 := dk_seg dksX0_cover_1 24 rfl rfl
theorem dksX0_cover_3 : cX0_cover.data.toList.drop 70 = dktX0_cover_3 := dk_seg dksX0_cover_2 24 rfl rfl
theorem dksX0_cover_4 : cX0_cover.data.toList.drop 92 = dktX0_cover_4 := dk_seg dksX0_cover_3 22 rfl rfl
theorem dksX0_cover_5 : cX0_cover.data.toList.drop 116 = dktX0_cover_5 := dk_seg dksX0_cover_4 24 rfl rfl
theorem dksX0_cover_6 : cX0_cover.data.toList.drop 140 = dktX0_cover_6 := dk_seg dksX0_cover_5 24 rfl rfl
theorem dX0_cover_0 : decode cX0_cover 0 = .ok (.aload_n 0, 1) := dk_42 (dk_at dksX0_cover_0 0 rfl rfl)
theorem dX0_cover_1 : decode cX0_cover 1 = .ok (.invokevirtual 335, 3) := dk_182 1 79 (dk_at dksX0_cover_0 1 rfl rfl)
theorem dX0_cover_4 : decode cX0_cover 4 = .ok (.istore_n 1, 1) := dk_60 (dk_at dksX0_cover_0 4 rfl rfl)
theorem dX0_cover_5 : decode cX0_cover 5 = .ok (.aload_n 0, 1) := dk_42 (dk_at dksX0_cover_0 5 rfl rfl)
theorem dX0_cover_6 : decode cX0_cover 6 = .ok (.getfield 10, 3) := dk_180 0 10 (dk_at dksX0_cover_0 6 rfl rfl)
theorem dX0_cover_9 : decode cX0_cover 9 = .ok (.getfield 64, 3) := dk_180 0 64 (dk_at dksX0_cover_0 9 rfl rfl)
theorem dX0_cover_12 : decode cX0_cover 12 = .ok (.iconst 0, 1) := dk_3 (dk_at dksX0_cover_0 12 rfl rfl)
theorem dX0_cover_13 : decode cX0_cover 13 = .ok (.iaload, 1) := dk_46 (dk_at dksX0_cover_0 13 rfl rfl)
theorem dX0_cover_14 : decode cX0_cover 14 = .ok (.ifCond .ne 5, 3) := dk_154 0 5 (dk_at dksX0_cover_0 14 rfl rfl)
theorem dX0_cover_17 : decode cX0_cover 17 = .ok (.iconst (-1), 1) := dk_2 (dk_at dksX0_cover_0 17 rfl rfl)
theorem dX0_cover_18 : decode cX0_cover 18 = .ok (.ireturn, 1) := dk_172 (dk_at dksX0_cover_0 18 rfl rfl)
theorem dX0_cover_19 : decode cX0_cover 19 = .ok (.iload_n 1, 1) := dk_27 (dk_at dksX0_cover_0 19 rfl rfl)
theorem dX0_cover_20 : decode cX0_cover 20 = .ok (.bipush (-2), 2) := dk_16 254 (dk_at dksX0_cover_0 20 rfl rfl)
theorem dX0_cover_22 : decode cX0_cover 22 = .ok (.if_icmp .ne 6, 3) := dk_160 0 6 (dk_at dksX0_cover_1 0 rfl rfl)
theorem dX0_cover_25 : decode cX0_cover 25 = .ok (.bipush (-2), 2) := dk_16 254 (dk_at dksX0_cover_1 3 rfl rfl)
theorem dX0_cover_27 : decode cX0_cover 27 = .ok (.ireturn, 1) := dk_172 (dk_at dksX0_cover_1 5 rfl rfl)
theorem dX0_cover_28 : decode cX0_cover 28 = .ok (.iconst 0, 1) := dk_3 (dk_at dksX0_cover_1 6 rfl rfl)
theorem dX0_cover_29 : decode cX0_cover 29 = .ok (.istore_n 2, 1) := dk_61 (dk_at dksX0_cover_1 7 rfl rfl)
theorem dX0_cover_30 : decode cX0_cover 30 = .ok (.iload_n 2, 1) := dk_28 (dk_at dksX0_cover_1 8 rfl rfl)
theorem dX0_cover_31 : decode cX0_cover 31 = .ok (.iload_n 1, 1) := dk_27 (dk_at dksX0_cover_1 9 rfl rfl)
theorem dX0_cover_32 : decode cX0_cover 32 = .ok (.if_icmp .ge 25, 3) := dk_162 0 25 (dk_at dksX0_cover_1 10 rfl rfl)
theorem dX0_cover_35 : decode cX0_cover 35 = .ok (.aload_n 0, 1) := dk_42 (dk_at dksX0_cover_1 13 rfl rfl)
theorem dX0_cover_36 : decode cX0_cover 36 = .ok (.getfield 45, 3) := dk_180 0 45 (dk_at dksX0_cover_1 14 rfl rfl)
theorem dX0_cover_39 : decode cX0_cover 39 = .ok (.iload_n 2, 1) := dk_28 (dk_at dksX0_cover_1 17 rfl rfl)
theorem dX0_cover_40 : decode cX0_cover 40 = .ok (.aload_n 0, 1) := dk_42 (dk_at dksX0_cover_1 18 rfl rfl)
theorem dX0_cover_41 : decode cX0_cover 41 = .ok (.sipush 10000, 3) := dk_17 39 16 (dk_at dksX0_cover_1 19 rfl rfl)
theorem dX0_cover_44 : decode cX0_cover 44 = .ok (.iload_n 2, 1) := dk_28 (dk_at dksX0_cover_1 22 rfl rfl)
theorem dX0_cover_45 : decode cX0_cover 45 = .ok (.iadd, 1) := dk_96 (dk_at dksX0_cover_1 23 rfl rfl)
theorem dX0_cover_46 : decode cX0_cover 46 = .ok (.i2l, 1) := dk_133 (dk_at dksX0_cover_2 0 rfl rfl)
theorem dX0_cover_47 : decode cX0_cover 47 = .ok (.invokevirtual 254, 3) := dk_182 0 254 (dk_at dksX0_cover_2 1 rfl rfl)
theorem dX0_cover_50 : decode cX0_cover 50 = .ok (.iastore, 1) := dk_79 (dk_at dksX0_cover_2 4 rfl rfl)
theorem dX0_cover_51 : decode cX0_cover 51 = .ok (.iinc 2 1, 3) := dk_132 2 1 (dk_at dksX0_cover_2 5 rfl rfl)
theorem dX0_cover_54 : decode cX0_cover 54 = .ok (.goto (-24), 3) := dk_167 255 232 (dk_at dksX0_cover_2 8 rfl rfl)
theorem dX0_cover_57 : decode cX0_cover 57 = .ok (.iconst (-1), 1) := dk_2 (dk_at dksX0_cover_2 11 rfl rfl)
theorem dX0_cover_58 : decode cX0_cover 58 = .ok (.istore_n 2, 1) := dk_61 (dk_at dksX0_cover_2 12 rfl rfl)
theorem dX0_cover_59 : decode cX0_cover 59 = .ok (.iconst 1, 1) := dk_4 (dk_at dksX0_cover_2 13 rfl rfl)
theorem dX0_cover_60 : decode cX0_cover 60 = .ok (.istore_n 3, 1) := dk_62 (dk_at dksX0_cover_2 14 rfl rfl)
theorem dX0_cover_61 : decode cX0_cover 61 = .ok (.iload_n 3, 1) := dk_29 (dk_at dksX0_cover_2 15 rfl rfl)
theorem dX0_cover_62 : decode cX0_cover 62 = .ok (.iconst 1, 1) := dk_4 (dk_at dksX0_cover_2 16 rfl rfl)
theorem dX0_cover_63 : decode cX0_cover 63 = .ok (.aload_n 0, 1) := dk_42 (dk_at dksX0_cover_2 17 rfl rfl)
theorem dX0_cover_64 : decode cX0_cover 64 = .ok (.getfield 10, 3) := dk_180 0 10 (dk_at dksX0_cover_2 18 rfl rfl)
theorem dX0_cover_67 : decode cX0_cover 67 = .ok (.getfield 64, 3) := dk_180 0 64 (dk_at dksX0_cover_2 21 rfl rfl)
theorem dX0_cover_70 : decode cX0_cover 70 = .ok (.iconst 0, 1) := dk_3 (dk_at dksX0_cover_3 0 rfl rfl)
theorem dX0_cover_71 : decode cX0_cover 71 = .ok (.iaload, 1) := dk_46 (dk_at dksX0_cover_3 1 rfl rfl)
theorem dX0_cover_72 : decode cX0_cover 72 = .ok (.ishl, 1) := dk_120 (dk_at dksX0_cover_3 2 rfl rfl)
theorem dX0_cover_73 : decode cX0_cover 73 = .ok (.if_icmp .ge 67, 3) := dk_162 0 67 (dk_at dksX0_cover_3 3 rfl rfl)
theorem dX0_cover_76 : decode cX0_cover 76 = .ok (.iload_n 2, 1) := dk_28 (dk_at dksX0_cover_3 6 rfl rfl)
theorem dX0_cover_77 : decode cX0_cover 77 = .ok (.iconst (-1), 1) := dk_2 (dk_at dksX0_cover_3 7 rfl rfl)
theorem dX0_cover_78 : decode cX0_cover 78 = .ok (.if_icmp .eq 17, 3) := dk_159 0 17 (dk_at dksX0_cover_3 8 rfl rfl)
theorem dX0_cover_81 : decode cX0_cover 81 = .ok (.iload_n 3, 1) := dk_29 (dk_at dksX0_cover_3 11 rfl rfl)
theorem dX0_cover_82 : decode cX0_cover 82 = .ok (.invokestatic 258, 3) := dk_184 1 2 (dk_at dksX0_cover_3 12 rfl rfl)
theorem dX0_cover_85 : decode cX0_cover 85 = .ok (.iload_n 2, 1) := dk_28 (dk_at dksX0_cover_3 15 rfl rfl)
theorem dX0_cover_86 : decode cX0_cover 86 = .ok (.invokestatic 258, 3) := dk_184 1 2 (dk_at dksX0_cover_3 16 rfl rfl)
theorem dX0_cover_89 : decode cX0_cover 89 = .ok (.if_icmp .lt 6, 3) := dk_161 0 6 (dk_at dksX0_cover_3 19 rfl rfl)
theorem dX0_cover_92 : decode cX0_cover 92 = .ok (.goto 42, 3) := dk_167 0 42 (dk_at dksX0_cover_4 0 rfl rfl)
theorem dX0_cover_95 : decode cX0_cover 95 = .ok (.iconst 0, 1) := dk_3 (dk_at dksX0_cover_4 3 rfl rfl)
theorem dX0_cover_96 : decode cX0_cover 96 = .ok (.istore 4, 2) := dk_54 4 (dk_at dksX0_cover_4 4 rfl rfl)
theorem dX0_cover_98 : decode cX0_cover 98 = .ok (.iload 4, 2) := dk_21 4 (dk_at dksX0_cover_4 6 rfl rfl)
theorem dX0_cover_100 : decode cX0_cover 100 = .ok (.iload_n 1, 1) := dk_27 (dk_at dksX0_cover_4 8 rfl rfl)
theorem dX0_cover_101 : decode cX0_cover 101 = .ok (.if_icmp .ge 21, 3) := dk_162 0 21 (dk_at dksX0_cover_4 9 rfl rfl)
theorem dX0_cover_104 : decode cX0_cover 104 = .ok (.aload_n 0, 1) := dk_42 (dk_at dksX0_cover_4 12 rfl rfl)
theorem dX0_cover_105 : decode cX0_cover 105 = .ok (.getfield 45, 3) := dk_180 0 45 (dk_at dksX0_cover_4 13 rfl rfl)
theorem dX0_cover_108 : decode cX0_cover 108 = .ok (.iload 4, 2) := dk_21 4 (dk_at dksX0_cover_4 16 rfl rfl)
theorem dX0_cover_110 : decode cX0_cover 110 = .ok (.iaload, 1) := dk_46 (dk_at dksX0_cover_4 18 rfl rfl)
theorem dX0_cover_111 : decode cX0_cover 111 = .ok (.iload_n 3, 1) := dk_29 (dk_at dksX0_cover_4 19 rfl rfl)
theorem dX0_cover_112 : decode cX0_cover 112 = .ok (.iand, 1) := dk_126 (dk_at dksX0_cover_4 20 rfl rfl)
theorem dX0_cover_113 : decode cX0_cover 113 = .ok (.ifCond .eq 9, 3) := dk_153 0 9 (dk_at dksX0_cover_4 21 rfl rfl)
theorem dX0_cover_116 : decode cX0_cover 116 = .ok (.iinc 4 1, 3) := dk_132 4 1 (dk_at dksX0_cover_5 0 rfl rfl)
theorem dX0_cover_119 : decode cX0_cover 119 = .ok (.goto (-21), 3) := dk_167 255 235 (dk_at dksX0_cover_5 3 rfl rfl)
theorem dX0_cover_122 : decode cX0_cover 122 = .ok (.iload 4, 2) := dk_21 4 (dk_at dksX0_cover_5 6 rfl rfl)
theorem dX0_cover_124 : decode cX0_cover 124 = .ok (.iload_n 1, 1) := dk_27 (dk_at dksX0_cover_5 8 rfl rfl)
theorem dX0_cover_125 : decode cX0_cover 125 = .ok (.if_icmp .ne 7, 3) := dk_160 0 7 (dk_at dksX0_cover_5 9 rfl rfl)
theorem dX0_cover_128 : decode cX0_cover 128 = .ok (.iload_n 3, 1) := dk_29 (dk_at dksX0_cover_5 12 rfl rfl)
theorem dX0_cover_129 : decode cX0_cover 129 = .ok (.goto 4, 3) := dk_167 0 4 (dk_at dksX0_cover_5 13 rfl rfl)
theorem dX0_cover_132 : decode cX0_cover 132 = .ok (.iload_n 2, 1) := dk_28 (dk_at dksX0_cover_5 16 rfl rfl)
theorem dX0_cover_133 : decode cX0_cover 133 = .ok (.istore_n 2, 1) := dk_61 (dk_at dksX0_cover_5 17 rfl rfl)
theorem dX0_cover_134 : decode cX0_cover 134 = .ok (.iinc 3 1, 3) := dk_132 3 1 (dk_at dksX0_cover_5 18 rfl rfl)
theorem dX0_cover_137 : decode cX0_cover 137 = .ok (.goto (-76), 3) := dk_167 255 180 (dk_at dksX0_cover_5 21 rfl rfl)
theorem dX0_cover_140 : decode cX0_cover 140 = .ok (.iload_n 2, 1) := dk_28 (dk_at dksX0_cover_6 0 rfl rfl)
theorem dX0_cover_141 : decode cX0_cover 141 = .ok (.ireturn, 1) := dk_172 (dk_at dksX0_cover_6 1 rfl rfl)
abbrev cX0_coverPeriod : ByteArray := prog_1_method_62_code
def yX0_coverPeriod : MethodName := ⟨RX0, "coverPeriod", "()I"⟩
def dkwX0_coverPeriod_4 : List UInt8 := [64, 132, 3, 1, 167, 255, 204, 31, 20, 1, 77, 148, 158, 0, 8, 16, 254, 167, 0, 5, 31, 136, 172]
abbrev dktX0_coverPeriod_4 : List UInt8 := dkwX0_coverPeriod_4 ++ []
def dkwX0_coverPeriod_3 : List UInt8 := [180, 0, 10, 180, 0, 86, 29, 46, 133, 184, 0, 176, 109, 42, 180, 0, 10, 180, 0, 86, 29, 46, 133, 105]
abbrev dktX0_coverPeriod_3 : List UInt8 := dkwX0_coverPeriod_3 ++ dktX0_coverPeriod_4
def dkwX0_coverPeriod_2 : List UInt8 := [180, 0, 10, 180, 0, 64, 3, 46, 162, 0, 45, 31, 20, 1, 77, 148, 157, 0, 37, 31, 31, 42]
abbrev dktX0_coverPeriod_2 : List UInt8 := dkwX0_coverPeriod_2 ++ dktX0_coverPeriod_3
def dkwX0_coverPeriod_1 : List UInt8 := [167, 0, 7, 42, 182, 0, 217, 172, 42, 180, 0, 10, 180, 0, 64, 5, 46, 133, 64, 3, 62, 29, 42]
abbrev dktX0_coverPeriod_1 : List UInt8 := dkwX0_coverPeriod_1 ++ dktX0_coverPeriod_2
def dkwX0_coverPeriod_0 : List UInt8 := [42, 180, 0, 10, 180, 0, 64, 4, 46, 158, 0, 23, 42, 182, 0, 217, 17, 19, 176, 164, 0, 8, 16, 254]
abbrev dktX0_coverPeriod_0 : List UInt8 := dkwX0_coverPeriod_0 ++ dktX0_coverPeriod_1
theorem dksX0_coverPeriod_0 : cX0_coverPeriod.data.toList.drop 0 = dktX0_coverPeriod_0 := by decide +kernel
theorem dksX0_coverPeriod_1 : cX0_coverPeriod.data.toList.drop 24 = dktX0_coverPeriod_1 := dk_seg dksX0_coverPeriod_0 24 rfl rfl
theorem dksX0_coverPeriod_2 : cX0_coverPeriod.data.toList.drop 47 = dktX0_coverPeriod_2 := dk_seg dksX0_coverPeriod_1 23 rfl rfl
theorem dksX0_coverPeriod_3 : cX0_coverPeriod.data.toList.drop 69 = dktX0_coverPeriod_3 := dk_seg dksX0_coverPeriod_2 22 rfl rfl
theorem dksX0_coverPeriod_4 : cX0_coverPeriod.data.toList.drop 93 = dktX0_coverPeriod_4 := dk_seg dksX0_coverPeriod_3 24 rfl rfl
theorem dX0_coverPeriod_0 : decode cX0_coverPeriod 0 = .ok (.aload_n 0, 1) := dk_42 (dk_at dksX0_coverPeriod_0 0 rfl rfl)
theorem dX0_coverPeriod_1 : decode cX0_coverPeriod 1 = .ok (.getfield 10, 3) := dk_180 0 10 (dk_at dksX0_coverPeriod_0 1 rfl rfl)
theorem dX0_coverPeriod_4 : decode cX0_coverPeriod 4 = .ok (.getfield 64, 3) := dk_180 0 64 (dk_at dksX0_coverPeriod_0 4 rfl rfl)
theorem dX0_coverPeriod_7 : decode cX0_coverPeriod 7 = .ok (.iconst 1, 1) := dk_4 (dk_at dksX0_coverPeriod_0 7 rfl rfl)
theorem dX0_coverPeriod_8 : decode cX0_coverPeriod 8 = .ok (.iaload, 1) := dk_46 (dk_at dksX0_coverPeriod_0 8 rfl rfl)
theorem dX0_coverPeriod_9 : decode cX0_coverPeriod 9 = .ok (.ifCond .le 23, 3) := dk_158 0 23 (dk_at dksX0_coverPeriod_0 9 rfl rfl)
theorem dX0_coverPeriod_12 : decode cX0_coverPeriod 12 = .ok (.aload_n 0, 1) := dk_42 (dk_at dksX0_coverPeriod_0 12 rfl rfl)
theorem dX0_coverPeriod_13 : decode cX0_coverPeriod 13 = .ok (.invokevirtual 217, 3) := dk_182 0 217 (dk_at dksX0_coverPeriod_0 13 rfl rfl)
theorem dX0_coverPeriod_16 : decode cX0_coverPeriod 16 = .ok (.sipush 5040, 3) := dk_17 19 176 (dk_at dksX0_coverPeriod_0 16 rfl rfl)
theorem dX0_coverPeriod_19 : decode cX0_coverPeriod 19 = .ok (.if_icmp .le 8, 3) := dk_164 0 8 (dk_at dksX0_coverPeriod_0 19 rfl rfl)
theorem dX0_coverPeriod_22 : decode cX0_coverPeriod 22 = .ok (.bipush (-2), 2) := dk_16 254 (dk_at dksX0_coverPeriod_0 22 rfl rfl)
theorem dX0_coverPeriod_24 : decode cX0_coverPeriod 24 = .ok (.goto 7, 3) := dk_167 0 7 (dk_at dksX0_coverPeriod_1 0 rfl rfl)
theorem dX0_coverPeriod_27 : decode cX0_coverPeriod 27 = .ok (.aload_n 0, 1) := dk_42 (dk_at dksX0_coverPeriod_1 3 rfl rfl)
theorem dX0_coverPeriod_28 : decode cX0_coverPeriod 28 = .ok (.invokevirtual 217, 3) := dk_182 0 217 (dk_at dksX0_coverPeriod_1 4 rfl rfl)
theorem dX0_coverPeriod_31 : decode cX0_coverPeriod 31 = .ok (.ireturn, 1) := dk_172 (dk_at dksX0_coverPeriod_1 7 rfl rfl)
theorem dX0_coverPeriod_32 : decode cX0_coverPeriod 32 = .ok (.aload_n 0, 1) := dk_42 (dk_at dksX0_coverPeriod_1 8 rfl rfl)
theorem dX0_coverPeriod_33 : decode cX0_coverPeriod 33 = .ok (.getfield 10, 3) := dk_180 0 10 (dk_at dksX0_coverPeriod_1 9 rfl rfl)
theorem dX0_coverPeriod_36 : decode cX0_coverPeriod 36 = .ok (.getfield 64, 3) := dk_180 0 64 (dk_at dksX0_coverPeriod_1 12 rfl rfl)
theorem dX0_coverPeriod_39 : decode cX0_coverPeriod 39 = .ok (.iconst 2, 1) := dk_5 (dk_at dksX0_coverPeriod_1 15 rfl rfl)
theorem dX0_coverPeriod_40 : decode cX0_coverPeriod 40 = .ok (.iaload, 1) := dk_46 (dk_at dksX0_coverPeriod_1 16 rfl rfl)
theorem dX0_coverPeriod_41 : decode cX0_coverPeriod 41 = .ok (.i2l, 1) := dk_133 (dk_at dksX0_coverPeriod_1 17 rfl rfl)
theorem dX0_coverPeriod_42 : decode cX0_coverPeriod 42 = .ok (.lstore_n 1, 1) := dk_64 (dk_at dksX0_coverPeriod_1 18 rfl rfl)
theorem dX0_coverPeriod_43 : decode cX0_coverPeriod 43 = .ok (.iconst 0, 1) := dk_3 (dk_at dksX0_coverPeriod_1 19 rfl rfl)
theorem dX0_coverPeriod_44 : decode cX0_coverPeriod 44 = .ok (.istore_n 3, 1) := dk_62 (dk_at dksX0_coverPeriod_1 20 rfl rfl)
theorem dX0_coverPeriod_45 : decode cX0_coverPeriod 45 = .ok (.iload_n 3, 1) := dk_29 (dk_at dksX0_coverPeriod_1 21 rfl rfl)
theorem dX0_coverPeriod_46 : decode cX0_coverPeriod 46 = .ok (.aload_n 0, 1) := dk_42 (dk_at dksX0_coverPeriod_1 22 rfl rfl)
theorem dX0_coverPeriod_47 : decode cX0_coverPeriod 47 = .ok (.getfield 10, 3) := dk_180 0 10 (dk_at dksX0_coverPeriod_2 0 rfl rfl)
theorem dX0_coverPeriod_50 : decode cX0_coverPeriod 50 = .ok (.getfield 64, 3) := dk_180 0 64 (dk_at dksX0_coverPeriod_2 3 rfl rfl)
theorem dX0_coverPeriod_53 : decode cX0_coverPeriod 53 = .ok (.iconst 0, 1) := dk_3 (dk_at dksX0_coverPeriod_2 6 rfl rfl)
theorem dX0_coverPeriod_54 : decode cX0_coverPeriod 54 = .ok (.iaload, 1) := dk_46 (dk_at dksX0_coverPeriod_2 7 rfl rfl)
theorem dX0_coverPeriod_55 : decode cX0_coverPeriod 55 = .ok (.if_icmp .ge 45, 3) := dk_162 0 45 (dk_at dksX0_coverPeriod_2 8 rfl rfl)
theorem dX0_coverPeriod_58 : decode cX0_coverPeriod 58 = .ok (.lload_n 1, 1) := dk_31 (dk_at dksX0_coverPeriod_2 11 rfl rfl)
theorem dX0_coverPeriod_59 : decode cX0_coverPeriod 59 = .ok (.ldc2_w 333, 3) := dk_20 1 77 (dk_at dksX0_coverPeriod_2 12 rfl rfl)
theorem dX0_coverPeriod_62 : decode cX0_coverPeriod 62 = .ok (.lcmp, 1) := dk_148 (dk_at dksX0_coverPeriod_2 15 rfl rfl)
theorem dX0_coverPeriod_63 : decode cX0_coverPeriod 63 = .ok (.ifCond .gt 37, 3) := dk_157 0 37 (dk_at dksX0_coverPeriod_2 16 rfl rfl)
theorem dX0_coverPeriod_66 : decode cX0_coverPeriod 66 = .ok (.lload_n 1, 1) := dk_31 (dk_at dksX0_coverPeriod_2 19 rfl rfl)
theorem dX0_coverPeriod_67 : decode cX0_coverPeriod 67 = .ok (.lload_n 1, 1) := dk_31 (dk_at dksX0_coverPeriod_2 20 rfl rfl)
theorem dX0_coverPeriod_68 : decode cX0_coverPeriod 68 = .ok (.aload_n 0, 1) := dk_42 (dk_at dksX0_coverPeriod_2 21 rfl rfl)
theorem dX0_coverPeriod_69 : decode cX0_coverPeriod 69 = .ok (.getfield 10, 3) := dk_180 0 10 (dk_at dksX0_coverPeriod_3 0 rfl rfl)
theorem dX0_coverPeriod_72 : decode cX0_coverPeriod 72 = .ok (.getfield 86, 3) := dk_180 0 86 (dk_at dksX0_coverPeriod_3 3 rfl rfl)
theorem dX0_coverPeriod_75 : decode cX0_coverPeriod 75 = .ok (.iload_n 3, 1) := dk_29 (dk_at dksX0_coverPeriod_3 6 rfl rfl)
theorem dX0_coverPeriod_76 : decode cX0_coverPeriod 76 = .ok (.iaload, 1) := dk_46 (dk_at dksX0_coverPeriod_3 7 rfl rfl)
theorem dX0_coverPeriod_77 : decode cX0_coverPeriod 77 = .ok (.i2l, 1) := dk_133 (dk_at dksX0_coverPeriod_3 8 rfl rfl)
theorem dX0_coverPeriod_78 : decode cX0_coverPeriod 78 = .ok (.invokestatic 176, 3) := dk_184 0 176 (dk_at dksX0_coverPeriod_3 9 rfl rfl)
theorem dX0_coverPeriod_81 : decode cX0_coverPeriod 81 = .ok (.ldiv, 1) := dk_109 (dk_at dksX0_coverPeriod_3 12 rfl rfl)
theorem dX0_coverPeriod_82 : decode cX0_coverPeriod 82 = .ok (.aload_n 0, 1) := dk_42 (dk_at dksX0_coverPeriod_3 13 rfl rfl)
theorem dX0_coverPeriod_83 : decode cX0_coverPeriod 83 = .ok (.getfield 10, 3) := dk_180 0 10 (dk_at dksX0_coverPeriod_3 14 rfl rfl)
theorem dX0_coverPeriod_86 : decode cX0_coverPeriod 86 = .ok (.getfield 86, 3) := dk_180 0 86 (dk_at dksX0_coverPeriod_3 17 rfl rfl)
theorem dX0_coverPeriod_89 : decode cX0_coverPeriod 89 = .ok (.iload_n 3, 1) := dk_29 (dk_at dksX0_coverPeriod_3 20 rfl rfl)
theorem dX0_coverPeriod_90 : decode cX0_coverPeriod 90 = .ok (.iaload, 1) := dk_46 (dk_at dksX0_coverPeriod_3 21 rfl rfl)
theorem dX0_coverPeriod_91 : decode cX0_coverPeriod 91 = .ok (.i2l, 1) := dk_133 (dk_at dksX0_coverPeriod_3 22 rfl rfl)
theorem dX0_coverPeriod_92 : decode cX0_coverPeriod 92 = .ok (.lmul, 1) := dk_105 (dk_at dksX0_coverPeriod_3 23 rfl rfl)
theorem dX0_coverPeriod_93 : decode cX0_coverPeriod 93 = .ok (.lstore_n 1, 1) := dk_64 (dk_at dksX0_coverPeriod_4 0 rfl rfl)
theorem dX0_coverPeriod_94 : decode cX0_coverPeriod 94 = .ok (.iinc 3 1, 3) := dk_132 3 1 (dk_at dksX0_coverPeriod_4 1 rfl rfl)
theorem dX0_coverPeriod_97 : decode cX0_coverPeriod 97 = .ok (.goto (-52), 3) := dk_167 255 204 (dk_at dksX0_coverPeriod_4 4 rfl rfl)
theorem dX0_coverPeriod_100 : decode cX0_coverPeriod 100 = .ok (.lload_n 1, 1) := dk_31 (dk_at dksX0_coverPeriod_4 7 rfl rfl)
theorem dX0_coverPeriod_101 : decode cX0_coverPeriod 101 = .ok (.ldc2_w 333, 3) := dk_20 1 77 (dk_at dksX0_coverPeriod_4 8 rfl rfl)
theorem dX0_coverPeriod_104 : decode cX0_coverPeriod 104 = .ok (.lcmp, 1) := dk_148 (dk_at dksX0_coverPeriod_4 11 rfl rfl)
theorem dX0_coverPeriod_105 : decode cX0_coverPeriod 105 = .ok (.ifCond .le 8, 3) := dk_158 0 8 (dk_at dksX0_coverPeriod_4 12 rfl rfl)
theorem dX0_coverPeriod_108 : decode cX0_coverPeriod 108 = .ok (.bipush (-2), 2) := dk_16 254 (dk_at dksX0_coverPeriod_4 15 rfl rfl)
theorem dX0_coverPeriod_110 : decode cX0_coverPeriod 110 = .ok (.goto 5, 3) := dk_167 0 5 (dk_at dksX0_coverPeriod_4 17 rfl rfl)
theorem dX0_coverPeriod_113 : decode cX0_coverPeriod 113 = .ok (.lload_n 1, 1) := dk_31 (dk_at dksX0_coverPeriod_4 20 rfl rfl)
theorem dX0_coverPeriod_114 : decode cX0_coverPeriod 114 = .ok (.l2i, 1) := dk_136 (dk_at dksX0_coverPeriod_4 21 rfl rfl)
theorem dX0_coverPeriod_115 : decode cX0_coverPeriod 115 = .ok (.ireturn, 1) := dk_172 (dk_at dksX0_coverPeriod_4 22 rfl rfl)
abbrev cX0_apart : ByteArray := prog_1_method_66_code
def yX0_apart : MethodName := ⟨RX0, "apart", "(II)I"⟩
def dkwX0_apart_4 : List UInt8 := [182, 1, 82, 153, 0, 12, 42, 180, 0, 48, 28, 46, 167, 0, 4, 2, 172]
abbrev dktX0_apart_4 : List UInt8 := dkwX0_apart_4 ++ []
def dkwX0_apart_3 : List UInt8 := [164, 0, 5, 2, 172, 132, 3, 1, 167, 255, 216, 42, 27, 182, 1, 85, 153, 0, 21, 42, 27, 3]
abbrev dktX0_apart_3 : List UInt8 := dkwX0_apart_3 ++ dktX0_apart_4
def dkwX0_apart_2 : List UInt8 := [162, 0, 33, 27, 29, 184, 0, 173, 153, 0, 19, 42, 180, 0, 10, 180, 0, 86, 29, 46, 16, 60]
abbrev dktX0_apart_2 : List UInt8 := dkwX0_apart_2 ++ dktX0_apart_3
def dkwX0_apart_1 : List UInt8 := [27, 28, 184, 0, 173, 154, 0, 5, 2, 172, 3, 62, 29, 42, 180, 0, 10, 180, 0, 64, 3, 46]
abbrev dktX0_apart_1 : List UInt8 := dkwX0_apart_1 ++ dktX0_apart_2
def dkwX0_apart_0 : List UInt8 := [42, 27, 182, 0, 212, 153, 0, 27, 27, 184, 1, 2, 8, 163, 0, 19, 42, 28, 182, 0, 95, 153, 0, 11]
abbrev dktX0_apart_0 : List UInt8 := dkwX0_apart_0 ++ dktX0_apart_1
theorem dksX0_apart_0 : cX0_apart.data.toList.drop 0 = dktX0_apart_0 := by decide +kernel
theorem dksX0_apart_1 : cX0_apart.data.toList.drop 24 = dktX0_apart_1 := dk_seg dksX0_apart_0 24 rfl rfl
theorem dksX0_apart_2 : cX0_apart.data.toList.drop 46 = dktX0_apart_2 := dk_seg dksX0_apart_1 22 rfl rfl
theorem dksX0_apart_3 : cX0_apart.data.toList.drop 68 = dktX0_apart_3 := dk_seg dksX0_apart_2 22 rfl rfl
theorem dksX0_apart_4 : cX0_apart.data.toList.drop 90 = dktX0_apart_4 := dk_seg dksX0_apart_3 22 rfl rfl
theorem dX0_apart_0 : decode cX0_apart 0 = .ok (.aload_n 0, 1) := dk_42 (dk_at dksX0_apart_0 0 rfl rfl)
theorem dX0_apart_1 : decode cX0_apart 1 = .ok (.iload_n 1, 1) := dk_27 (dk_at dksX0_apart_0 1 rfl rfl)
theorem dX0_apart_2 : decode cX0_apart 2 = .ok (.invokevirtual 212, 3) := dk_182 0 212 (dk_at dksX0_apart_0 2 rfl rfl)
theorem dX0_apart_5 : decode cX0_apart 5 = .ok (.ifCond .eq 27, 3) := dk_153 0 27 (dk_at dksX0_apart_0 5 rfl rfl)
theorem dX0_apart_8 : decode cX0_apart 8 = .ok (.iload_n 1, 1) := dk_27 (dk_at dksX0_apart_0 8 rfl rfl)
theorem dX0_apart_9 : decode cX0_apart 9 = .ok (.invokestatic 258, 3) := dk_184 1 2 (dk_at dksX0_apart_0 9 rfl rfl)
theorem dX0_apart_12 : decode cX0_apart 12 = .ok (.iconst 5, 1) := dk_8 (dk_at dksX0_apart_0 12 rfl rfl)
theorem dX0_apart_13 : decode cX0_apart 13 = .ok (.if_icmp .gt 19, 3) := dk_163 0 19 (dk_at dksX0_apart_0 13 rfl rfl)
theorem dX0_apart_16 : decode cX0_apart 16 = .ok (.aload_n 0, 1) := dk_42 (dk_at dksX0_apart_0 16 rfl rfl)
theorem dX0_apart_17 : decode cX0_apart 17 = .ok (.iload_n 2, 1) := dk_28 (dk_at dksX0_apart_0 17 rfl rfl)
theorem dX0_apart_18 : decode cX0_apart 18 = .ok (.invokevirtual 95, 3) := dk_182 0 95 (dk_at dksX0_apart_0 18 rfl rfl)
theorem dX0_apart_21 : decode cX0_apart 21 = .ok (.ifCond .eq 11, 3) := dk_153 0 11 (dk_at dksX0_apart_0 21 rfl rfl)
theorem dX0_apart_24 : decode cX0_apart 24 = .ok (.iload_n 1, 1) := dk_27 (dk_at dksX0_apart_1 0 rfl rfl)
theorem dX0_apart_25 : decode cX0_apart 25 = .ok (.iload_n 2, 1) := dk_28 (dk_at dksX0_apart_1 1 rfl rfl)
theorem dX0_apart_26 : decode cX0_apart 26 = .ok (.invokestatic 173, 3) := dk_184 0 173 (dk_at dksX0_apart_1 2 rfl rfl)
theorem dX0_apart_29 : decode cX0_apart 29 = .ok (.ifCond .ne 5, 3) := dk_154 0 5 (dk_at dksX0_apart_1 5 rfl rfl)
theorem dX0_apart_32 : decode cX0_apart 32 = .ok (.iconst (-1), 1) := dk_2 (dk_at dksX0_apart_1 8 rfl rfl)
theorem dX0_apart_33 : decode cX0_apart 33 = .ok (.ireturn, 1) := dk_172 (dk_at dksX0_apart_1 9 rfl rfl)
theorem dX0_apart_34 : decode cX0_apart 34 = .ok (.iconst 0, 1) := dk_3 (dk_at dksX0_apart_1 10 rfl rfl)
theorem dX0_apart_35 : decode cX0_apart 35 = .ok (.istore_n 3, 1) := dk_62 (dk_at dksX0_apart_1 11 rfl rfl)
theorem dX0_apart_36 : decode cX0_apart 36 = .ok (.iload_n 3, 1) := dk_29 (dk_at dksX0_apart_1 12 rfl rfl)
theorem dX0_apart_37 : decode cX0_apart 37 = .ok (.aload_n 0, 1) := dk_42 (dk_at dksX0_apart_1 13 rfl rfl)
theorem dX0_apart_38 : decode cX0_apart 38 = .ok (.getfield 10, 3) := dk_180 0 10 (dk_at dksX0_apart_1 14 rfl rfl)
theorem dX0_apart_41 : decode cX0_apart 41 = .ok (.getfield 64, 3) := dk_180 0 64 (dk_at dksX0_apart_1 17 rfl rfl)
theorem dX0_apart_44 : decode cX0_apart 44 = .ok (.iconst 0, 1) := dk_3 (dk_at dksX0_apart_1 20 rfl rfl)
theorem dX0_apart_45 : decode cX0_apart 45 = .ok (.iaload, 1) := dk_46 (dk_at dksX0_apart_1 21 rfl rfl)
theorem dX0_apart_46 : decode cX0_apart 46 = .ok (.if_icmp .ge 33, 3) := dk_162 0 33 (dk_at dksX0_apart_2 0 rfl rfl)
theorem dX0_apart_49 : decode cX0_apart 49 = .ok (.iload_n 1, 1) := dk_27 (dk_at dksX0_apart_2 3 rfl rfl)
theorem dX0_apart_50 : decode cX0_apart 50 = .ok (.iload_n 3, 1) := dk_29 (dk_at dksX0_apart_2 4 rfl rfl)
theorem dX0_apart_51 : decode cX0_apart 51 = .ok (.invokestatic 173, 3) := dk_184 0 173 (dk_at dksX0_apart_2 5 rfl rfl)
theorem dX0_apart_54 : decode cX0_apart 54 = .ok (.ifCond .eq 19, 3) := dk_153 0 19 (dk_at dksX0_apart_2 8 rfl rfl)
theorem dX0_apart_57 : decode cX0_apart 57 = .ok (.aload_n 0, 1) := dk_42 (dk_at dksX0_apart_2 11 rfl rfl)
theorem dX0_apart_58 : decode cX0_apart 58 = .ok (.getfield 10, 3) := dk_180 0 10 (dk_at dksX0_apart_2 12 rfl rfl)
theorem dX0_apart_61 : decode cX0_apart 61 = .ok (.getfield 86, 3) := dk_180 0 86 (dk_at dksX0_apart_2 15 rfl rfl)
theorem dX0_apart_64 : decode cX0_apart 64 = .ok (.iload_n 3, 1) := dk_29 (dk_at dksX0_apart_2 18 rfl rfl)
theorem dX0_apart_65 : decode cX0_apart 65 = .ok (.iaload, 1) := dk_46 (dk_at dksX0_apart_2 19 rfl rfl)
theorem dX0_apart_66 : decode cX0_apart 66 = .ok (.bipush 60, 2) := dk_16 60 (dk_at dksX0_apart_2 20 rfl rfl)
theorem dX0_apart_68 : decode cX0_apart 68 = .ok (.if_icmp .le 5, 3) := dk_164 0 5 (dk_at dksX0_apart_3 0 rfl rfl)
theorem dX0_apart_71 : decode cX0_apart 71 = .ok (.iconst (-1), 1) := dk_2 (dk_at dksX0_apart_3 3 rfl rfl)
theorem dX0_apart_72 : decode cX0_apart 72 = .ok (.ireturn, 1) := dk_172 (dk_at dksX0_apart_3 4 rfl rfl)
theorem dX0_apart_73 : decode cX0_apart 73 = .ok (.iinc 3 1, 3) := dk_132 3 1 (dk_at dksX0_apart_3 5 rfl rfl)
theorem dX0_apart_76 : decode cX0_apart 76 = .ok (.goto (-40), 3) := dk_167 255 216 (dk_at dksX0_apart_3 8 rfl rfl)
theorem dX0_apart_79 : decode cX0_apart 79 = .ok (.aload_n 0, 1) := dk_42 (dk_at dksX0_apart_3 11 rfl rfl)
theorem dX0_apart_80 : decode cX0_apart 80 = .ok (.iload_n 1, 1) := dk_27 (dk_at dksX0_apart_3 12 rfl rfl)
theorem dX0_apart_81 : decode cX0_apart 81 = .ok (.invokevirtual 341, 3) := dk_182 1 85 (dk_at dksX0_apart_3 13 rfl rfl)
theorem dX0_apart_84 : decode cX0_apart 84 = .ok (.ifCond .eq 21, 3) := dk_153 0 21 (dk_at dksX0_apart_3 16 rfl rfl)
theorem dX0_apart_87 : decode cX0_apart 87 = .ok (.aload_n 0, 1) := dk_42 (dk_at dksX0_apart_3 19 rfl rfl)
theorem dX0_apart_88 : decode cX0_apart 88 = .ok (.iload_n 1, 1) := dk_27 (dk_at dksX0_apart_3 20 rfl rfl)
theorem dX0_apart_89 : decode cX0_apart 89 = .ok (.iconst 0, 1) := dk_3 (dk_at dksX0_apart_3 21 rfl rfl)
theorem dX0_apart_90 : decode cX0_apart 90 = .ok (.invokevirtual 338, 3) := dk_182 1 82 (dk_at dksX0_apart_4 0 rfl rfl)
theorem dX0_apart_93 : decode cX0_apart 93 = .ok (.ifCond .eq 12, 3) := dk_153 0 12 (dk_at dksX0_apart_4 3 rfl rfl)
theorem dX0_apart_96 : decode cX0_apart 96 = .ok (.aload_n 0, 1) := dk_42 (dk_at dksX0_apart_4 6 rfl rfl)
theorem dX0_apart_97 : decode cX0_apart 97 = .ok (.getfield 48, 3) := dk_180 0 48 (dk_at dksX0_apart_4 7 rfl rfl)
theorem dX0_apart_100 : decode cX0_apart 100 = .ok (.iload_n 2, 1) := dk_28 (dk_at dksX0_apart_4 10 rfl rfl)
theorem dX0_apart_101 : decode cX0_apart 101 = .ok (.iaload, 1) := dk_46 (dk_at dksX0_apart_4 11 rfl rfl)
theorem dX0_apart_102 : decode cX0_apart 102 = .ok (.goto 4, 3) := dk_167 0 4 (dk_at dksX0_apart_4 12 rfl rfl)
theorem dX0_apart_105 : decode cX0_apart 105 = .ok (.iconst (-1), 1) := dk_2 (dk_at dksX0_apart_4 15 rfl rfl)
theorem dX0_apart_106 : decode cX0_apart 106 = .ok (.ireturn, 1) := dk_172 (dk_at dksX0_apart_4 16 rfl rfl)
abbrev cX0_canShare : ByteArray := prog_1_method_65_code
def yX0_canShare : MethodName := ⟨RX0, "canShare", "(I)Z"⟩
def dkwX0_canShare_3 : List UInt8 := [167, 255, 202, 132, 2, 1, 167, 255, 181, 4, 172]
abbrev dktX0_canShare_3 : List UInt8 := dkwX0_canShare_3 ++ []
def dkwX0_canShare_2 : List UInt8 := [42, 180, 0, 10, 180, 0, 86, 29, 46, 133, 184, 0, 176, 10, 148, 154, 0, 5, 3, 172, 132, 3, 1]
abbrev dktX0_canShare_2 : List UInt8 := dkwX0_canShare_2 ++ dktX0_canShare_3
def dkwX0_canShare_1 : List UInt8 := [184, 0, 173, 153, 0, 41, 27, 29, 184, 0, 173, 153, 0, 33, 42, 180, 0, 10, 180, 0, 86, 28, 46, 133]
abbrev dktX0_canShare_1 : List UInt8 := dkwX0_canShare_1 ++ dktX0_canShare_2
def dkwX0_canShare_0 : List UInt8 := [3, 61, 28, 42, 180, 0, 10, 180, 0, 64, 3, 46, 162, 0, 68, 3, 62, 29, 28, 162, 0, 55, 27, 28]
abbrev dktX0_canShare_0 : List UInt8 := dkwX0_canShare_0 ++ dktX0_canShare_1
theorem dksX0_canShare_0 : cX0_canShare.data.toList.drop 0 = dktX0_canShare_0 := by decide +kernel
theorem dksX0_canShare_1 : cX0_canShare.data.toList.drop 24 = dktX0_canShare_1 := dk_seg dksX0_canShare_0 24 rfl rfl
theorem dksX0_canShare_2 : cX0_canShare.data.toList.drop 48 = dktX0_canShare_2 := dk_seg dksX0_canShare_1 24 rfl rfl
theorem dksX0_canShare_3 : cX0_canShare.data.toList.drop 71 = dktX0_canShare_3 := dk_seg dksX0_canShare_2 23 rfl rfl
theorem dX0_canShare_0 : decode cX0_canShare 0 = .ok (.iconst 0, 1) := dk_3 (dk_at dksX0_canShare_0 0 rfl rfl)
theorem dX0_canShare_1 : decode cX0_canShare 1 = .ok (.istore_n 2, 1) := dk_61 (dk_at dksX0_canShare_0 1 rfl rfl)
theorem dX0_canShare_2 : decode cX0_canShare 2 = .ok (.iload_n 2, 1) := dk_28 (dk_at dksX0_canShare_0 2 rfl rfl)
theorem dX0_canShare_3 : decode cX0_canShare 3 = .ok (.aload_n 0, 1) := dk_42 (dk_at dksX0_canShare_0 3 rfl rfl)
theorem dX0_canShare_4 : decode cX0_canShare 4 = .ok (.getfield 10, 3) := dk_180 0 10 (dk_at dksX0_canShare_0 4 rfl rfl)
theorem dX0_canShare_7 : decode cX0_canShare 7 = .ok (.getfield 64, 3) := dk_180 0 64 (dk_at dksX0_canShare_0 7 rfl rfl)
theorem dX0_canShare_10 : decode cX0_canShare 10 = .ok (.iconst 0, 1) := dk_3 (dk_at dksX0_canShare_0 10 rfl rfl)
theorem dX0_canShare_11 : decode cX0_canShare 11 = .ok (.iaload, 1) := dk_46 (dk_at dksX0_canShare_0 11 rfl rfl)
theorem dX0_canShare_12 : decode cX0_canShare 12 = .ok (.if_icmp .ge 68, 3) := dk_162 0 68 (dk_at dksX0_canShare_0 12 rfl rfl)
theorem dX0_canShare_15 : decode cX0_canShare 15 = .ok (.iconst 0, 1) := dk_3 (dk_at dksX0_canShare_0 15 rfl rfl)
theorem dX0_canShare_16 : decode cX0_canShare 16 = .ok (.istore_n 3, 1) := dk_62 (dk_at dksX0_canShare_0 16 rfl rfl)
theorem dX0_canShare_17 : decode cX0_canShare 17 = .ok (.iload_n 3, 1) := dk_29 (dk_at dksX0_canShare_0 17 rfl rfl)
theorem dX0_canShare_18 : decode cX0_canShare 18 = .ok (.iload_n 2, 1) := dk_28 (dk_at dksX0_canShare_0 18 rfl rfl)
theorem dX0_canShare_19 : decode cX0_canShare 19 = .ok (.if_icmp .ge 55, 3) := dk_162 0 55 (dk_at dksX0_canShare_0 19 rfl rfl)
theorem dX0_canShare_22 : decode cX0_canShare 22 = .ok (.iload_n 1, 1) := dk_27 (dk_at dksX0_canShare_0 22 rfl rfl)
theorem dX0_canShare_23 : decode cX0_canShare 23 = .ok (.iload_n 2, 1) := dk_28 (dk_at dksX0_canShare_0 23 rfl rfl)
theorem dX0_canShare_24 : decode cX0_canShare 24 = .ok (.invokestatic 173, 3) := dk_184 0 173 (dk_at dksX0_canShare_1 0 rfl rfl)
theorem dX0_canShare_27 : decode cX0_canShare 27 = .ok (.ifCond .eq 41, 3) := dk_153 0 41 (dk_at dksX0_canShare_1 3 rfl rfl)
theorem dX0_canShare_30 : decode cX0_canShare 30 = .ok (.iload_n 1, 1) := dk_27 (dk_at dksX0_canShare_1 6 rfl rfl)
theorem dX0_canShare_31 : decode cX0_canShare 31 = .ok (.iload_n 3, 1) := dk_29 (dk_at dksX0_canShare_1 7 rfl rfl)
theorem dX0_canShare_32 : decode cX0_canShare 32 = .ok (.invokestatic 173, 3) := dk_184 0 173 (dk_at dksX0_canShare_1 8 rfl rfl)
theorem dX0_canShare_35 : decode cX0_canShare 35 = .ok (.ifCond .eq 33, 3) := dk_153 0 33 (dk_at dksX0_canShare_1 11 rfl rfl)
theorem dX0_canShare_38 : decode cX0_canShare 38 = .ok (.aload_n 0, 1) := dk_42 (dk_at dksX0_canShare_1 14 rfl rfl)
theorem dX0_canShare_39 : decode cX0_canShare 39 = .ok (.getfield 10, 3) := dk_180 0 10 (dk_at dksX0_canShare_1 15 rfl rfl)
theorem dX0_canShare_42 : decode cX0_canShare 42 = .ok (.getfield 86, 3) := dk_180 0 86 (dk_at dksX0_canShare_1 18 rfl rfl)
theorem dX0_canShare_45 : decode cX0_canShare 45 = .ok (.iload_n 2, 1) := dk_28 (dk_at dksX0_canShare_1 21 rfl rfl)
theorem dX0_canShare_46 : decode cX0_canShare 46 = .ok (.iaload, 1) := dk_46 (dk_at dksX0_canShare_1 22 rfl rfl)
theorem dX0_canShare_47 : decode cX0_canShare 47 = .ok (.i2l, 1) := dk_133 (dk_at dksX0_canShare_1 23 rfl rfl)
theorem dX0_canShare_48 : decode cX0_canShare 48 = .ok (.aload_n 0, 1) := dk_42 (dk_at dksX0_canShare_2 0 rfl rfl)
theorem dX0_canShare_49 : decode cX0_canShare 49 = .ok (.getfield 10, 3) := dk_180 0 10 (dk_at dksX0_canShare_2 1 rfl rfl)
theorem dX0_canShare_52 : decode cX0_canShare 52 = .ok (.getfield 86, 3) := dk_180 0 86 (dk_at dksX0_canShare_2 4 rfl rfl)
theorem dX0_canShare_55 : decode cX0_canShare 55 = .ok (.iload_n 3, 1) := dk_29 (dk_at dksX0_canShare_2 7 rfl rfl)
theorem dX0_canShare_56 : decode cX0_canShare 56 = .ok (.iaload, 1) := dk_46 (dk_at dksX0_canShare_2 8 rfl rfl)
theorem dX0_canShare_57 : decode cX0_canShare 57 = .ok (.i2l, 1) := dk_133 (dk_at dksX0_canShare_2 9 rfl rfl)
theorem dX0_canShare_58 : decode cX0_canShare 58 = .ok (.invokestatic 176, 3) := dk_184 0 176 (dk_at dksX0_canShare_2 10 rfl rfl)
theorem dX0_canShare_61 : decode cX0_canShare 61 = .ok (.lconst 1, 1) := dk_10 (dk_at dksX0_canShare_2 13 rfl rfl)
theorem dX0_canShare_62 : decode cX0_canShare 62 = .ok (.lcmp, 1) := dk_148 (dk_at dksX0_canShare_2 14 rfl rfl)
theorem dX0_canShare_63 : decode cX0_canShare 63 = .ok (.ifCond .ne 5, 3) := dk_154 0 5 (dk_at dksX0_canShare_2 15 rfl rfl)
theorem dX0_canShare_66 : decode cX0_canShare 66 = .ok (.iconst 0, 1) := dk_3 (dk_at dksX0_canShare_2 18 rfl rfl)
theorem dX0_canShare_67 : decode cX0_canShare 67 = .ok (.ireturn, 1) := dk_172 (dk_at dksX0_canShare_2 19 rfl rfl)
theorem dX0_canShare_68 : decode cX0_canShare 68 = .ok (.iinc 3 1, 3) := dk_132 3 1 (dk_at dksX0_canShare_2 20 rfl rfl)
theorem dX0_canShare_71 : decode cX0_canShare 71 = .ok (.goto (-54), 3) := dk_167 255 202 (dk_at dksX0_canShare_3 0 rfl rfl)
theorem dX0_canShare_74 : decode cX0_canShare 74 = .ok (.iinc 2 1, 3) := dk_132 2 1 (dk_at dksX0_canShare_3 3 rfl rfl)
theorem dX0_canShare_77 : decode cX0_canShare 77 = .ok (.goto (-75), 3) := dk_167 255 181 (dk_at dksX0_canShare_3 6 rfl rfl)
theorem dX0_canShare_80 : decode cX0_canShare 80 = .ok (.iconst 1, 1) := dk_4 (dk_at dksX0_canShare_3 9 rfl rfl)
theorem dX0_canShare_81 : decode cX0_canShare 81 = .ok (.ireturn, 1) := dk_172 (dk_at dksX0_canShare_3 10 rfl rfl)
abbrev cX0_places : ByteArray := prog_1_method_64_code
def yX0_places : MethodName := ⟨RX0, "places", "(II)Z"⟩
def dkwX0_places_6 : List UInt8 := [172, 132, 3, 1, 167, 255, 136, 3, 172]
abbrev dktX0_places_6 : List UInt8 := dkwX0_places_6 ++ []
def dkwX0_places_5 : List UInt8 := [42, 180, 0, 48, 28, 29, 79, 21, 4, 153, 0, 16, 42, 27, 28, 4, 96, 182, 1, 82, 153, 0, 5, 4]
abbrev dktX0_places_5 : List UInt8 := dkwX0_places_5 ++ dktX0_places_6
def dkwX0_places_4 : List UInt8 := [46, 133, 184, 0, 176, 113, 9, 148, 153, 0, 7, 4, 167, 0, 4, 3, 54, 4, 132, 5, 1, 167, 255, 186]
abbrev dktX0_places_4 : List UInt8 := dkwX0_places_4 ++ dktX0_places_5
def dkwX0_places_3 : List UInt8 := [21, 5, 46, 100, 133, 42, 180, 0, 10, 180, 0, 86, 28, 46, 133, 42, 180, 0, 10, 180, 0, 86, 21, 5]
abbrev dktX0_places_3 : List UInt8 := dkwX0_places_3 ++ dktX0_places_4
def dkwX0_places_2 : List UInt8 := [28, 162, 0, 70, 21, 4, 153, 0, 65, 27, 21, 5, 184, 0, 173, 153, 0, 43, 29, 42, 180, 0, 48]
abbrev dktX0_places_2 : List UInt8 := dkwX0_places_2 ++ dktX0_places_3
def dkwX0_places_1 : List UInt8 := [172, 3, 62, 29, 42, 180, 0, 10, 180, 0, 86, 28, 46, 162, 0, 113, 4, 54, 4, 3, 54, 5, 21, 5]
abbrev dktX0_places_1 : List UInt8 := dkwX0_places_1 ++ dktX0_places_2
def dkwX0_places_0 : List UInt8 := [28, 16, 12, 160, 0, 5, 4, 172, 27, 28, 184, 0, 173, 154, 0, 12, 42, 27, 28, 4, 96, 182, 1, 82]
abbrev dktX0_places_0 : List UInt8 := dkwX0_places_0 ++ dktX0_places_1
theorem dksX0_places_0 : cX0_places.data.toList.drop 0 = dktX0_places_0 := by decide +kernel
theorem dksX0_places_1 : cX0_places.data.toList.drop 24 = dktX0_places_1 := dk_seg dksX0_places_0 24 rfl rfl
theorem dksX0_places_2 : cX0_places.data.toList.drop 48 = dktX0_places_2 := dk_seg dksX0_places_1 24 rfl rfl
theorem dksX0_places_3 : cX0_places.data.toList.drop 71 = dktX0_places_3 := dk_seg dksX0_places_2 23 rfl rfl
theorem dksX0_places_4 : cX0_places.data.toList.drop 95 = dktX0_places_4 := dk_seg dksX0_places_3 24 rfl rfl
theorem dksX0_places_5 : cX0_places.data.toList.drop 119 = dktX0_places_5 := dk_seg dksX0_places_4 24 rfl rfl
theorem dksX0_places_6 : cX0_places.data.toList.drop 143 = dktX0_places_6 := dk_seg dksX0_places_5 24 rfl rfl
theorem dX0_places_0 : decode cX0_places 0 = .ok (.iload_n 2, 1) := dk_28 (dk_at dksX0_places_0 0 rfl rfl)
theorem dX0_places_1 : decode cX0_places 1 = .ok (.bipush 12, 2) := dk_16 12 (dk_at dksX0_places_0 1 rfl rfl)
theorem dX0_places_3 : decode cX0_places 3 = .ok (.if_icmp .ne 5, 3) := dk_160 0 5 (dk_at dksX0_places_0 3 rfl rfl)
theorem dX0_places_6 : decode cX0_places 6 = .ok (.iconst 1, 1) := dk_4 (dk_at dksX0_places_0 6 rfl rfl)
theorem dX0_places_7 : decode cX0_places 7 = .ok (.ireturn, 1) := dk_172 (dk_at dksX0_places_0 7 rfl rfl)
theorem dX0_places_8 : decode cX0_places 8 = .ok (.iload_n 1, 1) := dk_27 (dk_at dksX0_places_0 8 rfl rfl)
theorem dX0_places_9 : decode cX0_places 9 = .ok (.iload_n 2, 1) := dk_28 (dk_at dksX0_places_0 9 rfl rfl)
theorem dX0_places_10 : decode cX0_places 10 = .ok (.invokestatic 173, 3) := dk_184 0 173 (dk_at dksX0_places_0 10 rfl rfl)
theorem dX0_places_13 : decode cX0_places 13 = .ok (.ifCond .ne 12, 3) := dk_154 0 12 (dk_at dksX0_places_0 13 rfl rfl)
theorem dX0_places_16 : decode cX0_places 16 = .ok (.aload_n 0, 1) := dk_42 (dk_at dksX0_places_0 16 rfl rfl)
theorem dX0_places_17 : decode cX0_places 17 = .ok (.iload_n 1, 1) := dk_27 (dk_at dksX0_places_0 17 rfl rfl)
theorem dX0_places_18 : decode cX0_places 18 = .ok (.iload_n 2, 1) := dk_28 (dk_at dksX0_places_0 18 rfl rfl)
theorem dX0_places_19 : decode cX0_places 19 = .ok (.iconst 1, 1) := dk_4 (dk_at dksX0_places_0 19 rfl rfl)
theorem dX0_places_20 : decode cX0_places 20 = .ok (.iadd, 1) := dk_96 (dk_at dksX0_places_0 20 rfl rfl)
theorem dX0_places_21 : decode cX0_places 21 = .ok (.invokevirtual 338, 3) := dk_182 1 82 (dk_at dksX0_places_0 21 rfl rfl)
theorem dX0_places_24 : decode cX0_places 24 = .ok (.ireturn, 1) := dk_172 (dk_at dksX0_places_1 0 rfl rfl)
theorem dX0_places_25 : decode cX0_places 25 = .ok (.iconst 0, 1) := dk_3 (dk_at dksX0_places_1 1 rfl rfl)
theorem dX0_places_26 : decode cX0_places 26 = .ok (.istore_n 3, 1) := dk_62 (dk_at dksX0_places_1 2 rfl rfl)
theorem dX0_places_27 : decode cX0_places 27 = .ok (.iload_n 3, 1) := dk_29 (dk_at dksX0_places_1 3 rfl rfl)
theorem dX0_places_28 : decode cX0_places 28 = .ok (.aload_n 0, 1) := dk_42 (dk_at dksX0_places_1 4 rfl rfl)
theorem dX0_places_29 : decode cX0_places 29 = .ok (.getfield 10, 3) := dk_180 0 10 (dk_at dksX0_places_1 5 rfl rfl)
theorem dX0_places_32 : decode cX0_places 32 = .ok (.getfield 86, 3) := dk_180 0 86 (dk_at dksX0_places_1 8 rfl rfl)
theorem dX0_places_35 : decode cX0_places 35 = .ok (.iload_n 2, 1) := dk_28 (dk_at dksX0_places_1 11 rfl rfl)
theorem dX0_places_36 : decode cX0_places 36 = .ok (.iaload, 1) := dk_46 (dk_at dksX0_places_1 12 rfl rfl)
theorem dX0_places_37 : decode cX0_places 37 = .ok (.if_icmp .ge 113, 3) := dk_162 0 113 (dk_at dksX0_places_1 13 rfl rfl)
theorem dX0_places_40 : decode cX0_places 40 = .ok (.iconst 1, 1) := dk_4 (dk_at dksX0_places_1 16 rfl rfl)
theorem dX0_places_41 : decode cX0_places 41 = .ok (.istore 4, 2) := dk_54 4 (dk_at dksX0_places_1 17 rfl rfl)
theorem dX0_places_43 : decode cX0_places 43 = .ok (.iconst 0, 1) := dk_3 (dk_at dksX0_places_1 19 rfl rfl)
theorem dX0_places_44 : decode cX0_places 44 = .ok (.istore 5, 2) := dk_54 5 (dk_at dksX0_places_1 20 rfl rfl)
theorem dX0_places_46 : decode cX0_places 46 = .ok (.iload 5, 2) := dk_21 5 (dk_at dksX0_places_1 22 rfl rfl)
theorem dX0_places_48 : decode cX0_places 48 = .ok (.iload_n 2, 1) := dk_28 (dk_at dksX0_places_2 0 rfl rfl)
theorem dX0_places_49 : decode cX0_places 49 = .ok (.if_icmp .ge 70, 3) := dk_162 0 70 (dk_at dksX0_places_2 1 rfl rfl)
theorem dX0_places_52 : decode cX0_places 52 = .ok (.iload 4, 2) := dk_21 4 (dk_at dksX0_places_2 4 rfl rfl)
theorem dX0_places_54 : decode cX0_places 54 = .ok (.ifCond .eq 65, 3) := dk_153 0 65 (dk_at dksX0_places_2 6 rfl rfl)
theorem dX0_places_57 : decode cX0_places 57 = .ok (.iload_n 1, 1) := dk_27 (dk_at dksX0_places_2 9 rfl rfl)
theorem dX0_places_58 : decode cX0_places 58 = .ok (.iload 5, 2) := dk_21 5 (dk_at dksX0_places_2 10 rfl rfl)
theorem dX0_places_60 : decode cX0_places 60 = .ok (.invokestatic 173, 3) := dk_184 0 173 (dk_at dksX0_places_2 12 rfl rfl)
theorem dX0_places_63 : decode cX0_places 63 = .ok (.ifCond .eq 43, 3) := dk_153 0 43 (dk_at dksX0_places_2 15 rfl rfl)
theorem dX0_places_66 : decode cX0_places 66 = .ok (.iload_n 3, 1) := dk_29 (dk_at dksX0_places_2 18 rfl rfl)
theorem dX0_places_67 : decode cX0_places 67 = .ok (.aload_n 0, 1) := dk_42 (dk_at dksX0_places_2 19 rfl rfl)
theorem dX0_places_68 : decode cX0_places 68 = .ok (.getfield 48, 3) := dk_180 0 48 (dk_at dksX0_places_2 20 rfl rfl)
theorem dX0_places_71 : decode cX0_places 71 = .ok (.iload 5, 2) := dk_21 5 (dk_at dksX0_places_3 0 rfl rfl)
theorem dX0_places_73 : decode cX0_places 73 = .ok (.iaload, 1) := dk_46 (dk_at dksX0_places_3 2 rfl rfl)
theorem dX0_places_74 : decode cX0_places 74 = .ok (.isub, 1) := dk_100 (dk_at dksX0_places_3 3 rfl rfl)
theorem dX0_places_75 : decode cX0_places 75 = .ok (.i2l, 1) := dk_133 (dk_at dksX0_places_3 4 rfl rfl)
theorem dX0_places_76 : decode cX0_places 76 = .ok (.aload_n 0, 1) := dk_42 (dk_at dksX0_places_3 5 rfl rfl)
theorem dX0_places_77 : decode cX0_places 77 = .ok (.getfield 10, 3) := dk_180 0 10 (dk_at dksX0_places_3 6 rfl rfl)
theorem dX0_places_80 : decode cX0_places 80 = .ok (.getfield 86, 3) := dk_180 0 86 (dk_at dksX0_places_3 9 rfl rfl)
theorem dX0_places_83 : decode cX0_places 83 = .ok (.iload_n 2, 1) := dk_28 (dk_at dksX0_places_3 12 rfl rfl)
theorem dX0_places_84 : decode cX0_places 84 = .ok (.iaload, 1) := dk_46 (dk_at dksX0_places_3 13 rfl rfl)
theorem dX0_places_85 : decode cX0_places 85 = .ok (.i2l, 1) := dk_133 (dk_at dksX0_places_3 14 rfl rfl)
theorem dX0_places_86 : decode cX0_places 86 = .ok (.aload_n 0, 1) := dk_42 (dk_at dksX0_places_3 15 rfl rfl)
theorem dX0_places_87 : decode cX0_places 87 = .ok (.getfield 10, 3) := dk_180 0 10 (dk_at dksX0_places_3 16 rfl rfl)
theorem dX0_places_90 : decode cX0_places 90 = .ok (.getfield 86, 3) := dk_180 0 86 (dk_at dksX0_places_3 19 rfl rfl)
theorem dX0_places_93 : decode cX0_places 93 = .ok (.iload 5, 2) := dk_21 5 (dk_at dksX0_places_3 22 rfl rfl)
theorem dX0_places_95 : decode cX0_places 95 = .ok (.iaload, 1) := dk_46 (dk_at dksX0_places_4 0 rfl rfl)
theorem dX0_places_96 : decode cX0_places 96 = .ok (.i2l, 1) := dk_133 (dk_at dksX0_places_4 1 rfl rfl)
theorem dX0_places_97 : decode cX0_places 97 = .ok (.invokestatic 176, 3) := dk_184 0 176 (dk_at dksX0_places_4 2 rfl rfl)
theorem dX0_places_100 : decode cX0_places 100 = .ok (.lrem, 1) := dk_113 (dk_at dksX0_places_4 5 rfl rfl)
theorem dX0_places_101 : decode cX0_places 101 = .ok (.lconst 0, 1) := dk_9 (dk_at dksX0_places_4 6 rfl rfl)
theorem dX0_places_102 : decode cX0_places 102 = .ok (.lcmp, 1) := dk_148 (dk_at dksX0_places_4 7 rfl rfl)
theorem dX0_places_103 : decode cX0_places 103 = .ok (.ifCond .eq 7, 3) := dk_153 0 7 (dk_at dksX0_places_4 8 rfl rfl)
theorem dX0_places_106 : decode cX0_places 106 = .ok (.iconst 1, 1) := dk_4 (dk_at dksX0_places_4 11 rfl rfl)
theorem dX0_places_107 : decode cX0_places 107 = .ok (.goto 4, 3) := dk_167 0 4 (dk_at dksX0_places_4 12 rfl rfl)
theorem dX0_places_110 : decode cX0_places 110 = .ok (.iconst 0, 1) := dk_3 (dk_at dksX0_places_4 15 rfl rfl)
theorem dX0_places_111 : decode cX0_places 111 = .ok (.istore 4, 2) := dk_54 4 (dk_at dksX0_places_4 16 rfl rfl)
theorem dX0_places_113 : decode cX0_places 113 = .ok (.iinc 5 1, 3) := dk_132 5 1 (dk_at dksX0_places_4 18 rfl rfl)
theorem dX0_places_116 : decode cX0_places 116 = .ok (.goto (-70), 3) := dk_167 255 186 (dk_at dksX0_places_4 21 rfl rfl)
theorem dX0_places_119 : decode cX0_places 119 = .ok (.aload_n 0, 1) := dk_42 (dk_at dksX0_places_5 0 rfl rfl)
theorem dX0_places_120 : decode cX0_places 120 = .ok (.getfield 48, 3) := dk_180 0 48 (dk_at dksX0_places_5 1 rfl rfl)
theorem dX0_places_123 : decode cX0_places 123 = .ok (.iload_n 2, 1) := dk_28 (dk_at dksX0_places_5 4 rfl rfl)
theorem dX0_places_124 : decode cX0_places 124 = .ok (.iload_n 3, 1) := dk_29 (dk_at dksX0_places_5 5 rfl rfl)
theorem dX0_places_125 : decode cX0_places 125 = .ok (.iastore, 1) := dk_79 (dk_at dksX0_places_5 6 rfl rfl)
theorem dX0_places_126 : decode cX0_places 126 = .ok (.iload 4, 2) := dk_21 4 (dk_at dksX0_places_5 7 rfl rfl)
theorem dX0_places_128 : decode cX0_places 128 = .ok (.ifCond .eq 16, 3) := dk_153 0 16 (dk_at dksX0_places_5 9 rfl rfl)
theorem dX0_places_131 : decode cX0_places 131 = .ok (.aload_n 0, 1) := dk_42 (dk_at dksX0_places_5 12 rfl rfl)
theorem dX0_places_132 : decode cX0_places 132 = .ok (.iload_n 1, 1) := dk_27 (dk_at dksX0_places_5 13 rfl rfl)
theorem dX0_places_133 : decode cX0_places 133 = .ok (.iload_n 2, 1) := dk_28 (dk_at dksX0_places_5 14 rfl rfl)
theorem dX0_places_134 : decode cX0_places 134 = .ok (.iconst 1, 1) := dk_4 (dk_at dksX0_places_5 15 rfl rfl)
theorem dX0_places_135 : decode cX0_places 135 = .ok (.iadd, 1) := dk_96 (dk_at dksX0_places_5 16 rfl rfl)
theorem dX0_places_136 : decode cX0_places 136 = .ok (.invokevirtual 338, 3) := dk_182 1 82 (dk_at dksX0_places_5 17 rfl rfl)
theorem dX0_places_139 : decode cX0_places 139 = .ok (.ifCond .eq 5, 3) := dk_153 0 5 (dk_at dksX0_places_5 20 rfl rfl)
theorem dX0_places_142 : decode cX0_places 142 = .ok (.iconst 1, 1) := dk_4 (dk_at dksX0_places_5 23 rfl rfl)
theorem dX0_places_143 : decode cX0_places 143 = .ok (.ireturn, 1) := dk_172 (dk_at dksX0_places_6 0 rfl rfl)
theorem dX0_places_144 : decode cX0_places 144 = .ok (.iinc 3 1, 3) := dk_132 3 1 (dk_at dksX0_places_6 1 rfl rfl)
theorem dX0_places_147 : decode cX0_places 147 = .ok (.goto (-120), 3) := dk_167 255 136 (dk_at dksX0_places_6 4 rfl rfl)
theorem dX0_places_150 : decode cX0_places 150 = .ok (.iconst 0, 1) := dk_3 (dk_at dksX0_places_6 7 rfl rfl)
theorem dX0_places_151 : decode cX0_places 151 = .ok (.ireturn, 1) := dk_172 (dk_at dksX0_places_6 8 rfl rfl)
abbrev cX0_heard : ByteArray := prog_1_method_67_code
def yX0_heard : MethodName := ⟨RX0, "heard", "(IZ)I"⟩
def dkwX0_heard_4 : List UInt8 := [180, 0, 10, 180, 0, 64, 16, 8, 46, 172]
abbrev dktX0_heard_4 : List UInt8 := dkwX0_heard_4 ++ []
def dkwX0_heard_3 : List UInt8 := [153, 0, 7, 4, 167, 0, 4, 3, 79, 42, 180, 0, 10, 180, 0, 64, 16, 8, 92, 46, 4, 96, 79, 42]
abbrev dktX0_heard_3 : List UInt8 := dkwX0_heard_3 ++ dktX0_heard_4
def dkwX0_heard_2 : List UInt8 := [27, 79, 42, 180, 0, 10, 180, 1, 90, 42, 180, 0, 10, 180, 0, 64, 16, 8, 46, 50, 4, 28]
abbrev dktX0_heard_2 : List UInt8 := dkwX0_heard_2 ++ dktX0_heard_3
def dkwX0_heard_1 : List UInt8 := [160, 0, 5, 2, 172, 42, 180, 0, 10, 180, 1, 90, 42, 180, 0, 10, 180, 0, 64, 16, 8, 46, 50, 3]
abbrev dktX0_heard_1 : List UInt8 := dkwX0_heard_1 ++ dktX0_heard_2
def dkwX0_heard_0 : List UInt8 := [27, 133, 9, 20, 1, 88, 184, 0, 67, 153, 0, 18, 42, 180, 0, 10, 180, 0, 64, 16, 8, 46, 16, 20]
abbrev dktX0_heard_0 : List UInt8 := dkwX0_heard_0 ++ dktX0_heard_1
theorem dksX0_heard_0 : cX0_heard.data.toList.drop 0 = dktX0_heard_0 := by decide +kernel
theorem dksX0_heard_1 : cX0_heard.data.toList.drop 24 = dktX0_heard_1 := dk_seg dksX0_heard_0 24 rfl rfl
theorem dksX0_heard_2 : cX0_heard.data.toList.drop 48 = dktX0_heard_2 := dk_seg dksX0_heard_1 24 rfl rfl
theorem dksX0_heard_3 : cX0_heard.data.toList.drop 70 = dktX0_heard_3 := dk_seg dksX0_heard_2 22 rfl rfl
theorem dksX0_heard_4 : cX0_heard.data.toList.drop 94 = dktX0_heard_4 := dk_seg dksX0_heard_3 24 rfl rfl
theorem dX0_heard_0 : decode cX0_heard 0 = .ok (.iload_n 1, 1) := dk_27 (dk_at dksX0_heard_0 0 rfl rfl)
theorem dX0_heard_1 : decode cX0_heard 1 = .ok (.i2l, 1) := dk_133 (dk_at dksX0_heard_0 1 rfl rfl)
theorem dX0_heard_2 : decode cX0_heard 2 = .ok (.lconst 0, 1) := dk_9 (dk_at dksX0_heard_0 2 rfl rfl)
theorem dX0_heard_3 : decode cX0_heard 3 = .ok (.ldc2_w 344, 3) := dk_20 1 88 (dk_at dksX0_heard_0 3 rfl rfl)
theorem dX0_heard_6 : decode cX0_heard 6 = .ok (.invokestatic 67, 3) := dk_184 0 67 (dk_at dksX0_heard_0 6 rfl rfl)
theorem dX0_heard_9 : decode cX0_heard 9 = .ok (.ifCond .eq 18, 3) := dk_153 0 18 (dk_at dksX0_heard_0 9 rfl rfl)
theorem dX0_heard_12 : decode cX0_heard 12 = .ok (.aload_n 0, 1) := dk_42 (dk_at dksX0_heard_0 12 rfl rfl)
theorem dX0_heard_13 : decode cX0_heard 13 = .ok (.getfield 10, 3) := dk_180 0 10 (dk_at dksX0_heard_0 13 rfl rfl)
theorem dX0_heard_16 : decode cX0_heard 16 = .ok (.getfield 64, 3) := dk_180 0 64 (dk_at dksX0_heard_0 16 rfl rfl)
theorem dX0_heard_19 : decode cX0_heard 19 = .ok (.bipush 8, 2) := dk_16 8 (dk_at dksX0_heard_0 19 rfl rfl)
theorem dX0_heard_21 : decode cX0_heard 21 = .ok (.iaload, 1) := dk_46 (dk_at dksX0_heard_0 21 rfl rfl)
theorem dX0_heard_22 : decode cX0_heard 22 = .ok (.bipush 20, 2) := dk_16 20 (dk_at dksX0_heard_0 22 rfl rfl)
theorem dX0_heard_24 : decode cX0_heard 24 = .ok (.if_icmp .ne 5, 3) := dk_160 0 5 (dk_at dksX0_heard_1 0 rfl rfl)
theorem dX0_heard_27 : decode cX0_heard 27 = .ok (.iconst (-1), 1) := dk_2 (dk_at dksX0_heard_1 3 rfl rfl)
theorem dX0_heard_28 : decode cX0_heard 28 = .ok (.ireturn, 1) := dk_172 (dk_at dksX0_heard_1 4 rfl rfl)
theorem dX0_heard_29 : decode cX0_heard 29 = .ok (.aload_n 0, 1) := dk_42 (dk_at dksX0_heard_1 5 rfl rfl)
theorem dX0_heard_30 : decode cX0_heard 30 = .ok (.getfield 10, 3) := dk_180 0 10 (dk_at dksX0_heard_1 6 rfl rfl)
theorem dX0_heard_33 : decode cX0_heard 33 = .ok (.getfield 346, 3) := dk_180 1 90 (dk_at dksX0_heard_1 9 rfl rfl)
theorem dX0_heard_36 : decode cX0_heard 36 = .ok (.aload_n 0, 1) := dk_42 (dk_at dksX0_heard_1 12 rfl rfl)
theorem dX0_heard_37 : decode cX0_heard 37 = .ok (.getfield 10, 3) := dk_180 0 10 (dk_at dksX0_heard_1 13 rfl rfl)
theorem dX0_heard_40 : decode cX0_heard 40 = .ok (.getfield 64, 3) := dk_180 0 64 (dk_at dksX0_heard_1 16 rfl rfl)
theorem dX0_heard_43 : decode cX0_heard 43 = .ok (.bipush 8, 2) := dk_16 8 (dk_at dksX0_heard_1 19 rfl rfl)
theorem dX0_heard_45 : decode cX0_heard 45 = .ok (.iaload, 1) := dk_46 (dk_at dksX0_heard_1 21 rfl rfl)
theorem dX0_heard_46 : decode cX0_heard 46 = .ok (.aaload, 1) := dk_50 (dk_at dksX0_heard_1 22 rfl rfl)
theorem dX0_heard_47 : decode cX0_heard 47 = .ok (.iconst 0, 1) := dk_3 (dk_at dksX0_heard_1 23 rfl rfl)
theorem dX0_heard_48 : decode cX0_heard 48 = .ok (.iload_n 1, 1) := dk_27 (dk_at dksX0_heard_2 0 rfl rfl)
theorem dX0_heard_49 : decode cX0_heard 49 = .ok (.iastore, 1) := dk_79 (dk_at dksX0_heard_2 1 rfl rfl)
theorem dX0_heard_50 : decode cX0_heard 50 = .ok (.aload_n 0, 1) := dk_42 (dk_at dksX0_heard_2 2 rfl rfl)
theorem dX0_heard_51 : decode cX0_heard 51 = .ok (.getfield 10, 3) := dk_180 0 10 (dk_at dksX0_heard_2 3 rfl rfl)
theorem dX0_heard_54 : decode cX0_heard 54 = .ok (.getfield 346, 3) := dk_180 1 90 (dk_at dksX0_heard_2 6 rfl rfl)
theorem dX0_heard_57 : decode cX0_heard 57 = .ok (.aload_n 0, 1) := dk_42 (dk_at dksX0_heard_2 9 rfl rfl)
theorem dX0_heard_58 : decode cX0_heard 58 = .ok (.getfield 10, 3) := dk_180 0 10 (dk_at dksX0_heard_2 10 rfl rfl)
theorem dX0_heard_61 : decode cX0_heard 61 = .ok (.getfield 64, 3) := dk_180 0 64 (dk_at dksX0_heard_2 13 rfl rfl)
theorem dX0_heard_64 : decode cX0_heard 64 = .ok (.bipush 8, 2) := dk_16 8 (dk_at dksX0_heard_2 16 rfl rfl)
theorem dX0_heard_66 : decode cX0_heard 66 = .ok (.iaload, 1) := dk_46 (dk_at dksX0_heard_2 18 rfl rfl)
theorem dX0_heard_67 : decode cX0_heard 67 = .ok (.aaload, 1) := dk_50 (dk_at dksX0_heard_2 19 rfl rfl)
theorem dX0_heard_68 : decode cX0_heard 68 = .ok (.iconst 1, 1) := dk_4 (dk_at dksX0_heard_2 20 rfl rfl)
theorem dX0_heard_69 : decode cX0_heard 69 = .ok (.iload_n 2, 1) := dk_28 (dk_at dksX0_heard_2 21 rfl rfl)
theorem dX0_heard_70 : decode cX0_heard 70 = .ok (.ifCond .eq 7, 3) := dk_153 0 7 (dk_at dksX0_heard_3 0 rfl rfl)
theorem dX0_heard_73 : decode cX0_heard 73 = .ok (.iconst 1, 1) := dk_4 (dk_at dksX0_heard_3 3 rfl rfl)
theorem dX0_heard_74 : decode cX0_heard 74 = .ok (.goto 4, 3) := dk_167 0 4 (dk_at dksX0_heard_3 4 rfl rfl)
theorem dX0_heard_77 : decode cX0_heard 77 = .ok (.iconst 0, 1) := dk_3 (dk_at dksX0_heard_3 7 rfl rfl)
theorem dX0_heard_78 : decode cX0_heard 78 = .ok (.iastore, 1) := dk_79 (dk_at dksX0_heard_3 8 rfl rfl)
theorem dX0_heard_79 : decode cX0_heard 79 = .ok (.aload_n 0, 1) := dk_42 (dk_at dksX0_heard_3 9 rfl rfl)
theorem dX0_heard_80 : decode cX0_heard 80 = .ok (.getfield 10, 3) := dk_180 0 10 (dk_at dksX0_heard_3 10 rfl rfl)
theorem dX0_heard_83 : decode cX0_heard 83 = .ok (.getfield 64, 3) := dk_180 0 64 (dk_at dksX0_heard_3 13 rfl rfl)
theorem dX0_heard_86 : decode cX0_heard 86 = .ok (.bipush 8, 2) := dk_16 8 (dk_at dksX0_heard_3 16 rfl rfl)
theorem dX0_heard_88 : decode cX0_heard 88 = .ok (.dup2, 1) := dk_92 (dk_at dksX0_heard_3 18 rfl rfl)
theorem dX0_heard_89 : decode cX0_heard 89 = .ok (.iaload, 1) := dk_46 (dk_at dksX0_heard_3 19 rfl rfl)
theorem dX0_heard_90 : decode cX0_heard 90 = .ok (.iconst 1, 1) := dk_4 (dk_at dksX0_heard_3 20 rfl rfl)
theorem dX0_heard_91 : decode cX0_heard 91 = .ok (.iadd, 1) := dk_96 (dk_at dksX0_heard_3 21 rfl rfl)
theorem dX0_heard_92 : decode cX0_heard 92 = .ok (.iastore, 1) := dk_79 (dk_at dksX0_heard_3 22 rfl rfl)
theorem dX0_heard_93 : decode cX0_heard 93 = .ok (.aload_n 0, 1) := dk_42 (dk_at dksX0_heard_3 23 rfl rfl)
theorem dX0_heard_94 : decode cX0_heard 94 = .ok (.getfield 10, 3) := dk_180 0 10 (dk_at dksX0_heard_4 0 rfl rfl)
theorem dX0_heard_97 : decode cX0_heard 97 = .ok (.getfield 64, 3) := dk_180 0 64 (dk_at dksX0_heard_4 3 rfl rfl)
theorem dX0_heard_100 : decode cX0_heard 100 = .ok (.bipush 8, 2) := dk_16 8 (dk_at dksX0_heard_4 6 rfl rfl)
theorem dX0_heard_102 : decode cX0_heard 102 = .ok (.iaload, 1) := dk_46 (dk_at dksX0_heard_4 8 rfl rfl)
theorem dX0_heard_103 : decode cX0_heard 103 = .ok (.ireturn, 1) := dk_172 (dk_at dksX0_heard_4 9 rfl rfl)
abbrev cX0_fits : ByteArray := prog_1_method_69_code
def yX0_fits : MethodName := ⟨RX0, "fits", "(II)I"⟩
def dkwX0_fits_3 : List UInt8 := [132, 5, 1, 167, 255, 215, 132, 4, 1, 167, 255, 200, 28, 2, 160, 0, 7, 29, 167, 0, 4, 2, 172]
abbrev dktX0_fits_3 : List UInt8 := dkwX0_fits_3 ++ []
def dkwX0_fits_2 : List UInt8 := [154, 0, 6, 167, 0, 20, 29, 28, 160, 0, 12, 16, 100, 21, 4, 104, 21, 5, 96, 172, 132, 3, 1]
abbrev dktX0_fits_2 : List UInt8 := dkwX0_fits_2 ++ dktX0_fits_3
def dkwX0_fits_1 : List UInt8 := [21, 4, 27, 163, 0, 56, 3, 54, 5, 21, 5, 21, 4, 162, 0, 40, 42, 21, 4, 21, 5, 182, 1, 93]
abbrev dktX0_fits_1 : List UInt8 := dkwX0_fits_1 ++ dktX0_fits_2
def dkwX0_fits_0 : List UInt8 := [27, 133, 10, 20, 0, 105, 184, 0, 67, 153, 0, 8, 28, 2, 162, 0, 5, 2, 172, 3, 62, 4, 54, 4]
abbrev dktX0_fits_0 : List UInt8 := dkwX0_fits_0 ++ dktX0_fits_1
theorem dksX0_fits_0 : cX0_fits.data.toList.drop 0 = dktX0_fits_0 := by decide +kernel
theorem dksX0_fits_1 : cX0_fits.data.toList.drop 24 = dktX0_fits_1 := dk_seg dksX0_fits_0 24 rfl rfl
theorem dksX0_fits_2 : cX0_fits.data.toList.drop 48 = dktX0_fits_2 := dk_seg dksX0_fits_1 24 rfl rfl
theorem dksX0_fits_3 : cX0_fits.data.toList.drop 71 = dktX0_fits_3 := dk_seg dksX0_fits_2 23 rfl rfl
theorem dX0_fits_0 : decode cX0_fits 0 = .ok (.iload_n 1, 1) := dk_27 (dk_at dksX0_fits_0 0 rfl rfl)
theorem dX0_fits_1 : decode cX0_fits 1 = .ok (.i2l, 1) := dk_133 (dk_at dksX0_fits_0 1 rfl rfl)
theorem dX0_fits_2 : decode cX0_fits 2 = .ok (.lconst 1, 1) := dk_10 (dk_at dksX0_fits_0 2 rfl rfl)
theorem dX0_fits_3 : decode cX0_fits 3 = .ok (.ldc2_w 105, 3) := dk_20 0 105 (dk_at dksX0_fits_0 3 rfl rfl)
theorem dX0_fits_6 : decode cX0_fits 6 = .ok (.invokestatic 67, 3) := dk_184 0 67 (dk_at dksX0_fits_0 6 rfl rfl)
theorem dX0_fits_9 : decode cX0_fits 9 = .ok (.ifCond .eq 8, 3) := dk_153 0 8 (dk_at dksX0_fits_0 9 rfl rfl)
theorem dX0_fits_12 : decode cX0_fits 12 = .ok (.iload_n 2, 1) := dk_28 (dk_at dksX0_fits_0 12 rfl rfl)
theorem dX0_fits_13 : decode cX0_fits 13 = .ok (.iconst (-1), 1) := dk_2 (dk_at dksX0_fits_0 13 rfl rfl)
theorem dX0_fits_14 : decode cX0_fits 14 = .ok (.if_icmp .ge 5, 3) := dk_162 0 5 (dk_at dksX0_fits_0 14 rfl rfl)
theorem dX0_fits_17 : decode cX0_fits 17 = .ok (.iconst (-1), 1) := dk_2 (dk_at dksX0_fits_0 17 rfl rfl)
theorem dX0_fits_18 : decode cX0_fits 18 = .ok (.ireturn, 1) := dk_172 (dk_at dksX0_fits_0 18 rfl rfl)
theorem dX0_fits_19 : decode cX0_fits 19 = .ok (.iconst 0, 1) := dk_3 (dk_at dksX0_fits_0 19 rfl rfl)
theorem dX0_fits_20 : decode cX0_fits 20 = .ok (.istore_n 3, 1) := dk_62 (dk_at dksX0_fits_0 20 rfl rfl)
theorem dX0_fits_21 : decode cX0_fits 21 = .ok (.iconst 1, 1) := dk_4 (dk_at dksX0_fits_0 21 rfl rfl)
theorem dX0_fits_22 : decode cX0_fits 22 = .ok (.istore 4, 2) := dk_54 4 (dk_at dksX0_fits_0 22 rfl rfl)
theorem dX0_fits_24 : decode cX0_fits 24 = .ok (.iload 4, 2) := dk_21 4 (dk_at dksX0_fits_1 0 rfl rfl)
theorem dX0_fits_26 : decode cX0_fits 26 = .ok (.iload_n 1, 1) := dk_27 (dk_at dksX0_fits_1 2 rfl rfl)
theorem dX0_fits_27 : decode cX0_fits 27 = .ok (.if_icmp .gt 56, 3) := dk_163 0 56 (dk_at dksX0_fits_1 3 rfl rfl)
theorem dX0_fits_30 : decode cX0_fits 30 = .ok (.iconst 0, 1) := dk_3 (dk_at dksX0_fits_1 6 rfl rfl)
theorem dX0_fits_31 : decode cX0_fits 31 = .ok (.istore 5, 2) := dk_54 5 (dk_at dksX0_fits_1 7 rfl rfl)
theorem dX0_fits_33 : decode cX0_fits 33 = .ok (.iload 5, 2) := dk_21 5 (dk_at dksX0_fits_1 9 rfl rfl)
theorem dX0_fits_35 : decode cX0_fits 35 = .ok (.iload 4, 2) := dk_21 4 (dk_at dksX0_fits_1 11 rfl rfl)
theorem dX0_fits_37 : decode cX0_fits 37 = .ok (.if_icmp .ge 40, 3) := dk_162 0 40 (dk_at dksX0_fits_1 13 rfl rfl)
theorem dX0_fits_40 : decode cX0_fits 40 = .ok (.aload_n 0, 1) := dk_42 (dk_at dksX0_fits_1 16 rfl rfl)
theorem dX0_fits_41 : decode cX0_fits 41 = .ok (.iload 4, 2) := dk_21 4 (dk_at dksX0_fits_1 17 rfl rfl)
theorem dX0_fits_43 : decode cX0_fits 43 = .ok (.iload 5, 2) := dk_21 5 (dk_at dksX0_fits_1 19 rfl rfl)
theorem dX0_fits_45 : decode cX0_fits 45 = .ok (.invokevirtual 349, 3) := dk_182 1 93 (dk_at dksX0_fits_1 21 rfl rfl)
theorem dX0_fits_48 : decode cX0_fits 48 = .ok (.ifCond .ne 6, 3) := dk_154 0 6 (dk_at dksX0_fits_2 0 rfl rfl)
theorem dX0_fits_51 : decode cX0_fits 51 = .ok (.goto 20, 3) := dk_167 0 20 (dk_at dksX0_fits_2 3 rfl rfl)
theorem dX0_fits_54 : decode cX0_fits 54 = .ok (.iload_n 3, 1) := dk_29 (dk_at dksX0_fits_2 6 rfl rfl)
theorem dX0_fits_55 : decode cX0_fits 55 = .ok (.iload_n 2, 1) := dk_28 (dk_at dksX0_fits_2 7 rfl rfl)
theorem dX0_fits_56 : decode cX0_fits 56 = .ok (.if_icmp .ne 12, 3) := dk_160 0 12 (dk_at dksX0_fits_2 8 rfl rfl)
theorem dX0_fits_59 : decode cX0_fits 59 = .ok (.bipush 100, 2) := dk_16 100 (dk_at dksX0_fits_2 11 rfl rfl)
theorem dX0_fits_61 : decode cX0_fits 61 = .ok (.iload 4, 2) := dk_21 4 (dk_at dksX0_fits_2 13 rfl rfl)
theorem dX0_fits_63 : decode cX0_fits 63 = .ok (.imul, 1) := dk_104 (dk_at dksX0_fits_2 15 rfl rfl)
theorem dX0_fits_64 : decode cX0_fits 64 = .ok (.iload 5, 2) := dk_21 5 (dk_at dksX0_fits_2 16 rfl rfl)
theorem dX0_fits_66 : decode cX0_fits 66 = .ok (.iadd, 1) := dk_96 (dk_at dksX0_fits_2 18 rfl rfl)
theorem dX0_fits_67 : decode cX0_fits 67 = .ok (.ireturn, 1) := dk_172 (dk_at dksX0_fits_2 19 rfl rfl)
theorem dX0_fits_68 : decode cX0_fits 68 = .ok (.iinc 3 1, 3) := dk_132 3 1 (dk_at dksX0_fits_2 20 rfl rfl)
theorem dX0_fits_71 : decode cX0_fits 71 = .ok (.iinc 5 1, 3) := dk_132 5 1 (dk_at dksX0_fits_3 0 rfl rfl)
theorem dX0_fits_74 : decode cX0_fits 74 = .ok (.goto (-41), 3) := dk_167 255 215 (dk_at dksX0_fits_3 3 rfl rfl)
theorem dX0_fits_77 : decode cX0_fits 77 = .ok (.iinc 4 1, 3) := dk_132 4 1 (dk_at dksX0_fits_3 6 rfl rfl)
theorem dX0_fits_80 : decode cX0_fits 80 = .ok (.goto (-56), 3) := dk_167 255 200 (dk_at dksX0_fits_3 9 rfl rfl)
theorem dX0_fits_83 : decode cX0_fits 83 = .ok (.iload_n 2, 1) := dk_28 (dk_at dksX0_fits_3 12 rfl rfl)
theorem dX0_fits_84 : decode cX0_fits 84 = .ok (.iconst (-1), 1) := dk_2 (dk_at dksX0_fits_3 13 rfl rfl)
theorem dX0_fits_85 : decode cX0_fits 85 = .ok (.if_icmp .ne 7, 3) := dk_160 0 7 (dk_at dksX0_fits_3 14 rfl rfl)
theorem dX0_fits_88 : decode cX0_fits 88 = .ok (.iload_n 3, 1) := dk_29 (dk_at dksX0_fits_3 17 rfl rfl)
theorem dX0_fits_89 : decode cX0_fits 89 = .ok (.goto 4, 3) := dk_167 0 4 (dk_at dksX0_fits_3 18 rfl rfl)
theorem dX0_fits_92 : decode cX0_fits 92 = .ok (.iconst (-1), 1) := dk_2 (dk_at dksX0_fits_3 21 rfl rfl)
theorem dX0_fits_93 : decode cX0_fits 93 = .ok (.ireturn, 1) := dk_172 (dk_at dksX0_fits_3 22 rfl rfl)
abbrev cX0_isFit : ByteArray := prog_1_method_68_code
def yX0_isFit : MethodName := ⟨RX0, "isFit", "(II)Z"⟩
def dkwX0_isFit_3 : List UInt8 := [172, 132, 3, 1, 167, 255, 182, 4, 172]
abbrev dktX0_isFit_3 : List UInt8 := dkwX0_isFit_3 ++ []
def dkwX0_isFit_2 : List UInt8 := [42, 180, 0, 10, 180, 1, 90, 29, 50, 4, 46, 4, 160, 0, 7, 4, 167, 0, 4, 3, 159, 0, 5, 3]
abbrev dktX0_isFit_2 : List UInt8 := dkwX0_isFit_2 ++ dktX0_isFit_3
def dkwX0_isFit_1 : List UInt8 := [50, 3, 46, 28, 100, 54, 4, 21, 4, 155, 0, 14, 21, 4, 27, 112, 154, 0, 7, 4, 167, 0, 4, 3]
abbrev dktX0_isFit_1 : List UInt8 := dkwX0_isFit_1 ++ dktX0_isFit_2
def dkwX0_isFit_0 : List UInt8 := [3, 62, 29, 42, 180, 0, 10, 180, 0, 64, 16, 8, 46, 162, 0, 66, 42, 180, 0, 10, 180, 1, 90, 29]
abbrev dktX0_isFit_0 : List UInt8 := dkwX0_isFit_0 ++ dktX0_isFit_1
theorem dksX0_isFit_0 : cX0_isFit.data.toList.drop 0 = dktX0_isFit_0 := by decide +kernel
theorem dksX0_isFit_1 : cX0_isFit.data.toList.drop 24 = dktX0_isFit_1 := dk_seg dksX0_isFit_0 24 rfl rfl
theorem dksX0_isFit_2 : cX0_isFit.data.toList.drop 48 = dktX0_isFit_2 := dk_seg dksX0_isFit_1 24 rfl rfl
theorem dksX0_isFit_3 : cX0_isFit.data.toList.drop 72 = dktX0_isFit_3 := dk_seg dksX0_isFit_2 24 rfl rfl
theorem dX0_isFit_0 : decode cX0_isFit 0 = .ok (.iconst 0, 1) := dk_3 (dk_at dksX0_isFit_0 0 rfl rfl)
theorem dX0_isFit_1 : decode cX0_isFit 1 = .ok (.istore_n 3, 1) := dk_62 (dk_at dksX0_isFit_0 1 rfl rfl)
theorem dX0_isFit_2 : decode cX0_isFit 2 = .ok (.iload_n 3, 1) := dk_29 (dk_at dksX0_isFit_0 2 rfl rfl)
theorem dX0_isFit_3 : decode cX0_isFit 3 = .ok (.aload_n 0, 1) := dk_42 (dk_at dksX0_isFit_0 3 rfl rfl)
theorem dX0_isFit_4 : decode cX0_isFit 4 = .ok (.getfield 10, 3) := dk_180 0 10 (dk_at dksX0_isFit_0 4 rfl rfl)
theorem dX0_isFit_7 : decode cX0_isFit 7 = .ok (.getfield 64, 3) := dk_180 0 64 (dk_at dksX0_isFit_0 7 rfl rfl)
theorem dX0_isFit_10 : decode cX0_isFit 10 = .ok (.bipush 8, 2) := dk_16 8 (dk_at dksX0_isFit_0 10 rfl rfl)
theorem dX0_isFit_12 : decode cX0_isFit 12 = .ok (.iaload, 1) := dk_46 (dk_at dksX0_isFit_0 12 rfl rfl)
theorem dX0_isFit_13 : decode cX0_isFit 13 = .ok (.if_icmp .ge 66, 3) := dk_162 0 66 (dk_at dksX0_isFit_0 13 rfl rfl)
theorem dX0_isFit_16 : decode cX0_isFit 16 = .ok (.aload_n 0, 1) := dk_42 (dk_at dksX0_isFit_0 16 rfl rfl)
theorem dX0_isFit_17 : decode cX0_isFit 17 = .ok (.getfield 10, 3) := dk_180 0 10 (dk_at dksX0_isFit_0 17 rfl rfl)
theorem dX0_isFit_20 : decode cX0_isFit 20 = .ok (.getfield 346, 3) := dk_180 1 90 (dk_at dksX0_isFit_0 20 rfl rfl)
theorem dX0_isFit_23 : decode cX0_isFit 23 = .ok (.iload_n 3, 1) := dk_29 (dk_at dksX0_isFit_0 23 rfl rfl)
theorem dX0_isFit_24 : decode cX0_isFit 24 = .ok (.aaload, 1) := dk_50 (dk_at dksX0_isFit_1 0 rfl rfl)
theorem dX0_isFit_25 : decode cX0_isFit 25 = .ok (.iconst 0, 1) := dk_3 (dk_at dksX0_isFit_1 1 rfl rfl)
theorem dX0_isFit_26 : decode cX0_isFit 26 = .ok (.iaload, 1) := dk_46 (dk_at dksX0_isFit_1 2 rfl rfl)
theorem dX0_isFit_27 : decode cX0_isFit 27 = .ok (.iload_n 2, 1) := dk_28 (dk_at dksX0_isFit_1 3 rfl rfl)
theorem dX0_isFit_28 : decode cX0_isFit 28 = .ok (.isub, 1) := dk_100 (dk_at dksX0_isFit_1 4 rfl rfl)
theorem dX0_isFit_29 : decode cX0_isFit 29 = .ok (.istore 4, 2) := dk_54 4 (dk_at dksX0_isFit_1 5 rfl rfl)
theorem dX0_isFit_31 : decode cX0_isFit 31 = .ok (.iload 4, 2) := dk_21 4 (dk_at dksX0_isFit_1 7 rfl rfl)
theorem dX0_isFit_33 : decode cX0_isFit 33 = .ok (.ifCond .lt 14, 3) := dk_155 0 14 (dk_at dksX0_isFit_1 9 rfl rfl)
theorem dX0_isFit_36 : decode cX0_isFit 36 = .ok (.iload 4, 2) := dk_21 4 (dk_at dksX0_isFit_1 12 rfl rfl)
theorem dX0_isFit_38 : decode cX0_isFit 38 = .ok (.iload_n 1, 1) := dk_27 (dk_at dksX0_isFit_1 14 rfl rfl)
theorem dX0_isFit_39 : decode cX0_isFit 39 = .ok (.irem, 1) := dk_112 (dk_at dksX0_isFit_1 15 rfl rfl)
theorem dX0_isFit_40 : decode cX0_isFit 40 = .ok (.ifCond .ne 7, 3) := dk_154 0 7 (dk_at dksX0_isFit_1 16 rfl rfl)
theorem dX0_isFit_43 : decode cX0_isFit 43 = .ok (.iconst 1, 1) := dk_4 (dk_at dksX0_isFit_1 19 rfl rfl)
theorem dX0_isFit_44 : decode cX0_isFit 44 = .ok (.goto 4, 3) := dk_167 0 4 (dk_at dksX0_isFit_1 20 rfl rfl)
theorem dX0_isFit_47 : decode cX0_isFit 47 = .ok (.iconst 0, 1) := dk_3 (dk_at dksX0_isFit_1 23 rfl rfl)
theorem dX0_isFit_48 : decode cX0_isFit 48 = .ok (.aload_n 0, 1) := dk_42 (dk_at dksX0_isFit_2 0 rfl rfl)
theorem dX0_isFit_49 : decode cX0_isFit 49 = .ok (.getfield 10, 3) := dk_180 0 10 (dk_at dksX0_isFit_2 1 rfl rfl)
theorem dX0_isFit_52 : decode cX0_isFit 52 = .ok (.getfield 346, 3) := dk_180 1 90 (dk_at dksX0_isFit_2 4 rfl rfl)
theorem dX0_isFit_55 : decode cX0_isFit 55 = .ok (.iload_n 3, 1) := dk_29 (dk_at dksX0_isFit_2 7 rfl rfl)
theorem dX0_isFit_56 : decode cX0_isFit 56 = .ok (.aaload, 1) := dk_50 (dk_at dksX0_isFit_2 8 rfl rfl)
theorem dX0_isFit_57 : decode cX0_isFit 57 = .ok (.iconst 1, 1) := dk_4 (dk_at dksX0_isFit_2 9 rfl rfl)
theorem dX0_isFit_58 : decode cX0_isFit 58 = .ok (.iaload, 1) := dk_46 (dk_at dksX0_isFit_2 10 rfl rfl)
theorem dX0_isFit_59 : decode cX0_isFit 59 = .ok (.iconst 1, 1) := dk_4 (dk_at dksX0_isFit_2 11 rfl rfl)
theorem dX0_isFit_60 : decode cX0_isFit 60 = .ok (.if_icmp .ne 7, 3) := dk_160 0 7 (dk_at dksX0_isFit_2 12 rfl rfl)
theorem dX0_isFit_63 : decode cX0_isFit 63 = .ok (.iconst 1, 1) := dk_4 (dk_at dksX0_isFit_2 15 rfl rfl)
theorem dX0_isFit_64 : decode cX0_isFit 64 = .ok (.goto 4, 3) := dk_167 0 4 (dk_at dksX0_isFit_2 16 rfl rfl)
theorem dX0_isFit_67 : decode cX0_isFit 67 = .ok (.iconst 0, 1) := dk_3 (dk_at dksX0_isFit_2 19 rfl rfl)
theorem dX0_isFit_68 : decode cX0_isFit 68 = .ok (.if_icmp .eq 5, 3) := dk_159 0 5 (dk_at dksX0_isFit_2 20 rfl rfl)
theorem dX0_isFit_71 : decode cX0_isFit 71 = .ok (.iconst 0, 1) := dk_3 (dk_at dksX0_isFit_2 23 rfl rfl)
theorem dX0_isFit_72 : decode cX0_isFit 72 = .ok (.ireturn, 1) := dk_172 (dk_at dksX0_isFit_3 0 rfl rfl)
theorem dX0_isFit_73 : decode cX0_isFit 73 = .ok (.iinc 3 1, 3) := dk_132 3 1 (dk_at dksX0_isFit_3 1 rfl rfl)
theorem dX0_isFit_76 : decode cX0_isFit 76 = .ok (.goto (-74), 3) := dk_167 255 182 (dk_at dksX0_isFit_3 4 rfl rfl)
theorem dX0_isFit_79 : decode cX0_isFit 79 = .ok (.iconst 1, 1) := dk_4 (dk_at dksX0_isFit_3 7 rfl rfl)
theorem dX0_isFit_80 : decode cX0_isFit 80 = .ok (.ireturn, 1) := dk_172 (dk_at dksX0_isFit_3 8 rfl rfl)
abbrev cX0_who : ByteArray := prog_1_method_70_code
def yX0_who : MethodName := ⟨RX0, "who", "()I"⟩
def dkwX0_who_4 : List UInt8 := [27, 29, 153, 0, 9, 4, 28, 120, 167, 0, 4, 3, 128, 60, 132, 2, 1, 167, 255, 148, 27, 172]
abbrev dktX0_who_4 : List UInt8 := dkwX0_who_4 ++ []
def dkwX0_who_3 : List UInt8 := [4, 160, 0, 7, 4, 167, 0, 4, 3, 160, 0, 7, 4, 167, 0, 4, 3, 62, 132, 4, 1, 167, 255, 186]
abbrev dktX0_who_3 : List UInt8 := dkwX0_who_3 ++ dktX0_who_4
def dkwX0_who_2 : List UInt8 := [180, 1, 90, 21, 4, 50, 3, 46, 133, 182, 0, 169, 42, 180, 0, 10, 180, 1, 90, 21, 4, 50, 4, 46]
abbrev dktX0_who_2 : List UInt8 := dkwX0_who_2 ++ dktX0_who_3
def dkwX0_who_1 : List UInt8 := [42, 180, 0, 10, 180, 0, 64, 16, 8, 46, 162, 0, 61, 29, 153, 0, 57, 42, 28, 42, 180, 0, 10]
abbrev dktX0_who_1 : List UInt8 := dkwX0_who_1 ++ dktX0_who_2
def dkwX0_who_0 : List UInt8 := [3, 60, 3, 61, 28, 42, 180, 0, 10, 180, 0, 64, 3, 46, 162, 0, 101, 4, 62, 3, 54, 4, 21, 4]
abbrev dktX0_who_0 : List UInt8 := dkwX0_who_0 ++ dktX0_who_1
theorem dksX0_who_0 : cX0_who.data.toList.drop 0 = dktX0_who_0 := by decide +kernel
theorem dksX0_who_1 : cX0_who.data.toList.drop 24 = dktX0_who_1 := dk_seg dksX0_who_0 24 rfl rfl
theorem dksX0_who_2 : cX0_who.data.toList.drop 47 = dktX0_who_2 := dk_seg dksX0_who_1 23 rfl rfl
theorem dksX0_who_3 : cX0_who.data.toList.drop 71 = dktX0_who_3 := dk_seg dksX0_who_2 24 rfl rfl
theorem dksX0_who_4 : cX0_who.data.toList.drop 95 = dktX0_who_4 := dk_seg dksX0_who_3 24 rfl rfl
theorem dX0_who_0 : decode cX0_who 0 = .ok (.iconst 0, 1) := dk_3 (dk_at dksX0_who_0 0 rfl rfl)
theorem dX0_who_1 : decode cX0_who 1 = .ok (.istore_n 1, 1) := dk_60 (dk_at dksX0_who_0 1 rfl rfl)
theorem dX0_who_2 : decode cX0_who 2 = .ok (.iconst 0, 1) := dk_3 (dk_at dksX0_who_0 2 rfl rfl)
theorem dX0_who_3 : decode cX0_who 3 = .ok (.istore_n 2, 1) := dk_61 (dk_at dksX0_who_0 3 rfl rfl)
theorem dX0_who_4 : decode cX0_who 4 = .ok (.iload_n 2, 1) := dk_28 (dk_at dksX0_who_0 4 rfl rfl)
theorem dX0_who_5 : decode cX0_who 5 = .ok (.aload_n 0, 1) := dk_42 (dk_at dksX0_who_0 5 rfl rfl)
theorem dX0_who_6 : decode cX0_who 6 = .ok (.getfield 10, 3) := dk_180 0 10 (dk_at dksX0_who_0 6 rfl rfl)
theorem dX0_who_9 : decode cX0_who 9 = .ok (.getfield 64, 3) := dk_180 0 64 (dk_at dksX0_who_0 9 rfl rfl)
theorem dX0_who_12 : decode cX0_who 12 = .ok (.iconst 0, 1) := dk_3 (dk_at dksX0_who_0 12 rfl rfl)
theorem dX0_who_13 : decode cX0_who 13 = .ok (.iaload, 1) := dk_46 (dk_at dksX0_who_0 13 rfl rfl)
theorem dX0_who_14 : decode cX0_who 14 = .ok (.if_icmp .ge 101, 3) := dk_162 0 101 (dk_at dksX0_who_0 14 rfl rfl)
theorem dX0_who_17 : decode cX0_who 17 = .ok (.iconst 1, 1) := dk_4 (dk_at dksX0_who_0 17 rfl rfl)
theorem dX0_who_18 : decode cX0_who 18 = .ok (.istore_n 3, 1) := dk_62 (dk_at dksX0_who_0 18 rfl rfl)
theorem dX0_who_19 : decode cX0_who 19 = .ok (.iconst 0, 1) := dk_3 (dk_at dksX0_who_0 19 rfl rfl)
theorem dX0_who_20 : decode cX0_who 20 = .ok (.istore 4, 2) := dk_54 4 (dk_at dksX0_who_0 20 rfl rfl)
theorem dX0_who_22 : decode cX0_who 22 = .ok (.iload 4, 2) := dk_21 4 (dk_at dksX0_who_0 22 rfl rfl)
theorem dX0_who_24 : decode cX0_who 24 = .ok (.aload_n 0, 1) := dk_42 (dk_at dksX0_who_1 0 rfl rfl)
theorem dX0_who_25 : decode cX0_who 25 = .ok (.getfield 10, 3) := dk_180 0 10 (dk_at dksX0_who_1 1 rfl rfl)
theorem dX0_who_28 : decode cX0_who 28 = .ok (.getfield 64, 3) := dk_180 0 64 (dk_at dksX0_who_1 4 rfl rfl)
theorem dX0_who_31 : decode cX0_who 31 = .ok (.bipush 8, 2) := dk_16 8 (dk_at dksX0_who_1 7 rfl rfl)
theorem dX0_who_33 : decode cX0_who 33 = .ok (.iaload, 1) := dk_46 (dk_at dksX0_who_1 9 rfl rfl)
theorem dX0_who_34 : decode cX0_who 34 = .ok (.if_icmp .ge 61, 3) := dk_162 0 61 (dk_at dksX0_who_1 10 rfl rfl)
theorem dX0_who_37 : decode cX0_who 37 = .ok (.iload_n 3, 1) := dk_29 (dk_at dksX0_who_1 13 rfl rfl)
theorem dX0_who_38 : decode cX0_who 38 = .ok (.ifCond .eq 57, 3) := dk_153 0 57 (dk_at dksX0_who_1 14 rfl rfl)
theorem dX0_who_41 : decode cX0_who 41 = .ok (.aload_n 0, 1) := dk_42 (dk_at dksX0_who_1 17 rfl rfl)
theorem dX0_who_42 : decode cX0_who 42 = .ok (.iload_n 2, 1) := dk_28 (dk_at dksX0_who_1 18 rfl rfl)
theorem dX0_who_43 : decode cX0_who 43 = .ok (.aload_n 0, 1) := dk_42 (dk_at dksX0_who_1 19 rfl rfl)
theorem dX0_who_44 : decode cX0_who 44 = .ok (.getfield 10, 3) := dk_180 0 10 (dk_at dksX0_who_1 20 rfl rfl)
theorem dX0_who_47 : decode cX0_who 47 = .ok (.getfield 346, 3) := dk_180 1 90 (dk_at dksX0_who_2 0 rfl rfl)
theorem dX0_who_50 : decode cX0_who 50 = .ok (.iload 4, 2) := dk_21 4 (dk_at dksX0_who_2 3 rfl rfl)
theorem dX0_who_52 : decode cX0_who 52 = .ok (.aaload, 1) := dk_50 (dk_at dksX0_who_2 5 rfl rfl)
theorem dX0_who_53 : decode cX0_who 53 = .ok (.iconst 0, 1) := dk_3 (dk_at dksX0_who_2 6 rfl rfl)
theorem dX0_who_54 : decode cX0_who 54 = .ok (.iaload, 1) := dk_46 (dk_at dksX0_who_2 7 rfl rfl)
theorem dX0_who_55 : decode cX0_who 55 = .ok (.i2l, 1) := dk_133 (dk_at dksX0_who_2 8 rfl rfl)
theorem dX0_who_56 : decode cX0_who 56 = .ok (.invokevirtual 169, 3) := dk_182 0 169 (dk_at dksX0_who_2 9 rfl rfl)
theorem dX0_who_59 : decode cX0_who 59 = .ok (.aload_n 0, 1) := dk_42 (dk_at dksX0_who_2 12 rfl rfl)
theorem dX0_who_60 : decode cX0_who 60 = .ok (.getfield 10, 3) := dk_180 0 10 (dk_at dksX0_who_2 13 rfl rfl)
theorem dX0_who_63 : decode cX0_who 63 = .ok (.getfield 346, 3) := dk_180 1 90 (dk_at dksX0_who_2 16 rfl rfl)
theorem dX0_who_66 : decode cX0_who 66 = .ok (.iload 4, 2) := dk_21 4 (dk_at dksX0_who_2 19 rfl rfl)
theorem dX0_who_68 : decode cX0_who 68 = .ok (.aaload, 1) := dk_50 (dk_at dksX0_who_2 21 rfl rfl)
theorem dX0_who_69 : decode cX0_who 69 = .ok (.iconst 1, 1) := dk_4 (dk_at dksX0_who_2 22 rfl rfl)
theorem dX0_who_70 : decode cX0_who 70 = .ok (.iaload, 1) := dk_46 (dk_at dksX0_who_2 23 rfl rfl)
theorem dX0_who_71 : decode cX0_who 71 = .ok (.iconst 1, 1) := dk_4 (dk_at dksX0_who_3 0 rfl rfl)
theorem dX0_who_72 : decode cX0_who 72 = .ok (.if_icmp .ne 7, 3) := dk_160 0 7 (dk_at dksX0_who_3 1 rfl rfl)
theorem dX0_who_75 : decode cX0_who 75 = .ok (.iconst 1, 1) := dk_4 (dk_at dksX0_who_3 4 rfl rfl)
theorem dX0_who_76 : decode cX0_who 76 = .ok (.goto 4, 3) := dk_167 0 4 (dk_at dksX0_who_3 5 rfl rfl)
theorem dX0_who_79 : decode cX0_who 79 = .ok (.iconst 0, 1) := dk_3 (dk_at dksX0_who_3 8 rfl rfl)
theorem dX0_who_80 : decode cX0_who 80 = .ok (.if_icmp .ne 7, 3) := dk_160 0 7 (dk_at dksX0_who_3 9 rfl rfl)
theorem dX0_who_83 : decode cX0_who 83 = .ok (.iconst 1, 1) := dk_4 (dk_at dksX0_who_3 12 rfl rfl)
theorem dX0_who_84 : decode cX0_who 84 = .ok (.goto 4, 3) := dk_167 0 4 (dk_at dksX0_who_3 13 rfl rfl)
theorem dX0_who_87 : decode cX0_who 87 = .ok (.iconst 0, 1) := dk_3 (dk_at dksX0_who_3 16 rfl rfl)
theorem dX0_who_88 : decode cX0_who 88 = .ok (.istore_n 3, 1) := dk_62 (dk_at dksX0_who_3 17 rfl rfl)
theorem dX0_who_89 : decode cX0_who 89 = .ok (.iinc 4 1, 3) := dk_132 4 1 (dk_at dksX0_who_3 18 rfl rfl)
theorem dX0_who_92 : decode cX0_who 92 = .ok (.goto (-70), 3) := dk_167 255 186 (dk_at dksX0_who_3 21 rfl rfl)
theorem dX0_who_95 : decode cX0_who 95 = .ok (.iload_n 1, 1) := dk_27 (dk_at dksX0_who_4 0 rfl rfl)
theorem dX0_who_96 : decode cX0_who 96 = .ok (.iload_n 3, 1) := dk_29 (dk_at dksX0_who_4 1 rfl rfl)
theorem dX0_who_97 : decode cX0_who 97 = .ok (.ifCond .eq 9, 3) := dk_153 0 9 (dk_at dksX0_who_4 2 rfl rfl)
theorem dX0_who_100 : decode cX0_who 100 = .ok (.iconst 1, 1) := dk_4 (dk_at dksX0_who_4 5 rfl rfl)
theorem dX0_who_101 : decode cX0_who 101 = .ok (.iload_n 2, 1) := dk_28 (dk_at dksX0_who_4 6 rfl rfl)
theorem dX0_who_102 : decode cX0_who 102 = .ok (.ishl, 1) := dk_120 (dk_at dksX0_who_4 7 rfl rfl)
theorem dX0_who_103 : decode cX0_who 103 = .ok (.goto 4, 3) := dk_167 0 4 (dk_at dksX0_who_4 8 rfl rfl)
theorem dX0_who_106 : decode cX0_who 106 = .ok (.iconst 0, 1) := dk_3 (dk_at dksX0_who_4 11 rfl rfl)
theorem dX0_who_107 : decode cX0_who 107 = .ok (.ior, 1) := dk_128 (dk_at dksX0_who_4 12 rfl rfl)
theorem dX0_who_108 : decode cX0_who 108 = .ok (.istore_n 1, 1) := dk_60 (dk_at dksX0_who_4 13 rfl rfl)
theorem dX0_who_109 : decode cX0_who 109 = .ok (.iinc 2 1, 3) := dk_132 2 1 (dk_at dksX0_who_4 14 rfl rfl)
theorem dX0_who_112 : decode cX0_who 112 = .ok (.goto (-108), 3) := dk_167 255 148 (dk_at dksX0_who_4 17 rfl rfl)
theorem dX0_who_115 : decode cX0_who 115 = .ok (.iload_n 1, 1) := dk_27 (dk_at dksX0_who_4 20 rfl rfl)
theorem dX0_who_116 : decode cX0_who 116 = .ok (.ireturn, 1) := dk_172 (dk_at dksX0_who_4 21 rfl rfl)
abbrev cX0_bits : ByteArray := prog_1_method_71_code
def yX0_bits : MethodName := ⟨RX0, "bits", "(IJ)J"⟩
def dkwX0_bits_2 : List UInt8 := [153, 0, 10, 10, 21, 6, 121, 167, 0, 4, 9, 129, 55, 4, 132, 6, 1, 167, 255, 220, 22, 4, 173]
abbrev dktX0_bits_2 : List UInt8 := dkwX0_bits_2 ++ []
def dkwX0_bits_1 : List UInt8 := [55, 4, 3, 54, 6, 21, 6, 16, 60, 162, 0, 35, 22, 4, 42, 27, 32, 21, 6, 133, 97, 182, 0, 169]
abbrev dktX0_bits_1 : List UInt8 := dkwX0_bits_1 ++ dktX0_bits_2
def dkwX0_bits_0 : List UInt8 := [42, 27, 182, 0, 95, 153, 0, 14, 32, 9, 20, 1, 16, 184, 0, 67, 154, 0, 7, 20, 0, 215, 173, 9]
abbrev dktX0_bits_0 : List UInt8 := dkwX0_bits_0 ++ dktX0_bits_1
theorem dksX0_bits_0 : cX0_bits.data.toList.drop 0 = dktX0_bits_0 := by decide +kernel
theorem dksX0_bits_1 : cX0_bits.data.toList.drop 24 = dktX0_bits_1 := dk_seg dksX0_bits_0 24 rfl rfl
theorem dksX0_bits_2 : cX0_bits.data.toList.drop 48 = dktX0_bits_2 := dk_seg dksX0_bits_1 24 rfl rfl
theorem dX0_bits_0 : decode cX0_bits 0 = .ok (.aload_n 0, 1) := dk_42 (dk_at dksX0_bits_0 0 rfl rfl)
theorem dX0_bits_1 : decode cX0_bits 1 = .ok (.iload_n 1, 1) := dk_27 (dk_at dksX0_bits_0 1 rfl rfl)
theorem dX0_bits_2 : decode cX0_bits 2 = .ok (.invokevirtual 95, 3) := dk_182 0 95 (dk_at dksX0_bits_0 2 rfl rfl)
theorem dX0_bits_5 : decode cX0_bits 5 = .ok (.ifCond .eq 14, 3) := dk_153 0 14 (dk_at dksX0_bits_0 5 rfl rfl)
theorem dX0_bits_8 : decode cX0_bits 8 = .ok (.lload_n 2, 1) := dk_32 (dk_at dksX0_bits_0 8 rfl rfl)
theorem dX0_bits_9 : decode cX0_bits 9 = .ok (.lconst 0, 1) := dk_9 (dk_at dksX0_bits_0 9 rfl rfl)
theorem dX0_bits_10 : decode cX0_bits 10 = .ok (.ldc2_w 272, 3) := dk_20 1 16 (dk_at dksX0_bits_0 10 rfl rfl)
theorem dX0_bits_13 : decode cX0_bits 13 = .ok (.invokestatic 67, 3) := dk_184 0 67 (dk_at dksX0_bits_0 13 rfl rfl)
theorem dX0_bits_16 : decode cX0_bits 16 = .ok (.ifCond .ne 7, 3) := dk_154 0 7 (dk_at dksX0_bits_0 16 rfl rfl)
theorem dX0_bits_19 : decode cX0_bits 19 = .ok (.ldc2_w 215, 3) := dk_20 0 215 (dk_at dksX0_bits_0 19 rfl rfl)
theorem dX0_bits_22 : decode cX0_bits 22 = .ok (.lreturn, 1) := dk_173 (dk_at dksX0_bits_0 22 rfl rfl)
theorem dX0_bits_23 : decode cX0_bits 23 = .ok (.lconst 0, 1) := dk_9 (dk_at dksX0_bits_0 23 rfl rfl)
theorem dX0_bits_24 : decode cX0_bits 24 = .ok (.lstore 4, 2) := dk_55 4 (dk_at dksX0_bits_1 0 rfl rfl)
theorem dX0_bits_26 : decode cX0_bits 26 = .ok (.iconst 0, 1) := dk_3 (dk_at dksX0_bits_1 2 rfl rfl)
theorem dX0_bits_27 : decode cX0_bits 27 = .ok (.istore 6, 2) := dk_54 6 (dk_at dksX0_bits_1 3 rfl rfl)
theorem dX0_bits_29 : decode cX0_bits 29 = .ok (.iload 6, 2) := dk_21 6 (dk_at dksX0_bits_1 5 rfl rfl)
theorem dX0_bits_31 : decode cX0_bits 31 = .ok (.bipush 60, 2) := dk_16 60 (dk_at dksX0_bits_1 7 rfl rfl)
theorem dX0_bits_33 : decode cX0_bits 33 = .ok (.if_icmp .ge 35, 3) := dk_162 0 35 (dk_at dksX0_bits_1 9 rfl rfl)
theorem dX0_bits_36 : decode cX0_bits 36 = .ok (.lload 4, 2) := dk_22 4 (dk_at dksX0_bits_1 12 rfl rfl)
theorem dX0_bits_38 : decode cX0_bits 38 = .ok (.aload_n 0, 1) := dk_42 (dk_at dksX0_bits_1 14 rfl rfl)
theorem dX0_bits_39 : decode cX0_bits 39 = .ok (.iload_n 1, 1) := dk_27 (dk_at dksX0_bits_1 15 rfl rfl)
theorem dX0_bits_40 : decode cX0_bits 40 = .ok (.lload_n 2, 1) := dk_32 (dk_at dksX0_bits_1 16 rfl rfl)
theorem dX0_bits_41 : decode cX0_bits 41 = .ok (.iload 6, 2) := dk_21 6 (dk_at dksX0_bits_1 17 rfl rfl)
theorem dX0_bits_43 : decode cX0_bits 43 = .ok (.i2l, 1) := dk_133 (dk_at dksX0_bits_1 19 rfl rfl)
theorem dX0_bits_44 : decode cX0_bits 44 = .ok (.ladd, 1) := dk_97 (dk_at dksX0_bits_1 20 rfl rfl)
theorem dX0_bits_45 : decode cX0_bits 45 = .ok (.invokevirtual 169, 3) := dk_182 0 169 (dk_at dksX0_bits_1 21 rfl rfl)
theorem dX0_bits_48 : decode cX0_bits 48 = .ok (.ifCond .eq 10, 3) := dk_153 0 10 (dk_at dksX0_bits_2 0 rfl rfl)
theorem dX0_bits_51 : decode cX0_bits 51 = .ok (.lconst 1, 1) := dk_10 (dk_at dksX0_bits_2 3 rfl rfl)
theorem dX0_bits_52 : decode cX0_bits 52 = .ok (.iload 6, 2) := dk_21 6 (dk_at dksX0_bits_2 4 rfl rfl)
theorem dX0_bits_54 : decode cX0_bits 54 = .ok (.lshl, 1) := dk_121 (dk_at dksX0_bits_2 6 rfl rfl)
theorem dX0_bits_55 : decode cX0_bits 55 = .ok (.goto 4, 3) := dk_167 0 4 (dk_at dksX0_bits_2 7 rfl rfl)
theorem dX0_bits_58 : decode cX0_bits 58 = .ok (.lconst 0, 1) := dk_9 (dk_at dksX0_bits_2 10 rfl rfl)
theorem dX0_bits_59 : decode cX0_bits 59 = .ok (.lor, 1) := dk_129 (dk_at dksX0_bits_2 11 rfl rfl)
theorem dX0_bits_60 : decode cX0_bits 60 = .ok (.lstore 4, 2) := dk_55 4 (dk_at dksX0_bits_2 12 rfl rfl)
theorem dX0_bits_62 : decode cX0_bits 62 = .ok (.iinc 6 1, 3) := dk_132 6 1 (dk_at dksX0_bits_2 14 rfl rfl)
theorem dX0_bits_65 : decode cX0_bits 65 = .ok (.goto (-36), 3) := dk_167 255 220 (dk_at dksX0_bits_2 17 rfl rfl)
theorem dX0_bits_68 : decode cX0_bits 68 = .ok (.lload 4, 2) := dk_22 4 (dk_at dksX0_bits_2 20 rfl rfl)
theorem dX0_bits_70 : decode cX0_bits 70 = .ok (.lreturn, 1) := dk_173 (dk_at dksX0_bits_2 22 rfl rfl)
abbrev cX0_other : ByteArray := prog_1_method_72_code
def yX0_other : MethodName := ⟨RX0, "other", "(IIII)I"⟩
def dkwX0_other_4 : List UInt8 := [160, 0, 7, 4, 167, 0, 4, 3, 96, 54, 5, 132, 6, 1, 167, 255, 194, 21, 5, 172]
abbrev dktX0_other_4 : List UInt8 := dkwX0_other_4 ++ []
def dkwX0_other_3 : List UInt8 := [54, 8, 21, 5, 21, 7, 21, 8, 159, 0, 22, 21, 8, 21, 4, 154, 0, 7, 4, 167, 0, 4, 3]
abbrev dktX0_other_3 : List UInt8 := dkwX0_other_3 ++ dktX0_other_4
def dkwX0_other_2 : List UInt8 := [29, 162, 0, 62, 42, 27, 21, 6, 133, 182, 0, 169, 54, 7, 42, 27, 21, 6, 133, 28, 182, 0, 166]
abbrev dktX0_other_2 : List UInt8 := dkwX0_other_2 ++ dktX0_other_3
def dkwX0_other_1 : List UInt8 := [153, 0, 14, 21, 4, 133, 9, 10, 184, 0, 67, 154, 0, 5, 2, 172, 3, 54, 5, 3, 54, 6, 21, 6]
abbrev dktX0_other_1 : List UInt8 := dkwX0_other_1 ++ dktX0_other_2
def dkwX0_other_0 : List UInt8 := [42, 27, 182, 0, 95, 153, 0, 33, 28, 184, 0, 102, 153, 0, 26, 29, 133, 10, 20, 0, 252, 184, 0, 67]
abbrev dktX0_other_0 : List UInt8 := dkwX0_other_0 ++ dktX0_other_1
theorem dksX0_other_0 : cX0_other.data.toList.drop 0 = dktX0_other_0 := by decide +kernel
theorem dksX0_other_1 : cX0_other.data.toList.drop 24 = dktX0_other_1 := dk_seg dksX0_other_0 24 rfl rfl
theorem dksX0_other_2 : cX0_other.data.toList.drop 48 = dktX0_other_2 := dk_seg dksX0_other_1 24 rfl rfl
theorem dksX0_other_3 : cX0_other.data.toList.drop 71 = dktX0_other_3 := dk_seg dksX0_other_2 23 rfl rfl
theorem dksX0_other_4 : cX0_other.data.toList.drop 94 = dktX0_other_4 := dk_seg dksX0_other_3 23 rfl rfl
theorem dX0_other_0 : decode cX0_other 0 = .ok (.aload_n 0, 1) := dk_42 (dk_at dksX0_other_0 0 rfl rfl)
theorem dX0_other_1 : decode cX0_other 1 = .ok (.iload_n 1, 1) := dk_27 (dk_at dksX0_other_0 1 rfl rfl)
theorem dX0_other_2 : decode cX0_other 2 = .ok (.invokevirtual 95, 3) := dk_182 0 95 (dk_at dksX0_other_0 2 rfl rfl)
theorem dX0_other_5 : decode cX0_other 5 = .ok (.ifCond .eq 33, 3) := dk_153 0 33 (dk_at dksX0_other_0 5 rfl rfl)
theorem dX0_other_8 : decode cX0_other 8 = .ok (.iload_n 2, 1) := dk_28 (dk_at dksX0_other_0 8 rfl rfl)
theorem dX0_other_9 : decode cX0_other 9 = .ok (.invokestatic 102, 3) := dk_184 0 102 (dk_at dksX0_other_0 9 rfl rfl)
theorem dX0_other_12 : decode cX0_other 12 = .ok (.ifCond .eq 26, 3) := dk_153 0 26 (dk_at dksX0_other_0 12 rfl rfl)
theorem dX0_other_15 : decode cX0_other 15 = .ok (.iload_n 3, 1) := dk_29 (dk_at dksX0_other_0 15 rfl rfl)
theorem dX0_other_16 : decode cX0_other 16 = .ok (.i2l, 1) := dk_133 (dk_at dksX0_other_0 16 rfl rfl)
theorem dX0_other_17 : decode cX0_other 17 = .ok (.lconst 1, 1) := dk_10 (dk_at dksX0_other_0 17 rfl rfl)
theorem dX0_other_18 : decode cX0_other 18 = .ok (.ldc2_w 252, 3) := dk_20 0 252 (dk_at dksX0_other_0 18 rfl rfl)
theorem dX0_other_21 : decode cX0_other 21 = .ok (.invokestatic 67, 3) := dk_184 0 67 (dk_at dksX0_other_0 21 rfl rfl)
theorem dX0_other_24 : decode cX0_other 24 = .ok (.ifCond .eq 14, 3) := dk_153 0 14 (dk_at dksX0_other_1 0 rfl rfl)
theorem dX0_other_27 : decode cX0_other 27 = .ok (.iload 4, 2) := dk_21 4 (dk_at dksX0_other_1 3 rfl rfl)
theorem dX0_other_29 : decode cX0_other 29 = .ok (.i2l, 1) := dk_133 (dk_at dksX0_other_1 5 rfl rfl)
theorem dX0_other_30 : decode cX0_other 30 = .ok (.lconst 0, 1) := dk_9 (dk_at dksX0_other_1 6 rfl rfl)
theorem dX0_other_31 : decode cX0_other 31 = .ok (.lconst 1, 1) := dk_10 (dk_at dksX0_other_1 7 rfl rfl)
theorem dX0_other_32 : decode cX0_other 32 = .ok (.invokestatic 67, 3) := dk_184 0 67 (dk_at dksX0_other_1 8 rfl rfl)
theorem dX0_other_35 : decode cX0_other 35 = .ok (.ifCond .ne 5, 3) := dk_154 0 5 (dk_at dksX0_other_1 11 rfl rfl)
theorem dX0_other_38 : decode cX0_other 38 = .ok (.iconst (-1), 1) := dk_2 (dk_at dksX0_other_1 14 rfl rfl)
theorem dX0_other_39 : decode cX0_other 39 = .ok (.ireturn, 1) := dk_172 (dk_at dksX0_other_1 15 rfl rfl)
theorem dX0_other_40 : decode cX0_other 40 = .ok (.iconst 0, 1) := dk_3 (dk_at dksX0_other_1 16 rfl rfl)
theorem dX0_other_41 : decode cX0_other 41 = .ok (.istore 5, 2) := dk_54 5 (dk_at dksX0_other_1 17 rfl rfl)
theorem dX0_other_43 : decode cX0_other 43 = .ok (.iconst 0, 1) := dk_3 (dk_at dksX0_other_1 19 rfl rfl)
theorem dX0_other_44 : decode cX0_other 44 = .ok (.istore 6, 2) := dk_54 6 (dk_at dksX0_other_1 20 rfl rfl)
theorem dX0_other_46 : decode cX0_other 46 = .ok (.iload 6, 2) := dk_21 6 (dk_at dksX0_other_1 22 rfl rfl)
theorem dX0_other_48 : decode cX0_other 48 = .ok (.iload_n 3, 1) := dk_29 (dk_at dksX0_other_2 0 rfl rfl)
theorem dX0_other_49 : decode cX0_other 49 = .ok (.if_icmp .ge 62, 3) := dk_162 0 62 (dk_at dksX0_other_2 1 rfl rfl)
theorem dX0_other_52 : decode cX0_other 52 = .ok (.aload_n 0, 1) := dk_42 (dk_at dksX0_other_2 4 rfl rfl)
theorem dX0_other_53 : decode cX0_other 53 = .ok (.iload_n 1, 1) := dk_27 (dk_at dksX0_other_2 5 rfl rfl)
theorem dX0_other_54 : decode cX0_other 54 = .ok (.iload 6, 2) := dk_21 6 (dk_at dksX0_other_2 6 rfl rfl)
theorem dX0_other_56 : decode cX0_other 56 = .ok (.i2l, 1) := dk_133 (dk_at dksX0_other_2 8 rfl rfl)
theorem dX0_other_57 : decode cX0_other 57 = .ok (.invokevirtual 169, 3) := dk_182 0 169 (dk_at dksX0_other_2 9 rfl rfl)
theorem dX0_other_60 : decode cX0_other 60 = .ok (.istore 7, 2) := dk_54 7 (dk_at dksX0_other_2 12 rfl rfl)
theorem dX0_other_62 : decode cX0_other 62 = .ok (.aload_n 0, 1) := dk_42 (dk_at dksX0_other_2 14 rfl rfl)
theorem dX0_other_63 : decode cX0_other 63 = .ok (.iload_n 1, 1) := dk_27 (dk_at dksX0_other_2 15 rfl rfl)
theorem dX0_other_64 : decode cX0_other 64 = .ok (.iload 6, 2) := dk_21 6 (dk_at dksX0_other_2 16 rfl rfl)
theorem dX0_other_66 : decode cX0_other 66 = .ok (.i2l, 1) := dk_133 (dk_at dksX0_other_2 18 rfl rfl)
theorem dX0_other_67 : decode cX0_other 67 = .ok (.iload_n 2, 1) := dk_28 (dk_at dksX0_other_2 19 rfl rfl)
theorem dX0_other_68 : decode cX0_other 68 = .ok (.invokevirtual 166, 3) := dk_182 0 166 (dk_at dksX0_other_2 20 rfl rfl)
theorem dX0_other_71 : decode cX0_other 71 = .ok (.istore 8, 2) := dk_54 8 (dk_at dksX0_other_3 0 rfl rfl)
theorem dX0_other_73 : decode cX0_other 73 = .ok (.iload 5, 2) := dk_21 5 (dk_at dksX0_other_3 2 rfl rfl)
theorem dX0_other_75 : decode cX0_other 75 = .ok (.iload 7, 2) := dk_21 7 (dk_at dksX0_other_3 4 rfl rfl)
theorem dX0_other_77 : decode cX0_other 77 = .ok (.iload 8, 2) := dk_21 8 (dk_at dksX0_other_3 6 rfl rfl)
theorem dX0_other_79 : decode cX0_other 79 = .ok (.if_icmp .eq 22, 3) := dk_159 0 22 (dk_at dksX0_other_3 8 rfl rfl)
theorem dX0_other_82 : decode cX0_other 82 = .ok (.iload 8, 2) := dk_21 8 (dk_at dksX0_other_3 11 rfl rfl)
theorem dX0_other_84 : decode cX0_other 84 = .ok (.iload 4, 2) := dk_21 4 (dk_at dksX0_other_3 13 rfl rfl)
theorem dX0_other_86 : decode cX0_other 86 = .ok (.ifCond .ne 7, 3) := dk_154 0 7 (dk_at dksX0_other_3 15 rfl rfl)
theorem dX0_other_89 : decode cX0_other 89 = .ok (.iconst 1, 1) := dk_4 (dk_at dksX0_other_3 18 rfl rfl)
theorem dX0_other_90 : decode cX0_other 90 = .ok (.goto 4, 3) := dk_167 0 4 (dk_at dksX0_other_3 19 rfl rfl)
theorem dX0_other_93 : decode cX0_other 93 = .ok (.iconst 0, 1) := dk_3 (dk_at dksX0_other_3 22 rfl rfl)
theorem dX0_other_94 : decode cX0_other 94 = .ok (.if_icmp .ne 7, 3) := dk_160 0 7 (dk_at dksX0_other_4 0 rfl rfl)
theorem dX0_other_97 : decode cX0_other 97 = .ok (.iconst 1, 1) := dk_4 (dk_at dksX0_other_4 3 rfl rfl)
theorem dX0_other_98 : decode cX0_other 98 = .ok (.goto 4, 3) := dk_167 0 4 (dk_at dksX0_other_4 4 rfl rfl)
theorem dX0_other_101 : decode cX0_other 101 = .ok (.iconst 0, 1) := dk_3 (dk_at dksX0_other_4 7 rfl rfl)
theorem dX0_other_102 : decode cX0_other 102 = .ok (.iadd, 1) := dk_96 (dk_at dksX0_other_4 8 rfl rfl)
theorem dX0_other_103 : decode cX0_other 103 = .ok (.istore 5, 2) := dk_54 5 (dk_at dksX0_other_4 9 rfl rfl)
theorem dX0_other_105 : decode cX0_other 105 = .ok (.iinc 6 1, 3) := dk_132 6 1 (dk_at dksX0_other_4 11 rfl rfl)
theorem dX0_other_108 : decode cX0_other 108 = .ok (.goto (-62), 3) := dk_167 255 194 (dk_at dksX0_other_4 14 rfl rfl)
theorem dX0_other_111 : decode cX0_other 111 = .ok (.iload 5, 2) := dk_21 5 (dk_at dksX0_other_4 17 rfl rfl)
theorem dX0_other_113 : decode cX0_other 113 = .ok (.ireturn, 1) := dk_172 (dk_at dksX0_other_4 19 rfl rfl)
abbrev cX0_hush : ByteArray := prog_1_method_73_code
def yX0_hush : MethodName := ⟨RX0, "hush", "(JII)J"⟩
def dkwX0_hush_7 : List UInt8 := [167, 0, 17, 21, 4, 5, 160, 0, 8, 22, 10, 167, 0, 6, 21, 7, 133, 173]
abbrev dktX0_hush_7 : List UInt8 := dkwX0_hush_7 ++ []
def dkwX0_hush_6 : List UInt8 := [167, 255, 173, 21, 4, 154, 0, 9, 21, 5, 133, 167, 0, 28, 21, 4, 4, 160, 0, 8, 22, 8]
abbrev dktX0_hush_6 : List UInt8 := dkwX0_hush_6 ++ dktX0_hush_7
def dkwX0_hush_5 : List UInt8 := [21, 13, 21, 7, 163, 0, 6, 167, 0, 14, 21, 13, 54, 7, 31, 21, 12, 133, 97, 55, 10, 132, 12, 1]
abbrev dktX0_hush_5 : List UInt8 := dkwX0_hush_5 ++ dktX0_hush_6
def dkwX0_hush_4 : List UInt8 := [21, 6, 21, 5, 164, 0, 20, 21, 6, 54, 5, 31, 21, 12, 133, 97, 21, 6, 133, 101, 10, 97, 55, 8]
abbrev dktX0_hush_4 : List UInt8 := dkwX0_hush_4 ++ dktX0_hush_5
def dkwX0_hush_3 : List UInt8 := [97, 182, 0, 254, 184, 1, 2, 54, 13, 21, 13, 154, 0, 10, 21, 6, 4, 96, 167, 0, 4, 3, 54, 6]
abbrev dktX0_hush_3 : List UInt8 := dkwX0_hush_3 ++ dktX0_hush_4
def dkwX0_hush_2 : List UInt8 := [20, 0, 215, 55, 8, 20, 0, 215, 55, 10, 3, 54, 12, 21, 12, 29, 162, 0, 83, 42, 31, 21, 12, 133]
abbrev dktX0_hush_2 : List UInt8 := dkwX0_hush_2 ++ dktX0_hush_3
def dkwX0_hush_1 : List UInt8 := [9, 20, 1, 96, 184, 0, 67, 154, 0, 7, 20, 0, 215, 173, 3, 54, 5, 3, 54, 6, 2, 54, 7]
abbrev dktX0_hush_1 : List UInt8 := dkwX0_hush_1 ++ dktX0_hush_2
def dkwX0_hush_0 : List UInt8 := [29, 133, 10, 20, 0, 252, 184, 0, 67, 153, 0, 25, 31, 29, 133, 184, 0, 243, 153, 0, 16, 21, 4, 133]
abbrev dktX0_hush_0 : List UInt8 := dkwX0_hush_0 ++ dktX0_hush_1
theorem dksX0_hush_0 : cX0_hush.data.toList.drop 0 = dktX0_hush_0 := by decide +kernel
theorem dksX0_hush_1 : cX0_hush.data.toList.drop 24 = dktX0_hush_1 := dk_seg dksX0_hush_0 24 rfl rfl
theorem dksX0_hush_2 : cX0_hush.data.toList.drop 47 = dktX0_hush_2 := dk_seg dksX0_hush_1 23 rfl rfl
theorem dksX0_hush_3 : cX0_hush.data.toList.drop 71 = dktX0_hush_3 := dk_seg dksX0_hush_2 24 rfl rfl
theorem dksX0_hush_4 : cX0_hush.data.toList.drop 95 = dktX0_hush_4 := dk_seg dksX0_hush_3 24 rfl rfl
theorem dksX0_hush_5 : cX0_hush.data.toList.drop 119 = dktX0_hush_5 := dk_seg dksX0_hush_4 24 rfl rfl
theorem dksX0_hush_6 : cX0_hush.data.toList.drop 143 = dktX0_hush_6 := dk_seg dksX0_hush_5 24 rfl rfl
theorem dksX0_hush_7 : cX0_hush.data.toList.drop 165 = dktX0_hush_7 := dk_seg dksX0_hush_6 22 rfl rfl
theorem dX0_hush_0 : decode cX0_hush 0 = .ok (.iload_n 3, 1) := dk_29 (dk_at dksX0_hush_0 0 rfl rfl)
theorem dX0_hush_1 : decode cX0_hush 1 = .ok (.i2l, 1) := dk_133 (dk_at dksX0_hush_0 1 rfl rfl)
theorem dX0_hush_2 : decode cX0_hush 2 = .ok (.lconst 1, 1) := dk_10 (dk_at dksX0_hush_0 2 rfl rfl)
theorem dX0_hush_3 : decode cX0_hush 3 = .ok (.ldc2_w 252, 3) := dk_20 0 252 (dk_at dksX0_hush_0 3 rfl rfl)
theorem dX0_hush_6 : decode cX0_hush 6 = .ok (.invokestatic 67, 3) := dk_184 0 67 (dk_at dksX0_hush_0 6 rfl rfl)
theorem dX0_hush_9 : decode cX0_hush 9 = .ok (.ifCond .eq 25, 3) := dk_153 0 25 (dk_at dksX0_hush_0 9 rfl rfl)
theorem dX0_hush_12 : decode cX0_hush 12 = .ok (.lload_n 1, 1) := dk_31 (dk_at dksX0_hush_0 12 rfl rfl)
theorem dX0_hush_13 : decode cX0_hush 13 = .ok (.iload_n 3, 1) := dk_29 (dk_at dksX0_hush_0 13 rfl rfl)
theorem dX0_hush_14 : decode cX0_hush 14 = .ok (.i2l, 1) := dk_133 (dk_at dksX0_hush_0 14 rfl rfl)
theorem dX0_hush_15 : decode cX0_hush 15 = .ok (.invokestatic 243, 3) := dk_184 0 243 (dk_at dksX0_hush_0 15 rfl rfl)
theorem dX0_hush_18 : decode cX0_hush 18 = .ok (.ifCond .eq 16, 3) := dk_153 0 16 (dk_at dksX0_hush_0 18 rfl rfl)
theorem dX0_hush_21 : decode cX0_hush 21 = .ok (.iload 4, 2) := dk_21 4 (dk_at dksX0_hush_0 21 rfl rfl)
theorem dX0_hush_23 : decode cX0_hush 23 = .ok (.i2l, 1) := dk_133 (dk_at dksX0_hush_0 23 rfl rfl)
theorem dX0_hush_24 : decode cX0_hush 24 = .ok (.lconst 0, 1) := dk_9 (dk_at dksX0_hush_1 0 rfl rfl)
theorem dX0_hush_25 : decode cX0_hush 25 = .ok (.ldc2_w 352, 3) := dk_20 1 96 (dk_at dksX0_hush_1 1 rfl rfl)
theorem dX0_hush_28 : decode cX0_hush 28 = .ok (.invokestatic 67, 3) := dk_184 0 67 (dk_at dksX0_hush_1 4 rfl rfl)
theorem dX0_hush_31 : decode cX0_hush 31 = .ok (.ifCond .ne 7, 3) := dk_154 0 7 (dk_at dksX0_hush_1 7 rfl rfl)
theorem dX0_hush_34 : decode cX0_hush 34 = .ok (.ldc2_w 215, 3) := dk_20 0 215 (dk_at dksX0_hush_1 10 rfl rfl)
theorem dX0_hush_37 : decode cX0_hush 37 = .ok (.lreturn, 1) := dk_173 (dk_at dksX0_hush_1 13 rfl rfl)
theorem dX0_hush_38 : decode cX0_hush 38 = .ok (.iconst 0, 1) := dk_3 (dk_at dksX0_hush_1 14 rfl rfl)
theorem dX0_hush_39 : decode cX0_hush 39 = .ok (.istore 5, 2) := dk_54 5 (dk_at dksX0_hush_1 15 rfl rfl)
theorem dX0_hush_41 : decode cX0_hush 41 = .ok (.iconst 0, 1) := dk_3 (dk_at dksX0_hush_1 17 rfl rfl)
theorem dX0_hush_42 : decode cX0_hush 42 = .ok (.istore 6, 2) := dk_54 6 (dk_at dksX0_hush_1 18 rfl rfl)
theorem dX0_hush_44 : decode cX0_hush 44 = .ok (.iconst (-1), 1) := dk_2 (dk_at dksX0_hush_1 20 rfl rfl)
theorem dX0_hush_45 : decode cX0_hush 45 = .ok (.istore 7, 2) := dk_54 7 (dk_at dksX0_hush_1 21 rfl rfl)
theorem dX0_hush_47 : decode cX0_hush 47 = .ok (.ldc2_w 215, 3) := dk_20 0 215 (dk_at dksX0_hush_2 0 rfl rfl)
theorem dX0_hush_50 : decode cX0_hush 50 = .ok (.lstore 8, 2) := dk_55 8 (dk_at dksX0_hush_2 3 rfl rfl)
theorem dX0_hush_52 : decode cX0_hush 52 = .ok (.ldc2_w 215, 3) := dk_20 0 215 (dk_at dksX0_hush_2 5 rfl rfl)
theorem dX0_hush_55 : decode cX0_hush 55 = .ok (.lstore 10, 2) := dk_55 10 (dk_at dksX0_hush_2 8 rfl rfl)
theorem dX0_hush_57 : decode cX0_hush 57 = .ok (.iconst 0, 1) := dk_3 (dk_at dksX0_hush_2 10 rfl rfl)
theorem dX0_hush_58 : decode cX0_hush 58 = .ok (.istore 12, 2) := dk_54 12 (dk_at dksX0_hush_2 11 rfl rfl)
theorem dX0_hush_60 : decode cX0_hush 60 = .ok (.iload 12, 2) := dk_21 12 (dk_at dksX0_hush_2 13 rfl rfl)
theorem dX0_hush_62 : decode cX0_hush 62 = .ok (.iload_n 3, 1) := dk_29 (dk_at dksX0_hush_2 15 rfl rfl)
theorem dX0_hush_63 : decode cX0_hush 63 = .ok (.if_icmp .ge 83, 3) := dk_162 0 83 (dk_at dksX0_hush_2 16 rfl rfl)
theorem dX0_hush_66 : decode cX0_hush 66 = .ok (.aload_n 0, 1) := dk_42 (dk_at dksX0_hush_2 19 rfl rfl)
theorem dX0_hush_67 : decode cX0_hush 67 = .ok (.lload_n 1, 1) := dk_31 (dk_at dksX0_hush_2 20 rfl rfl)
theorem dX0_hush_68 : decode cX0_hush 68 = .ok (.iload 12, 2) := dk_21 12 (dk_at dksX0_hush_2 21 rfl rfl)
theorem dX0_hush_70 : decode cX0_hush 70 = .ok (.i2l, 1) := dk_133 (dk_at dksX0_hush_2 23 rfl rfl)
theorem dX0_hush_71 : decode cX0_hush 71 = .ok (.ladd, 1) := dk_97 (dk_at dksX0_hush_3 0 rfl rfl)
theorem dX0_hush_72 : decode cX0_hush 72 = .ok (.invokevirtual 254, 3) := dk_182 0 254 (dk_at dksX0_hush_3 1 rfl rfl)
theorem dX0_hush_75 : decode cX0_hush 75 = .ok (.invokestatic 258, 3) := dk_184 1 2 (dk_at dksX0_hush_3 4 rfl rfl)
theorem dX0_hush_78 : decode cX0_hush 78 = .ok (.istore 13, 2) := dk_54 13 (dk_at dksX0_hush_3 7 rfl rfl)
theorem dX0_hush_80 : decode cX0_hush 80 = .ok (.iload 13, 2) := dk_21 13 (dk_at dksX0_hush_3 9 rfl rfl)
theorem dX0_hush_82 : decode cX0_hush 82 = .ok (.ifCond .ne 10, 3) := dk_154 0 10 (dk_at dksX0_hush_3 11 rfl rfl)
theorem dX0_hush_85 : decode cX0_hush 85 = .ok (.iload 6, 2) := dk_21 6 (dk_at dksX0_hush_3 14 rfl rfl)
theorem dX0_hush_87 : decode cX0_hush 87 = .ok (.iconst 1, 1) := dk_4 (dk_at dksX0_hush_3 16 rfl rfl)
theorem dX0_hush_88 : decode cX0_hush 88 = .ok (.iadd, 1) := dk_96 (dk_at dksX0_hush_3 17 rfl rfl)
theorem dX0_hush_89 : decode cX0_hush 89 = .ok (.goto 4, 3) := dk_167 0 4 (dk_at dksX0_hush_3 18 rfl rfl)
theorem dX0_hush_92 : decode cX0_hush 92 = .ok (.iconst 0, 1) := dk_3 (dk_at dksX0_hush_3 21 rfl rfl)
theorem dX0_hush_93 : decode cX0_hush 93 = .ok (.istore 6, 2) := dk_54 6 (dk_at dksX0_hush_3 22 rfl rfl)
theorem dX0_hush_95 : decode cX0_hush 95 = .ok (.iload 6, 2) := dk_21 6 (dk_at dksX0_hush_4 0 rfl rfl)
theorem dX0_hush_97 : decode cX0_hush 97 = .ok (.iload 5, 2) := dk_21 5 (dk_at dksX0_hush_4 2 rfl rfl)
theorem dX0_hush_99 : decode cX0_hush 99 = .ok (.if_icmp .le 20, 3) := dk_164 0 20 (dk_at dksX0_hush_4 4 rfl rfl)
theorem dX0_hush_102 : decode cX0_hush 102 = .ok (.iload 6, 2) := dk_21 6 (dk_at dksX0_hush_4 7 rfl rfl)
theorem dX0_hush_104 : decode cX0_hush 104 = .ok (.istore 5, 2) := dk_54 5 (dk_at dksX0_hush_4 9 rfl rfl)
theorem dX0_hush_106 : decode cX0_hush 106 = .ok (.lload_n 1, 1) := dk_31 (dk_at dksX0_hush_4 11 rfl rfl)
theorem dX0_hush_107 : decode cX0_hush 107 = .ok (.iload 12, 2) := dk_21 12 (dk_at dksX0_hush_4 12 rfl rfl)
theorem dX0_hush_109 : decode cX0_hush 109 = .ok (.i2l, 1) := dk_133 (dk_at dksX0_hush_4 14 rfl rfl)
theorem dX0_hush_110 : decode cX0_hush 110 = .ok (.ladd, 1) := dk_97 (dk_at dksX0_hush_4 15 rfl rfl)
theorem dX0_hush_111 : decode cX0_hush 111 = .ok (.iload 6, 2) := dk_21 6 (dk_at dksX0_hush_4 16 rfl rfl)
theorem dX0_hush_113 : decode cX0_hush 113 = .ok (.i2l, 1) := dk_133 (dk_at dksX0_hush_4 18 rfl rfl)
theorem dX0_hush_114 : decode cX0_hush 114 = .ok (.lsub, 1) := dk_101 (dk_at dksX0_hush_4 19 rfl rfl)
theorem dX0_hush_115 : decode cX0_hush 115 = .ok (.lconst 1, 1) := dk_10 (dk_at dksX0_hush_4 20 rfl rfl)
theorem dX0_hush_116 : decode cX0_hush 116 = .ok (.ladd, 1) := dk_97 (dk_at dksX0_hush_4 21 rfl rfl)
theorem dX0_hush_117 : decode cX0_hush 117 = .ok (.lstore 8, 2) := dk_55 8 (dk_at dksX0_hush_4 22 rfl rfl)
theorem dX0_hush_119 : decode cX0_hush 119 = .ok (.iload 13, 2) := dk_21 13 (dk_at dksX0_hush_5 0 rfl rfl)
theorem dX0_hush_121 : decode cX0_hush 121 = .ok (.iload 7, 2) := dk_21 7 (dk_at dksX0_hush_5 2 rfl rfl)
theorem dX0_hush_123 : decode cX0_hush 123 = .ok (.if_icmp .gt 6, 3) := dk_163 0 6 (dk_at dksX0_hush_5 4 rfl rfl)
theorem dX0_hush_126 : decode cX0_hush 126 = .ok (.goto 14, 3) := dk_167 0 14 (dk_at dksX0_hush_5 7 rfl rfl)
theorem dX0_hush_129 : decode cX0_hush 129 = .ok (.iload 13, 2) := dk_21 13 (dk_at dksX0_hush_5 10 rfl rfl)
theorem dX0_hush_131 : decode cX0_hush 131 = .ok (.istore 7, 2) := dk_54 7 (dk_at dksX0_hush_5 12 rfl rfl)
theorem dX0_hush_133 : decode cX0_hush 133 = .ok (.lload_n 1, 1) := dk_31 (dk_at dksX0_hush_5 14 rfl rfl)
theorem dX0_hush_134 : decode cX0_hush 134 = .ok (.iload 12, 2) := dk_21 12 (dk_at dksX0_hush_5 15 rfl rfl)
theorem dX0_hush_136 : decode cX0_hush 136 = .ok (.i2l, 1) := dk_133 (dk_at dksX0_hush_5 17 rfl rfl)
theorem dX0_hush_137 : decode cX0_hush 137 = .ok (.ladd, 1) := dk_97 (dk_at dksX0_hush_5 18 rfl rfl)
theorem dX0_hush_138 : decode cX0_hush 138 = .ok (.lstore 10, 2) := dk_55 10 (dk_at dksX0_hush_5 19 rfl rfl)
theorem dX0_hush_140 : decode cX0_hush 140 = .ok (.iinc 12 1, 3) := dk_132 12 1 (dk_at dksX0_hush_5 21 rfl rfl)
theorem dX0_hush_143 : decode cX0_hush 143 = .ok (.goto (-83), 3) := dk_167 255 173 (dk_at dksX0_hush_6 0 rfl rfl)
theorem dX0_hush_146 : decode cX0_hush 146 = .ok (.iload 4, 2) := dk_21 4 (dk_at dksX0_hush_6 3 rfl rfl)
theorem dX0_hush_148 : decode cX0_hush 148 = .ok (.ifCond .ne 9, 3) := dk_154 0 9 (dk_at dksX0_hush_6 5 rfl rfl)
theorem dX0_hush_151 : decode cX0_hush 151 = .ok (.iload 5, 2) := dk_21 5 (dk_at dksX0_hush_6 8 rfl rfl)
theorem dX0_hush_153 : decode cX0_hush 153 = .ok (.i2l, 1) := dk_133 (dk_at dksX0_hush_6 10 rfl rfl)
theorem dX0_hush_154 : decode cX0_hush 154 = .ok (.goto 28, 3) := dk_167 0 28 (dk_at dksX0_hush_6 11 rfl rfl)
theorem dX0_hush_157 : decode cX0_hush 157 = .ok (.iload 4, 2) := dk_21 4 (dk_at dksX0_hush_6 14 rfl rfl)
theorem dX0_hush_159 : decode cX0_hush 159 = .ok (.iconst 1, 1) := dk_4 (dk_at dksX0_hush_6 16 rfl rfl)
theorem dX0_hush_160 : decode cX0_hush 160 = .ok (.if_icmp .ne 8, 3) := dk_160 0 8 (dk_at dksX0_hush_6 17 rfl rfl)
theorem dX0_hush_163 : decode cX0_hush 163 = .ok (.lload 8, 2) := dk_22 8 (dk_at dksX0_hush_6 20 rfl rfl)
theorem dX0_hush_165 : decode cX0_hush 165 = .ok (.goto 17, 3) := dk_167 0 17 (dk_at dksX0_hush_7 0 rfl rfl)
theorem dX0_hush_168 : decode cX0_hush 168 = .ok (.iload 4, 2) := dk_21 4 (dk_at dksX0_hush_7 3 rfl rfl)
theorem dX0_hush_170 : decode cX0_hush 170 = .ok (.iconst 2, 1) := dk_5 (dk_at dksX0_hush_7 5 rfl rfl)
theorem dX0_hush_171 : decode cX0_hush 171 = .ok (.if_icmp .ne 8, 3) := dk_160 0 8 (dk_at dksX0_hush_7 6 rfl rfl)
theorem dX0_hush_174 : decode cX0_hush 174 = .ok (.lload 10, 2) := dk_22 10 (dk_at dksX0_hush_7 9 rfl rfl)
theorem dX0_hush_176 : decode cX0_hush 176 = .ok (.goto 6, 3) := dk_167 0 6 (dk_at dksX0_hush_7 11 rfl rfl)
theorem dX0_hush_179 : decode cX0_hush 179 = .ok (.iload 7, 2) := dk_21 7 (dk_at dksX0_hush_7 14 rfl rfl)
theorem dX0_hush_181 : decode cX0_hush 181 = .ok (.i2l, 1) := dk_133 (dk_at dksX0_hush_7 16 rfl rfl)
theorem dX0_hush_182 : decode cX0_hush 182 = .ok (.lreturn, 1) := dk_173 (dk_at dksX0_hush_7 17 rfl rfl)
abbrev cX0_child : ByteArray := prog_1_method_76_code
def yX0_child : MethodName := ⟨RX0, "child", "(IIII)I"⟩
def dkwX0_child_5 : List UInt8 := [132, 5, 1, 167, 255, 206, 2, 172]
abbrev dktX0_child_5 : List UInt8 := dkwX0_child_5 ++ []
def dkwX0_child_4 : List UInt8 := [182, 1, 102, 153, 0, 13, 17, 3, 232, 21, 5, 104, 21, 6, 96, 172, 132, 6, 1, 167, 255, 222]
abbrev dktX0_child_4 : List UInt8 := dkwX0_child_4 ++ dktX0_child_5
def dkwX0_child_3 : List UInt8 := [21, 4, 163, 0, 49, 3, 54, 6, 21, 6, 21, 5, 162, 0, 33, 42, 21, 5, 21, 6, 27, 28, 29]
abbrev dktX0_child_3 : List UInt8 := dkwX0_child_3 ++ dktX0_child_4
def dkwX0_child_2 : List UInt8 := [154, 0, 16, 21, 4, 133, 10, 20, 0, 100, 184, 0, 67, 154, 0, 5, 2, 172, 4, 54, 5, 21, 5]
abbrev dktX0_child_2 : List UInt8 := dkwX0_child_2 ++ dktX0_child_3
def dkwX0_child_1 : List UInt8 := [153, 0, 11, 42, 29, 182, 0, 212, 153, 0, 32, 29, 27, 184, 0, 173, 154, 0, 24, 29, 28, 184, 0, 173]
abbrev dktX0_child_1 : List UInt8 := dkwX0_child_1 ++ dktX0_child_2
def dkwX0_child_0 : List UInt8 := [42, 27, 182, 0, 95, 153, 0, 57, 42, 28, 182, 0, 95, 153, 0, 49, 27, 28, 159, 0, 44, 29]
abbrev dktX0_child_0 : List UInt8 := dkwX0_child_0 ++ dktX0_child_1
theorem dksX0_child_0 : cX0_child.data.toList.drop 0 = dktX0_child_0 := by decide +kernel
theorem dksX0_child_1 : cX0_child.data.toList.drop 22 = dktX0_child_1 := dk_seg dksX0_child_0 22 rfl rfl
theorem dksX0_child_2 : cX0_child.data.toList.drop 46 = dktX0_child_2 := dk_seg dksX0_child_1 24 rfl rfl
theorem dksX0_child_3 : cX0_child.data.toList.drop 69 = dktX0_child_3 := dk_seg dksX0_child_2 23 rfl rfl
theorem dksX0_child_4 : cX0_child.data.toList.drop 92 = dktX0_child_4 := dk_seg dksX0_child_3 23 rfl rfl
theorem dksX0_child_5 : cX0_child.data.toList.drop 114 = dktX0_child_5 := dk_seg dksX0_child_4 22 rfl rfl
theorem dX0_child_0 : decode cX0_child 0 = .ok (.aload_n 0, 1) := dk_42 (dk_at dksX0_child_0 0 rfl rfl)
theorem dX0_child_1 : decode cX0_child 1 = .ok (.iload_n 1, 1) := dk_27 (dk_at dksX0_child_0 1 rfl rfl)
theorem dX0_child_2 : decode cX0_child 2 = .ok (.invokevirtual 95, 3) := dk_182 0 95 (dk_at dksX0_child_0 2 rfl rfl)
theorem dX0_child_5 : decode cX0_child 5 = .ok (.ifCond .eq 57, 3) := dk_153 0 57 (dk_at dksX0_child_0 5 rfl rfl)
theorem dX0_child_8 : decode cX0_child 8 = .ok (.aload_n 0, 1) := dk_42 (dk_at dksX0_child_0 8 rfl rfl)
theorem dX0_child_9 : decode cX0_child 9 = .ok (.iload_n 2, 1) := dk_28 (dk_at dksX0_child_0 9 rfl rfl)
theorem dX0_child_10 : decode cX0_child 10 = .ok (.invokevirtual 95, 3) := dk_182 0 95 (dk_at dksX0_child_0 10 rfl rfl)
theorem dX0_child_13 : decode cX0_child 13 = .ok (.ifCond .eq 49, 3) := dk_153 0 49 (dk_at dksX0_child_0 13 rfl rfl)
theorem dX0_child_16 : decode cX0_child 16 = .ok (.iload_n 1, 1) := dk_27 (dk_at dksX0_child_0 16 rfl rfl)
theorem dX0_child_17 : decode cX0_child 17 = .ok (.iload_n 2, 1) := dk_28 (dk_at dksX0_child_0 17 rfl rfl)
theorem dX0_child_18 : decode cX0_child 18 = .ok (.if_icmp .eq 44, 3) := dk_159 0 44 (dk_at dksX0_child_0 18 rfl rfl)
theorem dX0_child_21 : decode cX0_child 21 = .ok (.iload_n 3, 1) := dk_29 (dk_at dksX0_child_0 21 rfl rfl)
theorem dX0_child_22 : decode cX0_child 22 = .ok (.ifCond .eq 11, 3) := dk_153 0 11 (dk_at dksX0_child_1 0 rfl rfl)
theorem dX0_child_25 : decode cX0_child 25 = .ok (.aload_n 0, 1) := dk_42 (dk_at dksX0_child_1 3 rfl rfl)
theorem dX0_child_26 : decode cX0_child 26 = .ok (.iload_n 3, 1) := dk_29 (dk_at dksX0_child_1 4 rfl rfl)
theorem dX0_child_27 : decode cX0_child 27 = .ok (.invokevirtual 212, 3) := dk_182 0 212 (dk_at dksX0_child_1 5 rfl rfl)
theorem dX0_child_30 : decode cX0_child 30 = .ok (.ifCond .eq 32, 3) := dk_153 0 32 (dk_at dksX0_child_1 8 rfl rfl)
theorem dX0_child_33 : decode cX0_child 33 = .ok (.iload_n 3, 1) := dk_29 (dk_at dksX0_child_1 11 rfl rfl)
theorem dX0_child_34 : decode cX0_child 34 = .ok (.iload_n 1, 1) := dk_27 (dk_at dksX0_child_1 12 rfl rfl)
theorem dX0_child_35 : decode cX0_child 35 = .ok (.invokestatic 173, 3) := dk_184 0 173 (dk_at dksX0_child_1 13 rfl rfl)
theorem dX0_child_38 : decode cX0_child 38 = .ok (.ifCond .ne 24, 3) := dk_154 0 24 (dk_at dksX0_child_1 16 rfl rfl)
theorem dX0_child_41 : decode cX0_child 41 = .ok (.iload_n 3, 1) := dk_29 (dk_at dksX0_child_1 19 rfl rfl)
theorem dX0_child_42 : decode cX0_child 42 = .ok (.iload_n 2, 1) := dk_28 (dk_at dksX0_child_1 20 rfl rfl)
theorem dX0_child_43 : decode cX0_child 43 = .ok (.invokestatic 173, 3) := dk_184 0 173 (dk_at dksX0_child_1 21 rfl rfl)
theorem dX0_child_46 : decode cX0_child 46 = .ok (.ifCond .ne 16, 3) := dk_154 0 16 (dk_at dksX0_child_2 0 rfl rfl)
theorem dX0_child_49 : decode cX0_child 49 = .ok (.iload 4, 2) := dk_21 4 (dk_at dksX0_child_2 3 rfl rfl)
theorem dX0_child_51 : decode cX0_child 51 = .ok (.i2l, 1) := dk_133 (dk_at dksX0_child_2 5 rfl rfl)
theorem dX0_child_52 : decode cX0_child 52 = .ok (.lconst 1, 1) := dk_10 (dk_at dksX0_child_2 6 rfl rfl)
theorem dX0_child_53 : decode cX0_child 53 = .ok (.ldc2_w 100, 3) := dk_20 0 100 (dk_at dksX0_child_2 7 rfl rfl)
theorem dX0_child_56 : decode cX0_child 56 = .ok (.invokestatic 67, 3) := dk_184 0 67 (dk_at dksX0_child_2 10 rfl rfl)
theorem dX0_child_59 : decode cX0_child 59 = .ok (.ifCond .ne 5, 3) := dk_154 0 5 (dk_at dksX0_child_2 13 rfl rfl)
theorem dX0_child_62 : decode cX0_child 62 = .ok (.iconst (-1), 1) := dk_2 (dk_at dksX0_child_2 16 rfl rfl)
theorem dX0_child_63 : decode cX0_child 63 = .ok (.ireturn, 1) := dk_172 (dk_at dksX0_child_2 17 rfl rfl)
theorem dX0_child_64 : decode cX0_child 64 = .ok (.iconst 1, 1) := dk_4 (dk_at dksX0_child_2 18 rfl rfl)
theorem dX0_child_65 : decode cX0_child 65 = .ok (.istore 5, 2) := dk_54 5 (dk_at dksX0_child_2 19 rfl rfl)
theorem dX0_child_67 : decode cX0_child 67 = .ok (.iload 5, 2) := dk_21 5 (dk_at dksX0_child_2 21 rfl rfl)
theorem dX0_child_69 : decode cX0_child 69 = .ok (.iload 4, 2) := dk_21 4 (dk_at dksX0_child_3 0 rfl rfl)
theorem dX0_child_71 : decode cX0_child 71 = .ok (.if_icmp .gt 49, 3) := dk_163 0 49 (dk_at dksX0_child_3 2 rfl rfl)
theorem dX0_child_74 : decode cX0_child 74 = .ok (.iconst 0, 1) := dk_3 (dk_at dksX0_child_3 5 rfl rfl)
theorem dX0_child_75 : decode cX0_child 75 = .ok (.istore 6, 2) := dk_54 6 (dk_at dksX0_child_3 6 rfl rfl)
theorem dX0_child_77 : decode cX0_child 77 = .ok (.iload 6, 2) := dk_21 6 (dk_at dksX0_child_3 8 rfl rfl)
theorem dX0_child_79 : decode cX0_child 79 = .ok (.iload 5, 2) := dk_21 5 (dk_at dksX0_child_3 10 rfl rfl)
theorem dX0_child_81 : decode cX0_child 81 = .ok (.if_icmp .ge 33, 3) := dk_162 0 33 (dk_at dksX0_child_3 12 rfl rfl)
theorem dX0_child_84 : decode cX0_child 84 = .ok (.aload_n 0, 1) := dk_42 (dk_at dksX0_child_3 15 rfl rfl)
theorem dX0_child_85 : decode cX0_child 85 = .ok (.iload 5, 2) := dk_21 5 (dk_at dksX0_child_3 16 rfl rfl)
theorem dX0_child_87 : decode cX0_child 87 = .ok (.iload 6, 2) := dk_21 6 (dk_at dksX0_child_3 18 rfl rfl)
theorem dX0_child_89 : decode cX0_child 89 = .ok (.iload_n 1, 1) := dk_27 (dk_at dksX0_child_3 20 rfl rfl)
theorem dX0_child_90 : decode cX0_child 90 = .ok (.iload_n 2, 1) := dk_28 (dk_at dksX0_child_3 21 rfl rfl)
theorem dX0_child_91 : decode cX0_child 91 = .ok (.iload_n 3, 1) := dk_29 (dk_at dksX0_child_3 22 rfl rfl)
theorem dX0_child_92 : decode cX0_child 92 = .ok (.invokevirtual 358, 3) := dk_182 1 102 (dk_at dksX0_child_4 0 rfl rfl)
theorem dX0_child_95 : decode cX0_child 95 = .ok (.ifCond .eq 13, 3) := dk_153 0 13 (dk_at dksX0_child_4 3 rfl rfl)
theorem dX0_child_98 : decode cX0_child 98 = .ok (.sipush 1000, 3) := dk_17 3 232 (dk_at dksX0_child_4 6 rfl rfl)
theorem dX0_child_101 : decode cX0_child 101 = .ok (.iload 5, 2) := dk_21 5 (dk_at dksX0_child_4 9 rfl rfl)
theorem dX0_child_103 : decode cX0_child 103 = .ok (.imul, 1) := dk_104 (dk_at dksX0_child_4 11 rfl rfl)
theorem dX0_child_104 : decode cX0_child 104 = .ok (.iload 6, 2) := dk_21 6 (dk_at dksX0_child_4 12 rfl rfl)
theorem dX0_child_106 : decode cX0_child 106 = .ok (.iadd, 1) := dk_96 (dk_at dksX0_child_4 14 rfl rfl)
theorem dX0_child_107 : decode cX0_child 107 = .ok (.ireturn, 1) := dk_172 (dk_at dksX0_child_4 15 rfl rfl)
theorem dX0_child_108 : decode cX0_child 108 = .ok (.iinc 6 1, 3) := dk_132 6 1 (dk_at dksX0_child_4 16 rfl rfl)
theorem dX0_child_111 : decode cX0_child 111 = .ok (.goto (-34), 3) := dk_167 255 222 (dk_at dksX0_child_4 19 rfl rfl)
theorem dX0_child_114 : decode cX0_child 114 = .ok (.iinc 5 1, 3) := dk_132 5 1 (dk_at dksX0_child_5 0 rfl rfl)
theorem dX0_child_117 : decode cX0_child 117 = .ok (.goto (-50), 3) := dk_167 255 206 (dk_at dksX0_child_5 3 rfl rfl)
theorem dX0_child_120 : decode cX0_child 120 = .ok (.iconst (-1), 1) := dk_2 (dk_at dksX0_child_5 6 rfl rfl)
theorem dX0_child_121 : decode cX0_child 121 = .ok (.ireturn, 1) := dk_172 (dk_at dksX0_child_5 7 rfl rfl)
abbrev cX0_isChild : ByteArray := prog_1_method_75_code
def yX0_isChild : MethodName := ⟨RX0, "isChild", "(IIIII)Z"⟩
def dkwX0_isChild_2 : List UInt8 := [153, 0, 16, 42, 27, 28, 21, 6, 182, 1, 98, 153, 0, 5, 3, 172, 132, 6, 1, 167, 255, 216, 4, 172]
abbrev dktX0_isChild_2 : List UInt8 := dkwX0_isChild_2 ++ []
def dkwX0_isChild_1 : List UInt8 := [54, 6, 21, 6, 42, 180, 0, 10, 180, 0, 64, 3, 46, 162, 0, 32, 21, 5, 21, 6, 184, 0, 173]
abbrev dktX0_isChild_1 : List UInt8 := dkwX0_isChild_1 ++ dktX0_isChild_2
def dkwX0_isChild_0 : List UInt8 := [42, 27, 28, 29, 182, 1, 98, 153, 0, 14, 42, 27, 28, 21, 4, 182, 1, 98, 154, 0, 5, 3, 172, 3]
abbrev dktX0_isChild_0 : List UInt8 := dkwX0_isChild_0 ++ dktX0_isChild_1
theorem dksX0_isChild_0 : cX0_isChild.data.toList.drop 0 = dktX0_isChild_0 := by decide +kernel
theorem dksX0_isChild_1 : cX0_isChild.data.toList.drop 24 = dktX0_isChild_1 := dk_seg dksX0_isChild_0 24 rfl rfl
theorem dksX0_isChild_2 : cX0_isChild.data.toList.drop 47 = dktX0_isChild_2 := dk_seg dksX0_isChild_1 23 rfl rfl
theorem dX0_isChild_0 : decode cX0_isChild 0 = .ok (.aload_n 0, 1) := dk_42 (dk_at dksX0_isChild_0 0 rfl rfl)
theorem dX0_isChild_1 : decode cX0_isChild 1 = .ok (.iload_n 1, 1) := dk_27 (dk_at dksX0_isChild_0 1 rfl rfl)
theorem dX0_isChild_2 : decode cX0_isChild 2 = .ok (.iload_n 2, 1) := dk_28 (dk_at dksX0_isChild_0 2 rfl rfl)
theorem dX0_isChild_3 : decode cX0_isChild 3 = .ok (.iload_n 3, 1) := dk_29 (dk_at dksX0_isChild_0 3 rfl rfl)
theorem dX0_isChild_4 : decode cX0_isChild 4 = .ok (.invokevirtual 354, 3) := dk_182 1 98 (dk_at dksX0_isChild_0 4 rfl rfl)
theorem dX0_isChild_7 : decode cX0_isChild 7 = .ok (.ifCond .eq 14, 3) := dk_153 0 14 (dk_at dksX0_isChild_0 7 rfl rfl)
theorem dX0_isChild_10 : decode cX0_isChild 10 = .ok (.aload_n 0, 1) := dk_42 (dk_at dksX0_isChild_0 10 rfl rfl)
theorem dX0_isChild_11 : decode cX0_isChild 11 = .ok (.iload_n 1, 1) := dk_27 (dk_at dksX0_isChild_0 11 rfl rfl)
theorem dX0_isChild_12 : decode cX0_isChild 12 = .ok (.iload_n 2, 1) := dk_28 (dk_at dksX0_isChild_0 12 rfl rfl)
theorem dX0_isChild_13 : decode cX0_isChild 13 = .ok (.iload 4, 2) := dk_21 4 (dk_at dksX0_isChild_0 13 rfl rfl)
theorem dX0_isChild_15 : decode cX0_isChild 15 = .ok (.invokevirtual 354, 3) := dk_182 1 98 (dk_at dksX0_isChild_0 15 rfl rfl)
theorem dX0_isChild_18 : decode cX0_isChild 18 = .ok (.ifCond .ne 5, 3) := dk_154 0 5 (dk_at dksX0_isChild_0 18 rfl rfl)
theorem dX0_isChild_21 : decode cX0_isChild 21 = .ok (.iconst 0, 1) := dk_3 (dk_at dksX0_isChild_0 21 rfl rfl)
theorem dX0_isChild_22 : decode cX0_isChild 22 = .ok (.ireturn, 1) := dk_172 (dk_at dksX0_isChild_0 22 rfl rfl)
theorem dX0_isChild_23 : decode cX0_isChild 23 = .ok (.iconst 0, 1) := dk_3 (dk_at dksX0_isChild_0 23 rfl rfl)
theorem dX0_isChild_24 : decode cX0_isChild 24 = .ok (.istore 6, 2) := dk_54 6 (dk_at dksX0_isChild_1 0 rfl rfl)
theorem dX0_isChild_26 : decode cX0_isChild 26 = .ok (.iload 6, 2) := dk_21 6 (dk_at dksX0_isChild_1 2 rfl rfl)
theorem dX0_isChild_28 : decode cX0_isChild 28 = .ok (.aload_n 0, 1) := dk_42 (dk_at dksX0_isChild_1 4 rfl rfl)
theorem dX0_isChild_29 : decode cX0_isChild 29 = .ok (.getfield 10, 3) := dk_180 0 10 (dk_at dksX0_isChild_1 5 rfl rfl)
theorem dX0_isChild_32 : decode cX0_isChild 32 = .ok (.getfield 64, 3) := dk_180 0 64 (dk_at dksX0_isChild_1 8 rfl rfl)
theorem dX0_isChild_35 : decode cX0_isChild 35 = .ok (.iconst 0, 1) := dk_3 (dk_at dksX0_isChild_1 11 rfl rfl)
theorem dX0_isChild_36 : decode cX0_isChild 36 = .ok (.iaload, 1) := dk_46 (dk_at dksX0_isChild_1 12 rfl rfl)
theorem dX0_isChild_37 : decode cX0_isChild 37 = .ok (.if_icmp .ge 32, 3) := dk_162 0 32 (dk_at dksX0_isChild_1 13 rfl rfl)
theorem dX0_isChild_40 : decode cX0_isChild 40 = .ok (.iload 5, 2) := dk_21 5 (dk_at dksX0_isChild_1 16 rfl rfl)
theorem dX0_isChild_42 : decode cX0_isChild 42 = .ok (.iload 6, 2) := dk_21 6 (dk_at dksX0_isChild_1 18 rfl rfl)
theorem dX0_isChild_44 : decode cX0_isChild 44 = .ok (.invokestatic 173, 3) := dk_184 0 173 (dk_at dksX0_isChild_1 20 rfl rfl)
theorem dX0_isChild_47 : decode cX0_isChild 47 = .ok (.ifCond .eq 16, 3) := dk_153 0 16 (dk_at dksX0_isChild_2 0 rfl rfl)
theorem dX0_isChild_50 : decode cX0_isChild 50 = .ok (.aload_n 0, 1) := dk_42 (dk_at dksX0_isChild_2 3 rfl rfl)
theorem dX0_isChild_51 : decode cX0_isChild 51 = .ok (.iload_n 1, 1) := dk_27 (dk_at dksX0_isChild_2 4 rfl rfl)
theorem dX0_isChild_52 : decode cX0_isChild 52 = .ok (.iload_n 2, 1) := dk_28 (dk_at dksX0_isChild_2 5 rfl rfl)
theorem dX0_isChild_53 : decode cX0_isChild 53 = .ok (.iload 6, 2) := dk_21 6 (dk_at dksX0_isChild_2 6 rfl rfl)
theorem dX0_isChild_55 : decode cX0_isChild 55 = .ok (.invokevirtual 354, 3) := dk_182 1 98 (dk_at dksX0_isChild_2 8 rfl rfl)
theorem dX0_isChild_58 : decode cX0_isChild 58 = .ok (.ifCond .eq 5, 3) := dk_153 0 5 (dk_at dksX0_isChild_2 11 rfl rfl)
theorem dX0_isChild_61 : decode cX0_isChild 61 = .ok (.iconst 0, 1) := dk_3 (dk_at dksX0_isChild_2 14 rfl rfl)
theorem dX0_isChild_62 : decode cX0_isChild 62 = .ok (.ireturn, 1) := dk_172 (dk_at dksX0_isChild_2 15 rfl rfl)
theorem dX0_isChild_63 : decode cX0_isChild 63 = .ok (.iinc 6 1, 3) := dk_132 6 1 (dk_at dksX0_isChild_2 16 rfl rfl)
theorem dX0_isChild_66 : decode cX0_isChild 66 = .ok (.goto (-40), 3) := dk_167 255 216 (dk_at dksX0_isChild_2 19 rfl rfl)
theorem dX0_isChild_69 : decode cX0_isChild 69 = .ok (.iconst 1, 1) := dk_4 (dk_at dksX0_isChild_2 22 rfl rfl)
theorem dX0_isChild_70 : decode cX0_isChild 70 = .ok (.ireturn, 1) := dk_172 (dk_at dksX0_isChild_2 23 rfl rfl)
abbrev cX0_canMeet : ByteArray := prog_1_method_74_code
def yX0_canMeet : MethodName := ⟨RX0, "canMeet", "(III)Z"⟩
def dkwX0_canMeet_1 : List UInt8 := [184, 0, 176, 113, 9, 148, 154, 0, 7, 4, 167, 0, 4, 3, 172]
abbrev dktX0_canMeet_1 : List UInt8 := dkwX0_canMeet_1 ++ []
def dkwX0_canMeet_0 : List UInt8 := [28, 42, 180, 0, 10, 180, 0, 89, 29, 46, 100, 133, 27, 133, 42, 180, 0, 10, 180, 0, 86, 29, 46, 133]
abbrev dktX0_canMeet_0 : List UInt8 := dkwX0_canMeet_0 ++ dktX0_canMeet_1
theorem dksX0_canMeet_0 : cX0_canMeet.data.toList.drop 0 = dktX0_canMeet_0 := by decide +kernel
theorem dksX0_canMeet_1 : cX0_canMeet.data.toList.drop 24 = dktX0_canMeet_1 := dk_seg dksX0_canMeet_0 24 rfl rfl
theorem dX0_canMeet_0 : decode cX0_canMeet 0 = .ok (.iload_n 2, 1) := dk_28 (dk_at dksX0_canMeet_0 0 rfl rfl)
theorem dX0_canMeet_1 : decode cX0_canMeet 1 = .ok (.aload_n 0, 1) := dk_42 (dk_at dksX0_canMeet_0 1 rfl rfl)
theorem dX0_canMeet_2 : decode cX0_canMeet 2 = .ok (.getfield 10, 3) := dk_180 0 10 (dk_at dksX0_canMeet_0 2 rfl rfl)
theorem dX0_canMeet_5 : decode cX0_canMeet 5 = .ok (.getfield 89, 3) := dk_180 0 89 (dk_at dksX0_canMeet_0 5 rfl rfl)
theorem dX0_canMeet_8 : decode cX0_canMeet 8 = .ok (.iload_n 3, 1) := dk_29 (dk_at dksX0_canMeet_0 8 rfl rfl)
theorem dX0_canMeet_9 : decode cX0_canMeet 9 = .ok (.iaload, 1) := dk_46 (dk_at dksX0_canMeet_0 9 rfl rfl)
theorem dX0_canMeet_10 : decode cX0_canMeet 10 = .ok (.isub, 1) := dk_100 (dk_at dksX0_canMeet_0 10 rfl rfl)
theorem dX0_canMeet_11 : decode cX0_canMeet 11 = .ok (.i2l, 1) := dk_133 (dk_at dksX0_canMeet_0 11 rfl rfl)
theorem dX0_canMeet_12 : decode cX0_canMeet 12 = .ok (.iload_n 1, 1) := dk_27 (dk_at dksX0_canMeet_0 12 rfl rfl)
theorem dX0_canMeet_13 : decode cX0_canMeet 13 = .ok (.i2l, 1) := dk_133 (dk_at dksX0_canMeet_0 13 rfl rfl)
theorem dX0_canMeet_14 : decode cX0_canMeet 14 = .ok (.aload_n 0, 1) := dk_42 (dk_at dksX0_canMeet_0 14 rfl rfl)
theorem dX0_canMeet_15 : decode cX0_canMeet 15 = .ok (.getfield 10, 3) := dk_180 0 10 (dk_at dksX0_canMeet_0 15 rfl rfl)
theorem dX0_canMeet_18 : decode cX0_canMeet 18 = .ok (.getfield 86, 3) := dk_180 0 86 (dk_at dksX0_canMeet_0 18 rfl rfl)
theorem dX0_canMeet_21 : decode cX0_canMeet 21 = .ok (.iload_n 3, 1) := dk_29 (dk_at dksX0_canMeet_0 21 rfl rfl)
theorem dX0_canMeet_22 : decode cX0_canMeet 22 = .ok (.iaload, 1) := dk_46 (dk_at dksX0_canMeet_0 22 rfl rfl)
theorem dX0_canMeet_23 : decode cX0_canMeet 23 = .ok (.i2l, 1) := dk_133 (dk_at dksX0_canMeet_0 23 rfl rfl)
theorem dX0_canMeet_24 : decode cX0_canMeet 24 = .ok (.invokestatic 176, 3) := dk_184 0 176 (dk_at dksX0_canMeet_1 0 rfl rfl)
theorem dX0_canMeet_27 : decode cX0_canMeet 27 = .ok (.lrem, 1) := dk_113 (dk_at dksX0_canMeet_1 3 rfl rfl)
theorem dX0_canMeet_28 : decode cX0_canMeet 28 = .ok (.lconst 0, 1) := dk_9 (dk_at dksX0_canMeet_1 4 rfl rfl)
theorem dX0_canMeet_29 : decode cX0_canMeet 29 = .ok (.lcmp, 1) := dk_148 (dk_at dksX0_canMeet_1 5 rfl rfl)
theorem dX0_canMeet_30 : decode cX0_canMeet 30 = .ok (.ifCond .ne 7, 3) := dk_154 0 7 (dk_at dksX0_canMeet_1 6 rfl rfl)
theorem dX0_canMeet_33 : decode cX0_canMeet 33 = .ok (.iconst 1, 1) := dk_4 (dk_at dksX0_canMeet_1 9 rfl rfl)
theorem dX0_canMeet_34 : decode cX0_canMeet 34 = .ok (.goto 4, 3) := dk_167 0 4 (dk_at dksX0_canMeet_1 10 rfl rfl)
theorem dX0_canMeet_37 : decode cX0_canMeet 37 = .ok (.iconst 0, 1) := dk_3 (dk_at dksX0_canMeet_1 13 rfl rfl)
theorem dX0_canMeet_38 : decode cX0_canMeet 38 = .ok (.ireturn, 1) := dk_172 (dk_at dksX0_canMeet_1 14 rfl rfl)
abbrev cX0_pairs : ByteArray := prog_1_method_78_code
def yX0_pairs : MethodName := ⟨RX0, "pairs", "(III)I"⟩
def dkwX0_pairs_6 : List UInt8 := [167, 255, 198]
abbrev dktX0_pairs_6 : List UInt8 := dkwX0_pairs_6 ++ []
def dkwX0_pairs_5 : List UInt8 := [21, 6, 167, 0, 5, 21, 5, 172, 21, 4, 4, 21, 5, 120, 4, 21, 6, 120, 128, 2, 130, 126, 54, 4]
abbrev dktX0_pairs_5 : List UInt8 := dkwX0_pairs_5 ++ dktX0_pairs_6
def dkwX0_pairs_4 : List UInt8 := [21, 4, 46, 54, 6, 21, 5, 29, 159, 0, 9, 21, 6, 29, 160, 0, 17, 21, 5, 29, 160, 0, 8]
abbrev dktX0_pairs_4 : List UInt8 := dkwX0_pairs_4 ++ dktX0_pairs_5
def dkwX0_pairs_3 : List UInt8 := [160, 0, 10, 42, 180, 0, 51, 27, 46, 172, 27, 54, 4, 21, 4, 184, 1, 18, 54, 5, 42, 180, 0, 54]
abbrev dktX0_pairs_3 : List UInt8 := dkwX0_pairs_3 ++ dktX0_pairs_4
def dkwX0_pairs_2 : List UInt8 := [182, 0, 95, 153, 0, 11, 27, 29, 184, 0, 173, 154, 0, 5, 2, 172, 42, 27, 28, 182, 1, 106, 29, 2]
abbrev dktX0_pairs_2 : List UInt8 := dkwX0_pairs_2 ++ dktX0_pairs_3
def dkwX0_pairs_1 : List UInt8 := [163, 0, 36, 28, 133, 10, 20, 0, 252, 184, 0, 67, 153, 0, 24, 29, 2, 159, 0, 21, 42, 29]
abbrev dktX0_pairs_1 : List UInt8 := dkwX0_pairs_1 ++ dktX0_pairs_2
def dkwX0_pairs_0 : List UInt8 := [42, 27, 182, 0, 212, 153, 0, 55, 27, 184, 1, 2, 5, 112, 4, 159, 0, 45, 27, 184, 1, 2, 16, 8]
abbrev dktX0_pairs_0 : List UInt8 := dkwX0_pairs_0 ++ dktX0_pairs_1
theorem dksX0_pairs_0 : cX0_pairs.data.toList.drop 0 = dktX0_pairs_0 := by decide +kernel
theorem dksX0_pairs_1 : cX0_pairs.data.toList.drop 24 = dktX0_pairs_1 := dk_seg dksX0_pairs_0 24 rfl rfl
theorem dksX0_pairs_2 : cX0_pairs.data.toList.drop 46 = dktX0_pairs_2 := dk_seg dksX0_pairs_1 22 rfl rfl
theorem dksX0_pairs_3 : cX0_pairs.data.toList.drop 70 = dktX0_pairs_3 := dk_seg dksX0_pairs_2 24 rfl rfl
theorem dksX0_pairs_4 : cX0_pairs.data.toList.drop 94 = dktX0_pairs_4 := dk_seg dksX0_pairs_3 24 rfl rfl
theorem dksX0_pairs_5 : cX0_pairs.data.toList.drop 117 = dktX0_pairs_5 := dk_seg dksX0_pairs_4 23 rfl rfl
theorem dksX0_pairs_6 : cX0_pairs.data.toList.drop 141 = dktX0_pairs_6 := dk_seg dksX0_pairs_5 24 rfl rfl
theorem dX0_pairs_0 : decode cX0_pairs 0 = .ok (.aload_n 0, 1) := dk_42 (dk_at dksX0_pairs_0 0 rfl rfl)
theorem dX0_pairs_1 : decode cX0_pairs 1 = .ok (.iload_n 1, 1) := dk_27 (dk_at dksX0_pairs_0 1 rfl rfl)
theorem dX0_pairs_2 : decode cX0_pairs 2 = .ok (.invokevirtual 212, 3) := dk_182 0 212 (dk_at dksX0_pairs_0 2 rfl rfl)
theorem dX0_pairs_5 : decode cX0_pairs 5 = .ok (.ifCond .eq 55, 3) := dk_153 0 55 (dk_at dksX0_pairs_0 5 rfl rfl)
theorem dX0_pairs_8 : decode cX0_pairs 8 = .ok (.iload_n 1, 1) := dk_27 (dk_at dksX0_pairs_0 8 rfl rfl)
theorem dX0_pairs_9 : decode cX0_pairs 9 = .ok (.invokestatic 258, 3) := dk_184 1 2 (dk_at dksX0_pairs_0 9 rfl rfl)
theorem dX0_pairs_12 : decode cX0_pairs 12 = .ok (.iconst 2, 1) := dk_5 (dk_at dksX0_pairs_0 12 rfl rfl)
theorem dX0_pairs_13 : decode cX0_pairs 13 = .ok (.irem, 1) := dk_112 (dk_at dksX0_pairs_0 13 rfl rfl)
theorem dX0_pairs_14 : decode cX0_pairs 14 = .ok (.iconst 1, 1) := dk_4 (dk_at dksX0_pairs_0 14 rfl rfl)
theorem dX0_pairs_15 : decode cX0_pairs 15 = .ok (.if_icmp .eq 45, 3) := dk_159 0 45 (dk_at dksX0_pairs_0 15 rfl rfl)
theorem dX0_pairs_18 : decode cX0_pairs 18 = .ok (.iload_n 1, 1) := dk_27 (dk_at dksX0_pairs_0 18 rfl rfl)
theorem dX0_pairs_19 : decode cX0_pairs 19 = .ok (.invokestatic 258, 3) := dk_184 1 2 (dk_at dksX0_pairs_0 19 rfl rfl)
theorem dX0_pairs_22 : decode cX0_pairs 22 = .ok (.bipush 8, 2) := dk_16 8 (dk_at dksX0_pairs_0 22 rfl rfl)
theorem dX0_pairs_24 : decode cX0_pairs 24 = .ok (.if_icmp .gt 36, 3) := dk_163 0 36 (dk_at dksX0_pairs_1 0 rfl rfl)
theorem dX0_pairs_27 : decode cX0_pairs 27 = .ok (.iload_n 2, 1) := dk_28 (dk_at dksX0_pairs_1 3 rfl rfl)
theorem dX0_pairs_28 : decode cX0_pairs 28 = .ok (.i2l, 1) := dk_133 (dk_at dksX0_pairs_1 4 rfl rfl)
theorem dX0_pairs_29 : decode cX0_pairs 29 = .ok (.lconst 1, 1) := dk_10 (dk_at dksX0_pairs_1 5 rfl rfl)
theorem dX0_pairs_30 : decode cX0_pairs 30 = .ok (.ldc2_w 252, 3) := dk_20 0 252 (dk_at dksX0_pairs_1 6 rfl rfl)
theorem dX0_pairs_33 : decode cX0_pairs 33 = .ok (.invokestatic 67, 3) := dk_184 0 67 (dk_at dksX0_pairs_1 9 rfl rfl)
theorem dX0_pairs_36 : decode cX0_pairs 36 = .ok (.ifCond .eq 24, 3) := dk_153 0 24 (dk_at dksX0_pairs_1 12 rfl rfl)
theorem dX0_pairs_39 : decode cX0_pairs 39 = .ok (.iload_n 3, 1) := dk_29 (dk_at dksX0_pairs_1 15 rfl rfl)
theorem dX0_pairs_40 : decode cX0_pairs 40 = .ok (.iconst (-1), 1) := dk_2 (dk_at dksX0_pairs_1 16 rfl rfl)
theorem dX0_pairs_41 : decode cX0_pairs 41 = .ok (.if_icmp .eq 21, 3) := dk_159 0 21 (dk_at dksX0_pairs_1 17 rfl rfl)
theorem dX0_pairs_44 : decode cX0_pairs 44 = .ok (.aload_n 0, 1) := dk_42 (dk_at dksX0_pairs_1 20 rfl rfl)
theorem dX0_pairs_45 : decode cX0_pairs 45 = .ok (.iload_n 3, 1) := dk_29 (dk_at dksX0_pairs_1 21 rfl rfl)
theorem dX0_pairs_46 : decode cX0_pairs 46 = .ok (.invokevirtual 95, 3) := dk_182 0 95 (dk_at dksX0_pairs_2 0 rfl rfl)
theorem dX0_pairs_49 : decode cX0_pairs 49 = .ok (.ifCond .eq 11, 3) := dk_153 0 11 (dk_at dksX0_pairs_2 3 rfl rfl)
theorem dX0_pairs_52 : decode cX0_pairs 52 = .ok (.iload_n 1, 1) := dk_27 (dk_at dksX0_pairs_2 6 rfl rfl)
theorem dX0_pairs_53 : decode cX0_pairs 53 = .ok (.iload_n 3, 1) := dk_29 (dk_at dksX0_pairs_2 7 rfl rfl)
theorem dX0_pairs_54 : decode cX0_pairs 54 = .ok (.invokestatic 173, 3) := dk_184 0 173 (dk_at dksX0_pairs_2 8 rfl rfl)
theorem dX0_pairs_57 : decode cX0_pairs 57 = .ok (.ifCond .ne 5, 3) := dk_154 0 5 (dk_at dksX0_pairs_2 11 rfl rfl)
theorem dX0_pairs_60 : decode cX0_pairs 60 = .ok (.iconst (-1), 1) := dk_2 (dk_at dksX0_pairs_2 14 rfl rfl)
theorem dX0_pairs_61 : decode cX0_pairs 61 = .ok (.ireturn, 1) := dk_172 (dk_at dksX0_pairs_2 15 rfl rfl)
theorem dX0_pairs_62 : decode cX0_pairs 62 = .ok (.aload_n 0, 1) := dk_42 (dk_at dksX0_pairs_2 16 rfl rfl)
theorem dX0_pairs_63 : decode cX0_pairs 63 = .ok (.iload_n 1, 1) := dk_27 (dk_at dksX0_pairs_2 17 rfl rfl)
theorem dX0_pairs_64 : decode cX0_pairs 64 = .ok (.iload_n 2, 1) := dk_28 (dk_at dksX0_pairs_2 18 rfl rfl)
theorem dX0_pairs_65 : decode cX0_pairs 65 = .ok (.invokevirtual 362, 3) := dk_182 1 106 (dk_at dksX0_pairs_2 19 rfl rfl)
theorem dX0_pairs_68 : decode cX0_pairs 68 = .ok (.iload_n 3, 1) := dk_29 (dk_at dksX0_pairs_2 22 rfl rfl)
theorem dX0_pairs_69 : decode cX0_pairs 69 = .ok (.iconst (-1), 1) := dk_2 (dk_at dksX0_pairs_2 23 rfl rfl)
theorem dX0_pairs_70 : decode cX0_pairs 70 = .ok (.if_icmp .ne 10, 3) := dk_160 0 10 (dk_at dksX0_pairs_3 0 rfl rfl)
theorem dX0_pairs_73 : decode cX0_pairs 73 = .ok (.aload_n 0, 1) := dk_42 (dk_at dksX0_pairs_3 3 rfl rfl)
theorem dX0_pairs_74 : decode cX0_pairs 74 = .ok (.getfield 51, 3) := dk_180 0 51 (dk_at dksX0_pairs_3 4 rfl rfl)
theorem dX0_pairs_77 : decode cX0_pairs 77 = .ok (.iload_n 1, 1) := dk_27 (dk_at dksX0_pairs_3 7 rfl rfl)
theorem dX0_pairs_78 : decode cX0_pairs 78 = .ok (.iaload, 1) := dk_46 (dk_at dksX0_pairs_3 8 rfl rfl)
theorem dX0_pairs_79 : decode cX0_pairs 79 = .ok (.ireturn, 1) := dk_172 (dk_at dksX0_pairs_3 9 rfl rfl)
theorem dX0_pairs_80 : decode cX0_pairs 80 = .ok (.iload_n 1, 1) := dk_27 (dk_at dksX0_pairs_3 10 rfl rfl)
theorem dX0_pairs_81 : decode cX0_pairs 81 = .ok (.istore 4, 2) := dk_54 4 (dk_at dksX0_pairs_3 11 rfl rfl)
theorem dX0_pairs_83 : decode cX0_pairs 83 = .ok (.iload 4, 2) := dk_21 4 (dk_at dksX0_pairs_3 13 rfl rfl)
theorem dX0_pairs_85 : decode cX0_pairs 85 = .ok (.invokestatic 274, 3) := dk_184 1 18 (dk_at dksX0_pairs_3 15 rfl rfl)
theorem dX0_pairs_88 : decode cX0_pairs 88 = .ok (.istore 5, 2) := dk_54 5 (dk_at dksX0_pairs_3 18 rfl rfl)
theorem dX0_pairs_90 : decode cX0_pairs 90 = .ok (.aload_n 0, 1) := dk_42 (dk_at dksX0_pairs_3 20 rfl rfl)
theorem dX0_pairs_91 : decode cX0_pairs 91 = .ok (.getfield 54, 3) := dk_180 0 54 (dk_at dksX0_pairs_3 21 rfl rfl)
theorem dX0_pairs_94 : decode cX0_pairs 94 = .ok (.iload 4, 2) := dk_21 4 (dk_at dksX0_pairs_4 0 rfl rfl)
theorem dX0_pairs_96 : decode cX0_pairs 96 = .ok (.iaload, 1) := dk_46 (dk_at dksX0_pairs_4 2 rfl rfl)
theorem dX0_pairs_97 : decode cX0_pairs 97 = .ok (.istore 6, 2) := dk_54 6 (dk_at dksX0_pairs_4 3 rfl rfl)
theorem dX0_pairs_99 : decode cX0_pairs 99 = .ok (.iload 5, 2) := dk_21 5 (dk_at dksX0_pairs_4 5 rfl rfl)
theorem dX0_pairs_101 : decode cX0_pairs 101 = .ok (.iload_n 3, 1) := dk_29 (dk_at dksX0_pairs_4 7 rfl rfl)
theorem dX0_pairs_102 : decode cX0_pairs 102 = .ok (.if_icmp .eq 9, 3) := dk_159 0 9 (dk_at dksX0_pairs_4 8 rfl rfl)
theorem dX0_pairs_105 : decode cX0_pairs 105 = .ok (.iload 6, 2) := dk_21 6 (dk_at dksX0_pairs_4 11 rfl rfl)
theorem dX0_pairs_107 : decode cX0_pairs 107 = .ok (.iload_n 3, 1) := dk_29 (dk_at dksX0_pairs_4 13 rfl rfl)
theorem dX0_pairs_108 : decode cX0_pairs 108 = .ok (.if_icmp .ne 17, 3) := dk_160 0 17 (dk_at dksX0_pairs_4 14 rfl rfl)
theorem dX0_pairs_111 : decode cX0_pairs 111 = .ok (.iload 5, 2) := dk_21 5 (dk_at dksX0_pairs_4 17 rfl rfl)
theorem dX0_pairs_113 : decode cX0_pairs 113 = .ok (.iload_n 3, 1) := dk_29 (dk_at dksX0_pairs_4 19 rfl rfl)
theorem dX0_pairs_114 : decode cX0_pairs 114 = .ok (.if_icmp .ne 8, 3) := dk_160 0 8 (dk_at dksX0_pairs_4 20 rfl rfl)
theorem dX0_pairs_117 : decode cX0_pairs 117 = .ok (.iload 6, 2) := dk_21 6 (dk_at dksX0_pairs_5 0 rfl rfl)
theorem dX0_pairs_119 : decode cX0_pairs 119 = .ok (.goto 5, 3) := dk_167 0 5 (dk_at dksX0_pairs_5 2 rfl rfl)
theorem dX0_pairs_122 : decode cX0_pairs 122 = .ok (.iload 5, 2) := dk_21 5 (dk_at dksX0_pairs_5 5 rfl rfl)
theorem dX0_pairs_124 : decode cX0_pairs 124 = .ok (.ireturn, 1) := dk_172 (dk_at dksX0_pairs_5 7 rfl rfl)
theorem dX0_pairs_125 : decode cX0_pairs 125 = .ok (.iload 4, 2) := dk_21 4 (dk_at dksX0_pairs_5 8 rfl rfl)
theorem dX0_pairs_127 : decode cX0_pairs 127 = .ok (.iconst 1, 1) := dk_4 (dk_at dksX0_pairs_5 10 rfl rfl)
theorem dX0_pairs_128 : decode cX0_pairs 128 = .ok (.iload 5, 2) := dk_21 5 (dk_at dksX0_pairs_5 11 rfl rfl)
theorem dX0_pairs_130 : decode cX0_pairs 130 = .ok (.ishl, 1) := dk_120 (dk_at dksX0_pairs_5 13 rfl rfl)
theorem dX0_pairs_131 : decode cX0_pairs 131 = .ok (.iconst 1, 1) := dk_4 (dk_at dksX0_pairs_5 14 rfl rfl)
theorem dX0_pairs_132 : decode cX0_pairs 132 = .ok (.iload 6, 2) := dk_21 6 (dk_at dksX0_pairs_5 15 rfl rfl)
theorem dX0_pairs_134 : decode cX0_pairs 134 = .ok (.ishl, 1) := dk_120 (dk_at dksX0_pairs_5 17 rfl rfl)
theorem dX0_pairs_135 : decode cX0_pairs 135 = .ok (.ior, 1) := dk_128 (dk_at dksX0_pairs_5 18 rfl rfl)
theorem dX0_pairs_136 : decode cX0_pairs 136 = .ok (.iconst (-1), 1) := dk_2 (dk_at dksX0_pairs_5 19 rfl rfl)
theorem dX0_pairs_137 : decode cX0_pairs 137 = .ok (.ixor, 1) := dk_130 (dk_at dksX0_pairs_5 20 rfl rfl)
theorem dX0_pairs_138 : decode cX0_pairs 138 = .ok (.iand, 1) := dk_126 (dk_at dksX0_pairs_5 21 rfl rfl)
theorem dX0_pairs_139 : decode cX0_pairs 139 = .ok (.istore 4, 2) := dk_54 4 (dk_at dksX0_pairs_5 22 rfl rfl)
theorem dX0_pairs_141 : decode cX0_pairs 141 = .ok (.goto (-58), 3) := dk_167 255 198 (dk_at dksX0_pairs_6 0 rfl rfl)
abbrev cX0_laysPairs : ByteArray := prog_1_method_77_code
def yX0_laysPairs : MethodName := ⟨RX0, "laysPairs", "(II)V"⟩
def dkwX0_laysPairs_9 : List UInt8 := [21, 5, 79, 132, 5, 1, 167, 255, 170, 132, 3, 1, 167, 255, 119, 177]
abbrev dktX0_laysPairs_9 : List UInt8 := dkwX0_laysPairs_9 ++ []
def dkwX0_laysPairs_8 : List UInt8 := [180, 0, 51, 29, 46, 163, 0, 6, 167, 0, 19, 42, 180, 0, 51, 29, 21, 6, 79, 42, 180, 0, 54, 29]
abbrev dktX0_laysPairs_8 : List UInt8 := dkwX0_laysPairs_8 ++ dktX0_laysPairs_9
def dkwX0_laysPairs_7 : List UInt8 := [42, 180, 0, 51, 29, 4, 21, 4, 120, 4, 21, 5, 120, 128, 2, 130, 126, 46, 96, 54, 6, 21, 6, 42]
abbrev dktX0_laysPairs_7 : List UInt8 := dkwX0_laysPairs_7 ++ dktX0_laysPairs_8
def dkwX0_laysPairs_6 : List UInt8 := [21, 5, 184, 0, 173, 154, 0, 6, 167, 0, 67, 42, 180, 0, 57, 16, 12, 21, 4, 104, 21, 5, 96, 46]
abbrev dktX0_laysPairs_6 : List UInt8 := dkwX0_laysPairs_6 ++ dktX0_laysPairs_7
def dkwX0_laysPairs_5 : List UInt8 := [54, 4, 42, 180, 0, 51, 29, 2, 79, 21, 4, 4, 96, 54, 5, 21, 5, 16, 12, 162, 0, 85, 29]
abbrev dktX0_laysPairs_5 : List UInt8 := dkwX0_laysPairs_5 ++ dktX0_laysPairs_6
def dkwX0_laysPairs_4 : List UInt8 := [27, 2, 130, 126, 154, 0, 124, 29, 184, 1, 2, 5, 112, 4, 160, 0, 6, 167, 0, 111, 29, 184, 1, 18]
abbrev dktX0_laysPairs_4 : List UInt8 := dkwX0_laysPairs_4 ++ dktX0_laysPairs_5
def dkwX0_laysPairs_3 : List UInt8 := [167, 255, 197, 132, 3, 1, 167, 255, 180, 42, 180, 0, 51, 3, 3, 79, 4, 62, 29, 27, 163, 0, 138, 29]
abbrev dktX0_laysPairs_3 : List UInt8 := dkwX0_laysPairs_3 ++ dktX0_laysPairs_4
def dkwX0_laysPairs_2 : List UInt8 := [42, 4, 29, 120, 4, 21, 4, 120, 128, 9, 28, 133, 182, 0, 247, 136, 167, 0, 4, 3, 79, 132, 4, 1]
abbrev dktX0_laysPairs_2 : List UInt8 := dkwX0_laysPairs_2 ++ dktX0_laysPairs_3
def dkwX0_laysPairs_1 : List UInt8 := [16, 12, 29, 104, 21, 4, 96, 27, 29, 184, 0, 173, 153, 0, 31, 27, 21, 4, 184, 0, 173, 153, 0, 22]
abbrev dktX0_laysPairs_1 : List UInt8 := dkwX0_laysPairs_1 ++ dktX0_laysPairs_2
def dkwX0_laysPairs_0 : List UInt8 := [3, 62, 29, 16, 12, 162, 0, 76, 29, 4, 96, 54, 4, 21, 4, 16, 12, 162, 0, 58, 42, 180, 0, 57]
abbrev dktX0_laysPairs_0 : List UInt8 := dkwX0_laysPairs_0 ++ dktX0_laysPairs_1
theorem dksX0_laysPairs_0 : cX0_laysPairs.data.toList.drop 0 = dktX0_laysPairs_0 := by decide +kernel
theorem dksX0_laysPairs_1 : cX0_laysPairs.data.toList.drop 24 = dktX0_laysPairs_1 := dk_seg dksX0_laysPairs_0 24 rfl rfl
theorem dksX0_laysPairs_2 : cX0_laysPairs.data.toList.drop 48 = dktX0_laysPairs_2 := dk_seg dksX0_laysPairs_1 24 rfl rfl
theorem dksX0_laysPairs_3 : cX0_laysPairs.data.toList.drop 72 = dktX0_laysPairs_3 := dk_seg dksX0_laysPairs_2 24 rfl rfl
theorem dksX0_laysPairs_4 : cX0_laysPairs.data.toList.drop 96 = dktX0_laysPairs_4 := dk_seg dksX0_laysPairs_3 24 rfl rfl
theorem dksX0_laysPairs_5 : cX0_laysPairs.data.toList.drop 120 = dktX0_laysPairs_5 := dk_seg dksX0_laysPairs_4 24 rfl rfl
theorem dksX0_laysPairs_6 : cX0_laysPairs.data.toList.drop 143 = dktX0_laysPairs_6 := dk_seg dksX0_laysPairs_5 23 rfl rfl
theorem dksX0_laysPairs_7 : cX0_laysPairs.data.toList.drop 167 = dktX0_laysPairs_7 := dk_seg dksX0_laysPairs_6 24 rfl rfl
theorem dksX0_laysPairs_8 : cX0_laysPairs.data.toList.drop 191 = dktX0_laysPairs_8 := dk_seg dksX0_laysPairs_7 24 rfl rfl
theorem dksX0_laysPairs_9 : cX0_laysPairs.data.toList.drop 215 = dktX0_laysPairs_9 := dk_seg dksX0_laysPairs_8 24 rfl rfl
theorem dX0_laysPairs_0 : decode cX0_laysPairs 0 = .ok (.iconst 0, 1) := dk_3 (dk_at dksX0_laysPairs_0 0 rfl rfl)
theorem dX0_laysPairs_1 : decode cX0_laysPairs 1 = .ok (.istore_n 3, 1) := dk_62 (dk_at dksX0_laysPairs_0 1 rfl rfl)
theorem dX0_laysPairs_2 : decode cX0_laysPairs 2 = .ok (.iload_n 3, 1) := dk_29 (dk_at dksX0_laysPairs_0 2 rfl rfl)
theorem dX0_laysPairs_3 : decode cX0_laysPairs 3 = .ok (.bipush 12, 2) := dk_16 12 (dk_at dksX0_laysPairs_0 3 rfl rfl)
theorem dX0_laysPairs_5 : decode cX0_laysPairs 5 = .ok (.if_icmp .ge 76, 3) := dk_162 0 76 (dk_at dksX0_laysPairs_0 5 rfl rfl)
theorem dX0_laysPairs_8 : decode cX0_laysPairs 8 = .ok (.iload_n 3, 1) := dk_29 (dk_at dksX0_laysPairs_0 8 rfl rfl)
theorem dX0_laysPairs_9 : decode cX0_laysPairs 9 = .ok (.iconst 1, 1) := dk_4 (dk_at dksX0_laysPairs_0 9 rfl rfl)
theorem dX0_laysPairs_10 : decode cX0_laysPairs 10 = .ok (.iadd, 1) := dk_96 (dk_at dksX0_laysPairs_0 10 rfl rfl)
theorem dX0_laysPairs_11 : decode cX0_laysPairs 11 = .ok (.istore 4, 2) := dk_54 4 (dk_at dksX0_laysPairs_0 11 rfl rfl)
theorem dX0_laysPairs_13 : decode cX0_laysPairs 13 = .ok (.iload 4, 2) := dk_21 4 (dk_at dksX0_laysPairs_0 13 rfl rfl)
theorem dX0_laysPairs_15 : decode cX0_laysPairs 15 = .ok (.bipush 12, 2) := dk_16 12 (dk_at dksX0_laysPairs_0 15 rfl rfl)
theorem dX0_laysPairs_17 : decode cX0_laysPairs 17 = .ok (.if_icmp .ge 58, 3) := dk_162 0 58 (dk_at dksX0_laysPairs_0 17 rfl rfl)
theorem dX0_laysPairs_20 : decode cX0_laysPairs 20 = .ok (.aload_n 0, 1) := dk_42 (dk_at dksX0_laysPairs_0 20 rfl rfl)
theorem dX0_laysPairs_21 : decode cX0_laysPairs 21 = .ok (.getfield 57, 3) := dk_180 0 57 (dk_at dksX0_laysPairs_0 21 rfl rfl)
theorem dX0_laysPairs_24 : decode cX0_laysPairs 24 = .ok (.bipush 12, 2) := dk_16 12 (dk_at dksX0_laysPairs_1 0 rfl rfl)
theorem dX0_laysPairs_26 : decode cX0_laysPairs 26 = .ok (.iload_n 3, 1) := dk_29 (dk_at dksX0_laysPairs_1 2 rfl rfl)
theorem dX0_laysPairs_27 : decode cX0_laysPairs 27 = .ok (.imul, 1) := dk_104 (dk_at dksX0_laysPairs_1 3 rfl rfl)
theorem dX0_laysPairs_28 : decode cX0_laysPairs 28 = .ok (.iload 4, 2) := dk_21 4 (dk_at dksX0_laysPairs_1 4 rfl rfl)
theorem dX0_laysPairs_30 : decode cX0_laysPairs 30 = .ok (.iadd, 1) := dk_96 (dk_at dksX0_laysPairs_1 6 rfl rfl)
theorem dX0_laysPairs_31 : decode cX0_laysPairs 31 = .ok (.iload_n 1, 1) := dk_27 (dk_at dksX0_laysPairs_1 7 rfl rfl)
theorem dX0_laysPairs_32 : decode cX0_laysPairs 32 = .ok (.iload_n 3, 1) := dk_29 (dk_at dksX0_laysPairs_1 8 rfl rfl)
theorem dX0_laysPairs_33 : decode cX0_laysPairs 33 = .ok (.invokestatic 173, 3) := dk_184 0 173 (dk_at dksX0_laysPairs_1 9 rfl rfl)
theorem dX0_laysPairs_36 : decode cX0_laysPairs 36 = .ok (.ifCond .eq 31, 3) := dk_153 0 31 (dk_at dksX0_laysPairs_1 12 rfl rfl)
theorem dX0_laysPairs_39 : decode cX0_laysPairs 39 = .ok (.iload_n 1, 1) := dk_27 (dk_at dksX0_laysPairs_1 15 rfl rfl)
theorem dX0_laysPairs_40 : decode cX0_laysPairs 40 = .ok (.iload 4, 2) := dk_21 4 (dk_at dksX0_laysPairs_1 16 rfl rfl)
theorem dX0_laysPairs_42 : decode cX0_laysPairs 42 = .ok (.invokestatic 173, 3) := dk_184 0 173 (dk_at dksX0_laysPairs_1 18 rfl rfl)
theorem dX0_laysPairs_45 : decode cX0_laysPairs 45 = .ok (.ifCond .eq 22, 3) := dk_153 0 22 (dk_at dksX0_laysPairs_1 21 rfl rfl)
theorem dX0_laysPairs_48 : decode cX0_laysPairs 48 = .ok (.aload_n 0, 1) := dk_42 (dk_at dksX0_laysPairs_2 0 rfl rfl)
theorem dX0_laysPairs_49 : decode cX0_laysPairs 49 = .ok (.iconst 1, 1) := dk_4 (dk_at dksX0_laysPairs_2 1 rfl rfl)
theorem dX0_laysPairs_50 : decode cX0_laysPairs 50 = .ok (.iload_n 3, 1) := dk_29 (dk_at dksX0_laysPairs_2 2 rfl rfl)
theorem dX0_laysPairs_51 : decode cX0_laysPairs 51 = .ok (.ishl, 1) := dk_120 (dk_at dksX0_laysPairs_2 3 rfl rfl)
theorem dX0_laysPairs_52 : decode cX0_laysPairs 52 = .ok (.iconst 1, 1) := dk_4 (dk_at dksX0_laysPairs_2 4 rfl rfl)
theorem dX0_laysPairs_53 : decode cX0_laysPairs 53 = .ok (.iload 4, 2) := dk_21 4 (dk_at dksX0_laysPairs_2 5 rfl rfl)
theorem dX0_laysPairs_55 : decode cX0_laysPairs 55 = .ok (.ishl, 1) := dk_120 (dk_at dksX0_laysPairs_2 7 rfl rfl)
theorem dX0_laysPairs_56 : decode cX0_laysPairs 56 = .ok (.ior, 1) := dk_128 (dk_at dksX0_laysPairs_2 8 rfl rfl)
theorem dX0_laysPairs_57 : decode cX0_laysPairs 57 = .ok (.lconst 0, 1) := dk_9 (dk_at dksX0_laysPairs_2 9 rfl rfl)
theorem dX0_laysPairs_58 : decode cX0_laysPairs 58 = .ok (.iload_n 2, 1) := dk_28 (dk_at dksX0_laysPairs_2 10 rfl rfl)
theorem dX0_laysPairs_59 : decode cX0_laysPairs 59 = .ok (.i2l, 1) := dk_133 (dk_at dksX0_laysPairs_2 11 rfl rfl)
theorem dX0_laysPairs_60 : decode cX0_laysPairs 60 = .ok (.invokevirtual 247, 3) := dk_182 0 247 (dk_at dksX0_laysPairs_2 12 rfl rfl)
theorem dX0_laysPairs_63 : decode cX0_laysPairs 63 = .ok (.l2i, 1) := dk_136 (dk_at dksX0_laysPairs_2 15 rfl rfl)
theorem dX0_laysPairs_64 : decode cX0_laysPairs 64 = .ok (.goto 4, 3) := dk_167 0 4 (dk_at dksX0_laysPairs_2 16 rfl rfl)
theorem dX0_laysPairs_67 : decode cX0_laysPairs 67 = .ok (.iconst 0, 1) := dk_3 (dk_at dksX0_laysPairs_2 19 rfl rfl)
theorem dX0_laysPairs_68 : decode cX0_laysPairs 68 = .ok (.iastore, 1) := dk_79 (dk_at dksX0_laysPairs_2 20 rfl rfl)
theorem dX0_laysPairs_69 : decode cX0_laysPairs 69 = .ok (.iinc 4 1, 3) := dk_132 4 1 (dk_at dksX0_laysPairs_2 21 rfl rfl)
theorem dX0_laysPairs_72 : decode cX0_laysPairs 72 = .ok (.goto (-59), 3) := dk_167 255 197 (dk_at dksX0_laysPairs_3 0 rfl rfl)
theorem dX0_laysPairs_75 : decode cX0_laysPairs 75 = .ok (.iinc 3 1, 3) := dk_132 3 1 (dk_at dksX0_laysPairs_3 3 rfl rfl)
theorem dX0_laysPairs_78 : decode cX0_laysPairs 78 = .ok (.goto (-76), 3) := dk_167 255 180 (dk_at dksX0_laysPairs_3 6 rfl rfl)
theorem dX0_laysPairs_81 : decode cX0_laysPairs 81 = .ok (.aload_n 0, 1) := dk_42 (dk_at dksX0_laysPairs_3 9 rfl rfl)
theorem dX0_laysPairs_82 : decode cX0_laysPairs 82 = .ok (.getfield 51, 3) := dk_180 0 51 (dk_at dksX0_laysPairs_3 10 rfl rfl)
theorem dX0_laysPairs_85 : decode cX0_laysPairs 85 = .ok (.iconst 0, 1) := dk_3 (dk_at dksX0_laysPairs_3 13 rfl rfl)
theorem dX0_laysPairs_86 : decode cX0_laysPairs 86 = .ok (.iconst 0, 1) := dk_3 (dk_at dksX0_laysPairs_3 14 rfl rfl)
theorem dX0_laysPairs_87 : decode cX0_laysPairs 87 = .ok (.iastore, 1) := dk_79 (dk_at dksX0_laysPairs_3 15 rfl rfl)
theorem dX0_laysPairs_88 : decode cX0_laysPairs 88 = .ok (.iconst 1, 1) := dk_4 (dk_at dksX0_laysPairs_3 16 rfl rfl)
theorem dX0_laysPairs_89 : decode cX0_laysPairs 89 = .ok (.istore_n 3, 1) := dk_62 (dk_at dksX0_laysPairs_3 17 rfl rfl)
theorem dX0_laysPairs_90 : decode cX0_laysPairs 90 = .ok (.iload_n 3, 1) := dk_29 (dk_at dksX0_laysPairs_3 18 rfl rfl)
theorem dX0_laysPairs_91 : decode cX0_laysPairs 91 = .ok (.iload_n 1, 1) := dk_27 (dk_at dksX0_laysPairs_3 19 rfl rfl)
theorem dX0_laysPairs_92 : decode cX0_laysPairs 92 = .ok (.if_icmp .gt 138, 3) := dk_163 0 138 (dk_at dksX0_laysPairs_3 20 rfl rfl)
theorem dX0_laysPairs_95 : decode cX0_laysPairs 95 = .ok (.iload_n 3, 1) := dk_29 (dk_at dksX0_laysPairs_3 23 rfl rfl)
theorem dX0_laysPairs_96 : decode cX0_laysPairs 96 = .ok (.iload_n 1, 1) := dk_27 (dk_at dksX0_laysPairs_4 0 rfl rfl)
theorem dX0_laysPairs_97 : decode cX0_laysPairs 97 = .ok (.iconst (-1), 1) := dk_2 (dk_at dksX0_laysPairs_4 1 rfl rfl)
theorem dX0_laysPairs_98 : decode cX0_laysPairs 98 = .ok (.ixor, 1) := dk_130 (dk_at dksX0_laysPairs_4 2 rfl rfl)
theorem dX0_laysPairs_99 : decode cX0_laysPairs 99 = .ok (.iand, 1) := dk_126 (dk_at dksX0_laysPairs_4 3 rfl rfl)
theorem dX0_laysPairs_100 : decode cX0_laysPairs 100 = .ok (.ifCond .ne 124, 3) := dk_154 0 124 (dk_at dksX0_laysPairs_4 4 rfl rfl)
theorem dX0_laysPairs_103 : decode cX0_laysPairs 103 = .ok (.iload_n 3, 1) := dk_29 (dk_at dksX0_laysPairs_4 7 rfl rfl)
theorem dX0_laysPairs_104 : decode cX0_laysPairs 104 = .ok (.invokestatic 258, 3) := dk_184 1 2 (dk_at dksX0_laysPairs_4 8 rfl rfl)
theorem dX0_laysPairs_107 : decode cX0_laysPairs 107 = .ok (.iconst 2, 1) := dk_5 (dk_at dksX0_laysPairs_4 11 rfl rfl)
theorem dX0_laysPairs_108 : decode cX0_laysPairs 108 = .ok (.irem, 1) := dk_112 (dk_at dksX0_laysPairs_4 12 rfl rfl)
theorem dX0_laysPairs_109 : decode cX0_laysPairs 109 = .ok (.iconst 1, 1) := dk_4 (dk_at dksX0_laysPairs_4 13 rfl rfl)
theorem dX0_laysPairs_110 : decode cX0_laysPairs 110 = .ok (.if_icmp .ne 6, 3) := dk_160 0 6 (dk_at dksX0_laysPairs_4 14 rfl rfl)
theorem dX0_laysPairs_113 : decode cX0_laysPairs 113 = .ok (.goto 111, 3) := dk_167 0 111 (dk_at dksX0_laysPairs_4 17 rfl rfl)
theorem dX0_laysPairs_116 : decode cX0_laysPairs 116 = .ok (.iload_n 3, 1) := dk_29 (dk_at dksX0_laysPairs_4 20 rfl rfl)
theorem dX0_laysPairs_117 : decode cX0_laysPairs 117 = .ok (.invokestatic 274, 3) := dk_184 1 18 (dk_at dksX0_laysPairs_4 21 rfl rfl)
theorem dX0_laysPairs_120 : decode cX0_laysPairs 120 = .ok (.istore 4, 2) := dk_54 4 (dk_at dksX0_laysPairs_5 0 rfl rfl)
theorem dX0_laysPairs_122 : decode cX0_laysPairs 122 = .ok (.aload_n 0, 1) := dk_42 (dk_at dksX0_laysPairs_5 2 rfl rfl)
theorem dX0_laysPairs_123 : decode cX0_laysPairs 123 = .ok (.getfield 51, 3) := dk_180 0 51 (dk_at dksX0_laysPairs_5 3 rfl rfl)
theorem dX0_laysPairs_126 : decode cX0_laysPairs 126 = .ok (.iload_n 3, 1) := dk_29 (dk_at dksX0_laysPairs_5 6 rfl rfl)
theorem dX0_laysPairs_127 : decode cX0_laysPairs 127 = .ok (.iconst (-1), 1) := dk_2 (dk_at dksX0_laysPairs_5 7 rfl rfl)
theorem dX0_laysPairs_128 : decode cX0_laysPairs 128 = .ok (.iastore, 1) := dk_79 (dk_at dksX0_laysPairs_5 8 rfl rfl)
theorem dX0_laysPairs_129 : decode cX0_laysPairs 129 = .ok (.iload 4, 2) := dk_21 4 (dk_at dksX0_laysPairs_5 9 rfl rfl)
theorem dX0_laysPairs_131 : decode cX0_laysPairs 131 = .ok (.iconst 1, 1) := dk_4 (dk_at dksX0_laysPairs_5 11 rfl rfl)
theorem dX0_laysPairs_132 : decode cX0_laysPairs 132 = .ok (.iadd, 1) := dk_96 (dk_at dksX0_laysPairs_5 12 rfl rfl)
theorem dX0_laysPairs_133 : decode cX0_laysPairs 133 = .ok (.istore 5, 2) := dk_54 5 (dk_at dksX0_laysPairs_5 13 rfl rfl)
theorem dX0_laysPairs_135 : decode cX0_laysPairs 135 = .ok (.iload 5, 2) := dk_21 5 (dk_at dksX0_laysPairs_5 15 rfl rfl)
theorem dX0_laysPairs_137 : decode cX0_laysPairs 137 = .ok (.bipush 12, 2) := dk_16 12 (dk_at dksX0_laysPairs_5 17 rfl rfl)
theorem dX0_laysPairs_139 : decode cX0_laysPairs 139 = .ok (.if_icmp .ge 85, 3) := dk_162 0 85 (dk_at dksX0_laysPairs_5 19 rfl rfl)
theorem dX0_laysPairs_142 : decode cX0_laysPairs 142 = .ok (.iload_n 3, 1) := dk_29 (dk_at dksX0_laysPairs_5 22 rfl rfl)
theorem dX0_laysPairs_143 : decode cX0_laysPairs 143 = .ok (.iload 5, 2) := dk_21 5 (dk_at dksX0_laysPairs_6 0 rfl rfl)
theorem dX0_laysPairs_145 : decode cX0_laysPairs 145 = .ok (.invokestatic 173, 3) := dk_184 0 173 (dk_at dksX0_laysPairs_6 2 rfl rfl)
theorem dX0_laysPairs_148 : decode cX0_laysPairs 148 = .ok (.ifCond .ne 6, 3) := dk_154 0 6 (dk_at dksX0_laysPairs_6 5 rfl rfl)
theorem dX0_laysPairs_151 : decode cX0_laysPairs 151 = .ok (.goto 67, 3) := dk_167 0 67 (dk_at dksX0_laysPairs_6 8 rfl rfl)
theorem dX0_laysPairs_154 : decode cX0_laysPairs 154 = .ok (.aload_n 0, 1) := dk_42 (dk_at dksX0_laysPairs_6 11 rfl rfl)
theorem dX0_laysPairs_155 : decode cX0_laysPairs 155 = .ok (.getfield 57, 3) := dk_180 0 57 (dk_at dksX0_laysPairs_6 12 rfl rfl)
theorem dX0_laysPairs_158 : decode cX0_laysPairs 158 = .ok (.bipush 12, 2) := dk_16 12 (dk_at dksX0_laysPairs_6 15 rfl rfl)
theorem dX0_laysPairs_160 : decode cX0_laysPairs 160 = .ok (.iload 4, 2) := dk_21 4 (dk_at dksX0_laysPairs_6 17 rfl rfl)
theorem dX0_laysPairs_162 : decode cX0_laysPairs 162 = .ok (.imul, 1) := dk_104 (dk_at dksX0_laysPairs_6 19 rfl rfl)
theorem dX0_laysPairs_163 : decode cX0_laysPairs 163 = .ok (.iload 5, 2) := dk_21 5 (dk_at dksX0_laysPairs_6 20 rfl rfl)
theorem dX0_laysPairs_165 : decode cX0_laysPairs 165 = .ok (.iadd, 1) := dk_96 (dk_at dksX0_laysPairs_6 22 rfl rfl)
theorem dX0_laysPairs_166 : decode cX0_laysPairs 166 = .ok (.iaload, 1) := dk_46 (dk_at dksX0_laysPairs_6 23 rfl rfl)
theorem dX0_laysPairs_167 : decode cX0_laysPairs 167 = .ok (.aload_n 0, 1) := dk_42 (dk_at dksX0_laysPairs_7 0 rfl rfl)
theorem dX0_laysPairs_168 : decode cX0_laysPairs 168 = .ok (.getfield 51, 3) := dk_180 0 51 (dk_at dksX0_laysPairs_7 1 rfl rfl)
theorem dX0_laysPairs_171 : decode cX0_laysPairs 171 = .ok (.iload_n 3, 1) := dk_29 (dk_at dksX0_laysPairs_7 4 rfl rfl)
theorem dX0_laysPairs_172 : decode cX0_laysPairs 172 = .ok (.iconst 1, 1) := dk_4 (dk_at dksX0_laysPairs_7 5 rfl rfl)
theorem dX0_laysPairs_173 : decode cX0_laysPairs 173 = .ok (.iload 4, 2) := dk_21 4 (dk_at dksX0_laysPairs_7 6 rfl rfl)
theorem dX0_laysPairs_175 : decode cX0_laysPairs 175 = .ok (.ishl, 1) := dk_120 (dk_at dksX0_laysPairs_7 8 rfl rfl)
theorem dX0_laysPairs_176 : decode cX0_laysPairs 176 = .ok (.iconst 1, 1) := dk_4 (dk_at dksX0_laysPairs_7 9 rfl rfl)
theorem dX0_laysPairs_177 : decode cX0_laysPairs 177 = .ok (.iload 5, 2) := dk_21 5 (dk_at dksX0_laysPairs_7 10 rfl rfl)
theorem dX0_laysPairs_179 : decode cX0_laysPairs 179 = .ok (.ishl, 1) := dk_120 (dk_at dksX0_laysPairs_7 12 rfl rfl)
theorem dX0_laysPairs_180 : decode cX0_laysPairs 180 = .ok (.ior, 1) := dk_128 (dk_at dksX0_laysPairs_7 13 rfl rfl)
theorem dX0_laysPairs_181 : decode cX0_laysPairs 181 = .ok (.iconst (-1), 1) := dk_2 (dk_at dksX0_laysPairs_7 14 rfl rfl)
theorem dX0_laysPairs_182 : decode cX0_laysPairs 182 = .ok (.ixor, 1) := dk_130 (dk_at dksX0_laysPairs_7 15 rfl rfl)
theorem dX0_laysPairs_183 : decode cX0_laysPairs 183 = .ok (.iand, 1) := dk_126 (dk_at dksX0_laysPairs_7 16 rfl rfl)
theorem dX0_laysPairs_184 : decode cX0_laysPairs 184 = .ok (.iaload, 1) := dk_46 (dk_at dksX0_laysPairs_7 17 rfl rfl)
theorem dX0_laysPairs_185 : decode cX0_laysPairs 185 = .ok (.iadd, 1) := dk_96 (dk_at dksX0_laysPairs_7 18 rfl rfl)
theorem dX0_laysPairs_186 : decode cX0_laysPairs 186 = .ok (.istore 6, 2) := dk_54 6 (dk_at dksX0_laysPairs_7 19 rfl rfl)
theorem dX0_laysPairs_188 : decode cX0_laysPairs 188 = .ok (.iload 6, 2) := dk_21 6 (dk_at dksX0_laysPairs_7 21 rfl rfl)
theorem dX0_laysPairs_190 : decode cX0_laysPairs 190 = .ok (.aload_n 0, 1) := dk_42 (dk_at dksX0_laysPairs_7 23 rfl rfl)
theorem dX0_laysPairs_191 : decode cX0_laysPairs 191 = .ok (.getfield 51, 3) := dk_180 0 51 (dk_at dksX0_laysPairs_8 0 rfl rfl)
theorem dX0_laysPairs_194 : decode cX0_laysPairs 194 = .ok (.iload_n 3, 1) := dk_29 (dk_at dksX0_laysPairs_8 3 rfl rfl)
theorem dX0_laysPairs_195 : decode cX0_laysPairs 195 = .ok (.iaload, 1) := dk_46 (dk_at dksX0_laysPairs_8 4 rfl rfl)
theorem dX0_laysPairs_196 : decode cX0_laysPairs 196 = .ok (.if_icmp .gt 6, 3) := dk_163 0 6 (dk_at dksX0_laysPairs_8 5 rfl rfl)
theorem dX0_laysPairs_199 : decode cX0_laysPairs 199 = .ok (.goto 19, 3) := dk_167 0 19 (dk_at dksX0_laysPairs_8 8 rfl rfl)
theorem dX0_laysPairs_202 : decode cX0_laysPairs 202 = .ok (.aload_n 0, 1) := dk_42 (dk_at dksX0_laysPairs_8 11 rfl rfl)
theorem dX0_laysPairs_203 : decode cX0_laysPairs 203 = .ok (.getfield 51, 3) := dk_180 0 51 (dk_at dksX0_laysPairs_8 12 rfl rfl)
theorem dX0_laysPairs_206 : decode cX0_laysPairs 206 = .ok (.iload_n 3, 1) := dk_29 (dk_at dksX0_laysPairs_8 15 rfl rfl)
theorem dX0_laysPairs_207 : decode cX0_laysPairs 207 = .ok (.iload 6, 2) := dk_21 6 (dk_at dksX0_laysPairs_8 16 rfl rfl)
theorem dX0_laysPairs_209 : decode cX0_laysPairs 209 = .ok (.iastore, 1) := dk_79 (dk_at dksX0_laysPairs_8 18 rfl rfl)
theorem dX0_laysPairs_210 : decode cX0_laysPairs 210 = .ok (.aload_n 0, 1) := dk_42 (dk_at dksX0_laysPairs_8 19 rfl rfl)
theorem dX0_laysPairs_211 : decode cX0_laysPairs 211 = .ok (.getfield 54, 3) := dk_180 0 54 (dk_at dksX0_laysPairs_8 20 rfl rfl)
theorem dX0_laysPairs_214 : decode cX0_laysPairs 214 = .ok (.iload_n 3, 1) := dk_29 (dk_at dksX0_laysPairs_8 23 rfl rfl)
theorem dX0_laysPairs_215 : decode cX0_laysPairs 215 = .ok (.iload 5, 2) := dk_21 5 (dk_at dksX0_laysPairs_9 0 rfl rfl)
theorem dX0_laysPairs_217 : decode cX0_laysPairs 217 = .ok (.iastore, 1) := dk_79 (dk_at dksX0_laysPairs_9 2 rfl rfl)
theorem dX0_laysPairs_218 : decode cX0_laysPairs 218 = .ok (.iinc 5 1, 3) := dk_132 5 1 (dk_at dksX0_laysPairs_9 3 rfl rfl)
theorem dX0_laysPairs_221 : decode cX0_laysPairs 221 = .ok (.goto (-86), 3) := dk_167 255 170 (dk_at dksX0_laysPairs_9 6 rfl rfl)
theorem dX0_laysPairs_224 : decode cX0_laysPairs 224 = .ok (.iinc 3 1, 3) := dk_132 3 1 (dk_at dksX0_laysPairs_9 9 rfl rfl)
theorem dX0_laysPairs_227 : decode cX0_laysPairs 227 = .ok (.goto (-137), 3) := dk_167 255 119 (dk_at dksX0_laysPairs_9 12 rfl rfl)
theorem dX0_laysPairs_230 : decode cX0_laysPairs 230 = .ok (.return_, 1) := dk_177 (dk_at dksX0_laysPairs_9 15 rfl rfl)
abbrev cX0_roll : ByteArray := prog_1_method_79_code
def yX0_roll : MethodName := ⟨RX0, "roll", "(I)I"⟩
def dkwX0_roll_6 : List UInt8 := [154, 0, 9, 25, 4, 182, 1, 131, 172, 132, 3, 1, 167, 255, 173, 2, 172]
abbrev dktX0_roll_6 : List UInt8 := dkwX0_roll_6 ++ []
def dkwX0_roll_5 : List UInt8 := [167, 0, 18, 42, 25, 4, 182, 1, 118, 25, 4, 182, 1, 121, 4, 182, 1, 128, 54, 5, 21, 5]
abbrev dktX0_roll_5 : List UInt8 := dkwX0_roll_5 ++ dktX0_roll_6
def dkwX0_roll_4 : List UInt8 := [42, 25, 4, 182, 1, 118, 25, 4, 182, 1, 121, 182, 1, 124, 2, 159, 0, 7, 4, 167, 0, 22, 3]
abbrev dktX0_roll_4 : List UInt8 := dkwX0_roll_4 ++ dktX0_roll_5
def dkwX0_roll_3 : List UInt8 := [182, 0, 142, 162, 0, 81, 44, 29, 182, 0, 148, 192, 1, 113, 58, 4, 25, 4, 182, 1, 115, 153, 0, 29]
abbrev dktX0_roll_3 : List UInt8 := dkwX0_roll_3 ++ dktX0_roll_4
def dkwX0_roll_2 : List UInt8 := [180, 0, 64, 16, 7, 3, 79, 42, 180, 0, 10, 180, 0, 114, 27, 50, 180, 1, 110, 77, 3, 62, 29, 44]
abbrev dktX0_roll_2 : List UInt8 := dkwX0_roll_2 ++ dktX0_roll_3
def dkwX0_roll_1 : List UInt8 := [42, 180, 0, 10, 180, 0, 64, 3, 3, 79, 42, 180, 0, 10, 180, 0, 64, 8, 3, 79, 42, 180, 0, 10]
abbrev dktX0_roll_1 : List UInt8 := dkwX0_roll_1 ++ dktX0_roll_2
def dkwX0_roll_0 : List UInt8 := [27, 133, 9, 42, 180, 0, 10, 180, 0, 64, 6, 46, 4, 100, 133, 184, 0, 67, 154, 0, 6, 16, 254, 172]
abbrev dktX0_roll_0 : List UInt8 := dkwX0_roll_0 ++ dktX0_roll_1
theorem dksX0_roll_0 : cX0_roll.data.toList.drop 0 = dktX0_roll_0 := by decide +kernel
theorem dksX0_roll_1 : cX0_roll.data.toList.drop 24 = dktX0_roll_1 := dk_seg dksX0_roll_0 24 rfl rfl
theorem dksX0_roll_2 : cX0_roll.data.toList.drop 48 = dktX0_roll_2 := dk_seg dksX0_roll_1 24 rfl rfl
theorem dksX0_roll_3 : cX0_roll.data.toList.drop 72 = dktX0_roll_3 := dk_seg dksX0_roll_2 24 rfl rfl
theorem dksX0_roll_4 : cX0_roll.data.toList.drop 96 = dktX0_roll_4 := dk_seg dksX0_roll_3 24 rfl rfl
theorem dksX0_roll_5 : cX0_roll.data.toList.drop 119 = dktX0_roll_5 := dk_seg dksX0_roll_4 23 rfl rfl
theorem dksX0_roll_6 : cX0_roll.data.toList.drop 141 = dktX0_roll_6 := dk_seg dksX0_roll_5 22 rfl rfl
theorem dX0_roll_0 : decode cX0_roll 0 = .ok (.iload_n 1, 1) := dk_27 (dk_at dksX0_roll_0 0 rfl rfl)
theorem dX0_roll_1 : decode cX0_roll 1 = .ok (.i2l, 1) := dk_133 (dk_at dksX0_roll_0 1 rfl rfl)
theorem dX0_roll_2 : decode cX0_roll 2 = .ok (.lconst 0, 1) := dk_9 (dk_at dksX0_roll_0 2 rfl rfl)
theorem dX0_roll_3 : decode cX0_roll 3 = .ok (.aload_n 0, 1) := dk_42 (dk_at dksX0_roll_0 3 rfl rfl)
theorem dX0_roll_4 : decode cX0_roll 4 = .ok (.getfield 10, 3) := dk_180 0 10 (dk_at dksX0_roll_0 4 rfl rfl)
theorem dX0_roll_7 : decode cX0_roll 7 = .ok (.getfield 64, 3) := dk_180 0 64 (dk_at dksX0_roll_0 7 rfl rfl)
theorem dX0_roll_10 : decode cX0_roll 10 = .ok (.iconst 3, 1) := dk_6 (dk_at dksX0_roll_0 10 rfl rfl)
theorem dX0_roll_11 : decode cX0_roll 11 = .ok (.iaload, 1) := dk_46 (dk_at dksX0_roll_0 11 rfl rfl)
theorem dX0_roll_12 : decode cX0_roll 12 = .ok (.iconst 1, 1) := dk_4 (dk_at dksX0_roll_0 12 rfl rfl)
theorem dX0_roll_13 : decode cX0_roll 13 = .ok (.isub, 1) := dk_100 (dk_at dksX0_roll_0 13 rfl rfl)
theorem dX0_roll_14 : decode cX0_roll 14 = .ok (.i2l, 1) := dk_133 (dk_at dksX0_roll_0 14 rfl rfl)
theorem dX0_roll_15 : decode cX0_roll 15 = .ok (.invokestatic 67, 3) := dk_184 0 67 (dk_at dksX0_roll_0 15 rfl rfl)
theorem dX0_roll_18 : decode cX0_roll 18 = .ok (.ifCond .ne 6, 3) := dk_154 0 6 (dk_at dksX0_roll_0 18 rfl rfl)
theorem dX0_roll_21 : decode cX0_roll 21 = .ok (.bipush (-2), 2) := dk_16 254 (dk_at dksX0_roll_0 21 rfl rfl)
theorem dX0_roll_23 : decode cX0_roll 23 = .ok (.ireturn, 1) := dk_172 (dk_at dksX0_roll_0 23 rfl rfl)
theorem dX0_roll_24 : decode cX0_roll 24 = .ok (.aload_n 0, 1) := dk_42 (dk_at dksX0_roll_1 0 rfl rfl)
theorem dX0_roll_25 : decode cX0_roll 25 = .ok (.getfield 10, 3) := dk_180 0 10 (dk_at dksX0_roll_1 1 rfl rfl)
theorem dX0_roll_28 : decode cX0_roll 28 = .ok (.getfield 64, 3) := dk_180 0 64 (dk_at dksX0_roll_1 4 rfl rfl)
theorem dX0_roll_31 : decode cX0_roll 31 = .ok (.iconst 0, 1) := dk_3 (dk_at dksX0_roll_1 7 rfl rfl)
theorem dX0_roll_32 : decode cX0_roll 32 = .ok (.iconst 0, 1) := dk_3 (dk_at dksX0_roll_1 8 rfl rfl)
theorem dX0_roll_33 : decode cX0_roll 33 = .ok (.iastore, 1) := dk_79 (dk_at dksX0_roll_1 9 rfl rfl)
theorem dX0_roll_34 : decode cX0_roll 34 = .ok (.aload_n 0, 1) := dk_42 (dk_at dksX0_roll_1 10 rfl rfl)
theorem dX0_roll_35 : decode cX0_roll 35 = .ok (.getfield 10, 3) := dk_180 0 10 (dk_at dksX0_roll_1 11 rfl rfl)
theorem dX0_roll_38 : decode cX0_roll 38 = .ok (.getfield 64, 3) := dk_180 0 64 (dk_at dksX0_roll_1 14 rfl rfl)
theorem dX0_roll_41 : decode cX0_roll 41 = .ok (.iconst 5, 1) := dk_8 (dk_at dksX0_roll_1 17 rfl rfl)
theorem dX0_roll_42 : decode cX0_roll 42 = .ok (.iconst 0, 1) := dk_3 (dk_at dksX0_roll_1 18 rfl rfl)
theorem dX0_roll_43 : decode cX0_roll 43 = .ok (.iastore, 1) := dk_79 (dk_at dksX0_roll_1 19 rfl rfl)
theorem dX0_roll_44 : decode cX0_roll 44 = .ok (.aload_n 0, 1) := dk_42 (dk_at dksX0_roll_1 20 rfl rfl)
theorem dX0_roll_45 : decode cX0_roll 45 = .ok (.getfield 10, 3) := dk_180 0 10 (dk_at dksX0_roll_1 21 rfl rfl)
theorem dX0_roll_48 : decode cX0_roll 48 = .ok (.getfield 64, 3) := dk_180 0 64 (dk_at dksX0_roll_2 0 rfl rfl)
theorem dX0_roll_51 : decode cX0_roll 51 = .ok (.bipush 7, 2) := dk_16 7 (dk_at dksX0_roll_2 3 rfl rfl)
theorem dX0_roll_53 : decode cX0_roll 53 = .ok (.iconst 0, 1) := dk_3 (dk_at dksX0_roll_2 5 rfl rfl)
theorem dX0_roll_54 : decode cX0_roll 54 = .ok (.iastore, 1) := dk_79 (dk_at dksX0_roll_2 6 rfl rfl)
theorem dX0_roll_55 : decode cX0_roll 55 = .ok (.aload_n 0, 1) := dk_42 (dk_at dksX0_roll_2 7 rfl rfl)
theorem dX0_roll_56 : decode cX0_roll 56 = .ok (.getfield 10, 3) := dk_180 0 10 (dk_at dksX0_roll_2 8 rfl rfl)
theorem dX0_roll_59 : decode cX0_roll 59 = .ok (.getfield 114, 3) := dk_180 0 114 (dk_at dksX0_roll_2 11 rfl rfl)
theorem dX0_roll_62 : decode cX0_roll 62 = .ok (.iload_n 1, 1) := dk_27 (dk_at dksX0_roll_2 14 rfl rfl)
theorem dX0_roll_63 : decode cX0_roll 63 = .ok (.aaload, 1) := dk_50 (dk_at dksX0_roll_2 15 rfl rfl)
theorem dX0_roll_64 : decode cX0_roll 64 = .ok (.getfield 366, 3) := dk_180 1 110 (dk_at dksX0_roll_2 16 rfl rfl)
theorem dX0_roll_67 : decode cX0_roll 67 = .ok (.astore_n 2, 1) := dk_77 (dk_at dksX0_roll_2 19 rfl rfl)
theorem dX0_roll_68 : decode cX0_roll 68 = .ok (.iconst 0, 1) := dk_3 (dk_at dksX0_roll_2 20 rfl rfl)
theorem dX0_roll_69 : decode cX0_roll 69 = .ok (.istore_n 3, 1) := dk_62 (dk_at dksX0_roll_2 21 rfl rfl)
theorem dX0_roll_70 : decode cX0_roll 70 = .ok (.iload_n 3, 1) := dk_29 (dk_at dksX0_roll_2 22 rfl rfl)
theorem dX0_roll_71 : decode cX0_roll 71 = .ok (.aload_n 2, 1) := dk_44 (dk_at dksX0_roll_2 23 rfl rfl)
theorem dX0_roll_72 : decode cX0_roll 72 = .ok (.invokevirtual 142, 3) := dk_182 0 142 (dk_at dksX0_roll_3 0 rfl rfl)
theorem dX0_roll_75 : decode cX0_roll 75 = .ok (.if_icmp .ge 81, 3) := dk_162 0 81 (dk_at dksX0_roll_3 3 rfl rfl)
theorem dX0_roll_78 : decode cX0_roll 78 = .ok (.aload_n 2, 1) := dk_44 (dk_at dksX0_roll_3 6 rfl rfl)
theorem dX0_roll_79 : decode cX0_roll 79 = .ok (.iload_n 3, 1) := dk_29 (dk_at dksX0_roll_3 7 rfl rfl)
theorem dX0_roll_80 : decode cX0_roll 80 = .ok (.invokevirtual 148, 3) := dk_182 0 148 (dk_at dksX0_roll_3 8 rfl rfl)
theorem dX0_roll_83 : decode cX0_roll 83 = .ok (.checkcast 369, 3) := dk_192 1 113 (dk_at dksX0_roll_3 11 rfl rfl)
theorem dX0_roll_86 : decode cX0_roll 86 = .ok (.astore 4, 2) := dk_58 4 (dk_at dksX0_roll_3 14 rfl rfl)
theorem dX0_roll_88 : decode cX0_roll 88 = .ok (.aload 4, 2) := dk_25 4 (dk_at dksX0_roll_3 16 rfl rfl)
theorem dX0_roll_90 : decode cX0_roll 90 = .ok (.invokevirtual 371, 3) := dk_182 1 115 (dk_at dksX0_roll_3 18 rfl rfl)
theorem dX0_roll_93 : decode cX0_roll 93 = .ok (.ifCond .eq 29, 3) := dk_153 0 29 (dk_at dksX0_roll_3 21 rfl rfl)
theorem dX0_roll_96 : decode cX0_roll 96 = .ok (.aload_n 0, 1) := dk_42 (dk_at dksX0_roll_4 0 rfl rfl)
theorem dX0_roll_97 : decode cX0_roll 97 = .ok (.aload 4, 2) := dk_25 4 (dk_at dksX0_roll_4 1 rfl rfl)
theorem dX0_roll_99 : decode cX0_roll 99 = .ok (.invokevirtual 374, 3) := dk_182 1 118 (dk_at dksX0_roll_4 3 rfl rfl)
theorem dX0_roll_102 : decode cX0_roll 102 = .ok (.aload 4, 2) := dk_25 4 (dk_at dksX0_roll_4 6 rfl rfl)
theorem dX0_roll_104 : decode cX0_roll 104 = .ok (.invokevirtual 377, 3) := dk_182 1 121 (dk_at dksX0_roll_4 8 rfl rfl)
theorem dX0_roll_107 : decode cX0_roll 107 = .ok (.invokevirtual 380, 3) := dk_182 1 124 (dk_at dksX0_roll_4 11 rfl rfl)
theorem dX0_roll_110 : decode cX0_roll 110 = .ok (.iconst (-1), 1) := dk_2 (dk_at dksX0_roll_4 14 rfl rfl)
theorem dX0_roll_111 : decode cX0_roll 111 = .ok (.if_icmp .eq 7, 3) := dk_159 0 7 (dk_at dksX0_roll_4 15 rfl rfl)
theorem dX0_roll_114 : decode cX0_roll 114 = .ok (.iconst 1, 1) := dk_4 (dk_at dksX0_roll_4 18 rfl rfl)
theorem dX0_roll_115 : decode cX0_roll 115 = .ok (.goto 22, 3) := dk_167 0 22 (dk_at dksX0_roll_4 19 rfl rfl)
theorem dX0_roll_118 : decode cX0_roll 118 = .ok (.iconst 0, 1) := dk_3 (dk_at dksX0_roll_4 22 rfl rfl)
theorem dX0_roll_119 : decode cX0_roll 119 = .ok (.goto 18, 3) := dk_167 0 18 (dk_at dksX0_roll_5 0 rfl rfl)
theorem dX0_roll_122 : decode cX0_roll 122 = .ok (.aload_n 0, 1) := dk_42 (dk_at dksX0_roll_5 3 rfl rfl)
theorem dX0_roll_123 : decode cX0_roll 123 = .ok (.aload 4, 2) := dk_25 4 (dk_at dksX0_roll_5 4 rfl rfl)
theorem dX0_roll_125 : decode cX0_roll 125 = .ok (.invokevirtual 374, 3) := dk_182 1 118 (dk_at dksX0_roll_5 6 rfl rfl)
theorem dX0_roll_128 : decode cX0_roll 128 = .ok (.aload 4, 2) := dk_25 4 (dk_at dksX0_roll_5 9 rfl rfl)
theorem dX0_roll_130 : decode cX0_roll 130 = .ok (.invokevirtual 377, 3) := dk_182 1 121 (dk_at dksX0_roll_5 11 rfl rfl)
theorem dX0_roll_133 : decode cX0_roll 133 = .ok (.iconst 1, 1) := dk_4 (dk_at dksX0_roll_5 14 rfl rfl)
theorem dX0_roll_134 : decode cX0_roll 134 = .ok (.invokevirtual 384, 3) := dk_182 1 128 (dk_at dksX0_roll_5 15 rfl rfl)
theorem dX0_roll_137 : decode cX0_roll 137 = .ok (.istore 5, 2) := dk_54 5 (dk_at dksX0_roll_5 18 rfl rfl)
theorem dX0_roll_139 : decode cX0_roll 139 = .ok (.iload 5, 2) := dk_21 5 (dk_at dksX0_roll_5 20 rfl rfl)
theorem dX0_roll_141 : decode cX0_roll 141 = .ok (.ifCond .ne 9, 3) := dk_154 0 9 (dk_at dksX0_roll_6 0 rfl rfl)
theorem dX0_roll_144 : decode cX0_roll 144 = .ok (.aload 4, 2) := dk_25 4 (dk_at dksX0_roll_6 3 rfl rfl)
theorem dX0_roll_146 : decode cX0_roll 146 = .ok (.invokevirtual 387, 3) := dk_182 1 131 (dk_at dksX0_roll_6 5 rfl rfl)
theorem dX0_roll_149 : decode cX0_roll 149 = .ok (.ireturn, 1) := dk_172 (dk_at dksX0_roll_6 8 rfl rfl)
theorem dX0_roll_150 : decode cX0_roll 150 = .ok (.iinc 3 1, 3) := dk_132 3 1 (dk_at dksX0_roll_6 9 rfl rfl)
theorem dX0_roll_153 : decode cX0_roll 153 = .ok (.goto (-83), 3) := dk_167 255 173 (dk_at dksX0_roll_6 12 rfl rfl)
theorem dX0_roll_156 : decode cX0_roll 156 = .ok (.iconst (-1), 1) := dk_2 (dk_at dksX0_roll_6 15 rfl rfl)
theorem dX0_roll_157 : decode cX0_roll 157 = .ok (.ireturn, 1) := dk_172 (dk_at dksX0_roll_6 16 rfl rfl)
abbrev cX0_image : ByteArray := prog_1_method_80_code
def yX0_image : MethodName := ⟨RX0, "image", "()I"⟩
def dkwX0_image_0 : List UInt8 := [42, 180, 0, 16, 42, 180, 0, 10, 182, 0, 60, 42, 180, 0, 10, 180, 0, 64, 3, 46, 172]
abbrev dktX0_image_0 : List UInt8 := dkwX0_image_0 ++ []
theorem dksX0_image_0 : cX0_image.data.toList.drop 0 = dktX0_image_0 := by decide +kernel
theorem dX0_image_0 : decode cX0_image 0 = .ok (.aload_n 0, 1) := dk_42 (dk_at dksX0_image_0 0 rfl rfl)
theorem dX0_image_1 : decode cX0_image 1 = .ok (.getfield 16, 3) := dk_180 0 16 (dk_at dksX0_image_0 1 rfl rfl)
theorem dX0_image_4 : decode cX0_image 4 = .ok (.aload_n 0, 1) := dk_42 (dk_at dksX0_image_0 4 rfl rfl)
theorem dX0_image_5 : decode cX0_image 5 = .ok (.getfield 10, 3) := dk_180 0 10 (dk_at dksX0_image_0 5 rfl rfl)
theorem dX0_image_8 : decode cX0_image 8 = .ok (.invokevirtual 60, 3) := dk_182 0 60 (dk_at dksX0_image_0 8 rfl rfl)
theorem dX0_image_11 : decode cX0_image 11 = .ok (.aload_n 0, 1) := dk_42 (dk_at dksX0_image_0 11 rfl rfl)
theorem dX0_image_12 : decode cX0_image 12 = .ok (.getfield 10, 3) := dk_180 0 10 (dk_at dksX0_image_0 12 rfl rfl)
theorem dX0_image_15 : decode cX0_image 15 = .ok (.getfield 64, 3) := dk_180 0 64 (dk_at dksX0_image_0 15 rfl rfl)
theorem dX0_image_18 : decode cX0_image 18 = .ok (.iconst 0, 1) := dk_3 (dk_at dksX0_image_0 18 rfl rfl)
theorem dX0_image_19 : decode cX0_image 19 = .ok (.iaload, 1) := dk_46 (dk_at dksX0_image_0 19 rfl rfl)
theorem dX0_image_20 : decode cX0_image 20 = .ok (.ireturn, 1) := dk_172 (dk_at dksX0_image_0 20 rfl rfl)
abbrev cX0_back : ByteArray := prog_1_method_81_code
def yX0_back : MethodName := ⟨RX0, "back", "()I"⟩
def dkwX0_back_0 : List UInt8 := [42, 180, 0, 10, 42, 180, 0, 16, 182, 0, 60, 42, 180, 0, 10, 180, 0, 64, 3, 46, 172]
abbrev dktX0_back_0 : List UInt8 := dkwX0_back_0 ++ []
theorem dksX0_back_0 : cX0_back.data.toList.drop 0 = dktX0_back_0 := by decide +kernel
theorem dX0_back_0 : decode cX0_back 0 = .ok (.aload_n 0, 1) := dk_42 (dk_at dksX0_back_0 0 rfl rfl)
theorem dX0_back_1 : decode cX0_back 1 = .ok (.getfield 10, 3) := dk_180 0 10 (dk_at dksX0_back_0 1 rfl rfl)
theorem dX0_back_4 : decode cX0_back 4 = .ok (.aload_n 0, 1) := dk_42 (dk_at dksX0_back_0 4 rfl rfl)
theorem dX0_back_5 : decode cX0_back 5 = .ok (.getfield 16, 3) := dk_180 0 16 (dk_at dksX0_back_0 5 rfl rfl)
theorem dX0_back_8 : decode cX0_back 8 = .ok (.invokevirtual 60, 3) := dk_182 0 60 (dk_at dksX0_back_0 8 rfl rfl)
theorem dX0_back_11 : decode cX0_back 11 = .ok (.aload_n 0, 1) := dk_42 (dk_at dksX0_back_0 11 rfl rfl)
theorem dX0_back_12 : decode cX0_back 12 = .ok (.getfield 10, 3) := dk_180 0 10 (dk_at dksX0_back_0 12 rfl rfl)
theorem dX0_back_15 : decode cX0_back 15 = .ok (.getfield 64, 3) := dk_180 0 64 (dk_at dksX0_back_0 15 rfl rfl)
theorem dX0_back_18 : decode cX0_back 18 = .ok (.iconst 0, 1) := dk_3 (dk_at dksX0_back_0 18 rfl rfl)
theorem dX0_back_19 : decode cX0_back 19 = .ok (.iaload, 1) := dk_46 (dk_at dksX0_back_0 19 rfl rfl)
theorem dX0_back_20 : decode cX0_back 20 = .ok (.ireturn, 1) := dk_172 (dk_at dksX0_back_0 20 rfl rfl)
abbrev cX0_about : ByteArray := prog_1_method_82_code
def yX0_about : MethodName := ⟨RX0, "about", "(I)I"⟩
def dkwX0_about_4 : List UInt8 := [153, 0, 19, 42, 180, 0, 10, 180, 0, 92, 27, 17, 1, 44, 100, 46, 167, 0, 5, 16, 254, 172]
abbrev dktX0_about_4 : List UInt8 := dkwX0_about_4 ++ []
def dkwX0_about_3 : List UInt8 := [42, 180, 0, 10, 180, 0, 89, 27, 17, 0, 200, 100, 46, 172, 42, 27, 17, 1, 44, 100, 182, 0, 95]
abbrev dktX0_about_3 : List UInt8 := dkwX0_about_3 ++ dktX0_about_4
def dkwX0_about_2 : List UInt8 := [180, 0, 10, 180, 0, 86, 27, 16, 100, 100, 46, 172, 42, 27, 17, 0, 200, 100, 182, 0, 95, 153, 0, 17]
abbrev dktX0_about_2 : List UInt8 := dkwX0_about_2 ++ dktX0_about_3
def dkwX0_about_1 : List UInt8 := [16, 9, 160, 0, 8, 42, 180, 0, 107, 172, 42, 27, 16, 100, 100, 182, 0, 95, 153, 0, 16, 42]
abbrev dktX0_about_1 : List UInt8 := dkwX0_about_1 ++ dktX0_about_2
def dkwX0_about_0 : List UInt8 := [27, 133, 9, 20, 1, 133, 184, 0, 67, 153, 0, 13, 42, 180, 0, 10, 180, 0, 64, 27, 46, 172, 27]
abbrev dktX0_about_0 : List UInt8 := dkwX0_about_0 ++ dktX0_about_1
theorem dksX0_about_0 : cX0_about.data.toList.drop 0 = dktX0_about_0 := by decide +kernel
theorem dksX0_about_1 : cX0_about.data.toList.drop 23 = dktX0_about_1 := dk_seg dksX0_about_0 23 rfl rfl
theorem dksX0_about_2 : cX0_about.data.toList.drop 45 = dktX0_about_2 := dk_seg dksX0_about_1 22 rfl rfl
theorem dksX0_about_3 : cX0_about.data.toList.drop 69 = dktX0_about_3 := dk_seg dksX0_about_2 24 rfl rfl
theorem dksX0_about_4 : cX0_about.data.toList.drop 92 = dktX0_about_4 := dk_seg dksX0_about_3 23 rfl rfl
theorem dX0_about_0 : decode cX0_about 0 = .ok (.iload_n 1, 1) := dk_27 (dk_at dksX0_about_0 0 rfl rfl)
theorem dX0_about_1 : decode cX0_about 1 = .ok (.i2l, 1) := dk_133 (dk_at dksX0_about_0 1 rfl rfl)
theorem dX0_about_2 : decode cX0_about 2 = .ok (.lconst 0, 1) := dk_9 (dk_at dksX0_about_0 2 rfl rfl)
theorem dX0_about_3 : decode cX0_about 3 = .ok (.ldc2_w 389, 3) := dk_20 1 133 (dk_at dksX0_about_0 3 rfl rfl)
theorem dX0_about_6 : decode cX0_about 6 = .ok (.invokestatic 67, 3) := dk_184 0 67 (dk_at dksX0_about_0 6 rfl rfl)
theorem dX0_about_9 : decode cX0_about 9 = .ok (.ifCond .eq 13, 3) := dk_153 0 13 (dk_at dksX0_about_0 9 rfl rfl)
theorem dX0_about_12 : decode cX0_about 12 = .ok (.aload_n 0, 1) := dk_42 (dk_at dksX0_about_0 12 rfl rfl)
theorem dX0_about_13 : decode cX0_about 13 = .ok (.getfield 10, 3) := dk_180 0 10 (dk_at dksX0_about_0 13 rfl rfl)
theorem dX0_about_16 : decode cX0_about 16 = .ok (.getfield 64, 3) := dk_180 0 64 (dk_at dksX0_about_0 16 rfl rfl)
theorem dX0_about_19 : decode cX0_about 19 = .ok (.iload_n 1, 1) := dk_27 (dk_at dksX0_about_0 19 rfl rfl)
theorem dX0_about_20 : decode cX0_about 20 = .ok (.iaload, 1) := dk_46 (dk_at dksX0_about_0 20 rfl rfl)
theorem dX0_about_21 : decode cX0_about 21 = .ok (.ireturn, 1) := dk_172 (dk_at dksX0_about_0 21 rfl rfl)
theorem dX0_about_22 : decode cX0_about 22 = .ok (.iload_n 1, 1) := dk_27 (dk_at dksX0_about_0 22 rfl rfl)
theorem dX0_about_23 : decode cX0_about 23 = .ok (.bipush 9, 2) := dk_16 9 (dk_at dksX0_about_1 0 rfl rfl)
theorem dX0_about_25 : decode cX0_about 25 = .ok (.if_icmp .ne 8, 3) := dk_160 0 8 (dk_at dksX0_about_1 2 rfl rfl)
theorem dX0_about_28 : decode cX0_about 28 = .ok (.aload_n 0, 1) := dk_42 (dk_at dksX0_about_1 5 rfl rfl)
theorem dX0_about_29 : decode cX0_about 29 = .ok (.getfield 107, 3) := dk_180 0 107 (dk_at dksX0_about_1 6 rfl rfl)
theorem dX0_about_32 : decode cX0_about 32 = .ok (.ireturn, 1) := dk_172 (dk_at dksX0_about_1 9 rfl rfl)
theorem dX0_about_33 : decode cX0_about 33 = .ok (.aload_n 0, 1) := dk_42 (dk_at dksX0_about_1 10 rfl rfl)
theorem dX0_about_34 : decode cX0_about 34 = .ok (.iload_n 1, 1) := dk_27 (dk_at dksX0_about_1 11 rfl rfl)
theorem dX0_about_35 : decode cX0_about 35 = .ok (.bipush 100, 2) := dk_16 100 (dk_at dksX0_about_1 12 rfl rfl)
theorem dX0_about_37 : decode cX0_about 37 = .ok (.isub, 1) := dk_100 (dk_at dksX0_about_1 14 rfl rfl)
theorem dX0_about_38 : decode cX0_about 38 = .ok (.invokevirtual 95, 3) := dk_182 0 95 (dk_at dksX0_about_1 15 rfl rfl)
theorem dX0_about_41 : decode cX0_about 41 = .ok (.ifCond .eq 16, 3) := dk_153 0 16 (dk_at dksX0_about_1 18 rfl rfl)
theorem dX0_about_44 : decode cX0_about 44 = .ok (.aload_n 0, 1) := dk_42 (dk_at dksX0_about_1 21 rfl rfl)
theorem dX0_about_45 : decode cX0_about 45 = .ok (.getfield 10, 3) := dk_180 0 10 (dk_at dksX0_about_2 0 rfl rfl)
theorem dX0_about_48 : decode cX0_about 48 = .ok (.getfield 86, 3) := dk_180 0 86 (dk_at dksX0_about_2 3 rfl rfl)
theorem dX0_about_51 : decode cX0_about 51 = .ok (.iload_n 1, 1) := dk_27 (dk_at dksX0_about_2 6 rfl rfl)
theorem dX0_about_52 : decode cX0_about 52 = .ok (.bipush 100, 2) := dk_16 100 (dk_at dksX0_about_2 7 rfl rfl)
theorem dX0_about_54 : decode cX0_about 54 = .ok (.isub, 1) := dk_100 (dk_at dksX0_about_2 9 rfl rfl)
theorem dX0_about_55 : decode cX0_about 55 = .ok (.iaload, 1) := dk_46 (dk_at dksX0_about_2 10 rfl rfl)
theorem dX0_about_56 : decode cX0_about 56 = .ok (.ireturn, 1) := dk_172 (dk_at dksX0_about_2 11 rfl rfl)
theorem dX0_about_57 : decode cX0_about 57 = .ok (.aload_n 0, 1) := dk_42 (dk_at dksX0_about_2 12 rfl rfl)
theorem dX0_about_58 : decode cX0_about 58 = .ok (.iload_n 1, 1) := dk_27 (dk_at dksX0_about_2 13 rfl rfl)
theorem dX0_about_59 : decode cX0_about 59 = .ok (.sipush 200, 3) := dk_17 0 200 (dk_at dksX0_about_2 14 rfl rfl)
theorem dX0_about_62 : decode cX0_about 62 = .ok (.isub, 1) := dk_100 (dk_at dksX0_about_2 17 rfl rfl)
theorem dX0_about_63 : decode cX0_about 63 = .ok (.invokevirtual 95, 3) := dk_182 0 95 (dk_at dksX0_about_2 18 rfl rfl)
theorem dX0_about_66 : decode cX0_about 66 = .ok (.ifCond .eq 17, 3) := dk_153 0 17 (dk_at dksX0_about_2 21 rfl rfl)
theorem dX0_about_69 : decode cX0_about 69 = .ok (.aload_n 0, 1) := dk_42 (dk_at dksX0_about_3 0 rfl rfl)
theorem dX0_about_70 : decode cX0_about 70 = .ok (.getfield 10, 3) := dk_180 0 10 (dk_at dksX0_about_3 1 rfl rfl)
theorem dX0_about_73 : decode cX0_about 73 = .ok (.getfield 89, 3) := dk_180 0 89 (dk_at dksX0_about_3 4 rfl rfl)
theorem dX0_about_76 : decode cX0_about 76 = .ok (.iload_n 1, 1) := dk_27 (dk_at dksX0_about_3 7 rfl rfl)
theorem dX0_about_77 : decode cX0_about 77 = .ok (.sipush 200, 3) := dk_17 0 200 (dk_at dksX0_about_3 8 rfl rfl)
theorem dX0_about_80 : decode cX0_about 80 = .ok (.isub, 1) := dk_100 (dk_at dksX0_about_3 11 rfl rfl)
theorem dX0_about_81 : decode cX0_about 81 = .ok (.iaload, 1) := dk_46 (dk_at dksX0_about_3 12 rfl rfl)
theorem dX0_about_82 : decode cX0_about 82 = .ok (.ireturn, 1) := dk_172 (dk_at dksX0_about_3 13 rfl rfl)
theorem dX0_about_83 : decode cX0_about 83 = .ok (.aload_n 0, 1) := dk_42 (dk_at dksX0_about_3 14 rfl rfl)
theorem dX0_about_84 : decode cX0_about 84 = .ok (.iload_n 1, 1) := dk_27 (dk_at dksX0_about_3 15 rfl rfl)
theorem dX0_about_85 : decode cX0_about 85 = .ok (.sipush 300, 3) := dk_17 1 44 (dk_at dksX0_about_3 16 rfl rfl)
theorem dX0_about_88 : decode cX0_about 88 = .ok (.isub, 1) := dk_100 (dk_at dksX0_about_3 19 rfl rfl)
theorem dX0_about_89 : decode cX0_about 89 = .ok (.invokevirtual 95, 3) := dk_182 0 95 (dk_at dksX0_about_3 20 rfl rfl)
theorem dX0_about_92 : decode cX0_about 92 = .ok (.ifCond .eq 19, 3) := dk_153 0 19 (dk_at dksX0_about_4 0 rfl rfl)
theorem dX0_about_95 : decode cX0_about 95 = .ok (.aload_n 0, 1) := dk_42 (dk_at dksX0_about_4 3 rfl rfl)
theorem dX0_about_96 : decode cX0_about 96 = .ok (.getfield 10, 3) := dk_180 0 10 (dk_at dksX0_about_4 4 rfl rfl)
theorem dX0_about_99 : decode cX0_about 99 = .ok (.getfield 92, 3) := dk_180 0 92 (dk_at dksX0_about_4 7 rfl rfl)
theorem dX0_about_102 : decode cX0_about 102 = .ok (.iload_n 1, 1) := dk_27 (dk_at dksX0_about_4 10 rfl rfl)
theorem dX0_about_103 : decode cX0_about 103 = .ok (.sipush 300, 3) := dk_17 1 44 (dk_at dksX0_about_4 11 rfl rfl)
theorem dX0_about_106 : decode cX0_about 106 = .ok (.isub, 1) := dk_100 (dk_at dksX0_about_4 14 rfl rfl)
theorem dX0_about_107 : decode cX0_about 107 = .ok (.iaload, 1) := dk_46 (dk_at dksX0_about_4 15 rfl rfl)
theorem dX0_about_108 : decode cX0_about 108 = .ok (.goto 5, 3) := dk_167 0 5 (dk_at dksX0_about_4 16 rfl rfl)
theorem dX0_about_111 : decode cX0_about 111 = .ok (.bipush (-2), 2) := dk_16 254 (dk_at dksX0_about_4 19 rfl rfl)
theorem dX0_about_113 : decode cX0_about 113 = .ok (.ireturn, 1) := dk_172 (dk_at dksX0_about_4 21 rfl rfl)
theorem q111 : (Jvm.Cond.initialized "NumberComes") ∈ lw_all := lw_g (lw_at lw_m1 1 rfl) rfl
theorem q144 : (Jvm.Cond.instantiable "NumberComes" (18 : Nat)) ∈ lw_all := lw_g (lw_at lw_m1 34 rfl) rfl
theorem q146 : (Jvm.Cond.instanceMethod ({ cls := "NumberComes", name := "<init>", desc := "()V" } : Jvm.MethodName)) ∈ lw_all := lw_g (lw_at lw_m1 36 rfl) rfl
theorem q147 : (Jvm.Cond.code ({ cls := "NumberComes", name := "<init>", desc := "()V" } : Jvm.MethodName) prog_1_method_1_code (1 : Nat) (Option.none : Option Jvm.ClassFile.FieldType)) ∈ lw_all := lw_g (lw_at lw_m1 37 rfl) rfl
theorem q148 : (Jvm.Cond.methodLink "NumberComes" (1 : Nat) ({ cls := "java/lang/Object", name := "<init>", desc := "()V" } : Jvm.MethodName)) ∈ lw_all := lw_g (lw_at lw_m1 38 rfl) rfl
theorem q151 : (Jvm.Cond.classLink "NumberComes" (7 : Nat) "NumberComes$State") ∈ lw_all := lw_g (lw_at lw_m1 41 rfl) rfl
theorem q153 : (Jvm.Cond.methodLink "NumberComes" (9 : Nat) ({ cls := "NumberComes$State", name := "<init>", desc := "()V" } : Jvm.MethodName)) ∈ lw_all := lw_g (lw_at lw_m1 43 rfl) rfl
theorem q162 : (Jvm.Cond.fieldLinkNest "NumberComes" (64 : Nat) "NumberComes$State" "n" "[I" "NumberComes") ∈ lw_tbl := lw_at lw_m1 52 rfl
theorem q164 : (Jvm.Cond.fieldLinkNest "NumberComes" (86 : Nat) "NumberComes$State" "number" "[I" "NumberComes") ∈ lw_tbl := lw_at lw_m1 54 rfl
theorem q166 : (Jvm.Cond.fieldLinkNest "NumberComes" (89 : Nat) "NumberComes$State" "first" "[I" "NumberComes") ∈ lw_tbl := lw_at lw_m1 56 rfl
theorem q168 : (Jvm.Cond.fieldLinkNest "NumberComes" (92 : Nat) "NumberComes$State" "near" "[I" "NumberComes") ∈ lw_tbl := lw_at lw_m1 58 rfl
theorem q170 : (Jvm.Cond.fieldLinkNest "NumberComes" (299 : Nat) "NumberComes$State" "given" "[I" "NumberComes") ∈ lw_tbl := lw_at lw_m1 60 rfl
theorem q172 : (Jvm.Cond.fieldLinkNest "NumberComes" (302 : Nat) "NumberComes$State" "need" "[[I" "NumberComes") ∈ lw_tbl := lw_at lw_m1 62 rfl
theorem q174 : (Jvm.Cond.fieldLinkNest "NumberComes" (346 : Nat) "NumberComes$State" "heard" "[[I" "NumberComes") ∈ lw_tbl := lw_at lw_m1 64 rfl
theorem q176 : (Jvm.Cond.fieldLinkNest "NumberComes" (280 : Nat) "NumberComes$State" "talk" "[[I" "NumberComes") ∈ lw_tbl := lw_at lw_m1 66 rfl
theorem q178 : (Jvm.Cond.fieldLinkNest "NumberComes" (277 : Nat) "NumberComes$State" "hour" "[J" "NumberComes") ∈ lw_tbl := lw_at lw_m1 68 rfl
theorem q180 : (Jvm.Cond.fieldLinkNest "NumberComes" (114 : Nat) "NumberComes$State" "text" "[LNumberComes$Text;" "NumberComes") ∈ lw_tbl := lw_at lw_m1 70 rfl
theorem q204 : (Jvm.Cond.methodLink "NumberComes" (60 : Nat) ({ cls := "NumberComes$State", name := "be", desc := "(LNumberComes$State;)V" } : Jvm.MethodName)) ∈ lw_all := lw_g (lw_at lw_m1 94 rfl) rfl
theorem q217 : (Jvm.Cond.fieldLink "NumberComes" (10 : Nat) "NumberComes" "now" "LNumberComes$State;") ∈ lw_all := lw_g (lw_at lw_m1 107 rfl) rfl
theorem q218 : (Jvm.Cond.fieldLink "NumberComes" (16 : Nat) "NumberComes" "image" "LNumberComes$State;") ∈ lw_all := lw_g (lw_at lw_m1 108 rfl) rfl
theorem q219 : (Jvm.Cond.fieldLink "NumberComes" (19 : Nat) "NumberComes" "tape" "[B") ∈ lw_all := lw_g (lw_at lw_m1 109 rfl) rfl
theorem q220 : (Jvm.Cond.fieldLink "NumberComes" (107 : Nat) "NumberComes" "taped" "I") ∈ lw_all := lw_g (lw_at lw_m1 110 rfl) rfl
theorem q221 : (Jvm.Cond.fieldLink "NumberComes" (23 : Nat) "NumberComes" "fault" "I") ∈ lw_all := lw_g (lw_at lw_m1 111 rfl) rfl
theorem q222 : (Jvm.Cond.fieldLink "NumberComes" (27 : Nat) "NumberComes" "faultAt" "I") ∈ lw_all := lw_g (lw_at lw_m1 112 rfl) rfl
theorem q223 : (Jvm.Cond.fieldLink "NumberComes" (30 : Nat) "NumberComes" "names" "[I") ∈ lw_all := lw_g (lw_at lw_m1 113 rfl) rfl
theorem q224 : (Jvm.Cond.fieldLink "NumberComes" (183 : Nat) "NumberComes" "least" "J") ∈ lw_all := lw_g (lw_at lw_m1 114 rfl) rfl
theorem q225 : (Jvm.Cond.fieldLink "NumberComes" (187 : Nat) "NumberComes" "step" "J") ∈ lw_all := lw_g (lw_at lw_m1 115 rfl) rfl
theorem q226 : (Jvm.Cond.fieldLink "NumberComes" (190 : Nat) "NumberComes" "begins" "J") ∈ lw_all := lw_g (lw_at lw_m1 116 rfl) rfl
theorem q227 : (Jvm.Cond.fieldLink "NumberComes" (34 : Nat) "NumberComes" "mine" "[J") ∈ lw_all := lw_g (lw_at lw_m1 117 rfl) rfl
theorem q228 : (Jvm.Cond.fieldLink "NumberComes" (38 : Nat) "NumberComes" "holder" "[I") ∈ lw_all := lw_g (lw_at lw_m1 118 rfl) rfl
theorem q229 : (Jvm.Cond.fieldLink "NumberComes" (41 : Nat) "NumberComes" "asked" "[Z") ∈ lw_all := lw_g (lw_at lw_m1 119 rfl) rfl
theorem q230 : (Jvm.Cond.fieldLink "NumberComes" (45 : Nat) "NumberComes" "speaking" "[I") ∈ lw_all := lw_g (lw_at lw_m1 120 rfl) rfl
theorem q231 : (Jvm.Cond.fieldLink "NumberComes" (48 : Nat) "NumberComes" "firsts" "[I") ∈ lw_all := lw_g (lw_at lw_m1 121 rfl) rfl
theorem q232 : (Jvm.Cond.fieldLink "NumberComes" (51 : Nat) "NumberComes" "mostOf" "[I") ∈ lw_all := lw_g (lw_at lw_m1 122 rfl) rfl
theorem q233 : (Jvm.Cond.fieldLink "NumberComes" (54 : Nat) "NumberComes" "partner" "[I") ∈ lw_all := lw_g (lw_at lw_m1 123 rfl) rfl
theorem q234 : (Jvm.Cond.fieldLink "NumberComes" (57 : Nat) "NumberComes" "shared" "[I") ∈ lw_all := lw_g (lw_at lw_m1 124 rfl) rfl
theorem q235 : (Jvm.Cond.laysFinal "NumberComes" "NumberComes" "now" "LNumberComes$State;") ∈ lw_all := lw_g (lw_at lw_m1 125 rfl) rfl
theorem q236 : (Jvm.Cond.soleField "NumberComes" "now") ∈ lw_all := lw_g (lw_at lw_m1 126 rfl) rfl
theorem q237 : (Jvm.Cond.laysFinal "NumberComes" "NumberComes" "image" "LNumberComes$State;") ∈ lw_all := lw_g (lw_at lw_m1 127 rfl) rfl
theorem q238 : (Jvm.Cond.soleField "NumberComes" "image") ∈ lw_all := lw_g (lw_at lw_m1 128 rfl) rfl
theorem q239 : (Jvm.Cond.laysFinal "NumberComes" "NumberComes" "tape" "[B") ∈ lw_all := lw_g (lw_at lw_m1 129 rfl) rfl
theorem q240 : (Jvm.Cond.soleField "NumberComes" "tape") ∈ lw_all := lw_g (lw_at lw_m1 130 rfl) rfl
theorem q241 : (Jvm.Cond.lays "NumberComes" "NumberComes" "taped" "I") ∈ lw_all := lw_g (lw_at lw_m1 131 rfl) rfl
theorem q242 : (Jvm.Cond.soleField "NumberComes" "taped") ∈ lw_all := lw_g (lw_at lw_m1 132 rfl) rfl
theorem q243 : (Jvm.Cond.lays "NumberComes" "NumberComes" "fault" "I") ∈ lw_all := lw_g (lw_at lw_m1 133 rfl) rfl
theorem q244 : (Jvm.Cond.soleField "NumberComes" "fault") ∈ lw_all := lw_g (lw_at lw_m1 134 rfl) rfl
theorem q245 : (Jvm.Cond.lays "NumberComes" "NumberComes" "faultAt" "I") ∈ lw_all := lw_g (lw_at lw_m1 135 rfl) rfl
theorem q246 : (Jvm.Cond.soleField "NumberComes" "faultAt") ∈ lw_all := lw_g (lw_at lw_m1 136 rfl) rfl
theorem q247 : (Jvm.Cond.laysFinal "NumberComes" "NumberComes" "names" "[I") ∈ lw_all := lw_g (lw_at lw_m1 137 rfl) rfl
theorem q248 : (Jvm.Cond.soleField "NumberComes" "names") ∈ lw_all := lw_g (lw_at lw_m1 138 rfl) rfl
theorem q249 : (Jvm.Cond.lays "NumberComes" "NumberComes" "least" "J") ∈ lw_all := lw_g (lw_at lw_m1 139 rfl) rfl
theorem q250 : (Jvm.Cond.soleField "NumberComes" "least") ∈ lw_all := lw_g (lw_at lw_m1 140 rfl) rfl
theorem q251 : (Jvm.Cond.lays "NumberComes" "NumberComes" "step" "J") ∈ lw_all := lw_g (lw_at lw_m1 141 rfl) rfl
theorem q252 : (Jvm.Cond.soleField "NumberComes" "step") ∈ lw_all := lw_g (lw_at lw_m1 142 rfl) rfl
theorem q253 : (Jvm.Cond.lays "NumberComes" "NumberComes" "begins" "J") ∈ lw_all := lw_g (lw_at lw_m1 143 rfl) rfl
theorem q254 : (Jvm.Cond.soleField "NumberComes" "begins") ∈ lw_all := lw_g (lw_at lw_m1 144 rfl) rfl
theorem q255 : (Jvm.Cond.laysFinal "NumberComes" "NumberComes" "mine" "[J") ∈ lw_all := lw_g (lw_at lw_m1 145 rfl) rfl
theorem q256 : (Jvm.Cond.soleField "NumberComes" "mine") ∈ lw_all := lw_g (lw_at lw_m1 146 rfl) rfl
theorem q257 : (Jvm.Cond.laysFinal "NumberComes" "NumberComes" "holder" "[I") ∈ lw_all := lw_g (lw_at lw_m1 147 rfl) rfl
theorem q258 : (Jvm.Cond.soleField "NumberComes" "holder") ∈ lw_all := lw_g (lw_at lw_m1 148 rfl) rfl
theorem q259 : (Jvm.Cond.laysFinal "NumberComes" "NumberComes" "asked" "[Z") ∈ lw_all := lw_g (lw_at lw_m1 149 rfl) rfl
theorem q260 : (Jvm.Cond.soleField "NumberComes" "asked") ∈ lw_all := lw_g (lw_at lw_m1 150 rfl) rfl
theorem q261 : (Jvm.Cond.laysFinal "NumberComes" "NumberComes" "speaking" "[I") ∈ lw_all := lw_g (lw_at lw_m1 151 rfl) rfl
theorem q262 : (Jvm.Cond.soleField "NumberComes" "speaking") ∈ lw_all := lw_g (lw_at lw_m1 152 rfl) rfl
theorem q263 : (Jvm.Cond.laysFinal "NumberComes" "NumberComes" "firsts" "[I") ∈ lw_all := lw_g (lw_at lw_m1 153 rfl) rfl
theorem q264 : (Jvm.Cond.soleField "NumberComes" "firsts") ∈ lw_all := lw_g (lw_at lw_m1 154 rfl) rfl
theorem q265 : (Jvm.Cond.laysFinal "NumberComes" "NumberComes" "mostOf" "[I") ∈ lw_all := lw_g (lw_at lw_m1 155 rfl) rfl
theorem q266 : (Jvm.Cond.soleField "NumberComes" "mostOf") ∈ lw_all := lw_g (lw_at lw_m1 156 rfl) rfl
theorem q267 : (Jvm.Cond.laysFinal "NumberComes" "NumberComes" "partner" "[I") ∈ lw_all := lw_g (lw_at lw_m1 157 rfl) rfl
theorem q268 : (Jvm.Cond.soleField "NumberComes" "partner") ∈ lw_all := lw_g (lw_at lw_m1 158 rfl) rfl
theorem q269 : (Jvm.Cond.laysFinal "NumberComes" "NumberComes" "shared" "[I") ∈ lw_all := lw_g (lw_at lw_m1 159 rfl) rfl
theorem q270 : (Jvm.Cond.soleField "NumberComes" "shared") ∈ lw_all := lw_g (lw_at lw_m1 160 rfl) rfl
theorem q271 : (Jvm.Cond.superclass "NumberComes" "java/lang/Object") ∈ lw_all := lw_g (lw_at lw_m1 161 rfl) rfl
theorem q275 : (Jvm.Cond.instanceMethod ({ cls := "NumberComes", name := "person", desc := "(II)I" } : Jvm.MethodName)) ∈ lw_all := lw_g (lw_at lw_m1 165 rfl) rfl
theorem q276 : (Jvm.Cond.selects "NumberComes" ({ cls := "NumberComes", name := "person", desc := "(II)I" } : Jvm.MethodName) ({ cls := "NumberComes", name := "person", desc := "(II)I" } : Jvm.MethodName)) ∈ lw_all := lw_g (lw_at lw_m1 166 rfl) rfl
theorem q277 : (Jvm.Cond.code ({ cls := "NumberComes", name := "person", desc := "(II)I" } : Jvm.MethodName) prog_1_method_11_code (4 : Nat) (Option.some Jvm.ClassFile.FieldType.int)) ∈ lw_all := lw_g (lw_at lw_m1 167 rfl) rfl
theorem q278 : (Jvm.Cond.methodLink "NumberComes" (79 : Nat) ({ cls := "NumberComes", name := "isNumber", desc := "(I)Z" } : Jvm.MethodName)) ∈ lw_all := lw_g (lw_at lw_m1 168 rfl) rfl
theorem q279 : (Jvm.Cond.static ({ cls := "NumberComes", name := "isNumber", desc := "(I)Z" } : Jvm.MethodName)) ∈ lw_all := lw_g (lw_at lw_m1 169 rfl) rfl
theorem q280 : (Jvm.Cond.code ({ cls := "NumberComes", name := "isNumber", desc := "(I)Z" } : Jvm.MethodName) prog_1_method_9_code (1 : Nat) (Option.some Jvm.ClassFile.FieldType.boolean)) ∈ lw_all := lw_g (lw_at lw_m1 170 rfl) rfl
theorem q281 : (Jvm.Cond.constantLong "NumberComes" (77 : Nat) (9999 : Int64)) ∈ lw_all := lw_g (lw_at lw_m1 171 rfl) rfl
theorem q282 : (Jvm.Cond.methodLink "NumberComes" (67 : Nat) ({ cls := "NumberComes", name := "in", desc := "(JJJ)Z" } : Jvm.MethodName)) ∈ lw_all := lw_g (lw_at lw_m1 172 rfl) rfl
theorem q283 : (Jvm.Cond.static ({ cls := "NumberComes", name := "in", desc := "(JJJ)Z" } : Jvm.MethodName)) ∈ lw_all := lw_g (lw_at lw_m1 173 rfl) rfl
theorem q284 : (Jvm.Cond.code ({ cls := "NumberComes", name := "in", desc := "(JJJ)Z" } : Jvm.MethodName) prog_1_method_2_code (6 : Nat) (Option.some Jvm.ClassFile.FieldType.boolean)) ∈ lw_all := lw_g (lw_at lw_m1 174 rfl) rfl
theorem q285 : (Jvm.Cond.methodLink "NumberComes" (83 : Nat) ({ cls := "NumberComes", name := "isFirst", desc := "(I)Z" } : Jvm.MethodName)) ∈ lw_all := lw_g (lw_at lw_m1 175 rfl) rfl
theorem q286 : (Jvm.Cond.static ({ cls := "NumberComes", name := "isFirst", desc := "(I)Z" } : Jvm.MethodName)) ∈ lw_all := lw_g (lw_at lw_m1 176 rfl) rfl
theorem q287 : (Jvm.Cond.code ({ cls := "NumberComes", name := "isFirst", desc := "(I)Z" } : Jvm.MethodName) prog_1_method_10_code (1 : Nat) (Option.some Jvm.ClassFile.FieldType.boolean)) ∈ lw_all := lw_g (lw_at lw_m1 177 rfl) rfl
theorem q289 : (Jvm.Cond.instanceMethod ({ cls := "NumberComes", name := "change", desc := "(III)Z" } : Jvm.MethodName)) ∈ lw_all := lw_g (lw_at lw_m1 179 rfl) rfl
theorem q290 : (Jvm.Cond.selects "NumberComes" ({ cls := "NumberComes", name := "change", desc := "(III)Z" } : Jvm.MethodName) ({ cls := "NumberComes", name := "change", desc := "(III)Z" } : Jvm.MethodName)) ∈ lw_all := lw_g (lw_at lw_m1 180 rfl) rfl
theorem q291 : (Jvm.Cond.code ({ cls := "NumberComes", name := "change", desc := "(III)Z" } : Jvm.MethodName) prog_1_method_12_code (4 : Nat) (Option.some Jvm.ClassFile.FieldType.boolean)) ∈ lw_all := lw_g (lw_at lw_m1 181 rfl) rfl
theorem q292 : (Jvm.Cond.methodLink "NumberComes" (95 : Nat) ({ cls := "NumberComes", name := "isPerson", desc := "(I)Z" } : Jvm.MethodName)) ∈ lw_all := lw_g (lw_at lw_m1 182 rfl) rfl
theorem q293 : (Jvm.Cond.privateMethod ({ cls := "NumberComes", name := "isPerson", desc := "(I)Z" } : Jvm.MethodName)) ∈ lw_tbl := lw_at lw_m1 183 rfl
theorem q294 : (Jvm.Cond.instanceMethod ({ cls := "NumberComes", name := "isPerson", desc := "(I)Z" } : Jvm.MethodName)) ∈ lw_all := lw_g (lw_at lw_m1 184 rfl) rfl
theorem q295 : (Jvm.Cond.code ({ cls := "NumberComes", name := "isPerson", desc := "(I)Z" } : Jvm.MethodName) prog_1_method_3_code (2 : Nat) (Option.some Jvm.ClassFile.FieldType.boolean)) ∈ lw_all := lw_g (lw_at lw_m1 185 rfl) rfl
theorem q297 : (Jvm.Cond.instanceMethod ({ cls := "NumberComes", name := "day", desc := "(I)Z" } : Jvm.MethodName)) ∈ lw_all := lw_g (lw_at lw_m1 187 rfl) rfl
theorem q298 : (Jvm.Cond.selects "NumberComes" ({ cls := "NumberComes", name := "day", desc := "(I)Z" } : Jvm.MethodName) ({ cls := "NumberComes", name := "day", desc := "(I)Z" } : Jvm.MethodName)) ∈ lw_all := lw_g (lw_at lw_m1 188 rfl) rfl
theorem q299 : (Jvm.Cond.code ({ cls := "NumberComes", name := "day", desc := "(I)Z" } : Jvm.MethodName) prog_1_method_14_code (2 : Nat) (Option.some Jvm.ClassFile.FieldType.boolean)) ∈ lw_all := lw_g (lw_at lw_m1 189 rfl) rfl
theorem q300 : (Jvm.Cond.methodLink "NumberComes" (102 : Nat) ({ cls := "NumberComes", name := "isDay", desc := "(I)Z" } : Jvm.MethodName)) ∈ lw_all := lw_g (lw_at lw_m1 190 rfl) rfl
theorem q301 : (Jvm.Cond.static ({ cls := "NumberComes", name := "isDay", desc := "(I)Z" } : Jvm.MethodName)) ∈ lw_all := lw_g (lw_at lw_m1 191 rfl) rfl
theorem q302 : (Jvm.Cond.code ({ cls := "NumberComes", name := "isDay", desc := "(I)Z" } : Jvm.MethodName) prog_1_method_13_code (1 : Nat) (Option.some Jvm.ClassFile.FieldType.boolean)) ∈ lw_all := lw_g (lw_at lw_m1 192 rfl) rfl
theorem q303 : (Jvm.Cond.constantLong "NumberComes" (98 : Nat) (2 : Int64)) ∈ lw_all := lw_g (lw_at lw_m1 193 rfl) rfl
theorem q304 : (Jvm.Cond.constantLong "NumberComes" (100 : Nat) (999 : Int64)) ∈ lw_all := lw_g (lw_at lw_m1 194 rfl) rfl
theorem q306 : (Jvm.Cond.instanceMethod ({ cls := "NumberComes", name := "clock", desc := "(I)Z" } : Jvm.MethodName)) ∈ lw_all := lw_g (lw_at lw_m1 196 rfl) rfl
theorem q307 : (Jvm.Cond.selects "NumberComes" ({ cls := "NumberComes", name := "clock", desc := "(I)Z" } : Jvm.MethodName) ({ cls := "NumberComes", name := "clock", desc := "(I)Z" } : Jvm.MethodName)) ∈ lw_all := lw_g (lw_at lw_m1 197 rfl) rfl
theorem q308 : (Jvm.Cond.code ({ cls := "NumberComes", name := "clock", desc := "(I)Z" } : Jvm.MethodName) prog_1_method_15_code (2 : Nat) (Option.some Jvm.ClassFile.FieldType.boolean)) ∈ lw_all := lw_g (lw_at lw_m1 198 rfl) rfl
theorem q309 : (Jvm.Cond.constantLong "NumberComes" (105 : Nat) (60 : Int64)) ∈ lw_all := lw_g (lw_at lw_m1 199 rfl) rfl
theorem q311 : (Jvm.Cond.instanceMethod ({ cls := "NumberComes", name := "near", desc := "(IIZ)Z" } : Jvm.MethodName)) ∈ lw_all := lw_g (lw_at lw_m1 201 rfl) rfl
theorem q312 : (Jvm.Cond.selects "NumberComes" ({ cls := "NumberComes", name := "near", desc := "(IIZ)Z" } : Jvm.MethodName) ({ cls := "NumberComes", name := "near", desc := "(IIZ)Z" } : Jvm.MethodName)) ∈ lw_all := lw_g (lw_at lw_m1 202 rfl) rfl
theorem q313 : (Jvm.Cond.code ({ cls := "NumberComes", name := "near", desc := "(IIZ)Z" } : Jvm.MethodName) prog_1_method_16_code (4 : Nat) (Option.some Jvm.ClassFile.FieldType.boolean)) ∈ lw_all := lw_g (lw_at lw_m1 203 rfl) rfl
theorem q315 : (Jvm.Cond.instanceMethod ({ cls := "NumberComes", name := "feed", desc := "(IIIII)I" } : Jvm.MethodName)) ∈ lw_all := lw_g (lw_at lw_m1 205 rfl) rfl
theorem q316 : (Jvm.Cond.selects "NumberComes" ({ cls := "NumberComes", name := "feed", desc := "(IIIII)I" } : Jvm.MethodName) ({ cls := "NumberComes", name := "feed", desc := "(IIIII)I" } : Jvm.MethodName)) ∈ lw_all := lw_g (lw_at lw_m1 206 rfl) rfl
theorem q317 : (Jvm.Cond.code ({ cls := "NumberComes", name := "feed", desc := "(IIIII)I" } : Jvm.MethodName) prog_1_method_18_code (6 : Nat) (Option.some Jvm.ClassFile.FieldType.int)) ∈ lw_all := lw_g (lw_at lw_m1 207 rfl) rfl
theorem q318 : (Jvm.Cond.methodLink "NumberComes" (110 : Nat) ({ cls := "NumberComes", name := "put", desc := "(I)V" } : Jvm.MethodName)) ∈ lw_all := lw_g (lw_at lw_m1 208 rfl) rfl
theorem q319 : (Jvm.Cond.privateMethod ({ cls := "NumberComes", name := "put", desc := "(I)V" } : Jvm.MethodName)) ∈ lw_tbl := lw_at lw_m1 209 rfl
theorem q320 : (Jvm.Cond.instanceMethod ({ cls := "NumberComes", name := "put", desc := "(I)V" } : Jvm.MethodName)) ∈ lw_all := lw_g (lw_at lw_m1 210 rfl) rfl
theorem q321 : (Jvm.Cond.code ({ cls := "NumberComes", name := "put", desc := "(I)V" } : Jvm.MethodName) prog_1_method_17_code (3 : Nat) (Option.none : Option Jvm.ClassFile.FieldType)) ∈ lw_all := lw_g (lw_at lw_m1 211 rfl) rfl
theorem q323 : (Jvm.Cond.instanceMethod ({ cls := "NumberComes", name := "end", desc := "(I)I" } : Jvm.MethodName)) ∈ lw_all := lw_g (lw_at lw_m1 213 rfl) rfl
theorem q324 : (Jvm.Cond.selects "NumberComes" ({ cls := "NumberComes", name := "end", desc := "(I)I" } : Jvm.MethodName) ({ cls := "NumberComes", name := "end", desc := "(I)I" } : Jvm.MethodName)) ∈ lw_all := lw_g (lw_at lw_m1 214 rfl) rfl
theorem q325 : (Jvm.Cond.code ({ cls := "NumberComes", name := "end", desc := "(I)I" } : Jvm.MethodName) prog_1_method_19_code (2 : Nat) (Option.some Jvm.ClassFile.FieldType.int)) ∈ lw_all := lw_g (lw_at lw_m1 215 rfl) rfl
theorem q327 : (Jvm.Cond.instanceMethod ({ cls := "NumberComes", name := "text", desc := "()I" } : Jvm.MethodName)) ∈ lw_all := lw_g (lw_at lw_m1 217 rfl) rfl
theorem q328 : (Jvm.Cond.selects "NumberComes" ({ cls := "NumberComes", name := "text", desc := "()I" } : Jvm.MethodName) ({ cls := "NumberComes", name := "text", desc := "()I" } : Jvm.MethodName)) ∈ lw_all := lw_g (lw_at lw_m1 218 rfl) rfl
theorem q329 : (Jvm.Cond.codeWith ({ cls := "NumberComes", name := "text", desc := "()I" } : Jvm.MethodName) prog_1_method_20_code (5 : Nat) (Option.some Jvm.ClassFile.FieldType.int) [((30 : Nat), (62 : Nat), (70 : Nat), (127 : Nat)), ((30 : Nat), (62 : Nat), (96 : Nat), (0 : Nat)), ((70 : Nat), (89 : Nat), (96 : Nat), (0 : Nat)), ((96 : Nat), (98 : Nat), (96 : Nat), (0 : Nat))]) ∈ lw_all := lw_g (lw_at lw_m1 219 rfl) rfl
theorem q330 : (Jvm.Cond.classLink "NumberComes" (127 : Nat) "NumberComes$Wrong") ∈ lw_all := lw_g (lw_at lw_m1 220 rfl) rfl
theorem q331 : (Jvm.Cond.classLink "NumberComes" (118 : Nat) "NumberComes$Tokens") ∈ lw_all := lw_g (lw_at lw_m1 221 rfl) rfl
theorem q333 : (Jvm.Cond.methodLink "NumberComes" (120 : Nat) ({ cls := "NumberComes$Tokens", name := "<init>", desc := "([BI)V" } : Jvm.MethodName)) ∈ lw_all := lw_g (lw_at lw_m1 223 rfl) rfl
theorem q362 : (Jvm.Cond.methodLink "NumberComes" (123 : Nat) ({ cls := "NumberComes$Tokens", name := "read", desc := "()LNumberComes$Text;" } : Jvm.MethodName)) ∈ lw_all := lw_g (lw_at lw_m2 12 rfl) rfl
theorem q400 : (Jvm.Cond.fieldLinkNest "NumberComes" (366 : Nat) "NumberComes$Text" "roll" "Ljava/util/ArrayList;" "NumberComes") ∈ lw_tbl := lw_at lw_m2 50 rfl
theorem q403 : (Jvm.Cond.fieldLinkNest "NumberComes" (136 : Nat) "NumberComes$Text" "bars" "Ljava/util/ArrayList;" "NumberComes") ∈ lw_tbl := lw_at lw_m2 53 rfl
theorem q405 : (Jvm.Cond.fieldLinkNest "NumberComes" (311 : Nat) "NumberComes$Text" "worth" "LNumberComes$Sum;" "NumberComes") ∈ lw_tbl := lw_at lw_m2 55 rfl
theorem q534 : (Jvm.Cond.fieldLinkNest "NumberComes" (129 : Nat) "NumberComes$Wrong" "fault" "I" "NumberComes") ∈ lw_tbl := lw_at lw_m2 184 rfl
theorem q536 : (Jvm.Cond.fieldLinkNest "NumberComes" (130 : Nat) "NumberComes$Wrong" "place" "I" "NumberComes") ∈ lw_tbl := lw_at lw_m2 186 rfl
theorem q712 : (Jvm.Cond.selects "NumberComes" ({ cls := "java/lang/Object", name := "getClass", desc := "()Ljava/lang/Class;" } : Jvm.MethodName) ({ cls := "java/lang/Object", name := "getClass", desc := "()Ljava/lang/Class;" } : Jvm.MethodName)) ∈ lw_all := lw_g (lw_at lw_m3 122 rfl) rfl
theorem q814 : (Jvm.Cond.instanceMethod ({ cls := "NumberComes", name := "fault", desc := "(I)I" } : Jvm.MethodName)) ∈ lw_all := lw_g (lw_at lw_m3 224 rfl) rfl
theorem q815 : (Jvm.Cond.selects "NumberComes" ({ cls := "NumberComes", name := "fault", desc := "(I)I" } : Jvm.MethodName) ({ cls := "NumberComes", name := "fault", desc := "(I)I" } : Jvm.MethodName)) ∈ lw_all := lw_g (lw_at lw_m3 225 rfl) rfl
theorem q816 : (Jvm.Cond.code ({ cls := "NumberComes", name := "fault", desc := "(I)I" } : Jvm.MethodName) prog_1_method_21_code (2 : Nat) (Option.some Jvm.ClassFile.FieldType.int)) ∈ lw_all := lw_g (lw_at lw_m3 226 rfl) rfl
theorem q818 : (Jvm.Cond.instanceMethod ({ cls := "NumberComes", name := "by", desc := "(I)Z" } : Jvm.MethodName)) ∈ lw_all := lw_g (lw_at lw_m3 228 rfl) rfl
theorem q819 : (Jvm.Cond.selects "NumberComes" ({ cls := "NumberComes", name := "by", desc := "(I)Z" } : Jvm.MethodName) ({ cls := "NumberComes", name := "by", desc := "(I)Z" } : Jvm.MethodName)) ∈ lw_all := lw_g (lw_at lw_m3 229 rfl) rfl
theorem q820 : (Jvm.Cond.code ({ cls := "NumberComes", name := "by", desc := "(I)Z" } : Jvm.MethodName) prog_1_method_22_code (2 : Nat) (Option.some Jvm.ClassFile.FieldType.boolean)) ∈ lw_all := lw_g (lw_at lw_m3 230 rfl) rfl
theorem q822 : (Jvm.Cond.instanceMethod ({ cls := "NumberComes", name := "speaks", desc := "(IJ)Z" } : Jvm.MethodName)) ∈ lw_all := lw_g (lw_at lw_m3 232 rfl) rfl
theorem q823 : (Jvm.Cond.selects "NumberComes" ({ cls := "NumberComes", name := "speaks", desc := "(IJ)Z" } : Jvm.MethodName) ({ cls := "NumberComes", name := "speaks", desc := "(IJ)Z" } : Jvm.MethodName)) ∈ lw_all := lw_g (lw_at lw_m3 233 rfl) rfl
theorem q824 : (Jvm.Cond.code ({ cls := "NumberComes", name := "speaks", desc := "(IJ)Z" } : Jvm.MethodName) prog_1_method_28_code (4 : Nat) (Option.some Jvm.ClassFile.FieldType.boolean)) ∈ lw_all := lw_g (lw_at lw_m3 234 rfl) rfl
theorem q825 : (Jvm.Cond.methodLink "NumberComes" (73 : Nat) ({ cls := "NumberComes", name := "isHour", desc := "(J)Z" } : Jvm.MethodName)) ∈ lw_all := lw_g (lw_at lw_m3 235 rfl) rfl
theorem q826 : (Jvm.Cond.static ({ cls := "NumberComes", name := "isHour", desc := "(J)Z" } : Jvm.MethodName)) ∈ lw_all := lw_g (lw_at lw_m3 236 rfl) rfl
theorem q827 : (Jvm.Cond.code ({ cls := "NumberComes", name := "isHour", desc := "(J)Z" } : Jvm.MethodName) prog_1_method_6_code (2 : Nat) (Option.some Jvm.ClassFile.FieldType.boolean)) ∈ lw_all := lw_g (lw_at lw_m3 237 rfl) rfl
theorem q828 : (Jvm.Cond.constantLong "NumberComes" (71 : Nat) (1000000000000000 : Int64)) ∈ lw_all := lw_g (lw_at lw_m3 238 rfl) rfl
theorem q829 : (Jvm.Cond.methodLink "NumberComes" (169 : Nat) ({ cls := "NumberComes", name := "speaksIn", desc := "(IJ)Z" } : Jvm.MethodName)) ∈ lw_all := lw_g (lw_at lw_m3 239 rfl) rfl
theorem q830 : (Jvm.Cond.privateMethod ({ cls := "NumberComes", name := "speaksIn", desc := "(IJ)Z" } : Jvm.MethodName)) ∈ lw_tbl := lw_at lw_m4 0 rfl
theorem q831 : (Jvm.Cond.instanceMethod ({ cls := "NumberComes", name := "speaksIn", desc := "(IJ)Z" } : Jvm.MethodName)) ∈ lw_all := lw_g (lw_at lw_m4 1 rfl) rfl
theorem q832 : (Jvm.Cond.code ({ cls := "NumberComes", name := "speaksIn", desc := "(IJ)Z" } : Jvm.MethodName) prog_1_method_27_code (4 : Nat) (Option.some Jvm.ClassFile.FieldType.boolean)) ∈ lw_all := lw_g (lw_at lw_m4 2 rfl) rfl
theorem q833 : (Jvm.Cond.methodLink "NumberComes" (166 : Nat) ({ cls := "NumberComes", name := "speaksBy", desc := "(IJI)Z" } : Jvm.MethodName)) ∈ lw_all := lw_g (lw_at lw_m4 3 rfl) rfl
theorem q834 : (Jvm.Cond.privateMethod ({ cls := "NumberComes", name := "speaksBy", desc := "(IJI)Z" } : Jvm.MethodName)) ∈ lw_tbl := lw_at lw_m4 4 rfl
theorem q835 : (Jvm.Cond.instanceMethod ({ cls := "NumberComes", name := "speaksBy", desc := "(IJI)Z" } : Jvm.MethodName)) ∈ lw_all := lw_g (lw_at lw_m4 5 rfl) rfl
theorem q836 : (Jvm.Cond.code ({ cls := "NumberComes", name := "speaksBy", desc := "(IJI)Z" } : Jvm.MethodName) prog_1_method_26_code (5 : Nat) (Option.some Jvm.ClassFile.FieldType.boolean)) ∈ lw_all := lw_g (lw_at lw_m4 6 rfl) rfl
theorem q837 : (Jvm.Cond.methodLink "NumberComes" (158 : Nat) ({ cls := "NumberComes", name := "isDue", desc := "(IJI)Z" } : Jvm.MethodName)) ∈ lw_all := lw_g (lw_at lw_m4 7 rfl) rfl
theorem q838 : (Jvm.Cond.privateMethod ({ cls := "NumberComes", name := "isDue", desc := "(IJI)Z" } : Jvm.MethodName)) ∈ lw_tbl := lw_at lw_m4 8 rfl
theorem q839 : (Jvm.Cond.instanceMethod ({ cls := "NumberComes", name := "isDue", desc := "(IJI)Z" } : Jvm.MethodName)) ∈ lw_all := lw_g (lw_at lw_m4 9 rfl) rfl
theorem q840 : (Jvm.Cond.code ({ cls := "NumberComes", name := "isDue", desc := "(IJI)Z" } : Jvm.MethodName) prog_1_method_25_code (7 : Nat) (Option.some Jvm.ClassFile.FieldType.boolean)) ∈ lw_all := lw_g (lw_at lw_m4 10 rfl) rfl
theorem q841 : (Jvm.Cond.methodLink "NumberComes" (162 : Nat) ({ cls := "NumberComes", name := "isBarred", desc := "(II)Z" } : Jvm.MethodName)) ∈ lw_all := lw_g (lw_at lw_m4 11 rfl) rfl
theorem q842 : (Jvm.Cond.privateMethod ({ cls := "NumberComes", name := "isBarred", desc := "(II)Z" } : Jvm.MethodName)) ∈ lw_tbl := lw_at lw_m4 12 rfl
theorem q843 : (Jvm.Cond.instanceMethod ({ cls := "NumberComes", name := "isBarred", desc := "(II)Z" } : Jvm.MethodName)) ∈ lw_all := lw_g (lw_at lw_m4 13 rfl) rfl
theorem q844 : (Jvm.Cond.code ({ cls := "NumberComes", name := "isBarred", desc := "(II)Z" } : Jvm.MethodName) prog_1_method_24_code (5 : Nat) (Option.some Jvm.ClassFile.FieldType.boolean)) ∈ lw_all := lw_g (lw_at lw_m4 14 rfl) rfl
theorem q845 : (Jvm.Cond.methodLink "NumberComes" (133 : Nat) ({ cls := "NumberComes", name := "rules", desc := "()LNumberComes$Text;" } : Jvm.MethodName)) ∈ lw_all := lw_g (lw_at lw_m4 15 rfl) rfl
theorem q846 : (Jvm.Cond.privateMethod ({ cls := "NumberComes", name := "rules", desc := "()LNumberComes$Text;" } : Jvm.MethodName)) ∈ lw_tbl := lw_at lw_m4 16 rfl
theorem q847 : (Jvm.Cond.instanceMethod ({ cls := "NumberComes", name := "rules", desc := "()LNumberComes$Text;" } : Jvm.MethodName)) ∈ lw_all := lw_g (lw_at lw_m4 17 rfl) rfl
theorem q848 : (Jvm.Cond.code ({ cls := "NumberComes", name := "rules", desc := "()LNumberComes$Text;" } : Jvm.MethodName) prog_1_method_23_code (1 : Nat) (Option.some (Jvm.ClassFile.FieldType.object "NumberComes$Text"))) ∈ lw_all := lw_g (lw_at lw_m4 18 rfl) rfl
theorem q849 : (Jvm.Cond.methodLink "NumberComes" (142 : Nat) ({ cls := "java/util/ArrayList", name := "size", desc := "()I" } : Jvm.MethodName)) ∈ lw_all := lw_g (lw_at lw_m4 19 rfl) rfl
theorem q850 : (Jvm.Cond.methodLink "NumberComes" (148 : Nat) ({ cls := "java/util/ArrayList", name := "get", desc := "(I)Ljava/lang/Object;" } : Jvm.MethodName)) ∈ lw_all := lw_g (lw_at lw_m4 20 rfl) rfl
theorem q851 : (Jvm.Cond.classLink "NumberComes" (152 : Nat) "NumberComes$Asked") ∈ lw_all := lw_g (lw_at lw_m4 21 rfl) rfl
theorem q852 : (Jvm.Cond.interfaceEntry "NumberComes" (154 : Nat)) ∈ lw_tbl := lw_at lw_m4 22 rfl
theorem q853 : (Jvm.Cond.methodLink "NumberComes" (154 : Nat) ({ cls := "NumberComes$Asked", name := "is", desc := "([I)Z" } : Jvm.MethodName)) ∈ lw_all := lw_g (lw_at lw_m4 23 rfl) rfl
theorem q930 : (Jvm.Cond.instanceMethod ({ cls := "NumberComes", name := "next", desc := "(IJ)J" } : Jvm.MethodName)) ∈ lw_all := lw_g (lw_at lw_m4 100 rfl) rfl
theorem q931 : (Jvm.Cond.selects "NumberComes" ({ cls := "NumberComes", name := "next", desc := "(IJ)J" } : Jvm.MethodName) ({ cls := "NumberComes", name := "next", desc := "(IJ)J" } : Jvm.MethodName)) ∈ lw_all := lw_g (lw_at lw_m4 101 rfl) rfl
theorem q932 : (Jvm.Cond.code ({ cls := "NumberComes", name := "next", desc := "(IJ)J" } : Jvm.MethodName) prog_1_method_39_code (6 : Nat) (Option.some Jvm.ClassFile.FieldType.long)) ∈ lw_all := lw_g (lw_at lw_m4 102 rfl) rfl
theorem q933 : (Jvm.Cond.methodLink "NumberComes" (212 : Nat) ({ cls := "NumberComes", name := "isSet", desc := "(I)Z" } : Jvm.MethodName)) ∈ lw_all := lw_g (lw_at lw_m4 103 rfl) rfl
theorem q934 : (Jvm.Cond.privateMethod ({ cls := "NumberComes", name := "isSet", desc := "(I)Z" } : Jvm.MethodName)) ∈ lw_tbl := lw_at lw_m4 104 rfl
theorem q935 : (Jvm.Cond.instanceMethod ({ cls := "NumberComes", name := "isSet", desc := "(I)Z" } : Jvm.MethodName)) ∈ lw_all := lw_g (lw_at lw_m4 105 rfl) rfl
theorem q936 : (Jvm.Cond.code ({ cls := "NumberComes", name := "isSet", desc := "(I)Z" } : Jvm.MethodName) prog_1_method_4_code (2 : Nat) (Option.some Jvm.ClassFile.FieldType.boolean)) ∈ lw_all := lw_g (lw_at lw_m4 106 rfl) rfl
theorem q937 : (Jvm.Cond.constantLong "NumberComes" (215 : Nat) (-1 : Int64)) ∈ lw_all := lw_g (lw_at lw_m4 107 rfl) rfl
theorem q938 : (Jvm.Cond.methodLink "NumberComes" (217 : Nat) ({ cls := "NumberComes", name := "period", desc := "()I" } : Jvm.MethodName)) ∈ lw_all := lw_g (lw_at lw_m4 108 rfl) rfl
theorem q939 : (Jvm.Cond.privateMethod ({ cls := "NumberComes", name := "period", desc := "()I" } : Jvm.MethodName)) ∈ lw_tbl := lw_at lw_m4 109 rfl
theorem q940 : (Jvm.Cond.instanceMethod ({ cls := "NumberComes", name := "period", desc := "()I" } : Jvm.MethodName)) ∈ lw_all := lw_g (lw_at lw_m4 110 rfl) rfl
theorem q941 : (Jvm.Cond.code ({ cls := "NumberComes", name := "period", desc := "()I" } : Jvm.MethodName) prog_1_method_38_code (1 : Nat) (Option.some Jvm.ClassFile.FieldType.int)) ∈ lw_all := lw_g (lw_at lw_m4 111 rfl) rfl
theorem q942 : (Jvm.Cond.methodLink "NumberComes" (176 : Nat) ({ cls := "NumberComes", name := "common", desc := "(JJ)J" } : Jvm.MethodName)) ∈ lw_all := lw_g (lw_at lw_m4 112 rfl) rfl
theorem q943 : (Jvm.Cond.static ({ cls := "NumberComes", name := "common", desc := "(JJ)J" } : Jvm.MethodName)) ∈ lw_all := lw_g (lw_at lw_m4 113 rfl) rfl
theorem q944 : (Jvm.Cond.code ({ cls := "NumberComes", name := "common", desc := "(JJ)J" } : Jvm.MethodName) prog_1_method_8_code (10 : Nat) (Option.some Jvm.ClassFile.FieldType.long)) ∈ lw_all := lw_g (lw_at lw_m4 114 rfl) rfl
theorem q945 : (Jvm.Cond.methodLink "NumberComes" (220 : Nat) ({ cls := "NumberComes", name := "allSpeak", desc := "(IJ)Z" } : Jvm.MethodName)) ∈ lw_all := lw_g (lw_at lw_m4 115 rfl) rfl
theorem q946 : (Jvm.Cond.privateMethod ({ cls := "NumberComes", name := "allSpeak", desc := "(IJ)Z" } : Jvm.MethodName)) ∈ lw_tbl := lw_at lw_m4 116 rfl
theorem q947 : (Jvm.Cond.instanceMethod ({ cls := "NumberComes", name := "allSpeak", desc := "(IJ)Z" } : Jvm.MethodName)) ∈ lw_all := lw_g (lw_at lw_m4 117 rfl) rfl
theorem q948 : (Jvm.Cond.code ({ cls := "NumberComes", name := "allSpeak", desc := "(IJ)Z" } : Jvm.MethodName) prog_1_method_30_code (5 : Nat) (Option.some Jvm.ClassFile.FieldType.boolean)) ∈ lw_all := lw_g (lw_at lw_m4 118 rfl) rfl
theorem q949 : (Jvm.Cond.methodLink "NumberComes" (173 : Nat) ({ cls := "NumberComes", name := "isPart", desc := "(II)Z" } : Jvm.MethodName)) ∈ lw_all := lw_g (lw_at lw_m4 119 rfl) rfl
theorem q950 : (Jvm.Cond.static ({ cls := "NumberComes", name := "isPart", desc := "(II)Z" } : Jvm.MethodName)) ∈ lw_all := lw_g (lw_at lw_m4 120 rfl) rfl
theorem q951 : (Jvm.Cond.code ({ cls := "NumberComes", name := "isPart", desc := "(II)Z" } : Jvm.MethodName) prog_1_method_5_code (2 : Nat) (Option.some Jvm.ClassFile.FieldType.boolean)) ∈ lw_all := lw_g (lw_at lw_m4 121 rfl) rfl
theorem q952 : (Jvm.Cond.constantLong "NumberComes" (223 : Nat) (-2 : Int64)) ∈ lw_all := lw_g (lw_at lw_m4 122 rfl) rfl
theorem q953 : (Jvm.Cond.methodLink "NumberComes" (225 : Nat) ({ cls := "NumberComes", name := "against", desc := "(I)I" } : Jvm.MethodName)) ∈ lw_all := lw_g (lw_at lw_m4 123 rfl) rfl
theorem q954 : (Jvm.Cond.privateMethod ({ cls := "NumberComes", name := "against", desc := "(I)I" } : Jvm.MethodName)) ∈ lw_tbl := lw_at lw_m4 124 rfl
theorem q955 : (Jvm.Cond.instanceMethod ({ cls := "NumberComes", name := "against", desc := "(I)I" } : Jvm.MethodName)) ∈ lw_all := lw_g (lw_at lw_m4 125 rfl) rfl
theorem q956 : (Jvm.Cond.code ({ cls := "NumberComes", name := "against", desc := "(I)I" } : Jvm.MethodName) prog_1_method_33_code (4 : Nat) (Option.some Jvm.ClassFile.FieldType.int)) ∈ lw_all := lw_g (lw_at lw_m4 126 rfl) rfl
theorem q957 : (Jvm.Cond.methodLink "NumberComes" (180 : Nat) ({ cls := "NumberComes", name := "meet", desc := "(II)Z" } : Jvm.MethodName)) ∈ lw_all := lw_g (lw_at lw_m4 127 rfl) rfl
theorem q958 : (Jvm.Cond.privateMethod ({ cls := "NumberComes", name := "meet", desc := "(II)Z" } : Jvm.MethodName)) ∈ lw_tbl := lw_at lw_m4 128 rfl
theorem q959 : (Jvm.Cond.instanceMethod ({ cls := "NumberComes", name := "meet", desc := "(II)Z" } : Jvm.MethodName)) ∈ lw_all := lw_g (lw_at lw_m4 129 rfl) rfl
theorem q960 : (Jvm.Cond.code ({ cls := "NumberComes", name := "meet", desc := "(II)Z" } : Jvm.MethodName) prog_1_method_32_code (3 : Nat) (Option.some Jvm.ClassFile.FieldType.boolean)) ∈ lw_all := lw_g (lw_at lw_m4 130 rfl) rfl
theorem q961 : (Jvm.Cond.methodLink "NumberComes" (229 : Nat) ({ cls := "NumberComes", name := "hasClock", desc := "(I)Z" } : Jvm.MethodName)) ∈ lw_all := lw_g (lw_at lw_m4 131 rfl) rfl
theorem q962 : (Jvm.Cond.privateMethod ({ cls := "NumberComes", name := "hasClock", desc := "(I)Z" } : Jvm.MethodName)) ∈ lw_tbl := lw_at lw_m4 132 rfl
theorem q963 : (Jvm.Cond.instanceMethod ({ cls := "NumberComes", name := "hasClock", desc := "(I)Z" } : Jvm.MethodName)) ∈ lw_all := lw_g (lw_at lw_m4 133 rfl) rfl
theorem q964 : (Jvm.Cond.code ({ cls := "NumberComes", name := "hasClock", desc := "(I)Z" } : Jvm.MethodName) prog_1_method_37_code (5 : Nat) (Option.some Jvm.ClassFile.FieldType.boolean)) ∈ lw_all := lw_g (lw_at lw_m4 134 rfl) rfl
theorem q965 : (Jvm.Cond.methodLink "NumberComes" (209 : Nat) ({ cls := "NumberComes", name := "isClear", desc := "(II)Z" } : Jvm.MethodName)) ∈ lw_all := lw_g (lw_at lw_m4 135 rfl) rfl
theorem q966 : (Jvm.Cond.privateMethod ({ cls := "NumberComes", name := "isClear", desc := "(II)Z" } : Jvm.MethodName)) ∈ lw_tbl := lw_at lw_m4 136 rfl
theorem q967 : (Jvm.Cond.instanceMethod ({ cls := "NumberComes", name := "isClear", desc := "(II)Z" } : Jvm.MethodName)) ∈ lw_all := lw_g (lw_at lw_m4 137 rfl) rfl
theorem q968 : (Jvm.Cond.code ({ cls := "NumberComes", name := "isClear", desc := "(II)Z" } : Jvm.MethodName) prog_1_method_31_code (4 : Nat) (Option.some Jvm.ClassFile.FieldType.boolean)) ∈ lw_all := lw_g (lw_at lw_m4 138 rfl) rfl
theorem q969 : (Jvm.Cond.methodLink "NumberComes" (232 : Nat) ({ cls := "NumberComes", name := "laysHours", desc := "(I)Z" } : Jvm.MethodName)) ∈ lw_all := lw_g (lw_at lw_m4 139 rfl) rfl
theorem q970 : (Jvm.Cond.privateMethod ({ cls := "NumberComes", name := "laysHours", desc := "(I)Z" } : Jvm.MethodName)) ∈ lw_tbl := lw_at lw_m4 140 rfl
theorem q971 : (Jvm.Cond.instanceMethod ({ cls := "NumberComes", name := "laysHours", desc := "(I)Z" } : Jvm.MethodName)) ∈ lw_all := lw_g (lw_at lw_m4 141 rfl) rfl
theorem q972 : (Jvm.Cond.code ({ cls := "NumberComes", name := "laysHours", desc := "(I)Z" } : Jvm.MethodName) prog_1_method_34_code (3 : Nat) (Option.some Jvm.ClassFile.FieldType.boolean)) ∈ lw_all := lw_g (lw_at lw_m4 142 rfl) rfl
theorem q973 : (Jvm.Cond.methodLink "NumberComes" (193 : Nat) ({ cls := "NumberComes", name := "joins", desc := "(I)Z" } : Jvm.MethodName)) ∈ lw_all := lw_g (lw_at lw_m4 143 rfl) rfl
theorem q974 : (Jvm.Cond.privateMethod ({ cls := "NumberComes", name := "joins", desc := "(I)Z" } : Jvm.MethodName)) ∈ lw_tbl := lw_at lw_m4 144 rfl
theorem q975 : (Jvm.Cond.instanceMethod ({ cls := "NumberComes", name := "joins", desc := "(I)Z" } : Jvm.MethodName)) ∈ lw_all := lw_g (lw_at lw_m4 145 rfl) rfl
theorem q976 : (Jvm.Cond.code ({ cls := "NumberComes", name := "joins", desc := "(I)Z" } : Jvm.MethodName) prog_1_method_35_code (6 : Nat) (Option.some Jvm.ClassFile.FieldType.boolean)) ∈ lw_all := lw_g (lw_at lw_m4 146 rfl) rfl
theorem q977 : (Jvm.Cond.methodLink "NumberComes" (196 : Nat) ({ cls := "java/lang/Math", name := "max", desc := "(JJ)J" } : Jvm.MethodName)) ∈ lw_all := lw_g (lw_at lw_m4 147 rfl) rfl
theorem q978 : (Jvm.Cond.methodLink "NumberComes" (201 : Nat) ({ cls := "java/lang/Math", name := "floorMod", desc := "(JJ)J" } : Jvm.MethodName)) ∈ lw_all := lw_g (lw_at lw_m4 148 rfl) rfl
theorem q981 : (Jvm.Cond.constantLong "NumberComes" (204 : Nat) (1000000000000001 : Int64)) ∈ lw_all := lw_g (lw_at lw_m4 151 rfl) rfl
theorem q982 : (Jvm.Cond.methodLink "NumberComes" (235 : Nat) ({ cls := "NumberComes", name := "from", desc := "(J)J" } : Jvm.MethodName)) ∈ lw_all := lw_g (lw_at lw_m4 152 rfl) rfl
theorem q983 : (Jvm.Cond.privateMethod ({ cls := "NumberComes", name := "from", desc := "(J)J" } : Jvm.MethodName)) ∈ lw_tbl := lw_at lw_m4 153 rfl
theorem q984 : (Jvm.Cond.instanceMethod ({ cls := "NumberComes", name := "from", desc := "(J)J" } : Jvm.MethodName)) ∈ lw_all := lw_g (lw_at lw_m4 154 rfl) rfl
theorem q985 : (Jvm.Cond.code ({ cls := "NumberComes", name := "from", desc := "(J)J" } : Jvm.MethodName) prog_1_method_36_code (7 : Nat) (Option.some Jvm.ClassFile.FieldType.long)) ∈ lw_all := lw_g (lw_at lw_m4 155 rfl) rfl
theorem q986 : (Jvm.Cond.methodLink "NumberComes" (206 : Nat) ({ cls := "java/lang/Math", name := "min", desc := "(JJ)J" } : Jvm.MethodName)) ∈ lw_all := lw_g (lw_at lw_m4 156 rfl) rfl
theorem q988 : (Jvm.Cond.instanceMethod ({ cls := "NumberComes", name := "barred", desc := "(II)I" } : Jvm.MethodName)) ∈ lw_all := lw_g (lw_at lw_m4 158 rfl) rfl
theorem q989 : (Jvm.Cond.selects "NumberComes" ({ cls := "NumberComes", name := "barred", desc := "(II)I" } : Jvm.MethodName) ({ cls := "NumberComes", name := "barred", desc := "(II)I" } : Jvm.MethodName)) ∈ lw_all := lw_g (lw_at lw_m4 159 rfl) rfl
theorem q990 : (Jvm.Cond.code ({ cls := "NumberComes", name := "barred", desc := "(II)I" } : Jvm.MethodName) prog_1_method_40_code (4 : Nat) (Option.some Jvm.ClassFile.FieldType.int)) ∈ lw_all := lw_g (lw_at lw_m4 160 rfl) rfl
theorem q992 : (Jvm.Cond.instanceMethod ({ cls := "NumberComes", name := "together", desc := "(IJJ)J" } : Jvm.MethodName)) ∈ lw_all := lw_g (lw_at lw_m4 162 rfl) rfl
theorem q993 : (Jvm.Cond.selects "NumberComes" ({ cls := "NumberComes", name := "together", desc := "(IJJ)J" } : Jvm.MethodName) ({ cls := "NumberComes", name := "together", desc := "(IJJ)J" } : Jvm.MethodName)) ∈ lw_all := lw_g (lw_at lw_m4 163 rfl) rfl
theorem q994 : (Jvm.Cond.code ({ cls := "NumberComes", name := "together", desc := "(IJJ)J" } : Jvm.MethodName) prog_1_method_43_code (6 : Nat) (Option.some Jvm.ClassFile.FieldType.long)) ∈ lw_all := lw_g (lw_at lw_m4 164 rfl) rfl
theorem q995 : (Jvm.Cond.methodLink "NumberComes" (243 : Nat) ({ cls := "NumberComes", name := "areHours", desc := "(JJ)Z" } : Jvm.MethodName)) ∈ lw_all := lw_g (lw_at lw_m4 165 rfl) rfl
theorem q996 : (Jvm.Cond.static ({ cls := "NumberComes", name := "areHours", desc := "(JJ)Z" } : Jvm.MethodName)) ∈ lw_all := lw_g (lw_at lw_m4 166 rfl) rfl
theorem q997 : (Jvm.Cond.code ({ cls := "NumberComes", name := "areHours", desc := "(JJ)Z" } : Jvm.MethodName) prog_1_method_7_code (4 : Nat) (Option.some Jvm.ClassFile.FieldType.boolean)) ∈ lw_all := lw_g (lw_at lw_m4 167 rfl) rfl
theorem q998 : (Jvm.Cond.methodLink "NumberComes" (247 : Nat) ({ cls := "NumberComes", name := "countOf", desc := "(IJJ)J" } : Jvm.MethodName)) ∈ lw_all := lw_g (lw_at lw_m4 168 rfl) rfl
theorem q999 : (Jvm.Cond.privateMethod ({ cls := "NumberComes", name := "countOf", desc := "(IJJ)J" } : Jvm.MethodName)) ∈ lw_tbl := lw_at lw_m4 169 rfl
theorem q1000 : (Jvm.Cond.instanceMethod ({ cls := "NumberComes", name := "countOf", desc := "(IJJ)J" } : Jvm.MethodName)) ∈ lw_all := lw_g (lw_at lw_m4 170 rfl) rfl
theorem q1001 : (Jvm.Cond.code ({ cls := "NumberComes", name := "countOf", desc := "(IJJ)J" } : Jvm.MethodName) prog_1_method_42_code (16 : Nat) (Option.some Jvm.ClassFile.FieldType.long)) ∈ lw_all := lw_g (lw_at lw_m4 171 rfl) rfl
theorem q1002 : (Jvm.Cond.methodLink "NumberComes" (239 : Nat) ({ cls := "NumberComes", name := "countDays", desc := "(IJJ)J" } : Jvm.MethodName)) ∈ lw_all := lw_g (lw_at lw_m4 172 rfl) rfl
theorem q1003 : (Jvm.Cond.privateMethod ({ cls := "NumberComes", name := "countDays", desc := "(IJJ)J" } : Jvm.MethodName)) ∈ lw_tbl := lw_at lw_m4 173 rfl
theorem q1004 : (Jvm.Cond.instanceMethod ({ cls := "NumberComes", name := "countDays", desc := "(IJJ)J" } : Jvm.MethodName)) ∈ lw_all := lw_g (lw_at lw_m4 174 rfl) rfl
theorem q1005 : (Jvm.Cond.code ({ cls := "NumberComes", name := "countDays", desc := "(IJJ)J" } : Jvm.MethodName) prog_1_method_41_code (14 : Nat) (Option.some Jvm.ClassFile.FieldType.long)) ∈ lw_all := lw_g (lw_at lw_m4 175 rfl) rfl
theorem q1007 : (Jvm.Cond.instanceMethod ({ cls := "NumberComes", name := "alone", desc := "(IJI)I" } : Jvm.MethodName)) ∈ lw_all := lw_g (lw_at lw_m4 177 rfl) rfl
theorem q1008 : (Jvm.Cond.selects "NumberComes" ({ cls := "NumberComes", name := "alone", desc := "(IJI)I" } : Jvm.MethodName) ({ cls := "NumberComes", name := "alone", desc := "(IJI)I" } : Jvm.MethodName)) ∈ lw_all := lw_g (lw_at lw_m4 178 rfl) rfl
theorem q1009 : (Jvm.Cond.code ({ cls := "NumberComes", name := "alone", desc := "(IJI)I" } : Jvm.MethodName) prog_1_method_44_code (8 : Nat) (Option.some Jvm.ClassFile.FieldType.int)) ∈ lw_all := lw_g (lw_at lw_m4 179 rfl) rfl
theorem q1010 : (Jvm.Cond.constantLong "NumberComes" (250 : Nat) (12 : Int64)) ∈ lw_all := lw_g (lw_at lw_m4 180 rfl) rfl
theorem q1011 : (Jvm.Cond.constantLong "NumberComes" (252 : Nat) (100000 : Int64)) ∈ lw_all := lw_g (lw_at lw_m4 181 rfl) rfl
theorem q1012 : (Jvm.Cond.methodLink "NumberComes" (254 : Nat) ({ cls := "NumberComes", name := "speakers", desc := "(J)I" } : Jvm.MethodName)) ∈ lw_all := lw_g (lw_at lw_m4 182 rfl) rfl
theorem q1013 : (Jvm.Cond.privateMethod ({ cls := "NumberComes", name := "speakers", desc := "(J)I" } : Jvm.MethodName)) ∈ lw_tbl := lw_at lw_m4 183 rfl
theorem q1014 : (Jvm.Cond.instanceMethod ({ cls := "NumberComes", name := "speakers", desc := "(J)I" } : Jvm.MethodName)) ∈ lw_all := lw_g (lw_at lw_m4 184 rfl) rfl
theorem q1015 : (Jvm.Cond.code ({ cls := "NumberComes", name := "speakers", desc := "(J)I" } : Jvm.MethodName) prog_1_method_29_code (5 : Nat) (Option.some Jvm.ClassFile.FieldType.int)) ∈ lw_all := lw_g (lw_at lw_m4 185 rfl) rfl
theorem q1016 : (Jvm.Cond.methodLink "NumberComes" (258 : Nat) ({ cls := "java/lang/Integer", name := "bitCount", desc := "(I)I" } : Jvm.MethodName)) ∈ lw_all := lw_g (lw_at lw_m4 186 rfl) rfl
theorem q1023 : (Jvm.Cond.instanceMethod ({ cls := "NumberComes", name := "secret", desc := "(IIJI)J" } : Jvm.MethodName)) ∈ lw_all := lw_g (lw_at lw_m4 193 rfl) rfl
theorem q1024 : (Jvm.Cond.selects "NumberComes" ({ cls := "NumberComes", name := "secret", desc := "(IIJI)J" } : Jvm.MethodName) ({ cls := "NumberComes", name := "secret", desc := "(IIJI)J" } : Jvm.MethodName)) ∈ lw_all := lw_g (lw_at lw_m4 194 rfl) rfl
theorem q1025 : (Jvm.Cond.code ({ cls := "NumberComes", name := "secret", desc := "(IIJI)J" } : Jvm.MethodName) prog_1_method_47_code (8 : Nat) (Option.some Jvm.ClassFile.FieldType.long)) ∈ lw_all := lw_g (lw_at lw_m4 195 rfl) rfl
theorem q1026 : (Jvm.Cond.constant "NumberComes" (267 : Nat) (100000 : Int32)) ∈ lw_all := lw_g (lw_at lw_m4 196 rfl) rfl
theorem q1027 : (Jvm.Cond.methodLink "NumberComes" (268 : Nat) ({ cls := "NumberComes", name := "isSecret", desc := "(IIJ)Z" } : Jvm.MethodName)) ∈ lw_all := lw_g (lw_at lw_m4 197 rfl) rfl
theorem q1028 : (Jvm.Cond.privateMethod ({ cls := "NumberComes", name := "isSecret", desc := "(IIJ)Z" } : Jvm.MethodName)) ∈ lw_tbl := lw_at lw_m4 198 rfl
theorem q1029 : (Jvm.Cond.instanceMethod ({ cls := "NumberComes", name := "isSecret", desc := "(IIJ)Z" } : Jvm.MethodName)) ∈ lw_all := lw_g (lw_at lw_m4 199 rfl) rfl
theorem q1030 : (Jvm.Cond.code ({ cls := "NumberComes", name := "isSecret", desc := "(IIJ)Z" } : Jvm.MethodName) prog_1_method_46_code (5 : Nat) (Option.some Jvm.ClassFile.FieldType.boolean)) ∈ lw_all := lw_g (lw_at lw_m4 200 rfl) rfl
theorem q1031 : (Jvm.Cond.methodLink "NumberComes" (263 : Nat) ({ cls := "NumberComes", name := "hears", desc := "(IIJ)I" } : Jvm.MethodName)) ∈ lw_all := lw_g (lw_at lw_m4 201 rfl) rfl
theorem q1032 : (Jvm.Cond.privateMethod ({ cls := "NumberComes", name := "hears", desc := "(IIJ)I" } : Jvm.MethodName)) ∈ lw_tbl := lw_at lw_m4 202 rfl
theorem q1033 : (Jvm.Cond.instanceMethod ({ cls := "NumberComes", name := "hears", desc := "(IIJ)I" } : Jvm.MethodName)) ∈ lw_all := lw_g (lw_at lw_m4 203 rfl) rfl
theorem q1034 : (Jvm.Cond.code ({ cls := "NumberComes", name := "hears", desc := "(IIJ)I" } : Jvm.MethodName) prog_1_method_45_code (5 : Nat) (Option.some Jvm.ClassFile.FieldType.int)) ∈ lw_all := lw_g (lw_at lw_m4 204 rfl) rfl
theorem q1036 : (Jvm.Cond.instanceMethod ({ cls := "NumberComes", name := "pass", desc := "(IJII)J" } : Jvm.MethodName)) ∈ lw_all := lw_g (lw_at lw_m4 206 rfl) rfl
theorem q1037 : (Jvm.Cond.selects "NumberComes" ({ cls := "NumberComes", name := "pass", desc := "(IJII)J" } : Jvm.MethodName) ({ cls := "NumberComes", name := "pass", desc := "(IJII)J" } : Jvm.MethodName)) ∈ lw_all := lw_g (lw_at lw_m4 207 rfl) rfl
theorem q1038 : (Jvm.Cond.code ({ cls := "NumberComes", name := "pass", desc := "(IJII)J" } : Jvm.MethodName) prog_1_method_48_code (10 : Nat) (Option.some Jvm.ClassFile.FieldType.long)) ∈ lw_all := lw_g (lw_at lw_m4 208 rfl) rfl
theorem q1039 : (Jvm.Cond.constantLong "NumberComes" (272 : Nat) (100000000000000 : Int64)) ∈ lw_all := lw_g (lw_at lw_m4 209 rfl) rfl
theorem q1040 : (Jvm.Cond.methodLink "NumberComes" (274 : Nat) ({ cls := "java/lang/Integer", name := "numberOfTrailingZeros", desc := "(I)I" } : Jvm.MethodName)) ∈ lw_all := lw_g (lw_at lw_m4 210 rfl) rfl
theorem q1045 : (Jvm.Cond.instanceMethod ({ cls := "NumberComes", name := "talk", desc := "(JII)I" } : Jvm.MethodName)) ∈ lw_all := lw_g (lw_at lw_m4 215 rfl) rfl
theorem q1046 : (Jvm.Cond.selects "NumberComes" ({ cls := "NumberComes", name := "talk", desc := "(JII)I" } : Jvm.MethodName) ({ cls := "NumberComes", name := "talk", desc := "(JII)I" } : Jvm.MethodName)) ∈ lw_all := lw_g (lw_at lw_m4 216 rfl) rfl
theorem q1047 : (Jvm.Cond.code ({ cls := "NumberComes", name := "talk", desc := "(JII)I" } : Jvm.MethodName) prog_1_method_49_code (6 : Nat) (Option.some Jvm.ClassFile.FieldType.int)) ∈ lw_all := lw_g (lw_at lw_m4 217 rfl) rfl
theorem q1049 : (Jvm.Cond.instanceMethod ({ cls := "NumberComes", name := "judge", desc := "()I" } : Jvm.MethodName)) ∈ lw_all := lw_g (lw_at lw_m4 219 rfl) rfl
theorem q1050 : (Jvm.Cond.selects "NumberComes" ({ cls := "NumberComes", name := "judge", desc := "()I" } : Jvm.MethodName) ({ cls := "NumberComes", name := "judge", desc := "()I" } : Jvm.MethodName)) ∈ lw_all := lw_g (lw_at lw_m4 220 rfl) rfl
theorem q1051 : (Jvm.Cond.code ({ cls := "NumberComes", name := "judge", desc := "()I" } : Jvm.MethodName) prog_1_method_50_code (2 : Nat) (Option.some Jvm.ClassFile.FieldType.int)) ∈ lw_all := lw_g (lw_at lw_m4 221 rfl) rfl
theorem q1053 : (Jvm.Cond.instanceMethod ({ cls := "NumberComes", name := "overheard", desc := "(I)I" } : Jvm.MethodName)) ∈ lw_all := lw_g (lw_at lw_m4 223 rfl) rfl
theorem q1054 : (Jvm.Cond.selects "NumberComes" ({ cls := "NumberComes", name := "overheard", desc := "(I)I" } : Jvm.MethodName) ({ cls := "NumberComes", name := "overheard", desc := "(I)I" } : Jvm.MethodName)) ∈ lw_all := lw_g (lw_at lw_m4 224 rfl) rfl
theorem q1055 : (Jvm.Cond.code ({ cls := "NumberComes", name := "overheard", desc := "(I)I" } : Jvm.MethodName) prog_1_method_51_code (2 : Nat) (Option.some Jvm.ClassFile.FieldType.int)) ∈ lw_all := lw_g (lw_at lw_m4 225 rfl) rfl
theorem q1057 : (Jvm.Cond.instanceMethod ({ cls := "NumberComes", name := "turn", desc := "(IJI)J" } : Jvm.MethodName)) ∈ lw_all := lw_g (lw_at lw_m4 227 rfl) rfl
theorem q1058 : (Jvm.Cond.selects "NumberComes" ({ cls := "NumberComes", name := "turn", desc := "(IJI)J" } : Jvm.MethodName) ({ cls := "NumberComes", name := "turn", desc := "(IJI)J" } : Jvm.MethodName)) ∈ lw_all := lw_g (lw_at lw_m4 228 rfl) rfl
theorem q1059 : (Jvm.Cond.code ({ cls := "NumberComes", name := "turn", desc := "(IJI)J" } : Jvm.MethodName) prog_1_method_54_code (11 : Nat) (Option.some Jvm.ClassFile.FieldType.long)) ∈ lw_all := lw_g (lw_at lw_m4 229 rfl) rfl
theorem q1060 : (Jvm.Cond.methodLink "NumberComes" (296 : Nat) ({ cls := "NumberComes", name := "canAll", desc := "(IJ)Z" } : Jvm.MethodName)) ∈ lw_all := lw_g (lw_at lw_m4 230 rfl) rfl
theorem q1061 : (Jvm.Cond.privateMethod ({ cls := "NumberComes", name := "canAll", desc := "(IJ)Z" } : Jvm.MethodName)) ∈ lw_tbl := lw_at lw_m4 231 rfl
theorem q1062 : (Jvm.Cond.instanceMethod ({ cls := "NumberComes", name := "canAll", desc := "(IJ)Z" } : Jvm.MethodName)) ∈ lw_all := lw_g (lw_at lw_m4 232 rfl) rfl
theorem q1063 : (Jvm.Cond.code ({ cls := "NumberComes", name := "canAll", desc := "(IJ)Z" } : Jvm.MethodName) prog_1_method_53_code (5 : Nat) (Option.some Jvm.ClassFile.FieldType.boolean)) ∈ lw_all := lw_g (lw_at lw_m4 233 rfl) rfl
theorem q1064 : (Jvm.Cond.methodLink "NumberComes" (287 : Nat) ({ cls := "java/util/Arrays", name := "fill", desc := "([II)V" } : Jvm.MethodName)) ∈ lw_all := lw_g (lw_at lw_m4 234 rfl) rfl
theorem q1067 : (Jvm.Cond.methodLink "NumberComes" (293 : Nat) ({ cls := "java/util/Arrays", name := "fill", desc := "([ZZ)V" } : Jvm.MethodName)) ∈ lw_all := lw_g (lw_at lw_m4 237 rfl) rfl
theorem q1070 : (Jvm.Cond.methodLink "NumberComes" (284 : Nat) ({ cls := "NumberComes", name := "seats", desc := "(IJ)Z" } : Jvm.MethodName)) ∈ lw_all := lw_g (lw_at lw_m5 0 rfl) rfl
theorem q1071 : (Jvm.Cond.privateMethod ({ cls := "NumberComes", name := "seats", desc := "(IJ)Z" } : Jvm.MethodName)) ∈ lw_tbl := lw_at lw_m5 1 rfl
theorem q1072 : (Jvm.Cond.instanceMethod ({ cls := "NumberComes", name := "seats", desc := "(IJ)Z" } : Jvm.MethodName)) ∈ lw_all := lw_g (lw_at lw_m5 2 rfl) rfl
theorem q1073 : (Jvm.Cond.code ({ cls := "NumberComes", name := "seats", desc := "(IJ)Z" } : Jvm.MethodName) prog_1_method_52_code (5 : Nat) (Option.some Jvm.ClassFile.FieldType.boolean)) ∈ lw_all := lw_g (lw_at lw_m5 3 rfl) rfl
theorem q1075 : (Jvm.Cond.instanceMethod ({ cls := "NumberComes", name := "given", desc := "(I)I" } : Jvm.MethodName)) ∈ lw_all := lw_g (lw_at lw_m5 5 rfl) rfl
theorem q1076 : (Jvm.Cond.selects "NumberComes" ({ cls := "NumberComes", name := "given", desc := "(I)I" } : Jvm.MethodName) ({ cls := "NumberComes", name := "given", desc := "(I)I" } : Jvm.MethodName)) ∈ lw_all := lw_g (lw_at lw_m5 6 rfl) rfl
theorem q1077 : (Jvm.Cond.code ({ cls := "NumberComes", name := "given", desc := "(I)I" } : Jvm.MethodName) prog_1_method_55_code (3 : Nat) (Option.some Jvm.ClassFile.FieldType.int)) ∈ lw_all := lw_g (lw_at lw_m5 7 rfl) rfl
theorem q1079 : (Jvm.Cond.instanceMethod ({ cls := "NumberComes", name := "need", desc := "(IIII)I" } : Jvm.MethodName)) ∈ lw_all := lw_g (lw_at lw_m5 9 rfl) rfl
theorem q1080 : (Jvm.Cond.selects "NumberComes" ({ cls := "NumberComes", name := "need", desc := "(IIII)I" } : Jvm.MethodName) ({ cls := "NumberComes", name := "need", desc := "(IIII)I" } : Jvm.MethodName)) ∈ lw_all := lw_g (lw_at lw_m5 10 rfl) rfl
theorem q1081 : (Jvm.Cond.code ({ cls := "NumberComes", name := "need", desc := "(IIII)I" } : Jvm.MethodName) prog_1_method_56_code (6 : Nat) (Option.some Jvm.ClassFile.FieldType.int)) ∈ lw_all := lw_g (lw_at lw_m5 11 rfl) rfl
theorem q1082 : (Jvm.Cond.methodLink "NumberComes" (305 : Nat) ({ cls := "java/lang/System", name := "arraycopy", desc := "(Ljava/lang/Object;ILjava/lang/Object;II)V" } : Jvm.MethodName)) ∈ lw_all := lw_g (lw_at lw_m5 12 rfl) rfl
theorem q1084 : (Jvm.Cond.instanceMethod ({ cls := "NumberComes", name := "worth", desc := "(I)I" } : Jvm.MethodName)) ∈ lw_all := lw_g (lw_at lw_m5 14 rfl) rfl
theorem q1085 : (Jvm.Cond.selects "NumberComes" ({ cls := "NumberComes", name := "worth", desc := "(I)I" } : Jvm.MethodName) ({ cls := "NumberComes", name := "worth", desc := "(I)I" } : Jvm.MethodName)) ∈ lw_all := lw_g (lw_at lw_m5 15 rfl) rfl
theorem q1086 : (Jvm.Cond.code ({ cls := "NumberComes", name := "worth", desc := "(I)I" } : Jvm.MethodName) prog_1_method_59_code (2 : Nat) (Option.some Jvm.ClassFile.FieldType.int)) ∈ lw_all := lw_g (lw_at lw_m5 16 rfl) rfl
theorem q1087 : (Jvm.Cond.methodLink "NumberComes" (326 : Nat) ({ cls := "NumberComes", name := "worthOfAll", desc := "()I" } : Jvm.MethodName)) ∈ lw_all := lw_g (lw_at lw_m5 17 rfl) rfl
theorem q1088 : (Jvm.Cond.privateMethod ({ cls := "NumberComes", name := "worthOfAll", desc := "()I" } : Jvm.MethodName)) ∈ lw_tbl := lw_at lw_m5 18 rfl
theorem q1089 : (Jvm.Cond.instanceMethod ({ cls := "NumberComes", name := "worthOfAll", desc := "()I" } : Jvm.MethodName)) ∈ lw_all := lw_g (lw_at lw_m5 19 rfl) rfl
theorem q1090 : (Jvm.Cond.code ({ cls := "NumberComes", name := "worthOfAll", desc := "()I" } : Jvm.MethodName) prog_1_method_58_code (3 : Nat) (Option.some Jvm.ClassFile.FieldType.int)) ∈ lw_all := lw_g (lw_at lw_m5 20 rfl) rfl
theorem q1091 : (Jvm.Cond.methodLink "NumberComes" (323 : Nat) ({ cls := "NumberComes", name := "worthOf", desc := "(I)I" } : Jvm.MethodName)) ∈ lw_all := lw_g (lw_at lw_m5 21 rfl) rfl
theorem q1092 : (Jvm.Cond.privateMethod ({ cls := "NumberComes", name := "worthOf", desc := "(I)I" } : Jvm.MethodName)) ∈ lw_tbl := lw_at lw_m5 22 rfl
theorem q1093 : (Jvm.Cond.instanceMethod ({ cls := "NumberComes", name := "worthOf", desc := "(I)I" } : Jvm.MethodName)) ∈ lw_all := lw_g (lw_at lw_m5 23 rfl) rfl
theorem q1094 : (Jvm.Cond.code ({ cls := "NumberComes", name := "worthOf", desc := "(I)I" } : Jvm.MethodName) prog_1_method_57_code (5 : Nat) (Option.some Jvm.ClassFile.FieldType.int)) ∈ lw_all := lw_g (lw_at lw_m5 24 rfl) rfl
theorem q1095 : (Jvm.Cond.constantLong "NumberComes" (315 : Nat) (-9999 : Int64)) ∈ lw_all := lw_g (lw_at lw_m5 25 rfl) rfl
theorem q1096 : (Jvm.Cond.interfaceEntry "NumberComes" (317 : Nat)) ∈ lw_tbl := lw_at lw_m5 26 rfl
theorem q1097 : (Jvm.Cond.methodLink "NumberComes" (317 : Nat) ({ cls := "NumberComes$Sum", name := "of", desc := "([I)J" } : Jvm.MethodName)) ∈ lw_all := lw_g (lw_at lw_m5 27 rfl) rfl
theorem q1098 : (Jvm.Cond.constant "NumberComes" (329 : Nat) (-1000000 : Int32)) ∈ lw_all := lw_g (lw_at lw_m5 28 rfl) rfl
theorem q1100 : (Jvm.Cond.instanceMethod ({ cls := "NumberComes", name := "give", desc := "(II)I" } : Jvm.MethodName)) ∈ lw_all := lw_g (lw_at lw_m5 30 rfl) rfl
theorem q1101 : (Jvm.Cond.selects "NumberComes" ({ cls := "NumberComes", name := "give", desc := "(II)I" } : Jvm.MethodName) ({ cls := "NumberComes", name := "give", desc := "(II)I" } : Jvm.MethodName)) ∈ lw_all := lw_g (lw_at lw_m5 31 rfl) rfl
theorem q1102 : (Jvm.Cond.code ({ cls := "NumberComes", name := "give", desc := "(II)I" } : Jvm.MethodName) prog_1_method_60_code (12 : Nat) (Option.some Jvm.ClassFile.FieldType.int)) ∈ lw_all := lw_g (lw_at lw_m5 32 rfl) rfl
theorem q1103 : (Jvm.Cond.methodLink "NumberComes" (330 : Nat) ({ cls := "java/lang/Integer", name := "numberOfLeadingZeros", desc := "(I)I" } : Jvm.MethodName)) ∈ lw_all := lw_g (lw_at lw_m5 33 rfl) rfl
theorem q1107 : (Jvm.Cond.instanceMethod ({ cls := "NumberComes", name := "mend", desc := "(I)I" } : Jvm.MethodName)) ∈ lw_all := lw_g (lw_at lw_m5 37 rfl) rfl
theorem q1108 : (Jvm.Cond.selects "NumberComes" ({ cls := "NumberComes", name := "mend", desc := "(I)I" } : Jvm.MethodName) ({ cls := "NumberComes", name := "mend", desc := "(I)I" } : Jvm.MethodName)) ∈ lw_all := lw_g (lw_at lw_m5 38 rfl) rfl
theorem q1109 : (Jvm.Cond.code ({ cls := "NumberComes", name := "mend", desc := "(I)I" } : Jvm.MethodName) prog_1_method_61_code (8 : Nat) (Option.some Jvm.ClassFile.FieldType.int)) ∈ lw_all := lw_g (lw_at lw_m5 39 rfl) rfl
theorem q1111 : (Jvm.Cond.instanceMethod ({ cls := "NumberComes", name := "cover", desc := "()I" } : Jvm.MethodName)) ∈ lw_all := lw_g (lw_at lw_m5 41 rfl) rfl
theorem q1112 : (Jvm.Cond.selects "NumberComes" ({ cls := "NumberComes", name := "cover", desc := "()I" } : Jvm.MethodName) ({ cls := "NumberComes", name := "cover", desc := "()I" } : Jvm.MethodName)) ∈ lw_all := lw_g (lw_at lw_m5 42 rfl) rfl
theorem q1113 : (Jvm.Cond.code ({ cls := "NumberComes", name := "cover", desc := "()I" } : Jvm.MethodName) prog_1_method_63_code (5 : Nat) (Option.some Jvm.ClassFile.FieldType.int)) ∈ lw_all := lw_g (lw_at lw_m5 43 rfl) rfl
theorem q1114 : (Jvm.Cond.methodLink "NumberComes" (335 : Nat) ({ cls := "NumberComes", name := "coverPeriod", desc := "()I" } : Jvm.MethodName)) ∈ lw_all := lw_g (lw_at lw_m5 44 rfl) rfl
theorem q1115 : (Jvm.Cond.privateMethod ({ cls := "NumberComes", name := "coverPeriod", desc := "()I" } : Jvm.MethodName)) ∈ lw_tbl := lw_at lw_m5 45 rfl
theorem q1116 : (Jvm.Cond.instanceMethod ({ cls := "NumberComes", name := "coverPeriod", desc := "()I" } : Jvm.MethodName)) ∈ lw_all := lw_g (lw_at lw_m5 46 rfl) rfl
theorem q1117 : (Jvm.Cond.code ({ cls := "NumberComes", name := "coverPeriod", desc := "()I" } : Jvm.MethodName) prog_1_method_62_code (4 : Nat) (Option.some Jvm.ClassFile.FieldType.int)) ∈ lw_all := lw_g (lw_at lw_m5 47 rfl) rfl
theorem q1118 : (Jvm.Cond.constantLong "NumberComes" (333 : Nat) (5040 : Int64)) ∈ lw_all := lw_g (lw_at lw_m5 48 rfl) rfl
theorem q1120 : (Jvm.Cond.instanceMethod ({ cls := "NumberComes", name := "apart", desc := "(II)I" } : Jvm.MethodName)) ∈ lw_all := lw_g (lw_at lw_m5 50 rfl) rfl
theorem q1121 : (Jvm.Cond.selects "NumberComes" ({ cls := "NumberComes", name := "apart", desc := "(II)I" } : Jvm.MethodName) ({ cls := "NumberComes", name := "apart", desc := "(II)I" } : Jvm.MethodName)) ∈ lw_all := lw_g (lw_at lw_m5 51 rfl) rfl
theorem q1122 : (Jvm.Cond.code ({ cls := "NumberComes", name := "apart", desc := "(II)I" } : Jvm.MethodName) prog_1_method_66_code (4 : Nat) (Option.some Jvm.ClassFile.FieldType.int)) ∈ lw_all := lw_g (lw_at lw_m5 52 rfl) rfl
theorem q1123 : (Jvm.Cond.methodLink "NumberComes" (341 : Nat) ({ cls := "NumberComes", name := "canShare", desc := "(I)Z" } : Jvm.MethodName)) ∈ lw_all := lw_g (lw_at lw_m5 53 rfl) rfl
theorem q1124 : (Jvm.Cond.privateMethod ({ cls := "NumberComes", name := "canShare", desc := "(I)Z" } : Jvm.MethodName)) ∈ lw_tbl := lw_at lw_m5 54 rfl
theorem q1125 : (Jvm.Cond.instanceMethod ({ cls := "NumberComes", name := "canShare", desc := "(I)Z" } : Jvm.MethodName)) ∈ lw_all := lw_g (lw_at lw_m5 55 rfl) rfl
theorem q1126 : (Jvm.Cond.code ({ cls := "NumberComes", name := "canShare", desc := "(I)Z" } : Jvm.MethodName) prog_1_method_65_code (4 : Nat) (Option.some Jvm.ClassFile.FieldType.boolean)) ∈ lw_all := lw_g (lw_at lw_m5 56 rfl) rfl
theorem q1127 : (Jvm.Cond.methodLink "NumberComes" (338 : Nat) ({ cls := "NumberComes", name := "places", desc := "(II)Z" } : Jvm.MethodName)) ∈ lw_all := lw_g (lw_at lw_m5 57 rfl) rfl
theorem q1128 : (Jvm.Cond.privateMethod ({ cls := "NumberComes", name := "places", desc := "(II)Z" } : Jvm.MethodName)) ∈ lw_tbl := lw_at lw_m5 58 rfl
theorem q1129 : (Jvm.Cond.instanceMethod ({ cls := "NumberComes", name := "places", desc := "(II)Z" } : Jvm.MethodName)) ∈ lw_all := lw_g (lw_at lw_m5 59 rfl) rfl
theorem q1130 : (Jvm.Cond.code ({ cls := "NumberComes", name := "places", desc := "(II)Z" } : Jvm.MethodName) prog_1_method_64_code (6 : Nat) (Option.some Jvm.ClassFile.FieldType.boolean)) ∈ lw_all := lw_g (lw_at lw_m5 60 rfl) rfl
theorem q1132 : (Jvm.Cond.instanceMethod ({ cls := "NumberComes", name := "heard", desc := "(IZ)I" } : Jvm.MethodName)) ∈ lw_all := lw_g (lw_at lw_m5 62 rfl) rfl
theorem q1133 : (Jvm.Cond.selects "NumberComes" ({ cls := "NumberComes", name := "heard", desc := "(IZ)I" } : Jvm.MethodName) ({ cls := "NumberComes", name := "heard", desc := "(IZ)I" } : Jvm.MethodName)) ∈ lw_all := lw_g (lw_at lw_m5 63 rfl) rfl
theorem q1134 : (Jvm.Cond.code ({ cls := "NumberComes", name := "heard", desc := "(IZ)I" } : Jvm.MethodName) prog_1_method_67_code (3 : Nat) (Option.some Jvm.ClassFile.FieldType.int)) ∈ lw_all := lw_g (lw_at lw_m5 64 rfl) rfl
theorem q1135 : (Jvm.Cond.constantLong "NumberComes" (344 : Nat) (999999 : Int64)) ∈ lw_all := lw_g (lw_at lw_m5 65 rfl) rfl
theorem q1137 : (Jvm.Cond.instanceMethod ({ cls := "NumberComes", name := "fits", desc := "(II)I" } : Jvm.MethodName)) ∈ lw_all := lw_g (lw_at lw_m5 67 rfl) rfl
theorem q1138 : (Jvm.Cond.selects "NumberComes" ({ cls := "NumberComes", name := "fits", desc := "(II)I" } : Jvm.MethodName) ({ cls := "NumberComes", name := "fits", desc := "(II)I" } : Jvm.MethodName)) ∈ lw_all := lw_g (lw_at lw_m5 68 rfl) rfl
theorem q1139 : (Jvm.Cond.code ({ cls := "NumberComes", name := "fits", desc := "(II)I" } : Jvm.MethodName) prog_1_method_69_code (6 : Nat) (Option.some Jvm.ClassFile.FieldType.int)) ∈ lw_all := lw_g (lw_at lw_m5 69 rfl) rfl
theorem q1140 : (Jvm.Cond.methodLink "NumberComes" (349 : Nat) ({ cls := "NumberComes", name := "isFit", desc := "(II)Z" } : Jvm.MethodName)) ∈ lw_all := lw_g (lw_at lw_m5 70 rfl) rfl
theorem q1141 : (Jvm.Cond.privateMethod ({ cls := "NumberComes", name := "isFit", desc := "(II)Z" } : Jvm.MethodName)) ∈ lw_tbl := lw_at lw_m5 71 rfl
theorem q1142 : (Jvm.Cond.instanceMethod ({ cls := "NumberComes", name := "isFit", desc := "(II)Z" } : Jvm.MethodName)) ∈ lw_all := lw_g (lw_at lw_m5 72 rfl) rfl
theorem q1143 : (Jvm.Cond.code ({ cls := "NumberComes", name := "isFit", desc := "(II)Z" } : Jvm.MethodName) prog_1_method_68_code (5 : Nat) (Option.some Jvm.ClassFile.FieldType.boolean)) ∈ lw_all := lw_g (lw_at lw_m5 73 rfl) rfl
theorem q1145 : (Jvm.Cond.instanceMethod ({ cls := "NumberComes", name := "who", desc := "()I" } : Jvm.MethodName)) ∈ lw_all := lw_g (lw_at lw_m5 75 rfl) rfl
theorem q1146 : (Jvm.Cond.selects "NumberComes" ({ cls := "NumberComes", name := "who", desc := "()I" } : Jvm.MethodName) ({ cls := "NumberComes", name := "who", desc := "()I" } : Jvm.MethodName)) ∈ lw_all := lw_g (lw_at lw_m5 76 rfl) rfl
theorem q1147 : (Jvm.Cond.code ({ cls := "NumberComes", name := "who", desc := "()I" } : Jvm.MethodName) prog_1_method_70_code (5 : Nat) (Option.some Jvm.ClassFile.FieldType.int)) ∈ lw_all := lw_g (lw_at lw_m5 77 rfl) rfl
theorem q1149 : (Jvm.Cond.instanceMethod ({ cls := "NumberComes", name := "bits", desc := "(IJ)J" } : Jvm.MethodName)) ∈ lw_all := lw_g (lw_at lw_m5 79 rfl) rfl
theorem q1150 : (Jvm.Cond.selects "NumberComes" ({ cls := "NumberComes", name := "bits", desc := "(IJ)J" } : Jvm.MethodName) ({ cls := "NumberComes", name := "bits", desc := "(IJ)J" } : Jvm.MethodName)) ∈ lw_all := lw_g (lw_at lw_m5 80 rfl) rfl
theorem q1151 : (Jvm.Cond.code ({ cls := "NumberComes", name := "bits", desc := "(IJ)J" } : Jvm.MethodName) prog_1_method_71_code (7 : Nat) (Option.some Jvm.ClassFile.FieldType.long)) ∈ lw_all := lw_g (lw_at lw_m5 81 rfl) rfl
theorem q1153 : (Jvm.Cond.instanceMethod ({ cls := "NumberComes", name := "other", desc := "(IIII)I" } : Jvm.MethodName)) ∈ lw_all := lw_g (lw_at lw_m5 83 rfl) rfl
theorem q1154 : (Jvm.Cond.selects "NumberComes" ({ cls := "NumberComes", name := "other", desc := "(IIII)I" } : Jvm.MethodName) ({ cls := "NumberComes", name := "other", desc := "(IIII)I" } : Jvm.MethodName)) ∈ lw_all := lw_g (lw_at lw_m5 84 rfl) rfl
theorem q1155 : (Jvm.Cond.code ({ cls := "NumberComes", name := "other", desc := "(IIII)I" } : Jvm.MethodName) prog_1_method_72_code (9 : Nat) (Option.some Jvm.ClassFile.FieldType.int)) ∈ lw_all := lw_g (lw_at lw_m5 85 rfl) rfl
theorem q1157 : (Jvm.Cond.instanceMethod ({ cls := "NumberComes", name := "hush", desc := "(JII)J" } : Jvm.MethodName)) ∈ lw_all := lw_g (lw_at lw_m5 87 rfl) rfl
theorem q1158 : (Jvm.Cond.selects "NumberComes" ({ cls := "NumberComes", name := "hush", desc := "(JII)J" } : Jvm.MethodName) ({ cls := "NumberComes", name := "hush", desc := "(JII)J" } : Jvm.MethodName)) ∈ lw_all := lw_g (lw_at lw_m5 88 rfl) rfl
theorem q1159 : (Jvm.Cond.code ({ cls := "NumberComes", name := "hush", desc := "(JII)J" } : Jvm.MethodName) prog_1_method_73_code (14 : Nat) (Option.some Jvm.ClassFile.FieldType.long)) ∈ lw_all := lw_g (lw_at lw_m5 89 rfl) rfl
theorem q1160 : (Jvm.Cond.constantLong "NumberComes" (352 : Nat) (3 : Int64)) ∈ lw_all := lw_g (lw_at lw_m5 90 rfl) rfl
theorem q1162 : (Jvm.Cond.instanceMethod ({ cls := "NumberComes", name := "child", desc := "(IIII)I" } : Jvm.MethodName)) ∈ lw_all := lw_g (lw_at lw_m5 92 rfl) rfl
theorem q1163 : (Jvm.Cond.selects "NumberComes" ({ cls := "NumberComes", name := "child", desc := "(IIII)I" } : Jvm.MethodName) ({ cls := "NumberComes", name := "child", desc := "(IIII)I" } : Jvm.MethodName)) ∈ lw_all := lw_g (lw_at lw_m5 93 rfl) rfl
theorem q1164 : (Jvm.Cond.code ({ cls := "NumberComes", name := "child", desc := "(IIII)I" } : Jvm.MethodName) prog_1_method_76_code (7 : Nat) (Option.some Jvm.ClassFile.FieldType.int)) ∈ lw_all := lw_g (lw_at lw_m5 94 rfl) rfl
theorem q1165 : (Jvm.Cond.methodLink "NumberComes" (358 : Nat) ({ cls := "NumberComes", name := "isChild", desc := "(IIIII)Z" } : Jvm.MethodName)) ∈ lw_all := lw_g (lw_at lw_m5 95 rfl) rfl
theorem q1166 : (Jvm.Cond.privateMethod ({ cls := "NumberComes", name := "isChild", desc := "(IIIII)Z" } : Jvm.MethodName)) ∈ lw_tbl := lw_at lw_m5 96 rfl
theorem q1167 : (Jvm.Cond.instanceMethod ({ cls := "NumberComes", name := "isChild", desc := "(IIIII)Z" } : Jvm.MethodName)) ∈ lw_all := lw_g (lw_at lw_m5 97 rfl) rfl
theorem q1168 : (Jvm.Cond.code ({ cls := "NumberComes", name := "isChild", desc := "(IIIII)Z" } : Jvm.MethodName) prog_1_method_75_code (7 : Nat) (Option.some Jvm.ClassFile.FieldType.boolean)) ∈ lw_all := lw_g (lw_at lw_m5 98 rfl) rfl
theorem q1169 : (Jvm.Cond.methodLink "NumberComes" (354 : Nat) ({ cls := "NumberComes", name := "canMeet", desc := "(III)Z" } : Jvm.MethodName)) ∈ lw_all := lw_g (lw_at lw_m5 99 rfl) rfl
theorem q1170 : (Jvm.Cond.privateMethod ({ cls := "NumberComes", name := "canMeet", desc := "(III)Z" } : Jvm.MethodName)) ∈ lw_tbl := lw_at lw_m5 100 rfl
theorem q1171 : (Jvm.Cond.instanceMethod ({ cls := "NumberComes", name := "canMeet", desc := "(III)Z" } : Jvm.MethodName)) ∈ lw_all := lw_g (lw_at lw_m5 101 rfl) rfl
theorem q1172 : (Jvm.Cond.code ({ cls := "NumberComes", name := "canMeet", desc := "(III)Z" } : Jvm.MethodName) prog_1_method_74_code (4 : Nat) (Option.some Jvm.ClassFile.FieldType.boolean)) ∈ lw_all := lw_g (lw_at lw_m5 102 rfl) rfl
theorem q1174 : (Jvm.Cond.instanceMethod ({ cls := "NumberComes", name := "pairs", desc := "(III)I" } : Jvm.MethodName)) ∈ lw_all := lw_g (lw_at lw_m5 104 rfl) rfl
theorem q1175 : (Jvm.Cond.selects "NumberComes" ({ cls := "NumberComes", name := "pairs", desc := "(III)I" } : Jvm.MethodName) ({ cls := "NumberComes", name := "pairs", desc := "(III)I" } : Jvm.MethodName)) ∈ lw_all := lw_g (lw_at lw_m5 105 rfl) rfl
theorem q1176 : (Jvm.Cond.code ({ cls := "NumberComes", name := "pairs", desc := "(III)I" } : Jvm.MethodName) prog_1_method_78_code (7 : Nat) (Option.some Jvm.ClassFile.FieldType.int)) ∈ lw_all := lw_g (lw_at lw_m5 106 rfl) rfl
theorem q1177 : (Jvm.Cond.methodLink "NumberComes" (362 : Nat) ({ cls := "NumberComes", name := "laysPairs", desc := "(II)V" } : Jvm.MethodName)) ∈ lw_all := lw_g (lw_at lw_m5 107 rfl) rfl
theorem q1178 : (Jvm.Cond.privateMethod ({ cls := "NumberComes", name := "laysPairs", desc := "(II)V" } : Jvm.MethodName)) ∈ lw_tbl := lw_at lw_m5 108 rfl
theorem q1179 : (Jvm.Cond.instanceMethod ({ cls := "NumberComes", name := "laysPairs", desc := "(II)V" } : Jvm.MethodName)) ∈ lw_all := lw_g (lw_at lw_m5 109 rfl) rfl
theorem q1180 : (Jvm.Cond.code ({ cls := "NumberComes", name := "laysPairs", desc := "(II)V" } : Jvm.MethodName) prog_1_method_77_code (7 : Nat) (Option.none : Option Jvm.ClassFile.FieldType)) ∈ lw_all := lw_g (lw_at lw_m5 110 rfl) rfl
theorem q1182 : (Jvm.Cond.instanceMethod ({ cls := "NumberComes", name := "roll", desc := "(I)I" } : Jvm.MethodName)) ∈ lw_all := lw_g (lw_at lw_m5 112 rfl) rfl
theorem q1183 : (Jvm.Cond.selects "NumberComes" ({ cls := "NumberComes", name := "roll", desc := "(I)I" } : Jvm.MethodName) ({ cls := "NumberComes", name := "roll", desc := "(I)I" } : Jvm.MethodName)) ∈ lw_all := lw_g (lw_at lw_m5 113 rfl) rfl
theorem q1184 : (Jvm.Cond.code ({ cls := "NumberComes", name := "roll", desc := "(I)I" } : Jvm.MethodName) prog_1_method_79_code (6 : Nat) (Option.some Jvm.ClassFile.FieldType.int)) ∈ lw_all := lw_g (lw_at lw_m5 114 rfl) rfl
theorem q1185 : (Jvm.Cond.classLink "NumberComes" (369 : Nat) "NumberComes$Entry") ∈ lw_all := lw_g (lw_at lw_m5 115 rfl) rfl
theorem q1186 : (Jvm.Cond.methodLink "NumberComes" (371 : Nat) ({ cls := "NumberComes$Entry", name := "isPerson", desc := "()Z" } : Jvm.MethodName)) ∈ lw_all := lw_g (lw_at lw_m5 116 rfl) rfl
theorem q1190 : (Jvm.Cond.methodLink "NumberComes" (374 : Nat) ({ cls := "NumberComes$Entry", name := "a", desc := "()I" } : Jvm.MethodName)) ∈ lw_all := lw_g (lw_at lw_m5 120 rfl) rfl
theorem q1194 : (Jvm.Cond.methodLink "NumberComes" (377 : Nat) ({ cls := "NumberComes$Entry", name := "b", desc := "()I" } : Jvm.MethodName)) ∈ lw_all := lw_g (lw_at lw_m5 124 rfl) rfl
theorem q1198 : (Jvm.Cond.methodLink "NumberComes" (380 : Nat) ({ cls := "NumberComes", name := "person", desc := "(II)I" } : Jvm.MethodName)) ∈ lw_all := lw_g (lw_at lw_m5 128 rfl) rfl
theorem q1199 : (Jvm.Cond.methodLink "NumberComes" (384 : Nat) ({ cls := "NumberComes", name := "near", desc := "(IIZ)Z" } : Jvm.MethodName)) ∈ lw_all := lw_g (lw_at lw_m5 129 rfl) rfl
theorem q1200 : (Jvm.Cond.methodLink "NumberComes" (387 : Nat) ({ cls := "NumberComes$Entry", name := "number", desc := "()I" } : Jvm.MethodName)) ∈ lw_all := lw_g (lw_at lw_m5 130 rfl) rfl
theorem q1205 : (Jvm.Cond.instanceMethod ({ cls := "NumberComes", name := "image", desc := "()I" } : Jvm.MethodName)) ∈ lw_all := lw_g (lw_at lw_m5 135 rfl) rfl
theorem q1206 : (Jvm.Cond.selects "NumberComes" ({ cls := "NumberComes", name := "image", desc := "()I" } : Jvm.MethodName) ({ cls := "NumberComes", name := "image", desc := "()I" } : Jvm.MethodName)) ∈ lw_all := lw_g (lw_at lw_m5 136 rfl) rfl
theorem q1207 : (Jvm.Cond.code ({ cls := "NumberComes", name := "image", desc := "()I" } : Jvm.MethodName) prog_1_method_80_code (1 : Nat) (Option.some Jvm.ClassFile.FieldType.int)) ∈ lw_all := lw_g (lw_at lw_m5 137 rfl) rfl
theorem q1209 : (Jvm.Cond.instanceMethod ({ cls := "NumberComes", name := "back", desc := "()I" } : Jvm.MethodName)) ∈ lw_all := lw_g (lw_at lw_m5 139 rfl) rfl
theorem q1210 : (Jvm.Cond.selects "NumberComes" ({ cls := "NumberComes", name := "back", desc := "()I" } : Jvm.MethodName) ({ cls := "NumberComes", name := "back", desc := "()I" } : Jvm.MethodName)) ∈ lw_all := lw_g (lw_at lw_m5 140 rfl) rfl
theorem q1211 : (Jvm.Cond.code ({ cls := "NumberComes", name := "back", desc := "()I" } : Jvm.MethodName) prog_1_method_81_code (1 : Nat) (Option.some Jvm.ClassFile.FieldType.int)) ∈ lw_all := lw_g (lw_at lw_m5 141 rfl) rfl
theorem q1213 : (Jvm.Cond.instanceMethod ({ cls := "NumberComes", name := "about", desc := "(I)I" } : Jvm.MethodName)) ∈ lw_all := lw_g (lw_at lw_m5 143 rfl) rfl
theorem q1214 : (Jvm.Cond.selects "NumberComes" ({ cls := "NumberComes", name := "about", desc := "(I)I" } : Jvm.MethodName) ({ cls := "NumberComes", name := "about", desc := "(I)I" } : Jvm.MethodName)) ∈ lw_all := lw_g (lw_at lw_m5 144 rfl) rfl
theorem q1215 : (Jvm.Cond.code ({ cls := "NumberComes", name := "about", desc := "(I)I" } : Jvm.MethodName) prog_1_method_82_code (2 : Nat) (Option.some Jvm.ClassFile.FieldType.int)) ∈ lw_all := lw_g (lw_at lw_m5 145 rfl) rfl
theorem q1216 : (Jvm.Cond.constantLong "NumberComes" (389 : Nat) (8 : Int64)) ∈ lw_all := lw_g (lw_at lw_m5 146 rfl) rfl
theorem q1849 : (Jvm.Cond.castable "NumberComes" "java/lang/Object") ∈ lw_tbl := lw_at lw_m8 59 rfl
theorem in_X0 : ∀ w ∈ wsX00, w ∈ lw_all := lw_in wsX00 [235, 237, 239, 241, 243, 245, 247, 249, 251, 253, 255, 257, 259, 261, 263, 265, 267, 269] (by decide +kernel) (by decide +kernel)
