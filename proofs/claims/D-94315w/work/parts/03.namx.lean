/-! NumberComes$State -/
set_option maxRecDepth 100000
def RX1 : String := "NumberComes$State"
def TX1 : u_T := fun k => match k with
  | 0 => ("NumberComes$State", "n", "[I", true)
  | 1 => ("NumberComes$State", "number", "[I", true)
  | 2 => ("NumberComes$State", "first", "[I", true)
  | 3 => ("NumberComes$State", "near", "[I", true)
  | 4 => ("NumberComes$State", "given", "[I", true)
  | 5 => ("NumberComes$State", "need", "[[I", true)
  | 6 => ("NumberComes$State", "heard", "[[I", true)
  | 7 => ("NumberComes$State", "talk", "[[I", true)
  | 8 => ("NumberComes$State", "hour", "[J", true)
  | _ => ("NumberComes$State", "text", "[LNumberComes$Text;", true)
def tyX1 : Nat → FieldType := fun k => match k with
  | 0 => .array .int
  | 1 => .array .int
  | 2 => .array .int
  | 3 => .array .int
  | 4 => .array .int
  | 5 => .array (.array .int)
  | 6 => .array (.array .int)
  | 7 => .array (.array .int)
  | 8 => .array .long
  | _ => .array (.object "NumberComes$Text")
abbrev wsX10 : List Cond := u_ws RX1 TX1 10
theorem nmX1 : ∀ a, a < 10 → ∀ b, b < 10 → a ≠ b → (TX1 a).2.1 ≠ (TX1 b).2.1 := by decide +kernel
theorem tyX1_ok : ∀ k, k < 10 → parseFieldDescriptor (TX1 k).2.2.1 = some (tyX1 k) := by decide +kernel
abbrev cX1_init : ByteArray := prog_11_method_1_code
def yX1_init : MethodName := ⟨RX1, "<init>", "()V"⟩
def dkwX1_init_4 : List UInt8 := [180, 0, 9, 5, 16, 24, 79, 42, 180, 0, 9, 7, 2, 79, 177]
abbrev dktX1_init_4 : List UInt8 := dkwX1_init_4 ++ []
def dkwX1_init_3 : List UInt8 := [197, 0, 27, 2, 181, 0, 35, 42, 16, 30, 188, 11, 181, 0, 38, 42, 7, 189, 0, 42, 181, 0, 44, 42]
abbrev dktX1_init_3 : List UInt8 := dkwX1_init_3 ++ dktX1_init_4
def dkwX1_init_2 : List UInt8 := [7, 197, 0, 27, 2, 181, 0, 29, 42, 16, 20, 5, 197, 0, 27, 2, 181, 0, 32, 42, 16, 30, 5]
abbrev dktX1_init_2 : List UInt8 := dkwX1_init_2 ++ dktX1_init_3
def dkwX1_init_1 : List UInt8 := [188, 10, 181, 0, 18, 42, 16, 12, 188, 10, 181, 0, 21, 42, 16, 6, 188, 10, 181, 0, 24, 42, 16, 12]
abbrev dktX1_init_1 : List UInt8 := dkwX1_init_1 ++ dktX1_init_2
def dkwX1_init_0 : List UInt8 := [42, 183, 0, 3, 42, 16, 9, 188, 10, 181, 0, 9, 42, 16, 12, 188, 10, 181, 0, 15, 42, 16, 12]
abbrev dktX1_init_0 : List UInt8 := dkwX1_init_0 ++ dktX1_init_1
theorem dksX1_init_0 : cX1_init.data.toList.drop 0 = dktX1_init_0 := by decide +kernel
theorem dksX1_init_1 : cX1_init.data.toList.drop 23 = dktX1_init_1 := dk_seg dksX1_init_0 23 rfl rfl
theorem dksX1_init_2 : cX1_init.data.toList.drop 47 = dktX1_init_2 := dk_seg dksX1_init_1 24 rfl rfl
theorem dksX1_init_3 : cX1_init.data.toList.drop 70 = dktX1_init_3 := dk_seg dksX1_init_2 23 rfl rfl
theorem dksX1_init_4 : cX1_init.data.toList.drop 94 = dktX1_init_4 := dk_seg dksX1_init_3 24 rfl rfl
theorem dX1_init_0 : decode cX1_init 0 = .ok (.aload_n 0, 1) := dk_42 (dk_at dksX1_init_0 0 rfl rfl)
theorem dX1_init_1 : decode cX1_init 1 = .ok (.invokespecial 3, 3) := dk_183 0 3 (dk_at dksX1_init_0 1 rfl rfl)
theorem dX1_init_4 : decode cX1_init 4 = .ok (.aload_n 0, 1) := dk_42 (dk_at dksX1_init_0 4 rfl rfl)
theorem dX1_init_5 : decode cX1_init 5 = .ok (.bipush 9, 2) := dk_16 9 (dk_at dksX1_init_0 5 rfl rfl)
theorem dX1_init_7 : decode cX1_init 7 = .ok (.newarray .int, 2) := dk_188_10 (dk_at dksX1_init_0 7 rfl rfl)
theorem dX1_init_9 : decode cX1_init 9 = .ok (.putfield 9, 3) := dk_181 0 9 (dk_at dksX1_init_0 9 rfl rfl)
theorem dX1_init_12 : decode cX1_init 12 = .ok (.aload_n 0, 1) := dk_42 (dk_at dksX1_init_0 12 rfl rfl)
theorem dX1_init_13 : decode cX1_init 13 = .ok (.bipush 12, 2) := dk_16 12 (dk_at dksX1_init_0 13 rfl rfl)
theorem dX1_init_15 : decode cX1_init 15 = .ok (.newarray .int, 2) := dk_188_10 (dk_at dksX1_init_0 15 rfl rfl)
theorem dX1_init_17 : decode cX1_init 17 = .ok (.putfield 15, 3) := dk_181 0 15 (dk_at dksX1_init_0 17 rfl rfl)
theorem dX1_init_20 : decode cX1_init 20 = .ok (.aload_n 0, 1) := dk_42 (dk_at dksX1_init_0 20 rfl rfl)
theorem dX1_init_21 : decode cX1_init 21 = .ok (.bipush 12, 2) := dk_16 12 (dk_at dksX1_init_0 21 rfl rfl)
theorem dX1_init_23 : decode cX1_init 23 = .ok (.newarray .int, 2) := dk_188_10 (dk_at dksX1_init_1 0 rfl rfl)
theorem dX1_init_25 : decode cX1_init 25 = .ok (.putfield 18, 3) := dk_181 0 18 (dk_at dksX1_init_1 2 rfl rfl)
theorem dX1_init_28 : decode cX1_init 28 = .ok (.aload_n 0, 1) := dk_42 (dk_at dksX1_init_1 5 rfl rfl)
theorem dX1_init_29 : decode cX1_init 29 = .ok (.bipush 12, 2) := dk_16 12 (dk_at dksX1_init_1 6 rfl rfl)
theorem dX1_init_31 : decode cX1_init 31 = .ok (.newarray .int, 2) := dk_188_10 (dk_at dksX1_init_1 8 rfl rfl)
theorem dX1_init_33 : decode cX1_init 33 = .ok (.putfield 21, 3) := dk_181 0 21 (dk_at dksX1_init_1 10 rfl rfl)
theorem dX1_init_36 : decode cX1_init 36 = .ok (.aload_n 0, 1) := dk_42 (dk_at dksX1_init_1 13 rfl rfl)
theorem dX1_init_37 : decode cX1_init 37 = .ok (.bipush 6, 2) := dk_16 6 (dk_at dksX1_init_1 14 rfl rfl)
theorem dX1_init_39 : decode cX1_init 39 = .ok (.newarray .int, 2) := dk_188_10 (dk_at dksX1_init_1 16 rfl rfl)
theorem dX1_init_41 : decode cX1_init 41 = .ok (.putfield 24, 3) := dk_181 0 24 (dk_at dksX1_init_1 18 rfl rfl)
theorem dX1_init_44 : decode cX1_init 44 = .ok (.aload_n 0, 1) := dk_42 (dk_at dksX1_init_1 21 rfl rfl)
theorem dX1_init_45 : decode cX1_init 45 = .ok (.bipush 12, 2) := dk_16 12 (dk_at dksX1_init_1 22 rfl rfl)
theorem dX1_init_47 : decode cX1_init 47 = .ok (.iconst 4, 1) := dk_7 (dk_at dksX1_init_2 0 rfl rfl)
theorem dX1_init_48 : decode cX1_init 48 = .ok (.multianewarray 27 2, 4) := by decide +kernel
theorem dX1_init_52 : decode cX1_init 52 = .ok (.putfield 29, 3) := dk_181 0 29 (dk_at dksX1_init_2 5 rfl rfl)
theorem dX1_init_55 : decode cX1_init 55 = .ok (.aload_n 0, 1) := dk_42 (dk_at dksX1_init_2 8 rfl rfl)
theorem dX1_init_56 : decode cX1_init 56 = .ok (.bipush 20, 2) := dk_16 20 (dk_at dksX1_init_2 9 rfl rfl)
theorem dX1_init_58 : decode cX1_init 58 = .ok (.iconst 2, 1) := dk_5 (dk_at dksX1_init_2 11 rfl rfl)
theorem dX1_init_59 : decode cX1_init 59 = .ok (.multianewarray 27 2, 4) := by decide +kernel
theorem dX1_init_63 : decode cX1_init 63 = .ok (.putfield 32, 3) := dk_181 0 32 (dk_at dksX1_init_2 16 rfl rfl)
theorem dX1_init_66 : decode cX1_init 66 = .ok (.aload_n 0, 1) := dk_42 (dk_at dksX1_init_2 19 rfl rfl)
theorem dX1_init_67 : decode cX1_init 67 = .ok (.bipush 30, 2) := dk_16 30 (dk_at dksX1_init_2 20 rfl rfl)
theorem dX1_init_69 : decode cX1_init 69 = .ok (.iconst 2, 1) := dk_5 (dk_at dksX1_init_2 22 rfl rfl)
theorem dX1_init_70 : decode cX1_init 70 = .ok (.multianewarray 27 2, 4) := by decide +kernel
theorem dX1_init_74 : decode cX1_init 74 = .ok (.putfield 35, 3) := dk_181 0 35 (dk_at dksX1_init_3 4 rfl rfl)
theorem dX1_init_77 : decode cX1_init 77 = .ok (.aload_n 0, 1) := dk_42 (dk_at dksX1_init_3 7 rfl rfl)
theorem dX1_init_78 : decode cX1_init 78 = .ok (.bipush 30, 2) := dk_16 30 (dk_at dksX1_init_3 8 rfl rfl)
theorem dX1_init_80 : decode cX1_init 80 = .ok (.newarray .long, 2) := dk_188_11 (dk_at dksX1_init_3 10 rfl rfl)
theorem dX1_init_82 : decode cX1_init 82 = .ok (.putfield 38, 3) := dk_181 0 38 (dk_at dksX1_init_3 12 rfl rfl)
theorem dX1_init_85 : decode cX1_init 85 = .ok (.aload_n 0, 1) := dk_42 (dk_at dksX1_init_3 15 rfl rfl)
theorem dX1_init_86 : decode cX1_init 86 = .ok (.iconst 4, 1) := dk_7 (dk_at dksX1_init_3 16 rfl rfl)
theorem dX1_init_87 : decode cX1_init 87 = .ok (.anewarray 42, 3) := dk_189 0 42 (dk_at dksX1_init_3 17 rfl rfl)
theorem dX1_init_90 : decode cX1_init 90 = .ok (.putfield 44, 3) := dk_181 0 44 (dk_at dksX1_init_3 20 rfl rfl)
theorem dX1_init_93 : decode cX1_init 93 = .ok (.aload_n 0, 1) := dk_42 (dk_at dksX1_init_3 23 rfl rfl)
theorem dX1_init_94 : decode cX1_init 94 = .ok (.getfield 9, 3) := dk_180 0 9 (dk_at dksX1_init_4 0 rfl rfl)
theorem dX1_init_97 : decode cX1_init 97 = .ok (.iconst 2, 1) := dk_5 (dk_at dksX1_init_4 3 rfl rfl)
theorem dX1_init_98 : decode cX1_init 98 = .ok (.bipush 24, 2) := dk_16 24 (dk_at dksX1_init_4 4 rfl rfl)
theorem dX1_init_100 : decode cX1_init 100 = .ok (.iastore, 1) := dk_79 (dk_at dksX1_init_4 6 rfl rfl)
theorem dX1_init_101 : decode cX1_init 101 = .ok (.aload_n 0, 1) := dk_42 (dk_at dksX1_init_4 7 rfl rfl)
theorem dX1_init_102 : decode cX1_init 102 = .ok (.getfield 9, 3) := dk_180 0 9 (dk_at dksX1_init_4 8 rfl rfl)
theorem dX1_init_105 : decode cX1_init 105 = .ok (.iconst 4, 1) := dk_7 (dk_at dksX1_init_4 11 rfl rfl)
theorem dX1_init_106 : decode cX1_init 106 = .ok (.iconst (-1), 1) := dk_2 (dk_at dksX1_init_4 12 rfl rfl)
theorem dX1_init_107 : decode cX1_init 107 = .ok (.iastore, 1) := dk_79 (dk_at dksX1_init_4 13 rfl rfl)
theorem dX1_init_108 : decode cX1_init 108 = .ok (.return_, 1) := dk_177 (dk_at dksX1_init_4 14 rfl rfl)
abbrev cX1_be : ByteArray := prog_11_method_4_code
def yX1_be : MethodName := ⟨RX1, "be", "(LNumberComes$State;)V"⟩
def dkwX1_be_5 : List UInt8 := [7, 184, 0, 48, 177]
abbrev dktX1_be_5 : List UInt8 := dkwX1_be_5 ++ []
def dkwX1_be_4 : List UInt8 := [180, 0, 38, 3, 42, 180, 0, 38, 3, 16, 30, 184, 0, 48, 43, 180, 0, 44, 3, 42, 180, 0, 44, 3]
abbrev dktX1_be_4 : List UInt8 := dkwX1_be_4 ++ dktX1_be_5
def dkwX1_be_3 : List UInt8 := [180, 0, 32, 42, 180, 0, 32, 184, 0, 58, 43, 180, 0, 35, 42, 180, 0, 35, 184, 0, 58, 43]
abbrev dktX1_be_3 : List UInt8 := dkwX1_be_3 ++ dktX1_be_4
def dkwX1_be_2 : List UInt8 := [180, 0, 24, 42, 180, 0, 24, 184, 0, 54, 43, 180, 0, 29, 42, 180, 0, 29, 184, 0, 58, 43]
abbrev dktX1_be_2 : List UInt8 := dkwX1_be_2 ++ dktX1_be_3
def dkwX1_be_1 : List UInt8 := [180, 0, 18, 42, 180, 0, 18, 184, 0, 54, 43, 180, 0, 21, 42, 180, 0, 21, 184, 0, 54, 43]
abbrev dktX1_be_1 : List UInt8 := dkwX1_be_1 ++ dktX1_be_2
def dkwX1_be_0 : List UInt8 := [43, 180, 0, 9, 42, 180, 0, 9, 184, 0, 54, 43, 180, 0, 15, 42, 180, 0, 15, 184, 0, 54, 43]
abbrev dktX1_be_0 : List UInt8 := dkwX1_be_0 ++ dktX1_be_1
theorem dksX1_be_0 : cX1_be.data.toList.drop 0 = dktX1_be_0 := by decide +kernel
theorem dksX1_be_1 : cX1_be.data.toList.drop 23 = dktX1_be_1 := dk_seg dksX1_be_0 23 rfl rfl
theorem dksX1_be_2 : cX1_be.data.toList.drop 45 = dktX1_be_2 := dk_seg dksX1_be_1 22 rfl rfl
theorem dksX1_be_3 : cX1_be.data.toList.drop 67 = dktX1_be_3 := dk_seg dksX1_be_2 22 rfl rfl
theorem dksX1_be_4 : cX1_be.data.toList.drop 89 = dktX1_be_4 := dk_seg dksX1_be_3 22 rfl rfl
theorem dksX1_be_5 : cX1_be.data.toList.drop 113 = dktX1_be_5 := dk_seg dksX1_be_4 24 rfl rfl
theorem dX1_be_0 : decode cX1_be 0 = .ok (.aload_n 1, 1) := dk_43 (dk_at dksX1_be_0 0 rfl rfl)
theorem dX1_be_1 : decode cX1_be 1 = .ok (.getfield 9, 3) := dk_180 0 9 (dk_at dksX1_be_0 1 rfl rfl)
theorem dX1_be_4 : decode cX1_be 4 = .ok (.aload_n 0, 1) := dk_42 (dk_at dksX1_be_0 4 rfl rfl)
theorem dX1_be_5 : decode cX1_be 5 = .ok (.getfield 9, 3) := dk_180 0 9 (dk_at dksX1_be_0 5 rfl rfl)
theorem dX1_be_8 : decode cX1_be 8 = .ok (.invokestatic 54, 3) := dk_184 0 54 (dk_at dksX1_be_0 8 rfl rfl)
theorem dX1_be_11 : decode cX1_be 11 = .ok (.aload_n 1, 1) := dk_43 (dk_at dksX1_be_0 11 rfl rfl)
theorem dX1_be_12 : decode cX1_be 12 = .ok (.getfield 15, 3) := dk_180 0 15 (dk_at dksX1_be_0 12 rfl rfl)
theorem dX1_be_15 : decode cX1_be 15 = .ok (.aload_n 0, 1) := dk_42 (dk_at dksX1_be_0 15 rfl rfl)
theorem dX1_be_16 : decode cX1_be 16 = .ok (.getfield 15, 3) := dk_180 0 15 (dk_at dksX1_be_0 16 rfl rfl)
theorem dX1_be_19 : decode cX1_be 19 = .ok (.invokestatic 54, 3) := dk_184 0 54 (dk_at dksX1_be_0 19 rfl rfl)
theorem dX1_be_22 : decode cX1_be 22 = .ok (.aload_n 1, 1) := dk_43 (dk_at dksX1_be_0 22 rfl rfl)
theorem dX1_be_23 : decode cX1_be 23 = .ok (.getfield 18, 3) := dk_180 0 18 (dk_at dksX1_be_1 0 rfl rfl)
theorem dX1_be_26 : decode cX1_be 26 = .ok (.aload_n 0, 1) := dk_42 (dk_at dksX1_be_1 3 rfl rfl)
theorem dX1_be_27 : decode cX1_be 27 = .ok (.getfield 18, 3) := dk_180 0 18 (dk_at dksX1_be_1 4 rfl rfl)
theorem dX1_be_30 : decode cX1_be 30 = .ok (.invokestatic 54, 3) := dk_184 0 54 (dk_at dksX1_be_1 7 rfl rfl)
theorem dX1_be_33 : decode cX1_be 33 = .ok (.aload_n 1, 1) := dk_43 (dk_at dksX1_be_1 10 rfl rfl)
theorem dX1_be_34 : decode cX1_be 34 = .ok (.getfield 21, 3) := dk_180 0 21 (dk_at dksX1_be_1 11 rfl rfl)
theorem dX1_be_37 : decode cX1_be 37 = .ok (.aload_n 0, 1) := dk_42 (dk_at dksX1_be_1 14 rfl rfl)
theorem dX1_be_38 : decode cX1_be 38 = .ok (.getfield 21, 3) := dk_180 0 21 (dk_at dksX1_be_1 15 rfl rfl)
theorem dX1_be_41 : decode cX1_be 41 = .ok (.invokestatic 54, 3) := dk_184 0 54 (dk_at dksX1_be_1 18 rfl rfl)
theorem dX1_be_44 : decode cX1_be 44 = .ok (.aload_n 1, 1) := dk_43 (dk_at dksX1_be_1 21 rfl rfl)
theorem dX1_be_45 : decode cX1_be 45 = .ok (.getfield 24, 3) := dk_180 0 24 (dk_at dksX1_be_2 0 rfl rfl)
theorem dX1_be_48 : decode cX1_be 48 = .ok (.aload_n 0, 1) := dk_42 (dk_at dksX1_be_2 3 rfl rfl)
theorem dX1_be_49 : decode cX1_be 49 = .ok (.getfield 24, 3) := dk_180 0 24 (dk_at dksX1_be_2 4 rfl rfl)
theorem dX1_be_52 : decode cX1_be 52 = .ok (.invokestatic 54, 3) := dk_184 0 54 (dk_at dksX1_be_2 7 rfl rfl)
theorem dX1_be_55 : decode cX1_be 55 = .ok (.aload_n 1, 1) := dk_43 (dk_at dksX1_be_2 10 rfl rfl)
theorem dX1_be_56 : decode cX1_be 56 = .ok (.getfield 29, 3) := dk_180 0 29 (dk_at dksX1_be_2 11 rfl rfl)
theorem dX1_be_59 : decode cX1_be 59 = .ok (.aload_n 0, 1) := dk_42 (dk_at dksX1_be_2 14 rfl rfl)
theorem dX1_be_60 : decode cX1_be 60 = .ok (.getfield 29, 3) := dk_180 0 29 (dk_at dksX1_be_2 15 rfl rfl)
theorem dX1_be_63 : decode cX1_be 63 = .ok (.invokestatic 58, 3) := dk_184 0 58 (dk_at dksX1_be_2 18 rfl rfl)
theorem dX1_be_66 : decode cX1_be 66 = .ok (.aload_n 1, 1) := dk_43 (dk_at dksX1_be_2 21 rfl rfl)
theorem dX1_be_67 : decode cX1_be 67 = .ok (.getfield 32, 3) := dk_180 0 32 (dk_at dksX1_be_3 0 rfl rfl)
theorem dX1_be_70 : decode cX1_be 70 = .ok (.aload_n 0, 1) := dk_42 (dk_at dksX1_be_3 3 rfl rfl)
theorem dX1_be_71 : decode cX1_be 71 = .ok (.getfield 32, 3) := dk_180 0 32 (dk_at dksX1_be_3 4 rfl rfl)
theorem dX1_be_74 : decode cX1_be 74 = .ok (.invokestatic 58, 3) := dk_184 0 58 (dk_at dksX1_be_3 7 rfl rfl)
theorem dX1_be_77 : decode cX1_be 77 = .ok (.aload_n 1, 1) := dk_43 (dk_at dksX1_be_3 10 rfl rfl)
theorem dX1_be_78 : decode cX1_be 78 = .ok (.getfield 35, 3) := dk_180 0 35 (dk_at dksX1_be_3 11 rfl rfl)
theorem dX1_be_81 : decode cX1_be 81 = .ok (.aload_n 0, 1) := dk_42 (dk_at dksX1_be_3 14 rfl rfl)
theorem dX1_be_82 : decode cX1_be 82 = .ok (.getfield 35, 3) := dk_180 0 35 (dk_at dksX1_be_3 15 rfl rfl)
theorem dX1_be_85 : decode cX1_be 85 = .ok (.invokestatic 58, 3) := dk_184 0 58 (dk_at dksX1_be_3 18 rfl rfl)
theorem dX1_be_88 : decode cX1_be 88 = .ok (.aload_n 1, 1) := dk_43 (dk_at dksX1_be_3 21 rfl rfl)
theorem dX1_be_89 : decode cX1_be 89 = .ok (.getfield 38, 3) := dk_180 0 38 (dk_at dksX1_be_4 0 rfl rfl)
theorem dX1_be_92 : decode cX1_be 92 = .ok (.iconst 0, 1) := dk_3 (dk_at dksX1_be_4 3 rfl rfl)
theorem dX1_be_93 : decode cX1_be 93 = .ok (.aload_n 0, 1) := dk_42 (dk_at dksX1_be_4 4 rfl rfl)
theorem dX1_be_94 : decode cX1_be 94 = .ok (.getfield 38, 3) := dk_180 0 38 (dk_at dksX1_be_4 5 rfl rfl)
theorem dX1_be_97 : decode cX1_be 97 = .ok (.iconst 0, 1) := dk_3 (dk_at dksX1_be_4 8 rfl rfl)
theorem dX1_be_98 : decode cX1_be 98 = .ok (.bipush 30, 2) := dk_16 30 (dk_at dksX1_be_4 9 rfl rfl)
theorem dX1_be_100 : decode cX1_be 100 = .ok (.invokestatic 48, 3) := dk_184 0 48 (dk_at dksX1_be_4 11 rfl rfl)
theorem dX1_be_103 : decode cX1_be 103 = .ok (.aload_n 1, 1) := dk_43 (dk_at dksX1_be_4 14 rfl rfl)
theorem dX1_be_104 : decode cX1_be 104 = .ok (.getfield 44, 3) := dk_180 0 44 (dk_at dksX1_be_4 15 rfl rfl)
theorem dX1_be_107 : decode cX1_be 107 = .ok (.iconst 0, 1) := dk_3 (dk_at dksX1_be_4 18 rfl rfl)
theorem dX1_be_108 : decode cX1_be 108 = .ok (.aload_n 0, 1) := dk_42 (dk_at dksX1_be_4 19 rfl rfl)
theorem dX1_be_109 : decode cX1_be 109 = .ok (.getfield 44, 3) := dk_180 0 44 (dk_at dksX1_be_4 20 rfl rfl)
theorem dX1_be_112 : decode cX1_be 112 = .ok (.iconst 0, 1) := dk_3 (dk_at dksX1_be_4 23 rfl rfl)
theorem dX1_be_113 : decode cX1_be 113 = .ok (.iconst 4, 1) := dk_7 (dk_at dksX1_be_5 0 rfl rfl)
theorem dX1_be_114 : decode cX1_be 114 = .ok (.invokestatic 48, 3) := dk_184 0 48 (dk_at dksX1_be_5 1 rfl rfl)
theorem dX1_be_117 : decode cX1_be 117 = .ok (.return_, 1) := dk_177 (dk_at dksX1_be_5 4 rfl rfl)
abbrev cX1_copy : ByteArray := prog_11_method_2_code
def yX1_copy : MethodName := ⟨RX1, "copy", "([I[I)V"⟩
def dkwX1_copy_0 : List UInt8 := [42, 3, 43, 3, 42, 190, 184, 0, 48, 177]
abbrev dktX1_copy_0 : List UInt8 := dkwX1_copy_0 ++ []
theorem dksX1_copy_0 : cX1_copy.data.toList.drop 0 = dktX1_copy_0 := by decide +kernel
theorem dX1_copy_0 : decode cX1_copy 0 = .ok (.aload_n 0, 1) := dk_42 (dk_at dksX1_copy_0 0 rfl rfl)
theorem dX1_copy_1 : decode cX1_copy 1 = .ok (.iconst 0, 1) := dk_3 (dk_at dksX1_copy_0 1 rfl rfl)
theorem dX1_copy_2 : decode cX1_copy 2 = .ok (.aload_n 1, 1) := dk_43 (dk_at dksX1_copy_0 2 rfl rfl)
theorem dX1_copy_3 : decode cX1_copy 3 = .ok (.iconst 0, 1) := dk_3 (dk_at dksX1_copy_0 3 rfl rfl)
theorem dX1_copy_4 : decode cX1_copy 4 = .ok (.aload_n 0, 1) := dk_42 (dk_at dksX1_copy_0 4 rfl rfl)
theorem dX1_copy_5 : decode cX1_copy 5 = .ok (.arraylength, 1) := dk_190 (dk_at dksX1_copy_0 5 rfl rfl)
theorem dX1_copy_6 : decode cX1_copy 6 = .ok (.invokestatic 48, 3) := dk_184 0 48 (dk_at dksX1_copy_0 6 rfl rfl)
theorem dX1_copy_9 : decode cX1_copy 9 = .ok (.return_, 1) := dk_177 (dk_at dksX1_copy_0 9 rfl rfl)
abbrev cX1_copy_2 : ByteArray := prog_11_method_3_code
def yX1_copy_2 : MethodName := ⟨RX1, "copy", "([[I[[I)V"⟩
def dkwX1_copy_2_0 : List UInt8 := [3, 61, 28, 42, 190, 162, 0, 18, 42, 28, 50, 43, 28, 50, 184, 0, 54, 132, 2, 1, 167, 255, 238, 177]
abbrev dktX1_copy_2_0 : List UInt8 := dkwX1_copy_2_0 ++ []
theorem dksX1_copy_2_0 : cX1_copy_2.data.toList.drop 0 = dktX1_copy_2_0 := by decide +kernel
theorem dX1_copy_2_0 : decode cX1_copy_2 0 = .ok (.iconst 0, 1) := dk_3 (dk_at dksX1_copy_2_0 0 rfl rfl)
theorem dX1_copy_2_1 : decode cX1_copy_2 1 = .ok (.istore_n 2, 1) := dk_61 (dk_at dksX1_copy_2_0 1 rfl rfl)
theorem dX1_copy_2_2 : decode cX1_copy_2 2 = .ok (.iload_n 2, 1) := dk_28 (dk_at dksX1_copy_2_0 2 rfl rfl)
theorem dX1_copy_2_3 : decode cX1_copy_2 3 = .ok (.aload_n 0, 1) := dk_42 (dk_at dksX1_copy_2_0 3 rfl rfl)
theorem dX1_copy_2_4 : decode cX1_copy_2 4 = .ok (.arraylength, 1) := dk_190 (dk_at dksX1_copy_2_0 4 rfl rfl)
theorem dX1_copy_2_5 : decode cX1_copy_2 5 = .ok (.if_icmp .ge 18, 3) := dk_162 0 18 (dk_at dksX1_copy_2_0 5 rfl rfl)
theorem dX1_copy_2_8 : decode cX1_copy_2 8 = .ok (.aload_n 0, 1) := dk_42 (dk_at dksX1_copy_2_0 8 rfl rfl)
theorem dX1_copy_2_9 : decode cX1_copy_2 9 = .ok (.iload_n 2, 1) := dk_28 (dk_at dksX1_copy_2_0 9 rfl rfl)
theorem dX1_copy_2_10 : decode cX1_copy_2 10 = .ok (.aaload, 1) := dk_50 (dk_at dksX1_copy_2_0 10 rfl rfl)
theorem dX1_copy_2_11 : decode cX1_copy_2 11 = .ok (.aload_n 1, 1) := dk_43 (dk_at dksX1_copy_2_0 11 rfl rfl)
theorem dX1_copy_2_12 : decode cX1_copy_2 12 = .ok (.iload_n 2, 1) := dk_28 (dk_at dksX1_copy_2_0 12 rfl rfl)
theorem dX1_copy_2_13 : decode cX1_copy_2 13 = .ok (.aaload, 1) := dk_50 (dk_at dksX1_copy_2_0 13 rfl rfl)
theorem dX1_copy_2_14 : decode cX1_copy_2 14 = .ok (.invokestatic 54, 3) := dk_184 0 54 (dk_at dksX1_copy_2_0 14 rfl rfl)
theorem dX1_copy_2_17 : decode cX1_copy_2 17 = .ok (.iinc 2 1, 3) := dk_132 2 1 (dk_at dksX1_copy_2_0 17 rfl rfl)
theorem dX1_copy_2_20 : decode cX1_copy_2 20 = .ok (.goto (-18), 3) := dk_167 255 238 (dk_at dksX1_copy_2_0 20 rfl rfl)
theorem dX1_copy_2_23 : decode cX1_copy_2 23 = .ok (.return_, 1) := dk_177 (dk_at dksX1_copy_2_0 23 rfl rfl)
theorem q112 : (Jvm.Cond.initialized "NumberComes$State") ∈ lw_all := lw_g (lw_at lw_m1 2 rfl) rfl
theorem q152 : (Jvm.Cond.instantiable "NumberComes$State" (10 : Nat)) ∈ lw_all := lw_g (lw_at lw_m1 42 rfl) rfl
theorem q154 : (Jvm.Cond.instanceMethod ({ cls := "NumberComes$State", name := "<init>", desc := "()V" } : Jvm.MethodName)) ∈ lw_all := lw_g (lw_at lw_m1 44 rfl) rfl
theorem q155 : (Jvm.Cond.code ({ cls := "NumberComes$State", name := "<init>", desc := "()V" } : Jvm.MethodName) prog_11_method_1_code (1 : Nat) (Option.none : Option Jvm.ClassFile.FieldType)) ∈ lw_all := lw_g (lw_at lw_m1 45 rfl) rfl
theorem q156 : (Jvm.Cond.methodLink "NumberComes$State" (3 : Nat) ({ cls := "java/lang/Object", name := "<init>", desc := "()V" } : Jvm.MethodName)) ∈ lw_all := lw_g (lw_at lw_m1 46 rfl) rfl
theorem q157 : (Jvm.Cond.classLink "NumberComes$State" (27 : Nat) "[[I") ∈ lw_all := lw_g (lw_at lw_m1 47 rfl) rfl
theorem q159 : (Jvm.Cond.classLink "NumberComes$State" (42 : Nat) "NumberComes$Text") ∈ lw_all := lw_g (lw_at lw_m1 49 rfl) rfl
theorem q161 : (Jvm.Cond.fieldLink "NumberComes$State" (9 : Nat) "NumberComes$State" "n" "[I") ∈ lw_all := lw_g (lw_at lw_m1 51 rfl) rfl
theorem q163 : (Jvm.Cond.fieldLink "NumberComes$State" (15 : Nat) "NumberComes$State" "number" "[I") ∈ lw_all := lw_g (lw_at lw_m1 53 rfl) rfl
theorem q165 : (Jvm.Cond.fieldLink "NumberComes$State" (18 : Nat) "NumberComes$State" "first" "[I") ∈ lw_all := lw_g (lw_at lw_m1 55 rfl) rfl
theorem q167 : (Jvm.Cond.fieldLink "NumberComes$State" (21 : Nat) "NumberComes$State" "near" "[I") ∈ lw_all := lw_g (lw_at lw_m1 57 rfl) rfl
theorem q169 : (Jvm.Cond.fieldLink "NumberComes$State" (24 : Nat) "NumberComes$State" "given" "[I") ∈ lw_all := lw_g (lw_at lw_m1 59 rfl) rfl
theorem q171 : (Jvm.Cond.fieldLink "NumberComes$State" (29 : Nat) "NumberComes$State" "need" "[[I") ∈ lw_all := lw_g (lw_at lw_m1 61 rfl) rfl
theorem q173 : (Jvm.Cond.fieldLink "NumberComes$State" (32 : Nat) "NumberComes$State" "heard" "[[I") ∈ lw_all := lw_g (lw_at lw_m1 63 rfl) rfl
theorem q175 : (Jvm.Cond.fieldLink "NumberComes$State" (35 : Nat) "NumberComes$State" "talk" "[[I") ∈ lw_all := lw_g (lw_at lw_m1 65 rfl) rfl
theorem q177 : (Jvm.Cond.fieldLink "NumberComes$State" (38 : Nat) "NumberComes$State" "hour" "[J") ∈ lw_all := lw_g (lw_at lw_m1 67 rfl) rfl
theorem q179 : (Jvm.Cond.fieldLink "NumberComes$State" (44 : Nat) "NumberComes$State" "text" "[LNumberComes$Text;") ∈ lw_all := lw_g (lw_at lw_m1 69 rfl) rfl
theorem q181 : (Jvm.Cond.laysFinal "NumberComes$State" "NumberComes$State" "n" "[I") ∈ lw_all := lw_g (lw_at lw_m1 71 rfl) rfl
theorem q182 : (Jvm.Cond.soleField "NumberComes$State" "n") ∈ lw_all := lw_g (lw_at lw_m1 72 rfl) rfl
theorem q183 : (Jvm.Cond.laysFinal "NumberComes$State" "NumberComes$State" "number" "[I") ∈ lw_all := lw_g (lw_at lw_m1 73 rfl) rfl
theorem q184 : (Jvm.Cond.soleField "NumberComes$State" "number") ∈ lw_all := lw_g (lw_at lw_m1 74 rfl) rfl
theorem q185 : (Jvm.Cond.laysFinal "NumberComes$State" "NumberComes$State" "first" "[I") ∈ lw_all := lw_g (lw_at lw_m1 75 rfl) rfl
theorem q186 : (Jvm.Cond.soleField "NumberComes$State" "first") ∈ lw_all := lw_g (lw_at lw_m1 76 rfl) rfl
theorem q187 : (Jvm.Cond.laysFinal "NumberComes$State" "NumberComes$State" "near" "[I") ∈ lw_all := lw_g (lw_at lw_m1 77 rfl) rfl
theorem q188 : (Jvm.Cond.soleField "NumberComes$State" "near") ∈ lw_all := lw_g (lw_at lw_m1 78 rfl) rfl
theorem q189 : (Jvm.Cond.laysFinal "NumberComes$State" "NumberComes$State" "given" "[I") ∈ lw_all := lw_g (lw_at lw_m1 79 rfl) rfl
theorem q190 : (Jvm.Cond.soleField "NumberComes$State" "given") ∈ lw_all := lw_g (lw_at lw_m1 80 rfl) rfl
theorem q191 : (Jvm.Cond.laysFinal "NumberComes$State" "NumberComes$State" "need" "[[I") ∈ lw_all := lw_g (lw_at lw_m1 81 rfl) rfl
theorem q192 : (Jvm.Cond.soleField "NumberComes$State" "need") ∈ lw_all := lw_g (lw_at lw_m1 82 rfl) rfl
theorem q193 : (Jvm.Cond.laysFinal "NumberComes$State" "NumberComes$State" "heard" "[[I") ∈ lw_all := lw_g (lw_at lw_m1 83 rfl) rfl
theorem q194 : (Jvm.Cond.soleField "NumberComes$State" "heard") ∈ lw_all := lw_g (lw_at lw_m1 84 rfl) rfl
theorem q195 : (Jvm.Cond.laysFinal "NumberComes$State" "NumberComes$State" "talk" "[[I") ∈ lw_all := lw_g (lw_at lw_m1 85 rfl) rfl
theorem q196 : (Jvm.Cond.soleField "NumberComes$State" "talk") ∈ lw_all := lw_g (lw_at lw_m1 86 rfl) rfl
theorem q197 : (Jvm.Cond.laysFinal "NumberComes$State" "NumberComes$State" "hour" "[J") ∈ lw_all := lw_g (lw_at lw_m1 87 rfl) rfl
theorem q198 : (Jvm.Cond.soleField "NumberComes$State" "hour") ∈ lw_all := lw_g (lw_at lw_m1 88 rfl) rfl
theorem q199 : (Jvm.Cond.laysFinal "NumberComes$State" "NumberComes$State" "text" "[LNumberComes$Text;") ∈ lw_all := lw_g (lw_at lw_m1 89 rfl) rfl
theorem q200 : (Jvm.Cond.soleField "NumberComes$State" "text") ∈ lw_all := lw_g (lw_at lw_m1 90 rfl) rfl
theorem q201 : (Jvm.Cond.superclass "NumberComes$State" "java/lang/Object") ∈ lw_all := lw_g (lw_at lw_m1 91 rfl) rfl
theorem q205 : (Jvm.Cond.instanceMethod ({ cls := "NumberComes$State", name := "be", desc := "(LNumberComes$State;)V" } : Jvm.MethodName)) ∈ lw_all := lw_g (lw_at lw_m1 95 rfl) rfl
theorem q206 : (Jvm.Cond.selects "NumberComes$State" ({ cls := "NumberComes$State", name := "be", desc := "(LNumberComes$State;)V" } : Jvm.MethodName) ({ cls := "NumberComes$State", name := "be", desc := "(LNumberComes$State;)V" } : Jvm.MethodName)) ∈ lw_all := lw_g (lw_at lw_m1 96 rfl) rfl
theorem q207 : (Jvm.Cond.code ({ cls := "NumberComes$State", name := "be", desc := "(LNumberComes$State;)V" } : Jvm.MethodName) prog_11_method_4_code (2 : Nat) (Option.none : Option Jvm.ClassFile.FieldType)) ∈ lw_all := lw_g (lw_at lw_m1 97 rfl) rfl
theorem q208 : (Jvm.Cond.methodLink "NumberComes$State" (54 : Nat) ({ cls := "NumberComes$State", name := "copy", desc := "([I[I)V" } : Jvm.MethodName)) ∈ lw_all := lw_g (lw_at lw_m1 98 rfl) rfl
theorem q209 : (Jvm.Cond.static ({ cls := "NumberComes$State", name := "copy", desc := "([I[I)V" } : Jvm.MethodName)) ∈ lw_all := lw_g (lw_at lw_m1 99 rfl) rfl
theorem q210 : (Jvm.Cond.code ({ cls := "NumberComes$State", name := "copy", desc := "([I[I)V" } : Jvm.MethodName) prog_11_method_2_code (2 : Nat) (Option.none : Option Jvm.ClassFile.FieldType)) ∈ lw_all := lw_g (lw_at lw_m1 100 rfl) rfl
theorem q211 : (Jvm.Cond.methodLink "NumberComes$State" (48 : Nat) ({ cls := "java/lang/System", name := "arraycopy", desc := "(Ljava/lang/Object;ILjava/lang/Object;II)V" } : Jvm.MethodName)) ∈ lw_all := lw_g (lw_at lw_m1 101 rfl) rfl
theorem q214 : (Jvm.Cond.methodLink "NumberComes$State" (58 : Nat) ({ cls := "NumberComes$State", name := "copy", desc := "([[I[[I)V" } : Jvm.MethodName)) ∈ lw_all := lw_g (lw_at lw_m1 104 rfl) rfl
theorem q215 : (Jvm.Cond.static ({ cls := "NumberComes$State", name := "copy", desc := "([[I[[I)V" } : Jvm.MethodName)) ∈ lw_all := lw_g (lw_at lw_m1 105 rfl) rfl
theorem q216 : (Jvm.Cond.code ({ cls := "NumberComes$State", name := "copy", desc := "([[I[[I)V" } : Jvm.MethodName) prog_11_method_3_code (3 : Nat) (Option.none : Option Jvm.ClassFile.FieldType)) ∈ lw_all := lw_g (lw_at lw_m1 106 rfl) rfl
theorem q721 : (Jvm.Cond.selects "NumberComes$State" ({ cls := "java/lang/Object", name := "getClass", desc := "()Ljava/lang/Class;" } : Jvm.MethodName) ({ cls := "java/lang/Object", name := "getClass", desc := "()Ljava/lang/Class;" } : Jvm.MethodName)) ∈ lw_all := lw_g (lw_at lw_m3 131 rfl) rfl
theorem q1850 : (Jvm.Cond.castable "NumberComes$State" "java/lang/Object") ∈ lw_tbl := lw_at lw_m8 60 rfl
theorem in_X1 : ∀ w ∈ wsX10, w ∈ lw_all := lw_in wsX10 [181, 183, 185, 187, 189, 191, 193, 195, 197, 199] (by decide +kernel) (by decide +kernel)
/-! NumberComes$Tokens -/
set_option maxRecDepth 100000
def RX3 : String := "NumberComes$Tokens"
def TX3 : u_T := fun k => match k with
  | 0 => ("NumberComes$Tokens", "text", "[B", true)
  | 1 => ("NumberComes$Tokens", "size", "I", true)
  | 2 => ("NumberComes$Tokens", "at", "I", false)
  | 3 => ("NumberComes$Tokens", "token", "I", false)
  | 4 => ("NumberComes$Tokens", "sort", "I", false)
  | 5 => ("NumberComes$Tokens", "number", "I", false)
  | 6 => ("NumberComes$Tokens", "open", "I", false)
  | _ => ("NumberComes$Tokens", "kind", "I", false)
def tyX3 : Nat → FieldType := fun k => match k with
  | 0 => .array .byte
  | 1 => .int
  | 2 => .int
  | 3 => .int
  | 4 => .int
  | 5 => .int
  | 6 => .int
  | _ => .int
abbrev wsX30 : List Cond := u_ws RX3 TX3 8
theorem nmX3 : ∀ a, a < 8 → ∀ b, b < 8 → a ≠ b → (TX3 a).2.1 ≠ (TX3 b).2.1 := by decide +kernel
theorem tyX3_ok : ∀ k, k < 8 → parseFieldDescriptor (TX3 k).2.2.1 = some (tyX3 k) := by decide +kernel
abbrev cX3_init : ByteArray := prog_14_method_1_code
def yX3_init : MethodName := ⟨RX3, "<init>", "([BI)V"⟩
def dkwX3_init_0 : List UInt8 := [42, 183, 0, 3, 42, 43, 181, 0, 9, 42, 28, 181, 0, 15, 177]
abbrev dktX3_init_0 : List UInt8 := dkwX3_init_0 ++ []
theorem dksX3_init_0 : cX3_init.data.toList.drop 0 = dktX3_init_0 := by decide +kernel
theorem dX3_init_0 : decode cX3_init 0 = .ok (.aload_n 0, 1) := dk_42 (dk_at dksX3_init_0 0 rfl rfl)
theorem dX3_init_1 : decode cX3_init 1 = .ok (.invokespecial 3, 3) := dk_183 0 3 (dk_at dksX3_init_0 1 rfl rfl)
theorem dX3_init_4 : decode cX3_init 4 = .ok (.aload_n 0, 1) := dk_42 (dk_at dksX3_init_0 4 rfl rfl)
theorem dX3_init_5 : decode cX3_init 5 = .ok (.aload_n 1, 1) := dk_43 (dk_at dksX3_init_0 5 rfl rfl)
theorem dX3_init_6 : decode cX3_init 6 = .ok (.putfield 9, 3) := dk_181 0 9 (dk_at dksX3_init_0 6 rfl rfl)
theorem dX3_init_9 : decode cX3_init 9 = .ok (.aload_n 0, 1) := dk_42 (dk_at dksX3_init_0 9 rfl rfl)
theorem dX3_init_10 : decode cX3_init 10 = .ok (.iload_n 2, 1) := dk_28 (dk_at dksX3_init_0 10 rfl rfl)
theorem dX3_init_11 : decode cX3_init 11 = .ok (.putfield 15, 3) := dk_181 0 15 (dk_at dksX3_init_0 11 rfl rfl)
theorem dX3_init_14 : decode cX3_init 14 = .ok (.return_, 1) := dk_177 (dk_at dksX3_init_0 14 rfl rfl)
abbrev cX3_read : ByteArray := prog_14_method_10_code
def yX3_read : MethodName := ⟨RX3, "read", "()LNumberComes$Text;"⟩
def dkwX3_read_5 : List UInt8 := [181, 0, 90, 167, 255, 148, 43, 176]
abbrev dktX3_read_5 : List UInt8 := dkwX3_read_5 ++ []
def dkwX3_read_4 : List UInt8 := [191, 42, 182, 0, 74, 42, 43, 182, 0, 93, 42, 16, 59, 182, 0, 97, 43, 89, 180, 0, 90, 4, 96]
abbrev dktX3_read_4 : List UInt8 := dkwX3_read_4 ++ dktX3_read_5
def dkwX3_read_3 : List UInt8 := [198, 0, 9, 42, 7, 182, 0, 70, 191, 43, 180, 0, 90, 16, 24, 160, 0, 10, 42, 16, 6, 182, 0, 70]
abbrev dktX3_read_3 : List UInt8 := dkwX3_read_3 ++ dktX3_read_4
def dkwX3_read_2 : List UInt8 := [191, 42, 42, 180, 0, 25, 181, 0, 83, 42, 180, 0, 83, 17, 0, 201, 160, 0, 16, 43, 180, 0, 86]
abbrev dktX3_read_2 : List UInt8 := dkwX3_read_2 ++ dktX3_read_3
def dkwX3_read_1 : List UInt8 := [180, 0, 25, 17, 0, 200, 161, 0, 13, 42, 180, 0, 25, 17, 0, 203, 164, 0, 9, 42, 4, 182, 0, 70]
abbrev dktX3_read_1 : List UInt8 := dkwX3_read_1 ++ dktX3_read_2
def dkwX3_read_0 : List UInt8 := [187, 0, 80, 89, 183, 0, 82, 76, 42, 182, 0, 74, 42, 180, 0, 25, 17, 1, 45, 159, 0, 104, 42]
abbrev dktX3_read_0 : List UInt8 := dkwX3_read_0 ++ dktX3_read_1
theorem dksX3_read_0 : cX3_read.data.toList.drop 0 = dktX3_read_0 := by decide +kernel
theorem dksX3_read_1 : cX3_read.data.toList.drop 23 = dktX3_read_1 := dk_seg dksX3_read_0 23 rfl rfl
theorem dksX3_read_2 : cX3_read.data.toList.drop 47 = dktX3_read_2 := dk_seg dksX3_read_1 24 rfl rfl
theorem dksX3_read_3 : cX3_read.data.toList.drop 70 = dktX3_read_3 := dk_seg dksX3_read_2 23 rfl rfl
theorem dksX3_read_4 : cX3_read.data.toList.drop 94 = dktX3_read_4 := dk_seg dksX3_read_3 24 rfl rfl
theorem dksX3_read_5 : cX3_read.data.toList.drop 117 = dktX3_read_5 := dk_seg dksX3_read_4 23 rfl rfl
theorem dX3_read_0 : decode cX3_read 0 = .ok (.new 80, 3) := dk_187 0 80 (dk_at dksX3_read_0 0 rfl rfl)
theorem dX3_read_3 : decode cX3_read 3 = .ok (.dup, 1) := dk_89 (dk_at dksX3_read_0 3 rfl rfl)
theorem dX3_read_4 : decode cX3_read 4 = .ok (.invokespecial 82, 3) := dk_183 0 82 (dk_at dksX3_read_0 4 rfl rfl)
theorem dX3_read_7 : decode cX3_read 7 = .ok (.astore_n 1, 1) := dk_76 (dk_at dksX3_read_0 7 rfl rfl)
theorem dX3_read_8 : decode cX3_read 8 = .ok (.aload_n 0, 1) := dk_42 (dk_at dksX3_read_0 8 rfl rfl)
theorem dX3_read_9 : decode cX3_read 9 = .ok (.invokevirtual 74, 3) := dk_182 0 74 (dk_at dksX3_read_0 9 rfl rfl)
theorem dX3_read_12 : decode cX3_read 12 = .ok (.aload_n 0, 1) := dk_42 (dk_at dksX3_read_0 12 rfl rfl)
theorem dX3_read_13 : decode cX3_read 13 = .ok (.getfield 25, 3) := dk_180 0 25 (dk_at dksX3_read_0 13 rfl rfl)
theorem dX3_read_16 : decode cX3_read 16 = .ok (.sipush 301, 3) := dk_17 1 45 (dk_at dksX3_read_0 16 rfl rfl)
theorem dX3_read_19 : decode cX3_read 19 = .ok (.if_icmp .eq 104, 3) := dk_159 0 104 (dk_at dksX3_read_0 19 rfl rfl)
theorem dX3_read_22 : decode cX3_read 22 = .ok (.aload_n 0, 1) := dk_42 (dk_at dksX3_read_0 22 rfl rfl)
theorem dX3_read_23 : decode cX3_read 23 = .ok (.getfield 25, 3) := dk_180 0 25 (dk_at dksX3_read_1 0 rfl rfl)
theorem dX3_read_26 : decode cX3_read 26 = .ok (.sipush 200, 3) := dk_17 0 200 (dk_at dksX3_read_1 3 rfl rfl)
theorem dX3_read_29 : decode cX3_read 29 = .ok (.if_icmp .lt 13, 3) := dk_161 0 13 (dk_at dksX3_read_1 6 rfl rfl)
theorem dX3_read_32 : decode cX3_read 32 = .ok (.aload_n 0, 1) := dk_42 (dk_at dksX3_read_1 9 rfl rfl)
theorem dX3_read_33 : decode cX3_read 33 = .ok (.getfield 25, 3) := dk_180 0 25 (dk_at dksX3_read_1 10 rfl rfl)
theorem dX3_read_36 : decode cX3_read 36 = .ok (.sipush 203, 3) := dk_17 0 203 (dk_at dksX3_read_1 13 rfl rfl)
theorem dX3_read_39 : decode cX3_read 39 = .ok (.if_icmp .le 9, 3) := dk_164 0 9 (dk_at dksX3_read_1 16 rfl rfl)
theorem dX3_read_42 : decode cX3_read 42 = .ok (.aload_n 0, 1) := dk_42 (dk_at dksX3_read_1 19 rfl rfl)
theorem dX3_read_43 : decode cX3_read 43 = .ok (.iconst 1, 1) := dk_4 (dk_at dksX3_read_1 20 rfl rfl)
theorem dX3_read_44 : decode cX3_read 44 = .ok (.invokevirtual 70, 3) := dk_182 0 70 (dk_at dksX3_read_1 21 rfl rfl)
theorem dX3_read_47 : decode cX3_read 47 = .ok (.athrow, 1) := dk_191 (dk_at dksX3_read_2 0 rfl rfl)
theorem dX3_read_48 : decode cX3_read 48 = .ok (.aload_n 0, 1) := dk_42 (dk_at dksX3_read_2 1 rfl rfl)
theorem dX3_read_49 : decode cX3_read 49 = .ok (.aload_n 0, 1) := dk_42 (dk_at dksX3_read_2 2 rfl rfl)
theorem dX3_read_50 : decode cX3_read 50 = .ok (.getfield 25, 3) := dk_180 0 25 (dk_at dksX3_read_2 3 rfl rfl)
theorem dX3_read_53 : decode cX3_read 53 = .ok (.putfield 83, 3) := dk_181 0 83 (dk_at dksX3_read_2 6 rfl rfl)
theorem dX3_read_56 : decode cX3_read 56 = .ok (.aload_n 0, 1) := dk_42 (dk_at dksX3_read_2 9 rfl rfl)
theorem dX3_read_57 : decode cX3_read 57 = .ok (.getfield 83, 3) := dk_180 0 83 (dk_at dksX3_read_2 10 rfl rfl)
theorem dX3_read_60 : decode cX3_read 60 = .ok (.sipush 201, 3) := dk_17 0 201 (dk_at dksX3_read_2 13 rfl rfl)
theorem dX3_read_63 : decode cX3_read 63 = .ok (.if_icmp .ne 16, 3) := dk_160 0 16 (dk_at dksX3_read_2 16 rfl rfl)
theorem dX3_read_66 : decode cX3_read 66 = .ok (.aload_n 1, 1) := dk_43 (dk_at dksX3_read_2 19 rfl rfl)
theorem dX3_read_67 : decode cX3_read 67 = .ok (.getfield 86, 3) := dk_180 0 86 (dk_at dksX3_read_2 20 rfl rfl)
theorem dX3_read_70 : decode cX3_read 70 = .ok (.ifnull 9, 3) := dk_198 0 9 (dk_at dksX3_read_3 0 rfl rfl)
theorem dX3_read_73 : decode cX3_read 73 = .ok (.aload_n 0, 1) := dk_42 (dk_at dksX3_read_3 3 rfl rfl)
theorem dX3_read_74 : decode cX3_read 74 = .ok (.iconst 4, 1) := dk_7 (dk_at dksX3_read_3 4 rfl rfl)
theorem dX3_read_75 : decode cX3_read 75 = .ok (.invokevirtual 70, 3) := dk_182 0 70 (dk_at dksX3_read_3 5 rfl rfl)
theorem dX3_read_78 : decode cX3_read 78 = .ok (.athrow, 1) := dk_191 (dk_at dksX3_read_3 8 rfl rfl)
theorem dX3_read_79 : decode cX3_read 79 = .ok (.aload_n 1, 1) := dk_43 (dk_at dksX3_read_3 9 rfl rfl)
theorem dX3_read_80 : decode cX3_read 80 = .ok (.getfield 90, 3) := dk_180 0 90 (dk_at dksX3_read_3 10 rfl rfl)
theorem dX3_read_83 : decode cX3_read 83 = .ok (.bipush 24, 2) := dk_16 24 (dk_at dksX3_read_3 13 rfl rfl)
theorem dX3_read_85 : decode cX3_read 85 = .ok (.if_icmp .ne 10, 3) := dk_160 0 10 (dk_at dksX3_read_3 15 rfl rfl)
theorem dX3_read_88 : decode cX3_read 88 = .ok (.aload_n 0, 1) := dk_42 (dk_at dksX3_read_3 18 rfl rfl)
theorem dX3_read_89 : decode cX3_read 89 = .ok (.bipush 6, 2) := dk_16 6 (dk_at dksX3_read_3 19 rfl rfl)
theorem dX3_read_91 : decode cX3_read 91 = .ok (.invokevirtual 70, 3) := dk_182 0 70 (dk_at dksX3_read_3 21 rfl rfl)
theorem dX3_read_94 : decode cX3_read 94 = .ok (.athrow, 1) := dk_191 (dk_at dksX3_read_4 0 rfl rfl)
theorem dX3_read_95 : decode cX3_read 95 = .ok (.aload_n 0, 1) := dk_42 (dk_at dksX3_read_4 1 rfl rfl)
theorem dX3_read_96 : decode cX3_read 96 = .ok (.invokevirtual 74, 3) := dk_182 0 74 (dk_at dksX3_read_4 2 rfl rfl)
theorem dX3_read_99 : decode cX3_read 99 = .ok (.aload_n 0, 1) := dk_42 (dk_at dksX3_read_4 5 rfl rfl)
theorem dX3_read_100 : decode cX3_read 100 = .ok (.aload_n 1, 1) := dk_43 (dk_at dksX3_read_4 6 rfl rfl)
theorem dX3_read_101 : decode cX3_read 101 = .ok (.invokevirtual 93, 3) := dk_182 0 93 (dk_at dksX3_read_4 7 rfl rfl)
theorem dX3_read_104 : decode cX3_read 104 = .ok (.aload_n 0, 1) := dk_42 (dk_at dksX3_read_4 10 rfl rfl)
theorem dX3_read_105 : decode cX3_read 105 = .ok (.bipush 59, 2) := dk_16 59 (dk_at dksX3_read_4 11 rfl rfl)
theorem dX3_read_107 : decode cX3_read 107 = .ok (.invokevirtual 97, 3) := dk_182 0 97 (dk_at dksX3_read_4 13 rfl rfl)
theorem dX3_read_110 : decode cX3_read 110 = .ok (.aload_n 1, 1) := dk_43 (dk_at dksX3_read_4 16 rfl rfl)
theorem dX3_read_111 : decode cX3_read 111 = .ok (.dup, 1) := dk_89 (dk_at dksX3_read_4 17 rfl rfl)
theorem dX3_read_112 : decode cX3_read 112 = .ok (.getfield 90, 3) := dk_180 0 90 (dk_at dksX3_read_4 18 rfl rfl)
theorem dX3_read_115 : decode cX3_read 115 = .ok (.iconst 1, 1) := dk_4 (dk_at dksX3_read_4 21 rfl rfl)
theorem dX3_read_116 : decode cX3_read 116 = .ok (.iadd, 1) := dk_96 (dk_at dksX3_read_4 22 rfl rfl)
theorem dX3_read_117 : decode cX3_read 117 = .ok (.putfield 90, 3) := dk_181 0 90 (dk_at dksX3_read_5 0 rfl rfl)
theorem dX3_read_120 : decode cX3_read 120 = .ok (.goto (-108), 3) := dk_167 255 148 (dk_at dksX3_read_5 3 rfl rfl)
theorem dX3_read_123 : decode cX3_read 123 = .ok (.aload_n 1, 1) := dk_43 (dk_at dksX3_read_5 6 rfl rfl)
theorem dX3_read_124 : decode cX3_read 124 = .ok (.areturn, 1) := dk_176 (dk_at dksX3_read_5 7 rfl rfl)
abbrev cX3_next : ByteArray := prog_14_method_4_code
def yX3_next : MethodName := ⟨RX3, "next", "()V"⟩
def dkwX3_next_17 : List UInt8 := [4, 96, 181, 0, 19, 177]
abbrev dktX3_next_17 : List UInt8 := dkwX3_next_17 ++ []
def dkwX3_next_16 : List UInt8 := [42, 27, 16, 60, 160, 0, 9, 17, 1, 47, 167, 0, 6, 17, 1, 48, 181, 0, 25, 42, 89, 180, 0, 19]
abbrev dktX3_next_16 : List UInt8 := dkwX3_next_16 ++ dktX3_next_17
def dkwX3_next_15 : List UInt8 := [180, 0, 19, 42, 180, 0, 15, 162, 0, 46, 42, 180, 0, 9, 42, 180, 0, 19, 51, 16, 61, 160, 0, 32]
abbrev dktX3_next_15 : List UInt8 := dkwX3_next_15 ++ dktX3_next_16
def dkwX3_next_14 : List UInt8 := [42, 27, 181, 0, 25, 132, 2, 1, 167, 255, 229, 27, 16, 60, 159, 0, 9, 27, 16, 62, 160, 0, 57, 42]
abbrev dktX3_next_14 : List UInt8 := dkwX3_next_14 ++ dktX3_next_15
def dkwX3_next_13 : List UInt8 := [181, 0, 25, 3, 61, 28, 18, 53, 182, 0, 55, 162, 0, 24, 18, 53, 28, 182, 0, 61, 27, 160, 0, 8]
abbrev dktX3_next_13 : List UInt8 := dkwX3_next_13 ++ dktX3_next_14
def dkwX3_next_12 : List UInt8 := [42, 180, 0, 9, 42, 180, 0, 19, 51, 60, 42, 89, 180, 0, 19, 4, 96, 181, 0, 19, 42, 17, 1, 46]
abbrev dktX3_next_12 : List UInt8 := dkwX3_next_12 ++ dktX3_next_13
def dkwX3_next_11 : List UInt8 := [51, 96, 16, 48, 100, 184, 0, 47, 181, 0, 43, 42, 89, 180, 0, 19, 4, 96, 181, 0, 19, 167, 255, 191]
abbrev dktX3_next_11 : List UInt8 := dkwX3_next_11 ++ dktX3_next_12
def dkwX3_next_10 : List UInt8 := [184, 0, 40, 153, 0, 170, 42, 18, 46, 16, 10, 42, 180, 0, 43, 104, 42, 180, 0, 9, 42, 180, 0, 19]
abbrev dktX3_next_10 : List UInt8 := dkwX3_next_10 ++ dktX3_next_11
def dkwX3_next_9 : List UInt8 := [181, 0, 43, 42, 180, 0, 19, 42, 180, 0, 15, 162, 0, 185, 42, 180, 0, 9, 42, 180, 0, 19, 51]
abbrev dktX3_next_9 : List UInt8 := dkwX3_next_9 ++ dktX3_next_10
def dkwX3_next_8 : List UInt8 := [42, 180, 0, 9, 42, 180, 0, 19, 51, 184, 0, 40, 153, 0, 83, 42, 17, 1, 44, 181, 0, 25, 42, 3]
abbrev dktX3_next_8 : List UInt8 := dkwX3_next_8 ++ dktX3_next_9
def dkwX3_next_7 : List UInt8 := [182, 0, 36, 153, 0, 12, 42, 17, 0, 200, 27, 96, 181, 0, 25, 132, 1, 1, 167, 255, 224, 167, 0, 223]
abbrev dktX3_next_7 : List UInt8 := dkwX3_next_7 ++ dktX3_next_8
def dkwX3_next_6 : List UInt8 := [17, 1, 46, 181, 0, 25, 3, 60, 27, 178, 0, 32, 190, 162, 0, 30, 42, 178, 0, 32, 27, 50]
abbrev dktX3_next_6 : List UInt8 := dkwX3_next_6 ++ dktX3_next_7
def dkwX3_next_5 : List UInt8 := [180, 0, 19, 51, 184, 0, 28, 153, 0, 16, 42, 89, 180, 0, 19, 4, 96, 181, 0, 19, 167, 255, 220, 42]
abbrev dktX3_next_5 : List UInt8 := dkwX3_next_5 ++ dktX3_next_6
def dkwX3_next_4 : List UInt8 := [184, 0, 28, 153, 0, 89, 42, 180, 0, 19, 42, 180, 0, 15, 162, 0, 31, 42, 180, 0, 9, 42]
abbrev dktX3_next_4 : List UInt8 := dkwX3_next_4 ++ dktX3_next_5
def dkwX3_next_3 : List UInt8 := [160, 0, 13, 42, 17, 1, 45, 181, 0, 25, 167, 1, 68, 42, 180, 0, 9, 42, 180, 0, 19, 51]
abbrev dktX3_next_3 : List UInt8 := dkwX3_next_3 ++ dktX3_next_4
def dkwX3_next_2 : List UInt8 := [181, 0, 19, 167, 255, 207, 42, 42, 180, 0, 19, 181, 0, 22, 42, 180, 0, 19, 42, 180, 0, 15]
abbrev dktX3_next_2 : List UInt8 := dkwX3_next_2 ++ dktX3_next_3
def dkwX3_next_1 : List UInt8 := [159, 0, 17, 42, 180, 0, 9, 42, 180, 0, 19, 51, 16, 10, 160, 0, 16, 42, 89, 180, 0, 19, 4, 96]
abbrev dktX3_next_1 : List UInt8 := dkwX3_next_1 ++ dktX3_next_2
def dkwX3_next_0 : List UInt8 := [42, 180, 0, 19, 42, 180, 0, 15, 162, 0, 44, 42, 180, 0, 9, 42, 180, 0, 19, 51, 16, 32]
abbrev dktX3_next_0 : List UInt8 := dkwX3_next_0 ++ dktX3_next_1
theorem dksX3_next_0 : cX3_next.data.toList.drop 0 = dktX3_next_0 := by decide +kernel
theorem dksX3_next_1 : cX3_next.data.toList.drop 22 = dktX3_next_1 := dk_seg dksX3_next_0 22 rfl rfl
theorem dksX3_next_2 : cX3_next.data.toList.drop 46 = dktX3_next_2 := dk_seg dksX3_next_1 24 rfl rfl
theorem dksX3_next_3 : cX3_next.data.toList.drop 68 = dktX3_next_3 := dk_seg dksX3_next_2 22 rfl rfl
theorem dksX3_next_4 : cX3_next.data.toList.drop 90 = dktX3_next_4 := dk_seg dksX3_next_3 22 rfl rfl
theorem dksX3_next_5 : cX3_next.data.toList.drop 112 = dktX3_next_5 := dk_seg dksX3_next_4 22 rfl rfl
theorem dksX3_next_6 : cX3_next.data.toList.drop 136 = dktX3_next_6 := dk_seg dksX3_next_5 24 rfl rfl
theorem dksX3_next_7 : cX3_next.data.toList.drop 158 = dktX3_next_7 := dk_seg dksX3_next_6 22 rfl rfl
theorem dksX3_next_8 : cX3_next.data.toList.drop 182 = dktX3_next_8 := dk_seg dksX3_next_7 24 rfl rfl
theorem dksX3_next_9 : cX3_next.data.toList.drop 206 = dktX3_next_9 := dk_seg dksX3_next_8 24 rfl rfl
theorem dksX3_next_10 : cX3_next.data.toList.drop 229 = dktX3_next_10 := dk_seg dksX3_next_9 23 rfl rfl
theorem dksX3_next_11 : cX3_next.data.toList.drop 253 = dktX3_next_11 := dk_seg dksX3_next_10 24 rfl rfl
theorem dksX3_next_12 : cX3_next.data.toList.drop 277 = dktX3_next_12 := dk_seg dksX3_next_11 24 rfl rfl
theorem dksX3_next_13 : cX3_next.data.toList.drop 301 = dktX3_next_13 := dk_seg dksX3_next_12 24 rfl rfl
theorem dksX3_next_14 : cX3_next.data.toList.drop 325 = dktX3_next_14 := dk_seg dksX3_next_13 24 rfl rfl
theorem dksX3_next_15 : cX3_next.data.toList.drop 349 = dktX3_next_15 := dk_seg dksX3_next_14 24 rfl rfl
theorem dksX3_next_16 : cX3_next.data.toList.drop 373 = dktX3_next_16 := dk_seg dksX3_next_15 24 rfl rfl
theorem dksX3_next_17 : cX3_next.data.toList.drop 397 = dktX3_next_17 := dk_seg dksX3_next_16 24 rfl rfl
theorem dX3_next_0 : decode cX3_next 0 = .ok (.aload_n 0, 1) := dk_42 (dk_at dksX3_next_0 0 rfl rfl)
theorem dX3_next_1 : decode cX3_next 1 = .ok (.getfield 19, 3) := dk_180 0 19 (dk_at dksX3_next_0 1 rfl rfl)
theorem dX3_next_4 : decode cX3_next 4 = .ok (.aload_n 0, 1) := dk_42 (dk_at dksX3_next_0 4 rfl rfl)
theorem dX3_next_5 : decode cX3_next 5 = .ok (.getfield 15, 3) := dk_180 0 15 (dk_at dksX3_next_0 5 rfl rfl)
theorem dX3_next_8 : decode cX3_next 8 = .ok (.if_icmp .ge 44, 3) := dk_162 0 44 (dk_at dksX3_next_0 8 rfl rfl)
theorem dX3_next_11 : decode cX3_next 11 = .ok (.aload_n 0, 1) := dk_42 (dk_at dksX3_next_0 11 rfl rfl)
theorem dX3_next_12 : decode cX3_next 12 = .ok (.getfield 9, 3) := dk_180 0 9 (dk_at dksX3_next_0 12 rfl rfl)
theorem dX3_next_15 : decode cX3_next 15 = .ok (.aload_n 0, 1) := dk_42 (dk_at dksX3_next_0 15 rfl rfl)
theorem dX3_next_16 : decode cX3_next 16 = .ok (.getfield 19, 3) := dk_180 0 19 (dk_at dksX3_next_0 16 rfl rfl)
theorem dX3_next_19 : decode cX3_next 19 = .ok (.baload, 1) := dk_51 (dk_at dksX3_next_0 19 rfl rfl)
theorem dX3_next_20 : decode cX3_next 20 = .ok (.bipush 32, 2) := dk_16 32 (dk_at dksX3_next_0 20 rfl rfl)
theorem dX3_next_22 : decode cX3_next 22 = .ok (.if_icmp .eq 17, 3) := dk_159 0 17 (dk_at dksX3_next_1 0 rfl rfl)
theorem dX3_next_25 : decode cX3_next 25 = .ok (.aload_n 0, 1) := dk_42 (dk_at dksX3_next_1 3 rfl rfl)
theorem dX3_next_26 : decode cX3_next 26 = .ok (.getfield 9, 3) := dk_180 0 9 (dk_at dksX3_next_1 4 rfl rfl)
theorem dX3_next_29 : decode cX3_next 29 = .ok (.aload_n 0, 1) := dk_42 (dk_at dksX3_next_1 7 rfl rfl)
theorem dX3_next_30 : decode cX3_next 30 = .ok (.getfield 19, 3) := dk_180 0 19 (dk_at dksX3_next_1 8 rfl rfl)
theorem dX3_next_33 : decode cX3_next 33 = .ok (.baload, 1) := dk_51 (dk_at dksX3_next_1 11 rfl rfl)
theorem dX3_next_34 : decode cX3_next 34 = .ok (.bipush 10, 2) := dk_16 10 (dk_at dksX3_next_1 12 rfl rfl)
theorem dX3_next_36 : decode cX3_next 36 = .ok (.if_icmp .ne 16, 3) := dk_160 0 16 (dk_at dksX3_next_1 14 rfl rfl)
theorem dX3_next_39 : decode cX3_next 39 = .ok (.aload_n 0, 1) := dk_42 (dk_at dksX3_next_1 17 rfl rfl)
theorem dX3_next_40 : decode cX3_next 40 = .ok (.dup, 1) := dk_89 (dk_at dksX3_next_1 18 rfl rfl)
theorem dX3_next_41 : decode cX3_next 41 = .ok (.getfield 19, 3) := dk_180 0 19 (dk_at dksX3_next_1 19 rfl rfl)
theorem dX3_next_44 : decode cX3_next 44 = .ok (.iconst 1, 1) := dk_4 (dk_at dksX3_next_1 22 rfl rfl)
theorem dX3_next_45 : decode cX3_next 45 = .ok (.iadd, 1) := dk_96 (dk_at dksX3_next_1 23 rfl rfl)
theorem dX3_next_46 : decode cX3_next 46 = .ok (.putfield 19, 3) := dk_181 0 19 (dk_at dksX3_next_2 0 rfl rfl)
theorem dX3_next_49 : decode cX3_next 49 = .ok (.goto (-49), 3) := dk_167 255 207 (dk_at dksX3_next_2 3 rfl rfl)
theorem dX3_next_52 : decode cX3_next 52 = .ok (.aload_n 0, 1) := dk_42 (dk_at dksX3_next_2 6 rfl rfl)
theorem dX3_next_53 : decode cX3_next 53 = .ok (.aload_n 0, 1) := dk_42 (dk_at dksX3_next_2 7 rfl rfl)
theorem dX3_next_54 : decode cX3_next 54 = .ok (.getfield 19, 3) := dk_180 0 19 (dk_at dksX3_next_2 8 rfl rfl)
theorem dX3_next_57 : decode cX3_next 57 = .ok (.putfield 22, 3) := dk_181 0 22 (dk_at dksX3_next_2 11 rfl rfl)
theorem dX3_next_60 : decode cX3_next 60 = .ok (.aload_n 0, 1) := dk_42 (dk_at dksX3_next_2 14 rfl rfl)
theorem dX3_next_61 : decode cX3_next 61 = .ok (.getfield 19, 3) := dk_180 0 19 (dk_at dksX3_next_2 15 rfl rfl)
theorem dX3_next_64 : decode cX3_next 64 = .ok (.aload_n 0, 1) := dk_42 (dk_at dksX3_next_2 18 rfl rfl)
theorem dX3_next_65 : decode cX3_next 65 = .ok (.getfield 15, 3) := dk_180 0 15 (dk_at dksX3_next_2 19 rfl rfl)
theorem dX3_next_68 : decode cX3_next 68 = .ok (.if_icmp .ne 13, 3) := dk_160 0 13 (dk_at dksX3_next_3 0 rfl rfl)
theorem dX3_next_71 : decode cX3_next 71 = .ok (.aload_n 0, 1) := dk_42 (dk_at dksX3_next_3 3 rfl rfl)
theorem dX3_next_72 : decode cX3_next 72 = .ok (.sipush 301, 3) := dk_17 1 45 (dk_at dksX3_next_3 4 rfl rfl)
theorem dX3_next_75 : decode cX3_next 75 = .ok (.putfield 25, 3) := dk_181 0 25 (dk_at dksX3_next_3 7 rfl rfl)
theorem dX3_next_78 : decode cX3_next 78 = .ok (.goto 324, 3) := dk_167 1 68 (dk_at dksX3_next_3 10 rfl rfl)
theorem dX3_next_81 : decode cX3_next 81 = .ok (.aload_n 0, 1) := dk_42 (dk_at dksX3_next_3 13 rfl rfl)
theorem dX3_next_82 : decode cX3_next 82 = .ok (.getfield 9, 3) := dk_180 0 9 (dk_at dksX3_next_3 14 rfl rfl)
theorem dX3_next_85 : decode cX3_next 85 = .ok (.aload_n 0, 1) := dk_42 (dk_at dksX3_next_3 17 rfl rfl)
theorem dX3_next_86 : decode cX3_next 86 = .ok (.getfield 19, 3) := dk_180 0 19 (dk_at dksX3_next_3 18 rfl rfl)
theorem dX3_next_89 : decode cX3_next 89 = .ok (.baload, 1) := dk_51 (dk_at dksX3_next_3 21 rfl rfl)
theorem dX3_next_90 : decode cX3_next 90 = .ok (.invokestatic 28, 3) := dk_184 0 28 (dk_at dksX3_next_4 0 rfl rfl)
theorem dX3_next_93 : decode cX3_next 93 = .ok (.ifCond .eq 89, 3) := dk_153 0 89 (dk_at dksX3_next_4 3 rfl rfl)
theorem dX3_next_96 : decode cX3_next 96 = .ok (.aload_n 0, 1) := dk_42 (dk_at dksX3_next_4 6 rfl rfl)
theorem dX3_next_97 : decode cX3_next 97 = .ok (.getfield 19, 3) := dk_180 0 19 (dk_at dksX3_next_4 7 rfl rfl)
theorem dX3_next_100 : decode cX3_next 100 = .ok (.aload_n 0, 1) := dk_42 (dk_at dksX3_next_4 10 rfl rfl)
theorem dX3_next_101 : decode cX3_next 101 = .ok (.getfield 15, 3) := dk_180 0 15 (dk_at dksX3_next_4 11 rfl rfl)
theorem dX3_next_104 : decode cX3_next 104 = .ok (.if_icmp .ge 31, 3) := dk_162 0 31 (dk_at dksX3_next_4 14 rfl rfl)
theorem dX3_next_107 : decode cX3_next 107 = .ok (.aload_n 0, 1) := dk_42 (dk_at dksX3_next_4 17 rfl rfl)
theorem dX3_next_108 : decode cX3_next 108 = .ok (.getfield 9, 3) := dk_180 0 9 (dk_at dksX3_next_4 18 rfl rfl)
theorem dX3_next_111 : decode cX3_next 111 = .ok (.aload_n 0, 1) := dk_42 (dk_at dksX3_next_4 21 rfl rfl)
theorem dX3_next_112 : decode cX3_next 112 = .ok (.getfield 19, 3) := dk_180 0 19 (dk_at dksX3_next_5 0 rfl rfl)
theorem dX3_next_115 : decode cX3_next 115 = .ok (.baload, 1) := dk_51 (dk_at dksX3_next_5 3 rfl rfl)
theorem dX3_next_116 : decode cX3_next 116 = .ok (.invokestatic 28, 3) := dk_184 0 28 (dk_at dksX3_next_5 4 rfl rfl)
theorem dX3_next_119 : decode cX3_next 119 = .ok (.ifCond .eq 16, 3) := dk_153 0 16 (dk_at dksX3_next_5 7 rfl rfl)
theorem dX3_next_122 : decode cX3_next 122 = .ok (.aload_n 0, 1) := dk_42 (dk_at dksX3_next_5 10 rfl rfl)
theorem dX3_next_123 : decode cX3_next 123 = .ok (.dup, 1) := dk_89 (dk_at dksX3_next_5 11 rfl rfl)
theorem dX3_next_124 : decode cX3_next 124 = .ok (.getfield 19, 3) := dk_180 0 19 (dk_at dksX3_next_5 12 rfl rfl)
theorem dX3_next_127 : decode cX3_next 127 = .ok (.iconst 1, 1) := dk_4 (dk_at dksX3_next_5 15 rfl rfl)
theorem dX3_next_128 : decode cX3_next 128 = .ok (.iadd, 1) := dk_96 (dk_at dksX3_next_5 16 rfl rfl)
theorem dX3_next_129 : decode cX3_next 129 = .ok (.putfield 19, 3) := dk_181 0 19 (dk_at dksX3_next_5 17 rfl rfl)
theorem dX3_next_132 : decode cX3_next 132 = .ok (.goto (-36), 3) := dk_167 255 220 (dk_at dksX3_next_5 20 rfl rfl)
theorem dX3_next_135 : decode cX3_next 135 = .ok (.aload_n 0, 1) := dk_42 (dk_at dksX3_next_5 23 rfl rfl)
theorem dX3_next_136 : decode cX3_next 136 = .ok (.sipush 302, 3) := dk_17 1 46 (dk_at dksX3_next_6 0 rfl rfl)
theorem dX3_next_139 : decode cX3_next 139 = .ok (.putfield 25, 3) := dk_181 0 25 (dk_at dksX3_next_6 3 rfl rfl)
theorem dX3_next_142 : decode cX3_next 142 = .ok (.iconst 0, 1) := dk_3 (dk_at dksX3_next_6 6 rfl rfl)
theorem dX3_next_143 : decode cX3_next 143 = .ok (.istore_n 1, 1) := dk_60 (dk_at dksX3_next_6 7 rfl rfl)
theorem dX3_next_144 : decode cX3_next 144 = .ok (.iload_n 1, 1) := dk_27 (dk_at dksX3_next_6 8 rfl rfl)
theorem dX3_next_145 : decode cX3_next 145 = .ok (.getstatic 32, 3) := dk_178 0 32 (dk_at dksX3_next_6 9 rfl rfl)
theorem dX3_next_148 : decode cX3_next 148 = .ok (.arraylength, 1) := dk_190 (dk_at dksX3_next_6 12 rfl rfl)
theorem dX3_next_149 : decode cX3_next 149 = .ok (.if_icmp .ge 30, 3) := dk_162 0 30 (dk_at dksX3_next_6 13 rfl rfl)
theorem dX3_next_152 : decode cX3_next 152 = .ok (.aload_n 0, 1) := dk_42 (dk_at dksX3_next_6 16 rfl rfl)
theorem dX3_next_153 : decode cX3_next 153 = .ok (.getstatic 32, 3) := dk_178 0 32 (dk_at dksX3_next_6 17 rfl rfl)
theorem dX3_next_156 : decode cX3_next 156 = .ok (.iload_n 1, 1) := dk_27 (dk_at dksX3_next_6 20 rfl rfl)
theorem dX3_next_157 : decode cX3_next 157 = .ok (.aaload, 1) := dk_50 (dk_at dksX3_next_6 21 rfl rfl)
theorem dX3_next_158 : decode cX3_next 158 = .ok (.invokevirtual 36, 3) := dk_182 0 36 (dk_at dksX3_next_7 0 rfl rfl)
theorem dX3_next_161 : decode cX3_next 161 = .ok (.ifCond .eq 12, 3) := dk_153 0 12 (dk_at dksX3_next_7 3 rfl rfl)
theorem dX3_next_164 : decode cX3_next 164 = .ok (.aload_n 0, 1) := dk_42 (dk_at dksX3_next_7 6 rfl rfl)
theorem dX3_next_165 : decode cX3_next 165 = .ok (.sipush 200, 3) := dk_17 0 200 (dk_at dksX3_next_7 7 rfl rfl)
theorem dX3_next_168 : decode cX3_next 168 = .ok (.iload_n 1, 1) := dk_27 (dk_at dksX3_next_7 10 rfl rfl)
theorem dX3_next_169 : decode cX3_next 169 = .ok (.iadd, 1) := dk_96 (dk_at dksX3_next_7 11 rfl rfl)
theorem dX3_next_170 : decode cX3_next 170 = .ok (.putfield 25, 3) := dk_181 0 25 (dk_at dksX3_next_7 12 rfl rfl)
theorem dX3_next_173 : decode cX3_next 173 = .ok (.iinc 1 1, 3) := dk_132 1 1 (dk_at dksX3_next_7 15 rfl rfl)
theorem dX3_next_176 : decode cX3_next 176 = .ok (.goto (-32), 3) := dk_167 255 224 (dk_at dksX3_next_7 18 rfl rfl)
theorem dX3_next_179 : decode cX3_next 179 = .ok (.goto 223, 3) := dk_167 0 223 (dk_at dksX3_next_7 21 rfl rfl)
theorem dX3_next_182 : decode cX3_next 182 = .ok (.aload_n 0, 1) := dk_42 (dk_at dksX3_next_8 0 rfl rfl)
theorem dX3_next_183 : decode cX3_next 183 = .ok (.getfield 9, 3) := dk_180 0 9 (dk_at dksX3_next_8 1 rfl rfl)
theorem dX3_next_186 : decode cX3_next 186 = .ok (.aload_n 0, 1) := dk_42 (dk_at dksX3_next_8 4 rfl rfl)
theorem dX3_next_187 : decode cX3_next 187 = .ok (.getfield 19, 3) := dk_180 0 19 (dk_at dksX3_next_8 5 rfl rfl)
theorem dX3_next_190 : decode cX3_next 190 = .ok (.baload, 1) := dk_51 (dk_at dksX3_next_8 8 rfl rfl)
theorem dX3_next_191 : decode cX3_next 191 = .ok (.invokestatic 40, 3) := dk_184 0 40 (dk_at dksX3_next_8 9 rfl rfl)
theorem dX3_next_194 : decode cX3_next 194 = .ok (.ifCond .eq 83, 3) := dk_153 0 83 (dk_at dksX3_next_8 12 rfl rfl)
theorem dX3_next_197 : decode cX3_next 197 = .ok (.aload_n 0, 1) := dk_42 (dk_at dksX3_next_8 15 rfl rfl)
theorem dX3_next_198 : decode cX3_next 198 = .ok (.sipush 300, 3) := dk_17 1 44 (dk_at dksX3_next_8 16 rfl rfl)
theorem dX3_next_201 : decode cX3_next 201 = .ok (.putfield 25, 3) := dk_181 0 25 (dk_at dksX3_next_8 19 rfl rfl)
theorem dX3_next_204 : decode cX3_next 204 = .ok (.aload_n 0, 1) := dk_42 (dk_at dksX3_next_8 22 rfl rfl)
theorem dX3_next_205 : decode cX3_next 205 = .ok (.iconst 0, 1) := dk_3 (dk_at dksX3_next_8 23 rfl rfl)
theorem dX3_next_206 : decode cX3_next 206 = .ok (.putfield 43, 3) := dk_181 0 43 (dk_at dksX3_next_9 0 rfl rfl)
theorem dX3_next_209 : decode cX3_next 209 = .ok (.aload_n 0, 1) := dk_42 (dk_at dksX3_next_9 3 rfl rfl)
theorem dX3_next_210 : decode cX3_next 210 = .ok (.getfield 19, 3) := dk_180 0 19 (dk_at dksX3_next_9 4 rfl rfl)
theorem dX3_next_213 : decode cX3_next 213 = .ok (.aload_n 0, 1) := dk_42 (dk_at dksX3_next_9 7 rfl rfl)
theorem dX3_next_214 : decode cX3_next 214 = .ok (.getfield 15, 3) := dk_180 0 15 (dk_at dksX3_next_9 8 rfl rfl)
theorem dX3_next_217 : decode cX3_next 217 = .ok (.if_icmp .ge 185, 3) := dk_162 0 185 (dk_at dksX3_next_9 11 rfl rfl)
theorem dX3_next_220 : decode cX3_next 220 = .ok (.aload_n 0, 1) := dk_42 (dk_at dksX3_next_9 14 rfl rfl)
theorem dX3_next_221 : decode cX3_next 221 = .ok (.getfield 9, 3) := dk_180 0 9 (dk_at dksX3_next_9 15 rfl rfl)
theorem dX3_next_224 : decode cX3_next 224 = .ok (.aload_n 0, 1) := dk_42 (dk_at dksX3_next_9 18 rfl rfl)
theorem dX3_next_225 : decode cX3_next 225 = .ok (.getfield 19, 3) := dk_180 0 19 (dk_at dksX3_next_9 19 rfl rfl)
theorem dX3_next_228 : decode cX3_next 228 = .ok (.baload, 1) := dk_51 (dk_at dksX3_next_9 22 rfl rfl)
theorem dX3_next_229 : decode cX3_next 229 = .ok (.invokestatic 40, 3) := dk_184 0 40 (dk_at dksX3_next_10 0 rfl rfl)
theorem dX3_next_232 : decode cX3_next 232 = .ok (.ifCond .eq 170, 3) := dk_153 0 170 (dk_at dksX3_next_10 3 rfl rfl)
theorem dX3_next_235 : decode cX3_next 235 = .ok (.aload_n 0, 1) := dk_42 (dk_at dksX3_next_10 6 rfl rfl)
theorem dX3_next_236 : decode cX3_next 236 = .ok (.ldc 46, 2) := dk_18 46 (dk_at dksX3_next_10 7 rfl rfl)
theorem dX3_next_238 : decode cX3_next 238 = .ok (.bipush 10, 2) := dk_16 10 (dk_at dksX3_next_10 9 rfl rfl)
theorem dX3_next_240 : decode cX3_next 240 = .ok (.aload_n 0, 1) := dk_42 (dk_at dksX3_next_10 11 rfl rfl)
theorem dX3_next_241 : decode cX3_next 241 = .ok (.getfield 43, 3) := dk_180 0 43 (dk_at dksX3_next_10 12 rfl rfl)
theorem dX3_next_244 : decode cX3_next 244 = .ok (.imul, 1) := dk_104 (dk_at dksX3_next_10 15 rfl rfl)
theorem dX3_next_245 : decode cX3_next 245 = .ok (.aload_n 0, 1) := dk_42 (dk_at dksX3_next_10 16 rfl rfl)
theorem dX3_next_246 : decode cX3_next 246 = .ok (.getfield 9, 3) := dk_180 0 9 (dk_at dksX3_next_10 17 rfl rfl)
theorem dX3_next_249 : decode cX3_next 249 = .ok (.aload_n 0, 1) := dk_42 (dk_at dksX3_next_10 20 rfl rfl)
theorem dX3_next_250 : decode cX3_next 250 = .ok (.getfield 19, 3) := dk_180 0 19 (dk_at dksX3_next_10 21 rfl rfl)
theorem dX3_next_253 : decode cX3_next 253 = .ok (.baload, 1) := dk_51 (dk_at dksX3_next_11 0 rfl rfl)
theorem dX3_next_254 : decode cX3_next 254 = .ok (.iadd, 1) := dk_96 (dk_at dksX3_next_11 1 rfl rfl)
theorem dX3_next_255 : decode cX3_next 255 = .ok (.bipush 48, 2) := dk_16 48 (dk_at dksX3_next_11 2 rfl rfl)
theorem dX3_next_257 : decode cX3_next 257 = .ok (.isub, 1) := dk_100 (dk_at dksX3_next_11 4 rfl rfl)
theorem dX3_next_258 : decode cX3_next 258 = .ok (.invokestatic 47, 3) := dk_184 0 47 (dk_at dksX3_next_11 5 rfl rfl)
theorem dX3_next_261 : decode cX3_next 261 = .ok (.putfield 43, 3) := dk_181 0 43 (dk_at dksX3_next_11 8 rfl rfl)
theorem dX3_next_264 : decode cX3_next 264 = .ok (.aload_n 0, 1) := dk_42 (dk_at dksX3_next_11 11 rfl rfl)
theorem dX3_next_265 : decode cX3_next 265 = .ok (.dup, 1) := dk_89 (dk_at dksX3_next_11 12 rfl rfl)
theorem dX3_next_266 : decode cX3_next 266 = .ok (.getfield 19, 3) := dk_180 0 19 (dk_at dksX3_next_11 13 rfl rfl)
theorem dX3_next_269 : decode cX3_next 269 = .ok (.iconst 1, 1) := dk_4 (dk_at dksX3_next_11 16 rfl rfl)
theorem dX3_next_270 : decode cX3_next 270 = .ok (.iadd, 1) := dk_96 (dk_at dksX3_next_11 17 rfl rfl)
theorem dX3_next_271 : decode cX3_next 271 = .ok (.putfield 19, 3) := dk_181 0 19 (dk_at dksX3_next_11 18 rfl rfl)
theorem dX3_next_274 : decode cX3_next 274 = .ok (.goto (-65), 3) := dk_167 255 191 (dk_at dksX3_next_11 21 rfl rfl)
theorem dX3_next_277 : decode cX3_next 277 = .ok (.aload_n 0, 1) := dk_42 (dk_at dksX3_next_12 0 rfl rfl)
theorem dX3_next_278 : decode cX3_next 278 = .ok (.getfield 9, 3) := dk_180 0 9 (dk_at dksX3_next_12 1 rfl rfl)
theorem dX3_next_281 : decode cX3_next 281 = .ok (.aload_n 0, 1) := dk_42 (dk_at dksX3_next_12 4 rfl rfl)
theorem dX3_next_282 : decode cX3_next 282 = .ok (.getfield 19, 3) := dk_180 0 19 (dk_at dksX3_next_12 5 rfl rfl)
theorem dX3_next_285 : decode cX3_next 285 = .ok (.baload, 1) := dk_51 (dk_at dksX3_next_12 8 rfl rfl)
theorem dX3_next_286 : decode cX3_next 286 = .ok (.istore_n 1, 1) := dk_60 (dk_at dksX3_next_12 9 rfl rfl)
theorem dX3_next_287 : decode cX3_next 287 = .ok (.aload_n 0, 1) := dk_42 (dk_at dksX3_next_12 10 rfl rfl)
theorem dX3_next_288 : decode cX3_next 288 = .ok (.dup, 1) := dk_89 (dk_at dksX3_next_12 11 rfl rfl)
theorem dX3_next_289 : decode cX3_next 289 = .ok (.getfield 19, 3) := dk_180 0 19 (dk_at dksX3_next_12 12 rfl rfl)
theorem dX3_next_292 : decode cX3_next 292 = .ok (.iconst 1, 1) := dk_4 (dk_at dksX3_next_12 15 rfl rfl)
theorem dX3_next_293 : decode cX3_next 293 = .ok (.iadd, 1) := dk_96 (dk_at dksX3_next_12 16 rfl rfl)
theorem dX3_next_294 : decode cX3_next 294 = .ok (.putfield 19, 3) := dk_181 0 19 (dk_at dksX3_next_12 17 rfl rfl)
theorem dX3_next_297 : decode cX3_next 297 = .ok (.aload_n 0, 1) := dk_42 (dk_at dksX3_next_12 20 rfl rfl)
theorem dX3_next_298 : decode cX3_next 298 = .ok (.sipush 302, 3) := dk_17 1 46 (dk_at dksX3_next_12 21 rfl rfl)
theorem dX3_next_301 : decode cX3_next 301 = .ok (.putfield 25, 3) := dk_181 0 25 (dk_at dksX3_next_13 0 rfl rfl)
theorem dX3_next_304 : decode cX3_next 304 = .ok (.iconst 0, 1) := dk_3 (dk_at dksX3_next_13 3 rfl rfl)
theorem dX3_next_305 : decode cX3_next 305 = .ok (.istore_n 2, 1) := dk_61 (dk_at dksX3_next_13 4 rfl rfl)
theorem dX3_next_306 : decode cX3_next 306 = .ok (.iload_n 2, 1) := dk_28 (dk_at dksX3_next_13 5 rfl rfl)
theorem dX3_next_307 : decode cX3_next 307 = .ok (.ldc 53, 2) := dk_18 53 (dk_at dksX3_next_13 6 rfl rfl)
theorem dX3_next_309 : decode cX3_next 309 = .ok (.invokevirtual 55, 3) := dk_182 0 55 (dk_at dksX3_next_13 8 rfl rfl)
theorem dX3_next_312 : decode cX3_next 312 = .ok (.if_icmp .ge 24, 3) := dk_162 0 24 (dk_at dksX3_next_13 11 rfl rfl)
theorem dX3_next_315 : decode cX3_next 315 = .ok (.ldc 53, 2) := dk_18 53 (dk_at dksX3_next_13 14 rfl rfl)
theorem dX3_next_317 : decode cX3_next 317 = .ok (.iload_n 2, 1) := dk_28 (dk_at dksX3_next_13 16 rfl rfl)
theorem dX3_next_318 : decode cX3_next 318 = .ok (.invokevirtual 61, 3) := dk_182 0 61 (dk_at dksX3_next_13 17 rfl rfl)
theorem dX3_next_321 : decode cX3_next 321 = .ok (.iload_n 1, 1) := dk_27 (dk_at dksX3_next_13 20 rfl rfl)
theorem dX3_next_322 : decode cX3_next 322 = .ok (.if_icmp .ne 8, 3) := dk_160 0 8 (dk_at dksX3_next_13 21 rfl rfl)
theorem dX3_next_325 : decode cX3_next 325 = .ok (.aload_n 0, 1) := dk_42 (dk_at dksX3_next_14 0 rfl rfl)
theorem dX3_next_326 : decode cX3_next 326 = .ok (.iload_n 1, 1) := dk_27 (dk_at dksX3_next_14 1 rfl rfl)
theorem dX3_next_327 : decode cX3_next 327 = .ok (.putfield 25, 3) := dk_181 0 25 (dk_at dksX3_next_14 2 rfl rfl)
theorem dX3_next_330 : decode cX3_next 330 = .ok (.iinc 2 1, 3) := dk_132 2 1 (dk_at dksX3_next_14 5 rfl rfl)
theorem dX3_next_333 : decode cX3_next 333 = .ok (.goto (-27), 3) := dk_167 255 229 (dk_at dksX3_next_14 8 rfl rfl)
theorem dX3_next_336 : decode cX3_next 336 = .ok (.iload_n 1, 1) := dk_27 (dk_at dksX3_next_14 11 rfl rfl)
theorem dX3_next_337 : decode cX3_next 337 = .ok (.bipush 60, 2) := dk_16 60 (dk_at dksX3_next_14 12 rfl rfl)
theorem dX3_next_339 : decode cX3_next 339 = .ok (.if_icmp .eq 9, 3) := dk_159 0 9 (dk_at dksX3_next_14 14 rfl rfl)
theorem dX3_next_342 : decode cX3_next 342 = .ok (.iload_n 1, 1) := dk_27 (dk_at dksX3_next_14 17 rfl rfl)
theorem dX3_next_343 : decode cX3_next 343 = .ok (.bipush 62, 2) := dk_16 62 (dk_at dksX3_next_14 18 rfl rfl)
theorem dX3_next_345 : decode cX3_next 345 = .ok (.if_icmp .ne 57, 3) := dk_160 0 57 (dk_at dksX3_next_14 20 rfl rfl)
theorem dX3_next_348 : decode cX3_next 348 = .ok (.aload_n 0, 1) := dk_42 (dk_at dksX3_next_14 23 rfl rfl)
theorem dX3_next_349 : decode cX3_next 349 = .ok (.getfield 19, 3) := dk_180 0 19 (dk_at dksX3_next_15 0 rfl rfl)
theorem dX3_next_352 : decode cX3_next 352 = .ok (.aload_n 0, 1) := dk_42 (dk_at dksX3_next_15 3 rfl rfl)
theorem dX3_next_353 : decode cX3_next 353 = .ok (.getfield 15, 3) := dk_180 0 15 (dk_at dksX3_next_15 4 rfl rfl)
theorem dX3_next_356 : decode cX3_next 356 = .ok (.if_icmp .ge 46, 3) := dk_162 0 46 (dk_at dksX3_next_15 7 rfl rfl)
theorem dX3_next_359 : decode cX3_next 359 = .ok (.aload_n 0, 1) := dk_42 (dk_at dksX3_next_15 10 rfl rfl)
theorem dX3_next_360 : decode cX3_next 360 = .ok (.getfield 9, 3) := dk_180 0 9 (dk_at dksX3_next_15 11 rfl rfl)
theorem dX3_next_363 : decode cX3_next 363 = .ok (.aload_n 0, 1) := dk_42 (dk_at dksX3_next_15 14 rfl rfl)
theorem dX3_next_364 : decode cX3_next 364 = .ok (.getfield 19, 3) := dk_180 0 19 (dk_at dksX3_next_15 15 rfl rfl)
theorem dX3_next_367 : decode cX3_next 367 = .ok (.baload, 1) := dk_51 (dk_at dksX3_next_15 18 rfl rfl)
theorem dX3_next_368 : decode cX3_next 368 = .ok (.bipush 61, 2) := dk_16 61 (dk_at dksX3_next_15 19 rfl rfl)
theorem dX3_next_370 : decode cX3_next 370 = .ok (.if_icmp .ne 32, 3) := dk_160 0 32 (dk_at dksX3_next_15 21 rfl rfl)
theorem dX3_next_373 : decode cX3_next 373 = .ok (.aload_n 0, 1) := dk_42 (dk_at dksX3_next_16 0 rfl rfl)
theorem dX3_next_374 : decode cX3_next 374 = .ok (.iload_n 1, 1) := dk_27 (dk_at dksX3_next_16 1 rfl rfl)
theorem dX3_next_375 : decode cX3_next 375 = .ok (.bipush 60, 2) := dk_16 60 (dk_at dksX3_next_16 2 rfl rfl)
theorem dX3_next_377 : decode cX3_next 377 = .ok (.if_icmp .ne 9, 3) := dk_160 0 9 (dk_at dksX3_next_16 4 rfl rfl)
theorem dX3_next_380 : decode cX3_next 380 = .ok (.sipush 303, 3) := dk_17 1 47 (dk_at dksX3_next_16 7 rfl rfl)
theorem dX3_next_383 : decode cX3_next 383 = .ok (.goto 6, 3) := dk_167 0 6 (dk_at dksX3_next_16 10 rfl rfl)
theorem dX3_next_386 : decode cX3_next 386 = .ok (.sipush 304, 3) := dk_17 1 48 (dk_at dksX3_next_16 13 rfl rfl)
theorem dX3_next_389 : decode cX3_next 389 = .ok (.putfield 25, 3) := dk_181 0 25 (dk_at dksX3_next_16 16 rfl rfl)
theorem dX3_next_392 : decode cX3_next 392 = .ok (.aload_n 0, 1) := dk_42 (dk_at dksX3_next_16 19 rfl rfl)
theorem dX3_next_393 : decode cX3_next 393 = .ok (.dup, 1) := dk_89 (dk_at dksX3_next_16 20 rfl rfl)
theorem dX3_next_394 : decode cX3_next 394 = .ok (.getfield 19, 3) := dk_180 0 19 (dk_at dksX3_next_16 21 rfl rfl)
theorem dX3_next_397 : decode cX3_next 397 = .ok (.iconst 1, 1) := dk_4 (dk_at dksX3_next_17 0 rfl rfl)
theorem dX3_next_398 : decode cX3_next 398 = .ok (.iadd, 1) := dk_96 (dk_at dksX3_next_17 1 rfl rfl)
theorem dX3_next_399 : decode cX3_next 399 = .ok (.putfield 19, 3) := dk_181 0 19 (dk_at dksX3_next_17 2 rfl rfl)
theorem dX3_next_402 : decode cX3_next 402 = .ok (.return_, 1) := dk_177 (dk_at dksX3_next_17 5 rfl rfl)
abbrev cX3_isLetter : ByteArray := prog_14_method_2_code
def yX3_isLetter : MethodName := ⟨RX3, "isLetter", "(I)Z"⟩
def dkwX3_isLetter_1 : List UInt8 := [4, 167, 0, 4, 3, 172]
abbrev dktX3_isLetter_1 : List UInt8 := dkwX3_isLetter_1 ++ []
def dkwX3_isLetter_0 : List UInt8 := [26, 16, 97, 161, 0, 9, 26, 16, 122, 164, 0, 15, 26, 16, 65, 161, 0, 13, 26, 16, 90, 163, 0, 7]
abbrev dktX3_isLetter_0 : List UInt8 := dkwX3_isLetter_0 ++ dktX3_isLetter_1
theorem dksX3_isLetter_0 : cX3_isLetter.data.toList.drop 0 = dktX3_isLetter_0 := by decide +kernel
theorem dksX3_isLetter_1 : cX3_isLetter.data.toList.drop 24 = dktX3_isLetter_1 := dk_seg dksX3_isLetter_0 24 rfl rfl
theorem dX3_isLetter_0 : decode cX3_isLetter 0 = .ok (.iload_n 0, 1) := dk_26 (dk_at dksX3_isLetter_0 0 rfl rfl)
theorem dX3_isLetter_1 : decode cX3_isLetter 1 = .ok (.bipush 97, 2) := dk_16 97 (dk_at dksX3_isLetter_0 1 rfl rfl)
theorem dX3_isLetter_3 : decode cX3_isLetter 3 = .ok (.if_icmp .lt 9, 3) := dk_161 0 9 (dk_at dksX3_isLetter_0 3 rfl rfl)
theorem dX3_isLetter_6 : decode cX3_isLetter 6 = .ok (.iload_n 0, 1) := dk_26 (dk_at dksX3_isLetter_0 6 rfl rfl)
theorem dX3_isLetter_7 : decode cX3_isLetter 7 = .ok (.bipush 122, 2) := dk_16 122 (dk_at dksX3_isLetter_0 7 rfl rfl)
theorem dX3_isLetter_9 : decode cX3_isLetter 9 = .ok (.if_icmp .le 15, 3) := dk_164 0 15 (dk_at dksX3_isLetter_0 9 rfl rfl)
theorem dX3_isLetter_12 : decode cX3_isLetter 12 = .ok (.iload_n 0, 1) := dk_26 (dk_at dksX3_isLetter_0 12 rfl rfl)
theorem dX3_isLetter_13 : decode cX3_isLetter 13 = .ok (.bipush 65, 2) := dk_16 65 (dk_at dksX3_isLetter_0 13 rfl rfl)
theorem dX3_isLetter_15 : decode cX3_isLetter 15 = .ok (.if_icmp .lt 13, 3) := dk_161 0 13 (dk_at dksX3_isLetter_0 15 rfl rfl)
theorem dX3_isLetter_18 : decode cX3_isLetter 18 = .ok (.iload_n 0, 1) := dk_26 (dk_at dksX3_isLetter_0 18 rfl rfl)
theorem dX3_isLetter_19 : decode cX3_isLetter 19 = .ok (.bipush 90, 2) := dk_16 90 (dk_at dksX3_isLetter_0 19 rfl rfl)
theorem dX3_isLetter_21 : decode cX3_isLetter 21 = .ok (.if_icmp .gt 7, 3) := dk_163 0 7 (dk_at dksX3_isLetter_0 21 rfl rfl)
theorem dX3_isLetter_24 : decode cX3_isLetter 24 = .ok (.iconst 1, 1) := dk_4 (dk_at dksX3_isLetter_1 0 rfl rfl)
theorem dX3_isLetter_25 : decode cX3_isLetter 25 = .ok (.goto 4, 3) := dk_167 0 4 (dk_at dksX3_isLetter_1 1 rfl rfl)
theorem dX3_isLetter_28 : decode cX3_isLetter 28 = .ok (.iconst 0, 1) := dk_3 (dk_at dksX3_isLetter_1 4 rfl rfl)
theorem dX3_isLetter_29 : decode cX3_isLetter 29 = .ok (.ireturn, 1) := dk_172 (dk_at dksX3_isLetter_1 5 rfl rfl)
abbrev cX3_isWord : ByteArray := prog_14_method_5_code
def yX3_isWord : MethodName := ⟨RX3, "isWord", "(Ljava/lang/String;)Z"⟩
def dkwX3_isWord_2 : List UInt8 := [159, 0, 5, 3, 172, 132, 2, 1, 167, 255, 224, 4, 172]
abbrev dktX3_isWord_2 : List UInt8 := dkwX3_isWord_2 ++ []
def dkwX3_isWord_1 : List UInt8 := [182, 0, 55, 162, 0, 30, 42, 180, 0, 9, 42, 180, 0, 22, 28, 96, 51, 43, 28, 182, 0, 61]
abbrev dktX3_isWord_1 : List UInt8 := dkwX3_isWord_1 ++ dktX3_isWord_2
def dkwX3_isWord_0 : List UInt8 := [42, 180, 0, 19, 42, 180, 0, 22, 100, 43, 182, 0, 55, 159, 0, 5, 3, 172, 3, 61, 28, 43]
abbrev dktX3_isWord_0 : List UInt8 := dkwX3_isWord_0 ++ dktX3_isWord_1
theorem dksX3_isWord_0 : cX3_isWord.data.toList.drop 0 = dktX3_isWord_0 := by decide +kernel
theorem dksX3_isWord_1 : cX3_isWord.data.toList.drop 22 = dktX3_isWord_1 := dk_seg dksX3_isWord_0 22 rfl rfl
theorem dksX3_isWord_2 : cX3_isWord.data.toList.drop 44 = dktX3_isWord_2 := dk_seg dksX3_isWord_1 22 rfl rfl
theorem dX3_isWord_0 : decode cX3_isWord 0 = .ok (.aload_n 0, 1) := dk_42 (dk_at dksX3_isWord_0 0 rfl rfl)
theorem dX3_isWord_1 : decode cX3_isWord 1 = .ok (.getfield 19, 3) := dk_180 0 19 (dk_at dksX3_isWord_0 1 rfl rfl)
theorem dX3_isWord_4 : decode cX3_isWord 4 = .ok (.aload_n 0, 1) := dk_42 (dk_at dksX3_isWord_0 4 rfl rfl)
theorem dX3_isWord_5 : decode cX3_isWord 5 = .ok (.getfield 22, 3) := dk_180 0 22 (dk_at dksX3_isWord_0 5 rfl rfl)
theorem dX3_isWord_8 : decode cX3_isWord 8 = .ok (.isub, 1) := dk_100 (dk_at dksX3_isWord_0 8 rfl rfl)
theorem dX3_isWord_9 : decode cX3_isWord 9 = .ok (.aload_n 1, 1) := dk_43 (dk_at dksX3_isWord_0 9 rfl rfl)
theorem dX3_isWord_10 : decode cX3_isWord 10 = .ok (.invokevirtual 55, 3) := dk_182 0 55 (dk_at dksX3_isWord_0 10 rfl rfl)
theorem dX3_isWord_13 : decode cX3_isWord 13 = .ok (.if_icmp .eq 5, 3) := dk_159 0 5 (dk_at dksX3_isWord_0 13 rfl rfl)
theorem dX3_isWord_16 : decode cX3_isWord 16 = .ok (.iconst 0, 1) := dk_3 (dk_at dksX3_isWord_0 16 rfl rfl)
theorem dX3_isWord_17 : decode cX3_isWord 17 = .ok (.ireturn, 1) := dk_172 (dk_at dksX3_isWord_0 17 rfl rfl)
theorem dX3_isWord_18 : decode cX3_isWord 18 = .ok (.iconst 0, 1) := dk_3 (dk_at dksX3_isWord_0 18 rfl rfl)
theorem dX3_isWord_19 : decode cX3_isWord 19 = .ok (.istore_n 2, 1) := dk_61 (dk_at dksX3_isWord_0 19 rfl rfl)
theorem dX3_isWord_20 : decode cX3_isWord 20 = .ok (.iload_n 2, 1) := dk_28 (dk_at dksX3_isWord_0 20 rfl rfl)
theorem dX3_isWord_21 : decode cX3_isWord 21 = .ok (.aload_n 1, 1) := dk_43 (dk_at dksX3_isWord_0 21 rfl rfl)
theorem dX3_isWord_22 : decode cX3_isWord 22 = .ok (.invokevirtual 55, 3) := dk_182 0 55 (dk_at dksX3_isWord_1 0 rfl rfl)
theorem dX3_isWord_25 : decode cX3_isWord 25 = .ok (.if_icmp .ge 30, 3) := dk_162 0 30 (dk_at dksX3_isWord_1 3 rfl rfl)
theorem dX3_isWord_28 : decode cX3_isWord 28 = .ok (.aload_n 0, 1) := dk_42 (dk_at dksX3_isWord_1 6 rfl rfl)
theorem dX3_isWord_29 : decode cX3_isWord 29 = .ok (.getfield 9, 3) := dk_180 0 9 (dk_at dksX3_isWord_1 7 rfl rfl)
theorem dX3_isWord_32 : decode cX3_isWord 32 = .ok (.aload_n 0, 1) := dk_42 (dk_at dksX3_isWord_1 10 rfl rfl)
theorem dX3_isWord_33 : decode cX3_isWord 33 = .ok (.getfield 22, 3) := dk_180 0 22 (dk_at dksX3_isWord_1 11 rfl rfl)
theorem dX3_isWord_36 : decode cX3_isWord 36 = .ok (.iload_n 2, 1) := dk_28 (dk_at dksX3_isWord_1 14 rfl rfl)
theorem dX3_isWord_37 : decode cX3_isWord 37 = .ok (.iadd, 1) := dk_96 (dk_at dksX3_isWord_1 15 rfl rfl)
theorem dX3_isWord_38 : decode cX3_isWord 38 = .ok (.baload, 1) := dk_51 (dk_at dksX3_isWord_1 16 rfl rfl)
theorem dX3_isWord_39 : decode cX3_isWord 39 = .ok (.aload_n 1, 1) := dk_43 (dk_at dksX3_isWord_1 17 rfl rfl)
theorem dX3_isWord_40 : decode cX3_isWord 40 = .ok (.iload_n 2, 1) := dk_28 (dk_at dksX3_isWord_1 18 rfl rfl)
theorem dX3_isWord_41 : decode cX3_isWord 41 = .ok (.invokevirtual 61, 3) := dk_182 0 61 (dk_at dksX3_isWord_1 19 rfl rfl)
theorem dX3_isWord_44 : decode cX3_isWord 44 = .ok (.if_icmp .eq 5, 3) := dk_159 0 5 (dk_at dksX3_isWord_2 0 rfl rfl)
theorem dX3_isWord_47 : decode cX3_isWord 47 = .ok (.iconst 0, 1) := dk_3 (dk_at dksX3_isWord_2 3 rfl rfl)
theorem dX3_isWord_48 : decode cX3_isWord 48 = .ok (.ireturn, 1) := dk_172 (dk_at dksX3_isWord_2 4 rfl rfl)
theorem dX3_isWord_49 : decode cX3_isWord 49 = .ok (.iinc 2 1, 3) := dk_132 2 1 (dk_at dksX3_isWord_2 5 rfl rfl)
theorem dX3_isWord_52 : decode cX3_isWord 52 = .ok (.goto (-32), 3) := dk_167 255 224 (dk_at dksX3_isWord_2 8 rfl rfl)
theorem dX3_isWord_55 : decode cX3_isWord 55 = .ok (.iconst 1, 1) := dk_4 (dk_at dksX3_isWord_2 11 rfl rfl)
theorem dX3_isWord_56 : decode cX3_isWord 56 = .ok (.ireturn, 1) := dk_172 (dk_at dksX3_isWord_2 12 rfl rfl)
abbrev cX3_isDigit : ByteArray := prog_14_method_3_code
def yX3_isDigit : MethodName := ⟨RX3, "isDigit", "(I)Z"⟩
def dkwX3_isDigit_0 : List UInt8 := [26, 16, 48, 161, 0, 13, 26, 16, 57, 163, 0, 7, 4, 167, 0, 4, 3, 172]
abbrev dktX3_isDigit_0 : List UInt8 := dkwX3_isDigit_0 ++ []
theorem dksX3_isDigit_0 : cX3_isDigit.data.toList.drop 0 = dktX3_isDigit_0 := by decide +kernel
theorem dX3_isDigit_0 : decode cX3_isDigit 0 = .ok (.iload_n 0, 1) := dk_26 (dk_at dksX3_isDigit_0 0 rfl rfl)
theorem dX3_isDigit_1 : decode cX3_isDigit 1 = .ok (.bipush 48, 2) := dk_16 48 (dk_at dksX3_isDigit_0 1 rfl rfl)
theorem dX3_isDigit_3 : decode cX3_isDigit 3 = .ok (.if_icmp .lt 13, 3) := dk_161 0 13 (dk_at dksX3_isDigit_0 3 rfl rfl)
theorem dX3_isDigit_6 : decode cX3_isDigit 6 = .ok (.iload_n 0, 1) := dk_26 (dk_at dksX3_isDigit_0 6 rfl rfl)
theorem dX3_isDigit_7 : decode cX3_isDigit 7 = .ok (.bipush 57, 2) := dk_16 57 (dk_at dksX3_isDigit_0 7 rfl rfl)
theorem dX3_isDigit_9 : decode cX3_isDigit 9 = .ok (.if_icmp .gt 7, 3) := dk_163 0 7 (dk_at dksX3_isDigit_0 9 rfl rfl)
theorem dX3_isDigit_12 : decode cX3_isDigit 12 = .ok (.iconst 1, 1) := dk_4 (dk_at dksX3_isDigit_0 12 rfl rfl)
theorem dX3_isDigit_13 : decode cX3_isDigit 13 = .ok (.goto 4, 3) := dk_167 0 4 (dk_at dksX3_isDigit_0 13 rfl rfl)
theorem dX3_isDigit_16 : decode cX3_isDigit 16 = .ok (.iconst 0, 1) := dk_3 (dk_at dksX3_isDigit_0 16 rfl rfl)
theorem dX3_isDigit_17 : decode cX3_isDigit 17 = .ok (.ireturn, 1) := dk_172 (dk_at dksX3_isDigit_0 17 rfl rfl)
abbrev cX3_wrong : ByteArray := prog_14_method_6_code
def yX3_wrong : MethodName := ⟨RX3, "wrong", "(I)LNumberComes$Wrong;"⟩
def dkwX3_wrong_0 : List UInt8 := [187, 0, 65, 89, 27, 42, 180, 0, 22, 183, 0, 67, 176]
abbrev dktX3_wrong_0 : List UInt8 := dkwX3_wrong_0 ++ []
theorem dksX3_wrong_0 : cX3_wrong.data.toList.drop 0 = dktX3_wrong_0 := by decide +kernel
theorem dX3_wrong_0 : decode cX3_wrong 0 = .ok (.new 65, 3) := dk_187 0 65 (dk_at dksX3_wrong_0 0 rfl rfl)
theorem dX3_wrong_3 : decode cX3_wrong 3 = .ok (.dup, 1) := dk_89 (dk_at dksX3_wrong_0 3 rfl rfl)
theorem dX3_wrong_4 : decode cX3_wrong 4 = .ok (.iload_n 1, 1) := dk_27 (dk_at dksX3_wrong_0 4 rfl rfl)
theorem dX3_wrong_5 : decode cX3_wrong 5 = .ok (.aload_n 0, 1) := dk_42 (dk_at dksX3_wrong_0 5 rfl rfl)
theorem dX3_wrong_6 : decode cX3_wrong 6 = .ok (.getfield 22, 3) := dk_180 0 22 (dk_at dksX3_wrong_0 6 rfl rfl)
theorem dX3_wrong_9 : decode cX3_wrong 9 = .ok (.invokespecial 67, 3) := dk_183 0 67 (dk_at dksX3_wrong_0 9 rfl rfl)
theorem dX3_wrong_12 : decode cX3_wrong 12 = .ok (.areturn, 1) := dk_176 (dk_at dksX3_wrong_0 12 rfl rfl)
abbrev cX3_clause : ByteArray := prog_14_method_11_code
def yX3_clause : MethodName := ⟨RX3, "clause", "(LNumberComes$Text;)V"⟩
def dkwX3_clause_6 : List UInt8 := [182, 0, 109, 87, 177]
abbrev dktX3_clause_6 : List UInt8 := dkwX3_clause_6 ++ []
def dkwX3_clause_5 : List UInt8 := [42, 3, 28, 153, 0, 9, 17, 39, 15, 167, 0, 5, 16, 11, 182, 0, 119, 43, 180, 0, 90, 183, 0, 126]
abbrev dktX3_clause_5 : List UInt8 := dkwX3_clause_5 ++ dktX3_clause_6
def dkwX3_clause_4 : List UInt8 := [153, 0, 9, 17, 0, 204, 167, 0, 5, 16, 44, 182, 0, 97, 43, 180, 0, 121, 187, 0, 124, 89, 28, 29]
abbrev dktX3_clause_4 : List UInt8 := dkwX3_clause_4 ++ dktX3_clause_5
def dkwX3_clause_3 : List UInt8 := [167, 0, 4, 3, 28, 153, 0, 9, 17, 39, 15, 167, 0, 5, 16, 11, 182, 0, 119, 62, 42, 28]
abbrev dktX3_clause_3 : List UInt8 := dkwX3_clause_3 ++ dktX3_clause_4
def dkwX3_clause_2 : List UInt8 := [42, 180, 0, 83, 17, 0, 202, 160, 0, 7, 4, 167, 0, 4, 3, 61, 42, 28, 153, 0, 7, 4]
abbrev dktX3_clause_2 : List UInt8 := dkwX3_clause_2 ++ dktX3_clause_3
def dkwX3_clause_1 : List UInt8 := [167, 0, 120, 42, 180, 0, 83, 17, 0, 201, 160, 0, 14, 43, 42, 182, 0, 115, 181, 0, 86, 167, 0, 99]
abbrev dktX3_clause_1 : List UInt8 := dkwX3_clause_1 ++ dktX3_clause_2
def dkwX3_clause_0 : List UInt8 := [42, 180, 0, 83, 17, 0, 200, 160, 0, 18, 43, 180, 0, 101, 42, 182, 0, 105, 182, 0, 109, 87]
abbrev dktX3_clause_0 : List UInt8 := dkwX3_clause_0 ++ dktX3_clause_1
theorem dksX3_clause_0 : cX3_clause.data.toList.drop 0 = dktX3_clause_0 := by decide +kernel
theorem dksX3_clause_1 : cX3_clause.data.toList.drop 22 = dktX3_clause_1 := dk_seg dksX3_clause_0 22 rfl rfl
theorem dksX3_clause_2 : cX3_clause.data.toList.drop 46 = dktX3_clause_2 := dk_seg dksX3_clause_1 24 rfl rfl
theorem dksX3_clause_3 : cX3_clause.data.toList.drop 68 = dktX3_clause_3 := dk_seg dksX3_clause_2 22 rfl rfl
theorem dksX3_clause_4 : cX3_clause.data.toList.drop 90 = dktX3_clause_4 := dk_seg dksX3_clause_3 22 rfl rfl
theorem dksX3_clause_5 : cX3_clause.data.toList.drop 114 = dktX3_clause_5 := dk_seg dksX3_clause_4 24 rfl rfl
theorem dksX3_clause_6 : cX3_clause.data.toList.drop 138 = dktX3_clause_6 := dk_seg dksX3_clause_5 24 rfl rfl
theorem dX3_clause_0 : decode cX3_clause 0 = .ok (.aload_n 0, 1) := dk_42 (dk_at dksX3_clause_0 0 rfl rfl)
theorem dX3_clause_1 : decode cX3_clause 1 = .ok (.getfield 83, 3) := dk_180 0 83 (dk_at dksX3_clause_0 1 rfl rfl)
theorem dX3_clause_4 : decode cX3_clause 4 = .ok (.sipush 200, 3) := dk_17 0 200 (dk_at dksX3_clause_0 4 rfl rfl)
theorem dX3_clause_7 : decode cX3_clause 7 = .ok (.if_icmp .ne 18, 3) := dk_160 0 18 (dk_at dksX3_clause_0 7 rfl rfl)
theorem dX3_clause_10 : decode cX3_clause 10 = .ok (.aload_n 1, 1) := dk_43 (dk_at dksX3_clause_0 10 rfl rfl)
theorem dX3_clause_11 : decode cX3_clause 11 = .ok (.getfield 101, 3) := dk_180 0 101 (dk_at dksX3_clause_0 11 rfl rfl)
theorem dX3_clause_14 : decode cX3_clause 14 = .ok (.aload_n 0, 1) := dk_42 (dk_at dksX3_clause_0 14 rfl rfl)
theorem dX3_clause_15 : decode cX3_clause 15 = .ok (.invokevirtual 105, 3) := dk_182 0 105 (dk_at dksX3_clause_0 15 rfl rfl)
theorem dX3_clause_18 : decode cX3_clause 18 = .ok (.invokevirtual 109, 3) := dk_182 0 109 (dk_at dksX3_clause_0 18 rfl rfl)
theorem dX3_clause_21 : decode cX3_clause 21 = .ok (.pop, 1) := dk_87 (dk_at dksX3_clause_0 21 rfl rfl)
theorem dX3_clause_22 : decode cX3_clause 22 = .ok (.goto 120, 3) := dk_167 0 120 (dk_at dksX3_clause_1 0 rfl rfl)
theorem dX3_clause_25 : decode cX3_clause 25 = .ok (.aload_n 0, 1) := dk_42 (dk_at dksX3_clause_1 3 rfl rfl)
theorem dX3_clause_26 : decode cX3_clause 26 = .ok (.getfield 83, 3) := dk_180 0 83 (dk_at dksX3_clause_1 4 rfl rfl)
theorem dX3_clause_29 : decode cX3_clause 29 = .ok (.sipush 201, 3) := dk_17 0 201 (dk_at dksX3_clause_1 7 rfl rfl)
theorem dX3_clause_32 : decode cX3_clause 32 = .ok (.if_icmp .ne 14, 3) := dk_160 0 14 (dk_at dksX3_clause_1 10 rfl rfl)
theorem dX3_clause_35 : decode cX3_clause 35 = .ok (.aload_n 1, 1) := dk_43 (dk_at dksX3_clause_1 13 rfl rfl)
theorem dX3_clause_36 : decode cX3_clause 36 = .ok (.aload_n 0, 1) := dk_42 (dk_at dksX3_clause_1 14 rfl rfl)
theorem dX3_clause_37 : decode cX3_clause 37 = .ok (.invokevirtual 115, 3) := dk_182 0 115 (dk_at dksX3_clause_1 15 rfl rfl)
theorem dX3_clause_40 : decode cX3_clause 40 = .ok (.putfield 86, 3) := dk_181 0 86 (dk_at dksX3_clause_1 18 rfl rfl)
theorem dX3_clause_43 : decode cX3_clause 43 = .ok (.goto 99, 3) := dk_167 0 99 (dk_at dksX3_clause_1 21 rfl rfl)
theorem dX3_clause_46 : decode cX3_clause 46 = .ok (.aload_n 0, 1) := dk_42 (dk_at dksX3_clause_2 0 rfl rfl)
theorem dX3_clause_47 : decode cX3_clause 47 = .ok (.getfield 83, 3) := dk_180 0 83 (dk_at dksX3_clause_2 1 rfl rfl)
theorem dX3_clause_50 : decode cX3_clause 50 = .ok (.sipush 202, 3) := dk_17 0 202 (dk_at dksX3_clause_2 4 rfl rfl)
theorem dX3_clause_53 : decode cX3_clause 53 = .ok (.if_icmp .ne 7, 3) := dk_160 0 7 (dk_at dksX3_clause_2 7 rfl rfl)
theorem dX3_clause_56 : decode cX3_clause 56 = .ok (.iconst 1, 1) := dk_4 (dk_at dksX3_clause_2 10 rfl rfl)
theorem dX3_clause_57 : decode cX3_clause 57 = .ok (.goto 4, 3) := dk_167 0 4 (dk_at dksX3_clause_2 11 rfl rfl)
theorem dX3_clause_60 : decode cX3_clause 60 = .ok (.iconst 0, 1) := dk_3 (dk_at dksX3_clause_2 14 rfl rfl)
theorem dX3_clause_61 : decode cX3_clause 61 = .ok (.istore_n 2, 1) := dk_61 (dk_at dksX3_clause_2 15 rfl rfl)
theorem dX3_clause_62 : decode cX3_clause 62 = .ok (.aload_n 0, 1) := dk_42 (dk_at dksX3_clause_2 16 rfl rfl)
theorem dX3_clause_63 : decode cX3_clause 63 = .ok (.iload_n 2, 1) := dk_28 (dk_at dksX3_clause_2 17 rfl rfl)
theorem dX3_clause_64 : decode cX3_clause 64 = .ok (.ifCond .eq 7, 3) := dk_153 0 7 (dk_at dksX3_clause_2 18 rfl rfl)
theorem dX3_clause_67 : decode cX3_clause 67 = .ok (.iconst 1, 1) := dk_4 (dk_at dksX3_clause_2 21 rfl rfl)
theorem dX3_clause_68 : decode cX3_clause 68 = .ok (.goto 4, 3) := dk_167 0 4 (dk_at dksX3_clause_3 0 rfl rfl)
theorem dX3_clause_71 : decode cX3_clause 71 = .ok (.iconst 0, 1) := dk_3 (dk_at dksX3_clause_3 3 rfl rfl)
theorem dX3_clause_72 : decode cX3_clause 72 = .ok (.iload_n 2, 1) := dk_28 (dk_at dksX3_clause_3 4 rfl rfl)
theorem dX3_clause_73 : decode cX3_clause 73 = .ok (.ifCond .eq 9, 3) := dk_153 0 9 (dk_at dksX3_clause_3 5 rfl rfl)
theorem dX3_clause_76 : decode cX3_clause 76 = .ok (.sipush 9999, 3) := dk_17 39 15 (dk_at dksX3_clause_3 8 rfl rfl)
theorem dX3_clause_79 : decode cX3_clause 79 = .ok (.goto 5, 3) := dk_167 0 5 (dk_at dksX3_clause_3 11 rfl rfl)
theorem dX3_clause_82 : decode cX3_clause 82 = .ok (.bipush 11, 2) := dk_16 11 (dk_at dksX3_clause_3 14 rfl rfl)
theorem dX3_clause_84 : decode cX3_clause 84 = .ok (.invokevirtual 119, 3) := dk_182 0 119 (dk_at dksX3_clause_3 16 rfl rfl)
theorem dX3_clause_87 : decode cX3_clause 87 = .ok (.istore_n 3, 1) := dk_62 (dk_at dksX3_clause_3 19 rfl rfl)
theorem dX3_clause_88 : decode cX3_clause 88 = .ok (.aload_n 0, 1) := dk_42 (dk_at dksX3_clause_3 20 rfl rfl)
theorem dX3_clause_89 : decode cX3_clause 89 = .ok (.iload_n 2, 1) := dk_28 (dk_at dksX3_clause_3 21 rfl rfl)
theorem dX3_clause_90 : decode cX3_clause 90 = .ok (.ifCond .eq 9, 3) := dk_153 0 9 (dk_at dksX3_clause_4 0 rfl rfl)
theorem dX3_clause_93 : decode cX3_clause 93 = .ok (.sipush 204, 3) := dk_17 0 204 (dk_at dksX3_clause_4 3 rfl rfl)
theorem dX3_clause_96 : decode cX3_clause 96 = .ok (.goto 5, 3) := dk_167 0 5 (dk_at dksX3_clause_4 6 rfl rfl)
theorem dX3_clause_99 : decode cX3_clause 99 = .ok (.bipush 44, 2) := dk_16 44 (dk_at dksX3_clause_4 9 rfl rfl)
theorem dX3_clause_101 : decode cX3_clause 101 = .ok (.invokevirtual 97, 3) := dk_182 0 97 (dk_at dksX3_clause_4 11 rfl rfl)
theorem dX3_clause_104 : decode cX3_clause 104 = .ok (.aload_n 1, 1) := dk_43 (dk_at dksX3_clause_4 14 rfl rfl)
theorem dX3_clause_105 : decode cX3_clause 105 = .ok (.getfield 121, 3) := dk_180 0 121 (dk_at dksX3_clause_4 15 rfl rfl)
theorem dX3_clause_108 : decode cX3_clause 108 = .ok (.new 124, 3) := dk_187 0 124 (dk_at dksX3_clause_4 18 rfl rfl)
theorem dX3_clause_111 : decode cX3_clause 111 = .ok (.dup, 1) := dk_89 (dk_at dksX3_clause_4 21 rfl rfl)
theorem dX3_clause_112 : decode cX3_clause 112 = .ok (.iload_n 2, 1) := dk_28 (dk_at dksX3_clause_4 22 rfl rfl)
theorem dX3_clause_113 : decode cX3_clause 113 = .ok (.iload_n 3, 1) := dk_29 (dk_at dksX3_clause_4 23 rfl rfl)
theorem dX3_clause_114 : decode cX3_clause 114 = .ok (.aload_n 0, 1) := dk_42 (dk_at dksX3_clause_5 0 rfl rfl)
theorem dX3_clause_115 : decode cX3_clause 115 = .ok (.iconst 0, 1) := dk_3 (dk_at dksX3_clause_5 1 rfl rfl)
theorem dX3_clause_116 : decode cX3_clause 116 = .ok (.iload_n 2, 1) := dk_28 (dk_at dksX3_clause_5 2 rfl rfl)
theorem dX3_clause_117 : decode cX3_clause 117 = .ok (.ifCond .eq 9, 3) := dk_153 0 9 (dk_at dksX3_clause_5 3 rfl rfl)
theorem dX3_clause_120 : decode cX3_clause 120 = .ok (.sipush 9999, 3) := dk_17 39 15 (dk_at dksX3_clause_5 6 rfl rfl)
theorem dX3_clause_123 : decode cX3_clause 123 = .ok (.goto 5, 3) := dk_167 0 5 (dk_at dksX3_clause_5 9 rfl rfl)
theorem dX3_clause_126 : decode cX3_clause 126 = .ok (.bipush 11, 2) := dk_16 11 (dk_at dksX3_clause_5 12 rfl rfl)
theorem dX3_clause_128 : decode cX3_clause 128 = .ok (.invokevirtual 119, 3) := dk_182 0 119 (dk_at dksX3_clause_5 14 rfl rfl)
theorem dX3_clause_131 : decode cX3_clause 131 = .ok (.aload_n 1, 1) := dk_43 (dk_at dksX3_clause_5 17 rfl rfl)
theorem dX3_clause_132 : decode cX3_clause 132 = .ok (.getfield 90, 3) := dk_180 0 90 (dk_at dksX3_clause_5 18 rfl rfl)
theorem dX3_clause_135 : decode cX3_clause 135 = .ok (.invokespecial 126, 3) := dk_183 0 126 (dk_at dksX3_clause_5 21 rfl rfl)
theorem dX3_clause_138 : decode cX3_clause 138 = .ok (.invokevirtual 109, 3) := dk_182 0 109 (dk_at dksX3_clause_6 0 rfl rfl)
theorem dX3_clause_141 : decode cX3_clause 141 = .ok (.pop, 1) := dk_87 (dk_at dksX3_clause_6 3 rfl rfl)
theorem dX3_clause_142 : decode cX3_clause 142 = .ok (.return_, 1) := dk_177 (dk_at dksX3_clause_6 4 rfl rfl)
abbrev cX3_either : ByteArray := prog_14_method_12_code
def yX3_either : MethodName := ⟨RX3, "either", "()LNumberComes$Asked;"⟩
def dkwX3_either_2 : List UInt8 := [160, 0, 14, 43, 3, 182, 0, 135, 192, 0, 139, 167, 0, 12, 187, 0, 141, 89, 3, 43, 183, 0, 143, 176]
abbrev dktX3_either_2 : List UInt8 := dkwX3_either_2 ++ []
def dkwX3_either_1 : List UInt8 := [160, 0, 19, 42, 182, 0, 74, 43, 42, 182, 0, 130, 182, 0, 109, 87, 167, 255, 233, 43, 182, 0, 133, 4]
abbrev dktX3_either_1 : List UInt8 := dkwX3_either_1 ++ dktX3_either_2
def dkwX3_either_0 : List UInt8 := [187, 0, 110, 89, 183, 0, 129, 76, 43, 42, 182, 0, 130, 182, 0, 109, 87, 42, 180, 0, 25, 17, 0, 205]
abbrev dktX3_either_0 : List UInt8 := dkwX3_either_0 ++ dktX3_either_1
theorem dksX3_either_0 : cX3_either.data.toList.drop 0 = dktX3_either_0 := by decide +kernel
theorem dksX3_either_1 : cX3_either.data.toList.drop 24 = dktX3_either_1 := dk_seg dksX3_either_0 24 rfl rfl
theorem dksX3_either_2 : cX3_either.data.toList.drop 48 = dktX3_either_2 := dk_seg dksX3_either_1 24 rfl rfl
theorem dX3_either_0 : decode cX3_either 0 = .ok (.new 110, 3) := dk_187 0 110 (dk_at dksX3_either_0 0 rfl rfl)
theorem dX3_either_3 : decode cX3_either 3 = .ok (.dup, 1) := dk_89 (dk_at dksX3_either_0 3 rfl rfl)
theorem dX3_either_4 : decode cX3_either 4 = .ok (.invokespecial 129, 3) := dk_183 0 129 (dk_at dksX3_either_0 4 rfl rfl)
theorem dX3_either_7 : decode cX3_either 7 = .ok (.astore_n 1, 1) := dk_76 (dk_at dksX3_either_0 7 rfl rfl)
theorem dX3_either_8 : decode cX3_either 8 = .ok (.aload_n 1, 1) := dk_43 (dk_at dksX3_either_0 8 rfl rfl)
theorem dX3_either_9 : decode cX3_either 9 = .ok (.aload_n 0, 1) := dk_42 (dk_at dksX3_either_0 9 rfl rfl)
theorem dX3_either_10 : decode cX3_either 10 = .ok (.invokevirtual 130, 3) := dk_182 0 130 (dk_at dksX3_either_0 10 rfl rfl)
theorem dX3_either_13 : decode cX3_either 13 = .ok (.invokevirtual 109, 3) := dk_182 0 109 (dk_at dksX3_either_0 13 rfl rfl)
theorem dX3_either_16 : decode cX3_either 16 = .ok (.pop, 1) := dk_87 (dk_at dksX3_either_0 16 rfl rfl)
theorem dX3_either_17 : decode cX3_either 17 = .ok (.aload_n 0, 1) := dk_42 (dk_at dksX3_either_0 17 rfl rfl)
theorem dX3_either_18 : decode cX3_either 18 = .ok (.getfield 25, 3) := dk_180 0 25 (dk_at dksX3_either_0 18 rfl rfl)
theorem dX3_either_21 : decode cX3_either 21 = .ok (.sipush 205, 3) := dk_17 0 205 (dk_at dksX3_either_0 21 rfl rfl)
theorem dX3_either_24 : decode cX3_either 24 = .ok (.if_icmp .ne 19, 3) := dk_160 0 19 (dk_at dksX3_either_1 0 rfl rfl)
theorem dX3_either_27 : decode cX3_either 27 = .ok (.aload_n 0, 1) := dk_42 (dk_at dksX3_either_1 3 rfl rfl)
theorem dX3_either_28 : decode cX3_either 28 = .ok (.invokevirtual 74, 3) := dk_182 0 74 (dk_at dksX3_either_1 4 rfl rfl)
theorem dX3_either_31 : decode cX3_either 31 = .ok (.aload_n 1, 1) := dk_43 (dk_at dksX3_either_1 7 rfl rfl)
theorem dX3_either_32 : decode cX3_either 32 = .ok (.aload_n 0, 1) := dk_42 (dk_at dksX3_either_1 8 rfl rfl)
theorem dX3_either_33 : decode cX3_either 33 = .ok (.invokevirtual 130, 3) := dk_182 0 130 (dk_at dksX3_either_1 9 rfl rfl)
theorem dX3_either_36 : decode cX3_either 36 = .ok (.invokevirtual 109, 3) := dk_182 0 109 (dk_at dksX3_either_1 12 rfl rfl)
theorem dX3_either_39 : decode cX3_either 39 = .ok (.pop, 1) := dk_87 (dk_at dksX3_either_1 15 rfl rfl)
theorem dX3_either_40 : decode cX3_either 40 = .ok (.goto (-23), 3) := dk_167 255 233 (dk_at dksX3_either_1 16 rfl rfl)
theorem dX3_either_43 : decode cX3_either 43 = .ok (.aload_n 1, 1) := dk_43 (dk_at dksX3_either_1 19 rfl rfl)
theorem dX3_either_44 : decode cX3_either 44 = .ok (.invokevirtual 133, 3) := dk_182 0 133 (dk_at dksX3_either_1 20 rfl rfl)
theorem dX3_either_47 : decode cX3_either 47 = .ok (.iconst 1, 1) := dk_4 (dk_at dksX3_either_1 23 rfl rfl)
theorem dX3_either_48 : decode cX3_either 48 = .ok (.if_icmp .ne 14, 3) := dk_160 0 14 (dk_at dksX3_either_2 0 rfl rfl)
theorem dX3_either_51 : decode cX3_either 51 = .ok (.aload_n 1, 1) := dk_43 (dk_at dksX3_either_2 3 rfl rfl)
theorem dX3_either_52 : decode cX3_either 52 = .ok (.iconst 0, 1) := dk_3 (dk_at dksX3_either_2 4 rfl rfl)
theorem dX3_either_53 : decode cX3_either 53 = .ok (.invokevirtual 135, 3) := dk_182 0 135 (dk_at dksX3_either_2 5 rfl rfl)
theorem dX3_either_56 : decode cX3_either 56 = .ok (.checkcast 139, 3) := dk_192 0 139 (dk_at dksX3_either_2 8 rfl rfl)
theorem dX3_either_59 : decode cX3_either 59 = .ok (.goto 12, 3) := dk_167 0 12 (dk_at dksX3_either_2 11 rfl rfl)
theorem dX3_either_62 : decode cX3_either 62 = .ok (.new 141, 3) := dk_187 0 141 (dk_at dksX3_either_2 14 rfl rfl)
theorem dX3_either_65 : decode cX3_either 65 = .ok (.dup, 1) := dk_89 (dk_at dksX3_either_2 17 rfl rfl)
theorem dX3_either_66 : decode cX3_either 66 = .ok (.iconst 0, 1) := dk_3 (dk_at dksX3_either_2 18 rfl rfl)
theorem dX3_either_67 : decode cX3_either 67 = .ok (.aload_n 1, 1) := dk_43 (dk_at dksX3_either_2 19 rfl rfl)
theorem dX3_either_68 : decode cX3_either 68 = .ok (.invokespecial 143, 3) := dk_183 0 143 (dk_at dksX3_either_2 20 rfl rfl)
theorem dX3_either_71 : decode cX3_either 71 = .ok (.areturn, 1) := dk_176 (dk_at dksX3_either_2 23 rfl rfl)
abbrev cX3_both : ByteArray := prog_14_method_13_code
def yX3_both : MethodName := ⟨RX3, "both", "()LNumberComes$Asked;"⟩
def dkwX3_both_2 : List UInt8 := [160, 0, 14, 43, 3, 182, 0, 135, 192, 0, 139, 167, 0, 12, 187, 0, 141, 89, 4, 43, 183, 0, 143, 176]
abbrev dktX3_both_2 : List UInt8 := dkwX3_both_2 ++ []
def dkwX3_both_1 : List UInt8 := [160, 0, 19, 42, 182, 0, 74, 43, 42, 182, 0, 146, 182, 0, 109, 87, 167, 255, 233, 43, 182, 0, 133, 4]
abbrev dktX3_both_1 : List UInt8 := dkwX3_both_1 ++ dktX3_both_2
def dkwX3_both_0 : List UInt8 := [187, 0, 110, 89, 183, 0, 129, 76, 43, 42, 182, 0, 146, 182, 0, 109, 87, 42, 180, 0, 25, 17, 0, 206]
abbrev dktX3_both_0 : List UInt8 := dkwX3_both_0 ++ dktX3_both_1
theorem dksX3_both_0 : cX3_both.data.toList.drop 0 = dktX3_both_0 := by decide +kernel
theorem dksX3_both_1 : cX3_both.data.toList.drop 24 = dktX3_both_1 := dk_seg dksX3_both_0 24 rfl rfl
theorem dksX3_both_2 : cX3_both.data.toList.drop 48 = dktX3_both_2 := dk_seg dksX3_both_1 24 rfl rfl
theorem dX3_both_0 : decode cX3_both 0 = .ok (.new 110, 3) := dk_187 0 110 (dk_at dksX3_both_0 0 rfl rfl)
theorem dX3_both_3 : decode cX3_both 3 = .ok (.dup, 1) := dk_89 (dk_at dksX3_both_0 3 rfl rfl)
theorem dX3_both_4 : decode cX3_both 4 = .ok (.invokespecial 129, 3) := dk_183 0 129 (dk_at dksX3_both_0 4 rfl rfl)
theorem dX3_both_7 : decode cX3_both 7 = .ok (.astore_n 1, 1) := dk_76 (dk_at dksX3_both_0 7 rfl rfl)
theorem dX3_both_8 : decode cX3_both 8 = .ok (.aload_n 1, 1) := dk_43 (dk_at dksX3_both_0 8 rfl rfl)
theorem dX3_both_9 : decode cX3_both 9 = .ok (.aload_n 0, 1) := dk_42 (dk_at dksX3_both_0 9 rfl rfl)
theorem dX3_both_10 : decode cX3_both 10 = .ok (.invokevirtual 146, 3) := dk_182 0 146 (dk_at dksX3_both_0 10 rfl rfl)
theorem dX3_both_13 : decode cX3_both 13 = .ok (.invokevirtual 109, 3) := dk_182 0 109 (dk_at dksX3_both_0 13 rfl rfl)
theorem dX3_both_16 : decode cX3_both 16 = .ok (.pop, 1) := dk_87 (dk_at dksX3_both_0 16 rfl rfl)
theorem dX3_both_17 : decode cX3_both 17 = .ok (.aload_n 0, 1) := dk_42 (dk_at dksX3_both_0 17 rfl rfl)
theorem dX3_both_18 : decode cX3_both 18 = .ok (.getfield 25, 3) := dk_180 0 25 (dk_at dksX3_both_0 18 rfl rfl)
theorem dX3_both_21 : decode cX3_both 21 = .ok (.sipush 206, 3) := dk_17 0 206 (dk_at dksX3_both_0 21 rfl rfl)
theorem dX3_both_24 : decode cX3_both 24 = .ok (.if_icmp .ne 19, 3) := dk_160 0 19 (dk_at dksX3_both_1 0 rfl rfl)
theorem dX3_both_27 : decode cX3_both 27 = .ok (.aload_n 0, 1) := dk_42 (dk_at dksX3_both_1 3 rfl rfl)
theorem dX3_both_28 : decode cX3_both 28 = .ok (.invokevirtual 74, 3) := dk_182 0 74 (dk_at dksX3_both_1 4 rfl rfl)
theorem dX3_both_31 : decode cX3_both 31 = .ok (.aload_n 1, 1) := dk_43 (dk_at dksX3_both_1 7 rfl rfl)
theorem dX3_both_32 : decode cX3_both 32 = .ok (.aload_n 0, 1) := dk_42 (dk_at dksX3_both_1 8 rfl rfl)
theorem dX3_both_33 : decode cX3_both 33 = .ok (.invokevirtual 146, 3) := dk_182 0 146 (dk_at dksX3_both_1 9 rfl rfl)
theorem dX3_both_36 : decode cX3_both 36 = .ok (.invokevirtual 109, 3) := dk_182 0 109 (dk_at dksX3_both_1 12 rfl rfl)
theorem dX3_both_39 : decode cX3_both 39 = .ok (.pop, 1) := dk_87 (dk_at dksX3_both_1 15 rfl rfl)
theorem dX3_both_40 : decode cX3_both 40 = .ok (.goto (-23), 3) := dk_167 255 233 (dk_at dksX3_both_1 16 rfl rfl)
theorem dX3_both_43 : decode cX3_both 43 = .ok (.aload_n 1, 1) := dk_43 (dk_at dksX3_both_1 19 rfl rfl)
theorem dX3_both_44 : decode cX3_both 44 = .ok (.invokevirtual 133, 3) := dk_182 0 133 (dk_at dksX3_both_1 20 rfl rfl)
theorem dX3_both_47 : decode cX3_both 47 = .ok (.iconst 1, 1) := dk_4 (dk_at dksX3_both_1 23 rfl rfl)
theorem dX3_both_48 : decode cX3_both 48 = .ok (.if_icmp .ne 14, 3) := dk_160 0 14 (dk_at dksX3_both_2 0 rfl rfl)
theorem dX3_both_51 : decode cX3_both 51 = .ok (.aload_n 1, 1) := dk_43 (dk_at dksX3_both_2 3 rfl rfl)
theorem dX3_both_52 : decode cX3_both 52 = .ok (.iconst 0, 1) := dk_3 (dk_at dksX3_both_2 4 rfl rfl)
theorem dX3_both_53 : decode cX3_both 53 = .ok (.invokevirtual 135, 3) := dk_182 0 135 (dk_at dksX3_both_2 5 rfl rfl)
theorem dX3_both_56 : decode cX3_both 56 = .ok (.checkcast 139, 3) := dk_192 0 139 (dk_at dksX3_both_2 8 rfl rfl)
theorem dX3_both_59 : decode cX3_both 59 = .ok (.goto 12, 3) := dk_167 0 12 (dk_at dksX3_both_2 11 rfl rfl)
theorem dX3_both_62 : decode cX3_both 62 = .ok (.new 141, 3) := dk_187 0 141 (dk_at dksX3_both_2 14 rfl rfl)
theorem dX3_both_65 : decode cX3_both 65 = .ok (.dup, 1) := dk_89 (dk_at dksX3_both_2 17 rfl rfl)
theorem dX3_both_66 : decode cX3_both 66 = .ok (.iconst 1, 1) := dk_4 (dk_at dksX3_both_2 18 rfl rfl)
theorem dX3_both_67 : decode cX3_both 67 = .ok (.aload_n 1, 1) := dk_43 (dk_at dksX3_both_2 19 rfl rfl)
theorem dX3_both_68 : decode cX3_both 68 = .ok (.invokespecial 143, 3) := dk_183 0 143 (dk_at dksX3_both_2 20 rfl rfl)
theorem dX3_both_71 : decode cX3_both 71 = .ok (.areturn, 1) := dk_176 (dk_at dksX3_both_2 23 rfl rfl)
abbrev cX3_ask : ByteArray := prog_14_method_14_code
def yX3_ask : MethodName := ⟨RX3, "ask", "()LNumberComes$Asked;"⟩
def dkwX3_ask_4 : List UInt8 := [191, 42, 182, 0, 74, 187, 0, 157, 89, 28, 43, 42, 182, 0, 115, 183, 0, 159, 176]
abbrev dktX3_ask_4 : List UInt8 := dkwX3_ask_4 ++ []
def dkwX3_ask_3 : List UInt8 := [16, 35, 159, 0, 23, 28, 17, 1, 47, 159, 0, 16, 28, 17, 1, 48, 159, 0, 9, 42, 4, 182, 0, 70]
abbrev dktX3_ask_3 : List UInt8 := dkwX3_ask_3 ++ dktX3_ask_4
def dkwX3_ask_2 : List UInt8 := [180, 0, 25, 61, 28, 16, 60, 159, 0, 41, 28, 16, 62, 159, 0, 35, 28, 16, 61, 159, 0, 29, 28]
abbrev dktX3_ask_2 : List UInt8 := dkwX3_ask_2 ++ dktX3_ask_3
def dkwX3_ask_1 : List UInt8 := [183, 0, 154, 76, 42, 89, 180, 0, 77, 4, 100, 181, 0, 77, 43, 176, 42, 182, 0, 115, 76, 42]
abbrev dktX3_ask_1 : List UInt8 := dkwX3_ask_1 ++ dktX3_ask_2
def dkwX3_ask_0 : List UInt8 := [42, 180, 0, 25, 17, 0, 207, 160, 0, 31, 42, 182, 0, 149, 187, 0, 152, 89, 42, 182, 0, 146]
abbrev dktX3_ask_0 : List UInt8 := dkwX3_ask_0 ++ dktX3_ask_1
theorem dksX3_ask_0 : cX3_ask.data.toList.drop 0 = dktX3_ask_0 := by decide +kernel
theorem dksX3_ask_1 : cX3_ask.data.toList.drop 22 = dktX3_ask_1 := dk_seg dksX3_ask_0 22 rfl rfl
theorem dksX3_ask_2 : cX3_ask.data.toList.drop 44 = dktX3_ask_2 := dk_seg dksX3_ask_1 22 rfl rfl
theorem dksX3_ask_3 : cX3_ask.data.toList.drop 67 = dktX3_ask_3 := dk_seg dksX3_ask_2 23 rfl rfl
theorem dksX3_ask_4 : cX3_ask.data.toList.drop 91 = dktX3_ask_4 := dk_seg dksX3_ask_3 24 rfl rfl
theorem dX3_ask_0 : decode cX3_ask 0 = .ok (.aload_n 0, 1) := dk_42 (dk_at dksX3_ask_0 0 rfl rfl)
theorem dX3_ask_1 : decode cX3_ask 1 = .ok (.getfield 25, 3) := dk_180 0 25 (dk_at dksX3_ask_0 1 rfl rfl)
theorem dX3_ask_4 : decode cX3_ask 4 = .ok (.sipush 207, 3) := dk_17 0 207 (dk_at dksX3_ask_0 4 rfl rfl)
theorem dX3_ask_7 : decode cX3_ask 7 = .ok (.if_icmp .ne 31, 3) := dk_160 0 31 (dk_at dksX3_ask_0 7 rfl rfl)
theorem dX3_ask_10 : decode cX3_ask 10 = .ok (.aload_n 0, 1) := dk_42 (dk_at dksX3_ask_0 10 rfl rfl)
theorem dX3_ask_11 : decode cX3_ask 11 = .ok (.invokevirtual 149, 3) := dk_182 0 149 (dk_at dksX3_ask_0 11 rfl rfl)
theorem dX3_ask_14 : decode cX3_ask 14 = .ok (.new 152, 3) := dk_187 0 152 (dk_at dksX3_ask_0 14 rfl rfl)
theorem dX3_ask_17 : decode cX3_ask 17 = .ok (.dup, 1) := dk_89 (dk_at dksX3_ask_0 17 rfl rfl)
theorem dX3_ask_18 : decode cX3_ask 18 = .ok (.aload_n 0, 1) := dk_42 (dk_at dksX3_ask_0 18 rfl rfl)
theorem dX3_ask_19 : decode cX3_ask 19 = .ok (.invokevirtual 146, 3) := dk_182 0 146 (dk_at dksX3_ask_0 19 rfl rfl)
theorem dX3_ask_22 : decode cX3_ask 22 = .ok (.invokespecial 154, 3) := dk_183 0 154 (dk_at dksX3_ask_1 0 rfl rfl)
theorem dX3_ask_25 : decode cX3_ask 25 = .ok (.astore_n 1, 1) := dk_76 (dk_at dksX3_ask_1 3 rfl rfl)
theorem dX3_ask_26 : decode cX3_ask 26 = .ok (.aload_n 0, 1) := dk_42 (dk_at dksX3_ask_1 4 rfl rfl)
theorem dX3_ask_27 : decode cX3_ask 27 = .ok (.dup, 1) := dk_89 (dk_at dksX3_ask_1 5 rfl rfl)
theorem dX3_ask_28 : decode cX3_ask 28 = .ok (.getfield 77, 3) := dk_180 0 77 (dk_at dksX3_ask_1 6 rfl rfl)
theorem dX3_ask_31 : decode cX3_ask 31 = .ok (.iconst 1, 1) := dk_4 (dk_at dksX3_ask_1 9 rfl rfl)
theorem dX3_ask_32 : decode cX3_ask 32 = .ok (.isub, 1) := dk_100 (dk_at dksX3_ask_1 10 rfl rfl)
theorem dX3_ask_33 : decode cX3_ask 33 = .ok (.putfield 77, 3) := dk_181 0 77 (dk_at dksX3_ask_1 11 rfl rfl)
theorem dX3_ask_36 : decode cX3_ask 36 = .ok (.aload_n 1, 1) := dk_43 (dk_at dksX3_ask_1 14 rfl rfl)
theorem dX3_ask_37 : decode cX3_ask 37 = .ok (.areturn, 1) := dk_176 (dk_at dksX3_ask_1 15 rfl rfl)
theorem dX3_ask_38 : decode cX3_ask 38 = .ok (.aload_n 0, 1) := dk_42 (dk_at dksX3_ask_1 16 rfl rfl)
theorem dX3_ask_39 : decode cX3_ask 39 = .ok (.invokevirtual 115, 3) := dk_182 0 115 (dk_at dksX3_ask_1 17 rfl rfl)
theorem dX3_ask_42 : decode cX3_ask 42 = .ok (.astore_n 1, 1) := dk_76 (dk_at dksX3_ask_1 20 rfl rfl)
theorem dX3_ask_43 : decode cX3_ask 43 = .ok (.aload_n 0, 1) := dk_42 (dk_at dksX3_ask_1 21 rfl rfl)
theorem dX3_ask_44 : decode cX3_ask 44 = .ok (.getfield 25, 3) := dk_180 0 25 (dk_at dksX3_ask_2 0 rfl rfl)
theorem dX3_ask_47 : decode cX3_ask 47 = .ok (.istore_n 2, 1) := dk_61 (dk_at dksX3_ask_2 3 rfl rfl)
theorem dX3_ask_48 : decode cX3_ask 48 = .ok (.iload_n 2, 1) := dk_28 (dk_at dksX3_ask_2 4 rfl rfl)
theorem dX3_ask_49 : decode cX3_ask 49 = .ok (.bipush 60, 2) := dk_16 60 (dk_at dksX3_ask_2 5 rfl rfl)
theorem dX3_ask_51 : decode cX3_ask 51 = .ok (.if_icmp .eq 41, 3) := dk_159 0 41 (dk_at dksX3_ask_2 7 rfl rfl)
theorem dX3_ask_54 : decode cX3_ask 54 = .ok (.iload_n 2, 1) := dk_28 (dk_at dksX3_ask_2 10 rfl rfl)
theorem dX3_ask_55 : decode cX3_ask 55 = .ok (.bipush 62, 2) := dk_16 62 (dk_at dksX3_ask_2 11 rfl rfl)
theorem dX3_ask_57 : decode cX3_ask 57 = .ok (.if_icmp .eq 35, 3) := dk_159 0 35 (dk_at dksX3_ask_2 13 rfl rfl)
theorem dX3_ask_60 : decode cX3_ask 60 = .ok (.iload_n 2, 1) := dk_28 (dk_at dksX3_ask_2 16 rfl rfl)
theorem dX3_ask_61 : decode cX3_ask 61 = .ok (.bipush 61, 2) := dk_16 61 (dk_at dksX3_ask_2 17 rfl rfl)
theorem dX3_ask_63 : decode cX3_ask 63 = .ok (.if_icmp .eq 29, 3) := dk_159 0 29 (dk_at dksX3_ask_2 19 rfl rfl)
theorem dX3_ask_66 : decode cX3_ask 66 = .ok (.iload_n 2, 1) := dk_28 (dk_at dksX3_ask_2 22 rfl rfl)
theorem dX3_ask_67 : decode cX3_ask 67 = .ok (.bipush 35, 2) := dk_16 35 (dk_at dksX3_ask_3 0 rfl rfl)
theorem dX3_ask_69 : decode cX3_ask 69 = .ok (.if_icmp .eq 23, 3) := dk_159 0 23 (dk_at dksX3_ask_3 2 rfl rfl)
theorem dX3_ask_72 : decode cX3_ask 72 = .ok (.iload_n 2, 1) := dk_28 (dk_at dksX3_ask_3 5 rfl rfl)
theorem dX3_ask_73 : decode cX3_ask 73 = .ok (.sipush 303, 3) := dk_17 1 47 (dk_at dksX3_ask_3 6 rfl rfl)
theorem dX3_ask_76 : decode cX3_ask 76 = .ok (.if_icmp .eq 16, 3) := dk_159 0 16 (dk_at dksX3_ask_3 9 rfl rfl)
theorem dX3_ask_79 : decode cX3_ask 79 = .ok (.iload_n 2, 1) := dk_28 (dk_at dksX3_ask_3 12 rfl rfl)
theorem dX3_ask_80 : decode cX3_ask 80 = .ok (.sipush 304, 3) := dk_17 1 48 (dk_at dksX3_ask_3 13 rfl rfl)
theorem dX3_ask_83 : decode cX3_ask 83 = .ok (.if_icmp .eq 9, 3) := dk_159 0 9 (dk_at dksX3_ask_3 16 rfl rfl)
theorem dX3_ask_86 : decode cX3_ask 86 = .ok (.aload_n 0, 1) := dk_42 (dk_at dksX3_ask_3 19 rfl rfl)
theorem dX3_ask_87 : decode cX3_ask 87 = .ok (.iconst 1, 1) := dk_4 (dk_at dksX3_ask_3 20 rfl rfl)
theorem dX3_ask_88 : decode cX3_ask 88 = .ok (.invokevirtual 70, 3) := dk_182 0 70 (dk_at dksX3_ask_3 21 rfl rfl)
theorem dX3_ask_91 : decode cX3_ask 91 = .ok (.athrow, 1) := dk_191 (dk_at dksX3_ask_4 0 rfl rfl)
theorem dX3_ask_92 : decode cX3_ask 92 = .ok (.aload_n 0, 1) := dk_42 (dk_at dksX3_ask_4 1 rfl rfl)
theorem dX3_ask_93 : decode cX3_ask 93 = .ok (.invokevirtual 74, 3) := dk_182 0 74 (dk_at dksX3_ask_4 2 rfl rfl)
theorem dX3_ask_96 : decode cX3_ask 96 = .ok (.new 157, 3) := dk_187 0 157 (dk_at dksX3_ask_4 5 rfl rfl)
theorem dX3_ask_99 : decode cX3_ask 99 = .ok (.dup, 1) := dk_89 (dk_at dksX3_ask_4 8 rfl rfl)
theorem dX3_ask_100 : decode cX3_ask 100 = .ok (.iload_n 2, 1) := dk_28 (dk_at dksX3_ask_4 9 rfl rfl)
theorem dX3_ask_101 : decode cX3_ask 101 = .ok (.aload_n 1, 1) := dk_43 (dk_at dksX3_ask_4 10 rfl rfl)
theorem dX3_ask_102 : decode cX3_ask 102 = .ok (.aload_n 0, 1) := dk_42 (dk_at dksX3_ask_4 11 rfl rfl)
theorem dX3_ask_103 : decode cX3_ask 103 = .ok (.invokevirtual 115, 3) := dk_182 0 115 (dk_at dksX3_ask_4 12 rfl rfl)
theorem dX3_ask_106 : decode cX3_ask 106 = .ok (.invokespecial 159, 3) := dk_183 0 159 (dk_at dksX3_ask_4 15 rfl rfl)
theorem dX3_ask_109 : decode cX3_ask 109 = .ok (.areturn, 1) := dk_176 (dk_at dksX3_ask_4 18 rfl rfl)
abbrev cX3_opens : ByteArray := prog_14_method_9_code
def yX3_opens : MethodName := ⟨RX3, "opens", "()V"⟩
def dkwX3_opens_1 : List UInt8 := [181, 0, 77, 42, 182, 0, 74, 177]
abbrev dktX3_opens_1 : List UInt8 := dkwX3_opens_1 ++ []
def dkwX3_opens_0 : List UInt8 := [42, 180, 0, 77, 16, 8, 160, 0, 9, 42, 6, 182, 0, 70, 191, 42, 89, 180, 0, 77, 4, 96]
abbrev dktX3_opens_0 : List UInt8 := dkwX3_opens_0 ++ dktX3_opens_1
theorem dksX3_opens_0 : cX3_opens.data.toList.drop 0 = dktX3_opens_0 := by decide +kernel
theorem dksX3_opens_1 : cX3_opens.data.toList.drop 22 = dktX3_opens_1 := dk_seg dksX3_opens_0 22 rfl rfl
theorem dX3_opens_0 : decode cX3_opens 0 = .ok (.aload_n 0, 1) := dk_42 (dk_at dksX3_opens_0 0 rfl rfl)
theorem dX3_opens_1 : decode cX3_opens 1 = .ok (.getfield 77, 3) := dk_180 0 77 (dk_at dksX3_opens_0 1 rfl rfl)
theorem dX3_opens_4 : decode cX3_opens 4 = .ok (.bipush 8, 2) := dk_16 8 (dk_at dksX3_opens_0 4 rfl rfl)
theorem dX3_opens_6 : decode cX3_opens 6 = .ok (.if_icmp .ne 9, 3) := dk_160 0 9 (dk_at dksX3_opens_0 6 rfl rfl)
theorem dX3_opens_9 : decode cX3_opens 9 = .ok (.aload_n 0, 1) := dk_42 (dk_at dksX3_opens_0 9 rfl rfl)
theorem dX3_opens_10 : decode cX3_opens 10 = .ok (.iconst 3, 1) := dk_6 (dk_at dksX3_opens_0 10 rfl rfl)
theorem dX3_opens_11 : decode cX3_opens 11 = .ok (.invokevirtual 70, 3) := dk_182 0 70 (dk_at dksX3_opens_0 11 rfl rfl)
theorem dX3_opens_14 : decode cX3_opens 14 = .ok (.athrow, 1) := dk_191 (dk_at dksX3_opens_0 14 rfl rfl)
theorem dX3_opens_15 : decode cX3_opens 15 = .ok (.aload_n 0, 1) := dk_42 (dk_at dksX3_opens_0 15 rfl rfl)
theorem dX3_opens_16 : decode cX3_opens 16 = .ok (.dup, 1) := dk_89 (dk_at dksX3_opens_0 16 rfl rfl)
theorem dX3_opens_17 : decode cX3_opens 17 = .ok (.getfield 77, 3) := dk_180 0 77 (dk_at dksX3_opens_0 17 rfl rfl)
theorem dX3_opens_20 : decode cX3_opens 20 = .ok (.iconst 1, 1) := dk_4 (dk_at dksX3_opens_0 20 rfl rfl)
theorem dX3_opens_21 : decode cX3_opens 21 = .ok (.iadd, 1) := dk_96 (dk_at dksX3_opens_0 21 rfl rfl)
theorem dX3_opens_22 : decode cX3_opens 22 = .ok (.putfield 77, 3) := dk_181 0 77 (dk_at dksX3_opens_1 0 rfl rfl)
theorem dX3_opens_25 : decode cX3_opens 25 = .ok (.aload_n 0, 1) := dk_42 (dk_at dksX3_opens_1 3 rfl rfl)
theorem dX3_opens_26 : decode cX3_opens 26 = .ok (.invokevirtual 74, 3) := dk_182 0 74 (dk_at dksX3_opens_1 4 rfl rfl)
theorem dX3_opens_29 : decode cX3_opens 29 = .ok (.return_, 1) := dk_177 (dk_at dksX3_opens_1 7 rfl rfl)
abbrev cX3_sum : ByteArray := prog_14_method_15_code
def yX3_sum : MethodName := ⟨RX3, "sum", "()LNumberComes$Sum;"⟩
def dkwX3_sum_2 : List UInt8 := [182, 0, 170, 167, 255, 220, 43, 182, 0, 173, 176]
abbrev dktX3_sum_2 : List UInt8 := dkwX3_sum_2 ++ []
def dkwX3_sum_1 : List UInt8 := [180, 0, 25, 16, 45, 160, 0, 24, 42, 180, 0, 25, 61, 42, 182, 0, 74, 43, 28, 42, 182, 0, 164]
abbrev dktX3_sum_1 : List UInt8 := dkwX3_sum_1 ++ dktX3_sum_2
def dkwX3_sum_0 : List UInt8 := [187, 0, 162, 89, 42, 182, 0, 164, 183, 0, 167, 76, 42, 180, 0, 25, 16, 43, 159, 0, 12, 42]
abbrev dktX3_sum_0 : List UInt8 := dkwX3_sum_0 ++ dktX3_sum_1
theorem dksX3_sum_0 : cX3_sum.data.toList.drop 0 = dktX3_sum_0 := by decide +kernel
theorem dksX3_sum_1 : cX3_sum.data.toList.drop 22 = dktX3_sum_1 := dk_seg dksX3_sum_0 22 rfl rfl
theorem dksX3_sum_2 : cX3_sum.data.toList.drop 45 = dktX3_sum_2 := dk_seg dksX3_sum_1 23 rfl rfl
theorem dX3_sum_0 : decode cX3_sum 0 = .ok (.new 162, 3) := dk_187 0 162 (dk_at dksX3_sum_0 0 rfl rfl)
theorem dX3_sum_3 : decode cX3_sum 3 = .ok (.dup, 1) := dk_89 (dk_at dksX3_sum_0 3 rfl rfl)
theorem dX3_sum_4 : decode cX3_sum 4 = .ok (.aload_n 0, 1) := dk_42 (dk_at dksX3_sum_0 4 rfl rfl)
theorem dX3_sum_5 : decode cX3_sum 5 = .ok (.invokevirtual 164, 3) := dk_182 0 164 (dk_at dksX3_sum_0 5 rfl rfl)
theorem dX3_sum_8 : decode cX3_sum 8 = .ok (.invokespecial 167, 3) := dk_183 0 167 (dk_at dksX3_sum_0 8 rfl rfl)
theorem dX3_sum_11 : decode cX3_sum 11 = .ok (.astore_n 1, 1) := dk_76 (dk_at dksX3_sum_0 11 rfl rfl)
theorem dX3_sum_12 : decode cX3_sum 12 = .ok (.aload_n 0, 1) := dk_42 (dk_at dksX3_sum_0 12 rfl rfl)
theorem dX3_sum_13 : decode cX3_sum 13 = .ok (.getfield 25, 3) := dk_180 0 25 (dk_at dksX3_sum_0 13 rfl rfl)
theorem dX3_sum_16 : decode cX3_sum 16 = .ok (.bipush 43, 2) := dk_16 43 (dk_at dksX3_sum_0 16 rfl rfl)
theorem dX3_sum_18 : decode cX3_sum 18 = .ok (.if_icmp .eq 12, 3) := dk_159 0 12 (dk_at dksX3_sum_0 18 rfl rfl)
theorem dX3_sum_21 : decode cX3_sum 21 = .ok (.aload_n 0, 1) := dk_42 (dk_at dksX3_sum_0 21 rfl rfl)
theorem dX3_sum_22 : decode cX3_sum 22 = .ok (.getfield 25, 3) := dk_180 0 25 (dk_at dksX3_sum_1 0 rfl rfl)
theorem dX3_sum_25 : decode cX3_sum 25 = .ok (.bipush 45, 2) := dk_16 45 (dk_at dksX3_sum_1 3 rfl rfl)
theorem dX3_sum_27 : decode cX3_sum 27 = .ok (.if_icmp .ne 24, 3) := dk_160 0 24 (dk_at dksX3_sum_1 5 rfl rfl)
theorem dX3_sum_30 : decode cX3_sum 30 = .ok (.aload_n 0, 1) := dk_42 (dk_at dksX3_sum_1 8 rfl rfl)
theorem dX3_sum_31 : decode cX3_sum 31 = .ok (.getfield 25, 3) := dk_180 0 25 (dk_at dksX3_sum_1 9 rfl rfl)
theorem dX3_sum_34 : decode cX3_sum 34 = .ok (.istore_n 2, 1) := dk_61 (dk_at dksX3_sum_1 12 rfl rfl)
theorem dX3_sum_35 : decode cX3_sum 35 = .ok (.aload_n 0, 1) := dk_42 (dk_at dksX3_sum_1 13 rfl rfl)
theorem dX3_sum_36 : decode cX3_sum 36 = .ok (.invokevirtual 74, 3) := dk_182 0 74 (dk_at dksX3_sum_1 14 rfl rfl)
theorem dX3_sum_39 : decode cX3_sum 39 = .ok (.aload_n 1, 1) := dk_43 (dk_at dksX3_sum_1 17 rfl rfl)
theorem dX3_sum_40 : decode cX3_sum 40 = .ok (.iload_n 2, 1) := dk_28 (dk_at dksX3_sum_1 18 rfl rfl)
theorem dX3_sum_41 : decode cX3_sum 41 = .ok (.aload_n 0, 1) := dk_42 (dk_at dksX3_sum_1 19 rfl rfl)
theorem dX3_sum_42 : decode cX3_sum 42 = .ok (.invokevirtual 164, 3) := dk_182 0 164 (dk_at dksX3_sum_1 20 rfl rfl)
theorem dX3_sum_45 : decode cX3_sum 45 = .ok (.invokevirtual 170, 3) := dk_182 0 170 (dk_at dksX3_sum_2 0 rfl rfl)
theorem dX3_sum_48 : decode cX3_sum 48 = .ok (.goto (-36), 3) := dk_167 255 220 (dk_at dksX3_sum_2 3 rfl rfl)
theorem dX3_sum_51 : decode cX3_sum 51 = .ok (.aload_n 1, 1) := dk_43 (dk_at dksX3_sum_2 6 rfl rfl)
theorem dX3_sum_52 : decode cX3_sum 52 = .ok (.invokevirtual 173, 3) := dk_182 0 173 (dk_at dksX3_sum_2 7 rfl rfl)
theorem dX3_sum_55 : decode cX3_sum 55 = .ok (.areturn, 1) := dk_176 (dk_at dksX3_sum_2 10 rfl rfl)
abbrev cX3_product : ByteArray := prog_14_method_16_code
def yX3_product : MethodName := ⟨RX3, "product", "()LNumberComes$Sum;"⟩
def dkwX3_product_2 : List UInt8 := [182, 0, 74, 43, 28, 42, 182, 0, 176, 182, 0, 170, 167, 255, 211, 43, 182, 0, 173, 176]
abbrev dktX3_product_2 : List UInt8 := dkwX3_product_2 ++ []
def dkwX3_product_1 : List UInt8 := [180, 0, 25, 16, 47, 159, 0, 12, 42, 180, 0, 25, 16, 37, 160, 0, 24, 42, 180, 0, 25, 61, 42]
abbrev dktX3_product_1 : List UInt8 := dkwX3_product_1 ++ dktX3_product_2
def dkwX3_product_0 : List UInt8 := [187, 0, 162, 89, 42, 182, 0, 176, 183, 0, 167, 76, 42, 180, 0, 25, 16, 42, 159, 0, 21, 42]
abbrev dktX3_product_0 : List UInt8 := dkwX3_product_0 ++ dktX3_product_1
theorem dksX3_product_0 : cX3_product.data.toList.drop 0 = dktX3_product_0 := by decide +kernel
theorem dksX3_product_1 : cX3_product.data.toList.drop 22 = dktX3_product_1 := dk_seg dksX3_product_0 22 rfl rfl
theorem dksX3_product_2 : cX3_product.data.toList.drop 45 = dktX3_product_2 := dk_seg dksX3_product_1 23 rfl rfl
theorem dX3_product_0 : decode cX3_product 0 = .ok (.new 162, 3) := dk_187 0 162 (dk_at dksX3_product_0 0 rfl rfl)
theorem dX3_product_3 : decode cX3_product 3 = .ok (.dup, 1) := dk_89 (dk_at dksX3_product_0 3 rfl rfl)
theorem dX3_product_4 : decode cX3_product 4 = .ok (.aload_n 0, 1) := dk_42 (dk_at dksX3_product_0 4 rfl rfl)
theorem dX3_product_5 : decode cX3_product 5 = .ok (.invokevirtual 176, 3) := dk_182 0 176 (dk_at dksX3_product_0 5 rfl rfl)
theorem dX3_product_8 : decode cX3_product 8 = .ok (.invokespecial 167, 3) := dk_183 0 167 (dk_at dksX3_product_0 8 rfl rfl)
theorem dX3_product_11 : decode cX3_product 11 = .ok (.astore_n 1, 1) := dk_76 (dk_at dksX3_product_0 11 rfl rfl)
theorem dX3_product_12 : decode cX3_product 12 = .ok (.aload_n 0, 1) := dk_42 (dk_at dksX3_product_0 12 rfl rfl)
theorem dX3_product_13 : decode cX3_product 13 = .ok (.getfield 25, 3) := dk_180 0 25 (dk_at dksX3_product_0 13 rfl rfl)
theorem dX3_product_16 : decode cX3_product 16 = .ok (.bipush 42, 2) := dk_16 42 (dk_at dksX3_product_0 16 rfl rfl)
theorem dX3_product_18 : decode cX3_product 18 = .ok (.if_icmp .eq 21, 3) := dk_159 0 21 (dk_at dksX3_product_0 18 rfl rfl)
theorem dX3_product_21 : decode cX3_product 21 = .ok (.aload_n 0, 1) := dk_42 (dk_at dksX3_product_0 21 rfl rfl)
theorem dX3_product_22 : decode cX3_product 22 = .ok (.getfield 25, 3) := dk_180 0 25 (dk_at dksX3_product_1 0 rfl rfl)
theorem dX3_product_25 : decode cX3_product 25 = .ok (.bipush 47, 2) := dk_16 47 (dk_at dksX3_product_1 3 rfl rfl)
theorem dX3_product_27 : decode cX3_product 27 = .ok (.if_icmp .eq 12, 3) := dk_159 0 12 (dk_at dksX3_product_1 5 rfl rfl)
theorem dX3_product_30 : decode cX3_product 30 = .ok (.aload_n 0, 1) := dk_42 (dk_at dksX3_product_1 8 rfl rfl)
theorem dX3_product_31 : decode cX3_product 31 = .ok (.getfield 25, 3) := dk_180 0 25 (dk_at dksX3_product_1 9 rfl rfl)
theorem dX3_product_34 : decode cX3_product 34 = .ok (.bipush 37, 2) := dk_16 37 (dk_at dksX3_product_1 12 rfl rfl)
theorem dX3_product_36 : decode cX3_product 36 = .ok (.if_icmp .ne 24, 3) := dk_160 0 24 (dk_at dksX3_product_1 14 rfl rfl)
theorem dX3_product_39 : decode cX3_product 39 = .ok (.aload_n 0, 1) := dk_42 (dk_at dksX3_product_1 17 rfl rfl)
theorem dX3_product_40 : decode cX3_product 40 = .ok (.getfield 25, 3) := dk_180 0 25 (dk_at dksX3_product_1 18 rfl rfl)
theorem dX3_product_43 : decode cX3_product 43 = .ok (.istore_n 2, 1) := dk_61 (dk_at dksX3_product_1 21 rfl rfl)
theorem dX3_product_44 : decode cX3_product 44 = .ok (.aload_n 0, 1) := dk_42 (dk_at dksX3_product_1 22 rfl rfl)
theorem dX3_product_45 : decode cX3_product 45 = .ok (.invokevirtual 74, 3) := dk_182 0 74 (dk_at dksX3_product_2 0 rfl rfl)
theorem dX3_product_48 : decode cX3_product 48 = .ok (.aload_n 1, 1) := dk_43 (dk_at dksX3_product_2 3 rfl rfl)
theorem dX3_product_49 : decode cX3_product 49 = .ok (.iload_n 2, 1) := dk_28 (dk_at dksX3_product_2 4 rfl rfl)
theorem dX3_product_50 : decode cX3_product 50 = .ok (.aload_n 0, 1) := dk_42 (dk_at dksX3_product_2 5 rfl rfl)
theorem dX3_product_51 : decode cX3_product 51 = .ok (.invokevirtual 176, 3) := dk_182 0 176 (dk_at dksX3_product_2 6 rfl rfl)
theorem dX3_product_54 : decode cX3_product 54 = .ok (.invokevirtual 170, 3) := dk_182 0 170 (dk_at dksX3_product_2 9 rfl rfl)
theorem dX3_product_57 : decode cX3_product 57 = .ok (.goto (-45), 3) := dk_167 255 211 (dk_at dksX3_product_2 12 rfl rfl)
theorem dX3_product_60 : decode cX3_product 60 = .ok (.aload_n 1, 1) := dk_43 (dk_at dksX3_product_2 15 rfl rfl)
theorem dX3_product_61 : decode cX3_product 61 = .ok (.invokevirtual 173, 3) := dk_182 0 173 (dk_at dksX3_product_2 16 rfl rfl)
theorem dX3_product_64 : decode cX3_product 64 = .ok (.areturn, 1) := dk_176 (dk_at dksX3_product_2 19 rfl rfl)
abbrev cX3_one : ByteArray := prog_14_method_17_code
def yX3_one : MethodName := ⟨RX3, "one", "()LNumberComes$Sum;"⟩
def dkwX3_one_7 : List UInt8 := [167, 0, 9, 42, 4, 182, 0, 70, 191, 42, 89, 180, 0, 77, 4, 100, 181, 0, 77, 43, 176]
abbrev dktX3_one_7 : List UInt8 := dkwX3_one_7 ++ []
def dkwX3_one_6 : List UInt8 := [180, 0, 25, 16, 45, 160, 0, 22, 42, 182, 0, 149, 187, 0, 186, 89, 42, 182, 0, 176, 183, 0, 188, 76]
abbrev dktX3_one_6 : List UInt8 := dkwX3_one_6 ++ dktX3_one_7
def dkwX3_one_5 : List UInt8 := [160, 0, 21, 42, 182, 0, 149, 42, 182, 0, 115, 76, 42, 16, 41, 182, 0, 97, 167, 0, 37, 42]
abbrev dktX3_one_5 : List UInt8 := dkwX3_one_5 ++ dktX3_one_6
def dkwX3_one_4 : List UInt8 := [180, 0, 25, 17, 0, 208, 100, 183, 0, 185, 76, 42, 182, 0, 74, 43, 176, 42, 180, 0, 25, 16, 40]
abbrev dktX3_one_4 : List UInt8 := dkwX3_one_4 ++ dktX3_one_5
def dkwX3_one_3 : List UInt8 := [160, 0, 7, 4, 167, 0, 4, 3, 159, 0, 9, 42, 8, 182, 0, 70, 191, 187, 0, 183, 89, 42]
abbrev dktX3_one_3 : List UInt8 := dkwX3_one_3 ++ dktX3_one_4
def dkwX3_one_2 : List UInt8 := [42, 180, 0, 25, 17, 0, 212, 162, 0, 7, 4, 167, 0, 4, 3, 42, 180, 0, 83, 17, 0, 200]
abbrev dktX3_one_2 : List UInt8 := dkwX3_one_2 ++ dktX3_one_3
def dkwX3_one_1 : List UInt8 := [183, 0, 181, 176, 42, 180, 0, 25, 17, 0, 208, 161, 0, 74, 42, 180, 0, 25, 17, 0, 214, 163, 0, 64]
abbrev dktX3_one_1 : List UInt8 := dkwX3_one_1 ++ dktX3_one_2
def dkwX3_one_0 : List UInt8 := [42, 180, 0, 25, 17, 1, 44, 160, 0, 19, 187, 0, 179, 89, 42, 3, 17, 39, 15, 182, 0, 119]
abbrev dktX3_one_0 : List UInt8 := dkwX3_one_0 ++ dktX3_one_1
theorem dksX3_one_0 : cX3_one.data.toList.drop 0 = dktX3_one_0 := by decide +kernel
theorem dksX3_one_1 : cX3_one.data.toList.drop 22 = dktX3_one_1 := dk_seg dksX3_one_0 22 rfl rfl
theorem dksX3_one_2 : cX3_one.data.toList.drop 46 = dktX3_one_2 := dk_seg dksX3_one_1 24 rfl rfl
theorem dksX3_one_3 : cX3_one.data.toList.drop 68 = dktX3_one_3 := dk_seg dksX3_one_2 22 rfl rfl
theorem dksX3_one_4 : cX3_one.data.toList.drop 90 = dktX3_one_4 := dk_seg dksX3_one_3 22 rfl rfl
theorem dksX3_one_5 : cX3_one.data.toList.drop 113 = dktX3_one_5 := dk_seg dksX3_one_4 23 rfl rfl
theorem dksX3_one_6 : cX3_one.data.toList.drop 135 = dktX3_one_6 := dk_seg dksX3_one_5 22 rfl rfl
theorem dksX3_one_7 : cX3_one.data.toList.drop 159 = dktX3_one_7 := dk_seg dksX3_one_6 24 rfl rfl
theorem dX3_one_0 : decode cX3_one 0 = .ok (.aload_n 0, 1) := dk_42 (dk_at dksX3_one_0 0 rfl rfl)
theorem dX3_one_1 : decode cX3_one 1 = .ok (.getfield 25, 3) := dk_180 0 25 (dk_at dksX3_one_0 1 rfl rfl)
theorem dX3_one_4 : decode cX3_one 4 = .ok (.sipush 300, 3) := dk_17 1 44 (dk_at dksX3_one_0 4 rfl rfl)
theorem dX3_one_7 : decode cX3_one 7 = .ok (.if_icmp .ne 19, 3) := dk_160 0 19 (dk_at dksX3_one_0 7 rfl rfl)
theorem dX3_one_10 : decode cX3_one 10 = .ok (.new 179, 3) := dk_187 0 179 (dk_at dksX3_one_0 10 rfl rfl)
theorem dX3_one_13 : decode cX3_one 13 = .ok (.dup, 1) := dk_89 (dk_at dksX3_one_0 13 rfl rfl)
theorem dX3_one_14 : decode cX3_one 14 = .ok (.aload_n 0, 1) := dk_42 (dk_at dksX3_one_0 14 rfl rfl)
theorem dX3_one_15 : decode cX3_one 15 = .ok (.iconst 0, 1) := dk_3 (dk_at dksX3_one_0 15 rfl rfl)
theorem dX3_one_16 : decode cX3_one 16 = .ok (.sipush 9999, 3) := dk_17 39 15 (dk_at dksX3_one_0 16 rfl rfl)
theorem dX3_one_19 : decode cX3_one 19 = .ok (.invokevirtual 119, 3) := dk_182 0 119 (dk_at dksX3_one_0 19 rfl rfl)
theorem dX3_one_22 : decode cX3_one 22 = .ok (.invokespecial 181, 3) := dk_183 0 181 (dk_at dksX3_one_1 0 rfl rfl)
theorem dX3_one_25 : decode cX3_one 25 = .ok (.areturn, 1) := dk_176 (dk_at dksX3_one_1 3 rfl rfl)
theorem dX3_one_26 : decode cX3_one 26 = .ok (.aload_n 0, 1) := dk_42 (dk_at dksX3_one_1 4 rfl rfl)
theorem dX3_one_27 : decode cX3_one 27 = .ok (.getfield 25, 3) := dk_180 0 25 (dk_at dksX3_one_1 5 rfl rfl)
theorem dX3_one_30 : decode cX3_one 30 = .ok (.sipush 208, 3) := dk_17 0 208 (dk_at dksX3_one_1 8 rfl rfl)
theorem dX3_one_33 : decode cX3_one 33 = .ok (.if_icmp .lt 74, 3) := dk_161 0 74 (dk_at dksX3_one_1 11 rfl rfl)
theorem dX3_one_36 : decode cX3_one 36 = .ok (.aload_n 0, 1) := dk_42 (dk_at dksX3_one_1 14 rfl rfl)
theorem dX3_one_37 : decode cX3_one 37 = .ok (.getfield 25, 3) := dk_180 0 25 (dk_at dksX3_one_1 15 rfl rfl)
theorem dX3_one_40 : decode cX3_one 40 = .ok (.sipush 214, 3) := dk_17 0 214 (dk_at dksX3_one_1 18 rfl rfl)
theorem dX3_one_43 : decode cX3_one 43 = .ok (.if_icmp .gt 64, 3) := dk_163 0 64 (dk_at dksX3_one_1 21 rfl rfl)
theorem dX3_one_46 : decode cX3_one 46 = .ok (.aload_n 0, 1) := dk_42 (dk_at dksX3_one_2 0 rfl rfl)
theorem dX3_one_47 : decode cX3_one 47 = .ok (.getfield 25, 3) := dk_180 0 25 (dk_at dksX3_one_2 1 rfl rfl)
theorem dX3_one_50 : decode cX3_one 50 = .ok (.sipush 212, 3) := dk_17 0 212 (dk_at dksX3_one_2 4 rfl rfl)
theorem dX3_one_53 : decode cX3_one 53 = .ok (.if_icmp .ge 7, 3) := dk_162 0 7 (dk_at dksX3_one_2 7 rfl rfl)
theorem dX3_one_56 : decode cX3_one 56 = .ok (.iconst 1, 1) := dk_4 (dk_at dksX3_one_2 10 rfl rfl)
theorem dX3_one_57 : decode cX3_one 57 = .ok (.goto 4, 3) := dk_167 0 4 (dk_at dksX3_one_2 11 rfl rfl)
theorem dX3_one_60 : decode cX3_one 60 = .ok (.iconst 0, 1) := dk_3 (dk_at dksX3_one_2 14 rfl rfl)
theorem dX3_one_61 : decode cX3_one 61 = .ok (.aload_n 0, 1) := dk_42 (dk_at dksX3_one_2 15 rfl rfl)
theorem dX3_one_62 : decode cX3_one 62 = .ok (.getfield 83, 3) := dk_180 0 83 (dk_at dksX3_one_2 16 rfl rfl)
theorem dX3_one_65 : decode cX3_one 65 = .ok (.sipush 200, 3) := dk_17 0 200 (dk_at dksX3_one_2 19 rfl rfl)
theorem dX3_one_68 : decode cX3_one 68 = .ok (.if_icmp .ne 7, 3) := dk_160 0 7 (dk_at dksX3_one_3 0 rfl rfl)
theorem dX3_one_71 : decode cX3_one 71 = .ok (.iconst 1, 1) := dk_4 (dk_at dksX3_one_3 3 rfl rfl)
theorem dX3_one_72 : decode cX3_one 72 = .ok (.goto 4, 3) := dk_167 0 4 (dk_at dksX3_one_3 4 rfl rfl)
theorem dX3_one_75 : decode cX3_one 75 = .ok (.iconst 0, 1) := dk_3 (dk_at dksX3_one_3 7 rfl rfl)
theorem dX3_one_76 : decode cX3_one 76 = .ok (.if_icmp .eq 9, 3) := dk_159 0 9 (dk_at dksX3_one_3 8 rfl rfl)
theorem dX3_one_79 : decode cX3_one 79 = .ok (.aload_n 0, 1) := dk_42 (dk_at dksX3_one_3 11 rfl rfl)
theorem dX3_one_80 : decode cX3_one 80 = .ok (.iconst 5, 1) := dk_8 (dk_at dksX3_one_3 12 rfl rfl)
theorem dX3_one_81 : decode cX3_one 81 = .ok (.invokevirtual 70, 3) := dk_182 0 70 (dk_at dksX3_one_3 13 rfl rfl)
theorem dX3_one_84 : decode cX3_one 84 = .ok (.athrow, 1) := dk_191 (dk_at dksX3_one_3 16 rfl rfl)
theorem dX3_one_85 : decode cX3_one 85 = .ok (.new 183, 3) := dk_187 0 183 (dk_at dksX3_one_3 17 rfl rfl)
theorem dX3_one_88 : decode cX3_one 88 = .ok (.dup, 1) := dk_89 (dk_at dksX3_one_3 20 rfl rfl)
theorem dX3_one_89 : decode cX3_one 89 = .ok (.aload_n 0, 1) := dk_42 (dk_at dksX3_one_3 21 rfl rfl)
theorem dX3_one_90 : decode cX3_one 90 = .ok (.getfield 25, 3) := dk_180 0 25 (dk_at dksX3_one_4 0 rfl rfl)
theorem dX3_one_93 : decode cX3_one 93 = .ok (.sipush 208, 3) := dk_17 0 208 (dk_at dksX3_one_4 3 rfl rfl)
theorem dX3_one_96 : decode cX3_one 96 = .ok (.isub, 1) := dk_100 (dk_at dksX3_one_4 6 rfl rfl)
theorem dX3_one_97 : decode cX3_one 97 = .ok (.invokespecial 185, 3) := dk_183 0 185 (dk_at dksX3_one_4 7 rfl rfl)
theorem dX3_one_100 : decode cX3_one 100 = .ok (.astore_n 1, 1) := dk_76 (dk_at dksX3_one_4 10 rfl rfl)
theorem dX3_one_101 : decode cX3_one 101 = .ok (.aload_n 0, 1) := dk_42 (dk_at dksX3_one_4 11 rfl rfl)
theorem dX3_one_102 : decode cX3_one 102 = .ok (.invokevirtual 74, 3) := dk_182 0 74 (dk_at dksX3_one_4 12 rfl rfl)
theorem dX3_one_105 : decode cX3_one 105 = .ok (.aload_n 1, 1) := dk_43 (dk_at dksX3_one_4 15 rfl rfl)
theorem dX3_one_106 : decode cX3_one 106 = .ok (.areturn, 1) := dk_176 (dk_at dksX3_one_4 16 rfl rfl)
theorem dX3_one_107 : decode cX3_one 107 = .ok (.aload_n 0, 1) := dk_42 (dk_at dksX3_one_4 17 rfl rfl)
theorem dX3_one_108 : decode cX3_one 108 = .ok (.getfield 25, 3) := dk_180 0 25 (dk_at dksX3_one_4 18 rfl rfl)
theorem dX3_one_111 : decode cX3_one 111 = .ok (.bipush 40, 2) := dk_16 40 (dk_at dksX3_one_4 21 rfl rfl)
theorem dX3_one_113 : decode cX3_one 113 = .ok (.if_icmp .ne 21, 3) := dk_160 0 21 (dk_at dksX3_one_5 0 rfl rfl)
theorem dX3_one_116 : decode cX3_one 116 = .ok (.aload_n 0, 1) := dk_42 (dk_at dksX3_one_5 3 rfl rfl)
theorem dX3_one_117 : decode cX3_one 117 = .ok (.invokevirtual 149, 3) := dk_182 0 149 (dk_at dksX3_one_5 4 rfl rfl)
theorem dX3_one_120 : decode cX3_one 120 = .ok (.aload_n 0, 1) := dk_42 (dk_at dksX3_one_5 7 rfl rfl)
theorem dX3_one_121 : decode cX3_one 121 = .ok (.invokevirtual 115, 3) := dk_182 0 115 (dk_at dksX3_one_5 8 rfl rfl)
theorem dX3_one_124 : decode cX3_one 124 = .ok (.astore_n 1, 1) := dk_76 (dk_at dksX3_one_5 11 rfl rfl)
theorem dX3_one_125 : decode cX3_one 125 = .ok (.aload_n 0, 1) := dk_42 (dk_at dksX3_one_5 12 rfl rfl)
theorem dX3_one_126 : decode cX3_one 126 = .ok (.bipush 41, 2) := dk_16 41 (dk_at dksX3_one_5 13 rfl rfl)
theorem dX3_one_128 : decode cX3_one 128 = .ok (.invokevirtual 97, 3) := dk_182 0 97 (dk_at dksX3_one_5 15 rfl rfl)
theorem dX3_one_131 : decode cX3_one 131 = .ok (.goto 37, 3) := dk_167 0 37 (dk_at dksX3_one_5 18 rfl rfl)
theorem dX3_one_134 : decode cX3_one 134 = .ok (.aload_n 0, 1) := dk_42 (dk_at dksX3_one_5 21 rfl rfl)
theorem dX3_one_135 : decode cX3_one 135 = .ok (.getfield 25, 3) := dk_180 0 25 (dk_at dksX3_one_6 0 rfl rfl)
theorem dX3_one_138 : decode cX3_one 138 = .ok (.bipush 45, 2) := dk_16 45 (dk_at dksX3_one_6 3 rfl rfl)
theorem dX3_one_140 : decode cX3_one 140 = .ok (.if_icmp .ne 22, 3) := dk_160 0 22 (dk_at dksX3_one_6 5 rfl rfl)
theorem dX3_one_143 : decode cX3_one 143 = .ok (.aload_n 0, 1) := dk_42 (dk_at dksX3_one_6 8 rfl rfl)
theorem dX3_one_144 : decode cX3_one 144 = .ok (.invokevirtual 149, 3) := dk_182 0 149 (dk_at dksX3_one_6 9 rfl rfl)
theorem dX3_one_147 : decode cX3_one 147 = .ok (.new 186, 3) := dk_187 0 186 (dk_at dksX3_one_6 12 rfl rfl)
theorem dX3_one_150 : decode cX3_one 150 = .ok (.dup, 1) := dk_89 (dk_at dksX3_one_6 15 rfl rfl)
theorem dX3_one_151 : decode cX3_one 151 = .ok (.aload_n 0, 1) := dk_42 (dk_at dksX3_one_6 16 rfl rfl)
theorem dX3_one_152 : decode cX3_one 152 = .ok (.invokevirtual 176, 3) := dk_182 0 176 (dk_at dksX3_one_6 17 rfl rfl)
theorem dX3_one_155 : decode cX3_one 155 = .ok (.invokespecial 188, 3) := dk_183 0 188 (dk_at dksX3_one_6 20 rfl rfl)
theorem dX3_one_158 : decode cX3_one 158 = .ok (.astore_n 1, 1) := dk_76 (dk_at dksX3_one_6 23 rfl rfl)
theorem dX3_one_159 : decode cX3_one 159 = .ok (.goto 9, 3) := dk_167 0 9 (dk_at dksX3_one_7 0 rfl rfl)
theorem dX3_one_162 : decode cX3_one 162 = .ok (.aload_n 0, 1) := dk_42 (dk_at dksX3_one_7 3 rfl rfl)
theorem dX3_one_163 : decode cX3_one 163 = .ok (.iconst 1, 1) := dk_4 (dk_at dksX3_one_7 4 rfl rfl)
theorem dX3_one_164 : decode cX3_one 164 = .ok (.invokevirtual 70, 3) := dk_182 0 70 (dk_at dksX3_one_7 5 rfl rfl)
theorem dX3_one_167 : decode cX3_one 167 = .ok (.athrow, 1) := dk_191 (dk_at dksX3_one_7 8 rfl rfl)
theorem dX3_one_168 : decode cX3_one 168 = .ok (.aload_n 0, 1) := dk_42 (dk_at dksX3_one_7 9 rfl rfl)
theorem dX3_one_169 : decode cX3_one 169 = .ok (.dup, 1) := dk_89 (dk_at dksX3_one_7 10 rfl rfl)
theorem dX3_one_170 : decode cX3_one 170 = .ok (.getfield 77, 3) := dk_180 0 77 (dk_at dksX3_one_7 11 rfl rfl)
theorem dX3_one_173 : decode cX3_one 173 = .ok (.iconst 1, 1) := dk_4 (dk_at dksX3_one_7 14 rfl rfl)
theorem dX3_one_174 : decode cX3_one 174 = .ok (.isub, 1) := dk_100 (dk_at dksX3_one_7 15 rfl rfl)
theorem dX3_one_175 : decode cX3_one 175 = .ok (.putfield 77, 3) := dk_181 0 77 (dk_at dksX3_one_7 16 rfl rfl)
theorem dX3_one_178 : decode cX3_one 178 = .ok (.aload_n 1, 1) := dk_43 (dk_at dksX3_one_7 19 rfl rfl)
theorem dX3_one_179 : decode cX3_one 179 = .ok (.areturn, 1) := dk_176 (dk_at dksX3_one_7 20 rfl rfl)
abbrev cX3_number : ByteArray := prog_14_method_8_code
def yX3_number : MethodName := ⟨RX3, "number", "(II)I"⟩
def dkwX3_number_2 : List UInt8 := [172]
abbrev dktX3_number_2 : List UInt8 := dkwX3_number_2 ++ []
def dkwX3_number_1 : List UInt8 := [42, 180, 0, 43, 28, 164, 0, 9, 42, 5, 182, 0, 70, 191, 42, 180, 0, 43, 62, 42, 182, 0, 74, 29]
abbrev dktX3_number_1 : List UInt8 := dkwX3_number_1 ++ dktX3_number_2
def dkwX3_number_0 : List UInt8 := [42, 180, 0, 25, 17, 1, 44, 159, 0, 9, 42, 4, 182, 0, 70, 191, 42, 180, 0, 43, 27, 161, 0, 11]
abbrev dktX3_number_0 : List UInt8 := dkwX3_number_0 ++ dktX3_number_1
theorem dksX3_number_0 : cX3_number.data.toList.drop 0 = dktX3_number_0 := by decide +kernel
theorem dksX3_number_1 : cX3_number.data.toList.drop 24 = dktX3_number_1 := dk_seg dksX3_number_0 24 rfl rfl
theorem dksX3_number_2 : cX3_number.data.toList.drop 48 = dktX3_number_2 := dk_seg dksX3_number_1 24 rfl rfl
theorem dX3_number_0 : decode cX3_number 0 = .ok (.aload_n 0, 1) := dk_42 (dk_at dksX3_number_0 0 rfl rfl)
theorem dX3_number_1 : decode cX3_number 1 = .ok (.getfield 25, 3) := dk_180 0 25 (dk_at dksX3_number_0 1 rfl rfl)
theorem dX3_number_4 : decode cX3_number 4 = .ok (.sipush 300, 3) := dk_17 1 44 (dk_at dksX3_number_0 4 rfl rfl)
theorem dX3_number_7 : decode cX3_number 7 = .ok (.if_icmp .eq 9, 3) := dk_159 0 9 (dk_at dksX3_number_0 7 rfl rfl)
theorem dX3_number_10 : decode cX3_number 10 = .ok (.aload_n 0, 1) := dk_42 (dk_at dksX3_number_0 10 rfl rfl)
theorem dX3_number_11 : decode cX3_number 11 = .ok (.iconst 1, 1) := dk_4 (dk_at dksX3_number_0 11 rfl rfl)
theorem dX3_number_12 : decode cX3_number 12 = .ok (.invokevirtual 70, 3) := dk_182 0 70 (dk_at dksX3_number_0 12 rfl rfl)
theorem dX3_number_15 : decode cX3_number 15 = .ok (.athrow, 1) := dk_191 (dk_at dksX3_number_0 15 rfl rfl)
theorem dX3_number_16 : decode cX3_number 16 = .ok (.aload_n 0, 1) := dk_42 (dk_at dksX3_number_0 16 rfl rfl)
theorem dX3_number_17 : decode cX3_number 17 = .ok (.getfield 43, 3) := dk_180 0 43 (dk_at dksX3_number_0 17 rfl rfl)
theorem dX3_number_20 : decode cX3_number 20 = .ok (.iload_n 1, 1) := dk_27 (dk_at dksX3_number_0 20 rfl rfl)
theorem dX3_number_21 : decode cX3_number 21 = .ok (.if_icmp .lt 11, 3) := dk_161 0 11 (dk_at dksX3_number_0 21 rfl rfl)
theorem dX3_number_24 : decode cX3_number 24 = .ok (.aload_n 0, 1) := dk_42 (dk_at dksX3_number_1 0 rfl rfl)
theorem dX3_number_25 : decode cX3_number 25 = .ok (.getfield 43, 3) := dk_180 0 43 (dk_at dksX3_number_1 1 rfl rfl)
theorem dX3_number_28 : decode cX3_number 28 = .ok (.iload_n 2, 1) := dk_28 (dk_at dksX3_number_1 4 rfl rfl)
theorem dX3_number_29 : decode cX3_number 29 = .ok (.if_icmp .le 9, 3) := dk_164 0 9 (dk_at dksX3_number_1 5 rfl rfl)
theorem dX3_number_32 : decode cX3_number 32 = .ok (.aload_n 0, 1) := dk_42 (dk_at dksX3_number_1 8 rfl rfl)
theorem dX3_number_33 : decode cX3_number 33 = .ok (.iconst 2, 1) := dk_5 (dk_at dksX3_number_1 9 rfl rfl)
theorem dX3_number_34 : decode cX3_number 34 = .ok (.invokevirtual 70, 3) := dk_182 0 70 (dk_at dksX3_number_1 10 rfl rfl)
theorem dX3_number_37 : decode cX3_number 37 = .ok (.athrow, 1) := dk_191 (dk_at dksX3_number_1 13 rfl rfl)
theorem dX3_number_38 : decode cX3_number 38 = .ok (.aload_n 0, 1) := dk_42 (dk_at dksX3_number_1 14 rfl rfl)
theorem dX3_number_39 : decode cX3_number 39 = .ok (.getfield 43, 3) := dk_180 0 43 (dk_at dksX3_number_1 15 rfl rfl)
theorem dX3_number_42 : decode cX3_number 42 = .ok (.istore_n 3, 1) := dk_62 (dk_at dksX3_number_1 18 rfl rfl)
theorem dX3_number_43 : decode cX3_number 43 = .ok (.aload_n 0, 1) := dk_42 (dk_at dksX3_number_1 19 rfl rfl)
theorem dX3_number_44 : decode cX3_number 44 = .ok (.invokevirtual 74, 3) := dk_182 0 74 (dk_at dksX3_number_1 20 rfl rfl)
theorem dX3_number_47 : decode cX3_number 47 = .ok (.iload_n 3, 1) := dk_29 (dk_at dksX3_number_1 23 rfl rfl)
theorem dX3_number_48 : decode cX3_number 48 = .ok (.ireturn, 1) := dk_172 (dk_at dksX3_number_2 0 rfl rfl)
abbrev cX3_want : ByteArray := prog_14_method_7_code
def yX3_want : MethodName := ⟨RX3, "want", "(I)V"⟩
def dkwX3_want_0 : List UInt8 := [42, 180, 0, 25, 27, 159, 0, 9, 42, 4, 182, 0, 70, 191, 42, 182, 0, 74, 177]
abbrev dktX3_want_0 : List UInt8 := dkwX3_want_0 ++ []
theorem dksX3_want_0 : cX3_want.data.toList.drop 0 = dktX3_want_0 := by decide +kernel
theorem dX3_want_0 : decode cX3_want 0 = .ok (.aload_n 0, 1) := dk_42 (dk_at dksX3_want_0 0 rfl rfl)
theorem dX3_want_1 : decode cX3_want 1 = .ok (.getfield 25, 3) := dk_180 0 25 (dk_at dksX3_want_0 1 rfl rfl)
theorem dX3_want_4 : decode cX3_want 4 = .ok (.iload_n 1, 1) := dk_27 (dk_at dksX3_want_0 4 rfl rfl)
theorem dX3_want_5 : decode cX3_want 5 = .ok (.if_icmp .eq 9, 3) := dk_159 0 9 (dk_at dksX3_want_0 5 rfl rfl)
theorem dX3_want_8 : decode cX3_want 8 = .ok (.aload_n 0, 1) := dk_42 (dk_at dksX3_want_0 8 rfl rfl)
theorem dX3_want_9 : decode cX3_want 9 = .ok (.iconst 1, 1) := dk_4 (dk_at dksX3_want_0 9 rfl rfl)
theorem dX3_want_10 : decode cX3_want 10 = .ok (.invokevirtual 70, 3) := dk_182 0 70 (dk_at dksX3_want_0 10 rfl rfl)
theorem dX3_want_13 : decode cX3_want 13 = .ok (.athrow, 1) := dk_191 (dk_at dksX3_want_0 13 rfl rfl)
theorem dX3_want_14 : decode cX3_want 14 = .ok (.aload_n 0, 1) := dk_42 (dk_at dksX3_want_0 14 rfl rfl)
theorem dX3_want_15 : decode cX3_want 15 = .ok (.invokevirtual 74, 3) := dk_182 0 74 (dk_at dksX3_want_0 15 rfl rfl)
theorem dX3_want_18 : decode cX3_want 18 = .ok (.return_, 1) := dk_177 (dk_at dksX3_want_0 18 rfl rfl)
theorem q115 : (Jvm.Cond.initialized "NumberComes$Tokens") ∈ lw_all := lw_g (lw_at lw_m1 5 rfl) rfl
theorem q332 : (Jvm.Cond.instantiable "NumberComes$Tokens" (8 : Nat)) ∈ lw_all := lw_g (lw_at lw_m1 222 rfl) rfl
theorem q334 : (Jvm.Cond.instanceMethod ({ cls := "NumberComes$Tokens", name := "<init>", desc := "([BI)V" } : Jvm.MethodName)) ∈ lw_all := lw_g (lw_at lw_m1 224 rfl) rfl
theorem q335 : (Jvm.Cond.code ({ cls := "NumberComes$Tokens", name := "<init>", desc := "([BI)V" } : Jvm.MethodName) prog_14_method_1_code (3 : Nat) (Option.none : Option Jvm.ClassFile.FieldType)) ∈ lw_all := lw_g (lw_at lw_m1 225 rfl) rfl
theorem q336 : (Jvm.Cond.methodLink "NumberComes$Tokens" (3 : Nat) ({ cls := "java/lang/Object", name := "<init>", desc := "()V" } : Jvm.MethodName)) ∈ lw_all := lw_g (lw_at lw_m1 226 rfl) rfl
theorem q337 : (Jvm.Cond.fieldLink "NumberComes$Tokens" (9 : Nat) "NumberComes$Tokens" "text" "[B") ∈ lw_all := lw_g (lw_at lw_m1 227 rfl) rfl
theorem q338 : (Jvm.Cond.fieldLink "NumberComes$Tokens" (15 : Nat) "NumberComes$Tokens" "size" "I") ∈ lw_all := lw_g (lw_at lw_m1 228 rfl) rfl
theorem q339 : (Jvm.Cond.fieldLink "NumberComes$Tokens" (19 : Nat) "NumberComes$Tokens" "at" "I") ∈ lw_all := lw_g (lw_at lw_m1 229 rfl) rfl
theorem q340 : (Jvm.Cond.fieldLink "NumberComes$Tokens" (22 : Nat) "NumberComes$Tokens" "token" "I") ∈ lw_all := lw_g (lw_at lw_m1 230 rfl) rfl
theorem q341 : (Jvm.Cond.fieldLink "NumberComes$Tokens" (25 : Nat) "NumberComes$Tokens" "sort" "I") ∈ lw_all := lw_g (lw_at lw_m1 231 rfl) rfl
theorem q342 : (Jvm.Cond.fieldLink "NumberComes$Tokens" (43 : Nat) "NumberComes$Tokens" "number" "I") ∈ lw_all := lw_g (lw_at lw_m1 232 rfl) rfl
theorem q343 : (Jvm.Cond.fieldLink "NumberComes$Tokens" (77 : Nat) "NumberComes$Tokens" "open" "I") ∈ lw_all := lw_g (lw_at lw_m1 233 rfl) rfl
theorem q344 : (Jvm.Cond.fieldLink "NumberComes$Tokens" (83 : Nat) "NumberComes$Tokens" "kind" "I") ∈ lw_all := lw_g (lw_at lw_m1 234 rfl) rfl
theorem q345 : (Jvm.Cond.laysFinal "NumberComes$Tokens" "NumberComes$Tokens" "text" "[B") ∈ lw_all := lw_g (lw_at lw_m1 235 rfl) rfl
theorem q346 : (Jvm.Cond.soleField "NumberComes$Tokens" "text") ∈ lw_all := lw_g (lw_at lw_m1 236 rfl) rfl
theorem q347 : (Jvm.Cond.laysFinal "NumberComes$Tokens" "NumberComes$Tokens" "size" "I") ∈ lw_all := lw_g (lw_at lw_m1 237 rfl) rfl
theorem q348 : (Jvm.Cond.soleField "NumberComes$Tokens" "size") ∈ lw_all := lw_g (lw_at lw_m1 238 rfl) rfl
theorem q349 : (Jvm.Cond.lays "NumberComes$Tokens" "NumberComes$Tokens" "at" "I") ∈ lw_all := lw_g (lw_at lw_m1 239 rfl) rfl
theorem q350 : (Jvm.Cond.soleField "NumberComes$Tokens" "at") ∈ lw_all := lw_g (lw_at lw_m2 0 rfl) rfl
theorem q351 : (Jvm.Cond.lays "NumberComes$Tokens" "NumberComes$Tokens" "token" "I") ∈ lw_all := lw_g (lw_at lw_m2 1 rfl) rfl
theorem q352 : (Jvm.Cond.soleField "NumberComes$Tokens" "token") ∈ lw_all := lw_g (lw_at lw_m2 2 rfl) rfl
theorem q353 : (Jvm.Cond.lays "NumberComes$Tokens" "NumberComes$Tokens" "sort" "I") ∈ lw_all := lw_g (lw_at lw_m2 3 rfl) rfl
theorem q354 : (Jvm.Cond.soleField "NumberComes$Tokens" "sort") ∈ lw_all := lw_g (lw_at lw_m2 4 rfl) rfl
theorem q355 : (Jvm.Cond.lays "NumberComes$Tokens" "NumberComes$Tokens" "number" "I") ∈ lw_all := lw_g (lw_at lw_m2 5 rfl) rfl
theorem q356 : (Jvm.Cond.soleField "NumberComes$Tokens" "number") ∈ lw_all := lw_g (lw_at lw_m2 6 rfl) rfl
theorem q357 : (Jvm.Cond.lays "NumberComes$Tokens" "NumberComes$Tokens" "open" "I") ∈ lw_all := lw_g (lw_at lw_m2 7 rfl) rfl
theorem q358 : (Jvm.Cond.soleField "NumberComes$Tokens" "open") ∈ lw_all := lw_g (lw_at lw_m2 8 rfl) rfl
theorem q359 : (Jvm.Cond.lays "NumberComes$Tokens" "NumberComes$Tokens" "kind" "I") ∈ lw_all := lw_g (lw_at lw_m2 9 rfl) rfl
theorem q360 : (Jvm.Cond.soleField "NumberComes$Tokens" "kind") ∈ lw_all := lw_g (lw_at lw_m2 10 rfl) rfl
theorem q361 : (Jvm.Cond.superclass "NumberComes$Tokens" "java/lang/Object") ∈ lw_all := lw_g (lw_at lw_m2 11 rfl) rfl
theorem q363 : (Jvm.Cond.instanceMethod ({ cls := "NumberComes$Tokens", name := "read", desc := "()LNumberComes$Text;" } : Jvm.MethodName)) ∈ lw_all := lw_g (lw_at lw_m2 13 rfl) rfl
theorem q364 : (Jvm.Cond.selects "NumberComes$Tokens" ({ cls := "NumberComes$Tokens", name := "read", desc := "()LNumberComes$Text;" } : Jvm.MethodName) ({ cls := "NumberComes$Tokens", name := "read", desc := "()LNumberComes$Text;" } : Jvm.MethodName)) ∈ lw_all := lw_g (lw_at lw_m2 14 rfl) rfl
theorem q365 : (Jvm.Cond.code ({ cls := "NumberComes$Tokens", name := "read", desc := "()LNumberComes$Text;" } : Jvm.MethodName) prog_14_method_10_code (2 : Nat) (Option.some (Jvm.ClassFile.FieldType.object "NumberComes$Text"))) ∈ lw_all := lw_g (lw_at lw_m2 15 rfl) rfl
theorem q366 : (Jvm.Cond.classLink "NumberComes$Tokens" (80 : Nat) "NumberComes$Text") ∈ lw_all := lw_g (lw_at lw_m2 16 rfl) rfl
theorem q368 : (Jvm.Cond.methodLinkNest "NumberComes$Tokens" (82 : Nat) ({ cls := "NumberComes$Text", name := "<init>", desc := "()V" } : Jvm.MethodName) "NumberComes") ∈ lw_tbl := lw_at lw_m2 18 rfl
theorem q399 : (Jvm.Cond.fieldLinkNest "NumberComes$Tokens" (121 : Nat) "NumberComes$Text" "roll" "Ljava/util/ArrayList;" "NumberComes") ∈ lw_tbl := lw_at lw_m2 49 rfl
theorem q402 : (Jvm.Cond.fieldLinkNest "NumberComes$Tokens" (101 : Nat) "NumberComes$Text" "bars" "Ljava/util/ArrayList;" "NumberComes") ∈ lw_tbl := lw_at lw_m2 52 rfl
theorem q404 : (Jvm.Cond.fieldLinkNest "NumberComes$Tokens" (86 : Nat) "NumberComes$Text" "worth" "LNumberComes$Sum;" "NumberComes") ∈ lw_tbl := lw_at lw_m2 54 rfl
theorem q406 : (Jvm.Cond.fieldLinkNest "NumberComes$Tokens" (90 : Nat) "NumberComes$Text" "clauses" "I" "NumberComes") ∈ lw_tbl := lw_at lw_m2 56 rfl
theorem q416 : (Jvm.Cond.methodLink "NumberComes$Tokens" (74 : Nat) ({ cls := "NumberComes$Tokens", name := "next", desc := "()V" } : Jvm.MethodName)) ∈ lw_all := lw_g (lw_at lw_m2 66 rfl) rfl
theorem q417 : (Jvm.Cond.privateMethod ({ cls := "NumberComes$Tokens", name := "next", desc := "()V" } : Jvm.MethodName)) ∈ lw_tbl := lw_at lw_m2 67 rfl
theorem q418 : (Jvm.Cond.instanceMethod ({ cls := "NumberComes$Tokens", name := "next", desc := "()V" } : Jvm.MethodName)) ∈ lw_all := lw_g (lw_at lw_m2 68 rfl) rfl
theorem q419 : (Jvm.Cond.code ({ cls := "NumberComes$Tokens", name := "next", desc := "()V" } : Jvm.MethodName) prog_14_method_4_code (3 : Nat) (Option.none : Option Jvm.ClassFile.FieldType)) ∈ lw_all := lw_g (lw_at lw_m2 69 rfl) rfl
theorem q420 : (Jvm.Cond.methodLink "NumberComes$Tokens" (28 : Nat) ({ cls := "NumberComes$Tokens", name := "isLetter", desc := "(I)Z" } : Jvm.MethodName)) ∈ lw_all := lw_g (lw_at lw_m2 70 rfl) rfl
theorem q421 : (Jvm.Cond.static ({ cls := "NumberComes$Tokens", name := "isLetter", desc := "(I)Z" } : Jvm.MethodName)) ∈ lw_all := lw_g (lw_at lw_m2 71 rfl) rfl
theorem q422 : (Jvm.Cond.code ({ cls := "NumberComes$Tokens", name := "isLetter", desc := "(I)Z" } : Jvm.MethodName) prog_14_method_2_code (1 : Nat) (Option.some Jvm.ClassFile.FieldType.boolean)) ∈ lw_all := lw_g (lw_at lw_m2 72 rfl) rfl
theorem q423 : (Jvm.Cond.fieldLink "NumberComes$Tokens" (32 : Nat) "NumberComes$Tokens" "WORDS" "[Ljava/lang/String;") ∈ lw_all := lw_g (lw_at lw_m2 73 rfl) rfl
theorem q424 : (Jvm.Cond.laysStatic "NumberComes$Tokens" "WORDS" "[Ljava/lang/String;") ∈ lw_tbl := lw_at lw_m2 74 rfl
theorem q425 : (Jvm.Cond.methodLink "NumberComes$Tokens" (36 : Nat) ({ cls := "NumberComes$Tokens", name := "isWord", desc := "(Ljava/lang/String;)Z" } : Jvm.MethodName)) ∈ lw_all := lw_g (lw_at lw_m2 75 rfl) rfl
theorem q426 : (Jvm.Cond.privateMethod ({ cls := "NumberComes$Tokens", name := "isWord", desc := "(Ljava/lang/String;)Z" } : Jvm.MethodName)) ∈ lw_tbl := lw_at lw_m2 76 rfl
theorem q427 : (Jvm.Cond.instanceMethod ({ cls := "NumberComes$Tokens", name := "isWord", desc := "(Ljava/lang/String;)Z" } : Jvm.MethodName)) ∈ lw_all := lw_g (lw_at lw_m2 77 rfl) rfl
theorem q428 : (Jvm.Cond.code ({ cls := "NumberComes$Tokens", name := "isWord", desc := "(Ljava/lang/String;)Z" } : Jvm.MethodName) prog_14_method_5_code (3 : Nat) (Option.some Jvm.ClassFile.FieldType.boolean)) ∈ lw_all := lw_g (lw_at lw_m2 78 rfl) rfl
theorem q429 : (Jvm.Cond.methodLink "NumberComes$Tokens" (55 : Nat) ({ cls := "java/lang/String", name := "length", desc := "()I" } : Jvm.MethodName)) ∈ lw_all := lw_g (lw_at lw_m2 79 rfl) rfl
theorem q439 : (Jvm.Cond.methodLink "NumberComes$Tokens" (61 : Nat) ({ cls := "java/lang/String", name := "charAt", desc := "(I)C" } : Jvm.MethodName)) ∈ lw_all := lw_g (lw_at lw_m2 89 rfl) rfl
theorem q477 : (Jvm.Cond.methodLink "NumberComes$Tokens" (40 : Nat) ({ cls := "NumberComes$Tokens", name := "isDigit", desc := "(I)Z" } : Jvm.MethodName)) ∈ lw_all := lw_g (lw_at lw_m2 127 rfl) rfl
theorem q478 : (Jvm.Cond.static ({ cls := "NumberComes$Tokens", name := "isDigit", desc := "(I)Z" } : Jvm.MethodName)) ∈ lw_all := lw_g (lw_at lw_m2 128 rfl) rfl
theorem q479 : (Jvm.Cond.code ({ cls := "NumberComes$Tokens", name := "isDigit", desc := "(I)Z" } : Jvm.MethodName) prog_14_method_3_code (1 : Nat) (Option.some Jvm.ClassFile.FieldType.boolean)) ∈ lw_all := lw_g (lw_at lw_m2 129 rfl) rfl
theorem q480 : (Jvm.Cond.constant "NumberComes$Tokens" (46 : Nat) (99999 : Int32)) ∈ lw_all := lw_g (lw_at lw_m2 130 rfl) rfl
theorem q481 : (Jvm.Cond.methodLink "NumberComes$Tokens" (47 : Nat) ({ cls := "java/lang/Math", name := "min", desc := "(II)I" } : Jvm.MethodName)) ∈ lw_all := lw_g (lw_at lw_m2 131 rfl) rfl
theorem q484 : (Jvm.Cond.stringRef "NumberComes$Tokens" (53 : Nat) "<>=#+-*/%(),;") ∈ lw_tbl := lw_at lw_m2 134 rfl
theorem q485 : (Jvm.Cond.methodLink "NumberComes$Tokens" (70 : Nat) ({ cls := "NumberComes$Tokens", name := "wrong", desc := "(I)LNumberComes$Wrong;" } : Jvm.MethodName)) ∈ lw_all := lw_g (lw_at lw_m2 135 rfl) rfl
theorem q486 : (Jvm.Cond.privateMethod ({ cls := "NumberComes$Tokens", name := "wrong", desc := "(I)LNumberComes$Wrong;" } : Jvm.MethodName)) ∈ lw_tbl := lw_at lw_m2 136 rfl
theorem q487 : (Jvm.Cond.instanceMethod ({ cls := "NumberComes$Tokens", name := "wrong", desc := "(I)LNumberComes$Wrong;" } : Jvm.MethodName)) ∈ lw_all := lw_g (lw_at lw_m2 137 rfl) rfl
theorem q488 : (Jvm.Cond.code ({ cls := "NumberComes$Tokens", name := "wrong", desc := "(I)LNumberComes$Wrong;" } : Jvm.MethodName) prog_14_method_6_code (2 : Nat) (Option.some (Jvm.ClassFile.FieldType.object "NumberComes$Wrong"))) ∈ lw_all := lw_g (lw_at lw_m2 138 rfl) rfl
theorem q489 : (Jvm.Cond.classLink "NumberComes$Tokens" (65 : Nat) "NumberComes$Wrong") ∈ lw_all := lw_g (lw_at lw_m2 139 rfl) rfl
theorem q526 : (Jvm.Cond.methodLink "NumberComes$Tokens" (67 : Nat) ({ cls := "NumberComes$Wrong", name := "<init>", desc := "(II)V" } : Jvm.MethodName)) ∈ lw_all := lw_g (lw_at lw_m2 176 rfl) rfl
theorem q553 : (Jvm.Cond.methodLink "NumberComes$Tokens" (93 : Nat) ({ cls := "NumberComes$Tokens", name := "clause", desc := "(LNumberComes$Text;)V" } : Jvm.MethodName)) ∈ lw_all := lw_g (lw_at lw_m2 203 rfl) rfl
theorem q554 : (Jvm.Cond.privateMethod ({ cls := "NumberComes$Tokens", name := "clause", desc := "(LNumberComes$Text;)V" } : Jvm.MethodName)) ∈ lw_tbl := lw_at lw_m2 204 rfl
theorem q555 : (Jvm.Cond.instanceMethod ({ cls := "NumberComes$Tokens", name := "clause", desc := "(LNumberComes$Text;)V" } : Jvm.MethodName)) ∈ lw_all := lw_g (lw_at lw_m2 205 rfl) rfl
theorem q556 : (Jvm.Cond.code ({ cls := "NumberComes$Tokens", name := "clause", desc := "(LNumberComes$Text;)V" } : Jvm.MethodName) prog_14_method_11_code (4 : Nat) (Option.none : Option Jvm.ClassFile.FieldType)) ∈ lw_all := lw_g (lw_at lw_m2 206 rfl) rfl
theorem q557 : (Jvm.Cond.methodLink "NumberComes$Tokens" (105 : Nat) ({ cls := "NumberComes$Tokens", name := "either", desc := "()LNumberComes$Asked;" } : Jvm.MethodName)) ∈ lw_all := lw_g (lw_at lw_m2 207 rfl) rfl
theorem q558 : (Jvm.Cond.privateMethod ({ cls := "NumberComes$Tokens", name := "either", desc := "()LNumberComes$Asked;" } : Jvm.MethodName)) ∈ lw_tbl := lw_at lw_m2 208 rfl
theorem q559 : (Jvm.Cond.instanceMethod ({ cls := "NumberComes$Tokens", name := "either", desc := "()LNumberComes$Asked;" } : Jvm.MethodName)) ∈ lw_all := lw_g (lw_at lw_m2 209 rfl) rfl
theorem q560 : (Jvm.Cond.code ({ cls := "NumberComes$Tokens", name := "either", desc := "()LNumberComes$Asked;" } : Jvm.MethodName) prog_14_method_12_code (2 : Nat) (Option.some (Jvm.ClassFile.FieldType.object "NumberComes$Asked"))) ∈ lw_all := lw_g (lw_at lw_m2 210 rfl) rfl
theorem q561 : (Jvm.Cond.classLink "NumberComes$Tokens" (110 : Nat) "java/util/ArrayList") ∈ lw_all := lw_g (lw_at lw_m2 211 rfl) rfl
theorem q562 : (Jvm.Cond.methodLink "NumberComes$Tokens" (129 : Nat) ({ cls := "java/util/ArrayList", name := "<init>", desc := "()V" } : Jvm.MethodName)) ∈ lw_all := lw_g (lw_at lw_m2 212 rfl) rfl
theorem q563 : (Jvm.Cond.methodLink "NumberComes$Tokens" (130 : Nat) ({ cls := "NumberComes$Tokens", name := "both", desc := "()LNumberComes$Asked;" } : Jvm.MethodName)) ∈ lw_all := lw_g (lw_at lw_m2 213 rfl) rfl
theorem q564 : (Jvm.Cond.privateMethod ({ cls := "NumberComes$Tokens", name := "both", desc := "()LNumberComes$Asked;" } : Jvm.MethodName)) ∈ lw_tbl := lw_at lw_m2 214 rfl
theorem q565 : (Jvm.Cond.instanceMethod ({ cls := "NumberComes$Tokens", name := "both", desc := "()LNumberComes$Asked;" } : Jvm.MethodName)) ∈ lw_all := lw_g (lw_at lw_m2 215 rfl) rfl
theorem q566 : (Jvm.Cond.code ({ cls := "NumberComes$Tokens", name := "both", desc := "()LNumberComes$Asked;" } : Jvm.MethodName) prog_14_method_13_code (2 : Nat) (Option.some (Jvm.ClassFile.FieldType.object "NumberComes$Asked"))) ∈ lw_all := lw_g (lw_at lw_m2 216 rfl) rfl
theorem q567 : (Jvm.Cond.methodLink "NumberComes$Tokens" (146 : Nat) ({ cls := "NumberComes$Tokens", name := "ask", desc := "()LNumberComes$Asked;" } : Jvm.MethodName)) ∈ lw_all := lw_g (lw_at lw_m2 217 rfl) rfl
theorem q568 : (Jvm.Cond.privateMethod ({ cls := "NumberComes$Tokens", name := "ask", desc := "()LNumberComes$Asked;" } : Jvm.MethodName)) ∈ lw_tbl := lw_at lw_m2 218 rfl
theorem q569 : (Jvm.Cond.instanceMethod ({ cls := "NumberComes$Tokens", name := "ask", desc := "()LNumberComes$Asked;" } : Jvm.MethodName)) ∈ lw_all := lw_g (lw_at lw_m2 219 rfl) rfl
theorem q570 : (Jvm.Cond.code ({ cls := "NumberComes$Tokens", name := "ask", desc := "()LNumberComes$Asked;" } : Jvm.MethodName) prog_14_method_14_code (3 : Nat) (Option.some (Jvm.ClassFile.FieldType.object "NumberComes$Asked"))) ∈ lw_all := lw_g (lw_at lw_m2 220 rfl) rfl
theorem q571 : (Jvm.Cond.methodLink "NumberComes$Tokens" (149 : Nat) ({ cls := "NumberComes$Tokens", name := "opens", desc := "()V" } : Jvm.MethodName)) ∈ lw_all := lw_g (lw_at lw_m2 221 rfl) rfl
theorem q572 : (Jvm.Cond.privateMethod ({ cls := "NumberComes$Tokens", name := "opens", desc := "()V" } : Jvm.MethodName)) ∈ lw_tbl := lw_at lw_m2 222 rfl
theorem q573 : (Jvm.Cond.instanceMethod ({ cls := "NumberComes$Tokens", name := "opens", desc := "()V" } : Jvm.MethodName)) ∈ lw_all := lw_g (lw_at lw_m2 223 rfl) rfl
theorem q574 : (Jvm.Cond.code ({ cls := "NumberComes$Tokens", name := "opens", desc := "()V" } : Jvm.MethodName) prog_14_method_9_code (1 : Nat) (Option.none : Option Jvm.ClassFile.FieldType)) ∈ lw_all := lw_g (lw_at lw_m2 224 rfl) rfl
theorem q575 : (Jvm.Cond.classLink "NumberComes$Tokens" (152 : Nat) "NumberComes$Not") ∈ lw_all := lw_g (lw_at lw_m2 225 rfl) rfl
theorem q577 : (Jvm.Cond.methodLinkNest "NumberComes$Tokens" (154 : Nat) ({ cls := "NumberComes$Not", name := "<init>", desc := "(LNumberComes$Asked;)V" } : Jvm.MethodName) "NumberComes") ∈ lw_tbl := lw_at lw_m2 227 rfl
theorem q588 : (Jvm.Cond.methodLink "NumberComes$Tokens" (115 : Nat) ({ cls := "NumberComes$Tokens", name := "sum", desc := "()LNumberComes$Sum;" } : Jvm.MethodName)) ∈ lw_all := lw_g (lw_at lw_m2 238 rfl) rfl
theorem q589 : (Jvm.Cond.privateMethod ({ cls := "NumberComes$Tokens", name := "sum", desc := "()LNumberComes$Sum;" } : Jvm.MethodName)) ∈ lw_tbl := lw_at lw_m2 239 rfl
theorem q590 : (Jvm.Cond.instanceMethod ({ cls := "NumberComes$Tokens", name := "sum", desc := "()LNumberComes$Sum;" } : Jvm.MethodName)) ∈ lw_all := lw_g (lw_at lw_m3 0 rfl) rfl
theorem q591 : (Jvm.Cond.code ({ cls := "NumberComes$Tokens", name := "sum", desc := "()LNumberComes$Sum;" } : Jvm.MethodName) prog_14_method_15_code (3 : Nat) (Option.some (Jvm.ClassFile.FieldType.object "NumberComes$Sum"))) ∈ lw_all := lw_g (lw_at lw_m3 1 rfl) rfl
theorem q592 : (Jvm.Cond.classLink "NumberComes$Tokens" (162 : Nat) "NumberComes$Chain") ∈ lw_all := lw_g (lw_at lw_m3 2 rfl) rfl
theorem q594 : (Jvm.Cond.methodLink "NumberComes$Tokens" (164 : Nat) ({ cls := "NumberComes$Tokens", name := "product", desc := "()LNumberComes$Sum;" } : Jvm.MethodName)) ∈ lw_all := lw_g (lw_at lw_m3 4 rfl) rfl
theorem q595 : (Jvm.Cond.privateMethod ({ cls := "NumberComes$Tokens", name := "product", desc := "()LNumberComes$Sum;" } : Jvm.MethodName)) ∈ lw_tbl := lw_at lw_m3 5 rfl
theorem q596 : (Jvm.Cond.instanceMethod ({ cls := "NumberComes$Tokens", name := "product", desc := "()LNumberComes$Sum;" } : Jvm.MethodName)) ∈ lw_all := lw_g (lw_at lw_m3 6 rfl) rfl
theorem q597 : (Jvm.Cond.code ({ cls := "NumberComes$Tokens", name := "product", desc := "()LNumberComes$Sum;" } : Jvm.MethodName) prog_14_method_16_code (3 : Nat) (Option.some (Jvm.ClassFile.FieldType.object "NumberComes$Sum"))) ∈ lw_all := lw_g (lw_at lw_m3 7 rfl) rfl
theorem q598 : (Jvm.Cond.methodLink "NumberComes$Tokens" (176 : Nat) ({ cls := "NumberComes$Tokens", name := "one", desc := "()LNumberComes$Sum;" } : Jvm.MethodName)) ∈ lw_all := lw_g (lw_at lw_m3 8 rfl) rfl
theorem q599 : (Jvm.Cond.privateMethod ({ cls := "NumberComes$Tokens", name := "one", desc := "()LNumberComes$Sum;" } : Jvm.MethodName)) ∈ lw_tbl := lw_at lw_m3 9 rfl
theorem q600 : (Jvm.Cond.instanceMethod ({ cls := "NumberComes$Tokens", name := "one", desc := "()LNumberComes$Sum;" } : Jvm.MethodName)) ∈ lw_all := lw_g (lw_at lw_m3 10 rfl) rfl
theorem q601 : (Jvm.Cond.code ({ cls := "NumberComes$Tokens", name := "one", desc := "()LNumberComes$Sum;" } : Jvm.MethodName) prog_14_method_17_code (2 : Nat) (Option.some (Jvm.ClassFile.FieldType.object "NumberComes$Sum"))) ∈ lw_all := lw_g (lw_at lw_m3 11 rfl) rfl
theorem q602 : (Jvm.Cond.classLink "NumberComes$Tokens" (179 : Nat) "NumberComes$Plain") ∈ lw_all := lw_g (lw_at lw_m3 12 rfl) rfl
theorem q604 : (Jvm.Cond.methodLink "NumberComes$Tokens" (119 : Nat) ({ cls := "NumberComes$Tokens", name := "number", desc := "(II)I" } : Jvm.MethodName)) ∈ lw_all := lw_g (lw_at lw_m3 14 rfl) rfl
theorem q605 : (Jvm.Cond.privateMethod ({ cls := "NumberComes$Tokens", name := "number", desc := "(II)I" } : Jvm.MethodName)) ∈ lw_tbl := lw_at lw_m3 15 rfl
theorem q606 : (Jvm.Cond.instanceMethod ({ cls := "NumberComes$Tokens", name := "number", desc := "(II)I" } : Jvm.MethodName)) ∈ lw_all := lw_g (lw_at lw_m3 16 rfl) rfl
theorem q607 : (Jvm.Cond.code ({ cls := "NumberComes$Tokens", name := "number", desc := "(II)I" } : Jvm.MethodName) prog_14_method_8_code (4 : Nat) (Option.some Jvm.ClassFile.FieldType.int)) ∈ lw_all := lw_g (lw_at lw_m3 17 rfl) rfl
theorem q608 : (Jvm.Cond.methodLinkNest "NumberComes$Tokens" (181 : Nat) ({ cls := "NumberComes$Plain", name := "<init>", desc := "(I)V" } : Jvm.MethodName) "NumberComes") ∈ lw_tbl := lw_at lw_m3 18 rfl
theorem q616 : (Jvm.Cond.classLink "NumberComes$Tokens" (183 : Nat) "NumberComes$Name") ∈ lw_all := lw_g (lw_at lw_m3 26 rfl) rfl
theorem q618 : (Jvm.Cond.methodLinkNest "NumberComes$Tokens" (185 : Nat) ({ cls := "NumberComes$Name", name := "<init>", desc := "(I)V" } : Jvm.MethodName) "NumberComes") ∈ lw_tbl := lw_at lw_m3 28 rfl
theorem q626 : (Jvm.Cond.methodLink "NumberComes$Tokens" (97 : Nat) ({ cls := "NumberComes$Tokens", name := "want", desc := "(I)V" } : Jvm.MethodName)) ∈ lw_all := lw_g (lw_at lw_m3 36 rfl) rfl
theorem q627 : (Jvm.Cond.privateMethod ({ cls := "NumberComes$Tokens", name := "want", desc := "(I)V" } : Jvm.MethodName)) ∈ lw_tbl := lw_at lw_m3 37 rfl
theorem q628 : (Jvm.Cond.instanceMethod ({ cls := "NumberComes$Tokens", name := "want", desc := "(I)V" } : Jvm.MethodName)) ∈ lw_all := lw_g (lw_at lw_m3 38 rfl) rfl
theorem q629 : (Jvm.Cond.code ({ cls := "NumberComes$Tokens", name := "want", desc := "(I)V" } : Jvm.MethodName) prog_14_method_7_code (2 : Nat) (Option.none : Option Jvm.ClassFile.FieldType)) ∈ lw_all := lw_g (lw_at lw_m3 39 rfl) rfl
theorem q630 : (Jvm.Cond.classLink "NumberComes$Tokens" (186 : Nat) "NumberComes$Minus") ∈ lw_all := lw_g (lw_at lw_m3 40 rfl) rfl
theorem q632 : (Jvm.Cond.methodLinkNest "NumberComes$Tokens" (188 : Nat) ({ cls := "NumberComes$Minus", name := "<init>", desc := "(LNumberComes$Sum;)V" } : Jvm.MethodName) "NumberComes") ∈ lw_tbl := lw_at lw_m3 42 rfl
theorem q640 : (Jvm.Cond.methodLink "NumberComes$Tokens" (167 : Nat) ({ cls := "NumberComes$Chain", name := "<init>", desc := "(LNumberComes$Sum;)V" } : Jvm.MethodName)) ∈ lw_all := lw_g (lw_at lw_m3 50 rfl) rfl
theorem q656 : (Jvm.Cond.methodLink "NumberComes$Tokens" (170 : Nat) ({ cls := "NumberComes$Chain", name := "add", desc := "(ILNumberComes$Sum;)V" } : Jvm.MethodName)) ∈ lw_all := lw_g (lw_at lw_m3 66 rfl) rfl
theorem q723 : (Jvm.Cond.selects "NumberComes$Tokens" ({ cls := "java/lang/Object", name := "getClass", desc := "()Ljava/lang/Class;" } : Jvm.MethodName) ({ cls := "java/lang/Object", name := "getClass", desc := "()Ljava/lang/Class;" } : Jvm.MethodName)) ∈ lw_all := lw_g (lw_at lw_m3 133 rfl) rfl
theorem q739 : (Jvm.Cond.methodLink "NumberComes$Tokens" (173 : Nat) ({ cls := "NumberComes$Chain", name := "itself", desc := "()LNumberComes$Sum;" } : Jvm.MethodName)) ∈ lw_all := lw_g (lw_at lw_m3 149 rfl) rfl
theorem q747 : (Jvm.Cond.classLink "NumberComes$Tokens" (157 : Nat) "NumberComes$Compared") ∈ lw_all := lw_g (lw_at lw_m3 157 rfl) rfl
theorem q749 : (Jvm.Cond.methodLinkNest "NumberComes$Tokens" (159 : Nat) ({ cls := "NumberComes$Compared", name := "<init>", desc := "(ILNumberComes$Sum;LNumberComes$Sum;)V" } : Jvm.MethodName) "NumberComes") ∈ lw_tbl := lw_at lw_m3 159 rfl
theorem q763 : (Jvm.Cond.methodLink "NumberComes$Tokens" (109 : Nat) ({ cls := "java/util/ArrayList", name := "add", desc := "(Ljava/lang/Object;)Z" } : Jvm.MethodName)) ∈ lw_all := lw_g (lw_at lw_m3 173 rfl) rfl
theorem q764 : (Jvm.Cond.methodLink "NumberComes$Tokens" (133 : Nat) ({ cls := "java/util/ArrayList", name := "size", desc := "()I" } : Jvm.MethodName)) ∈ lw_all := lw_g (lw_at lw_m3 174 rfl) rfl
theorem q768 : (Jvm.Cond.methodLink "NumberComes$Tokens" (135 : Nat) ({ cls := "java/util/ArrayList", name := "get", desc := "(I)Ljava/lang/Object;" } : Jvm.MethodName)) ∈ lw_all := lw_g (lw_at lw_m3 178 rfl) rfl
theorem q780 : (Jvm.Cond.classLink "NumberComes$Tokens" (139 : Nat) "NumberComes$Asked") ∈ lw_all := lw_g (lw_at lw_m3 190 rfl) rfl
theorem q781 : (Jvm.Cond.classLink "NumberComes$Tokens" (141 : Nat) "NumberComes$All") ∈ lw_all := lw_g (lw_at lw_m3 191 rfl) rfl
theorem q783 : (Jvm.Cond.methodLinkNest "NumberComes$Tokens" (143 : Nat) ({ cls := "NumberComes$All", name := "<init>", desc := "(ZLjava/util/ArrayList;)V" } : Jvm.MethodName) "NumberComes") ∈ lw_tbl := lw_at lw_m3 193 rfl
theorem q794 : (Jvm.Cond.classLink "NumberComes$Tokens" (124 : Nat) "NumberComes$Entry") ∈ lw_all := lw_g (lw_at lw_m3 204 rfl) rfl
theorem q796 : (Jvm.Cond.methodLinkNest "NumberComes$Tokens" (126 : Nat) ({ cls := "NumberComes$Entry", name := "<init>", desc := "(ZIII)V" } : Jvm.MethodName) "NumberComes") ∈ lw_tbl := lw_at lw_m3 206 rfl
theorem q1852 : (Jvm.Cond.castable "NumberComes$Tokens" "java/lang/Object") ∈ lw_tbl := lw_at lw_m8 62 rfl
theorem q1878 : (Jvm.Cond.stringRef "NumberComes$Tokens" (189 : Nat) "bars") ∈ lw_tbl := lw_at lw_m8 88 rfl
theorem q1879 : (Jvm.Cond.stringRef "NumberComes$Tokens" (190 : Nat) "worth") ∈ lw_tbl := lw_at lw_m8 89 rfl
theorem q1880 : (Jvm.Cond.stringRef "NumberComes$Tokens" (191 : Nat) "person") ∈ lw_tbl := lw_at lw_m8 90 rfl
theorem q1881 : (Jvm.Cond.stringRef "NumberComes$Tokens" (193 : Nat) "near") ∈ lw_tbl := lw_at lw_m8 91 rfl
theorem q1882 : (Jvm.Cond.stringRef "NumberComes$Tokens" (195 : Nat) "from") ∈ lw_tbl := lw_at lw_m8 92 rfl
theorem q1883 : (Jvm.Cond.stringRef "NumberComes$Tokens" (197 : Nat) "or") ∈ lw_tbl := lw_at lw_m8 93 rfl
theorem q1884 : (Jvm.Cond.stringRef "NumberComes$Tokens" (199 : Nat) "and") ∈ lw_tbl := lw_at lw_m8 94 rfl
theorem q1885 : (Jvm.Cond.stringRef "NumberComes$Tokens" (201 : Nat) "not") ∈ lw_tbl := lw_at lw_m8 95 rfl
theorem q1886 : (Jvm.Cond.stringRef "NumberComes$Tokens" (203 : Nat) "clock") ∈ lw_tbl := lw_at lw_m8 96 rfl
theorem q1887 : (Jvm.Cond.stringRef "NumberComes$Tokens" (205 : Nat) "number") ∈ lw_tbl := lw_at lw_m8 97 rfl
theorem q1888 : (Jvm.Cond.stringRef "NumberComes$Tokens" (206 : Nat) "first") ∈ lw_tbl := lw_at lw_m8 98 rfl
theorem q1889 : (Jvm.Cond.stringRef "NumberComes$Tokens" (208 : Nat) "who") ∈ lw_tbl := lw_at lw_m8 99 rfl
theorem q1890 : (Jvm.Cond.stringRef "NumberComes$Tokens" (210 : Nat) "got") ∈ lw_tbl := lw_at lw_m8 100 rfl
theorem q1891 : (Jvm.Cond.stringRef "NumberComes$Tokens" (212 : Nat) "asked") ∈ lw_tbl := lw_at lw_m8 101 rfl
theorem q1892 : (Jvm.Cond.stringRef "NumberComes$Tokens" (214 : Nat) "hours") ∈ lw_tbl := lw_at lw_m8 102 rfl
theorem in_X3 : ∀ w ∈ wsX30, w ∈ lw_all := lw_in wsX30 [345, 347, 349, 351, 353, 355, 357, 359] (by decide +kernel) (by decide +kernel)
/-! NumberComes$Text -/
set_option maxRecDepth 100000
def RX4 : String := "NumberComes$Text"
def TX4 : u_T := fun k => match k with
  | 0 => ("NumberComes$Text", "roll", "Ljava/util/ArrayList;", true)
  | 1 => ("NumberComes$Text", "bars", "Ljava/util/ArrayList;", true)
  | 2 => ("NumberComes$Text", "worth", "LNumberComes$Sum;", false)
  | _ => ("NumberComes$Text", "clauses", "I", false)
def tyX4 : Nat → FieldType := fun k => match k with
  | 0 => .object "java/util/ArrayList"
  | 1 => .object "java/util/ArrayList"
  | 2 => .object "NumberComes$Sum"
  | _ => .int
abbrev wsX40 : List Cond := u_ws RX4 TX4 4
theorem nmX4 : ∀ a, a < 4 → ∀ b, b < 4 → a ≠ b → (TX4 a).2.1 ≠ (TX4 b).2.1 := by decide +kernel
theorem tyX4_ok : ∀ k, k < 4 → parseFieldDescriptor (TX4 k).2.2.1 = some (tyX4 k) := by decide +kernel
abbrev cX4_init : ByteArray := prog_13_method_1_code
def yX4_init : MethodName := ⟨RX4, "<init>", "()V"⟩
def dkwX4_init_1 : List UInt8 := [181, 0, 16, 177]
abbrev dktX4_init_1 : List UInt8 := dkwX4_init_1 ++ []
def dkwX4_init_0 : List UInt8 := [42, 183, 0, 1, 42, 187, 0, 7, 89, 183, 0, 9, 181, 0, 10, 42, 187, 0, 7, 89, 183, 0, 9]
abbrev dktX4_init_0 : List UInt8 := dkwX4_init_0 ++ dktX4_init_1
theorem dksX4_init_0 : cX4_init.data.toList.drop 0 = dktX4_init_0 := by decide +kernel
theorem dksX4_init_1 : cX4_init.data.toList.drop 23 = dktX4_init_1 := dk_seg dksX4_init_0 23 rfl rfl
theorem dX4_init_0 : decode cX4_init 0 = .ok (.aload_n 0, 1) := dk_42 (dk_at dksX4_init_0 0 rfl rfl)
theorem dX4_init_1 : decode cX4_init 1 = .ok (.invokespecial 1, 3) := dk_183 0 1 (dk_at dksX4_init_0 1 rfl rfl)
theorem dX4_init_4 : decode cX4_init 4 = .ok (.aload_n 0, 1) := dk_42 (dk_at dksX4_init_0 4 rfl rfl)
theorem dX4_init_5 : decode cX4_init 5 = .ok (.new 7, 3) := dk_187 0 7 (dk_at dksX4_init_0 5 rfl rfl)
theorem dX4_init_8 : decode cX4_init 8 = .ok (.dup, 1) := dk_89 (dk_at dksX4_init_0 8 rfl rfl)
theorem dX4_init_9 : decode cX4_init 9 = .ok (.invokespecial 9, 3) := dk_183 0 9 (dk_at dksX4_init_0 9 rfl rfl)
theorem dX4_init_12 : decode cX4_init 12 = .ok (.putfield 10, 3) := dk_181 0 10 (dk_at dksX4_init_0 12 rfl rfl)
theorem dX4_init_15 : decode cX4_init 15 = .ok (.aload_n 0, 1) := dk_42 (dk_at dksX4_init_0 15 rfl rfl)
theorem dX4_init_16 : decode cX4_init 16 = .ok (.new 7, 3) := dk_187 0 7 (dk_at dksX4_init_0 16 rfl rfl)
theorem dX4_init_19 : decode cX4_init 19 = .ok (.dup, 1) := dk_89 (dk_at dksX4_init_0 19 rfl rfl)
theorem dX4_init_20 : decode cX4_init 20 = .ok (.invokespecial 9, 3) := dk_183 0 9 (dk_at dksX4_init_0 20 rfl rfl)
theorem dX4_init_23 : decode cX4_init 23 = .ok (.putfield 16, 3) := dk_181 0 16 (dk_at dksX4_init_1 0 rfl rfl)
theorem dX4_init_26 : decode cX4_init 26 = .ok (.return_, 1) := dk_177 (dk_at dksX4_init_1 3 rfl rfl)
theorem q116 : (Jvm.Cond.initialized "NumberComes$Text") ∈ lw_all := lw_g (lw_at lw_m1 6 rfl) rfl
theorem q367 : (Jvm.Cond.instantiable "NumberComes$Text" (4 : Nat)) ∈ lw_all := lw_g (lw_at lw_m2 17 rfl) rfl
theorem q369 : (Jvm.Cond.instanceMethod ({ cls := "NumberComes$Text", name := "<init>", desc := "()V" } : Jvm.MethodName)) ∈ lw_all := lw_g (lw_at lw_m2 19 rfl) rfl
theorem q370 : (Jvm.Cond.code ({ cls := "NumberComes$Text", name := "<init>", desc := "()V" } : Jvm.MethodName) prog_13_method_1_code (1 : Nat) (Option.none : Option Jvm.ClassFile.FieldType)) ∈ lw_all := lw_g (lw_at lw_m2 20 rfl) rfl
theorem q371 : (Jvm.Cond.methodLink "NumberComes$Text" (1 : Nat) ({ cls := "java/lang/Object", name := "<init>", desc := "()V" } : Jvm.MethodName)) ∈ lw_all := lw_g (lw_at lw_m2 21 rfl) rfl
theorem q372 : (Jvm.Cond.classLink "NumberComes$Text" (7 : Nat) "java/util/ArrayList") ∈ lw_all := lw_g (lw_at lw_m2 22 rfl) rfl
theorem q374 : (Jvm.Cond.methodLink "NumberComes$Text" (9 : Nat) ({ cls := "java/util/ArrayList", name := "<init>", desc := "()V" } : Jvm.MethodName)) ∈ lw_all := lw_g (lw_at lw_m2 24 rfl) rfl
theorem q398 : (Jvm.Cond.fieldLink "NumberComes$Text" (10 : Nat) "NumberComes$Text" "roll" "Ljava/util/ArrayList;") ∈ lw_all := lw_g (lw_at lw_m2 48 rfl) rfl
theorem q401 : (Jvm.Cond.fieldLink "NumberComes$Text" (16 : Nat) "NumberComes$Text" "bars" "Ljava/util/ArrayList;") ∈ lw_all := lw_g (lw_at lw_m2 51 rfl) rfl
theorem q407 : (Jvm.Cond.laysFinal "NumberComes$Text" "NumberComes$Text" "roll" "Ljava/util/ArrayList;") ∈ lw_all := lw_g (lw_at lw_m2 57 rfl) rfl
theorem q408 : (Jvm.Cond.soleField "NumberComes$Text" "roll") ∈ lw_all := lw_g (lw_at lw_m2 58 rfl) rfl
theorem q409 : (Jvm.Cond.laysFinal "NumberComes$Text" "NumberComes$Text" "bars" "Ljava/util/ArrayList;") ∈ lw_all := lw_g (lw_at lw_m2 59 rfl) rfl
theorem q410 : (Jvm.Cond.soleField "NumberComes$Text" "bars") ∈ lw_all := lw_g (lw_at lw_m2 60 rfl) rfl
theorem q411 : (Jvm.Cond.lays "NumberComes$Text" "NumberComes$Text" "worth" "LNumberComes$Sum;") ∈ lw_all := lw_g (lw_at lw_m2 61 rfl) rfl
theorem q412 : (Jvm.Cond.soleField "NumberComes$Text" "worth") ∈ lw_all := lw_g (lw_at lw_m2 62 rfl) rfl
theorem q413 : (Jvm.Cond.lays "NumberComes$Text" "NumberComes$Text" "clauses" "I") ∈ lw_all := lw_g (lw_at lw_m2 63 rfl) rfl
theorem q414 : (Jvm.Cond.soleField "NumberComes$Text" "clauses") ∈ lw_all := lw_g (lw_at lw_m2 64 rfl) rfl
theorem q415 : (Jvm.Cond.superclass "NumberComes$Text" "java/lang/Object") ∈ lw_all := lw_g (lw_at lw_m2 65 rfl) rfl
theorem q722 : (Jvm.Cond.selects "NumberComes$Text" ({ cls := "java/lang/Object", name := "getClass", desc := "()Ljava/lang/Class;" } : Jvm.MethodName) ({ cls := "java/lang/Object", name := "getClass", desc := "()Ljava/lang/Class;" } : Jvm.MethodName)) ∈ lw_all := lw_g (lw_at lw_m3 132 rfl) rfl
theorem q1847 : (Jvm.Cond.castable "NumberComes$Text" "java/lang/Object") ∈ lw_tbl := lw_at lw_m8 57 rfl
theorem in_X4 : ∀ w ∈ wsX40, w ∈ lw_all := lw_in wsX40 [407, 409, 411, 413] (by decide +kernel) (by decide +kernel)
/-! NumberComes$Wrong -/
set_option maxRecDepth 100000
def RX5 : String := "NumberComes$Wrong"
def TX5 : u_T := fun k => match k with
  | 0 => ("java/lang/Throwable", "cause", "Ljava/lang/Throwable;", false)
  | 1 => ("java/lang/Throwable", "stackTrace", "[Ljava/lang/StackTraceElement;", false)
  | 2 => ("java/lang/Throwable", "suppressedExceptions", "Ljava/util/List;", false)
  | 3 => ("java/lang/Throwable", "detailMessage", "Ljava/lang/String;", false)
  | 4 => ("java/lang/Throwable", "backtrace", "Ljava/lang/Object;", false)
  | 5 => ("java/lang/Throwable", "depth", "I", false)
  | 6 => ("NumberComes$Wrong", "fault", "I", true)
  | _ => ("NumberComes$Wrong", "place", "I", true)
def tyX5 : Nat → FieldType := fun k => match k with
  | 0 => .object "java/lang/Throwable"
  | 1 => .array (.object "java/lang/StackTraceElement")
  | 2 => .object "java/util/List"
  | 3 => .object "java/lang/String"
  | 4 => .object "java/lang/Object"
  | 5 => .int
  | 6 => .int
  | _ => .int
abbrev wsX50 : List Cond := u_ws RX5 TX5 8
theorem nmX5 : ∀ a, a < 8 → ∀ b, b < 8 → a ≠ b → (TX5 a).2.1 ≠ (TX5 b).2.1 := by decide +kernel
theorem tyX5_ok : ∀ k, k < 8 → parseFieldDescriptor (TX5 k).2.2.1 = some (tyX5 k) := by decide +kernel
abbrev cX5_init : ByteArray := prog_15_method_1_code
def yX5_init : MethodName := ⟨RX5, "<init>", "(II)V"⟩
def dkwX5_init_0 : List UInt8 := [42, 183, 0, 1, 42, 27, 181, 0, 7, 42, 28, 181, 0, 13, 177]
abbrev dktX5_init_0 : List UInt8 := dkwX5_init_0 ++ []
theorem dksX5_init_0 : cX5_init.data.toList.drop 0 = dktX5_init_0 := by decide +kernel
theorem dX5_init_0 : decode cX5_init 0 = .ok (.aload_n 0, 1) := dk_42 (dk_at dksX5_init_0 0 rfl rfl)
theorem dX5_init_1 : decode cX5_init 1 = .ok (.invokespecial 1, 3) := dk_183 0 1 (dk_at dksX5_init_0 1 rfl rfl)
theorem dX5_init_4 : decode cX5_init 4 = .ok (.aload_n 0, 1) := dk_42 (dk_at dksX5_init_0 4 rfl rfl)
theorem dX5_init_5 : decode cX5_init 5 = .ok (.iload_n 1, 1) := dk_27 (dk_at dksX5_init_0 5 rfl rfl)
theorem dX5_init_6 : decode cX5_init 6 = .ok (.putfield 7, 3) := dk_181 0 7 (dk_at dksX5_init_0 6 rfl rfl)
theorem dX5_init_9 : decode cX5_init 9 = .ok (.aload_n 0, 1) := dk_42 (dk_at dksX5_init_0 9 rfl rfl)
theorem dX5_init_10 : decode cX5_init 10 = .ok (.iload_n 2, 1) := dk_28 (dk_at dksX5_init_0 10 rfl rfl)
theorem dX5_init_11 : decode cX5_init 11 = .ok (.putfield 13, 3) := dk_181 0 13 (dk_at dksX5_init_0 11 rfl rfl)
theorem dX5_init_14 : decode cX5_init 14 = .ok (.return_, 1) := dk_177 (dk_at dksX5_init_0 14 rfl rfl)
theorem q127 : (Jvm.Cond.initialized "NumberComes$Wrong") ∈ lw_all := lw_g (lw_at lw_m1 17 rfl) rfl
theorem q490 : (Jvm.Cond.instantiable "NumberComes$Wrong" (8 : Nat)) ∈ lw_all := lw_g (lw_at lw_m2 140 rfl) rfl
theorem q491 : (Jvm.Cond.castable "NumberComes$Wrong" "NumberComes$Wrong") ∈ lw_tbl := lw_at lw_m2 141 rfl
theorem q496 : (Jvm.Cond.selects "NumberComes$Wrong" ({ cls := "java/lang/Throwable", name := "fillInStackTrace", desc := "(I)Ljava/lang/Throwable;" } : Jvm.MethodName) ({ cls := "java/lang/Throwable", name := "fillInStackTrace", desc := "(I)Ljava/lang/Throwable;" } : Jvm.MethodName)) ∈ lw_all := lw_g (lw_at lw_m2 146 rfl) rfl
theorem q497 : (Jvm.Cond.selects "NumberComes$Wrong" ({ cls := "java/lang/Throwable", name := "fillInStackTrace", desc := "()Ljava/lang/Throwable;" } : Jvm.MethodName) ({ cls := "java/lang/Throwable", name := "fillInStackTrace", desc := "()Ljava/lang/Throwable;" } : Jvm.MethodName)) ∈ lw_all := lw_g (lw_at lw_m2 147 rfl) rfl
theorem q498 : (Jvm.Cond.lays "NumberComes$Wrong" "java/lang/Throwable" "cause" "Ljava/lang/Throwable;") ∈ lw_all := lw_g (lw_at lw_m2 148 rfl) rfl
theorem q500 : (Jvm.Cond.lays "NumberComes$Wrong" "java/lang/Throwable" "stackTrace" "[Ljava/lang/StackTraceElement;") ∈ lw_all := lw_g (lw_at lw_m2 150 rfl) rfl
theorem q502 : (Jvm.Cond.lays "NumberComes$Wrong" "java/lang/Throwable" "suppressedExceptions" "Ljava/util/List;") ∈ lw_all := lw_g (lw_at lw_m2 152 rfl) rfl
theorem q504 : (Jvm.Cond.lays "NumberComes$Wrong" "java/lang/Throwable" "detailMessage" "Ljava/lang/String;") ∈ lw_all := lw_g (lw_at lw_m2 154 rfl) rfl
theorem q506 : (Jvm.Cond.lays "NumberComes$Wrong" "java/lang/Throwable" "backtrace" "Ljava/lang/Object;") ∈ lw_all := lw_g (lw_at lw_m2 156 rfl) rfl
theorem q527 : (Jvm.Cond.instanceMethod ({ cls := "NumberComes$Wrong", name := "<init>", desc := "(II)V" } : Jvm.MethodName)) ∈ lw_all := lw_g (lw_at lw_m2 177 rfl) rfl
theorem q528 : (Jvm.Cond.code ({ cls := "NumberComes$Wrong", name := "<init>", desc := "(II)V" } : Jvm.MethodName) prog_15_method_1_code (3 : Nat) (Option.none : Option Jvm.ClassFile.FieldType)) ∈ lw_all := lw_g (lw_at lw_m2 178 rfl) rfl
theorem q529 : (Jvm.Cond.methodLink "NumberComes$Wrong" (1 : Nat) ({ cls := "java/lang/Exception", name := "<init>", desc := "()V" } : Jvm.MethodName)) ∈ lw_all := lw_g (lw_at lw_m2 179 rfl) rfl
theorem q533 : (Jvm.Cond.fieldLink "NumberComes$Wrong" (7 : Nat) "NumberComes$Wrong" "fault" "I") ∈ lw_all := lw_g (lw_at lw_m2 183 rfl) rfl
theorem q535 : (Jvm.Cond.fieldLink "NumberComes$Wrong" (13 : Nat) "NumberComes$Wrong" "place" "I") ∈ lw_all := lw_g (lw_at lw_m2 185 rfl) rfl
theorem q541 : (Jvm.Cond.laysFinal "NumberComes$Wrong" "NumberComes$Wrong" "fault" "I") ∈ lw_all := lw_g (lw_at lw_m2 191 rfl) rfl
theorem q542 : (Jvm.Cond.soleField "NumberComes$Wrong" "fault") ∈ lw_all := lw_g (lw_at lw_m2 192 rfl) rfl
theorem q543 : (Jvm.Cond.laysFinal "NumberComes$Wrong" "NumberComes$Wrong" "place" "I") ∈ lw_all := lw_g (lw_at lw_m2 193 rfl) rfl
theorem q544 : (Jvm.Cond.soleField "NumberComes$Wrong" "place") ∈ lw_all := lw_g (lw_at lw_m2 194 rfl) rfl
theorem q549 : (Jvm.Cond.lays "NumberComes$Wrong" "java/lang/Throwable" "depth" "I") ∈ lw_all := lw_g (lw_at lw_m2 199 rfl) rfl
theorem q552 : (Jvm.Cond.superclass "NumberComes$Wrong" "java/lang/Exception") ∈ lw_all := lw_g (lw_at lw_m2 202 rfl) rfl
theorem q724 : (Jvm.Cond.selects "NumberComes$Wrong" ({ cls := "java/lang/Object", name := "getClass", desc := "()Ljava/lang/Class;" } : Jvm.MethodName) ({ cls := "java/lang/Object", name := "getClass", desc := "()Ljava/lang/Class;" } : Jvm.MethodName)) ∈ lw_all := lw_g (lw_at lw_m3 134 rfl) rfl
theorem q1854 : (Jvm.Cond.castable "NumberComes$Wrong" "java/lang/Object") ∈ lw_tbl := lw_at lw_m8 64 rfl
theorem in_X5 : ∀ w ∈ wsX50, w ∈ lw_all := lw_in wsX50 [498, 500, 502, 504, 506, 549, 541, 543] (by decide +kernel) (by decide +kernel)
/-! NumberComes$Not -/
set_option maxRecDepth 100000
def RX6 : String := "NumberComes$Not"
def TX6 : u_T := fun k => match k with
  | _ => ("NumberComes$Not", "x", "LNumberComes$Asked;", true)
def tyX6 : Nat → FieldType := fun k => match k with
  | _ => .object "NumberComes$Asked"
abbrev wsX60 : List Cond := u_ws RX6 TX6 1
theorem nmX6 : ∀ a, a < 1 → ∀ b, b < 1 → a ≠ b → (TX6 a).2.1 ≠ (TX6 b).2.1 := by decide +kernel
theorem tyX6_ok : ∀ k, k < 1 → parseFieldDescriptor (TX6 k).2.2.1 = some (tyX6 k) := by decide +kernel
abbrev cX6_init : ByteArray := prog_9_method_1_code
def yX6_init : MethodName := ⟨RX6, "<init>", "(LNumberComes$Asked;)V"⟩
def dkwX6_init_0 : List UInt8 := [42, 183, 0, 1, 42, 43, 181, 0, 7, 177]
abbrev dktX6_init_0 : List UInt8 := dkwX6_init_0 ++ []
theorem dksX6_init_0 : cX6_init.data.toList.drop 0 = dktX6_init_0 := by decide +kernel
theorem dX6_init_0 : decode cX6_init 0 = .ok (.aload_n 0, 1) := dk_42 (dk_at dksX6_init_0 0 rfl rfl)
theorem dX6_init_1 : decode cX6_init 1 = .ok (.invokespecial 1, 3) := dk_183 0 1 (dk_at dksX6_init_0 1 rfl rfl)
theorem dX6_init_4 : decode cX6_init 4 = .ok (.aload_n 0, 1) := dk_42 (dk_at dksX6_init_0 4 rfl rfl)
theorem dX6_init_5 : decode cX6_init 5 = .ok (.aload_n 1, 1) := dk_43 (dk_at dksX6_init_0 5 rfl rfl)
theorem dX6_init_6 : decode cX6_init 6 = .ok (.putfield 7, 3) := dk_181 0 7 (dk_at dksX6_init_0 6 rfl rfl)
theorem dX6_init_9 : decode cX6_init 9 = .ok (.return_, 1) := dk_177 (dk_at dksX6_init_0 9 rfl rfl)
abbrev cX6_is : ByteArray := prog_9_method_2_code
def yX6_is : MethodName := ⟨RX6, "is", "([I)Z"⟩
def dkwX6_is_0 : List UInt8 := [42, 180, 0, 7, 43, 185, 0, 13, 2, 0, 154, 0, 7, 4, 167, 0, 4, 3, 172]
abbrev dktX6_is_0 : List UInt8 := dkwX6_is_0 ++ []
theorem dksX6_is_0 : cX6_is.data.toList.drop 0 = dktX6_is_0 := by decide +kernel
theorem dX6_is_0 : decode cX6_is 0 = .ok (.aload_n 0, 1) := dk_42 (dk_at dksX6_is_0 0 rfl rfl)
theorem dX6_is_1 : decode cX6_is 1 = .ok (.getfield 7, 3) := dk_180 0 7 (dk_at dksX6_is_0 1 rfl rfl)
theorem dX6_is_4 : decode cX6_is 4 = .ok (.aload_n 1, 1) := dk_43 (dk_at dksX6_is_0 4 rfl rfl)
theorem dX6_is_5 : decode cX6_is 5 = .ok (.invokeinterface 13 2, 5) := by decide +kernel
theorem dX6_is_10 : decode cX6_is 10 = .ok (.ifCond .ne 7, 3) := dk_154 0 7 (dk_at dksX6_is_0 10 rfl rfl)
theorem dX6_is_13 : decode cX6_is 13 = .ok (.iconst 1, 1) := dk_4 (dk_at dksX6_is_0 13 rfl rfl)
theorem dX6_is_14 : decode cX6_is 14 = .ok (.goto 4, 3) := dk_167 0 4 (dk_at dksX6_is_0 14 rfl rfl)
theorem dX6_is_17 : decode cX6_is 17 = .ok (.iconst 0, 1) := dk_3 (dk_at dksX6_is_0 17 rfl rfl)
theorem dX6_is_18 : decode cX6_is 18 = .ok (.ireturn, 1) := dk_172 (dk_at dksX6_is_0 18 rfl rfl)
theorem q129 : (Jvm.Cond.initialized "NumberComes$Not") ∈ lw_all := lw_g (lw_at lw_m1 19 rfl) rfl
theorem q576 : (Jvm.Cond.instantiable "NumberComes$Not" (1 : Nat)) ∈ lw_all := lw_g (lw_at lw_m2 226 rfl) rfl
theorem q578 : (Jvm.Cond.instanceMethod ({ cls := "NumberComes$Not", name := "<init>", desc := "(LNumberComes$Asked;)V" } : Jvm.MethodName)) ∈ lw_all := lw_g (lw_at lw_m2 228 rfl) rfl
theorem q579 : (Jvm.Cond.code ({ cls := "NumberComes$Not", name := "<init>", desc := "(LNumberComes$Asked;)V" } : Jvm.MethodName) prog_9_method_1_code (2 : Nat) (Option.none : Option Jvm.ClassFile.FieldType)) ∈ lw_all := lw_g (lw_at lw_m2 229 rfl) rfl
theorem q580 : (Jvm.Cond.methodLink "NumberComes$Not" (1 : Nat) ({ cls := "java/lang/Record", name := "<init>", desc := "()V" } : Jvm.MethodName)) ∈ lw_all := lw_g (lw_at lw_m2 230 rfl) rfl
theorem q584 : (Jvm.Cond.fieldLink "NumberComes$Not" (7 : Nat) "NumberComes$Not" "x" "LNumberComes$Asked;") ∈ lw_all := lw_g (lw_at lw_m2 234 rfl) rfl
theorem q585 : (Jvm.Cond.laysFinal "NumberComes$Not" "NumberComes$Not" "x" "LNumberComes$Asked;") ∈ lw_all := lw_g (lw_at lw_m2 235 rfl) rfl
theorem q586 : (Jvm.Cond.soleField "NumberComes$Not" "x") ∈ lw_all := lw_g (lw_at lw_m2 236 rfl) rfl
theorem q587 : (Jvm.Cond.superclass "NumberComes$Not" "java/lang/Record") ∈ lw_all := lw_g (lw_at lw_m2 237 rfl) rfl
theorem q719 : (Jvm.Cond.selects "NumberComes$Not" ({ cls := "java/lang/Object", name := "getClass", desc := "()Ljava/lang/Class;" } : Jvm.MethodName) ({ cls := "java/lang/Object", name := "getClass", desc := "()Ljava/lang/Class;" } : Jvm.MethodName)) ∈ lw_all := lw_g (lw_at lw_m3 129 rfl) rfl
theorem q921 : (Jvm.Cond.castable "NumberComes$Not" "NumberComes$Asked") ∈ lw_tbl := lw_at lw_m4 91 rfl
theorem q922 : (Jvm.Cond.selects "NumberComes$Not" ({ cls := "NumberComes$Asked", name := "is", desc := "([I)Z" } : Jvm.MethodName) ({ cls := "NumberComes$Not", name := "is", desc := "([I)Z" } : Jvm.MethodName)) ∈ lw_all := lw_g (lw_at lw_m4 92 rfl) rfl
theorem q923 : (Jvm.Cond.unhidden "NumberComes$Not" "is" "([I)Z") ∈ lw_tbl := lw_at lw_m4 93 rfl
theorem q924 : (Jvm.Cond.instanceMethod ({ cls := "NumberComes$Not", name := "is", desc := "([I)Z" } : Jvm.MethodName)) ∈ lw_all := lw_g (lw_at lw_m4 94 rfl) rfl
theorem q925 : (Jvm.Cond.publicMethod ({ cls := "NumberComes$Not", name := "is", desc := "([I)Z" } : Jvm.MethodName)) ∈ lw_tbl := lw_at lw_m4 95 rfl
theorem q926 : (Jvm.Cond.code ({ cls := "NumberComes$Not", name := "is", desc := "([I)Z" } : Jvm.MethodName) prog_9_method_2_code (2 : Nat) (Option.some Jvm.ClassFile.FieldType.boolean)) ∈ lw_all := lw_g (lw_at lw_m4 96 rfl) rfl
theorem q927 : (Jvm.Cond.interfaceEntry "NumberComes$Not" (13 : Nat)) ∈ lw_tbl := lw_at lw_m4 97 rfl
theorem q928 : (Jvm.Cond.methodLink "NumberComes$Not" (13 : Nat) ({ cls := "NumberComes$Asked", name := "is", desc := "([I)Z" } : Jvm.MethodName)) ∈ lw_all := lw_g (lw_at lw_m4 98 rfl) rfl
theorem q1855 : (Jvm.Cond.castable "NumberComes$Not" "java/lang/Object") ∈ lw_tbl := lw_at lw_m8 65 rfl
theorem in_X6 : ∀ w ∈ wsX60, w ∈ lw_all := lw_in wsX60 [585] (by decide +kernel) (by decide +kernel)
/-! NumberComes$Chain -/
set_option maxRecDepth 100000
def RX7 : String := "NumberComes$Chain"
def TX7 : u_T := fun k => match k with
  | 0 => ("NumberComes$Chain", "first", "LNumberComes$Sum;", true)
  | 1 => ("NumberComes$Chain", "more", "Ljava/util/ArrayList;", true)
  | _ => ("NumberComes$Chain", "signs", "Ljava/util/ArrayList;", true)
def tyX7 : Nat → FieldType := fun k => match k with
  | 0 => .object "NumberComes$Sum"
  | 1 => .object "java/util/ArrayList"
  | _ => .object "java/util/ArrayList"
abbrev wsX70 : List Cond := u_ws RX7 TX7 3
theorem nmX7 : ∀ a, a < 3 → ∀ b, b < 3 → a ≠ b → (TX7 a).2.1 ≠ (TX7 b).2.1 := by decide +kernel
theorem tyX7_ok : ∀ k, k < 3 → parseFieldDescriptor (TX7 k).2.2.1 = some (tyX7 k) := by decide +kernel
abbrev cX7_init : ByteArray := prog_4_method_1_code
def yX7_init : MethodName := ⟨RX7, "<init>", "(LNumberComes$Sum;)V"⟩
def dkwX7_init_1 : List UInt8 := [181, 0, 18, 42, 43, 181, 0, 21, 177]
abbrev dktX7_init_1 : List UInt8 := dkwX7_init_1 ++ []
def dkwX7_init_0 : List UInt8 := [42, 183, 0, 3, 42, 187, 0, 9, 89, 183, 0, 11, 181, 0, 12, 42, 187, 0, 9, 89, 183, 0, 11]
abbrev dktX7_init_0 : List UInt8 := dkwX7_init_0 ++ dktX7_init_1
theorem dksX7_init_0 : cX7_init.data.toList.drop 0 = dktX7_init_0 := by decide +kernel
theorem dksX7_init_1 : cX7_init.data.toList.drop 23 = dktX7_init_1 := dk_seg dksX7_init_0 23 rfl rfl
theorem dX7_init_0 : decode cX7_init 0 = .ok (.aload_n 0, 1) := dk_42 (dk_at dksX7_init_0 0 rfl rfl)
theorem dX7_init_1 : decode cX7_init 1 = .ok (.invokespecial 3, 3) := dk_183 0 3 (dk_at dksX7_init_0 1 rfl rfl)
theorem dX7_init_4 : decode cX7_init 4 = .ok (.aload_n 0, 1) := dk_42 (dk_at dksX7_init_0 4 rfl rfl)
theorem dX7_init_5 : decode cX7_init 5 = .ok (.new 9, 3) := dk_187 0 9 (dk_at dksX7_init_0 5 rfl rfl)
theorem dX7_init_8 : decode cX7_init 8 = .ok (.dup, 1) := dk_89 (dk_at dksX7_init_0 8 rfl rfl)
theorem dX7_init_9 : decode cX7_init 9 = .ok (.invokespecial 11, 3) := dk_183 0 11 (dk_at dksX7_init_0 9 rfl rfl)
theorem dX7_init_12 : decode cX7_init 12 = .ok (.putfield 12, 3) := dk_181 0 12 (dk_at dksX7_init_0 12 rfl rfl)
theorem dX7_init_15 : decode cX7_init 15 = .ok (.aload_n 0, 1) := dk_42 (dk_at dksX7_init_0 15 rfl rfl)
theorem dX7_init_16 : decode cX7_init 16 = .ok (.new 9, 3) := dk_187 0 9 (dk_at dksX7_init_0 16 rfl rfl)
theorem dX7_init_19 : decode cX7_init 19 = .ok (.dup, 1) := dk_89 (dk_at dksX7_init_0 19 rfl rfl)
theorem dX7_init_20 : decode cX7_init 20 = .ok (.invokespecial 11, 3) := dk_183 0 11 (dk_at dksX7_init_0 20 rfl rfl)
theorem dX7_init_23 : decode cX7_init 23 = .ok (.putfield 18, 3) := dk_181 0 18 (dk_at dksX7_init_1 0 rfl rfl)
theorem dX7_init_26 : decode cX7_init 26 = .ok (.aload_n 0, 1) := dk_42 (dk_at dksX7_init_1 3 rfl rfl)
theorem dX7_init_27 : decode cX7_init 27 = .ok (.aload_n 1, 1) := dk_43 (dk_at dksX7_init_1 4 rfl rfl)
theorem dX7_init_28 : decode cX7_init 28 = .ok (.putfield 21, 3) := dk_181 0 21 (dk_at dksX7_init_1 5 rfl rfl)
theorem dX7_init_31 : decode cX7_init 31 = .ok (.return_, 1) := dk_177 (dk_at dksX7_init_1 8 rfl rfl)
abbrev cX7_add : ByteArray := prog_4_method_2_code
def yX7_add : MethodName := ⟨RX7, "add", "(ILNumberComes$Sum;)V"⟩
def dkwX7_add_0 : List UInt8 := [42, 180, 0, 18, 27, 184, 0, 25, 182, 0, 31, 87, 42, 180, 0, 12, 44, 182, 0, 31, 87, 177]
abbrev dktX7_add_0 : List UInt8 := dkwX7_add_0 ++ []
theorem dksX7_add_0 : cX7_add.data.toList.drop 0 = dktX7_add_0 := by decide +kernel
theorem dX7_add_0 : decode cX7_add 0 = .ok (.aload_n 0, 1) := dk_42 (dk_at dksX7_add_0 0 rfl rfl)
theorem dX7_add_1 : decode cX7_add 1 = .ok (.getfield 18, 3) := dk_180 0 18 (dk_at dksX7_add_0 1 rfl rfl)
theorem dX7_add_4 : decode cX7_add 4 = .ok (.iload_n 1, 1) := dk_27 (dk_at dksX7_add_0 4 rfl rfl)
theorem dX7_add_5 : decode cX7_add 5 = .ok (.invokestatic 25, 3) := dk_184 0 25 (dk_at dksX7_add_0 5 rfl rfl)
theorem dX7_add_8 : decode cX7_add 8 = .ok (.invokevirtual 31, 3) := dk_182 0 31 (dk_at dksX7_add_0 8 rfl rfl)
theorem dX7_add_11 : decode cX7_add 11 = .ok (.pop, 1) := dk_87 (dk_at dksX7_add_0 11 rfl rfl)
theorem dX7_add_12 : decode cX7_add 12 = .ok (.aload_n 0, 1) := dk_42 (dk_at dksX7_add_0 12 rfl rfl)
theorem dX7_add_13 : decode cX7_add 13 = .ok (.getfield 12, 3) := dk_180 0 12 (dk_at dksX7_add_0 13 rfl rfl)
theorem dX7_add_16 : decode cX7_add 16 = .ok (.aload_n 2, 1) := dk_44 (dk_at dksX7_add_0 16 rfl rfl)
theorem dX7_add_17 : decode cX7_add 17 = .ok (.invokevirtual 31, 3) := dk_182 0 31 (dk_at dksX7_add_0 17 rfl rfl)
theorem dX7_add_20 : decode cX7_add 20 = .ok (.pop, 1) := dk_87 (dk_at dksX7_add_0 20 rfl rfl)
theorem dX7_add_21 : decode cX7_add 21 = .ok (.return_, 1) := dk_177 (dk_at dksX7_add_0 21 rfl rfl)
abbrev cX7_itself : ByteArray := prog_4_method_3_code
def yX7_itself : MethodName := ⟨RX7, "itself", "()LNumberComes$Sum;"⟩
def dkwX7_itself_0 : List UInt8 := [42, 180, 0, 12, 182, 0, 35, 153, 0, 10, 42, 180, 0, 21, 167, 0, 4, 42, 176]
abbrev dktX7_itself_0 : List UInt8 := dkwX7_itself_0 ++ []
theorem dksX7_itself_0 : cX7_itself.data.toList.drop 0 = dktX7_itself_0 := by decide +kernel
theorem dX7_itself_0 : decode cX7_itself 0 = .ok (.aload_n 0, 1) := dk_42 (dk_at dksX7_itself_0 0 rfl rfl)
theorem dX7_itself_1 : decode cX7_itself 1 = .ok (.getfield 12, 3) := dk_180 0 12 (dk_at dksX7_itself_0 1 rfl rfl)
theorem dX7_itself_4 : decode cX7_itself 4 = .ok (.invokevirtual 35, 3) := dk_182 0 35 (dk_at dksX7_itself_0 4 rfl rfl)
theorem dX7_itself_7 : decode cX7_itself 7 = .ok (.ifCond .eq 10, 3) := dk_153 0 10 (dk_at dksX7_itself_0 7 rfl rfl)
theorem dX7_itself_10 : decode cX7_itself 10 = .ok (.aload_n 0, 1) := dk_42 (dk_at dksX7_itself_0 10 rfl rfl)
theorem dX7_itself_11 : decode cX7_itself 11 = .ok (.getfield 21, 3) := dk_180 0 21 (dk_at dksX7_itself_0 11 rfl rfl)
theorem dX7_itself_14 : decode cX7_itself 14 = .ok (.goto 4, 3) := dk_167 0 4 (dk_at dksX7_itself_0 14 rfl rfl)
theorem dX7_itself_17 : decode cX7_itself 17 = .ok (.aload_n 0, 1) := dk_42 (dk_at dksX7_itself_0 17 rfl rfl)
theorem dX7_itself_18 : decode cX7_itself 18 = .ok (.areturn, 1) := dk_176 (dk_at dksX7_itself_0 18 rfl rfl)
abbrev cX7_of : ByteArray := prog_4_method_4_code
def yX7_of : MethodName := ⟨RX7, "of", "([I)J"⟩
def dkwX7_of_6 : List UInt8 := [22, 8, 184, 0, 60, 184, 0, 66, 65, 132, 4, 1, 167, 255, 116, 32, 173]
abbrev dktX7_of_6 : List UInt8 := dkwX7_of_6 ++ []
def dkwX7_of_5 : List UInt8 := [16, 47, 160, 0, 10, 32, 22, 5, 109, 167, 0, 7, 32, 22, 5, 113, 55, 8, 20, 0, 56, 20, 0, 58]
abbrev dktX7_of_5 : List UInt8 := dkwX7_of_5 ++ dktX7_of_6
def dkwX7_of_4 : List UInt8 := [160, 0, 10, 32, 22, 5, 105, 167, 0, 32, 22, 5, 9, 148, 154, 0, 7, 9, 167, 0, 21, 21, 7]
abbrev dktX7_of_4 : List UInt8 := dkwX7_of_4 ++ dktX7_of_5
def dkwX7_of_3 : List UInt8 := [22, 5, 97, 167, 0, 60, 21, 7, 16, 45, 160, 0, 10, 32, 22, 5, 101, 167, 0, 46, 21, 7, 16, 42]
abbrev dktX7_of_3 : List UInt8 := dkwX7_of_3 ++ dktX7_of_4
def dkwX7_of_2 : List UInt8 := [180, 0, 18, 21, 4, 182, 0, 49, 192, 0, 26, 182, 0, 53, 54, 7, 21, 7, 16, 43, 160, 0, 10, 32]
abbrev dktX7_of_2 : List UInt8 := dkwX7_of_2 ++ dktX7_of_3
def dkwX7_of_1 : List UInt8 := [162, 0, 134, 42, 180, 0, 12, 21, 4, 182, 0, 49, 192, 0, 40, 43, 185, 0, 39, 2, 0, 55, 5, 42]
abbrev dktX7_of_1 : List UInt8 := dkwX7_of_1 ++ dktX7_of_2
def dkwX7_of_0 : List UInt8 := [42, 180, 0, 21, 43, 185, 0, 39, 2, 0, 65, 3, 54, 4, 21, 4, 42, 180, 0, 12, 182, 0, 45]
abbrev dktX7_of_0 : List UInt8 := dkwX7_of_0 ++ dktX7_of_1
theorem dksX7_of_0 : cX7_of.data.toList.drop 0 = dktX7_of_0 := by decide +kernel
theorem dksX7_of_1 : cX7_of.data.toList.drop 23 = dktX7_of_1 := dk_seg dksX7_of_0 23 rfl rfl
theorem dksX7_of_2 : cX7_of.data.toList.drop 47 = dktX7_of_2 := dk_seg dksX7_of_1 24 rfl rfl
theorem dksX7_of_3 : cX7_of.data.toList.drop 71 = dktX7_of_3 := dk_seg dksX7_of_2 24 rfl rfl
theorem dksX7_of_4 : cX7_of.data.toList.drop 95 = dktX7_of_4 := dk_seg dksX7_of_3 24 rfl rfl
theorem dksX7_of_5 : cX7_of.data.toList.drop 118 = dktX7_of_5 := dk_seg dksX7_of_4 23 rfl rfl
theorem dksX7_of_6 : cX7_of.data.toList.drop 142 = dktX7_of_6 := dk_seg dksX7_of_5 24 rfl rfl
theorem dX7_of_0 : decode cX7_of 0 = .ok (.aload_n 0, 1) := dk_42 (dk_at dksX7_of_0 0 rfl rfl)
theorem dX7_of_1 : decode cX7_of 1 = .ok (.getfield 21, 3) := dk_180 0 21 (dk_at dksX7_of_0 1 rfl rfl)
theorem dX7_of_4 : decode cX7_of 4 = .ok (.aload_n 1, 1) := dk_43 (dk_at dksX7_of_0 4 rfl rfl)
theorem dX7_of_5 : decode cX7_of 5 = .ok (.invokeinterface 39 2, 5) := by decide +kernel
theorem dX7_of_10 : decode cX7_of 10 = .ok (.lstore_n 2, 1) := dk_65 (dk_at dksX7_of_0 10 rfl rfl)
theorem dX7_of_11 : decode cX7_of 11 = .ok (.iconst 0, 1) := dk_3 (dk_at dksX7_of_0 11 rfl rfl)
theorem dX7_of_12 : decode cX7_of 12 = .ok (.istore 4, 2) := dk_54 4 (dk_at dksX7_of_0 12 rfl rfl)
theorem dX7_of_14 : decode cX7_of 14 = .ok (.iload 4, 2) := dk_21 4 (dk_at dksX7_of_0 14 rfl rfl)
theorem dX7_of_16 : decode cX7_of 16 = .ok (.aload_n 0, 1) := dk_42 (dk_at dksX7_of_0 16 rfl rfl)
theorem dX7_of_17 : decode cX7_of 17 = .ok (.getfield 12, 3) := dk_180 0 12 (dk_at dksX7_of_0 17 rfl rfl)
theorem dX7_of_20 : decode cX7_of 20 = .ok (.invokevirtual 45, 3) := dk_182 0 45 (dk_at dksX7_of_0 20 rfl rfl)
theorem dX7_of_23 : decode cX7_of 23 = .ok (.if_icmp .ge 134, 3) := dk_162 0 134 (dk_at dksX7_of_1 0 rfl rfl)
theorem dX7_of_26 : decode cX7_of 26 = .ok (.aload_n 0, 1) := dk_42 (dk_at dksX7_of_1 3 rfl rfl)
theorem dX7_of_27 : decode cX7_of 27 = .ok (.getfield 12, 3) := dk_180 0 12 (dk_at dksX7_of_1 4 rfl rfl)
theorem dX7_of_30 : decode cX7_of 30 = .ok (.iload 4, 2) := dk_21 4 (dk_at dksX7_of_1 7 rfl rfl)
theorem dX7_of_32 : decode cX7_of 32 = .ok (.invokevirtual 49, 3) := dk_182 0 49 (dk_at dksX7_of_1 9 rfl rfl)
theorem dX7_of_35 : decode cX7_of 35 = .ok (.checkcast 40, 3) := dk_192 0 40 (dk_at dksX7_of_1 12 rfl rfl)
theorem dX7_of_38 : decode cX7_of 38 = .ok (.aload_n 1, 1) := dk_43 (dk_at dksX7_of_1 15 rfl rfl)
theorem dX7_of_39 : decode cX7_of 39 = .ok (.invokeinterface 39 2, 5) := by decide +kernel
theorem dX7_of_44 : decode cX7_of 44 = .ok (.lstore 5, 2) := dk_55 5 (dk_at dksX7_of_1 21 rfl rfl)
theorem dX7_of_46 : decode cX7_of 46 = .ok (.aload_n 0, 1) := dk_42 (dk_at dksX7_of_1 23 rfl rfl)
theorem dX7_of_47 : decode cX7_of 47 = .ok (.getfield 18, 3) := dk_180 0 18 (dk_at dksX7_of_2 0 rfl rfl)
theorem dX7_of_50 : decode cX7_of 50 = .ok (.iload 4, 2) := dk_21 4 (dk_at dksX7_of_2 3 rfl rfl)
theorem dX7_of_52 : decode cX7_of 52 = .ok (.invokevirtual 49, 3) := dk_182 0 49 (dk_at dksX7_of_2 5 rfl rfl)
theorem dX7_of_55 : decode cX7_of 55 = .ok (.checkcast 26, 3) := dk_192 0 26 (dk_at dksX7_of_2 8 rfl rfl)
theorem dX7_of_58 : decode cX7_of 58 = .ok (.invokevirtual 53, 3) := dk_182 0 53 (dk_at dksX7_of_2 11 rfl rfl)
theorem dX7_of_61 : decode cX7_of 61 = .ok (.istore 7, 2) := dk_54 7 (dk_at dksX7_of_2 14 rfl rfl)
theorem dX7_of_63 : decode cX7_of 63 = .ok (.iload 7, 2) := dk_21 7 (dk_at dksX7_of_2 16 rfl rfl)
theorem dX7_of_65 : decode cX7_of 65 = .ok (.bipush 43, 2) := dk_16 43 (dk_at dksX7_of_2 18 rfl rfl)
theorem dX7_of_67 : decode cX7_of 67 = .ok (.if_icmp .ne 10, 3) := dk_160 0 10 (dk_at dksX7_of_2 20 rfl rfl)
theorem dX7_of_70 : decode cX7_of 70 = .ok (.lload_n 2, 1) := dk_32 (dk_at dksX7_of_2 23 rfl rfl)
theorem dX7_of_71 : decode cX7_of 71 = .ok (.lload 5, 2) := dk_22 5 (dk_at dksX7_of_3 0 rfl rfl)
theorem dX7_of_73 : decode cX7_of 73 = .ok (.ladd, 1) := dk_97 (dk_at dksX7_of_3 2 rfl rfl)
theorem dX7_of_74 : decode cX7_of 74 = .ok (.goto 60, 3) := dk_167 0 60 (dk_at dksX7_of_3 3 rfl rfl)
theorem dX7_of_77 : decode cX7_of 77 = .ok (.iload 7, 2) := dk_21 7 (dk_at dksX7_of_3 6 rfl rfl)
theorem dX7_of_79 : decode cX7_of 79 = .ok (.bipush 45, 2) := dk_16 45 (dk_at dksX7_of_3 8 rfl rfl)
theorem dX7_of_81 : decode cX7_of 81 = .ok (.if_icmp .ne 10, 3) := dk_160 0 10 (dk_at dksX7_of_3 10 rfl rfl)
theorem dX7_of_84 : decode cX7_of 84 = .ok (.lload_n 2, 1) := dk_32 (dk_at dksX7_of_3 13 rfl rfl)
theorem dX7_of_85 : decode cX7_of 85 = .ok (.lload 5, 2) := dk_22 5 (dk_at dksX7_of_3 14 rfl rfl)
theorem dX7_of_87 : decode cX7_of 87 = .ok (.lsub, 1) := dk_101 (dk_at dksX7_of_3 16 rfl rfl)
theorem dX7_of_88 : decode cX7_of 88 = .ok (.goto 46, 3) := dk_167 0 46 (dk_at dksX7_of_3 17 rfl rfl)
theorem dX7_of_91 : decode cX7_of 91 = .ok (.iload 7, 2) := dk_21 7 (dk_at dksX7_of_3 20 rfl rfl)
theorem dX7_of_93 : decode cX7_of 93 = .ok (.bipush 42, 2) := dk_16 42 (dk_at dksX7_of_3 22 rfl rfl)
theorem dX7_of_95 : decode cX7_of 95 = .ok (.if_icmp .ne 10, 3) := dk_160 0 10 (dk_at dksX7_of_4 0 rfl rfl)
theorem dX7_of_98 : decode cX7_of 98 = .ok (.lload_n 2, 1) := dk_32 (dk_at dksX7_of_4 3 rfl rfl)
theorem dX7_of_99 : decode cX7_of 99 = .ok (.lload 5, 2) := dk_22 5 (dk_at dksX7_of_4 4 rfl rfl)
theorem dX7_of_101 : decode cX7_of 101 = .ok (.lmul, 1) := dk_105 (dk_at dksX7_of_4 6 rfl rfl)
theorem dX7_of_102 : decode cX7_of 102 = .ok (.goto 32, 3) := dk_167 0 32 (dk_at dksX7_of_4 7 rfl rfl)
theorem dX7_of_105 : decode cX7_of 105 = .ok (.lload 5, 2) := dk_22 5 (dk_at dksX7_of_4 10 rfl rfl)
theorem dX7_of_107 : decode cX7_of 107 = .ok (.lconst 0, 1) := dk_9 (dk_at dksX7_of_4 12 rfl rfl)
theorem dX7_of_108 : decode cX7_of 108 = .ok (.lcmp, 1) := dk_148 (dk_at dksX7_of_4 13 rfl rfl)
theorem dX7_of_109 : decode cX7_of 109 = .ok (.ifCond .ne 7, 3) := dk_154 0 7 (dk_at dksX7_of_4 14 rfl rfl)
theorem dX7_of_112 : decode cX7_of 112 = .ok (.lconst 0, 1) := dk_9 (dk_at dksX7_of_4 17 rfl rfl)
theorem dX7_of_113 : decode cX7_of 113 = .ok (.goto 21, 3) := dk_167 0 21 (dk_at dksX7_of_4 18 rfl rfl)
theorem dX7_of_116 : decode cX7_of 116 = .ok (.iload 7, 2) := dk_21 7 (dk_at dksX7_of_4 21 rfl rfl)
theorem dX7_of_118 : decode cX7_of 118 = .ok (.bipush 47, 2) := dk_16 47 (dk_at dksX7_of_5 0 rfl rfl)
theorem dX7_of_120 : decode cX7_of 120 = .ok (.if_icmp .ne 10, 3) := dk_160 0 10 (dk_at dksX7_of_5 2 rfl rfl)
theorem dX7_of_123 : decode cX7_of 123 = .ok (.lload_n 2, 1) := dk_32 (dk_at dksX7_of_5 5 rfl rfl)
theorem dX7_of_124 : decode cX7_of 124 = .ok (.lload 5, 2) := dk_22 5 (dk_at dksX7_of_5 6 rfl rfl)
theorem dX7_of_126 : decode cX7_of 126 = .ok (.ldiv, 1) := dk_109 (dk_at dksX7_of_5 8 rfl rfl)
theorem dX7_of_127 : decode cX7_of 127 = .ok (.goto 7, 3) := dk_167 0 7 (dk_at dksX7_of_5 9 rfl rfl)
theorem dX7_of_130 : decode cX7_of 130 = .ok (.lload_n 2, 1) := dk_32 (dk_at dksX7_of_5 12 rfl rfl)
theorem dX7_of_131 : decode cX7_of 131 = .ok (.lload 5, 2) := dk_22 5 (dk_at dksX7_of_5 13 rfl rfl)
theorem dX7_of_133 : decode cX7_of 133 = .ok (.lrem, 1) := dk_113 (dk_at dksX7_of_5 15 rfl rfl)
theorem dX7_of_134 : decode cX7_of 134 = .ok (.lstore 8, 2) := dk_55 8 (dk_at dksX7_of_5 16 rfl rfl)
theorem dX7_of_136 : decode cX7_of 136 = .ok (.ldc2_w 56, 3) := dk_20 0 56 (dk_at dksX7_of_5 18 rfl rfl)
theorem dX7_of_139 : decode cX7_of 139 = .ok (.ldc2_w 58, 3) := dk_20 0 58 (dk_at dksX7_of_5 21 rfl rfl)
theorem dX7_of_142 : decode cX7_of 142 = .ok (.lload 8, 2) := dk_22 8 (dk_at dksX7_of_6 0 rfl rfl)
theorem dX7_of_144 : decode cX7_of 144 = .ok (.invokestatic 60, 3) := dk_184 0 60 (dk_at dksX7_of_6 2 rfl rfl)
theorem dX7_of_147 : decode cX7_of 147 = .ok (.invokestatic 66, 3) := dk_184 0 66 (dk_at dksX7_of_6 5 rfl rfl)
theorem dX7_of_150 : decode cX7_of 150 = .ok (.lstore_n 2, 1) := dk_65 (dk_at dksX7_of_6 8 rfl rfl)
theorem dX7_of_151 : decode cX7_of 151 = .ok (.iinc 4 1, 3) := dk_132 4 1 (dk_at dksX7_of_6 9 rfl rfl)
theorem dX7_of_154 : decode cX7_of 154 = .ok (.goto (-140), 3) := dk_167 255 116 (dk_at dksX7_of_6 12 rfl rfl)
theorem dX7_of_157 : decode cX7_of 157 = .ok (.lload_n 2, 1) := dk_32 (dk_at dksX7_of_6 15 rfl rfl)
theorem dX7_of_158 : decode cX7_of 158 = .ok (.lreturn, 1) := dk_173 (dk_at dksX7_of_6 16 rfl rfl)
theorem q130 : (Jvm.Cond.initialized "NumberComes$Chain") ∈ lw_all := lw_g (lw_at lw_m1 20 rfl) rfl
theorem q593 : (Jvm.Cond.instantiable "NumberComes$Chain" (3 : Nat)) ∈ lw_all := lw_g (lw_at lw_m3 3 rfl) rfl
theorem q641 : (Jvm.Cond.instanceMethod ({ cls := "NumberComes$Chain", name := "<init>", desc := "(LNumberComes$Sum;)V" } : Jvm.MethodName)) ∈ lw_all := lw_g (lw_at lw_m3 51 rfl) rfl
theorem q642 : (Jvm.Cond.code ({ cls := "NumberComes$Chain", name := "<init>", desc := "(LNumberComes$Sum;)V" } : Jvm.MethodName) prog_4_method_1_code (2 : Nat) (Option.none : Option Jvm.ClassFile.FieldType)) ∈ lw_all := lw_g (lw_at lw_m3 52 rfl) rfl
theorem q643 : (Jvm.Cond.methodLink "NumberComes$Chain" (3 : Nat) ({ cls := "java/lang/Object", name := "<init>", desc := "()V" } : Jvm.MethodName)) ∈ lw_all := lw_g (lw_at lw_m3 53 rfl) rfl
theorem q644 : (Jvm.Cond.classLink "NumberComes$Chain" (9 : Nat) "java/util/ArrayList") ∈ lw_all := lw_g (lw_at lw_m3 54 rfl) rfl
theorem q645 : (Jvm.Cond.methodLink "NumberComes$Chain" (11 : Nat) ({ cls := "java/util/ArrayList", name := "<init>", desc := "()V" } : Jvm.MethodName)) ∈ lw_all := lw_g (lw_at lw_m3 55 rfl) rfl
theorem q646 : (Jvm.Cond.fieldLink "NumberComes$Chain" (21 : Nat) "NumberComes$Chain" "first" "LNumberComes$Sum;") ∈ lw_all := lw_g (lw_at lw_m3 56 rfl) rfl
theorem q647 : (Jvm.Cond.fieldLink "NumberComes$Chain" (12 : Nat) "NumberComes$Chain" "more" "Ljava/util/ArrayList;") ∈ lw_all := lw_g (lw_at lw_m3 57 rfl) rfl
theorem q648 : (Jvm.Cond.fieldLink "NumberComes$Chain" (18 : Nat) "NumberComes$Chain" "signs" "Ljava/util/ArrayList;") ∈ lw_all := lw_g (lw_at lw_m3 58 rfl) rfl
theorem q649 : (Jvm.Cond.laysFinal "NumberComes$Chain" "NumberComes$Chain" "first" "LNumberComes$Sum;") ∈ lw_all := lw_g (lw_at lw_m3 59 rfl) rfl
theorem q650 : (Jvm.Cond.soleField "NumberComes$Chain" "first") ∈ lw_all := lw_g (lw_at lw_m3 60 rfl) rfl
theorem q651 : (Jvm.Cond.laysFinal "NumberComes$Chain" "NumberComes$Chain" "more" "Ljava/util/ArrayList;") ∈ lw_all := lw_g (lw_at lw_m3 61 rfl) rfl
theorem q652 : (Jvm.Cond.soleField "NumberComes$Chain" "more") ∈ lw_all := lw_g (lw_at lw_m3 62 rfl) rfl
theorem q653 : (Jvm.Cond.laysFinal "NumberComes$Chain" "NumberComes$Chain" "signs" "Ljava/util/ArrayList;") ∈ lw_all := lw_g (lw_at lw_m3 63 rfl) rfl
theorem q654 : (Jvm.Cond.soleField "NumberComes$Chain" "signs") ∈ lw_all := lw_g (lw_at lw_m3 64 rfl) rfl
theorem q655 : (Jvm.Cond.superclass "NumberComes$Chain" "java/lang/Object") ∈ lw_all := lw_g (lw_at lw_m3 65 rfl) rfl
theorem q657 : (Jvm.Cond.instanceMethod ({ cls := "NumberComes$Chain", name := "add", desc := "(ILNumberComes$Sum;)V" } : Jvm.MethodName)) ∈ lw_all := lw_g (lw_at lw_m3 67 rfl) rfl
theorem q658 : (Jvm.Cond.selects "NumberComes$Chain" ({ cls := "NumberComes$Chain", name := "add", desc := "(ILNumberComes$Sum;)V" } : Jvm.MethodName) ({ cls := "NumberComes$Chain", name := "add", desc := "(ILNumberComes$Sum;)V" } : Jvm.MethodName)) ∈ lw_all := lw_g (lw_at lw_m3 68 rfl) rfl
theorem q659 : (Jvm.Cond.code ({ cls := "NumberComes$Chain", name := "add", desc := "(ILNumberComes$Sum;)V" } : Jvm.MethodName) prog_4_method_2_code (3 : Nat) (Option.none : Option Jvm.ClassFile.FieldType)) ∈ lw_all := lw_g (lw_at lw_m3 69 rfl) rfl
theorem q660 : (Jvm.Cond.methodLink "NumberComes$Chain" (25 : Nat) ({ cls := "java/lang/Integer", name := "valueOf", desc := "(I)Ljava/lang/Integer;" } : Jvm.MethodName)) ∈ lw_all := lw_g (lw_at lw_m3 70 rfl) rfl
theorem q680 : (Jvm.Cond.methodLink "NumberComes$Chain" (31 : Nat) ({ cls := "java/util/ArrayList", name := "add", desc := "(Ljava/lang/Object;)Z" } : Jvm.MethodName)) ∈ lw_all := lw_g (lw_at lw_m3 90 rfl) rfl
theorem q714 : (Jvm.Cond.selects "NumberComes$Chain" ({ cls := "java/lang/Object", name := "getClass", desc := "()Ljava/lang/Class;" } : Jvm.MethodName) ({ cls := "java/lang/Object", name := "getClass", desc := "()Ljava/lang/Class;" } : Jvm.MethodName)) ∈ lw_all := lw_g (lw_at lw_m3 124 rfl) rfl
theorem q740 : (Jvm.Cond.instanceMethod ({ cls := "NumberComes$Chain", name := "itself", desc := "()LNumberComes$Sum;" } : Jvm.MethodName)) ∈ lw_all := lw_g (lw_at lw_m3 150 rfl) rfl
theorem q741 : (Jvm.Cond.selects "NumberComes$Chain" ({ cls := "NumberComes$Chain", name := "itself", desc := "()LNumberComes$Sum;" } : Jvm.MethodName) ({ cls := "NumberComes$Chain", name := "itself", desc := "()LNumberComes$Sum;" } : Jvm.MethodName)) ∈ lw_all := lw_g (lw_at lw_m3 151 rfl) rfl
theorem q742 : (Jvm.Cond.code ({ cls := "NumberComes$Chain", name := "itself", desc := "()LNumberComes$Sum;" } : Jvm.MethodName) prog_4_method_3_code (1 : Nat) (Option.some (Jvm.ClassFile.FieldType.object "NumberComes$Sum"))) ∈ lw_all := lw_g (lw_at lw_m3 152 rfl) rfl
theorem q743 : (Jvm.Cond.methodLink "NumberComes$Chain" (35 : Nat) ({ cls := "java/util/ArrayList", name := "isEmpty", desc := "()Z" } : Jvm.MethodName)) ∈ lw_all := lw_g (lw_at lw_m3 153 rfl) rfl
theorem q877 : (Jvm.Cond.castable "NumberComes$Chain" "NumberComes$Sum") ∈ lw_tbl := lw_at lw_m4 47 rfl
theorem q878 : (Jvm.Cond.selects "NumberComes$Chain" ({ cls := "NumberComes$Sum", name := "of", desc := "([I)J" } : Jvm.MethodName) ({ cls := "NumberComes$Chain", name := "of", desc := "([I)J" } : Jvm.MethodName)) ∈ lw_all := lw_g (lw_at lw_m4 48 rfl) rfl
theorem q879 : (Jvm.Cond.unhidden "NumberComes$Chain" "of" "([I)J") ∈ lw_tbl := lw_at lw_m4 49 rfl
theorem q880 : (Jvm.Cond.instanceMethod ({ cls := "NumberComes$Chain", name := "of", desc := "([I)J" } : Jvm.MethodName)) ∈ lw_all := lw_g (lw_at lw_m4 50 rfl) rfl
theorem q881 : (Jvm.Cond.publicMethod ({ cls := "NumberComes$Chain", name := "of", desc := "([I)J" } : Jvm.MethodName)) ∈ lw_tbl := lw_at lw_m4 51 rfl
theorem q882 : (Jvm.Cond.code ({ cls := "NumberComes$Chain", name := "of", desc := "([I)J" } : Jvm.MethodName) prog_4_method_4_code (10 : Nat) (Option.some Jvm.ClassFile.FieldType.long)) ∈ lw_all := lw_g (lw_at lw_m4 52 rfl) rfl
theorem q883 : (Jvm.Cond.interfaceEntry "NumberComes$Chain" (39 : Nat)) ∈ lw_tbl := lw_at lw_m4 53 rfl
theorem q884 : (Jvm.Cond.methodLink "NumberComes$Chain" (39 : Nat) ({ cls := "NumberComes$Sum", name := "of", desc := "([I)J" } : Jvm.MethodName)) ∈ lw_all := lw_g (lw_at lw_m4 54 rfl) rfl
theorem q905 : (Jvm.Cond.methodLink "NumberComes$Chain" (45 : Nat) ({ cls := "java/util/ArrayList", name := "size", desc := "()I" } : Jvm.MethodName)) ∈ lw_all := lw_g (lw_at lw_m4 75 rfl) rfl
theorem q906 : (Jvm.Cond.methodLink "NumberComes$Chain" (49 : Nat) ({ cls := "java/util/ArrayList", name := "get", desc := "(I)Ljava/lang/Object;" } : Jvm.MethodName)) ∈ lw_all := lw_g (lw_at lw_m4 76 rfl) rfl
theorem q907 : (Jvm.Cond.classLink "NumberComes$Chain" (40 : Nat) "NumberComes$Sum") ∈ lw_all := lw_g (lw_at lw_m4 77 rfl) rfl
theorem q908 : (Jvm.Cond.classLink "NumberComes$Chain" (26 : Nat) "java/lang/Integer") ∈ lw_all := lw_g (lw_at lw_m4 78 rfl) rfl
theorem q909 : (Jvm.Cond.methodLink "NumberComes$Chain" (53 : Nat) ({ cls := "java/lang/Integer", name := "intValue", desc := "()I" } : Jvm.MethodName)) ∈ lw_all := lw_g (lw_at lw_m4 79 rfl) rfl
theorem q913 : (Jvm.Cond.constantLong "NumberComes$Chain" (56 : Nat) (-1000000 : Int64)) ∈ lw_all := lw_g (lw_at lw_m4 83 rfl) rfl
theorem q914 : (Jvm.Cond.constantLong "NumberComes$Chain" (58 : Nat) (1000000 : Int64)) ∈ lw_all := lw_g (lw_at lw_m4 84 rfl) rfl
theorem q915 : (Jvm.Cond.methodLink "NumberComes$Chain" (60 : Nat) ({ cls := "java/lang/Math", name := "min", desc := "(JJ)J" } : Jvm.MethodName)) ∈ lw_all := lw_g (lw_at lw_m4 85 rfl) rfl
theorem q918 : (Jvm.Cond.methodLink "NumberComes$Chain" (66 : Nat) ({ cls := "java/lang/Math", name := "max", desc := "(JJ)J" } : Jvm.MethodName)) ∈ lw_all := lw_g (lw_at lw_m4 88 rfl) rfl
theorem q1856 : (Jvm.Cond.castable "NumberComes$Chain" "java/lang/Object") ∈ lw_tbl := lw_at lw_m8 66 rfl
theorem in_X7 : ∀ w ∈ wsX70, w ∈ lw_all := lw_in wsX70 [649, 651, 653] (by decide +kernel) (by decide +kernel)
/-! NumberComes$Plain -/
set_option maxRecDepth 100000
def RX8 : String := "NumberComes$Plain"
def TX8 : u_T := fun k => match k with
  | _ => ("NumberComes$Plain", "n", "I", true)
def tyX8 : Nat → FieldType := fun k => match k with
  | _ => .int
abbrev wsX80 : List Cond := u_ws RX8 TX8 1
theorem nmX8 : ∀ a, a < 1 → ∀ b, b < 1 → a ≠ b → (TX8 a).2.1 ≠ (TX8 b).2.1 := by decide +kernel
theorem tyX8_ok : ∀ k, k < 1 → parseFieldDescriptor (TX8 k).2.2.1 = some (tyX8 k) := by decide +kernel
abbrev cX8_init : ByteArray := prog_10_method_1_code
def yX8_init : MethodName := ⟨RX8, "<init>", "(I)V"⟩
def dkwX8_init_0 : List UInt8 := [42, 183, 0, 1, 42, 27, 181, 0, 7, 177]
abbrev dktX8_init_0 : List UInt8 := dkwX8_init_0 ++ []
theorem dksX8_init_0 : cX8_init.data.toList.drop 0 = dktX8_init_0 := by decide +kernel
theorem dX8_init_0 : decode cX8_init 0 = .ok (.aload_n 0, 1) := dk_42 (dk_at dksX8_init_0 0 rfl rfl)
theorem dX8_init_1 : decode cX8_init 1 = .ok (.invokespecial 1, 3) := dk_183 0 1 (dk_at dksX8_init_0 1 rfl rfl)
theorem dX8_init_4 : decode cX8_init 4 = .ok (.aload_n 0, 1) := dk_42 (dk_at dksX8_init_0 4 rfl rfl)
theorem dX8_init_5 : decode cX8_init 5 = .ok (.iload_n 1, 1) := dk_27 (dk_at dksX8_init_0 5 rfl rfl)
theorem dX8_init_6 : decode cX8_init 6 = .ok (.putfield 7, 3) := dk_181 0 7 (dk_at dksX8_init_0 6 rfl rfl)
theorem dX8_init_9 : decode cX8_init 9 = .ok (.return_, 1) := dk_177 (dk_at dksX8_init_0 9 rfl rfl)
abbrev cX8_of : ByteArray := prog_10_method_2_code
def yX8_of : MethodName := ⟨RX8, "of", "([I)J"⟩
def dkwX8_of_0 : List UInt8 := [42, 180, 0, 7, 133, 173]
abbrev dktX8_of_0 : List UInt8 := dkwX8_of_0 ++ []
theorem dksX8_of_0 : cX8_of.data.toList.drop 0 = dktX8_of_0 := by decide +kernel
theorem dX8_of_0 : decode cX8_of 0 = .ok (.aload_n 0, 1) := dk_42 (dk_at dksX8_of_0 0 rfl rfl)
theorem dX8_of_1 : decode cX8_of 1 = .ok (.getfield 7, 3) := dk_180 0 7 (dk_at dksX8_of_0 1 rfl rfl)
theorem dX8_of_4 : decode cX8_of 4 = .ok (.i2l, 1) := dk_133 (dk_at dksX8_of_0 4 rfl rfl)
theorem dX8_of_5 : decode cX8_of 5 = .ok (.lreturn, 1) := dk_173 (dk_at dksX8_of_0 5 rfl rfl)
theorem q131 : (Jvm.Cond.initialized "NumberComes$Plain") ∈ lw_all := lw_g (lw_at lw_m1 21 rfl) rfl
theorem q603 : (Jvm.Cond.instantiable "NumberComes$Plain" (1 : Nat)) ∈ lw_all := lw_g (lw_at lw_m3 13 rfl) rfl
theorem q609 : (Jvm.Cond.instanceMethod ({ cls := "NumberComes$Plain", name := "<init>", desc := "(I)V" } : Jvm.MethodName)) ∈ lw_all := lw_g (lw_at lw_m3 19 rfl) rfl
theorem q610 : (Jvm.Cond.code ({ cls := "NumberComes$Plain", name := "<init>", desc := "(I)V" } : Jvm.MethodName) prog_10_method_1_code (2 : Nat) (Option.none : Option Jvm.ClassFile.FieldType)) ∈ lw_all := lw_g (lw_at lw_m3 20 rfl) rfl
theorem q611 : (Jvm.Cond.methodLink "NumberComes$Plain" (1 : Nat) ({ cls := "java/lang/Record", name := "<init>", desc := "()V" } : Jvm.MethodName)) ∈ lw_all := lw_g (lw_at lw_m3 21 rfl) rfl
theorem q612 : (Jvm.Cond.fieldLink "NumberComes$Plain" (7 : Nat) "NumberComes$Plain" "n" "I") ∈ lw_all := lw_g (lw_at lw_m3 22 rfl) rfl
theorem q613 : (Jvm.Cond.laysFinal "NumberComes$Plain" "NumberComes$Plain" "n" "I") ∈ lw_all := lw_g (lw_at lw_m3 23 rfl) rfl
theorem q614 : (Jvm.Cond.soleField "NumberComes$Plain" "n") ∈ lw_all := lw_g (lw_at lw_m3 24 rfl) rfl
theorem q615 : (Jvm.Cond.superclass "NumberComes$Plain" "java/lang/Record") ∈ lw_all := lw_g (lw_at lw_m3 25 rfl) rfl
theorem q720 : (Jvm.Cond.selects "NumberComes$Plain" ({ cls := "java/lang/Object", name := "getClass", desc := "()Ljava/lang/Class;" } : Jvm.MethodName) ({ cls := "java/lang/Object", name := "getClass", desc := "()Ljava/lang/Class;" } : Jvm.MethodName)) ∈ lw_all := lw_g (lw_at lw_m3 130 rfl) rfl
theorem q899 : (Jvm.Cond.castable "NumberComes$Plain" "NumberComes$Sum") ∈ lw_tbl := lw_at lw_m4 69 rfl
theorem q900 : (Jvm.Cond.selects "NumberComes$Plain" ({ cls := "NumberComes$Sum", name := "of", desc := "([I)J" } : Jvm.MethodName) ({ cls := "NumberComes$Plain", name := "of", desc := "([I)J" } : Jvm.MethodName)) ∈ lw_all := lw_g (lw_at lw_m4 70 rfl) rfl
theorem q901 : (Jvm.Cond.unhidden "NumberComes$Plain" "of" "([I)J") ∈ lw_tbl := lw_at lw_m4 71 rfl
theorem q902 : (Jvm.Cond.instanceMethod ({ cls := "NumberComes$Plain", name := "of", desc := "([I)J" } : Jvm.MethodName)) ∈ lw_all := lw_g (lw_at lw_m4 72 rfl) rfl
theorem q903 : (Jvm.Cond.publicMethod ({ cls := "NumberComes$Plain", name := "of", desc := "([I)J" } : Jvm.MethodName)) ∈ lw_tbl := lw_at lw_m4 73 rfl
theorem q904 : (Jvm.Cond.code ({ cls := "NumberComes$Plain", name := "of", desc := "([I)J" } : Jvm.MethodName) prog_10_method_2_code (2 : Nat) (Option.some Jvm.ClassFile.FieldType.long)) ∈ lw_all := lw_g (lw_at lw_m4 74 rfl) rfl
theorem q1857 : (Jvm.Cond.castable "NumberComes$Plain" "java/lang/Object") ∈ lw_tbl := lw_at lw_m8 67 rfl
theorem in_X8 : ∀ w ∈ wsX80, w ∈ lw_all := lw_in wsX80 [613] (by decide +kernel) (by decide +kernel)
/-! NumberComes$Name -/
set_option maxRecDepth 100000
def RX9 : String := "NumberComes$Name"
def TX9 : u_T := fun k => match k with
  | _ => ("NumberComes$Name", "which", "I", true)
def tyX9 : Nat → FieldType := fun k => match k with
  | _ => .int
abbrev wsX90 : List Cond := u_ws RX9 TX9 1
theorem nmX9 : ∀ a, a < 1 → ∀ b, b < 1 → a ≠ b → (TX9 a).2.1 ≠ (TX9 b).2.1 := by decide +kernel
theorem tyX9_ok : ∀ k, k < 1 → parseFieldDescriptor (TX9 k).2.2.1 = some (tyX9 k) := by decide +kernel
abbrev cX9_init : ByteArray := prog_8_method_1_code
def yX9_init : MethodName := ⟨RX9, "<init>", "(I)V"⟩
def dkwX9_init_0 : List UInt8 := [42, 183, 0, 1, 42, 27, 181, 0, 7, 177]
abbrev dktX9_init_0 : List UInt8 := dkwX9_init_0 ++ []
theorem dksX9_init_0 : cX9_init.data.toList.drop 0 = dktX9_init_0 := by decide +kernel
theorem dX9_init_0 : decode cX9_init 0 = .ok (.aload_n 0, 1) := dk_42 (dk_at dksX9_init_0 0 rfl rfl)
theorem dX9_init_1 : decode cX9_init 1 = .ok (.invokespecial 1, 3) := dk_183 0 1 (dk_at dksX9_init_0 1 rfl rfl)
theorem dX9_init_4 : decode cX9_init 4 = .ok (.aload_n 0, 1) := dk_42 (dk_at dksX9_init_0 4 rfl rfl)
theorem dX9_init_5 : decode cX9_init 5 = .ok (.iload_n 1, 1) := dk_27 (dk_at dksX9_init_0 5 rfl rfl)
theorem dX9_init_6 : decode cX9_init 6 = .ok (.putfield 7, 3) := dk_181 0 7 (dk_at dksX9_init_0 6 rfl rfl)
theorem dX9_init_9 : decode cX9_init 9 = .ok (.return_, 1) := dk_177 (dk_at dksX9_init_0 9 rfl rfl)
abbrev cX9_of : ByteArray := prog_8_method_2_code
def yX9_of : MethodName := ⟨RX9, "of", "([I)J"⟩
def dkwX9_of_0 : List UInt8 := [43, 42, 180, 0, 7, 46, 133, 173]
abbrev dktX9_of_0 : List UInt8 := dkwX9_of_0 ++ []
theorem dksX9_of_0 : cX9_of.data.toList.drop 0 = dktX9_of_0 := by decide +kernel
theorem dX9_of_0 : decode cX9_of 0 = .ok (.aload_n 1, 1) := dk_43 (dk_at dksX9_of_0 0 rfl rfl)
theorem dX9_of_1 : decode cX9_of 1 = .ok (.aload_n 0, 1) := dk_42 (dk_at dksX9_of_0 1 rfl rfl)
theorem dX9_of_2 : decode cX9_of 2 = .ok (.getfield 7, 3) := dk_180 0 7 (dk_at dksX9_of_0 2 rfl rfl)
theorem dX9_of_5 : decode cX9_of 5 = .ok (.iaload, 1) := dk_46 (dk_at dksX9_of_0 5 rfl rfl)
theorem dX9_of_6 : decode cX9_of 6 = .ok (.i2l, 1) := dk_133 (dk_at dksX9_of_0 6 rfl rfl)
theorem dX9_of_7 : decode cX9_of 7 = .ok (.lreturn, 1) := dk_173 (dk_at dksX9_of_0 7 rfl rfl)
theorem q132 : (Jvm.Cond.initialized "NumberComes$Name") ∈ lw_all := lw_g (lw_at lw_m1 22 rfl) rfl
theorem q617 : (Jvm.Cond.instantiable "NumberComes$Name" (1 : Nat)) ∈ lw_all := lw_g (lw_at lw_m3 27 rfl) rfl
theorem q619 : (Jvm.Cond.instanceMethod ({ cls := "NumberComes$Name", name := "<init>", desc := "(I)V" } : Jvm.MethodName)) ∈ lw_all := lw_g (lw_at lw_m3 29 rfl) rfl
theorem q620 : (Jvm.Cond.code ({ cls := "NumberComes$Name", name := "<init>", desc := "(I)V" } : Jvm.MethodName) prog_8_method_1_code (2 : Nat) (Option.none : Option Jvm.ClassFile.FieldType)) ∈ lw_all := lw_g (lw_at lw_m3 30 rfl) rfl
theorem q621 : (Jvm.Cond.methodLink "NumberComes$Name" (1 : Nat) ({ cls := "java/lang/Record", name := "<init>", desc := "()V" } : Jvm.MethodName)) ∈ lw_all := lw_g (lw_at lw_m3 31 rfl) rfl
theorem q622 : (Jvm.Cond.fieldLink "NumberComes$Name" (7 : Nat) "NumberComes$Name" "which" "I") ∈ lw_all := lw_g (lw_at lw_m3 32 rfl) rfl
theorem q623 : (Jvm.Cond.laysFinal "NumberComes$Name" "NumberComes$Name" "which" "I") ∈ lw_all := lw_g (lw_at lw_m3 33 rfl) rfl
theorem q624 : (Jvm.Cond.soleField "NumberComes$Name" "which") ∈ lw_all := lw_g (lw_at lw_m3 34 rfl) rfl
theorem q625 : (Jvm.Cond.superclass "NumberComes$Name" "java/lang/Record") ∈ lw_all := lw_g (lw_at lw_m3 35 rfl) rfl
theorem q718 : (Jvm.Cond.selects "NumberComes$Name" ({ cls := "java/lang/Object", name := "getClass", desc := "()Ljava/lang/Class;" } : Jvm.MethodName) ({ cls := "java/lang/Object", name := "getClass", desc := "()Ljava/lang/Class;" } : Jvm.MethodName)) ∈ lw_all := lw_g (lw_at lw_m3 128 rfl) rfl
theorem q893 : (Jvm.Cond.castable "NumberComes$Name" "NumberComes$Sum") ∈ lw_tbl := lw_at lw_m4 63 rfl
theorem q894 : (Jvm.Cond.selects "NumberComes$Name" ({ cls := "NumberComes$Sum", name := "of", desc := "([I)J" } : Jvm.MethodName) ({ cls := "NumberComes$Name", name := "of", desc := "([I)J" } : Jvm.MethodName)) ∈ lw_all := lw_g (lw_at lw_m4 64 rfl) rfl
theorem q895 : (Jvm.Cond.unhidden "NumberComes$Name" "of" "([I)J") ∈ lw_tbl := lw_at lw_m4 65 rfl
theorem q896 : (Jvm.Cond.instanceMethod ({ cls := "NumberComes$Name", name := "of", desc := "([I)J" } : Jvm.MethodName)) ∈ lw_all := lw_g (lw_at lw_m4 66 rfl) rfl
theorem q897 : (Jvm.Cond.publicMethod ({ cls := "NumberComes$Name", name := "of", desc := "([I)J" } : Jvm.MethodName)) ∈ lw_tbl := lw_at lw_m4 67 rfl
theorem q898 : (Jvm.Cond.code ({ cls := "NumberComes$Name", name := "of", desc := "([I)J" } : Jvm.MethodName) prog_8_method_2_code (2 : Nat) (Option.some Jvm.ClassFile.FieldType.long)) ∈ lw_all := lw_g (lw_at lw_m4 68 rfl) rfl
theorem q1858 : (Jvm.Cond.castable "NumberComes$Name" "java/lang/Object") ∈ lw_tbl := lw_at lw_m8 68 rfl
theorem in_X9 : ∀ w ∈ wsX90, w ∈ lw_all := lw_in wsX90 [623] (by decide +kernel) (by decide +kernel)
/-! NumberComes$Minus -/
set_option maxRecDepth 100000
def RX10 : String := "NumberComes$Minus"
def TX10 : u_T := fun k => match k with
  | _ => ("NumberComes$Minus", "x", "LNumberComes$Sum;", true)
def tyX10 : Nat → FieldType := fun k => match k with
  | _ => .object "NumberComes$Sum"
abbrev wsX100 : List Cond := u_ws RX10 TX10 1
theorem nmX10 : ∀ a, a < 1 → ∀ b, b < 1 → a ≠ b → (TX10 a).2.1 ≠ (TX10 b).2.1 := by decide +kernel
theorem tyX10_ok : ∀ k, k < 1 → parseFieldDescriptor (TX10 k).2.2.1 = some (tyX10 k) := by decide +kernel
abbrev cX10_init : ByteArray := prog_7_method_1_code
def yX10_init : MethodName := ⟨RX10, "<init>", "(LNumberComes$Sum;)V"⟩
def dkwX10_init_0 : List UInt8 := [42, 183, 0, 1, 42, 43, 181, 0, 7, 177]
abbrev dktX10_init_0 : List UInt8 := dkwX10_init_0 ++ []
theorem dksX10_init_0 : cX10_init.data.toList.drop 0 = dktX10_init_0 := by decide +kernel
theorem dX10_init_0 : decode cX10_init 0 = .ok (.aload_n 0, 1) := dk_42 (dk_at dksX10_init_0 0 rfl rfl)
theorem dX10_init_1 : decode cX10_init 1 = .ok (.invokespecial 1, 3) := dk_183 0 1 (dk_at dksX10_init_0 1 rfl rfl)
theorem dX10_init_4 : decode cX10_init 4 = .ok (.aload_n 0, 1) := dk_42 (dk_at dksX10_init_0 4 rfl rfl)
theorem dX10_init_5 : decode cX10_init 5 = .ok (.aload_n 1, 1) := dk_43 (dk_at dksX10_init_0 5 rfl rfl)
theorem dX10_init_6 : decode cX10_init 6 = .ok (.putfield 7, 3) := dk_181 0 7 (dk_at dksX10_init_0 6 rfl rfl)
theorem dX10_init_9 : decode cX10_init 9 = .ok (.return_, 1) := dk_177 (dk_at dksX10_init_0 9 rfl rfl)
abbrev cX10_of : ByteArray := prog_7_method_2_code
def yX10_of : MethodName := ⟨RX10, "of", "([I)J"⟩
def dkwX10_of_0 : List UInt8 := [42, 180, 0, 7, 43, 185, 0, 13, 2, 0, 117, 173]
abbrev dktX10_of_0 : List UInt8 := dkwX10_of_0 ++ []
theorem dksX10_of_0 : cX10_of.data.toList.drop 0 = dktX10_of_0 := by decide +kernel
theorem dX10_of_0 : decode cX10_of 0 = .ok (.aload_n 0, 1) := dk_42 (dk_at dksX10_of_0 0 rfl rfl)
theorem dX10_of_1 : decode cX10_of 1 = .ok (.getfield 7, 3) := dk_180 0 7 (dk_at dksX10_of_0 1 rfl rfl)
theorem dX10_of_4 : decode cX10_of 4 = .ok (.aload_n 1, 1) := dk_43 (dk_at dksX10_of_0 4 rfl rfl)
theorem dX10_of_5 : decode cX10_of 5 = .ok (.invokeinterface 13 2, 5) := by decide +kernel
theorem dX10_of_10 : decode cX10_of 10 = .ok (.lneg, 1) := dk_117 (dk_at dksX10_of_0 10 rfl rfl)
theorem dX10_of_11 : decode cX10_of 11 = .ok (.lreturn, 1) := dk_173 (dk_at dksX10_of_0 11 rfl rfl)
theorem q133 : (Jvm.Cond.initialized "NumberComes$Minus") ∈ lw_all := lw_g (lw_at lw_m1 23 rfl) rfl
theorem q631 : (Jvm.Cond.instantiable "NumberComes$Minus" (1 : Nat)) ∈ lw_all := lw_g (lw_at lw_m3 41 rfl) rfl
theorem q633 : (Jvm.Cond.instanceMethod ({ cls := "NumberComes$Minus", name := "<init>", desc := "(LNumberComes$Sum;)V" } : Jvm.MethodName)) ∈ lw_all := lw_g (lw_at lw_m3 43 rfl) rfl
theorem q634 : (Jvm.Cond.code ({ cls := "NumberComes$Minus", name := "<init>", desc := "(LNumberComes$Sum;)V" } : Jvm.MethodName) prog_7_method_1_code (2 : Nat) (Option.none : Option Jvm.ClassFile.FieldType)) ∈ lw_all := lw_g (lw_at lw_m3 44 rfl) rfl
theorem q635 : (Jvm.Cond.methodLink "NumberComes$Minus" (1 : Nat) ({ cls := "java/lang/Record", name := "<init>", desc := "()V" } : Jvm.MethodName)) ∈ lw_all := lw_g (lw_at lw_m3 45 rfl) rfl
theorem q636 : (Jvm.Cond.fieldLink "NumberComes$Minus" (7 : Nat) "NumberComes$Minus" "x" "LNumberComes$Sum;") ∈ lw_all := lw_g (lw_at lw_m3 46 rfl) rfl
theorem q637 : (Jvm.Cond.laysFinal "NumberComes$Minus" "NumberComes$Minus" "x" "LNumberComes$Sum;") ∈ lw_all := lw_g (lw_at lw_m3 47 rfl) rfl
theorem q638 : (Jvm.Cond.soleField "NumberComes$Minus" "x") ∈ lw_all := lw_g (lw_at lw_m3 48 rfl) rfl
theorem q639 : (Jvm.Cond.superclass "NumberComes$Minus" "java/lang/Record") ∈ lw_all := lw_g (lw_at lw_m3 49 rfl) rfl
theorem q717 : (Jvm.Cond.selects "NumberComes$Minus" ({ cls := "java/lang/Object", name := "getClass", desc := "()Ljava/lang/Class;" } : Jvm.MethodName) ({ cls := "java/lang/Object", name := "getClass", desc := "()Ljava/lang/Class;" } : Jvm.MethodName)) ∈ lw_all := lw_g (lw_at lw_m3 127 rfl) rfl
theorem q885 : (Jvm.Cond.castable "NumberComes$Minus" "NumberComes$Sum") ∈ lw_tbl := lw_at lw_m4 55 rfl
theorem q886 : (Jvm.Cond.selects "NumberComes$Minus" ({ cls := "NumberComes$Sum", name := "of", desc := "([I)J" } : Jvm.MethodName) ({ cls := "NumberComes$Minus", name := "of", desc := "([I)J" } : Jvm.MethodName)) ∈ lw_all := lw_g (lw_at lw_m4 56 rfl) rfl
theorem q887 : (Jvm.Cond.unhidden "NumberComes$Minus" "of" "([I)J") ∈ lw_tbl := lw_at lw_m4 57 rfl
theorem q888 : (Jvm.Cond.instanceMethod ({ cls := "NumberComes$Minus", name := "of", desc := "([I)J" } : Jvm.MethodName)) ∈ lw_all := lw_g (lw_at lw_m4 58 rfl) rfl
theorem q889 : (Jvm.Cond.publicMethod ({ cls := "NumberComes$Minus", name := "of", desc := "([I)J" } : Jvm.MethodName)) ∈ lw_tbl := lw_at lw_m4 59 rfl
theorem q890 : (Jvm.Cond.code ({ cls := "NumberComes$Minus", name := "of", desc := "([I)J" } : Jvm.MethodName) prog_7_method_2_code (2 : Nat) (Option.some Jvm.ClassFile.FieldType.long)) ∈ lw_all := lw_g (lw_at lw_m4 60 rfl) rfl
theorem q891 : (Jvm.Cond.interfaceEntry "NumberComes$Minus" (13 : Nat)) ∈ lw_tbl := lw_at lw_m4 61 rfl
theorem q892 : (Jvm.Cond.methodLink "NumberComes$Minus" (13 : Nat) ({ cls := "NumberComes$Sum", name := "of", desc := "([I)J" } : Jvm.MethodName)) ∈ lw_all := lw_g (lw_at lw_m4 62 rfl) rfl
theorem q1859 : (Jvm.Cond.castable "NumberComes$Minus" "java/lang/Object") ∈ lw_tbl := lw_at lw_m8 69 rfl
theorem in_X10 : ∀ w ∈ wsX100, w ∈ lw_all := lw_in wsX100 [637] (by decide +kernel) (by decide +kernel)
/-! NumberComes$Compared -/
set_option maxRecDepth 100000
def RX11 : String := "NumberComes$Compared"
def TX11 : u_T := fun k => match k with
  | 0 => ("NumberComes$Compared", "sign", "I", true)
  | 1 => ("NumberComes$Compared", "a", "LNumberComes$Sum;", true)
  | _ => ("NumberComes$Compared", "b", "LNumberComes$Sum;", true)
def tyX11 : Nat → FieldType := fun k => match k with
  | 0 => .int
  | 1 => .object "NumberComes$Sum"
  | _ => .object "NumberComes$Sum"
abbrev wsX110 : List Cond := u_ws RX11 TX11 3
theorem nmX11 : ∀ a, a < 3 → ∀ b, b < 3 → a ≠ b → (TX11 a).2.1 ≠ (TX11 b).2.1 := by decide +kernel
theorem tyX11_ok : ∀ k, k < 3 → parseFieldDescriptor (TX11 k).2.2.1 = some (tyX11 k) := by decide +kernel
abbrev cX11_init : ByteArray := prog_5_method_1_code
def yX11_init : MethodName := ⟨RX11, "<init>", "(ILNumberComes$Sum;LNumberComes$Sum;)V"⟩
def dkwX11_init_0 : List UInt8 := [42, 183, 0, 1, 42, 27, 181, 0, 7, 42, 44, 181, 0, 13, 42, 45, 181, 0, 17, 177]
abbrev dktX11_init_0 : List UInt8 := dkwX11_init_0 ++ []
theorem dksX11_init_0 : cX11_init.data.toList.drop 0 = dktX11_init_0 := by decide +kernel
theorem dX11_init_0 : decode cX11_init 0 = .ok (.aload_n 0, 1) := dk_42 (dk_at dksX11_init_0 0 rfl rfl)
theorem dX11_init_1 : decode cX11_init 1 = .ok (.invokespecial 1, 3) := dk_183 0 1 (dk_at dksX11_init_0 1 rfl rfl)
theorem dX11_init_4 : decode cX11_init 4 = .ok (.aload_n 0, 1) := dk_42 (dk_at dksX11_init_0 4 rfl rfl)
theorem dX11_init_5 : decode cX11_init 5 = .ok (.iload_n 1, 1) := dk_27 (dk_at dksX11_init_0 5 rfl rfl)
theorem dX11_init_6 : decode cX11_init 6 = .ok (.putfield 7, 3) := dk_181 0 7 (dk_at dksX11_init_0 6 rfl rfl)
theorem dX11_init_9 : decode cX11_init 9 = .ok (.aload_n 0, 1) := dk_42 (dk_at dksX11_init_0 9 rfl rfl)
theorem dX11_init_10 : decode cX11_init 10 = .ok (.aload_n 2, 1) := dk_44 (dk_at dksX11_init_0 10 rfl rfl)
theorem dX11_init_11 : decode cX11_init 11 = .ok (.putfield 13, 3) := dk_181 0 13 (dk_at dksX11_init_0 11 rfl rfl)
theorem dX11_init_14 : decode cX11_init 14 = .ok (.aload_n 0, 1) := dk_42 (dk_at dksX11_init_0 14 rfl rfl)
theorem dX11_init_15 : decode cX11_init 15 = .ok (.aload_n 3, 1) := dk_45 (dk_at dksX11_init_0 15 rfl rfl)
theorem dX11_init_16 : decode cX11_init 16 = .ok (.putfield 17, 3) := dk_181 0 17 (dk_at dksX11_init_0 16 rfl rfl)
theorem dX11_init_19 : decode cX11_init 19 = .ok (.return_, 1) := dk_177 (dk_at dksX11_init_0 19 rfl rfl)
abbrev cX11_is : ByteArray := prog_5_method_2_code
def yX11_is : MethodName := ⟨RX11, "is", "([I)Z"⟩
def dkwX11_is_5 : List UInt8 := [32, 9, 148, 157, 0, 7, 4, 167, 0, 4, 3, 172, 32, 9, 148, 155, 0, 7, 4, 167, 0, 4, 3, 172]
abbrev dktX11_is_5 : List UInt8 := dkwX11_is_5 ++ []
def dkwX11_is_4 : List UInt8 := [32, 9, 148, 154, 0, 7, 4, 167, 0, 4, 3, 172, 32, 9, 148, 153, 0, 7, 4, 167, 0, 4, 3, 172]
abbrev dktX11_is_4 : List UInt8 := dkwX11_is_4 ++ dktX11_is_5
def dkwX11_is_3 : List UInt8 := [32, 9, 148, 156, 0, 7, 4, 167, 0, 4, 3, 172, 32, 9, 148, 158, 0, 7, 4, 167, 0, 4, 3, 172]
abbrev dktX11_is_3 : List UInt8 := dkwX11_is_3 ++ dktX11_is_4
def dkwX11_is_2 : List UInt8 := [171, 0, 0, 0, 0, 110, 0, 0, 0, 5, 0, 0, 0, 35, 0, 0, 0, 86, 0, 0, 0, 60, 0, 0, 0, 50, 0, 0, 0, 61, 0, 0, 0, 74, 0, 0, 0, 62, 0, 0, 0, 62, 0, 0, 1, 47, 0, 0, 0, 98]
abbrev dktX11_is_2 : List UInt8 := dkwX11_is_2 ++ dktX11_is_3
def dkwX11_is_1 : List UInt8 := [180, 0, 7]
abbrev dktX11_is_1 : List UInt8 := dkwX11_is_1 ++ dktX11_is_2
def dkwX11_is_0 : List UInt8 := [42, 180, 0, 13, 43, 185, 0, 20, 2, 0, 42, 180, 0, 17, 43, 185, 0, 20, 2, 0, 101, 65, 42]
abbrev dktX11_is_0 : List UInt8 := dkwX11_is_0 ++ dktX11_is_1
theorem dksX11_is_0 : cX11_is.data.toList.drop 0 = dktX11_is_0 := by decide +kernel
theorem dksX11_is_1 : cX11_is.data.toList.drop 23 = dktX11_is_1 := dk_seg dksX11_is_0 23 rfl rfl
theorem dksX11_is_2 : cX11_is.data.toList.drop 26 = dktX11_is_2 := dk_seg dksX11_is_1 3 rfl rfl
theorem dksX11_is_3 : cX11_is.data.toList.drop 76 = dktX11_is_3 := dk_seg dksX11_is_2 50 rfl rfl
theorem dksX11_is_4 : cX11_is.data.toList.drop 100 = dktX11_is_4 := dk_seg dksX11_is_3 24 rfl rfl
theorem dksX11_is_5 : cX11_is.data.toList.drop 124 = dktX11_is_5 := dk_seg dksX11_is_4 24 rfl rfl
theorem dX11_is_0 : decode cX11_is 0 = .ok (.aload_n 0, 1) := dk_42 (dk_at dksX11_is_0 0 rfl rfl)
theorem dX11_is_1 : decode cX11_is 1 = .ok (.getfield 13, 3) := dk_180 0 13 (dk_at dksX11_is_0 1 rfl rfl)
theorem dX11_is_4 : decode cX11_is 4 = .ok (.aload_n 1, 1) := dk_43 (dk_at dksX11_is_0 4 rfl rfl)
theorem dX11_is_5 : decode cX11_is 5 = .ok (.invokeinterface 20 2, 5) := by decide +kernel
theorem dX11_is_10 : decode cX11_is 10 = .ok (.aload_n 0, 1) := dk_42 (dk_at dksX11_is_0 10 rfl rfl)
theorem dX11_is_11 : decode cX11_is 11 = .ok (.getfield 17, 3) := dk_180 0 17 (dk_at dksX11_is_0 11 rfl rfl)
theorem dX11_is_14 : decode cX11_is 14 = .ok (.aload_n 1, 1) := dk_43 (dk_at dksX11_is_0 14 rfl rfl)
theorem dX11_is_15 : decode cX11_is 15 = .ok (.invokeinterface 20 2, 5) := by decide +kernel
theorem dX11_is_20 : decode cX11_is 20 = .ok (.lsub, 1) := dk_101 (dk_at dksX11_is_0 20 rfl rfl)
theorem dX11_is_21 : decode cX11_is 21 = .ok (.lstore_n 2, 1) := dk_65 (dk_at dksX11_is_0 21 rfl rfl)
theorem dX11_is_22 : decode cX11_is 22 = .ok (.aload_n 0, 1) := dk_42 (dk_at dksX11_is_0 22 rfl rfl)
theorem dX11_is_23 : decode cX11_is 23 = .ok (.getfield 7, 3) := dk_180 0 7 (dk_at dksX11_is_1 0 rfl rfl)
theorem dX11_is_26 : decode cX11_is 26 = .ok (.lookupswitch 110 #[(35, 86), (60, 50), (61, 74), (62, 62), (303, 98)], 50) := by decide +kernel
theorem dX11_is_76 : decode cX11_is 76 = .ok (.lload_n 2, 1) := dk_32 (dk_at dksX11_is_3 0 rfl rfl)
theorem dX11_is_77 : decode cX11_is 77 = .ok (.lconst 0, 1) := dk_9 (dk_at dksX11_is_3 1 rfl rfl)
theorem dX11_is_78 : decode cX11_is 78 = .ok (.lcmp, 1) := dk_148 (dk_at dksX11_is_3 2 rfl rfl)
theorem dX11_is_79 : decode cX11_is 79 = .ok (.ifCond .ge 7, 3) := dk_156 0 7 (dk_at dksX11_is_3 3 rfl rfl)
theorem dX11_is_82 : decode cX11_is 82 = .ok (.iconst 1, 1) := dk_4 (dk_at dksX11_is_3 6 rfl rfl)
theorem dX11_is_83 : decode cX11_is 83 = .ok (.goto 4, 3) := dk_167 0 4 (dk_at dksX11_is_3 7 rfl rfl)
theorem dX11_is_86 : decode cX11_is 86 = .ok (.iconst 0, 1) := dk_3 (dk_at dksX11_is_3 10 rfl rfl)
theorem dX11_is_87 : decode cX11_is 87 = .ok (.ireturn, 1) := dk_172 (dk_at dksX11_is_3 11 rfl rfl)
theorem dX11_is_88 : decode cX11_is 88 = .ok (.lload_n 2, 1) := dk_32 (dk_at dksX11_is_3 12 rfl rfl)
theorem dX11_is_89 : decode cX11_is 89 = .ok (.lconst 0, 1) := dk_9 (dk_at dksX11_is_3 13 rfl rfl)
theorem dX11_is_90 : decode cX11_is 90 = .ok (.lcmp, 1) := dk_148 (dk_at dksX11_is_3 14 rfl rfl)
theorem dX11_is_91 : decode cX11_is 91 = .ok (.ifCond .le 7, 3) := dk_158 0 7 (dk_at dksX11_is_3 15 rfl rfl)
theorem dX11_is_94 : decode cX11_is 94 = .ok (.iconst 1, 1) := dk_4 (dk_at dksX11_is_3 18 rfl rfl)
theorem dX11_is_95 : decode cX11_is 95 = .ok (.goto 4, 3) := dk_167 0 4 (dk_at dksX11_is_3 19 rfl rfl)
theorem dX11_is_98 : decode cX11_is 98 = .ok (.iconst 0, 1) := dk_3 (dk_at dksX11_is_3 22 rfl rfl)
theorem dX11_is_99 : decode cX11_is 99 = .ok (.ireturn, 1) := dk_172 (dk_at dksX11_is_3 23 rfl rfl)
theorem dX11_is_100 : decode cX11_is 100 = .ok (.lload_n 2, 1) := dk_32 (dk_at dksX11_is_4 0 rfl rfl)
theorem dX11_is_101 : decode cX11_is 101 = .ok (.lconst 0, 1) := dk_9 (dk_at dksX11_is_4 1 rfl rfl)
theorem dX11_is_102 : decode cX11_is 102 = .ok (.lcmp, 1) := dk_148 (dk_at dksX11_is_4 2 rfl rfl)
theorem dX11_is_103 : decode cX11_is 103 = .ok (.ifCond .ne 7, 3) := dk_154 0 7 (dk_at dksX11_is_4 3 rfl rfl)
theorem dX11_is_106 : decode cX11_is 106 = .ok (.iconst 1, 1) := dk_4 (dk_at dksX11_is_4 6 rfl rfl)
theorem dX11_is_107 : decode cX11_is 107 = .ok (.goto 4, 3) := dk_167 0 4 (dk_at dksX11_is_4 7 rfl rfl)
theorem dX11_is_110 : decode cX11_is 110 = .ok (.iconst 0, 1) := dk_3 (dk_at dksX11_is_4 10 rfl rfl)
theorem dX11_is_111 : decode cX11_is 111 = .ok (.ireturn, 1) := dk_172 (dk_at dksX11_is_4 11 rfl rfl)
theorem dX11_is_112 : decode cX11_is 112 = .ok (.lload_n 2, 1) := dk_32 (dk_at dksX11_is_4 12 rfl rfl)
theorem dX11_is_113 : decode cX11_is 113 = .ok (.lconst 0, 1) := dk_9 (dk_at dksX11_is_4 13 rfl rfl)
theorem dX11_is_114 : decode cX11_is 114 = .ok (.lcmp, 1) := dk_148 (dk_at dksX11_is_4 14 rfl rfl)
theorem dX11_is_115 : decode cX11_is 115 = .ok (.ifCond .eq 7, 3) := dk_153 0 7 (dk_at dksX11_is_4 15 rfl rfl)
theorem dX11_is_118 : decode cX11_is 118 = .ok (.iconst 1, 1) := dk_4 (dk_at dksX11_is_4 18 rfl rfl)
theorem dX11_is_119 : decode cX11_is 119 = .ok (.goto 4, 3) := dk_167 0 4 (dk_at dksX11_is_4 19 rfl rfl)
theorem dX11_is_122 : decode cX11_is 122 = .ok (.iconst 0, 1) := dk_3 (dk_at dksX11_is_4 22 rfl rfl)
theorem dX11_is_123 : decode cX11_is 123 = .ok (.ireturn, 1) := dk_172 (dk_at dksX11_is_4 23 rfl rfl)
theorem dX11_is_124 : decode cX11_is 124 = .ok (.lload_n 2, 1) := dk_32 (dk_at dksX11_is_5 0 rfl rfl)
theorem dX11_is_125 : decode cX11_is 125 = .ok (.lconst 0, 1) := dk_9 (dk_at dksX11_is_5 1 rfl rfl)
theorem dX11_is_126 : decode cX11_is 126 = .ok (.lcmp, 1) := dk_148 (dk_at dksX11_is_5 2 rfl rfl)
theorem dX11_is_127 : decode cX11_is 127 = .ok (.ifCond .gt 7, 3) := dk_157 0 7 (dk_at dksX11_is_5 3 rfl rfl)
theorem dX11_is_130 : decode cX11_is 130 = .ok (.iconst 1, 1) := dk_4 (dk_at dksX11_is_5 6 rfl rfl)
theorem dX11_is_131 : decode cX11_is 131 = .ok (.goto 4, 3) := dk_167 0 4 (dk_at dksX11_is_5 7 rfl rfl)
theorem dX11_is_134 : decode cX11_is 134 = .ok (.iconst 0, 1) := dk_3 (dk_at dksX11_is_5 10 rfl rfl)
theorem dX11_is_135 : decode cX11_is 135 = .ok (.ireturn, 1) := dk_172 (dk_at dksX11_is_5 11 rfl rfl)
theorem dX11_is_136 : decode cX11_is 136 = .ok (.lload_n 2, 1) := dk_32 (dk_at dksX11_is_5 12 rfl rfl)
theorem dX11_is_137 : decode cX11_is 137 = .ok (.lconst 0, 1) := dk_9 (dk_at dksX11_is_5 13 rfl rfl)
theorem dX11_is_138 : decode cX11_is 138 = .ok (.lcmp, 1) := dk_148 (dk_at dksX11_is_5 14 rfl rfl)
theorem dX11_is_139 : decode cX11_is 139 = .ok (.ifCond .lt 7, 3) := dk_155 0 7 (dk_at dksX11_is_5 15 rfl rfl)
theorem dX11_is_142 : decode cX11_is 142 = .ok (.iconst 1, 1) := dk_4 (dk_at dksX11_is_5 18 rfl rfl)
theorem dX11_is_143 : decode cX11_is 143 = .ok (.goto 4, 3) := dk_167 0 4 (dk_at dksX11_is_5 19 rfl rfl)
theorem dX11_is_146 : decode cX11_is 146 = .ok (.iconst 0, 1) := dk_3 (dk_at dksX11_is_5 22 rfl rfl)
theorem dX11_is_147 : decode cX11_is 147 = .ok (.ireturn, 1) := dk_172 (dk_at dksX11_is_5 23 rfl rfl)
theorem q139 : (Jvm.Cond.initialized "NumberComes$Compared") ∈ lw_all := lw_g (lw_at lw_m1 29 rfl) rfl
theorem q715 : (Jvm.Cond.selects "NumberComes$Compared" ({ cls := "java/lang/Object", name := "getClass", desc := "()Ljava/lang/Class;" } : Jvm.MethodName) ({ cls := "java/lang/Object", name := "getClass", desc := "()Ljava/lang/Class;" } : Jvm.MethodName)) ∈ lw_all := lw_g (lw_at lw_m3 125 rfl) rfl
theorem q748 : (Jvm.Cond.instantiable "NumberComes$Compared" (3 : Nat)) ∈ lw_all := lw_g (lw_at lw_m3 158 rfl) rfl
theorem q750 : (Jvm.Cond.instanceMethod ({ cls := "NumberComes$Compared", name := "<init>", desc := "(ILNumberComes$Sum;LNumberComes$Sum;)V" } : Jvm.MethodName)) ∈ lw_all := lw_g (lw_at lw_m3 160 rfl) rfl
theorem q751 : (Jvm.Cond.code ({ cls := "NumberComes$Compared", name := "<init>", desc := "(ILNumberComes$Sum;LNumberComes$Sum;)V" } : Jvm.MethodName) prog_5_method_1_code (4 : Nat) (Option.none : Option Jvm.ClassFile.FieldType)) ∈ lw_all := lw_g (lw_at lw_m3 161 rfl) rfl
theorem q752 : (Jvm.Cond.methodLink "NumberComes$Compared" (1 : Nat) ({ cls := "java/lang/Record", name := "<init>", desc := "()V" } : Jvm.MethodName)) ∈ lw_all := lw_g (lw_at lw_m3 162 rfl) rfl
theorem q753 : (Jvm.Cond.fieldLink "NumberComes$Compared" (7 : Nat) "NumberComes$Compared" "sign" "I") ∈ lw_all := lw_g (lw_at lw_m3 163 rfl) rfl
theorem q754 : (Jvm.Cond.fieldLink "NumberComes$Compared" (13 : Nat) "NumberComes$Compared" "a" "LNumberComes$Sum;") ∈ lw_all := lw_g (lw_at lw_m3 164 rfl) rfl
theorem q755 : (Jvm.Cond.fieldLink "NumberComes$Compared" (17 : Nat) "NumberComes$Compared" "b" "LNumberComes$Sum;") ∈ lw_all := lw_g (lw_at lw_m3 165 rfl) rfl
theorem q756 : (Jvm.Cond.laysFinal "NumberComes$Compared" "NumberComes$Compared" "sign" "I") ∈ lw_all := lw_g (lw_at lw_m3 166 rfl) rfl
theorem q757 : (Jvm.Cond.soleField "NumberComes$Compared" "sign") ∈ lw_all := lw_g (lw_at lw_m3 167 rfl) rfl
theorem q758 : (Jvm.Cond.laysFinal "NumberComes$Compared" "NumberComes$Compared" "a" "LNumberComes$Sum;") ∈ lw_all := lw_g (lw_at lw_m3 168 rfl) rfl
theorem q759 : (Jvm.Cond.soleField "NumberComes$Compared" "a") ∈ lw_all := lw_g (lw_at lw_m3 169 rfl) rfl
theorem q760 : (Jvm.Cond.laysFinal "NumberComes$Compared" "NumberComes$Compared" "b" "LNumberComes$Sum;") ∈ lw_all := lw_g (lw_at lw_m3 170 rfl) rfl
theorem q761 : (Jvm.Cond.soleField "NumberComes$Compared" "b") ∈ lw_all := lw_g (lw_at lw_m3 171 rfl) rfl
theorem q762 : (Jvm.Cond.superclass "NumberComes$Compared" "java/lang/Record") ∈ lw_all := lw_g (lw_at lw_m3 172 rfl) rfl
theorem q867 : (Jvm.Cond.castable "NumberComes$Compared" "NumberComes$Asked") ∈ lw_tbl := lw_at lw_m4 37 rfl
theorem q868 : (Jvm.Cond.selects "NumberComes$Compared" ({ cls := "NumberComes$Asked", name := "is", desc := "([I)Z" } : Jvm.MethodName) ({ cls := "NumberComes$Compared", name := "is", desc := "([I)Z" } : Jvm.MethodName)) ∈ lw_all := lw_g (lw_at lw_m4 38 rfl) rfl
theorem q869 : (Jvm.Cond.unhidden "NumberComes$Compared" "is" "([I)Z") ∈ lw_tbl := lw_at lw_m4 39 rfl
theorem q870 : (Jvm.Cond.instanceMethod ({ cls := "NumberComes$Compared", name := "is", desc := "([I)Z" } : Jvm.MethodName)) ∈ lw_all := lw_g (lw_at lw_m4 40 rfl) rfl
theorem q871 : (Jvm.Cond.publicMethod ({ cls := "NumberComes$Compared", name := "is", desc := "([I)Z" } : Jvm.MethodName)) ∈ lw_tbl := lw_at lw_m4 41 rfl
theorem q872 : (Jvm.Cond.code ({ cls := "NumberComes$Compared", name := "is", desc := "([I)Z" } : Jvm.MethodName) prog_5_method_2_code (4 : Nat) (Option.some Jvm.ClassFile.FieldType.boolean)) ∈ lw_all := lw_g (lw_at lw_m4 42 rfl) rfl
theorem q873 : (Jvm.Cond.interfaceEntry "NumberComes$Compared" (20 : Nat)) ∈ lw_tbl := lw_at lw_m4 43 rfl
theorem q874 : (Jvm.Cond.methodLink "NumberComes$Compared" (20 : Nat) ({ cls := "NumberComes$Sum", name := "of", desc := "([I)J" } : Jvm.MethodName)) ∈ lw_all := lw_g (lw_at lw_m4 44 rfl) rfl
theorem q1861 : (Jvm.Cond.castable "NumberComes$Compared" "java/lang/Object") ∈ lw_tbl := lw_at lw_m8 71 rfl
theorem in_X11 : ∀ w ∈ wsX110, w ∈ lw_all := lw_in wsX110 [756, 758, 760] (by decide +kernel) (by decide +kernel)
/-! NumberComes$All -/
set_option maxRecDepth 100000
def RX12 : String := "NumberComes$All"
def TX12 : u_T := fun k => match k with
  | 0 => ("NumberComes$All", "and", "Z", true)
  | _ => ("NumberComes$All", "of", "Ljava/util/ArrayList;", true)
def tyX12 : Nat → FieldType := fun k => match k with
  | 0 => .boolean
  | _ => .object "java/util/ArrayList"
abbrev wsX120 : List Cond := u_ws RX12 TX12 2
theorem nmX12 : ∀ a, a < 2 → ∀ b, b < 2 → a ≠ b → (TX12 a).2.1 ≠ (TX12 b).2.1 := by decide +kernel
theorem tyX12_ok : ∀ k, k < 2 → parseFieldDescriptor (TX12 k).2.2.1 = some (tyX12 k) := by decide +kernel
abbrev cX12_init : ByteArray := prog_2_method_1_code
def yX12_init : MethodName := ⟨RX12, "<init>", "(ZLjava/util/ArrayList;)V"⟩
def dkwX12_init_0 : List UInt8 := [42, 183, 0, 1, 42, 27, 181, 0, 7, 42, 44, 181, 0, 13, 177]
abbrev dktX12_init_0 : List UInt8 := dkwX12_init_0 ++ []
theorem dksX12_init_0 : cX12_init.data.toList.drop 0 = dktX12_init_0 := by decide +kernel
theorem dX12_init_0 : decode cX12_init 0 = .ok (.aload_n 0, 1) := dk_42 (dk_at dksX12_init_0 0 rfl rfl)
theorem dX12_init_1 : decode cX12_init 1 = .ok (.invokespecial 1, 3) := dk_183 0 1 (dk_at dksX12_init_0 1 rfl rfl)
theorem dX12_init_4 : decode cX12_init 4 = .ok (.aload_n 0, 1) := dk_42 (dk_at dksX12_init_0 4 rfl rfl)
theorem dX12_init_5 : decode cX12_init 5 = .ok (.iload_n 1, 1) := dk_27 (dk_at dksX12_init_0 5 rfl rfl)
theorem dX12_init_6 : decode cX12_init 6 = .ok (.putfield 7, 3) := dk_181 0 7 (dk_at dksX12_init_0 6 rfl rfl)
theorem dX12_init_9 : decode cX12_init 9 = .ok (.aload_n 0, 1) := dk_42 (dk_at dksX12_init_0 9 rfl rfl)
theorem dX12_init_10 : decode cX12_init 10 = .ok (.aload_n 2, 1) := dk_44 (dk_at dksX12_init_0 10 rfl rfl)
theorem dX12_init_11 : decode cX12_init 11 = .ok (.putfield 13, 3) := dk_181 0 13 (dk_at dksX12_init_0 11 rfl rfl)
theorem dX12_init_14 : decode cX12_init 14 = .ok (.return_, 1) := dk_177 (dk_at dksX12_init_0 14 rfl rfl)
abbrev cX12_is : ByteArray := prog_2_method_2_code
def yX12_is : MethodName := ⟨RX12, "is", "([I)Z"⟩
def dkwX12_is_3 : List UInt8 := [167, 0, 16, 3, 167, 0, 12, 28, 158, 0, 7, 4, 167, 0, 4, 3, 172]
abbrev dktX12_is_3 : List UInt8 := dkwX12_is_3 ++ []
def dkwX12_is_2 : List UInt8 := [167, 255, 214, 42, 180, 0, 7, 153, 0, 22, 28, 42, 180, 0, 13, 182, 0, 17, 160, 0, 7, 4]
abbrev dktX12_is_2 : List UInt8 := dkwX12_is_2 ++ dktX12_is_3
def dkwX12_is_1 : List UInt8 := [192, 0, 27, 43, 185, 0, 29, 2, 0, 153, 0, 7, 4, 167, 0, 4, 3, 96, 61, 132, 3, 1]
abbrev dktX12_is_1 : List UInt8 := dkwX12_is_1 ++ dktX12_is_2
def dkwX12_is_0 : List UInt8 := [3, 61, 3, 62, 29, 42, 180, 0, 13, 182, 0, 17, 162, 0, 37, 28, 42, 180, 0, 13, 29, 182, 0, 23]
abbrev dktX12_is_0 : List UInt8 := dkwX12_is_0 ++ dktX12_is_1
theorem dksX12_is_0 : cX12_is.data.toList.drop 0 = dktX12_is_0 := by decide +kernel
theorem dksX12_is_1 : cX12_is.data.toList.drop 24 = dktX12_is_1 := dk_seg dksX12_is_0 24 rfl rfl
theorem dksX12_is_2 : cX12_is.data.toList.drop 46 = dktX12_is_2 := dk_seg dksX12_is_1 22 rfl rfl
theorem dksX12_is_3 : cX12_is.data.toList.drop 68 = dktX12_is_3 := dk_seg dksX12_is_2 22 rfl rfl
theorem dX12_is_0 : decode cX12_is 0 = .ok (.iconst 0, 1) := dk_3 (dk_at dksX12_is_0 0 rfl rfl)
theorem dX12_is_1 : decode cX12_is 1 = .ok (.istore_n 2, 1) := dk_61 (dk_at dksX12_is_0 1 rfl rfl)
theorem dX12_is_2 : decode cX12_is 2 = .ok (.iconst 0, 1) := dk_3 (dk_at dksX12_is_0 2 rfl rfl)
theorem dX12_is_3 : decode cX12_is 3 = .ok (.istore_n 3, 1) := dk_62 (dk_at dksX12_is_0 3 rfl rfl)
theorem dX12_is_4 : decode cX12_is 4 = .ok (.iload_n 3, 1) := dk_29 (dk_at dksX12_is_0 4 rfl rfl)
theorem dX12_is_5 : decode cX12_is 5 = .ok (.aload_n 0, 1) := dk_42 (dk_at dksX12_is_0 5 rfl rfl)
theorem dX12_is_6 : decode cX12_is 6 = .ok (.getfield 13, 3) := dk_180 0 13 (dk_at dksX12_is_0 6 rfl rfl)
theorem dX12_is_9 : decode cX12_is 9 = .ok (.invokevirtual 17, 3) := dk_182 0 17 (dk_at dksX12_is_0 9 rfl rfl)
theorem dX12_is_12 : decode cX12_is 12 = .ok (.if_icmp .ge 37, 3) := dk_162 0 37 (dk_at dksX12_is_0 12 rfl rfl)
theorem dX12_is_15 : decode cX12_is 15 = .ok (.iload_n 2, 1) := dk_28 (dk_at dksX12_is_0 15 rfl rfl)
theorem dX12_is_16 : decode cX12_is 16 = .ok (.aload_n 0, 1) := dk_42 (dk_at dksX12_is_0 16 rfl rfl)
theorem dX12_is_17 : decode cX12_is 17 = .ok (.getfield 13, 3) := dk_180 0 13 (dk_at dksX12_is_0 17 rfl rfl)
theorem dX12_is_20 : decode cX12_is 20 = .ok (.iload_n 3, 1) := dk_29 (dk_at dksX12_is_0 20 rfl rfl)
theorem dX12_is_21 : decode cX12_is 21 = .ok (.invokevirtual 23, 3) := dk_182 0 23 (dk_at dksX12_is_0 21 rfl rfl)
theorem dX12_is_24 : decode cX12_is 24 = .ok (.checkcast 27, 3) := dk_192 0 27 (dk_at dksX12_is_1 0 rfl rfl)
theorem dX12_is_27 : decode cX12_is 27 = .ok (.aload_n 1, 1) := dk_43 (dk_at dksX12_is_1 3 rfl rfl)
theorem dX12_is_28 : decode cX12_is 28 = .ok (.invokeinterface 29 2, 5) := by decide +kernel
theorem dX12_is_33 : decode cX12_is 33 = .ok (.ifCond .eq 7, 3) := dk_153 0 7 (dk_at dksX12_is_1 9 rfl rfl)
theorem dX12_is_36 : decode cX12_is 36 = .ok (.iconst 1, 1) := dk_4 (dk_at dksX12_is_1 12 rfl rfl)
theorem dX12_is_37 : decode cX12_is 37 = .ok (.goto 4, 3) := dk_167 0 4 (dk_at dksX12_is_1 13 rfl rfl)
theorem dX12_is_40 : decode cX12_is 40 = .ok (.iconst 0, 1) := dk_3 (dk_at dksX12_is_1 16 rfl rfl)
theorem dX12_is_41 : decode cX12_is 41 = .ok (.iadd, 1) := dk_96 (dk_at dksX12_is_1 17 rfl rfl)
theorem dX12_is_42 : decode cX12_is 42 = .ok (.istore_n 2, 1) := dk_61 (dk_at dksX12_is_1 18 rfl rfl)
theorem dX12_is_43 : decode cX12_is 43 = .ok (.iinc 3 1, 3) := dk_132 3 1 (dk_at dksX12_is_1 19 rfl rfl)
theorem dX12_is_46 : decode cX12_is 46 = .ok (.goto (-42), 3) := dk_167 255 214 (dk_at dksX12_is_2 0 rfl rfl)
theorem dX12_is_49 : decode cX12_is 49 = .ok (.aload_n 0, 1) := dk_42 (dk_at dksX12_is_2 3 rfl rfl)
theorem dX12_is_50 : decode cX12_is 50 = .ok (.getfield 7, 3) := dk_180 0 7 (dk_at dksX12_is_2 4 rfl rfl)
theorem dX12_is_53 : decode cX12_is 53 = .ok (.ifCond .eq 22, 3) := dk_153 0 22 (dk_at dksX12_is_2 7 rfl rfl)
theorem dX12_is_56 : decode cX12_is 56 = .ok (.iload_n 2, 1) := dk_28 (dk_at dksX12_is_2 10 rfl rfl)
theorem dX12_is_57 : decode cX12_is 57 = .ok (.aload_n 0, 1) := dk_42 (dk_at dksX12_is_2 11 rfl rfl)
theorem dX12_is_58 : decode cX12_is 58 = .ok (.getfield 13, 3) := dk_180 0 13 (dk_at dksX12_is_2 12 rfl rfl)
theorem dX12_is_61 : decode cX12_is 61 = .ok (.invokevirtual 17, 3) := dk_182 0 17 (dk_at dksX12_is_2 15 rfl rfl)
theorem dX12_is_64 : decode cX12_is 64 = .ok (.if_icmp .ne 7, 3) := dk_160 0 7 (dk_at dksX12_is_2 18 rfl rfl)
theorem dX12_is_67 : decode cX12_is 67 = .ok (.iconst 1, 1) := dk_4 (dk_at dksX12_is_2 21 rfl rfl)
theorem dX12_is_68 : decode cX12_is 68 = .ok (.goto 16, 3) := dk_167 0 16 (dk_at dksX12_is_3 0 rfl rfl)
theorem dX12_is_71 : decode cX12_is 71 = .ok (.iconst 0, 1) := dk_3 (dk_at dksX12_is_3 3 rfl rfl)
theorem dX12_is_72 : decode cX12_is 72 = .ok (.goto 12, 3) := dk_167 0 12 (dk_at dksX12_is_3 4 rfl rfl)
theorem dX12_is_75 : decode cX12_is 75 = .ok (.iload_n 2, 1) := dk_28 (dk_at dksX12_is_3 7 rfl rfl)
theorem dX12_is_76 : decode cX12_is 76 = .ok (.ifCond .le 7, 3) := dk_158 0 7 (dk_at dksX12_is_3 8 rfl rfl)
theorem dX12_is_79 : decode cX12_is 79 = .ok (.iconst 1, 1) := dk_4 (dk_at dksX12_is_3 11 rfl rfl)
theorem dX12_is_80 : decode cX12_is 80 = .ok (.goto 4, 3) := dk_167 0 4 (dk_at dksX12_is_3 12 rfl rfl)
theorem dX12_is_83 : decode cX12_is 83 = .ok (.iconst 0, 1) := dk_3 (dk_at dksX12_is_3 15 rfl rfl)
theorem dX12_is_84 : decode cX12_is 84 = .ok (.ireturn, 1) := dk_172 (dk_at dksX12_is_3 16 rfl rfl)
theorem q141 : (Jvm.Cond.initialized "NumberComes$All") ∈ lw_all := lw_g (lw_at lw_m1 31 rfl) rfl
theorem q713 : (Jvm.Cond.selects "NumberComes$All" ({ cls := "java/lang/Object", name := "getClass", desc := "()Ljava/lang/Class;" } : Jvm.MethodName) ({ cls := "java/lang/Object", name := "getClass", desc := "()Ljava/lang/Class;" } : Jvm.MethodName)) ∈ lw_all := lw_g (lw_at lw_m3 123 rfl) rfl
theorem q782 : (Jvm.Cond.instantiable "NumberComes$All" (2 : Nat)) ∈ lw_all := lw_g (lw_at lw_m3 192 rfl) rfl
theorem q784 : (Jvm.Cond.instanceMethod ({ cls := "NumberComes$All", name := "<init>", desc := "(ZLjava/util/ArrayList;)V" } : Jvm.MethodName)) ∈ lw_all := lw_g (lw_at lw_m3 194 rfl) rfl
theorem q785 : (Jvm.Cond.code ({ cls := "NumberComes$All", name := "<init>", desc := "(ZLjava/util/ArrayList;)V" } : Jvm.MethodName) prog_2_method_1_code (3 : Nat) (Option.none : Option Jvm.ClassFile.FieldType)) ∈ lw_all := lw_g (lw_at lw_m3 195 rfl) rfl
theorem q786 : (Jvm.Cond.methodLink "NumberComes$All" (1 : Nat) ({ cls := "java/lang/Record", name := "<init>", desc := "()V" } : Jvm.MethodName)) ∈ lw_all := lw_g (lw_at lw_m3 196 rfl) rfl
theorem q787 : (Jvm.Cond.fieldLink "NumberComes$All" (7 : Nat) "NumberComes$All" "and" "Z") ∈ lw_all := lw_g (lw_at lw_m3 197 rfl) rfl
theorem q788 : (Jvm.Cond.fieldLink "NumberComes$All" (13 : Nat) "NumberComes$All" "of" "Ljava/util/ArrayList;") ∈ lw_all := lw_g (lw_at lw_m3 198 rfl) rfl
theorem q789 : (Jvm.Cond.laysFinal "NumberComes$All" "NumberComes$All" "and" "Z") ∈ lw_all := lw_g (lw_at lw_m3 199 rfl) rfl
theorem q790 : (Jvm.Cond.soleField "NumberComes$All" "and") ∈ lw_all := lw_g (lw_at lw_m3 200 rfl) rfl
theorem q791 : (Jvm.Cond.laysFinal "NumberComes$All" "NumberComes$All" "of" "Ljava/util/ArrayList;") ∈ lw_all := lw_g (lw_at lw_m3 201 rfl) rfl
theorem q792 : (Jvm.Cond.soleField "NumberComes$All" "of") ∈ lw_all := lw_g (lw_at lw_m3 202 rfl) rfl
theorem q793 : (Jvm.Cond.superclass "NumberComes$All" "java/lang/Record") ∈ lw_all := lw_g (lw_at lw_m3 203 rfl) rfl
theorem q856 : (Jvm.Cond.castable "NumberComes$All" "NumberComes$Asked") ∈ lw_tbl := lw_at lw_m4 26 rfl
theorem q857 : (Jvm.Cond.selects "NumberComes$All" ({ cls := "NumberComes$Asked", name := "is", desc := "([I)Z" } : Jvm.MethodName) ({ cls := "NumberComes$All", name := "is", desc := "([I)Z" } : Jvm.MethodName)) ∈ lw_all := lw_g (lw_at lw_m4 27 rfl) rfl
theorem q858 : (Jvm.Cond.unhidden "NumberComes$All" "is" "([I)Z") ∈ lw_tbl := lw_at lw_m4 28 rfl
theorem q859 : (Jvm.Cond.instanceMethod ({ cls := "NumberComes$All", name := "is", desc := "([I)Z" } : Jvm.MethodName)) ∈ lw_all := lw_g (lw_at lw_m4 29 rfl) rfl
theorem q860 : (Jvm.Cond.publicMethod ({ cls := "NumberComes$All", name := "is", desc := "([I)Z" } : Jvm.MethodName)) ∈ lw_tbl := lw_at lw_m4 30 rfl
theorem q861 : (Jvm.Cond.code ({ cls := "NumberComes$All", name := "is", desc := "([I)Z" } : Jvm.MethodName) prog_2_method_2_code (4 : Nat) (Option.some Jvm.ClassFile.FieldType.boolean)) ∈ lw_all := lw_g (lw_at lw_m4 31 rfl) rfl
theorem q862 : (Jvm.Cond.methodLink "NumberComes$All" (17 : Nat) ({ cls := "java/util/ArrayList", name := "size", desc := "()I" } : Jvm.MethodName)) ∈ lw_all := lw_g (lw_at lw_m4 32 rfl) rfl
theorem q863 : (Jvm.Cond.methodLink "NumberComes$All" (23 : Nat) ({ cls := "java/util/ArrayList", name := "get", desc := "(I)Ljava/lang/Object;" } : Jvm.MethodName)) ∈ lw_all := lw_g (lw_at lw_m4 33 rfl) rfl
theorem q864 : (Jvm.Cond.classLink "NumberComes$All" (27 : Nat) "NumberComes$Asked") ∈ lw_all := lw_g (lw_at lw_m4 34 rfl) rfl
theorem q865 : (Jvm.Cond.interfaceEntry "NumberComes$All" (29 : Nat)) ∈ lw_tbl := lw_at lw_m4 35 rfl
theorem q866 : (Jvm.Cond.methodLink "NumberComes$All" (29 : Nat) ({ cls := "NumberComes$Asked", name := "is", desc := "([I)Z" } : Jvm.MethodName)) ∈ lw_all := lw_g (lw_at lw_m4 36 rfl) rfl
theorem q1862 : (Jvm.Cond.castable "NumberComes$All" "java/lang/Object") ∈ lw_tbl := lw_at lw_m8 72 rfl
theorem in_X12 : ∀ w ∈ wsX120, w ∈ lw_all := lw_in wsX120 [789, 791] (by decide +kernel) (by decide +kernel)
/-! NumberComes$Entry -/
set_option maxRecDepth 100000
def RX13 : String := "NumberComes$Entry"
def TX13 : u_T := fun k => match k with
  | 0 => ("NumberComes$Entry", "isPerson", "Z", true)
  | 1 => ("NumberComes$Entry", "a", "I", true)
  | 2 => ("NumberComes$Entry", "b", "I", true)
  | _ => ("NumberComes$Entry", "number", "I", true)
def tyX13 : Nat → FieldType := fun k => match k with
  | 0 => .boolean
  | 1 => .int
  | 2 => .int
  | _ => .int
abbrev wsX130 : List Cond := u_ws RX13 TX13 4
theorem nmX13 : ∀ a, a < 4 → ∀ b, b < 4 → a ≠ b → (TX13 a).2.1 ≠ (TX13 b).2.1 := by decide +kernel
theorem tyX13_ok : ∀ k, k < 4 → parseFieldDescriptor (TX13 k).2.2.1 = some (tyX13 k) := by decide +kernel
abbrev cX13_init : ByteArray := prog_6_method_1_code
def yX13_init : MethodName := ⟨RX13, "<init>", "(ZIII)V"⟩
def dkwX13_init_1 : List UInt8 := [181, 0, 20, 177]
abbrev dktX13_init_1 : List UInt8 := dkwX13_init_1 ++ []
def dkwX13_init_0 : List UInt8 := [42, 183, 0, 1, 42, 27, 181, 0, 7, 42, 28, 181, 0, 13, 42, 29, 181, 0, 17, 42, 21, 4]
abbrev dktX13_init_0 : List UInt8 := dkwX13_init_0 ++ dktX13_init_1
theorem dksX13_init_0 : cX13_init.data.toList.drop 0 = dktX13_init_0 := by decide +kernel
theorem dksX13_init_1 : cX13_init.data.toList.drop 22 = dktX13_init_1 := dk_seg dksX13_init_0 22 rfl rfl
theorem dX13_init_0 : decode cX13_init 0 = .ok (.aload_n 0, 1) := dk_42 (dk_at dksX13_init_0 0 rfl rfl)
theorem dX13_init_1 : decode cX13_init 1 = .ok (.invokespecial 1, 3) := dk_183 0 1 (dk_at dksX13_init_0 1 rfl rfl)
theorem dX13_init_4 : decode cX13_init 4 = .ok (.aload_n 0, 1) := dk_42 (dk_at dksX13_init_0 4 rfl rfl)
theorem dX13_init_5 : decode cX13_init 5 = .ok (.iload_n 1, 1) := dk_27 (dk_at dksX13_init_0 5 rfl rfl)
theorem dX13_init_6 : decode cX13_init 6 = .ok (.putfield 7, 3) := dk_181 0 7 (dk_at dksX13_init_0 6 rfl rfl)
theorem dX13_init_9 : decode cX13_init 9 = .ok (.aload_n 0, 1) := dk_42 (dk_at dksX13_init_0 9 rfl rfl)
theorem dX13_init_10 : decode cX13_init 10 = .ok (.iload_n 2, 1) := dk_28 (dk_at dksX13_init_0 10 rfl rfl)
theorem dX13_init_11 : decode cX13_init 11 = .ok (.putfield 13, 3) := dk_181 0 13 (dk_at dksX13_init_0 11 rfl rfl)
theorem dX13_init_14 : decode cX13_init 14 = .ok (.aload_n 0, 1) := dk_42 (dk_at dksX13_init_0 14 rfl rfl)
theorem dX13_init_15 : decode cX13_init 15 = .ok (.iload_n 3, 1) := dk_29 (dk_at dksX13_init_0 15 rfl rfl)
theorem dX13_init_16 : decode cX13_init 16 = .ok (.putfield 17, 3) := dk_181 0 17 (dk_at dksX13_init_0 16 rfl rfl)
theorem dX13_init_19 : decode cX13_init 19 = .ok (.aload_n 0, 1) := dk_42 (dk_at dksX13_init_0 19 rfl rfl)
theorem dX13_init_20 : decode cX13_init 20 = .ok (.iload 4, 2) := dk_21 4 (dk_at dksX13_init_0 20 rfl rfl)
theorem dX13_init_22 : decode cX13_init 22 = .ok (.putfield 20, 3) := dk_181 0 20 (dk_at dksX13_init_1 0 rfl rfl)
theorem dX13_init_25 : decode cX13_init 25 = .ok (.return_, 1) := dk_177 (dk_at dksX13_init_1 3 rfl rfl)
abbrev cX13_isPerson : ByteArray := prog_6_method_5_code
def yX13_isPerson : MethodName := ⟨RX13, "isPerson", "()Z"⟩
theorem dX13_isPerson_0 : decode cX13_isPerson 0 = .ok (.aload_n 0, 1) := by decide +kernel
theorem dX13_isPerson_1 : decode cX13_isPerson 1 = .ok (.getfield 7, 3) := by decide +kernel
theorem dX13_isPerson_4 : decode cX13_isPerson 4 = .ok (.ireturn, 1) := by decide +kernel
abbrev cX13_a : ByteArray := prog_6_method_6_code
def yX13_a : MethodName := ⟨RX13, "a", "()I"⟩
theorem dX13_a_0 : decode cX13_a 0 = .ok (.aload_n 0, 1) := by decide +kernel
theorem dX13_a_1 : decode cX13_a 1 = .ok (.getfield 13, 3) := by decide +kernel
theorem dX13_a_4 : decode cX13_a 4 = .ok (.ireturn, 1) := by decide +kernel
abbrev cX13_b : ByteArray := prog_6_method_7_code
def yX13_b : MethodName := ⟨RX13, "b", "()I"⟩
theorem dX13_b_0 : decode cX13_b 0 = .ok (.aload_n 0, 1) := by decide +kernel
theorem dX13_b_1 : decode cX13_b 1 = .ok (.getfield 17, 3) := by decide +kernel
theorem dX13_b_4 : decode cX13_b 4 = .ok (.ireturn, 1) := by decide +kernel
abbrev cX13_number : ByteArray := prog_6_method_8_code
def yX13_number : MethodName := ⟨RX13, "number", "()I"⟩
theorem dX13_number_0 : decode cX13_number 0 = .ok (.aload_n 0, 1) := by decide +kernel
theorem dX13_number_1 : decode cX13_number 1 = .ok (.getfield 20, 3) := by decide +kernel
theorem dX13_number_4 : decode cX13_number 4 = .ok (.ireturn, 1) := by decide +kernel
theorem q142 : (Jvm.Cond.initialized "NumberComes$Entry") ∈ lw_all := lw_g (lw_at lw_m1 32 rfl) rfl
theorem q716 : (Jvm.Cond.selects "NumberComes$Entry" ({ cls := "java/lang/Object", name := "getClass", desc := "()Ljava/lang/Class;" } : Jvm.MethodName) ({ cls := "java/lang/Object", name := "getClass", desc := "()Ljava/lang/Class;" } : Jvm.MethodName)) ∈ lw_all := lw_g (lw_at lw_m3 126 rfl) rfl
theorem q795 : (Jvm.Cond.instantiable "NumberComes$Entry" (4 : Nat)) ∈ lw_all := lw_g (lw_at lw_m3 205 rfl) rfl
theorem q797 : (Jvm.Cond.instanceMethod ({ cls := "NumberComes$Entry", name := "<init>", desc := "(ZIII)V" } : Jvm.MethodName)) ∈ lw_all := lw_g (lw_at lw_m3 207 rfl) rfl
theorem q798 : (Jvm.Cond.code ({ cls := "NumberComes$Entry", name := "<init>", desc := "(ZIII)V" } : Jvm.MethodName) prog_6_method_1_code (5 : Nat) (Option.none : Option Jvm.ClassFile.FieldType)) ∈ lw_all := lw_g (lw_at lw_m3 208 rfl) rfl
theorem q799 : (Jvm.Cond.methodLink "NumberComes$Entry" (1 : Nat) ({ cls := "java/lang/Record", name := "<init>", desc := "()V" } : Jvm.MethodName)) ∈ lw_all := lw_g (lw_at lw_m3 209 rfl) rfl
theorem q800 : (Jvm.Cond.fieldLink "NumberComes$Entry" (7 : Nat) "NumberComes$Entry" "isPerson" "Z") ∈ lw_all := lw_g (lw_at lw_m3 210 rfl) rfl
theorem q801 : (Jvm.Cond.fieldLink "NumberComes$Entry" (13 : Nat) "NumberComes$Entry" "a" "I") ∈ lw_all := lw_g (lw_at lw_m3 211 rfl) rfl
theorem q802 : (Jvm.Cond.fieldLink "NumberComes$Entry" (17 : Nat) "NumberComes$Entry" "b" "I") ∈ lw_all := lw_g (lw_at lw_m3 212 rfl) rfl
theorem q803 : (Jvm.Cond.fieldLink "NumberComes$Entry" (20 : Nat) "NumberComes$Entry" "number" "I") ∈ lw_all := lw_g (lw_at lw_m3 213 rfl) rfl
theorem q804 : (Jvm.Cond.laysFinal "NumberComes$Entry" "NumberComes$Entry" "isPerson" "Z") ∈ lw_all := lw_g (lw_at lw_m3 214 rfl) rfl
theorem q805 : (Jvm.Cond.soleField "NumberComes$Entry" "isPerson") ∈ lw_all := lw_g (lw_at lw_m3 215 rfl) rfl
theorem q806 : (Jvm.Cond.laysFinal "NumberComes$Entry" "NumberComes$Entry" "a" "I") ∈ lw_all := lw_g (lw_at lw_m3 216 rfl) rfl
theorem q807 : (Jvm.Cond.soleField "NumberComes$Entry" "a") ∈ lw_all := lw_g (lw_at lw_m3 217 rfl) rfl
theorem q808 : (Jvm.Cond.laysFinal "NumberComes$Entry" "NumberComes$Entry" "b" "I") ∈ lw_all := lw_g (lw_at lw_m3 218 rfl) rfl
theorem q809 : (Jvm.Cond.soleField "NumberComes$Entry" "b") ∈ lw_all := lw_g (lw_at lw_m3 219 rfl) rfl
theorem q810 : (Jvm.Cond.laysFinal "NumberComes$Entry" "NumberComes$Entry" "number" "I") ∈ lw_all := lw_g (lw_at lw_m3 220 rfl) rfl
theorem q811 : (Jvm.Cond.soleField "NumberComes$Entry" "number") ∈ lw_all := lw_g (lw_at lw_m3 221 rfl) rfl
theorem q812 : (Jvm.Cond.superclass "NumberComes$Entry" "java/lang/Record") ∈ lw_all := lw_g (lw_at lw_m3 222 rfl) rfl
theorem q1187 : (Jvm.Cond.instanceMethod ({ cls := "NumberComes$Entry", name := "isPerson", desc := "()Z" } : Jvm.MethodName)) ∈ lw_all := lw_g (lw_at lw_m5 117 rfl) rfl
theorem q1188 : (Jvm.Cond.selects "NumberComes$Entry" ({ cls := "NumberComes$Entry", name := "isPerson", desc := "()Z" } : Jvm.MethodName) ({ cls := "NumberComes$Entry", name := "isPerson", desc := "()Z" } : Jvm.MethodName)) ∈ lw_all := lw_g (lw_at lw_m5 118 rfl) rfl
theorem q1189 : (Jvm.Cond.code ({ cls := "NumberComes$Entry", name := "isPerson", desc := "()Z" } : Jvm.MethodName) prog_6_method_5_code (1 : Nat) (Option.some Jvm.ClassFile.FieldType.boolean)) ∈ lw_all := lw_g (lw_at lw_m5 119 rfl) rfl
theorem q1191 : (Jvm.Cond.instanceMethod ({ cls := "NumberComes$Entry", name := "a", desc := "()I" } : Jvm.MethodName)) ∈ lw_all := lw_g (lw_at lw_m5 121 rfl) rfl
theorem q1192 : (Jvm.Cond.selects "NumberComes$Entry" ({ cls := "NumberComes$Entry", name := "a", desc := "()I" } : Jvm.MethodName) ({ cls := "NumberComes$Entry", name := "a", desc := "()I" } : Jvm.MethodName)) ∈ lw_all := lw_g (lw_at lw_m5 122 rfl) rfl
theorem q1193 : (Jvm.Cond.code ({ cls := "NumberComes$Entry", name := "a", desc := "()I" } : Jvm.MethodName) prog_6_method_6_code (1 : Nat) (Option.some Jvm.ClassFile.FieldType.int)) ∈ lw_all := lw_g (lw_at lw_m5 123 rfl) rfl
theorem q1195 : (Jvm.Cond.instanceMethod ({ cls := "NumberComes$Entry", name := "b", desc := "()I" } : Jvm.MethodName)) ∈ lw_all := lw_g (lw_at lw_m5 125 rfl) rfl
theorem q1196 : (Jvm.Cond.selects "NumberComes$Entry" ({ cls := "NumberComes$Entry", name := "b", desc := "()I" } : Jvm.MethodName) ({ cls := "NumberComes$Entry", name := "b", desc := "()I" } : Jvm.MethodName)) ∈ lw_all := lw_g (lw_at lw_m5 126 rfl) rfl
theorem q1197 : (Jvm.Cond.code ({ cls := "NumberComes$Entry", name := "b", desc := "()I" } : Jvm.MethodName) prog_6_method_7_code (1 : Nat) (Option.some Jvm.ClassFile.FieldType.int)) ∈ lw_all := lw_g (lw_at lw_m5 127 rfl) rfl
theorem q1201 : (Jvm.Cond.instanceMethod ({ cls := "NumberComes$Entry", name := "number", desc := "()I" } : Jvm.MethodName)) ∈ lw_all := lw_g (lw_at lw_m5 131 rfl) rfl
theorem q1202 : (Jvm.Cond.selects "NumberComes$Entry" ({ cls := "NumberComes$Entry", name := "number", desc := "()I" } : Jvm.MethodName) ({ cls := "NumberComes$Entry", name := "number", desc := "()I" } : Jvm.MethodName)) ∈ lw_all := lw_g (lw_at lw_m5 132 rfl) rfl
theorem q1203 : (Jvm.Cond.code ({ cls := "NumberComes$Entry", name := "number", desc := "()I" } : Jvm.MethodName) prog_6_method_8_code (1 : Nat) (Option.some Jvm.ClassFile.FieldType.int)) ∈ lw_all := lw_g (lw_at lw_m5 133 rfl) rfl
theorem q1863 : (Jvm.Cond.castable "NumberComes$Entry" "java/lang/Object") ∈ lw_tbl := lw_at lw_m8 73 rfl
theorem in_X13 : ∀ w ∈ wsX130, w ∈ lw_all := lw_in wsX130 [804, 806, 808, 810] (by decide +kernel) (by decide +kernel)
