/-! NumberComesModel -/
set_option maxRecDepth 100000
def RX2 : String := "NumberComesModel"
def TX2 : u_T := fun k => match k with
  | 0 => ("NumberComesModel", "a", "[I", true)
  | 1 => ("NumberComesModel", "image", "[I", true)
  | 2 => ("NumberComesModel", "talkHour", "[J", true)
  | 3 => ("NumberComesModel", "imageHour", "[J", true)
  | 4 => ("NumberComesModel", "texts", "[I", true)
  | 5 => ("NumberComesModel", "tape", "[I", true)
  | 6 => ("NumberComesModel", "taped", "I", false)
  | 7 => ("NumberComesModel", "fault", "I", false)
  | 8 => ("NumberComesModel", "faultPlace", "I", false)
  | 9 => ("NumberComesModel", "at", "I", false)
  | 10 => ("NumberComesModel", "place", "I", false)
  | 11 => ("NumberComesModel", "token", "I", false)
  | 12 => ("NumberComesModel", "number", "I", false)
  | 13 => ("NumberComesModel", "word", "J", false)
  | 14 => ("NumberComesModel", "text0", "I", false)
  | 15 => ("NumberComesModel", "clauses", "I", false)
  | 16 => ("NumberComesModel", "written", "I", false)
  | 17 => ("NumberComesModel", "came", "I", false)
  | 18 => ("NumberComesModel", "pile", "[I", true)
  | 19 => ("NumberComesModel", "piled", "I", false)
  | 20 => ("NumberComesModel", "opens", "I", false)
  | 21 => ("NumberComesModel", "isWhole", "Z", false)
  | 22 => ("NumberComesModel", "sort0", "I", false)
  | 23 => ("NumberComesModel", "isOnce", "Z", false)
  | 24 => ("NumberComesModel", "named", "[I", true)
  | 25 => ("NumberComesModel", "values", "[J", true)
  | 26 => ("NumberComesModel", "truth", "[Z", true)
  | 27 => ("NumberComesModel", "numbers", "[I", true)
  | 28 => ("NumberComesModel", "firsts", "[I", true)
  | 29 => ("NumberComesModel", "closed", "[Z", true)
  | 30 => ("NumberComesModel", "dueThen", "[Z", true)
  | 31 => ("NumberComesModel", "least", "J", false)
  | 32 => ("NumberComesModel", "step", "J", false)
  | 33 => ("NumberComesModel", "counted", "[I", true)
  | 34 => ("NumberComesModel", "own", "[J", true)
  | 35 => ("NumberComesModel", "any", "[J", true)
  | 36 => ("NumberComesModel", "taker", "[I", true)
  | 37 => ("NumberComesModel", "gift", "[I", true)
  | 38 => ("NumberComesModel", "bestGift", "[I", true)
  | 39 => ("NumberComesModel", "seen", "[Z", true)
  | 40 => ("NumberComesModel", "tried", "[I", true)
  | 41 => ("NumberComesModel", "member", "[I", true)
  | 42 => ("NumberComesModel", "shared", "[I", true)
  | 43 => ("NumberComesModel", "bestOf", "[J", true)
  | 44 => ("NumberComesModel", "partner", "[I", true)
  | _ => ("NumberComesModel", "twos", "[J", true)
def tyX2 : Nat → FieldType := fun k => match k with
  | 0 => .array .int
  | 1 => .array .int
  | 2 => .array .long
  | 3 => .array .long
  | 4 => .array .int
  | 5 => .array .int
  | 6 => .int
  | 7 => .int
  | 8 => .int
  | 9 => .int
  | 10 => .int
  | 11 => .int
  | 12 => .int
  | 13 => .long
  | 14 => .int
  | 15 => .int
  | 16 => .int
  | 17 => .int
  | 18 => .array .int
  | 19 => .int
  | 20 => .int
  | 21 => .boolean
  | 22 => .int
  | 23 => .boolean
  | 24 => .array .int
  | 25 => .array .long
  | 26 => .array .boolean
  | 27 => .array .int
  | 28 => .array .int
  | 29 => .array .boolean
  | 30 => .array .boolean
  | 31 => .long
  | 32 => .long
  | 33 => .array .int
  | 34 => .array .long
  | 35 => .array .long
  | 36 => .array .int
  | 37 => .array .int
  | 38 => .array .int
  | 39 => .array .boolean
  | 40 => .array .int
  | 41 => .array .int
  | 42 => .array .int
  | 43 => .array .long
  | 44 => .array .int
  | _ => .array .long
abbrev wsX20 : List Cond := u_ws RX2 TX2 46
set_option maxRecDepth 100000 in
theorem nmX2 : ∀ a, a < 46 → ∀ b, b < 46 → a ≠ b → (TX2 a).2.1 ≠ (TX2 b).2.1 := by decide +kernel
set_option maxRecDepth 100000 in
theorem tyX2_ok : ∀ k, k < 46 → parseFieldDescriptor (TX2 k).2.2.1 = some (tyX2 k) := by decide +kernel
abbrev cX2_init : ByteArray := prog_17_method_1_code
def yX2_init : MethodName := ⟨RX2, "<init>", "()V"⟩
def dkwX2_init_11 : List UInt8 := [180, 0, 7, 42, 180, 0, 13, 184, 0, 100, 177]
abbrev dktX2_init_11 : List UInt8 := dkwX2_init_11 ++ []
def dkwX2_init_10 : List UInt8 := [17, 0, 144, 188, 11, 181, 0, 97, 42, 180, 0, 7, 5, 16, 24, 79, 42, 180, 0, 7, 7, 2, 79, 42]
abbrev dktX2_init_10 : List UInt8 := dkwX2_init_10 ++ dktX2_init_11
def dkwX2_init_9 : List UInt8 := [181, 0, 88, 42, 17, 16, 0, 188, 11, 181, 0, 91, 42, 17, 16, 0, 188, 10, 181, 0, 94, 42]
abbrev dktX2_init_9 : List UInt8 := dkwX2_init_9 ++ dktX2_init_10
def dkwX2_init_8 : List UInt8 := [181, 0, 79, 42, 8, 188, 10, 181, 0, 82, 42, 8, 188, 10, 181, 0, 85, 42, 16, 25, 188, 10]
abbrev dktX2_init_8 : List UInt8 := dkwX2_init_8 ++ dktX2_init_9
def dkwX2_init_7 : List UInt8 := [181, 0, 70, 42, 6, 188, 10, 181, 0, 73, 42, 6, 188, 10, 181, 0, 76, 42, 17, 16, 0, 188, 4]
abbrev dktX2_init_7 : List UInt8 := dkwX2_init_7 ++ dktX2_init_8
def dkwX2_init_6 : List UInt8 := [181, 0, 61, 42, 16, 12, 188, 11, 181, 0, 64, 42, 17, 16, 0, 188, 11, 181, 0, 67, 42, 6, 188, 10]
abbrev dktX2_init_6 : List UInt8 := dkwX2_init_6 ++ dktX2_init_7
def dkwX2_init_5 : List UInt8 := [42, 17, 2, 208, 188, 4, 181, 0, 55, 42, 17, 46, 212, 188, 4, 181, 0, 58, 42, 16, 12, 188, 10]
abbrev dktX2_init_5 : List UInt8 := dkwX2_init_5 ++ dktX2_init_6
def dkwX2_init_4 : List UInt8 := [17, 1, 74, 188, 4, 181, 0, 45, 42, 16, 12, 188, 10, 181, 0, 49, 42, 16, 12, 188, 10, 181, 0, 52]
abbrev dktX2_init_4 : List UInt8 := dkwX2_init_4 ++ dktX2_init_5
def dkwX2_init_3 : List UInt8 := [188, 10, 181, 0, 36, 42, 16, 7, 188, 10, 181, 0, 39, 42, 17, 1, 74, 188, 11, 181, 0, 42, 42]
abbrev dktX2_init_3 : List UInt8 := dkwX2_init_3 ++ dktX2_init_4
def dkwX2_init_2 : List UInt8 := [42, 17, 1, 44, 188, 10, 181, 0, 26, 42, 2, 181, 0, 29, 42, 2, 181, 0, 33, 42, 17, 0, 160]
abbrev dktX2_init_2 : List UInt8 := dkwX2_init_2 ++ dktX2_init_3
def dkwX2_init_1 : List UInt8 := [16, 30, 188, 11, 181, 0, 16, 42, 16, 30, 188, 11, 181, 0, 20, 42, 17, 10, 240, 188, 10, 181, 0, 23]
abbrev dktX2_init_1 : List UInt8 := dkwX2_init_1 ++ dktX2_init_2
def dkwX2_init_0 : List UInt8 := [42, 183, 0, 1, 42, 17, 1, 6, 188, 10, 181, 0, 7, 42, 17, 1, 6, 188, 10, 181, 0, 13, 42]
abbrev dktX2_init_0 : List UInt8 := dkwX2_init_0 ++ dktX2_init_1
theorem dksX2_init_0 : cX2_init.data.toList.drop 0 = dktX2_init_0 := by decide +kernel
theorem dksX2_init_1 : cX2_init.data.toList.drop 23 = dktX2_init_1 := dk_seg dksX2_init_0 23 rfl rfl
theorem dksX2_init_2 : cX2_init.data.toList.drop 47 = dktX2_init_2 := dk_seg dksX2_init_1 24 rfl rfl
theorem dksX2_init_3 : cX2_init.data.toList.drop 70 = dktX2_init_3 := dk_seg dksX2_init_2 23 rfl rfl
theorem dksX2_init_4 : cX2_init.data.toList.drop 93 = dktX2_init_4 := dk_seg dksX2_init_3 23 rfl rfl
theorem dksX2_init_5 : cX2_init.data.toList.drop 117 = dktX2_init_5 := dk_seg dksX2_init_4 24 rfl rfl
theorem dksX2_init_6 : cX2_init.data.toList.drop 140 = dktX2_init_6 := dk_seg dksX2_init_5 23 rfl rfl
theorem dksX2_init_7 : cX2_init.data.toList.drop 164 = dktX2_init_7 := dk_seg dksX2_init_6 24 rfl rfl
theorem dksX2_init_8 : cX2_init.data.toList.drop 187 = dktX2_init_8 := dk_seg dksX2_init_7 23 rfl rfl
theorem dksX2_init_9 : cX2_init.data.toList.drop 209 = dktX2_init_9 := dk_seg dksX2_init_8 22 rfl rfl
theorem dksX2_init_10 : cX2_init.data.toList.drop 231 = dktX2_init_10 := dk_seg dksX2_init_9 22 rfl rfl
theorem dksX2_init_11 : cX2_init.data.toList.drop 255 = dktX2_init_11 := dk_seg dksX2_init_10 24 rfl rfl
theorem dX2_init_0 : decode cX2_init 0 = .ok (.aload_n 0, 1) := dk_42 (dk_at dksX2_init_0 0 rfl rfl)
theorem dX2_init_1 : decode cX2_init 1 = .ok (.invokespecial 1, 3) := dk_183 0 1 (dk_at dksX2_init_0 1 rfl rfl)
theorem dX2_init_4 : decode cX2_init 4 = .ok (.aload_n 0, 1) := dk_42 (dk_at dksX2_init_0 4 rfl rfl)
theorem dX2_init_5 : decode cX2_init 5 = .ok (.sipush 262, 3) := dk_17 1 6 (dk_at dksX2_init_0 5 rfl rfl)
theorem dX2_init_8 : decode cX2_init 8 = .ok (.newarray .int, 2) := dk_188_10 (dk_at dksX2_init_0 8 rfl rfl)
theorem dX2_init_10 : decode cX2_init 10 = .ok (.putfield 7, 3) := dk_181 0 7 (dk_at dksX2_init_0 10 rfl rfl)
theorem dX2_init_13 : decode cX2_init 13 = .ok (.aload_n 0, 1) := dk_42 (dk_at dksX2_init_0 13 rfl rfl)
theorem dX2_init_14 : decode cX2_init 14 = .ok (.sipush 262, 3) := dk_17 1 6 (dk_at dksX2_init_0 14 rfl rfl)
theorem dX2_init_17 : decode cX2_init 17 = .ok (.newarray .int, 2) := dk_188_10 (dk_at dksX2_init_0 17 rfl rfl)
theorem dX2_init_19 : decode cX2_init 19 = .ok (.putfield 13, 3) := dk_181 0 13 (dk_at dksX2_init_0 19 rfl rfl)
theorem dX2_init_22 : decode cX2_init 22 = .ok (.aload_n 0, 1) := dk_42 (dk_at dksX2_init_0 22 rfl rfl)
theorem dX2_init_23 : decode cX2_init 23 = .ok (.bipush 30, 2) := dk_16 30 (dk_at dksX2_init_1 0 rfl rfl)
theorem dX2_init_25 : decode cX2_init 25 = .ok (.newarray .long, 2) := dk_188_11 (dk_at dksX2_init_1 2 rfl rfl)
theorem dX2_init_27 : decode cX2_init 27 = .ok (.putfield 16, 3) := dk_181 0 16 (dk_at dksX2_init_1 4 rfl rfl)
theorem dX2_init_30 : decode cX2_init 30 = .ok (.aload_n 0, 1) := dk_42 (dk_at dksX2_init_1 7 rfl rfl)
theorem dX2_init_31 : decode cX2_init 31 = .ok (.bipush 30, 2) := dk_16 30 (dk_at dksX2_init_1 8 rfl rfl)
theorem dX2_init_33 : decode cX2_init 33 = .ok (.newarray .long, 2) := dk_188_11 (dk_at dksX2_init_1 10 rfl rfl)
theorem dX2_init_35 : decode cX2_init 35 = .ok (.putfield 20, 3) := dk_181 0 20 (dk_at dksX2_init_1 12 rfl rfl)
theorem dX2_init_38 : decode cX2_init 38 = .ok (.aload_n 0, 1) := dk_42 (dk_at dksX2_init_1 15 rfl rfl)
theorem dX2_init_39 : decode cX2_init 39 = .ok (.sipush 2800, 3) := dk_17 10 240 (dk_at dksX2_init_1 16 rfl rfl)
theorem dX2_init_42 : decode cX2_init 42 = .ok (.newarray .int, 2) := dk_188_10 (dk_at dksX2_init_1 19 rfl rfl)
theorem dX2_init_44 : decode cX2_init 44 = .ok (.putfield 23, 3) := dk_181 0 23 (dk_at dksX2_init_1 21 rfl rfl)
theorem dX2_init_47 : decode cX2_init 47 = .ok (.aload_n 0, 1) := dk_42 (dk_at dksX2_init_2 0 rfl rfl)
theorem dX2_init_48 : decode cX2_init 48 = .ok (.sipush 300, 3) := dk_17 1 44 (dk_at dksX2_init_2 1 rfl rfl)
theorem dX2_init_51 : decode cX2_init 51 = .ok (.newarray .int, 2) := dk_188_10 (dk_at dksX2_init_2 4 rfl rfl)
theorem dX2_init_53 : decode cX2_init 53 = .ok (.putfield 26, 3) := dk_181 0 26 (dk_at dksX2_init_2 6 rfl rfl)
theorem dX2_init_56 : decode cX2_init 56 = .ok (.aload_n 0, 1) := dk_42 (dk_at dksX2_init_2 9 rfl rfl)
theorem dX2_init_57 : decode cX2_init 57 = .ok (.iconst (-1), 1) := dk_2 (dk_at dksX2_init_2 10 rfl rfl)
theorem dX2_init_58 : decode cX2_init 58 = .ok (.putfield 29, 3) := dk_181 0 29 (dk_at dksX2_init_2 11 rfl rfl)
theorem dX2_init_61 : decode cX2_init 61 = .ok (.aload_n 0, 1) := dk_42 (dk_at dksX2_init_2 14 rfl rfl)
theorem dX2_init_62 : decode cX2_init 62 = .ok (.iconst (-1), 1) := dk_2 (dk_at dksX2_init_2 15 rfl rfl)
theorem dX2_init_63 : decode cX2_init 63 = .ok (.putfield 33, 3) := dk_181 0 33 (dk_at dksX2_init_2 16 rfl rfl)
theorem dX2_init_66 : decode cX2_init 66 = .ok (.aload_n 0, 1) := dk_42 (dk_at dksX2_init_2 19 rfl rfl)
theorem dX2_init_67 : decode cX2_init 67 = .ok (.sipush 160, 3) := dk_17 0 160 (dk_at dksX2_init_2 20 rfl rfl)
theorem dX2_init_70 : decode cX2_init 70 = .ok (.newarray .int, 2) := dk_188_10 (dk_at dksX2_init_3 0 rfl rfl)
theorem dX2_init_72 : decode cX2_init 72 = .ok (.putfield 36, 3) := dk_181 0 36 (dk_at dksX2_init_3 2 rfl rfl)
theorem dX2_init_75 : decode cX2_init 75 = .ok (.aload_n 0, 1) := dk_42 (dk_at dksX2_init_3 5 rfl rfl)
theorem dX2_init_76 : decode cX2_init 76 = .ok (.bipush 7, 2) := dk_16 7 (dk_at dksX2_init_3 6 rfl rfl)
theorem dX2_init_78 : decode cX2_init 78 = .ok (.newarray .int, 2) := dk_188_10 (dk_at dksX2_init_3 8 rfl rfl)
theorem dX2_init_80 : decode cX2_init 80 = .ok (.putfield 39, 3) := dk_181 0 39 (dk_at dksX2_init_3 10 rfl rfl)
theorem dX2_init_83 : decode cX2_init 83 = .ok (.aload_n 0, 1) := dk_42 (dk_at dksX2_init_3 13 rfl rfl)
theorem dX2_init_84 : decode cX2_init 84 = .ok (.sipush 330, 3) := dk_17 1 74 (dk_at dksX2_init_3 14 rfl rfl)
theorem dX2_init_87 : decode cX2_init 87 = .ok (.newarray .long, 2) := dk_188_11 (dk_at dksX2_init_3 17 rfl rfl)
theorem dX2_init_89 : decode cX2_init 89 = .ok (.putfield 42, 3) := dk_181 0 42 (dk_at dksX2_init_3 19 rfl rfl)
theorem dX2_init_92 : decode cX2_init 92 = .ok (.aload_n 0, 1) := dk_42 (dk_at dksX2_init_3 22 rfl rfl)
theorem dX2_init_93 : decode cX2_init 93 = .ok (.sipush 330, 3) := dk_17 1 74 (dk_at dksX2_init_4 0 rfl rfl)
theorem dX2_init_96 : decode cX2_init 96 = .ok (.newarray .boolean, 2) := dk_188_4 (dk_at dksX2_init_4 3 rfl rfl)
theorem dX2_init_98 : decode cX2_init 98 = .ok (.putfield 45, 3) := dk_181 0 45 (dk_at dksX2_init_4 5 rfl rfl)
theorem dX2_init_101 : decode cX2_init 101 = .ok (.aload_n 0, 1) := dk_42 (dk_at dksX2_init_4 8 rfl rfl)
theorem dX2_init_102 : decode cX2_init 102 = .ok (.bipush 12, 2) := dk_16 12 (dk_at dksX2_init_4 9 rfl rfl)
theorem dX2_init_104 : decode cX2_init 104 = .ok (.newarray .int, 2) := dk_188_10 (dk_at dksX2_init_4 11 rfl rfl)
theorem dX2_init_106 : decode cX2_init 106 = .ok (.putfield 49, 3) := dk_181 0 49 (dk_at dksX2_init_4 13 rfl rfl)
theorem dX2_init_109 : decode cX2_init 109 = .ok (.aload_n 0, 1) := dk_42 (dk_at dksX2_init_4 16 rfl rfl)
theorem dX2_init_110 : decode cX2_init 110 = .ok (.bipush 12, 2) := dk_16 12 (dk_at dksX2_init_4 17 rfl rfl)
theorem dX2_init_112 : decode cX2_init 112 = .ok (.newarray .int, 2) := dk_188_10 (dk_at dksX2_init_4 19 rfl rfl)
theorem dX2_init_114 : decode cX2_init 114 = .ok (.putfield 52, 3) := dk_181 0 52 (dk_at dksX2_init_4 21 rfl rfl)
theorem dX2_init_117 : decode cX2_init 117 = .ok (.aload_n 0, 1) := dk_42 (dk_at dksX2_init_5 0 rfl rfl)
theorem dX2_init_118 : decode cX2_init 118 = .ok (.sipush 720, 3) := dk_17 2 208 (dk_at dksX2_init_5 1 rfl rfl)
theorem dX2_init_121 : decode cX2_init 121 = .ok (.newarray .boolean, 2) := dk_188_4 (dk_at dksX2_init_5 4 rfl rfl)
theorem dX2_init_123 : decode cX2_init 123 = .ok (.putfield 55, 3) := dk_181 0 55 (dk_at dksX2_init_5 6 rfl rfl)
theorem dX2_init_126 : decode cX2_init 126 = .ok (.aload_n 0, 1) := dk_42 (dk_at dksX2_init_5 9 rfl rfl)
theorem dX2_init_127 : decode cX2_init 127 = .ok (.sipush 11988, 3) := dk_17 46 212 (dk_at dksX2_init_5 10 rfl rfl)
theorem dX2_init_130 : decode cX2_init 130 = .ok (.newarray .boolean, 2) := dk_188_4 (dk_at dksX2_init_5 13 rfl rfl)
theorem dX2_init_132 : decode cX2_init 132 = .ok (.putfield 58, 3) := dk_181 0 58 (dk_at dksX2_init_5 15 rfl rfl)
theorem dX2_init_135 : decode cX2_init 135 = .ok (.aload_n 0, 1) := dk_42 (dk_at dksX2_init_5 18 rfl rfl)
theorem dX2_init_136 : decode cX2_init 136 = .ok (.bipush 12, 2) := dk_16 12 (dk_at dksX2_init_5 19 rfl rfl)
theorem dX2_init_138 : decode cX2_init 138 = .ok (.newarray .int, 2) := dk_188_10 (dk_at dksX2_init_5 21 rfl rfl)
theorem dX2_init_140 : decode cX2_init 140 = .ok (.putfield 61, 3) := dk_181 0 61 (dk_at dksX2_init_6 0 rfl rfl)
theorem dX2_init_143 : decode cX2_init 143 = .ok (.aload_n 0, 1) := dk_42 (dk_at dksX2_init_6 3 rfl rfl)
theorem dX2_init_144 : decode cX2_init 144 = .ok (.bipush 12, 2) := dk_16 12 (dk_at dksX2_init_6 4 rfl rfl)
theorem dX2_init_146 : decode cX2_init 146 = .ok (.newarray .long, 2) := dk_188_11 (dk_at dksX2_init_6 6 rfl rfl)
theorem dX2_init_148 : decode cX2_init 148 = .ok (.putfield 64, 3) := dk_181 0 64 (dk_at dksX2_init_6 8 rfl rfl)
theorem dX2_init_151 : decode cX2_init 151 = .ok (.aload_n 0, 1) := dk_42 (dk_at dksX2_init_6 11 rfl rfl)
theorem dX2_init_152 : decode cX2_init 152 = .ok (.sipush 4096, 3) := dk_17 16 0 (dk_at dksX2_init_6 12 rfl rfl)
theorem dX2_init_155 : decode cX2_init 155 = .ok (.newarray .long, 2) := dk_188_11 (dk_at dksX2_init_6 15 rfl rfl)
theorem dX2_init_157 : decode cX2_init 157 = .ok (.putfield 67, 3) := dk_181 0 67 (dk_at dksX2_init_6 17 rfl rfl)
theorem dX2_init_160 : decode cX2_init 160 = .ok (.aload_n 0, 1) := dk_42 (dk_at dksX2_init_6 20 rfl rfl)
theorem dX2_init_161 : decode cX2_init 161 = .ok (.iconst 3, 1) := dk_6 (dk_at dksX2_init_6 21 rfl rfl)
theorem dX2_init_162 : decode cX2_init 162 = .ok (.newarray .int, 2) := dk_188_10 (dk_at dksX2_init_6 22 rfl rfl)
theorem dX2_init_164 : decode cX2_init 164 = .ok (.putfield 70, 3) := dk_181 0 70 (dk_at dksX2_init_7 0 rfl rfl)
theorem dX2_init_167 : decode cX2_init 167 = .ok (.aload_n 0, 1) := dk_42 (dk_at dksX2_init_7 3 rfl rfl)
theorem dX2_init_168 : decode cX2_init 168 = .ok (.iconst 3, 1) := dk_6 (dk_at dksX2_init_7 4 rfl rfl)
theorem dX2_init_169 : decode cX2_init 169 = .ok (.newarray .int, 2) := dk_188_10 (dk_at dksX2_init_7 5 rfl rfl)
theorem dX2_init_171 : decode cX2_init 171 = .ok (.putfield 73, 3) := dk_181 0 73 (dk_at dksX2_init_7 7 rfl rfl)
theorem dX2_init_174 : decode cX2_init 174 = .ok (.aload_n 0, 1) := dk_42 (dk_at dksX2_init_7 10 rfl rfl)
theorem dX2_init_175 : decode cX2_init 175 = .ok (.iconst 3, 1) := dk_6 (dk_at dksX2_init_7 11 rfl rfl)
theorem dX2_init_176 : decode cX2_init 176 = .ok (.newarray .int, 2) := dk_188_10 (dk_at dksX2_init_7 12 rfl rfl)
theorem dX2_init_178 : decode cX2_init 178 = .ok (.putfield 76, 3) := dk_181 0 76 (dk_at dksX2_init_7 14 rfl rfl)
theorem dX2_init_181 : decode cX2_init 181 = .ok (.aload_n 0, 1) := dk_42 (dk_at dksX2_init_7 17 rfl rfl)
theorem dX2_init_182 : decode cX2_init 182 = .ok (.sipush 4096, 3) := dk_17 16 0 (dk_at dksX2_init_7 18 rfl rfl)
theorem dX2_init_185 : decode cX2_init 185 = .ok (.newarray .boolean, 2) := dk_188_4 (dk_at dksX2_init_7 21 rfl rfl)
theorem dX2_init_187 : decode cX2_init 187 = .ok (.putfield 79, 3) := dk_181 0 79 (dk_at dksX2_init_8 0 rfl rfl)
theorem dX2_init_190 : decode cX2_init 190 = .ok (.aload_n 0, 1) := dk_42 (dk_at dksX2_init_8 3 rfl rfl)
theorem dX2_init_191 : decode cX2_init 191 = .ok (.iconst 5, 1) := dk_8 (dk_at dksX2_init_8 4 rfl rfl)
theorem dX2_init_192 : decode cX2_init 192 = .ok (.newarray .int, 2) := dk_188_10 (dk_at dksX2_init_8 5 rfl rfl)
theorem dX2_init_194 : decode cX2_init 194 = .ok (.putfield 82, 3) := dk_181 0 82 (dk_at dksX2_init_8 7 rfl rfl)
theorem dX2_init_197 : decode cX2_init 197 = .ok (.aload_n 0, 1) := dk_42 (dk_at dksX2_init_8 10 rfl rfl)
theorem dX2_init_198 : decode cX2_init 198 = .ok (.iconst 5, 1) := dk_8 (dk_at dksX2_init_8 11 rfl rfl)
theorem dX2_init_199 : decode cX2_init 199 = .ok (.newarray .int, 2) := dk_188_10 (dk_at dksX2_init_8 12 rfl rfl)
theorem dX2_init_201 : decode cX2_init 201 = .ok (.putfield 85, 3) := dk_181 0 85 (dk_at dksX2_init_8 14 rfl rfl)
theorem dX2_init_204 : decode cX2_init 204 = .ok (.aload_n 0, 1) := dk_42 (dk_at dksX2_init_8 17 rfl rfl)
theorem dX2_init_205 : decode cX2_init 205 = .ok (.bipush 25, 2) := dk_16 25 (dk_at dksX2_init_8 18 rfl rfl)
theorem dX2_init_207 : decode cX2_init 207 = .ok (.newarray .int, 2) := dk_188_10 (dk_at dksX2_init_8 20 rfl rfl)
theorem dX2_init_209 : decode cX2_init 209 = .ok (.putfield 88, 3) := dk_181 0 88 (dk_at dksX2_init_9 0 rfl rfl)
theorem dX2_init_212 : decode cX2_init 212 = .ok (.aload_n 0, 1) := dk_42 (dk_at dksX2_init_9 3 rfl rfl)
theorem dX2_init_213 : decode cX2_init 213 = .ok (.sipush 4096, 3) := dk_17 16 0 (dk_at dksX2_init_9 4 rfl rfl)
theorem dX2_init_216 : decode cX2_init 216 = .ok (.newarray .long, 2) := dk_188_11 (dk_at dksX2_init_9 7 rfl rfl)
theorem dX2_init_218 : decode cX2_init 218 = .ok (.putfield 91, 3) := dk_181 0 91 (dk_at dksX2_init_9 9 rfl rfl)
theorem dX2_init_221 : decode cX2_init 221 = .ok (.aload_n 0, 1) := dk_42 (dk_at dksX2_init_9 12 rfl rfl)
theorem dX2_init_222 : decode cX2_init 222 = .ok (.sipush 4096, 3) := dk_17 16 0 (dk_at dksX2_init_9 13 rfl rfl)
theorem dX2_init_225 : decode cX2_init 225 = .ok (.newarray .int, 2) := dk_188_10 (dk_at dksX2_init_9 16 rfl rfl)
theorem dX2_init_227 : decode cX2_init 227 = .ok (.putfield 94, 3) := dk_181 0 94 (dk_at dksX2_init_9 18 rfl rfl)
theorem dX2_init_230 : decode cX2_init 230 = .ok (.aload_n 0, 1) := dk_42 (dk_at dksX2_init_9 21 rfl rfl)
theorem dX2_init_231 : decode cX2_init 231 = .ok (.sipush 144, 3) := dk_17 0 144 (dk_at dksX2_init_10 0 rfl rfl)
theorem dX2_init_234 : decode cX2_init 234 = .ok (.newarray .long, 2) := dk_188_11 (dk_at dksX2_init_10 3 rfl rfl)
theorem dX2_init_236 : decode cX2_init 236 = .ok (.putfield 97, 3) := dk_181 0 97 (dk_at dksX2_init_10 5 rfl rfl)
theorem dX2_init_239 : decode cX2_init 239 = .ok (.aload_n 0, 1) := dk_42 (dk_at dksX2_init_10 8 rfl rfl)
theorem dX2_init_240 : decode cX2_init 240 = .ok (.getfield 7, 3) := dk_180 0 7 (dk_at dksX2_init_10 9 rfl rfl)
theorem dX2_init_243 : decode cX2_init 243 = .ok (.iconst 2, 1) := dk_5 (dk_at dksX2_init_10 12 rfl rfl)
theorem dX2_init_244 : decode cX2_init 244 = .ok (.bipush 24, 2) := dk_16 24 (dk_at dksX2_init_10 13 rfl rfl)
theorem dX2_init_246 : decode cX2_init 246 = .ok (.iastore, 1) := dk_79 (dk_at dksX2_init_10 15 rfl rfl)
theorem dX2_init_247 : decode cX2_init 247 = .ok (.aload_n 0, 1) := dk_42 (dk_at dksX2_init_10 16 rfl rfl)
theorem dX2_init_248 : decode cX2_init 248 = .ok (.getfield 7, 3) := dk_180 0 7 (dk_at dksX2_init_10 17 rfl rfl)
theorem dX2_init_251 : decode cX2_init 251 = .ok (.iconst 4, 1) := dk_7 (dk_at dksX2_init_10 20 rfl rfl)
theorem dX2_init_252 : decode cX2_init 252 = .ok (.iconst (-1), 1) := dk_2 (dk_at dksX2_init_10 21 rfl rfl)
theorem dX2_init_253 : decode cX2_init 253 = .ok (.iastore, 1) := dk_79 (dk_at dksX2_init_10 22 rfl rfl)
theorem dX2_init_254 : decode cX2_init 254 = .ok (.aload_n 0, 1) := dk_42 (dk_at dksX2_init_10 23 rfl rfl)
theorem dX2_init_255 : decode cX2_init 255 = .ok (.getfield 7, 3) := dk_180 0 7 (dk_at dksX2_init_11 0 rfl rfl)
theorem dX2_init_258 : decode cX2_init 258 = .ok (.aload_n 0, 1) := dk_42 (dk_at dksX2_init_11 3 rfl rfl)
theorem dX2_init_259 : decode cX2_init 259 = .ok (.getfield 13, 3) := dk_180 0 13 (dk_at dksX2_init_11 4 rfl rfl)
theorem dX2_init_262 : decode cX2_init 262 = .ok (.invokestatic 100, 3) := dk_184 0 100 (dk_at dksX2_init_11 7 rfl rfl)
theorem dX2_init_265 : decode cX2_init 265 = .ok (.return_, 1) := dk_177 (dk_at dksX2_init_11 10 rfl rfl)
abbrev cX2_copy : ByteArray := prog_17_method_2_code
def yX2_copy : MethodName := ⟨RX2, "copy", "([I[I)V"⟩
def dkwX2_copy_0 : List UInt8 := [3, 61, 28, 17, 1, 6, 162, 0, 15, 43, 28, 42, 28, 46, 79, 132, 2, 1, 167, 255, 240, 177]
abbrev dktX2_copy_0 : List UInt8 := dkwX2_copy_0 ++ []
theorem dksX2_copy_0 : cX2_copy.data.toList.drop 0 = dktX2_copy_0 := by decide +kernel
theorem dX2_copy_0 : decode cX2_copy 0 = .ok (.iconst 0, 1) := dk_3 (dk_at dksX2_copy_0 0 rfl rfl)
theorem dX2_copy_1 : decode cX2_copy 1 = .ok (.istore_n 2, 1) := dk_61 (dk_at dksX2_copy_0 1 rfl rfl)
theorem dX2_copy_2 : decode cX2_copy 2 = .ok (.iload_n 2, 1) := dk_28 (dk_at dksX2_copy_0 2 rfl rfl)
theorem dX2_copy_3 : decode cX2_copy 3 = .ok (.sipush 262, 3) := dk_17 1 6 (dk_at dksX2_copy_0 3 rfl rfl)
theorem dX2_copy_6 : decode cX2_copy 6 = .ok (.if_icmp .ge 15, 3) := dk_162 0 15 (dk_at dksX2_copy_0 6 rfl rfl)
theorem dX2_copy_9 : decode cX2_copy 9 = .ok (.aload_n 1, 1) := dk_43 (dk_at dksX2_copy_0 9 rfl rfl)
theorem dX2_copy_10 : decode cX2_copy 10 = .ok (.iload_n 2, 1) := dk_28 (dk_at dksX2_copy_0 10 rfl rfl)
theorem dX2_copy_11 : decode cX2_copy 11 = .ok (.aload_n 0, 1) := dk_42 (dk_at dksX2_copy_0 11 rfl rfl)
theorem dX2_copy_12 : decode cX2_copy 12 = .ok (.iload_n 2, 1) := dk_28 (dk_at dksX2_copy_0 12 rfl rfl)
theorem dX2_copy_13 : decode cX2_copy 13 = .ok (.iaload, 1) := dk_46 (dk_at dksX2_copy_0 13 rfl rfl)
theorem dX2_copy_14 : decode cX2_copy 14 = .ok (.iastore, 1) := dk_79 (dk_at dksX2_copy_0 14 rfl rfl)
theorem dX2_copy_15 : decode cX2_copy 15 = .ok (.iinc 2 1, 3) := dk_132 2 1 (dk_at dksX2_copy_0 15 rfl rfl)
theorem dX2_copy_18 : decode cX2_copy 18 = .ok (.goto (-16), 3) := dk_167 255 240 (dk_at dksX2_copy_0 18 rfl rfl)
theorem dX2_copy_21 : decode cX2_copy 21 = .ok (.return_, 1) := dk_177 (dk_at dksX2_copy_0 21 rfl rfl)
abbrev cX2_person : ByteArray := prog_17_method_9_code
def yX2_person : MethodName := ⟨RX2, "person", "(II)I"⟩
def dkwX2_person_3 : List UInt8 := [180, 0, 7, 3, 46, 4, 100, 172]
abbrev dktX2_person_3 : List UInt8 := dkwX2_person_3 ++ []
def dkwX2_person_2 : List UInt8 := [180, 0, 7, 3, 46, 104, 96, 4, 96, 28, 79, 42, 180, 0, 7, 3, 92, 46, 4, 96, 79, 42]
abbrev dktX2_person_2 : List UInt8 := dkwX2_person_2 ++ dktX2_person_3
def dkwX2_person_1 : List UInt8 := [180, 0, 7, 16, 10, 5, 42, 180, 0, 7, 3, 46, 104, 96, 27, 79, 42, 180, 0, 7, 16, 10, 5, 42]
abbrev dktX2_person_1 : List UInt8 := dkwX2_person_1 ++ dktX2_person_2
def dkwX2_person_0 : List UInt8 := [27, 28, 184, 0, 110, 153, 0, 14, 42, 180, 0, 7, 3, 46, 16, 12, 160, 0, 5, 2, 172, 42]
abbrev dktX2_person_0 : List UInt8 := dkwX2_person_0 ++ dktX2_person_1
theorem dksX2_person_0 : cX2_person.data.toList.drop 0 = dktX2_person_0 := by decide +kernel
theorem dksX2_person_1 : cX2_person.data.toList.drop 22 = dktX2_person_1 := dk_seg dksX2_person_0 22 rfl rfl
theorem dksX2_person_2 : cX2_person.data.toList.drop 46 = dktX2_person_2 := dk_seg dksX2_person_1 24 rfl rfl
theorem dksX2_person_3 : cX2_person.data.toList.drop 68 = dktX2_person_3 := dk_seg dksX2_person_2 22 rfl rfl
theorem dX2_person_0 : decode cX2_person 0 = .ok (.iload_n 1, 1) := dk_27 (dk_at dksX2_person_0 0 rfl rfl)
theorem dX2_person_1 : decode cX2_person 1 = .ok (.iload_n 2, 1) := dk_28 (dk_at dksX2_person_0 1 rfl rfl)
theorem dX2_person_2 : decode cX2_person 2 = .ok (.invokestatic 110, 3) := dk_184 0 110 (dk_at dksX2_person_0 2 rfl rfl)
theorem dX2_person_5 : decode cX2_person 5 = .ok (.ifCond .eq 14, 3) := dk_153 0 14 (dk_at dksX2_person_0 5 rfl rfl)
theorem dX2_person_8 : decode cX2_person 8 = .ok (.aload_n 0, 1) := dk_42 (dk_at dksX2_person_0 8 rfl rfl)
theorem dX2_person_9 : decode cX2_person 9 = .ok (.getfield 7, 3) := dk_180 0 7 (dk_at dksX2_person_0 9 rfl rfl)
theorem dX2_person_12 : decode cX2_person 12 = .ok (.iconst 0, 1) := dk_3 (dk_at dksX2_person_0 12 rfl rfl)
theorem dX2_person_13 : decode cX2_person 13 = .ok (.iaload, 1) := dk_46 (dk_at dksX2_person_0 13 rfl rfl)
theorem dX2_person_14 : decode cX2_person 14 = .ok (.bipush 12, 2) := dk_16 12 (dk_at dksX2_person_0 14 rfl rfl)
theorem dX2_person_16 : decode cX2_person 16 = .ok (.if_icmp .ne 5, 3) := dk_160 0 5 (dk_at dksX2_person_0 16 rfl rfl)
theorem dX2_person_19 : decode cX2_person 19 = .ok (.iconst (-1), 1) := dk_2 (dk_at dksX2_person_0 19 rfl rfl)
theorem dX2_person_20 : decode cX2_person 20 = .ok (.ireturn, 1) := dk_172 (dk_at dksX2_person_0 20 rfl rfl)
theorem dX2_person_21 : decode cX2_person 21 = .ok (.aload_n 0, 1) := dk_42 (dk_at dksX2_person_0 21 rfl rfl)
theorem dX2_person_22 : decode cX2_person 22 = .ok (.getfield 7, 3) := dk_180 0 7 (dk_at dksX2_person_1 0 rfl rfl)
theorem dX2_person_25 : decode cX2_person 25 = .ok (.bipush 10, 2) := dk_16 10 (dk_at dksX2_person_1 3 rfl rfl)
theorem dX2_person_27 : decode cX2_person 27 = .ok (.iconst 2, 1) := dk_5 (dk_at dksX2_person_1 5 rfl rfl)
theorem dX2_person_28 : decode cX2_person 28 = .ok (.aload_n 0, 1) := dk_42 (dk_at dksX2_person_1 6 rfl rfl)
theorem dX2_person_29 : decode cX2_person 29 = .ok (.getfield 7, 3) := dk_180 0 7 (dk_at dksX2_person_1 7 rfl rfl)
theorem dX2_person_32 : decode cX2_person 32 = .ok (.iconst 0, 1) := dk_3 (dk_at dksX2_person_1 10 rfl rfl)
theorem dX2_person_33 : decode cX2_person 33 = .ok (.iaload, 1) := dk_46 (dk_at dksX2_person_1 11 rfl rfl)
theorem dX2_person_34 : decode cX2_person 34 = .ok (.imul, 1) := dk_104 (dk_at dksX2_person_1 12 rfl rfl)
theorem dX2_person_35 : decode cX2_person 35 = .ok (.iadd, 1) := dk_96 (dk_at dksX2_person_1 13 rfl rfl)
theorem dX2_person_36 : decode cX2_person 36 = .ok (.iload_n 1, 1) := dk_27 (dk_at dksX2_person_1 14 rfl rfl)
theorem dX2_person_37 : decode cX2_person 37 = .ok (.iastore, 1) := dk_79 (dk_at dksX2_person_1 15 rfl rfl)
theorem dX2_person_38 : decode cX2_person 38 = .ok (.aload_n 0, 1) := dk_42 (dk_at dksX2_person_1 16 rfl rfl)
theorem dX2_person_39 : decode cX2_person 39 = .ok (.getfield 7, 3) := dk_180 0 7 (dk_at dksX2_person_1 17 rfl rfl)
theorem dX2_person_42 : decode cX2_person 42 = .ok (.bipush 10, 2) := dk_16 10 (dk_at dksX2_person_1 20 rfl rfl)
theorem dX2_person_44 : decode cX2_person 44 = .ok (.iconst 2, 1) := dk_5 (dk_at dksX2_person_1 22 rfl rfl)
theorem dX2_person_45 : decode cX2_person 45 = .ok (.aload_n 0, 1) := dk_42 (dk_at dksX2_person_1 23 rfl rfl)
theorem dX2_person_46 : decode cX2_person 46 = .ok (.getfield 7, 3) := dk_180 0 7 (dk_at dksX2_person_2 0 rfl rfl)
theorem dX2_person_49 : decode cX2_person 49 = .ok (.iconst 0, 1) := dk_3 (dk_at dksX2_person_2 3 rfl rfl)
theorem dX2_person_50 : decode cX2_person 50 = .ok (.iaload, 1) := dk_46 (dk_at dksX2_person_2 4 rfl rfl)
theorem dX2_person_51 : decode cX2_person 51 = .ok (.imul, 1) := dk_104 (dk_at dksX2_person_2 5 rfl rfl)
theorem dX2_person_52 : decode cX2_person 52 = .ok (.iadd, 1) := dk_96 (dk_at dksX2_person_2 6 rfl rfl)
theorem dX2_person_53 : decode cX2_person 53 = .ok (.iconst 1, 1) := dk_4 (dk_at dksX2_person_2 7 rfl rfl)
theorem dX2_person_54 : decode cX2_person 54 = .ok (.iadd, 1) := dk_96 (dk_at dksX2_person_2 8 rfl rfl)
theorem dX2_person_55 : decode cX2_person 55 = .ok (.iload_n 2, 1) := dk_28 (dk_at dksX2_person_2 9 rfl rfl)
theorem dX2_person_56 : decode cX2_person 56 = .ok (.iastore, 1) := dk_79 (dk_at dksX2_person_2 10 rfl rfl)
theorem dX2_person_57 : decode cX2_person 57 = .ok (.aload_n 0, 1) := dk_42 (dk_at dksX2_person_2 11 rfl rfl)
theorem dX2_person_58 : decode cX2_person 58 = .ok (.getfield 7, 3) := dk_180 0 7 (dk_at dksX2_person_2 12 rfl rfl)
theorem dX2_person_61 : decode cX2_person 61 = .ok (.iconst 0, 1) := dk_3 (dk_at dksX2_person_2 15 rfl rfl)
theorem dX2_person_62 : decode cX2_person 62 = .ok (.dup2, 1) := dk_92 (dk_at dksX2_person_2 16 rfl rfl)
theorem dX2_person_63 : decode cX2_person 63 = .ok (.iaload, 1) := dk_46 (dk_at dksX2_person_2 17 rfl rfl)
theorem dX2_person_64 : decode cX2_person 64 = .ok (.iconst 1, 1) := dk_4 (dk_at dksX2_person_2 18 rfl rfl)
theorem dX2_person_65 : decode cX2_person 65 = .ok (.iadd, 1) := dk_96 (dk_at dksX2_person_2 19 rfl rfl)
theorem dX2_person_66 : decode cX2_person 66 = .ok (.iastore, 1) := dk_79 (dk_at dksX2_person_2 20 rfl rfl)
theorem dX2_person_67 : decode cX2_person 67 = .ok (.aload_n 0, 1) := dk_42 (dk_at dksX2_person_2 21 rfl rfl)
theorem dX2_person_68 : decode cX2_person 68 = .ok (.getfield 7, 3) := dk_180 0 7 (dk_at dksX2_person_3 0 rfl rfl)
theorem dX2_person_71 : decode cX2_person 71 = .ok (.iconst 0, 1) := dk_3 (dk_at dksX2_person_3 3 rfl rfl)
theorem dX2_person_72 : decode cX2_person 72 = .ok (.iaload, 1) := dk_46 (dk_at dksX2_person_3 4 rfl rfl)
theorem dX2_person_73 : decode cX2_person 73 = .ok (.iconst 1, 1) := dk_4 (dk_at dksX2_person_3 5 rfl rfl)
theorem dX2_person_74 : decode cX2_person 74 = .ok (.isub, 1) := dk_100 (dk_at dksX2_person_3 6 rfl rfl)
theorem dX2_person_75 : decode cX2_person 75 = .ok (.ireturn, 1) := dk_172 (dk_at dksX2_person_3 7 rfl rfl)
abbrev cX2_isCaller : ByteArray := prog_17_method_8_code
def yX2_isCaller : MethodName := ⟨RX2, "isCaller", "(II)Z"⟩
def dkwX2_isCaller_1 : List UInt8 := [167, 0, 4, 3, 172]
abbrev dktX2_isCaller_1 : List UInt8 := dkwX2_isCaller_1 ++ []
def dkwX2_isCaller_0 : List UInt8 := [26, 4, 17, 39, 15, 184, 0, 104, 153, 0, 18, 27, 3, 17, 39, 15, 184, 0, 104, 153, 0, 7, 4]
abbrev dktX2_isCaller_0 : List UInt8 := dkwX2_isCaller_0 ++ dktX2_isCaller_1
theorem dksX2_isCaller_0 : cX2_isCaller.data.toList.drop 0 = dktX2_isCaller_0 := by decide +kernel
theorem dksX2_isCaller_1 : cX2_isCaller.data.toList.drop 23 = dktX2_isCaller_1 := dk_seg dksX2_isCaller_0 23 rfl rfl
theorem dX2_isCaller_0 : decode cX2_isCaller 0 = .ok (.iload_n 0, 1) := dk_26 (dk_at dksX2_isCaller_0 0 rfl rfl)
theorem dX2_isCaller_1 : decode cX2_isCaller 1 = .ok (.iconst 1, 1) := dk_4 (dk_at dksX2_isCaller_0 1 rfl rfl)
theorem dX2_isCaller_2 : decode cX2_isCaller 2 = .ok (.sipush 9999, 3) := dk_17 39 15 (dk_at dksX2_isCaller_0 2 rfl rfl)
theorem dX2_isCaller_5 : decode cX2_isCaller 5 = .ok (.invokestatic 104, 3) := dk_184 0 104 (dk_at dksX2_isCaller_0 5 rfl rfl)
theorem dX2_isCaller_8 : decode cX2_isCaller 8 = .ok (.ifCond .eq 18, 3) := dk_153 0 18 (dk_at dksX2_isCaller_0 8 rfl rfl)
theorem dX2_isCaller_11 : decode cX2_isCaller 11 = .ok (.iload_n 1, 1) := dk_27 (dk_at dksX2_isCaller_0 11 rfl rfl)
theorem dX2_isCaller_12 : decode cX2_isCaller 12 = .ok (.iconst 0, 1) := dk_3 (dk_at dksX2_isCaller_0 12 rfl rfl)
theorem dX2_isCaller_13 : decode cX2_isCaller 13 = .ok (.sipush 9999, 3) := dk_17 39 15 (dk_at dksX2_isCaller_0 13 rfl rfl)
theorem dX2_isCaller_16 : decode cX2_isCaller 16 = .ok (.invokestatic 104, 3) := dk_184 0 104 (dk_at dksX2_isCaller_0 16 rfl rfl)
theorem dX2_isCaller_19 : decode cX2_isCaller 19 = .ok (.ifCond .eq 7, 3) := dk_153 0 7 (dk_at dksX2_isCaller_0 19 rfl rfl)
theorem dX2_isCaller_22 : decode cX2_isCaller 22 = .ok (.iconst 1, 1) := dk_4 (dk_at dksX2_isCaller_0 22 rfl rfl)
theorem dX2_isCaller_23 : decode cX2_isCaller 23 = .ok (.goto 4, 3) := dk_167 0 4 (dk_at dksX2_isCaller_1 0 rfl rfl)
theorem dX2_isCaller_26 : decode cX2_isCaller 26 = .ok (.iconst 0, 1) := dk_3 (dk_at dksX2_isCaller_1 3 rfl rfl)
theorem dX2_isCaller_27 : decode cX2_isCaller 27 = .ok (.ireturn, 1) := dk_172 (dk_at dksX2_isCaller_1 4 rfl rfl)
abbrev cX2_isIn : ByteArray := prog_17_method_3_code
def yX2_isIn : MethodName := ⟨RX2, "isIn", "(III)Z"⟩
def dkwX2_isIn_0 : List UInt8 := [26, 27, 161, 0, 12, 26, 28, 163, 0, 7, 4, 167, 0, 4, 3, 172]
abbrev dktX2_isIn_0 : List UInt8 := dkwX2_isIn_0 ++ []
theorem dksX2_isIn_0 : cX2_isIn.data.toList.drop 0 = dktX2_isIn_0 := by decide +kernel
theorem dX2_isIn_0 : decode cX2_isIn 0 = .ok (.iload_n 0, 1) := dk_26 (dk_at dksX2_isIn_0 0 rfl rfl)
theorem dX2_isIn_1 : decode cX2_isIn 1 = .ok (.iload_n 1, 1) := dk_27 (dk_at dksX2_isIn_0 1 rfl rfl)
theorem dX2_isIn_2 : decode cX2_isIn 2 = .ok (.if_icmp .lt 12, 3) := dk_161 0 12 (dk_at dksX2_isIn_0 2 rfl rfl)
theorem dX2_isIn_5 : decode cX2_isIn 5 = .ok (.iload_n 0, 1) := dk_26 (dk_at dksX2_isIn_0 5 rfl rfl)
theorem dX2_isIn_6 : decode cX2_isIn 6 = .ok (.iload_n 2, 1) := dk_28 (dk_at dksX2_isIn_0 6 rfl rfl)
theorem dX2_isIn_7 : decode cX2_isIn 7 = .ok (.if_icmp .gt 7, 3) := dk_163 0 7 (dk_at dksX2_isIn_0 7 rfl rfl)
theorem dX2_isIn_10 : decode cX2_isIn 10 = .ok (.iconst 1, 1) := dk_4 (dk_at dksX2_isIn_0 10 rfl rfl)
theorem dX2_isIn_11 : decode cX2_isIn 11 = .ok (.goto 4, 3) := dk_167 0 4 (dk_at dksX2_isIn_0 11 rfl rfl)
theorem dX2_isIn_14 : decode cX2_isIn 14 = .ok (.iconst 0, 1) := dk_3 (dk_at dksX2_isIn_0 14 rfl rfl)
theorem dX2_isIn_15 : decode cX2_isIn 15 = .ok (.ireturn, 1) := dk_172 (dk_at dksX2_isIn_0 15 rfl rfl)
abbrev cX2_change : ByteArray := prog_17_method_10_code
def yX2_change : MethodName := ⟨RX2, "change", "(III)Z"⟩
def dkwX2_change_1 : List UInt8 := [5, 27, 104, 96, 28, 79, 42, 180, 0, 7, 16, 10, 5, 27, 104, 96, 4, 96, 29, 79, 4, 172]
abbrev dktX2_change_1 : List UInt8 := dkwX2_change_1 ++ []
def dkwX2_change_0 : List UInt8 := [42, 27, 182, 0, 114, 153, 0, 11, 28, 29, 184, 0, 110, 154, 0, 5, 3, 172, 42, 180, 0, 7, 16, 10]
abbrev dktX2_change_0 : List UInt8 := dkwX2_change_0 ++ dktX2_change_1
theorem dksX2_change_0 : cX2_change.data.toList.drop 0 = dktX2_change_0 := by decide +kernel
theorem dksX2_change_1 : cX2_change.data.toList.drop 24 = dktX2_change_1 := dk_seg dksX2_change_0 24 rfl rfl
theorem dX2_change_0 : decode cX2_change 0 = .ok (.aload_n 0, 1) := dk_42 (dk_at dksX2_change_0 0 rfl rfl)
theorem dX2_change_1 : decode cX2_change 1 = .ok (.iload_n 1, 1) := dk_27 (dk_at dksX2_change_0 1 rfl rfl)
theorem dX2_change_2 : decode cX2_change 2 = .ok (.invokevirtual 114, 3) := dk_182 0 114 (dk_at dksX2_change_0 2 rfl rfl)
theorem dX2_change_5 : decode cX2_change 5 = .ok (.ifCond .eq 11, 3) := dk_153 0 11 (dk_at dksX2_change_0 5 rfl rfl)
theorem dX2_change_8 : decode cX2_change 8 = .ok (.iload_n 2, 1) := dk_28 (dk_at dksX2_change_0 8 rfl rfl)
theorem dX2_change_9 : decode cX2_change 9 = .ok (.iload_n 3, 1) := dk_29 (dk_at dksX2_change_0 9 rfl rfl)
theorem dX2_change_10 : decode cX2_change 10 = .ok (.invokestatic 110, 3) := dk_184 0 110 (dk_at dksX2_change_0 10 rfl rfl)
theorem dX2_change_13 : decode cX2_change 13 = .ok (.ifCond .ne 5, 3) := dk_154 0 5 (dk_at dksX2_change_0 13 rfl rfl)
theorem dX2_change_16 : decode cX2_change 16 = .ok (.iconst 0, 1) := dk_3 (dk_at dksX2_change_0 16 rfl rfl)
theorem dX2_change_17 : decode cX2_change 17 = .ok (.ireturn, 1) := dk_172 (dk_at dksX2_change_0 17 rfl rfl)
theorem dX2_change_18 : decode cX2_change 18 = .ok (.aload_n 0, 1) := dk_42 (dk_at dksX2_change_0 18 rfl rfl)
theorem dX2_change_19 : decode cX2_change 19 = .ok (.getfield 7, 3) := dk_180 0 7 (dk_at dksX2_change_0 19 rfl rfl)
theorem dX2_change_22 : decode cX2_change 22 = .ok (.bipush 10, 2) := dk_16 10 (dk_at dksX2_change_0 22 rfl rfl)
theorem dX2_change_24 : decode cX2_change 24 = .ok (.iconst 2, 1) := dk_5 (dk_at dksX2_change_1 0 rfl rfl)
theorem dX2_change_25 : decode cX2_change 25 = .ok (.iload_n 1, 1) := dk_27 (dk_at dksX2_change_1 1 rfl rfl)
theorem dX2_change_26 : decode cX2_change 26 = .ok (.imul, 1) := dk_104 (dk_at dksX2_change_1 2 rfl rfl)
theorem dX2_change_27 : decode cX2_change 27 = .ok (.iadd, 1) := dk_96 (dk_at dksX2_change_1 3 rfl rfl)
theorem dX2_change_28 : decode cX2_change 28 = .ok (.iload_n 2, 1) := dk_28 (dk_at dksX2_change_1 4 rfl rfl)
theorem dX2_change_29 : decode cX2_change 29 = .ok (.iastore, 1) := dk_79 (dk_at dksX2_change_1 5 rfl rfl)
theorem dX2_change_30 : decode cX2_change 30 = .ok (.aload_n 0, 1) := dk_42 (dk_at dksX2_change_1 6 rfl rfl)
theorem dX2_change_31 : decode cX2_change 31 = .ok (.getfield 7, 3) := dk_180 0 7 (dk_at dksX2_change_1 7 rfl rfl)
theorem dX2_change_34 : decode cX2_change 34 = .ok (.bipush 10, 2) := dk_16 10 (dk_at dksX2_change_1 10 rfl rfl)
theorem dX2_change_36 : decode cX2_change 36 = .ok (.iconst 2, 1) := dk_5 (dk_at dksX2_change_1 12 rfl rfl)
theorem dX2_change_37 : decode cX2_change 37 = .ok (.iload_n 1, 1) := dk_27 (dk_at dksX2_change_1 13 rfl rfl)
theorem dX2_change_38 : decode cX2_change 38 = .ok (.imul, 1) := dk_104 (dk_at dksX2_change_1 14 rfl rfl)
theorem dX2_change_39 : decode cX2_change 39 = .ok (.iadd, 1) := dk_96 (dk_at dksX2_change_1 15 rfl rfl)
theorem dX2_change_40 : decode cX2_change 40 = .ok (.iconst 1, 1) := dk_4 (dk_at dksX2_change_1 16 rfl rfl)
theorem dX2_change_41 : decode cX2_change 41 = .ok (.iadd, 1) := dk_96 (dk_at dksX2_change_1 17 rfl rfl)
theorem dX2_change_42 : decode cX2_change 42 = .ok (.iload_n 3, 1) := dk_29 (dk_at dksX2_change_1 18 rfl rfl)
theorem dX2_change_43 : decode cX2_change 43 = .ok (.iastore, 1) := dk_79 (dk_at dksX2_change_1 19 rfl rfl)
theorem dX2_change_44 : decode cX2_change 44 = .ok (.iconst 1, 1) := dk_4 (dk_at dksX2_change_1 20 rfl rfl)
theorem dX2_change_45 : decode cX2_change 45 = .ok (.ireturn, 1) := dk_172 (dk_at dksX2_change_1 21 rfl rfl)
abbrev cX2_isPerson : ByteArray := prog_17_method_4_code
def yX2_isPerson : MethodName := ⟨RX2, "isPerson", "(I)Z"⟩
def dkwX2_isPerson_0 : List UInt8 := [27, 3, 42, 180, 0, 7, 3, 46, 4, 100, 184, 0, 104, 172]
abbrev dktX2_isPerson_0 : List UInt8 := dkwX2_isPerson_0 ++ []
theorem dksX2_isPerson_0 : cX2_isPerson.data.toList.drop 0 = dktX2_isPerson_0 := by decide +kernel
theorem dX2_isPerson_0 : decode cX2_isPerson 0 = .ok (.iload_n 1, 1) := dk_27 (dk_at dksX2_isPerson_0 0 rfl rfl)
theorem dX2_isPerson_1 : decode cX2_isPerson 1 = .ok (.iconst 0, 1) := dk_3 (dk_at dksX2_isPerson_0 1 rfl rfl)
theorem dX2_isPerson_2 : decode cX2_isPerson 2 = .ok (.aload_n 0, 1) := dk_42 (dk_at dksX2_isPerson_0 2 rfl rfl)
theorem dX2_isPerson_3 : decode cX2_isPerson 3 = .ok (.getfield 7, 3) := dk_180 0 7 (dk_at dksX2_isPerson_0 3 rfl rfl)
theorem dX2_isPerson_6 : decode cX2_isPerson 6 = .ok (.iconst 0, 1) := dk_3 (dk_at dksX2_isPerson_0 6 rfl rfl)
theorem dX2_isPerson_7 : decode cX2_isPerson 7 = .ok (.iaload, 1) := dk_46 (dk_at dksX2_isPerson_0 7 rfl rfl)
theorem dX2_isPerson_8 : decode cX2_isPerson 8 = .ok (.iconst 1, 1) := dk_4 (dk_at dksX2_isPerson_0 8 rfl rfl)
theorem dX2_isPerson_9 : decode cX2_isPerson 9 = .ok (.isub, 1) := dk_100 (dk_at dksX2_isPerson_0 9 rfl rfl)
theorem dX2_isPerson_10 : decode cX2_isPerson 10 = .ok (.invokestatic 104, 3) := dk_184 0 104 (dk_at dksX2_isPerson_0 10 rfl rfl)
theorem dX2_isPerson_13 : decode cX2_isPerson 13 = .ok (.ireturn, 1) := dk_172 (dk_at dksX2_isPerson_0 13 rfl rfl)
abbrev cX2_day : ByteArray := prog_17_method_12_code
def yX2_day : MethodName := ⟨RX2, "day", "(I)Z"⟩
def dkwX2_day_0 : List UInt8 := [27, 184, 0, 118, 154, 0, 5, 3, 172, 42, 180, 0, 7, 4, 27, 79, 4, 172]
abbrev dktX2_day_0 : List UInt8 := dkwX2_day_0 ++ []
theorem dksX2_day_0 : cX2_day.data.toList.drop 0 = dktX2_day_0 := by decide +kernel
theorem dX2_day_0 : decode cX2_day 0 = .ok (.iload_n 1, 1) := dk_27 (dk_at dksX2_day_0 0 rfl rfl)
theorem dX2_day_1 : decode cX2_day 1 = .ok (.invokestatic 118, 3) := dk_184 0 118 (dk_at dksX2_day_0 1 rfl rfl)
theorem dX2_day_4 : decode cX2_day 4 = .ok (.ifCond .ne 5, 3) := dk_154 0 5 (dk_at dksX2_day_0 4 rfl rfl)
theorem dX2_day_7 : decode cX2_day 7 = .ok (.iconst 0, 1) := dk_3 (dk_at dksX2_day_0 7 rfl rfl)
theorem dX2_day_8 : decode cX2_day 8 = .ok (.ireturn, 1) := dk_172 (dk_at dksX2_day_0 8 rfl rfl)
theorem dX2_day_9 : decode cX2_day 9 = .ok (.aload_n 0, 1) := dk_42 (dk_at dksX2_day_0 9 rfl rfl)
theorem dX2_day_10 : decode cX2_day 10 = .ok (.getfield 7, 3) := dk_180 0 7 (dk_at dksX2_day_0 10 rfl rfl)
theorem dX2_day_13 : decode cX2_day 13 = .ok (.iconst 1, 1) := dk_4 (dk_at dksX2_day_0 13 rfl rfl)
theorem dX2_day_14 : decode cX2_day 14 = .ok (.iload_n 1, 1) := dk_27 (dk_at dksX2_day_0 14 rfl rfl)
theorem dX2_day_15 : decode cX2_day 15 = .ok (.iastore, 1) := dk_79 (dk_at dksX2_day_0 15 rfl rfl)
theorem dX2_day_16 : decode cX2_day 16 = .ok (.iconst 1, 1) := dk_4 (dk_at dksX2_day_0 16 rfl rfl)
theorem dX2_day_17 : decode cX2_day 17 = .ok (.ireturn, 1) := dk_172 (dk_at dksX2_day_0 17 rfl rfl)
abbrev cX2_isDay : ByteArray := prog_17_method_11_code
def yX2_isDay : MethodName := ⟨RX2, "isDay", "(I)Z"⟩
def dkwX2_isDay_0 : List UInt8 := [26, 153, 0, 14, 26, 5, 17, 3, 231, 184, 0, 104, 153, 0, 7, 4, 167, 0, 4, 3, 172]
abbrev dktX2_isDay_0 : List UInt8 := dkwX2_isDay_0 ++ []
theorem dksX2_isDay_0 : cX2_isDay.data.toList.drop 0 = dktX2_isDay_0 := by decide +kernel
theorem dX2_isDay_0 : decode cX2_isDay 0 = .ok (.iload_n 0, 1) := dk_26 (dk_at dksX2_isDay_0 0 rfl rfl)
theorem dX2_isDay_1 : decode cX2_isDay 1 = .ok (.ifCond .eq 14, 3) := dk_153 0 14 (dk_at dksX2_isDay_0 1 rfl rfl)
theorem dX2_isDay_4 : decode cX2_isDay 4 = .ok (.iload_n 0, 1) := dk_26 (dk_at dksX2_isDay_0 4 rfl rfl)
theorem dX2_isDay_5 : decode cX2_isDay 5 = .ok (.iconst 2, 1) := dk_5 (dk_at dksX2_isDay_0 5 rfl rfl)
theorem dX2_isDay_6 : decode cX2_isDay 6 = .ok (.sipush 999, 3) := dk_17 3 231 (dk_at dksX2_isDay_0 6 rfl rfl)
theorem dX2_isDay_9 : decode cX2_isDay 9 = .ok (.invokestatic 104, 3) := dk_184 0 104 (dk_at dksX2_isDay_0 9 rfl rfl)
theorem dX2_isDay_12 : decode cX2_isDay 12 = .ok (.ifCond .eq 7, 3) := dk_153 0 7 (dk_at dksX2_isDay_0 12 rfl rfl)
theorem dX2_isDay_15 : decode cX2_isDay 15 = .ok (.iconst 1, 1) := dk_4 (dk_at dksX2_isDay_0 15 rfl rfl)
theorem dX2_isDay_16 : decode cX2_isDay 16 = .ok (.goto 4, 3) := dk_167 0 4 (dk_at dksX2_isDay_0 16 rfl rfl)
theorem dX2_isDay_19 : decode cX2_isDay 19 = .ok (.iconst 0, 1) := dk_3 (dk_at dksX2_isDay_0 19 rfl rfl)
theorem dX2_isDay_20 : decode cX2_isDay 20 = .ok (.ireturn, 1) := dk_172 (dk_at dksX2_isDay_0 20 rfl rfl)
abbrev cX2_clock : ByteArray := prog_17_method_13_code
def yX2_clock : MethodName := ⟨RX2, "clock", "(I)Z"⟩
def dkwX2_clock_0 : List UInt8 := [27, 4, 16, 60, 184, 0, 104, 154, 0, 5, 3, 172, 42, 180, 0, 7, 5, 27, 79, 4, 172]
abbrev dktX2_clock_0 : List UInt8 := dkwX2_clock_0 ++ []
theorem dksX2_clock_0 : cX2_clock.data.toList.drop 0 = dktX2_clock_0 := by decide +kernel
theorem dX2_clock_0 : decode cX2_clock 0 = .ok (.iload_n 1, 1) := dk_27 (dk_at dksX2_clock_0 0 rfl rfl)
theorem dX2_clock_1 : decode cX2_clock 1 = .ok (.iconst 1, 1) := dk_4 (dk_at dksX2_clock_0 1 rfl rfl)
theorem dX2_clock_2 : decode cX2_clock 2 = .ok (.bipush 60, 2) := dk_16 60 (dk_at dksX2_clock_0 2 rfl rfl)
theorem dX2_clock_4 : decode cX2_clock 4 = .ok (.invokestatic 104, 3) := dk_184 0 104 (dk_at dksX2_clock_0 4 rfl rfl)
theorem dX2_clock_7 : decode cX2_clock 7 = .ok (.ifCond .ne 5, 3) := dk_154 0 5 (dk_at dksX2_clock_0 7 rfl rfl)
theorem dX2_clock_10 : decode cX2_clock 10 = .ok (.iconst 0, 1) := dk_3 (dk_at dksX2_clock_0 10 rfl rfl)
theorem dX2_clock_11 : decode cX2_clock 11 = .ok (.ireturn, 1) := dk_172 (dk_at dksX2_clock_0 11 rfl rfl)
theorem dX2_clock_12 : decode cX2_clock 12 = .ok (.aload_n 0, 1) := dk_42 (dk_at dksX2_clock_0 12 rfl rfl)
theorem dX2_clock_13 : decode cX2_clock 13 = .ok (.getfield 7, 3) := dk_180 0 7 (dk_at dksX2_clock_0 13 rfl rfl)
theorem dX2_clock_16 : decode cX2_clock 16 = .ok (.iconst 2, 1) := dk_5 (dk_at dksX2_clock_0 16 rfl rfl)
theorem dX2_clock_17 : decode cX2_clock 17 = .ok (.iload_n 1, 1) := dk_27 (dk_at dksX2_clock_0 17 rfl rfl)
theorem dX2_clock_18 : decode cX2_clock 18 = .ok (.iastore, 1) := dk_79 (dk_at dksX2_clock_0 18 rfl rfl)
theorem dX2_clock_19 : decode cX2_clock 19 = .ok (.iconst 1, 1) := dk_4 (dk_at dksX2_clock_0 19 rfl rfl)
theorem dX2_clock_20 : decode cX2_clock 20 = .ok (.ireturn, 1) := dk_172 (dk_at dksX2_clock_0 20 rfl rfl)
abbrev cX2_near : ByteArray := prog_17_method_14_code
def yX2_near : MethodName := ⟨RX2, "near", "(IIZ)Z"⟩
def dkwX2_near_4 : List UInt8 := [42, 180, 0, 7, 16, 40, 28, 96, 46, 4, 27, 120, 2, 130, 126, 79, 4, 172]
abbrev dktX2_near_4 : List UInt8 := dkwX2_near_4 ++ []
def dkwX2_near_3 : List UInt8 := [16, 40, 28, 96, 29, 153, 0, 19, 42, 180, 0, 7, 16, 40, 28, 96, 46, 4, 27, 120, 128, 167, 0, 18]
abbrev dktX2_near_3 : List UInt8 := dkwX2_near_3 ++ dktX2_near_4
def dkwX2_near_2 : List UInt8 := [167, 0, 18, 42, 180, 0, 7, 16, 40, 27, 96, 46, 4, 28, 120, 2, 130, 126, 79, 42, 180, 0, 7]
abbrev dktX2_near_2 : List UInt8 := dkwX2_near_2 ++ dktX2_near_3
def dkwX2_near_1 : List UInt8 := [180, 0, 7, 16, 40, 27, 96, 29, 153, 0, 19, 42, 180, 0, 7, 16, 40, 27, 96, 46, 4, 28, 120, 128]
abbrev dktX2_near_1 : List UInt8 := dkwX2_near_1 ++ dktX2_near_2
def dkwX2_near_0 : List UInt8 := [42, 27, 182, 0, 114, 153, 0, 16, 42, 28, 182, 0, 114, 153, 0, 8, 27, 28, 160, 0, 5, 3, 172, 42]
abbrev dktX2_near_0 : List UInt8 := dkwX2_near_0 ++ dktX2_near_1
theorem dksX2_near_0 : cX2_near.data.toList.drop 0 = dktX2_near_0 := by decide +kernel
theorem dksX2_near_1 : cX2_near.data.toList.drop 24 = dktX2_near_1 := dk_seg dksX2_near_0 24 rfl rfl
theorem dksX2_near_2 : cX2_near.data.toList.drop 48 = dktX2_near_2 := dk_seg dksX2_near_1 24 rfl rfl
theorem dksX2_near_3 : cX2_near.data.toList.drop 71 = dktX2_near_3 := dk_seg dksX2_near_2 23 rfl rfl
theorem dksX2_near_4 : cX2_near.data.toList.drop 95 = dktX2_near_4 := dk_seg dksX2_near_3 24 rfl rfl
theorem dX2_near_0 : decode cX2_near 0 = .ok (.aload_n 0, 1) := dk_42 (dk_at dksX2_near_0 0 rfl rfl)
theorem dX2_near_1 : decode cX2_near 1 = .ok (.iload_n 1, 1) := dk_27 (dk_at dksX2_near_0 1 rfl rfl)
theorem dX2_near_2 : decode cX2_near 2 = .ok (.invokevirtual 114, 3) := dk_182 0 114 (dk_at dksX2_near_0 2 rfl rfl)
theorem dX2_near_5 : decode cX2_near 5 = .ok (.ifCond .eq 16, 3) := dk_153 0 16 (dk_at dksX2_near_0 5 rfl rfl)
theorem dX2_near_8 : decode cX2_near 8 = .ok (.aload_n 0, 1) := dk_42 (dk_at dksX2_near_0 8 rfl rfl)
theorem dX2_near_9 : decode cX2_near 9 = .ok (.iload_n 2, 1) := dk_28 (dk_at dksX2_near_0 9 rfl rfl)
theorem dX2_near_10 : decode cX2_near 10 = .ok (.invokevirtual 114, 3) := dk_182 0 114 (dk_at dksX2_near_0 10 rfl rfl)
theorem dX2_near_13 : decode cX2_near 13 = .ok (.ifCond .eq 8, 3) := dk_153 0 8 (dk_at dksX2_near_0 13 rfl rfl)
theorem dX2_near_16 : decode cX2_near 16 = .ok (.iload_n 1, 1) := dk_27 (dk_at dksX2_near_0 16 rfl rfl)
theorem dX2_near_17 : decode cX2_near 17 = .ok (.iload_n 2, 1) := dk_28 (dk_at dksX2_near_0 17 rfl rfl)
theorem dX2_near_18 : decode cX2_near 18 = .ok (.if_icmp .ne 5, 3) := dk_160 0 5 (dk_at dksX2_near_0 18 rfl rfl)
theorem dX2_near_21 : decode cX2_near 21 = .ok (.iconst 0, 1) := dk_3 (dk_at dksX2_near_0 21 rfl rfl)
theorem dX2_near_22 : decode cX2_near 22 = .ok (.ireturn, 1) := dk_172 (dk_at dksX2_near_0 22 rfl rfl)
theorem dX2_near_23 : decode cX2_near 23 = .ok (.aload_n 0, 1) := dk_42 (dk_at dksX2_near_0 23 rfl rfl)
theorem dX2_near_24 : decode cX2_near 24 = .ok (.getfield 7, 3) := dk_180 0 7 (dk_at dksX2_near_1 0 rfl rfl)
theorem dX2_near_27 : decode cX2_near 27 = .ok (.bipush 40, 2) := dk_16 40 (dk_at dksX2_near_1 3 rfl rfl)
theorem dX2_near_29 : decode cX2_near 29 = .ok (.iload_n 1, 1) := dk_27 (dk_at dksX2_near_1 5 rfl rfl)
theorem dX2_near_30 : decode cX2_near 30 = .ok (.iadd, 1) := dk_96 (dk_at dksX2_near_1 6 rfl rfl)
theorem dX2_near_31 : decode cX2_near 31 = .ok (.iload_n 3, 1) := dk_29 (dk_at dksX2_near_1 7 rfl rfl)
theorem dX2_near_32 : decode cX2_near 32 = .ok (.ifCond .eq 19, 3) := dk_153 0 19 (dk_at dksX2_near_1 8 rfl rfl)
theorem dX2_near_35 : decode cX2_near 35 = .ok (.aload_n 0, 1) := dk_42 (dk_at dksX2_near_1 11 rfl rfl)
theorem dX2_near_36 : decode cX2_near 36 = .ok (.getfield 7, 3) := dk_180 0 7 (dk_at dksX2_near_1 12 rfl rfl)
theorem dX2_near_39 : decode cX2_near 39 = .ok (.bipush 40, 2) := dk_16 40 (dk_at dksX2_near_1 15 rfl rfl)
theorem dX2_near_41 : decode cX2_near 41 = .ok (.iload_n 1, 1) := dk_27 (dk_at dksX2_near_1 17 rfl rfl)
theorem dX2_near_42 : decode cX2_near 42 = .ok (.iadd, 1) := dk_96 (dk_at dksX2_near_1 18 rfl rfl)
theorem dX2_near_43 : decode cX2_near 43 = .ok (.iaload, 1) := dk_46 (dk_at dksX2_near_1 19 rfl rfl)
theorem dX2_near_44 : decode cX2_near 44 = .ok (.iconst 1, 1) := dk_4 (dk_at dksX2_near_1 20 rfl rfl)
theorem dX2_near_45 : decode cX2_near 45 = .ok (.iload_n 2, 1) := dk_28 (dk_at dksX2_near_1 21 rfl rfl)
theorem dX2_near_46 : decode cX2_near 46 = .ok (.ishl, 1) := dk_120 (dk_at dksX2_near_1 22 rfl rfl)
theorem dX2_near_47 : decode cX2_near 47 = .ok (.ior, 1) := dk_128 (dk_at dksX2_near_1 23 rfl rfl)
theorem dX2_near_48 : decode cX2_near 48 = .ok (.goto 18, 3) := dk_167 0 18 (dk_at dksX2_near_2 0 rfl rfl)
theorem dX2_near_51 : decode cX2_near 51 = .ok (.aload_n 0, 1) := dk_42 (dk_at dksX2_near_2 3 rfl rfl)
theorem dX2_near_52 : decode cX2_near 52 = .ok (.getfield 7, 3) := dk_180 0 7 (dk_at dksX2_near_2 4 rfl rfl)
theorem dX2_near_55 : decode cX2_near 55 = .ok (.bipush 40, 2) := dk_16 40 (dk_at dksX2_near_2 7 rfl rfl)
theorem dX2_near_57 : decode cX2_near 57 = .ok (.iload_n 1, 1) := dk_27 (dk_at dksX2_near_2 9 rfl rfl)
theorem dX2_near_58 : decode cX2_near 58 = .ok (.iadd, 1) := dk_96 (dk_at dksX2_near_2 10 rfl rfl)
theorem dX2_near_59 : decode cX2_near 59 = .ok (.iaload, 1) := dk_46 (dk_at dksX2_near_2 11 rfl rfl)
theorem dX2_near_60 : decode cX2_near 60 = .ok (.iconst 1, 1) := dk_4 (dk_at dksX2_near_2 12 rfl rfl)
theorem dX2_near_61 : decode cX2_near 61 = .ok (.iload_n 2, 1) := dk_28 (dk_at dksX2_near_2 13 rfl rfl)
theorem dX2_near_62 : decode cX2_near 62 = .ok (.ishl, 1) := dk_120 (dk_at dksX2_near_2 14 rfl rfl)
theorem dX2_near_63 : decode cX2_near 63 = .ok (.iconst (-1), 1) := dk_2 (dk_at dksX2_near_2 15 rfl rfl)
theorem dX2_near_64 : decode cX2_near 64 = .ok (.ixor, 1) := dk_130 (dk_at dksX2_near_2 16 rfl rfl)
theorem dX2_near_65 : decode cX2_near 65 = .ok (.iand, 1) := dk_126 (dk_at dksX2_near_2 17 rfl rfl)
theorem dX2_near_66 : decode cX2_near 66 = .ok (.iastore, 1) := dk_79 (dk_at dksX2_near_2 18 rfl rfl)
theorem dX2_near_67 : decode cX2_near 67 = .ok (.aload_n 0, 1) := dk_42 (dk_at dksX2_near_2 19 rfl rfl)
theorem dX2_near_68 : decode cX2_near 68 = .ok (.getfield 7, 3) := dk_180 0 7 (dk_at dksX2_near_2 20 rfl rfl)
theorem dX2_near_71 : decode cX2_near 71 = .ok (.bipush 40, 2) := dk_16 40 (dk_at dksX2_near_3 0 rfl rfl)
theorem dX2_near_73 : decode cX2_near 73 = .ok (.iload_n 2, 1) := dk_28 (dk_at dksX2_near_3 2 rfl rfl)
theorem dX2_near_74 : decode cX2_near 74 = .ok (.iadd, 1) := dk_96 (dk_at dksX2_near_3 3 rfl rfl)
theorem dX2_near_75 : decode cX2_near 75 = .ok (.iload_n 3, 1) := dk_29 (dk_at dksX2_near_3 4 rfl rfl)
theorem dX2_near_76 : decode cX2_near 76 = .ok (.ifCond .eq 19, 3) := dk_153 0 19 (dk_at dksX2_near_3 5 rfl rfl)
theorem dX2_near_79 : decode cX2_near 79 = .ok (.aload_n 0, 1) := dk_42 (dk_at dksX2_near_3 8 rfl rfl)
theorem dX2_near_80 : decode cX2_near 80 = .ok (.getfield 7, 3) := dk_180 0 7 (dk_at dksX2_near_3 9 rfl rfl)
theorem dX2_near_83 : decode cX2_near 83 = .ok (.bipush 40, 2) := dk_16 40 (dk_at dksX2_near_3 12 rfl rfl)
theorem dX2_near_85 : decode cX2_near 85 = .ok (.iload_n 2, 1) := dk_28 (dk_at dksX2_near_3 14 rfl rfl)
theorem dX2_near_86 : decode cX2_near 86 = .ok (.iadd, 1) := dk_96 (dk_at dksX2_near_3 15 rfl rfl)
theorem dX2_near_87 : decode cX2_near 87 = .ok (.iaload, 1) := dk_46 (dk_at dksX2_near_3 16 rfl rfl)
theorem dX2_near_88 : decode cX2_near 88 = .ok (.iconst 1, 1) := dk_4 (dk_at dksX2_near_3 17 rfl rfl)
theorem dX2_near_89 : decode cX2_near 89 = .ok (.iload_n 1, 1) := dk_27 (dk_at dksX2_near_3 18 rfl rfl)
theorem dX2_near_90 : decode cX2_near 90 = .ok (.ishl, 1) := dk_120 (dk_at dksX2_near_3 19 rfl rfl)
theorem dX2_near_91 : decode cX2_near 91 = .ok (.ior, 1) := dk_128 (dk_at dksX2_near_3 20 rfl rfl)
theorem dX2_near_92 : decode cX2_near 92 = .ok (.goto 18, 3) := dk_167 0 18 (dk_at dksX2_near_3 21 rfl rfl)
theorem dX2_near_95 : decode cX2_near 95 = .ok (.aload_n 0, 1) := dk_42 (dk_at dksX2_near_4 0 rfl rfl)
theorem dX2_near_96 : decode cX2_near 96 = .ok (.getfield 7, 3) := dk_180 0 7 (dk_at dksX2_near_4 1 rfl rfl)
theorem dX2_near_99 : decode cX2_near 99 = .ok (.bipush 40, 2) := dk_16 40 (dk_at dksX2_near_4 4 rfl rfl)
theorem dX2_near_101 : decode cX2_near 101 = .ok (.iload_n 2, 1) := dk_28 (dk_at dksX2_near_4 6 rfl rfl)
theorem dX2_near_102 : decode cX2_near 102 = .ok (.iadd, 1) := dk_96 (dk_at dksX2_near_4 7 rfl rfl)
theorem dX2_near_103 : decode cX2_near 103 = .ok (.iaload, 1) := dk_46 (dk_at dksX2_near_4 8 rfl rfl)
theorem dX2_near_104 : decode cX2_near 104 = .ok (.iconst 1, 1) := dk_4 (dk_at dksX2_near_4 9 rfl rfl)
theorem dX2_near_105 : decode cX2_near 105 = .ok (.iload_n 1, 1) := dk_27 (dk_at dksX2_near_4 10 rfl rfl)
theorem dX2_near_106 : decode cX2_near 106 = .ok (.ishl, 1) := dk_120 (dk_at dksX2_near_4 11 rfl rfl)
theorem dX2_near_107 : decode cX2_near 107 = .ok (.iconst (-1), 1) := dk_2 (dk_at dksX2_near_4 12 rfl rfl)
theorem dX2_near_108 : decode cX2_near 108 = .ok (.ixor, 1) := dk_130 (dk_at dksX2_near_4 13 rfl rfl)
theorem dX2_near_109 : decode cX2_near 109 = .ok (.iand, 1) := dk_126 (dk_at dksX2_near_4 14 rfl rfl)
theorem dX2_near_110 : decode cX2_near 110 = .ok (.iastore, 1) := dk_79 (dk_at dksX2_near_4 15 rfl rfl)
theorem dX2_near_111 : decode cX2_near 111 = .ok (.iconst 1, 1) := dk_4 (dk_at dksX2_near_4 16 rfl rfl)
theorem dX2_near_112 : decode cX2_near 112 = .ok (.ireturn, 1) := dk_172 (dk_at dksX2_near_4 17 rfl rfl)
abbrev cX2_feed : ByteArray := prog_17_method_16_code
def yX2_feed : MethodName := ⟨RX2, "feed", "(IIIII)I"⟩
def dkwX2_feed_2 : List UInt8 := [172]
abbrev dktX2_feed_2 : List UInt8 := dkwX2_feed_2 ++ []
def dkwX2_feed_1 : List UInt8 := [182, 0, 124, 42, 29, 182, 0, 124, 42, 21, 4, 182, 0, 124, 42, 21, 5, 182, 0, 124, 42, 180, 0, 121]
abbrev dktX2_feed_1 : List UInt8 := dkwX2_feed_1 ++ dktX2_feed_2
def dkwX2_feed_0 : List UInt8 := [42, 180, 0, 121, 16, 20, 96, 17, 1, 44, 164, 0, 5, 2, 172, 42, 27, 182, 0, 124, 42, 28]
abbrev dktX2_feed_0 : List UInt8 := dkwX2_feed_0 ++ dktX2_feed_1
theorem dksX2_feed_0 : cX2_feed.data.toList.drop 0 = dktX2_feed_0 := by decide +kernel
theorem dksX2_feed_1 : cX2_feed.data.toList.drop 22 = dktX2_feed_1 := dk_seg dksX2_feed_0 22 rfl rfl
theorem dksX2_feed_2 : cX2_feed.data.toList.drop 46 = dktX2_feed_2 := dk_seg dksX2_feed_1 24 rfl rfl
theorem dX2_feed_0 : decode cX2_feed 0 = .ok (.aload_n 0, 1) := dk_42 (dk_at dksX2_feed_0 0 rfl rfl)
theorem dX2_feed_1 : decode cX2_feed 1 = .ok (.getfield 121, 3) := dk_180 0 121 (dk_at dksX2_feed_0 1 rfl rfl)
theorem dX2_feed_4 : decode cX2_feed 4 = .ok (.bipush 20, 2) := dk_16 20 (dk_at dksX2_feed_0 4 rfl rfl)
theorem dX2_feed_6 : decode cX2_feed 6 = .ok (.iadd, 1) := dk_96 (dk_at dksX2_feed_0 6 rfl rfl)
theorem dX2_feed_7 : decode cX2_feed 7 = .ok (.sipush 300, 3) := dk_17 1 44 (dk_at dksX2_feed_0 7 rfl rfl)
theorem dX2_feed_10 : decode cX2_feed 10 = .ok (.if_icmp .le 5, 3) := dk_164 0 5 (dk_at dksX2_feed_0 10 rfl rfl)
theorem dX2_feed_13 : decode cX2_feed 13 = .ok (.iconst (-1), 1) := dk_2 (dk_at dksX2_feed_0 13 rfl rfl)
theorem dX2_feed_14 : decode cX2_feed 14 = .ok (.ireturn, 1) := dk_172 (dk_at dksX2_feed_0 14 rfl rfl)
theorem dX2_feed_15 : decode cX2_feed 15 = .ok (.aload_n 0, 1) := dk_42 (dk_at dksX2_feed_0 15 rfl rfl)
theorem dX2_feed_16 : decode cX2_feed 16 = .ok (.iload_n 1, 1) := dk_27 (dk_at dksX2_feed_0 16 rfl rfl)
theorem dX2_feed_17 : decode cX2_feed 17 = .ok (.invokevirtual 124, 3) := dk_182 0 124 (dk_at dksX2_feed_0 17 rfl rfl)
theorem dX2_feed_20 : decode cX2_feed 20 = .ok (.aload_n 0, 1) := dk_42 (dk_at dksX2_feed_0 20 rfl rfl)
theorem dX2_feed_21 : decode cX2_feed 21 = .ok (.iload_n 2, 1) := dk_28 (dk_at dksX2_feed_0 21 rfl rfl)
theorem dX2_feed_22 : decode cX2_feed 22 = .ok (.invokevirtual 124, 3) := dk_182 0 124 (dk_at dksX2_feed_1 0 rfl rfl)
theorem dX2_feed_25 : decode cX2_feed 25 = .ok (.aload_n 0, 1) := dk_42 (dk_at dksX2_feed_1 3 rfl rfl)
theorem dX2_feed_26 : decode cX2_feed 26 = .ok (.iload_n 3, 1) := dk_29 (dk_at dksX2_feed_1 4 rfl rfl)
theorem dX2_feed_27 : decode cX2_feed 27 = .ok (.invokevirtual 124, 3) := dk_182 0 124 (dk_at dksX2_feed_1 5 rfl rfl)
theorem dX2_feed_30 : decode cX2_feed 30 = .ok (.aload_n 0, 1) := dk_42 (dk_at dksX2_feed_1 8 rfl rfl)
theorem dX2_feed_31 : decode cX2_feed 31 = .ok (.iload 4, 2) := dk_21 4 (dk_at dksX2_feed_1 9 rfl rfl)
theorem dX2_feed_33 : decode cX2_feed 33 = .ok (.invokevirtual 124, 3) := dk_182 0 124 (dk_at dksX2_feed_1 11 rfl rfl)
theorem dX2_feed_36 : decode cX2_feed 36 = .ok (.aload_n 0, 1) := dk_42 (dk_at dksX2_feed_1 14 rfl rfl)
theorem dX2_feed_37 : decode cX2_feed 37 = .ok (.iload 5, 2) := dk_21 5 (dk_at dksX2_feed_1 15 rfl rfl)
theorem dX2_feed_39 : decode cX2_feed 39 = .ok (.invokevirtual 124, 3) := dk_182 0 124 (dk_at dksX2_feed_1 17 rfl rfl)
theorem dX2_feed_42 : decode cX2_feed 42 = .ok (.aload_n 0, 1) := dk_42 (dk_at dksX2_feed_1 20 rfl rfl)
theorem dX2_feed_43 : decode cX2_feed 43 = .ok (.getfield 121, 3) := dk_180 0 121 (dk_at dksX2_feed_1 21 rfl rfl)
theorem dX2_feed_46 : decode cX2_feed 46 = .ok (.ireturn, 1) := dk_172 (dk_at dksX2_feed_2 0 rfl rfl)
abbrev cX2_four : ByteArray := prog_17_method_15_code
def yX2_four : MethodName := ⟨RX2, "four", "(I)V"⟩
def dkwX2_four_1 : List UInt8 := [89, 180, 0, 121, 4, 96, 181, 0, 121, 132, 2, 248, 167, 255, 223, 177]
abbrev dktX2_four_1 : List UInt8 := dkwX2_four_1 ++ []
def dkwX2_four_0 : List UInt8 := [16, 24, 61, 28, 155, 0, 35, 42, 180, 0, 26, 42, 180, 0, 121, 27, 28, 122, 17, 0, 255, 126, 79, 42]
abbrev dktX2_four_0 : List UInt8 := dkwX2_four_0 ++ dktX2_four_1
theorem dksX2_four_0 : cX2_four.data.toList.drop 0 = dktX2_four_0 := by decide +kernel
theorem dksX2_four_1 : cX2_four.data.toList.drop 24 = dktX2_four_1 := dk_seg dksX2_four_0 24 rfl rfl
theorem dX2_four_0 : decode cX2_four 0 = .ok (.bipush 24, 2) := dk_16 24 (dk_at dksX2_four_0 0 rfl rfl)
theorem dX2_four_2 : decode cX2_four 2 = .ok (.istore_n 2, 1) := dk_61 (dk_at dksX2_four_0 2 rfl rfl)
theorem dX2_four_3 : decode cX2_four 3 = .ok (.iload_n 2, 1) := dk_28 (dk_at dksX2_four_0 3 rfl rfl)
theorem dX2_four_4 : decode cX2_four 4 = .ok (.ifCond .lt 35, 3) := dk_155 0 35 (dk_at dksX2_four_0 4 rfl rfl)
theorem dX2_four_7 : decode cX2_four 7 = .ok (.aload_n 0, 1) := dk_42 (dk_at dksX2_four_0 7 rfl rfl)
theorem dX2_four_8 : decode cX2_four 8 = .ok (.getfield 26, 3) := dk_180 0 26 (dk_at dksX2_four_0 8 rfl rfl)
theorem dX2_four_11 : decode cX2_four 11 = .ok (.aload_n 0, 1) := dk_42 (dk_at dksX2_four_0 11 rfl rfl)
theorem dX2_four_12 : decode cX2_four 12 = .ok (.getfield 121, 3) := dk_180 0 121 (dk_at dksX2_four_0 12 rfl rfl)
theorem dX2_four_15 : decode cX2_four 15 = .ok (.iload_n 1, 1) := dk_27 (dk_at dksX2_four_0 15 rfl rfl)
theorem dX2_four_16 : decode cX2_four 16 = .ok (.iload_n 2, 1) := dk_28 (dk_at dksX2_four_0 16 rfl rfl)
theorem dX2_four_17 : decode cX2_four 17 = .ok (.ishr, 1) := dk_122 (dk_at dksX2_four_0 17 rfl rfl)
theorem dX2_four_18 : decode cX2_four 18 = .ok (.sipush 255, 3) := dk_17 0 255 (dk_at dksX2_four_0 18 rfl rfl)
theorem dX2_four_21 : decode cX2_four 21 = .ok (.iand, 1) := dk_126 (dk_at dksX2_four_0 21 rfl rfl)
theorem dX2_four_22 : decode cX2_four 22 = .ok (.iastore, 1) := dk_79 (dk_at dksX2_four_0 22 rfl rfl)
theorem dX2_four_23 : decode cX2_four 23 = .ok (.aload_n 0, 1) := dk_42 (dk_at dksX2_four_0 23 rfl rfl)
theorem dX2_four_24 : decode cX2_four 24 = .ok (.dup, 1) := dk_89 (dk_at dksX2_four_1 0 rfl rfl)
theorem dX2_four_25 : decode cX2_four 25 = .ok (.getfield 121, 3) := dk_180 0 121 (dk_at dksX2_four_1 1 rfl rfl)
theorem dX2_four_28 : decode cX2_four 28 = .ok (.iconst 1, 1) := dk_4 (dk_at dksX2_four_1 4 rfl rfl)
theorem dX2_four_29 : decode cX2_four 29 = .ok (.iadd, 1) := dk_96 (dk_at dksX2_four_1 5 rfl rfl)
theorem dX2_four_30 : decode cX2_four 30 = .ok (.putfield 121, 3) := dk_181 0 121 (dk_at dksX2_four_1 6 rfl rfl)
theorem dX2_four_33 : decode cX2_four 33 = .ok (.iinc 2 (-8), 3) := dk_132 2 248 (dk_at dksX2_four_1 9 rfl rfl)
theorem dX2_four_36 : decode cX2_four 36 = .ok (.goto (-33), 3) := dk_167 255 223 (dk_at dksX2_four_1 12 rfl rfl)
theorem dX2_four_39 : decode cX2_four 39 = .ok (.return_, 1) := dk_177 (dk_at dksX2_four_1 15 rfl rfl)
abbrev cX2_end : ByteArray := prog_17_method_17_code
def yX2_end : MethodName := ⟨RX2, "end", "(I)I"⟩
def dkwX2_end_0 : List UInt8 := [27, 3, 42, 180, 0, 121, 184, 0, 104, 154, 0, 5, 2, 172, 42, 27, 181, 0, 121, 27, 172]
abbrev dktX2_end_0 : List UInt8 := dkwX2_end_0 ++ []
theorem dksX2_end_0 : cX2_end.data.toList.drop 0 = dktX2_end_0 := by decide +kernel
theorem dX2_end_0 : decode cX2_end 0 = .ok (.iload_n 1, 1) := dk_27 (dk_at dksX2_end_0 0 rfl rfl)
theorem dX2_end_1 : decode cX2_end 1 = .ok (.iconst 0, 1) := dk_3 (dk_at dksX2_end_0 1 rfl rfl)
theorem dX2_end_2 : decode cX2_end 2 = .ok (.aload_n 0, 1) := dk_42 (dk_at dksX2_end_0 2 rfl rfl)
theorem dX2_end_3 : decode cX2_end 3 = .ok (.getfield 121, 3) := dk_180 0 121 (dk_at dksX2_end_0 3 rfl rfl)
theorem dX2_end_6 : decode cX2_end 6 = .ok (.invokestatic 104, 3) := dk_184 0 104 (dk_at dksX2_end_0 6 rfl rfl)
theorem dX2_end_9 : decode cX2_end 9 = .ok (.ifCond .ne 5, 3) := dk_154 0 5 (dk_at dksX2_end_0 9 rfl rfl)
theorem dX2_end_12 : decode cX2_end 12 = .ok (.iconst (-1), 1) := dk_2 (dk_at dksX2_end_0 12 rfl rfl)
theorem dX2_end_13 : decode cX2_end 13 = .ok (.ireturn, 1) := dk_172 (dk_at dksX2_end_0 13 rfl rfl)
theorem dX2_end_14 : decode cX2_end 14 = .ok (.aload_n 0, 1) := dk_42 (dk_at dksX2_end_0 14 rfl rfl)
theorem dX2_end_15 : decode cX2_end 15 = .ok (.iload_n 1, 1) := dk_27 (dk_at dksX2_end_0 15 rfl rfl)
theorem dX2_end_16 : decode cX2_end 16 = .ok (.putfield 121, 3) := dk_181 0 121 (dk_at dksX2_end_0 16 rfl rfl)
theorem dX2_end_19 : decode cX2_end 19 = .ok (.iload_n 1, 1) := dk_27 (dk_at dksX2_end_0 19 rfl rfl)
theorem dX2_end_20 : decode cX2_end 20 = .ok (.ireturn, 1) := dk_172 (dk_at dksX2_end_0 20 rfl rfl)
abbrev cX2_text : ByteArray := prog_17_method_46_code
def yX2_text : MethodName := ⟨RX2, "text", "()I"⟩
def dkwX2_text_3 : List UInt8 := [4, 100, 172]
abbrev dktX2_text_3 : List UInt8 := dkwX2_text_3 ++ []
def dkwX2_text_2 : List UInt8 := [180, 0, 29, 153, 0, 5, 2, 172, 42, 180, 0, 7, 6, 92, 46, 4, 96, 79, 42, 180, 0, 7, 6, 46]
abbrev dktX2_text_2 : List UInt8 := dkwX2_text_2 ++ dktX2_text_3
def dkwX2_text_1 : List UInt8 := [180, 0, 29, 154, 0, 7, 2, 167, 0, 7, 42, 180, 0, 135, 181, 0, 33, 42, 3, 181, 0, 121, 42]
abbrev dktX2_text_1 : List UInt8 := dkwX2_text_1 ++ dktX2_text_2
def dkwX2_text_0 : List UInt8 := [42, 180, 0, 7, 6, 46, 7, 160, 0, 5, 2, 172, 42, 42, 182, 1, 5, 181, 0, 29, 42, 42]
abbrev dktX2_text_0 : List UInt8 := dkwX2_text_0 ++ dktX2_text_1
theorem dksX2_text_0 : cX2_text.data.toList.drop 0 = dktX2_text_0 := by decide +kernel
theorem dksX2_text_1 : cX2_text.data.toList.drop 22 = dktX2_text_1 := dk_seg dksX2_text_0 22 rfl rfl
theorem dksX2_text_2 : cX2_text.data.toList.drop 45 = dktX2_text_2 := dk_seg dksX2_text_1 23 rfl rfl
theorem dksX2_text_3 : cX2_text.data.toList.drop 69 = dktX2_text_3 := dk_seg dksX2_text_2 24 rfl rfl
theorem dX2_text_0 : decode cX2_text 0 = .ok (.aload_n 0, 1) := dk_42 (dk_at dksX2_text_0 0 rfl rfl)
theorem dX2_text_1 : decode cX2_text 1 = .ok (.getfield 7, 3) := dk_180 0 7 (dk_at dksX2_text_0 1 rfl rfl)
theorem dX2_text_4 : decode cX2_text 4 = .ok (.iconst 3, 1) := dk_6 (dk_at dksX2_text_0 4 rfl rfl)
theorem dX2_text_5 : decode cX2_text 5 = .ok (.iaload, 1) := dk_46 (dk_at dksX2_text_0 5 rfl rfl)
theorem dX2_text_6 : decode cX2_text 6 = .ok (.iconst 4, 1) := dk_7 (dk_at dksX2_text_0 6 rfl rfl)
theorem dX2_text_7 : decode cX2_text 7 = .ok (.if_icmp .ne 5, 3) := dk_160 0 5 (dk_at dksX2_text_0 7 rfl rfl)
theorem dX2_text_10 : decode cX2_text 10 = .ok (.iconst (-1), 1) := dk_2 (dk_at dksX2_text_0 10 rfl rfl)
theorem dX2_text_11 : decode cX2_text 11 = .ok (.ireturn, 1) := dk_172 (dk_at dksX2_text_0 11 rfl rfl)
theorem dX2_text_12 : decode cX2_text 12 = .ok (.aload_n 0, 1) := dk_42 (dk_at dksX2_text_0 12 rfl rfl)
theorem dX2_text_13 : decode cX2_text 13 = .ok (.aload_n 0, 1) := dk_42 (dk_at dksX2_text_0 13 rfl rfl)
theorem dX2_text_14 : decode cX2_text 14 = .ok (.invokevirtual 261, 3) := dk_182 1 5 (dk_at dksX2_text_0 14 rfl rfl)
theorem dX2_text_17 : decode cX2_text 17 = .ok (.putfield 29, 3) := dk_181 0 29 (dk_at dksX2_text_0 17 rfl rfl)
theorem dX2_text_20 : decode cX2_text 20 = .ok (.aload_n 0, 1) := dk_42 (dk_at dksX2_text_0 20 rfl rfl)
theorem dX2_text_21 : decode cX2_text 21 = .ok (.aload_n 0, 1) := dk_42 (dk_at dksX2_text_0 21 rfl rfl)
theorem dX2_text_22 : decode cX2_text 22 = .ok (.getfield 29, 3) := dk_180 0 29 (dk_at dksX2_text_1 0 rfl rfl)
theorem dX2_text_25 : decode cX2_text 25 = .ok (.ifCond .ne 7, 3) := dk_154 0 7 (dk_at dksX2_text_1 3 rfl rfl)
theorem dX2_text_28 : decode cX2_text 28 = .ok (.iconst (-1), 1) := dk_2 (dk_at dksX2_text_1 6 rfl rfl)
theorem dX2_text_29 : decode cX2_text 29 = .ok (.goto 7, 3) := dk_167 0 7 (dk_at dksX2_text_1 7 rfl rfl)
theorem dX2_text_32 : decode cX2_text 32 = .ok (.aload_n 0, 1) := dk_42 (dk_at dksX2_text_1 10 rfl rfl)
theorem dX2_text_33 : decode cX2_text 33 = .ok (.getfield 135, 3) := dk_180 0 135 (dk_at dksX2_text_1 11 rfl rfl)
theorem dX2_text_36 : decode cX2_text 36 = .ok (.putfield 33, 3) := dk_181 0 33 (dk_at dksX2_text_1 14 rfl rfl)
theorem dX2_text_39 : decode cX2_text 39 = .ok (.aload_n 0, 1) := dk_42 (dk_at dksX2_text_1 17 rfl rfl)
theorem dX2_text_40 : decode cX2_text 40 = .ok (.iconst 0, 1) := dk_3 (dk_at dksX2_text_1 18 rfl rfl)
theorem dX2_text_41 : decode cX2_text 41 = .ok (.putfield 121, 3) := dk_181 0 121 (dk_at dksX2_text_1 19 rfl rfl)
theorem dX2_text_44 : decode cX2_text 44 = .ok (.aload_n 0, 1) := dk_42 (dk_at dksX2_text_1 22 rfl rfl)
theorem dX2_text_45 : decode cX2_text 45 = .ok (.getfield 29, 3) := dk_180 0 29 (dk_at dksX2_text_2 0 rfl rfl)
theorem dX2_text_48 : decode cX2_text 48 = .ok (.ifCond .eq 5, 3) := dk_153 0 5 (dk_at dksX2_text_2 3 rfl rfl)
theorem dX2_text_51 : decode cX2_text 51 = .ok (.iconst (-1), 1) := dk_2 (dk_at dksX2_text_2 6 rfl rfl)
theorem dX2_text_52 : decode cX2_text 52 = .ok (.ireturn, 1) := dk_172 (dk_at dksX2_text_2 7 rfl rfl)
theorem dX2_text_53 : decode cX2_text 53 = .ok (.aload_n 0, 1) := dk_42 (dk_at dksX2_text_2 8 rfl rfl)
theorem dX2_text_54 : decode cX2_text 54 = .ok (.getfield 7, 3) := dk_180 0 7 (dk_at dksX2_text_2 9 rfl rfl)
theorem dX2_text_57 : decode cX2_text 57 = .ok (.iconst 3, 1) := dk_6 (dk_at dksX2_text_2 12 rfl rfl)
theorem dX2_text_58 : decode cX2_text 58 = .ok (.dup2, 1) := dk_92 (dk_at dksX2_text_2 13 rfl rfl)
theorem dX2_text_59 : decode cX2_text 59 = .ok (.iaload, 1) := dk_46 (dk_at dksX2_text_2 14 rfl rfl)
theorem dX2_text_60 : decode cX2_text 60 = .ok (.iconst 1, 1) := dk_4 (dk_at dksX2_text_2 15 rfl rfl)
theorem dX2_text_61 : decode cX2_text 61 = .ok (.iadd, 1) := dk_96 (dk_at dksX2_text_2 16 rfl rfl)
theorem dX2_text_62 : decode cX2_text 62 = .ok (.iastore, 1) := dk_79 (dk_at dksX2_text_2 17 rfl rfl)
theorem dX2_text_63 : decode cX2_text 63 = .ok (.aload_n 0, 1) := dk_42 (dk_at dksX2_text_2 18 rfl rfl)
theorem dX2_text_64 : decode cX2_text 64 = .ok (.getfield 7, 3) := dk_180 0 7 (dk_at dksX2_text_2 19 rfl rfl)
theorem dX2_text_67 : decode cX2_text 67 = .ok (.iconst 3, 1) := dk_6 (dk_at dksX2_text_2 22 rfl rfl)
theorem dX2_text_68 : decode cX2_text 68 = .ok (.iaload, 1) := dk_46 (dk_at dksX2_text_2 23 rfl rfl)
theorem dX2_text_69 : decode cX2_text 69 = .ok (.iconst 1, 1) := dk_4 (dk_at dksX2_text_3 0 rfl rfl)
theorem dX2_text_70 : decode cX2_text 70 = .ok (.isub, 1) := dk_100 (dk_at dksX2_text_3 1 rfl rfl)
theorem dX2_text_71 : decode cX2_text 71 = .ok (.ireturn, 1) := dk_172 (dk_at dksX2_text_3 2 rfl rfl)
abbrev cX2_readText : ByteArray := prog_17_method_45_code
def yX2_readText : MethodName := ⟨RX2, "readText", "()I"⟩
def dkwX2_readText_2 : List UInt8 := [42, 180, 0, 138, 153, 0, 17, 42, 182, 1, 2, 60, 27, 153, 0, 5, 27, 172, 167, 255, 238, 3, 172]
abbrev dktX2_readText_2 : List UInt8 := dkwX2_readText_2 ++ []
def dkwX2_readText_1 : List UInt8 := [42, 3, 181, 0, 166, 42, 3, 181, 0, 176, 42, 3, 181, 0, 248, 42, 3, 181, 0, 128, 42, 182, 0, 190]
abbrev dktX2_readText_1 : List UInt8 := dkwX2_readText_1 ++ dktX2_readText_2
def dkwX2_readText_0 : List UInt8 := [42, 17, 2, 188, 42, 180, 0, 7, 6, 46, 104, 181, 0, 163, 42, 180, 0, 23, 42, 180, 0, 163, 3, 79]
abbrev dktX2_readText_0 : List UInt8 := dkwX2_readText_0 ++ dktX2_readText_1
theorem dksX2_readText_0 : cX2_readText.data.toList.drop 0 = dktX2_readText_0 := by decide +kernel
theorem dksX2_readText_1 : cX2_readText.data.toList.drop 24 = dktX2_readText_1 := dk_seg dksX2_readText_0 24 rfl rfl
theorem dksX2_readText_2 : cX2_readText.data.toList.drop 48 = dktX2_readText_2 := dk_seg dksX2_readText_1 24 rfl rfl
theorem dX2_readText_0 : decode cX2_readText 0 = .ok (.aload_n 0, 1) := dk_42 (dk_at dksX2_readText_0 0 rfl rfl)
theorem dX2_readText_1 : decode cX2_readText 1 = .ok (.sipush 700, 3) := dk_17 2 188 (dk_at dksX2_readText_0 1 rfl rfl)
theorem dX2_readText_4 : decode cX2_readText 4 = .ok (.aload_n 0, 1) := dk_42 (dk_at dksX2_readText_0 4 rfl rfl)
theorem dX2_readText_5 : decode cX2_readText 5 = .ok (.getfield 7, 3) := dk_180 0 7 (dk_at dksX2_readText_0 5 rfl rfl)
theorem dX2_readText_8 : decode cX2_readText 8 = .ok (.iconst 3, 1) := dk_6 (dk_at dksX2_readText_0 8 rfl rfl)
theorem dX2_readText_9 : decode cX2_readText 9 = .ok (.iaload, 1) := dk_46 (dk_at dksX2_readText_0 9 rfl rfl)
theorem dX2_readText_10 : decode cX2_readText 10 = .ok (.imul, 1) := dk_104 (dk_at dksX2_readText_0 10 rfl rfl)
theorem dX2_readText_11 : decode cX2_readText 11 = .ok (.putfield 163, 3) := dk_181 0 163 (dk_at dksX2_readText_0 11 rfl rfl)
theorem dX2_readText_14 : decode cX2_readText 14 = .ok (.aload_n 0, 1) := dk_42 (dk_at dksX2_readText_0 14 rfl rfl)
theorem dX2_readText_15 : decode cX2_readText 15 = .ok (.getfield 23, 3) := dk_180 0 23 (dk_at dksX2_readText_0 15 rfl rfl)
theorem dX2_readText_18 : decode cX2_readText 18 = .ok (.aload_n 0, 1) := dk_42 (dk_at dksX2_readText_0 18 rfl rfl)
theorem dX2_readText_19 : decode cX2_readText 19 = .ok (.getfield 163, 3) := dk_180 0 163 (dk_at dksX2_readText_0 19 rfl rfl)
theorem dX2_readText_22 : decode cX2_readText 22 = .ok (.iconst 0, 1) := dk_3 (dk_at dksX2_readText_0 22 rfl rfl)
theorem dX2_readText_23 : decode cX2_readText 23 = .ok (.iastore, 1) := dk_79 (dk_at dksX2_readText_0 23 rfl rfl)
theorem dX2_readText_24 : decode cX2_readText 24 = .ok (.aload_n 0, 1) := dk_42 (dk_at dksX2_readText_1 0 rfl rfl)
theorem dX2_readText_25 : decode cX2_readText 25 = .ok (.iconst 0, 1) := dk_3 (dk_at dksX2_readText_1 1 rfl rfl)
theorem dX2_readText_26 : decode cX2_readText 26 = .ok (.putfield 166, 3) := dk_181 0 166 (dk_at dksX2_readText_1 2 rfl rfl)
theorem dX2_readText_29 : decode cX2_readText 29 = .ok (.aload_n 0, 1) := dk_42 (dk_at dksX2_readText_1 5 rfl rfl)
theorem dX2_readText_30 : decode cX2_readText 30 = .ok (.iconst 0, 1) := dk_3 (dk_at dksX2_readText_1 6 rfl rfl)
theorem dX2_readText_31 : decode cX2_readText 31 = .ok (.putfield 176, 3) := dk_181 0 176 (dk_at dksX2_readText_1 7 rfl rfl)
theorem dX2_readText_34 : decode cX2_readText 34 = .ok (.aload_n 0, 1) := dk_42 (dk_at dksX2_readText_1 10 rfl rfl)
theorem dX2_readText_35 : decode cX2_readText 35 = .ok (.iconst 0, 1) := dk_3 (dk_at dksX2_readText_1 11 rfl rfl)
theorem dX2_readText_36 : decode cX2_readText 36 = .ok (.putfield 248, 3) := dk_181 0 248 (dk_at dksX2_readText_1 12 rfl rfl)
theorem dX2_readText_39 : decode cX2_readText 39 = .ok (.aload_n 0, 1) := dk_42 (dk_at dksX2_readText_1 15 rfl rfl)
theorem dX2_readText_40 : decode cX2_readText 40 = .ok (.iconst 0, 1) := dk_3 (dk_at dksX2_readText_1 16 rfl rfl)
theorem dX2_readText_41 : decode cX2_readText 41 = .ok (.putfield 128, 3) := dk_181 0 128 (dk_at dksX2_readText_1 17 rfl rfl)
theorem dX2_readText_44 : decode cX2_readText 44 = .ok (.aload_n 0, 1) := dk_42 (dk_at dksX2_readText_1 20 rfl rfl)
theorem dX2_readText_45 : decode cX2_readText 45 = .ok (.invokevirtual 190, 3) := dk_182 0 190 (dk_at dksX2_readText_1 21 rfl rfl)
theorem dX2_readText_48 : decode cX2_readText 48 = .ok (.aload_n 0, 1) := dk_42 (dk_at dksX2_readText_2 0 rfl rfl)
theorem dX2_readText_49 : decode cX2_readText 49 = .ok (.getfield 138, 3) := dk_180 0 138 (dk_at dksX2_readText_2 1 rfl rfl)
theorem dX2_readText_52 : decode cX2_readText 52 = .ok (.ifCond .eq 17, 3) := dk_153 0 17 (dk_at dksX2_readText_2 4 rfl rfl)
theorem dX2_readText_55 : decode cX2_readText 55 = .ok (.aload_n 0, 1) := dk_42 (dk_at dksX2_readText_2 7 rfl rfl)
theorem dX2_readText_56 : decode cX2_readText 56 = .ok (.invokevirtual 258, 3) := dk_182 1 2 (dk_at dksX2_readText_2 8 rfl rfl)
theorem dX2_readText_59 : decode cX2_readText 59 = .ok (.istore_n 1, 1) := dk_60 (dk_at dksX2_readText_2 11 rfl rfl)
theorem dX2_readText_60 : decode cX2_readText 60 = .ok (.iload_n 1, 1) := dk_27 (dk_at dksX2_readText_2 12 rfl rfl)
theorem dX2_readText_61 : decode cX2_readText 61 = .ok (.ifCond .eq 5, 3) := dk_153 0 5 (dk_at dksX2_readText_2 13 rfl rfl)
theorem dX2_readText_64 : decode cX2_readText 64 = .ok (.iload_n 1, 1) := dk_27 (dk_at dksX2_readText_2 16 rfl rfl)
theorem dX2_readText_65 : decode cX2_readText 65 = .ok (.ireturn, 1) := dk_172 (dk_at dksX2_readText_2 17 rfl rfl)
theorem dX2_readText_66 : decode cX2_readText 66 = .ok (.goto (-18), 3) := dk_167 255 238 (dk_at dksX2_readText_2 18 rfl rfl)
theorem dX2_readText_69 : decode cX2_readText 69 = .ok (.iconst 0, 1) := dk_3 (dk_at dksX2_readText_2 21 rfl rfl)
theorem dX2_readText_70 : decode cX2_readText 70 = .ok (.ireturn, 1) := dk_172 (dk_at dksX2_readText_2 22 rfl rfl)
abbrev cX2_nextToken : ByteArray := prog_17_method_21_code
def yX2_nextToken : MethodName := ⟨RX2, "nextToken", "()V"⟩
def dkwX2_nextToken_17 : List UInt8 := [181, 0, 138, 177]
abbrev dktX2_nextToken_17 : List UInt8 := dkwX2_nextToken_17 ++ []
def dkwX2_nextToken_16 : List UInt8 := [42, 89, 180, 0, 128, 4, 96, 181, 0, 128, 42, 27, 16, 60, 160, 0, 7, 7, 167, 0, 4, 8]
abbrev dktX2_nextToken_16 : List UInt8 := dkwX2_nextToken_16 ++ dktX2_nextToken_17
def dkwX2_nextToken_15 : List UInt8 := [16, 60, 159, 0, 9, 27, 16, 62, 160, 0, 41, 42, 42, 180, 0, 128, 182, 0, 131, 16, 61, 160, 0, 28]
abbrev dktX2_nextToken_15 : List UInt8 := dkwX2_nextToken_15 ++ dktX2_nextToken_16
def dkwX2_nextToken_14 : List UInt8 := [160, 0, 7, 4, 167, 0, 4, 3, 61, 42, 28, 153, 0, 7, 27, 167, 0, 4, 6, 181, 0, 138, 27]
abbrev dktX2_nextToken_14 : List UInt8 := dkwX2_nextToken_14 ++ dktX2_nextToken_15
def dkwX2_nextToken_13 : List UInt8 := [159, 0, 27, 27, 16, 40, 159, 0, 21, 27, 16, 41, 159, 0, 15, 27, 16, 59, 159, 0, 9, 27, 16, 44]
abbrev dktX2_nextToken_13 : List UInt8 := dkwX2_nextToken_13 ++ dktX2_nextToken_14
def dkwX2_nextToken_12 : List UInt8 := [159, 0, 51, 27, 16, 45, 159, 0, 45, 27, 16, 42, 159, 0, 39, 27, 16, 47, 159, 0, 33, 27, 16, 37]
abbrev dktX2_nextToken_12 : List UInt8 := dkwX2_nextToken_12 ++ dktX2_nextToken_13
def dkwX2_nextToken_11 : List UInt8 := [159, 0, 75, 27, 16, 62, 159, 0, 69, 27, 16, 61, 159, 0, 63, 27, 16, 35, 159, 0, 57, 27, 16, 43]
abbrev dktX2_nextToken_11 : List UInt8 := dkwX2_nextToken_11 ++ dktX2_nextToken_12
def dkwX2_nextToken_10 : List UInt8 := [164, 0, 168, 42, 9, 181, 0, 151, 167, 0, 160, 42, 89, 180, 0, 128, 4, 96, 181, 0, 128, 27, 16, 60]
abbrev dktX2_nextToken_10 : List UInt8 := dkwX2_nextToken_10 ++ dktX2_nextToken_11
def dkwX2_nextToken_9 : List UInt8 := [42, 89, 180, 0, 128, 4, 96, 181, 0, 128, 167, 255, 197, 42, 180, 0, 128, 42, 180, 0, 135, 100, 16, 7]
abbrev dktX2_nextToken_9 : List UInt8 := dkwX2_nextToken_9 ++ dktX2_nextToken_10
def dkwX2_nextToken_8 : List UInt8 := [162, 0, 24, 42, 42, 180, 0, 151, 16, 8, 121, 42, 42, 180, 0, 128, 182, 0, 131, 133, 129, 181, 0, 151]
abbrev dktX2_nextToken_8 : List UInt8 := dkwX2_nextToken_8 ++ dktX2_nextToken_9
def dkwX2_nextToken_7 : List UInt8 := [180, 0, 128, 182, 0, 131, 184, 0, 148, 153, 0, 51, 42, 180, 0, 128, 42, 180, 0, 135, 100, 16, 7]
abbrev dktX2_nextToken_7 : List UInt8 := dkwX2_nextToken_7 ++ dktX2_nextToken_8
def dkwX2_nextToken_6 : List UInt8 := [167, 255, 200, 27, 184, 0, 148, 153, 0, 97, 42, 5, 181, 0, 138, 42, 9, 181, 0, 151, 42, 42]
abbrev dktX2_nextToken_6 : List UInt8 := dkwX2_nextToken_6 ++ dktX2_nextToken_7
def dkwX2_nextToken_5 : List UInt8 := [42, 180, 0, 128, 182, 0, 131, 96, 16, 48, 100, 181, 0, 144, 42, 89, 180, 0, 128, 4, 96, 181, 0, 128]
abbrev dktX2_nextToken_5 : List UInt8 := dkwX2_nextToken_5 ++ dktX2_nextToken_6
def dkwX2_nextToken_4 : List UInt8 := [184, 0, 141, 153, 1, 50, 42, 180, 0, 144, 18, 147, 162, 0, 26, 42, 16, 10, 42, 180, 0, 144, 104, 42]
abbrev dktX2_nextToken_4 : List UInt8 := dkwX2_nextToken_4 ++ dktX2_nextToken_5
def dkwX2_nextToken_3 : List UInt8 := [184, 0, 141, 153, 0, 72, 42, 4, 181, 0, 138, 42, 3, 181, 0, 144, 42, 42, 180, 0, 128, 182, 0, 131]
abbrev dktX2_nextToken_3 : List UInt8 := dkwX2_nextToken_3 ++ dktX2_nextToken_4
def dkwX2_nextToken_2 : List UInt8 := [42, 42, 180, 0, 128, 182, 0, 131, 60, 27, 156, 0, 11, 42, 3, 181, 0, 138, 167, 1, 81, 27]
abbrev dktX2_nextToken_2 : List UInt8 := dkwX2_nextToken_2 ++ dktX2_nextToken_3
def dkwX2_nextToken_1 : List UInt8 := [160, 0, 16, 42, 89, 180, 0, 128, 4, 96, 181, 0, 128, 167, 255, 220, 42, 42, 180, 0, 128, 181, 0, 135]
abbrev dktX2_nextToken_1 : List UInt8 := dkwX2_nextToken_1 ++ dktX2_nextToken_2
def dkwX2_nextToken_0 : List UInt8 := [42, 42, 180, 0, 128, 182, 0, 131, 16, 32, 159, 0, 16, 42, 42, 180, 0, 128, 182, 0, 131, 16, 10]
abbrev dktX2_nextToken_0 : List UInt8 := dkwX2_nextToken_0 ++ dktX2_nextToken_1
theorem dksX2_nextToken_0 : cX2_nextToken.data.toList.drop 0 = dktX2_nextToken_0 := by decide +kernel
theorem dksX2_nextToken_1 : cX2_nextToken.data.toList.drop 23 = dktX2_nextToken_1 := dk_seg dksX2_nextToken_0 23 rfl rfl
theorem dksX2_nextToken_2 : cX2_nextToken.data.toList.drop 47 = dktX2_nextToken_2 := dk_seg dksX2_nextToken_1 24 rfl rfl
theorem dksX2_nextToken_3 : cX2_nextToken.data.toList.drop 69 = dktX2_nextToken_3 := dk_seg dksX2_nextToken_2 22 rfl rfl
theorem dksX2_nextToken_4 : cX2_nextToken.data.toList.drop 93 = dktX2_nextToken_4 := dk_seg dksX2_nextToken_3 24 rfl rfl
theorem dksX2_nextToken_5 : cX2_nextToken.data.toList.drop 117 = dktX2_nextToken_5 := dk_seg dksX2_nextToken_4 24 rfl rfl
theorem dksX2_nextToken_6 : cX2_nextToken.data.toList.drop 141 = dktX2_nextToken_6 := dk_seg dksX2_nextToken_5 24 rfl rfl
theorem dksX2_nextToken_7 : cX2_nextToken.data.toList.drop 163 = dktX2_nextToken_7 := dk_seg dksX2_nextToken_6 22 rfl rfl
theorem dksX2_nextToken_8 : cX2_nextToken.data.toList.drop 186 = dktX2_nextToken_8 := dk_seg dksX2_nextToken_7 23 rfl rfl
theorem dksX2_nextToken_9 : cX2_nextToken.data.toList.drop 210 = dktX2_nextToken_9 := dk_seg dksX2_nextToken_8 24 rfl rfl
theorem dksX2_nextToken_10 : cX2_nextToken.data.toList.drop 234 = dktX2_nextToken_10 := dk_seg dksX2_nextToken_9 24 rfl rfl
theorem dksX2_nextToken_11 : cX2_nextToken.data.toList.drop 258 = dktX2_nextToken_11 := dk_seg dksX2_nextToken_10 24 rfl rfl
theorem dksX2_nextToken_12 : cX2_nextToken.data.toList.drop 282 = dktX2_nextToken_12 := dk_seg dksX2_nextToken_11 24 rfl rfl
theorem dksX2_nextToken_13 : cX2_nextToken.data.toList.drop 306 = dktX2_nextToken_13 := dk_seg dksX2_nextToken_12 24 rfl rfl
theorem dksX2_nextToken_14 : cX2_nextToken.data.toList.drop 330 = dktX2_nextToken_14 := dk_seg dksX2_nextToken_13 24 rfl rfl
theorem dksX2_nextToken_15 : cX2_nextToken.data.toList.drop 353 = dktX2_nextToken_15 := dk_seg dksX2_nextToken_14 23 rfl rfl
theorem dksX2_nextToken_16 : cX2_nextToken.data.toList.drop 377 = dktX2_nextToken_16 := dk_seg dksX2_nextToken_15 24 rfl rfl
theorem dksX2_nextToken_17 : cX2_nextToken.data.toList.drop 399 = dktX2_nextToken_17 := dk_seg dksX2_nextToken_16 22 rfl rfl
theorem dX2_nextToken_0 : decode cX2_nextToken 0 = .ok (.aload_n 0, 1) := dk_42 (dk_at dksX2_nextToken_0 0 rfl rfl)
theorem dX2_nextToken_1 : decode cX2_nextToken 1 = .ok (.aload_n 0, 1) := dk_42 (dk_at dksX2_nextToken_0 1 rfl rfl)
theorem dX2_nextToken_2 : decode cX2_nextToken 2 = .ok (.getfield 128, 3) := dk_180 0 128 (dk_at dksX2_nextToken_0 2 rfl rfl)
theorem dX2_nextToken_5 : decode cX2_nextToken 5 = .ok (.invokevirtual 131, 3) := dk_182 0 131 (dk_at dksX2_nextToken_0 5 rfl rfl)
theorem dX2_nextToken_8 : decode cX2_nextToken 8 = .ok (.bipush 32, 2) := dk_16 32 (dk_at dksX2_nextToken_0 8 rfl rfl)
theorem dX2_nextToken_10 : decode cX2_nextToken 10 = .ok (.if_icmp .eq 16, 3) := dk_159 0 16 (dk_at dksX2_nextToken_0 10 rfl rfl)
theorem dX2_nextToken_13 : decode cX2_nextToken 13 = .ok (.aload_n 0, 1) := dk_42 (dk_at dksX2_nextToken_0 13 rfl rfl)
theorem dX2_nextToken_14 : decode cX2_nextToken 14 = .ok (.aload_n 0, 1) := dk_42 (dk_at dksX2_nextToken_0 14 rfl rfl)
theorem dX2_nextToken_15 : decode cX2_nextToken 15 = .ok (.getfield 128, 3) := dk_180 0 128 (dk_at dksX2_nextToken_0 15 rfl rfl)
theorem dX2_nextToken_18 : decode cX2_nextToken 18 = .ok (.invokevirtual 131, 3) := dk_182 0 131 (dk_at dksX2_nextToken_0 18 rfl rfl)
theorem dX2_nextToken_21 : decode cX2_nextToken 21 = .ok (.bipush 10, 2) := dk_16 10 (dk_at dksX2_nextToken_0 21 rfl rfl)
theorem dX2_nextToken_23 : decode cX2_nextToken 23 = .ok (.if_icmp .ne 16, 3) := dk_160 0 16 (dk_at dksX2_nextToken_1 0 rfl rfl)
theorem dX2_nextToken_26 : decode cX2_nextToken 26 = .ok (.aload_n 0, 1) := dk_42 (dk_at dksX2_nextToken_1 3 rfl rfl)
theorem dX2_nextToken_27 : decode cX2_nextToken 27 = .ok (.dup, 1) := dk_89 (dk_at dksX2_nextToken_1 4 rfl rfl)
theorem dX2_nextToken_28 : decode cX2_nextToken 28 = .ok (.getfield 128, 3) := dk_180 0 128 (dk_at dksX2_nextToken_1 5 rfl rfl)
theorem dX2_nextToken_31 : decode cX2_nextToken 31 = .ok (.iconst 1, 1) := dk_4 (dk_at dksX2_nextToken_1 8 rfl rfl)
theorem dX2_nextToken_32 : decode cX2_nextToken 32 = .ok (.iadd, 1) := dk_96 (dk_at dksX2_nextToken_1 9 rfl rfl)
theorem dX2_nextToken_33 : decode cX2_nextToken 33 = .ok (.putfield 128, 3) := dk_181 0 128 (dk_at dksX2_nextToken_1 10 rfl rfl)
theorem dX2_nextToken_36 : decode cX2_nextToken 36 = .ok (.goto (-36), 3) := dk_167 255 220 (dk_at dksX2_nextToken_1 13 rfl rfl)
theorem dX2_nextToken_39 : decode cX2_nextToken 39 = .ok (.aload_n 0, 1) := dk_42 (dk_at dksX2_nextToken_1 16 rfl rfl)
theorem dX2_nextToken_40 : decode cX2_nextToken 40 = .ok (.aload_n 0, 1) := dk_42 (dk_at dksX2_nextToken_1 17 rfl rfl)
theorem dX2_nextToken_41 : decode cX2_nextToken 41 = .ok (.getfield 128, 3) := dk_180 0 128 (dk_at dksX2_nextToken_1 18 rfl rfl)
theorem dX2_nextToken_44 : decode cX2_nextToken 44 = .ok (.putfield 135, 3) := dk_181 0 135 (dk_at dksX2_nextToken_1 21 rfl rfl)
theorem dX2_nextToken_47 : decode cX2_nextToken 47 = .ok (.aload_n 0, 1) := dk_42 (dk_at dksX2_nextToken_2 0 rfl rfl)
theorem dX2_nextToken_48 : decode cX2_nextToken 48 = .ok (.aload_n 0, 1) := dk_42 (dk_at dksX2_nextToken_2 1 rfl rfl)
theorem dX2_nextToken_49 : decode cX2_nextToken 49 = .ok (.getfield 128, 3) := dk_180 0 128 (dk_at dksX2_nextToken_2 2 rfl rfl)
theorem dX2_nextToken_52 : decode cX2_nextToken 52 = .ok (.invokevirtual 131, 3) := dk_182 0 131 (dk_at dksX2_nextToken_2 5 rfl rfl)
theorem dX2_nextToken_55 : decode cX2_nextToken 55 = .ok (.istore_n 1, 1) := dk_60 (dk_at dksX2_nextToken_2 8 rfl rfl)
theorem dX2_nextToken_56 : decode cX2_nextToken 56 = .ok (.iload_n 1, 1) := dk_27 (dk_at dksX2_nextToken_2 9 rfl rfl)
theorem dX2_nextToken_57 : decode cX2_nextToken 57 = .ok (.ifCond .ge 11, 3) := dk_156 0 11 (dk_at dksX2_nextToken_2 10 rfl rfl)
theorem dX2_nextToken_60 : decode cX2_nextToken 60 = .ok (.aload_n 0, 1) := dk_42 (dk_at dksX2_nextToken_2 13 rfl rfl)
theorem dX2_nextToken_61 : decode cX2_nextToken 61 = .ok (.iconst 0, 1) := dk_3 (dk_at dksX2_nextToken_2 14 rfl rfl)
theorem dX2_nextToken_62 : decode cX2_nextToken 62 = .ok (.putfield 138, 3) := dk_181 0 138 (dk_at dksX2_nextToken_2 15 rfl rfl)
theorem dX2_nextToken_65 : decode cX2_nextToken 65 = .ok (.goto 337, 3) := dk_167 1 81 (dk_at dksX2_nextToken_2 18 rfl rfl)
theorem dX2_nextToken_68 : decode cX2_nextToken 68 = .ok (.iload_n 1, 1) := dk_27 (dk_at dksX2_nextToken_2 21 rfl rfl)
theorem dX2_nextToken_69 : decode cX2_nextToken 69 = .ok (.invokestatic 141, 3) := dk_184 0 141 (dk_at dksX2_nextToken_3 0 rfl rfl)
theorem dX2_nextToken_72 : decode cX2_nextToken 72 = .ok (.ifCond .eq 72, 3) := dk_153 0 72 (dk_at dksX2_nextToken_3 3 rfl rfl)
theorem dX2_nextToken_75 : decode cX2_nextToken 75 = .ok (.aload_n 0, 1) := dk_42 (dk_at dksX2_nextToken_3 6 rfl rfl)
theorem dX2_nextToken_76 : decode cX2_nextToken 76 = .ok (.iconst 1, 1) := dk_4 (dk_at dksX2_nextToken_3 7 rfl rfl)
theorem dX2_nextToken_77 : decode cX2_nextToken 77 = .ok (.putfield 138, 3) := dk_181 0 138 (dk_at dksX2_nextToken_3 8 rfl rfl)
theorem dX2_nextToken_80 : decode cX2_nextToken 80 = .ok (.aload_n 0, 1) := dk_42 (dk_at dksX2_nextToken_3 11 rfl rfl)
theorem dX2_nextToken_81 : decode cX2_nextToken 81 = .ok (.iconst 0, 1) := dk_3 (dk_at dksX2_nextToken_3 12 rfl rfl)
theorem dX2_nextToken_82 : decode cX2_nextToken 82 = .ok (.putfield 144, 3) := dk_181 0 144 (dk_at dksX2_nextToken_3 13 rfl rfl)
theorem dX2_nextToken_85 : decode cX2_nextToken 85 = .ok (.aload_n 0, 1) := dk_42 (dk_at dksX2_nextToken_3 16 rfl rfl)
theorem dX2_nextToken_86 : decode cX2_nextToken 86 = .ok (.aload_n 0, 1) := dk_42 (dk_at dksX2_nextToken_3 17 rfl rfl)
theorem dX2_nextToken_87 : decode cX2_nextToken 87 = .ok (.getfield 128, 3) := dk_180 0 128 (dk_at dksX2_nextToken_3 18 rfl rfl)
theorem dX2_nextToken_90 : decode cX2_nextToken 90 = .ok (.invokevirtual 131, 3) := dk_182 0 131 (dk_at dksX2_nextToken_3 21 rfl rfl)
theorem dX2_nextToken_93 : decode cX2_nextToken 93 = .ok (.invokestatic 141, 3) := dk_184 0 141 (dk_at dksX2_nextToken_4 0 rfl rfl)
theorem dX2_nextToken_96 : decode cX2_nextToken 96 = .ok (.ifCond .eq 306, 3) := dk_153 1 50 (dk_at dksX2_nextToken_4 3 rfl rfl)
theorem dX2_nextToken_99 : decode cX2_nextToken 99 = .ok (.aload_n 0, 1) := dk_42 (dk_at dksX2_nextToken_4 6 rfl rfl)
theorem dX2_nextToken_100 : decode cX2_nextToken 100 = .ok (.getfield 144, 3) := dk_180 0 144 (dk_at dksX2_nextToken_4 7 rfl rfl)
theorem dX2_nextToken_103 : decode cX2_nextToken 103 = .ok (.ldc 147, 2) := dk_18 147 (dk_at dksX2_nextToken_4 10 rfl rfl)
theorem dX2_nextToken_105 : decode cX2_nextToken 105 = .ok (.if_icmp .ge 26, 3) := dk_162 0 26 (dk_at dksX2_nextToken_4 12 rfl rfl)
theorem dX2_nextToken_108 : decode cX2_nextToken 108 = .ok (.aload_n 0, 1) := dk_42 (dk_at dksX2_nextToken_4 15 rfl rfl)
theorem dX2_nextToken_109 : decode cX2_nextToken 109 = .ok (.bipush 10, 2) := dk_16 10 (dk_at dksX2_nextToken_4 16 rfl rfl)
theorem dX2_nextToken_111 : decode cX2_nextToken 111 = .ok (.aload_n 0, 1) := dk_42 (dk_at dksX2_nextToken_4 18 rfl rfl)
theorem dX2_nextToken_112 : decode cX2_nextToken 112 = .ok (.getfield 144, 3) := dk_180 0 144 (dk_at dksX2_nextToken_4 19 rfl rfl)
theorem dX2_nextToken_115 : decode cX2_nextToken 115 = .ok (.imul, 1) := dk_104 (dk_at dksX2_nextToken_4 22 rfl rfl)
theorem dX2_nextToken_116 : decode cX2_nextToken 116 = .ok (.aload_n 0, 1) := dk_42 (dk_at dksX2_nextToken_4 23 rfl rfl)
theorem dX2_nextToken_117 : decode cX2_nextToken 117 = .ok (.aload_n 0, 1) := dk_42 (dk_at dksX2_nextToken_5 0 rfl rfl)
theorem dX2_nextToken_118 : decode cX2_nextToken 118 = .ok (.getfield 128, 3) := dk_180 0 128 (dk_at dksX2_nextToken_5 1 rfl rfl)
theorem dX2_nextToken_121 : decode cX2_nextToken 121 = .ok (.invokevirtual 131, 3) := dk_182 0 131 (dk_at dksX2_nextToken_5 4 rfl rfl)
theorem dX2_nextToken_124 : decode cX2_nextToken 124 = .ok (.iadd, 1) := dk_96 (dk_at dksX2_nextToken_5 7 rfl rfl)
theorem dX2_nextToken_125 : decode cX2_nextToken 125 = .ok (.bipush 48, 2) := dk_16 48 (dk_at dksX2_nextToken_5 8 rfl rfl)
theorem dX2_nextToken_127 : decode cX2_nextToken 127 = .ok (.isub, 1) := dk_100 (dk_at dksX2_nextToken_5 10 rfl rfl)
theorem dX2_nextToken_128 : decode cX2_nextToken 128 = .ok (.putfield 144, 3) := dk_181 0 144 (dk_at dksX2_nextToken_5 11 rfl rfl)
theorem dX2_nextToken_131 : decode cX2_nextToken 131 = .ok (.aload_n 0, 1) := dk_42 (dk_at dksX2_nextToken_5 14 rfl rfl)
theorem dX2_nextToken_132 : decode cX2_nextToken 132 = .ok (.dup, 1) := dk_89 (dk_at dksX2_nextToken_5 15 rfl rfl)
theorem dX2_nextToken_133 : decode cX2_nextToken 133 = .ok (.getfield 128, 3) := dk_180 0 128 (dk_at dksX2_nextToken_5 16 rfl rfl)
theorem dX2_nextToken_136 : decode cX2_nextToken 136 = .ok (.iconst 1, 1) := dk_4 (dk_at dksX2_nextToken_5 19 rfl rfl)
theorem dX2_nextToken_137 : decode cX2_nextToken 137 = .ok (.iadd, 1) := dk_96 (dk_at dksX2_nextToken_5 20 rfl rfl)
theorem dX2_nextToken_138 : decode cX2_nextToken 138 = .ok (.putfield 128, 3) := dk_181 0 128 (dk_at dksX2_nextToken_5 21 rfl rfl)
theorem dX2_nextToken_141 : decode cX2_nextToken 141 = .ok (.goto (-56), 3) := dk_167 255 200 (dk_at dksX2_nextToken_6 0 rfl rfl)
theorem dX2_nextToken_144 : decode cX2_nextToken 144 = .ok (.iload_n 1, 1) := dk_27 (dk_at dksX2_nextToken_6 3 rfl rfl)
theorem dX2_nextToken_145 : decode cX2_nextToken 145 = .ok (.invokestatic 148, 3) := dk_184 0 148 (dk_at dksX2_nextToken_6 4 rfl rfl)
theorem dX2_nextToken_148 : decode cX2_nextToken 148 = .ok (.ifCond .eq 97, 3) := dk_153 0 97 (dk_at dksX2_nextToken_6 7 rfl rfl)
theorem dX2_nextToken_151 : decode cX2_nextToken 151 = .ok (.aload_n 0, 1) := dk_42 (dk_at dksX2_nextToken_6 10 rfl rfl)
theorem dX2_nextToken_152 : decode cX2_nextToken 152 = .ok (.iconst 2, 1) := dk_5 (dk_at dksX2_nextToken_6 11 rfl rfl)
theorem dX2_nextToken_153 : decode cX2_nextToken 153 = .ok (.putfield 138, 3) := dk_181 0 138 (dk_at dksX2_nextToken_6 12 rfl rfl)
theorem dX2_nextToken_156 : decode cX2_nextToken 156 = .ok (.aload_n 0, 1) := dk_42 (dk_at dksX2_nextToken_6 15 rfl rfl)
theorem dX2_nextToken_157 : decode cX2_nextToken 157 = .ok (.lconst 0, 1) := dk_9 (dk_at dksX2_nextToken_6 16 rfl rfl)
theorem dX2_nextToken_158 : decode cX2_nextToken 158 = .ok (.putfield 151, 3) := dk_181 0 151 (dk_at dksX2_nextToken_6 17 rfl rfl)
theorem dX2_nextToken_161 : decode cX2_nextToken 161 = .ok (.aload_n 0, 1) := dk_42 (dk_at dksX2_nextToken_6 20 rfl rfl)
theorem dX2_nextToken_162 : decode cX2_nextToken 162 = .ok (.aload_n 0, 1) := dk_42 (dk_at dksX2_nextToken_6 21 rfl rfl)
theorem dX2_nextToken_163 : decode cX2_nextToken 163 = .ok (.getfield 128, 3) := dk_180 0 128 (dk_at dksX2_nextToken_7 0 rfl rfl)
theorem dX2_nextToken_166 : decode cX2_nextToken 166 = .ok (.invokevirtual 131, 3) := dk_182 0 131 (dk_at dksX2_nextToken_7 3 rfl rfl)
theorem dX2_nextToken_169 : decode cX2_nextToken 169 = .ok (.invokestatic 148, 3) := dk_184 0 148 (dk_at dksX2_nextToken_7 6 rfl rfl)
theorem dX2_nextToken_172 : decode cX2_nextToken 172 = .ok (.ifCond .eq 51, 3) := dk_153 0 51 (dk_at dksX2_nextToken_7 9 rfl rfl)
theorem dX2_nextToken_175 : decode cX2_nextToken 175 = .ok (.aload_n 0, 1) := dk_42 (dk_at dksX2_nextToken_7 12 rfl rfl)
theorem dX2_nextToken_176 : decode cX2_nextToken 176 = .ok (.getfield 128, 3) := dk_180 0 128 (dk_at dksX2_nextToken_7 13 rfl rfl)
theorem dX2_nextToken_179 : decode cX2_nextToken 179 = .ok (.aload_n 0, 1) := dk_42 (dk_at dksX2_nextToken_7 16 rfl rfl)
theorem dX2_nextToken_180 : decode cX2_nextToken 180 = .ok (.getfield 135, 3) := dk_180 0 135 (dk_at dksX2_nextToken_7 17 rfl rfl)
theorem dX2_nextToken_183 : decode cX2_nextToken 183 = .ok (.isub, 1) := dk_100 (dk_at dksX2_nextToken_7 20 rfl rfl)
theorem dX2_nextToken_184 : decode cX2_nextToken 184 = .ok (.bipush 7, 2) := dk_16 7 (dk_at dksX2_nextToken_7 21 rfl rfl)
theorem dX2_nextToken_186 : decode cX2_nextToken 186 = .ok (.if_icmp .ge 24, 3) := dk_162 0 24 (dk_at dksX2_nextToken_8 0 rfl rfl)
theorem dX2_nextToken_189 : decode cX2_nextToken 189 = .ok (.aload_n 0, 1) := dk_42 (dk_at dksX2_nextToken_8 3 rfl rfl)
theorem dX2_nextToken_190 : decode cX2_nextToken 190 = .ok (.aload_n 0, 1) := dk_42 (dk_at dksX2_nextToken_8 4 rfl rfl)
theorem dX2_nextToken_191 : decode cX2_nextToken 191 = .ok (.getfield 151, 3) := dk_180 0 151 (dk_at dksX2_nextToken_8 5 rfl rfl)
theorem dX2_nextToken_194 : decode cX2_nextToken 194 = .ok (.bipush 8, 2) := dk_16 8 (dk_at dksX2_nextToken_8 8 rfl rfl)
theorem dX2_nextToken_196 : decode cX2_nextToken 196 = .ok (.lshl, 1) := dk_121 (dk_at dksX2_nextToken_8 10 rfl rfl)
theorem dX2_nextToken_197 : decode cX2_nextToken 197 = .ok (.aload_n 0, 1) := dk_42 (dk_at dksX2_nextToken_8 11 rfl rfl)
theorem dX2_nextToken_198 : decode cX2_nextToken 198 = .ok (.aload_n 0, 1) := dk_42 (dk_at dksX2_nextToken_8 12 rfl rfl)
theorem dX2_nextToken_199 : decode cX2_nextToken 199 = .ok (.getfield 128, 3) := dk_180 0 128 (dk_at dksX2_nextToken_8 13 rfl rfl)
theorem dX2_nextToken_202 : decode cX2_nextToken 202 = .ok (.invokevirtual 131, 3) := dk_182 0 131 (dk_at dksX2_nextToken_8 16 rfl rfl)
theorem dX2_nextToken_205 : decode cX2_nextToken 205 = .ok (.i2l, 1) := dk_133 (dk_at dksX2_nextToken_8 19 rfl rfl)
theorem dX2_nextToken_206 : decode cX2_nextToken 206 = .ok (.lor, 1) := dk_129 (dk_at dksX2_nextToken_8 20 rfl rfl)
theorem dX2_nextToken_207 : decode cX2_nextToken 207 = .ok (.putfield 151, 3) := dk_181 0 151 (dk_at dksX2_nextToken_8 21 rfl rfl)
theorem dX2_nextToken_210 : decode cX2_nextToken 210 = .ok (.aload_n 0, 1) := dk_42 (dk_at dksX2_nextToken_9 0 rfl rfl)
theorem dX2_nextToken_211 : decode cX2_nextToken 211 = .ok (.dup, 1) := dk_89 (dk_at dksX2_nextToken_9 1 rfl rfl)
theorem dX2_nextToken_212 : decode cX2_nextToken 212 = .ok (.getfield 128, 3) := dk_180 0 128 (dk_at dksX2_nextToken_9 2 rfl rfl)
theorem dX2_nextToken_215 : decode cX2_nextToken 215 = .ok (.iconst 1, 1) := dk_4 (dk_at dksX2_nextToken_9 5 rfl rfl)
theorem dX2_nextToken_216 : decode cX2_nextToken 216 = .ok (.iadd, 1) := dk_96 (dk_at dksX2_nextToken_9 6 rfl rfl)
theorem dX2_nextToken_217 : decode cX2_nextToken 217 = .ok (.putfield 128, 3) := dk_181 0 128 (dk_at dksX2_nextToken_9 7 rfl rfl)
theorem dX2_nextToken_220 : decode cX2_nextToken 220 = .ok (.goto (-59), 3) := dk_167 255 197 (dk_at dksX2_nextToken_9 10 rfl rfl)
theorem dX2_nextToken_223 : decode cX2_nextToken 223 = .ok (.aload_n 0, 1) := dk_42 (dk_at dksX2_nextToken_9 13 rfl rfl)
theorem dX2_nextToken_224 : decode cX2_nextToken 224 = .ok (.getfield 128, 3) := dk_180 0 128 (dk_at dksX2_nextToken_9 14 rfl rfl)
theorem dX2_nextToken_227 : decode cX2_nextToken 227 = .ok (.aload_n 0, 1) := dk_42 (dk_at dksX2_nextToken_9 17 rfl rfl)
theorem dX2_nextToken_228 : decode cX2_nextToken 228 = .ok (.getfield 135, 3) := dk_180 0 135 (dk_at dksX2_nextToken_9 18 rfl rfl)
theorem dX2_nextToken_231 : decode cX2_nextToken 231 = .ok (.isub, 1) := dk_100 (dk_at dksX2_nextToken_9 21 rfl rfl)
theorem dX2_nextToken_232 : decode cX2_nextToken 232 = .ok (.bipush 7, 2) := dk_16 7 (dk_at dksX2_nextToken_9 22 rfl rfl)
theorem dX2_nextToken_234 : decode cX2_nextToken 234 = .ok (.if_icmp .le 168, 3) := dk_164 0 168 (dk_at dksX2_nextToken_10 0 rfl rfl)
theorem dX2_nextToken_237 : decode cX2_nextToken 237 = .ok (.aload_n 0, 1) := dk_42 (dk_at dksX2_nextToken_10 3 rfl rfl)
theorem dX2_nextToken_238 : decode cX2_nextToken 238 = .ok (.lconst 0, 1) := dk_9 (dk_at dksX2_nextToken_10 4 rfl rfl)
theorem dX2_nextToken_239 : decode cX2_nextToken 239 = .ok (.putfield 151, 3) := dk_181 0 151 (dk_at dksX2_nextToken_10 5 rfl rfl)
theorem dX2_nextToken_242 : decode cX2_nextToken 242 = .ok (.goto 160, 3) := dk_167 0 160 (dk_at dksX2_nextToken_10 8 rfl rfl)
theorem dX2_nextToken_245 : decode cX2_nextToken 245 = .ok (.aload_n 0, 1) := dk_42 (dk_at dksX2_nextToken_10 11 rfl rfl)
theorem dX2_nextToken_246 : decode cX2_nextToken 246 = .ok (.dup, 1) := dk_89 (dk_at dksX2_nextToken_10 12 rfl rfl)
theorem dX2_nextToken_247 : decode cX2_nextToken 247 = .ok (.getfield 128, 3) := dk_180 0 128 (dk_at dksX2_nextToken_10 13 rfl rfl)
theorem dX2_nextToken_250 : decode cX2_nextToken 250 = .ok (.iconst 1, 1) := dk_4 (dk_at dksX2_nextToken_10 16 rfl rfl)
theorem dX2_nextToken_251 : decode cX2_nextToken 251 = .ok (.iadd, 1) := dk_96 (dk_at dksX2_nextToken_10 17 rfl rfl)
theorem dX2_nextToken_252 : decode cX2_nextToken 252 = .ok (.putfield 128, 3) := dk_181 0 128 (dk_at dksX2_nextToken_10 18 rfl rfl)
theorem dX2_nextToken_255 : decode cX2_nextToken 255 = .ok (.iload_n 1, 1) := dk_27 (dk_at dksX2_nextToken_10 21 rfl rfl)
theorem dX2_nextToken_256 : decode cX2_nextToken 256 = .ok (.bipush 60, 2) := dk_16 60 (dk_at dksX2_nextToken_10 22 rfl rfl)
theorem dX2_nextToken_258 : decode cX2_nextToken 258 = .ok (.if_icmp .eq 75, 3) := dk_159 0 75 (dk_at dksX2_nextToken_11 0 rfl rfl)
theorem dX2_nextToken_261 : decode cX2_nextToken 261 = .ok (.iload_n 1, 1) := dk_27 (dk_at dksX2_nextToken_11 3 rfl rfl)
theorem dX2_nextToken_262 : decode cX2_nextToken 262 = .ok (.bipush 62, 2) := dk_16 62 (dk_at dksX2_nextToken_11 4 rfl rfl)
theorem dX2_nextToken_264 : decode cX2_nextToken 264 = .ok (.if_icmp .eq 69, 3) := dk_159 0 69 (dk_at dksX2_nextToken_11 6 rfl rfl)
theorem dX2_nextToken_267 : decode cX2_nextToken 267 = .ok (.iload_n 1, 1) := dk_27 (dk_at dksX2_nextToken_11 9 rfl rfl)
theorem dX2_nextToken_268 : decode cX2_nextToken 268 = .ok (.bipush 61, 2) := dk_16 61 (dk_at dksX2_nextToken_11 10 rfl rfl)
theorem dX2_nextToken_270 : decode cX2_nextToken 270 = .ok (.if_icmp .eq 63, 3) := dk_159 0 63 (dk_at dksX2_nextToken_11 12 rfl rfl)
theorem dX2_nextToken_273 : decode cX2_nextToken 273 = .ok (.iload_n 1, 1) := dk_27 (dk_at dksX2_nextToken_11 15 rfl rfl)
theorem dX2_nextToken_274 : decode cX2_nextToken 274 = .ok (.bipush 35, 2) := dk_16 35 (dk_at dksX2_nextToken_11 16 rfl rfl)
theorem dX2_nextToken_276 : decode cX2_nextToken 276 = .ok (.if_icmp .eq 57, 3) := dk_159 0 57 (dk_at dksX2_nextToken_11 18 rfl rfl)
theorem dX2_nextToken_279 : decode cX2_nextToken 279 = .ok (.iload_n 1, 1) := dk_27 (dk_at dksX2_nextToken_11 21 rfl rfl)
theorem dX2_nextToken_280 : decode cX2_nextToken 280 = .ok (.bipush 43, 2) := dk_16 43 (dk_at dksX2_nextToken_11 22 rfl rfl)
theorem dX2_nextToken_282 : decode cX2_nextToken 282 = .ok (.if_icmp .eq 51, 3) := dk_159 0 51 (dk_at dksX2_nextToken_12 0 rfl rfl)
theorem dX2_nextToken_285 : decode cX2_nextToken 285 = .ok (.iload_n 1, 1) := dk_27 (dk_at dksX2_nextToken_12 3 rfl rfl)
theorem dX2_nextToken_286 : decode cX2_nextToken 286 = .ok (.bipush 45, 2) := dk_16 45 (dk_at dksX2_nextToken_12 4 rfl rfl)
theorem dX2_nextToken_288 : decode cX2_nextToken 288 = .ok (.if_icmp .eq 45, 3) := dk_159 0 45 (dk_at dksX2_nextToken_12 6 rfl rfl)
theorem dX2_nextToken_291 : decode cX2_nextToken 291 = .ok (.iload_n 1, 1) := dk_27 (dk_at dksX2_nextToken_12 9 rfl rfl)
theorem dX2_nextToken_292 : decode cX2_nextToken 292 = .ok (.bipush 42, 2) := dk_16 42 (dk_at dksX2_nextToken_12 10 rfl rfl)
theorem dX2_nextToken_294 : decode cX2_nextToken 294 = .ok (.if_icmp .eq 39, 3) := dk_159 0 39 (dk_at dksX2_nextToken_12 12 rfl rfl)
theorem dX2_nextToken_297 : decode cX2_nextToken 297 = .ok (.iload_n 1, 1) := dk_27 (dk_at dksX2_nextToken_12 15 rfl rfl)
theorem dX2_nextToken_298 : decode cX2_nextToken 298 = .ok (.bipush 47, 2) := dk_16 47 (dk_at dksX2_nextToken_12 16 rfl rfl)
theorem dX2_nextToken_300 : decode cX2_nextToken 300 = .ok (.if_icmp .eq 33, 3) := dk_159 0 33 (dk_at dksX2_nextToken_12 18 rfl rfl)
theorem dX2_nextToken_303 : decode cX2_nextToken 303 = .ok (.iload_n 1, 1) := dk_27 (dk_at dksX2_nextToken_12 21 rfl rfl)
theorem dX2_nextToken_304 : decode cX2_nextToken 304 = .ok (.bipush 37, 2) := dk_16 37 (dk_at dksX2_nextToken_12 22 rfl rfl)
theorem dX2_nextToken_306 : decode cX2_nextToken 306 = .ok (.if_icmp .eq 27, 3) := dk_159 0 27 (dk_at dksX2_nextToken_13 0 rfl rfl)
theorem dX2_nextToken_309 : decode cX2_nextToken 309 = .ok (.iload_n 1, 1) := dk_27 (dk_at dksX2_nextToken_13 3 rfl rfl)
theorem dX2_nextToken_310 : decode cX2_nextToken 310 = .ok (.bipush 40, 2) := dk_16 40 (dk_at dksX2_nextToken_13 4 rfl rfl)
theorem dX2_nextToken_312 : decode cX2_nextToken 312 = .ok (.if_icmp .eq 21, 3) := dk_159 0 21 (dk_at dksX2_nextToken_13 6 rfl rfl)
theorem dX2_nextToken_315 : decode cX2_nextToken 315 = .ok (.iload_n 1, 1) := dk_27 (dk_at dksX2_nextToken_13 9 rfl rfl)
theorem dX2_nextToken_316 : decode cX2_nextToken 316 = .ok (.bipush 41, 2) := dk_16 41 (dk_at dksX2_nextToken_13 10 rfl rfl)
theorem dX2_nextToken_318 : decode cX2_nextToken 318 = .ok (.if_icmp .eq 15, 3) := dk_159 0 15 (dk_at dksX2_nextToken_13 12 rfl rfl)
theorem dX2_nextToken_321 : decode cX2_nextToken 321 = .ok (.iload_n 1, 1) := dk_27 (dk_at dksX2_nextToken_13 15 rfl rfl)
theorem dX2_nextToken_322 : decode cX2_nextToken 322 = .ok (.bipush 59, 2) := dk_16 59 (dk_at dksX2_nextToken_13 16 rfl rfl)
theorem dX2_nextToken_324 : decode cX2_nextToken 324 = .ok (.if_icmp .eq 9, 3) := dk_159 0 9 (dk_at dksX2_nextToken_13 18 rfl rfl)
theorem dX2_nextToken_327 : decode cX2_nextToken 327 = .ok (.iload_n 1, 1) := dk_27 (dk_at dksX2_nextToken_13 21 rfl rfl)
theorem dX2_nextToken_328 : decode cX2_nextToken 328 = .ok (.bipush 44, 2) := dk_16 44 (dk_at dksX2_nextToken_13 22 rfl rfl)
theorem dX2_nextToken_330 : decode cX2_nextToken 330 = .ok (.if_icmp .ne 7, 3) := dk_160 0 7 (dk_at dksX2_nextToken_14 0 rfl rfl)
theorem dX2_nextToken_333 : decode cX2_nextToken 333 = .ok (.iconst 1, 1) := dk_4 (dk_at dksX2_nextToken_14 3 rfl rfl)
theorem dX2_nextToken_334 : decode cX2_nextToken 334 = .ok (.goto 4, 3) := dk_167 0 4 (dk_at dksX2_nextToken_14 4 rfl rfl)
theorem dX2_nextToken_337 : decode cX2_nextToken 337 = .ok (.iconst 0, 1) := dk_3 (dk_at dksX2_nextToken_14 7 rfl rfl)
theorem dX2_nextToken_338 : decode cX2_nextToken 338 = .ok (.istore_n 2, 1) := dk_61 (dk_at dksX2_nextToken_14 8 rfl rfl)
theorem dX2_nextToken_339 : decode cX2_nextToken 339 = .ok (.aload_n 0, 1) := dk_42 (dk_at dksX2_nextToken_14 9 rfl rfl)
theorem dX2_nextToken_340 : decode cX2_nextToken 340 = .ok (.iload_n 2, 1) := dk_28 (dk_at dksX2_nextToken_14 10 rfl rfl)
theorem dX2_nextToken_341 : decode cX2_nextToken 341 = .ok (.ifCond .eq 7, 3) := dk_153 0 7 (dk_at dksX2_nextToken_14 11 rfl rfl)
theorem dX2_nextToken_344 : decode cX2_nextToken 344 = .ok (.iload_n 1, 1) := dk_27 (dk_at dksX2_nextToken_14 14 rfl rfl)
theorem dX2_nextToken_345 : decode cX2_nextToken 345 = .ok (.goto 4, 3) := dk_167 0 4 (dk_at dksX2_nextToken_14 15 rfl rfl)
theorem dX2_nextToken_348 : decode cX2_nextToken 348 = .ok (.iconst 3, 1) := dk_6 (dk_at dksX2_nextToken_14 18 rfl rfl)
theorem dX2_nextToken_349 : decode cX2_nextToken 349 = .ok (.putfield 138, 3) := dk_181 0 138 (dk_at dksX2_nextToken_14 19 rfl rfl)
theorem dX2_nextToken_352 : decode cX2_nextToken 352 = .ok (.iload_n 1, 1) := dk_27 (dk_at dksX2_nextToken_14 22 rfl rfl)
theorem dX2_nextToken_353 : decode cX2_nextToken 353 = .ok (.bipush 60, 2) := dk_16 60 (dk_at dksX2_nextToken_15 0 rfl rfl)
theorem dX2_nextToken_355 : decode cX2_nextToken 355 = .ok (.if_icmp .eq 9, 3) := dk_159 0 9 (dk_at dksX2_nextToken_15 2 rfl rfl)
theorem dX2_nextToken_358 : decode cX2_nextToken 358 = .ok (.iload_n 1, 1) := dk_27 (dk_at dksX2_nextToken_15 5 rfl rfl)
theorem dX2_nextToken_359 : decode cX2_nextToken 359 = .ok (.bipush 62, 2) := dk_16 62 (dk_at dksX2_nextToken_15 6 rfl rfl)
theorem dX2_nextToken_361 : decode cX2_nextToken 361 = .ok (.if_icmp .ne 41, 3) := dk_160 0 41 (dk_at dksX2_nextToken_15 8 rfl rfl)
theorem dX2_nextToken_364 : decode cX2_nextToken 364 = .ok (.aload_n 0, 1) := dk_42 (dk_at dksX2_nextToken_15 11 rfl rfl)
theorem dX2_nextToken_365 : decode cX2_nextToken 365 = .ok (.aload_n 0, 1) := dk_42 (dk_at dksX2_nextToken_15 12 rfl rfl)
theorem dX2_nextToken_366 : decode cX2_nextToken 366 = .ok (.getfield 128, 3) := dk_180 0 128 (dk_at dksX2_nextToken_15 13 rfl rfl)
theorem dX2_nextToken_369 : decode cX2_nextToken 369 = .ok (.invokevirtual 131, 3) := dk_182 0 131 (dk_at dksX2_nextToken_15 16 rfl rfl)
theorem dX2_nextToken_372 : decode cX2_nextToken 372 = .ok (.bipush 61, 2) := dk_16 61 (dk_at dksX2_nextToken_15 19 rfl rfl)
theorem dX2_nextToken_374 : decode cX2_nextToken 374 = .ok (.if_icmp .ne 28, 3) := dk_160 0 28 (dk_at dksX2_nextToken_15 21 rfl rfl)
theorem dX2_nextToken_377 : decode cX2_nextToken 377 = .ok (.aload_n 0, 1) := dk_42 (dk_at dksX2_nextToken_16 0 rfl rfl)
theorem dX2_nextToken_378 : decode cX2_nextToken 378 = .ok (.dup, 1) := dk_89 (dk_at dksX2_nextToken_16 1 rfl rfl)
theorem dX2_nextToken_379 : decode cX2_nextToken 379 = .ok (.getfield 128, 3) := dk_180 0 128 (dk_at dksX2_nextToken_16 2 rfl rfl)
theorem dX2_nextToken_382 : decode cX2_nextToken 382 = .ok (.iconst 1, 1) := dk_4 (dk_at dksX2_nextToken_16 5 rfl rfl)
theorem dX2_nextToken_383 : decode cX2_nextToken 383 = .ok (.iadd, 1) := dk_96 (dk_at dksX2_nextToken_16 6 rfl rfl)
theorem dX2_nextToken_384 : decode cX2_nextToken 384 = .ok (.putfield 128, 3) := dk_181 0 128 (dk_at dksX2_nextToken_16 7 rfl rfl)
theorem dX2_nextToken_387 : decode cX2_nextToken 387 = .ok (.aload_n 0, 1) := dk_42 (dk_at dksX2_nextToken_16 10 rfl rfl)
theorem dX2_nextToken_388 : decode cX2_nextToken 388 = .ok (.iload_n 1, 1) := dk_27 (dk_at dksX2_nextToken_16 11 rfl rfl)
theorem dX2_nextToken_389 : decode cX2_nextToken 389 = .ok (.bipush 60, 2) := dk_16 60 (dk_at dksX2_nextToken_16 12 rfl rfl)
theorem dX2_nextToken_391 : decode cX2_nextToken 391 = .ok (.if_icmp .ne 7, 3) := dk_160 0 7 (dk_at dksX2_nextToken_16 14 rfl rfl)
theorem dX2_nextToken_394 : decode cX2_nextToken 394 = .ok (.iconst 4, 1) := dk_7 (dk_at dksX2_nextToken_16 17 rfl rfl)
theorem dX2_nextToken_395 : decode cX2_nextToken 395 = .ok (.goto 4, 3) := dk_167 0 4 (dk_at dksX2_nextToken_16 18 rfl rfl)
theorem dX2_nextToken_398 : decode cX2_nextToken 398 = .ok (.iconst 5, 1) := dk_8 (dk_at dksX2_nextToken_16 21 rfl rfl)
theorem dX2_nextToken_399 : decode cX2_nextToken 399 = .ok (.putfield 138, 3) := dk_181 0 138 (dk_at dksX2_nextToken_17 0 rfl rfl)
theorem dX2_nextToken_402 : decode cX2_nextToken 402 = .ok (.return_, 1) := dk_177 (dk_at dksX2_nextToken_17 3 rfl rfl)
abbrev cX2_byteAt : ByteArray := prog_17_method_18_code
def yX2_byteAt : MethodName := ⟨RX2, "byteAt", "(I)I"⟩
def dkwX2_byteAt_0 : List UInt8 := [27, 42, 180, 0, 121, 162, 0, 12, 42, 180, 0, 26, 27, 46, 167, 0, 4, 2, 172]
abbrev dktX2_byteAt_0 : List UInt8 := dkwX2_byteAt_0 ++ []
theorem dksX2_byteAt_0 : cX2_byteAt.data.toList.drop 0 = dktX2_byteAt_0 := by decide +kernel
theorem dX2_byteAt_0 : decode cX2_byteAt 0 = .ok (.iload_n 1, 1) := dk_27 (dk_at dksX2_byteAt_0 0 rfl rfl)
theorem dX2_byteAt_1 : decode cX2_byteAt 1 = .ok (.aload_n 0, 1) := dk_42 (dk_at dksX2_byteAt_0 1 rfl rfl)
theorem dX2_byteAt_2 : decode cX2_byteAt 2 = .ok (.getfield 121, 3) := dk_180 0 121 (dk_at dksX2_byteAt_0 2 rfl rfl)
theorem dX2_byteAt_5 : decode cX2_byteAt 5 = .ok (.if_icmp .ge 12, 3) := dk_162 0 12 (dk_at dksX2_byteAt_0 5 rfl rfl)
theorem dX2_byteAt_8 : decode cX2_byteAt 8 = .ok (.aload_n 0, 1) := dk_42 (dk_at dksX2_byteAt_0 8 rfl rfl)
theorem dX2_byteAt_9 : decode cX2_byteAt 9 = .ok (.getfield 26, 3) := dk_180 0 26 (dk_at dksX2_byteAt_0 9 rfl rfl)
theorem dX2_byteAt_12 : decode cX2_byteAt 12 = .ok (.iload_n 1, 1) := dk_27 (dk_at dksX2_byteAt_0 12 rfl rfl)
theorem dX2_byteAt_13 : decode cX2_byteAt 13 = .ok (.iaload, 1) := dk_46 (dk_at dksX2_byteAt_0 13 rfl rfl)
theorem dX2_byteAt_14 : decode cX2_byteAt 14 = .ok (.goto 4, 3) := dk_167 0 4 (dk_at dksX2_byteAt_0 14 rfl rfl)
theorem dX2_byteAt_17 : decode cX2_byteAt 17 = .ok (.iconst (-1), 1) := dk_2 (dk_at dksX2_byteAt_0 17 rfl rfl)
theorem dX2_byteAt_18 : decode cX2_byteAt 18 = .ok (.ireturn, 1) := dk_172 (dk_at dksX2_byteAt_0 18 rfl rfl)
abbrev cX2_isDigit : ByteArray := prog_17_method_20_code
def yX2_isDigit : MethodName := ⟨RX2, "isDigit", "(I)Z"⟩
def dkwX2_isDigit_0 : List UInt8 := [26, 16, 48, 16, 57, 184, 0, 104, 172]
abbrev dktX2_isDigit_0 : List UInt8 := dkwX2_isDigit_0 ++ []
theorem dksX2_isDigit_0 : cX2_isDigit.data.toList.drop 0 = dktX2_isDigit_0 := by decide +kernel
theorem dX2_isDigit_0 : decode cX2_isDigit 0 = .ok (.iload_n 0, 1) := dk_26 (dk_at dksX2_isDigit_0 0 rfl rfl)
theorem dX2_isDigit_1 : decode cX2_isDigit 1 = .ok (.bipush 48, 2) := dk_16 48 (dk_at dksX2_isDigit_0 1 rfl rfl)
theorem dX2_isDigit_3 : decode cX2_isDigit 3 = .ok (.bipush 57, 2) := dk_16 57 (dk_at dksX2_isDigit_0 3 rfl rfl)
theorem dX2_isDigit_5 : decode cX2_isDigit 5 = .ok (.invokestatic 104, 3) := dk_184 0 104 (dk_at dksX2_isDigit_0 5 rfl rfl)
theorem dX2_isDigit_8 : decode cX2_isDigit 8 = .ok (.ireturn, 1) := dk_172 (dk_at dksX2_isDigit_0 8 rfl rfl)
abbrev cX2_isLetter : ByteArray := prog_17_method_19_code
def yX2_isLetter : MethodName := ⟨RX2, "isLetter", "(I)Z"⟩
def dkwX2_isLetter_1 : List UInt8 := [167, 0, 4, 3, 172]
abbrev dktX2_isLetter_1 : List UInt8 := dkwX2_isLetter_1 ++ []
def dkwX2_isLetter_0 : List UInt8 := [26, 16, 97, 16, 122, 184, 0, 104, 154, 0, 14, 26, 16, 65, 16, 90, 184, 0, 104, 153, 0, 7, 4]
abbrev dktX2_isLetter_0 : List UInt8 := dkwX2_isLetter_0 ++ dktX2_isLetter_1
theorem dksX2_isLetter_0 : cX2_isLetter.data.toList.drop 0 = dktX2_isLetter_0 := by decide +kernel
theorem dksX2_isLetter_1 : cX2_isLetter.data.toList.drop 23 = dktX2_isLetter_1 := dk_seg dksX2_isLetter_0 23 rfl rfl
theorem dX2_isLetter_0 : decode cX2_isLetter 0 = .ok (.iload_n 0, 1) := dk_26 (dk_at dksX2_isLetter_0 0 rfl rfl)
theorem dX2_isLetter_1 : decode cX2_isLetter 1 = .ok (.bipush 97, 2) := dk_16 97 (dk_at dksX2_isLetter_0 1 rfl rfl)
theorem dX2_isLetter_3 : decode cX2_isLetter 3 = .ok (.bipush 122, 2) := dk_16 122 (dk_at dksX2_isLetter_0 3 rfl rfl)
theorem dX2_isLetter_5 : decode cX2_isLetter 5 = .ok (.invokestatic 104, 3) := dk_184 0 104 (dk_at dksX2_isLetter_0 5 rfl rfl)
theorem dX2_isLetter_8 : decode cX2_isLetter 8 = .ok (.ifCond .ne 14, 3) := dk_154 0 14 (dk_at dksX2_isLetter_0 8 rfl rfl)
theorem dX2_isLetter_11 : decode cX2_isLetter 11 = .ok (.iload_n 0, 1) := dk_26 (dk_at dksX2_isLetter_0 11 rfl rfl)
theorem dX2_isLetter_12 : decode cX2_isLetter 12 = .ok (.bipush 65, 2) := dk_16 65 (dk_at dksX2_isLetter_0 12 rfl rfl)
theorem dX2_isLetter_14 : decode cX2_isLetter 14 = .ok (.bipush 90, 2) := dk_16 90 (dk_at dksX2_isLetter_0 14 rfl rfl)
theorem dX2_isLetter_16 : decode cX2_isLetter 16 = .ok (.invokestatic 104, 3) := dk_184 0 104 (dk_at dksX2_isLetter_0 16 rfl rfl)
theorem dX2_isLetter_19 : decode cX2_isLetter 19 = .ok (.ifCond .eq 7, 3) := dk_153 0 7 (dk_at dksX2_isLetter_0 19 rfl rfl)
theorem dX2_isLetter_22 : decode cX2_isLetter 22 = .ok (.iconst 1, 1) := dk_4 (dk_at dksX2_isLetter_0 22 rfl rfl)
theorem dX2_isLetter_23 : decode cX2_isLetter 23 = .ok (.goto 4, 3) := dk_167 0 4 (dk_at dksX2_isLetter_1 0 rfl rfl)
theorem dX2_isLetter_26 : decode cX2_isLetter 26 = .ok (.iconst 0, 1) := dk_3 (dk_at dksX2_isLetter_1 3 rfl rfl)
theorem dX2_isLetter_27 : decode cX2_isLetter 27 = .ok (.ireturn, 1) := dk_172 (dk_at dksX2_isLetter_1 4 rfl rfl)
abbrev cX2_clause : ByteArray := prog_17_method_44_code
def yX2_clause : MethodName := ⟨RX2, "clause", "()I"⟩
def dkwX2_clause_8 : List UInt8 := [172, 42, 182, 0, 190, 3, 172]
abbrev dktX2_clause_8 : List UInt8 := dkwX2_clause_8 ++ []
def dkwX2_clause_7 : List UInt8 := [79, 42, 180, 0, 23, 42, 180, 0, 163, 92, 46, 4, 96, 79, 42, 180, 0, 138, 16, 59, 159, 0, 5, 4]
abbrev dktX2_clause_7 : List UInt8 := dkwX2_clause_7 ++ dktX2_clause_8
def dkwX2_clause_6 : List UInt8 := [162, 0, 25, 42, 180, 0, 23, 29, 4, 96, 21, 4, 79, 42, 180, 0, 23, 29, 5, 96, 42, 180, 0, 166]
abbrev dktX2_clause_6 : List UInt8 := dkwX2_clause_6 ++ dktX2_clause_7
def dkwX2_clause_5 : List UInt8 := [42, 182, 0, 226, 167, 0, 7, 42, 182, 0, 255, 54, 5, 21, 5, 153, 0, 6, 21, 5, 172, 27, 6]
abbrev dktX2_clause_5 : List UInt8 := dkwX2_clause_5 ++ dktX2_clause_6
def dkwX2_clause_4 : List UInt8 := [180, 0, 166, 54, 4, 27, 6, 161, 0, 12, 42, 29, 27, 182, 0, 251, 167, 0, 19, 27, 5, 160, 0, 10]
abbrev dktX2_clause_4 : List UInt8 := dkwX2_clause_4 ++ dktX2_clause_5
def dkwX2_clause_3 : List UInt8 := [42, 182, 0, 190, 42, 180, 0, 163, 4, 96, 6, 28, 104, 96, 62, 42, 180, 0, 23, 29, 27, 79, 42]
abbrev dktX2_clause_3 : List UInt8 := dkwX2_clause_3 ++ dktX2_clause_4
def dkwX2_clause_2 : List UInt8 := [180, 0, 248, 154, 0, 8, 27, 5, 160, 0, 7, 4, 167, 0, 4, 3, 181, 0, 248, 42, 27, 181, 0, 187]
abbrev dktX2_clause_2 : List UInt8 := dkwX2_clause_2 ++ dktX2_clause_3
def dkwX2_clause_1 : List UInt8 := [172, 42, 180, 0, 23, 42, 180, 0, 163, 46, 61, 28, 16, 24, 160, 0, 6, 16, 6, 172, 42, 42]
abbrev dktX2_clause_1 : List UInt8 := dkwX2_clause_1 ++ dktX2_clause_2
def dkwX2_clause_0 : List UInt8 := [42, 182, 0, 245, 60, 27, 154, 0, 5, 4, 172, 27, 5, 160, 0, 12, 42, 180, 0, 248, 153, 0, 5, 7]
abbrev dktX2_clause_0 : List UInt8 := dkwX2_clause_0 ++ dktX2_clause_1
theorem dksX2_clause_0 : cX2_clause.data.toList.drop 0 = dktX2_clause_0 := by decide +kernel
theorem dksX2_clause_1 : cX2_clause.data.toList.drop 24 = dktX2_clause_1 := dk_seg dksX2_clause_0 24 rfl rfl
theorem dksX2_clause_2 : cX2_clause.data.toList.drop 46 = dktX2_clause_2 := dk_seg dksX2_clause_1 22 rfl rfl
theorem dksX2_clause_3 : cX2_clause.data.toList.drop 70 = dktX2_clause_3 := dk_seg dksX2_clause_2 24 rfl rfl
theorem dksX2_clause_4 : cX2_clause.data.toList.drop 93 = dktX2_clause_4 := dk_seg dksX2_clause_3 23 rfl rfl
theorem dksX2_clause_5 : cX2_clause.data.toList.drop 117 = dktX2_clause_5 := dk_seg dksX2_clause_4 24 rfl rfl
theorem dksX2_clause_6 : cX2_clause.data.toList.drop 140 = dktX2_clause_6 := dk_seg dksX2_clause_5 23 rfl rfl
theorem dksX2_clause_7 : cX2_clause.data.toList.drop 164 = dktX2_clause_7 := dk_seg dksX2_clause_6 24 rfl rfl
theorem dksX2_clause_8 : cX2_clause.data.toList.drop 188 = dktX2_clause_8 := dk_seg dksX2_clause_7 24 rfl rfl
theorem dX2_clause_0 : decode cX2_clause 0 = .ok (.aload_n 0, 1) := dk_42 (dk_at dksX2_clause_0 0 rfl rfl)
theorem dX2_clause_1 : decode cX2_clause 1 = .ok (.invokevirtual 245, 3) := dk_182 0 245 (dk_at dksX2_clause_0 1 rfl rfl)
theorem dX2_clause_4 : decode cX2_clause 4 = .ok (.istore_n 1, 1) := dk_60 (dk_at dksX2_clause_0 4 rfl rfl)
theorem dX2_clause_5 : decode cX2_clause 5 = .ok (.iload_n 1, 1) := dk_27 (dk_at dksX2_clause_0 5 rfl rfl)
theorem dX2_clause_6 : decode cX2_clause 6 = .ok (.ifCond .ne 5, 3) := dk_154 0 5 (dk_at dksX2_clause_0 6 rfl rfl)
theorem dX2_clause_9 : decode cX2_clause 9 = .ok (.iconst 1, 1) := dk_4 (dk_at dksX2_clause_0 9 rfl rfl)
theorem dX2_clause_10 : decode cX2_clause 10 = .ok (.ireturn, 1) := dk_172 (dk_at dksX2_clause_0 10 rfl rfl)
theorem dX2_clause_11 : decode cX2_clause 11 = .ok (.iload_n 1, 1) := dk_27 (dk_at dksX2_clause_0 11 rfl rfl)
theorem dX2_clause_12 : decode cX2_clause 12 = .ok (.iconst 2, 1) := dk_5 (dk_at dksX2_clause_0 12 rfl rfl)
theorem dX2_clause_13 : decode cX2_clause 13 = .ok (.if_icmp .ne 12, 3) := dk_160 0 12 (dk_at dksX2_clause_0 13 rfl rfl)
theorem dX2_clause_16 : decode cX2_clause 16 = .ok (.aload_n 0, 1) := dk_42 (dk_at dksX2_clause_0 16 rfl rfl)
theorem dX2_clause_17 : decode cX2_clause 17 = .ok (.getfield 248, 3) := dk_180 0 248 (dk_at dksX2_clause_0 17 rfl rfl)
theorem dX2_clause_20 : decode cX2_clause 20 = .ok (.ifCond .eq 5, 3) := dk_153 0 5 (dk_at dksX2_clause_0 20 rfl rfl)
theorem dX2_clause_23 : decode cX2_clause 23 = .ok (.iconst 4, 1) := dk_7 (dk_at dksX2_clause_0 23 rfl rfl)
theorem dX2_clause_24 : decode cX2_clause 24 = .ok (.ireturn, 1) := dk_172 (dk_at dksX2_clause_1 0 rfl rfl)
theorem dX2_clause_25 : decode cX2_clause 25 = .ok (.aload_n 0, 1) := dk_42 (dk_at dksX2_clause_1 1 rfl rfl)
theorem dX2_clause_26 : decode cX2_clause 26 = .ok (.getfield 23, 3) := dk_180 0 23 (dk_at dksX2_clause_1 2 rfl rfl)
theorem dX2_clause_29 : decode cX2_clause 29 = .ok (.aload_n 0, 1) := dk_42 (dk_at dksX2_clause_1 5 rfl rfl)
theorem dX2_clause_30 : decode cX2_clause 30 = .ok (.getfield 163, 3) := dk_180 0 163 (dk_at dksX2_clause_1 6 rfl rfl)
theorem dX2_clause_33 : decode cX2_clause 33 = .ok (.iaload, 1) := dk_46 (dk_at dksX2_clause_1 9 rfl rfl)
theorem dX2_clause_34 : decode cX2_clause 34 = .ok (.istore_n 2, 1) := dk_61 (dk_at dksX2_clause_1 10 rfl rfl)
theorem dX2_clause_35 : decode cX2_clause 35 = .ok (.iload_n 2, 1) := dk_28 (dk_at dksX2_clause_1 11 rfl rfl)
theorem dX2_clause_36 : decode cX2_clause 36 = .ok (.bipush 24, 2) := dk_16 24 (dk_at dksX2_clause_1 12 rfl rfl)
theorem dX2_clause_38 : decode cX2_clause 38 = .ok (.if_icmp .ne 6, 3) := dk_160 0 6 (dk_at dksX2_clause_1 14 rfl rfl)
theorem dX2_clause_41 : decode cX2_clause 41 = .ok (.bipush 6, 2) := dk_16 6 (dk_at dksX2_clause_1 17 rfl rfl)
theorem dX2_clause_43 : decode cX2_clause 43 = .ok (.ireturn, 1) := dk_172 (dk_at dksX2_clause_1 19 rfl rfl)
theorem dX2_clause_44 : decode cX2_clause 44 = .ok (.aload_n 0, 1) := dk_42 (dk_at dksX2_clause_1 20 rfl rfl)
theorem dX2_clause_45 : decode cX2_clause 45 = .ok (.aload_n 0, 1) := dk_42 (dk_at dksX2_clause_1 21 rfl rfl)
theorem dX2_clause_46 : decode cX2_clause 46 = .ok (.getfield 248, 3) := dk_180 0 248 (dk_at dksX2_clause_2 0 rfl rfl)
theorem dX2_clause_49 : decode cX2_clause 49 = .ok (.ifCond .ne 8, 3) := dk_154 0 8 (dk_at dksX2_clause_2 3 rfl rfl)
theorem dX2_clause_52 : decode cX2_clause 52 = .ok (.iload_n 1, 1) := dk_27 (dk_at dksX2_clause_2 6 rfl rfl)
theorem dX2_clause_53 : decode cX2_clause 53 = .ok (.iconst 2, 1) := dk_5 (dk_at dksX2_clause_2 7 rfl rfl)
theorem dX2_clause_54 : decode cX2_clause 54 = .ok (.if_icmp .ne 7, 3) := dk_160 0 7 (dk_at dksX2_clause_2 8 rfl rfl)
theorem dX2_clause_57 : decode cX2_clause 57 = .ok (.iconst 1, 1) := dk_4 (dk_at dksX2_clause_2 11 rfl rfl)
theorem dX2_clause_58 : decode cX2_clause 58 = .ok (.goto 4, 3) := dk_167 0 4 (dk_at dksX2_clause_2 12 rfl rfl)
theorem dX2_clause_61 : decode cX2_clause 61 = .ok (.iconst 0, 1) := dk_3 (dk_at dksX2_clause_2 15 rfl rfl)
theorem dX2_clause_62 : decode cX2_clause 62 = .ok (.putfield 248, 3) := dk_181 0 248 (dk_at dksX2_clause_2 16 rfl rfl)
theorem dX2_clause_65 : decode cX2_clause 65 = .ok (.aload_n 0, 1) := dk_42 (dk_at dksX2_clause_2 19 rfl rfl)
theorem dX2_clause_66 : decode cX2_clause 66 = .ok (.iload_n 1, 1) := dk_27 (dk_at dksX2_clause_2 20 rfl rfl)
theorem dX2_clause_67 : decode cX2_clause 67 = .ok (.putfield 187, 3) := dk_181 0 187 (dk_at dksX2_clause_2 21 rfl rfl)
theorem dX2_clause_70 : decode cX2_clause 70 = .ok (.aload_n 0, 1) := dk_42 (dk_at dksX2_clause_3 0 rfl rfl)
theorem dX2_clause_71 : decode cX2_clause 71 = .ok (.invokevirtual 190, 3) := dk_182 0 190 (dk_at dksX2_clause_3 1 rfl rfl)
theorem dX2_clause_74 : decode cX2_clause 74 = .ok (.aload_n 0, 1) := dk_42 (dk_at dksX2_clause_3 4 rfl rfl)
theorem dX2_clause_75 : decode cX2_clause 75 = .ok (.getfield 163, 3) := dk_180 0 163 (dk_at dksX2_clause_3 5 rfl rfl)
theorem dX2_clause_78 : decode cX2_clause 78 = .ok (.iconst 1, 1) := dk_4 (dk_at dksX2_clause_3 8 rfl rfl)
theorem dX2_clause_79 : decode cX2_clause 79 = .ok (.iadd, 1) := dk_96 (dk_at dksX2_clause_3 9 rfl rfl)
theorem dX2_clause_80 : decode cX2_clause 80 = .ok (.iconst 3, 1) := dk_6 (dk_at dksX2_clause_3 10 rfl rfl)
theorem dX2_clause_81 : decode cX2_clause 81 = .ok (.iload_n 2, 1) := dk_28 (dk_at dksX2_clause_3 11 rfl rfl)
theorem dX2_clause_82 : decode cX2_clause 82 = .ok (.imul, 1) := dk_104 (dk_at dksX2_clause_3 12 rfl rfl)
theorem dX2_clause_83 : decode cX2_clause 83 = .ok (.iadd, 1) := dk_96 (dk_at dksX2_clause_3 13 rfl rfl)
theorem dX2_clause_84 : decode cX2_clause 84 = .ok (.istore_n 3, 1) := dk_62 (dk_at dksX2_clause_3 14 rfl rfl)
theorem dX2_clause_85 : decode cX2_clause 85 = .ok (.aload_n 0, 1) := dk_42 (dk_at dksX2_clause_3 15 rfl rfl)
theorem dX2_clause_86 : decode cX2_clause 86 = .ok (.getfield 23, 3) := dk_180 0 23 (dk_at dksX2_clause_3 16 rfl rfl)
theorem dX2_clause_89 : decode cX2_clause 89 = .ok (.iload_n 3, 1) := dk_29 (dk_at dksX2_clause_3 19 rfl rfl)
theorem dX2_clause_90 : decode cX2_clause 90 = .ok (.iload_n 1, 1) := dk_27 (dk_at dksX2_clause_3 20 rfl rfl)
theorem dX2_clause_91 : decode cX2_clause 91 = .ok (.iastore, 1) := dk_79 (dk_at dksX2_clause_3 21 rfl rfl)
theorem dX2_clause_92 : decode cX2_clause 92 = .ok (.aload_n 0, 1) := dk_42 (dk_at dksX2_clause_3 22 rfl rfl)
theorem dX2_clause_93 : decode cX2_clause 93 = .ok (.getfield 166, 3) := dk_180 0 166 (dk_at dksX2_clause_4 0 rfl rfl)
theorem dX2_clause_96 : decode cX2_clause 96 = .ok (.istore 4, 2) := dk_54 4 (dk_at dksX2_clause_4 3 rfl rfl)
theorem dX2_clause_98 : decode cX2_clause 98 = .ok (.iload_n 1, 1) := dk_27 (dk_at dksX2_clause_4 5 rfl rfl)
theorem dX2_clause_99 : decode cX2_clause 99 = .ok (.iconst 3, 1) := dk_6 (dk_at dksX2_clause_4 6 rfl rfl)
theorem dX2_clause_100 : decode cX2_clause 100 = .ok (.if_icmp .lt 12, 3) := dk_161 0 12 (dk_at dksX2_clause_4 7 rfl rfl)
theorem dX2_clause_103 : decode cX2_clause 103 = .ok (.aload_n 0, 1) := dk_42 (dk_at dksX2_clause_4 10 rfl rfl)
theorem dX2_clause_104 : decode cX2_clause 104 = .ok (.iload_n 3, 1) := dk_29 (dk_at dksX2_clause_4 11 rfl rfl)
theorem dX2_clause_105 : decode cX2_clause 105 = .ok (.iload_n 1, 1) := dk_27 (dk_at dksX2_clause_4 12 rfl rfl)
theorem dX2_clause_106 : decode cX2_clause 106 = .ok (.invokevirtual 251, 3) := dk_182 0 251 (dk_at dksX2_clause_4 13 rfl rfl)
theorem dX2_clause_109 : decode cX2_clause 109 = .ok (.goto 19, 3) := dk_167 0 19 (dk_at dksX2_clause_4 16 rfl rfl)
theorem dX2_clause_112 : decode cX2_clause 112 = .ok (.iload_n 1, 1) := dk_27 (dk_at dksX2_clause_4 19 rfl rfl)
theorem dX2_clause_113 : decode cX2_clause 113 = .ok (.iconst 2, 1) := dk_5 (dk_at dksX2_clause_4 20 rfl rfl)
theorem dX2_clause_114 : decode cX2_clause 114 = .ok (.if_icmp .ne 10, 3) := dk_160 0 10 (dk_at dksX2_clause_4 21 rfl rfl)
theorem dX2_clause_117 : decode cX2_clause 117 = .ok (.aload_n 0, 1) := dk_42 (dk_at dksX2_clause_5 0 rfl rfl)
theorem dX2_clause_118 : decode cX2_clause 118 = .ok (.invokevirtual 226, 3) := dk_182 0 226 (dk_at dksX2_clause_5 1 rfl rfl)
theorem dX2_clause_121 : decode cX2_clause 121 = .ok (.goto 7, 3) := dk_167 0 7 (dk_at dksX2_clause_5 4 rfl rfl)
theorem dX2_clause_124 : decode cX2_clause 124 = .ok (.aload_n 0, 1) := dk_42 (dk_at dksX2_clause_5 7 rfl rfl)
theorem dX2_clause_125 : decode cX2_clause 125 = .ok (.invokevirtual 255, 3) := dk_182 0 255 (dk_at dksX2_clause_5 8 rfl rfl)
theorem dX2_clause_128 : decode cX2_clause 128 = .ok (.istore 5, 2) := dk_54 5 (dk_at dksX2_clause_5 11 rfl rfl)
theorem dX2_clause_130 : decode cX2_clause 130 = .ok (.iload 5, 2) := dk_21 5 (dk_at dksX2_clause_5 13 rfl rfl)
theorem dX2_clause_132 : decode cX2_clause 132 = .ok (.ifCond .eq 6, 3) := dk_153 0 6 (dk_at dksX2_clause_5 15 rfl rfl)
theorem dX2_clause_135 : decode cX2_clause 135 = .ok (.iload 5, 2) := dk_21 5 (dk_at dksX2_clause_5 18 rfl rfl)
theorem dX2_clause_137 : decode cX2_clause 137 = .ok (.ireturn, 1) := dk_172 (dk_at dksX2_clause_5 20 rfl rfl)
theorem dX2_clause_138 : decode cX2_clause 138 = .ok (.iload_n 1, 1) := dk_27 (dk_at dksX2_clause_5 21 rfl rfl)
theorem dX2_clause_139 : decode cX2_clause 139 = .ok (.iconst 3, 1) := dk_6 (dk_at dksX2_clause_5 22 rfl rfl)
theorem dX2_clause_140 : decode cX2_clause 140 = .ok (.if_icmp .ge 25, 3) := dk_162 0 25 (dk_at dksX2_clause_6 0 rfl rfl)
theorem dX2_clause_143 : decode cX2_clause 143 = .ok (.aload_n 0, 1) := dk_42 (dk_at dksX2_clause_6 3 rfl rfl)
theorem dX2_clause_144 : decode cX2_clause 144 = .ok (.getfield 23, 3) := dk_180 0 23 (dk_at dksX2_clause_6 4 rfl rfl)
theorem dX2_clause_147 : decode cX2_clause 147 = .ok (.iload_n 3, 1) := dk_29 (dk_at dksX2_clause_6 7 rfl rfl)
theorem dX2_clause_148 : decode cX2_clause 148 = .ok (.iconst 1, 1) := dk_4 (dk_at dksX2_clause_6 8 rfl rfl)
theorem dX2_clause_149 : decode cX2_clause 149 = .ok (.iadd, 1) := dk_96 (dk_at dksX2_clause_6 9 rfl rfl)
theorem dX2_clause_150 : decode cX2_clause 150 = .ok (.iload 4, 2) := dk_21 4 (dk_at dksX2_clause_6 10 rfl rfl)
theorem dX2_clause_152 : decode cX2_clause 152 = .ok (.iastore, 1) := dk_79 (dk_at dksX2_clause_6 12 rfl rfl)
theorem dX2_clause_153 : decode cX2_clause 153 = .ok (.aload_n 0, 1) := dk_42 (dk_at dksX2_clause_6 13 rfl rfl)
theorem dX2_clause_154 : decode cX2_clause 154 = .ok (.getfield 23, 3) := dk_180 0 23 (dk_at dksX2_clause_6 14 rfl rfl)
theorem dX2_clause_157 : decode cX2_clause 157 = .ok (.iload_n 3, 1) := dk_29 (dk_at dksX2_clause_6 17 rfl rfl)
theorem dX2_clause_158 : decode cX2_clause 158 = .ok (.iconst 2, 1) := dk_5 (dk_at dksX2_clause_6 18 rfl rfl)
theorem dX2_clause_159 : decode cX2_clause 159 = .ok (.iadd, 1) := dk_96 (dk_at dksX2_clause_6 19 rfl rfl)
theorem dX2_clause_160 : decode cX2_clause 160 = .ok (.aload_n 0, 1) := dk_42 (dk_at dksX2_clause_6 20 rfl rfl)
theorem dX2_clause_161 : decode cX2_clause 161 = .ok (.getfield 166, 3) := dk_180 0 166 (dk_at dksX2_clause_6 21 rfl rfl)
theorem dX2_clause_164 : decode cX2_clause 164 = .ok (.iastore, 1) := dk_79 (dk_at dksX2_clause_7 0 rfl rfl)
theorem dX2_clause_165 : decode cX2_clause 165 = .ok (.aload_n 0, 1) := dk_42 (dk_at dksX2_clause_7 1 rfl rfl)
theorem dX2_clause_166 : decode cX2_clause 166 = .ok (.getfield 23, 3) := dk_180 0 23 (dk_at dksX2_clause_7 2 rfl rfl)
theorem dX2_clause_169 : decode cX2_clause 169 = .ok (.aload_n 0, 1) := dk_42 (dk_at dksX2_clause_7 5 rfl rfl)
theorem dX2_clause_170 : decode cX2_clause 170 = .ok (.getfield 163, 3) := dk_180 0 163 (dk_at dksX2_clause_7 6 rfl rfl)
theorem dX2_clause_173 : decode cX2_clause 173 = .ok (.dup2, 1) := dk_92 (dk_at dksX2_clause_7 9 rfl rfl)
theorem dX2_clause_174 : decode cX2_clause 174 = .ok (.iaload, 1) := dk_46 (dk_at dksX2_clause_7 10 rfl rfl)
theorem dX2_clause_175 : decode cX2_clause 175 = .ok (.iconst 1, 1) := dk_4 (dk_at dksX2_clause_7 11 rfl rfl)
theorem dX2_clause_176 : decode cX2_clause 176 = .ok (.iadd, 1) := dk_96 (dk_at dksX2_clause_7 12 rfl rfl)
theorem dX2_clause_177 : decode cX2_clause 177 = .ok (.iastore, 1) := dk_79 (dk_at dksX2_clause_7 13 rfl rfl)
theorem dX2_clause_178 : decode cX2_clause 178 = .ok (.aload_n 0, 1) := dk_42 (dk_at dksX2_clause_7 14 rfl rfl)
theorem dX2_clause_179 : decode cX2_clause 179 = .ok (.getfield 138, 3) := dk_180 0 138 (dk_at dksX2_clause_7 15 rfl rfl)
theorem dX2_clause_182 : decode cX2_clause 182 = .ok (.bipush 59, 2) := dk_16 59 (dk_at dksX2_clause_7 18 rfl rfl)
theorem dX2_clause_184 : decode cX2_clause 184 = .ok (.if_icmp .eq 5, 3) := dk_159 0 5 (dk_at dksX2_clause_7 20 rfl rfl)
theorem dX2_clause_187 : decode cX2_clause 187 = .ok (.iconst 1, 1) := dk_4 (dk_at dksX2_clause_7 23 rfl rfl)
theorem dX2_clause_188 : decode cX2_clause 188 = .ok (.ireturn, 1) := dk_172 (dk_at dksX2_clause_8 0 rfl rfl)
theorem dX2_clause_189 : decode cX2_clause 189 = .ok (.aload_n 0, 1) := dk_42 (dk_at dksX2_clause_8 1 rfl rfl)
theorem dX2_clause_190 : decode cX2_clause 190 = .ok (.invokevirtual 190, 3) := dk_182 0 190 (dk_at dksX2_clause_8 2 rfl rfl)
theorem dX2_clause_193 : decode cX2_clause 193 = .ok (.iconst 0, 1) := dk_3 (dk_at dksX2_clause_8 5 rfl rfl)
theorem dX2_clause_194 : decode cX2_clause 194 = .ok (.ireturn, 1) := dk_172 (dk_at dksX2_clause_8 6 rfl rfl)
abbrev cX2_sortOf : ByteArray := prog_17_method_41_code
def yX2_sortOf : MethodName := ⟨RX2, "sortOf", "()I"⟩
def dkwX2_sortOf_3 : List UInt8 := [16, 101, 16, 97, 16, 114, 184, 0, 237, 182, 0, 222, 153, 0, 7, 7, 167, 0, 4, 3, 172]
abbrev dktX2_sortOf_3 : List UInt8 := dkwX2_sortOf_3 ++ []
def dkwX2_sortOf_2 : List UInt8 := [16, 114, 16, 115, 16, 111, 16, 110, 184, 0, 183, 182, 0, 222, 153, 0, 7, 6, 167, 0, 26, 42, 16, 110]
abbrev dktX2_sortOf_2 : List UInt8 := dkwX2_sortOf_2 ++ dktX2_sortOf_3
def dkwX2_sortOf_1 : List UInt8 := [16, 111, 16, 114, 16, 116, 16, 104, 184, 0, 159, 182, 0, 222, 153, 0, 5, 5, 172, 42, 16, 112, 16, 101]
abbrev dktX2_sortOf_1 : List UInt8 := dkwX2_sortOf_1 ++ dktX2_sortOf_2
def dkwX2_sortOf_0 : List UInt8 := [42, 16, 98, 16, 97, 16, 114, 16, 115, 184, 0, 237, 182, 0, 222, 153, 0, 5, 4, 172, 42, 16, 119]
abbrev dktX2_sortOf_0 : List UInt8 := dkwX2_sortOf_0 ++ dktX2_sortOf_1
theorem dksX2_sortOf_0 : cX2_sortOf.data.toList.drop 0 = dktX2_sortOf_0 := by decide +kernel
theorem dksX2_sortOf_1 : cX2_sortOf.data.toList.drop 23 = dktX2_sortOf_1 := dk_seg dksX2_sortOf_0 23 rfl rfl
theorem dksX2_sortOf_2 : cX2_sortOf.data.toList.drop 47 = dktX2_sortOf_2 := dk_seg dksX2_sortOf_1 24 rfl rfl
theorem dksX2_sortOf_3 : cX2_sortOf.data.toList.drop 71 = dktX2_sortOf_3 := dk_seg dksX2_sortOf_2 24 rfl rfl
theorem dX2_sortOf_0 : decode cX2_sortOf 0 = .ok (.aload_n 0, 1) := dk_42 (dk_at dksX2_sortOf_0 0 rfl rfl)
theorem dX2_sortOf_1 : decode cX2_sortOf 1 = .ok (.bipush 98, 2) := dk_16 98 (dk_at dksX2_sortOf_0 1 rfl rfl)
theorem dX2_sortOf_3 : decode cX2_sortOf 3 = .ok (.bipush 97, 2) := dk_16 97 (dk_at dksX2_sortOf_0 3 rfl rfl)
theorem dX2_sortOf_5 : decode cX2_sortOf 5 = .ok (.bipush 114, 2) := dk_16 114 (dk_at dksX2_sortOf_0 5 rfl rfl)
theorem dX2_sortOf_7 : decode cX2_sortOf 7 = .ok (.bipush 115, 2) := dk_16 115 (dk_at dksX2_sortOf_0 7 rfl rfl)
theorem dX2_sortOf_9 : decode cX2_sortOf 9 = .ok (.invokestatic 237, 3) := dk_184 0 237 (dk_at dksX2_sortOf_0 9 rfl rfl)
theorem dX2_sortOf_12 : decode cX2_sortOf 12 = .ok (.invokevirtual 222, 3) := dk_182 0 222 (dk_at dksX2_sortOf_0 12 rfl rfl)
theorem dX2_sortOf_15 : decode cX2_sortOf 15 = .ok (.ifCond .eq 5, 3) := dk_153 0 5 (dk_at dksX2_sortOf_0 15 rfl rfl)
theorem dX2_sortOf_18 : decode cX2_sortOf 18 = .ok (.iconst 1, 1) := dk_4 (dk_at dksX2_sortOf_0 18 rfl rfl)
theorem dX2_sortOf_19 : decode cX2_sortOf 19 = .ok (.ireturn, 1) := dk_172 (dk_at dksX2_sortOf_0 19 rfl rfl)
theorem dX2_sortOf_20 : decode cX2_sortOf 20 = .ok (.aload_n 0, 1) := dk_42 (dk_at dksX2_sortOf_0 20 rfl rfl)
theorem dX2_sortOf_21 : decode cX2_sortOf 21 = .ok (.bipush 119, 2) := dk_16 119 (dk_at dksX2_sortOf_0 21 rfl rfl)
theorem dX2_sortOf_23 : decode cX2_sortOf 23 = .ok (.bipush 111, 2) := dk_16 111 (dk_at dksX2_sortOf_1 0 rfl rfl)
theorem dX2_sortOf_25 : decode cX2_sortOf 25 = .ok (.bipush 114, 2) := dk_16 114 (dk_at dksX2_sortOf_1 2 rfl rfl)
theorem dX2_sortOf_27 : decode cX2_sortOf 27 = .ok (.bipush 116, 2) := dk_16 116 (dk_at dksX2_sortOf_1 4 rfl rfl)
theorem dX2_sortOf_29 : decode cX2_sortOf 29 = .ok (.bipush 104, 2) := dk_16 104 (dk_at dksX2_sortOf_1 6 rfl rfl)
theorem dX2_sortOf_31 : decode cX2_sortOf 31 = .ok (.invokestatic 159, 3) := dk_184 0 159 (dk_at dksX2_sortOf_1 8 rfl rfl)
theorem dX2_sortOf_34 : decode cX2_sortOf 34 = .ok (.invokevirtual 222, 3) := dk_182 0 222 (dk_at dksX2_sortOf_1 11 rfl rfl)
theorem dX2_sortOf_37 : decode cX2_sortOf 37 = .ok (.ifCond .eq 5, 3) := dk_153 0 5 (dk_at dksX2_sortOf_1 14 rfl rfl)
theorem dX2_sortOf_40 : decode cX2_sortOf 40 = .ok (.iconst 2, 1) := dk_5 (dk_at dksX2_sortOf_1 17 rfl rfl)
theorem dX2_sortOf_41 : decode cX2_sortOf 41 = .ok (.ireturn, 1) := dk_172 (dk_at dksX2_sortOf_1 18 rfl rfl)
theorem dX2_sortOf_42 : decode cX2_sortOf 42 = .ok (.aload_n 0, 1) := dk_42 (dk_at dksX2_sortOf_1 19 rfl rfl)
theorem dX2_sortOf_43 : decode cX2_sortOf 43 = .ok (.bipush 112, 2) := dk_16 112 (dk_at dksX2_sortOf_1 20 rfl rfl)
theorem dX2_sortOf_45 : decode cX2_sortOf 45 = .ok (.bipush 101, 2) := dk_16 101 (dk_at dksX2_sortOf_1 22 rfl rfl)
theorem dX2_sortOf_47 : decode cX2_sortOf 47 = .ok (.bipush 114, 2) := dk_16 114 (dk_at dksX2_sortOf_2 0 rfl rfl)
theorem dX2_sortOf_49 : decode cX2_sortOf 49 = .ok (.bipush 115, 2) := dk_16 115 (dk_at dksX2_sortOf_2 2 rfl rfl)
theorem dX2_sortOf_51 : decode cX2_sortOf 51 = .ok (.bipush 111, 2) := dk_16 111 (dk_at dksX2_sortOf_2 4 rfl rfl)
theorem dX2_sortOf_53 : decode cX2_sortOf 53 = .ok (.bipush 110, 2) := dk_16 110 (dk_at dksX2_sortOf_2 6 rfl rfl)
theorem dX2_sortOf_55 : decode cX2_sortOf 55 = .ok (.invokestatic 183, 3) := dk_184 0 183 (dk_at dksX2_sortOf_2 8 rfl rfl)
theorem dX2_sortOf_58 : decode cX2_sortOf 58 = .ok (.invokevirtual 222, 3) := dk_182 0 222 (dk_at dksX2_sortOf_2 11 rfl rfl)
theorem dX2_sortOf_61 : decode cX2_sortOf 61 = .ok (.ifCond .eq 7, 3) := dk_153 0 7 (dk_at dksX2_sortOf_2 14 rfl rfl)
theorem dX2_sortOf_64 : decode cX2_sortOf 64 = .ok (.iconst 3, 1) := dk_6 (dk_at dksX2_sortOf_2 17 rfl rfl)
theorem dX2_sortOf_65 : decode cX2_sortOf 65 = .ok (.goto 26, 3) := dk_167 0 26 (dk_at dksX2_sortOf_2 18 rfl rfl)
theorem dX2_sortOf_68 : decode cX2_sortOf 68 = .ok (.aload_n 0, 1) := dk_42 (dk_at dksX2_sortOf_2 21 rfl rfl)
theorem dX2_sortOf_69 : decode cX2_sortOf 69 = .ok (.bipush 110, 2) := dk_16 110 (dk_at dksX2_sortOf_2 22 rfl rfl)
theorem dX2_sortOf_71 : decode cX2_sortOf 71 = .ok (.bipush 101, 2) := dk_16 101 (dk_at dksX2_sortOf_3 0 rfl rfl)
theorem dX2_sortOf_73 : decode cX2_sortOf 73 = .ok (.bipush 97, 2) := dk_16 97 (dk_at dksX2_sortOf_3 2 rfl rfl)
theorem dX2_sortOf_75 : decode cX2_sortOf 75 = .ok (.bipush 114, 2) := dk_16 114 (dk_at dksX2_sortOf_3 4 rfl rfl)
theorem dX2_sortOf_77 : decode cX2_sortOf 77 = .ok (.invokestatic 237, 3) := dk_184 0 237 (dk_at dksX2_sortOf_3 6 rfl rfl)
theorem dX2_sortOf_80 : decode cX2_sortOf 80 = .ok (.invokevirtual 222, 3) := dk_182 0 222 (dk_at dksX2_sortOf_3 9 rfl rfl)
theorem dX2_sortOf_83 : decode cX2_sortOf 83 = .ok (.ifCond .eq 7, 3) := dk_153 0 7 (dk_at dksX2_sortOf_3 12 rfl rfl)
theorem dX2_sortOf_86 : decode cX2_sortOf 86 = .ok (.iconst 4, 1) := dk_7 (dk_at dksX2_sortOf_3 15 rfl rfl)
theorem dX2_sortOf_87 : decode cX2_sortOf 87 = .ok (.goto 4, 3) := dk_167 0 4 (dk_at dksX2_sortOf_3 16 rfl rfl)
theorem dX2_sortOf_90 : decode cX2_sortOf 90 = .ok (.iconst 0, 1) := dk_3 (dk_at dksX2_sortOf_3 19 rfl rfl)
theorem dX2_sortOf_91 : decode cX2_sortOf 91 = .ok (.ireturn, 1) := dk_172 (dk_at dksX2_sortOf_3 20 rfl rfl)
abbrev cX2_w4 : ByteArray := prog_17_method_24_code
def yX2_w4 : MethodName := ⟨RX2, "w4", "(IIII)J"⟩
def dkwX2_w4_0 : List UInt8 := [26, 27, 28, 184, 0, 155, 16, 8, 121, 29, 133, 129, 173]
abbrev dktX2_w4_0 : List UInt8 := dkwX2_w4_0 ++ []
theorem dksX2_w4_0 : cX2_w4.data.toList.drop 0 = dktX2_w4_0 := by decide +kernel
theorem dX2_w4_0 : decode cX2_w4 0 = .ok (.iload_n 0, 1) := dk_26 (dk_at dksX2_w4_0 0 rfl rfl)
theorem dX2_w4_1 : decode cX2_w4 1 = .ok (.iload_n 1, 1) := dk_27 (dk_at dksX2_w4_0 1 rfl rfl)
theorem dX2_w4_2 : decode cX2_w4 2 = .ok (.iload_n 2, 1) := dk_28 (dk_at dksX2_w4_0 2 rfl rfl)
theorem dX2_w4_3 : decode cX2_w4 3 = .ok (.invokestatic 155, 3) := dk_184 0 155 (dk_at dksX2_w4_0 3 rfl rfl)
theorem dX2_w4_6 : decode cX2_w4 6 = .ok (.bipush 8, 2) := dk_16 8 (dk_at dksX2_w4_0 6 rfl rfl)
theorem dX2_w4_8 : decode cX2_w4 8 = .ok (.lshl, 1) := dk_121 (dk_at dksX2_w4_0 8 rfl rfl)
theorem dX2_w4_9 : decode cX2_w4 9 = .ok (.iload_n 3, 1) := dk_29 (dk_at dksX2_w4_0 9 rfl rfl)
theorem dX2_w4_10 : decode cX2_w4 10 = .ok (.i2l, 1) := dk_133 (dk_at dksX2_w4_0 10 rfl rfl)
theorem dX2_w4_11 : decode cX2_w4 11 = .ok (.lor, 1) := dk_129 (dk_at dksX2_w4_0 11 rfl rfl)
theorem dX2_w4_12 : decode cX2_w4 12 = .ok (.lreturn, 1) := dk_173 (dk_at dksX2_w4_0 12 rfl rfl)
abbrev cX2_w3 : ByteArray := prog_17_method_22_code
def yX2_w3 : MethodName := ⟨RX2, "w3", "(III)J"⟩
def dkwX2_w3_0 : List UInt8 := [26, 133, 16, 8, 121, 27, 133, 129, 16, 8, 121, 28, 133, 129, 173]
abbrev dktX2_w3_0 : List UInt8 := dkwX2_w3_0 ++ []
theorem dksX2_w3_0 : cX2_w3.data.toList.drop 0 = dktX2_w3_0 := by decide +kernel
theorem dX2_w3_0 : decode cX2_w3 0 = .ok (.iload_n 0, 1) := dk_26 (dk_at dksX2_w3_0 0 rfl rfl)
theorem dX2_w3_1 : decode cX2_w3 1 = .ok (.i2l, 1) := dk_133 (dk_at dksX2_w3_0 1 rfl rfl)
theorem dX2_w3_2 : decode cX2_w3 2 = .ok (.bipush 8, 2) := dk_16 8 (dk_at dksX2_w3_0 2 rfl rfl)
theorem dX2_w3_4 : decode cX2_w3 4 = .ok (.lshl, 1) := dk_121 (dk_at dksX2_w3_0 4 rfl rfl)
theorem dX2_w3_5 : decode cX2_w3 5 = .ok (.iload_n 1, 1) := dk_27 (dk_at dksX2_w3_0 5 rfl rfl)
theorem dX2_w3_6 : decode cX2_w3 6 = .ok (.i2l, 1) := dk_133 (dk_at dksX2_w3_0 6 rfl rfl)
theorem dX2_w3_7 : decode cX2_w3 7 = .ok (.lor, 1) := dk_129 (dk_at dksX2_w3_0 7 rfl rfl)
theorem dX2_w3_8 : decode cX2_w3 8 = .ok (.bipush 8, 2) := dk_16 8 (dk_at dksX2_w3_0 8 rfl rfl)
theorem dX2_w3_10 : decode cX2_w3 10 = .ok (.lshl, 1) := dk_121 (dk_at dksX2_w3_0 10 rfl rfl)
theorem dX2_w3_11 : decode cX2_w3 11 = .ok (.iload_n 2, 1) := dk_28 (dk_at dksX2_w3_0 11 rfl rfl)
theorem dX2_w3_12 : decode cX2_w3 12 = .ok (.i2l, 1) := dk_133 (dk_at dksX2_w3_0 12 rfl rfl)
theorem dX2_w3_13 : decode cX2_w3 13 = .ok (.lor, 1) := dk_129 (dk_at dksX2_w3_0 13 rfl rfl)
theorem dX2_w3_14 : decode cX2_w3 14 = .ok (.lreturn, 1) := dk_173 (dk_at dksX2_w3_0 14 rfl rfl)
abbrev cX2_isWord : ByteArray := prog_17_method_26_code
def yX2_isWord : MethodName := ⟨RX2, "isWord", "(J)Z"⟩
def dkwX2_isWord_0 : List UInt8 := [42, 180, 0, 138, 5, 160, 0, 16, 42, 180, 0, 151, 31, 148, 154, 0, 7, 4, 167, 0, 4, 3, 172]
abbrev dktX2_isWord_0 : List UInt8 := dkwX2_isWord_0 ++ []
theorem dksX2_isWord_0 : cX2_isWord.data.toList.drop 0 = dktX2_isWord_0 := by decide +kernel
theorem dX2_isWord_0 : decode cX2_isWord 0 = .ok (.aload_n 0, 1) := dk_42 (dk_at dksX2_isWord_0 0 rfl rfl)
theorem dX2_isWord_1 : decode cX2_isWord 1 = .ok (.getfield 138, 3) := dk_180 0 138 (dk_at dksX2_isWord_0 1 rfl rfl)
theorem dX2_isWord_4 : decode cX2_isWord 4 = .ok (.iconst 2, 1) := dk_5 (dk_at dksX2_isWord_0 4 rfl rfl)
theorem dX2_isWord_5 : decode cX2_isWord 5 = .ok (.if_icmp .ne 16, 3) := dk_160 0 16 (dk_at dksX2_isWord_0 5 rfl rfl)
theorem dX2_isWord_8 : decode cX2_isWord 8 = .ok (.aload_n 0, 1) := dk_42 (dk_at dksX2_isWord_0 8 rfl rfl)
theorem dX2_isWord_9 : decode cX2_isWord 9 = .ok (.getfield 151, 3) := dk_180 0 151 (dk_at dksX2_isWord_0 9 rfl rfl)
theorem dX2_isWord_12 : decode cX2_isWord 12 = .ok (.lload_n 1, 1) := dk_31 (dk_at dksX2_isWord_0 12 rfl rfl)
theorem dX2_isWord_13 : decode cX2_isWord 13 = .ok (.lcmp, 1) := dk_148 (dk_at dksX2_isWord_0 13 rfl rfl)
theorem dX2_isWord_14 : decode cX2_isWord 14 = .ok (.ifCond .ne 7, 3) := dk_154 0 7 (dk_at dksX2_isWord_0 14 rfl rfl)
theorem dX2_isWord_17 : decode cX2_isWord 17 = .ok (.iconst 1, 1) := dk_4 (dk_at dksX2_isWord_0 17 rfl rfl)
theorem dX2_isWord_18 : decode cX2_isWord 18 = .ok (.goto 4, 3) := dk_167 0 4 (dk_at dksX2_isWord_0 18 rfl rfl)
theorem dX2_isWord_21 : decode cX2_isWord 21 = .ok (.iconst 0, 1) := dk_3 (dk_at dksX2_isWord_0 21 rfl rfl)
theorem dX2_isWord_22 : decode cX2_isWord 22 = .ok (.ireturn, 1) := dk_172 (dk_at dksX2_isWord_0 22 rfl rfl)
abbrev cX2_w5 : ByteArray := prog_17_method_23_code
def yX2_w5 : MethodName := ⟨RX2, "w5", "(IIIII)J"⟩
def dkwX2_w5_0 : List UInt8 := [26, 27, 28, 184, 0, 155, 16, 8, 121, 29, 133, 129, 16, 8, 121, 21, 4, 133, 129, 173]
abbrev dktX2_w5_0 : List UInt8 := dkwX2_w5_0 ++ []
theorem dksX2_w5_0 : cX2_w5.data.toList.drop 0 = dktX2_w5_0 := by decide +kernel
theorem dX2_w5_0 : decode cX2_w5 0 = .ok (.iload_n 0, 1) := dk_26 (dk_at dksX2_w5_0 0 rfl rfl)
theorem dX2_w5_1 : decode cX2_w5 1 = .ok (.iload_n 1, 1) := dk_27 (dk_at dksX2_w5_0 1 rfl rfl)
theorem dX2_w5_2 : decode cX2_w5 2 = .ok (.iload_n 2, 1) := dk_28 (dk_at dksX2_w5_0 2 rfl rfl)
theorem dX2_w5_3 : decode cX2_w5 3 = .ok (.invokestatic 155, 3) := dk_184 0 155 (dk_at dksX2_w5_0 3 rfl rfl)
theorem dX2_w5_6 : decode cX2_w5 6 = .ok (.bipush 8, 2) := dk_16 8 (dk_at dksX2_w5_0 6 rfl rfl)
theorem dX2_w5_8 : decode cX2_w5 8 = .ok (.lshl, 1) := dk_121 (dk_at dksX2_w5_0 8 rfl rfl)
theorem dX2_w5_9 : decode cX2_w5 9 = .ok (.iload_n 3, 1) := dk_29 (dk_at dksX2_w5_0 9 rfl rfl)
theorem dX2_w5_10 : decode cX2_w5 10 = .ok (.i2l, 1) := dk_133 (dk_at dksX2_w5_0 10 rfl rfl)
theorem dX2_w5_11 : decode cX2_w5 11 = .ok (.lor, 1) := dk_129 (dk_at dksX2_w5_0 11 rfl rfl)
theorem dX2_w5_12 : decode cX2_w5 12 = .ok (.bipush 8, 2) := dk_16 8 (dk_at dksX2_w5_0 12 rfl rfl)
theorem dX2_w5_14 : decode cX2_w5 14 = .ok (.lshl, 1) := dk_121 (dk_at dksX2_w5_0 14 rfl rfl)
theorem dX2_w5_15 : decode cX2_w5 15 = .ok (.iload 4, 2) := dk_21 4 (dk_at dksX2_w5_0 15 rfl rfl)
theorem dX2_w5_17 : decode cX2_w5 17 = .ok (.i2l, 1) := dk_133 (dk_at dksX2_w5_0 17 rfl rfl)
theorem dX2_w5_18 : decode cX2_w5 18 = .ok (.lor, 1) := dk_129 (dk_at dksX2_w5_0 18 rfl rfl)
theorem dX2_w5_19 : decode cX2_w5 19 = .ok (.lreturn, 1) := dk_173 (dk_at dksX2_w5_0 19 rfl rfl)
abbrev cX2_w6 : ByteArray := prog_17_method_25_code
def yX2_w6 : MethodName := ⟨RX2, "w6", "(IIIIII)J"⟩
def dkwX2_w6_0 : List UInt8 := [26, 27, 28, 29, 21, 4, 184, 0, 159, 16, 8, 121, 21, 5, 133, 129, 173]
abbrev dktX2_w6_0 : List UInt8 := dkwX2_w6_0 ++ []
theorem dksX2_w6_0 : cX2_w6.data.toList.drop 0 = dktX2_w6_0 := by decide +kernel
theorem dX2_w6_0 : decode cX2_w6 0 = .ok (.iload_n 0, 1) := dk_26 (dk_at dksX2_w6_0 0 rfl rfl)
theorem dX2_w6_1 : decode cX2_w6 1 = .ok (.iload_n 1, 1) := dk_27 (dk_at dksX2_w6_0 1 rfl rfl)
theorem dX2_w6_2 : decode cX2_w6 2 = .ok (.iload_n 2, 1) := dk_28 (dk_at dksX2_w6_0 2 rfl rfl)
theorem dX2_w6_3 : decode cX2_w6 3 = .ok (.iload_n 3, 1) := dk_29 (dk_at dksX2_w6_0 3 rfl rfl)
theorem dX2_w6_4 : decode cX2_w6 4 = .ok (.iload 4, 2) := dk_21 4 (dk_at dksX2_w6_0 4 rfl rfl)
theorem dX2_w6_6 : decode cX2_w6 6 = .ok (.invokestatic 159, 3) := dk_184 0 159 (dk_at dksX2_w6_0 6 rfl rfl)
theorem dX2_w6_9 : decode cX2_w6 9 = .ok (.bipush 8, 2) := dk_16 8 (dk_at dksX2_w6_0 9 rfl rfl)
theorem dX2_w6_11 : decode cX2_w6 11 = .ok (.lshl, 1) := dk_121 (dk_at dksX2_w6_0 11 rfl rfl)
theorem dX2_w6_12 : decode cX2_w6 12 = .ok (.iload 5, 2) := dk_21 5 (dk_at dksX2_w6_0 12 rfl rfl)
theorem dX2_w6_14 : decode cX2_w6 14 = .ok (.i2l, 1) := dk_133 (dk_at dksX2_w6_0 14 rfl rfl)
theorem dX2_w6_15 : decode cX2_w6 15 = .ok (.lor, 1) := dk_129 (dk_at dksX2_w6_0 15 rfl rfl)
theorem dX2_w6_16 : decode cX2_w6 16 = .ok (.lreturn, 1) := dk_173 (dk_at dksX2_w6_0 16 rfl rfl)
abbrev cX2_rolled : ByteArray := prog_17_method_43_code
def yX2_rolled : MethodName := ⟨RX2, "rolled", "(II)I"⟩
def dkwX2_rolled_4 : List UInt8 := [167, 0, 5, 16, 11, 182, 0, 241, 172]
abbrev dktX2_rolled_4 : List UInt8 := dkwX2_rolled_4 ++ []
def dkwX2_rolled_3 : List UInt8 := [159, 0, 5, 4, 172, 42, 182, 0, 190, 42, 27, 5, 96, 3, 28, 6, 160, 0, 9, 17, 39, 15]
abbrev dktX2_rolled_3 : List UInt8 := dkwX2_rolled_3 ++ dktX2_rolled_4
def dkwX2_rolled_2 : List UInt8 := [16, 114, 16, 111, 16, 109, 184, 0, 237, 182, 0, 222, 154, 0, 17, 167, 0, 12, 42, 180, 0, 138, 16, 44]
abbrev dktX2_rolled_2 : List UInt8 := dkwX2_rolled_2 ++ dktX2_rolled_3
def dkwX2_rolled_1 : List UInt8 := [167, 0, 5, 16, 11, 182, 0, 241, 62, 29, 153, 0, 5, 29, 172, 28, 6, 160, 0, 24, 42, 16, 102]
abbrev dktX2_rolled_1 : List UInt8 := dkwX2_rolled_1 ++ dktX2_rolled_2
def dkwX2_rolled_0 : List UInt8 := [42, 27, 4, 96, 28, 6, 160, 0, 7, 4, 167, 0, 4, 3, 28, 6, 160, 0, 9, 17, 39, 15]
abbrev dktX2_rolled_0 : List UInt8 := dkwX2_rolled_0 ++ dktX2_rolled_1
theorem dksX2_rolled_0 : cX2_rolled.data.toList.drop 0 = dktX2_rolled_0 := by decide +kernel
theorem dksX2_rolled_1 : cX2_rolled.data.toList.drop 22 = dktX2_rolled_1 := dk_seg dksX2_rolled_0 22 rfl rfl
theorem dksX2_rolled_2 : cX2_rolled.data.toList.drop 45 = dktX2_rolled_2 := dk_seg dksX2_rolled_1 23 rfl rfl
theorem dksX2_rolled_3 : cX2_rolled.data.toList.drop 69 = dktX2_rolled_3 := dk_seg dksX2_rolled_2 24 rfl rfl
theorem dksX2_rolled_4 : cX2_rolled.data.toList.drop 91 = dktX2_rolled_4 := dk_seg dksX2_rolled_3 22 rfl rfl
theorem dX2_rolled_0 : decode cX2_rolled 0 = .ok (.aload_n 0, 1) := dk_42 (dk_at dksX2_rolled_0 0 rfl rfl)
theorem dX2_rolled_1 : decode cX2_rolled 1 = .ok (.iload_n 1, 1) := dk_27 (dk_at dksX2_rolled_0 1 rfl rfl)
theorem dX2_rolled_2 : decode cX2_rolled 2 = .ok (.iconst 1, 1) := dk_4 (dk_at dksX2_rolled_0 2 rfl rfl)
theorem dX2_rolled_3 : decode cX2_rolled 3 = .ok (.iadd, 1) := dk_96 (dk_at dksX2_rolled_0 3 rfl rfl)
theorem dX2_rolled_4 : decode cX2_rolled 4 = .ok (.iload_n 2, 1) := dk_28 (dk_at dksX2_rolled_0 4 rfl rfl)
theorem dX2_rolled_5 : decode cX2_rolled 5 = .ok (.iconst 3, 1) := dk_6 (dk_at dksX2_rolled_0 5 rfl rfl)
theorem dX2_rolled_6 : decode cX2_rolled 6 = .ok (.if_icmp .ne 7, 3) := dk_160 0 7 (dk_at dksX2_rolled_0 6 rfl rfl)
theorem dX2_rolled_9 : decode cX2_rolled 9 = .ok (.iconst 1, 1) := dk_4 (dk_at dksX2_rolled_0 9 rfl rfl)
theorem dX2_rolled_10 : decode cX2_rolled 10 = .ok (.goto 4, 3) := dk_167 0 4 (dk_at dksX2_rolled_0 10 rfl rfl)
theorem dX2_rolled_13 : decode cX2_rolled 13 = .ok (.iconst 0, 1) := dk_3 (dk_at dksX2_rolled_0 13 rfl rfl)
theorem dX2_rolled_14 : decode cX2_rolled 14 = .ok (.iload_n 2, 1) := dk_28 (dk_at dksX2_rolled_0 14 rfl rfl)
theorem dX2_rolled_15 : decode cX2_rolled 15 = .ok (.iconst 3, 1) := dk_6 (dk_at dksX2_rolled_0 15 rfl rfl)
theorem dX2_rolled_16 : decode cX2_rolled 16 = .ok (.if_icmp .ne 9, 3) := dk_160 0 9 (dk_at dksX2_rolled_0 16 rfl rfl)
theorem dX2_rolled_19 : decode cX2_rolled 19 = .ok (.sipush 9999, 3) := dk_17 39 15 (dk_at dksX2_rolled_0 19 rfl rfl)
theorem dX2_rolled_22 : decode cX2_rolled 22 = .ok (.goto 5, 3) := dk_167 0 5 (dk_at dksX2_rolled_1 0 rfl rfl)
theorem dX2_rolled_25 : decode cX2_rolled 25 = .ok (.bipush 11, 2) := dk_16 11 (dk_at dksX2_rolled_1 3 rfl rfl)
theorem dX2_rolled_27 : decode cX2_rolled 27 = .ok (.invokevirtual 241, 3) := dk_182 0 241 (dk_at dksX2_rolled_1 5 rfl rfl)
theorem dX2_rolled_30 : decode cX2_rolled 30 = .ok (.istore_n 3, 1) := dk_62 (dk_at dksX2_rolled_1 8 rfl rfl)
theorem dX2_rolled_31 : decode cX2_rolled 31 = .ok (.iload_n 3, 1) := dk_29 (dk_at dksX2_rolled_1 9 rfl rfl)
theorem dX2_rolled_32 : decode cX2_rolled 32 = .ok (.ifCond .eq 5, 3) := dk_153 0 5 (dk_at dksX2_rolled_1 10 rfl rfl)
theorem dX2_rolled_35 : decode cX2_rolled 35 = .ok (.iload_n 3, 1) := dk_29 (dk_at dksX2_rolled_1 13 rfl rfl)
theorem dX2_rolled_36 : decode cX2_rolled 36 = .ok (.ireturn, 1) := dk_172 (dk_at dksX2_rolled_1 14 rfl rfl)
theorem dX2_rolled_37 : decode cX2_rolled 37 = .ok (.iload_n 2, 1) := dk_28 (dk_at dksX2_rolled_1 15 rfl rfl)
theorem dX2_rolled_38 : decode cX2_rolled 38 = .ok (.iconst 3, 1) := dk_6 (dk_at dksX2_rolled_1 16 rfl rfl)
theorem dX2_rolled_39 : decode cX2_rolled 39 = .ok (.if_icmp .ne 24, 3) := dk_160 0 24 (dk_at dksX2_rolled_1 17 rfl rfl)
theorem dX2_rolled_42 : decode cX2_rolled 42 = .ok (.aload_n 0, 1) := dk_42 (dk_at dksX2_rolled_1 20 rfl rfl)
theorem dX2_rolled_43 : decode cX2_rolled 43 = .ok (.bipush 102, 2) := dk_16 102 (dk_at dksX2_rolled_1 21 rfl rfl)
theorem dX2_rolled_45 : decode cX2_rolled 45 = .ok (.bipush 114, 2) := dk_16 114 (dk_at dksX2_rolled_2 0 rfl rfl)
theorem dX2_rolled_47 : decode cX2_rolled 47 = .ok (.bipush 111, 2) := dk_16 111 (dk_at dksX2_rolled_2 2 rfl rfl)
theorem dX2_rolled_49 : decode cX2_rolled 49 = .ok (.bipush 109, 2) := dk_16 109 (dk_at dksX2_rolled_2 4 rfl rfl)
theorem dX2_rolled_51 : decode cX2_rolled 51 = .ok (.invokestatic 237, 3) := dk_184 0 237 (dk_at dksX2_rolled_2 6 rfl rfl)
theorem dX2_rolled_54 : decode cX2_rolled 54 = .ok (.invokevirtual 222, 3) := dk_182 0 222 (dk_at dksX2_rolled_2 9 rfl rfl)
theorem dX2_rolled_57 : decode cX2_rolled 57 = .ok (.ifCond .ne 17, 3) := dk_154 0 17 (dk_at dksX2_rolled_2 12 rfl rfl)
theorem dX2_rolled_60 : decode cX2_rolled 60 = .ok (.goto 12, 3) := dk_167 0 12 (dk_at dksX2_rolled_2 15 rfl rfl)
theorem dX2_rolled_63 : decode cX2_rolled 63 = .ok (.aload_n 0, 1) := dk_42 (dk_at dksX2_rolled_2 18 rfl rfl)
theorem dX2_rolled_64 : decode cX2_rolled 64 = .ok (.getfield 138, 3) := dk_180 0 138 (dk_at dksX2_rolled_2 19 rfl rfl)
theorem dX2_rolled_67 : decode cX2_rolled 67 = .ok (.bipush 44, 2) := dk_16 44 (dk_at dksX2_rolled_2 22 rfl rfl)
theorem dX2_rolled_69 : decode cX2_rolled 69 = .ok (.if_icmp .eq 5, 3) := dk_159 0 5 (dk_at dksX2_rolled_3 0 rfl rfl)
theorem dX2_rolled_72 : decode cX2_rolled 72 = .ok (.iconst 1, 1) := dk_4 (dk_at dksX2_rolled_3 3 rfl rfl)
theorem dX2_rolled_73 : decode cX2_rolled 73 = .ok (.ireturn, 1) := dk_172 (dk_at dksX2_rolled_3 4 rfl rfl)
theorem dX2_rolled_74 : decode cX2_rolled 74 = .ok (.aload_n 0, 1) := dk_42 (dk_at dksX2_rolled_3 5 rfl rfl)
theorem dX2_rolled_75 : decode cX2_rolled 75 = .ok (.invokevirtual 190, 3) := dk_182 0 190 (dk_at dksX2_rolled_3 6 rfl rfl)
theorem dX2_rolled_78 : decode cX2_rolled 78 = .ok (.aload_n 0, 1) := dk_42 (dk_at dksX2_rolled_3 9 rfl rfl)
theorem dX2_rolled_79 : decode cX2_rolled 79 = .ok (.iload_n 1, 1) := dk_27 (dk_at dksX2_rolled_3 10 rfl rfl)
theorem dX2_rolled_80 : decode cX2_rolled 80 = .ok (.iconst 2, 1) := dk_5 (dk_at dksX2_rolled_3 11 rfl rfl)
theorem dX2_rolled_81 : decode cX2_rolled 81 = .ok (.iadd, 1) := dk_96 (dk_at dksX2_rolled_3 12 rfl rfl)
theorem dX2_rolled_82 : decode cX2_rolled 82 = .ok (.iconst 0, 1) := dk_3 (dk_at dksX2_rolled_3 13 rfl rfl)
theorem dX2_rolled_83 : decode cX2_rolled 83 = .ok (.iload_n 2, 1) := dk_28 (dk_at dksX2_rolled_3 14 rfl rfl)
theorem dX2_rolled_84 : decode cX2_rolled 84 = .ok (.iconst 3, 1) := dk_6 (dk_at dksX2_rolled_3 15 rfl rfl)
theorem dX2_rolled_85 : decode cX2_rolled 85 = .ok (.if_icmp .ne 9, 3) := dk_160 0 9 (dk_at dksX2_rolled_3 16 rfl rfl)
theorem dX2_rolled_88 : decode cX2_rolled 88 = .ok (.sipush 9999, 3) := dk_17 39 15 (dk_at dksX2_rolled_3 19 rfl rfl)
theorem dX2_rolled_91 : decode cX2_rolled 91 = .ok (.goto 5, 3) := dk_167 0 5 (dk_at dksX2_rolled_4 0 rfl rfl)
theorem dX2_rolled_94 : decode cX2_rolled 94 = .ok (.bipush 11, 2) := dk_16 11 (dk_at dksX2_rolled_4 3 rfl rfl)
theorem dX2_rolled_96 : decode cX2_rolled 96 = .ok (.invokevirtual 241, 3) := dk_182 0 241 (dk_at dksX2_rolled_4 5 rfl rfl)
theorem dX2_rolled_99 : decode cX2_rolled 99 = .ok (.ireturn, 1) := dk_172 (dk_at dksX2_rolled_4 8 rfl rfl)
abbrev cX2_figure : ByteArray := prog_17_method_42_code
def yX2_figure : MethodName := ⟨RX2, "figure", "(III)I"⟩
def dkwX2_figure_1 : List UInt8 := [42, 180, 0, 23, 27, 42, 180, 0, 144, 79, 42, 182, 0, 190, 3, 172]
abbrev dktX2_figure_1 : List UInt8 := dkwX2_figure_1 ++ []
def dkwX2_figure_0 : List UInt8 := [42, 180, 0, 138, 4, 159, 0, 5, 4, 172, 42, 180, 0, 144, 28, 29, 184, 0, 104, 154, 0, 5, 5, 172]
abbrev dktX2_figure_0 : List UInt8 := dkwX2_figure_0 ++ dktX2_figure_1
theorem dksX2_figure_0 : cX2_figure.data.toList.drop 0 = dktX2_figure_0 := by decide +kernel
theorem dksX2_figure_1 : cX2_figure.data.toList.drop 24 = dktX2_figure_1 := dk_seg dksX2_figure_0 24 rfl rfl
theorem dX2_figure_0 : decode cX2_figure 0 = .ok (.aload_n 0, 1) := dk_42 (dk_at dksX2_figure_0 0 rfl rfl)
theorem dX2_figure_1 : decode cX2_figure 1 = .ok (.getfield 138, 3) := dk_180 0 138 (dk_at dksX2_figure_0 1 rfl rfl)
theorem dX2_figure_4 : decode cX2_figure 4 = .ok (.iconst 1, 1) := dk_4 (dk_at dksX2_figure_0 4 rfl rfl)
theorem dX2_figure_5 : decode cX2_figure 5 = .ok (.if_icmp .eq 5, 3) := dk_159 0 5 (dk_at dksX2_figure_0 5 rfl rfl)
theorem dX2_figure_8 : decode cX2_figure 8 = .ok (.iconst 1, 1) := dk_4 (dk_at dksX2_figure_0 8 rfl rfl)
theorem dX2_figure_9 : decode cX2_figure 9 = .ok (.ireturn, 1) := dk_172 (dk_at dksX2_figure_0 9 rfl rfl)
theorem dX2_figure_10 : decode cX2_figure 10 = .ok (.aload_n 0, 1) := dk_42 (dk_at dksX2_figure_0 10 rfl rfl)
theorem dX2_figure_11 : decode cX2_figure 11 = .ok (.getfield 144, 3) := dk_180 0 144 (dk_at dksX2_figure_0 11 rfl rfl)
theorem dX2_figure_14 : decode cX2_figure 14 = .ok (.iload_n 2, 1) := dk_28 (dk_at dksX2_figure_0 14 rfl rfl)
theorem dX2_figure_15 : decode cX2_figure 15 = .ok (.iload_n 3, 1) := dk_29 (dk_at dksX2_figure_0 15 rfl rfl)
theorem dX2_figure_16 : decode cX2_figure 16 = .ok (.invokestatic 104, 3) := dk_184 0 104 (dk_at dksX2_figure_0 16 rfl rfl)
theorem dX2_figure_19 : decode cX2_figure 19 = .ok (.ifCond .ne 5, 3) := dk_154 0 5 (dk_at dksX2_figure_0 19 rfl rfl)
theorem dX2_figure_22 : decode cX2_figure 22 = .ok (.iconst 2, 1) := dk_5 (dk_at dksX2_figure_0 22 rfl rfl)
theorem dX2_figure_23 : decode cX2_figure 23 = .ok (.ireturn, 1) := dk_172 (dk_at dksX2_figure_0 23 rfl rfl)
theorem dX2_figure_24 : decode cX2_figure 24 = .ok (.aload_n 0, 1) := dk_42 (dk_at dksX2_figure_1 0 rfl rfl)
theorem dX2_figure_25 : decode cX2_figure 25 = .ok (.getfield 23, 3) := dk_180 0 23 (dk_at dksX2_figure_1 1 rfl rfl)
theorem dX2_figure_28 : decode cX2_figure 28 = .ok (.iload_n 1, 1) := dk_27 (dk_at dksX2_figure_1 4 rfl rfl)
theorem dX2_figure_29 : decode cX2_figure 29 = .ok (.aload_n 0, 1) := dk_42 (dk_at dksX2_figure_1 5 rfl rfl)
theorem dX2_figure_30 : decode cX2_figure 30 = .ok (.getfield 144, 3) := dk_180 0 144 (dk_at dksX2_figure_1 6 rfl rfl)
theorem dX2_figure_33 : decode cX2_figure 33 = .ok (.iastore, 1) := dk_79 (dk_at dksX2_figure_1 9 rfl rfl)
theorem dX2_figure_34 : decode cX2_figure 34 = .ok (.aload_n 0, 1) := dk_42 (dk_at dksX2_figure_1 10 rfl rfl)
theorem dX2_figure_35 : decode cX2_figure 35 = .ok (.invokevirtual 190, 3) := dk_182 0 190 (dk_at dksX2_figure_1 11 rfl rfl)
theorem dX2_figure_38 : decode cX2_figure 38 = .ok (.iconst 0, 1) := dk_3 (dk_at dksX2_figure_1 14 rfl rfl)
theorem dX2_figure_39 : decode cX2_figure 39 = .ok (.ireturn, 1) := dk_172 (dk_at dksX2_figure_1 15 rfl rfl)
abbrev cX2_summed : ByteArray := prog_17_method_37_code
def yX2_summed : MethodName := ⟨RX2, "summed", "()I"⟩
def dkwX2_summed_2 : List UInt8 := [172, 167, 255, 217, 42, 6, 182, 0, 210, 42, 180, 0, 169, 158, 0, 7, 4, 167, 0, 4, 3, 172]
abbrev dktX2_summed_2 : List UInt8 := dkwX2_summed_2 ++ []
def dkwX2_summed_1 : List UInt8 := [42, 180, 0, 172, 153, 0, 10, 42, 182, 0, 216, 167, 0, 7, 42, 182, 0, 219, 60, 27, 153, 0, 5, 27]
abbrev dktX2_summed_1 : List UInt8 := dkwX2_summed_1 ++ dktX2_summed_2
def dkwX2_summed_0 : List UInt8 := [42, 3, 181, 0, 169, 42, 3, 181, 0, 172, 42, 180, 0, 172, 153, 0, 10, 42, 182, 0, 213, 153, 0, 31]
abbrev dktX2_summed_0 : List UInt8 := dkwX2_summed_0 ++ dktX2_summed_1
theorem dksX2_summed_0 : cX2_summed.data.toList.drop 0 = dktX2_summed_0 := by decide +kernel
theorem dksX2_summed_1 : cX2_summed.data.toList.drop 24 = dktX2_summed_1 := dk_seg dksX2_summed_0 24 rfl rfl
theorem dksX2_summed_2 : cX2_summed.data.toList.drop 48 = dktX2_summed_2 := dk_seg dksX2_summed_1 24 rfl rfl
theorem dX2_summed_0 : decode cX2_summed 0 = .ok (.aload_n 0, 1) := dk_42 (dk_at dksX2_summed_0 0 rfl rfl)
theorem dX2_summed_1 : decode cX2_summed 1 = .ok (.iconst 0, 1) := dk_3 (dk_at dksX2_summed_0 1 rfl rfl)
theorem dX2_summed_2 : decode cX2_summed 2 = .ok (.putfield 169, 3) := dk_181 0 169 (dk_at dksX2_summed_0 2 rfl rfl)
theorem dX2_summed_5 : decode cX2_summed 5 = .ok (.aload_n 0, 1) := dk_42 (dk_at dksX2_summed_0 5 rfl rfl)
theorem dX2_summed_6 : decode cX2_summed 6 = .ok (.iconst 0, 1) := dk_3 (dk_at dksX2_summed_0 6 rfl rfl)
theorem dX2_summed_7 : decode cX2_summed 7 = .ok (.putfield 172, 3) := dk_181 0 172 (dk_at dksX2_summed_0 7 rfl rfl)
theorem dX2_summed_10 : decode cX2_summed 10 = .ok (.aload_n 0, 1) := dk_42 (dk_at dksX2_summed_0 10 rfl rfl)
theorem dX2_summed_11 : decode cX2_summed 11 = .ok (.getfield 172, 3) := dk_180 0 172 (dk_at dksX2_summed_0 11 rfl rfl)
theorem dX2_summed_14 : decode cX2_summed 14 = .ok (.ifCond .eq 10, 3) := dk_153 0 10 (dk_at dksX2_summed_0 14 rfl rfl)
theorem dX2_summed_17 : decode cX2_summed 17 = .ok (.aload_n 0, 1) := dk_42 (dk_at dksX2_summed_0 17 rfl rfl)
theorem dX2_summed_18 : decode cX2_summed 18 = .ok (.invokevirtual 213, 3) := dk_182 0 213 (dk_at dksX2_summed_0 18 rfl rfl)
theorem dX2_summed_21 : decode cX2_summed 21 = .ok (.ifCond .eq 31, 3) := dk_153 0 31 (dk_at dksX2_summed_0 21 rfl rfl)
theorem dX2_summed_24 : decode cX2_summed 24 = .ok (.aload_n 0, 1) := dk_42 (dk_at dksX2_summed_1 0 rfl rfl)
theorem dX2_summed_25 : decode cX2_summed 25 = .ok (.getfield 172, 3) := dk_180 0 172 (dk_at dksX2_summed_1 1 rfl rfl)
theorem dX2_summed_28 : decode cX2_summed 28 = .ok (.ifCond .eq 10, 3) := dk_153 0 10 (dk_at dksX2_summed_1 4 rfl rfl)
theorem dX2_summed_31 : decode cX2_summed 31 = .ok (.aload_n 0, 1) := dk_42 (dk_at dksX2_summed_1 7 rfl rfl)
theorem dX2_summed_32 : decode cX2_summed 32 = .ok (.invokevirtual 216, 3) := dk_182 0 216 (dk_at dksX2_summed_1 8 rfl rfl)
theorem dX2_summed_35 : decode cX2_summed 35 = .ok (.goto 7, 3) := dk_167 0 7 (dk_at dksX2_summed_1 11 rfl rfl)
theorem dX2_summed_38 : decode cX2_summed 38 = .ok (.aload_n 0, 1) := dk_42 (dk_at dksX2_summed_1 14 rfl rfl)
theorem dX2_summed_39 : decode cX2_summed 39 = .ok (.invokevirtual 219, 3) := dk_182 0 219 (dk_at dksX2_summed_1 15 rfl rfl)
theorem dX2_summed_42 : decode cX2_summed 42 = .ok (.istore_n 1, 1) := dk_60 (dk_at dksX2_summed_1 18 rfl rfl)
theorem dX2_summed_43 : decode cX2_summed 43 = .ok (.iload_n 1, 1) := dk_27 (dk_at dksX2_summed_1 19 rfl rfl)
theorem dX2_summed_44 : decode cX2_summed 44 = .ok (.ifCond .eq 5, 3) := dk_153 0 5 (dk_at dksX2_summed_1 20 rfl rfl)
theorem dX2_summed_47 : decode cX2_summed 47 = .ok (.iload_n 1, 1) := dk_27 (dk_at dksX2_summed_1 23 rfl rfl)
theorem dX2_summed_48 : decode cX2_summed 48 = .ok (.ireturn, 1) := dk_172 (dk_at dksX2_summed_2 0 rfl rfl)
theorem dX2_summed_49 : decode cX2_summed 49 = .ok (.goto (-39), 3) := dk_167 255 217 (dk_at dksX2_summed_2 1 rfl rfl)
theorem dX2_summed_52 : decode cX2_summed 52 = .ok (.aload_n 0, 1) := dk_42 (dk_at dksX2_summed_2 4 rfl rfl)
theorem dX2_summed_53 : decode cX2_summed 53 = .ok (.iconst 3, 1) := dk_6 (dk_at dksX2_summed_2 5 rfl rfl)
theorem dX2_summed_54 : decode cX2_summed 54 = .ok (.invokevirtual 210, 3) := dk_182 0 210 (dk_at dksX2_summed_2 6 rfl rfl)
theorem dX2_summed_57 : decode cX2_summed 57 = .ok (.aload_n 0, 1) := dk_42 (dk_at dksX2_summed_2 9 rfl rfl)
theorem dX2_summed_58 : decode cX2_summed 58 = .ok (.getfield 169, 3) := dk_180 0 169 (dk_at dksX2_summed_2 10 rfl rfl)
theorem dX2_summed_61 : decode cX2_summed 61 = .ok (.ifCond .le 7, 3) := dk_158 0 7 (dk_at dksX2_summed_2 13 rfl rfl)
theorem dX2_summed_64 : decode cX2_summed 64 = .ok (.iconst 1, 1) := dk_4 (dk_at dksX2_summed_2 16 rfl rfl)
theorem dX2_summed_65 : decode cX2_summed 65 = .ok (.goto 4, 3) := dk_167 0 4 (dk_at dksX2_summed_2 17 rfl rfl)
theorem dX2_summed_68 : decode cX2_summed 68 = .ok (.iconst 0, 1) := dk_3 (dk_at dksX2_summed_2 20 rfl rfl)
theorem dX2_summed_69 : decode cX2_summed 69 = .ok (.ireturn, 1) := dk_172 (dk_at dksX2_summed_2 21 rfl rfl)
abbrev cX2_goesOn : ByteArray := prog_17_method_35_code
def yX2_goesOn : MethodName := ⟨RX2, "goesOn", "()Z"⟩
def dkwX2_goesOn_2 : List UInt8 := [180, 0, 138, 16, 41, 160, 0, 14, 42, 182, 0, 206, 153, 0, 7, 4, 167, 0, 4, 3, 172]
abbrev dktX2_goesOn_2 : List UInt8 := dkwX2_goesOn_2 ++ []
def dkwX2_goesOn_1 : List UInt8 := [159, 0, 37, 42, 180, 0, 138, 16, 47, 159, 0, 28, 42, 180, 0, 138, 16, 37, 159, 0, 19, 42]
abbrev dktX2_goesOn_1 : List UInt8 := dkwX2_goesOn_1 ++ dktX2_goesOn_2
def dkwX2_goesOn_0 : List UInt8 := [42, 180, 0, 138, 16, 43, 159, 0, 55, 42, 180, 0, 138, 16, 45, 159, 0, 46, 42, 180, 0, 138, 16, 42]
abbrev dktX2_goesOn_0 : List UInt8 := dkwX2_goesOn_0 ++ dktX2_goesOn_1
theorem dksX2_goesOn_0 : cX2_goesOn.data.toList.drop 0 = dktX2_goesOn_0 := by decide +kernel
theorem dksX2_goesOn_1 : cX2_goesOn.data.toList.drop 24 = dktX2_goesOn_1 := dk_seg dksX2_goesOn_0 24 rfl rfl
theorem dksX2_goesOn_2 : cX2_goesOn.data.toList.drop 46 = dktX2_goesOn_2 := dk_seg dksX2_goesOn_1 22 rfl rfl
theorem dX2_goesOn_0 : decode cX2_goesOn 0 = .ok (.aload_n 0, 1) := dk_42 (dk_at dksX2_goesOn_0 0 rfl rfl)
theorem dX2_goesOn_1 : decode cX2_goesOn 1 = .ok (.getfield 138, 3) := dk_180 0 138 (dk_at dksX2_goesOn_0 1 rfl rfl)
theorem dX2_goesOn_4 : decode cX2_goesOn 4 = .ok (.bipush 43, 2) := dk_16 43 (dk_at dksX2_goesOn_0 4 rfl rfl)
theorem dX2_goesOn_6 : decode cX2_goesOn 6 = .ok (.if_icmp .eq 55, 3) := dk_159 0 55 (dk_at dksX2_goesOn_0 6 rfl rfl)
theorem dX2_goesOn_9 : decode cX2_goesOn 9 = .ok (.aload_n 0, 1) := dk_42 (dk_at dksX2_goesOn_0 9 rfl rfl)
theorem dX2_goesOn_10 : decode cX2_goesOn 10 = .ok (.getfield 138, 3) := dk_180 0 138 (dk_at dksX2_goesOn_0 10 rfl rfl)
theorem dX2_goesOn_13 : decode cX2_goesOn 13 = .ok (.bipush 45, 2) := dk_16 45 (dk_at dksX2_goesOn_0 13 rfl rfl)
theorem dX2_goesOn_15 : decode cX2_goesOn 15 = .ok (.if_icmp .eq 46, 3) := dk_159 0 46 (dk_at dksX2_goesOn_0 15 rfl rfl)
theorem dX2_goesOn_18 : decode cX2_goesOn 18 = .ok (.aload_n 0, 1) := dk_42 (dk_at dksX2_goesOn_0 18 rfl rfl)
theorem dX2_goesOn_19 : decode cX2_goesOn 19 = .ok (.getfield 138, 3) := dk_180 0 138 (dk_at dksX2_goesOn_0 19 rfl rfl)
theorem dX2_goesOn_22 : decode cX2_goesOn 22 = .ok (.bipush 42, 2) := dk_16 42 (dk_at dksX2_goesOn_0 22 rfl rfl)
theorem dX2_goesOn_24 : decode cX2_goesOn 24 = .ok (.if_icmp .eq 37, 3) := dk_159 0 37 (dk_at dksX2_goesOn_1 0 rfl rfl)
theorem dX2_goesOn_27 : decode cX2_goesOn 27 = .ok (.aload_n 0, 1) := dk_42 (dk_at dksX2_goesOn_1 3 rfl rfl)
theorem dX2_goesOn_28 : decode cX2_goesOn 28 = .ok (.getfield 138, 3) := dk_180 0 138 (dk_at dksX2_goesOn_1 4 rfl rfl)
theorem dX2_goesOn_31 : decode cX2_goesOn 31 = .ok (.bipush 47, 2) := dk_16 47 (dk_at dksX2_goesOn_1 7 rfl rfl)
theorem dX2_goesOn_33 : decode cX2_goesOn 33 = .ok (.if_icmp .eq 28, 3) := dk_159 0 28 (dk_at dksX2_goesOn_1 9 rfl rfl)
theorem dX2_goesOn_36 : decode cX2_goesOn 36 = .ok (.aload_n 0, 1) := dk_42 (dk_at dksX2_goesOn_1 12 rfl rfl)
theorem dX2_goesOn_37 : decode cX2_goesOn 37 = .ok (.getfield 138, 3) := dk_180 0 138 (dk_at dksX2_goesOn_1 13 rfl rfl)
theorem dX2_goesOn_40 : decode cX2_goesOn 40 = .ok (.bipush 37, 2) := dk_16 37 (dk_at dksX2_goesOn_1 16 rfl rfl)
theorem dX2_goesOn_42 : decode cX2_goesOn 42 = .ok (.if_icmp .eq 19, 3) := dk_159 0 19 (dk_at dksX2_goesOn_1 18 rfl rfl)
theorem dX2_goesOn_45 : decode cX2_goesOn 45 = .ok (.aload_n 0, 1) := dk_42 (dk_at dksX2_goesOn_1 21 rfl rfl)
theorem dX2_goesOn_46 : decode cX2_goesOn 46 = .ok (.getfield 138, 3) := dk_180 0 138 (dk_at dksX2_goesOn_2 0 rfl rfl)
theorem dX2_goesOn_49 : decode cX2_goesOn 49 = .ok (.bipush 41, 2) := dk_16 41 (dk_at dksX2_goesOn_2 3 rfl rfl)
theorem dX2_goesOn_51 : decode cX2_goesOn 51 = .ok (.if_icmp .ne 14, 3) := dk_160 0 14 (dk_at dksX2_goesOn_2 5 rfl rfl)
theorem dX2_goesOn_54 : decode cX2_goesOn 54 = .ok (.aload_n 0, 1) := dk_42 (dk_at dksX2_goesOn_2 8 rfl rfl)
theorem dX2_goesOn_55 : decode cX2_goesOn 55 = .ok (.invokevirtual 206, 3) := dk_182 0 206 (dk_at dksX2_goesOn_2 9 rfl rfl)
theorem dX2_goesOn_58 : decode cX2_goesOn 58 = .ok (.ifCond .eq 7, 3) := dk_153 0 7 (dk_at dksX2_goesOn_2 12 rfl rfl)
theorem dX2_goesOn_61 : decode cX2_goesOn 61 = .ok (.iconst 1, 1) := dk_4 (dk_at dksX2_goesOn_2 15 rfl rfl)
theorem dX2_goesOn_62 : decode cX2_goesOn 62 = .ok (.goto 4, 3) := dk_167 0 4 (dk_at dksX2_goesOn_2 16 rfl rfl)
theorem dX2_goesOn_65 : decode cX2_goesOn 65 = .ok (.iconst 0, 1) := dk_3 (dk_at dksX2_goesOn_2 19 rfl rfl)
theorem dX2_goesOn_66 : decode cX2_goesOn 66 = .ok (.ireturn, 1) := dk_172 (dk_at dksX2_goesOn_2 20 rfl rfl)
abbrev cX2_hasParen : ByteArray := prog_17_method_34_code
def yX2_hasParen : MethodName := ⟨RX2, "hasParen", "()Z"⟩
def dkwX2_hasParen_1 : List UInt8 := [132, 1, 1, 167, 255, 232, 3, 172]
abbrev dktX2_hasParen_1 : List UInt8 := dkwX2_hasParen_1 ++ []
def dkwX2_hasParen_0 : List UInt8 := [3, 60, 27, 42, 180, 0, 169, 162, 0, 22, 42, 180, 0, 36, 27, 46, 16, 40, 160, 0, 5, 4, 172]
abbrev dktX2_hasParen_0 : List UInt8 := dkwX2_hasParen_0 ++ dktX2_hasParen_1
theorem dksX2_hasParen_0 : cX2_hasParen.data.toList.drop 0 = dktX2_hasParen_0 := by decide +kernel
theorem dksX2_hasParen_1 : cX2_hasParen.data.toList.drop 23 = dktX2_hasParen_1 := dk_seg dksX2_hasParen_0 23 rfl rfl
theorem dX2_hasParen_0 : decode cX2_hasParen 0 = .ok (.iconst 0, 1) := dk_3 (dk_at dksX2_hasParen_0 0 rfl rfl)
theorem dX2_hasParen_1 : decode cX2_hasParen 1 = .ok (.istore_n 1, 1) := dk_60 (dk_at dksX2_hasParen_0 1 rfl rfl)
theorem dX2_hasParen_2 : decode cX2_hasParen 2 = .ok (.iload_n 1, 1) := dk_27 (dk_at dksX2_hasParen_0 2 rfl rfl)
theorem dX2_hasParen_3 : decode cX2_hasParen 3 = .ok (.aload_n 0, 1) := dk_42 (dk_at dksX2_hasParen_0 3 rfl rfl)
theorem dX2_hasParen_4 : decode cX2_hasParen 4 = .ok (.getfield 169, 3) := dk_180 0 169 (dk_at dksX2_hasParen_0 4 rfl rfl)
theorem dX2_hasParen_7 : decode cX2_hasParen 7 = .ok (.if_icmp .ge 22, 3) := dk_162 0 22 (dk_at dksX2_hasParen_0 7 rfl rfl)
theorem dX2_hasParen_10 : decode cX2_hasParen 10 = .ok (.aload_n 0, 1) := dk_42 (dk_at dksX2_hasParen_0 10 rfl rfl)
theorem dX2_hasParen_11 : decode cX2_hasParen 11 = .ok (.getfield 36, 3) := dk_180 0 36 (dk_at dksX2_hasParen_0 11 rfl rfl)
theorem dX2_hasParen_14 : decode cX2_hasParen 14 = .ok (.iload_n 1, 1) := dk_27 (dk_at dksX2_hasParen_0 14 rfl rfl)
theorem dX2_hasParen_15 : decode cX2_hasParen 15 = .ok (.iaload, 1) := dk_46 (dk_at dksX2_hasParen_0 15 rfl rfl)
theorem dX2_hasParen_16 : decode cX2_hasParen 16 = .ok (.bipush 40, 2) := dk_16 40 (dk_at dksX2_hasParen_0 16 rfl rfl)
theorem dX2_hasParen_18 : decode cX2_hasParen 18 = .ok (.if_icmp .ne 5, 3) := dk_160 0 5 (dk_at dksX2_hasParen_0 18 rfl rfl)
theorem dX2_hasParen_21 : decode cX2_hasParen 21 = .ok (.iconst 1, 1) := dk_4 (dk_at dksX2_hasParen_0 21 rfl rfl)
theorem dX2_hasParen_22 : decode cX2_hasParen 22 = .ok (.ireturn, 1) := dk_172 (dk_at dksX2_hasParen_0 22 rfl rfl)
theorem dX2_hasParen_23 : decode cX2_hasParen 23 = .ok (.iinc 1 1, 3) := dk_132 1 1 (dk_at dksX2_hasParen_1 0 rfl rfl)
theorem dX2_hasParen_26 : decode cX2_hasParen 26 = .ok (.goto (-24), 3) := dk_167 255 232 (dk_at dksX2_hasParen_1 3 rfl rfl)
theorem dX2_hasParen_29 : decode cX2_hasParen 29 = .ok (.iconst 0, 1) := dk_3 (dk_at dksX2_hasParen_1 6 rfl rfl)
theorem dX2_hasParen_30 : decode cX2_hasParen 30 = .ok (.ireturn, 1) := dk_172 (dk_at dksX2_hasParen_1 7 rfl rfl)
abbrev cX2_behindOne : ByteArray := prog_17_method_36_code
def yX2_behindOne : MethodName := ⟨RX2, "behindOne", "()I"⟩
def dkwX2_behindOne_5 : List UInt8 := [180, 0, 176, 4, 100, 181, 0, 176, 42, 182, 0, 193, 42, 182, 0, 190, 3, 172]
abbrev dktX2_behindOne_5 : List UInt8 := dkwX2_behindOne_5 ++ []
def dkwX2_behindOne_4 : List UInt8 := [3, 181, 0, 172, 167, 0, 32, 42, 6, 182, 0, 210, 42, 89, 180, 0, 169, 4, 100, 181, 0, 169, 42, 89]
abbrev dktX2_behindOne_4 : List UInt8 := dkwX2_behindOne_4 ++ dktX2_behindOne_5
def dkwX2_behindOne_3 : List UInt8 := [160, 0, 7, 8, 167, 0, 16, 27, 16, 47, 160, 0, 8, 16, 6, 167, 0, 5, 16, 7, 182, 0, 203, 42]
abbrev dktX2_behindOne_3 : List UInt8 := dkwX2_behindOne_3 ++ dktX2_behindOne_4
def dkwX2_behindOne_2 : List UInt8 := [159, 0, 15, 27, 16, 47, 159, 0, 9, 27, 16, 37, 160, 0, 43, 42, 8, 182, 0, 210, 42, 27, 16, 42]
abbrev dktX2_behindOne_2 : List UInt8 := dkwX2_behindOne_2 ++ dktX2_behindOne_3
def dkwX2_behindOne_1 : List UInt8 := [16, 43, 160, 0, 7, 6, 167, 0, 4, 7, 182, 0, 203, 42, 3, 181, 0, 172, 167, 0, 90, 27, 16, 42]
abbrev dktX2_behindOne_1 : List UInt8 := dkwX2_behindOne_1 ++ dktX2_behindOne_2
def dkwX2_behindOne_0 : List UInt8 := [42, 180, 0, 138, 60, 27, 16, 43, 159, 0, 9, 27, 16, 45, 160, 0, 31, 42, 6, 182, 0, 210, 42, 27]
abbrev dktX2_behindOne_0 : List UInt8 := dkwX2_behindOne_0 ++ dktX2_behindOne_1
theorem dksX2_behindOne_0 : cX2_behindOne.data.toList.drop 0 = dktX2_behindOne_0 := by decide +kernel
theorem dksX2_behindOne_1 : cX2_behindOne.data.toList.drop 24 = dktX2_behindOne_1 := dk_seg dksX2_behindOne_0 24 rfl rfl
theorem dksX2_behindOne_2 : cX2_behindOne.data.toList.drop 48 = dktX2_behindOne_2 := dk_seg dksX2_behindOne_1 24 rfl rfl
theorem dksX2_behindOne_3 : cX2_behindOne.data.toList.drop 72 = dktX2_behindOne_3 := dk_seg dksX2_behindOne_2 24 rfl rfl
theorem dksX2_behindOne_4 : cX2_behindOne.data.toList.drop 96 = dktX2_behindOne_4 := dk_seg dksX2_behindOne_3 24 rfl rfl
theorem dksX2_behindOne_5 : cX2_behindOne.data.toList.drop 120 = dktX2_behindOne_5 := dk_seg dksX2_behindOne_4 24 rfl rfl
theorem dX2_behindOne_0 : decode cX2_behindOne 0 = .ok (.aload_n 0, 1) := dk_42 (dk_at dksX2_behindOne_0 0 rfl rfl)
theorem dX2_behindOne_1 : decode cX2_behindOne 1 = .ok (.getfield 138, 3) := dk_180 0 138 (dk_at dksX2_behindOne_0 1 rfl rfl)
theorem dX2_behindOne_4 : decode cX2_behindOne 4 = .ok (.istore_n 1, 1) := dk_60 (dk_at dksX2_behindOne_0 4 rfl rfl)
theorem dX2_behindOne_5 : decode cX2_behindOne 5 = .ok (.iload_n 1, 1) := dk_27 (dk_at dksX2_behindOne_0 5 rfl rfl)
theorem dX2_behindOne_6 : decode cX2_behindOne 6 = .ok (.bipush 43, 2) := dk_16 43 (dk_at dksX2_behindOne_0 6 rfl rfl)
theorem dX2_behindOne_8 : decode cX2_behindOne 8 = .ok (.if_icmp .eq 9, 3) := dk_159 0 9 (dk_at dksX2_behindOne_0 8 rfl rfl)
theorem dX2_behindOne_11 : decode cX2_behindOne 11 = .ok (.iload_n 1, 1) := dk_27 (dk_at dksX2_behindOne_0 11 rfl rfl)
theorem dX2_behindOne_12 : decode cX2_behindOne 12 = .ok (.bipush 45, 2) := dk_16 45 (dk_at dksX2_behindOne_0 12 rfl rfl)
theorem dX2_behindOne_14 : decode cX2_behindOne 14 = .ok (.if_icmp .ne 31, 3) := dk_160 0 31 (dk_at dksX2_behindOne_0 14 rfl rfl)
theorem dX2_behindOne_17 : decode cX2_behindOne 17 = .ok (.aload_n 0, 1) := dk_42 (dk_at dksX2_behindOne_0 17 rfl rfl)
theorem dX2_behindOne_18 : decode cX2_behindOne 18 = .ok (.iconst 3, 1) := dk_6 (dk_at dksX2_behindOne_0 18 rfl rfl)
theorem dX2_behindOne_19 : decode cX2_behindOne 19 = .ok (.invokevirtual 210, 3) := dk_182 0 210 (dk_at dksX2_behindOne_0 19 rfl rfl)
theorem dX2_behindOne_22 : decode cX2_behindOne 22 = .ok (.aload_n 0, 1) := dk_42 (dk_at dksX2_behindOne_0 22 rfl rfl)
theorem dX2_behindOne_23 : decode cX2_behindOne 23 = .ok (.iload_n 1, 1) := dk_27 (dk_at dksX2_behindOne_0 23 rfl rfl)
theorem dX2_behindOne_24 : decode cX2_behindOne 24 = .ok (.bipush 43, 2) := dk_16 43 (dk_at dksX2_behindOne_1 0 rfl rfl)
theorem dX2_behindOne_26 : decode cX2_behindOne 26 = .ok (.if_icmp .ne 7, 3) := dk_160 0 7 (dk_at dksX2_behindOne_1 2 rfl rfl)
theorem dX2_behindOne_29 : decode cX2_behindOne 29 = .ok (.iconst 3, 1) := dk_6 (dk_at dksX2_behindOne_1 5 rfl rfl)
theorem dX2_behindOne_30 : decode cX2_behindOne 30 = .ok (.goto 4, 3) := dk_167 0 4 (dk_at dksX2_behindOne_1 6 rfl rfl)
theorem dX2_behindOne_33 : decode cX2_behindOne 33 = .ok (.iconst 4, 1) := dk_7 (dk_at dksX2_behindOne_1 9 rfl rfl)
theorem dX2_behindOne_34 : decode cX2_behindOne 34 = .ok (.invokevirtual 203, 3) := dk_182 0 203 (dk_at dksX2_behindOne_1 10 rfl rfl)
theorem dX2_behindOne_37 : decode cX2_behindOne 37 = .ok (.aload_n 0, 1) := dk_42 (dk_at dksX2_behindOne_1 13 rfl rfl)
theorem dX2_behindOne_38 : decode cX2_behindOne 38 = .ok (.iconst 0, 1) := dk_3 (dk_at dksX2_behindOne_1 14 rfl rfl)
theorem dX2_behindOne_39 : decode cX2_behindOne 39 = .ok (.putfield 172, 3) := dk_181 0 172 (dk_at dksX2_behindOne_1 15 rfl rfl)
theorem dX2_behindOne_42 : decode cX2_behindOne 42 = .ok (.goto 90, 3) := dk_167 0 90 (dk_at dksX2_behindOne_1 18 rfl rfl)
theorem dX2_behindOne_45 : decode cX2_behindOne 45 = .ok (.iload_n 1, 1) := dk_27 (dk_at dksX2_behindOne_1 21 rfl rfl)
theorem dX2_behindOne_46 : decode cX2_behindOne 46 = .ok (.bipush 42, 2) := dk_16 42 (dk_at dksX2_behindOne_1 22 rfl rfl)
theorem dX2_behindOne_48 : decode cX2_behindOne 48 = .ok (.if_icmp .eq 15, 3) := dk_159 0 15 (dk_at dksX2_behindOne_2 0 rfl rfl)
theorem dX2_behindOne_51 : decode cX2_behindOne 51 = .ok (.iload_n 1, 1) := dk_27 (dk_at dksX2_behindOne_2 3 rfl rfl)
theorem dX2_behindOne_52 : decode cX2_behindOne 52 = .ok (.bipush 47, 2) := dk_16 47 (dk_at dksX2_behindOne_2 4 rfl rfl)
theorem dX2_behindOne_54 : decode cX2_behindOne 54 = .ok (.if_icmp .eq 9, 3) := dk_159 0 9 (dk_at dksX2_behindOne_2 6 rfl rfl)
theorem dX2_behindOne_57 : decode cX2_behindOne 57 = .ok (.iload_n 1, 1) := dk_27 (dk_at dksX2_behindOne_2 9 rfl rfl)
theorem dX2_behindOne_58 : decode cX2_behindOne 58 = .ok (.bipush 37, 2) := dk_16 37 (dk_at dksX2_behindOne_2 10 rfl rfl)
theorem dX2_behindOne_60 : decode cX2_behindOne 60 = .ok (.if_icmp .ne 43, 3) := dk_160 0 43 (dk_at dksX2_behindOne_2 12 rfl rfl)
theorem dX2_behindOne_63 : decode cX2_behindOne 63 = .ok (.aload_n 0, 1) := dk_42 (dk_at dksX2_behindOne_2 15 rfl rfl)
theorem dX2_behindOne_64 : decode cX2_behindOne 64 = .ok (.iconst 5, 1) := dk_8 (dk_at dksX2_behindOne_2 16 rfl rfl)
theorem dX2_behindOne_65 : decode cX2_behindOne 65 = .ok (.invokevirtual 210, 3) := dk_182 0 210 (dk_at dksX2_behindOne_2 17 rfl rfl)
theorem dX2_behindOne_68 : decode cX2_behindOne 68 = .ok (.aload_n 0, 1) := dk_42 (dk_at dksX2_behindOne_2 20 rfl rfl)
theorem dX2_behindOne_69 : decode cX2_behindOne 69 = .ok (.iload_n 1, 1) := dk_27 (dk_at dksX2_behindOne_2 21 rfl rfl)
theorem dX2_behindOne_70 : decode cX2_behindOne 70 = .ok (.bipush 42, 2) := dk_16 42 (dk_at dksX2_behindOne_2 22 rfl rfl)
theorem dX2_behindOne_72 : decode cX2_behindOne 72 = .ok (.if_icmp .ne 7, 3) := dk_160 0 7 (dk_at dksX2_behindOne_3 0 rfl rfl)
theorem dX2_behindOne_75 : decode cX2_behindOne 75 = .ok (.iconst 5, 1) := dk_8 (dk_at dksX2_behindOne_3 3 rfl rfl)
theorem dX2_behindOne_76 : decode cX2_behindOne 76 = .ok (.goto 16, 3) := dk_167 0 16 (dk_at dksX2_behindOne_3 4 rfl rfl)
theorem dX2_behindOne_79 : decode cX2_behindOne 79 = .ok (.iload_n 1, 1) := dk_27 (dk_at dksX2_behindOne_3 7 rfl rfl)
theorem dX2_behindOne_80 : decode cX2_behindOne 80 = .ok (.bipush 47, 2) := dk_16 47 (dk_at dksX2_behindOne_3 8 rfl rfl)
theorem dX2_behindOne_82 : decode cX2_behindOne 82 = .ok (.if_icmp .ne 8, 3) := dk_160 0 8 (dk_at dksX2_behindOne_3 10 rfl rfl)
theorem dX2_behindOne_85 : decode cX2_behindOne 85 = .ok (.bipush 6, 2) := dk_16 6 (dk_at dksX2_behindOne_3 13 rfl rfl)
theorem dX2_behindOne_87 : decode cX2_behindOne 87 = .ok (.goto 5, 3) := dk_167 0 5 (dk_at dksX2_behindOne_3 15 rfl rfl)
theorem dX2_behindOne_90 : decode cX2_behindOne 90 = .ok (.bipush 7, 2) := dk_16 7 (dk_at dksX2_behindOne_3 18 rfl rfl)
theorem dX2_behindOne_92 : decode cX2_behindOne 92 = .ok (.invokevirtual 203, 3) := dk_182 0 203 (dk_at dksX2_behindOne_3 20 rfl rfl)
theorem dX2_behindOne_95 : decode cX2_behindOne 95 = .ok (.aload_n 0, 1) := dk_42 (dk_at dksX2_behindOne_3 23 rfl rfl)
theorem dX2_behindOne_96 : decode cX2_behindOne 96 = .ok (.iconst 0, 1) := dk_3 (dk_at dksX2_behindOne_4 0 rfl rfl)
theorem dX2_behindOne_97 : decode cX2_behindOne 97 = .ok (.putfield 172, 3) := dk_181 0 172 (dk_at dksX2_behindOne_4 1 rfl rfl)
theorem dX2_behindOne_100 : decode cX2_behindOne 100 = .ok (.goto 32, 3) := dk_167 0 32 (dk_at dksX2_behindOne_4 4 rfl rfl)
theorem dX2_behindOne_103 : decode cX2_behindOne 103 = .ok (.aload_n 0, 1) := dk_42 (dk_at dksX2_behindOne_4 7 rfl rfl)
theorem dX2_behindOne_104 : decode cX2_behindOne 104 = .ok (.iconst 3, 1) := dk_6 (dk_at dksX2_behindOne_4 8 rfl rfl)
theorem dX2_behindOne_105 : decode cX2_behindOne 105 = .ok (.invokevirtual 210, 3) := dk_182 0 210 (dk_at dksX2_behindOne_4 9 rfl rfl)
theorem dX2_behindOne_108 : decode cX2_behindOne 108 = .ok (.aload_n 0, 1) := dk_42 (dk_at dksX2_behindOne_4 12 rfl rfl)
theorem dX2_behindOne_109 : decode cX2_behindOne 109 = .ok (.dup, 1) := dk_89 (dk_at dksX2_behindOne_4 13 rfl rfl)
theorem dX2_behindOne_110 : decode cX2_behindOne 110 = .ok (.getfield 169, 3) := dk_180 0 169 (dk_at dksX2_behindOne_4 14 rfl rfl)
theorem dX2_behindOne_113 : decode cX2_behindOne 113 = .ok (.iconst 1, 1) := dk_4 (dk_at dksX2_behindOne_4 17 rfl rfl)
theorem dX2_behindOne_114 : decode cX2_behindOne 114 = .ok (.isub, 1) := dk_100 (dk_at dksX2_behindOne_4 18 rfl rfl)
theorem dX2_behindOne_115 : decode cX2_behindOne 115 = .ok (.putfield 169, 3) := dk_181 0 169 (dk_at dksX2_behindOne_4 19 rfl rfl)
theorem dX2_behindOne_118 : decode cX2_behindOne 118 = .ok (.aload_n 0, 1) := dk_42 (dk_at dksX2_behindOne_4 22 rfl rfl)
theorem dX2_behindOne_119 : decode cX2_behindOne 119 = .ok (.dup, 1) := dk_89 (dk_at dksX2_behindOne_4 23 rfl rfl)
theorem dX2_behindOne_120 : decode cX2_behindOne 120 = .ok (.getfield 176, 3) := dk_180 0 176 (dk_at dksX2_behindOne_5 0 rfl rfl)
theorem dX2_behindOne_123 : decode cX2_behindOne 123 = .ok (.iconst 1, 1) := dk_4 (dk_at dksX2_behindOne_5 3 rfl rfl)
theorem dX2_behindOne_124 : decode cX2_behindOne 124 = .ok (.isub, 1) := dk_100 (dk_at dksX2_behindOne_5 4 rfl rfl)
theorem dX2_behindOne_125 : decode cX2_behindOne 125 = .ok (.putfield 176, 3) := dk_181 0 176 (dk_at dksX2_behindOne_5 5 rfl rfl)
theorem dX2_behindOne_128 : decode cX2_behindOne 128 = .ok (.aload_n 0, 1) := dk_42 (dk_at dksX2_behindOne_5 8 rfl rfl)
theorem dX2_behindOne_129 : decode cX2_behindOne 129 = .ok (.invokevirtual 193, 3) := dk_182 0 193 (dk_at dksX2_behindOne_5 9 rfl rfl)
theorem dX2_behindOne_132 : decode cX2_behindOne 132 = .ok (.aload_n 0, 1) := dk_42 (dk_at dksX2_behindOne_5 12 rfl rfl)
theorem dX2_behindOne_133 : decode cX2_behindOne 133 = .ok (.invokevirtual 190, 3) := dk_182 0 190 (dk_at dksX2_behindOne_5 13 rfl rfl)
theorem dX2_behindOne_136 : decode cX2_behindOne 136 = .ok (.iconst 0, 1) := dk_3 (dk_at dksX2_behindOne_5 16 rfl rfl)
theorem dX2_behindOne_137 : decode cX2_behindOne 137 = .ok (.ireturn, 1) := dk_172 (dk_at dksX2_behindOne_5 17 rfl rfl)
abbrev cX2_settle : ByteArray := prog_17_method_30_code
def yX2_settle : MethodName := ⟨RX2, "settle", "(I)V"⟩
def dkwX2_settle_2 : List UInt8 := [42, 42, 180, 0, 36, 42, 180, 0, 169, 46, 3, 182, 0, 179, 167, 255, 194, 177]
abbrev dktX2_settle_2 : List UInt8 := dkwX2_settle_2 ++ []
def dkwX2_settle_1 : List UInt8 := [180, 0, 36, 42, 180, 0, 169, 4, 100, 46, 27, 161, 0, 30, 42, 89, 180, 0, 169, 4, 100, 181, 0, 169]
abbrev dktX2_settle_1 : List UInt8 := dkwX2_settle_1 ++ dktX2_settle_2
def dkwX2_settle_0 : List UInt8 := [42, 180, 0, 169, 158, 0, 61, 42, 180, 0, 36, 42, 180, 0, 169, 4, 100, 46, 16, 40, 162, 0, 45, 42]
abbrev dktX2_settle_0 : List UInt8 := dkwX2_settle_0 ++ dktX2_settle_1
theorem dksX2_settle_0 : cX2_settle.data.toList.drop 0 = dktX2_settle_0 := by decide +kernel
theorem dksX2_settle_1 : cX2_settle.data.toList.drop 24 = dktX2_settle_1 := dk_seg dksX2_settle_0 24 rfl rfl
theorem dksX2_settle_2 : cX2_settle.data.toList.drop 48 = dktX2_settle_2 := dk_seg dksX2_settle_1 24 rfl rfl
theorem dX2_settle_0 : decode cX2_settle 0 = .ok (.aload_n 0, 1) := dk_42 (dk_at dksX2_settle_0 0 rfl rfl)
theorem dX2_settle_1 : decode cX2_settle 1 = .ok (.getfield 169, 3) := dk_180 0 169 (dk_at dksX2_settle_0 1 rfl rfl)
theorem dX2_settle_4 : decode cX2_settle 4 = .ok (.ifCond .le 61, 3) := dk_158 0 61 (dk_at dksX2_settle_0 4 rfl rfl)
theorem dX2_settle_7 : decode cX2_settle 7 = .ok (.aload_n 0, 1) := dk_42 (dk_at dksX2_settle_0 7 rfl rfl)
theorem dX2_settle_8 : decode cX2_settle 8 = .ok (.getfield 36, 3) := dk_180 0 36 (dk_at dksX2_settle_0 8 rfl rfl)
theorem dX2_settle_11 : decode cX2_settle 11 = .ok (.aload_n 0, 1) := dk_42 (dk_at dksX2_settle_0 11 rfl rfl)
theorem dX2_settle_12 : decode cX2_settle 12 = .ok (.getfield 169, 3) := dk_180 0 169 (dk_at dksX2_settle_0 12 rfl rfl)
theorem dX2_settle_15 : decode cX2_settle 15 = .ok (.iconst 1, 1) := dk_4 (dk_at dksX2_settle_0 15 rfl rfl)
theorem dX2_settle_16 : decode cX2_settle 16 = .ok (.isub, 1) := dk_100 (dk_at dksX2_settle_0 16 rfl rfl)
theorem dX2_settle_17 : decode cX2_settle 17 = .ok (.iaload, 1) := dk_46 (dk_at dksX2_settle_0 17 rfl rfl)
theorem dX2_settle_18 : decode cX2_settle 18 = .ok (.bipush 40, 2) := dk_16 40 (dk_at dksX2_settle_0 18 rfl rfl)
theorem dX2_settle_20 : decode cX2_settle 20 = .ok (.if_icmp .ge 45, 3) := dk_162 0 45 (dk_at dksX2_settle_0 20 rfl rfl)
theorem dX2_settle_23 : decode cX2_settle 23 = .ok (.aload_n 0, 1) := dk_42 (dk_at dksX2_settle_0 23 rfl rfl)
theorem dX2_settle_24 : decode cX2_settle 24 = .ok (.getfield 36, 3) := dk_180 0 36 (dk_at dksX2_settle_1 0 rfl rfl)
theorem dX2_settle_27 : decode cX2_settle 27 = .ok (.aload_n 0, 1) := dk_42 (dk_at dksX2_settle_1 3 rfl rfl)
theorem dX2_settle_28 : decode cX2_settle 28 = .ok (.getfield 169, 3) := dk_180 0 169 (dk_at dksX2_settle_1 4 rfl rfl)
theorem dX2_settle_31 : decode cX2_settle 31 = .ok (.iconst 1, 1) := dk_4 (dk_at dksX2_settle_1 7 rfl rfl)
theorem dX2_settle_32 : decode cX2_settle 32 = .ok (.isub, 1) := dk_100 (dk_at dksX2_settle_1 8 rfl rfl)
theorem dX2_settle_33 : decode cX2_settle 33 = .ok (.iaload, 1) := dk_46 (dk_at dksX2_settle_1 9 rfl rfl)
theorem dX2_settle_34 : decode cX2_settle 34 = .ok (.iload_n 1, 1) := dk_27 (dk_at dksX2_settle_1 10 rfl rfl)
theorem dX2_settle_35 : decode cX2_settle 35 = .ok (.if_icmp .lt 30, 3) := dk_161 0 30 (dk_at dksX2_settle_1 11 rfl rfl)
theorem dX2_settle_38 : decode cX2_settle 38 = .ok (.aload_n 0, 1) := dk_42 (dk_at dksX2_settle_1 14 rfl rfl)
theorem dX2_settle_39 : decode cX2_settle 39 = .ok (.dup, 1) := dk_89 (dk_at dksX2_settle_1 15 rfl rfl)
theorem dX2_settle_40 : decode cX2_settle 40 = .ok (.getfield 169, 3) := dk_180 0 169 (dk_at dksX2_settle_1 16 rfl rfl)
theorem dX2_settle_43 : decode cX2_settle 43 = .ok (.iconst 1, 1) := dk_4 (dk_at dksX2_settle_1 19 rfl rfl)
theorem dX2_settle_44 : decode cX2_settle 44 = .ok (.isub, 1) := dk_100 (dk_at dksX2_settle_1 20 rfl rfl)
theorem dX2_settle_45 : decode cX2_settle 45 = .ok (.putfield 169, 3) := dk_181 0 169 (dk_at dksX2_settle_1 21 rfl rfl)
theorem dX2_settle_48 : decode cX2_settle 48 = .ok (.aload_n 0, 1) := dk_42 (dk_at dksX2_settle_2 0 rfl rfl)
theorem dX2_settle_49 : decode cX2_settle 49 = .ok (.aload_n 0, 1) := dk_42 (dk_at dksX2_settle_2 1 rfl rfl)
theorem dX2_settle_50 : decode cX2_settle 50 = .ok (.getfield 36, 3) := dk_180 0 36 (dk_at dksX2_settle_2 2 rfl rfl)
theorem dX2_settle_53 : decode cX2_settle 53 = .ok (.aload_n 0, 1) := dk_42 (dk_at dksX2_settle_2 5 rfl rfl)
theorem dX2_settle_54 : decode cX2_settle 54 = .ok (.getfield 169, 3) := dk_180 0 169 (dk_at dksX2_settle_2 6 rfl rfl)
theorem dX2_settle_57 : decode cX2_settle 57 = .ok (.iaload, 1) := dk_46 (dk_at dksX2_settle_2 9 rfl rfl)
theorem dX2_settle_58 : decode cX2_settle 58 = .ok (.iconst 0, 1) := dk_3 (dk_at dksX2_settle_2 10 rfl rfl)
theorem dX2_settle_59 : decode cX2_settle 59 = .ok (.invokevirtual 179, 3) := dk_182 0 179 (dk_at dksX2_settle_2 11 rfl rfl)
theorem dX2_settle_62 : decode cX2_settle 62 = .ok (.goto (-62), 3) := dk_167 255 194 (dk_at dksX2_settle_2 14 rfl rfl)
theorem dX2_settle_65 : decode cX2_settle 65 = .ok (.return_, 1) := dk_177 (dk_at dksX2_settle_2 17 rfl rfl)
abbrev cX2_emit : ByteArray := prog_17_method_27_code
def yX2_emit : MethodName := ⟨RX2, "emit", "(II)V"⟩
def dkwX2_emit_2 : List UInt8 := [96, 181, 0, 166, 177]
abbrev dktX2_emit_2 : List UInt8 := dkwX2_emit_2 ++ []
def dkwX2_emit_1 : List UInt8 := [42, 180, 0, 163, 16, 80, 96, 5, 42, 180, 0, 166, 104, 96, 4, 96, 28, 79, 42, 89, 180, 0, 166, 4]
abbrev dktX2_emit_1 : List UInt8 := dkwX2_emit_1 ++ dktX2_emit_2
def dkwX2_emit_0 : List UInt8 := [42, 180, 0, 23, 42, 180, 0, 163, 16, 80, 96, 5, 42, 180, 0, 166, 104, 96, 27, 79, 42, 180, 0, 23]
abbrev dktX2_emit_0 : List UInt8 := dkwX2_emit_0 ++ dktX2_emit_1
theorem dksX2_emit_0 : cX2_emit.data.toList.drop 0 = dktX2_emit_0 := by decide +kernel
theorem dksX2_emit_1 : cX2_emit.data.toList.drop 24 = dktX2_emit_1 := dk_seg dksX2_emit_0 24 rfl rfl
theorem dksX2_emit_2 : cX2_emit.data.toList.drop 48 = dktX2_emit_2 := dk_seg dksX2_emit_1 24 rfl rfl
theorem dX2_emit_0 : decode cX2_emit 0 = .ok (.aload_n 0, 1) := dk_42 (dk_at dksX2_emit_0 0 rfl rfl)
theorem dX2_emit_1 : decode cX2_emit 1 = .ok (.getfield 23, 3) := dk_180 0 23 (dk_at dksX2_emit_0 1 rfl rfl)
theorem dX2_emit_4 : decode cX2_emit 4 = .ok (.aload_n 0, 1) := dk_42 (dk_at dksX2_emit_0 4 rfl rfl)
theorem dX2_emit_5 : decode cX2_emit 5 = .ok (.getfield 163, 3) := dk_180 0 163 (dk_at dksX2_emit_0 5 rfl rfl)
theorem dX2_emit_8 : decode cX2_emit 8 = .ok (.bipush 80, 2) := dk_16 80 (dk_at dksX2_emit_0 8 rfl rfl)
theorem dX2_emit_10 : decode cX2_emit 10 = .ok (.iadd, 1) := dk_96 (dk_at dksX2_emit_0 10 rfl rfl)
theorem dX2_emit_11 : decode cX2_emit 11 = .ok (.iconst 2, 1) := dk_5 (dk_at dksX2_emit_0 11 rfl rfl)
theorem dX2_emit_12 : decode cX2_emit 12 = .ok (.aload_n 0, 1) := dk_42 (dk_at dksX2_emit_0 12 rfl rfl)
theorem dX2_emit_13 : decode cX2_emit 13 = .ok (.getfield 166, 3) := dk_180 0 166 (dk_at dksX2_emit_0 13 rfl rfl)
theorem dX2_emit_16 : decode cX2_emit 16 = .ok (.imul, 1) := dk_104 (dk_at dksX2_emit_0 16 rfl rfl)
theorem dX2_emit_17 : decode cX2_emit 17 = .ok (.iadd, 1) := dk_96 (dk_at dksX2_emit_0 17 rfl rfl)
theorem dX2_emit_18 : decode cX2_emit 18 = .ok (.iload_n 1, 1) := dk_27 (dk_at dksX2_emit_0 18 rfl rfl)
theorem dX2_emit_19 : decode cX2_emit 19 = .ok (.iastore, 1) := dk_79 (dk_at dksX2_emit_0 19 rfl rfl)
theorem dX2_emit_20 : decode cX2_emit 20 = .ok (.aload_n 0, 1) := dk_42 (dk_at dksX2_emit_0 20 rfl rfl)
theorem dX2_emit_21 : decode cX2_emit 21 = .ok (.getfield 23, 3) := dk_180 0 23 (dk_at dksX2_emit_0 21 rfl rfl)
theorem dX2_emit_24 : decode cX2_emit 24 = .ok (.aload_n 0, 1) := dk_42 (dk_at dksX2_emit_1 0 rfl rfl)
theorem dX2_emit_25 : decode cX2_emit 25 = .ok (.getfield 163, 3) := dk_180 0 163 (dk_at dksX2_emit_1 1 rfl rfl)
theorem dX2_emit_28 : decode cX2_emit 28 = .ok (.bipush 80, 2) := dk_16 80 (dk_at dksX2_emit_1 4 rfl rfl)
theorem dX2_emit_30 : decode cX2_emit 30 = .ok (.iadd, 1) := dk_96 (dk_at dksX2_emit_1 6 rfl rfl)
theorem dX2_emit_31 : decode cX2_emit 31 = .ok (.iconst 2, 1) := dk_5 (dk_at dksX2_emit_1 7 rfl rfl)
theorem dX2_emit_32 : decode cX2_emit 32 = .ok (.aload_n 0, 1) := dk_42 (dk_at dksX2_emit_1 8 rfl rfl)
theorem dX2_emit_33 : decode cX2_emit 33 = .ok (.getfield 166, 3) := dk_180 0 166 (dk_at dksX2_emit_1 9 rfl rfl)
theorem dX2_emit_36 : decode cX2_emit 36 = .ok (.imul, 1) := dk_104 (dk_at dksX2_emit_1 12 rfl rfl)
theorem dX2_emit_37 : decode cX2_emit 37 = .ok (.iadd, 1) := dk_96 (dk_at dksX2_emit_1 13 rfl rfl)
theorem dX2_emit_38 : decode cX2_emit 38 = .ok (.iconst 1, 1) := dk_4 (dk_at dksX2_emit_1 14 rfl rfl)
theorem dX2_emit_39 : decode cX2_emit 39 = .ok (.iadd, 1) := dk_96 (dk_at dksX2_emit_1 15 rfl rfl)
theorem dX2_emit_40 : decode cX2_emit 40 = .ok (.iload_n 2, 1) := dk_28 (dk_at dksX2_emit_1 16 rfl rfl)
theorem dX2_emit_41 : decode cX2_emit 41 = .ok (.iastore, 1) := dk_79 (dk_at dksX2_emit_1 17 rfl rfl)
theorem dX2_emit_42 : decode cX2_emit 42 = .ok (.aload_n 0, 1) := dk_42 (dk_at dksX2_emit_1 18 rfl rfl)
theorem dX2_emit_43 : decode cX2_emit 43 = .ok (.dup, 1) := dk_89 (dk_at dksX2_emit_1 19 rfl rfl)
theorem dX2_emit_44 : decode cX2_emit 44 = .ok (.getfield 166, 3) := dk_180 0 166 (dk_at dksX2_emit_1 20 rfl rfl)
theorem dX2_emit_47 : decode cX2_emit 47 = .ok (.iconst 1, 1) := dk_4 (dk_at dksX2_emit_1 23 rfl rfl)
theorem dX2_emit_48 : decode cX2_emit 48 = .ok (.iadd, 1) := dk_96 (dk_at dksX2_emit_2 0 rfl rfl)
theorem dX2_emit_49 : decode cX2_emit 49 = .ok (.putfield 166, 3) := dk_181 0 166 (dk_at dksX2_emit_2 1 rfl rfl)
theorem dX2_emit_52 : decode cX2_emit 52 = .ok (.return_, 1) := dk_177 (dk_at dksX2_emit_2 4 rfl rfl)
abbrev cX2_push : ByteArray := prog_17_method_28_code
def yX2_push : MethodName := ⟨RX2, "push", "(I)V"⟩
def dkwX2_push_0 : List UInt8 := [42, 180, 0, 36, 42, 180, 0, 169, 27, 79, 42, 89, 180, 0, 169, 4, 96, 181, 0, 169, 177]
abbrev dktX2_push_0 : List UInt8 := dkwX2_push_0 ++ []
theorem dksX2_push_0 : cX2_push.data.toList.drop 0 = dktX2_push_0 := by decide +kernel
theorem dX2_push_0 : decode cX2_push 0 = .ok (.aload_n 0, 1) := dk_42 (dk_at dksX2_push_0 0 rfl rfl)
theorem dX2_push_1 : decode cX2_push 1 = .ok (.getfield 36, 3) := dk_180 0 36 (dk_at dksX2_push_0 1 rfl rfl)
theorem dX2_push_4 : decode cX2_push 4 = .ok (.aload_n 0, 1) := dk_42 (dk_at dksX2_push_0 4 rfl rfl)
theorem dX2_push_5 : decode cX2_push 5 = .ok (.getfield 169, 3) := dk_180 0 169 (dk_at dksX2_push_0 5 rfl rfl)
theorem dX2_push_8 : decode cX2_push 8 = .ok (.iload_n 1, 1) := dk_27 (dk_at dksX2_push_0 8 rfl rfl)
theorem dX2_push_9 : decode cX2_push 9 = .ok (.iastore, 1) := dk_79 (dk_at dksX2_push_0 9 rfl rfl)
theorem dX2_push_10 : decode cX2_push 10 = .ok (.aload_n 0, 1) := dk_42 (dk_at dksX2_push_0 10 rfl rfl)
theorem dX2_push_11 : decode cX2_push 11 = .ok (.dup, 1) := dk_89 (dk_at dksX2_push_0 11 rfl rfl)
theorem dX2_push_12 : decode cX2_push 12 = .ok (.getfield 169, 3) := dk_180 0 169 (dk_at dksX2_push_0 12 rfl rfl)
theorem dX2_push_15 : decode cX2_push 15 = .ok (.iconst 1, 1) := dk_4 (dk_at dksX2_push_0 15 rfl rfl)
theorem dX2_push_16 : decode cX2_push 16 = .ok (.iadd, 1) := dk_96 (dk_at dksX2_push_0 16 rfl rfl)
theorem dX2_push_17 : decode cX2_push 17 = .ok (.putfield 169, 3) := dk_181 0 169 (dk_at dksX2_push_0 17 rfl rfl)
theorem dX2_push_20 : decode cX2_push 20 = .ok (.return_, 1) := dk_177 (dk_at dksX2_push_0 20 rfl rfl)
abbrev cX2_whole : ByteArray := prog_17_method_29_code
def yX2_whole : MethodName := ⟨RX2, "whole", "()V"⟩
def dkwX2_whole_2 : List UInt8 := [5, 3, 182, 0, 179, 167, 255, 208, 177]
abbrev dktX2_whole_2 : List UInt8 := dkwX2_whole_2 ++ []
def dkwX2_whole_1 : List UInt8 := [160, 0, 32, 42, 89, 180, 0, 169, 4, 100, 181, 0, 169, 42, 89, 180, 0, 176, 4, 100, 181, 0, 176, 42]
abbrev dktX2_whole_1 : List UInt8 := dkwX2_whole_1 ++ dktX2_whole_2
def dkwX2_whole_0 : List UInt8 := [42, 4, 181, 0, 172, 42, 180, 0, 169, 158, 0, 47, 42, 180, 0, 36, 42, 180, 0, 169, 4, 100, 46, 5]
abbrev dktX2_whole_0 : List UInt8 := dkwX2_whole_0 ++ dktX2_whole_1
theorem dksX2_whole_0 : cX2_whole.data.toList.drop 0 = dktX2_whole_0 := by decide +kernel
theorem dksX2_whole_1 : cX2_whole.data.toList.drop 24 = dktX2_whole_1 := dk_seg dksX2_whole_0 24 rfl rfl
theorem dksX2_whole_2 : cX2_whole.data.toList.drop 48 = dktX2_whole_2 := dk_seg dksX2_whole_1 24 rfl rfl
theorem dX2_whole_0 : decode cX2_whole 0 = .ok (.aload_n 0, 1) := dk_42 (dk_at dksX2_whole_0 0 rfl rfl)
theorem dX2_whole_1 : decode cX2_whole 1 = .ok (.iconst 1, 1) := dk_4 (dk_at dksX2_whole_0 1 rfl rfl)
theorem dX2_whole_2 : decode cX2_whole 2 = .ok (.putfield 172, 3) := dk_181 0 172 (dk_at dksX2_whole_0 2 rfl rfl)
theorem dX2_whole_5 : decode cX2_whole 5 = .ok (.aload_n 0, 1) := dk_42 (dk_at dksX2_whole_0 5 rfl rfl)
theorem dX2_whole_6 : decode cX2_whole 6 = .ok (.getfield 169, 3) := dk_180 0 169 (dk_at dksX2_whole_0 6 rfl rfl)
theorem dX2_whole_9 : decode cX2_whole 9 = .ok (.ifCond .le 47, 3) := dk_158 0 47 (dk_at dksX2_whole_0 9 rfl rfl)
theorem dX2_whole_12 : decode cX2_whole 12 = .ok (.aload_n 0, 1) := dk_42 (dk_at dksX2_whole_0 12 rfl rfl)
theorem dX2_whole_13 : decode cX2_whole 13 = .ok (.getfield 36, 3) := dk_180 0 36 (dk_at dksX2_whole_0 13 rfl rfl)
theorem dX2_whole_16 : decode cX2_whole 16 = .ok (.aload_n 0, 1) := dk_42 (dk_at dksX2_whole_0 16 rfl rfl)
theorem dX2_whole_17 : decode cX2_whole 17 = .ok (.getfield 169, 3) := dk_180 0 169 (dk_at dksX2_whole_0 17 rfl rfl)
theorem dX2_whole_20 : decode cX2_whole 20 = .ok (.iconst 1, 1) := dk_4 (dk_at dksX2_whole_0 20 rfl rfl)
theorem dX2_whole_21 : decode cX2_whole 21 = .ok (.isub, 1) := dk_100 (dk_at dksX2_whole_0 21 rfl rfl)
theorem dX2_whole_22 : decode cX2_whole 22 = .ok (.iaload, 1) := dk_46 (dk_at dksX2_whole_0 22 rfl rfl)
theorem dX2_whole_23 : decode cX2_whole 23 = .ok (.iconst 2, 1) := dk_5 (dk_at dksX2_whole_0 23 rfl rfl)
theorem dX2_whole_24 : decode cX2_whole 24 = .ok (.if_icmp .ne 32, 3) := dk_160 0 32 (dk_at dksX2_whole_1 0 rfl rfl)
theorem dX2_whole_27 : decode cX2_whole 27 = .ok (.aload_n 0, 1) := dk_42 (dk_at dksX2_whole_1 3 rfl rfl)
theorem dX2_whole_28 : decode cX2_whole 28 = .ok (.dup, 1) := dk_89 (dk_at dksX2_whole_1 4 rfl rfl)
theorem dX2_whole_29 : decode cX2_whole 29 = .ok (.getfield 169, 3) := dk_180 0 169 (dk_at dksX2_whole_1 5 rfl rfl)
theorem dX2_whole_32 : decode cX2_whole 32 = .ok (.iconst 1, 1) := dk_4 (dk_at dksX2_whole_1 8 rfl rfl)
theorem dX2_whole_33 : decode cX2_whole 33 = .ok (.isub, 1) := dk_100 (dk_at dksX2_whole_1 9 rfl rfl)
theorem dX2_whole_34 : decode cX2_whole 34 = .ok (.putfield 169, 3) := dk_181 0 169 (dk_at dksX2_whole_1 10 rfl rfl)
theorem dX2_whole_37 : decode cX2_whole 37 = .ok (.aload_n 0, 1) := dk_42 (dk_at dksX2_whole_1 13 rfl rfl)
theorem dX2_whole_38 : decode cX2_whole 38 = .ok (.dup, 1) := dk_89 (dk_at dksX2_whole_1 14 rfl rfl)
theorem dX2_whole_39 : decode cX2_whole 39 = .ok (.getfield 176, 3) := dk_180 0 176 (dk_at dksX2_whole_1 15 rfl rfl)
theorem dX2_whole_42 : decode cX2_whole 42 = .ok (.iconst 1, 1) := dk_4 (dk_at dksX2_whole_1 18 rfl rfl)
theorem dX2_whole_43 : decode cX2_whole 43 = .ok (.isub, 1) := dk_100 (dk_at dksX2_whole_1 19 rfl rfl)
theorem dX2_whole_44 : decode cX2_whole 44 = .ok (.putfield 176, 3) := dk_181 0 176 (dk_at dksX2_whole_1 20 rfl rfl)
theorem dX2_whole_47 : decode cX2_whole 47 = .ok (.aload_n 0, 1) := dk_42 (dk_at dksX2_whole_1 23 rfl rfl)
theorem dX2_whole_48 : decode cX2_whole 48 = .ok (.iconst 2, 1) := dk_5 (dk_at dksX2_whole_2 0 rfl rfl)
theorem dX2_whole_49 : decode cX2_whole 49 = .ok (.iconst 0, 1) := dk_3 (dk_at dksX2_whole_2 1 rfl rfl)
theorem dX2_whole_50 : decode cX2_whole 50 = .ok (.invokevirtual 179, 3) := dk_182 0 179 (dk_at dksX2_whole_2 2 rfl rfl)
theorem dX2_whole_53 : decode cX2_whole 53 = .ok (.goto (-48), 3) := dk_167 255 208 (dk_at dksX2_whole_2 5 rfl rfl)
theorem dX2_whole_56 : decode cX2_whole 56 = .ok (.return_, 1) := dk_177 (dk_at dksX2_whole_2 8 rfl rfl)
abbrev cX2_beginOne : ByteArray := prog_17_method_33_code
def yX2_beginOne : MethodName := ⟨RX2, "beginOne", "()I"⟩
def dkwX2_beginOne_6 : List UInt8 := [182, 0, 190, 3, 172]
abbrev dktX2_beginOne_6 : List UInt8 := dkwX2_beginOne_6 ++ []
def dkwX2_beginOne_5 : List UInt8 := [16, 8, 160, 0, 5, 6, 172, 42, 89, 180, 0, 176, 4, 96, 181, 0, 176, 42, 27, 182, 0, 203, 42]
abbrev dktX2_beginOne_5 : List UInt8 := dkwX2_beginOne_5 ++ dktX2_beginOne_6
def dkwX2_beginOne_4 : List UInt8 := [180, 0, 138, 16, 45, 160, 0, 7, 5, 167, 0, 4, 3, 60, 27, 154, 0, 5, 4, 172, 42, 180, 0, 176]
abbrev dktX2_beginOne_4 : List UInt8 := dkwX2_beginOne_4 ++ dktX2_beginOne_5
def dkwX2_beginOne_3 : List UInt8 := [182, 0, 190, 42, 182, 0, 193, 3, 172, 42, 180, 0, 138, 16, 40, 160, 0, 8, 16, 40, 167, 0, 17, 42]
abbrev dktX2_beginOne_3 : List UInt8 := dkwX2_beginOne_3 ++ dktX2_beginOne_4
def dkwX2_beginOne_2 : List UInt8 := [42, 182, 0, 196, 182, 0, 200, 153, 0, 5, 8, 172, 42, 4, 42, 182, 0, 196, 182, 0, 179, 42]
abbrev dktX2_beginOne_2 : List UInt8 := dkwX2_beginOne_2 ++ dktX2_beginOne_3
def dkwX2_beginOne_1 : List UInt8 := [180, 0, 144, 182, 0, 179, 42, 182, 0, 190, 42, 182, 0, 193, 3, 172, 42, 182, 0, 196, 155, 0, 35, 42]
abbrev dktX2_beginOne_1 : List UInt8 := dkwX2_beginOne_1 ++ dktX2_beginOne_2
def dkwX2_beginOne_0 : List UInt8 := [42, 180, 0, 138, 4, 160, 0, 34, 42, 180, 0, 144, 17, 39, 15, 164, 0, 5, 5, 172, 42, 3, 42]
abbrev dktX2_beginOne_0 : List UInt8 := dkwX2_beginOne_0 ++ dktX2_beginOne_1
theorem dksX2_beginOne_0 : cX2_beginOne.data.toList.drop 0 = dktX2_beginOne_0 := by decide +kernel
theorem dksX2_beginOne_1 : cX2_beginOne.data.toList.drop 23 = dktX2_beginOne_1 := dk_seg dksX2_beginOne_0 23 rfl rfl
theorem dksX2_beginOne_2 : cX2_beginOne.data.toList.drop 47 = dktX2_beginOne_2 := dk_seg dksX2_beginOne_1 24 rfl rfl
theorem dksX2_beginOne_3 : cX2_beginOne.data.toList.drop 69 = dktX2_beginOne_3 := dk_seg dksX2_beginOne_2 22 rfl rfl
theorem dksX2_beginOne_4 : cX2_beginOne.data.toList.drop 93 = dktX2_beginOne_4 := dk_seg dksX2_beginOne_3 24 rfl rfl
theorem dksX2_beginOne_5 : cX2_beginOne.data.toList.drop 117 = dktX2_beginOne_5 := dk_seg dksX2_beginOne_4 24 rfl rfl
theorem dksX2_beginOne_6 : cX2_beginOne.data.toList.drop 140 = dktX2_beginOne_6 := dk_seg dksX2_beginOne_5 23 rfl rfl
theorem dX2_beginOne_0 : decode cX2_beginOne 0 = .ok (.aload_n 0, 1) := dk_42 (dk_at dksX2_beginOne_0 0 rfl rfl)
theorem dX2_beginOne_1 : decode cX2_beginOne 1 = .ok (.getfield 138, 3) := dk_180 0 138 (dk_at dksX2_beginOne_0 1 rfl rfl)
theorem dX2_beginOne_4 : decode cX2_beginOne 4 = .ok (.iconst 1, 1) := dk_4 (dk_at dksX2_beginOne_0 4 rfl rfl)
theorem dX2_beginOne_5 : decode cX2_beginOne 5 = .ok (.if_icmp .ne 34, 3) := dk_160 0 34 (dk_at dksX2_beginOne_0 5 rfl rfl)
theorem dX2_beginOne_8 : decode cX2_beginOne 8 = .ok (.aload_n 0, 1) := dk_42 (dk_at dksX2_beginOne_0 8 rfl rfl)
theorem dX2_beginOne_9 : decode cX2_beginOne 9 = .ok (.getfield 144, 3) := dk_180 0 144 (dk_at dksX2_beginOne_0 9 rfl rfl)
theorem dX2_beginOne_12 : decode cX2_beginOne 12 = .ok (.sipush 9999, 3) := dk_17 39 15 (dk_at dksX2_beginOne_0 12 rfl rfl)
theorem dX2_beginOne_15 : decode cX2_beginOne 15 = .ok (.if_icmp .le 5, 3) := dk_164 0 5 (dk_at dksX2_beginOne_0 15 rfl rfl)
theorem dX2_beginOne_18 : decode cX2_beginOne 18 = .ok (.iconst 2, 1) := dk_5 (dk_at dksX2_beginOne_0 18 rfl rfl)
theorem dX2_beginOne_19 : decode cX2_beginOne 19 = .ok (.ireturn, 1) := dk_172 (dk_at dksX2_beginOne_0 19 rfl rfl)
theorem dX2_beginOne_20 : decode cX2_beginOne 20 = .ok (.aload_n 0, 1) := dk_42 (dk_at dksX2_beginOne_0 20 rfl rfl)
theorem dX2_beginOne_21 : decode cX2_beginOne 21 = .ok (.iconst 0, 1) := dk_3 (dk_at dksX2_beginOne_0 21 rfl rfl)
theorem dX2_beginOne_22 : decode cX2_beginOne 22 = .ok (.aload_n 0, 1) := dk_42 (dk_at dksX2_beginOne_0 22 rfl rfl)
theorem dX2_beginOne_23 : decode cX2_beginOne 23 = .ok (.getfield 144, 3) := dk_180 0 144 (dk_at dksX2_beginOne_1 0 rfl rfl)
theorem dX2_beginOne_26 : decode cX2_beginOne 26 = .ok (.invokevirtual 179, 3) := dk_182 0 179 (dk_at dksX2_beginOne_1 3 rfl rfl)
theorem dX2_beginOne_29 : decode cX2_beginOne 29 = .ok (.aload_n 0, 1) := dk_42 (dk_at dksX2_beginOne_1 6 rfl rfl)
theorem dX2_beginOne_30 : decode cX2_beginOne 30 = .ok (.invokevirtual 190, 3) := dk_182 0 190 (dk_at dksX2_beginOne_1 7 rfl rfl)
theorem dX2_beginOne_33 : decode cX2_beginOne 33 = .ok (.aload_n 0, 1) := dk_42 (dk_at dksX2_beginOne_1 10 rfl rfl)
theorem dX2_beginOne_34 : decode cX2_beginOne 34 = .ok (.invokevirtual 193, 3) := dk_182 0 193 (dk_at dksX2_beginOne_1 11 rfl rfl)
theorem dX2_beginOne_37 : decode cX2_beginOne 37 = .ok (.iconst 0, 1) := dk_3 (dk_at dksX2_beginOne_1 14 rfl rfl)
theorem dX2_beginOne_38 : decode cX2_beginOne 38 = .ok (.ireturn, 1) := dk_172 (dk_at dksX2_beginOne_1 15 rfl rfl)
theorem dX2_beginOne_39 : decode cX2_beginOne 39 = .ok (.aload_n 0, 1) := dk_42 (dk_at dksX2_beginOne_1 16 rfl rfl)
theorem dX2_beginOne_40 : decode cX2_beginOne 40 = .ok (.invokevirtual 196, 3) := dk_182 0 196 (dk_at dksX2_beginOne_1 17 rfl rfl)
theorem dX2_beginOne_43 : decode cX2_beginOne 43 = .ok (.ifCond .lt 35, 3) := dk_155 0 35 (dk_at dksX2_beginOne_1 20 rfl rfl)
theorem dX2_beginOne_46 : decode cX2_beginOne 46 = .ok (.aload_n 0, 1) := dk_42 (dk_at dksX2_beginOne_1 23 rfl rfl)
theorem dX2_beginOne_47 : decode cX2_beginOne 47 = .ok (.aload_n 0, 1) := dk_42 (dk_at dksX2_beginOne_2 0 rfl rfl)
theorem dX2_beginOne_48 : decode cX2_beginOne 48 = .ok (.invokevirtual 196, 3) := dk_182 0 196 (dk_at dksX2_beginOne_2 1 rfl rfl)
theorem dX2_beginOne_51 : decode cX2_beginOne 51 = .ok (.invokevirtual 200, 3) := dk_182 0 200 (dk_at dksX2_beginOne_2 4 rfl rfl)
theorem dX2_beginOne_54 : decode cX2_beginOne 54 = .ok (.ifCond .eq 5, 3) := dk_153 0 5 (dk_at dksX2_beginOne_2 7 rfl rfl)
theorem dX2_beginOne_57 : decode cX2_beginOne 57 = .ok (.iconst 5, 1) := dk_8 (dk_at dksX2_beginOne_2 10 rfl rfl)
theorem dX2_beginOne_58 : decode cX2_beginOne 58 = .ok (.ireturn, 1) := dk_172 (dk_at dksX2_beginOne_2 11 rfl rfl)
theorem dX2_beginOne_59 : decode cX2_beginOne 59 = .ok (.aload_n 0, 1) := dk_42 (dk_at dksX2_beginOne_2 12 rfl rfl)
theorem dX2_beginOne_60 : decode cX2_beginOne 60 = .ok (.iconst 1, 1) := dk_4 (dk_at dksX2_beginOne_2 13 rfl rfl)
theorem dX2_beginOne_61 : decode cX2_beginOne 61 = .ok (.aload_n 0, 1) := dk_42 (dk_at dksX2_beginOne_2 14 rfl rfl)
theorem dX2_beginOne_62 : decode cX2_beginOne 62 = .ok (.invokevirtual 196, 3) := dk_182 0 196 (dk_at dksX2_beginOne_2 15 rfl rfl)
theorem dX2_beginOne_65 : decode cX2_beginOne 65 = .ok (.invokevirtual 179, 3) := dk_182 0 179 (dk_at dksX2_beginOne_2 18 rfl rfl)
theorem dX2_beginOne_68 : decode cX2_beginOne 68 = .ok (.aload_n 0, 1) := dk_42 (dk_at dksX2_beginOne_2 21 rfl rfl)
theorem dX2_beginOne_69 : decode cX2_beginOne 69 = .ok (.invokevirtual 190, 3) := dk_182 0 190 (dk_at dksX2_beginOne_3 0 rfl rfl)
theorem dX2_beginOne_72 : decode cX2_beginOne 72 = .ok (.aload_n 0, 1) := dk_42 (dk_at dksX2_beginOne_3 3 rfl rfl)
theorem dX2_beginOne_73 : decode cX2_beginOne 73 = .ok (.invokevirtual 193, 3) := dk_182 0 193 (dk_at dksX2_beginOne_3 4 rfl rfl)
theorem dX2_beginOne_76 : decode cX2_beginOne 76 = .ok (.iconst 0, 1) := dk_3 (dk_at dksX2_beginOne_3 7 rfl rfl)
theorem dX2_beginOne_77 : decode cX2_beginOne 77 = .ok (.ireturn, 1) := dk_172 (dk_at dksX2_beginOne_3 8 rfl rfl)
theorem dX2_beginOne_78 : decode cX2_beginOne 78 = .ok (.aload_n 0, 1) := dk_42 (dk_at dksX2_beginOne_3 9 rfl rfl)
theorem dX2_beginOne_79 : decode cX2_beginOne 79 = .ok (.getfield 138, 3) := dk_180 0 138 (dk_at dksX2_beginOne_3 10 rfl rfl)
theorem dX2_beginOne_82 : decode cX2_beginOne 82 = .ok (.bipush 40, 2) := dk_16 40 (dk_at dksX2_beginOne_3 13 rfl rfl)
theorem dX2_beginOne_84 : decode cX2_beginOne 84 = .ok (.if_icmp .ne 8, 3) := dk_160 0 8 (dk_at dksX2_beginOne_3 15 rfl rfl)
theorem dX2_beginOne_87 : decode cX2_beginOne 87 = .ok (.bipush 40, 2) := dk_16 40 (dk_at dksX2_beginOne_3 18 rfl rfl)
theorem dX2_beginOne_89 : decode cX2_beginOne 89 = .ok (.goto 17, 3) := dk_167 0 17 (dk_at dksX2_beginOne_3 20 rfl rfl)
theorem dX2_beginOne_92 : decode cX2_beginOne 92 = .ok (.aload_n 0, 1) := dk_42 (dk_at dksX2_beginOne_3 23 rfl rfl)
theorem dX2_beginOne_93 : decode cX2_beginOne 93 = .ok (.getfield 138, 3) := dk_180 0 138 (dk_at dksX2_beginOne_4 0 rfl rfl)
theorem dX2_beginOne_96 : decode cX2_beginOne 96 = .ok (.bipush 45, 2) := dk_16 45 (dk_at dksX2_beginOne_4 3 rfl rfl)
theorem dX2_beginOne_98 : decode cX2_beginOne 98 = .ok (.if_icmp .ne 7, 3) := dk_160 0 7 (dk_at dksX2_beginOne_4 5 rfl rfl)
theorem dX2_beginOne_101 : decode cX2_beginOne 101 = .ok (.iconst 2, 1) := dk_5 (dk_at dksX2_beginOne_4 8 rfl rfl)
theorem dX2_beginOne_102 : decode cX2_beginOne 102 = .ok (.goto 4, 3) := dk_167 0 4 (dk_at dksX2_beginOne_4 9 rfl rfl)
theorem dX2_beginOne_105 : decode cX2_beginOne 105 = .ok (.iconst 0, 1) := dk_3 (dk_at dksX2_beginOne_4 12 rfl rfl)
theorem dX2_beginOne_106 : decode cX2_beginOne 106 = .ok (.istore_n 1, 1) := dk_60 (dk_at dksX2_beginOne_4 13 rfl rfl)
theorem dX2_beginOne_107 : decode cX2_beginOne 107 = .ok (.iload_n 1, 1) := dk_27 (dk_at dksX2_beginOne_4 14 rfl rfl)
theorem dX2_beginOne_108 : decode cX2_beginOne 108 = .ok (.ifCond .ne 5, 3) := dk_154 0 5 (dk_at dksX2_beginOne_4 15 rfl rfl)
theorem dX2_beginOne_111 : decode cX2_beginOne 111 = .ok (.iconst 1, 1) := dk_4 (dk_at dksX2_beginOne_4 18 rfl rfl)
theorem dX2_beginOne_112 : decode cX2_beginOne 112 = .ok (.ireturn, 1) := dk_172 (dk_at dksX2_beginOne_4 19 rfl rfl)
theorem dX2_beginOne_113 : decode cX2_beginOne 113 = .ok (.aload_n 0, 1) := dk_42 (dk_at dksX2_beginOne_4 20 rfl rfl)
theorem dX2_beginOne_114 : decode cX2_beginOne 114 = .ok (.getfield 176, 3) := dk_180 0 176 (dk_at dksX2_beginOne_4 21 rfl rfl)
theorem dX2_beginOne_117 : decode cX2_beginOne 117 = .ok (.bipush 8, 2) := dk_16 8 (dk_at dksX2_beginOne_5 0 rfl rfl)
theorem dX2_beginOne_119 : decode cX2_beginOne 119 = .ok (.if_icmp .ne 5, 3) := dk_160 0 5 (dk_at dksX2_beginOne_5 2 rfl rfl)
theorem dX2_beginOne_122 : decode cX2_beginOne 122 = .ok (.iconst 3, 1) := dk_6 (dk_at dksX2_beginOne_5 5 rfl rfl)
theorem dX2_beginOne_123 : decode cX2_beginOne 123 = .ok (.ireturn, 1) := dk_172 (dk_at dksX2_beginOne_5 6 rfl rfl)
theorem dX2_beginOne_124 : decode cX2_beginOne 124 = .ok (.aload_n 0, 1) := dk_42 (dk_at dksX2_beginOne_5 7 rfl rfl)
theorem dX2_beginOne_125 : decode cX2_beginOne 125 = .ok (.dup, 1) := dk_89 (dk_at dksX2_beginOne_5 8 rfl rfl)
theorem dX2_beginOne_126 : decode cX2_beginOne 126 = .ok (.getfield 176, 3) := dk_180 0 176 (dk_at dksX2_beginOne_5 9 rfl rfl)
theorem dX2_beginOne_129 : decode cX2_beginOne 129 = .ok (.iconst 1, 1) := dk_4 (dk_at dksX2_beginOne_5 12 rfl rfl)
theorem dX2_beginOne_130 : decode cX2_beginOne 130 = .ok (.iadd, 1) := dk_96 (dk_at dksX2_beginOne_5 13 rfl rfl)
theorem dX2_beginOne_131 : decode cX2_beginOne 131 = .ok (.putfield 176, 3) := dk_181 0 176 (dk_at dksX2_beginOne_5 14 rfl rfl)
theorem dX2_beginOne_134 : decode cX2_beginOne 134 = .ok (.aload_n 0, 1) := dk_42 (dk_at dksX2_beginOne_5 17 rfl rfl)
theorem dX2_beginOne_135 : decode cX2_beginOne 135 = .ok (.iload_n 1, 1) := dk_27 (dk_at dksX2_beginOne_5 18 rfl rfl)
theorem dX2_beginOne_136 : decode cX2_beginOne 136 = .ok (.invokevirtual 203, 3) := dk_182 0 203 (dk_at dksX2_beginOne_5 19 rfl rfl)
theorem dX2_beginOne_139 : decode cX2_beginOne 139 = .ok (.aload_n 0, 1) := dk_42 (dk_at dksX2_beginOne_5 22 rfl rfl)
theorem dX2_beginOne_140 : decode cX2_beginOne 140 = .ok (.invokevirtual 190, 3) := dk_182 0 190 (dk_at dksX2_beginOne_6 0 rfl rfl)
theorem dX2_beginOne_143 : decode cX2_beginOne 143 = .ok (.iconst 0, 1) := dk_3 (dk_at dksX2_beginOne_6 3 rfl rfl)
theorem dX2_beginOne_144 : decode cX2_beginOne 144 = .ok (.ireturn, 1) := dk_172 (dk_at dksX2_beginOne_6 4 rfl rfl)
abbrev cX2_nameOf : ByteArray := prog_17_method_31_code
def yX2_nameOf : MethodName := ⟨RX2, "nameOf", "()I"⟩
def dkwX2_nameOf_7 : List UInt8 := [16, 6, 167, 0, 4, 2, 172]
abbrev dktX2_nameOf_7 : List UInt8 := dkwX2_nameOf_7 ++ []
def dkwX2_nameOf_6 : List UInt8 := [167, 0, 30, 42, 180, 0, 151, 16, 104, 16, 111, 16, 117, 16, 114, 16, 115, 184, 0, 159, 148, 154, 0, 8]
abbrev dktX2_nameOf_6 : List UInt8 := dkwX2_nameOf_6 ++ dktX2_nameOf_7
def dkwX2_nameOf_5 : List UInt8 := [172, 42, 180, 0, 151, 16, 97, 16, 115, 16, 107, 16, 101, 16, 100, 184, 0, 159, 148, 154, 0, 7, 8]
abbrev dktX2_nameOf_5 : List UInt8 := dkwX2_nameOf_5 ++ dktX2_nameOf_6
def dkwX2_nameOf_4 : List UInt8 := [148, 154, 0, 5, 6, 172, 42, 180, 0, 151, 16, 103, 16, 111, 16, 116, 184, 0, 155, 148, 154, 0, 5, 7]
abbrev dktX2_nameOf_4 : List UInt8 := dkwX2_nameOf_4 ++ dktX2_nameOf_5
def dkwX2_nameOf_3 : List UInt8 := [16, 116, 184, 0, 159, 148, 154, 0, 5, 5, 172, 42, 180, 0, 151, 16, 119, 16, 104, 16, 111, 184, 0, 155]
abbrev dktX2_nameOf_3 : List UInt8 := dkwX2_nameOf_3 ++ dktX2_nameOf_4
def dkwX2_nameOf_2 : List UInt8 := [16, 114, 184, 0, 183, 148, 154, 0, 5, 4, 172, 42, 180, 0, 151, 16, 102, 16, 105, 16, 114, 16, 115]
abbrev dktX2_nameOf_2 : List UInt8 := dkwX2_nameOf_2 ++ dktX2_nameOf_3
def dkwX2_nameOf_1 : List UInt8 := [184, 0, 159, 148, 154, 0, 5, 3, 172, 42, 180, 0, 151, 16, 110, 16, 117, 16, 109, 16, 98, 16, 101]
abbrev dktX2_nameOf_1 : List UInt8 := dkwX2_nameOf_1 ++ dktX2_nameOf_2
def dkwX2_nameOf_0 : List UInt8 := [42, 180, 0, 138, 5, 159, 0, 5, 2, 172, 42, 180, 0, 151, 16, 99, 16, 108, 16, 111, 16, 99, 16, 107]
abbrev dktX2_nameOf_0 : List UInt8 := dkwX2_nameOf_0 ++ dktX2_nameOf_1
theorem dksX2_nameOf_0 : cX2_nameOf.data.toList.drop 0 = dktX2_nameOf_0 := by decide +kernel
theorem dksX2_nameOf_1 : cX2_nameOf.data.toList.drop 24 = dktX2_nameOf_1 := dk_seg dksX2_nameOf_0 24 rfl rfl
theorem dksX2_nameOf_2 : cX2_nameOf.data.toList.drop 47 = dktX2_nameOf_2 := dk_seg dksX2_nameOf_1 23 rfl rfl
theorem dksX2_nameOf_3 : cX2_nameOf.data.toList.drop 70 = dktX2_nameOf_3 := dk_seg dksX2_nameOf_2 23 rfl rfl
theorem dksX2_nameOf_4 : cX2_nameOf.data.toList.drop 94 = dktX2_nameOf_4 := dk_seg dksX2_nameOf_3 24 rfl rfl
theorem dksX2_nameOf_5 : cX2_nameOf.data.toList.drop 118 = dktX2_nameOf_5 := dk_seg dksX2_nameOf_4 24 rfl rfl
theorem dksX2_nameOf_6 : cX2_nameOf.data.toList.drop 141 = dktX2_nameOf_6 := dk_seg dksX2_nameOf_5 23 rfl rfl
theorem dksX2_nameOf_7 : cX2_nameOf.data.toList.drop 165 = dktX2_nameOf_7 := dk_seg dksX2_nameOf_6 24 rfl rfl
theorem dX2_nameOf_0 : decode cX2_nameOf 0 = .ok (.aload_n 0, 1) := dk_42 (dk_at dksX2_nameOf_0 0 rfl rfl)
theorem dX2_nameOf_1 : decode cX2_nameOf 1 = .ok (.getfield 138, 3) := dk_180 0 138 (dk_at dksX2_nameOf_0 1 rfl rfl)
theorem dX2_nameOf_4 : decode cX2_nameOf 4 = .ok (.iconst 2, 1) := dk_5 (dk_at dksX2_nameOf_0 4 rfl rfl)
theorem dX2_nameOf_5 : decode cX2_nameOf 5 = .ok (.if_icmp .eq 5, 3) := dk_159 0 5 (dk_at dksX2_nameOf_0 5 rfl rfl)
theorem dX2_nameOf_8 : decode cX2_nameOf 8 = .ok (.iconst (-1), 1) := dk_2 (dk_at dksX2_nameOf_0 8 rfl rfl)
theorem dX2_nameOf_9 : decode cX2_nameOf 9 = .ok (.ireturn, 1) := dk_172 (dk_at dksX2_nameOf_0 9 rfl rfl)
theorem dX2_nameOf_10 : decode cX2_nameOf 10 = .ok (.aload_n 0, 1) := dk_42 (dk_at dksX2_nameOf_0 10 rfl rfl)
theorem dX2_nameOf_11 : decode cX2_nameOf 11 = .ok (.getfield 151, 3) := dk_180 0 151 (dk_at dksX2_nameOf_0 11 rfl rfl)
theorem dX2_nameOf_14 : decode cX2_nameOf 14 = .ok (.bipush 99, 2) := dk_16 99 (dk_at dksX2_nameOf_0 14 rfl rfl)
theorem dX2_nameOf_16 : decode cX2_nameOf 16 = .ok (.bipush 108, 2) := dk_16 108 (dk_at dksX2_nameOf_0 16 rfl rfl)
theorem dX2_nameOf_18 : decode cX2_nameOf 18 = .ok (.bipush 111, 2) := dk_16 111 (dk_at dksX2_nameOf_0 18 rfl rfl)
theorem dX2_nameOf_20 : decode cX2_nameOf 20 = .ok (.bipush 99, 2) := dk_16 99 (dk_at dksX2_nameOf_0 20 rfl rfl)
theorem dX2_nameOf_22 : decode cX2_nameOf 22 = .ok (.bipush 107, 2) := dk_16 107 (dk_at dksX2_nameOf_0 22 rfl rfl)
theorem dX2_nameOf_24 : decode cX2_nameOf 24 = .ok (.invokestatic 159, 3) := dk_184 0 159 (dk_at dksX2_nameOf_1 0 rfl rfl)
theorem dX2_nameOf_27 : decode cX2_nameOf 27 = .ok (.lcmp, 1) := dk_148 (dk_at dksX2_nameOf_1 3 rfl rfl)
theorem dX2_nameOf_28 : decode cX2_nameOf 28 = .ok (.ifCond .ne 5, 3) := dk_154 0 5 (dk_at dksX2_nameOf_1 4 rfl rfl)
theorem dX2_nameOf_31 : decode cX2_nameOf 31 = .ok (.iconst 0, 1) := dk_3 (dk_at dksX2_nameOf_1 7 rfl rfl)
theorem dX2_nameOf_32 : decode cX2_nameOf 32 = .ok (.ireturn, 1) := dk_172 (dk_at dksX2_nameOf_1 8 rfl rfl)
theorem dX2_nameOf_33 : decode cX2_nameOf 33 = .ok (.aload_n 0, 1) := dk_42 (dk_at dksX2_nameOf_1 9 rfl rfl)
theorem dX2_nameOf_34 : decode cX2_nameOf 34 = .ok (.getfield 151, 3) := dk_180 0 151 (dk_at dksX2_nameOf_1 10 rfl rfl)
theorem dX2_nameOf_37 : decode cX2_nameOf 37 = .ok (.bipush 110, 2) := dk_16 110 (dk_at dksX2_nameOf_1 13 rfl rfl)
theorem dX2_nameOf_39 : decode cX2_nameOf 39 = .ok (.bipush 117, 2) := dk_16 117 (dk_at dksX2_nameOf_1 15 rfl rfl)
theorem dX2_nameOf_41 : decode cX2_nameOf 41 = .ok (.bipush 109, 2) := dk_16 109 (dk_at dksX2_nameOf_1 17 rfl rfl)
theorem dX2_nameOf_43 : decode cX2_nameOf 43 = .ok (.bipush 98, 2) := dk_16 98 (dk_at dksX2_nameOf_1 19 rfl rfl)
theorem dX2_nameOf_45 : decode cX2_nameOf 45 = .ok (.bipush 101, 2) := dk_16 101 (dk_at dksX2_nameOf_1 21 rfl rfl)
theorem dX2_nameOf_47 : decode cX2_nameOf 47 = .ok (.bipush 114, 2) := dk_16 114 (dk_at dksX2_nameOf_2 0 rfl rfl)
theorem dX2_nameOf_49 : decode cX2_nameOf 49 = .ok (.invokestatic 183, 3) := dk_184 0 183 (dk_at dksX2_nameOf_2 2 rfl rfl)
theorem dX2_nameOf_52 : decode cX2_nameOf 52 = .ok (.lcmp, 1) := dk_148 (dk_at dksX2_nameOf_2 5 rfl rfl)
theorem dX2_nameOf_53 : decode cX2_nameOf 53 = .ok (.ifCond .ne 5, 3) := dk_154 0 5 (dk_at dksX2_nameOf_2 6 rfl rfl)
theorem dX2_nameOf_56 : decode cX2_nameOf 56 = .ok (.iconst 1, 1) := dk_4 (dk_at dksX2_nameOf_2 9 rfl rfl)
theorem dX2_nameOf_57 : decode cX2_nameOf 57 = .ok (.ireturn, 1) := dk_172 (dk_at dksX2_nameOf_2 10 rfl rfl)
theorem dX2_nameOf_58 : decode cX2_nameOf 58 = .ok (.aload_n 0, 1) := dk_42 (dk_at dksX2_nameOf_2 11 rfl rfl)
theorem dX2_nameOf_59 : decode cX2_nameOf 59 = .ok (.getfield 151, 3) := dk_180 0 151 (dk_at dksX2_nameOf_2 12 rfl rfl)
theorem dX2_nameOf_62 : decode cX2_nameOf 62 = .ok (.bipush 102, 2) := dk_16 102 (dk_at dksX2_nameOf_2 15 rfl rfl)
theorem dX2_nameOf_64 : decode cX2_nameOf 64 = .ok (.bipush 105, 2) := dk_16 105 (dk_at dksX2_nameOf_2 17 rfl rfl)
theorem dX2_nameOf_66 : decode cX2_nameOf 66 = .ok (.bipush 114, 2) := dk_16 114 (dk_at dksX2_nameOf_2 19 rfl rfl)
theorem dX2_nameOf_68 : decode cX2_nameOf 68 = .ok (.bipush 115, 2) := dk_16 115 (dk_at dksX2_nameOf_2 21 rfl rfl)
theorem dX2_nameOf_70 : decode cX2_nameOf 70 = .ok (.bipush 116, 2) := dk_16 116 (dk_at dksX2_nameOf_3 0 rfl rfl)
theorem dX2_nameOf_72 : decode cX2_nameOf 72 = .ok (.invokestatic 159, 3) := dk_184 0 159 (dk_at dksX2_nameOf_3 2 rfl rfl)
theorem dX2_nameOf_75 : decode cX2_nameOf 75 = .ok (.lcmp, 1) := dk_148 (dk_at dksX2_nameOf_3 5 rfl rfl)
theorem dX2_nameOf_76 : decode cX2_nameOf 76 = .ok (.ifCond .ne 5, 3) := dk_154 0 5 (dk_at dksX2_nameOf_3 6 rfl rfl)
theorem dX2_nameOf_79 : decode cX2_nameOf 79 = .ok (.iconst 2, 1) := dk_5 (dk_at dksX2_nameOf_3 9 rfl rfl)
theorem dX2_nameOf_80 : decode cX2_nameOf 80 = .ok (.ireturn, 1) := dk_172 (dk_at dksX2_nameOf_3 10 rfl rfl)
theorem dX2_nameOf_81 : decode cX2_nameOf 81 = .ok (.aload_n 0, 1) := dk_42 (dk_at dksX2_nameOf_3 11 rfl rfl)
theorem dX2_nameOf_82 : decode cX2_nameOf 82 = .ok (.getfield 151, 3) := dk_180 0 151 (dk_at dksX2_nameOf_3 12 rfl rfl)
theorem dX2_nameOf_85 : decode cX2_nameOf 85 = .ok (.bipush 119, 2) := dk_16 119 (dk_at dksX2_nameOf_3 15 rfl rfl)
theorem dX2_nameOf_87 : decode cX2_nameOf 87 = .ok (.bipush 104, 2) := dk_16 104 (dk_at dksX2_nameOf_3 17 rfl rfl)
theorem dX2_nameOf_89 : decode cX2_nameOf 89 = .ok (.bipush 111, 2) := dk_16 111 (dk_at dksX2_nameOf_3 19 rfl rfl)
theorem dX2_nameOf_91 : decode cX2_nameOf 91 = .ok (.invokestatic 155, 3) := dk_184 0 155 (dk_at dksX2_nameOf_3 21 rfl rfl)
theorem dX2_nameOf_94 : decode cX2_nameOf 94 = .ok (.lcmp, 1) := dk_148 (dk_at dksX2_nameOf_4 0 rfl rfl)
theorem dX2_nameOf_95 : decode cX2_nameOf 95 = .ok (.ifCond .ne 5, 3) := dk_154 0 5 (dk_at dksX2_nameOf_4 1 rfl rfl)
theorem dX2_nameOf_98 : decode cX2_nameOf 98 = .ok (.iconst 3, 1) := dk_6 (dk_at dksX2_nameOf_4 4 rfl rfl)
theorem dX2_nameOf_99 : decode cX2_nameOf 99 = .ok (.ireturn, 1) := dk_172 (dk_at dksX2_nameOf_4 5 rfl rfl)
theorem dX2_nameOf_100 : decode cX2_nameOf 100 = .ok (.aload_n 0, 1) := dk_42 (dk_at dksX2_nameOf_4 6 rfl rfl)
theorem dX2_nameOf_101 : decode cX2_nameOf 101 = .ok (.getfield 151, 3) := dk_180 0 151 (dk_at dksX2_nameOf_4 7 rfl rfl)
theorem dX2_nameOf_104 : decode cX2_nameOf 104 = .ok (.bipush 103, 2) := dk_16 103 (dk_at dksX2_nameOf_4 10 rfl rfl)
theorem dX2_nameOf_106 : decode cX2_nameOf 106 = .ok (.bipush 111, 2) := dk_16 111 (dk_at dksX2_nameOf_4 12 rfl rfl)
theorem dX2_nameOf_108 : decode cX2_nameOf 108 = .ok (.bipush 116, 2) := dk_16 116 (dk_at dksX2_nameOf_4 14 rfl rfl)
theorem dX2_nameOf_110 : decode cX2_nameOf 110 = .ok (.invokestatic 155, 3) := dk_184 0 155 (dk_at dksX2_nameOf_4 16 rfl rfl)
theorem dX2_nameOf_113 : decode cX2_nameOf 113 = .ok (.lcmp, 1) := dk_148 (dk_at dksX2_nameOf_4 19 rfl rfl)
theorem dX2_nameOf_114 : decode cX2_nameOf 114 = .ok (.ifCond .ne 5, 3) := dk_154 0 5 (dk_at dksX2_nameOf_4 20 rfl rfl)
theorem dX2_nameOf_117 : decode cX2_nameOf 117 = .ok (.iconst 4, 1) := dk_7 (dk_at dksX2_nameOf_4 23 rfl rfl)
theorem dX2_nameOf_118 : decode cX2_nameOf 118 = .ok (.ireturn, 1) := dk_172 (dk_at dksX2_nameOf_5 0 rfl rfl)
theorem dX2_nameOf_119 : decode cX2_nameOf 119 = .ok (.aload_n 0, 1) := dk_42 (dk_at dksX2_nameOf_5 1 rfl rfl)
theorem dX2_nameOf_120 : decode cX2_nameOf 120 = .ok (.getfield 151, 3) := dk_180 0 151 (dk_at dksX2_nameOf_5 2 rfl rfl)
theorem dX2_nameOf_123 : decode cX2_nameOf 123 = .ok (.bipush 97, 2) := dk_16 97 (dk_at dksX2_nameOf_5 5 rfl rfl)
theorem dX2_nameOf_125 : decode cX2_nameOf 125 = .ok (.bipush 115, 2) := dk_16 115 (dk_at dksX2_nameOf_5 7 rfl rfl)
theorem dX2_nameOf_127 : decode cX2_nameOf 127 = .ok (.bipush 107, 2) := dk_16 107 (dk_at dksX2_nameOf_5 9 rfl rfl)
theorem dX2_nameOf_129 : decode cX2_nameOf 129 = .ok (.bipush 101, 2) := dk_16 101 (dk_at dksX2_nameOf_5 11 rfl rfl)
theorem dX2_nameOf_131 : decode cX2_nameOf 131 = .ok (.bipush 100, 2) := dk_16 100 (dk_at dksX2_nameOf_5 13 rfl rfl)
theorem dX2_nameOf_133 : decode cX2_nameOf 133 = .ok (.invokestatic 159, 3) := dk_184 0 159 (dk_at dksX2_nameOf_5 15 rfl rfl)
theorem dX2_nameOf_136 : decode cX2_nameOf 136 = .ok (.lcmp, 1) := dk_148 (dk_at dksX2_nameOf_5 18 rfl rfl)
theorem dX2_nameOf_137 : decode cX2_nameOf 137 = .ok (.ifCond .ne 7, 3) := dk_154 0 7 (dk_at dksX2_nameOf_5 19 rfl rfl)
theorem dX2_nameOf_140 : decode cX2_nameOf 140 = .ok (.iconst 5, 1) := dk_8 (dk_at dksX2_nameOf_5 22 rfl rfl)
theorem dX2_nameOf_141 : decode cX2_nameOf 141 = .ok (.goto 30, 3) := dk_167 0 30 (dk_at dksX2_nameOf_6 0 rfl rfl)
theorem dX2_nameOf_144 : decode cX2_nameOf 144 = .ok (.aload_n 0, 1) := dk_42 (dk_at dksX2_nameOf_6 3 rfl rfl)
theorem dX2_nameOf_145 : decode cX2_nameOf 145 = .ok (.getfield 151, 3) := dk_180 0 151 (dk_at dksX2_nameOf_6 4 rfl rfl)
theorem dX2_nameOf_148 : decode cX2_nameOf 148 = .ok (.bipush 104, 2) := dk_16 104 (dk_at dksX2_nameOf_6 7 rfl rfl)
theorem dX2_nameOf_150 : decode cX2_nameOf 150 = .ok (.bipush 111, 2) := dk_16 111 (dk_at dksX2_nameOf_6 9 rfl rfl)
theorem dX2_nameOf_152 : decode cX2_nameOf 152 = .ok (.bipush 117, 2) := dk_16 117 (dk_at dksX2_nameOf_6 11 rfl rfl)
theorem dX2_nameOf_154 : decode cX2_nameOf 154 = .ok (.bipush 114, 2) := dk_16 114 (dk_at dksX2_nameOf_6 13 rfl rfl)
theorem dX2_nameOf_156 : decode cX2_nameOf 156 = .ok (.bipush 115, 2) := dk_16 115 (dk_at dksX2_nameOf_6 15 rfl rfl)
theorem dX2_nameOf_158 : decode cX2_nameOf 158 = .ok (.invokestatic 159, 3) := dk_184 0 159 (dk_at dksX2_nameOf_6 17 rfl rfl)
theorem dX2_nameOf_161 : decode cX2_nameOf 161 = .ok (.lcmp, 1) := dk_148 (dk_at dksX2_nameOf_6 20 rfl rfl)
theorem dX2_nameOf_162 : decode cX2_nameOf 162 = .ok (.ifCond .ne 8, 3) := dk_154 0 8 (dk_at dksX2_nameOf_6 21 rfl rfl)
theorem dX2_nameOf_165 : decode cX2_nameOf 165 = .ok (.bipush 6, 2) := dk_16 6 (dk_at dksX2_nameOf_7 0 rfl rfl)
theorem dX2_nameOf_167 : decode cX2_nameOf 167 = .ok (.goto 4, 3) := dk_167 0 4 (dk_at dksX2_nameOf_7 2 rfl rfl)
theorem dX2_nameOf_170 : decode cX2_nameOf 170 = .ok (.iconst (-1), 1) := dk_2 (dk_at dksX2_nameOf_7 5 rfl rfl)
theorem dX2_nameOf_171 : decode cX2_nameOf 171 = .ok (.ireturn, 1) := dk_172 (dk_at dksX2_nameOf_7 6 rfl rfl)
abbrev cX2_isBarred : ByteArray := prog_17_method_32_code
def yX2_isBarred : MethodName := ⟨RX2, "isBarred", "(I)Z"⟩
def dkwX2_isBarred_1 : List UInt8 := [159, 0, 7, 4, 167, 0, 4, 3, 172]
abbrev dktX2_isBarred_1 : List UInt8 := dkwX2_isBarred_1 ++ []
def dkwX2_isBarred_0 : List UInt8 := [27, 6, 164, 0, 7, 4, 167, 0, 4, 3, 42, 180, 0, 187, 5, 160, 0, 7, 4, 167, 0, 4, 3]
abbrev dktX2_isBarred_0 : List UInt8 := dkwX2_isBarred_0 ++ dktX2_isBarred_1
theorem dksX2_isBarred_0 : cX2_isBarred.data.toList.drop 0 = dktX2_isBarred_0 := by decide +kernel
theorem dksX2_isBarred_1 : cX2_isBarred.data.toList.drop 23 = dktX2_isBarred_1 := dk_seg dksX2_isBarred_0 23 rfl rfl
theorem dX2_isBarred_0 : decode cX2_isBarred 0 = .ok (.iload_n 1, 1) := dk_27 (dk_at dksX2_isBarred_0 0 rfl rfl)
theorem dX2_isBarred_1 : decode cX2_isBarred 1 = .ok (.iconst 3, 1) := dk_6 (dk_at dksX2_isBarred_0 1 rfl rfl)
theorem dX2_isBarred_2 : decode cX2_isBarred 2 = .ok (.if_icmp .le 7, 3) := dk_164 0 7 (dk_at dksX2_isBarred_0 2 rfl rfl)
theorem dX2_isBarred_5 : decode cX2_isBarred 5 = .ok (.iconst 1, 1) := dk_4 (dk_at dksX2_isBarred_0 5 rfl rfl)
theorem dX2_isBarred_6 : decode cX2_isBarred 6 = .ok (.goto 4, 3) := dk_167 0 4 (dk_at dksX2_isBarred_0 6 rfl rfl)
theorem dX2_isBarred_9 : decode cX2_isBarred 9 = .ok (.iconst 0, 1) := dk_3 (dk_at dksX2_isBarred_0 9 rfl rfl)
theorem dX2_isBarred_10 : decode cX2_isBarred 10 = .ok (.aload_n 0, 1) := dk_42 (dk_at dksX2_isBarred_0 10 rfl rfl)
theorem dX2_isBarred_11 : decode cX2_isBarred 11 = .ok (.getfield 187, 3) := dk_180 0 187 (dk_at dksX2_isBarred_0 11 rfl rfl)
theorem dX2_isBarred_14 : decode cX2_isBarred 14 = .ok (.iconst 2, 1) := dk_5 (dk_at dksX2_isBarred_0 14 rfl rfl)
theorem dX2_isBarred_15 : decode cX2_isBarred 15 = .ok (.if_icmp .ne 7, 3) := dk_160 0 7 (dk_at dksX2_isBarred_0 15 rfl rfl)
theorem dX2_isBarred_18 : decode cX2_isBarred 18 = .ok (.iconst 1, 1) := dk_4 (dk_at dksX2_isBarred_0 18 rfl rfl)
theorem dX2_isBarred_19 : decode cX2_isBarred 19 = .ok (.goto 4, 3) := dk_167 0 4 (dk_at dksX2_isBarred_0 19 rfl rfl)
theorem dX2_isBarred_22 : decode cX2_isBarred 22 = .ok (.iconst 0, 1) := dk_3 (dk_at dksX2_isBarred_0 22 rfl rfl)
theorem dX2_isBarred_23 : decode cX2_isBarred 23 = .ok (.if_icmp .eq 7, 3) := dk_159 0 7 (dk_at dksX2_isBarred_1 0 rfl rfl)
theorem dX2_isBarred_26 : decode cX2_isBarred 26 = .ok (.iconst 1, 1) := dk_4 (dk_at dksX2_isBarred_1 3 rfl rfl)
theorem dX2_isBarred_27 : decode cX2_isBarred 27 = .ok (.goto 4, 3) := dk_167 0 4 (dk_at dksX2_isBarred_1 4 rfl rfl)
theorem dX2_isBarred_30 : decode cX2_isBarred 30 = .ok (.iconst 0, 1) := dk_3 (dk_at dksX2_isBarred_1 7 rfl rfl)
theorem dX2_isBarred_31 : decode cX2_isBarred 31 = .ok (.ireturn, 1) := dk_172 (dk_at dksX2_isBarred_1 8 rfl rfl)
abbrev cX2_either : ByteArray := prog_17_method_40_code
def yX2_either : MethodName := ⟨RX2, "either", "()I"⟩
def dkwX2_either_5 : List UInt8 := [167, 255, 146, 3, 172]
abbrev dktX2_either_5 : List UInt8 := dkwX2_either_5 ++ []
def dkwX2_either_4 : List UInt8 := [154, 0, 8, 21, 5, 153, 0, 7, 4, 167, 0, 4, 3, 62, 29, 153, 0, 7, 42, 182, 0, 190]
abbrev dktX2_either_4 : List UInt8 := dkwX2_either_4 ++ dktX2_either_5
def dkwX2_either_3 : List UInt8 := [3, 54, 5, 27, 154, 0, 17, 28, 153, 0, 10, 42, 16, 22, 3, 182, 0, 179, 21, 5, 61, 27]
abbrev dktX2_either_3 : List UInt8 := dkwX2_either_3 ++ dktX2_either_4
def dkwX2_either_2 : List UInt8 := [60, 42, 180, 0, 138, 5, 160, 0, 18, 42, 180, 0, 151, 20, 0, 235, 148, 154, 0, 7, 4, 167, 0, 4]
abbrev dktX2_either_2 : List UInt8 := dkwX2_either_2 ++ dktX2_either_3
def dkwX2_either_1 : List UInt8 := [27, 153, 0, 10, 42, 16, 21, 3, 182, 0, 179, 42, 16, 97, 16, 110, 16, 100, 184, 0, 155, 182, 0, 222]
abbrev dktX2_either_1 : List UInt8 := dkwX2_either_1 ++ dktX2_either_2
def dkwX2_either_0 : List UInt8 := [3, 60, 3, 61, 4, 62, 29, 153, 0, 112, 42, 182, 0, 232, 54, 4, 21, 4, 153, 0, 6, 21, 4, 172]
abbrev dktX2_either_0 : List UInt8 := dkwX2_either_0 ++ dktX2_either_1
theorem dksX2_either_0 : cX2_either.data.toList.drop 0 = dktX2_either_0 := by decide +kernel
theorem dksX2_either_1 : cX2_either.data.toList.drop 24 = dktX2_either_1 := dk_seg dksX2_either_0 24 rfl rfl
theorem dksX2_either_2 : cX2_either.data.toList.drop 48 = dktX2_either_2 := dk_seg dksX2_either_1 24 rfl rfl
theorem dksX2_either_3 : cX2_either.data.toList.drop 72 = dktX2_either_3 := dk_seg dksX2_either_2 24 rfl rfl
theorem dksX2_either_4 : cX2_either.data.toList.drop 94 = dktX2_either_4 := dk_seg dksX2_either_3 22 rfl rfl
theorem dksX2_either_5 : cX2_either.data.toList.drop 116 = dktX2_either_5 := dk_seg dksX2_either_4 22 rfl rfl
theorem dX2_either_0 : decode cX2_either 0 = .ok (.iconst 0, 1) := dk_3 (dk_at dksX2_either_0 0 rfl rfl)
theorem dX2_either_1 : decode cX2_either 1 = .ok (.istore_n 1, 1) := dk_60 (dk_at dksX2_either_0 1 rfl rfl)
theorem dX2_either_2 : decode cX2_either 2 = .ok (.iconst 0, 1) := dk_3 (dk_at dksX2_either_0 2 rfl rfl)
theorem dX2_either_3 : decode cX2_either 3 = .ok (.istore_n 2, 1) := dk_61 (dk_at dksX2_either_0 3 rfl rfl)
theorem dX2_either_4 : decode cX2_either 4 = .ok (.iconst 1, 1) := dk_4 (dk_at dksX2_either_0 4 rfl rfl)
theorem dX2_either_5 : decode cX2_either 5 = .ok (.istore_n 3, 1) := dk_62 (dk_at dksX2_either_0 5 rfl rfl)
theorem dX2_either_6 : decode cX2_either 6 = .ok (.iload_n 3, 1) := dk_29 (dk_at dksX2_either_0 6 rfl rfl)
theorem dX2_either_7 : decode cX2_either 7 = .ok (.ifCond .eq 112, 3) := dk_153 0 112 (dk_at dksX2_either_0 7 rfl rfl)
theorem dX2_either_10 : decode cX2_either 10 = .ok (.aload_n 0, 1) := dk_42 (dk_at dksX2_either_0 10 rfl rfl)
theorem dX2_either_11 : decode cX2_either 11 = .ok (.invokevirtual 232, 3) := dk_182 0 232 (dk_at dksX2_either_0 11 rfl rfl)
theorem dX2_either_14 : decode cX2_either 14 = .ok (.istore 4, 2) := dk_54 4 (dk_at dksX2_either_0 14 rfl rfl)
theorem dX2_either_16 : decode cX2_either 16 = .ok (.iload 4, 2) := dk_21 4 (dk_at dksX2_either_0 16 rfl rfl)
theorem dX2_either_18 : decode cX2_either 18 = .ok (.ifCond .eq 6, 3) := dk_153 0 6 (dk_at dksX2_either_0 18 rfl rfl)
theorem dX2_either_21 : decode cX2_either 21 = .ok (.iload 4, 2) := dk_21 4 (dk_at dksX2_either_0 21 rfl rfl)
theorem dX2_either_23 : decode cX2_either 23 = .ok (.ireturn, 1) := dk_172 (dk_at dksX2_either_0 23 rfl rfl)
theorem dX2_either_24 : decode cX2_either 24 = .ok (.iload_n 1, 1) := dk_27 (dk_at dksX2_either_1 0 rfl rfl)
theorem dX2_either_25 : decode cX2_either 25 = .ok (.ifCond .eq 10, 3) := dk_153 0 10 (dk_at dksX2_either_1 1 rfl rfl)
theorem dX2_either_28 : decode cX2_either 28 = .ok (.aload_n 0, 1) := dk_42 (dk_at dksX2_either_1 4 rfl rfl)
theorem dX2_either_29 : decode cX2_either 29 = .ok (.bipush 21, 2) := dk_16 21 (dk_at dksX2_either_1 5 rfl rfl)
theorem dX2_either_31 : decode cX2_either 31 = .ok (.iconst 0, 1) := dk_3 (dk_at dksX2_either_1 7 rfl rfl)
theorem dX2_either_32 : decode cX2_either 32 = .ok (.invokevirtual 179, 3) := dk_182 0 179 (dk_at dksX2_either_1 8 rfl rfl)
theorem dX2_either_35 : decode cX2_either 35 = .ok (.aload_n 0, 1) := dk_42 (dk_at dksX2_either_1 11 rfl rfl)
theorem dX2_either_36 : decode cX2_either 36 = .ok (.bipush 97, 2) := dk_16 97 (dk_at dksX2_either_1 12 rfl rfl)
theorem dX2_either_38 : decode cX2_either 38 = .ok (.bipush 110, 2) := dk_16 110 (dk_at dksX2_either_1 14 rfl rfl)
theorem dX2_either_40 : decode cX2_either 40 = .ok (.bipush 100, 2) := dk_16 100 (dk_at dksX2_either_1 16 rfl rfl)
theorem dX2_either_42 : decode cX2_either 42 = .ok (.invokestatic 155, 3) := dk_184 0 155 (dk_at dksX2_either_1 18 rfl rfl)
theorem dX2_either_45 : decode cX2_either 45 = .ok (.invokevirtual 222, 3) := dk_182 0 222 (dk_at dksX2_either_1 21 rfl rfl)
theorem dX2_either_48 : decode cX2_either 48 = .ok (.istore_n 1, 1) := dk_60 (dk_at dksX2_either_2 0 rfl rfl)
theorem dX2_either_49 : decode cX2_either 49 = .ok (.aload_n 0, 1) := dk_42 (dk_at dksX2_either_2 1 rfl rfl)
theorem dX2_either_50 : decode cX2_either 50 = .ok (.getfield 138, 3) := dk_180 0 138 (dk_at dksX2_either_2 2 rfl rfl)
theorem dX2_either_53 : decode cX2_either 53 = .ok (.iconst 2, 1) := dk_5 (dk_at dksX2_either_2 5 rfl rfl)
theorem dX2_either_54 : decode cX2_either 54 = .ok (.if_icmp .ne 18, 3) := dk_160 0 18 (dk_at dksX2_either_2 6 rfl rfl)
theorem dX2_either_57 : decode cX2_either 57 = .ok (.aload_n 0, 1) := dk_42 (dk_at dksX2_either_2 9 rfl rfl)
theorem dX2_either_58 : decode cX2_either 58 = .ok (.getfield 151, 3) := dk_180 0 151 (dk_at dksX2_either_2 10 rfl rfl)
theorem dX2_either_61 : decode cX2_either 61 = .ok (.ldc2_w 235, 3) := dk_20 0 235 (dk_at dksX2_either_2 13 rfl rfl)
theorem dX2_either_64 : decode cX2_either 64 = .ok (.lcmp, 1) := dk_148 (dk_at dksX2_either_2 16 rfl rfl)
theorem dX2_either_65 : decode cX2_either 65 = .ok (.ifCond .ne 7, 3) := dk_154 0 7 (dk_at dksX2_either_2 17 rfl rfl)
theorem dX2_either_68 : decode cX2_either 68 = .ok (.iconst 1, 1) := dk_4 (dk_at dksX2_either_2 20 rfl rfl)
theorem dX2_either_69 : decode cX2_either 69 = .ok (.goto 4, 3) := dk_167 0 4 (dk_at dksX2_either_2 21 rfl rfl)
theorem dX2_either_72 : decode cX2_either 72 = .ok (.iconst 0, 1) := dk_3 (dk_at dksX2_either_3 0 rfl rfl)
theorem dX2_either_73 : decode cX2_either 73 = .ok (.istore 5, 2) := dk_54 5 (dk_at dksX2_either_3 1 rfl rfl)
theorem dX2_either_75 : decode cX2_either 75 = .ok (.iload_n 1, 1) := dk_27 (dk_at dksX2_either_3 3 rfl rfl)
theorem dX2_either_76 : decode cX2_either 76 = .ok (.ifCond .ne 17, 3) := dk_154 0 17 (dk_at dksX2_either_3 4 rfl rfl)
theorem dX2_either_79 : decode cX2_either 79 = .ok (.iload_n 2, 1) := dk_28 (dk_at dksX2_either_3 7 rfl rfl)
theorem dX2_either_80 : decode cX2_either 80 = .ok (.ifCond .eq 10, 3) := dk_153 0 10 (dk_at dksX2_either_3 8 rfl rfl)
theorem dX2_either_83 : decode cX2_either 83 = .ok (.aload_n 0, 1) := dk_42 (dk_at dksX2_either_3 11 rfl rfl)
theorem dX2_either_84 : decode cX2_either 84 = .ok (.bipush 22, 2) := dk_16 22 (dk_at dksX2_either_3 12 rfl rfl)
theorem dX2_either_86 : decode cX2_either 86 = .ok (.iconst 0, 1) := dk_3 (dk_at dksX2_either_3 14 rfl rfl)
theorem dX2_either_87 : decode cX2_either 87 = .ok (.invokevirtual 179, 3) := dk_182 0 179 (dk_at dksX2_either_3 15 rfl rfl)
theorem dX2_either_90 : decode cX2_either 90 = .ok (.iload 5, 2) := dk_21 5 (dk_at dksX2_either_3 18 rfl rfl)
theorem dX2_either_92 : decode cX2_either 92 = .ok (.istore_n 2, 1) := dk_61 (dk_at dksX2_either_3 20 rfl rfl)
theorem dX2_either_93 : decode cX2_either 93 = .ok (.iload_n 1, 1) := dk_27 (dk_at dksX2_either_3 21 rfl rfl)
theorem dX2_either_94 : decode cX2_either 94 = .ok (.ifCond .ne 8, 3) := dk_154 0 8 (dk_at dksX2_either_4 0 rfl rfl)
theorem dX2_either_97 : decode cX2_either 97 = .ok (.iload 5, 2) := dk_21 5 (dk_at dksX2_either_4 3 rfl rfl)
theorem dX2_either_99 : decode cX2_either 99 = .ok (.ifCond .eq 7, 3) := dk_153 0 7 (dk_at dksX2_either_4 5 rfl rfl)
theorem dX2_either_102 : decode cX2_either 102 = .ok (.iconst 1, 1) := dk_4 (dk_at dksX2_either_4 8 rfl rfl)
theorem dX2_either_103 : decode cX2_either 103 = .ok (.goto 4, 3) := dk_167 0 4 (dk_at dksX2_either_4 9 rfl rfl)
theorem dX2_either_106 : decode cX2_either 106 = .ok (.iconst 0, 1) := dk_3 (dk_at dksX2_either_4 12 rfl rfl)
theorem dX2_either_107 : decode cX2_either 107 = .ok (.istore_n 3, 1) := dk_62 (dk_at dksX2_either_4 13 rfl rfl)
theorem dX2_either_108 : decode cX2_either 108 = .ok (.iload_n 3, 1) := dk_29 (dk_at dksX2_either_4 14 rfl rfl)
theorem dX2_either_109 : decode cX2_either 109 = .ok (.ifCond .eq 7, 3) := dk_153 0 7 (dk_at dksX2_either_4 15 rfl rfl)
theorem dX2_either_112 : decode cX2_either 112 = .ok (.aload_n 0, 1) := dk_42 (dk_at dksX2_either_4 18 rfl rfl)
theorem dX2_either_113 : decode cX2_either 113 = .ok (.invokevirtual 190, 3) := dk_182 0 190 (dk_at dksX2_either_4 19 rfl rfl)
theorem dX2_either_116 : decode cX2_either 116 = .ok (.goto (-110), 3) := dk_167 255 146 (dk_at dksX2_either_5 0 rfl rfl)
theorem dX2_either_119 : decode cX2_either 119 = .ok (.iconst 0, 1) := dk_3 (dk_at dksX2_either_5 3 rfl rfl)
theorem dX2_either_120 : decode cX2_either 120 = .ok (.ireturn, 1) := dk_172 (dk_at dksX2_either_5 4 rfl rfl)
abbrev cX2_asks : ByteArray := prog_17_method_39_code
def yX2_asks : MethodName := ⟨RX2, "asks", "()I"⟩
def dkwX2_asks_5 : List UInt8 := [132, 4, 1, 167, 255, 240, 3, 172]
abbrev dktX2_asks_5 : List UInt8 := dkwX2_asks_5 ++ []
def dkwX2_asks_4 : List UInt8 := [180, 0, 176, 27, 100, 181, 0, 176, 3, 54, 4, 21, 4, 27, 162, 0, 16, 42, 16, 20, 3, 182, 0, 179]
abbrev dktX2_asks_4 : List UInt8 := dkwX2_asks_4 ++ dktX2_asks_5
def dkwX2_asks_3 : List UInt8 := [172, 42, 182, 0, 190, 42, 182, 0, 226, 61, 28, 153, 0, 5, 28, 172, 42, 29, 3, 182, 0, 179, 42, 89]
abbrev dktX2_asks_3 : List UInt8 := dkwX2_asks_3 ++ dktX2_asks_4
def dkwX2_asks_2 : List UInt8 := [167, 255, 212, 42, 182, 0, 226, 61, 28, 153, 0, 5, 28, 172, 42, 182, 0, 229, 62, 29, 156, 0, 5, 4]
abbrev dktX2_asks_2 : List UInt8 := dkwX2_asks_2 ++ dktX2_asks_3
def dkwX2_asks_1 : List UInt8 := [160, 0, 5, 6, 172, 42, 89, 180, 0, 176, 4, 96, 181, 0, 176, 132, 1, 1, 42, 182, 0, 190]
abbrev dktX2_asks_1 : List UInt8 := dkwX2_asks_1 ++ dktX2_asks_2
def dkwX2_asks_0 : List UInt8 := [3, 60, 42, 16, 110, 16, 111, 16, 116, 184, 0, 155, 182, 0, 222, 153, 0, 34, 42, 180, 0, 176, 16, 8]
abbrev dktX2_asks_0 : List UInt8 := dkwX2_asks_0 ++ dktX2_asks_1
theorem dksX2_asks_0 : cX2_asks.data.toList.drop 0 = dktX2_asks_0 := by decide +kernel
theorem dksX2_asks_1 : cX2_asks.data.toList.drop 24 = dktX2_asks_1 := dk_seg dksX2_asks_0 24 rfl rfl
theorem dksX2_asks_2 : cX2_asks.data.toList.drop 46 = dktX2_asks_2 := dk_seg dksX2_asks_1 22 rfl rfl
theorem dksX2_asks_3 : cX2_asks.data.toList.drop 70 = dktX2_asks_3 := dk_seg dksX2_asks_2 24 rfl rfl
theorem dksX2_asks_4 : cX2_asks.data.toList.drop 94 = dktX2_asks_4 := dk_seg dksX2_asks_3 24 rfl rfl
theorem dksX2_asks_5 : cX2_asks.data.toList.drop 118 = dktX2_asks_5 := dk_seg dksX2_asks_4 24 rfl rfl
theorem dX2_asks_0 : decode cX2_asks 0 = .ok (.iconst 0, 1) := dk_3 (dk_at dksX2_asks_0 0 rfl rfl)
theorem dX2_asks_1 : decode cX2_asks 1 = .ok (.istore_n 1, 1) := dk_60 (dk_at dksX2_asks_0 1 rfl rfl)
theorem dX2_asks_2 : decode cX2_asks 2 = .ok (.aload_n 0, 1) := dk_42 (dk_at dksX2_asks_0 2 rfl rfl)
theorem dX2_asks_3 : decode cX2_asks 3 = .ok (.bipush 110, 2) := dk_16 110 (dk_at dksX2_asks_0 3 rfl rfl)
theorem dX2_asks_5 : decode cX2_asks 5 = .ok (.bipush 111, 2) := dk_16 111 (dk_at dksX2_asks_0 5 rfl rfl)
theorem dX2_asks_7 : decode cX2_asks 7 = .ok (.bipush 116, 2) := dk_16 116 (dk_at dksX2_asks_0 7 rfl rfl)
theorem dX2_asks_9 : decode cX2_asks 9 = .ok (.invokestatic 155, 3) := dk_184 0 155 (dk_at dksX2_asks_0 9 rfl rfl)
theorem dX2_asks_12 : decode cX2_asks 12 = .ok (.invokevirtual 222, 3) := dk_182 0 222 (dk_at dksX2_asks_0 12 rfl rfl)
theorem dX2_asks_15 : decode cX2_asks 15 = .ok (.ifCond .eq 34, 3) := dk_153 0 34 (dk_at dksX2_asks_0 15 rfl rfl)
theorem dX2_asks_18 : decode cX2_asks 18 = .ok (.aload_n 0, 1) := dk_42 (dk_at dksX2_asks_0 18 rfl rfl)
theorem dX2_asks_19 : decode cX2_asks 19 = .ok (.getfield 176, 3) := dk_180 0 176 (dk_at dksX2_asks_0 19 rfl rfl)
theorem dX2_asks_22 : decode cX2_asks 22 = .ok (.bipush 8, 2) := dk_16 8 (dk_at dksX2_asks_0 22 rfl rfl)
theorem dX2_asks_24 : decode cX2_asks 24 = .ok (.if_icmp .ne 5, 3) := dk_160 0 5 (dk_at dksX2_asks_1 0 rfl rfl)
theorem dX2_asks_27 : decode cX2_asks 27 = .ok (.iconst 3, 1) := dk_6 (dk_at dksX2_asks_1 3 rfl rfl)
theorem dX2_asks_28 : decode cX2_asks 28 = .ok (.ireturn, 1) := dk_172 (dk_at dksX2_asks_1 4 rfl rfl)
theorem dX2_asks_29 : decode cX2_asks 29 = .ok (.aload_n 0, 1) := dk_42 (dk_at dksX2_asks_1 5 rfl rfl)
theorem dX2_asks_30 : decode cX2_asks 30 = .ok (.dup, 1) := dk_89 (dk_at dksX2_asks_1 6 rfl rfl)
theorem dX2_asks_31 : decode cX2_asks 31 = .ok (.getfield 176, 3) := dk_180 0 176 (dk_at dksX2_asks_1 7 rfl rfl)
theorem dX2_asks_34 : decode cX2_asks 34 = .ok (.iconst 1, 1) := dk_4 (dk_at dksX2_asks_1 10 rfl rfl)
theorem dX2_asks_35 : decode cX2_asks 35 = .ok (.iadd, 1) := dk_96 (dk_at dksX2_asks_1 11 rfl rfl)
theorem dX2_asks_36 : decode cX2_asks 36 = .ok (.putfield 176, 3) := dk_181 0 176 (dk_at dksX2_asks_1 12 rfl rfl)
theorem dX2_asks_39 : decode cX2_asks 39 = .ok (.iinc 1 1, 3) := dk_132 1 1 (dk_at dksX2_asks_1 15 rfl rfl)
theorem dX2_asks_42 : decode cX2_asks 42 = .ok (.aload_n 0, 1) := dk_42 (dk_at dksX2_asks_1 18 rfl rfl)
theorem dX2_asks_43 : decode cX2_asks 43 = .ok (.invokevirtual 190, 3) := dk_182 0 190 (dk_at dksX2_asks_1 19 rfl rfl)
theorem dX2_asks_46 : decode cX2_asks 46 = .ok (.goto (-44), 3) := dk_167 255 212 (dk_at dksX2_asks_2 0 rfl rfl)
theorem dX2_asks_49 : decode cX2_asks 49 = .ok (.aload_n 0, 1) := dk_42 (dk_at dksX2_asks_2 3 rfl rfl)
theorem dX2_asks_50 : decode cX2_asks 50 = .ok (.invokevirtual 226, 3) := dk_182 0 226 (dk_at dksX2_asks_2 4 rfl rfl)
theorem dX2_asks_53 : decode cX2_asks 53 = .ok (.istore_n 2, 1) := dk_61 (dk_at dksX2_asks_2 7 rfl rfl)
theorem dX2_asks_54 : decode cX2_asks 54 = .ok (.iload_n 2, 1) := dk_28 (dk_at dksX2_asks_2 8 rfl rfl)
theorem dX2_asks_55 : decode cX2_asks 55 = .ok (.ifCond .eq 5, 3) := dk_153 0 5 (dk_at dksX2_asks_2 9 rfl rfl)
theorem dX2_asks_58 : decode cX2_asks 58 = .ok (.iload_n 2, 1) := dk_28 (dk_at dksX2_asks_2 12 rfl rfl)
theorem dX2_asks_59 : decode cX2_asks 59 = .ok (.ireturn, 1) := dk_172 (dk_at dksX2_asks_2 13 rfl rfl)
theorem dX2_asks_60 : decode cX2_asks 60 = .ok (.aload_n 0, 1) := dk_42 (dk_at dksX2_asks_2 14 rfl rfl)
theorem dX2_asks_61 : decode cX2_asks 61 = .ok (.invokevirtual 229, 3) := dk_182 0 229 (dk_at dksX2_asks_2 15 rfl rfl)
theorem dX2_asks_64 : decode cX2_asks 64 = .ok (.istore_n 3, 1) := dk_62 (dk_at dksX2_asks_2 18 rfl rfl)
theorem dX2_asks_65 : decode cX2_asks 65 = .ok (.iload_n 3, 1) := dk_29 (dk_at dksX2_asks_2 19 rfl rfl)
theorem dX2_asks_66 : decode cX2_asks 66 = .ok (.ifCond .ge 5, 3) := dk_156 0 5 (dk_at dksX2_asks_2 20 rfl rfl)
theorem dX2_asks_69 : decode cX2_asks 69 = .ok (.iconst 1, 1) := dk_4 (dk_at dksX2_asks_2 23 rfl rfl)
theorem dX2_asks_70 : decode cX2_asks 70 = .ok (.ireturn, 1) := dk_172 (dk_at dksX2_asks_3 0 rfl rfl)
theorem dX2_asks_71 : decode cX2_asks 71 = .ok (.aload_n 0, 1) := dk_42 (dk_at dksX2_asks_3 1 rfl rfl)
theorem dX2_asks_72 : decode cX2_asks 72 = .ok (.invokevirtual 190, 3) := dk_182 0 190 (dk_at dksX2_asks_3 2 rfl rfl)
theorem dX2_asks_75 : decode cX2_asks 75 = .ok (.aload_n 0, 1) := dk_42 (dk_at dksX2_asks_3 5 rfl rfl)
theorem dX2_asks_76 : decode cX2_asks 76 = .ok (.invokevirtual 226, 3) := dk_182 0 226 (dk_at dksX2_asks_3 6 rfl rfl)
theorem dX2_asks_79 : decode cX2_asks 79 = .ok (.istore_n 2, 1) := dk_61 (dk_at dksX2_asks_3 9 rfl rfl)
theorem dX2_asks_80 : decode cX2_asks 80 = .ok (.iload_n 2, 1) := dk_28 (dk_at dksX2_asks_3 10 rfl rfl)
theorem dX2_asks_81 : decode cX2_asks 81 = .ok (.ifCond .eq 5, 3) := dk_153 0 5 (dk_at dksX2_asks_3 11 rfl rfl)
theorem dX2_asks_84 : decode cX2_asks 84 = .ok (.iload_n 2, 1) := dk_28 (dk_at dksX2_asks_3 14 rfl rfl)
theorem dX2_asks_85 : decode cX2_asks 85 = .ok (.ireturn, 1) := dk_172 (dk_at dksX2_asks_3 15 rfl rfl)
theorem dX2_asks_86 : decode cX2_asks 86 = .ok (.aload_n 0, 1) := dk_42 (dk_at dksX2_asks_3 16 rfl rfl)
theorem dX2_asks_87 : decode cX2_asks 87 = .ok (.iload_n 3, 1) := dk_29 (dk_at dksX2_asks_3 17 rfl rfl)
theorem dX2_asks_88 : decode cX2_asks 88 = .ok (.iconst 0, 1) := dk_3 (dk_at dksX2_asks_3 18 rfl rfl)
theorem dX2_asks_89 : decode cX2_asks 89 = .ok (.invokevirtual 179, 3) := dk_182 0 179 (dk_at dksX2_asks_3 19 rfl rfl)
theorem dX2_asks_92 : decode cX2_asks 92 = .ok (.aload_n 0, 1) := dk_42 (dk_at dksX2_asks_3 22 rfl rfl)
theorem dX2_asks_93 : decode cX2_asks 93 = .ok (.dup, 1) := dk_89 (dk_at dksX2_asks_3 23 rfl rfl)
theorem dX2_asks_94 : decode cX2_asks 94 = .ok (.getfield 176, 3) := dk_180 0 176 (dk_at dksX2_asks_4 0 rfl rfl)
theorem dX2_asks_97 : decode cX2_asks 97 = .ok (.iload_n 1, 1) := dk_27 (dk_at dksX2_asks_4 3 rfl rfl)
theorem dX2_asks_98 : decode cX2_asks 98 = .ok (.isub, 1) := dk_100 (dk_at dksX2_asks_4 4 rfl rfl)
theorem dX2_asks_99 : decode cX2_asks 99 = .ok (.putfield 176, 3) := dk_181 0 176 (dk_at dksX2_asks_4 5 rfl rfl)
theorem dX2_asks_102 : decode cX2_asks 102 = .ok (.iconst 0, 1) := dk_3 (dk_at dksX2_asks_4 8 rfl rfl)
theorem dX2_asks_103 : decode cX2_asks 103 = .ok (.istore 4, 2) := dk_54 4 (dk_at dksX2_asks_4 9 rfl rfl)
theorem dX2_asks_105 : decode cX2_asks 105 = .ok (.iload 4, 2) := dk_21 4 (dk_at dksX2_asks_4 11 rfl rfl)
theorem dX2_asks_107 : decode cX2_asks 107 = .ok (.iload_n 1, 1) := dk_27 (dk_at dksX2_asks_4 13 rfl rfl)
theorem dX2_asks_108 : decode cX2_asks 108 = .ok (.if_icmp .ge 16, 3) := dk_162 0 16 (dk_at dksX2_asks_4 14 rfl rfl)
theorem dX2_asks_111 : decode cX2_asks 111 = .ok (.aload_n 0, 1) := dk_42 (dk_at dksX2_asks_4 17 rfl rfl)
theorem dX2_asks_112 : decode cX2_asks 112 = .ok (.bipush 20, 2) := dk_16 20 (dk_at dksX2_asks_4 18 rfl rfl)
theorem dX2_asks_114 : decode cX2_asks 114 = .ok (.iconst 0, 1) := dk_3 (dk_at dksX2_asks_4 20 rfl rfl)
theorem dX2_asks_115 : decode cX2_asks 115 = .ok (.invokevirtual 179, 3) := dk_182 0 179 (dk_at dksX2_asks_4 21 rfl rfl)
theorem dX2_asks_118 : decode cX2_asks 118 = .ok (.iinc 4 1, 3) := dk_132 4 1 (dk_at dksX2_asks_5 0 rfl rfl)
theorem dX2_asks_121 : decode cX2_asks 121 = .ok (.goto (-16), 3) := dk_167 255 240 (dk_at dksX2_asks_5 3 rfl rfl)
theorem dX2_asks_124 : decode cX2_asks 124 = .ok (.iconst 0, 1) := dk_3 (dk_at dksX2_asks_5 6 rfl rfl)
theorem dX2_asks_125 : decode cX2_asks 125 = .ok (.ireturn, 1) := dk_172 (dk_at dksX2_asks_5 7 rfl rfl)
abbrev cX2_compareOf : ByteArray := prog_17_method_38_code
def yX2_compareOf : MethodName := ⟨RX2, "compareOf", "()I"⟩
def dkwX2_compareOf_3 : List UInt8 := [180, 0, 138, 16, 35, 160, 0, 8, 16, 15, 167, 0, 4, 2, 172]
abbrev dktX2_compareOf_3 : List UInt8 := dkwX2_compareOf_3 ++ []
def dkwX2_compareOf_2 : List UInt8 := [160, 0, 8, 16, 13, 167, 0, 32, 42, 180, 0, 138, 16, 61, 160, 0, 8, 16, 14, 167, 0, 18, 42]
abbrev dktX2_compareOf_2 : List UInt8 := dkwX2_compareOf_2 ++ dktX2_compareOf_3
def dkwX2_compareOf_1 : List UInt8 := [167, 0, 59, 42, 180, 0, 138, 16, 62, 160, 0, 8, 16, 12, 167, 0, 45, 42, 180, 0, 138, 8]
abbrev dktX2_compareOf_1 : List UInt8 := dkwX2_compareOf_1 ++ dktX2_compareOf_2
def dkwX2_compareOf_0 : List UInt8 := [42, 180, 0, 138, 16, 60, 160, 0, 8, 16, 10, 167, 0, 72, 42, 180, 0, 138, 7, 160, 0, 8, 16, 11]
abbrev dktX2_compareOf_0 : List UInt8 := dkwX2_compareOf_0 ++ dktX2_compareOf_1
theorem dksX2_compareOf_0 : cX2_compareOf.data.toList.drop 0 = dktX2_compareOf_0 := by decide +kernel
theorem dksX2_compareOf_1 : cX2_compareOf.data.toList.drop 24 = dktX2_compareOf_1 := dk_seg dksX2_compareOf_0 24 rfl rfl
theorem dksX2_compareOf_2 : cX2_compareOf.data.toList.drop 46 = dktX2_compareOf_2 := dk_seg dksX2_compareOf_1 22 rfl rfl
theorem dksX2_compareOf_3 : cX2_compareOf.data.toList.drop 69 = dktX2_compareOf_3 := dk_seg dksX2_compareOf_2 23 rfl rfl
theorem dX2_compareOf_0 : decode cX2_compareOf 0 = .ok (.aload_n 0, 1) := dk_42 (dk_at dksX2_compareOf_0 0 rfl rfl)
theorem dX2_compareOf_1 : decode cX2_compareOf 1 = .ok (.getfield 138, 3) := dk_180 0 138 (dk_at dksX2_compareOf_0 1 rfl rfl)
theorem dX2_compareOf_4 : decode cX2_compareOf 4 = .ok (.bipush 60, 2) := dk_16 60 (dk_at dksX2_compareOf_0 4 rfl rfl)
theorem dX2_compareOf_6 : decode cX2_compareOf 6 = .ok (.if_icmp .ne 8, 3) := dk_160 0 8 (dk_at dksX2_compareOf_0 6 rfl rfl)
theorem dX2_compareOf_9 : decode cX2_compareOf 9 = .ok (.bipush 10, 2) := dk_16 10 (dk_at dksX2_compareOf_0 9 rfl rfl)
theorem dX2_compareOf_11 : decode cX2_compareOf 11 = .ok (.goto 72, 3) := dk_167 0 72 (dk_at dksX2_compareOf_0 11 rfl rfl)
theorem dX2_compareOf_14 : decode cX2_compareOf 14 = .ok (.aload_n 0, 1) := dk_42 (dk_at dksX2_compareOf_0 14 rfl rfl)
theorem dX2_compareOf_15 : decode cX2_compareOf 15 = .ok (.getfield 138, 3) := dk_180 0 138 (dk_at dksX2_compareOf_0 15 rfl rfl)
theorem dX2_compareOf_18 : decode cX2_compareOf 18 = .ok (.iconst 4, 1) := dk_7 (dk_at dksX2_compareOf_0 18 rfl rfl)
theorem dX2_compareOf_19 : decode cX2_compareOf 19 = .ok (.if_icmp .ne 8, 3) := dk_160 0 8 (dk_at dksX2_compareOf_0 19 rfl rfl)
theorem dX2_compareOf_22 : decode cX2_compareOf 22 = .ok (.bipush 11, 2) := dk_16 11 (dk_at dksX2_compareOf_0 22 rfl rfl)
theorem dX2_compareOf_24 : decode cX2_compareOf 24 = .ok (.goto 59, 3) := dk_167 0 59 (dk_at dksX2_compareOf_1 0 rfl rfl)
theorem dX2_compareOf_27 : decode cX2_compareOf 27 = .ok (.aload_n 0, 1) := dk_42 (dk_at dksX2_compareOf_1 3 rfl rfl)
theorem dX2_compareOf_28 : decode cX2_compareOf 28 = .ok (.getfield 138, 3) := dk_180 0 138 (dk_at dksX2_compareOf_1 4 rfl rfl)
theorem dX2_compareOf_31 : decode cX2_compareOf 31 = .ok (.bipush 62, 2) := dk_16 62 (dk_at dksX2_compareOf_1 7 rfl rfl)
theorem dX2_compareOf_33 : decode cX2_compareOf 33 = .ok (.if_icmp .ne 8, 3) := dk_160 0 8 (dk_at dksX2_compareOf_1 9 rfl rfl)
theorem dX2_compareOf_36 : decode cX2_compareOf 36 = .ok (.bipush 12, 2) := dk_16 12 (dk_at dksX2_compareOf_1 12 rfl rfl)
theorem dX2_compareOf_38 : decode cX2_compareOf 38 = .ok (.goto 45, 3) := dk_167 0 45 (dk_at dksX2_compareOf_1 14 rfl rfl)
theorem dX2_compareOf_41 : decode cX2_compareOf 41 = .ok (.aload_n 0, 1) := dk_42 (dk_at dksX2_compareOf_1 17 rfl rfl)
theorem dX2_compareOf_42 : decode cX2_compareOf 42 = .ok (.getfield 138, 3) := dk_180 0 138 (dk_at dksX2_compareOf_1 18 rfl rfl)
theorem dX2_compareOf_45 : decode cX2_compareOf 45 = .ok (.iconst 5, 1) := dk_8 (dk_at dksX2_compareOf_1 21 rfl rfl)
theorem dX2_compareOf_46 : decode cX2_compareOf 46 = .ok (.if_icmp .ne 8, 3) := dk_160 0 8 (dk_at dksX2_compareOf_2 0 rfl rfl)
theorem dX2_compareOf_49 : decode cX2_compareOf 49 = .ok (.bipush 13, 2) := dk_16 13 (dk_at dksX2_compareOf_2 3 rfl rfl)
theorem dX2_compareOf_51 : decode cX2_compareOf 51 = .ok (.goto 32, 3) := dk_167 0 32 (dk_at dksX2_compareOf_2 5 rfl rfl)
theorem dX2_compareOf_54 : decode cX2_compareOf 54 = .ok (.aload_n 0, 1) := dk_42 (dk_at dksX2_compareOf_2 8 rfl rfl)
theorem dX2_compareOf_55 : decode cX2_compareOf 55 = .ok (.getfield 138, 3) := dk_180 0 138 (dk_at dksX2_compareOf_2 9 rfl rfl)
theorem dX2_compareOf_58 : decode cX2_compareOf 58 = .ok (.bipush 61, 2) := dk_16 61 (dk_at dksX2_compareOf_2 12 rfl rfl)
theorem dX2_compareOf_60 : decode cX2_compareOf 60 = .ok (.if_icmp .ne 8, 3) := dk_160 0 8 (dk_at dksX2_compareOf_2 14 rfl rfl)
theorem dX2_compareOf_63 : decode cX2_compareOf 63 = .ok (.bipush 14, 2) := dk_16 14 (dk_at dksX2_compareOf_2 17 rfl rfl)
theorem dX2_compareOf_65 : decode cX2_compareOf 65 = .ok (.goto 18, 3) := dk_167 0 18 (dk_at dksX2_compareOf_2 19 rfl rfl)
theorem dX2_compareOf_68 : decode cX2_compareOf 68 = .ok (.aload_n 0, 1) := dk_42 (dk_at dksX2_compareOf_2 22 rfl rfl)
theorem dX2_compareOf_69 : decode cX2_compareOf 69 = .ok (.getfield 138, 3) := dk_180 0 138 (dk_at dksX2_compareOf_3 0 rfl rfl)
theorem dX2_compareOf_72 : decode cX2_compareOf 72 = .ok (.bipush 35, 2) := dk_16 35 (dk_at dksX2_compareOf_3 3 rfl rfl)
theorem dX2_compareOf_74 : decode cX2_compareOf 74 = .ok (.if_icmp .ne 8, 3) := dk_160 0 8 (dk_at dksX2_compareOf_3 5 rfl rfl)
theorem dX2_compareOf_77 : decode cX2_compareOf 77 = .ok (.bipush 15, 2) := dk_16 15 (dk_at dksX2_compareOf_3 8 rfl rfl)
theorem dX2_compareOf_79 : decode cX2_compareOf 79 = .ok (.goto 4, 3) := dk_167 0 4 (dk_at dksX2_compareOf_3 10 rfl rfl)
theorem dX2_compareOf_82 : decode cX2_compareOf 82 = .ok (.iconst (-1), 1) := dk_2 (dk_at dksX2_compareOf_3 13 rfl rfl)
theorem dX2_compareOf_83 : decode cX2_compareOf 83 = .ok (.ireturn, 1) := dk_172 (dk_at dksX2_compareOf_3 14 rfl rfl)
abbrev cX2_fault : ByteArray := prog_17_method_47_code
def yX2_fault : MethodName := ⟨RX2, "fault", "(I)I"⟩
def dkwX2_fault_1 : List UInt8 := [172]
abbrev dktX2_fault_1 : List UInt8 := dkwX2_fault_1 ++ []
def dkwX2_fault_0 : List UInt8 := [27, 154, 0, 10, 42, 180, 0, 29, 167, 0, 16, 27, 4, 160, 0, 10, 42, 180, 0, 33, 167, 0, 4, 2]
abbrev dktX2_fault_0 : List UInt8 := dkwX2_fault_0 ++ dktX2_fault_1
theorem dksX2_fault_0 : cX2_fault.data.toList.drop 0 = dktX2_fault_0 := by decide +kernel
theorem dksX2_fault_1 : cX2_fault.data.toList.drop 24 = dktX2_fault_1 := dk_seg dksX2_fault_0 24 rfl rfl
theorem dX2_fault_0 : decode cX2_fault 0 = .ok (.iload_n 1, 1) := dk_27 (dk_at dksX2_fault_0 0 rfl rfl)
theorem dX2_fault_1 : decode cX2_fault 1 = .ok (.ifCond .ne 10, 3) := dk_154 0 10 (dk_at dksX2_fault_0 1 rfl rfl)
theorem dX2_fault_4 : decode cX2_fault 4 = .ok (.aload_n 0, 1) := dk_42 (dk_at dksX2_fault_0 4 rfl rfl)
theorem dX2_fault_5 : decode cX2_fault 5 = .ok (.getfield 29, 3) := dk_180 0 29 (dk_at dksX2_fault_0 5 rfl rfl)
theorem dX2_fault_8 : decode cX2_fault 8 = .ok (.goto 16, 3) := dk_167 0 16 (dk_at dksX2_fault_0 8 rfl rfl)
theorem dX2_fault_11 : decode cX2_fault 11 = .ok (.iload_n 1, 1) := dk_27 (dk_at dksX2_fault_0 11 rfl rfl)
theorem dX2_fault_12 : decode cX2_fault 12 = .ok (.iconst 1, 1) := dk_4 (dk_at dksX2_fault_0 12 rfl rfl)
theorem dX2_fault_13 : decode cX2_fault 13 = .ok (.if_icmp .ne 10, 3) := dk_160 0 10 (dk_at dksX2_fault_0 13 rfl rfl)
theorem dX2_fault_16 : decode cX2_fault 16 = .ok (.aload_n 0, 1) := dk_42 (dk_at dksX2_fault_0 16 rfl rfl)
theorem dX2_fault_17 : decode cX2_fault 17 = .ok (.getfield 33, 3) := dk_180 0 33 (dk_at dksX2_fault_0 17 rfl rfl)
theorem dX2_fault_20 : decode cX2_fault 20 = .ok (.goto 4, 3) := dk_167 0 4 (dk_at dksX2_fault_0 20 rfl rfl)
theorem dX2_fault_23 : decode cX2_fault 23 = .ok (.iconst (-1), 1) := dk_2 (dk_at dksX2_fault_0 23 rfl rfl)
theorem dX2_fault_24 : decode cX2_fault 24 = .ok (.ireturn, 1) := dk_172 (dk_at dksX2_fault_1 0 rfl rfl)
abbrev cX2_by : ByteArray := prog_17_method_48_code
def yX2_by : MethodName := ⟨RX2, "by", "(I)Z"⟩
def dkwX2_by_1 : List UInt8 := [79, 4, 172]
abbrev dktX2_by_1 : List UInt8 := dkwX2_by_1 ++ []
def dkwX2_by_0 : List UInt8 := [27, 2, 42, 180, 0, 7, 6, 46, 4, 100, 184, 0, 104, 154, 0, 5, 3, 172, 42, 180, 0, 7, 7, 27]
abbrev dktX2_by_0 : List UInt8 := dkwX2_by_0 ++ dktX2_by_1
theorem dksX2_by_0 : cX2_by.data.toList.drop 0 = dktX2_by_0 := by decide +kernel
theorem dksX2_by_1 : cX2_by.data.toList.drop 24 = dktX2_by_1 := dk_seg dksX2_by_0 24 rfl rfl
theorem dX2_by_0 : decode cX2_by 0 = .ok (.iload_n 1, 1) := dk_27 (dk_at dksX2_by_0 0 rfl rfl)
theorem dX2_by_1 : decode cX2_by 1 = .ok (.iconst (-1), 1) := dk_2 (dk_at dksX2_by_0 1 rfl rfl)
theorem dX2_by_2 : decode cX2_by 2 = .ok (.aload_n 0, 1) := dk_42 (dk_at dksX2_by_0 2 rfl rfl)
theorem dX2_by_3 : decode cX2_by 3 = .ok (.getfield 7, 3) := dk_180 0 7 (dk_at dksX2_by_0 3 rfl rfl)
theorem dX2_by_6 : decode cX2_by 6 = .ok (.iconst 3, 1) := dk_6 (dk_at dksX2_by_0 6 rfl rfl)
theorem dX2_by_7 : decode cX2_by 7 = .ok (.iaload, 1) := dk_46 (dk_at dksX2_by_0 7 rfl rfl)
theorem dX2_by_8 : decode cX2_by 8 = .ok (.iconst 1, 1) := dk_4 (dk_at dksX2_by_0 8 rfl rfl)
theorem dX2_by_9 : decode cX2_by 9 = .ok (.isub, 1) := dk_100 (dk_at dksX2_by_0 9 rfl rfl)
theorem dX2_by_10 : decode cX2_by 10 = .ok (.invokestatic 104, 3) := dk_184 0 104 (dk_at dksX2_by_0 10 rfl rfl)
theorem dX2_by_13 : decode cX2_by 13 = .ok (.ifCond .ne 5, 3) := dk_154 0 5 (dk_at dksX2_by_0 13 rfl rfl)
theorem dX2_by_16 : decode cX2_by 16 = .ok (.iconst 0, 1) := dk_3 (dk_at dksX2_by_0 16 rfl rfl)
theorem dX2_by_17 : decode cX2_by 17 = .ok (.ireturn, 1) := dk_172 (dk_at dksX2_by_0 17 rfl rfl)
theorem dX2_by_18 : decode cX2_by 18 = .ok (.aload_n 0, 1) := dk_42 (dk_at dksX2_by_0 18 rfl rfl)
theorem dX2_by_19 : decode cX2_by 19 = .ok (.getfield 7, 3) := dk_180 0 7 (dk_at dksX2_by_0 19 rfl rfl)
theorem dX2_by_22 : decode cX2_by 22 = .ok (.iconst 4, 1) := dk_7 (dk_at dksX2_by_0 22 rfl rfl)
theorem dX2_by_23 : decode cX2_by 23 = .ok (.iload_n 1, 1) := dk_27 (dk_at dksX2_by_0 23 rfl rfl)
theorem dX2_by_24 : decode cX2_by 24 = .ok (.iastore, 1) := dk_79 (dk_at dksX2_by_1 0 rfl rfl)
theorem dX2_by_25 : decode cX2_by 25 = .ok (.iconst 1, 1) := dk_4 (dk_at dksX2_by_1 1 rfl rfl)
theorem dX2_by_26 : decode cX2_by 26 = .ok (.ireturn, 1) := dk_172 (dk_at dksX2_by_1 2 rfl rfl)
abbrev cX2_roll : ByteArray := prog_17_method_49_code
def yX2_roll : MethodName := ⟨RX2, "roll", "(I)I"⟩
def dkwX2_roll_7 : List UInt8 := [132, 2, 1, 167, 255, 156, 2, 172]
abbrev dktX2_roll_7 : List UInt8 := dkwX2_roll_7 ++ []
def dkwX2_roll_6 : List UInt8 := [180, 0, 23, 29, 4, 96, 46, 42, 180, 0, 23, 29, 5, 96, 46, 4, 182, 1, 11, 154, 0, 5, 28, 172]
abbrev dktX2_roll_6 : List UInt8 := dkwX2_roll_6 ++ dktX2_roll_7
def dkwX2_roll_5 : List UInt8 := [5, 96, 46, 182, 1, 8, 156, 0, 5, 28, 172, 42, 180, 0, 23, 29, 46, 7, 160, 0, 29, 42, 42]
abbrev dktX2_roll_5 : List UInt8 := dkwX2_roll_5 ++ dktX2_roll_6
def dkwX2_roll_4 : List UInt8 := [42, 180, 0, 23, 29, 46, 6, 160, 0, 28, 42, 42, 180, 0, 23, 29, 4, 96, 46, 42, 180, 0, 23, 29]
abbrev dktX2_roll_4 : List UInt8 := dkwX2_roll_4 ++ dktX2_roll_5
def dkwX2_roll_3 : List UInt8 := [180, 0, 23, 17, 2, 188, 27, 104, 46, 162, 0, 92, 17, 2, 188, 27, 104, 4, 96, 6, 28, 104, 96, 62]
abbrev dktX2_roll_3 : List UInt8 := dkwX2_roll_3 ++ dktX2_roll_4
def dkwX2_roll_2 : List UInt8 := [162, 0, 19, 42, 180, 0, 7, 16, 40, 28, 96, 3, 79, 132, 2, 1, 167, 255, 237, 3, 61, 28, 42]
abbrev dktX2_roll_2 : List UInt8 := dkwX2_roll_2 ++ dktX2_roll_3
def dkwX2_roll_1 : List UInt8 := [3, 79, 42, 180, 0, 7, 8, 3, 79, 42, 180, 0, 7, 16, 7, 3, 79, 3, 61, 28, 16, 12]
abbrev dktX2_roll_1 : List UInt8 := dkwX2_roll_1 ++ dktX2_roll_2
def dkwX2_roll_0 : List UInt8 := [27, 3, 42, 180, 0, 7, 6, 46, 4, 100, 184, 0, 104, 154, 0, 6, 16, 254, 172, 42, 180, 0, 7, 3]
abbrev dktX2_roll_0 : List UInt8 := dkwX2_roll_0 ++ dktX2_roll_1
theorem dksX2_roll_0 : cX2_roll.data.toList.drop 0 = dktX2_roll_0 := by decide +kernel
theorem dksX2_roll_1 : cX2_roll.data.toList.drop 24 = dktX2_roll_1 := dk_seg dksX2_roll_0 24 rfl rfl
theorem dksX2_roll_2 : cX2_roll.data.toList.drop 46 = dktX2_roll_2 := dk_seg dksX2_roll_1 22 rfl rfl
theorem dksX2_roll_3 : cX2_roll.data.toList.drop 69 = dktX2_roll_3 := dk_seg dksX2_roll_2 23 rfl rfl
theorem dksX2_roll_4 : cX2_roll.data.toList.drop 93 = dktX2_roll_4 := dk_seg dksX2_roll_3 24 rfl rfl
theorem dksX2_roll_5 : cX2_roll.data.toList.drop 117 = dktX2_roll_5 := dk_seg dksX2_roll_4 24 rfl rfl
theorem dksX2_roll_6 : cX2_roll.data.toList.drop 140 = dktX2_roll_6 := dk_seg dksX2_roll_5 23 rfl rfl
theorem dksX2_roll_7 : cX2_roll.data.toList.drop 164 = dktX2_roll_7 := dk_seg dksX2_roll_6 24 rfl rfl
theorem dX2_roll_0 : decode cX2_roll 0 = .ok (.iload_n 1, 1) := dk_27 (dk_at dksX2_roll_0 0 rfl rfl)
theorem dX2_roll_1 : decode cX2_roll 1 = .ok (.iconst 0, 1) := dk_3 (dk_at dksX2_roll_0 1 rfl rfl)
theorem dX2_roll_2 : decode cX2_roll 2 = .ok (.aload_n 0, 1) := dk_42 (dk_at dksX2_roll_0 2 rfl rfl)
theorem dX2_roll_3 : decode cX2_roll 3 = .ok (.getfield 7, 3) := dk_180 0 7 (dk_at dksX2_roll_0 3 rfl rfl)
theorem dX2_roll_6 : decode cX2_roll 6 = .ok (.iconst 3, 1) := dk_6 (dk_at dksX2_roll_0 6 rfl rfl)
theorem dX2_roll_7 : decode cX2_roll 7 = .ok (.iaload, 1) := dk_46 (dk_at dksX2_roll_0 7 rfl rfl)
theorem dX2_roll_8 : decode cX2_roll 8 = .ok (.iconst 1, 1) := dk_4 (dk_at dksX2_roll_0 8 rfl rfl)
theorem dX2_roll_9 : decode cX2_roll 9 = .ok (.isub, 1) := dk_100 (dk_at dksX2_roll_0 9 rfl rfl)
theorem dX2_roll_10 : decode cX2_roll 10 = .ok (.invokestatic 104, 3) := dk_184 0 104 (dk_at dksX2_roll_0 10 rfl rfl)
theorem dX2_roll_13 : decode cX2_roll 13 = .ok (.ifCond .ne 6, 3) := dk_154 0 6 (dk_at dksX2_roll_0 13 rfl rfl)
theorem dX2_roll_16 : decode cX2_roll 16 = .ok (.bipush (-2), 2) := dk_16 254 (dk_at dksX2_roll_0 16 rfl rfl)
theorem dX2_roll_18 : decode cX2_roll 18 = .ok (.ireturn, 1) := dk_172 (dk_at dksX2_roll_0 18 rfl rfl)
theorem dX2_roll_19 : decode cX2_roll 19 = .ok (.aload_n 0, 1) := dk_42 (dk_at dksX2_roll_0 19 rfl rfl)
theorem dX2_roll_20 : decode cX2_roll 20 = .ok (.getfield 7, 3) := dk_180 0 7 (dk_at dksX2_roll_0 20 rfl rfl)
theorem dX2_roll_23 : decode cX2_roll 23 = .ok (.iconst 0, 1) := dk_3 (dk_at dksX2_roll_0 23 rfl rfl)
theorem dX2_roll_24 : decode cX2_roll 24 = .ok (.iconst 0, 1) := dk_3 (dk_at dksX2_roll_1 0 rfl rfl)
theorem dX2_roll_25 : decode cX2_roll 25 = .ok (.iastore, 1) := dk_79 (dk_at dksX2_roll_1 1 rfl rfl)
theorem dX2_roll_26 : decode cX2_roll 26 = .ok (.aload_n 0, 1) := dk_42 (dk_at dksX2_roll_1 2 rfl rfl)
theorem dX2_roll_27 : decode cX2_roll 27 = .ok (.getfield 7, 3) := dk_180 0 7 (dk_at dksX2_roll_1 3 rfl rfl)
theorem dX2_roll_30 : decode cX2_roll 30 = .ok (.iconst 5, 1) := dk_8 (dk_at dksX2_roll_1 6 rfl rfl)
theorem dX2_roll_31 : decode cX2_roll 31 = .ok (.iconst 0, 1) := dk_3 (dk_at dksX2_roll_1 7 rfl rfl)
theorem dX2_roll_32 : decode cX2_roll 32 = .ok (.iastore, 1) := dk_79 (dk_at dksX2_roll_1 8 rfl rfl)
theorem dX2_roll_33 : decode cX2_roll 33 = .ok (.aload_n 0, 1) := dk_42 (dk_at dksX2_roll_1 9 rfl rfl)
theorem dX2_roll_34 : decode cX2_roll 34 = .ok (.getfield 7, 3) := dk_180 0 7 (dk_at dksX2_roll_1 10 rfl rfl)
theorem dX2_roll_37 : decode cX2_roll 37 = .ok (.bipush 7, 2) := dk_16 7 (dk_at dksX2_roll_1 13 rfl rfl)
theorem dX2_roll_39 : decode cX2_roll 39 = .ok (.iconst 0, 1) := dk_3 (dk_at dksX2_roll_1 15 rfl rfl)
theorem dX2_roll_40 : decode cX2_roll 40 = .ok (.iastore, 1) := dk_79 (dk_at dksX2_roll_1 16 rfl rfl)
theorem dX2_roll_41 : decode cX2_roll 41 = .ok (.iconst 0, 1) := dk_3 (dk_at dksX2_roll_1 17 rfl rfl)
theorem dX2_roll_42 : decode cX2_roll 42 = .ok (.istore_n 2, 1) := dk_61 (dk_at dksX2_roll_1 18 rfl rfl)
theorem dX2_roll_43 : decode cX2_roll 43 = .ok (.iload_n 2, 1) := dk_28 (dk_at dksX2_roll_1 19 rfl rfl)
theorem dX2_roll_44 : decode cX2_roll 44 = .ok (.bipush 12, 2) := dk_16 12 (dk_at dksX2_roll_1 20 rfl rfl)
theorem dX2_roll_46 : decode cX2_roll 46 = .ok (.if_icmp .ge 19, 3) := dk_162 0 19 (dk_at dksX2_roll_2 0 rfl rfl)
theorem dX2_roll_49 : decode cX2_roll 49 = .ok (.aload_n 0, 1) := dk_42 (dk_at dksX2_roll_2 3 rfl rfl)
theorem dX2_roll_50 : decode cX2_roll 50 = .ok (.getfield 7, 3) := dk_180 0 7 (dk_at dksX2_roll_2 4 rfl rfl)
theorem dX2_roll_53 : decode cX2_roll 53 = .ok (.bipush 40, 2) := dk_16 40 (dk_at dksX2_roll_2 7 rfl rfl)
theorem dX2_roll_55 : decode cX2_roll 55 = .ok (.iload_n 2, 1) := dk_28 (dk_at dksX2_roll_2 9 rfl rfl)
theorem dX2_roll_56 : decode cX2_roll 56 = .ok (.iadd, 1) := dk_96 (dk_at dksX2_roll_2 10 rfl rfl)
theorem dX2_roll_57 : decode cX2_roll 57 = .ok (.iconst 0, 1) := dk_3 (dk_at dksX2_roll_2 11 rfl rfl)
theorem dX2_roll_58 : decode cX2_roll 58 = .ok (.iastore, 1) := dk_79 (dk_at dksX2_roll_2 12 rfl rfl)
theorem dX2_roll_59 : decode cX2_roll 59 = .ok (.iinc 2 1, 3) := dk_132 2 1 (dk_at dksX2_roll_2 13 rfl rfl)
theorem dX2_roll_62 : decode cX2_roll 62 = .ok (.goto (-19), 3) := dk_167 255 237 (dk_at dksX2_roll_2 16 rfl rfl)
theorem dX2_roll_65 : decode cX2_roll 65 = .ok (.iconst 0, 1) := dk_3 (dk_at dksX2_roll_2 19 rfl rfl)
theorem dX2_roll_66 : decode cX2_roll 66 = .ok (.istore_n 2, 1) := dk_61 (dk_at dksX2_roll_2 20 rfl rfl)
theorem dX2_roll_67 : decode cX2_roll 67 = .ok (.iload_n 2, 1) := dk_28 (dk_at dksX2_roll_2 21 rfl rfl)
theorem dX2_roll_68 : decode cX2_roll 68 = .ok (.aload_n 0, 1) := dk_42 (dk_at dksX2_roll_2 22 rfl rfl)
theorem dX2_roll_69 : decode cX2_roll 69 = .ok (.getfield 23, 3) := dk_180 0 23 (dk_at dksX2_roll_3 0 rfl rfl)
theorem dX2_roll_72 : decode cX2_roll 72 = .ok (.sipush 700, 3) := dk_17 2 188 (dk_at dksX2_roll_3 3 rfl rfl)
theorem dX2_roll_75 : decode cX2_roll 75 = .ok (.iload_n 1, 1) := dk_27 (dk_at dksX2_roll_3 6 rfl rfl)
theorem dX2_roll_76 : decode cX2_roll 76 = .ok (.imul, 1) := dk_104 (dk_at dksX2_roll_3 7 rfl rfl)
theorem dX2_roll_77 : decode cX2_roll 77 = .ok (.iaload, 1) := dk_46 (dk_at dksX2_roll_3 8 rfl rfl)
theorem dX2_roll_78 : decode cX2_roll 78 = .ok (.if_icmp .ge 92, 3) := dk_162 0 92 (dk_at dksX2_roll_3 9 rfl rfl)
theorem dX2_roll_81 : decode cX2_roll 81 = .ok (.sipush 700, 3) := dk_17 2 188 (dk_at dksX2_roll_3 12 rfl rfl)
theorem dX2_roll_84 : decode cX2_roll 84 = .ok (.iload_n 1, 1) := dk_27 (dk_at dksX2_roll_3 15 rfl rfl)
theorem dX2_roll_85 : decode cX2_roll 85 = .ok (.imul, 1) := dk_104 (dk_at dksX2_roll_3 16 rfl rfl)
theorem dX2_roll_86 : decode cX2_roll 86 = .ok (.iconst 1, 1) := dk_4 (dk_at dksX2_roll_3 17 rfl rfl)
theorem dX2_roll_87 : decode cX2_roll 87 = .ok (.iadd, 1) := dk_96 (dk_at dksX2_roll_3 18 rfl rfl)
theorem dX2_roll_88 : decode cX2_roll 88 = .ok (.iconst 3, 1) := dk_6 (dk_at dksX2_roll_3 19 rfl rfl)
theorem dX2_roll_89 : decode cX2_roll 89 = .ok (.iload_n 2, 1) := dk_28 (dk_at dksX2_roll_3 20 rfl rfl)
theorem dX2_roll_90 : decode cX2_roll 90 = .ok (.imul, 1) := dk_104 (dk_at dksX2_roll_3 21 rfl rfl)
theorem dX2_roll_91 : decode cX2_roll 91 = .ok (.iadd, 1) := dk_96 (dk_at dksX2_roll_3 22 rfl rfl)
theorem dX2_roll_92 : decode cX2_roll 92 = .ok (.istore_n 3, 1) := dk_62 (dk_at dksX2_roll_3 23 rfl rfl)
theorem dX2_roll_93 : decode cX2_roll 93 = .ok (.aload_n 0, 1) := dk_42 (dk_at dksX2_roll_4 0 rfl rfl)
theorem dX2_roll_94 : decode cX2_roll 94 = .ok (.getfield 23, 3) := dk_180 0 23 (dk_at dksX2_roll_4 1 rfl rfl)
theorem dX2_roll_97 : decode cX2_roll 97 = .ok (.iload_n 3, 1) := dk_29 (dk_at dksX2_roll_4 4 rfl rfl)
theorem dX2_roll_98 : decode cX2_roll 98 = .ok (.iaload, 1) := dk_46 (dk_at dksX2_roll_4 5 rfl rfl)
theorem dX2_roll_99 : decode cX2_roll 99 = .ok (.iconst 3, 1) := dk_6 (dk_at dksX2_roll_4 6 rfl rfl)
theorem dX2_roll_100 : decode cX2_roll 100 = .ok (.if_icmp .ne 28, 3) := dk_160 0 28 (dk_at dksX2_roll_4 7 rfl rfl)
theorem dX2_roll_103 : decode cX2_roll 103 = .ok (.aload_n 0, 1) := dk_42 (dk_at dksX2_roll_4 10 rfl rfl)
theorem dX2_roll_104 : decode cX2_roll 104 = .ok (.aload_n 0, 1) := dk_42 (dk_at dksX2_roll_4 11 rfl rfl)
theorem dX2_roll_105 : decode cX2_roll 105 = .ok (.getfield 23, 3) := dk_180 0 23 (dk_at dksX2_roll_4 12 rfl rfl)
theorem dX2_roll_108 : decode cX2_roll 108 = .ok (.iload_n 3, 1) := dk_29 (dk_at dksX2_roll_4 15 rfl rfl)
theorem dX2_roll_109 : decode cX2_roll 109 = .ok (.iconst 1, 1) := dk_4 (dk_at dksX2_roll_4 16 rfl rfl)
theorem dX2_roll_110 : decode cX2_roll 110 = .ok (.iadd, 1) := dk_96 (dk_at dksX2_roll_4 17 rfl rfl)
theorem dX2_roll_111 : decode cX2_roll 111 = .ok (.iaload, 1) := dk_46 (dk_at dksX2_roll_4 18 rfl rfl)
theorem dX2_roll_112 : decode cX2_roll 112 = .ok (.aload_n 0, 1) := dk_42 (dk_at dksX2_roll_4 19 rfl rfl)
theorem dX2_roll_113 : decode cX2_roll 113 = .ok (.getfield 23, 3) := dk_180 0 23 (dk_at dksX2_roll_4 20 rfl rfl)
theorem dX2_roll_116 : decode cX2_roll 116 = .ok (.iload_n 3, 1) := dk_29 (dk_at dksX2_roll_4 23 rfl rfl)
theorem dX2_roll_117 : decode cX2_roll 117 = .ok (.iconst 2, 1) := dk_5 (dk_at dksX2_roll_5 0 rfl rfl)
theorem dX2_roll_118 : decode cX2_roll 118 = .ok (.iadd, 1) := dk_96 (dk_at dksX2_roll_5 1 rfl rfl)
theorem dX2_roll_119 : decode cX2_roll 119 = .ok (.iaload, 1) := dk_46 (dk_at dksX2_roll_5 2 rfl rfl)
theorem dX2_roll_120 : decode cX2_roll 120 = .ok (.invokevirtual 264, 3) := dk_182 1 8 (dk_at dksX2_roll_5 3 rfl rfl)
theorem dX2_roll_123 : decode cX2_roll 123 = .ok (.ifCond .ge 5, 3) := dk_156 0 5 (dk_at dksX2_roll_5 6 rfl rfl)
theorem dX2_roll_126 : decode cX2_roll 126 = .ok (.iload_n 2, 1) := dk_28 (dk_at dksX2_roll_5 9 rfl rfl)
theorem dX2_roll_127 : decode cX2_roll 127 = .ok (.ireturn, 1) := dk_172 (dk_at dksX2_roll_5 10 rfl rfl)
theorem dX2_roll_128 : decode cX2_roll 128 = .ok (.aload_n 0, 1) := dk_42 (dk_at dksX2_roll_5 11 rfl rfl)
theorem dX2_roll_129 : decode cX2_roll 129 = .ok (.getfield 23, 3) := dk_180 0 23 (dk_at dksX2_roll_5 12 rfl rfl)
theorem dX2_roll_132 : decode cX2_roll 132 = .ok (.iload_n 3, 1) := dk_29 (dk_at dksX2_roll_5 15 rfl rfl)
theorem dX2_roll_133 : decode cX2_roll 133 = .ok (.iaload, 1) := dk_46 (dk_at dksX2_roll_5 16 rfl rfl)
theorem dX2_roll_134 : decode cX2_roll 134 = .ok (.iconst 4, 1) := dk_7 (dk_at dksX2_roll_5 17 rfl rfl)
theorem dX2_roll_135 : decode cX2_roll 135 = .ok (.if_icmp .ne 29, 3) := dk_160 0 29 (dk_at dksX2_roll_5 18 rfl rfl)
theorem dX2_roll_138 : decode cX2_roll 138 = .ok (.aload_n 0, 1) := dk_42 (dk_at dksX2_roll_5 21 rfl rfl)
theorem dX2_roll_139 : decode cX2_roll 139 = .ok (.aload_n 0, 1) := dk_42 (dk_at dksX2_roll_5 22 rfl rfl)
theorem dX2_roll_140 : decode cX2_roll 140 = .ok (.getfield 23, 3) := dk_180 0 23 (dk_at dksX2_roll_6 0 rfl rfl)
theorem dX2_roll_143 : decode cX2_roll 143 = .ok (.iload_n 3, 1) := dk_29 (dk_at dksX2_roll_6 3 rfl rfl)
theorem dX2_roll_144 : decode cX2_roll 144 = .ok (.iconst 1, 1) := dk_4 (dk_at dksX2_roll_6 4 rfl rfl)
theorem dX2_roll_145 : decode cX2_roll 145 = .ok (.iadd, 1) := dk_96 (dk_at dksX2_roll_6 5 rfl rfl)
theorem dX2_roll_146 : decode cX2_roll 146 = .ok (.iaload, 1) := dk_46 (dk_at dksX2_roll_6 6 rfl rfl)
theorem dX2_roll_147 : decode cX2_roll 147 = .ok (.aload_n 0, 1) := dk_42 (dk_at dksX2_roll_6 7 rfl rfl)
theorem dX2_roll_148 : decode cX2_roll 148 = .ok (.getfield 23, 3) := dk_180 0 23 (dk_at dksX2_roll_6 8 rfl rfl)
theorem dX2_roll_151 : decode cX2_roll 151 = .ok (.iload_n 3, 1) := dk_29 (dk_at dksX2_roll_6 11 rfl rfl)
theorem dX2_roll_152 : decode cX2_roll 152 = .ok (.iconst 2, 1) := dk_5 (dk_at dksX2_roll_6 12 rfl rfl)
theorem dX2_roll_153 : decode cX2_roll 153 = .ok (.iadd, 1) := dk_96 (dk_at dksX2_roll_6 13 rfl rfl)
theorem dX2_roll_154 : decode cX2_roll 154 = .ok (.iaload, 1) := dk_46 (dk_at dksX2_roll_6 14 rfl rfl)
theorem dX2_roll_155 : decode cX2_roll 155 = .ok (.iconst 1, 1) := dk_4 (dk_at dksX2_roll_6 15 rfl rfl)
theorem dX2_roll_156 : decode cX2_roll 156 = .ok (.invokevirtual 267, 3) := dk_182 1 11 (dk_at dksX2_roll_6 16 rfl rfl)
theorem dX2_roll_159 : decode cX2_roll 159 = .ok (.ifCond .ne 5, 3) := dk_154 0 5 (dk_at dksX2_roll_6 19 rfl rfl)
theorem dX2_roll_162 : decode cX2_roll 162 = .ok (.iload_n 2, 1) := dk_28 (dk_at dksX2_roll_6 22 rfl rfl)
theorem dX2_roll_163 : decode cX2_roll 163 = .ok (.ireturn, 1) := dk_172 (dk_at dksX2_roll_6 23 rfl rfl)
theorem dX2_roll_164 : decode cX2_roll 164 = .ok (.iinc 2 1, 3) := dk_132 2 1 (dk_at dksX2_roll_7 0 rfl rfl)
theorem dX2_roll_167 : decode cX2_roll 167 = .ok (.goto (-100), 3) := dk_167 255 156 (dk_at dksX2_roll_7 3 rfl rfl)
theorem dX2_roll_170 : decode cX2_roll 170 = .ok (.iconst (-1), 1) := dk_2 (dk_at dksX2_roll_7 6 rfl rfl)
theorem dX2_roll_171 : decode cX2_roll 171 = .ok (.ireturn, 1) := dk_172 (dk_at dksX2_roll_7 7 rfl rfl)
abbrev cX2_speaks : ByteArray := prog_17_method_63_code
def yX2_speaks : MethodName := ⟨RX2, "speaks", "(IJ)Z"⟩
def dkwX2_speaks_1 : List UInt8 := [182, 1, 51, 172]
abbrev dktX2_speaks_1 : List UInt8 := dkwX2_speaks_1 ++ []
def dkwX2_speaks_0 : List UInt8 := [42, 27, 182, 0, 114, 153, 0, 10, 32, 184, 1, 57, 154, 0, 5, 3, 172, 42, 182, 1, 60, 42, 27, 32]
abbrev dktX2_speaks_0 : List UInt8 := dkwX2_speaks_0 ++ dktX2_speaks_1
theorem dksX2_speaks_0 : cX2_speaks.data.toList.drop 0 = dktX2_speaks_0 := by decide +kernel
theorem dksX2_speaks_1 : cX2_speaks.data.toList.drop 24 = dktX2_speaks_1 := dk_seg dksX2_speaks_0 24 rfl rfl
theorem dX2_speaks_0 : decode cX2_speaks 0 = .ok (.aload_n 0, 1) := dk_42 (dk_at dksX2_speaks_0 0 rfl rfl)
theorem dX2_speaks_1 : decode cX2_speaks 1 = .ok (.iload_n 1, 1) := dk_27 (dk_at dksX2_speaks_0 1 rfl rfl)
theorem dX2_speaks_2 : decode cX2_speaks 2 = .ok (.invokevirtual 114, 3) := dk_182 0 114 (dk_at dksX2_speaks_0 2 rfl rfl)
theorem dX2_speaks_5 : decode cX2_speaks 5 = .ok (.ifCond .eq 10, 3) := dk_153 0 10 (dk_at dksX2_speaks_0 5 rfl rfl)
theorem dX2_speaks_8 : decode cX2_speaks 8 = .ok (.lload_n 2, 1) := dk_32 (dk_at dksX2_speaks_0 8 rfl rfl)
theorem dX2_speaks_9 : decode cX2_speaks 9 = .ok (.invokestatic 313, 3) := dk_184 1 57 (dk_at dksX2_speaks_0 9 rfl rfl)
theorem dX2_speaks_12 : decode cX2_speaks 12 = .ok (.ifCond .ne 5, 3) := dk_154 0 5 (dk_at dksX2_speaks_0 12 rfl rfl)
theorem dX2_speaks_15 : decode cX2_speaks 15 = .ok (.iconst 0, 1) := dk_3 (dk_at dksX2_speaks_0 15 rfl rfl)
theorem dX2_speaks_16 : decode cX2_speaks 16 = .ok (.ireturn, 1) := dk_172 (dk_at dksX2_speaks_0 16 rfl rfl)
theorem dX2_speaks_17 : decode cX2_speaks 17 = .ok (.aload_n 0, 1) := dk_42 (dk_at dksX2_speaks_0 17 rfl rfl)
theorem dX2_speaks_18 : decode cX2_speaks 18 = .ok (.invokevirtual 316, 3) := dk_182 1 60 (dk_at dksX2_speaks_0 18 rfl rfl)
theorem dX2_speaks_21 : decode cX2_speaks 21 = .ok (.aload_n 0, 1) := dk_42 (dk_at dksX2_speaks_0 21 rfl rfl)
theorem dX2_speaks_22 : decode cX2_speaks 22 = .ok (.iload_n 1, 1) := dk_27 (dk_at dksX2_speaks_0 22 rfl rfl)
theorem dX2_speaks_23 : decode cX2_speaks 23 = .ok (.lload_n 2, 1) := dk_32 (dk_at dksX2_speaks_0 23 rfl rfl)
theorem dX2_speaks_24 : decode cX2_speaks 24 = .ok (.invokevirtual 307, 3) := dk_182 1 51 (dk_at dksX2_speaks_1 0 rfl rfl)
theorem dX2_speaks_27 : decode cX2_speaks 27 = .ok (.ireturn, 1) := dk_172 (dk_at dksX2_speaks_1 3 rfl rfl)
abbrev cX2_isHour : ByteArray := prog_17_method_6_code
def yX2_isHour : MethodName := ⟨RX2, "isHour", "(J)Z"⟩
def dkwX2_isHour_0 : List UInt8 := [30, 9, 148, 155, 0, 15, 30, 20, 0, 108, 148, 157, 0, 7, 4, 167, 0, 4, 3, 172]
abbrev dktX2_isHour_0 : List UInt8 := dkwX2_isHour_0 ++ []
theorem dksX2_isHour_0 : cX2_isHour.data.toList.drop 0 = dktX2_isHour_0 := by decide +kernel
theorem dX2_isHour_0 : decode cX2_isHour 0 = .ok (.lload_n 0, 1) := dk_30 (dk_at dksX2_isHour_0 0 rfl rfl)
theorem dX2_isHour_1 : decode cX2_isHour 1 = .ok (.lconst 0, 1) := dk_9 (dk_at dksX2_isHour_0 1 rfl rfl)
theorem dX2_isHour_2 : decode cX2_isHour 2 = .ok (.lcmp, 1) := dk_148 (dk_at dksX2_isHour_0 2 rfl rfl)
theorem dX2_isHour_3 : decode cX2_isHour 3 = .ok (.ifCond .lt 15, 3) := dk_155 0 15 (dk_at dksX2_isHour_0 3 rfl rfl)
theorem dX2_isHour_6 : decode cX2_isHour 6 = .ok (.lload_n 0, 1) := dk_30 (dk_at dksX2_isHour_0 6 rfl rfl)
theorem dX2_isHour_7 : decode cX2_isHour 7 = .ok (.ldc2_w 108, 3) := dk_20 0 108 (dk_at dksX2_isHour_0 7 rfl rfl)
theorem dX2_isHour_10 : decode cX2_isHour 10 = .ok (.lcmp, 1) := dk_148 (dk_at dksX2_isHour_0 10 rfl rfl)
theorem dX2_isHour_11 : decode cX2_isHour 11 = .ok (.ifCond .gt 7, 3) := dk_157 0 7 (dk_at dksX2_isHour_0 11 rfl rfl)
theorem dX2_isHour_14 : decode cX2_isHour 14 = .ok (.iconst 1, 1) := dk_4 (dk_at dksX2_isHour_0 14 rfl rfl)
theorem dX2_isHour_15 : decode cX2_isHour 15 = .ok (.goto 4, 3) := dk_167 0 4 (dk_at dksX2_isHour_0 15 rfl rfl)
theorem dX2_isHour_18 : decode cX2_isHour 18 = .ok (.iconst 0, 1) := dk_3 (dk_at dksX2_isHour_0 18 rfl rfl)
theorem dX2_isHour_19 : decode cX2_isHour 19 = .ok (.ireturn, 1) := dk_172 (dk_at dksX2_isHour_0 19 rfl rfl)
abbrev cX2_take : ByteArray := prog_17_method_56_code
def yX2_take : MethodName := ⟨RX2, "take", "()V"⟩
def dkwX2_take_2 : List UInt8 := [42, 27, 182, 1, 31, 132, 1, 1, 167, 255, 202, 177]
abbrev dktX2_take_2 : List UInt8 := dkwX2_take_2 ++ []
def dkwX2_take_1 : List UInt8 := [27, 104, 96, 46, 79, 42, 180, 0, 52, 27, 42, 180, 0, 7, 16, 10, 5, 27, 104, 96, 4, 96, 46, 79]
abbrev dktX2_take_1 : List UInt8 := dkwX2_take_1 ++ dktX2_take_2
def dkwX2_take_0 : List UInt8 := [3, 60, 27, 42, 180, 0, 7, 3, 46, 162, 0, 50, 42, 180, 0, 49, 27, 42, 180, 0, 7, 16, 10, 5]
abbrev dktX2_take_0 : List UInt8 := dkwX2_take_0 ++ dktX2_take_1
theorem dksX2_take_0 : cX2_take.data.toList.drop 0 = dktX2_take_0 := by decide +kernel
theorem dksX2_take_1 : cX2_take.data.toList.drop 24 = dktX2_take_1 := dk_seg dksX2_take_0 24 rfl rfl
theorem dksX2_take_2 : cX2_take.data.toList.drop 48 = dktX2_take_2 := dk_seg dksX2_take_1 24 rfl rfl
theorem dX2_take_0 : decode cX2_take 0 = .ok (.iconst 0, 1) := dk_3 (dk_at dksX2_take_0 0 rfl rfl)
theorem dX2_take_1 : decode cX2_take 1 = .ok (.istore_n 1, 1) := dk_60 (dk_at dksX2_take_0 1 rfl rfl)
theorem dX2_take_2 : decode cX2_take 2 = .ok (.iload_n 1, 1) := dk_27 (dk_at dksX2_take_0 2 rfl rfl)
theorem dX2_take_3 : decode cX2_take 3 = .ok (.aload_n 0, 1) := dk_42 (dk_at dksX2_take_0 3 rfl rfl)
theorem dX2_take_4 : decode cX2_take 4 = .ok (.getfield 7, 3) := dk_180 0 7 (dk_at dksX2_take_0 4 rfl rfl)
theorem dX2_take_7 : decode cX2_take 7 = .ok (.iconst 0, 1) := dk_3 (dk_at dksX2_take_0 7 rfl rfl)
theorem dX2_take_8 : decode cX2_take 8 = .ok (.iaload, 1) := dk_46 (dk_at dksX2_take_0 8 rfl rfl)
theorem dX2_take_9 : decode cX2_take 9 = .ok (.if_icmp .ge 50, 3) := dk_162 0 50 (dk_at dksX2_take_0 9 rfl rfl)
theorem dX2_take_12 : decode cX2_take 12 = .ok (.aload_n 0, 1) := dk_42 (dk_at dksX2_take_0 12 rfl rfl)
theorem dX2_take_13 : decode cX2_take 13 = .ok (.getfield 49, 3) := dk_180 0 49 (dk_at dksX2_take_0 13 rfl rfl)
theorem dX2_take_16 : decode cX2_take 16 = .ok (.iload_n 1, 1) := dk_27 (dk_at dksX2_take_0 16 rfl rfl)
theorem dX2_take_17 : decode cX2_take 17 = .ok (.aload_n 0, 1) := dk_42 (dk_at dksX2_take_0 17 rfl rfl)
theorem dX2_take_18 : decode cX2_take 18 = .ok (.getfield 7, 3) := dk_180 0 7 (dk_at dksX2_take_0 18 rfl rfl)
theorem dX2_take_21 : decode cX2_take 21 = .ok (.bipush 10, 2) := dk_16 10 (dk_at dksX2_take_0 21 rfl rfl)
theorem dX2_take_23 : decode cX2_take 23 = .ok (.iconst 2, 1) := dk_5 (dk_at dksX2_take_0 23 rfl rfl)
theorem dX2_take_24 : decode cX2_take 24 = .ok (.iload_n 1, 1) := dk_27 (dk_at dksX2_take_1 0 rfl rfl)
theorem dX2_take_25 : decode cX2_take 25 = .ok (.imul, 1) := dk_104 (dk_at dksX2_take_1 1 rfl rfl)
theorem dX2_take_26 : decode cX2_take 26 = .ok (.iadd, 1) := dk_96 (dk_at dksX2_take_1 2 rfl rfl)
theorem dX2_take_27 : decode cX2_take 27 = .ok (.iaload, 1) := dk_46 (dk_at dksX2_take_1 3 rfl rfl)
theorem dX2_take_28 : decode cX2_take 28 = .ok (.iastore, 1) := dk_79 (dk_at dksX2_take_1 4 rfl rfl)
theorem dX2_take_29 : decode cX2_take 29 = .ok (.aload_n 0, 1) := dk_42 (dk_at dksX2_take_1 5 rfl rfl)
theorem dX2_take_30 : decode cX2_take 30 = .ok (.getfield 52, 3) := dk_180 0 52 (dk_at dksX2_take_1 6 rfl rfl)
theorem dX2_take_33 : decode cX2_take 33 = .ok (.iload_n 1, 1) := dk_27 (dk_at dksX2_take_1 9 rfl rfl)
theorem dX2_take_34 : decode cX2_take 34 = .ok (.aload_n 0, 1) := dk_42 (dk_at dksX2_take_1 10 rfl rfl)
theorem dX2_take_35 : decode cX2_take 35 = .ok (.getfield 7, 3) := dk_180 0 7 (dk_at dksX2_take_1 11 rfl rfl)
theorem dX2_take_38 : decode cX2_take 38 = .ok (.bipush 10, 2) := dk_16 10 (dk_at dksX2_take_1 14 rfl rfl)
theorem dX2_take_40 : decode cX2_take 40 = .ok (.iconst 2, 1) := dk_5 (dk_at dksX2_take_1 16 rfl rfl)
theorem dX2_take_41 : decode cX2_take 41 = .ok (.iload_n 1, 1) := dk_27 (dk_at dksX2_take_1 17 rfl rfl)
theorem dX2_take_42 : decode cX2_take 42 = .ok (.imul, 1) := dk_104 (dk_at dksX2_take_1 18 rfl rfl)
theorem dX2_take_43 : decode cX2_take 43 = .ok (.iadd, 1) := dk_96 (dk_at dksX2_take_1 19 rfl rfl)
theorem dX2_take_44 : decode cX2_take 44 = .ok (.iconst 1, 1) := dk_4 (dk_at dksX2_take_1 20 rfl rfl)
theorem dX2_take_45 : decode cX2_take 45 = .ok (.iadd, 1) := dk_96 (dk_at dksX2_take_1 21 rfl rfl)
theorem dX2_take_46 : decode cX2_take 46 = .ok (.iaload, 1) := dk_46 (dk_at dksX2_take_1 22 rfl rfl)
theorem dX2_take_47 : decode cX2_take 47 = .ok (.iastore, 1) := dk_79 (dk_at dksX2_take_1 23 rfl rfl)
theorem dX2_take_48 : decode cX2_take 48 = .ok (.aload_n 0, 1) := dk_42 (dk_at dksX2_take_2 0 rfl rfl)
theorem dX2_take_49 : decode cX2_take 49 = .ok (.iload_n 1, 1) := dk_27 (dk_at dksX2_take_2 1 rfl rfl)
theorem dX2_take_50 : decode cX2_take 50 = .ok (.invokevirtual 287, 3) := dk_182 1 31 (dk_at dksX2_take_2 2 rfl rfl)
theorem dX2_take_53 : decode cX2_take 53 = .ok (.iinc 1 1, 3) := dk_132 1 1 (dk_at dksX2_take_2 5 rfl rfl)
theorem dX2_take_56 : decode cX2_take 56 = .ok (.goto (-54), 3) := dk_167 255 202 (dk_at dksX2_take_2 8 rfl rfl)
theorem dX2_take_59 : decode cX2_take 59 = .ok (.return_, 1) := dk_177 (dk_at dksX2_take_2 11 rfl rfl)
abbrev cX2_bar : ByteArray := prog_17_method_57_code
def yX2_bar : MethodName := ⟨RX2, "bar", "(I)V"⟩
def dkwX2_bar_6 : List UInt8 := [27, 104, 28, 96, 29, 84, 132, 2, 1, 167, 255, 174, 177]
abbrev dktX2_bar_6 : List UInt8 := dkwX2_bar_6 ++ []
def dkwX2_bar_5 : List UInt8 := [21, 4, 182, 1, 44, 42, 180, 0, 45, 3, 51, 62, 132, 4, 1, 167, 255, 214, 42, 180, 0, 55, 16, 60]
abbrev dktX2_bar_5 : List UInt8 := dkwX2_bar_5 ++ dktX2_bar_6
def dkwX2_bar_4 : List UInt8 := [182, 1, 38, 162, 0, 39, 29, 154, 0, 35, 42, 21, 4, 182, 1, 41, 4, 159, 0, 6, 167, 0, 16, 42]
abbrev dktX2_bar_4 : List UInt8 := dkwX2_bar_4 ++ dktX2_bar_5
def dkwX2_bar_3 : List UInt8 := [180, 0, 7, 5, 46, 162, 0, 78, 42, 180, 0, 39, 3, 28, 79, 3, 62, 3, 54, 4, 21, 4, 42]
abbrev dktX2_bar_3 : List UInt8 := dkwX2_bar_3 ++ dktX2_bar_4
def dkwX2_bar_2 : List UInt8 := [79, 42, 180, 0, 39, 5, 42, 180, 0, 52, 27, 46, 79, 42, 180, 0, 39, 6, 27, 79, 3, 61, 28, 42]
abbrev dktX2_bar_2 : List UInt8 := dkwX2_bar_2 ++ dktX2_bar_3
def dkwX2_bar_1 : List UInt8 := [27, 28, 133, 182, 1, 34, 84, 132, 2, 1, 167, 255, 224, 42, 180, 0, 39, 4, 42, 180, 0, 49, 27, 46]
abbrev dktX2_bar_1 : List UInt8 := dkwX2_bar_1 ++ dktX2_bar_2
def dkwX2_bar_0 : List UInt8 := [3, 61, 28, 42, 180, 0, 7, 4, 46, 162, 0, 28, 42, 180, 0, 58, 17, 3, 231, 27, 104, 28, 96, 42]
abbrev dktX2_bar_0 : List UInt8 := dkwX2_bar_0 ++ dktX2_bar_1
theorem dksX2_bar_0 : cX2_bar.data.toList.drop 0 = dktX2_bar_0 := by decide +kernel
theorem dksX2_bar_1 : cX2_bar.data.toList.drop 24 = dktX2_bar_1 := dk_seg dksX2_bar_0 24 rfl rfl
theorem dksX2_bar_2 : cX2_bar.data.toList.drop 48 = dktX2_bar_2 := dk_seg dksX2_bar_1 24 rfl rfl
theorem dksX2_bar_3 : cX2_bar.data.toList.drop 72 = dktX2_bar_3 := dk_seg dksX2_bar_2 24 rfl rfl
theorem dksX2_bar_4 : cX2_bar.data.toList.drop 95 = dktX2_bar_4 := dk_seg dksX2_bar_3 23 rfl rfl
theorem dksX2_bar_5 : cX2_bar.data.toList.drop 119 = dktX2_bar_5 := dk_seg dksX2_bar_4 24 rfl rfl
theorem dksX2_bar_6 : cX2_bar.data.toList.drop 143 = dktX2_bar_6 := dk_seg dksX2_bar_5 24 rfl rfl
theorem dX2_bar_0 : decode cX2_bar 0 = .ok (.iconst 0, 1) := dk_3 (dk_at dksX2_bar_0 0 rfl rfl)
theorem dX2_bar_1 : decode cX2_bar 1 = .ok (.istore_n 2, 1) := dk_61 (dk_at dksX2_bar_0 1 rfl rfl)
theorem dX2_bar_2 : decode cX2_bar 2 = .ok (.iload_n 2, 1) := dk_28 (dk_at dksX2_bar_0 2 rfl rfl)
theorem dX2_bar_3 : decode cX2_bar 3 = .ok (.aload_n 0, 1) := dk_42 (dk_at dksX2_bar_0 3 rfl rfl)
theorem dX2_bar_4 : decode cX2_bar 4 = .ok (.getfield 7, 3) := dk_180 0 7 (dk_at dksX2_bar_0 4 rfl rfl)
theorem dX2_bar_7 : decode cX2_bar 7 = .ok (.iconst 1, 1) := dk_4 (dk_at dksX2_bar_0 7 rfl rfl)
theorem dX2_bar_8 : decode cX2_bar 8 = .ok (.iaload, 1) := dk_46 (dk_at dksX2_bar_0 8 rfl rfl)
theorem dX2_bar_9 : decode cX2_bar 9 = .ok (.if_icmp .ge 28, 3) := dk_162 0 28 (dk_at dksX2_bar_0 9 rfl rfl)
theorem dX2_bar_12 : decode cX2_bar 12 = .ok (.aload_n 0, 1) := dk_42 (dk_at dksX2_bar_0 12 rfl rfl)
theorem dX2_bar_13 : decode cX2_bar 13 = .ok (.getfield 58, 3) := dk_180 0 58 (dk_at dksX2_bar_0 13 rfl rfl)
theorem dX2_bar_16 : decode cX2_bar 16 = .ok (.sipush 999, 3) := dk_17 3 231 (dk_at dksX2_bar_0 16 rfl rfl)
theorem dX2_bar_19 : decode cX2_bar 19 = .ok (.iload_n 1, 1) := dk_27 (dk_at dksX2_bar_0 19 rfl rfl)
theorem dX2_bar_20 : decode cX2_bar 20 = .ok (.imul, 1) := dk_104 (dk_at dksX2_bar_0 20 rfl rfl)
theorem dX2_bar_21 : decode cX2_bar 21 = .ok (.iload_n 2, 1) := dk_28 (dk_at dksX2_bar_0 21 rfl rfl)
theorem dX2_bar_22 : decode cX2_bar 22 = .ok (.iadd, 1) := dk_96 (dk_at dksX2_bar_0 22 rfl rfl)
theorem dX2_bar_23 : decode cX2_bar 23 = .ok (.aload_n 0, 1) := dk_42 (dk_at dksX2_bar_0 23 rfl rfl)
theorem dX2_bar_24 : decode cX2_bar 24 = .ok (.iload_n 1, 1) := dk_27 (dk_at dksX2_bar_1 0 rfl rfl)
theorem dX2_bar_25 : decode cX2_bar 25 = .ok (.iload_n 2, 1) := dk_28 (dk_at dksX2_bar_1 1 rfl rfl)
theorem dX2_bar_26 : decode cX2_bar 26 = .ok (.i2l, 1) := dk_133 (dk_at dksX2_bar_1 2 rfl rfl)
theorem dX2_bar_27 : decode cX2_bar 27 = .ok (.invokevirtual 290, 3) := dk_182 1 34 (dk_at dksX2_bar_1 3 rfl rfl)
theorem dX2_bar_30 : decode cX2_bar 30 = .ok (.bastore, 1) := dk_84 (dk_at dksX2_bar_1 6 rfl rfl)
theorem dX2_bar_31 : decode cX2_bar 31 = .ok (.iinc 2 1, 3) := dk_132 2 1 (dk_at dksX2_bar_1 7 rfl rfl)
theorem dX2_bar_34 : decode cX2_bar 34 = .ok (.goto (-32), 3) := dk_167 255 224 (dk_at dksX2_bar_1 10 rfl rfl)
theorem dX2_bar_37 : decode cX2_bar 37 = .ok (.aload_n 0, 1) := dk_42 (dk_at dksX2_bar_1 13 rfl rfl)
theorem dX2_bar_38 : decode cX2_bar 38 = .ok (.getfield 39, 3) := dk_180 0 39 (dk_at dksX2_bar_1 14 rfl rfl)
theorem dX2_bar_41 : decode cX2_bar 41 = .ok (.iconst 1, 1) := dk_4 (dk_at dksX2_bar_1 17 rfl rfl)
theorem dX2_bar_42 : decode cX2_bar 42 = .ok (.aload_n 0, 1) := dk_42 (dk_at dksX2_bar_1 18 rfl rfl)
theorem dX2_bar_43 : decode cX2_bar 43 = .ok (.getfield 49, 3) := dk_180 0 49 (dk_at dksX2_bar_1 19 rfl rfl)
theorem dX2_bar_46 : decode cX2_bar 46 = .ok (.iload_n 1, 1) := dk_27 (dk_at dksX2_bar_1 22 rfl rfl)
theorem dX2_bar_47 : decode cX2_bar 47 = .ok (.iaload, 1) := dk_46 (dk_at dksX2_bar_1 23 rfl rfl)
theorem dX2_bar_48 : decode cX2_bar 48 = .ok (.iastore, 1) := dk_79 (dk_at dksX2_bar_2 0 rfl rfl)
theorem dX2_bar_49 : decode cX2_bar 49 = .ok (.aload_n 0, 1) := dk_42 (dk_at dksX2_bar_2 1 rfl rfl)
theorem dX2_bar_50 : decode cX2_bar 50 = .ok (.getfield 39, 3) := dk_180 0 39 (dk_at dksX2_bar_2 2 rfl rfl)
theorem dX2_bar_53 : decode cX2_bar 53 = .ok (.iconst 2, 1) := dk_5 (dk_at dksX2_bar_2 5 rfl rfl)
theorem dX2_bar_54 : decode cX2_bar 54 = .ok (.aload_n 0, 1) := dk_42 (dk_at dksX2_bar_2 6 rfl rfl)
theorem dX2_bar_55 : decode cX2_bar 55 = .ok (.getfield 52, 3) := dk_180 0 52 (dk_at dksX2_bar_2 7 rfl rfl)
theorem dX2_bar_58 : decode cX2_bar 58 = .ok (.iload_n 1, 1) := dk_27 (dk_at dksX2_bar_2 10 rfl rfl)
theorem dX2_bar_59 : decode cX2_bar 59 = .ok (.iaload, 1) := dk_46 (dk_at dksX2_bar_2 11 rfl rfl)
theorem dX2_bar_60 : decode cX2_bar 60 = .ok (.iastore, 1) := dk_79 (dk_at dksX2_bar_2 12 rfl rfl)
theorem dX2_bar_61 : decode cX2_bar 61 = .ok (.aload_n 0, 1) := dk_42 (dk_at dksX2_bar_2 13 rfl rfl)
theorem dX2_bar_62 : decode cX2_bar 62 = .ok (.getfield 39, 3) := dk_180 0 39 (dk_at dksX2_bar_2 14 rfl rfl)
theorem dX2_bar_65 : decode cX2_bar 65 = .ok (.iconst 3, 1) := dk_6 (dk_at dksX2_bar_2 17 rfl rfl)
theorem dX2_bar_66 : decode cX2_bar 66 = .ok (.iload_n 1, 1) := dk_27 (dk_at dksX2_bar_2 18 rfl rfl)
theorem dX2_bar_67 : decode cX2_bar 67 = .ok (.iastore, 1) := dk_79 (dk_at dksX2_bar_2 19 rfl rfl)
theorem dX2_bar_68 : decode cX2_bar 68 = .ok (.iconst 0, 1) := dk_3 (dk_at dksX2_bar_2 20 rfl rfl)
theorem dX2_bar_69 : decode cX2_bar 69 = .ok (.istore_n 2, 1) := dk_61 (dk_at dksX2_bar_2 21 rfl rfl)
theorem dX2_bar_70 : decode cX2_bar 70 = .ok (.iload_n 2, 1) := dk_28 (dk_at dksX2_bar_2 22 rfl rfl)
theorem dX2_bar_71 : decode cX2_bar 71 = .ok (.aload_n 0, 1) := dk_42 (dk_at dksX2_bar_2 23 rfl rfl)
theorem dX2_bar_72 : decode cX2_bar 72 = .ok (.getfield 7, 3) := dk_180 0 7 (dk_at dksX2_bar_3 0 rfl rfl)
theorem dX2_bar_75 : decode cX2_bar 75 = .ok (.iconst 2, 1) := dk_5 (dk_at dksX2_bar_3 3 rfl rfl)
theorem dX2_bar_76 : decode cX2_bar 76 = .ok (.iaload, 1) := dk_46 (dk_at dksX2_bar_3 4 rfl rfl)
theorem dX2_bar_77 : decode cX2_bar 77 = .ok (.if_icmp .ge 78, 3) := dk_162 0 78 (dk_at dksX2_bar_3 5 rfl rfl)
theorem dX2_bar_80 : decode cX2_bar 80 = .ok (.aload_n 0, 1) := dk_42 (dk_at dksX2_bar_3 8 rfl rfl)
theorem dX2_bar_81 : decode cX2_bar 81 = .ok (.getfield 39, 3) := dk_180 0 39 (dk_at dksX2_bar_3 9 rfl rfl)
theorem dX2_bar_84 : decode cX2_bar 84 = .ok (.iconst 0, 1) := dk_3 (dk_at dksX2_bar_3 12 rfl rfl)
theorem dX2_bar_85 : decode cX2_bar 85 = .ok (.iload_n 2, 1) := dk_28 (dk_at dksX2_bar_3 13 rfl rfl)
theorem dX2_bar_86 : decode cX2_bar 86 = .ok (.iastore, 1) := dk_79 (dk_at dksX2_bar_3 14 rfl rfl)
theorem dX2_bar_87 : decode cX2_bar 87 = .ok (.iconst 0, 1) := dk_3 (dk_at dksX2_bar_3 15 rfl rfl)
theorem dX2_bar_88 : decode cX2_bar 88 = .ok (.istore_n 3, 1) := dk_62 (dk_at dksX2_bar_3 16 rfl rfl)
theorem dX2_bar_89 : decode cX2_bar 89 = .ok (.iconst 0, 1) := dk_3 (dk_at dksX2_bar_3 17 rfl rfl)
theorem dX2_bar_90 : decode cX2_bar 90 = .ok (.istore 4, 2) := dk_54 4 (dk_at dksX2_bar_3 18 rfl rfl)
theorem dX2_bar_92 : decode cX2_bar 92 = .ok (.iload 4, 2) := dk_21 4 (dk_at dksX2_bar_3 20 rfl rfl)
theorem dX2_bar_94 : decode cX2_bar 94 = .ok (.aload_n 0, 1) := dk_42 (dk_at dksX2_bar_3 22 rfl rfl)
theorem dX2_bar_95 : decode cX2_bar 95 = .ok (.invokevirtual 294, 3) := dk_182 1 38 (dk_at dksX2_bar_4 0 rfl rfl)
theorem dX2_bar_98 : decode cX2_bar 98 = .ok (.if_icmp .ge 39, 3) := dk_162 0 39 (dk_at dksX2_bar_4 3 rfl rfl)
theorem dX2_bar_101 : decode cX2_bar 101 = .ok (.iload_n 3, 1) := dk_29 (dk_at dksX2_bar_4 6 rfl rfl)
theorem dX2_bar_102 : decode cX2_bar 102 = .ok (.ifCond .ne 35, 3) := dk_154 0 35 (dk_at dksX2_bar_4 7 rfl rfl)
theorem dX2_bar_105 : decode cX2_bar 105 = .ok (.aload_n 0, 1) := dk_42 (dk_at dksX2_bar_4 10 rfl rfl)
theorem dX2_bar_106 : decode cX2_bar 106 = .ok (.iload 4, 2) := dk_21 4 (dk_at dksX2_bar_4 11 rfl rfl)
theorem dX2_bar_108 : decode cX2_bar 108 = .ok (.invokevirtual 297, 3) := dk_182 1 41 (dk_at dksX2_bar_4 13 rfl rfl)
theorem dX2_bar_111 : decode cX2_bar 111 = .ok (.iconst 1, 1) := dk_4 (dk_at dksX2_bar_4 16 rfl rfl)
theorem dX2_bar_112 : decode cX2_bar 112 = .ok (.if_icmp .eq 6, 3) := dk_159 0 6 (dk_at dksX2_bar_4 17 rfl rfl)
theorem dX2_bar_115 : decode cX2_bar 115 = .ok (.goto 16, 3) := dk_167 0 16 (dk_at dksX2_bar_4 20 rfl rfl)
theorem dX2_bar_118 : decode cX2_bar 118 = .ok (.aload_n 0, 1) := dk_42 (dk_at dksX2_bar_4 23 rfl rfl)
theorem dX2_bar_119 : decode cX2_bar 119 = .ok (.iload 4, 2) := dk_21 4 (dk_at dksX2_bar_5 0 rfl rfl)
theorem dX2_bar_121 : decode cX2_bar 121 = .ok (.invokevirtual 300, 3) := dk_182 1 44 (dk_at dksX2_bar_5 2 rfl rfl)
theorem dX2_bar_124 : decode cX2_bar 124 = .ok (.aload_n 0, 1) := dk_42 (dk_at dksX2_bar_5 5 rfl rfl)
theorem dX2_bar_125 : decode cX2_bar 125 = .ok (.getfield 45, 3) := dk_180 0 45 (dk_at dksX2_bar_5 6 rfl rfl)
theorem dX2_bar_128 : decode cX2_bar 128 = .ok (.iconst 0, 1) := dk_3 (dk_at dksX2_bar_5 9 rfl rfl)
theorem dX2_bar_129 : decode cX2_bar 129 = .ok (.baload, 1) := dk_51 (dk_at dksX2_bar_5 10 rfl rfl)
theorem dX2_bar_130 : decode cX2_bar 130 = .ok (.istore_n 3, 1) := dk_62 (dk_at dksX2_bar_5 11 rfl rfl)
theorem dX2_bar_131 : decode cX2_bar 131 = .ok (.iinc 4 1, 3) := dk_132 4 1 (dk_at dksX2_bar_5 12 rfl rfl)
theorem dX2_bar_134 : decode cX2_bar 134 = .ok (.goto (-42), 3) := dk_167 255 214 (dk_at dksX2_bar_5 15 rfl rfl)
theorem dX2_bar_137 : decode cX2_bar 137 = .ok (.aload_n 0, 1) := dk_42 (dk_at dksX2_bar_5 18 rfl rfl)
theorem dX2_bar_138 : decode cX2_bar 138 = .ok (.getfield 55, 3) := dk_180 0 55 (dk_at dksX2_bar_5 19 rfl rfl)
theorem dX2_bar_141 : decode cX2_bar 141 = .ok (.bipush 60, 2) := dk_16 60 (dk_at dksX2_bar_5 22 rfl rfl)
theorem dX2_bar_143 : decode cX2_bar 143 = .ok (.iload_n 1, 1) := dk_27 (dk_at dksX2_bar_6 0 rfl rfl)
theorem dX2_bar_144 : decode cX2_bar 144 = .ok (.imul, 1) := dk_104 (dk_at dksX2_bar_6 1 rfl rfl)
theorem dX2_bar_145 : decode cX2_bar 145 = .ok (.iload_n 2, 1) := dk_28 (dk_at dksX2_bar_6 2 rfl rfl)
theorem dX2_bar_146 : decode cX2_bar 146 = .ok (.iadd, 1) := dk_96 (dk_at dksX2_bar_6 3 rfl rfl)
theorem dX2_bar_147 : decode cX2_bar 147 = .ok (.iload_n 3, 1) := dk_29 (dk_at dksX2_bar_6 4 rfl rfl)
theorem dX2_bar_148 : decode cX2_bar 148 = .ok (.bastore, 1) := dk_84 (dk_at dksX2_bar_6 5 rfl rfl)
theorem dX2_bar_149 : decode cX2_bar 149 = .ok (.iinc 2 1, 3) := dk_132 2 1 (dk_at dksX2_bar_6 6 rfl rfl)
theorem dX2_bar_152 : decode cX2_bar 152 = .ok (.goto (-82), 3) := dk_167 255 174 (dk_at dksX2_bar_6 9 rfl rfl)
theorem dX2_bar_155 : decode cX2_bar 155 = .ok (.return_, 1) := dk_177 (dk_at dksX2_bar_6 12 rfl rfl)
abbrev cX2_isDue : ByteArray := prog_17_method_58_code
def yX2_isDue : MethodName := ⟨RX2, "isDue", "(IJ)Z"⟩
def dkwX2_isDue_1 : List UInt8 := [180, 0, 49, 27, 46, 133, 113, 9, 148, 154, 0, 7, 4, 167, 0, 4, 3, 172]
abbrev dktX2_isDue_1 : List UInt8 := dkwX2_isDue_1 ++ []
def dkwX2_isDue_0 : List UInt8 := [32, 42, 180, 0, 52, 27, 46, 133, 148, 155, 0, 29, 32, 42, 180, 0, 52, 27, 46, 133, 101, 42]
abbrev dktX2_isDue_0 : List UInt8 := dkwX2_isDue_0 ++ dktX2_isDue_1
theorem dksX2_isDue_0 : cX2_isDue.data.toList.drop 0 = dktX2_isDue_0 := by decide +kernel
theorem dksX2_isDue_1 : cX2_isDue.data.toList.drop 22 = dktX2_isDue_1 := dk_seg dksX2_isDue_0 22 rfl rfl
theorem dX2_isDue_0 : decode cX2_isDue 0 = .ok (.lload_n 2, 1) := dk_32 (dk_at dksX2_isDue_0 0 rfl rfl)
theorem dX2_isDue_1 : decode cX2_isDue 1 = .ok (.aload_n 0, 1) := dk_42 (dk_at dksX2_isDue_0 1 rfl rfl)
theorem dX2_isDue_2 : decode cX2_isDue 2 = .ok (.getfield 52, 3) := dk_180 0 52 (dk_at dksX2_isDue_0 2 rfl rfl)
theorem dX2_isDue_5 : decode cX2_isDue 5 = .ok (.iload_n 1, 1) := dk_27 (dk_at dksX2_isDue_0 5 rfl rfl)
theorem dX2_isDue_6 : decode cX2_isDue 6 = .ok (.iaload, 1) := dk_46 (dk_at dksX2_isDue_0 6 rfl rfl)
theorem dX2_isDue_7 : decode cX2_isDue 7 = .ok (.i2l, 1) := dk_133 (dk_at dksX2_isDue_0 7 rfl rfl)
theorem dX2_isDue_8 : decode cX2_isDue 8 = .ok (.lcmp, 1) := dk_148 (dk_at dksX2_isDue_0 8 rfl rfl)
theorem dX2_isDue_9 : decode cX2_isDue 9 = .ok (.ifCond .lt 29, 3) := dk_155 0 29 (dk_at dksX2_isDue_0 9 rfl rfl)
theorem dX2_isDue_12 : decode cX2_isDue 12 = .ok (.lload_n 2, 1) := dk_32 (dk_at dksX2_isDue_0 12 rfl rfl)
theorem dX2_isDue_13 : decode cX2_isDue 13 = .ok (.aload_n 0, 1) := dk_42 (dk_at dksX2_isDue_0 13 rfl rfl)
theorem dX2_isDue_14 : decode cX2_isDue 14 = .ok (.getfield 52, 3) := dk_180 0 52 (dk_at dksX2_isDue_0 14 rfl rfl)
theorem dX2_isDue_17 : decode cX2_isDue 17 = .ok (.iload_n 1, 1) := dk_27 (dk_at dksX2_isDue_0 17 rfl rfl)
theorem dX2_isDue_18 : decode cX2_isDue 18 = .ok (.iaload, 1) := dk_46 (dk_at dksX2_isDue_0 18 rfl rfl)
theorem dX2_isDue_19 : decode cX2_isDue 19 = .ok (.i2l, 1) := dk_133 (dk_at dksX2_isDue_0 19 rfl rfl)
theorem dX2_isDue_20 : decode cX2_isDue 20 = .ok (.lsub, 1) := dk_101 (dk_at dksX2_isDue_0 20 rfl rfl)
theorem dX2_isDue_21 : decode cX2_isDue 21 = .ok (.aload_n 0, 1) := dk_42 (dk_at dksX2_isDue_0 21 rfl rfl)
theorem dX2_isDue_22 : decode cX2_isDue 22 = .ok (.getfield 49, 3) := dk_180 0 49 (dk_at dksX2_isDue_1 0 rfl rfl)
theorem dX2_isDue_25 : decode cX2_isDue 25 = .ok (.iload_n 1, 1) := dk_27 (dk_at dksX2_isDue_1 3 rfl rfl)
theorem dX2_isDue_26 : decode cX2_isDue 26 = .ok (.iaload, 1) := dk_46 (dk_at dksX2_isDue_1 4 rfl rfl)
theorem dX2_isDue_27 : decode cX2_isDue 27 = .ok (.i2l, 1) := dk_133 (dk_at dksX2_isDue_1 5 rfl rfl)
theorem dX2_isDue_28 : decode cX2_isDue 28 = .ok (.lrem, 1) := dk_113 (dk_at dksX2_isDue_1 6 rfl rfl)
theorem dX2_isDue_29 : decode cX2_isDue 29 = .ok (.lconst 0, 1) := dk_9 (dk_at dksX2_isDue_1 7 rfl rfl)
theorem dX2_isDue_30 : decode cX2_isDue 30 = .ok (.lcmp, 1) := dk_148 (dk_at dksX2_isDue_1 8 rfl rfl)
theorem dX2_isDue_31 : decode cX2_isDue 31 = .ok (.ifCond .ne 7, 3) := dk_154 0 7 (dk_at dksX2_isDue_1 9 rfl rfl)
theorem dX2_isDue_34 : decode cX2_isDue 34 = .ok (.iconst 1, 1) := dk_4 (dk_at dksX2_isDue_1 12 rfl rfl)
theorem dX2_isDue_35 : decode cX2_isDue 35 = .ok (.goto 4, 3) := dk_167 0 4 (dk_at dksX2_isDue_1 13 rfl rfl)
theorem dX2_isDue_38 : decode cX2_isDue 38 = .ok (.iconst 0, 1) := dk_3 (dk_at dksX2_isDue_1 16 rfl rfl)
theorem dX2_isDue_39 : decode cX2_isDue 39 = .ok (.ireturn, 1) := dk_172 (dk_at dksX2_isDue_1 17 rfl rfl)
abbrev cX2_clauses : ByteArray := prog_17_method_54_code
def yX2_clauses : MethodName := ⟨RX2, "clauses", "()I"⟩
def dkwX2_clauses_1 : List UInt8 := [7, 46, 104, 46, 172]
abbrev dktX2_clauses_1 : List UInt8 := dkwX2_clauses_1 ++ []
def dkwX2_clauses_0 : List UInt8 := [42, 180, 0, 7, 7, 46, 156, 0, 7, 3, 167, 0, 18, 42, 180, 0, 23, 17, 2, 188, 42, 180, 0, 7]
abbrev dktX2_clauses_0 : List UInt8 := dkwX2_clauses_0 ++ dktX2_clauses_1
theorem dksX2_clauses_0 : cX2_clauses.data.toList.drop 0 = dktX2_clauses_0 := by decide +kernel
theorem dksX2_clauses_1 : cX2_clauses.data.toList.drop 24 = dktX2_clauses_1 := dk_seg dksX2_clauses_0 24 rfl rfl
theorem dX2_clauses_0 : decode cX2_clauses 0 = .ok (.aload_n 0, 1) := dk_42 (dk_at dksX2_clauses_0 0 rfl rfl)
theorem dX2_clauses_1 : decode cX2_clauses 1 = .ok (.getfield 7, 3) := dk_180 0 7 (dk_at dksX2_clauses_0 1 rfl rfl)
theorem dX2_clauses_4 : decode cX2_clauses 4 = .ok (.iconst 4, 1) := dk_7 (dk_at dksX2_clauses_0 4 rfl rfl)
theorem dX2_clauses_5 : decode cX2_clauses 5 = .ok (.iaload, 1) := dk_46 (dk_at dksX2_clauses_0 5 rfl rfl)
theorem dX2_clauses_6 : decode cX2_clauses 6 = .ok (.ifCond .ge 7, 3) := dk_156 0 7 (dk_at dksX2_clauses_0 6 rfl rfl)
theorem dX2_clauses_9 : decode cX2_clauses 9 = .ok (.iconst 0, 1) := dk_3 (dk_at dksX2_clauses_0 9 rfl rfl)
theorem dX2_clauses_10 : decode cX2_clauses 10 = .ok (.goto 18, 3) := dk_167 0 18 (dk_at dksX2_clauses_0 10 rfl rfl)
theorem dX2_clauses_13 : decode cX2_clauses 13 = .ok (.aload_n 0, 1) := dk_42 (dk_at dksX2_clauses_0 13 rfl rfl)
theorem dX2_clauses_14 : decode cX2_clauses 14 = .ok (.getfield 23, 3) := dk_180 0 23 (dk_at dksX2_clauses_0 14 rfl rfl)
theorem dX2_clauses_17 : decode cX2_clauses 17 = .ok (.sipush 700, 3) := dk_17 2 188 (dk_at dksX2_clauses_0 17 rfl rfl)
theorem dX2_clauses_20 : decode cX2_clauses 20 = .ok (.aload_n 0, 1) := dk_42 (dk_at dksX2_clauses_0 20 rfl rfl)
theorem dX2_clauses_21 : decode cX2_clauses 21 = .ok (.getfield 7, 3) := dk_180 0 7 (dk_at dksX2_clauses_0 21 rfl rfl)
theorem dX2_clauses_24 : decode cX2_clauses 24 = .ok (.iconst 4, 1) := dk_7 (dk_at dksX2_clauses_1 0 rfl rfl)
theorem dX2_clauses_25 : decode cX2_clauses 25 = .ok (.iaload, 1) := dk_46 (dk_at dksX2_clauses_1 1 rfl rfl)
theorem dX2_clauses_26 : decode cX2_clauses 26 = .ok (.imul, 1) := dk_104 (dk_at dksX2_clauses_1 2 rfl rfl)
theorem dX2_clauses_27 : decode cX2_clauses 27 = .ok (.iaload, 1) := dk_46 (dk_at dksX2_clauses_1 3 rfl rfl)
theorem dX2_clauses_28 : decode cX2_clauses 28 = .ok (.ireturn, 1) := dk_172 (dk_at dksX2_clauses_1 4 rfl rfl)
abbrev cX2_sortAt : ByteArray := prog_17_method_55_code
def yX2_sortAt : MethodName := ⟨RX2, "sortAt", "(I)I"⟩
def dkwX2_sortAt_0 : List UInt8 := [42, 180, 0, 23, 17, 2, 188, 42, 180, 0, 7, 7, 46, 104, 4, 96, 6, 27, 104, 96, 46, 172]
abbrev dktX2_sortAt_0 : List UInt8 := dkwX2_sortAt_0 ++ []
theorem dksX2_sortAt_0 : cX2_sortAt.data.toList.drop 0 = dktX2_sortAt_0 := by decide +kernel
theorem dX2_sortAt_0 : decode cX2_sortAt 0 = .ok (.aload_n 0, 1) := dk_42 (dk_at dksX2_sortAt_0 0 rfl rfl)
theorem dX2_sortAt_1 : decode cX2_sortAt 1 = .ok (.getfield 23, 3) := dk_180 0 23 (dk_at dksX2_sortAt_0 1 rfl rfl)
theorem dX2_sortAt_4 : decode cX2_sortAt 4 = .ok (.sipush 700, 3) := dk_17 2 188 (dk_at dksX2_sortAt_0 4 rfl rfl)
theorem dX2_sortAt_7 : decode cX2_sortAt 7 = .ok (.aload_n 0, 1) := dk_42 (dk_at dksX2_sortAt_0 7 rfl rfl)
theorem dX2_sortAt_8 : decode cX2_sortAt 8 = .ok (.getfield 7, 3) := dk_180 0 7 (dk_at dksX2_sortAt_0 8 rfl rfl)
theorem dX2_sortAt_11 : decode cX2_sortAt 11 = .ok (.iconst 4, 1) := dk_7 (dk_at dksX2_sortAt_0 11 rfl rfl)
theorem dX2_sortAt_12 : decode cX2_sortAt 12 = .ok (.iaload, 1) := dk_46 (dk_at dksX2_sortAt_0 12 rfl rfl)
theorem dX2_sortAt_13 : decode cX2_sortAt 13 = .ok (.imul, 1) := dk_104 (dk_at dksX2_sortAt_0 13 rfl rfl)
theorem dX2_sortAt_14 : decode cX2_sortAt 14 = .ok (.iconst 1, 1) := dk_4 (dk_at dksX2_sortAt_0 14 rfl rfl)
theorem dX2_sortAt_15 : decode cX2_sortAt 15 = .ok (.iadd, 1) := dk_96 (dk_at dksX2_sortAt_0 15 rfl rfl)
theorem dX2_sortAt_16 : decode cX2_sortAt 16 = .ok (.iconst 3, 1) := dk_6 (dk_at dksX2_sortAt_0 16 rfl rfl)
theorem dX2_sortAt_17 : decode cX2_sortAt 17 = .ok (.iload_n 1, 1) := dk_27 (dk_at dksX2_sortAt_0 17 rfl rfl)
theorem dX2_sortAt_18 : decode cX2_sortAt 18 = .ok (.imul, 1) := dk_104 (dk_at dksX2_sortAt_0 18 rfl rfl)
theorem dX2_sortAt_19 : decode cX2_sortAt 19 = .ok (.iadd, 1) := dk_96 (dk_at dksX2_sortAt_0 19 rfl rfl)
theorem dX2_sortAt_20 : decode cX2_sortAt 20 = .ok (.iaload, 1) := dk_46 (dk_at dksX2_sortAt_0 20 rfl rfl)
theorem dX2_sortAt_21 : decode cX2_sortAt 21 = .ok (.ireturn, 1) := dk_172 (dk_at dksX2_sortAt_0 21 rfl rfl)
abbrev cX2_work : ByteArray := prog_17_method_53_code
def yX2_work : MethodName := ⟨RX2, "work", "(I)V"⟩
def dkwX2_work_15 : List UInt8 := [167, 0, 4, 3, 84, 132, 6, 1, 167, 254, 203, 177]
abbrev dktX2_work_15 : List UInt8 := dkwX2_work_15 ++ []
def dkwX2_work_14 : List UInt8 := [180, 0, 45, 21, 5, 4, 100, 51, 154, 0, 13, 42, 180, 0, 45, 21, 5, 51, 153, 0, 7, 4]
abbrev dktX2_work_14 : List UInt8 := dkwX2_work_14 ++ dktX2_work_15
def dkwX2_work_13 : List UInt8 := [153, 0, 17, 42, 180, 0, 45, 21, 5, 51, 153, 0, 7, 4, 167, 0, 34, 3, 167, 0, 30, 42]
abbrev dktX2_work_13 : List UInt8 := dkwX2_work_13 ++ dktX2_work_14
def dkwX2_work_12 : List UInt8 := [180, 0, 45, 21, 5, 4, 100, 21, 7, 16, 21, 160, 0, 33, 42, 180, 0, 45, 21, 5, 4, 100, 51]
abbrev dktX2_work_12 : List UInt8 := dkwX2_work_12 ++ dktX2_work_13
def dkwX2_work_11 : List UInt8 := [180, 0, 45, 21, 5, 4, 100, 51, 154, 0, 7, 4, 167, 0, 4, 3, 84, 167, 0, 79, 132, 5, 255, 42]
abbrev dktX2_work_11 : List UInt8 := dkwX2_work_11 ++ dktX2_work_12
def dkwX2_work_10 : List UInt8 := [132, 5, 1, 167, 0, 115, 21, 7, 16, 20, 160, 0, 32, 42, 180, 0, 45, 21, 5, 4, 100, 42]
abbrev dktX2_work_10 : List UInt8 := dkwX2_work_10 ++ dktX2_work_11
def dkwX2_work_9 : List UInt8 := [21, 7, 42, 180, 0, 42, 21, 4, 47, 42, 180, 0, 42, 21, 4, 4, 96, 47, 184, 1, 27, 84]
abbrev dktX2_work_9 : List UInt8 := dkwX2_work_9 ++ dktX2_work_10
def dkwX2_work_8 : List UInt8 := [47, 184, 1, 23, 80, 167, 0, 159, 21, 7, 16, 20, 162, 0, 40, 132, 4, 254, 42, 180, 0, 45, 21, 5]
abbrev dktX2_work_8 : List UInt8 := dkwX2_work_8 ++ dktX2_work_9
def dkwX2_work_7 : List UInt8 := [180, 0, 42, 21, 4, 4, 100, 21, 7, 42, 180, 0, 42, 21, 4, 4, 100, 47, 42, 180, 0, 42, 21, 4]
abbrev dktX2_work_7 : List UInt8 := dkwX2_work_7 ++ dktX2_work_8
def dkwX2_work_6 : List UInt8 := [180, 0, 42, 21, 4, 4, 100, 47, 117, 80, 167, 0, 202, 21, 7, 16, 10, 162, 0, 39, 132, 4, 255, 42]
abbrev dktX2_work_6 : List UInt8 := dkwX2_work_6 ++ dktX2_work_7
def dkwX2_work_5 : List UInt8 := [80, 132, 4, 1, 167, 0, 230, 21, 7, 5, 160, 0, 25, 42, 180, 0, 42, 21, 4, 4, 100, 42]
abbrev dktX2_work_5 : List UInt8 := dkwX2_work_5 ++ dktX2_work_6
def dkwX2_work_4 : List UInt8 := [180, 0, 42, 21, 4, 21, 7, 154, 0, 9, 21, 8, 133, 167, 0, 11, 42, 180, 0, 39, 21, 8, 46, 133]
abbrev dktX2_work_4 : List UInt8 := dkwX2_work_4 ++ dktX2_work_5
def dkwX2_work_3 : List UInt8 := [54, 7, 42, 180, 0, 23, 29, 5, 21, 6, 104, 96, 4, 96, 46, 54, 8, 21, 7, 4, 163, 0, 35, 42]
abbrev dktX2_work_3 : List UInt8 := dkwX2_work_3 ++ dktX2_work_4
def dkwX2_work_2 : List UInt8 := [21, 6, 42, 180, 0, 23, 28, 5, 96, 46, 162, 1, 46, 42, 180, 0, 23, 29, 5, 21, 6, 104, 96, 46]
abbrev dktX2_work_2 : List UInt8 := dkwX2_work_2 ++ dktX2_work_3
def dkwX2_work_1 : List UInt8 := [7, 46, 104, 16, 80, 96, 62, 3, 54, 4, 3, 54, 5, 42, 180, 0, 23, 28, 4, 96, 46, 54, 6]
abbrev dktX2_work_1 : List UInt8 := dkwX2_work_1 ++ dktX2_work_2
def dkwX2_work_0 : List UInt8 := [17, 2, 188, 42, 180, 0, 7, 7, 46, 104, 4, 96, 6, 27, 104, 96, 61, 17, 2, 188, 42, 180, 0, 7]
abbrev dktX2_work_0 : List UInt8 := dkwX2_work_0 ++ dktX2_work_1
theorem dksX2_work_0 : cX2_work.data.toList.drop 0 = dktX2_work_0 := by decide +kernel
theorem dksX2_work_1 : cX2_work.data.toList.drop 24 = dktX2_work_1 := dk_seg dksX2_work_0 24 rfl rfl
theorem dksX2_work_2 : cX2_work.data.toList.drop 47 = dktX2_work_2 := dk_seg dksX2_work_1 23 rfl rfl
theorem dksX2_work_3 : cX2_work.data.toList.drop 71 = dktX2_work_3 := dk_seg dksX2_work_2 24 rfl rfl
theorem dksX2_work_4 : cX2_work.data.toList.drop 95 = dktX2_work_4 := dk_seg dksX2_work_3 24 rfl rfl
theorem dksX2_work_5 : cX2_work.data.toList.drop 119 = dktX2_work_5 := dk_seg dksX2_work_4 24 rfl rfl
theorem dksX2_work_6 : cX2_work.data.toList.drop 141 = dktX2_work_6 := dk_seg dksX2_work_5 22 rfl rfl
theorem dksX2_work_7 : cX2_work.data.toList.drop 165 = dktX2_work_7 := dk_seg dksX2_work_6 24 rfl rfl
theorem dksX2_work_8 : cX2_work.data.toList.drop 189 = dktX2_work_8 := dk_seg dksX2_work_7 24 rfl rfl
theorem dksX2_work_9 : cX2_work.data.toList.drop 213 = dktX2_work_9 := dk_seg dksX2_work_8 24 rfl rfl
theorem dksX2_work_10 : cX2_work.data.toList.drop 235 = dktX2_work_10 := dk_seg dksX2_work_9 22 rfl rfl
theorem dksX2_work_11 : cX2_work.data.toList.drop 257 = dktX2_work_11 := dk_seg dksX2_work_10 22 rfl rfl
theorem dksX2_work_12 : cX2_work.data.toList.drop 281 = dktX2_work_12 := dk_seg dksX2_work_11 24 rfl rfl
theorem dksX2_work_13 : cX2_work.data.toList.drop 304 = dktX2_work_13 := dk_seg dksX2_work_12 23 rfl rfl
theorem dksX2_work_14 : cX2_work.data.toList.drop 326 = dktX2_work_14 := dk_seg dksX2_work_13 22 rfl rfl
theorem dksX2_work_15 : cX2_work.data.toList.drop 348 = dktX2_work_15 := dk_seg dksX2_work_14 22 rfl rfl
theorem dX2_work_0 : decode cX2_work 0 = .ok (.sipush 700, 3) := dk_17 2 188 (dk_at dksX2_work_0 0 rfl rfl)
theorem dX2_work_3 : decode cX2_work 3 = .ok (.aload_n 0, 1) := dk_42 (dk_at dksX2_work_0 3 rfl rfl)
theorem dX2_work_4 : decode cX2_work 4 = .ok (.getfield 7, 3) := dk_180 0 7 (dk_at dksX2_work_0 4 rfl rfl)
theorem dX2_work_7 : decode cX2_work 7 = .ok (.iconst 4, 1) := dk_7 (dk_at dksX2_work_0 7 rfl rfl)
theorem dX2_work_8 : decode cX2_work 8 = .ok (.iaload, 1) := dk_46 (dk_at dksX2_work_0 8 rfl rfl)
theorem dX2_work_9 : decode cX2_work 9 = .ok (.imul, 1) := dk_104 (dk_at dksX2_work_0 9 rfl rfl)
theorem dX2_work_10 : decode cX2_work 10 = .ok (.iconst 1, 1) := dk_4 (dk_at dksX2_work_0 10 rfl rfl)
theorem dX2_work_11 : decode cX2_work 11 = .ok (.iadd, 1) := dk_96 (dk_at dksX2_work_0 11 rfl rfl)
theorem dX2_work_12 : decode cX2_work 12 = .ok (.iconst 3, 1) := dk_6 (dk_at dksX2_work_0 12 rfl rfl)
theorem dX2_work_13 : decode cX2_work 13 = .ok (.iload_n 1, 1) := dk_27 (dk_at dksX2_work_0 13 rfl rfl)
theorem dX2_work_14 : decode cX2_work 14 = .ok (.imul, 1) := dk_104 (dk_at dksX2_work_0 14 rfl rfl)
theorem dX2_work_15 : decode cX2_work 15 = .ok (.iadd, 1) := dk_96 (dk_at dksX2_work_0 15 rfl rfl)
theorem dX2_work_16 : decode cX2_work 16 = .ok (.istore_n 2, 1) := dk_61 (dk_at dksX2_work_0 16 rfl rfl)
theorem dX2_work_17 : decode cX2_work 17 = .ok (.sipush 700, 3) := dk_17 2 188 (dk_at dksX2_work_0 17 rfl rfl)
theorem dX2_work_20 : decode cX2_work 20 = .ok (.aload_n 0, 1) := dk_42 (dk_at dksX2_work_0 20 rfl rfl)
theorem dX2_work_21 : decode cX2_work 21 = .ok (.getfield 7, 3) := dk_180 0 7 (dk_at dksX2_work_0 21 rfl rfl)
theorem dX2_work_24 : decode cX2_work 24 = .ok (.iconst 4, 1) := dk_7 (dk_at dksX2_work_1 0 rfl rfl)
theorem dX2_work_25 : decode cX2_work 25 = .ok (.iaload, 1) := dk_46 (dk_at dksX2_work_1 1 rfl rfl)
theorem dX2_work_26 : decode cX2_work 26 = .ok (.imul, 1) := dk_104 (dk_at dksX2_work_1 2 rfl rfl)
theorem dX2_work_27 : decode cX2_work 27 = .ok (.bipush 80, 2) := dk_16 80 (dk_at dksX2_work_1 3 rfl rfl)
theorem dX2_work_29 : decode cX2_work 29 = .ok (.iadd, 1) := dk_96 (dk_at dksX2_work_1 5 rfl rfl)
theorem dX2_work_30 : decode cX2_work 30 = .ok (.istore_n 3, 1) := dk_62 (dk_at dksX2_work_1 6 rfl rfl)
theorem dX2_work_31 : decode cX2_work 31 = .ok (.iconst 0, 1) := dk_3 (dk_at dksX2_work_1 7 rfl rfl)
theorem dX2_work_32 : decode cX2_work 32 = .ok (.istore 4, 2) := dk_54 4 (dk_at dksX2_work_1 8 rfl rfl)
theorem dX2_work_34 : decode cX2_work 34 = .ok (.iconst 0, 1) := dk_3 (dk_at dksX2_work_1 10 rfl rfl)
theorem dX2_work_35 : decode cX2_work 35 = .ok (.istore 5, 2) := dk_54 5 (dk_at dksX2_work_1 11 rfl rfl)
theorem dX2_work_37 : decode cX2_work 37 = .ok (.aload_n 0, 1) := dk_42 (dk_at dksX2_work_1 13 rfl rfl)
theorem dX2_work_38 : decode cX2_work 38 = .ok (.getfield 23, 3) := dk_180 0 23 (dk_at dksX2_work_1 14 rfl rfl)
theorem dX2_work_41 : decode cX2_work 41 = .ok (.iload_n 2, 1) := dk_28 (dk_at dksX2_work_1 17 rfl rfl)
theorem dX2_work_42 : decode cX2_work 42 = .ok (.iconst 1, 1) := dk_4 (dk_at dksX2_work_1 18 rfl rfl)
theorem dX2_work_43 : decode cX2_work 43 = .ok (.iadd, 1) := dk_96 (dk_at dksX2_work_1 19 rfl rfl)
theorem dX2_work_44 : decode cX2_work 44 = .ok (.iaload, 1) := dk_46 (dk_at dksX2_work_1 20 rfl rfl)
theorem dX2_work_45 : decode cX2_work 45 = .ok (.istore 6, 2) := dk_54 6 (dk_at dksX2_work_1 21 rfl rfl)
theorem dX2_work_47 : decode cX2_work 47 = .ok (.iload 6, 2) := dk_21 6 (dk_at dksX2_work_2 0 rfl rfl)
theorem dX2_work_49 : decode cX2_work 49 = .ok (.aload_n 0, 1) := dk_42 (dk_at dksX2_work_2 2 rfl rfl)
theorem dX2_work_50 : decode cX2_work 50 = .ok (.getfield 23, 3) := dk_180 0 23 (dk_at dksX2_work_2 3 rfl rfl)
theorem dX2_work_53 : decode cX2_work 53 = .ok (.iload_n 2, 1) := dk_28 (dk_at dksX2_work_2 6 rfl rfl)
theorem dX2_work_54 : decode cX2_work 54 = .ok (.iconst 2, 1) := dk_5 (dk_at dksX2_work_2 7 rfl rfl)
theorem dX2_work_55 : decode cX2_work 55 = .ok (.iadd, 1) := dk_96 (dk_at dksX2_work_2 8 rfl rfl)
theorem dX2_work_56 : decode cX2_work 56 = .ok (.iaload, 1) := dk_46 (dk_at dksX2_work_2 9 rfl rfl)
theorem dX2_work_57 : decode cX2_work 57 = .ok (.if_icmp .ge 302, 3) := dk_162 1 46 (dk_at dksX2_work_2 10 rfl rfl)
theorem dX2_work_60 : decode cX2_work 60 = .ok (.aload_n 0, 1) := dk_42 (dk_at dksX2_work_2 13 rfl rfl)
theorem dX2_work_61 : decode cX2_work 61 = .ok (.getfield 23, 3) := dk_180 0 23 (dk_at dksX2_work_2 14 rfl rfl)
theorem dX2_work_64 : decode cX2_work 64 = .ok (.iload_n 3, 1) := dk_29 (dk_at dksX2_work_2 17 rfl rfl)
theorem dX2_work_65 : decode cX2_work 65 = .ok (.iconst 2, 1) := dk_5 (dk_at dksX2_work_2 18 rfl rfl)
theorem dX2_work_66 : decode cX2_work 66 = .ok (.iload 6, 2) := dk_21 6 (dk_at dksX2_work_2 19 rfl rfl)
theorem dX2_work_68 : decode cX2_work 68 = .ok (.imul, 1) := dk_104 (dk_at dksX2_work_2 21 rfl rfl)
theorem dX2_work_69 : decode cX2_work 69 = .ok (.iadd, 1) := dk_96 (dk_at dksX2_work_2 22 rfl rfl)
theorem dX2_work_70 : decode cX2_work 70 = .ok (.iaload, 1) := dk_46 (dk_at dksX2_work_2 23 rfl rfl)
theorem dX2_work_71 : decode cX2_work 71 = .ok (.istore 7, 2) := dk_54 7 (dk_at dksX2_work_3 0 rfl rfl)
theorem dX2_work_73 : decode cX2_work 73 = .ok (.aload_n 0, 1) := dk_42 (dk_at dksX2_work_3 2 rfl rfl)
theorem dX2_work_74 : decode cX2_work 74 = .ok (.getfield 23, 3) := dk_180 0 23 (dk_at dksX2_work_3 3 rfl rfl)
theorem dX2_work_77 : decode cX2_work 77 = .ok (.iload_n 3, 1) := dk_29 (dk_at dksX2_work_3 6 rfl rfl)
theorem dX2_work_78 : decode cX2_work 78 = .ok (.iconst 2, 1) := dk_5 (dk_at dksX2_work_3 7 rfl rfl)
theorem dX2_work_79 : decode cX2_work 79 = .ok (.iload 6, 2) := dk_21 6 (dk_at dksX2_work_3 8 rfl rfl)
theorem dX2_work_81 : decode cX2_work 81 = .ok (.imul, 1) := dk_104 (dk_at dksX2_work_3 10 rfl rfl)
theorem dX2_work_82 : decode cX2_work 82 = .ok (.iadd, 1) := dk_96 (dk_at dksX2_work_3 11 rfl rfl)
theorem dX2_work_83 : decode cX2_work 83 = .ok (.iconst 1, 1) := dk_4 (dk_at dksX2_work_3 12 rfl rfl)
theorem dX2_work_84 : decode cX2_work 84 = .ok (.iadd, 1) := dk_96 (dk_at dksX2_work_3 13 rfl rfl)
theorem dX2_work_85 : decode cX2_work 85 = .ok (.iaload, 1) := dk_46 (dk_at dksX2_work_3 14 rfl rfl)
theorem dX2_work_86 : decode cX2_work 86 = .ok (.istore 8, 2) := dk_54 8 (dk_at dksX2_work_3 15 rfl rfl)
theorem dX2_work_88 : decode cX2_work 88 = .ok (.iload 7, 2) := dk_21 7 (dk_at dksX2_work_3 17 rfl rfl)
theorem dX2_work_90 : decode cX2_work 90 = .ok (.iconst 1, 1) := dk_4 (dk_at dksX2_work_3 19 rfl rfl)
theorem dX2_work_91 : decode cX2_work 91 = .ok (.if_icmp .gt 35, 3) := dk_163 0 35 (dk_at dksX2_work_3 20 rfl rfl)
theorem dX2_work_94 : decode cX2_work 94 = .ok (.aload_n 0, 1) := dk_42 (dk_at dksX2_work_3 23 rfl rfl)
theorem dX2_work_95 : decode cX2_work 95 = .ok (.getfield 42, 3) := dk_180 0 42 (dk_at dksX2_work_4 0 rfl rfl)
theorem dX2_work_98 : decode cX2_work 98 = .ok (.iload 4, 2) := dk_21 4 (dk_at dksX2_work_4 3 rfl rfl)
theorem dX2_work_100 : decode cX2_work 100 = .ok (.iload 7, 2) := dk_21 7 (dk_at dksX2_work_4 5 rfl rfl)
theorem dX2_work_102 : decode cX2_work 102 = .ok (.ifCond .ne 9, 3) := dk_154 0 9 (dk_at dksX2_work_4 7 rfl rfl)
theorem dX2_work_105 : decode cX2_work 105 = .ok (.iload 8, 2) := dk_21 8 (dk_at dksX2_work_4 10 rfl rfl)
theorem dX2_work_107 : decode cX2_work 107 = .ok (.i2l, 1) := dk_133 (dk_at dksX2_work_4 12 rfl rfl)
theorem dX2_work_108 : decode cX2_work 108 = .ok (.goto 11, 3) := dk_167 0 11 (dk_at dksX2_work_4 13 rfl rfl)
theorem dX2_work_111 : decode cX2_work 111 = .ok (.aload_n 0, 1) := dk_42 (dk_at dksX2_work_4 16 rfl rfl)
theorem dX2_work_112 : decode cX2_work 112 = .ok (.getfield 39, 3) := dk_180 0 39 (dk_at dksX2_work_4 17 rfl rfl)
theorem dX2_work_115 : decode cX2_work 115 = .ok (.iload 8, 2) := dk_21 8 (dk_at dksX2_work_4 20 rfl rfl)
theorem dX2_work_117 : decode cX2_work 117 = .ok (.iaload, 1) := dk_46 (dk_at dksX2_work_4 22 rfl rfl)
theorem dX2_work_118 : decode cX2_work 118 = .ok (.i2l, 1) := dk_133 (dk_at dksX2_work_4 23 rfl rfl)
theorem dX2_work_119 : decode cX2_work 119 = .ok (.lastore, 1) := dk_80 (dk_at dksX2_work_5 0 rfl rfl)
theorem dX2_work_120 : decode cX2_work 120 = .ok (.iinc 4 1, 3) := dk_132 4 1 (dk_at dksX2_work_5 1 rfl rfl)
theorem dX2_work_123 : decode cX2_work 123 = .ok (.goto 230, 3) := dk_167 0 230 (dk_at dksX2_work_5 4 rfl rfl)
theorem dX2_work_126 : decode cX2_work 126 = .ok (.iload 7, 2) := dk_21 7 (dk_at dksX2_work_5 7 rfl rfl)
theorem dX2_work_128 : decode cX2_work 128 = .ok (.iconst 2, 1) := dk_5 (dk_at dksX2_work_5 9 rfl rfl)
theorem dX2_work_129 : decode cX2_work 129 = .ok (.if_icmp .ne 25, 3) := dk_160 0 25 (dk_at dksX2_work_5 10 rfl rfl)
theorem dX2_work_132 : decode cX2_work 132 = .ok (.aload_n 0, 1) := dk_42 (dk_at dksX2_work_5 13 rfl rfl)
theorem dX2_work_133 : decode cX2_work 133 = .ok (.getfield 42, 3) := dk_180 0 42 (dk_at dksX2_work_5 14 rfl rfl)
theorem dX2_work_136 : decode cX2_work 136 = .ok (.iload 4, 2) := dk_21 4 (dk_at dksX2_work_5 17 rfl rfl)
theorem dX2_work_138 : decode cX2_work 138 = .ok (.iconst 1, 1) := dk_4 (dk_at dksX2_work_5 19 rfl rfl)
theorem dX2_work_139 : decode cX2_work 139 = .ok (.isub, 1) := dk_100 (dk_at dksX2_work_5 20 rfl rfl)
theorem dX2_work_140 : decode cX2_work 140 = .ok (.aload_n 0, 1) := dk_42 (dk_at dksX2_work_5 21 rfl rfl)
theorem dX2_work_141 : decode cX2_work 141 = .ok (.getfield 42, 3) := dk_180 0 42 (dk_at dksX2_work_6 0 rfl rfl)
theorem dX2_work_144 : decode cX2_work 144 = .ok (.iload 4, 2) := dk_21 4 (dk_at dksX2_work_6 3 rfl rfl)
theorem dX2_work_146 : decode cX2_work 146 = .ok (.iconst 1, 1) := dk_4 (dk_at dksX2_work_6 5 rfl rfl)
theorem dX2_work_147 : decode cX2_work 147 = .ok (.isub, 1) := dk_100 (dk_at dksX2_work_6 6 rfl rfl)
theorem dX2_work_148 : decode cX2_work 148 = .ok (.laload, 1) := dk_47 (dk_at dksX2_work_6 7 rfl rfl)
theorem dX2_work_149 : decode cX2_work 149 = .ok (.lneg, 1) := dk_117 (dk_at dksX2_work_6 8 rfl rfl)
theorem dX2_work_150 : decode cX2_work 150 = .ok (.lastore, 1) := dk_80 (dk_at dksX2_work_6 9 rfl rfl)
theorem dX2_work_151 : decode cX2_work 151 = .ok (.goto 202, 3) := dk_167 0 202 (dk_at dksX2_work_6 10 rfl rfl)
theorem dX2_work_154 : decode cX2_work 154 = .ok (.iload 7, 2) := dk_21 7 (dk_at dksX2_work_6 13 rfl rfl)
theorem dX2_work_156 : decode cX2_work 156 = .ok (.bipush 10, 2) := dk_16 10 (dk_at dksX2_work_6 15 rfl rfl)
theorem dX2_work_158 : decode cX2_work 158 = .ok (.if_icmp .ge 39, 3) := dk_162 0 39 (dk_at dksX2_work_6 17 rfl rfl)
theorem dX2_work_161 : decode cX2_work 161 = .ok (.iinc 4 (-1), 3) := dk_132 4 255 (dk_at dksX2_work_6 20 rfl rfl)
theorem dX2_work_164 : decode cX2_work 164 = .ok (.aload_n 0, 1) := dk_42 (dk_at dksX2_work_6 23 rfl rfl)
theorem dX2_work_165 : decode cX2_work 165 = .ok (.getfield 42, 3) := dk_180 0 42 (dk_at dksX2_work_7 0 rfl rfl)
theorem dX2_work_168 : decode cX2_work 168 = .ok (.iload 4, 2) := dk_21 4 (dk_at dksX2_work_7 3 rfl rfl)
theorem dX2_work_170 : decode cX2_work 170 = .ok (.iconst 1, 1) := dk_4 (dk_at dksX2_work_7 5 rfl rfl)
theorem dX2_work_171 : decode cX2_work 171 = .ok (.isub, 1) := dk_100 (dk_at dksX2_work_7 6 rfl rfl)
theorem dX2_work_172 : decode cX2_work 172 = .ok (.iload 7, 2) := dk_21 7 (dk_at dksX2_work_7 7 rfl rfl)
theorem dX2_work_174 : decode cX2_work 174 = .ok (.aload_n 0, 1) := dk_42 (dk_at dksX2_work_7 9 rfl rfl)
theorem dX2_work_175 : decode cX2_work 175 = .ok (.getfield 42, 3) := dk_180 0 42 (dk_at dksX2_work_7 10 rfl rfl)
theorem dX2_work_178 : decode cX2_work 178 = .ok (.iload 4, 2) := dk_21 4 (dk_at dksX2_work_7 13 rfl rfl)
theorem dX2_work_180 : decode cX2_work 180 = .ok (.iconst 1, 1) := dk_4 (dk_at dksX2_work_7 15 rfl rfl)
theorem dX2_work_181 : decode cX2_work 181 = .ok (.isub, 1) := dk_100 (dk_at dksX2_work_7 16 rfl rfl)
theorem dX2_work_182 : decode cX2_work 182 = .ok (.laload, 1) := dk_47 (dk_at dksX2_work_7 17 rfl rfl)
theorem dX2_work_183 : decode cX2_work 183 = .ok (.aload_n 0, 1) := dk_42 (dk_at dksX2_work_7 18 rfl rfl)
theorem dX2_work_184 : decode cX2_work 184 = .ok (.getfield 42, 3) := dk_180 0 42 (dk_at dksX2_work_7 19 rfl rfl)
theorem dX2_work_187 : decode cX2_work 187 = .ok (.iload 4, 2) := dk_21 4 (dk_at dksX2_work_7 22 rfl rfl)
theorem dX2_work_189 : decode cX2_work 189 = .ok (.laload, 1) := dk_47 (dk_at dksX2_work_8 0 rfl rfl)
theorem dX2_work_190 : decode cX2_work 190 = .ok (.invokestatic 279, 3) := dk_184 1 23 (dk_at dksX2_work_8 1 rfl rfl)
theorem dX2_work_193 : decode cX2_work 193 = .ok (.lastore, 1) := dk_80 (dk_at dksX2_work_8 4 rfl rfl)
theorem dX2_work_194 : decode cX2_work 194 = .ok (.goto 159, 3) := dk_167 0 159 (dk_at dksX2_work_8 5 rfl rfl)
theorem dX2_work_197 : decode cX2_work 197 = .ok (.iload 7, 2) := dk_21 7 (dk_at dksX2_work_8 8 rfl rfl)
theorem dX2_work_199 : decode cX2_work 199 = .ok (.bipush 20, 2) := dk_16 20 (dk_at dksX2_work_8 10 rfl rfl)
theorem dX2_work_201 : decode cX2_work 201 = .ok (.if_icmp .ge 40, 3) := dk_162 0 40 (dk_at dksX2_work_8 12 rfl rfl)
theorem dX2_work_204 : decode cX2_work 204 = .ok (.iinc 4 (-2), 3) := dk_132 4 254 (dk_at dksX2_work_8 15 rfl rfl)
theorem dX2_work_207 : decode cX2_work 207 = .ok (.aload_n 0, 1) := dk_42 (dk_at dksX2_work_8 18 rfl rfl)
theorem dX2_work_208 : decode cX2_work 208 = .ok (.getfield 45, 3) := dk_180 0 45 (dk_at dksX2_work_8 19 rfl rfl)
theorem dX2_work_211 : decode cX2_work 211 = .ok (.iload 5, 2) := dk_21 5 (dk_at dksX2_work_8 22 rfl rfl)
theorem dX2_work_213 : decode cX2_work 213 = .ok (.iload 7, 2) := dk_21 7 (dk_at dksX2_work_9 0 rfl rfl)
theorem dX2_work_215 : decode cX2_work 215 = .ok (.aload_n 0, 1) := dk_42 (dk_at dksX2_work_9 2 rfl rfl)
theorem dX2_work_216 : decode cX2_work 216 = .ok (.getfield 42, 3) := dk_180 0 42 (dk_at dksX2_work_9 3 rfl rfl)
theorem dX2_work_219 : decode cX2_work 219 = .ok (.iload 4, 2) := dk_21 4 (dk_at dksX2_work_9 6 rfl rfl)
theorem dX2_work_221 : decode cX2_work 221 = .ok (.laload, 1) := dk_47 (dk_at dksX2_work_9 8 rfl rfl)
theorem dX2_work_222 : decode cX2_work 222 = .ok (.aload_n 0, 1) := dk_42 (dk_at dksX2_work_9 9 rfl rfl)
theorem dX2_work_223 : decode cX2_work 223 = .ok (.getfield 42, 3) := dk_180 0 42 (dk_at dksX2_work_9 10 rfl rfl)
theorem dX2_work_226 : decode cX2_work 226 = .ok (.iload 4, 2) := dk_21 4 (dk_at dksX2_work_9 13 rfl rfl)
theorem dX2_work_228 : decode cX2_work 228 = .ok (.iconst 1, 1) := dk_4 (dk_at dksX2_work_9 15 rfl rfl)
theorem dX2_work_229 : decode cX2_work 229 = .ok (.iadd, 1) := dk_96 (dk_at dksX2_work_9 16 rfl rfl)
theorem dX2_work_230 : decode cX2_work 230 = .ok (.laload, 1) := dk_47 (dk_at dksX2_work_9 17 rfl rfl)
theorem dX2_work_231 : decode cX2_work 231 = .ok (.invokestatic 283, 3) := dk_184 1 27 (dk_at dksX2_work_9 18 rfl rfl)
theorem dX2_work_234 : decode cX2_work 234 = .ok (.bastore, 1) := dk_84 (dk_at dksX2_work_9 21 rfl rfl)
theorem dX2_work_235 : decode cX2_work 235 = .ok (.iinc 5 1, 3) := dk_132 5 1 (dk_at dksX2_work_10 0 rfl rfl)
theorem dX2_work_238 : decode cX2_work 238 = .ok (.goto 115, 3) := dk_167 0 115 (dk_at dksX2_work_10 3 rfl rfl)
theorem dX2_work_241 : decode cX2_work 241 = .ok (.iload 7, 2) := dk_21 7 (dk_at dksX2_work_10 6 rfl rfl)
theorem dX2_work_243 : decode cX2_work 243 = .ok (.bipush 20, 2) := dk_16 20 (dk_at dksX2_work_10 8 rfl rfl)
theorem dX2_work_245 : decode cX2_work 245 = .ok (.if_icmp .ne 32, 3) := dk_160 0 32 (dk_at dksX2_work_10 10 rfl rfl)
theorem dX2_work_248 : decode cX2_work 248 = .ok (.aload_n 0, 1) := dk_42 (dk_at dksX2_work_10 13 rfl rfl)
theorem dX2_work_249 : decode cX2_work 249 = .ok (.getfield 45, 3) := dk_180 0 45 (dk_at dksX2_work_10 14 rfl rfl)
theorem dX2_work_252 : decode cX2_work 252 = .ok (.iload 5, 2) := dk_21 5 (dk_at dksX2_work_10 17 rfl rfl)
theorem dX2_work_254 : decode cX2_work 254 = .ok (.iconst 1, 1) := dk_4 (dk_at dksX2_work_10 19 rfl rfl)
theorem dX2_work_255 : decode cX2_work 255 = .ok (.isub, 1) := dk_100 (dk_at dksX2_work_10 20 rfl rfl)
theorem dX2_work_256 : decode cX2_work 256 = .ok (.aload_n 0, 1) := dk_42 (dk_at dksX2_work_10 21 rfl rfl)
theorem dX2_work_257 : decode cX2_work 257 = .ok (.getfield 45, 3) := dk_180 0 45 (dk_at dksX2_work_11 0 rfl rfl)
theorem dX2_work_260 : decode cX2_work 260 = .ok (.iload 5, 2) := dk_21 5 (dk_at dksX2_work_11 3 rfl rfl)
theorem dX2_work_262 : decode cX2_work 262 = .ok (.iconst 1, 1) := dk_4 (dk_at dksX2_work_11 5 rfl rfl)
theorem dX2_work_263 : decode cX2_work 263 = .ok (.isub, 1) := dk_100 (dk_at dksX2_work_11 6 rfl rfl)
theorem dX2_work_264 : decode cX2_work 264 = .ok (.baload, 1) := dk_51 (dk_at dksX2_work_11 7 rfl rfl)
theorem dX2_work_265 : decode cX2_work 265 = .ok (.ifCond .ne 7, 3) := dk_154 0 7 (dk_at dksX2_work_11 8 rfl rfl)
theorem dX2_work_268 : decode cX2_work 268 = .ok (.iconst 1, 1) := dk_4 (dk_at dksX2_work_11 11 rfl rfl)
theorem dX2_work_269 : decode cX2_work 269 = .ok (.goto 4, 3) := dk_167 0 4 (dk_at dksX2_work_11 12 rfl rfl)
theorem dX2_work_272 : decode cX2_work 272 = .ok (.iconst 0, 1) := dk_3 (dk_at dksX2_work_11 15 rfl rfl)
theorem dX2_work_273 : decode cX2_work 273 = .ok (.bastore, 1) := dk_84 (dk_at dksX2_work_11 16 rfl rfl)
theorem dX2_work_274 : decode cX2_work 274 = .ok (.goto 79, 3) := dk_167 0 79 (dk_at dksX2_work_11 17 rfl rfl)
theorem dX2_work_277 : decode cX2_work 277 = .ok (.iinc 5 (-1), 3) := dk_132 5 255 (dk_at dksX2_work_11 20 rfl rfl)
theorem dX2_work_280 : decode cX2_work 280 = .ok (.aload_n 0, 1) := dk_42 (dk_at dksX2_work_11 23 rfl rfl)
theorem dX2_work_281 : decode cX2_work 281 = .ok (.getfield 45, 3) := dk_180 0 45 (dk_at dksX2_work_12 0 rfl rfl)
theorem dX2_work_284 : decode cX2_work 284 = .ok (.iload 5, 2) := dk_21 5 (dk_at dksX2_work_12 3 rfl rfl)
theorem dX2_work_286 : decode cX2_work 286 = .ok (.iconst 1, 1) := dk_4 (dk_at dksX2_work_12 5 rfl rfl)
theorem dX2_work_287 : decode cX2_work 287 = .ok (.isub, 1) := dk_100 (dk_at dksX2_work_12 6 rfl rfl)
theorem dX2_work_288 : decode cX2_work 288 = .ok (.iload 7, 2) := dk_21 7 (dk_at dksX2_work_12 7 rfl rfl)
theorem dX2_work_290 : decode cX2_work 290 = .ok (.bipush 21, 2) := dk_16 21 (dk_at dksX2_work_12 9 rfl rfl)
theorem dX2_work_292 : decode cX2_work 292 = .ok (.if_icmp .ne 33, 3) := dk_160 0 33 (dk_at dksX2_work_12 11 rfl rfl)
theorem dX2_work_295 : decode cX2_work 295 = .ok (.aload_n 0, 1) := dk_42 (dk_at dksX2_work_12 14 rfl rfl)
theorem dX2_work_296 : decode cX2_work 296 = .ok (.getfield 45, 3) := dk_180 0 45 (dk_at dksX2_work_12 15 rfl rfl)
theorem dX2_work_299 : decode cX2_work 299 = .ok (.iload 5, 2) := dk_21 5 (dk_at dksX2_work_12 18 rfl rfl)
theorem dX2_work_301 : decode cX2_work 301 = .ok (.iconst 1, 1) := dk_4 (dk_at dksX2_work_12 20 rfl rfl)
theorem dX2_work_302 : decode cX2_work 302 = .ok (.isub, 1) := dk_100 (dk_at dksX2_work_12 21 rfl rfl)
theorem dX2_work_303 : decode cX2_work 303 = .ok (.baload, 1) := dk_51 (dk_at dksX2_work_12 22 rfl rfl)
theorem dX2_work_304 : decode cX2_work 304 = .ok (.ifCond .eq 17, 3) := dk_153 0 17 (dk_at dksX2_work_13 0 rfl rfl)
theorem dX2_work_307 : decode cX2_work 307 = .ok (.aload_n 0, 1) := dk_42 (dk_at dksX2_work_13 3 rfl rfl)
theorem dX2_work_308 : decode cX2_work 308 = .ok (.getfield 45, 3) := dk_180 0 45 (dk_at dksX2_work_13 4 rfl rfl)
theorem dX2_work_311 : decode cX2_work 311 = .ok (.iload 5, 2) := dk_21 5 (dk_at dksX2_work_13 7 rfl rfl)
theorem dX2_work_313 : decode cX2_work 313 = .ok (.baload, 1) := dk_51 (dk_at dksX2_work_13 9 rfl rfl)
theorem dX2_work_314 : decode cX2_work 314 = .ok (.ifCond .eq 7, 3) := dk_153 0 7 (dk_at dksX2_work_13 10 rfl rfl)
theorem dX2_work_317 : decode cX2_work 317 = .ok (.iconst 1, 1) := dk_4 (dk_at dksX2_work_13 13 rfl rfl)
theorem dX2_work_318 : decode cX2_work 318 = .ok (.goto 34, 3) := dk_167 0 34 (dk_at dksX2_work_13 14 rfl rfl)
theorem dX2_work_321 : decode cX2_work 321 = .ok (.iconst 0, 1) := dk_3 (dk_at dksX2_work_13 17 rfl rfl)
theorem dX2_work_322 : decode cX2_work 322 = .ok (.goto 30, 3) := dk_167 0 30 (dk_at dksX2_work_13 18 rfl rfl)
theorem dX2_work_325 : decode cX2_work 325 = .ok (.aload_n 0, 1) := dk_42 (dk_at dksX2_work_13 21 rfl rfl)
theorem dX2_work_326 : decode cX2_work 326 = .ok (.getfield 45, 3) := dk_180 0 45 (dk_at dksX2_work_14 0 rfl rfl)
theorem dX2_work_329 : decode cX2_work 329 = .ok (.iload 5, 2) := dk_21 5 (dk_at dksX2_work_14 3 rfl rfl)
theorem dX2_work_331 : decode cX2_work 331 = .ok (.iconst 1, 1) := dk_4 (dk_at dksX2_work_14 5 rfl rfl)
theorem dX2_work_332 : decode cX2_work 332 = .ok (.isub, 1) := dk_100 (dk_at dksX2_work_14 6 rfl rfl)
theorem dX2_work_333 : decode cX2_work 333 = .ok (.baload, 1) := dk_51 (dk_at dksX2_work_14 7 rfl rfl)
theorem dX2_work_334 : decode cX2_work 334 = .ok (.ifCond .ne 13, 3) := dk_154 0 13 (dk_at dksX2_work_14 8 rfl rfl)
theorem dX2_work_337 : decode cX2_work 337 = .ok (.aload_n 0, 1) := dk_42 (dk_at dksX2_work_14 11 rfl rfl)
theorem dX2_work_338 : decode cX2_work 338 = .ok (.getfield 45, 3) := dk_180 0 45 (dk_at dksX2_work_14 12 rfl rfl)
theorem dX2_work_341 : decode cX2_work 341 = .ok (.iload 5, 2) := dk_21 5 (dk_at dksX2_work_14 15 rfl rfl)
theorem dX2_work_343 : decode cX2_work 343 = .ok (.baload, 1) := dk_51 (dk_at dksX2_work_14 17 rfl rfl)
theorem dX2_work_344 : decode cX2_work 344 = .ok (.ifCond .eq 7, 3) := dk_153 0 7 (dk_at dksX2_work_14 18 rfl rfl)
theorem dX2_work_347 : decode cX2_work 347 = .ok (.iconst 1, 1) := dk_4 (dk_at dksX2_work_14 21 rfl rfl)
theorem dX2_work_348 : decode cX2_work 348 = .ok (.goto 4, 3) := dk_167 0 4 (dk_at dksX2_work_15 0 rfl rfl)
theorem dX2_work_351 : decode cX2_work 351 = .ok (.iconst 0, 1) := dk_3 (dk_at dksX2_work_15 3 rfl rfl)
theorem dX2_work_352 : decode cX2_work 352 = .ok (.bastore, 1) := dk_84 (dk_at dksX2_work_15 4 rfl rfl)
theorem dX2_work_353 : decode cX2_work 353 = .ok (.iinc 6 1, 3) := dk_132 6 1 (dk_at dksX2_work_15 5 rfl rfl)
theorem dX2_work_356 : decode cX2_work 356 = .ok (.goto (-309), 3) := dk_167 254 203 (dk_at dksX2_work_15 8 rfl rfl)
theorem dX2_work_359 : decode cX2_work 359 = .ok (.return_, 1) := dk_177 (dk_at dksX2_work_15 11 rfl rfl)
abbrev cX2_two : ByteArray := prog_17_method_51_code
def yX2_two : MethodName := ⟨RX2, "two", "(IJJ)J"⟩
def dkwX2_two_4 : List UInt8 := [184, 1, 19, 173]
abbrev dktX2_two_4 : List UInt8 := dkwX2_two_4 ++ []
def dkwX2_two_3 : List UInt8 := [154, 0, 7, 9, 167, 0, 6, 31, 33, 113, 173, 33, 9, 148, 154, 0, 7, 9, 167, 0, 9, 31, 33, 109]
abbrev dktX2_two_3 : List UInt8 := dkwX2_two_3 ++ dktX2_two_4
def dkwX2_two_2 : List UInt8 := [31, 33, 97, 184, 1, 19, 173, 31, 33, 101, 184, 1, 19, 173, 31, 33, 105, 184, 1, 19, 173, 33, 9, 148]
abbrev dktX2_two_2 : List UInt8 := dkwX2_two_2 ++ dktX2_two_3
def dkwX2_two_1 : List UInt8 := [170, 0, 0, 0, 0, 0, 70, 0, 0, 0, 3, 0, 0, 0, 7, 0, 0, 0, 35, 0, 0, 0, 42, 0, 0, 0, 49, 0, 0, 0, 70, 0, 0, 0, 56]
abbrev dktX2_two_1 : List UInt8 := dkwX2_two_1 ++ dktX2_two_2
def dkwX2_two_0 : List UInt8 := [26]
abbrev dktX2_two_0 : List UInt8 := dkwX2_two_0 ++ dktX2_two_1
theorem dksX2_two_0 : cX2_two.data.toList.drop 0 = dktX2_two_0 := by decide +kernel
theorem dksX2_two_1 : cX2_two.data.toList.drop 1 = dktX2_two_1 := dk_seg dksX2_two_0 1 rfl rfl
theorem dksX2_two_2 : cX2_two.data.toList.drop 36 = dktX2_two_2 := dk_seg dksX2_two_1 35 rfl rfl
theorem dksX2_two_3 : cX2_two.data.toList.drop 60 = dktX2_two_3 := dk_seg dksX2_two_2 24 rfl rfl
theorem dksX2_two_4 : cX2_two.data.toList.drop 84 = dktX2_two_4 := dk_seg dksX2_two_3 24 rfl rfl
theorem dX2_two_0 : decode cX2_two 0 = .ok (.iload_n 0, 1) := dk_26 (dk_at dksX2_two_0 0 rfl rfl)
theorem dX2_two_1 : decode cX2_two 1 = .ok (.tableswitch 70 3 7 #[35, 42, 49, 70, 56], 35) := by decide +kernel
theorem dX2_two_36 : decode cX2_two 36 = .ok (.lload_n 1, 1) := dk_31 (dk_at dksX2_two_2 0 rfl rfl)
theorem dX2_two_37 : decode cX2_two 37 = .ok (.lload_n 3, 1) := dk_33 (dk_at dksX2_two_2 1 rfl rfl)
theorem dX2_two_38 : decode cX2_two 38 = .ok (.ladd, 1) := dk_97 (dk_at dksX2_two_2 2 rfl rfl)
theorem dX2_two_39 : decode cX2_two 39 = .ok (.invokestatic 275, 3) := dk_184 1 19 (dk_at dksX2_two_2 3 rfl rfl)
theorem dX2_two_42 : decode cX2_two 42 = .ok (.lreturn, 1) := dk_173 (dk_at dksX2_two_2 6 rfl rfl)
theorem dX2_two_43 : decode cX2_two 43 = .ok (.lload_n 1, 1) := dk_31 (dk_at dksX2_two_2 7 rfl rfl)
theorem dX2_two_44 : decode cX2_two 44 = .ok (.lload_n 3, 1) := dk_33 (dk_at dksX2_two_2 8 rfl rfl)
theorem dX2_two_45 : decode cX2_two 45 = .ok (.lsub, 1) := dk_101 (dk_at dksX2_two_2 9 rfl rfl)
theorem dX2_two_46 : decode cX2_two 46 = .ok (.invokestatic 275, 3) := dk_184 1 19 (dk_at dksX2_two_2 10 rfl rfl)
theorem dX2_two_49 : decode cX2_two 49 = .ok (.lreturn, 1) := dk_173 (dk_at dksX2_two_2 13 rfl rfl)
theorem dX2_two_50 : decode cX2_two 50 = .ok (.lload_n 1, 1) := dk_31 (dk_at dksX2_two_2 14 rfl rfl)
theorem dX2_two_51 : decode cX2_two 51 = .ok (.lload_n 3, 1) := dk_33 (dk_at dksX2_two_2 15 rfl rfl)
theorem dX2_two_52 : decode cX2_two 52 = .ok (.lmul, 1) := dk_105 (dk_at dksX2_two_2 16 rfl rfl)
theorem dX2_two_53 : decode cX2_two 53 = .ok (.invokestatic 275, 3) := dk_184 1 19 (dk_at dksX2_two_2 17 rfl rfl)
theorem dX2_two_56 : decode cX2_two 56 = .ok (.lreturn, 1) := dk_173 (dk_at dksX2_two_2 20 rfl rfl)
theorem dX2_two_57 : decode cX2_two 57 = .ok (.lload_n 3, 1) := dk_33 (dk_at dksX2_two_2 21 rfl rfl)
theorem dX2_two_58 : decode cX2_two 58 = .ok (.lconst 0, 1) := dk_9 (dk_at dksX2_two_2 22 rfl rfl)
theorem dX2_two_59 : decode cX2_two 59 = .ok (.lcmp, 1) := dk_148 (dk_at dksX2_two_2 23 rfl rfl)
theorem dX2_two_60 : decode cX2_two 60 = .ok (.ifCond .ne 7, 3) := dk_154 0 7 (dk_at dksX2_two_3 0 rfl rfl)
theorem dX2_two_63 : decode cX2_two 63 = .ok (.lconst 0, 1) := dk_9 (dk_at dksX2_two_3 3 rfl rfl)
theorem dX2_two_64 : decode cX2_two 64 = .ok (.goto 6, 3) := dk_167 0 6 (dk_at dksX2_two_3 4 rfl rfl)
theorem dX2_two_67 : decode cX2_two 67 = .ok (.lload_n 1, 1) := dk_31 (dk_at dksX2_two_3 7 rfl rfl)
theorem dX2_two_68 : decode cX2_two 68 = .ok (.lload_n 3, 1) := dk_33 (dk_at dksX2_two_3 8 rfl rfl)
theorem dX2_two_69 : decode cX2_two 69 = .ok (.lrem, 1) := dk_113 (dk_at dksX2_two_3 9 rfl rfl)
theorem dX2_two_70 : decode cX2_two 70 = .ok (.lreturn, 1) := dk_173 (dk_at dksX2_two_3 10 rfl rfl)
theorem dX2_two_71 : decode cX2_two 71 = .ok (.lload_n 3, 1) := dk_33 (dk_at dksX2_two_3 11 rfl rfl)
theorem dX2_two_72 : decode cX2_two 72 = .ok (.lconst 0, 1) := dk_9 (dk_at dksX2_two_3 12 rfl rfl)
theorem dX2_two_73 : decode cX2_two 73 = .ok (.lcmp, 1) := dk_148 (dk_at dksX2_two_3 13 rfl rfl)
theorem dX2_two_74 : decode cX2_two 74 = .ok (.ifCond .ne 7, 3) := dk_154 0 7 (dk_at dksX2_two_3 14 rfl rfl)
theorem dX2_two_77 : decode cX2_two 77 = .ok (.lconst 0, 1) := dk_9 (dk_at dksX2_two_3 17 rfl rfl)
theorem dX2_two_78 : decode cX2_two 78 = .ok (.goto 9, 3) := dk_167 0 9 (dk_at dksX2_two_3 18 rfl rfl)
theorem dX2_two_81 : decode cX2_two 81 = .ok (.lload_n 1, 1) := dk_31 (dk_at dksX2_two_3 21 rfl rfl)
theorem dX2_two_82 : decode cX2_two 82 = .ok (.lload_n 3, 1) := dk_33 (dk_at dksX2_two_3 22 rfl rfl)
theorem dX2_two_83 : decode cX2_two 83 = .ok (.ldiv, 1) := dk_109 (dk_at dksX2_two_3 23 rfl rfl)
theorem dX2_two_84 : decode cX2_two 84 = .ok (.invokestatic 275, 3) := dk_184 1 19 (dk_at dksX2_two_4 0 rfl rfl)
theorem dX2_two_87 : decode cX2_two 87 = .ok (.lreturn, 1) := dk_173 (dk_at dksX2_two_4 3 rfl rfl)
abbrev cX2_clip : ByteArray := prog_17_method_50_code
def yX2_clip : MethodName := ⟨RX2, "clip", "(J)J"⟩
def dkwX2_clip_1 : List UInt8 := [20, 1, 17, 167, 0, 4, 30, 173]
abbrev dktX2_clip_1 : List UInt8 := dkwX2_clip_1 ++ []
def dkwX2_clip_0 : List UInt8 := [30, 20, 1, 15, 148, 158, 0, 9, 20, 1, 15, 167, 0, 18, 30, 20, 1, 17, 148, 156, 0, 9]
abbrev dktX2_clip_0 : List UInt8 := dkwX2_clip_0 ++ dktX2_clip_1
theorem dksX2_clip_0 : cX2_clip.data.toList.drop 0 = dktX2_clip_0 := by decide +kernel
theorem dksX2_clip_1 : cX2_clip.data.toList.drop 22 = dktX2_clip_1 := dk_seg dksX2_clip_0 22 rfl rfl
theorem dX2_clip_0 : decode cX2_clip 0 = .ok (.lload_n 0, 1) := dk_30 (dk_at dksX2_clip_0 0 rfl rfl)
theorem dX2_clip_1 : decode cX2_clip 1 = .ok (.ldc2_w 271, 3) := dk_20 1 15 (dk_at dksX2_clip_0 1 rfl rfl)
theorem dX2_clip_4 : decode cX2_clip 4 = .ok (.lcmp, 1) := dk_148 (dk_at dksX2_clip_0 4 rfl rfl)
theorem dX2_clip_5 : decode cX2_clip 5 = .ok (.ifCond .le 9, 3) := dk_158 0 9 (dk_at dksX2_clip_0 5 rfl rfl)
theorem dX2_clip_8 : decode cX2_clip 8 = .ok (.ldc2_w 271, 3) := dk_20 1 15 (dk_at dksX2_clip_0 8 rfl rfl)
theorem dX2_clip_11 : decode cX2_clip 11 = .ok (.goto 18, 3) := dk_167 0 18 (dk_at dksX2_clip_0 11 rfl rfl)
theorem dX2_clip_14 : decode cX2_clip 14 = .ok (.lload_n 0, 1) := dk_30 (dk_at dksX2_clip_0 14 rfl rfl)
theorem dX2_clip_15 : decode cX2_clip 15 = .ok (.ldc2_w 273, 3) := dk_20 1 17 (dk_at dksX2_clip_0 15 rfl rfl)
theorem dX2_clip_18 : decode cX2_clip 18 = .ok (.lcmp, 1) := dk_148 (dk_at dksX2_clip_0 18 rfl rfl)
theorem dX2_clip_19 : decode cX2_clip 19 = .ok (.ifCond .ge 9, 3) := dk_156 0 9 (dk_at dksX2_clip_0 19 rfl rfl)
theorem dX2_clip_22 : decode cX2_clip 22 = .ok (.ldc2_w 273, 3) := dk_20 1 17 (dk_at dksX2_clip_1 0 rfl rfl)
theorem dX2_clip_25 : decode cX2_clip 25 = .ok (.goto 4, 3) := dk_167 0 4 (dk_at dksX2_clip_1 3 rfl rfl)
theorem dX2_clip_28 : decode cX2_clip 28 = .ok (.lload_n 0, 1) := dk_30 (dk_at dksX2_clip_1 6 rfl rfl)
theorem dX2_clip_29 : decode cX2_clip 29 = .ok (.lreturn, 1) := dk_173 (dk_at dksX2_clip_1 7 rfl rfl)
abbrev cX2_isAsked : ByteArray := prog_17_method_52_code
def yX2_isAsked : MethodName := ⟨RX2, "isAsked", "(IJJ)Z"⟩
def dkwX2_isAsked_4 : List UInt8 := [167, 0, 18, 3, 167, 0, 14, 31, 33, 148, 153, 0, 7, 4, 167, 0, 4, 3, 172]
abbrev dktX2_isAsked_4 : List UInt8 := dkwX2_isAsked_4 ++ []
def dkwX2_isAsked_3 : List UInt8 := [155, 0, 7, 4, 167, 0, 38, 3, 167, 0, 34, 26, 16, 14, 160, 0, 17, 31, 33, 148, 154, 0, 7, 4]
abbrev dktX2_isAsked_3 : List UInt8 := dkwX2_isAsked_3 ++ dktX2_isAsked_4
def dkwX2_isAsked_2 : List UInt8 := [33, 148, 158, 0, 7, 4, 167, 0, 58, 3, 167, 0, 54, 26, 16, 13, 160, 0, 17, 31, 33, 148]
abbrev dktX2_isAsked_2 : List UInt8 := dkwX2_isAsked_2 ++ dktX2_isAsked_3
def dkwX2_isAsked_1 : List UInt8 := [160, 0, 17, 31, 33, 148, 157, 0, 7, 4, 167, 0, 78, 3, 167, 0, 74, 26, 16, 12, 160, 0, 17, 31]
abbrev dktX2_isAsked_1 : List UInt8 := dkwX2_isAsked_1 ++ dktX2_isAsked_2
def dkwX2_isAsked_0 : List UInt8 := [26, 16, 10, 160, 0, 17, 31, 33, 148, 156, 0, 7, 4, 167, 0, 98, 3, 167, 0, 94, 26, 16, 11]
abbrev dktX2_isAsked_0 : List UInt8 := dkwX2_isAsked_0 ++ dktX2_isAsked_1
theorem dksX2_isAsked_0 : cX2_isAsked.data.toList.drop 0 = dktX2_isAsked_0 := by decide +kernel
theorem dksX2_isAsked_1 : cX2_isAsked.data.toList.drop 23 = dktX2_isAsked_1 := dk_seg dksX2_isAsked_0 23 rfl rfl
theorem dksX2_isAsked_2 : cX2_isAsked.data.toList.drop 47 = dktX2_isAsked_2 := dk_seg dksX2_isAsked_1 24 rfl rfl
theorem dksX2_isAsked_3 : cX2_isAsked.data.toList.drop 69 = dktX2_isAsked_3 := dk_seg dksX2_isAsked_2 22 rfl rfl
theorem dksX2_isAsked_4 : cX2_isAsked.data.toList.drop 93 = dktX2_isAsked_4 := dk_seg dksX2_isAsked_3 24 rfl rfl
theorem dX2_isAsked_0 : decode cX2_isAsked 0 = .ok (.iload_n 0, 1) := dk_26 (dk_at dksX2_isAsked_0 0 rfl rfl)
theorem dX2_isAsked_1 : decode cX2_isAsked 1 = .ok (.bipush 10, 2) := dk_16 10 (dk_at dksX2_isAsked_0 1 rfl rfl)
theorem dX2_isAsked_3 : decode cX2_isAsked 3 = .ok (.if_icmp .ne 17, 3) := dk_160 0 17 (dk_at dksX2_isAsked_0 3 rfl rfl)
theorem dX2_isAsked_6 : decode cX2_isAsked 6 = .ok (.lload_n 1, 1) := dk_31 (dk_at dksX2_isAsked_0 6 rfl rfl)
theorem dX2_isAsked_7 : decode cX2_isAsked 7 = .ok (.lload_n 3, 1) := dk_33 (dk_at dksX2_isAsked_0 7 rfl rfl)
theorem dX2_isAsked_8 : decode cX2_isAsked 8 = .ok (.lcmp, 1) := dk_148 (dk_at dksX2_isAsked_0 8 rfl rfl)
theorem dX2_isAsked_9 : decode cX2_isAsked 9 = .ok (.ifCond .ge 7, 3) := dk_156 0 7 (dk_at dksX2_isAsked_0 9 rfl rfl)
theorem dX2_isAsked_12 : decode cX2_isAsked 12 = .ok (.iconst 1, 1) := dk_4 (dk_at dksX2_isAsked_0 12 rfl rfl)
theorem dX2_isAsked_13 : decode cX2_isAsked 13 = .ok (.goto 98, 3) := dk_167 0 98 (dk_at dksX2_isAsked_0 13 rfl rfl)
theorem dX2_isAsked_16 : decode cX2_isAsked 16 = .ok (.iconst 0, 1) := dk_3 (dk_at dksX2_isAsked_0 16 rfl rfl)
theorem dX2_isAsked_17 : decode cX2_isAsked 17 = .ok (.goto 94, 3) := dk_167 0 94 (dk_at dksX2_isAsked_0 17 rfl rfl)
theorem dX2_isAsked_20 : decode cX2_isAsked 20 = .ok (.iload_n 0, 1) := dk_26 (dk_at dksX2_isAsked_0 20 rfl rfl)
theorem dX2_isAsked_21 : decode cX2_isAsked 21 = .ok (.bipush 11, 2) := dk_16 11 (dk_at dksX2_isAsked_0 21 rfl rfl)
theorem dX2_isAsked_23 : decode cX2_isAsked 23 = .ok (.if_icmp .ne 17, 3) := dk_160 0 17 (dk_at dksX2_isAsked_1 0 rfl rfl)
theorem dX2_isAsked_26 : decode cX2_isAsked 26 = .ok (.lload_n 1, 1) := dk_31 (dk_at dksX2_isAsked_1 3 rfl rfl)
theorem dX2_isAsked_27 : decode cX2_isAsked 27 = .ok (.lload_n 3, 1) := dk_33 (dk_at dksX2_isAsked_1 4 rfl rfl)
theorem dX2_isAsked_28 : decode cX2_isAsked 28 = .ok (.lcmp, 1) := dk_148 (dk_at dksX2_isAsked_1 5 rfl rfl)
theorem dX2_isAsked_29 : decode cX2_isAsked 29 = .ok (.ifCond .gt 7, 3) := dk_157 0 7 (dk_at dksX2_isAsked_1 6 rfl rfl)
theorem dX2_isAsked_32 : decode cX2_isAsked 32 = .ok (.iconst 1, 1) := dk_4 (dk_at dksX2_isAsked_1 9 rfl rfl)
theorem dX2_isAsked_33 : decode cX2_isAsked 33 = .ok (.goto 78, 3) := dk_167 0 78 (dk_at dksX2_isAsked_1 10 rfl rfl)
theorem dX2_isAsked_36 : decode cX2_isAsked 36 = .ok (.iconst 0, 1) := dk_3 (dk_at dksX2_isAsked_1 13 rfl rfl)
theorem dX2_isAsked_37 : decode cX2_isAsked 37 = .ok (.goto 74, 3) := dk_167 0 74 (dk_at dksX2_isAsked_1 14 rfl rfl)
theorem dX2_isAsked_40 : decode cX2_isAsked 40 = .ok (.iload_n 0, 1) := dk_26 (dk_at dksX2_isAsked_1 17 rfl rfl)
theorem dX2_isAsked_41 : decode cX2_isAsked 41 = .ok (.bipush 12, 2) := dk_16 12 (dk_at dksX2_isAsked_1 18 rfl rfl)
theorem dX2_isAsked_43 : decode cX2_isAsked 43 = .ok (.if_icmp .ne 17, 3) := dk_160 0 17 (dk_at dksX2_isAsked_1 20 rfl rfl)
theorem dX2_isAsked_46 : decode cX2_isAsked 46 = .ok (.lload_n 1, 1) := dk_31 (dk_at dksX2_isAsked_1 23 rfl rfl)
theorem dX2_isAsked_47 : decode cX2_isAsked 47 = .ok (.lload_n 3, 1) := dk_33 (dk_at dksX2_isAsked_2 0 rfl rfl)
theorem dX2_isAsked_48 : decode cX2_isAsked 48 = .ok (.lcmp, 1) := dk_148 (dk_at dksX2_isAsked_2 1 rfl rfl)
theorem dX2_isAsked_49 : decode cX2_isAsked 49 = .ok (.ifCond .le 7, 3) := dk_158 0 7 (dk_at dksX2_isAsked_2 2 rfl rfl)
theorem dX2_isAsked_52 : decode cX2_isAsked 52 = .ok (.iconst 1, 1) := dk_4 (dk_at dksX2_isAsked_2 5 rfl rfl)
theorem dX2_isAsked_53 : decode cX2_isAsked 53 = .ok (.goto 58, 3) := dk_167 0 58 (dk_at dksX2_isAsked_2 6 rfl rfl)
theorem dX2_isAsked_56 : decode cX2_isAsked 56 = .ok (.iconst 0, 1) := dk_3 (dk_at dksX2_isAsked_2 9 rfl rfl)
theorem dX2_isAsked_57 : decode cX2_isAsked 57 = .ok (.goto 54, 3) := dk_167 0 54 (dk_at dksX2_isAsked_2 10 rfl rfl)
theorem dX2_isAsked_60 : decode cX2_isAsked 60 = .ok (.iload_n 0, 1) := dk_26 (dk_at dksX2_isAsked_2 13 rfl rfl)
theorem dX2_isAsked_61 : decode cX2_isAsked 61 = .ok (.bipush 13, 2) := dk_16 13 (dk_at dksX2_isAsked_2 14 rfl rfl)
theorem dX2_isAsked_63 : decode cX2_isAsked 63 = .ok (.if_icmp .ne 17, 3) := dk_160 0 17 (dk_at dksX2_isAsked_2 16 rfl rfl)
theorem dX2_isAsked_66 : decode cX2_isAsked 66 = .ok (.lload_n 1, 1) := dk_31 (dk_at dksX2_isAsked_2 19 rfl rfl)
theorem dX2_isAsked_67 : decode cX2_isAsked 67 = .ok (.lload_n 3, 1) := dk_33 (dk_at dksX2_isAsked_2 20 rfl rfl)
theorem dX2_isAsked_68 : decode cX2_isAsked 68 = .ok (.lcmp, 1) := dk_148 (dk_at dksX2_isAsked_2 21 rfl rfl)
theorem dX2_isAsked_69 : decode cX2_isAsked 69 = .ok (.ifCond .lt 7, 3) := dk_155 0 7 (dk_at dksX2_isAsked_3 0 rfl rfl)
theorem dX2_isAsked_72 : decode cX2_isAsked 72 = .ok (.iconst 1, 1) := dk_4 (dk_at dksX2_isAsked_3 3 rfl rfl)
theorem dX2_isAsked_73 : decode cX2_isAsked 73 = .ok (.goto 38, 3) := dk_167 0 38 (dk_at dksX2_isAsked_3 4 rfl rfl)
theorem dX2_isAsked_76 : decode cX2_isAsked 76 = .ok (.iconst 0, 1) := dk_3 (dk_at dksX2_isAsked_3 7 rfl rfl)
theorem dX2_isAsked_77 : decode cX2_isAsked 77 = .ok (.goto 34, 3) := dk_167 0 34 (dk_at dksX2_isAsked_3 8 rfl rfl)
theorem dX2_isAsked_80 : decode cX2_isAsked 80 = .ok (.iload_n 0, 1) := dk_26 (dk_at dksX2_isAsked_3 11 rfl rfl)
theorem dX2_isAsked_81 : decode cX2_isAsked 81 = .ok (.bipush 14, 2) := dk_16 14 (dk_at dksX2_isAsked_3 12 rfl rfl)
theorem dX2_isAsked_83 : decode cX2_isAsked 83 = .ok (.if_icmp .ne 17, 3) := dk_160 0 17 (dk_at dksX2_isAsked_3 14 rfl rfl)
theorem dX2_isAsked_86 : decode cX2_isAsked 86 = .ok (.lload_n 1, 1) := dk_31 (dk_at dksX2_isAsked_3 17 rfl rfl)
theorem dX2_isAsked_87 : decode cX2_isAsked 87 = .ok (.lload_n 3, 1) := dk_33 (dk_at dksX2_isAsked_3 18 rfl rfl)
theorem dX2_isAsked_88 : decode cX2_isAsked 88 = .ok (.lcmp, 1) := dk_148 (dk_at dksX2_isAsked_3 19 rfl rfl)
theorem dX2_isAsked_89 : decode cX2_isAsked 89 = .ok (.ifCond .ne 7, 3) := dk_154 0 7 (dk_at dksX2_isAsked_3 20 rfl rfl)
theorem dX2_isAsked_92 : decode cX2_isAsked 92 = .ok (.iconst 1, 1) := dk_4 (dk_at dksX2_isAsked_3 23 rfl rfl)
theorem dX2_isAsked_93 : decode cX2_isAsked 93 = .ok (.goto 18, 3) := dk_167 0 18 (dk_at dksX2_isAsked_4 0 rfl rfl)
theorem dX2_isAsked_96 : decode cX2_isAsked 96 = .ok (.iconst 0, 1) := dk_3 (dk_at dksX2_isAsked_4 3 rfl rfl)
theorem dX2_isAsked_97 : decode cX2_isAsked 97 = .ok (.goto 14, 3) := dk_167 0 14 (dk_at dksX2_isAsked_4 4 rfl rfl)
theorem dX2_isAsked_100 : decode cX2_isAsked 100 = .ok (.lload_n 1, 1) := dk_31 (dk_at dksX2_isAsked_4 7 rfl rfl)
theorem dX2_isAsked_101 : decode cX2_isAsked 101 = .ok (.lload_n 3, 1) := dk_33 (dk_at dksX2_isAsked_4 8 rfl rfl)
theorem dX2_isAsked_102 : decode cX2_isAsked 102 = .ok (.lcmp, 1) := dk_148 (dk_at dksX2_isAsked_4 9 rfl rfl)
theorem dX2_isAsked_103 : decode cX2_isAsked 103 = .ok (.ifCond .eq 7, 3) := dk_153 0 7 (dk_at dksX2_isAsked_4 10 rfl rfl)
theorem dX2_isAsked_106 : decode cX2_isAsked 106 = .ok (.iconst 1, 1) := dk_4 (dk_at dksX2_isAsked_4 13 rfl rfl)
theorem dX2_isAsked_107 : decode cX2_isAsked 107 = .ok (.goto 4, 3) := dk_167 0 4 (dk_at dksX2_isAsked_4 14 rfl rfl)
theorem dX2_isAsked_110 : decode cX2_isAsked 110 = .ok (.iconst 0, 1) := dk_3 (dk_at dksX2_isAsked_4 17 rfl rfl)
theorem dX2_isAsked_111 : decode cX2_isAsked 111 = .ok (.ireturn, 1) := dk_172 (dk_at dksX2_isAsked_4 18 rfl rfl)
abbrev cX2_isSpeaking : ByteArray := prog_17_method_60_code
def yX2_isSpeaking : MethodName := ⟨RX2, "isSpeaking", "(IJ)Z"⟩
def dkwX2_isSpeaking_0 : List UInt8 := [42, 27, 32, 42, 180, 0, 7, 4, 46, 182, 1, 47, 172]
abbrev dktX2_isSpeaking_0 : List UInt8 := dkwX2_isSpeaking_0 ++ []
theorem dksX2_isSpeaking_0 : cX2_isSpeaking.data.toList.drop 0 = dktX2_isSpeaking_0 := by decide +kernel
theorem dX2_isSpeaking_0 : decode cX2_isSpeaking 0 = .ok (.aload_n 0, 1) := dk_42 (dk_at dksX2_isSpeaking_0 0 rfl rfl)
theorem dX2_isSpeaking_1 : decode cX2_isSpeaking 1 = .ok (.iload_n 1, 1) := dk_27 (dk_at dksX2_isSpeaking_0 1 rfl rfl)
theorem dX2_isSpeaking_2 : decode cX2_isSpeaking 2 = .ok (.lload_n 2, 1) := dk_32 (dk_at dksX2_isSpeaking_0 2 rfl rfl)
theorem dX2_isSpeaking_3 : decode cX2_isSpeaking 3 = .ok (.aload_n 0, 1) := dk_42 (dk_at dksX2_isSpeaking_0 3 rfl rfl)
theorem dX2_isSpeaking_4 : decode cX2_isSpeaking 4 = .ok (.getfield 7, 3) := dk_180 0 7 (dk_at dksX2_isSpeaking_0 4 rfl rfl)
theorem dX2_isSpeaking_7 : decode cX2_isSpeaking 7 = .ok (.iconst 1, 1) := dk_4 (dk_at dksX2_isSpeaking_0 7 rfl rfl)
theorem dX2_isSpeaking_8 : decode cX2_isSpeaking 8 = .ok (.iaload, 1) := dk_46 (dk_at dksX2_isSpeaking_0 8 rfl rfl)
theorem dX2_isSpeaking_9 : decode cX2_isSpeaking 9 = .ok (.invokevirtual 303, 3) := dk_182 1 47 (dk_at dksX2_isSpeaking_0 9 rfl rfl)
theorem dX2_isSpeaking_12 : decode cX2_isSpeaking 12 = .ok (.ireturn, 1) := dk_172 (dk_at dksX2_isSpeaking_0 12 rfl rfl)
abbrev cX2_isSpeakingBy : ByteArray := prog_17_method_59_code
def yX2_isSpeakingBy : MethodName := ⟨RX2, "isSpeakingBy", "(IJI)Z"⟩
def dkwX2_isSpeakingBy_2 : List UInt8 := [167, 0, 4, 3, 172]
abbrev dktX2_isSpeakingBy_2 : List UInt8 := dkwX2_isSpeakingBy_2 ++ []
def dkwX2_isSpeakingBy_1 : List UInt8 := [180, 0, 55, 16, 60, 27, 104, 32, 42, 180, 0, 7, 5, 46, 133, 113, 136, 96, 51, 154, 0, 7, 4]
abbrev dktX2_isSpeakingBy_1 : List UInt8 := dkwX2_isSpeakingBy_1 ++ dktX2_isSpeakingBy_2
def dkwX2_isSpeakingBy_0 : List UInt8 := [42, 27, 21, 4, 154, 0, 7, 32, 167, 0, 8, 32, 21, 4, 133, 113, 182, 1, 34, 153, 0, 30, 42]
abbrev dktX2_isSpeakingBy_0 : List UInt8 := dkwX2_isSpeakingBy_0 ++ dktX2_isSpeakingBy_1
theorem dksX2_isSpeakingBy_0 : cX2_isSpeakingBy.data.toList.drop 0 = dktX2_isSpeakingBy_0 := by decide +kernel
theorem dksX2_isSpeakingBy_1 : cX2_isSpeakingBy.data.toList.drop 23 = dktX2_isSpeakingBy_1 := dk_seg dksX2_isSpeakingBy_0 23 rfl rfl
theorem dksX2_isSpeakingBy_2 : cX2_isSpeakingBy.data.toList.drop 46 = dktX2_isSpeakingBy_2 := dk_seg dksX2_isSpeakingBy_1 23 rfl rfl
theorem dX2_isSpeakingBy_0 : decode cX2_isSpeakingBy 0 = .ok (.aload_n 0, 1) := dk_42 (dk_at dksX2_isSpeakingBy_0 0 rfl rfl)
theorem dX2_isSpeakingBy_1 : decode cX2_isSpeakingBy 1 = .ok (.iload_n 1, 1) := dk_27 (dk_at dksX2_isSpeakingBy_0 1 rfl rfl)
theorem dX2_isSpeakingBy_2 : decode cX2_isSpeakingBy 2 = .ok (.iload 4, 2) := dk_21 4 (dk_at dksX2_isSpeakingBy_0 2 rfl rfl)
theorem dX2_isSpeakingBy_4 : decode cX2_isSpeakingBy 4 = .ok (.ifCond .ne 7, 3) := dk_154 0 7 (dk_at dksX2_isSpeakingBy_0 4 rfl rfl)
theorem dX2_isSpeakingBy_7 : decode cX2_isSpeakingBy 7 = .ok (.lload_n 2, 1) := dk_32 (dk_at dksX2_isSpeakingBy_0 7 rfl rfl)
theorem dX2_isSpeakingBy_8 : decode cX2_isSpeakingBy 8 = .ok (.goto 8, 3) := dk_167 0 8 (dk_at dksX2_isSpeakingBy_0 8 rfl rfl)
theorem dX2_isSpeakingBy_11 : decode cX2_isSpeakingBy 11 = .ok (.lload_n 2, 1) := dk_32 (dk_at dksX2_isSpeakingBy_0 11 rfl rfl)
theorem dX2_isSpeakingBy_12 : decode cX2_isSpeakingBy 12 = .ok (.iload 4, 2) := dk_21 4 (dk_at dksX2_isSpeakingBy_0 12 rfl rfl)
theorem dX2_isSpeakingBy_14 : decode cX2_isSpeakingBy 14 = .ok (.i2l, 1) := dk_133 (dk_at dksX2_isSpeakingBy_0 14 rfl rfl)
theorem dX2_isSpeakingBy_15 : decode cX2_isSpeakingBy 15 = .ok (.lrem, 1) := dk_113 (dk_at dksX2_isSpeakingBy_0 15 rfl rfl)
theorem dX2_isSpeakingBy_16 : decode cX2_isSpeakingBy 16 = .ok (.invokevirtual 290, 3) := dk_182 1 34 (dk_at dksX2_isSpeakingBy_0 16 rfl rfl)
theorem dX2_isSpeakingBy_19 : decode cX2_isSpeakingBy 19 = .ok (.ifCond .eq 30, 3) := dk_153 0 30 (dk_at dksX2_isSpeakingBy_0 19 rfl rfl)
theorem dX2_isSpeakingBy_22 : decode cX2_isSpeakingBy 22 = .ok (.aload_n 0, 1) := dk_42 (dk_at dksX2_isSpeakingBy_0 22 rfl rfl)
theorem dX2_isSpeakingBy_23 : decode cX2_isSpeakingBy 23 = .ok (.getfield 55, 3) := dk_180 0 55 (dk_at dksX2_isSpeakingBy_1 0 rfl rfl)
theorem dX2_isSpeakingBy_26 : decode cX2_isSpeakingBy 26 = .ok (.bipush 60, 2) := dk_16 60 (dk_at dksX2_isSpeakingBy_1 3 rfl rfl)
theorem dX2_isSpeakingBy_28 : decode cX2_isSpeakingBy 28 = .ok (.iload_n 1, 1) := dk_27 (dk_at dksX2_isSpeakingBy_1 5 rfl rfl)
theorem dX2_isSpeakingBy_29 : decode cX2_isSpeakingBy 29 = .ok (.imul, 1) := dk_104 (dk_at dksX2_isSpeakingBy_1 6 rfl rfl)
theorem dX2_isSpeakingBy_30 : decode cX2_isSpeakingBy 30 = .ok (.lload_n 2, 1) := dk_32 (dk_at dksX2_isSpeakingBy_1 7 rfl rfl)
theorem dX2_isSpeakingBy_31 : decode cX2_isSpeakingBy 31 = .ok (.aload_n 0, 1) := dk_42 (dk_at dksX2_isSpeakingBy_1 8 rfl rfl)
theorem dX2_isSpeakingBy_32 : decode cX2_isSpeakingBy 32 = .ok (.getfield 7, 3) := dk_180 0 7 (dk_at dksX2_isSpeakingBy_1 9 rfl rfl)
theorem dX2_isSpeakingBy_35 : decode cX2_isSpeakingBy 35 = .ok (.iconst 2, 1) := dk_5 (dk_at dksX2_isSpeakingBy_1 12 rfl rfl)
theorem dX2_isSpeakingBy_36 : decode cX2_isSpeakingBy 36 = .ok (.iaload, 1) := dk_46 (dk_at dksX2_isSpeakingBy_1 13 rfl rfl)
theorem dX2_isSpeakingBy_37 : decode cX2_isSpeakingBy 37 = .ok (.i2l, 1) := dk_133 (dk_at dksX2_isSpeakingBy_1 14 rfl rfl)
theorem dX2_isSpeakingBy_38 : decode cX2_isSpeakingBy 38 = .ok (.lrem, 1) := dk_113 (dk_at dksX2_isSpeakingBy_1 15 rfl rfl)
theorem dX2_isSpeakingBy_39 : decode cX2_isSpeakingBy 39 = .ok (.l2i, 1) := dk_136 (dk_at dksX2_isSpeakingBy_1 16 rfl rfl)
theorem dX2_isSpeakingBy_40 : decode cX2_isSpeakingBy 40 = .ok (.iadd, 1) := dk_96 (dk_at dksX2_isSpeakingBy_1 17 rfl rfl)
theorem dX2_isSpeakingBy_41 : decode cX2_isSpeakingBy 41 = .ok (.baload, 1) := dk_51 (dk_at dksX2_isSpeakingBy_1 18 rfl rfl)
theorem dX2_isSpeakingBy_42 : decode cX2_isSpeakingBy 42 = .ok (.ifCond .ne 7, 3) := dk_154 0 7 (dk_at dksX2_isSpeakingBy_1 19 rfl rfl)
theorem dX2_isSpeakingBy_45 : decode cX2_isSpeakingBy 45 = .ok (.iconst 1, 1) := dk_4 (dk_at dksX2_isSpeakingBy_1 22 rfl rfl)
theorem dX2_isSpeakingBy_46 : decode cX2_isSpeakingBy 46 = .ok (.goto 4, 3) := dk_167 0 4 (dk_at dksX2_isSpeakingBy_2 0 rfl rfl)
theorem dX2_isSpeakingBy_49 : decode cX2_isSpeakingBy 49 = .ok (.iconst 0, 1) := dk_3 (dk_at dksX2_isSpeakingBy_2 3 rfl rfl)
theorem dX2_isSpeakingBy_50 : decode cX2_isSpeakingBy 50 = .ok (.ireturn, 1) := dk_172 (dk_at dksX2_isSpeakingBy_2 4 rfl rfl)
abbrev cX2_next : ByteArray := prog_17_method_75_code
def yX2_next : MethodName := ⟨RX2, "next", "(IJ)J"⟩
def dkwX2_next_7 : List UInt8 := [22, 5, 173]
abbrev dktX2_next_7 : List UInt8 := dkwX2_next_7 ++ []
def dkwX2_next_6 : List UInt8 := [154, 0, 9, 20, 1, 94, 167, 0, 20, 22, 5, 20, 0, 108, 148, 158, 0, 9, 20, 1, 92, 167, 0, 5]
abbrev dktX2_next_6 : List UInt8 := dkwX2_next_6 ++ dktX2_next_7
def dkwX2_next_5 : List UInt8 := [22, 5, 148, 156, 0, 8, 22, 8, 167, 0, 5, 22, 5, 55, 5, 132, 7, 1, 167, 255, 184, 21, 4]
abbrev dktX2_next_5 : List UInt8 := dkwX2_next_5 ++ dktX2_next_6
def dkwX2_next_4 : List UInt8 := [182, 1, 109, 154, 0, 6, 167, 0, 32, 42, 42, 27, 32, 182, 1, 112, 182, 1, 115, 55, 8, 22, 8]
abbrev dktX2_next_4 : List UInt8 := dkwX2_next_4 ++ dktX2_next_5
def dkwX2_next_3 : List UInt8 := [162, 0, 67, 42, 27, 21, 7, 182, 1, 106, 154, 0, 6, 167, 0, 48, 4, 54, 4, 42, 27, 21, 7]
abbrev dktX2_next_3 : List UInt8 := dkwX2_next_3 ++ dktX2_next_4
def dkwX2_next_2 : List UInt8 := [20, 1, 94, 173, 3, 54, 4, 20, 1, 84, 55, 5, 3, 54, 7, 21, 7, 42, 180, 0, 7, 5, 46]
abbrev dktX2_next_2 : List UInt8 := dkwX2_next_2 ++ dktX2_next_3
def dkwX2_next_1 : List UInt8 := [180, 0, 7, 4, 46, 158, 0, 10, 42, 27, 32, 182, 1, 99, 173, 42, 27, 182, 1, 103, 154, 0, 7]
abbrev dktX2_next_1 : List UInt8 := dkwX2_next_1 ++ dktX2_next_2
def dkwX2_next_0 : List UInt8 := [42, 27, 182, 1, 96, 153, 0, 10, 32, 184, 1, 57, 154, 0, 7, 20, 1, 94, 173, 42, 182, 1, 60, 42]
abbrev dktX2_next_0 : List UInt8 := dkwX2_next_0 ++ dktX2_next_1
theorem dksX2_next_0 : cX2_next.data.toList.drop 0 = dktX2_next_0 := by decide +kernel
theorem dksX2_next_1 : cX2_next.data.toList.drop 24 = dktX2_next_1 := dk_seg dksX2_next_0 24 rfl rfl
theorem dksX2_next_2 : cX2_next.data.toList.drop 47 = dktX2_next_2 := dk_seg dksX2_next_1 23 rfl rfl
theorem dksX2_next_3 : cX2_next.data.toList.drop 70 = dktX2_next_3 := dk_seg dksX2_next_2 23 rfl rfl
theorem dksX2_next_4 : cX2_next.data.toList.drop 93 = dktX2_next_4 := dk_seg dksX2_next_3 23 rfl rfl
theorem dksX2_next_5 : cX2_next.data.toList.drop 116 = dktX2_next_5 := dk_seg dksX2_next_4 23 rfl rfl
theorem dksX2_next_6 : cX2_next.data.toList.drop 139 = dktX2_next_6 := dk_seg dksX2_next_5 23 rfl rfl
theorem dksX2_next_7 : cX2_next.data.toList.drop 163 = dktX2_next_7 := dk_seg dksX2_next_6 24 rfl rfl
theorem dX2_next_0 : decode cX2_next 0 = .ok (.aload_n 0, 1) := dk_42 (dk_at dksX2_next_0 0 rfl rfl)
theorem dX2_next_1 : decode cX2_next 1 = .ok (.iload_n 1, 1) := dk_27 (dk_at dksX2_next_0 1 rfl rfl)
theorem dX2_next_2 : decode cX2_next 2 = .ok (.invokevirtual 352, 3) := dk_182 1 96 (dk_at dksX2_next_0 2 rfl rfl)
theorem dX2_next_5 : decode cX2_next 5 = .ok (.ifCond .eq 10, 3) := dk_153 0 10 (dk_at dksX2_next_0 5 rfl rfl)
theorem dX2_next_8 : decode cX2_next 8 = .ok (.lload_n 2, 1) := dk_32 (dk_at dksX2_next_0 8 rfl rfl)
theorem dX2_next_9 : decode cX2_next 9 = .ok (.invokestatic 313, 3) := dk_184 1 57 (dk_at dksX2_next_0 9 rfl rfl)
theorem dX2_next_12 : decode cX2_next 12 = .ok (.ifCond .ne 7, 3) := dk_154 0 7 (dk_at dksX2_next_0 12 rfl rfl)
theorem dX2_next_15 : decode cX2_next 15 = .ok (.ldc2_w 350, 3) := dk_20 1 94 (dk_at dksX2_next_0 15 rfl rfl)
theorem dX2_next_18 : decode cX2_next 18 = .ok (.lreturn, 1) := dk_173 (dk_at dksX2_next_0 18 rfl rfl)
theorem dX2_next_19 : decode cX2_next 19 = .ok (.aload_n 0, 1) := dk_42 (dk_at dksX2_next_0 19 rfl rfl)
theorem dX2_next_20 : decode cX2_next 20 = .ok (.invokevirtual 316, 3) := dk_182 1 60 (dk_at dksX2_next_0 20 rfl rfl)
theorem dX2_next_23 : decode cX2_next 23 = .ok (.aload_n 0, 1) := dk_42 (dk_at dksX2_next_0 23 rfl rfl)
theorem dX2_next_24 : decode cX2_next 24 = .ok (.getfield 7, 3) := dk_180 0 7 (dk_at dksX2_next_1 0 rfl rfl)
theorem dX2_next_27 : decode cX2_next 27 = .ok (.iconst 1, 1) := dk_4 (dk_at dksX2_next_1 3 rfl rfl)
theorem dX2_next_28 : decode cX2_next 28 = .ok (.iaload, 1) := dk_46 (dk_at dksX2_next_1 4 rfl rfl)
theorem dX2_next_29 : decode cX2_next 29 = .ok (.ifCond .le 10, 3) := dk_158 0 10 (dk_at dksX2_next_1 5 rfl rfl)
theorem dX2_next_32 : decode cX2_next 32 = .ok (.aload_n 0, 1) := dk_42 (dk_at dksX2_next_1 8 rfl rfl)
theorem dX2_next_33 : decode cX2_next 33 = .ok (.iload_n 1, 1) := dk_27 (dk_at dksX2_next_1 9 rfl rfl)
theorem dX2_next_34 : decode cX2_next 34 = .ok (.lload_n 2, 1) := dk_32 (dk_at dksX2_next_1 10 rfl rfl)
theorem dX2_next_35 : decode cX2_next 35 = .ok (.invokevirtual 355, 3) := dk_182 1 99 (dk_at dksX2_next_1 11 rfl rfl)
theorem dX2_next_38 : decode cX2_next 38 = .ok (.lreturn, 1) := dk_173 (dk_at dksX2_next_1 14 rfl rfl)
theorem dX2_next_39 : decode cX2_next 39 = .ok (.aload_n 0, 1) := dk_42 (dk_at dksX2_next_1 15 rfl rfl)
theorem dX2_next_40 : decode cX2_next 40 = .ok (.iload_n 1, 1) := dk_27 (dk_at dksX2_next_1 16 rfl rfl)
theorem dX2_next_41 : decode cX2_next 41 = .ok (.invokevirtual 359, 3) := dk_182 1 103 (dk_at dksX2_next_1 17 rfl rfl)
theorem dX2_next_44 : decode cX2_next 44 = .ok (.ifCond .ne 7, 3) := dk_154 0 7 (dk_at dksX2_next_1 20 rfl rfl)
theorem dX2_next_47 : decode cX2_next 47 = .ok (.ldc2_w 350, 3) := dk_20 1 94 (dk_at dksX2_next_2 0 rfl rfl)
theorem dX2_next_50 : decode cX2_next 50 = .ok (.lreturn, 1) := dk_173 (dk_at dksX2_next_2 3 rfl rfl)
theorem dX2_next_51 : decode cX2_next 51 = .ok (.iconst 0, 1) := dk_3 (dk_at dksX2_next_2 4 rfl rfl)
theorem dX2_next_52 : decode cX2_next 52 = .ok (.istore 4, 2) := dk_54 4 (dk_at dksX2_next_2 5 rfl rfl)
theorem dX2_next_54 : decode cX2_next 54 = .ok (.ldc2_w 340, 3) := dk_20 1 84 (dk_at dksX2_next_2 7 rfl rfl)
theorem dX2_next_57 : decode cX2_next 57 = .ok (.lstore 5, 2) := dk_55 5 (dk_at dksX2_next_2 10 rfl rfl)
theorem dX2_next_59 : decode cX2_next 59 = .ok (.iconst 0, 1) := dk_3 (dk_at dksX2_next_2 12 rfl rfl)
theorem dX2_next_60 : decode cX2_next 60 = .ok (.istore 7, 2) := dk_54 7 (dk_at dksX2_next_2 13 rfl rfl)
theorem dX2_next_62 : decode cX2_next 62 = .ok (.iload 7, 2) := dk_21 7 (dk_at dksX2_next_2 15 rfl rfl)
theorem dX2_next_64 : decode cX2_next 64 = .ok (.aload_n 0, 1) := dk_42 (dk_at dksX2_next_2 17 rfl rfl)
theorem dX2_next_65 : decode cX2_next 65 = .ok (.getfield 7, 3) := dk_180 0 7 (dk_at dksX2_next_2 18 rfl rfl)
theorem dX2_next_68 : decode cX2_next 68 = .ok (.iconst 2, 1) := dk_5 (dk_at dksX2_next_2 21 rfl rfl)
theorem dX2_next_69 : decode cX2_next 69 = .ok (.iaload, 1) := dk_46 (dk_at dksX2_next_2 22 rfl rfl)
theorem dX2_next_70 : decode cX2_next 70 = .ok (.if_icmp .ge 67, 3) := dk_162 0 67 (dk_at dksX2_next_3 0 rfl rfl)
theorem dX2_next_73 : decode cX2_next 73 = .ok (.aload_n 0, 1) := dk_42 (dk_at dksX2_next_3 3 rfl rfl)
theorem dX2_next_74 : decode cX2_next 74 = .ok (.iload_n 1, 1) := dk_27 (dk_at dksX2_next_3 4 rfl rfl)
theorem dX2_next_75 : decode cX2_next 75 = .ok (.iload 7, 2) := dk_21 7 (dk_at dksX2_next_3 5 rfl rfl)
theorem dX2_next_77 : decode cX2_next 77 = .ok (.invokevirtual 362, 3) := dk_182 1 106 (dk_at dksX2_next_3 7 rfl rfl)
theorem dX2_next_80 : decode cX2_next 80 = .ok (.ifCond .ne 6, 3) := dk_154 0 6 (dk_at dksX2_next_3 10 rfl rfl)
theorem dX2_next_83 : decode cX2_next 83 = .ok (.goto 48, 3) := dk_167 0 48 (dk_at dksX2_next_3 13 rfl rfl)
theorem dX2_next_86 : decode cX2_next 86 = .ok (.iconst 1, 1) := dk_4 (dk_at dksX2_next_3 16 rfl rfl)
theorem dX2_next_87 : decode cX2_next 87 = .ok (.istore 4, 2) := dk_54 4 (dk_at dksX2_next_3 17 rfl rfl)
theorem dX2_next_89 : decode cX2_next 89 = .ok (.aload_n 0, 1) := dk_42 (dk_at dksX2_next_3 19 rfl rfl)
theorem dX2_next_90 : decode cX2_next 90 = .ok (.iload_n 1, 1) := dk_27 (dk_at dksX2_next_3 20 rfl rfl)
theorem dX2_next_91 : decode cX2_next 91 = .ok (.iload 7, 2) := dk_21 7 (dk_at dksX2_next_3 21 rfl rfl)
theorem dX2_next_93 : decode cX2_next 93 = .ok (.invokevirtual 365, 3) := dk_182 1 109 (dk_at dksX2_next_4 0 rfl rfl)
theorem dX2_next_96 : decode cX2_next 96 = .ok (.ifCond .ne 6, 3) := dk_154 0 6 (dk_at dksX2_next_4 3 rfl rfl)
theorem dX2_next_99 : decode cX2_next 99 = .ok (.goto 32, 3) := dk_167 0 32 (dk_at dksX2_next_4 6 rfl rfl)
theorem dX2_next_102 : decode cX2_next 102 = .ok (.aload_n 0, 1) := dk_42 (dk_at dksX2_next_4 9 rfl rfl)
theorem dX2_next_103 : decode cX2_next 103 = .ok (.aload_n 0, 1) := dk_42 (dk_at dksX2_next_4 10 rfl rfl)
theorem dX2_next_104 : decode cX2_next 104 = .ok (.iload_n 1, 1) := dk_27 (dk_at dksX2_next_4 11 rfl rfl)
theorem dX2_next_105 : decode cX2_next 105 = .ok (.lload_n 2, 1) := dk_32 (dk_at dksX2_next_4 12 rfl rfl)
theorem dX2_next_106 : decode cX2_next 106 = .ok (.invokevirtual 368, 3) := dk_182 1 112 (dk_at dksX2_next_4 13 rfl rfl)
theorem dX2_next_109 : decode cX2_next 109 = .ok (.invokevirtual 371, 3) := dk_182 1 115 (dk_at dksX2_next_4 16 rfl rfl)
theorem dX2_next_112 : decode cX2_next 112 = .ok (.lstore 8, 2) := dk_55 8 (dk_at dksX2_next_4 19 rfl rfl)
theorem dX2_next_114 : decode cX2_next 114 = .ok (.lload 8, 2) := dk_22 8 (dk_at dksX2_next_4 21 rfl rfl)
theorem dX2_next_116 : decode cX2_next 116 = .ok (.lload 5, 2) := dk_22 5 (dk_at dksX2_next_5 0 rfl rfl)
theorem dX2_next_118 : decode cX2_next 118 = .ok (.lcmp, 1) := dk_148 (dk_at dksX2_next_5 2 rfl rfl)
theorem dX2_next_119 : decode cX2_next 119 = .ok (.ifCond .ge 8, 3) := dk_156 0 8 (dk_at dksX2_next_5 3 rfl rfl)
theorem dX2_next_122 : decode cX2_next 122 = .ok (.lload 8, 2) := dk_22 8 (dk_at dksX2_next_5 6 rfl rfl)
theorem dX2_next_124 : decode cX2_next 124 = .ok (.goto 5, 3) := dk_167 0 5 (dk_at dksX2_next_5 8 rfl rfl)
theorem dX2_next_127 : decode cX2_next 127 = .ok (.lload 5, 2) := dk_22 5 (dk_at dksX2_next_5 11 rfl rfl)
theorem dX2_next_129 : decode cX2_next 129 = .ok (.lstore 5, 2) := dk_55 5 (dk_at dksX2_next_5 13 rfl rfl)
theorem dX2_next_131 : decode cX2_next 131 = .ok (.iinc 7 1, 3) := dk_132 7 1 (dk_at dksX2_next_5 15 rfl rfl)
theorem dX2_next_134 : decode cX2_next 134 = .ok (.goto (-72), 3) := dk_167 255 184 (dk_at dksX2_next_5 18 rfl rfl)
theorem dX2_next_137 : decode cX2_next 137 = .ok (.iload 4, 2) := dk_21 4 (dk_at dksX2_next_5 21 rfl rfl)
theorem dX2_next_139 : decode cX2_next 139 = .ok (.ifCond .ne 9, 3) := dk_154 0 9 (dk_at dksX2_next_6 0 rfl rfl)
theorem dX2_next_142 : decode cX2_next 142 = .ok (.ldc2_w 350, 3) := dk_20 1 94 (dk_at dksX2_next_6 3 rfl rfl)
theorem dX2_next_145 : decode cX2_next 145 = .ok (.goto 20, 3) := dk_167 0 20 (dk_at dksX2_next_6 6 rfl rfl)
theorem dX2_next_148 : decode cX2_next 148 = .ok (.lload 5, 2) := dk_22 5 (dk_at dksX2_next_6 9 rfl rfl)
theorem dX2_next_150 : decode cX2_next 150 = .ok (.ldc2_w 108, 3) := dk_20 0 108 (dk_at dksX2_next_6 11 rfl rfl)
theorem dX2_next_153 : decode cX2_next 153 = .ok (.lcmp, 1) := dk_148 (dk_at dksX2_next_6 14 rfl rfl)
theorem dX2_next_154 : decode cX2_next 154 = .ok (.ifCond .le 9, 3) := dk_158 0 9 (dk_at dksX2_next_6 15 rfl rfl)
theorem dX2_next_157 : decode cX2_next 157 = .ok (.ldc2_w 348, 3) := dk_20 1 92 (dk_at dksX2_next_6 18 rfl rfl)
theorem dX2_next_160 : decode cX2_next 160 = .ok (.goto 5, 3) := dk_167 0 5 (dk_at dksX2_next_6 21 rfl rfl)
theorem dX2_next_163 : decode cX2_next 163 = .ok (.lload 5, 2) := dk_22 5 (dk_at dksX2_next_7 0 rfl rfl)
theorem dX2_next_165 : decode cX2_next 165 = .ok (.lreturn, 1) := dk_173 (dk_at dksX2_next_7 2 rfl rfl)
abbrev cX2_isSet : ByteArray := prog_17_method_5_code
def yX2_isSet : MethodName := ⟨RX2, "isSet", "(I)Z"⟩
def dkwX2_isSet_0 : List UInt8 := [27, 4, 4, 42, 180, 0, 7, 3, 46, 120, 4, 100, 184, 0, 104, 172]
abbrev dktX2_isSet_0 : List UInt8 := dkwX2_isSet_0 ++ []
theorem dksX2_isSet_0 : cX2_isSet.data.toList.drop 0 = dktX2_isSet_0 := by decide +kernel
theorem dX2_isSet_0 : decode cX2_isSet 0 = .ok (.iload_n 1, 1) := dk_27 (dk_at dksX2_isSet_0 0 rfl rfl)
theorem dX2_isSet_1 : decode cX2_isSet 1 = .ok (.iconst 1, 1) := dk_4 (dk_at dksX2_isSet_0 1 rfl rfl)
theorem dX2_isSet_2 : decode cX2_isSet 2 = .ok (.iconst 1, 1) := dk_4 (dk_at dksX2_isSet_0 2 rfl rfl)
theorem dX2_isSet_3 : decode cX2_isSet 3 = .ok (.aload_n 0, 1) := dk_42 (dk_at dksX2_isSet_0 3 rfl rfl)
theorem dX2_isSet_4 : decode cX2_isSet 4 = .ok (.getfield 7, 3) := dk_180 0 7 (dk_at dksX2_isSet_0 4 rfl rfl)
theorem dX2_isSet_7 : decode cX2_isSet 7 = .ok (.iconst 0, 1) := dk_3 (dk_at dksX2_isSet_0 7 rfl rfl)
theorem dX2_isSet_8 : decode cX2_isSet 8 = .ok (.iaload, 1) := dk_46 (dk_at dksX2_isSet_0 8 rfl rfl)
theorem dX2_isSet_9 : decode cX2_isSet 9 = .ok (.ishl, 1) := dk_120 (dk_at dksX2_isSet_0 9 rfl rfl)
theorem dX2_isSet_10 : decode cX2_isSet 10 = .ok (.iconst 1, 1) := dk_4 (dk_at dksX2_isSet_0 10 rfl rfl)
theorem dX2_isSet_11 : decode cX2_isSet 11 = .ok (.isub, 1) := dk_100 (dk_at dksX2_isSet_0 11 rfl rfl)
theorem dX2_isSet_12 : decode cX2_isSet 12 = .ok (.invokestatic 104, 3) := dk_184 0 104 (dk_at dksX2_isSet_0 12 rfl rfl)
theorem dX2_isSet_15 : decode cX2_isSet 15 = .ok (.ireturn, 1) := dk_172 (dk_at dksX2_isSet_0 15 rfl rfl)
abbrev cX2_nextByDay : ByteArray := prog_17_method_74_code
def yX2_nextByDay : MethodName := ⟨RX2, "nextByDay", "(IJ)J"⟩
def dkwX2_nextByDay_2 : List UInt8 := [97, 55, 4, 167, 255, 209, 20, 1, 94, 173]
abbrev dktX2_nextByDay_2 : List UInt8 := dkwX2_nextByDay_2 ++ []
def dkwX2_nextByDay_1 : List UInt8 := [153, 0, 21, 22, 4, 20, 0, 108, 148, 158, 0, 9, 20, 1, 92, 167, 0, 5, 22, 4, 173, 22, 4, 10]
abbrev dktX2_nextByDay_1 : List UInt8 := dkwX2_nextByDay_1 ++ dktX2_nextByDay_2
def dkwX2_nextByDay_0 : List UInt8 := [32, 55, 4, 22, 4, 32, 42, 182, 1, 86, 133, 97, 148, 156, 0, 40, 42, 27, 22, 4, 182, 1, 89]
abbrev dktX2_nextByDay_0 : List UInt8 := dkwX2_nextByDay_0 ++ dktX2_nextByDay_1
theorem dksX2_nextByDay_0 : cX2_nextByDay.data.toList.drop 0 = dktX2_nextByDay_0 := by decide +kernel
theorem dksX2_nextByDay_1 : cX2_nextByDay.data.toList.drop 23 = dktX2_nextByDay_1 := dk_seg dksX2_nextByDay_0 23 rfl rfl
theorem dksX2_nextByDay_2 : cX2_nextByDay.data.toList.drop 47 = dktX2_nextByDay_2 := dk_seg dksX2_nextByDay_1 24 rfl rfl
theorem dX2_nextByDay_0 : decode cX2_nextByDay 0 = .ok (.lload_n 2, 1) := dk_32 (dk_at dksX2_nextByDay_0 0 rfl rfl)
theorem dX2_nextByDay_1 : decode cX2_nextByDay 1 = .ok (.lstore 4, 2) := dk_55 4 (dk_at dksX2_nextByDay_0 1 rfl rfl)
theorem dX2_nextByDay_3 : decode cX2_nextByDay 3 = .ok (.lload 4, 2) := dk_22 4 (dk_at dksX2_nextByDay_0 3 rfl rfl)
theorem dX2_nextByDay_5 : decode cX2_nextByDay 5 = .ok (.lload_n 2, 1) := dk_32 (dk_at dksX2_nextByDay_0 5 rfl rfl)
theorem dX2_nextByDay_6 : decode cX2_nextByDay 6 = .ok (.aload_n 0, 1) := dk_42 (dk_at dksX2_nextByDay_0 6 rfl rfl)
theorem dX2_nextByDay_7 : decode cX2_nextByDay 7 = .ok (.invokevirtual 342, 3) := dk_182 1 86 (dk_at dksX2_nextByDay_0 7 rfl rfl)
theorem dX2_nextByDay_10 : decode cX2_nextByDay 10 = .ok (.i2l, 1) := dk_133 (dk_at dksX2_nextByDay_0 10 rfl rfl)
theorem dX2_nextByDay_11 : decode cX2_nextByDay 11 = .ok (.ladd, 1) := dk_97 (dk_at dksX2_nextByDay_0 11 rfl rfl)
theorem dX2_nextByDay_12 : decode cX2_nextByDay 12 = .ok (.lcmp, 1) := dk_148 (dk_at dksX2_nextByDay_0 12 rfl rfl)
theorem dX2_nextByDay_13 : decode cX2_nextByDay 13 = .ok (.ifCond .ge 40, 3) := dk_156 0 40 (dk_at dksX2_nextByDay_0 13 rfl rfl)
theorem dX2_nextByDay_16 : decode cX2_nextByDay 16 = .ok (.aload_n 0, 1) := dk_42 (dk_at dksX2_nextByDay_0 16 rfl rfl)
theorem dX2_nextByDay_17 : decode cX2_nextByDay 17 = .ok (.iload_n 1, 1) := dk_27 (dk_at dksX2_nextByDay_0 17 rfl rfl)
theorem dX2_nextByDay_18 : decode cX2_nextByDay 18 = .ok (.lload 4, 2) := dk_22 4 (dk_at dksX2_nextByDay_0 18 rfl rfl)
theorem dX2_nextByDay_20 : decode cX2_nextByDay 20 = .ok (.invokevirtual 345, 3) := dk_182 1 89 (dk_at dksX2_nextByDay_0 20 rfl rfl)
theorem dX2_nextByDay_23 : decode cX2_nextByDay 23 = .ok (.ifCond .eq 21, 3) := dk_153 0 21 (dk_at dksX2_nextByDay_1 0 rfl rfl)
theorem dX2_nextByDay_26 : decode cX2_nextByDay 26 = .ok (.lload 4, 2) := dk_22 4 (dk_at dksX2_nextByDay_1 3 rfl rfl)
theorem dX2_nextByDay_28 : decode cX2_nextByDay 28 = .ok (.ldc2_w 108, 3) := dk_20 0 108 (dk_at dksX2_nextByDay_1 5 rfl rfl)
theorem dX2_nextByDay_31 : decode cX2_nextByDay 31 = .ok (.lcmp, 1) := dk_148 (dk_at dksX2_nextByDay_1 8 rfl rfl)
theorem dX2_nextByDay_32 : decode cX2_nextByDay 32 = .ok (.ifCond .le 9, 3) := dk_158 0 9 (dk_at dksX2_nextByDay_1 9 rfl rfl)
theorem dX2_nextByDay_35 : decode cX2_nextByDay 35 = .ok (.ldc2_w 348, 3) := dk_20 1 92 (dk_at dksX2_nextByDay_1 12 rfl rfl)
theorem dX2_nextByDay_38 : decode cX2_nextByDay 38 = .ok (.goto 5, 3) := dk_167 0 5 (dk_at dksX2_nextByDay_1 15 rfl rfl)
theorem dX2_nextByDay_41 : decode cX2_nextByDay 41 = .ok (.lload 4, 2) := dk_22 4 (dk_at dksX2_nextByDay_1 18 rfl rfl)
theorem dX2_nextByDay_43 : decode cX2_nextByDay 43 = .ok (.lreturn, 1) := dk_173 (dk_at dksX2_nextByDay_1 20 rfl rfl)
theorem dX2_nextByDay_44 : decode cX2_nextByDay 44 = .ok (.lload 4, 2) := dk_22 4 (dk_at dksX2_nextByDay_1 21 rfl rfl)
theorem dX2_nextByDay_46 : decode cX2_nextByDay 46 = .ok (.lconst 1, 1) := dk_10 (dk_at dksX2_nextByDay_1 23 rfl rfl)
theorem dX2_nextByDay_47 : decode cX2_nextByDay 47 = .ok (.ladd, 1) := dk_97 (dk_at dksX2_nextByDay_2 0 rfl rfl)
theorem dX2_nextByDay_48 : decode cX2_nextByDay 48 = .ok (.lstore 4, 2) := dk_55 4 (dk_at dksX2_nextByDay_2 1 rfl rfl)
theorem dX2_nextByDay_50 : decode cX2_nextByDay 50 = .ok (.goto (-47), 3) := dk_167 255 209 (dk_at dksX2_nextByDay_2 3 rfl rfl)
theorem dX2_nextByDay_53 : decode cX2_nextByDay 53 = .ok (.ldc2_w 350, 3) := dk_20 1 94 (dk_at dksX2_nextByDay_2 6 rfl rfl)
theorem dX2_nextByDay_56 : decode cX2_nextByDay 56 = .ok (.lreturn, 1) := dk_173 (dk_at dksX2_nextByDay_2 9 rfl rfl)
abbrev cX2_turnRound : ByteArray := prog_17_method_73_code
def yX2_turnRound : MethodName := ⟨RX2, "turnRound", "()I"⟩
def dkwX2_turnRound_1 : List UInt8 := [109, 42, 180, 0, 7, 5, 46, 133, 105, 136, 172]
abbrev dktX2_turnRound_1 : List UInt8 := dkwX2_turnRound_1 ++ []
def dkwX2_turnRound_0 : List UInt8 := [42, 180, 0, 7, 4, 46, 133, 42, 180, 0, 7, 4, 46, 133, 42, 180, 0, 7, 5, 46, 133, 184, 1, 71]
abbrev dktX2_turnRound_0 : List UInt8 := dkwX2_turnRound_0 ++ dktX2_turnRound_1
theorem dksX2_turnRound_0 : cX2_turnRound.data.toList.drop 0 = dktX2_turnRound_0 := by decide +kernel
theorem dksX2_turnRound_1 : cX2_turnRound.data.toList.drop 24 = dktX2_turnRound_1 := dk_seg dksX2_turnRound_0 24 rfl rfl
theorem dX2_turnRound_0 : decode cX2_turnRound 0 = .ok (.aload_n 0, 1) := dk_42 (dk_at dksX2_turnRound_0 0 rfl rfl)
theorem dX2_turnRound_1 : decode cX2_turnRound 1 = .ok (.getfield 7, 3) := dk_180 0 7 (dk_at dksX2_turnRound_0 1 rfl rfl)
theorem dX2_turnRound_4 : decode cX2_turnRound 4 = .ok (.iconst 1, 1) := dk_4 (dk_at dksX2_turnRound_0 4 rfl rfl)
theorem dX2_turnRound_5 : decode cX2_turnRound 5 = .ok (.iaload, 1) := dk_46 (dk_at dksX2_turnRound_0 5 rfl rfl)
theorem dX2_turnRound_6 : decode cX2_turnRound 6 = .ok (.i2l, 1) := dk_133 (dk_at dksX2_turnRound_0 6 rfl rfl)
theorem dX2_turnRound_7 : decode cX2_turnRound 7 = .ok (.aload_n 0, 1) := dk_42 (dk_at dksX2_turnRound_0 7 rfl rfl)
theorem dX2_turnRound_8 : decode cX2_turnRound 8 = .ok (.getfield 7, 3) := dk_180 0 7 (dk_at dksX2_turnRound_0 8 rfl rfl)
theorem dX2_turnRound_11 : decode cX2_turnRound 11 = .ok (.iconst 1, 1) := dk_4 (dk_at dksX2_turnRound_0 11 rfl rfl)
theorem dX2_turnRound_12 : decode cX2_turnRound 12 = .ok (.iaload, 1) := dk_46 (dk_at dksX2_turnRound_0 12 rfl rfl)
theorem dX2_turnRound_13 : decode cX2_turnRound 13 = .ok (.i2l, 1) := dk_133 (dk_at dksX2_turnRound_0 13 rfl rfl)
theorem dX2_turnRound_14 : decode cX2_turnRound 14 = .ok (.aload_n 0, 1) := dk_42 (dk_at dksX2_turnRound_0 14 rfl rfl)
theorem dX2_turnRound_15 : decode cX2_turnRound 15 = .ok (.getfield 7, 3) := dk_180 0 7 (dk_at dksX2_turnRound_0 15 rfl rfl)
theorem dX2_turnRound_18 : decode cX2_turnRound 18 = .ok (.iconst 2, 1) := dk_5 (dk_at dksX2_turnRound_0 18 rfl rfl)
theorem dX2_turnRound_19 : decode cX2_turnRound 19 = .ok (.iaload, 1) := dk_46 (dk_at dksX2_turnRound_0 19 rfl rfl)
theorem dX2_turnRound_20 : decode cX2_turnRound 20 = .ok (.i2l, 1) := dk_133 (dk_at dksX2_turnRound_0 20 rfl rfl)
theorem dX2_turnRound_21 : decode cX2_turnRound 21 = .ok (.invokestatic 327, 3) := dk_184 1 71 (dk_at dksX2_turnRound_0 21 rfl rfl)
theorem dX2_turnRound_24 : decode cX2_turnRound 24 = .ok (.ldiv, 1) := dk_109 (dk_at dksX2_turnRound_1 0 rfl rfl)
theorem dX2_turnRound_25 : decode cX2_turnRound 25 = .ok (.aload_n 0, 1) := dk_42 (dk_at dksX2_turnRound_1 1 rfl rfl)
theorem dX2_turnRound_26 : decode cX2_turnRound 26 = .ok (.getfield 7, 3) := dk_180 0 7 (dk_at dksX2_turnRound_1 2 rfl rfl)
theorem dX2_turnRound_29 : decode cX2_turnRound 29 = .ok (.iconst 2, 1) := dk_5 (dk_at dksX2_turnRound_1 5 rfl rfl)
theorem dX2_turnRound_30 : decode cX2_turnRound 30 = .ok (.iaload, 1) := dk_46 (dk_at dksX2_turnRound_1 6 rfl rfl)
theorem dX2_turnRound_31 : decode cX2_turnRound 31 = .ok (.i2l, 1) := dk_133 (dk_at dksX2_turnRound_1 7 rfl rfl)
theorem dX2_turnRound_32 : decode cX2_turnRound 32 = .ok (.lmul, 1) := dk_105 (dk_at dksX2_turnRound_1 8 rfl rfl)
theorem dX2_turnRound_33 : decode cX2_turnRound 33 = .ok (.l2i, 1) := dk_136 (dk_at dksX2_turnRound_1 9 rfl rfl)
theorem dX2_turnRound_34 : decode cX2_turnRound 34 = .ok (.ireturn, 1) := dk_172 (dk_at dksX2_turnRound_1 10 rfl rfl)
abbrev cX2_common : ByteArray := prog_17_method_64_code
def yX2_common : MethodName := ⟨RX2, "common", "(JJ)J"⟩
def dkwX2_common_1 : List UInt8 := [22, 8, 55, 6, 167, 255, 234, 22, 4, 173]
abbrev dktX2_common_1 : List UInt8 := dkwX2_common_1 ++ []
def dkwX2_common_0 : List UInt8 := [30, 55, 4, 32, 55, 6, 22, 6, 9, 148, 153, 0, 21, 22, 4, 22, 6, 113, 55, 8, 22, 6, 55, 4]
abbrev dktX2_common_0 : List UInt8 := dkwX2_common_0 ++ dktX2_common_1
theorem dksX2_common_0 : cX2_common.data.toList.drop 0 = dktX2_common_0 := by decide +kernel
theorem dksX2_common_1 : cX2_common.data.toList.drop 24 = dktX2_common_1 := dk_seg dksX2_common_0 24 rfl rfl
theorem dX2_common_0 : decode cX2_common 0 = .ok (.lload_n 0, 1) := dk_30 (dk_at dksX2_common_0 0 rfl rfl)
theorem dX2_common_1 : decode cX2_common 1 = .ok (.lstore 4, 2) := dk_55 4 (dk_at dksX2_common_0 1 rfl rfl)
theorem dX2_common_3 : decode cX2_common 3 = .ok (.lload_n 2, 1) := dk_32 (dk_at dksX2_common_0 3 rfl rfl)
theorem dX2_common_4 : decode cX2_common 4 = .ok (.lstore 6, 2) := dk_55 6 (dk_at dksX2_common_0 4 rfl rfl)
theorem dX2_common_6 : decode cX2_common 6 = .ok (.lload 6, 2) := dk_22 6 (dk_at dksX2_common_0 6 rfl rfl)
theorem dX2_common_8 : decode cX2_common 8 = .ok (.lconst 0, 1) := dk_9 (dk_at dksX2_common_0 8 rfl rfl)
theorem dX2_common_9 : decode cX2_common 9 = .ok (.lcmp, 1) := dk_148 (dk_at dksX2_common_0 9 rfl rfl)
theorem dX2_common_10 : decode cX2_common 10 = .ok (.ifCond .eq 21, 3) := dk_153 0 21 (dk_at dksX2_common_0 10 rfl rfl)
theorem dX2_common_13 : decode cX2_common 13 = .ok (.lload 4, 2) := dk_22 4 (dk_at dksX2_common_0 13 rfl rfl)
theorem dX2_common_15 : decode cX2_common 15 = .ok (.lload 6, 2) := dk_22 6 (dk_at dksX2_common_0 15 rfl rfl)
theorem dX2_common_17 : decode cX2_common 17 = .ok (.lrem, 1) := dk_113 (dk_at dksX2_common_0 17 rfl rfl)
theorem dX2_common_18 : decode cX2_common 18 = .ok (.lstore 8, 2) := dk_55 8 (dk_at dksX2_common_0 18 rfl rfl)
theorem dX2_common_20 : decode cX2_common 20 = .ok (.lload 6, 2) := dk_22 6 (dk_at dksX2_common_0 20 rfl rfl)
theorem dX2_common_22 : decode cX2_common 22 = .ok (.lstore 4, 2) := dk_55 4 (dk_at dksX2_common_0 22 rfl rfl)
theorem dX2_common_24 : decode cX2_common 24 = .ok (.lload 8, 2) := dk_22 8 (dk_at dksX2_common_1 0 rfl rfl)
theorem dX2_common_26 : decode cX2_common 26 = .ok (.lstore 6, 2) := dk_55 6 (dk_at dksX2_common_1 2 rfl rfl)
theorem dX2_common_28 : decode cX2_common 28 = .ok (.goto (-22), 3) := dk_167 255 234 (dk_at dksX2_common_1 4 rfl rfl)
theorem dX2_common_31 : decode cX2_common 31 = .ok (.lload 4, 2) := dk_22 4 (dk_at dksX2_common_1 7 rfl rfl)
theorem dX2_common_33 : decode cX2_common 33 = .ok (.lreturn, 1) := dk_173 (dk_at dksX2_common_1 9 rfl rfl)
abbrev cX2_doAll : ByteArray := prog_17_method_62_code
def yX2_doAll : MethodName := ⟨RX2, "doAll", "(IJ)Z"⟩
def dkwX2_doAll_1 : List UInt8 := [21, 4, 32, 182, 1, 51, 154, 0, 5, 3, 172, 132, 4, 1, 167, 255, 221, 4, 172]
abbrev dktX2_doAll_1 : List UInt8 := dkwX2_doAll_1 ++ []
def dkwX2_doAll_0 : List UInt8 := [3, 54, 4, 21, 4, 42, 180, 0, 7, 3, 46, 162, 0, 30, 27, 21, 4, 184, 1, 54, 153, 0, 15, 42]
abbrev dktX2_doAll_0 : List UInt8 := dkwX2_doAll_0 ++ dktX2_doAll_1
theorem dksX2_doAll_0 : cX2_doAll.data.toList.drop 0 = dktX2_doAll_0 := by decide +kernel
theorem dksX2_doAll_1 : cX2_doAll.data.toList.drop 24 = dktX2_doAll_1 := dk_seg dksX2_doAll_0 24 rfl rfl
theorem dX2_doAll_0 : decode cX2_doAll 0 = .ok (.iconst 0, 1) := dk_3 (dk_at dksX2_doAll_0 0 rfl rfl)
theorem dX2_doAll_1 : decode cX2_doAll 1 = .ok (.istore 4, 2) := dk_54 4 (dk_at dksX2_doAll_0 1 rfl rfl)
theorem dX2_doAll_3 : decode cX2_doAll 3 = .ok (.iload 4, 2) := dk_21 4 (dk_at dksX2_doAll_0 3 rfl rfl)
theorem dX2_doAll_5 : decode cX2_doAll 5 = .ok (.aload_n 0, 1) := dk_42 (dk_at dksX2_doAll_0 5 rfl rfl)
theorem dX2_doAll_6 : decode cX2_doAll 6 = .ok (.getfield 7, 3) := dk_180 0 7 (dk_at dksX2_doAll_0 6 rfl rfl)
theorem dX2_doAll_9 : decode cX2_doAll 9 = .ok (.iconst 0, 1) := dk_3 (dk_at dksX2_doAll_0 9 rfl rfl)
theorem dX2_doAll_10 : decode cX2_doAll 10 = .ok (.iaload, 1) := dk_46 (dk_at dksX2_doAll_0 10 rfl rfl)
theorem dX2_doAll_11 : decode cX2_doAll 11 = .ok (.if_icmp .ge 30, 3) := dk_162 0 30 (dk_at dksX2_doAll_0 11 rfl rfl)
theorem dX2_doAll_14 : decode cX2_doAll 14 = .ok (.iload_n 1, 1) := dk_27 (dk_at dksX2_doAll_0 14 rfl rfl)
theorem dX2_doAll_15 : decode cX2_doAll 15 = .ok (.iload 4, 2) := dk_21 4 (dk_at dksX2_doAll_0 15 rfl rfl)
theorem dX2_doAll_17 : decode cX2_doAll 17 = .ok (.invokestatic 310, 3) := dk_184 1 54 (dk_at dksX2_doAll_0 17 rfl rfl)
theorem dX2_doAll_20 : decode cX2_doAll 20 = .ok (.ifCond .eq 15, 3) := dk_153 0 15 (dk_at dksX2_doAll_0 20 rfl rfl)
theorem dX2_doAll_23 : decode cX2_doAll 23 = .ok (.aload_n 0, 1) := dk_42 (dk_at dksX2_doAll_0 23 rfl rfl)
theorem dX2_doAll_24 : decode cX2_doAll 24 = .ok (.iload 4, 2) := dk_21 4 (dk_at dksX2_doAll_1 0 rfl rfl)
theorem dX2_doAll_26 : decode cX2_doAll 26 = .ok (.lload_n 2, 1) := dk_32 (dk_at dksX2_doAll_1 2 rfl rfl)
theorem dX2_doAll_27 : decode cX2_doAll 27 = .ok (.invokevirtual 307, 3) := dk_182 1 51 (dk_at dksX2_doAll_1 3 rfl rfl)
theorem dX2_doAll_30 : decode cX2_doAll 30 = .ok (.ifCond .ne 5, 3) := dk_154 0 5 (dk_at dksX2_doAll_1 6 rfl rfl)
theorem dX2_doAll_33 : decode cX2_doAll 33 = .ok (.iconst 0, 1) := dk_3 (dk_at dksX2_doAll_1 9 rfl rfl)
theorem dX2_doAll_34 : decode cX2_doAll 34 = .ok (.ireturn, 1) := dk_172 (dk_at dksX2_doAll_1 10 rfl rfl)
theorem dX2_doAll_35 : decode cX2_doAll 35 = .ok (.iinc 4 1, 3) := dk_132 4 1 (dk_at dksX2_doAll_1 11 rfl rfl)
theorem dX2_doAll_38 : decode cX2_doAll 38 = .ok (.goto (-35), 3) := dk_167 255 221 (dk_at dksX2_doAll_1 14 rfl rfl)
theorem dX2_doAll_41 : decode cX2_doAll 41 = .ok (.iconst 1, 1) := dk_4 (dk_at dksX2_doAll_1 17 rfl rfl)
theorem dX2_doAll_42 : decode cX2_doAll 42 = .ok (.ireturn, 1) := dk_172 (dk_at dksX2_doAll_1 18 rfl rfl)
abbrev cX2_has : ByteArray := prog_17_method_7_code
def yX2_has : MethodName := ⟨RX2, "has", "(II)Z"⟩
def dkwX2_has_0 : List UInt8 := [26, 27, 122, 4, 126, 4, 160, 0, 7, 4, 167, 0, 4, 3, 172]
abbrev dktX2_has_0 : List UInt8 := dkwX2_has_0 ++ []
theorem dksX2_has_0 : cX2_has.data.toList.drop 0 = dktX2_has_0 := by decide +kernel
theorem dX2_has_0 : decode cX2_has 0 = .ok (.iload_n 0, 1) := dk_26 (dk_at dksX2_has_0 0 rfl rfl)
theorem dX2_has_1 : decode cX2_has 1 = .ok (.iload_n 1, 1) := dk_27 (dk_at dksX2_has_0 1 rfl rfl)
theorem dX2_has_2 : decode cX2_has 2 = .ok (.ishr, 1) := dk_122 (dk_at dksX2_has_0 2 rfl rfl)
theorem dX2_has_3 : decode cX2_has 3 = .ok (.iconst 1, 1) := dk_4 (dk_at dksX2_has_0 3 rfl rfl)
theorem dX2_has_4 : decode cX2_has 4 = .ok (.iand, 1) := dk_126 (dk_at dksX2_has_0 4 rfl rfl)
theorem dX2_has_5 : decode cX2_has 5 = .ok (.iconst 1, 1) := dk_4 (dk_at dksX2_has_0 5 rfl rfl)
theorem dX2_has_6 : decode cX2_has 6 = .ok (.if_icmp .ne 7, 3) := dk_160 0 7 (dk_at dksX2_has_0 6 rfl rfl)
theorem dX2_has_9 : decode cX2_has 9 = .ok (.iconst 1, 1) := dk_4 (dk_at dksX2_has_0 9 rfl rfl)
theorem dX2_has_10 : decode cX2_has 10 = .ok (.goto 4, 3) := dk_167 0 4 (dk_at dksX2_has_0 10 rfl rfl)
theorem dX2_has_13 : decode cX2_has 13 = .ok (.iconst 0, 1) := dk_3 (dk_at dksX2_has_0 13 rfl rfl)
theorem dX2_has_14 : decode cX2_has 14 = .ok (.ireturn, 1) := dk_172 (dk_at dksX2_has_0 14 rfl rfl)
abbrev cX2_areJoined : ByteArray := prog_17_method_68_code
def yX2_areJoined : MethodName := ⟨RX2, "areJoined", "(I)Z"⟩
def dkwX2_areJoined_2 : List UInt8 := [132, 3, 1, 167, 255, 221, 132, 2, 1, 167, 255, 203, 4, 172]
abbrev dktX2_areJoined_2 : List UInt8 := dkwX2_areJoined_2 ++ []
def dkwX2_areJoined_1 : List UInt8 := [153, 0, 22, 27, 29, 184, 1, 54, 153, 0, 14, 42, 28, 29, 182, 1, 78, 154, 0, 5, 3, 172]
abbrev dktX2_areJoined_1 : List UInt8 := dkwX2_areJoined_1 ++ dktX2_areJoined_2
def dkwX2_areJoined_0 : List UInt8 := [3, 61, 28, 42, 180, 0, 7, 3, 46, 162, 0, 49, 3, 62, 29, 28, 162, 0, 36, 27, 28, 184, 1, 54]
abbrev dktX2_areJoined_0 : List UInt8 := dkwX2_areJoined_0 ++ dktX2_areJoined_1
theorem dksX2_areJoined_0 : cX2_areJoined.data.toList.drop 0 = dktX2_areJoined_0 := by decide +kernel
theorem dksX2_areJoined_1 : cX2_areJoined.data.toList.drop 24 = dktX2_areJoined_1 := dk_seg dksX2_areJoined_0 24 rfl rfl
theorem dksX2_areJoined_2 : cX2_areJoined.data.toList.drop 46 = dktX2_areJoined_2 := dk_seg dksX2_areJoined_1 22 rfl rfl
theorem dX2_areJoined_0 : decode cX2_areJoined 0 = .ok (.iconst 0, 1) := dk_3 (dk_at dksX2_areJoined_0 0 rfl rfl)
theorem dX2_areJoined_1 : decode cX2_areJoined 1 = .ok (.istore_n 2, 1) := dk_61 (dk_at dksX2_areJoined_0 1 rfl rfl)
theorem dX2_areJoined_2 : decode cX2_areJoined 2 = .ok (.iload_n 2, 1) := dk_28 (dk_at dksX2_areJoined_0 2 rfl rfl)
theorem dX2_areJoined_3 : decode cX2_areJoined 3 = .ok (.aload_n 0, 1) := dk_42 (dk_at dksX2_areJoined_0 3 rfl rfl)
theorem dX2_areJoined_4 : decode cX2_areJoined 4 = .ok (.getfield 7, 3) := dk_180 0 7 (dk_at dksX2_areJoined_0 4 rfl rfl)
theorem dX2_areJoined_7 : decode cX2_areJoined 7 = .ok (.iconst 0, 1) := dk_3 (dk_at dksX2_areJoined_0 7 rfl rfl)
theorem dX2_areJoined_8 : decode cX2_areJoined 8 = .ok (.iaload, 1) := dk_46 (dk_at dksX2_areJoined_0 8 rfl rfl)
theorem dX2_areJoined_9 : decode cX2_areJoined 9 = .ok (.if_icmp .ge 49, 3) := dk_162 0 49 (dk_at dksX2_areJoined_0 9 rfl rfl)
theorem dX2_areJoined_12 : decode cX2_areJoined 12 = .ok (.iconst 0, 1) := dk_3 (dk_at dksX2_areJoined_0 12 rfl rfl)
theorem dX2_areJoined_13 : decode cX2_areJoined 13 = .ok (.istore_n 3, 1) := dk_62 (dk_at dksX2_areJoined_0 13 rfl rfl)
theorem dX2_areJoined_14 : decode cX2_areJoined 14 = .ok (.iload_n 3, 1) := dk_29 (dk_at dksX2_areJoined_0 14 rfl rfl)
theorem dX2_areJoined_15 : decode cX2_areJoined 15 = .ok (.iload_n 2, 1) := dk_28 (dk_at dksX2_areJoined_0 15 rfl rfl)
theorem dX2_areJoined_16 : decode cX2_areJoined 16 = .ok (.if_icmp .ge 36, 3) := dk_162 0 36 (dk_at dksX2_areJoined_0 16 rfl rfl)
theorem dX2_areJoined_19 : decode cX2_areJoined 19 = .ok (.iload_n 1, 1) := dk_27 (dk_at dksX2_areJoined_0 19 rfl rfl)
theorem dX2_areJoined_20 : decode cX2_areJoined 20 = .ok (.iload_n 2, 1) := dk_28 (dk_at dksX2_areJoined_0 20 rfl rfl)
theorem dX2_areJoined_21 : decode cX2_areJoined 21 = .ok (.invokestatic 310, 3) := dk_184 1 54 (dk_at dksX2_areJoined_0 21 rfl rfl)
theorem dX2_areJoined_24 : decode cX2_areJoined 24 = .ok (.ifCond .eq 22, 3) := dk_153 0 22 (dk_at dksX2_areJoined_1 0 rfl rfl)
theorem dX2_areJoined_27 : decode cX2_areJoined 27 = .ok (.iload_n 1, 1) := dk_27 (dk_at dksX2_areJoined_1 3 rfl rfl)
theorem dX2_areJoined_28 : decode cX2_areJoined 28 = .ok (.iload_n 3, 1) := dk_29 (dk_at dksX2_areJoined_1 4 rfl rfl)
theorem dX2_areJoined_29 : decode cX2_areJoined 29 = .ok (.invokestatic 310, 3) := dk_184 1 54 (dk_at dksX2_areJoined_1 5 rfl rfl)
theorem dX2_areJoined_32 : decode cX2_areJoined 32 = .ok (.ifCond .eq 14, 3) := dk_153 0 14 (dk_at dksX2_areJoined_1 8 rfl rfl)
theorem dX2_areJoined_35 : decode cX2_areJoined 35 = .ok (.aload_n 0, 1) := dk_42 (dk_at dksX2_areJoined_1 11 rfl rfl)
theorem dX2_areJoined_36 : decode cX2_areJoined 36 = .ok (.iload_n 2, 1) := dk_28 (dk_at dksX2_areJoined_1 12 rfl rfl)
theorem dX2_areJoined_37 : decode cX2_areJoined 37 = .ok (.iload_n 3, 1) := dk_29 (dk_at dksX2_areJoined_1 13 rfl rfl)
theorem dX2_areJoined_38 : decode cX2_areJoined 38 = .ok (.invokevirtual 334, 3) := dk_182 1 78 (dk_at dksX2_areJoined_1 14 rfl rfl)
theorem dX2_areJoined_41 : decode cX2_areJoined 41 = .ok (.ifCond .ne 5, 3) := dk_154 0 5 (dk_at dksX2_areJoined_1 17 rfl rfl)
theorem dX2_areJoined_44 : decode cX2_areJoined 44 = .ok (.iconst 0, 1) := dk_3 (dk_at dksX2_areJoined_1 20 rfl rfl)
theorem dX2_areJoined_45 : decode cX2_areJoined 45 = .ok (.ireturn, 1) := dk_172 (dk_at dksX2_areJoined_1 21 rfl rfl)
theorem dX2_areJoined_46 : decode cX2_areJoined 46 = .ok (.iinc 3 1, 3) := dk_132 3 1 (dk_at dksX2_areJoined_2 0 rfl rfl)
theorem dX2_areJoined_49 : decode cX2_areJoined 49 = .ok (.goto (-35), 3) := dk_167 255 221 (dk_at dksX2_areJoined_2 3 rfl rfl)
theorem dX2_areJoined_52 : decode cX2_areJoined 52 = .ok (.iinc 2 1, 3) := dk_132 2 1 (dk_at dksX2_areJoined_2 6 rfl rfl)
theorem dX2_areJoined_55 : decode cX2_areJoined 55 = .ok (.goto (-53), 3) := dk_167 255 203 (dk_at dksX2_areJoined_2 9 rfl rfl)
theorem dX2_areJoined_58 : decode cX2_areJoined 58 = .ok (.iconst 1, 1) := dk_4 (dk_at dksX2_areJoined_2 12 rfl rfl)
theorem dX2_areJoined_59 : decode cX2_areJoined 59 = .ok (.ireturn, 1) := dk_172 (dk_at dksX2_areJoined_2 13 rfl rfl)
abbrev cX2_canMeet : ByteArray := prog_17_method_67_code
def yX2_canMeet : MethodName := ⟨RX2, "canMeet", "(II)Z"⟩
def dkwX2_canMeet_1 : List UInt8 := [180, 0, 49, 28, 46, 133, 184, 1, 71, 113, 9, 148, 154, 0, 7, 4, 167, 0, 4, 3, 172]
abbrev dktX2_canMeet_1 : List UInt8 := dkwX2_canMeet_1 ++ []
def dkwX2_canMeet_0 : List UInt8 := [42, 180, 0, 52, 27, 46, 42, 180, 0, 52, 28, 46, 100, 133, 42, 180, 0, 49, 27, 46, 133, 42]
abbrev dktX2_canMeet_0 : List UInt8 := dkwX2_canMeet_0 ++ dktX2_canMeet_1
theorem dksX2_canMeet_0 : cX2_canMeet.data.toList.drop 0 = dktX2_canMeet_0 := by decide +kernel
theorem dksX2_canMeet_1 : cX2_canMeet.data.toList.drop 22 = dktX2_canMeet_1 := dk_seg dksX2_canMeet_0 22 rfl rfl
theorem dX2_canMeet_0 : decode cX2_canMeet 0 = .ok (.aload_n 0, 1) := dk_42 (dk_at dksX2_canMeet_0 0 rfl rfl)
theorem dX2_canMeet_1 : decode cX2_canMeet 1 = .ok (.getfield 52, 3) := dk_180 0 52 (dk_at dksX2_canMeet_0 1 rfl rfl)
theorem dX2_canMeet_4 : decode cX2_canMeet 4 = .ok (.iload_n 1, 1) := dk_27 (dk_at dksX2_canMeet_0 4 rfl rfl)
theorem dX2_canMeet_5 : decode cX2_canMeet 5 = .ok (.iaload, 1) := dk_46 (dk_at dksX2_canMeet_0 5 rfl rfl)
theorem dX2_canMeet_6 : decode cX2_canMeet 6 = .ok (.aload_n 0, 1) := dk_42 (dk_at dksX2_canMeet_0 6 rfl rfl)
theorem dX2_canMeet_7 : decode cX2_canMeet 7 = .ok (.getfield 52, 3) := dk_180 0 52 (dk_at dksX2_canMeet_0 7 rfl rfl)
theorem dX2_canMeet_10 : decode cX2_canMeet 10 = .ok (.iload_n 2, 1) := dk_28 (dk_at dksX2_canMeet_0 10 rfl rfl)
theorem dX2_canMeet_11 : decode cX2_canMeet 11 = .ok (.iaload, 1) := dk_46 (dk_at dksX2_canMeet_0 11 rfl rfl)
theorem dX2_canMeet_12 : decode cX2_canMeet 12 = .ok (.isub, 1) := dk_100 (dk_at dksX2_canMeet_0 12 rfl rfl)
theorem dX2_canMeet_13 : decode cX2_canMeet 13 = .ok (.i2l, 1) := dk_133 (dk_at dksX2_canMeet_0 13 rfl rfl)
theorem dX2_canMeet_14 : decode cX2_canMeet 14 = .ok (.aload_n 0, 1) := dk_42 (dk_at dksX2_canMeet_0 14 rfl rfl)
theorem dX2_canMeet_15 : decode cX2_canMeet 15 = .ok (.getfield 49, 3) := dk_180 0 49 (dk_at dksX2_canMeet_0 15 rfl rfl)
theorem dX2_canMeet_18 : decode cX2_canMeet 18 = .ok (.iload_n 1, 1) := dk_27 (dk_at dksX2_canMeet_0 18 rfl rfl)
theorem dX2_canMeet_19 : decode cX2_canMeet 19 = .ok (.iaload, 1) := dk_46 (dk_at dksX2_canMeet_0 19 rfl rfl)
theorem dX2_canMeet_20 : decode cX2_canMeet 20 = .ok (.i2l, 1) := dk_133 (dk_at dksX2_canMeet_0 20 rfl rfl)
theorem dX2_canMeet_21 : decode cX2_canMeet 21 = .ok (.aload_n 0, 1) := dk_42 (dk_at dksX2_canMeet_0 21 rfl rfl)
theorem dX2_canMeet_22 : decode cX2_canMeet 22 = .ok (.getfield 49, 3) := dk_180 0 49 (dk_at dksX2_canMeet_1 0 rfl rfl)
theorem dX2_canMeet_25 : decode cX2_canMeet 25 = .ok (.iload_n 2, 1) := dk_28 (dk_at dksX2_canMeet_1 3 rfl rfl)
theorem dX2_canMeet_26 : decode cX2_canMeet 26 = .ok (.iaload, 1) := dk_46 (dk_at dksX2_canMeet_1 4 rfl rfl)
theorem dX2_canMeet_27 : decode cX2_canMeet 27 = .ok (.i2l, 1) := dk_133 (dk_at dksX2_canMeet_1 5 rfl rfl)
theorem dX2_canMeet_28 : decode cX2_canMeet 28 = .ok (.invokestatic 327, 3) := dk_184 1 71 (dk_at dksX2_canMeet_1 6 rfl rfl)
theorem dX2_canMeet_31 : decode cX2_canMeet 31 = .ok (.lrem, 1) := dk_113 (dk_at dksX2_canMeet_1 9 rfl rfl)
theorem dX2_canMeet_32 : decode cX2_canMeet 32 = .ok (.lconst 0, 1) := dk_9 (dk_at dksX2_canMeet_1 10 rfl rfl)
theorem dX2_canMeet_33 : decode cX2_canMeet 33 = .ok (.lcmp, 1) := dk_148 (dk_at dksX2_canMeet_1 11 rfl rfl)
theorem dX2_canMeet_34 : decode cX2_canMeet 34 = .ok (.ifCond .ne 7, 3) := dk_154 0 7 (dk_at dksX2_canMeet_1 12 rfl rfl)
theorem dX2_canMeet_37 : decode cX2_canMeet 37 = .ok (.iconst 1, 1) := dk_4 (dk_at dksX2_canMeet_1 15 rfl rfl)
theorem dX2_canMeet_38 : decode cX2_canMeet 38 = .ok (.goto 4, 3) := dk_167 0 4 (dk_at dksX2_canMeet_1 16 rfl rfl)
theorem dX2_canMeet_41 : decode cX2_canMeet 41 = .ok (.iconst 0, 1) := dk_3 (dk_at dksX2_canMeet_1 19 rfl rfl)
theorem dX2_canMeet_42 : decode cX2_canMeet 42 = .ok (.ireturn, 1) := dk_172 (dk_at dksX2_canMeet_1 20 rfl rfl)
abbrev cX2_isOpen : ByteArray := prog_17_method_69_code
def yX2_isOpen : MethodName := ⟨RX2, "isOpen", "(II)Z"⟩
def dkwX2_isOpen_3 : List UInt8 := [167, 255, 187, 4, 172]
abbrev dktX2_isOpen_3 : List UInt8 := dkwX2_isOpen_3 ++ []
def dkwX2_isOpen_2 : List UInt8 := [46, 133, 42, 180, 0, 7, 5, 46, 133, 184, 1, 71, 113, 9, 148, 153, 0, 5, 3, 172, 132, 3, 1]
abbrev dktX2_isOpen_2 : List UInt8 := dkwX2_isOpen_2 ++ dktX2_isOpen_3
def dkwX2_isOpen_1 : List UInt8 := [16, 60, 29, 104, 28, 96, 51, 154, 0, 35, 42, 180, 0, 52, 29, 46, 28, 100, 133, 42, 180, 0, 49, 29]
abbrev dktX2_isOpen_1 : List UInt8 := dkwX2_isOpen_1 ++ dktX2_isOpen_2
def dkwX2_isOpen_0 : List UInt8 := [3, 62, 29, 42, 180, 0, 7, 3, 46, 162, 0, 65, 27, 29, 184, 1, 54, 153, 0, 51, 42, 180, 0, 55]
abbrev dktX2_isOpen_0 : List UInt8 := dkwX2_isOpen_0 ++ dktX2_isOpen_1
theorem dksX2_isOpen_0 : cX2_isOpen.data.toList.drop 0 = dktX2_isOpen_0 := by decide +kernel
theorem dksX2_isOpen_1 : cX2_isOpen.data.toList.drop 24 = dktX2_isOpen_1 := dk_seg dksX2_isOpen_0 24 rfl rfl
theorem dksX2_isOpen_2 : cX2_isOpen.data.toList.drop 48 = dktX2_isOpen_2 := dk_seg dksX2_isOpen_1 24 rfl rfl
theorem dksX2_isOpen_3 : cX2_isOpen.data.toList.drop 71 = dktX2_isOpen_3 := dk_seg dksX2_isOpen_2 23 rfl rfl
theorem dX2_isOpen_0 : decode cX2_isOpen 0 = .ok (.iconst 0, 1) := dk_3 (dk_at dksX2_isOpen_0 0 rfl rfl)
theorem dX2_isOpen_1 : decode cX2_isOpen 1 = .ok (.istore_n 3, 1) := dk_62 (dk_at dksX2_isOpen_0 1 rfl rfl)
theorem dX2_isOpen_2 : decode cX2_isOpen 2 = .ok (.iload_n 3, 1) := dk_29 (dk_at dksX2_isOpen_0 2 rfl rfl)
theorem dX2_isOpen_3 : decode cX2_isOpen 3 = .ok (.aload_n 0, 1) := dk_42 (dk_at dksX2_isOpen_0 3 rfl rfl)
theorem dX2_isOpen_4 : decode cX2_isOpen 4 = .ok (.getfield 7, 3) := dk_180 0 7 (dk_at dksX2_isOpen_0 4 rfl rfl)
theorem dX2_isOpen_7 : decode cX2_isOpen 7 = .ok (.iconst 0, 1) := dk_3 (dk_at dksX2_isOpen_0 7 rfl rfl)
theorem dX2_isOpen_8 : decode cX2_isOpen 8 = .ok (.iaload, 1) := dk_46 (dk_at dksX2_isOpen_0 8 rfl rfl)
theorem dX2_isOpen_9 : decode cX2_isOpen 9 = .ok (.if_icmp .ge 65, 3) := dk_162 0 65 (dk_at dksX2_isOpen_0 9 rfl rfl)
theorem dX2_isOpen_12 : decode cX2_isOpen 12 = .ok (.iload_n 1, 1) := dk_27 (dk_at dksX2_isOpen_0 12 rfl rfl)
theorem dX2_isOpen_13 : decode cX2_isOpen 13 = .ok (.iload_n 3, 1) := dk_29 (dk_at dksX2_isOpen_0 13 rfl rfl)
theorem dX2_isOpen_14 : decode cX2_isOpen 14 = .ok (.invokestatic 310, 3) := dk_184 1 54 (dk_at dksX2_isOpen_0 14 rfl rfl)
theorem dX2_isOpen_17 : decode cX2_isOpen 17 = .ok (.ifCond .eq 51, 3) := dk_153 0 51 (dk_at dksX2_isOpen_0 17 rfl rfl)
theorem dX2_isOpen_20 : decode cX2_isOpen 20 = .ok (.aload_n 0, 1) := dk_42 (dk_at dksX2_isOpen_0 20 rfl rfl)
theorem dX2_isOpen_21 : decode cX2_isOpen 21 = .ok (.getfield 55, 3) := dk_180 0 55 (dk_at dksX2_isOpen_0 21 rfl rfl)
theorem dX2_isOpen_24 : decode cX2_isOpen 24 = .ok (.bipush 60, 2) := dk_16 60 (dk_at dksX2_isOpen_1 0 rfl rfl)
theorem dX2_isOpen_26 : decode cX2_isOpen 26 = .ok (.iload_n 3, 1) := dk_29 (dk_at dksX2_isOpen_1 2 rfl rfl)
theorem dX2_isOpen_27 : decode cX2_isOpen 27 = .ok (.imul, 1) := dk_104 (dk_at dksX2_isOpen_1 3 rfl rfl)
theorem dX2_isOpen_28 : decode cX2_isOpen 28 = .ok (.iload_n 2, 1) := dk_28 (dk_at dksX2_isOpen_1 4 rfl rfl)
theorem dX2_isOpen_29 : decode cX2_isOpen 29 = .ok (.iadd, 1) := dk_96 (dk_at dksX2_isOpen_1 5 rfl rfl)
theorem dX2_isOpen_30 : decode cX2_isOpen 30 = .ok (.baload, 1) := dk_51 (dk_at dksX2_isOpen_1 6 rfl rfl)
theorem dX2_isOpen_31 : decode cX2_isOpen 31 = .ok (.ifCond .ne 35, 3) := dk_154 0 35 (dk_at dksX2_isOpen_1 7 rfl rfl)
theorem dX2_isOpen_34 : decode cX2_isOpen 34 = .ok (.aload_n 0, 1) := dk_42 (dk_at dksX2_isOpen_1 10 rfl rfl)
theorem dX2_isOpen_35 : decode cX2_isOpen 35 = .ok (.getfield 52, 3) := dk_180 0 52 (dk_at dksX2_isOpen_1 11 rfl rfl)
theorem dX2_isOpen_38 : decode cX2_isOpen 38 = .ok (.iload_n 3, 1) := dk_29 (dk_at dksX2_isOpen_1 14 rfl rfl)
theorem dX2_isOpen_39 : decode cX2_isOpen 39 = .ok (.iaload, 1) := dk_46 (dk_at dksX2_isOpen_1 15 rfl rfl)
theorem dX2_isOpen_40 : decode cX2_isOpen 40 = .ok (.iload_n 2, 1) := dk_28 (dk_at dksX2_isOpen_1 16 rfl rfl)
theorem dX2_isOpen_41 : decode cX2_isOpen 41 = .ok (.isub, 1) := dk_100 (dk_at dksX2_isOpen_1 17 rfl rfl)
theorem dX2_isOpen_42 : decode cX2_isOpen 42 = .ok (.i2l, 1) := dk_133 (dk_at dksX2_isOpen_1 18 rfl rfl)
theorem dX2_isOpen_43 : decode cX2_isOpen 43 = .ok (.aload_n 0, 1) := dk_42 (dk_at dksX2_isOpen_1 19 rfl rfl)
theorem dX2_isOpen_44 : decode cX2_isOpen 44 = .ok (.getfield 49, 3) := dk_180 0 49 (dk_at dksX2_isOpen_1 20 rfl rfl)
theorem dX2_isOpen_47 : decode cX2_isOpen 47 = .ok (.iload_n 3, 1) := dk_29 (dk_at dksX2_isOpen_1 23 rfl rfl)
theorem dX2_isOpen_48 : decode cX2_isOpen 48 = .ok (.iaload, 1) := dk_46 (dk_at dksX2_isOpen_2 0 rfl rfl)
theorem dX2_isOpen_49 : decode cX2_isOpen 49 = .ok (.i2l, 1) := dk_133 (dk_at dksX2_isOpen_2 1 rfl rfl)
theorem dX2_isOpen_50 : decode cX2_isOpen 50 = .ok (.aload_n 0, 1) := dk_42 (dk_at dksX2_isOpen_2 2 rfl rfl)
theorem dX2_isOpen_51 : decode cX2_isOpen 51 = .ok (.getfield 7, 3) := dk_180 0 7 (dk_at dksX2_isOpen_2 3 rfl rfl)
theorem dX2_isOpen_54 : decode cX2_isOpen 54 = .ok (.iconst 2, 1) := dk_5 (dk_at dksX2_isOpen_2 6 rfl rfl)
theorem dX2_isOpen_55 : decode cX2_isOpen 55 = .ok (.iaload, 1) := dk_46 (dk_at dksX2_isOpen_2 7 rfl rfl)
theorem dX2_isOpen_56 : decode cX2_isOpen 56 = .ok (.i2l, 1) := dk_133 (dk_at dksX2_isOpen_2 8 rfl rfl)
theorem dX2_isOpen_57 : decode cX2_isOpen 57 = .ok (.invokestatic 327, 3) := dk_184 1 71 (dk_at dksX2_isOpen_2 9 rfl rfl)
theorem dX2_isOpen_60 : decode cX2_isOpen 60 = .ok (.lrem, 1) := dk_113 (dk_at dksX2_isOpen_2 12 rfl rfl)
theorem dX2_isOpen_61 : decode cX2_isOpen 61 = .ok (.lconst 0, 1) := dk_9 (dk_at dksX2_isOpen_2 13 rfl rfl)
theorem dX2_isOpen_62 : decode cX2_isOpen 62 = .ok (.lcmp, 1) := dk_148 (dk_at dksX2_isOpen_2 14 rfl rfl)
theorem dX2_isOpen_63 : decode cX2_isOpen 63 = .ok (.ifCond .eq 5, 3) := dk_153 0 5 (dk_at dksX2_isOpen_2 15 rfl rfl)
theorem dX2_isOpen_66 : decode cX2_isOpen 66 = .ok (.iconst 0, 1) := dk_3 (dk_at dksX2_isOpen_2 18 rfl rfl)
theorem dX2_isOpen_67 : decode cX2_isOpen 67 = .ok (.ireturn, 1) := dk_172 (dk_at dksX2_isOpen_2 19 rfl rfl)
theorem dX2_isOpen_68 : decode cX2_isOpen 68 = .ok (.iinc 3 1, 3) := dk_132 3 1 (dk_at dksX2_isOpen_2 20 rfl rfl)
theorem dX2_isOpen_71 : decode cX2_isOpen 71 = .ok (.goto (-69), 3) := dk_167 255 187 (dk_at dksX2_isOpen_3 0 rfl rfl)
theorem dX2_isOpen_74 : decode cX2_isOpen 74 = .ok (.iconst 1, 1) := dk_4 (dk_at dksX2_isOpen_3 3 rfl rfl)
theorem dX2_isOpen_75 : decode cX2_isOpen 75 = .ok (.ireturn, 1) := dk_172 (dk_at dksX2_isOpen_3 4 rfl rfl)
abbrev cX2_findHours : ByteArray := prog_17_method_70_code
def yX2_findHours : MethodName := ⟨RX2, "findHours", "(II)Z"⟩
def dkwX2_findHours_2 : List UInt8 := [132, 3, 1, 167, 255, 225, 4, 172]
abbrev dktX2_findHours_2 : List UInt8 := dkwX2_findHours_2 ++ []
def dkwX2_findHours_1 : List UInt8 := [3, 46, 162, 0, 27, 27, 29, 184, 1, 54, 153, 0, 13, 42, 29, 182, 1, 81, 154, 0, 5, 3, 172]
abbrev dktX2_findHours_1 : List UInt8 := dkwX2_findHours_1 ++ dktX2_findHours_2
def dkwX2_findHours_0 : List UInt8 := [42, 28, 133, 181, 1, 68, 42, 42, 180, 0, 7, 5, 46, 133, 181, 1, 63, 3, 62, 29, 42, 180, 0, 7]
abbrev dktX2_findHours_0 : List UInt8 := dkwX2_findHours_0 ++ dktX2_findHours_1
theorem dksX2_findHours_0 : cX2_findHours.data.toList.drop 0 = dktX2_findHours_0 := by decide +kernel
theorem dksX2_findHours_1 : cX2_findHours.data.toList.drop 24 = dktX2_findHours_1 := dk_seg dksX2_findHours_0 24 rfl rfl
theorem dksX2_findHours_2 : cX2_findHours.data.toList.drop 47 = dktX2_findHours_2 := dk_seg dksX2_findHours_1 23 rfl rfl
theorem dX2_findHours_0 : decode cX2_findHours 0 = .ok (.aload_n 0, 1) := dk_42 (dk_at dksX2_findHours_0 0 rfl rfl)
theorem dX2_findHours_1 : decode cX2_findHours 1 = .ok (.iload_n 2, 1) := dk_28 (dk_at dksX2_findHours_0 1 rfl rfl)
theorem dX2_findHours_2 : decode cX2_findHours 2 = .ok (.i2l, 1) := dk_133 (dk_at dksX2_findHours_0 2 rfl rfl)
theorem dX2_findHours_3 : decode cX2_findHours 3 = .ok (.putfield 324, 3) := dk_181 1 68 (dk_at dksX2_findHours_0 3 rfl rfl)
theorem dX2_findHours_6 : decode cX2_findHours 6 = .ok (.aload_n 0, 1) := dk_42 (dk_at dksX2_findHours_0 6 rfl rfl)
theorem dX2_findHours_7 : decode cX2_findHours 7 = .ok (.aload_n 0, 1) := dk_42 (dk_at dksX2_findHours_0 7 rfl rfl)
theorem dX2_findHours_8 : decode cX2_findHours 8 = .ok (.getfield 7, 3) := dk_180 0 7 (dk_at dksX2_findHours_0 8 rfl rfl)
theorem dX2_findHours_11 : decode cX2_findHours 11 = .ok (.iconst 2, 1) := dk_5 (dk_at dksX2_findHours_0 11 rfl rfl)
theorem dX2_findHours_12 : decode cX2_findHours 12 = .ok (.iaload, 1) := dk_46 (dk_at dksX2_findHours_0 12 rfl rfl)
theorem dX2_findHours_13 : decode cX2_findHours 13 = .ok (.i2l, 1) := dk_133 (dk_at dksX2_findHours_0 13 rfl rfl)
theorem dX2_findHours_14 : decode cX2_findHours 14 = .ok (.putfield 319, 3) := dk_181 1 63 (dk_at dksX2_findHours_0 14 rfl rfl)
theorem dX2_findHours_17 : decode cX2_findHours 17 = .ok (.iconst 0, 1) := dk_3 (dk_at dksX2_findHours_0 17 rfl rfl)
theorem dX2_findHours_18 : decode cX2_findHours 18 = .ok (.istore_n 3, 1) := dk_62 (dk_at dksX2_findHours_0 18 rfl rfl)
theorem dX2_findHours_19 : decode cX2_findHours 19 = .ok (.iload_n 3, 1) := dk_29 (dk_at dksX2_findHours_0 19 rfl rfl)
theorem dX2_findHours_20 : decode cX2_findHours 20 = .ok (.aload_n 0, 1) := dk_42 (dk_at dksX2_findHours_0 20 rfl rfl)
theorem dX2_findHours_21 : decode cX2_findHours 21 = .ok (.getfield 7, 3) := dk_180 0 7 (dk_at dksX2_findHours_0 21 rfl rfl)
theorem dX2_findHours_24 : decode cX2_findHours 24 = .ok (.iconst 0, 1) := dk_3 (dk_at dksX2_findHours_1 0 rfl rfl)
theorem dX2_findHours_25 : decode cX2_findHours 25 = .ok (.iaload, 1) := dk_46 (dk_at dksX2_findHours_1 1 rfl rfl)
theorem dX2_findHours_26 : decode cX2_findHours 26 = .ok (.if_icmp .ge 27, 3) := dk_162 0 27 (dk_at dksX2_findHours_1 2 rfl rfl)
theorem dX2_findHours_29 : decode cX2_findHours 29 = .ok (.iload_n 1, 1) := dk_27 (dk_at dksX2_findHours_1 5 rfl rfl)
theorem dX2_findHours_30 : decode cX2_findHours 30 = .ok (.iload_n 3, 1) := dk_29 (dk_at dksX2_findHours_1 6 rfl rfl)
theorem dX2_findHours_31 : decode cX2_findHours 31 = .ok (.invokestatic 310, 3) := dk_184 1 54 (dk_at dksX2_findHours_1 7 rfl rfl)
theorem dX2_findHours_34 : decode cX2_findHours 34 = .ok (.ifCond .eq 13, 3) := dk_153 0 13 (dk_at dksX2_findHours_1 10 rfl rfl)
theorem dX2_findHours_37 : decode cX2_findHours 37 = .ok (.aload_n 0, 1) := dk_42 (dk_at dksX2_findHours_1 13 rfl rfl)
theorem dX2_findHours_38 : decode cX2_findHours 38 = .ok (.iload_n 3, 1) := dk_29 (dk_at dksX2_findHours_1 14 rfl rfl)
theorem dX2_findHours_39 : decode cX2_findHours 39 = .ok (.invokevirtual 337, 3) := dk_182 1 81 (dk_at dksX2_findHours_1 15 rfl rfl)
theorem dX2_findHours_42 : decode cX2_findHours 42 = .ok (.ifCond .ne 5, 3) := dk_154 0 5 (dk_at dksX2_findHours_1 18 rfl rfl)
theorem dX2_findHours_45 : decode cX2_findHours 45 = .ok (.iconst 0, 1) := dk_3 (dk_at dksX2_findHours_1 21 rfl rfl)
theorem dX2_findHours_46 : decode cX2_findHours 46 = .ok (.ireturn, 1) := dk_172 (dk_at dksX2_findHours_1 22 rfl rfl)
theorem dX2_findHours_47 : decode cX2_findHours 47 = .ok (.iinc 3 1, 3) := dk_132 3 1 (dk_at dksX2_findHours_2 0 rfl rfl)
theorem dX2_findHours_50 : decode cX2_findHours 50 = .ok (.goto (-31), 3) := dk_167 255 225 (dk_at dksX2_findHours_2 3 rfl rfl)
theorem dX2_findHours_53 : decode cX2_findHours 53 = .ok (.iconst 1, 1) := dk_4 (dk_at dksX2_findHours_2 6 rfl rfl)
theorem dX2_findHours_54 : decode cX2_findHours 54 = .ok (.ireturn, 1) := dk_172 (dk_at dksX2_findHours_2 7 rfl rfl)
abbrev cX2_join : ByteArray := prog_17_method_66_code
def yX2_join : MethodName := ⟨RX2, "join", "(I)Z"⟩
def dkwX2_join_7 : List UInt8 := [20, 1, 66, 167, 0, 10, 42, 180, 1, 63, 22, 6, 105, 181, 1, 63, 4, 172]
abbrev dktX2_join_7 : List UInt8 := dkwX2_join_7 ++ []
def dkwX2_join_6 : List UInt8 := [42, 180, 1, 63, 105, 97, 181, 1, 68, 42, 42, 180, 1, 63, 20, 0, 108, 22, 6, 109, 148, 158, 0, 9]
abbrev dktX2_join_6 : List UInt8 := dkwX2_join_6 ++ dktX2_join_7
def dkwX2_join_5 : List UInt8 := [20, 0, 108, 42, 180, 1, 68, 101, 22, 10, 109, 148, 158, 0, 5, 3, 172, 42, 89, 180, 1, 68, 22, 10]
abbrev dktX2_join_5 : List UInt8 := dkwX2_join_5 ++ dktX2_join_6
def dkwX2_join_4 : List UInt8 := [22, 6, 184, 1, 75, 105, 22, 6, 113, 55, 10, 22, 10, 9, 148, 158, 0, 24, 42, 180, 1, 63]
abbrev dktX2_join_4 : List UInt8 := dkwX2_join_4 ++ dktX2_join_5
def dkwX2_join_3 : List UInt8 := [22, 4, 109, 22, 6, 113, 22, 6, 97, 22, 6, 113, 55, 8, 22, 8, 42, 180, 1, 63, 22, 4, 109]
abbrev dktX2_join_3 : List UInt8 := dkwX2_join_3 ++ dktX2_join_4
def dkwX2_join_2 : List UInt8 := [32, 184, 1, 71, 55, 4, 32, 22, 4, 109, 55, 6, 42, 180, 0, 52, 27, 46, 133, 42, 180, 1, 68, 101]
abbrev dktX2_join_2 : List UInt8 := dkwX2_join_2 ++ dktX2_join_3
def dkwX2_join_1 : List UInt8 := [180, 0, 52, 27, 46, 133, 101, 32, 113, 9, 148, 154, 0, 7, 4, 167, 0, 4, 3, 172, 42, 180, 1, 63]
abbrev dktX2_join_1 : List UInt8 := dkwX2_join_1 ++ dktX2_join_2
def dkwX2_join_0 : List UInt8 := [42, 180, 0, 49, 27, 46, 133, 65, 42, 180, 1, 63, 20, 1, 66, 148, 154, 0, 28, 42, 180, 1, 68, 42]
abbrev dktX2_join_0 : List UInt8 := dkwX2_join_0 ++ dktX2_join_1
theorem dksX2_join_0 : cX2_join.data.toList.drop 0 = dktX2_join_0 := by decide +kernel
theorem dksX2_join_1 : cX2_join.data.toList.drop 24 = dktX2_join_1 := dk_seg dksX2_join_0 24 rfl rfl
theorem dksX2_join_2 : cX2_join.data.toList.drop 48 = dktX2_join_2 := dk_seg dksX2_join_1 24 rfl rfl
theorem dksX2_join_3 : cX2_join.data.toList.drop 72 = dktX2_join_3 := dk_seg dksX2_join_2 24 rfl rfl
theorem dksX2_join_4 : cX2_join.data.toList.drop 95 = dktX2_join_4 := dk_seg dksX2_join_3 23 rfl rfl
theorem dksX2_join_5 : cX2_join.data.toList.drop 117 = dktX2_join_5 := dk_seg dksX2_join_4 22 rfl rfl
theorem dksX2_join_6 : cX2_join.data.toList.drop 141 = dktX2_join_6 := dk_seg dksX2_join_5 24 rfl rfl
theorem dksX2_join_7 : cX2_join.data.toList.drop 165 = dktX2_join_7 := dk_seg dksX2_join_6 24 rfl rfl
theorem dX2_join_0 : decode cX2_join 0 = .ok (.aload_n 0, 1) := dk_42 (dk_at dksX2_join_0 0 rfl rfl)
theorem dX2_join_1 : decode cX2_join 1 = .ok (.getfield 49, 3) := dk_180 0 49 (dk_at dksX2_join_0 1 rfl rfl)
theorem dX2_join_4 : decode cX2_join 4 = .ok (.iload_n 1, 1) := dk_27 (dk_at dksX2_join_0 4 rfl rfl)
theorem dX2_join_5 : decode cX2_join 5 = .ok (.iaload, 1) := dk_46 (dk_at dksX2_join_0 5 rfl rfl)
theorem dX2_join_6 : decode cX2_join 6 = .ok (.i2l, 1) := dk_133 (dk_at dksX2_join_0 6 rfl rfl)
theorem dX2_join_7 : decode cX2_join 7 = .ok (.lstore_n 2, 1) := dk_65 (dk_at dksX2_join_0 7 rfl rfl)
theorem dX2_join_8 : decode cX2_join 8 = .ok (.aload_n 0, 1) := dk_42 (dk_at dksX2_join_0 8 rfl rfl)
theorem dX2_join_9 : decode cX2_join 9 = .ok (.getfield 319, 3) := dk_180 1 63 (dk_at dksX2_join_0 9 rfl rfl)
theorem dX2_join_12 : decode cX2_join 12 = .ok (.ldc2_w 322, 3) := dk_20 1 66 (dk_at dksX2_join_0 12 rfl rfl)
theorem dX2_join_15 : decode cX2_join 15 = .ok (.lcmp, 1) := dk_148 (dk_at dksX2_join_0 15 rfl rfl)
theorem dX2_join_16 : decode cX2_join 16 = .ok (.ifCond .ne 28, 3) := dk_154 0 28 (dk_at dksX2_join_0 16 rfl rfl)
theorem dX2_join_19 : decode cX2_join 19 = .ok (.aload_n 0, 1) := dk_42 (dk_at dksX2_join_0 19 rfl rfl)
theorem dX2_join_20 : decode cX2_join 20 = .ok (.getfield 324, 3) := dk_180 1 68 (dk_at dksX2_join_0 20 rfl rfl)
theorem dX2_join_23 : decode cX2_join 23 = .ok (.aload_n 0, 1) := dk_42 (dk_at dksX2_join_0 23 rfl rfl)
theorem dX2_join_24 : decode cX2_join 24 = .ok (.getfield 52, 3) := dk_180 0 52 (dk_at dksX2_join_1 0 rfl rfl)
theorem dX2_join_27 : decode cX2_join 27 = .ok (.iload_n 1, 1) := dk_27 (dk_at dksX2_join_1 3 rfl rfl)
theorem dX2_join_28 : decode cX2_join 28 = .ok (.iaload, 1) := dk_46 (dk_at dksX2_join_1 4 rfl rfl)
theorem dX2_join_29 : decode cX2_join 29 = .ok (.i2l, 1) := dk_133 (dk_at dksX2_join_1 5 rfl rfl)
theorem dX2_join_30 : decode cX2_join 30 = .ok (.lsub, 1) := dk_101 (dk_at dksX2_join_1 6 rfl rfl)
theorem dX2_join_31 : decode cX2_join 31 = .ok (.lload_n 2, 1) := dk_32 (dk_at dksX2_join_1 7 rfl rfl)
theorem dX2_join_32 : decode cX2_join 32 = .ok (.lrem, 1) := dk_113 (dk_at dksX2_join_1 8 rfl rfl)
theorem dX2_join_33 : decode cX2_join 33 = .ok (.lconst 0, 1) := dk_9 (dk_at dksX2_join_1 9 rfl rfl)
theorem dX2_join_34 : decode cX2_join 34 = .ok (.lcmp, 1) := dk_148 (dk_at dksX2_join_1 10 rfl rfl)
theorem dX2_join_35 : decode cX2_join 35 = .ok (.ifCond .ne 7, 3) := dk_154 0 7 (dk_at dksX2_join_1 11 rfl rfl)
theorem dX2_join_38 : decode cX2_join 38 = .ok (.iconst 1, 1) := dk_4 (dk_at dksX2_join_1 14 rfl rfl)
theorem dX2_join_39 : decode cX2_join 39 = .ok (.goto 4, 3) := dk_167 0 4 (dk_at dksX2_join_1 15 rfl rfl)
theorem dX2_join_42 : decode cX2_join 42 = .ok (.iconst 0, 1) := dk_3 (dk_at dksX2_join_1 18 rfl rfl)
theorem dX2_join_43 : decode cX2_join 43 = .ok (.ireturn, 1) := dk_172 (dk_at dksX2_join_1 19 rfl rfl)
theorem dX2_join_44 : decode cX2_join 44 = .ok (.aload_n 0, 1) := dk_42 (dk_at dksX2_join_1 20 rfl rfl)
theorem dX2_join_45 : decode cX2_join 45 = .ok (.getfield 319, 3) := dk_180 1 63 (dk_at dksX2_join_1 21 rfl rfl)
theorem dX2_join_48 : decode cX2_join 48 = .ok (.lload_n 2, 1) := dk_32 (dk_at dksX2_join_2 0 rfl rfl)
theorem dX2_join_49 : decode cX2_join 49 = .ok (.invokestatic 327, 3) := dk_184 1 71 (dk_at dksX2_join_2 1 rfl rfl)
theorem dX2_join_52 : decode cX2_join 52 = .ok (.lstore 4, 2) := dk_55 4 (dk_at dksX2_join_2 4 rfl rfl)
theorem dX2_join_54 : decode cX2_join 54 = .ok (.lload_n 2, 1) := dk_32 (dk_at dksX2_join_2 6 rfl rfl)
theorem dX2_join_55 : decode cX2_join 55 = .ok (.lload 4, 2) := dk_22 4 (dk_at dksX2_join_2 7 rfl rfl)
theorem dX2_join_57 : decode cX2_join 57 = .ok (.ldiv, 1) := dk_109 (dk_at dksX2_join_2 9 rfl rfl)
theorem dX2_join_58 : decode cX2_join 58 = .ok (.lstore 6, 2) := dk_55 6 (dk_at dksX2_join_2 10 rfl rfl)
theorem dX2_join_60 : decode cX2_join 60 = .ok (.aload_n 0, 1) := dk_42 (dk_at dksX2_join_2 12 rfl rfl)
theorem dX2_join_61 : decode cX2_join 61 = .ok (.getfield 52, 3) := dk_180 0 52 (dk_at dksX2_join_2 13 rfl rfl)
theorem dX2_join_64 : decode cX2_join 64 = .ok (.iload_n 1, 1) := dk_27 (dk_at dksX2_join_2 16 rfl rfl)
theorem dX2_join_65 : decode cX2_join 65 = .ok (.iaload, 1) := dk_46 (dk_at dksX2_join_2 17 rfl rfl)
theorem dX2_join_66 : decode cX2_join 66 = .ok (.i2l, 1) := dk_133 (dk_at dksX2_join_2 18 rfl rfl)
theorem dX2_join_67 : decode cX2_join 67 = .ok (.aload_n 0, 1) := dk_42 (dk_at dksX2_join_2 19 rfl rfl)
theorem dX2_join_68 : decode cX2_join 68 = .ok (.getfield 324, 3) := dk_180 1 68 (dk_at dksX2_join_2 20 rfl rfl)
theorem dX2_join_71 : decode cX2_join 71 = .ok (.lsub, 1) := dk_101 (dk_at dksX2_join_2 23 rfl rfl)
theorem dX2_join_72 : decode cX2_join 72 = .ok (.lload 4, 2) := dk_22 4 (dk_at dksX2_join_3 0 rfl rfl)
theorem dX2_join_74 : decode cX2_join 74 = .ok (.ldiv, 1) := dk_109 (dk_at dksX2_join_3 2 rfl rfl)
theorem dX2_join_75 : decode cX2_join 75 = .ok (.lload 6, 2) := dk_22 6 (dk_at dksX2_join_3 3 rfl rfl)
theorem dX2_join_77 : decode cX2_join 77 = .ok (.lrem, 1) := dk_113 (dk_at dksX2_join_3 5 rfl rfl)
theorem dX2_join_78 : decode cX2_join 78 = .ok (.lload 6, 2) := dk_22 6 (dk_at dksX2_join_3 6 rfl rfl)
theorem dX2_join_80 : decode cX2_join 80 = .ok (.ladd, 1) := dk_97 (dk_at dksX2_join_3 8 rfl rfl)
theorem dX2_join_81 : decode cX2_join 81 = .ok (.lload 6, 2) := dk_22 6 (dk_at dksX2_join_3 9 rfl rfl)
theorem dX2_join_83 : decode cX2_join 83 = .ok (.lrem, 1) := dk_113 (dk_at dksX2_join_3 11 rfl rfl)
theorem dX2_join_84 : decode cX2_join 84 = .ok (.lstore 8, 2) := dk_55 8 (dk_at dksX2_join_3 12 rfl rfl)
theorem dX2_join_86 : decode cX2_join 86 = .ok (.lload 8, 2) := dk_22 8 (dk_at dksX2_join_3 14 rfl rfl)
theorem dX2_join_88 : decode cX2_join 88 = .ok (.aload_n 0, 1) := dk_42 (dk_at dksX2_join_3 16 rfl rfl)
theorem dX2_join_89 : decode cX2_join 89 = .ok (.getfield 319, 3) := dk_180 1 63 (dk_at dksX2_join_3 17 rfl rfl)
theorem dX2_join_92 : decode cX2_join 92 = .ok (.lload 4, 2) := dk_22 4 (dk_at dksX2_join_3 20 rfl rfl)
theorem dX2_join_94 : decode cX2_join 94 = .ok (.ldiv, 1) := dk_109 (dk_at dksX2_join_3 22 rfl rfl)
theorem dX2_join_95 : decode cX2_join 95 = .ok (.lload 6, 2) := dk_22 6 (dk_at dksX2_join_4 0 rfl rfl)
theorem dX2_join_97 : decode cX2_join 97 = .ok (.invokestatic 331, 3) := dk_184 1 75 (dk_at dksX2_join_4 2 rfl rfl)
theorem dX2_join_100 : decode cX2_join 100 = .ok (.lmul, 1) := dk_105 (dk_at dksX2_join_4 5 rfl rfl)
theorem dX2_join_101 : decode cX2_join 101 = .ok (.lload 6, 2) := dk_22 6 (dk_at dksX2_join_4 6 rfl rfl)
theorem dX2_join_103 : decode cX2_join 103 = .ok (.lrem, 1) := dk_113 (dk_at dksX2_join_4 8 rfl rfl)
theorem dX2_join_104 : decode cX2_join 104 = .ok (.lstore 10, 2) := dk_55 10 (dk_at dksX2_join_4 9 rfl rfl)
theorem dX2_join_106 : decode cX2_join 106 = .ok (.lload 10, 2) := dk_22 10 (dk_at dksX2_join_4 11 rfl rfl)
theorem dX2_join_108 : decode cX2_join 108 = .ok (.lconst 0, 1) := dk_9 (dk_at dksX2_join_4 13 rfl rfl)
theorem dX2_join_109 : decode cX2_join 109 = .ok (.lcmp, 1) := dk_148 (dk_at dksX2_join_4 14 rfl rfl)
theorem dX2_join_110 : decode cX2_join 110 = .ok (.ifCond .le 24, 3) := dk_158 0 24 (dk_at dksX2_join_4 15 rfl rfl)
theorem dX2_join_113 : decode cX2_join 113 = .ok (.aload_n 0, 1) := dk_42 (dk_at dksX2_join_4 18 rfl rfl)
theorem dX2_join_114 : decode cX2_join 114 = .ok (.getfield 319, 3) := dk_180 1 63 (dk_at dksX2_join_4 19 rfl rfl)
theorem dX2_join_117 : decode cX2_join 117 = .ok (.ldc2_w 108, 3) := dk_20 0 108 (dk_at dksX2_join_5 0 rfl rfl)
theorem dX2_join_120 : decode cX2_join 120 = .ok (.aload_n 0, 1) := dk_42 (dk_at dksX2_join_5 3 rfl rfl)
theorem dX2_join_121 : decode cX2_join 121 = .ok (.getfield 324, 3) := dk_180 1 68 (dk_at dksX2_join_5 4 rfl rfl)
theorem dX2_join_124 : decode cX2_join 124 = .ok (.lsub, 1) := dk_101 (dk_at dksX2_join_5 7 rfl rfl)
theorem dX2_join_125 : decode cX2_join 125 = .ok (.lload 10, 2) := dk_22 10 (dk_at dksX2_join_5 8 rfl rfl)
theorem dX2_join_127 : decode cX2_join 127 = .ok (.ldiv, 1) := dk_109 (dk_at dksX2_join_5 10 rfl rfl)
theorem dX2_join_128 : decode cX2_join 128 = .ok (.lcmp, 1) := dk_148 (dk_at dksX2_join_5 11 rfl rfl)
theorem dX2_join_129 : decode cX2_join 129 = .ok (.ifCond .le 5, 3) := dk_158 0 5 (dk_at dksX2_join_5 12 rfl rfl)
theorem dX2_join_132 : decode cX2_join 132 = .ok (.iconst 0, 1) := dk_3 (dk_at dksX2_join_5 15 rfl rfl)
theorem dX2_join_133 : decode cX2_join 133 = .ok (.ireturn, 1) := dk_172 (dk_at dksX2_join_5 16 rfl rfl)
theorem dX2_join_134 : decode cX2_join 134 = .ok (.aload_n 0, 1) := dk_42 (dk_at dksX2_join_5 17 rfl rfl)
theorem dX2_join_135 : decode cX2_join 135 = .ok (.dup, 1) := dk_89 (dk_at dksX2_join_5 18 rfl rfl)
theorem dX2_join_136 : decode cX2_join 136 = .ok (.getfield 324, 3) := dk_180 1 68 (dk_at dksX2_join_5 19 rfl rfl)
theorem dX2_join_139 : decode cX2_join 139 = .ok (.lload 10, 2) := dk_22 10 (dk_at dksX2_join_5 22 rfl rfl)
theorem dX2_join_141 : decode cX2_join 141 = .ok (.aload_n 0, 1) := dk_42 (dk_at dksX2_join_6 0 rfl rfl)
theorem dX2_join_142 : decode cX2_join 142 = .ok (.getfield 319, 3) := dk_180 1 63 (dk_at dksX2_join_6 1 rfl rfl)
theorem dX2_join_145 : decode cX2_join 145 = .ok (.lmul, 1) := dk_105 (dk_at dksX2_join_6 4 rfl rfl)
theorem dX2_join_146 : decode cX2_join 146 = .ok (.ladd, 1) := dk_97 (dk_at dksX2_join_6 5 rfl rfl)
theorem dX2_join_147 : decode cX2_join 147 = .ok (.putfield 324, 3) := dk_181 1 68 (dk_at dksX2_join_6 6 rfl rfl)
theorem dX2_join_150 : decode cX2_join 150 = .ok (.aload_n 0, 1) := dk_42 (dk_at dksX2_join_6 9 rfl rfl)
theorem dX2_join_151 : decode cX2_join 151 = .ok (.aload_n 0, 1) := dk_42 (dk_at dksX2_join_6 10 rfl rfl)
theorem dX2_join_152 : decode cX2_join 152 = .ok (.getfield 319, 3) := dk_180 1 63 (dk_at dksX2_join_6 11 rfl rfl)
theorem dX2_join_155 : decode cX2_join 155 = .ok (.ldc2_w 108, 3) := dk_20 0 108 (dk_at dksX2_join_6 14 rfl rfl)
theorem dX2_join_158 : decode cX2_join 158 = .ok (.lload 6, 2) := dk_22 6 (dk_at dksX2_join_6 17 rfl rfl)
theorem dX2_join_160 : decode cX2_join 160 = .ok (.ldiv, 1) := dk_109 (dk_at dksX2_join_6 19 rfl rfl)
theorem dX2_join_161 : decode cX2_join 161 = .ok (.lcmp, 1) := dk_148 (dk_at dksX2_join_6 20 rfl rfl)
theorem dX2_join_162 : decode cX2_join 162 = .ok (.ifCond .le 9, 3) := dk_158 0 9 (dk_at dksX2_join_6 21 rfl rfl)
theorem dX2_join_165 : decode cX2_join 165 = .ok (.ldc2_w 322, 3) := dk_20 1 66 (dk_at dksX2_join_7 0 rfl rfl)
theorem dX2_join_168 : decode cX2_join 168 = .ok (.goto 10, 3) := dk_167 0 10 (dk_at dksX2_join_7 3 rfl rfl)
theorem dX2_join_171 : decode cX2_join 171 = .ok (.aload_n 0, 1) := dk_42 (dk_at dksX2_join_7 6 rfl rfl)
theorem dX2_join_172 : decode cX2_join 172 = .ok (.getfield 319, 3) := dk_180 1 63 (dk_at dksX2_join_7 7 rfl rfl)
theorem dX2_join_175 : decode cX2_join 175 = .ok (.lload 6, 2) := dk_22 6 (dk_at dksX2_join_7 10 rfl rfl)
theorem dX2_join_177 : decode cX2_join 177 = .ok (.lmul, 1) := dk_105 (dk_at dksX2_join_7 12 rfl rfl)
theorem dX2_join_178 : decode cX2_join 178 = .ok (.putfield 319, 3) := dk_181 1 63 (dk_at dksX2_join_7 13 rfl rfl)
theorem dX2_join_181 : decode cX2_join 181 = .ok (.iconst 1, 1) := dk_4 (dk_at dksX2_join_7 16 rfl rfl)
theorem dX2_join_182 : decode cX2_join 182 = .ok (.ireturn, 1) := dk_172 (dk_at dksX2_join_7 17 rfl rfl)
abbrev cX2_inverse : ByteArray := prog_17_method_65_code
def yX2_inverse : MethodName := ⟨RX2, "inverse", "(JJ)J"⟩
def dkwX2_inverse_3 : List UInt8 := [154, 0, 7, 9, 167, 0, 11, 22, 10, 32, 113, 32, 97, 32, 113, 173]
abbrev dktX2_inverse_3 : List UInt8 := dkwX2_inverse_3 ++ []
def dkwX2_inverse_2 : List UInt8 := [55, 16, 22, 6, 55, 4, 22, 14, 55, 6, 22, 10, 55, 8, 22, 16, 55, 10, 167, 255, 206, 32, 10, 148]
abbrev dktX2_inverse_2 : List UInt8 := dkwX2_inverse_2 ++ dktX2_inverse_3
def dkwX2_inverse_1 : List UInt8 := [22, 6, 109, 55, 12, 22, 4, 22, 12, 22, 6, 105, 101, 55, 14, 22, 8, 22, 12, 22, 10, 105, 101]
abbrev dktX2_inverse_1 : List UInt8 := dkwX2_inverse_1 ++ dktX2_inverse_2
def dkwX2_inverse_0 : List UInt8 := [32, 55, 4, 30, 32, 113, 55, 6, 9, 55, 8, 10, 55, 10, 22, 6, 10, 148, 158, 0, 49, 22, 4]
abbrev dktX2_inverse_0 : List UInt8 := dkwX2_inverse_0 ++ dktX2_inverse_1
theorem dksX2_inverse_0 : cX2_inverse.data.toList.drop 0 = dktX2_inverse_0 := by decide +kernel
theorem dksX2_inverse_1 : cX2_inverse.data.toList.drop 23 = dktX2_inverse_1 := dk_seg dksX2_inverse_0 23 rfl rfl
theorem dksX2_inverse_2 : cX2_inverse.data.toList.drop 46 = dktX2_inverse_2 := dk_seg dksX2_inverse_1 23 rfl rfl
theorem dksX2_inverse_3 : cX2_inverse.data.toList.drop 70 = dktX2_inverse_3 := dk_seg dksX2_inverse_2 24 rfl rfl
theorem dX2_inverse_0 : decode cX2_inverse 0 = .ok (.lload_n 2, 1) := dk_32 (dk_at dksX2_inverse_0 0 rfl rfl)
theorem dX2_inverse_1 : decode cX2_inverse 1 = .ok (.lstore 4, 2) := dk_55 4 (dk_at dksX2_inverse_0 1 rfl rfl)
theorem dX2_inverse_3 : decode cX2_inverse 3 = .ok (.lload_n 0, 1) := dk_30 (dk_at dksX2_inverse_0 3 rfl rfl)
theorem dX2_inverse_4 : decode cX2_inverse 4 = .ok (.lload_n 2, 1) := dk_32 (dk_at dksX2_inverse_0 4 rfl rfl)
theorem dX2_inverse_5 : decode cX2_inverse 5 = .ok (.lrem, 1) := dk_113 (dk_at dksX2_inverse_0 5 rfl rfl)
theorem dX2_inverse_6 : decode cX2_inverse 6 = .ok (.lstore 6, 2) := dk_55 6 (dk_at dksX2_inverse_0 6 rfl rfl)
theorem dX2_inverse_8 : decode cX2_inverse 8 = .ok (.lconst 0, 1) := dk_9 (dk_at dksX2_inverse_0 8 rfl rfl)
theorem dX2_inverse_9 : decode cX2_inverse 9 = .ok (.lstore 8, 2) := dk_55 8 (dk_at dksX2_inverse_0 9 rfl rfl)
theorem dX2_inverse_11 : decode cX2_inverse 11 = .ok (.lconst 1, 1) := dk_10 (dk_at dksX2_inverse_0 11 rfl rfl)
theorem dX2_inverse_12 : decode cX2_inverse 12 = .ok (.lstore 10, 2) := dk_55 10 (dk_at dksX2_inverse_0 12 rfl rfl)
theorem dX2_inverse_14 : decode cX2_inverse 14 = .ok (.lload 6, 2) := dk_22 6 (dk_at dksX2_inverse_0 14 rfl rfl)
theorem dX2_inverse_16 : decode cX2_inverse 16 = .ok (.lconst 1, 1) := dk_10 (dk_at dksX2_inverse_0 16 rfl rfl)
theorem dX2_inverse_17 : decode cX2_inverse 17 = .ok (.lcmp, 1) := dk_148 (dk_at dksX2_inverse_0 17 rfl rfl)
theorem dX2_inverse_18 : decode cX2_inverse 18 = .ok (.ifCond .le 49, 3) := dk_158 0 49 (dk_at dksX2_inverse_0 18 rfl rfl)
theorem dX2_inverse_21 : decode cX2_inverse 21 = .ok (.lload 4, 2) := dk_22 4 (dk_at dksX2_inverse_0 21 rfl rfl)
theorem dX2_inverse_23 : decode cX2_inverse 23 = .ok (.lload 6, 2) := dk_22 6 (dk_at dksX2_inverse_1 0 rfl rfl)
theorem dX2_inverse_25 : decode cX2_inverse 25 = .ok (.ldiv, 1) := dk_109 (dk_at dksX2_inverse_1 2 rfl rfl)
theorem dX2_inverse_26 : decode cX2_inverse 26 = .ok (.lstore 12, 2) := dk_55 12 (dk_at dksX2_inverse_1 3 rfl rfl)
theorem dX2_inverse_28 : decode cX2_inverse 28 = .ok (.lload 4, 2) := dk_22 4 (dk_at dksX2_inverse_1 5 rfl rfl)
theorem dX2_inverse_30 : decode cX2_inverse 30 = .ok (.lload 12, 2) := dk_22 12 (dk_at dksX2_inverse_1 7 rfl rfl)
theorem dX2_inverse_32 : decode cX2_inverse 32 = .ok (.lload 6, 2) := dk_22 6 (dk_at dksX2_inverse_1 9 rfl rfl)
theorem dX2_inverse_34 : decode cX2_inverse 34 = .ok (.lmul, 1) := dk_105 (dk_at dksX2_inverse_1 11 rfl rfl)
theorem dX2_inverse_35 : decode cX2_inverse 35 = .ok (.lsub, 1) := dk_101 (dk_at dksX2_inverse_1 12 rfl rfl)
theorem dX2_inverse_36 : decode cX2_inverse 36 = .ok (.lstore 14, 2) := dk_55 14 (dk_at dksX2_inverse_1 13 rfl rfl)
theorem dX2_inverse_38 : decode cX2_inverse 38 = .ok (.lload 8, 2) := dk_22 8 (dk_at dksX2_inverse_1 15 rfl rfl)
theorem dX2_inverse_40 : decode cX2_inverse 40 = .ok (.lload 12, 2) := dk_22 12 (dk_at dksX2_inverse_1 17 rfl rfl)
theorem dX2_inverse_42 : decode cX2_inverse 42 = .ok (.lload 10, 2) := dk_22 10 (dk_at dksX2_inverse_1 19 rfl rfl)
theorem dX2_inverse_44 : decode cX2_inverse 44 = .ok (.lmul, 1) := dk_105 (dk_at dksX2_inverse_1 21 rfl rfl)
theorem dX2_inverse_45 : decode cX2_inverse 45 = .ok (.lsub, 1) := dk_101 (dk_at dksX2_inverse_1 22 rfl rfl)
theorem dX2_inverse_46 : decode cX2_inverse 46 = .ok (.lstore 16, 2) := dk_55 16 (dk_at dksX2_inverse_2 0 rfl rfl)
theorem dX2_inverse_48 : decode cX2_inverse 48 = .ok (.lload 6, 2) := dk_22 6 (dk_at dksX2_inverse_2 2 rfl rfl)
theorem dX2_inverse_50 : decode cX2_inverse 50 = .ok (.lstore 4, 2) := dk_55 4 (dk_at dksX2_inverse_2 4 rfl rfl)
theorem dX2_inverse_52 : decode cX2_inverse 52 = .ok (.lload 14, 2) := dk_22 14 (dk_at dksX2_inverse_2 6 rfl rfl)
theorem dX2_inverse_54 : decode cX2_inverse 54 = .ok (.lstore 6, 2) := dk_55 6 (dk_at dksX2_inverse_2 8 rfl rfl)
theorem dX2_inverse_56 : decode cX2_inverse 56 = .ok (.lload 10, 2) := dk_22 10 (dk_at dksX2_inverse_2 10 rfl rfl)
theorem dX2_inverse_58 : decode cX2_inverse 58 = .ok (.lstore 8, 2) := dk_55 8 (dk_at dksX2_inverse_2 12 rfl rfl)
theorem dX2_inverse_60 : decode cX2_inverse 60 = .ok (.lload 16, 2) := dk_22 16 (dk_at dksX2_inverse_2 14 rfl rfl)
theorem dX2_inverse_62 : decode cX2_inverse 62 = .ok (.lstore 10, 2) := dk_55 10 (dk_at dksX2_inverse_2 16 rfl rfl)
theorem dX2_inverse_64 : decode cX2_inverse 64 = .ok (.goto (-50), 3) := dk_167 255 206 (dk_at dksX2_inverse_2 18 rfl rfl)
theorem dX2_inverse_67 : decode cX2_inverse 67 = .ok (.lload_n 2, 1) := dk_32 (dk_at dksX2_inverse_2 21 rfl rfl)
theorem dX2_inverse_68 : decode cX2_inverse 68 = .ok (.lconst 1, 1) := dk_10 (dk_at dksX2_inverse_2 22 rfl rfl)
theorem dX2_inverse_69 : decode cX2_inverse 69 = .ok (.lcmp, 1) := dk_148 (dk_at dksX2_inverse_2 23 rfl rfl)
theorem dX2_inverse_70 : decode cX2_inverse 70 = .ok (.ifCond .ne 7, 3) := dk_154 0 7 (dk_at dksX2_inverse_3 0 rfl rfl)
theorem dX2_inverse_73 : decode cX2_inverse 73 = .ok (.lconst 0, 1) := dk_9 (dk_at dksX2_inverse_3 3 rfl rfl)
theorem dX2_inverse_74 : decode cX2_inverse 74 = .ok (.goto 11, 3) := dk_167 0 11 (dk_at dksX2_inverse_3 4 rfl rfl)
theorem dX2_inverse_77 : decode cX2_inverse 77 = .ok (.lload 10, 2) := dk_22 10 (dk_at dksX2_inverse_3 7 rfl rfl)
theorem dX2_inverse_79 : decode cX2_inverse 79 = .ok (.lload_n 2, 1) := dk_32 (dk_at dksX2_inverse_3 9 rfl rfl)
theorem dX2_inverse_80 : decode cX2_inverse 80 = .ok (.lrem, 1) := dk_113 (dk_at dksX2_inverse_3 10 rfl rfl)
theorem dX2_inverse_81 : decode cX2_inverse 81 = .ok (.lload_n 2, 1) := dk_32 (dk_at dksX2_inverse_3 11 rfl rfl)
theorem dX2_inverse_82 : decode cX2_inverse 82 = .ok (.ladd, 1) := dk_97 (dk_at dksX2_inverse_3 12 rfl rfl)
theorem dX2_inverse_83 : decode cX2_inverse 83 = .ok (.lload_n 2, 1) := dk_32 (dk_at dksX2_inverse_3 13 rfl rfl)
theorem dX2_inverse_84 : decode cX2_inverse 84 = .ok (.lrem, 1) := dk_113 (dk_at dksX2_inverse_3 14 rfl rfl)
theorem dX2_inverse_85 : decode cX2_inverse 85 = .ok (.lreturn, 1) := dk_173 (dk_at dksX2_inverse_3 15 rfl rfl)
abbrev cX2_begin : ByteArray := prog_17_method_71_code
def yX2_begin : MethodName := ⟨RX2, "begin", "(IJ)J"⟩
def dkwX2_begin_2 : List UInt8 := [133, 55, 4, 132, 6, 1, 167, 255, 209, 22, 4, 173]
abbrev dktX2_begin_2 : List UInt8 := dkwX2_begin_2 ++ []
def dkwX2_begin_1 : List UInt8 := [153, 0, 27, 42, 180, 0, 52, 21, 6, 46, 133, 22, 4, 148, 158, 0, 13, 42, 180, 0, 52, 21, 6, 46]
abbrev dktX2_begin_1 : List UInt8 := dkwX2_begin_1 ++ dktX2_begin_2
def dkwX2_begin_0 : List UInt8 := [32, 55, 4, 3, 54, 6, 21, 6, 42, 180, 0, 7, 3, 46, 162, 0, 42, 27, 21, 6, 184, 1, 54]
abbrev dktX2_begin_0 : List UInt8 := dkwX2_begin_0 ++ dktX2_begin_1
theorem dksX2_begin_0 : cX2_begin.data.toList.drop 0 = dktX2_begin_0 := by decide +kernel
theorem dksX2_begin_1 : cX2_begin.data.toList.drop 23 = dktX2_begin_1 := dk_seg dksX2_begin_0 23 rfl rfl
theorem dksX2_begin_2 : cX2_begin.data.toList.drop 47 = dktX2_begin_2 := dk_seg dksX2_begin_1 24 rfl rfl
theorem dX2_begin_0 : decode cX2_begin 0 = .ok (.lload_n 2, 1) := dk_32 (dk_at dksX2_begin_0 0 rfl rfl)
theorem dX2_begin_1 : decode cX2_begin 1 = .ok (.lstore 4, 2) := dk_55 4 (dk_at dksX2_begin_0 1 rfl rfl)
theorem dX2_begin_3 : decode cX2_begin 3 = .ok (.iconst 0, 1) := dk_3 (dk_at dksX2_begin_0 3 rfl rfl)
theorem dX2_begin_4 : decode cX2_begin 4 = .ok (.istore 6, 2) := dk_54 6 (dk_at dksX2_begin_0 4 rfl rfl)
theorem dX2_begin_6 : decode cX2_begin 6 = .ok (.iload 6, 2) := dk_21 6 (dk_at dksX2_begin_0 6 rfl rfl)
theorem dX2_begin_8 : decode cX2_begin 8 = .ok (.aload_n 0, 1) := dk_42 (dk_at dksX2_begin_0 8 rfl rfl)
theorem dX2_begin_9 : decode cX2_begin 9 = .ok (.getfield 7, 3) := dk_180 0 7 (dk_at dksX2_begin_0 9 rfl rfl)
theorem dX2_begin_12 : decode cX2_begin 12 = .ok (.iconst 0, 1) := dk_3 (dk_at dksX2_begin_0 12 rfl rfl)
theorem dX2_begin_13 : decode cX2_begin 13 = .ok (.iaload, 1) := dk_46 (dk_at dksX2_begin_0 13 rfl rfl)
theorem dX2_begin_14 : decode cX2_begin 14 = .ok (.if_icmp .ge 42, 3) := dk_162 0 42 (dk_at dksX2_begin_0 14 rfl rfl)
theorem dX2_begin_17 : decode cX2_begin 17 = .ok (.iload_n 1, 1) := dk_27 (dk_at dksX2_begin_0 17 rfl rfl)
theorem dX2_begin_18 : decode cX2_begin 18 = .ok (.iload 6, 2) := dk_21 6 (dk_at dksX2_begin_0 18 rfl rfl)
theorem dX2_begin_20 : decode cX2_begin 20 = .ok (.invokestatic 310, 3) := dk_184 1 54 (dk_at dksX2_begin_0 20 rfl rfl)
theorem dX2_begin_23 : decode cX2_begin 23 = .ok (.ifCond .eq 27, 3) := dk_153 0 27 (dk_at dksX2_begin_1 0 rfl rfl)
theorem dX2_begin_26 : decode cX2_begin 26 = .ok (.aload_n 0, 1) := dk_42 (dk_at dksX2_begin_1 3 rfl rfl)
theorem dX2_begin_27 : decode cX2_begin 27 = .ok (.getfield 52, 3) := dk_180 0 52 (dk_at dksX2_begin_1 4 rfl rfl)
theorem dX2_begin_30 : decode cX2_begin 30 = .ok (.iload 6, 2) := dk_21 6 (dk_at dksX2_begin_1 7 rfl rfl)
theorem dX2_begin_32 : decode cX2_begin 32 = .ok (.iaload, 1) := dk_46 (dk_at dksX2_begin_1 9 rfl rfl)
theorem dX2_begin_33 : decode cX2_begin 33 = .ok (.i2l, 1) := dk_133 (dk_at dksX2_begin_1 10 rfl rfl)
theorem dX2_begin_34 : decode cX2_begin 34 = .ok (.lload 4, 2) := dk_22 4 (dk_at dksX2_begin_1 11 rfl rfl)
theorem dX2_begin_36 : decode cX2_begin 36 = .ok (.lcmp, 1) := dk_148 (dk_at dksX2_begin_1 13 rfl rfl)
theorem dX2_begin_37 : decode cX2_begin 37 = .ok (.ifCond .le 13, 3) := dk_158 0 13 (dk_at dksX2_begin_1 14 rfl rfl)
theorem dX2_begin_40 : decode cX2_begin 40 = .ok (.aload_n 0, 1) := dk_42 (dk_at dksX2_begin_1 17 rfl rfl)
theorem dX2_begin_41 : decode cX2_begin 41 = .ok (.getfield 52, 3) := dk_180 0 52 (dk_at dksX2_begin_1 18 rfl rfl)
theorem dX2_begin_44 : decode cX2_begin 44 = .ok (.iload 6, 2) := dk_21 6 (dk_at dksX2_begin_1 21 rfl rfl)
theorem dX2_begin_46 : decode cX2_begin 46 = .ok (.iaload, 1) := dk_46 (dk_at dksX2_begin_1 23 rfl rfl)
theorem dX2_begin_47 : decode cX2_begin 47 = .ok (.i2l, 1) := dk_133 (dk_at dksX2_begin_2 0 rfl rfl)
theorem dX2_begin_48 : decode cX2_begin 48 = .ok (.lstore 4, 2) := dk_55 4 (dk_at dksX2_begin_2 1 rfl rfl)
theorem dX2_begin_50 : decode cX2_begin 50 = .ok (.iinc 6 1, 3) := dk_132 6 1 (dk_at dksX2_begin_2 3 rfl rfl)
theorem dX2_begin_53 : decode cX2_begin 53 = .ok (.goto (-47), 3) := dk_167 255 209 (dk_at dksX2_begin_2 6 rfl rfl)
theorem dX2_begin_56 : decode cX2_begin 56 = .ok (.lload 4, 2) := dk_22 4 (dk_at dksX2_begin_2 9 rfl rfl)
theorem dX2_begin_58 : decode cX2_begin 58 = .ok (.lreturn, 1) := dk_173 (dk_at dksX2_begin_2 11 rfl rfl)
abbrev cX2_from : ByteArray := prog_17_method_72_code
def yX2_from : MethodName := ⟨RX2, "from", "(J)J"⟩
def dkwX2_from_2 : List UInt8 := [42, 180, 1, 63, 109, 42, 180, 1, 63, 105, 97, 173]
abbrev dktX2_from_2 : List UInt8 := dkwX2_from_2 ++ []
def dkwX2_from_1 : List UInt8 := [154, 0, 7, 20, 1, 84, 173, 42, 180, 1, 68, 31, 42, 180, 1, 68, 101, 42, 180, 1, 63, 97, 10, 101]
abbrev dktX2_from_1 : List UInt8 := dkwX2_from_1 ++ dktX2_from_2
def dkwX2_from_0 : List UInt8 := [42, 180, 1, 68, 31, 148, 155, 0, 8, 42, 180, 1, 68, 173, 42, 180, 1, 63, 20, 1, 66, 148]
abbrev dktX2_from_0 : List UInt8 := dkwX2_from_0 ++ dktX2_from_1
theorem dksX2_from_0 : cX2_from.data.toList.drop 0 = dktX2_from_0 := by decide +kernel
theorem dksX2_from_1 : cX2_from.data.toList.drop 22 = dktX2_from_1 := dk_seg dksX2_from_0 22 rfl rfl
theorem dksX2_from_2 : cX2_from.data.toList.drop 46 = dktX2_from_2 := dk_seg dksX2_from_1 24 rfl rfl
theorem dX2_from_0 : decode cX2_from 0 = .ok (.aload_n 0, 1) := dk_42 (dk_at dksX2_from_0 0 rfl rfl)
theorem dX2_from_1 : decode cX2_from 1 = .ok (.getfield 324, 3) := dk_180 1 68 (dk_at dksX2_from_0 1 rfl rfl)
theorem dX2_from_4 : decode cX2_from 4 = .ok (.lload_n 1, 1) := dk_31 (dk_at dksX2_from_0 4 rfl rfl)
theorem dX2_from_5 : decode cX2_from 5 = .ok (.lcmp, 1) := dk_148 (dk_at dksX2_from_0 5 rfl rfl)
theorem dX2_from_6 : decode cX2_from 6 = .ok (.ifCond .lt 8, 3) := dk_155 0 8 (dk_at dksX2_from_0 6 rfl rfl)
theorem dX2_from_9 : decode cX2_from 9 = .ok (.aload_n 0, 1) := dk_42 (dk_at dksX2_from_0 9 rfl rfl)
theorem dX2_from_10 : decode cX2_from 10 = .ok (.getfield 324, 3) := dk_180 1 68 (dk_at dksX2_from_0 10 rfl rfl)
theorem dX2_from_13 : decode cX2_from 13 = .ok (.lreturn, 1) := dk_173 (dk_at dksX2_from_0 13 rfl rfl)
theorem dX2_from_14 : decode cX2_from 14 = .ok (.aload_n 0, 1) := dk_42 (dk_at dksX2_from_0 14 rfl rfl)
theorem dX2_from_15 : decode cX2_from 15 = .ok (.getfield 319, 3) := dk_180 1 63 (dk_at dksX2_from_0 15 rfl rfl)
theorem dX2_from_18 : decode cX2_from 18 = .ok (.ldc2_w 322, 3) := dk_20 1 66 (dk_at dksX2_from_0 18 rfl rfl)
theorem dX2_from_21 : decode cX2_from 21 = .ok (.lcmp, 1) := dk_148 (dk_at dksX2_from_0 21 rfl rfl)
theorem dX2_from_22 : decode cX2_from 22 = .ok (.ifCond .ne 7, 3) := dk_154 0 7 (dk_at dksX2_from_1 0 rfl rfl)
theorem dX2_from_25 : decode cX2_from 25 = .ok (.ldc2_w 340, 3) := dk_20 1 84 (dk_at dksX2_from_1 3 rfl rfl)
theorem dX2_from_28 : decode cX2_from 28 = .ok (.lreturn, 1) := dk_173 (dk_at dksX2_from_1 6 rfl rfl)
theorem dX2_from_29 : decode cX2_from 29 = .ok (.aload_n 0, 1) := dk_42 (dk_at dksX2_from_1 7 rfl rfl)
theorem dX2_from_30 : decode cX2_from 30 = .ok (.getfield 324, 3) := dk_180 1 68 (dk_at dksX2_from_1 8 rfl rfl)
theorem dX2_from_33 : decode cX2_from 33 = .ok (.lload_n 1, 1) := dk_31 (dk_at dksX2_from_1 11 rfl rfl)
theorem dX2_from_34 : decode cX2_from 34 = .ok (.aload_n 0, 1) := dk_42 (dk_at dksX2_from_1 12 rfl rfl)
theorem dX2_from_35 : decode cX2_from 35 = .ok (.getfield 324, 3) := dk_180 1 68 (dk_at dksX2_from_1 13 rfl rfl)
theorem dX2_from_38 : decode cX2_from 38 = .ok (.lsub, 1) := dk_101 (dk_at dksX2_from_1 16 rfl rfl)
theorem dX2_from_39 : decode cX2_from 39 = .ok (.aload_n 0, 1) := dk_42 (dk_at dksX2_from_1 17 rfl rfl)
theorem dX2_from_40 : decode cX2_from 40 = .ok (.getfield 319, 3) := dk_180 1 63 (dk_at dksX2_from_1 18 rfl rfl)
theorem dX2_from_43 : decode cX2_from 43 = .ok (.ladd, 1) := dk_97 (dk_at dksX2_from_1 21 rfl rfl)
theorem dX2_from_44 : decode cX2_from 44 = .ok (.lconst 1, 1) := dk_10 (dk_at dksX2_from_1 22 rfl rfl)
theorem dX2_from_45 : decode cX2_from 45 = .ok (.lsub, 1) := dk_101 (dk_at dksX2_from_1 23 rfl rfl)
theorem dX2_from_46 : decode cX2_from 46 = .ok (.aload_n 0, 1) := dk_42 (dk_at dksX2_from_2 0 rfl rfl)
theorem dX2_from_47 : decode cX2_from 47 = .ok (.getfield 319, 3) := dk_180 1 63 (dk_at dksX2_from_2 1 rfl rfl)
theorem dX2_from_50 : decode cX2_from 50 = .ok (.ldiv, 1) := dk_109 (dk_at dksX2_from_2 4 rfl rfl)
theorem dX2_from_51 : decode cX2_from 51 = .ok (.aload_n 0, 1) := dk_42 (dk_at dksX2_from_2 5 rfl rfl)
theorem dX2_from_52 : decode cX2_from 52 = .ok (.getfield 319, 3) := dk_180 1 63 (dk_at dksX2_from_2 6 rfl rfl)
theorem dX2_from_55 : decode cX2_from 55 = .ok (.lmul, 1) := dk_105 (dk_at dksX2_from_2 9 rfl rfl)
theorem dX2_from_56 : decode cX2_from 56 = .ok (.ladd, 1) := dk_97 (dk_at dksX2_from_2 10 rfl rfl)
theorem dX2_from_57 : decode cX2_from 57 = .ok (.lreturn, 1) := dk_173 (dk_at dksX2_from_2 11 rfl rfl)
abbrev cX2_barred : ByteArray := prog_17_method_76_code
def yX2_barred : MethodName := ⟨RX2, "barred", "(II)I"⟩
def dkwX2_barred_4 : List UInt8 := [21, 4, 172, 132, 4, 1, 167, 255, 204, 132, 3, 1, 167, 255, 183, 2, 172]
abbrev dktX2_barred_4 : List UInt8 := dkwX2_barred_4 ++ []
def dkwX2_barred_3 : List UInt8 := [184, 1, 54, 153, 0, 24, 42, 29, 21, 4, 182, 1, 78, 154, 0, 14, 28, 154, 0, 7, 29, 167, 0, 5]
abbrev dktX2_barred_3 : List UInt8 := dkwX2_barred_3 ++ dktX2_barred_4
def dkwX2_barred_2 : List UInt8 := [54, 4, 21, 4, 42, 180, 0, 7, 3, 46, 162, 0, 47, 27, 29, 184, 1, 54, 153, 0, 33, 27, 21, 4]
abbrev dktX2_barred_2 : List UInt8 := dkwX2_barred_2 ++ dktX2_barred_3
def dkwX2_barred_1 : List UInt8 := [158, 0, 5, 2, 172, 42, 182, 1, 60, 3, 62, 29, 42, 180, 0, 7, 3, 46, 162, 0, 69, 29, 4, 96]
abbrev dktX2_barred_1 : List UInt8 := dkwX2_barred_1 ++ dktX2_barred_2
def dkwX2_barred_0 : List UInt8 := [42, 27, 182, 1, 96, 153, 0, 21, 28, 3, 4, 184, 0, 104, 153, 0, 12, 42, 180, 0, 7, 4, 46]
abbrev dktX2_barred_0 : List UInt8 := dkwX2_barred_0 ++ dktX2_barred_1
theorem dksX2_barred_0 : cX2_barred.data.toList.drop 0 = dktX2_barred_0 := by decide +kernel
theorem dksX2_barred_1 : cX2_barred.data.toList.drop 23 = dktX2_barred_1 := dk_seg dksX2_barred_0 23 rfl rfl
theorem dksX2_barred_2 : cX2_barred.data.toList.drop 47 = dktX2_barred_2 := dk_seg dksX2_barred_1 24 rfl rfl
theorem dksX2_barred_3 : cX2_barred.data.toList.drop 71 = dktX2_barred_3 := dk_seg dksX2_barred_2 24 rfl rfl
theorem dksX2_barred_4 : cX2_barred.data.toList.drop 95 = dktX2_barred_4 := dk_seg dksX2_barred_3 24 rfl rfl
theorem dX2_barred_0 : decode cX2_barred 0 = .ok (.aload_n 0, 1) := dk_42 (dk_at dksX2_barred_0 0 rfl rfl)
theorem dX2_barred_1 : decode cX2_barred 1 = .ok (.iload_n 1, 1) := dk_27 (dk_at dksX2_barred_0 1 rfl rfl)
theorem dX2_barred_2 : decode cX2_barred 2 = .ok (.invokevirtual 352, 3) := dk_182 1 96 (dk_at dksX2_barred_0 2 rfl rfl)
theorem dX2_barred_5 : decode cX2_barred 5 = .ok (.ifCond .eq 21, 3) := dk_153 0 21 (dk_at dksX2_barred_0 5 rfl rfl)
theorem dX2_barred_8 : decode cX2_barred 8 = .ok (.iload_n 2, 1) := dk_28 (dk_at dksX2_barred_0 8 rfl rfl)
theorem dX2_barred_9 : decode cX2_barred 9 = .ok (.iconst 0, 1) := dk_3 (dk_at dksX2_barred_0 9 rfl rfl)
theorem dX2_barred_10 : decode cX2_barred 10 = .ok (.iconst 1, 1) := dk_4 (dk_at dksX2_barred_0 10 rfl rfl)
theorem dX2_barred_11 : decode cX2_barred 11 = .ok (.invokestatic 104, 3) := dk_184 0 104 (dk_at dksX2_barred_0 11 rfl rfl)
theorem dX2_barred_14 : decode cX2_barred 14 = .ok (.ifCond .eq 12, 3) := dk_153 0 12 (dk_at dksX2_barred_0 14 rfl rfl)
theorem dX2_barred_17 : decode cX2_barred 17 = .ok (.aload_n 0, 1) := dk_42 (dk_at dksX2_barred_0 17 rfl rfl)
theorem dX2_barred_18 : decode cX2_barred 18 = .ok (.getfield 7, 3) := dk_180 0 7 (dk_at dksX2_barred_0 18 rfl rfl)
theorem dX2_barred_21 : decode cX2_barred 21 = .ok (.iconst 1, 1) := dk_4 (dk_at dksX2_barred_0 21 rfl rfl)
theorem dX2_barred_22 : decode cX2_barred 22 = .ok (.iaload, 1) := dk_46 (dk_at dksX2_barred_0 22 rfl rfl)
theorem dX2_barred_23 : decode cX2_barred 23 = .ok (.ifCond .le 5, 3) := dk_158 0 5 (dk_at dksX2_barred_1 0 rfl rfl)
theorem dX2_barred_26 : decode cX2_barred 26 = .ok (.iconst (-1), 1) := dk_2 (dk_at dksX2_barred_1 3 rfl rfl)
theorem dX2_barred_27 : decode cX2_barred 27 = .ok (.ireturn, 1) := dk_172 (dk_at dksX2_barred_1 4 rfl rfl)
theorem dX2_barred_28 : decode cX2_barred 28 = .ok (.aload_n 0, 1) := dk_42 (dk_at dksX2_barred_1 5 rfl rfl)
theorem dX2_barred_29 : decode cX2_barred 29 = .ok (.invokevirtual 316, 3) := dk_182 1 60 (dk_at dksX2_barred_1 6 rfl rfl)
theorem dX2_barred_32 : decode cX2_barred 32 = .ok (.iconst 0, 1) := dk_3 (dk_at dksX2_barred_1 9 rfl rfl)
theorem dX2_barred_33 : decode cX2_barred 33 = .ok (.istore_n 3, 1) := dk_62 (dk_at dksX2_barred_1 10 rfl rfl)
theorem dX2_barred_34 : decode cX2_barred 34 = .ok (.iload_n 3, 1) := dk_29 (dk_at dksX2_barred_1 11 rfl rfl)
theorem dX2_barred_35 : decode cX2_barred 35 = .ok (.aload_n 0, 1) := dk_42 (dk_at dksX2_barred_1 12 rfl rfl)
theorem dX2_barred_36 : decode cX2_barred 36 = .ok (.getfield 7, 3) := dk_180 0 7 (dk_at dksX2_barred_1 13 rfl rfl)
theorem dX2_barred_39 : decode cX2_barred 39 = .ok (.iconst 0, 1) := dk_3 (dk_at dksX2_barred_1 16 rfl rfl)
theorem dX2_barred_40 : decode cX2_barred 40 = .ok (.iaload, 1) := dk_46 (dk_at dksX2_barred_1 17 rfl rfl)
theorem dX2_barred_41 : decode cX2_barred 41 = .ok (.if_icmp .ge 69, 3) := dk_162 0 69 (dk_at dksX2_barred_1 18 rfl rfl)
theorem dX2_barred_44 : decode cX2_barred 44 = .ok (.iload_n 3, 1) := dk_29 (dk_at dksX2_barred_1 21 rfl rfl)
theorem dX2_barred_45 : decode cX2_barred 45 = .ok (.iconst 1, 1) := dk_4 (dk_at dksX2_barred_1 22 rfl rfl)
theorem dX2_barred_46 : decode cX2_barred 46 = .ok (.iadd, 1) := dk_96 (dk_at dksX2_barred_1 23 rfl rfl)
theorem dX2_barred_47 : decode cX2_barred 47 = .ok (.istore 4, 2) := dk_54 4 (dk_at dksX2_barred_2 0 rfl rfl)
theorem dX2_barred_49 : decode cX2_barred 49 = .ok (.iload 4, 2) := dk_21 4 (dk_at dksX2_barred_2 2 rfl rfl)
theorem dX2_barred_51 : decode cX2_barred 51 = .ok (.aload_n 0, 1) := dk_42 (dk_at dksX2_barred_2 4 rfl rfl)
theorem dX2_barred_52 : decode cX2_barred 52 = .ok (.getfield 7, 3) := dk_180 0 7 (dk_at dksX2_barred_2 5 rfl rfl)
theorem dX2_barred_55 : decode cX2_barred 55 = .ok (.iconst 0, 1) := dk_3 (dk_at dksX2_barred_2 8 rfl rfl)
theorem dX2_barred_56 : decode cX2_barred 56 = .ok (.iaload, 1) := dk_46 (dk_at dksX2_barred_2 9 rfl rfl)
theorem dX2_barred_57 : decode cX2_barred 57 = .ok (.if_icmp .ge 47, 3) := dk_162 0 47 (dk_at dksX2_barred_2 10 rfl rfl)
theorem dX2_barred_60 : decode cX2_barred 60 = .ok (.iload_n 1, 1) := dk_27 (dk_at dksX2_barred_2 13 rfl rfl)
theorem dX2_barred_61 : decode cX2_barred 61 = .ok (.iload_n 3, 1) := dk_29 (dk_at dksX2_barred_2 14 rfl rfl)
theorem dX2_barred_62 : decode cX2_barred 62 = .ok (.invokestatic 310, 3) := dk_184 1 54 (dk_at dksX2_barred_2 15 rfl rfl)
theorem dX2_barred_65 : decode cX2_barred 65 = .ok (.ifCond .eq 33, 3) := dk_153 0 33 (dk_at dksX2_barred_2 18 rfl rfl)
theorem dX2_barred_68 : decode cX2_barred 68 = .ok (.iload_n 1, 1) := dk_27 (dk_at dksX2_barred_2 21 rfl rfl)
theorem dX2_barred_69 : decode cX2_barred 69 = .ok (.iload 4, 2) := dk_21 4 (dk_at dksX2_barred_2 22 rfl rfl)
theorem dX2_barred_71 : decode cX2_barred 71 = .ok (.invokestatic 310, 3) := dk_184 1 54 (dk_at dksX2_barred_3 0 rfl rfl)
theorem dX2_barred_74 : decode cX2_barred 74 = .ok (.ifCond .eq 24, 3) := dk_153 0 24 (dk_at dksX2_barred_3 3 rfl rfl)
theorem dX2_barred_77 : decode cX2_barred 77 = .ok (.aload_n 0, 1) := dk_42 (dk_at dksX2_barred_3 6 rfl rfl)
theorem dX2_barred_78 : decode cX2_barred 78 = .ok (.iload_n 3, 1) := dk_29 (dk_at dksX2_barred_3 7 rfl rfl)
theorem dX2_barred_79 : decode cX2_barred 79 = .ok (.iload 4, 2) := dk_21 4 (dk_at dksX2_barred_3 8 rfl rfl)
theorem dX2_barred_81 : decode cX2_barred 81 = .ok (.invokevirtual 334, 3) := dk_182 1 78 (dk_at dksX2_barred_3 10 rfl rfl)
theorem dX2_barred_84 : decode cX2_barred 84 = .ok (.ifCond .ne 14, 3) := dk_154 0 14 (dk_at dksX2_barred_3 13 rfl rfl)
theorem dX2_barred_87 : decode cX2_barred 87 = .ok (.iload_n 2, 1) := dk_28 (dk_at dksX2_barred_3 16 rfl rfl)
theorem dX2_barred_88 : decode cX2_barred 88 = .ok (.ifCond .ne 7, 3) := dk_154 0 7 (dk_at dksX2_barred_3 17 rfl rfl)
theorem dX2_barred_91 : decode cX2_barred 91 = .ok (.iload_n 3, 1) := dk_29 (dk_at dksX2_barred_3 20 rfl rfl)
theorem dX2_barred_92 : decode cX2_barred 92 = .ok (.goto 5, 3) := dk_167 0 5 (dk_at dksX2_barred_3 21 rfl rfl)
theorem dX2_barred_95 : decode cX2_barred 95 = .ok (.iload 4, 2) := dk_21 4 (dk_at dksX2_barred_4 0 rfl rfl)
theorem dX2_barred_97 : decode cX2_barred 97 = .ok (.ireturn, 1) := dk_172 (dk_at dksX2_barred_4 2 rfl rfl)
theorem dX2_barred_98 : decode cX2_barred 98 = .ok (.iinc 4 1, 3) := dk_132 4 1 (dk_at dksX2_barred_4 3 rfl rfl)
theorem dX2_barred_101 : decode cX2_barred 101 = .ok (.goto (-52), 3) := dk_167 255 204 (dk_at dksX2_barred_4 6 rfl rfl)
theorem dX2_barred_104 : decode cX2_barred 104 = .ok (.iinc 3 1, 3) := dk_132 3 1 (dk_at dksX2_barred_4 9 rfl rfl)
theorem dX2_barred_107 : decode cX2_barred 107 = .ok (.goto (-73), 3) := dk_167 255 183 (dk_at dksX2_barred_4 12 rfl rfl)
theorem dX2_barred_110 : decode cX2_barred 110 = .ok (.iconst (-1), 1) := dk_2 (dk_at dksX2_barred_4 15 rfl rfl)
theorem dX2_barred_111 : decode cX2_barred 111 = .ok (.ireturn, 1) := dk_172 (dk_at dksX2_barred_4 16 rfl rfl)
abbrev cX2_together : ByteArray := prog_17_method_80_code
def yX2_together : MethodName := ⟨RX2, "together", "(IJJ)J"⟩
def dkwX2_together_1 : List UInt8 := [182, 1, 60, 42, 27, 32, 22, 4, 182, 1, 126, 173]
abbrev dktX2_together_1 : List UInt8 := dkwX2_together_1 ++ []
def dkwX2_together_0 : List UInt8 := [42, 27, 182, 1, 96, 153, 0, 12, 32, 22, 4, 184, 1, 122, 154, 0, 7, 20, 1, 94, 173, 42]
abbrev dktX2_together_0 : List UInt8 := dkwX2_together_0 ++ dktX2_together_1
theorem dksX2_together_0 : cX2_together.data.toList.drop 0 = dktX2_together_0 := by decide +kernel
theorem dksX2_together_1 : cX2_together.data.toList.drop 22 = dktX2_together_1 := dk_seg dksX2_together_0 22 rfl rfl
theorem dX2_together_0 : decode cX2_together 0 = .ok (.aload_n 0, 1) := dk_42 (dk_at dksX2_together_0 0 rfl rfl)
theorem dX2_together_1 : decode cX2_together 1 = .ok (.iload_n 1, 1) := dk_27 (dk_at dksX2_together_0 1 rfl rfl)
theorem dX2_together_2 : decode cX2_together 2 = .ok (.invokevirtual 352, 3) := dk_182 1 96 (dk_at dksX2_together_0 2 rfl rfl)
theorem dX2_together_5 : decode cX2_together 5 = .ok (.ifCond .eq 12, 3) := dk_153 0 12 (dk_at dksX2_together_0 5 rfl rfl)
theorem dX2_together_8 : decode cX2_together 8 = .ok (.lload_n 2, 1) := dk_32 (dk_at dksX2_together_0 8 rfl rfl)
theorem dX2_together_9 : decode cX2_together 9 = .ok (.lload 4, 2) := dk_22 4 (dk_at dksX2_together_0 9 rfl rfl)
theorem dX2_together_11 : decode cX2_together 11 = .ok (.invokestatic 378, 3) := dk_184 1 122 (dk_at dksX2_together_0 11 rfl rfl)
theorem dX2_together_14 : decode cX2_together 14 = .ok (.ifCond .ne 7, 3) := dk_154 0 7 (dk_at dksX2_together_0 14 rfl rfl)
theorem dX2_together_17 : decode cX2_together 17 = .ok (.ldc2_w 350, 3) := dk_20 1 94 (dk_at dksX2_together_0 17 rfl rfl)
theorem dX2_together_20 : decode cX2_together 20 = .ok (.lreturn, 1) := dk_173 (dk_at dksX2_together_0 20 rfl rfl)
theorem dX2_together_21 : decode cX2_together 21 = .ok (.aload_n 0, 1) := dk_42 (dk_at dksX2_together_0 21 rfl rfl)
theorem dX2_together_22 : decode cX2_together 22 = .ok (.invokevirtual 316, 3) := dk_182 1 60 (dk_at dksX2_together_1 0 rfl rfl)
theorem dX2_together_25 : decode cX2_together 25 = .ok (.aload_n 0, 1) := dk_42 (dk_at dksX2_together_1 3 rfl rfl)
theorem dX2_together_26 : decode cX2_together 26 = .ok (.iload_n 1, 1) := dk_27 (dk_at dksX2_together_1 4 rfl rfl)
theorem dX2_together_27 : decode cX2_together 27 = .ok (.lload_n 2, 1) := dk_32 (dk_at dksX2_together_1 5 rfl rfl)
theorem dX2_together_28 : decode cX2_together 28 = .ok (.lload 4, 2) := dk_22 4 (dk_at dksX2_together_1 6 rfl rfl)
theorem dX2_together_30 : decode cX2_together 30 = .ok (.invokevirtual 382, 3) := dk_182 1 126 (dk_at dksX2_together_1 8 rfl rfl)
theorem dX2_together_33 : decode cX2_together 33 = .ok (.lreturn, 1) := dk_173 (dk_at dksX2_together_1 11 rfl rfl)
abbrev cX2_areHours : ByteArray := prog_17_method_79_code
def yX2_areHours : MethodName := ⟨RX2, "areHours", "(JJ)Z"⟩
def dkwX2_areHours_1 : List UInt8 := [10, 101, 20, 0, 108, 148, 157, 0, 7, 4, 167, 0, 4, 3, 172]
abbrev dktX2_areHours_1 : List UInt8 := dkwX2_areHours_1 ++ []
def dkwX2_areHours_0 : List UInt8 := [30, 184, 1, 57, 153, 0, 33, 32, 10, 148, 155, 0, 27, 32, 20, 0, 108, 148, 157, 0, 19, 30, 32, 97]
abbrev dktX2_areHours_0 : List UInt8 := dkwX2_areHours_0 ++ dktX2_areHours_1
theorem dksX2_areHours_0 : cX2_areHours.data.toList.drop 0 = dktX2_areHours_0 := by decide +kernel
theorem dksX2_areHours_1 : cX2_areHours.data.toList.drop 24 = dktX2_areHours_1 := dk_seg dksX2_areHours_0 24 rfl rfl
theorem dX2_areHours_0 : decode cX2_areHours 0 = .ok (.lload_n 0, 1) := dk_30 (dk_at dksX2_areHours_0 0 rfl rfl)
theorem dX2_areHours_1 : decode cX2_areHours 1 = .ok (.invokestatic 313, 3) := dk_184 1 57 (dk_at dksX2_areHours_0 1 rfl rfl)
theorem dX2_areHours_4 : decode cX2_areHours 4 = .ok (.ifCond .eq 33, 3) := dk_153 0 33 (dk_at dksX2_areHours_0 4 rfl rfl)
theorem dX2_areHours_7 : decode cX2_areHours 7 = .ok (.lload_n 2, 1) := dk_32 (dk_at dksX2_areHours_0 7 rfl rfl)
theorem dX2_areHours_8 : decode cX2_areHours 8 = .ok (.lconst 1, 1) := dk_10 (dk_at dksX2_areHours_0 8 rfl rfl)
theorem dX2_areHours_9 : decode cX2_areHours 9 = .ok (.lcmp, 1) := dk_148 (dk_at dksX2_areHours_0 9 rfl rfl)
theorem dX2_areHours_10 : decode cX2_areHours 10 = .ok (.ifCond .lt 27, 3) := dk_155 0 27 (dk_at dksX2_areHours_0 10 rfl rfl)
theorem dX2_areHours_13 : decode cX2_areHours 13 = .ok (.lload_n 2, 1) := dk_32 (dk_at dksX2_areHours_0 13 rfl rfl)
theorem dX2_areHours_14 : decode cX2_areHours 14 = .ok (.ldc2_w 108, 3) := dk_20 0 108 (dk_at dksX2_areHours_0 14 rfl rfl)
theorem dX2_areHours_17 : decode cX2_areHours 17 = .ok (.lcmp, 1) := dk_148 (dk_at dksX2_areHours_0 17 rfl rfl)
theorem dX2_areHours_18 : decode cX2_areHours 18 = .ok (.ifCond .gt 19, 3) := dk_157 0 19 (dk_at dksX2_areHours_0 18 rfl rfl)
theorem dX2_areHours_21 : decode cX2_areHours 21 = .ok (.lload_n 0, 1) := dk_30 (dk_at dksX2_areHours_0 21 rfl rfl)
theorem dX2_areHours_22 : decode cX2_areHours 22 = .ok (.lload_n 2, 1) := dk_32 (dk_at dksX2_areHours_0 22 rfl rfl)
theorem dX2_areHours_23 : decode cX2_areHours 23 = .ok (.ladd, 1) := dk_97 (dk_at dksX2_areHours_0 23 rfl rfl)
theorem dX2_areHours_24 : decode cX2_areHours 24 = .ok (.lconst 1, 1) := dk_10 (dk_at dksX2_areHours_1 0 rfl rfl)
theorem dX2_areHours_25 : decode cX2_areHours 25 = .ok (.lsub, 1) := dk_101 (dk_at dksX2_areHours_1 1 rfl rfl)
theorem dX2_areHours_26 : decode cX2_areHours 26 = .ok (.ldc2_w 108, 3) := dk_20 0 108 (dk_at dksX2_areHours_1 2 rfl rfl)
theorem dX2_areHours_29 : decode cX2_areHours 29 = .ok (.lcmp, 1) := dk_148 (dk_at dksX2_areHours_1 5 rfl rfl)
theorem dX2_areHours_30 : decode cX2_areHours 30 = .ok (.ifCond .gt 7, 3) := dk_157 0 7 (dk_at dksX2_areHours_1 6 rfl rfl)
theorem dX2_areHours_33 : decode cX2_areHours 33 = .ok (.iconst 1, 1) := dk_4 (dk_at dksX2_areHours_1 9 rfl rfl)
theorem dX2_areHours_34 : decode cX2_areHours 34 = .ok (.goto 4, 3) := dk_167 0 4 (dk_at dksX2_areHours_1 10 rfl rfl)
theorem dX2_areHours_37 : decode cX2_areHours 37 = .ok (.iconst 0, 1) := dk_3 (dk_at dksX2_areHours_1 13 rfl rfl)
theorem dX2_areHours_38 : decode cX2_areHours 38 = .ok (.ireturn, 1) := dk_172 (dk_at dksX2_areHours_1 14 rfl rfl)
abbrev cX2_togetherOf : ByteArray := prog_17_method_78_code
def yX2_togetherOf : MethodName := ⟨RX2, "togetherOf", "(IJJ)J"⟩
def dkwX2_togetherOf_7 : List UInt8 := [132, 11, 1, 167, 255, 177, 22, 6, 173]
abbrev dktX2_togetherOf_7 : List UInt8 := dkwX2_togetherOf_7 ++ []
def dkwX2_togetherOf_6 : List UInt8 := [22, 8, 148, 157, 0, 20, 22, 6, 22, 8, 22, 12, 101, 42, 180, 1, 63, 109, 10, 97, 97, 55, 6]
abbrev dktX2_togetherOf_6 : List UInt8 := dkwX2_togetherOf_6 ++ dktX2_togetherOf_7
def dkwX2_togetherOf_5 : List UInt8 := [182, 1, 109, 154, 0, 6, 167, 0, 40, 42, 42, 27, 32, 182, 1, 112, 182, 1, 115, 55, 12, 22, 12]
abbrev dktX2_togetherOf_5 : List UInt8 := dkwX2_togetherOf_5 ++ dktX2_togetherOf_6
def dkwX2_togetherOf_4 : List UInt8 := [5, 46, 162, 0, 74, 21, 10, 153, 0, 69, 42, 27, 21, 11, 182, 1, 106, 153, 0, 53, 42, 27, 21, 11]
abbrev dktX2_togetherOf_4 : List UInt8 := dkwX2_togetherOf_4 ++ dktX2_togetherOf_5
def dkwX2_togetherOf_3 : List UInt8 := [32, 22, 4, 97, 10, 101, 55, 8, 42, 27, 182, 1, 103, 54, 10, 3, 54, 11, 21, 11, 42, 180, 0, 7]
abbrev dktX2_togetherOf_3 : List UInt8 := dkwX2_togetherOf_3 ++ dktX2_togetherOf_4
def dkwX2_togetherOf_2 : List UInt8 := [182, 1, 118, 133, 105, 42, 27, 32, 22, 4, 21, 6, 133, 113, 136, 182, 1, 118, 133, 97, 173, 9, 55, 6]
abbrev dktX2_togetherOf_2 : List UInt8 := dkwX2_togetherOf_2 ++ dktX2_togetherOf_3
def dkwX2_togetherOf_1 : List UInt8 := [42, 27, 32, 22, 4, 136, 182, 1, 118, 133, 167, 0, 34, 22, 4, 21, 6, 133, 109, 42, 27, 32, 21, 6]
abbrev dktX2_togetherOf_1 : List UInt8 := dkwX2_togetherOf_1 ++ dktX2_togetherOf_2
def dkwX2_togetherOf_0 : List UInt8 := [42, 180, 0, 7, 4, 46, 158, 0, 63, 42, 182, 1, 86, 54, 6, 22, 4, 21, 6, 133, 148, 156, 0, 16]
abbrev dktX2_togetherOf_0 : List UInt8 := dkwX2_togetherOf_0 ++ dktX2_togetherOf_1
theorem dksX2_togetherOf_0 : cX2_togetherOf.data.toList.drop 0 = dktX2_togetherOf_0 := by decide +kernel
theorem dksX2_togetherOf_1 : cX2_togetherOf.data.toList.drop 24 = dktX2_togetherOf_1 := dk_seg dksX2_togetherOf_0 24 rfl rfl
theorem dksX2_togetherOf_2 : cX2_togetherOf.data.toList.drop 48 = dktX2_togetherOf_2 := dk_seg dksX2_togetherOf_1 24 rfl rfl
theorem dksX2_togetherOf_3 : cX2_togetherOf.data.toList.drop 72 = dktX2_togetherOf_3 := dk_seg dksX2_togetherOf_2 24 rfl rfl
theorem dksX2_togetherOf_4 : cX2_togetherOf.data.toList.drop 96 = dktX2_togetherOf_4 := dk_seg dksX2_togetherOf_3 24 rfl rfl
theorem dksX2_togetherOf_5 : cX2_togetherOf.data.toList.drop 120 = dktX2_togetherOf_5 := dk_seg dksX2_togetherOf_4 24 rfl rfl
theorem dksX2_togetherOf_6 : cX2_togetherOf.data.toList.drop 143 = dktX2_togetherOf_6 := dk_seg dksX2_togetherOf_5 23 rfl rfl
theorem dksX2_togetherOf_7 : cX2_togetherOf.data.toList.drop 166 = dktX2_togetherOf_7 := dk_seg dksX2_togetherOf_6 23 rfl rfl
theorem dX2_togetherOf_0 : decode cX2_togetherOf 0 = .ok (.aload_n 0, 1) := dk_42 (dk_at dksX2_togetherOf_0 0 rfl rfl)
theorem dX2_togetherOf_1 : decode cX2_togetherOf 1 = .ok (.getfield 7, 3) := dk_180 0 7 (dk_at dksX2_togetherOf_0 1 rfl rfl)
theorem dX2_togetherOf_4 : decode cX2_togetherOf 4 = .ok (.iconst 1, 1) := dk_4 (dk_at dksX2_togetherOf_0 4 rfl rfl)
theorem dX2_togetherOf_5 : decode cX2_togetherOf 5 = .ok (.iaload, 1) := dk_46 (dk_at dksX2_togetherOf_0 5 rfl rfl)
theorem dX2_togetherOf_6 : decode cX2_togetherOf 6 = .ok (.ifCond .le 63, 3) := dk_158 0 63 (dk_at dksX2_togetherOf_0 6 rfl rfl)
theorem dX2_togetherOf_9 : decode cX2_togetherOf 9 = .ok (.aload_n 0, 1) := dk_42 (dk_at dksX2_togetherOf_0 9 rfl rfl)
theorem dX2_togetherOf_10 : decode cX2_togetherOf 10 = .ok (.invokevirtual 342, 3) := dk_182 1 86 (dk_at dksX2_togetherOf_0 10 rfl rfl)
theorem dX2_togetherOf_13 : decode cX2_togetherOf 13 = .ok (.istore 6, 2) := dk_54 6 (dk_at dksX2_togetherOf_0 13 rfl rfl)
theorem dX2_togetherOf_15 : decode cX2_togetherOf 15 = .ok (.lload 4, 2) := dk_22 4 (dk_at dksX2_togetherOf_0 15 rfl rfl)
theorem dX2_togetherOf_17 : decode cX2_togetherOf 17 = .ok (.iload 6, 2) := dk_21 6 (dk_at dksX2_togetherOf_0 17 rfl rfl)
theorem dX2_togetherOf_19 : decode cX2_togetherOf 19 = .ok (.i2l, 1) := dk_133 (dk_at dksX2_togetherOf_0 19 rfl rfl)
theorem dX2_togetherOf_20 : decode cX2_togetherOf 20 = .ok (.lcmp, 1) := dk_148 (dk_at dksX2_togetherOf_0 20 rfl rfl)
theorem dX2_togetherOf_21 : decode cX2_togetherOf 21 = .ok (.ifCond .ge 16, 3) := dk_156 0 16 (dk_at dksX2_togetherOf_0 21 rfl rfl)
theorem dX2_togetherOf_24 : decode cX2_togetherOf 24 = .ok (.aload_n 0, 1) := dk_42 (dk_at dksX2_togetherOf_1 0 rfl rfl)
theorem dX2_togetherOf_25 : decode cX2_togetherOf 25 = .ok (.iload_n 1, 1) := dk_27 (dk_at dksX2_togetherOf_1 1 rfl rfl)
theorem dX2_togetherOf_26 : decode cX2_togetherOf 26 = .ok (.lload_n 2, 1) := dk_32 (dk_at dksX2_togetherOf_1 2 rfl rfl)
theorem dX2_togetherOf_27 : decode cX2_togetherOf 27 = .ok (.lload 4, 2) := dk_22 4 (dk_at dksX2_togetherOf_1 3 rfl rfl)
theorem dX2_togetherOf_29 : decode cX2_togetherOf 29 = .ok (.l2i, 1) := dk_136 (dk_at dksX2_togetherOf_1 5 rfl rfl)
theorem dX2_togetherOf_30 : decode cX2_togetherOf 30 = .ok (.invokevirtual 374, 3) := dk_182 1 118 (dk_at dksX2_togetherOf_1 6 rfl rfl)
theorem dX2_togetherOf_33 : decode cX2_togetherOf 33 = .ok (.i2l, 1) := dk_133 (dk_at dksX2_togetherOf_1 9 rfl rfl)
theorem dX2_togetherOf_34 : decode cX2_togetherOf 34 = .ok (.goto 34, 3) := dk_167 0 34 (dk_at dksX2_togetherOf_1 10 rfl rfl)
theorem dX2_togetherOf_37 : decode cX2_togetherOf 37 = .ok (.lload 4, 2) := dk_22 4 (dk_at dksX2_togetherOf_1 13 rfl rfl)
theorem dX2_togetherOf_39 : decode cX2_togetherOf 39 = .ok (.iload 6, 2) := dk_21 6 (dk_at dksX2_togetherOf_1 15 rfl rfl)
theorem dX2_togetherOf_41 : decode cX2_togetherOf 41 = .ok (.i2l, 1) := dk_133 (dk_at dksX2_togetherOf_1 17 rfl rfl)
theorem dX2_togetherOf_42 : decode cX2_togetherOf 42 = .ok (.ldiv, 1) := dk_109 (dk_at dksX2_togetherOf_1 18 rfl rfl)
theorem dX2_togetherOf_43 : decode cX2_togetherOf 43 = .ok (.aload_n 0, 1) := dk_42 (dk_at dksX2_togetherOf_1 19 rfl rfl)
theorem dX2_togetherOf_44 : decode cX2_togetherOf 44 = .ok (.iload_n 1, 1) := dk_27 (dk_at dksX2_togetherOf_1 20 rfl rfl)
theorem dX2_togetherOf_45 : decode cX2_togetherOf 45 = .ok (.lload_n 2, 1) := dk_32 (dk_at dksX2_togetherOf_1 21 rfl rfl)
theorem dX2_togetherOf_46 : decode cX2_togetherOf 46 = .ok (.iload 6, 2) := dk_21 6 (dk_at dksX2_togetherOf_1 22 rfl rfl)
theorem dX2_togetherOf_48 : decode cX2_togetherOf 48 = .ok (.invokevirtual 374, 3) := dk_182 1 118 (dk_at dksX2_togetherOf_2 0 rfl rfl)
theorem dX2_togetherOf_51 : decode cX2_togetherOf 51 = .ok (.i2l, 1) := dk_133 (dk_at dksX2_togetherOf_2 3 rfl rfl)
theorem dX2_togetherOf_52 : decode cX2_togetherOf 52 = .ok (.lmul, 1) := dk_105 (dk_at dksX2_togetherOf_2 4 rfl rfl)
theorem dX2_togetherOf_53 : decode cX2_togetherOf 53 = .ok (.aload_n 0, 1) := dk_42 (dk_at dksX2_togetherOf_2 5 rfl rfl)
theorem dX2_togetherOf_54 : decode cX2_togetherOf 54 = .ok (.iload_n 1, 1) := dk_27 (dk_at dksX2_togetherOf_2 6 rfl rfl)
theorem dX2_togetherOf_55 : decode cX2_togetherOf 55 = .ok (.lload_n 2, 1) := dk_32 (dk_at dksX2_togetherOf_2 7 rfl rfl)
theorem dX2_togetherOf_56 : decode cX2_togetherOf 56 = .ok (.lload 4, 2) := dk_22 4 (dk_at dksX2_togetherOf_2 8 rfl rfl)
theorem dX2_togetherOf_58 : decode cX2_togetherOf 58 = .ok (.iload 6, 2) := dk_21 6 (dk_at dksX2_togetherOf_2 10 rfl rfl)
theorem dX2_togetherOf_60 : decode cX2_togetherOf 60 = .ok (.i2l, 1) := dk_133 (dk_at dksX2_togetherOf_2 12 rfl rfl)
theorem dX2_togetherOf_61 : decode cX2_togetherOf 61 = .ok (.lrem, 1) := dk_113 (dk_at dksX2_togetherOf_2 13 rfl rfl)
theorem dX2_togetherOf_62 : decode cX2_togetherOf 62 = .ok (.l2i, 1) := dk_136 (dk_at dksX2_togetherOf_2 14 rfl rfl)
theorem dX2_togetherOf_63 : decode cX2_togetherOf 63 = .ok (.invokevirtual 374, 3) := dk_182 1 118 (dk_at dksX2_togetherOf_2 15 rfl rfl)
theorem dX2_togetherOf_66 : decode cX2_togetherOf 66 = .ok (.i2l, 1) := dk_133 (dk_at dksX2_togetherOf_2 18 rfl rfl)
theorem dX2_togetherOf_67 : decode cX2_togetherOf 67 = .ok (.ladd, 1) := dk_97 (dk_at dksX2_togetherOf_2 19 rfl rfl)
theorem dX2_togetherOf_68 : decode cX2_togetherOf 68 = .ok (.lreturn, 1) := dk_173 (dk_at dksX2_togetherOf_2 20 rfl rfl)
theorem dX2_togetherOf_69 : decode cX2_togetherOf 69 = .ok (.lconst 0, 1) := dk_9 (dk_at dksX2_togetherOf_2 21 rfl rfl)
theorem dX2_togetherOf_70 : decode cX2_togetherOf 70 = .ok (.lstore 6, 2) := dk_55 6 (dk_at dksX2_togetherOf_2 22 rfl rfl)
theorem dX2_togetherOf_72 : decode cX2_togetherOf 72 = .ok (.lload_n 2, 1) := dk_32 (dk_at dksX2_togetherOf_3 0 rfl rfl)
theorem dX2_togetherOf_73 : decode cX2_togetherOf 73 = .ok (.lload 4, 2) := dk_22 4 (dk_at dksX2_togetherOf_3 1 rfl rfl)
theorem dX2_togetherOf_75 : decode cX2_togetherOf 75 = .ok (.ladd, 1) := dk_97 (dk_at dksX2_togetherOf_3 3 rfl rfl)
theorem dX2_togetherOf_76 : decode cX2_togetherOf 76 = .ok (.lconst 1, 1) := dk_10 (dk_at dksX2_togetherOf_3 4 rfl rfl)
theorem dX2_togetherOf_77 : decode cX2_togetherOf 77 = .ok (.lsub, 1) := dk_101 (dk_at dksX2_togetherOf_3 5 rfl rfl)
theorem dX2_togetherOf_78 : decode cX2_togetherOf 78 = .ok (.lstore 8, 2) := dk_55 8 (dk_at dksX2_togetherOf_3 6 rfl rfl)
theorem dX2_togetherOf_80 : decode cX2_togetherOf 80 = .ok (.aload_n 0, 1) := dk_42 (dk_at dksX2_togetherOf_3 8 rfl rfl)
theorem dX2_togetherOf_81 : decode cX2_togetherOf 81 = .ok (.iload_n 1, 1) := dk_27 (dk_at dksX2_togetherOf_3 9 rfl rfl)
theorem dX2_togetherOf_82 : decode cX2_togetherOf 82 = .ok (.invokevirtual 359, 3) := dk_182 1 103 (dk_at dksX2_togetherOf_3 10 rfl rfl)
theorem dX2_togetherOf_85 : decode cX2_togetherOf 85 = .ok (.istore 10, 2) := dk_54 10 (dk_at dksX2_togetherOf_3 13 rfl rfl)
theorem dX2_togetherOf_87 : decode cX2_togetherOf 87 = .ok (.iconst 0, 1) := dk_3 (dk_at dksX2_togetherOf_3 15 rfl rfl)
theorem dX2_togetherOf_88 : decode cX2_togetherOf 88 = .ok (.istore 11, 2) := dk_54 11 (dk_at dksX2_togetherOf_3 16 rfl rfl)
theorem dX2_togetherOf_90 : decode cX2_togetherOf 90 = .ok (.iload 11, 2) := dk_21 11 (dk_at dksX2_togetherOf_3 18 rfl rfl)
theorem dX2_togetherOf_92 : decode cX2_togetherOf 92 = .ok (.aload_n 0, 1) := dk_42 (dk_at dksX2_togetherOf_3 20 rfl rfl)
theorem dX2_togetherOf_93 : decode cX2_togetherOf 93 = .ok (.getfield 7, 3) := dk_180 0 7 (dk_at dksX2_togetherOf_3 21 rfl rfl)
theorem dX2_togetherOf_96 : decode cX2_togetherOf 96 = .ok (.iconst 2, 1) := dk_5 (dk_at dksX2_togetherOf_4 0 rfl rfl)
theorem dX2_togetherOf_97 : decode cX2_togetherOf 97 = .ok (.iaload, 1) := dk_46 (dk_at dksX2_togetherOf_4 1 rfl rfl)
theorem dX2_togetherOf_98 : decode cX2_togetherOf 98 = .ok (.if_icmp .ge 74, 3) := dk_162 0 74 (dk_at dksX2_togetherOf_4 2 rfl rfl)
theorem dX2_togetherOf_101 : decode cX2_togetherOf 101 = .ok (.iload 10, 2) := dk_21 10 (dk_at dksX2_togetherOf_4 5 rfl rfl)
theorem dX2_togetherOf_103 : decode cX2_togetherOf 103 = .ok (.ifCond .eq 69, 3) := dk_153 0 69 (dk_at dksX2_togetherOf_4 7 rfl rfl)
theorem dX2_togetherOf_106 : decode cX2_togetherOf 106 = .ok (.aload_n 0, 1) := dk_42 (dk_at dksX2_togetherOf_4 10 rfl rfl)
theorem dX2_togetherOf_107 : decode cX2_togetherOf 107 = .ok (.iload_n 1, 1) := dk_27 (dk_at dksX2_togetherOf_4 11 rfl rfl)
theorem dX2_togetherOf_108 : decode cX2_togetherOf 108 = .ok (.iload 11, 2) := dk_21 11 (dk_at dksX2_togetherOf_4 12 rfl rfl)
theorem dX2_togetherOf_110 : decode cX2_togetherOf 110 = .ok (.invokevirtual 362, 3) := dk_182 1 106 (dk_at dksX2_togetherOf_4 14 rfl rfl)
theorem dX2_togetherOf_113 : decode cX2_togetherOf 113 = .ok (.ifCond .eq 53, 3) := dk_153 0 53 (dk_at dksX2_togetherOf_4 17 rfl rfl)
theorem dX2_togetherOf_116 : decode cX2_togetherOf 116 = .ok (.aload_n 0, 1) := dk_42 (dk_at dksX2_togetherOf_4 20 rfl rfl)
theorem dX2_togetherOf_117 : decode cX2_togetherOf 117 = .ok (.iload_n 1, 1) := dk_27 (dk_at dksX2_togetherOf_4 21 rfl rfl)
theorem dX2_togetherOf_118 : decode cX2_togetherOf 118 = .ok (.iload 11, 2) := dk_21 11 (dk_at dksX2_togetherOf_4 22 rfl rfl)
theorem dX2_togetherOf_120 : decode cX2_togetherOf 120 = .ok (.invokevirtual 365, 3) := dk_182 1 109 (dk_at dksX2_togetherOf_5 0 rfl rfl)
theorem dX2_togetherOf_123 : decode cX2_togetherOf 123 = .ok (.ifCond .ne 6, 3) := dk_154 0 6 (dk_at dksX2_togetherOf_5 3 rfl rfl)
theorem dX2_togetherOf_126 : decode cX2_togetherOf 126 = .ok (.goto 40, 3) := dk_167 0 40 (dk_at dksX2_togetherOf_5 6 rfl rfl)
theorem dX2_togetherOf_129 : decode cX2_togetherOf 129 = .ok (.aload_n 0, 1) := dk_42 (dk_at dksX2_togetherOf_5 9 rfl rfl)
theorem dX2_togetherOf_130 : decode cX2_togetherOf 130 = .ok (.aload_n 0, 1) := dk_42 (dk_at dksX2_togetherOf_5 10 rfl rfl)
theorem dX2_togetherOf_131 : decode cX2_togetherOf 131 = .ok (.iload_n 1, 1) := dk_27 (dk_at dksX2_togetherOf_5 11 rfl rfl)
theorem dX2_togetherOf_132 : decode cX2_togetherOf 132 = .ok (.lload_n 2, 1) := dk_32 (dk_at dksX2_togetherOf_5 12 rfl rfl)
theorem dX2_togetherOf_133 : decode cX2_togetherOf 133 = .ok (.invokevirtual 368, 3) := dk_182 1 112 (dk_at dksX2_togetherOf_5 13 rfl rfl)
theorem dX2_togetherOf_136 : decode cX2_togetherOf 136 = .ok (.invokevirtual 371, 3) := dk_182 1 115 (dk_at dksX2_togetherOf_5 16 rfl rfl)
theorem dX2_togetherOf_139 : decode cX2_togetherOf 139 = .ok (.lstore 12, 2) := dk_55 12 (dk_at dksX2_togetherOf_5 19 rfl rfl)
theorem dX2_togetherOf_141 : decode cX2_togetherOf 141 = .ok (.lload 12, 2) := dk_22 12 (dk_at dksX2_togetherOf_5 21 rfl rfl)
theorem dX2_togetherOf_143 : decode cX2_togetherOf 143 = .ok (.lload 8, 2) := dk_22 8 (dk_at dksX2_togetherOf_6 0 rfl rfl)
theorem dX2_togetherOf_145 : decode cX2_togetherOf 145 = .ok (.lcmp, 1) := dk_148 (dk_at dksX2_togetherOf_6 2 rfl rfl)
theorem dX2_togetherOf_146 : decode cX2_togetherOf 146 = .ok (.ifCond .gt 20, 3) := dk_157 0 20 (dk_at dksX2_togetherOf_6 3 rfl rfl)
theorem dX2_togetherOf_149 : decode cX2_togetherOf 149 = .ok (.lload 6, 2) := dk_22 6 (dk_at dksX2_togetherOf_6 6 rfl rfl)
theorem dX2_togetherOf_151 : decode cX2_togetherOf 151 = .ok (.lload 8, 2) := dk_22 8 (dk_at dksX2_togetherOf_6 8 rfl rfl)
theorem dX2_togetherOf_153 : decode cX2_togetherOf 153 = .ok (.lload 12, 2) := dk_22 12 (dk_at dksX2_togetherOf_6 10 rfl rfl)
theorem dX2_togetherOf_155 : decode cX2_togetherOf 155 = .ok (.lsub, 1) := dk_101 (dk_at dksX2_togetherOf_6 12 rfl rfl)
theorem dX2_togetherOf_156 : decode cX2_togetherOf 156 = .ok (.aload_n 0, 1) := dk_42 (dk_at dksX2_togetherOf_6 13 rfl rfl)
theorem dX2_togetherOf_157 : decode cX2_togetherOf 157 = .ok (.getfield 319, 3) := dk_180 1 63 (dk_at dksX2_togetherOf_6 14 rfl rfl)
theorem dX2_togetherOf_160 : decode cX2_togetherOf 160 = .ok (.ldiv, 1) := dk_109 (dk_at dksX2_togetherOf_6 17 rfl rfl)
theorem dX2_togetherOf_161 : decode cX2_togetherOf 161 = .ok (.lconst 1, 1) := dk_10 (dk_at dksX2_togetherOf_6 18 rfl rfl)
theorem dX2_togetherOf_162 : decode cX2_togetherOf 162 = .ok (.ladd, 1) := dk_97 (dk_at dksX2_togetherOf_6 19 rfl rfl)
theorem dX2_togetherOf_163 : decode cX2_togetherOf 163 = .ok (.ladd, 1) := dk_97 (dk_at dksX2_togetherOf_6 20 rfl rfl)
theorem dX2_togetherOf_164 : decode cX2_togetherOf 164 = .ok (.lstore 6, 2) := dk_55 6 (dk_at dksX2_togetherOf_6 21 rfl rfl)
theorem dX2_togetherOf_166 : decode cX2_togetherOf 166 = .ok (.iinc 11 1, 3) := dk_132 11 1 (dk_at dksX2_togetherOf_7 0 rfl rfl)
theorem dX2_togetherOf_169 : decode cX2_togetherOf 169 = .ok (.goto (-79), 3) := dk_167 255 177 (dk_at dksX2_togetherOf_7 3 rfl rfl)
theorem dX2_togetherOf_172 : decode cX2_togetherOf 172 = .ok (.lload 6, 2) := dk_22 6 (dk_at dksX2_togetherOf_7 6 rfl rfl)
theorem dX2_togetherOf_174 : decode cX2_togetherOf 174 = .ok (.lreturn, 1) := dk_173 (dk_at dksX2_togetherOf_7 8 rfl rfl)
abbrev cX2_countIn : ByteArray := prog_17_method_77_code
def yX2_countIn : MethodName := ⟨RX2, "countIn", "(IJI)I"⟩
def dkwX2_countIn_9 : List UInt8 := [167, 0, 7, 21, 8, 4, 96, 54, 8, 132, 9, 1, 167, 255, 111, 21, 5, 172]
abbrev dktX2_countIn_9 : List UInt8 := dkwX2_countIn_9 ++ []
def dkwX2_countIn_8 : List UInt8 := [167, 0, 7, 21, 7, 4, 96, 54, 7, 21, 8, 4, 96, 42, 180, 0, 7, 5, 46, 160, 0, 7, 3]
abbrev dktX2_countIn_8 : List UInt8 := dkwX2_countIn_8 ++ dktX2_countIn_9
def dkwX2_countIn_7 : List UInt8 := [4, 167, 0, 4, 3, 96, 54, 5, 21, 7, 4, 96, 42, 180, 0, 7, 4, 46, 160, 0, 7, 3]
abbrev dktX2_countIn_7 : List UInt8 := dkwX2_countIn_7 ++ dktX2_countIn_8
def dkwX2_countIn_6 : List UInt8 := [51, 154, 0, 7, 4, 167, 0, 4, 3, 54, 10, 132, 11, 1, 167, 255, 191, 21, 5, 21, 10, 153, 0, 7]
abbrev dktX2_countIn_6 : List UInt8 := dkwX2_countIn_6 ++ dktX2_countIn_7
def dkwX2_countIn_5 : List UInt8 := [21, 7, 96, 51, 153, 0, 28, 42, 180, 0, 55, 16, 60, 42, 180, 0, 61, 21, 11, 46, 104, 21, 8, 96]
abbrev dktX2_countIn_5 : List UInt8 := dkwX2_countIn_5 ++ dktX2_countIn_6
def dkwX2_countIn_4 : List UInt8 := [162, 0, 64, 21, 10, 153, 0, 59, 42, 180, 0, 58, 17, 3, 231, 42, 180, 0, 61, 21, 11, 46, 104]
abbrev dktX2_countIn_4 : List UInt8 := dkwX2_countIn_4 ++ dktX2_countIn_5
def dkwX2_countIn_3 : List UInt8 := [136, 54, 8, 3, 54, 9, 21, 9, 21, 4, 162, 0, 144, 4, 54, 10, 3, 54, 11, 21, 11, 21, 6]
abbrev dktX2_countIn_3 : List UInt8 := dkwX2_countIn_3 ++ dktX2_countIn_4
def dkwX2_countIn_2 : List UInt8 := [167, 255, 218, 32, 42, 180, 0, 7, 4, 46, 133, 113, 136, 54, 7, 32, 42, 180, 0, 7, 5, 46, 133, 113]
abbrev dktX2_countIn_2 : List UInt8 := dkwX2_countIn_2 ++ dktX2_countIn_3
def dkwX2_countIn_1 : List UInt8 := [184, 1, 54, 154, 0, 6, 167, 0, 15, 42, 180, 0, 61, 21, 6, 21, 7, 79, 132, 6, 1, 132, 7, 1]
abbrev dktX2_countIn_1 : List UInt8 := dkwX2_countIn_1 ++ dktX2_countIn_2
def dkwX2_countIn_0 : List UInt8 := [3, 54, 5, 3, 54, 6, 3, 54, 7, 21, 7, 42, 180, 0, 7, 3, 46, 162, 0, 33, 27, 21, 7]
abbrev dktX2_countIn_0 : List UInt8 := dkwX2_countIn_0 ++ dktX2_countIn_1
theorem dksX2_countIn_0 : cX2_countIn.data.toList.drop 0 = dktX2_countIn_0 := by decide +kernel
theorem dksX2_countIn_1 : cX2_countIn.data.toList.drop 23 = dktX2_countIn_1 := dk_seg dksX2_countIn_0 23 rfl rfl
theorem dksX2_countIn_2 : cX2_countIn.data.toList.drop 47 = dktX2_countIn_2 := dk_seg dksX2_countIn_1 24 rfl rfl
theorem dksX2_countIn_3 : cX2_countIn.data.toList.drop 71 = dktX2_countIn_3 := dk_seg dksX2_countIn_2 24 rfl rfl
theorem dksX2_countIn_4 : cX2_countIn.data.toList.drop 94 = dktX2_countIn_4 := dk_seg dksX2_countIn_3 23 rfl rfl
theorem dksX2_countIn_5 : cX2_countIn.data.toList.drop 117 = dktX2_countIn_5 := dk_seg dksX2_countIn_4 23 rfl rfl
theorem dksX2_countIn_6 : cX2_countIn.data.toList.drop 141 = dktX2_countIn_6 := dk_seg dksX2_countIn_5 24 rfl rfl
theorem dksX2_countIn_7 : cX2_countIn.data.toList.drop 165 = dktX2_countIn_7 := dk_seg dksX2_countIn_6 24 rfl rfl
theorem dksX2_countIn_8 : cX2_countIn.data.toList.drop 187 = dktX2_countIn_8 := dk_seg dksX2_countIn_7 22 rfl rfl
theorem dksX2_countIn_9 : cX2_countIn.data.toList.drop 210 = dktX2_countIn_9 := dk_seg dksX2_countIn_8 23 rfl rfl
theorem dX2_countIn_0 : decode cX2_countIn 0 = .ok (.iconst 0, 1) := dk_3 (dk_at dksX2_countIn_0 0 rfl rfl)
theorem dX2_countIn_1 : decode cX2_countIn 1 = .ok (.istore 5, 2) := dk_54 5 (dk_at dksX2_countIn_0 1 rfl rfl)
theorem dX2_countIn_3 : decode cX2_countIn 3 = .ok (.iconst 0, 1) := dk_3 (dk_at dksX2_countIn_0 3 rfl rfl)
theorem dX2_countIn_4 : decode cX2_countIn 4 = .ok (.istore 6, 2) := dk_54 6 (dk_at dksX2_countIn_0 4 rfl rfl)
theorem dX2_countIn_6 : decode cX2_countIn 6 = .ok (.iconst 0, 1) := dk_3 (dk_at dksX2_countIn_0 6 rfl rfl)
theorem dX2_countIn_7 : decode cX2_countIn 7 = .ok (.istore 7, 2) := dk_54 7 (dk_at dksX2_countIn_0 7 rfl rfl)
theorem dX2_countIn_9 : decode cX2_countIn 9 = .ok (.iload 7, 2) := dk_21 7 (dk_at dksX2_countIn_0 9 rfl rfl)
theorem dX2_countIn_11 : decode cX2_countIn 11 = .ok (.aload_n 0, 1) := dk_42 (dk_at dksX2_countIn_0 11 rfl rfl)
theorem dX2_countIn_12 : decode cX2_countIn 12 = .ok (.getfield 7, 3) := dk_180 0 7 (dk_at dksX2_countIn_0 12 rfl rfl)
theorem dX2_countIn_15 : decode cX2_countIn 15 = .ok (.iconst 0, 1) := dk_3 (dk_at dksX2_countIn_0 15 rfl rfl)
theorem dX2_countIn_16 : decode cX2_countIn 16 = .ok (.iaload, 1) := dk_46 (dk_at dksX2_countIn_0 16 rfl rfl)
theorem dX2_countIn_17 : decode cX2_countIn 17 = .ok (.if_icmp .ge 33, 3) := dk_162 0 33 (dk_at dksX2_countIn_0 17 rfl rfl)
theorem dX2_countIn_20 : decode cX2_countIn 20 = .ok (.iload_n 1, 1) := dk_27 (dk_at dksX2_countIn_0 20 rfl rfl)
theorem dX2_countIn_21 : decode cX2_countIn 21 = .ok (.iload 7, 2) := dk_21 7 (dk_at dksX2_countIn_0 21 rfl rfl)
theorem dX2_countIn_23 : decode cX2_countIn 23 = .ok (.invokestatic 310, 3) := dk_184 1 54 (dk_at dksX2_countIn_1 0 rfl rfl)
theorem dX2_countIn_26 : decode cX2_countIn 26 = .ok (.ifCond .ne 6, 3) := dk_154 0 6 (dk_at dksX2_countIn_1 3 rfl rfl)
theorem dX2_countIn_29 : decode cX2_countIn 29 = .ok (.goto 15, 3) := dk_167 0 15 (dk_at dksX2_countIn_1 6 rfl rfl)
theorem dX2_countIn_32 : decode cX2_countIn 32 = .ok (.aload_n 0, 1) := dk_42 (dk_at dksX2_countIn_1 9 rfl rfl)
theorem dX2_countIn_33 : decode cX2_countIn 33 = .ok (.getfield 61, 3) := dk_180 0 61 (dk_at dksX2_countIn_1 10 rfl rfl)
theorem dX2_countIn_36 : decode cX2_countIn 36 = .ok (.iload 6, 2) := dk_21 6 (dk_at dksX2_countIn_1 13 rfl rfl)
theorem dX2_countIn_38 : decode cX2_countIn 38 = .ok (.iload 7, 2) := dk_21 7 (dk_at dksX2_countIn_1 15 rfl rfl)
theorem dX2_countIn_40 : decode cX2_countIn 40 = .ok (.iastore, 1) := dk_79 (dk_at dksX2_countIn_1 17 rfl rfl)
theorem dX2_countIn_41 : decode cX2_countIn 41 = .ok (.iinc 6 1, 3) := dk_132 6 1 (dk_at dksX2_countIn_1 18 rfl rfl)
theorem dX2_countIn_44 : decode cX2_countIn 44 = .ok (.iinc 7 1, 3) := dk_132 7 1 (dk_at dksX2_countIn_1 21 rfl rfl)
theorem dX2_countIn_47 : decode cX2_countIn 47 = .ok (.goto (-38), 3) := dk_167 255 218 (dk_at dksX2_countIn_2 0 rfl rfl)
theorem dX2_countIn_50 : decode cX2_countIn 50 = .ok (.lload_n 2, 1) := dk_32 (dk_at dksX2_countIn_2 3 rfl rfl)
theorem dX2_countIn_51 : decode cX2_countIn 51 = .ok (.aload_n 0, 1) := dk_42 (dk_at dksX2_countIn_2 4 rfl rfl)
theorem dX2_countIn_52 : decode cX2_countIn 52 = .ok (.getfield 7, 3) := dk_180 0 7 (dk_at dksX2_countIn_2 5 rfl rfl)
theorem dX2_countIn_55 : decode cX2_countIn 55 = .ok (.iconst 1, 1) := dk_4 (dk_at dksX2_countIn_2 8 rfl rfl)
theorem dX2_countIn_56 : decode cX2_countIn 56 = .ok (.iaload, 1) := dk_46 (dk_at dksX2_countIn_2 9 rfl rfl)
theorem dX2_countIn_57 : decode cX2_countIn 57 = .ok (.i2l, 1) := dk_133 (dk_at dksX2_countIn_2 10 rfl rfl)
theorem dX2_countIn_58 : decode cX2_countIn 58 = .ok (.lrem, 1) := dk_113 (dk_at dksX2_countIn_2 11 rfl rfl)
theorem dX2_countIn_59 : decode cX2_countIn 59 = .ok (.l2i, 1) := dk_136 (dk_at dksX2_countIn_2 12 rfl rfl)
theorem dX2_countIn_60 : decode cX2_countIn 60 = .ok (.istore 7, 2) := dk_54 7 (dk_at dksX2_countIn_2 13 rfl rfl)
theorem dX2_countIn_62 : decode cX2_countIn 62 = .ok (.lload_n 2, 1) := dk_32 (dk_at dksX2_countIn_2 15 rfl rfl)
theorem dX2_countIn_63 : decode cX2_countIn 63 = .ok (.aload_n 0, 1) := dk_42 (dk_at dksX2_countIn_2 16 rfl rfl)
theorem dX2_countIn_64 : decode cX2_countIn 64 = .ok (.getfield 7, 3) := dk_180 0 7 (dk_at dksX2_countIn_2 17 rfl rfl)
theorem dX2_countIn_67 : decode cX2_countIn 67 = .ok (.iconst 2, 1) := dk_5 (dk_at dksX2_countIn_2 20 rfl rfl)
theorem dX2_countIn_68 : decode cX2_countIn 68 = .ok (.iaload, 1) := dk_46 (dk_at dksX2_countIn_2 21 rfl rfl)
theorem dX2_countIn_69 : decode cX2_countIn 69 = .ok (.i2l, 1) := dk_133 (dk_at dksX2_countIn_2 22 rfl rfl)
theorem dX2_countIn_70 : decode cX2_countIn 70 = .ok (.lrem, 1) := dk_113 (dk_at dksX2_countIn_2 23 rfl rfl)
theorem dX2_countIn_71 : decode cX2_countIn 71 = .ok (.l2i, 1) := dk_136 (dk_at dksX2_countIn_3 0 rfl rfl)
theorem dX2_countIn_72 : decode cX2_countIn 72 = .ok (.istore 8, 2) := dk_54 8 (dk_at dksX2_countIn_3 1 rfl rfl)
theorem dX2_countIn_74 : decode cX2_countIn 74 = .ok (.iconst 0, 1) := dk_3 (dk_at dksX2_countIn_3 3 rfl rfl)
theorem dX2_countIn_75 : decode cX2_countIn 75 = .ok (.istore 9, 2) := dk_54 9 (dk_at dksX2_countIn_3 4 rfl rfl)
theorem dX2_countIn_77 : decode cX2_countIn 77 = .ok (.iload 9, 2) := dk_21 9 (dk_at dksX2_countIn_3 6 rfl rfl)
theorem dX2_countIn_79 : decode cX2_countIn 79 = .ok (.iload 4, 2) := dk_21 4 (dk_at dksX2_countIn_3 8 rfl rfl)
theorem dX2_countIn_81 : decode cX2_countIn 81 = .ok (.if_icmp .ge 144, 3) := dk_162 0 144 (dk_at dksX2_countIn_3 10 rfl rfl)
theorem dX2_countIn_84 : decode cX2_countIn 84 = .ok (.iconst 1, 1) := dk_4 (dk_at dksX2_countIn_3 13 rfl rfl)
theorem dX2_countIn_85 : decode cX2_countIn 85 = .ok (.istore 10, 2) := dk_54 10 (dk_at dksX2_countIn_3 14 rfl rfl)
theorem dX2_countIn_87 : decode cX2_countIn 87 = .ok (.iconst 0, 1) := dk_3 (dk_at dksX2_countIn_3 16 rfl rfl)
theorem dX2_countIn_88 : decode cX2_countIn 88 = .ok (.istore 11, 2) := dk_54 11 (dk_at dksX2_countIn_3 17 rfl rfl)
theorem dX2_countIn_90 : decode cX2_countIn 90 = .ok (.iload 11, 2) := dk_21 11 (dk_at dksX2_countIn_3 19 rfl rfl)
theorem dX2_countIn_92 : decode cX2_countIn 92 = .ok (.iload 6, 2) := dk_21 6 (dk_at dksX2_countIn_3 21 rfl rfl)
theorem dX2_countIn_94 : decode cX2_countIn 94 = .ok (.if_icmp .ge 64, 3) := dk_162 0 64 (dk_at dksX2_countIn_4 0 rfl rfl)
theorem dX2_countIn_97 : decode cX2_countIn 97 = .ok (.iload 10, 2) := dk_21 10 (dk_at dksX2_countIn_4 3 rfl rfl)
theorem dX2_countIn_99 : decode cX2_countIn 99 = .ok (.ifCond .eq 59, 3) := dk_153 0 59 (dk_at dksX2_countIn_4 5 rfl rfl)
theorem dX2_countIn_102 : decode cX2_countIn 102 = .ok (.aload_n 0, 1) := dk_42 (dk_at dksX2_countIn_4 8 rfl rfl)
theorem dX2_countIn_103 : decode cX2_countIn 103 = .ok (.getfield 58, 3) := dk_180 0 58 (dk_at dksX2_countIn_4 9 rfl rfl)
theorem dX2_countIn_106 : decode cX2_countIn 106 = .ok (.sipush 999, 3) := dk_17 3 231 (dk_at dksX2_countIn_4 12 rfl rfl)
theorem dX2_countIn_109 : decode cX2_countIn 109 = .ok (.aload_n 0, 1) := dk_42 (dk_at dksX2_countIn_4 15 rfl rfl)
theorem dX2_countIn_110 : decode cX2_countIn 110 = .ok (.getfield 61, 3) := dk_180 0 61 (dk_at dksX2_countIn_4 16 rfl rfl)
theorem dX2_countIn_113 : decode cX2_countIn 113 = .ok (.iload 11, 2) := dk_21 11 (dk_at dksX2_countIn_4 19 rfl rfl)
theorem dX2_countIn_115 : decode cX2_countIn 115 = .ok (.iaload, 1) := dk_46 (dk_at dksX2_countIn_4 21 rfl rfl)
theorem dX2_countIn_116 : decode cX2_countIn 116 = .ok (.imul, 1) := dk_104 (dk_at dksX2_countIn_4 22 rfl rfl)
theorem dX2_countIn_117 : decode cX2_countIn 117 = .ok (.iload 7, 2) := dk_21 7 (dk_at dksX2_countIn_5 0 rfl rfl)
theorem dX2_countIn_119 : decode cX2_countIn 119 = .ok (.iadd, 1) := dk_96 (dk_at dksX2_countIn_5 2 rfl rfl)
theorem dX2_countIn_120 : decode cX2_countIn 120 = .ok (.baload, 1) := dk_51 (dk_at dksX2_countIn_5 3 rfl rfl)
theorem dX2_countIn_121 : decode cX2_countIn 121 = .ok (.ifCond .eq 28, 3) := dk_153 0 28 (dk_at dksX2_countIn_5 4 rfl rfl)
theorem dX2_countIn_124 : decode cX2_countIn 124 = .ok (.aload_n 0, 1) := dk_42 (dk_at dksX2_countIn_5 7 rfl rfl)
theorem dX2_countIn_125 : decode cX2_countIn 125 = .ok (.getfield 55, 3) := dk_180 0 55 (dk_at dksX2_countIn_5 8 rfl rfl)
theorem dX2_countIn_128 : decode cX2_countIn 128 = .ok (.bipush 60, 2) := dk_16 60 (dk_at dksX2_countIn_5 11 rfl rfl)
theorem dX2_countIn_130 : decode cX2_countIn 130 = .ok (.aload_n 0, 1) := dk_42 (dk_at dksX2_countIn_5 13 rfl rfl)
theorem dX2_countIn_131 : decode cX2_countIn 131 = .ok (.getfield 61, 3) := dk_180 0 61 (dk_at dksX2_countIn_5 14 rfl rfl)
theorem dX2_countIn_134 : decode cX2_countIn 134 = .ok (.iload 11, 2) := dk_21 11 (dk_at dksX2_countIn_5 17 rfl rfl)
theorem dX2_countIn_136 : decode cX2_countIn 136 = .ok (.iaload, 1) := dk_46 (dk_at dksX2_countIn_5 19 rfl rfl)
theorem dX2_countIn_137 : decode cX2_countIn 137 = .ok (.imul, 1) := dk_104 (dk_at dksX2_countIn_5 20 rfl rfl)
theorem dX2_countIn_138 : decode cX2_countIn 138 = .ok (.iload 8, 2) := dk_21 8 (dk_at dksX2_countIn_5 21 rfl rfl)
theorem dX2_countIn_140 : decode cX2_countIn 140 = .ok (.iadd, 1) := dk_96 (dk_at dksX2_countIn_5 23 rfl rfl)
theorem dX2_countIn_141 : decode cX2_countIn 141 = .ok (.baload, 1) := dk_51 (dk_at dksX2_countIn_6 0 rfl rfl)
theorem dX2_countIn_142 : decode cX2_countIn 142 = .ok (.ifCond .ne 7, 3) := dk_154 0 7 (dk_at dksX2_countIn_6 1 rfl rfl)
theorem dX2_countIn_145 : decode cX2_countIn 145 = .ok (.iconst 1, 1) := dk_4 (dk_at dksX2_countIn_6 4 rfl rfl)
theorem dX2_countIn_146 : decode cX2_countIn 146 = .ok (.goto 4, 3) := dk_167 0 4 (dk_at dksX2_countIn_6 5 rfl rfl)
theorem dX2_countIn_149 : decode cX2_countIn 149 = .ok (.iconst 0, 1) := dk_3 (dk_at dksX2_countIn_6 8 rfl rfl)
theorem dX2_countIn_150 : decode cX2_countIn 150 = .ok (.istore 10, 2) := dk_54 10 (dk_at dksX2_countIn_6 9 rfl rfl)
theorem dX2_countIn_152 : decode cX2_countIn 152 = .ok (.iinc 11 1, 3) := dk_132 11 1 (dk_at dksX2_countIn_6 11 rfl rfl)
theorem dX2_countIn_155 : decode cX2_countIn 155 = .ok (.goto (-65), 3) := dk_167 255 191 (dk_at dksX2_countIn_6 14 rfl rfl)
theorem dX2_countIn_158 : decode cX2_countIn 158 = .ok (.iload 5, 2) := dk_21 5 (dk_at dksX2_countIn_6 17 rfl rfl)
theorem dX2_countIn_160 : decode cX2_countIn 160 = .ok (.iload 10, 2) := dk_21 10 (dk_at dksX2_countIn_6 19 rfl rfl)
theorem dX2_countIn_162 : decode cX2_countIn 162 = .ok (.ifCond .eq 7, 3) := dk_153 0 7 (dk_at dksX2_countIn_6 21 rfl rfl)
theorem dX2_countIn_165 : decode cX2_countIn 165 = .ok (.iconst 1, 1) := dk_4 (dk_at dksX2_countIn_7 0 rfl rfl)
theorem dX2_countIn_166 : decode cX2_countIn 166 = .ok (.goto 4, 3) := dk_167 0 4 (dk_at dksX2_countIn_7 1 rfl rfl)
theorem dX2_countIn_169 : decode cX2_countIn 169 = .ok (.iconst 0, 1) := dk_3 (dk_at dksX2_countIn_7 4 rfl rfl)
theorem dX2_countIn_170 : decode cX2_countIn 170 = .ok (.iadd, 1) := dk_96 (dk_at dksX2_countIn_7 5 rfl rfl)
theorem dX2_countIn_171 : decode cX2_countIn 171 = .ok (.istore 5, 2) := dk_54 5 (dk_at dksX2_countIn_7 6 rfl rfl)
theorem dX2_countIn_173 : decode cX2_countIn 173 = .ok (.iload 7, 2) := dk_21 7 (dk_at dksX2_countIn_7 8 rfl rfl)
theorem dX2_countIn_175 : decode cX2_countIn 175 = .ok (.iconst 1, 1) := dk_4 (dk_at dksX2_countIn_7 10 rfl rfl)
theorem dX2_countIn_176 : decode cX2_countIn 176 = .ok (.iadd, 1) := dk_96 (dk_at dksX2_countIn_7 11 rfl rfl)
theorem dX2_countIn_177 : decode cX2_countIn 177 = .ok (.aload_n 0, 1) := dk_42 (dk_at dksX2_countIn_7 12 rfl rfl)
theorem dX2_countIn_178 : decode cX2_countIn 178 = .ok (.getfield 7, 3) := dk_180 0 7 (dk_at dksX2_countIn_7 13 rfl rfl)
theorem dX2_countIn_181 : decode cX2_countIn 181 = .ok (.iconst 1, 1) := dk_4 (dk_at dksX2_countIn_7 16 rfl rfl)
theorem dX2_countIn_182 : decode cX2_countIn 182 = .ok (.iaload, 1) := dk_46 (dk_at dksX2_countIn_7 17 rfl rfl)
theorem dX2_countIn_183 : decode cX2_countIn 183 = .ok (.if_icmp .ne 7, 3) := dk_160 0 7 (dk_at dksX2_countIn_7 18 rfl rfl)
theorem dX2_countIn_186 : decode cX2_countIn 186 = .ok (.iconst 0, 1) := dk_3 (dk_at dksX2_countIn_7 21 rfl rfl)
theorem dX2_countIn_187 : decode cX2_countIn 187 = .ok (.goto 7, 3) := dk_167 0 7 (dk_at dksX2_countIn_8 0 rfl rfl)
theorem dX2_countIn_190 : decode cX2_countIn 190 = .ok (.iload 7, 2) := dk_21 7 (dk_at dksX2_countIn_8 3 rfl rfl)
theorem dX2_countIn_192 : decode cX2_countIn 192 = .ok (.iconst 1, 1) := dk_4 (dk_at dksX2_countIn_8 5 rfl rfl)
theorem dX2_countIn_193 : decode cX2_countIn 193 = .ok (.iadd, 1) := dk_96 (dk_at dksX2_countIn_8 6 rfl rfl)
theorem dX2_countIn_194 : decode cX2_countIn 194 = .ok (.istore 7, 2) := dk_54 7 (dk_at dksX2_countIn_8 7 rfl rfl)
theorem dX2_countIn_196 : decode cX2_countIn 196 = .ok (.iload 8, 2) := dk_21 8 (dk_at dksX2_countIn_8 9 rfl rfl)
theorem dX2_countIn_198 : decode cX2_countIn 198 = .ok (.iconst 1, 1) := dk_4 (dk_at dksX2_countIn_8 11 rfl rfl)
theorem dX2_countIn_199 : decode cX2_countIn 199 = .ok (.iadd, 1) := dk_96 (dk_at dksX2_countIn_8 12 rfl rfl)
theorem dX2_countIn_200 : decode cX2_countIn 200 = .ok (.aload_n 0, 1) := dk_42 (dk_at dksX2_countIn_8 13 rfl rfl)
theorem dX2_countIn_201 : decode cX2_countIn 201 = .ok (.getfield 7, 3) := dk_180 0 7 (dk_at dksX2_countIn_8 14 rfl rfl)
theorem dX2_countIn_204 : decode cX2_countIn 204 = .ok (.iconst 2, 1) := dk_5 (dk_at dksX2_countIn_8 17 rfl rfl)
theorem dX2_countIn_205 : decode cX2_countIn 205 = .ok (.iaload, 1) := dk_46 (dk_at dksX2_countIn_8 18 rfl rfl)
theorem dX2_countIn_206 : decode cX2_countIn 206 = .ok (.if_icmp .ne 7, 3) := dk_160 0 7 (dk_at dksX2_countIn_8 19 rfl rfl)
theorem dX2_countIn_209 : decode cX2_countIn 209 = .ok (.iconst 0, 1) := dk_3 (dk_at dksX2_countIn_8 22 rfl rfl)
theorem dX2_countIn_210 : decode cX2_countIn 210 = .ok (.goto 7, 3) := dk_167 0 7 (dk_at dksX2_countIn_9 0 rfl rfl)
theorem dX2_countIn_213 : decode cX2_countIn 213 = .ok (.iload 8, 2) := dk_21 8 (dk_at dksX2_countIn_9 3 rfl rfl)
theorem dX2_countIn_215 : decode cX2_countIn 215 = .ok (.iconst 1, 1) := dk_4 (dk_at dksX2_countIn_9 5 rfl rfl)
theorem dX2_countIn_216 : decode cX2_countIn 216 = .ok (.iadd, 1) := dk_96 (dk_at dksX2_countIn_9 6 rfl rfl)
theorem dX2_countIn_217 : decode cX2_countIn 217 = .ok (.istore 8, 2) := dk_54 8 (dk_at dksX2_countIn_9 7 rfl rfl)
theorem dX2_countIn_219 : decode cX2_countIn 219 = .ok (.iinc 9 1, 3) := dk_132 9 1 (dk_at dksX2_countIn_9 9 rfl rfl)
theorem dX2_countIn_222 : decode cX2_countIn 222 = .ok (.goto (-145), 3) := dk_167 255 111 (dk_at dksX2_countIn_9 12 rfl rfl)
theorem dX2_countIn_225 : decode cX2_countIn 225 = .ok (.iload 5, 2) := dk_21 5 (dk_at dksX2_countIn_9 15 rfl rfl)
theorem dX2_countIn_227 : decode cX2_countIn 227 = .ok (.ireturn, 1) := dk_172 (dk_at dksX2_countIn_9 17 rfl rfl)
abbrev cX2_alone : ByteArray := prog_17_method_81_code
def yX2_alone : MethodName := ⟨RX2, "alone", "(IJI)I"⟩
def dkwX2_alone_6 : List UInt8 := [55, 6, 167, 255, 165, 21, 5, 172]
abbrev dktX2_alone_6 : List UInt8 := dkwX2_alone_6 ++ []
def dkwX2_alone_5 : List UInt8 := [167, 0, 11, 21, 8, 4, 27, 120, 160, 0, 7, 4, 167, 0, 4, 3, 96, 54, 5, 22, 6, 10, 97]
abbrev dktX2_alone_5 : List UInt8 := dkwX2_alone_5 ++ dktX2_alone_6
def dkwX2_alone_4 : List UInt8 := [156, 0, 11, 21, 8, 154, 0, 32, 167, 0, 25, 27, 16, 12, 160, 0, 11, 21, 9, 153, 0, 18]
abbrev dktX2_alone_4 : List UInt8 := dkwX2_alone_4 ++ dktX2_alone_5
def dkwX2_alone_3 : List UInt8 := [153, 0, 17, 21, 8, 21, 8, 4, 100, 126, 154, 0, 7, 4, 167, 0, 4, 3, 54, 9, 21, 5, 27]
abbrev dktX2_alone_3 : List UInt8 := dkwX2_alone_3 ++ dktX2_alone_4
def dkwX2_alone_2 : List UInt8 := [55, 6, 22, 6, 32, 21, 4, 133, 97, 148, 156, 0, 86, 42, 22, 6, 182, 1, 129, 54, 8, 21, 8]
abbrev dktX2_alone_2 : List UInt8 := dkwX2_alone_2 ++ dktX2_alone_3
def dkwX2_alone_1 : List UInt8 := [163, 0, 13, 32, 21, 4, 133, 184, 1, 122, 154, 0, 5, 2, 172, 42, 182, 1, 60, 3, 54, 5, 32]
abbrev dktX2_alone_1 : List UInt8 := dkwX2_alone_1 ++ dktX2_alone_2
def dkwX2_alone_0 : List UInt8 := [27, 2, 159, 0, 17, 27, 16, 12, 159, 0, 11, 42, 27, 182, 0, 114, 153, 0, 20, 21, 4, 18, 147]
abbrev dktX2_alone_0 : List UInt8 := dkwX2_alone_0 ++ dktX2_alone_1
theorem dksX2_alone_0 : cX2_alone.data.toList.drop 0 = dktX2_alone_0 := by decide +kernel
theorem dksX2_alone_1 : cX2_alone.data.toList.drop 23 = dktX2_alone_1 := dk_seg dksX2_alone_0 23 rfl rfl
theorem dksX2_alone_2 : cX2_alone.data.toList.drop 46 = dktX2_alone_2 := dk_seg dksX2_alone_1 23 rfl rfl
theorem dksX2_alone_3 : cX2_alone.data.toList.drop 69 = dktX2_alone_3 := dk_seg dksX2_alone_2 23 rfl rfl
theorem dksX2_alone_4 : cX2_alone.data.toList.drop 92 = dktX2_alone_4 := dk_seg dksX2_alone_3 23 rfl rfl
theorem dksX2_alone_5 : cX2_alone.data.toList.drop 114 = dktX2_alone_5 := dk_seg dksX2_alone_4 22 rfl rfl
theorem dksX2_alone_6 : cX2_alone.data.toList.drop 137 = dktX2_alone_6 := dk_seg dksX2_alone_5 23 rfl rfl
theorem dX2_alone_0 : decode cX2_alone 0 = .ok (.iload_n 1, 1) := dk_27 (dk_at dksX2_alone_0 0 rfl rfl)
theorem dX2_alone_1 : decode cX2_alone 1 = .ok (.iconst (-1), 1) := dk_2 (dk_at dksX2_alone_0 1 rfl rfl)
theorem dX2_alone_2 : decode cX2_alone 2 = .ok (.if_icmp .eq 17, 3) := dk_159 0 17 (dk_at dksX2_alone_0 2 rfl rfl)
theorem dX2_alone_5 : decode cX2_alone 5 = .ok (.iload_n 1, 1) := dk_27 (dk_at dksX2_alone_0 5 rfl rfl)
theorem dX2_alone_6 : decode cX2_alone 6 = .ok (.bipush 12, 2) := dk_16 12 (dk_at dksX2_alone_0 6 rfl rfl)
theorem dX2_alone_8 : decode cX2_alone 8 = .ok (.if_icmp .eq 11, 3) := dk_159 0 11 (dk_at dksX2_alone_0 8 rfl rfl)
theorem dX2_alone_11 : decode cX2_alone 11 = .ok (.aload_n 0, 1) := dk_42 (dk_at dksX2_alone_0 11 rfl rfl)
theorem dX2_alone_12 : decode cX2_alone 12 = .ok (.iload_n 1, 1) := dk_27 (dk_at dksX2_alone_0 12 rfl rfl)
theorem dX2_alone_13 : decode cX2_alone 13 = .ok (.invokevirtual 114, 3) := dk_182 0 114 (dk_at dksX2_alone_0 13 rfl rfl)
theorem dX2_alone_16 : decode cX2_alone 16 = .ok (.ifCond .eq 20, 3) := dk_153 0 20 (dk_at dksX2_alone_0 16 rfl rfl)
theorem dX2_alone_19 : decode cX2_alone 19 = .ok (.iload 4, 2) := dk_21 4 (dk_at dksX2_alone_0 19 rfl rfl)
theorem dX2_alone_21 : decode cX2_alone 21 = .ok (.ldc 147, 2) := dk_18 147 (dk_at dksX2_alone_0 21 rfl rfl)
theorem dX2_alone_23 : decode cX2_alone 23 = .ok (.if_icmp .gt 13, 3) := dk_163 0 13 (dk_at dksX2_alone_1 0 rfl rfl)
theorem dX2_alone_26 : decode cX2_alone 26 = .ok (.lload_n 2, 1) := dk_32 (dk_at dksX2_alone_1 3 rfl rfl)
theorem dX2_alone_27 : decode cX2_alone 27 = .ok (.iload 4, 2) := dk_21 4 (dk_at dksX2_alone_1 4 rfl rfl)
theorem dX2_alone_29 : decode cX2_alone 29 = .ok (.i2l, 1) := dk_133 (dk_at dksX2_alone_1 6 rfl rfl)
theorem dX2_alone_30 : decode cX2_alone 30 = .ok (.invokestatic 378, 3) := dk_184 1 122 (dk_at dksX2_alone_1 7 rfl rfl)
theorem dX2_alone_33 : decode cX2_alone 33 = .ok (.ifCond .ne 5, 3) := dk_154 0 5 (dk_at dksX2_alone_1 10 rfl rfl)
theorem dX2_alone_36 : decode cX2_alone 36 = .ok (.iconst (-1), 1) := dk_2 (dk_at dksX2_alone_1 13 rfl rfl)
theorem dX2_alone_37 : decode cX2_alone 37 = .ok (.ireturn, 1) := dk_172 (dk_at dksX2_alone_1 14 rfl rfl)
theorem dX2_alone_38 : decode cX2_alone 38 = .ok (.aload_n 0, 1) := dk_42 (dk_at dksX2_alone_1 15 rfl rfl)
theorem dX2_alone_39 : decode cX2_alone 39 = .ok (.invokevirtual 316, 3) := dk_182 1 60 (dk_at dksX2_alone_1 16 rfl rfl)
theorem dX2_alone_42 : decode cX2_alone 42 = .ok (.iconst 0, 1) := dk_3 (dk_at dksX2_alone_1 19 rfl rfl)
theorem dX2_alone_43 : decode cX2_alone 43 = .ok (.istore 5, 2) := dk_54 5 (dk_at dksX2_alone_1 20 rfl rfl)
theorem dX2_alone_45 : decode cX2_alone 45 = .ok (.lload_n 2, 1) := dk_32 (dk_at dksX2_alone_1 22 rfl rfl)
theorem dX2_alone_46 : decode cX2_alone 46 = .ok (.lstore 6, 2) := dk_55 6 (dk_at dksX2_alone_2 0 rfl rfl)
theorem dX2_alone_48 : decode cX2_alone 48 = .ok (.lload 6, 2) := dk_22 6 (dk_at dksX2_alone_2 2 rfl rfl)
theorem dX2_alone_50 : decode cX2_alone 50 = .ok (.lload_n 2, 1) := dk_32 (dk_at dksX2_alone_2 4 rfl rfl)
theorem dX2_alone_51 : decode cX2_alone 51 = .ok (.iload 4, 2) := dk_21 4 (dk_at dksX2_alone_2 5 rfl rfl)
theorem dX2_alone_53 : decode cX2_alone 53 = .ok (.i2l, 1) := dk_133 (dk_at dksX2_alone_2 7 rfl rfl)
theorem dX2_alone_54 : decode cX2_alone 54 = .ok (.ladd, 1) := dk_97 (dk_at dksX2_alone_2 8 rfl rfl)
theorem dX2_alone_55 : decode cX2_alone 55 = .ok (.lcmp, 1) := dk_148 (dk_at dksX2_alone_2 9 rfl rfl)
theorem dX2_alone_56 : decode cX2_alone 56 = .ok (.ifCond .ge 86, 3) := dk_156 0 86 (dk_at dksX2_alone_2 10 rfl rfl)
theorem dX2_alone_59 : decode cX2_alone 59 = .ok (.aload_n 0, 1) := dk_42 (dk_at dksX2_alone_2 13 rfl rfl)
theorem dX2_alone_60 : decode cX2_alone 60 = .ok (.lload 6, 2) := dk_22 6 (dk_at dksX2_alone_2 14 rfl rfl)
theorem dX2_alone_62 : decode cX2_alone 62 = .ok (.invokevirtual 385, 3) := dk_182 1 129 (dk_at dksX2_alone_2 16 rfl rfl)
theorem dX2_alone_65 : decode cX2_alone 65 = .ok (.istore 8, 2) := dk_54 8 (dk_at dksX2_alone_2 19 rfl rfl)
theorem dX2_alone_67 : decode cX2_alone 67 = .ok (.iload 8, 2) := dk_21 8 (dk_at dksX2_alone_2 21 rfl rfl)
theorem dX2_alone_69 : decode cX2_alone 69 = .ok (.ifCond .eq 17, 3) := dk_153 0 17 (dk_at dksX2_alone_3 0 rfl rfl)
theorem dX2_alone_72 : decode cX2_alone 72 = .ok (.iload 8, 2) := dk_21 8 (dk_at dksX2_alone_3 3 rfl rfl)
theorem dX2_alone_74 : decode cX2_alone 74 = .ok (.iload 8, 2) := dk_21 8 (dk_at dksX2_alone_3 5 rfl rfl)
theorem dX2_alone_76 : decode cX2_alone 76 = .ok (.iconst 1, 1) := dk_4 (dk_at dksX2_alone_3 7 rfl rfl)
theorem dX2_alone_77 : decode cX2_alone 77 = .ok (.isub, 1) := dk_100 (dk_at dksX2_alone_3 8 rfl rfl)
theorem dX2_alone_78 : decode cX2_alone 78 = .ok (.iand, 1) := dk_126 (dk_at dksX2_alone_3 9 rfl rfl)
theorem dX2_alone_79 : decode cX2_alone 79 = .ok (.ifCond .ne 7, 3) := dk_154 0 7 (dk_at dksX2_alone_3 10 rfl rfl)
theorem dX2_alone_82 : decode cX2_alone 82 = .ok (.iconst 1, 1) := dk_4 (dk_at dksX2_alone_3 13 rfl rfl)
theorem dX2_alone_83 : decode cX2_alone 83 = .ok (.goto 4, 3) := dk_167 0 4 (dk_at dksX2_alone_3 14 rfl rfl)
theorem dX2_alone_86 : decode cX2_alone 86 = .ok (.iconst 0, 1) := dk_3 (dk_at dksX2_alone_3 17 rfl rfl)
theorem dX2_alone_87 : decode cX2_alone 87 = .ok (.istore 9, 2) := dk_54 9 (dk_at dksX2_alone_3 18 rfl rfl)
theorem dX2_alone_89 : decode cX2_alone 89 = .ok (.iload 5, 2) := dk_21 5 (dk_at dksX2_alone_3 20 rfl rfl)
theorem dX2_alone_91 : decode cX2_alone 91 = .ok (.iload_n 1, 1) := dk_27 (dk_at dksX2_alone_3 22 rfl rfl)
theorem dX2_alone_92 : decode cX2_alone 92 = .ok (.ifCond .ge 11, 3) := dk_156 0 11 (dk_at dksX2_alone_4 0 rfl rfl)
theorem dX2_alone_95 : decode cX2_alone 95 = .ok (.iload 8, 2) := dk_21 8 (dk_at dksX2_alone_4 3 rfl rfl)
theorem dX2_alone_97 : decode cX2_alone 97 = .ok (.ifCond .ne 32, 3) := dk_154 0 32 (dk_at dksX2_alone_4 5 rfl rfl)
theorem dX2_alone_100 : decode cX2_alone 100 = .ok (.goto 25, 3) := dk_167 0 25 (dk_at dksX2_alone_4 8 rfl rfl)
theorem dX2_alone_103 : decode cX2_alone 103 = .ok (.iload_n 1, 1) := dk_27 (dk_at dksX2_alone_4 11 rfl rfl)
theorem dX2_alone_104 : decode cX2_alone 104 = .ok (.bipush 12, 2) := dk_16 12 (dk_at dksX2_alone_4 12 rfl rfl)
theorem dX2_alone_106 : decode cX2_alone 106 = .ok (.if_icmp .ne 11, 3) := dk_160 0 11 (dk_at dksX2_alone_4 14 rfl rfl)
theorem dX2_alone_109 : decode cX2_alone 109 = .ok (.iload 9, 2) := dk_21 9 (dk_at dksX2_alone_4 17 rfl rfl)
theorem dX2_alone_111 : decode cX2_alone 111 = .ok (.ifCond .eq 18, 3) := dk_153 0 18 (dk_at dksX2_alone_4 19 rfl rfl)
theorem dX2_alone_114 : decode cX2_alone 114 = .ok (.goto 11, 3) := dk_167 0 11 (dk_at dksX2_alone_5 0 rfl rfl)
theorem dX2_alone_117 : decode cX2_alone 117 = .ok (.iload 8, 2) := dk_21 8 (dk_at dksX2_alone_5 3 rfl rfl)
theorem dX2_alone_119 : decode cX2_alone 119 = .ok (.iconst 1, 1) := dk_4 (dk_at dksX2_alone_5 5 rfl rfl)
theorem dX2_alone_120 : decode cX2_alone 120 = .ok (.iload_n 1, 1) := dk_27 (dk_at dksX2_alone_5 6 rfl rfl)
theorem dX2_alone_121 : decode cX2_alone 121 = .ok (.ishl, 1) := dk_120 (dk_at dksX2_alone_5 7 rfl rfl)
theorem dX2_alone_122 : decode cX2_alone 122 = .ok (.if_icmp .ne 7, 3) := dk_160 0 7 (dk_at dksX2_alone_5 8 rfl rfl)
theorem dX2_alone_125 : decode cX2_alone 125 = .ok (.iconst 1, 1) := dk_4 (dk_at dksX2_alone_5 11 rfl rfl)
theorem dX2_alone_126 : decode cX2_alone 126 = .ok (.goto 4, 3) := dk_167 0 4 (dk_at dksX2_alone_5 12 rfl rfl)
theorem dX2_alone_129 : decode cX2_alone 129 = .ok (.iconst 0, 1) := dk_3 (dk_at dksX2_alone_5 15 rfl rfl)
theorem dX2_alone_130 : decode cX2_alone 130 = .ok (.iadd, 1) := dk_96 (dk_at dksX2_alone_5 16 rfl rfl)
theorem dX2_alone_131 : decode cX2_alone 131 = .ok (.istore 5, 2) := dk_54 5 (dk_at dksX2_alone_5 17 rfl rfl)
theorem dX2_alone_133 : decode cX2_alone 133 = .ok (.lload 6, 2) := dk_22 6 (dk_at dksX2_alone_5 19 rfl rfl)
theorem dX2_alone_135 : decode cX2_alone 135 = .ok (.lconst 1, 1) := dk_10 (dk_at dksX2_alone_5 21 rfl rfl)
theorem dX2_alone_136 : decode cX2_alone 136 = .ok (.ladd, 1) := dk_97 (dk_at dksX2_alone_5 22 rfl rfl)
theorem dX2_alone_137 : decode cX2_alone 137 = .ok (.lstore 6, 2) := dk_55 6 (dk_at dksX2_alone_6 0 rfl rfl)
theorem dX2_alone_139 : decode cX2_alone 139 = .ok (.goto (-91), 3) := dk_167 255 165 (dk_at dksX2_alone_6 2 rfl rfl)
theorem dX2_alone_142 : decode cX2_alone 142 = .ok (.iload 5, 2) := dk_21 5 (dk_at dksX2_alone_6 5 rfl rfl)
theorem dX2_alone_144 : decode cX2_alone 144 = .ok (.ireturn, 1) := dk_172 (dk_at dksX2_alone_6 7 rfl rfl)
abbrev cX2_speakers : ByteArray := prog_17_method_61_code
def yX2_speakers : MethodName := ⟨RX2, "speakers", "(J)I"⟩
def dkwX2_speakers_1 : List UInt8 := [153, 0, 10, 4, 21, 4, 120, 167, 0, 4, 3, 128, 62, 132, 4, 1, 167, 255, 221, 29, 172]
abbrev dktX2_speakers_1 : List UInt8 := dkwX2_speakers_1 ++ []
def dkwX2_speakers_0 : List UInt8 := [3, 62, 3, 54, 4, 21, 4, 42, 180, 0, 7, 3, 46, 162, 0, 30, 29, 42, 21, 4, 31, 182, 1, 51]
abbrev dktX2_speakers_0 : List UInt8 := dkwX2_speakers_0 ++ dktX2_speakers_1
theorem dksX2_speakers_0 : cX2_speakers.data.toList.drop 0 = dktX2_speakers_0 := by decide +kernel
theorem dksX2_speakers_1 : cX2_speakers.data.toList.drop 24 = dktX2_speakers_1 := dk_seg dksX2_speakers_0 24 rfl rfl
theorem dX2_speakers_0 : decode cX2_speakers 0 = .ok (.iconst 0, 1) := dk_3 (dk_at dksX2_speakers_0 0 rfl rfl)
theorem dX2_speakers_1 : decode cX2_speakers 1 = .ok (.istore_n 3, 1) := dk_62 (dk_at dksX2_speakers_0 1 rfl rfl)
theorem dX2_speakers_2 : decode cX2_speakers 2 = .ok (.iconst 0, 1) := dk_3 (dk_at dksX2_speakers_0 2 rfl rfl)
theorem dX2_speakers_3 : decode cX2_speakers 3 = .ok (.istore 4, 2) := dk_54 4 (dk_at dksX2_speakers_0 3 rfl rfl)
theorem dX2_speakers_5 : decode cX2_speakers 5 = .ok (.iload 4, 2) := dk_21 4 (dk_at dksX2_speakers_0 5 rfl rfl)
theorem dX2_speakers_7 : decode cX2_speakers 7 = .ok (.aload_n 0, 1) := dk_42 (dk_at dksX2_speakers_0 7 rfl rfl)
theorem dX2_speakers_8 : decode cX2_speakers 8 = .ok (.getfield 7, 3) := dk_180 0 7 (dk_at dksX2_speakers_0 8 rfl rfl)
theorem dX2_speakers_11 : decode cX2_speakers 11 = .ok (.iconst 0, 1) := dk_3 (dk_at dksX2_speakers_0 11 rfl rfl)
theorem dX2_speakers_12 : decode cX2_speakers 12 = .ok (.iaload, 1) := dk_46 (dk_at dksX2_speakers_0 12 rfl rfl)
theorem dX2_speakers_13 : decode cX2_speakers 13 = .ok (.if_icmp .ge 30, 3) := dk_162 0 30 (dk_at dksX2_speakers_0 13 rfl rfl)
theorem dX2_speakers_16 : decode cX2_speakers 16 = .ok (.iload_n 3, 1) := dk_29 (dk_at dksX2_speakers_0 16 rfl rfl)
theorem dX2_speakers_17 : decode cX2_speakers 17 = .ok (.aload_n 0, 1) := dk_42 (dk_at dksX2_speakers_0 17 rfl rfl)
theorem dX2_speakers_18 : decode cX2_speakers 18 = .ok (.iload 4, 2) := dk_21 4 (dk_at dksX2_speakers_0 18 rfl rfl)
theorem dX2_speakers_20 : decode cX2_speakers 20 = .ok (.lload_n 1, 1) := dk_31 (dk_at dksX2_speakers_0 20 rfl rfl)
theorem dX2_speakers_21 : decode cX2_speakers 21 = .ok (.invokevirtual 307, 3) := dk_182 1 51 (dk_at dksX2_speakers_0 21 rfl rfl)
theorem dX2_speakers_24 : decode cX2_speakers 24 = .ok (.ifCond .eq 10, 3) := dk_153 0 10 (dk_at dksX2_speakers_1 0 rfl rfl)
theorem dX2_speakers_27 : decode cX2_speakers 27 = .ok (.iconst 1, 1) := dk_4 (dk_at dksX2_speakers_1 3 rfl rfl)
theorem dX2_speakers_28 : decode cX2_speakers 28 = .ok (.iload 4, 2) := dk_21 4 (dk_at dksX2_speakers_1 4 rfl rfl)
theorem dX2_speakers_30 : decode cX2_speakers 30 = .ok (.ishl, 1) := dk_120 (dk_at dksX2_speakers_1 6 rfl rfl)
theorem dX2_speakers_31 : decode cX2_speakers 31 = .ok (.goto 4, 3) := dk_167 0 4 (dk_at dksX2_speakers_1 7 rfl rfl)
theorem dX2_speakers_34 : decode cX2_speakers 34 = .ok (.iconst 0, 1) := dk_3 (dk_at dksX2_speakers_1 10 rfl rfl)
theorem dX2_speakers_35 : decode cX2_speakers 35 = .ok (.ior, 1) := dk_128 (dk_at dksX2_speakers_1 11 rfl rfl)
theorem dX2_speakers_36 : decode cX2_speakers 36 = .ok (.istore_n 3, 1) := dk_62 (dk_at dksX2_speakers_1 12 rfl rfl)
theorem dX2_speakers_37 : decode cX2_speakers 37 = .ok (.iinc 4 1, 3) := dk_132 4 1 (dk_at dksX2_speakers_1 13 rfl rfl)
theorem dX2_speakers_40 : decode cX2_speakers 40 = .ok (.goto (-35), 3) := dk_167 255 221 (dk_at dksX2_speakers_1 16 rfl rfl)
theorem dX2_speakers_43 : decode cX2_speakers 43 = .ok (.iload_n 3, 1) := dk_29 (dk_at dksX2_speakers_1 19 rfl rfl)
theorem dX2_speakers_44 : decode cX2_speakers 44 = .ok (.ireturn, 1) := dk_172 (dk_at dksX2_speakers_1 20 rfl rfl)
abbrev cX2_secret : ByteArray := prog_17_method_83_code
def yX2_secret : MethodName := ⟨RX2, "secret", "(IIJI)J"⟩
def dkwX2_secret_5 : List UInt8 := [55, 7, 167, 255, 204, 21, 5, 154, 0, 9, 20, 1, 94, 167, 0, 6, 21, 6, 133, 173]
abbrev dktX2_secret_5 : List UInt8 := dkwX2_secret_5 ++ []
def dkwX2_secret_4 : List UInt8 := [182, 1, 135, 154, 0, 6, 167, 0, 14, 21, 5, 154, 0, 6, 22, 7, 173, 132, 6, 1, 22, 7, 10, 97]
abbrev dktX2_secret_4 : List UInt8 := dkwX2_secret_4 ++ dktX2_secret_5
def dkwX2_secret_3 : List UInt8 := [21, 5, 154, 0, 8, 18, 147, 167, 0, 5, 21, 5, 133, 97, 148, 156, 0, 37, 42, 27, 28, 22, 7]
abbrev dktX2_secret_3 : List UInt8 := dkwX2_secret_3 ++ dktX2_secret_4
def dkwX2_secret_2 : List UInt8 := [184, 1, 122, 154, 0, 7, 20, 1, 94, 173, 42, 182, 1, 60, 3, 54, 6, 33, 55, 7, 22, 7, 33]
abbrev dktX2_secret_2 : List UInt8 := dkwX2_secret_2 ++ dktX2_secret_3
def dkwX2_secret_1 : List UInt8 := [18, 147, 184, 0, 104, 153, 0, 24, 33, 21, 5, 154, 0, 9, 20, 1, 133, 167, 0, 6, 21, 5, 133]
abbrev dktX2_secret_1 : List UInt8 := dkwX2_secret_1 ++ dktX2_secret_2
def dkwX2_secret_0 : List UInt8 := [42, 27, 182, 0, 114, 153, 0, 48, 42, 28, 182, 0, 114, 153, 0, 40, 27, 28, 159, 0, 35, 21, 5, 3]
abbrev dktX2_secret_0 : List UInt8 := dkwX2_secret_0 ++ dktX2_secret_1
theorem dksX2_secret_0 : cX2_secret.data.toList.drop 0 = dktX2_secret_0 := by decide +kernel
theorem dksX2_secret_1 : cX2_secret.data.toList.drop 24 = dktX2_secret_1 := dk_seg dksX2_secret_0 24 rfl rfl
theorem dksX2_secret_2 : cX2_secret.data.toList.drop 47 = dktX2_secret_2 := dk_seg dksX2_secret_1 23 rfl rfl
theorem dksX2_secret_3 : cX2_secret.data.toList.drop 70 = dktX2_secret_3 := dk_seg dksX2_secret_2 23 rfl rfl
theorem dksX2_secret_4 : cX2_secret.data.toList.drop 93 = dktX2_secret_4 := dk_seg dksX2_secret_3 23 rfl rfl
theorem dksX2_secret_5 : cX2_secret.data.toList.drop 117 = dktX2_secret_5 := dk_seg dksX2_secret_4 24 rfl rfl
theorem dX2_secret_0 : decode cX2_secret 0 = .ok (.aload_n 0, 1) := dk_42 (dk_at dksX2_secret_0 0 rfl rfl)
theorem dX2_secret_1 : decode cX2_secret 1 = .ok (.iload_n 1, 1) := dk_27 (dk_at dksX2_secret_0 1 rfl rfl)
theorem dX2_secret_2 : decode cX2_secret 2 = .ok (.invokevirtual 114, 3) := dk_182 0 114 (dk_at dksX2_secret_0 2 rfl rfl)
theorem dX2_secret_5 : decode cX2_secret 5 = .ok (.ifCond .eq 48, 3) := dk_153 0 48 (dk_at dksX2_secret_0 5 rfl rfl)
theorem dX2_secret_8 : decode cX2_secret 8 = .ok (.aload_n 0, 1) := dk_42 (dk_at dksX2_secret_0 8 rfl rfl)
theorem dX2_secret_9 : decode cX2_secret 9 = .ok (.iload_n 2, 1) := dk_28 (dk_at dksX2_secret_0 9 rfl rfl)
theorem dX2_secret_10 : decode cX2_secret 10 = .ok (.invokevirtual 114, 3) := dk_182 0 114 (dk_at dksX2_secret_0 10 rfl rfl)
theorem dX2_secret_13 : decode cX2_secret 13 = .ok (.ifCond .eq 40, 3) := dk_153 0 40 (dk_at dksX2_secret_0 13 rfl rfl)
theorem dX2_secret_16 : decode cX2_secret 16 = .ok (.iload_n 1, 1) := dk_27 (dk_at dksX2_secret_0 16 rfl rfl)
theorem dX2_secret_17 : decode cX2_secret 17 = .ok (.iload_n 2, 1) := dk_28 (dk_at dksX2_secret_0 17 rfl rfl)
theorem dX2_secret_18 : decode cX2_secret 18 = .ok (.if_icmp .eq 35, 3) := dk_159 0 35 (dk_at dksX2_secret_0 18 rfl rfl)
theorem dX2_secret_21 : decode cX2_secret 21 = .ok (.iload 5, 2) := dk_21 5 (dk_at dksX2_secret_0 21 rfl rfl)
theorem dX2_secret_23 : decode cX2_secret 23 = .ok (.iconst 0, 1) := dk_3 (dk_at dksX2_secret_0 23 rfl rfl)
theorem dX2_secret_24 : decode cX2_secret 24 = .ok (.ldc 147, 2) := dk_18 147 (dk_at dksX2_secret_1 0 rfl rfl)
theorem dX2_secret_26 : decode cX2_secret 26 = .ok (.invokestatic 104, 3) := dk_184 0 104 (dk_at dksX2_secret_1 2 rfl rfl)
theorem dX2_secret_29 : decode cX2_secret 29 = .ok (.ifCond .eq 24, 3) := dk_153 0 24 (dk_at dksX2_secret_1 5 rfl rfl)
theorem dX2_secret_32 : decode cX2_secret 32 = .ok (.lload_n 3, 1) := dk_33 (dk_at dksX2_secret_1 8 rfl rfl)
theorem dX2_secret_33 : decode cX2_secret 33 = .ok (.iload 5, 2) := dk_21 5 (dk_at dksX2_secret_1 9 rfl rfl)
theorem dX2_secret_35 : decode cX2_secret 35 = .ok (.ifCond .ne 9, 3) := dk_154 0 9 (dk_at dksX2_secret_1 11 rfl rfl)
theorem dX2_secret_38 : decode cX2_secret 38 = .ok (.ldc2_w 389, 3) := dk_20 1 133 (dk_at dksX2_secret_1 14 rfl rfl)
theorem dX2_secret_41 : decode cX2_secret 41 = .ok (.goto 6, 3) := dk_167 0 6 (dk_at dksX2_secret_1 17 rfl rfl)
theorem dX2_secret_44 : decode cX2_secret 44 = .ok (.iload 5, 2) := dk_21 5 (dk_at dksX2_secret_1 20 rfl rfl)
theorem dX2_secret_46 : decode cX2_secret 46 = .ok (.i2l, 1) := dk_133 (dk_at dksX2_secret_1 22 rfl rfl)
theorem dX2_secret_47 : decode cX2_secret 47 = .ok (.invokestatic 378, 3) := dk_184 1 122 (dk_at dksX2_secret_2 0 rfl rfl)
theorem dX2_secret_50 : decode cX2_secret 50 = .ok (.ifCond .ne 7, 3) := dk_154 0 7 (dk_at dksX2_secret_2 3 rfl rfl)
theorem dX2_secret_53 : decode cX2_secret 53 = .ok (.ldc2_w 350, 3) := dk_20 1 94 (dk_at dksX2_secret_2 6 rfl rfl)
theorem dX2_secret_56 : decode cX2_secret 56 = .ok (.lreturn, 1) := dk_173 (dk_at dksX2_secret_2 9 rfl rfl)
theorem dX2_secret_57 : decode cX2_secret 57 = .ok (.aload_n 0, 1) := dk_42 (dk_at dksX2_secret_2 10 rfl rfl)
theorem dX2_secret_58 : decode cX2_secret 58 = .ok (.invokevirtual 316, 3) := dk_182 1 60 (dk_at dksX2_secret_2 11 rfl rfl)
theorem dX2_secret_61 : decode cX2_secret 61 = .ok (.iconst 0, 1) := dk_3 (dk_at dksX2_secret_2 14 rfl rfl)
theorem dX2_secret_62 : decode cX2_secret 62 = .ok (.istore 6, 2) := dk_54 6 (dk_at dksX2_secret_2 15 rfl rfl)
theorem dX2_secret_64 : decode cX2_secret 64 = .ok (.lload_n 3, 1) := dk_33 (dk_at dksX2_secret_2 17 rfl rfl)
theorem dX2_secret_65 : decode cX2_secret 65 = .ok (.lstore 7, 2) := dk_55 7 (dk_at dksX2_secret_2 18 rfl rfl)
theorem dX2_secret_67 : decode cX2_secret 67 = .ok (.lload 7, 2) := dk_22 7 (dk_at dksX2_secret_2 20 rfl rfl)
theorem dX2_secret_69 : decode cX2_secret 69 = .ok (.lload_n 3, 1) := dk_33 (dk_at dksX2_secret_2 22 rfl rfl)
theorem dX2_secret_70 : decode cX2_secret 70 = .ok (.iload 5, 2) := dk_21 5 (dk_at dksX2_secret_3 0 rfl rfl)
theorem dX2_secret_72 : decode cX2_secret 72 = .ok (.ifCond .ne 8, 3) := dk_154 0 8 (dk_at dksX2_secret_3 2 rfl rfl)
theorem dX2_secret_75 : decode cX2_secret 75 = .ok (.ldc 147, 2) := dk_18 147 (dk_at dksX2_secret_3 5 rfl rfl)
theorem dX2_secret_77 : decode cX2_secret 77 = .ok (.goto 5, 3) := dk_167 0 5 (dk_at dksX2_secret_3 7 rfl rfl)
theorem dX2_secret_80 : decode cX2_secret 80 = .ok (.iload 5, 2) := dk_21 5 (dk_at dksX2_secret_3 10 rfl rfl)
theorem dX2_secret_82 : decode cX2_secret 82 = .ok (.i2l, 1) := dk_133 (dk_at dksX2_secret_3 12 rfl rfl)
theorem dX2_secret_83 : decode cX2_secret 83 = .ok (.ladd, 1) := dk_97 (dk_at dksX2_secret_3 13 rfl rfl)
theorem dX2_secret_84 : decode cX2_secret 84 = .ok (.lcmp, 1) := dk_148 (dk_at dksX2_secret_3 14 rfl rfl)
theorem dX2_secret_85 : decode cX2_secret 85 = .ok (.ifCond .ge 37, 3) := dk_156 0 37 (dk_at dksX2_secret_3 15 rfl rfl)
theorem dX2_secret_88 : decode cX2_secret 88 = .ok (.aload_n 0, 1) := dk_42 (dk_at dksX2_secret_3 18 rfl rfl)
theorem dX2_secret_89 : decode cX2_secret 89 = .ok (.iload_n 1, 1) := dk_27 (dk_at dksX2_secret_3 19 rfl rfl)
theorem dX2_secret_90 : decode cX2_secret 90 = .ok (.iload_n 2, 1) := dk_28 (dk_at dksX2_secret_3 20 rfl rfl)
theorem dX2_secret_91 : decode cX2_secret 91 = .ok (.lload 7, 2) := dk_22 7 (dk_at dksX2_secret_3 21 rfl rfl)
theorem dX2_secret_93 : decode cX2_secret 93 = .ok (.invokevirtual 391, 3) := dk_182 1 135 (dk_at dksX2_secret_4 0 rfl rfl)
theorem dX2_secret_96 : decode cX2_secret 96 = .ok (.ifCond .ne 6, 3) := dk_154 0 6 (dk_at dksX2_secret_4 3 rfl rfl)
theorem dX2_secret_99 : decode cX2_secret 99 = .ok (.goto 14, 3) := dk_167 0 14 (dk_at dksX2_secret_4 6 rfl rfl)
theorem dX2_secret_102 : decode cX2_secret 102 = .ok (.iload 5, 2) := dk_21 5 (dk_at dksX2_secret_4 9 rfl rfl)
theorem dX2_secret_104 : decode cX2_secret 104 = .ok (.ifCond .ne 6, 3) := dk_154 0 6 (dk_at dksX2_secret_4 11 rfl rfl)
theorem dX2_secret_107 : decode cX2_secret 107 = .ok (.lload 7, 2) := dk_22 7 (dk_at dksX2_secret_4 14 rfl rfl)
theorem dX2_secret_109 : decode cX2_secret 109 = .ok (.lreturn, 1) := dk_173 (dk_at dksX2_secret_4 16 rfl rfl)
theorem dX2_secret_110 : decode cX2_secret 110 = .ok (.iinc 6 1, 3) := dk_132 6 1 (dk_at dksX2_secret_4 17 rfl rfl)
theorem dX2_secret_113 : decode cX2_secret 113 = .ok (.lload 7, 2) := dk_22 7 (dk_at dksX2_secret_4 20 rfl rfl)
theorem dX2_secret_115 : decode cX2_secret 115 = .ok (.lconst 1, 1) := dk_10 (dk_at dksX2_secret_4 22 rfl rfl)
theorem dX2_secret_116 : decode cX2_secret 116 = .ok (.ladd, 1) := dk_97 (dk_at dksX2_secret_4 23 rfl rfl)
theorem dX2_secret_117 : decode cX2_secret 117 = .ok (.lstore 7, 2) := dk_55 7 (dk_at dksX2_secret_5 0 rfl rfl)
theorem dX2_secret_119 : decode cX2_secret 119 = .ok (.goto (-52), 3) := dk_167 255 204 (dk_at dksX2_secret_5 2 rfl rfl)
theorem dX2_secret_122 : decode cX2_secret 122 = .ok (.iload 5, 2) := dk_21 5 (dk_at dksX2_secret_5 5 rfl rfl)
theorem dX2_secret_124 : decode cX2_secret 124 = .ok (.ifCond .ne 9, 3) := dk_154 0 9 (dk_at dksX2_secret_5 7 rfl rfl)
theorem dX2_secret_127 : decode cX2_secret 127 = .ok (.ldc2_w 350, 3) := dk_20 1 94 (dk_at dksX2_secret_5 10 rfl rfl)
theorem dX2_secret_130 : decode cX2_secret 130 = .ok (.goto 6, 3) := dk_167 0 6 (dk_at dksX2_secret_5 13 rfl rfl)
theorem dX2_secret_133 : decode cX2_secret 133 = .ok (.iload 6, 2) := dk_21 6 (dk_at dksX2_secret_5 16 rfl rfl)
theorem dX2_secret_135 : decode cX2_secret 135 = .ok (.i2l, 1) := dk_133 (dk_at dksX2_secret_5 18 rfl rfl)
theorem dX2_secret_136 : decode cX2_secret 136 = .ok (.lreturn, 1) := dk_173 (dk_at dksX2_secret_5 19 rfl rfl)
abbrev cX2_isSecret : ByteArray := prog_17_method_82_code
def yX2_isSecret : MethodName := ⟨RX2, "isSecret", "(IIJ)Z"⟩
def dkwX2_isSecret_2 : List UInt8 := [16, 40, 28, 96, 46, 128, 126, 154, 0, 7, 4, 167, 0, 4, 3, 172]
abbrev dktX2_isSecret_2 : List UInt8 := dkwX2_isSecret_2 ++ []
def dkwX2_isSecret_1 : List UInt8 := [160, 0, 37, 21, 6, 21, 5, 2, 130, 126, 42, 180, 0, 7, 16, 40, 27, 96, 46, 42, 180, 0, 7]
abbrev dktX2_isSecret_1 : List UInt8 := dkwX2_isSecret_1 ++ dktX2_isSecret_2
def dkwX2_isSecret_0 : List UInt8 := [4, 27, 120, 4, 28, 120, 128, 54, 5, 42, 33, 182, 1, 129, 54, 6, 21, 6, 21, 5, 126, 21, 5]
abbrev dktX2_isSecret_0 : List UInt8 := dkwX2_isSecret_0 ++ dktX2_isSecret_1
theorem dksX2_isSecret_0 : cX2_isSecret.data.toList.drop 0 = dktX2_isSecret_0 := by decide +kernel
theorem dksX2_isSecret_1 : cX2_isSecret.data.toList.drop 23 = dktX2_isSecret_1 := dk_seg dksX2_isSecret_0 23 rfl rfl
theorem dksX2_isSecret_2 : cX2_isSecret.data.toList.drop 46 = dktX2_isSecret_2 := dk_seg dksX2_isSecret_1 23 rfl rfl
theorem dX2_isSecret_0 : decode cX2_isSecret 0 = .ok (.iconst 1, 1) := dk_4 (dk_at dksX2_isSecret_0 0 rfl rfl)
theorem dX2_isSecret_1 : decode cX2_isSecret 1 = .ok (.iload_n 1, 1) := dk_27 (dk_at dksX2_isSecret_0 1 rfl rfl)
theorem dX2_isSecret_2 : decode cX2_isSecret 2 = .ok (.ishl, 1) := dk_120 (dk_at dksX2_isSecret_0 2 rfl rfl)
theorem dX2_isSecret_3 : decode cX2_isSecret 3 = .ok (.iconst 1, 1) := dk_4 (dk_at dksX2_isSecret_0 3 rfl rfl)
theorem dX2_isSecret_4 : decode cX2_isSecret 4 = .ok (.iload_n 2, 1) := dk_28 (dk_at dksX2_isSecret_0 4 rfl rfl)
theorem dX2_isSecret_5 : decode cX2_isSecret 5 = .ok (.ishl, 1) := dk_120 (dk_at dksX2_isSecret_0 5 rfl rfl)
theorem dX2_isSecret_6 : decode cX2_isSecret 6 = .ok (.ior, 1) := dk_128 (dk_at dksX2_isSecret_0 6 rfl rfl)
theorem dX2_isSecret_7 : decode cX2_isSecret 7 = .ok (.istore 5, 2) := dk_54 5 (dk_at dksX2_isSecret_0 7 rfl rfl)
theorem dX2_isSecret_9 : decode cX2_isSecret 9 = .ok (.aload_n 0, 1) := dk_42 (dk_at dksX2_isSecret_0 9 rfl rfl)
theorem dX2_isSecret_10 : decode cX2_isSecret 10 = .ok (.lload_n 3, 1) := dk_33 (dk_at dksX2_isSecret_0 10 rfl rfl)
theorem dX2_isSecret_11 : decode cX2_isSecret 11 = .ok (.invokevirtual 385, 3) := dk_182 1 129 (dk_at dksX2_isSecret_0 11 rfl rfl)
theorem dX2_isSecret_14 : decode cX2_isSecret 14 = .ok (.istore 6, 2) := dk_54 6 (dk_at dksX2_isSecret_0 14 rfl rfl)
theorem dX2_isSecret_16 : decode cX2_isSecret 16 = .ok (.iload 6, 2) := dk_21 6 (dk_at dksX2_isSecret_0 16 rfl rfl)
theorem dX2_isSecret_18 : decode cX2_isSecret 18 = .ok (.iload 5, 2) := dk_21 5 (dk_at dksX2_isSecret_0 18 rfl rfl)
theorem dX2_isSecret_20 : decode cX2_isSecret 20 = .ok (.iand, 1) := dk_126 (dk_at dksX2_isSecret_0 20 rfl rfl)
theorem dX2_isSecret_21 : decode cX2_isSecret 21 = .ok (.iload 5, 2) := dk_21 5 (dk_at dksX2_isSecret_0 21 rfl rfl)
theorem dX2_isSecret_23 : decode cX2_isSecret 23 = .ok (.if_icmp .ne 37, 3) := dk_160 0 37 (dk_at dksX2_isSecret_1 0 rfl rfl)
theorem dX2_isSecret_26 : decode cX2_isSecret 26 = .ok (.iload 6, 2) := dk_21 6 (dk_at dksX2_isSecret_1 3 rfl rfl)
theorem dX2_isSecret_28 : decode cX2_isSecret 28 = .ok (.iload 5, 2) := dk_21 5 (dk_at dksX2_isSecret_1 5 rfl rfl)
theorem dX2_isSecret_30 : decode cX2_isSecret 30 = .ok (.iconst (-1), 1) := dk_2 (dk_at dksX2_isSecret_1 7 rfl rfl)
theorem dX2_isSecret_31 : decode cX2_isSecret 31 = .ok (.ixor, 1) := dk_130 (dk_at dksX2_isSecret_1 8 rfl rfl)
theorem dX2_isSecret_32 : decode cX2_isSecret 32 = .ok (.iand, 1) := dk_126 (dk_at dksX2_isSecret_1 9 rfl rfl)
theorem dX2_isSecret_33 : decode cX2_isSecret 33 = .ok (.aload_n 0, 1) := dk_42 (dk_at dksX2_isSecret_1 10 rfl rfl)
theorem dX2_isSecret_34 : decode cX2_isSecret 34 = .ok (.getfield 7, 3) := dk_180 0 7 (dk_at dksX2_isSecret_1 11 rfl rfl)
theorem dX2_isSecret_37 : decode cX2_isSecret 37 = .ok (.bipush 40, 2) := dk_16 40 (dk_at dksX2_isSecret_1 14 rfl rfl)
theorem dX2_isSecret_39 : decode cX2_isSecret 39 = .ok (.iload_n 1, 1) := dk_27 (dk_at dksX2_isSecret_1 16 rfl rfl)
theorem dX2_isSecret_40 : decode cX2_isSecret 40 = .ok (.iadd, 1) := dk_96 (dk_at dksX2_isSecret_1 17 rfl rfl)
theorem dX2_isSecret_41 : decode cX2_isSecret 41 = .ok (.iaload, 1) := dk_46 (dk_at dksX2_isSecret_1 18 rfl rfl)
theorem dX2_isSecret_42 : decode cX2_isSecret 42 = .ok (.aload_n 0, 1) := dk_42 (dk_at dksX2_isSecret_1 19 rfl rfl)
theorem dX2_isSecret_43 : decode cX2_isSecret 43 = .ok (.getfield 7, 3) := dk_180 0 7 (dk_at dksX2_isSecret_1 20 rfl rfl)
theorem dX2_isSecret_46 : decode cX2_isSecret 46 = .ok (.bipush 40, 2) := dk_16 40 (dk_at dksX2_isSecret_2 0 rfl rfl)
theorem dX2_isSecret_48 : decode cX2_isSecret 48 = .ok (.iload_n 2, 1) := dk_28 (dk_at dksX2_isSecret_2 2 rfl rfl)
theorem dX2_isSecret_49 : decode cX2_isSecret 49 = .ok (.iadd, 1) := dk_96 (dk_at dksX2_isSecret_2 3 rfl rfl)
theorem dX2_isSecret_50 : decode cX2_isSecret 50 = .ok (.iaload, 1) := dk_46 (dk_at dksX2_isSecret_2 4 rfl rfl)
theorem dX2_isSecret_51 : decode cX2_isSecret 51 = .ok (.ior, 1) := dk_128 (dk_at dksX2_isSecret_2 5 rfl rfl)
theorem dX2_isSecret_52 : decode cX2_isSecret 52 = .ok (.iand, 1) := dk_126 (dk_at dksX2_isSecret_2 6 rfl rfl)
theorem dX2_isSecret_53 : decode cX2_isSecret 53 = .ok (.ifCond .ne 7, 3) := dk_154 0 7 (dk_at dksX2_isSecret_2 7 rfl rfl)
theorem dX2_isSecret_56 : decode cX2_isSecret 56 = .ok (.iconst 1, 1) := dk_4 (dk_at dksX2_isSecret_2 10 rfl rfl)
theorem dX2_isSecret_57 : decode cX2_isSecret 57 = .ok (.goto 4, 3) := dk_167 0 4 (dk_at dksX2_isSecret_2 11 rfl rfl)
theorem dX2_isSecret_60 : decode cX2_isSecret 60 = .ok (.iconst 0, 1) := dk_3 (dk_at dksX2_isSecret_2 14 rfl rfl)
theorem dX2_isSecret_61 : decode cX2_isSecret 61 = .ok (.ireturn, 1) := dk_172 (dk_at dksX2_isSecret_2 15 rfl rfl)
abbrev cX2_pass : ByteArray := prog_17_method_85_code
def yX2_pass : MethodName := ⟨RX2, "pass", "(IJII)J"⟩
def dkwX2_pass_6 : List UInt8 := [54, 6, 22, 7, 10, 97, 55, 7, 167, 255, 183, 20, 1, 94, 173]
abbrev dktX2_pass_6 : List UInt8 := dkwX2_pass_6 ++ []
def dkwX2_pass_5 : List UInt8 := [154, 0, 8, 22, 7, 167, 0, 12, 21, 9, 21, 6, 126, 184, 1, 141, 133, 173, 21, 6, 21, 9, 128]
abbrev dktX2_pass_5 : List UInt8 := dkwX2_pass_5 ++ dktX2_pass_6
def dkwX2_pass_4 : List UInt8 := [21, 9, 21, 6, 126, 154, 0, 6, 167, 0, 40, 21, 9, 21, 4, 184, 1, 54, 153, 0, 23, 21, 5]
abbrev dktX2_pass_4 : List UInt8 := dkwX2_pass_4 ++ dktX2_pass_5
def dkwX2_pass_3 : List UInt8 := [54, 6, 32, 55, 7, 22, 7, 32, 20, 1, 133, 97, 148, 156, 0, 68, 42, 22, 7, 182, 1, 129, 54, 9]
abbrev dktX2_pass_3 : List UInt8 := dkwX2_pass_3 ++ dktX2_pass_4
def dkwX2_pass_2 : List UInt8 := [160, 0, 16, 21, 5, 154, 0, 7, 32, 167, 0, 6, 20, 1, 94, 173, 42, 182, 1, 60, 4, 27, 120]
abbrev dktX2_pass_2 : List UInt8 := dkwX2_pass_2 ++ dktX2_pass_3
def dkwX2_pass_1 : List UInt8 := [20, 1, 139, 148, 157, 0, 13, 21, 5, 3, 4, 184, 0, 104, 154, 0, 7, 20, 1, 94, 173, 27, 21, 4]
abbrev dktX2_pass_1 : List UInt8 := dkwX2_pass_1 ++ dktX2_pass_2
def dkwX2_pass_0 : List UInt8 := [42, 27, 182, 0, 114, 153, 0, 36, 42, 21, 4, 182, 0, 114, 153, 0, 27, 32, 9, 148, 155, 0, 21, 32]
abbrev dktX2_pass_0 : List UInt8 := dkwX2_pass_0 ++ dktX2_pass_1
theorem dksX2_pass_0 : cX2_pass.data.toList.drop 0 = dktX2_pass_0 := by decide +kernel
theorem dksX2_pass_1 : cX2_pass.data.toList.drop 24 = dktX2_pass_1 := dk_seg dksX2_pass_0 24 rfl rfl
theorem dksX2_pass_2 : cX2_pass.data.toList.drop 48 = dktX2_pass_2 := dk_seg dksX2_pass_1 24 rfl rfl
theorem dksX2_pass_3 : cX2_pass.data.toList.drop 71 = dktX2_pass_3 := dk_seg dksX2_pass_2 23 rfl rfl
theorem dksX2_pass_4 : cX2_pass.data.toList.drop 95 = dktX2_pass_4 := dk_seg dksX2_pass_3 24 rfl rfl
theorem dksX2_pass_5 : cX2_pass.data.toList.drop 118 = dktX2_pass_5 := dk_seg dksX2_pass_4 23 rfl rfl
theorem dksX2_pass_6 : cX2_pass.data.toList.drop 141 = dktX2_pass_6 := dk_seg dksX2_pass_5 23 rfl rfl
theorem dX2_pass_0 : decode cX2_pass 0 = .ok (.aload_n 0, 1) := dk_42 (dk_at dksX2_pass_0 0 rfl rfl)
theorem dX2_pass_1 : decode cX2_pass 1 = .ok (.iload_n 1, 1) := dk_27 (dk_at dksX2_pass_0 1 rfl rfl)
theorem dX2_pass_2 : decode cX2_pass 2 = .ok (.invokevirtual 114, 3) := dk_182 0 114 (dk_at dksX2_pass_0 2 rfl rfl)
theorem dX2_pass_5 : decode cX2_pass 5 = .ok (.ifCond .eq 36, 3) := dk_153 0 36 (dk_at dksX2_pass_0 5 rfl rfl)
theorem dX2_pass_8 : decode cX2_pass 8 = .ok (.aload_n 0, 1) := dk_42 (dk_at dksX2_pass_0 8 rfl rfl)
theorem dX2_pass_9 : decode cX2_pass 9 = .ok (.iload 4, 2) := dk_21 4 (dk_at dksX2_pass_0 9 rfl rfl)
theorem dX2_pass_11 : decode cX2_pass 11 = .ok (.invokevirtual 114, 3) := dk_182 0 114 (dk_at dksX2_pass_0 11 rfl rfl)
theorem dX2_pass_14 : decode cX2_pass 14 = .ok (.ifCond .eq 27, 3) := dk_153 0 27 (dk_at dksX2_pass_0 14 rfl rfl)
theorem dX2_pass_17 : decode cX2_pass 17 = .ok (.lload_n 2, 1) := dk_32 (dk_at dksX2_pass_0 17 rfl rfl)
theorem dX2_pass_18 : decode cX2_pass 18 = .ok (.lconst 0, 1) := dk_9 (dk_at dksX2_pass_0 18 rfl rfl)
theorem dX2_pass_19 : decode cX2_pass 19 = .ok (.lcmp, 1) := dk_148 (dk_at dksX2_pass_0 19 rfl rfl)
theorem dX2_pass_20 : decode cX2_pass 20 = .ok (.ifCond .lt 21, 3) := dk_155 0 21 (dk_at dksX2_pass_0 20 rfl rfl)
theorem dX2_pass_23 : decode cX2_pass 23 = .ok (.lload_n 2, 1) := dk_32 (dk_at dksX2_pass_0 23 rfl rfl)
theorem dX2_pass_24 : decode cX2_pass 24 = .ok (.ldc2_w 395, 3) := dk_20 1 139 (dk_at dksX2_pass_1 0 rfl rfl)
theorem dX2_pass_27 : decode cX2_pass 27 = .ok (.lcmp, 1) := dk_148 (dk_at dksX2_pass_1 3 rfl rfl)
theorem dX2_pass_28 : decode cX2_pass 28 = .ok (.ifCond .gt 13, 3) := dk_157 0 13 (dk_at dksX2_pass_1 4 rfl rfl)
theorem dX2_pass_31 : decode cX2_pass 31 = .ok (.iload 5, 2) := dk_21 5 (dk_at dksX2_pass_1 7 rfl rfl)
theorem dX2_pass_33 : decode cX2_pass 33 = .ok (.iconst 0, 1) := dk_3 (dk_at dksX2_pass_1 9 rfl rfl)
theorem dX2_pass_34 : decode cX2_pass 34 = .ok (.iconst 1, 1) := dk_4 (dk_at dksX2_pass_1 10 rfl rfl)
theorem dX2_pass_35 : decode cX2_pass 35 = .ok (.invokestatic 104, 3) := dk_184 0 104 (dk_at dksX2_pass_1 11 rfl rfl)
theorem dX2_pass_38 : decode cX2_pass 38 = .ok (.ifCond .ne 7, 3) := dk_154 0 7 (dk_at dksX2_pass_1 14 rfl rfl)
theorem dX2_pass_41 : decode cX2_pass 41 = .ok (.ldc2_w 350, 3) := dk_20 1 94 (dk_at dksX2_pass_1 17 rfl rfl)
theorem dX2_pass_44 : decode cX2_pass 44 = .ok (.lreturn, 1) := dk_173 (dk_at dksX2_pass_1 20 rfl rfl)
theorem dX2_pass_45 : decode cX2_pass 45 = .ok (.iload_n 1, 1) := dk_27 (dk_at dksX2_pass_1 21 rfl rfl)
theorem dX2_pass_46 : decode cX2_pass 46 = .ok (.iload 4, 2) := dk_21 4 (dk_at dksX2_pass_1 22 rfl rfl)
theorem dX2_pass_48 : decode cX2_pass 48 = .ok (.if_icmp .ne 16, 3) := dk_160 0 16 (dk_at dksX2_pass_2 0 rfl rfl)
theorem dX2_pass_51 : decode cX2_pass 51 = .ok (.iload 5, 2) := dk_21 5 (dk_at dksX2_pass_2 3 rfl rfl)
theorem dX2_pass_53 : decode cX2_pass 53 = .ok (.ifCond .ne 7, 3) := dk_154 0 7 (dk_at dksX2_pass_2 5 rfl rfl)
theorem dX2_pass_56 : decode cX2_pass 56 = .ok (.lload_n 2, 1) := dk_32 (dk_at dksX2_pass_2 8 rfl rfl)
theorem dX2_pass_57 : decode cX2_pass 57 = .ok (.goto 6, 3) := dk_167 0 6 (dk_at dksX2_pass_2 9 rfl rfl)
theorem dX2_pass_60 : decode cX2_pass 60 = .ok (.ldc2_w 350, 3) := dk_20 1 94 (dk_at dksX2_pass_2 12 rfl rfl)
theorem dX2_pass_63 : decode cX2_pass 63 = .ok (.lreturn, 1) := dk_173 (dk_at dksX2_pass_2 15 rfl rfl)
theorem dX2_pass_64 : decode cX2_pass 64 = .ok (.aload_n 0, 1) := dk_42 (dk_at dksX2_pass_2 16 rfl rfl)
theorem dX2_pass_65 : decode cX2_pass 65 = .ok (.invokevirtual 316, 3) := dk_182 1 60 (dk_at dksX2_pass_2 17 rfl rfl)
theorem dX2_pass_68 : decode cX2_pass 68 = .ok (.iconst 1, 1) := dk_4 (dk_at dksX2_pass_2 20 rfl rfl)
theorem dX2_pass_69 : decode cX2_pass 69 = .ok (.iload_n 1, 1) := dk_27 (dk_at dksX2_pass_2 21 rfl rfl)
theorem dX2_pass_70 : decode cX2_pass 70 = .ok (.ishl, 1) := dk_120 (dk_at dksX2_pass_2 22 rfl rfl)
theorem dX2_pass_71 : decode cX2_pass 71 = .ok (.istore 6, 2) := dk_54 6 (dk_at dksX2_pass_3 0 rfl rfl)
theorem dX2_pass_73 : decode cX2_pass 73 = .ok (.lload_n 2, 1) := dk_32 (dk_at dksX2_pass_3 2 rfl rfl)
theorem dX2_pass_74 : decode cX2_pass 74 = .ok (.lstore 7, 2) := dk_55 7 (dk_at dksX2_pass_3 3 rfl rfl)
theorem dX2_pass_76 : decode cX2_pass 76 = .ok (.lload 7, 2) := dk_22 7 (dk_at dksX2_pass_3 5 rfl rfl)
theorem dX2_pass_78 : decode cX2_pass 78 = .ok (.lload_n 2, 1) := dk_32 (dk_at dksX2_pass_3 7 rfl rfl)
theorem dX2_pass_79 : decode cX2_pass 79 = .ok (.ldc2_w 389, 3) := dk_20 1 133 (dk_at dksX2_pass_3 8 rfl rfl)
theorem dX2_pass_82 : decode cX2_pass 82 = .ok (.ladd, 1) := dk_97 (dk_at dksX2_pass_3 11 rfl rfl)
theorem dX2_pass_83 : decode cX2_pass 83 = .ok (.lcmp, 1) := dk_148 (dk_at dksX2_pass_3 12 rfl rfl)
theorem dX2_pass_84 : decode cX2_pass 84 = .ok (.ifCond .ge 68, 3) := dk_156 0 68 (dk_at dksX2_pass_3 13 rfl rfl)
theorem dX2_pass_87 : decode cX2_pass 87 = .ok (.aload_n 0, 1) := dk_42 (dk_at dksX2_pass_3 16 rfl rfl)
theorem dX2_pass_88 : decode cX2_pass 88 = .ok (.lload 7, 2) := dk_22 7 (dk_at dksX2_pass_3 17 rfl rfl)
theorem dX2_pass_90 : decode cX2_pass 90 = .ok (.invokevirtual 385, 3) := dk_182 1 129 (dk_at dksX2_pass_3 19 rfl rfl)
theorem dX2_pass_93 : decode cX2_pass 93 = .ok (.istore 9, 2) := dk_54 9 (dk_at dksX2_pass_3 22 rfl rfl)
theorem dX2_pass_95 : decode cX2_pass 95 = .ok (.iload 9, 2) := dk_21 9 (dk_at dksX2_pass_4 0 rfl rfl)
theorem dX2_pass_97 : decode cX2_pass 97 = .ok (.iload 6, 2) := dk_21 6 (dk_at dksX2_pass_4 2 rfl rfl)
theorem dX2_pass_99 : decode cX2_pass 99 = .ok (.iand, 1) := dk_126 (dk_at dksX2_pass_4 4 rfl rfl)
theorem dX2_pass_100 : decode cX2_pass 100 = .ok (.ifCond .ne 6, 3) := dk_154 0 6 (dk_at dksX2_pass_4 5 rfl rfl)
theorem dX2_pass_103 : decode cX2_pass 103 = .ok (.goto 40, 3) := dk_167 0 40 (dk_at dksX2_pass_4 8 rfl rfl)
theorem dX2_pass_106 : decode cX2_pass 106 = .ok (.iload 9, 2) := dk_21 9 (dk_at dksX2_pass_4 11 rfl rfl)
theorem dX2_pass_108 : decode cX2_pass 108 = .ok (.iload 4, 2) := dk_21 4 (dk_at dksX2_pass_4 13 rfl rfl)
theorem dX2_pass_110 : decode cX2_pass 110 = .ok (.invokestatic 310, 3) := dk_184 1 54 (dk_at dksX2_pass_4 15 rfl rfl)
theorem dX2_pass_113 : decode cX2_pass 113 = .ok (.ifCond .eq 23, 3) := dk_153 0 23 (dk_at dksX2_pass_4 18 rfl rfl)
theorem dX2_pass_116 : decode cX2_pass 116 = .ok (.iload 5, 2) := dk_21 5 (dk_at dksX2_pass_4 21 rfl rfl)
theorem dX2_pass_118 : decode cX2_pass 118 = .ok (.ifCond .ne 8, 3) := dk_154 0 8 (dk_at dksX2_pass_5 0 rfl rfl)
theorem dX2_pass_121 : decode cX2_pass 121 = .ok (.lload 7, 2) := dk_22 7 (dk_at dksX2_pass_5 3 rfl rfl)
theorem dX2_pass_123 : decode cX2_pass 123 = .ok (.goto 12, 3) := dk_167 0 12 (dk_at dksX2_pass_5 5 rfl rfl)
theorem dX2_pass_126 : decode cX2_pass 126 = .ok (.iload 9, 2) := dk_21 9 (dk_at dksX2_pass_5 8 rfl rfl)
theorem dX2_pass_128 : decode cX2_pass 128 = .ok (.iload 6, 2) := dk_21 6 (dk_at dksX2_pass_5 10 rfl rfl)
theorem dX2_pass_130 : decode cX2_pass 130 = .ok (.iand, 1) := dk_126 (dk_at dksX2_pass_5 12 rfl rfl)
theorem dX2_pass_131 : decode cX2_pass 131 = .ok (.invokestatic 397, 3) := dk_184 1 141 (dk_at dksX2_pass_5 13 rfl rfl)
theorem dX2_pass_134 : decode cX2_pass 134 = .ok (.i2l, 1) := dk_133 (dk_at dksX2_pass_5 16 rfl rfl)
theorem dX2_pass_135 : decode cX2_pass 135 = .ok (.lreturn, 1) := dk_173 (dk_at dksX2_pass_5 17 rfl rfl)
theorem dX2_pass_136 : decode cX2_pass 136 = .ok (.iload 6, 2) := dk_21 6 (dk_at dksX2_pass_5 18 rfl rfl)
theorem dX2_pass_138 : decode cX2_pass 138 = .ok (.iload 9, 2) := dk_21 9 (dk_at dksX2_pass_5 20 rfl rfl)
theorem dX2_pass_140 : decode cX2_pass 140 = .ok (.ior, 1) := dk_128 (dk_at dksX2_pass_5 22 rfl rfl)
theorem dX2_pass_141 : decode cX2_pass 141 = .ok (.istore 6, 2) := dk_54 6 (dk_at dksX2_pass_6 0 rfl rfl)
theorem dX2_pass_143 : decode cX2_pass 143 = .ok (.lload 7, 2) := dk_22 7 (dk_at dksX2_pass_6 2 rfl rfl)
theorem dX2_pass_145 : decode cX2_pass 145 = .ok (.lconst 1, 1) := dk_10 (dk_at dksX2_pass_6 4 rfl rfl)
theorem dX2_pass_146 : decode cX2_pass 146 = .ok (.ladd, 1) := dk_97 (dk_at dksX2_pass_6 5 rfl rfl)
theorem dX2_pass_147 : decode cX2_pass 147 = .ok (.lstore 7, 2) := dk_55 7 (dk_at dksX2_pass_6 6 rfl rfl)
theorem dX2_pass_149 : decode cX2_pass 149 = .ok (.goto (-73), 3) := dk_167 255 183 (dk_at dksX2_pass_6 8 rfl rfl)
theorem dX2_pass_152 : decode cX2_pass 152 = .ok (.ldc2_w 350, 3) := dk_20 1 94 (dk_at dksX2_pass_6 11 rfl rfl)
theorem dX2_pass_155 : decode cX2_pass 155 = .ok (.lreturn, 1) := dk_173 (dk_at dksX2_pass_6 14 rfl rfl)
abbrev cX2_lowest : ByteArray := prog_17_method_84_code
def yX2_lowest : MethodName := ⟨RX2, "lowest", "(I)I"⟩
def dkwX2_lowest_0 : List UInt8 := [3, 60, 26, 27, 184, 1, 54, 154, 0, 9, 132, 1, 1, 167, 255, 245, 27, 172]
abbrev dktX2_lowest_0 : List UInt8 := dkwX2_lowest_0 ++ []
theorem dksX2_lowest_0 : cX2_lowest.data.toList.drop 0 = dktX2_lowest_0 := by decide +kernel
theorem dX2_lowest_0 : decode cX2_lowest 0 = .ok (.iconst 0, 1) := dk_3 (dk_at dksX2_lowest_0 0 rfl rfl)
theorem dX2_lowest_1 : decode cX2_lowest 1 = .ok (.istore_n 1, 1) := dk_60 (dk_at dksX2_lowest_0 1 rfl rfl)
theorem dX2_lowest_2 : decode cX2_lowest 2 = .ok (.iload_n 0, 1) := dk_26 (dk_at dksX2_lowest_0 2 rfl rfl)
theorem dX2_lowest_3 : decode cX2_lowest 3 = .ok (.iload_n 1, 1) := dk_27 (dk_at dksX2_lowest_0 3 rfl rfl)
theorem dX2_lowest_4 : decode cX2_lowest 4 = .ok (.invokestatic 310, 3) := dk_184 1 54 (dk_at dksX2_lowest_0 4 rfl rfl)
theorem dX2_lowest_7 : decode cX2_lowest 7 = .ok (.ifCond .ne 9, 3) := dk_154 0 9 (dk_at dksX2_lowest_0 7 rfl rfl)
theorem dX2_lowest_10 : decode cX2_lowest 10 = .ok (.iinc 1 1, 3) := dk_132 1 1 (dk_at dksX2_lowest_0 10 rfl rfl)
theorem dX2_lowest_13 : decode cX2_lowest 13 = .ok (.goto (-11), 3) := dk_167 255 245 (dk_at dksX2_lowest_0 13 rfl rfl)
theorem dX2_lowest_16 : decode cX2_lowest 16 = .ok (.iload_n 1, 1) := dk_27 (dk_at dksX2_lowest_0 16 rfl rfl)
theorem dX2_lowest_17 : decode cX2_lowest 17 = .ok (.ireturn, 1) := dk_172 (dk_at dksX2_lowest_0 17 rfl rfl)
abbrev cX2_talk : ByteArray := prog_17_method_86_code
def yX2_talk : MethodName := ⟨RX2, "talk", "(JII)I"⟩
def dkwX2_talk_4 : List UInt8 := [180, 0, 7, 8, 92, 46, 4, 96, 79, 42, 180, 0, 7, 8, 46, 4, 100, 172]
abbrev dktX2_talk_4 : List UInt8 := dkwX2_talk_4 ++ []
def dkwX2_talk_3 : List UInt8 := [79, 42, 180, 0, 7, 17, 0, 200, 5, 42, 180, 0, 7, 8, 46, 104, 96, 4, 96, 21, 4, 79, 42]
abbrev dktX2_talk_3 : List UInt8 := dkwX2_talk_3 ++ dktX2_talk_4
def dkwX2_talk_2 : List UInt8 := [180, 0, 7, 8, 46, 31, 80, 42, 180, 0, 7, 17, 0, 200, 5, 42, 180, 0, 7, 8, 46, 104, 96, 29]
abbrev dktX2_talk_2 : List UInt8 := dkwX2_talk_2 ++ dktX2_talk_3
def dkwX2_talk_1 : List UInt8 := [29, 21, 4, 159, 0, 14, 42, 180, 0, 7, 8, 46, 16, 30, 160, 0, 5, 2, 172, 42, 180, 0, 16, 42]
abbrev dktX2_talk_1 : List UInt8 := dkwX2_talk_1 ++ dktX2_talk_2
def dkwX2_talk_0 : List UInt8 := [31, 184, 1, 57, 153, 0, 37, 42, 29, 182, 0, 114, 153, 0, 29, 42, 21, 4, 182, 0, 114, 153, 0, 20]
abbrev dktX2_talk_0 : List UInt8 := dkwX2_talk_0 ++ dktX2_talk_1
theorem dksX2_talk_0 : cX2_talk.data.toList.drop 0 = dktX2_talk_0 := by decide +kernel
theorem dksX2_talk_1 : cX2_talk.data.toList.drop 24 = dktX2_talk_1 := dk_seg dksX2_talk_0 24 rfl rfl
theorem dksX2_talk_2 : cX2_talk.data.toList.drop 48 = dktX2_talk_2 := dk_seg dksX2_talk_1 24 rfl rfl
theorem dksX2_talk_3 : cX2_talk.data.toList.drop 72 = dktX2_talk_3 := dk_seg dksX2_talk_2 24 rfl rfl
theorem dksX2_talk_4 : cX2_talk.data.toList.drop 95 = dktX2_talk_4 := dk_seg dksX2_talk_3 23 rfl rfl
theorem dX2_talk_0 : decode cX2_talk 0 = .ok (.lload_n 1, 1) := dk_31 (dk_at dksX2_talk_0 0 rfl rfl)
theorem dX2_talk_1 : decode cX2_talk 1 = .ok (.invokestatic 313, 3) := dk_184 1 57 (dk_at dksX2_talk_0 1 rfl rfl)
theorem dX2_talk_4 : decode cX2_talk 4 = .ok (.ifCond .eq 37, 3) := dk_153 0 37 (dk_at dksX2_talk_0 4 rfl rfl)
theorem dX2_talk_7 : decode cX2_talk 7 = .ok (.aload_n 0, 1) := dk_42 (dk_at dksX2_talk_0 7 rfl rfl)
theorem dX2_talk_8 : decode cX2_talk 8 = .ok (.iload_n 3, 1) := dk_29 (dk_at dksX2_talk_0 8 rfl rfl)
theorem dX2_talk_9 : decode cX2_talk 9 = .ok (.invokevirtual 114, 3) := dk_182 0 114 (dk_at dksX2_talk_0 9 rfl rfl)
theorem dX2_talk_12 : decode cX2_talk 12 = .ok (.ifCond .eq 29, 3) := dk_153 0 29 (dk_at dksX2_talk_0 12 rfl rfl)
theorem dX2_talk_15 : decode cX2_talk 15 = .ok (.aload_n 0, 1) := dk_42 (dk_at dksX2_talk_0 15 rfl rfl)
theorem dX2_talk_16 : decode cX2_talk 16 = .ok (.iload 4, 2) := dk_21 4 (dk_at dksX2_talk_0 16 rfl rfl)
theorem dX2_talk_18 : decode cX2_talk 18 = .ok (.invokevirtual 114, 3) := dk_182 0 114 (dk_at dksX2_talk_0 18 rfl rfl)
theorem dX2_talk_21 : decode cX2_talk 21 = .ok (.ifCond .eq 20, 3) := dk_153 0 20 (dk_at dksX2_talk_0 21 rfl rfl)
theorem dX2_talk_24 : decode cX2_talk 24 = .ok (.iload_n 3, 1) := dk_29 (dk_at dksX2_talk_1 0 rfl rfl)
theorem dX2_talk_25 : decode cX2_talk 25 = .ok (.iload 4, 2) := dk_21 4 (dk_at dksX2_talk_1 1 rfl rfl)
theorem dX2_talk_27 : decode cX2_talk 27 = .ok (.if_icmp .eq 14, 3) := dk_159 0 14 (dk_at dksX2_talk_1 3 rfl rfl)
theorem dX2_talk_30 : decode cX2_talk 30 = .ok (.aload_n 0, 1) := dk_42 (dk_at dksX2_talk_1 6 rfl rfl)
theorem dX2_talk_31 : decode cX2_talk 31 = .ok (.getfield 7, 3) := dk_180 0 7 (dk_at dksX2_talk_1 7 rfl rfl)
theorem dX2_talk_34 : decode cX2_talk 34 = .ok (.iconst 5, 1) := dk_8 (dk_at dksX2_talk_1 10 rfl rfl)
theorem dX2_talk_35 : decode cX2_talk 35 = .ok (.iaload, 1) := dk_46 (dk_at dksX2_talk_1 11 rfl rfl)
theorem dX2_talk_36 : decode cX2_talk 36 = .ok (.bipush 30, 2) := dk_16 30 (dk_at dksX2_talk_1 12 rfl rfl)
theorem dX2_talk_38 : decode cX2_talk 38 = .ok (.if_icmp .ne 5, 3) := dk_160 0 5 (dk_at dksX2_talk_1 14 rfl rfl)
theorem dX2_talk_41 : decode cX2_talk 41 = .ok (.iconst (-1), 1) := dk_2 (dk_at dksX2_talk_1 17 rfl rfl)
theorem dX2_talk_42 : decode cX2_talk 42 = .ok (.ireturn, 1) := dk_172 (dk_at dksX2_talk_1 18 rfl rfl)
theorem dX2_talk_43 : decode cX2_talk 43 = .ok (.aload_n 0, 1) := dk_42 (dk_at dksX2_talk_1 19 rfl rfl)
theorem dX2_talk_44 : decode cX2_talk 44 = .ok (.getfield 16, 3) := dk_180 0 16 (dk_at dksX2_talk_1 20 rfl rfl)
theorem dX2_talk_47 : decode cX2_talk 47 = .ok (.aload_n 0, 1) := dk_42 (dk_at dksX2_talk_1 23 rfl rfl)
theorem dX2_talk_48 : decode cX2_talk 48 = .ok (.getfield 7, 3) := dk_180 0 7 (dk_at dksX2_talk_2 0 rfl rfl)
theorem dX2_talk_51 : decode cX2_talk 51 = .ok (.iconst 5, 1) := dk_8 (dk_at dksX2_talk_2 3 rfl rfl)
theorem dX2_talk_52 : decode cX2_talk 52 = .ok (.iaload, 1) := dk_46 (dk_at dksX2_talk_2 4 rfl rfl)
theorem dX2_talk_53 : decode cX2_talk 53 = .ok (.lload_n 1, 1) := dk_31 (dk_at dksX2_talk_2 5 rfl rfl)
theorem dX2_talk_54 : decode cX2_talk 54 = .ok (.lastore, 1) := dk_80 (dk_at dksX2_talk_2 6 rfl rfl)
theorem dX2_talk_55 : decode cX2_talk 55 = .ok (.aload_n 0, 1) := dk_42 (dk_at dksX2_talk_2 7 rfl rfl)
theorem dX2_talk_56 : decode cX2_talk 56 = .ok (.getfield 7, 3) := dk_180 0 7 (dk_at dksX2_talk_2 8 rfl rfl)
theorem dX2_talk_59 : decode cX2_talk 59 = .ok (.sipush 200, 3) := dk_17 0 200 (dk_at dksX2_talk_2 11 rfl rfl)
theorem dX2_talk_62 : decode cX2_talk 62 = .ok (.iconst 2, 1) := dk_5 (dk_at dksX2_talk_2 14 rfl rfl)
theorem dX2_talk_63 : decode cX2_talk 63 = .ok (.aload_n 0, 1) := dk_42 (dk_at dksX2_talk_2 15 rfl rfl)
theorem dX2_talk_64 : decode cX2_talk 64 = .ok (.getfield 7, 3) := dk_180 0 7 (dk_at dksX2_talk_2 16 rfl rfl)
theorem dX2_talk_67 : decode cX2_talk 67 = .ok (.iconst 5, 1) := dk_8 (dk_at dksX2_talk_2 19 rfl rfl)
theorem dX2_talk_68 : decode cX2_talk 68 = .ok (.iaload, 1) := dk_46 (dk_at dksX2_talk_2 20 rfl rfl)
theorem dX2_talk_69 : decode cX2_talk 69 = .ok (.imul, 1) := dk_104 (dk_at dksX2_talk_2 21 rfl rfl)
theorem dX2_talk_70 : decode cX2_talk 70 = .ok (.iadd, 1) := dk_96 (dk_at dksX2_talk_2 22 rfl rfl)
theorem dX2_talk_71 : decode cX2_talk 71 = .ok (.iload_n 3, 1) := dk_29 (dk_at dksX2_talk_2 23 rfl rfl)
theorem dX2_talk_72 : decode cX2_talk 72 = .ok (.iastore, 1) := dk_79 (dk_at dksX2_talk_3 0 rfl rfl)
theorem dX2_talk_73 : decode cX2_talk 73 = .ok (.aload_n 0, 1) := dk_42 (dk_at dksX2_talk_3 1 rfl rfl)
theorem dX2_talk_74 : decode cX2_talk 74 = .ok (.getfield 7, 3) := dk_180 0 7 (dk_at dksX2_talk_3 2 rfl rfl)
theorem dX2_talk_77 : decode cX2_talk 77 = .ok (.sipush 200, 3) := dk_17 0 200 (dk_at dksX2_talk_3 5 rfl rfl)
theorem dX2_talk_80 : decode cX2_talk 80 = .ok (.iconst 2, 1) := dk_5 (dk_at dksX2_talk_3 8 rfl rfl)
theorem dX2_talk_81 : decode cX2_talk 81 = .ok (.aload_n 0, 1) := dk_42 (dk_at dksX2_talk_3 9 rfl rfl)
theorem dX2_talk_82 : decode cX2_talk 82 = .ok (.getfield 7, 3) := dk_180 0 7 (dk_at dksX2_talk_3 10 rfl rfl)
theorem dX2_talk_85 : decode cX2_talk 85 = .ok (.iconst 5, 1) := dk_8 (dk_at dksX2_talk_3 13 rfl rfl)
theorem dX2_talk_86 : decode cX2_talk 86 = .ok (.iaload, 1) := dk_46 (dk_at dksX2_talk_3 14 rfl rfl)
theorem dX2_talk_87 : decode cX2_talk 87 = .ok (.imul, 1) := dk_104 (dk_at dksX2_talk_3 15 rfl rfl)
theorem dX2_talk_88 : decode cX2_talk 88 = .ok (.iadd, 1) := dk_96 (dk_at dksX2_talk_3 16 rfl rfl)
theorem dX2_talk_89 : decode cX2_talk 89 = .ok (.iconst 1, 1) := dk_4 (dk_at dksX2_talk_3 17 rfl rfl)
theorem dX2_talk_90 : decode cX2_talk 90 = .ok (.iadd, 1) := dk_96 (dk_at dksX2_talk_3 18 rfl rfl)
theorem dX2_talk_91 : decode cX2_talk 91 = .ok (.iload 4, 2) := dk_21 4 (dk_at dksX2_talk_3 19 rfl rfl)
theorem dX2_talk_93 : decode cX2_talk 93 = .ok (.iastore, 1) := dk_79 (dk_at dksX2_talk_3 21 rfl rfl)
theorem dX2_talk_94 : decode cX2_talk 94 = .ok (.aload_n 0, 1) := dk_42 (dk_at dksX2_talk_3 22 rfl rfl)
theorem dX2_talk_95 : decode cX2_talk 95 = .ok (.getfield 7, 3) := dk_180 0 7 (dk_at dksX2_talk_4 0 rfl rfl)
theorem dX2_talk_98 : decode cX2_talk 98 = .ok (.iconst 5, 1) := dk_8 (dk_at dksX2_talk_4 3 rfl rfl)
theorem dX2_talk_99 : decode cX2_talk 99 = .ok (.dup2, 1) := dk_92 (dk_at dksX2_talk_4 4 rfl rfl)
theorem dX2_talk_100 : decode cX2_talk 100 = .ok (.iaload, 1) := dk_46 (dk_at dksX2_talk_4 5 rfl rfl)
theorem dX2_talk_101 : decode cX2_talk 101 = .ok (.iconst 1, 1) := dk_4 (dk_at dksX2_talk_4 6 rfl rfl)
theorem dX2_talk_102 : decode cX2_talk 102 = .ok (.iadd, 1) := dk_96 (dk_at dksX2_talk_4 7 rfl rfl)
theorem dX2_talk_103 : decode cX2_talk 103 = .ok (.iastore, 1) := dk_79 (dk_at dksX2_talk_4 8 rfl rfl)
theorem dX2_talk_104 : decode cX2_talk 104 = .ok (.aload_n 0, 1) := dk_42 (dk_at dksX2_talk_4 9 rfl rfl)
theorem dX2_talk_105 : decode cX2_talk 105 = .ok (.getfield 7, 3) := dk_180 0 7 (dk_at dksX2_talk_4 10 rfl rfl)
theorem dX2_talk_108 : decode cX2_talk 108 = .ok (.iconst 5, 1) := dk_8 (dk_at dksX2_talk_4 13 rfl rfl)
theorem dX2_talk_109 : decode cX2_talk 109 = .ok (.iaload, 1) := dk_46 (dk_at dksX2_talk_4 14 rfl rfl)
theorem dX2_talk_110 : decode cX2_talk 110 = .ok (.iconst 1, 1) := dk_4 (dk_at dksX2_talk_4 15 rfl rfl)
theorem dX2_talk_111 : decode cX2_talk 111 = .ok (.isub, 1) := dk_100 (dk_at dksX2_talk_4 16 rfl rfl)
theorem dX2_talk_112 : decode cX2_talk 112 = .ok (.ireturn, 1) := dk_172 (dk_at dksX2_talk_4 17 rfl rfl)
abbrev cX2_judge : ByteArray := prog_17_method_87_code
def yX2_judge : MethodName := ⟨RX2, "judge", "()I"⟩
def dkwX2_judge_3 : List UInt8 := [132, 1, 1, 167, 255, 189, 2, 172]
abbrev dktX2_judge_3 : List UInt8 := dkwX2_judge_3 ++ []
def dkwX2_judge_2 : List UInt8 := [17, 0, 200, 5, 27, 104, 96, 4, 96, 46, 42, 180, 0, 16, 27, 47, 182, 1, 51, 154, 0, 5, 27, 172]
abbrev dktX2_judge_2 : List UInt8 := dkwX2_judge_2 ++ dktX2_judge_3
def dkwX2_judge_1 : List UInt8 := [5, 27, 104, 96, 46, 42, 180, 0, 16, 27, 47, 182, 1, 51, 153, 0, 30, 42, 42, 180, 0, 7]
abbrev dktX2_judge_1 : List UInt8 := dkwX2_judge_1 ++ dktX2_judge_2
def dkwX2_judge_0 : List UInt8 := [42, 182, 1, 60, 3, 60, 27, 42, 180, 0, 7, 8, 46, 162, 0, 63, 42, 42, 180, 0, 7, 17, 0, 200]
abbrev dktX2_judge_0 : List UInt8 := dkwX2_judge_0 ++ dktX2_judge_1
theorem dksX2_judge_0 : cX2_judge.data.toList.drop 0 = dktX2_judge_0 := by decide +kernel
theorem dksX2_judge_1 : cX2_judge.data.toList.drop 24 = dktX2_judge_1 := dk_seg dksX2_judge_0 24 rfl rfl
theorem dksX2_judge_2 : cX2_judge.data.toList.drop 46 = dktX2_judge_2 := dk_seg dksX2_judge_1 22 rfl rfl
theorem dksX2_judge_3 : cX2_judge.data.toList.drop 70 = dktX2_judge_3 := dk_seg dksX2_judge_2 24 rfl rfl
theorem dX2_judge_0 : decode cX2_judge 0 = .ok (.aload_n 0, 1) := dk_42 (dk_at dksX2_judge_0 0 rfl rfl)
theorem dX2_judge_1 : decode cX2_judge 1 = .ok (.invokevirtual 316, 3) := dk_182 1 60 (dk_at dksX2_judge_0 1 rfl rfl)
theorem dX2_judge_4 : decode cX2_judge 4 = .ok (.iconst 0, 1) := dk_3 (dk_at dksX2_judge_0 4 rfl rfl)
theorem dX2_judge_5 : decode cX2_judge 5 = .ok (.istore_n 1, 1) := dk_60 (dk_at dksX2_judge_0 5 rfl rfl)
theorem dX2_judge_6 : decode cX2_judge 6 = .ok (.iload_n 1, 1) := dk_27 (dk_at dksX2_judge_0 6 rfl rfl)
theorem dX2_judge_7 : decode cX2_judge 7 = .ok (.aload_n 0, 1) := dk_42 (dk_at dksX2_judge_0 7 rfl rfl)
theorem dX2_judge_8 : decode cX2_judge 8 = .ok (.getfield 7, 3) := dk_180 0 7 (dk_at dksX2_judge_0 8 rfl rfl)
theorem dX2_judge_11 : decode cX2_judge 11 = .ok (.iconst 5, 1) := dk_8 (dk_at dksX2_judge_0 11 rfl rfl)
theorem dX2_judge_12 : decode cX2_judge 12 = .ok (.iaload, 1) := dk_46 (dk_at dksX2_judge_0 12 rfl rfl)
theorem dX2_judge_13 : decode cX2_judge 13 = .ok (.if_icmp .ge 63, 3) := dk_162 0 63 (dk_at dksX2_judge_0 13 rfl rfl)
theorem dX2_judge_16 : decode cX2_judge 16 = .ok (.aload_n 0, 1) := dk_42 (dk_at dksX2_judge_0 16 rfl rfl)
theorem dX2_judge_17 : decode cX2_judge 17 = .ok (.aload_n 0, 1) := dk_42 (dk_at dksX2_judge_0 17 rfl rfl)
theorem dX2_judge_18 : decode cX2_judge 18 = .ok (.getfield 7, 3) := dk_180 0 7 (dk_at dksX2_judge_0 18 rfl rfl)
theorem dX2_judge_21 : decode cX2_judge 21 = .ok (.sipush 200, 3) := dk_17 0 200 (dk_at dksX2_judge_0 21 rfl rfl)
theorem dX2_judge_24 : decode cX2_judge 24 = .ok (.iconst 2, 1) := dk_5 (dk_at dksX2_judge_1 0 rfl rfl)
theorem dX2_judge_25 : decode cX2_judge 25 = .ok (.iload_n 1, 1) := dk_27 (dk_at dksX2_judge_1 1 rfl rfl)
theorem dX2_judge_26 : decode cX2_judge 26 = .ok (.imul, 1) := dk_104 (dk_at dksX2_judge_1 2 rfl rfl)
theorem dX2_judge_27 : decode cX2_judge 27 = .ok (.iadd, 1) := dk_96 (dk_at dksX2_judge_1 3 rfl rfl)
theorem dX2_judge_28 : decode cX2_judge 28 = .ok (.iaload, 1) := dk_46 (dk_at dksX2_judge_1 4 rfl rfl)
theorem dX2_judge_29 : decode cX2_judge 29 = .ok (.aload_n 0, 1) := dk_42 (dk_at dksX2_judge_1 5 rfl rfl)
theorem dX2_judge_30 : decode cX2_judge 30 = .ok (.getfield 16, 3) := dk_180 0 16 (dk_at dksX2_judge_1 6 rfl rfl)
theorem dX2_judge_33 : decode cX2_judge 33 = .ok (.iload_n 1, 1) := dk_27 (dk_at dksX2_judge_1 9 rfl rfl)
theorem dX2_judge_34 : decode cX2_judge 34 = .ok (.laload, 1) := dk_47 (dk_at dksX2_judge_1 10 rfl rfl)
theorem dX2_judge_35 : decode cX2_judge 35 = .ok (.invokevirtual 307, 3) := dk_182 1 51 (dk_at dksX2_judge_1 11 rfl rfl)
theorem dX2_judge_38 : decode cX2_judge 38 = .ok (.ifCond .eq 30, 3) := dk_153 0 30 (dk_at dksX2_judge_1 14 rfl rfl)
theorem dX2_judge_41 : decode cX2_judge 41 = .ok (.aload_n 0, 1) := dk_42 (dk_at dksX2_judge_1 17 rfl rfl)
theorem dX2_judge_42 : decode cX2_judge 42 = .ok (.aload_n 0, 1) := dk_42 (dk_at dksX2_judge_1 18 rfl rfl)
theorem dX2_judge_43 : decode cX2_judge 43 = .ok (.getfield 7, 3) := dk_180 0 7 (dk_at dksX2_judge_1 19 rfl rfl)
theorem dX2_judge_46 : decode cX2_judge 46 = .ok (.sipush 200, 3) := dk_17 0 200 (dk_at dksX2_judge_2 0 rfl rfl)
theorem dX2_judge_49 : decode cX2_judge 49 = .ok (.iconst 2, 1) := dk_5 (dk_at dksX2_judge_2 3 rfl rfl)
theorem dX2_judge_50 : decode cX2_judge 50 = .ok (.iload_n 1, 1) := dk_27 (dk_at dksX2_judge_2 4 rfl rfl)
theorem dX2_judge_51 : decode cX2_judge 51 = .ok (.imul, 1) := dk_104 (dk_at dksX2_judge_2 5 rfl rfl)
theorem dX2_judge_52 : decode cX2_judge 52 = .ok (.iadd, 1) := dk_96 (dk_at dksX2_judge_2 6 rfl rfl)
theorem dX2_judge_53 : decode cX2_judge 53 = .ok (.iconst 1, 1) := dk_4 (dk_at dksX2_judge_2 7 rfl rfl)
theorem dX2_judge_54 : decode cX2_judge 54 = .ok (.iadd, 1) := dk_96 (dk_at dksX2_judge_2 8 rfl rfl)
theorem dX2_judge_55 : decode cX2_judge 55 = .ok (.iaload, 1) := dk_46 (dk_at dksX2_judge_2 9 rfl rfl)
theorem dX2_judge_56 : decode cX2_judge 56 = .ok (.aload_n 0, 1) := dk_42 (dk_at dksX2_judge_2 10 rfl rfl)
theorem dX2_judge_57 : decode cX2_judge 57 = .ok (.getfield 16, 3) := dk_180 0 16 (dk_at dksX2_judge_2 11 rfl rfl)
theorem dX2_judge_60 : decode cX2_judge 60 = .ok (.iload_n 1, 1) := dk_27 (dk_at dksX2_judge_2 14 rfl rfl)
theorem dX2_judge_61 : decode cX2_judge 61 = .ok (.laload, 1) := dk_47 (dk_at dksX2_judge_2 15 rfl rfl)
theorem dX2_judge_62 : decode cX2_judge 62 = .ok (.invokevirtual 307, 3) := dk_182 1 51 (dk_at dksX2_judge_2 16 rfl rfl)
theorem dX2_judge_65 : decode cX2_judge 65 = .ok (.ifCond .ne 5, 3) := dk_154 0 5 (dk_at dksX2_judge_2 19 rfl rfl)
theorem dX2_judge_68 : decode cX2_judge 68 = .ok (.iload_n 1, 1) := dk_27 (dk_at dksX2_judge_2 22 rfl rfl)
theorem dX2_judge_69 : decode cX2_judge 69 = .ok (.ireturn, 1) := dk_172 (dk_at dksX2_judge_2 23 rfl rfl)
theorem dX2_judge_70 : decode cX2_judge 70 = .ok (.iinc 1 1, 3) := dk_132 1 1 (dk_at dksX2_judge_3 0 rfl rfl)
theorem dX2_judge_73 : decode cX2_judge 73 = .ok (.goto (-67), 3) := dk_167 255 189 (dk_at dksX2_judge_3 3 rfl rfl)
theorem dX2_judge_76 : decode cX2_judge 76 = .ok (.iconst (-1), 1) := dk_2 (dk_at dksX2_judge_3 6 rfl rfl)
theorem dX2_judge_77 : decode cX2_judge 77 = .ok (.ireturn, 1) := dk_172 (dk_at dksX2_judge_3 7 rfl rfl)
abbrev cX2_overheard : ByteArray := prog_17_method_88_code
def yX2_overheard : MethodName := ⟨RX2, "overheard", "(I)I"⟩
def dkwX2_overheard_3 : List UInt8 := [180, 0, 7, 16, 40, 29, 96, 46, 128, 126, 4, 28, 120, 4, 29, 120, 128, 2, 130, 126, 172]
abbrev dktX2_overheard_3 : List UInt8 := dkwX2_overheard_3 ++ []
def dkwX2_overheard_2 : List UInt8 := [96, 46, 62, 42, 42, 180, 0, 16, 27, 47, 182, 1, 129, 42, 180, 0, 7, 16, 40, 28, 96, 46, 42]
abbrev dktX2_overheard_2 : List UInt8 := dkwX2_overheard_2 ++ dktX2_overheard_3
def dkwX2_overheard_1 : List UInt8 := [180, 0, 7, 17, 0, 200, 5, 27, 104, 96, 46, 61, 42, 180, 0, 7, 17, 0, 200, 5, 27, 104, 96, 4]
abbrev dktX2_overheard_1 : List UInt8 := dkwX2_overheard_1 ++ dktX2_overheard_2
def dkwX2_overheard_0 : List UInt8 := [27, 3, 42, 180, 0, 7, 8, 46, 4, 100, 184, 0, 104, 154, 0, 5, 2, 172, 42, 182, 1, 60, 42]
abbrev dktX2_overheard_0 : List UInt8 := dkwX2_overheard_0 ++ dktX2_overheard_1
theorem dksX2_overheard_0 : cX2_overheard.data.toList.drop 0 = dktX2_overheard_0 := by decide +kernel
theorem dksX2_overheard_1 : cX2_overheard.data.toList.drop 23 = dktX2_overheard_1 := dk_seg dksX2_overheard_0 23 rfl rfl
theorem dksX2_overheard_2 : cX2_overheard.data.toList.drop 47 = dktX2_overheard_2 := dk_seg dksX2_overheard_1 24 rfl rfl
theorem dksX2_overheard_3 : cX2_overheard.data.toList.drop 70 = dktX2_overheard_3 := dk_seg dksX2_overheard_2 23 rfl rfl
theorem dX2_overheard_0 : decode cX2_overheard 0 = .ok (.iload_n 1, 1) := dk_27 (dk_at dksX2_overheard_0 0 rfl rfl)
theorem dX2_overheard_1 : decode cX2_overheard 1 = .ok (.iconst 0, 1) := dk_3 (dk_at dksX2_overheard_0 1 rfl rfl)
theorem dX2_overheard_2 : decode cX2_overheard 2 = .ok (.aload_n 0, 1) := dk_42 (dk_at dksX2_overheard_0 2 rfl rfl)
theorem dX2_overheard_3 : decode cX2_overheard 3 = .ok (.getfield 7, 3) := dk_180 0 7 (dk_at dksX2_overheard_0 3 rfl rfl)
theorem dX2_overheard_6 : decode cX2_overheard 6 = .ok (.iconst 5, 1) := dk_8 (dk_at dksX2_overheard_0 6 rfl rfl)
theorem dX2_overheard_7 : decode cX2_overheard 7 = .ok (.iaload, 1) := dk_46 (dk_at dksX2_overheard_0 7 rfl rfl)
theorem dX2_overheard_8 : decode cX2_overheard 8 = .ok (.iconst 1, 1) := dk_4 (dk_at dksX2_overheard_0 8 rfl rfl)
theorem dX2_overheard_9 : decode cX2_overheard 9 = .ok (.isub, 1) := dk_100 (dk_at dksX2_overheard_0 9 rfl rfl)
theorem dX2_overheard_10 : decode cX2_overheard 10 = .ok (.invokestatic 104, 3) := dk_184 0 104 (dk_at dksX2_overheard_0 10 rfl rfl)
theorem dX2_overheard_13 : decode cX2_overheard 13 = .ok (.ifCond .ne 5, 3) := dk_154 0 5 (dk_at dksX2_overheard_0 13 rfl rfl)
theorem dX2_overheard_16 : decode cX2_overheard 16 = .ok (.iconst (-1), 1) := dk_2 (dk_at dksX2_overheard_0 16 rfl rfl)
theorem dX2_overheard_17 : decode cX2_overheard 17 = .ok (.ireturn, 1) := dk_172 (dk_at dksX2_overheard_0 17 rfl rfl)
theorem dX2_overheard_18 : decode cX2_overheard 18 = .ok (.aload_n 0, 1) := dk_42 (dk_at dksX2_overheard_0 18 rfl rfl)
theorem dX2_overheard_19 : decode cX2_overheard 19 = .ok (.invokevirtual 316, 3) := dk_182 1 60 (dk_at dksX2_overheard_0 19 rfl rfl)
theorem dX2_overheard_22 : decode cX2_overheard 22 = .ok (.aload_n 0, 1) := dk_42 (dk_at dksX2_overheard_0 22 rfl rfl)
theorem dX2_overheard_23 : decode cX2_overheard 23 = .ok (.getfield 7, 3) := dk_180 0 7 (dk_at dksX2_overheard_1 0 rfl rfl)
theorem dX2_overheard_26 : decode cX2_overheard 26 = .ok (.sipush 200, 3) := dk_17 0 200 (dk_at dksX2_overheard_1 3 rfl rfl)
theorem dX2_overheard_29 : decode cX2_overheard 29 = .ok (.iconst 2, 1) := dk_5 (dk_at dksX2_overheard_1 6 rfl rfl)
theorem dX2_overheard_30 : decode cX2_overheard 30 = .ok (.iload_n 1, 1) := dk_27 (dk_at dksX2_overheard_1 7 rfl rfl)
theorem dX2_overheard_31 : decode cX2_overheard 31 = .ok (.imul, 1) := dk_104 (dk_at dksX2_overheard_1 8 rfl rfl)
theorem dX2_overheard_32 : decode cX2_overheard 32 = .ok (.iadd, 1) := dk_96 (dk_at dksX2_overheard_1 9 rfl rfl)
theorem dX2_overheard_33 : decode cX2_overheard 33 = .ok (.iaload, 1) := dk_46 (dk_at dksX2_overheard_1 10 rfl rfl)
theorem dX2_overheard_34 : decode cX2_overheard 34 = .ok (.istore_n 2, 1) := dk_61 (dk_at dksX2_overheard_1 11 rfl rfl)
theorem dX2_overheard_35 : decode cX2_overheard 35 = .ok (.aload_n 0, 1) := dk_42 (dk_at dksX2_overheard_1 12 rfl rfl)
theorem dX2_overheard_36 : decode cX2_overheard 36 = .ok (.getfield 7, 3) := dk_180 0 7 (dk_at dksX2_overheard_1 13 rfl rfl)
theorem dX2_overheard_39 : decode cX2_overheard 39 = .ok (.sipush 200, 3) := dk_17 0 200 (dk_at dksX2_overheard_1 16 rfl rfl)
theorem dX2_overheard_42 : decode cX2_overheard 42 = .ok (.iconst 2, 1) := dk_5 (dk_at dksX2_overheard_1 19 rfl rfl)
theorem dX2_overheard_43 : decode cX2_overheard 43 = .ok (.iload_n 1, 1) := dk_27 (dk_at dksX2_overheard_1 20 rfl rfl)
theorem dX2_overheard_44 : decode cX2_overheard 44 = .ok (.imul, 1) := dk_104 (dk_at dksX2_overheard_1 21 rfl rfl)
theorem dX2_overheard_45 : decode cX2_overheard 45 = .ok (.iadd, 1) := dk_96 (dk_at dksX2_overheard_1 22 rfl rfl)
theorem dX2_overheard_46 : decode cX2_overheard 46 = .ok (.iconst 1, 1) := dk_4 (dk_at dksX2_overheard_1 23 rfl rfl)
theorem dX2_overheard_47 : decode cX2_overheard 47 = .ok (.iadd, 1) := dk_96 (dk_at dksX2_overheard_2 0 rfl rfl)
theorem dX2_overheard_48 : decode cX2_overheard 48 = .ok (.iaload, 1) := dk_46 (dk_at dksX2_overheard_2 1 rfl rfl)
theorem dX2_overheard_49 : decode cX2_overheard 49 = .ok (.istore_n 3, 1) := dk_62 (dk_at dksX2_overheard_2 2 rfl rfl)
theorem dX2_overheard_50 : decode cX2_overheard 50 = .ok (.aload_n 0, 1) := dk_42 (dk_at dksX2_overheard_2 3 rfl rfl)
theorem dX2_overheard_51 : decode cX2_overheard 51 = .ok (.aload_n 0, 1) := dk_42 (dk_at dksX2_overheard_2 4 rfl rfl)
theorem dX2_overheard_52 : decode cX2_overheard 52 = .ok (.getfield 16, 3) := dk_180 0 16 (dk_at dksX2_overheard_2 5 rfl rfl)
theorem dX2_overheard_55 : decode cX2_overheard 55 = .ok (.iload_n 1, 1) := dk_27 (dk_at dksX2_overheard_2 8 rfl rfl)
theorem dX2_overheard_56 : decode cX2_overheard 56 = .ok (.laload, 1) := dk_47 (dk_at dksX2_overheard_2 9 rfl rfl)
theorem dX2_overheard_57 : decode cX2_overheard 57 = .ok (.invokevirtual 385, 3) := dk_182 1 129 (dk_at dksX2_overheard_2 10 rfl rfl)
theorem dX2_overheard_60 : decode cX2_overheard 60 = .ok (.aload_n 0, 1) := dk_42 (dk_at dksX2_overheard_2 13 rfl rfl)
theorem dX2_overheard_61 : decode cX2_overheard 61 = .ok (.getfield 7, 3) := dk_180 0 7 (dk_at dksX2_overheard_2 14 rfl rfl)
theorem dX2_overheard_64 : decode cX2_overheard 64 = .ok (.bipush 40, 2) := dk_16 40 (dk_at dksX2_overheard_2 17 rfl rfl)
theorem dX2_overheard_66 : decode cX2_overheard 66 = .ok (.iload_n 2, 1) := dk_28 (dk_at dksX2_overheard_2 19 rfl rfl)
theorem dX2_overheard_67 : decode cX2_overheard 67 = .ok (.iadd, 1) := dk_96 (dk_at dksX2_overheard_2 20 rfl rfl)
theorem dX2_overheard_68 : decode cX2_overheard 68 = .ok (.iaload, 1) := dk_46 (dk_at dksX2_overheard_2 21 rfl rfl)
theorem dX2_overheard_69 : decode cX2_overheard 69 = .ok (.aload_n 0, 1) := dk_42 (dk_at dksX2_overheard_2 22 rfl rfl)
theorem dX2_overheard_70 : decode cX2_overheard 70 = .ok (.getfield 7, 3) := dk_180 0 7 (dk_at dksX2_overheard_3 0 rfl rfl)
theorem dX2_overheard_73 : decode cX2_overheard 73 = .ok (.bipush 40, 2) := dk_16 40 (dk_at dksX2_overheard_3 3 rfl rfl)
theorem dX2_overheard_75 : decode cX2_overheard 75 = .ok (.iload_n 3, 1) := dk_29 (dk_at dksX2_overheard_3 5 rfl rfl)
theorem dX2_overheard_76 : decode cX2_overheard 76 = .ok (.iadd, 1) := dk_96 (dk_at dksX2_overheard_3 6 rfl rfl)
theorem dX2_overheard_77 : decode cX2_overheard 77 = .ok (.iaload, 1) := dk_46 (dk_at dksX2_overheard_3 7 rfl rfl)
theorem dX2_overheard_78 : decode cX2_overheard 78 = .ok (.ior, 1) := dk_128 (dk_at dksX2_overheard_3 8 rfl rfl)
theorem dX2_overheard_79 : decode cX2_overheard 79 = .ok (.iand, 1) := dk_126 (dk_at dksX2_overheard_3 9 rfl rfl)
theorem dX2_overheard_80 : decode cX2_overheard 80 = .ok (.iconst 1, 1) := dk_4 (dk_at dksX2_overheard_3 10 rfl rfl)
theorem dX2_overheard_81 : decode cX2_overheard 81 = .ok (.iload_n 2, 1) := dk_28 (dk_at dksX2_overheard_3 11 rfl rfl)
theorem dX2_overheard_82 : decode cX2_overheard 82 = .ok (.ishl, 1) := dk_120 (dk_at dksX2_overheard_3 12 rfl rfl)
theorem dX2_overheard_83 : decode cX2_overheard 83 = .ok (.iconst 1, 1) := dk_4 (dk_at dksX2_overheard_3 13 rfl rfl)
theorem dX2_overheard_84 : decode cX2_overheard 84 = .ok (.iload_n 3, 1) := dk_29 (dk_at dksX2_overheard_3 14 rfl rfl)
theorem dX2_overheard_85 : decode cX2_overheard 85 = .ok (.ishl, 1) := dk_120 (dk_at dksX2_overheard_3 15 rfl rfl)
theorem dX2_overheard_86 : decode cX2_overheard 86 = .ok (.ior, 1) := dk_128 (dk_at dksX2_overheard_3 16 rfl rfl)
theorem dX2_overheard_87 : decode cX2_overheard 87 = .ok (.iconst (-1), 1) := dk_2 (dk_at dksX2_overheard_3 17 rfl rfl)
theorem dX2_overheard_88 : decode cX2_overheard 88 = .ok (.ixor, 1) := dk_130 (dk_at dksX2_overheard_3 18 rfl rfl)
theorem dX2_overheard_89 : decode cX2_overheard 89 = .ok (.iand, 1) := dk_126 (dk_at dksX2_overheard_3 19 rfl rfl)
theorem dX2_overheard_90 : decode cX2_overheard 90 = .ok (.ireturn, 1) := dk_172 (dk_at dksX2_overheard_3 20 rfl rfl)
abbrev cX2_turn : ByteArray := prog_17_method_93_code
def yX2_turn : MethodName := ⟨RX2, "turn", "(IJI)J"⟩
def dkwX2_turn_13 : List UInt8 := [167, 255, 148, 20, 1, 94, 173]
abbrev dktX2_turn_13 : List UInt8 := dkwX2_turn_13 ++ []
def dkwX2_turn_12 : List UInt8 := [20, 1, 94, 131, 127, 55, 6, 21, 9, 21, 4, 160, 0, 9, 32, 21, 10, 133, 97, 173, 132, 9, 1]
abbrev dktX2_turn_12 : List UInt8 := dkwX2_turn_12 ++ dktX2_turn_13
def dkwX2_turn_11 : List UInt8 := [121, 20, 1, 94, 131, 127, 182, 1, 155, 154, 0, 9, 132, 10, 1, 167, 255, 213, 22, 6, 10, 21, 10, 121]
abbrev dktX2_turn_11 : List UInt8 := dkwX2_turn_11 ++ dktX2_turn_12
def dkwX2_turn_10 : List UInt8 := [21, 9, 47, 22, 6, 127, 10, 21, 10, 121, 127, 9, 148, 153, 0, 23, 42, 21, 8, 22, 6, 10, 21, 10]
abbrev dktX2_turn_10 : List UInt8 := dkwX2_turn_10 ++ dktX2_turn_11
def dkwX2_turn_9 : List UInt8 := [154, 0, 6, 167, 0, 89, 21, 8, 4, 21, 9, 120, 2, 130, 126, 54, 8, 3, 54, 10, 42, 180, 0, 64]
abbrev dktX2_turn_9 : List UInt8 := dkwX2_turn_9 ++ dktX2_turn_10
def dkwX2_turn_8 : List UInt8 := [184, 1, 151, 55, 6, 27, 54, 8, 3, 54, 9, 21, 9, 21, 4, 163, 0, 107, 27, 21, 9, 184, 1, 54]
abbrev dktX2_turn_8 : List UInt8 := dkwX2_turn_8 ++ dktX2_turn_9
def dkwX2_turn_7 : List UInt8 := [184, 1, 151, 182, 1, 155, 154, 0, 7, 20, 1, 94, 173, 21, 4, 156, 0, 7, 21, 5, 133, 173, 21, 5]
abbrev dktX2_turn_7 : List UInt8 := dkwX2_turn_7 ++ dktX2_turn_8
def dkwX2_turn_6 : List UInt8 := [27, 21, 5, 184, 1, 151, 182, 1, 155, 154, 0, 9, 132, 5, 1, 167, 255, 233, 42, 27, 21, 5]
abbrev dktX2_turn_6 : List UInt8 := dkwX2_turn_6 ++ dktX2_turn_7
def dkwX2_turn_5 : List UInt8 := [80, 132, 6, 1, 167, 255, 214, 132, 5, 1, 167, 255, 186, 4, 54, 5, 21, 5, 16, 64, 162, 0, 22, 42]
abbrev dktX2_turn_5 : List UInt8 := dkwX2_turn_5 ++ dktX2_turn_6
def dkwX2_turn_4 : List UInt8 := [47, 42, 21, 5, 32, 21, 6, 133, 97, 182, 1, 51, 153, 0, 10, 10, 21, 6, 121, 167, 0, 4, 9, 129]
abbrev dktX2_turn_4 : List UInt8 := dkwX2_turn_4 ++ dktX2_turn_5
def dkwX2_turn_3 : List UInt8 := [180, 0, 64, 21, 5, 9, 80, 3, 54, 6, 21, 6, 16, 64, 162, 0, 41, 42, 180, 0, 64, 21, 5, 92]
abbrev dktX2_turn_3 : List UInt8 := dkwX2_turn_3 ++ dktX2_turn_4
def dkwX2_turn_2 : List UInt8 := [20, 1, 94, 173, 42, 182, 1, 60, 3, 54, 5, 21, 5, 42, 180, 0, 7, 3, 46, 162, 0, 65, 42]
abbrev dktX2_turn_2 : List UInt8 := dkwX2_turn_2 ++ dktX2_turn_3
def dkwX2_turn_1 : List UInt8 := [2, 159, 0, 25, 42, 21, 4, 182, 0, 114, 153, 0, 12, 27, 21, 4, 184, 1, 54, 154, 0, 7]
abbrev dktX2_turn_1 : List UInt8 := dkwX2_turn_1 ++ dktX2_turn_2
def dkwX2_turn_0 : List UInt8 := [42, 27, 182, 1, 96, 153, 0, 41, 32, 9, 148, 155, 0, 35, 32, 20, 1, 139, 148, 157, 0, 27, 21, 4]
abbrev dktX2_turn_0 : List UInt8 := dkwX2_turn_0 ++ dktX2_turn_1
theorem dksX2_turn_0 : cX2_turn.data.toList.drop 0 = dktX2_turn_0 := by decide +kernel
theorem dksX2_turn_1 : cX2_turn.data.toList.drop 24 = dktX2_turn_1 := dk_seg dksX2_turn_0 24 rfl rfl
theorem dksX2_turn_2 : cX2_turn.data.toList.drop 46 = dktX2_turn_2 := dk_seg dksX2_turn_1 22 rfl rfl
theorem dksX2_turn_3 : cX2_turn.data.toList.drop 69 = dktX2_turn_3 := dk_seg dksX2_turn_2 23 rfl rfl
theorem dksX2_turn_4 : cX2_turn.data.toList.drop 93 = dktX2_turn_4 := dk_seg dksX2_turn_3 24 rfl rfl
theorem dksX2_turn_5 : cX2_turn.data.toList.drop 117 = dktX2_turn_5 := dk_seg dksX2_turn_4 24 rfl rfl
theorem dksX2_turn_6 : cX2_turn.data.toList.drop 141 = dktX2_turn_6 := dk_seg dksX2_turn_5 24 rfl rfl
theorem dksX2_turn_7 : cX2_turn.data.toList.drop 163 = dktX2_turn_7 := dk_seg dksX2_turn_6 22 rfl rfl
theorem dksX2_turn_8 : cX2_turn.data.toList.drop 187 = dktX2_turn_8 := dk_seg dksX2_turn_7 24 rfl rfl
theorem dksX2_turn_9 : cX2_turn.data.toList.drop 211 = dktX2_turn_9 := dk_seg dksX2_turn_8 24 rfl rfl
theorem dksX2_turn_10 : cX2_turn.data.toList.drop 235 = dktX2_turn_10 := dk_seg dksX2_turn_9 24 rfl rfl
theorem dksX2_turn_11 : cX2_turn.data.toList.drop 259 = dktX2_turn_11 := dk_seg dksX2_turn_10 24 rfl rfl
theorem dksX2_turn_12 : cX2_turn.data.toList.drop 283 = dktX2_turn_12 := dk_seg dksX2_turn_11 24 rfl rfl
theorem dksX2_turn_13 : cX2_turn.data.toList.drop 306 = dktX2_turn_13 := dk_seg dksX2_turn_12 23 rfl rfl
theorem dX2_turn_0 : decode cX2_turn 0 = .ok (.aload_n 0, 1) := dk_42 (dk_at dksX2_turn_0 0 rfl rfl)
theorem dX2_turn_1 : decode cX2_turn 1 = .ok (.iload_n 1, 1) := dk_27 (dk_at dksX2_turn_0 1 rfl rfl)
theorem dX2_turn_2 : decode cX2_turn 2 = .ok (.invokevirtual 352, 3) := dk_182 1 96 (dk_at dksX2_turn_0 2 rfl rfl)
theorem dX2_turn_5 : decode cX2_turn 5 = .ok (.ifCond .eq 41, 3) := dk_153 0 41 (dk_at dksX2_turn_0 5 rfl rfl)
theorem dX2_turn_8 : decode cX2_turn 8 = .ok (.lload_n 2, 1) := dk_32 (dk_at dksX2_turn_0 8 rfl rfl)
theorem dX2_turn_9 : decode cX2_turn 9 = .ok (.lconst 0, 1) := dk_9 (dk_at dksX2_turn_0 9 rfl rfl)
theorem dX2_turn_10 : decode cX2_turn 10 = .ok (.lcmp, 1) := dk_148 (dk_at dksX2_turn_0 10 rfl rfl)
theorem dX2_turn_11 : decode cX2_turn 11 = .ok (.ifCond .lt 35, 3) := dk_155 0 35 (dk_at dksX2_turn_0 11 rfl rfl)
theorem dX2_turn_14 : decode cX2_turn 14 = .ok (.lload_n 2, 1) := dk_32 (dk_at dksX2_turn_0 14 rfl rfl)
theorem dX2_turn_15 : decode cX2_turn 15 = .ok (.ldc2_w 395, 3) := dk_20 1 139 (dk_at dksX2_turn_0 15 rfl rfl)
theorem dX2_turn_18 : decode cX2_turn 18 = .ok (.lcmp, 1) := dk_148 (dk_at dksX2_turn_0 18 rfl rfl)
theorem dX2_turn_19 : decode cX2_turn 19 = .ok (.ifCond .gt 27, 3) := dk_157 0 27 (dk_at dksX2_turn_0 19 rfl rfl)
theorem dX2_turn_22 : decode cX2_turn 22 = .ok (.iload 4, 2) := dk_21 4 (dk_at dksX2_turn_0 22 rfl rfl)
theorem dX2_turn_24 : decode cX2_turn 24 = .ok (.iconst (-1), 1) := dk_2 (dk_at dksX2_turn_1 0 rfl rfl)
theorem dX2_turn_25 : decode cX2_turn 25 = .ok (.if_icmp .eq 25, 3) := dk_159 0 25 (dk_at dksX2_turn_1 1 rfl rfl)
theorem dX2_turn_28 : decode cX2_turn 28 = .ok (.aload_n 0, 1) := dk_42 (dk_at dksX2_turn_1 4 rfl rfl)
theorem dX2_turn_29 : decode cX2_turn 29 = .ok (.iload 4, 2) := dk_21 4 (dk_at dksX2_turn_1 5 rfl rfl)
theorem dX2_turn_31 : decode cX2_turn 31 = .ok (.invokevirtual 114, 3) := dk_182 0 114 (dk_at dksX2_turn_1 7 rfl rfl)
theorem dX2_turn_34 : decode cX2_turn 34 = .ok (.ifCond .eq 12, 3) := dk_153 0 12 (dk_at dksX2_turn_1 10 rfl rfl)
theorem dX2_turn_37 : decode cX2_turn 37 = .ok (.iload_n 1, 1) := dk_27 (dk_at dksX2_turn_1 13 rfl rfl)
theorem dX2_turn_38 : decode cX2_turn 38 = .ok (.iload 4, 2) := dk_21 4 (dk_at dksX2_turn_1 14 rfl rfl)
theorem dX2_turn_40 : decode cX2_turn 40 = .ok (.invokestatic 310, 3) := dk_184 1 54 (dk_at dksX2_turn_1 16 rfl rfl)
theorem dX2_turn_43 : decode cX2_turn 43 = .ok (.ifCond .ne 7, 3) := dk_154 0 7 (dk_at dksX2_turn_1 19 rfl rfl)
theorem dX2_turn_46 : decode cX2_turn 46 = .ok (.ldc2_w 350, 3) := dk_20 1 94 (dk_at dksX2_turn_2 0 rfl rfl)
theorem dX2_turn_49 : decode cX2_turn 49 = .ok (.lreturn, 1) := dk_173 (dk_at dksX2_turn_2 3 rfl rfl)
theorem dX2_turn_50 : decode cX2_turn 50 = .ok (.aload_n 0, 1) := dk_42 (dk_at dksX2_turn_2 4 rfl rfl)
theorem dX2_turn_51 : decode cX2_turn 51 = .ok (.invokevirtual 316, 3) := dk_182 1 60 (dk_at dksX2_turn_2 5 rfl rfl)
theorem dX2_turn_54 : decode cX2_turn 54 = .ok (.iconst 0, 1) := dk_3 (dk_at dksX2_turn_2 8 rfl rfl)
theorem dX2_turn_55 : decode cX2_turn 55 = .ok (.istore 5, 2) := dk_54 5 (dk_at dksX2_turn_2 9 rfl rfl)
theorem dX2_turn_57 : decode cX2_turn 57 = .ok (.iload 5, 2) := dk_21 5 (dk_at dksX2_turn_2 11 rfl rfl)
theorem dX2_turn_59 : decode cX2_turn 59 = .ok (.aload_n 0, 1) := dk_42 (dk_at dksX2_turn_2 13 rfl rfl)
theorem dX2_turn_60 : decode cX2_turn 60 = .ok (.getfield 7, 3) := dk_180 0 7 (dk_at dksX2_turn_2 14 rfl rfl)
theorem dX2_turn_63 : decode cX2_turn 63 = .ok (.iconst 0, 1) := dk_3 (dk_at dksX2_turn_2 17 rfl rfl)
theorem dX2_turn_64 : decode cX2_turn 64 = .ok (.iaload, 1) := dk_46 (dk_at dksX2_turn_2 18 rfl rfl)
theorem dX2_turn_65 : decode cX2_turn 65 = .ok (.if_icmp .ge 65, 3) := dk_162 0 65 (dk_at dksX2_turn_2 19 rfl rfl)
theorem dX2_turn_68 : decode cX2_turn 68 = .ok (.aload_n 0, 1) := dk_42 (dk_at dksX2_turn_2 22 rfl rfl)
theorem dX2_turn_69 : decode cX2_turn 69 = .ok (.getfield 64, 3) := dk_180 0 64 (dk_at dksX2_turn_3 0 rfl rfl)
theorem dX2_turn_72 : decode cX2_turn 72 = .ok (.iload 5, 2) := dk_21 5 (dk_at dksX2_turn_3 3 rfl rfl)
theorem dX2_turn_74 : decode cX2_turn 74 = .ok (.lconst 0, 1) := dk_9 (dk_at dksX2_turn_3 5 rfl rfl)
theorem dX2_turn_75 : decode cX2_turn 75 = .ok (.lastore, 1) := dk_80 (dk_at dksX2_turn_3 6 rfl rfl)
theorem dX2_turn_76 : decode cX2_turn 76 = .ok (.iconst 0, 1) := dk_3 (dk_at dksX2_turn_3 7 rfl rfl)
theorem dX2_turn_77 : decode cX2_turn 77 = .ok (.istore 6, 2) := dk_54 6 (dk_at dksX2_turn_3 8 rfl rfl)
theorem dX2_turn_79 : decode cX2_turn 79 = .ok (.iload 6, 2) := dk_21 6 (dk_at dksX2_turn_3 10 rfl rfl)
theorem dX2_turn_81 : decode cX2_turn 81 = .ok (.bipush 64, 2) := dk_16 64 (dk_at dksX2_turn_3 12 rfl rfl)
theorem dX2_turn_83 : decode cX2_turn 83 = .ok (.if_icmp .ge 41, 3) := dk_162 0 41 (dk_at dksX2_turn_3 14 rfl rfl)
theorem dX2_turn_86 : decode cX2_turn 86 = .ok (.aload_n 0, 1) := dk_42 (dk_at dksX2_turn_3 17 rfl rfl)
theorem dX2_turn_87 : decode cX2_turn 87 = .ok (.getfield 64, 3) := dk_180 0 64 (dk_at dksX2_turn_3 18 rfl rfl)
theorem dX2_turn_90 : decode cX2_turn 90 = .ok (.iload 5, 2) := dk_21 5 (dk_at dksX2_turn_3 21 rfl rfl)
theorem dX2_turn_92 : decode cX2_turn 92 = .ok (.dup2, 1) := dk_92 (dk_at dksX2_turn_3 23 rfl rfl)
theorem dX2_turn_93 : decode cX2_turn 93 = .ok (.laload, 1) := dk_47 (dk_at dksX2_turn_4 0 rfl rfl)
theorem dX2_turn_94 : decode cX2_turn 94 = .ok (.aload_n 0, 1) := dk_42 (dk_at dksX2_turn_4 1 rfl rfl)
theorem dX2_turn_95 : decode cX2_turn 95 = .ok (.iload 5, 2) := dk_21 5 (dk_at dksX2_turn_4 2 rfl rfl)
theorem dX2_turn_97 : decode cX2_turn 97 = .ok (.lload_n 2, 1) := dk_32 (dk_at dksX2_turn_4 4 rfl rfl)
theorem dX2_turn_98 : decode cX2_turn 98 = .ok (.iload 6, 2) := dk_21 6 (dk_at dksX2_turn_4 5 rfl rfl)
theorem dX2_turn_100 : decode cX2_turn 100 = .ok (.i2l, 1) := dk_133 (dk_at dksX2_turn_4 7 rfl rfl)
theorem dX2_turn_101 : decode cX2_turn 101 = .ok (.ladd, 1) := dk_97 (dk_at dksX2_turn_4 8 rfl rfl)
theorem dX2_turn_102 : decode cX2_turn 102 = .ok (.invokevirtual 307, 3) := dk_182 1 51 (dk_at dksX2_turn_4 9 rfl rfl)
theorem dX2_turn_105 : decode cX2_turn 105 = .ok (.ifCond .eq 10, 3) := dk_153 0 10 (dk_at dksX2_turn_4 12 rfl rfl)
theorem dX2_turn_108 : decode cX2_turn 108 = .ok (.lconst 1, 1) := dk_10 (dk_at dksX2_turn_4 15 rfl rfl)
theorem dX2_turn_109 : decode cX2_turn 109 = .ok (.iload 6, 2) := dk_21 6 (dk_at dksX2_turn_4 16 rfl rfl)
theorem dX2_turn_111 : decode cX2_turn 111 = .ok (.lshl, 1) := dk_121 (dk_at dksX2_turn_4 18 rfl rfl)
theorem dX2_turn_112 : decode cX2_turn 112 = .ok (.goto 4, 3) := dk_167 0 4 (dk_at dksX2_turn_4 19 rfl rfl)
theorem dX2_turn_115 : decode cX2_turn 115 = .ok (.lconst 0, 1) := dk_9 (dk_at dksX2_turn_4 22 rfl rfl)
theorem dX2_turn_116 : decode cX2_turn 116 = .ok (.lor, 1) := dk_129 (dk_at dksX2_turn_4 23 rfl rfl)
theorem dX2_turn_117 : decode cX2_turn 117 = .ok (.lastore, 1) := dk_80 (dk_at dksX2_turn_5 0 rfl rfl)
theorem dX2_turn_118 : decode cX2_turn 118 = .ok (.iinc 6 1, 3) := dk_132 6 1 (dk_at dksX2_turn_5 1 rfl rfl)
theorem dX2_turn_121 : decode cX2_turn 121 = .ok (.goto (-42), 3) := dk_167 255 214 (dk_at dksX2_turn_5 4 rfl rfl)
theorem dX2_turn_124 : decode cX2_turn 124 = .ok (.iinc 5 1, 3) := dk_132 5 1 (dk_at dksX2_turn_5 7 rfl rfl)
theorem dX2_turn_127 : decode cX2_turn 127 = .ok (.goto (-70), 3) := dk_167 255 186 (dk_at dksX2_turn_5 10 rfl rfl)
theorem dX2_turn_130 : decode cX2_turn 130 = .ok (.iconst 1, 1) := dk_4 (dk_at dksX2_turn_5 13 rfl rfl)
theorem dX2_turn_131 : decode cX2_turn 131 = .ok (.istore 5, 2) := dk_54 5 (dk_at dksX2_turn_5 14 rfl rfl)
theorem dX2_turn_133 : decode cX2_turn 133 = .ok (.iload 5, 2) := dk_21 5 (dk_at dksX2_turn_5 16 rfl rfl)
theorem dX2_turn_135 : decode cX2_turn 135 = .ok (.bipush 64, 2) := dk_16 64 (dk_at dksX2_turn_5 18 rfl rfl)
theorem dX2_turn_137 : decode cX2_turn 137 = .ok (.if_icmp .ge 22, 3) := dk_162 0 22 (dk_at dksX2_turn_5 20 rfl rfl)
theorem dX2_turn_140 : decode cX2_turn 140 = .ok (.aload_n 0, 1) := dk_42 (dk_at dksX2_turn_5 23 rfl rfl)
theorem dX2_turn_141 : decode cX2_turn 141 = .ok (.iload_n 1, 1) := dk_27 (dk_at dksX2_turn_6 0 rfl rfl)
theorem dX2_turn_142 : decode cX2_turn 142 = .ok (.iload 5, 2) := dk_21 5 (dk_at dksX2_turn_6 1 rfl rfl)
theorem dX2_turn_144 : decode cX2_turn 144 = .ok (.invokestatic 407, 3) := dk_184 1 151 (dk_at dksX2_turn_6 3 rfl rfl)
theorem dX2_turn_147 : decode cX2_turn 147 = .ok (.invokevirtual 411, 3) := dk_182 1 155 (dk_at dksX2_turn_6 6 rfl rfl)
theorem dX2_turn_150 : decode cX2_turn 150 = .ok (.ifCond .ne 9, 3) := dk_154 0 9 (dk_at dksX2_turn_6 9 rfl rfl)
theorem dX2_turn_153 : decode cX2_turn 153 = .ok (.iinc 5 1, 3) := dk_132 5 1 (dk_at dksX2_turn_6 12 rfl rfl)
theorem dX2_turn_156 : decode cX2_turn 156 = .ok (.goto (-23), 3) := dk_167 255 233 (dk_at dksX2_turn_6 15 rfl rfl)
theorem dX2_turn_159 : decode cX2_turn 159 = .ok (.aload_n 0, 1) := dk_42 (dk_at dksX2_turn_6 18 rfl rfl)
theorem dX2_turn_160 : decode cX2_turn 160 = .ok (.iload_n 1, 1) := dk_27 (dk_at dksX2_turn_6 19 rfl rfl)
theorem dX2_turn_161 : decode cX2_turn 161 = .ok (.iload 5, 2) := dk_21 5 (dk_at dksX2_turn_6 20 rfl rfl)
theorem dX2_turn_163 : decode cX2_turn 163 = .ok (.invokestatic 407, 3) := dk_184 1 151 (dk_at dksX2_turn_7 0 rfl rfl)
theorem dX2_turn_166 : decode cX2_turn 166 = .ok (.invokevirtual 411, 3) := dk_182 1 155 (dk_at dksX2_turn_7 3 rfl rfl)
theorem dX2_turn_169 : decode cX2_turn 169 = .ok (.ifCond .ne 7, 3) := dk_154 0 7 (dk_at dksX2_turn_7 6 rfl rfl)
theorem dX2_turn_172 : decode cX2_turn 172 = .ok (.ldc2_w 350, 3) := dk_20 1 94 (dk_at dksX2_turn_7 9 rfl rfl)
theorem dX2_turn_175 : decode cX2_turn 175 = .ok (.lreturn, 1) := dk_173 (dk_at dksX2_turn_7 12 rfl rfl)
theorem dX2_turn_176 : decode cX2_turn 176 = .ok (.iload 4, 2) := dk_21 4 (dk_at dksX2_turn_7 13 rfl rfl)
theorem dX2_turn_178 : decode cX2_turn 178 = .ok (.ifCond .ge 7, 3) := dk_156 0 7 (dk_at dksX2_turn_7 15 rfl rfl)
theorem dX2_turn_181 : decode cX2_turn 181 = .ok (.iload 5, 2) := dk_21 5 (dk_at dksX2_turn_7 18 rfl rfl)
theorem dX2_turn_183 : decode cX2_turn 183 = .ok (.i2l, 1) := dk_133 (dk_at dksX2_turn_7 20 rfl rfl)
theorem dX2_turn_184 : decode cX2_turn 184 = .ok (.lreturn, 1) := dk_173 (dk_at dksX2_turn_7 21 rfl rfl)
theorem dX2_turn_185 : decode cX2_turn 185 = .ok (.iload 5, 2) := dk_21 5 (dk_at dksX2_turn_7 22 rfl rfl)
theorem dX2_turn_187 : decode cX2_turn 187 = .ok (.invokestatic 407, 3) := dk_184 1 151 (dk_at dksX2_turn_8 0 rfl rfl)
theorem dX2_turn_190 : decode cX2_turn 190 = .ok (.lstore 6, 2) := dk_55 6 (dk_at dksX2_turn_8 3 rfl rfl)
theorem dX2_turn_192 : decode cX2_turn 192 = .ok (.iload_n 1, 1) := dk_27 (dk_at dksX2_turn_8 5 rfl rfl)
theorem dX2_turn_193 : decode cX2_turn 193 = .ok (.istore 8, 2) := dk_54 8 (dk_at dksX2_turn_8 6 rfl rfl)
theorem dX2_turn_195 : decode cX2_turn 195 = .ok (.iconst 0, 1) := dk_3 (dk_at dksX2_turn_8 8 rfl rfl)
theorem dX2_turn_196 : decode cX2_turn 196 = .ok (.istore 9, 2) := dk_54 9 (dk_at dksX2_turn_8 9 rfl rfl)
theorem dX2_turn_198 : decode cX2_turn 198 = .ok (.iload 9, 2) := dk_21 9 (dk_at dksX2_turn_8 11 rfl rfl)
theorem dX2_turn_200 : decode cX2_turn 200 = .ok (.iload 4, 2) := dk_21 4 (dk_at dksX2_turn_8 13 rfl rfl)
theorem dX2_turn_202 : decode cX2_turn 202 = .ok (.if_icmp .gt 107, 3) := dk_163 0 107 (dk_at dksX2_turn_8 15 rfl rfl)
theorem dX2_turn_205 : decode cX2_turn 205 = .ok (.iload_n 1, 1) := dk_27 (dk_at dksX2_turn_8 18 rfl rfl)
theorem dX2_turn_206 : decode cX2_turn 206 = .ok (.iload 9, 2) := dk_21 9 (dk_at dksX2_turn_8 19 rfl rfl)
theorem dX2_turn_208 : decode cX2_turn 208 = .ok (.invokestatic 310, 3) := dk_184 1 54 (dk_at dksX2_turn_8 21 rfl rfl)
theorem dX2_turn_211 : decode cX2_turn 211 = .ok (.ifCond .ne 6, 3) := dk_154 0 6 (dk_at dksX2_turn_9 0 rfl rfl)
theorem dX2_turn_214 : decode cX2_turn 214 = .ok (.goto 89, 3) := dk_167 0 89 (dk_at dksX2_turn_9 3 rfl rfl)
theorem dX2_turn_217 : decode cX2_turn 217 = .ok (.iload 8, 2) := dk_21 8 (dk_at dksX2_turn_9 6 rfl rfl)
theorem dX2_turn_219 : decode cX2_turn 219 = .ok (.iconst 1, 1) := dk_4 (dk_at dksX2_turn_9 8 rfl rfl)
theorem dX2_turn_220 : decode cX2_turn 220 = .ok (.iload 9, 2) := dk_21 9 (dk_at dksX2_turn_9 9 rfl rfl)
theorem dX2_turn_222 : decode cX2_turn 222 = .ok (.ishl, 1) := dk_120 (dk_at dksX2_turn_9 11 rfl rfl)
theorem dX2_turn_223 : decode cX2_turn 223 = .ok (.iconst (-1), 1) := dk_2 (dk_at dksX2_turn_9 12 rfl rfl)
theorem dX2_turn_224 : decode cX2_turn 224 = .ok (.ixor, 1) := dk_130 (dk_at dksX2_turn_9 13 rfl rfl)
theorem dX2_turn_225 : decode cX2_turn 225 = .ok (.iand, 1) := dk_126 (dk_at dksX2_turn_9 14 rfl rfl)
theorem dX2_turn_226 : decode cX2_turn 226 = .ok (.istore 8, 2) := dk_54 8 (dk_at dksX2_turn_9 15 rfl rfl)
theorem dX2_turn_228 : decode cX2_turn 228 = .ok (.iconst 0, 1) := dk_3 (dk_at dksX2_turn_9 17 rfl rfl)
theorem dX2_turn_229 : decode cX2_turn 229 = .ok (.istore 10, 2) := dk_54 10 (dk_at dksX2_turn_9 18 rfl rfl)
theorem dX2_turn_231 : decode cX2_turn 231 = .ok (.aload_n 0, 1) := dk_42 (dk_at dksX2_turn_9 20 rfl rfl)
theorem dX2_turn_232 : decode cX2_turn 232 = .ok (.getfield 64, 3) := dk_180 0 64 (dk_at dksX2_turn_9 21 rfl rfl)
theorem dX2_turn_235 : decode cX2_turn 235 = .ok (.iload 9, 2) := dk_21 9 (dk_at dksX2_turn_10 0 rfl rfl)
theorem dX2_turn_237 : decode cX2_turn 237 = .ok (.laload, 1) := dk_47 (dk_at dksX2_turn_10 2 rfl rfl)
theorem dX2_turn_238 : decode cX2_turn 238 = .ok (.lload 6, 2) := dk_22 6 (dk_at dksX2_turn_10 3 rfl rfl)
theorem dX2_turn_240 : decode cX2_turn 240 = .ok (.land, 1) := dk_127 (dk_at dksX2_turn_10 5 rfl rfl)
theorem dX2_turn_241 : decode cX2_turn 241 = .ok (.lconst 1, 1) := dk_10 (dk_at dksX2_turn_10 6 rfl rfl)
theorem dX2_turn_242 : decode cX2_turn 242 = .ok (.iload 10, 2) := dk_21 10 (dk_at dksX2_turn_10 7 rfl rfl)
theorem dX2_turn_244 : decode cX2_turn 244 = .ok (.lshl, 1) := dk_121 (dk_at dksX2_turn_10 9 rfl rfl)
theorem dX2_turn_245 : decode cX2_turn 245 = .ok (.land, 1) := dk_127 (dk_at dksX2_turn_10 10 rfl rfl)
theorem dX2_turn_246 : decode cX2_turn 246 = .ok (.lconst 0, 1) := dk_9 (dk_at dksX2_turn_10 11 rfl rfl)
theorem dX2_turn_247 : decode cX2_turn 247 = .ok (.lcmp, 1) := dk_148 (dk_at dksX2_turn_10 12 rfl rfl)
theorem dX2_turn_248 : decode cX2_turn 248 = .ok (.ifCond .eq 23, 3) := dk_153 0 23 (dk_at dksX2_turn_10 13 rfl rfl)
theorem dX2_turn_251 : decode cX2_turn 251 = .ok (.aload_n 0, 1) := dk_42 (dk_at dksX2_turn_10 16 rfl rfl)
theorem dX2_turn_252 : decode cX2_turn 252 = .ok (.iload 8, 2) := dk_21 8 (dk_at dksX2_turn_10 17 rfl rfl)
theorem dX2_turn_254 : decode cX2_turn 254 = .ok (.lload 6, 2) := dk_22 6 (dk_at dksX2_turn_10 19 rfl rfl)
theorem dX2_turn_256 : decode cX2_turn 256 = .ok (.lconst 1, 1) := dk_10 (dk_at dksX2_turn_10 21 rfl rfl)
theorem dX2_turn_257 : decode cX2_turn 257 = .ok (.iload 10, 2) := dk_21 10 (dk_at dksX2_turn_10 22 rfl rfl)
theorem dX2_turn_259 : decode cX2_turn 259 = .ok (.lshl, 1) := dk_121 (dk_at dksX2_turn_11 0 rfl rfl)
theorem dX2_turn_260 : decode cX2_turn 260 = .ok (.ldc2_w 350, 3) := dk_20 1 94 (dk_at dksX2_turn_11 1 rfl rfl)
theorem dX2_turn_263 : decode cX2_turn 263 = .ok (.lxor, 1) := dk_131 (dk_at dksX2_turn_11 4 rfl rfl)
theorem dX2_turn_264 : decode cX2_turn 264 = .ok (.land, 1) := dk_127 (dk_at dksX2_turn_11 5 rfl rfl)
theorem dX2_turn_265 : decode cX2_turn 265 = .ok (.invokevirtual 411, 3) := dk_182 1 155 (dk_at dksX2_turn_11 6 rfl rfl)
theorem dX2_turn_268 : decode cX2_turn 268 = .ok (.ifCond .ne 9, 3) := dk_154 0 9 (dk_at dksX2_turn_11 9 rfl rfl)
theorem dX2_turn_271 : decode cX2_turn 271 = .ok (.iinc 10 1, 3) := dk_132 10 1 (dk_at dksX2_turn_11 12 rfl rfl)
theorem dX2_turn_274 : decode cX2_turn 274 = .ok (.goto (-43), 3) := dk_167 255 213 (dk_at dksX2_turn_11 15 rfl rfl)
theorem dX2_turn_277 : decode cX2_turn 277 = .ok (.lload 6, 2) := dk_22 6 (dk_at dksX2_turn_11 18 rfl rfl)
theorem dX2_turn_279 : decode cX2_turn 279 = .ok (.lconst 1, 1) := dk_10 (dk_at dksX2_turn_11 20 rfl rfl)
theorem dX2_turn_280 : decode cX2_turn 280 = .ok (.iload 10, 2) := dk_21 10 (dk_at dksX2_turn_11 21 rfl rfl)
theorem dX2_turn_282 : decode cX2_turn 282 = .ok (.lshl, 1) := dk_121 (dk_at dksX2_turn_11 23 rfl rfl)
theorem dX2_turn_283 : decode cX2_turn 283 = .ok (.ldc2_w 350, 3) := dk_20 1 94 (dk_at dksX2_turn_12 0 rfl rfl)
theorem dX2_turn_286 : decode cX2_turn 286 = .ok (.lxor, 1) := dk_131 (dk_at dksX2_turn_12 3 rfl rfl)
theorem dX2_turn_287 : decode cX2_turn 287 = .ok (.land, 1) := dk_127 (dk_at dksX2_turn_12 4 rfl rfl)
theorem dX2_turn_288 : decode cX2_turn 288 = .ok (.lstore 6, 2) := dk_55 6 (dk_at dksX2_turn_12 5 rfl rfl)
theorem dX2_turn_290 : decode cX2_turn 290 = .ok (.iload 9, 2) := dk_21 9 (dk_at dksX2_turn_12 7 rfl rfl)
theorem dX2_turn_292 : decode cX2_turn 292 = .ok (.iload 4, 2) := dk_21 4 (dk_at dksX2_turn_12 9 rfl rfl)
theorem dX2_turn_294 : decode cX2_turn 294 = .ok (.if_icmp .ne 9, 3) := dk_160 0 9 (dk_at dksX2_turn_12 11 rfl rfl)
theorem dX2_turn_297 : decode cX2_turn 297 = .ok (.lload_n 2, 1) := dk_32 (dk_at dksX2_turn_12 14 rfl rfl)
theorem dX2_turn_298 : decode cX2_turn 298 = .ok (.iload 10, 2) := dk_21 10 (dk_at dksX2_turn_12 15 rfl rfl)
theorem dX2_turn_300 : decode cX2_turn 300 = .ok (.i2l, 1) := dk_133 (dk_at dksX2_turn_12 17 rfl rfl)
theorem dX2_turn_301 : decode cX2_turn 301 = .ok (.ladd, 1) := dk_97 (dk_at dksX2_turn_12 18 rfl rfl)
theorem dX2_turn_302 : decode cX2_turn 302 = .ok (.lreturn, 1) := dk_173 (dk_at dksX2_turn_12 19 rfl rfl)
theorem dX2_turn_303 : decode cX2_turn 303 = .ok (.iinc 9 1, 3) := dk_132 9 1 (dk_at dksX2_turn_12 20 rfl rfl)
theorem dX2_turn_306 : decode cX2_turn 306 = .ok (.goto (-108), 3) := dk_167 255 148 (dk_at dksX2_turn_13 0 rfl rfl)
theorem dX2_turn_309 : decode cX2_turn 309 = .ok (.ldc2_w 350, 3) := dk_20 1 94 (dk_at dksX2_turn_13 3 rfl rfl)
theorem dX2_turn_312 : decode cX2_turn 312 = .ok (.lreturn, 1) := dk_173 (dk_at dksX2_turn_13 6 rfl rfl)
abbrev cX2_firstHours : ByteArray := prog_17_method_92_code
def yX2_firstHours : MethodName := ⟨RX2, "firstHours", "(I)J"⟩
def dkwX2_firstHours_0 : List UInt8 := [26, 16, 64, 160, 0, 9, 20, 1, 94, 167, 0, 8, 10, 26, 121, 10, 101, 173]
abbrev dktX2_firstHours_0 : List UInt8 := dkwX2_firstHours_0 ++ []
theorem dksX2_firstHours_0 : cX2_firstHours.data.toList.drop 0 = dktX2_firstHours_0 := by decide +kernel
theorem dX2_firstHours_0 : decode cX2_firstHours 0 = .ok (.iload_n 0, 1) := dk_26 (dk_at dksX2_firstHours_0 0 rfl rfl)
theorem dX2_firstHours_1 : decode cX2_firstHours 1 = .ok (.bipush 64, 2) := dk_16 64 (dk_at dksX2_firstHours_0 1 rfl rfl)
theorem dX2_firstHours_3 : decode cX2_firstHours 3 = .ok (.if_icmp .ne 9, 3) := dk_160 0 9 (dk_at dksX2_firstHours_0 3 rfl rfl)
theorem dX2_firstHours_6 : decode cX2_firstHours 6 = .ok (.ldc2_w 350, 3) := dk_20 1 94 (dk_at dksX2_firstHours_0 6 rfl rfl)
theorem dX2_firstHours_9 : decode cX2_firstHours 9 = .ok (.goto 8, 3) := dk_167 0 8 (dk_at dksX2_firstHours_0 9 rfl rfl)
theorem dX2_firstHours_12 : decode cX2_firstHours 12 = .ok (.lconst 1, 1) := dk_10 (dk_at dksX2_firstHours_0 12 rfl rfl)
theorem dX2_firstHours_13 : decode cX2_firstHours 13 = .ok (.iload_n 0, 1) := dk_26 (dk_at dksX2_firstHours_0 13 rfl rfl)
theorem dX2_firstHours_14 : decode cX2_firstHours 14 = .ok (.lshl, 1) := dk_121 (dk_at dksX2_firstHours_0 14 rfl rfl)
theorem dX2_firstHours_15 : decode cX2_firstHours 15 = .ok (.lconst 1, 1) := dk_10 (dk_at dksX2_firstHours_0 15 rfl rfl)
theorem dX2_firstHours_16 : decode cX2_firstHours 16 = .ok (.lsub, 1) := dk_101 (dk_at dksX2_firstHours_0 16 rfl rfl)
theorem dX2_firstHours_17 : decode cX2_firstHours 17 = .ok (.lreturn, 1) := dk_173 (dk_at dksX2_firstHours_0 17 rfl rfl)
abbrev cX2_canTurn : ByteArray := prog_17_method_91_code
def yX2_canTurn : MethodName := ⟨RX2, "canTurn", "(IJ)Z"⟩
def dkwX2_canTurn_3 : List UInt8 := [47, 32, 127, 21, 4, 184, 1, 144, 184, 1, 147, 154, 0, 5, 3, 172, 132, 4, 1, 167, 255, 176, 4, 172]
abbrev dktX2_canTurn_3 : List UInt8 := dkwX2_canTurn_3 ++ []
def dkwX2_canTurn_2 : List UInt8 := [21, 4, 4, 100, 126, 47, 42, 180, 0, 64, 21, 4, 184, 1, 141, 47, 129, 80, 42, 180, 0, 67, 21, 4]
abbrev dktX2_canTurn_2 : List UInt8 := dkwX2_canTurn_2 ++ dktX2_canTurn_3
def dkwX2_canTurn_1 : List UInt8 := [21, 4, 27, 2, 130, 126, 153, 0, 6, 167, 0, 55, 42, 180, 0, 67, 21, 4, 42, 180, 0, 67, 21, 4]
abbrev dktX2_canTurn_1 : List UInt8 := dkwX2_canTurn_1 ++ dktX2_canTurn_2
def dkwX2_canTurn_0 : List UInt8 := [42, 180, 0, 67, 3, 9, 80, 4, 54, 4, 21, 4, 4, 42, 180, 0, 7, 3, 46, 120, 162, 0, 73]
abbrev dktX2_canTurn_0 : List UInt8 := dkwX2_canTurn_0 ++ dktX2_canTurn_1
theorem dksX2_canTurn_0 : cX2_canTurn.data.toList.drop 0 = dktX2_canTurn_0 := by decide +kernel
theorem dksX2_canTurn_1 : cX2_canTurn.data.toList.drop 23 = dktX2_canTurn_1 := dk_seg dksX2_canTurn_0 23 rfl rfl
theorem dksX2_canTurn_2 : cX2_canTurn.data.toList.drop 47 = dktX2_canTurn_2 := dk_seg dksX2_canTurn_1 24 rfl rfl
theorem dksX2_canTurn_3 : cX2_canTurn.data.toList.drop 71 = dktX2_canTurn_3 := dk_seg dksX2_canTurn_2 24 rfl rfl
theorem dX2_canTurn_0 : decode cX2_canTurn 0 = .ok (.aload_n 0, 1) := dk_42 (dk_at dksX2_canTurn_0 0 rfl rfl)
theorem dX2_canTurn_1 : decode cX2_canTurn 1 = .ok (.getfield 67, 3) := dk_180 0 67 (dk_at dksX2_canTurn_0 1 rfl rfl)
theorem dX2_canTurn_4 : decode cX2_canTurn 4 = .ok (.iconst 0, 1) := dk_3 (dk_at dksX2_canTurn_0 4 rfl rfl)
theorem dX2_canTurn_5 : decode cX2_canTurn 5 = .ok (.lconst 0, 1) := dk_9 (dk_at dksX2_canTurn_0 5 rfl rfl)
theorem dX2_canTurn_6 : decode cX2_canTurn 6 = .ok (.lastore, 1) := dk_80 (dk_at dksX2_canTurn_0 6 rfl rfl)
theorem dX2_canTurn_7 : decode cX2_canTurn 7 = .ok (.iconst 1, 1) := dk_4 (dk_at dksX2_canTurn_0 7 rfl rfl)
theorem dX2_canTurn_8 : decode cX2_canTurn 8 = .ok (.istore 4, 2) := dk_54 4 (dk_at dksX2_canTurn_0 8 rfl rfl)
theorem dX2_canTurn_10 : decode cX2_canTurn 10 = .ok (.iload 4, 2) := dk_21 4 (dk_at dksX2_canTurn_0 10 rfl rfl)
theorem dX2_canTurn_12 : decode cX2_canTurn 12 = .ok (.iconst 1, 1) := dk_4 (dk_at dksX2_canTurn_0 12 rfl rfl)
theorem dX2_canTurn_13 : decode cX2_canTurn 13 = .ok (.aload_n 0, 1) := dk_42 (dk_at dksX2_canTurn_0 13 rfl rfl)
theorem dX2_canTurn_14 : decode cX2_canTurn 14 = .ok (.getfield 7, 3) := dk_180 0 7 (dk_at dksX2_canTurn_0 14 rfl rfl)
theorem dX2_canTurn_17 : decode cX2_canTurn 17 = .ok (.iconst 0, 1) := dk_3 (dk_at dksX2_canTurn_0 17 rfl rfl)
theorem dX2_canTurn_18 : decode cX2_canTurn 18 = .ok (.iaload, 1) := dk_46 (dk_at dksX2_canTurn_0 18 rfl rfl)
theorem dX2_canTurn_19 : decode cX2_canTurn 19 = .ok (.ishl, 1) := dk_120 (dk_at dksX2_canTurn_0 19 rfl rfl)
theorem dX2_canTurn_20 : decode cX2_canTurn 20 = .ok (.if_icmp .ge 73, 3) := dk_162 0 73 (dk_at dksX2_canTurn_0 20 rfl rfl)
theorem dX2_canTurn_23 : decode cX2_canTurn 23 = .ok (.iload 4, 2) := dk_21 4 (dk_at dksX2_canTurn_1 0 rfl rfl)
theorem dX2_canTurn_25 : decode cX2_canTurn 25 = .ok (.iload_n 1, 1) := dk_27 (dk_at dksX2_canTurn_1 2 rfl rfl)
theorem dX2_canTurn_26 : decode cX2_canTurn 26 = .ok (.iconst (-1), 1) := dk_2 (dk_at dksX2_canTurn_1 3 rfl rfl)
theorem dX2_canTurn_27 : decode cX2_canTurn 27 = .ok (.ixor, 1) := dk_130 (dk_at dksX2_canTurn_1 4 rfl rfl)
theorem dX2_canTurn_28 : decode cX2_canTurn 28 = .ok (.iand, 1) := dk_126 (dk_at dksX2_canTurn_1 5 rfl rfl)
theorem dX2_canTurn_29 : decode cX2_canTurn 29 = .ok (.ifCond .eq 6, 3) := dk_153 0 6 (dk_at dksX2_canTurn_1 6 rfl rfl)
theorem dX2_canTurn_32 : decode cX2_canTurn 32 = .ok (.goto 55, 3) := dk_167 0 55 (dk_at dksX2_canTurn_1 9 rfl rfl)
theorem dX2_canTurn_35 : decode cX2_canTurn 35 = .ok (.aload_n 0, 1) := dk_42 (dk_at dksX2_canTurn_1 12 rfl rfl)
theorem dX2_canTurn_36 : decode cX2_canTurn 36 = .ok (.getfield 67, 3) := dk_180 0 67 (dk_at dksX2_canTurn_1 13 rfl rfl)
theorem dX2_canTurn_39 : decode cX2_canTurn 39 = .ok (.iload 4, 2) := dk_21 4 (dk_at dksX2_canTurn_1 16 rfl rfl)
theorem dX2_canTurn_41 : decode cX2_canTurn 41 = .ok (.aload_n 0, 1) := dk_42 (dk_at dksX2_canTurn_1 18 rfl rfl)
theorem dX2_canTurn_42 : decode cX2_canTurn 42 = .ok (.getfield 67, 3) := dk_180 0 67 (dk_at dksX2_canTurn_1 19 rfl rfl)
theorem dX2_canTurn_45 : decode cX2_canTurn 45 = .ok (.iload 4, 2) := dk_21 4 (dk_at dksX2_canTurn_1 22 rfl rfl)
theorem dX2_canTurn_47 : decode cX2_canTurn 47 = .ok (.iload 4, 2) := dk_21 4 (dk_at dksX2_canTurn_2 0 rfl rfl)
theorem dX2_canTurn_49 : decode cX2_canTurn 49 = .ok (.iconst 1, 1) := dk_4 (dk_at dksX2_canTurn_2 2 rfl rfl)
theorem dX2_canTurn_50 : decode cX2_canTurn 50 = .ok (.isub, 1) := dk_100 (dk_at dksX2_canTurn_2 3 rfl rfl)
theorem dX2_canTurn_51 : decode cX2_canTurn 51 = .ok (.iand, 1) := dk_126 (dk_at dksX2_canTurn_2 4 rfl rfl)
theorem dX2_canTurn_52 : decode cX2_canTurn 52 = .ok (.laload, 1) := dk_47 (dk_at dksX2_canTurn_2 5 rfl rfl)
theorem dX2_canTurn_53 : decode cX2_canTurn 53 = .ok (.aload_n 0, 1) := dk_42 (dk_at dksX2_canTurn_2 6 rfl rfl)
theorem dX2_canTurn_54 : decode cX2_canTurn 54 = .ok (.getfield 64, 3) := dk_180 0 64 (dk_at dksX2_canTurn_2 7 rfl rfl)
theorem dX2_canTurn_57 : decode cX2_canTurn 57 = .ok (.iload 4, 2) := dk_21 4 (dk_at dksX2_canTurn_2 10 rfl rfl)
theorem dX2_canTurn_59 : decode cX2_canTurn 59 = .ok (.invokestatic 397, 3) := dk_184 1 141 (dk_at dksX2_canTurn_2 12 rfl rfl)
theorem dX2_canTurn_62 : decode cX2_canTurn 62 = .ok (.laload, 1) := dk_47 (dk_at dksX2_canTurn_2 15 rfl rfl)
theorem dX2_canTurn_63 : decode cX2_canTurn 63 = .ok (.lor, 1) := dk_129 (dk_at dksX2_canTurn_2 16 rfl rfl)
theorem dX2_canTurn_64 : decode cX2_canTurn 64 = .ok (.lastore, 1) := dk_80 (dk_at dksX2_canTurn_2 17 rfl rfl)
theorem dX2_canTurn_65 : decode cX2_canTurn 65 = .ok (.aload_n 0, 1) := dk_42 (dk_at dksX2_canTurn_2 18 rfl rfl)
theorem dX2_canTurn_66 : decode cX2_canTurn 66 = .ok (.getfield 67, 3) := dk_180 0 67 (dk_at dksX2_canTurn_2 19 rfl rfl)
theorem dX2_canTurn_69 : decode cX2_canTurn 69 = .ok (.iload 4, 2) := dk_21 4 (dk_at dksX2_canTurn_2 22 rfl rfl)
theorem dX2_canTurn_71 : decode cX2_canTurn 71 = .ok (.laload, 1) := dk_47 (dk_at dksX2_canTurn_3 0 rfl rfl)
theorem dX2_canTurn_72 : decode cX2_canTurn 72 = .ok (.lload_n 2, 1) := dk_32 (dk_at dksX2_canTurn_3 1 rfl rfl)
theorem dX2_canTurn_73 : decode cX2_canTurn 73 = .ok (.land, 1) := dk_127 (dk_at dksX2_canTurn_3 2 rfl rfl)
theorem dX2_canTurn_74 : decode cX2_canTurn 74 = .ok (.iload 4, 2) := dk_21 4 (dk_at dksX2_canTurn_3 3 rfl rfl)
theorem dX2_canTurn_76 : decode cX2_canTurn 76 = .ok (.invokestatic 400, 3) := dk_184 1 144 (dk_at dksX2_canTurn_3 5 rfl rfl)
theorem dX2_canTurn_79 : decode cX2_canTurn 79 = .ok (.invokestatic 403, 3) := dk_184 1 147 (dk_at dksX2_canTurn_3 8 rfl rfl)
theorem dX2_canTurn_82 : decode cX2_canTurn 82 = .ok (.ifCond .ne 5, 3) := dk_154 0 5 (dk_at dksX2_canTurn_3 11 rfl rfl)
theorem dX2_canTurn_85 : decode cX2_canTurn 85 = .ok (.iconst 0, 1) := dk_3 (dk_at dksX2_canTurn_3 14 rfl rfl)
theorem dX2_canTurn_86 : decode cX2_canTurn 86 = .ok (.ireturn, 1) := dk_172 (dk_at dksX2_canTurn_3 15 rfl rfl)
theorem dX2_canTurn_87 : decode cX2_canTurn 87 = .ok (.iinc 4 1, 3) := dk_132 4 1 (dk_at dksX2_canTurn_3 16 rfl rfl)
theorem dX2_canTurn_90 : decode cX2_canTurn 90 = .ok (.goto (-80), 3) := dk_167 255 176 (dk_at dksX2_canTurn_3 19 rfl rfl)
theorem dX2_canTurn_93 : decode cX2_canTurn 93 = .ok (.iconst 1, 1) := dk_4 (dk_at dksX2_canTurn_3 22 rfl rfl)
theorem dX2_canTurn_94 : decode cX2_canTurn 94 = .ok (.ireturn, 1) := dk_172 (dk_at dksX2_canTurn_3 23 rfl rfl)
abbrev cX2_size : ByteArray := prog_17_method_90_code
def yX2_size : MethodName := ⟨RX2, "size", "(I)I"⟩
def dkwX2_size_1 : List UInt8 := [27, 172]
abbrev dktX2_size_1 : List UInt8 := dkwX2_size_1 ++ []
def dkwX2_size_0 : List UInt8 := [3, 60, 3, 61, 28, 16, 12, 162, 0, 17, 27, 26, 28, 122, 4, 126, 96, 60, 132, 2, 1, 167, 255, 239]
abbrev dktX2_size_0 : List UInt8 := dkwX2_size_0 ++ dktX2_size_1
theorem dksX2_size_0 : cX2_size.data.toList.drop 0 = dktX2_size_0 := by decide +kernel
theorem dksX2_size_1 : cX2_size.data.toList.drop 24 = dktX2_size_1 := dk_seg dksX2_size_0 24 rfl rfl
theorem dX2_size_0 : decode cX2_size 0 = .ok (.iconst 0, 1) := dk_3 (dk_at dksX2_size_0 0 rfl rfl)
theorem dX2_size_1 : decode cX2_size 1 = .ok (.istore_n 1, 1) := dk_60 (dk_at dksX2_size_0 1 rfl rfl)
theorem dX2_size_2 : decode cX2_size 2 = .ok (.iconst 0, 1) := dk_3 (dk_at dksX2_size_0 2 rfl rfl)
theorem dX2_size_3 : decode cX2_size 3 = .ok (.istore_n 2, 1) := dk_61 (dk_at dksX2_size_0 3 rfl rfl)
theorem dX2_size_4 : decode cX2_size 4 = .ok (.iload_n 2, 1) := dk_28 (dk_at dksX2_size_0 4 rfl rfl)
theorem dX2_size_5 : decode cX2_size 5 = .ok (.bipush 12, 2) := dk_16 12 (dk_at dksX2_size_0 5 rfl rfl)
theorem dX2_size_7 : decode cX2_size 7 = .ok (.if_icmp .ge 17, 3) := dk_162 0 17 (dk_at dksX2_size_0 7 rfl rfl)
theorem dX2_size_10 : decode cX2_size 10 = .ok (.iload_n 1, 1) := dk_27 (dk_at dksX2_size_0 10 rfl rfl)
theorem dX2_size_11 : decode cX2_size 11 = .ok (.iload_n 0, 1) := dk_26 (dk_at dksX2_size_0 11 rfl rfl)
theorem dX2_size_12 : decode cX2_size 12 = .ok (.iload_n 2, 1) := dk_28 (dk_at dksX2_size_0 12 rfl rfl)
theorem dX2_size_13 : decode cX2_size 13 = .ok (.ishr, 1) := dk_122 (dk_at dksX2_size_0 13 rfl rfl)
theorem dX2_size_14 : decode cX2_size 14 = .ok (.iconst 1, 1) := dk_4 (dk_at dksX2_size_0 14 rfl rfl)
theorem dX2_size_15 : decode cX2_size 15 = .ok (.iand, 1) := dk_126 (dk_at dksX2_size_0 15 rfl rfl)
theorem dX2_size_16 : decode cX2_size 16 = .ok (.iadd, 1) := dk_96 (dk_at dksX2_size_0 16 rfl rfl)
theorem dX2_size_17 : decode cX2_size 17 = .ok (.istore_n 1, 1) := dk_60 (dk_at dksX2_size_0 17 rfl rfl)
theorem dX2_size_18 : decode cX2_size 18 = .ok (.iinc 2 1, 3) := dk_132 2 1 (dk_at dksX2_size_0 18 rfl rfl)
theorem dX2_size_21 : decode cX2_size 21 = .ok (.goto (-17), 3) := dk_167 255 239 (dk_at dksX2_size_0 21 rfl rfl)
theorem dX2_size_24 : decode cX2_size 24 = .ok (.iload_n 1, 1) := dk_27 (dk_at dksX2_size_1 0 rfl rfl)
theorem dX2_size_25 : decode cX2_size 25 = .ok (.ireturn, 1) := dk_172 (dk_at dksX2_size_1 1 rfl rfl)
abbrev cX2_hasAtLeast : ByteArray := prog_17_method_89_code
def yX2_hasAtLeast : MethodName := ⟨RX2, "hasAtLeast", "(JI)Z"⟩
def dkwX2_hasAtLeast_1 : List UInt8 := [132, 5, 1, 167, 255, 235, 21, 5, 28, 160, 0, 7, 4, 167, 0, 4, 3, 172]
abbrev dktX2_hasAtLeast_1 : List UInt8 := dkwX2_hasAtLeast_1 ++ []
def dkwX2_hasAtLeast_0 : List UInt8 := [30, 66, 3, 54, 5, 21, 5, 28, 162, 0, 21, 33, 9, 148, 153, 0, 15, 33, 33, 10, 101, 127, 66]
abbrev dktX2_hasAtLeast_0 : List UInt8 := dkwX2_hasAtLeast_0 ++ dktX2_hasAtLeast_1
theorem dksX2_hasAtLeast_0 : cX2_hasAtLeast.data.toList.drop 0 = dktX2_hasAtLeast_0 := by decide +kernel
theorem dksX2_hasAtLeast_1 : cX2_hasAtLeast.data.toList.drop 23 = dktX2_hasAtLeast_1 := dk_seg dksX2_hasAtLeast_0 23 rfl rfl
theorem dX2_hasAtLeast_0 : decode cX2_hasAtLeast 0 = .ok (.lload_n 0, 1) := dk_30 (dk_at dksX2_hasAtLeast_0 0 rfl rfl)
theorem dX2_hasAtLeast_1 : decode cX2_hasAtLeast 1 = .ok (.lstore_n 3, 1) := dk_66 (dk_at dksX2_hasAtLeast_0 1 rfl rfl)
theorem dX2_hasAtLeast_2 : decode cX2_hasAtLeast 2 = .ok (.iconst 0, 1) := dk_3 (dk_at dksX2_hasAtLeast_0 2 rfl rfl)
theorem dX2_hasAtLeast_3 : decode cX2_hasAtLeast 3 = .ok (.istore 5, 2) := dk_54 5 (dk_at dksX2_hasAtLeast_0 3 rfl rfl)
theorem dX2_hasAtLeast_5 : decode cX2_hasAtLeast 5 = .ok (.iload 5, 2) := dk_21 5 (dk_at dksX2_hasAtLeast_0 5 rfl rfl)
theorem dX2_hasAtLeast_7 : decode cX2_hasAtLeast 7 = .ok (.iload_n 2, 1) := dk_28 (dk_at dksX2_hasAtLeast_0 7 rfl rfl)
theorem dX2_hasAtLeast_8 : decode cX2_hasAtLeast 8 = .ok (.if_icmp .ge 21, 3) := dk_162 0 21 (dk_at dksX2_hasAtLeast_0 8 rfl rfl)
theorem dX2_hasAtLeast_11 : decode cX2_hasAtLeast 11 = .ok (.lload_n 3, 1) := dk_33 (dk_at dksX2_hasAtLeast_0 11 rfl rfl)
theorem dX2_hasAtLeast_12 : decode cX2_hasAtLeast 12 = .ok (.lconst 0, 1) := dk_9 (dk_at dksX2_hasAtLeast_0 12 rfl rfl)
theorem dX2_hasAtLeast_13 : decode cX2_hasAtLeast 13 = .ok (.lcmp, 1) := dk_148 (dk_at dksX2_hasAtLeast_0 13 rfl rfl)
theorem dX2_hasAtLeast_14 : decode cX2_hasAtLeast 14 = .ok (.ifCond .eq 15, 3) := dk_153 0 15 (dk_at dksX2_hasAtLeast_0 14 rfl rfl)
theorem dX2_hasAtLeast_17 : decode cX2_hasAtLeast 17 = .ok (.lload_n 3, 1) := dk_33 (dk_at dksX2_hasAtLeast_0 17 rfl rfl)
theorem dX2_hasAtLeast_18 : decode cX2_hasAtLeast 18 = .ok (.lload_n 3, 1) := dk_33 (dk_at dksX2_hasAtLeast_0 18 rfl rfl)
theorem dX2_hasAtLeast_19 : decode cX2_hasAtLeast 19 = .ok (.lconst 1, 1) := dk_10 (dk_at dksX2_hasAtLeast_0 19 rfl rfl)
theorem dX2_hasAtLeast_20 : decode cX2_hasAtLeast 20 = .ok (.lsub, 1) := dk_101 (dk_at dksX2_hasAtLeast_0 20 rfl rfl)
theorem dX2_hasAtLeast_21 : decode cX2_hasAtLeast 21 = .ok (.land, 1) := dk_127 (dk_at dksX2_hasAtLeast_0 21 rfl rfl)
theorem dX2_hasAtLeast_22 : decode cX2_hasAtLeast 22 = .ok (.lstore_n 3, 1) := dk_66 (dk_at dksX2_hasAtLeast_0 22 rfl rfl)
theorem dX2_hasAtLeast_23 : decode cX2_hasAtLeast 23 = .ok (.iinc 5 1, 3) := dk_132 5 1 (dk_at dksX2_hasAtLeast_1 0 rfl rfl)
theorem dX2_hasAtLeast_26 : decode cX2_hasAtLeast 26 = .ok (.goto (-21), 3) := dk_167 255 235 (dk_at dksX2_hasAtLeast_1 3 rfl rfl)
theorem dX2_hasAtLeast_29 : decode cX2_hasAtLeast 29 = .ok (.iload 5, 2) := dk_21 5 (dk_at dksX2_hasAtLeast_1 6 rfl rfl)
theorem dX2_hasAtLeast_31 : decode cX2_hasAtLeast 31 = .ok (.iload_n 2, 1) := dk_28 (dk_at dksX2_hasAtLeast_1 8 rfl rfl)
theorem dX2_hasAtLeast_32 : decode cX2_hasAtLeast 32 = .ok (.if_icmp .ne 7, 3) := dk_160 0 7 (dk_at dksX2_hasAtLeast_1 9 rfl rfl)
theorem dX2_hasAtLeast_35 : decode cX2_hasAtLeast 35 = .ok (.iconst 1, 1) := dk_4 (dk_at dksX2_hasAtLeast_1 12 rfl rfl)
theorem dX2_hasAtLeast_36 : decode cX2_hasAtLeast 36 = .ok (.goto 4, 3) := dk_167 0 4 (dk_at dksX2_hasAtLeast_1 13 rfl rfl)
theorem dX2_hasAtLeast_39 : decode cX2_hasAtLeast 39 = .ok (.iconst 0, 1) := dk_3 (dk_at dksX2_hasAtLeast_1 16 rfl rfl)
theorem dX2_hasAtLeast_40 : decode cX2_hasAtLeast 40 = .ok (.ireturn, 1) := dk_172 (dk_at dksX2_hasAtLeast_1 17 rfl rfl)
abbrev cX2_given : ByteArray := prog_17_method_94_code
def yX2_given : MethodName := ⟨RX2, "given", "(I)I"⟩
def dkwX2_given_3 : List UInt8 := [96, 27, 79, 42, 180, 0, 7, 16, 6, 92, 46, 4, 96, 79, 42, 180, 0, 7, 16, 6, 46, 172]
abbrev dktX2_given_3 : List UInt8 := dkwX2_given_3 ++ []
def dkwX2_given_2 : List UInt8 := [160, 0, 5, 2, 172, 132, 2, 1, 167, 255, 227, 42, 180, 0, 7, 16, 55, 42, 180, 0, 7, 16, 6, 46]
abbrev dktX2_given_2 : List UInt8 := dkwX2_given_2 ++ dktX2_given_3
def dkwX2_given_1 : List UInt8 := [172, 3, 61, 28, 42, 180, 0, 7, 16, 6, 46, 162, 0, 24, 42, 180, 0, 7, 16, 55, 28, 96, 46, 27]
abbrev dktX2_given_1 : List UInt8 := dkwX2_given_1 ++ dktX2_given_2
def dkwX2_given_0 : List UInt8 := [27, 4, 17, 39, 15, 184, 0, 104, 153, 0, 15, 42, 180, 0, 7, 16, 6, 46, 16, 6, 160, 0, 5, 2]
abbrev dktX2_given_0 : List UInt8 := dkwX2_given_0 ++ dktX2_given_1
theorem dksX2_given_0 : cX2_given.data.toList.drop 0 = dktX2_given_0 := by decide +kernel
theorem dksX2_given_1 : cX2_given.data.toList.drop 24 = dktX2_given_1 := dk_seg dksX2_given_0 24 rfl rfl
theorem dksX2_given_2 : cX2_given.data.toList.drop 48 = dktX2_given_2 := dk_seg dksX2_given_1 24 rfl rfl
theorem dksX2_given_3 : cX2_given.data.toList.drop 72 = dktX2_given_3 := dk_seg dksX2_given_2 24 rfl rfl
theorem dX2_given_0 : decode cX2_given 0 = .ok (.iload_n 1, 1) := dk_27 (dk_at dksX2_given_0 0 rfl rfl)
theorem dX2_given_1 : decode cX2_given 1 = .ok (.iconst 1, 1) := dk_4 (dk_at dksX2_given_0 1 rfl rfl)
theorem dX2_given_2 : decode cX2_given 2 = .ok (.sipush 9999, 3) := dk_17 39 15 (dk_at dksX2_given_0 2 rfl rfl)
theorem dX2_given_5 : decode cX2_given 5 = .ok (.invokestatic 104, 3) := dk_184 0 104 (dk_at dksX2_given_0 5 rfl rfl)
theorem dX2_given_8 : decode cX2_given 8 = .ok (.ifCond .eq 15, 3) := dk_153 0 15 (dk_at dksX2_given_0 8 rfl rfl)
theorem dX2_given_11 : decode cX2_given 11 = .ok (.aload_n 0, 1) := dk_42 (dk_at dksX2_given_0 11 rfl rfl)
theorem dX2_given_12 : decode cX2_given 12 = .ok (.getfield 7, 3) := dk_180 0 7 (dk_at dksX2_given_0 12 rfl rfl)
theorem dX2_given_15 : decode cX2_given 15 = .ok (.bipush 6, 2) := dk_16 6 (dk_at dksX2_given_0 15 rfl rfl)
theorem dX2_given_17 : decode cX2_given 17 = .ok (.iaload, 1) := dk_46 (dk_at dksX2_given_0 17 rfl rfl)
theorem dX2_given_18 : decode cX2_given 18 = .ok (.bipush 6, 2) := dk_16 6 (dk_at dksX2_given_0 18 rfl rfl)
theorem dX2_given_20 : decode cX2_given 20 = .ok (.if_icmp .ne 5, 3) := dk_160 0 5 (dk_at dksX2_given_0 20 rfl rfl)
theorem dX2_given_23 : decode cX2_given 23 = .ok (.iconst (-1), 1) := dk_2 (dk_at dksX2_given_0 23 rfl rfl)
theorem dX2_given_24 : decode cX2_given 24 = .ok (.ireturn, 1) := dk_172 (dk_at dksX2_given_1 0 rfl rfl)
theorem dX2_given_25 : decode cX2_given 25 = .ok (.iconst 0, 1) := dk_3 (dk_at dksX2_given_1 1 rfl rfl)
theorem dX2_given_26 : decode cX2_given 26 = .ok (.istore_n 2, 1) := dk_61 (dk_at dksX2_given_1 2 rfl rfl)
theorem dX2_given_27 : decode cX2_given 27 = .ok (.iload_n 2, 1) := dk_28 (dk_at dksX2_given_1 3 rfl rfl)
theorem dX2_given_28 : decode cX2_given 28 = .ok (.aload_n 0, 1) := dk_42 (dk_at dksX2_given_1 4 rfl rfl)
theorem dX2_given_29 : decode cX2_given 29 = .ok (.getfield 7, 3) := dk_180 0 7 (dk_at dksX2_given_1 5 rfl rfl)
theorem dX2_given_32 : decode cX2_given 32 = .ok (.bipush 6, 2) := dk_16 6 (dk_at dksX2_given_1 8 rfl rfl)
theorem dX2_given_34 : decode cX2_given 34 = .ok (.iaload, 1) := dk_46 (dk_at dksX2_given_1 10 rfl rfl)
theorem dX2_given_35 : decode cX2_given 35 = .ok (.if_icmp .ge 24, 3) := dk_162 0 24 (dk_at dksX2_given_1 11 rfl rfl)
theorem dX2_given_38 : decode cX2_given 38 = .ok (.aload_n 0, 1) := dk_42 (dk_at dksX2_given_1 14 rfl rfl)
theorem dX2_given_39 : decode cX2_given 39 = .ok (.getfield 7, 3) := dk_180 0 7 (dk_at dksX2_given_1 15 rfl rfl)
theorem dX2_given_42 : decode cX2_given 42 = .ok (.bipush 55, 2) := dk_16 55 (dk_at dksX2_given_1 18 rfl rfl)
theorem dX2_given_44 : decode cX2_given 44 = .ok (.iload_n 2, 1) := dk_28 (dk_at dksX2_given_1 20 rfl rfl)
theorem dX2_given_45 : decode cX2_given 45 = .ok (.iadd, 1) := dk_96 (dk_at dksX2_given_1 21 rfl rfl)
theorem dX2_given_46 : decode cX2_given 46 = .ok (.iaload, 1) := dk_46 (dk_at dksX2_given_1 22 rfl rfl)
theorem dX2_given_47 : decode cX2_given 47 = .ok (.iload_n 1, 1) := dk_27 (dk_at dksX2_given_1 23 rfl rfl)
theorem dX2_given_48 : decode cX2_given 48 = .ok (.if_icmp .ne 5, 3) := dk_160 0 5 (dk_at dksX2_given_2 0 rfl rfl)
theorem dX2_given_51 : decode cX2_given 51 = .ok (.iconst (-1), 1) := dk_2 (dk_at dksX2_given_2 3 rfl rfl)
theorem dX2_given_52 : decode cX2_given 52 = .ok (.ireturn, 1) := dk_172 (dk_at dksX2_given_2 4 rfl rfl)
theorem dX2_given_53 : decode cX2_given 53 = .ok (.iinc 2 1, 3) := dk_132 2 1 (dk_at dksX2_given_2 5 rfl rfl)
theorem dX2_given_56 : decode cX2_given 56 = .ok (.goto (-29), 3) := dk_167 255 227 (dk_at dksX2_given_2 8 rfl rfl)
theorem dX2_given_59 : decode cX2_given 59 = .ok (.aload_n 0, 1) := dk_42 (dk_at dksX2_given_2 11 rfl rfl)
theorem dX2_given_60 : decode cX2_given 60 = .ok (.getfield 7, 3) := dk_180 0 7 (dk_at dksX2_given_2 12 rfl rfl)
theorem dX2_given_63 : decode cX2_given 63 = .ok (.bipush 55, 2) := dk_16 55 (dk_at dksX2_given_2 15 rfl rfl)
theorem dX2_given_65 : decode cX2_given 65 = .ok (.aload_n 0, 1) := dk_42 (dk_at dksX2_given_2 17 rfl rfl)
theorem dX2_given_66 : decode cX2_given 66 = .ok (.getfield 7, 3) := dk_180 0 7 (dk_at dksX2_given_2 18 rfl rfl)
theorem dX2_given_69 : decode cX2_given 69 = .ok (.bipush 6, 2) := dk_16 6 (dk_at dksX2_given_2 21 rfl rfl)
theorem dX2_given_71 : decode cX2_given 71 = .ok (.iaload, 1) := dk_46 (dk_at dksX2_given_2 23 rfl rfl)
theorem dX2_given_72 : decode cX2_given 72 = .ok (.iadd, 1) := dk_96 (dk_at dksX2_given_3 0 rfl rfl)
theorem dX2_given_73 : decode cX2_given 73 = .ok (.iload_n 1, 1) := dk_27 (dk_at dksX2_given_3 1 rfl rfl)
theorem dX2_given_74 : decode cX2_given 74 = .ok (.iastore, 1) := dk_79 (dk_at dksX2_given_3 2 rfl rfl)
theorem dX2_given_75 : decode cX2_given 75 = .ok (.aload_n 0, 1) := dk_42 (dk_at dksX2_given_3 3 rfl rfl)
theorem dX2_given_76 : decode cX2_given 76 = .ok (.getfield 7, 3) := dk_180 0 7 (dk_at dksX2_given_3 4 rfl rfl)
theorem dX2_given_79 : decode cX2_given 79 = .ok (.bipush 6, 2) := dk_16 6 (dk_at dksX2_given_3 7 rfl rfl)
theorem dX2_given_81 : decode cX2_given 81 = .ok (.dup2, 1) := dk_92 (dk_at dksX2_given_3 9 rfl rfl)
theorem dX2_given_82 : decode cX2_given 82 = .ok (.iaload, 1) := dk_46 (dk_at dksX2_given_3 10 rfl rfl)
theorem dX2_given_83 : decode cX2_given 83 = .ok (.iconst 1, 1) := dk_4 (dk_at dksX2_given_3 11 rfl rfl)
theorem dX2_given_84 : decode cX2_given 84 = .ok (.iadd, 1) := dk_96 (dk_at dksX2_given_3 12 rfl rfl)
theorem dX2_given_85 : decode cX2_given 85 = .ok (.iastore, 1) := dk_79 (dk_at dksX2_given_3 13 rfl rfl)
theorem dX2_given_86 : decode cX2_given 86 = .ok (.aload_n 0, 1) := dk_42 (dk_at dksX2_given_3 14 rfl rfl)
theorem dX2_given_87 : decode cX2_given 87 = .ok (.getfield 7, 3) := dk_180 0 7 (dk_at dksX2_given_3 15 rfl rfl)
theorem dX2_given_90 : decode cX2_given 90 = .ok (.bipush 6, 2) := dk_16 6 (dk_at dksX2_given_3 18 rfl rfl)
theorem dX2_given_92 : decode cX2_given 92 = .ok (.iaload, 1) := dk_46 (dk_at dksX2_given_3 20 rfl rfl)
theorem dX2_given_93 : decode cX2_given 93 = .ok (.ireturn, 1) := dk_172 (dk_at dksX2_given_3 21 rfl rfl)
abbrev cX2_need : ByteArray := prog_17_method_95_code
def yX2_need : MethodName := ⟨RX2, "need", "(IIII)I"⟩
def dkwX2_need_5 : List UInt8 := [96, 79, 42, 180, 0, 7, 16, 7, 46, 4, 100, 172]
abbrev dktX2_need_5 : List UInt8 := dkwX2_need_5 ++ []
def dkwX2_need_4 : List UInt8 := [5, 96, 29, 79, 42, 180, 0, 7, 21, 5, 6, 96, 21, 4, 79, 42, 180, 0, 7, 16, 7, 92, 46, 4]
abbrev dktX2_need_4 : List UInt8 := dkwX2_need_4 ++ dktX2_need_5
def dkwX2_need_3 : List UInt8 := [42, 180, 0, 7, 21, 5, 27, 79, 42, 180, 0, 7, 21, 5, 4, 96, 28, 79, 42, 180, 0, 7, 21, 5]
abbrev dktX2_need_3 : List UInt8 := dkwX2_need_3 ++ dktX2_need_4
def dkwX2_need_2 : List UInt8 := [16, 7, 46, 16, 12, 160, 0, 5, 2, 172, 16, 65, 7, 42, 180, 0, 7, 16, 7, 46, 104, 96, 54, 5]
abbrev dktX2_need_2 : List UInt8 := dkwX2_need_2 ++ dktX2_need_3
def dkwX2_need_1 : List UInt8 := [17, 3, 231, 184, 0, 104, 153, 0, 26, 21, 4, 4, 18, 147, 184, 0, 104, 153, 0, 15, 42, 180, 0, 7]
abbrev dktX2_need_1 : List UInt8 := dkwX2_need_1 ++ dktX2_need_2
def dkwX2_need_0 : List UInt8 := [42, 27, 182, 0, 114, 153, 0, 50, 42, 28, 182, 0, 114, 153, 0, 42, 27, 28, 159, 0, 37, 29, 4]
abbrev dktX2_need_0 : List UInt8 := dkwX2_need_0 ++ dktX2_need_1
theorem dksX2_need_0 : cX2_need.data.toList.drop 0 = dktX2_need_0 := by decide +kernel
theorem dksX2_need_1 : cX2_need.data.toList.drop 23 = dktX2_need_1 := dk_seg dksX2_need_0 23 rfl rfl
theorem dksX2_need_2 : cX2_need.data.toList.drop 47 = dktX2_need_2 := dk_seg dksX2_need_1 24 rfl rfl
theorem dksX2_need_3 : cX2_need.data.toList.drop 71 = dktX2_need_3 := dk_seg dksX2_need_2 24 rfl rfl
theorem dksX2_need_4 : cX2_need.data.toList.drop 95 = dktX2_need_4 := dk_seg dksX2_need_3 24 rfl rfl
theorem dksX2_need_5 : cX2_need.data.toList.drop 119 = dktX2_need_5 := dk_seg dksX2_need_4 24 rfl rfl
theorem dX2_need_0 : decode cX2_need 0 = .ok (.aload_n 0, 1) := dk_42 (dk_at dksX2_need_0 0 rfl rfl)
theorem dX2_need_1 : decode cX2_need 1 = .ok (.iload_n 1, 1) := dk_27 (dk_at dksX2_need_0 1 rfl rfl)
theorem dX2_need_2 : decode cX2_need 2 = .ok (.invokevirtual 114, 3) := dk_182 0 114 (dk_at dksX2_need_0 2 rfl rfl)
theorem dX2_need_5 : decode cX2_need 5 = .ok (.ifCond .eq 50, 3) := dk_153 0 50 (dk_at dksX2_need_0 5 rfl rfl)
theorem dX2_need_8 : decode cX2_need 8 = .ok (.aload_n 0, 1) := dk_42 (dk_at dksX2_need_0 8 rfl rfl)
theorem dX2_need_9 : decode cX2_need 9 = .ok (.iload_n 2, 1) := dk_28 (dk_at dksX2_need_0 9 rfl rfl)
theorem dX2_need_10 : decode cX2_need 10 = .ok (.invokevirtual 114, 3) := dk_182 0 114 (dk_at dksX2_need_0 10 rfl rfl)
theorem dX2_need_13 : decode cX2_need 13 = .ok (.ifCond .eq 42, 3) := dk_153 0 42 (dk_at dksX2_need_0 13 rfl rfl)
theorem dX2_need_16 : decode cX2_need 16 = .ok (.iload_n 1, 1) := dk_27 (dk_at dksX2_need_0 16 rfl rfl)
theorem dX2_need_17 : decode cX2_need 17 = .ok (.iload_n 2, 1) := dk_28 (dk_at dksX2_need_0 17 rfl rfl)
theorem dX2_need_18 : decode cX2_need 18 = .ok (.if_icmp .eq 37, 3) := dk_159 0 37 (dk_at dksX2_need_0 18 rfl rfl)
theorem dX2_need_21 : decode cX2_need 21 = .ok (.iload_n 3, 1) := dk_29 (dk_at dksX2_need_0 21 rfl rfl)
theorem dX2_need_22 : decode cX2_need 22 = .ok (.iconst 1, 1) := dk_4 (dk_at dksX2_need_0 22 rfl rfl)
theorem dX2_need_23 : decode cX2_need 23 = .ok (.sipush 999, 3) := dk_17 3 231 (dk_at dksX2_need_1 0 rfl rfl)
theorem dX2_need_26 : decode cX2_need 26 = .ok (.invokestatic 104, 3) := dk_184 0 104 (dk_at dksX2_need_1 3 rfl rfl)
theorem dX2_need_29 : decode cX2_need 29 = .ok (.ifCond .eq 26, 3) := dk_153 0 26 (dk_at dksX2_need_1 6 rfl rfl)
theorem dX2_need_32 : decode cX2_need 32 = .ok (.iload 4, 2) := dk_21 4 (dk_at dksX2_need_1 9 rfl rfl)
theorem dX2_need_34 : decode cX2_need 34 = .ok (.iconst 1, 1) := dk_4 (dk_at dksX2_need_1 11 rfl rfl)
theorem dX2_need_35 : decode cX2_need 35 = .ok (.ldc 147, 2) := dk_18 147 (dk_at dksX2_need_1 12 rfl rfl)
theorem dX2_need_37 : decode cX2_need 37 = .ok (.invokestatic 104, 3) := dk_184 0 104 (dk_at dksX2_need_1 14 rfl rfl)
theorem dX2_need_40 : decode cX2_need 40 = .ok (.ifCond .eq 15, 3) := dk_153 0 15 (dk_at dksX2_need_1 17 rfl rfl)
theorem dX2_need_43 : decode cX2_need 43 = .ok (.aload_n 0, 1) := dk_42 (dk_at dksX2_need_1 20 rfl rfl)
theorem dX2_need_44 : decode cX2_need 44 = .ok (.getfield 7, 3) := dk_180 0 7 (dk_at dksX2_need_1 21 rfl rfl)
theorem dX2_need_47 : decode cX2_need 47 = .ok (.bipush 7, 2) := dk_16 7 (dk_at dksX2_need_2 0 rfl rfl)
theorem dX2_need_49 : decode cX2_need 49 = .ok (.iaload, 1) := dk_46 (dk_at dksX2_need_2 2 rfl rfl)
theorem dX2_need_50 : decode cX2_need 50 = .ok (.bipush 12, 2) := dk_16 12 (dk_at dksX2_need_2 3 rfl rfl)
theorem dX2_need_52 : decode cX2_need 52 = .ok (.if_icmp .ne 5, 3) := dk_160 0 5 (dk_at dksX2_need_2 5 rfl rfl)
theorem dX2_need_55 : decode cX2_need 55 = .ok (.iconst (-1), 1) := dk_2 (dk_at dksX2_need_2 8 rfl rfl)
theorem dX2_need_56 : decode cX2_need 56 = .ok (.ireturn, 1) := dk_172 (dk_at dksX2_need_2 9 rfl rfl)
theorem dX2_need_57 : decode cX2_need 57 = .ok (.bipush 65, 2) := dk_16 65 (dk_at dksX2_need_2 10 rfl rfl)
theorem dX2_need_59 : decode cX2_need 59 = .ok (.iconst 4, 1) := dk_7 (dk_at dksX2_need_2 12 rfl rfl)
theorem dX2_need_60 : decode cX2_need 60 = .ok (.aload_n 0, 1) := dk_42 (dk_at dksX2_need_2 13 rfl rfl)
theorem dX2_need_61 : decode cX2_need 61 = .ok (.getfield 7, 3) := dk_180 0 7 (dk_at dksX2_need_2 14 rfl rfl)
theorem dX2_need_64 : decode cX2_need 64 = .ok (.bipush 7, 2) := dk_16 7 (dk_at dksX2_need_2 17 rfl rfl)
theorem dX2_need_66 : decode cX2_need 66 = .ok (.iaload, 1) := dk_46 (dk_at dksX2_need_2 19 rfl rfl)
theorem dX2_need_67 : decode cX2_need 67 = .ok (.imul, 1) := dk_104 (dk_at dksX2_need_2 20 rfl rfl)
theorem dX2_need_68 : decode cX2_need 68 = .ok (.iadd, 1) := dk_96 (dk_at dksX2_need_2 21 rfl rfl)
theorem dX2_need_69 : decode cX2_need 69 = .ok (.istore 5, 2) := dk_54 5 (dk_at dksX2_need_2 22 rfl rfl)
theorem dX2_need_71 : decode cX2_need 71 = .ok (.aload_n 0, 1) := dk_42 (dk_at dksX2_need_3 0 rfl rfl)
theorem dX2_need_72 : decode cX2_need 72 = .ok (.getfield 7, 3) := dk_180 0 7 (dk_at dksX2_need_3 1 rfl rfl)
theorem dX2_need_75 : decode cX2_need 75 = .ok (.iload 5, 2) := dk_21 5 (dk_at dksX2_need_3 4 rfl rfl)
theorem dX2_need_77 : decode cX2_need 77 = .ok (.iload_n 1, 1) := dk_27 (dk_at dksX2_need_3 6 rfl rfl)
theorem dX2_need_78 : decode cX2_need 78 = .ok (.iastore, 1) := dk_79 (dk_at dksX2_need_3 7 rfl rfl)
theorem dX2_need_79 : decode cX2_need 79 = .ok (.aload_n 0, 1) := dk_42 (dk_at dksX2_need_3 8 rfl rfl)
theorem dX2_need_80 : decode cX2_need 80 = .ok (.getfield 7, 3) := dk_180 0 7 (dk_at dksX2_need_3 9 rfl rfl)
theorem dX2_need_83 : decode cX2_need 83 = .ok (.iload 5, 2) := dk_21 5 (dk_at dksX2_need_3 12 rfl rfl)
theorem dX2_need_85 : decode cX2_need 85 = .ok (.iconst 1, 1) := dk_4 (dk_at dksX2_need_3 14 rfl rfl)
theorem dX2_need_86 : decode cX2_need 86 = .ok (.iadd, 1) := dk_96 (dk_at dksX2_need_3 15 rfl rfl)
theorem dX2_need_87 : decode cX2_need 87 = .ok (.iload_n 2, 1) := dk_28 (dk_at dksX2_need_3 16 rfl rfl)
theorem dX2_need_88 : decode cX2_need 88 = .ok (.iastore, 1) := dk_79 (dk_at dksX2_need_3 17 rfl rfl)
theorem dX2_need_89 : decode cX2_need 89 = .ok (.aload_n 0, 1) := dk_42 (dk_at dksX2_need_3 18 rfl rfl)
theorem dX2_need_90 : decode cX2_need 90 = .ok (.getfield 7, 3) := dk_180 0 7 (dk_at dksX2_need_3 19 rfl rfl)
theorem dX2_need_93 : decode cX2_need 93 = .ok (.iload 5, 2) := dk_21 5 (dk_at dksX2_need_3 22 rfl rfl)
theorem dX2_need_95 : decode cX2_need 95 = .ok (.iconst 2, 1) := dk_5 (dk_at dksX2_need_4 0 rfl rfl)
theorem dX2_need_96 : decode cX2_need 96 = .ok (.iadd, 1) := dk_96 (dk_at dksX2_need_4 1 rfl rfl)
theorem dX2_need_97 : decode cX2_need 97 = .ok (.iload_n 3, 1) := dk_29 (dk_at dksX2_need_4 2 rfl rfl)
theorem dX2_need_98 : decode cX2_need 98 = .ok (.iastore, 1) := dk_79 (dk_at dksX2_need_4 3 rfl rfl)
theorem dX2_need_99 : decode cX2_need 99 = .ok (.aload_n 0, 1) := dk_42 (dk_at dksX2_need_4 4 rfl rfl)
theorem dX2_need_100 : decode cX2_need 100 = .ok (.getfield 7, 3) := dk_180 0 7 (dk_at dksX2_need_4 5 rfl rfl)
theorem dX2_need_103 : decode cX2_need 103 = .ok (.iload 5, 2) := dk_21 5 (dk_at dksX2_need_4 8 rfl rfl)
theorem dX2_need_105 : decode cX2_need 105 = .ok (.iconst 3, 1) := dk_6 (dk_at dksX2_need_4 10 rfl rfl)
theorem dX2_need_106 : decode cX2_need 106 = .ok (.iadd, 1) := dk_96 (dk_at dksX2_need_4 11 rfl rfl)
theorem dX2_need_107 : decode cX2_need 107 = .ok (.iload 4, 2) := dk_21 4 (dk_at dksX2_need_4 12 rfl rfl)
theorem dX2_need_109 : decode cX2_need 109 = .ok (.iastore, 1) := dk_79 (dk_at dksX2_need_4 14 rfl rfl)
theorem dX2_need_110 : decode cX2_need 110 = .ok (.aload_n 0, 1) := dk_42 (dk_at dksX2_need_4 15 rfl rfl)
theorem dX2_need_111 : decode cX2_need 111 = .ok (.getfield 7, 3) := dk_180 0 7 (dk_at dksX2_need_4 16 rfl rfl)
theorem dX2_need_114 : decode cX2_need 114 = .ok (.bipush 7, 2) := dk_16 7 (dk_at dksX2_need_4 19 rfl rfl)
theorem dX2_need_116 : decode cX2_need 116 = .ok (.dup2, 1) := dk_92 (dk_at dksX2_need_4 21 rfl rfl)
theorem dX2_need_117 : decode cX2_need 117 = .ok (.iaload, 1) := dk_46 (dk_at dksX2_need_4 22 rfl rfl)
theorem dX2_need_118 : decode cX2_need 118 = .ok (.iconst 1, 1) := dk_4 (dk_at dksX2_need_4 23 rfl rfl)
theorem dX2_need_119 : decode cX2_need 119 = .ok (.iadd, 1) := dk_96 (dk_at dksX2_need_5 0 rfl rfl)
theorem dX2_need_120 : decode cX2_need 120 = .ok (.iastore, 1) := dk_79 (dk_at dksX2_need_5 1 rfl rfl)
theorem dX2_need_121 : decode cX2_need 121 = .ok (.aload_n 0, 1) := dk_42 (dk_at dksX2_need_5 2 rfl rfl)
theorem dX2_need_122 : decode cX2_need 122 = .ok (.getfield 7, 3) := dk_180 0 7 (dk_at dksX2_need_5 3 rfl rfl)
theorem dX2_need_125 : decode cX2_need 125 = .ok (.bipush 7, 2) := dk_16 7 (dk_at dksX2_need_5 6 rfl rfl)
theorem dX2_need_127 : decode cX2_need 127 = .ok (.iaload, 1) := dk_46 (dk_at dksX2_need_5 8 rfl rfl)
theorem dX2_need_128 : decode cX2_need 128 = .ok (.iconst 1, 1) := dk_4 (dk_at dksX2_need_5 9 rfl rfl)
theorem dX2_need_129 : decode cX2_need 129 = .ok (.isub, 1) := dk_100 (dk_at dksX2_need_5 10 rfl rfl)
theorem dX2_need_130 : decode cX2_need 130 = .ok (.ireturn, 1) := dk_172 (dk_at dksX2_need_5 11 rfl rfl)
abbrev cX2_worth : ByteArray := prog_17_method_98_code
def yX2_worth : MethodName := ⟨RX2, "worth", "(I)I"⟩
def dkwX2_worth_1 : List UInt8 := [182, 1, 60, 27, 156, 0, 10, 42, 182, 1, 166, 167, 0, 8, 42, 27, 182, 1, 162, 172]
abbrev dktX2_worth_1 : List UInt8 := dkwX2_worth_1 ++ []
def dkwX2_worth_0 : List UInt8 := [27, 2, 42, 180, 0, 7, 16, 7, 46, 4, 100, 184, 0, 104, 154, 0, 7, 19, 1, 165, 172, 42]
abbrev dktX2_worth_0 : List UInt8 := dkwX2_worth_0 ++ dktX2_worth_1
theorem dksX2_worth_0 : cX2_worth.data.toList.drop 0 = dktX2_worth_0 := by decide +kernel
theorem dksX2_worth_1 : cX2_worth.data.toList.drop 22 = dktX2_worth_1 := dk_seg dksX2_worth_0 22 rfl rfl
theorem dX2_worth_0 : decode cX2_worth 0 = .ok (.iload_n 1, 1) := dk_27 (dk_at dksX2_worth_0 0 rfl rfl)
theorem dX2_worth_1 : decode cX2_worth 1 = .ok (.iconst (-1), 1) := dk_2 (dk_at dksX2_worth_0 1 rfl rfl)
theorem dX2_worth_2 : decode cX2_worth 2 = .ok (.aload_n 0, 1) := dk_42 (dk_at dksX2_worth_0 2 rfl rfl)
theorem dX2_worth_3 : decode cX2_worth 3 = .ok (.getfield 7, 3) := dk_180 0 7 (dk_at dksX2_worth_0 3 rfl rfl)
theorem dX2_worth_6 : decode cX2_worth 6 = .ok (.bipush 7, 2) := dk_16 7 (dk_at dksX2_worth_0 6 rfl rfl)
theorem dX2_worth_8 : decode cX2_worth 8 = .ok (.iaload, 1) := dk_46 (dk_at dksX2_worth_0 8 rfl rfl)
theorem dX2_worth_9 : decode cX2_worth 9 = .ok (.iconst 1, 1) := dk_4 (dk_at dksX2_worth_0 9 rfl rfl)
theorem dX2_worth_10 : decode cX2_worth 10 = .ok (.isub, 1) := dk_100 (dk_at dksX2_worth_0 10 rfl rfl)
theorem dX2_worth_11 : decode cX2_worth 11 = .ok (.invokestatic 104, 3) := dk_184 0 104 (dk_at dksX2_worth_0 11 rfl rfl)
theorem dX2_worth_14 : decode cX2_worth 14 = .ok (.ifCond .ne 7, 3) := dk_154 0 7 (dk_at dksX2_worth_0 14 rfl rfl)
theorem dX2_worth_17 : decode cX2_worth 17 = .ok (.ldc_w 421, 3) := dk_19 1 165 (dk_at dksX2_worth_0 17 rfl rfl)
theorem dX2_worth_20 : decode cX2_worth 20 = .ok (.ireturn, 1) := dk_172 (dk_at dksX2_worth_0 20 rfl rfl)
theorem dX2_worth_21 : decode cX2_worth 21 = .ok (.aload_n 0, 1) := dk_42 (dk_at dksX2_worth_0 21 rfl rfl)
theorem dX2_worth_22 : decode cX2_worth 22 = .ok (.invokevirtual 316, 3) := dk_182 1 60 (dk_at dksX2_worth_1 0 rfl rfl)
theorem dX2_worth_25 : decode cX2_worth 25 = .ok (.iload_n 1, 1) := dk_27 (dk_at dksX2_worth_1 3 rfl rfl)
theorem dX2_worth_26 : decode cX2_worth 26 = .ok (.ifCond .ge 10, 3) := dk_156 0 10 (dk_at dksX2_worth_1 4 rfl rfl)
theorem dX2_worth_29 : decode cX2_worth 29 = .ok (.aload_n 0, 1) := dk_42 (dk_at dksX2_worth_1 7 rfl rfl)
theorem dX2_worth_30 : decode cX2_worth 30 = .ok (.invokevirtual 422, 3) := dk_182 1 166 (dk_at dksX2_worth_1 8 rfl rfl)
theorem dX2_worth_33 : decode cX2_worth 33 = .ok (.goto 8, 3) := dk_167 0 8 (dk_at dksX2_worth_1 11 rfl rfl)
theorem dX2_worth_36 : decode cX2_worth 36 = .ok (.aload_n 0, 1) := dk_42 (dk_at dksX2_worth_1 14 rfl rfl)
theorem dX2_worth_37 : decode cX2_worth 37 = .ok (.iload_n 1, 1) := dk_27 (dk_at dksX2_worth_1 15 rfl rfl)
theorem dX2_worth_38 : decode cX2_worth 38 = .ok (.invokevirtual 418, 3) := dk_182 1 162 (dk_at dksX2_worth_1 16 rfl rfl)
theorem dX2_worth_41 : decode cX2_worth 41 = .ok (.ireturn, 1) := dk_172 (dk_at dksX2_worth_1 19 rfl rfl)
abbrev cX2_worthOfAll : ByteArray := prog_17_method_97_code
def yX2_worthOfAll : MethodName := ⟨RX2, "worthOfAll", "()I"⟩
def dkwX2_worthOfAll_1 : List UInt8 := [132, 2, 1, 167, 255, 234, 27, 172]
abbrev dktX2_worthOfAll_1 : List UInt8 := dkwX2_worthOfAll_1 ++ []
def dkwX2_worthOfAll_0 : List UInt8 := [3, 60, 3, 61, 28, 42, 180, 0, 7, 16, 7, 46, 162, 0, 17, 27, 42, 28, 182, 1, 162, 96, 60]
abbrev dktX2_worthOfAll_0 : List UInt8 := dkwX2_worthOfAll_0 ++ dktX2_worthOfAll_1
theorem dksX2_worthOfAll_0 : cX2_worthOfAll.data.toList.drop 0 = dktX2_worthOfAll_0 := by decide +kernel
theorem dksX2_worthOfAll_1 : cX2_worthOfAll.data.toList.drop 23 = dktX2_worthOfAll_1 := dk_seg dksX2_worthOfAll_0 23 rfl rfl
theorem dX2_worthOfAll_0 : decode cX2_worthOfAll 0 = .ok (.iconst 0, 1) := dk_3 (dk_at dksX2_worthOfAll_0 0 rfl rfl)
theorem dX2_worthOfAll_1 : decode cX2_worthOfAll 1 = .ok (.istore_n 1, 1) := dk_60 (dk_at dksX2_worthOfAll_0 1 rfl rfl)
theorem dX2_worthOfAll_2 : decode cX2_worthOfAll 2 = .ok (.iconst 0, 1) := dk_3 (dk_at dksX2_worthOfAll_0 2 rfl rfl)
theorem dX2_worthOfAll_3 : decode cX2_worthOfAll 3 = .ok (.istore_n 2, 1) := dk_61 (dk_at dksX2_worthOfAll_0 3 rfl rfl)
theorem dX2_worthOfAll_4 : decode cX2_worthOfAll 4 = .ok (.iload_n 2, 1) := dk_28 (dk_at dksX2_worthOfAll_0 4 rfl rfl)
theorem dX2_worthOfAll_5 : decode cX2_worthOfAll 5 = .ok (.aload_n 0, 1) := dk_42 (dk_at dksX2_worthOfAll_0 5 rfl rfl)
theorem dX2_worthOfAll_6 : decode cX2_worthOfAll 6 = .ok (.getfield 7, 3) := dk_180 0 7 (dk_at dksX2_worthOfAll_0 6 rfl rfl)
theorem dX2_worthOfAll_9 : decode cX2_worthOfAll 9 = .ok (.bipush 7, 2) := dk_16 7 (dk_at dksX2_worthOfAll_0 9 rfl rfl)
theorem dX2_worthOfAll_11 : decode cX2_worthOfAll 11 = .ok (.iaload, 1) := dk_46 (dk_at dksX2_worthOfAll_0 11 rfl rfl)
theorem dX2_worthOfAll_12 : decode cX2_worthOfAll 12 = .ok (.if_icmp .ge 17, 3) := dk_162 0 17 (dk_at dksX2_worthOfAll_0 12 rfl rfl)
theorem dX2_worthOfAll_15 : decode cX2_worthOfAll 15 = .ok (.iload_n 1, 1) := dk_27 (dk_at dksX2_worthOfAll_0 15 rfl rfl)
theorem dX2_worthOfAll_16 : decode cX2_worthOfAll 16 = .ok (.aload_n 0, 1) := dk_42 (dk_at dksX2_worthOfAll_0 16 rfl rfl)
theorem dX2_worthOfAll_17 : decode cX2_worthOfAll 17 = .ok (.iload_n 2, 1) := dk_28 (dk_at dksX2_worthOfAll_0 17 rfl rfl)
theorem dX2_worthOfAll_18 : decode cX2_worthOfAll 18 = .ok (.invokevirtual 418, 3) := dk_182 1 162 (dk_at dksX2_worthOfAll_0 18 rfl rfl)
theorem dX2_worthOfAll_21 : decode cX2_worthOfAll 21 = .ok (.iadd, 1) := dk_96 (dk_at dksX2_worthOfAll_0 21 rfl rfl)
theorem dX2_worthOfAll_22 : decode cX2_worthOfAll 22 = .ok (.istore_n 1, 1) := dk_60 (dk_at dksX2_worthOfAll_0 22 rfl rfl)
theorem dX2_worthOfAll_23 : decode cX2_worthOfAll 23 = .ok (.iinc 2 1, 3) := dk_132 2 1 (dk_at dksX2_worthOfAll_1 0 rfl rfl)
theorem dX2_worthOfAll_26 : decode cX2_worthOfAll 26 = .ok (.goto (-22), 3) := dk_167 255 234 (dk_at dksX2_worthOfAll_1 3 rfl rfl)
theorem dX2_worthOfAll_29 : decode cX2_worthOfAll 29 = .ok (.iload_n 1, 1) := dk_27 (dk_at dksX2_worthOfAll_1 6 rfl rfl)
theorem dX2_worthOfAll_30 : decode cX2_worthOfAll 30 = .ok (.ireturn, 1) := dk_172 (dk_at dksX2_worthOfAll_1 7 rfl rfl)
abbrev cX2_worthOf : ByteArray := prog_17_method_96_code
def yX2_worthOf : MethodName := ⟨RX2, "worthOf", "(I)I"⟩
def dkwX2_worthOf_7 : List UInt8 := [42, 180, 0, 7, 28, 5, 96, 46, 161, 0, 7, 4, 167, 0, 4, 3, 172]
abbrev dktX2_worthOf_7 : List UInt8 := dkwX2_worthOf_7 ++ []
def dkwX2_worthOf_6 : List UInt8 := [158, 0, 9, 17, 39, 15, 167, 0, 10, 42, 180, 0, 42, 3, 47, 136, 172, 132, 4, 1, 167, 255, 179, 29]
abbrev dktX2_worthOf_6 : List UInt8 := dkwX2_worthOf_6 ++ dktX2_worthOf_7
def dkwX2_worthOf_5 : List UInt8 := [20, 1, 158, 148, 156, 0, 9, 17, 216, 241, 167, 0, 29, 42, 180, 0, 42, 3, 47, 20, 1, 160, 148]
abbrev dktX2_worthOf_5 : List UInt8 := dkwX2_worthOf_5 ++ dktX2_worthOf_6
def dkwX2_worthOf_4 : List UInt8 := [182, 1, 41, 5, 159, 0, 6, 167, 0, 55, 42, 21, 4, 182, 1, 44, 42, 180, 0, 42, 3, 47]
abbrev dktX2_worthOf_4 : List UInt8 := dkwX2_worthOf_4 ++ dktX2_worthOf_5
def dkwX2_worthOf_3 : List UInt8 := [180, 0, 7, 28, 6, 96, 46, 79, 3, 54, 4, 21, 4, 42, 182, 1, 38, 162, 0, 74, 42, 21, 4]
abbrev dktX2_worthOf_3 : List UInt8 := dkwX2_worthOf_3 ++ dktX2_worthOf_4
def dkwX2_worthOf_2 : List UInt8 := [79, 42, 180, 0, 39, 8, 42, 180, 0, 7, 28, 5, 96, 46, 79, 42, 180, 0, 39, 16, 6, 42]
abbrev dktX2_worthOf_2 : List UInt8 := dkwX2_worthOf_2 ++ dktX2_worthOf_3
def dkwX2_worthOf_1 : List UInt8 := [46, 120, 128, 9, 42, 180, 0, 7, 28, 6, 96, 46, 133, 182, 1, 126, 136, 62, 42, 180, 0, 39, 7, 29]
abbrev dktX2_worthOf_1 : List UInt8 := dkwX2_worthOf_1 ++ dktX2_worthOf_2
def dkwX2_worthOf_0 : List UInt8 := [16, 65, 7, 27, 104, 96, 61, 42, 4, 42, 180, 0, 7, 28, 46, 120, 4, 42, 180, 0, 7, 28, 4, 96]
abbrev dktX2_worthOf_0 : List UInt8 := dkwX2_worthOf_0 ++ dktX2_worthOf_1
theorem dksX2_worthOf_0 : cX2_worthOf.data.toList.drop 0 = dktX2_worthOf_0 := by decide +kernel
theorem dksX2_worthOf_1 : cX2_worthOf.data.toList.drop 24 = dktX2_worthOf_1 := dk_seg dksX2_worthOf_0 24 rfl rfl
theorem dksX2_worthOf_2 : cX2_worthOf.data.toList.drop 48 = dktX2_worthOf_2 := dk_seg dksX2_worthOf_1 24 rfl rfl
theorem dksX2_worthOf_3 : cX2_worthOf.data.toList.drop 70 = dktX2_worthOf_3 := dk_seg dksX2_worthOf_2 22 rfl rfl
theorem dksX2_worthOf_4 : cX2_worthOf.data.toList.drop 93 = dktX2_worthOf_4 := dk_seg dksX2_worthOf_3 23 rfl rfl
theorem dksX2_worthOf_5 : cX2_worthOf.data.toList.drop 115 = dktX2_worthOf_5 := dk_seg dksX2_worthOf_4 22 rfl rfl
theorem dksX2_worthOf_6 : cX2_worthOf.data.toList.drop 138 = dktX2_worthOf_6 := dk_seg dksX2_worthOf_5 23 rfl rfl
theorem dksX2_worthOf_7 : cX2_worthOf.data.toList.drop 162 = dktX2_worthOf_7 := dk_seg dksX2_worthOf_6 24 rfl rfl
theorem dX2_worthOf_0 : decode cX2_worthOf 0 = .ok (.bipush 65, 2) := dk_16 65 (dk_at dksX2_worthOf_0 0 rfl rfl)
theorem dX2_worthOf_2 : decode cX2_worthOf 2 = .ok (.iconst 4, 1) := dk_7 (dk_at dksX2_worthOf_0 2 rfl rfl)
theorem dX2_worthOf_3 : decode cX2_worthOf 3 = .ok (.iload_n 1, 1) := dk_27 (dk_at dksX2_worthOf_0 3 rfl rfl)
theorem dX2_worthOf_4 : decode cX2_worthOf 4 = .ok (.imul, 1) := dk_104 (dk_at dksX2_worthOf_0 4 rfl rfl)
theorem dX2_worthOf_5 : decode cX2_worthOf 5 = .ok (.iadd, 1) := dk_96 (dk_at dksX2_worthOf_0 5 rfl rfl)
theorem dX2_worthOf_6 : decode cX2_worthOf 6 = .ok (.istore_n 2, 1) := dk_61 (dk_at dksX2_worthOf_0 6 rfl rfl)
theorem dX2_worthOf_7 : decode cX2_worthOf 7 = .ok (.aload_n 0, 1) := dk_42 (dk_at dksX2_worthOf_0 7 rfl rfl)
theorem dX2_worthOf_8 : decode cX2_worthOf 8 = .ok (.iconst 1, 1) := dk_4 (dk_at dksX2_worthOf_0 8 rfl rfl)
theorem dX2_worthOf_9 : decode cX2_worthOf 9 = .ok (.aload_n 0, 1) := dk_42 (dk_at dksX2_worthOf_0 9 rfl rfl)
theorem dX2_worthOf_10 : decode cX2_worthOf 10 = .ok (.getfield 7, 3) := dk_180 0 7 (dk_at dksX2_worthOf_0 10 rfl rfl)
theorem dX2_worthOf_13 : decode cX2_worthOf 13 = .ok (.iload_n 2, 1) := dk_28 (dk_at dksX2_worthOf_0 13 rfl rfl)
theorem dX2_worthOf_14 : decode cX2_worthOf 14 = .ok (.iaload, 1) := dk_46 (dk_at dksX2_worthOf_0 14 rfl rfl)
theorem dX2_worthOf_15 : decode cX2_worthOf 15 = .ok (.ishl, 1) := dk_120 (dk_at dksX2_worthOf_0 15 rfl rfl)
theorem dX2_worthOf_16 : decode cX2_worthOf 16 = .ok (.iconst 1, 1) := dk_4 (dk_at dksX2_worthOf_0 16 rfl rfl)
theorem dX2_worthOf_17 : decode cX2_worthOf 17 = .ok (.aload_n 0, 1) := dk_42 (dk_at dksX2_worthOf_0 17 rfl rfl)
theorem dX2_worthOf_18 : decode cX2_worthOf 18 = .ok (.getfield 7, 3) := dk_180 0 7 (dk_at dksX2_worthOf_0 18 rfl rfl)
theorem dX2_worthOf_21 : decode cX2_worthOf 21 = .ok (.iload_n 2, 1) := dk_28 (dk_at dksX2_worthOf_0 21 rfl rfl)
theorem dX2_worthOf_22 : decode cX2_worthOf 22 = .ok (.iconst 1, 1) := dk_4 (dk_at dksX2_worthOf_0 22 rfl rfl)
theorem dX2_worthOf_23 : decode cX2_worthOf 23 = .ok (.iadd, 1) := dk_96 (dk_at dksX2_worthOf_0 23 rfl rfl)
theorem dX2_worthOf_24 : decode cX2_worthOf 24 = .ok (.iaload, 1) := dk_46 (dk_at dksX2_worthOf_1 0 rfl rfl)
theorem dX2_worthOf_25 : decode cX2_worthOf 25 = .ok (.ishl, 1) := dk_120 (dk_at dksX2_worthOf_1 1 rfl rfl)
theorem dX2_worthOf_26 : decode cX2_worthOf 26 = .ok (.ior, 1) := dk_128 (dk_at dksX2_worthOf_1 2 rfl rfl)
theorem dX2_worthOf_27 : decode cX2_worthOf 27 = .ok (.lconst 0, 1) := dk_9 (dk_at dksX2_worthOf_1 3 rfl rfl)
theorem dX2_worthOf_28 : decode cX2_worthOf 28 = .ok (.aload_n 0, 1) := dk_42 (dk_at dksX2_worthOf_1 4 rfl rfl)
theorem dX2_worthOf_29 : decode cX2_worthOf 29 = .ok (.getfield 7, 3) := dk_180 0 7 (dk_at dksX2_worthOf_1 5 rfl rfl)
theorem dX2_worthOf_32 : decode cX2_worthOf 32 = .ok (.iload_n 2, 1) := dk_28 (dk_at dksX2_worthOf_1 8 rfl rfl)
theorem dX2_worthOf_33 : decode cX2_worthOf 33 = .ok (.iconst 3, 1) := dk_6 (dk_at dksX2_worthOf_1 9 rfl rfl)
theorem dX2_worthOf_34 : decode cX2_worthOf 34 = .ok (.iadd, 1) := dk_96 (dk_at dksX2_worthOf_1 10 rfl rfl)
theorem dX2_worthOf_35 : decode cX2_worthOf 35 = .ok (.iaload, 1) := dk_46 (dk_at dksX2_worthOf_1 11 rfl rfl)
theorem dX2_worthOf_36 : decode cX2_worthOf 36 = .ok (.i2l, 1) := dk_133 (dk_at dksX2_worthOf_1 12 rfl rfl)
theorem dX2_worthOf_37 : decode cX2_worthOf 37 = .ok (.invokevirtual 382, 3) := dk_182 1 126 (dk_at dksX2_worthOf_1 13 rfl rfl)
theorem dX2_worthOf_40 : decode cX2_worthOf 40 = .ok (.l2i, 1) := dk_136 (dk_at dksX2_worthOf_1 16 rfl rfl)
theorem dX2_worthOf_41 : decode cX2_worthOf 41 = .ok (.istore_n 3, 1) := dk_62 (dk_at dksX2_worthOf_1 17 rfl rfl)
theorem dX2_worthOf_42 : decode cX2_worthOf 42 = .ok (.aload_n 0, 1) := dk_42 (dk_at dksX2_worthOf_1 18 rfl rfl)
theorem dX2_worthOf_43 : decode cX2_worthOf 43 = .ok (.getfield 39, 3) := dk_180 0 39 (dk_at dksX2_worthOf_1 19 rfl rfl)
theorem dX2_worthOf_46 : decode cX2_worthOf 46 = .ok (.iconst 4, 1) := dk_7 (dk_at dksX2_worthOf_1 22 rfl rfl)
theorem dX2_worthOf_47 : decode cX2_worthOf 47 = .ok (.iload_n 3, 1) := dk_29 (dk_at dksX2_worthOf_1 23 rfl rfl)
theorem dX2_worthOf_48 : decode cX2_worthOf 48 = .ok (.iastore, 1) := dk_79 (dk_at dksX2_worthOf_2 0 rfl rfl)
theorem dX2_worthOf_49 : decode cX2_worthOf 49 = .ok (.aload_n 0, 1) := dk_42 (dk_at dksX2_worthOf_2 1 rfl rfl)
theorem dX2_worthOf_50 : decode cX2_worthOf 50 = .ok (.getfield 39, 3) := dk_180 0 39 (dk_at dksX2_worthOf_2 2 rfl rfl)
theorem dX2_worthOf_53 : decode cX2_worthOf 53 = .ok (.iconst 5, 1) := dk_8 (dk_at dksX2_worthOf_2 5 rfl rfl)
theorem dX2_worthOf_54 : decode cX2_worthOf 54 = .ok (.aload_n 0, 1) := dk_42 (dk_at dksX2_worthOf_2 6 rfl rfl)
theorem dX2_worthOf_55 : decode cX2_worthOf 55 = .ok (.getfield 7, 3) := dk_180 0 7 (dk_at dksX2_worthOf_2 7 rfl rfl)
theorem dX2_worthOf_58 : decode cX2_worthOf 58 = .ok (.iload_n 2, 1) := dk_28 (dk_at dksX2_worthOf_2 10 rfl rfl)
theorem dX2_worthOf_59 : decode cX2_worthOf 59 = .ok (.iconst 2, 1) := dk_5 (dk_at dksX2_worthOf_2 11 rfl rfl)
theorem dX2_worthOf_60 : decode cX2_worthOf 60 = .ok (.iadd, 1) := dk_96 (dk_at dksX2_worthOf_2 12 rfl rfl)
theorem dX2_worthOf_61 : decode cX2_worthOf 61 = .ok (.iaload, 1) := dk_46 (dk_at dksX2_worthOf_2 13 rfl rfl)
theorem dX2_worthOf_62 : decode cX2_worthOf 62 = .ok (.iastore, 1) := dk_79 (dk_at dksX2_worthOf_2 14 rfl rfl)
theorem dX2_worthOf_63 : decode cX2_worthOf 63 = .ok (.aload_n 0, 1) := dk_42 (dk_at dksX2_worthOf_2 15 rfl rfl)
theorem dX2_worthOf_64 : decode cX2_worthOf 64 = .ok (.getfield 39, 3) := dk_180 0 39 (dk_at dksX2_worthOf_2 16 rfl rfl)
theorem dX2_worthOf_67 : decode cX2_worthOf 67 = .ok (.bipush 6, 2) := dk_16 6 (dk_at dksX2_worthOf_2 19 rfl rfl)
theorem dX2_worthOf_69 : decode cX2_worthOf 69 = .ok (.aload_n 0, 1) := dk_42 (dk_at dksX2_worthOf_2 21 rfl rfl)
theorem dX2_worthOf_70 : decode cX2_worthOf 70 = .ok (.getfield 7, 3) := dk_180 0 7 (dk_at dksX2_worthOf_3 0 rfl rfl)
theorem dX2_worthOf_73 : decode cX2_worthOf 73 = .ok (.iload_n 2, 1) := dk_28 (dk_at dksX2_worthOf_3 3 rfl rfl)
theorem dX2_worthOf_74 : decode cX2_worthOf 74 = .ok (.iconst 3, 1) := dk_6 (dk_at dksX2_worthOf_3 4 rfl rfl)
theorem dX2_worthOf_75 : decode cX2_worthOf 75 = .ok (.iadd, 1) := dk_96 (dk_at dksX2_worthOf_3 5 rfl rfl)
theorem dX2_worthOf_76 : decode cX2_worthOf 76 = .ok (.iaload, 1) := dk_46 (dk_at dksX2_worthOf_3 6 rfl rfl)
theorem dX2_worthOf_77 : decode cX2_worthOf 77 = .ok (.iastore, 1) := dk_79 (dk_at dksX2_worthOf_3 7 rfl rfl)
theorem dX2_worthOf_78 : decode cX2_worthOf 78 = .ok (.iconst 0, 1) := dk_3 (dk_at dksX2_worthOf_3 8 rfl rfl)
theorem dX2_worthOf_79 : decode cX2_worthOf 79 = .ok (.istore 4, 2) := dk_54 4 (dk_at dksX2_worthOf_3 9 rfl rfl)
theorem dX2_worthOf_81 : decode cX2_worthOf 81 = .ok (.iload 4, 2) := dk_21 4 (dk_at dksX2_worthOf_3 11 rfl rfl)
theorem dX2_worthOf_83 : decode cX2_worthOf 83 = .ok (.aload_n 0, 1) := dk_42 (dk_at dksX2_worthOf_3 13 rfl rfl)
theorem dX2_worthOf_84 : decode cX2_worthOf 84 = .ok (.invokevirtual 294, 3) := dk_182 1 38 (dk_at dksX2_worthOf_3 14 rfl rfl)
theorem dX2_worthOf_87 : decode cX2_worthOf 87 = .ok (.if_icmp .ge 74, 3) := dk_162 0 74 (dk_at dksX2_worthOf_3 17 rfl rfl)
theorem dX2_worthOf_90 : decode cX2_worthOf 90 = .ok (.aload_n 0, 1) := dk_42 (dk_at dksX2_worthOf_3 20 rfl rfl)
theorem dX2_worthOf_91 : decode cX2_worthOf 91 = .ok (.iload 4, 2) := dk_21 4 (dk_at dksX2_worthOf_3 21 rfl rfl)
theorem dX2_worthOf_93 : decode cX2_worthOf 93 = .ok (.invokevirtual 297, 3) := dk_182 1 41 (dk_at dksX2_worthOf_4 0 rfl rfl)
theorem dX2_worthOf_96 : decode cX2_worthOf 96 = .ok (.iconst 2, 1) := dk_5 (dk_at dksX2_worthOf_4 3 rfl rfl)
theorem dX2_worthOf_97 : decode cX2_worthOf 97 = .ok (.if_icmp .eq 6, 3) := dk_159 0 6 (dk_at dksX2_worthOf_4 4 rfl rfl)
theorem dX2_worthOf_100 : decode cX2_worthOf 100 = .ok (.goto 55, 3) := dk_167 0 55 (dk_at dksX2_worthOf_4 7 rfl rfl)
theorem dX2_worthOf_103 : decode cX2_worthOf 103 = .ok (.aload_n 0, 1) := dk_42 (dk_at dksX2_worthOf_4 10 rfl rfl)
theorem dX2_worthOf_104 : decode cX2_worthOf 104 = .ok (.iload 4, 2) := dk_21 4 (dk_at dksX2_worthOf_4 11 rfl rfl)
theorem dX2_worthOf_106 : decode cX2_worthOf 106 = .ok (.invokevirtual 300, 3) := dk_182 1 44 (dk_at dksX2_worthOf_4 13 rfl rfl)
theorem dX2_worthOf_109 : decode cX2_worthOf 109 = .ok (.aload_n 0, 1) := dk_42 (dk_at dksX2_worthOf_4 16 rfl rfl)
theorem dX2_worthOf_110 : decode cX2_worthOf 110 = .ok (.getfield 42, 3) := dk_180 0 42 (dk_at dksX2_worthOf_4 17 rfl rfl)
theorem dX2_worthOf_113 : decode cX2_worthOf 113 = .ok (.iconst 0, 1) := dk_3 (dk_at dksX2_worthOf_4 20 rfl rfl)
theorem dX2_worthOf_114 : decode cX2_worthOf 114 = .ok (.laload, 1) := dk_47 (dk_at dksX2_worthOf_4 21 rfl rfl)
theorem dX2_worthOf_115 : decode cX2_worthOf 115 = .ok (.ldc2_w 414, 3) := dk_20 1 158 (dk_at dksX2_worthOf_5 0 rfl rfl)
theorem dX2_worthOf_118 : decode cX2_worthOf 118 = .ok (.lcmp, 1) := dk_148 (dk_at dksX2_worthOf_5 3 rfl rfl)
theorem dX2_worthOf_119 : decode cX2_worthOf 119 = .ok (.ifCond .ge 9, 3) := dk_156 0 9 (dk_at dksX2_worthOf_5 4 rfl rfl)
theorem dX2_worthOf_122 : decode cX2_worthOf 122 = .ok (.sipush (-9999), 3) := dk_17 216 241 (dk_at dksX2_worthOf_5 7 rfl rfl)
theorem dX2_worthOf_125 : decode cX2_worthOf 125 = .ok (.goto 29, 3) := dk_167 0 29 (dk_at dksX2_worthOf_5 10 rfl rfl)
theorem dX2_worthOf_128 : decode cX2_worthOf 128 = .ok (.aload_n 0, 1) := dk_42 (dk_at dksX2_worthOf_5 13 rfl rfl)
theorem dX2_worthOf_129 : decode cX2_worthOf 129 = .ok (.getfield 42, 3) := dk_180 0 42 (dk_at dksX2_worthOf_5 14 rfl rfl)
theorem dX2_worthOf_132 : decode cX2_worthOf 132 = .ok (.iconst 0, 1) := dk_3 (dk_at dksX2_worthOf_5 17 rfl rfl)
theorem dX2_worthOf_133 : decode cX2_worthOf 133 = .ok (.laload, 1) := dk_47 (dk_at dksX2_worthOf_5 18 rfl rfl)
theorem dX2_worthOf_134 : decode cX2_worthOf 134 = .ok (.ldc2_w 416, 3) := dk_20 1 160 (dk_at dksX2_worthOf_5 19 rfl rfl)
theorem dX2_worthOf_137 : decode cX2_worthOf 137 = .ok (.lcmp, 1) := dk_148 (dk_at dksX2_worthOf_5 22 rfl rfl)
theorem dX2_worthOf_138 : decode cX2_worthOf 138 = .ok (.ifCond .le 9, 3) := dk_158 0 9 (dk_at dksX2_worthOf_6 0 rfl rfl)
theorem dX2_worthOf_141 : decode cX2_worthOf 141 = .ok (.sipush 9999, 3) := dk_17 39 15 (dk_at dksX2_worthOf_6 3 rfl rfl)
theorem dX2_worthOf_144 : decode cX2_worthOf 144 = .ok (.goto 10, 3) := dk_167 0 10 (dk_at dksX2_worthOf_6 6 rfl rfl)
theorem dX2_worthOf_147 : decode cX2_worthOf 147 = .ok (.aload_n 0, 1) := dk_42 (dk_at dksX2_worthOf_6 9 rfl rfl)
theorem dX2_worthOf_148 : decode cX2_worthOf 148 = .ok (.getfield 42, 3) := dk_180 0 42 (dk_at dksX2_worthOf_6 10 rfl rfl)
theorem dX2_worthOf_151 : decode cX2_worthOf 151 = .ok (.iconst 0, 1) := dk_3 (dk_at dksX2_worthOf_6 13 rfl rfl)
theorem dX2_worthOf_152 : decode cX2_worthOf 152 = .ok (.laload, 1) := dk_47 (dk_at dksX2_worthOf_6 14 rfl rfl)
theorem dX2_worthOf_153 : decode cX2_worthOf 153 = .ok (.l2i, 1) := dk_136 (dk_at dksX2_worthOf_6 15 rfl rfl)
theorem dX2_worthOf_154 : decode cX2_worthOf 154 = .ok (.ireturn, 1) := dk_172 (dk_at dksX2_worthOf_6 16 rfl rfl)
theorem dX2_worthOf_155 : decode cX2_worthOf 155 = .ok (.iinc 4 1, 3) := dk_132 4 1 (dk_at dksX2_worthOf_6 17 rfl rfl)
theorem dX2_worthOf_158 : decode cX2_worthOf 158 = .ok (.goto (-77), 3) := dk_167 255 179 (dk_at dksX2_worthOf_6 20 rfl rfl)
theorem dX2_worthOf_161 : decode cX2_worthOf 161 = .ok (.iload_n 3, 1) := dk_29 (dk_at dksX2_worthOf_6 23 rfl rfl)
theorem dX2_worthOf_162 : decode cX2_worthOf 162 = .ok (.aload_n 0, 1) := dk_42 (dk_at dksX2_worthOf_7 0 rfl rfl)
theorem dX2_worthOf_163 : decode cX2_worthOf 163 = .ok (.getfield 7, 3) := dk_180 0 7 (dk_at dksX2_worthOf_7 1 rfl rfl)
theorem dX2_worthOf_166 : decode cX2_worthOf 166 = .ok (.iload_n 2, 1) := dk_28 (dk_at dksX2_worthOf_7 4 rfl rfl)
theorem dX2_worthOf_167 : decode cX2_worthOf 167 = .ok (.iconst 2, 1) := dk_5 (dk_at dksX2_worthOf_7 5 rfl rfl)
theorem dX2_worthOf_168 : decode cX2_worthOf 168 = .ok (.iadd, 1) := dk_96 (dk_at dksX2_worthOf_7 6 rfl rfl)
theorem dX2_worthOf_169 : decode cX2_worthOf 169 = .ok (.iaload, 1) := dk_46 (dk_at dksX2_worthOf_7 7 rfl rfl)
theorem dX2_worthOf_170 : decode cX2_worthOf 170 = .ok (.if_icmp .lt 7, 3) := dk_161 0 7 (dk_at dksX2_worthOf_7 8 rfl rfl)
theorem dX2_worthOf_173 : decode cX2_worthOf 173 = .ok (.iconst 1, 1) := dk_4 (dk_at dksX2_worthOf_7 11 rfl rfl)
theorem dX2_worthOf_174 : decode cX2_worthOf 174 = .ok (.goto 4, 3) := dk_167 0 4 (dk_at dksX2_worthOf_7 12 rfl rfl)
theorem dX2_worthOf_177 : decode cX2_worthOf 177 = .ok (.iconst 0, 1) := dk_3 (dk_at dksX2_worthOf_7 15 rfl rfl)
theorem dX2_worthOf_178 : decode cX2_worthOf 178 = .ok (.ireturn, 1) := dk_172 (dk_at dksX2_worthOf_7 16 rfl rfl)
abbrev cX2_give : ByteArray := prog_17_method_100_code
def yX2_give : MethodName := ⟨RX2, "give", "(II)I"⟩
def dkwX2_give_14 : List UInt8 := [180, 0, 76, 21, 7, 46, 96, 46, 172, 132, 7, 1, 167, 255, 220, 19, 1, 165, 172]
abbrev dktX2_give_14 : List UInt8 := dkwX2_give_14 ++ []
def dkwX2_give_13 : List UInt8 := [29, 162, 0, 36, 42, 180, 0, 70, 21, 7, 46, 28, 160, 0, 19, 42, 180, 0, 7, 16, 55, 42]
abbrev dktX2_give_13 : List UInt8 := dkwX2_give_13 ++ dktX2_give_14
def dkwX2_give_12 : List UInt8 := [132, 10, 1, 167, 255, 233, 132, 7, 1, 167, 255, 107, 28, 156, 0, 6, 21, 4, 172, 3, 54, 7, 21, 7]
abbrev dktX2_give_12 : List UInt8 := dkwX2_give_12 ++ dktX2_give_13
def dkwX2_give_11 : List UInt8 := [54, 10, 21, 10, 29, 162, 0, 23, 42, 180, 0, 76, 21, 10, 42, 180, 0, 73, 21, 10, 46, 79]
abbrev dktX2_give_11 : List UInt8 := dkwX2_give_11 ++ dktX2_give_12
def dkwX2_give_10 : List UInt8 := [21, 5, 153, 0, 13, 21, 9, 21, 4, 163, 0, 6, 167, 0, 39, 4, 54, 5, 21, 9, 54, 4, 3]
abbrev dktX2_give_10 : List UInt8 := dkwX2_give_10 ++ dktX2_give_11
def dkwX2_give_9 : List UInt8 := [46, 42, 180, 0, 73, 21, 9, 46, 182, 1, 169, 132, 9, 1, 167, 255, 229, 42, 182, 1, 166, 54, 9]
abbrev dktX2_give_9 : List UInt8 := dkwX2_give_9 ++ dktX2_give_10
def dkwX2_give_8 : List UInt8 := [54, 8, 132, 9, 255, 167, 255, 219, 3, 54, 9, 21, 9, 29, 162, 0, 27, 42, 42, 180, 0, 70, 21, 9]
abbrev dktX2_give_8 : List UInt8 := dkwX2_give_8 ++ dktX2_give_9
def dkwX2_give_7 : List UInt8 := [21, 9, 21, 8, 42, 180, 0, 7, 16, 6, 46, 112, 79, 21, 8, 42, 180, 0, 7, 16, 6, 46, 108]
abbrev dktX2_give_7 : List UInt8 := dkwX2_give_7 ++ dktX2_give_8
def dkwX2_give_6 : List UInt8 := [21, 6, 162, 0, 148, 21, 7, 54, 8, 29, 4, 100, 54, 9, 21, 9, 155, 0, 38, 42, 180, 0, 73]
abbrev dktX2_give_6 : List UInt8 := dkwX2_give_6 ++ dktX2_give_7
def dkwX2_give_5 : List UInt8 := [21, 6, 42, 180, 0, 7, 16, 6, 46, 104, 54, 6, 132, 7, 1, 167, 255, 235, 3, 54, 7, 21, 7]
abbrev dktX2_give_5 : List UInt8 := dkwX2_give_5 ++ dktX2_give_6
def dkwX2_give_4 : List UInt8 := [132, 4, 1, 167, 255, 219, 2, 54, 4, 3, 54, 5, 4, 54, 6, 3, 54, 7, 21, 7, 29, 162, 0, 21]
abbrev dktX2_give_4 : List UInt8 := dkwX2_give_4 ++ dktX2_give_5
def dkwX2_give_3 : List UInt8 := [27, 21, 4, 184, 1, 54, 154, 0, 6, 167, 0, 14, 42, 180, 0, 70, 29, 21, 4, 79, 132, 3, 1]
abbrev dktX2_give_3 : List UInt8 := dkwX2_give_3 ++ dktX2_give_4
def dkwX2_give_2 : List UInt8 := [19, 1, 165, 172, 42, 182, 1, 60, 3, 62, 3, 54, 4, 21, 4, 42, 180, 0, 7, 3, 46, 162, 0, 32]
abbrev dktX2_give_2 : List UInt8 := dkwX2_give_2 ++ dktX2_give_3
def dkwX2_give_1 : List UInt8 := [153, 0, 24, 28, 2, 159, 0, 23, 42, 28, 182, 0, 114, 153, 0, 11, 27, 28, 184, 1, 54, 154, 0, 7]
abbrev dktX2_give_1 : List UInt8 := dkwX2_give_1 ++ dktX2_give_2
def dkwX2_give_0 : List UInt8 := [42, 27, 182, 1, 96, 153, 0, 42, 27, 184, 1, 144, 5, 163, 0, 34, 42, 180, 0, 7, 16, 6, 46]
abbrev dktX2_give_0 : List UInt8 := dkwX2_give_0 ++ dktX2_give_1
theorem dksX2_give_0 : cX2_give.data.toList.drop 0 = dktX2_give_0 := by decide +kernel
theorem dksX2_give_1 : cX2_give.data.toList.drop 23 = dktX2_give_1 := dk_seg dksX2_give_0 23 rfl rfl
theorem dksX2_give_2 : cX2_give.data.toList.drop 47 = dktX2_give_2 := dk_seg dksX2_give_1 24 rfl rfl
theorem dksX2_give_3 : cX2_give.data.toList.drop 71 = dktX2_give_3 := dk_seg dksX2_give_2 24 rfl rfl
theorem dksX2_give_4 : cX2_give.data.toList.drop 94 = dktX2_give_4 := dk_seg dksX2_give_3 23 rfl rfl
theorem dksX2_give_5 : cX2_give.data.toList.drop 118 = dktX2_give_5 := dk_seg dksX2_give_4 24 rfl rfl
theorem dksX2_give_6 : cX2_give.data.toList.drop 141 = dktX2_give_6 := dk_seg dksX2_give_5 23 rfl rfl
theorem dksX2_give_7 : cX2_give.data.toList.drop 164 = dktX2_give_7 := dk_seg dksX2_give_6 23 rfl rfl
theorem dksX2_give_8 : cX2_give.data.toList.drop 187 = dktX2_give_8 := dk_seg dksX2_give_7 23 rfl rfl
theorem dksX2_give_9 : cX2_give.data.toList.drop 211 = dktX2_give_9 := dk_seg dksX2_give_8 24 rfl rfl
theorem dksX2_give_10 : cX2_give.data.toList.drop 234 = dktX2_give_10 := dk_seg dksX2_give_9 23 rfl rfl
theorem dksX2_give_11 : cX2_give.data.toList.drop 257 = dktX2_give_11 := dk_seg dksX2_give_10 23 rfl rfl
theorem dksX2_give_12 : cX2_give.data.toList.drop 279 = dktX2_give_12 := dk_seg dksX2_give_11 22 rfl rfl
theorem dksX2_give_13 : cX2_give.data.toList.drop 303 = dktX2_give_13 := dk_seg dksX2_give_12 24 rfl rfl
theorem dksX2_give_14 : cX2_give.data.toList.drop 325 = dktX2_give_14 := dk_seg dksX2_give_13 22 rfl rfl
theorem dX2_give_0 : decode cX2_give 0 = .ok (.aload_n 0, 1) := dk_42 (dk_at dksX2_give_0 0 rfl rfl)
theorem dX2_give_1 : decode cX2_give 1 = .ok (.iload_n 1, 1) := dk_27 (dk_at dksX2_give_0 1 rfl rfl)
theorem dX2_give_2 : decode cX2_give 2 = .ok (.invokevirtual 352, 3) := dk_182 1 96 (dk_at dksX2_give_0 2 rfl rfl)
theorem dX2_give_5 : decode cX2_give 5 = .ok (.ifCond .eq 42, 3) := dk_153 0 42 (dk_at dksX2_give_0 5 rfl rfl)
theorem dX2_give_8 : decode cX2_give 8 = .ok (.iload_n 1, 1) := dk_27 (dk_at dksX2_give_0 8 rfl rfl)
theorem dX2_give_9 : decode cX2_give 9 = .ok (.invokestatic 400, 3) := dk_184 1 144 (dk_at dksX2_give_0 9 rfl rfl)
theorem dX2_give_12 : decode cX2_give 12 = .ok (.iconst 2, 1) := dk_5 (dk_at dksX2_give_0 12 rfl rfl)
theorem dX2_give_13 : decode cX2_give 13 = .ok (.if_icmp .gt 34, 3) := dk_163 0 34 (dk_at dksX2_give_0 13 rfl rfl)
theorem dX2_give_16 : decode cX2_give 16 = .ok (.aload_n 0, 1) := dk_42 (dk_at dksX2_give_0 16 rfl rfl)
theorem dX2_give_17 : decode cX2_give 17 = .ok (.getfield 7, 3) := dk_180 0 7 (dk_at dksX2_give_0 17 rfl rfl)
theorem dX2_give_20 : decode cX2_give 20 = .ok (.bipush 6, 2) := dk_16 6 (dk_at dksX2_give_0 20 rfl rfl)
theorem dX2_give_22 : decode cX2_give 22 = .ok (.iaload, 1) := dk_46 (dk_at dksX2_give_0 22 rfl rfl)
theorem dX2_give_23 : decode cX2_give 23 = .ok (.ifCond .eq 24, 3) := dk_153 0 24 (dk_at dksX2_give_1 0 rfl rfl)
theorem dX2_give_26 : decode cX2_give 26 = .ok (.iload_n 2, 1) := dk_28 (dk_at dksX2_give_1 3 rfl rfl)
theorem dX2_give_27 : decode cX2_give 27 = .ok (.iconst (-1), 1) := dk_2 (dk_at dksX2_give_1 4 rfl rfl)
theorem dX2_give_28 : decode cX2_give 28 = .ok (.if_icmp .eq 23, 3) := dk_159 0 23 (dk_at dksX2_give_1 5 rfl rfl)
theorem dX2_give_31 : decode cX2_give 31 = .ok (.aload_n 0, 1) := dk_42 (dk_at dksX2_give_1 8 rfl rfl)
theorem dX2_give_32 : decode cX2_give 32 = .ok (.iload_n 2, 1) := dk_28 (dk_at dksX2_give_1 9 rfl rfl)
theorem dX2_give_33 : decode cX2_give 33 = .ok (.invokevirtual 114, 3) := dk_182 0 114 (dk_at dksX2_give_1 10 rfl rfl)
theorem dX2_give_36 : decode cX2_give 36 = .ok (.ifCond .eq 11, 3) := dk_153 0 11 (dk_at dksX2_give_1 13 rfl rfl)
theorem dX2_give_39 : decode cX2_give 39 = .ok (.iload_n 1, 1) := dk_27 (dk_at dksX2_give_1 16 rfl rfl)
theorem dX2_give_40 : decode cX2_give 40 = .ok (.iload_n 2, 1) := dk_28 (dk_at dksX2_give_1 17 rfl rfl)
theorem dX2_give_41 : decode cX2_give 41 = .ok (.invokestatic 310, 3) := dk_184 1 54 (dk_at dksX2_give_1 18 rfl rfl)
theorem dX2_give_44 : decode cX2_give 44 = .ok (.ifCond .ne 7, 3) := dk_154 0 7 (dk_at dksX2_give_1 21 rfl rfl)
theorem dX2_give_47 : decode cX2_give 47 = .ok (.ldc_w 421, 3) := dk_19 1 165 (dk_at dksX2_give_2 0 rfl rfl)
theorem dX2_give_50 : decode cX2_give 50 = .ok (.ireturn, 1) := dk_172 (dk_at dksX2_give_2 3 rfl rfl)
theorem dX2_give_51 : decode cX2_give 51 = .ok (.aload_n 0, 1) := dk_42 (dk_at dksX2_give_2 4 rfl rfl)
theorem dX2_give_52 : decode cX2_give 52 = .ok (.invokevirtual 316, 3) := dk_182 1 60 (dk_at dksX2_give_2 5 rfl rfl)
theorem dX2_give_55 : decode cX2_give 55 = .ok (.iconst 0, 1) := dk_3 (dk_at dksX2_give_2 8 rfl rfl)
theorem dX2_give_56 : decode cX2_give 56 = .ok (.istore_n 3, 1) := dk_62 (dk_at dksX2_give_2 9 rfl rfl)
theorem dX2_give_57 : decode cX2_give 57 = .ok (.iconst 0, 1) := dk_3 (dk_at dksX2_give_2 10 rfl rfl)
theorem dX2_give_58 : decode cX2_give 58 = .ok (.istore 4, 2) := dk_54 4 (dk_at dksX2_give_2 11 rfl rfl)
theorem dX2_give_60 : decode cX2_give 60 = .ok (.iload 4, 2) := dk_21 4 (dk_at dksX2_give_2 13 rfl rfl)
theorem dX2_give_62 : decode cX2_give 62 = .ok (.aload_n 0, 1) := dk_42 (dk_at dksX2_give_2 15 rfl rfl)
theorem dX2_give_63 : decode cX2_give 63 = .ok (.getfield 7, 3) := dk_180 0 7 (dk_at dksX2_give_2 16 rfl rfl)
theorem dX2_give_66 : decode cX2_give 66 = .ok (.iconst 0, 1) := dk_3 (dk_at dksX2_give_2 19 rfl rfl)
theorem dX2_give_67 : decode cX2_give 67 = .ok (.iaload, 1) := dk_46 (dk_at dksX2_give_2 20 rfl rfl)
theorem dX2_give_68 : decode cX2_give 68 = .ok (.if_icmp .ge 32, 3) := dk_162 0 32 (dk_at dksX2_give_2 21 rfl rfl)
theorem dX2_give_71 : decode cX2_give 71 = .ok (.iload_n 1, 1) := dk_27 (dk_at dksX2_give_3 0 rfl rfl)
theorem dX2_give_72 : decode cX2_give 72 = .ok (.iload 4, 2) := dk_21 4 (dk_at dksX2_give_3 1 rfl rfl)
theorem dX2_give_74 : decode cX2_give 74 = .ok (.invokestatic 310, 3) := dk_184 1 54 (dk_at dksX2_give_3 3 rfl rfl)
theorem dX2_give_77 : decode cX2_give 77 = .ok (.ifCond .ne 6, 3) := dk_154 0 6 (dk_at dksX2_give_3 6 rfl rfl)
theorem dX2_give_80 : decode cX2_give 80 = .ok (.goto 14, 3) := dk_167 0 14 (dk_at dksX2_give_3 9 rfl rfl)
theorem dX2_give_83 : decode cX2_give 83 = .ok (.aload_n 0, 1) := dk_42 (dk_at dksX2_give_3 12 rfl rfl)
theorem dX2_give_84 : decode cX2_give 84 = .ok (.getfield 70, 3) := dk_180 0 70 (dk_at dksX2_give_3 13 rfl rfl)
theorem dX2_give_87 : decode cX2_give 87 = .ok (.iload_n 3, 1) := dk_29 (dk_at dksX2_give_3 16 rfl rfl)
theorem dX2_give_88 : decode cX2_give 88 = .ok (.iload 4, 2) := dk_21 4 (dk_at dksX2_give_3 17 rfl rfl)
theorem dX2_give_90 : decode cX2_give 90 = .ok (.iastore, 1) := dk_79 (dk_at dksX2_give_3 19 rfl rfl)
theorem dX2_give_91 : decode cX2_give 91 = .ok (.iinc 3 1, 3) := dk_132 3 1 (dk_at dksX2_give_3 20 rfl rfl)
theorem dX2_give_94 : decode cX2_give 94 = .ok (.iinc 4 1, 3) := dk_132 4 1 (dk_at dksX2_give_4 0 rfl rfl)
theorem dX2_give_97 : decode cX2_give 97 = .ok (.goto (-37), 3) := dk_167 255 219 (dk_at dksX2_give_4 3 rfl rfl)
theorem dX2_give_100 : decode cX2_give 100 = .ok (.iconst (-1), 1) := dk_2 (dk_at dksX2_give_4 6 rfl rfl)
theorem dX2_give_101 : decode cX2_give 101 = .ok (.istore 4, 2) := dk_54 4 (dk_at dksX2_give_4 7 rfl rfl)
theorem dX2_give_103 : decode cX2_give 103 = .ok (.iconst 0, 1) := dk_3 (dk_at dksX2_give_4 9 rfl rfl)
theorem dX2_give_104 : decode cX2_give 104 = .ok (.istore 5, 2) := dk_54 5 (dk_at dksX2_give_4 10 rfl rfl)
theorem dX2_give_106 : decode cX2_give 106 = .ok (.iconst 1, 1) := dk_4 (dk_at dksX2_give_4 12 rfl rfl)
theorem dX2_give_107 : decode cX2_give 107 = .ok (.istore 6, 2) := dk_54 6 (dk_at dksX2_give_4 13 rfl rfl)
theorem dX2_give_109 : decode cX2_give 109 = .ok (.iconst 0, 1) := dk_3 (dk_at dksX2_give_4 15 rfl rfl)
theorem dX2_give_110 : decode cX2_give 110 = .ok (.istore 7, 2) := dk_54 7 (dk_at dksX2_give_4 16 rfl rfl)
theorem dX2_give_112 : decode cX2_give 112 = .ok (.iload 7, 2) := dk_21 7 (dk_at dksX2_give_4 18 rfl rfl)
theorem dX2_give_114 : decode cX2_give 114 = .ok (.iload_n 3, 1) := dk_29 (dk_at dksX2_give_4 20 rfl rfl)
theorem dX2_give_115 : decode cX2_give 115 = .ok (.if_icmp .ge 21, 3) := dk_162 0 21 (dk_at dksX2_give_4 21 rfl rfl)
theorem dX2_give_118 : decode cX2_give 118 = .ok (.iload 6, 2) := dk_21 6 (dk_at dksX2_give_5 0 rfl rfl)
theorem dX2_give_120 : decode cX2_give 120 = .ok (.aload_n 0, 1) := dk_42 (dk_at dksX2_give_5 2 rfl rfl)
theorem dX2_give_121 : decode cX2_give 121 = .ok (.getfield 7, 3) := dk_180 0 7 (dk_at dksX2_give_5 3 rfl rfl)
theorem dX2_give_124 : decode cX2_give 124 = .ok (.bipush 6, 2) := dk_16 6 (dk_at dksX2_give_5 6 rfl rfl)
theorem dX2_give_126 : decode cX2_give 126 = .ok (.iaload, 1) := dk_46 (dk_at dksX2_give_5 8 rfl rfl)
theorem dX2_give_127 : decode cX2_give 127 = .ok (.imul, 1) := dk_104 (dk_at dksX2_give_5 9 rfl rfl)
theorem dX2_give_128 : decode cX2_give 128 = .ok (.istore 6, 2) := dk_54 6 (dk_at dksX2_give_5 10 rfl rfl)
theorem dX2_give_130 : decode cX2_give 130 = .ok (.iinc 7 1, 3) := dk_132 7 1 (dk_at dksX2_give_5 12 rfl rfl)
theorem dX2_give_133 : decode cX2_give 133 = .ok (.goto (-21), 3) := dk_167 255 235 (dk_at dksX2_give_5 15 rfl rfl)
theorem dX2_give_136 : decode cX2_give 136 = .ok (.iconst 0, 1) := dk_3 (dk_at dksX2_give_5 18 rfl rfl)
theorem dX2_give_137 : decode cX2_give 137 = .ok (.istore 7, 2) := dk_54 7 (dk_at dksX2_give_5 19 rfl rfl)
theorem dX2_give_139 : decode cX2_give 139 = .ok (.iload 7, 2) := dk_21 7 (dk_at dksX2_give_5 21 rfl rfl)
theorem dX2_give_141 : decode cX2_give 141 = .ok (.iload 6, 2) := dk_21 6 (dk_at dksX2_give_6 0 rfl rfl)
theorem dX2_give_143 : decode cX2_give 143 = .ok (.if_icmp .ge 148, 3) := dk_162 0 148 (dk_at dksX2_give_6 2 rfl rfl)
theorem dX2_give_146 : decode cX2_give 146 = .ok (.iload 7, 2) := dk_21 7 (dk_at dksX2_give_6 5 rfl rfl)
theorem dX2_give_148 : decode cX2_give 148 = .ok (.istore 8, 2) := dk_54 8 (dk_at dksX2_give_6 7 rfl rfl)
theorem dX2_give_150 : decode cX2_give 150 = .ok (.iload_n 3, 1) := dk_29 (dk_at dksX2_give_6 9 rfl rfl)
theorem dX2_give_151 : decode cX2_give 151 = .ok (.iconst 1, 1) := dk_4 (dk_at dksX2_give_6 10 rfl rfl)
theorem dX2_give_152 : decode cX2_give 152 = .ok (.isub, 1) := dk_100 (dk_at dksX2_give_6 11 rfl rfl)
theorem dX2_give_153 : decode cX2_give 153 = .ok (.istore 9, 2) := dk_54 9 (dk_at dksX2_give_6 12 rfl rfl)
theorem dX2_give_155 : decode cX2_give 155 = .ok (.iload 9, 2) := dk_21 9 (dk_at dksX2_give_6 14 rfl rfl)
theorem dX2_give_157 : decode cX2_give 157 = .ok (.ifCond .lt 38, 3) := dk_155 0 38 (dk_at dksX2_give_6 16 rfl rfl)
theorem dX2_give_160 : decode cX2_give 160 = .ok (.aload_n 0, 1) := dk_42 (dk_at dksX2_give_6 19 rfl rfl)
theorem dX2_give_161 : decode cX2_give 161 = .ok (.getfield 73, 3) := dk_180 0 73 (dk_at dksX2_give_6 20 rfl rfl)
theorem dX2_give_164 : decode cX2_give 164 = .ok (.iload 9, 2) := dk_21 9 (dk_at dksX2_give_7 0 rfl rfl)
theorem dX2_give_166 : decode cX2_give 166 = .ok (.iload 8, 2) := dk_21 8 (dk_at dksX2_give_7 2 rfl rfl)
theorem dX2_give_168 : decode cX2_give 168 = .ok (.aload_n 0, 1) := dk_42 (dk_at dksX2_give_7 4 rfl rfl)
theorem dX2_give_169 : decode cX2_give 169 = .ok (.getfield 7, 3) := dk_180 0 7 (dk_at dksX2_give_7 5 rfl rfl)
theorem dX2_give_172 : decode cX2_give 172 = .ok (.bipush 6, 2) := dk_16 6 (dk_at dksX2_give_7 8 rfl rfl)
theorem dX2_give_174 : decode cX2_give 174 = .ok (.iaload, 1) := dk_46 (dk_at dksX2_give_7 10 rfl rfl)
theorem dX2_give_175 : decode cX2_give 175 = .ok (.irem, 1) := dk_112 (dk_at dksX2_give_7 11 rfl rfl)
theorem dX2_give_176 : decode cX2_give 176 = .ok (.iastore, 1) := dk_79 (dk_at dksX2_give_7 12 rfl rfl)
theorem dX2_give_177 : decode cX2_give 177 = .ok (.iload 8, 2) := dk_21 8 (dk_at dksX2_give_7 13 rfl rfl)
theorem dX2_give_179 : decode cX2_give 179 = .ok (.aload_n 0, 1) := dk_42 (dk_at dksX2_give_7 15 rfl rfl)
theorem dX2_give_180 : decode cX2_give 180 = .ok (.getfield 7, 3) := dk_180 0 7 (dk_at dksX2_give_7 16 rfl rfl)
theorem dX2_give_183 : decode cX2_give 183 = .ok (.bipush 6, 2) := dk_16 6 (dk_at dksX2_give_7 19 rfl rfl)
theorem dX2_give_185 : decode cX2_give 185 = .ok (.iaload, 1) := dk_46 (dk_at dksX2_give_7 21 rfl rfl)
theorem dX2_give_186 : decode cX2_give 186 = .ok (.idiv, 1) := dk_108 (dk_at dksX2_give_7 22 rfl rfl)
theorem dX2_give_187 : decode cX2_give 187 = .ok (.istore 8, 2) := dk_54 8 (dk_at dksX2_give_8 0 rfl rfl)
theorem dX2_give_189 : decode cX2_give 189 = .ok (.iinc 9 (-1), 3) := dk_132 9 255 (dk_at dksX2_give_8 2 rfl rfl)
theorem dX2_give_192 : decode cX2_give 192 = .ok (.goto (-37), 3) := dk_167 255 219 (dk_at dksX2_give_8 5 rfl rfl)
theorem dX2_give_195 : decode cX2_give 195 = .ok (.iconst 0, 1) := dk_3 (dk_at dksX2_give_8 8 rfl rfl)
theorem dX2_give_196 : decode cX2_give 196 = .ok (.istore 9, 2) := dk_54 9 (dk_at dksX2_give_8 9 rfl rfl)
theorem dX2_give_198 : decode cX2_give 198 = .ok (.iload 9, 2) := dk_21 9 (dk_at dksX2_give_8 11 rfl rfl)
theorem dX2_give_200 : decode cX2_give 200 = .ok (.iload_n 3, 1) := dk_29 (dk_at dksX2_give_8 13 rfl rfl)
theorem dX2_give_201 : decode cX2_give 201 = .ok (.if_icmp .ge 27, 3) := dk_162 0 27 (dk_at dksX2_give_8 14 rfl rfl)
theorem dX2_give_204 : decode cX2_give 204 = .ok (.aload_n 0, 1) := dk_42 (dk_at dksX2_give_8 17 rfl rfl)
theorem dX2_give_205 : decode cX2_give 205 = .ok (.aload_n 0, 1) := dk_42 (dk_at dksX2_give_8 18 rfl rfl)
theorem dX2_give_206 : decode cX2_give 206 = .ok (.getfield 70, 3) := dk_180 0 70 (dk_at dksX2_give_8 19 rfl rfl)
theorem dX2_give_209 : decode cX2_give 209 = .ok (.iload 9, 2) := dk_21 9 (dk_at dksX2_give_8 22 rfl rfl)
theorem dX2_give_211 : decode cX2_give 211 = .ok (.iaload, 1) := dk_46 (dk_at dksX2_give_9 0 rfl rfl)
theorem dX2_give_212 : decode cX2_give 212 = .ok (.aload_n 0, 1) := dk_42 (dk_at dksX2_give_9 1 rfl rfl)
theorem dX2_give_213 : decode cX2_give 213 = .ok (.getfield 73, 3) := dk_180 0 73 (dk_at dksX2_give_9 2 rfl rfl)
theorem dX2_give_216 : decode cX2_give 216 = .ok (.iload 9, 2) := dk_21 9 (dk_at dksX2_give_9 5 rfl rfl)
theorem dX2_give_218 : decode cX2_give 218 = .ok (.iaload, 1) := dk_46 (dk_at dksX2_give_9 7 rfl rfl)
theorem dX2_give_219 : decode cX2_give 219 = .ok (.invokevirtual 425, 3) := dk_182 1 169 (dk_at dksX2_give_9 8 rfl rfl)
theorem dX2_give_222 : decode cX2_give 222 = .ok (.iinc 9 1, 3) := dk_132 9 1 (dk_at dksX2_give_9 11 rfl rfl)
theorem dX2_give_225 : decode cX2_give 225 = .ok (.goto (-27), 3) := dk_167 255 229 (dk_at dksX2_give_9 14 rfl rfl)
theorem dX2_give_228 : decode cX2_give 228 = .ok (.aload_n 0, 1) := dk_42 (dk_at dksX2_give_9 17 rfl rfl)
theorem dX2_give_229 : decode cX2_give 229 = .ok (.invokevirtual 422, 3) := dk_182 1 166 (dk_at dksX2_give_9 18 rfl rfl)
theorem dX2_give_232 : decode cX2_give 232 = .ok (.istore 9, 2) := dk_54 9 (dk_at dksX2_give_9 21 rfl rfl)
theorem dX2_give_234 : decode cX2_give 234 = .ok (.iload 5, 2) := dk_21 5 (dk_at dksX2_give_10 0 rfl rfl)
theorem dX2_give_236 : decode cX2_give 236 = .ok (.ifCond .eq 13, 3) := dk_153 0 13 (dk_at dksX2_give_10 2 rfl rfl)
theorem dX2_give_239 : decode cX2_give 239 = .ok (.iload 9, 2) := dk_21 9 (dk_at dksX2_give_10 5 rfl rfl)
theorem dX2_give_241 : decode cX2_give 241 = .ok (.iload 4, 2) := dk_21 4 (dk_at dksX2_give_10 7 rfl rfl)
theorem dX2_give_243 : decode cX2_give 243 = .ok (.if_icmp .gt 6, 3) := dk_163 0 6 (dk_at dksX2_give_10 9 rfl rfl)
theorem dX2_give_246 : decode cX2_give 246 = .ok (.goto 39, 3) := dk_167 0 39 (dk_at dksX2_give_10 12 rfl rfl)
theorem dX2_give_249 : decode cX2_give 249 = .ok (.iconst 1, 1) := dk_4 (dk_at dksX2_give_10 15 rfl rfl)
theorem dX2_give_250 : decode cX2_give 250 = .ok (.istore 5, 2) := dk_54 5 (dk_at dksX2_give_10 16 rfl rfl)
theorem dX2_give_252 : decode cX2_give 252 = .ok (.iload 9, 2) := dk_21 9 (dk_at dksX2_give_10 18 rfl rfl)
theorem dX2_give_254 : decode cX2_give 254 = .ok (.istore 4, 2) := dk_54 4 (dk_at dksX2_give_10 20 rfl rfl)
theorem dX2_give_256 : decode cX2_give 256 = .ok (.iconst 0, 1) := dk_3 (dk_at dksX2_give_10 22 rfl rfl)
theorem dX2_give_257 : decode cX2_give 257 = .ok (.istore 10, 2) := dk_54 10 (dk_at dksX2_give_11 0 rfl rfl)
theorem dX2_give_259 : decode cX2_give 259 = .ok (.iload 10, 2) := dk_21 10 (dk_at dksX2_give_11 2 rfl rfl)
theorem dX2_give_261 : decode cX2_give 261 = .ok (.iload_n 3, 1) := dk_29 (dk_at dksX2_give_11 4 rfl rfl)
theorem dX2_give_262 : decode cX2_give 262 = .ok (.if_icmp .ge 23, 3) := dk_162 0 23 (dk_at dksX2_give_11 5 rfl rfl)
theorem dX2_give_265 : decode cX2_give 265 = .ok (.aload_n 0, 1) := dk_42 (dk_at dksX2_give_11 8 rfl rfl)
theorem dX2_give_266 : decode cX2_give 266 = .ok (.getfield 76, 3) := dk_180 0 76 (dk_at dksX2_give_11 9 rfl rfl)
theorem dX2_give_269 : decode cX2_give 269 = .ok (.iload 10, 2) := dk_21 10 (dk_at dksX2_give_11 12 rfl rfl)
theorem dX2_give_271 : decode cX2_give 271 = .ok (.aload_n 0, 1) := dk_42 (dk_at dksX2_give_11 14 rfl rfl)
theorem dX2_give_272 : decode cX2_give 272 = .ok (.getfield 73, 3) := dk_180 0 73 (dk_at dksX2_give_11 15 rfl rfl)
theorem dX2_give_275 : decode cX2_give 275 = .ok (.iload 10, 2) := dk_21 10 (dk_at dksX2_give_11 18 rfl rfl)
theorem dX2_give_277 : decode cX2_give 277 = .ok (.iaload, 1) := dk_46 (dk_at dksX2_give_11 20 rfl rfl)
theorem dX2_give_278 : decode cX2_give 278 = .ok (.iastore, 1) := dk_79 (dk_at dksX2_give_11 21 rfl rfl)
theorem dX2_give_279 : decode cX2_give 279 = .ok (.iinc 10 1, 3) := dk_132 10 1 (dk_at dksX2_give_12 0 rfl rfl)
theorem dX2_give_282 : decode cX2_give 282 = .ok (.goto (-23), 3) := dk_167 255 233 (dk_at dksX2_give_12 3 rfl rfl)
theorem dX2_give_285 : decode cX2_give 285 = .ok (.iinc 7 1, 3) := dk_132 7 1 (dk_at dksX2_give_12 6 rfl rfl)
theorem dX2_give_288 : decode cX2_give 288 = .ok (.goto (-149), 3) := dk_167 255 107 (dk_at dksX2_give_12 9 rfl rfl)
theorem dX2_give_291 : decode cX2_give 291 = .ok (.iload_n 2, 1) := dk_28 (dk_at dksX2_give_12 12 rfl rfl)
theorem dX2_give_292 : decode cX2_give 292 = .ok (.ifCond .ge 6, 3) := dk_156 0 6 (dk_at dksX2_give_12 13 rfl rfl)
theorem dX2_give_295 : decode cX2_give 295 = .ok (.iload 4, 2) := dk_21 4 (dk_at dksX2_give_12 16 rfl rfl)
theorem dX2_give_297 : decode cX2_give 297 = .ok (.ireturn, 1) := dk_172 (dk_at dksX2_give_12 18 rfl rfl)
theorem dX2_give_298 : decode cX2_give 298 = .ok (.iconst 0, 1) := dk_3 (dk_at dksX2_give_12 19 rfl rfl)
theorem dX2_give_299 : decode cX2_give 299 = .ok (.istore 7, 2) := dk_54 7 (dk_at dksX2_give_12 20 rfl rfl)
theorem dX2_give_301 : decode cX2_give 301 = .ok (.iload 7, 2) := dk_21 7 (dk_at dksX2_give_12 22 rfl rfl)
theorem dX2_give_303 : decode cX2_give 303 = .ok (.iload_n 3, 1) := dk_29 (dk_at dksX2_give_13 0 rfl rfl)
theorem dX2_give_304 : decode cX2_give 304 = .ok (.if_icmp .ge 36, 3) := dk_162 0 36 (dk_at dksX2_give_13 1 rfl rfl)
theorem dX2_give_307 : decode cX2_give 307 = .ok (.aload_n 0, 1) := dk_42 (dk_at dksX2_give_13 4 rfl rfl)
theorem dX2_give_308 : decode cX2_give 308 = .ok (.getfield 70, 3) := dk_180 0 70 (dk_at dksX2_give_13 5 rfl rfl)
theorem dX2_give_311 : decode cX2_give 311 = .ok (.iload 7, 2) := dk_21 7 (dk_at dksX2_give_13 8 rfl rfl)
theorem dX2_give_313 : decode cX2_give 313 = .ok (.iaload, 1) := dk_46 (dk_at dksX2_give_13 10 rfl rfl)
theorem dX2_give_314 : decode cX2_give 314 = .ok (.iload_n 2, 1) := dk_28 (dk_at dksX2_give_13 11 rfl rfl)
theorem dX2_give_315 : decode cX2_give 315 = .ok (.if_icmp .ne 19, 3) := dk_160 0 19 (dk_at dksX2_give_13 12 rfl rfl)
theorem dX2_give_318 : decode cX2_give 318 = .ok (.aload_n 0, 1) := dk_42 (dk_at dksX2_give_13 15 rfl rfl)
theorem dX2_give_319 : decode cX2_give 319 = .ok (.getfield 7, 3) := dk_180 0 7 (dk_at dksX2_give_13 16 rfl rfl)
theorem dX2_give_322 : decode cX2_give 322 = .ok (.bipush 55, 2) := dk_16 55 (dk_at dksX2_give_13 19 rfl rfl)
theorem dX2_give_324 : decode cX2_give 324 = .ok (.aload_n 0, 1) := dk_42 (dk_at dksX2_give_13 21 rfl rfl)
theorem dX2_give_325 : decode cX2_give 325 = .ok (.getfield 76, 3) := dk_180 0 76 (dk_at dksX2_give_14 0 rfl rfl)
theorem dX2_give_328 : decode cX2_give 328 = .ok (.iload 7, 2) := dk_21 7 (dk_at dksX2_give_14 3 rfl rfl)
theorem dX2_give_330 : decode cX2_give 330 = .ok (.iaload, 1) := dk_46 (dk_at dksX2_give_14 5 rfl rfl)
theorem dX2_give_331 : decode cX2_give 331 = .ok (.iadd, 1) := dk_96 (dk_at dksX2_give_14 6 rfl rfl)
theorem dX2_give_332 : decode cX2_give 332 = .ok (.iaload, 1) := dk_46 (dk_at dksX2_give_14 7 rfl rfl)
theorem dX2_give_333 : decode cX2_give 333 = .ok (.ireturn, 1) := dk_172 (dk_at dksX2_give_14 8 rfl rfl)
theorem dX2_give_334 : decode cX2_give 334 = .ok (.iinc 7 1, 3) := dk_132 7 1 (dk_at dksX2_give_14 9 rfl rfl)
theorem dX2_give_337 : decode cX2_give 337 = .ok (.goto (-36), 3) := dk_167 255 220 (dk_at dksX2_give_14 12 rfl rfl)
theorem dX2_give_340 : decode cX2_give 340 = .ok (.ldc_w 421, 3) := dk_19 1 165 (dk_at dksX2_give_14 15 rfl rfl)
theorem dX2_give_343 : decode cX2_give 343 = .ok (.ireturn, 1) := dk_172 (dk_at dksX2_give_14 18 rfl rfl)
abbrev cX2_giveTo : ByteArray := prog_17_method_99_code
def yX2_giveTo : MethodName := ⟨RX2, "giveTo", "(II)V"⟩
def dkwX2_giveTo_0 : List UInt8 := [42, 180, 0, 49, 27, 42, 180, 0, 7, 16, 55, 28, 96, 46, 79, 42, 27, 182, 1, 31, 177]
abbrev dktX2_giveTo_0 : List UInt8 := dkwX2_giveTo_0 ++ []
theorem dksX2_giveTo_0 : cX2_giveTo.data.toList.drop 0 = dktX2_giveTo_0 := by decide +kernel
theorem dX2_giveTo_0 : decode cX2_giveTo 0 = .ok (.aload_n 0, 1) := dk_42 (dk_at dksX2_giveTo_0 0 rfl rfl)
theorem dX2_giveTo_1 : decode cX2_giveTo 1 = .ok (.getfield 49, 3) := dk_180 0 49 (dk_at dksX2_giveTo_0 1 rfl rfl)
theorem dX2_giveTo_4 : decode cX2_giveTo 4 = .ok (.iload_n 1, 1) := dk_27 (dk_at dksX2_giveTo_0 4 rfl rfl)
theorem dX2_giveTo_5 : decode cX2_giveTo 5 = .ok (.aload_n 0, 1) := dk_42 (dk_at dksX2_giveTo_0 5 rfl rfl)
theorem dX2_giveTo_6 : decode cX2_giveTo 6 = .ok (.getfield 7, 3) := dk_180 0 7 (dk_at dksX2_giveTo_0 6 rfl rfl)
theorem dX2_giveTo_9 : decode cX2_giveTo 9 = .ok (.bipush 55, 2) := dk_16 55 (dk_at dksX2_giveTo_0 9 rfl rfl)
theorem dX2_giveTo_11 : decode cX2_giveTo 11 = .ok (.iload_n 2, 1) := dk_28 (dk_at dksX2_giveTo_0 11 rfl rfl)
theorem dX2_giveTo_12 : decode cX2_giveTo 12 = .ok (.iadd, 1) := dk_96 (dk_at dksX2_giveTo_0 12 rfl rfl)
theorem dX2_giveTo_13 : decode cX2_giveTo 13 = .ok (.iaload, 1) := dk_46 (dk_at dksX2_giveTo_0 13 rfl rfl)
theorem dX2_giveTo_14 : decode cX2_giveTo 14 = .ok (.iastore, 1) := dk_79 (dk_at dksX2_giveTo_0 14 rfl rfl)
theorem dX2_giveTo_15 : decode cX2_giveTo 15 = .ok (.aload_n 0, 1) := dk_42 (dk_at dksX2_giveTo_0 15 rfl rfl)
theorem dX2_giveTo_16 : decode cX2_giveTo 16 = .ok (.iload_n 1, 1) := dk_27 (dk_at dksX2_giveTo_0 16 rfl rfl)
theorem dX2_giveTo_17 : decode cX2_giveTo 17 = .ok (.invokevirtual 287, 3) := dk_182 1 31 (dk_at dksX2_giveTo_0 17 rfl rfl)
theorem dX2_giveTo_20 : decode cX2_giveTo 20 = .ok (.return_, 1) := dk_177 (dk_at dksX2_giveTo_0 20 rfl rfl)
abbrev cX2_mend : ByteArray := prog_17_method_101_code
def yX2_mend : MethodName := ⟨RX2, "mend", "(I)I"⟩
def dkwX2_mend_6 : List UInt8 := [167, 0, 22, 27, 154, 0, 7, 29, 167, 0, 14, 27, 4, 160, 0, 8, 21, 4, 167, 0, 4, 28, 172]
abbrev dktX2_mend_6 : List UInt8 := dkwX2_mend_6 ++ []
def dkwX2_mend_5 : List UInt8 := [104, 96, 46, 79, 42, 21, 5, 182, 1, 31, 132, 5, 1, 167, 255, 155, 29, 156, 0, 9, 19, 1, 165]
abbrev dktX2_mend_5 : List UInt8 := dkwX2_mend_5 ++ dktX2_mend_6
def dkwX2_mend_4 : List UInt8 := [46, 54, 4, 132, 6, 1, 167, 255, 200, 42, 180, 0, 49, 21, 5, 42, 180, 0, 7, 16, 10, 5, 21, 5]
abbrev dktX2_mend_4 : List UInt8 := dkwX2_mend_4 ++ dktX2_mend_5
def dkwX2_mend_3 : List UInt8 := [21, 7, 28, 163, 0, 6, 167, 0, 21, 21, 7, 61, 21, 5, 62, 42, 180, 0, 7, 16, 55, 21, 6, 96]
abbrev dktX2_mend_3 : List UInt8 := dkwX2_mend_3 ++ dktX2_mend_4
def dkwX2_mend_2 : List UInt8 := [180, 0, 7, 16, 6, 46, 162, 0, 50, 42, 21, 5, 21, 6, 182, 1, 169, 42, 182, 1, 166, 54, 7]
abbrev dktX2_mend_2 : List UInt8 := dkwX2_mend_2 ++ dktX2_mend_3
def dkwX2_mend_1 : List UInt8 := [3, 54, 4, 3, 54, 5, 21, 5, 42, 180, 0, 7, 3, 46, 162, 0, 96, 3, 54, 6, 21, 6, 42]
abbrev dktX2_mend_1 : List UInt8 := dkwX2_mend_1 ++ dktX2_mend_2
def dkwX2_mend_0 : List UInt8 := [27, 3, 5, 184, 0, 104, 154, 0, 7, 19, 1, 165, 172, 42, 182, 1, 60, 42, 182, 1, 166, 61, 2, 62]
abbrev dktX2_mend_0 : List UInt8 := dkwX2_mend_0 ++ dktX2_mend_1
theorem dksX2_mend_0 : cX2_mend.data.toList.drop 0 = dktX2_mend_0 := by decide +kernel
theorem dksX2_mend_1 : cX2_mend.data.toList.drop 24 = dktX2_mend_1 := dk_seg dksX2_mend_0 24 rfl rfl
theorem dksX2_mend_2 : cX2_mend.data.toList.drop 47 = dktX2_mend_2 := dk_seg dksX2_mend_1 23 rfl rfl
theorem dksX2_mend_3 : cX2_mend.data.toList.drop 70 = dktX2_mend_3 := dk_seg dksX2_mend_2 23 rfl rfl
theorem dksX2_mend_4 : cX2_mend.data.toList.drop 94 = dktX2_mend_4 := dk_seg dksX2_mend_3 24 rfl rfl
theorem dksX2_mend_5 : cX2_mend.data.toList.drop 118 = dktX2_mend_5 := dk_seg dksX2_mend_4 24 rfl rfl
theorem dksX2_mend_6 : cX2_mend.data.toList.drop 141 = dktX2_mend_6 := dk_seg dksX2_mend_5 23 rfl rfl
theorem dX2_mend_0 : decode cX2_mend 0 = .ok (.iload_n 1, 1) := dk_27 (dk_at dksX2_mend_0 0 rfl rfl)
theorem dX2_mend_1 : decode cX2_mend 1 = .ok (.iconst 0, 1) := dk_3 (dk_at dksX2_mend_0 1 rfl rfl)
theorem dX2_mend_2 : decode cX2_mend 2 = .ok (.iconst 2, 1) := dk_5 (dk_at dksX2_mend_0 2 rfl rfl)
theorem dX2_mend_3 : decode cX2_mend 3 = .ok (.invokestatic 104, 3) := dk_184 0 104 (dk_at dksX2_mend_0 3 rfl rfl)
theorem dX2_mend_6 : decode cX2_mend 6 = .ok (.ifCond .ne 7, 3) := dk_154 0 7 (dk_at dksX2_mend_0 6 rfl rfl)
theorem dX2_mend_9 : decode cX2_mend 9 = .ok (.ldc_w 421, 3) := dk_19 1 165 (dk_at dksX2_mend_0 9 rfl rfl)
theorem dX2_mend_12 : decode cX2_mend 12 = .ok (.ireturn, 1) := dk_172 (dk_at dksX2_mend_0 12 rfl rfl)
theorem dX2_mend_13 : decode cX2_mend 13 = .ok (.aload_n 0, 1) := dk_42 (dk_at dksX2_mend_0 13 rfl rfl)
theorem dX2_mend_14 : decode cX2_mend 14 = .ok (.invokevirtual 316, 3) := dk_182 1 60 (dk_at dksX2_mend_0 14 rfl rfl)
theorem dX2_mend_17 : decode cX2_mend 17 = .ok (.aload_n 0, 1) := dk_42 (dk_at dksX2_mend_0 17 rfl rfl)
theorem dX2_mend_18 : decode cX2_mend 18 = .ok (.invokevirtual 422, 3) := dk_182 1 166 (dk_at dksX2_mend_0 18 rfl rfl)
theorem dX2_mend_21 : decode cX2_mend 21 = .ok (.istore_n 2, 1) := dk_61 (dk_at dksX2_mend_0 21 rfl rfl)
theorem dX2_mend_22 : decode cX2_mend 22 = .ok (.iconst (-1), 1) := dk_2 (dk_at dksX2_mend_0 22 rfl rfl)
theorem dX2_mend_23 : decode cX2_mend 23 = .ok (.istore_n 3, 1) := dk_62 (dk_at dksX2_mend_0 23 rfl rfl)
theorem dX2_mend_24 : decode cX2_mend 24 = .ok (.iconst 0, 1) := dk_3 (dk_at dksX2_mend_1 0 rfl rfl)
theorem dX2_mend_25 : decode cX2_mend 25 = .ok (.istore 4, 2) := dk_54 4 (dk_at dksX2_mend_1 1 rfl rfl)
theorem dX2_mend_27 : decode cX2_mend 27 = .ok (.iconst 0, 1) := dk_3 (dk_at dksX2_mend_1 3 rfl rfl)
theorem dX2_mend_28 : decode cX2_mend 28 = .ok (.istore 5, 2) := dk_54 5 (dk_at dksX2_mend_1 4 rfl rfl)
theorem dX2_mend_30 : decode cX2_mend 30 = .ok (.iload 5, 2) := dk_21 5 (dk_at dksX2_mend_1 6 rfl rfl)
theorem dX2_mend_32 : decode cX2_mend 32 = .ok (.aload_n 0, 1) := dk_42 (dk_at dksX2_mend_1 8 rfl rfl)
theorem dX2_mend_33 : decode cX2_mend 33 = .ok (.getfield 7, 3) := dk_180 0 7 (dk_at dksX2_mend_1 9 rfl rfl)
theorem dX2_mend_36 : decode cX2_mend 36 = .ok (.iconst 0, 1) := dk_3 (dk_at dksX2_mend_1 12 rfl rfl)
theorem dX2_mend_37 : decode cX2_mend 37 = .ok (.iaload, 1) := dk_46 (dk_at dksX2_mend_1 13 rfl rfl)
theorem dX2_mend_38 : decode cX2_mend 38 = .ok (.if_icmp .ge 96, 3) := dk_162 0 96 (dk_at dksX2_mend_1 14 rfl rfl)
theorem dX2_mend_41 : decode cX2_mend 41 = .ok (.iconst 0, 1) := dk_3 (dk_at dksX2_mend_1 17 rfl rfl)
theorem dX2_mend_42 : decode cX2_mend 42 = .ok (.istore 6, 2) := dk_54 6 (dk_at dksX2_mend_1 18 rfl rfl)
theorem dX2_mend_44 : decode cX2_mend 44 = .ok (.iload 6, 2) := dk_21 6 (dk_at dksX2_mend_1 20 rfl rfl)
theorem dX2_mend_46 : decode cX2_mend 46 = .ok (.aload_n 0, 1) := dk_42 (dk_at dksX2_mend_1 22 rfl rfl)
theorem dX2_mend_47 : decode cX2_mend 47 = .ok (.getfield 7, 3) := dk_180 0 7 (dk_at dksX2_mend_2 0 rfl rfl)
theorem dX2_mend_50 : decode cX2_mend 50 = .ok (.bipush 6, 2) := dk_16 6 (dk_at dksX2_mend_2 3 rfl rfl)
theorem dX2_mend_52 : decode cX2_mend 52 = .ok (.iaload, 1) := dk_46 (dk_at dksX2_mend_2 5 rfl rfl)
theorem dX2_mend_53 : decode cX2_mend 53 = .ok (.if_icmp .ge 50, 3) := dk_162 0 50 (dk_at dksX2_mend_2 6 rfl rfl)
theorem dX2_mend_56 : decode cX2_mend 56 = .ok (.aload_n 0, 1) := dk_42 (dk_at dksX2_mend_2 9 rfl rfl)
theorem dX2_mend_57 : decode cX2_mend 57 = .ok (.iload 5, 2) := dk_21 5 (dk_at dksX2_mend_2 10 rfl rfl)
theorem dX2_mend_59 : decode cX2_mend 59 = .ok (.iload 6, 2) := dk_21 6 (dk_at dksX2_mend_2 12 rfl rfl)
theorem dX2_mend_61 : decode cX2_mend 61 = .ok (.invokevirtual 425, 3) := dk_182 1 169 (dk_at dksX2_mend_2 14 rfl rfl)
theorem dX2_mend_64 : decode cX2_mend 64 = .ok (.aload_n 0, 1) := dk_42 (dk_at dksX2_mend_2 17 rfl rfl)
theorem dX2_mend_65 : decode cX2_mend 65 = .ok (.invokevirtual 422, 3) := dk_182 1 166 (dk_at dksX2_mend_2 18 rfl rfl)
theorem dX2_mend_68 : decode cX2_mend 68 = .ok (.istore 7, 2) := dk_54 7 (dk_at dksX2_mend_2 21 rfl rfl)
theorem dX2_mend_70 : decode cX2_mend 70 = .ok (.iload 7, 2) := dk_21 7 (dk_at dksX2_mend_3 0 rfl rfl)
theorem dX2_mend_72 : decode cX2_mend 72 = .ok (.iload_n 2, 1) := dk_28 (dk_at dksX2_mend_3 2 rfl rfl)
theorem dX2_mend_73 : decode cX2_mend 73 = .ok (.if_icmp .gt 6, 3) := dk_163 0 6 (dk_at dksX2_mend_3 3 rfl rfl)
theorem dX2_mend_76 : decode cX2_mend 76 = .ok (.goto 21, 3) := dk_167 0 21 (dk_at dksX2_mend_3 6 rfl rfl)
theorem dX2_mend_79 : decode cX2_mend 79 = .ok (.iload 7, 2) := dk_21 7 (dk_at dksX2_mend_3 9 rfl rfl)
theorem dX2_mend_81 : decode cX2_mend 81 = .ok (.istore_n 2, 1) := dk_61 (dk_at dksX2_mend_3 11 rfl rfl)
theorem dX2_mend_82 : decode cX2_mend 82 = .ok (.iload 5, 2) := dk_21 5 (dk_at dksX2_mend_3 12 rfl rfl)
theorem dX2_mend_84 : decode cX2_mend 84 = .ok (.istore_n 3, 1) := dk_62 (dk_at dksX2_mend_3 14 rfl rfl)
theorem dX2_mend_85 : decode cX2_mend 85 = .ok (.aload_n 0, 1) := dk_42 (dk_at dksX2_mend_3 15 rfl rfl)
theorem dX2_mend_86 : decode cX2_mend 86 = .ok (.getfield 7, 3) := dk_180 0 7 (dk_at dksX2_mend_3 16 rfl rfl)
theorem dX2_mend_89 : decode cX2_mend 89 = .ok (.bipush 55, 2) := dk_16 55 (dk_at dksX2_mend_3 19 rfl rfl)
theorem dX2_mend_91 : decode cX2_mend 91 = .ok (.iload 6, 2) := dk_21 6 (dk_at dksX2_mend_3 21 rfl rfl)
theorem dX2_mend_93 : decode cX2_mend 93 = .ok (.iadd, 1) := dk_96 (dk_at dksX2_mend_3 23 rfl rfl)
theorem dX2_mend_94 : decode cX2_mend 94 = .ok (.iaload, 1) := dk_46 (dk_at dksX2_mend_4 0 rfl rfl)
theorem dX2_mend_95 : decode cX2_mend 95 = .ok (.istore 4, 2) := dk_54 4 (dk_at dksX2_mend_4 1 rfl rfl)
theorem dX2_mend_97 : decode cX2_mend 97 = .ok (.iinc 6 1, 3) := dk_132 6 1 (dk_at dksX2_mend_4 3 rfl rfl)
theorem dX2_mend_100 : decode cX2_mend 100 = .ok (.goto (-56), 3) := dk_167 255 200 (dk_at dksX2_mend_4 6 rfl rfl)
theorem dX2_mend_103 : decode cX2_mend 103 = .ok (.aload_n 0, 1) := dk_42 (dk_at dksX2_mend_4 9 rfl rfl)
theorem dX2_mend_104 : decode cX2_mend 104 = .ok (.getfield 49, 3) := dk_180 0 49 (dk_at dksX2_mend_4 10 rfl rfl)
theorem dX2_mend_107 : decode cX2_mend 107 = .ok (.iload 5, 2) := dk_21 5 (dk_at dksX2_mend_4 13 rfl rfl)
theorem dX2_mend_109 : decode cX2_mend 109 = .ok (.aload_n 0, 1) := dk_42 (dk_at dksX2_mend_4 15 rfl rfl)
theorem dX2_mend_110 : decode cX2_mend 110 = .ok (.getfield 7, 3) := dk_180 0 7 (dk_at dksX2_mend_4 16 rfl rfl)
theorem dX2_mend_113 : decode cX2_mend 113 = .ok (.bipush 10, 2) := dk_16 10 (dk_at dksX2_mend_4 19 rfl rfl)
theorem dX2_mend_115 : decode cX2_mend 115 = .ok (.iconst 2, 1) := dk_5 (dk_at dksX2_mend_4 21 rfl rfl)
theorem dX2_mend_116 : decode cX2_mend 116 = .ok (.iload 5, 2) := dk_21 5 (dk_at dksX2_mend_4 22 rfl rfl)
theorem dX2_mend_118 : decode cX2_mend 118 = .ok (.imul, 1) := dk_104 (dk_at dksX2_mend_5 0 rfl rfl)
theorem dX2_mend_119 : decode cX2_mend 119 = .ok (.iadd, 1) := dk_96 (dk_at dksX2_mend_5 1 rfl rfl)
theorem dX2_mend_120 : decode cX2_mend 120 = .ok (.iaload, 1) := dk_46 (dk_at dksX2_mend_5 2 rfl rfl)
theorem dX2_mend_121 : decode cX2_mend 121 = .ok (.iastore, 1) := dk_79 (dk_at dksX2_mend_5 3 rfl rfl)
theorem dX2_mend_122 : decode cX2_mend 122 = .ok (.aload_n 0, 1) := dk_42 (dk_at dksX2_mend_5 4 rfl rfl)
theorem dX2_mend_123 : decode cX2_mend 123 = .ok (.iload 5, 2) := dk_21 5 (dk_at dksX2_mend_5 5 rfl rfl)
theorem dX2_mend_125 : decode cX2_mend 125 = .ok (.invokevirtual 287, 3) := dk_182 1 31 (dk_at dksX2_mend_5 7 rfl rfl)
theorem dX2_mend_128 : decode cX2_mend 128 = .ok (.iinc 5 1, 3) := dk_132 5 1 (dk_at dksX2_mend_5 10 rfl rfl)
theorem dX2_mend_131 : decode cX2_mend 131 = .ok (.goto (-101), 3) := dk_167 255 155 (dk_at dksX2_mend_5 13 rfl rfl)
theorem dX2_mend_134 : decode cX2_mend 134 = .ok (.iload_n 3, 1) := dk_29 (dk_at dksX2_mend_5 16 rfl rfl)
theorem dX2_mend_135 : decode cX2_mend 135 = .ok (.ifCond .ge 9, 3) := dk_156 0 9 (dk_at dksX2_mend_5 17 rfl rfl)
theorem dX2_mend_138 : decode cX2_mend 138 = .ok (.ldc_w 421, 3) := dk_19 1 165 (dk_at dksX2_mend_5 20 rfl rfl)
theorem dX2_mend_141 : decode cX2_mend 141 = .ok (.goto 22, 3) := dk_167 0 22 (dk_at dksX2_mend_6 0 rfl rfl)
theorem dX2_mend_144 : decode cX2_mend 144 = .ok (.iload_n 1, 1) := dk_27 (dk_at dksX2_mend_6 3 rfl rfl)
theorem dX2_mend_145 : decode cX2_mend 145 = .ok (.ifCond .ne 7, 3) := dk_154 0 7 (dk_at dksX2_mend_6 4 rfl rfl)
theorem dX2_mend_148 : decode cX2_mend 148 = .ok (.iload_n 3, 1) := dk_29 (dk_at dksX2_mend_6 7 rfl rfl)
theorem dX2_mend_149 : decode cX2_mend 149 = .ok (.goto 14, 3) := dk_167 0 14 (dk_at dksX2_mend_6 8 rfl rfl)
theorem dX2_mend_152 : decode cX2_mend 152 = .ok (.iload_n 1, 1) := dk_27 (dk_at dksX2_mend_6 11 rfl rfl)
theorem dX2_mend_153 : decode cX2_mend 153 = .ok (.iconst 1, 1) := dk_4 (dk_at dksX2_mend_6 12 rfl rfl)
theorem dX2_mend_154 : decode cX2_mend 154 = .ok (.if_icmp .ne 8, 3) := dk_160 0 8 (dk_at dksX2_mend_6 13 rfl rfl)
theorem dX2_mend_157 : decode cX2_mend 157 = .ok (.iload 4, 2) := dk_21 4 (dk_at dksX2_mend_6 16 rfl rfl)
theorem dX2_mend_159 : decode cX2_mend 159 = .ok (.goto 4, 3) := dk_167 0 4 (dk_at dksX2_mend_6 18 rfl rfl)
theorem dX2_mend_162 : decode cX2_mend 162 = .ok (.iload_n 2, 1) := dk_28 (dk_at dksX2_mend_6 21 rfl rfl)
theorem dX2_mend_163 : decode cX2_mend 163 = .ok (.ireturn, 1) := dk_172 (dk_at dksX2_mend_6 22 rfl rfl)
abbrev cX2_cover : ByteArray := prog_17_method_104_code
def yX2_cover : MethodName := ⟨RX2, "cover", "()I"⟩
def dkwX2_cover_6 : List UInt8 := [167, 255, 205, 2, 172]
abbrev dktX2_cover_6 : List UInt8 := dkwX2_cover_6 ++ []
def dkwX2_cover_5 : List UInt8 := [160, 0, 13, 42, 29, 182, 1, 177, 153, 0, 5, 29, 172, 132, 3, 1, 167, 255, 223, 132, 2, 1]
abbrev dktX2_cover_5 : List UInt8 := dkwX2_cover_5 ++ dktX2_cover_6
def dkwX2_cover_4 : List UInt8 := [163, 0, 47, 4, 62, 29, 4, 42, 180, 0, 7, 3, 46, 120, 162, 0, 27, 29, 184, 1, 144, 28]
abbrev dktX2_cover_4 : List UInt8 := dkwX2_cover_4 ++ dktX2_cover_5
def dkwX2_cover_3 : List UInt8 := [28, 133, 182, 1, 129, 4, 84, 132, 2, 1, 167, 255, 232, 4, 61, 28, 42, 180, 0, 7, 3, 46]
abbrev dktX2_cover_3 : List UInt8 := dkwX2_cover_3 ++ dktX2_cover_4
def dkwX2_cover_2 : List UInt8 := [132, 2, 1, 167, 255, 239, 17, 39, 16, 61, 28, 17, 39, 16, 27, 96, 162, 0, 21, 42, 180, 0, 79, 42]
abbrev dktX2_cover_2 : List UInt8 := dkwX2_cover_2 ++ dktX2_cover_3
def dkwX2_cover_1 : List UInt8 := [164, 0, 6, 16, 254, 172, 3, 61, 28, 17, 16, 0, 162, 0, 16, 42, 180, 0, 79, 28, 3, 84]
abbrev dktX2_cover_1 : List UInt8 := dkwX2_cover_1 ++ dktX2_cover_2
def dkwX2_cover_0 : List UInt8 := [42, 180, 0, 7, 3, 46, 154, 0, 5, 2, 172, 42, 182, 1, 60, 42, 182, 1, 174, 60, 27, 17, 19, 176]
abbrev dktX2_cover_0 : List UInt8 := dkwX2_cover_0 ++ dktX2_cover_1
theorem dksX2_cover_0 : cX2_cover.data.toList.drop 0 = dktX2_cover_0 := by decide +kernel
theorem dksX2_cover_1 : cX2_cover.data.toList.drop 24 = dktX2_cover_1 := dk_seg dksX2_cover_0 24 rfl rfl
theorem dksX2_cover_2 : cX2_cover.data.toList.drop 46 = dktX2_cover_2 := dk_seg dksX2_cover_1 22 rfl rfl
theorem dksX2_cover_3 : cX2_cover.data.toList.drop 70 = dktX2_cover_3 := dk_seg dksX2_cover_2 24 rfl rfl
theorem dksX2_cover_4 : cX2_cover.data.toList.drop 92 = dktX2_cover_4 := dk_seg dksX2_cover_3 22 rfl rfl
theorem dksX2_cover_5 : cX2_cover.data.toList.drop 114 = dktX2_cover_5 := dk_seg dksX2_cover_4 22 rfl rfl
theorem dksX2_cover_6 : cX2_cover.data.toList.drop 136 = dktX2_cover_6 := dk_seg dksX2_cover_5 22 rfl rfl
theorem dX2_cover_0 : decode cX2_cover 0 = .ok (.aload_n 0, 1) := dk_42 (dk_at dksX2_cover_0 0 rfl rfl)
theorem dX2_cover_1 : decode cX2_cover 1 = .ok (.getfield 7, 3) := dk_180 0 7 (dk_at dksX2_cover_0 1 rfl rfl)
theorem dX2_cover_4 : decode cX2_cover 4 = .ok (.iconst 0, 1) := dk_3 (dk_at dksX2_cover_0 4 rfl rfl)
theorem dX2_cover_5 : decode cX2_cover 5 = .ok (.iaload, 1) := dk_46 (dk_at dksX2_cover_0 5 rfl rfl)
theorem dX2_cover_6 : decode cX2_cover 6 = .ok (.ifCond .ne 5, 3) := dk_154 0 5 (dk_at dksX2_cover_0 6 rfl rfl)
theorem dX2_cover_9 : decode cX2_cover 9 = .ok (.iconst (-1), 1) := dk_2 (dk_at dksX2_cover_0 9 rfl rfl)
theorem dX2_cover_10 : decode cX2_cover 10 = .ok (.ireturn, 1) := dk_172 (dk_at dksX2_cover_0 10 rfl rfl)
theorem dX2_cover_11 : decode cX2_cover 11 = .ok (.aload_n 0, 1) := dk_42 (dk_at dksX2_cover_0 11 rfl rfl)
theorem dX2_cover_12 : decode cX2_cover 12 = .ok (.invokevirtual 316, 3) := dk_182 1 60 (dk_at dksX2_cover_0 12 rfl rfl)
theorem dX2_cover_15 : decode cX2_cover 15 = .ok (.aload_n 0, 1) := dk_42 (dk_at dksX2_cover_0 15 rfl rfl)
theorem dX2_cover_16 : decode cX2_cover 16 = .ok (.invokevirtual 430, 3) := dk_182 1 174 (dk_at dksX2_cover_0 16 rfl rfl)
theorem dX2_cover_19 : decode cX2_cover 19 = .ok (.istore_n 1, 1) := dk_60 (dk_at dksX2_cover_0 19 rfl rfl)
theorem dX2_cover_20 : decode cX2_cover 20 = .ok (.iload_n 1, 1) := dk_27 (dk_at dksX2_cover_0 20 rfl rfl)
theorem dX2_cover_21 : decode cX2_cover 21 = .ok (.sipush 5040, 3) := dk_17 19 176 (dk_at dksX2_cover_0 21 rfl rfl)
theorem dX2_cover_24 : decode cX2_cover 24 = .ok (.if_icmp .le 6, 3) := dk_164 0 6 (dk_at dksX2_cover_1 0 rfl rfl)
theorem dX2_cover_27 : decode cX2_cover 27 = .ok (.bipush (-2), 2) := dk_16 254 (dk_at dksX2_cover_1 3 rfl rfl)
theorem dX2_cover_29 : decode cX2_cover 29 = .ok (.ireturn, 1) := dk_172 (dk_at dksX2_cover_1 5 rfl rfl)
theorem dX2_cover_30 : decode cX2_cover 30 = .ok (.iconst 0, 1) := dk_3 (dk_at dksX2_cover_1 6 rfl rfl)
theorem dX2_cover_31 : decode cX2_cover 31 = .ok (.istore_n 2, 1) := dk_61 (dk_at dksX2_cover_1 7 rfl rfl)
theorem dX2_cover_32 : decode cX2_cover 32 = .ok (.iload_n 2, 1) := dk_28 (dk_at dksX2_cover_1 8 rfl rfl)
theorem dX2_cover_33 : decode cX2_cover 33 = .ok (.sipush 4096, 3) := dk_17 16 0 (dk_at dksX2_cover_1 9 rfl rfl)
theorem dX2_cover_36 : decode cX2_cover 36 = .ok (.if_icmp .ge 16, 3) := dk_162 0 16 (dk_at dksX2_cover_1 12 rfl rfl)
theorem dX2_cover_39 : decode cX2_cover 39 = .ok (.aload_n 0, 1) := dk_42 (dk_at dksX2_cover_1 15 rfl rfl)
theorem dX2_cover_40 : decode cX2_cover 40 = .ok (.getfield 79, 3) := dk_180 0 79 (dk_at dksX2_cover_1 16 rfl rfl)
theorem dX2_cover_43 : decode cX2_cover 43 = .ok (.iload_n 2, 1) := dk_28 (dk_at dksX2_cover_1 19 rfl rfl)
theorem dX2_cover_44 : decode cX2_cover 44 = .ok (.iconst 0, 1) := dk_3 (dk_at dksX2_cover_1 20 rfl rfl)
theorem dX2_cover_45 : decode cX2_cover 45 = .ok (.bastore, 1) := dk_84 (dk_at dksX2_cover_1 21 rfl rfl)
theorem dX2_cover_46 : decode cX2_cover 46 = .ok (.iinc 2 1, 3) := dk_132 2 1 (dk_at dksX2_cover_2 0 rfl rfl)
theorem dX2_cover_49 : decode cX2_cover 49 = .ok (.goto (-17), 3) := dk_167 255 239 (dk_at dksX2_cover_2 3 rfl rfl)
theorem dX2_cover_52 : decode cX2_cover 52 = .ok (.sipush 10000, 3) := dk_17 39 16 (dk_at dksX2_cover_2 6 rfl rfl)
theorem dX2_cover_55 : decode cX2_cover 55 = .ok (.istore_n 2, 1) := dk_61 (dk_at dksX2_cover_2 9 rfl rfl)
theorem dX2_cover_56 : decode cX2_cover 56 = .ok (.iload_n 2, 1) := dk_28 (dk_at dksX2_cover_2 10 rfl rfl)
theorem dX2_cover_57 : decode cX2_cover 57 = .ok (.sipush 10000, 3) := dk_17 39 16 (dk_at dksX2_cover_2 11 rfl rfl)
theorem dX2_cover_60 : decode cX2_cover 60 = .ok (.iload_n 1, 1) := dk_27 (dk_at dksX2_cover_2 14 rfl rfl)
theorem dX2_cover_61 : decode cX2_cover 61 = .ok (.iadd, 1) := dk_96 (dk_at dksX2_cover_2 15 rfl rfl)
theorem dX2_cover_62 : decode cX2_cover 62 = .ok (.if_icmp .ge 21, 3) := dk_162 0 21 (dk_at dksX2_cover_2 16 rfl rfl)
theorem dX2_cover_65 : decode cX2_cover 65 = .ok (.aload_n 0, 1) := dk_42 (dk_at dksX2_cover_2 19 rfl rfl)
theorem dX2_cover_66 : decode cX2_cover 66 = .ok (.getfield 79, 3) := dk_180 0 79 (dk_at dksX2_cover_2 20 rfl rfl)
theorem dX2_cover_69 : decode cX2_cover 69 = .ok (.aload_n 0, 1) := dk_42 (dk_at dksX2_cover_2 23 rfl rfl)
theorem dX2_cover_70 : decode cX2_cover 70 = .ok (.iload_n 2, 1) := dk_28 (dk_at dksX2_cover_3 0 rfl rfl)
theorem dX2_cover_71 : decode cX2_cover 71 = .ok (.i2l, 1) := dk_133 (dk_at dksX2_cover_3 1 rfl rfl)
theorem dX2_cover_72 : decode cX2_cover 72 = .ok (.invokevirtual 385, 3) := dk_182 1 129 (dk_at dksX2_cover_3 2 rfl rfl)
theorem dX2_cover_75 : decode cX2_cover 75 = .ok (.iconst 1, 1) := dk_4 (dk_at dksX2_cover_3 5 rfl rfl)
theorem dX2_cover_76 : decode cX2_cover 76 = .ok (.bastore, 1) := dk_84 (dk_at dksX2_cover_3 6 rfl rfl)
theorem dX2_cover_77 : decode cX2_cover 77 = .ok (.iinc 2 1, 3) := dk_132 2 1 (dk_at dksX2_cover_3 7 rfl rfl)
theorem dX2_cover_80 : decode cX2_cover 80 = .ok (.goto (-24), 3) := dk_167 255 232 (dk_at dksX2_cover_3 10 rfl rfl)
theorem dX2_cover_83 : decode cX2_cover 83 = .ok (.iconst 1, 1) := dk_4 (dk_at dksX2_cover_3 13 rfl rfl)
theorem dX2_cover_84 : decode cX2_cover 84 = .ok (.istore_n 2, 1) := dk_61 (dk_at dksX2_cover_3 14 rfl rfl)
theorem dX2_cover_85 : decode cX2_cover 85 = .ok (.iload_n 2, 1) := dk_28 (dk_at dksX2_cover_3 15 rfl rfl)
theorem dX2_cover_86 : decode cX2_cover 86 = .ok (.aload_n 0, 1) := dk_42 (dk_at dksX2_cover_3 16 rfl rfl)
theorem dX2_cover_87 : decode cX2_cover 87 = .ok (.getfield 7, 3) := dk_180 0 7 (dk_at dksX2_cover_3 17 rfl rfl)
theorem dX2_cover_90 : decode cX2_cover 90 = .ok (.iconst 0, 1) := dk_3 (dk_at dksX2_cover_3 20 rfl rfl)
theorem dX2_cover_91 : decode cX2_cover 91 = .ok (.iaload, 1) := dk_46 (dk_at dksX2_cover_3 21 rfl rfl)
theorem dX2_cover_92 : decode cX2_cover 92 = .ok (.if_icmp .gt 47, 3) := dk_163 0 47 (dk_at dksX2_cover_4 0 rfl rfl)
theorem dX2_cover_95 : decode cX2_cover 95 = .ok (.iconst 1, 1) := dk_4 (dk_at dksX2_cover_4 3 rfl rfl)
theorem dX2_cover_96 : decode cX2_cover 96 = .ok (.istore_n 3, 1) := dk_62 (dk_at dksX2_cover_4 4 rfl rfl)
theorem dX2_cover_97 : decode cX2_cover 97 = .ok (.iload_n 3, 1) := dk_29 (dk_at dksX2_cover_4 5 rfl rfl)
theorem dX2_cover_98 : decode cX2_cover 98 = .ok (.iconst 1, 1) := dk_4 (dk_at dksX2_cover_4 6 rfl rfl)
theorem dX2_cover_99 : decode cX2_cover 99 = .ok (.aload_n 0, 1) := dk_42 (dk_at dksX2_cover_4 7 rfl rfl)
theorem dX2_cover_100 : decode cX2_cover 100 = .ok (.getfield 7, 3) := dk_180 0 7 (dk_at dksX2_cover_4 8 rfl rfl)
theorem dX2_cover_103 : decode cX2_cover 103 = .ok (.iconst 0, 1) := dk_3 (dk_at dksX2_cover_4 11 rfl rfl)
theorem dX2_cover_104 : decode cX2_cover 104 = .ok (.iaload, 1) := dk_46 (dk_at dksX2_cover_4 12 rfl rfl)
theorem dX2_cover_105 : decode cX2_cover 105 = .ok (.ishl, 1) := dk_120 (dk_at dksX2_cover_4 13 rfl rfl)
theorem dX2_cover_106 : decode cX2_cover 106 = .ok (.if_icmp .ge 27, 3) := dk_162 0 27 (dk_at dksX2_cover_4 14 rfl rfl)
theorem dX2_cover_109 : decode cX2_cover 109 = .ok (.iload_n 3, 1) := dk_29 (dk_at dksX2_cover_4 17 rfl rfl)
theorem dX2_cover_110 : decode cX2_cover 110 = .ok (.invokestatic 400, 3) := dk_184 1 144 (dk_at dksX2_cover_4 18 rfl rfl)
theorem dX2_cover_113 : decode cX2_cover 113 = .ok (.iload_n 2, 1) := dk_28 (dk_at dksX2_cover_4 21 rfl rfl)
theorem dX2_cover_114 : decode cX2_cover 114 = .ok (.if_icmp .ne 13, 3) := dk_160 0 13 (dk_at dksX2_cover_5 0 rfl rfl)
theorem dX2_cover_117 : decode cX2_cover 117 = .ok (.aload_n 0, 1) := dk_42 (dk_at dksX2_cover_5 3 rfl rfl)
theorem dX2_cover_118 : decode cX2_cover 118 = .ok (.iload_n 3, 1) := dk_29 (dk_at dksX2_cover_5 4 rfl rfl)
theorem dX2_cover_119 : decode cX2_cover 119 = .ok (.invokevirtual 433, 3) := dk_182 1 177 (dk_at dksX2_cover_5 5 rfl rfl)
theorem dX2_cover_122 : decode cX2_cover 122 = .ok (.ifCond .eq 5, 3) := dk_153 0 5 (dk_at dksX2_cover_5 8 rfl rfl)
theorem dX2_cover_125 : decode cX2_cover 125 = .ok (.iload_n 3, 1) := dk_29 (dk_at dksX2_cover_5 11 rfl rfl)
theorem dX2_cover_126 : decode cX2_cover 126 = .ok (.ireturn, 1) := dk_172 (dk_at dksX2_cover_5 12 rfl rfl)
theorem dX2_cover_127 : decode cX2_cover 127 = .ok (.iinc 3 1, 3) := dk_132 3 1 (dk_at dksX2_cover_5 13 rfl rfl)
theorem dX2_cover_130 : decode cX2_cover 130 = .ok (.goto (-33), 3) := dk_167 255 223 (dk_at dksX2_cover_5 16 rfl rfl)
theorem dX2_cover_133 : decode cX2_cover 133 = .ok (.iinc 2 1, 3) := dk_132 2 1 (dk_at dksX2_cover_5 19 rfl rfl)
theorem dX2_cover_136 : decode cX2_cover 136 = .ok (.goto (-51), 3) := dk_167 255 205 (dk_at dksX2_cover_6 0 rfl rfl)
theorem dX2_cover_139 : decode cX2_cover 139 = .ok (.iconst (-1), 1) := dk_2 (dk_at dksX2_cover_6 3 rfl rfl)
theorem dX2_cover_140 : decode cX2_cover 140 = .ok (.ireturn, 1) := dk_172 (dk_at dksX2_cover_6 4 rfl rfl)
abbrev cX2_roundOf : ByteArray := prog_17_method_102_code
def yX2_roundOf : MethodName := ⟨RX2, "roundOf", "()I"⟩
def dkwX2_roundOf_4 : List UInt8 := [17, 19, 177, 167, 0, 5, 31, 136, 172]
abbrev dktX2_roundOf_4 : List UInt8 := dkwX2_roundOf_4 ++ []
def dkwX2_roundOf_3 : List UInt8 := [109, 42, 180, 0, 49, 29, 46, 133, 105, 64, 132, 3, 1, 167, 255, 213, 31, 20, 1, 172, 148, 158, 0, 9]
abbrev dktX2_roundOf_3 : List UInt8 := dkwX2_roundOf_3 ++ dktX2_roundOf_4
def dkwX2_roundOf_2 : List UInt8 := [46, 162, 0, 39, 31, 20, 1, 172, 148, 157, 0, 31, 31, 31, 42, 180, 0, 49, 29, 46, 133, 184, 1, 71]
abbrev dktX2_roundOf_2 : List UInt8 := dkwX2_roundOf_2 ++ dktX2_roundOf_3
def dkwX2_roundOf_1 : List UInt8 := [46, 133, 184, 1, 71, 109, 42, 180, 0, 7, 4, 46, 133, 105, 136, 172, 3, 62, 29, 42, 180, 0, 7, 3]
abbrev dktX2_roundOf_1 : List UInt8 := dkwX2_roundOf_1 ++ dktX2_roundOf_2
def dkwX2_roundOf_0 : List UInt8 := [42, 180, 0, 7, 5, 46, 133, 64, 42, 180, 0, 7, 4, 46, 158, 0, 26, 31, 31, 42, 180, 0, 7, 4]
abbrev dktX2_roundOf_0 : List UInt8 := dkwX2_roundOf_0 ++ dktX2_roundOf_1
theorem dksX2_roundOf_0 : cX2_roundOf.data.toList.drop 0 = dktX2_roundOf_0 := by decide +kernel
theorem dksX2_roundOf_1 : cX2_roundOf.data.toList.drop 24 = dktX2_roundOf_1 := dk_seg dksX2_roundOf_0 24 rfl rfl
theorem dksX2_roundOf_2 : cX2_roundOf.data.toList.drop 48 = dktX2_roundOf_2 := dk_seg dksX2_roundOf_1 24 rfl rfl
theorem dksX2_roundOf_3 : cX2_roundOf.data.toList.drop 72 = dktX2_roundOf_3 := dk_seg dksX2_roundOf_2 24 rfl rfl
theorem dksX2_roundOf_4 : cX2_roundOf.data.toList.drop 96 = dktX2_roundOf_4 := dk_seg dksX2_roundOf_3 24 rfl rfl
theorem dX2_roundOf_0 : decode cX2_roundOf 0 = .ok (.aload_n 0, 1) := dk_42 (dk_at dksX2_roundOf_0 0 rfl rfl)
theorem dX2_roundOf_1 : decode cX2_roundOf 1 = .ok (.getfield 7, 3) := dk_180 0 7 (dk_at dksX2_roundOf_0 1 rfl rfl)
theorem dX2_roundOf_4 : decode cX2_roundOf 4 = .ok (.iconst 2, 1) := dk_5 (dk_at dksX2_roundOf_0 4 rfl rfl)
theorem dX2_roundOf_5 : decode cX2_roundOf 5 = .ok (.iaload, 1) := dk_46 (dk_at dksX2_roundOf_0 5 rfl rfl)
theorem dX2_roundOf_6 : decode cX2_roundOf 6 = .ok (.i2l, 1) := dk_133 (dk_at dksX2_roundOf_0 6 rfl rfl)
theorem dX2_roundOf_7 : decode cX2_roundOf 7 = .ok (.lstore_n 1, 1) := dk_64 (dk_at dksX2_roundOf_0 7 rfl rfl)
theorem dX2_roundOf_8 : decode cX2_roundOf 8 = .ok (.aload_n 0, 1) := dk_42 (dk_at dksX2_roundOf_0 8 rfl rfl)
theorem dX2_roundOf_9 : decode cX2_roundOf 9 = .ok (.getfield 7, 3) := dk_180 0 7 (dk_at dksX2_roundOf_0 9 rfl rfl)
theorem dX2_roundOf_12 : decode cX2_roundOf 12 = .ok (.iconst 1, 1) := dk_4 (dk_at dksX2_roundOf_0 12 rfl rfl)
theorem dX2_roundOf_13 : decode cX2_roundOf 13 = .ok (.iaload, 1) := dk_46 (dk_at dksX2_roundOf_0 13 rfl rfl)
theorem dX2_roundOf_14 : decode cX2_roundOf 14 = .ok (.ifCond .le 26, 3) := dk_158 0 26 (dk_at dksX2_roundOf_0 14 rfl rfl)
theorem dX2_roundOf_17 : decode cX2_roundOf 17 = .ok (.lload_n 1, 1) := dk_31 (dk_at dksX2_roundOf_0 17 rfl rfl)
theorem dX2_roundOf_18 : decode cX2_roundOf 18 = .ok (.lload_n 1, 1) := dk_31 (dk_at dksX2_roundOf_0 18 rfl rfl)
theorem dX2_roundOf_19 : decode cX2_roundOf 19 = .ok (.aload_n 0, 1) := dk_42 (dk_at dksX2_roundOf_0 19 rfl rfl)
theorem dX2_roundOf_20 : decode cX2_roundOf 20 = .ok (.getfield 7, 3) := dk_180 0 7 (dk_at dksX2_roundOf_0 20 rfl rfl)
theorem dX2_roundOf_23 : decode cX2_roundOf 23 = .ok (.iconst 1, 1) := dk_4 (dk_at dksX2_roundOf_0 23 rfl rfl)
theorem dX2_roundOf_24 : decode cX2_roundOf 24 = .ok (.iaload, 1) := dk_46 (dk_at dksX2_roundOf_1 0 rfl rfl)
theorem dX2_roundOf_25 : decode cX2_roundOf 25 = .ok (.i2l, 1) := dk_133 (dk_at dksX2_roundOf_1 1 rfl rfl)
theorem dX2_roundOf_26 : decode cX2_roundOf 26 = .ok (.invokestatic 327, 3) := dk_184 1 71 (dk_at dksX2_roundOf_1 2 rfl rfl)
theorem dX2_roundOf_29 : decode cX2_roundOf 29 = .ok (.ldiv, 1) := dk_109 (dk_at dksX2_roundOf_1 5 rfl rfl)
theorem dX2_roundOf_30 : decode cX2_roundOf 30 = .ok (.aload_n 0, 1) := dk_42 (dk_at dksX2_roundOf_1 6 rfl rfl)
theorem dX2_roundOf_31 : decode cX2_roundOf 31 = .ok (.getfield 7, 3) := dk_180 0 7 (dk_at dksX2_roundOf_1 7 rfl rfl)
theorem dX2_roundOf_34 : decode cX2_roundOf 34 = .ok (.iconst 1, 1) := dk_4 (dk_at dksX2_roundOf_1 10 rfl rfl)
theorem dX2_roundOf_35 : decode cX2_roundOf 35 = .ok (.iaload, 1) := dk_46 (dk_at dksX2_roundOf_1 11 rfl rfl)
theorem dX2_roundOf_36 : decode cX2_roundOf 36 = .ok (.i2l, 1) := dk_133 (dk_at dksX2_roundOf_1 12 rfl rfl)
theorem dX2_roundOf_37 : decode cX2_roundOf 37 = .ok (.lmul, 1) := dk_105 (dk_at dksX2_roundOf_1 13 rfl rfl)
theorem dX2_roundOf_38 : decode cX2_roundOf 38 = .ok (.l2i, 1) := dk_136 (dk_at dksX2_roundOf_1 14 rfl rfl)
theorem dX2_roundOf_39 : decode cX2_roundOf 39 = .ok (.ireturn, 1) := dk_172 (dk_at dksX2_roundOf_1 15 rfl rfl)
theorem dX2_roundOf_40 : decode cX2_roundOf 40 = .ok (.iconst 0, 1) := dk_3 (dk_at dksX2_roundOf_1 16 rfl rfl)
theorem dX2_roundOf_41 : decode cX2_roundOf 41 = .ok (.istore_n 3, 1) := dk_62 (dk_at dksX2_roundOf_1 17 rfl rfl)
theorem dX2_roundOf_42 : decode cX2_roundOf 42 = .ok (.iload_n 3, 1) := dk_29 (dk_at dksX2_roundOf_1 18 rfl rfl)
theorem dX2_roundOf_43 : decode cX2_roundOf 43 = .ok (.aload_n 0, 1) := dk_42 (dk_at dksX2_roundOf_1 19 rfl rfl)
theorem dX2_roundOf_44 : decode cX2_roundOf 44 = .ok (.getfield 7, 3) := dk_180 0 7 (dk_at dksX2_roundOf_1 20 rfl rfl)
theorem dX2_roundOf_47 : decode cX2_roundOf 47 = .ok (.iconst 0, 1) := dk_3 (dk_at dksX2_roundOf_1 23 rfl rfl)
theorem dX2_roundOf_48 : decode cX2_roundOf 48 = .ok (.iaload, 1) := dk_46 (dk_at dksX2_roundOf_2 0 rfl rfl)
theorem dX2_roundOf_49 : decode cX2_roundOf 49 = .ok (.if_icmp .ge 39, 3) := dk_162 0 39 (dk_at dksX2_roundOf_2 1 rfl rfl)
theorem dX2_roundOf_52 : decode cX2_roundOf 52 = .ok (.lload_n 1, 1) := dk_31 (dk_at dksX2_roundOf_2 4 rfl rfl)
theorem dX2_roundOf_53 : decode cX2_roundOf 53 = .ok (.ldc2_w 428, 3) := dk_20 1 172 (dk_at dksX2_roundOf_2 5 rfl rfl)
theorem dX2_roundOf_56 : decode cX2_roundOf 56 = .ok (.lcmp, 1) := dk_148 (dk_at dksX2_roundOf_2 8 rfl rfl)
theorem dX2_roundOf_57 : decode cX2_roundOf 57 = .ok (.ifCond .gt 31, 3) := dk_157 0 31 (dk_at dksX2_roundOf_2 9 rfl rfl)
theorem dX2_roundOf_60 : decode cX2_roundOf 60 = .ok (.lload_n 1, 1) := dk_31 (dk_at dksX2_roundOf_2 12 rfl rfl)
theorem dX2_roundOf_61 : decode cX2_roundOf 61 = .ok (.lload_n 1, 1) := dk_31 (dk_at dksX2_roundOf_2 13 rfl rfl)
theorem dX2_roundOf_62 : decode cX2_roundOf 62 = .ok (.aload_n 0, 1) := dk_42 (dk_at dksX2_roundOf_2 14 rfl rfl)
theorem dX2_roundOf_63 : decode cX2_roundOf 63 = .ok (.getfield 49, 3) := dk_180 0 49 (dk_at dksX2_roundOf_2 15 rfl rfl)
theorem dX2_roundOf_66 : decode cX2_roundOf 66 = .ok (.iload_n 3, 1) := dk_29 (dk_at dksX2_roundOf_2 18 rfl rfl)
theorem dX2_roundOf_67 : decode cX2_roundOf 67 = .ok (.iaload, 1) := dk_46 (dk_at dksX2_roundOf_2 19 rfl rfl)
theorem dX2_roundOf_68 : decode cX2_roundOf 68 = .ok (.i2l, 1) := dk_133 (dk_at dksX2_roundOf_2 20 rfl rfl)
theorem dX2_roundOf_69 : decode cX2_roundOf 69 = .ok (.invokestatic 327, 3) := dk_184 1 71 (dk_at dksX2_roundOf_2 21 rfl rfl)
theorem dX2_roundOf_72 : decode cX2_roundOf 72 = .ok (.ldiv, 1) := dk_109 (dk_at dksX2_roundOf_3 0 rfl rfl)
theorem dX2_roundOf_73 : decode cX2_roundOf 73 = .ok (.aload_n 0, 1) := dk_42 (dk_at dksX2_roundOf_3 1 rfl rfl)
theorem dX2_roundOf_74 : decode cX2_roundOf 74 = .ok (.getfield 49, 3) := dk_180 0 49 (dk_at dksX2_roundOf_3 2 rfl rfl)
theorem dX2_roundOf_77 : decode cX2_roundOf 77 = .ok (.iload_n 3, 1) := dk_29 (dk_at dksX2_roundOf_3 5 rfl rfl)
theorem dX2_roundOf_78 : decode cX2_roundOf 78 = .ok (.iaload, 1) := dk_46 (dk_at dksX2_roundOf_3 6 rfl rfl)
theorem dX2_roundOf_79 : decode cX2_roundOf 79 = .ok (.i2l, 1) := dk_133 (dk_at dksX2_roundOf_3 7 rfl rfl)
theorem dX2_roundOf_80 : decode cX2_roundOf 80 = .ok (.lmul, 1) := dk_105 (dk_at dksX2_roundOf_3 8 rfl rfl)
theorem dX2_roundOf_81 : decode cX2_roundOf 81 = .ok (.lstore_n 1, 1) := dk_64 (dk_at dksX2_roundOf_3 9 rfl rfl)
theorem dX2_roundOf_82 : decode cX2_roundOf 82 = .ok (.iinc 3 1, 3) := dk_132 3 1 (dk_at dksX2_roundOf_3 10 rfl rfl)
theorem dX2_roundOf_85 : decode cX2_roundOf 85 = .ok (.goto (-43), 3) := dk_167 255 213 (dk_at dksX2_roundOf_3 13 rfl rfl)
theorem dX2_roundOf_88 : decode cX2_roundOf 88 = .ok (.lload_n 1, 1) := dk_31 (dk_at dksX2_roundOf_3 16 rfl rfl)
theorem dX2_roundOf_89 : decode cX2_roundOf 89 = .ok (.ldc2_w 428, 3) := dk_20 1 172 (dk_at dksX2_roundOf_3 17 rfl rfl)
theorem dX2_roundOf_92 : decode cX2_roundOf 92 = .ok (.lcmp, 1) := dk_148 (dk_at dksX2_roundOf_3 20 rfl rfl)
theorem dX2_roundOf_93 : decode cX2_roundOf 93 = .ok (.ifCond .le 9, 3) := dk_158 0 9 (dk_at dksX2_roundOf_3 21 rfl rfl)
theorem dX2_roundOf_96 : decode cX2_roundOf 96 = .ok (.sipush 5041, 3) := dk_17 19 177 (dk_at dksX2_roundOf_4 0 rfl rfl)
theorem dX2_roundOf_99 : decode cX2_roundOf 99 = .ok (.goto 5, 3) := dk_167 0 5 (dk_at dksX2_roundOf_4 3 rfl rfl)
theorem dX2_roundOf_102 : decode cX2_roundOf 102 = .ok (.lload_n 1, 1) := dk_31 (dk_at dksX2_roundOf_4 6 rfl rfl)
theorem dX2_roundOf_103 : decode cX2_roundOf 103 = .ok (.l2i, 1) := dk_136 (dk_at dksX2_roundOf_4 7 rfl rfl)
theorem dX2_roundOf_104 : decode cX2_roundOf 104 = .ok (.ireturn, 1) := dk_172 (dk_at dksX2_roundOf_4 8 rfl rfl)
abbrev cX2_covers : ByteArray := prog_17_method_103_code
def yX2_covers : MethodName := ⟨RX2, "covers", "(I)Z"⟩
def dkwX2_covers_1 : List UInt8 := [27, 126, 154, 0, 5, 3, 172, 132, 2, 1, 167, 255, 224, 4, 172]
abbrev dktX2_covers_1 : List UInt8 := dkwX2_covers_1 ++ []
def dkwX2_covers_0 : List UInt8 := [3, 61, 28, 4, 42, 180, 0, 7, 3, 46, 120, 162, 0, 26, 42, 180, 0, 79, 28, 51, 153, 0, 11, 28]
abbrev dktX2_covers_0 : List UInt8 := dkwX2_covers_0 ++ dktX2_covers_1
theorem dksX2_covers_0 : cX2_covers.data.toList.drop 0 = dktX2_covers_0 := by decide +kernel
theorem dksX2_covers_1 : cX2_covers.data.toList.drop 24 = dktX2_covers_1 := dk_seg dksX2_covers_0 24 rfl rfl
theorem dX2_covers_0 : decode cX2_covers 0 = .ok (.iconst 0, 1) := dk_3 (dk_at dksX2_covers_0 0 rfl rfl)
theorem dX2_covers_1 : decode cX2_covers 1 = .ok (.istore_n 2, 1) := dk_61 (dk_at dksX2_covers_0 1 rfl rfl)
theorem dX2_covers_2 : decode cX2_covers 2 = .ok (.iload_n 2, 1) := dk_28 (dk_at dksX2_covers_0 2 rfl rfl)
theorem dX2_covers_3 : decode cX2_covers 3 = .ok (.iconst 1, 1) := dk_4 (dk_at dksX2_covers_0 3 rfl rfl)
theorem dX2_covers_4 : decode cX2_covers 4 = .ok (.aload_n 0, 1) := dk_42 (dk_at dksX2_covers_0 4 rfl rfl)
theorem dX2_covers_5 : decode cX2_covers 5 = .ok (.getfield 7, 3) := dk_180 0 7 (dk_at dksX2_covers_0 5 rfl rfl)
theorem dX2_covers_8 : decode cX2_covers 8 = .ok (.iconst 0, 1) := dk_3 (dk_at dksX2_covers_0 8 rfl rfl)
theorem dX2_covers_9 : decode cX2_covers 9 = .ok (.iaload, 1) := dk_46 (dk_at dksX2_covers_0 9 rfl rfl)
theorem dX2_covers_10 : decode cX2_covers 10 = .ok (.ishl, 1) := dk_120 (dk_at dksX2_covers_0 10 rfl rfl)
theorem dX2_covers_11 : decode cX2_covers 11 = .ok (.if_icmp .ge 26, 3) := dk_162 0 26 (dk_at dksX2_covers_0 11 rfl rfl)
theorem dX2_covers_14 : decode cX2_covers 14 = .ok (.aload_n 0, 1) := dk_42 (dk_at dksX2_covers_0 14 rfl rfl)
theorem dX2_covers_15 : decode cX2_covers 15 = .ok (.getfield 79, 3) := dk_180 0 79 (dk_at dksX2_covers_0 15 rfl rfl)
theorem dX2_covers_18 : decode cX2_covers 18 = .ok (.iload_n 2, 1) := dk_28 (dk_at dksX2_covers_0 18 rfl rfl)
theorem dX2_covers_19 : decode cX2_covers 19 = .ok (.baload, 1) := dk_51 (dk_at dksX2_covers_0 19 rfl rfl)
theorem dX2_covers_20 : decode cX2_covers 20 = .ok (.ifCond .eq 11, 3) := dk_153 0 11 (dk_at dksX2_covers_0 20 rfl rfl)
theorem dX2_covers_23 : decode cX2_covers 23 = .ok (.iload_n 2, 1) := dk_28 (dk_at dksX2_covers_0 23 rfl rfl)
theorem dX2_covers_24 : decode cX2_covers 24 = .ok (.iload_n 1, 1) := dk_27 (dk_at dksX2_covers_1 0 rfl rfl)
theorem dX2_covers_25 : decode cX2_covers 25 = .ok (.iand, 1) := dk_126 (dk_at dksX2_covers_1 1 rfl rfl)
theorem dX2_covers_26 : decode cX2_covers 26 = .ok (.ifCond .ne 5, 3) := dk_154 0 5 (dk_at dksX2_covers_1 2 rfl rfl)
theorem dX2_covers_29 : decode cX2_covers 29 = .ok (.iconst 0, 1) := dk_3 (dk_at dksX2_covers_1 5 rfl rfl)
theorem dX2_covers_30 : decode cX2_covers 30 = .ok (.ireturn, 1) := dk_172 (dk_at dksX2_covers_1 6 rfl rfl)
theorem dX2_covers_31 : decode cX2_covers 31 = .ok (.iinc 2 1, 3) := dk_132 2 1 (dk_at dksX2_covers_1 7 rfl rfl)
theorem dX2_covers_34 : decode cX2_covers 34 = .ok (.goto (-32), 3) := dk_167 255 224 (dk_at dksX2_covers_1 10 rfl rfl)
theorem dX2_covers_37 : decode cX2_covers 37 = .ok (.iconst 1, 1) := dk_4 (dk_at dksX2_covers_1 13 rfl rfl)
theorem dX2_covers_38 : decode cX2_covers 38 = .ok (.ireturn, 1) := dk_172 (dk_at dksX2_covers_1 14 rfl rfl)
abbrev cX2_apart : ByteArray := prog_17_method_107_code
def yX2_apart : MethodName := ⟨RX2, "apart", "(II)I"⟩
def dkwX2_apart_5 : List UInt8 := [159, 0, 9, 132, 4, 1, 167, 255, 242, 42, 180, 0, 82, 21, 4, 46, 172]
abbrev dktX2_apart_5 : List UInt8 := dkwX2_apart_5 ++ []
def dkwX2_apart_4 : List UInt8 := [167, 255, 205, 42, 29, 182, 1, 183, 154, 0, 5, 2, 172, 3, 54, 4, 42, 180, 0, 85, 21, 4, 46, 28]
abbrev dktX2_apart_4 : List UInt8 := dkwX2_apart_4 ++ dktX2_apart_5
def dkwX2_apart_3 : List UInt8 := [21, 4, 46, 16, 60, 164, 0, 5, 2, 172, 42, 180, 0, 85, 29, 21, 4, 79, 132, 3, 1, 132, 4, 1]
abbrev dktX2_apart_3 : List UInt8 := dkwX2_apart_3 ++ dktX2_apart_4
def dkwX2_apart_2 : List UInt8 := [180, 0, 7, 3, 46, 162, 0, 46, 27, 21, 4, 184, 1, 54, 154, 0, 6, 167, 0, 28, 42, 180, 0, 49]
abbrev dktX2_apart_2 : List UInt8 := dkwX2_apart_2 ++ dktX2_apart_3
def dkwX2_apart_1 : List UInt8 := [27, 28, 184, 1, 54, 154, 0, 5, 2, 172, 42, 182, 1, 60, 3, 62, 3, 54, 4, 21, 4, 42]
abbrev dktX2_apart_1 : List UInt8 := dkwX2_apart_1 ++ dktX2_apart_2
def dkwX2_apart_0 : List UInt8 := [42, 27, 182, 1, 96, 153, 0, 27, 27, 184, 1, 144, 8, 163, 0, 19, 42, 28, 182, 0, 114, 153, 0, 11]
abbrev dktX2_apart_0 : List UInt8 := dkwX2_apart_0 ++ dktX2_apart_1
theorem dksX2_apart_0 : cX2_apart.data.toList.drop 0 = dktX2_apart_0 := by decide +kernel
theorem dksX2_apart_1 : cX2_apart.data.toList.drop 24 = dktX2_apart_1 := dk_seg dksX2_apart_0 24 rfl rfl
theorem dksX2_apart_2 : cX2_apart.data.toList.drop 46 = dktX2_apart_2 := dk_seg dksX2_apart_1 22 rfl rfl
theorem dksX2_apart_3 : cX2_apart.data.toList.drop 70 = dktX2_apart_3 := dk_seg dksX2_apart_2 24 rfl rfl
theorem dksX2_apart_4 : cX2_apart.data.toList.drop 94 = dktX2_apart_4 := dk_seg dksX2_apart_3 24 rfl rfl
theorem dksX2_apart_5 : cX2_apart.data.toList.drop 118 = dktX2_apart_5 := dk_seg dksX2_apart_4 24 rfl rfl
theorem dX2_apart_0 : decode cX2_apart 0 = .ok (.aload_n 0, 1) := dk_42 (dk_at dksX2_apart_0 0 rfl rfl)
theorem dX2_apart_1 : decode cX2_apart 1 = .ok (.iload_n 1, 1) := dk_27 (dk_at dksX2_apart_0 1 rfl rfl)
theorem dX2_apart_2 : decode cX2_apart 2 = .ok (.invokevirtual 352, 3) := dk_182 1 96 (dk_at dksX2_apart_0 2 rfl rfl)
theorem dX2_apart_5 : decode cX2_apart 5 = .ok (.ifCond .eq 27, 3) := dk_153 0 27 (dk_at dksX2_apart_0 5 rfl rfl)
theorem dX2_apart_8 : decode cX2_apart 8 = .ok (.iload_n 1, 1) := dk_27 (dk_at dksX2_apart_0 8 rfl rfl)
theorem dX2_apart_9 : decode cX2_apart 9 = .ok (.invokestatic 400, 3) := dk_184 1 144 (dk_at dksX2_apart_0 9 rfl rfl)
theorem dX2_apart_12 : decode cX2_apart 12 = .ok (.iconst 5, 1) := dk_8 (dk_at dksX2_apart_0 12 rfl rfl)
theorem dX2_apart_13 : decode cX2_apart 13 = .ok (.if_icmp .gt 19, 3) := dk_163 0 19 (dk_at dksX2_apart_0 13 rfl rfl)
theorem dX2_apart_16 : decode cX2_apart 16 = .ok (.aload_n 0, 1) := dk_42 (dk_at dksX2_apart_0 16 rfl rfl)
theorem dX2_apart_17 : decode cX2_apart 17 = .ok (.iload_n 2, 1) := dk_28 (dk_at dksX2_apart_0 17 rfl rfl)
theorem dX2_apart_18 : decode cX2_apart 18 = .ok (.invokevirtual 114, 3) := dk_182 0 114 (dk_at dksX2_apart_0 18 rfl rfl)
theorem dX2_apart_21 : decode cX2_apart 21 = .ok (.ifCond .eq 11, 3) := dk_153 0 11 (dk_at dksX2_apart_0 21 rfl rfl)
theorem dX2_apart_24 : decode cX2_apart 24 = .ok (.iload_n 1, 1) := dk_27 (dk_at dksX2_apart_1 0 rfl rfl)
theorem dX2_apart_25 : decode cX2_apart 25 = .ok (.iload_n 2, 1) := dk_28 (dk_at dksX2_apart_1 1 rfl rfl)
theorem dX2_apart_26 : decode cX2_apart 26 = .ok (.invokestatic 310, 3) := dk_184 1 54 (dk_at dksX2_apart_1 2 rfl rfl)
theorem dX2_apart_29 : decode cX2_apart 29 = .ok (.ifCond .ne 5, 3) := dk_154 0 5 (dk_at dksX2_apart_1 5 rfl rfl)
theorem dX2_apart_32 : decode cX2_apart 32 = .ok (.iconst (-1), 1) := dk_2 (dk_at dksX2_apart_1 8 rfl rfl)
theorem dX2_apart_33 : decode cX2_apart 33 = .ok (.ireturn, 1) := dk_172 (dk_at dksX2_apart_1 9 rfl rfl)
theorem dX2_apart_34 : decode cX2_apart 34 = .ok (.aload_n 0, 1) := dk_42 (dk_at dksX2_apart_1 10 rfl rfl)
theorem dX2_apart_35 : decode cX2_apart 35 = .ok (.invokevirtual 316, 3) := dk_182 1 60 (dk_at dksX2_apart_1 11 rfl rfl)
theorem dX2_apart_38 : decode cX2_apart 38 = .ok (.iconst 0, 1) := dk_3 (dk_at dksX2_apart_1 14 rfl rfl)
theorem dX2_apart_39 : decode cX2_apart 39 = .ok (.istore_n 3, 1) := dk_62 (dk_at dksX2_apart_1 15 rfl rfl)
theorem dX2_apart_40 : decode cX2_apart 40 = .ok (.iconst 0, 1) := dk_3 (dk_at dksX2_apart_1 16 rfl rfl)
theorem dX2_apart_41 : decode cX2_apart 41 = .ok (.istore 4, 2) := dk_54 4 (dk_at dksX2_apart_1 17 rfl rfl)
theorem dX2_apart_43 : decode cX2_apart 43 = .ok (.iload 4, 2) := dk_21 4 (dk_at dksX2_apart_1 19 rfl rfl)
theorem dX2_apart_45 : decode cX2_apart 45 = .ok (.aload_n 0, 1) := dk_42 (dk_at dksX2_apart_1 21 rfl rfl)
theorem dX2_apart_46 : decode cX2_apart 46 = .ok (.getfield 7, 3) := dk_180 0 7 (dk_at dksX2_apart_2 0 rfl rfl)
theorem dX2_apart_49 : decode cX2_apart 49 = .ok (.iconst 0, 1) := dk_3 (dk_at dksX2_apart_2 3 rfl rfl)
theorem dX2_apart_50 : decode cX2_apart 50 = .ok (.iaload, 1) := dk_46 (dk_at dksX2_apart_2 4 rfl rfl)
theorem dX2_apart_51 : decode cX2_apart 51 = .ok (.if_icmp .ge 46, 3) := dk_162 0 46 (dk_at dksX2_apart_2 5 rfl rfl)
theorem dX2_apart_54 : decode cX2_apart 54 = .ok (.iload_n 1, 1) := dk_27 (dk_at dksX2_apart_2 8 rfl rfl)
theorem dX2_apart_55 : decode cX2_apart 55 = .ok (.iload 4, 2) := dk_21 4 (dk_at dksX2_apart_2 9 rfl rfl)
theorem dX2_apart_57 : decode cX2_apart 57 = .ok (.invokestatic 310, 3) := dk_184 1 54 (dk_at dksX2_apart_2 11 rfl rfl)
theorem dX2_apart_60 : decode cX2_apart 60 = .ok (.ifCond .ne 6, 3) := dk_154 0 6 (dk_at dksX2_apart_2 14 rfl rfl)
theorem dX2_apart_63 : decode cX2_apart 63 = .ok (.goto 28, 3) := dk_167 0 28 (dk_at dksX2_apart_2 17 rfl rfl)
theorem dX2_apart_66 : decode cX2_apart 66 = .ok (.aload_n 0, 1) := dk_42 (dk_at dksX2_apart_2 20 rfl rfl)
theorem dX2_apart_67 : decode cX2_apart 67 = .ok (.getfield 49, 3) := dk_180 0 49 (dk_at dksX2_apart_2 21 rfl rfl)
theorem dX2_apart_70 : decode cX2_apart 70 = .ok (.iload 4, 2) := dk_21 4 (dk_at dksX2_apart_3 0 rfl rfl)
theorem dX2_apart_72 : decode cX2_apart 72 = .ok (.iaload, 1) := dk_46 (dk_at dksX2_apart_3 2 rfl rfl)
theorem dX2_apart_73 : decode cX2_apart 73 = .ok (.bipush 60, 2) := dk_16 60 (dk_at dksX2_apart_3 3 rfl rfl)
theorem dX2_apart_75 : decode cX2_apart 75 = .ok (.if_icmp .le 5, 3) := dk_164 0 5 (dk_at dksX2_apart_3 5 rfl rfl)
theorem dX2_apart_78 : decode cX2_apart 78 = .ok (.iconst (-1), 1) := dk_2 (dk_at dksX2_apart_3 8 rfl rfl)
theorem dX2_apart_79 : decode cX2_apart 79 = .ok (.ireturn, 1) := dk_172 (dk_at dksX2_apart_3 9 rfl rfl)
theorem dX2_apart_80 : decode cX2_apart 80 = .ok (.aload_n 0, 1) := dk_42 (dk_at dksX2_apart_3 10 rfl rfl)
theorem dX2_apart_81 : decode cX2_apart 81 = .ok (.getfield 85, 3) := dk_180 0 85 (dk_at dksX2_apart_3 11 rfl rfl)
theorem dX2_apart_84 : decode cX2_apart 84 = .ok (.iload_n 3, 1) := dk_29 (dk_at dksX2_apart_3 14 rfl rfl)
theorem dX2_apart_85 : decode cX2_apart 85 = .ok (.iload 4, 2) := dk_21 4 (dk_at dksX2_apart_3 15 rfl rfl)
theorem dX2_apart_87 : decode cX2_apart 87 = .ok (.iastore, 1) := dk_79 (dk_at dksX2_apart_3 17 rfl rfl)
theorem dX2_apart_88 : decode cX2_apart 88 = .ok (.iinc 3 1, 3) := dk_132 3 1 (dk_at dksX2_apart_3 18 rfl rfl)
theorem dX2_apart_91 : decode cX2_apart 91 = .ok (.iinc 4 1, 3) := dk_132 4 1 (dk_at dksX2_apart_3 21 rfl rfl)
theorem dX2_apart_94 : decode cX2_apart 94 = .ok (.goto (-51), 3) := dk_167 255 205 (dk_at dksX2_apart_4 0 rfl rfl)
theorem dX2_apart_97 : decode cX2_apart 97 = .ok (.aload_n 0, 1) := dk_42 (dk_at dksX2_apart_4 3 rfl rfl)
theorem dX2_apart_98 : decode cX2_apart 98 = .ok (.iload_n 3, 1) := dk_29 (dk_at dksX2_apart_4 4 rfl rfl)
theorem dX2_apart_99 : decode cX2_apart 99 = .ok (.invokevirtual 439, 3) := dk_182 1 183 (dk_at dksX2_apart_4 5 rfl rfl)
theorem dX2_apart_102 : decode cX2_apart 102 = .ok (.ifCond .ne 5, 3) := dk_154 0 5 (dk_at dksX2_apart_4 8 rfl rfl)
theorem dX2_apart_105 : decode cX2_apart 105 = .ok (.iconst (-1), 1) := dk_2 (dk_at dksX2_apart_4 11 rfl rfl)
theorem dX2_apart_106 : decode cX2_apart 106 = .ok (.ireturn, 1) := dk_172 (dk_at dksX2_apart_4 12 rfl rfl)
theorem dX2_apart_107 : decode cX2_apart 107 = .ok (.iconst 0, 1) := dk_3 (dk_at dksX2_apart_4 13 rfl rfl)
theorem dX2_apart_108 : decode cX2_apart 108 = .ok (.istore 4, 2) := dk_54 4 (dk_at dksX2_apart_4 14 rfl rfl)
theorem dX2_apart_110 : decode cX2_apart 110 = .ok (.aload_n 0, 1) := dk_42 (dk_at dksX2_apart_4 16 rfl rfl)
theorem dX2_apart_111 : decode cX2_apart 111 = .ok (.getfield 85, 3) := dk_180 0 85 (dk_at dksX2_apart_4 17 rfl rfl)
theorem dX2_apart_114 : decode cX2_apart 114 = .ok (.iload 4, 2) := dk_21 4 (dk_at dksX2_apart_4 20 rfl rfl)
theorem dX2_apart_116 : decode cX2_apart 116 = .ok (.iaload, 1) := dk_46 (dk_at dksX2_apart_4 22 rfl rfl)
theorem dX2_apart_117 : decode cX2_apart 117 = .ok (.iload_n 2, 1) := dk_28 (dk_at dksX2_apart_4 23 rfl rfl)
theorem dX2_apart_118 : decode cX2_apart 118 = .ok (.if_icmp .eq 9, 3) := dk_159 0 9 (dk_at dksX2_apart_5 0 rfl rfl)
theorem dX2_apart_121 : decode cX2_apart 121 = .ok (.iinc 4 1, 3) := dk_132 4 1 (dk_at dksX2_apart_5 3 rfl rfl)
theorem dX2_apart_124 : decode cX2_apart 124 = .ok (.goto (-14), 3) := dk_167 255 242 (dk_at dksX2_apart_5 6 rfl rfl)
theorem dX2_apart_127 : decode cX2_apart 127 = .ok (.aload_n 0, 1) := dk_42 (dk_at dksX2_apart_5 9 rfl rfl)
theorem dX2_apart_128 : decode cX2_apart 128 = .ok (.getfield 82, 3) := dk_180 0 82 (dk_at dksX2_apart_5 10 rfl rfl)
theorem dX2_apart_131 : decode cX2_apart 131 = .ok (.iload 4, 2) := dk_21 4 (dk_at dksX2_apart_5 13 rfl rfl)
theorem dX2_apart_133 : decode cX2_apart 133 = .ok (.iaload, 1) := dk_46 (dk_at dksX2_apart_5 15 rfl rfl)
theorem dX2_apart_134 : decode cX2_apart 134 = .ok (.ireturn, 1) := dk_172 (dk_at dksX2_apart_5 16 rfl rfl)
abbrev cX2_findApart : ByteArray := prog_17_method_106_code
def yX2_findApart : MethodName := ⟨RX2, "findApart", "(I)Z"⟩
def dkwX2_findApart_8 : List UInt8 := [167, 255, 155, 3, 172]
abbrev dktX2_findApart_8 : List UInt8 := dkwX2_findApart_8 ++ []
def dkwX2_findApart_7 : List UInt8 := [96, 79, 167, 255, 177, 28, 27, 4, 100, 160, 0, 5, 4, 172, 132, 2, 1, 42, 180, 0, 82, 28, 3, 79]
abbrev dktX2_findApart_7 : List UInt8 := dkwX2_findApart_7 ++ dktX2_findApart_8
def dkwX2_findApart_6 : List UInt8 := [180, 0, 49, 42, 180, 0, 85, 28, 46, 46, 160, 0, 19, 132, 2, 255, 42, 180, 0, 82, 28, 92, 46, 4]
abbrev dktX2_findApart_6 : List UInt8 := dkwX2_findApart_6 ++ dktX2_findApart_7
def dkwX2_findApart_5 : List UInt8 := [154, 0, 16, 42, 180, 0, 82, 28, 92, 46, 4, 96, 79, 167, 255, 218, 42, 180, 0, 82, 28, 46, 42]
abbrev dktX2_findApart_5 : List UInt8 := dkwX2_findApart_5 ++ dktX2_findApart_6
def dkwX2_findApart_4 : List UInt8 := [180, 0, 82, 28, 46, 42, 180, 0, 49, 42, 180, 0, 85, 28, 46, 46, 162, 0, 24, 42, 28, 182, 1, 180]
abbrev dktX2_findApart_4 : List UInt8 := dkwX2_findApart_4 ++ dktX2_findApart_5
def dkwX2_findApart_3 : List UInt8 := [42, 180, 0, 82, 4, 3, 79, 27, 4, 160, 0, 5, 4, 172, 4, 61, 28, 4, 161, 0, 102, 42]
abbrev dktX2_findApart_3 : List UInt8 := dkwX2_findApart_3 ++ dktX2_findApart_4
def dkwX2_findApart_2 : List UInt8 := [184, 1, 71, 136, 79, 132, 3, 1, 167, 255, 210, 132, 2, 1, 167, 255, 197, 42, 180, 0, 82, 3, 3, 79]
abbrev dktX2_findApart_2 : List UInt8 := dkwX2_findApart_2 ++ dktX2_findApart_3
def dkwX2_findApart_1 : List UInt8 := [180, 0, 49, 42, 180, 0, 85, 28, 46, 46, 133, 42, 180, 0, 49, 42, 180, 0, 85, 29, 46, 46, 133]
abbrev dktX2_findApart_1 : List UInt8 := dkwX2_findApart_1 ++ dktX2_findApart_2
def dkwX2_findApart_0 : List UInt8 := [3, 61, 28, 27, 162, 0, 60, 3, 62, 29, 28, 162, 0, 47, 42, 180, 0, 88, 8, 28, 104, 29, 96, 42]
abbrev dktX2_findApart_0 : List UInt8 := dkwX2_findApart_0 ++ dktX2_findApart_1
theorem dksX2_findApart_0 : cX2_findApart.data.toList.drop 0 = dktX2_findApart_0 := by decide +kernel
theorem dksX2_findApart_1 : cX2_findApart.data.toList.drop 24 = dktX2_findApart_1 := dk_seg dksX2_findApart_0 24 rfl rfl
theorem dksX2_findApart_2 : cX2_findApart.data.toList.drop 47 = dktX2_findApart_2 := dk_seg dksX2_findApart_1 23 rfl rfl
theorem dksX2_findApart_3 : cX2_findApart.data.toList.drop 71 = dktX2_findApart_3 := dk_seg dksX2_findApart_2 24 rfl rfl
theorem dksX2_findApart_4 : cX2_findApart.data.toList.drop 93 = dktX2_findApart_4 := dk_seg dksX2_findApart_3 22 rfl rfl
theorem dksX2_findApart_5 : cX2_findApart.data.toList.drop 117 = dktX2_findApart_5 := dk_seg dksX2_findApart_4 24 rfl rfl
theorem dksX2_findApart_6 : cX2_findApart.data.toList.drop 140 = dktX2_findApart_6 := dk_seg dksX2_findApart_5 23 rfl rfl
theorem dksX2_findApart_7 : cX2_findApart.data.toList.drop 164 = dktX2_findApart_7 := dk_seg dksX2_findApart_6 24 rfl rfl
theorem dksX2_findApart_8 : cX2_findApart.data.toList.drop 188 = dktX2_findApart_8 := dk_seg dksX2_findApart_7 24 rfl rfl
theorem dX2_findApart_0 : decode cX2_findApart 0 = .ok (.iconst 0, 1) := dk_3 (dk_at dksX2_findApart_0 0 rfl rfl)
theorem dX2_findApart_1 : decode cX2_findApart 1 = .ok (.istore_n 2, 1) := dk_61 (dk_at dksX2_findApart_0 1 rfl rfl)
theorem dX2_findApart_2 : decode cX2_findApart 2 = .ok (.iload_n 2, 1) := dk_28 (dk_at dksX2_findApart_0 2 rfl rfl)
theorem dX2_findApart_3 : decode cX2_findApart 3 = .ok (.iload_n 1, 1) := dk_27 (dk_at dksX2_findApart_0 3 rfl rfl)
theorem dX2_findApart_4 : decode cX2_findApart 4 = .ok (.if_icmp .ge 60, 3) := dk_162 0 60 (dk_at dksX2_findApart_0 4 rfl rfl)
theorem dX2_findApart_7 : decode cX2_findApart 7 = .ok (.iconst 0, 1) := dk_3 (dk_at dksX2_findApart_0 7 rfl rfl)
theorem dX2_findApart_8 : decode cX2_findApart 8 = .ok (.istore_n 3, 1) := dk_62 (dk_at dksX2_findApart_0 8 rfl rfl)
theorem dX2_findApart_9 : decode cX2_findApart 9 = .ok (.iload_n 3, 1) := dk_29 (dk_at dksX2_findApart_0 9 rfl rfl)
theorem dX2_findApart_10 : decode cX2_findApart 10 = .ok (.iload_n 2, 1) := dk_28 (dk_at dksX2_findApart_0 10 rfl rfl)
theorem dX2_findApart_11 : decode cX2_findApart 11 = .ok (.if_icmp .ge 47, 3) := dk_162 0 47 (dk_at dksX2_findApart_0 11 rfl rfl)
theorem dX2_findApart_14 : decode cX2_findApart 14 = .ok (.aload_n 0, 1) := dk_42 (dk_at dksX2_findApart_0 14 rfl rfl)
theorem dX2_findApart_15 : decode cX2_findApart 15 = .ok (.getfield 88, 3) := dk_180 0 88 (dk_at dksX2_findApart_0 15 rfl rfl)
theorem dX2_findApart_18 : decode cX2_findApart 18 = .ok (.iconst 5, 1) := dk_8 (dk_at dksX2_findApart_0 18 rfl rfl)
theorem dX2_findApart_19 : decode cX2_findApart 19 = .ok (.iload_n 2, 1) := dk_28 (dk_at dksX2_findApart_0 19 rfl rfl)
theorem dX2_findApart_20 : decode cX2_findApart 20 = .ok (.imul, 1) := dk_104 (dk_at dksX2_findApart_0 20 rfl rfl)
theorem dX2_findApart_21 : decode cX2_findApart 21 = .ok (.iload_n 3, 1) := dk_29 (dk_at dksX2_findApart_0 21 rfl rfl)
theorem dX2_findApart_22 : decode cX2_findApart 22 = .ok (.iadd, 1) := dk_96 (dk_at dksX2_findApart_0 22 rfl rfl)
theorem dX2_findApart_23 : decode cX2_findApart 23 = .ok (.aload_n 0, 1) := dk_42 (dk_at dksX2_findApart_0 23 rfl rfl)
theorem dX2_findApart_24 : decode cX2_findApart 24 = .ok (.getfield 49, 3) := dk_180 0 49 (dk_at dksX2_findApart_1 0 rfl rfl)
theorem dX2_findApart_27 : decode cX2_findApart 27 = .ok (.aload_n 0, 1) := dk_42 (dk_at dksX2_findApart_1 3 rfl rfl)
theorem dX2_findApart_28 : decode cX2_findApart 28 = .ok (.getfield 85, 3) := dk_180 0 85 (dk_at dksX2_findApart_1 4 rfl rfl)
theorem dX2_findApart_31 : decode cX2_findApart 31 = .ok (.iload_n 2, 1) := dk_28 (dk_at dksX2_findApart_1 7 rfl rfl)
theorem dX2_findApart_32 : decode cX2_findApart 32 = .ok (.iaload, 1) := dk_46 (dk_at dksX2_findApart_1 8 rfl rfl)
theorem dX2_findApart_33 : decode cX2_findApart 33 = .ok (.iaload, 1) := dk_46 (dk_at dksX2_findApart_1 9 rfl rfl)
theorem dX2_findApart_34 : decode cX2_findApart 34 = .ok (.i2l, 1) := dk_133 (dk_at dksX2_findApart_1 10 rfl rfl)
theorem dX2_findApart_35 : decode cX2_findApart 35 = .ok (.aload_n 0, 1) := dk_42 (dk_at dksX2_findApart_1 11 rfl rfl)
theorem dX2_findApart_36 : decode cX2_findApart 36 = .ok (.getfield 49, 3) := dk_180 0 49 (dk_at dksX2_findApart_1 12 rfl rfl)
theorem dX2_findApart_39 : decode cX2_findApart 39 = .ok (.aload_n 0, 1) := dk_42 (dk_at dksX2_findApart_1 15 rfl rfl)
theorem dX2_findApart_40 : decode cX2_findApart 40 = .ok (.getfield 85, 3) := dk_180 0 85 (dk_at dksX2_findApart_1 16 rfl rfl)
theorem dX2_findApart_43 : decode cX2_findApart 43 = .ok (.iload_n 3, 1) := dk_29 (dk_at dksX2_findApart_1 19 rfl rfl)
theorem dX2_findApart_44 : decode cX2_findApart 44 = .ok (.iaload, 1) := dk_46 (dk_at dksX2_findApart_1 20 rfl rfl)
theorem dX2_findApart_45 : decode cX2_findApart 45 = .ok (.iaload, 1) := dk_46 (dk_at dksX2_findApart_1 21 rfl rfl)
theorem dX2_findApart_46 : decode cX2_findApart 46 = .ok (.i2l, 1) := dk_133 (dk_at dksX2_findApart_1 22 rfl rfl)
theorem dX2_findApart_47 : decode cX2_findApart 47 = .ok (.invokestatic 327, 3) := dk_184 1 71 (dk_at dksX2_findApart_2 0 rfl rfl)
theorem dX2_findApart_50 : decode cX2_findApart 50 = .ok (.l2i, 1) := dk_136 (dk_at dksX2_findApart_2 3 rfl rfl)
theorem dX2_findApart_51 : decode cX2_findApart 51 = .ok (.iastore, 1) := dk_79 (dk_at dksX2_findApart_2 4 rfl rfl)
theorem dX2_findApart_52 : decode cX2_findApart 52 = .ok (.iinc 3 1, 3) := dk_132 3 1 (dk_at dksX2_findApart_2 5 rfl rfl)
theorem dX2_findApart_55 : decode cX2_findApart 55 = .ok (.goto (-46), 3) := dk_167 255 210 (dk_at dksX2_findApart_2 8 rfl rfl)
theorem dX2_findApart_58 : decode cX2_findApart 58 = .ok (.iinc 2 1, 3) := dk_132 2 1 (dk_at dksX2_findApart_2 11 rfl rfl)
theorem dX2_findApart_61 : decode cX2_findApart 61 = .ok (.goto (-59), 3) := dk_167 255 197 (dk_at dksX2_findApart_2 14 rfl rfl)
theorem dX2_findApart_64 : decode cX2_findApart 64 = .ok (.aload_n 0, 1) := dk_42 (dk_at dksX2_findApart_2 17 rfl rfl)
theorem dX2_findApart_65 : decode cX2_findApart 65 = .ok (.getfield 82, 3) := dk_180 0 82 (dk_at dksX2_findApart_2 18 rfl rfl)
theorem dX2_findApart_68 : decode cX2_findApart 68 = .ok (.iconst 0, 1) := dk_3 (dk_at dksX2_findApart_2 21 rfl rfl)
theorem dX2_findApart_69 : decode cX2_findApart 69 = .ok (.iconst 0, 1) := dk_3 (dk_at dksX2_findApart_2 22 rfl rfl)
theorem dX2_findApart_70 : decode cX2_findApart 70 = .ok (.iastore, 1) := dk_79 (dk_at dksX2_findApart_2 23 rfl rfl)
theorem dX2_findApart_71 : decode cX2_findApart 71 = .ok (.aload_n 0, 1) := dk_42 (dk_at dksX2_findApart_3 0 rfl rfl)
theorem dX2_findApart_72 : decode cX2_findApart 72 = .ok (.getfield 82, 3) := dk_180 0 82 (dk_at dksX2_findApart_3 1 rfl rfl)
theorem dX2_findApart_75 : decode cX2_findApart 75 = .ok (.iconst 1, 1) := dk_4 (dk_at dksX2_findApart_3 4 rfl rfl)
theorem dX2_findApart_76 : decode cX2_findApart 76 = .ok (.iconst 0, 1) := dk_3 (dk_at dksX2_findApart_3 5 rfl rfl)
theorem dX2_findApart_77 : decode cX2_findApart 77 = .ok (.iastore, 1) := dk_79 (dk_at dksX2_findApart_3 6 rfl rfl)
theorem dX2_findApart_78 : decode cX2_findApart 78 = .ok (.iload_n 1, 1) := dk_27 (dk_at dksX2_findApart_3 7 rfl rfl)
theorem dX2_findApart_79 : decode cX2_findApart 79 = .ok (.iconst 1, 1) := dk_4 (dk_at dksX2_findApart_3 8 rfl rfl)
theorem dX2_findApart_80 : decode cX2_findApart 80 = .ok (.if_icmp .ne 5, 3) := dk_160 0 5 (dk_at dksX2_findApart_3 9 rfl rfl)
theorem dX2_findApart_83 : decode cX2_findApart 83 = .ok (.iconst 1, 1) := dk_4 (dk_at dksX2_findApart_3 12 rfl rfl)
theorem dX2_findApart_84 : decode cX2_findApart 84 = .ok (.ireturn, 1) := dk_172 (dk_at dksX2_findApart_3 13 rfl rfl)
theorem dX2_findApart_85 : decode cX2_findApart 85 = .ok (.iconst 1, 1) := dk_4 (dk_at dksX2_findApart_3 14 rfl rfl)
theorem dX2_findApart_86 : decode cX2_findApart 86 = .ok (.istore_n 2, 1) := dk_61 (dk_at dksX2_findApart_3 15 rfl rfl)
theorem dX2_findApart_87 : decode cX2_findApart 87 = .ok (.iload_n 2, 1) := dk_28 (dk_at dksX2_findApart_3 16 rfl rfl)
theorem dX2_findApart_88 : decode cX2_findApart 88 = .ok (.iconst 1, 1) := dk_4 (dk_at dksX2_findApart_3 17 rfl rfl)
theorem dX2_findApart_89 : decode cX2_findApart 89 = .ok (.if_icmp .lt 102, 3) := dk_161 0 102 (dk_at dksX2_findApart_3 18 rfl rfl)
theorem dX2_findApart_92 : decode cX2_findApart 92 = .ok (.aload_n 0, 1) := dk_42 (dk_at dksX2_findApart_3 21 rfl rfl)
theorem dX2_findApart_93 : decode cX2_findApart 93 = .ok (.getfield 82, 3) := dk_180 0 82 (dk_at dksX2_findApart_4 0 rfl rfl)
theorem dX2_findApart_96 : decode cX2_findApart 96 = .ok (.iload_n 2, 1) := dk_28 (dk_at dksX2_findApart_4 3 rfl rfl)
theorem dX2_findApart_97 : decode cX2_findApart 97 = .ok (.iaload, 1) := dk_46 (dk_at dksX2_findApart_4 4 rfl rfl)
theorem dX2_findApart_98 : decode cX2_findApart 98 = .ok (.aload_n 0, 1) := dk_42 (dk_at dksX2_findApart_4 5 rfl rfl)
theorem dX2_findApart_99 : decode cX2_findApart 99 = .ok (.getfield 49, 3) := dk_180 0 49 (dk_at dksX2_findApart_4 6 rfl rfl)
theorem dX2_findApart_102 : decode cX2_findApart 102 = .ok (.aload_n 0, 1) := dk_42 (dk_at dksX2_findApart_4 9 rfl rfl)
theorem dX2_findApart_103 : decode cX2_findApart 103 = .ok (.getfield 85, 3) := dk_180 0 85 (dk_at dksX2_findApart_4 10 rfl rfl)
theorem dX2_findApart_106 : decode cX2_findApart 106 = .ok (.iload_n 2, 1) := dk_28 (dk_at dksX2_findApart_4 13 rfl rfl)
theorem dX2_findApart_107 : decode cX2_findApart 107 = .ok (.iaload, 1) := dk_46 (dk_at dksX2_findApart_4 14 rfl rfl)
theorem dX2_findApart_108 : decode cX2_findApart 108 = .ok (.iaload, 1) := dk_46 (dk_at dksX2_findApart_4 15 rfl rfl)
theorem dX2_findApart_109 : decode cX2_findApart 109 = .ok (.if_icmp .ge 24, 3) := dk_162 0 24 (dk_at dksX2_findApart_4 16 rfl rfl)
theorem dX2_findApart_112 : decode cX2_findApart 112 = .ok (.aload_n 0, 1) := dk_42 (dk_at dksX2_findApart_4 19 rfl rfl)
theorem dX2_findApart_113 : decode cX2_findApart 113 = .ok (.iload_n 2, 1) := dk_28 (dk_at dksX2_findApart_4 20 rfl rfl)
theorem dX2_findApart_114 : decode cX2_findApart 114 = .ok (.invokevirtual 436, 3) := dk_182 1 180 (dk_at dksX2_findApart_4 21 rfl rfl)
theorem dX2_findApart_117 : decode cX2_findApart 117 = .ok (.ifCond .ne 16, 3) := dk_154 0 16 (dk_at dksX2_findApart_5 0 rfl rfl)
theorem dX2_findApart_120 : decode cX2_findApart 120 = .ok (.aload_n 0, 1) := dk_42 (dk_at dksX2_findApart_5 3 rfl rfl)
theorem dX2_findApart_121 : decode cX2_findApart 121 = .ok (.getfield 82, 3) := dk_180 0 82 (dk_at dksX2_findApart_5 4 rfl rfl)
theorem dX2_findApart_124 : decode cX2_findApart 124 = .ok (.iload_n 2, 1) := dk_28 (dk_at dksX2_findApart_5 7 rfl rfl)
theorem dX2_findApart_125 : decode cX2_findApart 125 = .ok (.dup2, 1) := dk_92 (dk_at dksX2_findApart_5 8 rfl rfl)
theorem dX2_findApart_126 : decode cX2_findApart 126 = .ok (.iaload, 1) := dk_46 (dk_at dksX2_findApart_5 9 rfl rfl)
theorem dX2_findApart_127 : decode cX2_findApart 127 = .ok (.iconst 1, 1) := dk_4 (dk_at dksX2_findApart_5 10 rfl rfl)
theorem dX2_findApart_128 : decode cX2_findApart 128 = .ok (.iadd, 1) := dk_96 (dk_at dksX2_findApart_5 11 rfl rfl)
theorem dX2_findApart_129 : decode cX2_findApart 129 = .ok (.iastore, 1) := dk_79 (dk_at dksX2_findApart_5 12 rfl rfl)
theorem dX2_findApart_130 : decode cX2_findApart 130 = .ok (.goto (-38), 3) := dk_167 255 218 (dk_at dksX2_findApart_5 13 rfl rfl)
theorem dX2_findApart_133 : decode cX2_findApart 133 = .ok (.aload_n 0, 1) := dk_42 (dk_at dksX2_findApart_5 16 rfl rfl)
theorem dX2_findApart_134 : decode cX2_findApart 134 = .ok (.getfield 82, 3) := dk_180 0 82 (dk_at dksX2_findApart_5 17 rfl rfl)
theorem dX2_findApart_137 : decode cX2_findApart 137 = .ok (.iload_n 2, 1) := dk_28 (dk_at dksX2_findApart_5 20 rfl rfl)
theorem dX2_findApart_138 : decode cX2_findApart 138 = .ok (.iaload, 1) := dk_46 (dk_at dksX2_findApart_5 21 rfl rfl)
theorem dX2_findApart_139 : decode cX2_findApart 139 = .ok (.aload_n 0, 1) := dk_42 (dk_at dksX2_findApart_5 22 rfl rfl)
theorem dX2_findApart_140 : decode cX2_findApart 140 = .ok (.getfield 49, 3) := dk_180 0 49 (dk_at dksX2_findApart_6 0 rfl rfl)
theorem dX2_findApart_143 : decode cX2_findApart 143 = .ok (.aload_n 0, 1) := dk_42 (dk_at dksX2_findApart_6 3 rfl rfl)
theorem dX2_findApart_144 : decode cX2_findApart 144 = .ok (.getfield 85, 3) := dk_180 0 85 (dk_at dksX2_findApart_6 4 rfl rfl)
theorem dX2_findApart_147 : decode cX2_findApart 147 = .ok (.iload_n 2, 1) := dk_28 (dk_at dksX2_findApart_6 7 rfl rfl)
theorem dX2_findApart_148 : decode cX2_findApart 148 = .ok (.iaload, 1) := dk_46 (dk_at dksX2_findApart_6 8 rfl rfl)
theorem dX2_findApart_149 : decode cX2_findApart 149 = .ok (.iaload, 1) := dk_46 (dk_at dksX2_findApart_6 9 rfl rfl)
theorem dX2_findApart_150 : decode cX2_findApart 150 = .ok (.if_icmp .ne 19, 3) := dk_160 0 19 (dk_at dksX2_findApart_6 10 rfl rfl)
theorem dX2_findApart_153 : decode cX2_findApart 153 = .ok (.iinc 2 (-1), 3) := dk_132 2 255 (dk_at dksX2_findApart_6 13 rfl rfl)
theorem dX2_findApart_156 : decode cX2_findApart 156 = .ok (.aload_n 0, 1) := dk_42 (dk_at dksX2_findApart_6 16 rfl rfl)
theorem dX2_findApart_157 : decode cX2_findApart 157 = .ok (.getfield 82, 3) := dk_180 0 82 (dk_at dksX2_findApart_6 17 rfl rfl)
theorem dX2_findApart_160 : decode cX2_findApart 160 = .ok (.iload_n 2, 1) := dk_28 (dk_at dksX2_findApart_6 20 rfl rfl)
theorem dX2_findApart_161 : decode cX2_findApart 161 = .ok (.dup2, 1) := dk_92 (dk_at dksX2_findApart_6 21 rfl rfl)
theorem dX2_findApart_162 : decode cX2_findApart 162 = .ok (.iaload, 1) := dk_46 (dk_at dksX2_findApart_6 22 rfl rfl)
theorem dX2_findApart_163 : decode cX2_findApart 163 = .ok (.iconst 1, 1) := dk_4 (dk_at dksX2_findApart_6 23 rfl rfl)
theorem dX2_findApart_164 : decode cX2_findApart 164 = .ok (.iadd, 1) := dk_96 (dk_at dksX2_findApart_7 0 rfl rfl)
theorem dX2_findApart_165 : decode cX2_findApart 165 = .ok (.iastore, 1) := dk_79 (dk_at dksX2_findApart_7 1 rfl rfl)
theorem dX2_findApart_166 : decode cX2_findApart 166 = .ok (.goto (-79), 3) := dk_167 255 177 (dk_at dksX2_findApart_7 2 rfl rfl)
theorem dX2_findApart_169 : decode cX2_findApart 169 = .ok (.iload_n 2, 1) := dk_28 (dk_at dksX2_findApart_7 5 rfl rfl)
theorem dX2_findApart_170 : decode cX2_findApart 170 = .ok (.iload_n 1, 1) := dk_27 (dk_at dksX2_findApart_7 6 rfl rfl)
theorem dX2_findApart_171 : decode cX2_findApart 171 = .ok (.iconst 1, 1) := dk_4 (dk_at dksX2_findApart_7 7 rfl rfl)
theorem dX2_findApart_172 : decode cX2_findApart 172 = .ok (.isub, 1) := dk_100 (dk_at dksX2_findApart_7 8 rfl rfl)
theorem dX2_findApart_173 : decode cX2_findApart 173 = .ok (.if_icmp .ne 5, 3) := dk_160 0 5 (dk_at dksX2_findApart_7 9 rfl rfl)
theorem dX2_findApart_176 : decode cX2_findApart 176 = .ok (.iconst 1, 1) := dk_4 (dk_at dksX2_findApart_7 12 rfl rfl)
theorem dX2_findApart_177 : decode cX2_findApart 177 = .ok (.ireturn, 1) := dk_172 (dk_at dksX2_findApart_7 13 rfl rfl)
theorem dX2_findApart_178 : decode cX2_findApart 178 = .ok (.iinc 2 1, 3) := dk_132 2 1 (dk_at dksX2_findApart_7 14 rfl rfl)
theorem dX2_findApart_181 : decode cX2_findApart 181 = .ok (.aload_n 0, 1) := dk_42 (dk_at dksX2_findApart_7 17 rfl rfl)
theorem dX2_findApart_182 : decode cX2_findApart 182 = .ok (.getfield 82, 3) := dk_180 0 82 (dk_at dksX2_findApart_7 18 rfl rfl)
theorem dX2_findApart_185 : decode cX2_findApart 185 = .ok (.iload_n 2, 1) := dk_28 (dk_at dksX2_findApart_7 21 rfl rfl)
theorem dX2_findApart_186 : decode cX2_findApart 186 = .ok (.iconst 0, 1) := dk_3 (dk_at dksX2_findApart_7 22 rfl rfl)
theorem dX2_findApart_187 : decode cX2_findApart 187 = .ok (.iastore, 1) := dk_79 (dk_at dksX2_findApart_7 23 rfl rfl)
theorem dX2_findApart_188 : decode cX2_findApart 188 = .ok (.goto (-101), 3) := dk_167 255 155 (dk_at dksX2_findApart_8 0 rfl rfl)
theorem dX2_findApart_191 : decode cX2_findApart 191 = .ok (.iconst 0, 1) := dk_3 (dk_at dksX2_findApart_8 3 rfl rfl)
theorem dX2_findApart_192 : decode cX2_findApart 192 = .ok (.ireturn, 1) := dk_172 (dk_at dksX2_findApart_8 4 rfl rfl)
abbrev cX2_isApart : ByteArray := prog_17_method_105_code
def yX2_isApart : MethodName := ⟨RX2, "isApart", "(I)Z"⟩
def dkwX2_isApart_1 : List UInt8 := [8, 27, 104, 28, 96, 46, 112, 154, 0, 5, 3, 172, 132, 2, 1, 167, 255, 219, 4, 172]
abbrev dktX2_isApart_1 : List UInt8 := dkwX2_isApart_1 ++ []
def dkwX2_isApart_0 : List UInt8 := [3, 61, 28, 27, 162, 0, 38, 42, 180, 0, 82, 27, 46, 42, 180, 0, 82, 28, 46, 100, 42, 180, 0, 88]
abbrev dktX2_isApart_0 : List UInt8 := dkwX2_isApart_0 ++ dktX2_isApart_1
theorem dksX2_isApart_0 : cX2_isApart.data.toList.drop 0 = dktX2_isApart_0 := by decide +kernel
theorem dksX2_isApart_1 : cX2_isApart.data.toList.drop 24 = dktX2_isApart_1 := dk_seg dksX2_isApart_0 24 rfl rfl
theorem dX2_isApart_0 : decode cX2_isApart 0 = .ok (.iconst 0, 1) := dk_3 (dk_at dksX2_isApart_0 0 rfl rfl)
theorem dX2_isApart_1 : decode cX2_isApart 1 = .ok (.istore_n 2, 1) := dk_61 (dk_at dksX2_isApart_0 1 rfl rfl)
theorem dX2_isApart_2 : decode cX2_isApart 2 = .ok (.iload_n 2, 1) := dk_28 (dk_at dksX2_isApart_0 2 rfl rfl)
theorem dX2_isApart_3 : decode cX2_isApart 3 = .ok (.iload_n 1, 1) := dk_27 (dk_at dksX2_isApart_0 3 rfl rfl)
theorem dX2_isApart_4 : decode cX2_isApart 4 = .ok (.if_icmp .ge 38, 3) := dk_162 0 38 (dk_at dksX2_isApart_0 4 rfl rfl)
theorem dX2_isApart_7 : decode cX2_isApart 7 = .ok (.aload_n 0, 1) := dk_42 (dk_at dksX2_isApart_0 7 rfl rfl)
theorem dX2_isApart_8 : decode cX2_isApart 8 = .ok (.getfield 82, 3) := dk_180 0 82 (dk_at dksX2_isApart_0 8 rfl rfl)
theorem dX2_isApart_11 : decode cX2_isApart 11 = .ok (.iload_n 1, 1) := dk_27 (dk_at dksX2_isApart_0 11 rfl rfl)
theorem dX2_isApart_12 : decode cX2_isApart 12 = .ok (.iaload, 1) := dk_46 (dk_at dksX2_isApart_0 12 rfl rfl)
theorem dX2_isApart_13 : decode cX2_isApart 13 = .ok (.aload_n 0, 1) := dk_42 (dk_at dksX2_isApart_0 13 rfl rfl)
theorem dX2_isApart_14 : decode cX2_isApart 14 = .ok (.getfield 82, 3) := dk_180 0 82 (dk_at dksX2_isApart_0 14 rfl rfl)
theorem dX2_isApart_17 : decode cX2_isApart 17 = .ok (.iload_n 2, 1) := dk_28 (dk_at dksX2_isApart_0 17 rfl rfl)
theorem dX2_isApart_18 : decode cX2_isApart 18 = .ok (.iaload, 1) := dk_46 (dk_at dksX2_isApart_0 18 rfl rfl)
theorem dX2_isApart_19 : decode cX2_isApart 19 = .ok (.isub, 1) := dk_100 (dk_at dksX2_isApart_0 19 rfl rfl)
theorem dX2_isApart_20 : decode cX2_isApart 20 = .ok (.aload_n 0, 1) := dk_42 (dk_at dksX2_isApart_0 20 rfl rfl)
theorem dX2_isApart_21 : decode cX2_isApart 21 = .ok (.getfield 88, 3) := dk_180 0 88 (dk_at dksX2_isApart_0 21 rfl rfl)
theorem dX2_isApart_24 : decode cX2_isApart 24 = .ok (.iconst 5, 1) := dk_8 (dk_at dksX2_isApart_1 0 rfl rfl)
theorem dX2_isApart_25 : decode cX2_isApart 25 = .ok (.iload_n 1, 1) := dk_27 (dk_at dksX2_isApart_1 1 rfl rfl)
theorem dX2_isApart_26 : decode cX2_isApart 26 = .ok (.imul, 1) := dk_104 (dk_at dksX2_isApart_1 2 rfl rfl)
theorem dX2_isApart_27 : decode cX2_isApart 27 = .ok (.iload_n 2, 1) := dk_28 (dk_at dksX2_isApart_1 3 rfl rfl)
theorem dX2_isApart_28 : decode cX2_isApart 28 = .ok (.iadd, 1) := dk_96 (dk_at dksX2_isApart_1 4 rfl rfl)
theorem dX2_isApart_29 : decode cX2_isApart 29 = .ok (.iaload, 1) := dk_46 (dk_at dksX2_isApart_1 5 rfl rfl)
theorem dX2_isApart_30 : decode cX2_isApart 30 = .ok (.irem, 1) := dk_112 (dk_at dksX2_isApart_1 6 rfl rfl)
theorem dX2_isApart_31 : decode cX2_isApart 31 = .ok (.ifCond .ne 5, 3) := dk_154 0 5 (dk_at dksX2_isApart_1 7 rfl rfl)
theorem dX2_isApart_34 : decode cX2_isApart 34 = .ok (.iconst 0, 1) := dk_3 (dk_at dksX2_isApart_1 10 rfl rfl)
theorem dX2_isApart_35 : decode cX2_isApart 35 = .ok (.ireturn, 1) := dk_172 (dk_at dksX2_isApart_1 11 rfl rfl)
theorem dX2_isApart_36 : decode cX2_isApart 36 = .ok (.iinc 2 1, 3) := dk_132 2 1 (dk_at dksX2_isApart_1 12 rfl rfl)
theorem dX2_isApart_39 : decode cX2_isApart 39 = .ok (.goto (-37), 3) := dk_167 255 219 (dk_at dksX2_isApart_1 15 rfl rfl)
theorem dX2_isApart_42 : decode cX2_isApart 42 = .ok (.iconst 1, 1) := dk_4 (dk_at dksX2_isApart_1 18 rfl rfl)
theorem dX2_isApart_43 : decode cX2_isApart 43 = .ok (.ireturn, 1) := dk_172 (dk_at dksX2_isApart_1 19 rfl rfl)
abbrev cX2_heard : ByteArray := prog_17_method_108_code
def yX2_heard : MethodName := ⟨RX2, "heard", "(IZ)I"⟩
def dkwX2_heard_3 : List UInt8 := [79, 42, 180, 0, 7, 16, 8, 92, 46, 4, 96, 79, 42, 180, 0, 7, 16, 8, 46, 172]
abbrev dktX2_heard_3 : List UInt8 := dkwX2_heard_3 ++ []
def dkwX2_heard_2 : List UInt8 := [17, 0, 150, 5, 42, 180, 0, 7, 16, 8, 46, 104, 96, 4, 96, 28, 153, 0, 7, 4, 167, 0, 4, 3]
abbrev dktX2_heard_2 : List UInt8 := dkwX2_heard_2 ++ dktX2_heard_3
def dkwX2_heard_1 : List UInt8 := [172, 42, 180, 0, 7, 17, 0, 150, 5, 42, 180, 0, 7, 16, 8, 46, 104, 96, 27, 79, 42, 180, 0, 7]
abbrev dktX2_heard_1 : List UInt8 := dkwX2_heard_1 ++ dktX2_heard_2
def dkwX2_heard_0 : List UInt8 := [27, 3, 19, 1, 186, 184, 0, 104, 153, 0, 15, 42, 180, 0, 7, 16, 8, 46, 16, 20, 160, 0, 5, 2]
abbrev dktX2_heard_0 : List UInt8 := dkwX2_heard_0 ++ dktX2_heard_1
theorem dksX2_heard_0 : cX2_heard.data.toList.drop 0 = dktX2_heard_0 := by decide +kernel
theorem dksX2_heard_1 : cX2_heard.data.toList.drop 24 = dktX2_heard_1 := dk_seg dksX2_heard_0 24 rfl rfl
theorem dksX2_heard_2 : cX2_heard.data.toList.drop 48 = dktX2_heard_2 := dk_seg dksX2_heard_1 24 rfl rfl
theorem dksX2_heard_3 : cX2_heard.data.toList.drop 72 = dktX2_heard_3 := dk_seg dksX2_heard_2 24 rfl rfl
theorem dX2_heard_0 : decode cX2_heard 0 = .ok (.iload_n 1, 1) := dk_27 (dk_at dksX2_heard_0 0 rfl rfl)
theorem dX2_heard_1 : decode cX2_heard 1 = .ok (.iconst 0, 1) := dk_3 (dk_at dksX2_heard_0 1 rfl rfl)
theorem dX2_heard_2 : decode cX2_heard 2 = .ok (.ldc_w 442, 3) := dk_19 1 186 (dk_at dksX2_heard_0 2 rfl rfl)
theorem dX2_heard_5 : decode cX2_heard 5 = .ok (.invokestatic 104, 3) := dk_184 0 104 (dk_at dksX2_heard_0 5 rfl rfl)
theorem dX2_heard_8 : decode cX2_heard 8 = .ok (.ifCond .eq 15, 3) := dk_153 0 15 (dk_at dksX2_heard_0 8 rfl rfl)
theorem dX2_heard_11 : decode cX2_heard 11 = .ok (.aload_n 0, 1) := dk_42 (dk_at dksX2_heard_0 11 rfl rfl)
theorem dX2_heard_12 : decode cX2_heard 12 = .ok (.getfield 7, 3) := dk_180 0 7 (dk_at dksX2_heard_0 12 rfl rfl)
theorem dX2_heard_15 : decode cX2_heard 15 = .ok (.bipush 8, 2) := dk_16 8 (dk_at dksX2_heard_0 15 rfl rfl)
theorem dX2_heard_17 : decode cX2_heard 17 = .ok (.iaload, 1) := dk_46 (dk_at dksX2_heard_0 17 rfl rfl)
theorem dX2_heard_18 : decode cX2_heard 18 = .ok (.bipush 20, 2) := dk_16 20 (dk_at dksX2_heard_0 18 rfl rfl)
theorem dX2_heard_20 : decode cX2_heard 20 = .ok (.if_icmp .ne 5, 3) := dk_160 0 5 (dk_at dksX2_heard_0 20 rfl rfl)
theorem dX2_heard_23 : decode cX2_heard 23 = .ok (.iconst (-1), 1) := dk_2 (dk_at dksX2_heard_0 23 rfl rfl)
theorem dX2_heard_24 : decode cX2_heard 24 = .ok (.ireturn, 1) := dk_172 (dk_at dksX2_heard_1 0 rfl rfl)
theorem dX2_heard_25 : decode cX2_heard 25 = .ok (.aload_n 0, 1) := dk_42 (dk_at dksX2_heard_1 1 rfl rfl)
theorem dX2_heard_26 : decode cX2_heard 26 = .ok (.getfield 7, 3) := dk_180 0 7 (dk_at dksX2_heard_1 2 rfl rfl)
theorem dX2_heard_29 : decode cX2_heard 29 = .ok (.sipush 150, 3) := dk_17 0 150 (dk_at dksX2_heard_1 5 rfl rfl)
theorem dX2_heard_32 : decode cX2_heard 32 = .ok (.iconst 2, 1) := dk_5 (dk_at dksX2_heard_1 8 rfl rfl)
theorem dX2_heard_33 : decode cX2_heard 33 = .ok (.aload_n 0, 1) := dk_42 (dk_at dksX2_heard_1 9 rfl rfl)
theorem dX2_heard_34 : decode cX2_heard 34 = .ok (.getfield 7, 3) := dk_180 0 7 (dk_at dksX2_heard_1 10 rfl rfl)
theorem dX2_heard_37 : decode cX2_heard 37 = .ok (.bipush 8, 2) := dk_16 8 (dk_at dksX2_heard_1 13 rfl rfl)
theorem dX2_heard_39 : decode cX2_heard 39 = .ok (.iaload, 1) := dk_46 (dk_at dksX2_heard_1 15 rfl rfl)
theorem dX2_heard_40 : decode cX2_heard 40 = .ok (.imul, 1) := dk_104 (dk_at dksX2_heard_1 16 rfl rfl)
theorem dX2_heard_41 : decode cX2_heard 41 = .ok (.iadd, 1) := dk_96 (dk_at dksX2_heard_1 17 rfl rfl)
theorem dX2_heard_42 : decode cX2_heard 42 = .ok (.iload_n 1, 1) := dk_27 (dk_at dksX2_heard_1 18 rfl rfl)
theorem dX2_heard_43 : decode cX2_heard 43 = .ok (.iastore, 1) := dk_79 (dk_at dksX2_heard_1 19 rfl rfl)
theorem dX2_heard_44 : decode cX2_heard 44 = .ok (.aload_n 0, 1) := dk_42 (dk_at dksX2_heard_1 20 rfl rfl)
theorem dX2_heard_45 : decode cX2_heard 45 = .ok (.getfield 7, 3) := dk_180 0 7 (dk_at dksX2_heard_1 21 rfl rfl)
theorem dX2_heard_48 : decode cX2_heard 48 = .ok (.sipush 150, 3) := dk_17 0 150 (dk_at dksX2_heard_2 0 rfl rfl)
theorem dX2_heard_51 : decode cX2_heard 51 = .ok (.iconst 2, 1) := dk_5 (dk_at dksX2_heard_2 3 rfl rfl)
theorem dX2_heard_52 : decode cX2_heard 52 = .ok (.aload_n 0, 1) := dk_42 (dk_at dksX2_heard_2 4 rfl rfl)
theorem dX2_heard_53 : decode cX2_heard 53 = .ok (.getfield 7, 3) := dk_180 0 7 (dk_at dksX2_heard_2 5 rfl rfl)
theorem dX2_heard_56 : decode cX2_heard 56 = .ok (.bipush 8, 2) := dk_16 8 (dk_at dksX2_heard_2 8 rfl rfl)
theorem dX2_heard_58 : decode cX2_heard 58 = .ok (.iaload, 1) := dk_46 (dk_at dksX2_heard_2 10 rfl rfl)
theorem dX2_heard_59 : decode cX2_heard 59 = .ok (.imul, 1) := dk_104 (dk_at dksX2_heard_2 11 rfl rfl)
theorem dX2_heard_60 : decode cX2_heard 60 = .ok (.iadd, 1) := dk_96 (dk_at dksX2_heard_2 12 rfl rfl)
theorem dX2_heard_61 : decode cX2_heard 61 = .ok (.iconst 1, 1) := dk_4 (dk_at dksX2_heard_2 13 rfl rfl)
theorem dX2_heard_62 : decode cX2_heard 62 = .ok (.iadd, 1) := dk_96 (dk_at dksX2_heard_2 14 rfl rfl)
theorem dX2_heard_63 : decode cX2_heard 63 = .ok (.iload_n 2, 1) := dk_28 (dk_at dksX2_heard_2 15 rfl rfl)
theorem dX2_heard_64 : decode cX2_heard 64 = .ok (.ifCond .eq 7, 3) := dk_153 0 7 (dk_at dksX2_heard_2 16 rfl rfl)
theorem dX2_heard_67 : decode cX2_heard 67 = .ok (.iconst 1, 1) := dk_4 (dk_at dksX2_heard_2 19 rfl rfl)
theorem dX2_heard_68 : decode cX2_heard 68 = .ok (.goto 4, 3) := dk_167 0 4 (dk_at dksX2_heard_2 20 rfl rfl)
theorem dX2_heard_71 : decode cX2_heard 71 = .ok (.iconst 0, 1) := dk_3 (dk_at dksX2_heard_2 23 rfl rfl)
theorem dX2_heard_72 : decode cX2_heard 72 = .ok (.iastore, 1) := dk_79 (dk_at dksX2_heard_3 0 rfl rfl)
theorem dX2_heard_73 : decode cX2_heard 73 = .ok (.aload_n 0, 1) := dk_42 (dk_at dksX2_heard_3 1 rfl rfl)
theorem dX2_heard_74 : decode cX2_heard 74 = .ok (.getfield 7, 3) := dk_180 0 7 (dk_at dksX2_heard_3 2 rfl rfl)
theorem dX2_heard_77 : decode cX2_heard 77 = .ok (.bipush 8, 2) := dk_16 8 (dk_at dksX2_heard_3 5 rfl rfl)
theorem dX2_heard_79 : decode cX2_heard 79 = .ok (.dup2, 1) := dk_92 (dk_at dksX2_heard_3 7 rfl rfl)
theorem dX2_heard_80 : decode cX2_heard 80 = .ok (.iaload, 1) := dk_46 (dk_at dksX2_heard_3 8 rfl rfl)
theorem dX2_heard_81 : decode cX2_heard 81 = .ok (.iconst 1, 1) := dk_4 (dk_at dksX2_heard_3 9 rfl rfl)
theorem dX2_heard_82 : decode cX2_heard 82 = .ok (.iadd, 1) := dk_96 (dk_at dksX2_heard_3 10 rfl rfl)
theorem dX2_heard_83 : decode cX2_heard 83 = .ok (.iastore, 1) := dk_79 (dk_at dksX2_heard_3 11 rfl rfl)
theorem dX2_heard_84 : decode cX2_heard 84 = .ok (.aload_n 0, 1) := dk_42 (dk_at dksX2_heard_3 12 rfl rfl)
theorem dX2_heard_85 : decode cX2_heard 85 = .ok (.getfield 7, 3) := dk_180 0 7 (dk_at dksX2_heard_3 13 rfl rfl)
theorem dX2_heard_88 : decode cX2_heard 88 = .ok (.bipush 8, 2) := dk_16 8 (dk_at dksX2_heard_3 16 rfl rfl)
theorem dX2_heard_90 : decode cX2_heard 90 = .ok (.iaload, 1) := dk_46 (dk_at dksX2_heard_3 18 rfl rfl)
theorem dX2_heard_91 : decode cX2_heard 91 = .ok (.ireturn, 1) := dk_172 (dk_at dksX2_heard_3 19 rfl rfl)
abbrev cX2_fits : ByteArray := prog_17_method_110_code
def yX2_fits : MethodName := ⟨RX2, "fits", "(II)I"⟩
def dkwX2_fits_3 : List UInt8 := [132, 5, 1, 167, 255, 215, 132, 4, 1, 167, 255, 200, 28, 2, 160, 0, 7, 29, 167, 0, 4, 2, 172]
abbrev dktX2_fits_3 : List UInt8 := dkwX2_fits_3 ++ []
def dkwX2_fits_2 : List UInt8 := [154, 0, 6, 167, 0, 20, 29, 28, 160, 0, 12, 16, 100, 21, 4, 104, 21, 5, 96, 172, 132, 3, 1]
abbrev dktX2_fits_2 : List UInt8 := dkwX2_fits_2 ++ dktX2_fits_3
def dkwX2_fits_1 : List UInt8 := [27, 163, 0, 56, 3, 54, 5, 21, 5, 21, 4, 162, 0, 40, 42, 21, 4, 21, 5, 182, 1, 187]
abbrev dktX2_fits_1 : List UInt8 := dkwX2_fits_1 ++ dktX2_fits_2
def dkwX2_fits_0 : List UInt8 := [27, 4, 16, 60, 184, 0, 104, 153, 0, 8, 28, 2, 162, 0, 5, 2, 172, 3, 62, 4, 54, 4, 21, 4]
abbrev dktX2_fits_0 : List UInt8 := dkwX2_fits_0 ++ dktX2_fits_1
theorem dksX2_fits_0 : cX2_fits.data.toList.drop 0 = dktX2_fits_0 := by decide +kernel
theorem dksX2_fits_1 : cX2_fits.data.toList.drop 24 = dktX2_fits_1 := dk_seg dksX2_fits_0 24 rfl rfl
theorem dksX2_fits_2 : cX2_fits.data.toList.drop 46 = dktX2_fits_2 := dk_seg dksX2_fits_1 22 rfl rfl
theorem dksX2_fits_3 : cX2_fits.data.toList.drop 69 = dktX2_fits_3 := dk_seg dksX2_fits_2 23 rfl rfl
theorem dX2_fits_0 : decode cX2_fits 0 = .ok (.iload_n 1, 1) := dk_27 (dk_at dksX2_fits_0 0 rfl rfl)
theorem dX2_fits_1 : decode cX2_fits 1 = .ok (.iconst 1, 1) := dk_4 (dk_at dksX2_fits_0 1 rfl rfl)
theorem dX2_fits_2 : decode cX2_fits 2 = .ok (.bipush 60, 2) := dk_16 60 (dk_at dksX2_fits_0 2 rfl rfl)
theorem dX2_fits_4 : decode cX2_fits 4 = .ok (.invokestatic 104, 3) := dk_184 0 104 (dk_at dksX2_fits_0 4 rfl rfl)
theorem dX2_fits_7 : decode cX2_fits 7 = .ok (.ifCond .eq 8, 3) := dk_153 0 8 (dk_at dksX2_fits_0 7 rfl rfl)
theorem dX2_fits_10 : decode cX2_fits 10 = .ok (.iload_n 2, 1) := dk_28 (dk_at dksX2_fits_0 10 rfl rfl)
theorem dX2_fits_11 : decode cX2_fits 11 = .ok (.iconst (-1), 1) := dk_2 (dk_at dksX2_fits_0 11 rfl rfl)
theorem dX2_fits_12 : decode cX2_fits 12 = .ok (.if_icmp .ge 5, 3) := dk_162 0 5 (dk_at dksX2_fits_0 12 rfl rfl)
theorem dX2_fits_15 : decode cX2_fits 15 = .ok (.iconst (-1), 1) := dk_2 (dk_at dksX2_fits_0 15 rfl rfl)
theorem dX2_fits_16 : decode cX2_fits 16 = .ok (.ireturn, 1) := dk_172 (dk_at dksX2_fits_0 16 rfl rfl)
theorem dX2_fits_17 : decode cX2_fits 17 = .ok (.iconst 0, 1) := dk_3 (dk_at dksX2_fits_0 17 rfl rfl)
theorem dX2_fits_18 : decode cX2_fits 18 = .ok (.istore_n 3, 1) := dk_62 (dk_at dksX2_fits_0 18 rfl rfl)
theorem dX2_fits_19 : decode cX2_fits 19 = .ok (.iconst 1, 1) := dk_4 (dk_at dksX2_fits_0 19 rfl rfl)
theorem dX2_fits_20 : decode cX2_fits 20 = .ok (.istore 4, 2) := dk_54 4 (dk_at dksX2_fits_0 20 rfl rfl)
theorem dX2_fits_22 : decode cX2_fits 22 = .ok (.iload 4, 2) := dk_21 4 (dk_at dksX2_fits_0 22 rfl rfl)
theorem dX2_fits_24 : decode cX2_fits 24 = .ok (.iload_n 1, 1) := dk_27 (dk_at dksX2_fits_1 0 rfl rfl)
theorem dX2_fits_25 : decode cX2_fits 25 = .ok (.if_icmp .gt 56, 3) := dk_163 0 56 (dk_at dksX2_fits_1 1 rfl rfl)
theorem dX2_fits_28 : decode cX2_fits 28 = .ok (.iconst 0, 1) := dk_3 (dk_at dksX2_fits_1 4 rfl rfl)
theorem dX2_fits_29 : decode cX2_fits 29 = .ok (.istore 5, 2) := dk_54 5 (dk_at dksX2_fits_1 5 rfl rfl)
theorem dX2_fits_31 : decode cX2_fits 31 = .ok (.iload 5, 2) := dk_21 5 (dk_at dksX2_fits_1 7 rfl rfl)
theorem dX2_fits_33 : decode cX2_fits 33 = .ok (.iload 4, 2) := dk_21 4 (dk_at dksX2_fits_1 9 rfl rfl)
theorem dX2_fits_35 : decode cX2_fits 35 = .ok (.if_icmp .ge 40, 3) := dk_162 0 40 (dk_at dksX2_fits_1 11 rfl rfl)
theorem dX2_fits_38 : decode cX2_fits 38 = .ok (.aload_n 0, 1) := dk_42 (dk_at dksX2_fits_1 14 rfl rfl)
theorem dX2_fits_39 : decode cX2_fits 39 = .ok (.iload 4, 2) := dk_21 4 (dk_at dksX2_fits_1 15 rfl rfl)
theorem dX2_fits_41 : decode cX2_fits 41 = .ok (.iload 5, 2) := dk_21 5 (dk_at dksX2_fits_1 17 rfl rfl)
theorem dX2_fits_43 : decode cX2_fits 43 = .ok (.invokevirtual 443, 3) := dk_182 1 187 (dk_at dksX2_fits_1 19 rfl rfl)
theorem dX2_fits_46 : decode cX2_fits 46 = .ok (.ifCond .ne 6, 3) := dk_154 0 6 (dk_at dksX2_fits_2 0 rfl rfl)
theorem dX2_fits_49 : decode cX2_fits 49 = .ok (.goto 20, 3) := dk_167 0 20 (dk_at dksX2_fits_2 3 rfl rfl)
theorem dX2_fits_52 : decode cX2_fits 52 = .ok (.iload_n 3, 1) := dk_29 (dk_at dksX2_fits_2 6 rfl rfl)
theorem dX2_fits_53 : decode cX2_fits 53 = .ok (.iload_n 2, 1) := dk_28 (dk_at dksX2_fits_2 7 rfl rfl)
theorem dX2_fits_54 : decode cX2_fits 54 = .ok (.if_icmp .ne 12, 3) := dk_160 0 12 (dk_at dksX2_fits_2 8 rfl rfl)
theorem dX2_fits_57 : decode cX2_fits 57 = .ok (.bipush 100, 2) := dk_16 100 (dk_at dksX2_fits_2 11 rfl rfl)
theorem dX2_fits_59 : decode cX2_fits 59 = .ok (.iload 4, 2) := dk_21 4 (dk_at dksX2_fits_2 13 rfl rfl)
theorem dX2_fits_61 : decode cX2_fits 61 = .ok (.imul, 1) := dk_104 (dk_at dksX2_fits_2 15 rfl rfl)
theorem dX2_fits_62 : decode cX2_fits 62 = .ok (.iload 5, 2) := dk_21 5 (dk_at dksX2_fits_2 16 rfl rfl)
theorem dX2_fits_64 : decode cX2_fits 64 = .ok (.iadd, 1) := dk_96 (dk_at dksX2_fits_2 18 rfl rfl)
theorem dX2_fits_65 : decode cX2_fits 65 = .ok (.ireturn, 1) := dk_172 (dk_at dksX2_fits_2 19 rfl rfl)
theorem dX2_fits_66 : decode cX2_fits 66 = .ok (.iinc 3 1, 3) := dk_132 3 1 (dk_at dksX2_fits_2 20 rfl rfl)
theorem dX2_fits_69 : decode cX2_fits 69 = .ok (.iinc 5 1, 3) := dk_132 5 1 (dk_at dksX2_fits_3 0 rfl rfl)
theorem dX2_fits_72 : decode cX2_fits 72 = .ok (.goto (-41), 3) := dk_167 255 215 (dk_at dksX2_fits_3 3 rfl rfl)
theorem dX2_fits_75 : decode cX2_fits 75 = .ok (.iinc 4 1, 3) := dk_132 4 1 (dk_at dksX2_fits_3 6 rfl rfl)
theorem dX2_fits_78 : decode cX2_fits 78 = .ok (.goto (-56), 3) := dk_167 255 200 (dk_at dksX2_fits_3 9 rfl rfl)
theorem dX2_fits_81 : decode cX2_fits 81 = .ok (.iload_n 2, 1) := dk_28 (dk_at dksX2_fits_3 12 rfl rfl)
theorem dX2_fits_82 : decode cX2_fits 82 = .ok (.iconst (-1), 1) := dk_2 (dk_at dksX2_fits_3 13 rfl rfl)
theorem dX2_fits_83 : decode cX2_fits 83 = .ok (.if_icmp .ne 7, 3) := dk_160 0 7 (dk_at dksX2_fits_3 14 rfl rfl)
theorem dX2_fits_86 : decode cX2_fits 86 = .ok (.iload_n 3, 1) := dk_29 (dk_at dksX2_fits_3 17 rfl rfl)
theorem dX2_fits_87 : decode cX2_fits 87 = .ok (.goto 4, 3) := dk_167 0 4 (dk_at dksX2_fits_3 18 rfl rfl)
theorem dX2_fits_90 : decode cX2_fits 90 = .ok (.iconst (-1), 1) := dk_2 (dk_at dksX2_fits_3 21 rfl rfl)
theorem dX2_fits_91 : decode cX2_fits 91 = .ok (.ireturn, 1) := dk_172 (dk_at dksX2_fits_3 22 rfl rfl)
abbrev cX2_fitsAll : ByteArray := prog_17_method_109_code
def yX2_fitsAll : MethodName := ⟨RX2, "fitsAll", "(II)Z"⟩
def dkwX2_fitsAll_3 : List UInt8 := [167, 0, 4, 3, 159, 0, 5, 3, 172, 132, 3, 1, 167, 255, 176, 4, 172]
abbrev dktX2_fitsAll_3 : List UInt8 := dkwX2_fitsAll_3 ++ []
def dkwX2_fitsAll_2 : List UInt8 := [54, 5, 21, 5, 42, 180, 0, 7, 17, 0, 150, 5, 29, 104, 96, 4, 96, 46, 4, 160, 0, 7, 4]
abbrev dktX2_fitsAll_2 : List UInt8 := dkwX2_fitsAll_2 ++ dktX2_fitsAll_3
def dkwX2_fitsAll_1 : List UInt8 := [46, 54, 4, 21, 4, 28, 161, 0, 16, 21, 4, 28, 100, 27, 112, 154, 0, 7, 4, 167, 0, 4, 3]
abbrev dktX2_fitsAll_1 : List UInt8 := dkwX2_fitsAll_1 ++ dktX2_fitsAll_2
def dkwX2_fitsAll_0 : List UInt8 := [3, 62, 29, 42, 180, 0, 7, 16, 8, 46, 162, 0, 75, 42, 180, 0, 7, 17, 0, 150, 5, 29, 104, 96]
abbrev dktX2_fitsAll_0 : List UInt8 := dkwX2_fitsAll_0 ++ dktX2_fitsAll_1
theorem dksX2_fitsAll_0 : cX2_fitsAll.data.toList.drop 0 = dktX2_fitsAll_0 := by decide +kernel
theorem dksX2_fitsAll_1 : cX2_fitsAll.data.toList.drop 24 = dktX2_fitsAll_1 := dk_seg dksX2_fitsAll_0 24 rfl rfl
theorem dksX2_fitsAll_2 : cX2_fitsAll.data.toList.drop 47 = dktX2_fitsAll_2 := dk_seg dksX2_fitsAll_1 23 rfl rfl
theorem dksX2_fitsAll_3 : cX2_fitsAll.data.toList.drop 70 = dktX2_fitsAll_3 := dk_seg dksX2_fitsAll_2 23 rfl rfl
theorem dX2_fitsAll_0 : decode cX2_fitsAll 0 = .ok (.iconst 0, 1) := dk_3 (dk_at dksX2_fitsAll_0 0 rfl rfl)
theorem dX2_fitsAll_1 : decode cX2_fitsAll 1 = .ok (.istore_n 3, 1) := dk_62 (dk_at dksX2_fitsAll_0 1 rfl rfl)
theorem dX2_fitsAll_2 : decode cX2_fitsAll 2 = .ok (.iload_n 3, 1) := dk_29 (dk_at dksX2_fitsAll_0 2 rfl rfl)
theorem dX2_fitsAll_3 : decode cX2_fitsAll 3 = .ok (.aload_n 0, 1) := dk_42 (dk_at dksX2_fitsAll_0 3 rfl rfl)
theorem dX2_fitsAll_4 : decode cX2_fitsAll 4 = .ok (.getfield 7, 3) := dk_180 0 7 (dk_at dksX2_fitsAll_0 4 rfl rfl)
theorem dX2_fitsAll_7 : decode cX2_fitsAll 7 = .ok (.bipush 8, 2) := dk_16 8 (dk_at dksX2_fitsAll_0 7 rfl rfl)
theorem dX2_fitsAll_9 : decode cX2_fitsAll 9 = .ok (.iaload, 1) := dk_46 (dk_at dksX2_fitsAll_0 9 rfl rfl)
theorem dX2_fitsAll_10 : decode cX2_fitsAll 10 = .ok (.if_icmp .ge 75, 3) := dk_162 0 75 (dk_at dksX2_fitsAll_0 10 rfl rfl)
theorem dX2_fitsAll_13 : decode cX2_fitsAll 13 = .ok (.aload_n 0, 1) := dk_42 (dk_at dksX2_fitsAll_0 13 rfl rfl)
theorem dX2_fitsAll_14 : decode cX2_fitsAll 14 = .ok (.getfield 7, 3) := dk_180 0 7 (dk_at dksX2_fitsAll_0 14 rfl rfl)
theorem dX2_fitsAll_17 : decode cX2_fitsAll 17 = .ok (.sipush 150, 3) := dk_17 0 150 (dk_at dksX2_fitsAll_0 17 rfl rfl)
theorem dX2_fitsAll_20 : decode cX2_fitsAll 20 = .ok (.iconst 2, 1) := dk_5 (dk_at dksX2_fitsAll_0 20 rfl rfl)
theorem dX2_fitsAll_21 : decode cX2_fitsAll 21 = .ok (.iload_n 3, 1) := dk_29 (dk_at dksX2_fitsAll_0 21 rfl rfl)
theorem dX2_fitsAll_22 : decode cX2_fitsAll 22 = .ok (.imul, 1) := dk_104 (dk_at dksX2_fitsAll_0 22 rfl rfl)
theorem dX2_fitsAll_23 : decode cX2_fitsAll 23 = .ok (.iadd, 1) := dk_96 (dk_at dksX2_fitsAll_0 23 rfl rfl)
theorem dX2_fitsAll_24 : decode cX2_fitsAll 24 = .ok (.iaload, 1) := dk_46 (dk_at dksX2_fitsAll_1 0 rfl rfl)
theorem dX2_fitsAll_25 : decode cX2_fitsAll 25 = .ok (.istore 4, 2) := dk_54 4 (dk_at dksX2_fitsAll_1 1 rfl rfl)
theorem dX2_fitsAll_27 : decode cX2_fitsAll 27 = .ok (.iload 4, 2) := dk_21 4 (dk_at dksX2_fitsAll_1 3 rfl rfl)
theorem dX2_fitsAll_29 : decode cX2_fitsAll 29 = .ok (.iload_n 2, 1) := dk_28 (dk_at dksX2_fitsAll_1 5 rfl rfl)
theorem dX2_fitsAll_30 : decode cX2_fitsAll 30 = .ok (.if_icmp .lt 16, 3) := dk_161 0 16 (dk_at dksX2_fitsAll_1 6 rfl rfl)
theorem dX2_fitsAll_33 : decode cX2_fitsAll 33 = .ok (.iload 4, 2) := dk_21 4 (dk_at dksX2_fitsAll_1 9 rfl rfl)
theorem dX2_fitsAll_35 : decode cX2_fitsAll 35 = .ok (.iload_n 2, 1) := dk_28 (dk_at dksX2_fitsAll_1 11 rfl rfl)
theorem dX2_fitsAll_36 : decode cX2_fitsAll 36 = .ok (.isub, 1) := dk_100 (dk_at dksX2_fitsAll_1 12 rfl rfl)
theorem dX2_fitsAll_37 : decode cX2_fitsAll 37 = .ok (.iload_n 1, 1) := dk_27 (dk_at dksX2_fitsAll_1 13 rfl rfl)
theorem dX2_fitsAll_38 : decode cX2_fitsAll 38 = .ok (.irem, 1) := dk_112 (dk_at dksX2_fitsAll_1 14 rfl rfl)
theorem dX2_fitsAll_39 : decode cX2_fitsAll 39 = .ok (.ifCond .ne 7, 3) := dk_154 0 7 (dk_at dksX2_fitsAll_1 15 rfl rfl)
theorem dX2_fitsAll_42 : decode cX2_fitsAll 42 = .ok (.iconst 1, 1) := dk_4 (dk_at dksX2_fitsAll_1 18 rfl rfl)
theorem dX2_fitsAll_43 : decode cX2_fitsAll 43 = .ok (.goto 4, 3) := dk_167 0 4 (dk_at dksX2_fitsAll_1 19 rfl rfl)
theorem dX2_fitsAll_46 : decode cX2_fitsAll 46 = .ok (.iconst 0, 1) := dk_3 (dk_at dksX2_fitsAll_1 22 rfl rfl)
theorem dX2_fitsAll_47 : decode cX2_fitsAll 47 = .ok (.istore 5, 2) := dk_54 5 (dk_at dksX2_fitsAll_2 0 rfl rfl)
theorem dX2_fitsAll_49 : decode cX2_fitsAll 49 = .ok (.iload 5, 2) := dk_21 5 (dk_at dksX2_fitsAll_2 2 rfl rfl)
theorem dX2_fitsAll_51 : decode cX2_fitsAll 51 = .ok (.aload_n 0, 1) := dk_42 (dk_at dksX2_fitsAll_2 4 rfl rfl)
theorem dX2_fitsAll_52 : decode cX2_fitsAll 52 = .ok (.getfield 7, 3) := dk_180 0 7 (dk_at dksX2_fitsAll_2 5 rfl rfl)
theorem dX2_fitsAll_55 : decode cX2_fitsAll 55 = .ok (.sipush 150, 3) := dk_17 0 150 (dk_at dksX2_fitsAll_2 8 rfl rfl)
theorem dX2_fitsAll_58 : decode cX2_fitsAll 58 = .ok (.iconst 2, 1) := dk_5 (dk_at dksX2_fitsAll_2 11 rfl rfl)
theorem dX2_fitsAll_59 : decode cX2_fitsAll 59 = .ok (.iload_n 3, 1) := dk_29 (dk_at dksX2_fitsAll_2 12 rfl rfl)
theorem dX2_fitsAll_60 : decode cX2_fitsAll 60 = .ok (.imul, 1) := dk_104 (dk_at dksX2_fitsAll_2 13 rfl rfl)
theorem dX2_fitsAll_61 : decode cX2_fitsAll 61 = .ok (.iadd, 1) := dk_96 (dk_at dksX2_fitsAll_2 14 rfl rfl)
theorem dX2_fitsAll_62 : decode cX2_fitsAll 62 = .ok (.iconst 1, 1) := dk_4 (dk_at dksX2_fitsAll_2 15 rfl rfl)
theorem dX2_fitsAll_63 : decode cX2_fitsAll 63 = .ok (.iadd, 1) := dk_96 (dk_at dksX2_fitsAll_2 16 rfl rfl)
theorem dX2_fitsAll_64 : decode cX2_fitsAll 64 = .ok (.iaload, 1) := dk_46 (dk_at dksX2_fitsAll_2 17 rfl rfl)
theorem dX2_fitsAll_65 : decode cX2_fitsAll 65 = .ok (.iconst 1, 1) := dk_4 (dk_at dksX2_fitsAll_2 18 rfl rfl)
theorem dX2_fitsAll_66 : decode cX2_fitsAll 66 = .ok (.if_icmp .ne 7, 3) := dk_160 0 7 (dk_at dksX2_fitsAll_2 19 rfl rfl)
theorem dX2_fitsAll_69 : decode cX2_fitsAll 69 = .ok (.iconst 1, 1) := dk_4 (dk_at dksX2_fitsAll_2 22 rfl rfl)
theorem dX2_fitsAll_70 : decode cX2_fitsAll 70 = .ok (.goto 4, 3) := dk_167 0 4 (dk_at dksX2_fitsAll_3 0 rfl rfl)
theorem dX2_fitsAll_73 : decode cX2_fitsAll 73 = .ok (.iconst 0, 1) := dk_3 (dk_at dksX2_fitsAll_3 3 rfl rfl)
theorem dX2_fitsAll_74 : decode cX2_fitsAll 74 = .ok (.if_icmp .eq 5, 3) := dk_159 0 5 (dk_at dksX2_fitsAll_3 4 rfl rfl)
theorem dX2_fitsAll_77 : decode cX2_fitsAll 77 = .ok (.iconst 0, 1) := dk_3 (dk_at dksX2_fitsAll_3 7 rfl rfl)
theorem dX2_fitsAll_78 : decode cX2_fitsAll 78 = .ok (.ireturn, 1) := dk_172 (dk_at dksX2_fitsAll_3 8 rfl rfl)
theorem dX2_fitsAll_79 : decode cX2_fitsAll 79 = .ok (.iinc 3 1, 3) := dk_132 3 1 (dk_at dksX2_fitsAll_3 9 rfl rfl)
theorem dX2_fitsAll_82 : decode cX2_fitsAll 82 = .ok (.goto (-80), 3) := dk_167 255 176 (dk_at dksX2_fitsAll_3 12 rfl rfl)
theorem dX2_fitsAll_85 : decode cX2_fitsAll 85 = .ok (.iconst 1, 1) := dk_4 (dk_at dksX2_fitsAll_3 15 rfl rfl)
theorem dX2_fitsAll_86 : decode cX2_fitsAll 86 = .ok (.ireturn, 1) := dk_172 (dk_at dksX2_fitsAll_3 16 rfl rfl)
abbrev cX2_who : ByteArray := prog_17_method_111_code
def yX2_who : MethodName := ⟨RX2, "who", "()I"⟩
def dkwX2_who_3 : List UInt8 := [126, 60, 132, 2, 1, 167, 255, 196, 27, 172]
abbrev dktX2_who_3 : List UInt8 := dkwX2_who_3 ++ []
def dkwX2_who_2 : List UInt8 := [180, 0, 7, 17, 0, 150, 5, 28, 104, 96, 4, 96, 46, 4, 160, 0, 7, 29, 167, 0, 6, 29, 2, 130]
abbrev dktX2_who_2 : List UInt8 := dkwX2_who_2 ++ dktX2_who_3
def dkwX2_who_1 : List UInt8 := [46, 162, 0, 55, 42, 42, 180, 0, 7, 17, 0, 150, 5, 28, 104, 96, 46, 133, 182, 1, 129, 62, 27, 42]
abbrev dktX2_who_1 : List UInt8 := dkwX2_who_1 ++ dktX2_who_2
def dkwX2_who_0 : List UInt8 := [42, 182, 1, 60, 4, 42, 180, 0, 7, 3, 46, 120, 4, 100, 60, 3, 61, 28, 42, 180, 0, 7, 16, 8]
abbrev dktX2_who_0 : List UInt8 := dkwX2_who_0 ++ dktX2_who_1
theorem dksX2_who_0 : cX2_who.data.toList.drop 0 = dktX2_who_0 := by decide +kernel
theorem dksX2_who_1 : cX2_who.data.toList.drop 24 = dktX2_who_1 := dk_seg dksX2_who_0 24 rfl rfl
theorem dksX2_who_2 : cX2_who.data.toList.drop 48 = dktX2_who_2 := dk_seg dksX2_who_1 24 rfl rfl
theorem dksX2_who_3 : cX2_who.data.toList.drop 72 = dktX2_who_3 := dk_seg dksX2_who_2 24 rfl rfl
theorem dX2_who_0 : decode cX2_who 0 = .ok (.aload_n 0, 1) := dk_42 (dk_at dksX2_who_0 0 rfl rfl)
theorem dX2_who_1 : decode cX2_who 1 = .ok (.invokevirtual 316, 3) := dk_182 1 60 (dk_at dksX2_who_0 1 rfl rfl)
theorem dX2_who_4 : decode cX2_who 4 = .ok (.iconst 1, 1) := dk_4 (dk_at dksX2_who_0 4 rfl rfl)
theorem dX2_who_5 : decode cX2_who 5 = .ok (.aload_n 0, 1) := dk_42 (dk_at dksX2_who_0 5 rfl rfl)
theorem dX2_who_6 : decode cX2_who 6 = .ok (.getfield 7, 3) := dk_180 0 7 (dk_at dksX2_who_0 6 rfl rfl)
theorem dX2_who_9 : decode cX2_who 9 = .ok (.iconst 0, 1) := dk_3 (dk_at dksX2_who_0 9 rfl rfl)
theorem dX2_who_10 : decode cX2_who 10 = .ok (.iaload, 1) := dk_46 (dk_at dksX2_who_0 10 rfl rfl)
theorem dX2_who_11 : decode cX2_who 11 = .ok (.ishl, 1) := dk_120 (dk_at dksX2_who_0 11 rfl rfl)
theorem dX2_who_12 : decode cX2_who 12 = .ok (.iconst 1, 1) := dk_4 (dk_at dksX2_who_0 12 rfl rfl)
theorem dX2_who_13 : decode cX2_who 13 = .ok (.isub, 1) := dk_100 (dk_at dksX2_who_0 13 rfl rfl)
theorem dX2_who_14 : decode cX2_who 14 = .ok (.istore_n 1, 1) := dk_60 (dk_at dksX2_who_0 14 rfl rfl)
theorem dX2_who_15 : decode cX2_who 15 = .ok (.iconst 0, 1) := dk_3 (dk_at dksX2_who_0 15 rfl rfl)
theorem dX2_who_16 : decode cX2_who 16 = .ok (.istore_n 2, 1) := dk_61 (dk_at dksX2_who_0 16 rfl rfl)
theorem dX2_who_17 : decode cX2_who 17 = .ok (.iload_n 2, 1) := dk_28 (dk_at dksX2_who_0 17 rfl rfl)
theorem dX2_who_18 : decode cX2_who 18 = .ok (.aload_n 0, 1) := dk_42 (dk_at dksX2_who_0 18 rfl rfl)
theorem dX2_who_19 : decode cX2_who 19 = .ok (.getfield 7, 3) := dk_180 0 7 (dk_at dksX2_who_0 19 rfl rfl)
theorem dX2_who_22 : decode cX2_who 22 = .ok (.bipush 8, 2) := dk_16 8 (dk_at dksX2_who_0 22 rfl rfl)
theorem dX2_who_24 : decode cX2_who 24 = .ok (.iaload, 1) := dk_46 (dk_at dksX2_who_1 0 rfl rfl)
theorem dX2_who_25 : decode cX2_who 25 = .ok (.if_icmp .ge 55, 3) := dk_162 0 55 (dk_at dksX2_who_1 1 rfl rfl)
theorem dX2_who_28 : decode cX2_who 28 = .ok (.aload_n 0, 1) := dk_42 (dk_at dksX2_who_1 4 rfl rfl)
theorem dX2_who_29 : decode cX2_who 29 = .ok (.aload_n 0, 1) := dk_42 (dk_at dksX2_who_1 5 rfl rfl)
theorem dX2_who_30 : decode cX2_who 30 = .ok (.getfield 7, 3) := dk_180 0 7 (dk_at dksX2_who_1 6 rfl rfl)
theorem dX2_who_33 : decode cX2_who 33 = .ok (.sipush 150, 3) := dk_17 0 150 (dk_at dksX2_who_1 9 rfl rfl)
theorem dX2_who_36 : decode cX2_who 36 = .ok (.iconst 2, 1) := dk_5 (dk_at dksX2_who_1 12 rfl rfl)
theorem dX2_who_37 : decode cX2_who 37 = .ok (.iload_n 2, 1) := dk_28 (dk_at dksX2_who_1 13 rfl rfl)
theorem dX2_who_38 : decode cX2_who 38 = .ok (.imul, 1) := dk_104 (dk_at dksX2_who_1 14 rfl rfl)
theorem dX2_who_39 : decode cX2_who 39 = .ok (.iadd, 1) := dk_96 (dk_at dksX2_who_1 15 rfl rfl)
theorem dX2_who_40 : decode cX2_who 40 = .ok (.iaload, 1) := dk_46 (dk_at dksX2_who_1 16 rfl rfl)
theorem dX2_who_41 : decode cX2_who 41 = .ok (.i2l, 1) := dk_133 (dk_at dksX2_who_1 17 rfl rfl)
theorem dX2_who_42 : decode cX2_who 42 = .ok (.invokevirtual 385, 3) := dk_182 1 129 (dk_at dksX2_who_1 18 rfl rfl)
theorem dX2_who_45 : decode cX2_who 45 = .ok (.istore_n 3, 1) := dk_62 (dk_at dksX2_who_1 21 rfl rfl)
theorem dX2_who_46 : decode cX2_who 46 = .ok (.iload_n 1, 1) := dk_27 (dk_at dksX2_who_1 22 rfl rfl)
theorem dX2_who_47 : decode cX2_who 47 = .ok (.aload_n 0, 1) := dk_42 (dk_at dksX2_who_1 23 rfl rfl)
theorem dX2_who_48 : decode cX2_who 48 = .ok (.getfield 7, 3) := dk_180 0 7 (dk_at dksX2_who_2 0 rfl rfl)
theorem dX2_who_51 : decode cX2_who 51 = .ok (.sipush 150, 3) := dk_17 0 150 (dk_at dksX2_who_2 3 rfl rfl)
theorem dX2_who_54 : decode cX2_who 54 = .ok (.iconst 2, 1) := dk_5 (dk_at dksX2_who_2 6 rfl rfl)
theorem dX2_who_55 : decode cX2_who 55 = .ok (.iload_n 2, 1) := dk_28 (dk_at dksX2_who_2 7 rfl rfl)
theorem dX2_who_56 : decode cX2_who 56 = .ok (.imul, 1) := dk_104 (dk_at dksX2_who_2 8 rfl rfl)
theorem dX2_who_57 : decode cX2_who 57 = .ok (.iadd, 1) := dk_96 (dk_at dksX2_who_2 9 rfl rfl)
theorem dX2_who_58 : decode cX2_who 58 = .ok (.iconst 1, 1) := dk_4 (dk_at dksX2_who_2 10 rfl rfl)
theorem dX2_who_59 : decode cX2_who 59 = .ok (.iadd, 1) := dk_96 (dk_at dksX2_who_2 11 rfl rfl)
theorem dX2_who_60 : decode cX2_who 60 = .ok (.iaload, 1) := dk_46 (dk_at dksX2_who_2 12 rfl rfl)
theorem dX2_who_61 : decode cX2_who 61 = .ok (.iconst 1, 1) := dk_4 (dk_at dksX2_who_2 13 rfl rfl)
theorem dX2_who_62 : decode cX2_who 62 = .ok (.if_icmp .ne 7, 3) := dk_160 0 7 (dk_at dksX2_who_2 14 rfl rfl)
theorem dX2_who_65 : decode cX2_who 65 = .ok (.iload_n 3, 1) := dk_29 (dk_at dksX2_who_2 17 rfl rfl)
theorem dX2_who_66 : decode cX2_who 66 = .ok (.goto 6, 3) := dk_167 0 6 (dk_at dksX2_who_2 18 rfl rfl)
theorem dX2_who_69 : decode cX2_who 69 = .ok (.iload_n 3, 1) := dk_29 (dk_at dksX2_who_2 21 rfl rfl)
theorem dX2_who_70 : decode cX2_who 70 = .ok (.iconst (-1), 1) := dk_2 (dk_at dksX2_who_2 22 rfl rfl)
theorem dX2_who_71 : decode cX2_who 71 = .ok (.ixor, 1) := dk_130 (dk_at dksX2_who_2 23 rfl rfl)
theorem dX2_who_72 : decode cX2_who 72 = .ok (.iand, 1) := dk_126 (dk_at dksX2_who_3 0 rfl rfl)
theorem dX2_who_73 : decode cX2_who 73 = .ok (.istore_n 1, 1) := dk_60 (dk_at dksX2_who_3 1 rfl rfl)
theorem dX2_who_74 : decode cX2_who 74 = .ok (.iinc 2 1, 3) := dk_132 2 1 (dk_at dksX2_who_3 2 rfl rfl)
theorem dX2_who_77 : decode cX2_who 77 = .ok (.goto (-60), 3) := dk_167 255 196 (dk_at dksX2_who_3 5 rfl rfl)
theorem dX2_who_80 : decode cX2_who 80 = .ok (.iload_n 1, 1) := dk_27 (dk_at dksX2_who_3 8 rfl rfl)
theorem dX2_who_81 : decode cX2_who 81 = .ok (.ireturn, 1) := dk_172 (dk_at dksX2_who_3 9 rfl rfl)
abbrev cX2_bits : ByteArray := prog_17_method_112_code
def yX2_bits : MethodName := ⟨RX2, "bits", "(IJ)J"⟩
def dkwX2_bits_3 : List UInt8 := [132, 6, 1, 167, 255, 220, 22, 4, 173]
abbrev dktX2_bits_3 : List UInt8 := dkwX2_bits_3 ++ []
def dkwX2_bits_2 : List UInt8 := [27, 32, 21, 6, 133, 97, 182, 1, 51, 153, 0, 10, 10, 21, 6, 121, 167, 0, 4, 9, 129, 55, 4]
abbrev dktX2_bits_2 : List UInt8 := dkwX2_bits_2 ++ dktX2_bits_3
def dkwX2_bits_1 : List UInt8 := [20, 1, 94, 173, 42, 182, 1, 60, 9, 55, 4, 3, 54, 6, 21, 6, 16, 60, 162, 0, 35, 22, 4, 42]
abbrev dktX2_bits_1 : List UInt8 := dkwX2_bits_1 ++ dktX2_bits_2
def dkwX2_bits_0 : List UInt8 := [42, 27, 182, 0, 114, 153, 0, 17, 32, 9, 148, 155, 0, 11, 32, 20, 1, 139, 148, 158, 0, 7]
abbrev dktX2_bits_0 : List UInt8 := dkwX2_bits_0 ++ dktX2_bits_1
theorem dksX2_bits_0 : cX2_bits.data.toList.drop 0 = dktX2_bits_0 := by decide +kernel
theorem dksX2_bits_1 : cX2_bits.data.toList.drop 22 = dktX2_bits_1 := dk_seg dksX2_bits_0 22 rfl rfl
theorem dksX2_bits_2 : cX2_bits.data.toList.drop 46 = dktX2_bits_2 := dk_seg dksX2_bits_1 24 rfl rfl
theorem dksX2_bits_3 : cX2_bits.data.toList.drop 69 = dktX2_bits_3 := dk_seg dksX2_bits_2 23 rfl rfl
theorem dX2_bits_0 : decode cX2_bits 0 = .ok (.aload_n 0, 1) := dk_42 (dk_at dksX2_bits_0 0 rfl rfl)
theorem dX2_bits_1 : decode cX2_bits 1 = .ok (.iload_n 1, 1) := dk_27 (dk_at dksX2_bits_0 1 rfl rfl)
theorem dX2_bits_2 : decode cX2_bits 2 = .ok (.invokevirtual 114, 3) := dk_182 0 114 (dk_at dksX2_bits_0 2 rfl rfl)
theorem dX2_bits_5 : decode cX2_bits 5 = .ok (.ifCond .eq 17, 3) := dk_153 0 17 (dk_at dksX2_bits_0 5 rfl rfl)
theorem dX2_bits_8 : decode cX2_bits 8 = .ok (.lload_n 2, 1) := dk_32 (dk_at dksX2_bits_0 8 rfl rfl)
theorem dX2_bits_9 : decode cX2_bits 9 = .ok (.lconst 0, 1) := dk_9 (dk_at dksX2_bits_0 9 rfl rfl)
theorem dX2_bits_10 : decode cX2_bits 10 = .ok (.lcmp, 1) := dk_148 (dk_at dksX2_bits_0 10 rfl rfl)
theorem dX2_bits_11 : decode cX2_bits 11 = .ok (.ifCond .lt 11, 3) := dk_155 0 11 (dk_at dksX2_bits_0 11 rfl rfl)
theorem dX2_bits_14 : decode cX2_bits 14 = .ok (.lload_n 2, 1) := dk_32 (dk_at dksX2_bits_0 14 rfl rfl)
theorem dX2_bits_15 : decode cX2_bits 15 = .ok (.ldc2_w 395, 3) := dk_20 1 139 (dk_at dksX2_bits_0 15 rfl rfl)
theorem dX2_bits_18 : decode cX2_bits 18 = .ok (.lcmp, 1) := dk_148 (dk_at dksX2_bits_0 18 rfl rfl)
theorem dX2_bits_19 : decode cX2_bits 19 = .ok (.ifCond .le 7, 3) := dk_158 0 7 (dk_at dksX2_bits_0 19 rfl rfl)
theorem dX2_bits_22 : decode cX2_bits 22 = .ok (.ldc2_w 350, 3) := dk_20 1 94 (dk_at dksX2_bits_1 0 rfl rfl)
theorem dX2_bits_25 : decode cX2_bits 25 = .ok (.lreturn, 1) := dk_173 (dk_at dksX2_bits_1 3 rfl rfl)
theorem dX2_bits_26 : decode cX2_bits 26 = .ok (.aload_n 0, 1) := dk_42 (dk_at dksX2_bits_1 4 rfl rfl)
theorem dX2_bits_27 : decode cX2_bits 27 = .ok (.invokevirtual 316, 3) := dk_182 1 60 (dk_at dksX2_bits_1 5 rfl rfl)
theorem dX2_bits_30 : decode cX2_bits 30 = .ok (.lconst 0, 1) := dk_9 (dk_at dksX2_bits_1 8 rfl rfl)
theorem dX2_bits_31 : decode cX2_bits 31 = .ok (.lstore 4, 2) := dk_55 4 (dk_at dksX2_bits_1 9 rfl rfl)
theorem dX2_bits_33 : decode cX2_bits 33 = .ok (.iconst 0, 1) := dk_3 (dk_at dksX2_bits_1 11 rfl rfl)
theorem dX2_bits_34 : decode cX2_bits 34 = .ok (.istore 6, 2) := dk_54 6 (dk_at dksX2_bits_1 12 rfl rfl)
theorem dX2_bits_36 : decode cX2_bits 36 = .ok (.iload 6, 2) := dk_21 6 (dk_at dksX2_bits_1 14 rfl rfl)
theorem dX2_bits_38 : decode cX2_bits 38 = .ok (.bipush 60, 2) := dk_16 60 (dk_at dksX2_bits_1 16 rfl rfl)
theorem dX2_bits_40 : decode cX2_bits 40 = .ok (.if_icmp .ge 35, 3) := dk_162 0 35 (dk_at dksX2_bits_1 18 rfl rfl)
theorem dX2_bits_43 : decode cX2_bits 43 = .ok (.lload 4, 2) := dk_22 4 (dk_at dksX2_bits_1 21 rfl rfl)
theorem dX2_bits_45 : decode cX2_bits 45 = .ok (.aload_n 0, 1) := dk_42 (dk_at dksX2_bits_1 23 rfl rfl)
theorem dX2_bits_46 : decode cX2_bits 46 = .ok (.iload_n 1, 1) := dk_27 (dk_at dksX2_bits_2 0 rfl rfl)
theorem dX2_bits_47 : decode cX2_bits 47 = .ok (.lload_n 2, 1) := dk_32 (dk_at dksX2_bits_2 1 rfl rfl)
theorem dX2_bits_48 : decode cX2_bits 48 = .ok (.iload 6, 2) := dk_21 6 (dk_at dksX2_bits_2 2 rfl rfl)
theorem dX2_bits_50 : decode cX2_bits 50 = .ok (.i2l, 1) := dk_133 (dk_at dksX2_bits_2 4 rfl rfl)
theorem dX2_bits_51 : decode cX2_bits 51 = .ok (.ladd, 1) := dk_97 (dk_at dksX2_bits_2 5 rfl rfl)
theorem dX2_bits_52 : decode cX2_bits 52 = .ok (.invokevirtual 307, 3) := dk_182 1 51 (dk_at dksX2_bits_2 6 rfl rfl)
theorem dX2_bits_55 : decode cX2_bits 55 = .ok (.ifCond .eq 10, 3) := dk_153 0 10 (dk_at dksX2_bits_2 9 rfl rfl)
theorem dX2_bits_58 : decode cX2_bits 58 = .ok (.lconst 1, 1) := dk_10 (dk_at dksX2_bits_2 12 rfl rfl)
theorem dX2_bits_59 : decode cX2_bits 59 = .ok (.iload 6, 2) := dk_21 6 (dk_at dksX2_bits_2 13 rfl rfl)
theorem dX2_bits_61 : decode cX2_bits 61 = .ok (.lshl, 1) := dk_121 (dk_at dksX2_bits_2 15 rfl rfl)
theorem dX2_bits_62 : decode cX2_bits 62 = .ok (.goto 4, 3) := dk_167 0 4 (dk_at dksX2_bits_2 16 rfl rfl)
theorem dX2_bits_65 : decode cX2_bits 65 = .ok (.lconst 0, 1) := dk_9 (dk_at dksX2_bits_2 19 rfl rfl)
theorem dX2_bits_66 : decode cX2_bits 66 = .ok (.lor, 1) := dk_129 (dk_at dksX2_bits_2 20 rfl rfl)
theorem dX2_bits_67 : decode cX2_bits 67 = .ok (.lstore 4, 2) := dk_55 4 (dk_at dksX2_bits_2 21 rfl rfl)
theorem dX2_bits_69 : decode cX2_bits 69 = .ok (.iinc 6 1, 3) := dk_132 6 1 (dk_at dksX2_bits_3 0 rfl rfl)
theorem dX2_bits_72 : decode cX2_bits 72 = .ok (.goto (-36), 3) := dk_167 255 220 (dk_at dksX2_bits_3 3 rfl rfl)
theorem dX2_bits_75 : decode cX2_bits 75 = .ok (.lload 4, 2) := dk_22 4 (dk_at dksX2_bits_3 6 rfl rfl)
theorem dX2_bits_77 : decode cX2_bits 77 = .ok (.lreturn, 1) := dk_173 (dk_at dksX2_bits_3 8 rfl rfl)
abbrev cX2_other : ByteArray := prog_17_method_113_code
def yX2_other : MethodName := ⟨RX2, "other", "(IIII)I"⟩
def dkwX2_other_5 : List UInt8 := [167, 255, 188, 21, 5, 172]
abbrev dktX2_other_5 : List UInt8 := dkwX2_other_5 ++ []
def dkwX2_other_4 : List UInt8 := [167, 0, 13, 21, 8, 153, 0, 12, 21, 7, 154, 0, 7, 4, 167, 0, 4, 3, 96, 54, 5, 132, 6, 1]
abbrev dktX2_other_4 : List UInt8 := dkwX2_other_4 ++ dktX2_other_5
def dkwX2_other_3 : List UInt8 := [182, 1, 51, 54, 8, 21, 5, 21, 4, 154, 0, 16, 21, 7, 153, 0, 25, 21, 8, 154, 0, 20]
abbrev dktX2_other_3 : List UInt8 := dkwX2_other_3 ++ dktX2_other_4
def dkwX2_other_2 : List UInt8 := [54, 6, 21, 6, 29, 162, 0, 68, 42, 27, 21, 6, 133, 28, 182, 1, 47, 54, 7, 42, 27, 21, 6, 133]
abbrev dktX2_other_2 : List UInt8 := dkwX2_other_2 ++ dktX2_other_3
def dkwX2_other_1 : List UInt8 := [153, 0, 13, 21, 4, 3, 4, 184, 0, 104, 154, 0, 5, 2, 172, 42, 182, 1, 60, 3, 54, 5, 3]
abbrev dktX2_other_1 : List UInt8 := dkwX2_other_1 ++ dktX2_other_2
def dkwX2_other_0 : List UInt8 := [42, 27, 182, 0, 114, 153, 0, 30, 28, 184, 0, 118, 153, 0, 23, 29, 4, 18, 147, 184, 0, 104]
abbrev dktX2_other_0 : List UInt8 := dkwX2_other_0 ++ dktX2_other_1
theorem dksX2_other_0 : cX2_other.data.toList.drop 0 = dktX2_other_0 := by decide +kernel
theorem dksX2_other_1 : cX2_other.data.toList.drop 22 = dktX2_other_1 := dk_seg dksX2_other_0 22 rfl rfl
theorem dksX2_other_2 : cX2_other.data.toList.drop 45 = dktX2_other_2 := dk_seg dksX2_other_1 23 rfl rfl
theorem dksX2_other_3 : cX2_other.data.toList.drop 69 = dktX2_other_3 := dk_seg dksX2_other_2 24 rfl rfl
theorem dksX2_other_4 : cX2_other.data.toList.drop 91 = dktX2_other_4 := dk_seg dksX2_other_3 22 rfl rfl
theorem dksX2_other_5 : cX2_other.data.toList.drop 115 = dktX2_other_5 := dk_seg dksX2_other_4 24 rfl rfl
theorem dX2_other_0 : decode cX2_other 0 = .ok (.aload_n 0, 1) := dk_42 (dk_at dksX2_other_0 0 rfl rfl)
theorem dX2_other_1 : decode cX2_other 1 = .ok (.iload_n 1, 1) := dk_27 (dk_at dksX2_other_0 1 rfl rfl)
theorem dX2_other_2 : decode cX2_other 2 = .ok (.invokevirtual 114, 3) := dk_182 0 114 (dk_at dksX2_other_0 2 rfl rfl)
theorem dX2_other_5 : decode cX2_other 5 = .ok (.ifCond .eq 30, 3) := dk_153 0 30 (dk_at dksX2_other_0 5 rfl rfl)
theorem dX2_other_8 : decode cX2_other 8 = .ok (.iload_n 2, 1) := dk_28 (dk_at dksX2_other_0 8 rfl rfl)
theorem dX2_other_9 : decode cX2_other 9 = .ok (.invokestatic 118, 3) := dk_184 0 118 (dk_at dksX2_other_0 9 rfl rfl)
theorem dX2_other_12 : decode cX2_other 12 = .ok (.ifCond .eq 23, 3) := dk_153 0 23 (dk_at dksX2_other_0 12 rfl rfl)
theorem dX2_other_15 : decode cX2_other 15 = .ok (.iload_n 3, 1) := dk_29 (dk_at dksX2_other_0 15 rfl rfl)
theorem dX2_other_16 : decode cX2_other 16 = .ok (.iconst 1, 1) := dk_4 (dk_at dksX2_other_0 16 rfl rfl)
theorem dX2_other_17 : decode cX2_other 17 = .ok (.ldc 147, 2) := dk_18 147 (dk_at dksX2_other_0 17 rfl rfl)
theorem dX2_other_19 : decode cX2_other 19 = .ok (.invokestatic 104, 3) := dk_184 0 104 (dk_at dksX2_other_0 19 rfl rfl)
theorem dX2_other_22 : decode cX2_other 22 = .ok (.ifCond .eq 13, 3) := dk_153 0 13 (dk_at dksX2_other_1 0 rfl rfl)
theorem dX2_other_25 : decode cX2_other 25 = .ok (.iload 4, 2) := dk_21 4 (dk_at dksX2_other_1 3 rfl rfl)
theorem dX2_other_27 : decode cX2_other 27 = .ok (.iconst 0, 1) := dk_3 (dk_at dksX2_other_1 5 rfl rfl)
theorem dX2_other_28 : decode cX2_other 28 = .ok (.iconst 1, 1) := dk_4 (dk_at dksX2_other_1 6 rfl rfl)
theorem dX2_other_29 : decode cX2_other 29 = .ok (.invokestatic 104, 3) := dk_184 0 104 (dk_at dksX2_other_1 7 rfl rfl)
theorem dX2_other_32 : decode cX2_other 32 = .ok (.ifCond .ne 5, 3) := dk_154 0 5 (dk_at dksX2_other_1 10 rfl rfl)
theorem dX2_other_35 : decode cX2_other 35 = .ok (.iconst (-1), 1) := dk_2 (dk_at dksX2_other_1 13 rfl rfl)
theorem dX2_other_36 : decode cX2_other 36 = .ok (.ireturn, 1) := dk_172 (dk_at dksX2_other_1 14 rfl rfl)
theorem dX2_other_37 : decode cX2_other 37 = .ok (.aload_n 0, 1) := dk_42 (dk_at dksX2_other_1 15 rfl rfl)
theorem dX2_other_38 : decode cX2_other 38 = .ok (.invokevirtual 316, 3) := dk_182 1 60 (dk_at dksX2_other_1 16 rfl rfl)
theorem dX2_other_41 : decode cX2_other 41 = .ok (.iconst 0, 1) := dk_3 (dk_at dksX2_other_1 19 rfl rfl)
theorem dX2_other_42 : decode cX2_other 42 = .ok (.istore 5, 2) := dk_54 5 (dk_at dksX2_other_1 20 rfl rfl)
theorem dX2_other_44 : decode cX2_other 44 = .ok (.iconst 0, 1) := dk_3 (dk_at dksX2_other_1 22 rfl rfl)
theorem dX2_other_45 : decode cX2_other 45 = .ok (.istore 6, 2) := dk_54 6 (dk_at dksX2_other_2 0 rfl rfl)
theorem dX2_other_47 : decode cX2_other 47 = .ok (.iload 6, 2) := dk_21 6 (dk_at dksX2_other_2 2 rfl rfl)
theorem dX2_other_49 : decode cX2_other 49 = .ok (.iload_n 3, 1) := dk_29 (dk_at dksX2_other_2 4 rfl rfl)
theorem dX2_other_50 : decode cX2_other 50 = .ok (.if_icmp .ge 68, 3) := dk_162 0 68 (dk_at dksX2_other_2 5 rfl rfl)
theorem dX2_other_53 : decode cX2_other 53 = .ok (.aload_n 0, 1) := dk_42 (dk_at dksX2_other_2 8 rfl rfl)
theorem dX2_other_54 : decode cX2_other 54 = .ok (.iload_n 1, 1) := dk_27 (dk_at dksX2_other_2 9 rfl rfl)
theorem dX2_other_55 : decode cX2_other 55 = .ok (.iload 6, 2) := dk_21 6 (dk_at dksX2_other_2 10 rfl rfl)
theorem dX2_other_57 : decode cX2_other 57 = .ok (.i2l, 1) := dk_133 (dk_at dksX2_other_2 12 rfl rfl)
theorem dX2_other_58 : decode cX2_other 58 = .ok (.iload_n 2, 1) := dk_28 (dk_at dksX2_other_2 13 rfl rfl)
theorem dX2_other_59 : decode cX2_other 59 = .ok (.invokevirtual 303, 3) := dk_182 1 47 (dk_at dksX2_other_2 14 rfl rfl)
theorem dX2_other_62 : decode cX2_other 62 = .ok (.istore 7, 2) := dk_54 7 (dk_at dksX2_other_2 17 rfl rfl)
theorem dX2_other_64 : decode cX2_other 64 = .ok (.aload_n 0, 1) := dk_42 (dk_at dksX2_other_2 19 rfl rfl)
theorem dX2_other_65 : decode cX2_other 65 = .ok (.iload_n 1, 1) := dk_27 (dk_at dksX2_other_2 20 rfl rfl)
theorem dX2_other_66 : decode cX2_other 66 = .ok (.iload 6, 2) := dk_21 6 (dk_at dksX2_other_2 21 rfl rfl)
theorem dX2_other_68 : decode cX2_other 68 = .ok (.i2l, 1) := dk_133 (dk_at dksX2_other_2 23 rfl rfl)
theorem dX2_other_69 : decode cX2_other 69 = .ok (.invokevirtual 307, 3) := dk_182 1 51 (dk_at dksX2_other_3 0 rfl rfl)
theorem dX2_other_72 : decode cX2_other 72 = .ok (.istore 8, 2) := dk_54 8 (dk_at dksX2_other_3 3 rfl rfl)
theorem dX2_other_74 : decode cX2_other 74 = .ok (.iload 5, 2) := dk_21 5 (dk_at dksX2_other_3 5 rfl rfl)
theorem dX2_other_76 : decode cX2_other 76 = .ok (.iload 4, 2) := dk_21 4 (dk_at dksX2_other_3 7 rfl rfl)
theorem dX2_other_78 : decode cX2_other 78 = .ok (.ifCond .ne 16, 3) := dk_154 0 16 (dk_at dksX2_other_3 9 rfl rfl)
theorem dX2_other_81 : decode cX2_other 81 = .ok (.iload 7, 2) := dk_21 7 (dk_at dksX2_other_3 12 rfl rfl)
theorem dX2_other_83 : decode cX2_other 83 = .ok (.ifCond .eq 25, 3) := dk_153 0 25 (dk_at dksX2_other_3 14 rfl rfl)
theorem dX2_other_86 : decode cX2_other 86 = .ok (.iload 8, 2) := dk_21 8 (dk_at dksX2_other_3 17 rfl rfl)
theorem dX2_other_88 : decode cX2_other 88 = .ok (.ifCond .ne 20, 3) := dk_154 0 20 (dk_at dksX2_other_3 19 rfl rfl)
theorem dX2_other_91 : decode cX2_other 91 = .ok (.goto 13, 3) := dk_167 0 13 (dk_at dksX2_other_4 0 rfl rfl)
theorem dX2_other_94 : decode cX2_other 94 = .ok (.iload 8, 2) := dk_21 8 (dk_at dksX2_other_4 3 rfl rfl)
theorem dX2_other_96 : decode cX2_other 96 = .ok (.ifCond .eq 12, 3) := dk_153 0 12 (dk_at dksX2_other_4 5 rfl rfl)
theorem dX2_other_99 : decode cX2_other 99 = .ok (.iload 7, 2) := dk_21 7 (dk_at dksX2_other_4 8 rfl rfl)
theorem dX2_other_101 : decode cX2_other 101 = .ok (.ifCond .ne 7, 3) := dk_154 0 7 (dk_at dksX2_other_4 10 rfl rfl)
theorem dX2_other_104 : decode cX2_other 104 = .ok (.iconst 1, 1) := dk_4 (dk_at dksX2_other_4 13 rfl rfl)
theorem dX2_other_105 : decode cX2_other 105 = .ok (.goto 4, 3) := dk_167 0 4 (dk_at dksX2_other_4 14 rfl rfl)
theorem dX2_other_108 : decode cX2_other 108 = .ok (.iconst 0, 1) := dk_3 (dk_at dksX2_other_4 17 rfl rfl)
theorem dX2_other_109 : decode cX2_other 109 = .ok (.iadd, 1) := dk_96 (dk_at dksX2_other_4 18 rfl rfl)
theorem dX2_other_110 : decode cX2_other 110 = .ok (.istore 5, 2) := dk_54 5 (dk_at dksX2_other_4 19 rfl rfl)
theorem dX2_other_112 : decode cX2_other 112 = .ok (.iinc 6 1, 3) := dk_132 6 1 (dk_at dksX2_other_4 21 rfl rfl)
theorem dX2_other_115 : decode cX2_other 115 = .ok (.goto (-68), 3) := dk_167 255 188 (dk_at dksX2_other_5 0 rfl rfl)
theorem dX2_other_118 : decode cX2_other 118 = .ok (.iload 5, 2) := dk_21 5 (dk_at dksX2_other_5 3 rfl rfl)
theorem dX2_other_120 : decode cX2_other 120 = .ok (.ireturn, 1) := dk_172 (dk_at dksX2_other_5 5 rfl rfl)
abbrev cX2_hush : ByteArray := prog_17_method_114_code
def yX2_hush : MethodName := ⟨RX2, "hush", "(JII)J"⟩
def dkwX2_hush_7 : List UInt8 := [160, 0, 8, 22, 10, 167, 0, 6, 21, 9, 133, 173]
abbrev dktX2_hush_7 : List UInt8 := dkwX2_hush_7 ++ []
def dkwX2_hush_6 : List UInt8 := [154, 0, 9, 21, 5, 133, 167, 0, 28, 21, 4, 4, 160, 0, 8, 22, 6, 167, 0, 17, 21, 4, 5]
abbrev dktX2_hush_6 : List UInt8 := dkwX2_hush_6 ++ dktX2_hush_7
def dkwX2_hush_5 : List UInt8 := [167, 0, 11, 21, 14, 54, 9, 22, 12, 55, 10, 22, 12, 10, 97, 55, 12, 167, 255, 175, 21, 4]
abbrev dktX2_hush_5 : List UInt8 := dkwX2_hush_5 ++ dktX2_hush_6
def dkwX2_hush_4 : List UInt8 := [164, 0, 17, 21, 8, 54, 5, 22, 12, 21, 8, 133, 101, 10, 97, 55, 6, 21, 14, 21, 9, 163, 0, 6]
abbrev dktX2_hush_4 : List UInt8 := dkwX2_hush_4 ++ dktX2_hush_5
def dkwX2_hush_3 : List UInt8 := [184, 1, 144, 54, 14, 21, 14, 154, 0, 10, 21, 8, 4, 96, 167, 0, 4, 3, 54, 8, 21, 8, 21, 5]
abbrev dktX2_hush_3 : List UInt8 := dkwX2_hush_3 ++ dktX2_hush_4
def dkwX2_hush_2 : List UInt8 := [54, 9, 31, 55, 10, 31, 55, 12, 22, 12, 31, 29, 133, 97, 148, 156, 0, 77, 42, 22, 12, 182, 1, 129]
abbrev dktX2_hush_2 : List UInt8 := dkwX2_hush_2 ++ dktX2_hush_3
def dkwX2_hush_1 : List UInt8 := [154, 0, 7, 20, 1, 94, 173, 42, 182, 1, 60, 3, 54, 5, 20, 1, 94, 55, 6, 3, 54, 8, 2]
abbrev dktX2_hush_1 : List UInt8 := dkwX2_hush_1 ++ dktX2_hush_2
def dkwX2_hush_0 : List UInt8 := [29, 18, 147, 163, 0, 22, 31, 29, 133, 184, 1, 122, 153, 0, 13, 21, 4, 3, 6, 184, 0, 104]
abbrev dktX2_hush_0 : List UInt8 := dkwX2_hush_0 ++ dktX2_hush_1
theorem dksX2_hush_0 : cX2_hush.data.toList.drop 0 = dktX2_hush_0 := by decide +kernel
theorem dksX2_hush_1 : cX2_hush.data.toList.drop 22 = dktX2_hush_1 := dk_seg dksX2_hush_0 22 rfl rfl
theorem dksX2_hush_2 : cX2_hush.data.toList.drop 45 = dktX2_hush_2 := dk_seg dksX2_hush_1 23 rfl rfl
theorem dksX2_hush_3 : cX2_hush.data.toList.drop 69 = dktX2_hush_3 := dk_seg dksX2_hush_2 24 rfl rfl
theorem dksX2_hush_4 : cX2_hush.data.toList.drop 93 = dktX2_hush_4 := dk_seg dksX2_hush_3 24 rfl rfl
theorem dksX2_hush_5 : cX2_hush.data.toList.drop 117 = dktX2_hush_5 := dk_seg dksX2_hush_4 24 rfl rfl
theorem dksX2_hush_6 : cX2_hush.data.toList.drop 139 = dktX2_hush_6 := dk_seg dksX2_hush_5 22 rfl rfl
theorem dksX2_hush_7 : cX2_hush.data.toList.drop 162 = dktX2_hush_7 := dk_seg dksX2_hush_6 23 rfl rfl
theorem dX2_hush_0 : decode cX2_hush 0 = .ok (.iload_n 3, 1) := dk_29 (dk_at dksX2_hush_0 0 rfl rfl)
theorem dX2_hush_1 : decode cX2_hush 1 = .ok (.ldc 147, 2) := dk_18 147 (dk_at dksX2_hush_0 1 rfl rfl)
theorem dX2_hush_3 : decode cX2_hush 3 = .ok (.if_icmp .gt 22, 3) := dk_163 0 22 (dk_at dksX2_hush_0 3 rfl rfl)
theorem dX2_hush_6 : decode cX2_hush 6 = .ok (.lload_n 1, 1) := dk_31 (dk_at dksX2_hush_0 6 rfl rfl)
theorem dX2_hush_7 : decode cX2_hush 7 = .ok (.iload_n 3, 1) := dk_29 (dk_at dksX2_hush_0 7 rfl rfl)
theorem dX2_hush_8 : decode cX2_hush 8 = .ok (.i2l, 1) := dk_133 (dk_at dksX2_hush_0 8 rfl rfl)
theorem dX2_hush_9 : decode cX2_hush 9 = .ok (.invokestatic 378, 3) := dk_184 1 122 (dk_at dksX2_hush_0 9 rfl rfl)
theorem dX2_hush_12 : decode cX2_hush 12 = .ok (.ifCond .eq 13, 3) := dk_153 0 13 (dk_at dksX2_hush_0 12 rfl rfl)
theorem dX2_hush_15 : decode cX2_hush 15 = .ok (.iload 4, 2) := dk_21 4 (dk_at dksX2_hush_0 15 rfl rfl)
theorem dX2_hush_17 : decode cX2_hush 17 = .ok (.iconst 0, 1) := dk_3 (dk_at dksX2_hush_0 17 rfl rfl)
theorem dX2_hush_18 : decode cX2_hush 18 = .ok (.iconst 3, 1) := dk_6 (dk_at dksX2_hush_0 18 rfl rfl)
theorem dX2_hush_19 : decode cX2_hush 19 = .ok (.invokestatic 104, 3) := dk_184 0 104 (dk_at dksX2_hush_0 19 rfl rfl)
theorem dX2_hush_22 : decode cX2_hush 22 = .ok (.ifCond .ne 7, 3) := dk_154 0 7 (dk_at dksX2_hush_1 0 rfl rfl)
theorem dX2_hush_25 : decode cX2_hush 25 = .ok (.ldc2_w 350, 3) := dk_20 1 94 (dk_at dksX2_hush_1 3 rfl rfl)
theorem dX2_hush_28 : decode cX2_hush 28 = .ok (.lreturn, 1) := dk_173 (dk_at dksX2_hush_1 6 rfl rfl)
theorem dX2_hush_29 : decode cX2_hush 29 = .ok (.aload_n 0, 1) := dk_42 (dk_at dksX2_hush_1 7 rfl rfl)
theorem dX2_hush_30 : decode cX2_hush 30 = .ok (.invokevirtual 316, 3) := dk_182 1 60 (dk_at dksX2_hush_1 8 rfl rfl)
theorem dX2_hush_33 : decode cX2_hush 33 = .ok (.iconst 0, 1) := dk_3 (dk_at dksX2_hush_1 11 rfl rfl)
theorem dX2_hush_34 : decode cX2_hush 34 = .ok (.istore 5, 2) := dk_54 5 (dk_at dksX2_hush_1 12 rfl rfl)
theorem dX2_hush_36 : decode cX2_hush 36 = .ok (.ldc2_w 350, 3) := dk_20 1 94 (dk_at dksX2_hush_1 14 rfl rfl)
theorem dX2_hush_39 : decode cX2_hush 39 = .ok (.lstore 6, 2) := dk_55 6 (dk_at dksX2_hush_1 17 rfl rfl)
theorem dX2_hush_41 : decode cX2_hush 41 = .ok (.iconst 0, 1) := dk_3 (dk_at dksX2_hush_1 19 rfl rfl)
theorem dX2_hush_42 : decode cX2_hush 42 = .ok (.istore 8, 2) := dk_54 8 (dk_at dksX2_hush_1 20 rfl rfl)
theorem dX2_hush_44 : decode cX2_hush 44 = .ok (.iconst (-1), 1) := dk_2 (dk_at dksX2_hush_1 22 rfl rfl)
theorem dX2_hush_45 : decode cX2_hush 45 = .ok (.istore 9, 2) := dk_54 9 (dk_at dksX2_hush_2 0 rfl rfl)
theorem dX2_hush_47 : decode cX2_hush 47 = .ok (.lload_n 1, 1) := dk_31 (dk_at dksX2_hush_2 2 rfl rfl)
theorem dX2_hush_48 : decode cX2_hush 48 = .ok (.lstore 10, 2) := dk_55 10 (dk_at dksX2_hush_2 3 rfl rfl)
theorem dX2_hush_50 : decode cX2_hush 50 = .ok (.lload_n 1, 1) := dk_31 (dk_at dksX2_hush_2 5 rfl rfl)
theorem dX2_hush_51 : decode cX2_hush 51 = .ok (.lstore 12, 2) := dk_55 12 (dk_at dksX2_hush_2 6 rfl rfl)
theorem dX2_hush_53 : decode cX2_hush 53 = .ok (.lload 12, 2) := dk_22 12 (dk_at dksX2_hush_2 8 rfl rfl)
theorem dX2_hush_55 : decode cX2_hush 55 = .ok (.lload_n 1, 1) := dk_31 (dk_at dksX2_hush_2 10 rfl rfl)
theorem dX2_hush_56 : decode cX2_hush 56 = .ok (.iload_n 3, 1) := dk_29 (dk_at dksX2_hush_2 11 rfl rfl)
theorem dX2_hush_57 : decode cX2_hush 57 = .ok (.i2l, 1) := dk_133 (dk_at dksX2_hush_2 12 rfl rfl)
theorem dX2_hush_58 : decode cX2_hush 58 = .ok (.ladd, 1) := dk_97 (dk_at dksX2_hush_2 13 rfl rfl)
theorem dX2_hush_59 : decode cX2_hush 59 = .ok (.lcmp, 1) := dk_148 (dk_at dksX2_hush_2 14 rfl rfl)
theorem dX2_hush_60 : decode cX2_hush 60 = .ok (.ifCond .ge 77, 3) := dk_156 0 77 (dk_at dksX2_hush_2 15 rfl rfl)
theorem dX2_hush_63 : decode cX2_hush 63 = .ok (.aload_n 0, 1) := dk_42 (dk_at dksX2_hush_2 18 rfl rfl)
theorem dX2_hush_64 : decode cX2_hush 64 = .ok (.lload 12, 2) := dk_22 12 (dk_at dksX2_hush_2 19 rfl rfl)
theorem dX2_hush_66 : decode cX2_hush 66 = .ok (.invokevirtual 385, 3) := dk_182 1 129 (dk_at dksX2_hush_2 21 rfl rfl)
theorem dX2_hush_69 : decode cX2_hush 69 = .ok (.invokestatic 400, 3) := dk_184 1 144 (dk_at dksX2_hush_3 0 rfl rfl)
theorem dX2_hush_72 : decode cX2_hush 72 = .ok (.istore 14, 2) := dk_54 14 (dk_at dksX2_hush_3 3 rfl rfl)
theorem dX2_hush_74 : decode cX2_hush 74 = .ok (.iload 14, 2) := dk_21 14 (dk_at dksX2_hush_3 5 rfl rfl)
theorem dX2_hush_76 : decode cX2_hush 76 = .ok (.ifCond .ne 10, 3) := dk_154 0 10 (dk_at dksX2_hush_3 7 rfl rfl)
theorem dX2_hush_79 : decode cX2_hush 79 = .ok (.iload 8, 2) := dk_21 8 (dk_at dksX2_hush_3 10 rfl rfl)
theorem dX2_hush_81 : decode cX2_hush 81 = .ok (.iconst 1, 1) := dk_4 (dk_at dksX2_hush_3 12 rfl rfl)
theorem dX2_hush_82 : decode cX2_hush 82 = .ok (.iadd, 1) := dk_96 (dk_at dksX2_hush_3 13 rfl rfl)
theorem dX2_hush_83 : decode cX2_hush 83 = .ok (.goto 4, 3) := dk_167 0 4 (dk_at dksX2_hush_3 14 rfl rfl)
theorem dX2_hush_86 : decode cX2_hush 86 = .ok (.iconst 0, 1) := dk_3 (dk_at dksX2_hush_3 17 rfl rfl)
theorem dX2_hush_87 : decode cX2_hush 87 = .ok (.istore 8, 2) := dk_54 8 (dk_at dksX2_hush_3 18 rfl rfl)
theorem dX2_hush_89 : decode cX2_hush 89 = .ok (.iload 8, 2) := dk_21 8 (dk_at dksX2_hush_3 20 rfl rfl)
theorem dX2_hush_91 : decode cX2_hush 91 = .ok (.iload 5, 2) := dk_21 5 (dk_at dksX2_hush_3 22 rfl rfl)
theorem dX2_hush_93 : decode cX2_hush 93 = .ok (.if_icmp .le 17, 3) := dk_164 0 17 (dk_at dksX2_hush_4 0 rfl rfl)
theorem dX2_hush_96 : decode cX2_hush 96 = .ok (.iload 8, 2) := dk_21 8 (dk_at dksX2_hush_4 3 rfl rfl)
theorem dX2_hush_98 : decode cX2_hush 98 = .ok (.istore 5, 2) := dk_54 5 (dk_at dksX2_hush_4 5 rfl rfl)
theorem dX2_hush_100 : decode cX2_hush 100 = .ok (.lload 12, 2) := dk_22 12 (dk_at dksX2_hush_4 7 rfl rfl)
theorem dX2_hush_102 : decode cX2_hush 102 = .ok (.iload 8, 2) := dk_21 8 (dk_at dksX2_hush_4 9 rfl rfl)
theorem dX2_hush_104 : decode cX2_hush 104 = .ok (.i2l, 1) := dk_133 (dk_at dksX2_hush_4 11 rfl rfl)
theorem dX2_hush_105 : decode cX2_hush 105 = .ok (.lsub, 1) := dk_101 (dk_at dksX2_hush_4 12 rfl rfl)
theorem dX2_hush_106 : decode cX2_hush 106 = .ok (.lconst 1, 1) := dk_10 (dk_at dksX2_hush_4 13 rfl rfl)
theorem dX2_hush_107 : decode cX2_hush 107 = .ok (.ladd, 1) := dk_97 (dk_at dksX2_hush_4 14 rfl rfl)
theorem dX2_hush_108 : decode cX2_hush 108 = .ok (.lstore 6, 2) := dk_55 6 (dk_at dksX2_hush_4 15 rfl rfl)
theorem dX2_hush_110 : decode cX2_hush 110 = .ok (.iload 14, 2) := dk_21 14 (dk_at dksX2_hush_4 17 rfl rfl)
theorem dX2_hush_112 : decode cX2_hush 112 = .ok (.iload 9, 2) := dk_21 9 (dk_at dksX2_hush_4 19 rfl rfl)
theorem dX2_hush_114 : decode cX2_hush 114 = .ok (.if_icmp .gt 6, 3) := dk_163 0 6 (dk_at dksX2_hush_4 21 rfl rfl)
theorem dX2_hush_117 : decode cX2_hush 117 = .ok (.goto 11, 3) := dk_167 0 11 (dk_at dksX2_hush_5 0 rfl rfl)
theorem dX2_hush_120 : decode cX2_hush 120 = .ok (.iload 14, 2) := dk_21 14 (dk_at dksX2_hush_5 3 rfl rfl)
theorem dX2_hush_122 : decode cX2_hush 122 = .ok (.istore 9, 2) := dk_54 9 (dk_at dksX2_hush_5 5 rfl rfl)
theorem dX2_hush_124 : decode cX2_hush 124 = .ok (.lload 12, 2) := dk_22 12 (dk_at dksX2_hush_5 7 rfl rfl)
theorem dX2_hush_126 : decode cX2_hush 126 = .ok (.lstore 10, 2) := dk_55 10 (dk_at dksX2_hush_5 9 rfl rfl)
theorem dX2_hush_128 : decode cX2_hush 128 = .ok (.lload 12, 2) := dk_22 12 (dk_at dksX2_hush_5 11 rfl rfl)
theorem dX2_hush_130 : decode cX2_hush 130 = .ok (.lconst 1, 1) := dk_10 (dk_at dksX2_hush_5 13 rfl rfl)
theorem dX2_hush_131 : decode cX2_hush 131 = .ok (.ladd, 1) := dk_97 (dk_at dksX2_hush_5 14 rfl rfl)
theorem dX2_hush_132 : decode cX2_hush 132 = .ok (.lstore 12, 2) := dk_55 12 (dk_at dksX2_hush_5 15 rfl rfl)
theorem dX2_hush_134 : decode cX2_hush 134 = .ok (.goto (-81), 3) := dk_167 255 175 (dk_at dksX2_hush_5 17 rfl rfl)
theorem dX2_hush_137 : decode cX2_hush 137 = .ok (.iload 4, 2) := dk_21 4 (dk_at dksX2_hush_5 20 rfl rfl)
theorem dX2_hush_139 : decode cX2_hush 139 = .ok (.ifCond .ne 9, 3) := dk_154 0 9 (dk_at dksX2_hush_6 0 rfl rfl)
theorem dX2_hush_142 : decode cX2_hush 142 = .ok (.iload 5, 2) := dk_21 5 (dk_at dksX2_hush_6 3 rfl rfl)
theorem dX2_hush_144 : decode cX2_hush 144 = .ok (.i2l, 1) := dk_133 (dk_at dksX2_hush_6 5 rfl rfl)
theorem dX2_hush_145 : decode cX2_hush 145 = .ok (.goto 28, 3) := dk_167 0 28 (dk_at dksX2_hush_6 6 rfl rfl)
theorem dX2_hush_148 : decode cX2_hush 148 = .ok (.iload 4, 2) := dk_21 4 (dk_at dksX2_hush_6 9 rfl rfl)
theorem dX2_hush_150 : decode cX2_hush 150 = .ok (.iconst 1, 1) := dk_4 (dk_at dksX2_hush_6 11 rfl rfl)
theorem dX2_hush_151 : decode cX2_hush 151 = .ok (.if_icmp .ne 8, 3) := dk_160 0 8 (dk_at dksX2_hush_6 12 rfl rfl)
theorem dX2_hush_154 : decode cX2_hush 154 = .ok (.lload 6, 2) := dk_22 6 (dk_at dksX2_hush_6 15 rfl rfl)
theorem dX2_hush_156 : decode cX2_hush 156 = .ok (.goto 17, 3) := dk_167 0 17 (dk_at dksX2_hush_6 17 rfl rfl)
theorem dX2_hush_159 : decode cX2_hush 159 = .ok (.iload 4, 2) := dk_21 4 (dk_at dksX2_hush_6 20 rfl rfl)
theorem dX2_hush_161 : decode cX2_hush 161 = .ok (.iconst 2, 1) := dk_5 (dk_at dksX2_hush_6 22 rfl rfl)
theorem dX2_hush_162 : decode cX2_hush 162 = .ok (.if_icmp .ne 8, 3) := dk_160 0 8 (dk_at dksX2_hush_7 0 rfl rfl)
theorem dX2_hush_165 : decode cX2_hush 165 = .ok (.lload 10, 2) := dk_22 10 (dk_at dksX2_hush_7 3 rfl rfl)
theorem dX2_hush_167 : decode cX2_hush 167 = .ok (.goto 6, 3) := dk_167 0 6 (dk_at dksX2_hush_7 5 rfl rfl)
theorem dX2_hush_170 : decode cX2_hush 170 = .ok (.iload 9, 2) := dk_21 9 (dk_at dksX2_hush_7 8 rfl rfl)
theorem dX2_hush_172 : decode cX2_hush 172 = .ok (.i2l, 1) := dk_133 (dk_at dksX2_hush_7 10 rfl rfl)
theorem dX2_hush_173 : decode cX2_hush 173 = .ok (.lreturn, 1) := dk_173 (dk_at dksX2_hush_7 11 rfl rfl)
abbrev cX2_child : ByteArray := prog_17_method_117_code
def yX2_child : MethodName := ⟨RX2, "child", "(IIII)I"⟩
def dkwX2_child_6 : List UInt8 := [167, 255, 200, 132, 5, 1, 167, 255, 184, 2, 172]
abbrev dktX2_child_6 : List UInt8 := dkwX2_child_6 ++ []
def dkwX2_child_5 : List UInt8 := [21, 5, 21, 6, 29, 182, 1, 193, 153, 0, 13, 17, 3, 232, 21, 5, 104, 21, 6, 96, 172, 132, 6, 1]
abbrev dktX2_child_5 : List UInt8 := dkwX2_child_5 ++ dktX2_child_6
def dkwX2_child_4 : List UInt8 := [21, 5, 21, 6, 27, 182, 1, 190, 153, 0, 37, 42, 21, 5, 21, 6, 28, 182, 1, 190, 153, 0, 25, 42]
abbrev dktX2_child_4 : List UInt8 := dkwX2_child_4 ++ dktX2_child_5
def dkwX2_child_3 : List UInt8 := [182, 1, 60, 4, 54, 5, 21, 5, 21, 4, 163, 0, 71, 3, 54, 6, 21, 6, 21, 5, 162, 0, 55, 42]
abbrev dktX2_child_3 : List UInt8 := dkwX2_child_3 ++ dktX2_child_4
def dkwX2_child_2 : List UInt8 := [153, 0, 19, 29, 27, 184, 1, 54, 154, 0, 11, 29, 28, 184, 1, 54, 153, 0, 5, 2, 172, 42]
abbrev dktX2_child_2 : List UInt8 := dkwX2_child_2 ++ dktX2_child_3
def dkwX2_child_1 : List UInt8 := [17, 3, 231, 184, 0, 104, 153, 0, 37, 29, 3, 4, 42, 180, 0, 7, 3, 46, 120, 4, 100, 184, 0, 104]
abbrev dktX2_child_1 : List UInt8 := dkwX2_child_1 ++ dktX2_child_2
def dkwX2_child_0 : List UInt8 := [42, 27, 182, 0, 114, 153, 0, 62, 42, 28, 182, 0, 114, 153, 0, 54, 27, 28, 159, 0, 49, 21, 4, 4]
abbrev dktX2_child_0 : List UInt8 := dkwX2_child_0 ++ dktX2_child_1
theorem dksX2_child_0 : cX2_child.data.toList.drop 0 = dktX2_child_0 := by decide +kernel
theorem dksX2_child_1 : cX2_child.data.toList.drop 24 = dktX2_child_1 := dk_seg dksX2_child_0 24 rfl rfl
theorem dksX2_child_2 : cX2_child.data.toList.drop 48 = dktX2_child_2 := dk_seg dksX2_child_1 24 rfl rfl
theorem dksX2_child_3 : cX2_child.data.toList.drop 70 = dktX2_child_3 := dk_seg dksX2_child_2 22 rfl rfl
theorem dksX2_child_4 : cX2_child.data.toList.drop 94 = dktX2_child_4 := dk_seg dksX2_child_3 24 rfl rfl
theorem dksX2_child_5 : cX2_child.data.toList.drop 118 = dktX2_child_5 := dk_seg dksX2_child_4 24 rfl rfl
theorem dksX2_child_6 : cX2_child.data.toList.drop 142 = dktX2_child_6 := dk_seg dksX2_child_5 24 rfl rfl
theorem dX2_child_0 : decode cX2_child 0 = .ok (.aload_n 0, 1) := dk_42 (dk_at dksX2_child_0 0 rfl rfl)
theorem dX2_child_1 : decode cX2_child 1 = .ok (.iload_n 1, 1) := dk_27 (dk_at dksX2_child_0 1 rfl rfl)
theorem dX2_child_2 : decode cX2_child 2 = .ok (.invokevirtual 114, 3) := dk_182 0 114 (dk_at dksX2_child_0 2 rfl rfl)
theorem dX2_child_5 : decode cX2_child 5 = .ok (.ifCond .eq 62, 3) := dk_153 0 62 (dk_at dksX2_child_0 5 rfl rfl)
theorem dX2_child_8 : decode cX2_child 8 = .ok (.aload_n 0, 1) := dk_42 (dk_at dksX2_child_0 8 rfl rfl)
theorem dX2_child_9 : decode cX2_child 9 = .ok (.iload_n 2, 1) := dk_28 (dk_at dksX2_child_0 9 rfl rfl)
theorem dX2_child_10 : decode cX2_child 10 = .ok (.invokevirtual 114, 3) := dk_182 0 114 (dk_at dksX2_child_0 10 rfl rfl)
theorem dX2_child_13 : decode cX2_child 13 = .ok (.ifCond .eq 54, 3) := dk_153 0 54 (dk_at dksX2_child_0 13 rfl rfl)
theorem dX2_child_16 : decode cX2_child 16 = .ok (.iload_n 1, 1) := dk_27 (dk_at dksX2_child_0 16 rfl rfl)
theorem dX2_child_17 : decode cX2_child 17 = .ok (.iload_n 2, 1) := dk_28 (dk_at dksX2_child_0 17 rfl rfl)
theorem dX2_child_18 : decode cX2_child 18 = .ok (.if_icmp .eq 49, 3) := dk_159 0 49 (dk_at dksX2_child_0 18 rfl rfl)
theorem dX2_child_21 : decode cX2_child 21 = .ok (.iload 4, 2) := dk_21 4 (dk_at dksX2_child_0 21 rfl rfl)
theorem dX2_child_23 : decode cX2_child 23 = .ok (.iconst 1, 1) := dk_4 (dk_at dksX2_child_0 23 rfl rfl)
theorem dX2_child_24 : decode cX2_child 24 = .ok (.sipush 999, 3) := dk_17 3 231 (dk_at dksX2_child_1 0 rfl rfl)
theorem dX2_child_27 : decode cX2_child 27 = .ok (.invokestatic 104, 3) := dk_184 0 104 (dk_at dksX2_child_1 3 rfl rfl)
theorem dX2_child_30 : decode cX2_child 30 = .ok (.ifCond .eq 37, 3) := dk_153 0 37 (dk_at dksX2_child_1 6 rfl rfl)
theorem dX2_child_33 : decode cX2_child 33 = .ok (.iload_n 3, 1) := dk_29 (dk_at dksX2_child_1 9 rfl rfl)
theorem dX2_child_34 : decode cX2_child 34 = .ok (.iconst 0, 1) := dk_3 (dk_at dksX2_child_1 10 rfl rfl)
theorem dX2_child_35 : decode cX2_child 35 = .ok (.iconst 1, 1) := dk_4 (dk_at dksX2_child_1 11 rfl rfl)
theorem dX2_child_36 : decode cX2_child 36 = .ok (.aload_n 0, 1) := dk_42 (dk_at dksX2_child_1 12 rfl rfl)
theorem dX2_child_37 : decode cX2_child 37 = .ok (.getfield 7, 3) := dk_180 0 7 (dk_at dksX2_child_1 13 rfl rfl)
theorem dX2_child_40 : decode cX2_child 40 = .ok (.iconst 0, 1) := dk_3 (dk_at dksX2_child_1 16 rfl rfl)
theorem dX2_child_41 : decode cX2_child 41 = .ok (.iaload, 1) := dk_46 (dk_at dksX2_child_1 17 rfl rfl)
theorem dX2_child_42 : decode cX2_child 42 = .ok (.ishl, 1) := dk_120 (dk_at dksX2_child_1 18 rfl rfl)
theorem dX2_child_43 : decode cX2_child 43 = .ok (.iconst 1, 1) := dk_4 (dk_at dksX2_child_1 19 rfl rfl)
theorem dX2_child_44 : decode cX2_child 44 = .ok (.isub, 1) := dk_100 (dk_at dksX2_child_1 20 rfl rfl)
theorem dX2_child_45 : decode cX2_child 45 = .ok (.invokestatic 104, 3) := dk_184 0 104 (dk_at dksX2_child_1 21 rfl rfl)
theorem dX2_child_48 : decode cX2_child 48 = .ok (.ifCond .eq 19, 3) := dk_153 0 19 (dk_at dksX2_child_2 0 rfl rfl)
theorem dX2_child_51 : decode cX2_child 51 = .ok (.iload_n 3, 1) := dk_29 (dk_at dksX2_child_2 3 rfl rfl)
theorem dX2_child_52 : decode cX2_child 52 = .ok (.iload_n 1, 1) := dk_27 (dk_at dksX2_child_2 4 rfl rfl)
theorem dX2_child_53 : decode cX2_child 53 = .ok (.invokestatic 310, 3) := dk_184 1 54 (dk_at dksX2_child_2 5 rfl rfl)
theorem dX2_child_56 : decode cX2_child 56 = .ok (.ifCond .ne 11, 3) := dk_154 0 11 (dk_at dksX2_child_2 8 rfl rfl)
theorem dX2_child_59 : decode cX2_child 59 = .ok (.iload_n 3, 1) := dk_29 (dk_at dksX2_child_2 11 rfl rfl)
theorem dX2_child_60 : decode cX2_child 60 = .ok (.iload_n 2, 1) := dk_28 (dk_at dksX2_child_2 12 rfl rfl)
theorem dX2_child_61 : decode cX2_child 61 = .ok (.invokestatic 310, 3) := dk_184 1 54 (dk_at dksX2_child_2 13 rfl rfl)
theorem dX2_child_64 : decode cX2_child 64 = .ok (.ifCond .eq 5, 3) := dk_153 0 5 (dk_at dksX2_child_2 16 rfl rfl)
theorem dX2_child_67 : decode cX2_child 67 = .ok (.iconst (-1), 1) := dk_2 (dk_at dksX2_child_2 19 rfl rfl)
theorem dX2_child_68 : decode cX2_child 68 = .ok (.ireturn, 1) := dk_172 (dk_at dksX2_child_2 20 rfl rfl)
theorem dX2_child_69 : decode cX2_child 69 = .ok (.aload_n 0, 1) := dk_42 (dk_at dksX2_child_2 21 rfl rfl)
theorem dX2_child_70 : decode cX2_child 70 = .ok (.invokevirtual 316, 3) := dk_182 1 60 (dk_at dksX2_child_3 0 rfl rfl)
theorem dX2_child_73 : decode cX2_child 73 = .ok (.iconst 1, 1) := dk_4 (dk_at dksX2_child_3 3 rfl rfl)
theorem dX2_child_74 : decode cX2_child 74 = .ok (.istore 5, 2) := dk_54 5 (dk_at dksX2_child_3 4 rfl rfl)
theorem dX2_child_76 : decode cX2_child 76 = .ok (.iload 5, 2) := dk_21 5 (dk_at dksX2_child_3 6 rfl rfl)
theorem dX2_child_78 : decode cX2_child 78 = .ok (.iload 4, 2) := dk_21 4 (dk_at dksX2_child_3 8 rfl rfl)
theorem dX2_child_80 : decode cX2_child 80 = .ok (.if_icmp .gt 71, 3) := dk_163 0 71 (dk_at dksX2_child_3 10 rfl rfl)
theorem dX2_child_83 : decode cX2_child 83 = .ok (.iconst 0, 1) := dk_3 (dk_at dksX2_child_3 13 rfl rfl)
theorem dX2_child_84 : decode cX2_child 84 = .ok (.istore 6, 2) := dk_54 6 (dk_at dksX2_child_3 14 rfl rfl)
theorem dX2_child_86 : decode cX2_child 86 = .ok (.iload 6, 2) := dk_21 6 (dk_at dksX2_child_3 16 rfl rfl)
theorem dX2_child_88 : decode cX2_child 88 = .ok (.iload 5, 2) := dk_21 5 (dk_at dksX2_child_3 18 rfl rfl)
theorem dX2_child_90 : decode cX2_child 90 = .ok (.if_icmp .ge 55, 3) := dk_162 0 55 (dk_at dksX2_child_3 20 rfl rfl)
theorem dX2_child_93 : decode cX2_child 93 = .ok (.aload_n 0, 1) := dk_42 (dk_at dksX2_child_3 23 rfl rfl)
theorem dX2_child_94 : decode cX2_child 94 = .ok (.iload 5, 2) := dk_21 5 (dk_at dksX2_child_4 0 rfl rfl)
theorem dX2_child_96 : decode cX2_child 96 = .ok (.iload 6, 2) := dk_21 6 (dk_at dksX2_child_4 2 rfl rfl)
theorem dX2_child_98 : decode cX2_child 98 = .ok (.iload_n 1, 1) := dk_27 (dk_at dksX2_child_4 4 rfl rfl)
theorem dX2_child_99 : decode cX2_child 99 = .ok (.invokevirtual 446, 3) := dk_182 1 190 (dk_at dksX2_child_4 5 rfl rfl)
theorem dX2_child_102 : decode cX2_child 102 = .ok (.ifCond .eq 37, 3) := dk_153 0 37 (dk_at dksX2_child_4 8 rfl rfl)
theorem dX2_child_105 : decode cX2_child 105 = .ok (.aload_n 0, 1) := dk_42 (dk_at dksX2_child_4 11 rfl rfl)
theorem dX2_child_106 : decode cX2_child 106 = .ok (.iload 5, 2) := dk_21 5 (dk_at dksX2_child_4 12 rfl rfl)
theorem dX2_child_108 : decode cX2_child 108 = .ok (.iload 6, 2) := dk_21 6 (dk_at dksX2_child_4 14 rfl rfl)
theorem dX2_child_110 : decode cX2_child 110 = .ok (.iload_n 2, 1) := dk_28 (dk_at dksX2_child_4 16 rfl rfl)
theorem dX2_child_111 : decode cX2_child 111 = .ok (.invokevirtual 446, 3) := dk_182 1 190 (dk_at dksX2_child_4 17 rfl rfl)
theorem dX2_child_114 : decode cX2_child 114 = .ok (.ifCond .eq 25, 3) := dk_153 0 25 (dk_at dksX2_child_4 20 rfl rfl)
theorem dX2_child_117 : decode cX2_child 117 = .ok (.aload_n 0, 1) := dk_42 (dk_at dksX2_child_4 23 rfl rfl)
theorem dX2_child_118 : decode cX2_child 118 = .ok (.iload 5, 2) := dk_21 5 (dk_at dksX2_child_5 0 rfl rfl)
theorem dX2_child_120 : decode cX2_child 120 = .ok (.iload 6, 2) := dk_21 6 (dk_at dksX2_child_5 2 rfl rfl)
theorem dX2_child_122 : decode cX2_child 122 = .ok (.iload_n 3, 1) := dk_29 (dk_at dksX2_child_5 4 rfl rfl)
theorem dX2_child_123 : decode cX2_child 123 = .ok (.invokevirtual 449, 3) := dk_182 1 193 (dk_at dksX2_child_5 5 rfl rfl)
theorem dX2_child_126 : decode cX2_child 126 = .ok (.ifCond .eq 13, 3) := dk_153 0 13 (dk_at dksX2_child_5 8 rfl rfl)
theorem dX2_child_129 : decode cX2_child 129 = .ok (.sipush 1000, 3) := dk_17 3 232 (dk_at dksX2_child_5 11 rfl rfl)
theorem dX2_child_132 : decode cX2_child 132 = .ok (.iload 5, 2) := dk_21 5 (dk_at dksX2_child_5 14 rfl rfl)
theorem dX2_child_134 : decode cX2_child 134 = .ok (.imul, 1) := dk_104 (dk_at dksX2_child_5 16 rfl rfl)
theorem dX2_child_135 : decode cX2_child 135 = .ok (.iload 6, 2) := dk_21 6 (dk_at dksX2_child_5 17 rfl rfl)
theorem dX2_child_137 : decode cX2_child 137 = .ok (.iadd, 1) := dk_96 (dk_at dksX2_child_5 19 rfl rfl)
theorem dX2_child_138 : decode cX2_child 138 = .ok (.ireturn, 1) := dk_172 (dk_at dksX2_child_5 20 rfl rfl)
theorem dX2_child_139 : decode cX2_child 139 = .ok (.iinc 6 1, 3) := dk_132 6 1 (dk_at dksX2_child_5 21 rfl rfl)
theorem dX2_child_142 : decode cX2_child 142 = .ok (.goto (-56), 3) := dk_167 255 200 (dk_at dksX2_child_6 0 rfl rfl)
theorem dX2_child_145 : decode cX2_child 145 = .ok (.iinc 5 1, 3) := dk_132 5 1 (dk_at dksX2_child_6 3 rfl rfl)
theorem dX2_child_148 : decode cX2_child 148 = .ok (.goto (-72), 3) := dk_167 255 184 (dk_at dksX2_child_6 6 rfl rfl)
theorem dX2_child_151 : decode cX2_child 151 = .ok (.iconst (-1), 1) := dk_2 (dk_at dksX2_child_6 9 rfl rfl)
theorem dX2_child_152 : decode cX2_child 152 = .ok (.ireturn, 1) := dk_172 (dk_at dksX2_child_6 10 rfl rfl)
abbrev cX2_meets : ByteArray := prog_17_method_115_code
def yX2_meets : MethodName := ⟨RX2, "meets", "(III)Z"⟩
def dkwX2_meets_1 : List UInt8 := [154, 0, 7, 4, 167, 0, 4, 3, 172]
abbrev dktX2_meets_1 : List UInt8 := dkwX2_meets_1 ++ []
def dkwX2_meets_0 : List UInt8 := [28, 42, 180, 0, 52, 29, 46, 100, 133, 27, 133, 42, 180, 0, 49, 29, 46, 133, 184, 1, 71, 113, 9, 148]
abbrev dktX2_meets_0 : List UInt8 := dkwX2_meets_0 ++ dktX2_meets_1
theorem dksX2_meets_0 : cX2_meets.data.toList.drop 0 = dktX2_meets_0 := by decide +kernel
theorem dksX2_meets_1 : cX2_meets.data.toList.drop 24 = dktX2_meets_1 := dk_seg dksX2_meets_0 24 rfl rfl
theorem dX2_meets_0 : decode cX2_meets 0 = .ok (.iload_n 2, 1) := dk_28 (dk_at dksX2_meets_0 0 rfl rfl)
theorem dX2_meets_1 : decode cX2_meets 1 = .ok (.aload_n 0, 1) := dk_42 (dk_at dksX2_meets_0 1 rfl rfl)
theorem dX2_meets_2 : decode cX2_meets 2 = .ok (.getfield 52, 3) := dk_180 0 52 (dk_at dksX2_meets_0 2 rfl rfl)
theorem dX2_meets_5 : decode cX2_meets 5 = .ok (.iload_n 3, 1) := dk_29 (dk_at dksX2_meets_0 5 rfl rfl)
theorem dX2_meets_6 : decode cX2_meets 6 = .ok (.iaload, 1) := dk_46 (dk_at dksX2_meets_0 6 rfl rfl)
theorem dX2_meets_7 : decode cX2_meets 7 = .ok (.isub, 1) := dk_100 (dk_at dksX2_meets_0 7 rfl rfl)
theorem dX2_meets_8 : decode cX2_meets 8 = .ok (.i2l, 1) := dk_133 (dk_at dksX2_meets_0 8 rfl rfl)
theorem dX2_meets_9 : decode cX2_meets 9 = .ok (.iload_n 1, 1) := dk_27 (dk_at dksX2_meets_0 9 rfl rfl)
theorem dX2_meets_10 : decode cX2_meets 10 = .ok (.i2l, 1) := dk_133 (dk_at dksX2_meets_0 10 rfl rfl)
theorem dX2_meets_11 : decode cX2_meets 11 = .ok (.aload_n 0, 1) := dk_42 (dk_at dksX2_meets_0 11 rfl rfl)
theorem dX2_meets_12 : decode cX2_meets 12 = .ok (.getfield 49, 3) := dk_180 0 49 (dk_at dksX2_meets_0 12 rfl rfl)
theorem dX2_meets_15 : decode cX2_meets 15 = .ok (.iload_n 3, 1) := dk_29 (dk_at dksX2_meets_0 15 rfl rfl)
theorem dX2_meets_16 : decode cX2_meets 16 = .ok (.iaload, 1) := dk_46 (dk_at dksX2_meets_0 16 rfl rfl)
theorem dX2_meets_17 : decode cX2_meets 17 = .ok (.i2l, 1) := dk_133 (dk_at dksX2_meets_0 17 rfl rfl)
theorem dX2_meets_18 : decode cX2_meets 18 = .ok (.invokestatic 327, 3) := dk_184 1 71 (dk_at dksX2_meets_0 18 rfl rfl)
theorem dX2_meets_21 : decode cX2_meets 21 = .ok (.lrem, 1) := dk_113 (dk_at dksX2_meets_0 21 rfl rfl)
theorem dX2_meets_22 : decode cX2_meets 22 = .ok (.lconst 0, 1) := dk_9 (dk_at dksX2_meets_0 22 rfl rfl)
theorem dX2_meets_23 : decode cX2_meets 23 = .ok (.lcmp, 1) := dk_148 (dk_at dksX2_meets_0 23 rfl rfl)
theorem dX2_meets_24 : decode cX2_meets 24 = .ok (.ifCond .ne 7, 3) := dk_154 0 7 (dk_at dksX2_meets_1 0 rfl rfl)
theorem dX2_meets_27 : decode cX2_meets 27 = .ok (.iconst 1, 1) := dk_4 (dk_at dksX2_meets_1 3 rfl rfl)
theorem dX2_meets_28 : decode cX2_meets 28 = .ok (.goto 4, 3) := dk_167 0 4 (dk_at dksX2_meets_1 4 rfl rfl)
theorem dX2_meets_31 : decode cX2_meets 31 = .ok (.iconst 0, 1) := dk_3 (dk_at dksX2_meets_1 7 rfl rfl)
theorem dX2_meets_32 : decode cX2_meets 32 = .ok (.ireturn, 1) := dk_172 (dk_at dksX2_meets_1 8 rfl rfl)
abbrev cX2_isChild : ByteArray := prog_17_method_116_code
def yX2_isChild : MethodName := ⟨RX2, "isChild", "(III)Z"⟩
def dkwX2_isChild_1 : List UInt8 := [27, 28, 21, 4, 182, 1, 190, 153, 0, 5, 3, 172, 132, 4, 1, 167, 255, 220, 4, 172]
abbrev dktX2_isChild_1 : List UInt8 := dkwX2_isChild_1 ++ []
def dkwX2_isChild_0 : List UInt8 := [3, 54, 4, 21, 4, 42, 180, 0, 7, 3, 46, 162, 0, 31, 29, 21, 4, 184, 1, 54, 153, 0, 16, 42]
abbrev dktX2_isChild_0 : List UInt8 := dkwX2_isChild_0 ++ dktX2_isChild_1
theorem dksX2_isChild_0 : cX2_isChild.data.toList.drop 0 = dktX2_isChild_0 := by decide +kernel
theorem dksX2_isChild_1 : cX2_isChild.data.toList.drop 24 = dktX2_isChild_1 := dk_seg dksX2_isChild_0 24 rfl rfl
theorem dX2_isChild_0 : decode cX2_isChild 0 = .ok (.iconst 0, 1) := dk_3 (dk_at dksX2_isChild_0 0 rfl rfl)
theorem dX2_isChild_1 : decode cX2_isChild 1 = .ok (.istore 4, 2) := dk_54 4 (dk_at dksX2_isChild_0 1 rfl rfl)
theorem dX2_isChild_3 : decode cX2_isChild 3 = .ok (.iload 4, 2) := dk_21 4 (dk_at dksX2_isChild_0 3 rfl rfl)
theorem dX2_isChild_5 : decode cX2_isChild 5 = .ok (.aload_n 0, 1) := dk_42 (dk_at dksX2_isChild_0 5 rfl rfl)
theorem dX2_isChild_6 : decode cX2_isChild 6 = .ok (.getfield 7, 3) := dk_180 0 7 (dk_at dksX2_isChild_0 6 rfl rfl)
theorem dX2_isChild_9 : decode cX2_isChild 9 = .ok (.iconst 0, 1) := dk_3 (dk_at dksX2_isChild_0 9 rfl rfl)
theorem dX2_isChild_10 : decode cX2_isChild 10 = .ok (.iaload, 1) := dk_46 (dk_at dksX2_isChild_0 10 rfl rfl)
theorem dX2_isChild_11 : decode cX2_isChild 11 = .ok (.if_icmp .ge 31, 3) := dk_162 0 31 (dk_at dksX2_isChild_0 11 rfl rfl)
theorem dX2_isChild_14 : decode cX2_isChild 14 = .ok (.iload_n 3, 1) := dk_29 (dk_at dksX2_isChild_0 14 rfl rfl)
theorem dX2_isChild_15 : decode cX2_isChild 15 = .ok (.iload 4, 2) := dk_21 4 (dk_at dksX2_isChild_0 15 rfl rfl)
theorem dX2_isChild_17 : decode cX2_isChild 17 = .ok (.invokestatic 310, 3) := dk_184 1 54 (dk_at dksX2_isChild_0 17 rfl rfl)
theorem dX2_isChild_20 : decode cX2_isChild 20 = .ok (.ifCond .eq 16, 3) := dk_153 0 16 (dk_at dksX2_isChild_0 20 rfl rfl)
theorem dX2_isChild_23 : decode cX2_isChild 23 = .ok (.aload_n 0, 1) := dk_42 (dk_at dksX2_isChild_0 23 rfl rfl)
theorem dX2_isChild_24 : decode cX2_isChild 24 = .ok (.iload_n 1, 1) := dk_27 (dk_at dksX2_isChild_1 0 rfl rfl)
theorem dX2_isChild_25 : decode cX2_isChild 25 = .ok (.iload_n 2, 1) := dk_28 (dk_at dksX2_isChild_1 1 rfl rfl)
theorem dX2_isChild_26 : decode cX2_isChild 26 = .ok (.iload 4, 2) := dk_21 4 (dk_at dksX2_isChild_1 2 rfl rfl)
theorem dX2_isChild_28 : decode cX2_isChild 28 = .ok (.invokevirtual 446, 3) := dk_182 1 190 (dk_at dksX2_isChild_1 4 rfl rfl)
theorem dX2_isChild_31 : decode cX2_isChild 31 = .ok (.ifCond .eq 5, 3) := dk_153 0 5 (dk_at dksX2_isChild_1 7 rfl rfl)
theorem dX2_isChild_34 : decode cX2_isChild 34 = .ok (.iconst 0, 1) := dk_3 (dk_at dksX2_isChild_1 10 rfl rfl)
theorem dX2_isChild_35 : decode cX2_isChild 35 = .ok (.ireturn, 1) := dk_172 (dk_at dksX2_isChild_1 11 rfl rfl)
theorem dX2_isChild_36 : decode cX2_isChild 36 = .ok (.iinc 4 1, 3) := dk_132 4 1 (dk_at dksX2_isChild_1 12 rfl rfl)
theorem dX2_isChild_39 : decode cX2_isChild 39 = .ok (.goto (-36), 3) := dk_167 255 220 (dk_at dksX2_isChild_1 15 rfl rfl)
theorem dX2_isChild_42 : decode cX2_isChild 42 = .ok (.iconst 1, 1) := dk_4 (dk_at dksX2_isChild_1 18 rfl rfl)
theorem dX2_isChild_43 : decode cX2_isChild 43 = .ok (.ireturn, 1) := dk_172 (dk_at dksX2_isChild_1 19 rfl rfl)
abbrev cX2_pairs : ByteArray := prog_17_method_120_code
def yX2_pairs : MethodName := ⟨RX2, "pairs", "(III)I"⟩
def dkwX2_pairs_6 : List UInt8 := [54, 6, 167, 255, 196]
abbrev dktX2_pairs_6 : List UInt8 := dkwX2_pairs_6 ++ []
def dkwX2_pairs_5 : List UInt8 := [21, 8, 167, 0, 5, 21, 7, 172, 21, 6, 4, 21, 7, 120, 2, 130, 126, 4, 21, 8, 120, 2, 130, 126]
abbrev dktX2_pairs_5 : List UInt8 := dkwX2_pairs_5 ++ dktX2_pairs_6
def dkwX2_pairs_4 : List UInt8 := [21, 6, 46, 54, 8, 21, 7, 29, 159, 0, 9, 21, 8, 29, 160, 0, 17, 21, 7, 29, 160, 0, 8]
abbrev dktX2_pairs_4 : List UInt8 := dkwX2_pairs_4 ++ dktX2_pairs_5
def dkwX2_pairs_3 : List UInt8 := [55, 4, 29, 156, 0, 7, 22, 4, 136, 172, 27, 54, 6, 21, 6, 184, 1, 141, 54, 7, 42, 180, 0, 94]
abbrev dktX2_pairs_3 : List UInt8 := dkwX2_pairs_3 ++ dktX2_pairs_4
def dkwX2_pairs_2 : List UInt8 := [153, 0, 11, 27, 29, 184, 1, 54, 154, 0, 5, 2, 172, 42, 182, 1, 60, 42, 27, 28, 182, 1, 199]
abbrev dktX2_pairs_2 : List UInt8 := dkwX2_pairs_2 ++ dktX2_pairs_3
def dkwX2_pairs_1 : List UInt8 := [159, 0, 34, 28, 4, 18, 147, 184, 0, 104, 153, 0, 24, 29, 2, 159, 0, 21, 42, 29, 182, 0, 114]
abbrev dktX2_pairs_1 : List UInt8 := dkwX2_pairs_1 ++ dktX2_pairs_2
def dkwX2_pairs_0 : List UInt8 := [42, 27, 182, 1, 96, 153, 0, 53, 27, 184, 1, 144, 16, 8, 163, 0, 44, 27, 184, 1, 144, 5, 112, 4]
abbrev dktX2_pairs_0 : List UInt8 := dkwX2_pairs_0 ++ dktX2_pairs_1
theorem dksX2_pairs_0 : cX2_pairs.data.toList.drop 0 = dktX2_pairs_0 := by decide +kernel
theorem dksX2_pairs_1 : cX2_pairs.data.toList.drop 24 = dktX2_pairs_1 := dk_seg dksX2_pairs_0 24 rfl rfl
theorem dksX2_pairs_2 : cX2_pairs.data.toList.drop 47 = dktX2_pairs_2 := dk_seg dksX2_pairs_1 23 rfl rfl
theorem dksX2_pairs_3 : cX2_pairs.data.toList.drop 70 = dktX2_pairs_3 := dk_seg dksX2_pairs_2 23 rfl rfl
theorem dksX2_pairs_4 : cX2_pairs.data.toList.drop 94 = dktX2_pairs_4 := dk_seg dksX2_pairs_3 24 rfl rfl
theorem dksX2_pairs_5 : cX2_pairs.data.toList.drop 117 = dktX2_pairs_5 := dk_seg dksX2_pairs_4 23 rfl rfl
theorem dksX2_pairs_6 : cX2_pairs.data.toList.drop 141 = dktX2_pairs_6 := dk_seg dksX2_pairs_5 24 rfl rfl
theorem dX2_pairs_0 : decode cX2_pairs 0 = .ok (.aload_n 0, 1) := dk_42 (dk_at dksX2_pairs_0 0 rfl rfl)
theorem dX2_pairs_1 : decode cX2_pairs 1 = .ok (.iload_n 1, 1) := dk_27 (dk_at dksX2_pairs_0 1 rfl rfl)
theorem dX2_pairs_2 : decode cX2_pairs 2 = .ok (.invokevirtual 352, 3) := dk_182 1 96 (dk_at dksX2_pairs_0 2 rfl rfl)
theorem dX2_pairs_5 : decode cX2_pairs 5 = .ok (.ifCond .eq 53, 3) := dk_153 0 53 (dk_at dksX2_pairs_0 5 rfl rfl)
theorem dX2_pairs_8 : decode cX2_pairs 8 = .ok (.iload_n 1, 1) := dk_27 (dk_at dksX2_pairs_0 8 rfl rfl)
theorem dX2_pairs_9 : decode cX2_pairs 9 = .ok (.invokestatic 400, 3) := dk_184 1 144 (dk_at dksX2_pairs_0 9 rfl rfl)
theorem dX2_pairs_12 : decode cX2_pairs 12 = .ok (.bipush 8, 2) := dk_16 8 (dk_at dksX2_pairs_0 12 rfl rfl)
theorem dX2_pairs_14 : decode cX2_pairs 14 = .ok (.if_icmp .gt 44, 3) := dk_163 0 44 (dk_at dksX2_pairs_0 14 rfl rfl)
theorem dX2_pairs_17 : decode cX2_pairs 17 = .ok (.iload_n 1, 1) := dk_27 (dk_at dksX2_pairs_0 17 rfl rfl)
theorem dX2_pairs_18 : decode cX2_pairs 18 = .ok (.invokestatic 400, 3) := dk_184 1 144 (dk_at dksX2_pairs_0 18 rfl rfl)
theorem dX2_pairs_21 : decode cX2_pairs 21 = .ok (.iconst 2, 1) := dk_5 (dk_at dksX2_pairs_0 21 rfl rfl)
theorem dX2_pairs_22 : decode cX2_pairs 22 = .ok (.irem, 1) := dk_112 (dk_at dksX2_pairs_0 22 rfl rfl)
theorem dX2_pairs_23 : decode cX2_pairs 23 = .ok (.iconst 1, 1) := dk_4 (dk_at dksX2_pairs_0 23 rfl rfl)
theorem dX2_pairs_24 : decode cX2_pairs 24 = .ok (.if_icmp .eq 34, 3) := dk_159 0 34 (dk_at dksX2_pairs_1 0 rfl rfl)
theorem dX2_pairs_27 : decode cX2_pairs 27 = .ok (.iload_n 2, 1) := dk_28 (dk_at dksX2_pairs_1 3 rfl rfl)
theorem dX2_pairs_28 : decode cX2_pairs 28 = .ok (.iconst 1, 1) := dk_4 (dk_at dksX2_pairs_1 4 rfl rfl)
theorem dX2_pairs_29 : decode cX2_pairs 29 = .ok (.ldc 147, 2) := dk_18 147 (dk_at dksX2_pairs_1 5 rfl rfl)
theorem dX2_pairs_31 : decode cX2_pairs 31 = .ok (.invokestatic 104, 3) := dk_184 0 104 (dk_at dksX2_pairs_1 7 rfl rfl)
theorem dX2_pairs_34 : decode cX2_pairs 34 = .ok (.ifCond .eq 24, 3) := dk_153 0 24 (dk_at dksX2_pairs_1 10 rfl rfl)
theorem dX2_pairs_37 : decode cX2_pairs 37 = .ok (.iload_n 3, 1) := dk_29 (dk_at dksX2_pairs_1 13 rfl rfl)
theorem dX2_pairs_38 : decode cX2_pairs 38 = .ok (.iconst (-1), 1) := dk_2 (dk_at dksX2_pairs_1 14 rfl rfl)
theorem dX2_pairs_39 : decode cX2_pairs 39 = .ok (.if_icmp .eq 21, 3) := dk_159 0 21 (dk_at dksX2_pairs_1 15 rfl rfl)
theorem dX2_pairs_42 : decode cX2_pairs 42 = .ok (.aload_n 0, 1) := dk_42 (dk_at dksX2_pairs_1 18 rfl rfl)
theorem dX2_pairs_43 : decode cX2_pairs 43 = .ok (.iload_n 3, 1) := dk_29 (dk_at dksX2_pairs_1 19 rfl rfl)
theorem dX2_pairs_44 : decode cX2_pairs 44 = .ok (.invokevirtual 114, 3) := dk_182 0 114 (dk_at dksX2_pairs_1 20 rfl rfl)
theorem dX2_pairs_47 : decode cX2_pairs 47 = .ok (.ifCond .eq 11, 3) := dk_153 0 11 (dk_at dksX2_pairs_2 0 rfl rfl)
theorem dX2_pairs_50 : decode cX2_pairs 50 = .ok (.iload_n 1, 1) := dk_27 (dk_at dksX2_pairs_2 3 rfl rfl)
theorem dX2_pairs_51 : decode cX2_pairs 51 = .ok (.iload_n 3, 1) := dk_29 (dk_at dksX2_pairs_2 4 rfl rfl)
theorem dX2_pairs_52 : decode cX2_pairs 52 = .ok (.invokestatic 310, 3) := dk_184 1 54 (dk_at dksX2_pairs_2 5 rfl rfl)
theorem dX2_pairs_55 : decode cX2_pairs 55 = .ok (.ifCond .ne 5, 3) := dk_154 0 5 (dk_at dksX2_pairs_2 8 rfl rfl)
theorem dX2_pairs_58 : decode cX2_pairs 58 = .ok (.iconst (-1), 1) := dk_2 (dk_at dksX2_pairs_2 11 rfl rfl)
theorem dX2_pairs_59 : decode cX2_pairs 59 = .ok (.ireturn, 1) := dk_172 (dk_at dksX2_pairs_2 12 rfl rfl)
theorem dX2_pairs_60 : decode cX2_pairs 60 = .ok (.aload_n 0, 1) := dk_42 (dk_at dksX2_pairs_2 13 rfl rfl)
theorem dX2_pairs_61 : decode cX2_pairs 61 = .ok (.invokevirtual 316, 3) := dk_182 1 60 (dk_at dksX2_pairs_2 14 rfl rfl)
theorem dX2_pairs_64 : decode cX2_pairs 64 = .ok (.aload_n 0, 1) := dk_42 (dk_at dksX2_pairs_2 17 rfl rfl)
theorem dX2_pairs_65 : decode cX2_pairs 65 = .ok (.iload_n 1, 1) := dk_27 (dk_at dksX2_pairs_2 18 rfl rfl)
theorem dX2_pairs_66 : decode cX2_pairs 66 = .ok (.iload_n 2, 1) := dk_28 (dk_at dksX2_pairs_2 19 rfl rfl)
theorem dX2_pairs_67 : decode cX2_pairs 67 = .ok (.invokevirtual 455, 3) := dk_182 1 199 (dk_at dksX2_pairs_2 20 rfl rfl)
theorem dX2_pairs_70 : decode cX2_pairs 70 = .ok (.lstore 4, 2) := dk_55 4 (dk_at dksX2_pairs_3 0 rfl rfl)
theorem dX2_pairs_72 : decode cX2_pairs 72 = .ok (.iload_n 3, 1) := dk_29 (dk_at dksX2_pairs_3 2 rfl rfl)
theorem dX2_pairs_73 : decode cX2_pairs 73 = .ok (.ifCond .ge 7, 3) := dk_156 0 7 (dk_at dksX2_pairs_3 3 rfl rfl)
theorem dX2_pairs_76 : decode cX2_pairs 76 = .ok (.lload 4, 2) := dk_22 4 (dk_at dksX2_pairs_3 6 rfl rfl)
theorem dX2_pairs_78 : decode cX2_pairs 78 = .ok (.l2i, 1) := dk_136 (dk_at dksX2_pairs_3 8 rfl rfl)
theorem dX2_pairs_79 : decode cX2_pairs 79 = .ok (.ireturn, 1) := dk_172 (dk_at dksX2_pairs_3 9 rfl rfl)
theorem dX2_pairs_80 : decode cX2_pairs 80 = .ok (.iload_n 1, 1) := dk_27 (dk_at dksX2_pairs_3 10 rfl rfl)
theorem dX2_pairs_81 : decode cX2_pairs 81 = .ok (.istore 6, 2) := dk_54 6 (dk_at dksX2_pairs_3 11 rfl rfl)
theorem dX2_pairs_83 : decode cX2_pairs 83 = .ok (.iload 6, 2) := dk_21 6 (dk_at dksX2_pairs_3 13 rfl rfl)
theorem dX2_pairs_85 : decode cX2_pairs 85 = .ok (.invokestatic 397, 3) := dk_184 1 141 (dk_at dksX2_pairs_3 15 rfl rfl)
theorem dX2_pairs_88 : decode cX2_pairs 88 = .ok (.istore 7, 2) := dk_54 7 (dk_at dksX2_pairs_3 18 rfl rfl)
theorem dX2_pairs_90 : decode cX2_pairs 90 = .ok (.aload_n 0, 1) := dk_42 (dk_at dksX2_pairs_3 20 rfl rfl)
theorem dX2_pairs_91 : decode cX2_pairs 91 = .ok (.getfield 94, 3) := dk_180 0 94 (dk_at dksX2_pairs_3 21 rfl rfl)
theorem dX2_pairs_94 : decode cX2_pairs 94 = .ok (.iload 6, 2) := dk_21 6 (dk_at dksX2_pairs_4 0 rfl rfl)
theorem dX2_pairs_96 : decode cX2_pairs 96 = .ok (.iaload, 1) := dk_46 (dk_at dksX2_pairs_4 2 rfl rfl)
theorem dX2_pairs_97 : decode cX2_pairs 97 = .ok (.istore 8, 2) := dk_54 8 (dk_at dksX2_pairs_4 3 rfl rfl)
theorem dX2_pairs_99 : decode cX2_pairs 99 = .ok (.iload 7, 2) := dk_21 7 (dk_at dksX2_pairs_4 5 rfl rfl)
theorem dX2_pairs_101 : decode cX2_pairs 101 = .ok (.iload_n 3, 1) := dk_29 (dk_at dksX2_pairs_4 7 rfl rfl)
theorem dX2_pairs_102 : decode cX2_pairs 102 = .ok (.if_icmp .eq 9, 3) := dk_159 0 9 (dk_at dksX2_pairs_4 8 rfl rfl)
theorem dX2_pairs_105 : decode cX2_pairs 105 = .ok (.iload 8, 2) := dk_21 8 (dk_at dksX2_pairs_4 11 rfl rfl)
theorem dX2_pairs_107 : decode cX2_pairs 107 = .ok (.iload_n 3, 1) := dk_29 (dk_at dksX2_pairs_4 13 rfl rfl)
theorem dX2_pairs_108 : decode cX2_pairs 108 = .ok (.if_icmp .ne 17, 3) := dk_160 0 17 (dk_at dksX2_pairs_4 14 rfl rfl)
theorem dX2_pairs_111 : decode cX2_pairs 111 = .ok (.iload 7, 2) := dk_21 7 (dk_at dksX2_pairs_4 17 rfl rfl)
theorem dX2_pairs_113 : decode cX2_pairs 113 = .ok (.iload_n 3, 1) := dk_29 (dk_at dksX2_pairs_4 19 rfl rfl)
theorem dX2_pairs_114 : decode cX2_pairs 114 = .ok (.if_icmp .ne 8, 3) := dk_160 0 8 (dk_at dksX2_pairs_4 20 rfl rfl)
theorem dX2_pairs_117 : decode cX2_pairs 117 = .ok (.iload 8, 2) := dk_21 8 (dk_at dksX2_pairs_5 0 rfl rfl)
theorem dX2_pairs_119 : decode cX2_pairs 119 = .ok (.goto 5, 3) := dk_167 0 5 (dk_at dksX2_pairs_5 2 rfl rfl)
theorem dX2_pairs_122 : decode cX2_pairs 122 = .ok (.iload 7, 2) := dk_21 7 (dk_at dksX2_pairs_5 5 rfl rfl)
theorem dX2_pairs_124 : decode cX2_pairs 124 = .ok (.ireturn, 1) := dk_172 (dk_at dksX2_pairs_5 7 rfl rfl)
theorem dX2_pairs_125 : decode cX2_pairs 125 = .ok (.iload 6, 2) := dk_21 6 (dk_at dksX2_pairs_5 8 rfl rfl)
theorem dX2_pairs_127 : decode cX2_pairs 127 = .ok (.iconst 1, 1) := dk_4 (dk_at dksX2_pairs_5 10 rfl rfl)
theorem dX2_pairs_128 : decode cX2_pairs 128 = .ok (.iload 7, 2) := dk_21 7 (dk_at dksX2_pairs_5 11 rfl rfl)
theorem dX2_pairs_130 : decode cX2_pairs 130 = .ok (.ishl, 1) := dk_120 (dk_at dksX2_pairs_5 13 rfl rfl)
theorem dX2_pairs_131 : decode cX2_pairs 131 = .ok (.iconst (-1), 1) := dk_2 (dk_at dksX2_pairs_5 14 rfl rfl)
theorem dX2_pairs_132 : decode cX2_pairs 132 = .ok (.ixor, 1) := dk_130 (dk_at dksX2_pairs_5 15 rfl rfl)
theorem dX2_pairs_133 : decode cX2_pairs 133 = .ok (.iand, 1) := dk_126 (dk_at dksX2_pairs_5 16 rfl rfl)
theorem dX2_pairs_134 : decode cX2_pairs 134 = .ok (.iconst 1, 1) := dk_4 (dk_at dksX2_pairs_5 17 rfl rfl)
theorem dX2_pairs_135 : decode cX2_pairs 135 = .ok (.iload 8, 2) := dk_21 8 (dk_at dksX2_pairs_5 18 rfl rfl)
theorem dX2_pairs_137 : decode cX2_pairs 137 = .ok (.ishl, 1) := dk_120 (dk_at dksX2_pairs_5 20 rfl rfl)
theorem dX2_pairs_138 : decode cX2_pairs 138 = .ok (.iconst (-1), 1) := dk_2 (dk_at dksX2_pairs_5 21 rfl rfl)
theorem dX2_pairs_139 : decode cX2_pairs 139 = .ok (.ixor, 1) := dk_130 (dk_at dksX2_pairs_5 22 rfl rfl)
theorem dX2_pairs_140 : decode cX2_pairs 140 = .ok (.iand, 1) := dk_126 (dk_at dksX2_pairs_5 23 rfl rfl)
theorem dX2_pairs_141 : decode cX2_pairs 141 = .ok (.istore 6, 2) := dk_54 6 (dk_at dksX2_pairs_6 0 rfl rfl)
theorem dX2_pairs_143 : decode cX2_pairs 143 = .ok (.goto (-60), 3) := dk_167 255 196 (dk_at dksX2_pairs_6 2 rfl rfl)
abbrev cX2_pairsOf : ByteArray := prog_17_method_119_code
def yX2_pairsOf : MethodName := ⟨RX2, "pairsOf", "(II)J"⟩
def dkwX2_pairsOf_5 : List UInt8 := [42, 29, 182, 1, 196, 132, 3, 1, 167, 255, 226, 42, 180, 0, 91, 27, 47, 173]
abbrev dktX2_pairsOf_5 : List UInt8 := dkwX2_pairsOf_5 ++ []
def dkwX2_pairsOf_4 : List UInt8 := [4, 62, 29, 27, 163, 0, 31, 29, 27, 2, 130, 126, 154, 0, 17, 29, 184, 1, 144, 5, 112, 154, 0, 8]
abbrev dktX2_pairsOf_4 : List UInt8 := dkwX2_pairsOf_4 ++ dktX2_pairsOf_5
def dkwX2_pairsOf_3 : List UInt8 := [167, 0, 4, 9, 80, 132, 4, 1, 167, 255, 194, 132, 3, 1, 167, 255, 173, 42, 180, 0, 91, 3, 9, 80]
abbrev dktX2_pairsOf_3 : List UInt8 := dkwX2_pairsOf_3 ++ dktX2_pairsOf_4
def dkwX2_pairsOf_2 : List UInt8 := [21, 4, 184, 1, 54, 153, 0, 21, 42, 4, 29, 120, 4, 21, 4, 120, 128, 9, 28, 133, 182, 1, 126]
abbrev dktX2_pairsOf_2 : List UInt8 := dkwX2_pairsOf_2 ++ dktX2_pairsOf_3
def dkwX2_pairsOf_1 : List UInt8 := [46, 162, 0, 57, 42, 180, 0, 97, 16, 12, 29, 104, 21, 4, 96, 27, 29, 184, 1, 54, 153, 0, 30, 27]
abbrev dktX2_pairsOf_1 : List UInt8 := dkwX2_pairsOf_1 ++ dktX2_pairsOf_2
def dkwX2_pairsOf_0 : List UInt8 := [3, 62, 29, 42, 180, 0, 7, 3, 46, 162, 0, 79, 29, 4, 96, 54, 4, 21, 4, 42, 180, 0, 7, 3]
abbrev dktX2_pairsOf_0 : List UInt8 := dkwX2_pairsOf_0 ++ dktX2_pairsOf_1
theorem dksX2_pairsOf_0 : cX2_pairsOf.data.toList.drop 0 = dktX2_pairsOf_0 := by decide +kernel
theorem dksX2_pairsOf_1 : cX2_pairsOf.data.toList.drop 24 = dktX2_pairsOf_1 := dk_seg dksX2_pairsOf_0 24 rfl rfl
theorem dksX2_pairsOf_2 : cX2_pairsOf.data.toList.drop 48 = dktX2_pairsOf_2 := dk_seg dksX2_pairsOf_1 24 rfl rfl
theorem dksX2_pairsOf_3 : cX2_pairsOf.data.toList.drop 71 = dktX2_pairsOf_3 := dk_seg dksX2_pairsOf_2 23 rfl rfl
theorem dksX2_pairsOf_4 : cX2_pairsOf.data.toList.drop 95 = dktX2_pairsOf_4 := dk_seg dksX2_pairsOf_3 24 rfl rfl
theorem dksX2_pairsOf_5 : cX2_pairsOf.data.toList.drop 119 = dktX2_pairsOf_5 := dk_seg dksX2_pairsOf_4 24 rfl rfl
theorem dX2_pairsOf_0 : decode cX2_pairsOf 0 = .ok (.iconst 0, 1) := dk_3 (dk_at dksX2_pairsOf_0 0 rfl rfl)
theorem dX2_pairsOf_1 : decode cX2_pairsOf 1 = .ok (.istore_n 3, 1) := dk_62 (dk_at dksX2_pairsOf_0 1 rfl rfl)
theorem dX2_pairsOf_2 : decode cX2_pairsOf 2 = .ok (.iload_n 3, 1) := dk_29 (dk_at dksX2_pairsOf_0 2 rfl rfl)
theorem dX2_pairsOf_3 : decode cX2_pairsOf 3 = .ok (.aload_n 0, 1) := dk_42 (dk_at dksX2_pairsOf_0 3 rfl rfl)
theorem dX2_pairsOf_4 : decode cX2_pairsOf 4 = .ok (.getfield 7, 3) := dk_180 0 7 (dk_at dksX2_pairsOf_0 4 rfl rfl)
theorem dX2_pairsOf_7 : decode cX2_pairsOf 7 = .ok (.iconst 0, 1) := dk_3 (dk_at dksX2_pairsOf_0 7 rfl rfl)
theorem dX2_pairsOf_8 : decode cX2_pairsOf 8 = .ok (.iaload, 1) := dk_46 (dk_at dksX2_pairsOf_0 8 rfl rfl)
theorem dX2_pairsOf_9 : decode cX2_pairsOf 9 = .ok (.if_icmp .ge 79, 3) := dk_162 0 79 (dk_at dksX2_pairsOf_0 9 rfl rfl)
theorem dX2_pairsOf_12 : decode cX2_pairsOf 12 = .ok (.iload_n 3, 1) := dk_29 (dk_at dksX2_pairsOf_0 12 rfl rfl)
theorem dX2_pairsOf_13 : decode cX2_pairsOf 13 = .ok (.iconst 1, 1) := dk_4 (dk_at dksX2_pairsOf_0 13 rfl rfl)
theorem dX2_pairsOf_14 : decode cX2_pairsOf 14 = .ok (.iadd, 1) := dk_96 (dk_at dksX2_pairsOf_0 14 rfl rfl)
theorem dX2_pairsOf_15 : decode cX2_pairsOf 15 = .ok (.istore 4, 2) := dk_54 4 (dk_at dksX2_pairsOf_0 15 rfl rfl)
theorem dX2_pairsOf_17 : decode cX2_pairsOf 17 = .ok (.iload 4, 2) := dk_21 4 (dk_at dksX2_pairsOf_0 17 rfl rfl)
theorem dX2_pairsOf_19 : decode cX2_pairsOf 19 = .ok (.aload_n 0, 1) := dk_42 (dk_at dksX2_pairsOf_0 19 rfl rfl)
theorem dX2_pairsOf_20 : decode cX2_pairsOf 20 = .ok (.getfield 7, 3) := dk_180 0 7 (dk_at dksX2_pairsOf_0 20 rfl rfl)
theorem dX2_pairsOf_23 : decode cX2_pairsOf 23 = .ok (.iconst 0, 1) := dk_3 (dk_at dksX2_pairsOf_0 23 rfl rfl)
theorem dX2_pairsOf_24 : decode cX2_pairsOf 24 = .ok (.iaload, 1) := dk_46 (dk_at dksX2_pairsOf_1 0 rfl rfl)
theorem dX2_pairsOf_25 : decode cX2_pairsOf 25 = .ok (.if_icmp .ge 57, 3) := dk_162 0 57 (dk_at dksX2_pairsOf_1 1 rfl rfl)
theorem dX2_pairsOf_28 : decode cX2_pairsOf 28 = .ok (.aload_n 0, 1) := dk_42 (dk_at dksX2_pairsOf_1 4 rfl rfl)
theorem dX2_pairsOf_29 : decode cX2_pairsOf 29 = .ok (.getfield 97, 3) := dk_180 0 97 (dk_at dksX2_pairsOf_1 5 rfl rfl)
theorem dX2_pairsOf_32 : decode cX2_pairsOf 32 = .ok (.bipush 12, 2) := dk_16 12 (dk_at dksX2_pairsOf_1 8 rfl rfl)
theorem dX2_pairsOf_34 : decode cX2_pairsOf 34 = .ok (.iload_n 3, 1) := dk_29 (dk_at dksX2_pairsOf_1 10 rfl rfl)
theorem dX2_pairsOf_35 : decode cX2_pairsOf 35 = .ok (.imul, 1) := dk_104 (dk_at dksX2_pairsOf_1 11 rfl rfl)
theorem dX2_pairsOf_36 : decode cX2_pairsOf 36 = .ok (.iload 4, 2) := dk_21 4 (dk_at dksX2_pairsOf_1 12 rfl rfl)
theorem dX2_pairsOf_38 : decode cX2_pairsOf 38 = .ok (.iadd, 1) := dk_96 (dk_at dksX2_pairsOf_1 14 rfl rfl)
theorem dX2_pairsOf_39 : decode cX2_pairsOf 39 = .ok (.iload_n 1, 1) := dk_27 (dk_at dksX2_pairsOf_1 15 rfl rfl)
theorem dX2_pairsOf_40 : decode cX2_pairsOf 40 = .ok (.iload_n 3, 1) := dk_29 (dk_at dksX2_pairsOf_1 16 rfl rfl)
theorem dX2_pairsOf_41 : decode cX2_pairsOf 41 = .ok (.invokestatic 310, 3) := dk_184 1 54 (dk_at dksX2_pairsOf_1 17 rfl rfl)
theorem dX2_pairsOf_44 : decode cX2_pairsOf 44 = .ok (.ifCond .eq 30, 3) := dk_153 0 30 (dk_at dksX2_pairsOf_1 20 rfl rfl)
theorem dX2_pairsOf_47 : decode cX2_pairsOf 47 = .ok (.iload_n 1, 1) := dk_27 (dk_at dksX2_pairsOf_1 23 rfl rfl)
theorem dX2_pairsOf_48 : decode cX2_pairsOf 48 = .ok (.iload 4, 2) := dk_21 4 (dk_at dksX2_pairsOf_2 0 rfl rfl)
theorem dX2_pairsOf_50 : decode cX2_pairsOf 50 = .ok (.invokestatic 310, 3) := dk_184 1 54 (dk_at dksX2_pairsOf_2 2 rfl rfl)
theorem dX2_pairsOf_53 : decode cX2_pairsOf 53 = .ok (.ifCond .eq 21, 3) := dk_153 0 21 (dk_at dksX2_pairsOf_2 5 rfl rfl)
theorem dX2_pairsOf_56 : decode cX2_pairsOf 56 = .ok (.aload_n 0, 1) := dk_42 (dk_at dksX2_pairsOf_2 8 rfl rfl)
theorem dX2_pairsOf_57 : decode cX2_pairsOf 57 = .ok (.iconst 1, 1) := dk_4 (dk_at dksX2_pairsOf_2 9 rfl rfl)
theorem dX2_pairsOf_58 : decode cX2_pairsOf 58 = .ok (.iload_n 3, 1) := dk_29 (dk_at dksX2_pairsOf_2 10 rfl rfl)
theorem dX2_pairsOf_59 : decode cX2_pairsOf 59 = .ok (.ishl, 1) := dk_120 (dk_at dksX2_pairsOf_2 11 rfl rfl)
theorem dX2_pairsOf_60 : decode cX2_pairsOf 60 = .ok (.iconst 1, 1) := dk_4 (dk_at dksX2_pairsOf_2 12 rfl rfl)
theorem dX2_pairsOf_61 : decode cX2_pairsOf 61 = .ok (.iload 4, 2) := dk_21 4 (dk_at dksX2_pairsOf_2 13 rfl rfl)
theorem dX2_pairsOf_63 : decode cX2_pairsOf 63 = .ok (.ishl, 1) := dk_120 (dk_at dksX2_pairsOf_2 15 rfl rfl)
theorem dX2_pairsOf_64 : decode cX2_pairsOf 64 = .ok (.ior, 1) := dk_128 (dk_at dksX2_pairsOf_2 16 rfl rfl)
theorem dX2_pairsOf_65 : decode cX2_pairsOf 65 = .ok (.lconst 0, 1) := dk_9 (dk_at dksX2_pairsOf_2 17 rfl rfl)
theorem dX2_pairsOf_66 : decode cX2_pairsOf 66 = .ok (.iload_n 2, 1) := dk_28 (dk_at dksX2_pairsOf_2 18 rfl rfl)
theorem dX2_pairsOf_67 : decode cX2_pairsOf 67 = .ok (.i2l, 1) := dk_133 (dk_at dksX2_pairsOf_2 19 rfl rfl)
theorem dX2_pairsOf_68 : decode cX2_pairsOf 68 = .ok (.invokevirtual 382, 3) := dk_182 1 126 (dk_at dksX2_pairsOf_2 20 rfl rfl)
theorem dX2_pairsOf_71 : decode cX2_pairsOf 71 = .ok (.goto 4, 3) := dk_167 0 4 (dk_at dksX2_pairsOf_3 0 rfl rfl)
theorem dX2_pairsOf_74 : decode cX2_pairsOf 74 = .ok (.lconst 0, 1) := dk_9 (dk_at dksX2_pairsOf_3 3 rfl rfl)
theorem dX2_pairsOf_75 : decode cX2_pairsOf 75 = .ok (.lastore, 1) := dk_80 (dk_at dksX2_pairsOf_3 4 rfl rfl)
theorem dX2_pairsOf_76 : decode cX2_pairsOf 76 = .ok (.iinc 4 1, 3) := dk_132 4 1 (dk_at dksX2_pairsOf_3 5 rfl rfl)
theorem dX2_pairsOf_79 : decode cX2_pairsOf 79 = .ok (.goto (-62), 3) := dk_167 255 194 (dk_at dksX2_pairsOf_3 8 rfl rfl)
theorem dX2_pairsOf_82 : decode cX2_pairsOf 82 = .ok (.iinc 3 1, 3) := dk_132 3 1 (dk_at dksX2_pairsOf_3 11 rfl rfl)
theorem dX2_pairsOf_85 : decode cX2_pairsOf 85 = .ok (.goto (-83), 3) := dk_167 255 173 (dk_at dksX2_pairsOf_3 14 rfl rfl)
theorem dX2_pairsOf_88 : decode cX2_pairsOf 88 = .ok (.aload_n 0, 1) := dk_42 (dk_at dksX2_pairsOf_3 17 rfl rfl)
theorem dX2_pairsOf_89 : decode cX2_pairsOf 89 = .ok (.getfield 91, 3) := dk_180 0 91 (dk_at dksX2_pairsOf_3 18 rfl rfl)
theorem dX2_pairsOf_92 : decode cX2_pairsOf 92 = .ok (.iconst 0, 1) := dk_3 (dk_at dksX2_pairsOf_3 21 rfl rfl)
theorem dX2_pairsOf_93 : decode cX2_pairsOf 93 = .ok (.lconst 0, 1) := dk_9 (dk_at dksX2_pairsOf_3 22 rfl rfl)
theorem dX2_pairsOf_94 : decode cX2_pairsOf 94 = .ok (.lastore, 1) := dk_80 (dk_at dksX2_pairsOf_3 23 rfl rfl)
theorem dX2_pairsOf_95 : decode cX2_pairsOf 95 = .ok (.iconst 1, 1) := dk_4 (dk_at dksX2_pairsOf_4 0 rfl rfl)
theorem dX2_pairsOf_96 : decode cX2_pairsOf 96 = .ok (.istore_n 3, 1) := dk_62 (dk_at dksX2_pairsOf_4 1 rfl rfl)
theorem dX2_pairsOf_97 : decode cX2_pairsOf 97 = .ok (.iload_n 3, 1) := dk_29 (dk_at dksX2_pairsOf_4 2 rfl rfl)
theorem dX2_pairsOf_98 : decode cX2_pairsOf 98 = .ok (.iload_n 1, 1) := dk_27 (dk_at dksX2_pairsOf_4 3 rfl rfl)
theorem dX2_pairsOf_99 : decode cX2_pairsOf 99 = .ok (.if_icmp .gt 31, 3) := dk_163 0 31 (dk_at dksX2_pairsOf_4 4 rfl rfl)
theorem dX2_pairsOf_102 : decode cX2_pairsOf 102 = .ok (.iload_n 3, 1) := dk_29 (dk_at dksX2_pairsOf_4 7 rfl rfl)
theorem dX2_pairsOf_103 : decode cX2_pairsOf 103 = .ok (.iload_n 1, 1) := dk_27 (dk_at dksX2_pairsOf_4 8 rfl rfl)
theorem dX2_pairsOf_104 : decode cX2_pairsOf 104 = .ok (.iconst (-1), 1) := dk_2 (dk_at dksX2_pairsOf_4 9 rfl rfl)
theorem dX2_pairsOf_105 : decode cX2_pairsOf 105 = .ok (.ixor, 1) := dk_130 (dk_at dksX2_pairsOf_4 10 rfl rfl)
theorem dX2_pairsOf_106 : decode cX2_pairsOf 106 = .ok (.iand, 1) := dk_126 (dk_at dksX2_pairsOf_4 11 rfl rfl)
theorem dX2_pairsOf_107 : decode cX2_pairsOf 107 = .ok (.ifCond .ne 17, 3) := dk_154 0 17 (dk_at dksX2_pairsOf_4 12 rfl rfl)
theorem dX2_pairsOf_110 : decode cX2_pairsOf 110 = .ok (.iload_n 3, 1) := dk_29 (dk_at dksX2_pairsOf_4 15 rfl rfl)
theorem dX2_pairsOf_111 : decode cX2_pairsOf 111 = .ok (.invokestatic 400, 3) := dk_184 1 144 (dk_at dksX2_pairsOf_4 16 rfl rfl)
theorem dX2_pairsOf_114 : decode cX2_pairsOf 114 = .ok (.iconst 2, 1) := dk_5 (dk_at dksX2_pairsOf_4 19 rfl rfl)
theorem dX2_pairsOf_115 : decode cX2_pairsOf 115 = .ok (.irem, 1) := dk_112 (dk_at dksX2_pairsOf_4 20 rfl rfl)
theorem dX2_pairsOf_116 : decode cX2_pairsOf 116 = .ok (.ifCond .ne 8, 3) := dk_154 0 8 (dk_at dksX2_pairsOf_4 21 rfl rfl)
theorem dX2_pairsOf_119 : decode cX2_pairsOf 119 = .ok (.aload_n 0, 1) := dk_42 (dk_at dksX2_pairsOf_5 0 rfl rfl)
theorem dX2_pairsOf_120 : decode cX2_pairsOf 120 = .ok (.iload_n 3, 1) := dk_29 (dk_at dksX2_pairsOf_5 1 rfl rfl)
theorem dX2_pairsOf_121 : decode cX2_pairsOf 121 = .ok (.invokevirtual 452, 3) := dk_182 1 196 (dk_at dksX2_pairsOf_5 2 rfl rfl)
theorem dX2_pairsOf_124 : decode cX2_pairsOf 124 = .ok (.iinc 3 1, 3) := dk_132 3 1 (dk_at dksX2_pairsOf_5 5 rfl rfl)
theorem dX2_pairsOf_127 : decode cX2_pairsOf 127 = .ok (.goto (-30), 3) := dk_167 255 226 (dk_at dksX2_pairsOf_5 8 rfl rfl)
theorem dX2_pairsOf_130 : decode cX2_pairsOf 130 = .ok (.aload_n 0, 1) := dk_42 (dk_at dksX2_pairsOf_5 11 rfl rfl)
theorem dX2_pairsOf_131 : decode cX2_pairsOf 131 = .ok (.getfield 91, 3) := dk_180 0 91 (dk_at dksX2_pairsOf_5 12 rfl rfl)
theorem dX2_pairsOf_134 : decode cX2_pairsOf 134 = .ok (.iload_n 1, 1) := dk_27 (dk_at dksX2_pairsOf_5 15 rfl rfl)
theorem dX2_pairsOf_135 : decode cX2_pairsOf 135 = .ok (.laload, 1) := dk_47 (dk_at dksX2_pairsOf_5 16 rfl rfl)
theorem dX2_pairsOf_136 : decode cX2_pairsOf 136 = .ok (.lreturn, 1) := dk_173 (dk_at dksX2_pairsOf_5 17 rfl rfl)
abbrev cX2_pairUp : ByteArray := prog_17_method_118_code
def yX2_pairUp : MethodName := ⟨RX2, "pairUp", "(I)V"⟩
def dkwX2_pairUp_4 : List UInt8 := [180, 0, 94, 27, 29, 79, 132, 3, 1, 167, 255, 170, 177]
abbrev dktX2_pairUp_4 : List UInt8 := dkwX2_pairUp_4 ++ []
def dkwX2_pairUp_3 : List UInt8 := [22, 4, 42, 180, 0, 91, 27, 47, 148, 157, 0, 6, 167, 0, 18, 42, 180, 0, 91, 27, 22, 4, 80, 42]
abbrev dktX2_pairUp_3 : List UInt8 := dkwX2_pairUp_3 ++ dktX2_pairUp_4
def dkwX2_pairUp_2 : List UInt8 := [96, 47, 42, 180, 0, 91, 27, 4, 28, 120, 2, 130, 126, 4, 29, 120, 2, 130, 126, 47, 97, 55, 4]
abbrev dktX2_pairUp_2 : List UInt8 := dkwX2_pairUp_2 ++ dktX2_pairUp_3
def dkwX2_pairUp_1 : List UInt8 := [46, 162, 0, 82, 27, 29, 184, 1, 54, 154, 0, 6, 167, 0, 65, 42, 180, 0, 97, 16, 12, 28, 104, 29]
abbrev dktX2_pairUp_1 : List UInt8 := dkwX2_pairUp_1 ++ dktX2_pairUp_2
def dkwX2_pairUp_0 : List UInt8 := [27, 184, 1, 141, 61, 42, 180, 0, 91, 27, 20, 1, 94, 80, 28, 4, 96, 62, 29, 42, 180, 0, 7, 3]
abbrev dktX2_pairUp_0 : List UInt8 := dkwX2_pairUp_0 ++ dktX2_pairUp_1
theorem dksX2_pairUp_0 : cX2_pairUp.data.toList.drop 0 = dktX2_pairUp_0 := by decide +kernel
theorem dksX2_pairUp_1 : cX2_pairUp.data.toList.drop 24 = dktX2_pairUp_1 := dk_seg dksX2_pairUp_0 24 rfl rfl
theorem dksX2_pairUp_2 : cX2_pairUp.data.toList.drop 48 = dktX2_pairUp_2 := dk_seg dksX2_pairUp_1 24 rfl rfl
theorem dksX2_pairUp_3 : cX2_pairUp.data.toList.drop 71 = dktX2_pairUp_3 := dk_seg dksX2_pairUp_2 23 rfl rfl
theorem dksX2_pairUp_4 : cX2_pairUp.data.toList.drop 95 = dktX2_pairUp_4 := dk_seg dksX2_pairUp_3 24 rfl rfl
theorem dX2_pairUp_0 : decode cX2_pairUp 0 = .ok (.iload_n 1, 1) := dk_27 (dk_at dksX2_pairUp_0 0 rfl rfl)
theorem dX2_pairUp_1 : decode cX2_pairUp 1 = .ok (.invokestatic 397, 3) := dk_184 1 141 (dk_at dksX2_pairUp_0 1 rfl rfl)
theorem dX2_pairUp_4 : decode cX2_pairUp 4 = .ok (.istore_n 2, 1) := dk_61 (dk_at dksX2_pairUp_0 4 rfl rfl)
theorem dX2_pairUp_5 : decode cX2_pairUp 5 = .ok (.aload_n 0, 1) := dk_42 (dk_at dksX2_pairUp_0 5 rfl rfl)
theorem dX2_pairUp_6 : decode cX2_pairUp 6 = .ok (.getfield 91, 3) := dk_180 0 91 (dk_at dksX2_pairUp_0 6 rfl rfl)
theorem dX2_pairUp_9 : decode cX2_pairUp 9 = .ok (.iload_n 1, 1) := dk_27 (dk_at dksX2_pairUp_0 9 rfl rfl)
theorem dX2_pairUp_10 : decode cX2_pairUp 10 = .ok (.ldc2_w 350, 3) := dk_20 1 94 (dk_at dksX2_pairUp_0 10 rfl rfl)
theorem dX2_pairUp_13 : decode cX2_pairUp 13 = .ok (.lastore, 1) := dk_80 (dk_at dksX2_pairUp_0 13 rfl rfl)
theorem dX2_pairUp_14 : decode cX2_pairUp 14 = .ok (.iload_n 2, 1) := dk_28 (dk_at dksX2_pairUp_0 14 rfl rfl)
theorem dX2_pairUp_15 : decode cX2_pairUp 15 = .ok (.iconst 1, 1) := dk_4 (dk_at dksX2_pairUp_0 15 rfl rfl)
theorem dX2_pairUp_16 : decode cX2_pairUp 16 = .ok (.iadd, 1) := dk_96 (dk_at dksX2_pairUp_0 16 rfl rfl)
theorem dX2_pairUp_17 : decode cX2_pairUp 17 = .ok (.istore_n 3, 1) := dk_62 (dk_at dksX2_pairUp_0 17 rfl rfl)
theorem dX2_pairUp_18 : decode cX2_pairUp 18 = .ok (.iload_n 3, 1) := dk_29 (dk_at dksX2_pairUp_0 18 rfl rfl)
theorem dX2_pairUp_19 : decode cX2_pairUp 19 = .ok (.aload_n 0, 1) := dk_42 (dk_at dksX2_pairUp_0 19 rfl rfl)
theorem dX2_pairUp_20 : decode cX2_pairUp 20 = .ok (.getfield 7, 3) := dk_180 0 7 (dk_at dksX2_pairUp_0 20 rfl rfl)
theorem dX2_pairUp_23 : decode cX2_pairUp 23 = .ok (.iconst 0, 1) := dk_3 (dk_at dksX2_pairUp_0 23 rfl rfl)
theorem dX2_pairUp_24 : decode cX2_pairUp 24 = .ok (.iaload, 1) := dk_46 (dk_at dksX2_pairUp_1 0 rfl rfl)
theorem dX2_pairUp_25 : decode cX2_pairUp 25 = .ok (.if_icmp .ge 82, 3) := dk_162 0 82 (dk_at dksX2_pairUp_1 1 rfl rfl)
theorem dX2_pairUp_28 : decode cX2_pairUp 28 = .ok (.iload_n 1, 1) := dk_27 (dk_at dksX2_pairUp_1 4 rfl rfl)
theorem dX2_pairUp_29 : decode cX2_pairUp 29 = .ok (.iload_n 3, 1) := dk_29 (dk_at dksX2_pairUp_1 5 rfl rfl)
theorem dX2_pairUp_30 : decode cX2_pairUp 30 = .ok (.invokestatic 310, 3) := dk_184 1 54 (dk_at dksX2_pairUp_1 6 rfl rfl)
theorem dX2_pairUp_33 : decode cX2_pairUp 33 = .ok (.ifCond .ne 6, 3) := dk_154 0 6 (dk_at dksX2_pairUp_1 9 rfl rfl)
theorem dX2_pairUp_36 : decode cX2_pairUp 36 = .ok (.goto 65, 3) := dk_167 0 65 (dk_at dksX2_pairUp_1 12 rfl rfl)
theorem dX2_pairUp_39 : decode cX2_pairUp 39 = .ok (.aload_n 0, 1) := dk_42 (dk_at dksX2_pairUp_1 15 rfl rfl)
theorem dX2_pairUp_40 : decode cX2_pairUp 40 = .ok (.getfield 97, 3) := dk_180 0 97 (dk_at dksX2_pairUp_1 16 rfl rfl)
theorem dX2_pairUp_43 : decode cX2_pairUp 43 = .ok (.bipush 12, 2) := dk_16 12 (dk_at dksX2_pairUp_1 19 rfl rfl)
theorem dX2_pairUp_45 : decode cX2_pairUp 45 = .ok (.iload_n 2, 1) := dk_28 (dk_at dksX2_pairUp_1 21 rfl rfl)
theorem dX2_pairUp_46 : decode cX2_pairUp 46 = .ok (.imul, 1) := dk_104 (dk_at dksX2_pairUp_1 22 rfl rfl)
theorem dX2_pairUp_47 : decode cX2_pairUp 47 = .ok (.iload_n 3, 1) := dk_29 (dk_at dksX2_pairUp_1 23 rfl rfl)
theorem dX2_pairUp_48 : decode cX2_pairUp 48 = .ok (.iadd, 1) := dk_96 (dk_at dksX2_pairUp_2 0 rfl rfl)
theorem dX2_pairUp_49 : decode cX2_pairUp 49 = .ok (.laload, 1) := dk_47 (dk_at dksX2_pairUp_2 1 rfl rfl)
theorem dX2_pairUp_50 : decode cX2_pairUp 50 = .ok (.aload_n 0, 1) := dk_42 (dk_at dksX2_pairUp_2 2 rfl rfl)
theorem dX2_pairUp_51 : decode cX2_pairUp 51 = .ok (.getfield 91, 3) := dk_180 0 91 (dk_at dksX2_pairUp_2 3 rfl rfl)
theorem dX2_pairUp_54 : decode cX2_pairUp 54 = .ok (.iload_n 1, 1) := dk_27 (dk_at dksX2_pairUp_2 6 rfl rfl)
theorem dX2_pairUp_55 : decode cX2_pairUp 55 = .ok (.iconst 1, 1) := dk_4 (dk_at dksX2_pairUp_2 7 rfl rfl)
theorem dX2_pairUp_56 : decode cX2_pairUp 56 = .ok (.iload_n 2, 1) := dk_28 (dk_at dksX2_pairUp_2 8 rfl rfl)
theorem dX2_pairUp_57 : decode cX2_pairUp 57 = .ok (.ishl, 1) := dk_120 (dk_at dksX2_pairUp_2 9 rfl rfl)
theorem dX2_pairUp_58 : decode cX2_pairUp 58 = .ok (.iconst (-1), 1) := dk_2 (dk_at dksX2_pairUp_2 10 rfl rfl)
theorem dX2_pairUp_59 : decode cX2_pairUp 59 = .ok (.ixor, 1) := dk_130 (dk_at dksX2_pairUp_2 11 rfl rfl)
theorem dX2_pairUp_60 : decode cX2_pairUp 60 = .ok (.iand, 1) := dk_126 (dk_at dksX2_pairUp_2 12 rfl rfl)
theorem dX2_pairUp_61 : decode cX2_pairUp 61 = .ok (.iconst 1, 1) := dk_4 (dk_at dksX2_pairUp_2 13 rfl rfl)
theorem dX2_pairUp_62 : decode cX2_pairUp 62 = .ok (.iload_n 3, 1) := dk_29 (dk_at dksX2_pairUp_2 14 rfl rfl)
theorem dX2_pairUp_63 : decode cX2_pairUp 63 = .ok (.ishl, 1) := dk_120 (dk_at dksX2_pairUp_2 15 rfl rfl)
theorem dX2_pairUp_64 : decode cX2_pairUp 64 = .ok (.iconst (-1), 1) := dk_2 (dk_at dksX2_pairUp_2 16 rfl rfl)
theorem dX2_pairUp_65 : decode cX2_pairUp 65 = .ok (.ixor, 1) := dk_130 (dk_at dksX2_pairUp_2 17 rfl rfl)
theorem dX2_pairUp_66 : decode cX2_pairUp 66 = .ok (.iand, 1) := dk_126 (dk_at dksX2_pairUp_2 18 rfl rfl)
theorem dX2_pairUp_67 : decode cX2_pairUp 67 = .ok (.laload, 1) := dk_47 (dk_at dksX2_pairUp_2 19 rfl rfl)
theorem dX2_pairUp_68 : decode cX2_pairUp 68 = .ok (.ladd, 1) := dk_97 (dk_at dksX2_pairUp_2 20 rfl rfl)
theorem dX2_pairUp_69 : decode cX2_pairUp 69 = .ok (.lstore 4, 2) := dk_55 4 (dk_at dksX2_pairUp_2 21 rfl rfl)
theorem dX2_pairUp_71 : decode cX2_pairUp 71 = .ok (.lload 4, 2) := dk_22 4 (dk_at dksX2_pairUp_3 0 rfl rfl)
theorem dX2_pairUp_73 : decode cX2_pairUp 73 = .ok (.aload_n 0, 1) := dk_42 (dk_at dksX2_pairUp_3 2 rfl rfl)
theorem dX2_pairUp_74 : decode cX2_pairUp 74 = .ok (.getfield 91, 3) := dk_180 0 91 (dk_at dksX2_pairUp_3 3 rfl rfl)
theorem dX2_pairUp_77 : decode cX2_pairUp 77 = .ok (.iload_n 1, 1) := dk_27 (dk_at dksX2_pairUp_3 6 rfl rfl)
theorem dX2_pairUp_78 : decode cX2_pairUp 78 = .ok (.laload, 1) := dk_47 (dk_at dksX2_pairUp_3 7 rfl rfl)
theorem dX2_pairUp_79 : decode cX2_pairUp 79 = .ok (.lcmp, 1) := dk_148 (dk_at dksX2_pairUp_3 8 rfl rfl)
theorem dX2_pairUp_80 : decode cX2_pairUp 80 = .ok (.ifCond .gt 6, 3) := dk_157 0 6 (dk_at dksX2_pairUp_3 9 rfl rfl)
theorem dX2_pairUp_83 : decode cX2_pairUp 83 = .ok (.goto 18, 3) := dk_167 0 18 (dk_at dksX2_pairUp_3 12 rfl rfl)
theorem dX2_pairUp_86 : decode cX2_pairUp 86 = .ok (.aload_n 0, 1) := dk_42 (dk_at dksX2_pairUp_3 15 rfl rfl)
theorem dX2_pairUp_87 : decode cX2_pairUp 87 = .ok (.getfield 91, 3) := dk_180 0 91 (dk_at dksX2_pairUp_3 16 rfl rfl)
theorem dX2_pairUp_90 : decode cX2_pairUp 90 = .ok (.iload_n 1, 1) := dk_27 (dk_at dksX2_pairUp_3 19 rfl rfl)
theorem dX2_pairUp_91 : decode cX2_pairUp 91 = .ok (.lload 4, 2) := dk_22 4 (dk_at dksX2_pairUp_3 20 rfl rfl)
theorem dX2_pairUp_93 : decode cX2_pairUp 93 = .ok (.lastore, 1) := dk_80 (dk_at dksX2_pairUp_3 22 rfl rfl)
theorem dX2_pairUp_94 : decode cX2_pairUp 94 = .ok (.aload_n 0, 1) := dk_42 (dk_at dksX2_pairUp_3 23 rfl rfl)
theorem dX2_pairUp_95 : decode cX2_pairUp 95 = .ok (.getfield 94, 3) := dk_180 0 94 (dk_at dksX2_pairUp_4 0 rfl rfl)
theorem dX2_pairUp_98 : decode cX2_pairUp 98 = .ok (.iload_n 1, 1) := dk_27 (dk_at dksX2_pairUp_4 3 rfl rfl)
theorem dX2_pairUp_99 : decode cX2_pairUp 99 = .ok (.iload_n 3, 1) := dk_29 (dk_at dksX2_pairUp_4 4 rfl rfl)
theorem dX2_pairUp_100 : decode cX2_pairUp 100 = .ok (.iastore, 1) := dk_79 (dk_at dksX2_pairUp_4 5 rfl rfl)
theorem dX2_pairUp_101 : decode cX2_pairUp 101 = .ok (.iinc 3 1, 3) := dk_132 3 1 (dk_at dksX2_pairUp_4 6 rfl rfl)
theorem dX2_pairUp_104 : decode cX2_pairUp 104 = .ok (.goto (-86), 3) := dk_167 255 170 (dk_at dksX2_pairUp_4 9 rfl rfl)
theorem dX2_pairUp_107 : decode cX2_pairUp 107 = .ok (.return_, 1) := dk_177 (dk_at dksX2_pairUp_4 12 rfl rfl)
abbrev cX2_image : ByteArray := prog_17_method_121_code
def yX2_image : MethodName := ⟨RX2, "image", "()I"⟩
def dkwX2_image_1 : List UInt8 := [42, 180, 0, 16, 27, 47, 80, 132, 1, 1, 167, 255, 235, 42, 180, 0, 7, 3, 46, 172]
abbrev dktX2_image_1 : List UInt8 := dkwX2_image_1 ++ []
def dkwX2_image_0 : List UInt8 := [42, 180, 0, 7, 42, 180, 0, 13, 184, 0, 100, 3, 60, 27, 16, 30, 162, 0, 21, 42, 180, 0, 20, 27]
abbrev dktX2_image_0 : List UInt8 := dkwX2_image_0 ++ dktX2_image_1
theorem dksX2_image_0 : cX2_image.data.toList.drop 0 = dktX2_image_0 := by decide +kernel
theorem dksX2_image_1 : cX2_image.data.toList.drop 24 = dktX2_image_1 := dk_seg dksX2_image_0 24 rfl rfl
theorem dX2_image_0 : decode cX2_image 0 = .ok (.aload_n 0, 1) := dk_42 (dk_at dksX2_image_0 0 rfl rfl)
theorem dX2_image_1 : decode cX2_image 1 = .ok (.getfield 7, 3) := dk_180 0 7 (dk_at dksX2_image_0 1 rfl rfl)
theorem dX2_image_4 : decode cX2_image 4 = .ok (.aload_n 0, 1) := dk_42 (dk_at dksX2_image_0 4 rfl rfl)
theorem dX2_image_5 : decode cX2_image 5 = .ok (.getfield 13, 3) := dk_180 0 13 (dk_at dksX2_image_0 5 rfl rfl)
theorem dX2_image_8 : decode cX2_image 8 = .ok (.invokestatic 100, 3) := dk_184 0 100 (dk_at dksX2_image_0 8 rfl rfl)
theorem dX2_image_11 : decode cX2_image 11 = .ok (.iconst 0, 1) := dk_3 (dk_at dksX2_image_0 11 rfl rfl)
theorem dX2_image_12 : decode cX2_image 12 = .ok (.istore_n 1, 1) := dk_60 (dk_at dksX2_image_0 12 rfl rfl)
theorem dX2_image_13 : decode cX2_image 13 = .ok (.iload_n 1, 1) := dk_27 (dk_at dksX2_image_0 13 rfl rfl)
theorem dX2_image_14 : decode cX2_image 14 = .ok (.bipush 30, 2) := dk_16 30 (dk_at dksX2_image_0 14 rfl rfl)
theorem dX2_image_16 : decode cX2_image 16 = .ok (.if_icmp .ge 21, 3) := dk_162 0 21 (dk_at dksX2_image_0 16 rfl rfl)
theorem dX2_image_19 : decode cX2_image 19 = .ok (.aload_n 0, 1) := dk_42 (dk_at dksX2_image_0 19 rfl rfl)
theorem dX2_image_20 : decode cX2_image 20 = .ok (.getfield 20, 3) := dk_180 0 20 (dk_at dksX2_image_0 20 rfl rfl)
theorem dX2_image_23 : decode cX2_image 23 = .ok (.iload_n 1, 1) := dk_27 (dk_at dksX2_image_0 23 rfl rfl)
theorem dX2_image_24 : decode cX2_image 24 = .ok (.aload_n 0, 1) := dk_42 (dk_at dksX2_image_1 0 rfl rfl)
theorem dX2_image_25 : decode cX2_image 25 = .ok (.getfield 16, 3) := dk_180 0 16 (dk_at dksX2_image_1 1 rfl rfl)
theorem dX2_image_28 : decode cX2_image 28 = .ok (.iload_n 1, 1) := dk_27 (dk_at dksX2_image_1 4 rfl rfl)
theorem dX2_image_29 : decode cX2_image 29 = .ok (.laload, 1) := dk_47 (dk_at dksX2_image_1 5 rfl rfl)
theorem dX2_image_30 : decode cX2_image 30 = .ok (.lastore, 1) := dk_80 (dk_at dksX2_image_1 6 rfl rfl)
theorem dX2_image_31 : decode cX2_image 31 = .ok (.iinc 1 1, 3) := dk_132 1 1 (dk_at dksX2_image_1 7 rfl rfl)
theorem dX2_image_34 : decode cX2_image 34 = .ok (.goto (-21), 3) := dk_167 255 235 (dk_at dksX2_image_1 10 rfl rfl)
theorem dX2_image_37 : decode cX2_image 37 = .ok (.aload_n 0, 1) := dk_42 (dk_at dksX2_image_1 13 rfl rfl)
theorem dX2_image_38 : decode cX2_image 38 = .ok (.getfield 7, 3) := dk_180 0 7 (dk_at dksX2_image_1 14 rfl rfl)
theorem dX2_image_41 : decode cX2_image 41 = .ok (.iconst 0, 1) := dk_3 (dk_at dksX2_image_1 17 rfl rfl)
theorem dX2_image_42 : decode cX2_image 42 = .ok (.iaload, 1) := dk_46 (dk_at dksX2_image_1 18 rfl rfl)
theorem dX2_image_43 : decode cX2_image 43 = .ok (.ireturn, 1) := dk_172 (dk_at dksX2_image_1 19 rfl rfl)
abbrev cX2_back : ByteArray := prog_17_method_122_code
def yX2_back : MethodName := ⟨RX2, "back", "()I"⟩
def dkwX2_back_1 : List UInt8 := [42, 180, 0, 20, 27, 47, 80, 132, 1, 1, 167, 255, 235, 42, 180, 0, 7, 3, 46, 172]
abbrev dktX2_back_1 : List UInt8 := dkwX2_back_1 ++ []
def dkwX2_back_0 : List UInt8 := [42, 180, 0, 13, 42, 180, 0, 7, 184, 0, 100, 3, 60, 27, 16, 30, 162, 0, 21, 42, 180, 0, 16, 27]
abbrev dktX2_back_0 : List UInt8 := dkwX2_back_0 ++ dktX2_back_1
theorem dksX2_back_0 : cX2_back.data.toList.drop 0 = dktX2_back_0 := by decide +kernel
theorem dksX2_back_1 : cX2_back.data.toList.drop 24 = dktX2_back_1 := dk_seg dksX2_back_0 24 rfl rfl
theorem dX2_back_0 : decode cX2_back 0 = .ok (.aload_n 0, 1) := dk_42 (dk_at dksX2_back_0 0 rfl rfl)
theorem dX2_back_1 : decode cX2_back 1 = .ok (.getfield 13, 3) := dk_180 0 13 (dk_at dksX2_back_0 1 rfl rfl)
theorem dX2_back_4 : decode cX2_back 4 = .ok (.aload_n 0, 1) := dk_42 (dk_at dksX2_back_0 4 rfl rfl)
theorem dX2_back_5 : decode cX2_back 5 = .ok (.getfield 7, 3) := dk_180 0 7 (dk_at dksX2_back_0 5 rfl rfl)
theorem dX2_back_8 : decode cX2_back 8 = .ok (.invokestatic 100, 3) := dk_184 0 100 (dk_at dksX2_back_0 8 rfl rfl)
theorem dX2_back_11 : decode cX2_back 11 = .ok (.iconst 0, 1) := dk_3 (dk_at dksX2_back_0 11 rfl rfl)
theorem dX2_back_12 : decode cX2_back 12 = .ok (.istore_n 1, 1) := dk_60 (dk_at dksX2_back_0 12 rfl rfl)
theorem dX2_back_13 : decode cX2_back 13 = .ok (.iload_n 1, 1) := dk_27 (dk_at dksX2_back_0 13 rfl rfl)
theorem dX2_back_14 : decode cX2_back 14 = .ok (.bipush 30, 2) := dk_16 30 (dk_at dksX2_back_0 14 rfl rfl)
theorem dX2_back_16 : decode cX2_back 16 = .ok (.if_icmp .ge 21, 3) := dk_162 0 21 (dk_at dksX2_back_0 16 rfl rfl)
theorem dX2_back_19 : decode cX2_back 19 = .ok (.aload_n 0, 1) := dk_42 (dk_at dksX2_back_0 19 rfl rfl)
theorem dX2_back_20 : decode cX2_back 20 = .ok (.getfield 16, 3) := dk_180 0 16 (dk_at dksX2_back_0 20 rfl rfl)
theorem dX2_back_23 : decode cX2_back 23 = .ok (.iload_n 1, 1) := dk_27 (dk_at dksX2_back_0 23 rfl rfl)
theorem dX2_back_24 : decode cX2_back 24 = .ok (.aload_n 0, 1) := dk_42 (dk_at dksX2_back_1 0 rfl rfl)
theorem dX2_back_25 : decode cX2_back 25 = .ok (.getfield 20, 3) := dk_180 0 20 (dk_at dksX2_back_1 1 rfl rfl)
theorem dX2_back_28 : decode cX2_back 28 = .ok (.iload_n 1, 1) := dk_27 (dk_at dksX2_back_1 4 rfl rfl)
theorem dX2_back_29 : decode cX2_back 29 = .ok (.laload, 1) := dk_47 (dk_at dksX2_back_1 5 rfl rfl)
theorem dX2_back_30 : decode cX2_back 30 = .ok (.lastore, 1) := dk_80 (dk_at dksX2_back_1 6 rfl rfl)
theorem dX2_back_31 : decode cX2_back 31 = .ok (.iinc 1 1, 3) := dk_132 1 1 (dk_at dksX2_back_1 7 rfl rfl)
theorem dX2_back_34 : decode cX2_back 34 = .ok (.goto (-21), 3) := dk_167 255 235 (dk_at dksX2_back_1 10 rfl rfl)
theorem dX2_back_37 : decode cX2_back 37 = .ok (.aload_n 0, 1) := dk_42 (dk_at dksX2_back_1 13 rfl rfl)
theorem dX2_back_38 : decode cX2_back 38 = .ok (.getfield 7, 3) := dk_180 0 7 (dk_at dksX2_back_1 14 rfl rfl)
theorem dX2_back_41 : decode cX2_back 41 = .ok (.iconst 0, 1) := dk_3 (dk_at dksX2_back_1 17 rfl rfl)
theorem dX2_back_42 : decode cX2_back 42 = .ok (.iaload, 1) := dk_46 (dk_at dksX2_back_1 18 rfl rfl)
theorem dX2_back_43 : decode cX2_back 43 = .ok (.ireturn, 1) := dk_172 (dk_at dksX2_back_1 19 rfl rfl)
abbrev cX2_about : ByteArray := prog_17_method_123_code
def yX2_about : MethodName := ⟨RX2, "about", "(I)I"⟩
def dkwX2_about_9 : List UInt8 := [172, 16, 254, 172]
abbrev dktX2_about_9 : List UInt8 := dkwX2_about_9 ++ []
def dkwX2_about_8 : List UInt8 := [16, 6, 46, 172, 42, 180, 0, 7, 16, 7, 46, 172, 42, 180, 0, 7, 16, 8, 46, 172, 42, 180, 0, 121]
abbrev dktX2_about_8 : List UInt8 := dkwX2_about_8 ++ dktX2_about_9
def dkwX2_about_7 : List UInt8 := [180, 0, 7, 6, 46, 172, 42, 180, 0, 7, 7, 46, 172, 42, 180, 0, 7, 8, 46, 172, 42, 180, 0, 7]
abbrev dktX2_about_7 : List UInt8 := dkwX2_about_7 ++ dktX2_about_8
def dkwX2_about_6 : List UInt8 := [42, 180, 0, 7, 3, 46, 172, 42, 180, 0, 7, 4, 46, 172, 42, 180, 0, 7, 5, 46, 172, 42]
abbrev dktX2_about_6 : List UInt8 := dkwX2_about_6 ++ dktX2_about_7
def dkwX2_about_5 : List UInt8 := [170, 0, 0, 0, 0, 125, 0, 0, 0, 0, 0, 0, 0, 9, 0, 0, 0, 54, 0, 0, 0, 61, 0, 0, 0, 68, 0, 0, 0, 75, 0, 0, 0, 82, 0, 0, 0, 89, 0, 0, 0, 96, 0, 0, 0, 104, 0, 0, 0, 112, 0, 0, 0, 120]
abbrev dktX2_about_5 : List UInt8 := dkwX2_about_5 ++ dktX2_about_6
def dkwX2_about_4 : List UInt8 := [16, 40, 27, 96, 17, 1, 44, 100, 46, 172, 27]
abbrev dktX2_about_4 : List UInt8 := dkwX2_about_4 ++ dktX2_about_5
def dkwX2_about_3 : List UInt8 := [27, 17, 1, 44, 17, 1, 43, 42, 180, 0, 7, 3, 46, 96, 184, 0, 104, 153, 0, 17, 42, 180, 0, 7]
abbrev dktX2_about_3 : List UInt8 := dkwX2_about_3 ++ dktX2_about_4
def dkwX2_about_2 : List UInt8 := [184, 0, 104, 153, 0, 21, 42, 180, 0, 7, 16, 10, 5, 27, 17, 0, 200, 100, 104, 96, 4, 96, 46, 172]
abbrev dktX2_about_2 : List UInt8 := dkwX2_about_2 ++ dktX2_about_3
def dkwX2_about_1 : List UInt8 := [5, 27, 16, 100, 100, 104, 96, 46, 172, 27, 17, 0, 200, 17, 0, 199, 42, 180, 0, 7, 3, 46, 96]
abbrev dktX2_about_1 : List UInt8 := dkwX2_about_1 ++ dktX2_about_2
def dkwX2_about_0 : List UInt8 := [27, 16, 100, 16, 99, 42, 180, 0, 7, 3, 46, 96, 184, 0, 104, 153, 0, 18, 42, 180, 0, 7, 16, 10]
abbrev dktX2_about_0 : List UInt8 := dkwX2_about_0 ++ dktX2_about_1
theorem dksX2_about_0 : cX2_about.data.toList.drop 0 = dktX2_about_0 := by decide +kernel
theorem dksX2_about_1 : cX2_about.data.toList.drop 24 = dktX2_about_1 := dk_seg dksX2_about_0 24 rfl rfl
theorem dksX2_about_2 : cX2_about.data.toList.drop 47 = dktX2_about_2 := dk_seg dksX2_about_1 23 rfl rfl
theorem dksX2_about_3 : cX2_about.data.toList.drop 71 = dktX2_about_3 := dk_seg dksX2_about_2 24 rfl rfl
theorem dksX2_about_4 : cX2_about.data.toList.drop 95 = dktX2_about_4 := dk_seg dksX2_about_3 24 rfl rfl
theorem dksX2_about_5 : cX2_about.data.toList.drop 106 = dktX2_about_5 := dk_seg dksX2_about_4 11 rfl rfl
theorem dksX2_about_6 : cX2_about.data.toList.drop 160 = dktX2_about_6 := dk_seg dksX2_about_5 54 rfl rfl
theorem dksX2_about_7 : cX2_about.data.toList.drop 182 = dktX2_about_7 := dk_seg dksX2_about_6 22 rfl rfl
theorem dksX2_about_8 : cX2_about.data.toList.drop 206 = dktX2_about_8 := dk_seg dksX2_about_7 24 rfl rfl
theorem dksX2_about_9 : cX2_about.data.toList.drop 230 = dktX2_about_9 := dk_seg dksX2_about_8 24 rfl rfl
theorem dX2_about_0 : decode cX2_about 0 = .ok (.iload_n 1, 1) := dk_27 (dk_at dksX2_about_0 0 rfl rfl)
theorem dX2_about_1 : decode cX2_about 1 = .ok (.bipush 100, 2) := dk_16 100 (dk_at dksX2_about_0 1 rfl rfl)
theorem dX2_about_3 : decode cX2_about 3 = .ok (.bipush 99, 2) := dk_16 99 (dk_at dksX2_about_0 3 rfl rfl)
theorem dX2_about_5 : decode cX2_about 5 = .ok (.aload_n 0, 1) := dk_42 (dk_at dksX2_about_0 5 rfl rfl)
theorem dX2_about_6 : decode cX2_about 6 = .ok (.getfield 7, 3) := dk_180 0 7 (dk_at dksX2_about_0 6 rfl rfl)
theorem dX2_about_9 : decode cX2_about 9 = .ok (.iconst 0, 1) := dk_3 (dk_at dksX2_about_0 9 rfl rfl)
theorem dX2_about_10 : decode cX2_about 10 = .ok (.iaload, 1) := dk_46 (dk_at dksX2_about_0 10 rfl rfl)
theorem dX2_about_11 : decode cX2_about 11 = .ok (.iadd, 1) := dk_96 (dk_at dksX2_about_0 11 rfl rfl)
theorem dX2_about_12 : decode cX2_about 12 = .ok (.invokestatic 104, 3) := dk_184 0 104 (dk_at dksX2_about_0 12 rfl rfl)
theorem dX2_about_15 : decode cX2_about 15 = .ok (.ifCond .eq 18, 3) := dk_153 0 18 (dk_at dksX2_about_0 15 rfl rfl)
theorem dX2_about_18 : decode cX2_about 18 = .ok (.aload_n 0, 1) := dk_42 (dk_at dksX2_about_0 18 rfl rfl)
theorem dX2_about_19 : decode cX2_about 19 = .ok (.getfield 7, 3) := dk_180 0 7 (dk_at dksX2_about_0 19 rfl rfl)
theorem dX2_about_22 : decode cX2_about 22 = .ok (.bipush 10, 2) := dk_16 10 (dk_at dksX2_about_0 22 rfl rfl)
theorem dX2_about_24 : decode cX2_about 24 = .ok (.iconst 2, 1) := dk_5 (dk_at dksX2_about_1 0 rfl rfl)
theorem dX2_about_25 : decode cX2_about 25 = .ok (.iload_n 1, 1) := dk_27 (dk_at dksX2_about_1 1 rfl rfl)
theorem dX2_about_26 : decode cX2_about 26 = .ok (.bipush 100, 2) := dk_16 100 (dk_at dksX2_about_1 2 rfl rfl)
theorem dX2_about_28 : decode cX2_about 28 = .ok (.isub, 1) := dk_100 (dk_at dksX2_about_1 4 rfl rfl)
theorem dX2_about_29 : decode cX2_about 29 = .ok (.imul, 1) := dk_104 (dk_at dksX2_about_1 5 rfl rfl)
theorem dX2_about_30 : decode cX2_about 30 = .ok (.iadd, 1) := dk_96 (dk_at dksX2_about_1 6 rfl rfl)
theorem dX2_about_31 : decode cX2_about 31 = .ok (.iaload, 1) := dk_46 (dk_at dksX2_about_1 7 rfl rfl)
theorem dX2_about_32 : decode cX2_about 32 = .ok (.ireturn, 1) := dk_172 (dk_at dksX2_about_1 8 rfl rfl)
theorem dX2_about_33 : decode cX2_about 33 = .ok (.iload_n 1, 1) := dk_27 (dk_at dksX2_about_1 9 rfl rfl)
theorem dX2_about_34 : decode cX2_about 34 = .ok (.sipush 200, 3) := dk_17 0 200 (dk_at dksX2_about_1 10 rfl rfl)
theorem dX2_about_37 : decode cX2_about 37 = .ok (.sipush 199, 3) := dk_17 0 199 (dk_at dksX2_about_1 13 rfl rfl)
theorem dX2_about_40 : decode cX2_about 40 = .ok (.aload_n 0, 1) := dk_42 (dk_at dksX2_about_1 16 rfl rfl)
theorem dX2_about_41 : decode cX2_about 41 = .ok (.getfield 7, 3) := dk_180 0 7 (dk_at dksX2_about_1 17 rfl rfl)
theorem dX2_about_44 : decode cX2_about 44 = .ok (.iconst 0, 1) := dk_3 (dk_at dksX2_about_1 20 rfl rfl)
theorem dX2_about_45 : decode cX2_about 45 = .ok (.iaload, 1) := dk_46 (dk_at dksX2_about_1 21 rfl rfl)
theorem dX2_about_46 : decode cX2_about 46 = .ok (.iadd, 1) := dk_96 (dk_at dksX2_about_1 22 rfl rfl)
theorem dX2_about_47 : decode cX2_about 47 = .ok (.invokestatic 104, 3) := dk_184 0 104 (dk_at dksX2_about_2 0 rfl rfl)
theorem dX2_about_50 : decode cX2_about 50 = .ok (.ifCond .eq 21, 3) := dk_153 0 21 (dk_at dksX2_about_2 3 rfl rfl)
theorem dX2_about_53 : decode cX2_about 53 = .ok (.aload_n 0, 1) := dk_42 (dk_at dksX2_about_2 6 rfl rfl)
theorem dX2_about_54 : decode cX2_about 54 = .ok (.getfield 7, 3) := dk_180 0 7 (dk_at dksX2_about_2 7 rfl rfl)
theorem dX2_about_57 : decode cX2_about 57 = .ok (.bipush 10, 2) := dk_16 10 (dk_at dksX2_about_2 10 rfl rfl)
theorem dX2_about_59 : decode cX2_about 59 = .ok (.iconst 2, 1) := dk_5 (dk_at dksX2_about_2 12 rfl rfl)
theorem dX2_about_60 : decode cX2_about 60 = .ok (.iload_n 1, 1) := dk_27 (dk_at dksX2_about_2 13 rfl rfl)
theorem dX2_about_61 : decode cX2_about 61 = .ok (.sipush 200, 3) := dk_17 0 200 (dk_at dksX2_about_2 14 rfl rfl)
theorem dX2_about_64 : decode cX2_about 64 = .ok (.isub, 1) := dk_100 (dk_at dksX2_about_2 17 rfl rfl)
theorem dX2_about_65 : decode cX2_about 65 = .ok (.imul, 1) := dk_104 (dk_at dksX2_about_2 18 rfl rfl)
theorem dX2_about_66 : decode cX2_about 66 = .ok (.iadd, 1) := dk_96 (dk_at dksX2_about_2 19 rfl rfl)
theorem dX2_about_67 : decode cX2_about 67 = .ok (.iconst 1, 1) := dk_4 (dk_at dksX2_about_2 20 rfl rfl)
theorem dX2_about_68 : decode cX2_about 68 = .ok (.iadd, 1) := dk_96 (dk_at dksX2_about_2 21 rfl rfl)
theorem dX2_about_69 : decode cX2_about 69 = .ok (.iaload, 1) := dk_46 (dk_at dksX2_about_2 22 rfl rfl)
theorem dX2_about_70 : decode cX2_about 70 = .ok (.ireturn, 1) := dk_172 (dk_at dksX2_about_2 23 rfl rfl)
theorem dX2_about_71 : decode cX2_about 71 = .ok (.iload_n 1, 1) := dk_27 (dk_at dksX2_about_3 0 rfl rfl)
theorem dX2_about_72 : decode cX2_about 72 = .ok (.sipush 300, 3) := dk_17 1 44 (dk_at dksX2_about_3 1 rfl rfl)
theorem dX2_about_75 : decode cX2_about 75 = .ok (.sipush 299, 3) := dk_17 1 43 (dk_at dksX2_about_3 4 rfl rfl)
theorem dX2_about_78 : decode cX2_about 78 = .ok (.aload_n 0, 1) := dk_42 (dk_at dksX2_about_3 7 rfl rfl)
theorem dX2_about_79 : decode cX2_about 79 = .ok (.getfield 7, 3) := dk_180 0 7 (dk_at dksX2_about_3 8 rfl rfl)
theorem dX2_about_82 : decode cX2_about 82 = .ok (.iconst 0, 1) := dk_3 (dk_at dksX2_about_3 11 rfl rfl)
theorem dX2_about_83 : decode cX2_about 83 = .ok (.iaload, 1) := dk_46 (dk_at dksX2_about_3 12 rfl rfl)
theorem dX2_about_84 : decode cX2_about 84 = .ok (.iadd, 1) := dk_96 (dk_at dksX2_about_3 13 rfl rfl)
theorem dX2_about_85 : decode cX2_about 85 = .ok (.invokestatic 104, 3) := dk_184 0 104 (dk_at dksX2_about_3 14 rfl rfl)
theorem dX2_about_88 : decode cX2_about 88 = .ok (.ifCond .eq 17, 3) := dk_153 0 17 (dk_at dksX2_about_3 17 rfl rfl)
theorem dX2_about_91 : decode cX2_about 91 = .ok (.aload_n 0, 1) := dk_42 (dk_at dksX2_about_3 20 rfl rfl)
theorem dX2_about_92 : decode cX2_about 92 = .ok (.getfield 7, 3) := dk_180 0 7 (dk_at dksX2_about_3 21 rfl rfl)
theorem dX2_about_95 : decode cX2_about 95 = .ok (.bipush 40, 2) := dk_16 40 (dk_at dksX2_about_4 0 rfl rfl)
theorem dX2_about_97 : decode cX2_about 97 = .ok (.iload_n 1, 1) := dk_27 (dk_at dksX2_about_4 2 rfl rfl)
theorem dX2_about_98 : decode cX2_about 98 = .ok (.iadd, 1) := dk_96 (dk_at dksX2_about_4 3 rfl rfl)
theorem dX2_about_99 : decode cX2_about 99 = .ok (.sipush 300, 3) := dk_17 1 44 (dk_at dksX2_about_4 4 rfl rfl)
theorem dX2_about_102 : decode cX2_about 102 = .ok (.isub, 1) := dk_100 (dk_at dksX2_about_4 7 rfl rfl)
theorem dX2_about_103 : decode cX2_about 103 = .ok (.iaload, 1) := dk_46 (dk_at dksX2_about_4 8 rfl rfl)
theorem dX2_about_104 : decode cX2_about 104 = .ok (.ireturn, 1) := dk_172 (dk_at dksX2_about_4 9 rfl rfl)
theorem dX2_about_105 : decode cX2_about 105 = .ok (.iload_n 1, 1) := dk_27 (dk_at dksX2_about_4 10 rfl rfl)
theorem dX2_about_106 : decode cX2_about 106 = .ok (.tableswitch 125 0 9 #[54, 61, 68, 75, 82, 89, 96, 104, 112, 120], 54) := by decide +kernel
theorem dX2_about_160 : decode cX2_about 160 = .ok (.aload_n 0, 1) := dk_42 (dk_at dksX2_about_6 0 rfl rfl)
theorem dX2_about_161 : decode cX2_about 161 = .ok (.getfield 7, 3) := dk_180 0 7 (dk_at dksX2_about_6 1 rfl rfl)
theorem dX2_about_164 : decode cX2_about 164 = .ok (.iconst 0, 1) := dk_3 (dk_at dksX2_about_6 4 rfl rfl)
theorem dX2_about_165 : decode cX2_about 165 = .ok (.iaload, 1) := dk_46 (dk_at dksX2_about_6 5 rfl rfl)
theorem dX2_about_166 : decode cX2_about 166 = .ok (.ireturn, 1) := dk_172 (dk_at dksX2_about_6 6 rfl rfl)
theorem dX2_about_167 : decode cX2_about 167 = .ok (.aload_n 0, 1) := dk_42 (dk_at dksX2_about_6 7 rfl rfl)
theorem dX2_about_168 : decode cX2_about 168 = .ok (.getfield 7, 3) := dk_180 0 7 (dk_at dksX2_about_6 8 rfl rfl)
theorem dX2_about_171 : decode cX2_about 171 = .ok (.iconst 1, 1) := dk_4 (dk_at dksX2_about_6 11 rfl rfl)
theorem dX2_about_172 : decode cX2_about 172 = .ok (.iaload, 1) := dk_46 (dk_at dksX2_about_6 12 rfl rfl)
theorem dX2_about_173 : decode cX2_about 173 = .ok (.ireturn, 1) := dk_172 (dk_at dksX2_about_6 13 rfl rfl)
theorem dX2_about_174 : decode cX2_about 174 = .ok (.aload_n 0, 1) := dk_42 (dk_at dksX2_about_6 14 rfl rfl)
theorem dX2_about_175 : decode cX2_about 175 = .ok (.getfield 7, 3) := dk_180 0 7 (dk_at dksX2_about_6 15 rfl rfl)
theorem dX2_about_178 : decode cX2_about 178 = .ok (.iconst 2, 1) := dk_5 (dk_at dksX2_about_6 18 rfl rfl)
theorem dX2_about_179 : decode cX2_about 179 = .ok (.iaload, 1) := dk_46 (dk_at dksX2_about_6 19 rfl rfl)
theorem dX2_about_180 : decode cX2_about 180 = .ok (.ireturn, 1) := dk_172 (dk_at dksX2_about_6 20 rfl rfl)
theorem dX2_about_181 : decode cX2_about 181 = .ok (.aload_n 0, 1) := dk_42 (dk_at dksX2_about_6 21 rfl rfl)
theorem dX2_about_182 : decode cX2_about 182 = .ok (.getfield 7, 3) := dk_180 0 7 (dk_at dksX2_about_7 0 rfl rfl)
theorem dX2_about_185 : decode cX2_about 185 = .ok (.iconst 3, 1) := dk_6 (dk_at dksX2_about_7 3 rfl rfl)
theorem dX2_about_186 : decode cX2_about 186 = .ok (.iaload, 1) := dk_46 (dk_at dksX2_about_7 4 rfl rfl)
theorem dX2_about_187 : decode cX2_about 187 = .ok (.ireturn, 1) := dk_172 (dk_at dksX2_about_7 5 rfl rfl)
theorem dX2_about_188 : decode cX2_about 188 = .ok (.aload_n 0, 1) := dk_42 (dk_at dksX2_about_7 6 rfl rfl)
theorem dX2_about_189 : decode cX2_about 189 = .ok (.getfield 7, 3) := dk_180 0 7 (dk_at dksX2_about_7 7 rfl rfl)
theorem dX2_about_192 : decode cX2_about 192 = .ok (.iconst 4, 1) := dk_7 (dk_at dksX2_about_7 10 rfl rfl)
theorem dX2_about_193 : decode cX2_about 193 = .ok (.iaload, 1) := dk_46 (dk_at dksX2_about_7 11 rfl rfl)
theorem dX2_about_194 : decode cX2_about 194 = .ok (.ireturn, 1) := dk_172 (dk_at dksX2_about_7 12 rfl rfl)
theorem dX2_about_195 : decode cX2_about 195 = .ok (.aload_n 0, 1) := dk_42 (dk_at dksX2_about_7 13 rfl rfl)
theorem dX2_about_196 : decode cX2_about 196 = .ok (.getfield 7, 3) := dk_180 0 7 (dk_at dksX2_about_7 14 rfl rfl)
theorem dX2_about_199 : decode cX2_about 199 = .ok (.iconst 5, 1) := dk_8 (dk_at dksX2_about_7 17 rfl rfl)
theorem dX2_about_200 : decode cX2_about 200 = .ok (.iaload, 1) := dk_46 (dk_at dksX2_about_7 18 rfl rfl)
theorem dX2_about_201 : decode cX2_about 201 = .ok (.ireturn, 1) := dk_172 (dk_at dksX2_about_7 19 rfl rfl)
theorem dX2_about_202 : decode cX2_about 202 = .ok (.aload_n 0, 1) := dk_42 (dk_at dksX2_about_7 20 rfl rfl)
theorem dX2_about_203 : decode cX2_about 203 = .ok (.getfield 7, 3) := dk_180 0 7 (dk_at dksX2_about_7 21 rfl rfl)
theorem dX2_about_206 : decode cX2_about 206 = .ok (.bipush 6, 2) := dk_16 6 (dk_at dksX2_about_8 0 rfl rfl)
theorem dX2_about_208 : decode cX2_about 208 = .ok (.iaload, 1) := dk_46 (dk_at dksX2_about_8 2 rfl rfl)
theorem dX2_about_209 : decode cX2_about 209 = .ok (.ireturn, 1) := dk_172 (dk_at dksX2_about_8 3 rfl rfl)
theorem dX2_about_210 : decode cX2_about 210 = .ok (.aload_n 0, 1) := dk_42 (dk_at dksX2_about_8 4 rfl rfl)
theorem dX2_about_211 : decode cX2_about 211 = .ok (.getfield 7, 3) := dk_180 0 7 (dk_at dksX2_about_8 5 rfl rfl)
theorem dX2_about_214 : decode cX2_about 214 = .ok (.bipush 7, 2) := dk_16 7 (dk_at dksX2_about_8 8 rfl rfl)
theorem dX2_about_216 : decode cX2_about 216 = .ok (.iaload, 1) := dk_46 (dk_at dksX2_about_8 10 rfl rfl)
theorem dX2_about_217 : decode cX2_about 217 = .ok (.ireturn, 1) := dk_172 (dk_at dksX2_about_8 11 rfl rfl)
theorem dX2_about_218 : decode cX2_about 218 = .ok (.aload_n 0, 1) := dk_42 (dk_at dksX2_about_8 12 rfl rfl)
theorem dX2_about_219 : decode cX2_about 219 = .ok (.getfield 7, 3) := dk_180 0 7 (dk_at dksX2_about_8 13 rfl rfl)
theorem dX2_about_222 : decode cX2_about 222 = .ok (.bipush 8, 2) := dk_16 8 (dk_at dksX2_about_8 16 rfl rfl)
theorem dX2_about_224 : decode cX2_about 224 = .ok (.iaload, 1) := dk_46 (dk_at dksX2_about_8 18 rfl rfl)
theorem dX2_about_225 : decode cX2_about 225 = .ok (.ireturn, 1) := dk_172 (dk_at dksX2_about_8 19 rfl rfl)
theorem dX2_about_226 : decode cX2_about 226 = .ok (.aload_n 0, 1) := dk_42 (dk_at dksX2_about_8 20 rfl rfl)
theorem dX2_about_227 : decode cX2_about 227 = .ok (.getfield 121, 3) := dk_180 0 121 (dk_at dksX2_about_8 21 rfl rfl)
theorem dX2_about_230 : decode cX2_about 230 = .ok (.ireturn, 1) := dk_172 (dk_at dksX2_about_9 0 rfl rfl)
theorem dX2_about_231 : decode cX2_about 231 = .ok (.bipush (-2), 2) := dk_16 254 (dk_at dksX2_about_9 1 rfl rfl)
theorem dX2_about_233 : decode cX2_about 233 = .ok (.ireturn, 1) := dk_172 (dk_at dksX2_about_9 3 rfl rfl)
theorem q114 : (Jvm.Cond.initialized "NumberComesModel") ∈ lw_all := lw_g (lw_at lw_m1 4 rfl) rfl
theorem q725 : (Jvm.Cond.selects "NumberComesModel" ({ cls := "java/lang/Object", name := "getClass", desc := "()Ljava/lang/Class;" } : Jvm.MethodName) ({ cls := "java/lang/Object", name := "getClass", desc := "()Ljava/lang/Class;" } : Jvm.MethodName)) ∈ lw_all := lw_g (lw_at lw_m3 135 rfl) rfl
theorem q1218 : (Jvm.Cond.instantiable "NumberComesModel" (46 : Nat)) ∈ lw_all := lw_g (lw_at lw_m5 148 rfl) rfl
theorem q1220 : (Jvm.Cond.instanceMethod ({ cls := "NumberComesModel", name := "<init>", desc := "()V" } : Jvm.MethodName)) ∈ lw_all := lw_g (lw_at lw_m5 150 rfl) rfl
theorem q1221 : (Jvm.Cond.code ({ cls := "NumberComesModel", name := "<init>", desc := "()V" } : Jvm.MethodName) prog_17_method_1_code (1 : Nat) (Option.none : Option Jvm.ClassFile.FieldType)) ∈ lw_all := lw_g (lw_at lw_m5 151 rfl) rfl
theorem q1222 : (Jvm.Cond.methodLink "NumberComesModel" (1 : Nat) ({ cls := "java/lang/Object", name := "<init>", desc := "()V" } : Jvm.MethodName)) ∈ lw_all := lw_g (lw_at lw_m5 152 rfl) rfl
theorem q1223 : (Jvm.Cond.methodLink "NumberComesModel" (100 : Nat) ({ cls := "NumberComesModel", name := "copy", desc := "([I[I)V" } : Jvm.MethodName)) ∈ lw_all := lw_g (lw_at lw_m5 153 rfl) rfl
theorem q1224 : (Jvm.Cond.static ({ cls := "NumberComesModel", name := "copy", desc := "([I[I)V" } : Jvm.MethodName)) ∈ lw_all := lw_g (lw_at lw_m5 154 rfl) rfl
theorem q1225 : (Jvm.Cond.code ({ cls := "NumberComesModel", name := "copy", desc := "([I[I)V" } : Jvm.MethodName) prog_17_method_2_code (3 : Nat) (Option.none : Option Jvm.ClassFile.FieldType)) ∈ lw_all := lw_g (lw_at lw_m5 155 rfl) rfl
theorem q1226 : (Jvm.Cond.fieldLink "NumberComesModel" (7 : Nat) "NumberComesModel" "a" "[I") ∈ lw_all := lw_g (lw_at lw_m5 156 rfl) rfl
theorem q1227 : (Jvm.Cond.fieldLink "NumberComesModel" (13 : Nat) "NumberComesModel" "image" "[I") ∈ lw_all := lw_g (lw_at lw_m5 157 rfl) rfl
theorem q1228 : (Jvm.Cond.fieldLink "NumberComesModel" (16 : Nat) "NumberComesModel" "talkHour" "[J") ∈ lw_all := lw_g (lw_at lw_m5 158 rfl) rfl
theorem q1229 : (Jvm.Cond.fieldLink "NumberComesModel" (20 : Nat) "NumberComesModel" "imageHour" "[J") ∈ lw_all := lw_g (lw_at lw_m5 159 rfl) rfl
theorem q1230 : (Jvm.Cond.fieldLink "NumberComesModel" (23 : Nat) "NumberComesModel" "texts" "[I") ∈ lw_all := lw_g (lw_at lw_m5 160 rfl) rfl
theorem q1231 : (Jvm.Cond.fieldLink "NumberComesModel" (26 : Nat) "NumberComesModel" "tape" "[I") ∈ lw_all := lw_g (lw_at lw_m5 161 rfl) rfl
theorem q1232 : (Jvm.Cond.fieldLink "NumberComesModel" (121 : Nat) "NumberComesModel" "taped" "I") ∈ lw_all := lw_g (lw_at lw_m5 162 rfl) rfl
theorem q1233 : (Jvm.Cond.fieldLink "NumberComesModel" (29 : Nat) "NumberComesModel" "fault" "I") ∈ lw_all := lw_g (lw_at lw_m5 163 rfl) rfl
theorem q1234 : (Jvm.Cond.fieldLink "NumberComesModel" (33 : Nat) "NumberComesModel" "faultPlace" "I") ∈ lw_all := lw_g (lw_at lw_m5 164 rfl) rfl
theorem q1235 : (Jvm.Cond.fieldLink "NumberComesModel" (128 : Nat) "NumberComesModel" "at" "I") ∈ lw_all := lw_g (lw_at lw_m5 165 rfl) rfl
theorem q1236 : (Jvm.Cond.fieldLink "NumberComesModel" (135 : Nat) "NumberComesModel" "place" "I") ∈ lw_all := lw_g (lw_at lw_m5 166 rfl) rfl
theorem q1237 : (Jvm.Cond.fieldLink "NumberComesModel" (138 : Nat) "NumberComesModel" "token" "I") ∈ lw_all := lw_g (lw_at lw_m5 167 rfl) rfl
theorem q1238 : (Jvm.Cond.fieldLink "NumberComesModel" (144 : Nat) "NumberComesModel" "number" "I") ∈ lw_all := lw_g (lw_at lw_m5 168 rfl) rfl
theorem q1239 : (Jvm.Cond.fieldLink "NumberComesModel" (151 : Nat) "NumberComesModel" "word" "J") ∈ lw_all := lw_g (lw_at lw_m5 169 rfl) rfl
theorem q1240 : (Jvm.Cond.fieldLink "NumberComesModel" (163 : Nat) "NumberComesModel" "text0" "I") ∈ lw_all := lw_g (lw_at lw_m5 170 rfl) rfl
theorem q1241 : (Jvm.Cond.fieldLink "NumberComesModel" (166 : Nat) "NumberComesModel" "written" "I") ∈ lw_all := lw_g (lw_at lw_m5 171 rfl) rfl
theorem q1242 : (Jvm.Cond.fieldLink "NumberComesModel" (36 : Nat) "NumberComesModel" "pile" "[I") ∈ lw_all := lw_g (lw_at lw_m5 172 rfl) rfl
theorem q1243 : (Jvm.Cond.fieldLink "NumberComesModel" (169 : Nat) "NumberComesModel" "piled" "I") ∈ lw_all := lw_g (lw_at lw_m5 173 rfl) rfl
theorem q1244 : (Jvm.Cond.fieldLink "NumberComesModel" (176 : Nat) "NumberComesModel" "opens" "I") ∈ lw_all := lw_g (lw_at lw_m5 174 rfl) rfl
theorem q1245 : (Jvm.Cond.fieldLink "NumberComesModel" (172 : Nat) "NumberComesModel" "isWhole" "Z") ∈ lw_all := lw_g (lw_at lw_m5 175 rfl) rfl
theorem q1246 : (Jvm.Cond.fieldLink "NumberComesModel" (187 : Nat) "NumberComesModel" "sort0" "I") ∈ lw_all := lw_g (lw_at lw_m5 176 rfl) rfl
theorem q1247 : (Jvm.Cond.fieldLink "NumberComesModel" (248 : Nat) "NumberComesModel" "isOnce" "Z") ∈ lw_all := lw_g (lw_at lw_m5 177 rfl) rfl
theorem q1248 : (Jvm.Cond.fieldLink "NumberComesModel" (39 : Nat) "NumberComesModel" "named" "[I") ∈ lw_all := lw_g (lw_at lw_m5 178 rfl) rfl
theorem q1249 : (Jvm.Cond.fieldLink "NumberComesModel" (42 : Nat) "NumberComesModel" "values" "[J") ∈ lw_all := lw_g (lw_at lw_m5 179 rfl) rfl
theorem q1250 : (Jvm.Cond.fieldLink "NumberComesModel" (45 : Nat) "NumberComesModel" "truth" "[Z") ∈ lw_all := lw_g (lw_at lw_m5 180 rfl) rfl
theorem q1251 : (Jvm.Cond.fieldLink "NumberComesModel" (49 : Nat) "NumberComesModel" "numbers" "[I") ∈ lw_all := lw_g (lw_at lw_m5 181 rfl) rfl
theorem q1252 : (Jvm.Cond.fieldLink "NumberComesModel" (52 : Nat) "NumberComesModel" "firsts" "[I") ∈ lw_all := lw_g (lw_at lw_m5 182 rfl) rfl
theorem q1253 : (Jvm.Cond.fieldLink "NumberComesModel" (55 : Nat) "NumberComesModel" "closed" "[Z") ∈ lw_all := lw_g (lw_at lw_m5 183 rfl) rfl
theorem q1254 : (Jvm.Cond.fieldLink "NumberComesModel" (58 : Nat) "NumberComesModel" "dueThen" "[Z") ∈ lw_all := lw_g (lw_at lw_m5 184 rfl) rfl
theorem q1255 : (Jvm.Cond.fieldLink "NumberComesModel" (324 : Nat) "NumberComesModel" "least" "J") ∈ lw_all := lw_g (lw_at lw_m5 185 rfl) rfl
theorem q1256 : (Jvm.Cond.fieldLink "NumberComesModel" (319 : Nat) "NumberComesModel" "step" "J") ∈ lw_all := lw_g (lw_at lw_m5 186 rfl) rfl
theorem q1257 : (Jvm.Cond.fieldLink "NumberComesModel" (61 : Nat) "NumberComesModel" "counted" "[I") ∈ lw_all := lw_g (lw_at lw_m5 187 rfl) rfl
theorem q1258 : (Jvm.Cond.fieldLink "NumberComesModel" (64 : Nat) "NumberComesModel" "own" "[J") ∈ lw_all := lw_g (lw_at lw_m5 188 rfl) rfl
theorem q1259 : (Jvm.Cond.fieldLink "NumberComesModel" (67 : Nat) "NumberComesModel" "any" "[J") ∈ lw_all := lw_g (lw_at lw_m5 189 rfl) rfl
theorem q1260 : (Jvm.Cond.fieldLink "NumberComesModel" (70 : Nat) "NumberComesModel" "taker" "[I") ∈ lw_all := lw_g (lw_at lw_m5 190 rfl) rfl
theorem q1261 : (Jvm.Cond.fieldLink "NumberComesModel" (73 : Nat) "NumberComesModel" "gift" "[I") ∈ lw_all := lw_g (lw_at lw_m5 191 rfl) rfl
theorem q1262 : (Jvm.Cond.fieldLink "NumberComesModel" (76 : Nat) "NumberComesModel" "bestGift" "[I") ∈ lw_all := lw_g (lw_at lw_m5 192 rfl) rfl
theorem q1263 : (Jvm.Cond.fieldLink "NumberComesModel" (79 : Nat) "NumberComesModel" "seen" "[Z") ∈ lw_all := lw_g (lw_at lw_m5 193 rfl) rfl
theorem q1264 : (Jvm.Cond.fieldLink "NumberComesModel" (82 : Nat) "NumberComesModel" "tried" "[I") ∈ lw_all := lw_g (lw_at lw_m5 194 rfl) rfl
theorem q1265 : (Jvm.Cond.fieldLink "NumberComesModel" (85 : Nat) "NumberComesModel" "member" "[I") ∈ lw_all := lw_g (lw_at lw_m5 195 rfl) rfl
theorem q1266 : (Jvm.Cond.fieldLink "NumberComesModel" (88 : Nat) "NumberComesModel" "shared" "[I") ∈ lw_all := lw_g (lw_at lw_m5 196 rfl) rfl
theorem q1267 : (Jvm.Cond.fieldLink "NumberComesModel" (91 : Nat) "NumberComesModel" "bestOf" "[J") ∈ lw_all := lw_g (lw_at lw_m5 197 rfl) rfl
theorem q1268 : (Jvm.Cond.fieldLink "NumberComesModel" (94 : Nat) "NumberComesModel" "partner" "[I") ∈ lw_all := lw_g (lw_at lw_m5 198 rfl) rfl
theorem q1269 : (Jvm.Cond.fieldLink "NumberComesModel" (97 : Nat) "NumberComesModel" "twos" "[J") ∈ lw_all := lw_g (lw_at lw_m5 199 rfl) rfl
theorem q1270 : (Jvm.Cond.laysFinal "NumberComesModel" "NumberComesModel" "a" "[I") ∈ lw_all := lw_g (lw_at lw_m5 200 rfl) rfl
theorem q1271 : (Jvm.Cond.soleField "NumberComesModel" "a") ∈ lw_all := lw_g (lw_at lw_m5 201 rfl) rfl
theorem q1272 : (Jvm.Cond.laysFinal "NumberComesModel" "NumberComesModel" "image" "[I") ∈ lw_all := lw_g (lw_at lw_m5 202 rfl) rfl
theorem q1273 : (Jvm.Cond.soleField "NumberComesModel" "image") ∈ lw_all := lw_g (lw_at lw_m5 203 rfl) rfl
theorem q1274 : (Jvm.Cond.laysFinal "NumberComesModel" "NumberComesModel" "talkHour" "[J") ∈ lw_all := lw_g (lw_at lw_m5 204 rfl) rfl
theorem q1275 : (Jvm.Cond.soleField "NumberComesModel" "talkHour") ∈ lw_all := lw_g (lw_at lw_m5 205 rfl) rfl
theorem q1276 : (Jvm.Cond.laysFinal "NumberComesModel" "NumberComesModel" "imageHour" "[J") ∈ lw_all := lw_g (lw_at lw_m5 206 rfl) rfl
theorem q1277 : (Jvm.Cond.soleField "NumberComesModel" "imageHour") ∈ lw_all := lw_g (lw_at lw_m5 207 rfl) rfl
theorem q1278 : (Jvm.Cond.laysFinal "NumberComesModel" "NumberComesModel" "texts" "[I") ∈ lw_all := lw_g (lw_at lw_m5 208 rfl) rfl
theorem q1279 : (Jvm.Cond.soleField "NumberComesModel" "texts") ∈ lw_all := lw_g (lw_at lw_m5 209 rfl) rfl
theorem q1280 : (Jvm.Cond.laysFinal "NumberComesModel" "NumberComesModel" "tape" "[I") ∈ lw_all := lw_g (lw_at lw_m5 210 rfl) rfl
theorem q1281 : (Jvm.Cond.soleField "NumberComesModel" "tape") ∈ lw_all := lw_g (lw_at lw_m5 211 rfl) rfl
theorem q1282 : (Jvm.Cond.lays "NumberComesModel" "NumberComesModel" "taped" "I") ∈ lw_all := lw_g (lw_at lw_m5 212 rfl) rfl
theorem q1283 : (Jvm.Cond.soleField "NumberComesModel" "taped") ∈ lw_all := lw_g (lw_at lw_m5 213 rfl) rfl
theorem q1284 : (Jvm.Cond.lays "NumberComesModel" "NumberComesModel" "fault" "I") ∈ lw_all := lw_g (lw_at lw_m5 214 rfl) rfl
theorem q1285 : (Jvm.Cond.soleField "NumberComesModel" "fault") ∈ lw_all := lw_g (lw_at lw_m5 215 rfl) rfl
theorem q1286 : (Jvm.Cond.lays "NumberComesModel" "NumberComesModel" "faultPlace" "I") ∈ lw_all := lw_g (lw_at lw_m5 216 rfl) rfl
theorem q1287 : (Jvm.Cond.soleField "NumberComesModel" "faultPlace") ∈ lw_all := lw_g (lw_at lw_m5 217 rfl) rfl
theorem q1288 : (Jvm.Cond.lays "NumberComesModel" "NumberComesModel" "at" "I") ∈ lw_all := lw_g (lw_at lw_m5 218 rfl) rfl
theorem q1289 : (Jvm.Cond.soleField "NumberComesModel" "at") ∈ lw_all := lw_g (lw_at lw_m5 219 rfl) rfl
theorem q1290 : (Jvm.Cond.lays "NumberComesModel" "NumberComesModel" "place" "I") ∈ lw_all := lw_g (lw_at lw_m5 220 rfl) rfl
theorem q1291 : (Jvm.Cond.soleField "NumberComesModel" "place") ∈ lw_all := lw_g (lw_at lw_m5 221 rfl) rfl
theorem q1292 : (Jvm.Cond.lays "NumberComesModel" "NumberComesModel" "token" "I") ∈ lw_all := lw_g (lw_at lw_m5 222 rfl) rfl
theorem q1293 : (Jvm.Cond.soleField "NumberComesModel" "token") ∈ lw_all := lw_g (lw_at lw_m5 223 rfl) rfl
theorem q1294 : (Jvm.Cond.lays "NumberComesModel" "NumberComesModel" "number" "I") ∈ lw_all := lw_g (lw_at lw_m5 224 rfl) rfl
theorem q1295 : (Jvm.Cond.soleField "NumberComesModel" "number") ∈ lw_all := lw_g (lw_at lw_m5 225 rfl) rfl
theorem q1296 : (Jvm.Cond.lays "NumberComesModel" "NumberComesModel" "word" "J") ∈ lw_all := lw_g (lw_at lw_m5 226 rfl) rfl
theorem q1297 : (Jvm.Cond.soleField "NumberComesModel" "word") ∈ lw_all := lw_g (lw_at lw_m5 227 rfl) rfl
theorem q1298 : (Jvm.Cond.lays "NumberComesModel" "NumberComesModel" "text0" "I") ∈ lw_all := lw_g (lw_at lw_m5 228 rfl) rfl
theorem q1299 : (Jvm.Cond.soleField "NumberComesModel" "text0") ∈ lw_all := lw_g (lw_at lw_m5 229 rfl) rfl
theorem q1300 : (Jvm.Cond.lays "NumberComesModel" "NumberComesModel" "clauses" "I") ∈ lw_all := lw_g (lw_at lw_m5 230 rfl) rfl
theorem q1301 : (Jvm.Cond.soleField "NumberComesModel" "clauses") ∈ lw_all := lw_g (lw_at lw_m5 231 rfl) rfl
theorem q1302 : (Jvm.Cond.lays "NumberComesModel" "NumberComesModel" "written" "I") ∈ lw_all := lw_g (lw_at lw_m5 232 rfl) rfl
theorem q1303 : (Jvm.Cond.soleField "NumberComesModel" "written") ∈ lw_all := lw_g (lw_at lw_m5 233 rfl) rfl
theorem q1304 : (Jvm.Cond.lays "NumberComesModel" "NumberComesModel" "came" "I") ∈ lw_all := lw_g (lw_at lw_m5 234 rfl) rfl
theorem q1305 : (Jvm.Cond.soleField "NumberComesModel" "came") ∈ lw_all := lw_g (lw_at lw_m5 235 rfl) rfl
theorem q1306 : (Jvm.Cond.laysFinal "NumberComesModel" "NumberComesModel" "pile" "[I") ∈ lw_all := lw_g (lw_at lw_m5 236 rfl) rfl
theorem q1307 : (Jvm.Cond.soleField "NumberComesModel" "pile") ∈ lw_all := lw_g (lw_at lw_m5 237 rfl) rfl
theorem q1308 : (Jvm.Cond.lays "NumberComesModel" "NumberComesModel" "piled" "I") ∈ lw_all := lw_g (lw_at lw_m5 238 rfl) rfl
theorem q1309 : (Jvm.Cond.soleField "NumberComesModel" "piled") ∈ lw_all := lw_g (lw_at lw_m5 239 rfl) rfl
theorem q1310 : (Jvm.Cond.lays "NumberComesModel" "NumberComesModel" "opens" "I") ∈ lw_all := lw_g (lw_at lw_m6 0 rfl) rfl
theorem q1311 : (Jvm.Cond.soleField "NumberComesModel" "opens") ∈ lw_all := lw_g (lw_at lw_m6 1 rfl) rfl
theorem q1312 : (Jvm.Cond.lays "NumberComesModel" "NumberComesModel" "isWhole" "Z") ∈ lw_all := lw_g (lw_at lw_m6 2 rfl) rfl
theorem q1313 : (Jvm.Cond.soleField "NumberComesModel" "isWhole") ∈ lw_all := lw_g (lw_at lw_m6 3 rfl) rfl
theorem q1314 : (Jvm.Cond.lays "NumberComesModel" "NumberComesModel" "sort0" "I") ∈ lw_all := lw_g (lw_at lw_m6 4 rfl) rfl
theorem q1315 : (Jvm.Cond.soleField "NumberComesModel" "sort0") ∈ lw_all := lw_g (lw_at lw_m6 5 rfl) rfl
theorem q1316 : (Jvm.Cond.lays "NumberComesModel" "NumberComesModel" "isOnce" "Z") ∈ lw_all := lw_g (lw_at lw_m6 6 rfl) rfl
theorem q1317 : (Jvm.Cond.soleField "NumberComesModel" "isOnce") ∈ lw_all := lw_g (lw_at lw_m6 7 rfl) rfl
theorem q1318 : (Jvm.Cond.laysFinal "NumberComesModel" "NumberComesModel" "named" "[I") ∈ lw_all := lw_g (lw_at lw_m6 8 rfl) rfl
theorem q1319 : (Jvm.Cond.soleField "NumberComesModel" "named") ∈ lw_all := lw_g (lw_at lw_m6 9 rfl) rfl
theorem q1320 : (Jvm.Cond.laysFinal "NumberComesModel" "NumberComesModel" "values" "[J") ∈ lw_all := lw_g (lw_at lw_m6 10 rfl) rfl
theorem q1321 : (Jvm.Cond.soleField "NumberComesModel" "values") ∈ lw_all := lw_g (lw_at lw_m6 11 rfl) rfl
theorem q1322 : (Jvm.Cond.laysFinal "NumberComesModel" "NumberComesModel" "truth" "[Z") ∈ lw_all := lw_g (lw_at lw_m6 12 rfl) rfl
theorem q1323 : (Jvm.Cond.soleField "NumberComesModel" "truth") ∈ lw_all := lw_g (lw_at lw_m6 13 rfl) rfl
theorem q1324 : (Jvm.Cond.laysFinal "NumberComesModel" "NumberComesModel" "numbers" "[I") ∈ lw_all := lw_g (lw_at lw_m6 14 rfl) rfl
theorem q1325 : (Jvm.Cond.soleField "NumberComesModel" "numbers") ∈ lw_all := lw_g (lw_at lw_m6 15 rfl) rfl
theorem q1326 : (Jvm.Cond.laysFinal "NumberComesModel" "NumberComesModel" "firsts" "[I") ∈ lw_all := lw_g (lw_at lw_m6 16 rfl) rfl
theorem q1327 : (Jvm.Cond.soleField "NumberComesModel" "firsts") ∈ lw_all := lw_g (lw_at lw_m6 17 rfl) rfl
theorem q1328 : (Jvm.Cond.laysFinal "NumberComesModel" "NumberComesModel" "closed" "[Z") ∈ lw_all := lw_g (lw_at lw_m6 18 rfl) rfl
theorem q1329 : (Jvm.Cond.soleField "NumberComesModel" "closed") ∈ lw_all := lw_g (lw_at lw_m6 19 rfl) rfl
theorem q1330 : (Jvm.Cond.laysFinal "NumberComesModel" "NumberComesModel" "dueThen" "[Z") ∈ lw_all := lw_g (lw_at lw_m6 20 rfl) rfl
theorem q1331 : (Jvm.Cond.soleField "NumberComesModel" "dueThen") ∈ lw_all := lw_g (lw_at lw_m6 21 rfl) rfl
theorem q1332 : (Jvm.Cond.lays "NumberComesModel" "NumberComesModel" "least" "J") ∈ lw_all := lw_g (lw_at lw_m6 22 rfl) rfl
theorem q1333 : (Jvm.Cond.soleField "NumberComesModel" "least") ∈ lw_all := lw_g (lw_at lw_m6 23 rfl) rfl
theorem q1334 : (Jvm.Cond.lays "NumberComesModel" "NumberComesModel" "step" "J") ∈ lw_all := lw_g (lw_at lw_m6 24 rfl) rfl
theorem q1335 : (Jvm.Cond.soleField "NumberComesModel" "step") ∈ lw_all := lw_g (lw_at lw_m6 25 rfl) rfl
theorem q1336 : (Jvm.Cond.laysFinal "NumberComesModel" "NumberComesModel" "counted" "[I") ∈ lw_all := lw_g (lw_at lw_m6 26 rfl) rfl
theorem q1337 : (Jvm.Cond.soleField "NumberComesModel" "counted") ∈ lw_all := lw_g (lw_at lw_m6 27 rfl) rfl
theorem q1338 : (Jvm.Cond.laysFinal "NumberComesModel" "NumberComesModel" "own" "[J") ∈ lw_all := lw_g (lw_at lw_m6 28 rfl) rfl
theorem q1339 : (Jvm.Cond.soleField "NumberComesModel" "own") ∈ lw_all := lw_g (lw_at lw_m6 29 rfl) rfl
theorem q1340 : (Jvm.Cond.laysFinal "NumberComesModel" "NumberComesModel" "any" "[J") ∈ lw_all := lw_g (lw_at lw_m6 30 rfl) rfl
theorem q1341 : (Jvm.Cond.soleField "NumberComesModel" "any") ∈ lw_all := lw_g (lw_at lw_m6 31 rfl) rfl
theorem q1342 : (Jvm.Cond.laysFinal "NumberComesModel" "NumberComesModel" "taker" "[I") ∈ lw_all := lw_g (lw_at lw_m6 32 rfl) rfl
theorem q1343 : (Jvm.Cond.soleField "NumberComesModel" "taker") ∈ lw_all := lw_g (lw_at lw_m6 33 rfl) rfl
theorem q1344 : (Jvm.Cond.laysFinal "NumberComesModel" "NumberComesModel" "gift" "[I") ∈ lw_all := lw_g (lw_at lw_m6 34 rfl) rfl
theorem q1345 : (Jvm.Cond.soleField "NumberComesModel" "gift") ∈ lw_all := lw_g (lw_at lw_m6 35 rfl) rfl
theorem q1346 : (Jvm.Cond.laysFinal "NumberComesModel" "NumberComesModel" "bestGift" "[I") ∈ lw_all := lw_g (lw_at lw_m6 36 rfl) rfl
theorem q1347 : (Jvm.Cond.soleField "NumberComesModel" "bestGift") ∈ lw_all := lw_g (lw_at lw_m6 37 rfl) rfl
theorem q1348 : (Jvm.Cond.laysFinal "NumberComesModel" "NumberComesModel" "seen" "[Z") ∈ lw_all := lw_g (lw_at lw_m6 38 rfl) rfl
theorem q1349 : (Jvm.Cond.soleField "NumberComesModel" "seen") ∈ lw_all := lw_g (lw_at lw_m6 39 rfl) rfl
theorem q1350 : (Jvm.Cond.laysFinal "NumberComesModel" "NumberComesModel" "tried" "[I") ∈ lw_all := lw_g (lw_at lw_m6 40 rfl) rfl
theorem q1351 : (Jvm.Cond.soleField "NumberComesModel" "tried") ∈ lw_all := lw_g (lw_at lw_m6 41 rfl) rfl
theorem q1352 : (Jvm.Cond.laysFinal "NumberComesModel" "NumberComesModel" "member" "[I") ∈ lw_all := lw_g (lw_at lw_m6 42 rfl) rfl
theorem q1353 : (Jvm.Cond.soleField "NumberComesModel" "member") ∈ lw_all := lw_g (lw_at lw_m6 43 rfl) rfl
theorem q1354 : (Jvm.Cond.laysFinal "NumberComesModel" "NumberComesModel" "shared" "[I") ∈ lw_all := lw_g (lw_at lw_m6 44 rfl) rfl
theorem q1355 : (Jvm.Cond.soleField "NumberComesModel" "shared") ∈ lw_all := lw_g (lw_at lw_m6 45 rfl) rfl
theorem q1356 : (Jvm.Cond.laysFinal "NumberComesModel" "NumberComesModel" "bestOf" "[J") ∈ lw_all := lw_g (lw_at lw_m6 46 rfl) rfl
theorem q1357 : (Jvm.Cond.soleField "NumberComesModel" "bestOf") ∈ lw_all := lw_g (lw_at lw_m6 47 rfl) rfl
theorem q1358 : (Jvm.Cond.laysFinal "NumberComesModel" "NumberComesModel" "partner" "[I") ∈ lw_all := lw_g (lw_at lw_m6 48 rfl) rfl
theorem q1359 : (Jvm.Cond.soleField "NumberComesModel" "partner") ∈ lw_all := lw_g (lw_at lw_m6 49 rfl) rfl
theorem q1360 : (Jvm.Cond.laysFinal "NumberComesModel" "NumberComesModel" "twos" "[J") ∈ lw_all := lw_g (lw_at lw_m6 50 rfl) rfl
theorem q1361 : (Jvm.Cond.soleField "NumberComesModel" "twos") ∈ lw_all := lw_g (lw_at lw_m6 51 rfl) rfl
theorem q1362 : (Jvm.Cond.superclass "NumberComesModel" "java/lang/Object") ∈ lw_all := lw_g (lw_at lw_m6 52 rfl) rfl
theorem q1364 : (Jvm.Cond.instanceMethod ({ cls := "NumberComesModel", name := "person", desc := "(II)I" } : Jvm.MethodName)) ∈ lw_all := lw_g (lw_at lw_m6 54 rfl) rfl
theorem q1365 : (Jvm.Cond.selects "NumberComesModel" ({ cls := "NumberComesModel", name := "person", desc := "(II)I" } : Jvm.MethodName) ({ cls := "NumberComesModel", name := "person", desc := "(II)I" } : Jvm.MethodName)) ∈ lw_all := lw_g (lw_at lw_m6 55 rfl) rfl
theorem q1366 : (Jvm.Cond.code ({ cls := "NumberComesModel", name := "person", desc := "(II)I" } : Jvm.MethodName) prog_17_method_9_code (3 : Nat) (Option.some Jvm.ClassFile.FieldType.int)) ∈ lw_all := lw_g (lw_at lw_m6 56 rfl) rfl
theorem q1367 : (Jvm.Cond.methodLink "NumberComesModel" (110 : Nat) ({ cls := "NumberComesModel", name := "isCaller", desc := "(II)Z" } : Jvm.MethodName)) ∈ lw_all := lw_g (lw_at lw_m6 57 rfl) rfl
theorem q1368 : (Jvm.Cond.static ({ cls := "NumberComesModel", name := "isCaller", desc := "(II)Z" } : Jvm.MethodName)) ∈ lw_all := lw_g (lw_at lw_m6 58 rfl) rfl
theorem q1369 : (Jvm.Cond.code ({ cls := "NumberComesModel", name := "isCaller", desc := "(II)Z" } : Jvm.MethodName) prog_17_method_8_code (2 : Nat) (Option.some Jvm.ClassFile.FieldType.boolean)) ∈ lw_all := lw_g (lw_at lw_m6 59 rfl) rfl
theorem q1370 : (Jvm.Cond.methodLink "NumberComesModel" (104 : Nat) ({ cls := "NumberComesModel", name := "isIn", desc := "(III)Z" } : Jvm.MethodName)) ∈ lw_all := lw_g (lw_at lw_m6 60 rfl) rfl
theorem q1371 : (Jvm.Cond.static ({ cls := "NumberComesModel", name := "isIn", desc := "(III)Z" } : Jvm.MethodName)) ∈ lw_all := lw_g (lw_at lw_m6 61 rfl) rfl
theorem q1372 : (Jvm.Cond.code ({ cls := "NumberComesModel", name := "isIn", desc := "(III)Z" } : Jvm.MethodName) prog_17_method_3_code (3 : Nat) (Option.some Jvm.ClassFile.FieldType.boolean)) ∈ lw_all := lw_g (lw_at lw_m6 62 rfl) rfl
theorem q1374 : (Jvm.Cond.instanceMethod ({ cls := "NumberComesModel", name := "change", desc := "(III)Z" } : Jvm.MethodName)) ∈ lw_all := lw_g (lw_at lw_m6 64 rfl) rfl
theorem q1375 : (Jvm.Cond.selects "NumberComesModel" ({ cls := "NumberComesModel", name := "change", desc := "(III)Z" } : Jvm.MethodName) ({ cls := "NumberComesModel", name := "change", desc := "(III)Z" } : Jvm.MethodName)) ∈ lw_all := lw_g (lw_at lw_m6 65 rfl) rfl
theorem q1376 : (Jvm.Cond.code ({ cls := "NumberComesModel", name := "change", desc := "(III)Z" } : Jvm.MethodName) prog_17_method_10_code (4 : Nat) (Option.some Jvm.ClassFile.FieldType.boolean)) ∈ lw_all := lw_g (lw_at lw_m6 66 rfl) rfl
theorem q1377 : (Jvm.Cond.methodLink "NumberComesModel" (114 : Nat) ({ cls := "NumberComesModel", name := "isPerson", desc := "(I)Z" } : Jvm.MethodName)) ∈ lw_all := lw_g (lw_at lw_m6 67 rfl) rfl
theorem q1378 : (Jvm.Cond.privateMethod ({ cls := "NumberComesModel", name := "isPerson", desc := "(I)Z" } : Jvm.MethodName)) ∈ lw_tbl := lw_at lw_m6 68 rfl
theorem q1379 : (Jvm.Cond.instanceMethod ({ cls := "NumberComesModel", name := "isPerson", desc := "(I)Z" } : Jvm.MethodName)) ∈ lw_all := lw_g (lw_at lw_m6 69 rfl) rfl
theorem q1380 : (Jvm.Cond.code ({ cls := "NumberComesModel", name := "isPerson", desc := "(I)Z" } : Jvm.MethodName) prog_17_method_4_code (2 : Nat) (Option.some Jvm.ClassFile.FieldType.boolean)) ∈ lw_all := lw_g (lw_at lw_m6 70 rfl) rfl
theorem q1382 : (Jvm.Cond.instanceMethod ({ cls := "NumberComesModel", name := "day", desc := "(I)Z" } : Jvm.MethodName)) ∈ lw_all := lw_g (lw_at lw_m6 72 rfl) rfl
theorem q1383 : (Jvm.Cond.selects "NumberComesModel" ({ cls := "NumberComesModel", name := "day", desc := "(I)Z" } : Jvm.MethodName) ({ cls := "NumberComesModel", name := "day", desc := "(I)Z" } : Jvm.MethodName)) ∈ lw_all := lw_g (lw_at lw_m6 73 rfl) rfl
theorem q1384 : (Jvm.Cond.code ({ cls := "NumberComesModel", name := "day", desc := "(I)Z" } : Jvm.MethodName) prog_17_method_12_code (2 : Nat) (Option.some Jvm.ClassFile.FieldType.boolean)) ∈ lw_all := lw_g (lw_at lw_m6 74 rfl) rfl
theorem q1385 : (Jvm.Cond.methodLink "NumberComesModel" (118 : Nat) ({ cls := "NumberComesModel", name := "isDay", desc := "(I)Z" } : Jvm.MethodName)) ∈ lw_all := lw_g (lw_at lw_m6 75 rfl) rfl
theorem q1386 : (Jvm.Cond.static ({ cls := "NumberComesModel", name := "isDay", desc := "(I)Z" } : Jvm.MethodName)) ∈ lw_all := lw_g (lw_at lw_m6 76 rfl) rfl
theorem q1387 : (Jvm.Cond.code ({ cls := "NumberComesModel", name := "isDay", desc := "(I)Z" } : Jvm.MethodName) prog_17_method_11_code (1 : Nat) (Option.some Jvm.ClassFile.FieldType.boolean)) ∈ lw_all := lw_g (lw_at lw_m6 77 rfl) rfl
theorem q1389 : (Jvm.Cond.instanceMethod ({ cls := "NumberComesModel", name := "clock", desc := "(I)Z" } : Jvm.MethodName)) ∈ lw_all := lw_g (lw_at lw_m6 79 rfl) rfl
theorem q1390 : (Jvm.Cond.selects "NumberComesModel" ({ cls := "NumberComesModel", name := "clock", desc := "(I)Z" } : Jvm.MethodName) ({ cls := "NumberComesModel", name := "clock", desc := "(I)Z" } : Jvm.MethodName)) ∈ lw_all := lw_g (lw_at lw_m6 80 rfl) rfl
theorem q1391 : (Jvm.Cond.code ({ cls := "NumberComesModel", name := "clock", desc := "(I)Z" } : Jvm.MethodName) prog_17_method_13_code (2 : Nat) (Option.some Jvm.ClassFile.FieldType.boolean)) ∈ lw_all := lw_g (lw_at lw_m6 81 rfl) rfl
theorem q1393 : (Jvm.Cond.instanceMethod ({ cls := "NumberComesModel", name := "near", desc := "(IIZ)Z" } : Jvm.MethodName)) ∈ lw_all := lw_g (lw_at lw_m6 83 rfl) rfl
theorem q1394 : (Jvm.Cond.selects "NumberComesModel" ({ cls := "NumberComesModel", name := "near", desc := "(IIZ)Z" } : Jvm.MethodName) ({ cls := "NumberComesModel", name := "near", desc := "(IIZ)Z" } : Jvm.MethodName)) ∈ lw_all := lw_g (lw_at lw_m6 84 rfl) rfl
theorem q1395 : (Jvm.Cond.code ({ cls := "NumberComesModel", name := "near", desc := "(IIZ)Z" } : Jvm.MethodName) prog_17_method_14_code (4 : Nat) (Option.some Jvm.ClassFile.FieldType.boolean)) ∈ lw_all := lw_g (lw_at lw_m6 85 rfl) rfl
theorem q1397 : (Jvm.Cond.instanceMethod ({ cls := "NumberComesModel", name := "feed", desc := "(IIIII)I" } : Jvm.MethodName)) ∈ lw_all := lw_g (lw_at lw_m6 87 rfl) rfl
theorem q1398 : (Jvm.Cond.selects "NumberComesModel" ({ cls := "NumberComesModel", name := "feed", desc := "(IIIII)I" } : Jvm.MethodName) ({ cls := "NumberComesModel", name := "feed", desc := "(IIIII)I" } : Jvm.MethodName)) ∈ lw_all := lw_g (lw_at lw_m6 88 rfl) rfl
theorem q1399 : (Jvm.Cond.code ({ cls := "NumberComesModel", name := "feed", desc := "(IIIII)I" } : Jvm.MethodName) prog_17_method_16_code (6 : Nat) (Option.some Jvm.ClassFile.FieldType.int)) ∈ lw_all := lw_g (lw_at lw_m6 89 rfl) rfl
theorem q1400 : (Jvm.Cond.methodLink "NumberComesModel" (124 : Nat) ({ cls := "NumberComesModel", name := "four", desc := "(I)V" } : Jvm.MethodName)) ∈ lw_all := lw_g (lw_at lw_m6 90 rfl) rfl
theorem q1401 : (Jvm.Cond.privateMethod ({ cls := "NumberComesModel", name := "four", desc := "(I)V" } : Jvm.MethodName)) ∈ lw_tbl := lw_at lw_m6 91 rfl
theorem q1402 : (Jvm.Cond.instanceMethod ({ cls := "NumberComesModel", name := "four", desc := "(I)V" } : Jvm.MethodName)) ∈ lw_all := lw_g (lw_at lw_m6 92 rfl) rfl
theorem q1403 : (Jvm.Cond.code ({ cls := "NumberComesModel", name := "four", desc := "(I)V" } : Jvm.MethodName) prog_17_method_15_code (3 : Nat) (Option.none : Option Jvm.ClassFile.FieldType)) ∈ lw_all := lw_g (lw_at lw_m6 93 rfl) rfl
theorem q1405 : (Jvm.Cond.instanceMethod ({ cls := "NumberComesModel", name := "end", desc := "(I)I" } : Jvm.MethodName)) ∈ lw_all := lw_g (lw_at lw_m6 95 rfl) rfl
theorem q1406 : (Jvm.Cond.selects "NumberComesModel" ({ cls := "NumberComesModel", name := "end", desc := "(I)I" } : Jvm.MethodName) ({ cls := "NumberComesModel", name := "end", desc := "(I)I" } : Jvm.MethodName)) ∈ lw_all := lw_g (lw_at lw_m6 96 rfl) rfl
theorem q1407 : (Jvm.Cond.code ({ cls := "NumberComesModel", name := "end", desc := "(I)I" } : Jvm.MethodName) prog_17_method_17_code (2 : Nat) (Option.some Jvm.ClassFile.FieldType.int)) ∈ lw_all := lw_g (lw_at lw_m6 97 rfl) rfl
theorem q1409 : (Jvm.Cond.instanceMethod ({ cls := "NumberComesModel", name := "text", desc := "()I" } : Jvm.MethodName)) ∈ lw_all := lw_g (lw_at lw_m6 99 rfl) rfl
theorem q1410 : (Jvm.Cond.selects "NumberComesModel" ({ cls := "NumberComesModel", name := "text", desc := "()I" } : Jvm.MethodName) ({ cls := "NumberComesModel", name := "text", desc := "()I" } : Jvm.MethodName)) ∈ lw_all := lw_g (lw_at lw_m6 100 rfl) rfl
theorem q1411 : (Jvm.Cond.code ({ cls := "NumberComesModel", name := "text", desc := "()I" } : Jvm.MethodName) prog_17_method_46_code (1 : Nat) (Option.some Jvm.ClassFile.FieldType.int)) ∈ lw_all := lw_g (lw_at lw_m6 101 rfl) rfl
theorem q1412 : (Jvm.Cond.methodLink "NumberComesModel" (261 : Nat) ({ cls := "NumberComesModel", name := "readText", desc := "()I" } : Jvm.MethodName)) ∈ lw_all := lw_g (lw_at lw_m6 102 rfl) rfl
theorem q1413 : (Jvm.Cond.privateMethod ({ cls := "NumberComesModel", name := "readText", desc := "()I" } : Jvm.MethodName)) ∈ lw_tbl := lw_at lw_m6 103 rfl
theorem q1414 : (Jvm.Cond.instanceMethod ({ cls := "NumberComesModel", name := "readText", desc := "()I" } : Jvm.MethodName)) ∈ lw_all := lw_g (lw_at lw_m6 104 rfl) rfl
theorem q1415 : (Jvm.Cond.code ({ cls := "NumberComesModel", name := "readText", desc := "()I" } : Jvm.MethodName) prog_17_method_45_code (2 : Nat) (Option.some Jvm.ClassFile.FieldType.int)) ∈ lw_all := lw_g (lw_at lw_m6 105 rfl) rfl
theorem q1416 : (Jvm.Cond.methodLink "NumberComesModel" (190 : Nat) ({ cls := "NumberComesModel", name := "nextToken", desc := "()V" } : Jvm.MethodName)) ∈ lw_all := lw_g (lw_at lw_m6 106 rfl) rfl
theorem q1417 : (Jvm.Cond.privateMethod ({ cls := "NumberComesModel", name := "nextToken", desc := "()V" } : Jvm.MethodName)) ∈ lw_tbl := lw_at lw_m6 107 rfl
theorem q1418 : (Jvm.Cond.instanceMethod ({ cls := "NumberComesModel", name := "nextToken", desc := "()V" } : Jvm.MethodName)) ∈ lw_all := lw_g (lw_at lw_m6 108 rfl) rfl
theorem q1419 : (Jvm.Cond.code ({ cls := "NumberComesModel", name := "nextToken", desc := "()V" } : Jvm.MethodName) prog_17_method_21_code (3 : Nat) (Option.none : Option Jvm.ClassFile.FieldType)) ∈ lw_all := lw_g (lw_at lw_m6 109 rfl) rfl
theorem q1420 : (Jvm.Cond.methodLink "NumberComesModel" (131 : Nat) ({ cls := "NumberComesModel", name := "byteAt", desc := "(I)I" } : Jvm.MethodName)) ∈ lw_all := lw_g (lw_at lw_m6 110 rfl) rfl
theorem q1421 : (Jvm.Cond.privateMethod ({ cls := "NumberComesModel", name := "byteAt", desc := "(I)I" } : Jvm.MethodName)) ∈ lw_tbl := lw_at lw_m6 111 rfl
theorem q1422 : (Jvm.Cond.instanceMethod ({ cls := "NumberComesModel", name := "byteAt", desc := "(I)I" } : Jvm.MethodName)) ∈ lw_all := lw_g (lw_at lw_m6 112 rfl) rfl
theorem q1423 : (Jvm.Cond.code ({ cls := "NumberComesModel", name := "byteAt", desc := "(I)I" } : Jvm.MethodName) prog_17_method_18_code (2 : Nat) (Option.some Jvm.ClassFile.FieldType.int)) ∈ lw_all := lw_g (lw_at lw_m6 113 rfl) rfl
theorem q1424 : (Jvm.Cond.methodLink "NumberComesModel" (141 : Nat) ({ cls := "NumberComesModel", name := "isDigit", desc := "(I)Z" } : Jvm.MethodName)) ∈ lw_all := lw_g (lw_at lw_m6 114 rfl) rfl
theorem q1425 : (Jvm.Cond.static ({ cls := "NumberComesModel", name := "isDigit", desc := "(I)Z" } : Jvm.MethodName)) ∈ lw_all := lw_g (lw_at lw_m6 115 rfl) rfl
theorem q1426 : (Jvm.Cond.code ({ cls := "NumberComesModel", name := "isDigit", desc := "(I)Z" } : Jvm.MethodName) prog_17_method_20_code (1 : Nat) (Option.some Jvm.ClassFile.FieldType.boolean)) ∈ lw_all := lw_g (lw_at lw_m6 116 rfl) rfl
theorem q1427 : (Jvm.Cond.constant "NumberComesModel" (147 : Nat) (100000 : Int32)) ∈ lw_all := lw_g (lw_at lw_m6 117 rfl) rfl
theorem q1428 : (Jvm.Cond.methodLink "NumberComesModel" (148 : Nat) ({ cls := "NumberComesModel", name := "isLetter", desc := "(I)Z" } : Jvm.MethodName)) ∈ lw_all := lw_g (lw_at lw_m6 118 rfl) rfl
theorem q1429 : (Jvm.Cond.static ({ cls := "NumberComesModel", name := "isLetter", desc := "(I)Z" } : Jvm.MethodName)) ∈ lw_all := lw_g (lw_at lw_m6 119 rfl) rfl
theorem q1430 : (Jvm.Cond.code ({ cls := "NumberComesModel", name := "isLetter", desc := "(I)Z" } : Jvm.MethodName) prog_17_method_19_code (1 : Nat) (Option.some Jvm.ClassFile.FieldType.boolean)) ∈ lw_all := lw_g (lw_at lw_m6 120 rfl) rfl
theorem q1431 : (Jvm.Cond.methodLink "NumberComesModel" (258 : Nat) ({ cls := "NumberComesModel", name := "clause", desc := "()I" } : Jvm.MethodName)) ∈ lw_all := lw_g (lw_at lw_m6 121 rfl) rfl
theorem q1432 : (Jvm.Cond.privateMethod ({ cls := "NumberComesModel", name := "clause", desc := "()I" } : Jvm.MethodName)) ∈ lw_tbl := lw_at lw_m6 122 rfl
theorem q1433 : (Jvm.Cond.instanceMethod ({ cls := "NumberComesModel", name := "clause", desc := "()I" } : Jvm.MethodName)) ∈ lw_all := lw_g (lw_at lw_m6 123 rfl) rfl
theorem q1434 : (Jvm.Cond.code ({ cls := "NumberComesModel", name := "clause", desc := "()I" } : Jvm.MethodName) prog_17_method_44_code (6 : Nat) (Option.some Jvm.ClassFile.FieldType.int)) ∈ lw_all := lw_g (lw_at lw_m6 124 rfl) rfl
theorem q1435 : (Jvm.Cond.methodLink "NumberComesModel" (245 : Nat) ({ cls := "NumberComesModel", name := "sortOf", desc := "()I" } : Jvm.MethodName)) ∈ lw_all := lw_g (lw_at lw_m6 125 rfl) rfl
theorem q1436 : (Jvm.Cond.privateMethod ({ cls := "NumberComesModel", name := "sortOf", desc := "()I" } : Jvm.MethodName)) ∈ lw_tbl := lw_at lw_m6 126 rfl
theorem q1437 : (Jvm.Cond.instanceMethod ({ cls := "NumberComesModel", name := "sortOf", desc := "()I" } : Jvm.MethodName)) ∈ lw_all := lw_g (lw_at lw_m6 127 rfl) rfl
theorem q1438 : (Jvm.Cond.code ({ cls := "NumberComesModel", name := "sortOf", desc := "()I" } : Jvm.MethodName) prog_17_method_41_code (1 : Nat) (Option.some Jvm.ClassFile.FieldType.int)) ∈ lw_all := lw_g (lw_at lw_m6 128 rfl) rfl
theorem q1439 : (Jvm.Cond.methodLink "NumberComesModel" (237 : Nat) ({ cls := "NumberComesModel", name := "w4", desc := "(IIII)J" } : Jvm.MethodName)) ∈ lw_all := lw_g (lw_at lw_m6 129 rfl) rfl
theorem q1440 : (Jvm.Cond.static ({ cls := "NumberComesModel", name := "w4", desc := "(IIII)J" } : Jvm.MethodName)) ∈ lw_all := lw_g (lw_at lw_m6 130 rfl) rfl
theorem q1441 : (Jvm.Cond.code ({ cls := "NumberComesModel", name := "w4", desc := "(IIII)J" } : Jvm.MethodName) prog_17_method_24_code (4 : Nat) (Option.some Jvm.ClassFile.FieldType.long)) ∈ lw_all := lw_g (lw_at lw_m6 131 rfl) rfl
theorem q1442 : (Jvm.Cond.methodLink "NumberComesModel" (155 : Nat) ({ cls := "NumberComesModel", name := "w3", desc := "(III)J" } : Jvm.MethodName)) ∈ lw_all := lw_g (lw_at lw_m6 132 rfl) rfl
theorem q1443 : (Jvm.Cond.static ({ cls := "NumberComesModel", name := "w3", desc := "(III)J" } : Jvm.MethodName)) ∈ lw_all := lw_g (lw_at lw_m6 133 rfl) rfl
theorem q1444 : (Jvm.Cond.code ({ cls := "NumberComesModel", name := "w3", desc := "(III)J" } : Jvm.MethodName) prog_17_method_22_code (3 : Nat) (Option.some Jvm.ClassFile.FieldType.long)) ∈ lw_all := lw_g (lw_at lw_m6 134 rfl) rfl
theorem q1445 : (Jvm.Cond.methodLink "NumberComesModel" (222 : Nat) ({ cls := "NumberComesModel", name := "isWord", desc := "(J)Z" } : Jvm.MethodName)) ∈ lw_all := lw_g (lw_at lw_m6 135 rfl) rfl
theorem q1446 : (Jvm.Cond.privateMethod ({ cls := "NumberComesModel", name := "isWord", desc := "(J)Z" } : Jvm.MethodName)) ∈ lw_tbl := lw_at lw_m6 136 rfl
theorem q1447 : (Jvm.Cond.instanceMethod ({ cls := "NumberComesModel", name := "isWord", desc := "(J)Z" } : Jvm.MethodName)) ∈ lw_all := lw_g (lw_at lw_m6 137 rfl) rfl
theorem q1448 : (Jvm.Cond.code ({ cls := "NumberComesModel", name := "isWord", desc := "(J)Z" } : Jvm.MethodName) prog_17_method_26_code (3 : Nat) (Option.some Jvm.ClassFile.FieldType.boolean)) ∈ lw_all := lw_g (lw_at lw_m6 138 rfl) rfl
theorem q1449 : (Jvm.Cond.methodLink "NumberComesModel" (159 : Nat) ({ cls := "NumberComesModel", name := "w5", desc := "(IIIII)J" } : Jvm.MethodName)) ∈ lw_all := lw_g (lw_at lw_m6 139 rfl) rfl
theorem q1450 : (Jvm.Cond.static ({ cls := "NumberComesModel", name := "w5", desc := "(IIIII)J" } : Jvm.MethodName)) ∈ lw_all := lw_g (lw_at lw_m6 140 rfl) rfl
theorem q1451 : (Jvm.Cond.code ({ cls := "NumberComesModel", name := "w5", desc := "(IIIII)J" } : Jvm.MethodName) prog_17_method_23_code (5 : Nat) (Option.some Jvm.ClassFile.FieldType.long)) ∈ lw_all := lw_g (lw_at lw_m6 141 rfl) rfl
theorem q1452 : (Jvm.Cond.methodLink "NumberComesModel" (183 : Nat) ({ cls := "NumberComesModel", name := "w6", desc := "(IIIIII)J" } : Jvm.MethodName)) ∈ lw_all := lw_g (lw_at lw_m6 142 rfl) rfl
theorem q1453 : (Jvm.Cond.static ({ cls := "NumberComesModel", name := "w6", desc := "(IIIIII)J" } : Jvm.MethodName)) ∈ lw_all := lw_g (lw_at lw_m6 143 rfl) rfl
theorem q1454 : (Jvm.Cond.code ({ cls := "NumberComesModel", name := "w6", desc := "(IIIIII)J" } : Jvm.MethodName) prog_17_method_25_code (6 : Nat) (Option.some Jvm.ClassFile.FieldType.long)) ∈ lw_all := lw_g (lw_at lw_m6 144 rfl) rfl
theorem q1455 : (Jvm.Cond.methodLink "NumberComesModel" (251 : Nat) ({ cls := "NumberComesModel", name := "rolled", desc := "(II)I" } : Jvm.MethodName)) ∈ lw_all := lw_g (lw_at lw_m6 145 rfl) rfl
theorem q1456 : (Jvm.Cond.privateMethod ({ cls := "NumberComesModel", name := "rolled", desc := "(II)I" } : Jvm.MethodName)) ∈ lw_tbl := lw_at lw_m6 146 rfl
theorem q1457 : (Jvm.Cond.instanceMethod ({ cls := "NumberComesModel", name := "rolled", desc := "(II)I" } : Jvm.MethodName)) ∈ lw_all := lw_g (lw_at lw_m6 147 rfl) rfl
theorem q1458 : (Jvm.Cond.code ({ cls := "NumberComesModel", name := "rolled", desc := "(II)I" } : Jvm.MethodName) prog_17_method_43_code (4 : Nat) (Option.some Jvm.ClassFile.FieldType.int)) ∈ lw_all := lw_g (lw_at lw_m6 148 rfl) rfl
theorem q1459 : (Jvm.Cond.methodLink "NumberComesModel" (241 : Nat) ({ cls := "NumberComesModel", name := "figure", desc := "(III)I" } : Jvm.MethodName)) ∈ lw_all := lw_g (lw_at lw_m6 149 rfl) rfl
theorem q1460 : (Jvm.Cond.privateMethod ({ cls := "NumberComesModel", name := "figure", desc := "(III)I" } : Jvm.MethodName)) ∈ lw_tbl := lw_at lw_m6 150 rfl
theorem q1461 : (Jvm.Cond.instanceMethod ({ cls := "NumberComesModel", name := "figure", desc := "(III)I" } : Jvm.MethodName)) ∈ lw_all := lw_g (lw_at lw_m6 151 rfl) rfl
theorem q1462 : (Jvm.Cond.code ({ cls := "NumberComesModel", name := "figure", desc := "(III)I" } : Jvm.MethodName) prog_17_method_42_code (4 : Nat) (Option.some Jvm.ClassFile.FieldType.int)) ∈ lw_all := lw_g (lw_at lw_m6 152 rfl) rfl
theorem q1463 : (Jvm.Cond.methodLink "NumberComesModel" (226 : Nat) ({ cls := "NumberComesModel", name := "summed", desc := "()I" } : Jvm.MethodName)) ∈ lw_all := lw_g (lw_at lw_m6 153 rfl) rfl
theorem q1464 : (Jvm.Cond.privateMethod ({ cls := "NumberComesModel", name := "summed", desc := "()I" } : Jvm.MethodName)) ∈ lw_tbl := lw_at lw_m6 154 rfl
theorem q1465 : (Jvm.Cond.instanceMethod ({ cls := "NumberComesModel", name := "summed", desc := "()I" } : Jvm.MethodName)) ∈ lw_all := lw_g (lw_at lw_m6 155 rfl) rfl
theorem q1466 : (Jvm.Cond.code ({ cls := "NumberComesModel", name := "summed", desc := "()I" } : Jvm.MethodName) prog_17_method_37_code (2 : Nat) (Option.some Jvm.ClassFile.FieldType.int)) ∈ lw_all := lw_g (lw_at lw_m6 156 rfl) rfl
theorem q1467 : (Jvm.Cond.methodLink "NumberComesModel" (213 : Nat) ({ cls := "NumberComesModel", name := "goesOn", desc := "()Z" } : Jvm.MethodName)) ∈ lw_all := lw_g (lw_at lw_m6 157 rfl) rfl
theorem q1468 : (Jvm.Cond.privateMethod ({ cls := "NumberComesModel", name := "goesOn", desc := "()Z" } : Jvm.MethodName)) ∈ lw_tbl := lw_at lw_m6 158 rfl
theorem q1469 : (Jvm.Cond.instanceMethod ({ cls := "NumberComesModel", name := "goesOn", desc := "()Z" } : Jvm.MethodName)) ∈ lw_all := lw_g (lw_at lw_m6 159 rfl) rfl
theorem q1470 : (Jvm.Cond.code ({ cls := "NumberComesModel", name := "goesOn", desc := "()Z" } : Jvm.MethodName) prog_17_method_35_code (1 : Nat) (Option.some Jvm.ClassFile.FieldType.boolean)) ∈ lw_all := lw_g (lw_at lw_m6 160 rfl) rfl
theorem q1471 : (Jvm.Cond.methodLink "NumberComesModel" (206 : Nat) ({ cls := "NumberComesModel", name := "hasParen", desc := "()Z" } : Jvm.MethodName)) ∈ lw_all := lw_g (lw_at lw_m6 161 rfl) rfl
theorem q1472 : (Jvm.Cond.privateMethod ({ cls := "NumberComesModel", name := "hasParen", desc := "()Z" } : Jvm.MethodName)) ∈ lw_tbl := lw_at lw_m6 162 rfl
theorem q1473 : (Jvm.Cond.instanceMethod ({ cls := "NumberComesModel", name := "hasParen", desc := "()Z" } : Jvm.MethodName)) ∈ lw_all := lw_g (lw_at lw_m6 163 rfl) rfl
theorem q1474 : (Jvm.Cond.code ({ cls := "NumberComesModel", name := "hasParen", desc := "()Z" } : Jvm.MethodName) prog_17_method_34_code (2 : Nat) (Option.some Jvm.ClassFile.FieldType.boolean)) ∈ lw_all := lw_g (lw_at lw_m6 164 rfl) rfl
theorem q1475 : (Jvm.Cond.methodLink "NumberComesModel" (216 : Nat) ({ cls := "NumberComesModel", name := "behindOne", desc := "()I" } : Jvm.MethodName)) ∈ lw_all := lw_g (lw_at lw_m6 165 rfl) rfl
theorem q1476 : (Jvm.Cond.privateMethod ({ cls := "NumberComesModel", name := "behindOne", desc := "()I" } : Jvm.MethodName)) ∈ lw_tbl := lw_at lw_m6 166 rfl
theorem q1477 : (Jvm.Cond.instanceMethod ({ cls := "NumberComesModel", name := "behindOne", desc := "()I" } : Jvm.MethodName)) ∈ lw_all := lw_g (lw_at lw_m6 167 rfl) rfl
theorem q1478 : (Jvm.Cond.code ({ cls := "NumberComesModel", name := "behindOne", desc := "()I" } : Jvm.MethodName) prog_17_method_36_code (2 : Nat) (Option.some Jvm.ClassFile.FieldType.int)) ∈ lw_all := lw_g (lw_at lw_m6 168 rfl) rfl
theorem q1479 : (Jvm.Cond.methodLink "NumberComesModel" (210 : Nat) ({ cls := "NumberComesModel", name := "settle", desc := "(I)V" } : Jvm.MethodName)) ∈ lw_all := lw_g (lw_at lw_m6 169 rfl) rfl
theorem q1480 : (Jvm.Cond.privateMethod ({ cls := "NumberComesModel", name := "settle", desc := "(I)V" } : Jvm.MethodName)) ∈ lw_tbl := lw_at lw_m6 170 rfl
theorem q1481 : (Jvm.Cond.instanceMethod ({ cls := "NumberComesModel", name := "settle", desc := "(I)V" } : Jvm.MethodName)) ∈ lw_all := lw_g (lw_at lw_m6 171 rfl) rfl
theorem q1482 : (Jvm.Cond.code ({ cls := "NumberComesModel", name := "settle", desc := "(I)V" } : Jvm.MethodName) prog_17_method_30_code (2 : Nat) (Option.none : Option Jvm.ClassFile.FieldType)) ∈ lw_all := lw_g (lw_at lw_m6 172 rfl) rfl
theorem q1483 : (Jvm.Cond.methodLink "NumberComesModel" (179 : Nat) ({ cls := "NumberComesModel", name := "emit", desc := "(II)V" } : Jvm.MethodName)) ∈ lw_all := lw_g (lw_at lw_m6 173 rfl) rfl
theorem q1484 : (Jvm.Cond.privateMethod ({ cls := "NumberComesModel", name := "emit", desc := "(II)V" } : Jvm.MethodName)) ∈ lw_tbl := lw_at lw_m6 174 rfl
theorem q1485 : (Jvm.Cond.instanceMethod ({ cls := "NumberComesModel", name := "emit", desc := "(II)V" } : Jvm.MethodName)) ∈ lw_all := lw_g (lw_at lw_m6 175 rfl) rfl
theorem q1486 : (Jvm.Cond.code ({ cls := "NumberComesModel", name := "emit", desc := "(II)V" } : Jvm.MethodName) prog_17_method_27_code (3 : Nat) (Option.none : Option Jvm.ClassFile.FieldType)) ∈ lw_all := lw_g (lw_at lw_m6 176 rfl) rfl
theorem q1487 : (Jvm.Cond.methodLink "NumberComesModel" (203 : Nat) ({ cls := "NumberComesModel", name := "push", desc := "(I)V" } : Jvm.MethodName)) ∈ lw_all := lw_g (lw_at lw_m6 177 rfl) rfl
theorem q1488 : (Jvm.Cond.privateMethod ({ cls := "NumberComesModel", name := "push", desc := "(I)V" } : Jvm.MethodName)) ∈ lw_tbl := lw_at lw_m6 178 rfl
theorem q1489 : (Jvm.Cond.instanceMethod ({ cls := "NumberComesModel", name := "push", desc := "(I)V" } : Jvm.MethodName)) ∈ lw_all := lw_g (lw_at lw_m6 179 rfl) rfl
theorem q1490 : (Jvm.Cond.code ({ cls := "NumberComesModel", name := "push", desc := "(I)V" } : Jvm.MethodName) prog_17_method_28_code (2 : Nat) (Option.none : Option Jvm.ClassFile.FieldType)) ∈ lw_all := lw_g (lw_at lw_m6 180 rfl) rfl
theorem q1491 : (Jvm.Cond.methodLink "NumberComesModel" (193 : Nat) ({ cls := "NumberComesModel", name := "whole", desc := "()V" } : Jvm.MethodName)) ∈ lw_all := lw_g (lw_at lw_m6 181 rfl) rfl
theorem q1492 : (Jvm.Cond.privateMethod ({ cls := "NumberComesModel", name := "whole", desc := "()V" } : Jvm.MethodName)) ∈ lw_tbl := lw_at lw_m6 182 rfl
theorem q1493 : (Jvm.Cond.instanceMethod ({ cls := "NumberComesModel", name := "whole", desc := "()V" } : Jvm.MethodName)) ∈ lw_all := lw_g (lw_at lw_m6 183 rfl) rfl
theorem q1494 : (Jvm.Cond.code ({ cls := "NumberComesModel", name := "whole", desc := "()V" } : Jvm.MethodName) prog_17_method_29_code (1 : Nat) (Option.none : Option Jvm.ClassFile.FieldType)) ∈ lw_all := lw_g (lw_at lw_m6 184 rfl) rfl
theorem q1495 : (Jvm.Cond.methodLink "NumberComesModel" (219 : Nat) ({ cls := "NumberComesModel", name := "beginOne", desc := "()I" } : Jvm.MethodName)) ∈ lw_all := lw_g (lw_at lw_m6 185 rfl) rfl
theorem q1496 : (Jvm.Cond.privateMethod ({ cls := "NumberComesModel", name := "beginOne", desc := "()I" } : Jvm.MethodName)) ∈ lw_tbl := lw_at lw_m6 186 rfl
theorem q1497 : (Jvm.Cond.instanceMethod ({ cls := "NumberComesModel", name := "beginOne", desc := "()I" } : Jvm.MethodName)) ∈ lw_all := lw_g (lw_at lw_m6 187 rfl) rfl
theorem q1498 : (Jvm.Cond.code ({ cls := "NumberComesModel", name := "beginOne", desc := "()I" } : Jvm.MethodName) prog_17_method_33_code (2 : Nat) (Option.some Jvm.ClassFile.FieldType.int)) ∈ lw_all := lw_g (lw_at lw_m6 188 rfl) rfl
theorem q1499 : (Jvm.Cond.methodLink "NumberComesModel" (196 : Nat) ({ cls := "NumberComesModel", name := "nameOf", desc := "()I" } : Jvm.MethodName)) ∈ lw_all := lw_g (lw_at lw_m6 189 rfl) rfl
theorem q1500 : (Jvm.Cond.privateMethod ({ cls := "NumberComesModel", name := "nameOf", desc := "()I" } : Jvm.MethodName)) ∈ lw_tbl := lw_at lw_m6 190 rfl
theorem q1501 : (Jvm.Cond.instanceMethod ({ cls := "NumberComesModel", name := "nameOf", desc := "()I" } : Jvm.MethodName)) ∈ lw_all := lw_g (lw_at lw_m6 191 rfl) rfl
theorem q1502 : (Jvm.Cond.code ({ cls := "NumberComesModel", name := "nameOf", desc := "()I" } : Jvm.MethodName) prog_17_method_31_code (1 : Nat) (Option.some Jvm.ClassFile.FieldType.int)) ∈ lw_all := lw_g (lw_at lw_m6 192 rfl) rfl
theorem q1503 : (Jvm.Cond.methodLink "NumberComesModel" (200 : Nat) ({ cls := "NumberComesModel", name := "isBarred", desc := "(I)Z" } : Jvm.MethodName)) ∈ lw_all := lw_g (lw_at lw_m6 193 rfl) rfl
theorem q1504 : (Jvm.Cond.privateMethod ({ cls := "NumberComesModel", name := "isBarred", desc := "(I)Z" } : Jvm.MethodName)) ∈ lw_tbl := lw_at lw_m6 194 rfl
theorem q1505 : (Jvm.Cond.instanceMethod ({ cls := "NumberComesModel", name := "isBarred", desc := "(I)Z" } : Jvm.MethodName)) ∈ lw_all := lw_g (lw_at lw_m6 195 rfl) rfl
theorem q1506 : (Jvm.Cond.code ({ cls := "NumberComesModel", name := "isBarred", desc := "(I)Z" } : Jvm.MethodName) prog_17_method_32_code (2 : Nat) (Option.some Jvm.ClassFile.FieldType.boolean)) ∈ lw_all := lw_g (lw_at lw_m6 196 rfl) rfl
theorem q1507 : (Jvm.Cond.methodLink "NumberComesModel" (255 : Nat) ({ cls := "NumberComesModel", name := "either", desc := "()I" } : Jvm.MethodName)) ∈ lw_all := lw_g (lw_at lw_m6 197 rfl) rfl
theorem q1508 : (Jvm.Cond.privateMethod ({ cls := "NumberComesModel", name := "either", desc := "()I" } : Jvm.MethodName)) ∈ lw_tbl := lw_at lw_m6 198 rfl
theorem q1509 : (Jvm.Cond.instanceMethod ({ cls := "NumberComesModel", name := "either", desc := "()I" } : Jvm.MethodName)) ∈ lw_all := lw_g (lw_at lw_m6 199 rfl) rfl
theorem q1510 : (Jvm.Cond.code ({ cls := "NumberComesModel", name := "either", desc := "()I" } : Jvm.MethodName) prog_17_method_40_code (6 : Nat) (Option.some Jvm.ClassFile.FieldType.int)) ∈ lw_all := lw_g (lw_at lw_m6 200 rfl) rfl
theorem q1511 : (Jvm.Cond.methodLink "NumberComesModel" (232 : Nat) ({ cls := "NumberComesModel", name := "asks", desc := "()I" } : Jvm.MethodName)) ∈ lw_all := lw_g (lw_at lw_m6 201 rfl) rfl
theorem q1512 : (Jvm.Cond.privateMethod ({ cls := "NumberComesModel", name := "asks", desc := "()I" } : Jvm.MethodName)) ∈ lw_tbl := lw_at lw_m6 202 rfl
theorem q1513 : (Jvm.Cond.instanceMethod ({ cls := "NumberComesModel", name := "asks", desc := "()I" } : Jvm.MethodName)) ∈ lw_all := lw_g (lw_at lw_m6 203 rfl) rfl
theorem q1514 : (Jvm.Cond.code ({ cls := "NumberComesModel", name := "asks", desc := "()I" } : Jvm.MethodName) prog_17_method_39_code (5 : Nat) (Option.some Jvm.ClassFile.FieldType.int)) ∈ lw_all := lw_g (lw_at lw_m6 204 rfl) rfl
theorem q1515 : (Jvm.Cond.methodLink "NumberComesModel" (229 : Nat) ({ cls := "NumberComesModel", name := "compareOf", desc := "()I" } : Jvm.MethodName)) ∈ lw_all := lw_g (lw_at lw_m6 205 rfl) rfl
theorem q1516 : (Jvm.Cond.privateMethod ({ cls := "NumberComesModel", name := "compareOf", desc := "()I" } : Jvm.MethodName)) ∈ lw_tbl := lw_at lw_m6 206 rfl
theorem q1517 : (Jvm.Cond.instanceMethod ({ cls := "NumberComesModel", name := "compareOf", desc := "()I" } : Jvm.MethodName)) ∈ lw_all := lw_g (lw_at lw_m6 207 rfl) rfl
theorem q1518 : (Jvm.Cond.code ({ cls := "NumberComesModel", name := "compareOf", desc := "()I" } : Jvm.MethodName) prog_17_method_38_code (1 : Nat) (Option.some Jvm.ClassFile.FieldType.int)) ∈ lw_all := lw_g (lw_at lw_m6 208 rfl) rfl
theorem q1519 : (Jvm.Cond.constantLong "NumberComesModel" (235 : Nat) (28530 : Int64)) ∈ lw_all := lw_g (lw_at lw_m6 209 rfl) rfl
theorem q1521 : (Jvm.Cond.instanceMethod ({ cls := "NumberComesModel", name := "fault", desc := "(I)I" } : Jvm.MethodName)) ∈ lw_all := lw_g (lw_at lw_m6 211 rfl) rfl
theorem q1522 : (Jvm.Cond.selects "NumberComesModel" ({ cls := "NumberComesModel", name := "fault", desc := "(I)I" } : Jvm.MethodName) ({ cls := "NumberComesModel", name := "fault", desc := "(I)I" } : Jvm.MethodName)) ∈ lw_all := lw_g (lw_at lw_m6 212 rfl) rfl
theorem q1523 : (Jvm.Cond.code ({ cls := "NumberComesModel", name := "fault", desc := "(I)I" } : Jvm.MethodName) prog_17_method_47_code (2 : Nat) (Option.some Jvm.ClassFile.FieldType.int)) ∈ lw_all := lw_g (lw_at lw_m6 213 rfl) rfl
theorem q1525 : (Jvm.Cond.instanceMethod ({ cls := "NumberComesModel", name := "by", desc := "(I)Z" } : Jvm.MethodName)) ∈ lw_all := lw_g (lw_at lw_m6 215 rfl) rfl
theorem q1526 : (Jvm.Cond.selects "NumberComesModel" ({ cls := "NumberComesModel", name := "by", desc := "(I)Z" } : Jvm.MethodName) ({ cls := "NumberComesModel", name := "by", desc := "(I)Z" } : Jvm.MethodName)) ∈ lw_all := lw_g (lw_at lw_m6 216 rfl) rfl
theorem q1527 : (Jvm.Cond.code ({ cls := "NumberComesModel", name := "by", desc := "(I)Z" } : Jvm.MethodName) prog_17_method_48_code (2 : Nat) (Option.some Jvm.ClassFile.FieldType.boolean)) ∈ lw_all := lw_g (lw_at lw_m6 217 rfl) rfl
theorem q1529 : (Jvm.Cond.instanceMethod ({ cls := "NumberComesModel", name := "roll", desc := "(I)I" } : Jvm.MethodName)) ∈ lw_all := lw_g (lw_at lw_m6 219 rfl) rfl
theorem q1530 : (Jvm.Cond.selects "NumberComesModel" ({ cls := "NumberComesModel", name := "roll", desc := "(I)I" } : Jvm.MethodName) ({ cls := "NumberComesModel", name := "roll", desc := "(I)I" } : Jvm.MethodName)) ∈ lw_all := lw_g (lw_at lw_m6 220 rfl) rfl
theorem q1531 : (Jvm.Cond.code ({ cls := "NumberComesModel", name := "roll", desc := "(I)I" } : Jvm.MethodName) prog_17_method_49_code (4 : Nat) (Option.some Jvm.ClassFile.FieldType.int)) ∈ lw_all := lw_g (lw_at lw_m6 221 rfl) rfl
theorem q1532 : (Jvm.Cond.methodLink "NumberComesModel" (264 : Nat) ({ cls := "NumberComesModel", name := "person", desc := "(II)I" } : Jvm.MethodName)) ∈ lw_all := lw_g (lw_at lw_m6 222 rfl) rfl
theorem q1533 : (Jvm.Cond.methodLink "NumberComesModel" (267 : Nat) ({ cls := "NumberComesModel", name := "near", desc := "(IIZ)Z" } : Jvm.MethodName)) ∈ lw_all := lw_g (lw_at lw_m6 223 rfl) rfl
theorem q1535 : (Jvm.Cond.instanceMethod ({ cls := "NumberComesModel", name := "speaks", desc := "(IJ)Z" } : Jvm.MethodName)) ∈ lw_all := lw_g (lw_at lw_m6 225 rfl) rfl
theorem q1536 : (Jvm.Cond.selects "NumberComesModel" ({ cls := "NumberComesModel", name := "speaks", desc := "(IJ)Z" } : Jvm.MethodName) ({ cls := "NumberComesModel", name := "speaks", desc := "(IJ)Z" } : Jvm.MethodName)) ∈ lw_all := lw_g (lw_at lw_m6 226 rfl) rfl
theorem q1537 : (Jvm.Cond.code ({ cls := "NumberComesModel", name := "speaks", desc := "(IJ)Z" } : Jvm.MethodName) prog_17_method_63_code (4 : Nat) (Option.some Jvm.ClassFile.FieldType.boolean)) ∈ lw_all := lw_g (lw_at lw_m6 227 rfl) rfl
theorem q1538 : (Jvm.Cond.methodLink "NumberComesModel" (313 : Nat) ({ cls := "NumberComesModel", name := "isHour", desc := "(J)Z" } : Jvm.MethodName)) ∈ lw_all := lw_g (lw_at lw_m6 228 rfl) rfl
theorem q1539 : (Jvm.Cond.static ({ cls := "NumberComesModel", name := "isHour", desc := "(J)Z" } : Jvm.MethodName)) ∈ lw_all := lw_g (lw_at lw_m6 229 rfl) rfl
theorem q1540 : (Jvm.Cond.code ({ cls := "NumberComesModel", name := "isHour", desc := "(J)Z" } : Jvm.MethodName) prog_17_method_6_code (2 : Nat) (Option.some Jvm.ClassFile.FieldType.boolean)) ∈ lw_all := lw_g (lw_at lw_m6 230 rfl) rfl
theorem q1541 : (Jvm.Cond.constantLong "NumberComesModel" (108 : Nat) (1000000000000000 : Int64)) ∈ lw_all := lw_g (lw_at lw_m6 231 rfl) rfl
theorem q1542 : (Jvm.Cond.methodLink "NumberComesModel" (316 : Nat) ({ cls := "NumberComesModel", name := "take", desc := "()V" } : Jvm.MethodName)) ∈ lw_all := lw_g (lw_at lw_m6 232 rfl) rfl
theorem q1543 : (Jvm.Cond.privateMethod ({ cls := "NumberComesModel", name := "take", desc := "()V" } : Jvm.MethodName)) ∈ lw_tbl := lw_at lw_m6 233 rfl
theorem q1544 : (Jvm.Cond.instanceMethod ({ cls := "NumberComesModel", name := "take", desc := "()V" } : Jvm.MethodName)) ∈ lw_all := lw_g (lw_at lw_m6 234 rfl) rfl
theorem q1545 : (Jvm.Cond.code ({ cls := "NumberComesModel", name := "take", desc := "()V" } : Jvm.MethodName) prog_17_method_56_code (2 : Nat) (Option.none : Option Jvm.ClassFile.FieldType)) ∈ lw_all := lw_g (lw_at lw_m6 235 rfl) rfl
theorem q1546 : (Jvm.Cond.methodLink "NumberComesModel" (287 : Nat) ({ cls := "NumberComesModel", name := "bar", desc := "(I)V" } : Jvm.MethodName)) ∈ lw_all := lw_g (lw_at lw_m6 236 rfl) rfl
theorem q1547 : (Jvm.Cond.privateMethod ({ cls := "NumberComesModel", name := "bar", desc := "(I)V" } : Jvm.MethodName)) ∈ lw_tbl := lw_at lw_m6 237 rfl
theorem q1548 : (Jvm.Cond.instanceMethod ({ cls := "NumberComesModel", name := "bar", desc := "(I)V" } : Jvm.MethodName)) ∈ lw_all := lw_g (lw_at lw_m6 238 rfl) rfl
theorem q1549 : (Jvm.Cond.code ({ cls := "NumberComesModel", name := "bar", desc := "(I)V" } : Jvm.MethodName) prog_17_method_57_code (5 : Nat) (Option.none : Option Jvm.ClassFile.FieldType)) ∈ lw_all := lw_g (lw_at lw_m6 239 rfl) rfl
theorem q1550 : (Jvm.Cond.methodLink "NumberComesModel" (290 : Nat) ({ cls := "NumberComesModel", name := "isDue", desc := "(IJ)Z" } : Jvm.MethodName)) ∈ lw_all := lw_g (lw_at lw_m7 0 rfl) rfl
theorem q1551 : (Jvm.Cond.privateMethod ({ cls := "NumberComesModel", name := "isDue", desc := "(IJ)Z" } : Jvm.MethodName)) ∈ lw_tbl := lw_at lw_m7 1 rfl
theorem q1552 : (Jvm.Cond.instanceMethod ({ cls := "NumberComesModel", name := "isDue", desc := "(IJ)Z" } : Jvm.MethodName)) ∈ lw_all := lw_g (lw_at lw_m7 2 rfl) rfl
theorem q1553 : (Jvm.Cond.code ({ cls := "NumberComesModel", name := "isDue", desc := "(IJ)Z" } : Jvm.MethodName) prog_17_method_58_code (4 : Nat) (Option.some Jvm.ClassFile.FieldType.boolean)) ∈ lw_all := lw_g (lw_at lw_m7 3 rfl) rfl
theorem q1554 : (Jvm.Cond.methodLink "NumberComesModel" (294 : Nat) ({ cls := "NumberComesModel", name := "clauses", desc := "()I" } : Jvm.MethodName)) ∈ lw_all := lw_g (lw_at lw_m7 4 rfl) rfl
theorem q1555 : (Jvm.Cond.privateMethod ({ cls := "NumberComesModel", name := "clauses", desc := "()I" } : Jvm.MethodName)) ∈ lw_tbl := lw_at lw_m7 5 rfl
theorem q1556 : (Jvm.Cond.instanceMethod ({ cls := "NumberComesModel", name := "clauses", desc := "()I" } : Jvm.MethodName)) ∈ lw_all := lw_g (lw_at lw_m7 6 rfl) rfl
theorem q1557 : (Jvm.Cond.code ({ cls := "NumberComesModel", name := "clauses", desc := "()I" } : Jvm.MethodName) prog_17_method_54_code (1 : Nat) (Option.some Jvm.ClassFile.FieldType.int)) ∈ lw_all := lw_g (lw_at lw_m7 7 rfl) rfl
theorem q1558 : (Jvm.Cond.methodLink "NumberComesModel" (297 : Nat) ({ cls := "NumberComesModel", name := "sortAt", desc := "(I)I" } : Jvm.MethodName)) ∈ lw_all := lw_g (lw_at lw_m7 8 rfl) rfl
theorem q1559 : (Jvm.Cond.privateMethod ({ cls := "NumberComesModel", name := "sortAt", desc := "(I)I" } : Jvm.MethodName)) ∈ lw_tbl := lw_at lw_m7 9 rfl
theorem q1560 : (Jvm.Cond.instanceMethod ({ cls := "NumberComesModel", name := "sortAt", desc := "(I)I" } : Jvm.MethodName)) ∈ lw_all := lw_g (lw_at lw_m7 10 rfl) rfl
theorem q1561 : (Jvm.Cond.code ({ cls := "NumberComesModel", name := "sortAt", desc := "(I)I" } : Jvm.MethodName) prog_17_method_55_code (2 : Nat) (Option.some Jvm.ClassFile.FieldType.int)) ∈ lw_all := lw_g (lw_at lw_m7 11 rfl) rfl
theorem q1562 : (Jvm.Cond.methodLink "NumberComesModel" (300 : Nat) ({ cls := "NumberComesModel", name := "work", desc := "(I)V" } : Jvm.MethodName)) ∈ lw_all := lw_g (lw_at lw_m7 12 rfl) rfl
theorem q1563 : (Jvm.Cond.privateMethod ({ cls := "NumberComesModel", name := "work", desc := "(I)V" } : Jvm.MethodName)) ∈ lw_tbl := lw_at lw_m7 13 rfl
theorem q1564 : (Jvm.Cond.instanceMethod ({ cls := "NumberComesModel", name := "work", desc := "(I)V" } : Jvm.MethodName)) ∈ lw_all := lw_g (lw_at lw_m7 14 rfl) rfl
theorem q1565 : (Jvm.Cond.code ({ cls := "NumberComesModel", name := "work", desc := "(I)V" } : Jvm.MethodName) prog_17_method_53_code (9 : Nat) (Option.none : Option Jvm.ClassFile.FieldType)) ∈ lw_all := lw_g (lw_at lw_m7 15 rfl) rfl
theorem q1566 : (Jvm.Cond.methodLink "NumberComesModel" (279 : Nat) ({ cls := "NumberComesModel", name := "two", desc := "(IJJ)J" } : Jvm.MethodName)) ∈ lw_all := lw_g (lw_at lw_m7 16 rfl) rfl
theorem q1567 : (Jvm.Cond.static ({ cls := "NumberComesModel", name := "two", desc := "(IJJ)J" } : Jvm.MethodName)) ∈ lw_all := lw_g (lw_at lw_m7 17 rfl) rfl
theorem q1568 : (Jvm.Cond.code ({ cls := "NumberComesModel", name := "two", desc := "(IJJ)J" } : Jvm.MethodName) prog_17_method_51_code (5 : Nat) (Option.some Jvm.ClassFile.FieldType.long)) ∈ lw_all := lw_g (lw_at lw_m7 18 rfl) rfl
theorem q1569 : (Jvm.Cond.methodLink "NumberComesModel" (275 : Nat) ({ cls := "NumberComesModel", name := "clip", desc := "(J)J" } : Jvm.MethodName)) ∈ lw_all := lw_g (lw_at lw_m7 19 rfl) rfl
theorem q1570 : (Jvm.Cond.static ({ cls := "NumberComesModel", name := "clip", desc := "(J)J" } : Jvm.MethodName)) ∈ lw_all := lw_g (lw_at lw_m7 20 rfl) rfl
theorem q1571 : (Jvm.Cond.code ({ cls := "NumberComesModel", name := "clip", desc := "(J)J" } : Jvm.MethodName) prog_17_method_50_code (2 : Nat) (Option.some Jvm.ClassFile.FieldType.long)) ∈ lw_all := lw_g (lw_at lw_m7 21 rfl) rfl
theorem q1572 : (Jvm.Cond.constantLong "NumberComesModel" (271 : Nat) (1000000 : Int64)) ∈ lw_all := lw_g (lw_at lw_m7 22 rfl) rfl
theorem q1573 : (Jvm.Cond.constantLong "NumberComesModel" (273 : Nat) (-1000000 : Int64)) ∈ lw_all := lw_g (lw_at lw_m7 23 rfl) rfl
theorem q1574 : (Jvm.Cond.methodLink "NumberComesModel" (283 : Nat) ({ cls := "NumberComesModel", name := "isAsked", desc := "(IJJ)Z" } : Jvm.MethodName)) ∈ lw_all := lw_g (lw_at lw_m7 24 rfl) rfl
theorem q1575 : (Jvm.Cond.static ({ cls := "NumberComesModel", name := "isAsked", desc := "(IJJ)Z" } : Jvm.MethodName)) ∈ lw_all := lw_g (lw_at lw_m7 25 rfl) rfl
theorem q1576 : (Jvm.Cond.code ({ cls := "NumberComesModel", name := "isAsked", desc := "(IJJ)Z" } : Jvm.MethodName) prog_17_method_52_code (5 : Nat) (Option.some Jvm.ClassFile.FieldType.boolean)) ∈ lw_all := lw_g (lw_at lw_m7 26 rfl) rfl
theorem q1577 : (Jvm.Cond.methodLink "NumberComesModel" (307 : Nat) ({ cls := "NumberComesModel", name := "isSpeaking", desc := "(IJ)Z" } : Jvm.MethodName)) ∈ lw_all := lw_g (lw_at lw_m7 27 rfl) rfl
theorem q1578 : (Jvm.Cond.privateMethod ({ cls := "NumberComesModel", name := "isSpeaking", desc := "(IJ)Z" } : Jvm.MethodName)) ∈ lw_tbl := lw_at lw_m7 28 rfl
theorem q1579 : (Jvm.Cond.instanceMethod ({ cls := "NumberComesModel", name := "isSpeaking", desc := "(IJ)Z" } : Jvm.MethodName)) ∈ lw_all := lw_g (lw_at lw_m7 29 rfl) rfl
theorem q1580 : (Jvm.Cond.code ({ cls := "NumberComesModel", name := "isSpeaking", desc := "(IJ)Z" } : Jvm.MethodName) prog_17_method_60_code (4 : Nat) (Option.some Jvm.ClassFile.FieldType.boolean)) ∈ lw_all := lw_g (lw_at lw_m7 30 rfl) rfl
theorem q1581 : (Jvm.Cond.methodLink "NumberComesModel" (303 : Nat) ({ cls := "NumberComesModel", name := "isSpeakingBy", desc := "(IJI)Z" } : Jvm.MethodName)) ∈ lw_all := lw_g (lw_at lw_m7 31 rfl) rfl
theorem q1582 : (Jvm.Cond.privateMethod ({ cls := "NumberComesModel", name := "isSpeakingBy", desc := "(IJI)Z" } : Jvm.MethodName)) ∈ lw_tbl := lw_at lw_m7 32 rfl
theorem q1583 : (Jvm.Cond.instanceMethod ({ cls := "NumberComesModel", name := "isSpeakingBy", desc := "(IJI)Z" } : Jvm.MethodName)) ∈ lw_all := lw_g (lw_at lw_m7 33 rfl) rfl
theorem q1584 : (Jvm.Cond.code ({ cls := "NumberComesModel", name := "isSpeakingBy", desc := "(IJI)Z" } : Jvm.MethodName) prog_17_method_59_code (5 : Nat) (Option.some Jvm.ClassFile.FieldType.boolean)) ∈ lw_all := lw_g (lw_at lw_m7 34 rfl) rfl
theorem q1586 : (Jvm.Cond.instanceMethod ({ cls := "NumberComesModel", name := "next", desc := "(IJ)J" } : Jvm.MethodName)) ∈ lw_all := lw_g (lw_at lw_m7 36 rfl) rfl
theorem q1587 : (Jvm.Cond.selects "NumberComesModel" ({ cls := "NumberComesModel", name := "next", desc := "(IJ)J" } : Jvm.MethodName) ({ cls := "NumberComesModel", name := "next", desc := "(IJ)J" } : Jvm.MethodName)) ∈ lw_all := lw_g (lw_at lw_m7 37 rfl) rfl
theorem q1588 : (Jvm.Cond.code ({ cls := "NumberComesModel", name := "next", desc := "(IJ)J" } : Jvm.MethodName) prog_17_method_75_code (10 : Nat) (Option.some Jvm.ClassFile.FieldType.long)) ∈ lw_all := lw_g (lw_at lw_m7 38 rfl) rfl
theorem q1589 : (Jvm.Cond.methodLink "NumberComesModel" (352 : Nat) ({ cls := "NumberComesModel", name := "isSet", desc := "(I)Z" } : Jvm.MethodName)) ∈ lw_all := lw_g (lw_at lw_m7 39 rfl) rfl
theorem q1590 : (Jvm.Cond.privateMethod ({ cls := "NumberComesModel", name := "isSet", desc := "(I)Z" } : Jvm.MethodName)) ∈ lw_tbl := lw_at lw_m7 40 rfl
theorem q1591 : (Jvm.Cond.instanceMethod ({ cls := "NumberComesModel", name := "isSet", desc := "(I)Z" } : Jvm.MethodName)) ∈ lw_all := lw_g (lw_at lw_m7 41 rfl) rfl
theorem q1592 : (Jvm.Cond.code ({ cls := "NumberComesModel", name := "isSet", desc := "(I)Z" } : Jvm.MethodName) prog_17_method_5_code (2 : Nat) (Option.some Jvm.ClassFile.FieldType.boolean)) ∈ lw_all := lw_g (lw_at lw_m7 42 rfl) rfl
theorem q1593 : (Jvm.Cond.constantLong "NumberComesModel" (350 : Nat) (-1 : Int64)) ∈ lw_all := lw_g (lw_at lw_m7 43 rfl) rfl
theorem q1594 : (Jvm.Cond.methodLink "NumberComesModel" (355 : Nat) ({ cls := "NumberComesModel", name := "nextByDay", desc := "(IJ)J" } : Jvm.MethodName)) ∈ lw_all := lw_g (lw_at lw_m7 44 rfl) rfl
theorem q1595 : (Jvm.Cond.privateMethod ({ cls := "NumberComesModel", name := "nextByDay", desc := "(IJ)J" } : Jvm.MethodName)) ∈ lw_tbl := lw_at lw_m7 45 rfl
theorem q1596 : (Jvm.Cond.instanceMethod ({ cls := "NumberComesModel", name := "nextByDay", desc := "(IJ)J" } : Jvm.MethodName)) ∈ lw_all := lw_g (lw_at lw_m7 46 rfl) rfl
theorem q1597 : (Jvm.Cond.code ({ cls := "NumberComesModel", name := "nextByDay", desc := "(IJ)J" } : Jvm.MethodName) prog_17_method_74_code (6 : Nat) (Option.some Jvm.ClassFile.FieldType.long)) ∈ lw_all := lw_g (lw_at lw_m7 47 rfl) rfl
theorem q1598 : (Jvm.Cond.methodLink "NumberComesModel" (342 : Nat) ({ cls := "NumberComesModel", name := "turnRound", desc := "()I" } : Jvm.MethodName)) ∈ lw_all := lw_g (lw_at lw_m7 48 rfl) rfl
theorem q1599 : (Jvm.Cond.privateMethod ({ cls := "NumberComesModel", name := "turnRound", desc := "()I" } : Jvm.MethodName)) ∈ lw_tbl := lw_at lw_m7 49 rfl
theorem q1600 : (Jvm.Cond.instanceMethod ({ cls := "NumberComesModel", name := "turnRound", desc := "()I" } : Jvm.MethodName)) ∈ lw_all := lw_g (lw_at lw_m7 50 rfl) rfl
theorem q1601 : (Jvm.Cond.code ({ cls := "NumberComesModel", name := "turnRound", desc := "()I" } : Jvm.MethodName) prog_17_method_73_code (1 : Nat) (Option.some Jvm.ClassFile.FieldType.int)) ∈ lw_all := lw_g (lw_at lw_m7 51 rfl) rfl
theorem q1602 : (Jvm.Cond.methodLink "NumberComesModel" (327 : Nat) ({ cls := "NumberComesModel", name := "common", desc := "(JJ)J" } : Jvm.MethodName)) ∈ lw_all := lw_g (lw_at lw_m7 52 rfl) rfl
theorem q1603 : (Jvm.Cond.static ({ cls := "NumberComesModel", name := "common", desc := "(JJ)J" } : Jvm.MethodName)) ∈ lw_all := lw_g (lw_at lw_m7 53 rfl) rfl
theorem q1604 : (Jvm.Cond.code ({ cls := "NumberComesModel", name := "common", desc := "(JJ)J" } : Jvm.MethodName) prog_17_method_64_code (10 : Nat) (Option.some Jvm.ClassFile.FieldType.long)) ∈ lw_all := lw_g (lw_at lw_m7 54 rfl) rfl
theorem q1605 : (Jvm.Cond.methodLink "NumberComesModel" (345 : Nat) ({ cls := "NumberComesModel", name := "doAll", desc := "(IJ)Z" } : Jvm.MethodName)) ∈ lw_all := lw_g (lw_at lw_m7 55 rfl) rfl
theorem q1606 : (Jvm.Cond.privateMethod ({ cls := "NumberComesModel", name := "doAll", desc := "(IJ)Z" } : Jvm.MethodName)) ∈ lw_tbl := lw_at lw_m7 56 rfl
theorem q1607 : (Jvm.Cond.instanceMethod ({ cls := "NumberComesModel", name := "doAll", desc := "(IJ)Z" } : Jvm.MethodName)) ∈ lw_all := lw_g (lw_at lw_m7 57 rfl) rfl
theorem q1608 : (Jvm.Cond.code ({ cls := "NumberComesModel", name := "doAll", desc := "(IJ)Z" } : Jvm.MethodName) prog_17_method_62_code (5 : Nat) (Option.some Jvm.ClassFile.FieldType.boolean)) ∈ lw_all := lw_g (lw_at lw_m7 58 rfl) rfl
theorem q1609 : (Jvm.Cond.methodLink "NumberComesModel" (310 : Nat) ({ cls := "NumberComesModel", name := "has", desc := "(II)Z" } : Jvm.MethodName)) ∈ lw_all := lw_g (lw_at lw_m7 59 rfl) rfl
theorem q1610 : (Jvm.Cond.static ({ cls := "NumberComesModel", name := "has", desc := "(II)Z" } : Jvm.MethodName)) ∈ lw_all := lw_g (lw_at lw_m7 60 rfl) rfl
theorem q1611 : (Jvm.Cond.code ({ cls := "NumberComesModel", name := "has", desc := "(II)Z" } : Jvm.MethodName) prog_17_method_7_code (2 : Nat) (Option.some Jvm.ClassFile.FieldType.boolean)) ∈ lw_all := lw_g (lw_at lw_m7 61 rfl) rfl
theorem q1612 : (Jvm.Cond.constantLong "NumberComesModel" (348 : Nat) (-2 : Int64)) ∈ lw_all := lw_g (lw_at lw_m7 62 rfl) rfl
theorem q1613 : (Jvm.Cond.methodLink "NumberComesModel" (359 : Nat) ({ cls := "NumberComesModel", name := "areJoined", desc := "(I)Z" } : Jvm.MethodName)) ∈ lw_all := lw_g (lw_at lw_m7 63 rfl) rfl
theorem q1614 : (Jvm.Cond.privateMethod ({ cls := "NumberComesModel", name := "areJoined", desc := "(I)Z" } : Jvm.MethodName)) ∈ lw_tbl := lw_at lw_m7 64 rfl
theorem q1615 : (Jvm.Cond.instanceMethod ({ cls := "NumberComesModel", name := "areJoined", desc := "(I)Z" } : Jvm.MethodName)) ∈ lw_all := lw_g (lw_at lw_m7 65 rfl) rfl
theorem q1616 : (Jvm.Cond.code ({ cls := "NumberComesModel", name := "areJoined", desc := "(I)Z" } : Jvm.MethodName) prog_17_method_68_code (4 : Nat) (Option.some Jvm.ClassFile.FieldType.boolean)) ∈ lw_all := lw_g (lw_at lw_m7 66 rfl) rfl
theorem q1617 : (Jvm.Cond.methodLink "NumberComesModel" (334 : Nat) ({ cls := "NumberComesModel", name := "canMeet", desc := "(II)Z" } : Jvm.MethodName)) ∈ lw_all := lw_g (lw_at lw_m7 67 rfl) rfl
theorem q1618 : (Jvm.Cond.privateMethod ({ cls := "NumberComesModel", name := "canMeet", desc := "(II)Z" } : Jvm.MethodName)) ∈ lw_tbl := lw_at lw_m7 68 rfl
theorem q1619 : (Jvm.Cond.instanceMethod ({ cls := "NumberComesModel", name := "canMeet", desc := "(II)Z" } : Jvm.MethodName)) ∈ lw_all := lw_g (lw_at lw_m7 69 rfl) rfl
theorem q1620 : (Jvm.Cond.code ({ cls := "NumberComesModel", name := "canMeet", desc := "(II)Z" } : Jvm.MethodName) prog_17_method_67_code (3 : Nat) (Option.some Jvm.ClassFile.FieldType.boolean)) ∈ lw_all := lw_g (lw_at lw_m7 70 rfl) rfl
theorem q1621 : (Jvm.Cond.constantLong "NumberComesModel" (340 : Nat) (1000000000000001 : Int64)) ∈ lw_all := lw_g (lw_at lw_m7 71 rfl) rfl
theorem q1622 : (Jvm.Cond.methodLink "NumberComesModel" (362 : Nat) ({ cls := "NumberComesModel", name := "isOpen", desc := "(II)Z" } : Jvm.MethodName)) ∈ lw_all := lw_g (lw_at lw_m7 72 rfl) rfl
theorem q1623 : (Jvm.Cond.privateMethod ({ cls := "NumberComesModel", name := "isOpen", desc := "(II)Z" } : Jvm.MethodName)) ∈ lw_tbl := lw_at lw_m7 73 rfl
theorem q1624 : (Jvm.Cond.instanceMethod ({ cls := "NumberComesModel", name := "isOpen", desc := "(II)Z" } : Jvm.MethodName)) ∈ lw_all := lw_g (lw_at lw_m7 74 rfl) rfl
theorem q1625 : (Jvm.Cond.code ({ cls := "NumberComesModel", name := "isOpen", desc := "(II)Z" } : Jvm.MethodName) prog_17_method_69_code (4 : Nat) (Option.some Jvm.ClassFile.FieldType.boolean)) ∈ lw_all := lw_g (lw_at lw_m7 75 rfl) rfl
theorem q1626 : (Jvm.Cond.methodLink "NumberComesModel" (365 : Nat) ({ cls := "NumberComesModel", name := "findHours", desc := "(II)Z" } : Jvm.MethodName)) ∈ lw_all := lw_g (lw_at lw_m7 76 rfl) rfl
theorem q1627 : (Jvm.Cond.privateMethod ({ cls := "NumberComesModel", name := "findHours", desc := "(II)Z" } : Jvm.MethodName)) ∈ lw_tbl := lw_at lw_m7 77 rfl
theorem q1628 : (Jvm.Cond.instanceMethod ({ cls := "NumberComesModel", name := "findHours", desc := "(II)Z" } : Jvm.MethodName)) ∈ lw_all := lw_g (lw_at lw_m7 78 rfl) rfl
theorem q1629 : (Jvm.Cond.code ({ cls := "NumberComesModel", name := "findHours", desc := "(II)Z" } : Jvm.MethodName) prog_17_method_70_code (4 : Nat) (Option.some Jvm.ClassFile.FieldType.boolean)) ∈ lw_all := lw_g (lw_at lw_m7 79 rfl) rfl
theorem q1630 : (Jvm.Cond.methodLink "NumberComesModel" (337 : Nat) ({ cls := "NumberComesModel", name := "join", desc := "(I)Z" } : Jvm.MethodName)) ∈ lw_all := lw_g (lw_at lw_m7 80 rfl) rfl
theorem q1631 : (Jvm.Cond.privateMethod ({ cls := "NumberComesModel", name := "join", desc := "(I)Z" } : Jvm.MethodName)) ∈ lw_tbl := lw_at lw_m7 81 rfl
theorem q1632 : (Jvm.Cond.instanceMethod ({ cls := "NumberComesModel", name := "join", desc := "(I)Z" } : Jvm.MethodName)) ∈ lw_all := lw_g (lw_at lw_m7 82 rfl) rfl
theorem q1633 : (Jvm.Cond.code ({ cls := "NumberComesModel", name := "join", desc := "(I)Z" } : Jvm.MethodName) prog_17_method_66_code (12 : Nat) (Option.some Jvm.ClassFile.FieldType.boolean)) ∈ lw_all := lw_g (lw_at lw_m7 83 rfl) rfl
theorem q1634 : (Jvm.Cond.constantLong "NumberComesModel" (322 : Nat) (2000000000000000000 : Int64)) ∈ lw_all := lw_g (lw_at lw_m7 84 rfl) rfl
theorem q1635 : (Jvm.Cond.methodLink "NumberComesModel" (331 : Nat) ({ cls := "NumberComesModel", name := "inverse", desc := "(JJ)J" } : Jvm.MethodName)) ∈ lw_all := lw_g (lw_at lw_m7 85 rfl) rfl
theorem q1636 : (Jvm.Cond.static ({ cls := "NumberComesModel", name := "inverse", desc := "(JJ)J" } : Jvm.MethodName)) ∈ lw_all := lw_g (lw_at lw_m7 86 rfl) rfl
theorem q1637 : (Jvm.Cond.code ({ cls := "NumberComesModel", name := "inverse", desc := "(JJ)J" } : Jvm.MethodName) prog_17_method_65_code (18 : Nat) (Option.some Jvm.ClassFile.FieldType.long)) ∈ lw_all := lw_g (lw_at lw_m7 87 rfl) rfl
theorem q1638 : (Jvm.Cond.methodLink "NumberComesModel" (368 : Nat) ({ cls := "NumberComesModel", name := "begin", desc := "(IJ)J" } : Jvm.MethodName)) ∈ lw_all := lw_g (lw_at lw_m7 88 rfl) rfl
theorem q1639 : (Jvm.Cond.privateMethod ({ cls := "NumberComesModel", name := "begin", desc := "(IJ)J" } : Jvm.MethodName)) ∈ lw_tbl := lw_at lw_m7 89 rfl
theorem q1640 : (Jvm.Cond.instanceMethod ({ cls := "NumberComesModel", name := "begin", desc := "(IJ)J" } : Jvm.MethodName)) ∈ lw_all := lw_g (lw_at lw_m7 90 rfl) rfl
theorem q1641 : (Jvm.Cond.code ({ cls := "NumberComesModel", name := "begin", desc := "(IJ)J" } : Jvm.MethodName) prog_17_method_71_code (7 : Nat) (Option.some Jvm.ClassFile.FieldType.long)) ∈ lw_all := lw_g (lw_at lw_m7 91 rfl) rfl
theorem q1642 : (Jvm.Cond.methodLink "NumberComesModel" (371 : Nat) ({ cls := "NumberComesModel", name := "from", desc := "(J)J" } : Jvm.MethodName)) ∈ lw_all := lw_g (lw_at lw_m7 92 rfl) rfl
theorem q1643 : (Jvm.Cond.privateMethod ({ cls := "NumberComesModel", name := "from", desc := "(J)J" } : Jvm.MethodName)) ∈ lw_tbl := lw_at lw_m7 93 rfl
theorem q1644 : (Jvm.Cond.instanceMethod ({ cls := "NumberComesModel", name := "from", desc := "(J)J" } : Jvm.MethodName)) ∈ lw_all := lw_g (lw_at lw_m7 94 rfl) rfl
theorem q1645 : (Jvm.Cond.code ({ cls := "NumberComesModel", name := "from", desc := "(J)J" } : Jvm.MethodName) prog_17_method_72_code (3 : Nat) (Option.some Jvm.ClassFile.FieldType.long)) ∈ lw_all := lw_g (lw_at lw_m7 95 rfl) rfl
theorem q1647 : (Jvm.Cond.instanceMethod ({ cls := "NumberComesModel", name := "barred", desc := "(II)I" } : Jvm.MethodName)) ∈ lw_all := lw_g (lw_at lw_m7 97 rfl) rfl
theorem q1648 : (Jvm.Cond.selects "NumberComesModel" ({ cls := "NumberComesModel", name := "barred", desc := "(II)I" } : Jvm.MethodName) ({ cls := "NumberComesModel", name := "barred", desc := "(II)I" } : Jvm.MethodName)) ∈ lw_all := lw_g (lw_at lw_m7 98 rfl) rfl
theorem q1649 : (Jvm.Cond.code ({ cls := "NumberComesModel", name := "barred", desc := "(II)I" } : Jvm.MethodName) prog_17_method_76_code (5 : Nat) (Option.some Jvm.ClassFile.FieldType.int)) ∈ lw_all := lw_g (lw_at lw_m7 99 rfl) rfl
theorem q1651 : (Jvm.Cond.instanceMethod ({ cls := "NumberComesModel", name := "together", desc := "(IJJ)J" } : Jvm.MethodName)) ∈ lw_all := lw_g (lw_at lw_m7 101 rfl) rfl
theorem q1652 : (Jvm.Cond.selects "NumberComesModel" ({ cls := "NumberComesModel", name := "together", desc := "(IJJ)J" } : Jvm.MethodName) ({ cls := "NumberComesModel", name := "together", desc := "(IJJ)J" } : Jvm.MethodName)) ∈ lw_all := lw_g (lw_at lw_m7 102 rfl) rfl
theorem q1653 : (Jvm.Cond.code ({ cls := "NumberComesModel", name := "together", desc := "(IJJ)J" } : Jvm.MethodName) prog_17_method_80_code (6 : Nat) (Option.some Jvm.ClassFile.FieldType.long)) ∈ lw_all := lw_g (lw_at lw_m7 103 rfl) rfl
theorem q1654 : (Jvm.Cond.methodLink "NumberComesModel" (378 : Nat) ({ cls := "NumberComesModel", name := "areHours", desc := "(JJ)Z" } : Jvm.MethodName)) ∈ lw_all := lw_g (lw_at lw_m7 104 rfl) rfl
theorem q1655 : (Jvm.Cond.static ({ cls := "NumberComesModel", name := "areHours", desc := "(JJ)Z" } : Jvm.MethodName)) ∈ lw_all := lw_g (lw_at lw_m7 105 rfl) rfl
theorem q1656 : (Jvm.Cond.code ({ cls := "NumberComesModel", name := "areHours", desc := "(JJ)Z" } : Jvm.MethodName) prog_17_method_79_code (4 : Nat) (Option.some Jvm.ClassFile.FieldType.boolean)) ∈ lw_all := lw_g (lw_at lw_m7 106 rfl) rfl
theorem q1657 : (Jvm.Cond.methodLink "NumberComesModel" (382 : Nat) ({ cls := "NumberComesModel", name := "togetherOf", desc := "(IJJ)J" } : Jvm.MethodName)) ∈ lw_all := lw_g (lw_at lw_m7 107 rfl) rfl
theorem q1658 : (Jvm.Cond.privateMethod ({ cls := "NumberComesModel", name := "togetherOf", desc := "(IJJ)J" } : Jvm.MethodName)) ∈ lw_tbl := lw_at lw_m7 108 rfl
theorem q1659 : (Jvm.Cond.instanceMethod ({ cls := "NumberComesModel", name := "togetherOf", desc := "(IJJ)J" } : Jvm.MethodName)) ∈ lw_all := lw_g (lw_at lw_m7 109 rfl) rfl
theorem q1660 : (Jvm.Cond.code ({ cls := "NumberComesModel", name := "togetherOf", desc := "(IJJ)J" } : Jvm.MethodName) prog_17_method_78_code (14 : Nat) (Option.some Jvm.ClassFile.FieldType.long)) ∈ lw_all := lw_g (lw_at lw_m7 110 rfl) rfl
theorem q1661 : (Jvm.Cond.methodLink "NumberComesModel" (374 : Nat) ({ cls := "NumberComesModel", name := "countIn", desc := "(IJI)I" } : Jvm.MethodName)) ∈ lw_all := lw_g (lw_at lw_m7 111 rfl) rfl
theorem q1662 : (Jvm.Cond.privateMethod ({ cls := "NumberComesModel", name := "countIn", desc := "(IJI)I" } : Jvm.MethodName)) ∈ lw_tbl := lw_at lw_m7 112 rfl
theorem q1663 : (Jvm.Cond.instanceMethod ({ cls := "NumberComesModel", name := "countIn", desc := "(IJI)I" } : Jvm.MethodName)) ∈ lw_all := lw_g (lw_at lw_m7 113 rfl) rfl
theorem q1664 : (Jvm.Cond.code ({ cls := "NumberComesModel", name := "countIn", desc := "(IJI)I" } : Jvm.MethodName) prog_17_method_77_code (12 : Nat) (Option.some Jvm.ClassFile.FieldType.int)) ∈ lw_all := lw_g (lw_at lw_m7 114 rfl) rfl
theorem q1666 : (Jvm.Cond.instanceMethod ({ cls := "NumberComesModel", name := "alone", desc := "(IJI)I" } : Jvm.MethodName)) ∈ lw_all := lw_g (lw_at lw_m7 116 rfl) rfl
theorem q1667 : (Jvm.Cond.selects "NumberComesModel" ({ cls := "NumberComesModel", name := "alone", desc := "(IJI)I" } : Jvm.MethodName) ({ cls := "NumberComesModel", name := "alone", desc := "(IJI)I" } : Jvm.MethodName)) ∈ lw_all := lw_g (lw_at lw_m7 117 rfl) rfl
theorem q1668 : (Jvm.Cond.code ({ cls := "NumberComesModel", name := "alone", desc := "(IJI)I" } : Jvm.MethodName) prog_17_method_81_code (10 : Nat) (Option.some Jvm.ClassFile.FieldType.int)) ∈ lw_all := lw_g (lw_at lw_m7 118 rfl) rfl
theorem q1669 : (Jvm.Cond.methodLink "NumberComesModel" (385 : Nat) ({ cls := "NumberComesModel", name := "speakers", desc := "(J)I" } : Jvm.MethodName)) ∈ lw_all := lw_g (lw_at lw_m7 119 rfl) rfl
theorem q1670 : (Jvm.Cond.privateMethod ({ cls := "NumberComesModel", name := "speakers", desc := "(J)I" } : Jvm.MethodName)) ∈ lw_tbl := lw_at lw_m7 120 rfl
theorem q1671 : (Jvm.Cond.instanceMethod ({ cls := "NumberComesModel", name := "speakers", desc := "(J)I" } : Jvm.MethodName)) ∈ lw_all := lw_g (lw_at lw_m7 121 rfl) rfl
theorem q1672 : (Jvm.Cond.code ({ cls := "NumberComesModel", name := "speakers", desc := "(J)I" } : Jvm.MethodName) prog_17_method_61_code (5 : Nat) (Option.some Jvm.ClassFile.FieldType.int)) ∈ lw_all := lw_g (lw_at lw_m7 122 rfl) rfl
theorem q1674 : (Jvm.Cond.instanceMethod ({ cls := "NumberComesModel", name := "secret", desc := "(IIJI)J" } : Jvm.MethodName)) ∈ lw_all := lw_g (lw_at lw_m7 124 rfl) rfl
theorem q1675 : (Jvm.Cond.selects "NumberComesModel" ({ cls := "NumberComesModel", name := "secret", desc := "(IIJI)J" } : Jvm.MethodName) ({ cls := "NumberComesModel", name := "secret", desc := "(IIJI)J" } : Jvm.MethodName)) ∈ lw_all := lw_g (lw_at lw_m7 125 rfl) rfl
theorem q1676 : (Jvm.Cond.code ({ cls := "NumberComesModel", name := "secret", desc := "(IIJI)J" } : Jvm.MethodName) prog_17_method_83_code (9 : Nat) (Option.some Jvm.ClassFile.FieldType.long)) ∈ lw_all := lw_g (lw_at lw_m7 126 rfl) rfl
theorem q1677 : (Jvm.Cond.constantLong "NumberComesModel" (389 : Nat) (100000 : Int64)) ∈ lw_all := lw_g (lw_at lw_m7 127 rfl) rfl
theorem q1678 : (Jvm.Cond.methodLink "NumberComesModel" (391 : Nat) ({ cls := "NumberComesModel", name := "isSecret", desc := "(IIJ)Z" } : Jvm.MethodName)) ∈ lw_all := lw_g (lw_at lw_m7 128 rfl) rfl
theorem q1679 : (Jvm.Cond.privateMethod ({ cls := "NumberComesModel", name := "isSecret", desc := "(IIJ)Z" } : Jvm.MethodName)) ∈ lw_tbl := lw_at lw_m7 129 rfl
theorem q1680 : (Jvm.Cond.instanceMethod ({ cls := "NumberComesModel", name := "isSecret", desc := "(IIJ)Z" } : Jvm.MethodName)) ∈ lw_all := lw_g (lw_at lw_m7 130 rfl) rfl
theorem q1681 : (Jvm.Cond.code ({ cls := "NumberComesModel", name := "isSecret", desc := "(IIJ)Z" } : Jvm.MethodName) prog_17_method_82_code (7 : Nat) (Option.some Jvm.ClassFile.FieldType.boolean)) ∈ lw_all := lw_g (lw_at lw_m7 131 rfl) rfl
theorem q1683 : (Jvm.Cond.instanceMethod ({ cls := "NumberComesModel", name := "pass", desc := "(IJII)J" } : Jvm.MethodName)) ∈ lw_all := lw_g (lw_at lw_m7 133 rfl) rfl
theorem q1684 : (Jvm.Cond.selects "NumberComesModel" ({ cls := "NumberComesModel", name := "pass", desc := "(IJII)J" } : Jvm.MethodName) ({ cls := "NumberComesModel", name := "pass", desc := "(IJII)J" } : Jvm.MethodName)) ∈ lw_all := lw_g (lw_at lw_m7 134 rfl) rfl
theorem q1685 : (Jvm.Cond.code ({ cls := "NumberComesModel", name := "pass", desc := "(IJII)J" } : Jvm.MethodName) prog_17_method_85_code (10 : Nat) (Option.some Jvm.ClassFile.FieldType.long)) ∈ lw_all := lw_g (lw_at lw_m7 135 rfl) rfl
theorem q1686 : (Jvm.Cond.constantLong "NumberComesModel" (395 : Nat) (100000000000000 : Int64)) ∈ lw_all := lw_g (lw_at lw_m7 136 rfl) rfl
theorem q1687 : (Jvm.Cond.methodLink "NumberComesModel" (397 : Nat) ({ cls := "NumberComesModel", name := "lowest", desc := "(I)I" } : Jvm.MethodName)) ∈ lw_all := lw_g (lw_at lw_m7 137 rfl) rfl
theorem q1688 : (Jvm.Cond.static ({ cls := "NumberComesModel", name := "lowest", desc := "(I)I" } : Jvm.MethodName)) ∈ lw_all := lw_g (lw_at lw_m7 138 rfl) rfl
theorem q1689 : (Jvm.Cond.code ({ cls := "NumberComesModel", name := "lowest", desc := "(I)I" } : Jvm.MethodName) prog_17_method_84_code (2 : Nat) (Option.some Jvm.ClassFile.FieldType.int)) ∈ lw_all := lw_g (lw_at lw_m7 139 rfl) rfl
theorem q1691 : (Jvm.Cond.instanceMethod ({ cls := "NumberComesModel", name := "talk", desc := "(JII)I" } : Jvm.MethodName)) ∈ lw_all := lw_g (lw_at lw_m7 141 rfl) rfl
theorem q1692 : (Jvm.Cond.selects "NumberComesModel" ({ cls := "NumberComesModel", name := "talk", desc := "(JII)I" } : Jvm.MethodName) ({ cls := "NumberComesModel", name := "talk", desc := "(JII)I" } : Jvm.MethodName)) ∈ lw_all := lw_g (lw_at lw_m7 142 rfl) rfl
theorem q1693 : (Jvm.Cond.code ({ cls := "NumberComesModel", name := "talk", desc := "(JII)I" } : Jvm.MethodName) prog_17_method_86_code (5 : Nat) (Option.some Jvm.ClassFile.FieldType.int)) ∈ lw_all := lw_g (lw_at lw_m7 143 rfl) rfl
theorem q1695 : (Jvm.Cond.instanceMethod ({ cls := "NumberComesModel", name := "judge", desc := "()I" } : Jvm.MethodName)) ∈ lw_all := lw_g (lw_at lw_m7 145 rfl) rfl
theorem q1696 : (Jvm.Cond.selects "NumberComesModel" ({ cls := "NumberComesModel", name := "judge", desc := "()I" } : Jvm.MethodName) ({ cls := "NumberComesModel", name := "judge", desc := "()I" } : Jvm.MethodName)) ∈ lw_all := lw_g (lw_at lw_m7 146 rfl) rfl
theorem q1697 : (Jvm.Cond.code ({ cls := "NumberComesModel", name := "judge", desc := "()I" } : Jvm.MethodName) prog_17_method_87_code (2 : Nat) (Option.some Jvm.ClassFile.FieldType.int)) ∈ lw_all := lw_g (lw_at lw_m7 147 rfl) rfl
theorem q1699 : (Jvm.Cond.instanceMethod ({ cls := "NumberComesModel", name := "overheard", desc := "(I)I" } : Jvm.MethodName)) ∈ lw_all := lw_g (lw_at lw_m7 149 rfl) rfl
theorem q1700 : (Jvm.Cond.selects "NumberComesModel" ({ cls := "NumberComesModel", name := "overheard", desc := "(I)I" } : Jvm.MethodName) ({ cls := "NumberComesModel", name := "overheard", desc := "(I)I" } : Jvm.MethodName)) ∈ lw_all := lw_g (lw_at lw_m7 150 rfl) rfl
theorem q1701 : (Jvm.Cond.code ({ cls := "NumberComesModel", name := "overheard", desc := "(I)I" } : Jvm.MethodName) prog_17_method_88_code (4 : Nat) (Option.some Jvm.ClassFile.FieldType.int)) ∈ lw_all := lw_g (lw_at lw_m7 151 rfl) rfl
theorem q1703 : (Jvm.Cond.instanceMethod ({ cls := "NumberComesModel", name := "turn", desc := "(IJI)J" } : Jvm.MethodName)) ∈ lw_all := lw_g (lw_at lw_m7 153 rfl) rfl
theorem q1704 : (Jvm.Cond.selects "NumberComesModel" ({ cls := "NumberComesModel", name := "turn", desc := "(IJI)J" } : Jvm.MethodName) ({ cls := "NumberComesModel", name := "turn", desc := "(IJI)J" } : Jvm.MethodName)) ∈ lw_all := lw_g (lw_at lw_m7 154 rfl) rfl
theorem q1705 : (Jvm.Cond.code ({ cls := "NumberComesModel", name := "turn", desc := "(IJI)J" } : Jvm.MethodName) prog_17_method_93_code (11 : Nat) (Option.some Jvm.ClassFile.FieldType.long)) ∈ lw_all := lw_g (lw_at lw_m7 155 rfl) rfl
theorem q1706 : (Jvm.Cond.methodLink "NumberComesModel" (407 : Nat) ({ cls := "NumberComesModel", name := "firstHours", desc := "(I)J" } : Jvm.MethodName)) ∈ lw_all := lw_g (lw_at lw_m7 156 rfl) rfl
theorem q1707 : (Jvm.Cond.static ({ cls := "NumberComesModel", name := "firstHours", desc := "(I)J" } : Jvm.MethodName)) ∈ lw_all := lw_g (lw_at lw_m7 157 rfl) rfl
theorem q1708 : (Jvm.Cond.code ({ cls := "NumberComesModel", name := "firstHours", desc := "(I)J" } : Jvm.MethodName) prog_17_method_92_code (1 : Nat) (Option.some Jvm.ClassFile.FieldType.long)) ∈ lw_all := lw_g (lw_at lw_m7 158 rfl) rfl
theorem q1709 : (Jvm.Cond.methodLink "NumberComesModel" (411 : Nat) ({ cls := "NumberComesModel", name := "canTurn", desc := "(IJ)Z" } : Jvm.MethodName)) ∈ lw_all := lw_g (lw_at lw_m7 159 rfl) rfl
theorem q1710 : (Jvm.Cond.privateMethod ({ cls := "NumberComesModel", name := "canTurn", desc := "(IJ)Z" } : Jvm.MethodName)) ∈ lw_tbl := lw_at lw_m7 160 rfl
theorem q1711 : (Jvm.Cond.instanceMethod ({ cls := "NumberComesModel", name := "canTurn", desc := "(IJ)Z" } : Jvm.MethodName)) ∈ lw_all := lw_g (lw_at lw_m7 161 rfl) rfl
theorem q1712 : (Jvm.Cond.code ({ cls := "NumberComesModel", name := "canTurn", desc := "(IJ)Z" } : Jvm.MethodName) prog_17_method_91_code (5 : Nat) (Option.some Jvm.ClassFile.FieldType.boolean)) ∈ lw_all := lw_g (lw_at lw_m7 162 rfl) rfl
theorem q1713 : (Jvm.Cond.methodLink "NumberComesModel" (400 : Nat) ({ cls := "NumberComesModel", name := "size", desc := "(I)I" } : Jvm.MethodName)) ∈ lw_all := lw_g (lw_at lw_m7 163 rfl) rfl
theorem q1714 : (Jvm.Cond.static ({ cls := "NumberComesModel", name := "size", desc := "(I)I" } : Jvm.MethodName)) ∈ lw_all := lw_g (lw_at lw_m7 164 rfl) rfl
theorem q1715 : (Jvm.Cond.code ({ cls := "NumberComesModel", name := "size", desc := "(I)I" } : Jvm.MethodName) prog_17_method_90_code (3 : Nat) (Option.some Jvm.ClassFile.FieldType.int)) ∈ lw_all := lw_g (lw_at lw_m7 165 rfl) rfl
theorem q1716 : (Jvm.Cond.methodLink "NumberComesModel" (403 : Nat) ({ cls := "NumberComesModel", name := "hasAtLeast", desc := "(JI)Z" } : Jvm.MethodName)) ∈ lw_all := lw_g (lw_at lw_m7 166 rfl) rfl
theorem q1717 : (Jvm.Cond.static ({ cls := "NumberComesModel", name := "hasAtLeast", desc := "(JI)Z" } : Jvm.MethodName)) ∈ lw_all := lw_g (lw_at lw_m7 167 rfl) rfl
theorem q1718 : (Jvm.Cond.code ({ cls := "NumberComesModel", name := "hasAtLeast", desc := "(JI)Z" } : Jvm.MethodName) prog_17_method_89_code (6 : Nat) (Option.some Jvm.ClassFile.FieldType.boolean)) ∈ lw_all := lw_g (lw_at lw_m7 168 rfl) rfl
theorem q1720 : (Jvm.Cond.instanceMethod ({ cls := "NumberComesModel", name := "given", desc := "(I)I" } : Jvm.MethodName)) ∈ lw_all := lw_g (lw_at lw_m7 170 rfl) rfl
theorem q1721 : (Jvm.Cond.selects "NumberComesModel" ({ cls := "NumberComesModel", name := "given", desc := "(I)I" } : Jvm.MethodName) ({ cls := "NumberComesModel", name := "given", desc := "(I)I" } : Jvm.MethodName)) ∈ lw_all := lw_g (lw_at lw_m7 171 rfl) rfl
theorem q1722 : (Jvm.Cond.code ({ cls := "NumberComesModel", name := "given", desc := "(I)I" } : Jvm.MethodName) prog_17_method_94_code (3 : Nat) (Option.some Jvm.ClassFile.FieldType.int)) ∈ lw_all := lw_g (lw_at lw_m7 172 rfl) rfl
theorem q1724 : (Jvm.Cond.instanceMethod ({ cls := "NumberComesModel", name := "need", desc := "(IIII)I" } : Jvm.MethodName)) ∈ lw_all := lw_g (lw_at lw_m7 174 rfl) rfl
theorem q1725 : (Jvm.Cond.selects "NumberComesModel" ({ cls := "NumberComesModel", name := "need", desc := "(IIII)I" } : Jvm.MethodName) ({ cls := "NumberComesModel", name := "need", desc := "(IIII)I" } : Jvm.MethodName)) ∈ lw_all := lw_g (lw_at lw_m7 175 rfl) rfl
theorem q1726 : (Jvm.Cond.code ({ cls := "NumberComesModel", name := "need", desc := "(IIII)I" } : Jvm.MethodName) prog_17_method_95_code (6 : Nat) (Option.some Jvm.ClassFile.FieldType.int)) ∈ lw_all := lw_g (lw_at lw_m7 176 rfl) rfl
theorem q1728 : (Jvm.Cond.instanceMethod ({ cls := "NumberComesModel", name := "worth", desc := "(I)I" } : Jvm.MethodName)) ∈ lw_all := lw_g (lw_at lw_m7 178 rfl) rfl
theorem q1729 : (Jvm.Cond.selects "NumberComesModel" ({ cls := "NumberComesModel", name := "worth", desc := "(I)I" } : Jvm.MethodName) ({ cls := "NumberComesModel", name := "worth", desc := "(I)I" } : Jvm.MethodName)) ∈ lw_all := lw_g (lw_at lw_m7 179 rfl) rfl
theorem q1730 : (Jvm.Cond.code ({ cls := "NumberComesModel", name := "worth", desc := "(I)I" } : Jvm.MethodName) prog_17_method_98_code (2 : Nat) (Option.some Jvm.ClassFile.FieldType.int)) ∈ lw_all := lw_g (lw_at lw_m7 180 rfl) rfl
theorem q1731 : (Jvm.Cond.constant "NumberComesModel" (421 : Nat) (-1000000 : Int32)) ∈ lw_all := lw_g (lw_at lw_m7 181 rfl) rfl
theorem q1732 : (Jvm.Cond.methodLink "NumberComesModel" (422 : Nat) ({ cls := "NumberComesModel", name := "worthOfAll", desc := "()I" } : Jvm.MethodName)) ∈ lw_all := lw_g (lw_at lw_m7 182 rfl) rfl
theorem q1733 : (Jvm.Cond.privateMethod ({ cls := "NumberComesModel", name := "worthOfAll", desc := "()I" } : Jvm.MethodName)) ∈ lw_tbl := lw_at lw_m7 183 rfl
theorem q1734 : (Jvm.Cond.instanceMethod ({ cls := "NumberComesModel", name := "worthOfAll", desc := "()I" } : Jvm.MethodName)) ∈ lw_all := lw_g (lw_at lw_m7 184 rfl) rfl
theorem q1735 : (Jvm.Cond.code ({ cls := "NumberComesModel", name := "worthOfAll", desc := "()I" } : Jvm.MethodName) prog_17_method_97_code (3 : Nat) (Option.some Jvm.ClassFile.FieldType.int)) ∈ lw_all := lw_g (lw_at lw_m7 185 rfl) rfl
theorem q1736 : (Jvm.Cond.methodLink "NumberComesModel" (418 : Nat) ({ cls := "NumberComesModel", name := "worthOf", desc := "(I)I" } : Jvm.MethodName)) ∈ lw_all := lw_g (lw_at lw_m7 186 rfl) rfl
theorem q1737 : (Jvm.Cond.privateMethod ({ cls := "NumberComesModel", name := "worthOf", desc := "(I)I" } : Jvm.MethodName)) ∈ lw_tbl := lw_at lw_m7 187 rfl
theorem q1738 : (Jvm.Cond.instanceMethod ({ cls := "NumberComesModel", name := "worthOf", desc := "(I)I" } : Jvm.MethodName)) ∈ lw_all := lw_g (lw_at lw_m7 188 rfl) rfl
theorem q1739 : (Jvm.Cond.code ({ cls := "NumberComesModel", name := "worthOf", desc := "(I)I" } : Jvm.MethodName) prog_17_method_96_code (5 : Nat) (Option.some Jvm.ClassFile.FieldType.int)) ∈ lw_all := lw_g (lw_at lw_m7 189 rfl) rfl
theorem q1740 : (Jvm.Cond.constantLong "NumberComesModel" (414 : Nat) (-9999 : Int64)) ∈ lw_all := lw_g (lw_at lw_m7 190 rfl) rfl
theorem q1741 : (Jvm.Cond.constantLong "NumberComesModel" (416 : Nat) (9999 : Int64)) ∈ lw_all := lw_g (lw_at lw_m7 191 rfl) rfl
theorem q1743 : (Jvm.Cond.instanceMethod ({ cls := "NumberComesModel", name := "give", desc := "(II)I" } : Jvm.MethodName)) ∈ lw_all := lw_g (lw_at lw_m7 193 rfl) rfl
theorem q1744 : (Jvm.Cond.selects "NumberComesModel" ({ cls := "NumberComesModel", name := "give", desc := "(II)I" } : Jvm.MethodName) ({ cls := "NumberComesModel", name := "give", desc := "(II)I" } : Jvm.MethodName)) ∈ lw_all := lw_g (lw_at lw_m7 194 rfl) rfl
theorem q1745 : (Jvm.Cond.code ({ cls := "NumberComesModel", name := "give", desc := "(II)I" } : Jvm.MethodName) prog_17_method_100_code (11 : Nat) (Option.some Jvm.ClassFile.FieldType.int)) ∈ lw_all := lw_g (lw_at lw_m7 195 rfl) rfl
theorem q1746 : (Jvm.Cond.methodLink "NumberComesModel" (425 : Nat) ({ cls := "NumberComesModel", name := "giveTo", desc := "(II)V" } : Jvm.MethodName)) ∈ lw_all := lw_g (lw_at lw_m7 196 rfl) rfl
theorem q1747 : (Jvm.Cond.privateMethod ({ cls := "NumberComesModel", name := "giveTo", desc := "(II)V" } : Jvm.MethodName)) ∈ lw_tbl := lw_at lw_m7 197 rfl
theorem q1748 : (Jvm.Cond.instanceMethod ({ cls := "NumberComesModel", name := "giveTo", desc := "(II)V" } : Jvm.MethodName)) ∈ lw_all := lw_g (lw_at lw_m7 198 rfl) rfl
theorem q1749 : (Jvm.Cond.code ({ cls := "NumberComesModel", name := "giveTo", desc := "(II)V" } : Jvm.MethodName) prog_17_method_99_code (3 : Nat) (Option.none : Option Jvm.ClassFile.FieldType)) ∈ lw_all := lw_g (lw_at lw_m7 199 rfl) rfl
theorem q1751 : (Jvm.Cond.instanceMethod ({ cls := "NumberComesModel", name := "mend", desc := "(I)I" } : Jvm.MethodName)) ∈ lw_all := lw_g (lw_at lw_m7 201 rfl) rfl
theorem q1752 : (Jvm.Cond.selects "NumberComesModel" ({ cls := "NumberComesModel", name := "mend", desc := "(I)I" } : Jvm.MethodName) ({ cls := "NumberComesModel", name := "mend", desc := "(I)I" } : Jvm.MethodName)) ∈ lw_all := lw_g (lw_at lw_m7 202 rfl) rfl
theorem q1753 : (Jvm.Cond.code ({ cls := "NumberComesModel", name := "mend", desc := "(I)I" } : Jvm.MethodName) prog_17_method_101_code (8 : Nat) (Option.some Jvm.ClassFile.FieldType.int)) ∈ lw_all := lw_g (lw_at lw_m7 203 rfl) rfl
theorem q1755 : (Jvm.Cond.instanceMethod ({ cls := "NumberComesModel", name := "cover", desc := "()I" } : Jvm.MethodName)) ∈ lw_all := lw_g (lw_at lw_m7 205 rfl) rfl
theorem q1756 : (Jvm.Cond.selects "NumberComesModel" ({ cls := "NumberComesModel", name := "cover", desc := "()I" } : Jvm.MethodName) ({ cls := "NumberComesModel", name := "cover", desc := "()I" } : Jvm.MethodName)) ∈ lw_all := lw_g (lw_at lw_m7 206 rfl) rfl
theorem q1757 : (Jvm.Cond.code ({ cls := "NumberComesModel", name := "cover", desc := "()I" } : Jvm.MethodName) prog_17_method_104_code (4 : Nat) (Option.some Jvm.ClassFile.FieldType.int)) ∈ lw_all := lw_g (lw_at lw_m7 207 rfl) rfl
theorem q1758 : (Jvm.Cond.methodLink "NumberComesModel" (430 : Nat) ({ cls := "NumberComesModel", name := "roundOf", desc := "()I" } : Jvm.MethodName)) ∈ lw_all := lw_g (lw_at lw_m7 208 rfl) rfl
theorem q1759 : (Jvm.Cond.privateMethod ({ cls := "NumberComesModel", name := "roundOf", desc := "()I" } : Jvm.MethodName)) ∈ lw_tbl := lw_at lw_m7 209 rfl
theorem q1760 : (Jvm.Cond.instanceMethod ({ cls := "NumberComesModel", name := "roundOf", desc := "()I" } : Jvm.MethodName)) ∈ lw_all := lw_g (lw_at lw_m7 210 rfl) rfl
theorem q1761 : (Jvm.Cond.code ({ cls := "NumberComesModel", name := "roundOf", desc := "()I" } : Jvm.MethodName) prog_17_method_102_code (4 : Nat) (Option.some Jvm.ClassFile.FieldType.int)) ∈ lw_all := lw_g (lw_at lw_m7 211 rfl) rfl
theorem q1762 : (Jvm.Cond.constantLong "NumberComesModel" (428 : Nat) (5040 : Int64)) ∈ lw_all := lw_g (lw_at lw_m7 212 rfl) rfl
theorem q1763 : (Jvm.Cond.methodLink "NumberComesModel" (433 : Nat) ({ cls := "NumberComesModel", name := "covers", desc := "(I)Z" } : Jvm.MethodName)) ∈ lw_all := lw_g (lw_at lw_m7 213 rfl) rfl
theorem q1764 : (Jvm.Cond.privateMethod ({ cls := "NumberComesModel", name := "covers", desc := "(I)Z" } : Jvm.MethodName)) ∈ lw_tbl := lw_at lw_m7 214 rfl
theorem q1765 : (Jvm.Cond.instanceMethod ({ cls := "NumberComesModel", name := "covers", desc := "(I)Z" } : Jvm.MethodName)) ∈ lw_all := lw_g (lw_at lw_m7 215 rfl) rfl
theorem q1766 : (Jvm.Cond.code ({ cls := "NumberComesModel", name := "covers", desc := "(I)Z" } : Jvm.MethodName) prog_17_method_103_code (3 : Nat) (Option.some Jvm.ClassFile.FieldType.boolean)) ∈ lw_all := lw_g (lw_at lw_m7 216 rfl) rfl
theorem q1768 : (Jvm.Cond.instanceMethod ({ cls := "NumberComesModel", name := "apart", desc := "(II)I" } : Jvm.MethodName)) ∈ lw_all := lw_g (lw_at lw_m7 218 rfl) rfl
theorem q1769 : (Jvm.Cond.selects "NumberComesModel" ({ cls := "NumberComesModel", name := "apart", desc := "(II)I" } : Jvm.MethodName) ({ cls := "NumberComesModel", name := "apart", desc := "(II)I" } : Jvm.MethodName)) ∈ lw_all := lw_g (lw_at lw_m7 219 rfl) rfl
theorem q1770 : (Jvm.Cond.code ({ cls := "NumberComesModel", name := "apart", desc := "(II)I" } : Jvm.MethodName) prog_17_method_107_code (5 : Nat) (Option.some Jvm.ClassFile.FieldType.int)) ∈ lw_all := lw_g (lw_at lw_m7 220 rfl) rfl
theorem q1771 : (Jvm.Cond.methodLink "NumberComesModel" (439 : Nat) ({ cls := "NumberComesModel", name := "findApart", desc := "(I)Z" } : Jvm.MethodName)) ∈ lw_all := lw_g (lw_at lw_m7 221 rfl) rfl
theorem q1772 : (Jvm.Cond.privateMethod ({ cls := "NumberComesModel", name := "findApart", desc := "(I)Z" } : Jvm.MethodName)) ∈ lw_tbl := lw_at lw_m7 222 rfl
theorem q1773 : (Jvm.Cond.instanceMethod ({ cls := "NumberComesModel", name := "findApart", desc := "(I)Z" } : Jvm.MethodName)) ∈ lw_all := lw_g (lw_at lw_m7 223 rfl) rfl
theorem q1774 : (Jvm.Cond.code ({ cls := "NumberComesModel", name := "findApart", desc := "(I)Z" } : Jvm.MethodName) prog_17_method_106_code (4 : Nat) (Option.some Jvm.ClassFile.FieldType.boolean)) ∈ lw_all := lw_g (lw_at lw_m7 224 rfl) rfl
theorem q1775 : (Jvm.Cond.methodLink "NumberComesModel" (436 : Nat) ({ cls := "NumberComesModel", name := "isApart", desc := "(I)Z" } : Jvm.MethodName)) ∈ lw_all := lw_g (lw_at lw_m7 225 rfl) rfl
theorem q1776 : (Jvm.Cond.privateMethod ({ cls := "NumberComesModel", name := "isApart", desc := "(I)Z" } : Jvm.MethodName)) ∈ lw_tbl := lw_at lw_m7 226 rfl
theorem q1777 : (Jvm.Cond.instanceMethod ({ cls := "NumberComesModel", name := "isApart", desc := "(I)Z" } : Jvm.MethodName)) ∈ lw_all := lw_g (lw_at lw_m7 227 rfl) rfl
theorem q1778 : (Jvm.Cond.code ({ cls := "NumberComesModel", name := "isApart", desc := "(I)Z" } : Jvm.MethodName) prog_17_method_105_code (3 : Nat) (Option.some Jvm.ClassFile.FieldType.boolean)) ∈ lw_all := lw_g (lw_at lw_m7 228 rfl) rfl
theorem q1780 : (Jvm.Cond.instanceMethod ({ cls := "NumberComesModel", name := "heard", desc := "(IZ)I" } : Jvm.MethodName)) ∈ lw_all := lw_g (lw_at lw_m7 230 rfl) rfl
theorem q1781 : (Jvm.Cond.selects "NumberComesModel" ({ cls := "NumberComesModel", name := "heard", desc := "(IZ)I" } : Jvm.MethodName) ({ cls := "NumberComesModel", name := "heard", desc := "(IZ)I" } : Jvm.MethodName)) ∈ lw_all := lw_g (lw_at lw_m7 231 rfl) rfl
theorem q1782 : (Jvm.Cond.code ({ cls := "NumberComesModel", name := "heard", desc := "(IZ)I" } : Jvm.MethodName) prog_17_method_108_code (3 : Nat) (Option.some Jvm.ClassFile.FieldType.int)) ∈ lw_all := lw_g (lw_at lw_m7 232 rfl) rfl
theorem q1783 : (Jvm.Cond.constant "NumberComesModel" (442 : Nat) (999999 : Int32)) ∈ lw_all := lw_g (lw_at lw_m7 233 rfl) rfl
theorem q1785 : (Jvm.Cond.instanceMethod ({ cls := "NumberComesModel", name := "fits", desc := "(II)I" } : Jvm.MethodName)) ∈ lw_all := lw_g (lw_at lw_m7 235 rfl) rfl
theorem q1786 : (Jvm.Cond.selects "NumberComesModel" ({ cls := "NumberComesModel", name := "fits", desc := "(II)I" } : Jvm.MethodName) ({ cls := "NumberComesModel", name := "fits", desc := "(II)I" } : Jvm.MethodName)) ∈ lw_all := lw_g (lw_at lw_m7 236 rfl) rfl
theorem q1787 : (Jvm.Cond.code ({ cls := "NumberComesModel", name := "fits", desc := "(II)I" } : Jvm.MethodName) prog_17_method_110_code (6 : Nat) (Option.some Jvm.ClassFile.FieldType.int)) ∈ lw_all := lw_g (lw_at lw_m7 237 rfl) rfl
theorem q1788 : (Jvm.Cond.methodLink "NumberComesModel" (443 : Nat) ({ cls := "NumberComesModel", name := "fitsAll", desc := "(II)Z" } : Jvm.MethodName)) ∈ lw_all := lw_g (lw_at lw_m7 238 rfl) rfl
theorem q1789 : (Jvm.Cond.privateMethod ({ cls := "NumberComesModel", name := "fitsAll", desc := "(II)Z" } : Jvm.MethodName)) ∈ lw_tbl := lw_at lw_m7 239 rfl
theorem q1790 : (Jvm.Cond.instanceMethod ({ cls := "NumberComesModel", name := "fitsAll", desc := "(II)Z" } : Jvm.MethodName)) ∈ lw_all := lw_g (lw_at lw_m8 0 rfl) rfl
theorem q1791 : (Jvm.Cond.code ({ cls := "NumberComesModel", name := "fitsAll", desc := "(II)Z" } : Jvm.MethodName) prog_17_method_109_code (6 : Nat) (Option.some Jvm.ClassFile.FieldType.boolean)) ∈ lw_all := lw_g (lw_at lw_m8 1 rfl) rfl
theorem q1793 : (Jvm.Cond.instanceMethod ({ cls := "NumberComesModel", name := "who", desc := "()I" } : Jvm.MethodName)) ∈ lw_all := lw_g (lw_at lw_m8 3 rfl) rfl
theorem q1794 : (Jvm.Cond.selects "NumberComesModel" ({ cls := "NumberComesModel", name := "who", desc := "()I" } : Jvm.MethodName) ({ cls := "NumberComesModel", name := "who", desc := "()I" } : Jvm.MethodName)) ∈ lw_all := lw_g (lw_at lw_m8 4 rfl) rfl
theorem q1795 : (Jvm.Cond.code ({ cls := "NumberComesModel", name := "who", desc := "()I" } : Jvm.MethodName) prog_17_method_111_code (4 : Nat) (Option.some Jvm.ClassFile.FieldType.int)) ∈ lw_all := lw_g (lw_at lw_m8 5 rfl) rfl
theorem q1797 : (Jvm.Cond.instanceMethod ({ cls := "NumberComesModel", name := "bits", desc := "(IJ)J" } : Jvm.MethodName)) ∈ lw_all := lw_g (lw_at lw_m8 7 rfl) rfl
theorem q1798 : (Jvm.Cond.selects "NumberComesModel" ({ cls := "NumberComesModel", name := "bits", desc := "(IJ)J" } : Jvm.MethodName) ({ cls := "NumberComesModel", name := "bits", desc := "(IJ)J" } : Jvm.MethodName)) ∈ lw_all := lw_g (lw_at lw_m8 8 rfl) rfl
theorem q1799 : (Jvm.Cond.code ({ cls := "NumberComesModel", name := "bits", desc := "(IJ)J" } : Jvm.MethodName) prog_17_method_112_code (7 : Nat) (Option.some Jvm.ClassFile.FieldType.long)) ∈ lw_all := lw_g (lw_at lw_m8 9 rfl) rfl
theorem q1801 : (Jvm.Cond.instanceMethod ({ cls := "NumberComesModel", name := "other", desc := "(IIII)I" } : Jvm.MethodName)) ∈ lw_all := lw_g (lw_at lw_m8 11 rfl) rfl
theorem q1802 : (Jvm.Cond.selects "NumberComesModel" ({ cls := "NumberComesModel", name := "other", desc := "(IIII)I" } : Jvm.MethodName) ({ cls := "NumberComesModel", name := "other", desc := "(IIII)I" } : Jvm.MethodName)) ∈ lw_all := lw_g (lw_at lw_m8 12 rfl) rfl
theorem q1803 : (Jvm.Cond.code ({ cls := "NumberComesModel", name := "other", desc := "(IIII)I" } : Jvm.MethodName) prog_17_method_113_code (9 : Nat) (Option.some Jvm.ClassFile.FieldType.int)) ∈ lw_all := lw_g (lw_at lw_m8 13 rfl) rfl
theorem q1805 : (Jvm.Cond.instanceMethod ({ cls := "NumberComesModel", name := "hush", desc := "(JII)J" } : Jvm.MethodName)) ∈ lw_all := lw_g (lw_at lw_m8 15 rfl) rfl
theorem q1806 : (Jvm.Cond.selects "NumberComesModel" ({ cls := "NumberComesModel", name := "hush", desc := "(JII)J" } : Jvm.MethodName) ({ cls := "NumberComesModel", name := "hush", desc := "(JII)J" } : Jvm.MethodName)) ∈ lw_all := lw_g (lw_at lw_m8 16 rfl) rfl
theorem q1807 : (Jvm.Cond.code ({ cls := "NumberComesModel", name := "hush", desc := "(JII)J" } : Jvm.MethodName) prog_17_method_114_code (15 : Nat) (Option.some Jvm.ClassFile.FieldType.long)) ∈ lw_all := lw_g (lw_at lw_m8 17 rfl) rfl
theorem q1809 : (Jvm.Cond.instanceMethod ({ cls := "NumberComesModel", name := "child", desc := "(IIII)I" } : Jvm.MethodName)) ∈ lw_all := lw_g (lw_at lw_m8 19 rfl) rfl
theorem q1810 : (Jvm.Cond.selects "NumberComesModel" ({ cls := "NumberComesModel", name := "child", desc := "(IIII)I" } : Jvm.MethodName) ({ cls := "NumberComesModel", name := "child", desc := "(IIII)I" } : Jvm.MethodName)) ∈ lw_all := lw_g (lw_at lw_m8 20 rfl) rfl
theorem q1811 : (Jvm.Cond.code ({ cls := "NumberComesModel", name := "child", desc := "(IIII)I" } : Jvm.MethodName) prog_17_method_117_code (7 : Nat) (Option.some Jvm.ClassFile.FieldType.int)) ∈ lw_all := lw_g (lw_at lw_m8 21 rfl) rfl
theorem q1812 : (Jvm.Cond.methodLink "NumberComesModel" (446 : Nat) ({ cls := "NumberComesModel", name := "meets", desc := "(III)Z" } : Jvm.MethodName)) ∈ lw_all := lw_g (lw_at lw_m8 22 rfl) rfl
theorem q1813 : (Jvm.Cond.privateMethod ({ cls := "NumberComesModel", name := "meets", desc := "(III)Z" } : Jvm.MethodName)) ∈ lw_tbl := lw_at lw_m8 23 rfl
theorem q1814 : (Jvm.Cond.instanceMethod ({ cls := "NumberComesModel", name := "meets", desc := "(III)Z" } : Jvm.MethodName)) ∈ lw_all := lw_g (lw_at lw_m8 24 rfl) rfl
theorem q1815 : (Jvm.Cond.code ({ cls := "NumberComesModel", name := "meets", desc := "(III)Z" } : Jvm.MethodName) prog_17_method_115_code (4 : Nat) (Option.some Jvm.ClassFile.FieldType.boolean)) ∈ lw_all := lw_g (lw_at lw_m8 25 rfl) rfl
theorem q1816 : (Jvm.Cond.methodLink "NumberComesModel" (449 : Nat) ({ cls := "NumberComesModel", name := "isChild", desc := "(III)Z" } : Jvm.MethodName)) ∈ lw_all := lw_g (lw_at lw_m8 26 rfl) rfl
theorem q1817 : (Jvm.Cond.privateMethod ({ cls := "NumberComesModel", name := "isChild", desc := "(III)Z" } : Jvm.MethodName)) ∈ lw_tbl := lw_at lw_m8 27 rfl
theorem q1818 : (Jvm.Cond.instanceMethod ({ cls := "NumberComesModel", name := "isChild", desc := "(III)Z" } : Jvm.MethodName)) ∈ lw_all := lw_g (lw_at lw_m8 28 rfl) rfl
theorem q1819 : (Jvm.Cond.code ({ cls := "NumberComesModel", name := "isChild", desc := "(III)Z" } : Jvm.MethodName) prog_17_method_116_code (5 : Nat) (Option.some Jvm.ClassFile.FieldType.boolean)) ∈ lw_all := lw_g (lw_at lw_m8 29 rfl) rfl
theorem q1821 : (Jvm.Cond.instanceMethod ({ cls := "NumberComesModel", name := "pairs", desc := "(III)I" } : Jvm.MethodName)) ∈ lw_all := lw_g (lw_at lw_m8 31 rfl) rfl
theorem q1822 : (Jvm.Cond.selects "NumberComesModel" ({ cls := "NumberComesModel", name := "pairs", desc := "(III)I" } : Jvm.MethodName) ({ cls := "NumberComesModel", name := "pairs", desc := "(III)I" } : Jvm.MethodName)) ∈ lw_all := lw_g (lw_at lw_m8 32 rfl) rfl
theorem q1823 : (Jvm.Cond.code ({ cls := "NumberComesModel", name := "pairs", desc := "(III)I" } : Jvm.MethodName) prog_17_method_120_code (9 : Nat) (Option.some Jvm.ClassFile.FieldType.int)) ∈ lw_all := lw_g (lw_at lw_m8 33 rfl) rfl
theorem q1824 : (Jvm.Cond.methodLink "NumberComesModel" (455 : Nat) ({ cls := "NumberComesModel", name := "pairsOf", desc := "(II)J" } : Jvm.MethodName)) ∈ lw_all := lw_g (lw_at lw_m8 34 rfl) rfl
theorem q1825 : (Jvm.Cond.privateMethod ({ cls := "NumberComesModel", name := "pairsOf", desc := "(II)J" } : Jvm.MethodName)) ∈ lw_tbl := lw_at lw_m8 35 rfl
theorem q1826 : (Jvm.Cond.instanceMethod ({ cls := "NumberComesModel", name := "pairsOf", desc := "(II)J" } : Jvm.MethodName)) ∈ lw_all := lw_g (lw_at lw_m8 36 rfl) rfl
theorem q1827 : (Jvm.Cond.code ({ cls := "NumberComesModel", name := "pairsOf", desc := "(II)J" } : Jvm.MethodName) prog_17_method_119_code (5 : Nat) (Option.some Jvm.ClassFile.FieldType.long)) ∈ lw_all := lw_g (lw_at lw_m8 37 rfl) rfl
theorem q1828 : (Jvm.Cond.methodLink "NumberComesModel" (452 : Nat) ({ cls := "NumberComesModel", name := "pairUp", desc := "(I)V" } : Jvm.MethodName)) ∈ lw_all := lw_g (lw_at lw_m8 38 rfl) rfl
theorem q1829 : (Jvm.Cond.privateMethod ({ cls := "NumberComesModel", name := "pairUp", desc := "(I)V" } : Jvm.MethodName)) ∈ lw_tbl := lw_at lw_m8 39 rfl
theorem q1830 : (Jvm.Cond.instanceMethod ({ cls := "NumberComesModel", name := "pairUp", desc := "(I)V" } : Jvm.MethodName)) ∈ lw_all := lw_g (lw_at lw_m8 40 rfl) rfl
theorem q1831 : (Jvm.Cond.code ({ cls := "NumberComesModel", name := "pairUp", desc := "(I)V" } : Jvm.MethodName) prog_17_method_118_code (6 : Nat) (Option.none : Option Jvm.ClassFile.FieldType)) ∈ lw_all := lw_g (lw_at lw_m8 41 rfl) rfl
theorem q1833 : (Jvm.Cond.instanceMethod ({ cls := "NumberComesModel", name := "image", desc := "()I" } : Jvm.MethodName)) ∈ lw_all := lw_g (lw_at lw_m8 43 rfl) rfl
theorem q1834 : (Jvm.Cond.selects "NumberComesModel" ({ cls := "NumberComesModel", name := "image", desc := "()I" } : Jvm.MethodName) ({ cls := "NumberComesModel", name := "image", desc := "()I" } : Jvm.MethodName)) ∈ lw_all := lw_g (lw_at lw_m8 44 rfl) rfl
theorem q1835 : (Jvm.Cond.code ({ cls := "NumberComesModel", name := "image", desc := "()I" } : Jvm.MethodName) prog_17_method_121_code (2 : Nat) (Option.some Jvm.ClassFile.FieldType.int)) ∈ lw_all := lw_g (lw_at lw_m8 45 rfl) rfl
theorem q1837 : (Jvm.Cond.instanceMethod ({ cls := "NumberComesModel", name := "back", desc := "()I" } : Jvm.MethodName)) ∈ lw_all := lw_g (lw_at lw_m8 47 rfl) rfl
theorem q1838 : (Jvm.Cond.selects "NumberComesModel" ({ cls := "NumberComesModel", name := "back", desc := "()I" } : Jvm.MethodName) ({ cls := "NumberComesModel", name := "back", desc := "()I" } : Jvm.MethodName)) ∈ lw_all := lw_g (lw_at lw_m8 48 rfl) rfl
theorem q1839 : (Jvm.Cond.code ({ cls := "NumberComesModel", name := "back", desc := "()I" } : Jvm.MethodName) prog_17_method_122_code (2 : Nat) (Option.some Jvm.ClassFile.FieldType.int)) ∈ lw_all := lw_g (lw_at lw_m8 49 rfl) rfl
theorem q1841 : (Jvm.Cond.instanceMethod ({ cls := "NumberComesModel", name := "about", desc := "(I)I" } : Jvm.MethodName)) ∈ lw_all := lw_g (lw_at lw_m8 51 rfl) rfl
theorem q1842 : (Jvm.Cond.selects "NumberComesModel" ({ cls := "NumberComesModel", name := "about", desc := "(I)I" } : Jvm.MethodName) ({ cls := "NumberComesModel", name := "about", desc := "(I)I" } : Jvm.MethodName)) ∈ lw_all := lw_g (lw_at lw_m8 52 rfl) rfl
theorem q1843 : (Jvm.Cond.code ({ cls := "NumberComesModel", name := "about", desc := "(I)I" } : Jvm.MethodName) prog_17_method_123_code (2 : Nat) (Option.some Jvm.ClassFile.FieldType.int)) ∈ lw_all := lw_g (lw_at lw_m8 53 rfl) rfl
theorem q1851 : (Jvm.Cond.castable "NumberComesModel" "java/lang/Object") ∈ lw_tbl := lw_at lw_m8 61 rfl
theorem in_X2 : ∀ w ∈ wsX20, w ∈ lw_all := lw_in wsX20 [1270, 1272, 1274, 1276, 1278, 1280, 1282, 1284, 1286, 1288, 1290, 1292, 1294, 1296, 1298, 1300, 1302, 1304, 1306, 1308, 1310, 1312, 1314, 1316, 1318, 1320, 1322, 1324, 1326, 1328, 1330, 1332, 1334, 1336, 1338, 1340, 1342, 1344, 1346, 1348, 1350, 1352, 1354, 1356, 1358, 1360] (by decide +kernel) (by decide +kernel)
