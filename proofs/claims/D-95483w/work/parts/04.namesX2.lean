set_option maxRecDepth 100000
/-! TownOnWeightModel -/
set_option maxRecDepth 100000
def RX2 : String := "TownOnWeightModel"
def TX2 : u_T := fun k => match k with
  | 0 => ("TownOnWeightModel", "houses", "I", false)
  | 1 => ("TownOnWeightModel", "kindOf", "[I", true)
  | 2 => ("TownOnWeightModel", "parentOf", "[I", true)
  | 3 => ("TownOnWeightModel", "fromOf", "[I", true)
  | 4 => ("TownOnWeightModel", "toOf", "[I", true)
  | 5 => ("TownOnWeightModel", "takesOf", "[I", true)
  | 6 => ("TownOnWeightModel", "lossOf", "[I", true)
  | 7 => ("TownOnWeightModel", "takenOf", "[I", true)
  | 8 => ("TownOnWeightModel", "owesOf", "[I", true)
  | 9 => ("TownOnWeightModel", "brakes", "I", false)
  | 10 => ("TownOnWeightModel", "longNow", "I", false)
  | 11 => ("TownOnWeightModel", "hangs", "I", false)
  | 12 => ("TownOnWeightModel", "hourNow", "I", false)
  | 13 => ("TownOnWeightModel", "lostNow", "I", false)
  | 14 => ("TownOnWeightModel", "workedNow", "I", false)
  | 15 => ("TownOnWeightModel", "isDown", "Z", false)
  | 16 => ("TownOnWeightModel", "isRain", "Z", false)
  | 17 => ("TownOnWeightModel", "readings", "I", false)
  | 18 => ("TownOnWeightModel", "readSet", "[I", true)
  | 19 => ("TownOnWeightModel", "readFeet", "[I", true)
  | 20 => ("TownOnWeightModel", "pageLength", "I", false)
  | 21 => ("TownOnWeightModel", "page", "[B", true)
  | 22 => ("TownOnWeightModel", "savedTaken", "[I", true)
  | 23 => ("TownOnWeightModel", "savedBrakes", "I", false)
  | 24 => ("TownOnWeightModel", "savedHangs", "I", false)
  | 25 => ("TownOnWeightModel", "savedHour", "I", false)
  | 26 => ("TownOnWeightModel", "savedLost", "I", false)
  | 27 => ("TownOnWeightModel", "savedWorked", "I", false)
  | 28 => ("TownOnWeightModel", "savedDown", "Z", false)
  | 29 => ("TownOnWeightModel", "savedRain", "Z", false)
  | 30 => ("TownOnWeightModel", "seedNow", "J", false)
  | 31 => ("TownOnWeightModel", "isKept", "Z", false)
  | 32 => ("TownOnWeightModel", "keptHouses", "I", false)
  | 33 => ("TownOnWeightModel", "keptLong", "I", false)
  | 34 => ("TownOnWeightModel", "keptHangs", "I", false)
  | 35 => ("TownOnWeightModel", "keptHour", "I", false)
  | 36 => ("TownOnWeightModel", "keptLost", "I", false)
  | 37 => ("TownOnWeightModel", "keptWorked", "I", false)
  | 38 => ("TownOnWeightModel", "keptBrakes", "I", false)
  | 39 => ("TownOnWeightModel", "keptDown", "Z", false)
  | 40 => ("TownOnWeightModel", "keptRain", "Z", false)
  | 41 => ("TownOnWeightModel", "keptReadings", "I", false)
  | 42 => ("TownOnWeightModel", "keptTaken", "[I", true)
  | 43 => ("TownOnWeightModel", "keptOwes", "[I", true)
  | 44 => ("TownOnWeightModel", "keptSet", "[I", true)
  | 45 => ("TownOnWeightModel", "keptFeet", "[I", true)
  | _ => ("TownOnWeightModel", "h", "J", false)
def tyX2 : Nat → FieldType := fun k => match k with
  | 0 => .int
  | 1 => .array .int
  | 2 => .array .int
  | 3 => .array .int
  | 4 => .array .int
  | 5 => .array .int
  | 6 => .array .int
  | 7 => .array .int
  | 8 => .array .int
  | 9 => .int
  | 10 => .int
  | 11 => .int
  | 12 => .int
  | 13 => .int
  | 14 => .int
  | 15 => .boolean
  | 16 => .boolean
  | 17 => .int
  | 18 => .array .int
  | 19 => .array .int
  | 20 => .int
  | 21 => .array .byte
  | 22 => .array .int
  | 23 => .int
  | 24 => .int
  | 25 => .int
  | 26 => .int
  | 27 => .int
  | 28 => .boolean
  | 29 => .boolean
  | 30 => .long
  | 31 => .boolean
  | 32 => .int
  | 33 => .int
  | 34 => .int
  | 35 => .int
  | 36 => .int
  | 37 => .int
  | 38 => .int
  | 39 => .boolean
  | 40 => .boolean
  | 41 => .int
  | 42 => .array .int
  | 43 => .array .int
  | 44 => .array .int
  | 45 => .array .int
  | _ => .long
abbrev wsX20 : List Cond := u_ws RX2 TX2 47
set_option maxRecDepth 100000 in
theorem nmX2 : ∀ a, a < 47 → ∀ b, b < 47 → a ≠ b → (TX2 a).2.1 ≠ (TX2 b).2.1 := by decide +kernel
set_option maxRecDepth 100000 in
theorem tyX2_ok : ∀ k, k < 47 → parseFieldDescriptor (TX2 k).2.2.1 = some (tyX2 k) := by decide +kernel
abbrev cX2_init : ByteArray := prog_11_method_1_code
def yX2_init : MethodName := ⟨RX2, "<init>", "()V"⟩
def dkwX2_init_6 : List UInt8 := [181, 0, 63, 177]
abbrev dktX2_init_6 : List UInt8 := dkwX2_init_6 ++ []
def dkwX2_init_5 : List UInt8 := [181, 0, 54, 42, 16, 8, 188, 10, 181, 0, 57, 42, 16, 8, 188, 10, 181, 0, 60, 42, 16, 8, 188, 10]
abbrev dktX2_init_5 : List UInt8 := dkwX2_init_5 ++ dktX2_init_6
def dkwX2_init_4 : List UInt8 := [181, 0, 44, 42, 16, 12, 188, 8, 181, 0, 47, 42, 16, 8, 188, 10, 181, 0, 51, 42, 16, 8, 188, 10]
abbrev dktX2_init_4 : List UInt8 := dkwX2_init_4 ++ dktX2_init_5
def dkwX2_init_3 : List UInt8 := [181, 0, 34, 42, 16, 60, 181, 0, 38, 42, 16, 8, 188, 10, 181, 0, 41, 42, 16, 8, 188, 10]
abbrev dktX2_init_3 : List UInt8 := dkwX2_init_3 ++ dktX2_init_4
def dkwX2_init_2 : List UInt8 := [188, 10, 181, 0, 25, 42, 16, 8, 188, 10, 181, 0, 28, 42, 16, 8, 188, 10, 181, 0, 31, 42, 16, 60]
abbrev dktX2_init_2 : List UInt8 := dkwX2_init_2 ++ dktX2_init_3
def dkwX2_init_1 : List UInt8 := [188, 10, 181, 0, 16, 42, 16, 8, 188, 10, 181, 0, 19, 42, 16, 8, 188, 10, 181, 0, 22, 42, 16, 8]
abbrev dktX2_init_1 : List UInt8 := dkwX2_init_1 ++ dktX2_init_2
def dkwX2_init_0 : List UInt8 := [42, 183, 0, 1, 42, 16, 8, 188, 10, 181, 0, 7, 42, 16, 8, 188, 10, 181, 0, 13, 42, 16, 8]
abbrev dktX2_init_0 : List UInt8 := dkwX2_init_0 ++ dktX2_init_1
theorem dksX2_init_0 : cX2_init.data.toList.drop 0 = dktX2_init_0 := by decide +kernel
theorem dksX2_init_1 : cX2_init.data.toList.drop 23 = dktX2_init_1 := dk_seg dksX2_init_0 23 rfl rfl
theorem dksX2_init_2 : cX2_init.data.toList.drop 47 = dktX2_init_2 := dk_seg dksX2_init_1 24 rfl rfl
theorem dksX2_init_3 : cX2_init.data.toList.drop 71 = dktX2_init_3 := dk_seg dksX2_init_2 24 rfl rfl
theorem dksX2_init_4 : cX2_init.data.toList.drop 93 = dktX2_init_4 := dk_seg dksX2_init_3 22 rfl rfl
theorem dksX2_init_5 : cX2_init.data.toList.drop 117 = dktX2_init_5 := dk_seg dksX2_init_4 24 rfl rfl
theorem dksX2_init_6 : cX2_init.data.toList.drop 141 = dktX2_init_6 := dk_seg dksX2_init_5 24 rfl rfl
theorem dX2_init_0 : decode cX2_init 0 = .ok (.aload_n 0, 1) := dk_42 (dk_at dksX2_init_0 0 rfl rfl)
theorem dX2_init_1 : decode cX2_init 1 = .ok (.invokespecial 1, 3) := dk_183 0 1 (dk_at dksX2_init_0 1 rfl rfl)
theorem dX2_init_4 : decode cX2_init 4 = .ok (.aload_n 0, 1) := dk_42 (dk_at dksX2_init_0 4 rfl rfl)
theorem dX2_init_5 : decode cX2_init 5 = .ok (.bipush 8, 2) := dk_16 8 (dk_at dksX2_init_0 5 rfl rfl)
theorem dX2_init_7 : decode cX2_init 7 = .ok (.newarray .int, 2) := dk_188_10 (dk_at dksX2_init_0 7 rfl rfl)
theorem dX2_init_9 : decode cX2_init 9 = .ok (.putfield 7, 3) := dk_181 0 7 (dk_at dksX2_init_0 9 rfl rfl)
theorem dX2_init_12 : decode cX2_init 12 = .ok (.aload_n 0, 1) := dk_42 (dk_at dksX2_init_0 12 rfl rfl)
theorem dX2_init_13 : decode cX2_init 13 = .ok (.bipush 8, 2) := dk_16 8 (dk_at dksX2_init_0 13 rfl rfl)
theorem dX2_init_15 : decode cX2_init 15 = .ok (.newarray .int, 2) := dk_188_10 (dk_at dksX2_init_0 15 rfl rfl)
theorem dX2_init_17 : decode cX2_init 17 = .ok (.putfield 13, 3) := dk_181 0 13 (dk_at dksX2_init_0 17 rfl rfl)
theorem dX2_init_20 : decode cX2_init 20 = .ok (.aload_n 0, 1) := dk_42 (dk_at dksX2_init_0 20 rfl rfl)
theorem dX2_init_21 : decode cX2_init 21 = .ok (.bipush 8, 2) := dk_16 8 (dk_at dksX2_init_0 21 rfl rfl)
theorem dX2_init_23 : decode cX2_init 23 = .ok (.newarray .int, 2) := dk_188_10 (dk_at dksX2_init_1 0 rfl rfl)
theorem dX2_init_25 : decode cX2_init 25 = .ok (.putfield 16, 3) := dk_181 0 16 (dk_at dksX2_init_1 2 rfl rfl)
theorem dX2_init_28 : decode cX2_init 28 = .ok (.aload_n 0, 1) := dk_42 (dk_at dksX2_init_1 5 rfl rfl)
theorem dX2_init_29 : decode cX2_init 29 = .ok (.bipush 8, 2) := dk_16 8 (dk_at dksX2_init_1 6 rfl rfl)
theorem dX2_init_31 : decode cX2_init 31 = .ok (.newarray .int, 2) := dk_188_10 (dk_at dksX2_init_1 8 rfl rfl)
theorem dX2_init_33 : decode cX2_init 33 = .ok (.putfield 19, 3) := dk_181 0 19 (dk_at dksX2_init_1 10 rfl rfl)
theorem dX2_init_36 : decode cX2_init 36 = .ok (.aload_n 0, 1) := dk_42 (dk_at dksX2_init_1 13 rfl rfl)
theorem dX2_init_37 : decode cX2_init 37 = .ok (.bipush 8, 2) := dk_16 8 (dk_at dksX2_init_1 14 rfl rfl)
theorem dX2_init_39 : decode cX2_init 39 = .ok (.newarray .int, 2) := dk_188_10 (dk_at dksX2_init_1 16 rfl rfl)
theorem dX2_init_41 : decode cX2_init 41 = .ok (.putfield 22, 3) := dk_181 0 22 (dk_at dksX2_init_1 18 rfl rfl)
theorem dX2_init_44 : decode cX2_init 44 = .ok (.aload_n 0, 1) := dk_42 (dk_at dksX2_init_1 21 rfl rfl)
theorem dX2_init_45 : decode cX2_init 45 = .ok (.bipush 8, 2) := dk_16 8 (dk_at dksX2_init_1 22 rfl rfl)
theorem dX2_init_47 : decode cX2_init 47 = .ok (.newarray .int, 2) := dk_188_10 (dk_at dksX2_init_2 0 rfl rfl)
theorem dX2_init_49 : decode cX2_init 49 = .ok (.putfield 25, 3) := dk_181 0 25 (dk_at dksX2_init_2 2 rfl rfl)
theorem dX2_init_52 : decode cX2_init 52 = .ok (.aload_n 0, 1) := dk_42 (dk_at dksX2_init_2 5 rfl rfl)
theorem dX2_init_53 : decode cX2_init 53 = .ok (.bipush 8, 2) := dk_16 8 (dk_at dksX2_init_2 6 rfl rfl)
theorem dX2_init_55 : decode cX2_init 55 = .ok (.newarray .int, 2) := dk_188_10 (dk_at dksX2_init_2 8 rfl rfl)
theorem dX2_init_57 : decode cX2_init 57 = .ok (.putfield 28, 3) := dk_181 0 28 (dk_at dksX2_init_2 10 rfl rfl)
theorem dX2_init_60 : decode cX2_init 60 = .ok (.aload_n 0, 1) := dk_42 (dk_at dksX2_init_2 13 rfl rfl)
theorem dX2_init_61 : decode cX2_init 61 = .ok (.bipush 8, 2) := dk_16 8 (dk_at dksX2_init_2 14 rfl rfl)
theorem dX2_init_63 : decode cX2_init 63 = .ok (.newarray .int, 2) := dk_188_10 (dk_at dksX2_init_2 16 rfl rfl)
theorem dX2_init_65 : decode cX2_init 65 = .ok (.putfield 31, 3) := dk_181 0 31 (dk_at dksX2_init_2 18 rfl rfl)
theorem dX2_init_68 : decode cX2_init 68 = .ok (.aload_n 0, 1) := dk_42 (dk_at dksX2_init_2 21 rfl rfl)
theorem dX2_init_69 : decode cX2_init 69 = .ok (.bipush 60, 2) := dk_16 60 (dk_at dksX2_init_2 22 rfl rfl)
theorem dX2_init_71 : decode cX2_init 71 = .ok (.putfield 34, 3) := dk_181 0 34 (dk_at dksX2_init_3 0 rfl rfl)
theorem dX2_init_74 : decode cX2_init 74 = .ok (.aload_n 0, 1) := dk_42 (dk_at dksX2_init_3 3 rfl rfl)
theorem dX2_init_75 : decode cX2_init 75 = .ok (.bipush 60, 2) := dk_16 60 (dk_at dksX2_init_3 4 rfl rfl)
theorem dX2_init_77 : decode cX2_init 77 = .ok (.putfield 38, 3) := dk_181 0 38 (dk_at dksX2_init_3 6 rfl rfl)
theorem dX2_init_80 : decode cX2_init 80 = .ok (.aload_n 0, 1) := dk_42 (dk_at dksX2_init_3 9 rfl rfl)
theorem dX2_init_81 : decode cX2_init 81 = .ok (.bipush 8, 2) := dk_16 8 (dk_at dksX2_init_3 10 rfl rfl)
theorem dX2_init_83 : decode cX2_init 83 = .ok (.newarray .int, 2) := dk_188_10 (dk_at dksX2_init_3 12 rfl rfl)
theorem dX2_init_85 : decode cX2_init 85 = .ok (.putfield 41, 3) := dk_181 0 41 (dk_at dksX2_init_3 14 rfl rfl)
theorem dX2_init_88 : decode cX2_init 88 = .ok (.aload_n 0, 1) := dk_42 (dk_at dksX2_init_3 17 rfl rfl)
theorem dX2_init_89 : decode cX2_init 89 = .ok (.bipush 8, 2) := dk_16 8 (dk_at dksX2_init_3 18 rfl rfl)
theorem dX2_init_91 : decode cX2_init 91 = .ok (.newarray .int, 2) := dk_188_10 (dk_at dksX2_init_3 20 rfl rfl)
theorem dX2_init_93 : decode cX2_init 93 = .ok (.putfield 44, 3) := dk_181 0 44 (dk_at dksX2_init_4 0 rfl rfl)
theorem dX2_init_96 : decode cX2_init 96 = .ok (.aload_n 0, 1) := dk_42 (dk_at dksX2_init_4 3 rfl rfl)
theorem dX2_init_97 : decode cX2_init 97 = .ok (.bipush 12, 2) := dk_16 12 (dk_at dksX2_init_4 4 rfl rfl)
theorem dX2_init_99 : decode cX2_init 99 = .ok (.newarray .byte, 2) := dk_188_8 (dk_at dksX2_init_4 6 rfl rfl)
theorem dX2_init_101 : decode cX2_init 101 = .ok (.putfield 47, 3) := dk_181 0 47 (dk_at dksX2_init_4 8 rfl rfl)
theorem dX2_init_104 : decode cX2_init 104 = .ok (.aload_n 0, 1) := dk_42 (dk_at dksX2_init_4 11 rfl rfl)
theorem dX2_init_105 : decode cX2_init 105 = .ok (.bipush 8, 2) := dk_16 8 (dk_at dksX2_init_4 12 rfl rfl)
theorem dX2_init_107 : decode cX2_init 107 = .ok (.newarray .int, 2) := dk_188_10 (dk_at dksX2_init_4 14 rfl rfl)
theorem dX2_init_109 : decode cX2_init 109 = .ok (.putfield 51, 3) := dk_181 0 51 (dk_at dksX2_init_4 16 rfl rfl)
theorem dX2_init_112 : decode cX2_init 112 = .ok (.aload_n 0, 1) := dk_42 (dk_at dksX2_init_4 19 rfl rfl)
theorem dX2_init_113 : decode cX2_init 113 = .ok (.bipush 8, 2) := dk_16 8 (dk_at dksX2_init_4 20 rfl rfl)
theorem dX2_init_115 : decode cX2_init 115 = .ok (.newarray .int, 2) := dk_188_10 (dk_at dksX2_init_4 22 rfl rfl)
theorem dX2_init_117 : decode cX2_init 117 = .ok (.putfield 54, 3) := dk_181 0 54 (dk_at dksX2_init_5 0 rfl rfl)
theorem dX2_init_120 : decode cX2_init 120 = .ok (.aload_n 0, 1) := dk_42 (dk_at dksX2_init_5 3 rfl rfl)
theorem dX2_init_121 : decode cX2_init 121 = .ok (.bipush 8, 2) := dk_16 8 (dk_at dksX2_init_5 4 rfl rfl)
theorem dX2_init_123 : decode cX2_init 123 = .ok (.newarray .int, 2) := dk_188_10 (dk_at dksX2_init_5 6 rfl rfl)
theorem dX2_init_125 : decode cX2_init 125 = .ok (.putfield 57, 3) := dk_181 0 57 (dk_at dksX2_init_5 8 rfl rfl)
theorem dX2_init_128 : decode cX2_init 128 = .ok (.aload_n 0, 1) := dk_42 (dk_at dksX2_init_5 11 rfl rfl)
theorem dX2_init_129 : decode cX2_init 129 = .ok (.bipush 8, 2) := dk_16 8 (dk_at dksX2_init_5 12 rfl rfl)
theorem dX2_init_131 : decode cX2_init 131 = .ok (.newarray .int, 2) := dk_188_10 (dk_at dksX2_init_5 14 rfl rfl)
theorem dX2_init_133 : decode cX2_init 133 = .ok (.putfield 60, 3) := dk_181 0 60 (dk_at dksX2_init_5 16 rfl rfl)
theorem dX2_init_136 : decode cX2_init 136 = .ok (.aload_n 0, 1) := dk_42 (dk_at dksX2_init_5 19 rfl rfl)
theorem dX2_init_137 : decode cX2_init 137 = .ok (.bipush 8, 2) := dk_16 8 (dk_at dksX2_init_5 20 rfl rfl)
theorem dX2_init_139 : decode cX2_init 139 = .ok (.newarray .int, 2) := dk_188_10 (dk_at dksX2_init_5 22 rfl rfl)
theorem dX2_init_141 : decode cX2_init 141 = .ok (.putfield 63, 3) := dk_181 0 63 (dk_at dksX2_init_6 0 rfl rfl)
theorem dX2_init_144 : decode cX2_init 144 = .ok (.return_, 1) := dk_177 (dk_at dksX2_init_6 3 rfl rfl)
abbrev cX2_letters : ByteArray := prog_11_method_6_code
def yX2_letters : MethodName := ⟨RX2, "letters", "(J)I"⟩
def dkwX2_letters_6 : List UInt8 := [29, 96, 181, 0, 68, 42, 180, 0, 68, 172]
abbrev dktX2_letters_6 : List UInt8 := dkwX2_letters_6 ++ []
def dkwX2_letters_5 : List UInt8 := [21, 5, 96, 31, 16, 8, 21, 5, 104, 123, 136, 145, 84, 132, 5, 1, 167, 255, 226, 42, 89, 180, 0, 68]
abbrev dktX2_letters_5 : List UInt8 := dkwX2_letters_5 ++ dktX2_letters_6
def dkwX2_letters_4 : List UInt8 := [164, 0, 6, 16, 152, 172, 3, 54, 5, 21, 5, 29, 162, 0, 30, 42, 180, 0, 47, 42, 180, 0, 68]
abbrev dktX2_letters_4 : List UInt8 := dkwX2_letters_4 ++ dktX2_letters_5
def dkwX2_letters_3 : List UInt8 := [154, 0, 7, 3, 167, 0, 4, 4, 96, 62, 132, 5, 1, 167, 255, 182, 42, 180, 0, 68, 29, 96, 16, 12]
abbrev dktX2_letters_3 : List UInt8 := dkwX2_letters_3 ++ dktX2_letters_4
def dkwX2_letters_2 : List UInt8 := [16, 154, 172, 21, 4, 154, 0, 8, 21, 6, 154, 0, 7, 4, 167, 0, 4, 3, 54, 4, 29, 21, 6]
abbrev dktX2_letters_2 : List UInt8 := dkwX2_letters_2 ++ dktX2_letters_3
def dkwX2_letters_1 : List UInt8 := [20, 0, 66, 127, 136, 54, 6, 21, 6, 16, 126, 163, 0, 13, 21, 4, 153, 0, 11, 21, 6, 153, 0, 6]
abbrev dktX2_letters_1 : List UInt8 := dkwX2_letters_1 ++ dktX2_letters_2
def dkwX2_letters_0 : List UInt8 := [3, 62, 3, 54, 4, 3, 54, 5, 21, 5, 16, 8, 162, 0, 73, 31, 16, 8, 21, 5, 104, 123]
abbrev dktX2_letters_0 : List UInt8 := dkwX2_letters_0 ++ dktX2_letters_1
theorem dksX2_letters_0 : cX2_letters.data.toList.drop 0 = dktX2_letters_0 := by decide +kernel
theorem dksX2_letters_1 : cX2_letters.data.toList.drop 22 = dktX2_letters_1 := dk_seg dksX2_letters_0 22 rfl rfl
theorem dksX2_letters_2 : cX2_letters.data.toList.drop 46 = dktX2_letters_2 := dk_seg dksX2_letters_1 24 rfl rfl
theorem dksX2_letters_3 : cX2_letters.data.toList.drop 69 = dktX2_letters_3 := dk_seg dksX2_letters_2 23 rfl rfl
theorem dksX2_letters_4 : cX2_letters.data.toList.drop 93 = dktX2_letters_4 := dk_seg dksX2_letters_3 24 rfl rfl
theorem dksX2_letters_5 : cX2_letters.data.toList.drop 116 = dktX2_letters_5 := dk_seg dksX2_letters_4 23 rfl rfl
theorem dksX2_letters_6 : cX2_letters.data.toList.drop 140 = dktX2_letters_6 := dk_seg dksX2_letters_5 24 rfl rfl
theorem dX2_letters_0 : decode cX2_letters 0 = .ok (.iconst 0, 1) := dk_3 (dk_at dksX2_letters_0 0 rfl rfl)
theorem dX2_letters_1 : decode cX2_letters 1 = .ok (.istore_n 3, 1) := dk_62 (dk_at dksX2_letters_0 1 rfl rfl)
theorem dX2_letters_2 : decode cX2_letters 2 = .ok (.iconst 0, 1) := dk_3 (dk_at dksX2_letters_0 2 rfl rfl)
theorem dX2_letters_3 : decode cX2_letters 3 = .ok (.istore 4, 2) := dk_54 4 (dk_at dksX2_letters_0 3 rfl rfl)
theorem dX2_letters_5 : decode cX2_letters 5 = .ok (.iconst 0, 1) := dk_3 (dk_at dksX2_letters_0 5 rfl rfl)
theorem dX2_letters_6 : decode cX2_letters 6 = .ok (.istore 5, 2) := dk_54 5 (dk_at dksX2_letters_0 6 rfl rfl)
theorem dX2_letters_8 : decode cX2_letters 8 = .ok (.iload 5, 2) := dk_21 5 (dk_at dksX2_letters_0 8 rfl rfl)
theorem dX2_letters_10 : decode cX2_letters 10 = .ok (.bipush 8, 2) := dk_16 8 (dk_at dksX2_letters_0 10 rfl rfl)
theorem dX2_letters_12 : decode cX2_letters 12 = .ok (.if_icmp .ge 73, 3) := dk_162 0 73 (dk_at dksX2_letters_0 12 rfl rfl)
theorem dX2_letters_15 : decode cX2_letters 15 = .ok (.lload_n 1, 1) := dk_31 (dk_at dksX2_letters_0 15 rfl rfl)
theorem dX2_letters_16 : decode cX2_letters 16 = .ok (.bipush 8, 2) := dk_16 8 (dk_at dksX2_letters_0 16 rfl rfl)
theorem dX2_letters_18 : decode cX2_letters 18 = .ok (.iload 5, 2) := dk_21 5 (dk_at dksX2_letters_0 18 rfl rfl)
theorem dX2_letters_20 : decode cX2_letters 20 = .ok (.imul, 1) := dk_104 (dk_at dksX2_letters_0 20 rfl rfl)
theorem dX2_letters_21 : decode cX2_letters 21 = .ok (.lshr, 1) := dk_123 (dk_at dksX2_letters_0 21 rfl rfl)
theorem dX2_letters_22 : decode cX2_letters 22 = .ok (.ldc2_w 66, 3) := dk_20 0 66 (dk_at dksX2_letters_1 0 rfl rfl)
theorem dX2_letters_25 : decode cX2_letters 25 = .ok (.land, 1) := dk_127 (dk_at dksX2_letters_1 3 rfl rfl)
theorem dX2_letters_26 : decode cX2_letters 26 = .ok (.l2i, 1) := dk_136 (dk_at dksX2_letters_1 4 rfl rfl)
theorem dX2_letters_27 : decode cX2_letters 27 = .ok (.istore 6, 2) := dk_54 6 (dk_at dksX2_letters_1 5 rfl rfl)
theorem dX2_letters_29 : decode cX2_letters 29 = .ok (.iload 6, 2) := dk_21 6 (dk_at dksX2_letters_1 7 rfl rfl)
theorem dX2_letters_31 : decode cX2_letters 31 = .ok (.bipush 126, 2) := dk_16 126 (dk_at dksX2_letters_1 9 rfl rfl)
theorem dX2_letters_33 : decode cX2_letters 33 = .ok (.if_icmp .gt 13, 3) := dk_163 0 13 (dk_at dksX2_letters_1 11 rfl rfl)
theorem dX2_letters_36 : decode cX2_letters 36 = .ok (.iload 4, 2) := dk_21 4 (dk_at dksX2_letters_1 14 rfl rfl)
theorem dX2_letters_38 : decode cX2_letters 38 = .ok (.ifCond .eq 11, 3) := dk_153 0 11 (dk_at dksX2_letters_1 16 rfl rfl)
theorem dX2_letters_41 : decode cX2_letters 41 = .ok (.iload 6, 2) := dk_21 6 (dk_at dksX2_letters_1 19 rfl rfl)
theorem dX2_letters_43 : decode cX2_letters 43 = .ok (.ifCond .eq 6, 3) := dk_153 0 6 (dk_at dksX2_letters_1 21 rfl rfl)
theorem dX2_letters_46 : decode cX2_letters 46 = .ok (.bipush (-102), 2) := dk_16 154 (dk_at dksX2_letters_2 0 rfl rfl)
theorem dX2_letters_48 : decode cX2_letters 48 = .ok (.ireturn, 1) := dk_172 (dk_at dksX2_letters_2 2 rfl rfl)
theorem dX2_letters_49 : decode cX2_letters 49 = .ok (.iload 4, 2) := dk_21 4 (dk_at dksX2_letters_2 3 rfl rfl)
theorem dX2_letters_51 : decode cX2_letters 51 = .ok (.ifCond .ne 8, 3) := dk_154 0 8 (dk_at dksX2_letters_2 5 rfl rfl)
theorem dX2_letters_54 : decode cX2_letters 54 = .ok (.iload 6, 2) := dk_21 6 (dk_at dksX2_letters_2 8 rfl rfl)
theorem dX2_letters_56 : decode cX2_letters 56 = .ok (.ifCond .ne 7, 3) := dk_154 0 7 (dk_at dksX2_letters_2 10 rfl rfl)
theorem dX2_letters_59 : decode cX2_letters 59 = .ok (.iconst 1, 1) := dk_4 (dk_at dksX2_letters_2 13 rfl rfl)
theorem dX2_letters_60 : decode cX2_letters 60 = .ok (.goto 4, 3) := dk_167 0 4 (dk_at dksX2_letters_2 14 rfl rfl)
theorem dX2_letters_63 : decode cX2_letters 63 = .ok (.iconst 0, 1) := dk_3 (dk_at dksX2_letters_2 17 rfl rfl)
theorem dX2_letters_64 : decode cX2_letters 64 = .ok (.istore 4, 2) := dk_54 4 (dk_at dksX2_letters_2 18 rfl rfl)
theorem dX2_letters_66 : decode cX2_letters 66 = .ok (.iload_n 3, 1) := dk_29 (dk_at dksX2_letters_2 20 rfl rfl)
theorem dX2_letters_67 : decode cX2_letters 67 = .ok (.iload 6, 2) := dk_21 6 (dk_at dksX2_letters_2 21 rfl rfl)
theorem dX2_letters_69 : decode cX2_letters 69 = .ok (.ifCond .ne 7, 3) := dk_154 0 7 (dk_at dksX2_letters_3 0 rfl rfl)
theorem dX2_letters_72 : decode cX2_letters 72 = .ok (.iconst 0, 1) := dk_3 (dk_at dksX2_letters_3 3 rfl rfl)
theorem dX2_letters_73 : decode cX2_letters 73 = .ok (.goto 4, 3) := dk_167 0 4 (dk_at dksX2_letters_3 4 rfl rfl)
theorem dX2_letters_76 : decode cX2_letters 76 = .ok (.iconst 1, 1) := dk_4 (dk_at dksX2_letters_3 7 rfl rfl)
theorem dX2_letters_77 : decode cX2_letters 77 = .ok (.iadd, 1) := dk_96 (dk_at dksX2_letters_3 8 rfl rfl)
theorem dX2_letters_78 : decode cX2_letters 78 = .ok (.istore_n 3, 1) := dk_62 (dk_at dksX2_letters_3 9 rfl rfl)
theorem dX2_letters_79 : decode cX2_letters 79 = .ok (.iinc 5 1, 3) := dk_132 5 1 (dk_at dksX2_letters_3 10 rfl rfl)
theorem dX2_letters_82 : decode cX2_letters 82 = .ok (.goto (-74), 3) := dk_167 255 182 (dk_at dksX2_letters_3 13 rfl rfl)
theorem dX2_letters_85 : decode cX2_letters 85 = .ok (.aload_n 0, 1) := dk_42 (dk_at dksX2_letters_3 16 rfl rfl)
theorem dX2_letters_86 : decode cX2_letters 86 = .ok (.getfield 68, 3) := dk_180 0 68 (dk_at dksX2_letters_3 17 rfl rfl)
theorem dX2_letters_89 : decode cX2_letters 89 = .ok (.iload_n 3, 1) := dk_29 (dk_at dksX2_letters_3 20 rfl rfl)
theorem dX2_letters_90 : decode cX2_letters 90 = .ok (.iadd, 1) := dk_96 (dk_at dksX2_letters_3 21 rfl rfl)
theorem dX2_letters_91 : decode cX2_letters 91 = .ok (.bipush 12, 2) := dk_16 12 (dk_at dksX2_letters_3 22 rfl rfl)
theorem dX2_letters_93 : decode cX2_letters 93 = .ok (.if_icmp .le 6, 3) := dk_164 0 6 (dk_at dksX2_letters_4 0 rfl rfl)
theorem dX2_letters_96 : decode cX2_letters 96 = .ok (.bipush (-104), 2) := dk_16 152 (dk_at dksX2_letters_4 3 rfl rfl)
theorem dX2_letters_98 : decode cX2_letters 98 = .ok (.ireturn, 1) := dk_172 (dk_at dksX2_letters_4 5 rfl rfl)
theorem dX2_letters_99 : decode cX2_letters 99 = .ok (.iconst 0, 1) := dk_3 (dk_at dksX2_letters_4 6 rfl rfl)
theorem dX2_letters_100 : decode cX2_letters 100 = .ok (.istore 5, 2) := dk_54 5 (dk_at dksX2_letters_4 7 rfl rfl)
theorem dX2_letters_102 : decode cX2_letters 102 = .ok (.iload 5, 2) := dk_21 5 (dk_at dksX2_letters_4 9 rfl rfl)
theorem dX2_letters_104 : decode cX2_letters 104 = .ok (.iload_n 3, 1) := dk_29 (dk_at dksX2_letters_4 11 rfl rfl)
theorem dX2_letters_105 : decode cX2_letters 105 = .ok (.if_icmp .ge 30, 3) := dk_162 0 30 (dk_at dksX2_letters_4 12 rfl rfl)
theorem dX2_letters_108 : decode cX2_letters 108 = .ok (.aload_n 0, 1) := dk_42 (dk_at dksX2_letters_4 15 rfl rfl)
theorem dX2_letters_109 : decode cX2_letters 109 = .ok (.getfield 47, 3) := dk_180 0 47 (dk_at dksX2_letters_4 16 rfl rfl)
theorem dX2_letters_112 : decode cX2_letters 112 = .ok (.aload_n 0, 1) := dk_42 (dk_at dksX2_letters_4 19 rfl rfl)
theorem dX2_letters_113 : decode cX2_letters 113 = .ok (.getfield 68, 3) := dk_180 0 68 (dk_at dksX2_letters_4 20 rfl rfl)
theorem dX2_letters_116 : decode cX2_letters 116 = .ok (.iload 5, 2) := dk_21 5 (dk_at dksX2_letters_5 0 rfl rfl)
theorem dX2_letters_118 : decode cX2_letters 118 = .ok (.iadd, 1) := dk_96 (dk_at dksX2_letters_5 2 rfl rfl)
theorem dX2_letters_119 : decode cX2_letters 119 = .ok (.lload_n 1, 1) := dk_31 (dk_at dksX2_letters_5 3 rfl rfl)
theorem dX2_letters_120 : decode cX2_letters 120 = .ok (.bipush 8, 2) := dk_16 8 (dk_at dksX2_letters_5 4 rfl rfl)
theorem dX2_letters_122 : decode cX2_letters 122 = .ok (.iload 5, 2) := dk_21 5 (dk_at dksX2_letters_5 6 rfl rfl)
theorem dX2_letters_124 : decode cX2_letters 124 = .ok (.imul, 1) := dk_104 (dk_at dksX2_letters_5 8 rfl rfl)
theorem dX2_letters_125 : decode cX2_letters 125 = .ok (.lshr, 1) := dk_123 (dk_at dksX2_letters_5 9 rfl rfl)
theorem dX2_letters_126 : decode cX2_letters 126 = .ok (.l2i, 1) := dk_136 (dk_at dksX2_letters_5 10 rfl rfl)
theorem dX2_letters_127 : decode cX2_letters 127 = .ok (.i2b, 1) := dk_145 (dk_at dksX2_letters_5 11 rfl rfl)
theorem dX2_letters_128 : decode cX2_letters 128 = .ok (.bastore, 1) := dk_84 (dk_at dksX2_letters_5 12 rfl rfl)
theorem dX2_letters_129 : decode cX2_letters 129 = .ok (.iinc 5 1, 3) := dk_132 5 1 (dk_at dksX2_letters_5 13 rfl rfl)
theorem dX2_letters_132 : decode cX2_letters 132 = .ok (.goto (-30), 3) := dk_167 255 226 (dk_at dksX2_letters_5 16 rfl rfl)
theorem dX2_letters_135 : decode cX2_letters 135 = .ok (.aload_n 0, 1) := dk_42 (dk_at dksX2_letters_5 19 rfl rfl)
theorem dX2_letters_136 : decode cX2_letters 136 = .ok (.dup, 1) := dk_89 (dk_at dksX2_letters_5 20 rfl rfl)
theorem dX2_letters_137 : decode cX2_letters 137 = .ok (.getfield 68, 3) := dk_180 0 68 (dk_at dksX2_letters_5 21 rfl rfl)
theorem dX2_letters_140 : decode cX2_letters 140 = .ok (.iload_n 3, 1) := dk_29 (dk_at dksX2_letters_6 0 rfl rfl)
theorem dX2_letters_141 : decode cX2_letters 141 = .ok (.iadd, 1) := dk_96 (dk_at dksX2_letters_6 1 rfl rfl)
theorem dX2_letters_142 : decode cX2_letters 142 = .ok (.putfield 68, 3) := dk_181 0 68 (dk_at dksX2_letters_6 2 rfl rfl)
theorem dX2_letters_145 : decode cX2_letters 145 = .ok (.aload_n 0, 1) := dk_42 (dk_at dksX2_letters_6 5 rfl rfl)
theorem dX2_letters_146 : decode cX2_letters 146 = .ok (.getfield 68, 3) := dk_180 0 68 (dk_at dksX2_letters_6 6 rfl rfl)
theorem dX2_letters_149 : decode cX2_letters 149 = .ok (.ireturn, 1) := dk_172 (dk_at dksX2_letters_6 9 rfl rfl)
abbrev cX2_blank : ByteArray := prog_11_method_7_code
def yX2_blank : MethodName := ⟨RX2, "blank", "()I"⟩
def dkwX2_blank_0 : List UInt8 := [42, 180, 0, 68, 60, 42, 3, 181, 0, 68, 27, 172]
abbrev dktX2_blank_0 : List UInt8 := dkwX2_blank_0 ++ []
theorem dksX2_blank_0 : cX2_blank.data.toList.drop 0 = dktX2_blank_0 := by decide +kernel
theorem dX2_blank_0 : decode cX2_blank 0 = .ok (.aload_n 0, 1) := dk_42 (dk_at dksX2_blank_0 0 rfl rfl)
theorem dX2_blank_1 : decode cX2_blank 1 = .ok (.getfield 68, 3) := dk_180 0 68 (dk_at dksX2_blank_0 1 rfl rfl)
theorem dX2_blank_4 : decode cX2_blank 4 = .ok (.istore_n 1, 1) := dk_60 (dk_at dksX2_blank_0 4 rfl rfl)
theorem dX2_blank_5 : decode cX2_blank 5 = .ok (.aload_n 0, 1) := dk_42 (dk_at dksX2_blank_0 5 rfl rfl)
theorem dX2_blank_6 : decode cX2_blank 6 = .ok (.iconst 0, 1) := dk_3 (dk_at dksX2_blank_0 6 rfl rfl)
theorem dX2_blank_7 : decode cX2_blank 7 = .ok (.putfield 68, 3) := dk_181 0 68 (dk_at dksX2_blank_0 7 rfl rfl)
theorem dX2_blank_10 : decode cX2_blank 10 = .ok (.iload_n 1, 1) := dk_27 (dk_at dksX2_blank_0 10 rfl rfl)
theorem dX2_blank_11 : decode cX2_blank 11 = .ok (.ireturn, 1) := dk_172 (dk_at dksX2_blank_0 11 rfl rfl)
abbrev cX2_fault : ByteArray := prog_11_method_11_code
def yX2_fault : MethodName := ⟨RX2, "fault", "()I"⟩
theorem dX2_fault_0 : decode cX2_fault 0 = .ok (.aload_n 0, 1) := by decide +kernel
theorem dX2_fault_1 : decode cX2_fault 1 = .ok (.invokevirtual 86, 3) := by decide +kernel
theorem dX2_fault_4 : decode cX2_fault 4 = .ok (.ireturn, 1) := by decide +kernel
abbrev cX2_faultNow : ByteArray := prog_11_method_10_code
def yX2_faultNow : MethodName := ⟨RX2, "faultNow", "()I"⟩
def dkwX2_faultNow_1 : List UInt8 := [132, 1, 1, 167, 255, 231, 27, 172]
abbrev dktX2_faultNow_1 : List UInt8 := dkwX2_faultNow_1 ++ []
def dkwX2_faultNow_0 : List UInt8 := [3, 60, 27, 42, 180, 0, 68, 162, 0, 23, 42, 27, 42, 180, 0, 47, 27, 51, 182, 0, 82, 153, 0, 9]
abbrev dktX2_faultNow_0 : List UInt8 := dkwX2_faultNow_0 ++ dktX2_faultNow_1
theorem dksX2_faultNow_0 : cX2_faultNow.data.toList.drop 0 = dktX2_faultNow_0 := by decide +kernel
theorem dksX2_faultNow_1 : cX2_faultNow.data.toList.drop 24 = dktX2_faultNow_1 := dk_seg dksX2_faultNow_0 24 rfl rfl
theorem dX2_faultNow_0 : decode cX2_faultNow 0 = .ok (.iconst 0, 1) := dk_3 (dk_at dksX2_faultNow_0 0 rfl rfl)
theorem dX2_faultNow_1 : decode cX2_faultNow 1 = .ok (.istore_n 1, 1) := dk_60 (dk_at dksX2_faultNow_0 1 rfl rfl)
theorem dX2_faultNow_2 : decode cX2_faultNow 2 = .ok (.iload_n 1, 1) := dk_27 (dk_at dksX2_faultNow_0 2 rfl rfl)
theorem dX2_faultNow_3 : decode cX2_faultNow 3 = .ok (.aload_n 0, 1) := dk_42 (dk_at dksX2_faultNow_0 3 rfl rfl)
theorem dX2_faultNow_4 : decode cX2_faultNow 4 = .ok (.getfield 68, 3) := dk_180 0 68 (dk_at dksX2_faultNow_0 4 rfl rfl)
theorem dX2_faultNow_7 : decode cX2_faultNow 7 = .ok (.if_icmp .ge 23, 3) := dk_162 0 23 (dk_at dksX2_faultNow_0 7 rfl rfl)
theorem dX2_faultNow_10 : decode cX2_faultNow 10 = .ok (.aload_n 0, 1) := dk_42 (dk_at dksX2_faultNow_0 10 rfl rfl)
theorem dX2_faultNow_11 : decode cX2_faultNow 11 = .ok (.iload_n 1, 1) := dk_27 (dk_at dksX2_faultNow_0 11 rfl rfl)
theorem dX2_faultNow_12 : decode cX2_faultNow 12 = .ok (.aload_n 0, 1) := dk_42 (dk_at dksX2_faultNow_0 12 rfl rfl)
theorem dX2_faultNow_13 : decode cX2_faultNow 13 = .ok (.getfield 47, 3) := dk_180 0 47 (dk_at dksX2_faultNow_0 13 rfl rfl)
theorem dX2_faultNow_16 : decode cX2_faultNow 16 = .ok (.iload_n 1, 1) := dk_27 (dk_at dksX2_faultNow_0 16 rfl rfl)
theorem dX2_faultNow_17 : decode cX2_faultNow 17 = .ok (.baload, 1) := dk_51 (dk_at dksX2_faultNow_0 17 rfl rfl)
theorem dX2_faultNow_18 : decode cX2_faultNow 18 = .ok (.invokevirtual 82, 3) := dk_182 0 82 (dk_at dksX2_faultNow_0 18 rfl rfl)
theorem dX2_faultNow_21 : decode cX2_faultNow 21 = .ok (.ifCond .eq 9, 3) := dk_153 0 9 (dk_at dksX2_faultNow_0 21 rfl rfl)
theorem dX2_faultNow_24 : decode cX2_faultNow 24 = .ok (.iinc 1 1, 3) := dk_132 1 1 (dk_at dksX2_faultNow_1 0 rfl rfl)
theorem dX2_faultNow_27 : decode cX2_faultNow 27 = .ok (.goto (-25), 3) := dk_167 255 231 (dk_at dksX2_faultNow_1 3 rfl rfl)
theorem dX2_faultNow_30 : decode cX2_faultNow 30 = .ok (.iload_n 1, 1) := dk_27 (dk_at dksX2_faultNow_1 6 rfl rfl)
theorem dX2_faultNow_31 : decode cX2_faultNow 31 = .ok (.ireturn, 1) := dk_172 (dk_at dksX2_faultNow_1 7 rfl rfl)
abbrev cX2_mayStand : ByteArray := prog_11_method_9_code
def yX2_mayStand : MethodName := ⟨RX2, "mayStand", "(II)Z"⟩
def dkwX2_mayStand_6 : List UInt8 := [16, 48, 16, 57, 184, 0, 78, 153, 0, 7, 4, 167, 0, 4, 3, 172]
abbrev dktX2_mayStand_6 : List UInt8 := dkwX2_mayStand_6 ++ []
def dkwX2_mayStand_5 : List UInt8 := [164, 0, 7, 4, 167, 0, 4, 3, 172, 28, 16, 49, 16, 57, 184, 0, 78, 172, 27, 8, 160, 0, 18, 28]
abbrev dktX2_mayStand_5 : List UInt8 := dkwX2_mayStand_5 ++ dktX2_mayStand_6
def dkwX2_mayStand_4 : List UInt8 := [184, 0, 78, 172, 28, 16, 49, 16, 57, 184, 0, 78, 153, 0, 17, 28, 42, 180, 0, 47, 5, 51]
abbrev dktX2_mayStand_4 : List UInt8 := dkwX2_mayStand_4 ++ dktX2_mayStand_5
def dkwX2_mayStand_3 : List UInt8 := [16, 47, 42, 180, 0, 75, 96, 184, 0, 78, 153, 0, 7, 4, 167, 0, 4, 3, 172, 28, 16, 48, 16, 56]
abbrev dktX2_mayStand_3 : List UInt8 := dkwX2_mayStand_3 ++ dktX2_mayStand_4
def dkwX2_mayStand_2 : List UInt8 := [28, 184, 0, 71, 2, 159, 0, 7, 4, 167, 0, 4, 3, 172, 28, 16, 45, 159, 0, 19, 28, 16, 48]
abbrev dktX2_mayStand_2 : List UInt8 := dkwX2_mayStand_2 ++ dktX2_mayStand_3
def dkwX2_mayStand_1 : List UInt8 := [170, 0, 0, 0, 0, 0, 122, 0, 0, 0, 0, 0, 0, 0, 4, 0, 0, 0, 35, 0, 0, 0, 49, 0, 0, 0, 77, 0, 0, 0, 86, 0, 0, 0, 113]
abbrev dktX2_mayStand_1 : List UInt8 := dkwX2_mayStand_1 ++ dktX2_mayStand_2
def dkwX2_mayStand_0 : List UInt8 := [27]
abbrev dktX2_mayStand_0 : List UInt8 := dkwX2_mayStand_0 ++ dktX2_mayStand_1
theorem dksX2_mayStand_0 : cX2_mayStand.data.toList.drop 0 = dktX2_mayStand_0 := by decide +kernel
theorem dksX2_mayStand_1 : cX2_mayStand.data.toList.drop 1 = dktX2_mayStand_1 := dk_seg dksX2_mayStand_0 1 rfl rfl
theorem dksX2_mayStand_2 : cX2_mayStand.data.toList.drop 36 = dktX2_mayStand_2 := dk_seg dksX2_mayStand_1 35 rfl rfl
theorem dksX2_mayStand_3 : cX2_mayStand.data.toList.drop 59 = dktX2_mayStand_3 := dk_seg dksX2_mayStand_2 23 rfl rfl
theorem dksX2_mayStand_4 : cX2_mayStand.data.toList.drop 83 = dktX2_mayStand_4 := dk_seg dksX2_mayStand_3 24 rfl rfl
theorem dksX2_mayStand_5 : cX2_mayStand.data.toList.drop 105 = dktX2_mayStand_5 := dk_seg dksX2_mayStand_4 22 rfl rfl
theorem dksX2_mayStand_6 : cX2_mayStand.data.toList.drop 129 = dktX2_mayStand_6 := dk_seg dksX2_mayStand_5 24 rfl rfl
theorem dX2_mayStand_0 : decode cX2_mayStand 0 = .ok (.iload_n 1, 1) := dk_27 (dk_at dksX2_mayStand_0 0 rfl rfl)
theorem dX2_mayStand_1 : decode cX2_mayStand 1 = .ok (.tableswitch 122 0 4 #[35, 49, 77, 86, 113], 35) := by decide +kernel
theorem dX2_mayStand_36 : decode cX2_mayStand 36 = .ok (.iload_n 2, 1) := dk_28 (dk_at dksX2_mayStand_2 0 rfl rfl)
theorem dX2_mayStand_37 : decode cX2_mayStand 37 = .ok (.invokestatic 71, 3) := dk_184 0 71 (dk_at dksX2_mayStand_2 1 rfl rfl)
theorem dX2_mayStand_40 : decode cX2_mayStand 40 = .ok (.iconst (-1), 1) := dk_2 (dk_at dksX2_mayStand_2 4 rfl rfl)
theorem dX2_mayStand_41 : decode cX2_mayStand 41 = .ok (.if_icmp .eq 7, 3) := dk_159 0 7 (dk_at dksX2_mayStand_2 5 rfl rfl)
theorem dX2_mayStand_44 : decode cX2_mayStand 44 = .ok (.iconst 1, 1) := dk_4 (dk_at dksX2_mayStand_2 8 rfl rfl)
theorem dX2_mayStand_45 : decode cX2_mayStand 45 = .ok (.goto 4, 3) := dk_167 0 4 (dk_at dksX2_mayStand_2 9 rfl rfl)
theorem dX2_mayStand_48 : decode cX2_mayStand 48 = .ok (.iconst 0, 1) := dk_3 (dk_at dksX2_mayStand_2 12 rfl rfl)
theorem dX2_mayStand_49 : decode cX2_mayStand 49 = .ok (.ireturn, 1) := dk_172 (dk_at dksX2_mayStand_2 13 rfl rfl)
theorem dX2_mayStand_50 : decode cX2_mayStand 50 = .ok (.iload_n 2, 1) := dk_28 (dk_at dksX2_mayStand_2 14 rfl rfl)
theorem dX2_mayStand_51 : decode cX2_mayStand 51 = .ok (.bipush 45, 2) := dk_16 45 (dk_at dksX2_mayStand_2 15 rfl rfl)
theorem dX2_mayStand_53 : decode cX2_mayStand 53 = .ok (.if_icmp .eq 19, 3) := dk_159 0 19 (dk_at dksX2_mayStand_2 17 rfl rfl)
theorem dX2_mayStand_56 : decode cX2_mayStand 56 = .ok (.iload_n 2, 1) := dk_28 (dk_at dksX2_mayStand_2 20 rfl rfl)
theorem dX2_mayStand_57 : decode cX2_mayStand 57 = .ok (.bipush 48, 2) := dk_16 48 (dk_at dksX2_mayStand_2 21 rfl rfl)
theorem dX2_mayStand_59 : decode cX2_mayStand 59 = .ok (.bipush 47, 2) := dk_16 47 (dk_at dksX2_mayStand_3 0 rfl rfl)
theorem dX2_mayStand_61 : decode cX2_mayStand 61 = .ok (.aload_n 0, 1) := dk_42 (dk_at dksX2_mayStand_3 2 rfl rfl)
theorem dX2_mayStand_62 : decode cX2_mayStand 62 = .ok (.getfield 75, 3) := dk_180 0 75 (dk_at dksX2_mayStand_3 3 rfl rfl)
theorem dX2_mayStand_65 : decode cX2_mayStand 65 = .ok (.iadd, 1) := dk_96 (dk_at dksX2_mayStand_3 6 rfl rfl)
theorem dX2_mayStand_66 : decode cX2_mayStand 66 = .ok (.invokestatic 78, 3) := dk_184 0 78 (dk_at dksX2_mayStand_3 7 rfl rfl)
theorem dX2_mayStand_69 : decode cX2_mayStand 69 = .ok (.ifCond .eq 7, 3) := dk_153 0 7 (dk_at dksX2_mayStand_3 10 rfl rfl)
theorem dX2_mayStand_72 : decode cX2_mayStand 72 = .ok (.iconst 1, 1) := dk_4 (dk_at dksX2_mayStand_3 13 rfl rfl)
theorem dX2_mayStand_73 : decode cX2_mayStand 73 = .ok (.goto 4, 3) := dk_167 0 4 (dk_at dksX2_mayStand_3 14 rfl rfl)
theorem dX2_mayStand_76 : decode cX2_mayStand 76 = .ok (.iconst 0, 1) := dk_3 (dk_at dksX2_mayStand_3 17 rfl rfl)
theorem dX2_mayStand_77 : decode cX2_mayStand 77 = .ok (.ireturn, 1) := dk_172 (dk_at dksX2_mayStand_3 18 rfl rfl)
theorem dX2_mayStand_78 : decode cX2_mayStand 78 = .ok (.iload_n 2, 1) := dk_28 (dk_at dksX2_mayStand_3 19 rfl rfl)
theorem dX2_mayStand_79 : decode cX2_mayStand 79 = .ok (.bipush 48, 2) := dk_16 48 (dk_at dksX2_mayStand_3 20 rfl rfl)
theorem dX2_mayStand_81 : decode cX2_mayStand 81 = .ok (.bipush 56, 2) := dk_16 56 (dk_at dksX2_mayStand_3 22 rfl rfl)
theorem dX2_mayStand_83 : decode cX2_mayStand 83 = .ok (.invokestatic 78, 3) := dk_184 0 78 (dk_at dksX2_mayStand_4 0 rfl rfl)
theorem dX2_mayStand_86 : decode cX2_mayStand 86 = .ok (.ireturn, 1) := dk_172 (dk_at dksX2_mayStand_4 3 rfl rfl)
theorem dX2_mayStand_87 : decode cX2_mayStand 87 = .ok (.iload_n 2, 1) := dk_28 (dk_at dksX2_mayStand_4 4 rfl rfl)
theorem dX2_mayStand_88 : decode cX2_mayStand 88 = .ok (.bipush 49, 2) := dk_16 49 (dk_at dksX2_mayStand_4 5 rfl rfl)
theorem dX2_mayStand_90 : decode cX2_mayStand 90 = .ok (.bipush 57, 2) := dk_16 57 (dk_at dksX2_mayStand_4 7 rfl rfl)
theorem dX2_mayStand_92 : decode cX2_mayStand 92 = .ok (.invokestatic 78, 3) := dk_184 0 78 (dk_at dksX2_mayStand_4 9 rfl rfl)
theorem dX2_mayStand_95 : decode cX2_mayStand 95 = .ok (.ifCond .eq 17, 3) := dk_153 0 17 (dk_at dksX2_mayStand_4 12 rfl rfl)
theorem dX2_mayStand_98 : decode cX2_mayStand 98 = .ok (.iload_n 2, 1) := dk_28 (dk_at dksX2_mayStand_4 15 rfl rfl)
theorem dX2_mayStand_99 : decode cX2_mayStand 99 = .ok (.aload_n 0, 1) := dk_42 (dk_at dksX2_mayStand_4 16 rfl rfl)
theorem dX2_mayStand_100 : decode cX2_mayStand 100 = .ok (.getfield 47, 3) := dk_180 0 47 (dk_at dksX2_mayStand_4 17 rfl rfl)
theorem dX2_mayStand_103 : decode cX2_mayStand 103 = .ok (.iconst 2, 1) := dk_5 (dk_at dksX2_mayStand_4 20 rfl rfl)
theorem dX2_mayStand_104 : decode cX2_mayStand 104 = .ok (.baload, 1) := dk_51 (dk_at dksX2_mayStand_4 21 rfl rfl)
theorem dX2_mayStand_105 : decode cX2_mayStand 105 = .ok (.if_icmp .le 7, 3) := dk_164 0 7 (dk_at dksX2_mayStand_5 0 rfl rfl)
theorem dX2_mayStand_108 : decode cX2_mayStand 108 = .ok (.iconst 1, 1) := dk_4 (dk_at dksX2_mayStand_5 3 rfl rfl)
theorem dX2_mayStand_109 : decode cX2_mayStand 109 = .ok (.goto 4, 3) := dk_167 0 4 (dk_at dksX2_mayStand_5 4 rfl rfl)
theorem dX2_mayStand_112 : decode cX2_mayStand 112 = .ok (.iconst 0, 1) := dk_3 (dk_at dksX2_mayStand_5 7 rfl rfl)
theorem dX2_mayStand_113 : decode cX2_mayStand 113 = .ok (.ireturn, 1) := dk_172 (dk_at dksX2_mayStand_5 8 rfl rfl)
theorem dX2_mayStand_114 : decode cX2_mayStand 114 = .ok (.iload_n 2, 1) := dk_28 (dk_at dksX2_mayStand_5 9 rfl rfl)
theorem dX2_mayStand_115 : decode cX2_mayStand 115 = .ok (.bipush 49, 2) := dk_16 49 (dk_at dksX2_mayStand_5 10 rfl rfl)
theorem dX2_mayStand_117 : decode cX2_mayStand 117 = .ok (.bipush 57, 2) := dk_16 57 (dk_at dksX2_mayStand_5 12 rfl rfl)
theorem dX2_mayStand_119 : decode cX2_mayStand 119 = .ok (.invokestatic 78, 3) := dk_184 0 78 (dk_at dksX2_mayStand_5 14 rfl rfl)
theorem dX2_mayStand_122 : decode cX2_mayStand 122 = .ok (.ireturn, 1) := dk_172 (dk_at dksX2_mayStand_5 17 rfl rfl)
theorem dX2_mayStand_123 : decode cX2_mayStand 123 = .ok (.iload_n 1, 1) := dk_27 (dk_at dksX2_mayStand_5 18 rfl rfl)
theorem dX2_mayStand_124 : decode cX2_mayStand 124 = .ok (.iconst 5, 1) := dk_8 (dk_at dksX2_mayStand_5 19 rfl rfl)
theorem dX2_mayStand_125 : decode cX2_mayStand 125 = .ok (.if_icmp .ne 18, 3) := dk_160 0 18 (dk_at dksX2_mayStand_5 20 rfl rfl)
theorem dX2_mayStand_128 : decode cX2_mayStand 128 = .ok (.iload_n 2, 1) := dk_28 (dk_at dksX2_mayStand_5 23 rfl rfl)
theorem dX2_mayStand_129 : decode cX2_mayStand 129 = .ok (.bipush 48, 2) := dk_16 48 (dk_at dksX2_mayStand_6 0 rfl rfl)
theorem dX2_mayStand_131 : decode cX2_mayStand 131 = .ok (.bipush 57, 2) := dk_16 57 (dk_at dksX2_mayStand_6 2 rfl rfl)
theorem dX2_mayStand_133 : decode cX2_mayStand 133 = .ok (.invokestatic 78, 3) := dk_184 0 78 (dk_at dksX2_mayStand_6 4 rfl rfl)
theorem dX2_mayStand_136 : decode cX2_mayStand 136 = .ok (.ifCond .eq 7, 3) := dk_153 0 7 (dk_at dksX2_mayStand_6 7 rfl rfl)
theorem dX2_mayStand_139 : decode cX2_mayStand 139 = .ok (.iconst 1, 1) := dk_4 (dk_at dksX2_mayStand_6 10 rfl rfl)
theorem dX2_mayStand_140 : decode cX2_mayStand 140 = .ok (.goto 4, 3) := dk_167 0 4 (dk_at dksX2_mayStand_6 11 rfl rfl)
theorem dX2_mayStand_143 : decode cX2_mayStand 143 = .ok (.iconst 0, 1) := dk_3 (dk_at dksX2_mayStand_6 14 rfl rfl)
theorem dX2_mayStand_144 : decode cX2_mayStand 144 = .ok (.ireturn, 1) := dk_172 (dk_at dksX2_mayStand_6 15 rfl rfl)
abbrev cX2_kindBy : ByteArray := prog_11_method_8_code
def yX2_kindBy : MethodName := ⟨RX2, "kindBy", "(I)I"⟩
def dkwX2_kindBy_2 : List UInt8 := [167, 0, 4, 2, 172]
abbrev dktX2_kindBy_2 : List UInt8 := dkwX2_kindBy_2 ++ []
def dkwX2_kindBy_1 : List UInt8 := [160, 0, 7, 5, 167, 0, 24, 26, 16, 115, 160, 0, 7, 6, 167, 0, 14, 26, 16, 120, 160, 0, 7, 7]
abbrev dktX2_kindBy_1 : List UInt8 := dkwX2_kindBy_1 ++ dktX2_kindBy_2
def dkwX2_kindBy_0 : List UInt8 := [26, 16, 104, 160, 0, 7, 3, 167, 0, 44, 26, 16, 99, 160, 0, 7, 4, 167, 0, 34, 26, 16, 117]
abbrev dktX2_kindBy_0 : List UInt8 := dkwX2_kindBy_0 ++ dktX2_kindBy_1
theorem dksX2_kindBy_0 : cX2_kindBy.data.toList.drop 0 = dktX2_kindBy_0 := by decide +kernel
theorem dksX2_kindBy_1 : cX2_kindBy.data.toList.drop 23 = dktX2_kindBy_1 := dk_seg dksX2_kindBy_0 23 rfl rfl
theorem dksX2_kindBy_2 : cX2_kindBy.data.toList.drop 47 = dktX2_kindBy_2 := dk_seg dksX2_kindBy_1 24 rfl rfl
theorem dX2_kindBy_0 : decode cX2_kindBy 0 = .ok (.iload_n 0, 1) := dk_26 (dk_at dksX2_kindBy_0 0 rfl rfl)
theorem dX2_kindBy_1 : decode cX2_kindBy 1 = .ok (.bipush 104, 2) := dk_16 104 (dk_at dksX2_kindBy_0 1 rfl rfl)
theorem dX2_kindBy_3 : decode cX2_kindBy 3 = .ok (.if_icmp .ne 7, 3) := dk_160 0 7 (dk_at dksX2_kindBy_0 3 rfl rfl)
theorem dX2_kindBy_6 : decode cX2_kindBy 6 = .ok (.iconst 0, 1) := dk_3 (dk_at dksX2_kindBy_0 6 rfl rfl)
theorem dX2_kindBy_7 : decode cX2_kindBy 7 = .ok (.goto 44, 3) := dk_167 0 44 (dk_at dksX2_kindBy_0 7 rfl rfl)
theorem dX2_kindBy_10 : decode cX2_kindBy 10 = .ok (.iload_n 0, 1) := dk_26 (dk_at dksX2_kindBy_0 10 rfl rfl)
theorem dX2_kindBy_11 : decode cX2_kindBy 11 = .ok (.bipush 99, 2) := dk_16 99 (dk_at dksX2_kindBy_0 11 rfl rfl)
theorem dX2_kindBy_13 : decode cX2_kindBy 13 = .ok (.if_icmp .ne 7, 3) := dk_160 0 7 (dk_at dksX2_kindBy_0 13 rfl rfl)
theorem dX2_kindBy_16 : decode cX2_kindBy 16 = .ok (.iconst 1, 1) := dk_4 (dk_at dksX2_kindBy_0 16 rfl rfl)
theorem dX2_kindBy_17 : decode cX2_kindBy 17 = .ok (.goto 34, 3) := dk_167 0 34 (dk_at dksX2_kindBy_0 17 rfl rfl)
theorem dX2_kindBy_20 : decode cX2_kindBy 20 = .ok (.iload_n 0, 1) := dk_26 (dk_at dksX2_kindBy_0 20 rfl rfl)
theorem dX2_kindBy_21 : decode cX2_kindBy 21 = .ok (.bipush 117, 2) := dk_16 117 (dk_at dksX2_kindBy_0 21 rfl rfl)
theorem dX2_kindBy_23 : decode cX2_kindBy 23 = .ok (.if_icmp .ne 7, 3) := dk_160 0 7 (dk_at dksX2_kindBy_1 0 rfl rfl)
theorem dX2_kindBy_26 : decode cX2_kindBy 26 = .ok (.iconst 2, 1) := dk_5 (dk_at dksX2_kindBy_1 3 rfl rfl)
theorem dX2_kindBy_27 : decode cX2_kindBy 27 = .ok (.goto 24, 3) := dk_167 0 24 (dk_at dksX2_kindBy_1 4 rfl rfl)
theorem dX2_kindBy_30 : decode cX2_kindBy 30 = .ok (.iload_n 0, 1) := dk_26 (dk_at dksX2_kindBy_1 7 rfl rfl)
theorem dX2_kindBy_31 : decode cX2_kindBy 31 = .ok (.bipush 115, 2) := dk_16 115 (dk_at dksX2_kindBy_1 8 rfl rfl)
theorem dX2_kindBy_33 : decode cX2_kindBy 33 = .ok (.if_icmp .ne 7, 3) := dk_160 0 7 (dk_at dksX2_kindBy_1 10 rfl rfl)
theorem dX2_kindBy_36 : decode cX2_kindBy 36 = .ok (.iconst 3, 1) := dk_6 (dk_at dksX2_kindBy_1 13 rfl rfl)
theorem dX2_kindBy_37 : decode cX2_kindBy 37 = .ok (.goto 14, 3) := dk_167 0 14 (dk_at dksX2_kindBy_1 14 rfl rfl)
theorem dX2_kindBy_40 : decode cX2_kindBy 40 = .ok (.iload_n 0, 1) := dk_26 (dk_at dksX2_kindBy_1 17 rfl rfl)
theorem dX2_kindBy_41 : decode cX2_kindBy 41 = .ok (.bipush 120, 2) := dk_16 120 (dk_at dksX2_kindBy_1 18 rfl rfl)
theorem dX2_kindBy_43 : decode cX2_kindBy 43 = .ok (.if_icmp .ne 7, 3) := dk_160 0 7 (dk_at dksX2_kindBy_1 20 rfl rfl)
theorem dX2_kindBy_46 : decode cX2_kindBy 46 = .ok (.iconst 4, 1) := dk_7 (dk_at dksX2_kindBy_1 23 rfl rfl)
theorem dX2_kindBy_47 : decode cX2_kindBy 47 = .ok (.goto 4, 3) := dk_167 0 4 (dk_at dksX2_kindBy_2 0 rfl rfl)
theorem dX2_kindBy_50 : decode cX2_kindBy 50 = .ok (.iconst (-1), 1) := dk_2 (dk_at dksX2_kindBy_2 3 rfl rfl)
theorem dX2_kindBy_51 : decode cX2_kindBy 51 = .ok (.ireturn, 1) := dk_172 (dk_at dksX2_kindBy_2 4 rfl rfl)
abbrev cX2_within : ByteArray := prog_11_method_3_code
def yX2_within : MethodName := ⟨RX2, "within", "(III)Z"⟩
def dkwX2_within_0 : List UInt8 := [26, 27, 161, 0, 12, 26, 28, 163, 0, 7, 4, 167, 0, 4, 3, 172]
abbrev dktX2_within_0 : List UInt8 := dkwX2_within_0 ++ []
theorem dksX2_within_0 : cX2_within.data.toList.drop 0 = dktX2_within_0 := by decide +kernel
theorem dX2_within_0 : decode cX2_within 0 = .ok (.iload_n 0, 1) := dk_26 (dk_at dksX2_within_0 0 rfl rfl)
theorem dX2_within_1 : decode cX2_within 1 = .ok (.iload_n 1, 1) := dk_27 (dk_at dksX2_within_0 1 rfl rfl)
theorem dX2_within_2 : decode cX2_within 2 = .ok (.if_icmp .lt 12, 3) := dk_161 0 12 (dk_at dksX2_within_0 2 rfl rfl)
theorem dX2_within_5 : decode cX2_within 5 = .ok (.iload_n 0, 1) := dk_26 (dk_at dksX2_within_0 5 rfl rfl)
theorem dX2_within_6 : decode cX2_within 6 = .ok (.iload_n 2, 1) := dk_28 (dk_at dksX2_within_0 6 rfl rfl)
theorem dX2_within_7 : decode cX2_within 7 = .ok (.if_icmp .gt 7, 3) := dk_163 0 7 (dk_at dksX2_within_0 7 rfl rfl)
theorem dX2_within_10 : decode cX2_within 10 = .ok (.iconst 1, 1) := dk_4 (dk_at dksX2_within_0 10 rfl rfl)
theorem dX2_within_11 : decode cX2_within 11 = .ok (.goto 4, 3) := dk_167 0 4 (dk_at dksX2_within_0 11 rfl rfl)
theorem dX2_within_14 : decode cX2_within 14 = .ok (.iconst 0, 1) := dk_3 (dk_at dksX2_within_0 14 rfl rfl)
theorem dX2_within_15 : decode cX2_within 15 = .ok (.ireturn, 1) := dk_172 (dk_at dksX2_within_0 15 rfl rfl)
abbrev cX2_house : ByteArray := prog_11_method_12_code
def yX2_house : MethodName := ⟨RX2, "house", "()I"⟩
def dkwX2_house_9 : List UInt8 := [181, 0, 75, 42, 3, 181, 0, 68, 42, 180, 0, 75, 4, 100, 172]
abbrev dktX2_house_9 : List UInt8 := dkwX2_house_9 ++ []
def dkwX2_house_8 : List UInt8 := [42, 89, 180, 0, 93, 4, 42, 180, 0, 75, 120, 2, 130, 126, 181, 0, 93, 42, 89, 180, 0, 75, 4, 96]
abbrev dktX2_house_8 : List UInt8 := dkwX2_house_8 ++ dktX2_house_9
def dkwX2_house_7 : List UInt8 := [16, 48, 100, 79, 42, 180, 0, 28, 42, 180, 0, 75, 3, 79, 42, 180, 0, 31, 42, 180, 0, 75, 3, 79]
abbrev dktX2_house_7 : List UInt8 := dkwX2_house_7 ++ dktX2_house_8
def dkwX2_house_6 : List UInt8 := [180, 0, 47, 7, 51, 16, 48, 100, 79, 42, 180, 0, 25, 42, 180, 0, 75, 42, 180, 0, 47, 8, 51]
abbrev dktX2_house_6 : List UInt8 := dkwX2_house_6 ++ dktX2_house_7
def dkwX2_house_5 : List UInt8 := [180, 0, 75, 42, 180, 0, 47, 6, 51, 16, 48, 100, 79, 42, 180, 0, 22, 42, 180, 0, 75, 42]
abbrev dktX2_house_5 : List UInt8 := dkwX2_house_5 ++ dktX2_house_6
def dkwX2_house_4 : List UInt8 := [42, 180, 0, 16, 42, 180, 0, 75, 42, 180, 0, 47, 5, 51, 16, 48, 100, 79, 42, 180, 0, 19, 42]
abbrev dktX2_house_4 : List UInt8 := dkwX2_house_4 ++ dktX2_house_5
def dkwX2_house_3 : List UInt8 := [180, 0, 47, 4, 51, 16, 45, 160, 0, 7, 2, 167, 0, 12, 42, 180, 0, 47, 4, 51, 16, 48, 100, 79]
abbrev dktX2_house_3 : List UInt8 := dkwX2_house_3 ++ dktX2_house_4
def dkwX2_house_2 : List UInt8 := [180, 0, 75, 42, 180, 0, 47, 3, 51, 184, 0, 71, 79, 42, 180, 0, 13, 42, 180, 0, 75, 42]
abbrev dktX2_house_2 : List UInt8 := dkwX2_house_2 ++ dktX2_house_3
def dkwX2_house_1 : List UInt8 := [158, 0, 6, 16, 153, 172, 42, 180, 0, 75, 16, 8, 160, 0, 6, 16, 152, 172, 42, 180, 0, 7, 42]
abbrev dktX2_house_1 : List UInt8 := dkwX2_house_1 ++ dktX2_house_2
def dkwX2_house_0 : List UInt8 := [42, 182, 0, 86, 42, 180, 0, 68, 161, 0, 19, 42, 180, 0, 68, 16, 6, 160, 0, 10, 42, 180, 0, 90]
abbrev dktX2_house_0 : List UInt8 := dkwX2_house_0 ++ dktX2_house_1
theorem dksX2_house_0 : cX2_house.data.toList.drop 0 = dktX2_house_0 := by decide +kernel
theorem dksX2_house_1 : cX2_house.data.toList.drop 24 = dktX2_house_1 := dk_seg dksX2_house_0 24 rfl rfl
theorem dksX2_house_2 : cX2_house.data.toList.drop 47 = dktX2_house_2 := dk_seg dksX2_house_1 23 rfl rfl
theorem dksX2_house_3 : cX2_house.data.toList.drop 69 = dktX2_house_3 := dk_seg dksX2_house_2 22 rfl rfl
theorem dksX2_house_4 : cX2_house.data.toList.drop 93 = dktX2_house_4 := dk_seg dksX2_house_3 24 rfl rfl
theorem dksX2_house_5 : cX2_house.data.toList.drop 116 = dktX2_house_5 := dk_seg dksX2_house_4 23 rfl rfl
theorem dksX2_house_6 : cX2_house.data.toList.drop 138 = dktX2_house_6 := dk_seg dksX2_house_5 22 rfl rfl
theorem dksX2_house_7 : cX2_house.data.toList.drop 161 = dktX2_house_7 := dk_seg dksX2_house_6 23 rfl rfl
theorem dksX2_house_8 : cX2_house.data.toList.drop 185 = dktX2_house_8 := dk_seg dksX2_house_7 24 rfl rfl
theorem dksX2_house_9 : cX2_house.data.toList.drop 209 = dktX2_house_9 := dk_seg dksX2_house_8 24 rfl rfl
theorem dX2_house_0 : decode cX2_house 0 = .ok (.aload_n 0, 1) := dk_42 (dk_at dksX2_house_0 0 rfl rfl)
theorem dX2_house_1 : decode cX2_house 1 = .ok (.invokevirtual 86, 3) := dk_182 0 86 (dk_at dksX2_house_0 1 rfl rfl)
theorem dX2_house_4 : decode cX2_house 4 = .ok (.aload_n 0, 1) := dk_42 (dk_at dksX2_house_0 4 rfl rfl)
theorem dX2_house_5 : decode cX2_house 5 = .ok (.getfield 68, 3) := dk_180 0 68 (dk_at dksX2_house_0 5 rfl rfl)
theorem dX2_house_8 : decode cX2_house 8 = .ok (.if_icmp .lt 19, 3) := dk_161 0 19 (dk_at dksX2_house_0 8 rfl rfl)
theorem dX2_house_11 : decode cX2_house 11 = .ok (.aload_n 0, 1) := dk_42 (dk_at dksX2_house_0 11 rfl rfl)
theorem dX2_house_12 : decode cX2_house 12 = .ok (.getfield 68, 3) := dk_180 0 68 (dk_at dksX2_house_0 12 rfl rfl)
theorem dX2_house_15 : decode cX2_house 15 = .ok (.bipush 6, 2) := dk_16 6 (dk_at dksX2_house_0 15 rfl rfl)
theorem dX2_house_17 : decode cX2_house 17 = .ok (.if_icmp .ne 10, 3) := dk_160 0 10 (dk_at dksX2_house_0 17 rfl rfl)
theorem dX2_house_20 : decode cX2_house 20 = .ok (.aload_n 0, 1) := dk_42 (dk_at dksX2_house_0 20 rfl rfl)
theorem dX2_house_21 : decode cX2_house 21 = .ok (.getfield 90, 3) := dk_180 0 90 (dk_at dksX2_house_0 21 rfl rfl)
theorem dX2_house_24 : decode cX2_house 24 = .ok (.ifCond .le 6, 3) := dk_158 0 6 (dk_at dksX2_house_1 0 rfl rfl)
theorem dX2_house_27 : decode cX2_house 27 = .ok (.bipush (-103), 2) := dk_16 153 (dk_at dksX2_house_1 3 rfl rfl)
theorem dX2_house_29 : decode cX2_house 29 = .ok (.ireturn, 1) := dk_172 (dk_at dksX2_house_1 5 rfl rfl)
theorem dX2_house_30 : decode cX2_house 30 = .ok (.aload_n 0, 1) := dk_42 (dk_at dksX2_house_1 6 rfl rfl)
theorem dX2_house_31 : decode cX2_house 31 = .ok (.getfield 75, 3) := dk_180 0 75 (dk_at dksX2_house_1 7 rfl rfl)
theorem dX2_house_34 : decode cX2_house 34 = .ok (.bipush 8, 2) := dk_16 8 (dk_at dksX2_house_1 10 rfl rfl)
theorem dX2_house_36 : decode cX2_house 36 = .ok (.if_icmp .ne 6, 3) := dk_160 0 6 (dk_at dksX2_house_1 12 rfl rfl)
theorem dX2_house_39 : decode cX2_house 39 = .ok (.bipush (-104), 2) := dk_16 152 (dk_at dksX2_house_1 15 rfl rfl)
theorem dX2_house_41 : decode cX2_house 41 = .ok (.ireturn, 1) := dk_172 (dk_at dksX2_house_1 17 rfl rfl)
theorem dX2_house_42 : decode cX2_house 42 = .ok (.aload_n 0, 1) := dk_42 (dk_at dksX2_house_1 18 rfl rfl)
theorem dX2_house_43 : decode cX2_house 43 = .ok (.getfield 7, 3) := dk_180 0 7 (dk_at dksX2_house_1 19 rfl rfl)
theorem dX2_house_46 : decode cX2_house 46 = .ok (.aload_n 0, 1) := dk_42 (dk_at dksX2_house_1 22 rfl rfl)
theorem dX2_house_47 : decode cX2_house 47 = .ok (.getfield 75, 3) := dk_180 0 75 (dk_at dksX2_house_2 0 rfl rfl)
theorem dX2_house_50 : decode cX2_house 50 = .ok (.aload_n 0, 1) := dk_42 (dk_at dksX2_house_2 3 rfl rfl)
theorem dX2_house_51 : decode cX2_house 51 = .ok (.getfield 47, 3) := dk_180 0 47 (dk_at dksX2_house_2 4 rfl rfl)
theorem dX2_house_54 : decode cX2_house 54 = .ok (.iconst 0, 1) := dk_3 (dk_at dksX2_house_2 7 rfl rfl)
theorem dX2_house_55 : decode cX2_house 55 = .ok (.baload, 1) := dk_51 (dk_at dksX2_house_2 8 rfl rfl)
theorem dX2_house_56 : decode cX2_house 56 = .ok (.invokestatic 71, 3) := dk_184 0 71 (dk_at dksX2_house_2 9 rfl rfl)
theorem dX2_house_59 : decode cX2_house 59 = .ok (.iastore, 1) := dk_79 (dk_at dksX2_house_2 12 rfl rfl)
theorem dX2_house_60 : decode cX2_house 60 = .ok (.aload_n 0, 1) := dk_42 (dk_at dksX2_house_2 13 rfl rfl)
theorem dX2_house_61 : decode cX2_house 61 = .ok (.getfield 13, 3) := dk_180 0 13 (dk_at dksX2_house_2 14 rfl rfl)
theorem dX2_house_64 : decode cX2_house 64 = .ok (.aload_n 0, 1) := dk_42 (dk_at dksX2_house_2 17 rfl rfl)
theorem dX2_house_65 : decode cX2_house 65 = .ok (.getfield 75, 3) := dk_180 0 75 (dk_at dksX2_house_2 18 rfl rfl)
theorem dX2_house_68 : decode cX2_house 68 = .ok (.aload_n 0, 1) := dk_42 (dk_at dksX2_house_2 21 rfl rfl)
theorem dX2_house_69 : decode cX2_house 69 = .ok (.getfield 47, 3) := dk_180 0 47 (dk_at dksX2_house_3 0 rfl rfl)
theorem dX2_house_72 : decode cX2_house 72 = .ok (.iconst 1, 1) := dk_4 (dk_at dksX2_house_3 3 rfl rfl)
theorem dX2_house_73 : decode cX2_house 73 = .ok (.baload, 1) := dk_51 (dk_at dksX2_house_3 4 rfl rfl)
theorem dX2_house_74 : decode cX2_house 74 = .ok (.bipush 45, 2) := dk_16 45 (dk_at dksX2_house_3 5 rfl rfl)
theorem dX2_house_76 : decode cX2_house 76 = .ok (.if_icmp .ne 7, 3) := dk_160 0 7 (dk_at dksX2_house_3 7 rfl rfl)
theorem dX2_house_79 : decode cX2_house 79 = .ok (.iconst (-1), 1) := dk_2 (dk_at dksX2_house_3 10 rfl rfl)
theorem dX2_house_80 : decode cX2_house 80 = .ok (.goto 12, 3) := dk_167 0 12 (dk_at dksX2_house_3 11 rfl rfl)
theorem dX2_house_83 : decode cX2_house 83 = .ok (.aload_n 0, 1) := dk_42 (dk_at dksX2_house_3 14 rfl rfl)
theorem dX2_house_84 : decode cX2_house 84 = .ok (.getfield 47, 3) := dk_180 0 47 (dk_at dksX2_house_3 15 rfl rfl)
theorem dX2_house_87 : decode cX2_house 87 = .ok (.iconst 1, 1) := dk_4 (dk_at dksX2_house_3 18 rfl rfl)
theorem dX2_house_88 : decode cX2_house 88 = .ok (.baload, 1) := dk_51 (dk_at dksX2_house_3 19 rfl rfl)
theorem dX2_house_89 : decode cX2_house 89 = .ok (.bipush 48, 2) := dk_16 48 (dk_at dksX2_house_3 20 rfl rfl)
theorem dX2_house_91 : decode cX2_house 91 = .ok (.isub, 1) := dk_100 (dk_at dksX2_house_3 22 rfl rfl)
theorem dX2_house_92 : decode cX2_house 92 = .ok (.iastore, 1) := dk_79 (dk_at dksX2_house_3 23 rfl rfl)
theorem dX2_house_93 : decode cX2_house 93 = .ok (.aload_n 0, 1) := dk_42 (dk_at dksX2_house_4 0 rfl rfl)
theorem dX2_house_94 : decode cX2_house 94 = .ok (.getfield 16, 3) := dk_180 0 16 (dk_at dksX2_house_4 1 rfl rfl)
theorem dX2_house_97 : decode cX2_house 97 = .ok (.aload_n 0, 1) := dk_42 (dk_at dksX2_house_4 4 rfl rfl)
theorem dX2_house_98 : decode cX2_house 98 = .ok (.getfield 75, 3) := dk_180 0 75 (dk_at dksX2_house_4 5 rfl rfl)
theorem dX2_house_101 : decode cX2_house 101 = .ok (.aload_n 0, 1) := dk_42 (dk_at dksX2_house_4 8 rfl rfl)
theorem dX2_house_102 : decode cX2_house 102 = .ok (.getfield 47, 3) := dk_180 0 47 (dk_at dksX2_house_4 9 rfl rfl)
theorem dX2_house_105 : decode cX2_house 105 = .ok (.iconst 2, 1) := dk_5 (dk_at dksX2_house_4 12 rfl rfl)
theorem dX2_house_106 : decode cX2_house 106 = .ok (.baload, 1) := dk_51 (dk_at dksX2_house_4 13 rfl rfl)
theorem dX2_house_107 : decode cX2_house 107 = .ok (.bipush 48, 2) := dk_16 48 (dk_at dksX2_house_4 14 rfl rfl)
theorem dX2_house_109 : decode cX2_house 109 = .ok (.isub, 1) := dk_100 (dk_at dksX2_house_4 16 rfl rfl)
theorem dX2_house_110 : decode cX2_house 110 = .ok (.iastore, 1) := dk_79 (dk_at dksX2_house_4 17 rfl rfl)
theorem dX2_house_111 : decode cX2_house 111 = .ok (.aload_n 0, 1) := dk_42 (dk_at dksX2_house_4 18 rfl rfl)
theorem dX2_house_112 : decode cX2_house 112 = .ok (.getfield 19, 3) := dk_180 0 19 (dk_at dksX2_house_4 19 rfl rfl)
theorem dX2_house_115 : decode cX2_house 115 = .ok (.aload_n 0, 1) := dk_42 (dk_at dksX2_house_4 22 rfl rfl)
theorem dX2_house_116 : decode cX2_house 116 = .ok (.getfield 75, 3) := dk_180 0 75 (dk_at dksX2_house_5 0 rfl rfl)
theorem dX2_house_119 : decode cX2_house 119 = .ok (.aload_n 0, 1) := dk_42 (dk_at dksX2_house_5 3 rfl rfl)
theorem dX2_house_120 : decode cX2_house 120 = .ok (.getfield 47, 3) := dk_180 0 47 (dk_at dksX2_house_5 4 rfl rfl)
theorem dX2_house_123 : decode cX2_house 123 = .ok (.iconst 3, 1) := dk_6 (dk_at dksX2_house_5 7 rfl rfl)
theorem dX2_house_124 : decode cX2_house 124 = .ok (.baload, 1) := dk_51 (dk_at dksX2_house_5 8 rfl rfl)
theorem dX2_house_125 : decode cX2_house 125 = .ok (.bipush 48, 2) := dk_16 48 (dk_at dksX2_house_5 9 rfl rfl)
theorem dX2_house_127 : decode cX2_house 127 = .ok (.isub, 1) := dk_100 (dk_at dksX2_house_5 11 rfl rfl)
theorem dX2_house_128 : decode cX2_house 128 = .ok (.iastore, 1) := dk_79 (dk_at dksX2_house_5 12 rfl rfl)
theorem dX2_house_129 : decode cX2_house 129 = .ok (.aload_n 0, 1) := dk_42 (dk_at dksX2_house_5 13 rfl rfl)
theorem dX2_house_130 : decode cX2_house 130 = .ok (.getfield 22, 3) := dk_180 0 22 (dk_at dksX2_house_5 14 rfl rfl)
theorem dX2_house_133 : decode cX2_house 133 = .ok (.aload_n 0, 1) := dk_42 (dk_at dksX2_house_5 17 rfl rfl)
theorem dX2_house_134 : decode cX2_house 134 = .ok (.getfield 75, 3) := dk_180 0 75 (dk_at dksX2_house_5 18 rfl rfl)
theorem dX2_house_137 : decode cX2_house 137 = .ok (.aload_n 0, 1) := dk_42 (dk_at dksX2_house_5 21 rfl rfl)
theorem dX2_house_138 : decode cX2_house 138 = .ok (.getfield 47, 3) := dk_180 0 47 (dk_at dksX2_house_6 0 rfl rfl)
theorem dX2_house_141 : decode cX2_house 141 = .ok (.iconst 4, 1) := dk_7 (dk_at dksX2_house_6 3 rfl rfl)
theorem dX2_house_142 : decode cX2_house 142 = .ok (.baload, 1) := dk_51 (dk_at dksX2_house_6 4 rfl rfl)
theorem dX2_house_143 : decode cX2_house 143 = .ok (.bipush 48, 2) := dk_16 48 (dk_at dksX2_house_6 5 rfl rfl)
theorem dX2_house_145 : decode cX2_house 145 = .ok (.isub, 1) := dk_100 (dk_at dksX2_house_6 7 rfl rfl)
theorem dX2_house_146 : decode cX2_house 146 = .ok (.iastore, 1) := dk_79 (dk_at dksX2_house_6 8 rfl rfl)
theorem dX2_house_147 : decode cX2_house 147 = .ok (.aload_n 0, 1) := dk_42 (dk_at dksX2_house_6 9 rfl rfl)
theorem dX2_house_148 : decode cX2_house 148 = .ok (.getfield 25, 3) := dk_180 0 25 (dk_at dksX2_house_6 10 rfl rfl)
theorem dX2_house_151 : decode cX2_house 151 = .ok (.aload_n 0, 1) := dk_42 (dk_at dksX2_house_6 13 rfl rfl)
theorem dX2_house_152 : decode cX2_house 152 = .ok (.getfield 75, 3) := dk_180 0 75 (dk_at dksX2_house_6 14 rfl rfl)
theorem dX2_house_155 : decode cX2_house 155 = .ok (.aload_n 0, 1) := dk_42 (dk_at dksX2_house_6 17 rfl rfl)
theorem dX2_house_156 : decode cX2_house 156 = .ok (.getfield 47, 3) := dk_180 0 47 (dk_at dksX2_house_6 18 rfl rfl)
theorem dX2_house_159 : decode cX2_house 159 = .ok (.iconst 5, 1) := dk_8 (dk_at dksX2_house_6 21 rfl rfl)
theorem dX2_house_160 : decode cX2_house 160 = .ok (.baload, 1) := dk_51 (dk_at dksX2_house_6 22 rfl rfl)
theorem dX2_house_161 : decode cX2_house 161 = .ok (.bipush 48, 2) := dk_16 48 (dk_at dksX2_house_7 0 rfl rfl)
theorem dX2_house_163 : decode cX2_house 163 = .ok (.isub, 1) := dk_100 (dk_at dksX2_house_7 2 rfl rfl)
theorem dX2_house_164 : decode cX2_house 164 = .ok (.iastore, 1) := dk_79 (dk_at dksX2_house_7 3 rfl rfl)
theorem dX2_house_165 : decode cX2_house 165 = .ok (.aload_n 0, 1) := dk_42 (dk_at dksX2_house_7 4 rfl rfl)
theorem dX2_house_166 : decode cX2_house 166 = .ok (.getfield 28, 3) := dk_180 0 28 (dk_at dksX2_house_7 5 rfl rfl)
theorem dX2_house_169 : decode cX2_house 169 = .ok (.aload_n 0, 1) := dk_42 (dk_at dksX2_house_7 8 rfl rfl)
theorem dX2_house_170 : decode cX2_house 170 = .ok (.getfield 75, 3) := dk_180 0 75 (dk_at dksX2_house_7 9 rfl rfl)
theorem dX2_house_173 : decode cX2_house 173 = .ok (.iconst 0, 1) := dk_3 (dk_at dksX2_house_7 12 rfl rfl)
theorem dX2_house_174 : decode cX2_house 174 = .ok (.iastore, 1) := dk_79 (dk_at dksX2_house_7 13 rfl rfl)
theorem dX2_house_175 : decode cX2_house 175 = .ok (.aload_n 0, 1) := dk_42 (dk_at dksX2_house_7 14 rfl rfl)
theorem dX2_house_176 : decode cX2_house 176 = .ok (.getfield 31, 3) := dk_180 0 31 (dk_at dksX2_house_7 15 rfl rfl)
theorem dX2_house_179 : decode cX2_house 179 = .ok (.aload_n 0, 1) := dk_42 (dk_at dksX2_house_7 18 rfl rfl)
theorem dX2_house_180 : decode cX2_house 180 = .ok (.getfield 75, 3) := dk_180 0 75 (dk_at dksX2_house_7 19 rfl rfl)
theorem dX2_house_183 : decode cX2_house 183 = .ok (.iconst 0, 1) := dk_3 (dk_at dksX2_house_7 22 rfl rfl)
theorem dX2_house_184 : decode cX2_house 184 = .ok (.iastore, 1) := dk_79 (dk_at dksX2_house_7 23 rfl rfl)
theorem dX2_house_185 : decode cX2_house 185 = .ok (.aload_n 0, 1) := dk_42 (dk_at dksX2_house_8 0 rfl rfl)
theorem dX2_house_186 : decode cX2_house 186 = .ok (.dup, 1) := dk_89 (dk_at dksX2_house_8 1 rfl rfl)
theorem dX2_house_187 : decode cX2_house 187 = .ok (.getfield 93, 3) := dk_180 0 93 (dk_at dksX2_house_8 2 rfl rfl)
theorem dX2_house_190 : decode cX2_house 190 = .ok (.iconst 1, 1) := dk_4 (dk_at dksX2_house_8 5 rfl rfl)
theorem dX2_house_191 : decode cX2_house 191 = .ok (.aload_n 0, 1) := dk_42 (dk_at dksX2_house_8 6 rfl rfl)
theorem dX2_house_192 : decode cX2_house 192 = .ok (.getfield 75, 3) := dk_180 0 75 (dk_at dksX2_house_8 7 rfl rfl)
theorem dX2_house_195 : decode cX2_house 195 = .ok (.ishl, 1) := dk_120 (dk_at dksX2_house_8 10 rfl rfl)
theorem dX2_house_196 : decode cX2_house 196 = .ok (.iconst (-1), 1) := dk_2 (dk_at dksX2_house_8 11 rfl rfl)
theorem dX2_house_197 : decode cX2_house 197 = .ok (.ixor, 1) := dk_130 (dk_at dksX2_house_8 12 rfl rfl)
theorem dX2_house_198 : decode cX2_house 198 = .ok (.iand, 1) := dk_126 (dk_at dksX2_house_8 13 rfl rfl)
theorem dX2_house_199 : decode cX2_house 199 = .ok (.putfield 93, 3) := dk_181 0 93 (dk_at dksX2_house_8 14 rfl rfl)
theorem dX2_house_202 : decode cX2_house 202 = .ok (.aload_n 0, 1) := dk_42 (dk_at dksX2_house_8 17 rfl rfl)
theorem dX2_house_203 : decode cX2_house 203 = .ok (.dup, 1) := dk_89 (dk_at dksX2_house_8 18 rfl rfl)
theorem dX2_house_204 : decode cX2_house 204 = .ok (.getfield 75, 3) := dk_180 0 75 (dk_at dksX2_house_8 19 rfl rfl)
theorem dX2_house_207 : decode cX2_house 207 = .ok (.iconst 1, 1) := dk_4 (dk_at dksX2_house_8 22 rfl rfl)
theorem dX2_house_208 : decode cX2_house 208 = .ok (.iadd, 1) := dk_96 (dk_at dksX2_house_8 23 rfl rfl)
theorem dX2_house_209 : decode cX2_house 209 = .ok (.putfield 75, 3) := dk_181 0 75 (dk_at dksX2_house_9 0 rfl rfl)
theorem dX2_house_212 : decode cX2_house 212 = .ok (.aload_n 0, 1) := dk_42 (dk_at dksX2_house_9 3 rfl rfl)
theorem dX2_house_213 : decode cX2_house 213 = .ok (.iconst 0, 1) := dk_3 (dk_at dksX2_house_9 4 rfl rfl)
theorem dX2_house_214 : decode cX2_house 214 = .ok (.putfield 68, 3) := dk_181 0 68 (dk_at dksX2_house_9 5 rfl rfl)
theorem dX2_house_217 : decode cX2_house 217 = .ok (.aload_n 0, 1) := dk_42 (dk_at dksX2_house_9 8 rfl rfl)
theorem dX2_house_218 : decode cX2_house 218 = .ok (.getfield 75, 3) := dk_180 0 75 (dk_at dksX2_house_9 9 rfl rfl)
theorem dX2_house_221 : decode cX2_house 221 = .ok (.iconst 1, 1) := dk_4 (dk_at dksX2_house_9 12 rfl rfl)
theorem dX2_house_222 : decode cX2_house 222 = .ok (.isub, 1) := dk_100 (dk_at dksX2_house_9 13 rfl rfl)
theorem dX2_house_223 : decode cX2_house 223 = .ok (.ireturn, 1) := dk_172 (dk_at dksX2_house_9 14 rfl rfl)
abbrev cX2_about : ByteArray := prog_11_method_15_code
def yX2_about : MethodName := ⟨RX2, "about", "(II)I"⟩
def dkwX2_about_1 : List UInt8 := [27, 28, 182, 0, 103, 167, 0, 5, 16, 154, 172]
abbrev dktX2_about_1 : List UInt8 := dkwX2_about_1 ++ []
def dkwX2_about_0 : List UInt8 := [42, 27, 182, 0, 99, 154, 0, 8, 16, 155, 167, 0, 24, 28, 3, 16, 8, 184, 0, 78, 153, 0, 12, 42]
abbrev dktX2_about_0 : List UInt8 := dkwX2_about_0 ++ dktX2_about_1
theorem dksX2_about_0 : cX2_about.data.toList.drop 0 = dktX2_about_0 := by decide +kernel
theorem dksX2_about_1 : cX2_about.data.toList.drop 24 = dktX2_about_1 := dk_seg dksX2_about_0 24 rfl rfl
theorem dX2_about_0 : decode cX2_about 0 = .ok (.aload_n 0, 1) := dk_42 (dk_at dksX2_about_0 0 rfl rfl)
theorem dX2_about_1 : decode cX2_about 1 = .ok (.iload_n 1, 1) := dk_27 (dk_at dksX2_about_0 1 rfl rfl)
theorem dX2_about_2 : decode cX2_about 2 = .ok (.invokevirtual 99, 3) := dk_182 0 99 (dk_at dksX2_about_0 2 rfl rfl)
theorem dX2_about_5 : decode cX2_about 5 = .ok (.ifCond .ne 8, 3) := dk_154 0 8 (dk_at dksX2_about_0 5 rfl rfl)
theorem dX2_about_8 : decode cX2_about 8 = .ok (.bipush (-101), 2) := dk_16 155 (dk_at dksX2_about_0 8 rfl rfl)
theorem dX2_about_10 : decode cX2_about 10 = .ok (.goto 24, 3) := dk_167 0 24 (dk_at dksX2_about_0 10 rfl rfl)
theorem dX2_about_13 : decode cX2_about 13 = .ok (.iload_n 2, 1) := dk_28 (dk_at dksX2_about_0 13 rfl rfl)
theorem dX2_about_14 : decode cX2_about 14 = .ok (.iconst 0, 1) := dk_3 (dk_at dksX2_about_0 14 rfl rfl)
theorem dX2_about_15 : decode cX2_about 15 = .ok (.bipush 8, 2) := dk_16 8 (dk_at dksX2_about_0 15 rfl rfl)
theorem dX2_about_17 : decode cX2_about 17 = .ok (.invokestatic 78, 3) := dk_184 0 78 (dk_at dksX2_about_0 17 rfl rfl)
theorem dX2_about_20 : decode cX2_about 20 = .ok (.ifCond .eq 12, 3) := dk_153 0 12 (dk_at dksX2_about_0 20 rfl rfl)
theorem dX2_about_23 : decode cX2_about 23 = .ok (.aload_n 0, 1) := dk_42 (dk_at dksX2_about_0 23 rfl rfl)
theorem dX2_about_24 : decode cX2_about 24 = .ok (.iload_n 1, 1) := dk_27 (dk_at dksX2_about_1 0 rfl rfl)
theorem dX2_about_25 : decode cX2_about 25 = .ok (.iload_n 2, 1) := dk_28 (dk_at dksX2_about_1 1 rfl rfl)
theorem dX2_about_26 : decode cX2_about 26 = .ok (.invokevirtual 103, 3) := dk_182 0 103 (dk_at dksX2_about_1 2 rfl rfl)
theorem dX2_about_29 : decode cX2_about 29 = .ok (.goto 5, 3) := dk_167 0 5 (dk_at dksX2_about_1 5 rfl rfl)
theorem dX2_about_32 : decode cX2_about 32 = .ok (.bipush (-102), 2) := dk_16 154 (dk_at dksX2_about_1 8 rfl rfl)
theorem dX2_about_34 : decode cX2_about 34 = .ok (.ireturn, 1) := dk_172 (dk_at dksX2_about_1 10 rfl rfl)
abbrev cX2_isHouse : ByteArray := prog_11_method_13_code
def yX2_isHouse : MethodName := ⟨RX2, "isHouse", "(I)Z"⟩
def dkwX2_isHouse_0 : List UInt8 := [27, 3, 42, 180, 0, 75, 4, 100, 184, 0, 78, 172]
abbrev dktX2_isHouse_0 : List UInt8 := dkwX2_isHouse_0 ++ []
theorem dksX2_isHouse_0 : cX2_isHouse.data.toList.drop 0 = dktX2_isHouse_0 := by decide +kernel
theorem dX2_isHouse_0 : decode cX2_isHouse 0 = .ok (.iload_n 1, 1) := dk_27 (dk_at dksX2_isHouse_0 0 rfl rfl)
theorem dX2_isHouse_1 : decode cX2_isHouse 1 = .ok (.iconst 0, 1) := dk_3 (dk_at dksX2_isHouse_0 1 rfl rfl)
theorem dX2_isHouse_2 : decode cX2_isHouse 2 = .ok (.aload_n 0, 1) := dk_42 (dk_at dksX2_isHouse_0 2 rfl rfl)
theorem dX2_isHouse_3 : decode cX2_isHouse 3 = .ok (.getfield 75, 3) := dk_180 0 75 (dk_at dksX2_isHouse_0 3 rfl rfl)
theorem dX2_isHouse_6 : decode cX2_isHouse 6 = .ok (.iconst 1, 1) := dk_4 (dk_at dksX2_isHouse_0 6 rfl rfl)
theorem dX2_isHouse_7 : decode cX2_isHouse 7 = .ok (.isub, 1) := dk_100 (dk_at dksX2_isHouse_0 7 rfl rfl)
theorem dX2_isHouse_8 : decode cX2_isHouse 8 = .ok (.invokestatic 78, 3) := dk_184 0 78 (dk_at dksX2_isHouse_0 8 rfl rfl)
theorem dX2_isHouse_11 : decode cX2_isHouse 11 = .ok (.ireturn, 1) := dk_172 (dk_at dksX2_isHouse_0 11 rfl rfl)
abbrev cX2_houseNow : ByteArray := prog_11_method_14_code
def yX2_houseNow : MethodName := ⟨RX2, "houseNow", "(II)I"⟩
def dkwX2_houseNow_5 : List UInt8 := [167, 0, 4, 3, 172]
abbrev dktX2_houseNow_5 : List UInt8 := dkwX2_houseNow_5 ++ []
def dkwX2_houseNow_4 : List UInt8 := [27, 46, 172, 42, 180, 0, 31, 27, 46, 172, 42, 180, 0, 93, 27, 184, 0, 96, 153, 0, 7, 4]
abbrev dktX2_houseNow_4 : List UInt8 := dkwX2_houseNow_4 ++ dktX2_houseNow_5
def dkwX2_houseNow_3 : List UInt8 := [180, 0, 19, 27, 46, 172, 42, 180, 0, 22, 27, 46, 172, 42, 180, 0, 25, 27, 46, 172, 42, 180, 0, 28]
abbrev dktX2_houseNow_3 : List UInt8 := dkwX2_houseNow_3 ++ dktX2_houseNow_4
def dkwX2_houseNow_2 : List UInt8 := [42, 180, 0, 7, 27, 46, 172, 42, 180, 0, 13, 27, 46, 172, 42, 180, 0, 16, 27, 46, 172, 42]
abbrev dktX2_houseNow_2 : List UInt8 := dkwX2_houseNow_2 ++ dktX2_houseNow_3
def dkwX2_houseNow_1 : List UInt8 := [170, 0, 0, 0, 0, 0, 103, 0, 0, 0, 0, 0, 0, 0, 7, 0, 0, 0, 47, 0, 0, 0, 54, 0, 0, 0, 61, 0, 0, 0, 68, 0, 0, 0, 75, 0, 0, 0, 82, 0, 0, 0, 89, 0, 0, 0, 96]
abbrev dktX2_houseNow_1 : List UInt8 := dkwX2_houseNow_1 ++ dktX2_houseNow_2
def dkwX2_houseNow_0 : List UInt8 := [28]
abbrev dktX2_houseNow_0 : List UInt8 := dkwX2_houseNow_0 ++ dktX2_houseNow_1
theorem dksX2_houseNow_0 : cX2_houseNow.data.toList.drop 0 = dktX2_houseNow_0 := by decide +kernel
theorem dksX2_houseNow_1 : cX2_houseNow.data.toList.drop 1 = dktX2_houseNow_1 := dk_seg dksX2_houseNow_0 1 rfl rfl
theorem dksX2_houseNow_2 : cX2_houseNow.data.toList.drop 48 = dktX2_houseNow_2 := dk_seg dksX2_houseNow_1 47 rfl rfl
theorem dksX2_houseNow_3 : cX2_houseNow.data.toList.drop 70 = dktX2_houseNow_3 := dk_seg dksX2_houseNow_2 22 rfl rfl
theorem dksX2_houseNow_4 : cX2_houseNow.data.toList.drop 94 = dktX2_houseNow_4 := dk_seg dksX2_houseNow_3 24 rfl rfl
theorem dksX2_houseNow_5 : cX2_houseNow.data.toList.drop 116 = dktX2_houseNow_5 := dk_seg dksX2_houseNow_4 22 rfl rfl
theorem dX2_houseNow_0 : decode cX2_houseNow 0 = .ok (.iload_n 2, 1) := dk_28 (dk_at dksX2_houseNow_0 0 rfl rfl)
theorem dX2_houseNow_1 : decode cX2_houseNow 1 = .ok (.tableswitch 103 0 7 #[47, 54, 61, 68, 75, 82, 89, 96], 47) := by decide +kernel
theorem dX2_houseNow_48 : decode cX2_houseNow 48 = .ok (.aload_n 0, 1) := dk_42 (dk_at dksX2_houseNow_2 0 rfl rfl)
theorem dX2_houseNow_49 : decode cX2_houseNow 49 = .ok (.getfield 7, 3) := dk_180 0 7 (dk_at dksX2_houseNow_2 1 rfl rfl)
theorem dX2_houseNow_52 : decode cX2_houseNow 52 = .ok (.iload_n 1, 1) := dk_27 (dk_at dksX2_houseNow_2 4 rfl rfl)
theorem dX2_houseNow_53 : decode cX2_houseNow 53 = .ok (.iaload, 1) := dk_46 (dk_at dksX2_houseNow_2 5 rfl rfl)
theorem dX2_houseNow_54 : decode cX2_houseNow 54 = .ok (.ireturn, 1) := dk_172 (dk_at dksX2_houseNow_2 6 rfl rfl)
theorem dX2_houseNow_55 : decode cX2_houseNow 55 = .ok (.aload_n 0, 1) := dk_42 (dk_at dksX2_houseNow_2 7 rfl rfl)
theorem dX2_houseNow_56 : decode cX2_houseNow 56 = .ok (.getfield 13, 3) := dk_180 0 13 (dk_at dksX2_houseNow_2 8 rfl rfl)
theorem dX2_houseNow_59 : decode cX2_houseNow 59 = .ok (.iload_n 1, 1) := dk_27 (dk_at dksX2_houseNow_2 11 rfl rfl)
theorem dX2_houseNow_60 : decode cX2_houseNow 60 = .ok (.iaload, 1) := dk_46 (dk_at dksX2_houseNow_2 12 rfl rfl)
theorem dX2_houseNow_61 : decode cX2_houseNow 61 = .ok (.ireturn, 1) := dk_172 (dk_at dksX2_houseNow_2 13 rfl rfl)
theorem dX2_houseNow_62 : decode cX2_houseNow 62 = .ok (.aload_n 0, 1) := dk_42 (dk_at dksX2_houseNow_2 14 rfl rfl)
theorem dX2_houseNow_63 : decode cX2_houseNow 63 = .ok (.getfield 16, 3) := dk_180 0 16 (dk_at dksX2_houseNow_2 15 rfl rfl)
theorem dX2_houseNow_66 : decode cX2_houseNow 66 = .ok (.iload_n 1, 1) := dk_27 (dk_at dksX2_houseNow_2 18 rfl rfl)
theorem dX2_houseNow_67 : decode cX2_houseNow 67 = .ok (.iaload, 1) := dk_46 (dk_at dksX2_houseNow_2 19 rfl rfl)
theorem dX2_houseNow_68 : decode cX2_houseNow 68 = .ok (.ireturn, 1) := dk_172 (dk_at dksX2_houseNow_2 20 rfl rfl)
theorem dX2_houseNow_69 : decode cX2_houseNow 69 = .ok (.aload_n 0, 1) := dk_42 (dk_at dksX2_houseNow_2 21 rfl rfl)
theorem dX2_houseNow_70 : decode cX2_houseNow 70 = .ok (.getfield 19, 3) := dk_180 0 19 (dk_at dksX2_houseNow_3 0 rfl rfl)
theorem dX2_houseNow_73 : decode cX2_houseNow 73 = .ok (.iload_n 1, 1) := dk_27 (dk_at dksX2_houseNow_3 3 rfl rfl)
theorem dX2_houseNow_74 : decode cX2_houseNow 74 = .ok (.iaload, 1) := dk_46 (dk_at dksX2_houseNow_3 4 rfl rfl)
theorem dX2_houseNow_75 : decode cX2_houseNow 75 = .ok (.ireturn, 1) := dk_172 (dk_at dksX2_houseNow_3 5 rfl rfl)
theorem dX2_houseNow_76 : decode cX2_houseNow 76 = .ok (.aload_n 0, 1) := dk_42 (dk_at dksX2_houseNow_3 6 rfl rfl)
theorem dX2_houseNow_77 : decode cX2_houseNow 77 = .ok (.getfield 22, 3) := dk_180 0 22 (dk_at dksX2_houseNow_3 7 rfl rfl)
theorem dX2_houseNow_80 : decode cX2_houseNow 80 = .ok (.iload_n 1, 1) := dk_27 (dk_at dksX2_houseNow_3 10 rfl rfl)
theorem dX2_houseNow_81 : decode cX2_houseNow 81 = .ok (.iaload, 1) := dk_46 (dk_at dksX2_houseNow_3 11 rfl rfl)
theorem dX2_houseNow_82 : decode cX2_houseNow 82 = .ok (.ireturn, 1) := dk_172 (dk_at dksX2_houseNow_3 12 rfl rfl)
theorem dX2_houseNow_83 : decode cX2_houseNow 83 = .ok (.aload_n 0, 1) := dk_42 (dk_at dksX2_houseNow_3 13 rfl rfl)
theorem dX2_houseNow_84 : decode cX2_houseNow 84 = .ok (.getfield 25, 3) := dk_180 0 25 (dk_at dksX2_houseNow_3 14 rfl rfl)
theorem dX2_houseNow_87 : decode cX2_houseNow 87 = .ok (.iload_n 1, 1) := dk_27 (dk_at dksX2_houseNow_3 17 rfl rfl)
theorem dX2_houseNow_88 : decode cX2_houseNow 88 = .ok (.iaload, 1) := dk_46 (dk_at dksX2_houseNow_3 18 rfl rfl)
theorem dX2_houseNow_89 : decode cX2_houseNow 89 = .ok (.ireturn, 1) := dk_172 (dk_at dksX2_houseNow_3 19 rfl rfl)
theorem dX2_houseNow_90 : decode cX2_houseNow 90 = .ok (.aload_n 0, 1) := dk_42 (dk_at dksX2_houseNow_3 20 rfl rfl)
theorem dX2_houseNow_91 : decode cX2_houseNow 91 = .ok (.getfield 28, 3) := dk_180 0 28 (dk_at dksX2_houseNow_3 21 rfl rfl)
theorem dX2_houseNow_94 : decode cX2_houseNow 94 = .ok (.iload_n 1, 1) := dk_27 (dk_at dksX2_houseNow_4 0 rfl rfl)
theorem dX2_houseNow_95 : decode cX2_houseNow 95 = .ok (.iaload, 1) := dk_46 (dk_at dksX2_houseNow_4 1 rfl rfl)
theorem dX2_houseNow_96 : decode cX2_houseNow 96 = .ok (.ireturn, 1) := dk_172 (dk_at dksX2_houseNow_4 2 rfl rfl)
theorem dX2_houseNow_97 : decode cX2_houseNow 97 = .ok (.aload_n 0, 1) := dk_42 (dk_at dksX2_houseNow_4 3 rfl rfl)
theorem dX2_houseNow_98 : decode cX2_houseNow 98 = .ok (.getfield 31, 3) := dk_180 0 31 (dk_at dksX2_houseNow_4 4 rfl rfl)
theorem dX2_houseNow_101 : decode cX2_houseNow 101 = .ok (.iload_n 1, 1) := dk_27 (dk_at dksX2_houseNow_4 7 rfl rfl)
theorem dX2_houseNow_102 : decode cX2_houseNow 102 = .ok (.iaload, 1) := dk_46 (dk_at dksX2_houseNow_4 8 rfl rfl)
theorem dX2_houseNow_103 : decode cX2_houseNow 103 = .ok (.ireturn, 1) := dk_172 (dk_at dksX2_houseNow_4 9 rfl rfl)
theorem dX2_houseNow_104 : decode cX2_houseNow 104 = .ok (.aload_n 0, 1) := dk_42 (dk_at dksX2_houseNow_4 10 rfl rfl)
theorem dX2_houseNow_105 : decode cX2_houseNow 105 = .ok (.getfield 93, 3) := dk_180 0 93 (dk_at dksX2_houseNow_4 11 rfl rfl)
theorem dX2_houseNow_108 : decode cX2_houseNow 108 = .ok (.iload_n 1, 1) := dk_27 (dk_at dksX2_houseNow_4 14 rfl rfl)
theorem dX2_houseNow_109 : decode cX2_houseNow 109 = .ok (.invokestatic 96, 3) := dk_184 0 96 (dk_at dksX2_houseNow_4 15 rfl rfl)
theorem dX2_houseNow_112 : decode cX2_houseNow 112 = .ok (.ifCond .eq 7, 3) := dk_153 0 7 (dk_at dksX2_houseNow_4 18 rfl rfl)
theorem dX2_houseNow_115 : decode cX2_houseNow 115 = .ok (.iconst 1, 1) := dk_4 (dk_at dksX2_houseNow_4 21 rfl rfl)
theorem dX2_houseNow_116 : decode cX2_houseNow 116 = .ok (.goto 4, 3) := dk_167 0 4 (dk_at dksX2_houseNow_5 0 rfl rfl)
theorem dX2_houseNow_119 : decode cX2_houseNow 119 = .ok (.iconst 0, 1) := dk_3 (dk_at dksX2_houseNow_5 3 rfl rfl)
theorem dX2_houseNow_120 : decode cX2_houseNow 120 = .ok (.ireturn, 1) := dk_172 (dk_at dksX2_houseNow_5 4 rfl rfl)
abbrev cX2_has : ByteArray := prog_11_method_4_code
def yX2_has : MethodName := ⟨RX2, "has", "(II)Z"⟩
def dkwX2_has_0 : List UInt8 := [26, 27, 122, 4, 126, 4, 160, 0, 7, 4, 167, 0, 4, 3, 172]
abbrev dktX2_has_0 : List UInt8 := dkwX2_has_0 ++ []
theorem dksX2_has_0 : cX2_has.data.toList.drop 0 = dktX2_has_0 := by decide +kernel
theorem dX2_has_0 : decode cX2_has 0 = .ok (.iload_n 0, 1) := dk_26 (dk_at dksX2_has_0 0 rfl rfl)
theorem dX2_has_1 : decode cX2_has 1 = .ok (.iload_n 1, 1) := dk_27 (dk_at dksX2_has_0 1 rfl rfl)
theorem dX2_has_2 : decode cX2_has 2 = .ok (.ishr, 1) := dk_122 (dk_at dksX2_has_0 2 rfl rfl)
theorem dX2_has_3 : decode cX2_has 3 = .ok (.iconst 1, 1) := dk_4 (dk_at dksX2_has_0 3 rfl rfl)
theorem dX2_has_4 : decode cX2_has 4 = .ok (.iand, 1) := dk_126 (dk_at dksX2_has_0 4 rfl rfl)
theorem dX2_has_5 : decode cX2_has 5 = .ok (.iconst 1, 1) := dk_4 (dk_at dksX2_has_0 5 rfl rfl)
theorem dX2_has_6 : decode cX2_has 6 = .ok (.if_icmp .ne 7, 3) := dk_160 0 7 (dk_at dksX2_has_0 6 rfl rfl)
theorem dX2_has_9 : decode cX2_has 9 = .ok (.iconst 1, 1) := dk_4 (dk_at dksX2_has_0 9 rfl rfl)
theorem dX2_has_10 : decode cX2_has 10 = .ok (.goto 4, 3) := dk_167 0 4 (dk_at dksX2_has_0 10 rfl rfl)
theorem dX2_has_13 : decode cX2_has 13 = .ok (.iconst 0, 1) := dk_3 (dk_at dksX2_has_0 13 rfl rfl)
theorem dX2_has_14 : decode cX2_has 14 = .ok (.ireturn, 1) := dk_172 (dk_at dksX2_has_0 14 rfl rfl)
abbrev cX2_as : ByteArray := prog_11_method_16_code
def yX2_as : MethodName := ⟨RX2, "as", "(II)I"⟩
def dkwX2_as_2 : List UInt8 := [160, 0, 7, 27, 167, 0, 4, 2, 172]
abbrev dktX2_as_2 : List UInt8 := dkwX2_as_2 ++ []
def dkwX2_as_1 : List UInt8 := [180, 0, 7, 27, 46, 62, 28, 153, 0, 18, 29, 28, 159, 0, 13, 28, 5, 160, 0, 12, 29, 7]
abbrev dktX2_as_1 : List UInt8 := dkwX2_as_1 ++ dktX2_as_2
def dkwX2_as_0 : List UInt8 := [42, 27, 182, 0, 99, 154, 0, 6, 16, 155, 172, 28, 3, 7, 184, 0, 78, 154, 0, 6, 16, 154, 172, 42]
abbrev dktX2_as_0 : List UInt8 := dkwX2_as_0 ++ dktX2_as_1
theorem dksX2_as_0 : cX2_as.data.toList.drop 0 = dktX2_as_0 := by decide +kernel
theorem dksX2_as_1 : cX2_as.data.toList.drop 24 = dktX2_as_1 := dk_seg dksX2_as_0 24 rfl rfl
theorem dksX2_as_2 : cX2_as.data.toList.drop 46 = dktX2_as_2 := dk_seg dksX2_as_1 22 rfl rfl
theorem dX2_as_0 : decode cX2_as 0 = .ok (.aload_n 0, 1) := dk_42 (dk_at dksX2_as_0 0 rfl rfl)
theorem dX2_as_1 : decode cX2_as 1 = .ok (.iload_n 1, 1) := dk_27 (dk_at dksX2_as_0 1 rfl rfl)
theorem dX2_as_2 : decode cX2_as 2 = .ok (.invokevirtual 99, 3) := dk_182 0 99 (dk_at dksX2_as_0 2 rfl rfl)
theorem dX2_as_5 : decode cX2_as 5 = .ok (.ifCond .ne 6, 3) := dk_154 0 6 (dk_at dksX2_as_0 5 rfl rfl)
theorem dX2_as_8 : decode cX2_as 8 = .ok (.bipush (-101), 2) := dk_16 155 (dk_at dksX2_as_0 8 rfl rfl)
theorem dX2_as_10 : decode cX2_as 10 = .ok (.ireturn, 1) := dk_172 (dk_at dksX2_as_0 10 rfl rfl)
theorem dX2_as_11 : decode cX2_as 11 = .ok (.iload_n 2, 1) := dk_28 (dk_at dksX2_as_0 11 rfl rfl)
theorem dX2_as_12 : decode cX2_as 12 = .ok (.iconst 0, 1) := dk_3 (dk_at dksX2_as_0 12 rfl rfl)
theorem dX2_as_13 : decode cX2_as 13 = .ok (.iconst 4, 1) := dk_7 (dk_at dksX2_as_0 13 rfl rfl)
theorem dX2_as_14 : decode cX2_as 14 = .ok (.invokestatic 78, 3) := dk_184 0 78 (dk_at dksX2_as_0 14 rfl rfl)
theorem dX2_as_17 : decode cX2_as 17 = .ok (.ifCond .ne 6, 3) := dk_154 0 6 (dk_at dksX2_as_0 17 rfl rfl)
theorem dX2_as_20 : decode cX2_as 20 = .ok (.bipush (-102), 2) := dk_16 154 (dk_at dksX2_as_0 20 rfl rfl)
theorem dX2_as_22 : decode cX2_as 22 = .ok (.ireturn, 1) := dk_172 (dk_at dksX2_as_0 22 rfl rfl)
theorem dX2_as_23 : decode cX2_as 23 = .ok (.aload_n 0, 1) := dk_42 (dk_at dksX2_as_0 23 rfl rfl)
theorem dX2_as_24 : decode cX2_as 24 = .ok (.getfield 7, 3) := dk_180 0 7 (dk_at dksX2_as_1 0 rfl rfl)
theorem dX2_as_27 : decode cX2_as 27 = .ok (.iload_n 1, 1) := dk_27 (dk_at dksX2_as_1 3 rfl rfl)
theorem dX2_as_28 : decode cX2_as 28 = .ok (.iaload, 1) := dk_46 (dk_at dksX2_as_1 4 rfl rfl)
theorem dX2_as_29 : decode cX2_as 29 = .ok (.istore_n 3, 1) := dk_62 (dk_at dksX2_as_1 5 rfl rfl)
theorem dX2_as_30 : decode cX2_as 30 = .ok (.iload_n 2, 1) := dk_28 (dk_at dksX2_as_1 6 rfl rfl)
theorem dX2_as_31 : decode cX2_as 31 = .ok (.ifCond .eq 18, 3) := dk_153 0 18 (dk_at dksX2_as_1 7 rfl rfl)
theorem dX2_as_34 : decode cX2_as 34 = .ok (.iload_n 3, 1) := dk_29 (dk_at dksX2_as_1 10 rfl rfl)
theorem dX2_as_35 : decode cX2_as 35 = .ok (.iload_n 2, 1) := dk_28 (dk_at dksX2_as_1 11 rfl rfl)
theorem dX2_as_36 : decode cX2_as 36 = .ok (.if_icmp .eq 13, 3) := dk_159 0 13 (dk_at dksX2_as_1 12 rfl rfl)
theorem dX2_as_39 : decode cX2_as 39 = .ok (.iload_n 2, 1) := dk_28 (dk_at dksX2_as_1 15 rfl rfl)
theorem dX2_as_40 : decode cX2_as 40 = .ok (.iconst 2, 1) := dk_5 (dk_at dksX2_as_1 16 rfl rfl)
theorem dX2_as_41 : decode cX2_as 41 = .ok (.if_icmp .ne 12, 3) := dk_160 0 12 (dk_at dksX2_as_1 17 rfl rfl)
theorem dX2_as_44 : decode cX2_as 44 = .ok (.iload_n 3, 1) := dk_29 (dk_at dksX2_as_1 20 rfl rfl)
theorem dX2_as_45 : decode cX2_as 45 = .ok (.iconst 4, 1) := dk_7 (dk_at dksX2_as_1 21 rfl rfl)
theorem dX2_as_46 : decode cX2_as 46 = .ok (.if_icmp .ne 7, 3) := dk_160 0 7 (dk_at dksX2_as_2 0 rfl rfl)
theorem dX2_as_49 : decode cX2_as 49 = .ok (.iload_n 1, 1) := dk_27 (dk_at dksX2_as_2 3 rfl rfl)
theorem dX2_as_50 : decode cX2_as 50 = .ok (.goto 4, 3) := dk_167 0 4 (dk_at dksX2_as_2 4 rfl rfl)
theorem dX2_as_53 : decode cX2_as 53 = .ok (.iconst (-1), 1) := dk_2 (dk_at dksX2_as_2 7 rfl rfl)
theorem dX2_as_54 : decode cX2_as 54 = .ok (.ireturn, 1) := dk_172 (dk_at dksX2_as_2 8 rfl rfl)
abbrev cX2_length : ByteArray := prog_11_method_17_code
def yX2_length : MethodName := ⟨RX2, "length", "(I)I"⟩
def dkwX2_length_1 : List UInt8 := [180, 0, 34, 61, 42, 27, 181, 0, 34, 42, 27, 181, 0, 38, 28, 172]
abbrev dktX2_length_1 : List UInt8 := dkwX2_length_1 ++ []
def dkwX2_length_0 : List UInt8 := [27, 4, 16, 99, 184, 0, 78, 154, 0, 6, 16, 154, 172, 42, 180, 0, 90, 158, 0, 6, 16, 153, 172, 42]
abbrev dktX2_length_0 : List UInt8 := dkwX2_length_0 ++ dktX2_length_1
theorem dksX2_length_0 : cX2_length.data.toList.drop 0 = dktX2_length_0 := by decide +kernel
theorem dksX2_length_1 : cX2_length.data.toList.drop 24 = dktX2_length_1 := dk_seg dksX2_length_0 24 rfl rfl
theorem dX2_length_0 : decode cX2_length 0 = .ok (.iload_n 1, 1) := dk_27 (dk_at dksX2_length_0 0 rfl rfl)
theorem dX2_length_1 : decode cX2_length 1 = .ok (.iconst 1, 1) := dk_4 (dk_at dksX2_length_0 1 rfl rfl)
theorem dX2_length_2 : decode cX2_length 2 = .ok (.bipush 99, 2) := dk_16 99 (dk_at dksX2_length_0 2 rfl rfl)
theorem dX2_length_4 : decode cX2_length 4 = .ok (.invokestatic 78, 3) := dk_184 0 78 (dk_at dksX2_length_0 4 rfl rfl)
theorem dX2_length_7 : decode cX2_length 7 = .ok (.ifCond .ne 6, 3) := dk_154 0 6 (dk_at dksX2_length_0 7 rfl rfl)
theorem dX2_length_10 : decode cX2_length 10 = .ok (.bipush (-102), 2) := dk_16 154 (dk_at dksX2_length_0 10 rfl rfl)
theorem dX2_length_12 : decode cX2_length 12 = .ok (.ireturn, 1) := dk_172 (dk_at dksX2_length_0 12 rfl rfl)
theorem dX2_length_13 : decode cX2_length 13 = .ok (.aload_n 0, 1) := dk_42 (dk_at dksX2_length_0 13 rfl rfl)
theorem dX2_length_14 : decode cX2_length 14 = .ok (.getfield 90, 3) := dk_180 0 90 (dk_at dksX2_length_0 14 rfl rfl)
theorem dX2_length_17 : decode cX2_length 17 = .ok (.ifCond .le 6, 3) := dk_158 0 6 (dk_at dksX2_length_0 17 rfl rfl)
theorem dX2_length_20 : decode cX2_length 20 = .ok (.bipush (-103), 2) := dk_16 153 (dk_at dksX2_length_0 20 rfl rfl)
theorem dX2_length_22 : decode cX2_length 22 = .ok (.ireturn, 1) := dk_172 (dk_at dksX2_length_0 22 rfl rfl)
theorem dX2_length_23 : decode cX2_length 23 = .ok (.aload_n 0, 1) := dk_42 (dk_at dksX2_length_0 23 rfl rfl)
theorem dX2_length_24 : decode cX2_length 24 = .ok (.getfield 34, 3) := dk_180 0 34 (dk_at dksX2_length_1 0 rfl rfl)
theorem dX2_length_27 : decode cX2_length 27 = .ok (.istore_n 2, 1) := dk_61 (dk_at dksX2_length_1 3 rfl rfl)
theorem dX2_length_28 : decode cX2_length 28 = .ok (.aload_n 0, 1) := dk_42 (dk_at dksX2_length_1 4 rfl rfl)
theorem dX2_length_29 : decode cX2_length 29 = .ok (.iload_n 1, 1) := dk_27 (dk_at dksX2_length_1 5 rfl rfl)
theorem dX2_length_30 : decode cX2_length 30 = .ok (.putfield 34, 3) := dk_181 0 34 (dk_at dksX2_length_1 6 rfl rfl)
theorem dX2_length_33 : decode cX2_length 33 = .ok (.aload_n 0, 1) := dk_42 (dk_at dksX2_length_1 9 rfl rfl)
theorem dX2_length_34 : decode cX2_length 34 = .ok (.iload_n 1, 1) := dk_27 (dk_at dksX2_length_1 10 rfl rfl)
theorem dX2_length_35 : decode cX2_length 35 = .ok (.putfield 38, 3) := dk_181 0 38 (dk_at dksX2_length_1 11 rfl rfl)
theorem dX2_length_38 : decode cX2_length 38 = .ok (.iload_n 2, 1) := dk_28 (dk_at dksX2_length_1 14 rfl rfl)
theorem dX2_length_39 : decode cX2_length 39 = .ok (.ireturn, 1) := dk_172 (dk_at dksX2_length_1 15 rfl rfl)
abbrev cX2_brake : ByteArray := prog_11_method_18_code
def yX2_brake : MethodName := ⟨RX2, "brake", "(IZ)I"⟩
def dkwX2_brake_2 : List UInt8 := [181, 0, 93, 29, 172]
abbrev dktX2_brake_2 : List UInt8 := dkwX2_brake_2 ++ []
def dkwX2_brake_1 : List UInt8 := [153, 0, 14, 42, 180, 0, 93, 4, 27, 120, 128, 167, 0, 13, 42, 180, 0, 93, 4, 27, 120, 2, 130, 126]
abbrev dktX2_brake_1 : List UInt8 := dkwX2_brake_1 ++ dktX2_brake_2
def dkwX2_brake_0 : List UInt8 := [42, 27, 182, 0, 99, 154, 0, 6, 16, 155, 172, 42, 180, 0, 93, 27, 122, 4, 126, 62, 42, 28]
abbrev dktX2_brake_0 : List UInt8 := dkwX2_brake_0 ++ dktX2_brake_1
theorem dksX2_brake_0 : cX2_brake.data.toList.drop 0 = dktX2_brake_0 := by decide +kernel
theorem dksX2_brake_1 : cX2_brake.data.toList.drop 22 = dktX2_brake_1 := dk_seg dksX2_brake_0 22 rfl rfl
theorem dksX2_brake_2 : cX2_brake.data.toList.drop 46 = dktX2_brake_2 := dk_seg dksX2_brake_1 24 rfl rfl
theorem dX2_brake_0 : decode cX2_brake 0 = .ok (.aload_n 0, 1) := dk_42 (dk_at dksX2_brake_0 0 rfl rfl)
theorem dX2_brake_1 : decode cX2_brake 1 = .ok (.iload_n 1, 1) := dk_27 (dk_at dksX2_brake_0 1 rfl rfl)
theorem dX2_brake_2 : decode cX2_brake 2 = .ok (.invokevirtual 99, 3) := dk_182 0 99 (dk_at dksX2_brake_0 2 rfl rfl)
theorem dX2_brake_5 : decode cX2_brake 5 = .ok (.ifCond .ne 6, 3) := dk_154 0 6 (dk_at dksX2_brake_0 5 rfl rfl)
theorem dX2_brake_8 : decode cX2_brake 8 = .ok (.bipush (-101), 2) := dk_16 155 (dk_at dksX2_brake_0 8 rfl rfl)
theorem dX2_brake_10 : decode cX2_brake 10 = .ok (.ireturn, 1) := dk_172 (dk_at dksX2_brake_0 10 rfl rfl)
theorem dX2_brake_11 : decode cX2_brake 11 = .ok (.aload_n 0, 1) := dk_42 (dk_at dksX2_brake_0 11 rfl rfl)
theorem dX2_brake_12 : decode cX2_brake 12 = .ok (.getfield 93, 3) := dk_180 0 93 (dk_at dksX2_brake_0 12 rfl rfl)
theorem dX2_brake_15 : decode cX2_brake 15 = .ok (.iload_n 1, 1) := dk_27 (dk_at dksX2_brake_0 15 rfl rfl)
theorem dX2_brake_16 : decode cX2_brake 16 = .ok (.ishr, 1) := dk_122 (dk_at dksX2_brake_0 16 rfl rfl)
theorem dX2_brake_17 : decode cX2_brake 17 = .ok (.iconst 1, 1) := dk_4 (dk_at dksX2_brake_0 17 rfl rfl)
theorem dX2_brake_18 : decode cX2_brake 18 = .ok (.iand, 1) := dk_126 (dk_at dksX2_brake_0 18 rfl rfl)
theorem dX2_brake_19 : decode cX2_brake 19 = .ok (.istore_n 3, 1) := dk_62 (dk_at dksX2_brake_0 19 rfl rfl)
theorem dX2_brake_20 : decode cX2_brake 20 = .ok (.aload_n 0, 1) := dk_42 (dk_at dksX2_brake_0 20 rfl rfl)
theorem dX2_brake_21 : decode cX2_brake 21 = .ok (.iload_n 2, 1) := dk_28 (dk_at dksX2_brake_0 21 rfl rfl)
theorem dX2_brake_22 : decode cX2_brake 22 = .ok (.ifCond .eq 14, 3) := dk_153 0 14 (dk_at dksX2_brake_1 0 rfl rfl)
theorem dX2_brake_25 : decode cX2_brake 25 = .ok (.aload_n 0, 1) := dk_42 (dk_at dksX2_brake_1 3 rfl rfl)
theorem dX2_brake_26 : decode cX2_brake 26 = .ok (.getfield 93, 3) := dk_180 0 93 (dk_at dksX2_brake_1 4 rfl rfl)
theorem dX2_brake_29 : decode cX2_brake 29 = .ok (.iconst 1, 1) := dk_4 (dk_at dksX2_brake_1 7 rfl rfl)
theorem dX2_brake_30 : decode cX2_brake 30 = .ok (.iload_n 1, 1) := dk_27 (dk_at dksX2_brake_1 8 rfl rfl)
theorem dX2_brake_31 : decode cX2_brake 31 = .ok (.ishl, 1) := dk_120 (dk_at dksX2_brake_1 9 rfl rfl)
theorem dX2_brake_32 : decode cX2_brake 32 = .ok (.ior, 1) := dk_128 (dk_at dksX2_brake_1 10 rfl rfl)
theorem dX2_brake_33 : decode cX2_brake 33 = .ok (.goto 13, 3) := dk_167 0 13 (dk_at dksX2_brake_1 11 rfl rfl)
theorem dX2_brake_36 : decode cX2_brake 36 = .ok (.aload_n 0, 1) := dk_42 (dk_at dksX2_brake_1 14 rfl rfl)
theorem dX2_brake_37 : decode cX2_brake 37 = .ok (.getfield 93, 3) := dk_180 0 93 (dk_at dksX2_brake_1 15 rfl rfl)
theorem dX2_brake_40 : decode cX2_brake 40 = .ok (.iconst 1, 1) := dk_4 (dk_at dksX2_brake_1 18 rfl rfl)
theorem dX2_brake_41 : decode cX2_brake 41 = .ok (.iload_n 1, 1) := dk_27 (dk_at dksX2_brake_1 19 rfl rfl)
theorem dX2_brake_42 : decode cX2_brake 42 = .ok (.ishl, 1) := dk_120 (dk_at dksX2_brake_1 20 rfl rfl)
theorem dX2_brake_43 : decode cX2_brake 43 = .ok (.iconst (-1), 1) := dk_2 (dk_at dksX2_brake_1 21 rfl rfl)
theorem dX2_brake_44 : decode cX2_brake 44 = .ok (.ixor, 1) := dk_130 (dk_at dksX2_brake_1 22 rfl rfl)
theorem dX2_brake_45 : decode cX2_brake 45 = .ok (.iand, 1) := dk_126 (dk_at dksX2_brake_1 23 rfl rfl)
theorem dX2_brake_46 : decode cX2_brake 46 = .ok (.putfield 93, 3) := dk_181 0 93 (dk_at dksX2_brake_2 0 rfl rfl)
theorem dX2_brake_49 : decode cX2_brake 49 = .ok (.iload_n 3, 1) := dk_29 (dk_at dksX2_brake_2 3 rfl rfl)
theorem dX2_brake_50 : decode cX2_brake 50 = .ok (.ireturn, 1) := dk_172 (dk_at dksX2_brake_2 4 rfl rfl)
abbrev cX2_rain : ByteArray := prog_11_method_19_code
def yX2_rain : MethodName := ⟨RX2, "rain", "(Z)I"⟩
def dkwX2_rain_0 : List UInt8 := [42, 180, 0, 107, 153, 0, 7, 4, 167, 0, 4, 3, 61, 42, 27, 181, 0, 107, 28, 172]
abbrev dktX2_rain_0 : List UInt8 := dkwX2_rain_0 ++ []
theorem dksX2_rain_0 : cX2_rain.data.toList.drop 0 = dktX2_rain_0 := by decide +kernel
theorem dX2_rain_0 : decode cX2_rain 0 = .ok (.aload_n 0, 1) := dk_42 (dk_at dksX2_rain_0 0 rfl rfl)
theorem dX2_rain_1 : decode cX2_rain 1 = .ok (.getfield 107, 3) := dk_180 0 107 (dk_at dksX2_rain_0 1 rfl rfl)
theorem dX2_rain_4 : decode cX2_rain 4 = .ok (.ifCond .eq 7, 3) := dk_153 0 7 (dk_at dksX2_rain_0 4 rfl rfl)
theorem dX2_rain_7 : decode cX2_rain 7 = .ok (.iconst 1, 1) := dk_4 (dk_at dksX2_rain_0 7 rfl rfl)
theorem dX2_rain_8 : decode cX2_rain 8 = .ok (.goto 4, 3) := dk_167 0 4 (dk_at dksX2_rain_0 8 rfl rfl)
theorem dX2_rain_11 : decode cX2_rain 11 = .ok (.iconst 0, 1) := dk_3 (dk_at dksX2_rain_0 11 rfl rfl)
theorem dX2_rain_12 : decode cX2_rain 12 = .ok (.istore_n 2, 1) := dk_61 (dk_at dksX2_rain_0 12 rfl rfl)
theorem dX2_rain_13 : decode cX2_rain 13 = .ok (.aload_n 0, 1) := dk_42 (dk_at dksX2_rain_0 13 rfl rfl)
theorem dX2_rain_14 : decode cX2_rain 14 = .ok (.iload_n 1, 1) := dk_27 (dk_at dksX2_rain_0 14 rfl rfl)
theorem dX2_rain_15 : decode cX2_rain 15 = .ok (.putfield 107, 3) := dk_181 0 107 (dk_at dksX2_rain_0 15 rfl rfl)
theorem dX2_rain_18 : decode cX2_rain 18 = .ok (.iload_n 2, 1) := dk_28 (dk_at dksX2_rain_0 18 rfl rfl)
theorem dX2_rain_19 : decode cX2_rain 19 = .ok (.ireturn, 1) := dk_172 (dk_at dksX2_rain_0 19 rfl rfl)
abbrev cX2_wants : ByteArray := prog_11_method_22_code
def yX2_wants : MethodName := ⟨RX2, "wants", "(I)I"⟩
def dkwX2_wants_0 : List UInt8 := [42, 27, 182, 0, 99, 153, 0, 11, 42, 27, 182, 0, 117, 167, 0, 5, 16, 155, 172]
abbrev dktX2_wants_0 : List UInt8 := dkwX2_wants_0 ++ []
theorem dksX2_wants_0 : cX2_wants.data.toList.drop 0 = dktX2_wants_0 := by decide +kernel
theorem dX2_wants_0 : decode cX2_wants 0 = .ok (.aload_n 0, 1) := dk_42 (dk_at dksX2_wants_0 0 rfl rfl)
theorem dX2_wants_1 : decode cX2_wants 1 = .ok (.iload_n 1, 1) := dk_27 (dk_at dksX2_wants_0 1 rfl rfl)
theorem dX2_wants_2 : decode cX2_wants 2 = .ok (.invokevirtual 99, 3) := dk_182 0 99 (dk_at dksX2_wants_0 2 rfl rfl)
theorem dX2_wants_5 : decode cX2_wants 5 = .ok (.ifCond .eq 11, 3) := dk_153 0 11 (dk_at dksX2_wants_0 5 rfl rfl)
theorem dX2_wants_8 : decode cX2_wants 8 = .ok (.aload_n 0, 1) := dk_42 (dk_at dksX2_wants_0 8 rfl rfl)
theorem dX2_wants_9 : decode cX2_wants 9 = .ok (.iload_n 1, 1) := dk_27 (dk_at dksX2_wants_0 9 rfl rfl)
theorem dX2_wants_10 : decode cX2_wants 10 = .ok (.invokevirtual 117, 3) := dk_182 0 117 (dk_at dksX2_wants_0 10 rfl rfl)
theorem dX2_wants_13 : decode cX2_wants 13 = .ok (.goto 5, 3) := dk_167 0 5 (dk_at dksX2_wants_0 13 rfl rfl)
theorem dX2_wants_16 : decode cX2_wants 16 = .ok (.bipush (-101), 2) := dk_16 155 (dk_at dksX2_wants_0 16 rfl rfl)
theorem dX2_wants_18 : decode cX2_wants 18 = .ok (.ireturn, 1) := dk_172 (dk_at dksX2_wants_0 18 rfl rfl)
abbrev cX2_wantsNow : ByteArray := prog_11_method_21_code
def yX2_wantsNow : MethodName := ⟨RX2, "wantsNow", "(I)I"⟩
def dkwX2_wantsNow_4 : List UInt8 := [180, 0, 22, 27, 46, 104, 167, 0, 11, 42, 180, 0, 22, 27, 46, 29, 100, 172]
abbrev dktX2_wantsNow_4 : List UInt8 := dkwX2_wantsNow_4 ++ []
def dkwX2_wantsNow_3 : List UInt8 := [42, 180, 0, 114, 27, 184, 0, 96, 153, 0, 7, 4, 167, 0, 4, 3, 62, 28, 153, 0, 14, 5, 42]
abbrev dktX2_wantsNow_3 : List UInt8 := dkwX2_wantsNow_3 ++ dktX2_wantsNow_4
def dkwX2_wantsNow_2 : List UInt8 := [180, 0, 16, 27, 46, 160, 0, 7, 4, 167, 0, 4, 3, 61, 42, 180, 0, 7, 27, 46, 6, 160, 0, 18]
abbrev dktX2_wantsNow_2 : List UInt8 := dkwX2_wantsNow_2 ++ dktX2_wantsNow_3
def dkwX2_wantsNow_1 : List UInt8 := [180, 0, 7, 27, 46, 5, 159, 0, 13, 42, 180, 0, 7, 27, 46, 7, 160, 0, 20, 42, 180, 0, 90, 42]
abbrev dktX2_wantsNow_1 : List UInt8 := dkwX2_wantsNow_1 ++ dktX2_wantsNow_2
def dkwX2_wantsNow_0 : List UInt8 := [42, 27, 182, 0, 111, 153, 0, 14, 42, 180, 0, 93, 27, 184, 0, 96, 153, 0, 5, 3, 172, 42]
abbrev dktX2_wantsNow_0 : List UInt8 := dkwX2_wantsNow_0 ++ dktX2_wantsNow_1
theorem dksX2_wantsNow_0 : cX2_wantsNow.data.toList.drop 0 = dktX2_wantsNow_0 := by decide +kernel
theorem dksX2_wantsNow_1 : cX2_wantsNow.data.toList.drop 22 = dktX2_wantsNow_1 := dk_seg dksX2_wantsNow_0 22 rfl rfl
theorem dksX2_wantsNow_2 : cX2_wantsNow.data.toList.drop 46 = dktX2_wantsNow_2 := dk_seg dksX2_wantsNow_1 24 rfl rfl
theorem dksX2_wantsNow_3 : cX2_wantsNow.data.toList.drop 70 = dktX2_wantsNow_3 := dk_seg dksX2_wantsNow_2 24 rfl rfl
theorem dksX2_wantsNow_4 : cX2_wantsNow.data.toList.drop 93 = dktX2_wantsNow_4 := dk_seg dksX2_wantsNow_3 23 rfl rfl
theorem dX2_wantsNow_0 : decode cX2_wantsNow 0 = .ok (.aload_n 0, 1) := dk_42 (dk_at dksX2_wantsNow_0 0 rfl rfl)
theorem dX2_wantsNow_1 : decode cX2_wantsNow 1 = .ok (.iload_n 1, 1) := dk_27 (dk_at dksX2_wantsNow_0 1 rfl rfl)
theorem dX2_wantsNow_2 : decode cX2_wantsNow 2 = .ok (.invokevirtual 111, 3) := dk_182 0 111 (dk_at dksX2_wantsNow_0 2 rfl rfl)
theorem dX2_wantsNow_5 : decode cX2_wantsNow 5 = .ok (.ifCond .eq 14, 3) := dk_153 0 14 (dk_at dksX2_wantsNow_0 5 rfl rfl)
theorem dX2_wantsNow_8 : decode cX2_wantsNow 8 = .ok (.aload_n 0, 1) := dk_42 (dk_at dksX2_wantsNow_0 8 rfl rfl)
theorem dX2_wantsNow_9 : decode cX2_wantsNow 9 = .ok (.getfield 93, 3) := dk_180 0 93 (dk_at dksX2_wantsNow_0 9 rfl rfl)
theorem dX2_wantsNow_12 : decode cX2_wantsNow 12 = .ok (.iload_n 1, 1) := dk_27 (dk_at dksX2_wantsNow_0 12 rfl rfl)
theorem dX2_wantsNow_13 : decode cX2_wantsNow 13 = .ok (.invokestatic 96, 3) := dk_184 0 96 (dk_at dksX2_wantsNow_0 13 rfl rfl)
theorem dX2_wantsNow_16 : decode cX2_wantsNow 16 = .ok (.ifCond .eq 5, 3) := dk_153 0 5 (dk_at dksX2_wantsNow_0 16 rfl rfl)
theorem dX2_wantsNow_19 : decode cX2_wantsNow 19 = .ok (.iconst 0, 1) := dk_3 (dk_at dksX2_wantsNow_0 19 rfl rfl)
theorem dX2_wantsNow_20 : decode cX2_wantsNow 20 = .ok (.ireturn, 1) := dk_172 (dk_at dksX2_wantsNow_0 20 rfl rfl)
theorem dX2_wantsNow_21 : decode cX2_wantsNow 21 = .ok (.aload_n 0, 1) := dk_42 (dk_at dksX2_wantsNow_0 21 rfl rfl)
theorem dX2_wantsNow_22 : decode cX2_wantsNow 22 = .ok (.getfield 7, 3) := dk_180 0 7 (dk_at dksX2_wantsNow_1 0 rfl rfl)
theorem dX2_wantsNow_25 : decode cX2_wantsNow 25 = .ok (.iload_n 1, 1) := dk_27 (dk_at dksX2_wantsNow_1 3 rfl rfl)
theorem dX2_wantsNow_26 : decode cX2_wantsNow 26 = .ok (.iaload, 1) := dk_46 (dk_at dksX2_wantsNow_1 4 rfl rfl)
theorem dX2_wantsNow_27 : decode cX2_wantsNow 27 = .ok (.iconst 2, 1) := dk_5 (dk_at dksX2_wantsNow_1 5 rfl rfl)
theorem dX2_wantsNow_28 : decode cX2_wantsNow 28 = .ok (.if_icmp .eq 13, 3) := dk_159 0 13 (dk_at dksX2_wantsNow_1 6 rfl rfl)
theorem dX2_wantsNow_31 : decode cX2_wantsNow 31 = .ok (.aload_n 0, 1) := dk_42 (dk_at dksX2_wantsNow_1 9 rfl rfl)
theorem dX2_wantsNow_32 : decode cX2_wantsNow 32 = .ok (.getfield 7, 3) := dk_180 0 7 (dk_at dksX2_wantsNow_1 10 rfl rfl)
theorem dX2_wantsNow_35 : decode cX2_wantsNow 35 = .ok (.iload_n 1, 1) := dk_27 (dk_at dksX2_wantsNow_1 13 rfl rfl)
theorem dX2_wantsNow_36 : decode cX2_wantsNow 36 = .ok (.iaload, 1) := dk_46 (dk_at dksX2_wantsNow_1 14 rfl rfl)
theorem dX2_wantsNow_37 : decode cX2_wantsNow 37 = .ok (.iconst 4, 1) := dk_7 (dk_at dksX2_wantsNow_1 15 rfl rfl)
theorem dX2_wantsNow_38 : decode cX2_wantsNow 38 = .ok (.if_icmp .ne 20, 3) := dk_160 0 20 (dk_at dksX2_wantsNow_1 16 rfl rfl)
theorem dX2_wantsNow_41 : decode cX2_wantsNow 41 = .ok (.aload_n 0, 1) := dk_42 (dk_at dksX2_wantsNow_1 19 rfl rfl)
theorem dX2_wantsNow_42 : decode cX2_wantsNow 42 = .ok (.getfield 90, 3) := dk_180 0 90 (dk_at dksX2_wantsNow_1 20 rfl rfl)
theorem dX2_wantsNow_45 : decode cX2_wantsNow 45 = .ok (.aload_n 0, 1) := dk_42 (dk_at dksX2_wantsNow_1 23 rfl rfl)
theorem dX2_wantsNow_46 : decode cX2_wantsNow 46 = .ok (.getfield 16, 3) := dk_180 0 16 (dk_at dksX2_wantsNow_2 0 rfl rfl)
theorem dX2_wantsNow_49 : decode cX2_wantsNow 49 = .ok (.iload_n 1, 1) := dk_27 (dk_at dksX2_wantsNow_2 3 rfl rfl)
theorem dX2_wantsNow_50 : decode cX2_wantsNow 50 = .ok (.iaload, 1) := dk_46 (dk_at dksX2_wantsNow_2 4 rfl rfl)
theorem dX2_wantsNow_51 : decode cX2_wantsNow 51 = .ok (.if_icmp .ne 7, 3) := dk_160 0 7 (dk_at dksX2_wantsNow_2 5 rfl rfl)
theorem dX2_wantsNow_54 : decode cX2_wantsNow 54 = .ok (.iconst 1, 1) := dk_4 (dk_at dksX2_wantsNow_2 8 rfl rfl)
theorem dX2_wantsNow_55 : decode cX2_wantsNow 55 = .ok (.goto 4, 3) := dk_167 0 4 (dk_at dksX2_wantsNow_2 9 rfl rfl)
theorem dX2_wantsNow_58 : decode cX2_wantsNow 58 = .ok (.iconst 0, 1) := dk_3 (dk_at dksX2_wantsNow_2 12 rfl rfl)
theorem dX2_wantsNow_59 : decode cX2_wantsNow 59 = .ok (.istore_n 2, 1) := dk_61 (dk_at dksX2_wantsNow_2 13 rfl rfl)
theorem dX2_wantsNow_60 : decode cX2_wantsNow 60 = .ok (.aload_n 0, 1) := dk_42 (dk_at dksX2_wantsNow_2 14 rfl rfl)
theorem dX2_wantsNow_61 : decode cX2_wantsNow 61 = .ok (.getfield 7, 3) := dk_180 0 7 (dk_at dksX2_wantsNow_2 15 rfl rfl)
theorem dX2_wantsNow_64 : decode cX2_wantsNow 64 = .ok (.iload_n 1, 1) := dk_27 (dk_at dksX2_wantsNow_2 18 rfl rfl)
theorem dX2_wantsNow_65 : decode cX2_wantsNow 65 = .ok (.iaload, 1) := dk_46 (dk_at dksX2_wantsNow_2 19 rfl rfl)
theorem dX2_wantsNow_66 : decode cX2_wantsNow 66 = .ok (.iconst 3, 1) := dk_6 (dk_at dksX2_wantsNow_2 20 rfl rfl)
theorem dX2_wantsNow_67 : decode cX2_wantsNow 67 = .ok (.if_icmp .ne 18, 3) := dk_160 0 18 (dk_at dksX2_wantsNow_2 21 rfl rfl)
theorem dX2_wantsNow_70 : decode cX2_wantsNow 70 = .ok (.aload_n 0, 1) := dk_42 (dk_at dksX2_wantsNow_3 0 rfl rfl)
theorem dX2_wantsNow_71 : decode cX2_wantsNow 71 = .ok (.getfield 114, 3) := dk_180 0 114 (dk_at dksX2_wantsNow_3 1 rfl rfl)
theorem dX2_wantsNow_74 : decode cX2_wantsNow 74 = .ok (.iload_n 1, 1) := dk_27 (dk_at dksX2_wantsNow_3 4 rfl rfl)
theorem dX2_wantsNow_75 : decode cX2_wantsNow 75 = .ok (.invokestatic 96, 3) := dk_184 0 96 (dk_at dksX2_wantsNow_3 5 rfl rfl)
theorem dX2_wantsNow_78 : decode cX2_wantsNow 78 = .ok (.ifCond .eq 7, 3) := dk_153 0 7 (dk_at dksX2_wantsNow_3 8 rfl rfl)
theorem dX2_wantsNow_81 : decode cX2_wantsNow 81 = .ok (.iconst 1, 1) := dk_4 (dk_at dksX2_wantsNow_3 11 rfl rfl)
theorem dX2_wantsNow_82 : decode cX2_wantsNow 82 = .ok (.goto 4, 3) := dk_167 0 4 (dk_at dksX2_wantsNow_3 12 rfl rfl)
theorem dX2_wantsNow_85 : decode cX2_wantsNow 85 = .ok (.iconst 0, 1) := dk_3 (dk_at dksX2_wantsNow_3 15 rfl rfl)
theorem dX2_wantsNow_86 : decode cX2_wantsNow 86 = .ok (.istore_n 3, 1) := dk_62 (dk_at dksX2_wantsNow_3 16 rfl rfl)
theorem dX2_wantsNow_87 : decode cX2_wantsNow 87 = .ok (.iload_n 2, 1) := dk_28 (dk_at dksX2_wantsNow_3 17 rfl rfl)
theorem dX2_wantsNow_88 : decode cX2_wantsNow 88 = .ok (.ifCond .eq 14, 3) := dk_153 0 14 (dk_at dksX2_wantsNow_3 18 rfl rfl)
theorem dX2_wantsNow_91 : decode cX2_wantsNow 91 = .ok (.iconst 2, 1) := dk_5 (dk_at dksX2_wantsNow_3 21 rfl rfl)
theorem dX2_wantsNow_92 : decode cX2_wantsNow 92 = .ok (.aload_n 0, 1) := dk_42 (dk_at dksX2_wantsNow_3 22 rfl rfl)
theorem dX2_wantsNow_93 : decode cX2_wantsNow 93 = .ok (.getfield 22, 3) := dk_180 0 22 (dk_at dksX2_wantsNow_4 0 rfl rfl)
theorem dX2_wantsNow_96 : decode cX2_wantsNow 96 = .ok (.iload_n 1, 1) := dk_27 (dk_at dksX2_wantsNow_4 3 rfl rfl)
theorem dX2_wantsNow_97 : decode cX2_wantsNow 97 = .ok (.iaload, 1) := dk_46 (dk_at dksX2_wantsNow_4 4 rfl rfl)
theorem dX2_wantsNow_98 : decode cX2_wantsNow 98 = .ok (.imul, 1) := dk_104 (dk_at dksX2_wantsNow_4 5 rfl rfl)
theorem dX2_wantsNow_99 : decode cX2_wantsNow 99 = .ok (.goto 11, 3) := dk_167 0 11 (dk_at dksX2_wantsNow_4 6 rfl rfl)
theorem dX2_wantsNow_102 : decode cX2_wantsNow 102 = .ok (.aload_n 0, 1) := dk_42 (dk_at dksX2_wantsNow_4 9 rfl rfl)
theorem dX2_wantsNow_103 : decode cX2_wantsNow 103 = .ok (.getfield 22, 3) := dk_180 0 22 (dk_at dksX2_wantsNow_4 10 rfl rfl)
theorem dX2_wantsNow_106 : decode cX2_wantsNow 106 = .ok (.iload_n 1, 1) := dk_27 (dk_at dksX2_wantsNow_4 13 rfl rfl)
theorem dX2_wantsNow_107 : decode cX2_wantsNow 107 = .ok (.iaload, 1) := dk_46 (dk_at dksX2_wantsNow_4 14 rfl rfl)
theorem dX2_wantsNow_108 : decode cX2_wantsNow 108 = .ok (.iload_n 3, 1) := dk_29 (dk_at dksX2_wantsNow_4 15 rfl rfl)
theorem dX2_wantsNow_109 : decode cX2_wantsNow 109 = .ok (.isub, 1) := dk_100 (dk_at dksX2_wantsNow_4 16 rfl rfl)
theorem dX2_wantsNow_110 : decode cX2_wantsNow 110 = .ok (.ireturn, 1) := dk_172 (dk_at dksX2_wantsNow_4 17 rfl rfl)
abbrev cX2_isTime : ByteArray := prog_11_method_20_code
def yX2_isTime : MethodName := ⟨RX2, "isTime", "(I)Z"⟩
def dkwX2_isTime_1 : List UInt8 := [180, 0, 90, 42, 180, 0, 19, 27, 46, 162, 0, 7, 4, 167, 0, 4, 3, 172]
abbrev dktX2_isTime_1 : List UInt8 := dkwX2_isTime_1 ++ []
def dkwX2_isTime_0 : List UInt8 := [42, 180, 0, 90, 16, 9, 162, 0, 33, 42, 180, 0, 90, 42, 180, 0, 16, 27, 46, 161, 0, 20, 42]
abbrev dktX2_isTime_0 : List UInt8 := dkwX2_isTime_0 ++ dktX2_isTime_1
theorem dksX2_isTime_0 : cX2_isTime.data.toList.drop 0 = dktX2_isTime_0 := by decide +kernel
theorem dksX2_isTime_1 : cX2_isTime.data.toList.drop 23 = dktX2_isTime_1 := dk_seg dksX2_isTime_0 23 rfl rfl
theorem dX2_isTime_0 : decode cX2_isTime 0 = .ok (.aload_n 0, 1) := dk_42 (dk_at dksX2_isTime_0 0 rfl rfl)
theorem dX2_isTime_1 : decode cX2_isTime 1 = .ok (.getfield 90, 3) := dk_180 0 90 (dk_at dksX2_isTime_0 1 rfl rfl)
theorem dX2_isTime_4 : decode cX2_isTime 4 = .ok (.bipush 9, 2) := dk_16 9 (dk_at dksX2_isTime_0 4 rfl rfl)
theorem dX2_isTime_6 : decode cX2_isTime 6 = .ok (.if_icmp .ge 33, 3) := dk_162 0 33 (dk_at dksX2_isTime_0 6 rfl rfl)
theorem dX2_isTime_9 : decode cX2_isTime 9 = .ok (.aload_n 0, 1) := dk_42 (dk_at dksX2_isTime_0 9 rfl rfl)
theorem dX2_isTime_10 : decode cX2_isTime 10 = .ok (.getfield 90, 3) := dk_180 0 90 (dk_at dksX2_isTime_0 10 rfl rfl)
theorem dX2_isTime_13 : decode cX2_isTime 13 = .ok (.aload_n 0, 1) := dk_42 (dk_at dksX2_isTime_0 13 rfl rfl)
theorem dX2_isTime_14 : decode cX2_isTime 14 = .ok (.getfield 16, 3) := dk_180 0 16 (dk_at dksX2_isTime_0 14 rfl rfl)
theorem dX2_isTime_17 : decode cX2_isTime 17 = .ok (.iload_n 1, 1) := dk_27 (dk_at dksX2_isTime_0 17 rfl rfl)
theorem dX2_isTime_18 : decode cX2_isTime 18 = .ok (.iaload, 1) := dk_46 (dk_at dksX2_isTime_0 18 rfl rfl)
theorem dX2_isTime_19 : decode cX2_isTime 19 = .ok (.if_icmp .lt 20, 3) := dk_161 0 20 (dk_at dksX2_isTime_0 19 rfl rfl)
theorem dX2_isTime_22 : decode cX2_isTime 22 = .ok (.aload_n 0, 1) := dk_42 (dk_at dksX2_isTime_0 22 rfl rfl)
theorem dX2_isTime_23 : decode cX2_isTime 23 = .ok (.getfield 90, 3) := dk_180 0 90 (dk_at dksX2_isTime_1 0 rfl rfl)
theorem dX2_isTime_26 : decode cX2_isTime 26 = .ok (.aload_n 0, 1) := dk_42 (dk_at dksX2_isTime_1 3 rfl rfl)
theorem dX2_isTime_27 : decode cX2_isTime 27 = .ok (.getfield 19, 3) := dk_180 0 19 (dk_at dksX2_isTime_1 4 rfl rfl)
theorem dX2_isTime_30 : decode cX2_isTime 30 = .ok (.iload_n 1, 1) := dk_27 (dk_at dksX2_isTime_1 7 rfl rfl)
theorem dX2_isTime_31 : decode cX2_isTime 31 = .ok (.iaload, 1) := dk_46 (dk_at dksX2_isTime_1 8 rfl rfl)
theorem dX2_isTime_32 : decode cX2_isTime 32 = .ok (.if_icmp .ge 7, 3) := dk_162 0 7 (dk_at dksX2_isTime_1 9 rfl rfl)
theorem dX2_isTime_35 : decode cX2_isTime 35 = .ok (.iconst 1, 1) := dk_4 (dk_at dksX2_isTime_1 12 rfl rfl)
theorem dX2_isTime_36 : decode cX2_isTime 36 = .ok (.goto 4, 3) := dk_167 0 4 (dk_at dksX2_isTime_1 13 rfl rfl)
theorem dX2_isTime_39 : decode cX2_isTime 39 = .ok (.iconst 0, 1) := dk_3 (dk_at dksX2_isTime_1 16 rfl rfl)
theorem dX2_isTime_40 : decode cX2_isTime 40 = .ok (.ireturn, 1) := dk_172 (dk_at dksX2_isTime_1 17 rfl rfl)
abbrev cX2_goes : ByteArray := prog_11_method_28_code
def yX2_goes : MethodName := ⟨RX2, "goes", "(I)I"⟩
def dkwX2_goes_0 : List UInt8 := [27, 3, 42, 182, 0, 129, 184, 0, 78, 153, 0, 11, 42, 27, 182, 0, 132, 167, 0, 5, 16, 154, 172]
abbrev dktX2_goes_0 : List UInt8 := dkwX2_goes_0 ++ []
theorem dksX2_goes_0 : cX2_goes.data.toList.drop 0 = dktX2_goes_0 := by decide +kernel
theorem dX2_goes_0 : decode cX2_goes 0 = .ok (.iload_n 1, 1) := dk_27 (dk_at dksX2_goes_0 0 rfl rfl)
theorem dX2_goes_1 : decode cX2_goes 1 = .ok (.iconst 0, 1) := dk_3 (dk_at dksX2_goes_0 1 rfl rfl)
theorem dX2_goes_2 : decode cX2_goes 2 = .ok (.aload_n 0, 1) := dk_42 (dk_at dksX2_goes_0 2 rfl rfl)
theorem dX2_goes_3 : decode cX2_goes 3 = .ok (.invokevirtual 129, 3) := dk_182 0 129 (dk_at dksX2_goes_0 3 rfl rfl)
theorem dX2_goes_6 : decode cX2_goes 6 = .ok (.invokestatic 78, 3) := dk_184 0 78 (dk_at dksX2_goes_0 6 rfl rfl)
theorem dX2_goes_9 : decode cX2_goes 9 = .ok (.ifCond .eq 11, 3) := dk_153 0 11 (dk_at dksX2_goes_0 9 rfl rfl)
theorem dX2_goes_12 : decode cX2_goes 12 = .ok (.aload_n 0, 1) := dk_42 (dk_at dksX2_goes_0 12 rfl rfl)
theorem dX2_goes_13 : decode cX2_goes 13 = .ok (.iload_n 1, 1) := dk_27 (dk_at dksX2_goes_0 13 rfl rfl)
theorem dX2_goes_14 : decode cX2_goes 14 = .ok (.invokevirtual 132, 3) := dk_182 0 132 (dk_at dksX2_goes_0 14 rfl rfl)
theorem dX2_goes_17 : decode cX2_goes 17 = .ok (.goto 5, 3) := dk_167 0 5 (dk_at dksX2_goes_0 17 rfl rfl)
theorem dX2_goes_20 : decode cX2_goes 20 = .ok (.bipush (-102), 2) := dk_16 154 (dk_at dksX2_goes_0 20 rfl rfl)
theorem dX2_goes_22 : decode cX2_goes 22 = .ok (.ireturn, 1) := dk_172 (dk_at dksX2_goes_0 22 rfl rfl)
abbrev cX2_everybody : ByteArray := prog_11_method_27_code
def yX2_everybody : MethodName := ⟨RX2, "everybody", "()I"⟩
def dkwX2_everybody_0 : List UInt8 := [4, 42, 180, 0, 75, 120, 4, 100, 172]
abbrev dktX2_everybody_0 : List UInt8 := dkwX2_everybody_0 ++ []
theorem dksX2_everybody_0 : cX2_everybody.data.toList.drop 0 = dktX2_everybody_0 := by decide +kernel
theorem dX2_everybody_0 : decode cX2_everybody 0 = .ok (.iconst 1, 1) := dk_4 (dk_at dksX2_everybody_0 0 rfl rfl)
theorem dX2_everybody_1 : decode cX2_everybody 1 = .ok (.aload_n 0, 1) := dk_42 (dk_at dksX2_everybody_0 1 rfl rfl)
theorem dX2_everybody_2 : decode cX2_everybody 2 = .ok (.getfield 75, 3) := dk_180 0 75 (dk_at dksX2_everybody_0 2 rfl rfl)
theorem dX2_everybody_5 : decode cX2_everybody 5 = .ok (.ishl, 1) := dk_120 (dk_at dksX2_everybody_0 5 rfl rfl)
theorem dX2_everybody_6 : decode cX2_everybody 6 = .ok (.iconst 1, 1) := dk_4 (dk_at dksX2_everybody_0 6 rfl rfl)
theorem dX2_everybody_7 : decode cX2_everybody 7 = .ok (.isub, 1) := dk_100 (dk_at dksX2_everybody_0 7 rfl rfl)
theorem dX2_everybody_8 : decode cX2_everybody 8 = .ok (.ireturn, 1) := dk_172 (dk_at dksX2_everybody_0 8 rfl rfl)
abbrev cX2_goesBy : ByteArray := prog_11_method_26_code
def yX2_goesBy : MethodName := ⟨RX2, "goesBy", "(I)I"⟩
def dkwX2_goesBy_3 : List UInt8 := [96, 167, 0, 4, 3, 96, 54, 4, 132, 5, 1, 167, 255, 195, 21, 4, 172]
abbrev dktX2_goesBy_3 : List UInt8 := dkwX2_goesBy_3 ++ []
def dkwX2_goesBy_2 : List UInt8 := [46, 7, 159, 0, 26, 42, 180, 0, 25, 21, 5, 46, 42, 180, 0, 107, 153, 0, 7, 4, 167, 0, 4, 3]
abbrev dktX2_goesBy_2 : List UInt8 := dkwX2_goesBy_2 ++ dktX2_goesBy_3
def dkwX2_goesBy_1 : List UInt8 := [42, 180, 0, 75, 162, 0, 58, 21, 4, 29, 21, 5, 184, 0, 96, 153, 0, 37, 42, 180, 0, 7, 21, 5]
abbrev dktX2_goesBy_1 : List UInt8 := dkwX2_goesBy_1 ++ dktX2_goesBy_2
def dkwX2_goesBy_0 : List UInt8 := [42, 27, 182, 0, 120, 61, 42, 28, 182, 0, 123, 62, 42, 28, 182, 0, 126, 54, 4, 3, 54, 5, 21, 5]
abbrev dktX2_goesBy_0 : List UInt8 := dkwX2_goesBy_0 ++ dktX2_goesBy_1
theorem dksX2_goesBy_0 : cX2_goesBy.data.toList.drop 0 = dktX2_goesBy_0 := by decide +kernel
theorem dksX2_goesBy_1 : cX2_goesBy.data.toList.drop 24 = dktX2_goesBy_1 := dk_seg dksX2_goesBy_0 24 rfl rfl
theorem dksX2_goesBy_2 : cX2_goesBy.data.toList.drop 48 = dktX2_goesBy_2 := dk_seg dksX2_goesBy_1 24 rfl rfl
theorem dksX2_goesBy_3 : cX2_goesBy.data.toList.drop 72 = dktX2_goesBy_3 := dk_seg dksX2_goesBy_2 24 rfl rfl
theorem dX2_goesBy_0 : decode cX2_goesBy 0 = .ok (.aload_n 0, 1) := dk_42 (dk_at dksX2_goesBy_0 0 rfl rfl)
theorem dX2_goesBy_1 : decode cX2_goesBy 1 = .ok (.iload_n 1, 1) := dk_27 (dk_at dksX2_goesBy_0 1 rfl rfl)
theorem dX2_goesBy_2 : decode cX2_goesBy 2 = .ok (.invokevirtual 120, 3) := dk_182 0 120 (dk_at dksX2_goesBy_0 2 rfl rfl)
theorem dX2_goesBy_5 : decode cX2_goesBy 5 = .ok (.istore_n 2, 1) := dk_61 (dk_at dksX2_goesBy_0 5 rfl rfl)
theorem dX2_goesBy_6 : decode cX2_goesBy 6 = .ok (.aload_n 0, 1) := dk_42 (dk_at dksX2_goesBy_0 6 rfl rfl)
theorem dX2_goesBy_7 : decode cX2_goesBy 7 = .ok (.iload_n 2, 1) := dk_28 (dk_at dksX2_goesBy_0 7 rfl rfl)
theorem dX2_goesBy_8 : decode cX2_goesBy 8 = .ok (.invokevirtual 123, 3) := dk_182 0 123 (dk_at dksX2_goesBy_0 8 rfl rfl)
theorem dX2_goesBy_11 : decode cX2_goesBy 11 = .ok (.istore_n 3, 1) := dk_62 (dk_at dksX2_goesBy_0 11 rfl rfl)
theorem dX2_goesBy_12 : decode cX2_goesBy 12 = .ok (.aload_n 0, 1) := dk_42 (dk_at dksX2_goesBy_0 12 rfl rfl)
theorem dX2_goesBy_13 : decode cX2_goesBy 13 = .ok (.iload_n 2, 1) := dk_28 (dk_at dksX2_goesBy_0 13 rfl rfl)
theorem dX2_goesBy_14 : decode cX2_goesBy 14 = .ok (.invokevirtual 126, 3) := dk_182 0 126 (dk_at dksX2_goesBy_0 14 rfl rfl)
theorem dX2_goesBy_17 : decode cX2_goesBy 17 = .ok (.istore 4, 2) := dk_54 4 (dk_at dksX2_goesBy_0 17 rfl rfl)
theorem dX2_goesBy_19 : decode cX2_goesBy 19 = .ok (.iconst 0, 1) := dk_3 (dk_at dksX2_goesBy_0 19 rfl rfl)
theorem dX2_goesBy_20 : decode cX2_goesBy 20 = .ok (.istore 5, 2) := dk_54 5 (dk_at dksX2_goesBy_0 20 rfl rfl)
theorem dX2_goesBy_22 : decode cX2_goesBy 22 = .ok (.iload 5, 2) := dk_21 5 (dk_at dksX2_goesBy_0 22 rfl rfl)
theorem dX2_goesBy_24 : decode cX2_goesBy 24 = .ok (.aload_n 0, 1) := dk_42 (dk_at dksX2_goesBy_1 0 rfl rfl)
theorem dX2_goesBy_25 : decode cX2_goesBy 25 = .ok (.getfield 75, 3) := dk_180 0 75 (dk_at dksX2_goesBy_1 1 rfl rfl)
theorem dX2_goesBy_28 : decode cX2_goesBy 28 = .ok (.if_icmp .ge 58, 3) := dk_162 0 58 (dk_at dksX2_goesBy_1 4 rfl rfl)
theorem dX2_goesBy_31 : decode cX2_goesBy 31 = .ok (.iload 4, 2) := dk_21 4 (dk_at dksX2_goesBy_1 7 rfl rfl)
theorem dX2_goesBy_33 : decode cX2_goesBy 33 = .ok (.iload_n 3, 1) := dk_29 (dk_at dksX2_goesBy_1 9 rfl rfl)
theorem dX2_goesBy_34 : decode cX2_goesBy 34 = .ok (.iload 5, 2) := dk_21 5 (dk_at dksX2_goesBy_1 10 rfl rfl)
theorem dX2_goesBy_36 : decode cX2_goesBy 36 = .ok (.invokestatic 96, 3) := dk_184 0 96 (dk_at dksX2_goesBy_1 12 rfl rfl)
theorem dX2_goesBy_39 : decode cX2_goesBy 39 = .ok (.ifCond .eq 37, 3) := dk_153 0 37 (dk_at dksX2_goesBy_1 15 rfl rfl)
theorem dX2_goesBy_42 : decode cX2_goesBy 42 = .ok (.aload_n 0, 1) := dk_42 (dk_at dksX2_goesBy_1 18 rfl rfl)
theorem dX2_goesBy_43 : decode cX2_goesBy 43 = .ok (.getfield 7, 3) := dk_180 0 7 (dk_at dksX2_goesBy_1 19 rfl rfl)
theorem dX2_goesBy_46 : decode cX2_goesBy 46 = .ok (.iload 5, 2) := dk_21 5 (dk_at dksX2_goesBy_1 22 rfl rfl)
theorem dX2_goesBy_48 : decode cX2_goesBy 48 = .ok (.iaload, 1) := dk_46 (dk_at dksX2_goesBy_2 0 rfl rfl)
theorem dX2_goesBy_49 : decode cX2_goesBy 49 = .ok (.iconst 4, 1) := dk_7 (dk_at dksX2_goesBy_2 1 rfl rfl)
theorem dX2_goesBy_50 : decode cX2_goesBy 50 = .ok (.if_icmp .eq 26, 3) := dk_159 0 26 (dk_at dksX2_goesBy_2 2 rfl rfl)
theorem dX2_goesBy_53 : decode cX2_goesBy 53 = .ok (.aload_n 0, 1) := dk_42 (dk_at dksX2_goesBy_2 5 rfl rfl)
theorem dX2_goesBy_54 : decode cX2_goesBy 54 = .ok (.getfield 25, 3) := dk_180 0 25 (dk_at dksX2_goesBy_2 6 rfl rfl)
theorem dX2_goesBy_57 : decode cX2_goesBy 57 = .ok (.iload 5, 2) := dk_21 5 (dk_at dksX2_goesBy_2 9 rfl rfl)
theorem dX2_goesBy_59 : decode cX2_goesBy 59 = .ok (.iaload, 1) := dk_46 (dk_at dksX2_goesBy_2 11 rfl rfl)
theorem dX2_goesBy_60 : decode cX2_goesBy 60 = .ok (.aload_n 0, 1) := dk_42 (dk_at dksX2_goesBy_2 12 rfl rfl)
theorem dX2_goesBy_61 : decode cX2_goesBy 61 = .ok (.getfield 107, 3) := dk_180 0 107 (dk_at dksX2_goesBy_2 13 rfl rfl)
theorem dX2_goesBy_64 : decode cX2_goesBy 64 = .ok (.ifCond .eq 7, 3) := dk_153 0 7 (dk_at dksX2_goesBy_2 16 rfl rfl)
theorem dX2_goesBy_67 : decode cX2_goesBy 67 = .ok (.iconst 1, 1) := dk_4 (dk_at dksX2_goesBy_2 19 rfl rfl)
theorem dX2_goesBy_68 : decode cX2_goesBy 68 = .ok (.goto 4, 3) := dk_167 0 4 (dk_at dksX2_goesBy_2 20 rfl rfl)
theorem dX2_goesBy_71 : decode cX2_goesBy 71 = .ok (.iconst 0, 1) := dk_3 (dk_at dksX2_goesBy_2 23 rfl rfl)
theorem dX2_goesBy_72 : decode cX2_goesBy 72 = .ok (.iadd, 1) := dk_96 (dk_at dksX2_goesBy_3 0 rfl rfl)
theorem dX2_goesBy_73 : decode cX2_goesBy 73 = .ok (.goto 4, 3) := dk_167 0 4 (dk_at dksX2_goesBy_3 1 rfl rfl)
theorem dX2_goesBy_76 : decode cX2_goesBy 76 = .ok (.iconst 0, 1) := dk_3 (dk_at dksX2_goesBy_3 4 rfl rfl)
theorem dX2_goesBy_77 : decode cX2_goesBy 77 = .ok (.iadd, 1) := dk_96 (dk_at dksX2_goesBy_3 5 rfl rfl)
theorem dX2_goesBy_78 : decode cX2_goesBy 78 = .ok (.istore 4, 2) := dk_54 4 (dk_at dksX2_goesBy_3 6 rfl rfl)
theorem dX2_goesBy_80 : decode cX2_goesBy 80 = .ok (.iinc 5 1, 3) := dk_132 5 1 (dk_at dksX2_goesBy_3 8 rfl rfl)
theorem dX2_goesBy_83 : decode cX2_goesBy 83 = .ok (.goto (-61), 3) := dk_167 255 195 (dk_at dksX2_goesBy_3 11 rfl rfl)
theorem dX2_goesBy_86 : decode cX2_goesBy 86 = .ok (.iload 4, 2) := dk_21 4 (dk_at dksX2_goesBy_3 14 rfl rfl)
theorem dX2_goesBy_88 : decode cX2_goesBy 88 = .ok (.ireturn, 1) := dk_172 (dk_at dksX2_goesBy_3 16 rfl rfl)
abbrev cX2_wanting : ByteArray := prog_11_method_24_code
def yX2_wanting : MethodName := ⟨RX2, "wanting", "(I)I"⟩
def dkwX2_wanting_1 : List UInt8 := [182, 0, 117, 158, 0, 9, 4, 29, 120, 167, 0, 4, 3, 128, 61, 132, 3, 1, 167, 255, 219, 28, 172]
abbrev dktX2_wanting_1 : List UInt8 := dkwX2_wanting_1 ++ []
def dkwX2_wanting_0 : List UInt8 := [3, 61, 3, 62, 29, 42, 180, 0, 75, 162, 0, 35, 28, 27, 29, 184, 0, 96, 153, 0, 17, 42, 29]
abbrev dktX2_wanting_0 : List UInt8 := dkwX2_wanting_0 ++ dktX2_wanting_1
theorem dksX2_wanting_0 : cX2_wanting.data.toList.drop 0 = dktX2_wanting_0 := by decide +kernel
theorem dksX2_wanting_1 : cX2_wanting.data.toList.drop 23 = dktX2_wanting_1 := dk_seg dksX2_wanting_0 23 rfl rfl
theorem dX2_wanting_0 : decode cX2_wanting 0 = .ok (.iconst 0, 1) := dk_3 (dk_at dksX2_wanting_0 0 rfl rfl)
theorem dX2_wanting_1 : decode cX2_wanting 1 = .ok (.istore_n 2, 1) := dk_61 (dk_at dksX2_wanting_0 1 rfl rfl)
theorem dX2_wanting_2 : decode cX2_wanting 2 = .ok (.iconst 0, 1) := dk_3 (dk_at dksX2_wanting_0 2 rfl rfl)
theorem dX2_wanting_3 : decode cX2_wanting 3 = .ok (.istore_n 3, 1) := dk_62 (dk_at dksX2_wanting_0 3 rfl rfl)
theorem dX2_wanting_4 : decode cX2_wanting 4 = .ok (.iload_n 3, 1) := dk_29 (dk_at dksX2_wanting_0 4 rfl rfl)
theorem dX2_wanting_5 : decode cX2_wanting 5 = .ok (.aload_n 0, 1) := dk_42 (dk_at dksX2_wanting_0 5 rfl rfl)
theorem dX2_wanting_6 : decode cX2_wanting 6 = .ok (.getfield 75, 3) := dk_180 0 75 (dk_at dksX2_wanting_0 6 rfl rfl)
theorem dX2_wanting_9 : decode cX2_wanting 9 = .ok (.if_icmp .ge 35, 3) := dk_162 0 35 (dk_at dksX2_wanting_0 9 rfl rfl)
theorem dX2_wanting_12 : decode cX2_wanting 12 = .ok (.iload_n 2, 1) := dk_28 (dk_at dksX2_wanting_0 12 rfl rfl)
theorem dX2_wanting_13 : decode cX2_wanting 13 = .ok (.iload_n 1, 1) := dk_27 (dk_at dksX2_wanting_0 13 rfl rfl)
theorem dX2_wanting_14 : decode cX2_wanting 14 = .ok (.iload_n 3, 1) := dk_29 (dk_at dksX2_wanting_0 14 rfl rfl)
theorem dX2_wanting_15 : decode cX2_wanting 15 = .ok (.invokestatic 96, 3) := dk_184 0 96 (dk_at dksX2_wanting_0 15 rfl rfl)
theorem dX2_wanting_18 : decode cX2_wanting 18 = .ok (.ifCond .eq 17, 3) := dk_153 0 17 (dk_at dksX2_wanting_0 18 rfl rfl)
theorem dX2_wanting_21 : decode cX2_wanting 21 = .ok (.aload_n 0, 1) := dk_42 (dk_at dksX2_wanting_0 21 rfl rfl)
theorem dX2_wanting_22 : decode cX2_wanting 22 = .ok (.iload_n 3, 1) := dk_29 (dk_at dksX2_wanting_0 22 rfl rfl)
theorem dX2_wanting_23 : decode cX2_wanting 23 = .ok (.invokevirtual 117, 3) := dk_182 0 117 (dk_at dksX2_wanting_1 0 rfl rfl)
theorem dX2_wanting_26 : decode cX2_wanting 26 = .ok (.ifCond .le 9, 3) := dk_158 0 9 (dk_at dksX2_wanting_1 3 rfl rfl)
theorem dX2_wanting_29 : decode cX2_wanting 29 = .ok (.iconst 1, 1) := dk_4 (dk_at dksX2_wanting_1 6 rfl rfl)
theorem dX2_wanting_30 : decode cX2_wanting 30 = .ok (.iload_n 3, 1) := dk_29 (dk_at dksX2_wanting_1 7 rfl rfl)
theorem dX2_wanting_31 : decode cX2_wanting 31 = .ok (.ishl, 1) := dk_120 (dk_at dksX2_wanting_1 8 rfl rfl)
theorem dX2_wanting_32 : decode cX2_wanting 32 = .ok (.goto 4, 3) := dk_167 0 4 (dk_at dksX2_wanting_1 9 rfl rfl)
theorem dX2_wanting_35 : decode cX2_wanting 35 = .ok (.iconst 0, 1) := dk_3 (dk_at dksX2_wanting_1 12 rfl rfl)
theorem dX2_wanting_36 : decode cX2_wanting 36 = .ok (.ior, 1) := dk_128 (dk_at dksX2_wanting_1 13 rfl rfl)
theorem dX2_wanting_37 : decode cX2_wanting 37 = .ok (.istore_n 2, 1) := dk_61 (dk_at dksX2_wanting_1 14 rfl rfl)
theorem dX2_wanting_38 : decode cX2_wanting 38 = .ok (.iinc 3 1, 3) := dk_132 3 1 (dk_at dksX2_wanting_1 15 rfl rfl)
theorem dX2_wanting_41 : decode cX2_wanting 41 = .ok (.goto (-37), 3) := dk_167 255 219 (dk_at dksX2_wanting_1 18 rfl rfl)
theorem dX2_wanting_44 : decode cX2_wanting 44 = .ok (.iload_n 2, 1) := dk_28 (dk_at dksX2_wanting_1 21 rfl rfl)
theorem dX2_wanting_45 : decode cX2_wanting 45 = .ok (.ireturn, 1) := dk_172 (dk_at dksX2_wanting_1 22 rfl rfl)
abbrev cX2_shafts : ByteArray := prog_11_method_23_code
def yX2_shafts : MethodName := ⟨RX2, "shafts", "(I)I"⟩
def dkwX2_shafts_2 : List UInt8 := [132, 3, 255, 167, 255, 216, 28, 172]
abbrev dktX2_shafts_2 : List UInt8 := dkwX2_shafts_2 ++ []
def dkwX2_shafts_1 : List UInt8 := [180, 0, 13, 29, 46, 2, 159, 0, 14, 4, 42, 180, 0, 13, 29, 46, 120, 167, 0, 4, 3, 128, 61]
abbrev dktX2_shafts_1 : List UInt8 := dkwX2_shafts_1 ++ dktX2_shafts_2
def dkwX2_shafts_0 : List UInt8 := [27, 61, 42, 180, 0, 75, 4, 100, 62, 29, 155, 0, 42, 28, 28, 29, 184, 0, 96, 153, 0, 24, 42]
abbrev dktX2_shafts_0 : List UInt8 := dkwX2_shafts_0 ++ dktX2_shafts_1
theorem dksX2_shafts_0 : cX2_shafts.data.toList.drop 0 = dktX2_shafts_0 := by decide +kernel
theorem dksX2_shafts_1 : cX2_shafts.data.toList.drop 23 = dktX2_shafts_1 := dk_seg dksX2_shafts_0 23 rfl rfl
theorem dksX2_shafts_2 : cX2_shafts.data.toList.drop 46 = dktX2_shafts_2 := dk_seg dksX2_shafts_1 23 rfl rfl
theorem dX2_shafts_0 : decode cX2_shafts 0 = .ok (.iload_n 1, 1) := dk_27 (dk_at dksX2_shafts_0 0 rfl rfl)
theorem dX2_shafts_1 : decode cX2_shafts 1 = .ok (.istore_n 2, 1) := dk_61 (dk_at dksX2_shafts_0 1 rfl rfl)
theorem dX2_shafts_2 : decode cX2_shafts 2 = .ok (.aload_n 0, 1) := dk_42 (dk_at dksX2_shafts_0 2 rfl rfl)
theorem dX2_shafts_3 : decode cX2_shafts 3 = .ok (.getfield 75, 3) := dk_180 0 75 (dk_at dksX2_shafts_0 3 rfl rfl)
theorem dX2_shafts_6 : decode cX2_shafts 6 = .ok (.iconst 1, 1) := dk_4 (dk_at dksX2_shafts_0 6 rfl rfl)
theorem dX2_shafts_7 : decode cX2_shafts 7 = .ok (.isub, 1) := dk_100 (dk_at dksX2_shafts_0 7 rfl rfl)
theorem dX2_shafts_8 : decode cX2_shafts 8 = .ok (.istore_n 3, 1) := dk_62 (dk_at dksX2_shafts_0 8 rfl rfl)
theorem dX2_shafts_9 : decode cX2_shafts 9 = .ok (.iload_n 3, 1) := dk_29 (dk_at dksX2_shafts_0 9 rfl rfl)
theorem dX2_shafts_10 : decode cX2_shafts 10 = .ok (.ifCond .lt 42, 3) := dk_155 0 42 (dk_at dksX2_shafts_0 10 rfl rfl)
theorem dX2_shafts_13 : decode cX2_shafts 13 = .ok (.iload_n 2, 1) := dk_28 (dk_at dksX2_shafts_0 13 rfl rfl)
theorem dX2_shafts_14 : decode cX2_shafts 14 = .ok (.iload_n 2, 1) := dk_28 (dk_at dksX2_shafts_0 14 rfl rfl)
theorem dX2_shafts_15 : decode cX2_shafts 15 = .ok (.iload_n 3, 1) := dk_29 (dk_at dksX2_shafts_0 15 rfl rfl)
theorem dX2_shafts_16 : decode cX2_shafts 16 = .ok (.invokestatic 96, 3) := dk_184 0 96 (dk_at dksX2_shafts_0 16 rfl rfl)
theorem dX2_shafts_19 : decode cX2_shafts 19 = .ok (.ifCond .eq 24, 3) := dk_153 0 24 (dk_at dksX2_shafts_0 19 rfl rfl)
theorem dX2_shafts_22 : decode cX2_shafts 22 = .ok (.aload_n 0, 1) := dk_42 (dk_at dksX2_shafts_0 22 rfl rfl)
theorem dX2_shafts_23 : decode cX2_shafts 23 = .ok (.getfield 13, 3) := dk_180 0 13 (dk_at dksX2_shafts_1 0 rfl rfl)
theorem dX2_shafts_26 : decode cX2_shafts 26 = .ok (.iload_n 3, 1) := dk_29 (dk_at dksX2_shafts_1 3 rfl rfl)
theorem dX2_shafts_27 : decode cX2_shafts 27 = .ok (.iaload, 1) := dk_46 (dk_at dksX2_shafts_1 4 rfl rfl)
theorem dX2_shafts_28 : decode cX2_shafts 28 = .ok (.iconst (-1), 1) := dk_2 (dk_at dksX2_shafts_1 5 rfl rfl)
theorem dX2_shafts_29 : decode cX2_shafts 29 = .ok (.if_icmp .eq 14, 3) := dk_159 0 14 (dk_at dksX2_shafts_1 6 rfl rfl)
theorem dX2_shafts_32 : decode cX2_shafts 32 = .ok (.iconst 1, 1) := dk_4 (dk_at dksX2_shafts_1 9 rfl rfl)
theorem dX2_shafts_33 : decode cX2_shafts 33 = .ok (.aload_n 0, 1) := dk_42 (dk_at dksX2_shafts_1 10 rfl rfl)
theorem dX2_shafts_34 : decode cX2_shafts 34 = .ok (.getfield 13, 3) := dk_180 0 13 (dk_at dksX2_shafts_1 11 rfl rfl)
theorem dX2_shafts_37 : decode cX2_shafts 37 = .ok (.iload_n 3, 1) := dk_29 (dk_at dksX2_shafts_1 14 rfl rfl)
theorem dX2_shafts_38 : decode cX2_shafts 38 = .ok (.iaload, 1) := dk_46 (dk_at dksX2_shafts_1 15 rfl rfl)
theorem dX2_shafts_39 : decode cX2_shafts 39 = .ok (.ishl, 1) := dk_120 (dk_at dksX2_shafts_1 16 rfl rfl)
theorem dX2_shafts_40 : decode cX2_shafts 40 = .ok (.goto 4, 3) := dk_167 0 4 (dk_at dksX2_shafts_1 17 rfl rfl)
theorem dX2_shafts_43 : decode cX2_shafts 43 = .ok (.iconst 0, 1) := dk_3 (dk_at dksX2_shafts_1 20 rfl rfl)
theorem dX2_shafts_44 : decode cX2_shafts 44 = .ok (.ior, 1) := dk_128 (dk_at dksX2_shafts_1 21 rfl rfl)
theorem dX2_shafts_45 : decode cX2_shafts 45 = .ok (.istore_n 2, 1) := dk_61 (dk_at dksX2_shafts_1 22 rfl rfl)
theorem dX2_shafts_46 : decode cX2_shafts 46 = .ok (.iinc 3 (-1), 3) := dk_132 3 255 (dk_at dksX2_shafts_2 0 rfl rfl)
theorem dX2_shafts_49 : decode cX2_shafts 49 = .ok (.goto (-40), 3) := dk_167 255 216 (dk_at dksX2_shafts_2 3 rfl rfl)
theorem dX2_shafts_52 : decode cX2_shafts 52 = .ok (.iload_n 2, 1) := dk_28 (dk_at dksX2_shafts_2 6 rfl rfl)
theorem dX2_shafts_53 : decode cX2_shafts 53 = .ok (.ireturn, 1) := dk_172 (dk_at dksX2_shafts_2 7 rfl rfl)
abbrev cX2_takesBy : ByteArray := prog_11_method_25_code
def yX2_takesBy : MethodName := ⟨RX2, "takesBy", "(I)I"⟩
def dkwX2_takesBy_1 : List UInt8 := [182, 0, 117, 167, 0, 4, 3, 96, 61, 132, 3, 1, 167, 255, 225, 28, 172]
abbrev dktX2_takesBy_1 : List UInt8 := dkwX2_takesBy_1 ++ []
def dkwX2_takesBy_0 : List UInt8 := [3, 61, 3, 62, 29, 42, 180, 0, 75, 162, 0, 29, 28, 27, 29, 184, 0, 96, 153, 0, 11, 42, 29]
abbrev dktX2_takesBy_0 : List UInt8 := dkwX2_takesBy_0 ++ dktX2_takesBy_1
theorem dksX2_takesBy_0 : cX2_takesBy.data.toList.drop 0 = dktX2_takesBy_0 := by decide +kernel
theorem dksX2_takesBy_1 : cX2_takesBy.data.toList.drop 23 = dktX2_takesBy_1 := dk_seg dksX2_takesBy_0 23 rfl rfl
theorem dX2_takesBy_0 : decode cX2_takesBy 0 = .ok (.iconst 0, 1) := dk_3 (dk_at dksX2_takesBy_0 0 rfl rfl)
theorem dX2_takesBy_1 : decode cX2_takesBy 1 = .ok (.istore_n 2, 1) := dk_61 (dk_at dksX2_takesBy_0 1 rfl rfl)
theorem dX2_takesBy_2 : decode cX2_takesBy 2 = .ok (.iconst 0, 1) := dk_3 (dk_at dksX2_takesBy_0 2 rfl rfl)
theorem dX2_takesBy_3 : decode cX2_takesBy 3 = .ok (.istore_n 3, 1) := dk_62 (dk_at dksX2_takesBy_0 3 rfl rfl)
theorem dX2_takesBy_4 : decode cX2_takesBy 4 = .ok (.iload_n 3, 1) := dk_29 (dk_at dksX2_takesBy_0 4 rfl rfl)
theorem dX2_takesBy_5 : decode cX2_takesBy 5 = .ok (.aload_n 0, 1) := dk_42 (dk_at dksX2_takesBy_0 5 rfl rfl)
theorem dX2_takesBy_6 : decode cX2_takesBy 6 = .ok (.getfield 75, 3) := dk_180 0 75 (dk_at dksX2_takesBy_0 6 rfl rfl)
theorem dX2_takesBy_9 : decode cX2_takesBy 9 = .ok (.if_icmp .ge 29, 3) := dk_162 0 29 (dk_at dksX2_takesBy_0 9 rfl rfl)
theorem dX2_takesBy_12 : decode cX2_takesBy 12 = .ok (.iload_n 2, 1) := dk_28 (dk_at dksX2_takesBy_0 12 rfl rfl)
theorem dX2_takesBy_13 : decode cX2_takesBy 13 = .ok (.iload_n 1, 1) := dk_27 (dk_at dksX2_takesBy_0 13 rfl rfl)
theorem dX2_takesBy_14 : decode cX2_takesBy 14 = .ok (.iload_n 3, 1) := dk_29 (dk_at dksX2_takesBy_0 14 rfl rfl)
theorem dX2_takesBy_15 : decode cX2_takesBy 15 = .ok (.invokestatic 96, 3) := dk_184 0 96 (dk_at dksX2_takesBy_0 15 rfl rfl)
theorem dX2_takesBy_18 : decode cX2_takesBy 18 = .ok (.ifCond .eq 11, 3) := dk_153 0 11 (dk_at dksX2_takesBy_0 18 rfl rfl)
theorem dX2_takesBy_21 : decode cX2_takesBy 21 = .ok (.aload_n 0, 1) := dk_42 (dk_at dksX2_takesBy_0 21 rfl rfl)
theorem dX2_takesBy_22 : decode cX2_takesBy 22 = .ok (.iload_n 3, 1) := dk_29 (dk_at dksX2_takesBy_0 22 rfl rfl)
theorem dX2_takesBy_23 : decode cX2_takesBy 23 = .ok (.invokevirtual 117, 3) := dk_182 0 117 (dk_at dksX2_takesBy_1 0 rfl rfl)
theorem dX2_takesBy_26 : decode cX2_takesBy 26 = .ok (.goto 4, 3) := dk_167 0 4 (dk_at dksX2_takesBy_1 3 rfl rfl)
theorem dX2_takesBy_29 : decode cX2_takesBy 29 = .ok (.iconst 0, 1) := dk_3 (dk_at dksX2_takesBy_1 6 rfl rfl)
theorem dX2_takesBy_30 : decode cX2_takesBy 30 = .ok (.iadd, 1) := dk_96 (dk_at dksX2_takesBy_1 7 rfl rfl)
theorem dX2_takesBy_31 : decode cX2_takesBy 31 = .ok (.istore_n 2, 1) := dk_61 (dk_at dksX2_takesBy_1 8 rfl rfl)
theorem dX2_takesBy_32 : decode cX2_takesBy 32 = .ok (.iinc 3 1, 3) := dk_132 3 1 (dk_at dksX2_takesBy_1 9 rfl rfl)
theorem dX2_takesBy_35 : decode cX2_takesBy 35 = .ok (.goto (-31), 3) := dk_167 255 225 (dk_at dksX2_takesBy_1 12 rfl rfl)
theorem dX2_takesBy_38 : decode cX2_takesBy 38 = .ok (.iload_n 2, 1) := dk_28 (dk_at dksX2_takesBy_1 15 rfl rfl)
theorem dX2_takesBy_39 : decode cX2_takesBy 39 = .ok (.ireturn, 1) := dk_172 (dk_at dksX2_takesBy_1 16 rfl rfl)
abbrev cX2_hour : ByteArray := prog_11_method_32_code
def yX2_hour : MethodName := ⟨RX2, "hour", "()I"⟩
def dkwX2_hour_0 : List UInt8 := [42, 182, 0, 144, 153, 0, 8, 16, 153, 167, 0, 7, 42, 182, 0, 148, 172]
abbrev dktX2_hour_0 : List UInt8 := dkwX2_hour_0 ++ []
theorem dksX2_hour_0 : cX2_hour.data.toList.drop 0 = dktX2_hour_0 := by decide +kernel
theorem dX2_hour_0 : decode cX2_hour 0 = .ok (.aload_n 0, 1) := dk_42 (dk_at dksX2_hour_0 0 rfl rfl)
theorem dX2_hour_1 : decode cX2_hour 1 = .ok (.invokevirtual 144, 3) := dk_182 0 144 (dk_at dksX2_hour_0 1 rfl rfl)
theorem dX2_hour_4 : decode cX2_hour 4 = .ok (.ifCond .eq 8, 3) := dk_153 0 8 (dk_at dksX2_hour_0 4 rfl rfl)
theorem dX2_hour_7 : decode cX2_hour 7 = .ok (.bipush (-103), 2) := dk_16 153 (dk_at dksX2_hour_0 7 rfl rfl)
theorem dX2_hour_9 : decode cX2_hour 9 = .ok (.goto 7, 3) := dk_167 0 7 (dk_at dksX2_hour_0 9 rfl rfl)
theorem dX2_hour_12 : decode cX2_hour 12 = .ok (.aload_n 0, 1) := dk_42 (dk_at dksX2_hour_0 12 rfl rfl)
theorem dX2_hour_13 : decode cX2_hour 13 = .ok (.invokevirtual 148, 3) := dk_182 0 148 (dk_at dksX2_hour_0 13 rfl rfl)
theorem dX2_hour_16 : decode cX2_hour 16 = .ok (.ireturn, 1) := dk_172 (dk_at dksX2_hour_0 16 rfl rfl)
abbrev cX2_isOver : ByteArray := prog_11_method_30_code
def yX2_isOver : MethodName := ⟨RX2, "isOver", "()Z"⟩
def dkwX2_isOver_0 : List UInt8 := [42, 180, 0, 90, 16, 9, 162, 0, 10, 42, 180, 0, 135, 153, 0, 7, 4, 167, 0, 4, 3, 172]
abbrev dktX2_isOver_0 : List UInt8 := dkwX2_isOver_0 ++ []
theorem dksX2_isOver_0 : cX2_isOver.data.toList.drop 0 = dktX2_isOver_0 := by decide +kernel
theorem dX2_isOver_0 : decode cX2_isOver 0 = .ok (.aload_n 0, 1) := dk_42 (dk_at dksX2_isOver_0 0 rfl rfl)
theorem dX2_isOver_1 : decode cX2_isOver 1 = .ok (.getfield 90, 3) := dk_180 0 90 (dk_at dksX2_isOver_0 1 rfl rfl)
theorem dX2_isOver_4 : decode cX2_isOver 4 = .ok (.bipush 9, 2) := dk_16 9 (dk_at dksX2_isOver_0 4 rfl rfl)
theorem dX2_isOver_6 : decode cX2_isOver 6 = .ok (.if_icmp .ge 10, 3) := dk_162 0 10 (dk_at dksX2_isOver_0 6 rfl rfl)
theorem dX2_isOver_9 : decode cX2_isOver 9 = .ok (.aload_n 0, 1) := dk_42 (dk_at dksX2_isOver_0 9 rfl rfl)
theorem dX2_isOver_10 : decode cX2_isOver 10 = .ok (.getfield 135, 3) := dk_180 0 135 (dk_at dksX2_isOver_0 10 rfl rfl)
theorem dX2_isOver_13 : decode cX2_isOver 13 = .ok (.ifCond .eq 7, 3) := dk_153 0 7 (dk_at dksX2_isOver_0 13 rfl rfl)
theorem dX2_isOver_16 : decode cX2_isOver 16 = .ok (.iconst 1, 1) := dk_4 (dk_at dksX2_isOver_0 16 rfl rfl)
theorem dX2_isOver_17 : decode cX2_isOver 17 = .ok (.goto 4, 3) := dk_167 0 4 (dk_at dksX2_isOver_0 17 rfl rfl)
theorem dX2_isOver_20 : decode cX2_isOver 20 = .ok (.iconst 0, 1) := dk_3 (dk_at dksX2_isOver_0 20 rfl rfl)
theorem dX2_isOver_21 : decode cX2_isOver 21 = .ok (.ireturn, 1) := dk_172 (dk_at dksX2_isOver_0 21 rfl rfl)
abbrev cX2_goHour : ByteArray := prog_11_method_31_code
def yX2_goHour : MethodName := ⟨RX2, "goHour", "()I"⟩
def dkwX2_goHour_6 : List UInt8 := [181, 0, 114, 42, 89, 180, 0, 90, 4, 96, 181, 0, 90, 28, 172]
abbrev dktX2_goHour_6 : List UInt8 := dkwX2_goHour_6 ++ []
def dkwX2_goHour_5 : List UInt8 := [167, 0, 4, 3, 96, 79, 132, 4, 1, 167, 255, 215, 42, 89, 180, 0, 38, 28, 100, 181, 0, 38, 42, 27]
abbrev dktX2_goHour_5 : List UInt8 := dkwX2_goHour_5 ++ dktX2_goHour_6
def dkwX2_goHour_4 : List UInt8 := [180, 0, 28, 21, 4, 92, 46, 27, 21, 4, 184, 0, 96, 153, 0, 12, 42, 21, 4, 182, 0, 117]
abbrev dktX2_goHour_4 : List UInt8 := dkwX2_goHour_4 ++ dktX2_goHour_5
def dkwX2_goHour_3 : List UInt8 := [180, 0, 141, 28, 29, 100, 96, 181, 0, 141, 3, 54, 4, 21, 4, 42, 180, 0, 75, 162, 0, 38, 42]
abbrev dktX2_goHour_3 : List UInt8 := dkwX2_goHour_3 ++ dktX2_goHour_4
def dkwX2_goHour_2 : List UInt8 := [181, 0, 114, 42, 89, 180, 0, 90, 4, 96, 181, 0, 90, 29, 172, 42, 27, 182, 0, 126, 62, 42, 89]
abbrev dktX2_goHour_2 : List UInt8 := dkwX2_goHour_2 ++ dktX2_goHour_3
def dkwX2_goHour_1 : List UInt8 := [42, 89, 180, 0, 141, 29, 96, 181, 0, 141, 42, 3, 181, 0, 38, 42, 4, 181, 0, 135, 42, 3]
abbrev dktX2_goHour_1 : List UInt8 := dkwX2_goHour_1 ++ dktX2_goHour_2
def dkwX2_goHour_0 : List UInt8 := [42, 182, 0, 138, 60, 42, 27, 182, 0, 132, 61, 28, 42, 180, 0, 38, 164, 0, 45, 42, 180, 0, 38, 62]
abbrev dktX2_goHour_0 : List UInt8 := dkwX2_goHour_0 ++ dktX2_goHour_1
theorem dksX2_goHour_0 : cX2_goHour.data.toList.drop 0 = dktX2_goHour_0 := by decide +kernel
theorem dksX2_goHour_1 : cX2_goHour.data.toList.drop 24 = dktX2_goHour_1 := dk_seg dksX2_goHour_0 24 rfl rfl
theorem dksX2_goHour_2 : cX2_goHour.data.toList.drop 46 = dktX2_goHour_2 := dk_seg dksX2_goHour_1 22 rfl rfl
theorem dksX2_goHour_3 : cX2_goHour.data.toList.drop 69 = dktX2_goHour_3 := dk_seg dksX2_goHour_2 23 rfl rfl
theorem dksX2_goHour_4 : cX2_goHour.data.toList.drop 92 = dktX2_goHour_4 := dk_seg dksX2_goHour_3 23 rfl rfl
theorem dksX2_goHour_5 : cX2_goHour.data.toList.drop 114 = dktX2_goHour_5 := dk_seg dksX2_goHour_4 22 rfl rfl
theorem dksX2_goHour_6 : cX2_goHour.data.toList.drop 138 = dktX2_goHour_6 := dk_seg dksX2_goHour_5 24 rfl rfl
theorem dX2_goHour_0 : decode cX2_goHour 0 = .ok (.aload_n 0, 1) := dk_42 (dk_at dksX2_goHour_0 0 rfl rfl)
theorem dX2_goHour_1 : decode cX2_goHour 1 = .ok (.invokevirtual 138, 3) := dk_182 0 138 (dk_at dksX2_goHour_0 1 rfl rfl)
theorem dX2_goHour_4 : decode cX2_goHour 4 = .ok (.istore_n 1, 1) := dk_60 (dk_at dksX2_goHour_0 4 rfl rfl)
theorem dX2_goHour_5 : decode cX2_goHour 5 = .ok (.aload_n 0, 1) := dk_42 (dk_at dksX2_goHour_0 5 rfl rfl)
theorem dX2_goHour_6 : decode cX2_goHour 6 = .ok (.iload_n 1, 1) := dk_27 (dk_at dksX2_goHour_0 6 rfl rfl)
theorem dX2_goHour_7 : decode cX2_goHour 7 = .ok (.invokevirtual 132, 3) := dk_182 0 132 (dk_at dksX2_goHour_0 7 rfl rfl)
theorem dX2_goHour_10 : decode cX2_goHour 10 = .ok (.istore_n 2, 1) := dk_61 (dk_at dksX2_goHour_0 10 rfl rfl)
theorem dX2_goHour_11 : decode cX2_goHour 11 = .ok (.iload_n 2, 1) := dk_28 (dk_at dksX2_goHour_0 11 rfl rfl)
theorem dX2_goHour_12 : decode cX2_goHour 12 = .ok (.aload_n 0, 1) := dk_42 (dk_at dksX2_goHour_0 12 rfl rfl)
theorem dX2_goHour_13 : decode cX2_goHour 13 = .ok (.getfield 38, 3) := dk_180 0 38 (dk_at dksX2_goHour_0 13 rfl rfl)
theorem dX2_goHour_16 : decode cX2_goHour 16 = .ok (.if_icmp .le 45, 3) := dk_164 0 45 (dk_at dksX2_goHour_0 16 rfl rfl)
theorem dX2_goHour_19 : decode cX2_goHour 19 = .ok (.aload_n 0, 1) := dk_42 (dk_at dksX2_goHour_0 19 rfl rfl)
theorem dX2_goHour_20 : decode cX2_goHour 20 = .ok (.getfield 38, 3) := dk_180 0 38 (dk_at dksX2_goHour_0 20 rfl rfl)
theorem dX2_goHour_23 : decode cX2_goHour 23 = .ok (.istore_n 3, 1) := dk_62 (dk_at dksX2_goHour_0 23 rfl rfl)
theorem dX2_goHour_24 : decode cX2_goHour 24 = .ok (.aload_n 0, 1) := dk_42 (dk_at dksX2_goHour_1 0 rfl rfl)
theorem dX2_goHour_25 : decode cX2_goHour 25 = .ok (.dup, 1) := dk_89 (dk_at dksX2_goHour_1 1 rfl rfl)
theorem dX2_goHour_26 : decode cX2_goHour 26 = .ok (.getfield 141, 3) := dk_180 0 141 (dk_at dksX2_goHour_1 2 rfl rfl)
theorem dX2_goHour_29 : decode cX2_goHour 29 = .ok (.iload_n 3, 1) := dk_29 (dk_at dksX2_goHour_1 5 rfl rfl)
theorem dX2_goHour_30 : decode cX2_goHour 30 = .ok (.iadd, 1) := dk_96 (dk_at dksX2_goHour_1 6 rfl rfl)
theorem dX2_goHour_31 : decode cX2_goHour 31 = .ok (.putfield 141, 3) := dk_181 0 141 (dk_at dksX2_goHour_1 7 rfl rfl)
theorem dX2_goHour_34 : decode cX2_goHour 34 = .ok (.aload_n 0, 1) := dk_42 (dk_at dksX2_goHour_1 10 rfl rfl)
theorem dX2_goHour_35 : decode cX2_goHour 35 = .ok (.iconst 0, 1) := dk_3 (dk_at dksX2_goHour_1 11 rfl rfl)
theorem dX2_goHour_36 : decode cX2_goHour 36 = .ok (.putfield 38, 3) := dk_181 0 38 (dk_at dksX2_goHour_1 12 rfl rfl)
theorem dX2_goHour_39 : decode cX2_goHour 39 = .ok (.aload_n 0, 1) := dk_42 (dk_at dksX2_goHour_1 15 rfl rfl)
theorem dX2_goHour_40 : decode cX2_goHour 40 = .ok (.iconst 1, 1) := dk_4 (dk_at dksX2_goHour_1 16 rfl rfl)
theorem dX2_goHour_41 : decode cX2_goHour 41 = .ok (.putfield 135, 3) := dk_181 0 135 (dk_at dksX2_goHour_1 17 rfl rfl)
theorem dX2_goHour_44 : decode cX2_goHour 44 = .ok (.aload_n 0, 1) := dk_42 (dk_at dksX2_goHour_1 20 rfl rfl)
theorem dX2_goHour_45 : decode cX2_goHour 45 = .ok (.iconst 0, 1) := dk_3 (dk_at dksX2_goHour_1 21 rfl rfl)
theorem dX2_goHour_46 : decode cX2_goHour 46 = .ok (.putfield 114, 3) := dk_181 0 114 (dk_at dksX2_goHour_2 0 rfl rfl)
theorem dX2_goHour_49 : decode cX2_goHour 49 = .ok (.aload_n 0, 1) := dk_42 (dk_at dksX2_goHour_2 3 rfl rfl)
theorem dX2_goHour_50 : decode cX2_goHour 50 = .ok (.dup, 1) := dk_89 (dk_at dksX2_goHour_2 4 rfl rfl)
theorem dX2_goHour_51 : decode cX2_goHour 51 = .ok (.getfield 90, 3) := dk_180 0 90 (dk_at dksX2_goHour_2 5 rfl rfl)
theorem dX2_goHour_54 : decode cX2_goHour 54 = .ok (.iconst 1, 1) := dk_4 (dk_at dksX2_goHour_2 8 rfl rfl)
theorem dX2_goHour_55 : decode cX2_goHour 55 = .ok (.iadd, 1) := dk_96 (dk_at dksX2_goHour_2 9 rfl rfl)
theorem dX2_goHour_56 : decode cX2_goHour 56 = .ok (.putfield 90, 3) := dk_181 0 90 (dk_at dksX2_goHour_2 10 rfl rfl)
theorem dX2_goHour_59 : decode cX2_goHour 59 = .ok (.iload_n 3, 1) := dk_29 (dk_at dksX2_goHour_2 13 rfl rfl)
theorem dX2_goHour_60 : decode cX2_goHour 60 = .ok (.ireturn, 1) := dk_172 (dk_at dksX2_goHour_2 14 rfl rfl)
theorem dX2_goHour_61 : decode cX2_goHour 61 = .ok (.aload_n 0, 1) := dk_42 (dk_at dksX2_goHour_2 15 rfl rfl)
theorem dX2_goHour_62 : decode cX2_goHour 62 = .ok (.iload_n 1, 1) := dk_27 (dk_at dksX2_goHour_2 16 rfl rfl)
theorem dX2_goHour_63 : decode cX2_goHour 63 = .ok (.invokevirtual 126, 3) := dk_182 0 126 (dk_at dksX2_goHour_2 17 rfl rfl)
theorem dX2_goHour_66 : decode cX2_goHour 66 = .ok (.istore_n 3, 1) := dk_62 (dk_at dksX2_goHour_2 20 rfl rfl)
theorem dX2_goHour_67 : decode cX2_goHour 67 = .ok (.aload_n 0, 1) := dk_42 (dk_at dksX2_goHour_2 21 rfl rfl)
theorem dX2_goHour_68 : decode cX2_goHour 68 = .ok (.dup, 1) := dk_89 (dk_at dksX2_goHour_2 22 rfl rfl)
theorem dX2_goHour_69 : decode cX2_goHour 69 = .ok (.getfield 141, 3) := dk_180 0 141 (dk_at dksX2_goHour_3 0 rfl rfl)
theorem dX2_goHour_72 : decode cX2_goHour 72 = .ok (.iload_n 2, 1) := dk_28 (dk_at dksX2_goHour_3 3 rfl rfl)
theorem dX2_goHour_73 : decode cX2_goHour 73 = .ok (.iload_n 3, 1) := dk_29 (dk_at dksX2_goHour_3 4 rfl rfl)
theorem dX2_goHour_74 : decode cX2_goHour 74 = .ok (.isub, 1) := dk_100 (dk_at dksX2_goHour_3 5 rfl rfl)
theorem dX2_goHour_75 : decode cX2_goHour 75 = .ok (.iadd, 1) := dk_96 (dk_at dksX2_goHour_3 6 rfl rfl)
theorem dX2_goHour_76 : decode cX2_goHour 76 = .ok (.putfield 141, 3) := dk_181 0 141 (dk_at dksX2_goHour_3 7 rfl rfl)
theorem dX2_goHour_79 : decode cX2_goHour 79 = .ok (.iconst 0, 1) := dk_3 (dk_at dksX2_goHour_3 10 rfl rfl)
theorem dX2_goHour_80 : decode cX2_goHour 80 = .ok (.istore 4, 2) := dk_54 4 (dk_at dksX2_goHour_3 11 rfl rfl)
theorem dX2_goHour_82 : decode cX2_goHour 82 = .ok (.iload 4, 2) := dk_21 4 (dk_at dksX2_goHour_3 13 rfl rfl)
theorem dX2_goHour_84 : decode cX2_goHour 84 = .ok (.aload_n 0, 1) := dk_42 (dk_at dksX2_goHour_3 15 rfl rfl)
theorem dX2_goHour_85 : decode cX2_goHour 85 = .ok (.getfield 75, 3) := dk_180 0 75 (dk_at dksX2_goHour_3 16 rfl rfl)
theorem dX2_goHour_88 : decode cX2_goHour 88 = .ok (.if_icmp .ge 38, 3) := dk_162 0 38 (dk_at dksX2_goHour_3 19 rfl rfl)
theorem dX2_goHour_91 : decode cX2_goHour 91 = .ok (.aload_n 0, 1) := dk_42 (dk_at dksX2_goHour_3 22 rfl rfl)
theorem dX2_goHour_92 : decode cX2_goHour 92 = .ok (.getfield 28, 3) := dk_180 0 28 (dk_at dksX2_goHour_4 0 rfl rfl)
theorem dX2_goHour_95 : decode cX2_goHour 95 = .ok (.iload 4, 2) := dk_21 4 (dk_at dksX2_goHour_4 3 rfl rfl)
theorem dX2_goHour_97 : decode cX2_goHour 97 = .ok (.dup2, 1) := dk_92 (dk_at dksX2_goHour_4 5 rfl rfl)
theorem dX2_goHour_98 : decode cX2_goHour 98 = .ok (.iaload, 1) := dk_46 (dk_at dksX2_goHour_4 6 rfl rfl)
theorem dX2_goHour_99 : decode cX2_goHour 99 = .ok (.iload_n 1, 1) := dk_27 (dk_at dksX2_goHour_4 7 rfl rfl)
theorem dX2_goHour_100 : decode cX2_goHour 100 = .ok (.iload 4, 2) := dk_21 4 (dk_at dksX2_goHour_4 8 rfl rfl)
theorem dX2_goHour_102 : decode cX2_goHour 102 = .ok (.invokestatic 96, 3) := dk_184 0 96 (dk_at dksX2_goHour_4 10 rfl rfl)
theorem dX2_goHour_105 : decode cX2_goHour 105 = .ok (.ifCond .eq 12, 3) := dk_153 0 12 (dk_at dksX2_goHour_4 13 rfl rfl)
theorem dX2_goHour_108 : decode cX2_goHour 108 = .ok (.aload_n 0, 1) := dk_42 (dk_at dksX2_goHour_4 16 rfl rfl)
theorem dX2_goHour_109 : decode cX2_goHour 109 = .ok (.iload 4, 2) := dk_21 4 (dk_at dksX2_goHour_4 17 rfl rfl)
theorem dX2_goHour_111 : decode cX2_goHour 111 = .ok (.invokevirtual 117, 3) := dk_182 0 117 (dk_at dksX2_goHour_4 19 rfl rfl)
theorem dX2_goHour_114 : decode cX2_goHour 114 = .ok (.goto 4, 3) := dk_167 0 4 (dk_at dksX2_goHour_5 0 rfl rfl)
theorem dX2_goHour_117 : decode cX2_goHour 117 = .ok (.iconst 0, 1) := dk_3 (dk_at dksX2_goHour_5 3 rfl rfl)
theorem dX2_goHour_118 : decode cX2_goHour 118 = .ok (.iadd, 1) := dk_96 (dk_at dksX2_goHour_5 4 rfl rfl)
theorem dX2_goHour_119 : decode cX2_goHour 119 = .ok (.iastore, 1) := dk_79 (dk_at dksX2_goHour_5 5 rfl rfl)
theorem dX2_goHour_120 : decode cX2_goHour 120 = .ok (.iinc 4 1, 3) := dk_132 4 1 (dk_at dksX2_goHour_5 6 rfl rfl)
theorem dX2_goHour_123 : decode cX2_goHour 123 = .ok (.goto (-41), 3) := dk_167 255 215 (dk_at dksX2_goHour_5 9 rfl rfl)
theorem dX2_goHour_126 : decode cX2_goHour 126 = .ok (.aload_n 0, 1) := dk_42 (dk_at dksX2_goHour_5 12 rfl rfl)
theorem dX2_goHour_127 : decode cX2_goHour 127 = .ok (.dup, 1) := dk_89 (dk_at dksX2_goHour_5 13 rfl rfl)
theorem dX2_goHour_128 : decode cX2_goHour 128 = .ok (.getfield 38, 3) := dk_180 0 38 (dk_at dksX2_goHour_5 14 rfl rfl)
theorem dX2_goHour_131 : decode cX2_goHour 131 = .ok (.iload_n 2, 1) := dk_28 (dk_at dksX2_goHour_5 17 rfl rfl)
theorem dX2_goHour_132 : decode cX2_goHour 132 = .ok (.isub, 1) := dk_100 (dk_at dksX2_goHour_5 18 rfl rfl)
theorem dX2_goHour_133 : decode cX2_goHour 133 = .ok (.putfield 38, 3) := dk_181 0 38 (dk_at dksX2_goHour_5 19 rfl rfl)
theorem dX2_goHour_136 : decode cX2_goHour 136 = .ok (.aload_n 0, 1) := dk_42 (dk_at dksX2_goHour_5 22 rfl rfl)
theorem dX2_goHour_137 : decode cX2_goHour 137 = .ok (.iload_n 1, 1) := dk_27 (dk_at dksX2_goHour_5 23 rfl rfl)
theorem dX2_goHour_138 : decode cX2_goHour 138 = .ok (.putfield 114, 3) := dk_181 0 114 (dk_at dksX2_goHour_6 0 rfl rfl)
theorem dX2_goHour_141 : decode cX2_goHour 141 = .ok (.aload_n 0, 1) := dk_42 (dk_at dksX2_goHour_6 3 rfl rfl)
theorem dX2_goHour_142 : decode cX2_goHour 142 = .ok (.dup, 1) := dk_89 (dk_at dksX2_goHour_6 4 rfl rfl)
theorem dX2_goHour_143 : decode cX2_goHour 143 = .ok (.getfield 90, 3) := dk_180 0 90 (dk_at dksX2_goHour_6 5 rfl rfl)
theorem dX2_goHour_146 : decode cX2_goHour 146 = .ok (.iconst 1, 1) := dk_4 (dk_at dksX2_goHour_6 8 rfl rfl)
theorem dX2_goHour_147 : decode cX2_goHour 147 = .ok (.iadd, 1) := dk_96 (dk_at dksX2_goHour_6 9 rfl rfl)
theorem dX2_goHour_148 : decode cX2_goHour 148 = .ok (.putfield 90, 3) := dk_181 0 90 (dk_at dksX2_goHour_6 10 rfl rfl)
theorem dX2_goHour_151 : decode cX2_goHour 151 = .ok (.iload_n 2, 1) := dk_28 (dk_at dksX2_goHour_6 13 rfl rfl)
theorem dX2_goHour_152 : decode cX2_goHour 152 = .ok (.ireturn, 1) := dk_172 (dk_at dksX2_goHour_6 14 rfl rfl)
abbrev cX2_working : ByteArray := prog_11_method_29_code
def yX2_working : MethodName := ⟨RX2, "working", "()I"⟩
def dkwX2_working_3 : List UInt8 := [167, 0, 4, 27, 60, 132, 2, 255, 167, 255, 197, 27, 172]
abbrev dktX2_working_3 : List UInt8 := dkwX2_working_3 ++ []
def dkwX2_working_2 : List UInt8 := [180, 0, 38, 164, 0, 7, 4, 167, 0, 4, 3, 62, 29, 153, 0, 13, 27, 4, 28, 120, 2, 130, 126]
abbrev dktX2_working_2 : List UInt8 := dkwX2_working_2 ++ dktX2_working_3
def dkwX2_working_1 : List UInt8 := [184, 0, 96, 153, 0, 29, 42, 180, 0, 7, 28, 46, 4, 159, 0, 19, 42, 27, 182, 0, 132, 42]
abbrev dktX2_working_1 : List UInt8 := dkwX2_working_1 ++ dktX2_working_2
def dkwX2_working_0 : List UInt8 := [42, 42, 182, 0, 129, 182, 0, 120, 60, 42, 180, 0, 75, 4, 100, 61, 28, 155, 0, 61, 27, 28]
abbrev dktX2_working_0 : List UInt8 := dkwX2_working_0 ++ dktX2_working_1
theorem dksX2_working_0 : cX2_working.data.toList.drop 0 = dktX2_working_0 := by decide +kernel
theorem dksX2_working_1 : cX2_working.data.toList.drop 22 = dktX2_working_1 := dk_seg dksX2_working_0 22 rfl rfl
theorem dksX2_working_2 : cX2_working.data.toList.drop 44 = dktX2_working_2 := dk_seg dksX2_working_1 22 rfl rfl
theorem dksX2_working_3 : cX2_working.data.toList.drop 67 = dktX2_working_3 := dk_seg dksX2_working_2 23 rfl rfl
theorem dX2_working_0 : decode cX2_working 0 = .ok (.aload_n 0, 1) := dk_42 (dk_at dksX2_working_0 0 rfl rfl)
theorem dX2_working_1 : decode cX2_working 1 = .ok (.aload_n 0, 1) := dk_42 (dk_at dksX2_working_0 1 rfl rfl)
theorem dX2_working_2 : decode cX2_working 2 = .ok (.invokevirtual 129, 3) := dk_182 0 129 (dk_at dksX2_working_0 2 rfl rfl)
theorem dX2_working_5 : decode cX2_working 5 = .ok (.invokevirtual 120, 3) := dk_182 0 120 (dk_at dksX2_working_0 5 rfl rfl)
theorem dX2_working_8 : decode cX2_working 8 = .ok (.istore_n 1, 1) := dk_60 (dk_at dksX2_working_0 8 rfl rfl)
theorem dX2_working_9 : decode cX2_working 9 = .ok (.aload_n 0, 1) := dk_42 (dk_at dksX2_working_0 9 rfl rfl)
theorem dX2_working_10 : decode cX2_working 10 = .ok (.getfield 75, 3) := dk_180 0 75 (dk_at dksX2_working_0 10 rfl rfl)
theorem dX2_working_13 : decode cX2_working 13 = .ok (.iconst 1, 1) := dk_4 (dk_at dksX2_working_0 13 rfl rfl)
theorem dX2_working_14 : decode cX2_working 14 = .ok (.isub, 1) := dk_100 (dk_at dksX2_working_0 14 rfl rfl)
theorem dX2_working_15 : decode cX2_working 15 = .ok (.istore_n 2, 1) := dk_61 (dk_at dksX2_working_0 15 rfl rfl)
theorem dX2_working_16 : decode cX2_working 16 = .ok (.iload_n 2, 1) := dk_28 (dk_at dksX2_working_0 16 rfl rfl)
theorem dX2_working_17 : decode cX2_working 17 = .ok (.ifCond .lt 61, 3) := dk_155 0 61 (dk_at dksX2_working_0 17 rfl rfl)
theorem dX2_working_20 : decode cX2_working 20 = .ok (.iload_n 1, 1) := dk_27 (dk_at dksX2_working_0 20 rfl rfl)
theorem dX2_working_21 : decode cX2_working 21 = .ok (.iload_n 2, 1) := dk_28 (dk_at dksX2_working_0 21 rfl rfl)
theorem dX2_working_22 : decode cX2_working 22 = .ok (.invokestatic 96, 3) := dk_184 0 96 (dk_at dksX2_working_1 0 rfl rfl)
theorem dX2_working_25 : decode cX2_working 25 = .ok (.ifCond .eq 29, 3) := dk_153 0 29 (dk_at dksX2_working_1 3 rfl rfl)
theorem dX2_working_28 : decode cX2_working 28 = .ok (.aload_n 0, 1) := dk_42 (dk_at dksX2_working_1 6 rfl rfl)
theorem dX2_working_29 : decode cX2_working 29 = .ok (.getfield 7, 3) := dk_180 0 7 (dk_at dksX2_working_1 7 rfl rfl)
theorem dX2_working_32 : decode cX2_working 32 = .ok (.iload_n 2, 1) := dk_28 (dk_at dksX2_working_1 10 rfl rfl)
theorem dX2_working_33 : decode cX2_working 33 = .ok (.iaload, 1) := dk_46 (dk_at dksX2_working_1 11 rfl rfl)
theorem dX2_working_34 : decode cX2_working 34 = .ok (.iconst 1, 1) := dk_4 (dk_at dksX2_working_1 12 rfl rfl)
theorem dX2_working_35 : decode cX2_working 35 = .ok (.if_icmp .eq 19, 3) := dk_159 0 19 (dk_at dksX2_working_1 13 rfl rfl)
theorem dX2_working_38 : decode cX2_working 38 = .ok (.aload_n 0, 1) := dk_42 (dk_at dksX2_working_1 16 rfl rfl)
theorem dX2_working_39 : decode cX2_working 39 = .ok (.iload_n 1, 1) := dk_27 (dk_at dksX2_working_1 17 rfl rfl)
theorem dX2_working_40 : decode cX2_working 40 = .ok (.invokevirtual 132, 3) := dk_182 0 132 (dk_at dksX2_working_1 18 rfl rfl)
theorem dX2_working_43 : decode cX2_working 43 = .ok (.aload_n 0, 1) := dk_42 (dk_at dksX2_working_1 21 rfl rfl)
theorem dX2_working_44 : decode cX2_working 44 = .ok (.getfield 38, 3) := dk_180 0 38 (dk_at dksX2_working_2 0 rfl rfl)
theorem dX2_working_47 : decode cX2_working 47 = .ok (.if_icmp .le 7, 3) := dk_164 0 7 (dk_at dksX2_working_2 3 rfl rfl)
theorem dX2_working_50 : decode cX2_working 50 = .ok (.iconst 1, 1) := dk_4 (dk_at dksX2_working_2 6 rfl rfl)
theorem dX2_working_51 : decode cX2_working 51 = .ok (.goto 4, 3) := dk_167 0 4 (dk_at dksX2_working_2 7 rfl rfl)
theorem dX2_working_54 : decode cX2_working 54 = .ok (.iconst 0, 1) := dk_3 (dk_at dksX2_working_2 10 rfl rfl)
theorem dX2_working_55 : decode cX2_working 55 = .ok (.istore_n 3, 1) := dk_62 (dk_at dksX2_working_2 11 rfl rfl)
theorem dX2_working_56 : decode cX2_working 56 = .ok (.iload_n 3, 1) := dk_29 (dk_at dksX2_working_2 12 rfl rfl)
theorem dX2_working_57 : decode cX2_working 57 = .ok (.ifCond .eq 13, 3) := dk_153 0 13 (dk_at dksX2_working_2 13 rfl rfl)
theorem dX2_working_60 : decode cX2_working 60 = .ok (.iload_n 1, 1) := dk_27 (dk_at dksX2_working_2 16 rfl rfl)
theorem dX2_working_61 : decode cX2_working 61 = .ok (.iconst 1, 1) := dk_4 (dk_at dksX2_working_2 17 rfl rfl)
theorem dX2_working_62 : decode cX2_working 62 = .ok (.iload_n 2, 1) := dk_28 (dk_at dksX2_working_2 18 rfl rfl)
theorem dX2_working_63 : decode cX2_working 63 = .ok (.ishl, 1) := dk_120 (dk_at dksX2_working_2 19 rfl rfl)
theorem dX2_working_64 : decode cX2_working 64 = .ok (.iconst (-1), 1) := dk_2 (dk_at dksX2_working_2 20 rfl rfl)
theorem dX2_working_65 : decode cX2_working 65 = .ok (.ixor, 1) := dk_130 (dk_at dksX2_working_2 21 rfl rfl)
theorem dX2_working_66 : decode cX2_working 66 = .ok (.iand, 1) := dk_126 (dk_at dksX2_working_2 22 rfl rfl)
theorem dX2_working_67 : decode cX2_working 67 = .ok (.goto 4, 3) := dk_167 0 4 (dk_at dksX2_working_3 0 rfl rfl)
theorem dX2_working_70 : decode cX2_working 70 = .ok (.iload_n 1, 1) := dk_27 (dk_at dksX2_working_3 3 rfl rfl)
theorem dX2_working_71 : decode cX2_working 71 = .ok (.istore_n 1, 1) := dk_60 (dk_at dksX2_working_3 4 rfl rfl)
theorem dX2_working_72 : decode cX2_working 72 = .ok (.iinc 2 (-1), 3) := dk_132 2 255 (dk_at dksX2_working_3 5 rfl rfl)
theorem dX2_working_75 : decode cX2_working 75 = .ok (.goto (-59), 3) := dk_167 255 197 (dk_at dksX2_working_3 8 rfl rfl)
theorem dX2_working_78 : decode cX2_working 78 = .ok (.iload_n 1, 1) := dk_27 (dk_at dksX2_working_3 11 rfl rfl)
theorem dX2_working_79 : decode cX2_working 79 = .ok (.ireturn, 1) := dk_172 (dk_at dksX2_working_3 12 rfl rfl)
abbrev cX2_worked : ByteArray := prog_11_method_33_code
def yX2_worked : MethodName := ⟨RX2, "worked", "()I"⟩
theorem dX2_worked_0 : decode cX2_worked 0 = .ok (.aload_n 0, 1) := by decide +kernel
theorem dX2_worked_1 : decode cX2_worked 1 = .ok (.getfield 114, 3) := by decide +kernel
theorem dX2_worked_4 : decode cX2_worked 4 = .ok (.ireturn, 1) := by decide +kernel
abbrev cX2_part : ByteArray := prog_11_method_36_code
def yX2_part : MethodName := ⟨RX2, "part", "(I)I"⟩
def dkwX2_part_0 : List UInt8 := [42, 27, 182, 0, 99, 153, 0, 11, 42, 27, 182, 0, 154, 167, 0, 5, 16, 155, 172]
abbrev dktX2_part_0 : List UInt8 := dkwX2_part_0 ++ []
theorem dksX2_part_0 : cX2_part.data.toList.drop 0 = dktX2_part_0 := by decide +kernel
theorem dX2_part_0 : decode cX2_part 0 = .ok (.aload_n 0, 1) := dk_42 (dk_at dksX2_part_0 0 rfl rfl)
theorem dX2_part_1 : decode cX2_part 1 = .ok (.iload_n 1, 1) := dk_27 (dk_at dksX2_part_0 1 rfl rfl)
theorem dX2_part_2 : decode cX2_part 2 = .ok (.invokevirtual 99, 3) := dk_182 0 99 (dk_at dksX2_part_0 2 rfl rfl)
theorem dX2_part_5 : decode cX2_part 5 = .ok (.ifCond .eq 11, 3) := dk_153 0 11 (dk_at dksX2_part_0 5 rfl rfl)
theorem dX2_part_8 : decode cX2_part 8 = .ok (.aload_n 0, 1) := dk_42 (dk_at dksX2_part_0 8 rfl rfl)
theorem dX2_part_9 : decode cX2_part 9 = .ok (.iload_n 1, 1) := dk_27 (dk_at dksX2_part_0 9 rfl rfl)
theorem dX2_part_10 : decode cX2_part 10 = .ok (.invokevirtual 154, 3) := dk_182 0 154 (dk_at dksX2_part_0 10 rfl rfl)
theorem dX2_part_13 : decode cX2_part 13 = .ok (.goto 5, 3) := dk_167 0 5 (dk_at dksX2_part_0 13 rfl rfl)
theorem dX2_part_16 : decode cX2_part 16 = .ok (.bipush (-101), 2) := dk_16 155 (dk_at dksX2_part_0 16 rfl rfl)
theorem dX2_part_18 : decode cX2_part 18 = .ok (.ireturn, 1) := dk_172 (dk_at dksX2_part_0 18 rfl rfl)
abbrev cX2_partOf : ByteArray := prog_11_method_35_code
def yX2_partOf : MethodName := ⟨RX2, "partOf", "(I)I"⟩
def dkwX2_partOf_6 : List UInt8 := [172]
abbrev dktX2_partOf_6 : List UInt8 := dkwX2_partOf_6 ++ []
def dkwX2_partOf_5 : List UInt8 := [42, 180, 0, 28, 27, 46, 104, 28, 108, 21, 5, 29, 21, 4, 100, 162, 0, 7, 4, 167, 0, 4, 3, 96]
abbrev dktX2_partOf_5 : List UInt8 := dkwX2_partOf_5 ++ dktX2_partOf_6
def dkwX2_partOf_4 : List UInt8 := [160, 0, 13, 21, 6, 27, 162, 0, 7, 4, 167, 0, 4, 3, 96, 54, 5, 132, 6, 1, 167, 255, 173, 29]
abbrev dktX2_partOf_4 : List UInt8 := dkwX2_partOf_4 ++ dktX2_partOf_5
def dkwX2_partOf_3 : List UInt8 := [180, 0, 28, 27, 46, 104, 28, 112, 54, 8, 21, 5, 21, 7, 21, 8, 163, 0, 16, 21, 7, 21, 8]
abbrev dktX2_partOf_3 : List UInt8 := dkwX2_partOf_3 ++ dktX2_partOf_4
def dkwX2_partOf_2 : List UInt8 := [46, 104, 28, 108, 96, 54, 4, 29, 42, 180, 0, 28, 21, 6, 46, 104, 28, 112, 54, 7, 29, 42]
abbrev dktX2_partOf_2 : List UInt8 := dkwX2_partOf_2 ++ dktX2_partOf_3
def dkwX2_partOf_1 : List UInt8 := [3, 54, 5, 3, 54, 6, 21, 6, 42, 180, 0, 75, 162, 0, 80, 21, 4, 29, 42, 180, 0, 28, 21, 6]
abbrev dktX2_partOf_1 : List UInt8 := dkwX2_partOf_1 ++ dktX2_partOf_2
def dkwX2_partOf_0 : List UInt8 := [42, 182, 0, 151, 61, 42, 180, 0, 34, 42, 180, 0, 38, 100, 62, 28, 154, 0, 5, 3, 172, 3, 54, 4]
abbrev dktX2_partOf_0 : List UInt8 := dkwX2_partOf_0 ++ dktX2_partOf_1
theorem dksX2_partOf_0 : cX2_partOf.data.toList.drop 0 = dktX2_partOf_0 := by decide +kernel
theorem dksX2_partOf_1 : cX2_partOf.data.toList.drop 24 = dktX2_partOf_1 := dk_seg dksX2_partOf_0 24 rfl rfl
theorem dksX2_partOf_2 : cX2_partOf.data.toList.drop 48 = dktX2_partOf_2 := dk_seg dksX2_partOf_1 24 rfl rfl
theorem dksX2_partOf_3 : cX2_partOf.data.toList.drop 70 = dktX2_partOf_3 := dk_seg dksX2_partOf_2 22 rfl rfl
theorem dksX2_partOf_4 : cX2_partOf.data.toList.drop 93 = dktX2_partOf_4 := dk_seg dksX2_partOf_3 23 rfl rfl
theorem dksX2_partOf_5 : cX2_partOf.data.toList.drop 117 = dktX2_partOf_5 := dk_seg dksX2_partOf_4 24 rfl rfl
theorem dksX2_partOf_6 : cX2_partOf.data.toList.drop 141 = dktX2_partOf_6 := dk_seg dksX2_partOf_5 24 rfl rfl
theorem dX2_partOf_0 : decode cX2_partOf 0 = .ok (.aload_n 0, 1) := dk_42 (dk_at dksX2_partOf_0 0 rfl rfl)
theorem dX2_partOf_1 : decode cX2_partOf 1 = .ok (.invokevirtual 151, 3) := dk_182 0 151 (dk_at dksX2_partOf_0 1 rfl rfl)
theorem dX2_partOf_4 : decode cX2_partOf 4 = .ok (.istore_n 2, 1) := dk_61 (dk_at dksX2_partOf_0 4 rfl rfl)
theorem dX2_partOf_5 : decode cX2_partOf 5 = .ok (.aload_n 0, 1) := dk_42 (dk_at dksX2_partOf_0 5 rfl rfl)
theorem dX2_partOf_6 : decode cX2_partOf 6 = .ok (.getfield 34, 3) := dk_180 0 34 (dk_at dksX2_partOf_0 6 rfl rfl)
theorem dX2_partOf_9 : decode cX2_partOf 9 = .ok (.aload_n 0, 1) := dk_42 (dk_at dksX2_partOf_0 9 rfl rfl)
theorem dX2_partOf_10 : decode cX2_partOf 10 = .ok (.getfield 38, 3) := dk_180 0 38 (dk_at dksX2_partOf_0 10 rfl rfl)
theorem dX2_partOf_13 : decode cX2_partOf 13 = .ok (.isub, 1) := dk_100 (dk_at dksX2_partOf_0 13 rfl rfl)
theorem dX2_partOf_14 : decode cX2_partOf 14 = .ok (.istore_n 3, 1) := dk_62 (dk_at dksX2_partOf_0 14 rfl rfl)
theorem dX2_partOf_15 : decode cX2_partOf 15 = .ok (.iload_n 2, 1) := dk_28 (dk_at dksX2_partOf_0 15 rfl rfl)
theorem dX2_partOf_16 : decode cX2_partOf 16 = .ok (.ifCond .ne 5, 3) := dk_154 0 5 (dk_at dksX2_partOf_0 16 rfl rfl)
theorem dX2_partOf_19 : decode cX2_partOf 19 = .ok (.iconst 0, 1) := dk_3 (dk_at dksX2_partOf_0 19 rfl rfl)
theorem dX2_partOf_20 : decode cX2_partOf 20 = .ok (.ireturn, 1) := dk_172 (dk_at dksX2_partOf_0 20 rfl rfl)
theorem dX2_partOf_21 : decode cX2_partOf 21 = .ok (.iconst 0, 1) := dk_3 (dk_at dksX2_partOf_0 21 rfl rfl)
theorem dX2_partOf_22 : decode cX2_partOf 22 = .ok (.istore 4, 2) := dk_54 4 (dk_at dksX2_partOf_0 22 rfl rfl)
theorem dX2_partOf_24 : decode cX2_partOf 24 = .ok (.iconst 0, 1) := dk_3 (dk_at dksX2_partOf_1 0 rfl rfl)
theorem dX2_partOf_25 : decode cX2_partOf 25 = .ok (.istore 5, 2) := dk_54 5 (dk_at dksX2_partOf_1 1 rfl rfl)
theorem dX2_partOf_27 : decode cX2_partOf 27 = .ok (.iconst 0, 1) := dk_3 (dk_at dksX2_partOf_1 3 rfl rfl)
theorem dX2_partOf_28 : decode cX2_partOf 28 = .ok (.istore 6, 2) := dk_54 6 (dk_at dksX2_partOf_1 4 rfl rfl)
theorem dX2_partOf_30 : decode cX2_partOf 30 = .ok (.iload 6, 2) := dk_21 6 (dk_at dksX2_partOf_1 6 rfl rfl)
theorem dX2_partOf_32 : decode cX2_partOf 32 = .ok (.aload_n 0, 1) := dk_42 (dk_at dksX2_partOf_1 8 rfl rfl)
theorem dX2_partOf_33 : decode cX2_partOf 33 = .ok (.getfield 75, 3) := dk_180 0 75 (dk_at dksX2_partOf_1 9 rfl rfl)
theorem dX2_partOf_36 : decode cX2_partOf 36 = .ok (.if_icmp .ge 80, 3) := dk_162 0 80 (dk_at dksX2_partOf_1 12 rfl rfl)
theorem dX2_partOf_39 : decode cX2_partOf 39 = .ok (.iload 4, 2) := dk_21 4 (dk_at dksX2_partOf_1 15 rfl rfl)
theorem dX2_partOf_41 : decode cX2_partOf 41 = .ok (.iload_n 3, 1) := dk_29 (dk_at dksX2_partOf_1 17 rfl rfl)
theorem dX2_partOf_42 : decode cX2_partOf 42 = .ok (.aload_n 0, 1) := dk_42 (dk_at dksX2_partOf_1 18 rfl rfl)
theorem dX2_partOf_43 : decode cX2_partOf 43 = .ok (.getfield 28, 3) := dk_180 0 28 (dk_at dksX2_partOf_1 19 rfl rfl)
theorem dX2_partOf_46 : decode cX2_partOf 46 = .ok (.iload 6, 2) := dk_21 6 (dk_at dksX2_partOf_1 22 rfl rfl)
theorem dX2_partOf_48 : decode cX2_partOf 48 = .ok (.iaload, 1) := dk_46 (dk_at dksX2_partOf_2 0 rfl rfl)
theorem dX2_partOf_49 : decode cX2_partOf 49 = .ok (.imul, 1) := dk_104 (dk_at dksX2_partOf_2 1 rfl rfl)
theorem dX2_partOf_50 : decode cX2_partOf 50 = .ok (.iload_n 2, 1) := dk_28 (dk_at dksX2_partOf_2 2 rfl rfl)
theorem dX2_partOf_51 : decode cX2_partOf 51 = .ok (.idiv, 1) := dk_108 (dk_at dksX2_partOf_2 3 rfl rfl)
theorem dX2_partOf_52 : decode cX2_partOf 52 = .ok (.iadd, 1) := dk_96 (dk_at dksX2_partOf_2 4 rfl rfl)
theorem dX2_partOf_53 : decode cX2_partOf 53 = .ok (.istore 4, 2) := dk_54 4 (dk_at dksX2_partOf_2 5 rfl rfl)
theorem dX2_partOf_55 : decode cX2_partOf 55 = .ok (.iload_n 3, 1) := dk_29 (dk_at dksX2_partOf_2 7 rfl rfl)
theorem dX2_partOf_56 : decode cX2_partOf 56 = .ok (.aload_n 0, 1) := dk_42 (dk_at dksX2_partOf_2 8 rfl rfl)
theorem dX2_partOf_57 : decode cX2_partOf 57 = .ok (.getfield 28, 3) := dk_180 0 28 (dk_at dksX2_partOf_2 9 rfl rfl)
theorem dX2_partOf_60 : decode cX2_partOf 60 = .ok (.iload 6, 2) := dk_21 6 (dk_at dksX2_partOf_2 12 rfl rfl)
theorem dX2_partOf_62 : decode cX2_partOf 62 = .ok (.iaload, 1) := dk_46 (dk_at dksX2_partOf_2 14 rfl rfl)
theorem dX2_partOf_63 : decode cX2_partOf 63 = .ok (.imul, 1) := dk_104 (dk_at dksX2_partOf_2 15 rfl rfl)
theorem dX2_partOf_64 : decode cX2_partOf 64 = .ok (.iload_n 2, 1) := dk_28 (dk_at dksX2_partOf_2 16 rfl rfl)
theorem dX2_partOf_65 : decode cX2_partOf 65 = .ok (.irem, 1) := dk_112 (dk_at dksX2_partOf_2 17 rfl rfl)
theorem dX2_partOf_66 : decode cX2_partOf 66 = .ok (.istore 7, 2) := dk_54 7 (dk_at dksX2_partOf_2 18 rfl rfl)
theorem dX2_partOf_68 : decode cX2_partOf 68 = .ok (.iload_n 3, 1) := dk_29 (dk_at dksX2_partOf_2 20 rfl rfl)
theorem dX2_partOf_69 : decode cX2_partOf 69 = .ok (.aload_n 0, 1) := dk_42 (dk_at dksX2_partOf_2 21 rfl rfl)
theorem dX2_partOf_70 : decode cX2_partOf 70 = .ok (.getfield 28, 3) := dk_180 0 28 (dk_at dksX2_partOf_3 0 rfl rfl)
theorem dX2_partOf_73 : decode cX2_partOf 73 = .ok (.iload_n 1, 1) := dk_27 (dk_at dksX2_partOf_3 3 rfl rfl)
theorem dX2_partOf_74 : decode cX2_partOf 74 = .ok (.iaload, 1) := dk_46 (dk_at dksX2_partOf_3 4 rfl rfl)
theorem dX2_partOf_75 : decode cX2_partOf 75 = .ok (.imul, 1) := dk_104 (dk_at dksX2_partOf_3 5 rfl rfl)
theorem dX2_partOf_76 : decode cX2_partOf 76 = .ok (.iload_n 2, 1) := dk_28 (dk_at dksX2_partOf_3 6 rfl rfl)
theorem dX2_partOf_77 : decode cX2_partOf 77 = .ok (.irem, 1) := dk_112 (dk_at dksX2_partOf_3 7 rfl rfl)
theorem dX2_partOf_78 : decode cX2_partOf 78 = .ok (.istore 8, 2) := dk_54 8 (dk_at dksX2_partOf_3 8 rfl rfl)
theorem dX2_partOf_80 : decode cX2_partOf 80 = .ok (.iload 5, 2) := dk_21 5 (dk_at dksX2_partOf_3 10 rfl rfl)
theorem dX2_partOf_82 : decode cX2_partOf 82 = .ok (.iload 7, 2) := dk_21 7 (dk_at dksX2_partOf_3 12 rfl rfl)
theorem dX2_partOf_84 : decode cX2_partOf 84 = .ok (.iload 8, 2) := dk_21 8 (dk_at dksX2_partOf_3 14 rfl rfl)
theorem dX2_partOf_86 : decode cX2_partOf 86 = .ok (.if_icmp .gt 16, 3) := dk_163 0 16 (dk_at dksX2_partOf_3 16 rfl rfl)
theorem dX2_partOf_89 : decode cX2_partOf 89 = .ok (.iload 7, 2) := dk_21 7 (dk_at dksX2_partOf_3 19 rfl rfl)
theorem dX2_partOf_91 : decode cX2_partOf 91 = .ok (.iload 8, 2) := dk_21 8 (dk_at dksX2_partOf_3 21 rfl rfl)
theorem dX2_partOf_93 : decode cX2_partOf 93 = .ok (.if_icmp .ne 13, 3) := dk_160 0 13 (dk_at dksX2_partOf_4 0 rfl rfl)
theorem dX2_partOf_96 : decode cX2_partOf 96 = .ok (.iload 6, 2) := dk_21 6 (dk_at dksX2_partOf_4 3 rfl rfl)
theorem dX2_partOf_98 : decode cX2_partOf 98 = .ok (.iload_n 1, 1) := dk_27 (dk_at dksX2_partOf_4 5 rfl rfl)
theorem dX2_partOf_99 : decode cX2_partOf 99 = .ok (.if_icmp .ge 7, 3) := dk_162 0 7 (dk_at dksX2_partOf_4 6 rfl rfl)
theorem dX2_partOf_102 : decode cX2_partOf 102 = .ok (.iconst 1, 1) := dk_4 (dk_at dksX2_partOf_4 9 rfl rfl)
theorem dX2_partOf_103 : decode cX2_partOf 103 = .ok (.goto 4, 3) := dk_167 0 4 (dk_at dksX2_partOf_4 10 rfl rfl)
theorem dX2_partOf_106 : decode cX2_partOf 106 = .ok (.iconst 0, 1) := dk_3 (dk_at dksX2_partOf_4 13 rfl rfl)
theorem dX2_partOf_107 : decode cX2_partOf 107 = .ok (.iadd, 1) := dk_96 (dk_at dksX2_partOf_4 14 rfl rfl)
theorem dX2_partOf_108 : decode cX2_partOf 108 = .ok (.istore 5, 2) := dk_54 5 (dk_at dksX2_partOf_4 15 rfl rfl)
theorem dX2_partOf_110 : decode cX2_partOf 110 = .ok (.iinc 6 1, 3) := dk_132 6 1 (dk_at dksX2_partOf_4 17 rfl rfl)
theorem dX2_partOf_113 : decode cX2_partOf 113 = .ok (.goto (-83), 3) := dk_167 255 173 (dk_at dksX2_partOf_4 20 rfl rfl)
theorem dX2_partOf_116 : decode cX2_partOf 116 = .ok (.iload_n 3, 1) := dk_29 (dk_at dksX2_partOf_4 23 rfl rfl)
theorem dX2_partOf_117 : decode cX2_partOf 117 = .ok (.aload_n 0, 1) := dk_42 (dk_at dksX2_partOf_5 0 rfl rfl)
theorem dX2_partOf_118 : decode cX2_partOf 118 = .ok (.getfield 28, 3) := dk_180 0 28 (dk_at dksX2_partOf_5 1 rfl rfl)
theorem dX2_partOf_121 : decode cX2_partOf 121 = .ok (.iload_n 1, 1) := dk_27 (dk_at dksX2_partOf_5 4 rfl rfl)
theorem dX2_partOf_122 : decode cX2_partOf 122 = .ok (.iaload, 1) := dk_46 (dk_at dksX2_partOf_5 5 rfl rfl)
theorem dX2_partOf_123 : decode cX2_partOf 123 = .ok (.imul, 1) := dk_104 (dk_at dksX2_partOf_5 6 rfl rfl)
theorem dX2_partOf_124 : decode cX2_partOf 124 = .ok (.iload_n 2, 1) := dk_28 (dk_at dksX2_partOf_5 7 rfl rfl)
theorem dX2_partOf_125 : decode cX2_partOf 125 = .ok (.idiv, 1) := dk_108 (dk_at dksX2_partOf_5 8 rfl rfl)
theorem dX2_partOf_126 : decode cX2_partOf 126 = .ok (.iload 5, 2) := dk_21 5 (dk_at dksX2_partOf_5 9 rfl rfl)
theorem dX2_partOf_128 : decode cX2_partOf 128 = .ok (.iload_n 3, 1) := dk_29 (dk_at dksX2_partOf_5 11 rfl rfl)
theorem dX2_partOf_129 : decode cX2_partOf 129 = .ok (.iload 4, 2) := dk_21 4 (dk_at dksX2_partOf_5 12 rfl rfl)
theorem dX2_partOf_131 : decode cX2_partOf 131 = .ok (.isub, 1) := dk_100 (dk_at dksX2_partOf_5 14 rfl rfl)
theorem dX2_partOf_132 : decode cX2_partOf 132 = .ok (.if_icmp .ge 7, 3) := dk_162 0 7 (dk_at dksX2_partOf_5 15 rfl rfl)
theorem dX2_partOf_135 : decode cX2_partOf 135 = .ok (.iconst 1, 1) := dk_4 (dk_at dksX2_partOf_5 18 rfl rfl)
theorem dX2_partOf_136 : decode cX2_partOf 136 = .ok (.goto 4, 3) := dk_167 0 4 (dk_at dksX2_partOf_5 19 rfl rfl)
theorem dX2_partOf_139 : decode cX2_partOf 139 = .ok (.iconst 0, 1) := dk_3 (dk_at dksX2_partOf_5 22 rfl rfl)
theorem dX2_partOf_140 : decode cX2_partOf 140 = .ok (.iadd, 1) := dk_96 (dk_at dksX2_partOf_5 23 rfl rfl)
theorem dX2_partOf_141 : decode cX2_partOf 141 = .ok (.ireturn, 1) := dk_172 (dk_at dksX2_partOf_6 0 rfl rfl)
abbrev cX2_takenAll : ByteArray := prog_11_method_34_code
def yX2_takenAll : MethodName := ⟨RX2, "takenAll", "()I"⟩
def dkwX2_takenAll_1 : List UInt8 := [167, 255, 236, 27, 172]
abbrev dktX2_takenAll_1 : List UInt8 := dkwX2_takenAll_1 ++ []
def dkwX2_takenAll_0 : List UInt8 := [3, 60, 3, 61, 28, 42, 180, 0, 75, 162, 0, 18, 27, 42, 180, 0, 28, 28, 46, 96, 60, 132, 2, 1]
abbrev dktX2_takenAll_0 : List UInt8 := dkwX2_takenAll_0 ++ dktX2_takenAll_1
theorem dksX2_takenAll_0 : cX2_takenAll.data.toList.drop 0 = dktX2_takenAll_0 := by decide +kernel
theorem dksX2_takenAll_1 : cX2_takenAll.data.toList.drop 24 = dktX2_takenAll_1 := dk_seg dksX2_takenAll_0 24 rfl rfl
theorem dX2_takenAll_0 : decode cX2_takenAll 0 = .ok (.iconst 0, 1) := dk_3 (dk_at dksX2_takenAll_0 0 rfl rfl)
theorem dX2_takenAll_1 : decode cX2_takenAll 1 = .ok (.istore_n 1, 1) := dk_60 (dk_at dksX2_takenAll_0 1 rfl rfl)
theorem dX2_takenAll_2 : decode cX2_takenAll 2 = .ok (.iconst 0, 1) := dk_3 (dk_at dksX2_takenAll_0 2 rfl rfl)
theorem dX2_takenAll_3 : decode cX2_takenAll 3 = .ok (.istore_n 2, 1) := dk_61 (dk_at dksX2_takenAll_0 3 rfl rfl)
theorem dX2_takenAll_4 : decode cX2_takenAll 4 = .ok (.iload_n 2, 1) := dk_28 (dk_at dksX2_takenAll_0 4 rfl rfl)
theorem dX2_takenAll_5 : decode cX2_takenAll 5 = .ok (.aload_n 0, 1) := dk_42 (dk_at dksX2_takenAll_0 5 rfl rfl)
theorem dX2_takenAll_6 : decode cX2_takenAll 6 = .ok (.getfield 75, 3) := dk_180 0 75 (dk_at dksX2_takenAll_0 6 rfl rfl)
theorem dX2_takenAll_9 : decode cX2_takenAll 9 = .ok (.if_icmp .ge 18, 3) := dk_162 0 18 (dk_at dksX2_takenAll_0 9 rfl rfl)
theorem dX2_takenAll_12 : decode cX2_takenAll 12 = .ok (.iload_n 1, 1) := dk_27 (dk_at dksX2_takenAll_0 12 rfl rfl)
theorem dX2_takenAll_13 : decode cX2_takenAll 13 = .ok (.aload_n 0, 1) := dk_42 (dk_at dksX2_takenAll_0 13 rfl rfl)
theorem dX2_takenAll_14 : decode cX2_takenAll 14 = .ok (.getfield 28, 3) := dk_180 0 28 (dk_at dksX2_takenAll_0 14 rfl rfl)
theorem dX2_takenAll_17 : decode cX2_takenAll 17 = .ok (.iload_n 2, 1) := dk_28 (dk_at dksX2_takenAll_0 17 rfl rfl)
theorem dX2_takenAll_18 : decode cX2_takenAll 18 = .ok (.iaload, 1) := dk_46 (dk_at dksX2_takenAll_0 18 rfl rfl)
theorem dX2_takenAll_19 : decode cX2_takenAll 19 = .ok (.iadd, 1) := dk_96 (dk_at dksX2_takenAll_0 19 rfl rfl)
theorem dX2_takenAll_20 : decode cX2_takenAll 20 = .ok (.istore_n 1, 1) := dk_60 (dk_at dksX2_takenAll_0 20 rfl rfl)
theorem dX2_takenAll_21 : decode cX2_takenAll 21 = .ok (.iinc 2 1, 3) := dk_132 2 1 (dk_at dksX2_takenAll_0 21 rfl rfl)
theorem dX2_takenAll_24 : decode cX2_takenAll 24 = .ok (.goto (-20), 3) := dk_167 255 236 (dk_at dksX2_takenAll_1 0 rfl rfl)
theorem dX2_takenAll_27 : decode cX2_takenAll 27 = .ok (.iload_n 1, 1) := dk_27 (dk_at dksX2_takenAll_1 3 rfl rfl)
theorem dX2_takenAll_28 : decode cX2_takenAll 28 = .ok (.ireturn, 1) := dk_172 (dk_at dksX2_takenAll_1 4 rfl rfl)
abbrev cX2_night : ByteArray := prog_11_method_37_code
def yX2_night : MethodName := ⟨RX2, "night", "()I"⟩
def dkwX2_night_4 : List UInt8 := [181, 0, 38, 42, 3, 181, 0, 141, 42, 3, 181, 0, 114, 42, 3, 181, 0, 135, 27, 172]
abbrev dktX2_night_4 : List UInt8 := dkwX2_night_4 ++ []
def dkwX2_night_3 : List UInt8 := [180, 0, 28, 28, 3, 79, 132, 2, 1, 167, 255, 238, 42, 3, 181, 0, 90, 42, 42, 180, 0, 34]
abbrev dktX2_night_3 : List UInt8 := dkwX2_night_3 ++ dktX2_night_4
def dkwX2_night_2 : List UInt8 := [167, 0, 4, 29, 79, 132, 2, 1, 167, 255, 212, 3, 61, 28, 42, 180, 0, 75, 162, 0, 16, 42]
abbrev dktX2_night_2 : List UInt8 := dkwX2_night_2 ++ dktX2_night_3
def dkwX2_night_1 : List UInt8 := [28, 46, 42, 28, 182, 0, 154, 96, 62, 42, 180, 0, 31, 28, 29, 17, 3, 231, 164, 0, 9, 17, 3, 231]
abbrev dktX2_night_1 : List UInt8 := dkwX2_night_1 ++ dktX2_night_2
def dkwX2_night_0 : List UInt8 := [42, 180, 0, 34, 42, 180, 0, 38, 100, 60, 3, 61, 28, 42, 180, 0, 75, 162, 0, 42, 42, 180, 0, 31]
abbrev dktX2_night_0 : List UInt8 := dkwX2_night_0 ++ dktX2_night_1
theorem dksX2_night_0 : cX2_night.data.toList.drop 0 = dktX2_night_0 := by decide +kernel
theorem dksX2_night_1 : cX2_night.data.toList.drop 24 = dktX2_night_1 := dk_seg dksX2_night_0 24 rfl rfl
theorem dksX2_night_2 : cX2_night.data.toList.drop 48 = dktX2_night_2 := dk_seg dksX2_night_1 24 rfl rfl
theorem dksX2_night_3 : cX2_night.data.toList.drop 70 = dktX2_night_3 := dk_seg dksX2_night_2 22 rfl rfl
theorem dksX2_night_4 : cX2_night.data.toList.drop 92 = dktX2_night_4 := dk_seg dksX2_night_3 22 rfl rfl
theorem dX2_night_0 : decode cX2_night 0 = .ok (.aload_n 0, 1) := dk_42 (dk_at dksX2_night_0 0 rfl rfl)
theorem dX2_night_1 : decode cX2_night 1 = .ok (.getfield 34, 3) := dk_180 0 34 (dk_at dksX2_night_0 1 rfl rfl)
theorem dX2_night_4 : decode cX2_night 4 = .ok (.aload_n 0, 1) := dk_42 (dk_at dksX2_night_0 4 rfl rfl)
theorem dX2_night_5 : decode cX2_night 5 = .ok (.getfield 38, 3) := dk_180 0 38 (dk_at dksX2_night_0 5 rfl rfl)
theorem dX2_night_8 : decode cX2_night 8 = .ok (.isub, 1) := dk_100 (dk_at dksX2_night_0 8 rfl rfl)
theorem dX2_night_9 : decode cX2_night 9 = .ok (.istore_n 1, 1) := dk_60 (dk_at dksX2_night_0 9 rfl rfl)
theorem dX2_night_10 : decode cX2_night 10 = .ok (.iconst 0, 1) := dk_3 (dk_at dksX2_night_0 10 rfl rfl)
theorem dX2_night_11 : decode cX2_night 11 = .ok (.istore_n 2, 1) := dk_61 (dk_at dksX2_night_0 11 rfl rfl)
theorem dX2_night_12 : decode cX2_night 12 = .ok (.iload_n 2, 1) := dk_28 (dk_at dksX2_night_0 12 rfl rfl)
theorem dX2_night_13 : decode cX2_night 13 = .ok (.aload_n 0, 1) := dk_42 (dk_at dksX2_night_0 13 rfl rfl)
theorem dX2_night_14 : decode cX2_night 14 = .ok (.getfield 75, 3) := dk_180 0 75 (dk_at dksX2_night_0 14 rfl rfl)
theorem dX2_night_17 : decode cX2_night 17 = .ok (.if_icmp .ge 42, 3) := dk_162 0 42 (dk_at dksX2_night_0 17 rfl rfl)
theorem dX2_night_20 : decode cX2_night 20 = .ok (.aload_n 0, 1) := dk_42 (dk_at dksX2_night_0 20 rfl rfl)
theorem dX2_night_21 : decode cX2_night 21 = .ok (.getfield 31, 3) := dk_180 0 31 (dk_at dksX2_night_0 21 rfl rfl)
theorem dX2_night_24 : decode cX2_night 24 = .ok (.iload_n 2, 1) := dk_28 (dk_at dksX2_night_1 0 rfl rfl)
theorem dX2_night_25 : decode cX2_night 25 = .ok (.iaload, 1) := dk_46 (dk_at dksX2_night_1 1 rfl rfl)
theorem dX2_night_26 : decode cX2_night 26 = .ok (.aload_n 0, 1) := dk_42 (dk_at dksX2_night_1 2 rfl rfl)
theorem dX2_night_27 : decode cX2_night 27 = .ok (.iload_n 2, 1) := dk_28 (dk_at dksX2_night_1 3 rfl rfl)
theorem dX2_night_28 : decode cX2_night 28 = .ok (.invokevirtual 154, 3) := dk_182 0 154 (dk_at dksX2_night_1 4 rfl rfl)
theorem dX2_night_31 : decode cX2_night 31 = .ok (.iadd, 1) := dk_96 (dk_at dksX2_night_1 7 rfl rfl)
theorem dX2_night_32 : decode cX2_night 32 = .ok (.istore_n 3, 1) := dk_62 (dk_at dksX2_night_1 8 rfl rfl)
theorem dX2_night_33 : decode cX2_night 33 = .ok (.aload_n 0, 1) := dk_42 (dk_at dksX2_night_1 9 rfl rfl)
theorem dX2_night_34 : decode cX2_night 34 = .ok (.getfield 31, 3) := dk_180 0 31 (dk_at dksX2_night_1 10 rfl rfl)
theorem dX2_night_37 : decode cX2_night 37 = .ok (.iload_n 2, 1) := dk_28 (dk_at dksX2_night_1 13 rfl rfl)
theorem dX2_night_38 : decode cX2_night 38 = .ok (.iload_n 3, 1) := dk_29 (dk_at dksX2_night_1 14 rfl rfl)
theorem dX2_night_39 : decode cX2_night 39 = .ok (.sipush 999, 3) := dk_17 3 231 (dk_at dksX2_night_1 15 rfl rfl)
theorem dX2_night_42 : decode cX2_night 42 = .ok (.if_icmp .le 9, 3) := dk_164 0 9 (dk_at dksX2_night_1 18 rfl rfl)
theorem dX2_night_45 : decode cX2_night 45 = .ok (.sipush 999, 3) := dk_17 3 231 (dk_at dksX2_night_1 21 rfl rfl)
theorem dX2_night_48 : decode cX2_night 48 = .ok (.goto 4, 3) := dk_167 0 4 (dk_at dksX2_night_2 0 rfl rfl)
theorem dX2_night_51 : decode cX2_night 51 = .ok (.iload_n 3, 1) := dk_29 (dk_at dksX2_night_2 3 rfl rfl)
theorem dX2_night_52 : decode cX2_night 52 = .ok (.iastore, 1) := dk_79 (dk_at dksX2_night_2 4 rfl rfl)
theorem dX2_night_53 : decode cX2_night 53 = .ok (.iinc 2 1, 3) := dk_132 2 1 (dk_at dksX2_night_2 5 rfl rfl)
theorem dX2_night_56 : decode cX2_night 56 = .ok (.goto (-44), 3) := dk_167 255 212 (dk_at dksX2_night_2 8 rfl rfl)
theorem dX2_night_59 : decode cX2_night 59 = .ok (.iconst 0, 1) := dk_3 (dk_at dksX2_night_2 11 rfl rfl)
theorem dX2_night_60 : decode cX2_night 60 = .ok (.istore_n 2, 1) := dk_61 (dk_at dksX2_night_2 12 rfl rfl)
theorem dX2_night_61 : decode cX2_night 61 = .ok (.iload_n 2, 1) := dk_28 (dk_at dksX2_night_2 13 rfl rfl)
theorem dX2_night_62 : decode cX2_night 62 = .ok (.aload_n 0, 1) := dk_42 (dk_at dksX2_night_2 14 rfl rfl)
theorem dX2_night_63 : decode cX2_night 63 = .ok (.getfield 75, 3) := dk_180 0 75 (dk_at dksX2_night_2 15 rfl rfl)
theorem dX2_night_66 : decode cX2_night 66 = .ok (.if_icmp .ge 16, 3) := dk_162 0 16 (dk_at dksX2_night_2 18 rfl rfl)
theorem dX2_night_69 : decode cX2_night 69 = .ok (.aload_n 0, 1) := dk_42 (dk_at dksX2_night_2 21 rfl rfl)
theorem dX2_night_70 : decode cX2_night 70 = .ok (.getfield 28, 3) := dk_180 0 28 (dk_at dksX2_night_3 0 rfl rfl)
theorem dX2_night_73 : decode cX2_night 73 = .ok (.iload_n 2, 1) := dk_28 (dk_at dksX2_night_3 3 rfl rfl)
theorem dX2_night_74 : decode cX2_night 74 = .ok (.iconst 0, 1) := dk_3 (dk_at dksX2_night_3 4 rfl rfl)
theorem dX2_night_75 : decode cX2_night 75 = .ok (.iastore, 1) := dk_79 (dk_at dksX2_night_3 5 rfl rfl)
theorem dX2_night_76 : decode cX2_night 76 = .ok (.iinc 2 1, 3) := dk_132 2 1 (dk_at dksX2_night_3 6 rfl rfl)
theorem dX2_night_79 : decode cX2_night 79 = .ok (.goto (-18), 3) := dk_167 255 238 (dk_at dksX2_night_3 9 rfl rfl)
theorem dX2_night_82 : decode cX2_night 82 = .ok (.aload_n 0, 1) := dk_42 (dk_at dksX2_night_3 12 rfl rfl)
theorem dX2_night_83 : decode cX2_night 83 = .ok (.iconst 0, 1) := dk_3 (dk_at dksX2_night_3 13 rfl rfl)
theorem dX2_night_84 : decode cX2_night 84 = .ok (.putfield 90, 3) := dk_181 0 90 (dk_at dksX2_night_3 14 rfl rfl)
theorem dX2_night_87 : decode cX2_night 87 = .ok (.aload_n 0, 1) := dk_42 (dk_at dksX2_night_3 17 rfl rfl)
theorem dX2_night_88 : decode cX2_night 88 = .ok (.aload_n 0, 1) := dk_42 (dk_at dksX2_night_3 18 rfl rfl)
theorem dX2_night_89 : decode cX2_night 89 = .ok (.getfield 34, 3) := dk_180 0 34 (dk_at dksX2_night_3 19 rfl rfl)
theorem dX2_night_92 : decode cX2_night 92 = .ok (.putfield 38, 3) := dk_181 0 38 (dk_at dksX2_night_4 0 rfl rfl)
theorem dX2_night_95 : decode cX2_night 95 = .ok (.aload_n 0, 1) := dk_42 (dk_at dksX2_night_4 3 rfl rfl)
theorem dX2_night_96 : decode cX2_night 96 = .ok (.iconst 0, 1) := dk_3 (dk_at dksX2_night_4 4 rfl rfl)
theorem dX2_night_97 : decode cX2_night 97 = .ok (.putfield 141, 3) := dk_181 0 141 (dk_at dksX2_night_4 5 rfl rfl)
theorem dX2_night_100 : decode cX2_night 100 = .ok (.aload_n 0, 1) := dk_42 (dk_at dksX2_night_4 8 rfl rfl)
theorem dX2_night_101 : decode cX2_night 101 = .ok (.iconst 0, 1) := dk_3 (dk_at dksX2_night_4 9 rfl rfl)
theorem dX2_night_102 : decode cX2_night 102 = .ok (.putfield 114, 3) := dk_181 0 114 (dk_at dksX2_night_4 10 rfl rfl)
theorem dX2_night_105 : decode cX2_night 105 = .ok (.aload_n 0, 1) := dk_42 (dk_at dksX2_night_4 13 rfl rfl)
theorem dX2_night_106 : decode cX2_night 106 = .ok (.iconst 0, 1) := dk_3 (dk_at dksX2_night_4 14 rfl rfl)
theorem dX2_night_107 : decode cX2_night 107 = .ok (.putfield 135, 3) := dk_181 0 135 (dk_at dksX2_night_4 15 rfl rfl)
theorem dX2_night_110 : decode cX2_night 110 = .ok (.iload_n 1, 1) := dk_27 (dk_at dksX2_night_4 18 rfl rfl)
theorem dX2_night_111 : decode cX2_night 111 = .ok (.ireturn, 1) := dk_172 (dk_at dksX2_night_4 19 rfl rfl)
abbrev cX2_plan : ByteArray := prog_11_method_42_code
def yX2_plan : MethodName := ⟨RX2, "plan", "(I)I"⟩
def dkwX2_plan_0 : List UInt8 := [27, 3, 4, 184, 0, 78, 153, 0, 11, 42, 27, 182, 0, 190, 167, 0, 5, 16, 154, 172]
abbrev dktX2_plan_0 : List UInt8 := dkwX2_plan_0 ++ []
theorem dksX2_plan_0 : cX2_plan.data.toList.drop 0 = dktX2_plan_0 := by decide +kernel
theorem dX2_plan_0 : decode cX2_plan 0 = .ok (.iload_n 1, 1) := dk_27 (dk_at dksX2_plan_0 0 rfl rfl)
theorem dX2_plan_1 : decode cX2_plan 1 = .ok (.iconst 0, 1) := dk_3 (dk_at dksX2_plan_0 1 rfl rfl)
theorem dX2_plan_2 : decode cX2_plan 2 = .ok (.iconst 1, 1) := dk_4 (dk_at dksX2_plan_0 2 rfl rfl)
theorem dX2_plan_3 : decode cX2_plan 3 = .ok (.invokestatic 78, 3) := dk_184 0 78 (dk_at dksX2_plan_0 3 rfl rfl)
theorem dX2_plan_6 : decode cX2_plan 6 = .ok (.ifCond .eq 11, 3) := dk_153 0 11 (dk_at dksX2_plan_0 6 rfl rfl)
theorem dX2_plan_9 : decode cX2_plan 9 = .ok (.aload_n 0, 1) := dk_42 (dk_at dksX2_plan_0 9 rfl rfl)
theorem dX2_plan_10 : decode cX2_plan 10 = .ok (.iload_n 1, 1) := dk_27 (dk_at dksX2_plan_0 10 rfl rfl)
theorem dX2_plan_11 : decode cX2_plan 11 = .ok (.invokevirtual 190, 3) := dk_182 0 190 (dk_at dksX2_plan_0 11 rfl rfl)
theorem dX2_plan_14 : decode cX2_plan 14 = .ok (.goto 5, 3) := dk_167 0 5 (dk_at dksX2_plan_0 14 rfl rfl)
theorem dX2_plan_17 : decode cX2_plan 17 = .ok (.bipush (-102), 2) := dk_16 154 (dk_at dksX2_plan_0 17 rfl rfl)
theorem dX2_plan_19 : decode cX2_plan 19 = .ok (.ireturn, 1) := dk_172 (dk_at dksX2_plan_0 19 rfl rfl)
abbrev cX2_planNow : ByteArray := prog_11_method_41_code
def yX2_planNow : MethodName := ⟨RX2, "planNow", "(I)I"⟩
def dkwX2_planNow_4 : List UInt8 := [167, 0, 4, 28, 172]
abbrev dktX2_planNow_4 : List UInt8 := dkwX2_planNow_4 ++ []
def dkwX2_planNow_3 : List UInt8 := [61, 21, 6, 153, 0, 8, 21, 5, 167, 0, 4, 29, 62, 132, 4, 1, 167, 255, 180, 27, 154, 0, 7, 29]
abbrev dktX2_planNow_3 : List UInt8 := dkwX2_planNow_3 ++ dktX2_planNow_4
def dkwX2_planNow_2 : List UInt8 := [184, 0, 187, 162, 0, 7, 4, 167, 0, 4, 3, 54, 6, 21, 6, 153, 0, 8, 21, 4, 167, 0, 4, 28]
abbrev dktX2_planNow_2 : List UInt8 := dkwX2_planNow_2 ++ dktX2_planNow_3
def dkwX2_planNow_1 : List UInt8 := [3, 182, 0, 184, 54, 5, 21, 5, 29, 163, 0, 21, 21, 5, 29, 160, 0, 19, 21, 4, 184, 0, 187, 28]
abbrev dktX2_planNow_1 : List UInt8 := dkwX2_planNow_1 ++ dktX2_planNow_2
def dkwX2_planNow_0 : List UInt8 := [3, 61, 42, 3, 3, 182, 0, 184, 62, 4, 54, 4, 21, 4, 42, 182, 0, 129, 163, 0, 73, 42, 21, 4]
abbrev dktX2_planNow_0 : List UInt8 := dkwX2_planNow_0 ++ dktX2_planNow_1
theorem dksX2_planNow_0 : cX2_planNow.data.toList.drop 0 = dktX2_planNow_0 := by decide +kernel
theorem dksX2_planNow_1 : cX2_planNow.data.toList.drop 24 = dktX2_planNow_1 := dk_seg dksX2_planNow_0 24 rfl rfl
theorem dksX2_planNow_2 : cX2_planNow.data.toList.drop 48 = dktX2_planNow_2 := dk_seg dksX2_planNow_1 24 rfl rfl
theorem dksX2_planNow_3 : cX2_planNow.data.toList.drop 72 = dktX2_planNow_3 := dk_seg dksX2_planNow_2 24 rfl rfl
theorem dksX2_planNow_4 : cX2_planNow.data.toList.drop 96 = dktX2_planNow_4 := dk_seg dksX2_planNow_3 24 rfl rfl
theorem dX2_planNow_0 : decode cX2_planNow 0 = .ok (.iconst 0, 1) := dk_3 (dk_at dksX2_planNow_0 0 rfl rfl)
theorem dX2_planNow_1 : decode cX2_planNow 1 = .ok (.istore_n 2, 1) := dk_61 (dk_at dksX2_planNow_0 1 rfl rfl)
theorem dX2_planNow_2 : decode cX2_planNow 2 = .ok (.aload_n 0, 1) := dk_42 (dk_at dksX2_planNow_0 2 rfl rfl)
theorem dX2_planNow_3 : decode cX2_planNow 3 = .ok (.iconst 0, 1) := dk_3 (dk_at dksX2_planNow_0 3 rfl rfl)
theorem dX2_planNow_4 : decode cX2_planNow 4 = .ok (.iconst 0, 1) := dk_3 (dk_at dksX2_planNow_0 4 rfl rfl)
theorem dX2_planNow_5 : decode cX2_planNow 5 = .ok (.invokevirtual 184, 3) := dk_182 0 184 (dk_at dksX2_planNow_0 5 rfl rfl)
theorem dX2_planNow_8 : decode cX2_planNow 8 = .ok (.istore_n 3, 1) := dk_62 (dk_at dksX2_planNow_0 8 rfl rfl)
theorem dX2_planNow_9 : decode cX2_planNow 9 = .ok (.iconst 1, 1) := dk_4 (dk_at dksX2_planNow_0 9 rfl rfl)
theorem dX2_planNow_10 : decode cX2_planNow 10 = .ok (.istore 4, 2) := dk_54 4 (dk_at dksX2_planNow_0 10 rfl rfl)
theorem dX2_planNow_12 : decode cX2_planNow 12 = .ok (.iload 4, 2) := dk_21 4 (dk_at dksX2_planNow_0 12 rfl rfl)
theorem dX2_planNow_14 : decode cX2_planNow 14 = .ok (.aload_n 0, 1) := dk_42 (dk_at dksX2_planNow_0 14 rfl rfl)
theorem dX2_planNow_15 : decode cX2_planNow 15 = .ok (.invokevirtual 129, 3) := dk_182 0 129 (dk_at dksX2_planNow_0 15 rfl rfl)
theorem dX2_planNow_18 : decode cX2_planNow 18 = .ok (.if_icmp .gt 73, 3) := dk_163 0 73 (dk_at dksX2_planNow_0 18 rfl rfl)
theorem dX2_planNow_21 : decode cX2_planNow 21 = .ok (.aload_n 0, 1) := dk_42 (dk_at dksX2_planNow_0 21 rfl rfl)
theorem dX2_planNow_22 : decode cX2_planNow 22 = .ok (.iload 4, 2) := dk_21 4 (dk_at dksX2_planNow_0 22 rfl rfl)
theorem dX2_planNow_24 : decode cX2_planNow 24 = .ok (.iconst 0, 1) := dk_3 (dk_at dksX2_planNow_1 0 rfl rfl)
theorem dX2_planNow_25 : decode cX2_planNow 25 = .ok (.invokevirtual 184, 3) := dk_182 0 184 (dk_at dksX2_planNow_1 1 rfl rfl)
theorem dX2_planNow_28 : decode cX2_planNow 28 = .ok (.istore 5, 2) := dk_54 5 (dk_at dksX2_planNow_1 4 rfl rfl)
theorem dX2_planNow_30 : decode cX2_planNow 30 = .ok (.iload 5, 2) := dk_21 5 (dk_at dksX2_planNow_1 6 rfl rfl)
theorem dX2_planNow_32 : decode cX2_planNow 32 = .ok (.iload_n 3, 1) := dk_29 (dk_at dksX2_planNow_1 8 rfl rfl)
theorem dX2_planNow_33 : decode cX2_planNow 33 = .ok (.if_icmp .gt 21, 3) := dk_163 0 21 (dk_at dksX2_planNow_1 9 rfl rfl)
theorem dX2_planNow_36 : decode cX2_planNow 36 = .ok (.iload 5, 2) := dk_21 5 (dk_at dksX2_planNow_1 12 rfl rfl)
theorem dX2_planNow_38 : decode cX2_planNow 38 = .ok (.iload_n 3, 1) := dk_29 (dk_at dksX2_planNow_1 14 rfl rfl)
theorem dX2_planNow_39 : decode cX2_planNow 39 = .ok (.if_icmp .ne 19, 3) := dk_160 0 19 (dk_at dksX2_planNow_1 15 rfl rfl)
theorem dX2_planNow_42 : decode cX2_planNow 42 = .ok (.iload 4, 2) := dk_21 4 (dk_at dksX2_planNow_1 18 rfl rfl)
theorem dX2_planNow_44 : decode cX2_planNow 44 = .ok (.invokestatic 187, 3) := dk_184 0 187 (dk_at dksX2_planNow_1 20 rfl rfl)
theorem dX2_planNow_47 : decode cX2_planNow 47 = .ok (.iload_n 2, 1) := dk_28 (dk_at dksX2_planNow_1 23 rfl rfl)
theorem dX2_planNow_48 : decode cX2_planNow 48 = .ok (.invokestatic 187, 3) := dk_184 0 187 (dk_at dksX2_planNow_2 0 rfl rfl)
theorem dX2_planNow_51 : decode cX2_planNow 51 = .ok (.if_icmp .ge 7, 3) := dk_162 0 7 (dk_at dksX2_planNow_2 3 rfl rfl)
theorem dX2_planNow_54 : decode cX2_planNow 54 = .ok (.iconst 1, 1) := dk_4 (dk_at dksX2_planNow_2 6 rfl rfl)
theorem dX2_planNow_55 : decode cX2_planNow 55 = .ok (.goto 4, 3) := dk_167 0 4 (dk_at dksX2_planNow_2 7 rfl rfl)
theorem dX2_planNow_58 : decode cX2_planNow 58 = .ok (.iconst 0, 1) := dk_3 (dk_at dksX2_planNow_2 10 rfl rfl)
theorem dX2_planNow_59 : decode cX2_planNow 59 = .ok (.istore 6, 2) := dk_54 6 (dk_at dksX2_planNow_2 11 rfl rfl)
theorem dX2_planNow_61 : decode cX2_planNow 61 = .ok (.iload 6, 2) := dk_21 6 (dk_at dksX2_planNow_2 13 rfl rfl)
theorem dX2_planNow_63 : decode cX2_planNow 63 = .ok (.ifCond .eq 8, 3) := dk_153 0 8 (dk_at dksX2_planNow_2 15 rfl rfl)
theorem dX2_planNow_66 : decode cX2_planNow 66 = .ok (.iload 4, 2) := dk_21 4 (dk_at dksX2_planNow_2 18 rfl rfl)
theorem dX2_planNow_68 : decode cX2_planNow 68 = .ok (.goto 4, 3) := dk_167 0 4 (dk_at dksX2_planNow_2 20 rfl rfl)
theorem dX2_planNow_71 : decode cX2_planNow 71 = .ok (.iload_n 2, 1) := dk_28 (dk_at dksX2_planNow_2 23 rfl rfl)
theorem dX2_planNow_72 : decode cX2_planNow 72 = .ok (.istore_n 2, 1) := dk_61 (dk_at dksX2_planNow_3 0 rfl rfl)
theorem dX2_planNow_73 : decode cX2_planNow 73 = .ok (.iload 6, 2) := dk_21 6 (dk_at dksX2_planNow_3 1 rfl rfl)
theorem dX2_planNow_75 : decode cX2_planNow 75 = .ok (.ifCond .eq 8, 3) := dk_153 0 8 (dk_at dksX2_planNow_3 3 rfl rfl)
theorem dX2_planNow_78 : decode cX2_planNow 78 = .ok (.iload 5, 2) := dk_21 5 (dk_at dksX2_planNow_3 6 rfl rfl)
theorem dX2_planNow_80 : decode cX2_planNow 80 = .ok (.goto 4, 3) := dk_167 0 4 (dk_at dksX2_planNow_3 8 rfl rfl)
theorem dX2_planNow_83 : decode cX2_planNow 83 = .ok (.iload_n 3, 1) := dk_29 (dk_at dksX2_planNow_3 11 rfl rfl)
theorem dX2_planNow_84 : decode cX2_planNow 84 = .ok (.istore_n 3, 1) := dk_62 (dk_at dksX2_planNow_3 12 rfl rfl)
theorem dX2_planNow_85 : decode cX2_planNow 85 = .ok (.iinc 4 1, 3) := dk_132 4 1 (dk_at dksX2_planNow_3 13 rfl rfl)
theorem dX2_planNow_88 : decode cX2_planNow 88 = .ok (.goto (-76), 3) := dk_167 255 180 (dk_at dksX2_planNow_3 16 rfl rfl)
theorem dX2_planNow_91 : decode cX2_planNow 91 = .ok (.iload_n 1, 1) := dk_27 (dk_at dksX2_planNow_3 19 rfl rfl)
theorem dX2_planNow_92 : decode cX2_planNow 92 = .ok (.ifCond .ne 7, 3) := dk_154 0 7 (dk_at dksX2_planNow_3 20 rfl rfl)
theorem dX2_planNow_95 : decode cX2_planNow 95 = .ok (.iload_n 3, 1) := dk_29 (dk_at dksX2_planNow_3 23 rfl rfl)
theorem dX2_planNow_96 : decode cX2_planNow 96 = .ok (.goto 4, 3) := dk_167 0 4 (dk_at dksX2_planNow_4 0 rfl rfl)
theorem dX2_planNow_99 : decode cX2_planNow 99 = .ok (.iload_n 2, 1) := dk_28 (dk_at dksX2_planNow_4 3 rfl rfl)
theorem dX2_planNow_100 : decode cX2_planNow 100 = .ok (.ireturn, 1) := dk_172 (dk_at dksX2_planNow_4 4 rfl rfl)
abbrev cX2_takenOn : ByteArray := prog_11_method_40_code
def yX2_takenOn : MethodName := ⟨RX2, "takenOn", "(II)I"⟩
def dkwX2_takenOn_2 : List UInt8 := [182, 0, 181, 21, 4, 172]
abbrev dktX2_takenOn_2 : List UInt8 := dkwX2_takenOn_2 ++ []
def dkwX2_takenOn_1 : List UInt8 := [42, 182, 0, 144, 154, 0, 11, 42, 182, 0, 148, 87, 167, 255, 244, 42, 182, 0, 151, 29, 100, 54, 4, 42]
abbrev dktX2_takenOn_1 : List UInt8 := dkwX2_takenOn_1 ++ dktX2_takenOn_2
def dkwX2_takenOn_0 : List UInt8 := [42, 182, 0, 178, 42, 182, 0, 151, 62, 42, 27, 181, 0, 93, 42, 89, 180, 0, 38, 28, 96, 181, 0, 38]
abbrev dktX2_takenOn_0 : List UInt8 := dkwX2_takenOn_0 ++ dktX2_takenOn_1
theorem dksX2_takenOn_0 : cX2_takenOn.data.toList.drop 0 = dktX2_takenOn_0 := by decide +kernel
theorem dksX2_takenOn_1 : cX2_takenOn.data.toList.drop 24 = dktX2_takenOn_1 := dk_seg dksX2_takenOn_0 24 rfl rfl
theorem dksX2_takenOn_2 : cX2_takenOn.data.toList.drop 48 = dktX2_takenOn_2 := dk_seg dksX2_takenOn_1 24 rfl rfl
theorem dX2_takenOn_0 : decode cX2_takenOn 0 = .ok (.aload_n 0, 1) := dk_42 (dk_at dksX2_takenOn_0 0 rfl rfl)
theorem dX2_takenOn_1 : decode cX2_takenOn 1 = .ok (.invokevirtual 178, 3) := dk_182 0 178 (dk_at dksX2_takenOn_0 1 rfl rfl)
theorem dX2_takenOn_4 : decode cX2_takenOn 4 = .ok (.aload_n 0, 1) := dk_42 (dk_at dksX2_takenOn_0 4 rfl rfl)
theorem dX2_takenOn_5 : decode cX2_takenOn 5 = .ok (.invokevirtual 151, 3) := dk_182 0 151 (dk_at dksX2_takenOn_0 5 rfl rfl)
theorem dX2_takenOn_8 : decode cX2_takenOn 8 = .ok (.istore_n 3, 1) := dk_62 (dk_at dksX2_takenOn_0 8 rfl rfl)
theorem dX2_takenOn_9 : decode cX2_takenOn 9 = .ok (.aload_n 0, 1) := dk_42 (dk_at dksX2_takenOn_0 9 rfl rfl)
theorem dX2_takenOn_10 : decode cX2_takenOn 10 = .ok (.iload_n 1, 1) := dk_27 (dk_at dksX2_takenOn_0 10 rfl rfl)
theorem dX2_takenOn_11 : decode cX2_takenOn 11 = .ok (.putfield 93, 3) := dk_181 0 93 (dk_at dksX2_takenOn_0 11 rfl rfl)
theorem dX2_takenOn_14 : decode cX2_takenOn 14 = .ok (.aload_n 0, 1) := dk_42 (dk_at dksX2_takenOn_0 14 rfl rfl)
theorem dX2_takenOn_15 : decode cX2_takenOn 15 = .ok (.dup, 1) := dk_89 (dk_at dksX2_takenOn_0 15 rfl rfl)
theorem dX2_takenOn_16 : decode cX2_takenOn 16 = .ok (.getfield 38, 3) := dk_180 0 38 (dk_at dksX2_takenOn_0 16 rfl rfl)
theorem dX2_takenOn_19 : decode cX2_takenOn 19 = .ok (.iload_n 2, 1) := dk_28 (dk_at dksX2_takenOn_0 19 rfl rfl)
theorem dX2_takenOn_20 : decode cX2_takenOn 20 = .ok (.iadd, 1) := dk_96 (dk_at dksX2_takenOn_0 20 rfl rfl)
theorem dX2_takenOn_21 : decode cX2_takenOn 21 = .ok (.putfield 38, 3) := dk_181 0 38 (dk_at dksX2_takenOn_0 21 rfl rfl)
theorem dX2_takenOn_24 : decode cX2_takenOn 24 = .ok (.aload_n 0, 1) := dk_42 (dk_at dksX2_takenOn_1 0 rfl rfl)
theorem dX2_takenOn_25 : decode cX2_takenOn 25 = .ok (.invokevirtual 144, 3) := dk_182 0 144 (dk_at dksX2_takenOn_1 1 rfl rfl)
theorem dX2_takenOn_28 : decode cX2_takenOn 28 = .ok (.ifCond .ne 11, 3) := dk_154 0 11 (dk_at dksX2_takenOn_1 4 rfl rfl)
theorem dX2_takenOn_31 : decode cX2_takenOn 31 = .ok (.aload_n 0, 1) := dk_42 (dk_at dksX2_takenOn_1 7 rfl rfl)
theorem dX2_takenOn_32 : decode cX2_takenOn 32 = .ok (.invokevirtual 148, 3) := dk_182 0 148 (dk_at dksX2_takenOn_1 8 rfl rfl)
theorem dX2_takenOn_35 : decode cX2_takenOn 35 = .ok (.pop, 1) := dk_87 (dk_at dksX2_takenOn_1 11 rfl rfl)
theorem dX2_takenOn_36 : decode cX2_takenOn 36 = .ok (.goto (-12), 3) := dk_167 255 244 (dk_at dksX2_takenOn_1 12 rfl rfl)
theorem dX2_takenOn_39 : decode cX2_takenOn 39 = .ok (.aload_n 0, 1) := dk_42 (dk_at dksX2_takenOn_1 15 rfl rfl)
theorem dX2_takenOn_40 : decode cX2_takenOn 40 = .ok (.invokevirtual 151, 3) := dk_182 0 151 (dk_at dksX2_takenOn_1 16 rfl rfl)
theorem dX2_takenOn_43 : decode cX2_takenOn 43 = .ok (.iload_n 3, 1) := dk_29 (dk_at dksX2_takenOn_1 19 rfl rfl)
theorem dX2_takenOn_44 : decode cX2_takenOn 44 = .ok (.isub, 1) := dk_100 (dk_at dksX2_takenOn_1 20 rfl rfl)
theorem dX2_takenOn_45 : decode cX2_takenOn 45 = .ok (.istore 4, 2) := dk_54 4 (dk_at dksX2_takenOn_1 21 rfl rfl)
theorem dX2_takenOn_47 : decode cX2_takenOn 47 = .ok (.aload_n 0, 1) := dk_42 (dk_at dksX2_takenOn_1 23 rfl rfl)
theorem dX2_takenOn_48 : decode cX2_takenOn 48 = .ok (.invokevirtual 181, 3) := dk_182 0 181 (dk_at dksX2_takenOn_2 0 rfl rfl)
theorem dX2_takenOn_51 : decode cX2_takenOn 51 = .ok (.iload 4, 2) := dk_21 4 (dk_at dksX2_takenOn_2 3 rfl rfl)
theorem dX2_takenOn_53 : decode cX2_takenOn 53 = .ok (.ireturn, 1) := dk_172 (dk_at dksX2_takenOn_2 5 rfl rfl)
abbrev cX2_save : ByteArray := prog_11_method_38_code
def yX2_save : MethodName := ⟨RX2, "save", "()V"⟩
def dkwX2_save_3 : List UInt8 := [181, 0, 172, 42, 42, 180, 0, 107, 181, 0, 175, 177]
abbrev dktX2_save_3 : List UInt8 := dkwX2_save_3 ++ []
def dkwX2_save_2 : List UInt8 := [181, 0, 163, 42, 42, 180, 0, 141, 181, 0, 166, 42, 42, 180, 0, 114, 181, 0, 169, 42, 42, 180, 0, 135]
abbrev dktX2_save_2 : List UInt8 := dkwX2_save_2 ++ dktX2_save_3
def dkwX2_save_1 : List UInt8 := [167, 255, 235, 42, 42, 180, 0, 93, 181, 0, 157, 42, 42, 180, 0, 38, 181, 0, 160, 42, 42, 180, 0, 90]
abbrev dktX2_save_1 : List UInt8 := dkwX2_save_1 ++ dktX2_save_2
def dkwX2_save_0 : List UInt8 := [3, 60, 27, 16, 8, 162, 0, 21, 42, 180, 0, 51, 27, 42, 180, 0, 28, 27, 46, 79, 132, 1, 1]
abbrev dktX2_save_0 : List UInt8 := dkwX2_save_0 ++ dktX2_save_1
theorem dksX2_save_0 : cX2_save.data.toList.drop 0 = dktX2_save_0 := by decide +kernel
theorem dksX2_save_1 : cX2_save.data.toList.drop 23 = dktX2_save_1 := dk_seg dksX2_save_0 23 rfl rfl
theorem dksX2_save_2 : cX2_save.data.toList.drop 47 = dktX2_save_2 := dk_seg dksX2_save_1 24 rfl rfl
theorem dksX2_save_3 : cX2_save.data.toList.drop 71 = dktX2_save_3 := dk_seg dksX2_save_2 24 rfl rfl
theorem dX2_save_0 : decode cX2_save 0 = .ok (.iconst 0, 1) := dk_3 (dk_at dksX2_save_0 0 rfl rfl)
theorem dX2_save_1 : decode cX2_save 1 = .ok (.istore_n 1, 1) := dk_60 (dk_at dksX2_save_0 1 rfl rfl)
theorem dX2_save_2 : decode cX2_save 2 = .ok (.iload_n 1, 1) := dk_27 (dk_at dksX2_save_0 2 rfl rfl)
theorem dX2_save_3 : decode cX2_save 3 = .ok (.bipush 8, 2) := dk_16 8 (dk_at dksX2_save_0 3 rfl rfl)
theorem dX2_save_5 : decode cX2_save 5 = .ok (.if_icmp .ge 21, 3) := dk_162 0 21 (dk_at dksX2_save_0 5 rfl rfl)
theorem dX2_save_8 : decode cX2_save 8 = .ok (.aload_n 0, 1) := dk_42 (dk_at dksX2_save_0 8 rfl rfl)
theorem dX2_save_9 : decode cX2_save 9 = .ok (.getfield 51, 3) := dk_180 0 51 (dk_at dksX2_save_0 9 rfl rfl)
theorem dX2_save_12 : decode cX2_save 12 = .ok (.iload_n 1, 1) := dk_27 (dk_at dksX2_save_0 12 rfl rfl)
theorem dX2_save_13 : decode cX2_save 13 = .ok (.aload_n 0, 1) := dk_42 (dk_at dksX2_save_0 13 rfl rfl)
theorem dX2_save_14 : decode cX2_save 14 = .ok (.getfield 28, 3) := dk_180 0 28 (dk_at dksX2_save_0 14 rfl rfl)
theorem dX2_save_17 : decode cX2_save 17 = .ok (.iload_n 1, 1) := dk_27 (dk_at dksX2_save_0 17 rfl rfl)
theorem dX2_save_18 : decode cX2_save 18 = .ok (.iaload, 1) := dk_46 (dk_at dksX2_save_0 18 rfl rfl)
theorem dX2_save_19 : decode cX2_save 19 = .ok (.iastore, 1) := dk_79 (dk_at dksX2_save_0 19 rfl rfl)
theorem dX2_save_20 : decode cX2_save 20 = .ok (.iinc 1 1, 3) := dk_132 1 1 (dk_at dksX2_save_0 20 rfl rfl)
theorem dX2_save_23 : decode cX2_save 23 = .ok (.goto (-21), 3) := dk_167 255 235 (dk_at dksX2_save_1 0 rfl rfl)
theorem dX2_save_26 : decode cX2_save 26 = .ok (.aload_n 0, 1) := dk_42 (dk_at dksX2_save_1 3 rfl rfl)
theorem dX2_save_27 : decode cX2_save 27 = .ok (.aload_n 0, 1) := dk_42 (dk_at dksX2_save_1 4 rfl rfl)
theorem dX2_save_28 : decode cX2_save 28 = .ok (.getfield 93, 3) := dk_180 0 93 (dk_at dksX2_save_1 5 rfl rfl)
theorem dX2_save_31 : decode cX2_save 31 = .ok (.putfield 157, 3) := dk_181 0 157 (dk_at dksX2_save_1 8 rfl rfl)
theorem dX2_save_34 : decode cX2_save 34 = .ok (.aload_n 0, 1) := dk_42 (dk_at dksX2_save_1 11 rfl rfl)
theorem dX2_save_35 : decode cX2_save 35 = .ok (.aload_n 0, 1) := dk_42 (dk_at dksX2_save_1 12 rfl rfl)
theorem dX2_save_36 : decode cX2_save 36 = .ok (.getfield 38, 3) := dk_180 0 38 (dk_at dksX2_save_1 13 rfl rfl)
theorem dX2_save_39 : decode cX2_save 39 = .ok (.putfield 160, 3) := dk_181 0 160 (dk_at dksX2_save_1 16 rfl rfl)
theorem dX2_save_42 : decode cX2_save 42 = .ok (.aload_n 0, 1) := dk_42 (dk_at dksX2_save_1 19 rfl rfl)
theorem dX2_save_43 : decode cX2_save 43 = .ok (.aload_n 0, 1) := dk_42 (dk_at dksX2_save_1 20 rfl rfl)
theorem dX2_save_44 : decode cX2_save 44 = .ok (.getfield 90, 3) := dk_180 0 90 (dk_at dksX2_save_1 21 rfl rfl)
theorem dX2_save_47 : decode cX2_save 47 = .ok (.putfield 163, 3) := dk_181 0 163 (dk_at dksX2_save_2 0 rfl rfl)
theorem dX2_save_50 : decode cX2_save 50 = .ok (.aload_n 0, 1) := dk_42 (dk_at dksX2_save_2 3 rfl rfl)
theorem dX2_save_51 : decode cX2_save 51 = .ok (.aload_n 0, 1) := dk_42 (dk_at dksX2_save_2 4 rfl rfl)
theorem dX2_save_52 : decode cX2_save 52 = .ok (.getfield 141, 3) := dk_180 0 141 (dk_at dksX2_save_2 5 rfl rfl)
theorem dX2_save_55 : decode cX2_save 55 = .ok (.putfield 166, 3) := dk_181 0 166 (dk_at dksX2_save_2 8 rfl rfl)
theorem dX2_save_58 : decode cX2_save 58 = .ok (.aload_n 0, 1) := dk_42 (dk_at dksX2_save_2 11 rfl rfl)
theorem dX2_save_59 : decode cX2_save 59 = .ok (.aload_n 0, 1) := dk_42 (dk_at dksX2_save_2 12 rfl rfl)
theorem dX2_save_60 : decode cX2_save 60 = .ok (.getfield 114, 3) := dk_180 0 114 (dk_at dksX2_save_2 13 rfl rfl)
theorem dX2_save_63 : decode cX2_save 63 = .ok (.putfield 169, 3) := dk_181 0 169 (dk_at dksX2_save_2 16 rfl rfl)
theorem dX2_save_66 : decode cX2_save 66 = .ok (.aload_n 0, 1) := dk_42 (dk_at dksX2_save_2 19 rfl rfl)
theorem dX2_save_67 : decode cX2_save 67 = .ok (.aload_n 0, 1) := dk_42 (dk_at dksX2_save_2 20 rfl rfl)
theorem dX2_save_68 : decode cX2_save 68 = .ok (.getfield 135, 3) := dk_180 0 135 (dk_at dksX2_save_2 21 rfl rfl)
theorem dX2_save_71 : decode cX2_save 71 = .ok (.putfield 172, 3) := dk_181 0 172 (dk_at dksX2_save_3 0 rfl rfl)
theorem dX2_save_74 : decode cX2_save 74 = .ok (.aload_n 0, 1) := dk_42 (dk_at dksX2_save_3 3 rfl rfl)
theorem dX2_save_75 : decode cX2_save 75 = .ok (.aload_n 0, 1) := dk_42 (dk_at dksX2_save_3 4 rfl rfl)
theorem dX2_save_76 : decode cX2_save 76 = .ok (.getfield 107, 3) := dk_180 0 107 (dk_at dksX2_save_3 5 rfl rfl)
theorem dX2_save_79 : decode cX2_save 79 = .ok (.putfield 175, 3) := dk_181 0 175 (dk_at dksX2_save_3 8 rfl rfl)
theorem dX2_save_82 : decode cX2_save 82 = .ok (.return_, 1) := dk_177 (dk_at dksX2_save_3 11 rfl rfl)
abbrev cX2_back : ByteArray := prog_11_method_39_code
def yX2_back : MethodName := ⟨RX2, "back", "()V"⟩
def dkwX2_back_3 : List UInt8 := [181, 0, 135, 42, 42, 180, 0, 175, 181, 0, 107, 177]
abbrev dktX2_back_3 : List UInt8 := dkwX2_back_3 ++ []
def dkwX2_back_2 : List UInt8 := [181, 0, 90, 42, 42, 180, 0, 166, 181, 0, 141, 42, 42, 180, 0, 169, 181, 0, 114, 42, 42, 180, 0, 172]
abbrev dktX2_back_2 : List UInt8 := dkwX2_back_2 ++ dktX2_back_3
def dkwX2_back_1 : List UInt8 := [167, 255, 235, 42, 42, 180, 0, 157, 181, 0, 93, 42, 42, 180, 0, 160, 181, 0, 38, 42, 42, 180, 0, 163]
abbrev dktX2_back_1 : List UInt8 := dkwX2_back_1 ++ dktX2_back_2
def dkwX2_back_0 : List UInt8 := [3, 60, 27, 16, 8, 162, 0, 21, 42, 180, 0, 28, 27, 42, 180, 0, 51, 27, 46, 79, 132, 1, 1]
abbrev dktX2_back_0 : List UInt8 := dkwX2_back_0 ++ dktX2_back_1
theorem dksX2_back_0 : cX2_back.data.toList.drop 0 = dktX2_back_0 := by decide +kernel
theorem dksX2_back_1 : cX2_back.data.toList.drop 23 = dktX2_back_1 := dk_seg dksX2_back_0 23 rfl rfl
theorem dksX2_back_2 : cX2_back.data.toList.drop 47 = dktX2_back_2 := dk_seg dksX2_back_1 24 rfl rfl
theorem dksX2_back_3 : cX2_back.data.toList.drop 71 = dktX2_back_3 := dk_seg dksX2_back_2 24 rfl rfl
theorem dX2_back_0 : decode cX2_back 0 = .ok (.iconst 0, 1) := dk_3 (dk_at dksX2_back_0 0 rfl rfl)
theorem dX2_back_1 : decode cX2_back 1 = .ok (.istore_n 1, 1) := dk_60 (dk_at dksX2_back_0 1 rfl rfl)
theorem dX2_back_2 : decode cX2_back 2 = .ok (.iload_n 1, 1) := dk_27 (dk_at dksX2_back_0 2 rfl rfl)
theorem dX2_back_3 : decode cX2_back 3 = .ok (.bipush 8, 2) := dk_16 8 (dk_at dksX2_back_0 3 rfl rfl)
theorem dX2_back_5 : decode cX2_back 5 = .ok (.if_icmp .ge 21, 3) := dk_162 0 21 (dk_at dksX2_back_0 5 rfl rfl)
theorem dX2_back_8 : decode cX2_back 8 = .ok (.aload_n 0, 1) := dk_42 (dk_at dksX2_back_0 8 rfl rfl)
theorem dX2_back_9 : decode cX2_back 9 = .ok (.getfield 28, 3) := dk_180 0 28 (dk_at dksX2_back_0 9 rfl rfl)
theorem dX2_back_12 : decode cX2_back 12 = .ok (.iload_n 1, 1) := dk_27 (dk_at dksX2_back_0 12 rfl rfl)
theorem dX2_back_13 : decode cX2_back 13 = .ok (.aload_n 0, 1) := dk_42 (dk_at dksX2_back_0 13 rfl rfl)
theorem dX2_back_14 : decode cX2_back 14 = .ok (.getfield 51, 3) := dk_180 0 51 (dk_at dksX2_back_0 14 rfl rfl)
theorem dX2_back_17 : decode cX2_back 17 = .ok (.iload_n 1, 1) := dk_27 (dk_at dksX2_back_0 17 rfl rfl)
theorem dX2_back_18 : decode cX2_back 18 = .ok (.iaload, 1) := dk_46 (dk_at dksX2_back_0 18 rfl rfl)
theorem dX2_back_19 : decode cX2_back 19 = .ok (.iastore, 1) := dk_79 (dk_at dksX2_back_0 19 rfl rfl)
theorem dX2_back_20 : decode cX2_back 20 = .ok (.iinc 1 1, 3) := dk_132 1 1 (dk_at dksX2_back_0 20 rfl rfl)
theorem dX2_back_23 : decode cX2_back 23 = .ok (.goto (-21), 3) := dk_167 255 235 (dk_at dksX2_back_1 0 rfl rfl)
theorem dX2_back_26 : decode cX2_back 26 = .ok (.aload_n 0, 1) := dk_42 (dk_at dksX2_back_1 3 rfl rfl)
theorem dX2_back_27 : decode cX2_back 27 = .ok (.aload_n 0, 1) := dk_42 (dk_at dksX2_back_1 4 rfl rfl)
theorem dX2_back_28 : decode cX2_back 28 = .ok (.getfield 157, 3) := dk_180 0 157 (dk_at dksX2_back_1 5 rfl rfl)
theorem dX2_back_31 : decode cX2_back 31 = .ok (.putfield 93, 3) := dk_181 0 93 (dk_at dksX2_back_1 8 rfl rfl)
theorem dX2_back_34 : decode cX2_back 34 = .ok (.aload_n 0, 1) := dk_42 (dk_at dksX2_back_1 11 rfl rfl)
theorem dX2_back_35 : decode cX2_back 35 = .ok (.aload_n 0, 1) := dk_42 (dk_at dksX2_back_1 12 rfl rfl)
theorem dX2_back_36 : decode cX2_back 36 = .ok (.getfield 160, 3) := dk_180 0 160 (dk_at dksX2_back_1 13 rfl rfl)
theorem dX2_back_39 : decode cX2_back 39 = .ok (.putfield 38, 3) := dk_181 0 38 (dk_at dksX2_back_1 16 rfl rfl)
theorem dX2_back_42 : decode cX2_back 42 = .ok (.aload_n 0, 1) := dk_42 (dk_at dksX2_back_1 19 rfl rfl)
theorem dX2_back_43 : decode cX2_back 43 = .ok (.aload_n 0, 1) := dk_42 (dk_at dksX2_back_1 20 rfl rfl)
theorem dX2_back_44 : decode cX2_back 44 = .ok (.getfield 163, 3) := dk_180 0 163 (dk_at dksX2_back_1 21 rfl rfl)
theorem dX2_back_47 : decode cX2_back 47 = .ok (.putfield 90, 3) := dk_181 0 90 (dk_at dksX2_back_2 0 rfl rfl)
theorem dX2_back_50 : decode cX2_back 50 = .ok (.aload_n 0, 1) := dk_42 (dk_at dksX2_back_2 3 rfl rfl)
theorem dX2_back_51 : decode cX2_back 51 = .ok (.aload_n 0, 1) := dk_42 (dk_at dksX2_back_2 4 rfl rfl)
theorem dX2_back_52 : decode cX2_back 52 = .ok (.getfield 166, 3) := dk_180 0 166 (dk_at dksX2_back_2 5 rfl rfl)
theorem dX2_back_55 : decode cX2_back 55 = .ok (.putfield 141, 3) := dk_181 0 141 (dk_at dksX2_back_2 8 rfl rfl)
theorem dX2_back_58 : decode cX2_back 58 = .ok (.aload_n 0, 1) := dk_42 (dk_at dksX2_back_2 11 rfl rfl)
theorem dX2_back_59 : decode cX2_back 59 = .ok (.aload_n 0, 1) := dk_42 (dk_at dksX2_back_2 12 rfl rfl)
theorem dX2_back_60 : decode cX2_back 60 = .ok (.getfield 169, 3) := dk_180 0 169 (dk_at dksX2_back_2 13 rfl rfl)
theorem dX2_back_63 : decode cX2_back 63 = .ok (.putfield 114, 3) := dk_181 0 114 (dk_at dksX2_back_2 16 rfl rfl)
theorem dX2_back_66 : decode cX2_back 66 = .ok (.aload_n 0, 1) := dk_42 (dk_at dksX2_back_2 19 rfl rfl)
theorem dX2_back_67 : decode cX2_back 67 = .ok (.aload_n 0, 1) := dk_42 (dk_at dksX2_back_2 20 rfl rfl)
theorem dX2_back_68 : decode cX2_back 68 = .ok (.getfield 172, 3) := dk_180 0 172 (dk_at dksX2_back_2 21 rfl rfl)
theorem dX2_back_71 : decode cX2_back 71 = .ok (.putfield 135, 3) := dk_181 0 135 (dk_at dksX2_back_3 0 rfl rfl)
theorem dX2_back_74 : decode cX2_back 74 = .ok (.aload_n 0, 1) := dk_42 (dk_at dksX2_back_3 3 rfl rfl)
theorem dX2_back_75 : decode cX2_back 75 = .ok (.aload_n 0, 1) := dk_42 (dk_at dksX2_back_3 4 rfl rfl)
theorem dX2_back_76 : decode cX2_back 76 = .ok (.getfield 175, 3) := dk_180 0 175 (dk_at dksX2_back_3 5 rfl rfl)
theorem dX2_back_79 : decode cX2_back 79 = .ok (.putfield 107, 3) := dk_181 0 107 (dk_at dksX2_back_3 8 rfl rfl)
theorem dX2_back_82 : decode cX2_back 82 = .ok (.return_, 1) := dk_177 (dk_at dksX2_back_3 11 rfl rfl)
abbrev cX2_size : ByteArray := prog_11_method_5_code
def yX2_size : MethodName := ⟨RX2, "size", "(I)I"⟩
def dkwX2_size_1 : List UInt8 := [27, 172]
abbrev dktX2_size_1 : List UInt8 := dkwX2_size_1 ++ []
def dkwX2_size_0 : List UInt8 := [3, 60, 3, 61, 28, 16, 8, 162, 0, 17, 27, 26, 28, 122, 4, 126, 96, 60, 132, 2, 1, 167, 255, 239]
abbrev dktX2_size_0 : List UInt8 := dkwX2_size_0 ++ dktX2_size_1
theorem dksX2_size_0 : cX2_size.data.toList.drop 0 = dktX2_size_0 := by decide +kernel
theorem dksX2_size_1 : cX2_size.data.toList.drop 24 = dktX2_size_1 := dk_seg dksX2_size_0 24 rfl rfl
theorem dX2_size_0 : decode cX2_size 0 = .ok (.iconst 0, 1) := dk_3 (dk_at dksX2_size_0 0 rfl rfl)
theorem dX2_size_1 : decode cX2_size 1 = .ok (.istore_n 1, 1) := dk_60 (dk_at dksX2_size_0 1 rfl rfl)
theorem dX2_size_2 : decode cX2_size 2 = .ok (.iconst 0, 1) := dk_3 (dk_at dksX2_size_0 2 rfl rfl)
theorem dX2_size_3 : decode cX2_size 3 = .ok (.istore_n 2, 1) := dk_61 (dk_at dksX2_size_0 3 rfl rfl)
theorem dX2_size_4 : decode cX2_size 4 = .ok (.iload_n 2, 1) := dk_28 (dk_at dksX2_size_0 4 rfl rfl)
theorem dX2_size_5 : decode cX2_size 5 = .ok (.bipush 8, 2) := dk_16 8 (dk_at dksX2_size_0 5 rfl rfl)
theorem dX2_size_7 : decode cX2_size 7 = .ok (.if_icmp .ge 17, 3) := dk_162 0 17 (dk_at dksX2_size_0 7 rfl rfl)
theorem dX2_size_10 : decode cX2_size 10 = .ok (.iload_n 1, 1) := dk_27 (dk_at dksX2_size_0 10 rfl rfl)
theorem dX2_size_11 : decode cX2_size 11 = .ok (.iload_n 0, 1) := dk_26 (dk_at dksX2_size_0 11 rfl rfl)
theorem dX2_size_12 : decode cX2_size 12 = .ok (.iload_n 2, 1) := dk_28 (dk_at dksX2_size_0 12 rfl rfl)
theorem dX2_size_13 : decode cX2_size 13 = .ok (.ishr, 1) := dk_122 (dk_at dksX2_size_0 13 rfl rfl)
theorem dX2_size_14 : decode cX2_size 14 = .ok (.iconst 1, 1) := dk_4 (dk_at dksX2_size_0 14 rfl rfl)
theorem dX2_size_15 : decode cX2_size 15 = .ok (.iand, 1) := dk_126 (dk_at dksX2_size_0 15 rfl rfl)
theorem dX2_size_16 : decode cX2_size 16 = .ok (.iadd, 1) := dk_96 (dk_at dksX2_size_0 16 rfl rfl)
theorem dX2_size_17 : decode cX2_size 17 = .ok (.istore_n 1, 1) := dk_60 (dk_at dksX2_size_0 17 rfl rfl)
theorem dX2_size_18 : decode cX2_size 18 = .ok (.iinc 2 1, 3) := dk_132 2 1 (dk_at dksX2_size_0 18 rfl rfl)
theorem dX2_size_21 : decode cX2_size 21 = .ok (.goto (-17), 3) := dk_167 255 239 (dk_at dksX2_size_0 21 rfl rfl)
theorem dX2_size_24 : decode cX2_size 24 = .ok (.iload_n 1, 1) := dk_27 (dk_at dksX2_size_1 0 rfl rfl)
theorem dX2_size_25 : decode cX2_size 25 = .ok (.ireturn, 1) := dk_172 (dk_at dksX2_size_1 1 rfl rfl)
abbrev cX2_more : ByteArray := prog_11_method_44_code
def yX2_more : MethodName := ⟨RX2, "more", "(I)I"⟩
def dkwX2_more_0 : List UInt8 := [27, 3, 16, 99, 184, 0, 78, 153, 0, 11, 42, 27, 182, 0, 193, 167, 0, 5, 16, 154, 172]
abbrev dktX2_more_0 : List UInt8 := dkwX2_more_0 ++ []
theorem dksX2_more_0 : cX2_more.data.toList.drop 0 = dktX2_more_0 := by decide +kernel
theorem dX2_more_0 : decode cX2_more 0 = .ok (.iload_n 1, 1) := dk_27 (dk_at dksX2_more_0 0 rfl rfl)
theorem dX2_more_1 : decode cX2_more 1 = .ok (.iconst 0, 1) := dk_3 (dk_at dksX2_more_0 1 rfl rfl)
theorem dX2_more_2 : decode cX2_more 2 = .ok (.bipush 99, 2) := dk_16 99 (dk_at dksX2_more_0 2 rfl rfl)
theorem dX2_more_4 : decode cX2_more 4 = .ok (.invokestatic 78, 3) := dk_184 0 78 (dk_at dksX2_more_0 4 rfl rfl)
theorem dX2_more_7 : decode cX2_more 7 = .ok (.ifCond .eq 11, 3) := dk_153 0 11 (dk_at dksX2_more_0 7 rfl rfl)
theorem dX2_more_10 : decode cX2_more 10 = .ok (.aload_n 0, 1) := dk_42 (dk_at dksX2_more_0 10 rfl rfl)
theorem dX2_more_11 : decode cX2_more 11 = .ok (.iload_n 1, 1) := dk_27 (dk_at dksX2_more_0 11 rfl rfl)
theorem dX2_more_12 : decode cX2_more 12 = .ok (.invokevirtual 193, 3) := dk_182 0 193 (dk_at dksX2_more_0 12 rfl rfl)
theorem dX2_more_15 : decode cX2_more 15 = .ok (.goto 5, 3) := dk_167 0 5 (dk_at dksX2_more_0 15 rfl rfl)
theorem dX2_more_18 : decode cX2_more 18 = .ok (.bipush (-102), 2) := dk_16 154 (dk_at dksX2_more_0 18 rfl rfl)
theorem dX2_more_20 : decode cX2_more 20 = .ok (.ireturn, 1) := dk_172 (dk_at dksX2_more_0 20 rfl rfl)
abbrev cX2_moreNow : ByteArray := prog_11_method_43_code
def yX2_moreNow : MethodName := ⟨RX2, "moreNow", "(I)I"⟩
def dkwX2_moreNow_0 : List UInt8 := [42, 42, 180, 0, 93, 27, 182, 0, 184, 42, 42, 180, 0, 93, 3, 182, 0, 184, 100, 172]
abbrev dktX2_moreNow_0 : List UInt8 := dkwX2_moreNow_0 ++ []
theorem dksX2_moreNow_0 : cX2_moreNow.data.toList.drop 0 = dktX2_moreNow_0 := by decide +kernel
theorem dX2_moreNow_0 : decode cX2_moreNow 0 = .ok (.aload_n 0, 1) := dk_42 (dk_at dksX2_moreNow_0 0 rfl rfl)
theorem dX2_moreNow_1 : decode cX2_moreNow 1 = .ok (.aload_n 0, 1) := dk_42 (dk_at dksX2_moreNow_0 1 rfl rfl)
theorem dX2_moreNow_2 : decode cX2_moreNow 2 = .ok (.getfield 93, 3) := dk_180 0 93 (dk_at dksX2_moreNow_0 2 rfl rfl)
theorem dX2_moreNow_5 : decode cX2_moreNow 5 = .ok (.iload_n 1, 1) := dk_27 (dk_at dksX2_moreNow_0 5 rfl rfl)
theorem dX2_moreNow_6 : decode cX2_moreNow 6 = .ok (.invokevirtual 184, 3) := dk_182 0 184 (dk_at dksX2_moreNow_0 6 rfl rfl)
theorem dX2_moreNow_9 : decode cX2_moreNow 9 = .ok (.aload_n 0, 1) := dk_42 (dk_at dksX2_moreNow_0 9 rfl rfl)
theorem dX2_moreNow_10 : decode cX2_moreNow 10 = .ok (.aload_n 0, 1) := dk_42 (dk_at dksX2_moreNow_0 10 rfl rfl)
theorem dX2_moreNow_11 : decode cX2_moreNow 11 = .ok (.getfield 93, 3) := dk_180 0 93 (dk_at dksX2_moreNow_0 11 rfl rfl)
theorem dX2_moreNow_14 : decode cX2_moreNow 14 = .ok (.iconst 0, 1) := dk_3 (dk_at dksX2_moreNow_0 14 rfl rfl)
theorem dX2_moreNow_15 : decode cX2_moreNow 15 = .ok (.invokevirtual 184, 3) := dk_182 0 184 (dk_at dksX2_moreNow_0 15 rfl rfl)
theorem dX2_moreNow_18 : decode cX2_moreNow 18 = .ok (.isub, 1) := dk_100 (dk_at dksX2_moreNow_0 18 rfl rfl)
theorem dX2_moreNow_19 : decode cX2_moreNow 19 = .ok (.ireturn, 1) := dk_172 (dk_at dksX2_moreNow_0 19 rfl rfl)
abbrev cX2_missing : ByteArray := prog_11_method_46_code
def yX2_missing : MethodName := ⟨RX2, "missing", "(II)I"⟩
def dkwX2_missing_6 : List UInt8 := [21, 6, 167, 0, 14, 21, 4, 154, 0, 7, 3, 167, 0, 5, 21, 5, 172]
abbrev dktX2_missing_6 : List UInt8 := dkwX2_missing_6 ++ []
def dkwX2_missing_5 : List UInt8 := [128, 54, 6, 132, 7, 1, 167, 255, 208, 28, 154, 0, 8, 21, 4, 167, 0, 24, 28, 5, 160, 0, 8]
abbrev dktX2_missing_5 : List UInt8 := dkwX2_missing_5 ++ dktX2_missing_6
def dkwX2_missing_4 : List UInt8 := [42, 21, 7, 182, 0, 196, 27, 160, 0, 20, 132, 4, 1, 21, 5, 21, 7, 126, 54, 5, 21, 6, 21, 7]
abbrev dktX2_missing_4 : List UInt8 := dkwX2_missing_4 ++ dktX2_missing_5
def dkwX2_missing_3 : List UInt8 := [3, 54, 6, 4, 54, 7, 21, 7, 42, 182, 0, 129, 163, 0, 45, 21, 7, 29, 2, 130, 126, 154, 0, 30]
abbrev dktX2_missing_3 : List UInt8 := dkwX2_missing_3 ++ dktX2_missing_4
def dkwX2_missing_2 : List UInt8 := [21, 4, 120, 167, 0, 4, 3, 128, 62, 132, 4, 1, 167, 255, 224, 3, 54, 4, 42, 182, 0, 129, 54, 5]
abbrev dktX2_missing_2 : List UInt8 := dkwX2_missing_2 ++ dktX2_missing_3
def dkwX2_missing_1 : List UInt8 := [3, 54, 4, 21, 4, 42, 180, 0, 75, 162, 0, 29, 29, 42, 21, 4, 182, 0, 111, 153, 0, 10, 4]
abbrev dktX2_missing_1 : List UInt8 := dkwX2_missing_1 ++ dktX2_missing_2
def dkwX2_missing_0 : List UInt8 := [27, 4, 16, 72, 184, 0, 78, 153, 0, 12, 28, 3, 5, 184, 0, 78, 154, 0, 6, 16, 154, 172, 3, 62]
abbrev dktX2_missing_0 : List UInt8 := dkwX2_missing_0 ++ dktX2_missing_1
theorem dksX2_missing_0 : cX2_missing.data.toList.drop 0 = dktX2_missing_0 := by decide +kernel
theorem dksX2_missing_1 : cX2_missing.data.toList.drop 24 = dktX2_missing_1 := dk_seg dksX2_missing_0 24 rfl rfl
theorem dksX2_missing_2 : cX2_missing.data.toList.drop 47 = dktX2_missing_2 := dk_seg dksX2_missing_1 23 rfl rfl
theorem dksX2_missing_3 : cX2_missing.data.toList.drop 71 = dktX2_missing_3 := dk_seg dksX2_missing_2 24 rfl rfl
theorem dksX2_missing_4 : cX2_missing.data.toList.drop 95 = dktX2_missing_4 := dk_seg dksX2_missing_3 24 rfl rfl
theorem dksX2_missing_5 : cX2_missing.data.toList.drop 119 = dktX2_missing_5 := dk_seg dksX2_missing_4 24 rfl rfl
theorem dksX2_missing_6 : cX2_missing.data.toList.drop 142 = dktX2_missing_6 := dk_seg dksX2_missing_5 23 rfl rfl
theorem dX2_missing_0 : decode cX2_missing 0 = .ok (.iload_n 1, 1) := dk_27 (dk_at dksX2_missing_0 0 rfl rfl)
theorem dX2_missing_1 : decode cX2_missing 1 = .ok (.iconst 1, 1) := dk_4 (dk_at dksX2_missing_0 1 rfl rfl)
theorem dX2_missing_2 : decode cX2_missing 2 = .ok (.bipush 72, 2) := dk_16 72 (dk_at dksX2_missing_0 2 rfl rfl)
theorem dX2_missing_4 : decode cX2_missing 4 = .ok (.invokestatic 78, 3) := dk_184 0 78 (dk_at dksX2_missing_0 4 rfl rfl)
theorem dX2_missing_7 : decode cX2_missing 7 = .ok (.ifCond .eq 12, 3) := dk_153 0 12 (dk_at dksX2_missing_0 7 rfl rfl)
theorem dX2_missing_10 : decode cX2_missing 10 = .ok (.iload_n 2, 1) := dk_28 (dk_at dksX2_missing_0 10 rfl rfl)
theorem dX2_missing_11 : decode cX2_missing 11 = .ok (.iconst 0, 1) := dk_3 (dk_at dksX2_missing_0 11 rfl rfl)
theorem dX2_missing_12 : decode cX2_missing 12 = .ok (.iconst 2, 1) := dk_5 (dk_at dksX2_missing_0 12 rfl rfl)
theorem dX2_missing_13 : decode cX2_missing 13 = .ok (.invokestatic 78, 3) := dk_184 0 78 (dk_at dksX2_missing_0 13 rfl rfl)
theorem dX2_missing_16 : decode cX2_missing 16 = .ok (.ifCond .ne 6, 3) := dk_154 0 6 (dk_at dksX2_missing_0 16 rfl rfl)
theorem dX2_missing_19 : decode cX2_missing 19 = .ok (.bipush (-102), 2) := dk_16 154 (dk_at dksX2_missing_0 19 rfl rfl)
theorem dX2_missing_21 : decode cX2_missing 21 = .ok (.ireturn, 1) := dk_172 (dk_at dksX2_missing_0 21 rfl rfl)
theorem dX2_missing_22 : decode cX2_missing 22 = .ok (.iconst 0, 1) := dk_3 (dk_at dksX2_missing_0 22 rfl rfl)
theorem dX2_missing_23 : decode cX2_missing 23 = .ok (.istore_n 3, 1) := dk_62 (dk_at dksX2_missing_0 23 rfl rfl)
theorem dX2_missing_24 : decode cX2_missing 24 = .ok (.iconst 0, 1) := dk_3 (dk_at dksX2_missing_1 0 rfl rfl)
theorem dX2_missing_25 : decode cX2_missing 25 = .ok (.istore 4, 2) := dk_54 4 (dk_at dksX2_missing_1 1 rfl rfl)
theorem dX2_missing_27 : decode cX2_missing 27 = .ok (.iload 4, 2) := dk_21 4 (dk_at dksX2_missing_1 3 rfl rfl)
theorem dX2_missing_29 : decode cX2_missing 29 = .ok (.aload_n 0, 1) := dk_42 (dk_at dksX2_missing_1 5 rfl rfl)
theorem dX2_missing_30 : decode cX2_missing 30 = .ok (.getfield 75, 3) := dk_180 0 75 (dk_at dksX2_missing_1 6 rfl rfl)
theorem dX2_missing_33 : decode cX2_missing 33 = .ok (.if_icmp .ge 29, 3) := dk_162 0 29 (dk_at dksX2_missing_1 9 rfl rfl)
theorem dX2_missing_36 : decode cX2_missing 36 = .ok (.iload_n 3, 1) := dk_29 (dk_at dksX2_missing_1 12 rfl rfl)
theorem dX2_missing_37 : decode cX2_missing 37 = .ok (.aload_n 0, 1) := dk_42 (dk_at dksX2_missing_1 13 rfl rfl)
theorem dX2_missing_38 : decode cX2_missing 38 = .ok (.iload 4, 2) := dk_21 4 (dk_at dksX2_missing_1 14 rfl rfl)
theorem dX2_missing_40 : decode cX2_missing 40 = .ok (.invokevirtual 111, 3) := dk_182 0 111 (dk_at dksX2_missing_1 16 rfl rfl)
theorem dX2_missing_43 : decode cX2_missing 43 = .ok (.ifCond .eq 10, 3) := dk_153 0 10 (dk_at dksX2_missing_1 19 rfl rfl)
theorem dX2_missing_46 : decode cX2_missing 46 = .ok (.iconst 1, 1) := dk_4 (dk_at dksX2_missing_1 22 rfl rfl)
theorem dX2_missing_47 : decode cX2_missing 47 = .ok (.iload 4, 2) := dk_21 4 (dk_at dksX2_missing_2 0 rfl rfl)
theorem dX2_missing_49 : decode cX2_missing 49 = .ok (.ishl, 1) := dk_120 (dk_at dksX2_missing_2 2 rfl rfl)
theorem dX2_missing_50 : decode cX2_missing 50 = .ok (.goto 4, 3) := dk_167 0 4 (dk_at dksX2_missing_2 3 rfl rfl)
theorem dX2_missing_53 : decode cX2_missing 53 = .ok (.iconst 0, 1) := dk_3 (dk_at dksX2_missing_2 6 rfl rfl)
theorem dX2_missing_54 : decode cX2_missing 54 = .ok (.ior, 1) := dk_128 (dk_at dksX2_missing_2 7 rfl rfl)
theorem dX2_missing_55 : decode cX2_missing 55 = .ok (.istore_n 3, 1) := dk_62 (dk_at dksX2_missing_2 8 rfl rfl)
theorem dX2_missing_56 : decode cX2_missing 56 = .ok (.iinc 4 1, 3) := dk_132 4 1 (dk_at dksX2_missing_2 9 rfl rfl)
theorem dX2_missing_59 : decode cX2_missing 59 = .ok (.goto (-32), 3) := dk_167 255 224 (dk_at dksX2_missing_2 12 rfl rfl)
theorem dX2_missing_62 : decode cX2_missing 62 = .ok (.iconst 0, 1) := dk_3 (dk_at dksX2_missing_2 15 rfl rfl)
theorem dX2_missing_63 : decode cX2_missing 63 = .ok (.istore 4, 2) := dk_54 4 (dk_at dksX2_missing_2 16 rfl rfl)
theorem dX2_missing_65 : decode cX2_missing 65 = .ok (.aload_n 0, 1) := dk_42 (dk_at dksX2_missing_2 18 rfl rfl)
theorem dX2_missing_66 : decode cX2_missing 66 = .ok (.invokevirtual 129, 3) := dk_182 0 129 (dk_at dksX2_missing_2 19 rfl rfl)
theorem dX2_missing_69 : decode cX2_missing 69 = .ok (.istore 5, 2) := dk_54 5 (dk_at dksX2_missing_2 22 rfl rfl)
theorem dX2_missing_71 : decode cX2_missing 71 = .ok (.iconst 0, 1) := dk_3 (dk_at dksX2_missing_3 0 rfl rfl)
theorem dX2_missing_72 : decode cX2_missing 72 = .ok (.istore 6, 2) := dk_54 6 (dk_at dksX2_missing_3 1 rfl rfl)
theorem dX2_missing_74 : decode cX2_missing 74 = .ok (.iconst 1, 1) := dk_4 (dk_at dksX2_missing_3 3 rfl rfl)
theorem dX2_missing_75 : decode cX2_missing 75 = .ok (.istore 7, 2) := dk_54 7 (dk_at dksX2_missing_3 4 rfl rfl)
theorem dX2_missing_77 : decode cX2_missing 77 = .ok (.iload 7, 2) := dk_21 7 (dk_at dksX2_missing_3 6 rfl rfl)
theorem dX2_missing_79 : decode cX2_missing 79 = .ok (.aload_n 0, 1) := dk_42 (dk_at dksX2_missing_3 8 rfl rfl)
theorem dX2_missing_80 : decode cX2_missing 80 = .ok (.invokevirtual 129, 3) := dk_182 0 129 (dk_at dksX2_missing_3 9 rfl rfl)
theorem dX2_missing_83 : decode cX2_missing 83 = .ok (.if_icmp .gt 45, 3) := dk_163 0 45 (dk_at dksX2_missing_3 12 rfl rfl)
theorem dX2_missing_86 : decode cX2_missing 86 = .ok (.iload 7, 2) := dk_21 7 (dk_at dksX2_missing_3 15 rfl rfl)
theorem dX2_missing_88 : decode cX2_missing 88 = .ok (.iload_n 3, 1) := dk_29 (dk_at dksX2_missing_3 17 rfl rfl)
theorem dX2_missing_89 : decode cX2_missing 89 = .ok (.iconst (-1), 1) := dk_2 (dk_at dksX2_missing_3 18 rfl rfl)
theorem dX2_missing_90 : decode cX2_missing 90 = .ok (.ixor, 1) := dk_130 (dk_at dksX2_missing_3 19 rfl rfl)
theorem dX2_missing_91 : decode cX2_missing 91 = .ok (.iand, 1) := dk_126 (dk_at dksX2_missing_3 20 rfl rfl)
theorem dX2_missing_92 : decode cX2_missing 92 = .ok (.ifCond .ne 30, 3) := dk_154 0 30 (dk_at dksX2_missing_3 21 rfl rfl)
theorem dX2_missing_95 : decode cX2_missing 95 = .ok (.aload_n 0, 1) := dk_42 (dk_at dksX2_missing_4 0 rfl rfl)
theorem dX2_missing_96 : decode cX2_missing 96 = .ok (.iload 7, 2) := dk_21 7 (dk_at dksX2_missing_4 1 rfl rfl)
theorem dX2_missing_98 : decode cX2_missing 98 = .ok (.invokevirtual 196, 3) := dk_182 0 196 (dk_at dksX2_missing_4 3 rfl rfl)
theorem dX2_missing_101 : decode cX2_missing 101 = .ok (.iload_n 1, 1) := dk_27 (dk_at dksX2_missing_4 6 rfl rfl)
theorem dX2_missing_102 : decode cX2_missing 102 = .ok (.if_icmp .ne 20, 3) := dk_160 0 20 (dk_at dksX2_missing_4 7 rfl rfl)
theorem dX2_missing_105 : decode cX2_missing 105 = .ok (.iinc 4 1, 3) := dk_132 4 1 (dk_at dksX2_missing_4 10 rfl rfl)
theorem dX2_missing_108 : decode cX2_missing 108 = .ok (.iload 5, 2) := dk_21 5 (dk_at dksX2_missing_4 13 rfl rfl)
theorem dX2_missing_110 : decode cX2_missing 110 = .ok (.iload 7, 2) := dk_21 7 (dk_at dksX2_missing_4 15 rfl rfl)
theorem dX2_missing_112 : decode cX2_missing 112 = .ok (.iand, 1) := dk_126 (dk_at dksX2_missing_4 17 rfl rfl)
theorem dX2_missing_113 : decode cX2_missing 113 = .ok (.istore 5, 2) := dk_54 5 (dk_at dksX2_missing_4 18 rfl rfl)
theorem dX2_missing_115 : decode cX2_missing 115 = .ok (.iload 6, 2) := dk_21 6 (dk_at dksX2_missing_4 20 rfl rfl)
theorem dX2_missing_117 : decode cX2_missing 117 = .ok (.iload 7, 2) := dk_21 7 (dk_at dksX2_missing_4 22 rfl rfl)
theorem dX2_missing_119 : decode cX2_missing 119 = .ok (.ior, 1) := dk_128 (dk_at dksX2_missing_5 0 rfl rfl)
theorem dX2_missing_120 : decode cX2_missing 120 = .ok (.istore 6, 2) := dk_54 6 (dk_at dksX2_missing_5 1 rfl rfl)
theorem dX2_missing_122 : decode cX2_missing 122 = .ok (.iinc 7 1, 3) := dk_132 7 1 (dk_at dksX2_missing_5 3 rfl rfl)
theorem dX2_missing_125 : decode cX2_missing 125 = .ok (.goto (-48), 3) := dk_167 255 208 (dk_at dksX2_missing_5 6 rfl rfl)
theorem dX2_missing_128 : decode cX2_missing 128 = .ok (.iload_n 2, 1) := dk_28 (dk_at dksX2_missing_5 9 rfl rfl)
theorem dX2_missing_129 : decode cX2_missing 129 = .ok (.ifCond .ne 8, 3) := dk_154 0 8 (dk_at dksX2_missing_5 10 rfl rfl)
theorem dX2_missing_132 : decode cX2_missing 132 = .ok (.iload 4, 2) := dk_21 4 (dk_at dksX2_missing_5 13 rfl rfl)
theorem dX2_missing_134 : decode cX2_missing 134 = .ok (.goto 24, 3) := dk_167 0 24 (dk_at dksX2_missing_5 15 rfl rfl)
theorem dX2_missing_137 : decode cX2_missing 137 = .ok (.iload_n 2, 1) := dk_28 (dk_at dksX2_missing_5 18 rfl rfl)
theorem dX2_missing_138 : decode cX2_missing 138 = .ok (.iconst 2, 1) := dk_5 (dk_at dksX2_missing_5 19 rfl rfl)
theorem dX2_missing_139 : decode cX2_missing 139 = .ok (.if_icmp .ne 8, 3) := dk_160 0 8 (dk_at dksX2_missing_5 20 rfl rfl)
theorem dX2_missing_142 : decode cX2_missing 142 = .ok (.iload 6, 2) := dk_21 6 (dk_at dksX2_missing_6 0 rfl rfl)
theorem dX2_missing_144 : decode cX2_missing 144 = .ok (.goto 14, 3) := dk_167 0 14 (dk_at dksX2_missing_6 2 rfl rfl)
theorem dX2_missing_147 : decode cX2_missing 147 = .ok (.iload 4, 2) := dk_21 4 (dk_at dksX2_missing_6 5 rfl rfl)
theorem dX2_missing_149 : decode cX2_missing 149 = .ok (.ifCond .ne 7, 3) := dk_154 0 7 (dk_at dksX2_missing_6 7 rfl rfl)
theorem dX2_missing_152 : decode cX2_missing 152 = .ok (.iconst 0, 1) := dk_3 (dk_at dksX2_missing_6 10 rfl rfl)
theorem dX2_missing_153 : decode cX2_missing 153 = .ok (.goto 5, 3) := dk_167 0 5 (dk_at dksX2_missing_6 11 rfl rfl)
theorem dX2_missing_156 : decode cX2_missing 156 = .ok (.iload 5, 2) := dk_21 5 (dk_at dksX2_missing_6 14 rfl rfl)
theorem dX2_missing_158 : decode cX2_missing 158 = .ok (.ireturn, 1) := dk_172 (dk_at dksX2_missing_6 16 rfl rfl)
abbrev cX2_sumOf : ByteArray := prog_11_method_45_code
def yX2_sumOf : MethodName := ⟨RX2, "sumOf", "(I)I"⟩
def dkwX2_sumOf_1 : List UInt8 := [180, 0, 22, 29, 46, 167, 0, 4, 3, 96, 61, 132, 3, 1, 167, 255, 224, 28, 172]
abbrev dktX2_sumOf_1 : List UInt8 := dkwX2_sumOf_1 ++ []
def dkwX2_sumOf_0 : List UInt8 := [3, 61, 3, 62, 29, 42, 180, 0, 75, 162, 0, 30, 28, 27, 29, 184, 0, 96, 153, 0, 12, 42]
abbrev dktX2_sumOf_0 : List UInt8 := dkwX2_sumOf_0 ++ dktX2_sumOf_1
theorem dksX2_sumOf_0 : cX2_sumOf.data.toList.drop 0 = dktX2_sumOf_0 := by decide +kernel
theorem dksX2_sumOf_1 : cX2_sumOf.data.toList.drop 22 = dktX2_sumOf_1 := dk_seg dksX2_sumOf_0 22 rfl rfl
theorem dX2_sumOf_0 : decode cX2_sumOf 0 = .ok (.iconst 0, 1) := dk_3 (dk_at dksX2_sumOf_0 0 rfl rfl)
theorem dX2_sumOf_1 : decode cX2_sumOf 1 = .ok (.istore_n 2, 1) := dk_61 (dk_at dksX2_sumOf_0 1 rfl rfl)
theorem dX2_sumOf_2 : decode cX2_sumOf 2 = .ok (.iconst 0, 1) := dk_3 (dk_at dksX2_sumOf_0 2 rfl rfl)
theorem dX2_sumOf_3 : decode cX2_sumOf 3 = .ok (.istore_n 3, 1) := dk_62 (dk_at dksX2_sumOf_0 3 rfl rfl)
theorem dX2_sumOf_4 : decode cX2_sumOf 4 = .ok (.iload_n 3, 1) := dk_29 (dk_at dksX2_sumOf_0 4 rfl rfl)
theorem dX2_sumOf_5 : decode cX2_sumOf 5 = .ok (.aload_n 0, 1) := dk_42 (dk_at dksX2_sumOf_0 5 rfl rfl)
theorem dX2_sumOf_6 : decode cX2_sumOf 6 = .ok (.getfield 75, 3) := dk_180 0 75 (dk_at dksX2_sumOf_0 6 rfl rfl)
theorem dX2_sumOf_9 : decode cX2_sumOf 9 = .ok (.if_icmp .ge 30, 3) := dk_162 0 30 (dk_at dksX2_sumOf_0 9 rfl rfl)
theorem dX2_sumOf_12 : decode cX2_sumOf 12 = .ok (.iload_n 2, 1) := dk_28 (dk_at dksX2_sumOf_0 12 rfl rfl)
theorem dX2_sumOf_13 : decode cX2_sumOf 13 = .ok (.iload_n 1, 1) := dk_27 (dk_at dksX2_sumOf_0 13 rfl rfl)
theorem dX2_sumOf_14 : decode cX2_sumOf 14 = .ok (.iload_n 3, 1) := dk_29 (dk_at dksX2_sumOf_0 14 rfl rfl)
theorem dX2_sumOf_15 : decode cX2_sumOf 15 = .ok (.invokestatic 96, 3) := dk_184 0 96 (dk_at dksX2_sumOf_0 15 rfl rfl)
theorem dX2_sumOf_18 : decode cX2_sumOf 18 = .ok (.ifCond .eq 12, 3) := dk_153 0 12 (dk_at dksX2_sumOf_0 18 rfl rfl)
theorem dX2_sumOf_21 : decode cX2_sumOf 21 = .ok (.aload_n 0, 1) := dk_42 (dk_at dksX2_sumOf_0 21 rfl rfl)
theorem dX2_sumOf_22 : decode cX2_sumOf 22 = .ok (.getfield 22, 3) := dk_180 0 22 (dk_at dksX2_sumOf_1 0 rfl rfl)
theorem dX2_sumOf_25 : decode cX2_sumOf 25 = .ok (.iload_n 3, 1) := dk_29 (dk_at dksX2_sumOf_1 3 rfl rfl)
theorem dX2_sumOf_26 : decode cX2_sumOf 26 = .ok (.iaload, 1) := dk_46 (dk_at dksX2_sumOf_1 4 rfl rfl)
theorem dX2_sumOf_27 : decode cX2_sumOf 27 = .ok (.goto 4, 3) := dk_167 0 4 (dk_at dksX2_sumOf_1 5 rfl rfl)
theorem dX2_sumOf_30 : decode cX2_sumOf 30 = .ok (.iconst 0, 1) := dk_3 (dk_at dksX2_sumOf_1 8 rfl rfl)
theorem dX2_sumOf_31 : decode cX2_sumOf 31 = .ok (.iadd, 1) := dk_96 (dk_at dksX2_sumOf_1 9 rfl rfl)
theorem dX2_sumOf_32 : decode cX2_sumOf 32 = .ok (.istore_n 2, 1) := dk_61 (dk_at dksX2_sumOf_1 10 rfl rfl)
theorem dX2_sumOf_33 : decode cX2_sumOf 33 = .ok (.iinc 3 1, 3) := dk_132 3 1 (dk_at dksX2_sumOf_1 11 rfl rfl)
theorem dX2_sumOf_36 : decode cX2_sumOf 36 = .ok (.goto (-32), 3) := dk_167 255 224 (dk_at dksX2_sumOf_1 14 rfl rfl)
theorem dX2_sumOf_39 : decode cX2_sumOf 39 = .ok (.iload_n 2, 1) := dk_28 (dk_at dksX2_sumOf_1 17 rfl rfl)
theorem dX2_sumOf_40 : decode cX2_sumOf 40 = .ok (.ireturn, 1) := dk_172 (dk_at dksX2_sumOf_1 18 rfl rfl)
abbrev cX2_rest : ByteArray := prog_11_method_48_code
def yX2_rest : MethodName := ⟨RX2, "rest", "(II)I"⟩
def dkwX2_rest_5 : List UInt8 := [21, 6, 167, 0, 18, 28, 5, 160, 0, 8, 21, 4, 167, 0, 8, 42, 180, 0, 201, 136, 172]
abbrev dktX2_rest_5 : List UInt8 := dkwX2_rest_5 ++ []
def dkwX2_rest_4 : List UInt8 := [180, 0, 38, 54, 6, 42, 182, 0, 181, 28, 154, 0, 8, 21, 5, 167, 0, 28, 28, 4, 160, 0, 8]
abbrev dktX2_rest_4 : List UInt8 := dkwX2_rest_4 ++ dktX2_rest_5
def dkwX2_rest_3 : List UInt8 := [180, 0, 90, 4, 100, 167, 0, 4, 2, 54, 4, 167, 255, 208, 42, 182, 0, 151, 29, 100, 54, 5, 42]
abbrev dktX2_rest_3 : List UInt8 := dkwX2_rest_3 ++ dktX2_rest_4
def dkwX2_rest_2 : List UInt8 := [154, 0, 7, 4, 167, 0, 4, 3, 181, 0, 107, 42, 182, 0, 148, 87, 42, 180, 0, 135, 153, 0, 12, 42]
abbrev dktX2_rest_2 : List UInt8 := dkwX2_rest_2 ++ dktX2_rest_3
def dkwX2_rest_1 : List UInt8 := [181, 0, 201, 42, 182, 0, 151, 62, 2, 54, 4, 42, 182, 0, 144, 154, 0, 47, 42, 42, 6, 182, 0, 211]
abbrev dktX2_rest_1 : List UInt8 := dkwX2_rest_1 ++ dktX2_rest_2
def dkwX2_rest_0 : List UInt8 := [27, 155, 0, 12, 28, 3, 6, 184, 0, 78, 154, 0, 6, 16, 154, 172, 42, 182, 0, 178, 42, 27, 133]
abbrev dktX2_rest_0 : List UInt8 := dkwX2_rest_0 ++ dktX2_rest_1
theorem dksX2_rest_0 : cX2_rest.data.toList.drop 0 = dktX2_rest_0 := by decide +kernel
theorem dksX2_rest_1 : cX2_rest.data.toList.drop 23 = dktX2_rest_1 := dk_seg dksX2_rest_0 23 rfl rfl
theorem dksX2_rest_2 : cX2_rest.data.toList.drop 47 = dktX2_rest_2 := dk_seg dksX2_rest_1 24 rfl rfl
theorem dksX2_rest_3 : cX2_rest.data.toList.drop 71 = dktX2_rest_3 := dk_seg dksX2_rest_2 24 rfl rfl
theorem dksX2_rest_4 : cX2_rest.data.toList.drop 94 = dktX2_rest_4 := dk_seg dksX2_rest_3 23 rfl rfl
theorem dksX2_rest_5 : cX2_rest.data.toList.drop 117 = dktX2_rest_5 := dk_seg dksX2_rest_4 23 rfl rfl
theorem dX2_rest_0 : decode cX2_rest 0 = .ok (.iload_n 1, 1) := dk_27 (dk_at dksX2_rest_0 0 rfl rfl)
theorem dX2_rest_1 : decode cX2_rest 1 = .ok (.ifCond .lt 12, 3) := dk_155 0 12 (dk_at dksX2_rest_0 1 rfl rfl)
theorem dX2_rest_4 : decode cX2_rest 4 = .ok (.iload_n 2, 1) := dk_28 (dk_at dksX2_rest_0 4 rfl rfl)
theorem dX2_rest_5 : decode cX2_rest 5 = .ok (.iconst 0, 1) := dk_3 (dk_at dksX2_rest_0 5 rfl rfl)
theorem dX2_rest_6 : decode cX2_rest 6 = .ok (.iconst 3, 1) := dk_6 (dk_at dksX2_rest_0 6 rfl rfl)
theorem dX2_rest_7 : decode cX2_rest 7 = .ok (.invokestatic 78, 3) := dk_184 0 78 (dk_at dksX2_rest_0 7 rfl rfl)
theorem dX2_rest_10 : decode cX2_rest 10 = .ok (.ifCond .ne 6, 3) := dk_154 0 6 (dk_at dksX2_rest_0 10 rfl rfl)
theorem dX2_rest_13 : decode cX2_rest 13 = .ok (.bipush (-102), 2) := dk_16 154 (dk_at dksX2_rest_0 13 rfl rfl)
theorem dX2_rest_15 : decode cX2_rest 15 = .ok (.ireturn, 1) := dk_172 (dk_at dksX2_rest_0 15 rfl rfl)
theorem dX2_rest_16 : decode cX2_rest 16 = .ok (.aload_n 0, 1) := dk_42 (dk_at dksX2_rest_0 16 rfl rfl)
theorem dX2_rest_17 : decode cX2_rest 17 = .ok (.invokevirtual 178, 3) := dk_182 0 178 (dk_at dksX2_rest_0 17 rfl rfl)
theorem dX2_rest_20 : decode cX2_rest 20 = .ok (.aload_n 0, 1) := dk_42 (dk_at dksX2_rest_0 20 rfl rfl)
theorem dX2_rest_21 : decode cX2_rest 21 = .ok (.iload_n 1, 1) := dk_27 (dk_at dksX2_rest_0 21 rfl rfl)
theorem dX2_rest_22 : decode cX2_rest 22 = .ok (.i2l, 1) := dk_133 (dk_at dksX2_rest_0 22 rfl rfl)
theorem dX2_rest_23 : decode cX2_rest 23 = .ok (.putfield 201, 3) := dk_181 0 201 (dk_at dksX2_rest_1 0 rfl rfl)
theorem dX2_rest_26 : decode cX2_rest 26 = .ok (.aload_n 0, 1) := dk_42 (dk_at dksX2_rest_1 3 rfl rfl)
theorem dX2_rest_27 : decode cX2_rest 27 = .ok (.invokevirtual 151, 3) := dk_182 0 151 (dk_at dksX2_rest_1 4 rfl rfl)
theorem dX2_rest_30 : decode cX2_rest 30 = .ok (.istore_n 3, 1) := dk_62 (dk_at dksX2_rest_1 7 rfl rfl)
theorem dX2_rest_31 : decode cX2_rest 31 = .ok (.iconst (-1), 1) := dk_2 (dk_at dksX2_rest_1 8 rfl rfl)
theorem dX2_rest_32 : decode cX2_rest 32 = .ok (.istore 4, 2) := dk_54 4 (dk_at dksX2_rest_1 9 rfl rfl)
theorem dX2_rest_34 : decode cX2_rest 34 = .ok (.aload_n 0, 1) := dk_42 (dk_at dksX2_rest_1 11 rfl rfl)
theorem dX2_rest_35 : decode cX2_rest 35 = .ok (.invokevirtual 144, 3) := dk_182 0 144 (dk_at dksX2_rest_1 12 rfl rfl)
theorem dX2_rest_38 : decode cX2_rest 38 = .ok (.ifCond .ne 47, 3) := dk_154 0 47 (dk_at dksX2_rest_1 15 rfl rfl)
theorem dX2_rest_41 : decode cX2_rest 41 = .ok (.aload_n 0, 1) := dk_42 (dk_at dksX2_rest_1 18 rfl rfl)
theorem dX2_rest_42 : decode cX2_rest 42 = .ok (.aload_n 0, 1) := dk_42 (dk_at dksX2_rest_1 19 rfl rfl)
theorem dX2_rest_43 : decode cX2_rest 43 = .ok (.iconst 3, 1) := dk_6 (dk_at dksX2_rest_1 20 rfl rfl)
theorem dX2_rest_44 : decode cX2_rest 44 = .ok (.invokevirtual 211, 3) := dk_182 0 211 (dk_at dksX2_rest_1 21 rfl rfl)
theorem dX2_rest_47 : decode cX2_rest 47 = .ok (.ifCond .ne 7, 3) := dk_154 0 7 (dk_at dksX2_rest_2 0 rfl rfl)
theorem dX2_rest_50 : decode cX2_rest 50 = .ok (.iconst 1, 1) := dk_4 (dk_at dksX2_rest_2 3 rfl rfl)
theorem dX2_rest_51 : decode cX2_rest 51 = .ok (.goto 4, 3) := dk_167 0 4 (dk_at dksX2_rest_2 4 rfl rfl)
theorem dX2_rest_54 : decode cX2_rest 54 = .ok (.iconst 0, 1) := dk_3 (dk_at dksX2_rest_2 7 rfl rfl)
theorem dX2_rest_55 : decode cX2_rest 55 = .ok (.putfield 107, 3) := dk_181 0 107 (dk_at dksX2_rest_2 8 rfl rfl)
theorem dX2_rest_58 : decode cX2_rest 58 = .ok (.aload_n 0, 1) := dk_42 (dk_at dksX2_rest_2 11 rfl rfl)
theorem dX2_rest_59 : decode cX2_rest 59 = .ok (.invokevirtual 148, 3) := dk_182 0 148 (dk_at dksX2_rest_2 12 rfl rfl)
theorem dX2_rest_62 : decode cX2_rest 62 = .ok (.pop, 1) := dk_87 (dk_at dksX2_rest_2 15 rfl rfl)
theorem dX2_rest_63 : decode cX2_rest 63 = .ok (.aload_n 0, 1) := dk_42 (dk_at dksX2_rest_2 16 rfl rfl)
theorem dX2_rest_64 : decode cX2_rest 64 = .ok (.getfield 135, 3) := dk_180 0 135 (dk_at dksX2_rest_2 17 rfl rfl)
theorem dX2_rest_67 : decode cX2_rest 67 = .ok (.ifCond .eq 12, 3) := dk_153 0 12 (dk_at dksX2_rest_2 20 rfl rfl)
theorem dX2_rest_70 : decode cX2_rest 70 = .ok (.aload_n 0, 1) := dk_42 (dk_at dksX2_rest_2 23 rfl rfl)
theorem dX2_rest_71 : decode cX2_rest 71 = .ok (.getfield 90, 3) := dk_180 0 90 (dk_at dksX2_rest_3 0 rfl rfl)
theorem dX2_rest_74 : decode cX2_rest 74 = .ok (.iconst 1, 1) := dk_4 (dk_at dksX2_rest_3 3 rfl rfl)
theorem dX2_rest_75 : decode cX2_rest 75 = .ok (.isub, 1) := dk_100 (dk_at dksX2_rest_3 4 rfl rfl)
theorem dX2_rest_76 : decode cX2_rest 76 = .ok (.goto 4, 3) := dk_167 0 4 (dk_at dksX2_rest_3 5 rfl rfl)
theorem dX2_rest_79 : decode cX2_rest 79 = .ok (.iconst (-1), 1) := dk_2 (dk_at dksX2_rest_3 8 rfl rfl)
theorem dX2_rest_80 : decode cX2_rest 80 = .ok (.istore 4, 2) := dk_54 4 (dk_at dksX2_rest_3 9 rfl rfl)
theorem dX2_rest_82 : decode cX2_rest 82 = .ok (.goto (-48), 3) := dk_167 255 208 (dk_at dksX2_rest_3 11 rfl rfl)
theorem dX2_rest_85 : decode cX2_rest 85 = .ok (.aload_n 0, 1) := dk_42 (dk_at dksX2_rest_3 14 rfl rfl)
theorem dX2_rest_86 : decode cX2_rest 86 = .ok (.invokevirtual 151, 3) := dk_182 0 151 (dk_at dksX2_rest_3 15 rfl rfl)
theorem dX2_rest_89 : decode cX2_rest 89 = .ok (.iload_n 3, 1) := dk_29 (dk_at dksX2_rest_3 18 rfl rfl)
theorem dX2_rest_90 : decode cX2_rest 90 = .ok (.isub, 1) := dk_100 (dk_at dksX2_rest_3 19 rfl rfl)
theorem dX2_rest_91 : decode cX2_rest 91 = .ok (.istore 5, 2) := dk_54 5 (dk_at dksX2_rest_3 20 rfl rfl)
theorem dX2_rest_93 : decode cX2_rest 93 = .ok (.aload_n 0, 1) := dk_42 (dk_at dksX2_rest_3 22 rfl rfl)
theorem dX2_rest_94 : decode cX2_rest 94 = .ok (.getfield 38, 3) := dk_180 0 38 (dk_at dksX2_rest_4 0 rfl rfl)
theorem dX2_rest_97 : decode cX2_rest 97 = .ok (.istore 6, 2) := dk_54 6 (dk_at dksX2_rest_4 3 rfl rfl)
theorem dX2_rest_99 : decode cX2_rest 99 = .ok (.aload_n 0, 1) := dk_42 (dk_at dksX2_rest_4 5 rfl rfl)
theorem dX2_rest_100 : decode cX2_rest 100 = .ok (.invokevirtual 181, 3) := dk_182 0 181 (dk_at dksX2_rest_4 6 rfl rfl)
theorem dX2_rest_103 : decode cX2_rest 103 = .ok (.iload_n 2, 1) := dk_28 (dk_at dksX2_rest_4 9 rfl rfl)
theorem dX2_rest_104 : decode cX2_rest 104 = .ok (.ifCond .ne 8, 3) := dk_154 0 8 (dk_at dksX2_rest_4 10 rfl rfl)
theorem dX2_rest_107 : decode cX2_rest 107 = .ok (.iload 5, 2) := dk_21 5 (dk_at dksX2_rest_4 13 rfl rfl)
theorem dX2_rest_109 : decode cX2_rest 109 = .ok (.goto 28, 3) := dk_167 0 28 (dk_at dksX2_rest_4 15 rfl rfl)
theorem dX2_rest_112 : decode cX2_rest 112 = .ok (.iload_n 2, 1) := dk_28 (dk_at dksX2_rest_4 18 rfl rfl)
theorem dX2_rest_113 : decode cX2_rest 113 = .ok (.iconst 1, 1) := dk_4 (dk_at dksX2_rest_4 19 rfl rfl)
theorem dX2_rest_114 : decode cX2_rest 114 = .ok (.if_icmp .ne 8, 3) := dk_160 0 8 (dk_at dksX2_rest_4 20 rfl rfl)
theorem dX2_rest_117 : decode cX2_rest 117 = .ok (.iload 6, 2) := dk_21 6 (dk_at dksX2_rest_5 0 rfl rfl)
theorem dX2_rest_119 : decode cX2_rest 119 = .ok (.goto 18, 3) := dk_167 0 18 (dk_at dksX2_rest_5 2 rfl rfl)
theorem dX2_rest_122 : decode cX2_rest 122 = .ok (.iload_n 2, 1) := dk_28 (dk_at dksX2_rest_5 5 rfl rfl)
theorem dX2_rest_123 : decode cX2_rest 123 = .ok (.iconst 2, 1) := dk_5 (dk_at dksX2_rest_5 6 rfl rfl)
theorem dX2_rest_124 : decode cX2_rest 124 = .ok (.if_icmp .ne 8, 3) := dk_160 0 8 (dk_at dksX2_rest_5 7 rfl rfl)
theorem dX2_rest_127 : decode cX2_rest 127 = .ok (.iload 4, 2) := dk_21 4 (dk_at dksX2_rest_5 10 rfl rfl)
theorem dX2_rest_129 : decode cX2_rest 129 = .ok (.goto 8, 3) := dk_167 0 8 (dk_at dksX2_rest_5 12 rfl rfl)
theorem dX2_rest_132 : decode cX2_rest 132 = .ok (.aload_n 0, 1) := dk_42 (dk_at dksX2_rest_5 15 rfl rfl)
theorem dX2_rest_133 : decode cX2_rest 133 = .ok (.getfield 201, 3) := dk_180 0 201 (dk_at dksX2_rest_5 16 rfl rfl)
theorem dX2_rest_136 : decode cX2_rest 136 = .ok (.l2i, 1) := dk_136 (dk_at dksX2_rest_5 19 rfl rfl)
theorem dX2_rest_137 : decode cX2_rest 137 = .ok (.ireturn, 1) := dk_172 (dk_at dksX2_rest_5 20 rfl rfl)
abbrev cX2_draw : ByteArray := prog_11_method_47_code
def yX2_draw : MethodName := ⟨RX2, "draw", "(I)I"⟩
def dkwX2_draw_1 : List UInt8 := [20, 0, 209, 109, 27, 133, 113, 136, 172]
abbrev dktX2_draw_1 : List UInt8 := dkwX2_draw_1 ++ []
def dkwX2_draw_0 : List UInt8 := [42, 20, 0, 199, 42, 180, 0, 201, 105, 20, 0, 205, 97, 20, 0, 207, 127, 181, 0, 201, 42, 180, 0, 201]
abbrev dktX2_draw_0 : List UInt8 := dkwX2_draw_0 ++ dktX2_draw_1
theorem dksX2_draw_0 : cX2_draw.data.toList.drop 0 = dktX2_draw_0 := by decide +kernel
theorem dksX2_draw_1 : cX2_draw.data.toList.drop 24 = dktX2_draw_1 := dk_seg dksX2_draw_0 24 rfl rfl
theorem dX2_draw_0 : decode cX2_draw 0 = .ok (.aload_n 0, 1) := dk_42 (dk_at dksX2_draw_0 0 rfl rfl)
theorem dX2_draw_1 : decode cX2_draw 1 = .ok (.ldc2_w 199, 3) := dk_20 0 199 (dk_at dksX2_draw_0 1 rfl rfl)
theorem dX2_draw_4 : decode cX2_draw 4 = .ok (.aload_n 0, 1) := dk_42 (dk_at dksX2_draw_0 4 rfl rfl)
theorem dX2_draw_5 : decode cX2_draw 5 = .ok (.getfield 201, 3) := dk_180 0 201 (dk_at dksX2_draw_0 5 rfl rfl)
theorem dX2_draw_8 : decode cX2_draw 8 = .ok (.lmul, 1) := dk_105 (dk_at dksX2_draw_0 8 rfl rfl)
theorem dX2_draw_9 : decode cX2_draw 9 = .ok (.ldc2_w 205, 3) := dk_20 0 205 (dk_at dksX2_draw_0 9 rfl rfl)
theorem dX2_draw_12 : decode cX2_draw 12 = .ok (.ladd, 1) := dk_97 (dk_at dksX2_draw_0 12 rfl rfl)
theorem dX2_draw_13 : decode cX2_draw 13 = .ok (.ldc2_w 207, 3) := dk_20 0 207 (dk_at dksX2_draw_0 13 rfl rfl)
theorem dX2_draw_16 : decode cX2_draw 16 = .ok (.land, 1) := dk_127 (dk_at dksX2_draw_0 16 rfl rfl)
theorem dX2_draw_17 : decode cX2_draw 17 = .ok (.putfield 201, 3) := dk_181 0 201 (dk_at dksX2_draw_0 17 rfl rfl)
theorem dX2_draw_20 : decode cX2_draw 20 = .ok (.aload_n 0, 1) := dk_42 (dk_at dksX2_draw_0 20 rfl rfl)
theorem dX2_draw_21 : decode cX2_draw 21 = .ok (.getfield 201, 3) := dk_180 0 201 (dk_at dksX2_draw_0 21 rfl rfl)
theorem dX2_draw_24 : decode cX2_draw 24 = .ok (.ldc2_w 209, 3) := dk_20 0 209 (dk_at dksX2_draw_1 0 rfl rfl)
theorem dX2_draw_27 : decode cX2_draw 27 = .ok (.ldiv, 1) := dk_109 (dk_at dksX2_draw_1 3 rfl rfl)
theorem dX2_draw_28 : decode cX2_draw 28 = .ok (.iload_n 1, 1) := dk_27 (dk_at dksX2_draw_1 4 rfl rfl)
theorem dX2_draw_29 : decode cX2_draw 29 = .ok (.i2l, 1) := dk_133 (dk_at dksX2_draw_1 5 rfl rfl)
theorem dX2_draw_30 : decode cX2_draw 30 = .ok (.lrem, 1) := dk_113 (dk_at dksX2_draw_1 6 rfl rfl)
theorem dX2_draw_31 : decode cX2_draw 31 = .ok (.l2i, 1) := dk_136 (dk_at dksX2_draw_1 7 rfl rfl)
theorem dX2_draw_32 : decode cX2_draw 32 = .ok (.ireturn, 1) := dk_172 (dk_at dksX2_draw_1 8 rfl rfl)
abbrev cX2_read : ByteArray := prog_11_method_49_code
def yX2_read : MethodName := ⟨RX2, "read", "(II)I"⟩
def dkwX2_read_3 : List UInt8 := [180, 0, 214, 172]
abbrev dktX2_read_3 : List UInt8 := dkwX2_read_3 ++ []
def dkwX2_read_2 : List UInt8 := [79, 42, 180, 0, 44, 42, 180, 0, 214, 28, 79, 42, 89, 180, 0, 214, 4, 96, 181, 0, 214, 42]
abbrev dktX2_read_2 : List UInt8 := dkwX2_read_2 ++ dktX2_read_3
def dkwX2_read_1 : List UInt8 := [16, 154, 172, 42, 180, 0, 214, 16, 8, 160, 0, 6, 16, 152, 172, 42, 180, 0, 41, 42, 180, 0, 214, 27]
abbrev dktX2_read_1 : List UInt8 := dkwX2_read_1 ++ dktX2_read_2
def dkwX2_read_0 : List UInt8 := [27, 4, 42, 182, 0, 129, 184, 0, 78, 153, 0, 14, 28, 4, 17, 0, 199, 184, 0, 78, 154, 0, 6]
abbrev dktX2_read_0 : List UInt8 := dkwX2_read_0 ++ dktX2_read_1
theorem dksX2_read_0 : cX2_read.data.toList.drop 0 = dktX2_read_0 := by decide +kernel
theorem dksX2_read_1 : cX2_read.data.toList.drop 23 = dktX2_read_1 := dk_seg dksX2_read_0 23 rfl rfl
theorem dksX2_read_2 : cX2_read.data.toList.drop 47 = dktX2_read_2 := dk_seg dksX2_read_1 24 rfl rfl
theorem dksX2_read_3 : cX2_read.data.toList.drop 69 = dktX2_read_3 := dk_seg dksX2_read_2 22 rfl rfl
theorem dX2_read_0 : decode cX2_read 0 = .ok (.iload_n 1, 1) := dk_27 (dk_at dksX2_read_0 0 rfl rfl)
theorem dX2_read_1 : decode cX2_read 1 = .ok (.iconst 1, 1) := dk_4 (dk_at dksX2_read_0 1 rfl rfl)
theorem dX2_read_2 : decode cX2_read 2 = .ok (.aload_n 0, 1) := dk_42 (dk_at dksX2_read_0 2 rfl rfl)
theorem dX2_read_3 : decode cX2_read 3 = .ok (.invokevirtual 129, 3) := dk_182 0 129 (dk_at dksX2_read_0 3 rfl rfl)
theorem dX2_read_6 : decode cX2_read 6 = .ok (.invokestatic 78, 3) := dk_184 0 78 (dk_at dksX2_read_0 6 rfl rfl)
theorem dX2_read_9 : decode cX2_read 9 = .ok (.ifCond .eq 14, 3) := dk_153 0 14 (dk_at dksX2_read_0 9 rfl rfl)
theorem dX2_read_12 : decode cX2_read 12 = .ok (.iload_n 2, 1) := dk_28 (dk_at dksX2_read_0 12 rfl rfl)
theorem dX2_read_13 : decode cX2_read 13 = .ok (.iconst 1, 1) := dk_4 (dk_at dksX2_read_0 13 rfl rfl)
theorem dX2_read_14 : decode cX2_read 14 = .ok (.sipush 199, 3) := dk_17 0 199 (dk_at dksX2_read_0 14 rfl rfl)
theorem dX2_read_17 : decode cX2_read 17 = .ok (.invokestatic 78, 3) := dk_184 0 78 (dk_at dksX2_read_0 17 rfl rfl)
theorem dX2_read_20 : decode cX2_read 20 = .ok (.ifCond .ne 6, 3) := dk_154 0 6 (dk_at dksX2_read_0 20 rfl rfl)
theorem dX2_read_23 : decode cX2_read 23 = .ok (.bipush (-102), 2) := dk_16 154 (dk_at dksX2_read_1 0 rfl rfl)
theorem dX2_read_25 : decode cX2_read 25 = .ok (.ireturn, 1) := dk_172 (dk_at dksX2_read_1 2 rfl rfl)
theorem dX2_read_26 : decode cX2_read 26 = .ok (.aload_n 0, 1) := dk_42 (dk_at dksX2_read_1 3 rfl rfl)
theorem dX2_read_27 : decode cX2_read 27 = .ok (.getfield 214, 3) := dk_180 0 214 (dk_at dksX2_read_1 4 rfl rfl)
theorem dX2_read_30 : decode cX2_read 30 = .ok (.bipush 8, 2) := dk_16 8 (dk_at dksX2_read_1 7 rfl rfl)
theorem dX2_read_32 : decode cX2_read 32 = .ok (.if_icmp .ne 6, 3) := dk_160 0 6 (dk_at dksX2_read_1 9 rfl rfl)
theorem dX2_read_35 : decode cX2_read 35 = .ok (.bipush (-104), 2) := dk_16 152 (dk_at dksX2_read_1 12 rfl rfl)
theorem dX2_read_37 : decode cX2_read 37 = .ok (.ireturn, 1) := dk_172 (dk_at dksX2_read_1 14 rfl rfl)
theorem dX2_read_38 : decode cX2_read 38 = .ok (.aload_n 0, 1) := dk_42 (dk_at dksX2_read_1 15 rfl rfl)
theorem dX2_read_39 : decode cX2_read 39 = .ok (.getfield 41, 3) := dk_180 0 41 (dk_at dksX2_read_1 16 rfl rfl)
theorem dX2_read_42 : decode cX2_read 42 = .ok (.aload_n 0, 1) := dk_42 (dk_at dksX2_read_1 19 rfl rfl)
theorem dX2_read_43 : decode cX2_read 43 = .ok (.getfield 214, 3) := dk_180 0 214 (dk_at dksX2_read_1 20 rfl rfl)
theorem dX2_read_46 : decode cX2_read 46 = .ok (.iload_n 1, 1) := dk_27 (dk_at dksX2_read_1 23 rfl rfl)
theorem dX2_read_47 : decode cX2_read 47 = .ok (.iastore, 1) := dk_79 (dk_at dksX2_read_2 0 rfl rfl)
theorem dX2_read_48 : decode cX2_read 48 = .ok (.aload_n 0, 1) := dk_42 (dk_at dksX2_read_2 1 rfl rfl)
theorem dX2_read_49 : decode cX2_read 49 = .ok (.getfield 44, 3) := dk_180 0 44 (dk_at dksX2_read_2 2 rfl rfl)
theorem dX2_read_52 : decode cX2_read 52 = .ok (.aload_n 0, 1) := dk_42 (dk_at dksX2_read_2 5 rfl rfl)
theorem dX2_read_53 : decode cX2_read 53 = .ok (.getfield 214, 3) := dk_180 0 214 (dk_at dksX2_read_2 6 rfl rfl)
theorem dX2_read_56 : decode cX2_read 56 = .ok (.iload_n 2, 1) := dk_28 (dk_at dksX2_read_2 9 rfl rfl)
theorem dX2_read_57 : decode cX2_read 57 = .ok (.iastore, 1) := dk_79 (dk_at dksX2_read_2 10 rfl rfl)
theorem dX2_read_58 : decode cX2_read 58 = .ok (.aload_n 0, 1) := dk_42 (dk_at dksX2_read_2 11 rfl rfl)
theorem dX2_read_59 : decode cX2_read 59 = .ok (.dup, 1) := dk_89 (dk_at dksX2_read_2 12 rfl rfl)
theorem dX2_read_60 : decode cX2_read 60 = .ok (.getfield 214, 3) := dk_180 0 214 (dk_at dksX2_read_2 13 rfl rfl)
theorem dX2_read_63 : decode cX2_read 63 = .ok (.iconst 1, 1) := dk_4 (dk_at dksX2_read_2 16 rfl rfl)
theorem dX2_read_64 : decode cX2_read 64 = .ok (.iadd, 1) := dk_96 (dk_at dksX2_read_2 17 rfl rfl)
theorem dX2_read_65 : decode cX2_read 65 = .ok (.putfield 214, 3) := dk_181 0 214 (dk_at dksX2_read_2 18 rfl rfl)
theorem dX2_read_68 : decode cX2_read 68 = .ok (.aload_n 0, 1) := dk_42 (dk_at dksX2_read_2 21 rfl rfl)
theorem dX2_read_69 : decode cX2_read 69 = .ok (.getfield 214, 3) := dk_180 0 214 (dk_at dksX2_read_3 0 rfl rfl)
theorem dX2_read_72 : decode cX2_read 72 = .ok (.ireturn, 1) := dk_172 (dk_at dksX2_read_3 3 rfl rfl)
abbrev cX2_wipe : ByteArray := prog_11_method_50_code
def yX2_wipe : MethodName := ⟨RX2, "wipe", "()I"⟩
def dkwX2_wipe_0 : List UInt8 := [42, 180, 0, 214, 60, 42, 3, 181, 0, 214, 27, 172]
abbrev dktX2_wipe_0 : List UInt8 := dkwX2_wipe_0 ++ []
theorem dksX2_wipe_0 : cX2_wipe.data.toList.drop 0 = dktX2_wipe_0 := by decide +kernel
theorem dX2_wipe_0 : decode cX2_wipe 0 = .ok (.aload_n 0, 1) := dk_42 (dk_at dksX2_wipe_0 0 rfl rfl)
theorem dX2_wipe_1 : decode cX2_wipe 1 = .ok (.getfield 214, 3) := dk_180 0 214 (dk_at dksX2_wipe_0 1 rfl rfl)
theorem dX2_wipe_4 : decode cX2_wipe 4 = .ok (.istore_n 1, 1) := dk_60 (dk_at dksX2_wipe_0 4 rfl rfl)
theorem dX2_wipe_5 : decode cX2_wipe 5 = .ok (.aload_n 0, 1) := dk_42 (dk_at dksX2_wipe_0 5 rfl rfl)
theorem dX2_wipe_6 : decode cX2_wipe 6 = .ok (.iconst 0, 1) := dk_3 (dk_at dksX2_wipe_0 6 rfl rfl)
theorem dX2_wipe_7 : decode cX2_wipe 7 = .ok (.putfield 214, 3) := dk_181 0 214 (dk_at dksX2_wipe_0 7 rfl rfl)
theorem dX2_wipe_10 : decode cX2_wipe 10 = .ok (.iload_n 1, 1) := dk_27 (dk_at dksX2_wipe_0 10 rfl rfl)
theorem dX2_wipe_11 : decode cX2_wipe 11 = .ok (.ireturn, 1) := dk_172 (dk_at dksX2_wipe_0 11 rfl rfl)
abbrev cX2_leak : ByteArray := prog_11_method_53_code
def yX2_leak : MethodName := ⟨RX2, "leak", "(I)I"⟩
def dkwX2_leak_0 : List UInt8 := [42, 27, 182, 0, 99, 153, 0, 11, 42, 27, 182, 0, 220, 167, 0, 5, 16, 155, 172]
abbrev dktX2_leak_0 : List UInt8 := dkwX2_leak_0 ++ []
theorem dksX2_leak_0 : cX2_leak.data.toList.drop 0 = dktX2_leak_0 := by decide +kernel
theorem dX2_leak_0 : decode cX2_leak 0 = .ok (.aload_n 0, 1) := dk_42 (dk_at dksX2_leak_0 0 rfl rfl)
theorem dX2_leak_1 : decode cX2_leak 1 = .ok (.iload_n 1, 1) := dk_27 (dk_at dksX2_leak_0 1 rfl rfl)
theorem dX2_leak_2 : decode cX2_leak 2 = .ok (.invokevirtual 99, 3) := dk_182 0 99 (dk_at dksX2_leak_0 2 rfl rfl)
theorem dX2_leak_5 : decode cX2_leak 5 = .ok (.ifCond .eq 11, 3) := dk_153 0 11 (dk_at dksX2_leak_0 5 rfl rfl)
theorem dX2_leak_8 : decode cX2_leak 8 = .ok (.aload_n 0, 1) := dk_42 (dk_at dksX2_leak_0 8 rfl rfl)
theorem dX2_leak_9 : decode cX2_leak 9 = .ok (.iload_n 1, 1) := dk_27 (dk_at dksX2_leak_0 9 rfl rfl)
theorem dX2_leak_10 : decode cX2_leak 10 = .ok (.invokevirtual 220, 3) := dk_182 0 220 (dk_at dksX2_leak_0 10 rfl rfl)
theorem dX2_leak_13 : decode cX2_leak 13 = .ok (.goto 5, 3) := dk_167 0 5 (dk_at dksX2_leak_0 13 rfl rfl)
theorem dX2_leak_16 : decode cX2_leak 16 = .ok (.bipush (-101), 2) := dk_16 155 (dk_at dksX2_leak_0 16 rfl rfl)
theorem dX2_leak_18 : decode cX2_leak 18 = .ok (.ireturn, 1) := dk_172 (dk_at dksX2_leak_0 18 rfl rfl)
abbrev cX2_leakNow : ByteArray := prog_11_method_52_code
def yX2_leakNow : MethodName := ⟨RX2, "leakNow", "(I)I"⟩
def dkwX2_leakNow_4 : List UInt8 := [167, 255, 162, 2, 172]
abbrev dktX2_leakNow_4 : List UInt8 := dkwX2_leakNow_4 ++ []
def dkwX2_leakNow_3 : List UInt8 := [160, 0, 7, 4, 167, 0, 4, 3, 62, 132, 4, 1, 167, 255, 185, 29, 153, 0, 5, 28, 172, 132, 2, 1]
abbrev dktX2_leakNow_3 : List UInt8 := dkwX2_leakNow_3 ++ dktX2_leakNow_4
def dkwX2_leakNow_2 : List UInt8 := [153, 0, 31, 42, 42, 180, 0, 41, 21, 4, 46, 182, 0, 217, 21, 5, 96, 42, 180, 0, 44, 21, 4, 46]
abbrev dktX2_leakNow_2 : List UInt8 := dkwX2_leakNow_2 ++ dktX2_leakNow_3
def dkwX2_leakNow_1 : List UInt8 := [180, 0, 41, 21, 4, 46, 182, 0, 123, 27, 184, 0, 96, 153, 0, 7, 28, 167, 0, 4, 3, 54, 5, 29]
abbrev dktX2_leakNow_1 : List UInt8 := dkwX2_leakNow_1 ++ dktX2_leakNow_2
def dkwX2_leakNow_0 : List UInt8 := [4, 61, 28, 16, 10, 162, 0, 94, 4, 62, 3, 54, 4, 21, 4, 42, 180, 0, 214, 162, 0, 68, 42, 42]
abbrev dktX2_leakNow_0 : List UInt8 := dkwX2_leakNow_0 ++ dktX2_leakNow_1
theorem dksX2_leakNow_0 : cX2_leakNow.data.toList.drop 0 = dktX2_leakNow_0 := by decide +kernel
theorem dksX2_leakNow_1 : cX2_leakNow.data.toList.drop 24 = dktX2_leakNow_1 := dk_seg dksX2_leakNow_0 24 rfl rfl
theorem dksX2_leakNow_2 : cX2_leakNow.data.toList.drop 48 = dktX2_leakNow_2 := dk_seg dksX2_leakNow_1 24 rfl rfl
theorem dksX2_leakNow_3 : cX2_leakNow.data.toList.drop 72 = dktX2_leakNow_3 := dk_seg dksX2_leakNow_2 24 rfl rfl
theorem dksX2_leakNow_4 : cX2_leakNow.data.toList.drop 96 = dktX2_leakNow_4 := dk_seg dksX2_leakNow_3 24 rfl rfl
theorem dX2_leakNow_0 : decode cX2_leakNow 0 = .ok (.iconst 1, 1) := dk_4 (dk_at dksX2_leakNow_0 0 rfl rfl)
theorem dX2_leakNow_1 : decode cX2_leakNow 1 = .ok (.istore_n 2, 1) := dk_61 (dk_at dksX2_leakNow_0 1 rfl rfl)
theorem dX2_leakNow_2 : decode cX2_leakNow 2 = .ok (.iload_n 2, 1) := dk_28 (dk_at dksX2_leakNow_0 2 rfl rfl)
theorem dX2_leakNow_3 : decode cX2_leakNow 3 = .ok (.bipush 10, 2) := dk_16 10 (dk_at dksX2_leakNow_0 3 rfl rfl)
theorem dX2_leakNow_5 : decode cX2_leakNow 5 = .ok (.if_icmp .ge 94, 3) := dk_162 0 94 (dk_at dksX2_leakNow_0 5 rfl rfl)
theorem dX2_leakNow_8 : decode cX2_leakNow 8 = .ok (.iconst 1, 1) := dk_4 (dk_at dksX2_leakNow_0 8 rfl rfl)
theorem dX2_leakNow_9 : decode cX2_leakNow 9 = .ok (.istore_n 3, 1) := dk_62 (dk_at dksX2_leakNow_0 9 rfl rfl)
theorem dX2_leakNow_10 : decode cX2_leakNow 10 = .ok (.iconst 0, 1) := dk_3 (dk_at dksX2_leakNow_0 10 rfl rfl)
theorem dX2_leakNow_11 : decode cX2_leakNow 11 = .ok (.istore 4, 2) := dk_54 4 (dk_at dksX2_leakNow_0 11 rfl rfl)
theorem dX2_leakNow_13 : decode cX2_leakNow 13 = .ok (.iload 4, 2) := dk_21 4 (dk_at dksX2_leakNow_0 13 rfl rfl)
theorem dX2_leakNow_15 : decode cX2_leakNow 15 = .ok (.aload_n 0, 1) := dk_42 (dk_at dksX2_leakNow_0 15 rfl rfl)
theorem dX2_leakNow_16 : decode cX2_leakNow 16 = .ok (.getfield 214, 3) := dk_180 0 214 (dk_at dksX2_leakNow_0 16 rfl rfl)
theorem dX2_leakNow_19 : decode cX2_leakNow 19 = .ok (.if_icmp .ge 68, 3) := dk_162 0 68 (dk_at dksX2_leakNow_0 19 rfl rfl)
theorem dX2_leakNow_22 : decode cX2_leakNow 22 = .ok (.aload_n 0, 1) := dk_42 (dk_at dksX2_leakNow_0 22 rfl rfl)
theorem dX2_leakNow_23 : decode cX2_leakNow 23 = .ok (.aload_n 0, 1) := dk_42 (dk_at dksX2_leakNow_0 23 rfl rfl)
theorem dX2_leakNow_24 : decode cX2_leakNow 24 = .ok (.getfield 41, 3) := dk_180 0 41 (dk_at dksX2_leakNow_1 0 rfl rfl)
theorem dX2_leakNow_27 : decode cX2_leakNow 27 = .ok (.iload 4, 2) := dk_21 4 (dk_at dksX2_leakNow_1 3 rfl rfl)
theorem dX2_leakNow_29 : decode cX2_leakNow 29 = .ok (.iaload, 1) := dk_46 (dk_at dksX2_leakNow_1 5 rfl rfl)
theorem dX2_leakNow_30 : decode cX2_leakNow 30 = .ok (.invokevirtual 123, 3) := dk_182 0 123 (dk_at dksX2_leakNow_1 6 rfl rfl)
theorem dX2_leakNow_33 : decode cX2_leakNow 33 = .ok (.iload_n 1, 1) := dk_27 (dk_at dksX2_leakNow_1 9 rfl rfl)
theorem dX2_leakNow_34 : decode cX2_leakNow 34 = .ok (.invokestatic 96, 3) := dk_184 0 96 (dk_at dksX2_leakNow_1 10 rfl rfl)
theorem dX2_leakNow_37 : decode cX2_leakNow 37 = .ok (.ifCond .eq 7, 3) := dk_153 0 7 (dk_at dksX2_leakNow_1 13 rfl rfl)
theorem dX2_leakNow_40 : decode cX2_leakNow 40 = .ok (.iload_n 2, 1) := dk_28 (dk_at dksX2_leakNow_1 16 rfl rfl)
theorem dX2_leakNow_41 : decode cX2_leakNow 41 = .ok (.goto 4, 3) := dk_167 0 4 (dk_at dksX2_leakNow_1 17 rfl rfl)
theorem dX2_leakNow_44 : decode cX2_leakNow 44 = .ok (.iconst 0, 1) := dk_3 (dk_at dksX2_leakNow_1 20 rfl rfl)
theorem dX2_leakNow_45 : decode cX2_leakNow 45 = .ok (.istore 5, 2) := dk_54 5 (dk_at dksX2_leakNow_1 21 rfl rfl)
theorem dX2_leakNow_47 : decode cX2_leakNow 47 = .ok (.iload_n 3, 1) := dk_29 (dk_at dksX2_leakNow_1 23 rfl rfl)
theorem dX2_leakNow_48 : decode cX2_leakNow 48 = .ok (.ifCond .eq 31, 3) := dk_153 0 31 (dk_at dksX2_leakNow_2 0 rfl rfl)
theorem dX2_leakNow_51 : decode cX2_leakNow 51 = .ok (.aload_n 0, 1) := dk_42 (dk_at dksX2_leakNow_2 3 rfl rfl)
theorem dX2_leakNow_52 : decode cX2_leakNow 52 = .ok (.aload_n 0, 1) := dk_42 (dk_at dksX2_leakNow_2 4 rfl rfl)
theorem dX2_leakNow_53 : decode cX2_leakNow 53 = .ok (.getfield 41, 3) := dk_180 0 41 (dk_at dksX2_leakNow_2 5 rfl rfl)
theorem dX2_leakNow_56 : decode cX2_leakNow 56 = .ok (.iload 4, 2) := dk_21 4 (dk_at dksX2_leakNow_2 8 rfl rfl)
theorem dX2_leakNow_58 : decode cX2_leakNow 58 = .ok (.iaload, 1) := dk_46 (dk_at dksX2_leakNow_2 10 rfl rfl)
theorem dX2_leakNow_59 : decode cX2_leakNow 59 = .ok (.invokevirtual 217, 3) := dk_182 0 217 (dk_at dksX2_leakNow_2 11 rfl rfl)
theorem dX2_leakNow_62 : decode cX2_leakNow 62 = .ok (.iload 5, 2) := dk_21 5 (dk_at dksX2_leakNow_2 14 rfl rfl)
theorem dX2_leakNow_64 : decode cX2_leakNow 64 = .ok (.iadd, 1) := dk_96 (dk_at dksX2_leakNow_2 16 rfl rfl)
theorem dX2_leakNow_65 : decode cX2_leakNow 65 = .ok (.aload_n 0, 1) := dk_42 (dk_at dksX2_leakNow_2 17 rfl rfl)
theorem dX2_leakNow_66 : decode cX2_leakNow 66 = .ok (.getfield 44, 3) := dk_180 0 44 (dk_at dksX2_leakNow_2 18 rfl rfl)
theorem dX2_leakNow_69 : decode cX2_leakNow 69 = .ok (.iload 4, 2) := dk_21 4 (dk_at dksX2_leakNow_2 21 rfl rfl)
theorem dX2_leakNow_71 : decode cX2_leakNow 71 = .ok (.iaload, 1) := dk_46 (dk_at dksX2_leakNow_2 23 rfl rfl)
theorem dX2_leakNow_72 : decode cX2_leakNow 72 = .ok (.if_icmp .ne 7, 3) := dk_160 0 7 (dk_at dksX2_leakNow_3 0 rfl rfl)
theorem dX2_leakNow_75 : decode cX2_leakNow 75 = .ok (.iconst 1, 1) := dk_4 (dk_at dksX2_leakNow_3 3 rfl rfl)
theorem dX2_leakNow_76 : decode cX2_leakNow 76 = .ok (.goto 4, 3) := dk_167 0 4 (dk_at dksX2_leakNow_3 4 rfl rfl)
theorem dX2_leakNow_79 : decode cX2_leakNow 79 = .ok (.iconst 0, 1) := dk_3 (dk_at dksX2_leakNow_3 7 rfl rfl)
theorem dX2_leakNow_80 : decode cX2_leakNow 80 = .ok (.istore_n 3, 1) := dk_62 (dk_at dksX2_leakNow_3 8 rfl rfl)
theorem dX2_leakNow_81 : decode cX2_leakNow 81 = .ok (.iinc 4 1, 3) := dk_132 4 1 (dk_at dksX2_leakNow_3 9 rfl rfl)
theorem dX2_leakNow_84 : decode cX2_leakNow 84 = .ok (.goto (-71), 3) := dk_167 255 185 (dk_at dksX2_leakNow_3 12 rfl rfl)
theorem dX2_leakNow_87 : decode cX2_leakNow 87 = .ok (.iload_n 3, 1) := dk_29 (dk_at dksX2_leakNow_3 15 rfl rfl)
theorem dX2_leakNow_88 : decode cX2_leakNow 88 = .ok (.ifCond .eq 5, 3) := dk_153 0 5 (dk_at dksX2_leakNow_3 16 rfl rfl)
theorem dX2_leakNow_91 : decode cX2_leakNow 91 = .ok (.iload_n 2, 1) := dk_28 (dk_at dksX2_leakNow_3 19 rfl rfl)
theorem dX2_leakNow_92 : decode cX2_leakNow 92 = .ok (.ireturn, 1) := dk_172 (dk_at dksX2_leakNow_3 20 rfl rfl)
theorem dX2_leakNow_93 : decode cX2_leakNow 93 = .ok (.iinc 2 1, 3) := dk_132 2 1 (dk_at dksX2_leakNow_3 21 rfl rfl)
theorem dX2_leakNow_96 : decode cX2_leakNow 96 = .ok (.goto (-94), 3) := dk_167 255 162 (dk_at dksX2_leakNow_4 0 rfl rfl)
theorem dX2_leakNow_99 : decode cX2_leakNow 99 = .ok (.iconst (-1), 1) := dk_2 (dk_at dksX2_leakNow_4 3 rfl rfl)
theorem dX2_leakNow_100 : decode cX2_leakNow 100 = .ok (.ireturn, 1) := dk_172 (dk_at dksX2_leakNow_4 4 rfl rfl)
abbrev cX2_feetBy : ByteArray := prog_11_method_51_code
def yX2_feetBy : MethodName := ⟨RX2, "feetBy", "(I)I"⟩
def dkwX2_feetBy_2 : List UInt8 := [132, 4, 1, 167, 255, 221, 29, 172]
abbrev dktX2_feetBy_2 : List UInt8 := dkwX2_feetBy_2 ++ []
def dkwX2_feetBy_1 : List UInt8 := [29, 28, 21, 4, 184, 0, 96, 153, 0, 13, 42, 180, 0, 25, 21, 4, 46, 167, 0, 4, 3, 96, 62]
abbrev dktX2_feetBy_1 : List UInt8 := dkwX2_feetBy_1 ++ dktX2_feetBy_2
def dkwX2_feetBy_0 : List UInt8 := [42, 27, 182, 0, 123, 61, 42, 27, 182, 0, 196, 62, 3, 54, 4, 21, 4, 42, 180, 0, 75, 162, 0, 32]
abbrev dktX2_feetBy_0 : List UInt8 := dkwX2_feetBy_0 ++ dktX2_feetBy_1
theorem dksX2_feetBy_0 : cX2_feetBy.data.toList.drop 0 = dktX2_feetBy_0 := by decide +kernel
theorem dksX2_feetBy_1 : cX2_feetBy.data.toList.drop 24 = dktX2_feetBy_1 := dk_seg dksX2_feetBy_0 24 rfl rfl
theorem dksX2_feetBy_2 : cX2_feetBy.data.toList.drop 47 = dktX2_feetBy_2 := dk_seg dksX2_feetBy_1 23 rfl rfl
theorem dX2_feetBy_0 : decode cX2_feetBy 0 = .ok (.aload_n 0, 1) := dk_42 (dk_at dksX2_feetBy_0 0 rfl rfl)
theorem dX2_feetBy_1 : decode cX2_feetBy 1 = .ok (.iload_n 1, 1) := dk_27 (dk_at dksX2_feetBy_0 1 rfl rfl)
theorem dX2_feetBy_2 : decode cX2_feetBy 2 = .ok (.invokevirtual 123, 3) := dk_182 0 123 (dk_at dksX2_feetBy_0 2 rfl rfl)
theorem dX2_feetBy_5 : decode cX2_feetBy 5 = .ok (.istore_n 2, 1) := dk_61 (dk_at dksX2_feetBy_0 5 rfl rfl)
theorem dX2_feetBy_6 : decode cX2_feetBy 6 = .ok (.aload_n 0, 1) := dk_42 (dk_at dksX2_feetBy_0 6 rfl rfl)
theorem dX2_feetBy_7 : decode cX2_feetBy 7 = .ok (.iload_n 1, 1) := dk_27 (dk_at dksX2_feetBy_0 7 rfl rfl)
theorem dX2_feetBy_8 : decode cX2_feetBy 8 = .ok (.invokevirtual 196, 3) := dk_182 0 196 (dk_at dksX2_feetBy_0 8 rfl rfl)
theorem dX2_feetBy_11 : decode cX2_feetBy 11 = .ok (.istore_n 3, 1) := dk_62 (dk_at dksX2_feetBy_0 11 rfl rfl)
theorem dX2_feetBy_12 : decode cX2_feetBy 12 = .ok (.iconst 0, 1) := dk_3 (dk_at dksX2_feetBy_0 12 rfl rfl)
theorem dX2_feetBy_13 : decode cX2_feetBy 13 = .ok (.istore 4, 2) := dk_54 4 (dk_at dksX2_feetBy_0 13 rfl rfl)
theorem dX2_feetBy_15 : decode cX2_feetBy 15 = .ok (.iload 4, 2) := dk_21 4 (dk_at dksX2_feetBy_0 15 rfl rfl)
theorem dX2_feetBy_17 : decode cX2_feetBy 17 = .ok (.aload_n 0, 1) := dk_42 (dk_at dksX2_feetBy_0 17 rfl rfl)
theorem dX2_feetBy_18 : decode cX2_feetBy 18 = .ok (.getfield 75, 3) := dk_180 0 75 (dk_at dksX2_feetBy_0 18 rfl rfl)
theorem dX2_feetBy_21 : decode cX2_feetBy 21 = .ok (.if_icmp .ge 32, 3) := dk_162 0 32 (dk_at dksX2_feetBy_0 21 rfl rfl)
theorem dX2_feetBy_24 : decode cX2_feetBy 24 = .ok (.iload_n 3, 1) := dk_29 (dk_at dksX2_feetBy_1 0 rfl rfl)
theorem dX2_feetBy_25 : decode cX2_feetBy 25 = .ok (.iload_n 2, 1) := dk_28 (dk_at dksX2_feetBy_1 1 rfl rfl)
theorem dX2_feetBy_26 : decode cX2_feetBy 26 = .ok (.iload 4, 2) := dk_21 4 (dk_at dksX2_feetBy_1 2 rfl rfl)
theorem dX2_feetBy_28 : decode cX2_feetBy 28 = .ok (.invokestatic 96, 3) := dk_184 0 96 (dk_at dksX2_feetBy_1 4 rfl rfl)
theorem dX2_feetBy_31 : decode cX2_feetBy 31 = .ok (.ifCond .eq 13, 3) := dk_153 0 13 (dk_at dksX2_feetBy_1 7 rfl rfl)
theorem dX2_feetBy_34 : decode cX2_feetBy 34 = .ok (.aload_n 0, 1) := dk_42 (dk_at dksX2_feetBy_1 10 rfl rfl)
theorem dX2_feetBy_35 : decode cX2_feetBy 35 = .ok (.getfield 25, 3) := dk_180 0 25 (dk_at dksX2_feetBy_1 11 rfl rfl)
theorem dX2_feetBy_38 : decode cX2_feetBy 38 = .ok (.iload 4, 2) := dk_21 4 (dk_at dksX2_feetBy_1 14 rfl rfl)
theorem dX2_feetBy_40 : decode cX2_feetBy 40 = .ok (.iaload, 1) := dk_46 (dk_at dksX2_feetBy_1 16 rfl rfl)
theorem dX2_feetBy_41 : decode cX2_feetBy 41 = .ok (.goto 4, 3) := dk_167 0 4 (dk_at dksX2_feetBy_1 17 rfl rfl)
theorem dX2_feetBy_44 : decode cX2_feetBy 44 = .ok (.iconst 0, 1) := dk_3 (dk_at dksX2_feetBy_1 20 rfl rfl)
theorem dX2_feetBy_45 : decode cX2_feetBy 45 = .ok (.iadd, 1) := dk_96 (dk_at dksX2_feetBy_1 21 rfl rfl)
theorem dX2_feetBy_46 : decode cX2_feetBy 46 = .ok (.istore_n 3, 1) := dk_62 (dk_at dksX2_feetBy_1 22 rfl rfl)
theorem dX2_feetBy_47 : decode cX2_feetBy 47 = .ok (.iinc 4 1, 3) := dk_132 4 1 (dk_at dksX2_feetBy_2 0 rfl rfl)
theorem dX2_feetBy_50 : decode cX2_feetBy 50 = .ok (.goto (-35), 3) := dk_167 255 221 (dk_at dksX2_feetBy_2 3 rfl rfl)
theorem dX2_feetBy_53 : decode cX2_feetBy 53 = .ok (.iload_n 3, 1) := dk_29 (dk_at dksX2_feetBy_2 6 rfl rfl)
theorem dX2_feetBy_54 : decode cX2_feetBy 54 = .ok (.ireturn, 1) := dk_172 (dk_at dksX2_feetBy_2 7 rfl rfl)
abbrev cX2_leaks : ByteArray := prog_11_method_55_code
def yX2_leaks : MethodName := ⟨RX2, "leaks", "()I"⟩
theorem dX2_leaks_0 : decode cX2_leaks 0 = .ok (.aload_n 0, 1) := by decide +kernel
theorem dX2_leaks_1 : decode cX2_leaks 1 = .ok (.invokevirtual 223, 3) := by decide +kernel
theorem dX2_leaks_4 : decode cX2_leaks 4 = .ok (.ireturn, 1) := by decide +kernel
abbrev cX2_leaksNow : ByteArray := prog_11_method_54_code
def yX2_leaksNow : MethodName := ⟨RX2, "leaksNow", "()I"⟩
def dkwX2_leaksNow_1 : List UInt8 := [120, 167, 0, 4, 3, 128, 60, 132, 2, 1, 167, 255, 226, 27, 172]
abbrev dktX2_leaksNow_1 : List UInt8 := dkwX2_leaksNow_1 ++ []
def dkwX2_leaksNow_0 : List UInt8 := [3, 60, 3, 61, 28, 42, 180, 0, 75, 162, 0, 28, 27, 42, 28, 182, 0, 220, 2, 159, 0, 9, 4, 28]
abbrev dktX2_leaksNow_0 : List UInt8 := dkwX2_leaksNow_0 ++ dktX2_leaksNow_1
theorem dksX2_leaksNow_0 : cX2_leaksNow.data.toList.drop 0 = dktX2_leaksNow_0 := by decide +kernel
theorem dksX2_leaksNow_1 : cX2_leaksNow.data.toList.drop 24 = dktX2_leaksNow_1 := dk_seg dksX2_leaksNow_0 24 rfl rfl
theorem dX2_leaksNow_0 : decode cX2_leaksNow 0 = .ok (.iconst 0, 1) := dk_3 (dk_at dksX2_leaksNow_0 0 rfl rfl)
theorem dX2_leaksNow_1 : decode cX2_leaksNow 1 = .ok (.istore_n 1, 1) := dk_60 (dk_at dksX2_leaksNow_0 1 rfl rfl)
theorem dX2_leaksNow_2 : decode cX2_leaksNow 2 = .ok (.iconst 0, 1) := dk_3 (dk_at dksX2_leaksNow_0 2 rfl rfl)
theorem dX2_leaksNow_3 : decode cX2_leaksNow 3 = .ok (.istore_n 2, 1) := dk_61 (dk_at dksX2_leaksNow_0 3 rfl rfl)
theorem dX2_leaksNow_4 : decode cX2_leaksNow 4 = .ok (.iload_n 2, 1) := dk_28 (dk_at dksX2_leaksNow_0 4 rfl rfl)
theorem dX2_leaksNow_5 : decode cX2_leaksNow 5 = .ok (.aload_n 0, 1) := dk_42 (dk_at dksX2_leaksNow_0 5 rfl rfl)
theorem dX2_leaksNow_6 : decode cX2_leaksNow 6 = .ok (.getfield 75, 3) := dk_180 0 75 (dk_at dksX2_leaksNow_0 6 rfl rfl)
theorem dX2_leaksNow_9 : decode cX2_leaksNow 9 = .ok (.if_icmp .ge 28, 3) := dk_162 0 28 (dk_at dksX2_leaksNow_0 9 rfl rfl)
theorem dX2_leaksNow_12 : decode cX2_leaksNow 12 = .ok (.iload_n 1, 1) := dk_27 (dk_at dksX2_leaksNow_0 12 rfl rfl)
theorem dX2_leaksNow_13 : decode cX2_leaksNow 13 = .ok (.aload_n 0, 1) := dk_42 (dk_at dksX2_leaksNow_0 13 rfl rfl)
theorem dX2_leaksNow_14 : decode cX2_leaksNow 14 = .ok (.iload_n 2, 1) := dk_28 (dk_at dksX2_leaksNow_0 14 rfl rfl)
theorem dX2_leaksNow_15 : decode cX2_leaksNow 15 = .ok (.invokevirtual 220, 3) := dk_182 0 220 (dk_at dksX2_leaksNow_0 15 rfl rfl)
theorem dX2_leaksNow_18 : decode cX2_leaksNow 18 = .ok (.iconst (-1), 1) := dk_2 (dk_at dksX2_leaksNow_0 18 rfl rfl)
theorem dX2_leaksNow_19 : decode cX2_leaksNow 19 = .ok (.if_icmp .eq 9, 3) := dk_159 0 9 (dk_at dksX2_leaksNow_0 19 rfl rfl)
theorem dX2_leaksNow_22 : decode cX2_leaksNow 22 = .ok (.iconst 1, 1) := dk_4 (dk_at dksX2_leaksNow_0 22 rfl rfl)
theorem dX2_leaksNow_23 : decode cX2_leaksNow 23 = .ok (.iload_n 2, 1) := dk_28 (dk_at dksX2_leaksNow_0 23 rfl rfl)
theorem dX2_leaksNow_24 : decode cX2_leaksNow 24 = .ok (.ishl, 1) := dk_120 (dk_at dksX2_leaksNow_1 0 rfl rfl)
theorem dX2_leaksNow_25 : decode cX2_leaksNow 25 = .ok (.goto 4, 3) := dk_167 0 4 (dk_at dksX2_leaksNow_1 1 rfl rfl)
theorem dX2_leaksNow_28 : decode cX2_leaksNow 28 = .ok (.iconst 0, 1) := dk_3 (dk_at dksX2_leaksNow_1 4 rfl rfl)
theorem dX2_leaksNow_29 : decode cX2_leaksNow 29 = .ok (.ior, 1) := dk_128 (dk_at dksX2_leaksNow_1 5 rfl rfl)
theorem dX2_leaksNow_30 : decode cX2_leaksNow 30 = .ok (.istore_n 1, 1) := dk_60 (dk_at dksX2_leaksNow_1 6 rfl rfl)
theorem dX2_leaksNow_31 : decode cX2_leaksNow 31 = .ok (.iinc 2 1, 3) := dk_132 2 1 (dk_at dksX2_leaksNow_1 7 rfl rfl)
theorem dX2_leaksNow_34 : decode cX2_leaksNow 34 = .ok (.goto (-30), 3) := dk_167 255 226 (dk_at dksX2_leaksNow_1 10 rfl rfl)
theorem dX2_leaksNow_37 : decode cX2_leaksNow 37 = .ok (.iload_n 1, 1) := dk_27 (dk_at dksX2_leaksNow_1 13 rfl rfl)
theorem dX2_leaksNow_38 : decode cX2_leaksNow 38 = .ok (.ireturn, 1) := dk_172 (dk_at dksX2_leaksNow_1 14 rfl rfl)
abbrev cX2_look : ByteArray := prog_11_method_57_code
def yX2_look : MethodName := ⟨RX2, "look", "()I"⟩
theorem dX2_look_0 : decode cX2_look 0 = .ok (.aload_n 0, 1) := by decide +kernel
theorem dX2_look_1 : decode cX2_look 1 = .ok (.invokevirtual 226, 3) := by decide +kernel
theorem dX2_look_4 : decode cX2_look 4 = .ok (.ireturn, 1) := by decide +kernel
abbrev cX2_lookNow : ByteArray := prog_11_method_56_code
def yX2_lookNow : MethodName := ⟨RX2, "lookNow", "()I"⟩
def dkwX2_lookNow_4 : List UInt8 := [132, 4, 1, 167, 255, 180, 28, 172]
abbrev dktX2_lookNow_4 : List UInt8 := dkwX2_lookNow_4 ++ []
def dkwX2_lookNow_3 : List UInt8 := [162, 0, 8, 21, 4, 167, 0, 4, 28, 61, 21, 7, 29, 162, 0, 8, 21, 7, 167, 0, 4, 29, 62]
abbrev dktX2_lookNow_3 : List UInt8 := dkwX2_lookNow_3 ++ dktX2_lookNow_4
def dkwX2_lookNow_2 : List UInt8 := [21, 5, 100, 54, 6, 21, 5, 21, 6, 164, 0, 8, 21, 5, 167, 0, 5, 21, 6, 54, 7, 21, 7, 29]
abbrev dktX2_lookNow_2 : List UInt8 := dkwX2_lookNow_2 ++ dktX2_lookNow_3
def dkwX2_lookNow_1 : List UInt8 := [182, 0, 129, 163, 0, 73, 27, 42, 21, 4, 182, 0, 123, 126, 184, 0, 187, 54, 5, 27, 184, 0, 187]
abbrev dktX2_lookNow_1 : List UInt8 := dkwX2_lookNow_1 ++ dktX2_lookNow_2
def dkwX2_lookNow_0 : List UInt8 := [42, 182, 0, 223, 60, 27, 154, 0, 5, 2, 172, 2, 61, 16, 9, 62, 4, 54, 4, 21, 4, 42]
abbrev dktX2_lookNow_0 : List UInt8 := dkwX2_lookNow_0 ++ dktX2_lookNow_1
theorem dksX2_lookNow_0 : cX2_lookNow.data.toList.drop 0 = dktX2_lookNow_0 := by decide +kernel
theorem dksX2_lookNow_1 : cX2_lookNow.data.toList.drop 22 = dktX2_lookNow_1 := dk_seg dksX2_lookNow_0 22 rfl rfl
theorem dksX2_lookNow_2 : cX2_lookNow.data.toList.drop 45 = dktX2_lookNow_2 := dk_seg dksX2_lookNow_1 23 rfl rfl
theorem dksX2_lookNow_3 : cX2_lookNow.data.toList.drop 69 = dktX2_lookNow_3 := dk_seg dksX2_lookNow_2 24 rfl rfl
theorem dksX2_lookNow_4 : cX2_lookNow.data.toList.drop 92 = dktX2_lookNow_4 := dk_seg dksX2_lookNow_3 23 rfl rfl
theorem dX2_lookNow_0 : decode cX2_lookNow 0 = .ok (.aload_n 0, 1) := dk_42 (dk_at dksX2_lookNow_0 0 rfl rfl)
theorem dX2_lookNow_1 : decode cX2_lookNow 1 = .ok (.invokevirtual 223, 3) := dk_182 0 223 (dk_at dksX2_lookNow_0 1 rfl rfl)
theorem dX2_lookNow_4 : decode cX2_lookNow 4 = .ok (.istore_n 1, 1) := dk_60 (dk_at dksX2_lookNow_0 4 rfl rfl)
theorem dX2_lookNow_5 : decode cX2_lookNow 5 = .ok (.iload_n 1, 1) := dk_27 (dk_at dksX2_lookNow_0 5 rfl rfl)
theorem dX2_lookNow_6 : decode cX2_lookNow 6 = .ok (.ifCond .ne 5, 3) := dk_154 0 5 (dk_at dksX2_lookNow_0 6 rfl rfl)
theorem dX2_lookNow_9 : decode cX2_lookNow 9 = .ok (.iconst (-1), 1) := dk_2 (dk_at dksX2_lookNow_0 9 rfl rfl)
theorem dX2_lookNow_10 : decode cX2_lookNow 10 = .ok (.ireturn, 1) := dk_172 (dk_at dksX2_lookNow_0 10 rfl rfl)
theorem dX2_lookNow_11 : decode cX2_lookNow 11 = .ok (.iconst (-1), 1) := dk_2 (dk_at dksX2_lookNow_0 11 rfl rfl)
theorem dX2_lookNow_12 : decode cX2_lookNow 12 = .ok (.istore_n 2, 1) := dk_61 (dk_at dksX2_lookNow_0 12 rfl rfl)
theorem dX2_lookNow_13 : decode cX2_lookNow 13 = .ok (.bipush 9, 2) := dk_16 9 (dk_at dksX2_lookNow_0 13 rfl rfl)
theorem dX2_lookNow_15 : decode cX2_lookNow 15 = .ok (.istore_n 3, 1) := dk_62 (dk_at dksX2_lookNow_0 15 rfl rfl)
theorem dX2_lookNow_16 : decode cX2_lookNow 16 = .ok (.iconst 1, 1) := dk_4 (dk_at dksX2_lookNow_0 16 rfl rfl)
theorem dX2_lookNow_17 : decode cX2_lookNow 17 = .ok (.istore 4, 2) := dk_54 4 (dk_at dksX2_lookNow_0 17 rfl rfl)
theorem dX2_lookNow_19 : decode cX2_lookNow 19 = .ok (.iload 4, 2) := dk_21 4 (dk_at dksX2_lookNow_0 19 rfl rfl)
theorem dX2_lookNow_21 : decode cX2_lookNow 21 = .ok (.aload_n 0, 1) := dk_42 (dk_at dksX2_lookNow_0 21 rfl rfl)
theorem dX2_lookNow_22 : decode cX2_lookNow 22 = .ok (.invokevirtual 129, 3) := dk_182 0 129 (dk_at dksX2_lookNow_1 0 rfl rfl)
theorem dX2_lookNow_25 : decode cX2_lookNow 25 = .ok (.if_icmp .gt 73, 3) := dk_163 0 73 (dk_at dksX2_lookNow_1 3 rfl rfl)
theorem dX2_lookNow_28 : decode cX2_lookNow 28 = .ok (.iload_n 1, 1) := dk_27 (dk_at dksX2_lookNow_1 6 rfl rfl)
theorem dX2_lookNow_29 : decode cX2_lookNow 29 = .ok (.aload_n 0, 1) := dk_42 (dk_at dksX2_lookNow_1 7 rfl rfl)
theorem dX2_lookNow_30 : decode cX2_lookNow 30 = .ok (.iload 4, 2) := dk_21 4 (dk_at dksX2_lookNow_1 8 rfl rfl)
theorem dX2_lookNow_32 : decode cX2_lookNow 32 = .ok (.invokevirtual 123, 3) := dk_182 0 123 (dk_at dksX2_lookNow_1 10 rfl rfl)
theorem dX2_lookNow_35 : decode cX2_lookNow 35 = .ok (.iand, 1) := dk_126 (dk_at dksX2_lookNow_1 13 rfl rfl)
theorem dX2_lookNow_36 : decode cX2_lookNow 36 = .ok (.invokestatic 187, 3) := dk_184 0 187 (dk_at dksX2_lookNow_1 14 rfl rfl)
theorem dX2_lookNow_39 : decode cX2_lookNow 39 = .ok (.istore 5, 2) := dk_54 5 (dk_at dksX2_lookNow_1 17 rfl rfl)
theorem dX2_lookNow_41 : decode cX2_lookNow 41 = .ok (.iload_n 1, 1) := dk_27 (dk_at dksX2_lookNow_1 19 rfl rfl)
theorem dX2_lookNow_42 : decode cX2_lookNow 42 = .ok (.invokestatic 187, 3) := dk_184 0 187 (dk_at dksX2_lookNow_1 20 rfl rfl)
theorem dX2_lookNow_45 : decode cX2_lookNow 45 = .ok (.iload 5, 2) := dk_21 5 (dk_at dksX2_lookNow_2 0 rfl rfl)
theorem dX2_lookNow_47 : decode cX2_lookNow 47 = .ok (.isub, 1) := dk_100 (dk_at dksX2_lookNow_2 2 rfl rfl)
theorem dX2_lookNow_48 : decode cX2_lookNow 48 = .ok (.istore 6, 2) := dk_54 6 (dk_at dksX2_lookNow_2 3 rfl rfl)
theorem dX2_lookNow_50 : decode cX2_lookNow 50 = .ok (.iload 5, 2) := dk_21 5 (dk_at dksX2_lookNow_2 5 rfl rfl)
theorem dX2_lookNow_52 : decode cX2_lookNow 52 = .ok (.iload 6, 2) := dk_21 6 (dk_at dksX2_lookNow_2 7 rfl rfl)
theorem dX2_lookNow_54 : decode cX2_lookNow 54 = .ok (.if_icmp .le 8, 3) := dk_164 0 8 (dk_at dksX2_lookNow_2 9 rfl rfl)
theorem dX2_lookNow_57 : decode cX2_lookNow 57 = .ok (.iload 5, 2) := dk_21 5 (dk_at dksX2_lookNow_2 12 rfl rfl)
theorem dX2_lookNow_59 : decode cX2_lookNow 59 = .ok (.goto 5, 3) := dk_167 0 5 (dk_at dksX2_lookNow_2 14 rfl rfl)
theorem dX2_lookNow_62 : decode cX2_lookNow 62 = .ok (.iload 6, 2) := dk_21 6 (dk_at dksX2_lookNow_2 17 rfl rfl)
theorem dX2_lookNow_64 : decode cX2_lookNow 64 = .ok (.istore 7, 2) := dk_54 7 (dk_at dksX2_lookNow_2 19 rfl rfl)
theorem dX2_lookNow_66 : decode cX2_lookNow 66 = .ok (.iload 7, 2) := dk_21 7 (dk_at dksX2_lookNow_2 21 rfl rfl)
theorem dX2_lookNow_68 : decode cX2_lookNow 68 = .ok (.iload_n 3, 1) := dk_29 (dk_at dksX2_lookNow_2 23 rfl rfl)
theorem dX2_lookNow_69 : decode cX2_lookNow 69 = .ok (.if_icmp .ge 8, 3) := dk_162 0 8 (dk_at dksX2_lookNow_3 0 rfl rfl)
theorem dX2_lookNow_72 : decode cX2_lookNow 72 = .ok (.iload 4, 2) := dk_21 4 (dk_at dksX2_lookNow_3 3 rfl rfl)
theorem dX2_lookNow_74 : decode cX2_lookNow 74 = .ok (.goto 4, 3) := dk_167 0 4 (dk_at dksX2_lookNow_3 5 rfl rfl)
theorem dX2_lookNow_77 : decode cX2_lookNow 77 = .ok (.iload_n 2, 1) := dk_28 (dk_at dksX2_lookNow_3 8 rfl rfl)
theorem dX2_lookNow_78 : decode cX2_lookNow 78 = .ok (.istore_n 2, 1) := dk_61 (dk_at dksX2_lookNow_3 9 rfl rfl)
theorem dX2_lookNow_79 : decode cX2_lookNow 79 = .ok (.iload 7, 2) := dk_21 7 (dk_at dksX2_lookNow_3 10 rfl rfl)
theorem dX2_lookNow_81 : decode cX2_lookNow 81 = .ok (.iload_n 3, 1) := dk_29 (dk_at dksX2_lookNow_3 12 rfl rfl)
theorem dX2_lookNow_82 : decode cX2_lookNow 82 = .ok (.if_icmp .ge 8, 3) := dk_162 0 8 (dk_at dksX2_lookNow_3 13 rfl rfl)
theorem dX2_lookNow_85 : decode cX2_lookNow 85 = .ok (.iload 7, 2) := dk_21 7 (dk_at dksX2_lookNow_3 16 rfl rfl)
theorem dX2_lookNow_87 : decode cX2_lookNow 87 = .ok (.goto 4, 3) := dk_167 0 4 (dk_at dksX2_lookNow_3 18 rfl rfl)
theorem dX2_lookNow_90 : decode cX2_lookNow 90 = .ok (.iload_n 3, 1) := dk_29 (dk_at dksX2_lookNow_3 21 rfl rfl)
theorem dX2_lookNow_91 : decode cX2_lookNow 91 = .ok (.istore_n 3, 1) := dk_62 (dk_at dksX2_lookNow_3 22 rfl rfl)
theorem dX2_lookNow_92 : decode cX2_lookNow 92 = .ok (.iinc 4 1, 3) := dk_132 4 1 (dk_at dksX2_lookNow_4 0 rfl rfl)
theorem dX2_lookNow_95 : decode cX2_lookNow 95 = .ok (.goto (-76), 3) := dk_167 255 180 (dk_at dksX2_lookNow_4 3 rfl rfl)
theorem dX2_lookNow_98 : decode cX2_lookNow 98 = .ok (.iload_n 2, 1) := dk_28 (dk_at dksX2_lookNow_4 6 rfl rfl)
theorem dX2_lookNow_99 : decode cX2_lookNow 99 = .ok (.ireturn, 1) := dk_172 (dk_at dksX2_lookNow_4 7 rfl rfl)
abbrev cX2_image : ByteArray := prog_11_method_58_code
def yX2_image : MethodName := ⟨RX2, "image", "()I"⟩
def dkwX2_image_6 : List UInt8 := [132, 1, 1, 167, 255, 199, 42, 180, 0, 38, 172]
abbrev dktX2_image_6 : List UInt8 := dkwX2_image_6 ++ []
def dkwX2_image_5 : List UInt8 := [180, 0, 60, 27, 42, 180, 0, 41, 27, 46, 79, 42, 180, 0, 63, 27, 42, 180, 0, 44, 27, 46, 79]
abbrev dktX2_image_5 : List UInt8 := dkwX2_image_5 ++ dktX2_image_6
def dkwX2_image_4 : List UInt8 := [180, 0, 54, 27, 42, 180, 0, 28, 27, 46, 79, 42, 180, 0, 57, 27, 42, 180, 0, 31, 27, 46, 79, 42]
abbrev dktX2_image_4 : List UInt8 := dkwX2_image_4 ++ dktX2_image_5
def dkwX2_image_3 : List UInt8 := [180, 0, 107, 181, 1, 0, 42, 42, 180, 0, 214, 181, 1, 3, 3, 60, 27, 16, 8, 162, 0, 57, 42]
abbrev dktX2_image_3 : List UInt8 := dkwX2_image_3 ++ dktX2_image_4
def dkwX2_image_2 : List UInt8 := [180, 0, 114, 181, 0, 247, 42, 42, 180, 0, 93, 181, 0, 250, 42, 42, 180, 0, 135, 181, 0, 253, 42, 42]
abbrev dktX2_image_2 : List UInt8 := dkwX2_image_2 ++ dktX2_image_3
def dkwX2_image_1 : List UInt8 := [180, 0, 38, 181, 0, 238, 42, 42, 180, 0, 90, 181, 0, 241, 42, 42, 180, 0, 141, 181, 0, 244, 42, 42]
abbrev dktX2_image_1 : List UInt8 := dkwX2_image_1 ++ dktX2_image_2
def dkwX2_image_0 : List UInt8 := [42, 4, 181, 0, 229, 42, 42, 180, 0, 75, 181, 0, 232, 42, 42, 180, 0, 34, 181, 0, 235, 42, 42]
abbrev dktX2_image_0 : List UInt8 := dkwX2_image_0 ++ dktX2_image_1
theorem dksX2_image_0 : cX2_image.data.toList.drop 0 = dktX2_image_0 := by decide +kernel
theorem dksX2_image_1 : cX2_image.data.toList.drop 23 = dktX2_image_1 := dk_seg dksX2_image_0 23 rfl rfl
theorem dksX2_image_2 : cX2_image.data.toList.drop 47 = dktX2_image_2 := dk_seg dksX2_image_1 24 rfl rfl
theorem dksX2_image_3 : cX2_image.data.toList.drop 71 = dktX2_image_3 := dk_seg dksX2_image_2 24 rfl rfl
theorem dksX2_image_4 : cX2_image.data.toList.drop 94 = dktX2_image_4 := dk_seg dksX2_image_3 23 rfl rfl
theorem dksX2_image_5 : cX2_image.data.toList.drop 118 = dktX2_image_5 := dk_seg dksX2_image_4 24 rfl rfl
theorem dksX2_image_6 : cX2_image.data.toList.drop 141 = dktX2_image_6 := dk_seg dksX2_image_5 23 rfl rfl
theorem dX2_image_0 : decode cX2_image 0 = .ok (.aload_n 0, 1) := dk_42 (dk_at dksX2_image_0 0 rfl rfl)
theorem dX2_image_1 : decode cX2_image 1 = .ok (.iconst 1, 1) := dk_4 (dk_at dksX2_image_0 1 rfl rfl)
theorem dX2_image_2 : decode cX2_image 2 = .ok (.putfield 229, 3) := dk_181 0 229 (dk_at dksX2_image_0 2 rfl rfl)
theorem dX2_image_5 : decode cX2_image 5 = .ok (.aload_n 0, 1) := dk_42 (dk_at dksX2_image_0 5 rfl rfl)
theorem dX2_image_6 : decode cX2_image 6 = .ok (.aload_n 0, 1) := dk_42 (dk_at dksX2_image_0 6 rfl rfl)
theorem dX2_image_7 : decode cX2_image 7 = .ok (.getfield 75, 3) := dk_180 0 75 (dk_at dksX2_image_0 7 rfl rfl)
theorem dX2_image_10 : decode cX2_image 10 = .ok (.putfield 232, 3) := dk_181 0 232 (dk_at dksX2_image_0 10 rfl rfl)
theorem dX2_image_13 : decode cX2_image 13 = .ok (.aload_n 0, 1) := dk_42 (dk_at dksX2_image_0 13 rfl rfl)
theorem dX2_image_14 : decode cX2_image 14 = .ok (.aload_n 0, 1) := dk_42 (dk_at dksX2_image_0 14 rfl rfl)
theorem dX2_image_15 : decode cX2_image 15 = .ok (.getfield 34, 3) := dk_180 0 34 (dk_at dksX2_image_0 15 rfl rfl)
theorem dX2_image_18 : decode cX2_image 18 = .ok (.putfield 235, 3) := dk_181 0 235 (dk_at dksX2_image_0 18 rfl rfl)
theorem dX2_image_21 : decode cX2_image 21 = .ok (.aload_n 0, 1) := dk_42 (dk_at dksX2_image_0 21 rfl rfl)
theorem dX2_image_22 : decode cX2_image 22 = .ok (.aload_n 0, 1) := dk_42 (dk_at dksX2_image_0 22 rfl rfl)
theorem dX2_image_23 : decode cX2_image 23 = .ok (.getfield 38, 3) := dk_180 0 38 (dk_at dksX2_image_1 0 rfl rfl)
theorem dX2_image_26 : decode cX2_image 26 = .ok (.putfield 238, 3) := dk_181 0 238 (dk_at dksX2_image_1 3 rfl rfl)
theorem dX2_image_29 : decode cX2_image 29 = .ok (.aload_n 0, 1) := dk_42 (dk_at dksX2_image_1 6 rfl rfl)
theorem dX2_image_30 : decode cX2_image 30 = .ok (.aload_n 0, 1) := dk_42 (dk_at dksX2_image_1 7 rfl rfl)
theorem dX2_image_31 : decode cX2_image 31 = .ok (.getfield 90, 3) := dk_180 0 90 (dk_at dksX2_image_1 8 rfl rfl)
theorem dX2_image_34 : decode cX2_image 34 = .ok (.putfield 241, 3) := dk_181 0 241 (dk_at dksX2_image_1 11 rfl rfl)
theorem dX2_image_37 : decode cX2_image 37 = .ok (.aload_n 0, 1) := dk_42 (dk_at dksX2_image_1 14 rfl rfl)
theorem dX2_image_38 : decode cX2_image 38 = .ok (.aload_n 0, 1) := dk_42 (dk_at dksX2_image_1 15 rfl rfl)
theorem dX2_image_39 : decode cX2_image 39 = .ok (.getfield 141, 3) := dk_180 0 141 (dk_at dksX2_image_1 16 rfl rfl)
theorem dX2_image_42 : decode cX2_image 42 = .ok (.putfield 244, 3) := dk_181 0 244 (dk_at dksX2_image_1 19 rfl rfl)
theorem dX2_image_45 : decode cX2_image 45 = .ok (.aload_n 0, 1) := dk_42 (dk_at dksX2_image_1 22 rfl rfl)
theorem dX2_image_46 : decode cX2_image 46 = .ok (.aload_n 0, 1) := dk_42 (dk_at dksX2_image_1 23 rfl rfl)
theorem dX2_image_47 : decode cX2_image 47 = .ok (.getfield 114, 3) := dk_180 0 114 (dk_at dksX2_image_2 0 rfl rfl)
theorem dX2_image_50 : decode cX2_image 50 = .ok (.putfield 247, 3) := dk_181 0 247 (dk_at dksX2_image_2 3 rfl rfl)
theorem dX2_image_53 : decode cX2_image 53 = .ok (.aload_n 0, 1) := dk_42 (dk_at dksX2_image_2 6 rfl rfl)
theorem dX2_image_54 : decode cX2_image 54 = .ok (.aload_n 0, 1) := dk_42 (dk_at dksX2_image_2 7 rfl rfl)
theorem dX2_image_55 : decode cX2_image 55 = .ok (.getfield 93, 3) := dk_180 0 93 (dk_at dksX2_image_2 8 rfl rfl)
theorem dX2_image_58 : decode cX2_image 58 = .ok (.putfield 250, 3) := dk_181 0 250 (dk_at dksX2_image_2 11 rfl rfl)
theorem dX2_image_61 : decode cX2_image 61 = .ok (.aload_n 0, 1) := dk_42 (dk_at dksX2_image_2 14 rfl rfl)
theorem dX2_image_62 : decode cX2_image 62 = .ok (.aload_n 0, 1) := dk_42 (dk_at dksX2_image_2 15 rfl rfl)
theorem dX2_image_63 : decode cX2_image 63 = .ok (.getfield 135, 3) := dk_180 0 135 (dk_at dksX2_image_2 16 rfl rfl)
theorem dX2_image_66 : decode cX2_image 66 = .ok (.putfield 253, 3) := dk_181 0 253 (dk_at dksX2_image_2 19 rfl rfl)
theorem dX2_image_69 : decode cX2_image 69 = .ok (.aload_n 0, 1) := dk_42 (dk_at dksX2_image_2 22 rfl rfl)
theorem dX2_image_70 : decode cX2_image 70 = .ok (.aload_n 0, 1) := dk_42 (dk_at dksX2_image_2 23 rfl rfl)
theorem dX2_image_71 : decode cX2_image 71 = .ok (.getfield 107, 3) := dk_180 0 107 (dk_at dksX2_image_3 0 rfl rfl)
theorem dX2_image_74 : decode cX2_image 74 = .ok (.putfield 256, 3) := dk_181 1 0 (dk_at dksX2_image_3 3 rfl rfl)
theorem dX2_image_77 : decode cX2_image 77 = .ok (.aload_n 0, 1) := dk_42 (dk_at dksX2_image_3 6 rfl rfl)
theorem dX2_image_78 : decode cX2_image 78 = .ok (.aload_n 0, 1) := dk_42 (dk_at dksX2_image_3 7 rfl rfl)
theorem dX2_image_79 : decode cX2_image 79 = .ok (.getfield 214, 3) := dk_180 0 214 (dk_at dksX2_image_3 8 rfl rfl)
theorem dX2_image_82 : decode cX2_image 82 = .ok (.putfield 259, 3) := dk_181 1 3 (dk_at dksX2_image_3 11 rfl rfl)
theorem dX2_image_85 : decode cX2_image 85 = .ok (.iconst 0, 1) := dk_3 (dk_at dksX2_image_3 14 rfl rfl)
theorem dX2_image_86 : decode cX2_image 86 = .ok (.istore_n 1, 1) := dk_60 (dk_at dksX2_image_3 15 rfl rfl)
theorem dX2_image_87 : decode cX2_image 87 = .ok (.iload_n 1, 1) := dk_27 (dk_at dksX2_image_3 16 rfl rfl)
theorem dX2_image_88 : decode cX2_image 88 = .ok (.bipush 8, 2) := dk_16 8 (dk_at dksX2_image_3 17 rfl rfl)
theorem dX2_image_90 : decode cX2_image 90 = .ok (.if_icmp .ge 57, 3) := dk_162 0 57 (dk_at dksX2_image_3 19 rfl rfl)
theorem dX2_image_93 : decode cX2_image 93 = .ok (.aload_n 0, 1) := dk_42 (dk_at dksX2_image_3 22 rfl rfl)
theorem dX2_image_94 : decode cX2_image 94 = .ok (.getfield 54, 3) := dk_180 0 54 (dk_at dksX2_image_4 0 rfl rfl)
theorem dX2_image_97 : decode cX2_image 97 = .ok (.iload_n 1, 1) := dk_27 (dk_at dksX2_image_4 3 rfl rfl)
theorem dX2_image_98 : decode cX2_image 98 = .ok (.aload_n 0, 1) := dk_42 (dk_at dksX2_image_4 4 rfl rfl)
theorem dX2_image_99 : decode cX2_image 99 = .ok (.getfield 28, 3) := dk_180 0 28 (dk_at dksX2_image_4 5 rfl rfl)
theorem dX2_image_102 : decode cX2_image 102 = .ok (.iload_n 1, 1) := dk_27 (dk_at dksX2_image_4 8 rfl rfl)
theorem dX2_image_103 : decode cX2_image 103 = .ok (.iaload, 1) := dk_46 (dk_at dksX2_image_4 9 rfl rfl)
theorem dX2_image_104 : decode cX2_image 104 = .ok (.iastore, 1) := dk_79 (dk_at dksX2_image_4 10 rfl rfl)
theorem dX2_image_105 : decode cX2_image 105 = .ok (.aload_n 0, 1) := dk_42 (dk_at dksX2_image_4 11 rfl rfl)
theorem dX2_image_106 : decode cX2_image 106 = .ok (.getfield 57, 3) := dk_180 0 57 (dk_at dksX2_image_4 12 rfl rfl)
theorem dX2_image_109 : decode cX2_image 109 = .ok (.iload_n 1, 1) := dk_27 (dk_at dksX2_image_4 15 rfl rfl)
theorem dX2_image_110 : decode cX2_image 110 = .ok (.aload_n 0, 1) := dk_42 (dk_at dksX2_image_4 16 rfl rfl)
theorem dX2_image_111 : decode cX2_image 111 = .ok (.getfield 31, 3) := dk_180 0 31 (dk_at dksX2_image_4 17 rfl rfl)
theorem dX2_image_114 : decode cX2_image 114 = .ok (.iload_n 1, 1) := dk_27 (dk_at dksX2_image_4 20 rfl rfl)
theorem dX2_image_115 : decode cX2_image 115 = .ok (.iaload, 1) := dk_46 (dk_at dksX2_image_4 21 rfl rfl)
theorem dX2_image_116 : decode cX2_image 116 = .ok (.iastore, 1) := dk_79 (dk_at dksX2_image_4 22 rfl rfl)
theorem dX2_image_117 : decode cX2_image 117 = .ok (.aload_n 0, 1) := dk_42 (dk_at dksX2_image_4 23 rfl rfl)
theorem dX2_image_118 : decode cX2_image 118 = .ok (.getfield 60, 3) := dk_180 0 60 (dk_at dksX2_image_5 0 rfl rfl)
theorem dX2_image_121 : decode cX2_image 121 = .ok (.iload_n 1, 1) := dk_27 (dk_at dksX2_image_5 3 rfl rfl)
theorem dX2_image_122 : decode cX2_image 122 = .ok (.aload_n 0, 1) := dk_42 (dk_at dksX2_image_5 4 rfl rfl)
theorem dX2_image_123 : decode cX2_image 123 = .ok (.getfield 41, 3) := dk_180 0 41 (dk_at dksX2_image_5 5 rfl rfl)
theorem dX2_image_126 : decode cX2_image 126 = .ok (.iload_n 1, 1) := dk_27 (dk_at dksX2_image_5 8 rfl rfl)
theorem dX2_image_127 : decode cX2_image 127 = .ok (.iaload, 1) := dk_46 (dk_at dksX2_image_5 9 rfl rfl)
theorem dX2_image_128 : decode cX2_image 128 = .ok (.iastore, 1) := dk_79 (dk_at dksX2_image_5 10 rfl rfl)
theorem dX2_image_129 : decode cX2_image 129 = .ok (.aload_n 0, 1) := dk_42 (dk_at dksX2_image_5 11 rfl rfl)
theorem dX2_image_130 : decode cX2_image 130 = .ok (.getfield 63, 3) := dk_180 0 63 (dk_at dksX2_image_5 12 rfl rfl)
theorem dX2_image_133 : decode cX2_image 133 = .ok (.iload_n 1, 1) := dk_27 (dk_at dksX2_image_5 15 rfl rfl)
theorem dX2_image_134 : decode cX2_image 134 = .ok (.aload_n 0, 1) := dk_42 (dk_at dksX2_image_5 16 rfl rfl)
theorem dX2_image_135 : decode cX2_image 135 = .ok (.getfield 44, 3) := dk_180 0 44 (dk_at dksX2_image_5 17 rfl rfl)
theorem dX2_image_138 : decode cX2_image 138 = .ok (.iload_n 1, 1) := dk_27 (dk_at dksX2_image_5 20 rfl rfl)
theorem dX2_image_139 : decode cX2_image 139 = .ok (.iaload, 1) := dk_46 (dk_at dksX2_image_5 21 rfl rfl)
theorem dX2_image_140 : decode cX2_image 140 = .ok (.iastore, 1) := dk_79 (dk_at dksX2_image_5 22 rfl rfl)
theorem dX2_image_141 : decode cX2_image 141 = .ok (.iinc 1 1, 3) := dk_132 1 1 (dk_at dksX2_image_6 0 rfl rfl)
theorem dX2_image_144 : decode cX2_image 144 = .ok (.goto (-57), 3) := dk_167 255 199 (dk_at dksX2_image_6 3 rfl rfl)
theorem dX2_image_147 : decode cX2_image 147 = .ok (.aload_n 0, 1) := dk_42 (dk_at dksX2_image_6 6 rfl rfl)
theorem dX2_image_148 : decode cX2_image 148 = .ok (.getfield 38, 3) := dk_180 0 38 (dk_at dksX2_image_6 7 rfl rfl)
theorem dX2_image_151 : decode cX2_image 151 = .ok (.ireturn, 1) := dk_172 (dk_at dksX2_image_6 10 rfl rfl)
abbrev cX2_restore : ByteArray := prog_11_method_59_code
def yX2_restore : MethodName := ⟨RX2, "restore", "()I"⟩
def dkwX2_restore_6 : List UInt8 := [27, 46, 79, 132, 1, 1, 167, 255, 199, 42, 180, 0, 38, 172]
abbrev dktX2_restore_6 : List UInt8 := dkwX2_restore_6 ++ []
def dkwX2_restore_5 : List UInt8 := [27, 46, 79, 42, 180, 0, 41, 27, 42, 180, 0, 60, 27, 46, 79, 42, 180, 0, 44, 27, 42, 180, 0, 63]
abbrev dktX2_restore_5 : List UInt8 := dkwX2_restore_5 ++ dktX2_restore_6
def dkwX2_restore_4 : List UInt8 := [162, 0, 57, 42, 180, 0, 28, 27, 42, 180, 0, 54, 27, 46, 79, 42, 180, 0, 31, 27, 42, 180, 0, 57]
abbrev dktX2_restore_4 : List UInt8 := dkwX2_restore_4 ++ dktX2_restore_5
def dkwX2_restore_3 : List UInt8 := [181, 0, 135, 42, 42, 180, 1, 0, 181, 0, 107, 42, 42, 180, 1, 3, 181, 0, 214, 3, 60, 27, 16, 8]
abbrev dktX2_restore_3 : List UInt8 := dkwX2_restore_3 ++ dktX2_restore_4
def dkwX2_restore_2 : List UInt8 := [181, 0, 141, 42, 42, 180, 0, 247, 181, 0, 114, 42, 42, 180, 0, 250, 181, 0, 93, 42, 42, 180, 0, 253]
abbrev dktX2_restore_2 : List UInt8 := dkwX2_restore_2 ++ dktX2_restore_3
def dkwX2_restore_1 : List UInt8 := [181, 0, 34, 42, 42, 180, 0, 238, 181, 0, 38, 42, 42, 180, 0, 241, 181, 0, 90, 42, 42, 180, 0, 244]
abbrev dktX2_restore_1 : List UInt8 := dkwX2_restore_1 ++ dktX2_restore_2
def dkwX2_restore_0 : List UInt8 := [42, 180, 0, 229, 154, 0, 6, 16, 153, 172, 42, 42, 180, 0, 232, 181, 0, 75, 42, 42, 180, 0, 235]
abbrev dktX2_restore_0 : List UInt8 := dkwX2_restore_0 ++ dktX2_restore_1
theorem dksX2_restore_0 : cX2_restore.data.toList.drop 0 = dktX2_restore_0 := by decide +kernel
theorem dksX2_restore_1 : cX2_restore.data.toList.drop 23 = dktX2_restore_1 := dk_seg dksX2_restore_0 23 rfl rfl
theorem dksX2_restore_2 : cX2_restore.data.toList.drop 47 = dktX2_restore_2 := dk_seg dksX2_restore_1 24 rfl rfl
theorem dksX2_restore_3 : cX2_restore.data.toList.drop 71 = dktX2_restore_3 := dk_seg dksX2_restore_2 24 rfl rfl
theorem dksX2_restore_4 : cX2_restore.data.toList.drop 95 = dktX2_restore_4 := dk_seg dksX2_restore_3 24 rfl rfl
theorem dksX2_restore_5 : cX2_restore.data.toList.drop 119 = dktX2_restore_5 := dk_seg dksX2_restore_4 24 rfl rfl
theorem dksX2_restore_6 : cX2_restore.data.toList.drop 143 = dktX2_restore_6 := dk_seg dksX2_restore_5 24 rfl rfl
theorem dX2_restore_0 : decode cX2_restore 0 = .ok (.aload_n 0, 1) := dk_42 (dk_at dksX2_restore_0 0 rfl rfl)
theorem dX2_restore_1 : decode cX2_restore 1 = .ok (.getfield 229, 3) := dk_180 0 229 (dk_at dksX2_restore_0 1 rfl rfl)
theorem dX2_restore_4 : decode cX2_restore 4 = .ok (.ifCond .ne 6, 3) := dk_154 0 6 (dk_at dksX2_restore_0 4 rfl rfl)
theorem dX2_restore_7 : decode cX2_restore 7 = .ok (.bipush (-103), 2) := dk_16 153 (dk_at dksX2_restore_0 7 rfl rfl)
theorem dX2_restore_9 : decode cX2_restore 9 = .ok (.ireturn, 1) := dk_172 (dk_at dksX2_restore_0 9 rfl rfl)
theorem dX2_restore_10 : decode cX2_restore 10 = .ok (.aload_n 0, 1) := dk_42 (dk_at dksX2_restore_0 10 rfl rfl)
theorem dX2_restore_11 : decode cX2_restore 11 = .ok (.aload_n 0, 1) := dk_42 (dk_at dksX2_restore_0 11 rfl rfl)
theorem dX2_restore_12 : decode cX2_restore 12 = .ok (.getfield 232, 3) := dk_180 0 232 (dk_at dksX2_restore_0 12 rfl rfl)
theorem dX2_restore_15 : decode cX2_restore 15 = .ok (.putfield 75, 3) := dk_181 0 75 (dk_at dksX2_restore_0 15 rfl rfl)
theorem dX2_restore_18 : decode cX2_restore 18 = .ok (.aload_n 0, 1) := dk_42 (dk_at dksX2_restore_0 18 rfl rfl)
theorem dX2_restore_19 : decode cX2_restore 19 = .ok (.aload_n 0, 1) := dk_42 (dk_at dksX2_restore_0 19 rfl rfl)
theorem dX2_restore_20 : decode cX2_restore 20 = .ok (.getfield 235, 3) := dk_180 0 235 (dk_at dksX2_restore_0 20 rfl rfl)
theorem dX2_restore_23 : decode cX2_restore 23 = .ok (.putfield 34, 3) := dk_181 0 34 (dk_at dksX2_restore_1 0 rfl rfl)
theorem dX2_restore_26 : decode cX2_restore 26 = .ok (.aload_n 0, 1) := dk_42 (dk_at dksX2_restore_1 3 rfl rfl)
theorem dX2_restore_27 : decode cX2_restore 27 = .ok (.aload_n 0, 1) := dk_42 (dk_at dksX2_restore_1 4 rfl rfl)
theorem dX2_restore_28 : decode cX2_restore 28 = .ok (.getfield 238, 3) := dk_180 0 238 (dk_at dksX2_restore_1 5 rfl rfl)
theorem dX2_restore_31 : decode cX2_restore 31 = .ok (.putfield 38, 3) := dk_181 0 38 (dk_at dksX2_restore_1 8 rfl rfl)
theorem dX2_restore_34 : decode cX2_restore 34 = .ok (.aload_n 0, 1) := dk_42 (dk_at dksX2_restore_1 11 rfl rfl)
theorem dX2_restore_35 : decode cX2_restore 35 = .ok (.aload_n 0, 1) := dk_42 (dk_at dksX2_restore_1 12 rfl rfl)
theorem dX2_restore_36 : decode cX2_restore 36 = .ok (.getfield 241, 3) := dk_180 0 241 (dk_at dksX2_restore_1 13 rfl rfl)
theorem dX2_restore_39 : decode cX2_restore 39 = .ok (.putfield 90, 3) := dk_181 0 90 (dk_at dksX2_restore_1 16 rfl rfl)
theorem dX2_restore_42 : decode cX2_restore 42 = .ok (.aload_n 0, 1) := dk_42 (dk_at dksX2_restore_1 19 rfl rfl)
theorem dX2_restore_43 : decode cX2_restore 43 = .ok (.aload_n 0, 1) := dk_42 (dk_at dksX2_restore_1 20 rfl rfl)
theorem dX2_restore_44 : decode cX2_restore 44 = .ok (.getfield 244, 3) := dk_180 0 244 (dk_at dksX2_restore_1 21 rfl rfl)
theorem dX2_restore_47 : decode cX2_restore 47 = .ok (.putfield 141, 3) := dk_181 0 141 (dk_at dksX2_restore_2 0 rfl rfl)
theorem dX2_restore_50 : decode cX2_restore 50 = .ok (.aload_n 0, 1) := dk_42 (dk_at dksX2_restore_2 3 rfl rfl)
theorem dX2_restore_51 : decode cX2_restore 51 = .ok (.aload_n 0, 1) := dk_42 (dk_at dksX2_restore_2 4 rfl rfl)
theorem dX2_restore_52 : decode cX2_restore 52 = .ok (.getfield 247, 3) := dk_180 0 247 (dk_at dksX2_restore_2 5 rfl rfl)
theorem dX2_restore_55 : decode cX2_restore 55 = .ok (.putfield 114, 3) := dk_181 0 114 (dk_at dksX2_restore_2 8 rfl rfl)
theorem dX2_restore_58 : decode cX2_restore 58 = .ok (.aload_n 0, 1) := dk_42 (dk_at dksX2_restore_2 11 rfl rfl)
theorem dX2_restore_59 : decode cX2_restore 59 = .ok (.aload_n 0, 1) := dk_42 (dk_at dksX2_restore_2 12 rfl rfl)
theorem dX2_restore_60 : decode cX2_restore 60 = .ok (.getfield 250, 3) := dk_180 0 250 (dk_at dksX2_restore_2 13 rfl rfl)
theorem dX2_restore_63 : decode cX2_restore 63 = .ok (.putfield 93, 3) := dk_181 0 93 (dk_at dksX2_restore_2 16 rfl rfl)
theorem dX2_restore_66 : decode cX2_restore 66 = .ok (.aload_n 0, 1) := dk_42 (dk_at dksX2_restore_2 19 rfl rfl)
theorem dX2_restore_67 : decode cX2_restore 67 = .ok (.aload_n 0, 1) := dk_42 (dk_at dksX2_restore_2 20 rfl rfl)
theorem dX2_restore_68 : decode cX2_restore 68 = .ok (.getfield 253, 3) := dk_180 0 253 (dk_at dksX2_restore_2 21 rfl rfl)
theorem dX2_restore_71 : decode cX2_restore 71 = .ok (.putfield 135, 3) := dk_181 0 135 (dk_at dksX2_restore_3 0 rfl rfl)
theorem dX2_restore_74 : decode cX2_restore 74 = .ok (.aload_n 0, 1) := dk_42 (dk_at dksX2_restore_3 3 rfl rfl)
theorem dX2_restore_75 : decode cX2_restore 75 = .ok (.aload_n 0, 1) := dk_42 (dk_at dksX2_restore_3 4 rfl rfl)
theorem dX2_restore_76 : decode cX2_restore 76 = .ok (.getfield 256, 3) := dk_180 1 0 (dk_at dksX2_restore_3 5 rfl rfl)
theorem dX2_restore_79 : decode cX2_restore 79 = .ok (.putfield 107, 3) := dk_181 0 107 (dk_at dksX2_restore_3 8 rfl rfl)
theorem dX2_restore_82 : decode cX2_restore 82 = .ok (.aload_n 0, 1) := dk_42 (dk_at dksX2_restore_3 11 rfl rfl)
theorem dX2_restore_83 : decode cX2_restore 83 = .ok (.aload_n 0, 1) := dk_42 (dk_at dksX2_restore_3 12 rfl rfl)
theorem dX2_restore_84 : decode cX2_restore 84 = .ok (.getfield 259, 3) := dk_180 1 3 (dk_at dksX2_restore_3 13 rfl rfl)
theorem dX2_restore_87 : decode cX2_restore 87 = .ok (.putfield 214, 3) := dk_181 0 214 (dk_at dksX2_restore_3 16 rfl rfl)
theorem dX2_restore_90 : decode cX2_restore 90 = .ok (.iconst 0, 1) := dk_3 (dk_at dksX2_restore_3 19 rfl rfl)
theorem dX2_restore_91 : decode cX2_restore 91 = .ok (.istore_n 1, 1) := dk_60 (dk_at dksX2_restore_3 20 rfl rfl)
theorem dX2_restore_92 : decode cX2_restore 92 = .ok (.iload_n 1, 1) := dk_27 (dk_at dksX2_restore_3 21 rfl rfl)
theorem dX2_restore_93 : decode cX2_restore 93 = .ok (.bipush 8, 2) := dk_16 8 (dk_at dksX2_restore_3 22 rfl rfl)
theorem dX2_restore_95 : decode cX2_restore 95 = .ok (.if_icmp .ge 57, 3) := dk_162 0 57 (dk_at dksX2_restore_4 0 rfl rfl)
theorem dX2_restore_98 : decode cX2_restore 98 = .ok (.aload_n 0, 1) := dk_42 (dk_at dksX2_restore_4 3 rfl rfl)
theorem dX2_restore_99 : decode cX2_restore 99 = .ok (.getfield 28, 3) := dk_180 0 28 (dk_at dksX2_restore_4 4 rfl rfl)
theorem dX2_restore_102 : decode cX2_restore 102 = .ok (.iload_n 1, 1) := dk_27 (dk_at dksX2_restore_4 7 rfl rfl)
theorem dX2_restore_103 : decode cX2_restore 103 = .ok (.aload_n 0, 1) := dk_42 (dk_at dksX2_restore_4 8 rfl rfl)
theorem dX2_restore_104 : decode cX2_restore 104 = .ok (.getfield 54, 3) := dk_180 0 54 (dk_at dksX2_restore_4 9 rfl rfl)
theorem dX2_restore_107 : decode cX2_restore 107 = .ok (.iload_n 1, 1) := dk_27 (dk_at dksX2_restore_4 12 rfl rfl)
theorem dX2_restore_108 : decode cX2_restore 108 = .ok (.iaload, 1) := dk_46 (dk_at dksX2_restore_4 13 rfl rfl)
theorem dX2_restore_109 : decode cX2_restore 109 = .ok (.iastore, 1) := dk_79 (dk_at dksX2_restore_4 14 rfl rfl)
theorem dX2_restore_110 : decode cX2_restore 110 = .ok (.aload_n 0, 1) := dk_42 (dk_at dksX2_restore_4 15 rfl rfl)
theorem dX2_restore_111 : decode cX2_restore 111 = .ok (.getfield 31, 3) := dk_180 0 31 (dk_at dksX2_restore_4 16 rfl rfl)
theorem dX2_restore_114 : decode cX2_restore 114 = .ok (.iload_n 1, 1) := dk_27 (dk_at dksX2_restore_4 19 rfl rfl)
theorem dX2_restore_115 : decode cX2_restore 115 = .ok (.aload_n 0, 1) := dk_42 (dk_at dksX2_restore_4 20 rfl rfl)
theorem dX2_restore_116 : decode cX2_restore 116 = .ok (.getfield 57, 3) := dk_180 0 57 (dk_at dksX2_restore_4 21 rfl rfl)
theorem dX2_restore_119 : decode cX2_restore 119 = .ok (.iload_n 1, 1) := dk_27 (dk_at dksX2_restore_5 0 rfl rfl)
theorem dX2_restore_120 : decode cX2_restore 120 = .ok (.iaload, 1) := dk_46 (dk_at dksX2_restore_5 1 rfl rfl)
theorem dX2_restore_121 : decode cX2_restore 121 = .ok (.iastore, 1) := dk_79 (dk_at dksX2_restore_5 2 rfl rfl)
theorem dX2_restore_122 : decode cX2_restore 122 = .ok (.aload_n 0, 1) := dk_42 (dk_at dksX2_restore_5 3 rfl rfl)
theorem dX2_restore_123 : decode cX2_restore 123 = .ok (.getfield 41, 3) := dk_180 0 41 (dk_at dksX2_restore_5 4 rfl rfl)
theorem dX2_restore_126 : decode cX2_restore 126 = .ok (.iload_n 1, 1) := dk_27 (dk_at dksX2_restore_5 7 rfl rfl)
theorem dX2_restore_127 : decode cX2_restore 127 = .ok (.aload_n 0, 1) := dk_42 (dk_at dksX2_restore_5 8 rfl rfl)
theorem dX2_restore_128 : decode cX2_restore 128 = .ok (.getfield 60, 3) := dk_180 0 60 (dk_at dksX2_restore_5 9 rfl rfl)
theorem dX2_restore_131 : decode cX2_restore 131 = .ok (.iload_n 1, 1) := dk_27 (dk_at dksX2_restore_5 12 rfl rfl)
theorem dX2_restore_132 : decode cX2_restore 132 = .ok (.iaload, 1) := dk_46 (dk_at dksX2_restore_5 13 rfl rfl)
theorem dX2_restore_133 : decode cX2_restore 133 = .ok (.iastore, 1) := dk_79 (dk_at dksX2_restore_5 14 rfl rfl)
theorem dX2_restore_134 : decode cX2_restore 134 = .ok (.aload_n 0, 1) := dk_42 (dk_at dksX2_restore_5 15 rfl rfl)
theorem dX2_restore_135 : decode cX2_restore 135 = .ok (.getfield 44, 3) := dk_180 0 44 (dk_at dksX2_restore_5 16 rfl rfl)
theorem dX2_restore_138 : decode cX2_restore 138 = .ok (.iload_n 1, 1) := dk_27 (dk_at dksX2_restore_5 19 rfl rfl)
theorem dX2_restore_139 : decode cX2_restore 139 = .ok (.aload_n 0, 1) := dk_42 (dk_at dksX2_restore_5 20 rfl rfl)
theorem dX2_restore_140 : decode cX2_restore 140 = .ok (.getfield 63, 3) := dk_180 0 63 (dk_at dksX2_restore_5 21 rfl rfl)
theorem dX2_restore_143 : decode cX2_restore 143 = .ok (.iload_n 1, 1) := dk_27 (dk_at dksX2_restore_6 0 rfl rfl)
theorem dX2_restore_144 : decode cX2_restore 144 = .ok (.iaload, 1) := dk_46 (dk_at dksX2_restore_6 1 rfl rfl)
theorem dX2_restore_145 : decode cX2_restore 145 = .ok (.iastore, 1) := dk_79 (dk_at dksX2_restore_6 2 rfl rfl)
theorem dX2_restore_146 : decode cX2_restore 146 = .ok (.iinc 1 1, 3) := dk_132 1 1 (dk_at dksX2_restore_6 3 rfl rfl)
theorem dX2_restore_149 : decode cX2_restore 149 = .ok (.goto (-57), 3) := dk_167 255 199 (dk_at dksX2_restore_6 6 rfl rfl)
theorem dX2_restore_152 : decode cX2_restore 152 = .ok (.aload_n 0, 1) := dk_42 (dk_at dksX2_restore_6 9 rfl rfl)
theorem dX2_restore_153 : decode cX2_restore 153 = .ok (.getfield 38, 3) := dk_180 0 38 (dk_at dksX2_restore_6 10 rfl rfl)
theorem dX2_restore_156 : decode cX2_restore 156 = .ok (.ireturn, 1) := dk_172 (dk_at dksX2_restore_6 13 rfl rfl)
abbrev cX2_count : ByteArray := prog_11_method_61_code
def yX2_count : MethodName := ⟨RX2, "count", "(I)I"⟩
def dkwX2_count_0 : List UInt8 := [42, 27, 182, 1, 6, 172]
abbrev dktX2_count_0 : List UInt8 := dkwX2_count_0 ++ []
theorem dksX2_count_0 : cX2_count.data.toList.drop 0 = dktX2_count_0 := by decide +kernel
theorem dX2_count_0 : decode cX2_count 0 = .ok (.aload_n 0, 1) := dk_42 (dk_at dksX2_count_0 0 rfl rfl)
theorem dX2_count_1 : decode cX2_count 1 = .ok (.iload_n 1, 1) := dk_27 (dk_at dksX2_count_0 1 rfl rfl)
theorem dX2_count_2 : decode cX2_count 2 = .ok (.invokevirtual 262, 3) := dk_182 1 6 (dk_at dksX2_count_0 2 rfl rfl)
theorem dX2_count_5 : decode cX2_count 5 = .ok (.ireturn, 1) := dk_172 (dk_at dksX2_count_0 5 rfl rfl)
abbrev cX2_howMany : ByteArray := prog_11_method_60_code
def yX2_howMany : MethodName := ⟨RX2, "howMany", "(I)I"⟩
def dkwX2_howMany_4 : List UInt8 := [153, 0, 7, 4, 167, 0, 4, 3, 172, 42, 180, 0, 214, 172, 42, 180, 0, 68, 172, 16, 154, 172]
abbrev dktX2_howMany_4 : List UInt8 := dkwX2_howMany_4 ++ []
def dkwX2_howMany_3 : List UInt8 := [172, 42, 180, 0, 141, 172, 42, 180, 0, 135, 153, 0, 7, 4, 167, 0, 4, 3, 172, 42, 180, 0, 107]
abbrev dktX2_howMany_3 : List UInt8 := dkwX2_howMany_3 ++ dktX2_howMany_4
def dkwX2_howMany_2 : List UInt8 := [42, 180, 0, 75, 172, 42, 180, 0, 34, 172, 42, 180, 0, 38, 172, 42, 180, 0, 90, 172, 42, 182, 0, 151]
abbrev dktX2_howMany_2 : List UInt8 := dkwX2_howMany_2 ++ dktX2_howMany_3
def dkwX2_howMany_1 : List UInt8 := [170, 0, 0, 0, 0, 0, 121, 0, 0, 0, 0, 0, 0, 0, 9, 0, 0, 0, 55, 0, 0, 0, 60, 0, 0, 0, 65, 0, 0, 0, 70, 0, 0, 0, 75, 0, 0, 0, 80, 0, 0, 0, 85, 0, 0, 0, 98, 0, 0, 0, 111, 0, 0, 0, 116]
abbrev dktX2_howMany_1 : List UInt8 := dkwX2_howMany_1 ++ dktX2_howMany_2
def dkwX2_howMany_0 : List UInt8 := [27]
abbrev dktX2_howMany_0 : List UInt8 := dkwX2_howMany_0 ++ dktX2_howMany_1
theorem dksX2_howMany_0 : cX2_howMany.data.toList.drop 0 = dktX2_howMany_0 := by decide +kernel
theorem dksX2_howMany_1 : cX2_howMany.data.toList.drop 1 = dktX2_howMany_1 := dk_seg dksX2_howMany_0 1 rfl rfl
theorem dksX2_howMany_2 : cX2_howMany.data.toList.drop 56 = dktX2_howMany_2 := dk_seg dksX2_howMany_1 55 rfl rfl
theorem dksX2_howMany_3 : cX2_howMany.data.toList.drop 80 = dktX2_howMany_3 := dk_seg dksX2_howMany_2 24 rfl rfl
theorem dksX2_howMany_4 : cX2_howMany.data.toList.drop 103 = dktX2_howMany_4 := dk_seg dksX2_howMany_3 23 rfl rfl
theorem dX2_howMany_0 : decode cX2_howMany 0 = .ok (.iload_n 1, 1) := dk_27 (dk_at dksX2_howMany_0 0 rfl rfl)
theorem dX2_howMany_1 : decode cX2_howMany 1 = .ok (.tableswitch 121 0 9 #[55, 60, 65, 70, 75, 80, 85, 98, 111, 116], 55) := by decide +kernel
theorem dX2_howMany_56 : decode cX2_howMany 56 = .ok (.aload_n 0, 1) := dk_42 (dk_at dksX2_howMany_2 0 rfl rfl)
theorem dX2_howMany_57 : decode cX2_howMany 57 = .ok (.getfield 75, 3) := dk_180 0 75 (dk_at dksX2_howMany_2 1 rfl rfl)
theorem dX2_howMany_60 : decode cX2_howMany 60 = .ok (.ireturn, 1) := dk_172 (dk_at dksX2_howMany_2 4 rfl rfl)
theorem dX2_howMany_61 : decode cX2_howMany 61 = .ok (.aload_n 0, 1) := dk_42 (dk_at dksX2_howMany_2 5 rfl rfl)
theorem dX2_howMany_62 : decode cX2_howMany 62 = .ok (.getfield 34, 3) := dk_180 0 34 (dk_at dksX2_howMany_2 6 rfl rfl)
theorem dX2_howMany_65 : decode cX2_howMany 65 = .ok (.ireturn, 1) := dk_172 (dk_at dksX2_howMany_2 9 rfl rfl)
theorem dX2_howMany_66 : decode cX2_howMany 66 = .ok (.aload_n 0, 1) := dk_42 (dk_at dksX2_howMany_2 10 rfl rfl)
theorem dX2_howMany_67 : decode cX2_howMany 67 = .ok (.getfield 38, 3) := dk_180 0 38 (dk_at dksX2_howMany_2 11 rfl rfl)
theorem dX2_howMany_70 : decode cX2_howMany 70 = .ok (.ireturn, 1) := dk_172 (dk_at dksX2_howMany_2 14 rfl rfl)
theorem dX2_howMany_71 : decode cX2_howMany 71 = .ok (.aload_n 0, 1) := dk_42 (dk_at dksX2_howMany_2 15 rfl rfl)
theorem dX2_howMany_72 : decode cX2_howMany 72 = .ok (.getfield 90, 3) := dk_180 0 90 (dk_at dksX2_howMany_2 16 rfl rfl)
theorem dX2_howMany_75 : decode cX2_howMany 75 = .ok (.ireturn, 1) := dk_172 (dk_at dksX2_howMany_2 19 rfl rfl)
theorem dX2_howMany_76 : decode cX2_howMany 76 = .ok (.aload_n 0, 1) := dk_42 (dk_at dksX2_howMany_2 20 rfl rfl)
theorem dX2_howMany_77 : decode cX2_howMany 77 = .ok (.invokevirtual 151, 3) := dk_182 0 151 (dk_at dksX2_howMany_2 21 rfl rfl)
theorem dX2_howMany_80 : decode cX2_howMany 80 = .ok (.ireturn, 1) := dk_172 (dk_at dksX2_howMany_3 0 rfl rfl)
theorem dX2_howMany_81 : decode cX2_howMany 81 = .ok (.aload_n 0, 1) := dk_42 (dk_at dksX2_howMany_3 1 rfl rfl)
theorem dX2_howMany_82 : decode cX2_howMany 82 = .ok (.getfield 141, 3) := dk_180 0 141 (dk_at dksX2_howMany_3 2 rfl rfl)
theorem dX2_howMany_85 : decode cX2_howMany 85 = .ok (.ireturn, 1) := dk_172 (dk_at dksX2_howMany_3 5 rfl rfl)
theorem dX2_howMany_86 : decode cX2_howMany 86 = .ok (.aload_n 0, 1) := dk_42 (dk_at dksX2_howMany_3 6 rfl rfl)
theorem dX2_howMany_87 : decode cX2_howMany 87 = .ok (.getfield 135, 3) := dk_180 0 135 (dk_at dksX2_howMany_3 7 rfl rfl)
theorem dX2_howMany_90 : decode cX2_howMany 90 = .ok (.ifCond .eq 7, 3) := dk_153 0 7 (dk_at dksX2_howMany_3 10 rfl rfl)
theorem dX2_howMany_93 : decode cX2_howMany 93 = .ok (.iconst 1, 1) := dk_4 (dk_at dksX2_howMany_3 13 rfl rfl)
theorem dX2_howMany_94 : decode cX2_howMany 94 = .ok (.goto 4, 3) := dk_167 0 4 (dk_at dksX2_howMany_3 14 rfl rfl)
theorem dX2_howMany_97 : decode cX2_howMany 97 = .ok (.iconst 0, 1) := dk_3 (dk_at dksX2_howMany_3 17 rfl rfl)
theorem dX2_howMany_98 : decode cX2_howMany 98 = .ok (.ireturn, 1) := dk_172 (dk_at dksX2_howMany_3 18 rfl rfl)
theorem dX2_howMany_99 : decode cX2_howMany 99 = .ok (.aload_n 0, 1) := dk_42 (dk_at dksX2_howMany_3 19 rfl rfl)
theorem dX2_howMany_100 : decode cX2_howMany 100 = .ok (.getfield 107, 3) := dk_180 0 107 (dk_at dksX2_howMany_3 20 rfl rfl)
theorem dX2_howMany_103 : decode cX2_howMany 103 = .ok (.ifCond .eq 7, 3) := dk_153 0 7 (dk_at dksX2_howMany_4 0 rfl rfl)
theorem dX2_howMany_106 : decode cX2_howMany 106 = .ok (.iconst 1, 1) := dk_4 (dk_at dksX2_howMany_4 3 rfl rfl)
theorem dX2_howMany_107 : decode cX2_howMany 107 = .ok (.goto 4, 3) := dk_167 0 4 (dk_at dksX2_howMany_4 4 rfl rfl)
theorem dX2_howMany_110 : decode cX2_howMany 110 = .ok (.iconst 0, 1) := dk_3 (dk_at dksX2_howMany_4 7 rfl rfl)
theorem dX2_howMany_111 : decode cX2_howMany 111 = .ok (.ireturn, 1) := dk_172 (dk_at dksX2_howMany_4 8 rfl rfl)
theorem dX2_howMany_112 : decode cX2_howMany 112 = .ok (.aload_n 0, 1) := dk_42 (dk_at dksX2_howMany_4 9 rfl rfl)
theorem dX2_howMany_113 : decode cX2_howMany 113 = .ok (.getfield 214, 3) := dk_180 0 214 (dk_at dksX2_howMany_4 10 rfl rfl)
theorem dX2_howMany_116 : decode cX2_howMany 116 = .ok (.ireturn, 1) := dk_172 (dk_at dksX2_howMany_4 13 rfl rfl)
theorem dX2_howMany_117 : decode cX2_howMany 117 = .ok (.aload_n 0, 1) := dk_42 (dk_at dksX2_howMany_4 14 rfl rfl)
theorem dX2_howMany_118 : decode cX2_howMany 118 = .ok (.getfield 68, 3) := dk_180 0 68 (dk_at dksX2_howMany_4 15 rfl rfl)
theorem dX2_howMany_121 : decode cX2_howMany 121 = .ok (.ireturn, 1) := dk_172 (dk_at dksX2_howMany_4 18 rfl rfl)
theorem dX2_howMany_122 : decode cX2_howMany 122 = .ok (.bipush (-102), 2) := dk_16 154 (dk_at dksX2_howMany_4 19 rfl rfl)
theorem dX2_howMany_124 : decode cX2_howMany 124 = .ok (.ireturn, 1) := dk_172 (dk_at dksX2_howMany_4 21 rfl rfl)
abbrev cX2_digest : ByteArray := prog_11_method_63_code
def yX2_digest : MethodName := ⟨RX2, "digest", "()J"⟩
def dkwX2_digest_8 : List UInt8 := [182, 1, 6, 133, 182, 1, 16, 132, 1, 1, 167, 255, 237, 42, 180, 1, 11, 173]
abbrev dktX2_digest_8 : List UInt8 := dkwX2_digest_8 ++ []
def dkwX2_digest_7 : List UInt8 := [51, 133, 182, 1, 16, 132, 1, 1, 167, 255, 234, 3, 60, 27, 16, 10, 162, 0, 19, 42, 42, 27]
abbrev dktX2_digest_7 : List UInt8 := dkwX2_digest_7 ++ dktX2_digest_8
def dkwX2_digest_6 : List UInt8 := [42, 182, 0, 226, 133, 182, 1, 16, 3, 60, 27, 42, 180, 0, 68, 162, 0, 20, 42, 42, 180, 0, 47, 27]
abbrev dktX2_digest_6 : List UInt8 := dkwX2_digest_6 ++ dktX2_digest_7
def dkwX2_digest_5 : List UInt8 := [182, 1, 16, 42, 42, 16, 9, 182, 0, 193, 133, 182, 1, 16, 42, 42, 182, 0, 223, 133, 182, 1, 16, 42]
abbrev dktX2_digest_5 : List UInt8 := dkwX2_digest_5 ++ dktX2_digest_6
def dkwX2_digest_4 : List UInt8 := [182, 0, 132, 133, 182, 1, 16, 42, 42, 3, 182, 0, 190, 133, 182, 1, 16, 42, 42, 4, 182, 0, 190, 133]
abbrev dktX2_digest_4 : List UInt8 := dkwX2_digest_4 ++ dktX2_digest_5
def dkwX2_digest_3 : List UInt8 := [182, 1, 16, 132, 1, 1, 167, 255, 190, 42, 42, 180, 0, 114, 133, 182, 1, 16, 42, 42, 42, 182, 0, 129]
abbrev dktX2_digest_3 : List UInt8 := dkwX2_digest_3 ++ dktX2_digest_4
def dkwX2_digest_2 : List UInt8 := [182, 0, 117, 133, 182, 1, 16, 42, 42, 27, 182, 0, 154, 133, 182, 1, 16, 42, 42, 27, 182, 0, 220, 133]
abbrev dktX2_digest_2 : List UInt8 := dkwX2_digest_2 ++ dktX2_digest_3
def dkwX2_digest_1 : List UInt8 := [162, 0, 20, 42, 42, 27, 28, 182, 0, 103, 133, 182, 1, 16, 132, 2, 1, 167, 255, 236, 42, 42, 27]
abbrev dktX2_digest_1 : List UInt8 := dkwX2_digest_1 ++ dktX2_digest_2
def dkwX2_digest_0 : List UInt8 := [42, 20, 1, 14, 181, 1, 11, 3, 60, 27, 42, 180, 0, 75, 162, 0, 64, 3, 61, 28, 16, 9]
abbrev dktX2_digest_0 : List UInt8 := dkwX2_digest_0 ++ dktX2_digest_1
theorem dksX2_digest_0 : cX2_digest.data.toList.drop 0 = dktX2_digest_0 := by decide +kernel
theorem dksX2_digest_1 : cX2_digest.data.toList.drop 22 = dktX2_digest_1 := dk_seg dksX2_digest_0 22 rfl rfl
theorem dksX2_digest_2 : cX2_digest.data.toList.drop 45 = dktX2_digest_2 := dk_seg dksX2_digest_1 23 rfl rfl
theorem dksX2_digest_3 : cX2_digest.data.toList.drop 69 = dktX2_digest_3 := dk_seg dksX2_digest_2 24 rfl rfl
theorem dksX2_digest_4 : cX2_digest.data.toList.drop 93 = dktX2_digest_4 := dk_seg dksX2_digest_3 24 rfl rfl
theorem dksX2_digest_5 : cX2_digest.data.toList.drop 117 = dktX2_digest_5 := dk_seg dksX2_digest_4 24 rfl rfl
theorem dksX2_digest_6 : cX2_digest.data.toList.drop 141 = dktX2_digest_6 := dk_seg dksX2_digest_5 24 rfl rfl
theorem dksX2_digest_7 : cX2_digest.data.toList.drop 165 = dktX2_digest_7 := dk_seg dksX2_digest_6 24 rfl rfl
theorem dksX2_digest_8 : cX2_digest.data.toList.drop 187 = dktX2_digest_8 := dk_seg dksX2_digest_7 22 rfl rfl
theorem dX2_digest_0 : decode cX2_digest 0 = .ok (.aload_n 0, 1) := dk_42 (dk_at dksX2_digest_0 0 rfl rfl)
theorem dX2_digest_1 : decode cX2_digest 1 = .ok (.ldc2_w 270, 3) := dk_20 1 14 (dk_at dksX2_digest_0 1 rfl rfl)
theorem dX2_digest_4 : decode cX2_digest 4 = .ok (.putfield 267, 3) := dk_181 1 11 (dk_at dksX2_digest_0 4 rfl rfl)
theorem dX2_digest_7 : decode cX2_digest 7 = .ok (.iconst 0, 1) := dk_3 (dk_at dksX2_digest_0 7 rfl rfl)
theorem dX2_digest_8 : decode cX2_digest 8 = .ok (.istore_n 1, 1) := dk_60 (dk_at dksX2_digest_0 8 rfl rfl)
theorem dX2_digest_9 : decode cX2_digest 9 = .ok (.iload_n 1, 1) := dk_27 (dk_at dksX2_digest_0 9 rfl rfl)
theorem dX2_digest_10 : decode cX2_digest 10 = .ok (.aload_n 0, 1) := dk_42 (dk_at dksX2_digest_0 10 rfl rfl)
theorem dX2_digest_11 : decode cX2_digest 11 = .ok (.getfield 75, 3) := dk_180 0 75 (dk_at dksX2_digest_0 11 rfl rfl)
theorem dX2_digest_14 : decode cX2_digest 14 = .ok (.if_icmp .ge 64, 3) := dk_162 0 64 (dk_at dksX2_digest_0 14 rfl rfl)
theorem dX2_digest_17 : decode cX2_digest 17 = .ok (.iconst 0, 1) := dk_3 (dk_at dksX2_digest_0 17 rfl rfl)
theorem dX2_digest_18 : decode cX2_digest 18 = .ok (.istore_n 2, 1) := dk_61 (dk_at dksX2_digest_0 18 rfl rfl)
theorem dX2_digest_19 : decode cX2_digest 19 = .ok (.iload_n 2, 1) := dk_28 (dk_at dksX2_digest_0 19 rfl rfl)
theorem dX2_digest_20 : decode cX2_digest 20 = .ok (.bipush 9, 2) := dk_16 9 (dk_at dksX2_digest_0 20 rfl rfl)
theorem dX2_digest_22 : decode cX2_digest 22 = .ok (.if_icmp .ge 20, 3) := dk_162 0 20 (dk_at dksX2_digest_1 0 rfl rfl)
theorem dX2_digest_25 : decode cX2_digest 25 = .ok (.aload_n 0, 1) := dk_42 (dk_at dksX2_digest_1 3 rfl rfl)
theorem dX2_digest_26 : decode cX2_digest 26 = .ok (.aload_n 0, 1) := dk_42 (dk_at dksX2_digest_1 4 rfl rfl)
theorem dX2_digest_27 : decode cX2_digest 27 = .ok (.iload_n 1, 1) := dk_27 (dk_at dksX2_digest_1 5 rfl rfl)
theorem dX2_digest_28 : decode cX2_digest 28 = .ok (.iload_n 2, 1) := dk_28 (dk_at dksX2_digest_1 6 rfl rfl)
theorem dX2_digest_29 : decode cX2_digest 29 = .ok (.invokevirtual 103, 3) := dk_182 0 103 (dk_at dksX2_digest_1 7 rfl rfl)
theorem dX2_digest_32 : decode cX2_digest 32 = .ok (.i2l, 1) := dk_133 (dk_at dksX2_digest_1 10 rfl rfl)
theorem dX2_digest_33 : decode cX2_digest 33 = .ok (.invokevirtual 272, 3) := dk_182 1 16 (dk_at dksX2_digest_1 11 rfl rfl)
theorem dX2_digest_36 : decode cX2_digest 36 = .ok (.iinc 2 1, 3) := dk_132 2 1 (dk_at dksX2_digest_1 14 rfl rfl)
theorem dX2_digest_39 : decode cX2_digest 39 = .ok (.goto (-20), 3) := dk_167 255 236 (dk_at dksX2_digest_1 17 rfl rfl)
theorem dX2_digest_42 : decode cX2_digest 42 = .ok (.aload_n 0, 1) := dk_42 (dk_at dksX2_digest_1 20 rfl rfl)
theorem dX2_digest_43 : decode cX2_digest 43 = .ok (.aload_n 0, 1) := dk_42 (dk_at dksX2_digest_1 21 rfl rfl)
theorem dX2_digest_44 : decode cX2_digest 44 = .ok (.iload_n 1, 1) := dk_27 (dk_at dksX2_digest_1 22 rfl rfl)
theorem dX2_digest_45 : decode cX2_digest 45 = .ok (.invokevirtual 117, 3) := dk_182 0 117 (dk_at dksX2_digest_2 0 rfl rfl)
theorem dX2_digest_48 : decode cX2_digest 48 = .ok (.i2l, 1) := dk_133 (dk_at dksX2_digest_2 3 rfl rfl)
theorem dX2_digest_49 : decode cX2_digest 49 = .ok (.invokevirtual 272, 3) := dk_182 1 16 (dk_at dksX2_digest_2 4 rfl rfl)
theorem dX2_digest_52 : decode cX2_digest 52 = .ok (.aload_n 0, 1) := dk_42 (dk_at dksX2_digest_2 7 rfl rfl)
theorem dX2_digest_53 : decode cX2_digest 53 = .ok (.aload_n 0, 1) := dk_42 (dk_at dksX2_digest_2 8 rfl rfl)
theorem dX2_digest_54 : decode cX2_digest 54 = .ok (.iload_n 1, 1) := dk_27 (dk_at dksX2_digest_2 9 rfl rfl)
theorem dX2_digest_55 : decode cX2_digest 55 = .ok (.invokevirtual 154, 3) := dk_182 0 154 (dk_at dksX2_digest_2 10 rfl rfl)
theorem dX2_digest_58 : decode cX2_digest 58 = .ok (.i2l, 1) := dk_133 (dk_at dksX2_digest_2 13 rfl rfl)
theorem dX2_digest_59 : decode cX2_digest 59 = .ok (.invokevirtual 272, 3) := dk_182 1 16 (dk_at dksX2_digest_2 14 rfl rfl)
theorem dX2_digest_62 : decode cX2_digest 62 = .ok (.aload_n 0, 1) := dk_42 (dk_at dksX2_digest_2 17 rfl rfl)
theorem dX2_digest_63 : decode cX2_digest 63 = .ok (.aload_n 0, 1) := dk_42 (dk_at dksX2_digest_2 18 rfl rfl)
theorem dX2_digest_64 : decode cX2_digest 64 = .ok (.iload_n 1, 1) := dk_27 (dk_at dksX2_digest_2 19 rfl rfl)
theorem dX2_digest_65 : decode cX2_digest 65 = .ok (.invokevirtual 220, 3) := dk_182 0 220 (dk_at dksX2_digest_2 20 rfl rfl)
theorem dX2_digest_68 : decode cX2_digest 68 = .ok (.i2l, 1) := dk_133 (dk_at dksX2_digest_2 23 rfl rfl)
theorem dX2_digest_69 : decode cX2_digest 69 = .ok (.invokevirtual 272, 3) := dk_182 1 16 (dk_at dksX2_digest_3 0 rfl rfl)
theorem dX2_digest_72 : decode cX2_digest 72 = .ok (.iinc 1 1, 3) := dk_132 1 1 (dk_at dksX2_digest_3 3 rfl rfl)
theorem dX2_digest_75 : decode cX2_digest 75 = .ok (.goto (-66), 3) := dk_167 255 190 (dk_at dksX2_digest_3 6 rfl rfl)
theorem dX2_digest_78 : decode cX2_digest 78 = .ok (.aload_n 0, 1) := dk_42 (dk_at dksX2_digest_3 9 rfl rfl)
theorem dX2_digest_79 : decode cX2_digest 79 = .ok (.aload_n 0, 1) := dk_42 (dk_at dksX2_digest_3 10 rfl rfl)
theorem dX2_digest_80 : decode cX2_digest 80 = .ok (.getfield 114, 3) := dk_180 0 114 (dk_at dksX2_digest_3 11 rfl rfl)
theorem dX2_digest_83 : decode cX2_digest 83 = .ok (.i2l, 1) := dk_133 (dk_at dksX2_digest_3 14 rfl rfl)
theorem dX2_digest_84 : decode cX2_digest 84 = .ok (.invokevirtual 272, 3) := dk_182 1 16 (dk_at dksX2_digest_3 15 rfl rfl)
theorem dX2_digest_87 : decode cX2_digest 87 = .ok (.aload_n 0, 1) := dk_42 (dk_at dksX2_digest_3 18 rfl rfl)
theorem dX2_digest_88 : decode cX2_digest 88 = .ok (.aload_n 0, 1) := dk_42 (dk_at dksX2_digest_3 19 rfl rfl)
theorem dX2_digest_89 : decode cX2_digest 89 = .ok (.aload_n 0, 1) := dk_42 (dk_at dksX2_digest_3 20 rfl rfl)
theorem dX2_digest_90 : decode cX2_digest 90 = .ok (.invokevirtual 129, 3) := dk_182 0 129 (dk_at dksX2_digest_3 21 rfl rfl)
theorem dX2_digest_93 : decode cX2_digest 93 = .ok (.invokevirtual 132, 3) := dk_182 0 132 (dk_at dksX2_digest_4 0 rfl rfl)
theorem dX2_digest_96 : decode cX2_digest 96 = .ok (.i2l, 1) := dk_133 (dk_at dksX2_digest_4 3 rfl rfl)
theorem dX2_digest_97 : decode cX2_digest 97 = .ok (.invokevirtual 272, 3) := dk_182 1 16 (dk_at dksX2_digest_4 4 rfl rfl)
theorem dX2_digest_100 : decode cX2_digest 100 = .ok (.aload_n 0, 1) := dk_42 (dk_at dksX2_digest_4 7 rfl rfl)
theorem dX2_digest_101 : decode cX2_digest 101 = .ok (.aload_n 0, 1) := dk_42 (dk_at dksX2_digest_4 8 rfl rfl)
theorem dX2_digest_102 : decode cX2_digest 102 = .ok (.iconst 0, 1) := dk_3 (dk_at dksX2_digest_4 9 rfl rfl)
theorem dX2_digest_103 : decode cX2_digest 103 = .ok (.invokevirtual 190, 3) := dk_182 0 190 (dk_at dksX2_digest_4 10 rfl rfl)
theorem dX2_digest_106 : decode cX2_digest 106 = .ok (.i2l, 1) := dk_133 (dk_at dksX2_digest_4 13 rfl rfl)
theorem dX2_digest_107 : decode cX2_digest 107 = .ok (.invokevirtual 272, 3) := dk_182 1 16 (dk_at dksX2_digest_4 14 rfl rfl)
theorem dX2_digest_110 : decode cX2_digest 110 = .ok (.aload_n 0, 1) := dk_42 (dk_at dksX2_digest_4 17 rfl rfl)
theorem dX2_digest_111 : decode cX2_digest 111 = .ok (.aload_n 0, 1) := dk_42 (dk_at dksX2_digest_4 18 rfl rfl)
theorem dX2_digest_112 : decode cX2_digest 112 = .ok (.iconst 1, 1) := dk_4 (dk_at dksX2_digest_4 19 rfl rfl)
theorem dX2_digest_113 : decode cX2_digest 113 = .ok (.invokevirtual 190, 3) := dk_182 0 190 (dk_at dksX2_digest_4 20 rfl rfl)
theorem dX2_digest_116 : decode cX2_digest 116 = .ok (.i2l, 1) := dk_133 (dk_at dksX2_digest_4 23 rfl rfl)
theorem dX2_digest_117 : decode cX2_digest 117 = .ok (.invokevirtual 272, 3) := dk_182 1 16 (dk_at dksX2_digest_5 0 rfl rfl)
theorem dX2_digest_120 : decode cX2_digest 120 = .ok (.aload_n 0, 1) := dk_42 (dk_at dksX2_digest_5 3 rfl rfl)
theorem dX2_digest_121 : decode cX2_digest 121 = .ok (.aload_n 0, 1) := dk_42 (dk_at dksX2_digest_5 4 rfl rfl)
theorem dX2_digest_122 : decode cX2_digest 122 = .ok (.bipush 9, 2) := dk_16 9 (dk_at dksX2_digest_5 5 rfl rfl)
theorem dX2_digest_124 : decode cX2_digest 124 = .ok (.invokevirtual 193, 3) := dk_182 0 193 (dk_at dksX2_digest_5 7 rfl rfl)
theorem dX2_digest_127 : decode cX2_digest 127 = .ok (.i2l, 1) := dk_133 (dk_at dksX2_digest_5 10 rfl rfl)
theorem dX2_digest_128 : decode cX2_digest 128 = .ok (.invokevirtual 272, 3) := dk_182 1 16 (dk_at dksX2_digest_5 11 rfl rfl)
theorem dX2_digest_131 : decode cX2_digest 131 = .ok (.aload_n 0, 1) := dk_42 (dk_at dksX2_digest_5 14 rfl rfl)
theorem dX2_digest_132 : decode cX2_digest 132 = .ok (.aload_n 0, 1) := dk_42 (dk_at dksX2_digest_5 15 rfl rfl)
theorem dX2_digest_133 : decode cX2_digest 133 = .ok (.invokevirtual 223, 3) := dk_182 0 223 (dk_at dksX2_digest_5 16 rfl rfl)
theorem dX2_digest_136 : decode cX2_digest 136 = .ok (.i2l, 1) := dk_133 (dk_at dksX2_digest_5 19 rfl rfl)
theorem dX2_digest_137 : decode cX2_digest 137 = .ok (.invokevirtual 272, 3) := dk_182 1 16 (dk_at dksX2_digest_5 20 rfl rfl)
theorem dX2_digest_140 : decode cX2_digest 140 = .ok (.aload_n 0, 1) := dk_42 (dk_at dksX2_digest_5 23 rfl rfl)
theorem dX2_digest_141 : decode cX2_digest 141 = .ok (.aload_n 0, 1) := dk_42 (dk_at dksX2_digest_6 0 rfl rfl)
theorem dX2_digest_142 : decode cX2_digest 142 = .ok (.invokevirtual 226, 3) := dk_182 0 226 (dk_at dksX2_digest_6 1 rfl rfl)
theorem dX2_digest_145 : decode cX2_digest 145 = .ok (.i2l, 1) := dk_133 (dk_at dksX2_digest_6 4 rfl rfl)
theorem dX2_digest_146 : decode cX2_digest 146 = .ok (.invokevirtual 272, 3) := dk_182 1 16 (dk_at dksX2_digest_6 5 rfl rfl)
theorem dX2_digest_149 : decode cX2_digest 149 = .ok (.iconst 0, 1) := dk_3 (dk_at dksX2_digest_6 8 rfl rfl)
theorem dX2_digest_150 : decode cX2_digest 150 = .ok (.istore_n 1, 1) := dk_60 (dk_at dksX2_digest_6 9 rfl rfl)
theorem dX2_digest_151 : decode cX2_digest 151 = .ok (.iload_n 1, 1) := dk_27 (dk_at dksX2_digest_6 10 rfl rfl)
theorem dX2_digest_152 : decode cX2_digest 152 = .ok (.aload_n 0, 1) := dk_42 (dk_at dksX2_digest_6 11 rfl rfl)
theorem dX2_digest_153 : decode cX2_digest 153 = .ok (.getfield 68, 3) := dk_180 0 68 (dk_at dksX2_digest_6 12 rfl rfl)
theorem dX2_digest_156 : decode cX2_digest 156 = .ok (.if_icmp .ge 20, 3) := dk_162 0 20 (dk_at dksX2_digest_6 15 rfl rfl)
theorem dX2_digest_159 : decode cX2_digest 159 = .ok (.aload_n 0, 1) := dk_42 (dk_at dksX2_digest_6 18 rfl rfl)
theorem dX2_digest_160 : decode cX2_digest 160 = .ok (.aload_n 0, 1) := dk_42 (dk_at dksX2_digest_6 19 rfl rfl)
theorem dX2_digest_161 : decode cX2_digest 161 = .ok (.getfield 47, 3) := dk_180 0 47 (dk_at dksX2_digest_6 20 rfl rfl)
theorem dX2_digest_164 : decode cX2_digest 164 = .ok (.iload_n 1, 1) := dk_27 (dk_at dksX2_digest_6 23 rfl rfl)
theorem dX2_digest_165 : decode cX2_digest 165 = .ok (.baload, 1) := dk_51 (dk_at dksX2_digest_7 0 rfl rfl)
theorem dX2_digest_166 : decode cX2_digest 166 = .ok (.i2l, 1) := dk_133 (dk_at dksX2_digest_7 1 rfl rfl)
theorem dX2_digest_167 : decode cX2_digest 167 = .ok (.invokevirtual 272, 3) := dk_182 1 16 (dk_at dksX2_digest_7 2 rfl rfl)
theorem dX2_digest_170 : decode cX2_digest 170 = .ok (.iinc 1 1, 3) := dk_132 1 1 (dk_at dksX2_digest_7 5 rfl rfl)
theorem dX2_digest_173 : decode cX2_digest 173 = .ok (.goto (-22), 3) := dk_167 255 234 (dk_at dksX2_digest_7 8 rfl rfl)
theorem dX2_digest_176 : decode cX2_digest 176 = .ok (.iconst 0, 1) := dk_3 (dk_at dksX2_digest_7 11 rfl rfl)
theorem dX2_digest_177 : decode cX2_digest 177 = .ok (.istore_n 1, 1) := dk_60 (dk_at dksX2_digest_7 12 rfl rfl)
theorem dX2_digest_178 : decode cX2_digest 178 = .ok (.iload_n 1, 1) := dk_27 (dk_at dksX2_digest_7 13 rfl rfl)
theorem dX2_digest_179 : decode cX2_digest 179 = .ok (.bipush 10, 2) := dk_16 10 (dk_at dksX2_digest_7 14 rfl rfl)
theorem dX2_digest_181 : decode cX2_digest 181 = .ok (.if_icmp .ge 19, 3) := dk_162 0 19 (dk_at dksX2_digest_7 16 rfl rfl)
theorem dX2_digest_184 : decode cX2_digest 184 = .ok (.aload_n 0, 1) := dk_42 (dk_at dksX2_digest_7 19 rfl rfl)
theorem dX2_digest_185 : decode cX2_digest 185 = .ok (.aload_n 0, 1) := dk_42 (dk_at dksX2_digest_7 20 rfl rfl)
theorem dX2_digest_186 : decode cX2_digest 186 = .ok (.iload_n 1, 1) := dk_27 (dk_at dksX2_digest_7 21 rfl rfl)
theorem dX2_digest_187 : decode cX2_digest 187 = .ok (.invokevirtual 262, 3) := dk_182 1 6 (dk_at dksX2_digest_8 0 rfl rfl)
theorem dX2_digest_190 : decode cX2_digest 190 = .ok (.i2l, 1) := dk_133 (dk_at dksX2_digest_8 3 rfl rfl)
theorem dX2_digest_191 : decode cX2_digest 191 = .ok (.invokevirtual 272, 3) := dk_182 1 16 (dk_at dksX2_digest_8 4 rfl rfl)
theorem dX2_digest_194 : decode cX2_digest 194 = .ok (.iinc 1 1, 3) := dk_132 1 1 (dk_at dksX2_digest_8 7 rfl rfl)
theorem dX2_digest_197 : decode cX2_digest 197 = .ok (.goto (-19), 3) := dk_167 255 237 (dk_at dksX2_digest_8 10 rfl rfl)
theorem dX2_digest_200 : decode cX2_digest 200 = .ok (.aload_n 0, 1) := dk_42 (dk_at dksX2_digest_8 13 rfl rfl)
theorem dX2_digest_201 : decode cX2_digest 201 = .ok (.getfield 267, 3) := dk_180 1 11 (dk_at dksX2_digest_8 14 rfl rfl)
theorem dX2_digest_204 : decode cX2_digest 204 = .ok (.lreturn, 1) := dk_173 (dk_at dksX2_digest_8 17 rfl rfl)
abbrev cX2_mix : ByteArray := prog_11_method_62_code
def yX2_mix : MethodName := ⟨RX2, "mix", "(J)V"⟩
def dkwX2_mix_0 : List UInt8 := [42, 20, 1, 9, 42, 180, 1, 11, 105, 31, 97, 181, 1, 11, 177]
abbrev dktX2_mix_0 : List UInt8 := dkwX2_mix_0 ++ []
theorem dksX2_mix_0 : cX2_mix.data.toList.drop 0 = dktX2_mix_0 := by decide +kernel
theorem dX2_mix_0 : decode cX2_mix 0 = .ok (.aload_n 0, 1) := dk_42 (dk_at dksX2_mix_0 0 rfl rfl)
theorem dX2_mix_1 : decode cX2_mix 1 = .ok (.ldc2_w 265, 3) := dk_20 1 9 (dk_at dksX2_mix_0 1 rfl rfl)
theorem dX2_mix_4 : decode cX2_mix 4 = .ok (.aload_n 0, 1) := dk_42 (dk_at dksX2_mix_0 4 rfl rfl)
theorem dX2_mix_5 : decode cX2_mix 5 = .ok (.getfield 267, 3) := dk_180 1 11 (dk_at dksX2_mix_0 5 rfl rfl)
theorem dX2_mix_8 : decode cX2_mix 8 = .ok (.lmul, 1) := dk_105 (dk_at dksX2_mix_0 8 rfl rfl)
theorem dX2_mix_9 : decode cX2_mix 9 = .ok (.lload_n 1, 1) := dk_31 (dk_at dksX2_mix_0 9 rfl rfl)
theorem dX2_mix_10 : decode cX2_mix 10 = .ok (.ladd, 1) := dk_97 (dk_at dksX2_mix_0 10 rfl rfl)
theorem dX2_mix_11 : decode cX2_mix 11 = .ok (.putfield 267, 3) := dk_181 1 11 (dk_at dksX2_mix_0 11 rfl rfl)
theorem dX2_mix_14 : decode cX2_mix 14 = .ok (.return_, 1) := dk_177 (dk_at dksX2_mix_0 14 rfl rfl)
theorem q57 : (Jvm.Cond.initialized "TownOnWeightModel") ∈ lw_all := lw_g (lw_at lw_m1 3 rfl) rfl
theorem q672 : (Jvm.Cond.instantiable "TownOnWeightModel" (47 : Nat)) ∈ lw_all := lw_g (lw_at lw_m3 138 rfl) rfl
theorem q674 : (Jvm.Cond.instanceMethod ({ cls := "TownOnWeightModel", name := "<init>", desc := "()V" } : Jvm.MethodName)) ∈ lw_all := lw_g (lw_at lw_m3 140 rfl) rfl
theorem q675 : (Jvm.Cond.code ({ cls := "TownOnWeightModel", name := "<init>", desc := "()V" } : Jvm.MethodName) prog_11_method_1_code (1 : Nat) (Option.none : Option Jvm.ClassFile.FieldType)) ∈ lw_all := lw_g (lw_at lw_m3 141 rfl) rfl
theorem q676 : (Jvm.Cond.methodLink "TownOnWeightModel" (1 : Nat) ({ cls := "java/lang/Object", name := "<init>", desc := "()V" } : Jvm.MethodName)) ∈ lw_all := lw_g (lw_at lw_m3 142 rfl) rfl
theorem q677 : (Jvm.Cond.fieldLink "TownOnWeightModel" (75 : Nat) "TownOnWeightModel" "houses" "I") ∈ lw_all := lw_g (lw_at lw_m3 143 rfl) rfl
theorem q678 : (Jvm.Cond.fieldLink "TownOnWeightModel" (7 : Nat) "TownOnWeightModel" "kindOf" "[I") ∈ lw_all := lw_g (lw_at lw_m3 144 rfl) rfl
theorem q679 : (Jvm.Cond.fieldLink "TownOnWeightModel" (13 : Nat) "TownOnWeightModel" "parentOf" "[I") ∈ lw_all := lw_g (lw_at lw_m3 145 rfl) rfl
theorem q680 : (Jvm.Cond.fieldLink "TownOnWeightModel" (16 : Nat) "TownOnWeightModel" "fromOf" "[I") ∈ lw_all := lw_g (lw_at lw_m3 146 rfl) rfl
theorem q681 : (Jvm.Cond.fieldLink "TownOnWeightModel" (19 : Nat) "TownOnWeightModel" "toOf" "[I") ∈ lw_all := lw_g (lw_at lw_m3 147 rfl) rfl
theorem q682 : (Jvm.Cond.fieldLink "TownOnWeightModel" (22 : Nat) "TownOnWeightModel" "takesOf" "[I") ∈ lw_all := lw_g (lw_at lw_m3 148 rfl) rfl
theorem q683 : (Jvm.Cond.fieldLink "TownOnWeightModel" (25 : Nat) "TownOnWeightModel" "lossOf" "[I") ∈ lw_all := lw_g (lw_at lw_m3 149 rfl) rfl
theorem q684 : (Jvm.Cond.fieldLink "TownOnWeightModel" (28 : Nat) "TownOnWeightModel" "takenOf" "[I") ∈ lw_all := lw_g (lw_at lw_m3 150 rfl) rfl
theorem q685 : (Jvm.Cond.fieldLink "TownOnWeightModel" (31 : Nat) "TownOnWeightModel" "owesOf" "[I") ∈ lw_all := lw_g (lw_at lw_m3 151 rfl) rfl
theorem q686 : (Jvm.Cond.fieldLink "TownOnWeightModel" (93 : Nat) "TownOnWeightModel" "brakes" "I") ∈ lw_all := lw_g (lw_at lw_m3 152 rfl) rfl
theorem q687 : (Jvm.Cond.fieldLink "TownOnWeightModel" (34 : Nat) "TownOnWeightModel" "longNow" "I") ∈ lw_all := lw_g (lw_at lw_m3 153 rfl) rfl
theorem q688 : (Jvm.Cond.fieldLink "TownOnWeightModel" (38 : Nat) "TownOnWeightModel" "hangs" "I") ∈ lw_all := lw_g (lw_at lw_m3 154 rfl) rfl
theorem q689 : (Jvm.Cond.fieldLink "TownOnWeightModel" (90 : Nat) "TownOnWeightModel" "hourNow" "I") ∈ lw_all := lw_g (lw_at lw_m3 155 rfl) rfl
theorem q690 : (Jvm.Cond.fieldLink "TownOnWeightModel" (141 : Nat) "TownOnWeightModel" "lostNow" "I") ∈ lw_all := lw_g (lw_at lw_m3 156 rfl) rfl
theorem q691 : (Jvm.Cond.fieldLink "TownOnWeightModel" (114 : Nat) "TownOnWeightModel" "workedNow" "I") ∈ lw_all := lw_g (lw_at lw_m3 157 rfl) rfl
theorem q692 : (Jvm.Cond.fieldLink "TownOnWeightModel" (135 : Nat) "TownOnWeightModel" "isDown" "Z") ∈ lw_all := lw_g (lw_at lw_m3 158 rfl) rfl
theorem q693 : (Jvm.Cond.fieldLink "TownOnWeightModel" (107 : Nat) "TownOnWeightModel" "isRain" "Z") ∈ lw_all := lw_g (lw_at lw_m3 159 rfl) rfl
theorem q694 : (Jvm.Cond.fieldLink "TownOnWeightModel" (214 : Nat) "TownOnWeightModel" "readings" "I") ∈ lw_all := lw_g (lw_at lw_m3 160 rfl) rfl
theorem q695 : (Jvm.Cond.fieldLink "TownOnWeightModel" (41 : Nat) "TownOnWeightModel" "readSet" "[I") ∈ lw_all := lw_g (lw_at lw_m3 161 rfl) rfl
theorem q696 : (Jvm.Cond.fieldLink "TownOnWeightModel" (44 : Nat) "TownOnWeightModel" "readFeet" "[I") ∈ lw_all := lw_g (lw_at lw_m3 162 rfl) rfl
theorem q697 : (Jvm.Cond.fieldLink "TownOnWeightModel" (68 : Nat) "TownOnWeightModel" "pageLength" "I") ∈ lw_all := lw_g (lw_at lw_m3 163 rfl) rfl
theorem q698 : (Jvm.Cond.fieldLink "TownOnWeightModel" (47 : Nat) "TownOnWeightModel" "page" "[B") ∈ lw_all := lw_g (lw_at lw_m3 164 rfl) rfl
theorem q699 : (Jvm.Cond.fieldLink "TownOnWeightModel" (51 : Nat) "TownOnWeightModel" "savedTaken" "[I") ∈ lw_all := lw_g (lw_at lw_m3 165 rfl) rfl
theorem q700 : (Jvm.Cond.fieldLink "TownOnWeightModel" (157 : Nat) "TownOnWeightModel" "savedBrakes" "I") ∈ lw_all := lw_g (lw_at lw_m3 166 rfl) rfl
theorem q701 : (Jvm.Cond.fieldLink "TownOnWeightModel" (160 : Nat) "TownOnWeightModel" "savedHangs" "I") ∈ lw_all := lw_g (lw_at lw_m3 167 rfl) rfl
theorem q702 : (Jvm.Cond.fieldLink "TownOnWeightModel" (163 : Nat) "TownOnWeightModel" "savedHour" "I") ∈ lw_all := lw_g (lw_at lw_m3 168 rfl) rfl
theorem q703 : (Jvm.Cond.fieldLink "TownOnWeightModel" (166 : Nat) "TownOnWeightModel" "savedLost" "I") ∈ lw_all := lw_g (lw_at lw_m3 169 rfl) rfl
theorem q704 : (Jvm.Cond.fieldLink "TownOnWeightModel" (169 : Nat) "TownOnWeightModel" "savedWorked" "I") ∈ lw_all := lw_g (lw_at lw_m3 170 rfl) rfl
theorem q705 : (Jvm.Cond.fieldLink "TownOnWeightModel" (172 : Nat) "TownOnWeightModel" "savedDown" "Z") ∈ lw_all := lw_g (lw_at lw_m3 171 rfl) rfl
theorem q706 : (Jvm.Cond.fieldLink "TownOnWeightModel" (175 : Nat) "TownOnWeightModel" "savedRain" "Z") ∈ lw_all := lw_g (lw_at lw_m3 172 rfl) rfl
theorem q707 : (Jvm.Cond.fieldLink "TownOnWeightModel" (201 : Nat) "TownOnWeightModel" "seedNow" "J") ∈ lw_all := lw_g (lw_at lw_m3 173 rfl) rfl
theorem q708 : (Jvm.Cond.fieldLink "TownOnWeightModel" (229 : Nat) "TownOnWeightModel" "isKept" "Z") ∈ lw_all := lw_g (lw_at lw_m3 174 rfl) rfl
theorem q709 : (Jvm.Cond.fieldLink "TownOnWeightModel" (232 : Nat) "TownOnWeightModel" "keptHouses" "I") ∈ lw_all := lw_g (lw_at lw_m3 175 rfl) rfl
theorem q710 : (Jvm.Cond.fieldLink "TownOnWeightModel" (235 : Nat) "TownOnWeightModel" "keptLong" "I") ∈ lw_all := lw_g (lw_at lw_m3 176 rfl) rfl
theorem q711 : (Jvm.Cond.fieldLink "TownOnWeightModel" (238 : Nat) "TownOnWeightModel" "keptHangs" "I") ∈ lw_all := lw_g (lw_at lw_m3 177 rfl) rfl
theorem q712 : (Jvm.Cond.fieldLink "TownOnWeightModel" (241 : Nat) "TownOnWeightModel" "keptHour" "I") ∈ lw_all := lw_g (lw_at lw_m3 178 rfl) rfl
theorem q713 : (Jvm.Cond.fieldLink "TownOnWeightModel" (244 : Nat) "TownOnWeightModel" "keptLost" "I") ∈ lw_all := lw_g (lw_at lw_m3 179 rfl) rfl
theorem q714 : (Jvm.Cond.fieldLink "TownOnWeightModel" (247 : Nat) "TownOnWeightModel" "keptWorked" "I") ∈ lw_all := lw_g (lw_at lw_m3 180 rfl) rfl
theorem q715 : (Jvm.Cond.fieldLink "TownOnWeightModel" (250 : Nat) "TownOnWeightModel" "keptBrakes" "I") ∈ lw_all := lw_g (lw_at lw_m3 181 rfl) rfl
theorem q716 : (Jvm.Cond.fieldLink "TownOnWeightModel" (253 : Nat) "TownOnWeightModel" "keptDown" "Z") ∈ lw_all := lw_g (lw_at lw_m3 182 rfl) rfl
theorem q717 : (Jvm.Cond.fieldLink "TownOnWeightModel" (256 : Nat) "TownOnWeightModel" "keptRain" "Z") ∈ lw_all := lw_g (lw_at lw_m3 183 rfl) rfl
theorem q718 : (Jvm.Cond.fieldLink "TownOnWeightModel" (259 : Nat) "TownOnWeightModel" "keptReadings" "I") ∈ lw_all := lw_g (lw_at lw_m3 184 rfl) rfl
theorem q719 : (Jvm.Cond.fieldLink "TownOnWeightModel" (54 : Nat) "TownOnWeightModel" "keptTaken" "[I") ∈ lw_all := lw_g (lw_at lw_m3 185 rfl) rfl
theorem q720 : (Jvm.Cond.fieldLink "TownOnWeightModel" (57 : Nat) "TownOnWeightModel" "keptOwes" "[I") ∈ lw_all := lw_g (lw_at lw_m3 186 rfl) rfl
theorem q721 : (Jvm.Cond.fieldLink "TownOnWeightModel" (60 : Nat) "TownOnWeightModel" "keptSet" "[I") ∈ lw_all := lw_g (lw_at lw_m3 187 rfl) rfl
theorem q722 : (Jvm.Cond.fieldLink "TownOnWeightModel" (63 : Nat) "TownOnWeightModel" "keptFeet" "[I") ∈ lw_all := lw_g (lw_at lw_m3 188 rfl) rfl
theorem q723 : (Jvm.Cond.fieldLink "TownOnWeightModel" (267 : Nat) "TownOnWeightModel" "h" "J") ∈ lw_all := lw_g (lw_at lw_m3 189 rfl) rfl
theorem q724 : (Jvm.Cond.lays "TownOnWeightModel" "TownOnWeightModel" "houses" "I") ∈ lw_all := lw_g (lw_at lw_m3 190 rfl) rfl
theorem q725 : (Jvm.Cond.soleField "TownOnWeightModel" "houses") ∈ lw_all := lw_g (lw_at lw_m3 191 rfl) rfl
theorem q726 : (Jvm.Cond.laysFinal "TownOnWeightModel" "TownOnWeightModel" "kindOf" "[I") ∈ lw_all := lw_g (lw_at lw_m3 192 rfl) rfl
theorem q727 : (Jvm.Cond.soleField "TownOnWeightModel" "kindOf") ∈ lw_all := lw_g (lw_at lw_m3 193 rfl) rfl
theorem q728 : (Jvm.Cond.laysFinal "TownOnWeightModel" "TownOnWeightModel" "parentOf" "[I") ∈ lw_all := lw_g (lw_at lw_m3 194 rfl) rfl
theorem q729 : (Jvm.Cond.soleField "TownOnWeightModel" "parentOf") ∈ lw_all := lw_g (lw_at lw_m3 195 rfl) rfl
theorem q730 : (Jvm.Cond.laysFinal "TownOnWeightModel" "TownOnWeightModel" "fromOf" "[I") ∈ lw_all := lw_g (lw_at lw_m3 196 rfl) rfl
theorem q731 : (Jvm.Cond.soleField "TownOnWeightModel" "fromOf") ∈ lw_all := lw_g (lw_at lw_m3 197 rfl) rfl
theorem q732 : (Jvm.Cond.laysFinal "TownOnWeightModel" "TownOnWeightModel" "toOf" "[I") ∈ lw_all := lw_g (lw_at lw_m3 198 rfl) rfl
theorem q733 : (Jvm.Cond.soleField "TownOnWeightModel" "toOf") ∈ lw_all := lw_g (lw_at lw_m3 199 rfl) rfl
theorem q734 : (Jvm.Cond.laysFinal "TownOnWeightModel" "TownOnWeightModel" "takesOf" "[I") ∈ lw_all := lw_g (lw_at lw_m3 200 rfl) rfl
theorem q735 : (Jvm.Cond.soleField "TownOnWeightModel" "takesOf") ∈ lw_all := lw_g (lw_at lw_m3 201 rfl) rfl
theorem q736 : (Jvm.Cond.laysFinal "TownOnWeightModel" "TownOnWeightModel" "lossOf" "[I") ∈ lw_all := lw_g (lw_at lw_m3 202 rfl) rfl
theorem q737 : (Jvm.Cond.soleField "TownOnWeightModel" "lossOf") ∈ lw_all := lw_g (lw_at lw_m3 203 rfl) rfl
theorem q738 : (Jvm.Cond.laysFinal "TownOnWeightModel" "TownOnWeightModel" "takenOf" "[I") ∈ lw_all := lw_g (lw_at lw_m3 204 rfl) rfl
theorem q739 : (Jvm.Cond.soleField "TownOnWeightModel" "takenOf") ∈ lw_all := lw_g (lw_at lw_m3 205 rfl) rfl
theorem q740 : (Jvm.Cond.laysFinal "TownOnWeightModel" "TownOnWeightModel" "owesOf" "[I") ∈ lw_all := lw_g (lw_at lw_m3 206 rfl) rfl
theorem q741 : (Jvm.Cond.soleField "TownOnWeightModel" "owesOf") ∈ lw_all := lw_g (lw_at lw_m3 207 rfl) rfl
theorem q742 : (Jvm.Cond.lays "TownOnWeightModel" "TownOnWeightModel" "brakes" "I") ∈ lw_all := lw_g (lw_at lw_m3 208 rfl) rfl
theorem q743 : (Jvm.Cond.soleField "TownOnWeightModel" "brakes") ∈ lw_all := lw_g (lw_at lw_m3 209 rfl) rfl
theorem q744 : (Jvm.Cond.lays "TownOnWeightModel" "TownOnWeightModel" "longNow" "I") ∈ lw_all := lw_g (lw_at lw_m3 210 rfl) rfl
theorem q745 : (Jvm.Cond.soleField "TownOnWeightModel" "longNow") ∈ lw_all := lw_g (lw_at lw_m3 211 rfl) rfl
theorem q746 : (Jvm.Cond.lays "TownOnWeightModel" "TownOnWeightModel" "hangs" "I") ∈ lw_all := lw_g (lw_at lw_m3 212 rfl) rfl
theorem q747 : (Jvm.Cond.soleField "TownOnWeightModel" "hangs") ∈ lw_all := lw_g (lw_at lw_m3 213 rfl) rfl
theorem q748 : (Jvm.Cond.lays "TownOnWeightModel" "TownOnWeightModel" "hourNow" "I") ∈ lw_all := lw_g (lw_at lw_m3 214 rfl) rfl
theorem q749 : (Jvm.Cond.soleField "TownOnWeightModel" "hourNow") ∈ lw_all := lw_g (lw_at lw_m3 215 rfl) rfl
theorem q750 : (Jvm.Cond.lays "TownOnWeightModel" "TownOnWeightModel" "lostNow" "I") ∈ lw_all := lw_g (lw_at lw_m3 216 rfl) rfl
theorem q751 : (Jvm.Cond.soleField "TownOnWeightModel" "lostNow") ∈ lw_all := lw_g (lw_at lw_m3 217 rfl) rfl
theorem q752 : (Jvm.Cond.lays "TownOnWeightModel" "TownOnWeightModel" "workedNow" "I") ∈ lw_all := lw_g (lw_at lw_m3 218 rfl) rfl
theorem q753 : (Jvm.Cond.soleField "TownOnWeightModel" "workedNow") ∈ lw_all := lw_g (lw_at lw_m3 219 rfl) rfl
theorem q754 : (Jvm.Cond.lays "TownOnWeightModel" "TownOnWeightModel" "isDown" "Z") ∈ lw_all := lw_g (lw_at lw_m3 220 rfl) rfl
theorem q755 : (Jvm.Cond.soleField "TownOnWeightModel" "isDown") ∈ lw_all := lw_g (lw_at lw_m3 221 rfl) rfl
theorem q756 : (Jvm.Cond.lays "TownOnWeightModel" "TownOnWeightModel" "isRain" "Z") ∈ lw_all := lw_g (lw_at lw_m3 222 rfl) rfl
theorem q757 : (Jvm.Cond.soleField "TownOnWeightModel" "isRain") ∈ lw_all := lw_g (lw_at lw_m3 223 rfl) rfl
theorem q758 : (Jvm.Cond.lays "TownOnWeightModel" "TownOnWeightModel" "readings" "I") ∈ lw_all := lw_g (lw_at lw_m3 224 rfl) rfl
theorem q759 : (Jvm.Cond.soleField "TownOnWeightModel" "readings") ∈ lw_all := lw_g (lw_at lw_m3 225 rfl) rfl
theorem q760 : (Jvm.Cond.laysFinal "TownOnWeightModel" "TownOnWeightModel" "readSet" "[I") ∈ lw_all := lw_g (lw_at lw_m3 226 rfl) rfl
theorem q761 : (Jvm.Cond.soleField "TownOnWeightModel" "readSet") ∈ lw_all := lw_g (lw_at lw_m3 227 rfl) rfl
theorem q762 : (Jvm.Cond.laysFinal "TownOnWeightModel" "TownOnWeightModel" "readFeet" "[I") ∈ lw_all := lw_g (lw_at lw_m3 228 rfl) rfl
theorem q763 : (Jvm.Cond.soleField "TownOnWeightModel" "readFeet") ∈ lw_all := lw_g (lw_at lw_m3 229 rfl) rfl
theorem q764 : (Jvm.Cond.lays "TownOnWeightModel" "TownOnWeightModel" "pageLength" "I") ∈ lw_all := lw_g (lw_at lw_m3 230 rfl) rfl
theorem q765 : (Jvm.Cond.soleField "TownOnWeightModel" "pageLength") ∈ lw_all := lw_g (lw_at lw_m3 231 rfl) rfl
theorem q766 : (Jvm.Cond.laysFinal "TownOnWeightModel" "TownOnWeightModel" "page" "[B") ∈ lw_all := lw_g (lw_at lw_m3 232 rfl) rfl
theorem q767 : (Jvm.Cond.soleField "TownOnWeightModel" "page") ∈ lw_all := lw_g (lw_at lw_m3 233 rfl) rfl
theorem q768 : (Jvm.Cond.laysFinal "TownOnWeightModel" "TownOnWeightModel" "savedTaken" "[I") ∈ lw_all := lw_g (lw_at lw_m3 234 rfl) rfl
theorem q769 : (Jvm.Cond.soleField "TownOnWeightModel" "savedTaken") ∈ lw_all := lw_g (lw_at lw_m3 235 rfl) rfl
theorem q770 : (Jvm.Cond.lays "TownOnWeightModel" "TownOnWeightModel" "savedBrakes" "I") ∈ lw_all := lw_g (lw_at lw_m3 236 rfl) rfl
theorem q771 : (Jvm.Cond.soleField "TownOnWeightModel" "savedBrakes") ∈ lw_all := lw_g (lw_at lw_m3 237 rfl) rfl
theorem q772 : (Jvm.Cond.lays "TownOnWeightModel" "TownOnWeightModel" "savedHangs" "I") ∈ lw_all := lw_g (lw_at lw_m3 238 rfl) rfl
theorem q773 : (Jvm.Cond.soleField "TownOnWeightModel" "savedHangs") ∈ lw_all := lw_g (lw_at lw_m3 239 rfl) rfl
theorem q774 : (Jvm.Cond.lays "TownOnWeightModel" "TownOnWeightModel" "savedHour" "I") ∈ lw_all := lw_g (lw_at lw_m4 0 rfl) rfl
theorem q775 : (Jvm.Cond.soleField "TownOnWeightModel" "savedHour") ∈ lw_all := lw_g (lw_at lw_m4 1 rfl) rfl
theorem q776 : (Jvm.Cond.lays "TownOnWeightModel" "TownOnWeightModel" "savedLost" "I") ∈ lw_all := lw_g (lw_at lw_m4 2 rfl) rfl
theorem q777 : (Jvm.Cond.soleField "TownOnWeightModel" "savedLost") ∈ lw_all := lw_g (lw_at lw_m4 3 rfl) rfl
theorem q778 : (Jvm.Cond.lays "TownOnWeightModel" "TownOnWeightModel" "savedWorked" "I") ∈ lw_all := lw_g (lw_at lw_m4 4 rfl) rfl
theorem q779 : (Jvm.Cond.soleField "TownOnWeightModel" "savedWorked") ∈ lw_all := lw_g (lw_at lw_m4 5 rfl) rfl
theorem q780 : (Jvm.Cond.lays "TownOnWeightModel" "TownOnWeightModel" "savedDown" "Z") ∈ lw_all := lw_g (lw_at lw_m4 6 rfl) rfl
theorem q781 : (Jvm.Cond.soleField "TownOnWeightModel" "savedDown") ∈ lw_all := lw_g (lw_at lw_m4 7 rfl) rfl
theorem q782 : (Jvm.Cond.lays "TownOnWeightModel" "TownOnWeightModel" "savedRain" "Z") ∈ lw_all := lw_g (lw_at lw_m4 8 rfl) rfl
theorem q783 : (Jvm.Cond.soleField "TownOnWeightModel" "savedRain") ∈ lw_all := lw_g (lw_at lw_m4 9 rfl) rfl
theorem q784 : (Jvm.Cond.lays "TownOnWeightModel" "TownOnWeightModel" "seedNow" "J") ∈ lw_all := lw_g (lw_at lw_m4 10 rfl) rfl
theorem q785 : (Jvm.Cond.soleField "TownOnWeightModel" "seedNow") ∈ lw_all := lw_g (lw_at lw_m4 11 rfl) rfl
theorem q786 : (Jvm.Cond.lays "TownOnWeightModel" "TownOnWeightModel" "isKept" "Z") ∈ lw_all := lw_g (lw_at lw_m4 12 rfl) rfl
theorem q787 : (Jvm.Cond.soleField "TownOnWeightModel" "isKept") ∈ lw_all := lw_g (lw_at lw_m4 13 rfl) rfl
theorem q788 : (Jvm.Cond.lays "TownOnWeightModel" "TownOnWeightModel" "keptHouses" "I") ∈ lw_all := lw_g (lw_at lw_m4 14 rfl) rfl
theorem q789 : (Jvm.Cond.soleField "TownOnWeightModel" "keptHouses") ∈ lw_all := lw_g (lw_at lw_m4 15 rfl) rfl
theorem q790 : (Jvm.Cond.lays "TownOnWeightModel" "TownOnWeightModel" "keptLong" "I") ∈ lw_all := lw_g (lw_at lw_m4 16 rfl) rfl
theorem q791 : (Jvm.Cond.soleField "TownOnWeightModel" "keptLong") ∈ lw_all := lw_g (lw_at lw_m4 17 rfl) rfl
theorem q792 : (Jvm.Cond.lays "TownOnWeightModel" "TownOnWeightModel" "keptHangs" "I") ∈ lw_all := lw_g (lw_at lw_m4 18 rfl) rfl
theorem q793 : (Jvm.Cond.soleField "TownOnWeightModel" "keptHangs") ∈ lw_all := lw_g (lw_at lw_m4 19 rfl) rfl
theorem q794 : (Jvm.Cond.lays "TownOnWeightModel" "TownOnWeightModel" "keptHour" "I") ∈ lw_all := lw_g (lw_at lw_m4 20 rfl) rfl
theorem q795 : (Jvm.Cond.soleField "TownOnWeightModel" "keptHour") ∈ lw_all := lw_g (lw_at lw_m4 21 rfl) rfl
theorem q796 : (Jvm.Cond.lays "TownOnWeightModel" "TownOnWeightModel" "keptLost" "I") ∈ lw_all := lw_g (lw_at lw_m4 22 rfl) rfl
theorem q797 : (Jvm.Cond.soleField "TownOnWeightModel" "keptLost") ∈ lw_all := lw_g (lw_at lw_m4 23 rfl) rfl
theorem q798 : (Jvm.Cond.lays "TownOnWeightModel" "TownOnWeightModel" "keptWorked" "I") ∈ lw_all := lw_g (lw_at lw_m4 24 rfl) rfl
theorem q799 : (Jvm.Cond.soleField "TownOnWeightModel" "keptWorked") ∈ lw_all := lw_g (lw_at lw_m4 25 rfl) rfl
theorem q800 : (Jvm.Cond.lays "TownOnWeightModel" "TownOnWeightModel" "keptBrakes" "I") ∈ lw_all := lw_g (lw_at lw_m4 26 rfl) rfl
theorem q801 : (Jvm.Cond.soleField "TownOnWeightModel" "keptBrakes") ∈ lw_all := lw_g (lw_at lw_m4 27 rfl) rfl
theorem q802 : (Jvm.Cond.lays "TownOnWeightModel" "TownOnWeightModel" "keptDown" "Z") ∈ lw_all := lw_g (lw_at lw_m4 28 rfl) rfl
theorem q803 : (Jvm.Cond.soleField "TownOnWeightModel" "keptDown") ∈ lw_all := lw_g (lw_at lw_m4 29 rfl) rfl
theorem q804 : (Jvm.Cond.lays "TownOnWeightModel" "TownOnWeightModel" "keptRain" "Z") ∈ lw_all := lw_g (lw_at lw_m4 30 rfl) rfl
theorem q805 : (Jvm.Cond.soleField "TownOnWeightModel" "keptRain") ∈ lw_all := lw_g (lw_at lw_m4 31 rfl) rfl
theorem q806 : (Jvm.Cond.lays "TownOnWeightModel" "TownOnWeightModel" "keptReadings" "I") ∈ lw_all := lw_g (lw_at lw_m4 32 rfl) rfl
theorem q807 : (Jvm.Cond.soleField "TownOnWeightModel" "keptReadings") ∈ lw_all := lw_g (lw_at lw_m4 33 rfl) rfl
theorem q808 : (Jvm.Cond.laysFinal "TownOnWeightModel" "TownOnWeightModel" "keptTaken" "[I") ∈ lw_all := lw_g (lw_at lw_m4 34 rfl) rfl
theorem q809 : (Jvm.Cond.soleField "TownOnWeightModel" "keptTaken") ∈ lw_all := lw_g (lw_at lw_m4 35 rfl) rfl
theorem q810 : (Jvm.Cond.laysFinal "TownOnWeightModel" "TownOnWeightModel" "keptOwes" "[I") ∈ lw_all := lw_g (lw_at lw_m4 36 rfl) rfl
theorem q811 : (Jvm.Cond.soleField "TownOnWeightModel" "keptOwes") ∈ lw_all := lw_g (lw_at lw_m4 37 rfl) rfl
theorem q812 : (Jvm.Cond.laysFinal "TownOnWeightModel" "TownOnWeightModel" "keptSet" "[I") ∈ lw_all := lw_g (lw_at lw_m4 38 rfl) rfl
theorem q813 : (Jvm.Cond.soleField "TownOnWeightModel" "keptSet") ∈ lw_all := lw_g (lw_at lw_m4 39 rfl) rfl
theorem q814 : (Jvm.Cond.laysFinal "TownOnWeightModel" "TownOnWeightModel" "keptFeet" "[I") ∈ lw_all := lw_g (lw_at lw_m4 40 rfl) rfl
theorem q815 : (Jvm.Cond.soleField "TownOnWeightModel" "keptFeet") ∈ lw_all := lw_g (lw_at lw_m4 41 rfl) rfl
theorem q816 : (Jvm.Cond.lays "TownOnWeightModel" "TownOnWeightModel" "h" "J") ∈ lw_all := lw_g (lw_at lw_m4 42 rfl) rfl
theorem q817 : (Jvm.Cond.soleField "TownOnWeightModel" "h") ∈ lw_all := lw_g (lw_at lw_m4 43 rfl) rfl
theorem q818 : (Jvm.Cond.superclass "TownOnWeightModel" "java/lang/Object") ∈ lw_all := lw_g (lw_at lw_m4 44 rfl) rfl
theorem q820 : (Jvm.Cond.instanceMethod ({ cls := "TownOnWeightModel", name := "letters", desc := "(J)I" } : Jvm.MethodName)) ∈ lw_all := lw_g (lw_at lw_m4 46 rfl) rfl
theorem q821 : (Jvm.Cond.selects "TownOnWeightModel" ({ cls := "TownOnWeightModel", name := "letters", desc := "(J)I" } : Jvm.MethodName) ({ cls := "TownOnWeightModel", name := "letters", desc := "(J)I" } : Jvm.MethodName)) ∈ lw_all := lw_g (lw_at lw_m4 47 rfl) rfl
theorem q822 : (Jvm.Cond.code ({ cls := "TownOnWeightModel", name := "letters", desc := "(J)I" } : Jvm.MethodName) prog_11_method_6_code (7 : Nat) (Option.some Jvm.ClassFile.FieldType.int)) ∈ lw_all := lw_g (lw_at lw_m4 48 rfl) rfl
theorem q823 : (Jvm.Cond.constantLong "TownOnWeightModel" (66 : Nat) (255 : Int64)) ∈ lw_all := lw_g (lw_at lw_m4 49 rfl) rfl
theorem q825 : (Jvm.Cond.instanceMethod ({ cls := "TownOnWeightModel", name := "blank", desc := "()I" } : Jvm.MethodName)) ∈ lw_all := lw_g (lw_at lw_m4 51 rfl) rfl
theorem q826 : (Jvm.Cond.selects "TownOnWeightModel" ({ cls := "TownOnWeightModel", name := "blank", desc := "()I" } : Jvm.MethodName) ({ cls := "TownOnWeightModel", name := "blank", desc := "()I" } : Jvm.MethodName)) ∈ lw_all := lw_g (lw_at lw_m4 52 rfl) rfl
theorem q827 : (Jvm.Cond.code ({ cls := "TownOnWeightModel", name := "blank", desc := "()I" } : Jvm.MethodName) prog_11_method_7_code (2 : Nat) (Option.some Jvm.ClassFile.FieldType.int)) ∈ lw_all := lw_g (lw_at lw_m4 53 rfl) rfl
theorem q829 : (Jvm.Cond.instanceMethod ({ cls := "TownOnWeightModel", name := "fault", desc := "()I" } : Jvm.MethodName)) ∈ lw_all := lw_g (lw_at lw_m4 55 rfl) rfl
theorem q830 : (Jvm.Cond.selects "TownOnWeightModel" ({ cls := "TownOnWeightModel", name := "fault", desc := "()I" } : Jvm.MethodName) ({ cls := "TownOnWeightModel", name := "fault", desc := "()I" } : Jvm.MethodName)) ∈ lw_all := lw_g (lw_at lw_m4 56 rfl) rfl
theorem q831 : (Jvm.Cond.code ({ cls := "TownOnWeightModel", name := "fault", desc := "()I" } : Jvm.MethodName) prog_11_method_11_code (1 : Nat) (Option.some Jvm.ClassFile.FieldType.int)) ∈ lw_all := lw_g (lw_at lw_m4 57 rfl) rfl
theorem q832 : (Jvm.Cond.methodLink "TownOnWeightModel" (86 : Nat) ({ cls := "TownOnWeightModel", name := "faultNow", desc := "()I" } : Jvm.MethodName)) ∈ lw_all := lw_g (lw_at lw_m4 58 rfl) rfl
theorem q833 : (Jvm.Cond.privateMethod ({ cls := "TownOnWeightModel", name := "faultNow", desc := "()I" } : Jvm.MethodName)) ∈ lw_tbl := lw_at lw_m4 59 rfl
theorem q834 : (Jvm.Cond.instanceMethod ({ cls := "TownOnWeightModel", name := "faultNow", desc := "()I" } : Jvm.MethodName)) ∈ lw_all := lw_g (lw_at lw_m4 60 rfl) rfl
theorem q835 : (Jvm.Cond.code ({ cls := "TownOnWeightModel", name := "faultNow", desc := "()I" } : Jvm.MethodName) prog_11_method_10_code (2 : Nat) (Option.some Jvm.ClassFile.FieldType.int)) ∈ lw_all := lw_g (lw_at lw_m4 61 rfl) rfl
theorem q836 : (Jvm.Cond.methodLink "TownOnWeightModel" (82 : Nat) ({ cls := "TownOnWeightModel", name := "mayStand", desc := "(II)Z" } : Jvm.MethodName)) ∈ lw_all := lw_g (lw_at lw_m4 62 rfl) rfl
theorem q837 : (Jvm.Cond.privateMethod ({ cls := "TownOnWeightModel", name := "mayStand", desc := "(II)Z" } : Jvm.MethodName)) ∈ lw_tbl := lw_at lw_m4 63 rfl
theorem q838 : (Jvm.Cond.instanceMethod ({ cls := "TownOnWeightModel", name := "mayStand", desc := "(II)Z" } : Jvm.MethodName)) ∈ lw_all := lw_g (lw_at lw_m4 64 rfl) rfl
theorem q839 : (Jvm.Cond.code ({ cls := "TownOnWeightModel", name := "mayStand", desc := "(II)Z" } : Jvm.MethodName) prog_11_method_9_code (3 : Nat) (Option.some Jvm.ClassFile.FieldType.boolean)) ∈ lw_all := lw_g (lw_at lw_m4 65 rfl) rfl
theorem q840 : (Jvm.Cond.methodLink "TownOnWeightModel" (71 : Nat) ({ cls := "TownOnWeightModel", name := "kindBy", desc := "(I)I" } : Jvm.MethodName)) ∈ lw_all := lw_g (lw_at lw_m4 66 rfl) rfl
theorem q841 : (Jvm.Cond.static ({ cls := "TownOnWeightModel", name := "kindBy", desc := "(I)I" } : Jvm.MethodName)) ∈ lw_all := lw_g (lw_at lw_m4 67 rfl) rfl
theorem q842 : (Jvm.Cond.code ({ cls := "TownOnWeightModel", name := "kindBy", desc := "(I)I" } : Jvm.MethodName) prog_11_method_8_code (1 : Nat) (Option.some Jvm.ClassFile.FieldType.int)) ∈ lw_all := lw_g (lw_at lw_m4 68 rfl) rfl
theorem q843 : (Jvm.Cond.methodLink "TownOnWeightModel" (78 : Nat) ({ cls := "TownOnWeightModel", name := "within", desc := "(III)Z" } : Jvm.MethodName)) ∈ lw_all := lw_g (lw_at lw_m4 69 rfl) rfl
theorem q844 : (Jvm.Cond.static ({ cls := "TownOnWeightModel", name := "within", desc := "(III)Z" } : Jvm.MethodName)) ∈ lw_all := lw_g (lw_at lw_m4 70 rfl) rfl
theorem q845 : (Jvm.Cond.code ({ cls := "TownOnWeightModel", name := "within", desc := "(III)Z" } : Jvm.MethodName) prog_11_method_3_code (3 : Nat) (Option.some Jvm.ClassFile.FieldType.boolean)) ∈ lw_all := lw_g (lw_at lw_m4 71 rfl) rfl
theorem q847 : (Jvm.Cond.instanceMethod ({ cls := "TownOnWeightModel", name := "house", desc := "()I" } : Jvm.MethodName)) ∈ lw_all := lw_g (lw_at lw_m4 73 rfl) rfl
theorem q848 : (Jvm.Cond.selects "TownOnWeightModel" ({ cls := "TownOnWeightModel", name := "house", desc := "()I" } : Jvm.MethodName) ({ cls := "TownOnWeightModel", name := "house", desc := "()I" } : Jvm.MethodName)) ∈ lw_all := lw_g (lw_at lw_m4 74 rfl) rfl
theorem q849 : (Jvm.Cond.code ({ cls := "TownOnWeightModel", name := "house", desc := "()I" } : Jvm.MethodName) prog_11_method_12_code (1 : Nat) (Option.some Jvm.ClassFile.FieldType.int)) ∈ lw_all := lw_g (lw_at lw_m4 75 rfl) rfl
theorem q851 : (Jvm.Cond.instanceMethod ({ cls := "TownOnWeightModel", name := "about", desc := "(II)I" } : Jvm.MethodName)) ∈ lw_all := lw_g (lw_at lw_m4 77 rfl) rfl
theorem q852 : (Jvm.Cond.selects "TownOnWeightModel" ({ cls := "TownOnWeightModel", name := "about", desc := "(II)I" } : Jvm.MethodName) ({ cls := "TownOnWeightModel", name := "about", desc := "(II)I" } : Jvm.MethodName)) ∈ lw_all := lw_g (lw_at lw_m4 78 rfl) rfl
theorem q853 : (Jvm.Cond.code ({ cls := "TownOnWeightModel", name := "about", desc := "(II)I" } : Jvm.MethodName) prog_11_method_15_code (3 : Nat) (Option.some Jvm.ClassFile.FieldType.int)) ∈ lw_all := lw_g (lw_at lw_m4 79 rfl) rfl
theorem q854 : (Jvm.Cond.methodLink "TownOnWeightModel" (99 : Nat) ({ cls := "TownOnWeightModel", name := "isHouse", desc := "(I)Z" } : Jvm.MethodName)) ∈ lw_all := lw_g (lw_at lw_m4 80 rfl) rfl
theorem q855 : (Jvm.Cond.privateMethod ({ cls := "TownOnWeightModel", name := "isHouse", desc := "(I)Z" } : Jvm.MethodName)) ∈ lw_tbl := lw_at lw_m4 81 rfl
theorem q856 : (Jvm.Cond.instanceMethod ({ cls := "TownOnWeightModel", name := "isHouse", desc := "(I)Z" } : Jvm.MethodName)) ∈ lw_all := lw_g (lw_at lw_m4 82 rfl) rfl
theorem q857 : (Jvm.Cond.code ({ cls := "TownOnWeightModel", name := "isHouse", desc := "(I)Z" } : Jvm.MethodName) prog_11_method_13_code (2 : Nat) (Option.some Jvm.ClassFile.FieldType.boolean)) ∈ lw_all := lw_g (lw_at lw_m4 83 rfl) rfl
theorem q858 : (Jvm.Cond.methodLink "TownOnWeightModel" (103 : Nat) ({ cls := "TownOnWeightModel", name := "houseNow", desc := "(II)I" } : Jvm.MethodName)) ∈ lw_all := lw_g (lw_at lw_m4 84 rfl) rfl
theorem q859 : (Jvm.Cond.privateMethod ({ cls := "TownOnWeightModel", name := "houseNow", desc := "(II)I" } : Jvm.MethodName)) ∈ lw_tbl := lw_at lw_m4 85 rfl
theorem q860 : (Jvm.Cond.instanceMethod ({ cls := "TownOnWeightModel", name := "houseNow", desc := "(II)I" } : Jvm.MethodName)) ∈ lw_all := lw_g (lw_at lw_m4 86 rfl) rfl
theorem q861 : (Jvm.Cond.code ({ cls := "TownOnWeightModel", name := "houseNow", desc := "(II)I" } : Jvm.MethodName) prog_11_method_14_code (3 : Nat) (Option.some Jvm.ClassFile.FieldType.int)) ∈ lw_all := lw_g (lw_at lw_m4 87 rfl) rfl
theorem q862 : (Jvm.Cond.methodLink "TownOnWeightModel" (96 : Nat) ({ cls := "TownOnWeightModel", name := "has", desc := "(II)Z" } : Jvm.MethodName)) ∈ lw_all := lw_g (lw_at lw_m4 88 rfl) rfl
theorem q863 : (Jvm.Cond.static ({ cls := "TownOnWeightModel", name := "has", desc := "(II)Z" } : Jvm.MethodName)) ∈ lw_all := lw_g (lw_at lw_m4 89 rfl) rfl
theorem q864 : (Jvm.Cond.code ({ cls := "TownOnWeightModel", name := "has", desc := "(II)Z" } : Jvm.MethodName) prog_11_method_4_code (2 : Nat) (Option.some Jvm.ClassFile.FieldType.boolean)) ∈ lw_all := lw_g (lw_at lw_m4 90 rfl) rfl
theorem q866 : (Jvm.Cond.instanceMethod ({ cls := "TownOnWeightModel", name := "as", desc := "(II)I" } : Jvm.MethodName)) ∈ lw_all := lw_g (lw_at lw_m4 92 rfl) rfl
theorem q867 : (Jvm.Cond.selects "TownOnWeightModel" ({ cls := "TownOnWeightModel", name := "as", desc := "(II)I" } : Jvm.MethodName) ({ cls := "TownOnWeightModel", name := "as", desc := "(II)I" } : Jvm.MethodName)) ∈ lw_all := lw_g (lw_at lw_m4 93 rfl) rfl
theorem q868 : (Jvm.Cond.code ({ cls := "TownOnWeightModel", name := "as", desc := "(II)I" } : Jvm.MethodName) prog_11_method_16_code (4 : Nat) (Option.some Jvm.ClassFile.FieldType.int)) ∈ lw_all := lw_g (lw_at lw_m4 94 rfl) rfl
theorem q870 : (Jvm.Cond.instanceMethod ({ cls := "TownOnWeightModel", name := "length", desc := "(I)I" } : Jvm.MethodName)) ∈ lw_all := lw_g (lw_at lw_m4 96 rfl) rfl
theorem q871 : (Jvm.Cond.selects "TownOnWeightModel" ({ cls := "TownOnWeightModel", name := "length", desc := "(I)I" } : Jvm.MethodName) ({ cls := "TownOnWeightModel", name := "length", desc := "(I)I" } : Jvm.MethodName)) ∈ lw_all := lw_g (lw_at lw_m4 97 rfl) rfl
theorem q872 : (Jvm.Cond.code ({ cls := "TownOnWeightModel", name := "length", desc := "(I)I" } : Jvm.MethodName) prog_11_method_17_code (3 : Nat) (Option.some Jvm.ClassFile.FieldType.int)) ∈ lw_all := lw_g (lw_at lw_m4 98 rfl) rfl
theorem q874 : (Jvm.Cond.instanceMethod ({ cls := "TownOnWeightModel", name := "brake", desc := "(IZ)I" } : Jvm.MethodName)) ∈ lw_all := lw_g (lw_at lw_m4 100 rfl) rfl
theorem q875 : (Jvm.Cond.selects "TownOnWeightModel" ({ cls := "TownOnWeightModel", name := "brake", desc := "(IZ)I" } : Jvm.MethodName) ({ cls := "TownOnWeightModel", name := "brake", desc := "(IZ)I" } : Jvm.MethodName)) ∈ lw_all := lw_g (lw_at lw_m4 101 rfl) rfl
theorem q876 : (Jvm.Cond.code ({ cls := "TownOnWeightModel", name := "brake", desc := "(IZ)I" } : Jvm.MethodName) prog_11_method_18_code (4 : Nat) (Option.some Jvm.ClassFile.FieldType.int)) ∈ lw_all := lw_g (lw_at lw_m4 102 rfl) rfl
theorem q878 : (Jvm.Cond.instanceMethod ({ cls := "TownOnWeightModel", name := "rain", desc := "(Z)I" } : Jvm.MethodName)) ∈ lw_all := lw_g (lw_at lw_m4 104 rfl) rfl
theorem q879 : (Jvm.Cond.selects "TownOnWeightModel" ({ cls := "TownOnWeightModel", name := "rain", desc := "(Z)I" } : Jvm.MethodName) ({ cls := "TownOnWeightModel", name := "rain", desc := "(Z)I" } : Jvm.MethodName)) ∈ lw_all := lw_g (lw_at lw_m4 105 rfl) rfl
theorem q880 : (Jvm.Cond.code ({ cls := "TownOnWeightModel", name := "rain", desc := "(Z)I" } : Jvm.MethodName) prog_11_method_19_code (3 : Nat) (Option.some Jvm.ClassFile.FieldType.int)) ∈ lw_all := lw_g (lw_at lw_m4 106 rfl) rfl
theorem q882 : (Jvm.Cond.instanceMethod ({ cls := "TownOnWeightModel", name := "wants", desc := "(I)I" } : Jvm.MethodName)) ∈ lw_all := lw_g (lw_at lw_m4 108 rfl) rfl
theorem q883 : (Jvm.Cond.selects "TownOnWeightModel" ({ cls := "TownOnWeightModel", name := "wants", desc := "(I)I" } : Jvm.MethodName) ({ cls := "TownOnWeightModel", name := "wants", desc := "(I)I" } : Jvm.MethodName)) ∈ lw_all := lw_g (lw_at lw_m4 109 rfl) rfl
theorem q884 : (Jvm.Cond.code ({ cls := "TownOnWeightModel", name := "wants", desc := "(I)I" } : Jvm.MethodName) prog_11_method_22_code (2 : Nat) (Option.some Jvm.ClassFile.FieldType.int)) ∈ lw_all := lw_g (lw_at lw_m4 110 rfl) rfl
theorem q885 : (Jvm.Cond.methodLink "TownOnWeightModel" (117 : Nat) ({ cls := "TownOnWeightModel", name := "wantsNow", desc := "(I)I" } : Jvm.MethodName)) ∈ lw_all := lw_g (lw_at lw_m4 111 rfl) rfl
theorem q886 : (Jvm.Cond.privateMethod ({ cls := "TownOnWeightModel", name := "wantsNow", desc := "(I)I" } : Jvm.MethodName)) ∈ lw_tbl := lw_at lw_m4 112 rfl
theorem q887 : (Jvm.Cond.instanceMethod ({ cls := "TownOnWeightModel", name := "wantsNow", desc := "(I)I" } : Jvm.MethodName)) ∈ lw_all := lw_g (lw_at lw_m4 113 rfl) rfl
theorem q888 : (Jvm.Cond.code ({ cls := "TownOnWeightModel", name := "wantsNow", desc := "(I)I" } : Jvm.MethodName) prog_11_method_21_code (4 : Nat) (Option.some Jvm.ClassFile.FieldType.int)) ∈ lw_all := lw_g (lw_at lw_m4 114 rfl) rfl
theorem q889 : (Jvm.Cond.methodLink "TownOnWeightModel" (111 : Nat) ({ cls := "TownOnWeightModel", name := "isTime", desc := "(I)Z" } : Jvm.MethodName)) ∈ lw_all := lw_g (lw_at lw_m4 115 rfl) rfl
theorem q890 : (Jvm.Cond.privateMethod ({ cls := "TownOnWeightModel", name := "isTime", desc := "(I)Z" } : Jvm.MethodName)) ∈ lw_tbl := lw_at lw_m4 116 rfl
theorem q891 : (Jvm.Cond.instanceMethod ({ cls := "TownOnWeightModel", name := "isTime", desc := "(I)Z" } : Jvm.MethodName)) ∈ lw_all := lw_g (lw_at lw_m4 117 rfl) rfl
theorem q892 : (Jvm.Cond.code ({ cls := "TownOnWeightModel", name := "isTime", desc := "(I)Z" } : Jvm.MethodName) prog_11_method_20_code (2 : Nat) (Option.some Jvm.ClassFile.FieldType.boolean)) ∈ lw_all := lw_g (lw_at lw_m4 118 rfl) rfl
theorem q894 : (Jvm.Cond.instanceMethod ({ cls := "TownOnWeightModel", name := "goes", desc := "(I)I" } : Jvm.MethodName)) ∈ lw_all := lw_g (lw_at lw_m4 120 rfl) rfl
theorem q895 : (Jvm.Cond.selects "TownOnWeightModel" ({ cls := "TownOnWeightModel", name := "goes", desc := "(I)I" } : Jvm.MethodName) ({ cls := "TownOnWeightModel", name := "goes", desc := "(I)I" } : Jvm.MethodName)) ∈ lw_all := lw_g (lw_at lw_m4 121 rfl) rfl
theorem q896 : (Jvm.Cond.code ({ cls := "TownOnWeightModel", name := "goes", desc := "(I)I" } : Jvm.MethodName) prog_11_method_28_code (2 : Nat) (Option.some Jvm.ClassFile.FieldType.int)) ∈ lw_all := lw_g (lw_at lw_m4 122 rfl) rfl
theorem q897 : (Jvm.Cond.methodLink "TownOnWeightModel" (129 : Nat) ({ cls := "TownOnWeightModel", name := "everybody", desc := "()I" } : Jvm.MethodName)) ∈ lw_all := lw_g (lw_at lw_m4 123 rfl) rfl
theorem q898 : (Jvm.Cond.privateMethod ({ cls := "TownOnWeightModel", name := "everybody", desc := "()I" } : Jvm.MethodName)) ∈ lw_tbl := lw_at lw_m4 124 rfl
theorem q899 : (Jvm.Cond.instanceMethod ({ cls := "TownOnWeightModel", name := "everybody", desc := "()I" } : Jvm.MethodName)) ∈ lw_all := lw_g (lw_at lw_m4 125 rfl) rfl
theorem q900 : (Jvm.Cond.code ({ cls := "TownOnWeightModel", name := "everybody", desc := "()I" } : Jvm.MethodName) prog_11_method_27_code (1 : Nat) (Option.some Jvm.ClassFile.FieldType.int)) ∈ lw_all := lw_g (lw_at lw_m4 126 rfl) rfl
theorem q901 : (Jvm.Cond.methodLink "TownOnWeightModel" (132 : Nat) ({ cls := "TownOnWeightModel", name := "goesBy", desc := "(I)I" } : Jvm.MethodName)) ∈ lw_all := lw_g (lw_at lw_m4 127 rfl) rfl
theorem q902 : (Jvm.Cond.privateMethod ({ cls := "TownOnWeightModel", name := "goesBy", desc := "(I)I" } : Jvm.MethodName)) ∈ lw_tbl := lw_at lw_m4 128 rfl
theorem q903 : (Jvm.Cond.instanceMethod ({ cls := "TownOnWeightModel", name := "goesBy", desc := "(I)I" } : Jvm.MethodName)) ∈ lw_all := lw_g (lw_at lw_m4 129 rfl) rfl
theorem q904 : (Jvm.Cond.code ({ cls := "TownOnWeightModel", name := "goesBy", desc := "(I)I" } : Jvm.MethodName) prog_11_method_26_code (6 : Nat) (Option.some Jvm.ClassFile.FieldType.int)) ∈ lw_all := lw_g (lw_at lw_m4 130 rfl) rfl
theorem q905 : (Jvm.Cond.methodLink "TownOnWeightModel" (120 : Nat) ({ cls := "TownOnWeightModel", name := "wanting", desc := "(I)I" } : Jvm.MethodName)) ∈ lw_all := lw_g (lw_at lw_m4 131 rfl) rfl
theorem q906 : (Jvm.Cond.privateMethod ({ cls := "TownOnWeightModel", name := "wanting", desc := "(I)I" } : Jvm.MethodName)) ∈ lw_tbl := lw_at lw_m4 132 rfl
theorem q907 : (Jvm.Cond.instanceMethod ({ cls := "TownOnWeightModel", name := "wanting", desc := "(I)I" } : Jvm.MethodName)) ∈ lw_all := lw_g (lw_at lw_m4 133 rfl) rfl
theorem q908 : (Jvm.Cond.code ({ cls := "TownOnWeightModel", name := "wanting", desc := "(I)I" } : Jvm.MethodName) prog_11_method_24_code (4 : Nat) (Option.some Jvm.ClassFile.FieldType.int)) ∈ lw_all := lw_g (lw_at lw_m4 134 rfl) rfl
theorem q909 : (Jvm.Cond.methodLink "TownOnWeightModel" (123 : Nat) ({ cls := "TownOnWeightModel", name := "shafts", desc := "(I)I" } : Jvm.MethodName)) ∈ lw_all := lw_g (lw_at lw_m4 135 rfl) rfl
theorem q910 : (Jvm.Cond.privateMethod ({ cls := "TownOnWeightModel", name := "shafts", desc := "(I)I" } : Jvm.MethodName)) ∈ lw_tbl := lw_at lw_m4 136 rfl
theorem q911 : (Jvm.Cond.instanceMethod ({ cls := "TownOnWeightModel", name := "shafts", desc := "(I)I" } : Jvm.MethodName)) ∈ lw_all := lw_g (lw_at lw_m4 137 rfl) rfl
theorem q912 : (Jvm.Cond.code ({ cls := "TownOnWeightModel", name := "shafts", desc := "(I)I" } : Jvm.MethodName) prog_11_method_23_code (4 : Nat) (Option.some Jvm.ClassFile.FieldType.int)) ∈ lw_all := lw_g (lw_at lw_m4 138 rfl) rfl
theorem q913 : (Jvm.Cond.methodLink "TownOnWeightModel" (126 : Nat) ({ cls := "TownOnWeightModel", name := "takesBy", desc := "(I)I" } : Jvm.MethodName)) ∈ lw_all := lw_g (lw_at lw_m4 139 rfl) rfl
theorem q914 : (Jvm.Cond.privateMethod ({ cls := "TownOnWeightModel", name := "takesBy", desc := "(I)I" } : Jvm.MethodName)) ∈ lw_tbl := lw_at lw_m4 140 rfl
theorem q915 : (Jvm.Cond.instanceMethod ({ cls := "TownOnWeightModel", name := "takesBy", desc := "(I)I" } : Jvm.MethodName)) ∈ lw_all := lw_g (lw_at lw_m4 141 rfl) rfl
theorem q916 : (Jvm.Cond.code ({ cls := "TownOnWeightModel", name := "takesBy", desc := "(I)I" } : Jvm.MethodName) prog_11_method_25_code (4 : Nat) (Option.some Jvm.ClassFile.FieldType.int)) ∈ lw_all := lw_g (lw_at lw_m4 142 rfl) rfl
theorem q918 : (Jvm.Cond.instanceMethod ({ cls := "TownOnWeightModel", name := "hour", desc := "()I" } : Jvm.MethodName)) ∈ lw_all := lw_g (lw_at lw_m4 144 rfl) rfl
theorem q919 : (Jvm.Cond.selects "TownOnWeightModel" ({ cls := "TownOnWeightModel", name := "hour", desc := "()I" } : Jvm.MethodName) ({ cls := "TownOnWeightModel", name := "hour", desc := "()I" } : Jvm.MethodName)) ∈ lw_all := lw_g (lw_at lw_m4 145 rfl) rfl
theorem q920 : (Jvm.Cond.code ({ cls := "TownOnWeightModel", name := "hour", desc := "()I" } : Jvm.MethodName) prog_11_method_32_code (1 : Nat) (Option.some Jvm.ClassFile.FieldType.int)) ∈ lw_all := lw_g (lw_at lw_m4 146 rfl) rfl
theorem q921 : (Jvm.Cond.methodLink "TownOnWeightModel" (144 : Nat) ({ cls := "TownOnWeightModel", name := "isOver", desc := "()Z" } : Jvm.MethodName)) ∈ lw_all := lw_g (lw_at lw_m4 147 rfl) rfl
theorem q922 : (Jvm.Cond.privateMethod ({ cls := "TownOnWeightModel", name := "isOver", desc := "()Z" } : Jvm.MethodName)) ∈ lw_tbl := lw_at lw_m4 148 rfl
theorem q923 : (Jvm.Cond.instanceMethod ({ cls := "TownOnWeightModel", name := "isOver", desc := "()Z" } : Jvm.MethodName)) ∈ lw_all := lw_g (lw_at lw_m4 149 rfl) rfl
theorem q924 : (Jvm.Cond.code ({ cls := "TownOnWeightModel", name := "isOver", desc := "()Z" } : Jvm.MethodName) prog_11_method_30_code (1 : Nat) (Option.some Jvm.ClassFile.FieldType.boolean)) ∈ lw_all := lw_g (lw_at lw_m4 150 rfl) rfl
theorem q925 : (Jvm.Cond.methodLink "TownOnWeightModel" (148 : Nat) ({ cls := "TownOnWeightModel", name := "goHour", desc := "()I" } : Jvm.MethodName)) ∈ lw_all := lw_g (lw_at lw_m4 151 rfl) rfl
theorem q926 : (Jvm.Cond.privateMethod ({ cls := "TownOnWeightModel", name := "goHour", desc := "()I" } : Jvm.MethodName)) ∈ lw_tbl := lw_at lw_m4 152 rfl
theorem q927 : (Jvm.Cond.instanceMethod ({ cls := "TownOnWeightModel", name := "goHour", desc := "()I" } : Jvm.MethodName)) ∈ lw_all := lw_g (lw_at lw_m4 153 rfl) rfl
theorem q928 : (Jvm.Cond.code ({ cls := "TownOnWeightModel", name := "goHour", desc := "()I" } : Jvm.MethodName) prog_11_method_31_code (5 : Nat) (Option.some Jvm.ClassFile.FieldType.int)) ∈ lw_all := lw_g (lw_at lw_m4 154 rfl) rfl
theorem q929 : (Jvm.Cond.methodLink "TownOnWeightModel" (138 : Nat) ({ cls := "TownOnWeightModel", name := "working", desc := "()I" } : Jvm.MethodName)) ∈ lw_all := lw_g (lw_at lw_m4 155 rfl) rfl
theorem q930 : (Jvm.Cond.privateMethod ({ cls := "TownOnWeightModel", name := "working", desc := "()I" } : Jvm.MethodName)) ∈ lw_tbl := lw_at lw_m4 156 rfl
theorem q931 : (Jvm.Cond.instanceMethod ({ cls := "TownOnWeightModel", name := "working", desc := "()I" } : Jvm.MethodName)) ∈ lw_all := lw_g (lw_at lw_m4 157 rfl) rfl
theorem q932 : (Jvm.Cond.code ({ cls := "TownOnWeightModel", name := "working", desc := "()I" } : Jvm.MethodName) prog_11_method_29_code (4 : Nat) (Option.some Jvm.ClassFile.FieldType.int)) ∈ lw_all := lw_g (lw_at lw_m4 158 rfl) rfl
theorem q934 : (Jvm.Cond.instanceMethod ({ cls := "TownOnWeightModel", name := "worked", desc := "()I" } : Jvm.MethodName)) ∈ lw_all := lw_g (lw_at lw_m4 160 rfl) rfl
theorem q935 : (Jvm.Cond.selects "TownOnWeightModel" ({ cls := "TownOnWeightModel", name := "worked", desc := "()I" } : Jvm.MethodName) ({ cls := "TownOnWeightModel", name := "worked", desc := "()I" } : Jvm.MethodName)) ∈ lw_all := lw_g (lw_at lw_m4 161 rfl) rfl
theorem q936 : (Jvm.Cond.code ({ cls := "TownOnWeightModel", name := "worked", desc := "()I" } : Jvm.MethodName) prog_11_method_33_code (1 : Nat) (Option.some Jvm.ClassFile.FieldType.int)) ∈ lw_all := lw_g (lw_at lw_m4 162 rfl) rfl
theorem q938 : (Jvm.Cond.instanceMethod ({ cls := "TownOnWeightModel", name := "part", desc := "(I)I" } : Jvm.MethodName)) ∈ lw_all := lw_g (lw_at lw_m4 164 rfl) rfl
theorem q939 : (Jvm.Cond.selects "TownOnWeightModel" ({ cls := "TownOnWeightModel", name := "part", desc := "(I)I" } : Jvm.MethodName) ({ cls := "TownOnWeightModel", name := "part", desc := "(I)I" } : Jvm.MethodName)) ∈ lw_all := lw_g (lw_at lw_m4 165 rfl) rfl
theorem q940 : (Jvm.Cond.code ({ cls := "TownOnWeightModel", name := "part", desc := "(I)I" } : Jvm.MethodName) prog_11_method_36_code (2 : Nat) (Option.some Jvm.ClassFile.FieldType.int)) ∈ lw_all := lw_g (lw_at lw_m4 166 rfl) rfl
theorem q941 : (Jvm.Cond.methodLink "TownOnWeightModel" (154 : Nat) ({ cls := "TownOnWeightModel", name := "partOf", desc := "(I)I" } : Jvm.MethodName)) ∈ lw_all := lw_g (lw_at lw_m4 167 rfl) rfl
theorem q942 : (Jvm.Cond.privateMethod ({ cls := "TownOnWeightModel", name := "partOf", desc := "(I)I" } : Jvm.MethodName)) ∈ lw_tbl := lw_at lw_m4 168 rfl
theorem q943 : (Jvm.Cond.instanceMethod ({ cls := "TownOnWeightModel", name := "partOf", desc := "(I)I" } : Jvm.MethodName)) ∈ lw_all := lw_g (lw_at lw_m4 169 rfl) rfl
theorem q944 : (Jvm.Cond.code ({ cls := "TownOnWeightModel", name := "partOf", desc := "(I)I" } : Jvm.MethodName) prog_11_method_35_code (9 : Nat) (Option.some Jvm.ClassFile.FieldType.int)) ∈ lw_all := lw_g (lw_at lw_m4 170 rfl) rfl
theorem q945 : (Jvm.Cond.methodLink "TownOnWeightModel" (151 : Nat) ({ cls := "TownOnWeightModel", name := "takenAll", desc := "()I" } : Jvm.MethodName)) ∈ lw_all := lw_g (lw_at lw_m4 171 rfl) rfl
theorem q946 : (Jvm.Cond.privateMethod ({ cls := "TownOnWeightModel", name := "takenAll", desc := "()I" } : Jvm.MethodName)) ∈ lw_tbl := lw_at lw_m4 172 rfl
theorem q947 : (Jvm.Cond.instanceMethod ({ cls := "TownOnWeightModel", name := "takenAll", desc := "()I" } : Jvm.MethodName)) ∈ lw_all := lw_g (lw_at lw_m4 173 rfl) rfl
theorem q948 : (Jvm.Cond.code ({ cls := "TownOnWeightModel", name := "takenAll", desc := "()I" } : Jvm.MethodName) prog_11_method_34_code (3 : Nat) (Option.some Jvm.ClassFile.FieldType.int)) ∈ lw_all := lw_g (lw_at lw_m4 174 rfl) rfl
theorem q950 : (Jvm.Cond.instanceMethod ({ cls := "TownOnWeightModel", name := "night", desc := "()I" } : Jvm.MethodName)) ∈ lw_all := lw_g (lw_at lw_m4 176 rfl) rfl
theorem q951 : (Jvm.Cond.selects "TownOnWeightModel" ({ cls := "TownOnWeightModel", name := "night", desc := "()I" } : Jvm.MethodName) ({ cls := "TownOnWeightModel", name := "night", desc := "()I" } : Jvm.MethodName)) ∈ lw_all := lw_g (lw_at lw_m4 177 rfl) rfl
theorem q952 : (Jvm.Cond.code ({ cls := "TownOnWeightModel", name := "night", desc := "()I" } : Jvm.MethodName) prog_11_method_37_code (4 : Nat) (Option.some Jvm.ClassFile.FieldType.int)) ∈ lw_all := lw_g (lw_at lw_m4 178 rfl) rfl
theorem q954 : (Jvm.Cond.instanceMethod ({ cls := "TownOnWeightModel", name := "plan", desc := "(I)I" } : Jvm.MethodName)) ∈ lw_all := lw_g (lw_at lw_m4 180 rfl) rfl
theorem q955 : (Jvm.Cond.selects "TownOnWeightModel" ({ cls := "TownOnWeightModel", name := "plan", desc := "(I)I" } : Jvm.MethodName) ({ cls := "TownOnWeightModel", name := "plan", desc := "(I)I" } : Jvm.MethodName)) ∈ lw_all := lw_g (lw_at lw_m4 181 rfl) rfl
theorem q956 : (Jvm.Cond.code ({ cls := "TownOnWeightModel", name := "plan", desc := "(I)I" } : Jvm.MethodName) prog_11_method_42_code (2 : Nat) (Option.some Jvm.ClassFile.FieldType.int)) ∈ lw_all := lw_g (lw_at lw_m4 182 rfl) rfl
theorem q957 : (Jvm.Cond.methodLink "TownOnWeightModel" (190 : Nat) ({ cls := "TownOnWeightModel", name := "planNow", desc := "(I)I" } : Jvm.MethodName)) ∈ lw_all := lw_g (lw_at lw_m4 183 rfl) rfl
theorem q958 : (Jvm.Cond.privateMethod ({ cls := "TownOnWeightModel", name := "planNow", desc := "(I)I" } : Jvm.MethodName)) ∈ lw_tbl := lw_at lw_m4 184 rfl
theorem q959 : (Jvm.Cond.instanceMethod ({ cls := "TownOnWeightModel", name := "planNow", desc := "(I)I" } : Jvm.MethodName)) ∈ lw_all := lw_g (lw_at lw_m4 185 rfl) rfl
theorem q960 : (Jvm.Cond.code ({ cls := "TownOnWeightModel", name := "planNow", desc := "(I)I" } : Jvm.MethodName) prog_11_method_41_code (7 : Nat) (Option.some Jvm.ClassFile.FieldType.int)) ∈ lw_all := lw_g (lw_at lw_m4 186 rfl) rfl
theorem q961 : (Jvm.Cond.methodLink "TownOnWeightModel" (184 : Nat) ({ cls := "TownOnWeightModel", name := "takenOn", desc := "(II)I" } : Jvm.MethodName)) ∈ lw_all := lw_g (lw_at lw_m4 187 rfl) rfl
theorem q962 : (Jvm.Cond.privateMethod ({ cls := "TownOnWeightModel", name := "takenOn", desc := "(II)I" } : Jvm.MethodName)) ∈ lw_tbl := lw_at lw_m4 188 rfl
theorem q963 : (Jvm.Cond.instanceMethod ({ cls := "TownOnWeightModel", name := "takenOn", desc := "(II)I" } : Jvm.MethodName)) ∈ lw_all := lw_g (lw_at lw_m4 189 rfl) rfl
theorem q964 : (Jvm.Cond.code ({ cls := "TownOnWeightModel", name := "takenOn", desc := "(II)I" } : Jvm.MethodName) prog_11_method_40_code (5 : Nat) (Option.some Jvm.ClassFile.FieldType.int)) ∈ lw_all := lw_g (lw_at lw_m4 190 rfl) rfl
theorem q965 : (Jvm.Cond.methodLink "TownOnWeightModel" (178 : Nat) ({ cls := "TownOnWeightModel", name := "save", desc := "()V" } : Jvm.MethodName)) ∈ lw_all := lw_g (lw_at lw_m4 191 rfl) rfl
theorem q966 : (Jvm.Cond.privateMethod ({ cls := "TownOnWeightModel", name := "save", desc := "()V" } : Jvm.MethodName)) ∈ lw_tbl := lw_at lw_m4 192 rfl
theorem q967 : (Jvm.Cond.instanceMethod ({ cls := "TownOnWeightModel", name := "save", desc := "()V" } : Jvm.MethodName)) ∈ lw_all := lw_g (lw_at lw_m4 193 rfl) rfl
theorem q968 : (Jvm.Cond.code ({ cls := "TownOnWeightModel", name := "save", desc := "()V" } : Jvm.MethodName) prog_11_method_38_code (2 : Nat) (Option.none : Option Jvm.ClassFile.FieldType)) ∈ lw_all := lw_g (lw_at lw_m4 194 rfl) rfl
theorem q969 : (Jvm.Cond.methodLink "TownOnWeightModel" (181 : Nat) ({ cls := "TownOnWeightModel", name := "back", desc := "()V" } : Jvm.MethodName)) ∈ lw_all := lw_g (lw_at lw_m4 195 rfl) rfl
theorem q970 : (Jvm.Cond.privateMethod ({ cls := "TownOnWeightModel", name := "back", desc := "()V" } : Jvm.MethodName)) ∈ lw_tbl := lw_at lw_m4 196 rfl
theorem q971 : (Jvm.Cond.instanceMethod ({ cls := "TownOnWeightModel", name := "back", desc := "()V" } : Jvm.MethodName)) ∈ lw_all := lw_g (lw_at lw_m4 197 rfl) rfl
theorem q972 : (Jvm.Cond.code ({ cls := "TownOnWeightModel", name := "back", desc := "()V" } : Jvm.MethodName) prog_11_method_39_code (2 : Nat) (Option.none : Option Jvm.ClassFile.FieldType)) ∈ lw_all := lw_g (lw_at lw_m4 198 rfl) rfl
theorem q973 : (Jvm.Cond.methodLink "TownOnWeightModel" (187 : Nat) ({ cls := "TownOnWeightModel", name := "size", desc := "(I)I" } : Jvm.MethodName)) ∈ lw_all := lw_g (lw_at lw_m4 199 rfl) rfl
theorem q974 : (Jvm.Cond.static ({ cls := "TownOnWeightModel", name := "size", desc := "(I)I" } : Jvm.MethodName)) ∈ lw_all := lw_g (lw_at lw_m4 200 rfl) rfl
theorem q975 : (Jvm.Cond.code ({ cls := "TownOnWeightModel", name := "size", desc := "(I)I" } : Jvm.MethodName) prog_11_method_5_code (3 : Nat) (Option.some Jvm.ClassFile.FieldType.int)) ∈ lw_all := lw_g (lw_at lw_m4 201 rfl) rfl
theorem q977 : (Jvm.Cond.instanceMethod ({ cls := "TownOnWeightModel", name := "more", desc := "(I)I" } : Jvm.MethodName)) ∈ lw_all := lw_g (lw_at lw_m4 203 rfl) rfl
theorem q978 : (Jvm.Cond.selects "TownOnWeightModel" ({ cls := "TownOnWeightModel", name := "more", desc := "(I)I" } : Jvm.MethodName) ({ cls := "TownOnWeightModel", name := "more", desc := "(I)I" } : Jvm.MethodName)) ∈ lw_all := lw_g (lw_at lw_m4 204 rfl) rfl
theorem q979 : (Jvm.Cond.code ({ cls := "TownOnWeightModel", name := "more", desc := "(I)I" } : Jvm.MethodName) prog_11_method_44_code (2 : Nat) (Option.some Jvm.ClassFile.FieldType.int)) ∈ lw_all := lw_g (lw_at lw_m4 205 rfl) rfl
theorem q980 : (Jvm.Cond.methodLink "TownOnWeightModel" (193 : Nat) ({ cls := "TownOnWeightModel", name := "moreNow", desc := "(I)I" } : Jvm.MethodName)) ∈ lw_all := lw_g (lw_at lw_m4 206 rfl) rfl
theorem q981 : (Jvm.Cond.privateMethod ({ cls := "TownOnWeightModel", name := "moreNow", desc := "(I)I" } : Jvm.MethodName)) ∈ lw_tbl := lw_at lw_m4 207 rfl
theorem q982 : (Jvm.Cond.instanceMethod ({ cls := "TownOnWeightModel", name := "moreNow", desc := "(I)I" } : Jvm.MethodName)) ∈ lw_all := lw_g (lw_at lw_m4 208 rfl) rfl
theorem q983 : (Jvm.Cond.code ({ cls := "TownOnWeightModel", name := "moreNow", desc := "(I)I" } : Jvm.MethodName) prog_11_method_43_code (2 : Nat) (Option.some Jvm.ClassFile.FieldType.int)) ∈ lw_all := lw_g (lw_at lw_m4 209 rfl) rfl
theorem q985 : (Jvm.Cond.instanceMethod ({ cls := "TownOnWeightModel", name := "missing", desc := "(II)I" } : Jvm.MethodName)) ∈ lw_all := lw_g (lw_at lw_m4 211 rfl) rfl
theorem q986 : (Jvm.Cond.selects "TownOnWeightModel" ({ cls := "TownOnWeightModel", name := "missing", desc := "(II)I" } : Jvm.MethodName) ({ cls := "TownOnWeightModel", name := "missing", desc := "(II)I" } : Jvm.MethodName)) ∈ lw_all := lw_g (lw_at lw_m4 212 rfl) rfl
theorem q987 : (Jvm.Cond.code ({ cls := "TownOnWeightModel", name := "missing", desc := "(II)I" } : Jvm.MethodName) prog_11_method_46_code (8 : Nat) (Option.some Jvm.ClassFile.FieldType.int)) ∈ lw_all := lw_g (lw_at lw_m4 213 rfl) rfl
theorem q988 : (Jvm.Cond.methodLink "TownOnWeightModel" (196 : Nat) ({ cls := "TownOnWeightModel", name := "sumOf", desc := "(I)I" } : Jvm.MethodName)) ∈ lw_all := lw_g (lw_at lw_m4 214 rfl) rfl
theorem q989 : (Jvm.Cond.privateMethod ({ cls := "TownOnWeightModel", name := "sumOf", desc := "(I)I" } : Jvm.MethodName)) ∈ lw_tbl := lw_at lw_m4 215 rfl
theorem q990 : (Jvm.Cond.instanceMethod ({ cls := "TownOnWeightModel", name := "sumOf", desc := "(I)I" } : Jvm.MethodName)) ∈ lw_all := lw_g (lw_at lw_m4 216 rfl) rfl
theorem q991 : (Jvm.Cond.code ({ cls := "TownOnWeightModel", name := "sumOf", desc := "(I)I" } : Jvm.MethodName) prog_11_method_45_code (4 : Nat) (Option.some Jvm.ClassFile.FieldType.int)) ∈ lw_all := lw_g (lw_at lw_m4 217 rfl) rfl
theorem q993 : (Jvm.Cond.instanceMethod ({ cls := "TownOnWeightModel", name := "rest", desc := "(II)I" } : Jvm.MethodName)) ∈ lw_all := lw_g (lw_at lw_m4 219 rfl) rfl
theorem q994 : (Jvm.Cond.selects "TownOnWeightModel" ({ cls := "TownOnWeightModel", name := "rest", desc := "(II)I" } : Jvm.MethodName) ({ cls := "TownOnWeightModel", name := "rest", desc := "(II)I" } : Jvm.MethodName)) ∈ lw_all := lw_g (lw_at lw_m4 220 rfl) rfl
theorem q995 : (Jvm.Cond.code ({ cls := "TownOnWeightModel", name := "rest", desc := "(II)I" } : Jvm.MethodName) prog_11_method_48_code (7 : Nat) (Option.some Jvm.ClassFile.FieldType.int)) ∈ lw_all := lw_g (lw_at lw_m4 221 rfl) rfl
theorem q996 : (Jvm.Cond.methodLink "TownOnWeightModel" (211 : Nat) ({ cls := "TownOnWeightModel", name := "draw", desc := "(I)I" } : Jvm.MethodName)) ∈ lw_all := lw_g (lw_at lw_m4 222 rfl) rfl
theorem q997 : (Jvm.Cond.privateMethod ({ cls := "TownOnWeightModel", name := "draw", desc := "(I)I" } : Jvm.MethodName)) ∈ lw_tbl := lw_at lw_m4 223 rfl
theorem q998 : (Jvm.Cond.instanceMethod ({ cls := "TownOnWeightModel", name := "draw", desc := "(I)I" } : Jvm.MethodName)) ∈ lw_all := lw_g (lw_at lw_m4 224 rfl) rfl
theorem q999 : (Jvm.Cond.code ({ cls := "TownOnWeightModel", name := "draw", desc := "(I)I" } : Jvm.MethodName) prog_11_method_47_code (2 : Nat) (Option.some Jvm.ClassFile.FieldType.int)) ∈ lw_all := lw_g (lw_at lw_m4 225 rfl) rfl
theorem q1000 : (Jvm.Cond.constantLong "TownOnWeightModel" (199 : Nat) (1103515245 : Int64)) ∈ lw_all := lw_g (lw_at lw_m4 226 rfl) rfl
theorem q1001 : (Jvm.Cond.constantLong "TownOnWeightModel" (205 : Nat) (12345 : Int64)) ∈ lw_all := lw_g (lw_at lw_m4 227 rfl) rfl
theorem q1002 : (Jvm.Cond.constantLong "TownOnWeightModel" (207 : Nat) (2147483647 : Int64)) ∈ lw_all := lw_g (lw_at lw_m4 228 rfl) rfl
theorem q1003 : (Jvm.Cond.constantLong "TownOnWeightModel" (209 : Nat) (65536 : Int64)) ∈ lw_all := lw_g (lw_at lw_m4 229 rfl) rfl
theorem q1005 : (Jvm.Cond.instanceMethod ({ cls := "TownOnWeightModel", name := "read", desc := "(II)I" } : Jvm.MethodName)) ∈ lw_all := lw_g (lw_at lw_m4 231 rfl) rfl
theorem q1006 : (Jvm.Cond.selects "TownOnWeightModel" ({ cls := "TownOnWeightModel", name := "read", desc := "(II)I" } : Jvm.MethodName) ({ cls := "TownOnWeightModel", name := "read", desc := "(II)I" } : Jvm.MethodName)) ∈ lw_all := lw_g (lw_at lw_m4 232 rfl) rfl
theorem q1007 : (Jvm.Cond.code ({ cls := "TownOnWeightModel", name := "read", desc := "(II)I" } : Jvm.MethodName) prog_11_method_49_code (3 : Nat) (Option.some Jvm.ClassFile.FieldType.int)) ∈ lw_all := lw_g (lw_at lw_m4 233 rfl) rfl
theorem q1009 : (Jvm.Cond.instanceMethod ({ cls := "TownOnWeightModel", name := "wipe", desc := "()I" } : Jvm.MethodName)) ∈ lw_all := lw_g (lw_at lw_m4 235 rfl) rfl
theorem q1010 : (Jvm.Cond.selects "TownOnWeightModel" ({ cls := "TownOnWeightModel", name := "wipe", desc := "()I" } : Jvm.MethodName) ({ cls := "TownOnWeightModel", name := "wipe", desc := "()I" } : Jvm.MethodName)) ∈ lw_all := lw_g (lw_at lw_m4 236 rfl) rfl
theorem q1011 : (Jvm.Cond.code ({ cls := "TownOnWeightModel", name := "wipe", desc := "()I" } : Jvm.MethodName) prog_11_method_50_code (2 : Nat) (Option.some Jvm.ClassFile.FieldType.int)) ∈ lw_all := lw_g (lw_at lw_m4 237 rfl) rfl
theorem q1013 : (Jvm.Cond.instanceMethod ({ cls := "TownOnWeightModel", name := "leak", desc := "(I)I" } : Jvm.MethodName)) ∈ lw_all := lw_g (lw_at lw_m4 239 rfl) rfl
theorem q1014 : (Jvm.Cond.selects "TownOnWeightModel" ({ cls := "TownOnWeightModel", name := "leak", desc := "(I)I" } : Jvm.MethodName) ({ cls := "TownOnWeightModel", name := "leak", desc := "(I)I" } : Jvm.MethodName)) ∈ lw_all := lw_g (lw_at lw_m5 0 rfl) rfl
theorem q1015 : (Jvm.Cond.code ({ cls := "TownOnWeightModel", name := "leak", desc := "(I)I" } : Jvm.MethodName) prog_11_method_53_code (2 : Nat) (Option.some Jvm.ClassFile.FieldType.int)) ∈ lw_all := lw_g (lw_at lw_m5 1 rfl) rfl
theorem q1016 : (Jvm.Cond.methodLink "TownOnWeightModel" (220 : Nat) ({ cls := "TownOnWeightModel", name := "leakNow", desc := "(I)I" } : Jvm.MethodName)) ∈ lw_all := lw_g (lw_at lw_m5 2 rfl) rfl
theorem q1017 : (Jvm.Cond.privateMethod ({ cls := "TownOnWeightModel", name := "leakNow", desc := "(I)I" } : Jvm.MethodName)) ∈ lw_tbl := lw_at lw_m5 3 rfl
theorem q1018 : (Jvm.Cond.instanceMethod ({ cls := "TownOnWeightModel", name := "leakNow", desc := "(I)I" } : Jvm.MethodName)) ∈ lw_all := lw_g (lw_at lw_m5 4 rfl) rfl
theorem q1019 : (Jvm.Cond.code ({ cls := "TownOnWeightModel", name := "leakNow", desc := "(I)I" } : Jvm.MethodName) prog_11_method_52_code (6 : Nat) (Option.some Jvm.ClassFile.FieldType.int)) ∈ lw_all := lw_g (lw_at lw_m5 5 rfl) rfl
theorem q1020 : (Jvm.Cond.methodLink "TownOnWeightModel" (217 : Nat) ({ cls := "TownOnWeightModel", name := "feetBy", desc := "(I)I" } : Jvm.MethodName)) ∈ lw_all := lw_g (lw_at lw_m5 6 rfl) rfl
theorem q1021 : (Jvm.Cond.privateMethod ({ cls := "TownOnWeightModel", name := "feetBy", desc := "(I)I" } : Jvm.MethodName)) ∈ lw_tbl := lw_at lw_m5 7 rfl
theorem q1022 : (Jvm.Cond.instanceMethod ({ cls := "TownOnWeightModel", name := "feetBy", desc := "(I)I" } : Jvm.MethodName)) ∈ lw_all := lw_g (lw_at lw_m5 8 rfl) rfl
theorem q1023 : (Jvm.Cond.code ({ cls := "TownOnWeightModel", name := "feetBy", desc := "(I)I" } : Jvm.MethodName) prog_11_method_51_code (5 : Nat) (Option.some Jvm.ClassFile.FieldType.int)) ∈ lw_all := lw_g (lw_at lw_m5 9 rfl) rfl
theorem q1025 : (Jvm.Cond.instanceMethod ({ cls := "TownOnWeightModel", name := "leaks", desc := "()I" } : Jvm.MethodName)) ∈ lw_all := lw_g (lw_at lw_m5 11 rfl) rfl
theorem q1026 : (Jvm.Cond.selects "TownOnWeightModel" ({ cls := "TownOnWeightModel", name := "leaks", desc := "()I" } : Jvm.MethodName) ({ cls := "TownOnWeightModel", name := "leaks", desc := "()I" } : Jvm.MethodName)) ∈ lw_all := lw_g (lw_at lw_m5 12 rfl) rfl
theorem q1027 : (Jvm.Cond.code ({ cls := "TownOnWeightModel", name := "leaks", desc := "()I" } : Jvm.MethodName) prog_11_method_55_code (1 : Nat) (Option.some Jvm.ClassFile.FieldType.int)) ∈ lw_all := lw_g (lw_at lw_m5 13 rfl) rfl
theorem q1028 : (Jvm.Cond.methodLink "TownOnWeightModel" (223 : Nat) ({ cls := "TownOnWeightModel", name := "leaksNow", desc := "()I" } : Jvm.MethodName)) ∈ lw_all := lw_g (lw_at lw_m5 14 rfl) rfl
theorem q1029 : (Jvm.Cond.privateMethod ({ cls := "TownOnWeightModel", name := "leaksNow", desc := "()I" } : Jvm.MethodName)) ∈ lw_tbl := lw_at lw_m5 15 rfl
theorem q1030 : (Jvm.Cond.instanceMethod ({ cls := "TownOnWeightModel", name := "leaksNow", desc := "()I" } : Jvm.MethodName)) ∈ lw_all := lw_g (lw_at lw_m5 16 rfl) rfl
theorem q1031 : (Jvm.Cond.code ({ cls := "TownOnWeightModel", name := "leaksNow", desc := "()I" } : Jvm.MethodName) prog_11_method_54_code (3 : Nat) (Option.some Jvm.ClassFile.FieldType.int)) ∈ lw_all := lw_g (lw_at lw_m5 17 rfl) rfl
theorem q1033 : (Jvm.Cond.instanceMethod ({ cls := "TownOnWeightModel", name := "look", desc := "()I" } : Jvm.MethodName)) ∈ lw_all := lw_g (lw_at lw_m5 19 rfl) rfl
theorem q1034 : (Jvm.Cond.selects "TownOnWeightModel" ({ cls := "TownOnWeightModel", name := "look", desc := "()I" } : Jvm.MethodName) ({ cls := "TownOnWeightModel", name := "look", desc := "()I" } : Jvm.MethodName)) ∈ lw_all := lw_g (lw_at lw_m5 20 rfl) rfl
theorem q1035 : (Jvm.Cond.code ({ cls := "TownOnWeightModel", name := "look", desc := "()I" } : Jvm.MethodName) prog_11_method_57_code (1 : Nat) (Option.some Jvm.ClassFile.FieldType.int)) ∈ lw_all := lw_g (lw_at lw_m5 21 rfl) rfl
theorem q1036 : (Jvm.Cond.methodLink "TownOnWeightModel" (226 : Nat) ({ cls := "TownOnWeightModel", name := "lookNow", desc := "()I" } : Jvm.MethodName)) ∈ lw_all := lw_g (lw_at lw_m5 22 rfl) rfl
theorem q1037 : (Jvm.Cond.privateMethod ({ cls := "TownOnWeightModel", name := "lookNow", desc := "()I" } : Jvm.MethodName)) ∈ lw_tbl := lw_at lw_m5 23 rfl
theorem q1038 : (Jvm.Cond.instanceMethod ({ cls := "TownOnWeightModel", name := "lookNow", desc := "()I" } : Jvm.MethodName)) ∈ lw_all := lw_g (lw_at lw_m5 24 rfl) rfl
theorem q1039 : (Jvm.Cond.code ({ cls := "TownOnWeightModel", name := "lookNow", desc := "()I" } : Jvm.MethodName) prog_11_method_56_code (8 : Nat) (Option.some Jvm.ClassFile.FieldType.int)) ∈ lw_all := lw_g (lw_at lw_m5 25 rfl) rfl
theorem q1041 : (Jvm.Cond.instanceMethod ({ cls := "TownOnWeightModel", name := "image", desc := "()I" } : Jvm.MethodName)) ∈ lw_all := lw_g (lw_at lw_m5 27 rfl) rfl
theorem q1042 : (Jvm.Cond.selects "TownOnWeightModel" ({ cls := "TownOnWeightModel", name := "image", desc := "()I" } : Jvm.MethodName) ({ cls := "TownOnWeightModel", name := "image", desc := "()I" } : Jvm.MethodName)) ∈ lw_all := lw_g (lw_at lw_m5 28 rfl) rfl
theorem q1043 : (Jvm.Cond.code ({ cls := "TownOnWeightModel", name := "image", desc := "()I" } : Jvm.MethodName) prog_11_method_58_code (2 : Nat) (Option.some Jvm.ClassFile.FieldType.int)) ∈ lw_all := lw_g (lw_at lw_m5 29 rfl) rfl
theorem q1045 : (Jvm.Cond.instanceMethod ({ cls := "TownOnWeightModel", name := "restore", desc := "()I" } : Jvm.MethodName)) ∈ lw_all := lw_g (lw_at lw_m5 31 rfl) rfl
theorem q1046 : (Jvm.Cond.selects "TownOnWeightModel" ({ cls := "TownOnWeightModel", name := "restore", desc := "()I" } : Jvm.MethodName) ({ cls := "TownOnWeightModel", name := "restore", desc := "()I" } : Jvm.MethodName)) ∈ lw_all := lw_g (lw_at lw_m5 32 rfl) rfl
theorem q1047 : (Jvm.Cond.code ({ cls := "TownOnWeightModel", name := "restore", desc := "()I" } : Jvm.MethodName) prog_11_method_59_code (2 : Nat) (Option.some Jvm.ClassFile.FieldType.int)) ∈ lw_all := lw_g (lw_at lw_m5 33 rfl) rfl
theorem q1049 : (Jvm.Cond.instanceMethod ({ cls := "TownOnWeightModel", name := "count", desc := "(I)I" } : Jvm.MethodName)) ∈ lw_all := lw_g (lw_at lw_m5 35 rfl) rfl
theorem q1050 : (Jvm.Cond.selects "TownOnWeightModel" ({ cls := "TownOnWeightModel", name := "count", desc := "(I)I" } : Jvm.MethodName) ({ cls := "TownOnWeightModel", name := "count", desc := "(I)I" } : Jvm.MethodName)) ∈ lw_all := lw_g (lw_at lw_m5 36 rfl) rfl
theorem q1051 : (Jvm.Cond.code ({ cls := "TownOnWeightModel", name := "count", desc := "(I)I" } : Jvm.MethodName) prog_11_method_61_code (2 : Nat) (Option.some Jvm.ClassFile.FieldType.int)) ∈ lw_all := lw_g (lw_at lw_m5 37 rfl) rfl
theorem q1052 : (Jvm.Cond.methodLink "TownOnWeightModel" (262 : Nat) ({ cls := "TownOnWeightModel", name := "howMany", desc := "(I)I" } : Jvm.MethodName)) ∈ lw_all := lw_g (lw_at lw_m5 38 rfl) rfl
theorem q1053 : (Jvm.Cond.privateMethod ({ cls := "TownOnWeightModel", name := "howMany", desc := "(I)I" } : Jvm.MethodName)) ∈ lw_tbl := lw_at lw_m5 39 rfl
theorem q1054 : (Jvm.Cond.instanceMethod ({ cls := "TownOnWeightModel", name := "howMany", desc := "(I)I" } : Jvm.MethodName)) ∈ lw_all := lw_g (lw_at lw_m5 40 rfl) rfl
theorem q1055 : (Jvm.Cond.code ({ cls := "TownOnWeightModel", name := "howMany", desc := "(I)I" } : Jvm.MethodName) prog_11_method_60_code (2 : Nat) (Option.some Jvm.ClassFile.FieldType.int)) ∈ lw_all := lw_g (lw_at lw_m5 41 rfl) rfl
theorem q1057 : (Jvm.Cond.instanceMethod ({ cls := "TownOnWeightModel", name := "digest", desc := "()J" } : Jvm.MethodName)) ∈ lw_all := lw_g (lw_at lw_m5 43 rfl) rfl
theorem q1058 : (Jvm.Cond.selects "TownOnWeightModel" ({ cls := "TownOnWeightModel", name := "digest", desc := "()J" } : Jvm.MethodName) ({ cls := "TownOnWeightModel", name := "digest", desc := "()J" } : Jvm.MethodName)) ∈ lw_all := lw_g (lw_at lw_m5 44 rfl) rfl
theorem q1059 : (Jvm.Cond.code ({ cls := "TownOnWeightModel", name := "digest", desc := "()J" } : Jvm.MethodName) prog_11_method_63_code (3 : Nat) (Option.some Jvm.ClassFile.FieldType.long)) ∈ lw_all := lw_g (lw_at lw_m5 45 rfl) rfl
theorem q1060 : (Jvm.Cond.constantLong "TownOnWeightModel" (270 : Nat) (601 : Int64)) ∈ lw_all := lw_g (lw_at lw_m5 46 rfl) rfl
theorem q1061 : (Jvm.Cond.methodLink "TownOnWeightModel" (272 : Nat) ({ cls := "TownOnWeightModel", name := "mix", desc := "(J)V" } : Jvm.MethodName)) ∈ lw_all := lw_g (lw_at lw_m5 47 rfl) rfl
theorem q1062 : (Jvm.Cond.privateMethod ({ cls := "TownOnWeightModel", name := "mix", desc := "(J)V" } : Jvm.MethodName)) ∈ lw_tbl := lw_at lw_m5 48 rfl
theorem q1063 : (Jvm.Cond.instanceMethod ({ cls := "TownOnWeightModel", name := "mix", desc := "(J)V" } : Jvm.MethodName)) ∈ lw_all := lw_g (lw_at lw_m5 49 rfl) rfl
theorem q1064 : (Jvm.Cond.code ({ cls := "TownOnWeightModel", name := "mix", desc := "(J)V" } : Jvm.MethodName) prog_11_method_62_code (3 : Nat) (Option.none : Option Jvm.ClassFile.FieldType)) ∈ lw_all := lw_g (lw_at lw_m5 50 rfl) rfl
theorem q1065 : (Jvm.Cond.constantLong "TownOnWeightModel" (265 : Nat) (31 : Int64)) ∈ lw_all := lw_g (lw_at lw_m5 51 rfl) rfl
theorem in_X2 : ∀ w ∈ wsX20, w ∈ lw_all := lw_in wsX20 [724, 726, 728, 730, 732, 734, 736, 738, 740, 742, 744, 746, 748, 750, 752, 754, 756, 758, 760, 762, 764, 766, 768, 770, 772, 774, 776, 778, 780, 782, 784, 786, 788, 790, 792, 794, 796, 798, 800, 802, 804, 806, 808, 810, 812, 814, 816] (by decide +kernel) (by decide +kernel)
