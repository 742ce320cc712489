set_option maxRecDepth 100000
/-! TownOnWeight -/
set_option maxRecDepth 100000
def RX0 : String := "TownOnWeight"
def TX0 : u_T := fun k => match k with
  | 0 => ("TownOnWeight", "houses", "[LTownOnWeight$House;", true)
  | 1 => ("TownOnWeight", "owed", "[I", true)
  | 2 => ("TownOnWeight", "many", "I", false)
  | 3 => ("TownOnWeight", "day", "LTownOnWeight$Day;", true)
  | 4 => ("TownOnWeight", "would", "LTownOnWeight$Day;", true)
  | 5 => ("TownOnWeight", "readings", "[I", true)
  | 6 => ("TownOnWeight", "readMany", "I", false)
  | 7 => ("TownOnWeight", "page", "[I", true)
  | 8 => ("TownOnWeight", "pageMany", "I", false)
  | 9 => ("TownOnWeight", "kept", "LTownOnWeight$Day;", true)
  | 10 => ("TownOnWeight", "keptOwed", "[I", true)
  | 11 => ("TownOnWeight", "keptReadings", "[I", true)
  | 12 => ("TownOnWeight", "keptMany", "I", false)
  | 13 => ("TownOnWeight", "keptReadMany", "I", false)
  | _ => ("TownOnWeight", "h", "J", false)
def tyX0 : Nat → FieldType := fun k => match k with
  | 0 => .array (.object "TownOnWeight$House")
  | 1 => .array .int
  | 2 => .int
  | 3 => .object "TownOnWeight$Day"
  | 4 => .object "TownOnWeight$Day"
  | 5 => .array .int
  | 6 => .int
  | 7 => .array .int
  | 8 => .int
  | 9 => .object "TownOnWeight$Day"
  | 10 => .array .int
  | 11 => .array .int
  | 12 => .int
  | 13 => .int
  | _ => .long
abbrev wsX00 : List Cond := u_ws RX0 TX0 15
set_option maxRecDepth 100000 in
theorem nmX0 : ∀ a, a < 15 → ∀ b, b < 15 → a ≠ b → (TX0 a).2.1 ≠ (TX0 b).2.1 := by decide +kernel
set_option maxRecDepth 100000 in
theorem tyX0_ok : ∀ k, k < 15 → parseFieldDescriptor (TX0 k).2.2.1 = some (tyX0 k) := by decide +kernel
abbrev cX0_init : ByteArray := prog_1_method_4_code
def yX0_init : MethodName := ⟨RX0, "<init>", "()V"⟩
def dkwX0_init_3 : List UInt8 := [42, 16, 8, 188, 10, 181, 0, 51, 42, 16, 16, 188, 10, 181, 0, 54, 42, 2, 181, 0, 57, 177]
abbrev dktX0_init_3 : List UInt8 := dkwX0_init_3 ++ []
def dkwX0_init_2 : List UInt8 := [188, 10, 181, 0, 42, 42, 16, 12, 188, 10, 181, 0, 45, 42, 187, 0, 32, 89, 183, 0, 34, 181, 0, 48]
abbrev dktX0_init_2 : List UInt8 := dkwX0_init_2 ++ dktX0_init_3
def dkwX0_init_1 : List UInt8 := [187, 0, 32, 89, 183, 0, 34, 181, 0, 35, 42, 187, 0, 32, 89, 183, 0, 34, 181, 0, 39, 42, 16, 16]
abbrev dktX0_init_1 : List UInt8 := dkwX0_init_1 ++ dktX0_init_2
def dkwX0_init_0 : List UInt8 := [42, 183, 0, 19, 42, 16, 8, 189, 0, 1, 181, 0, 24, 42, 16, 8, 188, 10, 181, 0, 28, 42]
abbrev dktX0_init_0 : List UInt8 := dkwX0_init_0 ++ dktX0_init_1
theorem dksX0_init_0 : cX0_init.data.toList.drop 0 = dktX0_init_0 := by decide +kernel
theorem dksX0_init_1 : cX0_init.data.toList.drop 22 = dktX0_init_1 := dk_seg dksX0_init_0 22 rfl rfl
theorem dksX0_init_2 : cX0_init.data.toList.drop 46 = dktX0_init_2 := dk_seg dksX0_init_1 24 rfl rfl
theorem dksX0_init_3 : cX0_init.data.toList.drop 70 = dktX0_init_3 := dk_seg dksX0_init_2 24 rfl rfl
theorem dX0_init_0 : decode cX0_init 0 = .ok (.aload_n 0, 1) := dk_42 (dk_at dksX0_init_0 0 rfl rfl)
theorem dX0_init_1 : decode cX0_init 1 = .ok (.invokespecial 19, 3) := dk_183 0 19 (dk_at dksX0_init_0 1 rfl rfl)
theorem dX0_init_4 : decode cX0_init 4 = .ok (.aload_n 0, 1) := dk_42 (dk_at dksX0_init_0 4 rfl rfl)
theorem dX0_init_5 : decode cX0_init 5 = .ok (.bipush 8, 2) := dk_16 8 (dk_at dksX0_init_0 5 rfl rfl)
theorem dX0_init_7 : decode cX0_init 7 = .ok (.anewarray 1, 3) := dk_189 0 1 (dk_at dksX0_init_0 7 rfl rfl)
theorem dX0_init_10 : decode cX0_init 10 = .ok (.putfield 24, 3) := dk_181 0 24 (dk_at dksX0_init_0 10 rfl rfl)
theorem dX0_init_13 : decode cX0_init 13 = .ok (.aload_n 0, 1) := dk_42 (dk_at dksX0_init_0 13 rfl rfl)
theorem dX0_init_14 : decode cX0_init 14 = .ok (.bipush 8, 2) := dk_16 8 (dk_at dksX0_init_0 14 rfl rfl)
theorem dX0_init_16 : decode cX0_init 16 = .ok (.newarray .int, 2) := dk_188_10 (dk_at dksX0_init_0 16 rfl rfl)
theorem dX0_init_18 : decode cX0_init 18 = .ok (.putfield 28, 3) := dk_181 0 28 (dk_at dksX0_init_0 18 rfl rfl)
theorem dX0_init_21 : decode cX0_init 21 = .ok (.aload_n 0, 1) := dk_42 (dk_at dksX0_init_0 21 rfl rfl)
theorem dX0_init_22 : decode cX0_init 22 = .ok (.new 32, 3) := dk_187 0 32 (dk_at dksX0_init_1 0 rfl rfl)
theorem dX0_init_25 : decode cX0_init 25 = .ok (.dup, 1) := dk_89 (dk_at dksX0_init_1 3 rfl rfl)
theorem dX0_init_26 : decode cX0_init 26 = .ok (.invokespecial 34, 3) := dk_183 0 34 (dk_at dksX0_init_1 4 rfl rfl)
theorem dX0_init_29 : decode cX0_init 29 = .ok (.putfield 35, 3) := dk_181 0 35 (dk_at dksX0_init_1 7 rfl rfl)
theorem dX0_init_32 : decode cX0_init 32 = .ok (.aload_n 0, 1) := dk_42 (dk_at dksX0_init_1 10 rfl rfl)
theorem dX0_init_33 : decode cX0_init 33 = .ok (.new 32, 3) := dk_187 0 32 (dk_at dksX0_init_1 11 rfl rfl)
theorem dX0_init_36 : decode cX0_init 36 = .ok (.dup, 1) := dk_89 (dk_at dksX0_init_1 14 rfl rfl)
theorem dX0_init_37 : decode cX0_init 37 = .ok (.invokespecial 34, 3) := dk_183 0 34 (dk_at dksX0_init_1 15 rfl rfl)
theorem dX0_init_40 : decode cX0_init 40 = .ok (.putfield 39, 3) := dk_181 0 39 (dk_at dksX0_init_1 18 rfl rfl)
theorem dX0_init_43 : decode cX0_init 43 = .ok (.aload_n 0, 1) := dk_42 (dk_at dksX0_init_1 21 rfl rfl)
theorem dX0_init_44 : decode cX0_init 44 = .ok (.bipush 16, 2) := dk_16 16 (dk_at dksX0_init_1 22 rfl rfl)
theorem dX0_init_46 : decode cX0_init 46 = .ok (.newarray .int, 2) := dk_188_10 (dk_at dksX0_init_2 0 rfl rfl)
theorem dX0_init_48 : decode cX0_init 48 = .ok (.putfield 42, 3) := dk_181 0 42 (dk_at dksX0_init_2 2 rfl rfl)
theorem dX0_init_51 : decode cX0_init 51 = .ok (.aload_n 0, 1) := dk_42 (dk_at dksX0_init_2 5 rfl rfl)
theorem dX0_init_52 : decode cX0_init 52 = .ok (.bipush 12, 2) := dk_16 12 (dk_at dksX0_init_2 6 rfl rfl)
theorem dX0_init_54 : decode cX0_init 54 = .ok (.newarray .int, 2) := dk_188_10 (dk_at dksX0_init_2 8 rfl rfl)
theorem dX0_init_56 : decode cX0_init 56 = .ok (.putfield 45, 3) := dk_181 0 45 (dk_at dksX0_init_2 10 rfl rfl)
theorem dX0_init_59 : decode cX0_init 59 = .ok (.aload_n 0, 1) := dk_42 (dk_at dksX0_init_2 13 rfl rfl)
theorem dX0_init_60 : decode cX0_init 60 = .ok (.new 32, 3) := dk_187 0 32 (dk_at dksX0_init_2 14 rfl rfl)
theorem dX0_init_63 : decode cX0_init 63 = .ok (.dup, 1) := dk_89 (dk_at dksX0_init_2 17 rfl rfl)
theorem dX0_init_64 : decode cX0_init 64 = .ok (.invokespecial 34, 3) := dk_183 0 34 (dk_at dksX0_init_2 18 rfl rfl)
theorem dX0_init_67 : decode cX0_init 67 = .ok (.putfield 48, 3) := dk_181 0 48 (dk_at dksX0_init_2 21 rfl rfl)
theorem dX0_init_70 : decode cX0_init 70 = .ok (.aload_n 0, 1) := dk_42 (dk_at dksX0_init_3 0 rfl rfl)
theorem dX0_init_71 : decode cX0_init 71 = .ok (.bipush 8, 2) := dk_16 8 (dk_at dksX0_init_3 1 rfl rfl)
theorem dX0_init_73 : decode cX0_init 73 = .ok (.newarray .int, 2) := dk_188_10 (dk_at dksX0_init_3 3 rfl rfl)
theorem dX0_init_75 : decode cX0_init 75 = .ok (.putfield 51, 3) := dk_181 0 51 (dk_at dksX0_init_3 5 rfl rfl)
theorem dX0_init_78 : decode cX0_init 78 = .ok (.aload_n 0, 1) := dk_42 (dk_at dksX0_init_3 8 rfl rfl)
theorem dX0_init_79 : decode cX0_init 79 = .ok (.bipush 16, 2) := dk_16 16 (dk_at dksX0_init_3 9 rfl rfl)
theorem dX0_init_81 : decode cX0_init 81 = .ok (.newarray .int, 2) := dk_188_10 (dk_at dksX0_init_3 11 rfl rfl)
theorem dX0_init_83 : decode cX0_init 83 = .ok (.putfield 54, 3) := dk_181 0 54 (dk_at dksX0_init_3 13 rfl rfl)
theorem dX0_init_86 : decode cX0_init 86 = .ok (.aload_n 0, 1) := dk_42 (dk_at dksX0_init_3 16 rfl rfl)
theorem dX0_init_87 : decode cX0_init 87 = .ok (.iconst (-1), 1) := dk_2 (dk_at dksX0_init_3 17 rfl rfl)
theorem dX0_init_88 : decode cX0_init 88 = .ok (.putfield 57, 3) := dk_181 0 57 (dk_at dksX0_init_3 18 rfl rfl)
theorem dX0_init_91 : decode cX0_init 91 = .ok (.return_, 1) := dk_177 (dk_at dksX0_init_3 21 rfl rfl)
abbrev cX0_letters : ByteArray := prog_1_method_5_code
def yX0_letters : MethodName := ⟨RX0, "letters", "(J)I"⟩
def dkwX0_letters_6 : List UInt8 := [132, 5, 1, 167, 255, 216, 42, 180, 0, 61, 172]
abbrev dktX0_letters_6 : List UInt8 := dkwX0_letters_6 ++ []
def dkwX0_letters_5 : List UInt8 := [16, 8, 21, 5, 104, 125, 136, 17, 0, 255, 126, 79, 42, 89, 180, 0, 61, 4, 96, 181, 0, 61]
abbrev dktX0_letters_5 : List UInt8 := dkwX0_letters_5 ++ dktX0_letters_6
def dkwX0_letters_4 : List UInt8 := [164, 0, 6, 16, 152, 172, 3, 54, 5, 21, 5, 29, 162, 0, 40, 42, 180, 0, 45, 42, 180, 0, 61, 31]
abbrev dktX0_letters_4 : List UInt8 := dkwX0_letters_4 ++ dktX0_letters_5
def dkwX0_letters_3 : List UInt8 := [132, 5, 1, 167, 255, 191, 21, 4, 154, 0, 6, 16, 154, 172, 42, 180, 0, 61, 29, 96, 16, 12]
abbrev dktX0_letters_3 : List UInt8 := dkwX0_letters_3 ++ dktX0_letters_4
def dkwX0_letters_2 : List UInt8 := [160, 0, 7, 4, 167, 0, 4, 3, 126, 54, 4, 29, 21, 6, 154, 0, 7, 3, 167, 0, 4, 4, 96, 62]
abbrev dktX0_letters_2 : List UInt8 := dkwX0_letters_2 ++ dktX0_letters_3
def dkwX0_letters_1 : List UInt8 := [17, 0, 255, 126, 54, 6, 21, 4, 21, 6, 16, 126, 163, 0, 18, 21, 6, 153, 0, 9, 29, 21, 5]
abbrev dktX0_letters_1 : List UInt8 := dkwX0_letters_1 ++ dktX0_letters_2
def dkwX0_letters_0 : List UInt8 := [3, 62, 4, 54, 4, 3, 54, 5, 21, 5, 16, 8, 162, 0, 64, 31, 16, 8, 21, 5, 104, 125, 136]
abbrev dktX0_letters_0 : List UInt8 := dkwX0_letters_0 ++ dktX0_letters_1
theorem dksX0_letters_0 : cX0_letters.data.toList.drop 0 = dktX0_letters_0 := by decide +kernel
theorem dksX0_letters_1 : cX0_letters.data.toList.drop 23 = dktX0_letters_1 := dk_seg dksX0_letters_0 23 rfl rfl
theorem dksX0_letters_2 : cX0_letters.data.toList.drop 46 = dktX0_letters_2 := dk_seg dksX0_letters_1 23 rfl rfl
theorem dksX0_letters_3 : cX0_letters.data.toList.drop 70 = dktX0_letters_3 := dk_seg dksX0_letters_2 24 rfl rfl
theorem dksX0_letters_4 : cX0_letters.data.toList.drop 92 = dktX0_letters_4 := dk_seg dksX0_letters_3 22 rfl rfl
theorem dksX0_letters_5 : cX0_letters.data.toList.drop 116 = dktX0_letters_5 := dk_seg dksX0_letters_4 24 rfl rfl
theorem dksX0_letters_6 : cX0_letters.data.toList.drop 138 = dktX0_letters_6 := dk_seg dksX0_letters_5 22 rfl rfl
theorem dX0_letters_0 : decode cX0_letters 0 = .ok (.iconst 0, 1) := dk_3 (dk_at dksX0_letters_0 0 rfl rfl)
theorem dX0_letters_1 : decode cX0_letters 1 = .ok (.istore_n 3, 1) := dk_62 (dk_at dksX0_letters_0 1 rfl rfl)
theorem dX0_letters_2 : decode cX0_letters 2 = .ok (.iconst 1, 1) := dk_4 (dk_at dksX0_letters_0 2 rfl rfl)
theorem dX0_letters_3 : decode cX0_letters 3 = .ok (.istore 4, 2) := dk_54 4 (dk_at dksX0_letters_0 3 rfl rfl)
theorem dX0_letters_5 : decode cX0_letters 5 = .ok (.iconst 0, 1) := dk_3 (dk_at dksX0_letters_0 5 rfl rfl)
theorem dX0_letters_6 : decode cX0_letters 6 = .ok (.istore 5, 2) := dk_54 5 (dk_at dksX0_letters_0 6 rfl rfl)
theorem dX0_letters_8 : decode cX0_letters 8 = .ok (.iload 5, 2) := dk_21 5 (dk_at dksX0_letters_0 8 rfl rfl)
theorem dX0_letters_10 : decode cX0_letters 10 = .ok (.bipush 8, 2) := dk_16 8 (dk_at dksX0_letters_0 10 rfl rfl)
theorem dX0_letters_12 : decode cX0_letters 12 = .ok (.if_icmp .ge 64, 3) := dk_162 0 64 (dk_at dksX0_letters_0 12 rfl rfl)
theorem dX0_letters_15 : decode cX0_letters 15 = .ok (.lload_n 1, 1) := dk_31 (dk_at dksX0_letters_0 15 rfl rfl)
theorem dX0_letters_16 : decode cX0_letters 16 = .ok (.bipush 8, 2) := dk_16 8 (dk_at dksX0_letters_0 16 rfl rfl)
theorem dX0_letters_18 : decode cX0_letters 18 = .ok (.iload 5, 2) := dk_21 5 (dk_at dksX0_letters_0 18 rfl rfl)
theorem dX0_letters_20 : decode cX0_letters 20 = .ok (.imul, 1) := dk_104 (dk_at dksX0_letters_0 20 rfl rfl)
theorem dX0_letters_21 : decode cX0_letters 21 = .ok (.lushr, 1) := dk_125 (dk_at dksX0_letters_0 21 rfl rfl)
theorem dX0_letters_22 : decode cX0_letters 22 = .ok (.l2i, 1) := dk_136 (dk_at dksX0_letters_0 22 rfl rfl)
theorem dX0_letters_23 : decode cX0_letters 23 = .ok (.sipush 255, 3) := dk_17 0 255 (dk_at dksX0_letters_1 0 rfl rfl)
theorem dX0_letters_26 : decode cX0_letters 26 = .ok (.iand, 1) := dk_126 (dk_at dksX0_letters_1 3 rfl rfl)
theorem dX0_letters_27 : decode cX0_letters 27 = .ok (.istore 6, 2) := dk_54 6 (dk_at dksX0_letters_1 4 rfl rfl)
theorem dX0_letters_29 : decode cX0_letters 29 = .ok (.iload 4, 2) := dk_21 4 (dk_at dksX0_letters_1 6 rfl rfl)
theorem dX0_letters_31 : decode cX0_letters 31 = .ok (.iload 6, 2) := dk_21 6 (dk_at dksX0_letters_1 8 rfl rfl)
theorem dX0_letters_33 : decode cX0_letters 33 = .ok (.bipush 126, 2) := dk_16 126 (dk_at dksX0_letters_1 10 rfl rfl)
theorem dX0_letters_35 : decode cX0_letters 35 = .ok (.if_icmp .gt 18, 3) := dk_163 0 18 (dk_at dksX0_letters_1 12 rfl rfl)
theorem dX0_letters_38 : decode cX0_letters 38 = .ok (.iload 6, 2) := dk_21 6 (dk_at dksX0_letters_1 15 rfl rfl)
theorem dX0_letters_40 : decode cX0_letters 40 = .ok (.ifCond .eq 9, 3) := dk_153 0 9 (dk_at dksX0_letters_1 17 rfl rfl)
theorem dX0_letters_43 : decode cX0_letters 43 = .ok (.iload_n 3, 1) := dk_29 (dk_at dksX0_letters_1 20 rfl rfl)
theorem dX0_letters_44 : decode cX0_letters 44 = .ok (.iload 5, 2) := dk_21 5 (dk_at dksX0_letters_1 21 rfl rfl)
theorem dX0_letters_46 : decode cX0_letters 46 = .ok (.if_icmp .ne 7, 3) := dk_160 0 7 (dk_at dksX0_letters_2 0 rfl rfl)
theorem dX0_letters_49 : decode cX0_letters 49 = .ok (.iconst 1, 1) := dk_4 (dk_at dksX0_letters_2 3 rfl rfl)
theorem dX0_letters_50 : decode cX0_letters 50 = .ok (.goto 4, 3) := dk_167 0 4 (dk_at dksX0_letters_2 4 rfl rfl)
theorem dX0_letters_53 : decode cX0_letters 53 = .ok (.iconst 0, 1) := dk_3 (dk_at dksX0_letters_2 7 rfl rfl)
theorem dX0_letters_54 : decode cX0_letters 54 = .ok (.iand, 1) := dk_126 (dk_at dksX0_letters_2 8 rfl rfl)
theorem dX0_letters_55 : decode cX0_letters 55 = .ok (.istore 4, 2) := dk_54 4 (dk_at dksX0_letters_2 9 rfl rfl)
theorem dX0_letters_57 : decode cX0_letters 57 = .ok (.iload_n 3, 1) := dk_29 (dk_at dksX0_letters_2 11 rfl rfl)
theorem dX0_letters_58 : decode cX0_letters 58 = .ok (.iload 6, 2) := dk_21 6 (dk_at dksX0_letters_2 12 rfl rfl)
theorem dX0_letters_60 : decode cX0_letters 60 = .ok (.ifCond .ne 7, 3) := dk_154 0 7 (dk_at dksX0_letters_2 14 rfl rfl)
theorem dX0_letters_63 : decode cX0_letters 63 = .ok (.iconst 0, 1) := dk_3 (dk_at dksX0_letters_2 17 rfl rfl)
theorem dX0_letters_64 : decode cX0_letters 64 = .ok (.goto 4, 3) := dk_167 0 4 (dk_at dksX0_letters_2 18 rfl rfl)
theorem dX0_letters_67 : decode cX0_letters 67 = .ok (.iconst 1, 1) := dk_4 (dk_at dksX0_letters_2 21 rfl rfl)
theorem dX0_letters_68 : decode cX0_letters 68 = .ok (.iadd, 1) := dk_96 (dk_at dksX0_letters_2 22 rfl rfl)
theorem dX0_letters_69 : decode cX0_letters 69 = .ok (.istore_n 3, 1) := dk_62 (dk_at dksX0_letters_2 23 rfl rfl)
theorem dX0_letters_70 : decode cX0_letters 70 = .ok (.iinc 5 1, 3) := dk_132 5 1 (dk_at dksX0_letters_3 0 rfl rfl)
theorem dX0_letters_73 : decode cX0_letters 73 = .ok (.goto (-65), 3) := dk_167 255 191 (dk_at dksX0_letters_3 3 rfl rfl)
theorem dX0_letters_76 : decode cX0_letters 76 = .ok (.iload 4, 2) := dk_21 4 (dk_at dksX0_letters_3 6 rfl rfl)
theorem dX0_letters_78 : decode cX0_letters 78 = .ok (.ifCond .ne 6, 3) := dk_154 0 6 (dk_at dksX0_letters_3 8 rfl rfl)
theorem dX0_letters_81 : decode cX0_letters 81 = .ok (.bipush (-102), 2) := dk_16 154 (dk_at dksX0_letters_3 11 rfl rfl)
theorem dX0_letters_83 : decode cX0_letters 83 = .ok (.ireturn, 1) := dk_172 (dk_at dksX0_letters_3 13 rfl rfl)
theorem dX0_letters_84 : decode cX0_letters 84 = .ok (.aload_n 0, 1) := dk_42 (dk_at dksX0_letters_3 14 rfl rfl)
theorem dX0_letters_85 : decode cX0_letters 85 = .ok (.getfield 61, 3) := dk_180 0 61 (dk_at dksX0_letters_3 15 rfl rfl)
theorem dX0_letters_88 : decode cX0_letters 88 = .ok (.iload_n 3, 1) := dk_29 (dk_at dksX0_letters_3 18 rfl rfl)
theorem dX0_letters_89 : decode cX0_letters 89 = .ok (.iadd, 1) := dk_96 (dk_at dksX0_letters_3 19 rfl rfl)
theorem dX0_letters_90 : decode cX0_letters 90 = .ok (.bipush 12, 2) := dk_16 12 (dk_at dksX0_letters_3 20 rfl rfl)
theorem dX0_letters_92 : decode cX0_letters 92 = .ok (.if_icmp .le 6, 3) := dk_164 0 6 (dk_at dksX0_letters_4 0 rfl rfl)
theorem dX0_letters_95 : decode cX0_letters 95 = .ok (.bipush (-104), 2) := dk_16 152 (dk_at dksX0_letters_4 3 rfl rfl)
theorem dX0_letters_97 : decode cX0_letters 97 = .ok (.ireturn, 1) := dk_172 (dk_at dksX0_letters_4 5 rfl rfl)
theorem dX0_letters_98 : decode cX0_letters 98 = .ok (.iconst 0, 1) := dk_3 (dk_at dksX0_letters_4 6 rfl rfl)
theorem dX0_letters_99 : decode cX0_letters 99 = .ok (.istore 5, 2) := dk_54 5 (dk_at dksX0_letters_4 7 rfl rfl)
theorem dX0_letters_101 : decode cX0_letters 101 = .ok (.iload 5, 2) := dk_21 5 (dk_at dksX0_letters_4 9 rfl rfl)
theorem dX0_letters_103 : decode cX0_letters 103 = .ok (.iload_n 3, 1) := dk_29 (dk_at dksX0_letters_4 11 rfl rfl)
theorem dX0_letters_104 : decode cX0_letters 104 = .ok (.if_icmp .ge 40, 3) := dk_162 0 40 (dk_at dksX0_letters_4 12 rfl rfl)
theorem dX0_letters_107 : decode cX0_letters 107 = .ok (.aload_n 0, 1) := dk_42 (dk_at dksX0_letters_4 15 rfl rfl)
theorem dX0_letters_108 : decode cX0_letters 108 = .ok (.getfield 45, 3) := dk_180 0 45 (dk_at dksX0_letters_4 16 rfl rfl)
theorem dX0_letters_111 : decode cX0_letters 111 = .ok (.aload_n 0, 1) := dk_42 (dk_at dksX0_letters_4 19 rfl rfl)
theorem dX0_letters_112 : decode cX0_letters 112 = .ok (.getfield 61, 3) := dk_180 0 61 (dk_at dksX0_letters_4 20 rfl rfl)
theorem dX0_letters_115 : decode cX0_letters 115 = .ok (.lload_n 1, 1) := dk_31 (dk_at dksX0_letters_4 23 rfl rfl)
theorem dX0_letters_116 : decode cX0_letters 116 = .ok (.bipush 8, 2) := dk_16 8 (dk_at dksX0_letters_5 0 rfl rfl)
theorem dX0_letters_118 : decode cX0_letters 118 = .ok (.iload 5, 2) := dk_21 5 (dk_at dksX0_letters_5 2 rfl rfl)
theorem dX0_letters_120 : decode cX0_letters 120 = .ok (.imul, 1) := dk_104 (dk_at dksX0_letters_5 4 rfl rfl)
theorem dX0_letters_121 : decode cX0_letters 121 = .ok (.lushr, 1) := dk_125 (dk_at dksX0_letters_5 5 rfl rfl)
theorem dX0_letters_122 : decode cX0_letters 122 = .ok (.l2i, 1) := dk_136 (dk_at dksX0_letters_5 6 rfl rfl)
theorem dX0_letters_123 : decode cX0_letters 123 = .ok (.sipush 255, 3) := dk_17 0 255 (dk_at dksX0_letters_5 7 rfl rfl)
theorem dX0_letters_126 : decode cX0_letters 126 = .ok (.iand, 1) := dk_126 (dk_at dksX0_letters_5 10 rfl rfl)
theorem dX0_letters_127 : decode cX0_letters 127 = .ok (.iastore, 1) := dk_79 (dk_at dksX0_letters_5 11 rfl rfl)
theorem dX0_letters_128 : decode cX0_letters 128 = .ok (.aload_n 0, 1) := dk_42 (dk_at dksX0_letters_5 12 rfl rfl)
theorem dX0_letters_129 : decode cX0_letters 129 = .ok (.dup, 1) := dk_89 (dk_at dksX0_letters_5 13 rfl rfl)
theorem dX0_letters_130 : decode cX0_letters 130 = .ok (.getfield 61, 3) := dk_180 0 61 (dk_at dksX0_letters_5 14 rfl rfl)
theorem dX0_letters_133 : decode cX0_letters 133 = .ok (.iconst 1, 1) := dk_4 (dk_at dksX0_letters_5 17 rfl rfl)
theorem dX0_letters_134 : decode cX0_letters 134 = .ok (.iadd, 1) := dk_96 (dk_at dksX0_letters_5 18 rfl rfl)
theorem dX0_letters_135 : decode cX0_letters 135 = .ok (.putfield 61, 3) := dk_181 0 61 (dk_at dksX0_letters_5 19 rfl rfl)
theorem dX0_letters_138 : decode cX0_letters 138 = .ok (.iinc 5 1, 3) := dk_132 5 1 (dk_at dksX0_letters_6 0 rfl rfl)
theorem dX0_letters_141 : decode cX0_letters 141 = .ok (.goto (-40), 3) := dk_167 255 216 (dk_at dksX0_letters_6 3 rfl rfl)
theorem dX0_letters_144 : decode cX0_letters 144 = .ok (.aload_n 0, 1) := dk_42 (dk_at dksX0_letters_6 6 rfl rfl)
theorem dX0_letters_145 : decode cX0_letters 145 = .ok (.getfield 61, 3) := dk_180 0 61 (dk_at dksX0_letters_6 7 rfl rfl)
theorem dX0_letters_148 : decode cX0_letters 148 = .ok (.ireturn, 1) := dk_172 (dk_at dksX0_letters_6 10 rfl rfl)
abbrev cX0_blank : ByteArray := prog_1_method_6_code
def yX0_blank : MethodName := ⟨RX0, "blank", "()I"⟩
def dkwX0_blank_0 : List UInt8 := [42, 180, 0, 61, 60, 42, 3, 181, 0, 61, 27, 172]
abbrev dktX0_blank_0 : List UInt8 := dkwX0_blank_0 ++ []
theorem dksX0_blank_0 : cX0_blank.data.toList.drop 0 = dktX0_blank_0 := by decide +kernel
theorem dX0_blank_0 : decode cX0_blank 0 = .ok (.aload_n 0, 1) := dk_42 (dk_at dksX0_blank_0 0 rfl rfl)
theorem dX0_blank_1 : decode cX0_blank 1 = .ok (.getfield 61, 3) := dk_180 0 61 (dk_at dksX0_blank_0 1 rfl rfl)
theorem dX0_blank_4 : decode cX0_blank 4 = .ok (.istore_n 1, 1) := dk_60 (dk_at dksX0_blank_0 4 rfl rfl)
theorem dX0_blank_5 : decode cX0_blank 5 = .ok (.aload_n 0, 1) := dk_42 (dk_at dksX0_blank_0 5 rfl rfl)
theorem dX0_blank_6 : decode cX0_blank 6 = .ok (.iconst 0, 1) := dk_3 (dk_at dksX0_blank_0 6 rfl rfl)
theorem dX0_blank_7 : decode cX0_blank 7 = .ok (.putfield 61, 3) := dk_181 0 61 (dk_at dksX0_blank_0 7 rfl rfl)
theorem dX0_blank_10 : decode cX0_blank 10 = .ok (.iload_n 1, 1) := dk_27 (dk_at dksX0_blank_0 10 rfl rfl)
theorem dX0_blank_11 : decode cX0_blank 11 = .ok (.ireturn, 1) := dk_172 (dk_at dksX0_blank_0 11 rfl rfl)
abbrev cX0_fault : ByteArray := prog_1_method_8_code
def yX0_fault : MethodName := ⟨RX0, "fault", "()I"⟩
def dkwX0_fault_0 : List UInt8 := [42, 187, 0, 65, 89, 42, 180, 0, 70, 183, 0, 73, 182, 0, 76, 172]
abbrev dktX0_fault_0 : List UInt8 := dkwX0_fault_0 ++ []
theorem dksX0_fault_0 : cX0_fault.data.toList.drop 0 = dktX0_fault_0 := by decide +kernel
theorem dX0_fault_0 : decode cX0_fault 0 = .ok (.aload_n 0, 1) := dk_42 (dk_at dksX0_fault_0 0 rfl rfl)
theorem dX0_fault_1 : decode cX0_fault 1 = .ok (.new 65, 3) := dk_187 0 65 (dk_at dksX0_fault_0 1 rfl rfl)
theorem dX0_fault_4 : decode cX0_fault 4 = .ok (.dup, 1) := dk_89 (dk_at dksX0_fault_0 4 rfl rfl)
theorem dX0_fault_5 : decode cX0_fault 5 = .ok (.aload_n 0, 1) := dk_42 (dk_at dksX0_fault_0 5 rfl rfl)
theorem dX0_fault_6 : decode cX0_fault 6 = .ok (.getfield 70, 3) := dk_180 0 70 (dk_at dksX0_fault_0 6 rfl rfl)
theorem dX0_fault_9 : decode cX0_fault 9 = .ok (.invokespecial 73, 3) := dk_183 0 73 (dk_at dksX0_fault_0 9 rfl rfl)
theorem dX0_fault_12 : decode cX0_fault 12 = .ok (.invokevirtual 76, 3) := dk_182 0 76 (dk_at dksX0_fault_0 12 rfl rfl)
theorem dX0_fault_15 : decode cX0_fault 15 = .ok (.ireturn, 1) := dk_172 (dk_at dksX0_fault_0 15 rfl rfl)
abbrev cX0_goThrough : ByteArray := prog_1_method_7_code
def yX0_goThrough : MethodName := ⟨RX0, "goThrough", "(LTownOnWeight$Reader;)I"⟩
def dkwX0_goThrough_1 : List UInt8 := [132, 2, 1, 167, 255, 232, 28, 172]
abbrev dktX0_goThrough_1 : List UInt8 := dkwX0_goThrough_1 ++ []
def dkwX0_goThrough_0 : List UInt8 := [3, 61, 28, 42, 180, 0, 61, 162, 0, 22, 43, 42, 180, 0, 45, 28, 46, 182, 0, 64, 153, 0, 9]
abbrev dktX0_goThrough_0 : List UInt8 := dkwX0_goThrough_0 ++ dktX0_goThrough_1
theorem dksX0_goThrough_0 : cX0_goThrough.data.toList.drop 0 = dktX0_goThrough_0 := by decide +kernel
theorem dksX0_goThrough_1 : cX0_goThrough.data.toList.drop 23 = dktX0_goThrough_1 := dk_seg dksX0_goThrough_0 23 rfl rfl
theorem dX0_goThrough_0 : decode cX0_goThrough 0 = .ok (.iconst 0, 1) := dk_3 (dk_at dksX0_goThrough_0 0 rfl rfl)
theorem dX0_goThrough_1 : decode cX0_goThrough 1 = .ok (.istore_n 2, 1) := dk_61 (dk_at dksX0_goThrough_0 1 rfl rfl)
theorem dX0_goThrough_2 : decode cX0_goThrough 2 = .ok (.iload_n 2, 1) := dk_28 (dk_at dksX0_goThrough_0 2 rfl rfl)
theorem dX0_goThrough_3 : decode cX0_goThrough 3 = .ok (.aload_n 0, 1) := dk_42 (dk_at dksX0_goThrough_0 3 rfl rfl)
theorem dX0_goThrough_4 : decode cX0_goThrough 4 = .ok (.getfield 61, 3) := dk_180 0 61 (dk_at dksX0_goThrough_0 4 rfl rfl)
theorem dX0_goThrough_7 : decode cX0_goThrough 7 = .ok (.if_icmp .ge 22, 3) := dk_162 0 22 (dk_at dksX0_goThrough_0 7 rfl rfl)
theorem dX0_goThrough_10 : decode cX0_goThrough 10 = .ok (.aload_n 1, 1) := dk_43 (dk_at dksX0_goThrough_0 10 rfl rfl)
theorem dX0_goThrough_11 : decode cX0_goThrough 11 = .ok (.aload_n 0, 1) := dk_42 (dk_at dksX0_goThrough_0 11 rfl rfl)
theorem dX0_goThrough_12 : decode cX0_goThrough 12 = .ok (.getfield 45, 3) := dk_180 0 45 (dk_at dksX0_goThrough_0 12 rfl rfl)
theorem dX0_goThrough_15 : decode cX0_goThrough 15 = .ok (.iload_n 2, 1) := dk_28 (dk_at dksX0_goThrough_0 15 rfl rfl)
theorem dX0_goThrough_16 : decode cX0_goThrough 16 = .ok (.iaload, 1) := dk_46 (dk_at dksX0_goThrough_0 16 rfl rfl)
theorem dX0_goThrough_17 : decode cX0_goThrough 17 = .ok (.invokevirtual 64, 3) := dk_182 0 64 (dk_at dksX0_goThrough_0 17 rfl rfl)
theorem dX0_goThrough_20 : decode cX0_goThrough 20 = .ok (.ifCond .eq 9, 3) := dk_153 0 9 (dk_at dksX0_goThrough_0 20 rfl rfl)
theorem dX0_goThrough_23 : decode cX0_goThrough 23 = .ok (.iinc 2 1, 3) := dk_132 2 1 (dk_at dksX0_goThrough_1 0 rfl rfl)
theorem dX0_goThrough_26 : decode cX0_goThrough 26 = .ok (.goto (-24), 3) := dk_167 255 232 (dk_at dksX0_goThrough_1 3 rfl rfl)
theorem dX0_goThrough_29 : decode cX0_goThrough 29 = .ok (.iload_n 2, 1) := dk_28 (dk_at dksX0_goThrough_1 6 rfl rfl)
theorem dX0_goThrough_30 : decode cX0_goThrough 30 = .ok (.ireturn, 1) := dk_172 (dk_at dksX0_goThrough_1 7 rfl rfl)
abbrev cX0_isIn : ByteArray := prog_1_method_1_code
def yX0_isIn : MethodName := ⟨RX0, "isIn", "(JJJ)Z"⟩
def dkwX0_isIn_0 : List UInt8 := [30, 32, 148, 155, 0, 14, 30, 22, 4, 148, 157, 0, 7, 4, 167, 0, 4, 3, 172]
abbrev dktX0_isIn_0 : List UInt8 := dkwX0_isIn_0 ++ []
theorem dksX0_isIn_0 : cX0_isIn.data.toList.drop 0 = dktX0_isIn_0 := by decide +kernel
theorem dX0_isIn_0 : decode cX0_isIn 0 = .ok (.lload_n 0, 1) := dk_30 (dk_at dksX0_isIn_0 0 rfl rfl)
theorem dX0_isIn_1 : decode cX0_isIn 1 = .ok (.lload_n 2, 1) := dk_32 (dk_at dksX0_isIn_0 1 rfl rfl)
theorem dX0_isIn_2 : decode cX0_isIn 2 = .ok (.lcmp, 1) := dk_148 (dk_at dksX0_isIn_0 2 rfl rfl)
theorem dX0_isIn_3 : decode cX0_isIn 3 = .ok (.ifCond .lt 14, 3) := dk_155 0 14 (dk_at dksX0_isIn_0 3 rfl rfl)
theorem dX0_isIn_6 : decode cX0_isIn 6 = .ok (.lload_n 0, 1) := dk_30 (dk_at dksX0_isIn_0 6 rfl rfl)
theorem dX0_isIn_7 : decode cX0_isIn 7 = .ok (.lload 4, 2) := dk_22 4 (dk_at dksX0_isIn_0 7 rfl rfl)
theorem dX0_isIn_9 : decode cX0_isIn 9 = .ok (.lcmp, 1) := dk_148 (dk_at dksX0_isIn_0 9 rfl rfl)
theorem dX0_isIn_10 : decode cX0_isIn 10 = .ok (.ifCond .gt 7, 3) := dk_157 0 7 (dk_at dksX0_isIn_0 10 rfl rfl)
theorem dX0_isIn_13 : decode cX0_isIn 13 = .ok (.iconst 1, 1) := dk_4 (dk_at dksX0_isIn_0 13 rfl rfl)
theorem dX0_isIn_14 : decode cX0_isIn 14 = .ok (.goto 4, 3) := dk_167 0 4 (dk_at dksX0_isIn_0 14 rfl rfl)
theorem dX0_isIn_17 : decode cX0_isIn 17 = .ok (.iconst 0, 1) := dk_3 (dk_at dksX0_isIn_0 17 rfl rfl)
theorem dX0_isIn_18 : decode cX0_isIn 18 = .ok (.ireturn, 1) := dk_172 (dk_at dksX0_isIn_0 18 rfl rfl)
abbrev cX0_house : ByteArray := prog_1_method_9_code
def yX0_house : MethodName := ⟨RX0, "house", "()I"⟩
def dkwX0_house_7 : List UInt8 := [4, 100, 172]
abbrev dktX0_house_7 : List UInt8 := dkwX0_house_7 ++ []
def dkwX0_house_6 : List UInt8 := [130, 126, 181, 0, 114, 42, 89, 180, 0, 70, 4, 96, 181, 0, 70, 42, 3, 181, 0, 61, 42, 180, 0, 70]
abbrev dktX0_house_6 : List UInt8 := dkwX0_house_6 ++ dktX0_house_7
def dkwX0_house_5 : List UInt8 := [180, 0, 111, 42, 180, 0, 70, 3, 79, 42, 180, 0, 35, 89, 180, 0, 114, 4, 42, 180, 0, 70, 120, 2]
abbrev dktX0_house_5 : List UInt8 := dkwX0_house_5 ++ dktX0_house_6
def dkwX0_house_4 : List UInt8 := [180, 0, 24, 42, 180, 0, 70, 44, 83, 42, 180, 0, 28, 42, 180, 0, 70, 3, 79, 42, 180, 0, 35]
abbrev dktX0_house_4 : List UInt8 := dkwX0_house_4 ++ dktX0_house_5
def dkwX0_house_3 : List UInt8 := [44, 43, 180, 0, 97, 181, 0, 100, 43, 180, 0, 101, 3, 44, 180, 0, 104, 3, 7, 184, 0, 105, 42]
abbrev dktX0_house_3 : List UInt8 := dkwX0_house_3 ++ dktX0_house_4
def dkwX0_house_2 : List UInt8 := [16, 8, 160, 0, 6, 16, 152, 172, 43, 180, 0, 87, 184, 0, 90, 77, 44, 42, 180, 0, 70, 181, 0, 94]
abbrev dktX0_house_2 : List UInt8 := dkwX0_house_2 ++ dktX0_house_3
def dkwX0_house_1 : List UInt8 := [43, 182, 0, 80, 153, 0, 13, 42, 180, 0, 35, 180, 0, 84, 158, 0, 6, 16, 153, 172, 42, 180, 0, 70]
abbrev dktX0_house_1 : List UInt8 := dkwX0_house_1 ++ dktX0_house_2
def dkwX0_house_0 : List UInt8 := [187, 0, 65, 89, 42, 180, 0, 70, 183, 0, 73, 76, 42, 43, 182, 0, 76, 42, 180, 0, 61, 161, 0, 20]
abbrev dktX0_house_0 : List UInt8 := dkwX0_house_0 ++ dktX0_house_1
theorem dksX0_house_0 : cX0_house.data.toList.drop 0 = dktX0_house_0 := by decide +kernel
theorem dksX0_house_1 : cX0_house.data.toList.drop 24 = dktX0_house_1 := dk_seg dksX0_house_0 24 rfl rfl
theorem dksX0_house_2 : cX0_house.data.toList.drop 48 = dktX0_house_2 := dk_seg dksX0_house_1 24 rfl rfl
theorem dksX0_house_3 : cX0_house.data.toList.drop 72 = dktX0_house_3 := dk_seg dksX0_house_2 24 rfl rfl
theorem dksX0_house_4 : cX0_house.data.toList.drop 95 = dktX0_house_4 := dk_seg dksX0_house_3 23 rfl rfl
theorem dksX0_house_5 : cX0_house.data.toList.drop 118 = dktX0_house_5 := dk_seg dksX0_house_4 23 rfl rfl
theorem dksX0_house_6 : cX0_house.data.toList.drop 142 = dktX0_house_6 := dk_seg dksX0_house_5 24 rfl rfl
theorem dksX0_house_7 : cX0_house.data.toList.drop 166 = dktX0_house_7 := dk_seg dksX0_house_6 24 rfl rfl
theorem dX0_house_0 : decode cX0_house 0 = .ok (.new 65, 3) := dk_187 0 65 (dk_at dksX0_house_0 0 rfl rfl)
theorem dX0_house_3 : decode cX0_house 3 = .ok (.dup, 1) := dk_89 (dk_at dksX0_house_0 3 rfl rfl)
theorem dX0_house_4 : decode cX0_house 4 = .ok (.aload_n 0, 1) := dk_42 (dk_at dksX0_house_0 4 rfl rfl)
theorem dX0_house_5 : decode cX0_house 5 = .ok (.getfield 70, 3) := dk_180 0 70 (dk_at dksX0_house_0 5 rfl rfl)
theorem dX0_house_8 : decode cX0_house 8 = .ok (.invokespecial 73, 3) := dk_183 0 73 (dk_at dksX0_house_0 8 rfl rfl)
theorem dX0_house_11 : decode cX0_house 11 = .ok (.astore_n 1, 1) := dk_76 (dk_at dksX0_house_0 11 rfl rfl)
theorem dX0_house_12 : decode cX0_house 12 = .ok (.aload_n 0, 1) := dk_42 (dk_at dksX0_house_0 12 rfl rfl)
theorem dX0_house_13 : decode cX0_house 13 = .ok (.aload_n 1, 1) := dk_43 (dk_at dksX0_house_0 13 rfl rfl)
theorem dX0_house_14 : decode cX0_house 14 = .ok (.invokevirtual 76, 3) := dk_182 0 76 (dk_at dksX0_house_0 14 rfl rfl)
theorem dX0_house_17 : decode cX0_house 17 = .ok (.aload_n 0, 1) := dk_42 (dk_at dksX0_house_0 17 rfl rfl)
theorem dX0_house_18 : decode cX0_house 18 = .ok (.getfield 61, 3) := dk_180 0 61 (dk_at dksX0_house_0 18 rfl rfl)
theorem dX0_house_21 : decode cX0_house 21 = .ok (.if_icmp .lt 20, 3) := dk_161 0 20 (dk_at dksX0_house_0 21 rfl rfl)
theorem dX0_house_24 : decode cX0_house 24 = .ok (.aload_n 1, 1) := dk_43 (dk_at dksX0_house_1 0 rfl rfl)
theorem dX0_house_25 : decode cX0_house 25 = .ok (.invokevirtual 80, 3) := dk_182 0 80 (dk_at dksX0_house_1 1 rfl rfl)
theorem dX0_house_28 : decode cX0_house 28 = .ok (.ifCond .eq 13, 3) := dk_153 0 13 (dk_at dksX0_house_1 4 rfl rfl)
theorem dX0_house_31 : decode cX0_house 31 = .ok (.aload_n 0, 1) := dk_42 (dk_at dksX0_house_1 7 rfl rfl)
theorem dX0_house_32 : decode cX0_house 32 = .ok (.getfield 35, 3) := dk_180 0 35 (dk_at dksX0_house_1 8 rfl rfl)
theorem dX0_house_35 : decode cX0_house 35 = .ok (.getfield 84, 3) := dk_180 0 84 (dk_at dksX0_house_1 11 rfl rfl)
theorem dX0_house_38 : decode cX0_house 38 = .ok (.ifCond .le 6, 3) := dk_158 0 6 (dk_at dksX0_house_1 14 rfl rfl)
theorem dX0_house_41 : decode cX0_house 41 = .ok (.bipush (-103), 2) := dk_16 153 (dk_at dksX0_house_1 17 rfl rfl)
theorem dX0_house_43 : decode cX0_house 43 = .ok (.ireturn, 1) := dk_172 (dk_at dksX0_house_1 19 rfl rfl)
theorem dX0_house_44 : decode cX0_house 44 = .ok (.aload_n 0, 1) := dk_42 (dk_at dksX0_house_1 20 rfl rfl)
theorem dX0_house_45 : decode cX0_house 45 = .ok (.getfield 70, 3) := dk_180 0 70 (dk_at dksX0_house_1 21 rfl rfl)
theorem dX0_house_48 : decode cX0_house 48 = .ok (.bipush 8, 2) := dk_16 8 (dk_at dksX0_house_2 0 rfl rfl)
theorem dX0_house_50 : decode cX0_house 50 = .ok (.if_icmp .ne 6, 3) := dk_160 0 6 (dk_at dksX0_house_2 2 rfl rfl)
theorem dX0_house_53 : decode cX0_house 53 = .ok (.bipush (-104), 2) := dk_16 152 (dk_at dksX0_house_2 5 rfl rfl)
theorem dX0_house_55 : decode cX0_house 55 = .ok (.ireturn, 1) := dk_172 (dk_at dksX0_house_2 7 rfl rfl)
theorem dX0_house_56 : decode cX0_house 56 = .ok (.aload_n 1, 1) := dk_43 (dk_at dksX0_house_2 8 rfl rfl)
theorem dX0_house_57 : decode cX0_house 57 = .ok (.getfield 87, 3) := dk_180 0 87 (dk_at dksX0_house_2 9 rfl rfl)
theorem dX0_house_60 : decode cX0_house 60 = .ok (.invokestatic 90, 3) := dk_184 0 90 (dk_at dksX0_house_2 12 rfl rfl)
theorem dX0_house_63 : decode cX0_house 63 = .ok (.astore_n 2, 1) := dk_77 (dk_at dksX0_house_2 15 rfl rfl)
theorem dX0_house_64 : decode cX0_house 64 = .ok (.aload_n 2, 1) := dk_44 (dk_at dksX0_house_2 16 rfl rfl)
theorem dX0_house_65 : decode cX0_house 65 = .ok (.aload_n 0, 1) := dk_42 (dk_at dksX0_house_2 17 rfl rfl)
theorem dX0_house_66 : decode cX0_house 66 = .ok (.getfield 70, 3) := dk_180 0 70 (dk_at dksX0_house_2 18 rfl rfl)
theorem dX0_house_69 : decode cX0_house 69 = .ok (.putfield 94, 3) := dk_181 0 94 (dk_at dksX0_house_2 21 rfl rfl)
theorem dX0_house_72 : decode cX0_house 72 = .ok (.aload_n 2, 1) := dk_44 (dk_at dksX0_house_3 0 rfl rfl)
theorem dX0_house_73 : decode cX0_house 73 = .ok (.aload_n 1, 1) := dk_43 (dk_at dksX0_house_3 1 rfl rfl)
theorem dX0_house_74 : decode cX0_house 74 = .ok (.getfield 97, 3) := dk_180 0 97 (dk_at dksX0_house_3 2 rfl rfl)
theorem dX0_house_77 : decode cX0_house 77 = .ok (.putfield 100, 3) := dk_181 0 100 (dk_at dksX0_house_3 5 rfl rfl)
theorem dX0_house_80 : decode cX0_house 80 = .ok (.aload_n 1, 1) := dk_43 (dk_at dksX0_house_3 8 rfl rfl)
theorem dX0_house_81 : decode cX0_house 81 = .ok (.getfield 101, 3) := dk_180 0 101 (dk_at dksX0_house_3 9 rfl rfl)
theorem dX0_house_84 : decode cX0_house 84 = .ok (.iconst 0, 1) := dk_3 (dk_at dksX0_house_3 12 rfl rfl)
theorem dX0_house_85 : decode cX0_house 85 = .ok (.aload_n 2, 1) := dk_44 (dk_at dksX0_house_3 13 rfl rfl)
theorem dX0_house_86 : decode cX0_house 86 = .ok (.getfield 104, 3) := dk_180 0 104 (dk_at dksX0_house_3 14 rfl rfl)
theorem dX0_house_89 : decode cX0_house 89 = .ok (.iconst 0, 1) := dk_3 (dk_at dksX0_house_3 17 rfl rfl)
theorem dX0_house_90 : decode cX0_house 90 = .ok (.iconst 4, 1) := dk_7 (dk_at dksX0_house_3 18 rfl rfl)
theorem dX0_house_91 : decode cX0_house 91 = .ok (.invokestatic 105, 3) := dk_184 0 105 (dk_at dksX0_house_3 19 rfl rfl)
theorem dX0_house_94 : decode cX0_house 94 = .ok (.aload_n 0, 1) := dk_42 (dk_at dksX0_house_3 22 rfl rfl)
theorem dX0_house_95 : decode cX0_house 95 = .ok (.getfield 24, 3) := dk_180 0 24 (dk_at dksX0_house_4 0 rfl rfl)
theorem dX0_house_98 : decode cX0_house 98 = .ok (.aload_n 0, 1) := dk_42 (dk_at dksX0_house_4 3 rfl rfl)
theorem dX0_house_99 : decode cX0_house 99 = .ok (.getfield 70, 3) := dk_180 0 70 (dk_at dksX0_house_4 4 rfl rfl)
theorem dX0_house_102 : decode cX0_house 102 = .ok (.aload_n 2, 1) := dk_44 (dk_at dksX0_house_4 7 rfl rfl)
theorem dX0_house_103 : decode cX0_house 103 = .ok (.aastore, 1) := dk_83 (dk_at dksX0_house_4 8 rfl rfl)
theorem dX0_house_104 : decode cX0_house 104 = .ok (.aload_n 0, 1) := dk_42 (dk_at dksX0_house_4 9 rfl rfl)
theorem dX0_house_105 : decode cX0_house 105 = .ok (.getfield 28, 3) := dk_180 0 28 (dk_at dksX0_house_4 10 rfl rfl)
theorem dX0_house_108 : decode cX0_house 108 = .ok (.aload_n 0, 1) := dk_42 (dk_at dksX0_house_4 13 rfl rfl)
theorem dX0_house_109 : decode cX0_house 109 = .ok (.getfield 70, 3) := dk_180 0 70 (dk_at dksX0_house_4 14 rfl rfl)
theorem dX0_house_112 : decode cX0_house 112 = .ok (.iconst 0, 1) := dk_3 (dk_at dksX0_house_4 17 rfl rfl)
theorem dX0_house_113 : decode cX0_house 113 = .ok (.iastore, 1) := dk_79 (dk_at dksX0_house_4 18 rfl rfl)
theorem dX0_house_114 : decode cX0_house 114 = .ok (.aload_n 0, 1) := dk_42 (dk_at dksX0_house_4 19 rfl rfl)
theorem dX0_house_115 : decode cX0_house 115 = .ok (.getfield 35, 3) := dk_180 0 35 (dk_at dksX0_house_4 20 rfl rfl)
theorem dX0_house_118 : decode cX0_house 118 = .ok (.getfield 111, 3) := dk_180 0 111 (dk_at dksX0_house_5 0 rfl rfl)
theorem dX0_house_121 : decode cX0_house 121 = .ok (.aload_n 0, 1) := dk_42 (dk_at dksX0_house_5 3 rfl rfl)
theorem dX0_house_122 : decode cX0_house 122 = .ok (.getfield 70, 3) := dk_180 0 70 (dk_at dksX0_house_5 4 rfl rfl)
theorem dX0_house_125 : decode cX0_house 125 = .ok (.iconst 0, 1) := dk_3 (dk_at dksX0_house_5 7 rfl rfl)
theorem dX0_house_126 : decode cX0_house 126 = .ok (.iastore, 1) := dk_79 (dk_at dksX0_house_5 8 rfl rfl)
theorem dX0_house_127 : decode cX0_house 127 = .ok (.aload_n 0, 1) := dk_42 (dk_at dksX0_house_5 9 rfl rfl)
theorem dX0_house_128 : decode cX0_house 128 = .ok (.getfield 35, 3) := dk_180 0 35 (dk_at dksX0_house_5 10 rfl rfl)
theorem dX0_house_131 : decode cX0_house 131 = .ok (.dup, 1) := dk_89 (dk_at dksX0_house_5 13 rfl rfl)
theorem dX0_house_132 : decode cX0_house 132 = .ok (.getfield 114, 3) := dk_180 0 114 (dk_at dksX0_house_5 14 rfl rfl)
theorem dX0_house_135 : decode cX0_house 135 = .ok (.iconst 1, 1) := dk_4 (dk_at dksX0_house_5 17 rfl rfl)
theorem dX0_house_136 : decode cX0_house 136 = .ok (.aload_n 0, 1) := dk_42 (dk_at dksX0_house_5 18 rfl rfl)
theorem dX0_house_137 : decode cX0_house 137 = .ok (.getfield 70, 3) := dk_180 0 70 (dk_at dksX0_house_5 19 rfl rfl)
theorem dX0_house_140 : decode cX0_house 140 = .ok (.ishl, 1) := dk_120 (dk_at dksX0_house_5 22 rfl rfl)
theorem dX0_house_141 : decode cX0_house 141 = .ok (.iconst (-1), 1) := dk_2 (dk_at dksX0_house_5 23 rfl rfl)
theorem dX0_house_142 : decode cX0_house 142 = .ok (.ixor, 1) := dk_130 (dk_at dksX0_house_6 0 rfl rfl)
theorem dX0_house_143 : decode cX0_house 143 = .ok (.iand, 1) := dk_126 (dk_at dksX0_house_6 1 rfl rfl)
theorem dX0_house_144 : decode cX0_house 144 = .ok (.putfield 114, 3) := dk_181 0 114 (dk_at dksX0_house_6 2 rfl rfl)
theorem dX0_house_147 : decode cX0_house 147 = .ok (.aload_n 0, 1) := dk_42 (dk_at dksX0_house_6 5 rfl rfl)
theorem dX0_house_148 : decode cX0_house 148 = .ok (.dup, 1) := dk_89 (dk_at dksX0_house_6 6 rfl rfl)
theorem dX0_house_149 : decode cX0_house 149 = .ok (.getfield 70, 3) := dk_180 0 70 (dk_at dksX0_house_6 7 rfl rfl)
theorem dX0_house_152 : decode cX0_house 152 = .ok (.iconst 1, 1) := dk_4 (dk_at dksX0_house_6 10 rfl rfl)
theorem dX0_house_153 : decode cX0_house 153 = .ok (.iadd, 1) := dk_96 (dk_at dksX0_house_6 11 rfl rfl)
theorem dX0_house_154 : decode cX0_house 154 = .ok (.putfield 70, 3) := dk_181 0 70 (dk_at dksX0_house_6 12 rfl rfl)
theorem dX0_house_157 : decode cX0_house 157 = .ok (.aload_n 0, 1) := dk_42 (dk_at dksX0_house_6 15 rfl rfl)
theorem dX0_house_158 : decode cX0_house 158 = .ok (.iconst 0, 1) := dk_3 (dk_at dksX0_house_6 16 rfl rfl)
theorem dX0_house_159 : decode cX0_house 159 = .ok (.putfield 61, 3) := dk_181 0 61 (dk_at dksX0_house_6 17 rfl rfl)
theorem dX0_house_162 : decode cX0_house 162 = .ok (.aload_n 0, 1) := dk_42 (dk_at dksX0_house_6 20 rfl rfl)
theorem dX0_house_163 : decode cX0_house 163 = .ok (.getfield 70, 3) := dk_180 0 70 (dk_at dksX0_house_6 21 rfl rfl)
theorem dX0_house_166 : decode cX0_house 166 = .ok (.iconst 1, 1) := dk_4 (dk_at dksX0_house_7 0 rfl rfl)
theorem dX0_house_167 : decode cX0_house 167 = .ok (.isub, 1) := dk_100 (dk_at dksX0_house_7 1 rfl rfl)
theorem dX0_house_168 : decode cX0_house 168 = .ok (.ireturn, 1) := dk_172 (dk_at dksX0_house_7 2 rfl rfl)
abbrev cX0_made : ByteArray := prog_1_method_3_code
def yX0_made : MethodName := ⟨RX0, "made", "(I)LTownOnWeight$House;"⟩
def dkwX0_made_3 : List UInt8 := [187, 0, 13, 89, 183, 0, 15, 176, 187, 0, 16, 89, 183, 0, 18, 176]
abbrev dktX0_made_3 : List UInt8 := dkwX0_made_3 ++ []
def dkwX0_made_2 : List UInt8 := [187, 0, 1, 89, 183, 0, 3, 176, 187, 0, 7, 89, 183, 0, 9, 176, 187, 0, 10, 89, 183, 0, 12, 176]
abbrev dktX0_made_2 : List UInt8 := dkwX0_made_2 ++ dktX0_made_3
def dkwX0_made_1 : List UInt8 := [170, 0, 0, 0, 0, 0, 63, 0, 0, 0, 0, 0, 0, 0, 3, 0, 0, 0, 31, 0, 0, 0, 39, 0, 0, 0, 47, 0, 0, 0, 55]
abbrev dktX0_made_1 : List UInt8 := dkwX0_made_1 ++ dktX0_made_2
def dkwX0_made_0 : List UInt8 := [26]
abbrev dktX0_made_0 : List UInt8 := dkwX0_made_0 ++ dktX0_made_1
theorem dksX0_made_0 : cX0_made.data.toList.drop 0 = dktX0_made_0 := by decide +kernel
theorem dksX0_made_1 : cX0_made.data.toList.drop 1 = dktX0_made_1 := dk_seg dksX0_made_0 1 rfl rfl
theorem dksX0_made_2 : cX0_made.data.toList.drop 32 = dktX0_made_2 := dk_seg dksX0_made_1 31 rfl rfl
theorem dksX0_made_3 : cX0_made.data.toList.drop 56 = dktX0_made_3 := dk_seg dksX0_made_2 24 rfl rfl
theorem dX0_made_0 : decode cX0_made 0 = .ok (.iload_n 0, 1) := dk_26 (dk_at dksX0_made_0 0 rfl rfl)
theorem dX0_made_1 : decode cX0_made 1 = .ok (.tableswitch 63 0 3 #[31, 39, 47, 55], 31) := by decide +kernel
theorem dX0_made_32 : decode cX0_made 32 = .ok (.new 1, 3) := dk_187 0 1 (dk_at dksX0_made_2 0 rfl rfl)
theorem dX0_made_35 : decode cX0_made 35 = .ok (.dup, 1) := dk_89 (dk_at dksX0_made_2 3 rfl rfl)
theorem dX0_made_36 : decode cX0_made 36 = .ok (.invokespecial 3, 3) := dk_183 0 3 (dk_at dksX0_made_2 4 rfl rfl)
theorem dX0_made_39 : decode cX0_made 39 = .ok (.areturn, 1) := dk_176 (dk_at dksX0_made_2 7 rfl rfl)
theorem dX0_made_40 : decode cX0_made 40 = .ok (.new 7, 3) := dk_187 0 7 (dk_at dksX0_made_2 8 rfl rfl)
theorem dX0_made_43 : decode cX0_made 43 = .ok (.dup, 1) := dk_89 (dk_at dksX0_made_2 11 rfl rfl)
theorem dX0_made_44 : decode cX0_made 44 = .ok (.invokespecial 9, 3) := dk_183 0 9 (dk_at dksX0_made_2 12 rfl rfl)
theorem dX0_made_47 : decode cX0_made 47 = .ok (.areturn, 1) := dk_176 (dk_at dksX0_made_2 15 rfl rfl)
theorem dX0_made_48 : decode cX0_made 48 = .ok (.new 10, 3) := dk_187 0 10 (dk_at dksX0_made_2 16 rfl rfl)
theorem dX0_made_51 : decode cX0_made 51 = .ok (.dup, 1) := dk_89 (dk_at dksX0_made_2 19 rfl rfl)
theorem dX0_made_52 : decode cX0_made 52 = .ok (.invokespecial 12, 3) := dk_183 0 12 (dk_at dksX0_made_2 20 rfl rfl)
theorem dX0_made_55 : decode cX0_made 55 = .ok (.areturn, 1) := dk_176 (dk_at dksX0_made_2 23 rfl rfl)
theorem dX0_made_56 : decode cX0_made 56 = .ok (.new 13, 3) := dk_187 0 13 (dk_at dksX0_made_3 0 rfl rfl)
theorem dX0_made_59 : decode cX0_made 59 = .ok (.dup, 1) := dk_89 (dk_at dksX0_made_3 3 rfl rfl)
theorem dX0_made_60 : decode cX0_made 60 = .ok (.invokespecial 15, 3) := dk_183 0 15 (dk_at dksX0_made_3 4 rfl rfl)
theorem dX0_made_63 : decode cX0_made 63 = .ok (.areturn, 1) := dk_176 (dk_at dksX0_made_3 7 rfl rfl)
theorem dX0_made_64 : decode cX0_made 64 = .ok (.new 16, 3) := dk_187 0 16 (dk_at dksX0_made_3 8 rfl rfl)
theorem dX0_made_67 : decode cX0_made 67 = .ok (.dup, 1) := dk_89 (dk_at dksX0_made_3 11 rfl rfl)
theorem dX0_made_68 : decode cX0_made 68 = .ok (.invokespecial 18, 3) := dk_183 0 18 (dk_at dksX0_made_3 12 rfl rfl)
theorem dX0_made_71 : decode cX0_made 71 = .ok (.areturn, 1) := dk_176 (dk_at dksX0_made_3 15 rfl rfl)
abbrev cX0_about : ByteArray := prog_1_method_13_code
def yX0_about : MethodName := ⟨RX0, "about", "(II)I"⟩
def dkwX0_about_0 : List UInt8 := [42, 27, 182, 0, 128, 153, 0, 12, 42, 27, 28, 182, 0, 131, 167, 0, 5, 16, 155, 172]
abbrev dktX0_about_0 : List UInt8 := dkwX0_about_0 ++ []
theorem dksX0_about_0 : cX0_about.data.toList.drop 0 = dktX0_about_0 := by decide +kernel
theorem dX0_about_0 : decode cX0_about 0 = .ok (.aload_n 0, 1) := dk_42 (dk_at dksX0_about_0 0 rfl rfl)
theorem dX0_about_1 : decode cX0_about 1 = .ok (.iload_n 1, 1) := dk_27 (dk_at dksX0_about_0 1 rfl rfl)
theorem dX0_about_2 : decode cX0_about 2 = .ok (.invokevirtual 128, 3) := dk_182 0 128 (dk_at dksX0_about_0 2 rfl rfl)
theorem dX0_about_5 : decode cX0_about 5 = .ok (.ifCond .eq 12, 3) := dk_153 0 12 (dk_at dksX0_about_0 5 rfl rfl)
theorem dX0_about_8 : decode cX0_about 8 = .ok (.aload_n 0, 1) := dk_42 (dk_at dksX0_about_0 8 rfl rfl)
theorem dX0_about_9 : decode cX0_about 9 = .ok (.iload_n 1, 1) := dk_27 (dk_at dksX0_about_0 9 rfl rfl)
theorem dX0_about_10 : decode cX0_about 10 = .ok (.iload_n 2, 1) := dk_28 (dk_at dksX0_about_0 10 rfl rfl)
theorem dX0_about_11 : decode cX0_about 11 = .ok (.invokevirtual 131, 3) := dk_182 0 131 (dk_at dksX0_about_0 11 rfl rfl)
theorem dX0_about_14 : decode cX0_about 14 = .ok (.goto 5, 3) := dk_167 0 5 (dk_at dksX0_about_0 14 rfl rfl)
theorem dX0_about_17 : decode cX0_about 17 = .ok (.bipush (-101), 2) := dk_16 155 (dk_at dksX0_about_0 17 rfl rfl)
theorem dX0_about_19 : decode cX0_about 19 = .ok (.ireturn, 1) := dk_172 (dk_at dksX0_about_0 19 rfl rfl)
abbrev cX0_isHouse : ByteArray := prog_1_method_10_code
def yX0_isHouse : MethodName := ⟨RX0, "isHouse", "(I)Z"⟩
def dkwX0_isHouse_0 : List UInt8 := [27, 133, 9, 42, 180, 0, 70, 4, 100, 133, 184, 0, 117, 172]
abbrev dktX0_isHouse_0 : List UInt8 := dkwX0_isHouse_0 ++ []
theorem dksX0_isHouse_0 : cX0_isHouse.data.toList.drop 0 = dktX0_isHouse_0 := by decide +kernel
theorem dX0_isHouse_0 : decode cX0_isHouse 0 = .ok (.iload_n 1, 1) := dk_27 (dk_at dksX0_isHouse_0 0 rfl rfl)
theorem dX0_isHouse_1 : decode cX0_isHouse 1 = .ok (.i2l, 1) := dk_133 (dk_at dksX0_isHouse_0 1 rfl rfl)
theorem dX0_isHouse_2 : decode cX0_isHouse 2 = .ok (.lconst 0, 1) := dk_9 (dk_at dksX0_isHouse_0 2 rfl rfl)
theorem dX0_isHouse_3 : decode cX0_isHouse 3 = .ok (.aload_n 0, 1) := dk_42 (dk_at dksX0_isHouse_0 3 rfl rfl)
theorem dX0_isHouse_4 : decode cX0_isHouse 4 = .ok (.getfield 70, 3) := dk_180 0 70 (dk_at dksX0_isHouse_0 4 rfl rfl)
theorem dX0_isHouse_7 : decode cX0_isHouse 7 = .ok (.iconst 1, 1) := dk_4 (dk_at dksX0_isHouse_0 7 rfl rfl)
theorem dX0_isHouse_8 : decode cX0_isHouse 8 = .ok (.isub, 1) := dk_100 (dk_at dksX0_isHouse_0 8 rfl rfl)
theorem dX0_isHouse_9 : decode cX0_isHouse 9 = .ok (.i2l, 1) := dk_133 (dk_at dksX0_isHouse_0 9 rfl rfl)
theorem dX0_isHouse_10 : decode cX0_isHouse 10 = .ok (.invokestatic 117, 3) := dk_184 0 117 (dk_at dksX0_isHouse_0 10 rfl rfl)
theorem dX0_isHouse_13 : decode cX0_isHouse 13 = .ok (.ireturn, 1) := dk_172 (dk_at dksX0_isHouse_0 13 rfl rfl)
abbrev cX0_aboutOf : ByteArray := prog_1_method_12_code
def yX0_aboutOf : MethodName := ⟨RX0, "aboutOf", "(II)I"⟩
def dkwX0_aboutOf_5 : List UInt8 := [16, 154, 172]
abbrev dktX0_aboutOf_5 : List UInt8 := dkwX0_aboutOf_5 ++ []
def dkwX0_aboutOf_4 : List UInt8 := [27, 46, 172, 42, 180, 0, 35, 180, 0, 114, 27, 184, 0, 124, 153, 0, 7, 4, 167, 0, 4, 3, 172]
abbrev dktX0_aboutOf_4 : List UInt8 := dkwX0_aboutOf_4 ++ dktX0_aboutOf_5
def dkwX0_aboutOf_3 : List UInt8 := [27, 50, 180, 0, 104, 28, 5, 100, 46, 172, 42, 180, 0, 35, 180, 0, 111, 27, 46, 172, 42, 180, 0, 28]
abbrev dktX0_aboutOf_3 : List UInt8 := dkwX0_aboutOf_3 ++ dktX0_aboutOf_4
def dkwX0_aboutOf_2 : List UInt8 := [42, 180, 0, 24, 27, 50, 182, 0, 121, 172, 42, 180, 0, 24, 27, 50, 180, 0, 100, 172, 42, 180, 0, 24]
abbrev dktX0_aboutOf_2 : List UInt8 := dkwX0_aboutOf_2 ++ dktX0_aboutOf_3
def dkwX0_aboutOf_1 : List UInt8 := [170, 0, 0, 0, 0, 0, 122, 0, 0, 0, 0, 0, 0, 0, 8, 0, 0, 0, 51, 0, 0, 0, 61, 0, 0, 0, 71, 0, 0, 0, 71, 0, 0, 0, 71, 0, 0, 0, 71, 0, 0, 0, 85, 0, 0, 0, 95, 0, 0, 0, 102]
abbrev dktX0_aboutOf_1 : List UInt8 := dkwX0_aboutOf_1 ++ dktX0_aboutOf_2
def dkwX0_aboutOf_0 : List UInt8 := [28]
abbrev dktX0_aboutOf_0 : List UInt8 := dkwX0_aboutOf_0 ++ dktX0_aboutOf_1
theorem dksX0_aboutOf_0 : cX0_aboutOf.data.toList.drop 0 = dktX0_aboutOf_0 := by decide +kernel
theorem dksX0_aboutOf_1 : cX0_aboutOf.data.toList.drop 1 = dktX0_aboutOf_1 := dk_seg dksX0_aboutOf_0 1 rfl rfl
theorem dksX0_aboutOf_2 : cX0_aboutOf.data.toList.drop 52 = dktX0_aboutOf_2 := dk_seg dksX0_aboutOf_1 51 rfl rfl
theorem dksX0_aboutOf_3 : cX0_aboutOf.data.toList.drop 76 = dktX0_aboutOf_3 := dk_seg dksX0_aboutOf_2 24 rfl rfl
theorem dksX0_aboutOf_4 : cX0_aboutOf.data.toList.drop 100 = dktX0_aboutOf_4 := dk_seg dksX0_aboutOf_3 24 rfl rfl
theorem dksX0_aboutOf_5 : cX0_aboutOf.data.toList.drop 123 = dktX0_aboutOf_5 := dk_seg dksX0_aboutOf_4 23 rfl rfl
theorem dX0_aboutOf_0 : decode cX0_aboutOf 0 = .ok (.iload_n 2, 1) := dk_28 (dk_at dksX0_aboutOf_0 0 rfl rfl)
theorem dX0_aboutOf_1 : decode cX0_aboutOf 1 = .ok (.tableswitch 122 0 8 #[51, 61, 71, 71, 71, 71, 85, 95, 102], 51) := by decide +kernel
theorem dX0_aboutOf_52 : decode cX0_aboutOf 52 = .ok (.aload_n 0, 1) := dk_42 (dk_at dksX0_aboutOf_2 0 rfl rfl)
theorem dX0_aboutOf_53 : decode cX0_aboutOf 53 = .ok (.getfield 24, 3) := dk_180 0 24 (dk_at dksX0_aboutOf_2 1 rfl rfl)
theorem dX0_aboutOf_56 : decode cX0_aboutOf 56 = .ok (.iload_n 1, 1) := dk_27 (dk_at dksX0_aboutOf_2 4 rfl rfl)
theorem dX0_aboutOf_57 : decode cX0_aboutOf 57 = .ok (.aaload, 1) := dk_50 (dk_at dksX0_aboutOf_2 5 rfl rfl)
theorem dX0_aboutOf_58 : decode cX0_aboutOf 58 = .ok (.invokevirtual 121, 3) := dk_182 0 121 (dk_at dksX0_aboutOf_2 6 rfl rfl)
theorem dX0_aboutOf_61 : decode cX0_aboutOf 61 = .ok (.ireturn, 1) := dk_172 (dk_at dksX0_aboutOf_2 9 rfl rfl)
theorem dX0_aboutOf_62 : decode cX0_aboutOf 62 = .ok (.aload_n 0, 1) := dk_42 (dk_at dksX0_aboutOf_2 10 rfl rfl)
theorem dX0_aboutOf_63 : decode cX0_aboutOf 63 = .ok (.getfield 24, 3) := dk_180 0 24 (dk_at dksX0_aboutOf_2 11 rfl rfl)
theorem dX0_aboutOf_66 : decode cX0_aboutOf 66 = .ok (.iload_n 1, 1) := dk_27 (dk_at dksX0_aboutOf_2 14 rfl rfl)
theorem dX0_aboutOf_67 : decode cX0_aboutOf 67 = .ok (.aaload, 1) := dk_50 (dk_at dksX0_aboutOf_2 15 rfl rfl)
theorem dX0_aboutOf_68 : decode cX0_aboutOf 68 = .ok (.getfield 100, 3) := dk_180 0 100 (dk_at dksX0_aboutOf_2 16 rfl rfl)
theorem dX0_aboutOf_71 : decode cX0_aboutOf 71 = .ok (.ireturn, 1) := dk_172 (dk_at dksX0_aboutOf_2 19 rfl rfl)
theorem dX0_aboutOf_72 : decode cX0_aboutOf 72 = .ok (.aload_n 0, 1) := dk_42 (dk_at dksX0_aboutOf_2 20 rfl rfl)
theorem dX0_aboutOf_73 : decode cX0_aboutOf 73 = .ok (.getfield 24, 3) := dk_180 0 24 (dk_at dksX0_aboutOf_2 21 rfl rfl)
theorem dX0_aboutOf_76 : decode cX0_aboutOf 76 = .ok (.iload_n 1, 1) := dk_27 (dk_at dksX0_aboutOf_3 0 rfl rfl)
theorem dX0_aboutOf_77 : decode cX0_aboutOf 77 = .ok (.aaload, 1) := dk_50 (dk_at dksX0_aboutOf_3 1 rfl rfl)
theorem dX0_aboutOf_78 : decode cX0_aboutOf 78 = .ok (.getfield 104, 3) := dk_180 0 104 (dk_at dksX0_aboutOf_3 2 rfl rfl)
theorem dX0_aboutOf_81 : decode cX0_aboutOf 81 = .ok (.iload_n 2, 1) := dk_28 (dk_at dksX0_aboutOf_3 5 rfl rfl)
theorem dX0_aboutOf_82 : decode cX0_aboutOf 82 = .ok (.iconst 2, 1) := dk_5 (dk_at dksX0_aboutOf_3 6 rfl rfl)
theorem dX0_aboutOf_83 : decode cX0_aboutOf 83 = .ok (.isub, 1) := dk_100 (dk_at dksX0_aboutOf_3 7 rfl rfl)
theorem dX0_aboutOf_84 : decode cX0_aboutOf 84 = .ok (.iaload, 1) := dk_46 (dk_at dksX0_aboutOf_3 8 rfl rfl)
theorem dX0_aboutOf_85 : decode cX0_aboutOf 85 = .ok (.ireturn, 1) := dk_172 (dk_at dksX0_aboutOf_3 9 rfl rfl)
theorem dX0_aboutOf_86 : decode cX0_aboutOf 86 = .ok (.aload_n 0, 1) := dk_42 (dk_at dksX0_aboutOf_3 10 rfl rfl)
theorem dX0_aboutOf_87 : decode cX0_aboutOf 87 = .ok (.getfield 35, 3) := dk_180 0 35 (dk_at dksX0_aboutOf_3 11 rfl rfl)
theorem dX0_aboutOf_90 : decode cX0_aboutOf 90 = .ok (.getfield 111, 3) := dk_180 0 111 (dk_at dksX0_aboutOf_3 14 rfl rfl)
theorem dX0_aboutOf_93 : decode cX0_aboutOf 93 = .ok (.iload_n 1, 1) := dk_27 (dk_at dksX0_aboutOf_3 17 rfl rfl)
theorem dX0_aboutOf_94 : decode cX0_aboutOf 94 = .ok (.iaload, 1) := dk_46 (dk_at dksX0_aboutOf_3 18 rfl rfl)
theorem dX0_aboutOf_95 : decode cX0_aboutOf 95 = .ok (.ireturn, 1) := dk_172 (dk_at dksX0_aboutOf_3 19 rfl rfl)
theorem dX0_aboutOf_96 : decode cX0_aboutOf 96 = .ok (.aload_n 0, 1) := dk_42 (dk_at dksX0_aboutOf_3 20 rfl rfl)
theorem dX0_aboutOf_97 : decode cX0_aboutOf 97 = .ok (.getfield 28, 3) := dk_180 0 28 (dk_at dksX0_aboutOf_3 21 rfl rfl)
theorem dX0_aboutOf_100 : decode cX0_aboutOf 100 = .ok (.iload_n 1, 1) := dk_27 (dk_at dksX0_aboutOf_4 0 rfl rfl)
theorem dX0_aboutOf_101 : decode cX0_aboutOf 101 = .ok (.iaload, 1) := dk_46 (dk_at dksX0_aboutOf_4 1 rfl rfl)
theorem dX0_aboutOf_102 : decode cX0_aboutOf 102 = .ok (.ireturn, 1) := dk_172 (dk_at dksX0_aboutOf_4 2 rfl rfl)
theorem dX0_aboutOf_103 : decode cX0_aboutOf 103 = .ok (.aload_n 0, 1) := dk_42 (dk_at dksX0_aboutOf_4 3 rfl rfl)
theorem dX0_aboutOf_104 : decode cX0_aboutOf 104 = .ok (.getfield 35, 3) := dk_180 0 35 (dk_at dksX0_aboutOf_4 4 rfl rfl)
theorem dX0_aboutOf_107 : decode cX0_aboutOf 107 = .ok (.getfield 114, 3) := dk_180 0 114 (dk_at dksX0_aboutOf_4 7 rfl rfl)
theorem dX0_aboutOf_110 : decode cX0_aboutOf 110 = .ok (.iload_n 1, 1) := dk_27 (dk_at dksX0_aboutOf_4 10 rfl rfl)
theorem dX0_aboutOf_111 : decode cX0_aboutOf 111 = .ok (.invokestatic 124, 3) := dk_184 0 124 (dk_at dksX0_aboutOf_4 11 rfl rfl)
theorem dX0_aboutOf_114 : decode cX0_aboutOf 114 = .ok (.ifCond .eq 7, 3) := dk_153 0 7 (dk_at dksX0_aboutOf_4 14 rfl rfl)
theorem dX0_aboutOf_117 : decode cX0_aboutOf 117 = .ok (.iconst 1, 1) := dk_4 (dk_at dksX0_aboutOf_4 17 rfl rfl)
theorem dX0_aboutOf_118 : decode cX0_aboutOf 118 = .ok (.goto 4, 3) := dk_167 0 4 (dk_at dksX0_aboutOf_4 18 rfl rfl)
theorem dX0_aboutOf_121 : decode cX0_aboutOf 121 = .ok (.iconst 0, 1) := dk_3 (dk_at dksX0_aboutOf_4 21 rfl rfl)
theorem dX0_aboutOf_122 : decode cX0_aboutOf 122 = .ok (.ireturn, 1) := dk_172 (dk_at dksX0_aboutOf_4 22 rfl rfl)
theorem dX0_aboutOf_123 : decode cX0_aboutOf 123 = .ok (.bipush (-102), 2) := dk_16 154 (dk_at dksX0_aboutOf_5 0 rfl rfl)
theorem dX0_aboutOf_125 : decode cX0_aboutOf 125 = .ok (.ireturn, 1) := dk_172 (dk_at dksX0_aboutOf_5 2 rfl rfl)
abbrev cX0_has : ByteArray := prog_1_method_2_code
def yX0_has : MethodName := ⟨RX0, "has", "(II)Z"⟩
def dkwX0_has_0 : List UInt8 := [26, 27, 122, 4, 126, 4, 160, 0, 7, 4, 167, 0, 4, 3, 172]
abbrev dktX0_has_0 : List UInt8 := dkwX0_has_0 ++ []
theorem dksX0_has_0 : cX0_has.data.toList.drop 0 = dktX0_has_0 := by decide +kernel
theorem dX0_has_0 : decode cX0_has 0 = .ok (.iload_n 0, 1) := dk_26 (dk_at dksX0_has_0 0 rfl rfl)
theorem dX0_has_1 : decode cX0_has 1 = .ok (.iload_n 1, 1) := dk_27 (dk_at dksX0_has_0 1 rfl rfl)
theorem dX0_has_2 : decode cX0_has 2 = .ok (.ishr, 1) := dk_122 (dk_at dksX0_has_0 2 rfl rfl)
theorem dX0_has_3 : decode cX0_has 3 = .ok (.iconst 1, 1) := dk_4 (dk_at dksX0_has_0 3 rfl rfl)
theorem dX0_has_4 : decode cX0_has 4 = .ok (.iand, 1) := dk_126 (dk_at dksX0_has_0 4 rfl rfl)
theorem dX0_has_5 : decode cX0_has 5 = .ok (.iconst 1, 1) := dk_4 (dk_at dksX0_has_0 5 rfl rfl)
theorem dX0_has_6 : decode cX0_has 6 = .ok (.if_icmp .ne 7, 3) := dk_160 0 7 (dk_at dksX0_has_0 6 rfl rfl)
theorem dX0_has_9 : decode cX0_has 9 = .ok (.iconst 1, 1) := dk_4 (dk_at dksX0_has_0 9 rfl rfl)
theorem dX0_has_10 : decode cX0_has 10 = .ok (.goto 4, 3) := dk_167 0 4 (dk_at dksX0_has_0 10 rfl rfl)
theorem dX0_has_13 : decode cX0_has 13 = .ok (.iconst 0, 1) := dk_3 (dk_at dksX0_has_0 13 rfl rfl)
theorem dX0_has_14 : decode cX0_has 14 = .ok (.ireturn, 1) := dk_172 (dk_at dksX0_has_0 14 rfl rfl)
abbrev cX0_as : ByteArray := prog_1_method_15_code
def yX0_as : MethodName := ⟨RX0, "as", "(II)I"⟩
def dkwX0_as_1 : List UInt8 := [16, 154, 172, 42, 180, 0, 24, 27, 50, 28, 184, 0, 141, 172, 78, 2, 172]
abbrev dktX0_as_1 : List UInt8 := dkwX0_as_1 ++ []
def dkwX0_as_0 : List UInt8 := [42, 27, 182, 0, 128, 154, 0, 6, 16, 155, 172, 28, 133, 9, 20, 0, 139, 184, 0, 117, 154, 0, 6]
abbrev dktX0_as_0 : List UInt8 := dkwX0_as_0 ++ dktX0_as_1
theorem dksX0_as_0 : cX0_as.data.toList.drop 0 = dktX0_as_0 := by decide +kernel
theorem dksX0_as_1 : cX0_as.data.toList.drop 23 = dktX0_as_1 := dk_seg dksX0_as_0 23 rfl rfl
theorem dX0_as_0 : decode cX0_as 0 = .ok (.aload_n 0, 1) := dk_42 (dk_at dksX0_as_0 0 rfl rfl)
theorem dX0_as_1 : decode cX0_as 1 = .ok (.iload_n 1, 1) := dk_27 (dk_at dksX0_as_0 1 rfl rfl)
theorem dX0_as_2 : decode cX0_as 2 = .ok (.invokevirtual 128, 3) := dk_182 0 128 (dk_at dksX0_as_0 2 rfl rfl)
theorem dX0_as_5 : decode cX0_as 5 = .ok (.ifCond .ne 6, 3) := dk_154 0 6 (dk_at dksX0_as_0 5 rfl rfl)
theorem dX0_as_8 : decode cX0_as 8 = .ok (.bipush (-101), 2) := dk_16 155 (dk_at dksX0_as_0 8 rfl rfl)
theorem dX0_as_10 : decode cX0_as 10 = .ok (.ireturn, 1) := dk_172 (dk_at dksX0_as_0 10 rfl rfl)
theorem dX0_as_11 : decode cX0_as 11 = .ok (.iload_n 2, 1) := dk_28 (dk_at dksX0_as_0 11 rfl rfl)
theorem dX0_as_12 : decode cX0_as 12 = .ok (.i2l, 1) := dk_133 (dk_at dksX0_as_0 12 rfl rfl)
theorem dX0_as_13 : decode cX0_as 13 = .ok (.lconst 0, 1) := dk_9 (dk_at dksX0_as_0 13 rfl rfl)
theorem dX0_as_14 : decode cX0_as 14 = .ok (.ldc2_w 139, 3) := dk_20 0 139 (dk_at dksX0_as_0 14 rfl rfl)
theorem dX0_as_17 : decode cX0_as 17 = .ok (.invokestatic 117, 3) := dk_184 0 117 (dk_at dksX0_as_0 17 rfl rfl)
theorem dX0_as_20 : decode cX0_as 20 = .ok (.ifCond .ne 6, 3) := dk_154 0 6 (dk_at dksX0_as_0 20 rfl rfl)
theorem dX0_as_23 : decode cX0_as 23 = .ok (.bipush (-102), 2) := dk_16 154 (dk_at dksX0_as_1 0 rfl rfl)
theorem dX0_as_25 : decode cX0_as 25 = .ok (.ireturn, 1) := dk_172 (dk_at dksX0_as_1 2 rfl rfl)
theorem dX0_as_26 : decode cX0_as 26 = .ok (.aload_n 0, 1) := dk_42 (dk_at dksX0_as_1 3 rfl rfl)
theorem dX0_as_27 : decode cX0_as 27 = .ok (.getfield 24, 3) := dk_180 0 24 (dk_at dksX0_as_1 4 rfl rfl)
theorem dX0_as_30 : decode cX0_as 30 = .ok (.iload_n 1, 1) := dk_27 (dk_at dksX0_as_1 7 rfl rfl)
theorem dX0_as_31 : decode cX0_as 31 = .ok (.aaload, 1) := dk_50 (dk_at dksX0_as_1 8 rfl rfl)
theorem dX0_as_32 : decode cX0_as 32 = .ok (.iload_n 2, 1) := dk_28 (dk_at dksX0_as_1 9 rfl rfl)
theorem dX0_as_33 : decode cX0_as 33 = .ok (.invokestatic 141, 3) := dk_184 0 141 (dk_at dksX0_as_1 10 rfl rfl)
theorem dX0_as_36 : decode cX0_as 36 = .ok (.ireturn, 1) := dk_172 (dk_at dksX0_as_1 13 rfl rfl)
theorem dX0_as_37 : decode cX0_as 37 = .ok (.astore_n 3, 1) := dk_78 (dk_at dksX0_as_1 14 rfl rfl)
theorem dX0_as_38 : decode cX0_as 38 = .ok (.iconst (-1), 1) := dk_2 (dk_at dksX0_as_1 15 rfl rfl)
theorem dX0_as_39 : decode cX0_as 39 = .ok (.ireturn, 1) := dk_172 (dk_at dksX0_as_1 16 rfl rfl)
abbrev cX0_castTo : ByteArray := prog_1_method_14_code
def yX0_castTo : MethodName := ⟨RX0, "castTo", "(Ljava/lang/Object;I)I"⟩
def dkwX0_castTo_3 : List UInt8 := [42, 192, 0, 13, 180, 0, 137, 172, 42, 192, 0, 16, 180, 0, 138, 172]
abbrev dktX0_castTo_3 : List UInt8 := dkwX0_castTo_3 ++ []
def dkwX0_castTo_2 : List UInt8 := [42, 192, 0, 1, 180, 0, 94, 172, 42, 192, 0, 7, 180, 0, 135, 172, 42, 192, 0, 10, 180, 0, 136, 172]
abbrev dktX0_castTo_2 : List UInt8 := dkwX0_castTo_2 ++ dktX0_castTo_3
def dkwX0_castTo_1 : List UInt8 := [170, 0, 0, 0, 0, 0, 63, 0, 0, 0, 0, 0, 0, 0, 3, 0, 0, 0, 31, 0, 0, 0, 39, 0, 0, 0, 47, 0, 0, 0, 55]
abbrev dktX0_castTo_1 : List UInt8 := dkwX0_castTo_1 ++ dktX0_castTo_2
def dkwX0_castTo_0 : List UInt8 := [27]
abbrev dktX0_castTo_0 : List UInt8 := dkwX0_castTo_0 ++ dktX0_castTo_1
theorem dksX0_castTo_0 : cX0_castTo.data.toList.drop 0 = dktX0_castTo_0 := by decide +kernel
theorem dksX0_castTo_1 : cX0_castTo.data.toList.drop 1 = dktX0_castTo_1 := dk_seg dksX0_castTo_0 1 rfl rfl
theorem dksX0_castTo_2 : cX0_castTo.data.toList.drop 32 = dktX0_castTo_2 := dk_seg dksX0_castTo_1 31 rfl rfl
theorem dksX0_castTo_3 : cX0_castTo.data.toList.drop 56 = dktX0_castTo_3 := dk_seg dksX0_castTo_2 24 rfl rfl
theorem dX0_castTo_0 : decode cX0_castTo 0 = .ok (.iload_n 1, 1) := dk_27 (dk_at dksX0_castTo_0 0 rfl rfl)
theorem dX0_castTo_1 : decode cX0_castTo 1 = .ok (.tableswitch 63 0 3 #[31, 39, 47, 55], 31) := by decide +kernel
theorem dX0_castTo_32 : decode cX0_castTo 32 = .ok (.aload_n 0, 1) := dk_42 (dk_at dksX0_castTo_2 0 rfl rfl)
theorem dX0_castTo_33 : decode cX0_castTo 33 = .ok (.checkcast 1, 3) := dk_192 0 1 (dk_at dksX0_castTo_2 1 rfl rfl)
theorem dX0_castTo_36 : decode cX0_castTo 36 = .ok (.getfield 94, 3) := dk_180 0 94 (dk_at dksX0_castTo_2 4 rfl rfl)
theorem dX0_castTo_39 : decode cX0_castTo 39 = .ok (.ireturn, 1) := dk_172 (dk_at dksX0_castTo_2 7 rfl rfl)
theorem dX0_castTo_40 : decode cX0_castTo 40 = .ok (.aload_n 0, 1) := dk_42 (dk_at dksX0_castTo_2 8 rfl rfl)
theorem dX0_castTo_41 : decode cX0_castTo 41 = .ok (.checkcast 7, 3) := dk_192 0 7 (dk_at dksX0_castTo_2 9 rfl rfl)
theorem dX0_castTo_44 : decode cX0_castTo 44 = .ok (.getfield 135, 3) := dk_180 0 135 (dk_at dksX0_castTo_2 12 rfl rfl)
theorem dX0_castTo_47 : decode cX0_castTo 47 = .ok (.ireturn, 1) := dk_172 (dk_at dksX0_castTo_2 15 rfl rfl)
theorem dX0_castTo_48 : decode cX0_castTo 48 = .ok (.aload_n 0, 1) := dk_42 (dk_at dksX0_castTo_2 16 rfl rfl)
theorem dX0_castTo_49 : decode cX0_castTo 49 = .ok (.checkcast 10, 3) := dk_192 0 10 (dk_at dksX0_castTo_2 17 rfl rfl)
theorem dX0_castTo_52 : decode cX0_castTo 52 = .ok (.getfield 136, 3) := dk_180 0 136 (dk_at dksX0_castTo_2 20 rfl rfl)
theorem dX0_castTo_55 : decode cX0_castTo 55 = .ok (.ireturn, 1) := dk_172 (dk_at dksX0_castTo_2 23 rfl rfl)
theorem dX0_castTo_56 : decode cX0_castTo 56 = .ok (.aload_n 0, 1) := dk_42 (dk_at dksX0_castTo_3 0 rfl rfl)
theorem dX0_castTo_57 : decode cX0_castTo 57 = .ok (.checkcast 13, 3) := dk_192 0 13 (dk_at dksX0_castTo_3 1 rfl rfl)
theorem dX0_castTo_60 : decode cX0_castTo 60 = .ok (.getfield 137, 3) := dk_180 0 137 (dk_at dksX0_castTo_3 4 rfl rfl)
theorem dX0_castTo_63 : decode cX0_castTo 63 = .ok (.ireturn, 1) := dk_172 (dk_at dksX0_castTo_3 7 rfl rfl)
theorem dX0_castTo_64 : decode cX0_castTo 64 = .ok (.aload_n 0, 1) := dk_42 (dk_at dksX0_castTo_3 8 rfl rfl)
theorem dX0_castTo_65 : decode cX0_castTo 65 = .ok (.checkcast 16, 3) := dk_192 0 16 (dk_at dksX0_castTo_3 9 rfl rfl)
theorem dX0_castTo_68 : decode cX0_castTo 68 = .ok (.getfield 138, 3) := dk_180 0 138 (dk_at dksX0_castTo_3 12 rfl rfl)
theorem dX0_castTo_71 : decode cX0_castTo 71 = .ok (.ireturn, 1) := dk_172 (dk_at dksX0_castTo_3 15 rfl rfl)
abbrev cX0_length : ByteArray := prog_1_method_16_code
def yX0_length : MethodName := ⟨RX0, "length", "(I)I"⟩
def dkwX0_length_2 : List UInt8 := [180, 0, 35, 27, 181, 0, 152, 28, 172]
abbrev dktX0_length_2 : List UInt8 := dkwX0_length_2 ++ []
def dkwX0_length_1 : List UInt8 := [158, 0, 6, 16, 153, 172, 42, 180, 0, 35, 180, 0, 149, 61, 42, 180, 0, 35, 27, 181, 0, 149, 42]
abbrev dktX0_length_1 : List UInt8 := dkwX0_length_1 ++ dktX0_length_2
def dkwX0_length_0 : List UInt8 := [27, 133, 10, 20, 0, 147, 184, 0, 117, 154, 0, 6, 16, 154, 172, 42, 180, 0, 35, 180, 0, 84]
abbrev dktX0_length_0 : List UInt8 := dkwX0_length_0 ++ dktX0_length_1
theorem dksX0_length_0 : cX0_length.data.toList.drop 0 = dktX0_length_0 := by decide +kernel
theorem dksX0_length_1 : cX0_length.data.toList.drop 22 = dktX0_length_1 := dk_seg dksX0_length_0 22 rfl rfl
theorem dksX0_length_2 : cX0_length.data.toList.drop 45 = dktX0_length_2 := dk_seg dksX0_length_1 23 rfl rfl
theorem dX0_length_0 : decode cX0_length 0 = .ok (.iload_n 1, 1) := dk_27 (dk_at dksX0_length_0 0 rfl rfl)
theorem dX0_length_1 : decode cX0_length 1 = .ok (.i2l, 1) := dk_133 (dk_at dksX0_length_0 1 rfl rfl)
theorem dX0_length_2 : decode cX0_length 2 = .ok (.lconst 1, 1) := dk_10 (dk_at dksX0_length_0 2 rfl rfl)
theorem dX0_length_3 : decode cX0_length 3 = .ok (.ldc2_w 147, 3) := dk_20 0 147 (dk_at dksX0_length_0 3 rfl rfl)
theorem dX0_length_6 : decode cX0_length 6 = .ok (.invokestatic 117, 3) := dk_184 0 117 (dk_at dksX0_length_0 6 rfl rfl)
theorem dX0_length_9 : decode cX0_length 9 = .ok (.ifCond .ne 6, 3) := dk_154 0 6 (dk_at dksX0_length_0 9 rfl rfl)
theorem dX0_length_12 : decode cX0_length 12 = .ok (.bipush (-102), 2) := dk_16 154 (dk_at dksX0_length_0 12 rfl rfl)
theorem dX0_length_14 : decode cX0_length 14 = .ok (.ireturn, 1) := dk_172 (dk_at dksX0_length_0 14 rfl rfl)
theorem dX0_length_15 : decode cX0_length 15 = .ok (.aload_n 0, 1) := dk_42 (dk_at dksX0_length_0 15 rfl rfl)
theorem dX0_length_16 : decode cX0_length 16 = .ok (.getfield 35, 3) := dk_180 0 35 (dk_at dksX0_length_0 16 rfl rfl)
theorem dX0_length_19 : decode cX0_length 19 = .ok (.getfield 84, 3) := dk_180 0 84 (dk_at dksX0_length_0 19 rfl rfl)
theorem dX0_length_22 : decode cX0_length 22 = .ok (.ifCond .le 6, 3) := dk_158 0 6 (dk_at dksX0_length_1 0 rfl rfl)
theorem dX0_length_25 : decode cX0_length 25 = .ok (.bipush (-103), 2) := dk_16 153 (dk_at dksX0_length_1 3 rfl rfl)
theorem dX0_length_27 : decode cX0_length 27 = .ok (.ireturn, 1) := dk_172 (dk_at dksX0_length_1 5 rfl rfl)
theorem dX0_length_28 : decode cX0_length 28 = .ok (.aload_n 0, 1) := dk_42 (dk_at dksX0_length_1 6 rfl rfl)
theorem dX0_length_29 : decode cX0_length 29 = .ok (.getfield 35, 3) := dk_180 0 35 (dk_at dksX0_length_1 7 rfl rfl)
theorem dX0_length_32 : decode cX0_length 32 = .ok (.getfield 149, 3) := dk_180 0 149 (dk_at dksX0_length_1 10 rfl rfl)
theorem dX0_length_35 : decode cX0_length 35 = .ok (.istore_n 2, 1) := dk_61 (dk_at dksX0_length_1 13 rfl rfl)
theorem dX0_length_36 : decode cX0_length 36 = .ok (.aload_n 0, 1) := dk_42 (dk_at dksX0_length_1 14 rfl rfl)
theorem dX0_length_37 : decode cX0_length 37 = .ok (.getfield 35, 3) := dk_180 0 35 (dk_at dksX0_length_1 15 rfl rfl)
theorem dX0_length_40 : decode cX0_length 40 = .ok (.iload_n 1, 1) := dk_27 (dk_at dksX0_length_1 18 rfl rfl)
theorem dX0_length_41 : decode cX0_length 41 = .ok (.putfield 149, 3) := dk_181 0 149 (dk_at dksX0_length_1 19 rfl rfl)
theorem dX0_length_44 : decode cX0_length 44 = .ok (.aload_n 0, 1) := dk_42 (dk_at dksX0_length_1 22 rfl rfl)
theorem dX0_length_45 : decode cX0_length 45 = .ok (.getfield 35, 3) := dk_180 0 35 (dk_at dksX0_length_2 0 rfl rfl)
theorem dX0_length_48 : decode cX0_length 48 = .ok (.iload_n 1, 1) := dk_27 (dk_at dksX0_length_2 3 rfl rfl)
theorem dX0_length_49 : decode cX0_length 49 = .ok (.putfield 152, 3) := dk_181 0 152 (dk_at dksX0_length_2 4 rfl rfl)
theorem dX0_length_52 : decode cX0_length 52 = .ok (.iload_n 2, 1) := dk_28 (dk_at dksX0_length_2 7 rfl rfl)
theorem dX0_length_53 : decode cX0_length 53 = .ok (.ireturn, 1) := dk_172 (dk_at dksX0_length_2 8 rfl rfl)
abbrev cX0_brake : ByteArray := prog_1_method_17_code
def yX0_brake : MethodName := ⟨RX0, "brake", "(IZ)I"⟩
def dkwX0_brake_3 : List UInt8 := [172]
abbrev dktX0_brake_3 : List UInt8 := dkwX0_brake_3 ++ []
def dkwX0_brake_2 : List UInt8 := [4, 27, 120, 128, 167, 0, 16, 42, 180, 0, 35, 180, 0, 114, 4, 27, 120, 2, 130, 126, 181, 0, 114, 29]
abbrev dktX0_brake_2 : List UInt8 := dkwX0_brake_2 ++ dktX0_brake_3
def dkwX0_brake_1 : List UInt8 := [153, 0, 7, 4, 167, 0, 4, 3, 62, 42, 180, 0, 35, 28, 153, 0, 17, 42, 180, 0, 35, 180, 0, 114]
abbrev dktX0_brake_1 : List UInt8 := dkwX0_brake_1 ++ dktX0_brake_2
def dkwX0_brake_0 : List UInt8 := [42, 27, 182, 0, 128, 154, 0, 6, 16, 155, 172, 42, 180, 0, 35, 180, 0, 114, 27, 184, 0, 124]
abbrev dktX0_brake_0 : List UInt8 := dkwX0_brake_0 ++ dktX0_brake_1
theorem dksX0_brake_0 : cX0_brake.data.toList.drop 0 = dktX0_brake_0 := by decide +kernel
theorem dksX0_brake_1 : cX0_brake.data.toList.drop 22 = dktX0_brake_1 := dk_seg dksX0_brake_0 22 rfl rfl
theorem dksX0_brake_2 : cX0_brake.data.toList.drop 46 = dktX0_brake_2 := dk_seg dksX0_brake_1 24 rfl rfl
theorem dksX0_brake_3 : cX0_brake.data.toList.drop 70 = dktX0_brake_3 := dk_seg dksX0_brake_2 24 rfl rfl
theorem dX0_brake_0 : decode cX0_brake 0 = .ok (.aload_n 0, 1) := dk_42 (dk_at dksX0_brake_0 0 rfl rfl)
theorem dX0_brake_1 : decode cX0_brake 1 = .ok (.iload_n 1, 1) := dk_27 (dk_at dksX0_brake_0 1 rfl rfl)
theorem dX0_brake_2 : decode cX0_brake 2 = .ok (.invokevirtual 128, 3) := dk_182 0 128 (dk_at dksX0_brake_0 2 rfl rfl)
theorem dX0_brake_5 : decode cX0_brake 5 = .ok (.ifCond .ne 6, 3) := dk_154 0 6 (dk_at dksX0_brake_0 5 rfl rfl)
theorem dX0_brake_8 : decode cX0_brake 8 = .ok (.bipush (-101), 2) := dk_16 155 (dk_at dksX0_brake_0 8 rfl rfl)
theorem dX0_brake_10 : decode cX0_brake 10 = .ok (.ireturn, 1) := dk_172 (dk_at dksX0_brake_0 10 rfl rfl)
theorem dX0_brake_11 : decode cX0_brake 11 = .ok (.aload_n 0, 1) := dk_42 (dk_at dksX0_brake_0 11 rfl rfl)
theorem dX0_brake_12 : decode cX0_brake 12 = .ok (.getfield 35, 3) := dk_180 0 35 (dk_at dksX0_brake_0 12 rfl rfl)
theorem dX0_brake_15 : decode cX0_brake 15 = .ok (.getfield 114, 3) := dk_180 0 114 (dk_at dksX0_brake_0 15 rfl rfl)
theorem dX0_brake_18 : decode cX0_brake 18 = .ok (.iload_n 1, 1) := dk_27 (dk_at dksX0_brake_0 18 rfl rfl)
theorem dX0_brake_19 : decode cX0_brake 19 = .ok (.invokestatic 124, 3) := dk_184 0 124 (dk_at dksX0_brake_0 19 rfl rfl)
theorem dX0_brake_22 : decode cX0_brake 22 = .ok (.ifCond .eq 7, 3) := dk_153 0 7 (dk_at dksX0_brake_1 0 rfl rfl)
theorem dX0_brake_25 : decode cX0_brake 25 = .ok (.iconst 1, 1) := dk_4 (dk_at dksX0_brake_1 3 rfl rfl)
theorem dX0_brake_26 : decode cX0_brake 26 = .ok (.goto 4, 3) := dk_167 0 4 (dk_at dksX0_brake_1 4 rfl rfl)
theorem dX0_brake_29 : decode cX0_brake 29 = .ok (.iconst 0, 1) := dk_3 (dk_at dksX0_brake_1 7 rfl rfl)
theorem dX0_brake_30 : decode cX0_brake 30 = .ok (.istore_n 3, 1) := dk_62 (dk_at dksX0_brake_1 8 rfl rfl)
theorem dX0_brake_31 : decode cX0_brake 31 = .ok (.aload_n 0, 1) := dk_42 (dk_at dksX0_brake_1 9 rfl rfl)
theorem dX0_brake_32 : decode cX0_brake 32 = .ok (.getfield 35, 3) := dk_180 0 35 (dk_at dksX0_brake_1 10 rfl rfl)
theorem dX0_brake_35 : decode cX0_brake 35 = .ok (.iload_n 2, 1) := dk_28 (dk_at dksX0_brake_1 13 rfl rfl)
theorem dX0_brake_36 : decode cX0_brake 36 = .ok (.ifCond .eq 17, 3) := dk_153 0 17 (dk_at dksX0_brake_1 14 rfl rfl)
theorem dX0_brake_39 : decode cX0_brake 39 = .ok (.aload_n 0, 1) := dk_42 (dk_at dksX0_brake_1 17 rfl rfl)
theorem dX0_brake_40 : decode cX0_brake 40 = .ok (.getfield 35, 3) := dk_180 0 35 (dk_at dksX0_brake_1 18 rfl rfl)
theorem dX0_brake_43 : decode cX0_brake 43 = .ok (.getfield 114, 3) := dk_180 0 114 (dk_at dksX0_brake_1 21 rfl rfl)
theorem dX0_brake_46 : decode cX0_brake 46 = .ok (.iconst 1, 1) := dk_4 (dk_at dksX0_brake_2 0 rfl rfl)
theorem dX0_brake_47 : decode cX0_brake 47 = .ok (.iload_n 1, 1) := dk_27 (dk_at dksX0_brake_2 1 rfl rfl)
theorem dX0_brake_48 : decode cX0_brake 48 = .ok (.ishl, 1) := dk_120 (dk_at dksX0_brake_2 2 rfl rfl)
theorem dX0_brake_49 : decode cX0_brake 49 = .ok (.ior, 1) := dk_128 (dk_at dksX0_brake_2 3 rfl rfl)
theorem dX0_brake_50 : decode cX0_brake 50 = .ok (.goto 16, 3) := dk_167 0 16 (dk_at dksX0_brake_2 4 rfl rfl)
theorem dX0_brake_53 : decode cX0_brake 53 = .ok (.aload_n 0, 1) := dk_42 (dk_at dksX0_brake_2 7 rfl rfl)
theorem dX0_brake_54 : decode cX0_brake 54 = .ok (.getfield 35, 3) := dk_180 0 35 (dk_at dksX0_brake_2 8 rfl rfl)
theorem dX0_brake_57 : decode cX0_brake 57 = .ok (.getfield 114, 3) := dk_180 0 114 (dk_at dksX0_brake_2 11 rfl rfl)
theorem dX0_brake_60 : decode cX0_brake 60 = .ok (.iconst 1, 1) := dk_4 (dk_at dksX0_brake_2 14 rfl rfl)
theorem dX0_brake_61 : decode cX0_brake 61 = .ok (.iload_n 1, 1) := dk_27 (dk_at dksX0_brake_2 15 rfl rfl)
theorem dX0_brake_62 : decode cX0_brake 62 = .ok (.ishl, 1) := dk_120 (dk_at dksX0_brake_2 16 rfl rfl)
theorem dX0_brake_63 : decode cX0_brake 63 = .ok (.iconst (-1), 1) := dk_2 (dk_at dksX0_brake_2 17 rfl rfl)
theorem dX0_brake_64 : decode cX0_brake 64 = .ok (.ixor, 1) := dk_130 (dk_at dksX0_brake_2 18 rfl rfl)
theorem dX0_brake_65 : decode cX0_brake 65 = .ok (.iand, 1) := dk_126 (dk_at dksX0_brake_2 19 rfl rfl)
theorem dX0_brake_66 : decode cX0_brake 66 = .ok (.putfield 114, 3) := dk_181 0 114 (dk_at dksX0_brake_2 20 rfl rfl)
theorem dX0_brake_69 : decode cX0_brake 69 = .ok (.iload_n 3, 1) := dk_29 (dk_at dksX0_brake_2 23 rfl rfl)
theorem dX0_brake_70 : decode cX0_brake 70 = .ok (.ireturn, 1) := dk_172 (dk_at dksX0_brake_3 0 rfl rfl)
abbrev cX0_rain : ByteArray := prog_1_method_18_code
def yX0_rain : MethodName := ⟨RX0, "rain", "(Z)I"⟩
def dkwX0_rain_1 : List UInt8 := [28, 172]
abbrev dktX0_rain_1 : List UInt8 := dkwX0_rain_1 ++ []
def dkwX0_rain_0 : List UInt8 := [42, 180, 0, 35, 180, 0, 155, 153, 0, 7, 4, 167, 0, 4, 3, 61, 42, 180, 0, 35, 27, 181, 0, 155]
abbrev dktX0_rain_0 : List UInt8 := dkwX0_rain_0 ++ dktX0_rain_1
theorem dksX0_rain_0 : cX0_rain.data.toList.drop 0 = dktX0_rain_0 := by decide +kernel
theorem dksX0_rain_1 : cX0_rain.data.toList.drop 24 = dktX0_rain_1 := dk_seg dksX0_rain_0 24 rfl rfl
theorem dX0_rain_0 : decode cX0_rain 0 = .ok (.aload_n 0, 1) := dk_42 (dk_at dksX0_rain_0 0 rfl rfl)
theorem dX0_rain_1 : decode cX0_rain 1 = .ok (.getfield 35, 3) := dk_180 0 35 (dk_at dksX0_rain_0 1 rfl rfl)
theorem dX0_rain_4 : decode cX0_rain 4 = .ok (.getfield 155, 3) := dk_180 0 155 (dk_at dksX0_rain_0 4 rfl rfl)
theorem dX0_rain_7 : decode cX0_rain 7 = .ok (.ifCond .eq 7, 3) := dk_153 0 7 (dk_at dksX0_rain_0 7 rfl rfl)
theorem dX0_rain_10 : decode cX0_rain 10 = .ok (.iconst 1, 1) := dk_4 (dk_at dksX0_rain_0 10 rfl rfl)
theorem dX0_rain_11 : decode cX0_rain 11 = .ok (.goto 4, 3) := dk_167 0 4 (dk_at dksX0_rain_0 11 rfl rfl)
theorem dX0_rain_14 : decode cX0_rain 14 = .ok (.iconst 0, 1) := dk_3 (dk_at dksX0_rain_0 14 rfl rfl)
theorem dX0_rain_15 : decode cX0_rain 15 = .ok (.istore_n 2, 1) := dk_61 (dk_at dksX0_rain_0 15 rfl rfl)
theorem dX0_rain_16 : decode cX0_rain 16 = .ok (.aload_n 0, 1) := dk_42 (dk_at dksX0_rain_0 16 rfl rfl)
theorem dX0_rain_17 : decode cX0_rain 17 = .ok (.getfield 35, 3) := dk_180 0 35 (dk_at dksX0_rain_0 17 rfl rfl)
theorem dX0_rain_20 : decode cX0_rain 20 = .ok (.iload_n 1, 1) := dk_27 (dk_at dksX0_rain_0 20 rfl rfl)
theorem dX0_rain_21 : decode cX0_rain 21 = .ok (.putfield 155, 3) := dk_181 0 155 (dk_at dksX0_rain_0 21 rfl rfl)
theorem dX0_rain_24 : decode cX0_rain 24 = .ok (.iload_n 2, 1) := dk_28 (dk_at dksX0_rain_1 0 rfl rfl)
theorem dX0_rain_25 : decode cX0_rain 25 = .ok (.ireturn, 1) := dk_172 (dk_at dksX0_rain_1 1 rfl rfl)
abbrev cX0_wants : ByteArray := prog_1_method_20_code
def yX0_wants : MethodName := ⟨RX0, "wants", "(I)I"⟩
def dkwX0_wants_0 : List UInt8 := [42, 27, 182, 0, 128, 153, 0, 15, 42, 42, 180, 0, 35, 27, 182, 0, 169, 167, 0, 5, 16, 155, 172]
abbrev dktX0_wants_0 : List UInt8 := dkwX0_wants_0 ++ []
theorem dksX0_wants_0 : cX0_wants.data.toList.drop 0 = dktX0_wants_0 := by decide +kernel
theorem dX0_wants_0 : decode cX0_wants 0 = .ok (.aload_n 0, 1) := dk_42 (dk_at dksX0_wants_0 0 rfl rfl)
theorem dX0_wants_1 : decode cX0_wants 1 = .ok (.iload_n 1, 1) := dk_27 (dk_at dksX0_wants_0 1 rfl rfl)
theorem dX0_wants_2 : decode cX0_wants 2 = .ok (.invokevirtual 128, 3) := dk_182 0 128 (dk_at dksX0_wants_0 2 rfl rfl)
theorem dX0_wants_5 : decode cX0_wants 5 = .ok (.ifCond .eq 15, 3) := dk_153 0 15 (dk_at dksX0_wants_0 5 rfl rfl)
theorem dX0_wants_8 : decode cX0_wants 8 = .ok (.aload_n 0, 1) := dk_42 (dk_at dksX0_wants_0 8 rfl rfl)
theorem dX0_wants_9 : decode cX0_wants 9 = .ok (.aload_n 0, 1) := dk_42 (dk_at dksX0_wants_0 9 rfl rfl)
theorem dX0_wants_10 : decode cX0_wants 10 = .ok (.getfield 35, 3) := dk_180 0 35 (dk_at dksX0_wants_0 10 rfl rfl)
theorem dX0_wants_13 : decode cX0_wants 13 = .ok (.iload_n 1, 1) := dk_27 (dk_at dksX0_wants_0 13 rfl rfl)
theorem dX0_wants_14 : decode cX0_wants 14 = .ok (.invokevirtual 169, 3) := dk_182 0 169 (dk_at dksX0_wants_0 14 rfl rfl)
theorem dX0_wants_17 : decode cX0_wants 17 = .ok (.goto 5, 3) := dk_167 0 5 (dk_at dksX0_wants_0 17 rfl rfl)
theorem dX0_wants_20 : decode cX0_wants 20 = .ok (.bipush (-101), 2) := dk_16 155 (dk_at dksX0_wants_0 20 rfl rfl)
theorem dX0_wants_22 : decode cX0_wants 22 = .ok (.ireturn, 1) := dk_172 (dk_at dksX0_wants_0 22 rfl rfl)
abbrev cX0_wantsOf : ByteArray := prog_1_method_19_code
def yX0_wantsOf : MethodName := ⟨RX0, "wantsOf", "(LTownOnWeight$Day;I)I"⟩
def dkwX0_wantsOf_2 : List UInt8 := [180, 0, 162, 28, 184, 0, 124, 182, 0, 165, 167, 0, 4, 3, 172]
abbrev dktX0_wantsOf_2 : List UInt8 := dkwX0_wantsOf_2 ++ []
def dkwX0_wantsOf_1 : List UInt8 := [154, 0, 7, 4, 167, 0, 4, 3, 62, 29, 153, 0, 27, 42, 180, 0, 24, 28, 50, 43, 180, 0, 84, 43]
abbrev dktX0_wantsOf_1 : List UInt8 := dkwX0_wantsOf_1 ++ dktX0_wantsOf_2
def dkwX0_wantsOf_0 : List UInt8 := [42, 180, 0, 24, 28, 50, 43, 180, 0, 84, 182, 0, 159, 153, 0, 18, 43, 180, 0, 114, 28, 184, 0, 124]
abbrev dktX0_wantsOf_0 : List UInt8 := dkwX0_wantsOf_0 ++ dktX0_wantsOf_1
theorem dksX0_wantsOf_0 : cX0_wantsOf.data.toList.drop 0 = dktX0_wantsOf_0 := by decide +kernel
theorem dksX0_wantsOf_1 : cX0_wantsOf.data.toList.drop 24 = dktX0_wantsOf_1 := dk_seg dksX0_wantsOf_0 24 rfl rfl
theorem dksX0_wantsOf_2 : cX0_wantsOf.data.toList.drop 48 = dktX0_wantsOf_2 := dk_seg dksX0_wantsOf_1 24 rfl rfl
theorem dX0_wantsOf_0 : decode cX0_wantsOf 0 = .ok (.aload_n 0, 1) := dk_42 (dk_at dksX0_wantsOf_0 0 rfl rfl)
theorem dX0_wantsOf_1 : decode cX0_wantsOf 1 = .ok (.getfield 24, 3) := dk_180 0 24 (dk_at dksX0_wantsOf_0 1 rfl rfl)
theorem dX0_wantsOf_4 : decode cX0_wantsOf 4 = .ok (.iload_n 2, 1) := dk_28 (dk_at dksX0_wantsOf_0 4 rfl rfl)
theorem dX0_wantsOf_5 : decode cX0_wantsOf 5 = .ok (.aaload, 1) := dk_50 (dk_at dksX0_wantsOf_0 5 rfl rfl)
theorem dX0_wantsOf_6 : decode cX0_wantsOf 6 = .ok (.aload_n 1, 1) := dk_43 (dk_at dksX0_wantsOf_0 6 rfl rfl)
theorem dX0_wantsOf_7 : decode cX0_wantsOf 7 = .ok (.getfield 84, 3) := dk_180 0 84 (dk_at dksX0_wantsOf_0 7 rfl rfl)
theorem dX0_wantsOf_10 : decode cX0_wantsOf 10 = .ok (.invokevirtual 159, 3) := dk_182 0 159 (dk_at dksX0_wantsOf_0 10 rfl rfl)
theorem dX0_wantsOf_13 : decode cX0_wantsOf 13 = .ok (.ifCond .eq 18, 3) := dk_153 0 18 (dk_at dksX0_wantsOf_0 13 rfl rfl)
theorem dX0_wantsOf_16 : decode cX0_wantsOf 16 = .ok (.aload_n 1, 1) := dk_43 (dk_at dksX0_wantsOf_0 16 rfl rfl)
theorem dX0_wantsOf_17 : decode cX0_wantsOf 17 = .ok (.getfield 114, 3) := dk_180 0 114 (dk_at dksX0_wantsOf_0 17 rfl rfl)
theorem dX0_wantsOf_20 : decode cX0_wantsOf 20 = .ok (.iload_n 2, 1) := dk_28 (dk_at dksX0_wantsOf_0 20 rfl rfl)
theorem dX0_wantsOf_21 : decode cX0_wantsOf 21 = .ok (.invokestatic 124, 3) := dk_184 0 124 (dk_at dksX0_wantsOf_0 21 rfl rfl)
theorem dX0_wantsOf_24 : decode cX0_wantsOf 24 = .ok (.ifCond .ne 7, 3) := dk_154 0 7 (dk_at dksX0_wantsOf_1 0 rfl rfl)
theorem dX0_wantsOf_27 : decode cX0_wantsOf 27 = .ok (.iconst 1, 1) := dk_4 (dk_at dksX0_wantsOf_1 3 rfl rfl)
theorem dX0_wantsOf_28 : decode cX0_wantsOf 28 = .ok (.goto 4, 3) := dk_167 0 4 (dk_at dksX0_wantsOf_1 4 rfl rfl)
theorem dX0_wantsOf_31 : decode cX0_wantsOf 31 = .ok (.iconst 0, 1) := dk_3 (dk_at dksX0_wantsOf_1 7 rfl rfl)
theorem dX0_wantsOf_32 : decode cX0_wantsOf 32 = .ok (.istore_n 3, 1) := dk_62 (dk_at dksX0_wantsOf_1 8 rfl rfl)
theorem dX0_wantsOf_33 : decode cX0_wantsOf 33 = .ok (.iload_n 3, 1) := dk_29 (dk_at dksX0_wantsOf_1 9 rfl rfl)
theorem dX0_wantsOf_34 : decode cX0_wantsOf 34 = .ok (.ifCond .eq 27, 3) := dk_153 0 27 (dk_at dksX0_wantsOf_1 10 rfl rfl)
theorem dX0_wantsOf_37 : decode cX0_wantsOf 37 = .ok (.aload_n 0, 1) := dk_42 (dk_at dksX0_wantsOf_1 13 rfl rfl)
theorem dX0_wantsOf_38 : decode cX0_wantsOf 38 = .ok (.getfield 24, 3) := dk_180 0 24 (dk_at dksX0_wantsOf_1 14 rfl rfl)
theorem dX0_wantsOf_41 : decode cX0_wantsOf 41 = .ok (.iload_n 2, 1) := dk_28 (dk_at dksX0_wantsOf_1 17 rfl rfl)
theorem dX0_wantsOf_42 : decode cX0_wantsOf 42 = .ok (.aaload, 1) := dk_50 (dk_at dksX0_wantsOf_1 18 rfl rfl)
theorem dX0_wantsOf_43 : decode cX0_wantsOf 43 = .ok (.aload_n 1, 1) := dk_43 (dk_at dksX0_wantsOf_1 19 rfl rfl)
theorem dX0_wantsOf_44 : decode cX0_wantsOf 44 = .ok (.getfield 84, 3) := dk_180 0 84 (dk_at dksX0_wantsOf_1 20 rfl rfl)
theorem dX0_wantsOf_47 : decode cX0_wantsOf 47 = .ok (.aload_n 1, 1) := dk_43 (dk_at dksX0_wantsOf_1 23 rfl rfl)
theorem dX0_wantsOf_48 : decode cX0_wantsOf 48 = .ok (.getfield 162, 3) := dk_180 0 162 (dk_at dksX0_wantsOf_2 0 rfl rfl)
theorem dX0_wantsOf_51 : decode cX0_wantsOf 51 = .ok (.iload_n 2, 1) := dk_28 (dk_at dksX0_wantsOf_2 3 rfl rfl)
theorem dX0_wantsOf_52 : decode cX0_wantsOf 52 = .ok (.invokestatic 124, 3) := dk_184 0 124 (dk_at dksX0_wantsOf_2 4 rfl rfl)
theorem dX0_wantsOf_55 : decode cX0_wantsOf 55 = .ok (.invokevirtual 165, 3) := dk_182 0 165 (dk_at dksX0_wantsOf_2 7 rfl rfl)
theorem dX0_wantsOf_58 : decode cX0_wantsOf 58 = .ok (.goto 4, 3) := dk_167 0 4 (dk_at dksX0_wantsOf_2 10 rfl rfl)
theorem dX0_wantsOf_61 : decode cX0_wantsOf 61 = .ok (.iconst 0, 1) := dk_3 (dk_at dksX0_wantsOf_2 13 rfl rfl)
theorem dX0_wantsOf_62 : decode cX0_wantsOf 62 = .ok (.ireturn, 1) := dk_172 (dk_at dksX0_wantsOf_2 14 rfl rfl)
abbrev cX0_goes : ByteArray := prog_1_method_24_code
def yX0_goes : MethodName := ⟨RX0, "goes", "(I)I"⟩
def dkwX0_goes_0 : List UInt8 := [42, 27, 182, 0, 185, 153, 0, 15, 42, 42, 180, 0, 35, 27, 182, 0, 188, 167, 0, 5, 16, 154, 172]
abbrev dktX0_goes_0 : List UInt8 := dkwX0_goes_0 ++ []
theorem dksX0_goes_0 : cX0_goes.data.toList.drop 0 = dktX0_goes_0 := by decide +kernel
theorem dX0_goes_0 : decode cX0_goes 0 = .ok (.aload_n 0, 1) := dk_42 (dk_at dksX0_goes_0 0 rfl rfl)
theorem dX0_goes_1 : decode cX0_goes 1 = .ok (.iload_n 1, 1) := dk_27 (dk_at dksX0_goes_0 1 rfl rfl)
theorem dX0_goes_2 : decode cX0_goes 2 = .ok (.invokevirtual 185, 3) := dk_182 0 185 (dk_at dksX0_goes_0 2 rfl rfl)
theorem dX0_goes_5 : decode cX0_goes 5 = .ok (.ifCond .eq 15, 3) := dk_153 0 15 (dk_at dksX0_goes_0 5 rfl rfl)
theorem dX0_goes_8 : decode cX0_goes 8 = .ok (.aload_n 0, 1) := dk_42 (dk_at dksX0_goes_0 8 rfl rfl)
theorem dX0_goes_9 : decode cX0_goes 9 = .ok (.aload_n 0, 1) := dk_42 (dk_at dksX0_goes_0 9 rfl rfl)
theorem dX0_goes_10 : decode cX0_goes 10 = .ok (.getfield 35, 3) := dk_180 0 35 (dk_at dksX0_goes_0 10 rfl rfl)
theorem dX0_goes_13 : decode cX0_goes 13 = .ok (.iload_n 1, 1) := dk_27 (dk_at dksX0_goes_0 13 rfl rfl)
theorem dX0_goes_14 : decode cX0_goes 14 = .ok (.invokevirtual 188, 3) := dk_182 0 188 (dk_at dksX0_goes_0 14 rfl rfl)
theorem dX0_goes_17 : decode cX0_goes 17 = .ok (.goto 5, 3) := dk_167 0 5 (dk_at dksX0_goes_0 17 rfl rfl)
theorem dX0_goes_20 : decode cX0_goes 20 = .ok (.bipush (-102), 2) := dk_16 154 (dk_at dksX0_goes_0 20 rfl rfl)
theorem dX0_goes_22 : decode cX0_goes 22 = .ok (.ireturn, 1) := dk_172 (dk_at dksX0_goes_0 22 rfl rfl)
abbrev cX0_isSet : ByteArray := prog_1_method_11_code
def yX0_isSet : MethodName := ⟨RX0, "isSet", "(I)Z"⟩
def dkwX0_isSet_0 : List UInt8 := [27, 133, 9, 4, 42, 180, 0, 70, 120, 4, 100, 133, 184, 0, 117, 172]
abbrev dktX0_isSet_0 : List UInt8 := dkwX0_isSet_0 ++ []
theorem dksX0_isSet_0 : cX0_isSet.data.toList.drop 0 = dktX0_isSet_0 := by decide +kernel
theorem dX0_isSet_0 : decode cX0_isSet 0 = .ok (.iload_n 1, 1) := dk_27 (dk_at dksX0_isSet_0 0 rfl rfl)
theorem dX0_isSet_1 : decode cX0_isSet 1 = .ok (.i2l, 1) := dk_133 (dk_at dksX0_isSet_0 1 rfl rfl)
theorem dX0_isSet_2 : decode cX0_isSet 2 = .ok (.lconst 0, 1) := dk_9 (dk_at dksX0_isSet_0 2 rfl rfl)
theorem dX0_isSet_3 : decode cX0_isSet 3 = .ok (.iconst 1, 1) := dk_4 (dk_at dksX0_isSet_0 3 rfl rfl)
theorem dX0_isSet_4 : decode cX0_isSet 4 = .ok (.aload_n 0, 1) := dk_42 (dk_at dksX0_isSet_0 4 rfl rfl)
theorem dX0_isSet_5 : decode cX0_isSet 5 = .ok (.getfield 70, 3) := dk_180 0 70 (dk_at dksX0_isSet_0 5 rfl rfl)
theorem dX0_isSet_8 : decode cX0_isSet 8 = .ok (.ishl, 1) := dk_120 (dk_at dksX0_isSet_0 8 rfl rfl)
theorem dX0_isSet_9 : decode cX0_isSet 9 = .ok (.iconst 1, 1) := dk_4 (dk_at dksX0_isSet_0 9 rfl rfl)
theorem dX0_isSet_10 : decode cX0_isSet 10 = .ok (.isub, 1) := dk_100 (dk_at dksX0_isSet_0 10 rfl rfl)
theorem dX0_isSet_11 : decode cX0_isSet 11 = .ok (.i2l, 1) := dk_133 (dk_at dksX0_isSet_0 11 rfl rfl)
theorem dX0_isSet_12 : decode cX0_isSet 12 = .ok (.invokestatic 117, 3) := dk_184 0 117 (dk_at dksX0_isSet_0 12 rfl rfl)
theorem dX0_isSet_15 : decode cX0_isSet 15 = .ok (.ireturn, 1) := dk_172 (dk_at dksX0_isSet_0 15 rfl rfl)
abbrev cX0_goesBy : ByteArray := prog_1_method_23_code
def yX0_goesBy : MethodName := ⟨RX0, "goesBy", "(LTownOnWeight$Day;I)I"⟩
def dkwX0_goesBy_4 : List UInt8 := [21, 5, 172]
abbrev dktX0_goesBy_4 : List UInt8 := dkwX0_goesBy_4 ++ []
def dkwX0_goesBy_3 : List UInt8 := [21, 6, 50, 43, 180, 0, 155, 182, 0, 181, 167, 0, 4, 3, 96, 54, 5, 132, 6, 1, 167, 255, 186]
abbrev dktX0_goesBy_3 : List UInt8 := dkwX0_goesBy_3 ++ dktX0_goesBy_4
def dkwX0_goesBy_2 : List UInt8 := [167, 0, 4, 3, 96, 54, 5, 21, 5, 21, 4, 21, 6, 184, 0, 124, 153, 0, 20, 42, 180, 0, 24]
abbrev dktX0_goesBy_2 : List UInt8 := dkwX0_goesBy_2 ++ dktX0_goesBy_3
def dkwX0_goesBy_1 : List UInt8 := [180, 0, 70, 162, 0, 67, 21, 5, 29, 21, 6, 184, 0, 124, 153, 0, 13, 42, 43, 21, 6, 182, 0, 169]
abbrev dktX0_goesBy_1 : List UInt8 := dkwX0_goesBy_1 ++ dktX0_goesBy_2
def dkwX0_goesBy_0 : List UInt8 := [28, 42, 43, 182, 0, 173, 126, 62, 42, 29, 182, 0, 177, 54, 4, 3, 54, 5, 3, 54, 6, 21, 6, 42]
abbrev dktX0_goesBy_0 : List UInt8 := dkwX0_goesBy_0 ++ dktX0_goesBy_1
theorem dksX0_goesBy_0 : cX0_goesBy.data.toList.drop 0 = dktX0_goesBy_0 := by decide +kernel
theorem dksX0_goesBy_1 : cX0_goesBy.data.toList.drop 24 = dktX0_goesBy_1 := dk_seg dksX0_goesBy_0 24 rfl rfl
theorem dksX0_goesBy_2 : cX0_goesBy.data.toList.drop 48 = dktX0_goesBy_2 := dk_seg dksX0_goesBy_1 24 rfl rfl
theorem dksX0_goesBy_3 : cX0_goesBy.data.toList.drop 71 = dktX0_goesBy_3 := dk_seg dksX0_goesBy_2 23 rfl rfl
theorem dksX0_goesBy_4 : cX0_goesBy.data.toList.drop 94 = dktX0_goesBy_4 := dk_seg dksX0_goesBy_3 23 rfl rfl
theorem dX0_goesBy_0 : decode cX0_goesBy 0 = .ok (.iload_n 2, 1) := dk_28 (dk_at dksX0_goesBy_0 0 rfl rfl)
theorem dX0_goesBy_1 : decode cX0_goesBy 1 = .ok (.aload_n 0, 1) := dk_42 (dk_at dksX0_goesBy_0 1 rfl rfl)
theorem dX0_goesBy_2 : decode cX0_goesBy 2 = .ok (.aload_n 1, 1) := dk_43 (dk_at dksX0_goesBy_0 2 rfl rfl)
theorem dX0_goesBy_3 : decode cX0_goesBy 3 = .ok (.invokevirtual 173, 3) := dk_182 0 173 (dk_at dksX0_goesBy_0 3 rfl rfl)
theorem dX0_goesBy_6 : decode cX0_goesBy 6 = .ok (.iand, 1) := dk_126 (dk_at dksX0_goesBy_0 6 rfl rfl)
theorem dX0_goesBy_7 : decode cX0_goesBy 7 = .ok (.istore_n 3, 1) := dk_62 (dk_at dksX0_goesBy_0 7 rfl rfl)
theorem dX0_goesBy_8 : decode cX0_goesBy 8 = .ok (.aload_n 0, 1) := dk_42 (dk_at dksX0_goesBy_0 8 rfl rfl)
theorem dX0_goesBy_9 : decode cX0_goesBy 9 = .ok (.iload_n 3, 1) := dk_29 (dk_at dksX0_goesBy_0 9 rfl rfl)
theorem dX0_goesBy_10 : decode cX0_goesBy 10 = .ok (.invokevirtual 177, 3) := dk_182 0 177 (dk_at dksX0_goesBy_0 10 rfl rfl)
theorem dX0_goesBy_13 : decode cX0_goesBy 13 = .ok (.istore 4, 2) := dk_54 4 (dk_at dksX0_goesBy_0 13 rfl rfl)
theorem dX0_goesBy_15 : decode cX0_goesBy 15 = .ok (.iconst 0, 1) := dk_3 (dk_at dksX0_goesBy_0 15 rfl rfl)
theorem dX0_goesBy_16 : decode cX0_goesBy 16 = .ok (.istore 5, 2) := dk_54 5 (dk_at dksX0_goesBy_0 16 rfl rfl)
theorem dX0_goesBy_18 : decode cX0_goesBy 18 = .ok (.iconst 0, 1) := dk_3 (dk_at dksX0_goesBy_0 18 rfl rfl)
theorem dX0_goesBy_19 : decode cX0_goesBy 19 = .ok (.istore 6, 2) := dk_54 6 (dk_at dksX0_goesBy_0 19 rfl rfl)
theorem dX0_goesBy_21 : decode cX0_goesBy 21 = .ok (.iload 6, 2) := dk_21 6 (dk_at dksX0_goesBy_0 21 rfl rfl)
theorem dX0_goesBy_23 : decode cX0_goesBy 23 = .ok (.aload_n 0, 1) := dk_42 (dk_at dksX0_goesBy_0 23 rfl rfl)
theorem dX0_goesBy_24 : decode cX0_goesBy 24 = .ok (.getfield 70, 3) := dk_180 0 70 (dk_at dksX0_goesBy_1 0 rfl rfl)
theorem dX0_goesBy_27 : decode cX0_goesBy 27 = .ok (.if_icmp .ge 67, 3) := dk_162 0 67 (dk_at dksX0_goesBy_1 3 rfl rfl)
theorem dX0_goesBy_30 : decode cX0_goesBy 30 = .ok (.iload 5, 2) := dk_21 5 (dk_at dksX0_goesBy_1 6 rfl rfl)
theorem dX0_goesBy_32 : decode cX0_goesBy 32 = .ok (.iload_n 3, 1) := dk_29 (dk_at dksX0_goesBy_1 8 rfl rfl)
theorem dX0_goesBy_33 : decode cX0_goesBy 33 = .ok (.iload 6, 2) := dk_21 6 (dk_at dksX0_goesBy_1 9 rfl rfl)
theorem dX0_goesBy_35 : decode cX0_goesBy 35 = .ok (.invokestatic 124, 3) := dk_184 0 124 (dk_at dksX0_goesBy_1 11 rfl rfl)
theorem dX0_goesBy_38 : decode cX0_goesBy 38 = .ok (.ifCond .eq 13, 3) := dk_153 0 13 (dk_at dksX0_goesBy_1 14 rfl rfl)
theorem dX0_goesBy_41 : decode cX0_goesBy 41 = .ok (.aload_n 0, 1) := dk_42 (dk_at dksX0_goesBy_1 17 rfl rfl)
theorem dX0_goesBy_42 : decode cX0_goesBy 42 = .ok (.aload_n 1, 1) := dk_43 (dk_at dksX0_goesBy_1 18 rfl rfl)
theorem dX0_goesBy_43 : decode cX0_goesBy 43 = .ok (.iload 6, 2) := dk_21 6 (dk_at dksX0_goesBy_1 19 rfl rfl)
theorem dX0_goesBy_45 : decode cX0_goesBy 45 = .ok (.invokevirtual 169, 3) := dk_182 0 169 (dk_at dksX0_goesBy_1 21 rfl rfl)
theorem dX0_goesBy_48 : decode cX0_goesBy 48 = .ok (.goto 4, 3) := dk_167 0 4 (dk_at dksX0_goesBy_2 0 rfl rfl)
theorem dX0_goesBy_51 : decode cX0_goesBy 51 = .ok (.iconst 0, 1) := dk_3 (dk_at dksX0_goesBy_2 3 rfl rfl)
theorem dX0_goesBy_52 : decode cX0_goesBy 52 = .ok (.iadd, 1) := dk_96 (dk_at dksX0_goesBy_2 4 rfl rfl)
theorem dX0_goesBy_53 : decode cX0_goesBy 53 = .ok (.istore 5, 2) := dk_54 5 (dk_at dksX0_goesBy_2 5 rfl rfl)
theorem dX0_goesBy_55 : decode cX0_goesBy 55 = .ok (.iload 5, 2) := dk_21 5 (dk_at dksX0_goesBy_2 7 rfl rfl)
theorem dX0_goesBy_57 : decode cX0_goesBy 57 = .ok (.iload 4, 2) := dk_21 4 (dk_at dksX0_goesBy_2 9 rfl rfl)
theorem dX0_goesBy_59 : decode cX0_goesBy 59 = .ok (.iload 6, 2) := dk_21 6 (dk_at dksX0_goesBy_2 11 rfl rfl)
theorem dX0_goesBy_61 : decode cX0_goesBy 61 = .ok (.invokestatic 124, 3) := dk_184 0 124 (dk_at dksX0_goesBy_2 13 rfl rfl)
theorem dX0_goesBy_64 : decode cX0_goesBy 64 = .ok (.ifCond .eq 20, 3) := dk_153 0 20 (dk_at dksX0_goesBy_2 16 rfl rfl)
theorem dX0_goesBy_67 : decode cX0_goesBy 67 = .ok (.aload_n 0, 1) := dk_42 (dk_at dksX0_goesBy_2 19 rfl rfl)
theorem dX0_goesBy_68 : decode cX0_goesBy 68 = .ok (.getfield 24, 3) := dk_180 0 24 (dk_at dksX0_goesBy_2 20 rfl rfl)
theorem dX0_goesBy_71 : decode cX0_goesBy 71 = .ok (.iload 6, 2) := dk_21 6 (dk_at dksX0_goesBy_3 0 rfl rfl)
theorem dX0_goesBy_73 : decode cX0_goesBy 73 = .ok (.aaload, 1) := dk_50 (dk_at dksX0_goesBy_3 2 rfl rfl)
theorem dX0_goesBy_74 : decode cX0_goesBy 74 = .ok (.aload_n 1, 1) := dk_43 (dk_at dksX0_goesBy_3 3 rfl rfl)
theorem dX0_goesBy_75 : decode cX0_goesBy 75 = .ok (.getfield 155, 3) := dk_180 0 155 (dk_at dksX0_goesBy_3 4 rfl rfl)
theorem dX0_goesBy_78 : decode cX0_goesBy 78 = .ok (.invokevirtual 181, 3) := dk_182 0 181 (dk_at dksX0_goesBy_3 7 rfl rfl)
theorem dX0_goesBy_81 : decode cX0_goesBy 81 = .ok (.goto 4, 3) := dk_167 0 4 (dk_at dksX0_goesBy_3 10 rfl rfl)
theorem dX0_goesBy_84 : decode cX0_goesBy 84 = .ok (.iconst 0, 1) := dk_3 (dk_at dksX0_goesBy_3 13 rfl rfl)
theorem dX0_goesBy_85 : decode cX0_goesBy 85 = .ok (.iadd, 1) := dk_96 (dk_at dksX0_goesBy_3 14 rfl rfl)
theorem dX0_goesBy_86 : decode cX0_goesBy 86 = .ok (.istore 5, 2) := dk_54 5 (dk_at dksX0_goesBy_3 15 rfl rfl)
theorem dX0_goesBy_88 : decode cX0_goesBy 88 = .ok (.iinc 6 1, 3) := dk_132 6 1 (dk_at dksX0_goesBy_3 17 rfl rfl)
theorem dX0_goesBy_91 : decode cX0_goesBy 91 = .ok (.goto (-70), 3) := dk_167 255 186 (dk_at dksX0_goesBy_3 20 rfl rfl)
theorem dX0_goesBy_94 : decode cX0_goesBy 94 = .ok (.iload 5, 2) := dk_21 5 (dk_at dksX0_goesBy_4 0 rfl rfl)
theorem dX0_goesBy_96 : decode cX0_goesBy 96 = .ok (.ireturn, 1) := dk_172 (dk_at dksX0_goesBy_4 2 rfl rfl)
abbrev cX0_wanting : ByteArray := prog_1_method_22_code
def yX0_wanting : MethodName := ⟨RX0, "wanting", "(LTownOnWeight$Day;)I"⟩
def dkwX0_wanting_1 : List UInt8 := [120, 167, 0, 4, 3, 128, 61, 132, 3, 1, 167, 255, 226, 28, 172]
abbrev dktX0_wanting_1 : List UInt8 := dkwX0_wanting_1 ++ []
def dkwX0_wanting_0 : List UInt8 := [3, 61, 3, 62, 29, 42, 180, 0, 70, 162, 0, 28, 28, 42, 43, 29, 182, 0, 169, 158, 0, 9, 4, 29]
abbrev dktX0_wanting_0 : List UInt8 := dkwX0_wanting_0 ++ dktX0_wanting_1
theorem dksX0_wanting_0 : cX0_wanting.data.toList.drop 0 = dktX0_wanting_0 := by decide +kernel
theorem dksX0_wanting_1 : cX0_wanting.data.toList.drop 24 = dktX0_wanting_1 := dk_seg dksX0_wanting_0 24 rfl rfl
theorem dX0_wanting_0 : decode cX0_wanting 0 = .ok (.iconst 0, 1) := dk_3 (dk_at dksX0_wanting_0 0 rfl rfl)
theorem dX0_wanting_1 : decode cX0_wanting 1 = .ok (.istore_n 2, 1) := dk_61 (dk_at dksX0_wanting_0 1 rfl rfl)
theorem dX0_wanting_2 : decode cX0_wanting 2 = .ok (.iconst 0, 1) := dk_3 (dk_at dksX0_wanting_0 2 rfl rfl)
theorem dX0_wanting_3 : decode cX0_wanting 3 = .ok (.istore_n 3, 1) := dk_62 (dk_at dksX0_wanting_0 3 rfl rfl)
theorem dX0_wanting_4 : decode cX0_wanting 4 = .ok (.iload_n 3, 1) := dk_29 (dk_at dksX0_wanting_0 4 rfl rfl)
theorem dX0_wanting_5 : decode cX0_wanting 5 = .ok (.aload_n 0, 1) := dk_42 (dk_at dksX0_wanting_0 5 rfl rfl)
theorem dX0_wanting_6 : decode cX0_wanting 6 = .ok (.getfield 70, 3) := dk_180 0 70 (dk_at dksX0_wanting_0 6 rfl rfl)
theorem dX0_wanting_9 : decode cX0_wanting 9 = .ok (.if_icmp .ge 28, 3) := dk_162 0 28 (dk_at dksX0_wanting_0 9 rfl rfl)
theorem dX0_wanting_12 : decode cX0_wanting 12 = .ok (.iload_n 2, 1) := dk_28 (dk_at dksX0_wanting_0 12 rfl rfl)
theorem dX0_wanting_13 : decode cX0_wanting 13 = .ok (.aload_n 0, 1) := dk_42 (dk_at dksX0_wanting_0 13 rfl rfl)
theorem dX0_wanting_14 : decode cX0_wanting 14 = .ok (.aload_n 1, 1) := dk_43 (dk_at dksX0_wanting_0 14 rfl rfl)
theorem dX0_wanting_15 : decode cX0_wanting 15 = .ok (.iload_n 3, 1) := dk_29 (dk_at dksX0_wanting_0 15 rfl rfl)
theorem dX0_wanting_16 : decode cX0_wanting 16 = .ok (.invokevirtual 169, 3) := dk_182 0 169 (dk_at dksX0_wanting_0 16 rfl rfl)
theorem dX0_wanting_19 : decode cX0_wanting 19 = .ok (.ifCond .le 9, 3) := dk_158 0 9 (dk_at dksX0_wanting_0 19 rfl rfl)
theorem dX0_wanting_22 : decode cX0_wanting 22 = .ok (.iconst 1, 1) := dk_4 (dk_at dksX0_wanting_0 22 rfl rfl)
theorem dX0_wanting_23 : decode cX0_wanting 23 = .ok (.iload_n 3, 1) := dk_29 (dk_at dksX0_wanting_0 23 rfl rfl)
theorem dX0_wanting_24 : decode cX0_wanting 24 = .ok (.ishl, 1) := dk_120 (dk_at dksX0_wanting_1 0 rfl rfl)
theorem dX0_wanting_25 : decode cX0_wanting 25 = .ok (.goto 4, 3) := dk_167 0 4 (dk_at dksX0_wanting_1 1 rfl rfl)
theorem dX0_wanting_28 : decode cX0_wanting 28 = .ok (.iconst 0, 1) := dk_3 (dk_at dksX0_wanting_1 4 rfl rfl)
theorem dX0_wanting_29 : decode cX0_wanting 29 = .ok (.ior, 1) := dk_128 (dk_at dksX0_wanting_1 5 rfl rfl)
theorem dX0_wanting_30 : decode cX0_wanting 30 = .ok (.istore_n 2, 1) := dk_61 (dk_at dksX0_wanting_1 6 rfl rfl)
theorem dX0_wanting_31 : decode cX0_wanting 31 = .ok (.iinc 3 1, 3) := dk_132 3 1 (dk_at dksX0_wanting_1 7 rfl rfl)
theorem dX0_wanting_34 : decode cX0_wanting 34 = .ok (.goto (-30), 3) := dk_167 255 226 (dk_at dksX0_wanting_1 10 rfl rfl)
theorem dX0_wanting_37 : decode cX0_wanting 37 = .ok (.iload_n 2, 1) := dk_28 (dk_at dksX0_wanting_1 13 rfl rfl)
theorem dX0_wanting_38 : decode cX0_wanting 38 = .ok (.ireturn, 1) := dk_172 (dk_at dksX0_wanting_1 14 rfl rfl)
abbrev cX0_through : ByteArray := prog_1_method_21_code
def yX0_through : MethodName := ⟨RX0, "through", "(I)I"⟩
def dkwX0_through_2 : List UInt8 := [167, 0, 4, 3, 128, 61, 132, 3, 255, 167, 255, 210, 28, 172]
abbrev dktX0_through_2 : List UInt8 := dkwX0_through_2 ++ []
def dkwX0_through_1 : List UInt8 := [180, 0, 24, 29, 50, 180, 0, 100, 2, 159, 0, 17, 4, 42, 180, 0, 24, 29, 50, 180, 0, 100, 120]
abbrev dktX0_through_1 : List UInt8 := dkwX0_through_1 ++ dktX0_through_2
def dkwX0_through_0 : List UInt8 := [27, 61, 42, 180, 0, 70, 4, 100, 62, 29, 155, 0, 48, 28, 28, 29, 184, 0, 124, 153, 0, 30, 42]
abbrev dktX0_through_0 : List UInt8 := dkwX0_through_0 ++ dktX0_through_1
theorem dksX0_through_0 : cX0_through.data.toList.drop 0 = dktX0_through_0 := by decide +kernel
theorem dksX0_through_1 : cX0_through.data.toList.drop 23 = dktX0_through_1 := dk_seg dksX0_through_0 23 rfl rfl
theorem dksX0_through_2 : cX0_through.data.toList.drop 46 = dktX0_through_2 := dk_seg dksX0_through_1 23 rfl rfl
theorem dX0_through_0 : decode cX0_through 0 = .ok (.iload_n 1, 1) := dk_27 (dk_at dksX0_through_0 0 rfl rfl)
theorem dX0_through_1 : decode cX0_through 1 = .ok (.istore_n 2, 1) := dk_61 (dk_at dksX0_through_0 1 rfl rfl)
theorem dX0_through_2 : decode cX0_through 2 = .ok (.aload_n 0, 1) := dk_42 (dk_at dksX0_through_0 2 rfl rfl)
theorem dX0_through_3 : decode cX0_through 3 = .ok (.getfield 70, 3) := dk_180 0 70 (dk_at dksX0_through_0 3 rfl rfl)
theorem dX0_through_6 : decode cX0_through 6 = .ok (.iconst 1, 1) := dk_4 (dk_at dksX0_through_0 6 rfl rfl)
theorem dX0_through_7 : decode cX0_through 7 = .ok (.isub, 1) := dk_100 (dk_at dksX0_through_0 7 rfl rfl)
theorem dX0_through_8 : decode cX0_through 8 = .ok (.istore_n 3, 1) := dk_62 (dk_at dksX0_through_0 8 rfl rfl)
theorem dX0_through_9 : decode cX0_through 9 = .ok (.iload_n 3, 1) := dk_29 (dk_at dksX0_through_0 9 rfl rfl)
theorem dX0_through_10 : decode cX0_through 10 = .ok (.ifCond .lt 48, 3) := dk_155 0 48 (dk_at dksX0_through_0 10 rfl rfl)
theorem dX0_through_13 : decode cX0_through 13 = .ok (.iload_n 2, 1) := dk_28 (dk_at dksX0_through_0 13 rfl rfl)
theorem dX0_through_14 : decode cX0_through 14 = .ok (.iload_n 2, 1) := dk_28 (dk_at dksX0_through_0 14 rfl rfl)
theorem dX0_through_15 : decode cX0_through 15 = .ok (.iload_n 3, 1) := dk_29 (dk_at dksX0_through_0 15 rfl rfl)
theorem dX0_through_16 : decode cX0_through 16 = .ok (.invokestatic 124, 3) := dk_184 0 124 (dk_at dksX0_through_0 16 rfl rfl)
theorem dX0_through_19 : decode cX0_through 19 = .ok (.ifCond .eq 30, 3) := dk_153 0 30 (dk_at dksX0_through_0 19 rfl rfl)
theorem dX0_through_22 : decode cX0_through 22 = .ok (.aload_n 0, 1) := dk_42 (dk_at dksX0_through_0 22 rfl rfl)
theorem dX0_through_23 : decode cX0_through 23 = .ok (.getfield 24, 3) := dk_180 0 24 (dk_at dksX0_through_1 0 rfl rfl)
theorem dX0_through_26 : decode cX0_through 26 = .ok (.iload_n 3, 1) := dk_29 (dk_at dksX0_through_1 3 rfl rfl)
theorem dX0_through_27 : decode cX0_through 27 = .ok (.aaload, 1) := dk_50 (dk_at dksX0_through_1 4 rfl rfl)
theorem dX0_through_28 : decode cX0_through 28 = .ok (.getfield 100, 3) := dk_180 0 100 (dk_at dksX0_through_1 5 rfl rfl)
theorem dX0_through_31 : decode cX0_through 31 = .ok (.iconst (-1), 1) := dk_2 (dk_at dksX0_through_1 8 rfl rfl)
theorem dX0_through_32 : decode cX0_through 32 = .ok (.if_icmp .eq 17, 3) := dk_159 0 17 (dk_at dksX0_through_1 9 rfl rfl)
theorem dX0_through_35 : decode cX0_through 35 = .ok (.iconst 1, 1) := dk_4 (dk_at dksX0_through_1 12 rfl rfl)
theorem dX0_through_36 : decode cX0_through 36 = .ok (.aload_n 0, 1) := dk_42 (dk_at dksX0_through_1 13 rfl rfl)
theorem dX0_through_37 : decode cX0_through 37 = .ok (.getfield 24, 3) := dk_180 0 24 (dk_at dksX0_through_1 14 rfl rfl)
theorem dX0_through_40 : decode cX0_through 40 = .ok (.iload_n 3, 1) := dk_29 (dk_at dksX0_through_1 17 rfl rfl)
theorem dX0_through_41 : decode cX0_through 41 = .ok (.aaload, 1) := dk_50 (dk_at dksX0_through_1 18 rfl rfl)
theorem dX0_through_42 : decode cX0_through 42 = .ok (.getfield 100, 3) := dk_180 0 100 (dk_at dksX0_through_1 19 rfl rfl)
theorem dX0_through_45 : decode cX0_through 45 = .ok (.ishl, 1) := dk_120 (dk_at dksX0_through_1 22 rfl rfl)
theorem dX0_through_46 : decode cX0_through 46 = .ok (.goto 4, 3) := dk_167 0 4 (dk_at dksX0_through_2 0 rfl rfl)
theorem dX0_through_49 : decode cX0_through 49 = .ok (.iconst 0, 1) := dk_3 (dk_at dksX0_through_2 3 rfl rfl)
theorem dX0_through_50 : decode cX0_through 50 = .ok (.ior, 1) := dk_128 (dk_at dksX0_through_2 4 rfl rfl)
theorem dX0_through_51 : decode cX0_through 51 = .ok (.istore_n 2, 1) := dk_61 (dk_at dksX0_through_2 5 rfl rfl)
theorem dX0_through_52 : decode cX0_through 52 = .ok (.iinc 3 (-1), 3) := dk_132 3 255 (dk_at dksX0_through_2 6 rfl rfl)
theorem dX0_through_55 : decode cX0_through 55 = .ok (.goto (-46), 3) := dk_167 255 210 (dk_at dksX0_through_2 9 rfl rfl)
theorem dX0_through_58 : decode cX0_through 58 = .ok (.iload_n 2, 1) := dk_28 (dk_at dksX0_through_2 12 rfl rfl)
theorem dX0_through_59 : decode cX0_through 59 = .ok (.ireturn, 1) := dk_172 (dk_at dksX0_through_2 13 rfl rfl)
abbrev cX0_hour : ByteArray := prog_1_method_27_code
def yX0_hour : MethodName := ⟨RX0, "hour", "()I"⟩
def dkwX0_hour_0 : List UInt8 := [42, 180, 0, 35, 182, 0, 203, 153, 0, 8, 16, 153, 167, 0, 11, 42, 42, 180, 0, 35, 182, 0, 206, 172]
abbrev dktX0_hour_0 : List UInt8 := dkwX0_hour_0 ++ []
theorem dksX0_hour_0 : cX0_hour.data.toList.drop 0 = dktX0_hour_0 := by decide +kernel
theorem dX0_hour_0 : decode cX0_hour 0 = .ok (.aload_n 0, 1) := dk_42 (dk_at dksX0_hour_0 0 rfl rfl)
theorem dX0_hour_1 : decode cX0_hour 1 = .ok (.getfield 35, 3) := dk_180 0 35 (dk_at dksX0_hour_0 1 rfl rfl)
theorem dX0_hour_4 : decode cX0_hour 4 = .ok (.invokevirtual 203, 3) := dk_182 0 203 (dk_at dksX0_hour_0 4 rfl rfl)
theorem dX0_hour_7 : decode cX0_hour 7 = .ok (.ifCond .eq 8, 3) := dk_153 0 8 (dk_at dksX0_hour_0 7 rfl rfl)
theorem dX0_hour_10 : decode cX0_hour 10 = .ok (.bipush (-103), 2) := dk_16 153 (dk_at dksX0_hour_0 10 rfl rfl)
theorem dX0_hour_12 : decode cX0_hour 12 = .ok (.goto 11, 3) := dk_167 0 11 (dk_at dksX0_hour_0 12 rfl rfl)
theorem dX0_hour_15 : decode cX0_hour 15 = .ok (.aload_n 0, 1) := dk_42 (dk_at dksX0_hour_0 15 rfl rfl)
theorem dX0_hour_16 : decode cX0_hour 16 = .ok (.aload_n 0, 1) := dk_42 (dk_at dksX0_hour_0 16 rfl rfl)
theorem dX0_hour_17 : decode cX0_hour 17 = .ok (.getfield 35, 3) := dk_180 0 35 (dk_at dksX0_hour_0 17 rfl rfl)
theorem dX0_hour_20 : decode cX0_hour 20 = .ok (.invokevirtual 206, 3) := dk_182 0 206 (dk_at dksX0_hour_0 20 rfl rfl)
theorem dX0_hour_23 : decode cX0_hour 23 = .ok (.ireturn, 1) := dk_172 (dk_at dksX0_hour_0 23 rfl rfl)
abbrev cX0_pass : ByteArray := prog_1_method_26_code
def yX0_pass : MethodName := ⟨RX0, "pass", "(LTownOnWeight$Day;)I"⟩
def dkwX0_pass_7 : List UInt8 := [180, 0, 84, 4, 96, 181, 0, 84, 29, 172]
abbrev dktX0_pass_7 : List UInt8 := dkwX0_pass_7 ++ []
def dkwX0_pass_6 : List UInt8 := [180, 0, 200, 21, 5, 100, 181, 0, 200, 132, 4, 1, 167, 255, 199, 43, 28, 181, 0, 162, 43, 89]
abbrev dktX0_pass_6 : List UInt8 := dkwX0_pass_6 ++ dktX0_pass_7
def dkwX0_pass_5 : List UInt8 := [182, 0, 169, 167, 0, 4, 3, 54, 5, 43, 180, 0, 111, 21, 4, 92, 46, 21, 5, 96, 79, 43, 89]
abbrev dktX0_pass_5 : List UInt8 := dkwX0_pass_5 ++ dktX0_pass_6
def dkwX0_pass_4 : List UInt8 := [21, 4, 42, 180, 0, 70, 162, 0, 54, 28, 21, 4, 184, 0, 124, 153, 0, 13, 42, 43, 21, 4]
abbrev dktX0_pass_4 : List UInt8 := dkwX0_pass_4 ++ dktX0_pass_5
def dkwX0_pass_3 : List UInt8 := [43, 89, 180, 0, 152, 29, 100, 181, 0, 152, 43, 89, 180, 0, 200, 29, 96, 181, 0, 200, 3, 54, 4]
abbrev dktX0_pass_3 : List UInt8 := dkwX0_pass_3 ++ dktX0_pass_4
def dkwX0_pass_2 : List UInt8 := [182, 0, 188, 62, 29, 43, 180, 0, 152, 164, 0, 15, 43, 180, 0, 152, 62, 3, 61, 43, 4, 181, 0, 197]
abbrev dktX0_pass_2 : List UInt8 := dkwX0_pass_2 ++ dktX0_pass_3
def dkwX0_pass_1 : List UInt8 := [2, 159, 0, 18, 28, 4, 42, 28, 182, 0, 194, 120, 2, 130, 126, 61, 167, 255, 222, 42, 43, 28]
abbrev dktX0_pass_1 : List UInt8 := dkwX0_pass_1 ++ dktX0_pass_2
def dkwX0_pass_0 : List UInt8 := [42, 43, 182, 0, 173, 61, 42, 43, 28, 182, 0, 188, 43, 180, 0, 152, 164, 0, 27, 42, 28, 182, 0, 194]
abbrev dktX0_pass_0 : List UInt8 := dkwX0_pass_0 ++ dktX0_pass_1
theorem dksX0_pass_0 : cX0_pass.data.toList.drop 0 = dktX0_pass_0 := by decide +kernel
theorem dksX0_pass_1 : cX0_pass.data.toList.drop 24 = dktX0_pass_1 := dk_seg dksX0_pass_0 24 rfl rfl
theorem dksX0_pass_2 : cX0_pass.data.toList.drop 46 = dktX0_pass_2 := dk_seg dksX0_pass_1 22 rfl rfl
theorem dksX0_pass_3 : cX0_pass.data.toList.drop 70 = dktX0_pass_3 := dk_seg dksX0_pass_2 24 rfl rfl
theorem dksX0_pass_4 : cX0_pass.data.toList.drop 93 = dktX0_pass_4 := dk_seg dksX0_pass_3 23 rfl rfl
theorem dksX0_pass_5 : cX0_pass.data.toList.drop 115 = dktX0_pass_5 := dk_seg dksX0_pass_4 22 rfl rfl
theorem dksX0_pass_6 : cX0_pass.data.toList.drop 138 = dktX0_pass_6 := dk_seg dksX0_pass_5 23 rfl rfl
theorem dksX0_pass_7 : cX0_pass.data.toList.drop 160 = dktX0_pass_7 := dk_seg dksX0_pass_6 22 rfl rfl
theorem dX0_pass_0 : decode cX0_pass 0 = .ok (.aload_n 0, 1) := dk_42 (dk_at dksX0_pass_0 0 rfl rfl)
theorem dX0_pass_1 : decode cX0_pass 1 = .ok (.aload_n 1, 1) := dk_43 (dk_at dksX0_pass_0 1 rfl rfl)
theorem dX0_pass_2 : decode cX0_pass 2 = .ok (.invokevirtual 173, 3) := dk_182 0 173 (dk_at dksX0_pass_0 2 rfl rfl)
theorem dX0_pass_5 : decode cX0_pass 5 = .ok (.istore_n 2, 1) := dk_61 (dk_at dksX0_pass_0 5 rfl rfl)
theorem dX0_pass_6 : decode cX0_pass 6 = .ok (.aload_n 0, 1) := dk_42 (dk_at dksX0_pass_0 6 rfl rfl)
theorem dX0_pass_7 : decode cX0_pass 7 = .ok (.aload_n 1, 1) := dk_43 (dk_at dksX0_pass_0 7 rfl rfl)
theorem dX0_pass_8 : decode cX0_pass 8 = .ok (.iload_n 2, 1) := dk_28 (dk_at dksX0_pass_0 8 rfl rfl)
theorem dX0_pass_9 : decode cX0_pass 9 = .ok (.invokevirtual 188, 3) := dk_182 0 188 (dk_at dksX0_pass_0 9 rfl rfl)
theorem dX0_pass_12 : decode cX0_pass 12 = .ok (.aload_n 1, 1) := dk_43 (dk_at dksX0_pass_0 12 rfl rfl)
theorem dX0_pass_13 : decode cX0_pass 13 = .ok (.getfield 152, 3) := dk_180 0 152 (dk_at dksX0_pass_0 13 rfl rfl)
theorem dX0_pass_16 : decode cX0_pass 16 = .ok (.if_icmp .le 27, 3) := dk_164 0 27 (dk_at dksX0_pass_0 16 rfl rfl)
theorem dX0_pass_19 : decode cX0_pass 19 = .ok (.aload_n 0, 1) := dk_42 (dk_at dksX0_pass_0 19 rfl rfl)
theorem dX0_pass_20 : decode cX0_pass 20 = .ok (.iload_n 2, 1) := dk_28 (dk_at dksX0_pass_0 20 rfl rfl)
theorem dX0_pass_21 : decode cX0_pass 21 = .ok (.invokevirtual 194, 3) := dk_182 0 194 (dk_at dksX0_pass_0 21 rfl rfl)
theorem dX0_pass_24 : decode cX0_pass 24 = .ok (.iconst (-1), 1) := dk_2 (dk_at dksX0_pass_1 0 rfl rfl)
theorem dX0_pass_25 : decode cX0_pass 25 = .ok (.if_icmp .eq 18, 3) := dk_159 0 18 (dk_at dksX0_pass_1 1 rfl rfl)
theorem dX0_pass_28 : decode cX0_pass 28 = .ok (.iload_n 2, 1) := dk_28 (dk_at dksX0_pass_1 4 rfl rfl)
theorem dX0_pass_29 : decode cX0_pass 29 = .ok (.iconst 1, 1) := dk_4 (dk_at dksX0_pass_1 5 rfl rfl)
theorem dX0_pass_30 : decode cX0_pass 30 = .ok (.aload_n 0, 1) := dk_42 (dk_at dksX0_pass_1 6 rfl rfl)
theorem dX0_pass_31 : decode cX0_pass 31 = .ok (.iload_n 2, 1) := dk_28 (dk_at dksX0_pass_1 7 rfl rfl)
theorem dX0_pass_32 : decode cX0_pass 32 = .ok (.invokevirtual 194, 3) := dk_182 0 194 (dk_at dksX0_pass_1 8 rfl rfl)
theorem dX0_pass_35 : decode cX0_pass 35 = .ok (.ishl, 1) := dk_120 (dk_at dksX0_pass_1 11 rfl rfl)
theorem dX0_pass_36 : decode cX0_pass 36 = .ok (.iconst (-1), 1) := dk_2 (dk_at dksX0_pass_1 12 rfl rfl)
theorem dX0_pass_37 : decode cX0_pass 37 = .ok (.ixor, 1) := dk_130 (dk_at dksX0_pass_1 13 rfl rfl)
theorem dX0_pass_38 : decode cX0_pass 38 = .ok (.iand, 1) := dk_126 (dk_at dksX0_pass_1 14 rfl rfl)
theorem dX0_pass_39 : decode cX0_pass 39 = .ok (.istore_n 2, 1) := dk_61 (dk_at dksX0_pass_1 15 rfl rfl)
theorem dX0_pass_40 : decode cX0_pass 40 = .ok (.goto (-34), 3) := dk_167 255 222 (dk_at dksX0_pass_1 16 rfl rfl)
theorem dX0_pass_43 : decode cX0_pass 43 = .ok (.aload_n 0, 1) := dk_42 (dk_at dksX0_pass_1 19 rfl rfl)
theorem dX0_pass_44 : decode cX0_pass 44 = .ok (.aload_n 1, 1) := dk_43 (dk_at dksX0_pass_1 20 rfl rfl)
theorem dX0_pass_45 : decode cX0_pass 45 = .ok (.iload_n 2, 1) := dk_28 (dk_at dksX0_pass_1 21 rfl rfl)
theorem dX0_pass_46 : decode cX0_pass 46 = .ok (.invokevirtual 188, 3) := dk_182 0 188 (dk_at dksX0_pass_2 0 rfl rfl)
theorem dX0_pass_49 : decode cX0_pass 49 = .ok (.istore_n 3, 1) := dk_62 (dk_at dksX0_pass_2 3 rfl rfl)
theorem dX0_pass_50 : decode cX0_pass 50 = .ok (.iload_n 3, 1) := dk_29 (dk_at dksX0_pass_2 4 rfl rfl)
theorem dX0_pass_51 : decode cX0_pass 51 = .ok (.aload_n 1, 1) := dk_43 (dk_at dksX0_pass_2 5 rfl rfl)
theorem dX0_pass_52 : decode cX0_pass 52 = .ok (.getfield 152, 3) := dk_180 0 152 (dk_at dksX0_pass_2 6 rfl rfl)
theorem dX0_pass_55 : decode cX0_pass 55 = .ok (.if_icmp .le 15, 3) := dk_164 0 15 (dk_at dksX0_pass_2 9 rfl rfl)
theorem dX0_pass_58 : decode cX0_pass 58 = .ok (.aload_n 1, 1) := dk_43 (dk_at dksX0_pass_2 12 rfl rfl)
theorem dX0_pass_59 : decode cX0_pass 59 = .ok (.getfield 152, 3) := dk_180 0 152 (dk_at dksX0_pass_2 13 rfl rfl)
theorem dX0_pass_62 : decode cX0_pass 62 = .ok (.istore_n 3, 1) := dk_62 (dk_at dksX0_pass_2 16 rfl rfl)
theorem dX0_pass_63 : decode cX0_pass 63 = .ok (.iconst 0, 1) := dk_3 (dk_at dksX0_pass_2 17 rfl rfl)
theorem dX0_pass_64 : decode cX0_pass 64 = .ok (.istore_n 2, 1) := dk_61 (dk_at dksX0_pass_2 18 rfl rfl)
theorem dX0_pass_65 : decode cX0_pass 65 = .ok (.aload_n 1, 1) := dk_43 (dk_at dksX0_pass_2 19 rfl rfl)
theorem dX0_pass_66 : decode cX0_pass 66 = .ok (.iconst 1, 1) := dk_4 (dk_at dksX0_pass_2 20 rfl rfl)
theorem dX0_pass_67 : decode cX0_pass 67 = .ok (.putfield 197, 3) := dk_181 0 197 (dk_at dksX0_pass_2 21 rfl rfl)
theorem dX0_pass_70 : decode cX0_pass 70 = .ok (.aload_n 1, 1) := dk_43 (dk_at dksX0_pass_3 0 rfl rfl)
theorem dX0_pass_71 : decode cX0_pass 71 = .ok (.dup, 1) := dk_89 (dk_at dksX0_pass_3 1 rfl rfl)
theorem dX0_pass_72 : decode cX0_pass 72 = .ok (.getfield 152, 3) := dk_180 0 152 (dk_at dksX0_pass_3 2 rfl rfl)
theorem dX0_pass_75 : decode cX0_pass 75 = .ok (.iload_n 3, 1) := dk_29 (dk_at dksX0_pass_3 5 rfl rfl)
theorem dX0_pass_76 : decode cX0_pass 76 = .ok (.isub, 1) := dk_100 (dk_at dksX0_pass_3 6 rfl rfl)
theorem dX0_pass_77 : decode cX0_pass 77 = .ok (.putfield 152, 3) := dk_181 0 152 (dk_at dksX0_pass_3 7 rfl rfl)
theorem dX0_pass_80 : decode cX0_pass 80 = .ok (.aload_n 1, 1) := dk_43 (dk_at dksX0_pass_3 10 rfl rfl)
theorem dX0_pass_81 : decode cX0_pass 81 = .ok (.dup, 1) := dk_89 (dk_at dksX0_pass_3 11 rfl rfl)
theorem dX0_pass_82 : decode cX0_pass 82 = .ok (.getfield 200, 3) := dk_180 0 200 (dk_at dksX0_pass_3 12 rfl rfl)
theorem dX0_pass_85 : decode cX0_pass 85 = .ok (.iload_n 3, 1) := dk_29 (dk_at dksX0_pass_3 15 rfl rfl)
theorem dX0_pass_86 : decode cX0_pass 86 = .ok (.iadd, 1) := dk_96 (dk_at dksX0_pass_3 16 rfl rfl)
theorem dX0_pass_87 : decode cX0_pass 87 = .ok (.putfield 200, 3) := dk_181 0 200 (dk_at dksX0_pass_3 17 rfl rfl)
theorem dX0_pass_90 : decode cX0_pass 90 = .ok (.iconst 0, 1) := dk_3 (dk_at dksX0_pass_3 20 rfl rfl)
theorem dX0_pass_91 : decode cX0_pass 91 = .ok (.istore 4, 2) := dk_54 4 (dk_at dksX0_pass_3 21 rfl rfl)
theorem dX0_pass_93 : decode cX0_pass 93 = .ok (.iload 4, 2) := dk_21 4 (dk_at dksX0_pass_4 0 rfl rfl)
theorem dX0_pass_95 : decode cX0_pass 95 = .ok (.aload_n 0, 1) := dk_42 (dk_at dksX0_pass_4 2 rfl rfl)
theorem dX0_pass_96 : decode cX0_pass 96 = .ok (.getfield 70, 3) := dk_180 0 70 (dk_at dksX0_pass_4 3 rfl rfl)
theorem dX0_pass_99 : decode cX0_pass 99 = .ok (.if_icmp .ge 54, 3) := dk_162 0 54 (dk_at dksX0_pass_4 6 rfl rfl)
theorem dX0_pass_102 : decode cX0_pass 102 = .ok (.iload_n 2, 1) := dk_28 (dk_at dksX0_pass_4 9 rfl rfl)
theorem dX0_pass_103 : decode cX0_pass 103 = .ok (.iload 4, 2) := dk_21 4 (dk_at dksX0_pass_4 10 rfl rfl)
theorem dX0_pass_105 : decode cX0_pass 105 = .ok (.invokestatic 124, 3) := dk_184 0 124 (dk_at dksX0_pass_4 12 rfl rfl)
theorem dX0_pass_108 : decode cX0_pass 108 = .ok (.ifCond .eq 13, 3) := dk_153 0 13 (dk_at dksX0_pass_4 15 rfl rfl)
theorem dX0_pass_111 : decode cX0_pass 111 = .ok (.aload_n 0, 1) := dk_42 (dk_at dksX0_pass_4 18 rfl rfl)
theorem dX0_pass_112 : decode cX0_pass 112 = .ok (.aload_n 1, 1) := dk_43 (dk_at dksX0_pass_4 19 rfl rfl)
theorem dX0_pass_113 : decode cX0_pass 113 = .ok (.iload 4, 2) := dk_21 4 (dk_at dksX0_pass_4 20 rfl rfl)
theorem dX0_pass_115 : decode cX0_pass 115 = .ok (.invokevirtual 169, 3) := dk_182 0 169 (dk_at dksX0_pass_5 0 rfl rfl)
theorem dX0_pass_118 : decode cX0_pass 118 = .ok (.goto 4, 3) := dk_167 0 4 (dk_at dksX0_pass_5 3 rfl rfl)
theorem dX0_pass_121 : decode cX0_pass 121 = .ok (.iconst 0, 1) := dk_3 (dk_at dksX0_pass_5 6 rfl rfl)
theorem dX0_pass_122 : decode cX0_pass 122 = .ok (.istore 5, 2) := dk_54 5 (dk_at dksX0_pass_5 7 rfl rfl)
theorem dX0_pass_124 : decode cX0_pass 124 = .ok (.aload_n 1, 1) := dk_43 (dk_at dksX0_pass_5 9 rfl rfl)
theorem dX0_pass_125 : decode cX0_pass 125 = .ok (.getfield 111, 3) := dk_180 0 111 (dk_at dksX0_pass_5 10 rfl rfl)
theorem dX0_pass_128 : decode cX0_pass 128 = .ok (.iload 4, 2) := dk_21 4 (dk_at dksX0_pass_5 13 rfl rfl)
theorem dX0_pass_130 : decode cX0_pass 130 = .ok (.dup2, 1) := dk_92 (dk_at dksX0_pass_5 15 rfl rfl)
theorem dX0_pass_131 : decode cX0_pass 131 = .ok (.iaload, 1) := dk_46 (dk_at dksX0_pass_5 16 rfl rfl)
theorem dX0_pass_132 : decode cX0_pass 132 = .ok (.iload 5, 2) := dk_21 5 (dk_at dksX0_pass_5 17 rfl rfl)
theorem dX0_pass_134 : decode cX0_pass 134 = .ok (.iadd, 1) := dk_96 (dk_at dksX0_pass_5 19 rfl rfl)
theorem dX0_pass_135 : decode cX0_pass 135 = .ok (.iastore, 1) := dk_79 (dk_at dksX0_pass_5 20 rfl rfl)
theorem dX0_pass_136 : decode cX0_pass 136 = .ok (.aload_n 1, 1) := dk_43 (dk_at dksX0_pass_5 21 rfl rfl)
theorem dX0_pass_137 : decode cX0_pass 137 = .ok (.dup, 1) := dk_89 (dk_at dksX0_pass_5 22 rfl rfl)
theorem dX0_pass_138 : decode cX0_pass 138 = .ok (.getfield 200, 3) := dk_180 0 200 (dk_at dksX0_pass_6 0 rfl rfl)
theorem dX0_pass_141 : decode cX0_pass 141 = .ok (.iload 5, 2) := dk_21 5 (dk_at dksX0_pass_6 3 rfl rfl)
theorem dX0_pass_143 : decode cX0_pass 143 = .ok (.isub, 1) := dk_100 (dk_at dksX0_pass_6 5 rfl rfl)
theorem dX0_pass_144 : decode cX0_pass 144 = .ok (.putfield 200, 3) := dk_181 0 200 (dk_at dksX0_pass_6 6 rfl rfl)
theorem dX0_pass_147 : decode cX0_pass 147 = .ok (.iinc 4 1, 3) := dk_132 4 1 (dk_at dksX0_pass_6 9 rfl rfl)
theorem dX0_pass_150 : decode cX0_pass 150 = .ok (.goto (-57), 3) := dk_167 255 199 (dk_at dksX0_pass_6 12 rfl rfl)
theorem dX0_pass_153 : decode cX0_pass 153 = .ok (.aload_n 1, 1) := dk_43 (dk_at dksX0_pass_6 15 rfl rfl)
theorem dX0_pass_154 : decode cX0_pass 154 = .ok (.iload_n 2, 1) := dk_28 (dk_at dksX0_pass_6 16 rfl rfl)
theorem dX0_pass_155 : decode cX0_pass 155 = .ok (.putfield 162, 3) := dk_181 0 162 (dk_at dksX0_pass_6 17 rfl rfl)
theorem dX0_pass_158 : decode cX0_pass 158 = .ok (.aload_n 1, 1) := dk_43 (dk_at dksX0_pass_6 20 rfl rfl)
theorem dX0_pass_159 : decode cX0_pass 159 = .ok (.dup, 1) := dk_89 (dk_at dksX0_pass_6 21 rfl rfl)
theorem dX0_pass_160 : decode cX0_pass 160 = .ok (.getfield 84, 3) := dk_180 0 84 (dk_at dksX0_pass_7 0 rfl rfl)
theorem dX0_pass_163 : decode cX0_pass 163 = .ok (.iconst 1, 1) := dk_4 (dk_at dksX0_pass_7 3 rfl rfl)
theorem dX0_pass_164 : decode cX0_pass 164 = .ok (.iadd, 1) := dk_96 (dk_at dksX0_pass_7 4 rfl rfl)
theorem dX0_pass_165 : decode cX0_pass 165 = .ok (.putfield 84, 3) := dk_181 0 84 (dk_at dksX0_pass_7 5 rfl rfl)
theorem dX0_pass_168 : decode cX0_pass 168 = .ok (.iload_n 3, 1) := dk_29 (dk_at dksX0_pass_7 8 rfl rfl)
theorem dX0_pass_169 : decode cX0_pass 169 = .ok (.ireturn, 1) := dk_172 (dk_at dksX0_pass_7 9 rfl rfl)
abbrev cX0_lastToStop : ByteArray := prog_1_method_25_code
def yX0_lastToStop : MethodName := ⟨RX0, "lastToStop", "(I)I"⟩
def dkwX0_lastToStop_1 : List UInt8 := [29, 50, 182, 0, 191, 153, 0, 7, 29, 167, 0, 4, 28, 61, 132, 3, 1, 167, 255, 219, 28, 172]
abbrev dktX0_lastToStop_1 : List UInt8 := dkwX0_lastToStop_1 ++ []
def dkwX0_lastToStop_0 : List UInt8 := [2, 61, 3, 62, 29, 42, 180, 0, 70, 162, 0, 35, 27, 29, 184, 0, 124, 153, 0, 19, 42, 180, 0, 24]
abbrev dktX0_lastToStop_0 : List UInt8 := dkwX0_lastToStop_0 ++ dktX0_lastToStop_1
theorem dksX0_lastToStop_0 : cX0_lastToStop.data.toList.drop 0 = dktX0_lastToStop_0 := by decide +kernel
theorem dksX0_lastToStop_1 : cX0_lastToStop.data.toList.drop 24 = dktX0_lastToStop_1 := dk_seg dksX0_lastToStop_0 24 rfl rfl
theorem dX0_lastToStop_0 : decode cX0_lastToStop 0 = .ok (.iconst (-1), 1) := dk_2 (dk_at dksX0_lastToStop_0 0 rfl rfl)
theorem dX0_lastToStop_1 : decode cX0_lastToStop 1 = .ok (.istore_n 2, 1) := dk_61 (dk_at dksX0_lastToStop_0 1 rfl rfl)
theorem dX0_lastToStop_2 : decode cX0_lastToStop 2 = .ok (.iconst 0, 1) := dk_3 (dk_at dksX0_lastToStop_0 2 rfl rfl)
theorem dX0_lastToStop_3 : decode cX0_lastToStop 3 = .ok (.istore_n 3, 1) := dk_62 (dk_at dksX0_lastToStop_0 3 rfl rfl)
theorem dX0_lastToStop_4 : decode cX0_lastToStop 4 = .ok (.iload_n 3, 1) := dk_29 (dk_at dksX0_lastToStop_0 4 rfl rfl)
theorem dX0_lastToStop_5 : decode cX0_lastToStop 5 = .ok (.aload_n 0, 1) := dk_42 (dk_at dksX0_lastToStop_0 5 rfl rfl)
theorem dX0_lastToStop_6 : decode cX0_lastToStop 6 = .ok (.getfield 70, 3) := dk_180 0 70 (dk_at dksX0_lastToStop_0 6 rfl rfl)
theorem dX0_lastToStop_9 : decode cX0_lastToStop 9 = .ok (.if_icmp .ge 35, 3) := dk_162 0 35 (dk_at dksX0_lastToStop_0 9 rfl rfl)
theorem dX0_lastToStop_12 : decode cX0_lastToStop 12 = .ok (.iload_n 1, 1) := dk_27 (dk_at dksX0_lastToStop_0 12 rfl rfl)
theorem dX0_lastToStop_13 : decode cX0_lastToStop 13 = .ok (.iload_n 3, 1) := dk_29 (dk_at dksX0_lastToStop_0 13 rfl rfl)
theorem dX0_lastToStop_14 : decode cX0_lastToStop 14 = .ok (.invokestatic 124, 3) := dk_184 0 124 (dk_at dksX0_lastToStop_0 14 rfl rfl)
theorem dX0_lastToStop_17 : decode cX0_lastToStop 17 = .ok (.ifCond .eq 19, 3) := dk_153 0 19 (dk_at dksX0_lastToStop_0 17 rfl rfl)
theorem dX0_lastToStop_20 : decode cX0_lastToStop 20 = .ok (.aload_n 0, 1) := dk_42 (dk_at dksX0_lastToStop_0 20 rfl rfl)
theorem dX0_lastToStop_21 : decode cX0_lastToStop 21 = .ok (.getfield 24, 3) := dk_180 0 24 (dk_at dksX0_lastToStop_0 21 rfl rfl)
theorem dX0_lastToStop_24 : decode cX0_lastToStop 24 = .ok (.iload_n 3, 1) := dk_29 (dk_at dksX0_lastToStop_1 0 rfl rfl)
theorem dX0_lastToStop_25 : decode cX0_lastToStop 25 = .ok (.aaload, 1) := dk_50 (dk_at dksX0_lastToStop_1 1 rfl rfl)
theorem dX0_lastToStop_26 : decode cX0_lastToStop 26 = .ok (.invokevirtual 191, 3) := dk_182 0 191 (dk_at dksX0_lastToStop_1 2 rfl rfl)
theorem dX0_lastToStop_29 : decode cX0_lastToStop 29 = .ok (.ifCond .eq 7, 3) := dk_153 0 7 (dk_at dksX0_lastToStop_1 5 rfl rfl)
theorem dX0_lastToStop_32 : decode cX0_lastToStop 32 = .ok (.iload_n 3, 1) := dk_29 (dk_at dksX0_lastToStop_1 8 rfl rfl)
theorem dX0_lastToStop_33 : decode cX0_lastToStop 33 = .ok (.goto 4, 3) := dk_167 0 4 (dk_at dksX0_lastToStop_1 9 rfl rfl)
theorem dX0_lastToStop_36 : decode cX0_lastToStop 36 = .ok (.iload_n 2, 1) := dk_28 (dk_at dksX0_lastToStop_1 12 rfl rfl)
theorem dX0_lastToStop_37 : decode cX0_lastToStop 37 = .ok (.istore_n 2, 1) := dk_61 (dk_at dksX0_lastToStop_1 13 rfl rfl)
theorem dX0_lastToStop_38 : decode cX0_lastToStop 38 = .ok (.iinc 3 1, 3) := dk_132 3 1 (dk_at dksX0_lastToStop_1 14 rfl rfl)
theorem dX0_lastToStop_41 : decode cX0_lastToStop 41 = .ok (.goto (-37), 3) := dk_167 255 219 (dk_at dksX0_lastToStop_1 17 rfl rfl)
theorem dX0_lastToStop_44 : decode cX0_lastToStop 44 = .ok (.iload_n 2, 1) := dk_28 (dk_at dksX0_lastToStop_1 20 rfl rfl)
theorem dX0_lastToStop_45 : decode cX0_lastToStop 45 = .ok (.ireturn, 1) := dk_172 (dk_at dksX0_lastToStop_1 21 rfl rfl)
abbrev cX0_worked : ByteArray := prog_1_method_28_code
def yX0_worked : MethodName := ⟨RX0, "worked", "()I"⟩
def dkwX0_worked_0 : List UInt8 := [42, 180, 0, 35, 180, 0, 162, 172]
abbrev dktX0_worked_0 : List UInt8 := dkwX0_worked_0 ++ []
theorem dksX0_worked_0 : cX0_worked.data.toList.drop 0 = dktX0_worked_0 := by decide +kernel
theorem dX0_worked_0 : decode cX0_worked 0 = .ok (.aload_n 0, 1) := dk_42 (dk_at dksX0_worked_0 0 rfl rfl)
theorem dX0_worked_1 : decode cX0_worked 1 = .ok (.getfield 35, 3) := dk_180 0 35 (dk_at dksX0_worked_0 1 rfl rfl)
theorem dX0_worked_4 : decode cX0_worked 4 = .ok (.getfield 162, 3) := dk_180 0 162 (dk_at dksX0_worked_0 4 rfl rfl)
theorem dX0_worked_7 : decode cX0_worked 7 = .ok (.ireturn, 1) := dk_172 (dk_at dksX0_worked_0 7 rfl rfl)
abbrev cX0_part : ByteArray := prog_1_method_30_code
def yX0_part : MethodName := ⟨RX0, "part", "(I)I"⟩
def dkwX0_part_0 : List UInt8 := [42, 27, 182, 0, 128, 153, 0, 11, 42, 27, 182, 0, 212, 167, 0, 5, 16, 155, 172]
abbrev dktX0_part_0 : List UInt8 := dkwX0_part_0 ++ []
theorem dksX0_part_0 : cX0_part.data.toList.drop 0 = dktX0_part_0 := by decide +kernel
theorem dX0_part_0 : decode cX0_part 0 = .ok (.aload_n 0, 1) := dk_42 (dk_at dksX0_part_0 0 rfl rfl)
theorem dX0_part_1 : decode cX0_part 1 = .ok (.iload_n 1, 1) := dk_27 (dk_at dksX0_part_0 1 rfl rfl)
theorem dX0_part_2 : decode cX0_part 2 = .ok (.invokevirtual 128, 3) := dk_182 0 128 (dk_at dksX0_part_0 2 rfl rfl)
theorem dX0_part_5 : decode cX0_part 5 = .ok (.ifCond .eq 11, 3) := dk_153 0 11 (dk_at dksX0_part_0 5 rfl rfl)
theorem dX0_part_8 : decode cX0_part 8 = .ok (.aload_n 0, 1) := dk_42 (dk_at dksX0_part_0 8 rfl rfl)
theorem dX0_part_9 : decode cX0_part 9 = .ok (.iload_n 1, 1) := dk_27 (dk_at dksX0_part_0 9 rfl rfl)
theorem dX0_part_10 : decode cX0_part 10 = .ok (.invokevirtual 212, 3) := dk_182 0 212 (dk_at dksX0_part_0 10 rfl rfl)
theorem dX0_part_13 : decode cX0_part 13 = .ok (.goto 5, 3) := dk_167 0 5 (dk_at dksX0_part_0 13 rfl rfl)
theorem dX0_part_16 : decode cX0_part 16 = .ok (.bipush (-101), 2) := dk_16 155 (dk_at dksX0_part_0 16 rfl rfl)
theorem dX0_part_18 : decode cX0_part 18 = .ok (.ireturn, 1) := dk_172 (dk_at dksX0_part_0 18 rfl rfl)
abbrev cX0_partOf : ByteArray := prog_1_method_29_code
def yX0_partOf : MethodName := ⟨RX0, "partOf", "(I)I"⟩
def dkwX0_partOf_7 : List UInt8 := [104, 28, 108, 21, 6, 21, 4, 162, 0, 7, 4, 167, 0, 4, 3, 96, 172]
abbrev dktX0_partOf_7 : List UInt8 := dkwX0_partOf_7 ++ []
def dkwX0_partOf_6 : List UInt8 := [4, 167, 0, 4, 3, 96, 54, 6, 132, 7, 1, 167, 255, 198, 29, 42, 180, 0, 35, 180, 0, 111, 27, 46]
abbrev dktX0_partOf_6 : List UInt8 := dkwX0_partOf_6 ++ dktX0_partOf_7
def dkwX0_partOf_5 : List UInt8 := [54, 8, 21, 6, 21, 8, 21, 5, 163, 0, 16, 21, 8, 21, 5, 160, 0, 13, 21, 7, 27, 162, 0, 7]
abbrev dktX0_partOf_5 : List UInt8 := dkwX0_partOf_5 ++ dktX0_partOf_6
def dkwX0_partOf_4 : List UInt8 := [21, 7, 42, 180, 0, 70, 162, 0, 55, 29, 42, 180, 0, 35, 180, 0, 111, 21, 7, 46, 104, 28, 112]
abbrev dktX0_partOf_4 : List UInt8 := dkwX0_partOf_4 ++ dktX0_partOf_5
def dkwX0_partOf_3 : List UInt8 := [167, 255, 225, 29, 42, 180, 0, 35, 180, 0, 111, 27, 46, 104, 28, 112, 54, 5, 3, 54, 6, 3, 54, 7]
abbrev dktX0_partOf_3 : List UInt8 := dkwX0_partOf_3 ++ dktX0_partOf_4
def dkwX0_partOf_2 : List UInt8 := [21, 4, 29, 42, 180, 0, 35, 180, 0, 111, 21, 5, 46, 104, 28, 108, 100, 54, 4, 132, 5, 1]
abbrev dktX0_partOf_2 : List UInt8 := dkwX0_partOf_2 ++ dktX0_partOf_3
def dkwX0_partOf_1 : List UInt8 := [180, 0, 35, 180, 0, 152, 100, 62, 29, 54, 4, 3, 54, 5, 21, 5, 42, 180, 0, 70, 162, 0, 28]
abbrev dktX0_partOf_1 : List UInt8 := dkwX0_partOf_1 ++ dktX0_partOf_2
def dkwX0_partOf_0 : List UInt8 := [42, 180, 0, 35, 182, 0, 209, 61, 28, 154, 0, 5, 3, 172, 42, 180, 0, 35, 180, 0, 149, 42]
abbrev dktX0_partOf_0 : List UInt8 := dkwX0_partOf_0 ++ dktX0_partOf_1
theorem dksX0_partOf_0 : cX0_partOf.data.toList.drop 0 = dktX0_partOf_0 := by decide +kernel
theorem dksX0_partOf_1 : cX0_partOf.data.toList.drop 22 = dktX0_partOf_1 := dk_seg dksX0_partOf_0 22 rfl rfl
theorem dksX0_partOf_2 : cX0_partOf.data.toList.drop 45 = dktX0_partOf_2 := dk_seg dksX0_partOf_1 23 rfl rfl
theorem dksX0_partOf_3 : cX0_partOf.data.toList.drop 67 = dktX0_partOf_3 := dk_seg dksX0_partOf_2 22 rfl rfl
theorem dksX0_partOf_4 : cX0_partOf.data.toList.drop 91 = dktX0_partOf_4 := dk_seg dksX0_partOf_3 24 rfl rfl
theorem dksX0_partOf_5 : cX0_partOf.data.toList.drop 114 = dktX0_partOf_5 := dk_seg dksX0_partOf_4 23 rfl rfl
theorem dksX0_partOf_6 : cX0_partOf.data.toList.drop 138 = dktX0_partOf_6 := dk_seg dksX0_partOf_5 24 rfl rfl
theorem dksX0_partOf_7 : cX0_partOf.data.toList.drop 162 = dktX0_partOf_7 := dk_seg dksX0_partOf_6 24 rfl rfl
theorem dX0_partOf_0 : decode cX0_partOf 0 = .ok (.aload_n 0, 1) := dk_42 (dk_at dksX0_partOf_0 0 rfl rfl)
theorem dX0_partOf_1 : decode cX0_partOf 1 = .ok (.getfield 35, 3) := dk_180 0 35 (dk_at dksX0_partOf_0 1 rfl rfl)
theorem dX0_partOf_4 : decode cX0_partOf 4 = .ok (.invokevirtual 209, 3) := dk_182 0 209 (dk_at dksX0_partOf_0 4 rfl rfl)
theorem dX0_partOf_7 : decode cX0_partOf 7 = .ok (.istore_n 2, 1) := dk_61 (dk_at dksX0_partOf_0 7 rfl rfl)
theorem dX0_partOf_8 : decode cX0_partOf 8 = .ok (.iload_n 2, 1) := dk_28 (dk_at dksX0_partOf_0 8 rfl rfl)
theorem dX0_partOf_9 : decode cX0_partOf 9 = .ok (.ifCond .ne 5, 3) := dk_154 0 5 (dk_at dksX0_partOf_0 9 rfl rfl)
theorem dX0_partOf_12 : decode cX0_partOf 12 = .ok (.iconst 0, 1) := dk_3 (dk_at dksX0_partOf_0 12 rfl rfl)
theorem dX0_partOf_13 : decode cX0_partOf 13 = .ok (.ireturn, 1) := dk_172 (dk_at dksX0_partOf_0 13 rfl rfl)
theorem dX0_partOf_14 : decode cX0_partOf 14 = .ok (.aload_n 0, 1) := dk_42 (dk_at dksX0_partOf_0 14 rfl rfl)
theorem dX0_partOf_15 : decode cX0_partOf 15 = .ok (.getfield 35, 3) := dk_180 0 35 (dk_at dksX0_partOf_0 15 rfl rfl)
theorem dX0_partOf_18 : decode cX0_partOf 18 = .ok (.getfield 149, 3) := dk_180 0 149 (dk_at dksX0_partOf_0 18 rfl rfl)
theorem dX0_partOf_21 : decode cX0_partOf 21 = .ok (.aload_n 0, 1) := dk_42 (dk_at dksX0_partOf_0 21 rfl rfl)
theorem dX0_partOf_22 : decode cX0_partOf 22 = .ok (.getfield 35, 3) := dk_180 0 35 (dk_at dksX0_partOf_1 0 rfl rfl)
theorem dX0_partOf_25 : decode cX0_partOf 25 = .ok (.getfield 152, 3) := dk_180 0 152 (dk_at dksX0_partOf_1 3 rfl rfl)
theorem dX0_partOf_28 : decode cX0_partOf 28 = .ok (.isub, 1) := dk_100 (dk_at dksX0_partOf_1 6 rfl rfl)
theorem dX0_partOf_29 : decode cX0_partOf 29 = .ok (.istore_n 3, 1) := dk_62 (dk_at dksX0_partOf_1 7 rfl rfl)
theorem dX0_partOf_30 : decode cX0_partOf 30 = .ok (.iload_n 3, 1) := dk_29 (dk_at dksX0_partOf_1 8 rfl rfl)
theorem dX0_partOf_31 : decode cX0_partOf 31 = .ok (.istore 4, 2) := dk_54 4 (dk_at dksX0_partOf_1 9 rfl rfl)
theorem dX0_partOf_33 : decode cX0_partOf 33 = .ok (.iconst 0, 1) := dk_3 (dk_at dksX0_partOf_1 11 rfl rfl)
theorem dX0_partOf_34 : decode cX0_partOf 34 = .ok (.istore 5, 2) := dk_54 5 (dk_at dksX0_partOf_1 12 rfl rfl)
theorem dX0_partOf_36 : decode cX0_partOf 36 = .ok (.iload 5, 2) := dk_21 5 (dk_at dksX0_partOf_1 14 rfl rfl)
theorem dX0_partOf_38 : decode cX0_partOf 38 = .ok (.aload_n 0, 1) := dk_42 (dk_at dksX0_partOf_1 16 rfl rfl)
theorem dX0_partOf_39 : decode cX0_partOf 39 = .ok (.getfield 70, 3) := dk_180 0 70 (dk_at dksX0_partOf_1 17 rfl rfl)
theorem dX0_partOf_42 : decode cX0_partOf 42 = .ok (.if_icmp .ge 28, 3) := dk_162 0 28 (dk_at dksX0_partOf_1 20 rfl rfl)
theorem dX0_partOf_45 : decode cX0_partOf 45 = .ok (.iload 4, 2) := dk_21 4 (dk_at dksX0_partOf_2 0 rfl rfl)
theorem dX0_partOf_47 : decode cX0_partOf 47 = .ok (.iload_n 3, 1) := dk_29 (dk_at dksX0_partOf_2 2 rfl rfl)
theorem dX0_partOf_48 : decode cX0_partOf 48 = .ok (.aload_n 0, 1) := dk_42 (dk_at dksX0_partOf_2 3 rfl rfl)
theorem dX0_partOf_49 : decode cX0_partOf 49 = .ok (.getfield 35, 3) := dk_180 0 35 (dk_at dksX0_partOf_2 4 rfl rfl)
theorem dX0_partOf_52 : decode cX0_partOf 52 = .ok (.getfield 111, 3) := dk_180 0 111 (dk_at dksX0_partOf_2 7 rfl rfl)
theorem dX0_partOf_55 : decode cX0_partOf 55 = .ok (.iload 5, 2) := dk_21 5 (dk_at dksX0_partOf_2 10 rfl rfl)
theorem dX0_partOf_57 : decode cX0_partOf 57 = .ok (.iaload, 1) := dk_46 (dk_at dksX0_partOf_2 12 rfl rfl)
theorem dX0_partOf_58 : decode cX0_partOf 58 = .ok (.imul, 1) := dk_104 (dk_at dksX0_partOf_2 13 rfl rfl)
theorem dX0_partOf_59 : decode cX0_partOf 59 = .ok (.iload_n 2, 1) := dk_28 (dk_at dksX0_partOf_2 14 rfl rfl)
theorem dX0_partOf_60 : decode cX0_partOf 60 = .ok (.idiv, 1) := dk_108 (dk_at dksX0_partOf_2 15 rfl rfl)
theorem dX0_partOf_61 : decode cX0_partOf 61 = .ok (.isub, 1) := dk_100 (dk_at dksX0_partOf_2 16 rfl rfl)
theorem dX0_partOf_62 : decode cX0_partOf 62 = .ok (.istore 4, 2) := dk_54 4 (dk_at dksX0_partOf_2 17 rfl rfl)
theorem dX0_partOf_64 : decode cX0_partOf 64 = .ok (.iinc 5 1, 3) := dk_132 5 1 (dk_at dksX0_partOf_2 19 rfl rfl)
theorem dX0_partOf_67 : decode cX0_partOf 67 = .ok (.goto (-31), 3) := dk_167 255 225 (dk_at dksX0_partOf_3 0 rfl rfl)
theorem dX0_partOf_70 : decode cX0_partOf 70 = .ok (.iload_n 3, 1) := dk_29 (dk_at dksX0_partOf_3 3 rfl rfl)
theorem dX0_partOf_71 : decode cX0_partOf 71 = .ok (.aload_n 0, 1) := dk_42 (dk_at dksX0_partOf_3 4 rfl rfl)
theorem dX0_partOf_72 : decode cX0_partOf 72 = .ok (.getfield 35, 3) := dk_180 0 35 (dk_at dksX0_partOf_3 5 rfl rfl)
theorem dX0_partOf_75 : decode cX0_partOf 75 = .ok (.getfield 111, 3) := dk_180 0 111 (dk_at dksX0_partOf_3 8 rfl rfl)
theorem dX0_partOf_78 : decode cX0_partOf 78 = .ok (.iload_n 1, 1) := dk_27 (dk_at dksX0_partOf_3 11 rfl rfl)
theorem dX0_partOf_79 : decode cX0_partOf 79 = .ok (.iaload, 1) := dk_46 (dk_at dksX0_partOf_3 12 rfl rfl)
theorem dX0_partOf_80 : decode cX0_partOf 80 = .ok (.imul, 1) := dk_104 (dk_at dksX0_partOf_3 13 rfl rfl)
theorem dX0_partOf_81 : decode cX0_partOf 81 = .ok (.iload_n 2, 1) := dk_28 (dk_at dksX0_partOf_3 14 rfl rfl)
theorem dX0_partOf_82 : decode cX0_partOf 82 = .ok (.irem, 1) := dk_112 (dk_at dksX0_partOf_3 15 rfl rfl)
theorem dX0_partOf_83 : decode cX0_partOf 83 = .ok (.istore 5, 2) := dk_54 5 (dk_at dksX0_partOf_3 16 rfl rfl)
theorem dX0_partOf_85 : decode cX0_partOf 85 = .ok (.iconst 0, 1) := dk_3 (dk_at dksX0_partOf_3 18 rfl rfl)
theorem dX0_partOf_86 : decode cX0_partOf 86 = .ok (.istore 6, 2) := dk_54 6 (dk_at dksX0_partOf_3 19 rfl rfl)
theorem dX0_partOf_88 : decode cX0_partOf 88 = .ok (.iconst 0, 1) := dk_3 (dk_at dksX0_partOf_3 21 rfl rfl)
theorem dX0_partOf_89 : decode cX0_partOf 89 = .ok (.istore 7, 2) := dk_54 7 (dk_at dksX0_partOf_3 22 rfl rfl)
theorem dX0_partOf_91 : decode cX0_partOf 91 = .ok (.iload 7, 2) := dk_21 7 (dk_at dksX0_partOf_4 0 rfl rfl)
theorem dX0_partOf_93 : decode cX0_partOf 93 = .ok (.aload_n 0, 1) := dk_42 (dk_at dksX0_partOf_4 2 rfl rfl)
theorem dX0_partOf_94 : decode cX0_partOf 94 = .ok (.getfield 70, 3) := dk_180 0 70 (dk_at dksX0_partOf_4 3 rfl rfl)
theorem dX0_partOf_97 : decode cX0_partOf 97 = .ok (.if_icmp .ge 55, 3) := dk_162 0 55 (dk_at dksX0_partOf_4 6 rfl rfl)
theorem dX0_partOf_100 : decode cX0_partOf 100 = .ok (.iload_n 3, 1) := dk_29 (dk_at dksX0_partOf_4 9 rfl rfl)
theorem dX0_partOf_101 : decode cX0_partOf 101 = .ok (.aload_n 0, 1) := dk_42 (dk_at dksX0_partOf_4 10 rfl rfl)
theorem dX0_partOf_102 : decode cX0_partOf 102 = .ok (.getfield 35, 3) := dk_180 0 35 (dk_at dksX0_partOf_4 11 rfl rfl)
theorem dX0_partOf_105 : decode cX0_partOf 105 = .ok (.getfield 111, 3) := dk_180 0 111 (dk_at dksX0_partOf_4 14 rfl rfl)
theorem dX0_partOf_108 : decode cX0_partOf 108 = .ok (.iload 7, 2) := dk_21 7 (dk_at dksX0_partOf_4 17 rfl rfl)
theorem dX0_partOf_110 : decode cX0_partOf 110 = .ok (.iaload, 1) := dk_46 (dk_at dksX0_partOf_4 19 rfl rfl)
theorem dX0_partOf_111 : decode cX0_partOf 111 = .ok (.imul, 1) := dk_104 (dk_at dksX0_partOf_4 20 rfl rfl)
theorem dX0_partOf_112 : decode cX0_partOf 112 = .ok (.iload_n 2, 1) := dk_28 (dk_at dksX0_partOf_4 21 rfl rfl)
theorem dX0_partOf_113 : decode cX0_partOf 113 = .ok (.irem, 1) := dk_112 (dk_at dksX0_partOf_4 22 rfl rfl)
theorem dX0_partOf_114 : decode cX0_partOf 114 = .ok (.istore 8, 2) := dk_54 8 (dk_at dksX0_partOf_5 0 rfl rfl)
theorem dX0_partOf_116 : decode cX0_partOf 116 = .ok (.iload 6, 2) := dk_21 6 (dk_at dksX0_partOf_5 2 rfl rfl)
theorem dX0_partOf_118 : decode cX0_partOf 118 = .ok (.iload 8, 2) := dk_21 8 (dk_at dksX0_partOf_5 4 rfl rfl)
theorem dX0_partOf_120 : decode cX0_partOf 120 = .ok (.iload 5, 2) := dk_21 5 (dk_at dksX0_partOf_5 6 rfl rfl)
theorem dX0_partOf_122 : decode cX0_partOf 122 = .ok (.if_icmp .gt 16, 3) := dk_163 0 16 (dk_at dksX0_partOf_5 8 rfl rfl)
theorem dX0_partOf_125 : decode cX0_partOf 125 = .ok (.iload 8, 2) := dk_21 8 (dk_at dksX0_partOf_5 11 rfl rfl)
theorem dX0_partOf_127 : decode cX0_partOf 127 = .ok (.iload 5, 2) := dk_21 5 (dk_at dksX0_partOf_5 13 rfl rfl)
theorem dX0_partOf_129 : decode cX0_partOf 129 = .ok (.if_icmp .ne 13, 3) := dk_160 0 13 (dk_at dksX0_partOf_5 15 rfl rfl)
theorem dX0_partOf_132 : decode cX0_partOf 132 = .ok (.iload 7, 2) := dk_21 7 (dk_at dksX0_partOf_5 18 rfl rfl)
theorem dX0_partOf_134 : decode cX0_partOf 134 = .ok (.iload_n 1, 1) := dk_27 (dk_at dksX0_partOf_5 20 rfl rfl)
theorem dX0_partOf_135 : decode cX0_partOf 135 = .ok (.if_icmp .ge 7, 3) := dk_162 0 7 (dk_at dksX0_partOf_5 21 rfl rfl)
theorem dX0_partOf_138 : decode cX0_partOf 138 = .ok (.iconst 1, 1) := dk_4 (dk_at dksX0_partOf_6 0 rfl rfl)
theorem dX0_partOf_139 : decode cX0_partOf 139 = .ok (.goto 4, 3) := dk_167 0 4 (dk_at dksX0_partOf_6 1 rfl rfl)
theorem dX0_partOf_142 : decode cX0_partOf 142 = .ok (.iconst 0, 1) := dk_3 (dk_at dksX0_partOf_6 4 rfl rfl)
theorem dX0_partOf_143 : decode cX0_partOf 143 = .ok (.iadd, 1) := dk_96 (dk_at dksX0_partOf_6 5 rfl rfl)
theorem dX0_partOf_144 : decode cX0_partOf 144 = .ok (.istore 6, 2) := dk_54 6 (dk_at dksX0_partOf_6 6 rfl rfl)
theorem dX0_partOf_146 : decode cX0_partOf 146 = .ok (.iinc 7 1, 3) := dk_132 7 1 (dk_at dksX0_partOf_6 8 rfl rfl)
theorem dX0_partOf_149 : decode cX0_partOf 149 = .ok (.goto (-58), 3) := dk_167 255 198 (dk_at dksX0_partOf_6 11 rfl rfl)
theorem dX0_partOf_152 : decode cX0_partOf 152 = .ok (.iload_n 3, 1) := dk_29 (dk_at dksX0_partOf_6 14 rfl rfl)
theorem dX0_partOf_153 : decode cX0_partOf 153 = .ok (.aload_n 0, 1) := dk_42 (dk_at dksX0_partOf_6 15 rfl rfl)
theorem dX0_partOf_154 : decode cX0_partOf 154 = .ok (.getfield 35, 3) := dk_180 0 35 (dk_at dksX0_partOf_6 16 rfl rfl)
theorem dX0_partOf_157 : decode cX0_partOf 157 = .ok (.getfield 111, 3) := dk_180 0 111 (dk_at dksX0_partOf_6 19 rfl rfl)
theorem dX0_partOf_160 : decode cX0_partOf 160 = .ok (.iload_n 1, 1) := dk_27 (dk_at dksX0_partOf_6 22 rfl rfl)
theorem dX0_partOf_161 : decode cX0_partOf 161 = .ok (.iaload, 1) := dk_46 (dk_at dksX0_partOf_6 23 rfl rfl)
theorem dX0_partOf_162 : decode cX0_partOf 162 = .ok (.imul, 1) := dk_104 (dk_at dksX0_partOf_7 0 rfl rfl)
theorem dX0_partOf_163 : decode cX0_partOf 163 = .ok (.iload_n 2, 1) := dk_28 (dk_at dksX0_partOf_7 1 rfl rfl)
theorem dX0_partOf_164 : decode cX0_partOf 164 = .ok (.idiv, 1) := dk_108 (dk_at dksX0_partOf_7 2 rfl rfl)
theorem dX0_partOf_165 : decode cX0_partOf 165 = .ok (.iload 6, 2) := dk_21 6 (dk_at dksX0_partOf_7 3 rfl rfl)
theorem dX0_partOf_167 : decode cX0_partOf 167 = .ok (.iload 4, 2) := dk_21 4 (dk_at dksX0_partOf_7 5 rfl rfl)
theorem dX0_partOf_169 : decode cX0_partOf 169 = .ok (.if_icmp .ge 7, 3) := dk_162 0 7 (dk_at dksX0_partOf_7 7 rfl rfl)
theorem dX0_partOf_172 : decode cX0_partOf 172 = .ok (.iconst 1, 1) := dk_4 (dk_at dksX0_partOf_7 10 rfl rfl)
theorem dX0_partOf_173 : decode cX0_partOf 173 = .ok (.goto 4, 3) := dk_167 0 4 (dk_at dksX0_partOf_7 11 rfl rfl)
theorem dX0_partOf_176 : decode cX0_partOf 176 = .ok (.iconst 0, 1) := dk_3 (dk_at dksX0_partOf_7 14 rfl rfl)
theorem dX0_partOf_177 : decode cX0_partOf 177 = .ok (.iadd, 1) := dk_96 (dk_at dksX0_partOf_7 15 rfl rfl)
theorem dX0_partOf_178 : decode cX0_partOf 178 = .ok (.ireturn, 1) := dk_172 (dk_at dksX0_partOf_7 16 rfl rfl)
abbrev cX0_night : ByteArray := prog_1_method_31_code
def yX0_night : MethodName := ⟨RX0, "night", "()I"⟩
def dkwX0_night_5 : List UInt8 := [181, 0, 162, 42, 180, 0, 35, 3, 181, 0, 197, 27, 172]
abbrev dktX0_night_5 : List UInt8 := dkwX0_night_5 ++ []
def dkwX0_night_4 : List UInt8 := [181, 0, 152, 42, 180, 0, 35, 3, 181, 0, 84, 42, 180, 0, 35, 3, 181, 0, 200, 42, 180, 0, 35, 3]
abbrev dktX0_night_4 : List UInt8 := dkwX0_night_4 ++ dktX0_night_5
def dkwX0_night_3 : List UInt8 := [180, 0, 111, 28, 3, 79, 132, 2, 1, 167, 255, 237, 42, 180, 0, 35, 42, 180, 0, 35, 180, 0, 149]
abbrev dktX0_night_3 : List UInt8 := dkwX0_night_3 ++ dktX0_night_4
def dkwX0_night_2 : List UInt8 := [184, 0, 215, 79, 132, 2, 1, 167, 255, 221, 3, 61, 28, 16, 8, 162, 0, 19, 42, 180, 0, 35]
abbrev dktX0_night_2 : List UInt8 := dkwX0_night_2 ++ dktX0_night_3
def dkwX0_night_1 : List UInt8 := [162, 0, 33, 42, 180, 0, 28, 28, 17, 3, 231, 42, 180, 0, 28, 28, 46, 42, 28, 182, 0, 212, 96]
abbrev dktX0_night_1 : List UInt8 := dkwX0_night_1 ++ dktX0_night_2
def dkwX0_night_0 : List UInt8 := [42, 180, 0, 35, 180, 0, 149, 42, 180, 0, 35, 180, 0, 152, 100, 60, 3, 61, 28, 42, 180, 0, 70]
abbrev dktX0_night_0 : List UInt8 := dkwX0_night_0 ++ dktX0_night_1
theorem dksX0_night_0 : cX0_night.data.toList.drop 0 = dktX0_night_0 := by decide +kernel
theorem dksX0_night_1 : cX0_night.data.toList.drop 23 = dktX0_night_1 := dk_seg dksX0_night_0 23 rfl rfl
theorem dksX0_night_2 : cX0_night.data.toList.drop 46 = dktX0_night_2 := dk_seg dksX0_night_1 23 rfl rfl
theorem dksX0_night_3 : cX0_night.data.toList.drop 68 = dktX0_night_3 := dk_seg dksX0_night_2 22 rfl rfl
theorem dksX0_night_4 : cX0_night.data.toList.drop 91 = dktX0_night_4 := dk_seg dksX0_night_3 23 rfl rfl
theorem dksX0_night_5 : cX0_night.data.toList.drop 115 = dktX0_night_5 := dk_seg dksX0_night_4 24 rfl rfl
theorem dX0_night_0 : decode cX0_night 0 = .ok (.aload_n 0, 1) := dk_42 (dk_at dksX0_night_0 0 rfl rfl)
theorem dX0_night_1 : decode cX0_night 1 = .ok (.getfield 35, 3) := dk_180 0 35 (dk_at dksX0_night_0 1 rfl rfl)
theorem dX0_night_4 : decode cX0_night 4 = .ok (.getfield 149, 3) := dk_180 0 149 (dk_at dksX0_night_0 4 rfl rfl)
theorem dX0_night_7 : decode cX0_night 7 = .ok (.aload_n 0, 1) := dk_42 (dk_at dksX0_night_0 7 rfl rfl)
theorem dX0_night_8 : decode cX0_night 8 = .ok (.getfield 35, 3) := dk_180 0 35 (dk_at dksX0_night_0 8 rfl rfl)
theorem dX0_night_11 : decode cX0_night 11 = .ok (.getfield 152, 3) := dk_180 0 152 (dk_at dksX0_night_0 11 rfl rfl)
theorem dX0_night_14 : decode cX0_night 14 = .ok (.isub, 1) := dk_100 (dk_at dksX0_night_0 14 rfl rfl)
theorem dX0_night_15 : decode cX0_night 15 = .ok (.istore_n 1, 1) := dk_60 (dk_at dksX0_night_0 15 rfl rfl)
theorem dX0_night_16 : decode cX0_night 16 = .ok (.iconst 0, 1) := dk_3 (dk_at dksX0_night_0 16 rfl rfl)
theorem dX0_night_17 : decode cX0_night 17 = .ok (.istore_n 2, 1) := dk_61 (dk_at dksX0_night_0 17 rfl rfl)
theorem dX0_night_18 : decode cX0_night 18 = .ok (.iload_n 2, 1) := dk_28 (dk_at dksX0_night_0 18 rfl rfl)
theorem dX0_night_19 : decode cX0_night 19 = .ok (.aload_n 0, 1) := dk_42 (dk_at dksX0_night_0 19 rfl rfl)
theorem dX0_night_20 : decode cX0_night 20 = .ok (.getfield 70, 3) := dk_180 0 70 (dk_at dksX0_night_0 20 rfl rfl)
theorem dX0_night_23 : decode cX0_night 23 = .ok (.if_icmp .ge 33, 3) := dk_162 0 33 (dk_at dksX0_night_1 0 rfl rfl)
theorem dX0_night_26 : decode cX0_night 26 = .ok (.aload_n 0, 1) := dk_42 (dk_at dksX0_night_1 3 rfl rfl)
theorem dX0_night_27 : decode cX0_night 27 = .ok (.getfield 28, 3) := dk_180 0 28 (dk_at dksX0_night_1 4 rfl rfl)
theorem dX0_night_30 : decode cX0_night 30 = .ok (.iload_n 2, 1) := dk_28 (dk_at dksX0_night_1 7 rfl rfl)
theorem dX0_night_31 : decode cX0_night 31 = .ok (.sipush 999, 3) := dk_17 3 231 (dk_at dksX0_night_1 8 rfl rfl)
theorem dX0_night_34 : decode cX0_night 34 = .ok (.aload_n 0, 1) := dk_42 (dk_at dksX0_night_1 11 rfl rfl)
theorem dX0_night_35 : decode cX0_night 35 = .ok (.getfield 28, 3) := dk_180 0 28 (dk_at dksX0_night_1 12 rfl rfl)
theorem dX0_night_38 : decode cX0_night 38 = .ok (.iload_n 2, 1) := dk_28 (dk_at dksX0_night_1 15 rfl rfl)
theorem dX0_night_39 : decode cX0_night 39 = .ok (.iaload, 1) := dk_46 (dk_at dksX0_night_1 16 rfl rfl)
theorem dX0_night_40 : decode cX0_night 40 = .ok (.aload_n 0, 1) := dk_42 (dk_at dksX0_night_1 17 rfl rfl)
theorem dX0_night_41 : decode cX0_night 41 = .ok (.iload_n 2, 1) := dk_28 (dk_at dksX0_night_1 18 rfl rfl)
theorem dX0_night_42 : decode cX0_night 42 = .ok (.invokevirtual 212, 3) := dk_182 0 212 (dk_at dksX0_night_1 19 rfl rfl)
theorem dX0_night_45 : decode cX0_night 45 = .ok (.iadd, 1) := dk_96 (dk_at dksX0_night_1 22 rfl rfl)
theorem dX0_night_46 : decode cX0_night 46 = .ok (.invokestatic 215, 3) := dk_184 0 215 (dk_at dksX0_night_2 0 rfl rfl)
theorem dX0_night_49 : decode cX0_night 49 = .ok (.iastore, 1) := dk_79 (dk_at dksX0_night_2 3 rfl rfl)
theorem dX0_night_50 : decode cX0_night 50 = .ok (.iinc 2 1, 3) := dk_132 2 1 (dk_at dksX0_night_2 4 rfl rfl)
theorem dX0_night_53 : decode cX0_night 53 = .ok (.goto (-35), 3) := dk_167 255 221 (dk_at dksX0_night_2 7 rfl rfl)
theorem dX0_night_56 : decode cX0_night 56 = .ok (.iconst 0, 1) := dk_3 (dk_at dksX0_night_2 10 rfl rfl)
theorem dX0_night_57 : decode cX0_night 57 = .ok (.istore_n 2, 1) := dk_61 (dk_at dksX0_night_2 11 rfl rfl)
theorem dX0_night_58 : decode cX0_night 58 = .ok (.iload_n 2, 1) := dk_28 (dk_at dksX0_night_2 12 rfl rfl)
theorem dX0_night_59 : decode cX0_night 59 = .ok (.bipush 8, 2) := dk_16 8 (dk_at dksX0_night_2 13 rfl rfl)
theorem dX0_night_61 : decode cX0_night 61 = .ok (.if_icmp .ge 19, 3) := dk_162 0 19 (dk_at dksX0_night_2 15 rfl rfl)
theorem dX0_night_64 : decode cX0_night 64 = .ok (.aload_n 0, 1) := dk_42 (dk_at dksX0_night_2 18 rfl rfl)
theorem dX0_night_65 : decode cX0_night 65 = .ok (.getfield 35, 3) := dk_180 0 35 (dk_at dksX0_night_2 19 rfl rfl)
theorem dX0_night_68 : decode cX0_night 68 = .ok (.getfield 111, 3) := dk_180 0 111 (dk_at dksX0_night_3 0 rfl rfl)
theorem dX0_night_71 : decode cX0_night 71 = .ok (.iload_n 2, 1) := dk_28 (dk_at dksX0_night_3 3 rfl rfl)
theorem dX0_night_72 : decode cX0_night 72 = .ok (.iconst 0, 1) := dk_3 (dk_at dksX0_night_3 4 rfl rfl)
theorem dX0_night_73 : decode cX0_night 73 = .ok (.iastore, 1) := dk_79 (dk_at dksX0_night_3 5 rfl rfl)
theorem dX0_night_74 : decode cX0_night 74 = .ok (.iinc 2 1, 3) := dk_132 2 1 (dk_at dksX0_night_3 6 rfl rfl)
theorem dX0_night_77 : decode cX0_night 77 = .ok (.goto (-19), 3) := dk_167 255 237 (dk_at dksX0_night_3 9 rfl rfl)
theorem dX0_night_80 : decode cX0_night 80 = .ok (.aload_n 0, 1) := dk_42 (dk_at dksX0_night_3 12 rfl rfl)
theorem dX0_night_81 : decode cX0_night 81 = .ok (.getfield 35, 3) := dk_180 0 35 (dk_at dksX0_night_3 13 rfl rfl)
theorem dX0_night_84 : decode cX0_night 84 = .ok (.aload_n 0, 1) := dk_42 (dk_at dksX0_night_3 16 rfl rfl)
theorem dX0_night_85 : decode cX0_night 85 = .ok (.getfield 35, 3) := dk_180 0 35 (dk_at dksX0_night_3 17 rfl rfl)
theorem dX0_night_88 : decode cX0_night 88 = .ok (.getfield 149, 3) := dk_180 0 149 (dk_at dksX0_night_3 20 rfl rfl)
theorem dX0_night_91 : decode cX0_night 91 = .ok (.putfield 152, 3) := dk_181 0 152 (dk_at dksX0_night_4 0 rfl rfl)
theorem dX0_night_94 : decode cX0_night 94 = .ok (.aload_n 0, 1) := dk_42 (dk_at dksX0_night_4 3 rfl rfl)
theorem dX0_night_95 : decode cX0_night 95 = .ok (.getfield 35, 3) := dk_180 0 35 (dk_at dksX0_night_4 4 rfl rfl)
theorem dX0_night_98 : decode cX0_night 98 = .ok (.iconst 0, 1) := dk_3 (dk_at dksX0_night_4 7 rfl rfl)
theorem dX0_night_99 : decode cX0_night 99 = .ok (.putfield 84, 3) := dk_181 0 84 (dk_at dksX0_night_4 8 rfl rfl)
theorem dX0_night_102 : decode cX0_night 102 = .ok (.aload_n 0, 1) := dk_42 (dk_at dksX0_night_4 11 rfl rfl)
theorem dX0_night_103 : decode cX0_night 103 = .ok (.getfield 35, 3) := dk_180 0 35 (dk_at dksX0_night_4 12 rfl rfl)
theorem dX0_night_106 : decode cX0_night 106 = .ok (.iconst 0, 1) := dk_3 (dk_at dksX0_night_4 15 rfl rfl)
theorem dX0_night_107 : decode cX0_night 107 = .ok (.putfield 200, 3) := dk_181 0 200 (dk_at dksX0_night_4 16 rfl rfl)
theorem dX0_night_110 : decode cX0_night 110 = .ok (.aload_n 0, 1) := dk_42 (dk_at dksX0_night_4 19 rfl rfl)
theorem dX0_night_111 : decode cX0_night 111 = .ok (.getfield 35, 3) := dk_180 0 35 (dk_at dksX0_night_4 20 rfl rfl)
theorem dX0_night_114 : decode cX0_night 114 = .ok (.iconst 0, 1) := dk_3 (dk_at dksX0_night_4 23 rfl rfl)
theorem dX0_night_115 : decode cX0_night 115 = .ok (.putfield 162, 3) := dk_181 0 162 (dk_at dksX0_night_5 0 rfl rfl)
theorem dX0_night_118 : decode cX0_night 118 = .ok (.aload_n 0, 1) := dk_42 (dk_at dksX0_night_5 3 rfl rfl)
theorem dX0_night_119 : decode cX0_night 119 = .ok (.getfield 35, 3) := dk_180 0 35 (dk_at dksX0_night_5 4 rfl rfl)
theorem dX0_night_122 : decode cX0_night 122 = .ok (.iconst 0, 1) := dk_3 (dk_at dksX0_night_5 7 rfl rfl)
theorem dX0_night_123 : decode cX0_night 123 = .ok (.putfield 197, 3) := dk_181 0 197 (dk_at dksX0_night_5 8 rfl rfl)
theorem dX0_night_126 : decode cX0_night 126 = .ok (.iload_n 1, 1) := dk_27 (dk_at dksX0_night_5 11 rfl rfl)
theorem dX0_night_127 : decode cX0_night 127 = .ok (.ireturn, 1) := dk_172 (dk_at dksX0_night_5 12 rfl rfl)
abbrev cX0_plan : ByteArray := prog_1_method_35_code
def yX0_plan : MethodName := ⟨RX0, "plan", "(I)I"⟩
def dkwX0_plan_0 : List UInt8 := [27, 133, 9, 10, 184, 0, 117, 153, 0, 11, 42, 27, 182, 0, 235, 167, 0, 5, 16, 154, 172]
abbrev dktX0_plan_0 : List UInt8 := dkwX0_plan_0 ++ []
theorem dksX0_plan_0 : cX0_plan.data.toList.drop 0 = dktX0_plan_0 := by decide +kernel
theorem dX0_plan_0 : decode cX0_plan 0 = .ok (.iload_n 1, 1) := dk_27 (dk_at dksX0_plan_0 0 rfl rfl)
theorem dX0_plan_1 : decode cX0_plan 1 = .ok (.i2l, 1) := dk_133 (dk_at dksX0_plan_0 1 rfl rfl)
theorem dX0_plan_2 : decode cX0_plan 2 = .ok (.lconst 0, 1) := dk_9 (dk_at dksX0_plan_0 2 rfl rfl)
theorem dX0_plan_3 : decode cX0_plan 3 = .ok (.lconst 1, 1) := dk_10 (dk_at dksX0_plan_0 3 rfl rfl)
theorem dX0_plan_4 : decode cX0_plan 4 = .ok (.invokestatic 117, 3) := dk_184 0 117 (dk_at dksX0_plan_0 4 rfl rfl)
theorem dX0_plan_7 : decode cX0_plan 7 = .ok (.ifCond .eq 11, 3) := dk_153 0 11 (dk_at dksX0_plan_0 7 rfl rfl)
theorem dX0_plan_10 : decode cX0_plan 10 = .ok (.aload_n 0, 1) := dk_42 (dk_at dksX0_plan_0 10 rfl rfl)
theorem dX0_plan_11 : decode cX0_plan 11 = .ok (.iload_n 1, 1) := dk_27 (dk_at dksX0_plan_0 11 rfl rfl)
theorem dX0_plan_12 : decode cX0_plan 12 = .ok (.invokevirtual 235, 3) := dk_182 0 235 (dk_at dksX0_plan_0 12 rfl rfl)
theorem dX0_plan_15 : decode cX0_plan 15 = .ok (.goto 5, 3) := dk_167 0 5 (dk_at dksX0_plan_0 15 rfl rfl)
theorem dX0_plan_18 : decode cX0_plan 18 = .ok (.bipush (-102), 2) := dk_16 154 (dk_at dksX0_plan_0 18 rfl rfl)
theorem dX0_plan_20 : decode cX0_plan 20 = .ok (.ireturn, 1) := dk_172 (dk_at dksX0_plan_0 20 rfl rfl)
abbrev cX0_planOf : ByteArray := prog_1_method_34_code
def yX0_planOf : MethodName := ⟨RX0, "planOf", "(I)I"⟩
def dkwX0_planOf_3 : List UInt8 := [154, 0, 7, 29, 167, 0, 4, 28, 172]
abbrev dktX0_planOf_3 : List UInt8 := dkwX0_planOf_3 ++ []
def dkwX0_planOf_2 : List UInt8 := [184, 0, 230, 28, 184, 0, 230, 162, 0, 9, 21, 4, 61, 21, 5, 62, 132, 4, 1, 167, 255, 203, 27]
abbrev dktX0_planOf_2 : List UInt8 := dkwX0_planOf_2 ++ dktX0_planOf_3
def dkwX0_planOf_1 : List UInt8 := [21, 4, 3, 182, 0, 227, 54, 5, 21, 5, 29, 163, 0, 21, 21, 5, 29, 160, 0, 21, 21, 4]
abbrev dktX0_planOf_1 : List UInt8 := dkwX0_planOf_1 ++ dktX0_planOf_2
def dkwX0_planOf_0 : List UInt8 := [3, 61, 42, 3, 3, 182, 0, 227, 62, 4, 54, 4, 21, 4, 4, 42, 180, 0, 70, 120, 162, 0, 48, 42]
abbrev dktX0_planOf_0 : List UInt8 := dkwX0_planOf_0 ++ dktX0_planOf_1
theorem dksX0_planOf_0 : cX0_planOf.data.toList.drop 0 = dktX0_planOf_0 := by decide +kernel
theorem dksX0_planOf_1 : cX0_planOf.data.toList.drop 24 = dktX0_planOf_1 := dk_seg dksX0_planOf_0 24 rfl rfl
theorem dksX0_planOf_2 : cX0_planOf.data.toList.drop 46 = dktX0_planOf_2 := dk_seg dksX0_planOf_1 22 rfl rfl
theorem dksX0_planOf_3 : cX0_planOf.data.toList.drop 69 = dktX0_planOf_3 := dk_seg dksX0_planOf_2 23 rfl rfl
theorem dX0_planOf_0 : decode cX0_planOf 0 = .ok (.iconst 0, 1) := dk_3 (dk_at dksX0_planOf_0 0 rfl rfl)
theorem dX0_planOf_1 : decode cX0_planOf 1 = .ok (.istore_n 2, 1) := dk_61 (dk_at dksX0_planOf_0 1 rfl rfl)
theorem dX0_planOf_2 : decode cX0_planOf 2 = .ok (.aload_n 0, 1) := dk_42 (dk_at dksX0_planOf_0 2 rfl rfl)
theorem dX0_planOf_3 : decode cX0_planOf 3 = .ok (.iconst 0, 1) := dk_3 (dk_at dksX0_planOf_0 3 rfl rfl)
theorem dX0_planOf_4 : decode cX0_planOf 4 = .ok (.iconst 0, 1) := dk_3 (dk_at dksX0_planOf_0 4 rfl rfl)
theorem dX0_planOf_5 : decode cX0_planOf 5 = .ok (.invokevirtual 227, 3) := dk_182 0 227 (dk_at dksX0_planOf_0 5 rfl rfl)
theorem dX0_planOf_8 : decode cX0_planOf 8 = .ok (.istore_n 3, 1) := dk_62 (dk_at dksX0_planOf_0 8 rfl rfl)
theorem dX0_planOf_9 : decode cX0_planOf 9 = .ok (.iconst 1, 1) := dk_4 (dk_at dksX0_planOf_0 9 rfl rfl)
theorem dX0_planOf_10 : decode cX0_planOf 10 = .ok (.istore 4, 2) := dk_54 4 (dk_at dksX0_planOf_0 10 rfl rfl)
theorem dX0_planOf_12 : decode cX0_planOf 12 = .ok (.iload 4, 2) := dk_21 4 (dk_at dksX0_planOf_0 12 rfl rfl)
theorem dX0_planOf_14 : decode cX0_planOf 14 = .ok (.iconst 1, 1) := dk_4 (dk_at dksX0_planOf_0 14 rfl rfl)
theorem dX0_planOf_15 : decode cX0_planOf 15 = .ok (.aload_n 0, 1) := dk_42 (dk_at dksX0_planOf_0 15 rfl rfl)
theorem dX0_planOf_16 : decode cX0_planOf 16 = .ok (.getfield 70, 3) := dk_180 0 70 (dk_at dksX0_planOf_0 16 rfl rfl)
theorem dX0_planOf_19 : decode cX0_planOf 19 = .ok (.ishl, 1) := dk_120 (dk_at dksX0_planOf_0 19 rfl rfl)
theorem dX0_planOf_20 : decode cX0_planOf 20 = .ok (.if_icmp .ge 48, 3) := dk_162 0 48 (dk_at dksX0_planOf_0 20 rfl rfl)
theorem dX0_planOf_23 : decode cX0_planOf 23 = .ok (.aload_n 0, 1) := dk_42 (dk_at dksX0_planOf_0 23 rfl rfl)
theorem dX0_planOf_24 : decode cX0_planOf 24 = .ok (.iload 4, 2) := dk_21 4 (dk_at dksX0_planOf_1 0 rfl rfl)
theorem dX0_planOf_26 : decode cX0_planOf 26 = .ok (.iconst 0, 1) := dk_3 (dk_at dksX0_planOf_1 2 rfl rfl)
theorem dX0_planOf_27 : decode cX0_planOf 27 = .ok (.invokevirtual 227, 3) := dk_182 0 227 (dk_at dksX0_planOf_1 3 rfl rfl)
theorem dX0_planOf_30 : decode cX0_planOf 30 = .ok (.istore 5, 2) := dk_54 5 (dk_at dksX0_planOf_1 6 rfl rfl)
theorem dX0_planOf_32 : decode cX0_planOf 32 = .ok (.iload 5, 2) := dk_21 5 (dk_at dksX0_planOf_1 8 rfl rfl)
theorem dX0_planOf_34 : decode cX0_planOf 34 = .ok (.iload_n 3, 1) := dk_29 (dk_at dksX0_planOf_1 10 rfl rfl)
theorem dX0_planOf_35 : decode cX0_planOf 35 = .ok (.if_icmp .gt 21, 3) := dk_163 0 21 (dk_at dksX0_planOf_1 11 rfl rfl)
theorem dX0_planOf_38 : decode cX0_planOf 38 = .ok (.iload 5, 2) := dk_21 5 (dk_at dksX0_planOf_1 14 rfl rfl)
theorem dX0_planOf_40 : decode cX0_planOf 40 = .ok (.iload_n 3, 1) := dk_29 (dk_at dksX0_planOf_1 16 rfl rfl)
theorem dX0_planOf_41 : decode cX0_planOf 41 = .ok (.if_icmp .ne 21, 3) := dk_160 0 21 (dk_at dksX0_planOf_1 17 rfl rfl)
theorem dX0_planOf_44 : decode cX0_planOf 44 = .ok (.iload 4, 2) := dk_21 4 (dk_at dksX0_planOf_1 20 rfl rfl)
theorem dX0_planOf_46 : decode cX0_planOf 46 = .ok (.invokestatic 230, 3) := dk_184 0 230 (dk_at dksX0_planOf_2 0 rfl rfl)
theorem dX0_planOf_49 : decode cX0_planOf 49 = .ok (.iload_n 2, 1) := dk_28 (dk_at dksX0_planOf_2 3 rfl rfl)
theorem dX0_planOf_50 : decode cX0_planOf 50 = .ok (.invokestatic 230, 3) := dk_184 0 230 (dk_at dksX0_planOf_2 4 rfl rfl)
theorem dX0_planOf_53 : decode cX0_planOf 53 = .ok (.if_icmp .ge 9, 3) := dk_162 0 9 (dk_at dksX0_planOf_2 7 rfl rfl)
theorem dX0_planOf_56 : decode cX0_planOf 56 = .ok (.iload 4, 2) := dk_21 4 (dk_at dksX0_planOf_2 10 rfl rfl)
theorem dX0_planOf_58 : decode cX0_planOf 58 = .ok (.istore_n 2, 1) := dk_61 (dk_at dksX0_planOf_2 12 rfl rfl)
theorem dX0_planOf_59 : decode cX0_planOf 59 = .ok (.iload 5, 2) := dk_21 5 (dk_at dksX0_planOf_2 13 rfl rfl)
theorem dX0_planOf_61 : decode cX0_planOf 61 = .ok (.istore_n 3, 1) := dk_62 (dk_at dksX0_planOf_2 15 rfl rfl)
theorem dX0_planOf_62 : decode cX0_planOf 62 = .ok (.iinc 4 1, 3) := dk_132 4 1 (dk_at dksX0_planOf_2 16 rfl rfl)
theorem dX0_planOf_65 : decode cX0_planOf 65 = .ok (.goto (-53), 3) := dk_167 255 203 (dk_at dksX0_planOf_2 19 rfl rfl)
theorem dX0_planOf_68 : decode cX0_planOf 68 = .ok (.iload_n 1, 1) := dk_27 (dk_at dksX0_planOf_2 22 rfl rfl)
theorem dX0_planOf_69 : decode cX0_planOf 69 = .ok (.ifCond .ne 7, 3) := dk_154 0 7 (dk_at dksX0_planOf_3 0 rfl rfl)
theorem dX0_planOf_72 : decode cX0_planOf 72 = .ok (.iload_n 3, 1) := dk_29 (dk_at dksX0_planOf_3 3 rfl rfl)
theorem dX0_planOf_73 : decode cX0_planOf 73 = .ok (.goto 4, 3) := dk_167 0 4 (dk_at dksX0_planOf_3 4 rfl rfl)
theorem dX0_planOf_76 : decode cX0_planOf 76 = .ok (.iload_n 2, 1) := dk_28 (dk_at dksX0_planOf_3 7 rfl rfl)
theorem dX0_planOf_77 : decode cX0_planOf 77 = .ok (.ireturn, 1) := dk_172 (dk_at dksX0_planOf_3 8 rfl rfl)
abbrev cX0_takenBy : ByteArray := prog_1_method_33_code
def yX0_takenBy : MethodName := ⟨RX0, "takenBy", "(II)I"⟩
def dkwX0_takenBy_1 : List UInt8 := [180, 0, 152, 28, 96, 181, 0, 152, 42, 182, 0, 224, 172]
abbrev dktX0_takenBy_1 : List UInt8 := dkwX0_takenBy_1 ++ []
def dkwX0_takenBy_0 : List UInt8 := [42, 180, 0, 39, 42, 180, 0, 35, 182, 0, 220, 42, 180, 0, 39, 27, 181, 0, 114, 42, 180, 0, 39, 89]
abbrev dktX0_takenBy_0 : List UInt8 := dkwX0_takenBy_0 ++ dktX0_takenBy_1
theorem dksX0_takenBy_0 : cX0_takenBy.data.toList.drop 0 = dktX0_takenBy_0 := by decide +kernel
theorem dksX0_takenBy_1 : cX0_takenBy.data.toList.drop 24 = dktX0_takenBy_1 := dk_seg dksX0_takenBy_0 24 rfl rfl
theorem dX0_takenBy_0 : decode cX0_takenBy 0 = .ok (.aload_n 0, 1) := dk_42 (dk_at dksX0_takenBy_0 0 rfl rfl)
theorem dX0_takenBy_1 : decode cX0_takenBy 1 = .ok (.getfield 39, 3) := dk_180 0 39 (dk_at dksX0_takenBy_0 1 rfl rfl)
theorem dX0_takenBy_4 : decode cX0_takenBy 4 = .ok (.aload_n 0, 1) := dk_42 (dk_at dksX0_takenBy_0 4 rfl rfl)
theorem dX0_takenBy_5 : decode cX0_takenBy 5 = .ok (.getfield 35, 3) := dk_180 0 35 (dk_at dksX0_takenBy_0 5 rfl rfl)
theorem dX0_takenBy_8 : decode cX0_takenBy 8 = .ok (.invokevirtual 220, 3) := dk_182 0 220 (dk_at dksX0_takenBy_0 8 rfl rfl)
theorem dX0_takenBy_11 : decode cX0_takenBy 11 = .ok (.aload_n 0, 1) := dk_42 (dk_at dksX0_takenBy_0 11 rfl rfl)
theorem dX0_takenBy_12 : decode cX0_takenBy 12 = .ok (.getfield 39, 3) := dk_180 0 39 (dk_at dksX0_takenBy_0 12 rfl rfl)
theorem dX0_takenBy_15 : decode cX0_takenBy 15 = .ok (.iload_n 1, 1) := dk_27 (dk_at dksX0_takenBy_0 15 rfl rfl)
theorem dX0_takenBy_16 : decode cX0_takenBy 16 = .ok (.putfield 114, 3) := dk_181 0 114 (dk_at dksX0_takenBy_0 16 rfl rfl)
theorem dX0_takenBy_19 : decode cX0_takenBy 19 = .ok (.aload_n 0, 1) := dk_42 (dk_at dksX0_takenBy_0 19 rfl rfl)
theorem dX0_takenBy_20 : decode cX0_takenBy 20 = .ok (.getfield 39, 3) := dk_180 0 39 (dk_at dksX0_takenBy_0 20 rfl rfl)
theorem dX0_takenBy_23 : decode cX0_takenBy 23 = .ok (.dup, 1) := dk_89 (dk_at dksX0_takenBy_0 23 rfl rfl)
theorem dX0_takenBy_24 : decode cX0_takenBy 24 = .ok (.getfield 152, 3) := dk_180 0 152 (dk_at dksX0_takenBy_1 0 rfl rfl)
theorem dX0_takenBy_27 : decode cX0_takenBy 27 = .ok (.iload_n 2, 1) := dk_28 (dk_at dksX0_takenBy_1 3 rfl rfl)
theorem dX0_takenBy_28 : decode cX0_takenBy 28 = .ok (.iadd, 1) := dk_96 (dk_at dksX0_takenBy_1 4 rfl rfl)
theorem dX0_takenBy_29 : decode cX0_takenBy 29 = .ok (.putfield 152, 3) := dk_181 0 152 (dk_at dksX0_takenBy_1 5 rfl rfl)
theorem dX0_takenBy_32 : decode cX0_takenBy 32 = .ok (.aload_n 0, 1) := dk_42 (dk_at dksX0_takenBy_1 8 rfl rfl)
theorem dX0_takenBy_33 : decode cX0_takenBy 33 = .ok (.invokevirtual 224, 3) := dk_182 0 224 (dk_at dksX0_takenBy_1 9 rfl rfl)
theorem dX0_takenBy_36 : decode cX0_takenBy 36 = .ok (.ireturn, 1) := dk_172 (dk_at dksX0_takenBy_1 12 rfl rfl)
abbrev cX0_restOf : ByteArray := prog_1_method_32_code
def yX0_restOf : MethodName := ⟨RX0, "restOf", "()I"⟩
def dkwX0_restOf_2 : List UInt8 := [172]
abbrev dktX0_restOf_2 : List UInt8 := dkwX0_restOf_2 ++ []
def dkwX0_restOf_1 : List UInt8 := [180, 0, 39, 182, 0, 206, 96, 61, 167, 255, 235, 28, 42, 180, 0, 39, 182, 0, 209, 27, 100, 184, 0, 215]
abbrev dktX0_restOf_1 : List UInt8 := dkwX0_restOf_1 ++ dktX0_restOf_2
def dkwX0_restOf_0 : List UInt8 := [42, 180, 0, 39, 182, 0, 209, 60, 3, 61, 42, 180, 0, 39, 182, 0, 203, 154, 0, 17, 28, 42, 42]
abbrev dktX0_restOf_0 : List UInt8 := dkwX0_restOf_0 ++ dktX0_restOf_1
theorem dksX0_restOf_0 : cX0_restOf.data.toList.drop 0 = dktX0_restOf_0 := by decide +kernel
theorem dksX0_restOf_1 : cX0_restOf.data.toList.drop 23 = dktX0_restOf_1 := dk_seg dksX0_restOf_0 23 rfl rfl
theorem dksX0_restOf_2 : cX0_restOf.data.toList.drop 47 = dktX0_restOf_2 := dk_seg dksX0_restOf_1 24 rfl rfl
theorem dX0_restOf_0 : decode cX0_restOf 0 = .ok (.aload_n 0, 1) := dk_42 (dk_at dksX0_restOf_0 0 rfl rfl)
theorem dX0_restOf_1 : decode cX0_restOf 1 = .ok (.getfield 39, 3) := dk_180 0 39 (dk_at dksX0_restOf_0 1 rfl rfl)
theorem dX0_restOf_4 : decode cX0_restOf 4 = .ok (.invokevirtual 209, 3) := dk_182 0 209 (dk_at dksX0_restOf_0 4 rfl rfl)
theorem dX0_restOf_7 : decode cX0_restOf 7 = .ok (.istore_n 1, 1) := dk_60 (dk_at dksX0_restOf_0 7 rfl rfl)
theorem dX0_restOf_8 : decode cX0_restOf 8 = .ok (.iconst 0, 1) := dk_3 (dk_at dksX0_restOf_0 8 rfl rfl)
theorem dX0_restOf_9 : decode cX0_restOf 9 = .ok (.istore_n 2, 1) := dk_61 (dk_at dksX0_restOf_0 9 rfl rfl)
theorem dX0_restOf_10 : decode cX0_restOf 10 = .ok (.aload_n 0, 1) := dk_42 (dk_at dksX0_restOf_0 10 rfl rfl)
theorem dX0_restOf_11 : decode cX0_restOf 11 = .ok (.getfield 39, 3) := dk_180 0 39 (dk_at dksX0_restOf_0 11 rfl rfl)
theorem dX0_restOf_14 : decode cX0_restOf 14 = .ok (.invokevirtual 203, 3) := dk_182 0 203 (dk_at dksX0_restOf_0 14 rfl rfl)
theorem dX0_restOf_17 : decode cX0_restOf 17 = .ok (.ifCond .ne 17, 3) := dk_154 0 17 (dk_at dksX0_restOf_0 17 rfl rfl)
theorem dX0_restOf_20 : decode cX0_restOf 20 = .ok (.iload_n 2, 1) := dk_28 (dk_at dksX0_restOf_0 20 rfl rfl)
theorem dX0_restOf_21 : decode cX0_restOf 21 = .ok (.aload_n 0, 1) := dk_42 (dk_at dksX0_restOf_0 21 rfl rfl)
theorem dX0_restOf_22 : decode cX0_restOf 22 = .ok (.aload_n 0, 1) := dk_42 (dk_at dksX0_restOf_0 22 rfl rfl)
theorem dX0_restOf_23 : decode cX0_restOf 23 = .ok (.getfield 39, 3) := dk_180 0 39 (dk_at dksX0_restOf_1 0 rfl rfl)
theorem dX0_restOf_26 : decode cX0_restOf 26 = .ok (.invokevirtual 206, 3) := dk_182 0 206 (dk_at dksX0_restOf_1 3 rfl rfl)
theorem dX0_restOf_29 : decode cX0_restOf 29 = .ok (.iadd, 1) := dk_96 (dk_at dksX0_restOf_1 6 rfl rfl)
theorem dX0_restOf_30 : decode cX0_restOf 30 = .ok (.istore_n 2, 1) := dk_61 (dk_at dksX0_restOf_1 7 rfl rfl)
theorem dX0_restOf_31 : decode cX0_restOf 31 = .ok (.goto (-21), 3) := dk_167 255 235 (dk_at dksX0_restOf_1 8 rfl rfl)
theorem dX0_restOf_34 : decode cX0_restOf 34 = .ok (.iload_n 2, 1) := dk_28 (dk_at dksX0_restOf_1 11 rfl rfl)
theorem dX0_restOf_35 : decode cX0_restOf 35 = .ok (.aload_n 0, 1) := dk_42 (dk_at dksX0_restOf_1 12 rfl rfl)
theorem dX0_restOf_36 : decode cX0_restOf 36 = .ok (.getfield 39, 3) := dk_180 0 39 (dk_at dksX0_restOf_1 13 rfl rfl)
theorem dX0_restOf_39 : decode cX0_restOf 39 = .ok (.invokevirtual 209, 3) := dk_182 0 209 (dk_at dksX0_restOf_1 16 rfl rfl)
theorem dX0_restOf_42 : decode cX0_restOf 42 = .ok (.iload_n 1, 1) := dk_27 (dk_at dksX0_restOf_1 19 rfl rfl)
theorem dX0_restOf_43 : decode cX0_restOf 43 = .ok (.isub, 1) := dk_100 (dk_at dksX0_restOf_1 20 rfl rfl)
theorem dX0_restOf_44 : decode cX0_restOf 44 = .ok (.invokestatic 215, 3) := dk_184 0 215 (dk_at dksX0_restOf_1 21 rfl rfl)
theorem dX0_restOf_47 : decode cX0_restOf 47 = .ok (.ireturn, 1) := dk_172 (dk_at dksX0_restOf_2 0 rfl rfl)
abbrev cX0_more : ByteArray := prog_1_method_37_code
def yX0_more : MethodName := ⟨RX0, "more", "(I)I"⟩
def dkwX0_more_0 : List UInt8 := [27, 133, 9, 20, 0, 147, 184, 0, 117, 153, 0, 11, 42, 27, 182, 0, 238, 167, 0, 5, 16, 154, 172]
abbrev dktX0_more_0 : List UInt8 := dkwX0_more_0 ++ []
theorem dksX0_more_0 : cX0_more.data.toList.drop 0 = dktX0_more_0 := by decide +kernel
theorem dX0_more_0 : decode cX0_more 0 = .ok (.iload_n 1, 1) := dk_27 (dk_at dksX0_more_0 0 rfl rfl)
theorem dX0_more_1 : decode cX0_more 1 = .ok (.i2l, 1) := dk_133 (dk_at dksX0_more_0 1 rfl rfl)
theorem dX0_more_2 : decode cX0_more 2 = .ok (.lconst 0, 1) := dk_9 (dk_at dksX0_more_0 2 rfl rfl)
theorem dX0_more_3 : decode cX0_more 3 = .ok (.ldc2_w 147, 3) := dk_20 0 147 (dk_at dksX0_more_0 3 rfl rfl)
theorem dX0_more_6 : decode cX0_more 6 = .ok (.invokestatic 117, 3) := dk_184 0 117 (dk_at dksX0_more_0 6 rfl rfl)
theorem dX0_more_9 : decode cX0_more 9 = .ok (.ifCond .eq 11, 3) := dk_153 0 11 (dk_at dksX0_more_0 9 rfl rfl)
theorem dX0_more_12 : decode cX0_more 12 = .ok (.aload_n 0, 1) := dk_42 (dk_at dksX0_more_0 12 rfl rfl)
theorem dX0_more_13 : decode cX0_more 13 = .ok (.iload_n 1, 1) := dk_27 (dk_at dksX0_more_0 13 rfl rfl)
theorem dX0_more_14 : decode cX0_more 14 = .ok (.invokevirtual 238, 3) := dk_182 0 238 (dk_at dksX0_more_0 14 rfl rfl)
theorem dX0_more_17 : decode cX0_more 17 = .ok (.goto 5, 3) := dk_167 0 5 (dk_at dksX0_more_0 17 rfl rfl)
theorem dX0_more_20 : decode cX0_more 20 = .ok (.bipush (-102), 2) := dk_16 154 (dk_at dksX0_more_0 20 rfl rfl)
theorem dX0_more_22 : decode cX0_more 22 = .ok (.ireturn, 1) := dk_172 (dk_at dksX0_more_0 22 rfl rfl)
abbrev cX0_moreOf : ByteArray := prog_1_method_36_code
def yX0_moreOf : MethodName := ⟨RX0, "moreOf", "(I)I"⟩
def dkwX0_moreOf_1 : List UInt8 := [100, 172]
abbrev dktX0_moreOf_1 : List UInt8 := dkwX0_moreOf_1 ++ []
def dkwX0_moreOf_0 : List UInt8 := [42, 42, 180, 0, 35, 180, 0, 114, 27, 182, 0, 227, 42, 42, 180, 0, 35, 180, 0, 114, 3, 182, 0, 227]
abbrev dktX0_moreOf_0 : List UInt8 := dkwX0_moreOf_0 ++ dktX0_moreOf_1
theorem dksX0_moreOf_0 : cX0_moreOf.data.toList.drop 0 = dktX0_moreOf_0 := by decide +kernel
theorem dksX0_moreOf_1 : cX0_moreOf.data.toList.drop 24 = dktX0_moreOf_1 := dk_seg dksX0_moreOf_0 24 rfl rfl
theorem dX0_moreOf_0 : decode cX0_moreOf 0 = .ok (.aload_n 0, 1) := dk_42 (dk_at dksX0_moreOf_0 0 rfl rfl)
theorem dX0_moreOf_1 : decode cX0_moreOf 1 = .ok (.aload_n 0, 1) := dk_42 (dk_at dksX0_moreOf_0 1 rfl rfl)
theorem dX0_moreOf_2 : decode cX0_moreOf 2 = .ok (.getfield 35, 3) := dk_180 0 35 (dk_at dksX0_moreOf_0 2 rfl rfl)
theorem dX0_moreOf_5 : decode cX0_moreOf 5 = .ok (.getfield 114, 3) := dk_180 0 114 (dk_at dksX0_moreOf_0 5 rfl rfl)
theorem dX0_moreOf_8 : decode cX0_moreOf 8 = .ok (.iload_n 1, 1) := dk_27 (dk_at dksX0_moreOf_0 8 rfl rfl)
theorem dX0_moreOf_9 : decode cX0_moreOf 9 = .ok (.invokevirtual 227, 3) := dk_182 0 227 (dk_at dksX0_moreOf_0 9 rfl rfl)
theorem dX0_moreOf_12 : decode cX0_moreOf 12 = .ok (.aload_n 0, 1) := dk_42 (dk_at dksX0_moreOf_0 12 rfl rfl)
theorem dX0_moreOf_13 : decode cX0_moreOf 13 = .ok (.aload_n 0, 1) := dk_42 (dk_at dksX0_moreOf_0 13 rfl rfl)
theorem dX0_moreOf_14 : decode cX0_moreOf 14 = .ok (.getfield 35, 3) := dk_180 0 35 (dk_at dksX0_moreOf_0 14 rfl rfl)
theorem dX0_moreOf_17 : decode cX0_moreOf 17 = .ok (.getfield 114, 3) := dk_180 0 114 (dk_at dksX0_moreOf_0 17 rfl rfl)
theorem dX0_moreOf_20 : decode cX0_moreOf 20 = .ok (.iconst 0, 1) := dk_3 (dk_at dksX0_moreOf_0 20 rfl rfl)
theorem dX0_moreOf_21 : decode cX0_moreOf 21 = .ok (.invokevirtual 227, 3) := dk_182 0 227 (dk_at dksX0_moreOf_0 21 rfl rfl)
theorem dX0_moreOf_24 : decode cX0_moreOf 24 = .ok (.isub, 1) := dk_100 (dk_at dksX0_moreOf_1 0 rfl rfl)
theorem dX0_moreOf_25 : decode cX0_moreOf 25 = .ok (.ireturn, 1) := dk_172 (dk_at dksX0_moreOf_1 1 rfl rfl)
abbrev cX0_missing : ByteArray := prog_1_method_40_code
def yX0_missing : MethodName := ⟨RX0, "missing", "(II)I"⟩
def dkwX0_missing_1 : List UInt8 := [42, 27, 28, 182, 0, 248, 167, 0, 5, 16, 154, 172]
abbrev dktX0_missing_1 : List UInt8 := dkwX0_missing_1 ++ []
def dkwX0_missing_0 : List UInt8 := [27, 133, 10, 20, 0, 244, 184, 0, 117, 153, 0, 24, 28, 133, 9, 20, 0, 246, 184, 0, 117, 153, 0, 12]
abbrev dktX0_missing_0 : List UInt8 := dkwX0_missing_0 ++ dktX0_missing_1
theorem dksX0_missing_0 : cX0_missing.data.toList.drop 0 = dktX0_missing_0 := by decide +kernel
theorem dksX0_missing_1 : cX0_missing.data.toList.drop 24 = dktX0_missing_1 := dk_seg dksX0_missing_0 24 rfl rfl
theorem dX0_missing_0 : decode cX0_missing 0 = .ok (.iload_n 1, 1) := dk_27 (dk_at dksX0_missing_0 0 rfl rfl)
theorem dX0_missing_1 : decode cX0_missing 1 = .ok (.i2l, 1) := dk_133 (dk_at dksX0_missing_0 1 rfl rfl)
theorem dX0_missing_2 : decode cX0_missing 2 = .ok (.lconst 1, 1) := dk_10 (dk_at dksX0_missing_0 2 rfl rfl)
theorem dX0_missing_3 : decode cX0_missing 3 = .ok (.ldc2_w 244, 3) := dk_20 0 244 (dk_at dksX0_missing_0 3 rfl rfl)
theorem dX0_missing_6 : decode cX0_missing 6 = .ok (.invokestatic 117, 3) := dk_184 0 117 (dk_at dksX0_missing_0 6 rfl rfl)
theorem dX0_missing_9 : decode cX0_missing 9 = .ok (.ifCond .eq 24, 3) := dk_153 0 24 (dk_at dksX0_missing_0 9 rfl rfl)
theorem dX0_missing_12 : decode cX0_missing 12 = .ok (.iload_n 2, 1) := dk_28 (dk_at dksX0_missing_0 12 rfl rfl)
theorem dX0_missing_13 : decode cX0_missing 13 = .ok (.i2l, 1) := dk_133 (dk_at dksX0_missing_0 13 rfl rfl)
theorem dX0_missing_14 : decode cX0_missing 14 = .ok (.lconst 0, 1) := dk_9 (dk_at dksX0_missing_0 14 rfl rfl)
theorem dX0_missing_15 : decode cX0_missing 15 = .ok (.ldc2_w 246, 3) := dk_20 0 246 (dk_at dksX0_missing_0 15 rfl rfl)
theorem dX0_missing_18 : decode cX0_missing 18 = .ok (.invokestatic 117, 3) := dk_184 0 117 (dk_at dksX0_missing_0 18 rfl rfl)
theorem dX0_missing_21 : decode cX0_missing 21 = .ok (.ifCond .eq 12, 3) := dk_153 0 12 (dk_at dksX0_missing_0 21 rfl rfl)
theorem dX0_missing_24 : decode cX0_missing 24 = .ok (.aload_n 0, 1) := dk_42 (dk_at dksX0_missing_1 0 rfl rfl)
theorem dX0_missing_25 : decode cX0_missing 25 = .ok (.iload_n 1, 1) := dk_27 (dk_at dksX0_missing_1 1 rfl rfl)
theorem dX0_missing_26 : decode cX0_missing 26 = .ok (.iload_n 2, 1) := dk_28 (dk_at dksX0_missing_1 2 rfl rfl)
theorem dX0_missing_27 : decode cX0_missing 27 = .ok (.invokevirtual 248, 3) := dk_182 0 248 (dk_at dksX0_missing_1 3 rfl rfl)
theorem dX0_missing_30 : decode cX0_missing 30 = .ok (.goto 5, 3) := dk_167 0 5 (dk_at dksX0_missing_1 6 rfl rfl)
theorem dX0_missing_33 : decode cX0_missing 33 = .ok (.bipush (-102), 2) := dk_16 154 (dk_at dksX0_missing_1 9 rfl rfl)
theorem dX0_missing_35 : decode cX0_missing 35 = .ok (.ireturn, 1) := dk_172 (dk_at dksX0_missing_1 11 rfl rfl)
abbrev cX0_missingOf : ByteArray := prog_1_method_39_code
def yX0_missingOf : MethodName := ⟨RX0, "missingOf", "(II)I"⟩
def dkwX0_missingOf_6 : List UInt8 := [160, 0, 8, 21, 5, 167, 0, 5, 21, 6, 172]
abbrev dktX0_missingOf_6 : List UInt8 := dkwX0_missingOf_6 ++ []
def dkwX0_missingOf_5 : List UInt8 := [167, 255, 206, 28, 154, 0, 8, 21, 4, 167, 0, 24, 21, 4, 154, 0, 7, 3, 167, 0, 15, 28, 4]
abbrev dktX0_missingOf_5 : List UInt8 := dkwX0_missingOf_5 ++ dktX0_missingOf_6
def dkwX0_missingOf_4 : List UInt8 := [160, 0, 20, 132, 4, 1, 21, 5, 21, 7, 126, 54, 5, 21, 6, 21, 7, 128, 54, 6, 132, 7, 1]
abbrev dktX0_missingOf_4 : List UInt8 := dkwX0_missingOf_4 ++ dktX0_missingOf_5
def dkwX0_missingOf_3 : List UInt8 := [180, 0, 70, 120, 162, 0, 45, 21, 7, 29, 2, 130, 126, 154, 0, 30, 42, 21, 7, 182, 0, 241, 27]
abbrev dktX0_missingOf_3 : List UInt8 := dkwX0_missingOf_3 ++ dktX0_missingOf_4
def dkwX0_missingOf_2 : List UInt8 := [132, 4, 1, 167, 255, 213, 3, 54, 4, 29, 54, 5, 3, 54, 6, 4, 54, 7, 21, 7, 4, 42]
abbrev dktX0_missingOf_2 : List UInt8 := dkwX0_missingOf_2 ++ dktX0_missingOf_3
def dkwX0_missingOf_1 : List UInt8 := [180, 0, 35, 180, 0, 84, 182, 0, 159, 153, 0, 10, 4, 21, 4, 120, 167, 0, 4, 3, 128, 62]
abbrev dktX0_missingOf_1 : List UInt8 := dkwX0_missingOf_1 ++ dktX0_missingOf_2
def dkwX0_missingOf_0 : List UInt8 := [3, 62, 3, 54, 4, 21, 4, 42, 180, 0, 70, 162, 0, 40, 29, 42, 180, 0, 24, 21, 4, 50, 42]
abbrev dktX0_missingOf_0 : List UInt8 := dkwX0_missingOf_0 ++ dktX0_missingOf_1
theorem dksX0_missingOf_0 : cX0_missingOf.data.toList.drop 0 = dktX0_missingOf_0 := by decide +kernel
theorem dksX0_missingOf_1 : cX0_missingOf.data.toList.drop 23 = dktX0_missingOf_1 := dk_seg dksX0_missingOf_0 23 rfl rfl
theorem dksX0_missingOf_2 : cX0_missingOf.data.toList.drop 45 = dktX0_missingOf_2 := dk_seg dksX0_missingOf_1 22 rfl rfl
theorem dksX0_missingOf_3 : cX0_missingOf.data.toList.drop 67 = dktX0_missingOf_3 := dk_seg dksX0_missingOf_2 22 rfl rfl
theorem dksX0_missingOf_4 : cX0_missingOf.data.toList.drop 90 = dktX0_missingOf_4 := dk_seg dksX0_missingOf_3 23 rfl rfl
theorem dksX0_missingOf_5 : cX0_missingOf.data.toList.drop 113 = dktX0_missingOf_5 := dk_seg dksX0_missingOf_4 23 rfl rfl
theorem dksX0_missingOf_6 : cX0_missingOf.data.toList.drop 136 = dktX0_missingOf_6 := dk_seg dksX0_missingOf_5 23 rfl rfl
theorem dX0_missingOf_0 : decode cX0_missingOf 0 = .ok (.iconst 0, 1) := dk_3 (dk_at dksX0_missingOf_0 0 rfl rfl)
theorem dX0_missingOf_1 : decode cX0_missingOf 1 = .ok (.istore_n 3, 1) := dk_62 (dk_at dksX0_missingOf_0 1 rfl rfl)
theorem dX0_missingOf_2 : decode cX0_missingOf 2 = .ok (.iconst 0, 1) := dk_3 (dk_at dksX0_missingOf_0 2 rfl rfl)
theorem dX0_missingOf_3 : decode cX0_missingOf 3 = .ok (.istore 4, 2) := dk_54 4 (dk_at dksX0_missingOf_0 3 rfl rfl)
theorem dX0_missingOf_5 : decode cX0_missingOf 5 = .ok (.iload 4, 2) := dk_21 4 (dk_at dksX0_missingOf_0 5 rfl rfl)
theorem dX0_missingOf_7 : decode cX0_missingOf 7 = .ok (.aload_n 0, 1) := dk_42 (dk_at dksX0_missingOf_0 7 rfl rfl)
theorem dX0_missingOf_8 : decode cX0_missingOf 8 = .ok (.getfield 70, 3) := dk_180 0 70 (dk_at dksX0_missingOf_0 8 rfl rfl)
theorem dX0_missingOf_11 : decode cX0_missingOf 11 = .ok (.if_icmp .ge 40, 3) := dk_162 0 40 (dk_at dksX0_missingOf_0 11 rfl rfl)
theorem dX0_missingOf_14 : decode cX0_missingOf 14 = .ok (.iload_n 3, 1) := dk_29 (dk_at dksX0_missingOf_0 14 rfl rfl)
theorem dX0_missingOf_15 : decode cX0_missingOf 15 = .ok (.aload_n 0, 1) := dk_42 (dk_at dksX0_missingOf_0 15 rfl rfl)
theorem dX0_missingOf_16 : decode cX0_missingOf 16 = .ok (.getfield 24, 3) := dk_180 0 24 (dk_at dksX0_missingOf_0 16 rfl rfl)
theorem dX0_missingOf_19 : decode cX0_missingOf 19 = .ok (.iload 4, 2) := dk_21 4 (dk_at dksX0_missingOf_0 19 rfl rfl)
theorem dX0_missingOf_21 : decode cX0_missingOf 21 = .ok (.aaload, 1) := dk_50 (dk_at dksX0_missingOf_0 21 rfl rfl)
theorem dX0_missingOf_22 : decode cX0_missingOf 22 = .ok (.aload_n 0, 1) := dk_42 (dk_at dksX0_missingOf_0 22 rfl rfl)
theorem dX0_missingOf_23 : decode cX0_missingOf 23 = .ok (.getfield 35, 3) := dk_180 0 35 (dk_at dksX0_missingOf_1 0 rfl rfl)
theorem dX0_missingOf_26 : decode cX0_missingOf 26 = .ok (.getfield 84, 3) := dk_180 0 84 (dk_at dksX0_missingOf_1 3 rfl rfl)
theorem dX0_missingOf_29 : decode cX0_missingOf 29 = .ok (.invokevirtual 159, 3) := dk_182 0 159 (dk_at dksX0_missingOf_1 6 rfl rfl)
theorem dX0_missingOf_32 : decode cX0_missingOf 32 = .ok (.ifCond .eq 10, 3) := dk_153 0 10 (dk_at dksX0_missingOf_1 9 rfl rfl)
theorem dX0_missingOf_35 : decode cX0_missingOf 35 = .ok (.iconst 1, 1) := dk_4 (dk_at dksX0_missingOf_1 12 rfl rfl)
theorem dX0_missingOf_36 : decode cX0_missingOf 36 = .ok (.iload 4, 2) := dk_21 4 (dk_at dksX0_missingOf_1 13 rfl rfl)
theorem dX0_missingOf_38 : decode cX0_missingOf 38 = .ok (.ishl, 1) := dk_120 (dk_at dksX0_missingOf_1 15 rfl rfl)
theorem dX0_missingOf_39 : decode cX0_missingOf 39 = .ok (.goto 4, 3) := dk_167 0 4 (dk_at dksX0_missingOf_1 16 rfl rfl)
theorem dX0_missingOf_42 : decode cX0_missingOf 42 = .ok (.iconst 0, 1) := dk_3 (dk_at dksX0_missingOf_1 19 rfl rfl)
theorem dX0_missingOf_43 : decode cX0_missingOf 43 = .ok (.ior, 1) := dk_128 (dk_at dksX0_missingOf_1 20 rfl rfl)
theorem dX0_missingOf_44 : decode cX0_missingOf 44 = .ok (.istore_n 3, 1) := dk_62 (dk_at dksX0_missingOf_1 21 rfl rfl)
theorem dX0_missingOf_45 : decode cX0_missingOf 45 = .ok (.iinc 4 1, 3) := dk_132 4 1 (dk_at dksX0_missingOf_2 0 rfl rfl)
theorem dX0_missingOf_48 : decode cX0_missingOf 48 = .ok (.goto (-43), 3) := dk_167 255 213 (dk_at dksX0_missingOf_2 3 rfl rfl)
theorem dX0_missingOf_51 : decode cX0_missingOf 51 = .ok (.iconst 0, 1) := dk_3 (dk_at dksX0_missingOf_2 6 rfl rfl)
theorem dX0_missingOf_52 : decode cX0_missingOf 52 = .ok (.istore 4, 2) := dk_54 4 (dk_at dksX0_missingOf_2 7 rfl rfl)
theorem dX0_missingOf_54 : decode cX0_missingOf 54 = .ok (.iload_n 3, 1) := dk_29 (dk_at dksX0_missingOf_2 9 rfl rfl)
theorem dX0_missingOf_55 : decode cX0_missingOf 55 = .ok (.istore 5, 2) := dk_54 5 (dk_at dksX0_missingOf_2 10 rfl rfl)
theorem dX0_missingOf_57 : decode cX0_missingOf 57 = .ok (.iconst 0, 1) := dk_3 (dk_at dksX0_missingOf_2 12 rfl rfl)
theorem dX0_missingOf_58 : decode cX0_missingOf 58 = .ok (.istore 6, 2) := dk_54 6 (dk_at dksX0_missingOf_2 13 rfl rfl)
theorem dX0_missingOf_60 : decode cX0_missingOf 60 = .ok (.iconst 1, 1) := dk_4 (dk_at dksX0_missingOf_2 15 rfl rfl)
theorem dX0_missingOf_61 : decode cX0_missingOf 61 = .ok (.istore 7, 2) := dk_54 7 (dk_at dksX0_missingOf_2 16 rfl rfl)
theorem dX0_missingOf_63 : decode cX0_missingOf 63 = .ok (.iload 7, 2) := dk_21 7 (dk_at dksX0_missingOf_2 18 rfl rfl)
theorem dX0_missingOf_65 : decode cX0_missingOf 65 = .ok (.iconst 1, 1) := dk_4 (dk_at dksX0_missingOf_2 20 rfl rfl)
theorem dX0_missingOf_66 : decode cX0_missingOf 66 = .ok (.aload_n 0, 1) := dk_42 (dk_at dksX0_missingOf_2 21 rfl rfl)
theorem dX0_missingOf_67 : decode cX0_missingOf 67 = .ok (.getfield 70, 3) := dk_180 0 70 (dk_at dksX0_missingOf_3 0 rfl rfl)
theorem dX0_missingOf_70 : decode cX0_missingOf 70 = .ok (.ishl, 1) := dk_120 (dk_at dksX0_missingOf_3 3 rfl rfl)
theorem dX0_missingOf_71 : decode cX0_missingOf 71 = .ok (.if_icmp .ge 45, 3) := dk_162 0 45 (dk_at dksX0_missingOf_3 4 rfl rfl)
theorem dX0_missingOf_74 : decode cX0_missingOf 74 = .ok (.iload 7, 2) := dk_21 7 (dk_at dksX0_missingOf_3 7 rfl rfl)
theorem dX0_missingOf_76 : decode cX0_missingOf 76 = .ok (.iload_n 3, 1) := dk_29 (dk_at dksX0_missingOf_3 9 rfl rfl)
theorem dX0_missingOf_77 : decode cX0_missingOf 77 = .ok (.iconst (-1), 1) := dk_2 (dk_at dksX0_missingOf_3 10 rfl rfl)
theorem dX0_missingOf_78 : decode cX0_missingOf 78 = .ok (.ixor, 1) := dk_130 (dk_at dksX0_missingOf_3 11 rfl rfl)
theorem dX0_missingOf_79 : decode cX0_missingOf 79 = .ok (.iand, 1) := dk_126 (dk_at dksX0_missingOf_3 12 rfl rfl)
theorem dX0_missingOf_80 : decode cX0_missingOf 80 = .ok (.ifCond .ne 30, 3) := dk_154 0 30 (dk_at dksX0_missingOf_3 13 rfl rfl)
theorem dX0_missingOf_83 : decode cX0_missingOf 83 = .ok (.aload_n 0, 1) := dk_42 (dk_at dksX0_missingOf_3 16 rfl rfl)
theorem dX0_missingOf_84 : decode cX0_missingOf 84 = .ok (.iload 7, 2) := dk_21 7 (dk_at dksX0_missingOf_3 17 rfl rfl)
theorem dX0_missingOf_86 : decode cX0_missingOf 86 = .ok (.invokevirtual 241, 3) := dk_182 0 241 (dk_at dksX0_missingOf_3 19 rfl rfl)
theorem dX0_missingOf_89 : decode cX0_missingOf 89 = .ok (.iload_n 1, 1) := dk_27 (dk_at dksX0_missingOf_3 22 rfl rfl)
theorem dX0_missingOf_90 : decode cX0_missingOf 90 = .ok (.if_icmp .ne 20, 3) := dk_160 0 20 (dk_at dksX0_missingOf_4 0 rfl rfl)
theorem dX0_missingOf_93 : decode cX0_missingOf 93 = .ok (.iinc 4 1, 3) := dk_132 4 1 (dk_at dksX0_missingOf_4 3 rfl rfl)
theorem dX0_missingOf_96 : decode cX0_missingOf 96 = .ok (.iload 5, 2) := dk_21 5 (dk_at dksX0_missingOf_4 6 rfl rfl)
theorem dX0_missingOf_98 : decode cX0_missingOf 98 = .ok (.iload 7, 2) := dk_21 7 (dk_at dksX0_missingOf_4 8 rfl rfl)
theorem dX0_missingOf_100 : decode cX0_missingOf 100 = .ok (.iand, 1) := dk_126 (dk_at dksX0_missingOf_4 10 rfl rfl)
theorem dX0_missingOf_101 : decode cX0_missingOf 101 = .ok (.istore 5, 2) := dk_54 5 (dk_at dksX0_missingOf_4 11 rfl rfl)
theorem dX0_missingOf_103 : decode cX0_missingOf 103 = .ok (.iload 6, 2) := dk_21 6 (dk_at dksX0_missingOf_4 13 rfl rfl)
theorem dX0_missingOf_105 : decode cX0_missingOf 105 = .ok (.iload 7, 2) := dk_21 7 (dk_at dksX0_missingOf_4 15 rfl rfl)
theorem dX0_missingOf_107 : decode cX0_missingOf 107 = .ok (.ior, 1) := dk_128 (dk_at dksX0_missingOf_4 17 rfl rfl)
theorem dX0_missingOf_108 : decode cX0_missingOf 108 = .ok (.istore 6, 2) := dk_54 6 (dk_at dksX0_missingOf_4 18 rfl rfl)
theorem dX0_missingOf_110 : decode cX0_missingOf 110 = .ok (.iinc 7 1, 3) := dk_132 7 1 (dk_at dksX0_missingOf_4 20 rfl rfl)
theorem dX0_missingOf_113 : decode cX0_missingOf 113 = .ok (.goto (-50), 3) := dk_167 255 206 (dk_at dksX0_missingOf_5 0 rfl rfl)
theorem dX0_missingOf_116 : decode cX0_missingOf 116 = .ok (.iload_n 2, 1) := dk_28 (dk_at dksX0_missingOf_5 3 rfl rfl)
theorem dX0_missingOf_117 : decode cX0_missingOf 117 = .ok (.ifCond .ne 8, 3) := dk_154 0 8 (dk_at dksX0_missingOf_5 4 rfl rfl)
theorem dX0_missingOf_120 : decode cX0_missingOf 120 = .ok (.iload 4, 2) := dk_21 4 (dk_at dksX0_missingOf_5 7 rfl rfl)
theorem dX0_missingOf_122 : decode cX0_missingOf 122 = .ok (.goto 24, 3) := dk_167 0 24 (dk_at dksX0_missingOf_5 9 rfl rfl)
theorem dX0_missingOf_125 : decode cX0_missingOf 125 = .ok (.iload 4, 2) := dk_21 4 (dk_at dksX0_missingOf_5 12 rfl rfl)
theorem dX0_missingOf_127 : decode cX0_missingOf 127 = .ok (.ifCond .ne 7, 3) := dk_154 0 7 (dk_at dksX0_missingOf_5 14 rfl rfl)
theorem dX0_missingOf_130 : decode cX0_missingOf 130 = .ok (.iconst 0, 1) := dk_3 (dk_at dksX0_missingOf_5 17 rfl rfl)
theorem dX0_missingOf_131 : decode cX0_missingOf 131 = .ok (.goto 15, 3) := dk_167 0 15 (dk_at dksX0_missingOf_5 18 rfl rfl)
theorem dX0_missingOf_134 : decode cX0_missingOf 134 = .ok (.iload_n 2, 1) := dk_28 (dk_at dksX0_missingOf_5 21 rfl rfl)
theorem dX0_missingOf_135 : decode cX0_missingOf 135 = .ok (.iconst 1, 1) := dk_4 (dk_at dksX0_missingOf_5 22 rfl rfl)
theorem dX0_missingOf_136 : decode cX0_missingOf 136 = .ok (.if_icmp .ne 8, 3) := dk_160 0 8 (dk_at dksX0_missingOf_6 0 rfl rfl)
theorem dX0_missingOf_139 : decode cX0_missingOf 139 = .ok (.iload 5, 2) := dk_21 5 (dk_at dksX0_missingOf_6 3 rfl rfl)
theorem dX0_missingOf_141 : decode cX0_missingOf 141 = .ok (.goto 5, 3) := dk_167 0 5 (dk_at dksX0_missingOf_6 5 rfl rfl)
theorem dX0_missingOf_144 : decode cX0_missingOf 144 = .ok (.iload 6, 2) := dk_21 6 (dk_at dksX0_missingOf_6 8 rfl rfl)
theorem dX0_missingOf_146 : decode cX0_missingOf 146 = .ok (.ireturn, 1) := dk_172 (dk_at dksX0_missingOf_6 10 rfl rfl)
abbrev cX0_takesOf : ByteArray := prog_1_method_38_code
def yX0_takesOf : MethodName := ⟨RX0, "takesOf", "(I)I"⟩
def dkwX0_takesOf_1 : List UInt8 := [180, 0, 24, 29, 50, 180, 0, 104, 5, 46, 167, 0, 4, 3, 96, 61, 132, 3, 1, 167, 255, 219, 28, 172]
abbrev dktX0_takesOf_1 : List UInt8 := dkwX0_takesOf_1 ++ []
def dkwX0_takesOf_0 : List UInt8 := [3, 61, 3, 62, 29, 42, 180, 0, 70, 162, 0, 35, 28, 27, 29, 184, 0, 124, 153, 0, 17, 42]
abbrev dktX0_takesOf_0 : List UInt8 := dkwX0_takesOf_0 ++ dktX0_takesOf_1
theorem dksX0_takesOf_0 : cX0_takesOf.data.toList.drop 0 = dktX0_takesOf_0 := by decide +kernel
theorem dksX0_takesOf_1 : cX0_takesOf.data.toList.drop 22 = dktX0_takesOf_1 := dk_seg dksX0_takesOf_0 22 rfl rfl
theorem dX0_takesOf_0 : decode cX0_takesOf 0 = .ok (.iconst 0, 1) := dk_3 (dk_at dksX0_takesOf_0 0 rfl rfl)
theorem dX0_takesOf_1 : decode cX0_takesOf 1 = .ok (.istore_n 2, 1) := dk_61 (dk_at dksX0_takesOf_0 1 rfl rfl)
theorem dX0_takesOf_2 : decode cX0_takesOf 2 = .ok (.iconst 0, 1) := dk_3 (dk_at dksX0_takesOf_0 2 rfl rfl)
theorem dX0_takesOf_3 : decode cX0_takesOf 3 = .ok (.istore_n 3, 1) := dk_62 (dk_at dksX0_takesOf_0 3 rfl rfl)
theorem dX0_takesOf_4 : decode cX0_takesOf 4 = .ok (.iload_n 3, 1) := dk_29 (dk_at dksX0_takesOf_0 4 rfl rfl)
theorem dX0_takesOf_5 : decode cX0_takesOf 5 = .ok (.aload_n 0, 1) := dk_42 (dk_at dksX0_takesOf_0 5 rfl rfl)
theorem dX0_takesOf_6 : decode cX0_takesOf 6 = .ok (.getfield 70, 3) := dk_180 0 70 (dk_at dksX0_takesOf_0 6 rfl rfl)
theorem dX0_takesOf_9 : decode cX0_takesOf 9 = .ok (.if_icmp .ge 35, 3) := dk_162 0 35 (dk_at dksX0_takesOf_0 9 rfl rfl)
theorem dX0_takesOf_12 : decode cX0_takesOf 12 = .ok (.iload_n 2, 1) := dk_28 (dk_at dksX0_takesOf_0 12 rfl rfl)
theorem dX0_takesOf_13 : decode cX0_takesOf 13 = .ok (.iload_n 1, 1) := dk_27 (dk_at dksX0_takesOf_0 13 rfl rfl)
theorem dX0_takesOf_14 : decode cX0_takesOf 14 = .ok (.iload_n 3, 1) := dk_29 (dk_at dksX0_takesOf_0 14 rfl rfl)
theorem dX0_takesOf_15 : decode cX0_takesOf 15 = .ok (.invokestatic 124, 3) := dk_184 0 124 (dk_at dksX0_takesOf_0 15 rfl rfl)
theorem dX0_takesOf_18 : decode cX0_takesOf 18 = .ok (.ifCond .eq 17, 3) := dk_153 0 17 (dk_at dksX0_takesOf_0 18 rfl rfl)
theorem dX0_takesOf_21 : decode cX0_takesOf 21 = .ok (.aload_n 0, 1) := dk_42 (dk_at dksX0_takesOf_0 21 rfl rfl)
theorem dX0_takesOf_22 : decode cX0_takesOf 22 = .ok (.getfield 24, 3) := dk_180 0 24 (dk_at dksX0_takesOf_1 0 rfl rfl)
theorem dX0_takesOf_25 : decode cX0_takesOf 25 = .ok (.iload_n 3, 1) := dk_29 (dk_at dksX0_takesOf_1 3 rfl rfl)
theorem dX0_takesOf_26 : decode cX0_takesOf 26 = .ok (.aaload, 1) := dk_50 (dk_at dksX0_takesOf_1 4 rfl rfl)
theorem dX0_takesOf_27 : decode cX0_takesOf 27 = .ok (.getfield 104, 3) := dk_180 0 104 (dk_at dksX0_takesOf_1 5 rfl rfl)
theorem dX0_takesOf_30 : decode cX0_takesOf 30 = .ok (.iconst 2, 1) := dk_5 (dk_at dksX0_takesOf_1 8 rfl rfl)
theorem dX0_takesOf_31 : decode cX0_takesOf 31 = .ok (.iaload, 1) := dk_46 (dk_at dksX0_takesOf_1 9 rfl rfl)
theorem dX0_takesOf_32 : decode cX0_takesOf 32 = .ok (.goto 4, 3) := dk_167 0 4 (dk_at dksX0_takesOf_1 10 rfl rfl)
theorem dX0_takesOf_35 : decode cX0_takesOf 35 = .ok (.iconst 0, 1) := dk_3 (dk_at dksX0_takesOf_1 13 rfl rfl)
theorem dX0_takesOf_36 : decode cX0_takesOf 36 = .ok (.iadd, 1) := dk_96 (dk_at dksX0_takesOf_1 14 rfl rfl)
theorem dX0_takesOf_37 : decode cX0_takesOf 37 = .ok (.istore_n 2, 1) := dk_61 (dk_at dksX0_takesOf_1 15 rfl rfl)
theorem dX0_takesOf_38 : decode cX0_takesOf 38 = .ok (.iinc 3 1, 3) := dk_132 3 1 (dk_at dksX0_takesOf_1 16 rfl rfl)
theorem dX0_takesOf_41 : decode cX0_takesOf 41 = .ok (.goto (-37), 3) := dk_167 255 219 (dk_at dksX0_takesOf_1 19 rfl rfl)
theorem dX0_takesOf_44 : decode cX0_takesOf 44 = .ok (.iload_n 2, 1) := dk_28 (dk_at dksX0_takesOf_1 22 rfl rfl)
theorem dX0_takesOf_45 : decode cX0_takesOf 45 = .ok (.ireturn, 1) := dk_172 (dk_at dksX0_takesOf_1 23 rfl rfl)
abbrev cX0_rest : ByteArray := prog_1_method_42_code
def yX0_rest : MethodName := ⟨RX0, "rest", "(II)I"⟩
def dkwX0_rest_1 : List UInt8 := [167, 0, 5, 16, 154, 172]
abbrev dktX0_rest_1 : List UInt8 := dkwX0_rest_1 ++ []
def dkwX0_rest_0 : List UInt8 := [27, 155, 0, 24, 28, 133, 9, 20, 1, 2, 184, 0, 117, 153, 0, 12, 42, 27, 28, 182, 1, 4]
abbrev dktX0_rest_0 : List UInt8 := dkwX0_rest_0 ++ dktX0_rest_1
theorem dksX0_rest_0 : cX0_rest.data.toList.drop 0 = dktX0_rest_0 := by decide +kernel
theorem dksX0_rest_1 : cX0_rest.data.toList.drop 22 = dktX0_rest_1 := dk_seg dksX0_rest_0 22 rfl rfl
theorem dX0_rest_0 : decode cX0_rest 0 = .ok (.iload_n 1, 1) := dk_27 (dk_at dksX0_rest_0 0 rfl rfl)
theorem dX0_rest_1 : decode cX0_rest 1 = .ok (.ifCond .lt 24, 3) := dk_155 0 24 (dk_at dksX0_rest_0 1 rfl rfl)
theorem dX0_rest_4 : decode cX0_rest 4 = .ok (.iload_n 2, 1) := dk_28 (dk_at dksX0_rest_0 4 rfl rfl)
theorem dX0_rest_5 : decode cX0_rest 5 = .ok (.i2l, 1) := dk_133 (dk_at dksX0_rest_0 5 rfl rfl)
theorem dX0_rest_6 : decode cX0_rest 6 = .ok (.lconst 0, 1) := dk_9 (dk_at dksX0_rest_0 6 rfl rfl)
theorem dX0_rest_7 : decode cX0_rest 7 = .ok (.ldc2_w 258, 3) := dk_20 1 2 (dk_at dksX0_rest_0 7 rfl rfl)
theorem dX0_rest_10 : decode cX0_rest 10 = .ok (.invokestatic 117, 3) := dk_184 0 117 (dk_at dksX0_rest_0 10 rfl rfl)
theorem dX0_rest_13 : decode cX0_rest 13 = .ok (.ifCond .eq 12, 3) := dk_153 0 12 (dk_at dksX0_rest_0 13 rfl rfl)
theorem dX0_rest_16 : decode cX0_rest 16 = .ok (.aload_n 0, 1) := dk_42 (dk_at dksX0_rest_0 16 rfl rfl)
theorem dX0_rest_17 : decode cX0_rest 17 = .ok (.iload_n 1, 1) := dk_27 (dk_at dksX0_rest_0 17 rfl rfl)
theorem dX0_rest_18 : decode cX0_rest 18 = .ok (.iload_n 2, 1) := dk_28 (dk_at dksX0_rest_0 18 rfl rfl)
theorem dX0_rest_19 : decode cX0_rest 19 = .ok (.invokevirtual 260, 3) := dk_182 1 4 (dk_at dksX0_rest_0 19 rfl rfl)
theorem dX0_rest_22 : decode cX0_rest 22 = .ok (.goto 5, 3) := dk_167 0 5 (dk_at dksX0_rest_1 0 rfl rfl)
theorem dX0_rest_25 : decode cX0_rest 25 = .ok (.bipush (-102), 2) := dk_16 154 (dk_at dksX0_rest_1 3 rfl rfl)
theorem dX0_rest_27 : decode cX0_rest 27 = .ok (.ireturn, 1) := dk_172 (dk_at dksX0_rest_1 5 rfl rfl)
abbrev cX0_restBy : ByteArray := prog_1_method_41_code
def yX0_restBy : MethodName := ⟨RX0, "restBy", "(II)I"⟩
def dkwX0_restBy_6 : List UInt8 := [180, 0, 39, 180, 0, 152, 167, 0, 15, 28, 5, 160, 0, 8, 21, 5, 167, 0, 5, 21, 4, 172]
abbrev dktX0_restBy_6 : List UInt8 := dkwX0_restBy_6 ++ []
def dkwX0_restBy_5 : List UInt8 := [28, 154, 0, 15, 42, 180, 0, 39, 182, 0, 209, 29, 100, 167, 0, 30, 28, 4, 160, 0, 13, 42]
abbrev dktX0_restBy_5 : List UInt8 := dkwX0_restBy_5 ++ dktX0_restBy_6
def dkwX0_restBy_4 : List UInt8 := [54, 7, 42, 180, 0, 39, 180, 0, 197, 153, 0, 8, 21, 6, 167, 0, 5, 21, 5, 54, 5, 167, 255, 167]
abbrev dktX0_restBy_4 : List UInt8 := dkwX0_restBy_4 ++ dktX0_restBy_5
def dkwX0_restBy_3 : List UInt8 := [167, 0, 4, 3, 181, 0, 155, 42, 180, 0, 39, 180, 0, 84, 54, 6, 42, 42, 180, 0, 39, 182, 0, 206]
abbrev dktX0_restBy_3 : List UInt8 := dkwX0_restBy_3 ++ dktX0_restBy_4
def dkwX0_restBy_2 : List UInt8 := [20, 0, 255, 127, 136, 54, 4, 42, 180, 0, 39, 21, 4, 19, 1, 1, 108, 6, 112, 154, 0, 7, 4]
abbrev dktX0_restBy_2 : List UInt8 := dkwX0_restBy_2 ++ dktX0_restBy_3
def dkwX0_restBy_1 : List UInt8 := [54, 5, 42, 180, 0, 39, 182, 0, 203, 154, 0, 85, 20, 0, 251, 21, 4, 133, 105, 20, 0, 253, 97]
abbrev dktX0_restBy_1 : List UInt8 := dkwX0_restBy_1 ++ dktX0_restBy_2
def dkwX0_restBy_0 : List UInt8 := [42, 180, 0, 39, 42, 180, 0, 35, 182, 0, 220, 42, 180, 0, 39, 182, 0, 209, 62, 27, 54, 4, 2]
abbrev dktX0_restBy_0 : List UInt8 := dkwX0_restBy_0 ++ dktX0_restBy_1
theorem dksX0_restBy_0 : cX0_restBy.data.toList.drop 0 = dktX0_restBy_0 := by decide +kernel
theorem dksX0_restBy_1 : cX0_restBy.data.toList.drop 23 = dktX0_restBy_1 := dk_seg dksX0_restBy_0 23 rfl rfl
theorem dksX0_restBy_2 : cX0_restBy.data.toList.drop 46 = dktX0_restBy_2 := dk_seg dksX0_restBy_1 23 rfl rfl
theorem dksX0_restBy_3 : cX0_restBy.data.toList.drop 69 = dktX0_restBy_3 := dk_seg dksX0_restBy_2 23 rfl rfl
theorem dksX0_restBy_4 : cX0_restBy.data.toList.drop 93 = dktX0_restBy_4 := dk_seg dksX0_restBy_3 24 rfl rfl
theorem dksX0_restBy_5 : cX0_restBy.data.toList.drop 117 = dktX0_restBy_5 := dk_seg dksX0_restBy_4 24 rfl rfl
theorem dksX0_restBy_6 : cX0_restBy.data.toList.drop 139 = dktX0_restBy_6 := dk_seg dksX0_restBy_5 22 rfl rfl
theorem dX0_restBy_0 : decode cX0_restBy 0 = .ok (.aload_n 0, 1) := dk_42 (dk_at dksX0_restBy_0 0 rfl rfl)
theorem dX0_restBy_1 : decode cX0_restBy 1 = .ok (.getfield 39, 3) := dk_180 0 39 (dk_at dksX0_restBy_0 1 rfl rfl)
theorem dX0_restBy_4 : decode cX0_restBy 4 = .ok (.aload_n 0, 1) := dk_42 (dk_at dksX0_restBy_0 4 rfl rfl)
theorem dX0_restBy_5 : decode cX0_restBy 5 = .ok (.getfield 35, 3) := dk_180 0 35 (dk_at dksX0_restBy_0 5 rfl rfl)
theorem dX0_restBy_8 : decode cX0_restBy 8 = .ok (.invokevirtual 220, 3) := dk_182 0 220 (dk_at dksX0_restBy_0 8 rfl rfl)
theorem dX0_restBy_11 : decode cX0_restBy 11 = .ok (.aload_n 0, 1) := dk_42 (dk_at dksX0_restBy_0 11 rfl rfl)
theorem dX0_restBy_12 : decode cX0_restBy 12 = .ok (.getfield 39, 3) := dk_180 0 39 (dk_at dksX0_restBy_0 12 rfl rfl)
theorem dX0_restBy_15 : decode cX0_restBy 15 = .ok (.invokevirtual 209, 3) := dk_182 0 209 (dk_at dksX0_restBy_0 15 rfl rfl)
theorem dX0_restBy_18 : decode cX0_restBy 18 = .ok (.istore_n 3, 1) := dk_62 (dk_at dksX0_restBy_0 18 rfl rfl)
theorem dX0_restBy_19 : decode cX0_restBy 19 = .ok (.iload_n 1, 1) := dk_27 (dk_at dksX0_restBy_0 19 rfl rfl)
theorem dX0_restBy_20 : decode cX0_restBy 20 = .ok (.istore 4, 2) := dk_54 4 (dk_at dksX0_restBy_0 20 rfl rfl)
theorem dX0_restBy_22 : decode cX0_restBy 22 = .ok (.iconst (-1), 1) := dk_2 (dk_at dksX0_restBy_0 22 rfl rfl)
theorem dX0_restBy_23 : decode cX0_restBy 23 = .ok (.istore 5, 2) := dk_54 5 (dk_at dksX0_restBy_1 0 rfl rfl)
theorem dX0_restBy_25 : decode cX0_restBy 25 = .ok (.aload_n 0, 1) := dk_42 (dk_at dksX0_restBy_1 2 rfl rfl)
theorem dX0_restBy_26 : decode cX0_restBy 26 = .ok (.getfield 39, 3) := dk_180 0 39 (dk_at dksX0_restBy_1 3 rfl rfl)
theorem dX0_restBy_29 : decode cX0_restBy 29 = .ok (.invokevirtual 203, 3) := dk_182 0 203 (dk_at dksX0_restBy_1 6 rfl rfl)
theorem dX0_restBy_32 : decode cX0_restBy 32 = .ok (.ifCond .ne 85, 3) := dk_154 0 85 (dk_at dksX0_restBy_1 9 rfl rfl)
theorem dX0_restBy_35 : decode cX0_restBy 35 = .ok (.ldc2_w 251, 3) := dk_20 0 251 (dk_at dksX0_restBy_1 12 rfl rfl)
theorem dX0_restBy_38 : decode cX0_restBy 38 = .ok (.iload 4, 2) := dk_21 4 (dk_at dksX0_restBy_1 15 rfl rfl)
theorem dX0_restBy_40 : decode cX0_restBy 40 = .ok (.i2l, 1) := dk_133 (dk_at dksX0_restBy_1 17 rfl rfl)
theorem dX0_restBy_41 : decode cX0_restBy 41 = .ok (.lmul, 1) := dk_105 (dk_at dksX0_restBy_1 18 rfl rfl)
theorem dX0_restBy_42 : decode cX0_restBy 42 = .ok (.ldc2_w 253, 3) := dk_20 0 253 (dk_at dksX0_restBy_1 19 rfl rfl)
theorem dX0_restBy_45 : decode cX0_restBy 45 = .ok (.ladd, 1) := dk_97 (dk_at dksX0_restBy_1 22 rfl rfl)
theorem dX0_restBy_46 : decode cX0_restBy 46 = .ok (.ldc2_w 255, 3) := dk_20 0 255 (dk_at dksX0_restBy_2 0 rfl rfl)
theorem dX0_restBy_49 : decode cX0_restBy 49 = .ok (.land, 1) := dk_127 (dk_at dksX0_restBy_2 3 rfl rfl)
theorem dX0_restBy_50 : decode cX0_restBy 50 = .ok (.l2i, 1) := dk_136 (dk_at dksX0_restBy_2 4 rfl rfl)
theorem dX0_restBy_51 : decode cX0_restBy 51 = .ok (.istore 4, 2) := dk_54 4 (dk_at dksX0_restBy_2 5 rfl rfl)
theorem dX0_restBy_53 : decode cX0_restBy 53 = .ok (.aload_n 0, 1) := dk_42 (dk_at dksX0_restBy_2 7 rfl rfl)
theorem dX0_restBy_54 : decode cX0_restBy 54 = .ok (.getfield 39, 3) := dk_180 0 39 (dk_at dksX0_restBy_2 8 rfl rfl)
theorem dX0_restBy_57 : decode cX0_restBy 57 = .ok (.iload 4, 2) := dk_21 4 (dk_at dksX0_restBy_2 11 rfl rfl)
theorem dX0_restBy_59 : decode cX0_restBy 59 = .ok (.ldc_w 257, 3) := dk_19 1 1 (dk_at dksX0_restBy_2 13 rfl rfl)
theorem dX0_restBy_62 : decode cX0_restBy 62 = .ok (.idiv, 1) := dk_108 (dk_at dksX0_restBy_2 16 rfl rfl)
theorem dX0_restBy_63 : decode cX0_restBy 63 = .ok (.iconst 3, 1) := dk_6 (dk_at dksX0_restBy_2 17 rfl rfl)
theorem dX0_restBy_64 : decode cX0_restBy 64 = .ok (.irem, 1) := dk_112 (dk_at dksX0_restBy_2 18 rfl rfl)
theorem dX0_restBy_65 : decode cX0_restBy 65 = .ok (.ifCond .ne 7, 3) := dk_154 0 7 (dk_at dksX0_restBy_2 19 rfl rfl)
theorem dX0_restBy_68 : decode cX0_restBy 68 = .ok (.iconst 1, 1) := dk_4 (dk_at dksX0_restBy_2 22 rfl rfl)
theorem dX0_restBy_69 : decode cX0_restBy 69 = .ok (.goto 4, 3) := dk_167 0 4 (dk_at dksX0_restBy_3 0 rfl rfl)
theorem dX0_restBy_72 : decode cX0_restBy 72 = .ok (.iconst 0, 1) := dk_3 (dk_at dksX0_restBy_3 3 rfl rfl)
theorem dX0_restBy_73 : decode cX0_restBy 73 = .ok (.putfield 155, 3) := dk_181 0 155 (dk_at dksX0_restBy_3 4 rfl rfl)
theorem dX0_restBy_76 : decode cX0_restBy 76 = .ok (.aload_n 0, 1) := dk_42 (dk_at dksX0_restBy_3 7 rfl rfl)
theorem dX0_restBy_77 : decode cX0_restBy 77 = .ok (.getfield 39, 3) := dk_180 0 39 (dk_at dksX0_restBy_3 8 rfl rfl)
theorem dX0_restBy_80 : decode cX0_restBy 80 = .ok (.getfield 84, 3) := dk_180 0 84 (dk_at dksX0_restBy_3 11 rfl rfl)
theorem dX0_restBy_83 : decode cX0_restBy 83 = .ok (.istore 6, 2) := dk_54 6 (dk_at dksX0_restBy_3 14 rfl rfl)
theorem dX0_restBy_85 : decode cX0_restBy 85 = .ok (.aload_n 0, 1) := dk_42 (dk_at dksX0_restBy_3 16 rfl rfl)
theorem dX0_restBy_86 : decode cX0_restBy 86 = .ok (.aload_n 0, 1) := dk_42 (dk_at dksX0_restBy_3 17 rfl rfl)
theorem dX0_restBy_87 : decode cX0_restBy 87 = .ok (.getfield 39, 3) := dk_180 0 39 (dk_at dksX0_restBy_3 18 rfl rfl)
theorem dX0_restBy_90 : decode cX0_restBy 90 = .ok (.invokevirtual 206, 3) := dk_182 0 206 (dk_at dksX0_restBy_3 21 rfl rfl)
theorem dX0_restBy_93 : decode cX0_restBy 93 = .ok (.istore 7, 2) := dk_54 7 (dk_at dksX0_restBy_4 0 rfl rfl)
theorem dX0_restBy_95 : decode cX0_restBy 95 = .ok (.aload_n 0, 1) := dk_42 (dk_at dksX0_restBy_4 2 rfl rfl)
theorem dX0_restBy_96 : decode cX0_restBy 96 = .ok (.getfield 39, 3) := dk_180 0 39 (dk_at dksX0_restBy_4 3 rfl rfl)
theorem dX0_restBy_99 : decode cX0_restBy 99 = .ok (.getfield 197, 3) := dk_180 0 197 (dk_at dksX0_restBy_4 6 rfl rfl)
theorem dX0_restBy_102 : decode cX0_restBy 102 = .ok (.ifCond .eq 8, 3) := dk_153 0 8 (dk_at dksX0_restBy_4 9 rfl rfl)
theorem dX0_restBy_105 : decode cX0_restBy 105 = .ok (.iload 6, 2) := dk_21 6 (dk_at dksX0_restBy_4 12 rfl rfl)
theorem dX0_restBy_107 : decode cX0_restBy 107 = .ok (.goto 5, 3) := dk_167 0 5 (dk_at dksX0_restBy_4 14 rfl rfl)
theorem dX0_restBy_110 : decode cX0_restBy 110 = .ok (.iload 5, 2) := dk_21 5 (dk_at dksX0_restBy_4 17 rfl rfl)
theorem dX0_restBy_112 : decode cX0_restBy 112 = .ok (.istore 5, 2) := dk_54 5 (dk_at dksX0_restBy_4 19 rfl rfl)
theorem dX0_restBy_114 : decode cX0_restBy 114 = .ok (.goto (-89), 3) := dk_167 255 167 (dk_at dksX0_restBy_4 21 rfl rfl)
theorem dX0_restBy_117 : decode cX0_restBy 117 = .ok (.iload_n 2, 1) := dk_28 (dk_at dksX0_restBy_5 0 rfl rfl)
theorem dX0_restBy_118 : decode cX0_restBy 118 = .ok (.ifCond .ne 15, 3) := dk_154 0 15 (dk_at dksX0_restBy_5 1 rfl rfl)
theorem dX0_restBy_121 : decode cX0_restBy 121 = .ok (.aload_n 0, 1) := dk_42 (dk_at dksX0_restBy_5 4 rfl rfl)
theorem dX0_restBy_122 : decode cX0_restBy 122 = .ok (.getfield 39, 3) := dk_180 0 39 (dk_at dksX0_restBy_5 5 rfl rfl)
theorem dX0_restBy_125 : decode cX0_restBy 125 = .ok (.invokevirtual 209, 3) := dk_182 0 209 (dk_at dksX0_restBy_5 8 rfl rfl)
theorem dX0_restBy_128 : decode cX0_restBy 128 = .ok (.iload_n 3, 1) := dk_29 (dk_at dksX0_restBy_5 11 rfl rfl)
theorem dX0_restBy_129 : decode cX0_restBy 129 = .ok (.isub, 1) := dk_100 (dk_at dksX0_restBy_5 12 rfl rfl)
theorem dX0_restBy_130 : decode cX0_restBy 130 = .ok (.goto 30, 3) := dk_167 0 30 (dk_at dksX0_restBy_5 13 rfl rfl)
theorem dX0_restBy_133 : decode cX0_restBy 133 = .ok (.iload_n 2, 1) := dk_28 (dk_at dksX0_restBy_5 16 rfl rfl)
theorem dX0_restBy_134 : decode cX0_restBy 134 = .ok (.iconst 1, 1) := dk_4 (dk_at dksX0_restBy_5 17 rfl rfl)
theorem dX0_restBy_135 : decode cX0_restBy 135 = .ok (.if_icmp .ne 13, 3) := dk_160 0 13 (dk_at dksX0_restBy_5 18 rfl rfl)
theorem dX0_restBy_138 : decode cX0_restBy 138 = .ok (.aload_n 0, 1) := dk_42 (dk_at dksX0_restBy_5 21 rfl rfl)
theorem dX0_restBy_139 : decode cX0_restBy 139 = .ok (.getfield 39, 3) := dk_180 0 39 (dk_at dksX0_restBy_6 0 rfl rfl)
theorem dX0_restBy_142 : decode cX0_restBy 142 = .ok (.getfield 152, 3) := dk_180 0 152 (dk_at dksX0_restBy_6 3 rfl rfl)
theorem dX0_restBy_145 : decode cX0_restBy 145 = .ok (.goto 15, 3) := dk_167 0 15 (dk_at dksX0_restBy_6 6 rfl rfl)
theorem dX0_restBy_148 : decode cX0_restBy 148 = .ok (.iload_n 2, 1) := dk_28 (dk_at dksX0_restBy_6 9 rfl rfl)
theorem dX0_restBy_149 : decode cX0_restBy 149 = .ok (.iconst 2, 1) := dk_5 (dk_at dksX0_restBy_6 10 rfl rfl)
theorem dX0_restBy_150 : decode cX0_restBy 150 = .ok (.if_icmp .ne 8, 3) := dk_160 0 8 (dk_at dksX0_restBy_6 11 rfl rfl)
theorem dX0_restBy_153 : decode cX0_restBy 153 = .ok (.iload 5, 2) := dk_21 5 (dk_at dksX0_restBy_6 14 rfl rfl)
theorem dX0_restBy_155 : decode cX0_restBy 155 = .ok (.goto 5, 3) := dk_167 0 5 (dk_at dksX0_restBy_6 16 rfl rfl)
theorem dX0_restBy_158 : decode cX0_restBy 158 = .ok (.iload 4, 2) := dk_21 4 (dk_at dksX0_restBy_6 19 rfl rfl)
theorem dX0_restBy_160 : decode cX0_restBy 160 = .ok (.ireturn, 1) := dk_172 (dk_at dksX0_restBy_6 21 rfl rfl)
abbrev cX0_read : ByteArray := prog_1_method_43_code
def yX0_read : MethodName := ⟨RX0, "read", "(II)I"⟩
def dkwX0_read_3 : List UInt8 := [181, 1, 9, 42, 180, 1, 9, 172]
abbrev dktX0_read_3 : List UInt8 := dkwX0_read_3 ++ []
def dkwX0_read_2 : List UInt8 := [104, 27, 79, 42, 180, 0, 42, 5, 42, 180, 1, 9, 104, 4, 96, 28, 79, 42, 89, 180, 1, 9, 4, 96]
abbrev dktX0_read_2 : List UInt8 := dkwX0_read_2 ++ dktX0_read_3
def dkwX0_read_1 : List UInt8 := [16, 154, 172, 42, 180, 1, 9, 16, 8, 160, 0, 6, 16, 152, 172, 42, 180, 0, 42, 5, 42, 180, 1, 9]
abbrev dktX0_read_1 : List UInt8 := dkwX0_read_1 ++ dktX0_read_2
def dkwX0_read_0 : List UInt8 := [42, 27, 182, 0, 185, 153, 0, 19, 27, 153, 0, 15, 28, 133, 10, 20, 1, 7, 184, 0, 117, 154, 0, 6]
abbrev dktX0_read_0 : List UInt8 := dkwX0_read_0 ++ dktX0_read_1
theorem dksX0_read_0 : cX0_read.data.toList.drop 0 = dktX0_read_0 := by decide +kernel
theorem dksX0_read_1 : cX0_read.data.toList.drop 24 = dktX0_read_1 := dk_seg dksX0_read_0 24 rfl rfl
theorem dksX0_read_2 : cX0_read.data.toList.drop 48 = dktX0_read_2 := dk_seg dksX0_read_1 24 rfl rfl
theorem dksX0_read_3 : cX0_read.data.toList.drop 72 = dktX0_read_3 := dk_seg dksX0_read_2 24 rfl rfl
theorem dX0_read_0 : decode cX0_read 0 = .ok (.aload_n 0, 1) := dk_42 (dk_at dksX0_read_0 0 rfl rfl)
theorem dX0_read_1 : decode cX0_read 1 = .ok (.iload_n 1, 1) := dk_27 (dk_at dksX0_read_0 1 rfl rfl)
theorem dX0_read_2 : decode cX0_read 2 = .ok (.invokevirtual 185, 3) := dk_182 0 185 (dk_at dksX0_read_0 2 rfl rfl)
theorem dX0_read_5 : decode cX0_read 5 = .ok (.ifCond .eq 19, 3) := dk_153 0 19 (dk_at dksX0_read_0 5 rfl rfl)
theorem dX0_read_8 : decode cX0_read 8 = .ok (.iload_n 1, 1) := dk_27 (dk_at dksX0_read_0 8 rfl rfl)
theorem dX0_read_9 : decode cX0_read 9 = .ok (.ifCond .eq 15, 3) := dk_153 0 15 (dk_at dksX0_read_0 9 rfl rfl)
theorem dX0_read_12 : decode cX0_read 12 = .ok (.iload_n 2, 1) := dk_28 (dk_at dksX0_read_0 12 rfl rfl)
theorem dX0_read_13 : decode cX0_read 13 = .ok (.i2l, 1) := dk_133 (dk_at dksX0_read_0 13 rfl rfl)
theorem dX0_read_14 : decode cX0_read 14 = .ok (.lconst 1, 1) := dk_10 (dk_at dksX0_read_0 14 rfl rfl)
theorem dX0_read_15 : decode cX0_read 15 = .ok (.ldc2_w 263, 3) := dk_20 1 7 (dk_at dksX0_read_0 15 rfl rfl)
theorem dX0_read_18 : decode cX0_read 18 = .ok (.invokestatic 117, 3) := dk_184 0 117 (dk_at dksX0_read_0 18 rfl rfl)
theorem dX0_read_21 : decode cX0_read 21 = .ok (.ifCond .ne 6, 3) := dk_154 0 6 (dk_at dksX0_read_0 21 rfl rfl)
theorem dX0_read_24 : decode cX0_read 24 = .ok (.bipush (-102), 2) := dk_16 154 (dk_at dksX0_read_1 0 rfl rfl)
theorem dX0_read_26 : decode cX0_read 26 = .ok (.ireturn, 1) := dk_172 (dk_at dksX0_read_1 2 rfl rfl)
theorem dX0_read_27 : decode cX0_read 27 = .ok (.aload_n 0, 1) := dk_42 (dk_at dksX0_read_1 3 rfl rfl)
theorem dX0_read_28 : decode cX0_read 28 = .ok (.getfield 265, 3) := dk_180 1 9 (dk_at dksX0_read_1 4 rfl rfl)
theorem dX0_read_31 : decode cX0_read 31 = .ok (.bipush 8, 2) := dk_16 8 (dk_at dksX0_read_1 7 rfl rfl)
theorem dX0_read_33 : decode cX0_read 33 = .ok (.if_icmp .ne 6, 3) := dk_160 0 6 (dk_at dksX0_read_1 9 rfl rfl)
theorem dX0_read_36 : decode cX0_read 36 = .ok (.bipush (-104), 2) := dk_16 152 (dk_at dksX0_read_1 12 rfl rfl)
theorem dX0_read_38 : decode cX0_read 38 = .ok (.ireturn, 1) := dk_172 (dk_at dksX0_read_1 14 rfl rfl)
theorem dX0_read_39 : decode cX0_read 39 = .ok (.aload_n 0, 1) := dk_42 (dk_at dksX0_read_1 15 rfl rfl)
theorem dX0_read_40 : decode cX0_read 40 = .ok (.getfield 42, 3) := dk_180 0 42 (dk_at dksX0_read_1 16 rfl rfl)
theorem dX0_read_43 : decode cX0_read 43 = .ok (.iconst 2, 1) := dk_5 (dk_at dksX0_read_1 19 rfl rfl)
theorem dX0_read_44 : decode cX0_read 44 = .ok (.aload_n 0, 1) := dk_42 (dk_at dksX0_read_1 20 rfl rfl)
theorem dX0_read_45 : decode cX0_read 45 = .ok (.getfield 265, 3) := dk_180 1 9 (dk_at dksX0_read_1 21 rfl rfl)
theorem dX0_read_48 : decode cX0_read 48 = .ok (.imul, 1) := dk_104 (dk_at dksX0_read_2 0 rfl rfl)
theorem dX0_read_49 : decode cX0_read 49 = .ok (.iload_n 1, 1) := dk_27 (dk_at dksX0_read_2 1 rfl rfl)
theorem dX0_read_50 : decode cX0_read 50 = .ok (.iastore, 1) := dk_79 (dk_at dksX0_read_2 2 rfl rfl)
theorem dX0_read_51 : decode cX0_read 51 = .ok (.aload_n 0, 1) := dk_42 (dk_at dksX0_read_2 3 rfl rfl)
theorem dX0_read_52 : decode cX0_read 52 = .ok (.getfield 42, 3) := dk_180 0 42 (dk_at dksX0_read_2 4 rfl rfl)
theorem dX0_read_55 : decode cX0_read 55 = .ok (.iconst 2, 1) := dk_5 (dk_at dksX0_read_2 7 rfl rfl)
theorem dX0_read_56 : decode cX0_read 56 = .ok (.aload_n 0, 1) := dk_42 (dk_at dksX0_read_2 8 rfl rfl)
theorem dX0_read_57 : decode cX0_read 57 = .ok (.getfield 265, 3) := dk_180 1 9 (dk_at dksX0_read_2 9 rfl rfl)
theorem dX0_read_60 : decode cX0_read 60 = .ok (.imul, 1) := dk_104 (dk_at dksX0_read_2 12 rfl rfl)
theorem dX0_read_61 : decode cX0_read 61 = .ok (.iconst 1, 1) := dk_4 (dk_at dksX0_read_2 13 rfl rfl)
theorem dX0_read_62 : decode cX0_read 62 = .ok (.iadd, 1) := dk_96 (dk_at dksX0_read_2 14 rfl rfl)
theorem dX0_read_63 : decode cX0_read 63 = .ok (.iload_n 2, 1) := dk_28 (dk_at dksX0_read_2 15 rfl rfl)
theorem dX0_read_64 : decode cX0_read 64 = .ok (.iastore, 1) := dk_79 (dk_at dksX0_read_2 16 rfl rfl)
theorem dX0_read_65 : decode cX0_read 65 = .ok (.aload_n 0, 1) := dk_42 (dk_at dksX0_read_2 17 rfl rfl)
theorem dX0_read_66 : decode cX0_read 66 = .ok (.dup, 1) := dk_89 (dk_at dksX0_read_2 18 rfl rfl)
theorem dX0_read_67 : decode cX0_read 67 = .ok (.getfield 265, 3) := dk_180 1 9 (dk_at dksX0_read_2 19 rfl rfl)
theorem dX0_read_70 : decode cX0_read 70 = .ok (.iconst 1, 1) := dk_4 (dk_at dksX0_read_2 22 rfl rfl)
theorem dX0_read_71 : decode cX0_read 71 = .ok (.iadd, 1) := dk_96 (dk_at dksX0_read_2 23 rfl rfl)
theorem dX0_read_72 : decode cX0_read 72 = .ok (.putfield 265, 3) := dk_181 1 9 (dk_at dksX0_read_3 0 rfl rfl)
theorem dX0_read_75 : decode cX0_read 75 = .ok (.aload_n 0, 1) := dk_42 (dk_at dksX0_read_3 3 rfl rfl)
theorem dX0_read_76 : decode cX0_read 76 = .ok (.getfield 265, 3) := dk_180 1 9 (dk_at dksX0_read_3 4 rfl rfl)
theorem dX0_read_79 : decode cX0_read 79 = .ok (.ireturn, 1) := dk_172 (dk_at dksX0_read_3 7 rfl rfl)
abbrev cX0_wipe : ByteArray := prog_1_method_44_code
def yX0_wipe : MethodName := ⟨RX0, "wipe", "()I"⟩
def dkwX0_wipe_0 : List UInt8 := [42, 180, 1, 9, 60, 42, 3, 181, 1, 9, 27, 172]
abbrev dktX0_wipe_0 : List UInt8 := dkwX0_wipe_0 ++ []
theorem dksX0_wipe_0 : cX0_wipe.data.toList.drop 0 = dktX0_wipe_0 := by decide +kernel
theorem dX0_wipe_0 : decode cX0_wipe 0 = .ok (.aload_n 0, 1) := dk_42 (dk_at dksX0_wipe_0 0 rfl rfl)
theorem dX0_wipe_1 : decode cX0_wipe 1 = .ok (.getfield 265, 3) := dk_180 1 9 (dk_at dksX0_wipe_0 1 rfl rfl)
theorem dX0_wipe_4 : decode cX0_wipe 4 = .ok (.istore_n 1, 1) := dk_60 (dk_at dksX0_wipe_0 4 rfl rfl)
theorem dX0_wipe_5 : decode cX0_wipe 5 = .ok (.aload_n 0, 1) := dk_42 (dk_at dksX0_wipe_0 5 rfl rfl)
theorem dX0_wipe_6 : decode cX0_wipe 6 = .ok (.iconst 0, 1) := dk_3 (dk_at dksX0_wipe_0 6 rfl rfl)
theorem dX0_wipe_7 : decode cX0_wipe 7 = .ok (.putfield 265, 3) := dk_181 1 9 (dk_at dksX0_wipe_0 7 rfl rfl)
theorem dX0_wipe_10 : decode cX0_wipe 10 = .ok (.iload_n 1, 1) := dk_27 (dk_at dksX0_wipe_0 10 rfl rfl)
theorem dX0_wipe_11 : decode cX0_wipe 11 = .ok (.ireturn, 1) := dk_172 (dk_at dksX0_wipe_0 11 rfl rfl)
abbrev cX0_leaks : ByteArray := prog_1_method_49_code
def yX0_leaks : MethodName := ⟨RX0, "leaks", "()I"⟩
theorem dX0_leaks_0 : decode cX0_leaks 0 = .ok (.aload_n 0, 1) := by decide +kernel
theorem dX0_leaks_1 : decode cX0_leaks 1 = .ok (.invokevirtual 277, 3) := by decide +kernel
theorem dX0_leaks_4 : decode cX0_leaks 4 = .ok (.ireturn, 1) := by decide +kernel
abbrev cX0_leaksOf : ByteArray := prog_1_method_48_code
def yX0_leaksOf : MethodName := ⟨RX0, "leaksOf", "()I"⟩
def dkwX0_leaksOf_1 : List UInt8 := [167, 0, 6, 4, 28, 120, 128, 60, 132, 2, 1, 167, 255, 226, 27, 172]
abbrev dktX0_leaksOf_1 : List UInt8 := dkwX0_leaksOf_1 ++ []
def dkwX0_leaksOf_0 : List UInt8 := [3, 60, 3, 61, 28, 42, 180, 0, 70, 162, 0, 28, 27, 42, 28, 182, 1, 18, 2, 160, 0, 7, 3]
abbrev dktX0_leaksOf_0 : List UInt8 := dkwX0_leaksOf_0 ++ dktX0_leaksOf_1
theorem dksX0_leaksOf_0 : cX0_leaksOf.data.toList.drop 0 = dktX0_leaksOf_0 := by decide +kernel
theorem dksX0_leaksOf_1 : cX0_leaksOf.data.toList.drop 23 = dktX0_leaksOf_1 := dk_seg dksX0_leaksOf_0 23 rfl rfl
theorem dX0_leaksOf_0 : decode cX0_leaksOf 0 = .ok (.iconst 0, 1) := dk_3 (dk_at dksX0_leaksOf_0 0 rfl rfl)
theorem dX0_leaksOf_1 : decode cX0_leaksOf 1 = .ok (.istore_n 1, 1) := dk_60 (dk_at dksX0_leaksOf_0 1 rfl rfl)
theorem dX0_leaksOf_2 : decode cX0_leaksOf 2 = .ok (.iconst 0, 1) := dk_3 (dk_at dksX0_leaksOf_0 2 rfl rfl)
theorem dX0_leaksOf_3 : decode cX0_leaksOf 3 = .ok (.istore_n 2, 1) := dk_61 (dk_at dksX0_leaksOf_0 3 rfl rfl)
theorem dX0_leaksOf_4 : decode cX0_leaksOf 4 = .ok (.iload_n 2, 1) := dk_28 (dk_at dksX0_leaksOf_0 4 rfl rfl)
theorem dX0_leaksOf_5 : decode cX0_leaksOf 5 = .ok (.aload_n 0, 1) := dk_42 (dk_at dksX0_leaksOf_0 5 rfl rfl)
theorem dX0_leaksOf_6 : decode cX0_leaksOf 6 = .ok (.getfield 70, 3) := dk_180 0 70 (dk_at dksX0_leaksOf_0 6 rfl rfl)
theorem dX0_leaksOf_9 : decode cX0_leaksOf 9 = .ok (.if_icmp .ge 28, 3) := dk_162 0 28 (dk_at dksX0_leaksOf_0 9 rfl rfl)
theorem dX0_leaksOf_12 : decode cX0_leaksOf 12 = .ok (.iload_n 1, 1) := dk_27 (dk_at dksX0_leaksOf_0 12 rfl rfl)
theorem dX0_leaksOf_13 : decode cX0_leaksOf 13 = .ok (.aload_n 0, 1) := dk_42 (dk_at dksX0_leaksOf_0 13 rfl rfl)
theorem dX0_leaksOf_14 : decode cX0_leaksOf 14 = .ok (.iload_n 2, 1) := dk_28 (dk_at dksX0_leaksOf_0 14 rfl rfl)
theorem dX0_leaksOf_15 : decode cX0_leaksOf 15 = .ok (.invokevirtual 274, 3) := dk_182 1 18 (dk_at dksX0_leaksOf_0 15 rfl rfl)
theorem dX0_leaksOf_18 : decode cX0_leaksOf 18 = .ok (.iconst (-1), 1) := dk_2 (dk_at dksX0_leaksOf_0 18 rfl rfl)
theorem dX0_leaksOf_19 : decode cX0_leaksOf 19 = .ok (.if_icmp .ne 7, 3) := dk_160 0 7 (dk_at dksX0_leaksOf_0 19 rfl rfl)
theorem dX0_leaksOf_22 : decode cX0_leaksOf 22 = .ok (.iconst 0, 1) := dk_3 (dk_at dksX0_leaksOf_0 22 rfl rfl)
theorem dX0_leaksOf_23 : decode cX0_leaksOf 23 = .ok (.goto 6, 3) := dk_167 0 6 (dk_at dksX0_leaksOf_1 0 rfl rfl)
theorem dX0_leaksOf_26 : decode cX0_leaksOf 26 = .ok (.iconst 1, 1) := dk_4 (dk_at dksX0_leaksOf_1 3 rfl rfl)
theorem dX0_leaksOf_27 : decode cX0_leaksOf 27 = .ok (.iload_n 2, 1) := dk_28 (dk_at dksX0_leaksOf_1 4 rfl rfl)
theorem dX0_leaksOf_28 : decode cX0_leaksOf 28 = .ok (.ishl, 1) := dk_120 (dk_at dksX0_leaksOf_1 5 rfl rfl)
theorem dX0_leaksOf_29 : decode cX0_leaksOf 29 = .ok (.ior, 1) := dk_128 (dk_at dksX0_leaksOf_1 6 rfl rfl)
theorem dX0_leaksOf_30 : decode cX0_leaksOf 30 = .ok (.istore_n 1, 1) := dk_60 (dk_at dksX0_leaksOf_1 7 rfl rfl)
theorem dX0_leaksOf_31 : decode cX0_leaksOf 31 = .ok (.iinc 2 1, 3) := dk_132 2 1 (dk_at dksX0_leaksOf_1 8 rfl rfl)
theorem dX0_leaksOf_34 : decode cX0_leaksOf 34 = .ok (.goto (-30), 3) := dk_167 255 226 (dk_at dksX0_leaksOf_1 11 rfl rfl)
theorem dX0_leaksOf_37 : decode cX0_leaksOf 37 = .ok (.iload_n 1, 1) := dk_27 (dk_at dksX0_leaksOf_1 14 rfl rfl)
theorem dX0_leaksOf_38 : decode cX0_leaksOf 38 = .ok (.ireturn, 1) := dk_172 (dk_at dksX0_leaksOf_1 15 rfl rfl)
abbrev cX0_leakOf : ByteArray := prog_1_method_47_code
def yX0_leakOf : MethodName := ⟨RX0, "leakOf", "(I)I"⟩
def dkwX0_leakOf_1 : List UInt8 := [167, 255, 236, 2, 172]
abbrev dktX0_leakOf_1 : List UInt8 := dkwX0_leakOf_1 ++ []
def dkwX0_leakOf_0 : List UInt8 := [4, 61, 28, 16, 9, 163, 0, 20, 42, 27, 28, 182, 1, 15, 153, 0, 5, 28, 172, 132, 2, 1]
abbrev dktX0_leakOf_0 : List UInt8 := dkwX0_leakOf_0 ++ dktX0_leakOf_1
theorem dksX0_leakOf_0 : cX0_leakOf.data.toList.drop 0 = dktX0_leakOf_0 := by decide +kernel
theorem dksX0_leakOf_1 : cX0_leakOf.data.toList.drop 22 = dktX0_leakOf_1 := dk_seg dksX0_leakOf_0 22 rfl rfl
theorem dX0_leakOf_0 : decode cX0_leakOf 0 = .ok (.iconst 1, 1) := dk_4 (dk_at dksX0_leakOf_0 0 rfl rfl)
theorem dX0_leakOf_1 : decode cX0_leakOf 1 = .ok (.istore_n 2, 1) := dk_61 (dk_at dksX0_leakOf_0 1 rfl rfl)
theorem dX0_leakOf_2 : decode cX0_leakOf 2 = .ok (.iload_n 2, 1) := dk_28 (dk_at dksX0_leakOf_0 2 rfl rfl)
theorem dX0_leakOf_3 : decode cX0_leakOf 3 = .ok (.bipush 9, 2) := dk_16 9 (dk_at dksX0_leakOf_0 3 rfl rfl)
theorem dX0_leakOf_5 : decode cX0_leakOf 5 = .ok (.if_icmp .gt 20, 3) := dk_163 0 20 (dk_at dksX0_leakOf_0 5 rfl rfl)
theorem dX0_leakOf_8 : decode cX0_leakOf 8 = .ok (.aload_n 0, 1) := dk_42 (dk_at dksX0_leakOf_0 8 rfl rfl)
theorem dX0_leakOf_9 : decode cX0_leakOf 9 = .ok (.iload_n 1, 1) := dk_27 (dk_at dksX0_leakOf_0 9 rfl rfl)
theorem dX0_leakOf_10 : decode cX0_leakOf 10 = .ok (.iload_n 2, 1) := dk_28 (dk_at dksX0_leakOf_0 10 rfl rfl)
theorem dX0_leakOf_11 : decode cX0_leakOf 11 = .ok (.invokevirtual 271, 3) := dk_182 1 15 (dk_at dksX0_leakOf_0 11 rfl rfl)
theorem dX0_leakOf_14 : decode cX0_leakOf 14 = .ok (.ifCond .eq 5, 3) := dk_153 0 5 (dk_at dksX0_leakOf_0 14 rfl rfl)
theorem dX0_leakOf_17 : decode cX0_leakOf 17 = .ok (.iload_n 2, 1) := dk_28 (dk_at dksX0_leakOf_0 17 rfl rfl)
theorem dX0_leakOf_18 : decode cX0_leakOf 18 = .ok (.ireturn, 1) := dk_172 (dk_at dksX0_leakOf_0 18 rfl rfl)
theorem dX0_leakOf_19 : decode cX0_leakOf 19 = .ok (.iinc 2 1, 3) := dk_132 2 1 (dk_at dksX0_leakOf_0 19 rfl rfl)
theorem dX0_leakOf_22 : decode cX0_leakOf 22 = .ok (.goto (-20), 3) := dk_167 255 236 (dk_at dksX0_leakOf_1 0 rfl rfl)
theorem dX0_leakOf_25 : decode cX0_leakOf 25 = .ok (.iconst (-1), 1) := dk_2 (dk_at dksX0_leakOf_1 3 rfl rfl)
theorem dX0_leakOf_26 : decode cX0_leakOf 26 = .ok (.ireturn, 1) := dk_172 (dk_at dksX0_leakOf_1 4 rfl rfl)
abbrev cX0_isLeak : ByteArray := prog_1_method_46_code
def yX0_isLeak : MethodName := ⟨RX0, "isLeak", "(II)Z"⟩
def dkwX0_isLeak_3 : List UInt8 := [126, 62, 132, 4, 1, 167, 255, 186, 29, 172]
abbrev dktX0_isLeak_3 : List UInt8 := dkwX0_isLeak_3 ++ []
def dkwX0_isLeak_2 : List UInt8 := [182, 0, 177, 27, 184, 0, 124, 153, 0, 7, 28, 167, 0, 4, 3, 96, 160, 0, 7, 4, 167, 0, 4, 3]
abbrev dktX0_isLeak_2 : List UInt8 := dkwX0_isLeak_2 ++ dktX0_isLeak_3
def dkwX0_isLeak_1 : List UInt8 := [54, 5, 29, 42, 180, 0, 42, 5, 21, 4, 104, 4, 96, 46, 42, 21, 5, 182, 1, 12, 42, 21, 5]
abbrev dktX0_isLeak_1 : List UInt8 := dkwX0_isLeak_1 ++ dktX0_isLeak_2
def dkwX0_isLeak_0 : List UInt8 := [4, 62, 3, 54, 4, 21, 4, 42, 180, 1, 9, 162, 0, 67, 42, 180, 0, 42, 5, 21, 4, 104, 46]
abbrev dktX0_isLeak_0 : List UInt8 := dkwX0_isLeak_0 ++ dktX0_isLeak_1
theorem dksX0_isLeak_0 : cX0_isLeak.data.toList.drop 0 = dktX0_isLeak_0 := by decide +kernel
theorem dksX0_isLeak_1 : cX0_isLeak.data.toList.drop 23 = dktX0_isLeak_1 := dk_seg dksX0_isLeak_0 23 rfl rfl
theorem dksX0_isLeak_2 : cX0_isLeak.data.toList.drop 46 = dktX0_isLeak_2 := dk_seg dksX0_isLeak_1 23 rfl rfl
theorem dksX0_isLeak_3 : cX0_isLeak.data.toList.drop 70 = dktX0_isLeak_3 := dk_seg dksX0_isLeak_2 24 rfl rfl
theorem dX0_isLeak_0 : decode cX0_isLeak 0 = .ok (.iconst 1, 1) := dk_4 (dk_at dksX0_isLeak_0 0 rfl rfl)
theorem dX0_isLeak_1 : decode cX0_isLeak 1 = .ok (.istore_n 3, 1) := dk_62 (dk_at dksX0_isLeak_0 1 rfl rfl)
theorem dX0_isLeak_2 : decode cX0_isLeak 2 = .ok (.iconst 0, 1) := dk_3 (dk_at dksX0_isLeak_0 2 rfl rfl)
theorem dX0_isLeak_3 : decode cX0_isLeak 3 = .ok (.istore 4, 2) := dk_54 4 (dk_at dksX0_isLeak_0 3 rfl rfl)
theorem dX0_isLeak_5 : decode cX0_isLeak 5 = .ok (.iload 4, 2) := dk_21 4 (dk_at dksX0_isLeak_0 5 rfl rfl)
theorem dX0_isLeak_7 : decode cX0_isLeak 7 = .ok (.aload_n 0, 1) := dk_42 (dk_at dksX0_isLeak_0 7 rfl rfl)
theorem dX0_isLeak_8 : decode cX0_isLeak 8 = .ok (.getfield 265, 3) := dk_180 1 9 (dk_at dksX0_isLeak_0 8 rfl rfl)
theorem dX0_isLeak_11 : decode cX0_isLeak 11 = .ok (.if_icmp .ge 67, 3) := dk_162 0 67 (dk_at dksX0_isLeak_0 11 rfl rfl)
theorem dX0_isLeak_14 : decode cX0_isLeak 14 = .ok (.aload_n 0, 1) := dk_42 (dk_at dksX0_isLeak_0 14 rfl rfl)
theorem dX0_isLeak_15 : decode cX0_isLeak 15 = .ok (.getfield 42, 3) := dk_180 0 42 (dk_at dksX0_isLeak_0 15 rfl rfl)
theorem dX0_isLeak_18 : decode cX0_isLeak 18 = .ok (.iconst 2, 1) := dk_5 (dk_at dksX0_isLeak_0 18 rfl rfl)
theorem dX0_isLeak_19 : decode cX0_isLeak 19 = .ok (.iload 4, 2) := dk_21 4 (dk_at dksX0_isLeak_0 19 rfl rfl)
theorem dX0_isLeak_21 : decode cX0_isLeak 21 = .ok (.imul, 1) := dk_104 (dk_at dksX0_isLeak_0 21 rfl rfl)
theorem dX0_isLeak_22 : decode cX0_isLeak 22 = .ok (.iaload, 1) := dk_46 (dk_at dksX0_isLeak_0 22 rfl rfl)
theorem dX0_isLeak_23 : decode cX0_isLeak 23 = .ok (.istore 5, 2) := dk_54 5 (dk_at dksX0_isLeak_1 0 rfl rfl)
theorem dX0_isLeak_25 : decode cX0_isLeak 25 = .ok (.iload_n 3, 1) := dk_29 (dk_at dksX0_isLeak_1 2 rfl rfl)
theorem dX0_isLeak_26 : decode cX0_isLeak 26 = .ok (.aload_n 0, 1) := dk_42 (dk_at dksX0_isLeak_1 3 rfl rfl)
theorem dX0_isLeak_27 : decode cX0_isLeak 27 = .ok (.getfield 42, 3) := dk_180 0 42 (dk_at dksX0_isLeak_1 4 rfl rfl)
theorem dX0_isLeak_30 : decode cX0_isLeak 30 = .ok (.iconst 2, 1) := dk_5 (dk_at dksX0_isLeak_1 7 rfl rfl)
theorem dX0_isLeak_31 : decode cX0_isLeak 31 = .ok (.iload 4, 2) := dk_21 4 (dk_at dksX0_isLeak_1 8 rfl rfl)
theorem dX0_isLeak_33 : decode cX0_isLeak 33 = .ok (.imul, 1) := dk_104 (dk_at dksX0_isLeak_1 10 rfl rfl)
theorem dX0_isLeak_34 : decode cX0_isLeak 34 = .ok (.iconst 1, 1) := dk_4 (dk_at dksX0_isLeak_1 11 rfl rfl)
theorem dX0_isLeak_35 : decode cX0_isLeak 35 = .ok (.iadd, 1) := dk_96 (dk_at dksX0_isLeak_1 12 rfl rfl)
theorem dX0_isLeak_36 : decode cX0_isLeak 36 = .ok (.iaload, 1) := dk_46 (dk_at dksX0_isLeak_1 13 rfl rfl)
theorem dX0_isLeak_37 : decode cX0_isLeak 37 = .ok (.aload_n 0, 1) := dk_42 (dk_at dksX0_isLeak_1 14 rfl rfl)
theorem dX0_isLeak_38 : decode cX0_isLeak 38 = .ok (.iload 5, 2) := dk_21 5 (dk_at dksX0_isLeak_1 15 rfl rfl)
theorem dX0_isLeak_40 : decode cX0_isLeak 40 = .ok (.invokevirtual 268, 3) := dk_182 1 12 (dk_at dksX0_isLeak_1 17 rfl rfl)
theorem dX0_isLeak_43 : decode cX0_isLeak 43 = .ok (.aload_n 0, 1) := dk_42 (dk_at dksX0_isLeak_1 20 rfl rfl)
theorem dX0_isLeak_44 : decode cX0_isLeak 44 = .ok (.iload 5, 2) := dk_21 5 (dk_at dksX0_isLeak_1 21 rfl rfl)
theorem dX0_isLeak_46 : decode cX0_isLeak 46 = .ok (.invokevirtual 177, 3) := dk_182 0 177 (dk_at dksX0_isLeak_2 0 rfl rfl)
theorem dX0_isLeak_49 : decode cX0_isLeak 49 = .ok (.iload_n 1, 1) := dk_27 (dk_at dksX0_isLeak_2 3 rfl rfl)
theorem dX0_isLeak_50 : decode cX0_isLeak 50 = .ok (.invokestatic 124, 3) := dk_184 0 124 (dk_at dksX0_isLeak_2 4 rfl rfl)
theorem dX0_isLeak_53 : decode cX0_isLeak 53 = .ok (.ifCond .eq 7, 3) := dk_153 0 7 (dk_at dksX0_isLeak_2 7 rfl rfl)
theorem dX0_isLeak_56 : decode cX0_isLeak 56 = .ok (.iload_n 2, 1) := dk_28 (dk_at dksX0_isLeak_2 10 rfl rfl)
theorem dX0_isLeak_57 : decode cX0_isLeak 57 = .ok (.goto 4, 3) := dk_167 0 4 (dk_at dksX0_isLeak_2 11 rfl rfl)
theorem dX0_isLeak_60 : decode cX0_isLeak 60 = .ok (.iconst 0, 1) := dk_3 (dk_at dksX0_isLeak_2 14 rfl rfl)
theorem dX0_isLeak_61 : decode cX0_isLeak 61 = .ok (.iadd, 1) := dk_96 (dk_at dksX0_isLeak_2 15 rfl rfl)
theorem dX0_isLeak_62 : decode cX0_isLeak 62 = .ok (.if_icmp .ne 7, 3) := dk_160 0 7 (dk_at dksX0_isLeak_2 16 rfl rfl)
theorem dX0_isLeak_65 : decode cX0_isLeak 65 = .ok (.iconst 1, 1) := dk_4 (dk_at dksX0_isLeak_2 19 rfl rfl)
theorem dX0_isLeak_66 : decode cX0_isLeak 66 = .ok (.goto 4, 3) := dk_167 0 4 (dk_at dksX0_isLeak_2 20 rfl rfl)
theorem dX0_isLeak_69 : decode cX0_isLeak 69 = .ok (.iconst 0, 1) := dk_3 (dk_at dksX0_isLeak_2 23 rfl rfl)
theorem dX0_isLeak_70 : decode cX0_isLeak 70 = .ok (.iand, 1) := dk_126 (dk_at dksX0_isLeak_3 0 rfl rfl)
theorem dX0_isLeak_71 : decode cX0_isLeak 71 = .ok (.istore_n 3, 1) := dk_62 (dk_at dksX0_isLeak_3 1 rfl rfl)
theorem dX0_isLeak_72 : decode cX0_isLeak 72 = .ok (.iinc 4 1, 3) := dk_132 4 1 (dk_at dksX0_isLeak_3 2 rfl rfl)
theorem dX0_isLeak_75 : decode cX0_isLeak 75 = .ok (.goto (-70), 3) := dk_167 255 186 (dk_at dksX0_isLeak_3 5 rfl rfl)
theorem dX0_isLeak_78 : decode cX0_isLeak 78 = .ok (.iload_n 3, 1) := dk_29 (dk_at dksX0_isLeak_3 8 rfl rfl)
theorem dX0_isLeak_79 : decode cX0_isLeak 79 = .ok (.ireturn, 1) := dk_172 (dk_at dksX0_isLeak_3 9 rfl rfl)
abbrev cX0_expected : ByteArray := prog_1_method_45_code
def yX0_expected : MethodName := ⟨RX0, "expected", "(I)I"⟩
def dkwX0_expected_2 : List UInt8 := [167, 0, 4, 3, 96, 62, 132, 4, 1, 167, 255, 216, 29, 172]
abbrev dktX0_expected_2 : List UInt8 := dkwX0_expected_2 ++ []
def dkwX0_expected_1 : List UInt8 := [29, 28, 21, 4, 184, 0, 124, 153, 0, 18, 42, 180, 0, 24, 21, 4, 50, 180, 0, 104, 6, 46]
abbrev dktX0_expected_1 : List UInt8 := dkwX0_expected_1 ++ dktX0_expected_2
def dkwX0_expected_0 : List UInt8 := [42, 27, 182, 0, 177, 61, 42, 27, 182, 0, 241, 62, 3, 54, 4, 21, 4, 42, 180, 0, 70, 162, 0, 37]
abbrev dktX0_expected_0 : List UInt8 := dkwX0_expected_0 ++ dktX0_expected_1
theorem dksX0_expected_0 : cX0_expected.data.toList.drop 0 = dktX0_expected_0 := by decide +kernel
theorem dksX0_expected_1 : cX0_expected.data.toList.drop 24 = dktX0_expected_1 := dk_seg dksX0_expected_0 24 rfl rfl
theorem dksX0_expected_2 : cX0_expected.data.toList.drop 46 = dktX0_expected_2 := dk_seg dksX0_expected_1 22 rfl rfl
theorem dX0_expected_0 : decode cX0_expected 0 = .ok (.aload_n 0, 1) := dk_42 (dk_at dksX0_expected_0 0 rfl rfl)
theorem dX0_expected_1 : decode cX0_expected 1 = .ok (.iload_n 1, 1) := dk_27 (dk_at dksX0_expected_0 1 rfl rfl)
theorem dX0_expected_2 : decode cX0_expected 2 = .ok (.invokevirtual 177, 3) := dk_182 0 177 (dk_at dksX0_expected_0 2 rfl rfl)
theorem dX0_expected_5 : decode cX0_expected 5 = .ok (.istore_n 2, 1) := dk_61 (dk_at dksX0_expected_0 5 rfl rfl)
theorem dX0_expected_6 : decode cX0_expected 6 = .ok (.aload_n 0, 1) := dk_42 (dk_at dksX0_expected_0 6 rfl rfl)
theorem dX0_expected_7 : decode cX0_expected 7 = .ok (.iload_n 1, 1) := dk_27 (dk_at dksX0_expected_0 7 rfl rfl)
theorem dX0_expected_8 : decode cX0_expected 8 = .ok (.invokevirtual 241, 3) := dk_182 0 241 (dk_at dksX0_expected_0 8 rfl rfl)
theorem dX0_expected_11 : decode cX0_expected 11 = .ok (.istore_n 3, 1) := dk_62 (dk_at dksX0_expected_0 11 rfl rfl)
theorem dX0_expected_12 : decode cX0_expected 12 = .ok (.iconst 0, 1) := dk_3 (dk_at dksX0_expected_0 12 rfl rfl)
theorem dX0_expected_13 : decode cX0_expected 13 = .ok (.istore 4, 2) := dk_54 4 (dk_at dksX0_expected_0 13 rfl rfl)
theorem dX0_expected_15 : decode cX0_expected 15 = .ok (.iload 4, 2) := dk_21 4 (dk_at dksX0_expected_0 15 rfl rfl)
theorem dX0_expected_17 : decode cX0_expected 17 = .ok (.aload_n 0, 1) := dk_42 (dk_at dksX0_expected_0 17 rfl rfl)
theorem dX0_expected_18 : decode cX0_expected 18 = .ok (.getfield 70, 3) := dk_180 0 70 (dk_at dksX0_expected_0 18 rfl rfl)
theorem dX0_expected_21 : decode cX0_expected 21 = .ok (.if_icmp .ge 37, 3) := dk_162 0 37 (dk_at dksX0_expected_0 21 rfl rfl)
theorem dX0_expected_24 : decode cX0_expected 24 = .ok (.iload_n 3, 1) := dk_29 (dk_at dksX0_expected_1 0 rfl rfl)
theorem dX0_expected_25 : decode cX0_expected 25 = .ok (.iload_n 2, 1) := dk_28 (dk_at dksX0_expected_1 1 rfl rfl)
theorem dX0_expected_26 : decode cX0_expected 26 = .ok (.iload 4, 2) := dk_21 4 (dk_at dksX0_expected_1 2 rfl rfl)
theorem dX0_expected_28 : decode cX0_expected 28 = .ok (.invokestatic 124, 3) := dk_184 0 124 (dk_at dksX0_expected_1 4 rfl rfl)
theorem dX0_expected_31 : decode cX0_expected 31 = .ok (.ifCond .eq 18, 3) := dk_153 0 18 (dk_at dksX0_expected_1 7 rfl rfl)
theorem dX0_expected_34 : decode cX0_expected 34 = .ok (.aload_n 0, 1) := dk_42 (dk_at dksX0_expected_1 10 rfl rfl)
theorem dX0_expected_35 : decode cX0_expected 35 = .ok (.getfield 24, 3) := dk_180 0 24 (dk_at dksX0_expected_1 11 rfl rfl)
theorem dX0_expected_38 : decode cX0_expected 38 = .ok (.iload 4, 2) := dk_21 4 (dk_at dksX0_expected_1 14 rfl rfl)
theorem dX0_expected_40 : decode cX0_expected 40 = .ok (.aaload, 1) := dk_50 (dk_at dksX0_expected_1 16 rfl rfl)
theorem dX0_expected_41 : decode cX0_expected 41 = .ok (.getfield 104, 3) := dk_180 0 104 (dk_at dksX0_expected_1 17 rfl rfl)
theorem dX0_expected_44 : decode cX0_expected 44 = .ok (.iconst 3, 1) := dk_6 (dk_at dksX0_expected_1 20 rfl rfl)
theorem dX0_expected_45 : decode cX0_expected 45 = .ok (.iaload, 1) := dk_46 (dk_at dksX0_expected_1 21 rfl rfl)
theorem dX0_expected_46 : decode cX0_expected 46 = .ok (.goto 4, 3) := dk_167 0 4 (dk_at dksX0_expected_2 0 rfl rfl)
theorem dX0_expected_49 : decode cX0_expected 49 = .ok (.iconst 0, 1) := dk_3 (dk_at dksX0_expected_2 3 rfl rfl)
theorem dX0_expected_50 : decode cX0_expected 50 = .ok (.iadd, 1) := dk_96 (dk_at dksX0_expected_2 4 rfl rfl)
theorem dX0_expected_51 : decode cX0_expected 51 = .ok (.istore_n 3, 1) := dk_62 (dk_at dksX0_expected_2 5 rfl rfl)
theorem dX0_expected_52 : decode cX0_expected 52 = .ok (.iinc 4 1, 3) := dk_132 4 1 (dk_at dksX0_expected_2 6 rfl rfl)
theorem dX0_expected_55 : decode cX0_expected 55 = .ok (.goto (-40), 3) := dk_167 255 216 (dk_at dksX0_expected_2 9 rfl rfl)
theorem dX0_expected_58 : decode cX0_expected 58 = .ok (.iload_n 3, 1) := dk_29 (dk_at dksX0_expected_2 12 rfl rfl)
theorem dX0_expected_59 : decode cX0_expected 59 = .ok (.ireturn, 1) := dk_172 (dk_at dksX0_expected_2 13 rfl rfl)
abbrev cX0_leak : ByteArray := prog_1_method_50_code
def yX0_leak : MethodName := ⟨RX0, "leak", "(I)I"⟩
def dkwX0_leak_0 : List UInt8 := [42, 27, 182, 0, 128, 153, 0, 11, 42, 27, 182, 1, 18, 167, 0, 5, 16, 155, 172]
abbrev dktX0_leak_0 : List UInt8 := dkwX0_leak_0 ++ []
theorem dksX0_leak_0 : cX0_leak.data.toList.drop 0 = dktX0_leak_0 := by decide +kernel
theorem dX0_leak_0 : decode cX0_leak 0 = .ok (.aload_n 0, 1) := dk_42 (dk_at dksX0_leak_0 0 rfl rfl)
theorem dX0_leak_1 : decode cX0_leak 1 = .ok (.iload_n 1, 1) := dk_27 (dk_at dksX0_leak_0 1 rfl rfl)
theorem dX0_leak_2 : decode cX0_leak 2 = .ok (.invokevirtual 128, 3) := dk_182 0 128 (dk_at dksX0_leak_0 2 rfl rfl)
theorem dX0_leak_5 : decode cX0_leak 5 = .ok (.ifCond .eq 11, 3) := dk_153 0 11 (dk_at dksX0_leak_0 5 rfl rfl)
theorem dX0_leak_8 : decode cX0_leak 8 = .ok (.aload_n 0, 1) := dk_42 (dk_at dksX0_leak_0 8 rfl rfl)
theorem dX0_leak_9 : decode cX0_leak 9 = .ok (.iload_n 1, 1) := dk_27 (dk_at dksX0_leak_0 9 rfl rfl)
theorem dX0_leak_10 : decode cX0_leak 10 = .ok (.invokevirtual 274, 3) := dk_182 1 18 (dk_at dksX0_leak_0 10 rfl rfl)
theorem dX0_leak_13 : decode cX0_leak 13 = .ok (.goto 5, 3) := dk_167 0 5 (dk_at dksX0_leak_0 13 rfl rfl)
theorem dX0_leak_16 : decode cX0_leak 16 = .ok (.bipush (-101), 2) := dk_16 155 (dk_at dksX0_leak_0 16 rfl rfl)
theorem dX0_leak_18 : decode cX0_leak 18 = .ok (.ireturn, 1) := dk_172 (dk_at dksX0_leak_0 18 rfl rfl)
abbrev cX0_look : ByteArray := prog_1_method_52_code
def yX0_look : MethodName := ⟨RX0, "look", "()I"⟩
theorem dX0_look_0 : decode cX0_look 0 = .ok (.aload_n 0, 1) := by decide +kernel
theorem dX0_look_1 : decode cX0_look 1 = .ok (.invokevirtual 283, 3) := by decide +kernel
theorem dX0_look_4 : decode cX0_look 4 = .ok (.ireturn, 1) := by decide +kernel
abbrev cX0_lookOf : ByteArray := prog_1_method_51_code
def yX0_lookOf : MethodName := ⟨RX0, "lookOf", "()I"⟩
def dkwX0_lookOf_3 : List UInt8 := [21, 6, 184, 0, 215, 62, 132, 4, 1, 167, 255, 189, 28, 172]
abbrev dktX0_lookOf_3 : List UInt8 := dkwX0_lookOf_3 ++ []
def dkwX0_lookOf_2 : List UInt8 := [126, 184, 0, 230, 184, 1, 24, 54, 6, 21, 6, 29, 162, 0, 8, 21, 4, 167, 0, 4, 28, 61, 29]
abbrev dktX0_lookOf_2 : List UInt8 := dkwX0_lookOf_2 ++ dktX0_lookOf_3
def dkwX0_lookOf_1 : List UInt8 := [27, 158, 0, 58, 42, 21, 4, 182, 0, 177, 54, 5, 27, 21, 5, 126, 184, 0, 230, 27, 21, 5, 2, 130]
abbrev dktX0_lookOf_1 : List UInt8 := dkwX0_lookOf_1 ++ dktX0_lookOf_2
def dkwX0_lookOf_0 : List UInt8 := [42, 182, 1, 21, 60, 2, 61, 16, 9, 62, 4, 54, 4, 21, 4, 4, 42, 180, 0, 70, 120, 162, 0, 62]
abbrev dktX0_lookOf_0 : List UInt8 := dkwX0_lookOf_0 ++ dktX0_lookOf_1
theorem dksX0_lookOf_0 : cX0_lookOf.data.toList.drop 0 = dktX0_lookOf_0 := by decide +kernel
theorem dksX0_lookOf_1 : cX0_lookOf.data.toList.drop 24 = dktX0_lookOf_1 := dk_seg dksX0_lookOf_0 24 rfl rfl
theorem dksX0_lookOf_2 : cX0_lookOf.data.toList.drop 48 = dktX0_lookOf_2 := dk_seg dksX0_lookOf_1 24 rfl rfl
theorem dksX0_lookOf_3 : cX0_lookOf.data.toList.drop 71 = dktX0_lookOf_3 := dk_seg dksX0_lookOf_2 23 rfl rfl
theorem dX0_lookOf_0 : decode cX0_lookOf 0 = .ok (.aload_n 0, 1) := dk_42 (dk_at dksX0_lookOf_0 0 rfl rfl)
theorem dX0_lookOf_1 : decode cX0_lookOf 1 = .ok (.invokevirtual 277, 3) := dk_182 1 21 (dk_at dksX0_lookOf_0 1 rfl rfl)
theorem dX0_lookOf_4 : decode cX0_lookOf 4 = .ok (.istore_n 1, 1) := dk_60 (dk_at dksX0_lookOf_0 4 rfl rfl)
theorem dX0_lookOf_5 : decode cX0_lookOf 5 = .ok (.iconst (-1), 1) := dk_2 (dk_at dksX0_lookOf_0 5 rfl rfl)
theorem dX0_lookOf_6 : decode cX0_lookOf 6 = .ok (.istore_n 2, 1) := dk_61 (dk_at dksX0_lookOf_0 6 rfl rfl)
theorem dX0_lookOf_7 : decode cX0_lookOf 7 = .ok (.bipush 9, 2) := dk_16 9 (dk_at dksX0_lookOf_0 7 rfl rfl)
theorem dX0_lookOf_9 : decode cX0_lookOf 9 = .ok (.istore_n 3, 1) := dk_62 (dk_at dksX0_lookOf_0 9 rfl rfl)
theorem dX0_lookOf_10 : decode cX0_lookOf 10 = .ok (.iconst 1, 1) := dk_4 (dk_at dksX0_lookOf_0 10 rfl rfl)
theorem dX0_lookOf_11 : decode cX0_lookOf 11 = .ok (.istore 4, 2) := dk_54 4 (dk_at dksX0_lookOf_0 11 rfl rfl)
theorem dX0_lookOf_13 : decode cX0_lookOf 13 = .ok (.iload 4, 2) := dk_21 4 (dk_at dksX0_lookOf_0 13 rfl rfl)
theorem dX0_lookOf_15 : decode cX0_lookOf 15 = .ok (.iconst 1, 1) := dk_4 (dk_at dksX0_lookOf_0 15 rfl rfl)
theorem dX0_lookOf_16 : decode cX0_lookOf 16 = .ok (.aload_n 0, 1) := dk_42 (dk_at dksX0_lookOf_0 16 rfl rfl)
theorem dX0_lookOf_17 : decode cX0_lookOf 17 = .ok (.getfield 70, 3) := dk_180 0 70 (dk_at dksX0_lookOf_0 17 rfl rfl)
theorem dX0_lookOf_20 : decode cX0_lookOf 20 = .ok (.ishl, 1) := dk_120 (dk_at dksX0_lookOf_0 20 rfl rfl)
theorem dX0_lookOf_21 : decode cX0_lookOf 21 = .ok (.if_icmp .ge 62, 3) := dk_162 0 62 (dk_at dksX0_lookOf_0 21 rfl rfl)
theorem dX0_lookOf_24 : decode cX0_lookOf 24 = .ok (.iload_n 1, 1) := dk_27 (dk_at dksX0_lookOf_1 0 rfl rfl)
theorem dX0_lookOf_25 : decode cX0_lookOf 25 = .ok (.ifCond .le 58, 3) := dk_158 0 58 (dk_at dksX0_lookOf_1 1 rfl rfl)
theorem dX0_lookOf_28 : decode cX0_lookOf 28 = .ok (.aload_n 0, 1) := dk_42 (dk_at dksX0_lookOf_1 4 rfl rfl)
theorem dX0_lookOf_29 : decode cX0_lookOf 29 = .ok (.iload 4, 2) := dk_21 4 (dk_at dksX0_lookOf_1 5 rfl rfl)
theorem dX0_lookOf_31 : decode cX0_lookOf 31 = .ok (.invokevirtual 177, 3) := dk_182 0 177 (dk_at dksX0_lookOf_1 7 rfl rfl)
theorem dX0_lookOf_34 : decode cX0_lookOf 34 = .ok (.istore 5, 2) := dk_54 5 (dk_at dksX0_lookOf_1 10 rfl rfl)
theorem dX0_lookOf_36 : decode cX0_lookOf 36 = .ok (.iload_n 1, 1) := dk_27 (dk_at dksX0_lookOf_1 12 rfl rfl)
theorem dX0_lookOf_37 : decode cX0_lookOf 37 = .ok (.iload 5, 2) := dk_21 5 (dk_at dksX0_lookOf_1 13 rfl rfl)
theorem dX0_lookOf_39 : decode cX0_lookOf 39 = .ok (.iand, 1) := dk_126 (dk_at dksX0_lookOf_1 15 rfl rfl)
theorem dX0_lookOf_40 : decode cX0_lookOf 40 = .ok (.invokestatic 230, 3) := dk_184 0 230 (dk_at dksX0_lookOf_1 16 rfl rfl)
theorem dX0_lookOf_43 : decode cX0_lookOf 43 = .ok (.iload_n 1, 1) := dk_27 (dk_at dksX0_lookOf_1 19 rfl rfl)
theorem dX0_lookOf_44 : decode cX0_lookOf 44 = .ok (.iload 5, 2) := dk_21 5 (dk_at dksX0_lookOf_1 20 rfl rfl)
theorem dX0_lookOf_46 : decode cX0_lookOf 46 = .ok (.iconst (-1), 1) := dk_2 (dk_at dksX0_lookOf_1 22 rfl rfl)
theorem dX0_lookOf_47 : decode cX0_lookOf 47 = .ok (.ixor, 1) := dk_130 (dk_at dksX0_lookOf_1 23 rfl rfl)
theorem dX0_lookOf_48 : decode cX0_lookOf 48 = .ok (.iand, 1) := dk_126 (dk_at dksX0_lookOf_2 0 rfl rfl)
theorem dX0_lookOf_49 : decode cX0_lookOf 49 = .ok (.invokestatic 230, 3) := dk_184 0 230 (dk_at dksX0_lookOf_2 1 rfl rfl)
theorem dX0_lookOf_52 : decode cX0_lookOf 52 = .ok (.invokestatic 280, 3) := dk_184 1 24 (dk_at dksX0_lookOf_2 4 rfl rfl)
theorem dX0_lookOf_55 : decode cX0_lookOf 55 = .ok (.istore 6, 2) := dk_54 6 (dk_at dksX0_lookOf_2 7 rfl rfl)
theorem dX0_lookOf_57 : decode cX0_lookOf 57 = .ok (.iload 6, 2) := dk_21 6 (dk_at dksX0_lookOf_2 9 rfl rfl)
theorem dX0_lookOf_59 : decode cX0_lookOf 59 = .ok (.iload_n 3, 1) := dk_29 (dk_at dksX0_lookOf_2 11 rfl rfl)
theorem dX0_lookOf_60 : decode cX0_lookOf 60 = .ok (.if_icmp .ge 8, 3) := dk_162 0 8 (dk_at dksX0_lookOf_2 12 rfl rfl)
theorem dX0_lookOf_63 : decode cX0_lookOf 63 = .ok (.iload 4, 2) := dk_21 4 (dk_at dksX0_lookOf_2 15 rfl rfl)
theorem dX0_lookOf_65 : decode cX0_lookOf 65 = .ok (.goto 4, 3) := dk_167 0 4 (dk_at dksX0_lookOf_2 17 rfl rfl)
theorem dX0_lookOf_68 : decode cX0_lookOf 68 = .ok (.iload_n 2, 1) := dk_28 (dk_at dksX0_lookOf_2 20 rfl rfl)
theorem dX0_lookOf_69 : decode cX0_lookOf 69 = .ok (.istore_n 2, 1) := dk_61 (dk_at dksX0_lookOf_2 21 rfl rfl)
theorem dX0_lookOf_70 : decode cX0_lookOf 70 = .ok (.iload_n 3, 1) := dk_29 (dk_at dksX0_lookOf_2 22 rfl rfl)
theorem dX0_lookOf_71 : decode cX0_lookOf 71 = .ok (.iload 6, 2) := dk_21 6 (dk_at dksX0_lookOf_3 0 rfl rfl)
theorem dX0_lookOf_73 : decode cX0_lookOf 73 = .ok (.invokestatic 215, 3) := dk_184 0 215 (dk_at dksX0_lookOf_3 2 rfl rfl)
theorem dX0_lookOf_76 : decode cX0_lookOf 76 = .ok (.istore_n 3, 1) := dk_62 (dk_at dksX0_lookOf_3 5 rfl rfl)
theorem dX0_lookOf_77 : decode cX0_lookOf 77 = .ok (.iinc 4 1, 3) := dk_132 4 1 (dk_at dksX0_lookOf_3 6 rfl rfl)
theorem dX0_lookOf_80 : decode cX0_lookOf 80 = .ok (.goto (-67), 3) := dk_167 255 189 (dk_at dksX0_lookOf_3 9 rfl rfl)
theorem dX0_lookOf_83 : decode cX0_lookOf 83 = .ok (.iload_n 2, 1) := dk_28 (dk_at dksX0_lookOf_3 12 rfl rfl)
theorem dX0_lookOf_84 : decode cX0_lookOf 84 = .ok (.ireturn, 1) := dk_172 (dk_at dksX0_lookOf_3 13 rfl rfl)
abbrev cX0_image : ByteArray := prog_1_method_53_code
def yX0_image : MethodName := ⟨RX0, "image", "()I"⟩
def dkwX0_image_2 : List UInt8 := [180, 0, 70, 181, 0, 57, 42, 42, 180, 1, 9, 181, 1, 30, 42, 180, 0, 35, 180, 0, 152, 172]
abbrev dktX0_image_2 : List UInt8 := dkwX0_image_2 ++ []
def dkwX0_image_1 : List UInt8 := [184, 0, 105, 42, 180, 0, 42, 3, 42, 180, 0, 54, 3, 42, 180, 0, 42, 190, 184, 0, 105, 42, 42]
abbrev dktX0_image_1 : List UInt8 := dkwX0_image_1 ++ dktX0_image_2
def dkwX0_image_0 : List UInt8 := [42, 180, 0, 48, 42, 180, 0, 35, 182, 0, 220, 42, 180, 0, 28, 3, 42, 180, 0, 51, 3, 16, 8]
abbrev dktX0_image_0 : List UInt8 := dkwX0_image_0 ++ dktX0_image_1
theorem dksX0_image_0 : cX0_image.data.toList.drop 0 = dktX0_image_0 := by decide +kernel
theorem dksX0_image_1 : cX0_image.data.toList.drop 23 = dktX0_image_1 := dk_seg dksX0_image_0 23 rfl rfl
theorem dksX0_image_2 : cX0_image.data.toList.drop 46 = dktX0_image_2 := dk_seg dksX0_image_1 23 rfl rfl
theorem dX0_image_0 : decode cX0_image 0 = .ok (.aload_n 0, 1) := dk_42 (dk_at dksX0_image_0 0 rfl rfl)
theorem dX0_image_1 : decode cX0_image 1 = .ok (.getfield 48, 3) := dk_180 0 48 (dk_at dksX0_image_0 1 rfl rfl)
theorem dX0_image_4 : decode cX0_image 4 = .ok (.aload_n 0, 1) := dk_42 (dk_at dksX0_image_0 4 rfl rfl)
theorem dX0_image_5 : decode cX0_image 5 = .ok (.getfield 35, 3) := dk_180 0 35 (dk_at dksX0_image_0 5 rfl rfl)
theorem dX0_image_8 : decode cX0_image 8 = .ok (.invokevirtual 220, 3) := dk_182 0 220 (dk_at dksX0_image_0 8 rfl rfl)
theorem dX0_image_11 : decode cX0_image 11 = .ok (.aload_n 0, 1) := dk_42 (dk_at dksX0_image_0 11 rfl rfl)
theorem dX0_image_12 : decode cX0_image 12 = .ok (.getfield 28, 3) := dk_180 0 28 (dk_at dksX0_image_0 12 rfl rfl)
theorem dX0_image_15 : decode cX0_image 15 = .ok (.iconst 0, 1) := dk_3 (dk_at dksX0_image_0 15 rfl rfl)
theorem dX0_image_16 : decode cX0_image 16 = .ok (.aload_n 0, 1) := dk_42 (dk_at dksX0_image_0 16 rfl rfl)
theorem dX0_image_17 : decode cX0_image 17 = .ok (.getfield 51, 3) := dk_180 0 51 (dk_at dksX0_image_0 17 rfl rfl)
theorem dX0_image_20 : decode cX0_image 20 = .ok (.iconst 0, 1) := dk_3 (dk_at dksX0_image_0 20 rfl rfl)
theorem dX0_image_21 : decode cX0_image 21 = .ok (.bipush 8, 2) := dk_16 8 (dk_at dksX0_image_0 21 rfl rfl)
theorem dX0_image_23 : decode cX0_image 23 = .ok (.invokestatic 105, 3) := dk_184 0 105 (dk_at dksX0_image_1 0 rfl rfl)
theorem dX0_image_26 : decode cX0_image 26 = .ok (.aload_n 0, 1) := dk_42 (dk_at dksX0_image_1 3 rfl rfl)
theorem dX0_image_27 : decode cX0_image 27 = .ok (.getfield 42, 3) := dk_180 0 42 (dk_at dksX0_image_1 4 rfl rfl)
theorem dX0_image_30 : decode cX0_image 30 = .ok (.iconst 0, 1) := dk_3 (dk_at dksX0_image_1 7 rfl rfl)
theorem dX0_image_31 : decode cX0_image 31 = .ok (.aload_n 0, 1) := dk_42 (dk_at dksX0_image_1 8 rfl rfl)
theorem dX0_image_32 : decode cX0_image 32 = .ok (.getfield 54, 3) := dk_180 0 54 (dk_at dksX0_image_1 9 rfl rfl)
theorem dX0_image_35 : decode cX0_image 35 = .ok (.iconst 0, 1) := dk_3 (dk_at dksX0_image_1 12 rfl rfl)
theorem dX0_image_36 : decode cX0_image 36 = .ok (.aload_n 0, 1) := dk_42 (dk_at dksX0_image_1 13 rfl rfl)
theorem dX0_image_37 : decode cX0_image 37 = .ok (.getfield 42, 3) := dk_180 0 42 (dk_at dksX0_image_1 14 rfl rfl)
theorem dX0_image_40 : decode cX0_image 40 = .ok (.arraylength, 1) := dk_190 (dk_at dksX0_image_1 17 rfl rfl)
theorem dX0_image_41 : decode cX0_image 41 = .ok (.invokestatic 105, 3) := dk_184 0 105 (dk_at dksX0_image_1 18 rfl rfl)
theorem dX0_image_44 : decode cX0_image 44 = .ok (.aload_n 0, 1) := dk_42 (dk_at dksX0_image_1 21 rfl rfl)
theorem dX0_image_45 : decode cX0_image 45 = .ok (.aload_n 0, 1) := dk_42 (dk_at dksX0_image_1 22 rfl rfl)
theorem dX0_image_46 : decode cX0_image 46 = .ok (.getfield 70, 3) := dk_180 0 70 (dk_at dksX0_image_2 0 rfl rfl)
theorem dX0_image_49 : decode cX0_image 49 = .ok (.putfield 57, 3) := dk_181 0 57 (dk_at dksX0_image_2 3 rfl rfl)
theorem dX0_image_52 : decode cX0_image 52 = .ok (.aload_n 0, 1) := dk_42 (dk_at dksX0_image_2 6 rfl rfl)
theorem dX0_image_53 : decode cX0_image 53 = .ok (.aload_n 0, 1) := dk_42 (dk_at dksX0_image_2 7 rfl rfl)
theorem dX0_image_54 : decode cX0_image 54 = .ok (.getfield 265, 3) := dk_180 1 9 (dk_at dksX0_image_2 8 rfl rfl)
theorem dX0_image_57 : decode cX0_image 57 = .ok (.putfield 286, 3) := dk_181 1 30 (dk_at dksX0_image_2 11 rfl rfl)
theorem dX0_image_60 : decode cX0_image 60 = .ok (.aload_n 0, 1) := dk_42 (dk_at dksX0_image_2 14 rfl rfl)
theorem dX0_image_61 : decode cX0_image 61 = .ok (.getfield 35, 3) := dk_180 0 35 (dk_at dksX0_image_2 15 rfl rfl)
theorem dX0_image_64 : decode cX0_image 64 = .ok (.getfield 152, 3) := dk_180 0 152 (dk_at dksX0_image_2 18 rfl rfl)
theorem dX0_image_67 : decode cX0_image 67 = .ok (.ireturn, 1) := dk_172 (dk_at dksX0_image_2 21 rfl rfl)
abbrev cX0_restore : ByteArray := prog_1_method_54_code
def yX0_restore : MethodName := ⟨RX0, "restore", "()I"⟩
def dkwX0_restore_3 : List UInt8 := [42, 180, 0, 35, 180, 0, 152, 172]
abbrev dktX0_restore_3 : List UInt8 := dkwX0_restore_3 ++ []
def dkwX0_restore_2 : List UInt8 := [42, 180, 0, 42, 190, 184, 0, 105, 42, 42, 180, 0, 57, 181, 0, 70, 42, 42, 180, 1, 30, 181, 1, 9]
abbrev dktX0_restore_2 : List UInt8 := dkwX0_restore_2 ++ dktX0_restore_3
def dkwX0_restore_1 : List UInt8 := [180, 0, 51, 3, 42, 180, 0, 28, 3, 16, 8, 184, 0, 105, 42, 180, 0, 54, 3, 42, 180, 0, 42, 3]
abbrev dktX0_restore_1 : List UInt8 := dkwX0_restore_1 ++ dktX0_restore_2
def dkwX0_restore_0 : List UInt8 := [42, 180, 0, 57, 2, 160, 0, 6, 16, 153, 172, 42, 180, 0, 35, 42, 180, 0, 48, 182, 0, 220, 42]
abbrev dktX0_restore_0 : List UInt8 := dkwX0_restore_0 ++ dktX0_restore_1
theorem dksX0_restore_0 : cX0_restore.data.toList.drop 0 = dktX0_restore_0 := by decide +kernel
theorem dksX0_restore_1 : cX0_restore.data.toList.drop 23 = dktX0_restore_1 := dk_seg dksX0_restore_0 23 rfl rfl
theorem dksX0_restore_2 : cX0_restore.data.toList.drop 47 = dktX0_restore_2 := dk_seg dksX0_restore_1 24 rfl rfl
theorem dksX0_restore_3 : cX0_restore.data.toList.drop 71 = dktX0_restore_3 := dk_seg dksX0_restore_2 24 rfl rfl
theorem dX0_restore_0 : decode cX0_restore 0 = .ok (.aload_n 0, 1) := dk_42 (dk_at dksX0_restore_0 0 rfl rfl)
theorem dX0_restore_1 : decode cX0_restore 1 = .ok (.getfield 57, 3) := dk_180 0 57 (dk_at dksX0_restore_0 1 rfl rfl)
theorem dX0_restore_4 : decode cX0_restore 4 = .ok (.iconst (-1), 1) := dk_2 (dk_at dksX0_restore_0 4 rfl rfl)
theorem dX0_restore_5 : decode cX0_restore 5 = .ok (.if_icmp .ne 6, 3) := dk_160 0 6 (dk_at dksX0_restore_0 5 rfl rfl)
theorem dX0_restore_8 : decode cX0_restore 8 = .ok (.bipush (-103), 2) := dk_16 153 (dk_at dksX0_restore_0 8 rfl rfl)
theorem dX0_restore_10 : decode cX0_restore 10 = .ok (.ireturn, 1) := dk_172 (dk_at dksX0_restore_0 10 rfl rfl)
theorem dX0_restore_11 : decode cX0_restore 11 = .ok (.aload_n 0, 1) := dk_42 (dk_at dksX0_restore_0 11 rfl rfl)
theorem dX0_restore_12 : decode cX0_restore 12 = .ok (.getfield 35, 3) := dk_180 0 35 (dk_at dksX0_restore_0 12 rfl rfl)
theorem dX0_restore_15 : decode cX0_restore 15 = .ok (.aload_n 0, 1) := dk_42 (dk_at dksX0_restore_0 15 rfl rfl)
theorem dX0_restore_16 : decode cX0_restore 16 = .ok (.getfield 48, 3) := dk_180 0 48 (dk_at dksX0_restore_0 16 rfl rfl)
theorem dX0_restore_19 : decode cX0_restore 19 = .ok (.invokevirtual 220, 3) := dk_182 0 220 (dk_at dksX0_restore_0 19 rfl rfl)
theorem dX0_restore_22 : decode cX0_restore 22 = .ok (.aload_n 0, 1) := dk_42 (dk_at dksX0_restore_0 22 rfl rfl)
theorem dX0_restore_23 : decode cX0_restore 23 = .ok (.getfield 51, 3) := dk_180 0 51 (dk_at dksX0_restore_1 0 rfl rfl)
theorem dX0_restore_26 : decode cX0_restore 26 = .ok (.iconst 0, 1) := dk_3 (dk_at dksX0_restore_1 3 rfl rfl)
theorem dX0_restore_27 : decode cX0_restore 27 = .ok (.aload_n 0, 1) := dk_42 (dk_at dksX0_restore_1 4 rfl rfl)
theorem dX0_restore_28 : decode cX0_restore 28 = .ok (.getfield 28, 3) := dk_180 0 28 (dk_at dksX0_restore_1 5 rfl rfl)
theorem dX0_restore_31 : decode cX0_restore 31 = .ok (.iconst 0, 1) := dk_3 (dk_at dksX0_restore_1 8 rfl rfl)
theorem dX0_restore_32 : decode cX0_restore 32 = .ok (.bipush 8, 2) := dk_16 8 (dk_at dksX0_restore_1 9 rfl rfl)
theorem dX0_restore_34 : decode cX0_restore 34 = .ok (.invokestatic 105, 3) := dk_184 0 105 (dk_at dksX0_restore_1 11 rfl rfl)
theorem dX0_restore_37 : decode cX0_restore 37 = .ok (.aload_n 0, 1) := dk_42 (dk_at dksX0_restore_1 14 rfl rfl)
theorem dX0_restore_38 : decode cX0_restore 38 = .ok (.getfield 54, 3) := dk_180 0 54 (dk_at dksX0_restore_1 15 rfl rfl)
theorem dX0_restore_41 : decode cX0_restore 41 = .ok (.iconst 0, 1) := dk_3 (dk_at dksX0_restore_1 18 rfl rfl)
theorem dX0_restore_42 : decode cX0_restore 42 = .ok (.aload_n 0, 1) := dk_42 (dk_at dksX0_restore_1 19 rfl rfl)
theorem dX0_restore_43 : decode cX0_restore 43 = .ok (.getfield 42, 3) := dk_180 0 42 (dk_at dksX0_restore_1 20 rfl rfl)
theorem dX0_restore_46 : decode cX0_restore 46 = .ok (.iconst 0, 1) := dk_3 (dk_at dksX0_restore_1 23 rfl rfl)
theorem dX0_restore_47 : decode cX0_restore 47 = .ok (.aload_n 0, 1) := dk_42 (dk_at dksX0_restore_2 0 rfl rfl)
theorem dX0_restore_48 : decode cX0_restore 48 = .ok (.getfield 42, 3) := dk_180 0 42 (dk_at dksX0_restore_2 1 rfl rfl)
theorem dX0_restore_51 : decode cX0_restore 51 = .ok (.arraylength, 1) := dk_190 (dk_at dksX0_restore_2 4 rfl rfl)
theorem dX0_restore_52 : decode cX0_restore 52 = .ok (.invokestatic 105, 3) := dk_184 0 105 (dk_at dksX0_restore_2 5 rfl rfl)
theorem dX0_restore_55 : decode cX0_restore 55 = .ok (.aload_n 0, 1) := dk_42 (dk_at dksX0_restore_2 8 rfl rfl)
theorem dX0_restore_56 : decode cX0_restore 56 = .ok (.aload_n 0, 1) := dk_42 (dk_at dksX0_restore_2 9 rfl rfl)
theorem dX0_restore_57 : decode cX0_restore 57 = .ok (.getfield 57, 3) := dk_180 0 57 (dk_at dksX0_restore_2 10 rfl rfl)
theorem dX0_restore_60 : decode cX0_restore 60 = .ok (.putfield 70, 3) := dk_181 0 70 (dk_at dksX0_restore_2 13 rfl rfl)
theorem dX0_restore_63 : decode cX0_restore 63 = .ok (.aload_n 0, 1) := dk_42 (dk_at dksX0_restore_2 16 rfl rfl)
theorem dX0_restore_64 : decode cX0_restore 64 = .ok (.aload_n 0, 1) := dk_42 (dk_at dksX0_restore_2 17 rfl rfl)
theorem dX0_restore_65 : decode cX0_restore 65 = .ok (.getfield 286, 3) := dk_180 1 30 (dk_at dksX0_restore_2 18 rfl rfl)
theorem dX0_restore_68 : decode cX0_restore 68 = .ok (.putfield 265, 3) := dk_181 1 9 (dk_at dksX0_restore_2 21 rfl rfl)
theorem dX0_restore_71 : decode cX0_restore 71 = .ok (.aload_n 0, 1) := dk_42 (dk_at dksX0_restore_3 0 rfl rfl)
theorem dX0_restore_72 : decode cX0_restore 72 = .ok (.getfield 35, 3) := dk_180 0 35 (dk_at dksX0_restore_3 1 rfl rfl)
theorem dX0_restore_75 : decode cX0_restore 75 = .ok (.getfield 152, 3) := dk_180 0 152 (dk_at dksX0_restore_3 4 rfl rfl)
theorem dX0_restore_78 : decode cX0_restore 78 = .ok (.ireturn, 1) := dk_172 (dk_at dksX0_restore_3 7 rfl rfl)
abbrev cX0_count : ByteArray := prog_1_method_55_code
def yX0_count : MethodName := ⟨RX0, "count", "(I)I"⟩
def dkwX0_count_5 : List UInt8 := [153, 0, 7, 4, 167, 0, 4, 3, 172, 42, 180, 1, 9, 172, 42, 180, 0, 61, 172, 16, 154, 172]
abbrev dktX0_count_5 : List UInt8 := dkwX0_count_5 ++ []
def dkwX0_count_4 : List UInt8 := [180, 0, 35, 180, 0, 197, 153, 0, 7, 4, 167, 0, 4, 3, 172, 42, 180, 0, 35, 180, 0, 155]
abbrev dktX0_count_4 : List UInt8 := dkwX0_count_4 ++ dktX0_count_5
def dkwX0_count_3 : List UInt8 := [180, 0, 35, 180, 0, 84, 172, 42, 180, 0, 35, 182, 0, 209, 172, 42, 180, 0, 35, 180, 0, 200, 172, 42]
abbrev dktX0_count_3 : List UInt8 := dkwX0_count_3 ++ dktX0_count_4
def dkwX0_count_2 : List UInt8 := [42, 180, 0, 70, 172, 42, 180, 0, 35, 180, 0, 149, 172, 42, 180, 0, 35, 180, 0, 152, 172, 42]
abbrev dktX0_count_2 : List UInt8 := dkwX0_count_2 ++ dktX0_count_3
def dkwX0_count_1 : List UInt8 := [170, 0, 0, 0, 0, 0, 142, 0, 0, 0, 0, 0, 0, 0, 9, 0, 0, 0, 55, 0, 0, 0, 60, 0, 0, 0, 68, 0, 0, 0, 76, 0, 0, 0, 84, 0, 0, 0, 92, 0, 0, 0, 100, 0, 0, 0, 116, 0, 0, 0, 132, 0, 0, 0, 137]
abbrev dktX0_count_1 : List UInt8 := dkwX0_count_1 ++ dktX0_count_2
def dkwX0_count_0 : List UInt8 := [27]
abbrev dktX0_count_0 : List UInt8 := dkwX0_count_0 ++ dktX0_count_1
theorem dksX0_count_0 : cX0_count.data.toList.drop 0 = dktX0_count_0 := by decide +kernel
theorem dksX0_count_1 : cX0_count.data.toList.drop 1 = dktX0_count_1 := dk_seg dksX0_count_0 1 rfl rfl
theorem dksX0_count_2 : cX0_count.data.toList.drop 56 = dktX0_count_2 := dk_seg dksX0_count_1 55 rfl rfl
theorem dksX0_count_3 : cX0_count.data.toList.drop 78 = dktX0_count_3 := dk_seg dksX0_count_2 22 rfl rfl
theorem dksX0_count_4 : cX0_count.data.toList.drop 102 = dktX0_count_4 := dk_seg dksX0_count_3 24 rfl rfl
theorem dksX0_count_5 : cX0_count.data.toList.drop 124 = dktX0_count_5 := dk_seg dksX0_count_4 22 rfl rfl
theorem dX0_count_0 : decode cX0_count 0 = .ok (.iload_n 1, 1) := dk_27 (dk_at dksX0_count_0 0 rfl rfl)
theorem dX0_count_1 : decode cX0_count 1 = .ok (.tableswitch 142 0 9 #[55, 60, 68, 76, 84, 92, 100, 116, 132, 137], 55) := by decide +kernel
theorem dX0_count_56 : decode cX0_count 56 = .ok (.aload_n 0, 1) := dk_42 (dk_at dksX0_count_2 0 rfl rfl)
theorem dX0_count_57 : decode cX0_count 57 = .ok (.getfield 70, 3) := dk_180 0 70 (dk_at dksX0_count_2 1 rfl rfl)
theorem dX0_count_60 : decode cX0_count 60 = .ok (.ireturn, 1) := dk_172 (dk_at dksX0_count_2 4 rfl rfl)
theorem dX0_count_61 : decode cX0_count 61 = .ok (.aload_n 0, 1) := dk_42 (dk_at dksX0_count_2 5 rfl rfl)
theorem dX0_count_62 : decode cX0_count 62 = .ok (.getfield 35, 3) := dk_180 0 35 (dk_at dksX0_count_2 6 rfl rfl)
theorem dX0_count_65 : decode cX0_count 65 = .ok (.getfield 149, 3) := dk_180 0 149 (dk_at dksX0_count_2 9 rfl rfl)
theorem dX0_count_68 : decode cX0_count 68 = .ok (.ireturn, 1) := dk_172 (dk_at dksX0_count_2 12 rfl rfl)
theorem dX0_count_69 : decode cX0_count 69 = .ok (.aload_n 0, 1) := dk_42 (dk_at dksX0_count_2 13 rfl rfl)
theorem dX0_count_70 : decode cX0_count 70 = .ok (.getfield 35, 3) := dk_180 0 35 (dk_at dksX0_count_2 14 rfl rfl)
theorem dX0_count_73 : decode cX0_count 73 = .ok (.getfield 152, 3) := dk_180 0 152 (dk_at dksX0_count_2 17 rfl rfl)
theorem dX0_count_76 : decode cX0_count 76 = .ok (.ireturn, 1) := dk_172 (dk_at dksX0_count_2 20 rfl rfl)
theorem dX0_count_77 : decode cX0_count 77 = .ok (.aload_n 0, 1) := dk_42 (dk_at dksX0_count_2 21 rfl rfl)
theorem dX0_count_78 : decode cX0_count 78 = .ok (.getfield 35, 3) := dk_180 0 35 (dk_at dksX0_count_3 0 rfl rfl)
theorem dX0_count_81 : decode cX0_count 81 = .ok (.getfield 84, 3) := dk_180 0 84 (dk_at dksX0_count_3 3 rfl rfl)
theorem dX0_count_84 : decode cX0_count 84 = .ok (.ireturn, 1) := dk_172 (dk_at dksX0_count_3 6 rfl rfl)
theorem dX0_count_85 : decode cX0_count 85 = .ok (.aload_n 0, 1) := dk_42 (dk_at dksX0_count_3 7 rfl rfl)
theorem dX0_count_86 : decode cX0_count 86 = .ok (.getfield 35, 3) := dk_180 0 35 (dk_at dksX0_count_3 8 rfl rfl)
theorem dX0_count_89 : decode cX0_count 89 = .ok (.invokevirtual 209, 3) := dk_182 0 209 (dk_at dksX0_count_3 11 rfl rfl)
theorem dX0_count_92 : decode cX0_count 92 = .ok (.ireturn, 1) := dk_172 (dk_at dksX0_count_3 14 rfl rfl)
theorem dX0_count_93 : decode cX0_count 93 = .ok (.aload_n 0, 1) := dk_42 (dk_at dksX0_count_3 15 rfl rfl)
theorem dX0_count_94 : decode cX0_count 94 = .ok (.getfield 35, 3) := dk_180 0 35 (dk_at dksX0_count_3 16 rfl rfl)
theorem dX0_count_97 : decode cX0_count 97 = .ok (.getfield 200, 3) := dk_180 0 200 (dk_at dksX0_count_3 19 rfl rfl)
theorem dX0_count_100 : decode cX0_count 100 = .ok (.ireturn, 1) := dk_172 (dk_at dksX0_count_3 22 rfl rfl)
theorem dX0_count_101 : decode cX0_count 101 = .ok (.aload_n 0, 1) := dk_42 (dk_at dksX0_count_3 23 rfl rfl)
theorem dX0_count_102 : decode cX0_count 102 = .ok (.getfield 35, 3) := dk_180 0 35 (dk_at dksX0_count_4 0 rfl rfl)
theorem dX0_count_105 : decode cX0_count 105 = .ok (.getfield 197, 3) := dk_180 0 197 (dk_at dksX0_count_4 3 rfl rfl)
theorem dX0_count_108 : decode cX0_count 108 = .ok (.ifCond .eq 7, 3) := dk_153 0 7 (dk_at dksX0_count_4 6 rfl rfl)
theorem dX0_count_111 : decode cX0_count 111 = .ok (.iconst 1, 1) := dk_4 (dk_at dksX0_count_4 9 rfl rfl)
theorem dX0_count_112 : decode cX0_count 112 = .ok (.goto 4, 3) := dk_167 0 4 (dk_at dksX0_count_4 10 rfl rfl)
theorem dX0_count_115 : decode cX0_count 115 = .ok (.iconst 0, 1) := dk_3 (dk_at dksX0_count_4 13 rfl rfl)
theorem dX0_count_116 : decode cX0_count 116 = .ok (.ireturn, 1) := dk_172 (dk_at dksX0_count_4 14 rfl rfl)
theorem dX0_count_117 : decode cX0_count 117 = .ok (.aload_n 0, 1) := dk_42 (dk_at dksX0_count_4 15 rfl rfl)
theorem dX0_count_118 : decode cX0_count 118 = .ok (.getfield 35, 3) := dk_180 0 35 (dk_at dksX0_count_4 16 rfl rfl)
theorem dX0_count_121 : decode cX0_count 121 = .ok (.getfield 155, 3) := dk_180 0 155 (dk_at dksX0_count_4 19 rfl rfl)
theorem dX0_count_124 : decode cX0_count 124 = .ok (.ifCond .eq 7, 3) := dk_153 0 7 (dk_at dksX0_count_5 0 rfl rfl)
theorem dX0_count_127 : decode cX0_count 127 = .ok (.iconst 1, 1) := dk_4 (dk_at dksX0_count_5 3 rfl rfl)
theorem dX0_count_128 : decode cX0_count 128 = .ok (.goto 4, 3) := dk_167 0 4 (dk_at dksX0_count_5 4 rfl rfl)
theorem dX0_count_131 : decode cX0_count 131 = .ok (.iconst 0, 1) := dk_3 (dk_at dksX0_count_5 7 rfl rfl)
theorem dX0_count_132 : decode cX0_count 132 = .ok (.ireturn, 1) := dk_172 (dk_at dksX0_count_5 8 rfl rfl)
theorem dX0_count_133 : decode cX0_count 133 = .ok (.aload_n 0, 1) := dk_42 (dk_at dksX0_count_5 9 rfl rfl)
theorem dX0_count_134 : decode cX0_count 134 = .ok (.getfield 265, 3) := dk_180 1 9 (dk_at dksX0_count_5 10 rfl rfl)
theorem dX0_count_137 : decode cX0_count 137 = .ok (.ireturn, 1) := dk_172 (dk_at dksX0_count_5 13 rfl rfl)
theorem dX0_count_138 : decode cX0_count 138 = .ok (.aload_n 0, 1) := dk_42 (dk_at dksX0_count_5 14 rfl rfl)
theorem dX0_count_139 : decode cX0_count 139 = .ok (.getfield 61, 3) := dk_180 0 61 (dk_at dksX0_count_5 15 rfl rfl)
theorem dX0_count_142 : decode cX0_count 142 = .ok (.ireturn, 1) := dk_172 (dk_at dksX0_count_5 18 rfl rfl)
theorem dX0_count_143 : decode cX0_count 143 = .ok (.bipush (-102), 2) := dk_16 154 (dk_at dksX0_count_5 19 rfl rfl)
theorem dX0_count_145 : decode cX0_count 145 = .ok (.ireturn, 1) := dk_172 (dk_at dksX0_count_5 21 rfl rfl)
abbrev cX0_digest : ByteArray := prog_1_method_57_code
def yX0_digest : MethodName := ⟨RX0, "digest", "()J"⟩
def dkwX0_digest_9 : List UInt8 := [132, 1, 1, 167, 255, 237, 42, 180, 1, 35, 173]
abbrev dktX0_digest_9 : List UInt8 := dkwX0_digest_9 ++ []
def dkwX0_digest_8 : List UInt8 := [132, 1, 1, 167, 255, 234, 3, 60, 27, 16, 10, 162, 0, 19, 42, 42, 27, 182, 1, 45, 133, 182, 1, 41]
abbrev dktX0_digest_8 : List UInt8 := dkwX0_digest_8 ++ dktX0_digest_9
def dkwX0_digest_7 : List UInt8 := [182, 1, 41, 3, 60, 27, 42, 180, 0, 61, 162, 0, 20, 42, 42, 180, 0, 45, 27, 46, 133, 182, 1, 41]
abbrev dktX0_digest_7 : List UInt8 := dkwX0_digest_7 ++ dktX0_digest_8
def dkwX0_digest_6 : List UInt8 := [182, 0, 238, 133, 182, 1, 41, 42, 42, 182, 1, 21, 133, 182, 1, 41, 42, 42, 182, 1, 27, 133]
abbrev dktX0_digest_6 : List UInt8 := dkwX0_digest_6 ++ dktX0_digest_7
def dkwX0_digest_5 : List UInt8 := [42, 42, 3, 182, 0, 235, 133, 182, 1, 41, 42, 42, 4, 182, 0, 235, 133, 182, 1, 41, 42, 42, 16, 9]
abbrev dktX0_digest_5 : List UInt8 := dkwX0_digest_5 ++ dktX0_digest_6
def dkwX0_digest_4 : List UInt8 := [182, 1, 41, 42, 42, 42, 180, 0, 35, 4, 42, 180, 0, 70, 120, 4, 100, 182, 0, 188, 133, 182, 1, 41]
abbrev dktX0_digest_4 : List UInt8 := dkwX0_digest_4 ++ dktX0_digest_5
def dkwX0_digest_3 : List UInt8 := [182, 1, 18, 133, 182, 1, 41, 132, 1, 1, 167, 255, 186, 42, 42, 180, 0, 35, 180, 0, 162, 133]
abbrev dktX0_digest_3 : List UInt8 := dkwX0_digest_3 ++ dktX0_digest_4
def dkwX0_digest_2 : List UInt8 := [180, 0, 35, 27, 182, 0, 169, 133, 182, 1, 41, 42, 42, 27, 182, 0, 212, 133, 182, 1, 41, 42, 42, 27]
abbrev dktX0_digest_2 : List UInt8 := dkwX0_digest_2 ++ dktX0_digest_3
def dkwX0_digest_1 : List UInt8 := [162, 0, 20, 42, 42, 27, 28, 182, 0, 131, 133, 182, 1, 41, 132, 2, 1, 167, 255, 236, 42, 42, 42]
abbrev dktX0_digest_1 : List UInt8 := dkwX0_digest_1 ++ dktX0_digest_2
def dkwX0_digest_0 : List UInt8 := [42, 20, 1, 39, 181, 1, 35, 3, 60, 27, 42, 180, 0, 70, 162, 0, 68, 3, 61, 28, 16, 9]
abbrev dktX0_digest_0 : List UInt8 := dkwX0_digest_0 ++ dktX0_digest_1
theorem dksX0_digest_0 : cX0_digest.data.toList.drop 0 = dktX0_digest_0 := by decide +kernel
theorem dksX0_digest_1 : cX0_digest.data.toList.drop 22 = dktX0_digest_1 := dk_seg dksX0_digest_0 22 rfl rfl
theorem dksX0_digest_2 : cX0_digest.data.toList.drop 45 = dktX0_digest_2 := dk_seg dksX0_digest_1 23 rfl rfl
theorem dksX0_digest_3 : cX0_digest.data.toList.drop 69 = dktX0_digest_3 := dk_seg dksX0_digest_2 24 rfl rfl
theorem dksX0_digest_4 : cX0_digest.data.toList.drop 91 = dktX0_digest_4 := dk_seg dksX0_digest_3 22 rfl rfl
theorem dksX0_digest_5 : cX0_digest.data.toList.drop 115 = dktX0_digest_5 := dk_seg dksX0_digest_4 24 rfl rfl
theorem dksX0_digest_6 : cX0_digest.data.toList.drop 139 = dktX0_digest_6 := dk_seg dksX0_digest_5 24 rfl rfl
theorem dksX0_digest_7 : cX0_digest.data.toList.drop 161 = dktX0_digest_7 := dk_seg dksX0_digest_6 22 rfl rfl
theorem dksX0_digest_8 : cX0_digest.data.toList.drop 185 = dktX0_digest_8 := dk_seg dksX0_digest_7 24 rfl rfl
theorem dksX0_digest_9 : cX0_digest.data.toList.drop 209 = dktX0_digest_9 := dk_seg dksX0_digest_8 24 rfl rfl
theorem dX0_digest_0 : decode cX0_digest 0 = .ok (.aload_n 0, 1) := dk_42 (dk_at dksX0_digest_0 0 rfl rfl)
theorem dX0_digest_1 : decode cX0_digest 1 = .ok (.ldc2_w 295, 3) := dk_20 1 39 (dk_at dksX0_digest_0 1 rfl rfl)
theorem dX0_digest_4 : decode cX0_digest 4 = .ok (.putfield 291, 3) := dk_181 1 35 (dk_at dksX0_digest_0 4 rfl rfl)
theorem dX0_digest_7 : decode cX0_digest 7 = .ok (.iconst 0, 1) := dk_3 (dk_at dksX0_digest_0 7 rfl rfl)
theorem dX0_digest_8 : decode cX0_digest 8 = .ok (.istore_n 1, 1) := dk_60 (dk_at dksX0_digest_0 8 rfl rfl)
theorem dX0_digest_9 : decode cX0_digest 9 = .ok (.iload_n 1, 1) := dk_27 (dk_at dksX0_digest_0 9 rfl rfl)
theorem dX0_digest_10 : decode cX0_digest 10 = .ok (.aload_n 0, 1) := dk_42 (dk_at dksX0_digest_0 10 rfl rfl)
theorem dX0_digest_11 : decode cX0_digest 11 = .ok (.getfield 70, 3) := dk_180 0 70 (dk_at dksX0_digest_0 11 rfl rfl)
theorem dX0_digest_14 : decode cX0_digest 14 = .ok (.if_icmp .ge 68, 3) := dk_162 0 68 (dk_at dksX0_digest_0 14 rfl rfl)
theorem dX0_digest_17 : decode cX0_digest 17 = .ok (.iconst 0, 1) := dk_3 (dk_at dksX0_digest_0 17 rfl rfl)
theorem dX0_digest_18 : decode cX0_digest 18 = .ok (.istore_n 2, 1) := dk_61 (dk_at dksX0_digest_0 18 rfl rfl)
theorem dX0_digest_19 : decode cX0_digest 19 = .ok (.iload_n 2, 1) := dk_28 (dk_at dksX0_digest_0 19 rfl rfl)
theorem dX0_digest_20 : decode cX0_digest 20 = .ok (.bipush 9, 2) := dk_16 9 (dk_at dksX0_digest_0 20 rfl rfl)
theorem dX0_digest_22 : decode cX0_digest 22 = .ok (.if_icmp .ge 20, 3) := dk_162 0 20 (dk_at dksX0_digest_1 0 rfl rfl)
theorem dX0_digest_25 : decode cX0_digest 25 = .ok (.aload_n 0, 1) := dk_42 (dk_at dksX0_digest_1 3 rfl rfl)
theorem dX0_digest_26 : decode cX0_digest 26 = .ok (.aload_n 0, 1) := dk_42 (dk_at dksX0_digest_1 4 rfl rfl)
theorem dX0_digest_27 : decode cX0_digest 27 = .ok (.iload_n 1, 1) := dk_27 (dk_at dksX0_digest_1 5 rfl rfl)
theorem dX0_digest_28 : decode cX0_digest 28 = .ok (.iload_n 2, 1) := dk_28 (dk_at dksX0_digest_1 6 rfl rfl)
theorem dX0_digest_29 : decode cX0_digest 29 = .ok (.invokevirtual 131, 3) := dk_182 0 131 (dk_at dksX0_digest_1 7 rfl rfl)
theorem dX0_digest_32 : decode cX0_digest 32 = .ok (.i2l, 1) := dk_133 (dk_at dksX0_digest_1 10 rfl rfl)
theorem dX0_digest_33 : decode cX0_digest 33 = .ok (.invokevirtual 297, 3) := dk_182 1 41 (dk_at dksX0_digest_1 11 rfl rfl)
theorem dX0_digest_36 : decode cX0_digest 36 = .ok (.iinc 2 1, 3) := dk_132 2 1 (dk_at dksX0_digest_1 14 rfl rfl)
theorem dX0_digest_39 : decode cX0_digest 39 = .ok (.goto (-20), 3) := dk_167 255 236 (dk_at dksX0_digest_1 17 rfl rfl)
theorem dX0_digest_42 : decode cX0_digest 42 = .ok (.aload_n 0, 1) := dk_42 (dk_at dksX0_digest_1 20 rfl rfl)
theorem dX0_digest_43 : decode cX0_digest 43 = .ok (.aload_n 0, 1) := dk_42 (dk_at dksX0_digest_1 21 rfl rfl)
theorem dX0_digest_44 : decode cX0_digest 44 = .ok (.aload_n 0, 1) := dk_42 (dk_at dksX0_digest_1 22 rfl rfl)
theorem dX0_digest_45 : decode cX0_digest 45 = .ok (.getfield 35, 3) := dk_180 0 35 (dk_at dksX0_digest_2 0 rfl rfl)
theorem dX0_digest_48 : decode cX0_digest 48 = .ok (.iload_n 1, 1) := dk_27 (dk_at dksX0_digest_2 3 rfl rfl)
theorem dX0_digest_49 : decode cX0_digest 49 = .ok (.invokevirtual 169, 3) := dk_182 0 169 (dk_at dksX0_digest_2 4 rfl rfl)
theorem dX0_digest_52 : decode cX0_digest 52 = .ok (.i2l, 1) := dk_133 (dk_at dksX0_digest_2 7 rfl rfl)
theorem dX0_digest_53 : decode cX0_digest 53 = .ok (.invokevirtual 297, 3) := dk_182 1 41 (dk_at dksX0_digest_2 8 rfl rfl)
theorem dX0_digest_56 : decode cX0_digest 56 = .ok (.aload_n 0, 1) := dk_42 (dk_at dksX0_digest_2 11 rfl rfl)
theorem dX0_digest_57 : decode cX0_digest 57 = .ok (.aload_n 0, 1) := dk_42 (dk_at dksX0_digest_2 12 rfl rfl)
theorem dX0_digest_58 : decode cX0_digest 58 = .ok (.iload_n 1, 1) := dk_27 (dk_at dksX0_digest_2 13 rfl rfl)
theorem dX0_digest_59 : decode cX0_digest 59 = .ok (.invokevirtual 212, 3) := dk_182 0 212 (dk_at dksX0_digest_2 14 rfl rfl)
theorem dX0_digest_62 : decode cX0_digest 62 = .ok (.i2l, 1) := dk_133 (dk_at dksX0_digest_2 17 rfl rfl)
theorem dX0_digest_63 : decode cX0_digest 63 = .ok (.invokevirtual 297, 3) := dk_182 1 41 (dk_at dksX0_digest_2 18 rfl rfl)
theorem dX0_digest_66 : decode cX0_digest 66 = .ok (.aload_n 0, 1) := dk_42 (dk_at dksX0_digest_2 21 rfl rfl)
theorem dX0_digest_67 : decode cX0_digest 67 = .ok (.aload_n 0, 1) := dk_42 (dk_at dksX0_digest_2 22 rfl rfl)
theorem dX0_digest_68 : decode cX0_digest 68 = .ok (.iload_n 1, 1) := dk_27 (dk_at dksX0_digest_2 23 rfl rfl)
theorem dX0_digest_69 : decode cX0_digest 69 = .ok (.invokevirtual 274, 3) := dk_182 1 18 (dk_at dksX0_digest_3 0 rfl rfl)
theorem dX0_digest_72 : decode cX0_digest 72 = .ok (.i2l, 1) := dk_133 (dk_at dksX0_digest_3 3 rfl rfl)
theorem dX0_digest_73 : decode cX0_digest 73 = .ok (.invokevirtual 297, 3) := dk_182 1 41 (dk_at dksX0_digest_3 4 rfl rfl)
theorem dX0_digest_76 : decode cX0_digest 76 = .ok (.iinc 1 1, 3) := dk_132 1 1 (dk_at dksX0_digest_3 7 rfl rfl)
theorem dX0_digest_79 : decode cX0_digest 79 = .ok (.goto (-70), 3) := dk_167 255 186 (dk_at dksX0_digest_3 10 rfl rfl)
theorem dX0_digest_82 : decode cX0_digest 82 = .ok (.aload_n 0, 1) := dk_42 (dk_at dksX0_digest_3 13 rfl rfl)
theorem dX0_digest_83 : decode cX0_digest 83 = .ok (.aload_n 0, 1) := dk_42 (dk_at dksX0_digest_3 14 rfl rfl)
theorem dX0_digest_84 : decode cX0_digest 84 = .ok (.getfield 35, 3) := dk_180 0 35 (dk_at dksX0_digest_3 15 rfl rfl)
theorem dX0_digest_87 : decode cX0_digest 87 = .ok (.getfield 162, 3) := dk_180 0 162 (dk_at dksX0_digest_3 18 rfl rfl)
theorem dX0_digest_90 : decode cX0_digest 90 = .ok (.i2l, 1) := dk_133 (dk_at dksX0_digest_3 21 rfl rfl)
theorem dX0_digest_91 : decode cX0_digest 91 = .ok (.invokevirtual 297, 3) := dk_182 1 41 (dk_at dksX0_digest_4 0 rfl rfl)
theorem dX0_digest_94 : decode cX0_digest 94 = .ok (.aload_n 0, 1) := dk_42 (dk_at dksX0_digest_4 3 rfl rfl)
theorem dX0_digest_95 : decode cX0_digest 95 = .ok (.aload_n 0, 1) := dk_42 (dk_at dksX0_digest_4 4 rfl rfl)
theorem dX0_digest_96 : decode cX0_digest 96 = .ok (.aload_n 0, 1) := dk_42 (dk_at dksX0_digest_4 5 rfl rfl)
theorem dX0_digest_97 : decode cX0_digest 97 = .ok (.getfield 35, 3) := dk_180 0 35 (dk_at dksX0_digest_4 6 rfl rfl)
theorem dX0_digest_100 : decode cX0_digest 100 = .ok (.iconst 1, 1) := dk_4 (dk_at dksX0_digest_4 9 rfl rfl)
theorem dX0_digest_101 : decode cX0_digest 101 = .ok (.aload_n 0, 1) := dk_42 (dk_at dksX0_digest_4 10 rfl rfl)
theorem dX0_digest_102 : decode cX0_digest 102 = .ok (.getfield 70, 3) := dk_180 0 70 (dk_at dksX0_digest_4 11 rfl rfl)
theorem dX0_digest_105 : decode cX0_digest 105 = .ok (.ishl, 1) := dk_120 (dk_at dksX0_digest_4 14 rfl rfl)
theorem dX0_digest_106 : decode cX0_digest 106 = .ok (.iconst 1, 1) := dk_4 (dk_at dksX0_digest_4 15 rfl rfl)
theorem dX0_digest_107 : decode cX0_digest 107 = .ok (.isub, 1) := dk_100 (dk_at dksX0_digest_4 16 rfl rfl)
theorem dX0_digest_108 : decode cX0_digest 108 = .ok (.invokevirtual 188, 3) := dk_182 0 188 (dk_at dksX0_digest_4 17 rfl rfl)
theorem dX0_digest_111 : decode cX0_digest 111 = .ok (.i2l, 1) := dk_133 (dk_at dksX0_digest_4 20 rfl rfl)
theorem dX0_digest_112 : decode cX0_digest 112 = .ok (.invokevirtual 297, 3) := dk_182 1 41 (dk_at dksX0_digest_4 21 rfl rfl)
theorem dX0_digest_115 : decode cX0_digest 115 = .ok (.aload_n 0, 1) := dk_42 (dk_at dksX0_digest_5 0 rfl rfl)
theorem dX0_digest_116 : decode cX0_digest 116 = .ok (.aload_n 0, 1) := dk_42 (dk_at dksX0_digest_5 1 rfl rfl)
theorem dX0_digest_117 : decode cX0_digest 117 = .ok (.iconst 0, 1) := dk_3 (dk_at dksX0_digest_5 2 rfl rfl)
theorem dX0_digest_118 : decode cX0_digest 118 = .ok (.invokevirtual 235, 3) := dk_182 0 235 (dk_at dksX0_digest_5 3 rfl rfl)
theorem dX0_digest_121 : decode cX0_digest 121 = .ok (.i2l, 1) := dk_133 (dk_at dksX0_digest_5 6 rfl rfl)
theorem dX0_digest_122 : decode cX0_digest 122 = .ok (.invokevirtual 297, 3) := dk_182 1 41 (dk_at dksX0_digest_5 7 rfl rfl)
theorem dX0_digest_125 : decode cX0_digest 125 = .ok (.aload_n 0, 1) := dk_42 (dk_at dksX0_digest_5 10 rfl rfl)
theorem dX0_digest_126 : decode cX0_digest 126 = .ok (.aload_n 0, 1) := dk_42 (dk_at dksX0_digest_5 11 rfl rfl)
theorem dX0_digest_127 : decode cX0_digest 127 = .ok (.iconst 1, 1) := dk_4 (dk_at dksX0_digest_5 12 rfl rfl)
theorem dX0_digest_128 : decode cX0_digest 128 = .ok (.invokevirtual 235, 3) := dk_182 0 235 (dk_at dksX0_digest_5 13 rfl rfl)
theorem dX0_digest_131 : decode cX0_digest 131 = .ok (.i2l, 1) := dk_133 (dk_at dksX0_digest_5 16 rfl rfl)
theorem dX0_digest_132 : decode cX0_digest 132 = .ok (.invokevirtual 297, 3) := dk_182 1 41 (dk_at dksX0_digest_5 17 rfl rfl)
theorem dX0_digest_135 : decode cX0_digest 135 = .ok (.aload_n 0, 1) := dk_42 (dk_at dksX0_digest_5 20 rfl rfl)
theorem dX0_digest_136 : decode cX0_digest 136 = .ok (.aload_n 0, 1) := dk_42 (dk_at dksX0_digest_5 21 rfl rfl)
theorem dX0_digest_137 : decode cX0_digest 137 = .ok (.bipush 9, 2) := dk_16 9 (dk_at dksX0_digest_5 22 rfl rfl)
theorem dX0_digest_139 : decode cX0_digest 139 = .ok (.invokevirtual 238, 3) := dk_182 0 238 (dk_at dksX0_digest_6 0 rfl rfl)
theorem dX0_digest_142 : decode cX0_digest 142 = .ok (.i2l, 1) := dk_133 (dk_at dksX0_digest_6 3 rfl rfl)
theorem dX0_digest_143 : decode cX0_digest 143 = .ok (.invokevirtual 297, 3) := dk_182 1 41 (dk_at dksX0_digest_6 4 rfl rfl)
theorem dX0_digest_146 : decode cX0_digest 146 = .ok (.aload_n 0, 1) := dk_42 (dk_at dksX0_digest_6 7 rfl rfl)
theorem dX0_digest_147 : decode cX0_digest 147 = .ok (.aload_n 0, 1) := dk_42 (dk_at dksX0_digest_6 8 rfl rfl)
theorem dX0_digest_148 : decode cX0_digest 148 = .ok (.invokevirtual 277, 3) := dk_182 1 21 (dk_at dksX0_digest_6 9 rfl rfl)
theorem dX0_digest_151 : decode cX0_digest 151 = .ok (.i2l, 1) := dk_133 (dk_at dksX0_digest_6 12 rfl rfl)
theorem dX0_digest_152 : decode cX0_digest 152 = .ok (.invokevirtual 297, 3) := dk_182 1 41 (dk_at dksX0_digest_6 13 rfl rfl)
theorem dX0_digest_155 : decode cX0_digest 155 = .ok (.aload_n 0, 1) := dk_42 (dk_at dksX0_digest_6 16 rfl rfl)
theorem dX0_digest_156 : decode cX0_digest 156 = .ok (.aload_n 0, 1) := dk_42 (dk_at dksX0_digest_6 17 rfl rfl)
theorem dX0_digest_157 : decode cX0_digest 157 = .ok (.invokevirtual 283, 3) := dk_182 1 27 (dk_at dksX0_digest_6 18 rfl rfl)
theorem dX0_digest_160 : decode cX0_digest 160 = .ok (.i2l, 1) := dk_133 (dk_at dksX0_digest_6 21 rfl rfl)
theorem dX0_digest_161 : decode cX0_digest 161 = .ok (.invokevirtual 297, 3) := dk_182 1 41 (dk_at dksX0_digest_7 0 rfl rfl)
theorem dX0_digest_164 : decode cX0_digest 164 = .ok (.iconst 0, 1) := dk_3 (dk_at dksX0_digest_7 3 rfl rfl)
theorem dX0_digest_165 : decode cX0_digest 165 = .ok (.istore_n 1, 1) := dk_60 (dk_at dksX0_digest_7 4 rfl rfl)
theorem dX0_digest_166 : decode cX0_digest 166 = .ok (.iload_n 1, 1) := dk_27 (dk_at dksX0_digest_7 5 rfl rfl)
theorem dX0_digest_167 : decode cX0_digest 167 = .ok (.aload_n 0, 1) := dk_42 (dk_at dksX0_digest_7 6 rfl rfl)
theorem dX0_digest_168 : decode cX0_digest 168 = .ok (.getfield 61, 3) := dk_180 0 61 (dk_at dksX0_digest_7 7 rfl rfl)
theorem dX0_digest_171 : decode cX0_digest 171 = .ok (.if_icmp .ge 20, 3) := dk_162 0 20 (dk_at dksX0_digest_7 10 rfl rfl)
theorem dX0_digest_174 : decode cX0_digest 174 = .ok (.aload_n 0, 1) := dk_42 (dk_at dksX0_digest_7 13 rfl rfl)
theorem dX0_digest_175 : decode cX0_digest 175 = .ok (.aload_n 0, 1) := dk_42 (dk_at dksX0_digest_7 14 rfl rfl)
theorem dX0_digest_176 : decode cX0_digest 176 = .ok (.getfield 45, 3) := dk_180 0 45 (dk_at dksX0_digest_7 15 rfl rfl)
theorem dX0_digest_179 : decode cX0_digest 179 = .ok (.iload_n 1, 1) := dk_27 (dk_at dksX0_digest_7 18 rfl rfl)
theorem dX0_digest_180 : decode cX0_digest 180 = .ok (.iaload, 1) := dk_46 (dk_at dksX0_digest_7 19 rfl rfl)
theorem dX0_digest_181 : decode cX0_digest 181 = .ok (.i2l, 1) := dk_133 (dk_at dksX0_digest_7 20 rfl rfl)
theorem dX0_digest_182 : decode cX0_digest 182 = .ok (.invokevirtual 297, 3) := dk_182 1 41 (dk_at dksX0_digest_7 21 rfl rfl)
theorem dX0_digest_185 : decode cX0_digest 185 = .ok (.iinc 1 1, 3) := dk_132 1 1 (dk_at dksX0_digest_8 0 rfl rfl)
theorem dX0_digest_188 : decode cX0_digest 188 = .ok (.goto (-22), 3) := dk_167 255 234 (dk_at dksX0_digest_8 3 rfl rfl)
theorem dX0_digest_191 : decode cX0_digest 191 = .ok (.iconst 0, 1) := dk_3 (dk_at dksX0_digest_8 6 rfl rfl)
theorem dX0_digest_192 : decode cX0_digest 192 = .ok (.istore_n 1, 1) := dk_60 (dk_at dksX0_digest_8 7 rfl rfl)
theorem dX0_digest_193 : decode cX0_digest 193 = .ok (.iload_n 1, 1) := dk_27 (dk_at dksX0_digest_8 8 rfl rfl)
theorem dX0_digest_194 : decode cX0_digest 194 = .ok (.bipush 10, 2) := dk_16 10 (dk_at dksX0_digest_8 9 rfl rfl)
theorem dX0_digest_196 : decode cX0_digest 196 = .ok (.if_icmp .ge 19, 3) := dk_162 0 19 (dk_at dksX0_digest_8 11 rfl rfl)
theorem dX0_digest_199 : decode cX0_digest 199 = .ok (.aload_n 0, 1) := dk_42 (dk_at dksX0_digest_8 14 rfl rfl)
theorem dX0_digest_200 : decode cX0_digest 200 = .ok (.aload_n 0, 1) := dk_42 (dk_at dksX0_digest_8 15 rfl rfl)
theorem dX0_digest_201 : decode cX0_digest 201 = .ok (.iload_n 1, 1) := dk_27 (dk_at dksX0_digest_8 16 rfl rfl)
theorem dX0_digest_202 : decode cX0_digest 202 = .ok (.invokevirtual 301, 3) := dk_182 1 45 (dk_at dksX0_digest_8 17 rfl rfl)
theorem dX0_digest_205 : decode cX0_digest 205 = .ok (.i2l, 1) := dk_133 (dk_at dksX0_digest_8 20 rfl rfl)
theorem dX0_digest_206 : decode cX0_digest 206 = .ok (.invokevirtual 297, 3) := dk_182 1 41 (dk_at dksX0_digest_8 21 rfl rfl)
theorem dX0_digest_209 : decode cX0_digest 209 = .ok (.iinc 1 1, 3) := dk_132 1 1 (dk_at dksX0_digest_9 0 rfl rfl)
theorem dX0_digest_212 : decode cX0_digest 212 = .ok (.goto (-19), 3) := dk_167 255 237 (dk_at dksX0_digest_9 3 rfl rfl)
theorem dX0_digest_215 : decode cX0_digest 215 = .ok (.aload_n 0, 1) := dk_42 (dk_at dksX0_digest_9 6 rfl rfl)
theorem dX0_digest_216 : decode cX0_digest 216 = .ok (.getfield 291, 3) := dk_180 1 35 (dk_at dksX0_digest_9 7 rfl rfl)
theorem dX0_digest_219 : decode cX0_digest 219 = .ok (.lreturn, 1) := dk_173 (dk_at dksX0_digest_9 10 rfl rfl)
abbrev cX0_note : ByteArray := prog_1_method_56_code
def yX0_note : MethodName := ⟨RX0, "note", "(J)V"⟩
def dkwX0_note_0 : List UInt8 := [42, 20, 1, 33, 42, 180, 1, 35, 105, 31, 97, 181, 1, 35, 177]
abbrev dktX0_note_0 : List UInt8 := dkwX0_note_0 ++ []
theorem dksX0_note_0 : cX0_note.data.toList.drop 0 = dktX0_note_0 := by decide +kernel
theorem dX0_note_0 : decode cX0_note 0 = .ok (.aload_n 0, 1) := dk_42 (dk_at dksX0_note_0 0 rfl rfl)
theorem dX0_note_1 : decode cX0_note 1 = .ok (.ldc2_w 289, 3) := dk_20 1 33 (dk_at dksX0_note_0 1 rfl rfl)
theorem dX0_note_4 : decode cX0_note 4 = .ok (.aload_n 0, 1) := dk_42 (dk_at dksX0_note_0 4 rfl rfl)
theorem dX0_note_5 : decode cX0_note 5 = .ok (.getfield 291, 3) := dk_180 1 35 (dk_at dksX0_note_0 5 rfl rfl)
theorem dX0_note_8 : decode cX0_note 8 = .ok (.lmul, 1) := dk_105 (dk_at dksX0_note_0 8 rfl rfl)
theorem dX0_note_9 : decode cX0_note 9 = .ok (.lload_n 1, 1) := dk_31 (dk_at dksX0_note_0 9 rfl rfl)
theorem dX0_note_10 : decode cX0_note 10 = .ok (.ladd, 1) := dk_97 (dk_at dksX0_note_0 10 rfl rfl)
theorem dX0_note_11 : decode cX0_note 11 = .ok (.putfield 291, 3) := dk_181 1 35 (dk_at dksX0_note_0 11 rfl rfl)
theorem dX0_note_14 : decode cX0_note 14 = .ok (.return_, 1) := dk_177 (dk_at dksX0_note_0 14 rfl rfl)
theorem q55 : (Jvm.Cond.initialized "TownOnWeight") ∈ lw_all := lw_g (lw_at lw_m1 1 rfl) rfl
theorem q73 : (Jvm.Cond.instantiable "TownOnWeight" (15 : Nat)) ∈ lw_all := lw_g (lw_at lw_m1 19 rfl) rfl
theorem q75 : (Jvm.Cond.instanceMethod ({ cls := "TownOnWeight", name := "<init>", desc := "()V" } : Jvm.MethodName)) ∈ lw_all := lw_g (lw_at lw_m1 21 rfl) rfl
theorem q76 : (Jvm.Cond.code ({ cls := "TownOnWeight", name := "<init>", desc := "()V" } : Jvm.MethodName) prog_1_method_4_code (1 : Nat) (Option.none : Option Jvm.ClassFile.FieldType)) ∈ lw_all := lw_g (lw_at lw_m1 22 rfl) rfl
theorem q77 : (Jvm.Cond.methodLink "TownOnWeight" (19 : Nat) ({ cls := "java/lang/Object", name := "<init>", desc := "()V" } : Jvm.MethodName)) ∈ lw_all := lw_g (lw_at lw_m1 23 rfl) rfl
theorem q80 : (Jvm.Cond.classLink "TownOnWeight" (1 : Nat) "TownOnWeight$House") ∈ lw_all := lw_g (lw_at lw_m1 26 rfl) rfl
theorem q82 : (Jvm.Cond.classLink "TownOnWeight" (32 : Nat) "TownOnWeight$Day") ∈ lw_all := lw_g (lw_at lw_m1 28 rfl) rfl
theorem q84 : (Jvm.Cond.methodLinkNest "TownOnWeight" (34 : Nat) ({ cls := "TownOnWeight$Day", name := "<init>", desc := "()V" } : Jvm.MethodName) "TownOnWeight") ∈ lw_tbl := lw_at lw_m1 30 rfl
theorem q89 : (Jvm.Cond.fieldLink "TownOnWeight" (149 : Nat) "TownOnWeight$Day" "length" "I") ∈ lw_all := lw_g (lw_at lw_m1 35 rfl) rfl
theorem q91 : (Jvm.Cond.fieldLink "TownOnWeight" (152 : Nat) "TownOnWeight$Day" "hangs" "I") ∈ lw_all := lw_g (lw_at lw_m1 37 rfl) rfl
theorem q93 : (Jvm.Cond.fieldLink "TownOnWeight" (84 : Nat) "TownOnWeight$Day" "hour" "I") ∈ lw_all := lw_g (lw_at lw_m1 39 rfl) rfl
theorem q95 : (Jvm.Cond.fieldLink "TownOnWeight" (200 : Nat) "TownOnWeight$Day" "lost" "I") ∈ lw_all := lw_g (lw_at lw_m1 41 rfl) rfl
theorem q97 : (Jvm.Cond.fieldLink "TownOnWeight" (162 : Nat) "TownOnWeight$Day" "worked" "I") ∈ lw_all := lw_g (lw_at lw_m1 43 rfl) rfl
theorem q99 : (Jvm.Cond.fieldLink "TownOnWeight" (114 : Nat) "TownOnWeight$Day" "brakes" "I") ∈ lw_all := lw_g (lw_at lw_m1 45 rfl) rfl
theorem q101 : (Jvm.Cond.fieldLink "TownOnWeight" (197 : Nat) "TownOnWeight$Day" "isDown" "Z") ∈ lw_all := lw_g (lw_at lw_m1 47 rfl) rfl
theorem q103 : (Jvm.Cond.fieldLink "TownOnWeight" (155 : Nat) "TownOnWeight$Day" "isRain" "Z") ∈ lw_all := lw_g (lw_at lw_m1 49 rfl) rfl
theorem q105 : (Jvm.Cond.fieldLink "TownOnWeight" (111 : Nat) "TownOnWeight$Day" "taken" "[I") ∈ lw_all := lw_g (lw_at lw_m1 51 rfl) rfl
theorem q126 : (Jvm.Cond.fieldLink "TownOnWeight" (24 : Nat) "TownOnWeight" "houses" "[LTownOnWeight$House;") ∈ lw_all := lw_g (lw_at lw_m1 72 rfl) rfl
theorem q127 : (Jvm.Cond.fieldLink "TownOnWeight" (28 : Nat) "TownOnWeight" "owed" "[I") ∈ lw_all := lw_g (lw_at lw_m1 73 rfl) rfl
theorem q128 : (Jvm.Cond.fieldLink "TownOnWeight" (70 : Nat) "TownOnWeight" "many" "I") ∈ lw_all := lw_g (lw_at lw_m1 74 rfl) rfl
theorem q129 : (Jvm.Cond.fieldLink "TownOnWeight" (35 : Nat) "TownOnWeight" "day" "LTownOnWeight$Day;") ∈ lw_all := lw_g (lw_at lw_m1 75 rfl) rfl
theorem q130 : (Jvm.Cond.fieldLink "TownOnWeight" (39 : Nat) "TownOnWeight" "would" "LTownOnWeight$Day;") ∈ lw_all := lw_g (lw_at lw_m1 76 rfl) rfl
theorem q131 : (Jvm.Cond.fieldLink "TownOnWeight" (42 : Nat) "TownOnWeight" "readings" "[I") ∈ lw_all := lw_g (lw_at lw_m1 77 rfl) rfl
theorem q132 : (Jvm.Cond.fieldLink "TownOnWeight" (265 : Nat) "TownOnWeight" "readMany" "I") ∈ lw_all := lw_g (lw_at lw_m1 78 rfl) rfl
theorem q133 : (Jvm.Cond.fieldLink "TownOnWeight" (45 : Nat) "TownOnWeight" "page" "[I") ∈ lw_all := lw_g (lw_at lw_m1 79 rfl) rfl
theorem q134 : (Jvm.Cond.fieldLink "TownOnWeight" (61 : Nat) "TownOnWeight" "pageMany" "I") ∈ lw_all := lw_g (lw_at lw_m1 80 rfl) rfl
theorem q135 : (Jvm.Cond.fieldLink "TownOnWeight" (48 : Nat) "TownOnWeight" "kept" "LTownOnWeight$Day;") ∈ lw_all := lw_g (lw_at lw_m1 81 rfl) rfl
theorem q136 : (Jvm.Cond.fieldLink "TownOnWeight" (51 : Nat) "TownOnWeight" "keptOwed" "[I") ∈ lw_all := lw_g (lw_at lw_m1 82 rfl) rfl
theorem q137 : (Jvm.Cond.fieldLink "TownOnWeight" (54 : Nat) "TownOnWeight" "keptReadings" "[I") ∈ lw_all := lw_g (lw_at lw_m1 83 rfl) rfl
theorem q138 : (Jvm.Cond.fieldLink "TownOnWeight" (57 : Nat) "TownOnWeight" "keptMany" "I") ∈ lw_all := lw_g (lw_at lw_m1 84 rfl) rfl
theorem q139 : (Jvm.Cond.fieldLink "TownOnWeight" (286 : Nat) "TownOnWeight" "keptReadMany" "I") ∈ lw_all := lw_g (lw_at lw_m1 85 rfl) rfl
theorem q140 : (Jvm.Cond.fieldLink "TownOnWeight" (291 : Nat) "TownOnWeight" "h" "J") ∈ lw_all := lw_g (lw_at lw_m1 86 rfl) rfl
theorem q141 : (Jvm.Cond.laysFinal "TownOnWeight" "TownOnWeight" "houses" "[LTownOnWeight$House;") ∈ lw_all := lw_g (lw_at lw_m1 87 rfl) rfl
theorem q142 : (Jvm.Cond.soleField "TownOnWeight" "houses") ∈ lw_all := lw_g (lw_at lw_m1 88 rfl) rfl
theorem q143 : (Jvm.Cond.laysFinal "TownOnWeight" "TownOnWeight" "owed" "[I") ∈ lw_all := lw_g (lw_at lw_m1 89 rfl) rfl
theorem q144 : (Jvm.Cond.soleField "TownOnWeight" "owed") ∈ lw_all := lw_g (lw_at lw_m1 90 rfl) rfl
theorem q145 : (Jvm.Cond.lays "TownOnWeight" "TownOnWeight" "many" "I") ∈ lw_all := lw_g (lw_at lw_m1 91 rfl) rfl
theorem q146 : (Jvm.Cond.soleField "TownOnWeight" "many") ∈ lw_all := lw_g (lw_at lw_m1 92 rfl) rfl
theorem q147 : (Jvm.Cond.laysFinal "TownOnWeight" "TownOnWeight" "day" "LTownOnWeight$Day;") ∈ lw_all := lw_g (lw_at lw_m1 93 rfl) rfl
theorem q148 : (Jvm.Cond.soleField "TownOnWeight" "day") ∈ lw_all := lw_g (lw_at lw_m1 94 rfl) rfl
theorem q149 : (Jvm.Cond.laysFinal "TownOnWeight" "TownOnWeight" "would" "LTownOnWeight$Day;") ∈ lw_all := lw_g (lw_at lw_m1 95 rfl) rfl
theorem q150 : (Jvm.Cond.soleField "TownOnWeight" "would") ∈ lw_all := lw_g (lw_at lw_m1 96 rfl) rfl
theorem q151 : (Jvm.Cond.laysFinal "TownOnWeight" "TownOnWeight" "readings" "[I") ∈ lw_all := lw_g (lw_at lw_m1 97 rfl) rfl
theorem q152 : (Jvm.Cond.soleField "TownOnWeight" "readings") ∈ lw_all := lw_g (lw_at lw_m1 98 rfl) rfl
theorem q153 : (Jvm.Cond.lays "TownOnWeight" "TownOnWeight" "readMany" "I") ∈ lw_all := lw_g (lw_at lw_m1 99 rfl) rfl
theorem q154 : (Jvm.Cond.soleField "TownOnWeight" "readMany") ∈ lw_all := lw_g (lw_at lw_m1 100 rfl) rfl
theorem q155 : (Jvm.Cond.laysFinal "TownOnWeight" "TownOnWeight" "page" "[I") ∈ lw_all := lw_g (lw_at lw_m1 101 rfl) rfl
theorem q156 : (Jvm.Cond.soleField "TownOnWeight" "page") ∈ lw_all := lw_g (lw_at lw_m1 102 rfl) rfl
theorem q157 : (Jvm.Cond.lays "TownOnWeight" "TownOnWeight" "pageMany" "I") ∈ lw_all := lw_g (lw_at lw_m1 103 rfl) rfl
theorem q158 : (Jvm.Cond.soleField "TownOnWeight" "pageMany") ∈ lw_all := lw_g (lw_at lw_m1 104 rfl) rfl
theorem q159 : (Jvm.Cond.laysFinal "TownOnWeight" "TownOnWeight" "kept" "LTownOnWeight$Day;") ∈ lw_all := lw_g (lw_at lw_m1 105 rfl) rfl
theorem q160 : (Jvm.Cond.soleField "TownOnWeight" "kept") ∈ lw_all := lw_g (lw_at lw_m1 106 rfl) rfl
theorem q161 : (Jvm.Cond.laysFinal "TownOnWeight" "TownOnWeight" "keptOwed" "[I") ∈ lw_all := lw_g (lw_at lw_m1 107 rfl) rfl
theorem q162 : (Jvm.Cond.soleField "TownOnWeight" "keptOwed") ∈ lw_all := lw_g (lw_at lw_m1 108 rfl) rfl
theorem q163 : (Jvm.Cond.laysFinal "TownOnWeight" "TownOnWeight" "keptReadings" "[I") ∈ lw_all := lw_g (lw_at lw_m1 109 rfl) rfl
theorem q164 : (Jvm.Cond.soleField "TownOnWeight" "keptReadings") ∈ lw_all := lw_g (lw_at lw_m1 110 rfl) rfl
theorem q165 : (Jvm.Cond.lays "TownOnWeight" "TownOnWeight" "keptMany" "I") ∈ lw_all := lw_g (lw_at lw_m1 111 rfl) rfl
theorem q166 : (Jvm.Cond.soleField "TownOnWeight" "keptMany") ∈ lw_all := lw_g (lw_at lw_m1 112 rfl) rfl
theorem q167 : (Jvm.Cond.lays "TownOnWeight" "TownOnWeight" "keptReadMany" "I") ∈ lw_all := lw_g (lw_at lw_m1 113 rfl) rfl
theorem q168 : (Jvm.Cond.soleField "TownOnWeight" "keptReadMany") ∈ lw_all := lw_g (lw_at lw_m1 114 rfl) rfl
theorem q169 : (Jvm.Cond.lays "TownOnWeight" "TownOnWeight" "h" "J") ∈ lw_all := lw_g (lw_at lw_m1 115 rfl) rfl
theorem q170 : (Jvm.Cond.soleField "TownOnWeight" "h") ∈ lw_all := lw_g (lw_at lw_m1 116 rfl) rfl
theorem q171 : (Jvm.Cond.superclass "TownOnWeight" "java/lang/Object") ∈ lw_all := lw_g (lw_at lw_m1 117 rfl) rfl
theorem q173 : (Jvm.Cond.instanceMethod ({ cls := "TownOnWeight", name := "letters", desc := "(J)I" } : Jvm.MethodName)) ∈ lw_all := lw_g (lw_at lw_m1 119 rfl) rfl
theorem q174 : (Jvm.Cond.selects "TownOnWeight" ({ cls := "TownOnWeight", name := "letters", desc := "(J)I" } : Jvm.MethodName) ({ cls := "TownOnWeight", name := "letters", desc := "(J)I" } : Jvm.MethodName)) ∈ lw_all := lw_g (lw_at lw_m1 120 rfl) rfl
theorem q175 : (Jvm.Cond.code ({ cls := "TownOnWeight", name := "letters", desc := "(J)I" } : Jvm.MethodName) prog_1_method_5_code (7 : Nat) (Option.some Jvm.ClassFile.FieldType.int)) ∈ lw_all := lw_g (lw_at lw_m1 121 rfl) rfl
theorem q177 : (Jvm.Cond.instanceMethod ({ cls := "TownOnWeight", name := "blank", desc := "()I" } : Jvm.MethodName)) ∈ lw_all := lw_g (lw_at lw_m1 123 rfl) rfl
theorem q178 : (Jvm.Cond.selects "TownOnWeight" ({ cls := "TownOnWeight", name := "blank", desc := "()I" } : Jvm.MethodName) ({ cls := "TownOnWeight", name := "blank", desc := "()I" } : Jvm.MethodName)) ∈ lw_all := lw_g (lw_at lw_m1 124 rfl) rfl
theorem q179 : (Jvm.Cond.code ({ cls := "TownOnWeight", name := "blank", desc := "()I" } : Jvm.MethodName) prog_1_method_6_code (2 : Nat) (Option.some Jvm.ClassFile.FieldType.int)) ∈ lw_all := lw_g (lw_at lw_m1 125 rfl) rfl
theorem q181 : (Jvm.Cond.instanceMethod ({ cls := "TownOnWeight", name := "fault", desc := "()I" } : Jvm.MethodName)) ∈ lw_all := lw_g (lw_at lw_m1 127 rfl) rfl
theorem q182 : (Jvm.Cond.selects "TownOnWeight" ({ cls := "TownOnWeight", name := "fault", desc := "()I" } : Jvm.MethodName) ({ cls := "TownOnWeight", name := "fault", desc := "()I" } : Jvm.MethodName)) ∈ lw_all := lw_g (lw_at lw_m1 128 rfl) rfl
theorem q183 : (Jvm.Cond.code ({ cls := "TownOnWeight", name := "fault", desc := "()I" } : Jvm.MethodName) prog_1_method_8_code (1 : Nat) (Option.some Jvm.ClassFile.FieldType.int)) ∈ lw_all := lw_g (lw_at lw_m1 129 rfl) rfl
theorem q184 : (Jvm.Cond.classLink "TownOnWeight" (65 : Nat) "TownOnWeight$Reader") ∈ lw_all := lw_g (lw_at lw_m1 130 rfl) rfl
theorem q186 : (Jvm.Cond.methodLink "TownOnWeight" (73 : Nat) ({ cls := "TownOnWeight$Reader", name := "<init>", desc := "(I)V" } : Jvm.MethodName)) ∈ lw_all := lw_g (lw_at lw_m1 132 rfl) rfl
theorem q192 : (Jvm.Cond.fieldLink "TownOnWeight" (101 : Nat) "TownOnWeight$Reader" "told" "[I") ∈ lw_all := lw_g (lw_at lw_m1 138 rfl) rfl
theorem q194 : (Jvm.Cond.fieldLink "TownOnWeight" (87 : Nat) "TownOnWeight$Reader" "kind" "I") ∈ lw_all := lw_g (lw_at lw_m1 140 rfl) rfl
theorem q196 : (Jvm.Cond.fieldLink "TownOnWeight" (97 : Nat) "TownOnWeight$Reader" "parent" "I") ∈ lw_all := lw_g (lw_at lw_m1 142 rfl) rfl
theorem q209 : (Jvm.Cond.methodLink "TownOnWeight" (76 : Nat) ({ cls := "TownOnWeight", name := "goThrough", desc := "(LTownOnWeight$Reader;)I" } : Jvm.MethodName)) ∈ lw_all := lw_g (lw_at lw_m1 155 rfl) rfl
theorem q210 : (Jvm.Cond.privateMethod ({ cls := "TownOnWeight", name := "goThrough", desc := "(LTownOnWeight$Reader;)I" } : Jvm.MethodName)) ∈ lw_tbl := lw_at lw_m1 156 rfl
theorem q211 : (Jvm.Cond.instanceMethod ({ cls := "TownOnWeight", name := "goThrough", desc := "(LTownOnWeight$Reader;)I" } : Jvm.MethodName)) ∈ lw_all := lw_g (lw_at lw_m1 157 rfl) rfl
theorem q212 : (Jvm.Cond.code ({ cls := "TownOnWeight", name := "goThrough", desc := "(LTownOnWeight$Reader;)I" } : Jvm.MethodName) prog_1_method_7_code (3 : Nat) (Option.some Jvm.ClassFile.FieldType.int)) ∈ lw_all := lw_g (lw_at lw_m1 158 rfl) rfl
theorem q213 : (Jvm.Cond.methodLink "TownOnWeight" (64 : Nat) ({ cls := "TownOnWeight$Reader", name := "go", desc := "(I)Z" } : Jvm.MethodName)) ∈ lw_all := lw_g (lw_at lw_m1 159 rfl) rfl
theorem q221 : (Jvm.Cond.static ({ cls := "TownOnWeight", name := "isIn", desc := "(JJJ)Z" } : Jvm.MethodName)) ∈ lw_all := lw_g (lw_at lw_m1 167 rfl) rfl
theorem q222 : (Jvm.Cond.code ({ cls := "TownOnWeight", name := "isIn", desc := "(JJJ)Z" } : Jvm.MethodName) prog_1_method_1_code (6 : Nat) (Option.some Jvm.ClassFile.FieldType.boolean)) ∈ lw_all := lw_g (lw_at lw_m1 168 rfl) rfl
theorem q226 : (Jvm.Cond.instanceMethod ({ cls := "TownOnWeight", name := "house", desc := "()I" } : Jvm.MethodName)) ∈ lw_all := lw_g (lw_at lw_m1 172 rfl) rfl
theorem q227 : (Jvm.Cond.selects "TownOnWeight" ({ cls := "TownOnWeight", name := "house", desc := "()I" } : Jvm.MethodName) ({ cls := "TownOnWeight", name := "house", desc := "()I" } : Jvm.MethodName)) ∈ lw_all := lw_g (lw_at lw_m1 173 rfl) rfl
theorem q228 : (Jvm.Cond.code ({ cls := "TownOnWeight", name := "house", desc := "()I" } : Jvm.MethodName) prog_1_method_9_code (3 : Nat) (Option.some Jvm.ClassFile.FieldType.int)) ∈ lw_all := lw_g (lw_at lw_m1 174 rfl) rfl
theorem q229 : (Jvm.Cond.methodLink "TownOnWeight" (80 : Nat) ({ cls := "TownOnWeight$Reader", name := "isWhole", desc := "()Z" } : Jvm.MethodName)) ∈ lw_all := lw_g (lw_at lw_m1 175 rfl) rfl
theorem q233 : (Jvm.Cond.methodLink "TownOnWeight" (90 : Nat) ({ cls := "TownOnWeight", name := "made", desc := "(I)LTownOnWeight$House;" } : Jvm.MethodName)) ∈ lw_all := lw_g (lw_at lw_m1 179 rfl) rfl
theorem q234 : (Jvm.Cond.static ({ cls := "TownOnWeight", name := "made", desc := "(I)LTownOnWeight$House;" } : Jvm.MethodName)) ∈ lw_all := lw_g (lw_at lw_m1 180 rfl) rfl
theorem q235 : (Jvm.Cond.code ({ cls := "TownOnWeight", name := "made", desc := "(I)LTownOnWeight$House;" } : Jvm.MethodName) prog_1_method_3_code (1 : Nat) (Option.some (Jvm.ClassFile.FieldType.object "TownOnWeight$House"))) ∈ lw_all := lw_g (lw_at lw_m1 181 rfl) rfl
theorem q237 : (Jvm.Cond.methodLinkNest "TownOnWeight" (3 : Nat) ({ cls := "TownOnWeight$House", name := "<init>", desc := "()V" } : Jvm.MethodName) "TownOnWeight") ∈ lw_tbl := lw_at lw_m1 183 rfl
theorem q241 : (Jvm.Cond.fieldLink "TownOnWeight" (94 : Nat) "TownOnWeight$House" "number" "I") ∈ lw_all := lw_g (lw_at lw_m1 187 rfl) rfl
theorem q242 : (Jvm.Cond.fieldLink "TownOnWeight" (135 : Nat) "TownOnWeight$Clock" "number" "I") ∈ lw_all := lw_g (lw_at lw_m1 188 rfl) rfl
theorem q244 : (Jvm.Cond.fieldLink "TownOnWeight" (136 : Nat) "TownOnWeight$Hungry" "number" "I") ∈ lw_all := lw_g (lw_at lw_m1 190 rfl) rfl
theorem q246 : (Jvm.Cond.fieldLink "TownOnWeight" (137 : Nat) "TownOnWeight$Storing" "number" "I") ∈ lw_all := lw_g (lw_at lw_m1 192 rfl) rfl
theorem q248 : (Jvm.Cond.fieldLink "TownOnWeight" (138 : Nat) "TownOnWeight$Secret" "number" "I") ∈ lw_all := lw_g (lw_at lw_m1 194 rfl) rfl
theorem q250 : (Jvm.Cond.fieldLink "TownOnWeight" (100 : Nat) "TownOnWeight$House" "parent" "I") ∈ lw_all := lw_g (lw_at lw_m1 196 rfl) rfl
theorem q254 : (Jvm.Cond.fieldLink "TownOnWeight" (104 : Nat) "TownOnWeight$House" "told" "[I") ∈ lw_all := lw_g (lw_at lw_m1 200 rfl) rfl
theorem q262 : (Jvm.Cond.classLink "TownOnWeight" (7 : Nat) "TownOnWeight$Clock") ∈ lw_all := lw_g (lw_at lw_m1 208 rfl) rfl
theorem q264 : (Jvm.Cond.methodLinkNest "TownOnWeight" (9 : Nat) ({ cls := "TownOnWeight$Clock", name := "<init>", desc := "()V" } : Jvm.MethodName) "TownOnWeight") ∈ lw_tbl := lw_at lw_m1 210 rfl
theorem q272 : (Jvm.Cond.classLink "TownOnWeight" (10 : Nat) "TownOnWeight$Hungry") ∈ lw_all := lw_g (lw_at lw_m1 218 rfl) rfl
theorem q274 : (Jvm.Cond.methodLinkNest "TownOnWeight" (12 : Nat) ({ cls := "TownOnWeight$Hungry", name := "<init>", desc := "()V" } : Jvm.MethodName) "TownOnWeight") ∈ lw_tbl := lw_at lw_m1 220 rfl
theorem q282 : (Jvm.Cond.classLink "TownOnWeight" (13 : Nat) "TownOnWeight$Storing") ∈ lw_all := lw_g (lw_at lw_m1 228 rfl) rfl
theorem q284 : (Jvm.Cond.methodLinkNest "TownOnWeight" (15 : Nat) ({ cls := "TownOnWeight$Storing", name := "<init>", desc := "()V" } : Jvm.MethodName) "TownOnWeight") ∈ lw_tbl := lw_at lw_m1 230 rfl
theorem q292 : (Jvm.Cond.classLink "TownOnWeight" (16 : Nat) "TownOnWeight$Secret") ∈ lw_all := lw_g (lw_at lw_m1 238 rfl) rfl
theorem q294 : (Jvm.Cond.methodLinkNest "TownOnWeight" (18 : Nat) ({ cls := "TownOnWeight$Secret", name := "<init>", desc := "()V" } : Jvm.MethodName) "TownOnWeight") ∈ lw_tbl := lw_at lw_m2 0 rfl
theorem q302 : (Jvm.Cond.methodLink "TownOnWeight" (105 : Nat) ({ cls := "java/lang/System", name := "arraycopy", desc := "(Ljava/lang/Object;ILjava/lang/Object;II)V" } : Jvm.MethodName)) ∈ lw_all := lw_g (lw_at lw_m2 8 rfl) rfl
theorem q306 : (Jvm.Cond.instanceMethod ({ cls := "TownOnWeight", name := "about", desc := "(II)I" } : Jvm.MethodName)) ∈ lw_all := lw_g (lw_at lw_m2 12 rfl) rfl
theorem q307 : (Jvm.Cond.selects "TownOnWeight" ({ cls := "TownOnWeight", name := "about", desc := "(II)I" } : Jvm.MethodName) ({ cls := "TownOnWeight", name := "about", desc := "(II)I" } : Jvm.MethodName)) ∈ lw_all := lw_g (lw_at lw_m2 13 rfl) rfl
theorem q308 : (Jvm.Cond.code ({ cls := "TownOnWeight", name := "about", desc := "(II)I" } : Jvm.MethodName) prog_1_method_13_code (3 : Nat) (Option.some Jvm.ClassFile.FieldType.int)) ∈ lw_all := lw_g (lw_at lw_m2 14 rfl) rfl
theorem q309 : (Jvm.Cond.methodLink "TownOnWeight" (128 : Nat) ({ cls := "TownOnWeight", name := "isHouse", desc := "(I)Z" } : Jvm.MethodName)) ∈ lw_all := lw_g (lw_at lw_m2 15 rfl) rfl
theorem q310 : (Jvm.Cond.privateMethod ({ cls := "TownOnWeight", name := "isHouse", desc := "(I)Z" } : Jvm.MethodName)) ∈ lw_tbl := lw_at lw_m2 16 rfl
theorem q311 : (Jvm.Cond.instanceMethod ({ cls := "TownOnWeight", name := "isHouse", desc := "(I)Z" } : Jvm.MethodName)) ∈ lw_all := lw_g (lw_at lw_m2 17 rfl) rfl
theorem q312 : (Jvm.Cond.code ({ cls := "TownOnWeight", name := "isHouse", desc := "(I)Z" } : Jvm.MethodName) prog_1_method_10_code (2 : Nat) (Option.some Jvm.ClassFile.FieldType.boolean)) ∈ lw_all := lw_g (lw_at lw_m2 18 rfl) rfl
theorem q313 : (Jvm.Cond.methodLink "TownOnWeight" (117 : Nat) ({ cls := "TownOnWeight", name := "isIn", desc := "(JJJ)Z" } : Jvm.MethodName)) ∈ lw_all := lw_g (lw_at lw_m2 19 rfl) rfl
theorem q314 : (Jvm.Cond.methodLink "TownOnWeight" (131 : Nat) ({ cls := "TownOnWeight", name := "aboutOf", desc := "(II)I" } : Jvm.MethodName)) ∈ lw_all := lw_g (lw_at lw_m2 20 rfl) rfl
theorem q315 : (Jvm.Cond.privateMethod ({ cls := "TownOnWeight", name := "aboutOf", desc := "(II)I" } : Jvm.MethodName)) ∈ lw_tbl := lw_at lw_m2 21 rfl
theorem q316 : (Jvm.Cond.instanceMethod ({ cls := "TownOnWeight", name := "aboutOf", desc := "(II)I" } : Jvm.MethodName)) ∈ lw_all := lw_g (lw_at lw_m2 22 rfl) rfl
theorem q317 : (Jvm.Cond.code ({ cls := "TownOnWeight", name := "aboutOf", desc := "(II)I" } : Jvm.MethodName) prog_1_method_12_code (3 : Nat) (Option.some Jvm.ClassFile.FieldType.int)) ∈ lw_all := lw_g (lw_at lw_m2 23 rfl) rfl
theorem q318 : (Jvm.Cond.methodLink "TownOnWeight" (121 : Nat) ({ cls := "TownOnWeight$House", name := "kind", desc := "()I" } : Jvm.MethodName)) ∈ lw_all := lw_g (lw_at lw_m2 24 rfl) rfl
theorem q336 : (Jvm.Cond.methodLink "TownOnWeight" (124 : Nat) ({ cls := "TownOnWeight", name := "has", desc := "(II)Z" } : Jvm.MethodName)) ∈ lw_all := lw_g (lw_at lw_m2 42 rfl) rfl
theorem q337 : (Jvm.Cond.static ({ cls := "TownOnWeight", name := "has", desc := "(II)Z" } : Jvm.MethodName)) ∈ lw_all := lw_g (lw_at lw_m2 43 rfl) rfl
theorem q338 : (Jvm.Cond.code ({ cls := "TownOnWeight", name := "has", desc := "(II)Z" } : Jvm.MethodName) prog_1_method_2_code (2 : Nat) (Option.some Jvm.ClassFile.FieldType.boolean)) ∈ lw_all := lw_g (lw_at lw_m2 44 rfl) rfl
theorem q340 : (Jvm.Cond.instanceMethod ({ cls := "TownOnWeight", name := "as", desc := "(II)I" } : Jvm.MethodName)) ∈ lw_all := lw_g (lw_at lw_m2 46 rfl) rfl
theorem q341 : (Jvm.Cond.selects "TownOnWeight" ({ cls := "TownOnWeight", name := "as", desc := "(II)I" } : Jvm.MethodName) ({ cls := "TownOnWeight", name := "as", desc := "(II)I" } : Jvm.MethodName)) ∈ lw_all := lw_g (lw_at lw_m2 47 rfl) rfl
theorem q342 : (Jvm.Cond.codeWith ({ cls := "TownOnWeight", name := "as", desc := "(II)I" } : Jvm.MethodName) prog_1_method_15_code (4 : Nat) (Option.some Jvm.ClassFile.FieldType.int) [((26 : Nat), (36 : Nat), (37 : Nat), (145 : Nat))]) ∈ lw_all := lw_g (lw_at lw_m2 48 rfl) rfl
theorem q343 : (Jvm.Cond.classLink "TownOnWeight" (145 : Nat) "java/lang/ClassCastException") ∈ lw_all := lw_g (lw_at lw_m2 49 rfl) rfl
theorem q412 : (Jvm.Cond.constantLong "TownOnWeight" (139 : Nat) (4 : Int64)) ∈ lw_all := lw_g (lw_at lw_m2 118 rfl) rfl
theorem q413 : (Jvm.Cond.methodLink "TownOnWeight" (141 : Nat) ({ cls := "TownOnWeight", name := "castTo", desc := "(Ljava/lang/Object;I)I" } : Jvm.MethodName)) ∈ lw_all := lw_g (lw_at lw_m2 119 rfl) rfl
theorem q414 : (Jvm.Cond.static ({ cls := "TownOnWeight", name := "castTo", desc := "(Ljava/lang/Object;I)I" } : Jvm.MethodName)) ∈ lw_all := lw_g (lw_at lw_m2 120 rfl) rfl
theorem q415 : (Jvm.Cond.code ({ cls := "TownOnWeight", name := "castTo", desc := "(Ljava/lang/Object;I)I" } : Jvm.MethodName) prog_1_method_14_code (2 : Nat) (Option.some Jvm.ClassFile.FieldType.int)) ∈ lw_all := lw_g (lw_at lw_m2 121 rfl) rfl
theorem q417 : (Jvm.Cond.instanceMethod ({ cls := "TownOnWeight", name := "length", desc := "(I)I" } : Jvm.MethodName)) ∈ lw_all := lw_g (lw_at lw_m2 123 rfl) rfl
theorem q418 : (Jvm.Cond.selects "TownOnWeight" ({ cls := "TownOnWeight", name := "length", desc := "(I)I" } : Jvm.MethodName) ({ cls := "TownOnWeight", name := "length", desc := "(I)I" } : Jvm.MethodName)) ∈ lw_all := lw_g (lw_at lw_m2 124 rfl) rfl
theorem q419 : (Jvm.Cond.code ({ cls := "TownOnWeight", name := "length", desc := "(I)I" } : Jvm.MethodName) prog_1_method_16_code (3 : Nat) (Option.some Jvm.ClassFile.FieldType.int)) ∈ lw_all := lw_g (lw_at lw_m2 125 rfl) rfl
theorem q420 : (Jvm.Cond.constantLong "TownOnWeight" (147 : Nat) (99 : Int64)) ∈ lw_all := lw_g (lw_at lw_m2 126 rfl) rfl
theorem q422 : (Jvm.Cond.instanceMethod ({ cls := "TownOnWeight", name := "brake", desc := "(IZ)I" } : Jvm.MethodName)) ∈ lw_all := lw_g (lw_at lw_m2 128 rfl) rfl
theorem q423 : (Jvm.Cond.selects "TownOnWeight" ({ cls := "TownOnWeight", name := "brake", desc := "(IZ)I" } : Jvm.MethodName) ({ cls := "TownOnWeight", name := "brake", desc := "(IZ)I" } : Jvm.MethodName)) ∈ lw_all := lw_g (lw_at lw_m2 129 rfl) rfl
theorem q424 : (Jvm.Cond.code ({ cls := "TownOnWeight", name := "brake", desc := "(IZ)I" } : Jvm.MethodName) prog_1_method_17_code (4 : Nat) (Option.some Jvm.ClassFile.FieldType.int)) ∈ lw_all := lw_g (lw_at lw_m2 130 rfl) rfl
theorem q426 : (Jvm.Cond.instanceMethod ({ cls := "TownOnWeight", name := "rain", desc := "(Z)I" } : Jvm.MethodName)) ∈ lw_all := lw_g (lw_at lw_m2 132 rfl) rfl
theorem q427 : (Jvm.Cond.selects "TownOnWeight" ({ cls := "TownOnWeight", name := "rain", desc := "(Z)I" } : Jvm.MethodName) ({ cls := "TownOnWeight", name := "rain", desc := "(Z)I" } : Jvm.MethodName)) ∈ lw_all := lw_g (lw_at lw_m2 133 rfl) rfl
theorem q428 : (Jvm.Cond.code ({ cls := "TownOnWeight", name := "rain", desc := "(Z)I" } : Jvm.MethodName) prog_1_method_18_code (3 : Nat) (Option.some Jvm.ClassFile.FieldType.int)) ∈ lw_all := lw_g (lw_at lw_m2 134 rfl) rfl
theorem q430 : (Jvm.Cond.instanceMethod ({ cls := "TownOnWeight", name := "wants", desc := "(I)I" } : Jvm.MethodName)) ∈ lw_all := lw_g (lw_at lw_m2 136 rfl) rfl
theorem q431 : (Jvm.Cond.selects "TownOnWeight" ({ cls := "TownOnWeight", name := "wants", desc := "(I)I" } : Jvm.MethodName) ({ cls := "TownOnWeight", name := "wants", desc := "(I)I" } : Jvm.MethodName)) ∈ lw_all := lw_g (lw_at lw_m2 137 rfl) rfl
theorem q432 : (Jvm.Cond.code ({ cls := "TownOnWeight", name := "wants", desc := "(I)I" } : Jvm.MethodName) prog_1_method_20_code (2 : Nat) (Option.some Jvm.ClassFile.FieldType.int)) ∈ lw_all := lw_g (lw_at lw_m2 138 rfl) rfl
theorem q433 : (Jvm.Cond.methodLink "TownOnWeight" (169 : Nat) ({ cls := "TownOnWeight", name := "wantsOf", desc := "(LTownOnWeight$Day;I)I" } : Jvm.MethodName)) ∈ lw_all := lw_g (lw_at lw_m2 139 rfl) rfl
theorem q434 : (Jvm.Cond.privateMethod ({ cls := "TownOnWeight", name := "wantsOf", desc := "(LTownOnWeight$Day;I)I" } : Jvm.MethodName)) ∈ lw_tbl := lw_at lw_m2 140 rfl
theorem q435 : (Jvm.Cond.instanceMethod ({ cls := "TownOnWeight", name := "wantsOf", desc := "(LTownOnWeight$Day;I)I" } : Jvm.MethodName)) ∈ lw_all := lw_g (lw_at lw_m2 141 rfl) rfl
theorem q436 : (Jvm.Cond.code ({ cls := "TownOnWeight", name := "wantsOf", desc := "(LTownOnWeight$Day;I)I" } : Jvm.MethodName) prog_1_method_19_code (4 : Nat) (Option.some Jvm.ClassFile.FieldType.int)) ∈ lw_all := lw_g (lw_at lw_m2 142 rfl) rfl
theorem q437 : (Jvm.Cond.methodLink "TownOnWeight" (159 : Nat) ({ cls := "TownOnWeight$House", name := "isOpen", desc := "(I)Z" } : Jvm.MethodName)) ∈ lw_all := lw_g (lw_at lw_m2 143 rfl) rfl
theorem q446 : (Jvm.Cond.methodLink "TownOnWeight" (165 : Nat) ({ cls := "TownOnWeight$House", name := "feet", desc := "(IZ)I" } : Jvm.MethodName)) ∈ lw_all := lw_g (lw_at lw_m2 152 rfl) rfl
theorem q462 : (Jvm.Cond.instanceMethod ({ cls := "TownOnWeight", name := "goes", desc := "(I)I" } : Jvm.MethodName)) ∈ lw_all := lw_g (lw_at lw_m2 168 rfl) rfl
theorem q463 : (Jvm.Cond.selects "TownOnWeight" ({ cls := "TownOnWeight", name := "goes", desc := "(I)I" } : Jvm.MethodName) ({ cls := "TownOnWeight", name := "goes", desc := "(I)I" } : Jvm.MethodName)) ∈ lw_all := lw_g (lw_at lw_m2 169 rfl) rfl
theorem q464 : (Jvm.Cond.code ({ cls := "TownOnWeight", name := "goes", desc := "(I)I" } : Jvm.MethodName) prog_1_method_24_code (2 : Nat) (Option.some Jvm.ClassFile.FieldType.int)) ∈ lw_all := lw_g (lw_at lw_m2 170 rfl) rfl
theorem q465 : (Jvm.Cond.methodLink "TownOnWeight" (185 : Nat) ({ cls := "TownOnWeight", name := "isSet", desc := "(I)Z" } : Jvm.MethodName)) ∈ lw_all := lw_g (lw_at lw_m2 171 rfl) rfl
theorem q466 : (Jvm.Cond.privateMethod ({ cls := "TownOnWeight", name := "isSet", desc := "(I)Z" } : Jvm.MethodName)) ∈ lw_tbl := lw_at lw_m2 172 rfl
theorem q467 : (Jvm.Cond.instanceMethod ({ cls := "TownOnWeight", name := "isSet", desc := "(I)Z" } : Jvm.MethodName)) ∈ lw_all := lw_g (lw_at lw_m2 173 rfl) rfl
theorem q468 : (Jvm.Cond.code ({ cls := "TownOnWeight", name := "isSet", desc := "(I)Z" } : Jvm.MethodName) prog_1_method_11_code (2 : Nat) (Option.some Jvm.ClassFile.FieldType.boolean)) ∈ lw_all := lw_g (lw_at lw_m2 174 rfl) rfl
theorem q469 : (Jvm.Cond.methodLink "TownOnWeight" (188 : Nat) ({ cls := "TownOnWeight", name := "goesBy", desc := "(LTownOnWeight$Day;I)I" } : Jvm.MethodName)) ∈ lw_all := lw_g (lw_at lw_m2 175 rfl) rfl
theorem q470 : (Jvm.Cond.privateMethod ({ cls := "TownOnWeight", name := "goesBy", desc := "(LTownOnWeight$Day;I)I" } : Jvm.MethodName)) ∈ lw_tbl := lw_at lw_m2 176 rfl
theorem q471 : (Jvm.Cond.instanceMethod ({ cls := "TownOnWeight", name := "goesBy", desc := "(LTownOnWeight$Day;I)I" } : Jvm.MethodName)) ∈ lw_all := lw_g (lw_at lw_m2 177 rfl) rfl
theorem q472 : (Jvm.Cond.code ({ cls := "TownOnWeight", name := "goesBy", desc := "(LTownOnWeight$Day;I)I" } : Jvm.MethodName) prog_1_method_23_code (7 : Nat) (Option.some Jvm.ClassFile.FieldType.int)) ∈ lw_all := lw_g (lw_at lw_m2 178 rfl) rfl
theorem q473 : (Jvm.Cond.methodLink "TownOnWeight" (173 : Nat) ({ cls := "TownOnWeight", name := "wanting", desc := "(LTownOnWeight$Day;)I" } : Jvm.MethodName)) ∈ lw_all := lw_g (lw_at lw_m2 179 rfl) rfl
theorem q474 : (Jvm.Cond.privateMethod ({ cls := "TownOnWeight", name := "wanting", desc := "(LTownOnWeight$Day;)I" } : Jvm.MethodName)) ∈ lw_tbl := lw_at lw_m2 180 rfl
theorem q475 : (Jvm.Cond.instanceMethod ({ cls := "TownOnWeight", name := "wanting", desc := "(LTownOnWeight$Day;)I" } : Jvm.MethodName)) ∈ lw_all := lw_g (lw_at lw_m2 181 rfl) rfl
theorem q476 : (Jvm.Cond.code ({ cls := "TownOnWeight", name := "wanting", desc := "(LTownOnWeight$Day;)I" } : Jvm.MethodName) prog_1_method_22_code (4 : Nat) (Option.some Jvm.ClassFile.FieldType.int)) ∈ lw_all := lw_g (lw_at lw_m2 182 rfl) rfl
theorem q477 : (Jvm.Cond.methodLink "TownOnWeight" (177 : Nat) ({ cls := "TownOnWeight", name := "through", desc := "(I)I" } : Jvm.MethodName)) ∈ lw_all := lw_g (lw_at lw_m2 183 rfl) rfl
theorem q478 : (Jvm.Cond.privateMethod ({ cls := "TownOnWeight", name := "through", desc := "(I)I" } : Jvm.MethodName)) ∈ lw_tbl := lw_at lw_m2 184 rfl
theorem q479 : (Jvm.Cond.instanceMethod ({ cls := "TownOnWeight", name := "through", desc := "(I)I" } : Jvm.MethodName)) ∈ lw_all := lw_g (lw_at lw_m2 185 rfl) rfl
theorem q480 : (Jvm.Cond.code ({ cls := "TownOnWeight", name := "through", desc := "(I)I" } : Jvm.MethodName) prog_1_method_21_code (4 : Nat) (Option.some Jvm.ClassFile.FieldType.int)) ∈ lw_all := lw_g (lw_at lw_m2 186 rfl) rfl
theorem q481 : (Jvm.Cond.methodLink "TownOnWeight" (181 : Nat) ({ cls := "TownOnWeight$House", name := "loses", desc := "(Z)I" } : Jvm.MethodName)) ∈ lw_all := lw_g (lw_at lw_m2 187 rfl) rfl
theorem q493 : (Jvm.Cond.instanceMethod ({ cls := "TownOnWeight", name := "hour", desc := "()I" } : Jvm.MethodName)) ∈ lw_all := lw_g (lw_at lw_m2 199 rfl) rfl
theorem q494 : (Jvm.Cond.selects "TownOnWeight" ({ cls := "TownOnWeight", name := "hour", desc := "()I" } : Jvm.MethodName) ({ cls := "TownOnWeight", name := "hour", desc := "()I" } : Jvm.MethodName)) ∈ lw_all := lw_g (lw_at lw_m2 200 rfl) rfl
theorem q495 : (Jvm.Cond.code ({ cls := "TownOnWeight", name := "hour", desc := "()I" } : Jvm.MethodName) prog_1_method_27_code (1 : Nat) (Option.some Jvm.ClassFile.FieldType.int)) ∈ lw_all := lw_g (lw_at lw_m2 201 rfl) rfl
theorem q496 : (Jvm.Cond.methodLink "TownOnWeight" (203 : Nat) ({ cls := "TownOnWeight$Day", name := "isOver", desc := "()Z" } : Jvm.MethodName)) ∈ lw_all := lw_g (lw_at lw_m2 202 rfl) rfl
theorem q500 : (Jvm.Cond.methodLink "TownOnWeight" (206 : Nat) ({ cls := "TownOnWeight", name := "pass", desc := "(LTownOnWeight$Day;)I" } : Jvm.MethodName)) ∈ lw_all := lw_g (lw_at lw_m2 206 rfl) rfl
theorem q501 : (Jvm.Cond.privateMethod ({ cls := "TownOnWeight", name := "pass", desc := "(LTownOnWeight$Day;)I" } : Jvm.MethodName)) ∈ lw_tbl := lw_at lw_m2 207 rfl
theorem q502 : (Jvm.Cond.instanceMethod ({ cls := "TownOnWeight", name := "pass", desc := "(LTownOnWeight$Day;)I" } : Jvm.MethodName)) ∈ lw_all := lw_g (lw_at lw_m2 208 rfl) rfl
theorem q503 : (Jvm.Cond.code ({ cls := "TownOnWeight", name := "pass", desc := "(LTownOnWeight$Day;)I" } : Jvm.MethodName) prog_1_method_26_code (6 : Nat) (Option.some Jvm.ClassFile.FieldType.int)) ∈ lw_all := lw_g (lw_at lw_m2 209 rfl) rfl
theorem q504 : (Jvm.Cond.methodLink "TownOnWeight" (194 : Nat) ({ cls := "TownOnWeight", name := "lastToStop", desc := "(I)I" } : Jvm.MethodName)) ∈ lw_all := lw_g (lw_at lw_m2 210 rfl) rfl
theorem q505 : (Jvm.Cond.privateMethod ({ cls := "TownOnWeight", name := "lastToStop", desc := "(I)I" } : Jvm.MethodName)) ∈ lw_tbl := lw_at lw_m2 211 rfl
theorem q506 : (Jvm.Cond.instanceMethod ({ cls := "TownOnWeight", name := "lastToStop", desc := "(I)I" } : Jvm.MethodName)) ∈ lw_all := lw_g (lw_at lw_m2 212 rfl) rfl
theorem q507 : (Jvm.Cond.code ({ cls := "TownOnWeight", name := "lastToStop", desc := "(I)I" } : Jvm.MethodName) prog_1_method_25_code (4 : Nat) (Option.some Jvm.ClassFile.FieldType.int)) ∈ lw_all := lw_g (lw_at lw_m2 213 rfl) rfl
theorem q520 : (Jvm.Cond.instanceMethod ({ cls := "TownOnWeight", name := "worked", desc := "()I" } : Jvm.MethodName)) ∈ lw_all := lw_g (lw_at lw_m2 226 rfl) rfl
theorem q521 : (Jvm.Cond.selects "TownOnWeight" ({ cls := "TownOnWeight", name := "worked", desc := "()I" } : Jvm.MethodName) ({ cls := "TownOnWeight", name := "worked", desc := "()I" } : Jvm.MethodName)) ∈ lw_all := lw_g (lw_at lw_m2 227 rfl) rfl
theorem q522 : (Jvm.Cond.code ({ cls := "TownOnWeight", name := "worked", desc := "()I" } : Jvm.MethodName) prog_1_method_28_code (1 : Nat) (Option.some Jvm.ClassFile.FieldType.int)) ∈ lw_all := lw_g (lw_at lw_m2 228 rfl) rfl
theorem q524 : (Jvm.Cond.instanceMethod ({ cls := "TownOnWeight", name := "part", desc := "(I)I" } : Jvm.MethodName)) ∈ lw_all := lw_g (lw_at lw_m2 230 rfl) rfl
theorem q525 : (Jvm.Cond.selects "TownOnWeight" ({ cls := "TownOnWeight", name := "part", desc := "(I)I" } : Jvm.MethodName) ({ cls := "TownOnWeight", name := "part", desc := "(I)I" } : Jvm.MethodName)) ∈ lw_all := lw_g (lw_at lw_m2 231 rfl) rfl
theorem q526 : (Jvm.Cond.code ({ cls := "TownOnWeight", name := "part", desc := "(I)I" } : Jvm.MethodName) prog_1_method_30_code (2 : Nat) (Option.some Jvm.ClassFile.FieldType.int)) ∈ lw_all := lw_g (lw_at lw_m2 232 rfl) rfl
theorem q527 : (Jvm.Cond.methodLink "TownOnWeight" (212 : Nat) ({ cls := "TownOnWeight", name := "partOf", desc := "(I)I" } : Jvm.MethodName)) ∈ lw_all := lw_g (lw_at lw_m2 233 rfl) rfl
theorem q528 : (Jvm.Cond.privateMethod ({ cls := "TownOnWeight", name := "partOf", desc := "(I)I" } : Jvm.MethodName)) ∈ lw_tbl := lw_at lw_m2 234 rfl
theorem q529 : (Jvm.Cond.instanceMethod ({ cls := "TownOnWeight", name := "partOf", desc := "(I)I" } : Jvm.MethodName)) ∈ lw_all := lw_g (lw_at lw_m2 235 rfl) rfl
theorem q530 : (Jvm.Cond.code ({ cls := "TownOnWeight", name := "partOf", desc := "(I)I" } : Jvm.MethodName) prog_1_method_29_code (9 : Nat) (Option.some Jvm.ClassFile.FieldType.int)) ∈ lw_all := lw_g (lw_at lw_m2 236 rfl) rfl
theorem q531 : (Jvm.Cond.methodLink "TownOnWeight" (209 : Nat) ({ cls := "TownOnWeight$Day", name := "all", desc := "()I" } : Jvm.MethodName)) ∈ lw_all := lw_g (lw_at lw_m2 237 rfl) rfl
theorem q536 : (Jvm.Cond.instanceMethod ({ cls := "TownOnWeight", name := "night", desc := "()I" } : Jvm.MethodName)) ∈ lw_all := lw_g (lw_at lw_m3 2 rfl) rfl
theorem q537 : (Jvm.Cond.selects "TownOnWeight" ({ cls := "TownOnWeight", name := "night", desc := "()I" } : Jvm.MethodName) ({ cls := "TownOnWeight", name := "night", desc := "()I" } : Jvm.MethodName)) ∈ lw_all := lw_g (lw_at lw_m3 3 rfl) rfl
theorem q538 : (Jvm.Cond.code ({ cls := "TownOnWeight", name := "night", desc := "()I" } : Jvm.MethodName) prog_1_method_31_code (3 : Nat) (Option.some Jvm.ClassFile.FieldType.int)) ∈ lw_all := lw_g (lw_at lw_m3 4 rfl) rfl
theorem q539 : (Jvm.Cond.methodLink "TownOnWeight" (215 : Nat) ({ cls := "java/lang/Math", name := "min", desc := "(II)I" } : Jvm.MethodName)) ∈ lw_all := lw_g (lw_at lw_m3 5 rfl) rfl
theorem q543 : (Jvm.Cond.instanceMethod ({ cls := "TownOnWeight", name := "plan", desc := "(I)I" } : Jvm.MethodName)) ∈ lw_all := lw_g (lw_at lw_m3 9 rfl) rfl
theorem q544 : (Jvm.Cond.selects "TownOnWeight" ({ cls := "TownOnWeight", name := "plan", desc := "(I)I" } : Jvm.MethodName) ({ cls := "TownOnWeight", name := "plan", desc := "(I)I" } : Jvm.MethodName)) ∈ lw_all := lw_g (lw_at lw_m3 10 rfl) rfl
theorem q545 : (Jvm.Cond.code ({ cls := "TownOnWeight", name := "plan", desc := "(I)I" } : Jvm.MethodName) prog_1_method_35_code (2 : Nat) (Option.some Jvm.ClassFile.FieldType.int)) ∈ lw_all := lw_g (lw_at lw_m3 11 rfl) rfl
theorem q546 : (Jvm.Cond.methodLink "TownOnWeight" (235 : Nat) ({ cls := "TownOnWeight", name := "planOf", desc := "(I)I" } : Jvm.MethodName)) ∈ lw_all := lw_g (lw_at lw_m3 12 rfl) rfl
theorem q547 : (Jvm.Cond.privateMethod ({ cls := "TownOnWeight", name := "planOf", desc := "(I)I" } : Jvm.MethodName)) ∈ lw_tbl := lw_at lw_m3 13 rfl
theorem q548 : (Jvm.Cond.instanceMethod ({ cls := "TownOnWeight", name := "planOf", desc := "(I)I" } : Jvm.MethodName)) ∈ lw_all := lw_g (lw_at lw_m3 14 rfl) rfl
theorem q549 : (Jvm.Cond.code ({ cls := "TownOnWeight", name := "planOf", desc := "(I)I" } : Jvm.MethodName) prog_1_method_34_code (6 : Nat) (Option.some Jvm.ClassFile.FieldType.int)) ∈ lw_all := lw_g (lw_at lw_m3 15 rfl) rfl
theorem q550 : (Jvm.Cond.methodLink "TownOnWeight" (227 : Nat) ({ cls := "TownOnWeight", name := "takenBy", desc := "(II)I" } : Jvm.MethodName)) ∈ lw_all := lw_g (lw_at lw_m3 16 rfl) rfl
theorem q551 : (Jvm.Cond.privateMethod ({ cls := "TownOnWeight", name := "takenBy", desc := "(II)I" } : Jvm.MethodName)) ∈ lw_tbl := lw_at lw_m3 17 rfl
theorem q552 : (Jvm.Cond.instanceMethod ({ cls := "TownOnWeight", name := "takenBy", desc := "(II)I" } : Jvm.MethodName)) ∈ lw_all := lw_g (lw_at lw_m3 18 rfl) rfl
theorem q553 : (Jvm.Cond.code ({ cls := "TownOnWeight", name := "takenBy", desc := "(II)I" } : Jvm.MethodName) prog_1_method_33_code (3 : Nat) (Option.some Jvm.ClassFile.FieldType.int)) ∈ lw_all := lw_g (lw_at lw_m3 19 rfl) rfl
theorem q554 : (Jvm.Cond.methodLink "TownOnWeight" (220 : Nat) ({ cls := "TownOnWeight$Day", name := "like", desc := "(LTownOnWeight$Day;)V" } : Jvm.MethodName)) ∈ lw_all := lw_g (lw_at lw_m3 20 rfl) rfl
theorem q559 : (Jvm.Cond.methodLink "TownOnWeight" (224 : Nat) ({ cls := "TownOnWeight", name := "restOf", desc := "()I" } : Jvm.MethodName)) ∈ lw_all := lw_g (lw_at lw_m3 25 rfl) rfl
theorem q560 : (Jvm.Cond.privateMethod ({ cls := "TownOnWeight", name := "restOf", desc := "()I" } : Jvm.MethodName)) ∈ lw_tbl := lw_at lw_m3 26 rfl
theorem q561 : (Jvm.Cond.instanceMethod ({ cls := "TownOnWeight", name := "restOf", desc := "()I" } : Jvm.MethodName)) ∈ lw_all := lw_g (lw_at lw_m3 27 rfl) rfl
theorem q562 : (Jvm.Cond.code ({ cls := "TownOnWeight", name := "restOf", desc := "()I" } : Jvm.MethodName) prog_1_method_32_code (3 : Nat) (Option.some Jvm.ClassFile.FieldType.int)) ∈ lw_all := lw_g (lw_at lw_m3 28 rfl) rfl
theorem q563 : (Jvm.Cond.methodLink "TownOnWeight" (230 : Nat) ({ cls := "java/lang/Integer", name := "bitCount", desc := "(I)I" } : Jvm.MethodName)) ∈ lw_all := lw_g (lw_at lw_m3 29 rfl) rfl
theorem q570 : (Jvm.Cond.instanceMethod ({ cls := "TownOnWeight", name := "more", desc := "(I)I" } : Jvm.MethodName)) ∈ lw_all := lw_g (lw_at lw_m3 36 rfl) rfl
theorem q571 : (Jvm.Cond.selects "TownOnWeight" ({ cls := "TownOnWeight", name := "more", desc := "(I)I" } : Jvm.MethodName) ({ cls := "TownOnWeight", name := "more", desc := "(I)I" } : Jvm.MethodName)) ∈ lw_all := lw_g (lw_at lw_m3 37 rfl) rfl
theorem q572 : (Jvm.Cond.code ({ cls := "TownOnWeight", name := "more", desc := "(I)I" } : Jvm.MethodName) prog_1_method_37_code (2 : Nat) (Option.some Jvm.ClassFile.FieldType.int)) ∈ lw_all := lw_g (lw_at lw_m3 38 rfl) rfl
theorem q573 : (Jvm.Cond.methodLink "TownOnWeight" (238 : Nat) ({ cls := "TownOnWeight", name := "moreOf", desc := "(I)I" } : Jvm.MethodName)) ∈ lw_all := lw_g (lw_at lw_m3 39 rfl) rfl
theorem q574 : (Jvm.Cond.privateMethod ({ cls := "TownOnWeight", name := "moreOf", desc := "(I)I" } : Jvm.MethodName)) ∈ lw_tbl := lw_at lw_m3 40 rfl
theorem q575 : (Jvm.Cond.instanceMethod ({ cls := "TownOnWeight", name := "moreOf", desc := "(I)I" } : Jvm.MethodName)) ∈ lw_all := lw_g (lw_at lw_m3 41 rfl) rfl
theorem q576 : (Jvm.Cond.code ({ cls := "TownOnWeight", name := "moreOf", desc := "(I)I" } : Jvm.MethodName) prog_1_method_36_code (2 : Nat) (Option.some Jvm.ClassFile.FieldType.int)) ∈ lw_all := lw_g (lw_at lw_m3 42 rfl) rfl
theorem q578 : (Jvm.Cond.instanceMethod ({ cls := "TownOnWeight", name := "missing", desc := "(II)I" } : Jvm.MethodName)) ∈ lw_all := lw_g (lw_at lw_m3 44 rfl) rfl
theorem q579 : (Jvm.Cond.selects "TownOnWeight" ({ cls := "TownOnWeight", name := "missing", desc := "(II)I" } : Jvm.MethodName) ({ cls := "TownOnWeight", name := "missing", desc := "(II)I" } : Jvm.MethodName)) ∈ lw_all := lw_g (lw_at lw_m3 45 rfl) rfl
theorem q580 : (Jvm.Cond.code ({ cls := "TownOnWeight", name := "missing", desc := "(II)I" } : Jvm.MethodName) prog_1_method_40_code (3 : Nat) (Option.some Jvm.ClassFile.FieldType.int)) ∈ lw_all := lw_g (lw_at lw_m3 46 rfl) rfl
theorem q581 : (Jvm.Cond.constantLong "TownOnWeight" (244 : Nat) (72 : Int64)) ∈ lw_all := lw_g (lw_at lw_m3 47 rfl) rfl
theorem q582 : (Jvm.Cond.constantLong "TownOnWeight" (246 : Nat) (2 : Int64)) ∈ lw_all := lw_g (lw_at lw_m3 48 rfl) rfl
theorem q583 : (Jvm.Cond.methodLink "TownOnWeight" (248 : Nat) ({ cls := "TownOnWeight", name := "missingOf", desc := "(II)I" } : Jvm.MethodName)) ∈ lw_all := lw_g (lw_at lw_m3 49 rfl) rfl
theorem q584 : (Jvm.Cond.privateMethod ({ cls := "TownOnWeight", name := "missingOf", desc := "(II)I" } : Jvm.MethodName)) ∈ lw_tbl := lw_at lw_m3 50 rfl
theorem q585 : (Jvm.Cond.instanceMethod ({ cls := "TownOnWeight", name := "missingOf", desc := "(II)I" } : Jvm.MethodName)) ∈ lw_all := lw_g (lw_at lw_m3 51 rfl) rfl
theorem q586 : (Jvm.Cond.code ({ cls := "TownOnWeight", name := "missingOf", desc := "(II)I" } : Jvm.MethodName) prog_1_method_39_code (8 : Nat) (Option.some Jvm.ClassFile.FieldType.int)) ∈ lw_all := lw_g (lw_at lw_m3 52 rfl) rfl
theorem q587 : (Jvm.Cond.methodLink "TownOnWeight" (241 : Nat) ({ cls := "TownOnWeight", name := "takesOf", desc := "(I)I" } : Jvm.MethodName)) ∈ lw_all := lw_g (lw_at lw_m3 53 rfl) rfl
theorem q588 : (Jvm.Cond.privateMethod ({ cls := "TownOnWeight", name := "takesOf", desc := "(I)I" } : Jvm.MethodName)) ∈ lw_tbl := lw_at lw_m3 54 rfl
theorem q589 : (Jvm.Cond.instanceMethod ({ cls := "TownOnWeight", name := "takesOf", desc := "(I)I" } : Jvm.MethodName)) ∈ lw_all := lw_g (lw_at lw_m3 55 rfl) rfl
theorem q590 : (Jvm.Cond.code ({ cls := "TownOnWeight", name := "takesOf", desc := "(I)I" } : Jvm.MethodName) prog_1_method_38_code (4 : Nat) (Option.some Jvm.ClassFile.FieldType.int)) ∈ lw_all := lw_g (lw_at lw_m3 56 rfl) rfl
theorem q592 : (Jvm.Cond.instanceMethod ({ cls := "TownOnWeight", name := "rest", desc := "(II)I" } : Jvm.MethodName)) ∈ lw_all := lw_g (lw_at lw_m3 58 rfl) rfl
theorem q593 : (Jvm.Cond.selects "TownOnWeight" ({ cls := "TownOnWeight", name := "rest", desc := "(II)I" } : Jvm.MethodName) ({ cls := "TownOnWeight", name := "rest", desc := "(II)I" } : Jvm.MethodName)) ∈ lw_all := lw_g (lw_at lw_m3 59 rfl) rfl
theorem q594 : (Jvm.Cond.code ({ cls := "TownOnWeight", name := "rest", desc := "(II)I" } : Jvm.MethodName) prog_1_method_42_code (3 : Nat) (Option.some Jvm.ClassFile.FieldType.int)) ∈ lw_all := lw_g (lw_at lw_m3 60 rfl) rfl
theorem q595 : (Jvm.Cond.constantLong "TownOnWeight" (258 : Nat) (3 : Int64)) ∈ lw_all := lw_g (lw_at lw_m3 61 rfl) rfl
theorem q596 : (Jvm.Cond.methodLink "TownOnWeight" (260 : Nat) ({ cls := "TownOnWeight", name := "restBy", desc := "(II)I" } : Jvm.MethodName)) ∈ lw_all := lw_g (lw_at lw_m3 62 rfl) rfl
theorem q597 : (Jvm.Cond.privateMethod ({ cls := "TownOnWeight", name := "restBy", desc := "(II)I" } : Jvm.MethodName)) ∈ lw_tbl := lw_at lw_m3 63 rfl
theorem q598 : (Jvm.Cond.instanceMethod ({ cls := "TownOnWeight", name := "restBy", desc := "(II)I" } : Jvm.MethodName)) ∈ lw_all := lw_g (lw_at lw_m3 64 rfl) rfl
theorem q599 : (Jvm.Cond.code ({ cls := "TownOnWeight", name := "restBy", desc := "(II)I" } : Jvm.MethodName) prog_1_method_41_code (8 : Nat) (Option.some Jvm.ClassFile.FieldType.int)) ∈ lw_all := lw_g (lw_at lw_m3 65 rfl) rfl
theorem q600 : (Jvm.Cond.constantLong "TownOnWeight" (251 : Nat) (1103515245 : Int64)) ∈ lw_all := lw_g (lw_at lw_m3 66 rfl) rfl
theorem q601 : (Jvm.Cond.constantLong "TownOnWeight" (253 : Nat) (12345 : Int64)) ∈ lw_all := lw_g (lw_at lw_m3 67 rfl) rfl
theorem q602 : (Jvm.Cond.constantLong "TownOnWeight" (255 : Nat) (2147483647 : Int64)) ∈ lw_all := lw_g (lw_at lw_m3 68 rfl) rfl
theorem q603 : (Jvm.Cond.constant "TownOnWeight" (257 : Nat) (65536 : Int32)) ∈ lw_all := lw_g (lw_at lw_m3 69 rfl) rfl
theorem q605 : (Jvm.Cond.instanceMethod ({ cls := "TownOnWeight", name := "read", desc := "(II)I" } : Jvm.MethodName)) ∈ lw_all := lw_g (lw_at lw_m3 71 rfl) rfl
theorem q606 : (Jvm.Cond.selects "TownOnWeight" ({ cls := "TownOnWeight", name := "read", desc := "(II)I" } : Jvm.MethodName) ({ cls := "TownOnWeight", name := "read", desc := "(II)I" } : Jvm.MethodName)) ∈ lw_all := lw_g (lw_at lw_m3 72 rfl) rfl
theorem q607 : (Jvm.Cond.code ({ cls := "TownOnWeight", name := "read", desc := "(II)I" } : Jvm.MethodName) prog_1_method_43_code (3 : Nat) (Option.some Jvm.ClassFile.FieldType.int)) ∈ lw_all := lw_g (lw_at lw_m3 73 rfl) rfl
theorem q608 : (Jvm.Cond.constantLong "TownOnWeight" (263 : Nat) (199 : Int64)) ∈ lw_all := lw_g (lw_at lw_m3 74 rfl) rfl
theorem q610 : (Jvm.Cond.instanceMethod ({ cls := "TownOnWeight", name := "wipe", desc := "()I" } : Jvm.MethodName)) ∈ lw_all := lw_g (lw_at lw_m3 76 rfl) rfl
theorem q611 : (Jvm.Cond.selects "TownOnWeight" ({ cls := "TownOnWeight", name := "wipe", desc := "()I" } : Jvm.MethodName) ({ cls := "TownOnWeight", name := "wipe", desc := "()I" } : Jvm.MethodName)) ∈ lw_all := lw_g (lw_at lw_m3 77 rfl) rfl
theorem q612 : (Jvm.Cond.code ({ cls := "TownOnWeight", name := "wipe", desc := "()I" } : Jvm.MethodName) prog_1_method_44_code (2 : Nat) (Option.some Jvm.ClassFile.FieldType.int)) ∈ lw_all := lw_g (lw_at lw_m3 78 rfl) rfl
theorem q614 : (Jvm.Cond.instanceMethod ({ cls := "TownOnWeight", name := "leaks", desc := "()I" } : Jvm.MethodName)) ∈ lw_all := lw_g (lw_at lw_m3 80 rfl) rfl
theorem q615 : (Jvm.Cond.selects "TownOnWeight" ({ cls := "TownOnWeight", name := "leaks", desc := "()I" } : Jvm.MethodName) ({ cls := "TownOnWeight", name := "leaks", desc := "()I" } : Jvm.MethodName)) ∈ lw_all := lw_g (lw_at lw_m3 81 rfl) rfl
theorem q616 : (Jvm.Cond.code ({ cls := "TownOnWeight", name := "leaks", desc := "()I" } : Jvm.MethodName) prog_1_method_49_code (1 : Nat) (Option.some Jvm.ClassFile.FieldType.int)) ∈ lw_all := lw_g (lw_at lw_m3 82 rfl) rfl
theorem q617 : (Jvm.Cond.methodLink "TownOnWeight" (277 : Nat) ({ cls := "TownOnWeight", name := "leaksOf", desc := "()I" } : Jvm.MethodName)) ∈ lw_all := lw_g (lw_at lw_m3 83 rfl) rfl
theorem q618 : (Jvm.Cond.privateMethod ({ cls := "TownOnWeight", name := "leaksOf", desc := "()I" } : Jvm.MethodName)) ∈ lw_tbl := lw_at lw_m3 84 rfl
theorem q619 : (Jvm.Cond.instanceMethod ({ cls := "TownOnWeight", name := "leaksOf", desc := "()I" } : Jvm.MethodName)) ∈ lw_all := lw_g (lw_at lw_m3 85 rfl) rfl
theorem q620 : (Jvm.Cond.code ({ cls := "TownOnWeight", name := "leaksOf", desc := "()I" } : Jvm.MethodName) prog_1_method_48_code (3 : Nat) (Option.some Jvm.ClassFile.FieldType.int)) ∈ lw_all := lw_g (lw_at lw_m3 86 rfl) rfl
theorem q621 : (Jvm.Cond.methodLink "TownOnWeight" (274 : Nat) ({ cls := "TownOnWeight", name := "leakOf", desc := "(I)I" } : Jvm.MethodName)) ∈ lw_all := lw_g (lw_at lw_m3 87 rfl) rfl
theorem q622 : (Jvm.Cond.privateMethod ({ cls := "TownOnWeight", name := "leakOf", desc := "(I)I" } : Jvm.MethodName)) ∈ lw_tbl := lw_at lw_m3 88 rfl
theorem q623 : (Jvm.Cond.instanceMethod ({ cls := "TownOnWeight", name := "leakOf", desc := "(I)I" } : Jvm.MethodName)) ∈ lw_all := lw_g (lw_at lw_m3 89 rfl) rfl
theorem q624 : (Jvm.Cond.code ({ cls := "TownOnWeight", name := "leakOf", desc := "(I)I" } : Jvm.MethodName) prog_1_method_47_code (3 : Nat) (Option.some Jvm.ClassFile.FieldType.int)) ∈ lw_all := lw_g (lw_at lw_m3 90 rfl) rfl
theorem q625 : (Jvm.Cond.methodLink "TownOnWeight" (271 : Nat) ({ cls := "TownOnWeight", name := "isLeak", desc := "(II)Z" } : Jvm.MethodName)) ∈ lw_all := lw_g (lw_at lw_m3 91 rfl) rfl
theorem q626 : (Jvm.Cond.privateMethod ({ cls := "TownOnWeight", name := "isLeak", desc := "(II)Z" } : Jvm.MethodName)) ∈ lw_tbl := lw_at lw_m3 92 rfl
theorem q627 : (Jvm.Cond.instanceMethod ({ cls := "TownOnWeight", name := "isLeak", desc := "(II)Z" } : Jvm.MethodName)) ∈ lw_all := lw_g (lw_at lw_m3 93 rfl) rfl
theorem q628 : (Jvm.Cond.code ({ cls := "TownOnWeight", name := "isLeak", desc := "(II)Z" } : Jvm.MethodName) prog_1_method_46_code (6 : Nat) (Option.some Jvm.ClassFile.FieldType.boolean)) ∈ lw_all := lw_g (lw_at lw_m3 94 rfl) rfl
theorem q629 : (Jvm.Cond.methodLink "TownOnWeight" (268 : Nat) ({ cls := "TownOnWeight", name := "expected", desc := "(I)I" } : Jvm.MethodName)) ∈ lw_all := lw_g (lw_at lw_m3 95 rfl) rfl
theorem q630 : (Jvm.Cond.privateMethod ({ cls := "TownOnWeight", name := "expected", desc := "(I)I" } : Jvm.MethodName)) ∈ lw_tbl := lw_at lw_m3 96 rfl
theorem q631 : (Jvm.Cond.instanceMethod ({ cls := "TownOnWeight", name := "expected", desc := "(I)I" } : Jvm.MethodName)) ∈ lw_all := lw_g (lw_at lw_m3 97 rfl) rfl
theorem q632 : (Jvm.Cond.code ({ cls := "TownOnWeight", name := "expected", desc := "(I)I" } : Jvm.MethodName) prog_1_method_45_code (5 : Nat) (Option.some Jvm.ClassFile.FieldType.int)) ∈ lw_all := lw_g (lw_at lw_m3 98 rfl) rfl
theorem q634 : (Jvm.Cond.instanceMethod ({ cls := "TownOnWeight", name := "leak", desc := "(I)I" } : Jvm.MethodName)) ∈ lw_all := lw_g (lw_at lw_m3 100 rfl) rfl
theorem q635 : (Jvm.Cond.selects "TownOnWeight" ({ cls := "TownOnWeight", name := "leak", desc := "(I)I" } : Jvm.MethodName) ({ cls := "TownOnWeight", name := "leak", desc := "(I)I" } : Jvm.MethodName)) ∈ lw_all := lw_g (lw_at lw_m3 101 rfl) rfl
theorem q636 : (Jvm.Cond.code ({ cls := "TownOnWeight", name := "leak", desc := "(I)I" } : Jvm.MethodName) prog_1_method_50_code (2 : Nat) (Option.some Jvm.ClassFile.FieldType.int)) ∈ lw_all := lw_g (lw_at lw_m3 102 rfl) rfl
theorem q638 : (Jvm.Cond.instanceMethod ({ cls := "TownOnWeight", name := "look", desc := "()I" } : Jvm.MethodName)) ∈ lw_all := lw_g (lw_at lw_m3 104 rfl) rfl
theorem q639 : (Jvm.Cond.selects "TownOnWeight" ({ cls := "TownOnWeight", name := "look", desc := "()I" } : Jvm.MethodName) ({ cls := "TownOnWeight", name := "look", desc := "()I" } : Jvm.MethodName)) ∈ lw_all := lw_g (lw_at lw_m3 105 rfl) rfl
theorem q640 : (Jvm.Cond.code ({ cls := "TownOnWeight", name := "look", desc := "()I" } : Jvm.MethodName) prog_1_method_52_code (1 : Nat) (Option.some Jvm.ClassFile.FieldType.int)) ∈ lw_all := lw_g (lw_at lw_m3 106 rfl) rfl
theorem q641 : (Jvm.Cond.methodLink "TownOnWeight" (283 : Nat) ({ cls := "TownOnWeight", name := "lookOf", desc := "()I" } : Jvm.MethodName)) ∈ lw_all := lw_g (lw_at lw_m3 107 rfl) rfl
theorem q642 : (Jvm.Cond.privateMethod ({ cls := "TownOnWeight", name := "lookOf", desc := "()I" } : Jvm.MethodName)) ∈ lw_tbl := lw_at lw_m3 108 rfl
theorem q643 : (Jvm.Cond.instanceMethod ({ cls := "TownOnWeight", name := "lookOf", desc := "()I" } : Jvm.MethodName)) ∈ lw_all := lw_g (lw_at lw_m3 109 rfl) rfl
theorem q644 : (Jvm.Cond.code ({ cls := "TownOnWeight", name := "lookOf", desc := "()I" } : Jvm.MethodName) prog_1_method_51_code (7 : Nat) (Option.some Jvm.ClassFile.FieldType.int)) ∈ lw_all := lw_g (lw_at lw_m3 110 rfl) rfl
theorem q645 : (Jvm.Cond.methodLink "TownOnWeight" (280 : Nat) ({ cls := "java/lang/Math", name := "max", desc := "(II)I" } : Jvm.MethodName)) ∈ lw_all := lw_g (lw_at lw_m3 111 rfl) rfl
theorem q649 : (Jvm.Cond.instanceMethod ({ cls := "TownOnWeight", name := "image", desc := "()I" } : Jvm.MethodName)) ∈ lw_all := lw_g (lw_at lw_m3 115 rfl) rfl
theorem q650 : (Jvm.Cond.selects "TownOnWeight" ({ cls := "TownOnWeight", name := "image", desc := "()I" } : Jvm.MethodName) ({ cls := "TownOnWeight", name := "image", desc := "()I" } : Jvm.MethodName)) ∈ lw_all := lw_g (lw_at lw_m3 116 rfl) rfl
theorem q651 : (Jvm.Cond.code ({ cls := "TownOnWeight", name := "image", desc := "()I" } : Jvm.MethodName) prog_1_method_53_code (1 : Nat) (Option.some Jvm.ClassFile.FieldType.int)) ∈ lw_all := lw_g (lw_at lw_m3 117 rfl) rfl
theorem q653 : (Jvm.Cond.instanceMethod ({ cls := "TownOnWeight", name := "restore", desc := "()I" } : Jvm.MethodName)) ∈ lw_all := lw_g (lw_at lw_m3 119 rfl) rfl
theorem q654 : (Jvm.Cond.selects "TownOnWeight" ({ cls := "TownOnWeight", name := "restore", desc := "()I" } : Jvm.MethodName) ({ cls := "TownOnWeight", name := "restore", desc := "()I" } : Jvm.MethodName)) ∈ lw_all := lw_g (lw_at lw_m3 120 rfl) rfl
theorem q655 : (Jvm.Cond.code ({ cls := "TownOnWeight", name := "restore", desc := "()I" } : Jvm.MethodName) prog_1_method_54_code (1 : Nat) (Option.some Jvm.ClassFile.FieldType.int)) ∈ lw_all := lw_g (lw_at lw_m3 121 rfl) rfl
theorem q657 : (Jvm.Cond.instanceMethod ({ cls := "TownOnWeight", name := "count", desc := "(I)I" } : Jvm.MethodName)) ∈ lw_all := lw_g (lw_at lw_m3 123 rfl) rfl
theorem q658 : (Jvm.Cond.selects "TownOnWeight" ({ cls := "TownOnWeight", name := "count", desc := "(I)I" } : Jvm.MethodName) ({ cls := "TownOnWeight", name := "count", desc := "(I)I" } : Jvm.MethodName)) ∈ lw_all := lw_g (lw_at lw_m3 124 rfl) rfl
theorem q659 : (Jvm.Cond.code ({ cls := "TownOnWeight", name := "count", desc := "(I)I" } : Jvm.MethodName) prog_1_method_55_code (2 : Nat) (Option.some Jvm.ClassFile.FieldType.int)) ∈ lw_all := lw_g (lw_at lw_m3 125 rfl) rfl
theorem q661 : (Jvm.Cond.instanceMethod ({ cls := "TownOnWeight", name := "digest", desc := "()J" } : Jvm.MethodName)) ∈ lw_all := lw_g (lw_at lw_m3 127 rfl) rfl
theorem q662 : (Jvm.Cond.selects "TownOnWeight" ({ cls := "TownOnWeight", name := "digest", desc := "()J" } : Jvm.MethodName) ({ cls := "TownOnWeight", name := "digest", desc := "()J" } : Jvm.MethodName)) ∈ lw_all := lw_g (lw_at lw_m3 128 rfl) rfl
theorem q663 : (Jvm.Cond.code ({ cls := "TownOnWeight", name := "digest", desc := "()J" } : Jvm.MethodName) prog_1_method_57_code (3 : Nat) (Option.some Jvm.ClassFile.FieldType.long)) ∈ lw_all := lw_g (lw_at lw_m3 129 rfl) rfl
theorem q664 : (Jvm.Cond.constantLong "TownOnWeight" (295 : Nat) (601 : Int64)) ∈ lw_all := lw_g (lw_at lw_m3 130 rfl) rfl
theorem q665 : (Jvm.Cond.methodLink "TownOnWeight" (297 : Nat) ({ cls := "TownOnWeight", name := "note", desc := "(J)V" } : Jvm.MethodName)) ∈ lw_all := lw_g (lw_at lw_m3 131 rfl) rfl
theorem q666 : (Jvm.Cond.privateMethod ({ cls := "TownOnWeight", name := "note", desc := "(J)V" } : Jvm.MethodName)) ∈ lw_tbl := lw_at lw_m3 132 rfl
theorem q667 : (Jvm.Cond.instanceMethod ({ cls := "TownOnWeight", name := "note", desc := "(J)V" } : Jvm.MethodName)) ∈ lw_all := lw_g (lw_at lw_m3 133 rfl) rfl
theorem q668 : (Jvm.Cond.code ({ cls := "TownOnWeight", name := "note", desc := "(J)V" } : Jvm.MethodName) prog_1_method_56_code (3 : Nat) (Option.none : Option Jvm.ClassFile.FieldType)) ∈ lw_all := lw_g (lw_at lw_m3 134 rfl) rfl
theorem q669 : (Jvm.Cond.constantLong "TownOnWeight" (289 : Nat) (31 : Int64)) ∈ lw_all := lw_g (lw_at lw_m3 135 rfl) rfl
theorem q670 : (Jvm.Cond.methodLink "TownOnWeight" (301 : Nat) ({ cls := "TownOnWeight", name := "count", desc := "(I)I" } : Jvm.MethodName)) ∈ lw_all := lw_g (lw_at lw_m3 136 rfl) rfl
theorem in_X0 : ∀ w ∈ wsX00, w ∈ lw_all := lw_in wsX00 [141, 143, 145, 147, 149, 151, 153, 155, 157, 159, 161, 163, 165, 167, 169] (by decide +kernel) (by decide +kernel)
