/-! CafeTablesModel -/
set_option maxRecDepth 100000
def RX1 : String := "CafeTablesModel"
def TX1 : u_T := fun k => match k with
  | 0 => ("CafeTablesModel", "fault", "I", false)
  | 1 => ("CafeTablesModel", "trace", "I", false)
  | 2 => ("CafeTablesModel", "sorts", "[I", true)
  | 3 => ("CafeTablesModel", "sheetLong", "[I", true)
  | 4 => ("CafeTablesModel", "cells", "[I", true)
  | 5 => ("CafeTablesModel", "tables", "I", false)
  | 6 => ("CafeTablesModel", "where", "[I", true)
  | 7 => ("CafeTablesModel", "seats", "[I", true)
  | 8 => ("CafeTablesModel", "rule", "I", false)
  | 9 => ("CafeTablesModel", "patience", "I", false)
  | 10 => ("CafeTablesModel", "isJoining", "Z", false)
  | 11 => ("CafeTablesModel", "rain", "I", false)
  | 12 => ("CafeTablesModel", "at", "I", false)
  | 13 => ("CafeTablesModel", "readTables", "I", false)
  | 14 => ("CafeTablesModel", "readWhere", "[I", true)
  | 15 => ("CafeTablesModel", "readSeats", "[I", true)
  | 16 => ("CafeTablesModel", "groups", "I", false)
  | 17 => ("CafeTablesModel", "kind", "[I", true)
  | 18 => ("CafeTablesModel", "size", "[I", true)
  | 19 => ("CafeTablesModel", "comes", "[I", true)
  | 20 => ("CafeTablesModel", "stay", "[I", true)
  | 21 => ("CafeTablesModel", "wants", "[I", true)
  | 22 => ("CafeTablesModel", "lure", "[I", true)
  | 23 => ("CafeTablesModel", "laidTables", "I", false)
  | 24 => ("CafeTablesModel", "laidWhere", "[I", true)
  | 25 => ("CafeTablesModel", "laidSeats", "[I", true)
  | 26 => ("CafeTablesModel", "laidRule", "I", false)
  | 27 => ("CafeTablesModel", "laidPatience", "I", false)
  | 28 => ("CafeTablesModel", "laidRain", "I", false)
  | 29 => ("CafeTablesModel", "leftOut", "I", false)
  | 30 => ("CafeTablesModel", "taker", "[I", true)
  | 31 => ("CafeTablesModel", "isShut", "[Z", true)
  | 32 => ("CafeTablesModel", "state", "[I", true)
  | 33 => ("CafeTablesModel", "table", "[I", true)
  | 34 => ("CafeTablesModel", "from", "[I", true)
  | 35 => ("CafeTablesModel", "till", "[I", true)
  | 36 => ("CafeTablesModel", "coin", "[I", true)
  | 37 => ("CafeTablesModel", "waited", "[I", true)
  | 38 => ("CafeTablesModel", "takenThen", "[I", true)
  | 39 => ("CafeTablesModel", "waitingThen", "[I", true)
  | 40 => ("CafeTablesModel", "isWet", "[Z", true)
  | 41 => ("CafeTablesModel", "chosen", "[I", true)
  | 42 => ("CafeTablesModel", "bestRow", "[I", true)
  | _ => ("CafeTablesModel", "planMost", "I", false)
def tyX1 : Nat → FieldType := fun k => match k with
  | 0 => .int
  | 1 => .int
  | 2 => .array .int
  | 3 => .array .int
  | 4 => .array .int
  | 5 => .int
  | 6 => .array .int
  | 7 => .array .int
  | 8 => .int
  | 9 => .int
  | 10 => .boolean
  | 11 => .int
  | 12 => .int
  | 13 => .int
  | 14 => .array .int
  | 15 => .array .int
  | 16 => .int
  | 17 => .array .int
  | 18 => .array .int
  | 19 => .array .int
  | 20 => .array .int
  | 21 => .array .int
  | 22 => .array .int
  | 23 => .int
  | 24 => .array .int
  | 25 => .array .int
  | 26 => .int
  | 27 => .int
  | 28 => .int
  | 29 => .int
  | 30 => .array .int
  | 31 => .array .boolean
  | 32 => .array .int
  | 33 => .array .int
  | 34 => .array .int
  | 35 => .array .int
  | 36 => .array .int
  | 37 => .array .int
  | 38 => .array .int
  | 39 => .array .int
  | 40 => .array .boolean
  | 41 => .array .int
  | 42 => .array .int
  | _ => .int
abbrev wsX10 : List Cond := u_ws RX1 TX1 44
set_option maxRecDepth 100000 in
theorem nmX1 : ∀ a, a < 44 → ∀ b, b < 44 → a ≠ b → (TX1 a).2.1 ≠ (TX1 b).2.1 := by decide +kernel
set_option maxRecDepth 100000 in
theorem tyX1_ok : ∀ k, k < 44 → parseFieldDescriptor (TX1 k).2.2.1 = some (tyX1 k) := by decide +kernel
abbrev cX1_init : ByteArray := prog_12_method_1_code
def yX1_init : MethodName := ⟨RX1, "<init>", "()V"⟩
def dkwX1_init_10 : List UInt8 := [181, 0, 90, 42, 16, 6, 188, 10, 181, 0, 93, 42, 16, 6, 188, 10, 181, 0, 96, 177]
abbrev dktX1_init_10 : List UInt8 := dkwX1_init_10 ++ []
def dkwX1_init_9 : List UInt8 := [17, 1, 144, 188, 10, 181, 0, 84, 42, 17, 1, 144, 188, 10, 181, 0, 87, 42, 16, 8, 188, 4]
abbrev dktX1_init_9 : List UInt8 := dkwX1_init_9 ++ dktX1_init_10
def dkwX1_init_8 : List UInt8 := [188, 10, 181, 0, 75, 42, 16, 8, 188, 10, 181, 0, 78, 42, 16, 8, 188, 10, 181, 0, 81, 42]
abbrev dktX1_init_8 : List UInt8 := dkwX1_init_8 ++ dktX1_init_9
def dkwX1_init_7 : List UInt8 := [188, 10, 181, 0, 66, 42, 16, 8, 188, 10, 181, 0, 69, 42, 16, 8, 188, 10, 181, 0, 72, 42, 16, 8]
abbrev dktX1_init_7 : List UInt8 := dkwX1_init_7 ++ dktX1_init_8
def dkwX1_init_6 : List UInt8 := [188, 10, 181, 0, 56, 42, 16, 6, 188, 10, 181, 0, 59, 42, 16, 6, 188, 4, 181, 0, 62, 42, 16, 8]
abbrev dktX1_init_6 : List UInt8 := dkwX1_init_6 ++ dktX1_init_7
def dkwX1_init_5 : List UInt8 := [188, 10, 181, 0, 47, 42, 16, 8, 188, 10, 181, 0, 50, 42, 16, 6, 188, 10, 181, 0, 53, 42, 16, 6]
abbrev dktX1_init_5 : List UInt8 := dkwX1_init_5 ++ dktX1_init_6
def dkwX1_init_4 : List UInt8 := [188, 10, 181, 0, 38, 42, 16, 8, 188, 10, 181, 0, 41, 42, 16, 8, 188, 10, 181, 0, 44, 42, 16, 8]
abbrev dktX1_init_4 : List UInt8 := dkwX1_init_4 ++ dktX1_init_5
def dkwX1_init_3 : List UInt8 := [188, 10, 181, 0, 29, 42, 16, 6, 188, 10, 181, 0, 32, 42, 16, 8, 188, 10, 181, 0, 35, 42, 16, 8]
abbrev dktX1_init_3 : List UInt8 := dkwX1_init_3 ++ dktX1_init_4
def dkwX1_init_2 : List UInt8 := [16, 6, 188, 10, 181, 0, 19, 42, 16, 6, 188, 10, 181, 0, 22, 42, 16, 247, 181, 0, 25, 42, 16, 6]
abbrev dktX1_init_2 : List UInt8 := dkwX1_init_2 ++ dktX1_init_3
def dkwX1_init_1 : List UInt8 := [6, 16, 247, 79, 181, 0, 9, 42, 7, 188, 10, 181, 0, 13, 42, 17, 0, 160, 188, 10, 181, 0, 16, 42]
abbrev dktX1_init_1 : List UInt8 := dkwX1_init_1 ++ dktX1_init_2
def dkwX1_init_0 : List UInt8 := [42, 183, 0, 1, 42, 7, 188, 10, 89, 3, 16, 247, 79, 89, 4, 16, 247, 79, 89, 5, 16, 247, 79, 89]
abbrev dktX1_init_0 : List UInt8 := dkwX1_init_0 ++ dktX1_init_1
theorem dksX1_init_0 : cX1_init.data.toList.drop 0 = dktX1_init_0 := by decide +kernel
theorem dksX1_init_1 : cX1_init.data.toList.drop 24 = dktX1_init_1 := dk_seg dksX1_init_0 24 rfl rfl
theorem dksX1_init_2 : cX1_init.data.toList.drop 48 = dktX1_init_2 := dk_seg dksX1_init_1 24 rfl rfl
theorem dksX1_init_3 : cX1_init.data.toList.drop 72 = dktX1_init_3 := dk_seg dksX1_init_2 24 rfl rfl
theorem dksX1_init_4 : cX1_init.data.toList.drop 96 = dktX1_init_4 := dk_seg dksX1_init_3 24 rfl rfl
theorem dksX1_init_5 : cX1_init.data.toList.drop 120 = dktX1_init_5 := dk_seg dksX1_init_4 24 rfl rfl
theorem dksX1_init_6 : cX1_init.data.toList.drop 144 = dktX1_init_6 := dk_seg dksX1_init_5 24 rfl rfl
theorem dksX1_init_7 : cX1_init.data.toList.drop 168 = dktX1_init_7 := dk_seg dksX1_init_6 24 rfl rfl
theorem dksX1_init_8 : cX1_init.data.toList.drop 192 = dktX1_init_8 := dk_seg dksX1_init_7 24 rfl rfl
theorem dksX1_init_9 : cX1_init.data.toList.drop 214 = dktX1_init_9 := dk_seg dksX1_init_8 22 rfl rfl
theorem dksX1_init_10 : cX1_init.data.toList.drop 236 = dktX1_init_10 := dk_seg dksX1_init_9 22 rfl rfl
theorem dX1_init_0 : decode cX1_init 0 = .ok (.aload_n 0, 1) := dk_42 (dk_at dksX1_init_0 0 rfl rfl)
theorem dX1_init_1 : decode cX1_init 1 = .ok (.invokespecial 1, 3) := dk_183 0 1 (dk_at dksX1_init_0 1 rfl rfl)
theorem dX1_init_4 : decode cX1_init 4 = .ok (.aload_n 0, 1) := dk_42 (dk_at dksX1_init_0 4 rfl rfl)
theorem dX1_init_5 : decode cX1_init 5 = .ok (.iconst 4, 1) := dk_7 (dk_at dksX1_init_0 5 rfl rfl)
theorem dX1_init_6 : decode cX1_init 6 = .ok (.newarray .int, 2) := dk_188_10 (dk_at dksX1_init_0 6 rfl rfl)
theorem dX1_init_8 : decode cX1_init 8 = .ok (.dup, 1) := dk_89 (dk_at dksX1_init_0 8 rfl rfl)
theorem dX1_init_9 : decode cX1_init 9 = .ok (.iconst 0, 1) := dk_3 (dk_at dksX1_init_0 9 rfl rfl)
theorem dX1_init_10 : decode cX1_init 10 = .ok (.bipush (-9), 2) := dk_16 247 (dk_at dksX1_init_0 10 rfl rfl)
theorem dX1_init_12 : decode cX1_init 12 = .ok (.iastore, 1) := dk_79 (dk_at dksX1_init_0 12 rfl rfl)
theorem dX1_init_13 : decode cX1_init 13 = .ok (.dup, 1) := dk_89 (dk_at dksX1_init_0 13 rfl rfl)
theorem dX1_init_14 : decode cX1_init 14 = .ok (.iconst 1, 1) := dk_4 (dk_at dksX1_init_0 14 rfl rfl)
theorem dX1_init_15 : decode cX1_init 15 = .ok (.bipush (-9), 2) := dk_16 247 (dk_at dksX1_init_0 15 rfl rfl)
theorem dX1_init_17 : decode cX1_init 17 = .ok (.iastore, 1) := dk_79 (dk_at dksX1_init_0 17 rfl rfl)
theorem dX1_init_18 : decode cX1_init 18 = .ok (.dup, 1) := dk_89 (dk_at dksX1_init_0 18 rfl rfl)
theorem dX1_init_19 : decode cX1_init 19 = .ok (.iconst 2, 1) := dk_5 (dk_at dksX1_init_0 19 rfl rfl)
theorem dX1_init_20 : decode cX1_init 20 = .ok (.bipush (-9), 2) := dk_16 247 (dk_at dksX1_init_0 20 rfl rfl)
theorem dX1_init_22 : decode cX1_init 22 = .ok (.iastore, 1) := dk_79 (dk_at dksX1_init_0 22 rfl rfl)
theorem dX1_init_23 : decode cX1_init 23 = .ok (.dup, 1) := dk_89 (dk_at dksX1_init_0 23 rfl rfl)
theorem dX1_init_24 : decode cX1_init 24 = .ok (.iconst 3, 1) := dk_6 (dk_at dksX1_init_1 0 rfl rfl)
theorem dX1_init_25 : decode cX1_init 25 = .ok (.bipush (-9), 2) := dk_16 247 (dk_at dksX1_init_1 1 rfl rfl)
theorem dX1_init_27 : decode cX1_init 27 = .ok (.iastore, 1) := dk_79 (dk_at dksX1_init_1 3 rfl rfl)
theorem dX1_init_28 : decode cX1_init 28 = .ok (.putfield 9, 3) := dk_181 0 9 (dk_at dksX1_init_1 4 rfl rfl)
theorem dX1_init_31 : decode cX1_init 31 = .ok (.aload_n 0, 1) := dk_42 (dk_at dksX1_init_1 7 rfl rfl)
theorem dX1_init_32 : decode cX1_init 32 = .ok (.iconst 4, 1) := dk_7 (dk_at dksX1_init_1 8 rfl rfl)
theorem dX1_init_33 : decode cX1_init 33 = .ok (.newarray .int, 2) := dk_188_10 (dk_at dksX1_init_1 9 rfl rfl)
theorem dX1_init_35 : decode cX1_init 35 = .ok (.putfield 13, 3) := dk_181 0 13 (dk_at dksX1_init_1 11 rfl rfl)
theorem dX1_init_38 : decode cX1_init 38 = .ok (.aload_n 0, 1) := dk_42 (dk_at dksX1_init_1 14 rfl rfl)
theorem dX1_init_39 : decode cX1_init 39 = .ok (.sipush 160, 3) := dk_17 0 160 (dk_at dksX1_init_1 15 rfl rfl)
theorem dX1_init_42 : decode cX1_init 42 = .ok (.newarray .int, 2) := dk_188_10 (dk_at dksX1_init_1 18 rfl rfl)
theorem dX1_init_44 : decode cX1_init 44 = .ok (.putfield 16, 3) := dk_181 0 16 (dk_at dksX1_init_1 20 rfl rfl)
theorem dX1_init_47 : decode cX1_init 47 = .ok (.aload_n 0, 1) := dk_42 (dk_at dksX1_init_1 23 rfl rfl)
theorem dX1_init_48 : decode cX1_init 48 = .ok (.bipush 6, 2) := dk_16 6 (dk_at dksX1_init_2 0 rfl rfl)
theorem dX1_init_50 : decode cX1_init 50 = .ok (.newarray .int, 2) := dk_188_10 (dk_at dksX1_init_2 2 rfl rfl)
theorem dX1_init_52 : decode cX1_init 52 = .ok (.putfield 19, 3) := dk_181 0 19 (dk_at dksX1_init_2 4 rfl rfl)
theorem dX1_init_55 : decode cX1_init 55 = .ok (.aload_n 0, 1) := dk_42 (dk_at dksX1_init_2 7 rfl rfl)
theorem dX1_init_56 : decode cX1_init 56 = .ok (.bipush 6, 2) := dk_16 6 (dk_at dksX1_init_2 8 rfl rfl)
theorem dX1_init_58 : decode cX1_init 58 = .ok (.newarray .int, 2) := dk_188_10 (dk_at dksX1_init_2 10 rfl rfl)
theorem dX1_init_60 : decode cX1_init 60 = .ok (.putfield 22, 3) := dk_181 0 22 (dk_at dksX1_init_2 12 rfl rfl)
theorem dX1_init_63 : decode cX1_init 63 = .ok (.aload_n 0, 1) := dk_42 (dk_at dksX1_init_2 15 rfl rfl)
theorem dX1_init_64 : decode cX1_init 64 = .ok (.bipush (-9), 2) := dk_16 247 (dk_at dksX1_init_2 16 rfl rfl)
theorem dX1_init_66 : decode cX1_init 66 = .ok (.putfield 25, 3) := dk_181 0 25 (dk_at dksX1_init_2 18 rfl rfl)
theorem dX1_init_69 : decode cX1_init 69 = .ok (.aload_n 0, 1) := dk_42 (dk_at dksX1_init_2 21 rfl rfl)
theorem dX1_init_70 : decode cX1_init 70 = .ok (.bipush 6, 2) := dk_16 6 (dk_at dksX1_init_2 22 rfl rfl)
theorem dX1_init_72 : decode cX1_init 72 = .ok (.newarray .int, 2) := dk_188_10 (dk_at dksX1_init_3 0 rfl rfl)
theorem dX1_init_74 : decode cX1_init 74 = .ok (.putfield 29, 3) := dk_181 0 29 (dk_at dksX1_init_3 2 rfl rfl)
theorem dX1_init_77 : decode cX1_init 77 = .ok (.aload_n 0, 1) := dk_42 (dk_at dksX1_init_3 5 rfl rfl)
theorem dX1_init_78 : decode cX1_init 78 = .ok (.bipush 6, 2) := dk_16 6 (dk_at dksX1_init_3 6 rfl rfl)
theorem dX1_init_80 : decode cX1_init 80 = .ok (.newarray .int, 2) := dk_188_10 (dk_at dksX1_init_3 8 rfl rfl)
theorem dX1_init_82 : decode cX1_init 82 = .ok (.putfield 32, 3) := dk_181 0 32 (dk_at dksX1_init_3 10 rfl rfl)
theorem dX1_init_85 : decode cX1_init 85 = .ok (.aload_n 0, 1) := dk_42 (dk_at dksX1_init_3 13 rfl rfl)
theorem dX1_init_86 : decode cX1_init 86 = .ok (.bipush 8, 2) := dk_16 8 (dk_at dksX1_init_3 14 rfl rfl)
theorem dX1_init_88 : decode cX1_init 88 = .ok (.newarray .int, 2) := dk_188_10 (dk_at dksX1_init_3 16 rfl rfl)
theorem dX1_init_90 : decode cX1_init 90 = .ok (.putfield 35, 3) := dk_181 0 35 (dk_at dksX1_init_3 18 rfl rfl)
theorem dX1_init_93 : decode cX1_init 93 = .ok (.aload_n 0, 1) := dk_42 (dk_at dksX1_init_3 21 rfl rfl)
theorem dX1_init_94 : decode cX1_init 94 = .ok (.bipush 8, 2) := dk_16 8 (dk_at dksX1_init_3 22 rfl rfl)
theorem dX1_init_96 : decode cX1_init 96 = .ok (.newarray .int, 2) := dk_188_10 (dk_at dksX1_init_4 0 rfl rfl)
theorem dX1_init_98 : decode cX1_init 98 = .ok (.putfield 38, 3) := dk_181 0 38 (dk_at dksX1_init_4 2 rfl rfl)
theorem dX1_init_101 : decode cX1_init 101 = .ok (.aload_n 0, 1) := dk_42 (dk_at dksX1_init_4 5 rfl rfl)
theorem dX1_init_102 : decode cX1_init 102 = .ok (.bipush 8, 2) := dk_16 8 (dk_at dksX1_init_4 6 rfl rfl)
theorem dX1_init_104 : decode cX1_init 104 = .ok (.newarray .int, 2) := dk_188_10 (dk_at dksX1_init_4 8 rfl rfl)
theorem dX1_init_106 : decode cX1_init 106 = .ok (.putfield 41, 3) := dk_181 0 41 (dk_at dksX1_init_4 10 rfl rfl)
theorem dX1_init_109 : decode cX1_init 109 = .ok (.aload_n 0, 1) := dk_42 (dk_at dksX1_init_4 13 rfl rfl)
theorem dX1_init_110 : decode cX1_init 110 = .ok (.bipush 8, 2) := dk_16 8 (dk_at dksX1_init_4 14 rfl rfl)
theorem dX1_init_112 : decode cX1_init 112 = .ok (.newarray .int, 2) := dk_188_10 (dk_at dksX1_init_4 16 rfl rfl)
theorem dX1_init_114 : decode cX1_init 114 = .ok (.putfield 44, 3) := dk_181 0 44 (dk_at dksX1_init_4 18 rfl rfl)
theorem dX1_init_117 : decode cX1_init 117 = .ok (.aload_n 0, 1) := dk_42 (dk_at dksX1_init_4 21 rfl rfl)
theorem dX1_init_118 : decode cX1_init 118 = .ok (.bipush 8, 2) := dk_16 8 (dk_at dksX1_init_4 22 rfl rfl)
theorem dX1_init_120 : decode cX1_init 120 = .ok (.newarray .int, 2) := dk_188_10 (dk_at dksX1_init_5 0 rfl rfl)
theorem dX1_init_122 : decode cX1_init 122 = .ok (.putfield 47, 3) := dk_181 0 47 (dk_at dksX1_init_5 2 rfl rfl)
theorem dX1_init_125 : decode cX1_init 125 = .ok (.aload_n 0, 1) := dk_42 (dk_at dksX1_init_5 5 rfl rfl)
theorem dX1_init_126 : decode cX1_init 126 = .ok (.bipush 8, 2) := dk_16 8 (dk_at dksX1_init_5 6 rfl rfl)
theorem dX1_init_128 : decode cX1_init 128 = .ok (.newarray .int, 2) := dk_188_10 (dk_at dksX1_init_5 8 rfl rfl)
theorem dX1_init_130 : decode cX1_init 130 = .ok (.putfield 50, 3) := dk_181 0 50 (dk_at dksX1_init_5 10 rfl rfl)
theorem dX1_init_133 : decode cX1_init 133 = .ok (.aload_n 0, 1) := dk_42 (dk_at dksX1_init_5 13 rfl rfl)
theorem dX1_init_134 : decode cX1_init 134 = .ok (.bipush 6, 2) := dk_16 6 (dk_at dksX1_init_5 14 rfl rfl)
theorem dX1_init_136 : decode cX1_init 136 = .ok (.newarray .int, 2) := dk_188_10 (dk_at dksX1_init_5 16 rfl rfl)
theorem dX1_init_138 : decode cX1_init 138 = .ok (.putfield 53, 3) := dk_181 0 53 (dk_at dksX1_init_5 18 rfl rfl)
theorem dX1_init_141 : decode cX1_init 141 = .ok (.aload_n 0, 1) := dk_42 (dk_at dksX1_init_5 21 rfl rfl)
theorem dX1_init_142 : decode cX1_init 142 = .ok (.bipush 6, 2) := dk_16 6 (dk_at dksX1_init_5 22 rfl rfl)
theorem dX1_init_144 : decode cX1_init 144 = .ok (.newarray .int, 2) := dk_188_10 (dk_at dksX1_init_6 0 rfl rfl)
theorem dX1_init_146 : decode cX1_init 146 = .ok (.putfield 56, 3) := dk_181 0 56 (dk_at dksX1_init_6 2 rfl rfl)
theorem dX1_init_149 : decode cX1_init 149 = .ok (.aload_n 0, 1) := dk_42 (dk_at dksX1_init_6 5 rfl rfl)
theorem dX1_init_150 : decode cX1_init 150 = .ok (.bipush 6, 2) := dk_16 6 (dk_at dksX1_init_6 6 rfl rfl)
theorem dX1_init_152 : decode cX1_init 152 = .ok (.newarray .int, 2) := dk_188_10 (dk_at dksX1_init_6 8 rfl rfl)
theorem dX1_init_154 : decode cX1_init 154 = .ok (.putfield 59, 3) := dk_181 0 59 (dk_at dksX1_init_6 10 rfl rfl)
theorem dX1_init_157 : decode cX1_init 157 = .ok (.aload_n 0, 1) := dk_42 (dk_at dksX1_init_6 13 rfl rfl)
theorem dX1_init_158 : decode cX1_init 158 = .ok (.bipush 6, 2) := dk_16 6 (dk_at dksX1_init_6 14 rfl rfl)
theorem dX1_init_160 : decode cX1_init 160 = .ok (.newarray .boolean, 2) := dk_188_4 (dk_at dksX1_init_6 16 rfl rfl)
theorem dX1_init_162 : decode cX1_init 162 = .ok (.putfield 62, 3) := dk_181 0 62 (dk_at dksX1_init_6 18 rfl rfl)
theorem dX1_init_165 : decode cX1_init 165 = .ok (.aload_n 0, 1) := dk_42 (dk_at dksX1_init_6 21 rfl rfl)
theorem dX1_init_166 : decode cX1_init 166 = .ok (.bipush 8, 2) := dk_16 8 (dk_at dksX1_init_6 22 rfl rfl)
theorem dX1_init_168 : decode cX1_init 168 = .ok (.newarray .int, 2) := dk_188_10 (dk_at dksX1_init_7 0 rfl rfl)
theorem dX1_init_170 : decode cX1_init 170 = .ok (.putfield 66, 3) := dk_181 0 66 (dk_at dksX1_init_7 2 rfl rfl)
theorem dX1_init_173 : decode cX1_init 173 = .ok (.aload_n 0, 1) := dk_42 (dk_at dksX1_init_7 5 rfl rfl)
theorem dX1_init_174 : decode cX1_init 174 = .ok (.bipush 8, 2) := dk_16 8 (dk_at dksX1_init_7 6 rfl rfl)
theorem dX1_init_176 : decode cX1_init 176 = .ok (.newarray .int, 2) := dk_188_10 (dk_at dksX1_init_7 8 rfl rfl)
theorem dX1_init_178 : decode cX1_init 178 = .ok (.putfield 69, 3) := dk_181 0 69 (dk_at dksX1_init_7 10 rfl rfl)
theorem dX1_init_181 : decode cX1_init 181 = .ok (.aload_n 0, 1) := dk_42 (dk_at dksX1_init_7 13 rfl rfl)
theorem dX1_init_182 : decode cX1_init 182 = .ok (.bipush 8, 2) := dk_16 8 (dk_at dksX1_init_7 14 rfl rfl)
theorem dX1_init_184 : decode cX1_init 184 = .ok (.newarray .int, 2) := dk_188_10 (dk_at dksX1_init_7 16 rfl rfl)
theorem dX1_init_186 : decode cX1_init 186 = .ok (.putfield 72, 3) := dk_181 0 72 (dk_at dksX1_init_7 18 rfl rfl)
theorem dX1_init_189 : decode cX1_init 189 = .ok (.aload_n 0, 1) := dk_42 (dk_at dksX1_init_7 21 rfl rfl)
theorem dX1_init_190 : decode cX1_init 190 = .ok (.bipush 8, 2) := dk_16 8 (dk_at dksX1_init_7 22 rfl rfl)
theorem dX1_init_192 : decode cX1_init 192 = .ok (.newarray .int, 2) := dk_188_10 (dk_at dksX1_init_8 0 rfl rfl)
theorem dX1_init_194 : decode cX1_init 194 = .ok (.putfield 75, 3) := dk_181 0 75 (dk_at dksX1_init_8 2 rfl rfl)
theorem dX1_init_197 : decode cX1_init 197 = .ok (.aload_n 0, 1) := dk_42 (dk_at dksX1_init_8 5 rfl rfl)
theorem dX1_init_198 : decode cX1_init 198 = .ok (.bipush 8, 2) := dk_16 8 (dk_at dksX1_init_8 6 rfl rfl)
theorem dX1_init_200 : decode cX1_init 200 = .ok (.newarray .int, 2) := dk_188_10 (dk_at dksX1_init_8 8 rfl rfl)
theorem dX1_init_202 : decode cX1_init 202 = .ok (.putfield 78, 3) := dk_181 0 78 (dk_at dksX1_init_8 10 rfl rfl)
theorem dX1_init_205 : decode cX1_init 205 = .ok (.aload_n 0, 1) := dk_42 (dk_at dksX1_init_8 13 rfl rfl)
theorem dX1_init_206 : decode cX1_init 206 = .ok (.bipush 8, 2) := dk_16 8 (dk_at dksX1_init_8 14 rfl rfl)
theorem dX1_init_208 : decode cX1_init 208 = .ok (.newarray .int, 2) := dk_188_10 (dk_at dksX1_init_8 16 rfl rfl)
theorem dX1_init_210 : decode cX1_init 210 = .ok (.putfield 81, 3) := dk_181 0 81 (dk_at dksX1_init_8 18 rfl rfl)
theorem dX1_init_213 : decode cX1_init 213 = .ok (.aload_n 0, 1) := dk_42 (dk_at dksX1_init_8 21 rfl rfl)
theorem dX1_init_214 : decode cX1_init 214 = .ok (.sipush 400, 3) := dk_17 1 144 (dk_at dksX1_init_9 0 rfl rfl)
theorem dX1_init_217 : decode cX1_init 217 = .ok (.newarray .int, 2) := dk_188_10 (dk_at dksX1_init_9 3 rfl rfl)
theorem dX1_init_219 : decode cX1_init 219 = .ok (.putfield 84, 3) := dk_181 0 84 (dk_at dksX1_init_9 5 rfl rfl)
theorem dX1_init_222 : decode cX1_init 222 = .ok (.aload_n 0, 1) := dk_42 (dk_at dksX1_init_9 8 rfl rfl)
theorem dX1_init_223 : decode cX1_init 223 = .ok (.sipush 400, 3) := dk_17 1 144 (dk_at dksX1_init_9 9 rfl rfl)
theorem dX1_init_226 : decode cX1_init 226 = .ok (.newarray .int, 2) := dk_188_10 (dk_at dksX1_init_9 12 rfl rfl)
theorem dX1_init_228 : decode cX1_init 228 = .ok (.putfield 87, 3) := dk_181 0 87 (dk_at dksX1_init_9 14 rfl rfl)
theorem dX1_init_231 : decode cX1_init 231 = .ok (.aload_n 0, 1) := dk_42 (dk_at dksX1_init_9 17 rfl rfl)
theorem dX1_init_232 : decode cX1_init 232 = .ok (.bipush 8, 2) := dk_16 8 (dk_at dksX1_init_9 18 rfl rfl)
theorem dX1_init_234 : decode cX1_init 234 = .ok (.newarray .boolean, 2) := dk_188_4 (dk_at dksX1_init_9 20 rfl rfl)
theorem dX1_init_236 : decode cX1_init 236 = .ok (.putfield 90, 3) := dk_181 0 90 (dk_at dksX1_init_10 0 rfl rfl)
theorem dX1_init_239 : decode cX1_init 239 = .ok (.aload_n 0, 1) := dk_42 (dk_at dksX1_init_10 3 rfl rfl)
theorem dX1_init_240 : decode cX1_init 240 = .ok (.bipush 6, 2) := dk_16 6 (dk_at dksX1_init_10 4 rfl rfl)
theorem dX1_init_242 : decode cX1_init 242 = .ok (.newarray .int, 2) := dk_188_10 (dk_at dksX1_init_10 6 rfl rfl)
theorem dX1_init_244 : decode cX1_init 244 = .ok (.putfield 93, 3) := dk_181 0 93 (dk_at dksX1_init_10 8 rfl rfl)
theorem dX1_init_247 : decode cX1_init 247 = .ok (.aload_n 0, 1) := dk_42 (dk_at dksX1_init_10 11 rfl rfl)
theorem dX1_init_248 : decode cX1_init 248 = .ok (.bipush 6, 2) := dk_16 6 (dk_at dksX1_init_10 12 rfl rfl)
theorem dX1_init_250 : decode cX1_init 250 = .ok (.newarray .int, 2) := dk_188_10 (dk_at dksX1_init_10 14 rfl rfl)
theorem dX1_init_252 : decode cX1_init 252 = .ok (.putfield 96, 3) := dk_181 0 96 (dk_at dksX1_init_10 16 rfl rfl)
theorem dX1_init_255 : decode cX1_init 255 = .ok (.return_, 1) := dk_177 (dk_at dksX1_init_10 19 rfl rfl)
abbrev cX1_cafe : ByteArray := prog_12_method_12_code
def yX1_cafe : MethodName := ⟨RX1, "cafe", "(IIII)I"⟩
def dkwX1_cafe_7 : List UInt8 := [42, 180, 0, 108, 172]
abbrev dktX1_cafe_7 : List UInt8 := dkwX1_cafe_7 ++ []
def dkwX1_cafe_6 : List UInt8 := [181, 0, 135, 42, 3, 181, 0, 138, 42, 3, 181, 0, 141, 42, 3, 181, 0, 144, 42, 16, 247, 181, 0, 25]
abbrev dktX1_cafe_6 : List UInt8 := dkwX1_cafe_6 ++ dktX1_cafe_7
def dkwX1_cafe_5 : List UInt8 := [79, 42, 180, 0, 22, 21, 7, 42, 180, 0, 32, 21, 7, 46, 79, 132, 7, 1, 167, 255, 216, 42, 3]
abbrev dktX1_cafe_5 : List UInt8 := dkwX1_cafe_5 ++ dktX1_cafe_6
def dkwX1_cafe_4 : List UInt8 := [54, 7, 21, 7, 42, 180, 0, 108, 162, 0, 37, 42, 180, 0, 19, 21, 7, 42, 180, 0, 29, 21, 7, 46]
abbrev dktX1_cafe_4 : List UInt8 := dkwX1_cafe_4 ++ dktX1_cafe_5
def dkwX1_cafe_3 : List UInt8 := [154, 0, 14, 16, 156, 42, 180, 0, 111, 21, 6, 100, 100, 172, 42, 42, 180, 0, 132, 181, 0, 108, 3]
abbrev dktX1_cafe_3 : List UInt8 := dkwX1_cafe_3 ++ dktX1_cafe_4
def dkwX1_cafe_2 : List UInt8 := [16, 40, 27, 104, 29, 96, 54, 6, 42, 21, 6, 181, 0, 111, 42, 21, 6, 21, 4, 96, 182, 0, 129]
abbrev dktX1_cafe_2 : List UInt8 := dkwX1_cafe_2 ++ dktX1_cafe_3
def dkwX1_cafe_1 : List UInt8 := [42, 27, 28, 29, 21, 4, 182, 0, 121, 54, 5, 21, 5, 153, 0, 10, 42, 21, 5, 182, 0, 125, 172]
abbrev dktX1_cafe_1 : List UInt8 := dkwX1_cafe_1 ++ dktX1_cafe_2
def dkwX1_cafe_0 : List UInt8 := [42, 3, 181, 0, 99, 27, 184, 0, 114, 154, 0, 5, 2, 172, 28, 184, 0, 118, 154, 0, 6, 16, 254, 172]
abbrev dktX1_cafe_0 : List UInt8 := dkwX1_cafe_0 ++ dktX1_cafe_1
theorem dksX1_cafe_0 : cX1_cafe.data.toList.drop 0 = dktX1_cafe_0 := by decide +kernel
theorem dksX1_cafe_1 : cX1_cafe.data.toList.drop 24 = dktX1_cafe_1 := dk_seg dksX1_cafe_0 24 rfl rfl
theorem dksX1_cafe_2 : cX1_cafe.data.toList.drop 47 = dktX1_cafe_2 := dk_seg dksX1_cafe_1 23 rfl rfl
theorem dksX1_cafe_3 : cX1_cafe.data.toList.drop 70 = dktX1_cafe_3 := dk_seg dksX1_cafe_2 23 rfl rfl
theorem dksX1_cafe_4 : cX1_cafe.data.toList.drop 93 = dktX1_cafe_4 := dk_seg dksX1_cafe_3 23 rfl rfl
theorem dksX1_cafe_5 : cX1_cafe.data.toList.drop 117 = dktX1_cafe_5 := dk_seg dksX1_cafe_4 24 rfl rfl
theorem dksX1_cafe_6 : cX1_cafe.data.toList.drop 140 = dktX1_cafe_6 := dk_seg dksX1_cafe_5 23 rfl rfl
theorem dksX1_cafe_7 : cX1_cafe.data.toList.drop 164 = dktX1_cafe_7 := dk_seg dksX1_cafe_6 24 rfl rfl
theorem dX1_cafe_0 : decode cX1_cafe 0 = .ok (.aload_n 0, 1) := dk_42 (dk_at dksX1_cafe_0 0 rfl rfl)
theorem dX1_cafe_1 : decode cX1_cafe 1 = .ok (.iconst 0, 1) := dk_3 (dk_at dksX1_cafe_0 1 rfl rfl)
theorem dX1_cafe_2 : decode cX1_cafe 2 = .ok (.putfield 99, 3) := dk_181 0 99 (dk_at dksX1_cafe_0 2 rfl rfl)
theorem dX1_cafe_5 : decode cX1_cafe 5 = .ok (.iload_n 1, 1) := dk_27 (dk_at dksX1_cafe_0 5 rfl rfl)
theorem dX1_cafe_6 : decode cX1_cafe 6 = .ok (.invokestatic 114, 3) := dk_184 0 114 (dk_at dksX1_cafe_0 6 rfl rfl)
theorem dX1_cafe_9 : decode cX1_cafe 9 = .ok (.ifCond .ne 5, 3) := dk_154 0 5 (dk_at dksX1_cafe_0 9 rfl rfl)
theorem dX1_cafe_12 : decode cX1_cafe 12 = .ok (.iconst (-1), 1) := dk_2 (dk_at dksX1_cafe_0 12 rfl rfl)
theorem dX1_cafe_13 : decode cX1_cafe 13 = .ok (.ireturn, 1) := dk_172 (dk_at dksX1_cafe_0 13 rfl rfl)
theorem dX1_cafe_14 : decode cX1_cafe 14 = .ok (.iload_n 2, 1) := dk_28 (dk_at dksX1_cafe_0 14 rfl rfl)
theorem dX1_cafe_15 : decode cX1_cafe 15 = .ok (.invokestatic 118, 3) := dk_184 0 118 (dk_at dksX1_cafe_0 15 rfl rfl)
theorem dX1_cafe_18 : decode cX1_cafe 18 = .ok (.ifCond .ne 6, 3) := dk_154 0 6 (dk_at dksX1_cafe_0 18 rfl rfl)
theorem dX1_cafe_21 : decode cX1_cafe 21 = .ok (.bipush (-2), 2) := dk_16 254 (dk_at dksX1_cafe_0 21 rfl rfl)
theorem dX1_cafe_23 : decode cX1_cafe 23 = .ok (.ireturn, 1) := dk_172 (dk_at dksX1_cafe_0 23 rfl rfl)
theorem dX1_cafe_24 : decode cX1_cafe 24 = .ok (.aload_n 0, 1) := dk_42 (dk_at dksX1_cafe_1 0 rfl rfl)
theorem dX1_cafe_25 : decode cX1_cafe 25 = .ok (.iload_n 1, 1) := dk_27 (dk_at dksX1_cafe_1 1 rfl rfl)
theorem dX1_cafe_26 : decode cX1_cafe 26 = .ok (.iload_n 2, 1) := dk_28 (dk_at dksX1_cafe_1 2 rfl rfl)
theorem dX1_cafe_27 : decode cX1_cafe 27 = .ok (.iload_n 3, 1) := dk_29 (dk_at dksX1_cafe_1 3 rfl rfl)
theorem dX1_cafe_28 : decode cX1_cafe 28 = .ok (.iload 4, 2) := dk_21 4 (dk_at dksX1_cafe_1 4 rfl rfl)
theorem dX1_cafe_30 : decode cX1_cafe 30 = .ok (.invokevirtual 121, 3) := dk_182 0 121 (dk_at dksX1_cafe_1 6 rfl rfl)
theorem dX1_cafe_33 : decode cX1_cafe 33 = .ok (.istore 5, 2) := dk_54 5 (dk_at dksX1_cafe_1 9 rfl rfl)
theorem dX1_cafe_35 : decode cX1_cafe 35 = .ok (.iload 5, 2) := dk_21 5 (dk_at dksX1_cafe_1 11 rfl rfl)
theorem dX1_cafe_37 : decode cX1_cafe 37 = .ok (.ifCond .eq 10, 3) := dk_153 0 10 (dk_at dksX1_cafe_1 13 rfl rfl)
theorem dX1_cafe_40 : decode cX1_cafe 40 = .ok (.aload_n 0, 1) := dk_42 (dk_at dksX1_cafe_1 16 rfl rfl)
theorem dX1_cafe_41 : decode cX1_cafe 41 = .ok (.iload 5, 2) := dk_21 5 (dk_at dksX1_cafe_1 17 rfl rfl)
theorem dX1_cafe_43 : decode cX1_cafe 43 = .ok (.invokevirtual 125, 3) := dk_182 0 125 (dk_at dksX1_cafe_1 19 rfl rfl)
theorem dX1_cafe_46 : decode cX1_cafe 46 = .ok (.ireturn, 1) := dk_172 (dk_at dksX1_cafe_1 22 rfl rfl)
theorem dX1_cafe_47 : decode cX1_cafe 47 = .ok (.bipush 40, 2) := dk_16 40 (dk_at dksX1_cafe_2 0 rfl rfl)
theorem dX1_cafe_49 : decode cX1_cafe 49 = .ok (.iload_n 1, 1) := dk_27 (dk_at dksX1_cafe_2 2 rfl rfl)
theorem dX1_cafe_50 : decode cX1_cafe 50 = .ok (.imul, 1) := dk_104 (dk_at dksX1_cafe_2 3 rfl rfl)
theorem dX1_cafe_51 : decode cX1_cafe 51 = .ok (.iload_n 3, 1) := dk_29 (dk_at dksX1_cafe_2 4 rfl rfl)
theorem dX1_cafe_52 : decode cX1_cafe 52 = .ok (.iadd, 1) := dk_96 (dk_at dksX1_cafe_2 5 rfl rfl)
theorem dX1_cafe_53 : decode cX1_cafe 53 = .ok (.istore 6, 2) := dk_54 6 (dk_at dksX1_cafe_2 6 rfl rfl)
theorem dX1_cafe_55 : decode cX1_cafe 55 = .ok (.aload_n 0, 1) := dk_42 (dk_at dksX1_cafe_2 8 rfl rfl)
theorem dX1_cafe_56 : decode cX1_cafe 56 = .ok (.iload 6, 2) := dk_21 6 (dk_at dksX1_cafe_2 9 rfl rfl)
theorem dX1_cafe_58 : decode cX1_cafe 58 = .ok (.putfield 111, 3) := dk_181 0 111 (dk_at dksX1_cafe_2 11 rfl rfl)
theorem dX1_cafe_61 : decode cX1_cafe 61 = .ok (.aload_n 0, 1) := dk_42 (dk_at dksX1_cafe_2 14 rfl rfl)
theorem dX1_cafe_62 : decode cX1_cafe 62 = .ok (.iload 6, 2) := dk_21 6 (dk_at dksX1_cafe_2 15 rfl rfl)
theorem dX1_cafe_64 : decode cX1_cafe 64 = .ok (.iload 4, 2) := dk_21 4 (dk_at dksX1_cafe_2 17 rfl rfl)
theorem dX1_cafe_66 : decode cX1_cafe 66 = .ok (.iadd, 1) := dk_96 (dk_at dksX1_cafe_2 19 rfl rfl)
theorem dX1_cafe_67 : decode cX1_cafe 67 = .ok (.invokevirtual 129, 3) := dk_182 0 129 (dk_at dksX1_cafe_2 20 rfl rfl)
theorem dX1_cafe_70 : decode cX1_cafe 70 = .ok (.ifCond .ne 14, 3) := dk_154 0 14 (dk_at dksX1_cafe_3 0 rfl rfl)
theorem dX1_cafe_73 : decode cX1_cafe 73 = .ok (.bipush (-100), 2) := dk_16 156 (dk_at dksX1_cafe_3 3 rfl rfl)
theorem dX1_cafe_75 : decode cX1_cafe 75 = .ok (.aload_n 0, 1) := dk_42 (dk_at dksX1_cafe_3 5 rfl rfl)
theorem dX1_cafe_76 : decode cX1_cafe 76 = .ok (.getfield 111, 3) := dk_180 0 111 (dk_at dksX1_cafe_3 6 rfl rfl)
theorem dX1_cafe_79 : decode cX1_cafe 79 = .ok (.iload 6, 2) := dk_21 6 (dk_at dksX1_cafe_3 9 rfl rfl)
theorem dX1_cafe_81 : decode cX1_cafe 81 = .ok (.isub, 1) := dk_100 (dk_at dksX1_cafe_3 11 rfl rfl)
theorem dX1_cafe_82 : decode cX1_cafe 82 = .ok (.isub, 1) := dk_100 (dk_at dksX1_cafe_3 12 rfl rfl)
theorem dX1_cafe_83 : decode cX1_cafe 83 = .ok (.ireturn, 1) := dk_172 (dk_at dksX1_cafe_3 13 rfl rfl)
theorem dX1_cafe_84 : decode cX1_cafe 84 = .ok (.aload_n 0, 1) := dk_42 (dk_at dksX1_cafe_3 14 rfl rfl)
theorem dX1_cafe_85 : decode cX1_cafe 85 = .ok (.aload_n 0, 1) := dk_42 (dk_at dksX1_cafe_3 15 rfl rfl)
theorem dX1_cafe_86 : decode cX1_cafe 86 = .ok (.getfield 132, 3) := dk_180 0 132 (dk_at dksX1_cafe_3 16 rfl rfl)
theorem dX1_cafe_89 : decode cX1_cafe 89 = .ok (.putfield 108, 3) := dk_181 0 108 (dk_at dksX1_cafe_3 19 rfl rfl)
theorem dX1_cafe_92 : decode cX1_cafe 92 = .ok (.iconst 0, 1) := dk_3 (dk_at dksX1_cafe_3 22 rfl rfl)
theorem dX1_cafe_93 : decode cX1_cafe 93 = .ok (.istore 7, 2) := dk_54 7 (dk_at dksX1_cafe_4 0 rfl rfl)
theorem dX1_cafe_95 : decode cX1_cafe 95 = .ok (.iload 7, 2) := dk_21 7 (dk_at dksX1_cafe_4 2 rfl rfl)
theorem dX1_cafe_97 : decode cX1_cafe 97 = .ok (.aload_n 0, 1) := dk_42 (dk_at dksX1_cafe_4 4 rfl rfl)
theorem dX1_cafe_98 : decode cX1_cafe 98 = .ok (.getfield 108, 3) := dk_180 0 108 (dk_at dksX1_cafe_4 5 rfl rfl)
theorem dX1_cafe_101 : decode cX1_cafe 101 = .ok (.if_icmp .ge 37, 3) := dk_162 0 37 (dk_at dksX1_cafe_4 8 rfl rfl)
theorem dX1_cafe_104 : decode cX1_cafe 104 = .ok (.aload_n 0, 1) := dk_42 (dk_at dksX1_cafe_4 11 rfl rfl)
theorem dX1_cafe_105 : decode cX1_cafe 105 = .ok (.getfield 19, 3) := dk_180 0 19 (dk_at dksX1_cafe_4 12 rfl rfl)
theorem dX1_cafe_108 : decode cX1_cafe 108 = .ok (.iload 7, 2) := dk_21 7 (dk_at dksX1_cafe_4 15 rfl rfl)
theorem dX1_cafe_110 : decode cX1_cafe 110 = .ok (.aload_n 0, 1) := dk_42 (dk_at dksX1_cafe_4 17 rfl rfl)
theorem dX1_cafe_111 : decode cX1_cafe 111 = .ok (.getfield 29, 3) := dk_180 0 29 (dk_at dksX1_cafe_4 18 rfl rfl)
theorem dX1_cafe_114 : decode cX1_cafe 114 = .ok (.iload 7, 2) := dk_21 7 (dk_at dksX1_cafe_4 21 rfl rfl)
theorem dX1_cafe_116 : decode cX1_cafe 116 = .ok (.iaload, 1) := dk_46 (dk_at dksX1_cafe_4 23 rfl rfl)
theorem dX1_cafe_117 : decode cX1_cafe 117 = .ok (.iastore, 1) := dk_79 (dk_at dksX1_cafe_5 0 rfl rfl)
theorem dX1_cafe_118 : decode cX1_cafe 118 = .ok (.aload_n 0, 1) := dk_42 (dk_at dksX1_cafe_5 1 rfl rfl)
theorem dX1_cafe_119 : decode cX1_cafe 119 = .ok (.getfield 22, 3) := dk_180 0 22 (dk_at dksX1_cafe_5 2 rfl rfl)
theorem dX1_cafe_122 : decode cX1_cafe 122 = .ok (.iload 7, 2) := dk_21 7 (dk_at dksX1_cafe_5 5 rfl rfl)
theorem dX1_cafe_124 : decode cX1_cafe 124 = .ok (.aload_n 0, 1) := dk_42 (dk_at dksX1_cafe_5 7 rfl rfl)
theorem dX1_cafe_125 : decode cX1_cafe 125 = .ok (.getfield 32, 3) := dk_180 0 32 (dk_at dksX1_cafe_5 8 rfl rfl)
theorem dX1_cafe_128 : decode cX1_cafe 128 = .ok (.iload 7, 2) := dk_21 7 (dk_at dksX1_cafe_5 11 rfl rfl)
theorem dX1_cafe_130 : decode cX1_cafe 130 = .ok (.iaload, 1) := dk_46 (dk_at dksX1_cafe_5 13 rfl rfl)
theorem dX1_cafe_131 : decode cX1_cafe 131 = .ok (.iastore, 1) := dk_79 (dk_at dksX1_cafe_5 14 rfl rfl)
theorem dX1_cafe_132 : decode cX1_cafe 132 = .ok (.iinc 7 1, 3) := dk_132 7 1 (dk_at dksX1_cafe_5 15 rfl rfl)
theorem dX1_cafe_135 : decode cX1_cafe 135 = .ok (.goto (-40), 3) := dk_167 255 216 (dk_at dksX1_cafe_5 18 rfl rfl)
theorem dX1_cafe_138 : decode cX1_cafe 138 = .ok (.aload_n 0, 1) := dk_42 (dk_at dksX1_cafe_5 21 rfl rfl)
theorem dX1_cafe_139 : decode cX1_cafe 139 = .ok (.iconst 0, 1) := dk_3 (dk_at dksX1_cafe_5 22 rfl rfl)
theorem dX1_cafe_140 : decode cX1_cafe 140 = .ok (.putfield 135, 3) := dk_181 0 135 (dk_at dksX1_cafe_6 0 rfl rfl)
theorem dX1_cafe_143 : decode cX1_cafe 143 = .ok (.aload_n 0, 1) := dk_42 (dk_at dksX1_cafe_6 3 rfl rfl)
theorem dX1_cafe_144 : decode cX1_cafe 144 = .ok (.iconst 0, 1) := dk_3 (dk_at dksX1_cafe_6 4 rfl rfl)
theorem dX1_cafe_145 : decode cX1_cafe 145 = .ok (.putfield 138, 3) := dk_181 0 138 (dk_at dksX1_cafe_6 5 rfl rfl)
theorem dX1_cafe_148 : decode cX1_cafe 148 = .ok (.aload_n 0, 1) := dk_42 (dk_at dksX1_cafe_6 8 rfl rfl)
theorem dX1_cafe_149 : decode cX1_cafe 149 = .ok (.iconst 0, 1) := dk_3 (dk_at dksX1_cafe_6 9 rfl rfl)
theorem dX1_cafe_150 : decode cX1_cafe 150 = .ok (.putfield 141, 3) := dk_181 0 141 (dk_at dksX1_cafe_6 10 rfl rfl)
theorem dX1_cafe_153 : decode cX1_cafe 153 = .ok (.aload_n 0, 1) := dk_42 (dk_at dksX1_cafe_6 13 rfl rfl)
theorem dX1_cafe_154 : decode cX1_cafe 154 = .ok (.iconst 0, 1) := dk_3 (dk_at dksX1_cafe_6 14 rfl rfl)
theorem dX1_cafe_155 : decode cX1_cafe 155 = .ok (.putfield 144, 3) := dk_181 0 144 (dk_at dksX1_cafe_6 15 rfl rfl)
theorem dX1_cafe_158 : decode cX1_cafe 158 = .ok (.aload_n 0, 1) := dk_42 (dk_at dksX1_cafe_6 18 rfl rfl)
theorem dX1_cafe_159 : decode cX1_cafe 159 = .ok (.bipush (-9), 2) := dk_16 247 (dk_at dksX1_cafe_6 19 rfl rfl)
theorem dX1_cafe_161 : decode cX1_cafe 161 = .ok (.putfield 25, 3) := dk_181 0 25 (dk_at dksX1_cafe_6 21 rfl rfl)
theorem dX1_cafe_164 : decode cX1_cafe 164 = .ok (.aload_n 0, 1) := dk_42 (dk_at dksX1_cafe_7 0 rfl rfl)
theorem dX1_cafe_165 : decode cX1_cafe 165 = .ok (.getfield 108, 3) := dk_180 0 108 (dk_at dksX1_cafe_7 1 rfl rfl)
theorem dX1_cafe_168 : decode cX1_cafe 168 = .ok (.ireturn, 1) := dk_172 (dk_at dksX1_cafe_7 4 rfl rfl)
abbrev cX1_isSheet : ByteArray := prog_12_method_7_code
def yX1_isSheet : MethodName := ⟨RX1, "isSheet", "(I)Z"⟩
def dkwX1_isSheet_0 : List UInt8 := [26, 3, 6, 184, 0, 104, 172]
abbrev dktX1_isSheet_0 : List UInt8 := dkwX1_isSheet_0 ++ []
theorem dksX1_isSheet_0 : cX1_isSheet.data.toList.drop 0 = dktX1_isSheet_0 := by decide +kernel
theorem dX1_isSheet_0 : decode cX1_isSheet 0 = .ok (.iload_n 0, 1) := dk_26 (dk_at dksX1_isSheet_0 0 rfl rfl)
theorem dX1_isSheet_1 : decode cX1_isSheet 1 = .ok (.iconst 0, 1) := dk_3 (dk_at dksX1_isSheet_0 1 rfl rfl)
theorem dX1_isSheet_2 : decode cX1_isSheet 2 = .ok (.iconst 3, 1) := dk_6 (dk_at dksX1_isSheet_0 2 rfl rfl)
theorem dX1_isSheet_3 : decode cX1_isSheet 3 = .ok (.invokestatic 104, 3) := dk_184 0 104 (dk_at dksX1_isSheet_0 3 rfl rfl)
theorem dX1_isSheet_6 : decode cX1_isSheet 6 = .ok (.ireturn, 1) := dk_172 (dk_at dksX1_isSheet_0 6 rfl rfl)
abbrev cX1_within : ByteArray := prog_12_method_5_code
def yX1_within : MethodName := ⟨RX1, "within", "(III)Z"⟩
def dkwX1_within_0 : List UInt8 := [26, 27, 161, 0, 12, 26, 28, 163, 0, 7, 4, 167, 0, 4, 3, 172]
abbrev dktX1_within_0 : List UInt8 := dkwX1_within_0 ++ []
theorem dksX1_within_0 : cX1_within.data.toList.drop 0 = dktX1_within_0 := by decide +kernel
theorem dX1_within_0 : decode cX1_within 0 = .ok (.iload_n 0, 1) := dk_26 (dk_at dksX1_within_0 0 rfl rfl)
theorem dX1_within_1 : decode cX1_within 1 = .ok (.iload_n 1, 1) := dk_27 (dk_at dksX1_within_0 1 rfl rfl)
theorem dX1_within_2 : decode cX1_within 2 = .ok (.if_icmp .lt 12, 3) := dk_161 0 12 (dk_at dksX1_within_0 2 rfl rfl)
theorem dX1_within_5 : decode cX1_within 5 = .ok (.iload_n 0, 1) := dk_26 (dk_at dksX1_within_0 5 rfl rfl)
theorem dX1_within_6 : decode cX1_within 6 = .ok (.iload_n 2, 1) := dk_28 (dk_at dksX1_within_0 6 rfl rfl)
theorem dX1_within_7 : decode cX1_within 7 = .ok (.if_icmp .gt 7, 3) := dk_163 0 7 (dk_at dksX1_within_0 7 rfl rfl)
theorem dX1_within_10 : decode cX1_within 10 = .ok (.iconst 1, 1) := dk_4 (dk_at dksX1_within_0 10 rfl rfl)
theorem dX1_within_11 : decode cX1_within 11 = .ok (.goto 4, 3) := dk_167 0 4 (dk_at dksX1_within_0 11 rfl rfl)
theorem dX1_within_14 : decode cX1_within 14 = .ok (.iconst 0, 1) := dk_3 (dk_at dksX1_within_0 14 rfl rfl)
theorem dX1_within_15 : decode cX1_within 15 = .ok (.ireturn, 1) := dk_172 (dk_at dksX1_within_0 15 rfl rfl)
abbrev cX1_isSort : ByteArray := prog_12_method_8_code
def yX1_isSort : MethodName := ⟨RX1, "isSort", "(I)Z"⟩
def dkwX1_isSort_0 : List UInt8 := [26, 3, 5, 184, 0, 104, 172]
abbrev dktX1_isSort_0 : List UInt8 := dkwX1_isSort_0 ++ []
theorem dksX1_isSort_0 : cX1_isSort.data.toList.drop 0 = dktX1_isSort_0 := by decide +kernel
theorem dX1_isSort_0 : decode cX1_isSort 0 = .ok (.iload_n 0, 1) := dk_26 (dk_at dksX1_isSort_0 0 rfl rfl)
theorem dX1_isSort_1 : decode cX1_isSort 1 = .ok (.iconst 0, 1) := dk_3 (dk_at dksX1_isSort_0 1 rfl rfl)
theorem dX1_isSort_2 : decode cX1_isSort 2 = .ok (.iconst 2, 1) := dk_5 (dk_at dksX1_isSort_0 2 rfl rfl)
theorem dX1_isSort_3 : decode cX1_isSort 3 = .ok (.invokestatic 104, 3) := dk_184 0 104 (dk_at dksX1_isSort_0 3 rfl rfl)
theorem dX1_isSort_6 : decode cX1_isSort 6 = .ok (.ireturn, 1) := dk_172 (dk_at dksX1_isSort_0 6 rfl rfl)
abbrev cX1_against : ByteArray := prog_12_method_9_code
def yX1_against : MethodName := ⟨RX1, "against", "(IIII)I"⟩
def dkwX1_against_3 : List UInt8 := [167, 0, 4, 3, 172]
abbrev dktX1_against_3 : List UInt8 := dkwX1_against_3 ++ []
def dkwX1_against_2 : List UInt8 := [42, 180, 0, 13, 27, 46, 163, 0, 16, 21, 4, 42, 180, 0, 13, 27, 46, 29, 100, 164, 0, 7, 6]
abbrev dktX1_against_2 : List UInt8 := dkwX1_against_2 ++ dktX1_against_3
def dkwX1_against_1 : List UInt8 := [180, 0, 9, 27, 46, 16, 247, 160, 0, 5, 4, 172, 21, 4, 156, 0, 5, 7, 172, 29, 155, 0, 26, 29]
abbrev dktX1_against_1 : List UInt8 := dkwX1_against_1 ++ dktX1_against_2
def dkwX1_against_0 : List UInt8 := [42, 180, 0, 9, 27, 46, 16, 247, 159, 0, 15, 42, 180, 0, 9, 27, 46, 28, 159, 0, 5, 5, 172, 42]
abbrev dktX1_against_0 : List UInt8 := dkwX1_against_0 ++ dktX1_against_1
theorem dksX1_against_0 : cX1_against.data.toList.drop 0 = dktX1_against_0 := by decide +kernel
theorem dksX1_against_1 : cX1_against.data.toList.drop 24 = dktX1_against_1 := dk_seg dksX1_against_0 24 rfl rfl
theorem dksX1_against_2 : cX1_against.data.toList.drop 48 = dktX1_against_2 := dk_seg dksX1_against_1 24 rfl rfl
theorem dksX1_against_3 : cX1_against.data.toList.drop 71 = dktX1_against_3 := dk_seg dksX1_against_2 23 rfl rfl
theorem dX1_against_0 : decode cX1_against 0 = .ok (.aload_n 0, 1) := dk_42 (dk_at dksX1_against_0 0 rfl rfl)
theorem dX1_against_1 : decode cX1_against 1 = .ok (.getfield 9, 3) := dk_180 0 9 (dk_at dksX1_against_0 1 rfl rfl)
theorem dX1_against_4 : decode cX1_against 4 = .ok (.iload_n 1, 1) := dk_27 (dk_at dksX1_against_0 4 rfl rfl)
theorem dX1_against_5 : decode cX1_against 5 = .ok (.iaload, 1) := dk_46 (dk_at dksX1_against_0 5 rfl rfl)
theorem dX1_against_6 : decode cX1_against 6 = .ok (.bipush (-9), 2) := dk_16 247 (dk_at dksX1_against_0 6 rfl rfl)
theorem dX1_against_8 : decode cX1_against 8 = .ok (.if_icmp .eq 15, 3) := dk_159 0 15 (dk_at dksX1_against_0 8 rfl rfl)
theorem dX1_against_11 : decode cX1_against 11 = .ok (.aload_n 0, 1) := dk_42 (dk_at dksX1_against_0 11 rfl rfl)
theorem dX1_against_12 : decode cX1_against 12 = .ok (.getfield 9, 3) := dk_180 0 9 (dk_at dksX1_against_0 12 rfl rfl)
theorem dX1_against_15 : decode cX1_against 15 = .ok (.iload_n 1, 1) := dk_27 (dk_at dksX1_against_0 15 rfl rfl)
theorem dX1_against_16 : decode cX1_against 16 = .ok (.iaload, 1) := dk_46 (dk_at dksX1_against_0 16 rfl rfl)
theorem dX1_against_17 : decode cX1_against 17 = .ok (.iload_n 2, 1) := dk_28 (dk_at dksX1_against_0 17 rfl rfl)
theorem dX1_against_18 : decode cX1_against 18 = .ok (.if_icmp .eq 5, 3) := dk_159 0 5 (dk_at dksX1_against_0 18 rfl rfl)
theorem dX1_against_21 : decode cX1_against 21 = .ok (.iconst 2, 1) := dk_5 (dk_at dksX1_against_0 21 rfl rfl)
theorem dX1_against_22 : decode cX1_against 22 = .ok (.ireturn, 1) := dk_172 (dk_at dksX1_against_0 22 rfl rfl)
theorem dX1_against_23 : decode cX1_against 23 = .ok (.aload_n 0, 1) := dk_42 (dk_at dksX1_against_0 23 rfl rfl)
theorem dX1_against_24 : decode cX1_against 24 = .ok (.getfield 9, 3) := dk_180 0 9 (dk_at dksX1_against_1 0 rfl rfl)
theorem dX1_against_27 : decode cX1_against 27 = .ok (.iload_n 1, 1) := dk_27 (dk_at dksX1_against_1 3 rfl rfl)
theorem dX1_against_28 : decode cX1_against 28 = .ok (.iaload, 1) := dk_46 (dk_at dksX1_against_1 4 rfl rfl)
theorem dX1_against_29 : decode cX1_against 29 = .ok (.bipush (-9), 2) := dk_16 247 (dk_at dksX1_against_1 5 rfl rfl)
theorem dX1_against_31 : decode cX1_against 31 = .ok (.if_icmp .ne 5, 3) := dk_160 0 5 (dk_at dksX1_against_1 7 rfl rfl)
theorem dX1_against_34 : decode cX1_against 34 = .ok (.iconst 1, 1) := dk_4 (dk_at dksX1_against_1 10 rfl rfl)
theorem dX1_against_35 : decode cX1_against 35 = .ok (.ireturn, 1) := dk_172 (dk_at dksX1_against_1 11 rfl rfl)
theorem dX1_against_36 : decode cX1_against 36 = .ok (.iload 4, 2) := dk_21 4 (dk_at dksX1_against_1 12 rfl rfl)
theorem dX1_against_38 : decode cX1_against 38 = .ok (.ifCond .ge 5, 3) := dk_156 0 5 (dk_at dksX1_against_1 14 rfl rfl)
theorem dX1_against_41 : decode cX1_against 41 = .ok (.iconst 4, 1) := dk_7 (dk_at dksX1_against_1 17 rfl rfl)
theorem dX1_against_42 : decode cX1_against 42 = .ok (.ireturn, 1) := dk_172 (dk_at dksX1_against_1 18 rfl rfl)
theorem dX1_against_43 : decode cX1_against 43 = .ok (.iload_n 3, 1) := dk_29 (dk_at dksX1_against_1 19 rfl rfl)
theorem dX1_against_44 : decode cX1_against 44 = .ok (.ifCond .lt 26, 3) := dk_155 0 26 (dk_at dksX1_against_1 20 rfl rfl)
theorem dX1_against_47 : decode cX1_against 47 = .ok (.iload_n 3, 1) := dk_29 (dk_at dksX1_against_1 23 rfl rfl)
theorem dX1_against_48 : decode cX1_against 48 = .ok (.aload_n 0, 1) := dk_42 (dk_at dksX1_against_2 0 rfl rfl)
theorem dX1_against_49 : decode cX1_against 49 = .ok (.getfield 13, 3) := dk_180 0 13 (dk_at dksX1_against_2 1 rfl rfl)
theorem dX1_against_52 : decode cX1_against 52 = .ok (.iload_n 1, 1) := dk_27 (dk_at dksX1_against_2 4 rfl rfl)
theorem dX1_against_53 : decode cX1_against 53 = .ok (.iaload, 1) := dk_46 (dk_at dksX1_against_2 5 rfl rfl)
theorem dX1_against_54 : decode cX1_against 54 = .ok (.if_icmp .gt 16, 3) := dk_163 0 16 (dk_at dksX1_against_2 6 rfl rfl)
theorem dX1_against_57 : decode cX1_against 57 = .ok (.iload 4, 2) := dk_21 4 (dk_at dksX1_against_2 9 rfl rfl)
theorem dX1_against_59 : decode cX1_against 59 = .ok (.aload_n 0, 1) := dk_42 (dk_at dksX1_against_2 11 rfl rfl)
theorem dX1_against_60 : decode cX1_against 60 = .ok (.getfield 13, 3) := dk_180 0 13 (dk_at dksX1_against_2 12 rfl rfl)
theorem dX1_against_63 : decode cX1_against 63 = .ok (.iload_n 1, 1) := dk_27 (dk_at dksX1_against_2 15 rfl rfl)
theorem dX1_against_64 : decode cX1_against 64 = .ok (.iaload, 1) := dk_46 (dk_at dksX1_against_2 16 rfl rfl)
theorem dX1_against_65 : decode cX1_against 65 = .ok (.iload_n 3, 1) := dk_29 (dk_at dksX1_against_2 17 rfl rfl)
theorem dX1_against_66 : decode cX1_against 66 = .ok (.isub, 1) := dk_100 (dk_at dksX1_against_2 18 rfl rfl)
theorem dX1_against_67 : decode cX1_against 67 = .ok (.if_icmp .le 7, 3) := dk_164 0 7 (dk_at dksX1_against_2 19 rfl rfl)
theorem dX1_against_70 : decode cX1_against 70 = .ok (.iconst 3, 1) := dk_6 (dk_at dksX1_against_2 22 rfl rfl)
theorem dX1_against_71 : decode cX1_against 71 = .ok (.goto 4, 3) := dk_167 0 4 (dk_at dksX1_against_3 0 rfl rfl)
theorem dX1_against_74 : decode cX1_against 74 = .ok (.iconst 0, 1) := dk_3 (dk_at dksX1_against_3 3 rfl rfl)
theorem dX1_against_75 : decode cX1_against 75 = .ok (.ireturn, 1) := dk_172 (dk_at dksX1_against_3 4 rfl rfl)
abbrev cX1_fails : ByteArray := prog_12_method_3_code
def yX1_fails : MethodName := ⟨RX1, "fails", "(I)I"⟩
def dkwX1_fails_0 : List UInt8 := [42, 27, 181, 0, 99, 16, 246, 27, 100, 172]
abbrev dktX1_fails_0 : List UInt8 := dkwX1_fails_0 ++ []
theorem dksX1_fails_0 : cX1_fails.data.toList.drop 0 = dktX1_fails_0 := by decide +kernel
theorem dX1_fails_0 : decode cX1_fails 0 = .ok (.aload_n 0, 1) := dk_42 (dk_at dksX1_fails_0 0 rfl rfl)
theorem dX1_fails_1 : decode cX1_fails 1 = .ok (.iload_n 1, 1) := dk_27 (dk_at dksX1_fails_0 1 rfl rfl)
theorem dX1_fails_2 : decode cX1_fails 2 = .ok (.putfield 99, 3) := dk_181 0 99 (dk_at dksX1_fails_0 2 rfl rfl)
theorem dX1_fails_5 : decode cX1_fails 5 = .ok (.bipush (-10), 2) := dk_16 246 (dk_at dksX1_fails_0 5 rfl rfl)
theorem dX1_fails_7 : decode cX1_fails 7 = .ok (.iload_n 1, 1) := dk_27 (dk_at dksX1_fails_0 7 rfl rfl)
theorem dX1_fails_8 : decode cX1_fails 8 = .ok (.isub, 1) := dk_100 (dk_at dksX1_fails_0 8 rfl rfl)
theorem dX1_fails_9 : decode cX1_fails 9 = .ok (.ireturn, 1) := dk_172 (dk_at dksX1_fails_0 9 rfl rfl)
abbrev cX1_readCafe : ByteArray := prog_12_method_13_code
def yX1_readCafe : MethodName := ⟨RX1, "readCafe", "(I)Z"⟩
def dkwX1_readCafe_8 : List UInt8 := [180, 0, 132, 4, 96, 181, 0, 132, 42, 89, 180, 0, 111, 4, 96, 181, 0, 111, 167, 255, 52, 4, 172]
abbrev dktX1_readCafe_8 : List UInt8 := dkwX1_readCafe_8 ++ []
def dkwX1_readCafe_7 : List UInt8 := [172, 42, 180, 0, 32, 42, 180, 0, 132, 42, 180, 0, 16, 42, 180, 0, 111, 46, 16, 48, 100, 79, 42, 89]
abbrev dktX1_readCafe_7 : List UInt8 := dkwX1_readCafe_7 ++ dktX1_readCafe_8
def dkwX1_readCafe_6 : List UInt8 := [27, 162, 0, 22, 42, 180, 0, 16, 42, 180, 0, 111, 46, 16, 49, 16, 54, 184, 0, 104, 154, 0, 5, 3]
abbrev dktX1_readCafe_6 : List UInt8 := dkwX1_readCafe_6 ++ dktX1_readCafe_7
def dkwX1_readCafe_5 : List UInt8 := [180, 0, 132, 5, 79, 167, 0, 5, 3, 172, 42, 89, 180, 0, 111, 4, 96, 181, 0, 111, 42, 180, 0, 111]
abbrev dktX1_readCafe_5 : List UInt8 := dkwX1_readCafe_5 ++ dktX1_readCafe_6
def dkwX1_readCafe_4 : List UInt8 := [180, 0, 132, 4, 79, 167, 0, 28, 42, 16, 105, 27, 182, 0, 148, 153, 0, 16, 42, 180, 0, 29, 42]
abbrev dktX1_readCafe_4 : List UInt8 := dkwX1_readCafe_4 ++ dktX1_readCafe_5
def dkwX1_readCafe_3 : List UInt8 := [42, 180, 0, 132, 3, 79, 167, 0, 51, 42, 16, 119, 27, 182, 0, 148, 153, 0, 16, 42, 180, 0, 29, 42]
abbrev dktX1_readCafe_3 : List UInt8 := dkwX1_readCafe_3 ++ dktX1_readCafe_4
def dkwX1_readCafe_2 : List UInt8 := [42, 89, 180, 0, 111, 4, 96, 181, 0, 111, 42, 16, 115, 27, 182, 0, 148, 153, 0, 16, 42, 180, 0, 29]
abbrev dktX1_readCafe_2 : List UInt8 := dkwX1_readCafe_2 ++ dktX1_readCafe_3
def dkwX1_readCafe_1 : List UInt8 := [158, 0, 34, 42, 180, 0, 132, 16, 6, 159, 0, 13, 42, 16, 59, 27, 182, 0, 148, 154, 0, 5, 3, 172]
abbrev dktX1_readCafe_1 : List UInt8 := dkwX1_readCafe_1 ++ dktX1_readCafe_2
def dkwX1_readCafe_0 : List UInt8 := [42, 3, 181, 0, 132, 42, 180, 0, 132, 153, 0, 11, 42, 180, 0, 111, 27, 162, 0, 195, 42, 180, 0, 132]
abbrev dktX1_readCafe_0 : List UInt8 := dkwX1_readCafe_0 ++ dktX1_readCafe_1
theorem dksX1_readCafe_0 : cX1_readCafe.data.toList.drop 0 = dktX1_readCafe_0 := by decide +kernel
theorem dksX1_readCafe_1 : cX1_readCafe.data.toList.drop 24 = dktX1_readCafe_1 := dk_seg dksX1_readCafe_0 24 rfl rfl
theorem dksX1_readCafe_2 : cX1_readCafe.data.toList.drop 48 = dktX1_readCafe_2 := dk_seg dksX1_readCafe_1 24 rfl rfl
theorem dksX1_readCafe_3 : cX1_readCafe.data.toList.drop 72 = dktX1_readCafe_3 := dk_seg dksX1_readCafe_2 24 rfl rfl
theorem dksX1_readCafe_4 : cX1_readCafe.data.toList.drop 96 = dktX1_readCafe_4 := dk_seg dksX1_readCafe_3 24 rfl rfl
theorem dksX1_readCafe_5 : cX1_readCafe.data.toList.drop 119 = dktX1_readCafe_5 := dk_seg dksX1_readCafe_4 23 rfl rfl
theorem dksX1_readCafe_6 : cX1_readCafe.data.toList.drop 143 = dktX1_readCafe_6 := dk_seg dksX1_readCafe_5 24 rfl rfl
theorem dksX1_readCafe_7 : cX1_readCafe.data.toList.drop 167 = dktX1_readCafe_7 := dk_seg dksX1_readCafe_6 24 rfl rfl
theorem dksX1_readCafe_8 : cX1_readCafe.data.toList.drop 191 = dktX1_readCafe_8 := dk_seg dksX1_readCafe_7 24 rfl rfl
theorem dX1_readCafe_0 : decode cX1_readCafe 0 = .ok (.aload_n 0, 1) := dk_42 (dk_at dksX1_readCafe_0 0 rfl rfl)
theorem dX1_readCafe_1 : decode cX1_readCafe 1 = .ok (.iconst 0, 1) := dk_3 (dk_at dksX1_readCafe_0 1 rfl rfl)
theorem dX1_readCafe_2 : decode cX1_readCafe 2 = .ok (.putfield 132, 3) := dk_181 0 132 (dk_at dksX1_readCafe_0 2 rfl rfl)
theorem dX1_readCafe_5 : decode cX1_readCafe 5 = .ok (.aload_n 0, 1) := dk_42 (dk_at dksX1_readCafe_0 5 rfl rfl)
theorem dX1_readCafe_6 : decode cX1_readCafe 6 = .ok (.getfield 132, 3) := dk_180 0 132 (dk_at dksX1_readCafe_0 6 rfl rfl)
theorem dX1_readCafe_9 : decode cX1_readCafe 9 = .ok (.ifCond .eq 11, 3) := dk_153 0 11 (dk_at dksX1_readCafe_0 9 rfl rfl)
theorem dX1_readCafe_12 : decode cX1_readCafe 12 = .ok (.aload_n 0, 1) := dk_42 (dk_at dksX1_readCafe_0 12 rfl rfl)
theorem dX1_readCafe_13 : decode cX1_readCafe 13 = .ok (.getfield 111, 3) := dk_180 0 111 (dk_at dksX1_readCafe_0 13 rfl rfl)
theorem dX1_readCafe_16 : decode cX1_readCafe 16 = .ok (.iload_n 1, 1) := dk_27 (dk_at dksX1_readCafe_0 16 rfl rfl)
theorem dX1_readCafe_17 : decode cX1_readCafe 17 = .ok (.if_icmp .ge 195, 3) := dk_162 0 195 (dk_at dksX1_readCafe_0 17 rfl rfl)
theorem dX1_readCafe_20 : decode cX1_readCafe 20 = .ok (.aload_n 0, 1) := dk_42 (dk_at dksX1_readCafe_0 20 rfl rfl)
theorem dX1_readCafe_21 : decode cX1_readCafe 21 = .ok (.getfield 132, 3) := dk_180 0 132 (dk_at dksX1_readCafe_0 21 rfl rfl)
theorem dX1_readCafe_24 : decode cX1_readCafe 24 = .ok (.ifCond .le 34, 3) := dk_158 0 34 (dk_at dksX1_readCafe_1 0 rfl rfl)
theorem dX1_readCafe_27 : decode cX1_readCafe 27 = .ok (.aload_n 0, 1) := dk_42 (dk_at dksX1_readCafe_1 3 rfl rfl)
theorem dX1_readCafe_28 : decode cX1_readCafe 28 = .ok (.getfield 132, 3) := dk_180 0 132 (dk_at dksX1_readCafe_1 4 rfl rfl)
theorem dX1_readCafe_31 : decode cX1_readCafe 31 = .ok (.bipush 6, 2) := dk_16 6 (dk_at dksX1_readCafe_1 7 rfl rfl)
theorem dX1_readCafe_33 : decode cX1_readCafe 33 = .ok (.if_icmp .eq 13, 3) := dk_159 0 13 (dk_at dksX1_readCafe_1 9 rfl rfl)
theorem dX1_readCafe_36 : decode cX1_readCafe 36 = .ok (.aload_n 0, 1) := dk_42 (dk_at dksX1_readCafe_1 12 rfl rfl)
theorem dX1_readCafe_37 : decode cX1_readCafe 37 = .ok (.bipush 59, 2) := dk_16 59 (dk_at dksX1_readCafe_1 13 rfl rfl)
theorem dX1_readCafe_39 : decode cX1_readCafe 39 = .ok (.iload_n 1, 1) := dk_27 (dk_at dksX1_readCafe_1 15 rfl rfl)
theorem dX1_readCafe_40 : decode cX1_readCafe 40 = .ok (.invokevirtual 148, 3) := dk_182 0 148 (dk_at dksX1_readCafe_1 16 rfl rfl)
theorem dX1_readCafe_43 : decode cX1_readCafe 43 = .ok (.ifCond .ne 5, 3) := dk_154 0 5 (dk_at dksX1_readCafe_1 19 rfl rfl)
theorem dX1_readCafe_46 : decode cX1_readCafe 46 = .ok (.iconst 0, 1) := dk_3 (dk_at dksX1_readCafe_1 22 rfl rfl)
theorem dX1_readCafe_47 : decode cX1_readCafe 47 = .ok (.ireturn, 1) := dk_172 (dk_at dksX1_readCafe_1 23 rfl rfl)
theorem dX1_readCafe_48 : decode cX1_readCafe 48 = .ok (.aload_n 0, 1) := dk_42 (dk_at dksX1_readCafe_2 0 rfl rfl)
theorem dX1_readCafe_49 : decode cX1_readCafe 49 = .ok (.dup, 1) := dk_89 (dk_at dksX1_readCafe_2 1 rfl rfl)
theorem dX1_readCafe_50 : decode cX1_readCafe 50 = .ok (.getfield 111, 3) := dk_180 0 111 (dk_at dksX1_readCafe_2 2 rfl rfl)
theorem dX1_readCafe_53 : decode cX1_readCafe 53 = .ok (.iconst 1, 1) := dk_4 (dk_at dksX1_readCafe_2 5 rfl rfl)
theorem dX1_readCafe_54 : decode cX1_readCafe 54 = .ok (.iadd, 1) := dk_96 (dk_at dksX1_readCafe_2 6 rfl rfl)
theorem dX1_readCafe_55 : decode cX1_readCafe 55 = .ok (.putfield 111, 3) := dk_181 0 111 (dk_at dksX1_readCafe_2 7 rfl rfl)
theorem dX1_readCafe_58 : decode cX1_readCafe 58 = .ok (.aload_n 0, 1) := dk_42 (dk_at dksX1_readCafe_2 10 rfl rfl)
theorem dX1_readCafe_59 : decode cX1_readCafe 59 = .ok (.bipush 115, 2) := dk_16 115 (dk_at dksX1_readCafe_2 11 rfl rfl)
theorem dX1_readCafe_61 : decode cX1_readCafe 61 = .ok (.iload_n 1, 1) := dk_27 (dk_at dksX1_readCafe_2 13 rfl rfl)
theorem dX1_readCafe_62 : decode cX1_readCafe 62 = .ok (.invokevirtual 148, 3) := dk_182 0 148 (dk_at dksX1_readCafe_2 14 rfl rfl)
theorem dX1_readCafe_65 : decode cX1_readCafe 65 = .ok (.ifCond .eq 16, 3) := dk_153 0 16 (dk_at dksX1_readCafe_2 17 rfl rfl)
theorem dX1_readCafe_68 : decode cX1_readCafe 68 = .ok (.aload_n 0, 1) := dk_42 (dk_at dksX1_readCafe_2 20 rfl rfl)
theorem dX1_readCafe_69 : decode cX1_readCafe 69 = .ok (.getfield 29, 3) := dk_180 0 29 (dk_at dksX1_readCafe_2 21 rfl rfl)
theorem dX1_readCafe_72 : decode cX1_readCafe 72 = .ok (.aload_n 0, 1) := dk_42 (dk_at dksX1_readCafe_3 0 rfl rfl)
theorem dX1_readCafe_73 : decode cX1_readCafe 73 = .ok (.getfield 132, 3) := dk_180 0 132 (dk_at dksX1_readCafe_3 1 rfl rfl)
theorem dX1_readCafe_76 : decode cX1_readCafe 76 = .ok (.iconst 0, 1) := dk_3 (dk_at dksX1_readCafe_3 4 rfl rfl)
theorem dX1_readCafe_77 : decode cX1_readCafe 77 = .ok (.iastore, 1) := dk_79 (dk_at dksX1_readCafe_3 5 rfl rfl)
theorem dX1_readCafe_78 : decode cX1_readCafe 78 = .ok (.goto 51, 3) := dk_167 0 51 (dk_at dksX1_readCafe_3 6 rfl rfl)
theorem dX1_readCafe_81 : decode cX1_readCafe 81 = .ok (.aload_n 0, 1) := dk_42 (dk_at dksX1_readCafe_3 9 rfl rfl)
theorem dX1_readCafe_82 : decode cX1_readCafe 82 = .ok (.bipush 119, 2) := dk_16 119 (dk_at dksX1_readCafe_3 10 rfl rfl)
theorem dX1_readCafe_84 : decode cX1_readCafe 84 = .ok (.iload_n 1, 1) := dk_27 (dk_at dksX1_readCafe_3 12 rfl rfl)
theorem dX1_readCafe_85 : decode cX1_readCafe 85 = .ok (.invokevirtual 148, 3) := dk_182 0 148 (dk_at dksX1_readCafe_3 13 rfl rfl)
theorem dX1_readCafe_88 : decode cX1_readCafe 88 = .ok (.ifCond .eq 16, 3) := dk_153 0 16 (dk_at dksX1_readCafe_3 16 rfl rfl)
theorem dX1_readCafe_91 : decode cX1_readCafe 91 = .ok (.aload_n 0, 1) := dk_42 (dk_at dksX1_readCafe_3 19 rfl rfl)
theorem dX1_readCafe_92 : decode cX1_readCafe 92 = .ok (.getfield 29, 3) := dk_180 0 29 (dk_at dksX1_readCafe_3 20 rfl rfl)
theorem dX1_readCafe_95 : decode cX1_readCafe 95 = .ok (.aload_n 0, 1) := dk_42 (dk_at dksX1_readCafe_3 23 rfl rfl)
theorem dX1_readCafe_96 : decode cX1_readCafe 96 = .ok (.getfield 132, 3) := dk_180 0 132 (dk_at dksX1_readCafe_4 0 rfl rfl)
theorem dX1_readCafe_99 : decode cX1_readCafe 99 = .ok (.iconst 1, 1) := dk_4 (dk_at dksX1_readCafe_4 3 rfl rfl)
theorem dX1_readCafe_100 : decode cX1_readCafe 100 = .ok (.iastore, 1) := dk_79 (dk_at dksX1_readCafe_4 4 rfl rfl)
theorem dX1_readCafe_101 : decode cX1_readCafe 101 = .ok (.goto 28, 3) := dk_167 0 28 (dk_at dksX1_readCafe_4 5 rfl rfl)
theorem dX1_readCafe_104 : decode cX1_readCafe 104 = .ok (.aload_n 0, 1) := dk_42 (dk_at dksX1_readCafe_4 8 rfl rfl)
theorem dX1_readCafe_105 : decode cX1_readCafe 105 = .ok (.bipush 105, 2) := dk_16 105 (dk_at dksX1_readCafe_4 9 rfl rfl)
theorem dX1_readCafe_107 : decode cX1_readCafe 107 = .ok (.iload_n 1, 1) := dk_27 (dk_at dksX1_readCafe_4 11 rfl rfl)
theorem dX1_readCafe_108 : decode cX1_readCafe 108 = .ok (.invokevirtual 148, 3) := dk_182 0 148 (dk_at dksX1_readCafe_4 12 rfl rfl)
theorem dX1_readCafe_111 : decode cX1_readCafe 111 = .ok (.ifCond .eq 16, 3) := dk_153 0 16 (dk_at dksX1_readCafe_4 15 rfl rfl)
theorem dX1_readCafe_114 : decode cX1_readCafe 114 = .ok (.aload_n 0, 1) := dk_42 (dk_at dksX1_readCafe_4 18 rfl rfl)
theorem dX1_readCafe_115 : decode cX1_readCafe 115 = .ok (.getfield 29, 3) := dk_180 0 29 (dk_at dksX1_readCafe_4 19 rfl rfl)
theorem dX1_readCafe_118 : decode cX1_readCafe 118 = .ok (.aload_n 0, 1) := dk_42 (dk_at dksX1_readCafe_4 22 rfl rfl)
theorem dX1_readCafe_119 : decode cX1_readCafe 119 = .ok (.getfield 132, 3) := dk_180 0 132 (dk_at dksX1_readCafe_5 0 rfl rfl)
theorem dX1_readCafe_122 : decode cX1_readCafe 122 = .ok (.iconst 2, 1) := dk_5 (dk_at dksX1_readCafe_5 3 rfl rfl)
theorem dX1_readCafe_123 : decode cX1_readCafe 123 = .ok (.iastore, 1) := dk_79 (dk_at dksX1_readCafe_5 4 rfl rfl)
theorem dX1_readCafe_124 : decode cX1_readCafe 124 = .ok (.goto 5, 3) := dk_167 0 5 (dk_at dksX1_readCafe_5 5 rfl rfl)
theorem dX1_readCafe_127 : decode cX1_readCafe 127 = .ok (.iconst 0, 1) := dk_3 (dk_at dksX1_readCafe_5 8 rfl rfl)
theorem dX1_readCafe_128 : decode cX1_readCafe 128 = .ok (.ireturn, 1) := dk_172 (dk_at dksX1_readCafe_5 9 rfl rfl)
theorem dX1_readCafe_129 : decode cX1_readCafe 129 = .ok (.aload_n 0, 1) := dk_42 (dk_at dksX1_readCafe_5 10 rfl rfl)
theorem dX1_readCafe_130 : decode cX1_readCafe 130 = .ok (.dup, 1) := dk_89 (dk_at dksX1_readCafe_5 11 rfl rfl)
theorem dX1_readCafe_131 : decode cX1_readCafe 131 = .ok (.getfield 111, 3) := dk_180 0 111 (dk_at dksX1_readCafe_5 12 rfl rfl)
theorem dX1_readCafe_134 : decode cX1_readCafe 134 = .ok (.iconst 1, 1) := dk_4 (dk_at dksX1_readCafe_5 15 rfl rfl)
theorem dX1_readCafe_135 : decode cX1_readCafe 135 = .ok (.iadd, 1) := dk_96 (dk_at dksX1_readCafe_5 16 rfl rfl)
theorem dX1_readCafe_136 : decode cX1_readCafe 136 = .ok (.putfield 111, 3) := dk_181 0 111 (dk_at dksX1_readCafe_5 17 rfl rfl)
theorem dX1_readCafe_139 : decode cX1_readCafe 139 = .ok (.aload_n 0, 1) := dk_42 (dk_at dksX1_readCafe_5 20 rfl rfl)
theorem dX1_readCafe_140 : decode cX1_readCafe 140 = .ok (.getfield 111, 3) := dk_180 0 111 (dk_at dksX1_readCafe_5 21 rfl rfl)
theorem dX1_readCafe_143 : decode cX1_readCafe 143 = .ok (.iload_n 1, 1) := dk_27 (dk_at dksX1_readCafe_6 0 rfl rfl)
theorem dX1_readCafe_144 : decode cX1_readCafe 144 = .ok (.if_icmp .ge 22, 3) := dk_162 0 22 (dk_at dksX1_readCafe_6 1 rfl rfl)
theorem dX1_readCafe_147 : decode cX1_readCafe 147 = .ok (.aload_n 0, 1) := dk_42 (dk_at dksX1_readCafe_6 4 rfl rfl)
theorem dX1_readCafe_148 : decode cX1_readCafe 148 = .ok (.getfield 16, 3) := dk_180 0 16 (dk_at dksX1_readCafe_6 5 rfl rfl)
theorem dX1_readCafe_151 : decode cX1_readCafe 151 = .ok (.aload_n 0, 1) := dk_42 (dk_at dksX1_readCafe_6 8 rfl rfl)
theorem dX1_readCafe_152 : decode cX1_readCafe 152 = .ok (.getfield 111, 3) := dk_180 0 111 (dk_at dksX1_readCafe_6 9 rfl rfl)
theorem dX1_readCafe_155 : decode cX1_readCafe 155 = .ok (.iaload, 1) := dk_46 (dk_at dksX1_readCafe_6 12 rfl rfl)
theorem dX1_readCafe_156 : decode cX1_readCafe 156 = .ok (.bipush 49, 2) := dk_16 49 (dk_at dksX1_readCafe_6 13 rfl rfl)
theorem dX1_readCafe_158 : decode cX1_readCafe 158 = .ok (.bipush 54, 2) := dk_16 54 (dk_at dksX1_readCafe_6 15 rfl rfl)
theorem dX1_readCafe_160 : decode cX1_readCafe 160 = .ok (.invokestatic 104, 3) := dk_184 0 104 (dk_at dksX1_readCafe_6 17 rfl rfl)
theorem dX1_readCafe_163 : decode cX1_readCafe 163 = .ok (.ifCond .ne 5, 3) := dk_154 0 5 (dk_at dksX1_readCafe_6 20 rfl rfl)
theorem dX1_readCafe_166 : decode cX1_readCafe 166 = .ok (.iconst 0, 1) := dk_3 (dk_at dksX1_readCafe_6 23 rfl rfl)
theorem dX1_readCafe_167 : decode cX1_readCafe 167 = .ok (.ireturn, 1) := dk_172 (dk_at dksX1_readCafe_7 0 rfl rfl)
theorem dX1_readCafe_168 : decode cX1_readCafe 168 = .ok (.aload_n 0, 1) := dk_42 (dk_at dksX1_readCafe_7 1 rfl rfl)
theorem dX1_readCafe_169 : decode cX1_readCafe 169 = .ok (.getfield 32, 3) := dk_180 0 32 (dk_at dksX1_readCafe_7 2 rfl rfl)
theorem dX1_readCafe_172 : decode cX1_readCafe 172 = .ok (.aload_n 0, 1) := dk_42 (dk_at dksX1_readCafe_7 5 rfl rfl)
theorem dX1_readCafe_173 : decode cX1_readCafe 173 = .ok (.getfield 132, 3) := dk_180 0 132 (dk_at dksX1_readCafe_7 6 rfl rfl)
theorem dX1_readCafe_176 : decode cX1_readCafe 176 = .ok (.aload_n 0, 1) := dk_42 (dk_at dksX1_readCafe_7 9 rfl rfl)
theorem dX1_readCafe_177 : decode cX1_readCafe 177 = .ok (.getfield 16, 3) := dk_180 0 16 (dk_at dksX1_readCafe_7 10 rfl rfl)
theorem dX1_readCafe_180 : decode cX1_readCafe 180 = .ok (.aload_n 0, 1) := dk_42 (dk_at dksX1_readCafe_7 13 rfl rfl)
theorem dX1_readCafe_181 : decode cX1_readCafe 181 = .ok (.getfield 111, 3) := dk_180 0 111 (dk_at dksX1_readCafe_7 14 rfl rfl)
theorem dX1_readCafe_184 : decode cX1_readCafe 184 = .ok (.iaload, 1) := dk_46 (dk_at dksX1_readCafe_7 17 rfl rfl)
theorem dX1_readCafe_185 : decode cX1_readCafe 185 = .ok (.bipush 48, 2) := dk_16 48 (dk_at dksX1_readCafe_7 18 rfl rfl)
theorem dX1_readCafe_187 : decode cX1_readCafe 187 = .ok (.isub, 1) := dk_100 (dk_at dksX1_readCafe_7 20 rfl rfl)
theorem dX1_readCafe_188 : decode cX1_readCafe 188 = .ok (.iastore, 1) := dk_79 (dk_at dksX1_readCafe_7 21 rfl rfl)
theorem dX1_readCafe_189 : decode cX1_readCafe 189 = .ok (.aload_n 0, 1) := dk_42 (dk_at dksX1_readCafe_7 22 rfl rfl)
theorem dX1_readCafe_190 : decode cX1_readCafe 190 = .ok (.dup, 1) := dk_89 (dk_at dksX1_readCafe_7 23 rfl rfl)
theorem dX1_readCafe_191 : decode cX1_readCafe 191 = .ok (.getfield 132, 3) := dk_180 0 132 (dk_at dksX1_readCafe_8 0 rfl rfl)
theorem dX1_readCafe_194 : decode cX1_readCafe 194 = .ok (.iconst 1, 1) := dk_4 (dk_at dksX1_readCafe_8 3 rfl rfl)
theorem dX1_readCafe_195 : decode cX1_readCafe 195 = .ok (.iadd, 1) := dk_96 (dk_at dksX1_readCafe_8 4 rfl rfl)
theorem dX1_readCafe_196 : decode cX1_readCafe 196 = .ok (.putfield 132, 3) := dk_181 0 132 (dk_at dksX1_readCafe_8 5 rfl rfl)
theorem dX1_readCafe_199 : decode cX1_readCafe 199 = .ok (.aload_n 0, 1) := dk_42 (dk_at dksX1_readCafe_8 8 rfl rfl)
theorem dX1_readCafe_200 : decode cX1_readCafe 200 = .ok (.dup, 1) := dk_89 (dk_at dksX1_readCafe_8 9 rfl rfl)
theorem dX1_readCafe_201 : decode cX1_readCafe 201 = .ok (.getfield 111, 3) := dk_180 0 111 (dk_at dksX1_readCafe_8 10 rfl rfl)
theorem dX1_readCafe_204 : decode cX1_readCafe 204 = .ok (.iconst 1, 1) := dk_4 (dk_at dksX1_readCafe_8 13 rfl rfl)
theorem dX1_readCafe_205 : decode cX1_readCafe 205 = .ok (.iadd, 1) := dk_96 (dk_at dksX1_readCafe_8 14 rfl rfl)
theorem dX1_readCafe_206 : decode cX1_readCafe 206 = .ok (.putfield 111, 3) := dk_181 0 111 (dk_at dksX1_readCafe_8 15 rfl rfl)
theorem dX1_readCafe_209 : decode cX1_readCafe 209 = .ok (.goto (-204), 3) := dk_167 255 52 (dk_at dksX1_readCafe_8 18 rfl rfl)
theorem dX1_readCafe_212 : decode cX1_readCafe 212 = .ok (.iconst 1, 1) := dk_4 (dk_at dksX1_readCafe_8 21 rfl rfl)
theorem dX1_readCafe_213 : decode cX1_readCafe 213 = .ok (.ireturn, 1) := dk_172 (dk_at dksX1_readCafe_8 22 rfl rfl)
abbrev cX1_isCode : ByteArray := prog_12_method_11_code
def yX1_isCode : MethodName := ⟨RX1, "isCode", "(II)Z"⟩
def dkwX1_isCode_1 : List UInt8 := [167, 0, 4, 3, 172]
abbrev dktX1_isCode_1 : List UInt8 := dkwX1_isCode_1 ++ []
def dkwX1_isCode_0 : List UInt8 := [42, 180, 0, 111, 28, 162, 0, 20, 42, 180, 0, 16, 42, 180, 0, 111, 46, 27, 160, 0, 7, 4]
abbrev dktX1_isCode_0 : List UInt8 := dkwX1_isCode_0 ++ dktX1_isCode_1
theorem dksX1_isCode_0 : cX1_isCode.data.toList.drop 0 = dktX1_isCode_0 := by decide +kernel
theorem dksX1_isCode_1 : cX1_isCode.data.toList.drop 22 = dktX1_isCode_1 := dk_seg dksX1_isCode_0 22 rfl rfl
theorem dX1_isCode_0 : decode cX1_isCode 0 = .ok (.aload_n 0, 1) := dk_42 (dk_at dksX1_isCode_0 0 rfl rfl)
theorem dX1_isCode_1 : decode cX1_isCode 1 = .ok (.getfield 111, 3) := dk_180 0 111 (dk_at dksX1_isCode_0 1 rfl rfl)
theorem dX1_isCode_4 : decode cX1_isCode 4 = .ok (.iload_n 2, 1) := dk_28 (dk_at dksX1_isCode_0 4 rfl rfl)
theorem dX1_isCode_5 : decode cX1_isCode 5 = .ok (.if_icmp .ge 20, 3) := dk_162 0 20 (dk_at dksX1_isCode_0 5 rfl rfl)
theorem dX1_isCode_8 : decode cX1_isCode 8 = .ok (.aload_n 0, 1) := dk_42 (dk_at dksX1_isCode_0 8 rfl rfl)
theorem dX1_isCode_9 : decode cX1_isCode 9 = .ok (.getfield 16, 3) := dk_180 0 16 (dk_at dksX1_isCode_0 9 rfl rfl)
theorem dX1_isCode_12 : decode cX1_isCode 12 = .ok (.aload_n 0, 1) := dk_42 (dk_at dksX1_isCode_0 12 rfl rfl)
theorem dX1_isCode_13 : decode cX1_isCode 13 = .ok (.getfield 111, 3) := dk_180 0 111 (dk_at dksX1_isCode_0 13 rfl rfl)
theorem dX1_isCode_16 : decode cX1_isCode 16 = .ok (.iaload, 1) := dk_46 (dk_at dksX1_isCode_0 16 rfl rfl)
theorem dX1_isCode_17 : decode cX1_isCode 17 = .ok (.iload_n 1, 1) := dk_27 (dk_at dksX1_isCode_0 17 rfl rfl)
theorem dX1_isCode_18 : decode cX1_isCode 18 = .ok (.if_icmp .ne 7, 3) := dk_160 0 7 (dk_at dksX1_isCode_0 18 rfl rfl)
theorem dX1_isCode_21 : decode cX1_isCode 21 = .ok (.iconst 1, 1) := dk_4 (dk_at dksX1_isCode_0 21 rfl rfl)
theorem dX1_isCode_22 : decode cX1_isCode 22 = .ok (.goto 4, 3) := dk_167 0 4 (dk_at dksX1_isCode_1 0 rfl rfl)
theorem dX1_isCode_25 : decode cX1_isCode 25 = .ok (.iconst 0, 1) := dk_3 (dk_at dksX1_isCode_1 3 rfl rfl)
theorem dX1_isCode_26 : decode cX1_isCode 26 = .ok (.ireturn, 1) := dk_172 (dk_at dksX1_isCode_1 4 rfl rfl)
abbrev cX1_ofTable : ByteArray := prog_12_method_14_code
def yX1_ofTable : MethodName := ⟨RX1, "ofTable", "(II)I"⟩
def dkwX1_ofTable_1 : List UInt8 := [167, 0, 19, 28, 4, 160, 0, 12, 42, 180, 0, 22, 27, 46, 167, 0, 5, 16, 254, 172]
abbrev dktX1_ofTable_1 : List UInt8 := dkwX1_ofTable_1 ++ []
def dkwX1_ofTable_0 : List UInt8 := [27, 155, 0, 11, 27, 42, 180, 0, 108, 161, 0, 5, 2, 172, 28, 154, 0, 12, 42, 180, 0, 19, 27, 46]
abbrev dktX1_ofTable_0 : List UInt8 := dkwX1_ofTable_0 ++ dktX1_ofTable_1
theorem dksX1_ofTable_0 : cX1_ofTable.data.toList.drop 0 = dktX1_ofTable_0 := by decide +kernel
theorem dksX1_ofTable_1 : cX1_ofTable.data.toList.drop 24 = dktX1_ofTable_1 := dk_seg dksX1_ofTable_0 24 rfl rfl
theorem dX1_ofTable_0 : decode cX1_ofTable 0 = .ok (.iload_n 1, 1) := dk_27 (dk_at dksX1_ofTable_0 0 rfl rfl)
theorem dX1_ofTable_1 : decode cX1_ofTable 1 = .ok (.ifCond .lt 11, 3) := dk_155 0 11 (dk_at dksX1_ofTable_0 1 rfl rfl)
theorem dX1_ofTable_4 : decode cX1_ofTable 4 = .ok (.iload_n 1, 1) := dk_27 (dk_at dksX1_ofTable_0 4 rfl rfl)
theorem dX1_ofTable_5 : decode cX1_ofTable 5 = .ok (.aload_n 0, 1) := dk_42 (dk_at dksX1_ofTable_0 5 rfl rfl)
theorem dX1_ofTable_6 : decode cX1_ofTable 6 = .ok (.getfield 108, 3) := dk_180 0 108 (dk_at dksX1_ofTable_0 6 rfl rfl)
theorem dX1_ofTable_9 : decode cX1_ofTable 9 = .ok (.if_icmp .lt 5, 3) := dk_161 0 5 (dk_at dksX1_ofTable_0 9 rfl rfl)
theorem dX1_ofTable_12 : decode cX1_ofTable 12 = .ok (.iconst (-1), 1) := dk_2 (dk_at dksX1_ofTable_0 12 rfl rfl)
theorem dX1_ofTable_13 : decode cX1_ofTable 13 = .ok (.ireturn, 1) := dk_172 (dk_at dksX1_ofTable_0 13 rfl rfl)
theorem dX1_ofTable_14 : decode cX1_ofTable 14 = .ok (.iload_n 2, 1) := dk_28 (dk_at dksX1_ofTable_0 14 rfl rfl)
theorem dX1_ofTable_15 : decode cX1_ofTable 15 = .ok (.ifCond .ne 12, 3) := dk_154 0 12 (dk_at dksX1_ofTable_0 15 rfl rfl)
theorem dX1_ofTable_18 : decode cX1_ofTable 18 = .ok (.aload_n 0, 1) := dk_42 (dk_at dksX1_ofTable_0 18 rfl rfl)
theorem dX1_ofTable_19 : decode cX1_ofTable 19 = .ok (.getfield 19, 3) := dk_180 0 19 (dk_at dksX1_ofTable_0 19 rfl rfl)
theorem dX1_ofTable_22 : decode cX1_ofTable 22 = .ok (.iload_n 1, 1) := dk_27 (dk_at dksX1_ofTable_0 22 rfl rfl)
theorem dX1_ofTable_23 : decode cX1_ofTable 23 = .ok (.iaload, 1) := dk_46 (dk_at dksX1_ofTable_0 23 rfl rfl)
theorem dX1_ofTable_24 : decode cX1_ofTable 24 = .ok (.goto 19, 3) := dk_167 0 19 (dk_at dksX1_ofTable_1 0 rfl rfl)
theorem dX1_ofTable_27 : decode cX1_ofTable 27 = .ok (.iload_n 2, 1) := dk_28 (dk_at dksX1_ofTable_1 3 rfl rfl)
theorem dX1_ofTable_28 : decode cX1_ofTable 28 = .ok (.iconst 1, 1) := dk_4 (dk_at dksX1_ofTable_1 4 rfl rfl)
theorem dX1_ofTable_29 : decode cX1_ofTable 29 = .ok (.if_icmp .ne 12, 3) := dk_160 0 12 (dk_at dksX1_ofTable_1 5 rfl rfl)
theorem dX1_ofTable_32 : decode cX1_ofTable 32 = .ok (.aload_n 0, 1) := dk_42 (dk_at dksX1_ofTable_1 8 rfl rfl)
theorem dX1_ofTable_33 : decode cX1_ofTable 33 = .ok (.getfield 22, 3) := dk_180 0 22 (dk_at dksX1_ofTable_1 9 rfl rfl)
theorem dX1_ofTable_36 : decode cX1_ofTable 36 = .ok (.iload_n 1, 1) := dk_27 (dk_at dksX1_ofTable_1 12 rfl rfl)
theorem dX1_ofTable_37 : decode cX1_ofTable 37 = .ok (.iaload, 1) := dk_46 (dk_at dksX1_ofTable_1 13 rfl rfl)
theorem dX1_ofTable_38 : decode cX1_ofTable 38 = .ok (.goto 5, 3) := dk_167 0 5 (dk_at dksX1_ofTable_1 14 rfl rfl)
theorem dX1_ofTable_41 : decode cX1_ofTable 41 = .ok (.bipush (-2), 2) := dk_16 254 (dk_at dksX1_ofTable_1 17 rfl rfl)
theorem dX1_ofTable_43 : decode cX1_ofTable 43 = .ok (.ireturn, 1) := dk_172 (dk_at dksX1_ofTable_1 19 rfl rfl)
abbrev cX1_rule : ByteArray := prog_12_method_15_code
def yX1_rule : MethodName := ⟨RX1, "rule", "(I)I"⟩
def dkwX1_rule_1 : List UInt8 := [180, 0, 138, 61, 42, 27, 181, 0, 138, 28, 172]
abbrev dktX1_rule_1 : List UInt8 := dkwX1_rule_1 ++ []
def dkwX1_rule_0 : List UInt8 := [27, 3, 5, 184, 0, 104, 154, 0, 6, 16, 254, 172, 42, 182, 0, 152, 154, 0, 6, 16, 253, 172, 42]
abbrev dktX1_rule_0 : List UInt8 := dkwX1_rule_0 ++ dktX1_rule_1
theorem dksX1_rule_0 : cX1_rule.data.toList.drop 0 = dktX1_rule_0 := by decide +kernel
theorem dksX1_rule_1 : cX1_rule.data.toList.drop 23 = dktX1_rule_1 := dk_seg dksX1_rule_0 23 rfl rfl
theorem dX1_rule_0 : decode cX1_rule 0 = .ok (.iload_n 1, 1) := dk_27 (dk_at dksX1_rule_0 0 rfl rfl)
theorem dX1_rule_1 : decode cX1_rule 1 = .ok (.iconst 0, 1) := dk_3 (dk_at dksX1_rule_0 1 rfl rfl)
theorem dX1_rule_2 : decode cX1_rule 2 = .ok (.iconst 2, 1) := dk_5 (dk_at dksX1_rule_0 2 rfl rfl)
theorem dX1_rule_3 : decode cX1_rule 3 = .ok (.invokestatic 104, 3) := dk_184 0 104 (dk_at dksX1_rule_0 3 rfl rfl)
theorem dX1_rule_6 : decode cX1_rule 6 = .ok (.ifCond .ne 6, 3) := dk_154 0 6 (dk_at dksX1_rule_0 6 rfl rfl)
theorem dX1_rule_9 : decode cX1_rule 9 = .ok (.bipush (-2), 2) := dk_16 254 (dk_at dksX1_rule_0 9 rfl rfl)
theorem dX1_rule_11 : decode cX1_rule 11 = .ok (.ireturn, 1) := dk_172 (dk_at dksX1_rule_0 11 rfl rfl)
theorem dX1_rule_12 : decode cX1_rule 12 = .ok (.aload_n 0, 1) := dk_42 (dk_at dksX1_rule_0 12 rfl rfl)
theorem dX1_rule_13 : decode cX1_rule 13 = .ok (.invokevirtual 152, 3) := dk_182 0 152 (dk_at dksX1_rule_0 13 rfl rfl)
theorem dX1_rule_16 : decode cX1_rule 16 = .ok (.ifCond .ne 6, 3) := dk_154 0 6 (dk_at dksX1_rule_0 16 rfl rfl)
theorem dX1_rule_19 : decode cX1_rule 19 = .ok (.bipush (-3), 2) := dk_16 253 (dk_at dksX1_rule_0 19 rfl rfl)
theorem dX1_rule_21 : decode cX1_rule 21 = .ok (.ireturn, 1) := dk_172 (dk_at dksX1_rule_0 21 rfl rfl)
theorem dX1_rule_22 : decode cX1_rule 22 = .ok (.aload_n 0, 1) := dk_42 (dk_at dksX1_rule_0 22 rfl rfl)
theorem dX1_rule_23 : decode cX1_rule 23 = .ok (.getfield 138, 3) := dk_180 0 138 (dk_at dksX1_rule_1 0 rfl rfl)
theorem dX1_rule_26 : decode cX1_rule 26 = .ok (.istore_n 2, 1) := dk_61 (dk_at dksX1_rule_1 3 rfl rfl)
theorem dX1_rule_27 : decode cX1_rule 27 = .ok (.aload_n 0, 1) := dk_42 (dk_at dksX1_rule_1 4 rfl rfl)
theorem dX1_rule_28 : decode cX1_rule 28 = .ok (.iload_n 1, 1) := dk_27 (dk_at dksX1_rule_1 5 rfl rfl)
theorem dX1_rule_29 : decode cX1_rule 29 = .ok (.putfield 138, 3) := dk_181 0 138 (dk_at dksX1_rule_1 6 rfl rfl)
theorem dX1_rule_32 : decode cX1_rule 32 = .ok (.iload_n 2, 1) := dk_28 (dk_at dksX1_rule_1 9 rfl rfl)
theorem dX1_rule_33 : decode cX1_rule 33 = .ok (.ireturn, 1) := dk_172 (dk_at dksX1_rule_1 10 rfl rfl)
abbrev cX1_isCafe : ByteArray := prog_12_method_10_code
def yX1_isCafe : MethodName := ⟨RX1, "isCafe", "()Z"⟩
def dkwX1_isCafe_0 : List UInt8 := [42, 180, 0, 108, 158, 0, 7, 4, 167, 0, 4, 3, 172]
abbrev dktX1_isCafe_0 : List UInt8 := dkwX1_isCafe_0 ++ []
theorem dksX1_isCafe_0 : cX1_isCafe.data.toList.drop 0 = dktX1_isCafe_0 := by decide +kernel
theorem dX1_isCafe_0 : decode cX1_isCafe 0 = .ok (.aload_n 0, 1) := dk_42 (dk_at dksX1_isCafe_0 0 rfl rfl)
theorem dX1_isCafe_1 : decode cX1_isCafe 1 = .ok (.getfield 108, 3) := dk_180 0 108 (dk_at dksX1_isCafe_0 1 rfl rfl)
theorem dX1_isCafe_4 : decode cX1_isCafe 4 = .ok (.ifCond .le 7, 3) := dk_158 0 7 (dk_at dksX1_isCafe_0 4 rfl rfl)
theorem dX1_isCafe_7 : decode cX1_isCafe 7 = .ok (.iconst 1, 1) := dk_4 (dk_at dksX1_isCafe_0 7 rfl rfl)
theorem dX1_isCafe_8 : decode cX1_isCafe 8 = .ok (.goto 4, 3) := dk_167 0 4 (dk_at dksX1_isCafe_0 8 rfl rfl)
theorem dX1_isCafe_11 : decode cX1_isCafe 11 = .ok (.iconst 0, 1) := dk_3 (dk_at dksX1_isCafe_0 11 rfl rfl)
theorem dX1_isCafe_12 : decode cX1_isCafe 12 = .ok (.ireturn, 1) := dk_172 (dk_at dksX1_isCafe_0 12 rfl rfl)
abbrev cX1_patience : ByteArray := prog_12_method_16_code
def yX1_patience : MethodName := ⟨RX1, "patience", "(I)I"⟩
def dkwX1_patience_1 : List UInt8 := [180, 0, 141, 61, 42, 27, 181, 0, 141, 28, 172]
abbrev dktX1_patience_1 : List UInt8 := dkwX1_patience_1 ++ []
def dkwX1_patience_0 : List UInt8 := [27, 3, 16, 30, 184, 0, 104, 154, 0, 6, 16, 254, 172, 42, 182, 0, 152, 154, 0, 6, 16, 253, 172, 42]
abbrev dktX1_patience_0 : List UInt8 := dkwX1_patience_0 ++ dktX1_patience_1
theorem dksX1_patience_0 : cX1_patience.data.toList.drop 0 = dktX1_patience_0 := by decide +kernel
theorem dksX1_patience_1 : cX1_patience.data.toList.drop 24 = dktX1_patience_1 := dk_seg dksX1_patience_0 24 rfl rfl
theorem dX1_patience_0 : decode cX1_patience 0 = .ok (.iload_n 1, 1) := dk_27 (dk_at dksX1_patience_0 0 rfl rfl)
theorem dX1_patience_1 : decode cX1_patience 1 = .ok (.iconst 0, 1) := dk_3 (dk_at dksX1_patience_0 1 rfl rfl)
theorem dX1_patience_2 : decode cX1_patience 2 = .ok (.bipush 30, 2) := dk_16 30 (dk_at dksX1_patience_0 2 rfl rfl)
theorem dX1_patience_4 : decode cX1_patience 4 = .ok (.invokestatic 104, 3) := dk_184 0 104 (dk_at dksX1_patience_0 4 rfl rfl)
theorem dX1_patience_7 : decode cX1_patience 7 = .ok (.ifCond .ne 6, 3) := dk_154 0 6 (dk_at dksX1_patience_0 7 rfl rfl)
theorem dX1_patience_10 : decode cX1_patience 10 = .ok (.bipush (-2), 2) := dk_16 254 (dk_at dksX1_patience_0 10 rfl rfl)
theorem dX1_patience_12 : decode cX1_patience 12 = .ok (.ireturn, 1) := dk_172 (dk_at dksX1_patience_0 12 rfl rfl)
theorem dX1_patience_13 : decode cX1_patience 13 = .ok (.aload_n 0, 1) := dk_42 (dk_at dksX1_patience_0 13 rfl rfl)
theorem dX1_patience_14 : decode cX1_patience 14 = .ok (.invokevirtual 152, 3) := dk_182 0 152 (dk_at dksX1_patience_0 14 rfl rfl)
theorem dX1_patience_17 : decode cX1_patience 17 = .ok (.ifCond .ne 6, 3) := dk_154 0 6 (dk_at dksX1_patience_0 17 rfl rfl)
theorem dX1_patience_20 : decode cX1_patience 20 = .ok (.bipush (-3), 2) := dk_16 253 (dk_at dksX1_patience_0 20 rfl rfl)
theorem dX1_patience_22 : decode cX1_patience 22 = .ok (.ireturn, 1) := dk_172 (dk_at dksX1_patience_0 22 rfl rfl)
theorem dX1_patience_23 : decode cX1_patience 23 = .ok (.aload_n 0, 1) := dk_42 (dk_at dksX1_patience_0 23 rfl rfl)
theorem dX1_patience_24 : decode cX1_patience 24 = .ok (.getfield 141, 3) := dk_180 0 141 (dk_at dksX1_patience_1 0 rfl rfl)
theorem dX1_patience_27 : decode cX1_patience 27 = .ok (.istore_n 2, 1) := dk_61 (dk_at dksX1_patience_1 3 rfl rfl)
theorem dX1_patience_28 : decode cX1_patience 28 = .ok (.aload_n 0, 1) := dk_42 (dk_at dksX1_patience_1 4 rfl rfl)
theorem dX1_patience_29 : decode cX1_patience 29 = .ok (.iload_n 1, 1) := dk_27 (dk_at dksX1_patience_1 5 rfl rfl)
theorem dX1_patience_30 : decode cX1_patience 30 = .ok (.putfield 141, 3) := dk_181 0 141 (dk_at dksX1_patience_1 6 rfl rfl)
theorem dX1_patience_33 : decode cX1_patience 33 = .ok (.iload_n 2, 1) := dk_28 (dk_at dksX1_patience_1 9 rfl rfl)
theorem dX1_patience_34 : decode cX1_patience 34 = .ok (.ireturn, 1) := dk_172 (dk_at dksX1_patience_1 10 rfl rfl)
abbrev cX1_joining : ByteArray := prog_12_method_17_code
def yX1_joining : MethodName := ⟨RX1, "joining", "(Z)I"⟩
def dkwX1_joining_1 : List UInt8 := [160, 0, 7, 3, 167, 0, 4, 4, 172]
abbrev dktX1_joining_1 : List UInt8 := dkwX1_joining_1 ++ []
def dkwX1_joining_0 : List UInt8 := [42, 182, 0, 152, 154, 0, 6, 16, 253, 172, 42, 180, 0, 144, 61, 42, 27, 181, 0, 144, 28, 27]
abbrev dktX1_joining_0 : List UInt8 := dkwX1_joining_0 ++ dktX1_joining_1
theorem dksX1_joining_0 : cX1_joining.data.toList.drop 0 = dktX1_joining_0 := by decide +kernel
theorem dksX1_joining_1 : cX1_joining.data.toList.drop 22 = dktX1_joining_1 := dk_seg dksX1_joining_0 22 rfl rfl
theorem dX1_joining_0 : decode cX1_joining 0 = .ok (.aload_n 0, 1) := dk_42 (dk_at dksX1_joining_0 0 rfl rfl)
theorem dX1_joining_1 : decode cX1_joining 1 = .ok (.invokevirtual 152, 3) := dk_182 0 152 (dk_at dksX1_joining_0 1 rfl rfl)
theorem dX1_joining_4 : decode cX1_joining 4 = .ok (.ifCond .ne 6, 3) := dk_154 0 6 (dk_at dksX1_joining_0 4 rfl rfl)
theorem dX1_joining_7 : decode cX1_joining 7 = .ok (.bipush (-3), 2) := dk_16 253 (dk_at dksX1_joining_0 7 rfl rfl)
theorem dX1_joining_9 : decode cX1_joining 9 = .ok (.ireturn, 1) := dk_172 (dk_at dksX1_joining_0 9 rfl rfl)
theorem dX1_joining_10 : decode cX1_joining 10 = .ok (.aload_n 0, 1) := dk_42 (dk_at dksX1_joining_0 10 rfl rfl)
theorem dX1_joining_11 : decode cX1_joining 11 = .ok (.getfield 144, 3) := dk_180 0 144 (dk_at dksX1_joining_0 11 rfl rfl)
theorem dX1_joining_14 : decode cX1_joining 14 = .ok (.istore_n 2, 1) := dk_61 (dk_at dksX1_joining_0 14 rfl rfl)
theorem dX1_joining_15 : decode cX1_joining 15 = .ok (.aload_n 0, 1) := dk_42 (dk_at dksX1_joining_0 15 rfl rfl)
theorem dX1_joining_16 : decode cX1_joining 16 = .ok (.iload_n 1, 1) := dk_27 (dk_at dksX1_joining_0 16 rfl rfl)
theorem dX1_joining_17 : decode cX1_joining 17 = .ok (.putfield 144, 3) := dk_181 0 144 (dk_at dksX1_joining_0 17 rfl rfl)
theorem dX1_joining_20 : decode cX1_joining 20 = .ok (.iload_n 2, 1) := dk_28 (dk_at dksX1_joining_0 20 rfl rfl)
theorem dX1_joining_21 : decode cX1_joining 21 = .ok (.iload_n 1, 1) := dk_27 (dk_at dksX1_joining_0 21 rfl rfl)
theorem dX1_joining_22 : decode cX1_joining 22 = .ok (.if_icmp .ne 7, 3) := dk_160 0 7 (dk_at dksX1_joining_1 0 rfl rfl)
theorem dX1_joining_25 : decode cX1_joining 25 = .ok (.iconst 0, 1) := dk_3 (dk_at dksX1_joining_1 3 rfl rfl)
theorem dX1_joining_26 : decode cX1_joining 26 = .ok (.goto 4, 3) := dk_167 0 4 (dk_at dksX1_joining_1 4 rfl rfl)
theorem dX1_joining_29 : decode cX1_joining 29 = .ok (.iconst 1, 1) := dk_4 (dk_at dksX1_joining_1 7 rfl rfl)
theorem dX1_joining_30 : decode cX1_joining 30 = .ok (.ireturn, 1) := dk_172 (dk_at dksX1_joining_1 8 rfl rfl)
abbrev cX1_rain : ByteArray := prog_12_method_18_code
def yX1_rain : MethodName := ⟨RX1, "rain", "(I)I"⟩
def dkwX1_rain_1 : List UInt8 := [154, 0, 6, 16, 253, 172, 42, 27, 181, 0, 25, 4, 172]
abbrev dktX1_rain_1 : List UInt8 := dkwX1_rain_1 ++ []
def dkwX1_rain_0 : List UInt8 := [27, 16, 247, 159, 0, 17, 27, 3, 17, 1, 143, 184, 0, 104, 154, 0, 6, 16, 254, 172, 42, 182, 0, 152]
abbrev dktX1_rain_0 : List UInt8 := dkwX1_rain_0 ++ dktX1_rain_1
theorem dksX1_rain_0 : cX1_rain.data.toList.drop 0 = dktX1_rain_0 := by decide +kernel
theorem dksX1_rain_1 : cX1_rain.data.toList.drop 24 = dktX1_rain_1 := dk_seg dksX1_rain_0 24 rfl rfl
theorem dX1_rain_0 : decode cX1_rain 0 = .ok (.iload_n 1, 1) := dk_27 (dk_at dksX1_rain_0 0 rfl rfl)
theorem dX1_rain_1 : decode cX1_rain 1 = .ok (.bipush (-9), 2) := dk_16 247 (dk_at dksX1_rain_0 1 rfl rfl)
theorem dX1_rain_3 : decode cX1_rain 3 = .ok (.if_icmp .eq 17, 3) := dk_159 0 17 (dk_at dksX1_rain_0 3 rfl rfl)
theorem dX1_rain_6 : decode cX1_rain 6 = .ok (.iload_n 1, 1) := dk_27 (dk_at dksX1_rain_0 6 rfl rfl)
theorem dX1_rain_7 : decode cX1_rain 7 = .ok (.iconst 0, 1) := dk_3 (dk_at dksX1_rain_0 7 rfl rfl)
theorem dX1_rain_8 : decode cX1_rain 8 = .ok (.sipush 399, 3) := dk_17 1 143 (dk_at dksX1_rain_0 8 rfl rfl)
theorem dX1_rain_11 : decode cX1_rain 11 = .ok (.invokestatic 104, 3) := dk_184 0 104 (dk_at dksX1_rain_0 11 rfl rfl)
theorem dX1_rain_14 : decode cX1_rain 14 = .ok (.ifCond .ne 6, 3) := dk_154 0 6 (dk_at dksX1_rain_0 14 rfl rfl)
theorem dX1_rain_17 : decode cX1_rain 17 = .ok (.bipush (-2), 2) := dk_16 254 (dk_at dksX1_rain_0 17 rfl rfl)
theorem dX1_rain_19 : decode cX1_rain 19 = .ok (.ireturn, 1) := dk_172 (dk_at dksX1_rain_0 19 rfl rfl)
theorem dX1_rain_20 : decode cX1_rain 20 = .ok (.aload_n 0, 1) := dk_42 (dk_at dksX1_rain_0 20 rfl rfl)
theorem dX1_rain_21 : decode cX1_rain 21 = .ok (.invokevirtual 152, 3) := dk_182 0 152 (dk_at dksX1_rain_0 21 rfl rfl)
theorem dX1_rain_24 : decode cX1_rain 24 = .ok (.ifCond .ne 6, 3) := dk_154 0 6 (dk_at dksX1_rain_1 0 rfl rfl)
theorem dX1_rain_27 : decode cX1_rain 27 = .ok (.bipush (-3), 2) := dk_16 253 (dk_at dksX1_rain_1 3 rfl rfl)
theorem dX1_rain_29 : decode cX1_rain 29 = .ok (.ireturn, 1) := dk_172 (dk_at dksX1_rain_1 5 rfl rfl)
theorem dX1_rain_30 : decode cX1_rain 30 = .ok (.aload_n 0, 1) := dk_42 (dk_at dksX1_rain_1 6 rfl rfl)
theorem dX1_rain_31 : decode cX1_rain 31 = .ok (.iload_n 1, 1) := dk_27 (dk_at dksX1_rain_1 7 rfl rfl)
theorem dX1_rain_32 : decode cX1_rain 32 = .ok (.putfield 25, 3) := dk_181 0 25 (dk_at dksX1_rain_1 8 rfl rfl)
theorem dX1_rain_35 : decode cX1_rain 35 = .ok (.iconst 1, 1) := dk_4 (dk_at dksX1_rain_1 11 rfl rfl)
theorem dX1_rain_36 : decode cX1_rain 36 = .ok (.ireturn, 1) := dk_172 (dk_at dksX1_rain_1 12 rfl rfl)
abbrev cX1_group : ByteArray := prog_12_method_20_code
def yX1_group : MethodName := ⟨RX1, "group", "(IIIIII)I"⟩
def dkwX1_group_7 : List UInt8 := [4, 100, 172]
abbrev dktX1_group_7 : List UInt8 := dkwX1_group_7 ++ []
def dkwX1_group_6 : List UInt8 := [180, 0, 50, 42, 180, 0, 135, 21, 6, 79, 42, 89, 180, 0, 135, 4, 96, 181, 0, 135, 42, 180, 0, 135]
abbrev dktX1_group_6 : List UInt8 := dkwX1_group_6 ++ dktX1_group_7
def dkwX1_group_5 : List UInt8 := [180, 0, 44, 42, 180, 0, 135, 21, 4, 79, 42, 180, 0, 47, 42, 180, 0, 135, 21, 5, 79, 42]
abbrev dktX1_group_5 : List UInt8 := dkwX1_group_5 ++ dktX1_group_6
def dkwX1_group_4 : List UInt8 := [79, 42, 180, 0, 38, 42, 180, 0, 135, 28, 79, 42, 180, 0, 41, 42, 180, 0, 135, 29, 79, 42]
abbrev dktX1_group_4 : List UInt8 := dkwX1_group_4 ++ dktX1_group_5
def dkwX1_group_3 : List UInt8 := [16, 253, 172, 42, 180, 0, 135, 16, 8, 160, 0, 6, 16, 252, 172, 42, 180, 0, 35, 42, 180, 0, 135, 27]
abbrev dktX1_group_3 : List UInt8 := dkwX1_group_3 ++ dktX1_group_4
def dkwX1_group_2 : List UInt8 := [153, 0, 14, 21, 6, 3, 16, 6, 184, 0, 104, 154, 0, 6, 16, 254, 172, 42, 182, 0, 152, 154, 0, 6]
abbrev dktX1_group_2 : List UInt8 := dkwX1_group_2 ++ dktX1_group_3
def dkwX1_group_1 : List UInt8 := [184, 0, 104, 153, 0, 35, 21, 4, 4, 16, 60, 184, 0, 104, 153, 0, 24, 21, 5, 3, 5, 184, 0, 104]
abbrev dktX1_group_1 : List UInt8 := dkwX1_group_1 ++ dktX1_group_2
def dkwX1_group_0 : List UInt8 := [27, 3, 5, 184, 0, 104, 153, 0, 55, 28, 4, 16, 6, 184, 0, 104, 153, 0, 45, 29, 3, 16, 99]
abbrev dktX1_group_0 : List UInt8 := dkwX1_group_0 ++ dktX1_group_1
theorem dksX1_group_0 : cX1_group.data.toList.drop 0 = dktX1_group_0 := by decide +kernel
theorem dksX1_group_1 : cX1_group.data.toList.drop 23 = dktX1_group_1 := dk_seg dksX1_group_0 23 rfl rfl
theorem dksX1_group_2 : cX1_group.data.toList.drop 47 = dktX1_group_2 := dk_seg dksX1_group_1 24 rfl rfl
theorem dksX1_group_3 : cX1_group.data.toList.drop 71 = dktX1_group_3 := dk_seg dksX1_group_2 24 rfl rfl
theorem dksX1_group_4 : cX1_group.data.toList.drop 95 = dktX1_group_4 := dk_seg dksX1_group_3 24 rfl rfl
theorem dksX1_group_5 : cX1_group.data.toList.drop 117 = dktX1_group_5 := dk_seg dksX1_group_4 22 rfl rfl
theorem dksX1_group_6 : cX1_group.data.toList.drop 139 = dktX1_group_6 := dk_seg dksX1_group_5 22 rfl rfl
theorem dksX1_group_7 : cX1_group.data.toList.drop 163 = dktX1_group_7 := dk_seg dksX1_group_6 24 rfl rfl
theorem dX1_group_0 : decode cX1_group 0 = .ok (.iload_n 1, 1) := dk_27 (dk_at dksX1_group_0 0 rfl rfl)
theorem dX1_group_1 : decode cX1_group 1 = .ok (.iconst 0, 1) := dk_3 (dk_at dksX1_group_0 1 rfl rfl)
theorem dX1_group_2 : decode cX1_group 2 = .ok (.iconst 2, 1) := dk_5 (dk_at dksX1_group_0 2 rfl rfl)
theorem dX1_group_3 : decode cX1_group 3 = .ok (.invokestatic 104, 3) := dk_184 0 104 (dk_at dksX1_group_0 3 rfl rfl)
theorem dX1_group_6 : decode cX1_group 6 = .ok (.ifCond .eq 55, 3) := dk_153 0 55 (dk_at dksX1_group_0 6 rfl rfl)
theorem dX1_group_9 : decode cX1_group 9 = .ok (.iload_n 2, 1) := dk_28 (dk_at dksX1_group_0 9 rfl rfl)
theorem dX1_group_10 : decode cX1_group 10 = .ok (.iconst 1, 1) := dk_4 (dk_at dksX1_group_0 10 rfl rfl)
theorem dX1_group_11 : decode cX1_group 11 = .ok (.bipush 6, 2) := dk_16 6 (dk_at dksX1_group_0 11 rfl rfl)
theorem dX1_group_13 : decode cX1_group 13 = .ok (.invokestatic 104, 3) := dk_184 0 104 (dk_at dksX1_group_0 13 rfl rfl)
theorem dX1_group_16 : decode cX1_group 16 = .ok (.ifCond .eq 45, 3) := dk_153 0 45 (dk_at dksX1_group_0 16 rfl rfl)
theorem dX1_group_19 : decode cX1_group 19 = .ok (.iload_n 3, 1) := dk_29 (dk_at dksX1_group_0 19 rfl rfl)
theorem dX1_group_20 : decode cX1_group 20 = .ok (.iconst 0, 1) := dk_3 (dk_at dksX1_group_0 20 rfl rfl)
theorem dX1_group_21 : decode cX1_group 21 = .ok (.bipush 99, 2) := dk_16 99 (dk_at dksX1_group_0 21 rfl rfl)
theorem dX1_group_23 : decode cX1_group 23 = .ok (.invokestatic 104, 3) := dk_184 0 104 (dk_at dksX1_group_1 0 rfl rfl)
theorem dX1_group_26 : decode cX1_group 26 = .ok (.ifCond .eq 35, 3) := dk_153 0 35 (dk_at dksX1_group_1 3 rfl rfl)
theorem dX1_group_29 : decode cX1_group 29 = .ok (.iload 4, 2) := dk_21 4 (dk_at dksX1_group_1 6 rfl rfl)
theorem dX1_group_31 : decode cX1_group 31 = .ok (.iconst 1, 1) := dk_4 (dk_at dksX1_group_1 8 rfl rfl)
theorem dX1_group_32 : decode cX1_group 32 = .ok (.bipush 60, 2) := dk_16 60 (dk_at dksX1_group_1 9 rfl rfl)
theorem dX1_group_34 : decode cX1_group 34 = .ok (.invokestatic 104, 3) := dk_184 0 104 (dk_at dksX1_group_1 11 rfl rfl)
theorem dX1_group_37 : decode cX1_group 37 = .ok (.ifCond .eq 24, 3) := dk_153 0 24 (dk_at dksX1_group_1 14 rfl rfl)
theorem dX1_group_40 : decode cX1_group 40 = .ok (.iload 5, 2) := dk_21 5 (dk_at dksX1_group_1 17 rfl rfl)
theorem dX1_group_42 : decode cX1_group 42 = .ok (.iconst 0, 1) := dk_3 (dk_at dksX1_group_1 19 rfl rfl)
theorem dX1_group_43 : decode cX1_group 43 = .ok (.iconst 2, 1) := dk_5 (dk_at dksX1_group_1 20 rfl rfl)
theorem dX1_group_44 : decode cX1_group 44 = .ok (.invokestatic 104, 3) := dk_184 0 104 (dk_at dksX1_group_1 21 rfl rfl)
theorem dX1_group_47 : decode cX1_group 47 = .ok (.ifCond .eq 14, 3) := dk_153 0 14 (dk_at dksX1_group_2 0 rfl rfl)
theorem dX1_group_50 : decode cX1_group 50 = .ok (.iload 6, 2) := dk_21 6 (dk_at dksX1_group_2 3 rfl rfl)
theorem dX1_group_52 : decode cX1_group 52 = .ok (.iconst 0, 1) := dk_3 (dk_at dksX1_group_2 5 rfl rfl)
theorem dX1_group_53 : decode cX1_group 53 = .ok (.bipush 6, 2) := dk_16 6 (dk_at dksX1_group_2 6 rfl rfl)
theorem dX1_group_55 : decode cX1_group 55 = .ok (.invokestatic 104, 3) := dk_184 0 104 (dk_at dksX1_group_2 8 rfl rfl)
theorem dX1_group_58 : decode cX1_group 58 = .ok (.ifCond .ne 6, 3) := dk_154 0 6 (dk_at dksX1_group_2 11 rfl rfl)
theorem dX1_group_61 : decode cX1_group 61 = .ok (.bipush (-2), 2) := dk_16 254 (dk_at dksX1_group_2 14 rfl rfl)
theorem dX1_group_63 : decode cX1_group 63 = .ok (.ireturn, 1) := dk_172 (dk_at dksX1_group_2 16 rfl rfl)
theorem dX1_group_64 : decode cX1_group 64 = .ok (.aload_n 0, 1) := dk_42 (dk_at dksX1_group_2 17 rfl rfl)
theorem dX1_group_65 : decode cX1_group 65 = .ok (.invokevirtual 152, 3) := dk_182 0 152 (dk_at dksX1_group_2 18 rfl rfl)
theorem dX1_group_68 : decode cX1_group 68 = .ok (.ifCond .ne 6, 3) := dk_154 0 6 (dk_at dksX1_group_2 21 rfl rfl)
theorem dX1_group_71 : decode cX1_group 71 = .ok (.bipush (-3), 2) := dk_16 253 (dk_at dksX1_group_3 0 rfl rfl)
theorem dX1_group_73 : decode cX1_group 73 = .ok (.ireturn, 1) := dk_172 (dk_at dksX1_group_3 2 rfl rfl)
theorem dX1_group_74 : decode cX1_group 74 = .ok (.aload_n 0, 1) := dk_42 (dk_at dksX1_group_3 3 rfl rfl)
theorem dX1_group_75 : decode cX1_group 75 = .ok (.getfield 135, 3) := dk_180 0 135 (dk_at dksX1_group_3 4 rfl rfl)
theorem dX1_group_78 : decode cX1_group 78 = .ok (.bipush 8, 2) := dk_16 8 (dk_at dksX1_group_3 7 rfl rfl)
theorem dX1_group_80 : decode cX1_group 80 = .ok (.if_icmp .ne 6, 3) := dk_160 0 6 (dk_at dksX1_group_3 9 rfl rfl)
theorem dX1_group_83 : decode cX1_group 83 = .ok (.bipush (-4), 2) := dk_16 252 (dk_at dksX1_group_3 12 rfl rfl)
theorem dX1_group_85 : decode cX1_group 85 = .ok (.ireturn, 1) := dk_172 (dk_at dksX1_group_3 14 rfl rfl)
theorem dX1_group_86 : decode cX1_group 86 = .ok (.aload_n 0, 1) := dk_42 (dk_at dksX1_group_3 15 rfl rfl)
theorem dX1_group_87 : decode cX1_group 87 = .ok (.getfield 35, 3) := dk_180 0 35 (dk_at dksX1_group_3 16 rfl rfl)
theorem dX1_group_90 : decode cX1_group 90 = .ok (.aload_n 0, 1) := dk_42 (dk_at dksX1_group_3 19 rfl rfl)
theorem dX1_group_91 : decode cX1_group 91 = .ok (.getfield 135, 3) := dk_180 0 135 (dk_at dksX1_group_3 20 rfl rfl)
theorem dX1_group_94 : decode cX1_group 94 = .ok (.iload_n 1, 1) := dk_27 (dk_at dksX1_group_3 23 rfl rfl)
theorem dX1_group_95 : decode cX1_group 95 = .ok (.iastore, 1) := dk_79 (dk_at dksX1_group_4 0 rfl rfl)
theorem dX1_group_96 : decode cX1_group 96 = .ok (.aload_n 0, 1) := dk_42 (dk_at dksX1_group_4 1 rfl rfl)
theorem dX1_group_97 : decode cX1_group 97 = .ok (.getfield 38, 3) := dk_180 0 38 (dk_at dksX1_group_4 2 rfl rfl)
theorem dX1_group_100 : decode cX1_group 100 = .ok (.aload_n 0, 1) := dk_42 (dk_at dksX1_group_4 5 rfl rfl)
theorem dX1_group_101 : decode cX1_group 101 = .ok (.getfield 135, 3) := dk_180 0 135 (dk_at dksX1_group_4 6 rfl rfl)
theorem dX1_group_104 : decode cX1_group 104 = .ok (.iload_n 2, 1) := dk_28 (dk_at dksX1_group_4 9 rfl rfl)
theorem dX1_group_105 : decode cX1_group 105 = .ok (.iastore, 1) := dk_79 (dk_at dksX1_group_4 10 rfl rfl)
theorem dX1_group_106 : decode cX1_group 106 = .ok (.aload_n 0, 1) := dk_42 (dk_at dksX1_group_4 11 rfl rfl)
theorem dX1_group_107 : decode cX1_group 107 = .ok (.getfield 41, 3) := dk_180 0 41 (dk_at dksX1_group_4 12 rfl rfl)
theorem dX1_group_110 : decode cX1_group 110 = .ok (.aload_n 0, 1) := dk_42 (dk_at dksX1_group_4 15 rfl rfl)
theorem dX1_group_111 : decode cX1_group 111 = .ok (.getfield 135, 3) := dk_180 0 135 (dk_at dksX1_group_4 16 rfl rfl)
theorem dX1_group_114 : decode cX1_group 114 = .ok (.iload_n 3, 1) := dk_29 (dk_at dksX1_group_4 19 rfl rfl)
theorem dX1_group_115 : decode cX1_group 115 = .ok (.iastore, 1) := dk_79 (dk_at dksX1_group_4 20 rfl rfl)
theorem dX1_group_116 : decode cX1_group 116 = .ok (.aload_n 0, 1) := dk_42 (dk_at dksX1_group_4 21 rfl rfl)
theorem dX1_group_117 : decode cX1_group 117 = .ok (.getfield 44, 3) := dk_180 0 44 (dk_at dksX1_group_5 0 rfl rfl)
theorem dX1_group_120 : decode cX1_group 120 = .ok (.aload_n 0, 1) := dk_42 (dk_at dksX1_group_5 3 rfl rfl)
theorem dX1_group_121 : decode cX1_group 121 = .ok (.getfield 135, 3) := dk_180 0 135 (dk_at dksX1_group_5 4 rfl rfl)
theorem dX1_group_124 : decode cX1_group 124 = .ok (.iload 4, 2) := dk_21 4 (dk_at dksX1_group_5 7 rfl rfl)
theorem dX1_group_126 : decode cX1_group 126 = .ok (.iastore, 1) := dk_79 (dk_at dksX1_group_5 9 rfl rfl)
theorem dX1_group_127 : decode cX1_group 127 = .ok (.aload_n 0, 1) := dk_42 (dk_at dksX1_group_5 10 rfl rfl)
theorem dX1_group_128 : decode cX1_group 128 = .ok (.getfield 47, 3) := dk_180 0 47 (dk_at dksX1_group_5 11 rfl rfl)
theorem dX1_group_131 : decode cX1_group 131 = .ok (.aload_n 0, 1) := dk_42 (dk_at dksX1_group_5 14 rfl rfl)
theorem dX1_group_132 : decode cX1_group 132 = .ok (.getfield 135, 3) := dk_180 0 135 (dk_at dksX1_group_5 15 rfl rfl)
theorem dX1_group_135 : decode cX1_group 135 = .ok (.iload 5, 2) := dk_21 5 (dk_at dksX1_group_5 18 rfl rfl)
theorem dX1_group_137 : decode cX1_group 137 = .ok (.iastore, 1) := dk_79 (dk_at dksX1_group_5 20 rfl rfl)
theorem dX1_group_138 : decode cX1_group 138 = .ok (.aload_n 0, 1) := dk_42 (dk_at dksX1_group_5 21 rfl rfl)
theorem dX1_group_139 : decode cX1_group 139 = .ok (.getfield 50, 3) := dk_180 0 50 (dk_at dksX1_group_6 0 rfl rfl)
theorem dX1_group_142 : decode cX1_group 142 = .ok (.aload_n 0, 1) := dk_42 (dk_at dksX1_group_6 3 rfl rfl)
theorem dX1_group_143 : decode cX1_group 143 = .ok (.getfield 135, 3) := dk_180 0 135 (dk_at dksX1_group_6 4 rfl rfl)
theorem dX1_group_146 : decode cX1_group 146 = .ok (.iload 6, 2) := dk_21 6 (dk_at dksX1_group_6 7 rfl rfl)
theorem dX1_group_148 : decode cX1_group 148 = .ok (.iastore, 1) := dk_79 (dk_at dksX1_group_6 9 rfl rfl)
theorem dX1_group_149 : decode cX1_group 149 = .ok (.aload_n 0, 1) := dk_42 (dk_at dksX1_group_6 10 rfl rfl)
theorem dX1_group_150 : decode cX1_group 150 = .ok (.dup, 1) := dk_89 (dk_at dksX1_group_6 11 rfl rfl)
theorem dX1_group_151 : decode cX1_group 151 = .ok (.getfield 135, 3) := dk_180 0 135 (dk_at dksX1_group_6 12 rfl rfl)
theorem dX1_group_154 : decode cX1_group 154 = .ok (.iconst 1, 1) := dk_4 (dk_at dksX1_group_6 15 rfl rfl)
theorem dX1_group_155 : decode cX1_group 155 = .ok (.iadd, 1) := dk_96 (dk_at dksX1_group_6 16 rfl rfl)
theorem dX1_group_156 : decode cX1_group 156 = .ok (.putfield 135, 3) := dk_181 0 135 (dk_at dksX1_group_6 17 rfl rfl)
theorem dX1_group_159 : decode cX1_group 159 = .ok (.aload_n 0, 1) := dk_42 (dk_at dksX1_group_6 20 rfl rfl)
theorem dX1_group_160 : decode cX1_group 160 = .ok (.getfield 135, 3) := dk_180 0 135 (dk_at dksX1_group_6 21 rfl rfl)
theorem dX1_group_163 : decode cX1_group 163 = .ok (.iconst 1, 1) := dk_4 (dk_at dksX1_group_7 0 rfl rfl)
theorem dX1_group_164 : decode cX1_group 164 = .ok (.isub, 1) := dk_100 (dk_at dksX1_group_7 1 rfl rfl)
theorem dX1_group_165 : decode cX1_group 165 = .ok (.ireturn, 1) := dk_172 (dk_at dksX1_group_7 2 rfl rfl)
abbrev cX1_ofGroup : ByteArray := prog_12_method_22_code
def yX1_ofGroup : MethodName := ⟨RX1, "ofGroup", "(II)I"⟩
def dkwX1_ofGroup_4 : List UInt8 := [182, 0, 159, 172, 16, 254, 172]
abbrev dktX1_ofGroup_4 : List UInt8 := dkwX1_ofGroup_4 ++ []
def dkwX1_ofGroup_3 : List UInt8 := [180, 0, 44, 27, 46, 172, 42, 180, 0, 47, 27, 46, 172, 42, 180, 0, 50, 27, 46, 172, 42, 27]
abbrev dktX1_ofGroup_3 : List UInt8 := dkwX1_ofGroup_3 ++ dktX1_ofGroup_4
def dkwX1_ofGroup_2 : List UInt8 := [42, 180, 0, 35, 27, 46, 172, 42, 180, 0, 38, 27, 46, 172, 42, 180, 0, 41, 27, 46, 172, 42]
abbrev dktX1_ofGroup_2 : List UInt8 := dkwX1_ofGroup_2 ++ dktX1_ofGroup_3
def dkwX1_ofGroup_1 : List UInt8 := [170, 0, 0, 0, 89, 0, 0, 0, 0, 0, 0, 0, 6, 0, 0, 0, 41, 0, 0, 0, 48, 0, 0, 0, 55, 0, 0, 0, 62, 0, 0, 0, 69, 0, 0, 0, 76, 0, 0, 0, 83]
abbrev dktX1_ofGroup_1 : List UInt8 := dkwX1_ofGroup_1 ++ dktX1_ofGroup_2
def dkwX1_ofGroup_0 : List UInt8 := [42, 27, 182, 0, 156, 154, 0, 5, 2, 172, 28]
abbrev dktX1_ofGroup_0 : List UInt8 := dkwX1_ofGroup_0 ++ dktX1_ofGroup_1
theorem dksX1_ofGroup_0 : cX1_ofGroup.data.toList.drop 0 = dktX1_ofGroup_0 := by decide +kernel
theorem dksX1_ofGroup_1 : cX1_ofGroup.data.toList.drop 11 = dktX1_ofGroup_1 := dk_seg dksX1_ofGroup_0 11 rfl rfl
theorem dksX1_ofGroup_2 : cX1_ofGroup.data.toList.drop 52 = dktX1_ofGroup_2 := dk_seg dksX1_ofGroup_1 41 rfl rfl
theorem dksX1_ofGroup_3 : cX1_ofGroup.data.toList.drop 74 = dktX1_ofGroup_3 := dk_seg dksX1_ofGroup_2 22 rfl rfl
theorem dksX1_ofGroup_4 : cX1_ofGroup.data.toList.drop 96 = dktX1_ofGroup_4 := dk_seg dksX1_ofGroup_3 22 rfl rfl
theorem dX1_ofGroup_0 : decode cX1_ofGroup 0 = .ok (.aload_n 0, 1) := dk_42 (dk_at dksX1_ofGroup_0 0 rfl rfl)
theorem dX1_ofGroup_1 : decode cX1_ofGroup 1 = .ok (.iload_n 1, 1) := dk_27 (dk_at dksX1_ofGroup_0 1 rfl rfl)
theorem dX1_ofGroup_2 : decode cX1_ofGroup 2 = .ok (.invokevirtual 156, 3) := dk_182 0 156 (dk_at dksX1_ofGroup_0 2 rfl rfl)
theorem dX1_ofGroup_5 : decode cX1_ofGroup 5 = .ok (.ifCond .ne 5, 3) := dk_154 0 5 (dk_at dksX1_ofGroup_0 5 rfl rfl)
theorem dX1_ofGroup_8 : decode cX1_ofGroup 8 = .ok (.iconst (-1), 1) := dk_2 (dk_at dksX1_ofGroup_0 8 rfl rfl)
theorem dX1_ofGroup_9 : decode cX1_ofGroup 9 = .ok (.ireturn, 1) := dk_172 (dk_at dksX1_ofGroup_0 9 rfl rfl)
theorem dX1_ofGroup_10 : decode cX1_ofGroup 10 = .ok (.iload_n 2, 1) := dk_28 (dk_at dksX1_ofGroup_0 10 rfl rfl)
theorem dX1_ofGroup_11 : decode cX1_ofGroup 11 = .ok (.tableswitch 89 0 6 #[41, 48, 55, 62, 69, 76, 83], 41) := by decide +kernel
theorem dX1_ofGroup_52 : decode cX1_ofGroup 52 = .ok (.aload_n 0, 1) := dk_42 (dk_at dksX1_ofGroup_2 0 rfl rfl)
theorem dX1_ofGroup_53 : decode cX1_ofGroup 53 = .ok (.getfield 35, 3) := dk_180 0 35 (dk_at dksX1_ofGroup_2 1 rfl rfl)
theorem dX1_ofGroup_56 : decode cX1_ofGroup 56 = .ok (.iload_n 1, 1) := dk_27 (dk_at dksX1_ofGroup_2 4 rfl rfl)
theorem dX1_ofGroup_57 : decode cX1_ofGroup 57 = .ok (.iaload, 1) := dk_46 (dk_at dksX1_ofGroup_2 5 rfl rfl)
theorem dX1_ofGroup_58 : decode cX1_ofGroup 58 = .ok (.ireturn, 1) := dk_172 (dk_at dksX1_ofGroup_2 6 rfl rfl)
theorem dX1_ofGroup_59 : decode cX1_ofGroup 59 = .ok (.aload_n 0, 1) := dk_42 (dk_at dksX1_ofGroup_2 7 rfl rfl)
theorem dX1_ofGroup_60 : decode cX1_ofGroup 60 = .ok (.getfield 38, 3) := dk_180 0 38 (dk_at dksX1_ofGroup_2 8 rfl rfl)
theorem dX1_ofGroup_63 : decode cX1_ofGroup 63 = .ok (.iload_n 1, 1) := dk_27 (dk_at dksX1_ofGroup_2 11 rfl rfl)
theorem dX1_ofGroup_64 : decode cX1_ofGroup 64 = .ok (.iaload, 1) := dk_46 (dk_at dksX1_ofGroup_2 12 rfl rfl)
theorem dX1_ofGroup_65 : decode cX1_ofGroup 65 = .ok (.ireturn, 1) := dk_172 (dk_at dksX1_ofGroup_2 13 rfl rfl)
theorem dX1_ofGroup_66 : decode cX1_ofGroup 66 = .ok (.aload_n 0, 1) := dk_42 (dk_at dksX1_ofGroup_2 14 rfl rfl)
theorem dX1_ofGroup_67 : decode cX1_ofGroup 67 = .ok (.getfield 41, 3) := dk_180 0 41 (dk_at dksX1_ofGroup_2 15 rfl rfl)
theorem dX1_ofGroup_70 : decode cX1_ofGroup 70 = .ok (.iload_n 1, 1) := dk_27 (dk_at dksX1_ofGroup_2 18 rfl rfl)
theorem dX1_ofGroup_71 : decode cX1_ofGroup 71 = .ok (.iaload, 1) := dk_46 (dk_at dksX1_ofGroup_2 19 rfl rfl)
theorem dX1_ofGroup_72 : decode cX1_ofGroup 72 = .ok (.ireturn, 1) := dk_172 (dk_at dksX1_ofGroup_2 20 rfl rfl)
theorem dX1_ofGroup_73 : decode cX1_ofGroup 73 = .ok (.aload_n 0, 1) := dk_42 (dk_at dksX1_ofGroup_2 21 rfl rfl)
theorem dX1_ofGroup_74 : decode cX1_ofGroup 74 = .ok (.getfield 44, 3) := dk_180 0 44 (dk_at dksX1_ofGroup_3 0 rfl rfl)
theorem dX1_ofGroup_77 : decode cX1_ofGroup 77 = .ok (.iload_n 1, 1) := dk_27 (dk_at dksX1_ofGroup_3 3 rfl rfl)
theorem dX1_ofGroup_78 : decode cX1_ofGroup 78 = .ok (.iaload, 1) := dk_46 (dk_at dksX1_ofGroup_3 4 rfl rfl)
theorem dX1_ofGroup_79 : decode cX1_ofGroup 79 = .ok (.ireturn, 1) := dk_172 (dk_at dksX1_ofGroup_3 5 rfl rfl)
theorem dX1_ofGroup_80 : decode cX1_ofGroup 80 = .ok (.aload_n 0, 1) := dk_42 (dk_at dksX1_ofGroup_3 6 rfl rfl)
theorem dX1_ofGroup_81 : decode cX1_ofGroup 81 = .ok (.getfield 47, 3) := dk_180 0 47 (dk_at dksX1_ofGroup_3 7 rfl rfl)
theorem dX1_ofGroup_84 : decode cX1_ofGroup 84 = .ok (.iload_n 1, 1) := dk_27 (dk_at dksX1_ofGroup_3 10 rfl rfl)
theorem dX1_ofGroup_85 : decode cX1_ofGroup 85 = .ok (.iaload, 1) := dk_46 (dk_at dksX1_ofGroup_3 11 rfl rfl)
theorem dX1_ofGroup_86 : decode cX1_ofGroup 86 = .ok (.ireturn, 1) := dk_172 (dk_at dksX1_ofGroup_3 12 rfl rfl)
theorem dX1_ofGroup_87 : decode cX1_ofGroup 87 = .ok (.aload_n 0, 1) := dk_42 (dk_at dksX1_ofGroup_3 13 rfl rfl)
theorem dX1_ofGroup_88 : decode cX1_ofGroup 88 = .ok (.getfield 50, 3) := dk_180 0 50 (dk_at dksX1_ofGroup_3 14 rfl rfl)
theorem dX1_ofGroup_91 : decode cX1_ofGroup 91 = .ok (.iload_n 1, 1) := dk_27 (dk_at dksX1_ofGroup_3 17 rfl rfl)
theorem dX1_ofGroup_92 : decode cX1_ofGroup 92 = .ok (.iaload, 1) := dk_46 (dk_at dksX1_ofGroup_3 18 rfl rfl)
theorem dX1_ofGroup_93 : decode cX1_ofGroup 93 = .ok (.ireturn, 1) := dk_172 (dk_at dksX1_ofGroup_3 19 rfl rfl)
theorem dX1_ofGroup_94 : decode cX1_ofGroup 94 = .ok (.aload_n 0, 1) := dk_42 (dk_at dksX1_ofGroup_3 20 rfl rfl)
theorem dX1_ofGroup_95 : decode cX1_ofGroup 95 = .ok (.iload_n 1, 1) := dk_27 (dk_at dksX1_ofGroup_3 21 rfl rfl)
theorem dX1_ofGroup_96 : decode cX1_ofGroup 96 = .ok (.invokevirtual 159, 3) := dk_182 0 159 (dk_at dksX1_ofGroup_4 0 rfl rfl)
theorem dX1_ofGroup_99 : decode cX1_ofGroup 99 = .ok (.ireturn, 1) := dk_172 (dk_at dksX1_ofGroup_4 3 rfl rfl)
theorem dX1_ofGroup_100 : decode cX1_ofGroup 100 = .ok (.bipush (-2), 2) := dk_16 254 (dk_at dksX1_ofGroup_4 4 rfl rfl)
theorem dX1_ofGroup_102 : decode cX1_ofGroup 102 = .ok (.ireturn, 1) := dk_172 (dk_at dksX1_ofGroup_4 6 rfl rfl)
abbrev cX1_isGroup : ByteArray := prog_12_method_19_code
def yX1_isGroup : MethodName := ⟨RX1, "isGroup", "(I)Z"⟩
def dkwX1_isGroup_0 : List UInt8 := [27, 155, 0, 15, 27, 42, 180, 0, 135, 162, 0, 7, 4, 167, 0, 4, 3, 172]
abbrev dktX1_isGroup_0 : List UInt8 := dkwX1_isGroup_0 ++ []
theorem dksX1_isGroup_0 : cX1_isGroup.data.toList.drop 0 = dktX1_isGroup_0 := by decide +kernel
theorem dX1_isGroup_0 : decode cX1_isGroup 0 = .ok (.iload_n 1, 1) := dk_27 (dk_at dksX1_isGroup_0 0 rfl rfl)
theorem dX1_isGroup_1 : decode cX1_isGroup 1 = .ok (.ifCond .lt 15, 3) := dk_155 0 15 (dk_at dksX1_isGroup_0 1 rfl rfl)
theorem dX1_isGroup_4 : decode cX1_isGroup 4 = .ok (.iload_n 1, 1) := dk_27 (dk_at dksX1_isGroup_0 4 rfl rfl)
theorem dX1_isGroup_5 : decode cX1_isGroup 5 = .ok (.aload_n 0, 1) := dk_42 (dk_at dksX1_isGroup_0 5 rfl rfl)
theorem dX1_isGroup_6 : decode cX1_isGroup 6 = .ok (.getfield 135, 3) := dk_180 0 135 (dk_at dksX1_isGroup_0 6 rfl rfl)
theorem dX1_isGroup_9 : decode cX1_isGroup 9 = .ok (.if_icmp .ge 7, 3) := dk_162 0 7 (dk_at dksX1_isGroup_0 9 rfl rfl)
theorem dX1_isGroup_12 : decode cX1_isGroup 12 = .ok (.iconst 1, 1) := dk_4 (dk_at dksX1_isGroup_0 12 rfl rfl)
theorem dX1_isGroup_13 : decode cX1_isGroup 13 = .ok (.goto 4, 3) := dk_167 0 4 (dk_at dksX1_isGroup_0 13 rfl rfl)
theorem dX1_isGroup_16 : decode cX1_isGroup 16 = .ok (.iconst 0, 1) := dk_3 (dk_at dksX1_isGroup_0 16 rfl rfl)
theorem dX1_isGroup_17 : decode cX1_isGroup 17 = .ok (.ireturn, 1) := dk_172 (dk_at dksX1_isGroup_0 17 rfl rfl)
abbrev cX1_stays : ByteArray := prog_12_method_21_code
def yX1_stays : MethodName := ⟨RX1, "stays", "(I)I"⟩
def dkwX1_stays_1 : List UInt8 := [27, 46, 172]
abbrev dktX1_stays_1 : List UInt8 := dkwX1_stays_1 ++ []
def dkwX1_stays_0 : List UInt8 := [42, 180, 0, 35, 27, 46, 158, 0, 14, 5, 42, 180, 0, 44, 27, 46, 104, 167, 0, 9, 42, 180, 0, 44]
abbrev dktX1_stays_0 : List UInt8 := dkwX1_stays_0 ++ dktX1_stays_1
theorem dksX1_stays_0 : cX1_stays.data.toList.drop 0 = dktX1_stays_0 := by decide +kernel
theorem dksX1_stays_1 : cX1_stays.data.toList.drop 24 = dktX1_stays_1 := dk_seg dksX1_stays_0 24 rfl rfl
theorem dX1_stays_0 : decode cX1_stays 0 = .ok (.aload_n 0, 1) := dk_42 (dk_at dksX1_stays_0 0 rfl rfl)
theorem dX1_stays_1 : decode cX1_stays 1 = .ok (.getfield 35, 3) := dk_180 0 35 (dk_at dksX1_stays_0 1 rfl rfl)
theorem dX1_stays_4 : decode cX1_stays 4 = .ok (.iload_n 1, 1) := dk_27 (dk_at dksX1_stays_0 4 rfl rfl)
theorem dX1_stays_5 : decode cX1_stays 5 = .ok (.iaload, 1) := dk_46 (dk_at dksX1_stays_0 5 rfl rfl)
theorem dX1_stays_6 : decode cX1_stays 6 = .ok (.ifCond .le 14, 3) := dk_158 0 14 (dk_at dksX1_stays_0 6 rfl rfl)
theorem dX1_stays_9 : decode cX1_stays 9 = .ok (.iconst 2, 1) := dk_5 (dk_at dksX1_stays_0 9 rfl rfl)
theorem dX1_stays_10 : decode cX1_stays 10 = .ok (.aload_n 0, 1) := dk_42 (dk_at dksX1_stays_0 10 rfl rfl)
theorem dX1_stays_11 : decode cX1_stays 11 = .ok (.getfield 44, 3) := dk_180 0 44 (dk_at dksX1_stays_0 11 rfl rfl)
theorem dX1_stays_14 : decode cX1_stays 14 = .ok (.iload_n 1, 1) := dk_27 (dk_at dksX1_stays_0 14 rfl rfl)
theorem dX1_stays_15 : decode cX1_stays 15 = .ok (.iaload, 1) := dk_46 (dk_at dksX1_stays_0 15 rfl rfl)
theorem dX1_stays_16 : decode cX1_stays 16 = .ok (.imul, 1) := dk_104 (dk_at dksX1_stays_0 16 rfl rfl)
theorem dX1_stays_17 : decode cX1_stays 17 = .ok (.goto 9, 3) := dk_167 0 9 (dk_at dksX1_stays_0 17 rfl rfl)
theorem dX1_stays_20 : decode cX1_stays 20 = .ok (.aload_n 0, 1) := dk_42 (dk_at dksX1_stays_0 20 rfl rfl)
theorem dX1_stays_21 : decode cX1_stays 21 = .ok (.getfield 44, 3) := dk_180 0 44 (dk_at dksX1_stays_0 21 rfl rfl)
theorem dX1_stays_24 : decode cX1_stays 24 = .ok (.iload_n 1, 1) := dk_27 (dk_at dksX1_stays_1 0 rfl rfl)
theorem dX1_stays_25 : decode cX1_stays 25 = .ok (.iaload, 1) := dk_46 (dk_at dksX1_stays_1 1 rfl rfl)
theorem dX1_stays_26 : decode cX1_stays 26 = .ok (.ireturn, 1) := dk_172 (dk_at dksX1_stays_1 2 rfl rfl)
abbrev cX1_day : ByteArray := prog_12_method_44_code
def yX1_day : MethodName := ⟨RX1, "day", "(II)I"⟩
def dkwX1_day_5 : List UInt8 := [27, 46, 172, 42, 180, 0, 78, 27, 46, 172, 42, 180, 0, 81, 27, 46, 172]
abbrev dktX1_day_5 : List UInt8 := dkwX1_day_5 ++ []
def dkwX1_day_4 : List UInt8 := [5, 167, 0, 4, 3, 172, 42, 180, 0, 69, 27, 46, 172, 42, 180, 0, 72, 27, 46, 172, 42, 180, 0, 75]
abbrev dktX1_day_4 : List UInt8 := dkwX1_day_4 ++ dktX1_day_5
def dkwX1_day_3 : List UInt8 := [42, 180, 0, 66, 27, 46, 6, 160, 0, 7, 4, 167, 0, 18, 42, 180, 0, 66, 27, 46, 7, 160, 0, 7]
abbrev dktX1_day_3 : List UInt8 := dkwX1_day_3 ++ dktX1_day_4
def dkwX1_day_2 : List UInt8 := [170, 0, 0, 0, 0, 0, 0, 94, 0, 0, 0, 0, 0, 0, 0, 4, 0, 0, 0, 36, 0, 0, 0, 66, 0, 0, 0, 73, 0, 0, 0, 80, 0, 0, 0, 87]
abbrev dktX1_day_2 : List UInt8 := dkwX1_day_2 ++ dktX1_day_3
def dkwX1_day_1 : List UInt8 := [182, 0, 242, 62, 28]
abbrev dktX1_day_1 : List UInt8 := dkwX1_day_1 ++ dktX1_day_2
def dkwX1_day_0 : List UInt8 := [42, 27, 182, 0, 156, 154, 0, 5, 2, 172, 28, 3, 8, 184, 0, 104, 154, 0, 6, 16, 254, 172, 42]
abbrev dktX1_day_0 : List UInt8 := dkwX1_day_0 ++ dktX1_day_1
theorem dksX1_day_0 : cX1_day.data.toList.drop 0 = dktX1_day_0 := by decide +kernel
theorem dksX1_day_1 : cX1_day.data.toList.drop 23 = dktX1_day_1 := dk_seg dksX1_day_0 23 rfl rfl
theorem dksX1_day_2 : cX1_day.data.toList.drop 28 = dktX1_day_2 := dk_seg dksX1_day_1 5 rfl rfl
theorem dksX1_day_3 : cX1_day.data.toList.drop 64 = dktX1_day_3 := dk_seg dksX1_day_2 36 rfl rfl
theorem dksX1_day_4 : cX1_day.data.toList.drop 88 = dktX1_day_4 := dk_seg dksX1_day_3 24 rfl rfl
theorem dksX1_day_5 : cX1_day.data.toList.drop 112 = dktX1_day_5 := dk_seg dksX1_day_4 24 rfl rfl
theorem dX1_day_0 : decode cX1_day 0 = .ok (.aload_n 0, 1) := dk_42 (dk_at dksX1_day_0 0 rfl rfl)
theorem dX1_day_1 : decode cX1_day 1 = .ok (.iload_n 1, 1) := dk_27 (dk_at dksX1_day_0 1 rfl rfl)
theorem dX1_day_2 : decode cX1_day 2 = .ok (.invokevirtual 156, 3) := dk_182 0 156 (dk_at dksX1_day_0 2 rfl rfl)
theorem dX1_day_5 : decode cX1_day 5 = .ok (.ifCond .ne 5, 3) := dk_154 0 5 (dk_at dksX1_day_0 5 rfl rfl)
theorem dX1_day_8 : decode cX1_day 8 = .ok (.iconst (-1), 1) := dk_2 (dk_at dksX1_day_0 8 rfl rfl)
theorem dX1_day_9 : decode cX1_day 9 = .ok (.ireturn, 1) := dk_172 (dk_at dksX1_day_0 9 rfl rfl)
theorem dX1_day_10 : decode cX1_day 10 = .ok (.iload_n 2, 1) := dk_28 (dk_at dksX1_day_0 10 rfl rfl)
theorem dX1_day_11 : decode cX1_day 11 = .ok (.iconst 0, 1) := dk_3 (dk_at dksX1_day_0 11 rfl rfl)
theorem dX1_day_12 : decode cX1_day 12 = .ok (.iconst 5, 1) := dk_8 (dk_at dksX1_day_0 12 rfl rfl)
theorem dX1_day_13 : decode cX1_day 13 = .ok (.invokestatic 104, 3) := dk_184 0 104 (dk_at dksX1_day_0 13 rfl rfl)
theorem dX1_day_16 : decode cX1_day 16 = .ok (.ifCond .ne 6, 3) := dk_154 0 6 (dk_at dksX1_day_0 16 rfl rfl)
theorem dX1_day_19 : decode cX1_day 19 = .ok (.bipush (-2), 2) := dk_16 254 (dk_at dksX1_day_0 19 rfl rfl)
theorem dX1_day_21 : decode cX1_day 21 = .ok (.ireturn, 1) := dk_172 (dk_at dksX1_day_0 21 rfl rfl)
theorem dX1_day_22 : decode cX1_day 22 = .ok (.aload_n 0, 1) := dk_42 (dk_at dksX1_day_0 22 rfl rfl)
theorem dX1_day_23 : decode cX1_day 23 = .ok (.invokevirtual 242, 3) := dk_182 0 242 (dk_at dksX1_day_1 0 rfl rfl)
theorem dX1_day_26 : decode cX1_day 26 = .ok (.istore_n 3, 1) := dk_62 (dk_at dksX1_day_1 3 rfl rfl)
theorem dX1_day_27 : decode cX1_day 27 = .ok (.iload_n 2, 1) := dk_28 (dk_at dksX1_day_1 4 rfl rfl)
theorem dX1_day_28 : decode cX1_day 28 = .ok (.tableswitch 94 0 4 #[36, 66, 73, 80, 87], 36) := by decide +kernel
theorem dX1_day_64 : decode cX1_day 64 = .ok (.aload_n 0, 1) := dk_42 (dk_at dksX1_day_3 0 rfl rfl)
theorem dX1_day_65 : decode cX1_day 65 = .ok (.getfield 66, 3) := dk_180 0 66 (dk_at dksX1_day_3 1 rfl rfl)
theorem dX1_day_68 : decode cX1_day 68 = .ok (.iload_n 1, 1) := dk_27 (dk_at dksX1_day_3 4 rfl rfl)
theorem dX1_day_69 : decode cX1_day 69 = .ok (.iaload, 1) := dk_46 (dk_at dksX1_day_3 5 rfl rfl)
theorem dX1_day_70 : decode cX1_day 70 = .ok (.iconst 3, 1) := dk_6 (dk_at dksX1_day_3 6 rfl rfl)
theorem dX1_day_71 : decode cX1_day 71 = .ok (.if_icmp .ne 7, 3) := dk_160 0 7 (dk_at dksX1_day_3 7 rfl rfl)
theorem dX1_day_74 : decode cX1_day 74 = .ok (.iconst 1, 1) := dk_4 (dk_at dksX1_day_3 10 rfl rfl)
theorem dX1_day_75 : decode cX1_day 75 = .ok (.goto 18, 3) := dk_167 0 18 (dk_at dksX1_day_3 11 rfl rfl)
theorem dX1_day_78 : decode cX1_day 78 = .ok (.aload_n 0, 1) := dk_42 (dk_at dksX1_day_3 14 rfl rfl)
theorem dX1_day_79 : decode cX1_day 79 = .ok (.getfield 66, 3) := dk_180 0 66 (dk_at dksX1_day_3 15 rfl rfl)
theorem dX1_day_82 : decode cX1_day 82 = .ok (.iload_n 1, 1) := dk_27 (dk_at dksX1_day_3 18 rfl rfl)
theorem dX1_day_83 : decode cX1_day 83 = .ok (.iaload, 1) := dk_46 (dk_at dksX1_day_3 19 rfl rfl)
theorem dX1_day_84 : decode cX1_day 84 = .ok (.iconst 4, 1) := dk_7 (dk_at dksX1_day_3 20 rfl rfl)
theorem dX1_day_85 : decode cX1_day 85 = .ok (.if_icmp .ne 7, 3) := dk_160 0 7 (dk_at dksX1_day_3 21 rfl rfl)
theorem dX1_day_88 : decode cX1_day 88 = .ok (.iconst 2, 1) := dk_5 (dk_at dksX1_day_4 0 rfl rfl)
theorem dX1_day_89 : decode cX1_day 89 = .ok (.goto 4, 3) := dk_167 0 4 (dk_at dksX1_day_4 1 rfl rfl)
theorem dX1_day_92 : decode cX1_day 92 = .ok (.iconst 0, 1) := dk_3 (dk_at dksX1_day_4 4 rfl rfl)
theorem dX1_day_93 : decode cX1_day 93 = .ok (.ireturn, 1) := dk_172 (dk_at dksX1_day_4 5 rfl rfl)
theorem dX1_day_94 : decode cX1_day 94 = .ok (.aload_n 0, 1) := dk_42 (dk_at dksX1_day_4 6 rfl rfl)
theorem dX1_day_95 : decode cX1_day 95 = .ok (.getfield 69, 3) := dk_180 0 69 (dk_at dksX1_day_4 7 rfl rfl)
theorem dX1_day_98 : decode cX1_day 98 = .ok (.iload_n 1, 1) := dk_27 (dk_at dksX1_day_4 10 rfl rfl)
theorem dX1_day_99 : decode cX1_day 99 = .ok (.iaload, 1) := dk_46 (dk_at dksX1_day_4 11 rfl rfl)
theorem dX1_day_100 : decode cX1_day 100 = .ok (.ireturn, 1) := dk_172 (dk_at dksX1_day_4 12 rfl rfl)
theorem dX1_day_101 : decode cX1_day 101 = .ok (.aload_n 0, 1) := dk_42 (dk_at dksX1_day_4 13 rfl rfl)
theorem dX1_day_102 : decode cX1_day 102 = .ok (.getfield 72, 3) := dk_180 0 72 (dk_at dksX1_day_4 14 rfl rfl)
theorem dX1_day_105 : decode cX1_day 105 = .ok (.iload_n 1, 1) := dk_27 (dk_at dksX1_day_4 17 rfl rfl)
theorem dX1_day_106 : decode cX1_day 106 = .ok (.iaload, 1) := dk_46 (dk_at dksX1_day_4 18 rfl rfl)
theorem dX1_day_107 : decode cX1_day 107 = .ok (.ireturn, 1) := dk_172 (dk_at dksX1_day_4 19 rfl rfl)
theorem dX1_day_108 : decode cX1_day 108 = .ok (.aload_n 0, 1) := dk_42 (dk_at dksX1_day_4 20 rfl rfl)
theorem dX1_day_109 : decode cX1_day 109 = .ok (.getfield 75, 3) := dk_180 0 75 (dk_at dksX1_day_4 21 rfl rfl)
theorem dX1_day_112 : decode cX1_day 112 = .ok (.iload_n 1, 1) := dk_27 (dk_at dksX1_day_5 0 rfl rfl)
theorem dX1_day_113 : decode cX1_day 113 = .ok (.iaload, 1) := dk_46 (dk_at dksX1_day_5 1 rfl rfl)
theorem dX1_day_114 : decode cX1_day 114 = .ok (.ireturn, 1) := dk_172 (dk_at dksX1_day_5 2 rfl rfl)
theorem dX1_day_115 : decode cX1_day 115 = .ok (.aload_n 0, 1) := dk_42 (dk_at dksX1_day_5 3 rfl rfl)
theorem dX1_day_116 : decode cX1_day 116 = .ok (.getfield 78, 3) := dk_180 0 78 (dk_at dksX1_day_5 4 rfl rfl)
theorem dX1_day_119 : decode cX1_day 119 = .ok (.iload_n 1, 1) := dk_27 (dk_at dksX1_day_5 7 rfl rfl)
theorem dX1_day_120 : decode cX1_day 120 = .ok (.iaload, 1) := dk_46 (dk_at dksX1_day_5 8 rfl rfl)
theorem dX1_day_121 : decode cX1_day 121 = .ok (.ireturn, 1) := dk_172 (dk_at dksX1_day_5 9 rfl rfl)
theorem dX1_day_122 : decode cX1_day 122 = .ok (.aload_n 0, 1) := dk_42 (dk_at dksX1_day_5 10 rfl rfl)
theorem dX1_day_123 : decode cX1_day 123 = .ok (.getfield 81, 3) := dk_180 0 81 (dk_at dksX1_day_5 11 rfl rfl)
theorem dX1_day_126 : decode cX1_day 126 = .ok (.iload_n 1, 1) := dk_27 (dk_at dksX1_day_5 14 rfl rfl)
theorem dX1_day_127 : decode cX1_day 127 = .ok (.iaload, 1) := dk_46 (dk_at dksX1_day_5 15 rfl rfl)
theorem dX1_day_128 : decode cX1_day 128 = .ok (.ireturn, 1) := dk_172 (dk_at dksX1_day_5 16 rfl rfl)
abbrev cX1_coinNow : ByteArray := prog_12_method_43_code
def yX1_coinNow : MethodName := ⟨RX1, "coinNow", "()I"⟩
def dkwX1_coinNow_0 : List UInt8 := [42, 182, 0, 233, 42, 182, 0, 236, 42, 182, 0, 239, 172]
abbrev dktX1_coinNow_0 : List UInt8 := dkwX1_coinNow_0 ++ []
theorem dksX1_coinNow_0 : cX1_coinNow.data.toList.drop 0 = dktX1_coinNow_0 := by decide +kernel
theorem dX1_coinNow_0 : decode cX1_coinNow 0 = .ok (.aload_n 0, 1) := dk_42 (dk_at dksX1_coinNow_0 0 rfl rfl)
theorem dX1_coinNow_1 : decode cX1_coinNow 1 = .ok (.invokevirtual 233, 3) := dk_182 0 233 (dk_at dksX1_coinNow_0 1 rfl rfl)
theorem dX1_coinNow_4 : decode cX1_coinNow 4 = .ok (.aload_n 0, 1) := dk_42 (dk_at dksX1_coinNow_0 4 rfl rfl)
theorem dX1_coinNow_5 : decode cX1_coinNow 5 = .ok (.invokevirtual 236, 3) := dk_182 0 236 (dk_at dksX1_coinNow_0 5 rfl rfl)
theorem dX1_coinNow_8 : decode cX1_coinNow 8 = .ok (.aload_n 0, 1) := dk_42 (dk_at dksX1_coinNow_0 8 rfl rfl)
theorem dX1_coinNow_9 : decode cX1_coinNow 9 = .ok (.invokevirtual 239, 3) := dk_182 0 239 (dk_at dksX1_coinNow_0 9 rfl rfl)
theorem dX1_coinNow_12 : decode cX1_coinNow 12 = .ok (.ireturn, 1) := dk_172 (dk_at dksX1_coinNow_0 12 rfl rfl)
abbrev cX1_layNow : ByteArray := prog_12_method_24_code
def yX1_layNow : MethodName := ⟨RX1, "layNow", "()V"⟩
def dkwX1_layNow_3 : List UInt8 := [42, 16, 247, 181, 0, 174, 177]
abbrev dktX1_layNow_3 : List UInt8 := dkwX1_layNow_3 ++ []
def dkwX1_layNow_2 : List UInt8 := [42, 42, 180, 0, 138, 181, 0, 165, 42, 42, 180, 0, 141, 181, 0, 168, 42, 42, 180, 0, 25, 181, 0, 171]
abbrev dktX1_layNow_2 : List UInt8 := dkwX1_layNow_2 ++ dktX1_layNow_3
def dkwX1_layNow_1 : List UInt8 := [180, 0, 19, 27, 46, 79, 42, 180, 0, 56, 27, 42, 180, 0, 22, 27, 46, 79, 132, 1, 1, 167, 255, 221]
abbrev dktX1_layNow_1 : List UInt8 := dkwX1_layNow_1 ++ dktX1_layNow_2
def dkwX1_layNow_0 : List UInt8 := [42, 42, 180, 0, 108, 181, 0, 162, 3, 60, 27, 42, 180, 0, 108, 162, 0, 33, 42, 180, 0, 53, 27, 42]
abbrev dktX1_layNow_0 : List UInt8 := dkwX1_layNow_0 ++ dktX1_layNow_1
theorem dksX1_layNow_0 : cX1_layNow.data.toList.drop 0 = dktX1_layNow_0 := by decide +kernel
theorem dksX1_layNow_1 : cX1_layNow.data.toList.drop 24 = dktX1_layNow_1 := dk_seg dksX1_layNow_0 24 rfl rfl
theorem dksX1_layNow_2 : cX1_layNow.data.toList.drop 48 = dktX1_layNow_2 := dk_seg dksX1_layNow_1 24 rfl rfl
theorem dksX1_layNow_3 : cX1_layNow.data.toList.drop 72 = dktX1_layNow_3 := dk_seg dksX1_layNow_2 24 rfl rfl
theorem dX1_layNow_0 : decode cX1_layNow 0 = .ok (.aload_n 0, 1) := dk_42 (dk_at dksX1_layNow_0 0 rfl rfl)
theorem dX1_layNow_1 : decode cX1_layNow 1 = .ok (.aload_n 0, 1) := dk_42 (dk_at dksX1_layNow_0 1 rfl rfl)
theorem dX1_layNow_2 : decode cX1_layNow 2 = .ok (.getfield 108, 3) := dk_180 0 108 (dk_at dksX1_layNow_0 2 rfl rfl)
theorem dX1_layNow_5 : decode cX1_layNow 5 = .ok (.putfield 162, 3) := dk_181 0 162 (dk_at dksX1_layNow_0 5 rfl rfl)
theorem dX1_layNow_8 : decode cX1_layNow 8 = .ok (.iconst 0, 1) := dk_3 (dk_at dksX1_layNow_0 8 rfl rfl)
theorem dX1_layNow_9 : decode cX1_layNow 9 = .ok (.istore_n 1, 1) := dk_60 (dk_at dksX1_layNow_0 9 rfl rfl)
theorem dX1_layNow_10 : decode cX1_layNow 10 = .ok (.iload_n 1, 1) := dk_27 (dk_at dksX1_layNow_0 10 rfl rfl)
theorem dX1_layNow_11 : decode cX1_layNow 11 = .ok (.aload_n 0, 1) := dk_42 (dk_at dksX1_layNow_0 11 rfl rfl)
theorem dX1_layNow_12 : decode cX1_layNow 12 = .ok (.getfield 108, 3) := dk_180 0 108 (dk_at dksX1_layNow_0 12 rfl rfl)
theorem dX1_layNow_15 : decode cX1_layNow 15 = .ok (.if_icmp .ge 33, 3) := dk_162 0 33 (dk_at dksX1_layNow_0 15 rfl rfl)
theorem dX1_layNow_18 : decode cX1_layNow 18 = .ok (.aload_n 0, 1) := dk_42 (dk_at dksX1_layNow_0 18 rfl rfl)
theorem dX1_layNow_19 : decode cX1_layNow 19 = .ok (.getfield 53, 3) := dk_180 0 53 (dk_at dksX1_layNow_0 19 rfl rfl)
theorem dX1_layNow_22 : decode cX1_layNow 22 = .ok (.iload_n 1, 1) := dk_27 (dk_at dksX1_layNow_0 22 rfl rfl)
theorem dX1_layNow_23 : decode cX1_layNow 23 = .ok (.aload_n 0, 1) := dk_42 (dk_at dksX1_layNow_0 23 rfl rfl)
theorem dX1_layNow_24 : decode cX1_layNow 24 = .ok (.getfield 19, 3) := dk_180 0 19 (dk_at dksX1_layNow_1 0 rfl rfl)
theorem dX1_layNow_27 : decode cX1_layNow 27 = .ok (.iload_n 1, 1) := dk_27 (dk_at dksX1_layNow_1 3 rfl rfl)
theorem dX1_layNow_28 : decode cX1_layNow 28 = .ok (.iaload, 1) := dk_46 (dk_at dksX1_layNow_1 4 rfl rfl)
theorem dX1_layNow_29 : decode cX1_layNow 29 = .ok (.iastore, 1) := dk_79 (dk_at dksX1_layNow_1 5 rfl rfl)
theorem dX1_layNow_30 : decode cX1_layNow 30 = .ok (.aload_n 0, 1) := dk_42 (dk_at dksX1_layNow_1 6 rfl rfl)
theorem dX1_layNow_31 : decode cX1_layNow 31 = .ok (.getfield 56, 3) := dk_180 0 56 (dk_at dksX1_layNow_1 7 rfl rfl)
theorem dX1_layNow_34 : decode cX1_layNow 34 = .ok (.iload_n 1, 1) := dk_27 (dk_at dksX1_layNow_1 10 rfl rfl)
theorem dX1_layNow_35 : decode cX1_layNow 35 = .ok (.aload_n 0, 1) := dk_42 (dk_at dksX1_layNow_1 11 rfl rfl)
theorem dX1_layNow_36 : decode cX1_layNow 36 = .ok (.getfield 22, 3) := dk_180 0 22 (dk_at dksX1_layNow_1 12 rfl rfl)
theorem dX1_layNow_39 : decode cX1_layNow 39 = .ok (.iload_n 1, 1) := dk_27 (dk_at dksX1_layNow_1 15 rfl rfl)
theorem dX1_layNow_40 : decode cX1_layNow 40 = .ok (.iaload, 1) := dk_46 (dk_at dksX1_layNow_1 16 rfl rfl)
theorem dX1_layNow_41 : decode cX1_layNow 41 = .ok (.iastore, 1) := dk_79 (dk_at dksX1_layNow_1 17 rfl rfl)
theorem dX1_layNow_42 : decode cX1_layNow 42 = .ok (.iinc 1 1, 3) := dk_132 1 1 (dk_at dksX1_layNow_1 18 rfl rfl)
theorem dX1_layNow_45 : decode cX1_layNow 45 = .ok (.goto (-35), 3) := dk_167 255 221 (dk_at dksX1_layNow_1 21 rfl rfl)
theorem dX1_layNow_48 : decode cX1_layNow 48 = .ok (.aload_n 0, 1) := dk_42 (dk_at dksX1_layNow_2 0 rfl rfl)
theorem dX1_layNow_49 : decode cX1_layNow 49 = .ok (.aload_n 0, 1) := dk_42 (dk_at dksX1_layNow_2 1 rfl rfl)
theorem dX1_layNow_50 : decode cX1_layNow 50 = .ok (.getfield 138, 3) := dk_180 0 138 (dk_at dksX1_layNow_2 2 rfl rfl)
theorem dX1_layNow_53 : decode cX1_layNow 53 = .ok (.putfield 165, 3) := dk_181 0 165 (dk_at dksX1_layNow_2 5 rfl rfl)
theorem dX1_layNow_56 : decode cX1_layNow 56 = .ok (.aload_n 0, 1) := dk_42 (dk_at dksX1_layNow_2 8 rfl rfl)
theorem dX1_layNow_57 : decode cX1_layNow 57 = .ok (.aload_n 0, 1) := dk_42 (dk_at dksX1_layNow_2 9 rfl rfl)
theorem dX1_layNow_58 : decode cX1_layNow 58 = .ok (.getfield 141, 3) := dk_180 0 141 (dk_at dksX1_layNow_2 10 rfl rfl)
theorem dX1_layNow_61 : decode cX1_layNow 61 = .ok (.putfield 168, 3) := dk_181 0 168 (dk_at dksX1_layNow_2 13 rfl rfl)
theorem dX1_layNow_64 : decode cX1_layNow 64 = .ok (.aload_n 0, 1) := dk_42 (dk_at dksX1_layNow_2 16 rfl rfl)
theorem dX1_layNow_65 : decode cX1_layNow 65 = .ok (.aload_n 0, 1) := dk_42 (dk_at dksX1_layNow_2 17 rfl rfl)
theorem dX1_layNow_66 : decode cX1_layNow 66 = .ok (.getfield 25, 3) := dk_180 0 25 (dk_at dksX1_layNow_2 18 rfl rfl)
theorem dX1_layNow_69 : decode cX1_layNow 69 = .ok (.putfield 171, 3) := dk_181 0 171 (dk_at dksX1_layNow_2 21 rfl rfl)
theorem dX1_layNow_72 : decode cX1_layNow 72 = .ok (.aload_n 0, 1) := dk_42 (dk_at dksX1_layNow_3 0 rfl rfl)
theorem dX1_layNow_73 : decode cX1_layNow 73 = .ok (.bipush (-9), 2) := dk_16 247 (dk_at dksX1_layNow_3 1 rfl rfl)
theorem dX1_layNow_75 : decode cX1_layNow 75 = .ok (.putfield 174, 3) := dk_181 0 174 (dk_at dksX1_layNow_3 3 rfl rfl)
theorem dX1_layNow_78 : decode cX1_layNow 78 = .ok (.return_, 1) := dk_177 (dk_at dksX1_layNow_3 6 rfl rfl)
abbrev cX1_goDay : ByteArray := prog_12_method_25_code
def yX1_goDay : MethodName := ⟨RX1, "goDay", "()V"⟩
def dkwX1_goDay_5 : List UInt8 := [180, 0, 87, 27, 42, 16, 247, 182, 0, 185, 79, 132, 1, 1, 167, 255, 219, 177]
abbrev dktX1_goDay_5 : List UInt8 := dkwX1_goDay_5 ++ []
def dkwX1_goDay_4 : List UInt8 := [17, 1, 144, 162, 0, 36, 42, 27, 182, 0, 177, 42, 180, 0, 84, 27, 42, 182, 0, 181, 79, 42]
abbrev dktX1_goDay_4 : List UInt8 := dkwX1_goDay_4 ++ dktX1_goDay_5
def dkwX1_goDay_3 : List UInt8 := [180, 0, 78, 27, 3, 79, 42, 180, 0, 81, 27, 3, 79, 132, 1, 1, 167, 255, 202, 3, 60, 27]
abbrev dktX1_goDay_3 : List UInt8 := dkwX1_goDay_3 ++ dktX1_goDay_4
def dkwX1_goDay_2 : List UInt8 := [180, 0, 69, 27, 16, 247, 79, 42, 180, 0, 72, 27, 16, 247, 79, 42, 180, 0, 75, 27, 16, 247, 79, 42]
abbrev dktX1_goDay_2 : List UInt8 := dkwX1_goDay_2 ++ dktX1_goDay_3
def dkwX1_goDay_1 : List UInt8 := [132, 1, 1, 167, 255, 232, 3, 60, 27, 16, 8, 162, 0, 54, 42, 180, 0, 66, 27, 3, 79, 42]
abbrev dktX1_goDay_1 : List UInt8 := dkwX1_goDay_1 ++ dktX1_goDay_2
def dkwX1_goDay_0 : List UInt8 := [3, 60, 27, 16, 6, 162, 0, 24, 42, 180, 0, 59, 27, 16, 247, 79, 42, 180, 0, 62, 27, 3, 84]
abbrev dktX1_goDay_0 : List UInt8 := dkwX1_goDay_0 ++ dktX1_goDay_1
theorem dksX1_goDay_0 : cX1_goDay.data.toList.drop 0 = dktX1_goDay_0 := by decide +kernel
theorem dksX1_goDay_1 : cX1_goDay.data.toList.drop 23 = dktX1_goDay_1 := dk_seg dksX1_goDay_0 23 rfl rfl
theorem dksX1_goDay_2 : cX1_goDay.data.toList.drop 45 = dktX1_goDay_2 := dk_seg dksX1_goDay_1 22 rfl rfl
theorem dksX1_goDay_3 : cX1_goDay.data.toList.drop 69 = dktX1_goDay_3 := dk_seg dksX1_goDay_2 24 rfl rfl
theorem dksX1_goDay_4 : cX1_goDay.data.toList.drop 91 = dktX1_goDay_4 := dk_seg dksX1_goDay_3 22 rfl rfl
theorem dksX1_goDay_5 : cX1_goDay.data.toList.drop 113 = dktX1_goDay_5 := dk_seg dksX1_goDay_4 22 rfl rfl
theorem dX1_goDay_0 : decode cX1_goDay 0 = .ok (.iconst 0, 1) := dk_3 (dk_at dksX1_goDay_0 0 rfl rfl)
theorem dX1_goDay_1 : decode cX1_goDay 1 = .ok (.istore_n 1, 1) := dk_60 (dk_at dksX1_goDay_0 1 rfl rfl)
theorem dX1_goDay_2 : decode cX1_goDay 2 = .ok (.iload_n 1, 1) := dk_27 (dk_at dksX1_goDay_0 2 rfl rfl)
theorem dX1_goDay_3 : decode cX1_goDay 3 = .ok (.bipush 6, 2) := dk_16 6 (dk_at dksX1_goDay_0 3 rfl rfl)
theorem dX1_goDay_5 : decode cX1_goDay 5 = .ok (.if_icmp .ge 24, 3) := dk_162 0 24 (dk_at dksX1_goDay_0 5 rfl rfl)
theorem dX1_goDay_8 : decode cX1_goDay 8 = .ok (.aload_n 0, 1) := dk_42 (dk_at dksX1_goDay_0 8 rfl rfl)
theorem dX1_goDay_9 : decode cX1_goDay 9 = .ok (.getfield 59, 3) := dk_180 0 59 (dk_at dksX1_goDay_0 9 rfl rfl)
theorem dX1_goDay_12 : decode cX1_goDay 12 = .ok (.iload_n 1, 1) := dk_27 (dk_at dksX1_goDay_0 12 rfl rfl)
theorem dX1_goDay_13 : decode cX1_goDay 13 = .ok (.bipush (-9), 2) := dk_16 247 (dk_at dksX1_goDay_0 13 rfl rfl)
theorem dX1_goDay_15 : decode cX1_goDay 15 = .ok (.iastore, 1) := dk_79 (dk_at dksX1_goDay_0 15 rfl rfl)
theorem dX1_goDay_16 : decode cX1_goDay 16 = .ok (.aload_n 0, 1) := dk_42 (dk_at dksX1_goDay_0 16 rfl rfl)
theorem dX1_goDay_17 : decode cX1_goDay 17 = .ok (.getfield 62, 3) := dk_180 0 62 (dk_at dksX1_goDay_0 17 rfl rfl)
theorem dX1_goDay_20 : decode cX1_goDay 20 = .ok (.iload_n 1, 1) := dk_27 (dk_at dksX1_goDay_0 20 rfl rfl)
theorem dX1_goDay_21 : decode cX1_goDay 21 = .ok (.iconst 0, 1) := dk_3 (dk_at dksX1_goDay_0 21 rfl rfl)
theorem dX1_goDay_22 : decode cX1_goDay 22 = .ok (.bastore, 1) := dk_84 (dk_at dksX1_goDay_0 22 rfl rfl)
theorem dX1_goDay_23 : decode cX1_goDay 23 = .ok (.iinc 1 1, 3) := dk_132 1 1 (dk_at dksX1_goDay_1 0 rfl rfl)
theorem dX1_goDay_26 : decode cX1_goDay 26 = .ok (.goto (-24), 3) := dk_167 255 232 (dk_at dksX1_goDay_1 3 rfl rfl)
theorem dX1_goDay_29 : decode cX1_goDay 29 = .ok (.iconst 0, 1) := dk_3 (dk_at dksX1_goDay_1 6 rfl rfl)
theorem dX1_goDay_30 : decode cX1_goDay 30 = .ok (.istore_n 1, 1) := dk_60 (dk_at dksX1_goDay_1 7 rfl rfl)
theorem dX1_goDay_31 : decode cX1_goDay 31 = .ok (.iload_n 1, 1) := dk_27 (dk_at dksX1_goDay_1 8 rfl rfl)
theorem dX1_goDay_32 : decode cX1_goDay 32 = .ok (.bipush 8, 2) := dk_16 8 (dk_at dksX1_goDay_1 9 rfl rfl)
theorem dX1_goDay_34 : decode cX1_goDay 34 = .ok (.if_icmp .ge 54, 3) := dk_162 0 54 (dk_at dksX1_goDay_1 11 rfl rfl)
theorem dX1_goDay_37 : decode cX1_goDay 37 = .ok (.aload_n 0, 1) := dk_42 (dk_at dksX1_goDay_1 14 rfl rfl)
theorem dX1_goDay_38 : decode cX1_goDay 38 = .ok (.getfield 66, 3) := dk_180 0 66 (dk_at dksX1_goDay_1 15 rfl rfl)
theorem dX1_goDay_41 : decode cX1_goDay 41 = .ok (.iload_n 1, 1) := dk_27 (dk_at dksX1_goDay_1 18 rfl rfl)
theorem dX1_goDay_42 : decode cX1_goDay 42 = .ok (.iconst 0, 1) := dk_3 (dk_at dksX1_goDay_1 19 rfl rfl)
theorem dX1_goDay_43 : decode cX1_goDay 43 = .ok (.iastore, 1) := dk_79 (dk_at dksX1_goDay_1 20 rfl rfl)
theorem dX1_goDay_44 : decode cX1_goDay 44 = .ok (.aload_n 0, 1) := dk_42 (dk_at dksX1_goDay_1 21 rfl rfl)
theorem dX1_goDay_45 : decode cX1_goDay 45 = .ok (.getfield 69, 3) := dk_180 0 69 (dk_at dksX1_goDay_2 0 rfl rfl)
theorem dX1_goDay_48 : decode cX1_goDay 48 = .ok (.iload_n 1, 1) := dk_27 (dk_at dksX1_goDay_2 3 rfl rfl)
theorem dX1_goDay_49 : decode cX1_goDay 49 = .ok (.bipush (-9), 2) := dk_16 247 (dk_at dksX1_goDay_2 4 rfl rfl)
theorem dX1_goDay_51 : decode cX1_goDay 51 = .ok (.iastore, 1) := dk_79 (dk_at dksX1_goDay_2 6 rfl rfl)
theorem dX1_goDay_52 : decode cX1_goDay 52 = .ok (.aload_n 0, 1) := dk_42 (dk_at dksX1_goDay_2 7 rfl rfl)
theorem dX1_goDay_53 : decode cX1_goDay 53 = .ok (.getfield 72, 3) := dk_180 0 72 (dk_at dksX1_goDay_2 8 rfl rfl)
theorem dX1_goDay_56 : decode cX1_goDay 56 = .ok (.iload_n 1, 1) := dk_27 (dk_at dksX1_goDay_2 11 rfl rfl)
theorem dX1_goDay_57 : decode cX1_goDay 57 = .ok (.bipush (-9), 2) := dk_16 247 (dk_at dksX1_goDay_2 12 rfl rfl)
theorem dX1_goDay_59 : decode cX1_goDay 59 = .ok (.iastore, 1) := dk_79 (dk_at dksX1_goDay_2 14 rfl rfl)
theorem dX1_goDay_60 : decode cX1_goDay 60 = .ok (.aload_n 0, 1) := dk_42 (dk_at dksX1_goDay_2 15 rfl rfl)
theorem dX1_goDay_61 : decode cX1_goDay 61 = .ok (.getfield 75, 3) := dk_180 0 75 (dk_at dksX1_goDay_2 16 rfl rfl)
theorem dX1_goDay_64 : decode cX1_goDay 64 = .ok (.iload_n 1, 1) := dk_27 (dk_at dksX1_goDay_2 19 rfl rfl)
theorem dX1_goDay_65 : decode cX1_goDay 65 = .ok (.bipush (-9), 2) := dk_16 247 (dk_at dksX1_goDay_2 20 rfl rfl)
theorem dX1_goDay_67 : decode cX1_goDay 67 = .ok (.iastore, 1) := dk_79 (dk_at dksX1_goDay_2 22 rfl rfl)
theorem dX1_goDay_68 : decode cX1_goDay 68 = .ok (.aload_n 0, 1) := dk_42 (dk_at dksX1_goDay_2 23 rfl rfl)
theorem dX1_goDay_69 : decode cX1_goDay 69 = .ok (.getfield 78, 3) := dk_180 0 78 (dk_at dksX1_goDay_3 0 rfl rfl)
theorem dX1_goDay_72 : decode cX1_goDay 72 = .ok (.iload_n 1, 1) := dk_27 (dk_at dksX1_goDay_3 3 rfl rfl)
theorem dX1_goDay_73 : decode cX1_goDay 73 = .ok (.iconst 0, 1) := dk_3 (dk_at dksX1_goDay_3 4 rfl rfl)
theorem dX1_goDay_74 : decode cX1_goDay 74 = .ok (.iastore, 1) := dk_79 (dk_at dksX1_goDay_3 5 rfl rfl)
theorem dX1_goDay_75 : decode cX1_goDay 75 = .ok (.aload_n 0, 1) := dk_42 (dk_at dksX1_goDay_3 6 rfl rfl)
theorem dX1_goDay_76 : decode cX1_goDay 76 = .ok (.getfield 81, 3) := dk_180 0 81 (dk_at dksX1_goDay_3 7 rfl rfl)
theorem dX1_goDay_79 : decode cX1_goDay 79 = .ok (.iload_n 1, 1) := dk_27 (dk_at dksX1_goDay_3 10 rfl rfl)
theorem dX1_goDay_80 : decode cX1_goDay 80 = .ok (.iconst 0, 1) := dk_3 (dk_at dksX1_goDay_3 11 rfl rfl)
theorem dX1_goDay_81 : decode cX1_goDay 81 = .ok (.iastore, 1) := dk_79 (dk_at dksX1_goDay_3 12 rfl rfl)
theorem dX1_goDay_82 : decode cX1_goDay 82 = .ok (.iinc 1 1, 3) := dk_132 1 1 (dk_at dksX1_goDay_3 13 rfl rfl)
theorem dX1_goDay_85 : decode cX1_goDay 85 = .ok (.goto (-54), 3) := dk_167 255 202 (dk_at dksX1_goDay_3 16 rfl rfl)
theorem dX1_goDay_88 : decode cX1_goDay 88 = .ok (.iconst 0, 1) := dk_3 (dk_at dksX1_goDay_3 19 rfl rfl)
theorem dX1_goDay_89 : decode cX1_goDay 89 = .ok (.istore_n 1, 1) := dk_60 (dk_at dksX1_goDay_3 20 rfl rfl)
theorem dX1_goDay_90 : decode cX1_goDay 90 = .ok (.iload_n 1, 1) := dk_27 (dk_at dksX1_goDay_3 21 rfl rfl)
theorem dX1_goDay_91 : decode cX1_goDay 91 = .ok (.sipush 400, 3) := dk_17 1 144 (dk_at dksX1_goDay_4 0 rfl rfl)
theorem dX1_goDay_94 : decode cX1_goDay 94 = .ok (.if_icmp .ge 36, 3) := dk_162 0 36 (dk_at dksX1_goDay_4 3 rfl rfl)
theorem dX1_goDay_97 : decode cX1_goDay 97 = .ok (.aload_n 0, 1) := dk_42 (dk_at dksX1_goDay_4 6 rfl rfl)
theorem dX1_goDay_98 : decode cX1_goDay 98 = .ok (.iload_n 1, 1) := dk_27 (dk_at dksX1_goDay_4 7 rfl rfl)
theorem dX1_goDay_99 : decode cX1_goDay 99 = .ok (.invokevirtual 177, 3) := dk_182 0 177 (dk_at dksX1_goDay_4 8 rfl rfl)
theorem dX1_goDay_102 : decode cX1_goDay 102 = .ok (.aload_n 0, 1) := dk_42 (dk_at dksX1_goDay_4 11 rfl rfl)
theorem dX1_goDay_103 : decode cX1_goDay 103 = .ok (.getfield 84, 3) := dk_180 0 84 (dk_at dksX1_goDay_4 12 rfl rfl)
theorem dX1_goDay_106 : decode cX1_goDay 106 = .ok (.iload_n 1, 1) := dk_27 (dk_at dksX1_goDay_4 15 rfl rfl)
theorem dX1_goDay_107 : decode cX1_goDay 107 = .ok (.aload_n 0, 1) := dk_42 (dk_at dksX1_goDay_4 16 rfl rfl)
theorem dX1_goDay_108 : decode cX1_goDay 108 = .ok (.invokevirtual 181, 3) := dk_182 0 181 (dk_at dksX1_goDay_4 17 rfl rfl)
theorem dX1_goDay_111 : decode cX1_goDay 111 = .ok (.iastore, 1) := dk_79 (dk_at dksX1_goDay_4 20 rfl rfl)
theorem dX1_goDay_112 : decode cX1_goDay 112 = .ok (.aload_n 0, 1) := dk_42 (dk_at dksX1_goDay_4 21 rfl rfl)
theorem dX1_goDay_113 : decode cX1_goDay 113 = .ok (.getfield 87, 3) := dk_180 0 87 (dk_at dksX1_goDay_5 0 rfl rfl)
theorem dX1_goDay_116 : decode cX1_goDay 116 = .ok (.iload_n 1, 1) := dk_27 (dk_at dksX1_goDay_5 3 rfl rfl)
theorem dX1_goDay_117 : decode cX1_goDay 117 = .ok (.aload_n 0, 1) := dk_42 (dk_at dksX1_goDay_5 4 rfl rfl)
theorem dX1_goDay_118 : decode cX1_goDay 118 = .ok (.bipush (-9), 2) := dk_16 247 (dk_at dksX1_goDay_5 5 rfl rfl)
theorem dX1_goDay_120 : decode cX1_goDay 120 = .ok (.invokevirtual 185, 3) := dk_182 0 185 (dk_at dksX1_goDay_5 7 rfl rfl)
theorem dX1_goDay_123 : decode cX1_goDay 123 = .ok (.iastore, 1) := dk_79 (dk_at dksX1_goDay_5 10 rfl rfl)
theorem dX1_goDay_124 : decode cX1_goDay 124 = .ok (.iinc 1 1, 3) := dk_132 1 1 (dk_at dksX1_goDay_5 11 rfl rfl)
theorem dX1_goDay_127 : decode cX1_goDay 127 = .ok (.goto (-37), 3) := dk_167 255 219 (dk_at dksX1_goDay_5 14 rfl rfl)
theorem dX1_goDay_130 : decode cX1_goDay 130 = .ok (.return_, 1) := dk_177 (dk_at dksX1_goDay_5 17 rfl rfl)
abbrev cX1_goMinute : ByteArray := prog_12_method_28_code
def yX1_goMinute : MethodName := ⟨RX1, "goMinute", "(I)V"⟩
def dkwX1_goMinute_4 : List UInt8 := [182, 0, 201, 132, 2, 1, 167, 255, 221, 177]
abbrev dktX1_goMinute_4 : List UInt8 := dkwX1_goMinute_4 ++ []
def dkwX1_goMinute_3 : List UInt8 := [162, 0, 33, 42, 180, 0, 41, 28, 46, 27, 160, 0, 17, 28, 42, 180, 0, 174, 159, 0, 9, 42, 28, 27]
abbrev dktX1_goMinute_3 : List UInt8 := dkwX1_goMinute_3 ++ dktX1_goMinute_4
def dkwX1_goMinute_2 : List UInt8 := [42, 180, 0, 171, 160, 0, 8, 42, 27, 182, 0, 195, 42, 27, 182, 0, 198, 3, 61, 28, 42, 180, 0, 135]
abbrev dktX1_goMinute_2 : List UInt8 := dkwX1_goMinute_2 ++ dktX1_goMinute_3
def dkwX1_goMinute_1 : List UInt8 := [28, 46, 27, 163, 0, 14, 42, 28, 182, 0, 188, 42, 28, 27, 182, 0, 191, 132, 2, 1, 167, 255, 214, 27]
abbrev dktX1_goMinute_1 : List UInt8 := dkwX1_goMinute_1 ++ dktX1_goMinute_2
def dkwX1_goMinute_0 : List UInt8 := [3, 61, 28, 42, 180, 0, 135, 162, 0, 40, 42, 180, 0, 66, 28, 46, 4, 160, 0, 24, 42, 180, 0, 75]
abbrev dktX1_goMinute_0 : List UInt8 := dkwX1_goMinute_0 ++ dktX1_goMinute_1
theorem dksX1_goMinute_0 : cX1_goMinute.data.toList.drop 0 = dktX1_goMinute_0 := by decide +kernel
theorem dksX1_goMinute_1 : cX1_goMinute.data.toList.drop 24 = dktX1_goMinute_1 := dk_seg dksX1_goMinute_0 24 rfl rfl
theorem dksX1_goMinute_2 : cX1_goMinute.data.toList.drop 48 = dktX1_goMinute_2 := dk_seg dksX1_goMinute_1 24 rfl rfl
theorem dksX1_goMinute_3 : cX1_goMinute.data.toList.drop 72 = dktX1_goMinute_3 := dk_seg dksX1_goMinute_2 24 rfl rfl
theorem dksX1_goMinute_4 : cX1_goMinute.data.toList.drop 96 = dktX1_goMinute_4 := dk_seg dksX1_goMinute_3 24 rfl rfl
theorem dX1_goMinute_0 : decode cX1_goMinute 0 = .ok (.iconst 0, 1) := dk_3 (dk_at dksX1_goMinute_0 0 rfl rfl)
theorem dX1_goMinute_1 : decode cX1_goMinute 1 = .ok (.istore_n 2, 1) := dk_61 (dk_at dksX1_goMinute_0 1 rfl rfl)
theorem dX1_goMinute_2 : decode cX1_goMinute 2 = .ok (.iload_n 2, 1) := dk_28 (dk_at dksX1_goMinute_0 2 rfl rfl)
theorem dX1_goMinute_3 : decode cX1_goMinute 3 = .ok (.aload_n 0, 1) := dk_42 (dk_at dksX1_goMinute_0 3 rfl rfl)
theorem dX1_goMinute_4 : decode cX1_goMinute 4 = .ok (.getfield 135, 3) := dk_180 0 135 (dk_at dksX1_goMinute_0 4 rfl rfl)
theorem dX1_goMinute_7 : decode cX1_goMinute 7 = .ok (.if_icmp .ge 40, 3) := dk_162 0 40 (dk_at dksX1_goMinute_0 7 rfl rfl)
theorem dX1_goMinute_10 : decode cX1_goMinute 10 = .ok (.aload_n 0, 1) := dk_42 (dk_at dksX1_goMinute_0 10 rfl rfl)
theorem dX1_goMinute_11 : decode cX1_goMinute 11 = .ok (.getfield 66, 3) := dk_180 0 66 (dk_at dksX1_goMinute_0 11 rfl rfl)
theorem dX1_goMinute_14 : decode cX1_goMinute 14 = .ok (.iload_n 2, 1) := dk_28 (dk_at dksX1_goMinute_0 14 rfl rfl)
theorem dX1_goMinute_15 : decode cX1_goMinute 15 = .ok (.iaload, 1) := dk_46 (dk_at dksX1_goMinute_0 15 rfl rfl)
theorem dX1_goMinute_16 : decode cX1_goMinute 16 = .ok (.iconst 1, 1) := dk_4 (dk_at dksX1_goMinute_0 16 rfl rfl)
theorem dX1_goMinute_17 : decode cX1_goMinute 17 = .ok (.if_icmp .ne 24, 3) := dk_160 0 24 (dk_at dksX1_goMinute_0 17 rfl rfl)
theorem dX1_goMinute_20 : decode cX1_goMinute 20 = .ok (.aload_n 0, 1) := dk_42 (dk_at dksX1_goMinute_0 20 rfl rfl)
theorem dX1_goMinute_21 : decode cX1_goMinute 21 = .ok (.getfield 75, 3) := dk_180 0 75 (dk_at dksX1_goMinute_0 21 rfl rfl)
theorem dX1_goMinute_24 : decode cX1_goMinute 24 = .ok (.iload_n 2, 1) := dk_28 (dk_at dksX1_goMinute_1 0 rfl rfl)
theorem dX1_goMinute_25 : decode cX1_goMinute 25 = .ok (.iaload, 1) := dk_46 (dk_at dksX1_goMinute_1 1 rfl rfl)
theorem dX1_goMinute_26 : decode cX1_goMinute 26 = .ok (.iload_n 1, 1) := dk_27 (dk_at dksX1_goMinute_1 2 rfl rfl)
theorem dX1_goMinute_27 : decode cX1_goMinute 27 = .ok (.if_icmp .gt 14, 3) := dk_163 0 14 (dk_at dksX1_goMinute_1 3 rfl rfl)
theorem dX1_goMinute_30 : decode cX1_goMinute 30 = .ok (.aload_n 0, 1) := dk_42 (dk_at dksX1_goMinute_1 6 rfl rfl)
theorem dX1_goMinute_31 : decode cX1_goMinute 31 = .ok (.iload_n 2, 1) := dk_28 (dk_at dksX1_goMinute_1 7 rfl rfl)
theorem dX1_goMinute_32 : decode cX1_goMinute 32 = .ok (.invokevirtual 188, 3) := dk_182 0 188 (dk_at dksX1_goMinute_1 8 rfl rfl)
theorem dX1_goMinute_35 : decode cX1_goMinute 35 = .ok (.aload_n 0, 1) := dk_42 (dk_at dksX1_goMinute_1 11 rfl rfl)
theorem dX1_goMinute_36 : decode cX1_goMinute 36 = .ok (.iload_n 2, 1) := dk_28 (dk_at dksX1_goMinute_1 12 rfl rfl)
theorem dX1_goMinute_37 : decode cX1_goMinute 37 = .ok (.iload_n 1, 1) := dk_27 (dk_at dksX1_goMinute_1 13 rfl rfl)
theorem dX1_goMinute_38 : decode cX1_goMinute 38 = .ok (.invokevirtual 191, 3) := dk_182 0 191 (dk_at dksX1_goMinute_1 14 rfl rfl)
theorem dX1_goMinute_41 : decode cX1_goMinute 41 = .ok (.iinc 2 1, 3) := dk_132 2 1 (dk_at dksX1_goMinute_1 17 rfl rfl)
theorem dX1_goMinute_44 : decode cX1_goMinute 44 = .ok (.goto (-42), 3) := dk_167 255 214 (dk_at dksX1_goMinute_1 20 rfl rfl)
theorem dX1_goMinute_47 : decode cX1_goMinute 47 = .ok (.iload_n 1, 1) := dk_27 (dk_at dksX1_goMinute_1 23 rfl rfl)
theorem dX1_goMinute_48 : decode cX1_goMinute 48 = .ok (.aload_n 0, 1) := dk_42 (dk_at dksX1_goMinute_2 0 rfl rfl)
theorem dX1_goMinute_49 : decode cX1_goMinute 49 = .ok (.getfield 171, 3) := dk_180 0 171 (dk_at dksX1_goMinute_2 1 rfl rfl)
theorem dX1_goMinute_52 : decode cX1_goMinute 52 = .ok (.if_icmp .ne 8, 3) := dk_160 0 8 (dk_at dksX1_goMinute_2 4 rfl rfl)
theorem dX1_goMinute_55 : decode cX1_goMinute 55 = .ok (.aload_n 0, 1) := dk_42 (dk_at dksX1_goMinute_2 7 rfl rfl)
theorem dX1_goMinute_56 : decode cX1_goMinute 56 = .ok (.iload_n 1, 1) := dk_27 (dk_at dksX1_goMinute_2 8 rfl rfl)
theorem dX1_goMinute_57 : decode cX1_goMinute 57 = .ok (.invokevirtual 195, 3) := dk_182 0 195 (dk_at dksX1_goMinute_2 9 rfl rfl)
theorem dX1_goMinute_60 : decode cX1_goMinute 60 = .ok (.aload_n 0, 1) := dk_42 (dk_at dksX1_goMinute_2 12 rfl rfl)
theorem dX1_goMinute_61 : decode cX1_goMinute 61 = .ok (.iload_n 1, 1) := dk_27 (dk_at dksX1_goMinute_2 13 rfl rfl)
theorem dX1_goMinute_62 : decode cX1_goMinute 62 = .ok (.invokevirtual 198, 3) := dk_182 0 198 (dk_at dksX1_goMinute_2 14 rfl rfl)
theorem dX1_goMinute_65 : decode cX1_goMinute 65 = .ok (.iconst 0, 1) := dk_3 (dk_at dksX1_goMinute_2 17 rfl rfl)
theorem dX1_goMinute_66 : decode cX1_goMinute 66 = .ok (.istore_n 2, 1) := dk_61 (dk_at dksX1_goMinute_2 18 rfl rfl)
theorem dX1_goMinute_67 : decode cX1_goMinute 67 = .ok (.iload_n 2, 1) := dk_28 (dk_at dksX1_goMinute_2 19 rfl rfl)
theorem dX1_goMinute_68 : decode cX1_goMinute 68 = .ok (.aload_n 0, 1) := dk_42 (dk_at dksX1_goMinute_2 20 rfl rfl)
theorem dX1_goMinute_69 : decode cX1_goMinute 69 = .ok (.getfield 135, 3) := dk_180 0 135 (dk_at dksX1_goMinute_2 21 rfl rfl)
theorem dX1_goMinute_72 : decode cX1_goMinute 72 = .ok (.if_icmp .ge 33, 3) := dk_162 0 33 (dk_at dksX1_goMinute_3 0 rfl rfl)
theorem dX1_goMinute_75 : decode cX1_goMinute 75 = .ok (.aload_n 0, 1) := dk_42 (dk_at dksX1_goMinute_3 3 rfl rfl)
theorem dX1_goMinute_76 : decode cX1_goMinute 76 = .ok (.getfield 41, 3) := dk_180 0 41 (dk_at dksX1_goMinute_3 4 rfl rfl)
theorem dX1_goMinute_79 : decode cX1_goMinute 79 = .ok (.iload_n 2, 1) := dk_28 (dk_at dksX1_goMinute_3 7 rfl rfl)
theorem dX1_goMinute_80 : decode cX1_goMinute 80 = .ok (.iaload, 1) := dk_46 (dk_at dksX1_goMinute_3 8 rfl rfl)
theorem dX1_goMinute_81 : decode cX1_goMinute 81 = .ok (.iload_n 1, 1) := dk_27 (dk_at dksX1_goMinute_3 9 rfl rfl)
theorem dX1_goMinute_82 : decode cX1_goMinute 82 = .ok (.if_icmp .ne 17, 3) := dk_160 0 17 (dk_at dksX1_goMinute_3 10 rfl rfl)
theorem dX1_goMinute_85 : decode cX1_goMinute 85 = .ok (.iload_n 2, 1) := dk_28 (dk_at dksX1_goMinute_3 13 rfl rfl)
theorem dX1_goMinute_86 : decode cX1_goMinute 86 = .ok (.aload_n 0, 1) := dk_42 (dk_at dksX1_goMinute_3 14 rfl rfl)
theorem dX1_goMinute_87 : decode cX1_goMinute 87 = .ok (.getfield 174, 3) := dk_180 0 174 (dk_at dksX1_goMinute_3 15 rfl rfl)
theorem dX1_goMinute_90 : decode cX1_goMinute 90 = .ok (.if_icmp .eq 9, 3) := dk_159 0 9 (dk_at dksX1_goMinute_3 18 rfl rfl)
theorem dX1_goMinute_93 : decode cX1_goMinute 93 = .ok (.aload_n 0, 1) := dk_42 (dk_at dksX1_goMinute_3 21 rfl rfl)
theorem dX1_goMinute_94 : decode cX1_goMinute 94 = .ok (.iload_n 2, 1) := dk_28 (dk_at dksX1_goMinute_3 22 rfl rfl)
theorem dX1_goMinute_95 : decode cX1_goMinute 95 = .ok (.iload_n 1, 1) := dk_27 (dk_at dksX1_goMinute_3 23 rfl rfl)
theorem dX1_goMinute_96 : decode cX1_goMinute 96 = .ok (.invokevirtual 201, 3) := dk_182 0 201 (dk_at dksX1_goMinute_4 0 rfl rfl)
theorem dX1_goMinute_99 : decode cX1_goMinute 99 = .ok (.iinc 2 1, 3) := dk_132 2 1 (dk_at dksX1_goMinute_4 3 rfl rfl)
theorem dX1_goMinute_102 : decode cX1_goMinute 102 = .ok (.goto (-35), 3) := dk_167 255 221 (dk_at dksX1_goMinute_4 6 rfl rfl)
theorem dX1_goMinute_105 : decode cX1_goMinute 105 = .ok (.return_, 1) := dk_177 (dk_at dksX1_goMinute_4 9 rfl rfl)
abbrev cX1_getsUp : ByteArray := prog_12_method_30_code
def yX1_getsUp : MethodName := ⟨RX1, "getsUp", "(I)V"⟩
def dkwX1_getsUp_1 : List UInt8 := [28, 16, 247, 79, 132, 2, 1, 167, 255, 227, 177]
abbrev dktX1_getsUp_1 : List UInt8 := dkwX1_getsUp_1 ++ []
def dkwX1_getsUp_0 : List UInt8 := [3, 61, 28, 42, 180, 0, 162, 162, 0, 27, 42, 180, 0, 59, 28, 46, 27, 160, 0, 11, 42, 180, 0, 59]
abbrev dktX1_getsUp_0 : List UInt8 := dkwX1_getsUp_0 ++ dktX1_getsUp_1
theorem dksX1_getsUp_0 : cX1_getsUp.data.toList.drop 0 = dktX1_getsUp_0 := by decide +kernel
theorem dksX1_getsUp_1 : cX1_getsUp.data.toList.drop 24 = dktX1_getsUp_1 := dk_seg dksX1_getsUp_0 24 rfl rfl
theorem dX1_getsUp_0 : decode cX1_getsUp 0 = .ok (.iconst 0, 1) := dk_3 (dk_at dksX1_getsUp_0 0 rfl rfl)
theorem dX1_getsUp_1 : decode cX1_getsUp 1 = .ok (.istore_n 2, 1) := dk_61 (dk_at dksX1_getsUp_0 1 rfl rfl)
theorem dX1_getsUp_2 : decode cX1_getsUp 2 = .ok (.iload_n 2, 1) := dk_28 (dk_at dksX1_getsUp_0 2 rfl rfl)
theorem dX1_getsUp_3 : decode cX1_getsUp 3 = .ok (.aload_n 0, 1) := dk_42 (dk_at dksX1_getsUp_0 3 rfl rfl)
theorem dX1_getsUp_4 : decode cX1_getsUp 4 = .ok (.getfield 162, 3) := dk_180 0 162 (dk_at dksX1_getsUp_0 4 rfl rfl)
theorem dX1_getsUp_7 : decode cX1_getsUp 7 = .ok (.if_icmp .ge 27, 3) := dk_162 0 27 (dk_at dksX1_getsUp_0 7 rfl rfl)
theorem dX1_getsUp_10 : decode cX1_getsUp 10 = .ok (.aload_n 0, 1) := dk_42 (dk_at dksX1_getsUp_0 10 rfl rfl)
theorem dX1_getsUp_11 : decode cX1_getsUp 11 = .ok (.getfield 59, 3) := dk_180 0 59 (dk_at dksX1_getsUp_0 11 rfl rfl)
theorem dX1_getsUp_14 : decode cX1_getsUp 14 = .ok (.iload_n 2, 1) := dk_28 (dk_at dksX1_getsUp_0 14 rfl rfl)
theorem dX1_getsUp_15 : decode cX1_getsUp 15 = .ok (.iaload, 1) := dk_46 (dk_at dksX1_getsUp_0 15 rfl rfl)
theorem dX1_getsUp_16 : decode cX1_getsUp 16 = .ok (.iload_n 1, 1) := dk_27 (dk_at dksX1_getsUp_0 16 rfl rfl)
theorem dX1_getsUp_17 : decode cX1_getsUp 17 = .ok (.if_icmp .ne 11, 3) := dk_160 0 11 (dk_at dksX1_getsUp_0 17 rfl rfl)
theorem dX1_getsUp_20 : decode cX1_getsUp 20 = .ok (.aload_n 0, 1) := dk_42 (dk_at dksX1_getsUp_0 20 rfl rfl)
theorem dX1_getsUp_21 : decode cX1_getsUp 21 = .ok (.getfield 59, 3) := dk_180 0 59 (dk_at dksX1_getsUp_0 21 rfl rfl)
theorem dX1_getsUp_24 : decode cX1_getsUp 24 = .ok (.iload_n 2, 1) := dk_28 (dk_at dksX1_getsUp_1 0 rfl rfl)
theorem dX1_getsUp_25 : decode cX1_getsUp 25 = .ok (.bipush (-9), 2) := dk_16 247 (dk_at dksX1_getsUp_1 1 rfl rfl)
theorem dX1_getsUp_27 : decode cX1_getsUp 27 = .ok (.iastore, 1) := dk_79 (dk_at dksX1_getsUp_1 3 rfl rfl)
theorem dX1_getsUp_28 : decode cX1_getsUp 28 = .ok (.iinc 2 1, 3) := dk_132 2 1 (dk_at dksX1_getsUp_1 4 rfl rfl)
theorem dX1_getsUp_31 : decode cX1_getsUp 31 = .ok (.goto (-29), 3) := dk_167 255 227 (dk_at dksX1_getsUp_1 7 rfl rfl)
theorem dX1_getsUp_34 : decode cX1_getsUp 34 = .ok (.return_, 1) := dk_177 (dk_at dksX1_getsUp_1 10 rfl rfl)
abbrev cX1_goes : ByteArray := prog_12_method_29_code
def yX1_goes : MethodName := ⟨RX1, "goes", "(II)V"⟩
def dkwX1_goes_1 : List UInt8 := [182, 0, 204, 79, 177]
abbrev dktX1_goes_1 : List UInt8 := dkwX1_goes_1 ++ []
def dkwX1_goes_0 : List UInt8 := [42, 180, 0, 66, 27, 8, 79, 42, 180, 0, 78, 27, 42, 27, 28, 42, 180, 0, 72, 27, 46, 100]
abbrev dktX1_goes_0 : List UInt8 := dkwX1_goes_0 ++ dktX1_goes_1
theorem dksX1_goes_0 : cX1_goes.data.toList.drop 0 = dktX1_goes_0 := by decide +kernel
theorem dksX1_goes_1 : cX1_goes.data.toList.drop 22 = dktX1_goes_1 := dk_seg dksX1_goes_0 22 rfl rfl
theorem dX1_goes_0 : decode cX1_goes 0 = .ok (.aload_n 0, 1) := dk_42 (dk_at dksX1_goes_0 0 rfl rfl)
theorem dX1_goes_1 : decode cX1_goes 1 = .ok (.getfield 66, 3) := dk_180 0 66 (dk_at dksX1_goes_0 1 rfl rfl)
theorem dX1_goes_4 : decode cX1_goes 4 = .ok (.iload_n 1, 1) := dk_27 (dk_at dksX1_goes_0 4 rfl rfl)
theorem dX1_goes_5 : decode cX1_goes 5 = .ok (.iconst 5, 1) := dk_8 (dk_at dksX1_goes_0 5 rfl rfl)
theorem dX1_goes_6 : decode cX1_goes 6 = .ok (.iastore, 1) := dk_79 (dk_at dksX1_goes_0 6 rfl rfl)
theorem dX1_goes_7 : decode cX1_goes 7 = .ok (.aload_n 0, 1) := dk_42 (dk_at dksX1_goes_0 7 rfl rfl)
theorem dX1_goes_8 : decode cX1_goes 8 = .ok (.getfield 78, 3) := dk_180 0 78 (dk_at dksX1_goes_0 8 rfl rfl)
theorem dX1_goes_11 : decode cX1_goes 11 = .ok (.iload_n 1, 1) := dk_27 (dk_at dksX1_goes_0 11 rfl rfl)
theorem dX1_goes_12 : decode cX1_goes 12 = .ok (.aload_n 0, 1) := dk_42 (dk_at dksX1_goes_0 12 rfl rfl)
theorem dX1_goes_13 : decode cX1_goes 13 = .ok (.iload_n 1, 1) := dk_27 (dk_at dksX1_goes_0 13 rfl rfl)
theorem dX1_goes_14 : decode cX1_goes 14 = .ok (.iload_n 2, 1) := dk_28 (dk_at dksX1_goes_0 14 rfl rfl)
theorem dX1_goes_15 : decode cX1_goes 15 = .ok (.aload_n 0, 1) := dk_42 (dk_at dksX1_goes_0 15 rfl rfl)
theorem dX1_goes_16 : decode cX1_goes 16 = .ok (.getfield 72, 3) := dk_180 0 72 (dk_at dksX1_goes_0 16 rfl rfl)
theorem dX1_goes_19 : decode cX1_goes 19 = .ok (.iload_n 1, 1) := dk_27 (dk_at dksX1_goes_0 19 rfl rfl)
theorem dX1_goes_20 : decode cX1_goes 20 = .ok (.iaload, 1) := dk_46 (dk_at dksX1_goes_0 20 rfl rfl)
theorem dX1_goes_21 : decode cX1_goes 21 = .ok (.isub, 1) := dk_100 (dk_at dksX1_goes_0 21 rfl rfl)
theorem dX1_goes_22 : decode cX1_goes 22 = .ok (.invokevirtual 204, 3) := dk_182 0 204 (dk_at dksX1_goes_1 0 rfl rfl)
theorem dX1_goes_25 : decode cX1_goes 25 = .ok (.iastore, 1) := dk_79 (dk_at dksX1_goes_1 3 rfl rfl)
theorem dX1_goes_26 : decode cX1_goes 26 = .ok (.return_, 1) := dk_177 (dk_at dksX1_goes_1 4 rfl rfl)
abbrev cX1_coinOf : ByteArray := prog_12_method_23_code
def yX1_coinOf : MethodName := ⟨RX1, "coinOf", "(II)I"⟩
def dkwX1_coinOf_1 : List UInt8 := [108, 96, 104, 172]
abbrev dktX1_coinOf_1 : List UInt8 := dkwX1_coinOf_1 ++ []
def dkwX1_coinOf_0 : List UInt8 := [42, 180, 0, 38, 27, 46, 8, 28, 42, 180, 0, 35, 27, 46, 158, 0, 8, 16, 20, 167, 0, 5, 16, 10]
abbrev dktX1_coinOf_0 : List UInt8 := dkwX1_coinOf_0 ++ dktX1_coinOf_1
theorem dksX1_coinOf_0 : cX1_coinOf.data.toList.drop 0 = dktX1_coinOf_0 := by decide +kernel
theorem dksX1_coinOf_1 : cX1_coinOf.data.toList.drop 24 = dktX1_coinOf_1 := dk_seg dksX1_coinOf_0 24 rfl rfl
theorem dX1_coinOf_0 : decode cX1_coinOf 0 = .ok (.aload_n 0, 1) := dk_42 (dk_at dksX1_coinOf_0 0 rfl rfl)
theorem dX1_coinOf_1 : decode cX1_coinOf 1 = .ok (.getfield 38, 3) := dk_180 0 38 (dk_at dksX1_coinOf_0 1 rfl rfl)
theorem dX1_coinOf_4 : decode cX1_coinOf 4 = .ok (.iload_n 1, 1) := dk_27 (dk_at dksX1_coinOf_0 4 rfl rfl)
theorem dX1_coinOf_5 : decode cX1_coinOf 5 = .ok (.iaload, 1) := dk_46 (dk_at dksX1_coinOf_0 5 rfl rfl)
theorem dX1_coinOf_6 : decode cX1_coinOf 6 = .ok (.iconst 5, 1) := dk_8 (dk_at dksX1_coinOf_0 6 rfl rfl)
theorem dX1_coinOf_7 : decode cX1_coinOf 7 = .ok (.iload_n 2, 1) := dk_28 (dk_at dksX1_coinOf_0 7 rfl rfl)
theorem dX1_coinOf_8 : decode cX1_coinOf 8 = .ok (.aload_n 0, 1) := dk_42 (dk_at dksX1_coinOf_0 8 rfl rfl)
theorem dX1_coinOf_9 : decode cX1_coinOf 9 = .ok (.getfield 35, 3) := dk_180 0 35 (dk_at dksX1_coinOf_0 9 rfl rfl)
theorem dX1_coinOf_12 : decode cX1_coinOf 12 = .ok (.iload_n 1, 1) := dk_27 (dk_at dksX1_coinOf_0 12 rfl rfl)
theorem dX1_coinOf_13 : decode cX1_coinOf 13 = .ok (.iaload, 1) := dk_46 (dk_at dksX1_coinOf_0 13 rfl rfl)
theorem dX1_coinOf_14 : decode cX1_coinOf 14 = .ok (.ifCond .le 8, 3) := dk_158 0 8 (dk_at dksX1_coinOf_0 14 rfl rfl)
theorem dX1_coinOf_17 : decode cX1_coinOf 17 = .ok (.bipush 20, 2) := dk_16 20 (dk_at dksX1_coinOf_0 17 rfl rfl)
theorem dX1_coinOf_19 : decode cX1_coinOf 19 = .ok (.goto 5, 3) := dk_167 0 5 (dk_at dksX1_coinOf_0 19 rfl rfl)
theorem dX1_coinOf_22 : decode cX1_coinOf 22 = .ok (.bipush 10, 2) := dk_16 10 (dk_at dksX1_coinOf_0 22 rfl rfl)
theorem dX1_coinOf_24 : decode cX1_coinOf 24 = .ok (.idiv, 1) := dk_108 (dk_at dksX1_coinOf_1 0 rfl rfl)
theorem dX1_coinOf_25 : decode cX1_coinOf 25 = .ok (.iadd, 1) := dk_96 (dk_at dksX1_coinOf_1 1 rfl rfl)
theorem dX1_coinOf_26 : decode cX1_coinOf 26 = .ok (.imul, 1) := dk_104 (dk_at dksX1_coinOf_1 2 rfl rfl)
theorem dX1_coinOf_27 : decode cX1_coinOf 27 = .ok (.ireturn, 1) := dk_172 (dk_at dksX1_coinOf_1 3 rfl rfl)
abbrev cX1_rainsOn : ByteArray := prog_12_method_32_code
def yX1_rainsOn : MethodName := ⟨RX1, "rainsOn", "(I)V"⟩
def dkwX1_rainsOn_6 : List UInt8 := [28, 27, 182, 0, 191, 42, 180, 0, 75, 28, 27, 79, 132, 2, 1, 167, 255, 215, 177]
abbrev dktX1_rainsOn_6 : List UInt8 := dkwX1_rainsOn_6 ++ []
def dkwX1_rainsOn_5 : List UInt8 := [180, 0, 135, 162, 0, 39, 42, 180, 0, 90, 28, 51, 153, 0, 24, 42, 28, 182, 0, 211, 154, 0, 16, 42]
abbrev dktX1_rainsOn_5 : List UInt8 := dkwX1_rainsOn_5 ++ dktX1_rainsOn_6
def dkwX1_rainsOn_4 : List UInt8 := [180, 0, 53, 28, 46, 154, 0, 7, 4, 167, 0, 4, 3, 84, 132, 2, 1, 167, 255, 225, 3, 61, 28, 42]
abbrev dktX1_rainsOn_4 : List UInt8 := dkwX1_rainsOn_4 ++ dktX1_rainsOn_5
def dkwX1_rainsOn_3 : List UInt8 := [132, 2, 1, 167, 255, 231, 3, 61, 28, 42, 180, 0, 162, 162, 0, 29, 42, 180, 0, 62, 28, 42]
abbrev dktX1_rainsOn_3 : List UInt8 := dkwX1_rainsOn_3 ++ dktX1_rainsOn_4
def dkwX1_rainsOn_2 : List UInt8 := [61, 28, 42, 180, 0, 135, 162, 0, 23, 42, 180, 0, 90, 28, 51, 153, 0, 8, 42, 28, 182, 0, 188]
abbrev dktX1_rainsOn_2 : List UInt8 := dkwX1_rainsOn_2 ++ dktX1_rainsOn_3
def dkwX1_rainsOn_1 : List UInt8 := [160, 0, 15, 42, 28, 182, 0, 208, 153, 0, 7, 4, 167, 0, 4, 3, 84, 132, 2, 1, 167, 255, 216, 3]
abbrev dktX1_rainsOn_1 : List UInt8 := dkwX1_rainsOn_1 ++ dktX1_rainsOn_2
def dkwX1_rainsOn_0 : List UInt8 := [3, 61, 28, 42, 180, 0, 135, 162, 0, 38, 42, 180, 0, 90, 28, 42, 180, 0, 66, 28, 46, 4]
abbrev dktX1_rainsOn_0 : List UInt8 := dkwX1_rainsOn_0 ++ dktX1_rainsOn_1
theorem dksX1_rainsOn_0 : cX1_rainsOn.data.toList.drop 0 = dktX1_rainsOn_0 := by decide +kernel
theorem dksX1_rainsOn_1 : cX1_rainsOn.data.toList.drop 22 = dktX1_rainsOn_1 := dk_seg dksX1_rainsOn_0 22 rfl rfl
theorem dksX1_rainsOn_2 : cX1_rainsOn.data.toList.drop 46 = dktX1_rainsOn_2 := dk_seg dksX1_rainsOn_1 24 rfl rfl
theorem dksX1_rainsOn_3 : cX1_rainsOn.data.toList.drop 69 = dktX1_rainsOn_3 := dk_seg dksX1_rainsOn_2 23 rfl rfl
theorem dksX1_rainsOn_4 : cX1_rainsOn.data.toList.drop 91 = dktX1_rainsOn_4 := dk_seg dksX1_rainsOn_3 22 rfl rfl
theorem dksX1_rainsOn_5 : cX1_rainsOn.data.toList.drop 115 = dktX1_rainsOn_5 := dk_seg dksX1_rainsOn_4 24 rfl rfl
theorem dksX1_rainsOn_6 : cX1_rainsOn.data.toList.drop 139 = dktX1_rainsOn_6 := dk_seg dksX1_rainsOn_5 24 rfl rfl
theorem dX1_rainsOn_0 : decode cX1_rainsOn 0 = .ok (.iconst 0, 1) := dk_3 (dk_at dksX1_rainsOn_0 0 rfl rfl)
theorem dX1_rainsOn_1 : decode cX1_rainsOn 1 = .ok (.istore_n 2, 1) := dk_61 (dk_at dksX1_rainsOn_0 1 rfl rfl)
theorem dX1_rainsOn_2 : decode cX1_rainsOn 2 = .ok (.iload_n 2, 1) := dk_28 (dk_at dksX1_rainsOn_0 2 rfl rfl)
theorem dX1_rainsOn_3 : decode cX1_rainsOn 3 = .ok (.aload_n 0, 1) := dk_42 (dk_at dksX1_rainsOn_0 3 rfl rfl)
theorem dX1_rainsOn_4 : decode cX1_rainsOn 4 = .ok (.getfield 135, 3) := dk_180 0 135 (dk_at dksX1_rainsOn_0 4 rfl rfl)
theorem dX1_rainsOn_7 : decode cX1_rainsOn 7 = .ok (.if_icmp .ge 38, 3) := dk_162 0 38 (dk_at dksX1_rainsOn_0 7 rfl rfl)
theorem dX1_rainsOn_10 : decode cX1_rainsOn 10 = .ok (.aload_n 0, 1) := dk_42 (dk_at dksX1_rainsOn_0 10 rfl rfl)
theorem dX1_rainsOn_11 : decode cX1_rainsOn 11 = .ok (.getfield 90, 3) := dk_180 0 90 (dk_at dksX1_rainsOn_0 11 rfl rfl)
theorem dX1_rainsOn_14 : decode cX1_rainsOn 14 = .ok (.iload_n 2, 1) := dk_28 (dk_at dksX1_rainsOn_0 14 rfl rfl)
theorem dX1_rainsOn_15 : decode cX1_rainsOn 15 = .ok (.aload_n 0, 1) := dk_42 (dk_at dksX1_rainsOn_0 15 rfl rfl)
theorem dX1_rainsOn_16 : decode cX1_rainsOn 16 = .ok (.getfield 66, 3) := dk_180 0 66 (dk_at dksX1_rainsOn_0 16 rfl rfl)
theorem dX1_rainsOn_19 : decode cX1_rainsOn 19 = .ok (.iload_n 2, 1) := dk_28 (dk_at dksX1_rainsOn_0 19 rfl rfl)
theorem dX1_rainsOn_20 : decode cX1_rainsOn 20 = .ok (.iaload, 1) := dk_46 (dk_at dksX1_rainsOn_0 20 rfl rfl)
theorem dX1_rainsOn_21 : decode cX1_rainsOn 21 = .ok (.iconst 1, 1) := dk_4 (dk_at dksX1_rainsOn_0 21 rfl rfl)
theorem dX1_rainsOn_22 : decode cX1_rainsOn 22 = .ok (.if_icmp .ne 15, 3) := dk_160 0 15 (dk_at dksX1_rainsOn_1 0 rfl rfl)
theorem dX1_rainsOn_25 : decode cX1_rainsOn 25 = .ok (.aload_n 0, 1) := dk_42 (dk_at dksX1_rainsOn_1 3 rfl rfl)
theorem dX1_rainsOn_26 : decode cX1_rainsOn 26 = .ok (.iload_n 2, 1) := dk_28 (dk_at dksX1_rainsOn_1 4 rfl rfl)
theorem dX1_rainsOn_27 : decode cX1_rainsOn 27 = .ok (.invokevirtual 208, 3) := dk_182 0 208 (dk_at dksX1_rainsOn_1 5 rfl rfl)
theorem dX1_rainsOn_30 : decode cX1_rainsOn 30 = .ok (.ifCond .eq 7, 3) := dk_153 0 7 (dk_at dksX1_rainsOn_1 8 rfl rfl)
theorem dX1_rainsOn_33 : decode cX1_rainsOn 33 = .ok (.iconst 1, 1) := dk_4 (dk_at dksX1_rainsOn_1 11 rfl rfl)
theorem dX1_rainsOn_34 : decode cX1_rainsOn 34 = .ok (.goto 4, 3) := dk_167 0 4 (dk_at dksX1_rainsOn_1 12 rfl rfl)
theorem dX1_rainsOn_37 : decode cX1_rainsOn 37 = .ok (.iconst 0, 1) := dk_3 (dk_at dksX1_rainsOn_1 15 rfl rfl)
theorem dX1_rainsOn_38 : decode cX1_rainsOn 38 = .ok (.bastore, 1) := dk_84 (dk_at dksX1_rainsOn_1 16 rfl rfl)
theorem dX1_rainsOn_39 : decode cX1_rainsOn 39 = .ok (.iinc 2 1, 3) := dk_132 2 1 (dk_at dksX1_rainsOn_1 17 rfl rfl)
theorem dX1_rainsOn_42 : decode cX1_rainsOn 42 = .ok (.goto (-40), 3) := dk_167 255 216 (dk_at dksX1_rainsOn_1 20 rfl rfl)
theorem dX1_rainsOn_45 : decode cX1_rainsOn 45 = .ok (.iconst 0, 1) := dk_3 (dk_at dksX1_rainsOn_1 23 rfl rfl)
theorem dX1_rainsOn_46 : decode cX1_rainsOn 46 = .ok (.istore_n 2, 1) := dk_61 (dk_at dksX1_rainsOn_2 0 rfl rfl)
theorem dX1_rainsOn_47 : decode cX1_rainsOn 47 = .ok (.iload_n 2, 1) := dk_28 (dk_at dksX1_rainsOn_2 1 rfl rfl)
theorem dX1_rainsOn_48 : decode cX1_rainsOn 48 = .ok (.aload_n 0, 1) := dk_42 (dk_at dksX1_rainsOn_2 2 rfl rfl)
theorem dX1_rainsOn_49 : decode cX1_rainsOn 49 = .ok (.getfield 135, 3) := dk_180 0 135 (dk_at dksX1_rainsOn_2 3 rfl rfl)
theorem dX1_rainsOn_52 : decode cX1_rainsOn 52 = .ok (.if_icmp .ge 23, 3) := dk_162 0 23 (dk_at dksX1_rainsOn_2 6 rfl rfl)
theorem dX1_rainsOn_55 : decode cX1_rainsOn 55 = .ok (.aload_n 0, 1) := dk_42 (dk_at dksX1_rainsOn_2 9 rfl rfl)
theorem dX1_rainsOn_56 : decode cX1_rainsOn 56 = .ok (.getfield 90, 3) := dk_180 0 90 (dk_at dksX1_rainsOn_2 10 rfl rfl)
theorem dX1_rainsOn_59 : decode cX1_rainsOn 59 = .ok (.iload_n 2, 1) := dk_28 (dk_at dksX1_rainsOn_2 13 rfl rfl)
theorem dX1_rainsOn_60 : decode cX1_rainsOn 60 = .ok (.baload, 1) := dk_51 (dk_at dksX1_rainsOn_2 14 rfl rfl)
theorem dX1_rainsOn_61 : decode cX1_rainsOn 61 = .ok (.ifCond .eq 8, 3) := dk_153 0 8 (dk_at dksX1_rainsOn_2 15 rfl rfl)
theorem dX1_rainsOn_64 : decode cX1_rainsOn 64 = .ok (.aload_n 0, 1) := dk_42 (dk_at dksX1_rainsOn_2 18 rfl rfl)
theorem dX1_rainsOn_65 : decode cX1_rainsOn 65 = .ok (.iload_n 2, 1) := dk_28 (dk_at dksX1_rainsOn_2 19 rfl rfl)
theorem dX1_rainsOn_66 : decode cX1_rainsOn 66 = .ok (.invokevirtual 188, 3) := dk_182 0 188 (dk_at dksX1_rainsOn_2 20 rfl rfl)
theorem dX1_rainsOn_69 : decode cX1_rainsOn 69 = .ok (.iinc 2 1, 3) := dk_132 2 1 (dk_at dksX1_rainsOn_3 0 rfl rfl)
theorem dX1_rainsOn_72 : decode cX1_rainsOn 72 = .ok (.goto (-25), 3) := dk_167 255 231 (dk_at dksX1_rainsOn_3 3 rfl rfl)
theorem dX1_rainsOn_75 : decode cX1_rainsOn 75 = .ok (.iconst 0, 1) := dk_3 (dk_at dksX1_rainsOn_3 6 rfl rfl)
theorem dX1_rainsOn_76 : decode cX1_rainsOn 76 = .ok (.istore_n 2, 1) := dk_61 (dk_at dksX1_rainsOn_3 7 rfl rfl)
theorem dX1_rainsOn_77 : decode cX1_rainsOn 77 = .ok (.iload_n 2, 1) := dk_28 (dk_at dksX1_rainsOn_3 8 rfl rfl)
theorem dX1_rainsOn_78 : decode cX1_rainsOn 78 = .ok (.aload_n 0, 1) := dk_42 (dk_at dksX1_rainsOn_3 9 rfl rfl)
theorem dX1_rainsOn_79 : decode cX1_rainsOn 79 = .ok (.getfield 162, 3) := dk_180 0 162 (dk_at dksX1_rainsOn_3 10 rfl rfl)
theorem dX1_rainsOn_82 : decode cX1_rainsOn 82 = .ok (.if_icmp .ge 29, 3) := dk_162 0 29 (dk_at dksX1_rainsOn_3 13 rfl rfl)
theorem dX1_rainsOn_85 : decode cX1_rainsOn 85 = .ok (.aload_n 0, 1) := dk_42 (dk_at dksX1_rainsOn_3 16 rfl rfl)
theorem dX1_rainsOn_86 : decode cX1_rainsOn 86 = .ok (.getfield 62, 3) := dk_180 0 62 (dk_at dksX1_rainsOn_3 17 rfl rfl)
theorem dX1_rainsOn_89 : decode cX1_rainsOn 89 = .ok (.iload_n 2, 1) := dk_28 (dk_at dksX1_rainsOn_3 20 rfl rfl)
theorem dX1_rainsOn_90 : decode cX1_rainsOn 90 = .ok (.aload_n 0, 1) := dk_42 (dk_at dksX1_rainsOn_3 21 rfl rfl)
theorem dX1_rainsOn_91 : decode cX1_rainsOn 91 = .ok (.getfield 53, 3) := dk_180 0 53 (dk_at dksX1_rainsOn_4 0 rfl rfl)
theorem dX1_rainsOn_94 : decode cX1_rainsOn 94 = .ok (.iload_n 2, 1) := dk_28 (dk_at dksX1_rainsOn_4 3 rfl rfl)
theorem dX1_rainsOn_95 : decode cX1_rainsOn 95 = .ok (.iaload, 1) := dk_46 (dk_at dksX1_rainsOn_4 4 rfl rfl)
theorem dX1_rainsOn_96 : decode cX1_rainsOn 96 = .ok (.ifCond .ne 7, 3) := dk_154 0 7 (dk_at dksX1_rainsOn_4 5 rfl rfl)
theorem dX1_rainsOn_99 : decode cX1_rainsOn 99 = .ok (.iconst 1, 1) := dk_4 (dk_at dksX1_rainsOn_4 8 rfl rfl)
theorem dX1_rainsOn_100 : decode cX1_rainsOn 100 = .ok (.goto 4, 3) := dk_167 0 4 (dk_at dksX1_rainsOn_4 9 rfl rfl)
theorem dX1_rainsOn_103 : decode cX1_rainsOn 103 = .ok (.iconst 0, 1) := dk_3 (dk_at dksX1_rainsOn_4 12 rfl rfl)
theorem dX1_rainsOn_104 : decode cX1_rainsOn 104 = .ok (.bastore, 1) := dk_84 (dk_at dksX1_rainsOn_4 13 rfl rfl)
theorem dX1_rainsOn_105 : decode cX1_rainsOn 105 = .ok (.iinc 2 1, 3) := dk_132 2 1 (dk_at dksX1_rainsOn_4 14 rfl rfl)
theorem dX1_rainsOn_108 : decode cX1_rainsOn 108 = .ok (.goto (-31), 3) := dk_167 255 225 (dk_at dksX1_rainsOn_4 17 rfl rfl)
theorem dX1_rainsOn_111 : decode cX1_rainsOn 111 = .ok (.iconst 0, 1) := dk_3 (dk_at dksX1_rainsOn_4 20 rfl rfl)
theorem dX1_rainsOn_112 : decode cX1_rainsOn 112 = .ok (.istore_n 2, 1) := dk_61 (dk_at dksX1_rainsOn_4 21 rfl rfl)
theorem dX1_rainsOn_113 : decode cX1_rainsOn 113 = .ok (.iload_n 2, 1) := dk_28 (dk_at dksX1_rainsOn_4 22 rfl rfl)
theorem dX1_rainsOn_114 : decode cX1_rainsOn 114 = .ok (.aload_n 0, 1) := dk_42 (dk_at dksX1_rainsOn_4 23 rfl rfl)
theorem dX1_rainsOn_115 : decode cX1_rainsOn 115 = .ok (.getfield 135, 3) := dk_180 0 135 (dk_at dksX1_rainsOn_5 0 rfl rfl)
theorem dX1_rainsOn_118 : decode cX1_rainsOn 118 = .ok (.if_icmp .ge 39, 3) := dk_162 0 39 (dk_at dksX1_rainsOn_5 3 rfl rfl)
theorem dX1_rainsOn_121 : decode cX1_rainsOn 121 = .ok (.aload_n 0, 1) := dk_42 (dk_at dksX1_rainsOn_5 6 rfl rfl)
theorem dX1_rainsOn_122 : decode cX1_rainsOn 122 = .ok (.getfield 90, 3) := dk_180 0 90 (dk_at dksX1_rainsOn_5 7 rfl rfl)
theorem dX1_rainsOn_125 : decode cX1_rainsOn 125 = .ok (.iload_n 2, 1) := dk_28 (dk_at dksX1_rainsOn_5 10 rfl rfl)
theorem dX1_rainsOn_126 : decode cX1_rainsOn 126 = .ok (.baload, 1) := dk_51 (dk_at dksX1_rainsOn_5 11 rfl rfl)
theorem dX1_rainsOn_127 : decode cX1_rainsOn 127 = .ok (.ifCond .eq 24, 3) := dk_153 0 24 (dk_at dksX1_rainsOn_5 12 rfl rfl)
theorem dX1_rainsOn_130 : decode cX1_rainsOn 130 = .ok (.aload_n 0, 1) := dk_42 (dk_at dksX1_rainsOn_5 15 rfl rfl)
theorem dX1_rainsOn_131 : decode cX1_rainsOn 131 = .ok (.iload_n 2, 1) := dk_28 (dk_at dksX1_rainsOn_5 16 rfl rfl)
theorem dX1_rainsOn_132 : decode cX1_rainsOn 132 = .ok (.invokevirtual 211, 3) := dk_182 0 211 (dk_at dksX1_rainsOn_5 17 rfl rfl)
theorem dX1_rainsOn_135 : decode cX1_rainsOn 135 = .ok (.ifCond .ne 16, 3) := dk_154 0 16 (dk_at dksX1_rainsOn_5 20 rfl rfl)
theorem dX1_rainsOn_138 : decode cX1_rainsOn 138 = .ok (.aload_n 0, 1) := dk_42 (dk_at dksX1_rainsOn_5 23 rfl rfl)
theorem dX1_rainsOn_139 : decode cX1_rainsOn 139 = .ok (.iload_n 2, 1) := dk_28 (dk_at dksX1_rainsOn_6 0 rfl rfl)
theorem dX1_rainsOn_140 : decode cX1_rainsOn 140 = .ok (.iload_n 1, 1) := dk_27 (dk_at dksX1_rainsOn_6 1 rfl rfl)
theorem dX1_rainsOn_141 : decode cX1_rainsOn 141 = .ok (.invokevirtual 191, 3) := dk_182 0 191 (dk_at dksX1_rainsOn_6 2 rfl rfl)
theorem dX1_rainsOn_144 : decode cX1_rainsOn 144 = .ok (.aload_n 0, 1) := dk_42 (dk_at dksX1_rainsOn_6 5 rfl rfl)
theorem dX1_rainsOn_145 : decode cX1_rainsOn 145 = .ok (.getfield 75, 3) := dk_180 0 75 (dk_at dksX1_rainsOn_6 6 rfl rfl)
theorem dX1_rainsOn_148 : decode cX1_rainsOn 148 = .ok (.iload_n 2, 1) := dk_28 (dk_at dksX1_rainsOn_6 9 rfl rfl)
theorem dX1_rainsOn_149 : decode cX1_rainsOn 149 = .ok (.iload_n 1, 1) := dk_27 (dk_at dksX1_rainsOn_6 10 rfl rfl)
theorem dX1_rainsOn_150 : decode cX1_rainsOn 150 = .ok (.iastore, 1) := dk_79 (dk_at dksX1_rainsOn_6 11 rfl rfl)
theorem dX1_rainsOn_151 : decode cX1_rainsOn 151 = .ok (.iinc 2 1, 3) := dk_132 2 1 (dk_at dksX1_rainsOn_6 12 rfl rfl)
theorem dX1_rainsOn_154 : decode cX1_rainsOn 154 = .ok (.goto (-41), 3) := dk_167 255 215 (dk_at dksX1_rainsOn_6 15 rfl rfl)
theorem dX1_rainsOn_157 : decode cX1_rainsOn 157 = .ok (.return_, 1) := dk_177 (dk_at dksX1_rainsOn_6 18 rfl rfl)
abbrev cX1_isInSun : ByteArray := prog_12_method_31_code
def yX1_isInSun : MethodName := ⟨RX1, "isInSun", "(I)Z"⟩
def dkwX1_isInSun_2 : List UInt8 := [28, 172]
abbrev dktX1_isInSun_2 : List UInt8 := dkwX1_isInSun_2 ++ []
def dkwX1_isInSun_1 : List UInt8 := [160, 0, 16, 42, 180, 0, 53, 29, 46, 154, 0, 7, 4, 167, 0, 4, 3, 61, 132, 3, 1, 167, 255, 216]
abbrev dktX1_isInSun_1 : List UInt8 := dkwX1_isInSun_1 ++ dktX1_isInSun_2
def dkwX1_isInSun_0 : List UInt8 := [3, 61, 3, 62, 29, 42, 180, 0, 162, 162, 0, 38, 28, 154, 0, 22, 42, 180, 0, 59, 29, 46, 27]
abbrev dktX1_isInSun_0 : List UInt8 := dkwX1_isInSun_0 ++ dktX1_isInSun_1
theorem dksX1_isInSun_0 : cX1_isInSun.data.toList.drop 0 = dktX1_isInSun_0 := by decide +kernel
theorem dksX1_isInSun_1 : cX1_isInSun.data.toList.drop 23 = dktX1_isInSun_1 := dk_seg dksX1_isInSun_0 23 rfl rfl
theorem dksX1_isInSun_2 : cX1_isInSun.data.toList.drop 47 = dktX1_isInSun_2 := dk_seg dksX1_isInSun_1 24 rfl rfl
theorem dX1_isInSun_0 : decode cX1_isInSun 0 = .ok (.iconst 0, 1) := dk_3 (dk_at dksX1_isInSun_0 0 rfl rfl)
theorem dX1_isInSun_1 : decode cX1_isInSun 1 = .ok (.istore_n 2, 1) := dk_61 (dk_at dksX1_isInSun_0 1 rfl rfl)
theorem dX1_isInSun_2 : decode cX1_isInSun 2 = .ok (.iconst 0, 1) := dk_3 (dk_at dksX1_isInSun_0 2 rfl rfl)
theorem dX1_isInSun_3 : decode cX1_isInSun 3 = .ok (.istore_n 3, 1) := dk_62 (dk_at dksX1_isInSun_0 3 rfl rfl)
theorem dX1_isInSun_4 : decode cX1_isInSun 4 = .ok (.iload_n 3, 1) := dk_29 (dk_at dksX1_isInSun_0 4 rfl rfl)
theorem dX1_isInSun_5 : decode cX1_isInSun 5 = .ok (.aload_n 0, 1) := dk_42 (dk_at dksX1_isInSun_0 5 rfl rfl)
theorem dX1_isInSun_6 : decode cX1_isInSun 6 = .ok (.getfield 162, 3) := dk_180 0 162 (dk_at dksX1_isInSun_0 6 rfl rfl)
theorem dX1_isInSun_9 : decode cX1_isInSun 9 = .ok (.if_icmp .ge 38, 3) := dk_162 0 38 (dk_at dksX1_isInSun_0 9 rfl rfl)
theorem dX1_isInSun_12 : decode cX1_isInSun 12 = .ok (.iload_n 2, 1) := dk_28 (dk_at dksX1_isInSun_0 12 rfl rfl)
theorem dX1_isInSun_13 : decode cX1_isInSun 13 = .ok (.ifCond .ne 22, 3) := dk_154 0 22 (dk_at dksX1_isInSun_0 13 rfl rfl)
theorem dX1_isInSun_16 : decode cX1_isInSun 16 = .ok (.aload_n 0, 1) := dk_42 (dk_at dksX1_isInSun_0 16 rfl rfl)
theorem dX1_isInSun_17 : decode cX1_isInSun 17 = .ok (.getfield 59, 3) := dk_180 0 59 (dk_at dksX1_isInSun_0 17 rfl rfl)
theorem dX1_isInSun_20 : decode cX1_isInSun 20 = .ok (.iload_n 3, 1) := dk_29 (dk_at dksX1_isInSun_0 20 rfl rfl)
theorem dX1_isInSun_21 : decode cX1_isInSun 21 = .ok (.iaload, 1) := dk_46 (dk_at dksX1_isInSun_0 21 rfl rfl)
theorem dX1_isInSun_22 : decode cX1_isInSun 22 = .ok (.iload_n 1, 1) := dk_27 (dk_at dksX1_isInSun_0 22 rfl rfl)
theorem dX1_isInSun_23 : decode cX1_isInSun 23 = .ok (.if_icmp .ne 16, 3) := dk_160 0 16 (dk_at dksX1_isInSun_1 0 rfl rfl)
theorem dX1_isInSun_26 : decode cX1_isInSun 26 = .ok (.aload_n 0, 1) := dk_42 (dk_at dksX1_isInSun_1 3 rfl rfl)
theorem dX1_isInSun_27 : decode cX1_isInSun 27 = .ok (.getfield 53, 3) := dk_180 0 53 (dk_at dksX1_isInSun_1 4 rfl rfl)
theorem dX1_isInSun_30 : decode cX1_isInSun 30 = .ok (.iload_n 3, 1) := dk_29 (dk_at dksX1_isInSun_1 7 rfl rfl)
theorem dX1_isInSun_31 : decode cX1_isInSun 31 = .ok (.iaload, 1) := dk_46 (dk_at dksX1_isInSun_1 8 rfl rfl)
theorem dX1_isInSun_32 : decode cX1_isInSun 32 = .ok (.ifCond .ne 7, 3) := dk_154 0 7 (dk_at dksX1_isInSun_1 9 rfl rfl)
theorem dX1_isInSun_35 : decode cX1_isInSun 35 = .ok (.iconst 1, 1) := dk_4 (dk_at dksX1_isInSun_1 12 rfl rfl)
theorem dX1_isInSun_36 : decode cX1_isInSun 36 = .ok (.goto 4, 3) := dk_167 0 4 (dk_at dksX1_isInSun_1 13 rfl rfl)
theorem dX1_isInSun_39 : decode cX1_isInSun 39 = .ok (.iconst 0, 1) := dk_3 (dk_at dksX1_isInSun_1 16 rfl rfl)
theorem dX1_isInSun_40 : decode cX1_isInSun 40 = .ok (.istore_n 2, 1) := dk_61 (dk_at dksX1_isInSun_1 17 rfl rfl)
theorem dX1_isInSun_41 : decode cX1_isInSun 41 = .ok (.iinc 3 1, 3) := dk_132 3 1 (dk_at dksX1_isInSun_1 18 rfl rfl)
theorem dX1_isInSun_44 : decode cX1_isInSun 44 = .ok (.goto (-40), 3) := dk_167 255 216 (dk_at dksX1_isInSun_1 21 rfl rfl)
theorem dX1_isInSun_47 : decode cX1_isInSun 47 = .ok (.iload_n 2, 1) := dk_28 (dk_at dksX1_isInSun_2 0 rfl rfl)
theorem dX1_isInSun_48 : decode cX1_isInSun 48 = .ok (.ireturn, 1) := dk_172 (dk_at dksX1_isInSun_2 1 rfl rfl)
abbrev cX1_takesTable : ByteArray := prog_12_method_38_code
def yX1_takesTable : MethodName := ⟨RX1, "takesTable", "(I)Z"⟩
def dkwX1_takesTable_3 : List UInt8 := [182, 0, 227, 153, 0, 7, 4, 167, 0, 4, 3, 172]
abbrev dktX1_takesTable_3 : List UInt8 := dkwX1_takesTable_3 ++ []
def dkwX1_takesTable_2 : List UInt8 := [16, 247, 159, 0, 12, 42, 180, 0, 59, 28, 27, 79, 4, 172, 42, 180, 0, 144, 153, 0, 15, 42, 27]
abbrev dktX1_takesTable_2 : List UInt8 := dkwX1_takesTable_2 ++ dktX1_takesTable_3
def dkwX1_takesTable_1 : List UInt8 := [42, 180, 0, 165, 154, 0, 11, 42, 27, 182, 0, 224, 167, 0, 9, 42, 27, 3, 182, 0, 220, 61, 28]
abbrev dktX1_takesTable_1 : List UInt8 := dkwX1_takesTable_1 ++ dktX1_takesTable_2
def dkwX1_takesTable_0 : List UInt8 := [16, 247, 61, 42, 180, 0, 165, 5, 160, 0, 10, 42, 27, 4, 182, 0, 220, 61, 28, 16, 247, 160, 0, 25]
abbrev dktX1_takesTable_0 : List UInt8 := dkwX1_takesTable_0 ++ dktX1_takesTable_1
theorem dksX1_takesTable_0 : cX1_takesTable.data.toList.drop 0 = dktX1_takesTable_0 := by decide +kernel
theorem dksX1_takesTable_1 : cX1_takesTable.data.toList.drop 24 = dktX1_takesTable_1 := dk_seg dksX1_takesTable_0 24 rfl rfl
theorem dksX1_takesTable_2 : cX1_takesTable.data.toList.drop 47 = dktX1_takesTable_2 := dk_seg dksX1_takesTable_1 23 rfl rfl
theorem dksX1_takesTable_3 : cX1_takesTable.data.toList.drop 70 = dktX1_takesTable_3 := dk_seg dksX1_takesTable_2 23 rfl rfl
theorem dX1_takesTable_0 : decode cX1_takesTable 0 = .ok (.bipush (-9), 2) := dk_16 247 (dk_at dksX1_takesTable_0 0 rfl rfl)
theorem dX1_takesTable_2 : decode cX1_takesTable 2 = .ok (.istore_n 2, 1) := dk_61 (dk_at dksX1_takesTable_0 2 rfl rfl)
theorem dX1_takesTable_3 : decode cX1_takesTable 3 = .ok (.aload_n 0, 1) := dk_42 (dk_at dksX1_takesTable_0 3 rfl rfl)
theorem dX1_takesTable_4 : decode cX1_takesTable 4 = .ok (.getfield 165, 3) := dk_180 0 165 (dk_at dksX1_takesTable_0 4 rfl rfl)
theorem dX1_takesTable_7 : decode cX1_takesTable 7 = .ok (.iconst 2, 1) := dk_5 (dk_at dksX1_takesTable_0 7 rfl rfl)
theorem dX1_takesTable_8 : decode cX1_takesTable 8 = .ok (.if_icmp .ne 10, 3) := dk_160 0 10 (dk_at dksX1_takesTable_0 8 rfl rfl)
theorem dX1_takesTable_11 : decode cX1_takesTable 11 = .ok (.aload_n 0, 1) := dk_42 (dk_at dksX1_takesTable_0 11 rfl rfl)
theorem dX1_takesTable_12 : decode cX1_takesTable 12 = .ok (.iload_n 1, 1) := dk_27 (dk_at dksX1_takesTable_0 12 rfl rfl)
theorem dX1_takesTable_13 : decode cX1_takesTable 13 = .ok (.iconst 1, 1) := dk_4 (dk_at dksX1_takesTable_0 13 rfl rfl)
theorem dX1_takesTable_14 : decode cX1_takesTable 14 = .ok (.invokevirtual 220, 3) := dk_182 0 220 (dk_at dksX1_takesTable_0 14 rfl rfl)
theorem dX1_takesTable_17 : decode cX1_takesTable 17 = .ok (.istore_n 2, 1) := dk_61 (dk_at dksX1_takesTable_0 17 rfl rfl)
theorem dX1_takesTable_18 : decode cX1_takesTable 18 = .ok (.iload_n 2, 1) := dk_28 (dk_at dksX1_takesTable_0 18 rfl rfl)
theorem dX1_takesTable_19 : decode cX1_takesTable 19 = .ok (.bipush (-9), 2) := dk_16 247 (dk_at dksX1_takesTable_0 19 rfl rfl)
theorem dX1_takesTable_21 : decode cX1_takesTable 21 = .ok (.if_icmp .ne 25, 3) := dk_160 0 25 (dk_at dksX1_takesTable_0 21 rfl rfl)
theorem dX1_takesTable_24 : decode cX1_takesTable 24 = .ok (.aload_n 0, 1) := dk_42 (dk_at dksX1_takesTable_1 0 rfl rfl)
theorem dX1_takesTable_25 : decode cX1_takesTable 25 = .ok (.getfield 165, 3) := dk_180 0 165 (dk_at dksX1_takesTable_1 1 rfl rfl)
theorem dX1_takesTable_28 : decode cX1_takesTable 28 = .ok (.ifCond .ne 11, 3) := dk_154 0 11 (dk_at dksX1_takesTable_1 4 rfl rfl)
theorem dX1_takesTable_31 : decode cX1_takesTable 31 = .ok (.aload_n 0, 1) := dk_42 (dk_at dksX1_takesTable_1 7 rfl rfl)
theorem dX1_takesTable_32 : decode cX1_takesTable 32 = .ok (.iload_n 1, 1) := dk_27 (dk_at dksX1_takesTable_1 8 rfl rfl)
theorem dX1_takesTable_33 : decode cX1_takesTable 33 = .ok (.invokevirtual 224, 3) := dk_182 0 224 (dk_at dksX1_takesTable_1 9 rfl rfl)
theorem dX1_takesTable_36 : decode cX1_takesTable 36 = .ok (.goto 9, 3) := dk_167 0 9 (dk_at dksX1_takesTable_1 12 rfl rfl)
theorem dX1_takesTable_39 : decode cX1_takesTable 39 = .ok (.aload_n 0, 1) := dk_42 (dk_at dksX1_takesTable_1 15 rfl rfl)
theorem dX1_takesTable_40 : decode cX1_takesTable 40 = .ok (.iload_n 1, 1) := dk_27 (dk_at dksX1_takesTable_1 16 rfl rfl)
theorem dX1_takesTable_41 : decode cX1_takesTable 41 = .ok (.iconst 0, 1) := dk_3 (dk_at dksX1_takesTable_1 17 rfl rfl)
theorem dX1_takesTable_42 : decode cX1_takesTable 42 = .ok (.invokevirtual 220, 3) := dk_182 0 220 (dk_at dksX1_takesTable_1 18 rfl rfl)
theorem dX1_takesTable_45 : decode cX1_takesTable 45 = .ok (.istore_n 2, 1) := dk_61 (dk_at dksX1_takesTable_1 21 rfl rfl)
theorem dX1_takesTable_46 : decode cX1_takesTable 46 = .ok (.iload_n 2, 1) := dk_28 (dk_at dksX1_takesTable_1 22 rfl rfl)
theorem dX1_takesTable_47 : decode cX1_takesTable 47 = .ok (.bipush (-9), 2) := dk_16 247 (dk_at dksX1_takesTable_2 0 rfl rfl)
theorem dX1_takesTable_49 : decode cX1_takesTable 49 = .ok (.if_icmp .eq 12, 3) := dk_159 0 12 (dk_at dksX1_takesTable_2 2 rfl rfl)
theorem dX1_takesTable_52 : decode cX1_takesTable 52 = .ok (.aload_n 0, 1) := dk_42 (dk_at dksX1_takesTable_2 5 rfl rfl)
theorem dX1_takesTable_53 : decode cX1_takesTable 53 = .ok (.getfield 59, 3) := dk_180 0 59 (dk_at dksX1_takesTable_2 6 rfl rfl)
theorem dX1_takesTable_56 : decode cX1_takesTable 56 = .ok (.iload_n 2, 1) := dk_28 (dk_at dksX1_takesTable_2 9 rfl rfl)
theorem dX1_takesTable_57 : decode cX1_takesTable 57 = .ok (.iload_n 1, 1) := dk_27 (dk_at dksX1_takesTable_2 10 rfl rfl)
theorem dX1_takesTable_58 : decode cX1_takesTable 58 = .ok (.iastore, 1) := dk_79 (dk_at dksX1_takesTable_2 11 rfl rfl)
theorem dX1_takesTable_59 : decode cX1_takesTable 59 = .ok (.iconst 1, 1) := dk_4 (dk_at dksX1_takesTable_2 12 rfl rfl)
theorem dX1_takesTable_60 : decode cX1_takesTable 60 = .ok (.ireturn, 1) := dk_172 (dk_at dksX1_takesTable_2 13 rfl rfl)
theorem dX1_takesTable_61 : decode cX1_takesTable 61 = .ok (.aload_n 0, 1) := dk_42 (dk_at dksX1_takesTable_2 14 rfl rfl)
theorem dX1_takesTable_62 : decode cX1_takesTable 62 = .ok (.getfield 144, 3) := dk_180 0 144 (dk_at dksX1_takesTable_2 15 rfl rfl)
theorem dX1_takesTable_65 : decode cX1_takesTable 65 = .ok (.ifCond .eq 15, 3) := dk_153 0 15 (dk_at dksX1_takesTable_2 18 rfl rfl)
theorem dX1_takesTable_68 : decode cX1_takesTable 68 = .ok (.aload_n 0, 1) := dk_42 (dk_at dksX1_takesTable_2 21 rfl rfl)
theorem dX1_takesTable_69 : decode cX1_takesTable 69 = .ok (.iload_n 1, 1) := dk_27 (dk_at dksX1_takesTable_2 22 rfl rfl)
theorem dX1_takesTable_70 : decode cX1_takesTable 70 = .ok (.invokevirtual 227, 3) := dk_182 0 227 (dk_at dksX1_takesTable_3 0 rfl rfl)
theorem dX1_takesTable_73 : decode cX1_takesTable 73 = .ok (.ifCond .eq 7, 3) := dk_153 0 7 (dk_at dksX1_takesTable_3 3 rfl rfl)
theorem dX1_takesTable_76 : decode cX1_takesTable 76 = .ok (.iconst 1, 1) := dk_4 (dk_at dksX1_takesTable_3 6 rfl rfl)
theorem dX1_takesTable_77 : decode cX1_takesTable 77 = .ok (.goto 4, 3) := dk_167 0 4 (dk_at dksX1_takesTable_3 7 rfl rfl)
theorem dX1_takesTable_80 : decode cX1_takesTable 80 = .ok (.iconst 0, 1) := dk_3 (dk_at dksX1_takesTable_3 10 rfl rfl)
theorem dX1_takesTable_81 : decode cX1_takesTable 81 = .ok (.ireturn, 1) := dk_172 (dk_at dksX1_takesTable_3 11 rfl rfl)
abbrev cX1_smallest : ByteArray := prog_12_method_40_code
def yX1_smallest : MethodName := ⟨RX1, "smallest", "(IZ)I"⟩
def dkwX1_smallest_4 : List UInt8 := [62, 132, 4, 1, 167, 255, 162, 29, 172]
abbrev dktX1_smallest_4 : List UInt8 := dkwX1_smallest_4 ++ []
def dkwX1_smallest_3 : List UInt8 := [29, 16, 247, 159, 0, 19, 42, 180, 0, 56, 21, 4, 46, 42, 180, 0, 56, 29, 46, 162, 0, 6, 21, 4]
abbrev dktX1_smallest_3 : List UInt8 := dkwX1_smallest_3 ++ dktX1_smallest_4
def dkwX1_smallest_2 : List UInt8 := [21, 4, 46, 42, 180, 0, 47, 27, 46, 160, 0, 7, 4, 167, 0, 4, 3, 54, 5, 21, 5, 153, 0, 28]
abbrev dktX1_smallest_2 : List UInt8 := dkwX1_smallest_2 ++ dktX1_smallest_3
def dkwX1_smallest_1 : List UInt8 := [42, 180, 0, 56, 21, 4, 46, 42, 180, 0, 38, 27, 46, 161, 0, 27, 28, 153, 0, 19, 42, 180, 0, 53]
abbrev dktX1_smallest_1 : List UInt8 := dkwX1_smallest_1 ++ dktX1_smallest_2
def dkwX1_smallest_0 : List UInt8 := [16, 247, 62, 3, 54, 4, 21, 4, 42, 180, 0, 162, 162, 0, 91, 42, 21, 4, 182, 0, 230, 153, 0, 43]
abbrev dktX1_smallest_0 : List UInt8 := dkwX1_smallest_0 ++ dktX1_smallest_1
theorem dksX1_smallest_0 : cX1_smallest.data.toList.drop 0 = dktX1_smallest_0 := by decide +kernel
theorem dksX1_smallest_1 : cX1_smallest.data.toList.drop 24 = dktX1_smallest_1 := dk_seg dksX1_smallest_0 24 rfl rfl
theorem dksX1_smallest_2 : cX1_smallest.data.toList.drop 48 = dktX1_smallest_2 := dk_seg dksX1_smallest_1 24 rfl rfl
theorem dksX1_smallest_3 : cX1_smallest.data.toList.drop 72 = dktX1_smallest_3 := dk_seg dksX1_smallest_2 24 rfl rfl
theorem dksX1_smallest_4 : cX1_smallest.data.toList.drop 96 = dktX1_smallest_4 := dk_seg dksX1_smallest_3 24 rfl rfl
theorem dX1_smallest_0 : decode cX1_smallest 0 = .ok (.bipush (-9), 2) := dk_16 247 (dk_at dksX1_smallest_0 0 rfl rfl)
theorem dX1_smallest_2 : decode cX1_smallest 2 = .ok (.istore_n 3, 1) := dk_62 (dk_at dksX1_smallest_0 2 rfl rfl)
theorem dX1_smallest_3 : decode cX1_smallest 3 = .ok (.iconst 0, 1) := dk_3 (dk_at dksX1_smallest_0 3 rfl rfl)
theorem dX1_smallest_4 : decode cX1_smallest 4 = .ok (.istore 4, 2) := dk_54 4 (dk_at dksX1_smallest_0 4 rfl rfl)
theorem dX1_smallest_6 : decode cX1_smallest 6 = .ok (.iload 4, 2) := dk_21 4 (dk_at dksX1_smallest_0 6 rfl rfl)
theorem dX1_smallest_8 : decode cX1_smallest 8 = .ok (.aload_n 0, 1) := dk_42 (dk_at dksX1_smallest_0 8 rfl rfl)
theorem dX1_smallest_9 : decode cX1_smallest 9 = .ok (.getfield 162, 3) := dk_180 0 162 (dk_at dksX1_smallest_0 9 rfl rfl)
theorem dX1_smallest_12 : decode cX1_smallest 12 = .ok (.if_icmp .ge 91, 3) := dk_162 0 91 (dk_at dksX1_smallest_0 12 rfl rfl)
theorem dX1_smallest_15 : decode cX1_smallest 15 = .ok (.aload_n 0, 1) := dk_42 (dk_at dksX1_smallest_0 15 rfl rfl)
theorem dX1_smallest_16 : decode cX1_smallest 16 = .ok (.iload 4, 2) := dk_21 4 (dk_at dksX1_smallest_0 16 rfl rfl)
theorem dX1_smallest_18 : decode cX1_smallest 18 = .ok (.invokevirtual 230, 3) := dk_182 0 230 (dk_at dksX1_smallest_0 18 rfl rfl)
theorem dX1_smallest_21 : decode cX1_smallest 21 = .ok (.ifCond .eq 43, 3) := dk_153 0 43 (dk_at dksX1_smallest_0 21 rfl rfl)
theorem dX1_smallest_24 : decode cX1_smallest 24 = .ok (.aload_n 0, 1) := dk_42 (dk_at dksX1_smallest_1 0 rfl rfl)
theorem dX1_smallest_25 : decode cX1_smallest 25 = .ok (.getfield 56, 3) := dk_180 0 56 (dk_at dksX1_smallest_1 1 rfl rfl)
theorem dX1_smallest_28 : decode cX1_smallest 28 = .ok (.iload 4, 2) := dk_21 4 (dk_at dksX1_smallest_1 4 rfl rfl)
theorem dX1_smallest_30 : decode cX1_smallest 30 = .ok (.iaload, 1) := dk_46 (dk_at dksX1_smallest_1 6 rfl rfl)
theorem dX1_smallest_31 : decode cX1_smallest 31 = .ok (.aload_n 0, 1) := dk_42 (dk_at dksX1_smallest_1 7 rfl rfl)
theorem dX1_smallest_32 : decode cX1_smallest 32 = .ok (.getfield 38, 3) := dk_180 0 38 (dk_at dksX1_smallest_1 8 rfl rfl)
theorem dX1_smallest_35 : decode cX1_smallest 35 = .ok (.iload_n 1, 1) := dk_27 (dk_at dksX1_smallest_1 11 rfl rfl)
theorem dX1_smallest_36 : decode cX1_smallest 36 = .ok (.iaload, 1) := dk_46 (dk_at dksX1_smallest_1 12 rfl rfl)
theorem dX1_smallest_37 : decode cX1_smallest 37 = .ok (.if_icmp .lt 27, 3) := dk_161 0 27 (dk_at dksX1_smallest_1 13 rfl rfl)
theorem dX1_smallest_40 : decode cX1_smallest 40 = .ok (.iload_n 2, 1) := dk_28 (dk_at dksX1_smallest_1 16 rfl rfl)
theorem dX1_smallest_41 : decode cX1_smallest 41 = .ok (.ifCond .eq 19, 3) := dk_153 0 19 (dk_at dksX1_smallest_1 17 rfl rfl)
theorem dX1_smallest_44 : decode cX1_smallest 44 = .ok (.aload_n 0, 1) := dk_42 (dk_at dksX1_smallest_1 20 rfl rfl)
theorem dX1_smallest_45 : decode cX1_smallest 45 = .ok (.getfield 53, 3) := dk_180 0 53 (dk_at dksX1_smallest_1 21 rfl rfl)
theorem dX1_smallest_48 : decode cX1_smallest 48 = .ok (.iload 4, 2) := dk_21 4 (dk_at dksX1_smallest_2 0 rfl rfl)
theorem dX1_smallest_50 : decode cX1_smallest 50 = .ok (.iaload, 1) := dk_46 (dk_at dksX1_smallest_2 2 rfl rfl)
theorem dX1_smallest_51 : decode cX1_smallest 51 = .ok (.aload_n 0, 1) := dk_42 (dk_at dksX1_smallest_2 3 rfl rfl)
theorem dX1_smallest_52 : decode cX1_smallest 52 = .ok (.getfield 47, 3) := dk_180 0 47 (dk_at dksX1_smallest_2 4 rfl rfl)
theorem dX1_smallest_55 : decode cX1_smallest 55 = .ok (.iload_n 1, 1) := dk_27 (dk_at dksX1_smallest_2 7 rfl rfl)
theorem dX1_smallest_56 : decode cX1_smallest 56 = .ok (.iaload, 1) := dk_46 (dk_at dksX1_smallest_2 8 rfl rfl)
theorem dX1_smallest_57 : decode cX1_smallest 57 = .ok (.if_icmp .ne 7, 3) := dk_160 0 7 (dk_at dksX1_smallest_2 9 rfl rfl)
theorem dX1_smallest_60 : decode cX1_smallest 60 = .ok (.iconst 1, 1) := dk_4 (dk_at dksX1_smallest_2 12 rfl rfl)
theorem dX1_smallest_61 : decode cX1_smallest 61 = .ok (.goto 4, 3) := dk_167 0 4 (dk_at dksX1_smallest_2 13 rfl rfl)
theorem dX1_smallest_64 : decode cX1_smallest 64 = .ok (.iconst 0, 1) := dk_3 (dk_at dksX1_smallest_2 16 rfl rfl)
theorem dX1_smallest_65 : decode cX1_smallest 65 = .ok (.istore 5, 2) := dk_54 5 (dk_at dksX1_smallest_2 17 rfl rfl)
theorem dX1_smallest_67 : decode cX1_smallest 67 = .ok (.iload 5, 2) := dk_21 5 (dk_at dksX1_smallest_2 19 rfl rfl)
theorem dX1_smallest_69 : decode cX1_smallest 69 = .ok (.ifCond .eq 28, 3) := dk_153 0 28 (dk_at dksX1_smallest_2 21 rfl rfl)
theorem dX1_smallest_72 : decode cX1_smallest 72 = .ok (.iload_n 3, 1) := dk_29 (dk_at dksX1_smallest_3 0 rfl rfl)
theorem dX1_smallest_73 : decode cX1_smallest 73 = .ok (.bipush (-9), 2) := dk_16 247 (dk_at dksX1_smallest_3 1 rfl rfl)
theorem dX1_smallest_75 : decode cX1_smallest 75 = .ok (.if_icmp .eq 19, 3) := dk_159 0 19 (dk_at dksX1_smallest_3 3 rfl rfl)
theorem dX1_smallest_78 : decode cX1_smallest 78 = .ok (.aload_n 0, 1) := dk_42 (dk_at dksX1_smallest_3 6 rfl rfl)
theorem dX1_smallest_79 : decode cX1_smallest 79 = .ok (.getfield 56, 3) := dk_180 0 56 (dk_at dksX1_smallest_3 7 rfl rfl)
theorem dX1_smallest_82 : decode cX1_smallest 82 = .ok (.iload 4, 2) := dk_21 4 (dk_at dksX1_smallest_3 10 rfl rfl)
theorem dX1_smallest_84 : decode cX1_smallest 84 = .ok (.iaload, 1) := dk_46 (dk_at dksX1_smallest_3 12 rfl rfl)
theorem dX1_smallest_85 : decode cX1_smallest 85 = .ok (.aload_n 0, 1) := dk_42 (dk_at dksX1_smallest_3 13 rfl rfl)
theorem dX1_smallest_86 : decode cX1_smallest 86 = .ok (.getfield 56, 3) := dk_180 0 56 (dk_at dksX1_smallest_3 14 rfl rfl)
theorem dX1_smallest_89 : decode cX1_smallest 89 = .ok (.iload_n 3, 1) := dk_29 (dk_at dksX1_smallest_3 17 rfl rfl)
theorem dX1_smallest_90 : decode cX1_smallest 90 = .ok (.iaload, 1) := dk_46 (dk_at dksX1_smallest_3 18 rfl rfl)
theorem dX1_smallest_91 : decode cX1_smallest 91 = .ok (.if_icmp .ge 6, 3) := dk_162 0 6 (dk_at dksX1_smallest_3 19 rfl rfl)
theorem dX1_smallest_94 : decode cX1_smallest 94 = .ok (.iload 4, 2) := dk_21 4 (dk_at dksX1_smallest_3 22 rfl rfl)
theorem dX1_smallest_96 : decode cX1_smallest 96 = .ok (.istore_n 3, 1) := dk_62 (dk_at dksX1_smallest_4 0 rfl rfl)
theorem dX1_smallest_97 : decode cX1_smallest 97 = .ok (.iinc 4 1, 3) := dk_132 4 1 (dk_at dksX1_smallest_4 1 rfl rfl)
theorem dX1_smallest_100 : decode cX1_smallest 100 = .ok (.goto (-94), 3) := dk_167 255 162 (dk_at dksX1_smallest_4 4 rfl rfl)
theorem dX1_smallest_103 : decode cX1_smallest 103 = .ok (.iload_n 3, 1) := dk_29 (dk_at dksX1_smallest_4 7 rfl rfl)
theorem dX1_smallest_104 : decode cX1_smallest 104 = .ok (.ireturn, 1) := dk_172 (dk_at dksX1_smallest_4 8 rfl rfl)
abbrev cX1_isFree : ByteArray := prog_12_method_37_code
def yX1_isFree : MethodName := ⟨RX1, "isFree", "(I)Z"⟩
def dkwX1_isFree_1 : List UInt8 := [3, 172]
abbrev dktX1_isFree_1 : List UInt8 := dkwX1_isFree_1 ++ []
def dkwX1_isFree_0 : List UInt8 := [42, 180, 0, 59, 27, 46, 16, 247, 160, 0, 16, 42, 180, 0, 62, 27, 51, 154, 0, 7, 4, 167, 0, 4]
abbrev dktX1_isFree_0 : List UInt8 := dkwX1_isFree_0 ++ dktX1_isFree_1
theorem dksX1_isFree_0 : cX1_isFree.data.toList.drop 0 = dktX1_isFree_0 := by decide +kernel
theorem dksX1_isFree_1 : cX1_isFree.data.toList.drop 24 = dktX1_isFree_1 := dk_seg dksX1_isFree_0 24 rfl rfl
theorem dX1_isFree_0 : decode cX1_isFree 0 = .ok (.aload_n 0, 1) := dk_42 (dk_at dksX1_isFree_0 0 rfl rfl)
theorem dX1_isFree_1 : decode cX1_isFree 1 = .ok (.getfield 59, 3) := dk_180 0 59 (dk_at dksX1_isFree_0 1 rfl rfl)
theorem dX1_isFree_4 : decode cX1_isFree 4 = .ok (.iload_n 1, 1) := dk_27 (dk_at dksX1_isFree_0 4 rfl rfl)
theorem dX1_isFree_5 : decode cX1_isFree 5 = .ok (.iaload, 1) := dk_46 (dk_at dksX1_isFree_0 5 rfl rfl)
theorem dX1_isFree_6 : decode cX1_isFree 6 = .ok (.bipush (-9), 2) := dk_16 247 (dk_at dksX1_isFree_0 6 rfl rfl)
theorem dX1_isFree_8 : decode cX1_isFree 8 = .ok (.if_icmp .ne 16, 3) := dk_160 0 16 (dk_at dksX1_isFree_0 8 rfl rfl)
theorem dX1_isFree_11 : decode cX1_isFree 11 = .ok (.aload_n 0, 1) := dk_42 (dk_at dksX1_isFree_0 11 rfl rfl)
theorem dX1_isFree_12 : decode cX1_isFree 12 = .ok (.getfield 62, 3) := dk_180 0 62 (dk_at dksX1_isFree_0 12 rfl rfl)
theorem dX1_isFree_15 : decode cX1_isFree 15 = .ok (.iload_n 1, 1) := dk_27 (dk_at dksX1_isFree_0 15 rfl rfl)
theorem dX1_isFree_16 : decode cX1_isFree 16 = .ok (.baload, 1) := dk_51 (dk_at dksX1_isFree_0 16 rfl rfl)
theorem dX1_isFree_17 : decode cX1_isFree 17 = .ok (.ifCond .ne 7, 3) := dk_154 0 7 (dk_at dksX1_isFree_0 17 rfl rfl)
theorem dX1_isFree_20 : decode cX1_isFree 20 = .ok (.iconst 1, 1) := dk_4 (dk_at dksX1_isFree_0 20 rfl rfl)
theorem dX1_isFree_21 : decode cX1_isFree 21 = .ok (.goto 4, 3) := dk_167 0 4 (dk_at dksX1_isFree_0 21 rfl rfl)
theorem dX1_isFree_24 : decode cX1_isFree 24 = .ok (.iconst 0, 1) := dk_3 (dk_at dksX1_isFree_1 0 rfl rfl)
theorem dX1_isFree_25 : decode cX1_isFree 25 = .ok (.ireturn, 1) := dk_172 (dk_at dksX1_isFree_1 1 rfl rfl)
abbrev cX1_firstFor : ByteArray := prog_12_method_39_code
def yX1_firstFor : MethodName := ⟨RX1, "firstFor", "(I)I"⟩
def dkwX1_firstFor_1 : List UInt8 := [42, 180, 0, 38, 27, 46, 161, 0, 5, 28, 172, 132, 2, 1, 167, 255, 220, 16, 247, 172]
abbrev dktX1_firstFor_1 : List UInt8 := dkwX1_firstFor_1 ++ []
def dkwX1_firstFor_0 : List UInt8 := [3, 61, 28, 42, 180, 0, 162, 162, 0, 34, 42, 28, 182, 0, 230, 153, 0, 20, 42, 180, 0, 56, 28, 46]
abbrev dktX1_firstFor_0 : List UInt8 := dkwX1_firstFor_0 ++ dktX1_firstFor_1
theorem dksX1_firstFor_0 : cX1_firstFor.data.toList.drop 0 = dktX1_firstFor_0 := by decide +kernel
theorem dksX1_firstFor_1 : cX1_firstFor.data.toList.drop 24 = dktX1_firstFor_1 := dk_seg dksX1_firstFor_0 24 rfl rfl
theorem dX1_firstFor_0 : decode cX1_firstFor 0 = .ok (.iconst 0, 1) := dk_3 (dk_at dksX1_firstFor_0 0 rfl rfl)
theorem dX1_firstFor_1 : decode cX1_firstFor 1 = .ok (.istore_n 2, 1) := dk_61 (dk_at dksX1_firstFor_0 1 rfl rfl)
theorem dX1_firstFor_2 : decode cX1_firstFor 2 = .ok (.iload_n 2, 1) := dk_28 (dk_at dksX1_firstFor_0 2 rfl rfl)
theorem dX1_firstFor_3 : decode cX1_firstFor 3 = .ok (.aload_n 0, 1) := dk_42 (dk_at dksX1_firstFor_0 3 rfl rfl)
theorem dX1_firstFor_4 : decode cX1_firstFor 4 = .ok (.getfield 162, 3) := dk_180 0 162 (dk_at dksX1_firstFor_0 4 rfl rfl)
theorem dX1_firstFor_7 : decode cX1_firstFor 7 = .ok (.if_icmp .ge 34, 3) := dk_162 0 34 (dk_at dksX1_firstFor_0 7 rfl rfl)
theorem dX1_firstFor_10 : decode cX1_firstFor 10 = .ok (.aload_n 0, 1) := dk_42 (dk_at dksX1_firstFor_0 10 rfl rfl)
theorem dX1_firstFor_11 : decode cX1_firstFor 11 = .ok (.iload_n 2, 1) := dk_28 (dk_at dksX1_firstFor_0 11 rfl rfl)
theorem dX1_firstFor_12 : decode cX1_firstFor 12 = .ok (.invokevirtual 230, 3) := dk_182 0 230 (dk_at dksX1_firstFor_0 12 rfl rfl)
theorem dX1_firstFor_15 : decode cX1_firstFor 15 = .ok (.ifCond .eq 20, 3) := dk_153 0 20 (dk_at dksX1_firstFor_0 15 rfl rfl)
theorem dX1_firstFor_18 : decode cX1_firstFor 18 = .ok (.aload_n 0, 1) := dk_42 (dk_at dksX1_firstFor_0 18 rfl rfl)
theorem dX1_firstFor_19 : decode cX1_firstFor 19 = .ok (.getfield 56, 3) := dk_180 0 56 (dk_at dksX1_firstFor_0 19 rfl rfl)
theorem dX1_firstFor_22 : decode cX1_firstFor 22 = .ok (.iload_n 2, 1) := dk_28 (dk_at dksX1_firstFor_0 22 rfl rfl)
theorem dX1_firstFor_23 : decode cX1_firstFor 23 = .ok (.iaload, 1) := dk_46 (dk_at dksX1_firstFor_0 23 rfl rfl)
theorem dX1_firstFor_24 : decode cX1_firstFor 24 = .ok (.aload_n 0, 1) := dk_42 (dk_at dksX1_firstFor_1 0 rfl rfl)
theorem dX1_firstFor_25 : decode cX1_firstFor 25 = .ok (.getfield 38, 3) := dk_180 0 38 (dk_at dksX1_firstFor_1 1 rfl rfl)
theorem dX1_firstFor_28 : decode cX1_firstFor 28 = .ok (.iload_n 1, 1) := dk_27 (dk_at dksX1_firstFor_1 4 rfl rfl)
theorem dX1_firstFor_29 : decode cX1_firstFor 29 = .ok (.iaload, 1) := dk_46 (dk_at dksX1_firstFor_1 5 rfl rfl)
theorem dX1_firstFor_30 : decode cX1_firstFor 30 = .ok (.if_icmp .lt 5, 3) := dk_161 0 5 (dk_at dksX1_firstFor_1 6 rfl rfl)
theorem dX1_firstFor_33 : decode cX1_firstFor 33 = .ok (.iload_n 2, 1) := dk_28 (dk_at dksX1_firstFor_1 9 rfl rfl)
theorem dX1_firstFor_34 : decode cX1_firstFor 34 = .ok (.ireturn, 1) := dk_172 (dk_at dksX1_firstFor_1 10 rfl rfl)
theorem dX1_firstFor_35 : decode cX1_firstFor 35 = .ok (.iinc 2 1, 3) := dk_132 2 1 (dk_at dksX1_firstFor_1 11 rfl rfl)
theorem dX1_firstFor_38 : decode cX1_firstFor 38 = .ok (.goto (-36), 3) := dk_167 255 220 (dk_at dksX1_firstFor_1 14 rfl rfl)
theorem dX1_firstFor_41 : decode cX1_firstFor 41 = .ok (.bipush (-9), 2) := dk_16 247 (dk_at dksX1_firstFor_1 17 rfl rfl)
theorem dX1_firstFor_43 : decode cX1_firstFor 43 = .ok (.ireturn, 1) := dk_172 (dk_at dksX1_firstFor_1 19 rfl rfl)
abbrev cX1_joinsTwo : ByteArray := prog_12_method_41_code
def yX1_joinsTwo : MethodName := ⟨RX1, "joinsTwo", "(I)Z"⟩
def dkwX1_joinsTwo_3 : List UInt8 := [4, 172, 132, 2, 1, 167, 255, 183, 3, 172]
abbrev dktX1_joinsTwo_3 : List UInt8 := dkwX1_joinsTwo_3 ++ []
def dkwX1_joinsTwo_2 : List UInt8 := [180, 0, 38, 27, 46, 161, 0, 21, 42, 180, 0, 59, 28, 27, 79, 42, 180, 0, 59, 28, 4, 96, 27, 79]
abbrev dktX1_joinsTwo_2 : List UInt8 := dkwX1_joinsTwo_2 ++ dktX1_joinsTwo_3
def dkwX1_joinsTwo_1 : List UInt8 := [182, 0, 230, 153, 0, 45, 42, 180, 0, 56, 28, 46, 42, 180, 0, 56, 28, 4, 96, 46, 96, 42]
abbrev dktX1_joinsTwo_1 : List UInt8 := dkwX1_joinsTwo_1 ++ dktX1_joinsTwo_2
def dkwX1_joinsTwo_0 : List UInt8 := [3, 61, 28, 4, 96, 42, 180, 0, 162, 162, 0, 69, 42, 28, 182, 0, 230, 153, 0, 55, 42, 28, 4, 96]
abbrev dktX1_joinsTwo_0 : List UInt8 := dkwX1_joinsTwo_0 ++ dktX1_joinsTwo_1
theorem dksX1_joinsTwo_0 : cX1_joinsTwo.data.toList.drop 0 = dktX1_joinsTwo_0 := by decide +kernel
theorem dksX1_joinsTwo_1 : cX1_joinsTwo.data.toList.drop 24 = dktX1_joinsTwo_1 := dk_seg dksX1_joinsTwo_0 24 rfl rfl
theorem dksX1_joinsTwo_2 : cX1_joinsTwo.data.toList.drop 46 = dktX1_joinsTwo_2 := dk_seg dksX1_joinsTwo_1 22 rfl rfl
theorem dksX1_joinsTwo_3 : cX1_joinsTwo.data.toList.drop 70 = dktX1_joinsTwo_3 := dk_seg dksX1_joinsTwo_2 24 rfl rfl
theorem dX1_joinsTwo_0 : decode cX1_joinsTwo 0 = .ok (.iconst 0, 1) := dk_3 (dk_at dksX1_joinsTwo_0 0 rfl rfl)
theorem dX1_joinsTwo_1 : decode cX1_joinsTwo 1 = .ok (.istore_n 2, 1) := dk_61 (dk_at dksX1_joinsTwo_0 1 rfl rfl)
theorem dX1_joinsTwo_2 : decode cX1_joinsTwo 2 = .ok (.iload_n 2, 1) := dk_28 (dk_at dksX1_joinsTwo_0 2 rfl rfl)
theorem dX1_joinsTwo_3 : decode cX1_joinsTwo 3 = .ok (.iconst 1, 1) := dk_4 (dk_at dksX1_joinsTwo_0 3 rfl rfl)
theorem dX1_joinsTwo_4 : decode cX1_joinsTwo 4 = .ok (.iadd, 1) := dk_96 (dk_at dksX1_joinsTwo_0 4 rfl rfl)
theorem dX1_joinsTwo_5 : decode cX1_joinsTwo 5 = .ok (.aload_n 0, 1) := dk_42 (dk_at dksX1_joinsTwo_0 5 rfl rfl)
theorem dX1_joinsTwo_6 : decode cX1_joinsTwo 6 = .ok (.getfield 162, 3) := dk_180 0 162 (dk_at dksX1_joinsTwo_0 6 rfl rfl)
theorem dX1_joinsTwo_9 : decode cX1_joinsTwo 9 = .ok (.if_icmp .ge 69, 3) := dk_162 0 69 (dk_at dksX1_joinsTwo_0 9 rfl rfl)
theorem dX1_joinsTwo_12 : decode cX1_joinsTwo 12 = .ok (.aload_n 0, 1) := dk_42 (dk_at dksX1_joinsTwo_0 12 rfl rfl)
theorem dX1_joinsTwo_13 : decode cX1_joinsTwo 13 = .ok (.iload_n 2, 1) := dk_28 (dk_at dksX1_joinsTwo_0 13 rfl rfl)
theorem dX1_joinsTwo_14 : decode cX1_joinsTwo 14 = .ok (.invokevirtual 230, 3) := dk_182 0 230 (dk_at dksX1_joinsTwo_0 14 rfl rfl)
theorem dX1_joinsTwo_17 : decode cX1_joinsTwo 17 = .ok (.ifCond .eq 55, 3) := dk_153 0 55 (dk_at dksX1_joinsTwo_0 17 rfl rfl)
theorem dX1_joinsTwo_20 : decode cX1_joinsTwo 20 = .ok (.aload_n 0, 1) := dk_42 (dk_at dksX1_joinsTwo_0 20 rfl rfl)
theorem dX1_joinsTwo_21 : decode cX1_joinsTwo 21 = .ok (.iload_n 2, 1) := dk_28 (dk_at dksX1_joinsTwo_0 21 rfl rfl)
theorem dX1_joinsTwo_22 : decode cX1_joinsTwo 22 = .ok (.iconst 1, 1) := dk_4 (dk_at dksX1_joinsTwo_0 22 rfl rfl)
theorem dX1_joinsTwo_23 : decode cX1_joinsTwo 23 = .ok (.iadd, 1) := dk_96 (dk_at dksX1_joinsTwo_0 23 rfl rfl)
theorem dX1_joinsTwo_24 : decode cX1_joinsTwo 24 = .ok (.invokevirtual 230, 3) := dk_182 0 230 (dk_at dksX1_joinsTwo_1 0 rfl rfl)
theorem dX1_joinsTwo_27 : decode cX1_joinsTwo 27 = .ok (.ifCond .eq 45, 3) := dk_153 0 45 (dk_at dksX1_joinsTwo_1 3 rfl rfl)
theorem dX1_joinsTwo_30 : decode cX1_joinsTwo 30 = .ok (.aload_n 0, 1) := dk_42 (dk_at dksX1_joinsTwo_1 6 rfl rfl)
theorem dX1_joinsTwo_31 : decode cX1_joinsTwo 31 = .ok (.getfield 56, 3) := dk_180 0 56 (dk_at dksX1_joinsTwo_1 7 rfl rfl)
theorem dX1_joinsTwo_34 : decode cX1_joinsTwo 34 = .ok (.iload_n 2, 1) := dk_28 (dk_at dksX1_joinsTwo_1 10 rfl rfl)
theorem dX1_joinsTwo_35 : decode cX1_joinsTwo 35 = .ok (.iaload, 1) := dk_46 (dk_at dksX1_joinsTwo_1 11 rfl rfl)
theorem dX1_joinsTwo_36 : decode cX1_joinsTwo 36 = .ok (.aload_n 0, 1) := dk_42 (dk_at dksX1_joinsTwo_1 12 rfl rfl)
theorem dX1_joinsTwo_37 : decode cX1_joinsTwo 37 = .ok (.getfield 56, 3) := dk_180 0 56 (dk_at dksX1_joinsTwo_1 13 rfl rfl)
theorem dX1_joinsTwo_40 : decode cX1_joinsTwo 40 = .ok (.iload_n 2, 1) := dk_28 (dk_at dksX1_joinsTwo_1 16 rfl rfl)
theorem dX1_joinsTwo_41 : decode cX1_joinsTwo 41 = .ok (.iconst 1, 1) := dk_4 (dk_at dksX1_joinsTwo_1 17 rfl rfl)
theorem dX1_joinsTwo_42 : decode cX1_joinsTwo 42 = .ok (.iadd, 1) := dk_96 (dk_at dksX1_joinsTwo_1 18 rfl rfl)
theorem dX1_joinsTwo_43 : decode cX1_joinsTwo 43 = .ok (.iaload, 1) := dk_46 (dk_at dksX1_joinsTwo_1 19 rfl rfl)
theorem dX1_joinsTwo_44 : decode cX1_joinsTwo 44 = .ok (.iadd, 1) := dk_96 (dk_at dksX1_joinsTwo_1 20 rfl rfl)
theorem dX1_joinsTwo_45 : decode cX1_joinsTwo 45 = .ok (.aload_n 0, 1) := dk_42 (dk_at dksX1_joinsTwo_1 21 rfl rfl)
theorem dX1_joinsTwo_46 : decode cX1_joinsTwo 46 = .ok (.getfield 38, 3) := dk_180 0 38 (dk_at dksX1_joinsTwo_2 0 rfl rfl)
theorem dX1_joinsTwo_49 : decode cX1_joinsTwo 49 = .ok (.iload_n 1, 1) := dk_27 (dk_at dksX1_joinsTwo_2 3 rfl rfl)
theorem dX1_joinsTwo_50 : decode cX1_joinsTwo 50 = .ok (.iaload, 1) := dk_46 (dk_at dksX1_joinsTwo_2 4 rfl rfl)
theorem dX1_joinsTwo_51 : decode cX1_joinsTwo 51 = .ok (.if_icmp .lt 21, 3) := dk_161 0 21 (dk_at dksX1_joinsTwo_2 5 rfl rfl)
theorem dX1_joinsTwo_54 : decode cX1_joinsTwo 54 = .ok (.aload_n 0, 1) := dk_42 (dk_at dksX1_joinsTwo_2 8 rfl rfl)
theorem dX1_joinsTwo_55 : decode cX1_joinsTwo 55 = .ok (.getfield 59, 3) := dk_180 0 59 (dk_at dksX1_joinsTwo_2 9 rfl rfl)
theorem dX1_joinsTwo_58 : decode cX1_joinsTwo 58 = .ok (.iload_n 2, 1) := dk_28 (dk_at dksX1_joinsTwo_2 12 rfl rfl)
theorem dX1_joinsTwo_59 : decode cX1_joinsTwo 59 = .ok (.iload_n 1, 1) := dk_27 (dk_at dksX1_joinsTwo_2 13 rfl rfl)
theorem dX1_joinsTwo_60 : decode cX1_joinsTwo 60 = .ok (.iastore, 1) := dk_79 (dk_at dksX1_joinsTwo_2 14 rfl rfl)
theorem dX1_joinsTwo_61 : decode cX1_joinsTwo 61 = .ok (.aload_n 0, 1) := dk_42 (dk_at dksX1_joinsTwo_2 15 rfl rfl)
theorem dX1_joinsTwo_62 : decode cX1_joinsTwo 62 = .ok (.getfield 59, 3) := dk_180 0 59 (dk_at dksX1_joinsTwo_2 16 rfl rfl)
theorem dX1_joinsTwo_65 : decode cX1_joinsTwo 65 = .ok (.iload_n 2, 1) := dk_28 (dk_at dksX1_joinsTwo_2 19 rfl rfl)
theorem dX1_joinsTwo_66 : decode cX1_joinsTwo 66 = .ok (.iconst 1, 1) := dk_4 (dk_at dksX1_joinsTwo_2 20 rfl rfl)
theorem dX1_joinsTwo_67 : decode cX1_joinsTwo 67 = .ok (.iadd, 1) := dk_96 (dk_at dksX1_joinsTwo_2 21 rfl rfl)
theorem dX1_joinsTwo_68 : decode cX1_joinsTwo 68 = .ok (.iload_n 1, 1) := dk_27 (dk_at dksX1_joinsTwo_2 22 rfl rfl)
theorem dX1_joinsTwo_69 : decode cX1_joinsTwo 69 = .ok (.iastore, 1) := dk_79 (dk_at dksX1_joinsTwo_2 23 rfl rfl)
theorem dX1_joinsTwo_70 : decode cX1_joinsTwo 70 = .ok (.iconst 1, 1) := dk_4 (dk_at dksX1_joinsTwo_3 0 rfl rfl)
theorem dX1_joinsTwo_71 : decode cX1_joinsTwo 71 = .ok (.ireturn, 1) := dk_172 (dk_at dksX1_joinsTwo_3 1 rfl rfl)
theorem dX1_joinsTwo_72 : decode cX1_joinsTwo 72 = .ok (.iinc 2 1, 3) := dk_132 2 1 (dk_at dksX1_joinsTwo_3 2 rfl rfl)
theorem dX1_joinsTwo_75 : decode cX1_joinsTwo 75 = .ok (.goto (-73), 3) := dk_167 255 183 (dk_at dksX1_joinsTwo_3 5 rfl rfl)
theorem dX1_joinsTwo_78 : decode cX1_joinsTwo 78 = .ok (.iconst 0, 1) := dk_3 (dk_at dksX1_joinsTwo_3 8 rfl rfl)
theorem dX1_joinsTwo_79 : decode cX1_joinsTwo 79 = .ok (.ireturn, 1) := dk_172 (dk_at dksX1_joinsTwo_3 9 rfl rfl)
abbrev cX1_tryWaiting : ByteArray := prog_12_method_33_code
def yX1_tryWaiting : MethodName := ⟨RX1, "tryWaiting", "(I)V"⟩
def dkwX1_tryWaiting_2 : List UInt8 := [182, 0, 214, 132, 3, 1, 167, 255, 219, 132, 2, 1, 167, 255, 200, 177]
abbrev dktX1_tryWaiting_2 : List UInt8 := dkwX1_tryWaiting_2 ++ []
def dkwX1_tryWaiting_1 : List UInt8 := [180, 0, 66, 29, 46, 5, 160, 0, 19, 42, 180, 0, 41, 29, 46, 28, 160, 0, 9, 42, 29, 27]
abbrev dktX1_tryWaiting_1 : List UInt8 := dkwX1_tryWaiting_1 ++ dktX1_tryWaiting_2
def dkwX1_tryWaiting_0 : List UInt8 := [3, 61, 28, 27, 163, 0, 57, 28, 16, 100, 162, 0, 51, 3, 62, 29, 42, 180, 0, 135, 162, 0, 35, 42]
abbrev dktX1_tryWaiting_0 : List UInt8 := dkwX1_tryWaiting_0 ++ dktX1_tryWaiting_1
theorem dksX1_tryWaiting_0 : cX1_tryWaiting.data.toList.drop 0 = dktX1_tryWaiting_0 := by decide +kernel
theorem dksX1_tryWaiting_1 : cX1_tryWaiting.data.toList.drop 24 = dktX1_tryWaiting_1 := dk_seg dksX1_tryWaiting_0 24 rfl rfl
theorem dksX1_tryWaiting_2 : cX1_tryWaiting.data.toList.drop 46 = dktX1_tryWaiting_2 := dk_seg dksX1_tryWaiting_1 22 rfl rfl
theorem dX1_tryWaiting_0 : decode cX1_tryWaiting 0 = .ok (.iconst 0, 1) := dk_3 (dk_at dksX1_tryWaiting_0 0 rfl rfl)
theorem dX1_tryWaiting_1 : decode cX1_tryWaiting 1 = .ok (.istore_n 2, 1) := dk_61 (dk_at dksX1_tryWaiting_0 1 rfl rfl)
theorem dX1_tryWaiting_2 : decode cX1_tryWaiting 2 = .ok (.iload_n 2, 1) := dk_28 (dk_at dksX1_tryWaiting_0 2 rfl rfl)
theorem dX1_tryWaiting_3 : decode cX1_tryWaiting 3 = .ok (.iload_n 1, 1) := dk_27 (dk_at dksX1_tryWaiting_0 3 rfl rfl)
theorem dX1_tryWaiting_4 : decode cX1_tryWaiting 4 = .ok (.if_icmp .gt 57, 3) := dk_163 0 57 (dk_at dksX1_tryWaiting_0 4 rfl rfl)
theorem dX1_tryWaiting_7 : decode cX1_tryWaiting 7 = .ok (.iload_n 2, 1) := dk_28 (dk_at dksX1_tryWaiting_0 7 rfl rfl)
theorem dX1_tryWaiting_8 : decode cX1_tryWaiting 8 = .ok (.bipush 100, 2) := dk_16 100 (dk_at dksX1_tryWaiting_0 8 rfl rfl)
theorem dX1_tryWaiting_10 : decode cX1_tryWaiting 10 = .ok (.if_icmp .ge 51, 3) := dk_162 0 51 (dk_at dksX1_tryWaiting_0 10 rfl rfl)
theorem dX1_tryWaiting_13 : decode cX1_tryWaiting 13 = .ok (.iconst 0, 1) := dk_3 (dk_at dksX1_tryWaiting_0 13 rfl rfl)
theorem dX1_tryWaiting_14 : decode cX1_tryWaiting 14 = .ok (.istore_n 3, 1) := dk_62 (dk_at dksX1_tryWaiting_0 14 rfl rfl)
theorem dX1_tryWaiting_15 : decode cX1_tryWaiting 15 = .ok (.iload_n 3, 1) := dk_29 (dk_at dksX1_tryWaiting_0 15 rfl rfl)
theorem dX1_tryWaiting_16 : decode cX1_tryWaiting 16 = .ok (.aload_n 0, 1) := dk_42 (dk_at dksX1_tryWaiting_0 16 rfl rfl)
theorem dX1_tryWaiting_17 : decode cX1_tryWaiting 17 = .ok (.getfield 135, 3) := dk_180 0 135 (dk_at dksX1_tryWaiting_0 17 rfl rfl)
theorem dX1_tryWaiting_20 : decode cX1_tryWaiting 20 = .ok (.if_icmp .ge 35, 3) := dk_162 0 35 (dk_at dksX1_tryWaiting_0 20 rfl rfl)
theorem dX1_tryWaiting_23 : decode cX1_tryWaiting 23 = .ok (.aload_n 0, 1) := dk_42 (dk_at dksX1_tryWaiting_0 23 rfl rfl)
theorem dX1_tryWaiting_24 : decode cX1_tryWaiting 24 = .ok (.getfield 66, 3) := dk_180 0 66 (dk_at dksX1_tryWaiting_1 0 rfl rfl)
theorem dX1_tryWaiting_27 : decode cX1_tryWaiting 27 = .ok (.iload_n 3, 1) := dk_29 (dk_at dksX1_tryWaiting_1 3 rfl rfl)
theorem dX1_tryWaiting_28 : decode cX1_tryWaiting 28 = .ok (.iaload, 1) := dk_46 (dk_at dksX1_tryWaiting_1 4 rfl rfl)
theorem dX1_tryWaiting_29 : decode cX1_tryWaiting 29 = .ok (.iconst 2, 1) := dk_5 (dk_at dksX1_tryWaiting_1 5 rfl rfl)
theorem dX1_tryWaiting_30 : decode cX1_tryWaiting 30 = .ok (.if_icmp .ne 19, 3) := dk_160 0 19 (dk_at dksX1_tryWaiting_1 6 rfl rfl)
theorem dX1_tryWaiting_33 : decode cX1_tryWaiting 33 = .ok (.aload_n 0, 1) := dk_42 (dk_at dksX1_tryWaiting_1 9 rfl rfl)
theorem dX1_tryWaiting_34 : decode cX1_tryWaiting 34 = .ok (.getfield 41, 3) := dk_180 0 41 (dk_at dksX1_tryWaiting_1 10 rfl rfl)
theorem dX1_tryWaiting_37 : decode cX1_tryWaiting 37 = .ok (.iload_n 3, 1) := dk_29 (dk_at dksX1_tryWaiting_1 13 rfl rfl)
theorem dX1_tryWaiting_38 : decode cX1_tryWaiting 38 = .ok (.iaload, 1) := dk_46 (dk_at dksX1_tryWaiting_1 14 rfl rfl)
theorem dX1_tryWaiting_39 : decode cX1_tryWaiting 39 = .ok (.iload_n 2, 1) := dk_28 (dk_at dksX1_tryWaiting_1 15 rfl rfl)
theorem dX1_tryWaiting_40 : decode cX1_tryWaiting 40 = .ok (.if_icmp .ne 9, 3) := dk_160 0 9 (dk_at dksX1_tryWaiting_1 16 rfl rfl)
theorem dX1_tryWaiting_43 : decode cX1_tryWaiting 43 = .ok (.aload_n 0, 1) := dk_42 (dk_at dksX1_tryWaiting_1 19 rfl rfl)
theorem dX1_tryWaiting_44 : decode cX1_tryWaiting 44 = .ok (.iload_n 3, 1) := dk_29 (dk_at dksX1_tryWaiting_1 20 rfl rfl)
theorem dX1_tryWaiting_45 : decode cX1_tryWaiting 45 = .ok (.iload_n 1, 1) := dk_27 (dk_at dksX1_tryWaiting_1 21 rfl rfl)
theorem dX1_tryWaiting_46 : decode cX1_tryWaiting 46 = .ok (.invokevirtual 214, 3) := dk_182 0 214 (dk_at dksX1_tryWaiting_2 0 rfl rfl)
theorem dX1_tryWaiting_49 : decode cX1_tryWaiting 49 = .ok (.iinc 3 1, 3) := dk_132 3 1 (dk_at dksX1_tryWaiting_2 3 rfl rfl)
theorem dX1_tryWaiting_52 : decode cX1_tryWaiting 52 = .ok (.goto (-37), 3) := dk_167 255 219 (dk_at dksX1_tryWaiting_2 6 rfl rfl)
theorem dX1_tryWaiting_55 : decode cX1_tryWaiting 55 = .ok (.iinc 2 1, 3) := dk_132 2 1 (dk_at dksX1_tryWaiting_2 9 rfl rfl)
theorem dX1_tryWaiting_58 : decode cX1_tryWaiting 58 = .ok (.goto (-56), 3) := dk_167 255 200 (dk_at dksX1_tryWaiting_2 12 rfl rfl)
theorem dX1_tryWaiting_61 : decode cX1_tryWaiting 61 = .ok (.return_, 1) := dk_177 (dk_at dksX1_tryWaiting_2 15 rfl rfl)
abbrev cX1_triesAgain : ByteArray := prog_12_method_34_code
def yX1_triesAgain : MethodName := ⟨RX1, "triesAgain", "(II)V"⟩
def dkwX1_triesAgain_2 : List UInt8 := [79, 42, 180, 0, 81, 27, 28, 42, 180, 0, 41, 27, 46, 100, 79, 177]
abbrev dktX1_triesAgain_2 : List UInt8 := dkwX1_triesAgain_2 ++ []
def dkwX1_triesAgain_1 : List UInt8 := [167, 0, 39, 28, 42, 180, 0, 41, 27, 46, 100, 42, 180, 0, 168, 161, 0, 24, 42, 180, 0, 66, 27, 6]
abbrev dktX1_triesAgain_1 : List UInt8 := dkwX1_triesAgain_1 ++ dktX1_triesAgain_2
def dkwX1_triesAgain_0 : List UInt8 := [42, 27, 28, 182, 0, 217, 153, 0, 20, 42, 180, 0, 81, 27, 28, 42, 180, 0, 41, 27, 46, 100, 79]
abbrev dktX1_triesAgain_0 : List UInt8 := dkwX1_triesAgain_0 ++ dktX1_triesAgain_1
theorem dksX1_triesAgain_0 : cX1_triesAgain.data.toList.drop 0 = dktX1_triesAgain_0 := by decide +kernel
theorem dksX1_triesAgain_1 : cX1_triesAgain.data.toList.drop 23 = dktX1_triesAgain_1 := dk_seg dksX1_triesAgain_0 23 rfl rfl
theorem dksX1_triesAgain_2 : cX1_triesAgain.data.toList.drop 47 = dktX1_triesAgain_2 := dk_seg dksX1_triesAgain_1 24 rfl rfl
theorem dX1_triesAgain_0 : decode cX1_triesAgain 0 = .ok (.aload_n 0, 1) := dk_42 (dk_at dksX1_triesAgain_0 0 rfl rfl)
theorem dX1_triesAgain_1 : decode cX1_triesAgain 1 = .ok (.iload_n 1, 1) := dk_27 (dk_at dksX1_triesAgain_0 1 rfl rfl)
theorem dX1_triesAgain_2 : decode cX1_triesAgain 2 = .ok (.iload_n 2, 1) := dk_28 (dk_at dksX1_triesAgain_0 2 rfl rfl)
theorem dX1_triesAgain_3 : decode cX1_triesAgain 3 = .ok (.invokevirtual 217, 3) := dk_182 0 217 (dk_at dksX1_triesAgain_0 3 rfl rfl)
theorem dX1_triesAgain_6 : decode cX1_triesAgain 6 = .ok (.ifCond .eq 20, 3) := dk_153 0 20 (dk_at dksX1_triesAgain_0 6 rfl rfl)
theorem dX1_triesAgain_9 : decode cX1_triesAgain 9 = .ok (.aload_n 0, 1) := dk_42 (dk_at dksX1_triesAgain_0 9 rfl rfl)
theorem dX1_triesAgain_10 : decode cX1_triesAgain 10 = .ok (.getfield 81, 3) := dk_180 0 81 (dk_at dksX1_triesAgain_0 10 rfl rfl)
theorem dX1_triesAgain_13 : decode cX1_triesAgain 13 = .ok (.iload_n 1, 1) := dk_27 (dk_at dksX1_triesAgain_0 13 rfl rfl)
theorem dX1_triesAgain_14 : decode cX1_triesAgain 14 = .ok (.iload_n 2, 1) := dk_28 (dk_at dksX1_triesAgain_0 14 rfl rfl)
theorem dX1_triesAgain_15 : decode cX1_triesAgain 15 = .ok (.aload_n 0, 1) := dk_42 (dk_at dksX1_triesAgain_0 15 rfl rfl)
theorem dX1_triesAgain_16 : decode cX1_triesAgain 16 = .ok (.getfield 41, 3) := dk_180 0 41 (dk_at dksX1_triesAgain_0 16 rfl rfl)
theorem dX1_triesAgain_19 : decode cX1_triesAgain 19 = .ok (.iload_n 1, 1) := dk_27 (dk_at dksX1_triesAgain_0 19 rfl rfl)
theorem dX1_triesAgain_20 : decode cX1_triesAgain 20 = .ok (.iaload, 1) := dk_46 (dk_at dksX1_triesAgain_0 20 rfl rfl)
theorem dX1_triesAgain_21 : decode cX1_triesAgain 21 = .ok (.isub, 1) := dk_100 (dk_at dksX1_triesAgain_0 21 rfl rfl)
theorem dX1_triesAgain_22 : decode cX1_triesAgain 22 = .ok (.iastore, 1) := dk_79 (dk_at dksX1_triesAgain_0 22 rfl rfl)
theorem dX1_triesAgain_23 : decode cX1_triesAgain 23 = .ok (.goto 39, 3) := dk_167 0 39 (dk_at dksX1_triesAgain_1 0 rfl rfl)
theorem dX1_triesAgain_26 : decode cX1_triesAgain 26 = .ok (.iload_n 2, 1) := dk_28 (dk_at dksX1_triesAgain_1 3 rfl rfl)
theorem dX1_triesAgain_27 : decode cX1_triesAgain 27 = .ok (.aload_n 0, 1) := dk_42 (dk_at dksX1_triesAgain_1 4 rfl rfl)
theorem dX1_triesAgain_28 : decode cX1_triesAgain 28 = .ok (.getfield 41, 3) := dk_180 0 41 (dk_at dksX1_triesAgain_1 5 rfl rfl)
theorem dX1_triesAgain_31 : decode cX1_triesAgain 31 = .ok (.iload_n 1, 1) := dk_27 (dk_at dksX1_triesAgain_1 8 rfl rfl)
theorem dX1_triesAgain_32 : decode cX1_triesAgain 32 = .ok (.iaload, 1) := dk_46 (dk_at dksX1_triesAgain_1 9 rfl rfl)
theorem dX1_triesAgain_33 : decode cX1_triesAgain 33 = .ok (.isub, 1) := dk_100 (dk_at dksX1_triesAgain_1 10 rfl rfl)
theorem dX1_triesAgain_34 : decode cX1_triesAgain 34 = .ok (.aload_n 0, 1) := dk_42 (dk_at dksX1_triesAgain_1 11 rfl rfl)
theorem dX1_triesAgain_35 : decode cX1_triesAgain 35 = .ok (.getfield 168, 3) := dk_180 0 168 (dk_at dksX1_triesAgain_1 12 rfl rfl)
theorem dX1_triesAgain_38 : decode cX1_triesAgain 38 = .ok (.if_icmp .lt 24, 3) := dk_161 0 24 (dk_at dksX1_triesAgain_1 15 rfl rfl)
theorem dX1_triesAgain_41 : decode cX1_triesAgain 41 = .ok (.aload_n 0, 1) := dk_42 (dk_at dksX1_triesAgain_1 18 rfl rfl)
theorem dX1_triesAgain_42 : decode cX1_triesAgain 42 = .ok (.getfield 66, 3) := dk_180 0 66 (dk_at dksX1_triesAgain_1 19 rfl rfl)
theorem dX1_triesAgain_45 : decode cX1_triesAgain 45 = .ok (.iload_n 1, 1) := dk_27 (dk_at dksX1_triesAgain_1 22 rfl rfl)
theorem dX1_triesAgain_46 : decode cX1_triesAgain 46 = .ok (.iconst 3, 1) := dk_6 (dk_at dksX1_triesAgain_1 23 rfl rfl)
theorem dX1_triesAgain_47 : decode cX1_triesAgain 47 = .ok (.iastore, 1) := dk_79 (dk_at dksX1_triesAgain_2 0 rfl rfl)
theorem dX1_triesAgain_48 : decode cX1_triesAgain 48 = .ok (.aload_n 0, 1) := dk_42 (dk_at dksX1_triesAgain_2 1 rfl rfl)
theorem dX1_triesAgain_49 : decode cX1_triesAgain 49 = .ok (.getfield 81, 3) := dk_180 0 81 (dk_at dksX1_triesAgain_2 2 rfl rfl)
theorem dX1_triesAgain_52 : decode cX1_triesAgain 52 = .ok (.iload_n 1, 1) := dk_27 (dk_at dksX1_triesAgain_2 5 rfl rfl)
theorem dX1_triesAgain_53 : decode cX1_triesAgain 53 = .ok (.iload_n 2, 1) := dk_28 (dk_at dksX1_triesAgain_2 6 rfl rfl)
theorem dX1_triesAgain_54 : decode cX1_triesAgain 54 = .ok (.aload_n 0, 1) := dk_42 (dk_at dksX1_triesAgain_2 7 rfl rfl)
theorem dX1_triesAgain_55 : decode cX1_triesAgain 55 = .ok (.getfield 41, 3) := dk_180 0 41 (dk_at dksX1_triesAgain_2 8 rfl rfl)
theorem dX1_triesAgain_58 : decode cX1_triesAgain 58 = .ok (.iload_n 1, 1) := dk_27 (dk_at dksX1_triesAgain_2 11 rfl rfl)
theorem dX1_triesAgain_59 : decode cX1_triesAgain 59 = .ok (.iaload, 1) := dk_46 (dk_at dksX1_triesAgain_2 12 rfl rfl)
theorem dX1_triesAgain_60 : decode cX1_triesAgain 60 = .ok (.isub, 1) := dk_100 (dk_at dksX1_triesAgain_2 13 rfl rfl)
theorem dX1_triesAgain_61 : decode cX1_triesAgain 61 = .ok (.iastore, 1) := dk_79 (dk_at dksX1_triesAgain_2 14 rfl rfl)
theorem dX1_triesAgain_62 : decode cX1_triesAgain 62 = .ok (.return_, 1) := dk_177 (dk_at dksX1_triesAgain_2 15 rfl rfl)
abbrev cX1_sitsDown : ByteArray := prog_12_method_36_code
def yX1_sitsDown : MethodName := ⟨RX1, "sitsDown", "(II)Z"⟩
def dkwX1_sitsDown_4 : List UInt8 := [27, 160, 0, 8, 21, 4, 167, 0, 9, 42, 180, 0, 69, 27, 46, 79, 132, 4, 255, 167, 255, 220, 4, 172]
abbrev dktX1_sitsDown_4 : List UInt8 := dkwX1_sitsDown_4 ++ []
def dkwX1_sitsDown_3 : List UInt8 := [180, 0, 162, 4, 100, 54, 4, 21, 4, 155, 0, 37, 42, 180, 0, 69, 27, 42, 180, 0, 59, 21, 4, 46]
abbrev dktX1_sitsDown_3 : List UInt8 := dkwX1_sitsDown_3 ++ dktX1_sitsDown_4
def dkwX1_sitsDown_2 : List UInt8 := [79, 42, 180, 0, 72, 27, 28, 79, 42, 180, 0, 75, 27, 28, 42, 27, 182, 0, 159, 96, 29, 96, 79, 42]
abbrev dktX1_sitsDown_2 : List UInt8 := dkwX1_sitsDown_2 ++ dktX1_sitsDown_3
def dkwX1_sitsDown_1 : List UInt8 := [16, 9, 108, 167, 0, 4, 3, 62, 42, 27, 182, 0, 211, 154, 0, 5, 3, 172, 42, 180, 0, 66, 27, 4]
abbrev dktX1_sitsDown_1 : List UInt8 := dkwX1_sitsDown_1 ++ dktX1_sitsDown_2
def dkwX1_sitsDown_0 : List UInt8 := [42, 180, 0, 35, 27, 46, 5, 160, 0, 22, 42, 27, 182, 0, 185, 158, 0, 14, 42, 27, 182, 0, 159]
abbrev dktX1_sitsDown_0 : List UInt8 := dkwX1_sitsDown_0 ++ dktX1_sitsDown_1
theorem dksX1_sitsDown_0 : cX1_sitsDown.data.toList.drop 0 = dktX1_sitsDown_0 := by decide +kernel
theorem dksX1_sitsDown_1 : cX1_sitsDown.data.toList.drop 23 = dktX1_sitsDown_1 := dk_seg dksX1_sitsDown_0 23 rfl rfl
theorem dksX1_sitsDown_2 : cX1_sitsDown.data.toList.drop 47 = dktX1_sitsDown_2 := dk_seg dksX1_sitsDown_1 24 rfl rfl
theorem dksX1_sitsDown_3 : cX1_sitsDown.data.toList.drop 71 = dktX1_sitsDown_3 := dk_seg dksX1_sitsDown_2 24 rfl rfl
theorem dksX1_sitsDown_4 : cX1_sitsDown.data.toList.drop 95 = dktX1_sitsDown_4 := dk_seg dksX1_sitsDown_3 24 rfl rfl
theorem dX1_sitsDown_0 : decode cX1_sitsDown 0 = .ok (.aload_n 0, 1) := dk_42 (dk_at dksX1_sitsDown_0 0 rfl rfl)
theorem dX1_sitsDown_1 : decode cX1_sitsDown 1 = .ok (.getfield 35, 3) := dk_180 0 35 (dk_at dksX1_sitsDown_0 1 rfl rfl)
theorem dX1_sitsDown_4 : decode cX1_sitsDown 4 = .ok (.iload_n 1, 1) := dk_27 (dk_at dksX1_sitsDown_0 4 rfl rfl)
theorem dX1_sitsDown_5 : decode cX1_sitsDown 5 = .ok (.iaload, 1) := dk_46 (dk_at dksX1_sitsDown_0 5 rfl rfl)
theorem dX1_sitsDown_6 : decode cX1_sitsDown 6 = .ok (.iconst 2, 1) := dk_5 (dk_at dksX1_sitsDown_0 6 rfl rfl)
theorem dX1_sitsDown_7 : decode cX1_sitsDown 7 = .ok (.if_icmp .ne 22, 3) := dk_160 0 22 (dk_at dksX1_sitsDown_0 7 rfl rfl)
theorem dX1_sitsDown_10 : decode cX1_sitsDown 10 = .ok (.aload_n 0, 1) := dk_42 (dk_at dksX1_sitsDown_0 10 rfl rfl)
theorem dX1_sitsDown_11 : decode cX1_sitsDown 11 = .ok (.iload_n 1, 1) := dk_27 (dk_at dksX1_sitsDown_0 11 rfl rfl)
theorem dX1_sitsDown_12 : decode cX1_sitsDown 12 = .ok (.invokevirtual 185, 3) := dk_182 0 185 (dk_at dksX1_sitsDown_0 12 rfl rfl)
theorem dX1_sitsDown_15 : decode cX1_sitsDown 15 = .ok (.ifCond .le 14, 3) := dk_158 0 14 (dk_at dksX1_sitsDown_0 15 rfl rfl)
theorem dX1_sitsDown_18 : decode cX1_sitsDown 18 = .ok (.aload_n 0, 1) := dk_42 (dk_at dksX1_sitsDown_0 18 rfl rfl)
theorem dX1_sitsDown_19 : decode cX1_sitsDown 19 = .ok (.iload_n 1, 1) := dk_27 (dk_at dksX1_sitsDown_0 19 rfl rfl)
theorem dX1_sitsDown_20 : decode cX1_sitsDown 20 = .ok (.invokevirtual 159, 3) := dk_182 0 159 (dk_at dksX1_sitsDown_0 20 rfl rfl)
theorem dX1_sitsDown_23 : decode cX1_sitsDown 23 = .ok (.bipush 9, 2) := dk_16 9 (dk_at dksX1_sitsDown_1 0 rfl rfl)
theorem dX1_sitsDown_25 : decode cX1_sitsDown 25 = .ok (.idiv, 1) := dk_108 (dk_at dksX1_sitsDown_1 2 rfl rfl)
theorem dX1_sitsDown_26 : decode cX1_sitsDown 26 = .ok (.goto 4, 3) := dk_167 0 4 (dk_at dksX1_sitsDown_1 3 rfl rfl)
theorem dX1_sitsDown_29 : decode cX1_sitsDown 29 = .ok (.iconst 0, 1) := dk_3 (dk_at dksX1_sitsDown_1 6 rfl rfl)
theorem dX1_sitsDown_30 : decode cX1_sitsDown 30 = .ok (.istore_n 3, 1) := dk_62 (dk_at dksX1_sitsDown_1 7 rfl rfl)
theorem dX1_sitsDown_31 : decode cX1_sitsDown 31 = .ok (.aload_n 0, 1) := dk_42 (dk_at dksX1_sitsDown_1 8 rfl rfl)
theorem dX1_sitsDown_32 : decode cX1_sitsDown 32 = .ok (.iload_n 1, 1) := dk_27 (dk_at dksX1_sitsDown_1 9 rfl rfl)
theorem dX1_sitsDown_33 : decode cX1_sitsDown 33 = .ok (.invokevirtual 211, 3) := dk_182 0 211 (dk_at dksX1_sitsDown_1 10 rfl rfl)
theorem dX1_sitsDown_36 : decode cX1_sitsDown 36 = .ok (.ifCond .ne 5, 3) := dk_154 0 5 (dk_at dksX1_sitsDown_1 13 rfl rfl)
theorem dX1_sitsDown_39 : decode cX1_sitsDown 39 = .ok (.iconst 0, 1) := dk_3 (dk_at dksX1_sitsDown_1 16 rfl rfl)
theorem dX1_sitsDown_40 : decode cX1_sitsDown 40 = .ok (.ireturn, 1) := dk_172 (dk_at dksX1_sitsDown_1 17 rfl rfl)
theorem dX1_sitsDown_41 : decode cX1_sitsDown 41 = .ok (.aload_n 0, 1) := dk_42 (dk_at dksX1_sitsDown_1 18 rfl rfl)
theorem dX1_sitsDown_42 : decode cX1_sitsDown 42 = .ok (.getfield 66, 3) := dk_180 0 66 (dk_at dksX1_sitsDown_1 19 rfl rfl)
theorem dX1_sitsDown_45 : decode cX1_sitsDown 45 = .ok (.iload_n 1, 1) := dk_27 (dk_at dksX1_sitsDown_1 22 rfl rfl)
theorem dX1_sitsDown_46 : decode cX1_sitsDown 46 = .ok (.iconst 1, 1) := dk_4 (dk_at dksX1_sitsDown_1 23 rfl rfl)
theorem dX1_sitsDown_47 : decode cX1_sitsDown 47 = .ok (.iastore, 1) := dk_79 (dk_at dksX1_sitsDown_2 0 rfl rfl)
theorem dX1_sitsDown_48 : decode cX1_sitsDown 48 = .ok (.aload_n 0, 1) := dk_42 (dk_at dksX1_sitsDown_2 1 rfl rfl)
theorem dX1_sitsDown_49 : decode cX1_sitsDown 49 = .ok (.getfield 72, 3) := dk_180 0 72 (dk_at dksX1_sitsDown_2 2 rfl rfl)
theorem dX1_sitsDown_52 : decode cX1_sitsDown 52 = .ok (.iload_n 1, 1) := dk_27 (dk_at dksX1_sitsDown_2 5 rfl rfl)
theorem dX1_sitsDown_53 : decode cX1_sitsDown 53 = .ok (.iload_n 2, 1) := dk_28 (dk_at dksX1_sitsDown_2 6 rfl rfl)
theorem dX1_sitsDown_54 : decode cX1_sitsDown 54 = .ok (.iastore, 1) := dk_79 (dk_at dksX1_sitsDown_2 7 rfl rfl)
theorem dX1_sitsDown_55 : decode cX1_sitsDown 55 = .ok (.aload_n 0, 1) := dk_42 (dk_at dksX1_sitsDown_2 8 rfl rfl)
theorem dX1_sitsDown_56 : decode cX1_sitsDown 56 = .ok (.getfield 75, 3) := dk_180 0 75 (dk_at dksX1_sitsDown_2 9 rfl rfl)
theorem dX1_sitsDown_59 : decode cX1_sitsDown 59 = .ok (.iload_n 1, 1) := dk_27 (dk_at dksX1_sitsDown_2 12 rfl rfl)
theorem dX1_sitsDown_60 : decode cX1_sitsDown 60 = .ok (.iload_n 2, 1) := dk_28 (dk_at dksX1_sitsDown_2 13 rfl rfl)
theorem dX1_sitsDown_61 : decode cX1_sitsDown 61 = .ok (.aload_n 0, 1) := dk_42 (dk_at dksX1_sitsDown_2 14 rfl rfl)
theorem dX1_sitsDown_62 : decode cX1_sitsDown 62 = .ok (.iload_n 1, 1) := dk_27 (dk_at dksX1_sitsDown_2 15 rfl rfl)
theorem dX1_sitsDown_63 : decode cX1_sitsDown 63 = .ok (.invokevirtual 159, 3) := dk_182 0 159 (dk_at dksX1_sitsDown_2 16 rfl rfl)
theorem dX1_sitsDown_66 : decode cX1_sitsDown 66 = .ok (.iadd, 1) := dk_96 (dk_at dksX1_sitsDown_2 19 rfl rfl)
theorem dX1_sitsDown_67 : decode cX1_sitsDown 67 = .ok (.iload_n 3, 1) := dk_29 (dk_at dksX1_sitsDown_2 20 rfl rfl)
theorem dX1_sitsDown_68 : decode cX1_sitsDown 68 = .ok (.iadd, 1) := dk_96 (dk_at dksX1_sitsDown_2 21 rfl rfl)
theorem dX1_sitsDown_69 : decode cX1_sitsDown 69 = .ok (.iastore, 1) := dk_79 (dk_at dksX1_sitsDown_2 22 rfl rfl)
theorem dX1_sitsDown_70 : decode cX1_sitsDown 70 = .ok (.aload_n 0, 1) := dk_42 (dk_at dksX1_sitsDown_2 23 rfl rfl)
theorem dX1_sitsDown_71 : decode cX1_sitsDown 71 = .ok (.getfield 162, 3) := dk_180 0 162 (dk_at dksX1_sitsDown_3 0 rfl rfl)
theorem dX1_sitsDown_74 : decode cX1_sitsDown 74 = .ok (.iconst 1, 1) := dk_4 (dk_at dksX1_sitsDown_3 3 rfl rfl)
theorem dX1_sitsDown_75 : decode cX1_sitsDown 75 = .ok (.isub, 1) := dk_100 (dk_at dksX1_sitsDown_3 4 rfl rfl)
theorem dX1_sitsDown_76 : decode cX1_sitsDown 76 = .ok (.istore 4, 2) := dk_54 4 (dk_at dksX1_sitsDown_3 5 rfl rfl)
theorem dX1_sitsDown_78 : decode cX1_sitsDown 78 = .ok (.iload 4, 2) := dk_21 4 (dk_at dksX1_sitsDown_3 7 rfl rfl)
theorem dX1_sitsDown_80 : decode cX1_sitsDown 80 = .ok (.ifCond .lt 37, 3) := dk_155 0 37 (dk_at dksX1_sitsDown_3 9 rfl rfl)
theorem dX1_sitsDown_83 : decode cX1_sitsDown 83 = .ok (.aload_n 0, 1) := dk_42 (dk_at dksX1_sitsDown_3 12 rfl rfl)
theorem dX1_sitsDown_84 : decode cX1_sitsDown 84 = .ok (.getfield 69, 3) := dk_180 0 69 (dk_at dksX1_sitsDown_3 13 rfl rfl)
theorem dX1_sitsDown_87 : decode cX1_sitsDown 87 = .ok (.iload_n 1, 1) := dk_27 (dk_at dksX1_sitsDown_3 16 rfl rfl)
theorem dX1_sitsDown_88 : decode cX1_sitsDown 88 = .ok (.aload_n 0, 1) := dk_42 (dk_at dksX1_sitsDown_3 17 rfl rfl)
theorem dX1_sitsDown_89 : decode cX1_sitsDown 89 = .ok (.getfield 59, 3) := dk_180 0 59 (dk_at dksX1_sitsDown_3 18 rfl rfl)
theorem dX1_sitsDown_92 : decode cX1_sitsDown 92 = .ok (.iload 4, 2) := dk_21 4 (dk_at dksX1_sitsDown_3 21 rfl rfl)
theorem dX1_sitsDown_94 : decode cX1_sitsDown 94 = .ok (.iaload, 1) := dk_46 (dk_at dksX1_sitsDown_3 23 rfl rfl)
theorem dX1_sitsDown_95 : decode cX1_sitsDown 95 = .ok (.iload_n 1, 1) := dk_27 (dk_at dksX1_sitsDown_4 0 rfl rfl)
theorem dX1_sitsDown_96 : decode cX1_sitsDown 96 = .ok (.if_icmp .ne 8, 3) := dk_160 0 8 (dk_at dksX1_sitsDown_4 1 rfl rfl)
theorem dX1_sitsDown_99 : decode cX1_sitsDown 99 = .ok (.iload 4, 2) := dk_21 4 (dk_at dksX1_sitsDown_4 4 rfl rfl)
theorem dX1_sitsDown_101 : decode cX1_sitsDown 101 = .ok (.goto 9, 3) := dk_167 0 9 (dk_at dksX1_sitsDown_4 6 rfl rfl)
theorem dX1_sitsDown_104 : decode cX1_sitsDown 104 = .ok (.aload_n 0, 1) := dk_42 (dk_at dksX1_sitsDown_4 9 rfl rfl)
theorem dX1_sitsDown_105 : decode cX1_sitsDown 105 = .ok (.getfield 69, 3) := dk_180 0 69 (dk_at dksX1_sitsDown_4 10 rfl rfl)
theorem dX1_sitsDown_108 : decode cX1_sitsDown 108 = .ok (.iload_n 1, 1) := dk_27 (dk_at dksX1_sitsDown_4 13 rfl rfl)
theorem dX1_sitsDown_109 : decode cX1_sitsDown 109 = .ok (.iaload, 1) := dk_46 (dk_at dksX1_sitsDown_4 14 rfl rfl)
theorem dX1_sitsDown_110 : decode cX1_sitsDown 110 = .ok (.iastore, 1) := dk_79 (dk_at dksX1_sitsDown_4 15 rfl rfl)
theorem dX1_sitsDown_111 : decode cX1_sitsDown 111 = .ok (.iinc 4 (-1), 3) := dk_132 4 255 (dk_at dksX1_sitsDown_4 16 rfl rfl)
theorem dX1_sitsDown_114 : decode cX1_sitsDown 114 = .ok (.goto (-36), 3) := dk_167 255 220 (dk_at dksX1_sitsDown_4 19 rfl rfl)
theorem dX1_sitsDown_117 : decode cX1_sitsDown 117 = .ok (.iconst 1, 1) := dk_4 (dk_at dksX1_sitsDown_4 22 rfl rfl)
theorem dX1_sitsDown_118 : decode cX1_sitsDown 118 = .ok (.ireturn, 1) := dk_172 (dk_at dksX1_sitsDown_4 23 rfl rfl)
abbrev cX1_manyWait : ByteArray := prog_12_method_27_code
def yX1_manyWait : MethodName := ⟨RX1, "manyWait", "(I)I"⟩
def dkwX1_manyWait_1 : List UInt8 := [5, 160, 0, 7, 4, 167, 0, 4, 3, 96, 61, 132, 3, 1, 167, 255, 222, 28, 172]
abbrev dktX1_manyWait_1 : List UInt8 := dkwX1_manyWait_1 ++ []
def dkwX1_manyWait_0 : List UInt8 := [3, 61, 3, 62, 29, 42, 180, 0, 135, 162, 0, 32, 28, 29, 27, 159, 0, 17, 42, 180, 0, 66, 29, 46]
abbrev dktX1_manyWait_0 : List UInt8 := dkwX1_manyWait_0 ++ dktX1_manyWait_1
theorem dksX1_manyWait_0 : cX1_manyWait.data.toList.drop 0 = dktX1_manyWait_0 := by decide +kernel
theorem dksX1_manyWait_1 : cX1_manyWait.data.toList.drop 24 = dktX1_manyWait_1 := dk_seg dksX1_manyWait_0 24 rfl rfl
theorem dX1_manyWait_0 : decode cX1_manyWait 0 = .ok (.iconst 0, 1) := dk_3 (dk_at dksX1_manyWait_0 0 rfl rfl)
theorem dX1_manyWait_1 : decode cX1_manyWait 1 = .ok (.istore_n 2, 1) := dk_61 (dk_at dksX1_manyWait_0 1 rfl rfl)
theorem dX1_manyWait_2 : decode cX1_manyWait 2 = .ok (.iconst 0, 1) := dk_3 (dk_at dksX1_manyWait_0 2 rfl rfl)
theorem dX1_manyWait_3 : decode cX1_manyWait 3 = .ok (.istore_n 3, 1) := dk_62 (dk_at dksX1_manyWait_0 3 rfl rfl)
theorem dX1_manyWait_4 : decode cX1_manyWait 4 = .ok (.iload_n 3, 1) := dk_29 (dk_at dksX1_manyWait_0 4 rfl rfl)
theorem dX1_manyWait_5 : decode cX1_manyWait 5 = .ok (.aload_n 0, 1) := dk_42 (dk_at dksX1_manyWait_0 5 rfl rfl)
theorem dX1_manyWait_6 : decode cX1_manyWait 6 = .ok (.getfield 135, 3) := dk_180 0 135 (dk_at dksX1_manyWait_0 6 rfl rfl)
theorem dX1_manyWait_9 : decode cX1_manyWait 9 = .ok (.if_icmp .ge 32, 3) := dk_162 0 32 (dk_at dksX1_manyWait_0 9 rfl rfl)
theorem dX1_manyWait_12 : decode cX1_manyWait 12 = .ok (.iload_n 2, 1) := dk_28 (dk_at dksX1_manyWait_0 12 rfl rfl)
theorem dX1_manyWait_13 : decode cX1_manyWait 13 = .ok (.iload_n 3, 1) := dk_29 (dk_at dksX1_manyWait_0 13 rfl rfl)
theorem dX1_manyWait_14 : decode cX1_manyWait 14 = .ok (.iload_n 1, 1) := dk_27 (dk_at dksX1_manyWait_0 14 rfl rfl)
theorem dX1_manyWait_15 : decode cX1_manyWait 15 = .ok (.if_icmp .eq 17, 3) := dk_159 0 17 (dk_at dksX1_manyWait_0 15 rfl rfl)
theorem dX1_manyWait_18 : decode cX1_manyWait 18 = .ok (.aload_n 0, 1) := dk_42 (dk_at dksX1_manyWait_0 18 rfl rfl)
theorem dX1_manyWait_19 : decode cX1_manyWait 19 = .ok (.getfield 66, 3) := dk_180 0 66 (dk_at dksX1_manyWait_0 19 rfl rfl)
theorem dX1_manyWait_22 : decode cX1_manyWait 22 = .ok (.iload_n 3, 1) := dk_29 (dk_at dksX1_manyWait_0 22 rfl rfl)
theorem dX1_manyWait_23 : decode cX1_manyWait 23 = .ok (.iaload, 1) := dk_46 (dk_at dksX1_manyWait_0 23 rfl rfl)
theorem dX1_manyWait_24 : decode cX1_manyWait 24 = .ok (.iconst 2, 1) := dk_5 (dk_at dksX1_manyWait_1 0 rfl rfl)
theorem dX1_manyWait_25 : decode cX1_manyWait 25 = .ok (.if_icmp .ne 7, 3) := dk_160 0 7 (dk_at dksX1_manyWait_1 1 rfl rfl)
theorem dX1_manyWait_28 : decode cX1_manyWait 28 = .ok (.iconst 1, 1) := dk_4 (dk_at dksX1_manyWait_1 4 rfl rfl)
theorem dX1_manyWait_29 : decode cX1_manyWait 29 = .ok (.goto 4, 3) := dk_167 0 4 (dk_at dksX1_manyWait_1 5 rfl rfl)
theorem dX1_manyWait_32 : decode cX1_manyWait 32 = .ok (.iconst 0, 1) := dk_3 (dk_at dksX1_manyWait_1 8 rfl rfl)
theorem dX1_manyWait_33 : decode cX1_manyWait 33 = .ok (.iadd, 1) := dk_96 (dk_at dksX1_manyWait_1 9 rfl rfl)
theorem dX1_manyWait_34 : decode cX1_manyWait 34 = .ok (.istore_n 2, 1) := dk_61 (dk_at dksX1_manyWait_1 10 rfl rfl)
theorem dX1_manyWait_35 : decode cX1_manyWait 35 = .ok (.iinc 3 1, 3) := dk_132 3 1 (dk_at dksX1_manyWait_1 11 rfl rfl)
theorem dX1_manyWait_38 : decode cX1_manyWait 38 = .ok (.goto (-34), 3) := dk_167 255 222 (dk_at dksX1_manyWait_1 14 rfl rfl)
theorem dX1_manyWait_41 : decode cX1_manyWait 41 = .ok (.iload_n 2, 1) := dk_28 (dk_at dksX1_manyWait_1 17 rfl rfl)
theorem dX1_manyWait_42 : decode cX1_manyWait 42 = .ok (.ireturn, 1) := dk_172 (dk_at dksX1_manyWait_1 18 rfl rfl)
abbrev cX1_comesIn : ByteArray := prog_12_method_35_code
def yX1_comesIn : MethodName := ⟨RX1, "comesIn", "(II)V"⟩
def dkwX1_comesIn_2 : List UInt8 := [6, 79, 177]
abbrev dktX1_comesIn_2 : List UInt8 := dkwX1_comesIn_2 ++ []
def dkwX1_comesIn_1 : List UInt8 := [27, 28, 182, 0, 217, 154, 0, 21, 42, 180, 0, 66, 27, 42, 180, 0, 168, 158, 0, 7, 5, 167, 0, 4]
abbrev dktX1_comesIn_1 : List UInt8 := dkwX1_comesIn_1 ++ dktX1_comesIn_2
def dkwX1_comesIn_0 : List UInt8 := [42, 182, 0, 181, 42, 180, 0, 50, 27, 46, 162, 0, 13, 42, 180, 0, 66, 27, 7, 79, 167, 0, 30, 42]
abbrev dktX1_comesIn_0 : List UInt8 := dkwX1_comesIn_0 ++ dktX1_comesIn_1
theorem dksX1_comesIn_0 : cX1_comesIn.data.toList.drop 0 = dktX1_comesIn_0 := by decide +kernel
theorem dksX1_comesIn_1 : cX1_comesIn.data.toList.drop 24 = dktX1_comesIn_1 := dk_seg dksX1_comesIn_0 24 rfl rfl
theorem dksX1_comesIn_2 : cX1_comesIn.data.toList.drop 48 = dktX1_comesIn_2 := dk_seg dksX1_comesIn_1 24 rfl rfl
theorem dX1_comesIn_0 : decode cX1_comesIn 0 = .ok (.aload_n 0, 1) := dk_42 (dk_at dksX1_comesIn_0 0 rfl rfl)
theorem dX1_comesIn_1 : decode cX1_comesIn 1 = .ok (.invokevirtual 181, 3) := dk_182 0 181 (dk_at dksX1_comesIn_0 1 rfl rfl)
theorem dX1_comesIn_4 : decode cX1_comesIn 4 = .ok (.aload_n 0, 1) := dk_42 (dk_at dksX1_comesIn_0 4 rfl rfl)
theorem dX1_comesIn_5 : decode cX1_comesIn 5 = .ok (.getfield 50, 3) := dk_180 0 50 (dk_at dksX1_comesIn_0 5 rfl rfl)
theorem dX1_comesIn_8 : decode cX1_comesIn 8 = .ok (.iload_n 1, 1) := dk_27 (dk_at dksX1_comesIn_0 8 rfl rfl)
theorem dX1_comesIn_9 : decode cX1_comesIn 9 = .ok (.iaload, 1) := dk_46 (dk_at dksX1_comesIn_0 9 rfl rfl)
theorem dX1_comesIn_10 : decode cX1_comesIn 10 = .ok (.if_icmp .ge 13, 3) := dk_162 0 13 (dk_at dksX1_comesIn_0 10 rfl rfl)
theorem dX1_comesIn_13 : decode cX1_comesIn 13 = .ok (.aload_n 0, 1) := dk_42 (dk_at dksX1_comesIn_0 13 rfl rfl)
theorem dX1_comesIn_14 : decode cX1_comesIn 14 = .ok (.getfield 66, 3) := dk_180 0 66 (dk_at dksX1_comesIn_0 14 rfl rfl)
theorem dX1_comesIn_17 : decode cX1_comesIn 17 = .ok (.iload_n 1, 1) := dk_27 (dk_at dksX1_comesIn_0 17 rfl rfl)
theorem dX1_comesIn_18 : decode cX1_comesIn 18 = .ok (.iconst 4, 1) := dk_7 (dk_at dksX1_comesIn_0 18 rfl rfl)
theorem dX1_comesIn_19 : decode cX1_comesIn 19 = .ok (.iastore, 1) := dk_79 (dk_at dksX1_comesIn_0 19 rfl rfl)
theorem dX1_comesIn_20 : decode cX1_comesIn 20 = .ok (.goto 30, 3) := dk_167 0 30 (dk_at dksX1_comesIn_0 20 rfl rfl)
theorem dX1_comesIn_23 : decode cX1_comesIn 23 = .ok (.aload_n 0, 1) := dk_42 (dk_at dksX1_comesIn_0 23 rfl rfl)
theorem dX1_comesIn_24 : decode cX1_comesIn 24 = .ok (.iload_n 1, 1) := dk_27 (dk_at dksX1_comesIn_1 0 rfl rfl)
theorem dX1_comesIn_25 : decode cX1_comesIn 25 = .ok (.iload_n 2, 1) := dk_28 (dk_at dksX1_comesIn_1 1 rfl rfl)
theorem dX1_comesIn_26 : decode cX1_comesIn 26 = .ok (.invokevirtual 217, 3) := dk_182 0 217 (dk_at dksX1_comesIn_1 2 rfl rfl)
theorem dX1_comesIn_29 : decode cX1_comesIn 29 = .ok (.ifCond .ne 21, 3) := dk_154 0 21 (dk_at dksX1_comesIn_1 5 rfl rfl)
theorem dX1_comesIn_32 : decode cX1_comesIn 32 = .ok (.aload_n 0, 1) := dk_42 (dk_at dksX1_comesIn_1 8 rfl rfl)
theorem dX1_comesIn_33 : decode cX1_comesIn 33 = .ok (.getfield 66, 3) := dk_180 0 66 (dk_at dksX1_comesIn_1 9 rfl rfl)
theorem dX1_comesIn_36 : decode cX1_comesIn 36 = .ok (.iload_n 1, 1) := dk_27 (dk_at dksX1_comesIn_1 12 rfl rfl)
theorem dX1_comesIn_37 : decode cX1_comesIn 37 = .ok (.aload_n 0, 1) := dk_42 (dk_at dksX1_comesIn_1 13 rfl rfl)
theorem dX1_comesIn_38 : decode cX1_comesIn 38 = .ok (.getfield 168, 3) := dk_180 0 168 (dk_at dksX1_comesIn_1 14 rfl rfl)
theorem dX1_comesIn_41 : decode cX1_comesIn 41 = .ok (.ifCond .le 7, 3) := dk_158 0 7 (dk_at dksX1_comesIn_1 17 rfl rfl)
theorem dX1_comesIn_44 : decode cX1_comesIn 44 = .ok (.iconst 2, 1) := dk_5 (dk_at dksX1_comesIn_1 20 rfl rfl)
theorem dX1_comesIn_45 : decode cX1_comesIn 45 = .ok (.goto 4, 3) := dk_167 0 4 (dk_at dksX1_comesIn_1 21 rfl rfl)
theorem dX1_comesIn_48 : decode cX1_comesIn 48 = .ok (.iconst 3, 1) := dk_6 (dk_at dksX1_comesIn_2 0 rfl rfl)
theorem dX1_comesIn_49 : decode cX1_comesIn 49 = .ok (.iastore, 1) := dk_79 (dk_at dksX1_comesIn_2 1 rfl rfl)
theorem dX1_comesIn_50 : decode cX1_comesIn 50 = .ok (.return_, 1) := dk_177 (dk_at dksX1_comesIn_2 2 rfl rfl)
abbrev cX1_manyTaken : ByteArray := prog_12_method_26_code
def yX1_manyTaken : MethodName := ⟨RX1, "manyTaken", "()I"⟩
def dkwX1_manyTaken_1 : List UInt8 := [3, 167, 0, 4, 4, 96, 60, 132, 2, 1, 167, 255, 226, 27, 172]
abbrev dktX1_manyTaken_1 : List UInt8 := dkwX1_manyTaken_1 ++ []
def dkwX1_manyTaken_0 : List UInt8 := [3, 60, 3, 61, 28, 42, 180, 0, 162, 162, 0, 28, 27, 42, 180, 0, 59, 28, 46, 16, 247, 160, 0, 7]
abbrev dktX1_manyTaken_0 : List UInt8 := dkwX1_manyTaken_0 ++ dktX1_manyTaken_1
theorem dksX1_manyTaken_0 : cX1_manyTaken.data.toList.drop 0 = dktX1_manyTaken_0 := by decide +kernel
theorem dksX1_manyTaken_1 : cX1_manyTaken.data.toList.drop 24 = dktX1_manyTaken_1 := dk_seg dksX1_manyTaken_0 24 rfl rfl
theorem dX1_manyTaken_0 : decode cX1_manyTaken 0 = .ok (.iconst 0, 1) := dk_3 (dk_at dksX1_manyTaken_0 0 rfl rfl)
theorem dX1_manyTaken_1 : decode cX1_manyTaken 1 = .ok (.istore_n 1, 1) := dk_60 (dk_at dksX1_manyTaken_0 1 rfl rfl)
theorem dX1_manyTaken_2 : decode cX1_manyTaken 2 = .ok (.iconst 0, 1) := dk_3 (dk_at dksX1_manyTaken_0 2 rfl rfl)
theorem dX1_manyTaken_3 : decode cX1_manyTaken 3 = .ok (.istore_n 2, 1) := dk_61 (dk_at dksX1_manyTaken_0 3 rfl rfl)
theorem dX1_manyTaken_4 : decode cX1_manyTaken 4 = .ok (.iload_n 2, 1) := dk_28 (dk_at dksX1_manyTaken_0 4 rfl rfl)
theorem dX1_manyTaken_5 : decode cX1_manyTaken 5 = .ok (.aload_n 0, 1) := dk_42 (dk_at dksX1_manyTaken_0 5 rfl rfl)
theorem dX1_manyTaken_6 : decode cX1_manyTaken 6 = .ok (.getfield 162, 3) := dk_180 0 162 (dk_at dksX1_manyTaken_0 6 rfl rfl)
theorem dX1_manyTaken_9 : decode cX1_manyTaken 9 = .ok (.if_icmp .ge 28, 3) := dk_162 0 28 (dk_at dksX1_manyTaken_0 9 rfl rfl)
theorem dX1_manyTaken_12 : decode cX1_manyTaken 12 = .ok (.iload_n 1, 1) := dk_27 (dk_at dksX1_manyTaken_0 12 rfl rfl)
theorem dX1_manyTaken_13 : decode cX1_manyTaken 13 = .ok (.aload_n 0, 1) := dk_42 (dk_at dksX1_manyTaken_0 13 rfl rfl)
theorem dX1_manyTaken_14 : decode cX1_manyTaken 14 = .ok (.getfield 59, 3) := dk_180 0 59 (dk_at dksX1_manyTaken_0 14 rfl rfl)
theorem dX1_manyTaken_17 : decode cX1_manyTaken 17 = .ok (.iload_n 2, 1) := dk_28 (dk_at dksX1_manyTaken_0 17 rfl rfl)
theorem dX1_manyTaken_18 : decode cX1_manyTaken 18 = .ok (.iaload, 1) := dk_46 (dk_at dksX1_manyTaken_0 18 rfl rfl)
theorem dX1_manyTaken_19 : decode cX1_manyTaken 19 = .ok (.bipush (-9), 2) := dk_16 247 (dk_at dksX1_manyTaken_0 19 rfl rfl)
theorem dX1_manyTaken_21 : decode cX1_manyTaken 21 = .ok (.if_icmp .ne 7, 3) := dk_160 0 7 (dk_at dksX1_manyTaken_0 21 rfl rfl)
theorem dX1_manyTaken_24 : decode cX1_manyTaken 24 = .ok (.iconst 0, 1) := dk_3 (dk_at dksX1_manyTaken_1 0 rfl rfl)
theorem dX1_manyTaken_25 : decode cX1_manyTaken 25 = .ok (.goto 4, 3) := dk_167 0 4 (dk_at dksX1_manyTaken_1 1 rfl rfl)
theorem dX1_manyTaken_28 : decode cX1_manyTaken 28 = .ok (.iconst 1, 1) := dk_4 (dk_at dksX1_manyTaken_1 4 rfl rfl)
theorem dX1_manyTaken_29 : decode cX1_manyTaken 29 = .ok (.iadd, 1) := dk_96 (dk_at dksX1_manyTaken_1 5 rfl rfl)
theorem dX1_manyTaken_30 : decode cX1_manyTaken 30 = .ok (.istore_n 1, 1) := dk_60 (dk_at dksX1_manyTaken_1 6 rfl rfl)
theorem dX1_manyTaken_31 : decode cX1_manyTaken 31 = .ok (.iinc 2 1, 3) := dk_132 2 1 (dk_at dksX1_manyTaken_1 7 rfl rfl)
theorem dX1_manyTaken_34 : decode cX1_manyTaken 34 = .ok (.goto (-30), 3) := dk_167 255 226 (dk_at dksX1_manyTaken_1 10 rfl rfl)
theorem dX1_manyTaken_37 : decode cX1_manyTaken 37 = .ok (.iload_n 1, 1) := dk_27 (dk_at dksX1_manyTaken_1 13 rfl rfl)
theorem dX1_manyTaken_38 : decode cX1_manyTaken 38 = .ok (.ireturn, 1) := dk_172 (dk_at dksX1_manyTaken_1 14 rfl rfl)
abbrev cX1_allCoin : ByteArray := prog_12_method_42_code
def yX1_allCoin : MethodName := ⟨RX1, "allCoin", "()I"⟩
def dkwX1_allCoin_1 : List UInt8 := [167, 255, 236, 27, 172]
abbrev dktX1_allCoin_1 : List UInt8 := dkwX1_allCoin_1 ++ []
def dkwX1_allCoin_0 : List UInt8 := [3, 60, 3, 61, 28, 42, 180, 0, 135, 162, 0, 18, 27, 42, 180, 0, 78, 28, 46, 96, 60, 132, 2, 1]
abbrev dktX1_allCoin_0 : List UInt8 := dkwX1_allCoin_0 ++ dktX1_allCoin_1
theorem dksX1_allCoin_0 : cX1_allCoin.data.toList.drop 0 = dktX1_allCoin_0 := by decide +kernel
theorem dksX1_allCoin_1 : cX1_allCoin.data.toList.drop 24 = dktX1_allCoin_1 := dk_seg dksX1_allCoin_0 24 rfl rfl
theorem dX1_allCoin_0 : decode cX1_allCoin 0 = .ok (.iconst 0, 1) := dk_3 (dk_at dksX1_allCoin_0 0 rfl rfl)
theorem dX1_allCoin_1 : decode cX1_allCoin 1 = .ok (.istore_n 1, 1) := dk_60 (dk_at dksX1_allCoin_0 1 rfl rfl)
theorem dX1_allCoin_2 : decode cX1_allCoin 2 = .ok (.iconst 0, 1) := dk_3 (dk_at dksX1_allCoin_0 2 rfl rfl)
theorem dX1_allCoin_3 : decode cX1_allCoin 3 = .ok (.istore_n 2, 1) := dk_61 (dk_at dksX1_allCoin_0 3 rfl rfl)
theorem dX1_allCoin_4 : decode cX1_allCoin 4 = .ok (.iload_n 2, 1) := dk_28 (dk_at dksX1_allCoin_0 4 rfl rfl)
theorem dX1_allCoin_5 : decode cX1_allCoin 5 = .ok (.aload_n 0, 1) := dk_42 (dk_at dksX1_allCoin_0 5 rfl rfl)
theorem dX1_allCoin_6 : decode cX1_allCoin 6 = .ok (.getfield 135, 3) := dk_180 0 135 (dk_at dksX1_allCoin_0 6 rfl rfl)
theorem dX1_allCoin_9 : decode cX1_allCoin 9 = .ok (.if_icmp .ge 18, 3) := dk_162 0 18 (dk_at dksX1_allCoin_0 9 rfl rfl)
theorem dX1_allCoin_12 : decode cX1_allCoin 12 = .ok (.iload_n 1, 1) := dk_27 (dk_at dksX1_allCoin_0 12 rfl rfl)
theorem dX1_allCoin_13 : decode cX1_allCoin 13 = .ok (.aload_n 0, 1) := dk_42 (dk_at dksX1_allCoin_0 13 rfl rfl)
theorem dX1_allCoin_14 : decode cX1_allCoin 14 = .ok (.getfield 78, 3) := dk_180 0 78 (dk_at dksX1_allCoin_0 14 rfl rfl)
theorem dX1_allCoin_17 : decode cX1_allCoin 17 = .ok (.iload_n 2, 1) := dk_28 (dk_at dksX1_allCoin_0 17 rfl rfl)
theorem dX1_allCoin_18 : decode cX1_allCoin 18 = .ok (.iaload, 1) := dk_46 (dk_at dksX1_allCoin_0 18 rfl rfl)
theorem dX1_allCoin_19 : decode cX1_allCoin 19 = .ok (.iadd, 1) := dk_96 (dk_at dksX1_allCoin_0 19 rfl rfl)
theorem dX1_allCoin_20 : decode cX1_allCoin 20 = .ok (.istore_n 1, 1) := dk_60 (dk_at dksX1_allCoin_0 20 rfl rfl)
theorem dX1_allCoin_21 : decode cX1_allCoin 21 = .ok (.iinc 2 1, 3) := dk_132 2 1 (dk_at dksX1_allCoin_0 21 rfl rfl)
theorem dX1_allCoin_24 : decode cX1_allCoin 24 = .ok (.goto (-20), 3) := dk_167 255 236 (dk_at dksX1_allCoin_1 0 rfl rfl)
theorem dX1_allCoin_27 : decode cX1_allCoin 27 = .ok (.iload_n 1, 1) := dk_27 (dk_at dksX1_allCoin_1 3 rfl rfl)
theorem dX1_allCoin_28 : decode cX1_allCoin 28 = .ok (.ireturn, 1) := dk_172 (dk_at dksX1_allCoin_1 4 rfl rfl)
abbrev cX1_taken : ByteArray := prog_12_method_45_code
def yX1_taken : MethodName := ⟨RX1, "taken", "(II)I"⟩
def dkwX1_taken_2 : List UInt8 := [167, 0, 9, 42, 180, 0, 87, 27, 46, 172]
abbrev dktX1_taken_2 : List UInt8 := dkwX1_taken_2 ++ []
def dkwX1_taken_1 : List UInt8 := [182, 0, 152, 154, 0, 6, 16, 253, 172, 42, 182, 0, 242, 62, 28, 154, 0, 12, 42, 180, 0, 84, 27, 46]
abbrev dktX1_taken_1 : List UInt8 := dkwX1_taken_1 ++ dktX1_taken_2
def dkwX1_taken_0 : List UInt8 := [27, 3, 17, 1, 143, 184, 0, 104, 153, 0, 12, 28, 3, 4, 184, 0, 104, 154, 0, 6, 16, 254, 172, 42]
abbrev dktX1_taken_0 : List UInt8 := dkwX1_taken_0 ++ dktX1_taken_1
theorem dksX1_taken_0 : cX1_taken.data.toList.drop 0 = dktX1_taken_0 := by decide +kernel
theorem dksX1_taken_1 : cX1_taken.data.toList.drop 24 = dktX1_taken_1 := dk_seg dksX1_taken_0 24 rfl rfl
theorem dksX1_taken_2 : cX1_taken.data.toList.drop 48 = dktX1_taken_2 := dk_seg dksX1_taken_1 24 rfl rfl
theorem dX1_taken_0 : decode cX1_taken 0 = .ok (.iload_n 1, 1) := dk_27 (dk_at dksX1_taken_0 0 rfl rfl)
theorem dX1_taken_1 : decode cX1_taken 1 = .ok (.iconst 0, 1) := dk_3 (dk_at dksX1_taken_0 1 rfl rfl)
theorem dX1_taken_2 : decode cX1_taken 2 = .ok (.sipush 399, 3) := dk_17 1 143 (dk_at dksX1_taken_0 2 rfl rfl)
theorem dX1_taken_5 : decode cX1_taken 5 = .ok (.invokestatic 104, 3) := dk_184 0 104 (dk_at dksX1_taken_0 5 rfl rfl)
theorem dX1_taken_8 : decode cX1_taken 8 = .ok (.ifCond .eq 12, 3) := dk_153 0 12 (dk_at dksX1_taken_0 8 rfl rfl)
theorem dX1_taken_11 : decode cX1_taken 11 = .ok (.iload_n 2, 1) := dk_28 (dk_at dksX1_taken_0 11 rfl rfl)
theorem dX1_taken_12 : decode cX1_taken 12 = .ok (.iconst 0, 1) := dk_3 (dk_at dksX1_taken_0 12 rfl rfl)
theorem dX1_taken_13 : decode cX1_taken 13 = .ok (.iconst 1, 1) := dk_4 (dk_at dksX1_taken_0 13 rfl rfl)
theorem dX1_taken_14 : decode cX1_taken 14 = .ok (.invokestatic 104, 3) := dk_184 0 104 (dk_at dksX1_taken_0 14 rfl rfl)
theorem dX1_taken_17 : decode cX1_taken 17 = .ok (.ifCond .ne 6, 3) := dk_154 0 6 (dk_at dksX1_taken_0 17 rfl rfl)
theorem dX1_taken_20 : decode cX1_taken 20 = .ok (.bipush (-2), 2) := dk_16 254 (dk_at dksX1_taken_0 20 rfl rfl)
theorem dX1_taken_22 : decode cX1_taken 22 = .ok (.ireturn, 1) := dk_172 (dk_at dksX1_taken_0 22 rfl rfl)
theorem dX1_taken_23 : decode cX1_taken 23 = .ok (.aload_n 0, 1) := dk_42 (dk_at dksX1_taken_0 23 rfl rfl)
theorem dX1_taken_24 : decode cX1_taken 24 = .ok (.invokevirtual 152, 3) := dk_182 0 152 (dk_at dksX1_taken_1 0 rfl rfl)
theorem dX1_taken_27 : decode cX1_taken 27 = .ok (.ifCond .ne 6, 3) := dk_154 0 6 (dk_at dksX1_taken_1 3 rfl rfl)
theorem dX1_taken_30 : decode cX1_taken 30 = .ok (.bipush (-3), 2) := dk_16 253 (dk_at dksX1_taken_1 6 rfl rfl)
theorem dX1_taken_32 : decode cX1_taken 32 = .ok (.ireturn, 1) := dk_172 (dk_at dksX1_taken_1 8 rfl rfl)
theorem dX1_taken_33 : decode cX1_taken 33 = .ok (.aload_n 0, 1) := dk_42 (dk_at dksX1_taken_1 9 rfl rfl)
theorem dX1_taken_34 : decode cX1_taken 34 = .ok (.invokevirtual 242, 3) := dk_182 0 242 (dk_at dksX1_taken_1 10 rfl rfl)
theorem dX1_taken_37 : decode cX1_taken 37 = .ok (.istore_n 3, 1) := dk_62 (dk_at dksX1_taken_1 13 rfl rfl)
theorem dX1_taken_38 : decode cX1_taken 38 = .ok (.iload_n 2, 1) := dk_28 (dk_at dksX1_taken_1 14 rfl rfl)
theorem dX1_taken_39 : decode cX1_taken 39 = .ok (.ifCond .ne 12, 3) := dk_154 0 12 (dk_at dksX1_taken_1 15 rfl rfl)
theorem dX1_taken_42 : decode cX1_taken 42 = .ok (.aload_n 0, 1) := dk_42 (dk_at dksX1_taken_1 18 rfl rfl)
theorem dX1_taken_43 : decode cX1_taken 43 = .ok (.getfield 84, 3) := dk_180 0 84 (dk_at dksX1_taken_1 19 rfl rfl)
theorem dX1_taken_46 : decode cX1_taken 46 = .ok (.iload_n 1, 1) := dk_27 (dk_at dksX1_taken_1 22 rfl rfl)
theorem dX1_taken_47 : decode cX1_taken 47 = .ok (.iaload, 1) := dk_46 (dk_at dksX1_taken_1 23 rfl rfl)
theorem dX1_taken_48 : decode cX1_taken 48 = .ok (.goto 9, 3) := dk_167 0 9 (dk_at dksX1_taken_2 0 rfl rfl)
theorem dX1_taken_51 : decode cX1_taken 51 = .ok (.aload_n 0, 1) := dk_42 (dk_at dksX1_taken_2 3 rfl rfl)
theorem dX1_taken_52 : decode cX1_taken 52 = .ok (.getfield 87, 3) := dk_180 0 87 (dk_at dksX1_taken_2 4 rfl rfl)
theorem dX1_taken_55 : decode cX1_taken 55 = .ok (.iload_n 1, 1) := dk_27 (dk_at dksX1_taken_2 7 rfl rfl)
theorem dX1_taken_56 : decode cX1_taken 56 = .ok (.iaload, 1) := dk_46 (dk_at dksX1_taken_2 8 rfl rfl)
theorem dX1_taken_57 : decode cX1_taken 57 = .ok (.ireturn, 1) := dk_172 (dk_at dksX1_taken_2 9 rfl rfl)
abbrev cX1_coin : ByteArray := prog_12_method_46_code
def yX1_coin : MethodName := ⟨RX1, "coin", "()I"⟩
def dkwX1_coin_0 : List UInt8 := [42, 182, 0, 152, 153, 0, 10, 42, 182, 0, 242, 167, 0, 5, 16, 253, 172]
abbrev dktX1_coin_0 : List UInt8 := dkwX1_coin_0 ++ []
theorem dksX1_coin_0 : cX1_coin.data.toList.drop 0 = dktX1_coin_0 := by decide +kernel
theorem dX1_coin_0 : decode cX1_coin 0 = .ok (.aload_n 0, 1) := dk_42 (dk_at dksX1_coin_0 0 rfl rfl)
theorem dX1_coin_1 : decode cX1_coin 1 = .ok (.invokevirtual 152, 3) := dk_182 0 152 (dk_at dksX1_coin_0 1 rfl rfl)
theorem dX1_coin_4 : decode cX1_coin 4 = .ok (.ifCond .eq 10, 3) := dk_153 0 10 (dk_at dksX1_coin_0 4 rfl rfl)
theorem dX1_coin_7 : decode cX1_coin 7 = .ok (.aload_n 0, 1) := dk_42 (dk_at dksX1_coin_0 7 rfl rfl)
theorem dX1_coin_8 : decode cX1_coin 8 = .ok (.invokevirtual 242, 3) := dk_182 0 242 (dk_at dksX1_coin_0 8 rfl rfl)
theorem dX1_coin_11 : decode cX1_coin 11 = .ok (.goto 5, 3) := dk_167 0 5 (dk_at dksX1_coin_0 11 rfl rfl)
theorem dX1_coin_14 : decode cX1_coin 14 = .ok (.bipush (-3), 2) := dk_16 253 (dk_at dksX1_coin_0 14 rfl rfl)
theorem dX1_coin_16 : decode cX1_coin 16 = .ok (.ireturn, 1) := dk_172 (dk_at dksX1_coin_0 16 rfl rfl)
abbrev cX1_worth : ByteArray := prog_12_method_47_code
def yX1_worth : MethodName := ⟨RX1, "worth", "(I)J"⟩
def dkwX1_worth_1 : List UInt8 := [182, 0, 236, 28, 42, 182, 0, 239, 100, 133, 173]
abbrev dktX1_worth_1 : List UInt8 := dkwX1_worth_1 ++ []
def dkwX1_worth_0 : List UInt8 := [42, 27, 182, 0, 156, 154, 0, 7, 20, 0, 102, 173, 42, 182, 0, 242, 61, 42, 27, 181, 0, 174, 42]
abbrev dktX1_worth_0 : List UInt8 := dkwX1_worth_0 ++ dktX1_worth_1
theorem dksX1_worth_0 : cX1_worth.data.toList.drop 0 = dktX1_worth_0 := by decide +kernel
theorem dksX1_worth_1 : cX1_worth.data.toList.drop 23 = dktX1_worth_1 := dk_seg dksX1_worth_0 23 rfl rfl
theorem dX1_worth_0 : decode cX1_worth 0 = .ok (.aload_n 0, 1) := dk_42 (dk_at dksX1_worth_0 0 rfl rfl)
theorem dX1_worth_1 : decode cX1_worth 1 = .ok (.iload_n 1, 1) := dk_27 (dk_at dksX1_worth_0 1 rfl rfl)
theorem dX1_worth_2 : decode cX1_worth 2 = .ok (.invokevirtual 156, 3) := dk_182 0 156 (dk_at dksX1_worth_0 2 rfl rfl)
theorem dX1_worth_5 : decode cX1_worth 5 = .ok (.ifCond .ne 7, 3) := dk_154 0 7 (dk_at dksX1_worth_0 5 rfl rfl)
theorem dX1_worth_8 : decode cX1_worth 8 = .ok (.ldc2_w 102, 3) := dk_20 0 102 (dk_at dksX1_worth_0 8 rfl rfl)
theorem dX1_worth_11 : decode cX1_worth 11 = .ok (.lreturn, 1) := dk_173 (dk_at dksX1_worth_0 11 rfl rfl)
theorem dX1_worth_12 : decode cX1_worth 12 = .ok (.aload_n 0, 1) := dk_42 (dk_at dksX1_worth_0 12 rfl rfl)
theorem dX1_worth_13 : decode cX1_worth 13 = .ok (.invokevirtual 242, 3) := dk_182 0 242 (dk_at dksX1_worth_0 13 rfl rfl)
theorem dX1_worth_16 : decode cX1_worth 16 = .ok (.istore_n 2, 1) := dk_61 (dk_at dksX1_worth_0 16 rfl rfl)
theorem dX1_worth_17 : decode cX1_worth 17 = .ok (.aload_n 0, 1) := dk_42 (dk_at dksX1_worth_0 17 rfl rfl)
theorem dX1_worth_18 : decode cX1_worth 18 = .ok (.iload_n 1, 1) := dk_27 (dk_at dksX1_worth_0 18 rfl rfl)
theorem dX1_worth_19 : decode cX1_worth 19 = .ok (.putfield 174, 3) := dk_181 0 174 (dk_at dksX1_worth_0 19 rfl rfl)
theorem dX1_worth_22 : decode cX1_worth 22 = .ok (.aload_n 0, 1) := dk_42 (dk_at dksX1_worth_0 22 rfl rfl)
theorem dX1_worth_23 : decode cX1_worth 23 = .ok (.invokevirtual 236, 3) := dk_182 0 236 (dk_at dksX1_worth_1 0 rfl rfl)
theorem dX1_worth_26 : decode cX1_worth 26 = .ok (.iload_n 2, 1) := dk_28 (dk_at dksX1_worth_1 3 rfl rfl)
theorem dX1_worth_27 : decode cX1_worth 27 = .ok (.aload_n 0, 1) := dk_42 (dk_at dksX1_worth_1 4 rfl rfl)
theorem dX1_worth_28 : decode cX1_worth 28 = .ok (.invokevirtual 239, 3) := dk_182 0 239 (dk_at dksX1_worth_1 5 rfl rfl)
theorem dX1_worth_31 : decode cX1_worth 31 = .ok (.isub, 1) := dk_100 (dk_at dksX1_worth_1 8 rfl rfl)
theorem dX1_worth_32 : decode cX1_worth 32 = .ok (.i2l, 1) := dk_133 (dk_at dksX1_worth_1 9 rfl rfl)
theorem dX1_worth_33 : decode cX1_worth 33 = .ok (.lreturn, 1) := dk_173 (dk_at dksX1_worth_1 10 rfl rfl)
abbrev cX1_plan : ByteArray := prog_12_method_52_code
def yX1_plan : MethodName := ⟨RX1, "plan", "(I)I"⟩
def dkwX1_plan_2 : List UInt8 := [172]
abbrev dktX1_plan_2 : List UInt8 := dkwX1_plan_2 ++ []
def dkwX1_plan_1 : List UInt8 := [16, 253, 172, 42, 182, 1, 1, 27, 156, 0, 10, 42, 180, 0, 248, 167, 0, 9, 42, 180, 0, 96, 27, 46]
abbrev dktX1_plan_1 : List UInt8 := dkwX1_plan_1 ++ dktX1_plan_2
def dkwX1_plan_0 : List UInt8 := [27, 2, 42, 182, 0, 245, 4, 100, 184, 0, 104, 154, 0, 5, 2, 172, 42, 182, 0, 152, 154, 0, 6]
abbrev dktX1_plan_0 : List UInt8 := dkwX1_plan_0 ++ dktX1_plan_1
theorem dksX1_plan_0 : cX1_plan.data.toList.drop 0 = dktX1_plan_0 := by decide +kernel
theorem dksX1_plan_1 : cX1_plan.data.toList.drop 23 = dktX1_plan_1 := dk_seg dksX1_plan_0 23 rfl rfl
theorem dksX1_plan_2 : cX1_plan.data.toList.drop 47 = dktX1_plan_2 := dk_seg dksX1_plan_1 24 rfl rfl
theorem dX1_plan_0 : decode cX1_plan 0 = .ok (.iload_n 1, 1) := dk_27 (dk_at dksX1_plan_0 0 rfl rfl)
theorem dX1_plan_1 : decode cX1_plan 1 = .ok (.iconst (-1), 1) := dk_2 (dk_at dksX1_plan_0 1 rfl rfl)
theorem dX1_plan_2 : decode cX1_plan 2 = .ok (.aload_n 0, 1) := dk_42 (dk_at dksX1_plan_0 2 rfl rfl)
theorem dX1_plan_3 : decode cX1_plan 3 = .ok (.invokevirtual 245, 3) := dk_182 0 245 (dk_at dksX1_plan_0 3 rfl rfl)
theorem dX1_plan_6 : decode cX1_plan 6 = .ok (.iconst 1, 1) := dk_4 (dk_at dksX1_plan_0 6 rfl rfl)
theorem dX1_plan_7 : decode cX1_plan 7 = .ok (.isub, 1) := dk_100 (dk_at dksX1_plan_0 7 rfl rfl)
theorem dX1_plan_8 : decode cX1_plan 8 = .ok (.invokestatic 104, 3) := dk_184 0 104 (dk_at dksX1_plan_0 8 rfl rfl)
theorem dX1_plan_11 : decode cX1_plan 11 = .ok (.ifCond .ne 5, 3) := dk_154 0 5 (dk_at dksX1_plan_0 11 rfl rfl)
theorem dX1_plan_14 : decode cX1_plan 14 = .ok (.iconst (-1), 1) := dk_2 (dk_at dksX1_plan_0 14 rfl rfl)
theorem dX1_plan_15 : decode cX1_plan 15 = .ok (.ireturn, 1) := dk_172 (dk_at dksX1_plan_0 15 rfl rfl)
theorem dX1_plan_16 : decode cX1_plan 16 = .ok (.aload_n 0, 1) := dk_42 (dk_at dksX1_plan_0 16 rfl rfl)
theorem dX1_plan_17 : decode cX1_plan 17 = .ok (.invokevirtual 152, 3) := dk_182 0 152 (dk_at dksX1_plan_0 17 rfl rfl)
theorem dX1_plan_20 : decode cX1_plan 20 = .ok (.ifCond .ne 6, 3) := dk_154 0 6 (dk_at dksX1_plan_0 20 rfl rfl)
theorem dX1_plan_23 : decode cX1_plan 23 = .ok (.bipush (-3), 2) := dk_16 253 (dk_at dksX1_plan_1 0 rfl rfl)
theorem dX1_plan_25 : decode cX1_plan 25 = .ok (.ireturn, 1) := dk_172 (dk_at dksX1_plan_1 2 rfl rfl)
theorem dX1_plan_26 : decode cX1_plan 26 = .ok (.aload_n 0, 1) := dk_42 (dk_at dksX1_plan_1 3 rfl rfl)
theorem dX1_plan_27 : decode cX1_plan 27 = .ok (.invokevirtual 257, 3) := dk_182 1 1 (dk_at dksX1_plan_1 4 rfl rfl)
theorem dX1_plan_30 : decode cX1_plan 30 = .ok (.iload_n 1, 1) := dk_27 (dk_at dksX1_plan_1 7 rfl rfl)
theorem dX1_plan_31 : decode cX1_plan 31 = .ok (.ifCond .ge 10, 3) := dk_156 0 10 (dk_at dksX1_plan_1 8 rfl rfl)
theorem dX1_plan_34 : decode cX1_plan 34 = .ok (.aload_n 0, 1) := dk_42 (dk_at dksX1_plan_1 11 rfl rfl)
theorem dX1_plan_35 : decode cX1_plan 35 = .ok (.getfield 248, 3) := dk_180 0 248 (dk_at dksX1_plan_1 12 rfl rfl)
theorem dX1_plan_38 : decode cX1_plan 38 = .ok (.goto 9, 3) := dk_167 0 9 (dk_at dksX1_plan_1 15 rfl rfl)
theorem dX1_plan_41 : decode cX1_plan 41 = .ok (.aload_n 0, 1) := dk_42 (dk_at dksX1_plan_1 18 rfl rfl)
theorem dX1_plan_42 : decode cX1_plan 42 = .ok (.getfield 96, 3) := dk_180 0 96 (dk_at dksX1_plan_1 19 rfl rfl)
theorem dX1_plan_45 : decode cX1_plan 45 = .ok (.iload_n 1, 1) := dk_27 (dk_at dksX1_plan_1 22 rfl rfl)
theorem dX1_plan_46 : decode cX1_plan 46 = .ok (.iaload, 1) := dk_46 (dk_at dksX1_plan_1 23 rfl rfl)
theorem dX1_plan_47 : decode cX1_plan 47 = .ok (.ireturn, 1) := dk_172 (dk_at dksX1_plan_2 0 rfl rfl)
abbrev cX1_planned : ByteArray := prog_12_method_48_code
def yX1_planned : MethodName := ⟨RX1, "planned", "()I"⟩
def dkwX1_planned_0 : List UInt8 := [42, 180, 0, 135, 16, 6, 162, 0, 10, 42, 180, 0, 135, 167, 0, 5, 16, 6, 172]
abbrev dktX1_planned_0 : List UInt8 := dkwX1_planned_0 ++ []
theorem dksX1_planned_0 : cX1_planned.data.toList.drop 0 = dktX1_planned_0 := by decide +kernel
theorem dX1_planned_0 : decode cX1_planned 0 = .ok (.aload_n 0, 1) := dk_42 (dk_at dksX1_planned_0 0 rfl rfl)
theorem dX1_planned_1 : decode cX1_planned 1 = .ok (.getfield 135, 3) := dk_180 0 135 (dk_at dksX1_planned_0 1 rfl rfl)
theorem dX1_planned_4 : decode cX1_planned 4 = .ok (.bipush 6, 2) := dk_16 6 (dk_at dksX1_planned_0 4 rfl rfl)
theorem dX1_planned_6 : decode cX1_planned 6 = .ok (.if_icmp .ge 10, 3) := dk_162 0 10 (dk_at dksX1_planned_0 6 rfl rfl)
theorem dX1_planned_9 : decode cX1_planned 9 = .ok (.aload_n 0, 1) := dk_42 (dk_at dksX1_planned_0 9 rfl rfl)
theorem dX1_planned_10 : decode cX1_planned 10 = .ok (.getfield 135, 3) := dk_180 0 135 (dk_at dksX1_planned_0 10 rfl rfl)
theorem dX1_planned_13 : decode cX1_planned 13 = .ok (.goto 5, 3) := dk_167 0 5 (dk_at dksX1_planned_0 13 rfl rfl)
theorem dX1_planned_16 : decode cX1_planned 16 = .ok (.bipush 6, 2) := dk_16 6 (dk_at dksX1_planned_0 16 rfl rfl)
theorem dX1_planned_18 : decode cX1_planned 18 = .ok (.ireturn, 1) := dk_172 (dk_at dksX1_planned_0 18 rfl rfl)
abbrev cX1_findPlan : ByteArray := prog_12_method_50_code
def yX1_findPlan : MethodName := ⟨RX1, "findPlan", "()V"⟩
def dkwX1_findPlan_5 : List UInt8 := [2, 79, 167, 255, 166, 42, 27, 182, 0, 254, 167, 255, 158, 177]
abbrev dktX1_findPlan_5 : List UInt8 := dkwX1_findPlan_5 ++ []
def dkwX1_findPlan_4 : List UInt8 := [164, 0, 9, 132, 2, 255, 167, 255, 186, 28, 27, 4, 100, 162, 0, 16, 132, 2, 1, 42, 180, 0, 93, 28]
abbrev dktX1_findPlan_4 : List UInt8 := dkwX1_findPlan_4 ++ dktX1_findPlan_5
def dkwX1_findPlan_3 : List UInt8 := [180, 0, 93, 28, 92, 46, 4, 96, 79, 167, 255, 219, 42, 180, 0, 93, 28, 46, 42, 180, 0, 108]
abbrev dktX1_findPlan_3 : List UInt8 := dkwX1_findPlan_3 ++ dktX1_findPlan_4
def dkwX1_findPlan_2 : List UInt8 := [28, 46, 42, 180, 0, 108, 163, 0, 30, 42, 28, 42, 180, 0, 93, 28, 46, 182, 0, 251, 154, 0, 16, 42]
abbrev dktX1_findPlan_2 : List UInt8 := dkwX1_findPlan_2 ++ dktX1_findPlan_3
def dkwX1_findPlan_1 : List UInt8 := [180, 0, 93, 3, 2, 79, 28, 155, 0, 100, 42, 180, 0, 93, 28, 92, 46, 4, 96, 79, 42, 180, 0, 93]
abbrev dktX1_findPlan_1 : List UInt8 := dkwX1_findPlan_1 ++ dktX1_findPlan_2
def dkwX1_findPlan_0 : List UInt8 := [42, 182, 0, 245, 60, 42, 2, 181, 0, 248, 27, 154, 0, 9, 42, 3, 181, 0, 248, 177, 3, 61, 42]
abbrev dktX1_findPlan_0 : List UInt8 := dkwX1_findPlan_0 ++ dktX1_findPlan_1
theorem dksX1_findPlan_0 : cX1_findPlan.data.toList.drop 0 = dktX1_findPlan_0 := by decide +kernel
theorem dksX1_findPlan_1 : cX1_findPlan.data.toList.drop 23 = dktX1_findPlan_1 := dk_seg dksX1_findPlan_0 23 rfl rfl
theorem dksX1_findPlan_2 : cX1_findPlan.data.toList.drop 47 = dktX1_findPlan_2 := dk_seg dksX1_findPlan_1 24 rfl rfl
theorem dksX1_findPlan_3 : cX1_findPlan.data.toList.drop 71 = dktX1_findPlan_3 := dk_seg dksX1_findPlan_2 24 rfl rfl
theorem dksX1_findPlan_4 : cX1_findPlan.data.toList.drop 93 = dktX1_findPlan_4 := dk_seg dksX1_findPlan_3 22 rfl rfl
theorem dksX1_findPlan_5 : cX1_findPlan.data.toList.drop 117 = dktX1_findPlan_5 := dk_seg dksX1_findPlan_4 24 rfl rfl
theorem dX1_findPlan_0 : decode cX1_findPlan 0 = .ok (.aload_n 0, 1) := dk_42 (dk_at dksX1_findPlan_0 0 rfl rfl)
theorem dX1_findPlan_1 : decode cX1_findPlan 1 = .ok (.invokevirtual 245, 3) := dk_182 0 245 (dk_at dksX1_findPlan_0 1 rfl rfl)
theorem dX1_findPlan_4 : decode cX1_findPlan 4 = .ok (.istore_n 1, 1) := dk_60 (dk_at dksX1_findPlan_0 4 rfl rfl)
theorem dX1_findPlan_5 : decode cX1_findPlan 5 = .ok (.aload_n 0, 1) := dk_42 (dk_at dksX1_findPlan_0 5 rfl rfl)
theorem dX1_findPlan_6 : decode cX1_findPlan 6 = .ok (.iconst (-1), 1) := dk_2 (dk_at dksX1_findPlan_0 6 rfl rfl)
theorem dX1_findPlan_7 : decode cX1_findPlan 7 = .ok (.putfield 248, 3) := dk_181 0 248 (dk_at dksX1_findPlan_0 7 rfl rfl)
theorem dX1_findPlan_10 : decode cX1_findPlan 10 = .ok (.iload_n 1, 1) := dk_27 (dk_at dksX1_findPlan_0 10 rfl rfl)
theorem dX1_findPlan_11 : decode cX1_findPlan 11 = .ok (.ifCond .ne 9, 3) := dk_154 0 9 (dk_at dksX1_findPlan_0 11 rfl rfl)
theorem dX1_findPlan_14 : decode cX1_findPlan 14 = .ok (.aload_n 0, 1) := dk_42 (dk_at dksX1_findPlan_0 14 rfl rfl)
theorem dX1_findPlan_15 : decode cX1_findPlan 15 = .ok (.iconst 0, 1) := dk_3 (dk_at dksX1_findPlan_0 15 rfl rfl)
theorem dX1_findPlan_16 : decode cX1_findPlan 16 = .ok (.putfield 248, 3) := dk_181 0 248 (dk_at dksX1_findPlan_0 16 rfl rfl)
theorem dX1_findPlan_19 : decode cX1_findPlan 19 = .ok (.return_, 1) := dk_177 (dk_at dksX1_findPlan_0 19 rfl rfl)
theorem dX1_findPlan_20 : decode cX1_findPlan 20 = .ok (.iconst 0, 1) := dk_3 (dk_at dksX1_findPlan_0 20 rfl rfl)
theorem dX1_findPlan_21 : decode cX1_findPlan 21 = .ok (.istore_n 2, 1) := dk_61 (dk_at dksX1_findPlan_0 21 rfl rfl)
theorem dX1_findPlan_22 : decode cX1_findPlan 22 = .ok (.aload_n 0, 1) := dk_42 (dk_at dksX1_findPlan_0 22 rfl rfl)
theorem dX1_findPlan_23 : decode cX1_findPlan 23 = .ok (.getfield 93, 3) := dk_180 0 93 (dk_at dksX1_findPlan_1 0 rfl rfl)
theorem dX1_findPlan_26 : decode cX1_findPlan 26 = .ok (.iconst 0, 1) := dk_3 (dk_at dksX1_findPlan_1 3 rfl rfl)
theorem dX1_findPlan_27 : decode cX1_findPlan 27 = .ok (.iconst (-1), 1) := dk_2 (dk_at dksX1_findPlan_1 4 rfl rfl)
theorem dX1_findPlan_28 : decode cX1_findPlan 28 = .ok (.iastore, 1) := dk_79 (dk_at dksX1_findPlan_1 5 rfl rfl)
theorem dX1_findPlan_29 : decode cX1_findPlan 29 = .ok (.iload_n 2, 1) := dk_28 (dk_at dksX1_findPlan_1 6 rfl rfl)
theorem dX1_findPlan_30 : decode cX1_findPlan 30 = .ok (.ifCond .lt 100, 3) := dk_155 0 100 (dk_at dksX1_findPlan_1 7 rfl rfl)
theorem dX1_findPlan_33 : decode cX1_findPlan 33 = .ok (.aload_n 0, 1) := dk_42 (dk_at dksX1_findPlan_1 10 rfl rfl)
theorem dX1_findPlan_34 : decode cX1_findPlan 34 = .ok (.getfield 93, 3) := dk_180 0 93 (dk_at dksX1_findPlan_1 11 rfl rfl)
theorem dX1_findPlan_37 : decode cX1_findPlan 37 = .ok (.iload_n 2, 1) := dk_28 (dk_at dksX1_findPlan_1 14 rfl rfl)
theorem dX1_findPlan_38 : decode cX1_findPlan 38 = .ok (.dup2, 1) := dk_92 (dk_at dksX1_findPlan_1 15 rfl rfl)
theorem dX1_findPlan_39 : decode cX1_findPlan 39 = .ok (.iaload, 1) := dk_46 (dk_at dksX1_findPlan_1 16 rfl rfl)
theorem dX1_findPlan_40 : decode cX1_findPlan 40 = .ok (.iconst 1, 1) := dk_4 (dk_at dksX1_findPlan_1 17 rfl rfl)
theorem dX1_findPlan_41 : decode cX1_findPlan 41 = .ok (.iadd, 1) := dk_96 (dk_at dksX1_findPlan_1 18 rfl rfl)
theorem dX1_findPlan_42 : decode cX1_findPlan 42 = .ok (.iastore, 1) := dk_79 (dk_at dksX1_findPlan_1 19 rfl rfl)
theorem dX1_findPlan_43 : decode cX1_findPlan 43 = .ok (.aload_n 0, 1) := dk_42 (dk_at dksX1_findPlan_1 20 rfl rfl)
theorem dX1_findPlan_44 : decode cX1_findPlan 44 = .ok (.getfield 93, 3) := dk_180 0 93 (dk_at dksX1_findPlan_1 21 rfl rfl)
theorem dX1_findPlan_47 : decode cX1_findPlan 47 = .ok (.iload_n 2, 1) := dk_28 (dk_at dksX1_findPlan_2 0 rfl rfl)
theorem dX1_findPlan_48 : decode cX1_findPlan 48 = .ok (.iaload, 1) := dk_46 (dk_at dksX1_findPlan_2 1 rfl rfl)
theorem dX1_findPlan_49 : decode cX1_findPlan 49 = .ok (.aload_n 0, 1) := dk_42 (dk_at dksX1_findPlan_2 2 rfl rfl)
theorem dX1_findPlan_50 : decode cX1_findPlan 50 = .ok (.getfield 108, 3) := dk_180 0 108 (dk_at dksX1_findPlan_2 3 rfl rfl)
theorem dX1_findPlan_53 : decode cX1_findPlan 53 = .ok (.if_icmp .gt 30, 3) := dk_163 0 30 (dk_at dksX1_findPlan_2 6 rfl rfl)
theorem dX1_findPlan_56 : decode cX1_findPlan 56 = .ok (.aload_n 0, 1) := dk_42 (dk_at dksX1_findPlan_2 9 rfl rfl)
theorem dX1_findPlan_57 : decode cX1_findPlan 57 = .ok (.iload_n 2, 1) := dk_28 (dk_at dksX1_findPlan_2 10 rfl rfl)
theorem dX1_findPlan_58 : decode cX1_findPlan 58 = .ok (.aload_n 0, 1) := dk_42 (dk_at dksX1_findPlan_2 11 rfl rfl)
theorem dX1_findPlan_59 : decode cX1_findPlan 59 = .ok (.getfield 93, 3) := dk_180 0 93 (dk_at dksX1_findPlan_2 12 rfl rfl)
theorem dX1_findPlan_62 : decode cX1_findPlan 62 = .ok (.iload_n 2, 1) := dk_28 (dk_at dksX1_findPlan_2 15 rfl rfl)
theorem dX1_findPlan_63 : decode cX1_findPlan 63 = .ok (.iaload, 1) := dk_46 (dk_at dksX1_findPlan_2 16 rfl rfl)
theorem dX1_findPlan_64 : decode cX1_findPlan 64 = .ok (.invokevirtual 251, 3) := dk_182 0 251 (dk_at dksX1_findPlan_2 17 rfl rfl)
theorem dX1_findPlan_67 : decode cX1_findPlan 67 = .ok (.ifCond .ne 16, 3) := dk_154 0 16 (dk_at dksX1_findPlan_2 20 rfl rfl)
theorem dX1_findPlan_70 : decode cX1_findPlan 70 = .ok (.aload_n 0, 1) := dk_42 (dk_at dksX1_findPlan_2 23 rfl rfl)
theorem dX1_findPlan_71 : decode cX1_findPlan 71 = .ok (.getfield 93, 3) := dk_180 0 93 (dk_at dksX1_findPlan_3 0 rfl rfl)
theorem dX1_findPlan_74 : decode cX1_findPlan 74 = .ok (.iload_n 2, 1) := dk_28 (dk_at dksX1_findPlan_3 3 rfl rfl)
theorem dX1_findPlan_75 : decode cX1_findPlan 75 = .ok (.dup2, 1) := dk_92 (dk_at dksX1_findPlan_3 4 rfl rfl)
theorem dX1_findPlan_76 : decode cX1_findPlan 76 = .ok (.iaload, 1) := dk_46 (dk_at dksX1_findPlan_3 5 rfl rfl)
theorem dX1_findPlan_77 : decode cX1_findPlan 77 = .ok (.iconst 1, 1) := dk_4 (dk_at dksX1_findPlan_3 6 rfl rfl)
theorem dX1_findPlan_78 : decode cX1_findPlan 78 = .ok (.iadd, 1) := dk_96 (dk_at dksX1_findPlan_3 7 rfl rfl)
theorem dX1_findPlan_79 : decode cX1_findPlan 79 = .ok (.iastore, 1) := dk_79 (dk_at dksX1_findPlan_3 8 rfl rfl)
theorem dX1_findPlan_80 : decode cX1_findPlan 80 = .ok (.goto (-37), 3) := dk_167 255 219 (dk_at dksX1_findPlan_3 9 rfl rfl)
theorem dX1_findPlan_83 : decode cX1_findPlan 83 = .ok (.aload_n 0, 1) := dk_42 (dk_at dksX1_findPlan_3 12 rfl rfl)
theorem dX1_findPlan_84 : decode cX1_findPlan 84 = .ok (.getfield 93, 3) := dk_180 0 93 (dk_at dksX1_findPlan_3 13 rfl rfl)
theorem dX1_findPlan_87 : decode cX1_findPlan 87 = .ok (.iload_n 2, 1) := dk_28 (dk_at dksX1_findPlan_3 16 rfl rfl)
theorem dX1_findPlan_88 : decode cX1_findPlan 88 = .ok (.iaload, 1) := dk_46 (dk_at dksX1_findPlan_3 17 rfl rfl)
theorem dX1_findPlan_89 : decode cX1_findPlan 89 = .ok (.aload_n 0, 1) := dk_42 (dk_at dksX1_findPlan_3 18 rfl rfl)
theorem dX1_findPlan_90 : decode cX1_findPlan 90 = .ok (.getfield 108, 3) := dk_180 0 108 (dk_at dksX1_findPlan_3 19 rfl rfl)
theorem dX1_findPlan_93 : decode cX1_findPlan 93 = .ok (.if_icmp .le 9, 3) := dk_164 0 9 (dk_at dksX1_findPlan_4 0 rfl rfl)
theorem dX1_findPlan_96 : decode cX1_findPlan 96 = .ok (.iinc 2 (-1), 3) := dk_132 2 255 (dk_at dksX1_findPlan_4 3 rfl rfl)
theorem dX1_findPlan_99 : decode cX1_findPlan 99 = .ok (.goto (-70), 3) := dk_167 255 186 (dk_at dksX1_findPlan_4 6 rfl rfl)
theorem dX1_findPlan_102 : decode cX1_findPlan 102 = .ok (.iload_n 2, 1) := dk_28 (dk_at dksX1_findPlan_4 9 rfl rfl)
theorem dX1_findPlan_103 : decode cX1_findPlan 103 = .ok (.iload_n 1, 1) := dk_27 (dk_at dksX1_findPlan_4 10 rfl rfl)
theorem dX1_findPlan_104 : decode cX1_findPlan 104 = .ok (.iconst 1, 1) := dk_4 (dk_at dksX1_findPlan_4 11 rfl rfl)
theorem dX1_findPlan_105 : decode cX1_findPlan 105 = .ok (.isub, 1) := dk_100 (dk_at dksX1_findPlan_4 12 rfl rfl)
theorem dX1_findPlan_106 : decode cX1_findPlan 106 = .ok (.if_icmp .ge 16, 3) := dk_162 0 16 (dk_at dksX1_findPlan_4 13 rfl rfl)
theorem dX1_findPlan_109 : decode cX1_findPlan 109 = .ok (.iinc 2 1, 3) := dk_132 2 1 (dk_at dksX1_findPlan_4 16 rfl rfl)
theorem dX1_findPlan_112 : decode cX1_findPlan 112 = .ok (.aload_n 0, 1) := dk_42 (dk_at dksX1_findPlan_4 19 rfl rfl)
theorem dX1_findPlan_113 : decode cX1_findPlan 113 = .ok (.getfield 93, 3) := dk_180 0 93 (dk_at dksX1_findPlan_4 20 rfl rfl)
theorem dX1_findPlan_116 : decode cX1_findPlan 116 = .ok (.iload_n 2, 1) := dk_28 (dk_at dksX1_findPlan_4 23 rfl rfl)
theorem dX1_findPlan_117 : decode cX1_findPlan 117 = .ok (.iconst (-1), 1) := dk_2 (dk_at dksX1_findPlan_5 0 rfl rfl)
theorem dX1_findPlan_118 : decode cX1_findPlan 118 = .ok (.iastore, 1) := dk_79 (dk_at dksX1_findPlan_5 1 rfl rfl)
theorem dX1_findPlan_119 : decode cX1_findPlan 119 = .ok (.goto (-90), 3) := dk_167 255 166 (dk_at dksX1_findPlan_5 2 rfl rfl)
theorem dX1_findPlan_122 : decode cX1_findPlan 122 = .ok (.aload_n 0, 1) := dk_42 (dk_at dksX1_findPlan_5 5 rfl rfl)
theorem dX1_findPlan_123 : decode cX1_findPlan 123 = .ok (.iload_n 1, 1) := dk_27 (dk_at dksX1_findPlan_5 6 rfl rfl)
theorem dX1_findPlan_124 : decode cX1_findPlan 124 = .ok (.invokevirtual 254, 3) := dk_182 0 254 (dk_at dksX1_findPlan_5 7 rfl rfl)
theorem dX1_findPlan_127 : decode cX1_findPlan 127 = .ok (.goto (-98), 3) := dk_167 255 158 (dk_at dksX1_findPlan_5 10 rfl rfl)
theorem dX1_findPlan_130 : decode cX1_findPlan 130 = .ok (.return_, 1) := dk_177 (dk_at dksX1_findPlan_5 13 rfl rfl)
abbrev cX1_maySit : ByteArray := prog_12_method_49_code
def yX1_maySit : MethodName := ⟨RX1, "maySit", "(II)Z"⟩
def dkwX1_maySit_4 : List UInt8 := [167, 255, 194, 4, 172]
abbrev dktX1_maySit_4 : List UInt8 := dkwX1_maySit_4 ++ []
def dkwX1_maySit_3 : List UInt8 := [27, 46, 42, 180, 0, 41, 29, 46, 42, 29, 182, 0, 159, 96, 162, 0, 5, 3, 172, 132, 3, 1]
abbrev dktX1_maySit_3 : List UInt8 := dkwX1_maySit_3 ++ dktX1_maySit_4
def dkwX1_maySit_2 : List UInt8 := [180, 0, 41, 29, 46, 42, 180, 0, 41, 27, 46, 42, 27, 182, 0, 159, 96, 162, 0, 26, 42, 180, 0, 41]
abbrev dktX1_maySit_2 : List UInt8 := dkwX1_maySit_2 ++ dktX1_maySit_3
def dkwX1_maySit_1 : List UInt8 := [162, 0, 5, 3, 172, 3, 62, 29, 27, 162, 0, 63, 42, 180, 0, 93, 29, 46, 28, 160, 0, 47, 42]
abbrev dktX1_maySit_1 : List UInt8 := dkwX1_maySit_1 ++ dktX1_maySit_2
def dkwX1_maySit_0 : List UInt8 := [28, 42, 180, 0, 108, 160, 0, 5, 4, 172, 42, 180, 0, 22, 28, 46, 42, 180, 0, 38, 27, 46]
abbrev dktX1_maySit_0 : List UInt8 := dkwX1_maySit_0 ++ dktX1_maySit_1
theorem dksX1_maySit_0 : cX1_maySit.data.toList.drop 0 = dktX1_maySit_0 := by decide +kernel
theorem dksX1_maySit_1 : cX1_maySit.data.toList.drop 22 = dktX1_maySit_1 := dk_seg dksX1_maySit_0 22 rfl rfl
theorem dksX1_maySit_2 : cX1_maySit.data.toList.drop 45 = dktX1_maySit_2 := dk_seg dksX1_maySit_1 23 rfl rfl
theorem dksX1_maySit_3 : cX1_maySit.data.toList.drop 69 = dktX1_maySit_3 := dk_seg dksX1_maySit_2 24 rfl rfl
theorem dksX1_maySit_4 : cX1_maySit.data.toList.drop 91 = dktX1_maySit_4 := dk_seg dksX1_maySit_3 22 rfl rfl
theorem dX1_maySit_0 : decode cX1_maySit 0 = .ok (.iload_n 2, 1) := dk_28 (dk_at dksX1_maySit_0 0 rfl rfl)
theorem dX1_maySit_1 : decode cX1_maySit 1 = .ok (.aload_n 0, 1) := dk_42 (dk_at dksX1_maySit_0 1 rfl rfl)
theorem dX1_maySit_2 : decode cX1_maySit 2 = .ok (.getfield 108, 3) := dk_180 0 108 (dk_at dksX1_maySit_0 2 rfl rfl)
theorem dX1_maySit_5 : decode cX1_maySit 5 = .ok (.if_icmp .ne 5, 3) := dk_160 0 5 (dk_at dksX1_maySit_0 5 rfl rfl)
theorem dX1_maySit_8 : decode cX1_maySit 8 = .ok (.iconst 1, 1) := dk_4 (dk_at dksX1_maySit_0 8 rfl rfl)
theorem dX1_maySit_9 : decode cX1_maySit 9 = .ok (.ireturn, 1) := dk_172 (dk_at dksX1_maySit_0 9 rfl rfl)
theorem dX1_maySit_10 : decode cX1_maySit 10 = .ok (.aload_n 0, 1) := dk_42 (dk_at dksX1_maySit_0 10 rfl rfl)
theorem dX1_maySit_11 : decode cX1_maySit 11 = .ok (.getfield 22, 3) := dk_180 0 22 (dk_at dksX1_maySit_0 11 rfl rfl)
theorem dX1_maySit_14 : decode cX1_maySit 14 = .ok (.iload_n 2, 1) := dk_28 (dk_at dksX1_maySit_0 14 rfl rfl)
theorem dX1_maySit_15 : decode cX1_maySit 15 = .ok (.iaload, 1) := dk_46 (dk_at dksX1_maySit_0 15 rfl rfl)
theorem dX1_maySit_16 : decode cX1_maySit 16 = .ok (.aload_n 0, 1) := dk_42 (dk_at dksX1_maySit_0 16 rfl rfl)
theorem dX1_maySit_17 : decode cX1_maySit 17 = .ok (.getfield 38, 3) := dk_180 0 38 (dk_at dksX1_maySit_0 17 rfl rfl)
theorem dX1_maySit_20 : decode cX1_maySit 20 = .ok (.iload_n 1, 1) := dk_27 (dk_at dksX1_maySit_0 20 rfl rfl)
theorem dX1_maySit_21 : decode cX1_maySit 21 = .ok (.iaload, 1) := dk_46 (dk_at dksX1_maySit_0 21 rfl rfl)
theorem dX1_maySit_22 : decode cX1_maySit 22 = .ok (.if_icmp .ge 5, 3) := dk_162 0 5 (dk_at dksX1_maySit_1 0 rfl rfl)
theorem dX1_maySit_25 : decode cX1_maySit 25 = .ok (.iconst 0, 1) := dk_3 (dk_at dksX1_maySit_1 3 rfl rfl)
theorem dX1_maySit_26 : decode cX1_maySit 26 = .ok (.ireturn, 1) := dk_172 (dk_at dksX1_maySit_1 4 rfl rfl)
theorem dX1_maySit_27 : decode cX1_maySit 27 = .ok (.iconst 0, 1) := dk_3 (dk_at dksX1_maySit_1 5 rfl rfl)
theorem dX1_maySit_28 : decode cX1_maySit 28 = .ok (.istore_n 3, 1) := dk_62 (dk_at dksX1_maySit_1 6 rfl rfl)
theorem dX1_maySit_29 : decode cX1_maySit 29 = .ok (.iload_n 3, 1) := dk_29 (dk_at dksX1_maySit_1 7 rfl rfl)
theorem dX1_maySit_30 : decode cX1_maySit 30 = .ok (.iload_n 1, 1) := dk_27 (dk_at dksX1_maySit_1 8 rfl rfl)
theorem dX1_maySit_31 : decode cX1_maySit 31 = .ok (.if_icmp .ge 63, 3) := dk_162 0 63 (dk_at dksX1_maySit_1 9 rfl rfl)
theorem dX1_maySit_34 : decode cX1_maySit 34 = .ok (.aload_n 0, 1) := dk_42 (dk_at dksX1_maySit_1 12 rfl rfl)
theorem dX1_maySit_35 : decode cX1_maySit 35 = .ok (.getfield 93, 3) := dk_180 0 93 (dk_at dksX1_maySit_1 13 rfl rfl)
theorem dX1_maySit_38 : decode cX1_maySit 38 = .ok (.iload_n 3, 1) := dk_29 (dk_at dksX1_maySit_1 16 rfl rfl)
theorem dX1_maySit_39 : decode cX1_maySit 39 = .ok (.iaload, 1) := dk_46 (dk_at dksX1_maySit_1 17 rfl rfl)
theorem dX1_maySit_40 : decode cX1_maySit 40 = .ok (.iload_n 2, 1) := dk_28 (dk_at dksX1_maySit_1 18 rfl rfl)
theorem dX1_maySit_41 : decode cX1_maySit 41 = .ok (.if_icmp .ne 47, 3) := dk_160 0 47 (dk_at dksX1_maySit_1 19 rfl rfl)
theorem dX1_maySit_44 : decode cX1_maySit 44 = .ok (.aload_n 0, 1) := dk_42 (dk_at dksX1_maySit_1 22 rfl rfl)
theorem dX1_maySit_45 : decode cX1_maySit 45 = .ok (.getfield 41, 3) := dk_180 0 41 (dk_at dksX1_maySit_2 0 rfl rfl)
theorem dX1_maySit_48 : decode cX1_maySit 48 = .ok (.iload_n 3, 1) := dk_29 (dk_at dksX1_maySit_2 3 rfl rfl)
theorem dX1_maySit_49 : decode cX1_maySit 49 = .ok (.iaload, 1) := dk_46 (dk_at dksX1_maySit_2 4 rfl rfl)
theorem dX1_maySit_50 : decode cX1_maySit 50 = .ok (.aload_n 0, 1) := dk_42 (dk_at dksX1_maySit_2 5 rfl rfl)
theorem dX1_maySit_51 : decode cX1_maySit 51 = .ok (.getfield 41, 3) := dk_180 0 41 (dk_at dksX1_maySit_2 6 rfl rfl)
theorem dX1_maySit_54 : decode cX1_maySit 54 = .ok (.iload_n 1, 1) := dk_27 (dk_at dksX1_maySit_2 9 rfl rfl)
theorem dX1_maySit_55 : decode cX1_maySit 55 = .ok (.iaload, 1) := dk_46 (dk_at dksX1_maySit_2 10 rfl rfl)
theorem dX1_maySit_56 : decode cX1_maySit 56 = .ok (.aload_n 0, 1) := dk_42 (dk_at dksX1_maySit_2 11 rfl rfl)
theorem dX1_maySit_57 : decode cX1_maySit 57 = .ok (.iload_n 1, 1) := dk_27 (dk_at dksX1_maySit_2 12 rfl rfl)
theorem dX1_maySit_58 : decode cX1_maySit 58 = .ok (.invokevirtual 159, 3) := dk_182 0 159 (dk_at dksX1_maySit_2 13 rfl rfl)
theorem dX1_maySit_61 : decode cX1_maySit 61 = .ok (.iadd, 1) := dk_96 (dk_at dksX1_maySit_2 16 rfl rfl)
theorem dX1_maySit_62 : decode cX1_maySit 62 = .ok (.if_icmp .ge 26, 3) := dk_162 0 26 (dk_at dksX1_maySit_2 17 rfl rfl)
theorem dX1_maySit_65 : decode cX1_maySit 65 = .ok (.aload_n 0, 1) := dk_42 (dk_at dksX1_maySit_2 20 rfl rfl)
theorem dX1_maySit_66 : decode cX1_maySit 66 = .ok (.getfield 41, 3) := dk_180 0 41 (dk_at dksX1_maySit_2 21 rfl rfl)
theorem dX1_maySit_69 : decode cX1_maySit 69 = .ok (.iload_n 1, 1) := dk_27 (dk_at dksX1_maySit_3 0 rfl rfl)
theorem dX1_maySit_70 : decode cX1_maySit 70 = .ok (.iaload, 1) := dk_46 (dk_at dksX1_maySit_3 1 rfl rfl)
theorem dX1_maySit_71 : decode cX1_maySit 71 = .ok (.aload_n 0, 1) := dk_42 (dk_at dksX1_maySit_3 2 rfl rfl)
theorem dX1_maySit_72 : decode cX1_maySit 72 = .ok (.getfield 41, 3) := dk_180 0 41 (dk_at dksX1_maySit_3 3 rfl rfl)
theorem dX1_maySit_75 : decode cX1_maySit 75 = .ok (.iload_n 3, 1) := dk_29 (dk_at dksX1_maySit_3 6 rfl rfl)
theorem dX1_maySit_76 : decode cX1_maySit 76 = .ok (.iaload, 1) := dk_46 (dk_at dksX1_maySit_3 7 rfl rfl)
theorem dX1_maySit_77 : decode cX1_maySit 77 = .ok (.aload_n 0, 1) := dk_42 (dk_at dksX1_maySit_3 8 rfl rfl)
theorem dX1_maySit_78 : decode cX1_maySit 78 = .ok (.iload_n 3, 1) := dk_29 (dk_at dksX1_maySit_3 9 rfl rfl)
theorem dX1_maySit_79 : decode cX1_maySit 79 = .ok (.invokevirtual 159, 3) := dk_182 0 159 (dk_at dksX1_maySit_3 10 rfl rfl)
theorem dX1_maySit_82 : decode cX1_maySit 82 = .ok (.iadd, 1) := dk_96 (dk_at dksX1_maySit_3 13 rfl rfl)
theorem dX1_maySit_83 : decode cX1_maySit 83 = .ok (.if_icmp .ge 5, 3) := dk_162 0 5 (dk_at dksX1_maySit_3 14 rfl rfl)
theorem dX1_maySit_86 : decode cX1_maySit 86 = .ok (.iconst 0, 1) := dk_3 (dk_at dksX1_maySit_3 17 rfl rfl)
theorem dX1_maySit_87 : decode cX1_maySit 87 = .ok (.ireturn, 1) := dk_172 (dk_at dksX1_maySit_3 18 rfl rfl)
theorem dX1_maySit_88 : decode cX1_maySit 88 = .ok (.iinc 3 1, 3) := dk_132 3 1 (dk_at dksX1_maySit_3 19 rfl rfl)
theorem dX1_maySit_91 : decode cX1_maySit 91 = .ok (.goto (-62), 3) := dk_167 255 194 (dk_at dksX1_maySit_4 0 rfl rfl)
theorem dX1_maySit_94 : decode cX1_maySit 94 = .ok (.iconst 1, 1) := dk_4 (dk_at dksX1_maySit_4 3 rfl rfl)
theorem dX1_maySit_95 : decode cX1_maySit 95 = .ok (.ireturn, 1) := dk_172 (dk_at dksX1_maySit_4 4 rfl rfl)
abbrev cX1_offer : ByteArray := prog_12_method_51_code
def yX1_offer : MethodName := ⟨RX1, "offer", "(I)V"⟩
def dkwX1_offer_4 : List UInt8 := [132, 3, 1, 167, 255, 218, 177]
abbrev dktX1_offer_4 : List UInt8 := dkwX1_offer_4 ++ []
def dkwX1_offer_3 : List UInt8 := [180, 0, 93, 29, 46, 42, 180, 0, 108, 160, 0, 8, 16, 247, 167, 0, 9, 42, 180, 0, 93, 29, 46, 79]
abbrev dktX1_offer_3 : List UInt8 := dkwX1_offer_3 ++ dktX1_offer_4
def dkwX1_offer_2 : List UInt8 := [180, 0, 248, 164, 0, 51, 42, 28, 181, 0, 248, 3, 62, 29, 27, 162, 0, 39, 42, 180, 0, 96, 29, 42]
abbrev dktX1_offer_2 : List UInt8 := dkwX1_offer_2 ++ dktX1_offer_3
def dkwX1_offer_1 : List UInt8 := [167, 0, 13, 42, 29, 42, 29, 182, 0, 159, 182, 0, 204, 96, 61, 132, 3, 1, 167, 255, 218, 28, 42]
abbrev dktX1_offer_1 : List UInt8 := dkwX1_offer_1 ++ dktX1_offer_2
def dkwX1_offer_0 : List UInt8 := [3, 61, 3, 62, 29, 27, 162, 0, 39, 28, 42, 180, 0, 93, 29, 46, 42, 180, 0, 108, 160, 0, 7, 3]
abbrev dktX1_offer_0 : List UInt8 := dkwX1_offer_0 ++ dktX1_offer_1
theorem dksX1_offer_0 : cX1_offer.data.toList.drop 0 = dktX1_offer_0 := by decide +kernel
theorem dksX1_offer_1 : cX1_offer.data.toList.drop 24 = dktX1_offer_1 := dk_seg dksX1_offer_0 24 rfl rfl
theorem dksX1_offer_2 : cX1_offer.data.toList.drop 47 = dktX1_offer_2 := dk_seg dksX1_offer_1 23 rfl rfl
theorem dksX1_offer_3 : cX1_offer.data.toList.drop 71 = dktX1_offer_3 := dk_seg dksX1_offer_2 24 rfl rfl
theorem dksX1_offer_4 : cX1_offer.data.toList.drop 95 = dktX1_offer_4 := dk_seg dksX1_offer_3 24 rfl rfl
theorem dX1_offer_0 : decode cX1_offer 0 = .ok (.iconst 0, 1) := dk_3 (dk_at dksX1_offer_0 0 rfl rfl)
theorem dX1_offer_1 : decode cX1_offer 1 = .ok (.istore_n 2, 1) := dk_61 (dk_at dksX1_offer_0 1 rfl rfl)
theorem dX1_offer_2 : decode cX1_offer 2 = .ok (.iconst 0, 1) := dk_3 (dk_at dksX1_offer_0 2 rfl rfl)
theorem dX1_offer_3 : decode cX1_offer 3 = .ok (.istore_n 3, 1) := dk_62 (dk_at dksX1_offer_0 3 rfl rfl)
theorem dX1_offer_4 : decode cX1_offer 4 = .ok (.iload_n 3, 1) := dk_29 (dk_at dksX1_offer_0 4 rfl rfl)
theorem dX1_offer_5 : decode cX1_offer 5 = .ok (.iload_n 1, 1) := dk_27 (dk_at dksX1_offer_0 5 rfl rfl)
theorem dX1_offer_6 : decode cX1_offer 6 = .ok (.if_icmp .ge 39, 3) := dk_162 0 39 (dk_at dksX1_offer_0 6 rfl rfl)
theorem dX1_offer_9 : decode cX1_offer 9 = .ok (.iload_n 2, 1) := dk_28 (dk_at dksX1_offer_0 9 rfl rfl)
theorem dX1_offer_10 : decode cX1_offer 10 = .ok (.aload_n 0, 1) := dk_42 (dk_at dksX1_offer_0 10 rfl rfl)
theorem dX1_offer_11 : decode cX1_offer 11 = .ok (.getfield 93, 3) := dk_180 0 93 (dk_at dksX1_offer_0 11 rfl rfl)
theorem dX1_offer_14 : decode cX1_offer 14 = .ok (.iload_n 3, 1) := dk_29 (dk_at dksX1_offer_0 14 rfl rfl)
theorem dX1_offer_15 : decode cX1_offer 15 = .ok (.iaload, 1) := dk_46 (dk_at dksX1_offer_0 15 rfl rfl)
theorem dX1_offer_16 : decode cX1_offer 16 = .ok (.aload_n 0, 1) := dk_42 (dk_at dksX1_offer_0 16 rfl rfl)
theorem dX1_offer_17 : decode cX1_offer 17 = .ok (.getfield 108, 3) := dk_180 0 108 (dk_at dksX1_offer_0 17 rfl rfl)
theorem dX1_offer_20 : decode cX1_offer 20 = .ok (.if_icmp .ne 7, 3) := dk_160 0 7 (dk_at dksX1_offer_0 20 rfl rfl)
theorem dX1_offer_23 : decode cX1_offer 23 = .ok (.iconst 0, 1) := dk_3 (dk_at dksX1_offer_0 23 rfl rfl)
theorem dX1_offer_24 : decode cX1_offer 24 = .ok (.goto 13, 3) := dk_167 0 13 (dk_at dksX1_offer_1 0 rfl rfl)
theorem dX1_offer_27 : decode cX1_offer 27 = .ok (.aload_n 0, 1) := dk_42 (dk_at dksX1_offer_1 3 rfl rfl)
theorem dX1_offer_28 : decode cX1_offer 28 = .ok (.iload_n 3, 1) := dk_29 (dk_at dksX1_offer_1 4 rfl rfl)
theorem dX1_offer_29 : decode cX1_offer 29 = .ok (.aload_n 0, 1) := dk_42 (dk_at dksX1_offer_1 5 rfl rfl)
theorem dX1_offer_30 : decode cX1_offer 30 = .ok (.iload_n 3, 1) := dk_29 (dk_at dksX1_offer_1 6 rfl rfl)
theorem dX1_offer_31 : decode cX1_offer 31 = .ok (.invokevirtual 159, 3) := dk_182 0 159 (dk_at dksX1_offer_1 7 rfl rfl)
theorem dX1_offer_34 : decode cX1_offer 34 = .ok (.invokevirtual 204, 3) := dk_182 0 204 (dk_at dksX1_offer_1 10 rfl rfl)
theorem dX1_offer_37 : decode cX1_offer 37 = .ok (.iadd, 1) := dk_96 (dk_at dksX1_offer_1 13 rfl rfl)
theorem dX1_offer_38 : decode cX1_offer 38 = .ok (.istore_n 2, 1) := dk_61 (dk_at dksX1_offer_1 14 rfl rfl)
theorem dX1_offer_39 : decode cX1_offer 39 = .ok (.iinc 3 1, 3) := dk_132 3 1 (dk_at dksX1_offer_1 15 rfl rfl)
theorem dX1_offer_42 : decode cX1_offer 42 = .ok (.goto (-38), 3) := dk_167 255 218 (dk_at dksX1_offer_1 18 rfl rfl)
theorem dX1_offer_45 : decode cX1_offer 45 = .ok (.iload_n 2, 1) := dk_28 (dk_at dksX1_offer_1 21 rfl rfl)
theorem dX1_offer_46 : decode cX1_offer 46 = .ok (.aload_n 0, 1) := dk_42 (dk_at dksX1_offer_1 22 rfl rfl)
theorem dX1_offer_47 : decode cX1_offer 47 = .ok (.getfield 248, 3) := dk_180 0 248 (dk_at dksX1_offer_2 0 rfl rfl)
theorem dX1_offer_50 : decode cX1_offer 50 = .ok (.if_icmp .le 51, 3) := dk_164 0 51 (dk_at dksX1_offer_2 3 rfl rfl)
theorem dX1_offer_53 : decode cX1_offer 53 = .ok (.aload_n 0, 1) := dk_42 (dk_at dksX1_offer_2 6 rfl rfl)
theorem dX1_offer_54 : decode cX1_offer 54 = .ok (.iload_n 2, 1) := dk_28 (dk_at dksX1_offer_2 7 rfl rfl)
theorem dX1_offer_55 : decode cX1_offer 55 = .ok (.putfield 248, 3) := dk_181 0 248 (dk_at dksX1_offer_2 8 rfl rfl)
theorem dX1_offer_58 : decode cX1_offer 58 = .ok (.iconst 0, 1) := dk_3 (dk_at dksX1_offer_2 11 rfl rfl)
theorem dX1_offer_59 : decode cX1_offer 59 = .ok (.istore_n 3, 1) := dk_62 (dk_at dksX1_offer_2 12 rfl rfl)
theorem dX1_offer_60 : decode cX1_offer 60 = .ok (.iload_n 3, 1) := dk_29 (dk_at dksX1_offer_2 13 rfl rfl)
theorem dX1_offer_61 : decode cX1_offer 61 = .ok (.iload_n 1, 1) := dk_27 (dk_at dksX1_offer_2 14 rfl rfl)
theorem dX1_offer_62 : decode cX1_offer 62 = .ok (.if_icmp .ge 39, 3) := dk_162 0 39 (dk_at dksX1_offer_2 15 rfl rfl)
theorem dX1_offer_65 : decode cX1_offer 65 = .ok (.aload_n 0, 1) := dk_42 (dk_at dksX1_offer_2 18 rfl rfl)
theorem dX1_offer_66 : decode cX1_offer 66 = .ok (.getfield 96, 3) := dk_180 0 96 (dk_at dksX1_offer_2 19 rfl rfl)
theorem dX1_offer_69 : decode cX1_offer 69 = .ok (.iload_n 3, 1) := dk_29 (dk_at dksX1_offer_2 22 rfl rfl)
theorem dX1_offer_70 : decode cX1_offer 70 = .ok (.aload_n 0, 1) := dk_42 (dk_at dksX1_offer_2 23 rfl rfl)
theorem dX1_offer_71 : decode cX1_offer 71 = .ok (.getfield 93, 3) := dk_180 0 93 (dk_at dksX1_offer_3 0 rfl rfl)
theorem dX1_offer_74 : decode cX1_offer 74 = .ok (.iload_n 3, 1) := dk_29 (dk_at dksX1_offer_3 3 rfl rfl)
theorem dX1_offer_75 : decode cX1_offer 75 = .ok (.iaload, 1) := dk_46 (dk_at dksX1_offer_3 4 rfl rfl)
theorem dX1_offer_76 : decode cX1_offer 76 = .ok (.aload_n 0, 1) := dk_42 (dk_at dksX1_offer_3 5 rfl rfl)
theorem dX1_offer_77 : decode cX1_offer 77 = .ok (.getfield 108, 3) := dk_180 0 108 (dk_at dksX1_offer_3 6 rfl rfl)
theorem dX1_offer_80 : decode cX1_offer 80 = .ok (.if_icmp .ne 8, 3) := dk_160 0 8 (dk_at dksX1_offer_3 9 rfl rfl)
theorem dX1_offer_83 : decode cX1_offer 83 = .ok (.bipush (-9), 2) := dk_16 247 (dk_at dksX1_offer_3 12 rfl rfl)
theorem dX1_offer_85 : decode cX1_offer 85 = .ok (.goto 9, 3) := dk_167 0 9 (dk_at dksX1_offer_3 14 rfl rfl)
theorem dX1_offer_88 : decode cX1_offer 88 = .ok (.aload_n 0, 1) := dk_42 (dk_at dksX1_offer_3 17 rfl rfl)
theorem dX1_offer_89 : decode cX1_offer 89 = .ok (.getfield 93, 3) := dk_180 0 93 (dk_at dksX1_offer_3 18 rfl rfl)
theorem dX1_offer_92 : decode cX1_offer 92 = .ok (.iload_n 3, 1) := dk_29 (dk_at dksX1_offer_3 21 rfl rfl)
theorem dX1_offer_93 : decode cX1_offer 93 = .ok (.iaload, 1) := dk_46 (dk_at dksX1_offer_3 22 rfl rfl)
theorem dX1_offer_94 : decode cX1_offer 94 = .ok (.iastore, 1) := dk_79 (dk_at dksX1_offer_3 23 rfl rfl)
theorem dX1_offer_95 : decode cX1_offer 95 = .ok (.iinc 3 1, 3) := dk_132 3 1 (dk_at dksX1_offer_4 0 rfl rfl)
theorem dX1_offer_98 : decode cX1_offer 98 = .ok (.goto (-38), 3) := dk_167 255 218 (dk_at dksX1_offer_4 3 rfl rfl)
theorem dX1_offer_101 : decode cX1_offer 101 = .ok (.return_, 1) := dk_177 (dk_at dksX1_offer_4 6 rfl rfl)
abbrev cX1_bestRule : ByteArray := prog_12_method_54_code
def yX1_bestRule : MethodName := ⟨RX1, "bestRule", "(I)I"⟩
def dkwX1_bestRule_3 : List UInt8 := [167, 0, 4, 29, 172]
abbrev dktX1_bestRule_3 : List UInt8 := dkwX1_bestRule_3 ++ []
def dkwX1_bestRule_2 : List UInt8 := [21, 5, 29, 164, 0, 9, 21, 5, 62, 21, 4, 61, 132, 4, 1, 167, 255, 223, 27, 154, 0, 7, 28]
abbrev dktX1_bestRule_2 : List UInt8 := dkwX1_bestRule_2 ++ dktX1_bestRule_3
def dkwX1_bestRule_1 : List UInt8 := [2, 62, 3, 54, 4, 21, 4, 6, 162, 0, 33, 42, 21, 4, 42, 180, 0, 141, 182, 1, 4, 54, 5]
abbrev dktX1_bestRule_1 : List UInt8 := dkwX1_bestRule_1 ++ dktX1_bestRule_2
def dkwX1_bestRule_0 : List UInt8 := [27, 3, 4, 184, 0, 104, 154, 0, 6, 16, 254, 172, 42, 182, 0, 152, 154, 0, 6, 16, 253, 172, 3, 61]
abbrev dktX1_bestRule_0 : List UInt8 := dkwX1_bestRule_0 ++ dktX1_bestRule_1
theorem dksX1_bestRule_0 : cX1_bestRule.data.toList.drop 0 = dktX1_bestRule_0 := by decide +kernel
theorem dksX1_bestRule_1 : cX1_bestRule.data.toList.drop 24 = dktX1_bestRule_1 := dk_seg dksX1_bestRule_0 24 rfl rfl
theorem dksX1_bestRule_2 : cX1_bestRule.data.toList.drop 47 = dktX1_bestRule_2 := dk_seg dksX1_bestRule_1 23 rfl rfl
theorem dksX1_bestRule_3 : cX1_bestRule.data.toList.drop 70 = dktX1_bestRule_3 := dk_seg dksX1_bestRule_2 23 rfl rfl
theorem dX1_bestRule_0 : decode cX1_bestRule 0 = .ok (.iload_n 1, 1) := dk_27 (dk_at dksX1_bestRule_0 0 rfl rfl)
theorem dX1_bestRule_1 : decode cX1_bestRule 1 = .ok (.iconst 0, 1) := dk_3 (dk_at dksX1_bestRule_0 1 rfl rfl)
theorem dX1_bestRule_2 : decode cX1_bestRule 2 = .ok (.iconst 1, 1) := dk_4 (dk_at dksX1_bestRule_0 2 rfl rfl)
theorem dX1_bestRule_3 : decode cX1_bestRule 3 = .ok (.invokestatic 104, 3) := dk_184 0 104 (dk_at dksX1_bestRule_0 3 rfl rfl)
theorem dX1_bestRule_6 : decode cX1_bestRule 6 = .ok (.ifCond .ne 6, 3) := dk_154 0 6 (dk_at dksX1_bestRule_0 6 rfl rfl)
theorem dX1_bestRule_9 : decode cX1_bestRule 9 = .ok (.bipush (-2), 2) := dk_16 254 (dk_at dksX1_bestRule_0 9 rfl rfl)
theorem dX1_bestRule_11 : decode cX1_bestRule 11 = .ok (.ireturn, 1) := dk_172 (dk_at dksX1_bestRule_0 11 rfl rfl)
theorem dX1_bestRule_12 : decode cX1_bestRule 12 = .ok (.aload_n 0, 1) := dk_42 (dk_at dksX1_bestRule_0 12 rfl rfl)
theorem dX1_bestRule_13 : decode cX1_bestRule 13 = .ok (.invokevirtual 152, 3) := dk_182 0 152 (dk_at dksX1_bestRule_0 13 rfl rfl)
theorem dX1_bestRule_16 : decode cX1_bestRule 16 = .ok (.ifCond .ne 6, 3) := dk_154 0 6 (dk_at dksX1_bestRule_0 16 rfl rfl)
theorem dX1_bestRule_19 : decode cX1_bestRule 19 = .ok (.bipush (-3), 2) := dk_16 253 (dk_at dksX1_bestRule_0 19 rfl rfl)
theorem dX1_bestRule_21 : decode cX1_bestRule 21 = .ok (.ireturn, 1) := dk_172 (dk_at dksX1_bestRule_0 21 rfl rfl)
theorem dX1_bestRule_22 : decode cX1_bestRule 22 = .ok (.iconst 0, 1) := dk_3 (dk_at dksX1_bestRule_0 22 rfl rfl)
theorem dX1_bestRule_23 : decode cX1_bestRule 23 = .ok (.istore_n 2, 1) := dk_61 (dk_at dksX1_bestRule_0 23 rfl rfl)
theorem dX1_bestRule_24 : decode cX1_bestRule 24 = .ok (.iconst (-1), 1) := dk_2 (dk_at dksX1_bestRule_1 0 rfl rfl)
theorem dX1_bestRule_25 : decode cX1_bestRule 25 = .ok (.istore_n 3, 1) := dk_62 (dk_at dksX1_bestRule_1 1 rfl rfl)
theorem dX1_bestRule_26 : decode cX1_bestRule 26 = .ok (.iconst 0, 1) := dk_3 (dk_at dksX1_bestRule_1 2 rfl rfl)
theorem dX1_bestRule_27 : decode cX1_bestRule 27 = .ok (.istore 4, 2) := dk_54 4 (dk_at dksX1_bestRule_1 3 rfl rfl)
theorem dX1_bestRule_29 : decode cX1_bestRule 29 = .ok (.iload 4, 2) := dk_21 4 (dk_at dksX1_bestRule_1 5 rfl rfl)
theorem dX1_bestRule_31 : decode cX1_bestRule 31 = .ok (.iconst 3, 1) := dk_6 (dk_at dksX1_bestRule_1 7 rfl rfl)
theorem dX1_bestRule_32 : decode cX1_bestRule 32 = .ok (.if_icmp .ge 33, 3) := dk_162 0 33 (dk_at dksX1_bestRule_1 8 rfl rfl)
theorem dX1_bestRule_35 : decode cX1_bestRule 35 = .ok (.aload_n 0, 1) := dk_42 (dk_at dksX1_bestRule_1 11 rfl rfl)
theorem dX1_bestRule_36 : decode cX1_bestRule 36 = .ok (.iload 4, 2) := dk_21 4 (dk_at dksX1_bestRule_1 12 rfl rfl)
theorem dX1_bestRule_38 : decode cX1_bestRule 38 = .ok (.aload_n 0, 1) := dk_42 (dk_at dksX1_bestRule_1 14 rfl rfl)
theorem dX1_bestRule_39 : decode cX1_bestRule 39 = .ok (.getfield 141, 3) := dk_180 0 141 (dk_at dksX1_bestRule_1 15 rfl rfl)
theorem dX1_bestRule_42 : decode cX1_bestRule 42 = .ok (.invokevirtual 260, 3) := dk_182 1 4 (dk_at dksX1_bestRule_1 18 rfl rfl)
theorem dX1_bestRule_45 : decode cX1_bestRule 45 = .ok (.istore 5, 2) := dk_54 5 (dk_at dksX1_bestRule_1 21 rfl rfl)
theorem dX1_bestRule_47 : decode cX1_bestRule 47 = .ok (.iload 5, 2) := dk_21 5 (dk_at dksX1_bestRule_2 0 rfl rfl)
theorem dX1_bestRule_49 : decode cX1_bestRule 49 = .ok (.iload_n 3, 1) := dk_29 (dk_at dksX1_bestRule_2 2 rfl rfl)
theorem dX1_bestRule_50 : decode cX1_bestRule 50 = .ok (.if_icmp .le 9, 3) := dk_164 0 9 (dk_at dksX1_bestRule_2 3 rfl rfl)
theorem dX1_bestRule_53 : decode cX1_bestRule 53 = .ok (.iload 5, 2) := dk_21 5 (dk_at dksX1_bestRule_2 6 rfl rfl)
theorem dX1_bestRule_55 : decode cX1_bestRule 55 = .ok (.istore_n 3, 1) := dk_62 (dk_at dksX1_bestRule_2 8 rfl rfl)
theorem dX1_bestRule_56 : decode cX1_bestRule 56 = .ok (.iload 4, 2) := dk_21 4 (dk_at dksX1_bestRule_2 9 rfl rfl)
theorem dX1_bestRule_58 : decode cX1_bestRule 58 = .ok (.istore_n 2, 1) := dk_61 (dk_at dksX1_bestRule_2 11 rfl rfl)
theorem dX1_bestRule_59 : decode cX1_bestRule 59 = .ok (.iinc 4 1, 3) := dk_132 4 1 (dk_at dksX1_bestRule_2 12 rfl rfl)
theorem dX1_bestRule_62 : decode cX1_bestRule 62 = .ok (.goto (-33), 3) := dk_167 255 223 (dk_at dksX1_bestRule_2 15 rfl rfl)
theorem dX1_bestRule_65 : decode cX1_bestRule 65 = .ok (.iload_n 1, 1) := dk_27 (dk_at dksX1_bestRule_2 18 rfl rfl)
theorem dX1_bestRule_66 : decode cX1_bestRule 66 = .ok (.ifCond .ne 7, 3) := dk_154 0 7 (dk_at dksX1_bestRule_2 19 rfl rfl)
theorem dX1_bestRule_69 : decode cX1_bestRule 69 = .ok (.iload_n 2, 1) := dk_28 (dk_at dksX1_bestRule_2 22 rfl rfl)
theorem dX1_bestRule_70 : decode cX1_bestRule 70 = .ok (.goto 4, 3) := dk_167 0 4 (dk_at dksX1_bestRule_3 0 rfl rfl)
theorem dX1_bestRule_73 : decode cX1_bestRule 73 = .ok (.iload_n 3, 1) := dk_29 (dk_at dksX1_bestRule_3 3 rfl rfl)
theorem dX1_bestRule_74 : decode cX1_bestRule 74 = .ok (.ireturn, 1) := dk_172 (dk_at dksX1_bestRule_3 4 rfl rfl)
abbrev cX1_coinBy : ByteArray := prog_12_method_53_code
def yX1_coinBy : MethodName := ⟨RX1, "coinBy", "(II)I"⟩
def dkwX1_coinBy_0 : List UInt8 := [42, 182, 0, 233, 42, 27, 181, 0, 165, 42, 28, 181, 0, 168, 42, 182, 0, 236, 42, 182, 0, 239, 172]
abbrev dktX1_coinBy_0 : List UInt8 := dkwX1_coinBy_0 ++ []
theorem dksX1_coinBy_0 : cX1_coinBy.data.toList.drop 0 = dktX1_coinBy_0 := by decide +kernel
theorem dX1_coinBy_0 : decode cX1_coinBy 0 = .ok (.aload_n 0, 1) := dk_42 (dk_at dksX1_coinBy_0 0 rfl rfl)
theorem dX1_coinBy_1 : decode cX1_coinBy 1 = .ok (.invokevirtual 233, 3) := dk_182 0 233 (dk_at dksX1_coinBy_0 1 rfl rfl)
theorem dX1_coinBy_4 : decode cX1_coinBy 4 = .ok (.aload_n 0, 1) := dk_42 (dk_at dksX1_coinBy_0 4 rfl rfl)
theorem dX1_coinBy_5 : decode cX1_coinBy 5 = .ok (.iload_n 1, 1) := dk_27 (dk_at dksX1_coinBy_0 5 rfl rfl)
theorem dX1_coinBy_6 : decode cX1_coinBy 6 = .ok (.putfield 165, 3) := dk_181 0 165 (dk_at dksX1_coinBy_0 6 rfl rfl)
theorem dX1_coinBy_9 : decode cX1_coinBy 9 = .ok (.aload_n 0, 1) := dk_42 (dk_at dksX1_coinBy_0 9 rfl rfl)
theorem dX1_coinBy_10 : decode cX1_coinBy 10 = .ok (.iload_n 2, 1) := dk_28 (dk_at dksX1_coinBy_0 10 rfl rfl)
theorem dX1_coinBy_11 : decode cX1_coinBy 11 = .ok (.putfield 168, 3) := dk_181 0 168 (dk_at dksX1_coinBy_0 11 rfl rfl)
theorem dX1_coinBy_14 : decode cX1_coinBy 14 = .ok (.aload_n 0, 1) := dk_42 (dk_at dksX1_coinBy_0 14 rfl rfl)
theorem dX1_coinBy_15 : decode cX1_coinBy 15 = .ok (.invokevirtual 236, 3) := dk_182 0 236 (dk_at dksX1_coinBy_0 15 rfl rfl)
theorem dX1_coinBy_18 : decode cX1_coinBy 18 = .ok (.aload_n 0, 1) := dk_42 (dk_at dksX1_coinBy_0 18 rfl rfl)
theorem dX1_coinBy_19 : decode cX1_coinBy 19 = .ok (.invokevirtual 239, 3) := dk_182 0 239 (dk_at dksX1_coinBy_0 19 rfl rfl)
theorem dX1_coinBy_22 : decode cX1_coinBy 22 = .ok (.ireturn, 1) := dk_172 (dk_at dksX1_coinBy_0 22 rfl rfl)
abbrev cX1_waiting : ByteArray := prog_12_method_55_code
def yX1_waiting : MethodName := ⟨RX1, "waiting", "(I)I"⟩
def dkwX1_waiting_3 : List UInt8 := [167, 0, 4, 29, 172]
abbrev dktX1_waiting_3 : List UInt8 := dkwX1_waiting_3 ++ []
def dkwX1_waiting_2 : List UInt8 := [21, 5, 29, 164, 0, 9, 21, 5, 62, 21, 4, 61, 132, 4, 1, 167, 255, 222, 27, 154, 0, 7, 28]
abbrev dktX1_waiting_2 : List UInt8 := dkwX1_waiting_2 ++ dktX1_waiting_3
def dkwX1_waiting_1 : List UInt8 := [2, 62, 3, 54, 4, 21, 4, 16, 30, 163, 0, 33, 42, 42, 180, 0, 138, 21, 4, 182, 1, 4, 54, 5]
abbrev dktX1_waiting_1 : List UInt8 := dkwX1_waiting_1 ++ dktX1_waiting_2
def dkwX1_waiting_0 : List UInt8 := [27, 3, 4, 184, 0, 104, 154, 0, 6, 16, 254, 172, 42, 182, 0, 152, 154, 0, 6, 16, 253, 172, 3, 61]
abbrev dktX1_waiting_0 : List UInt8 := dkwX1_waiting_0 ++ dktX1_waiting_1
theorem dksX1_waiting_0 : cX1_waiting.data.toList.drop 0 = dktX1_waiting_0 := by decide +kernel
theorem dksX1_waiting_1 : cX1_waiting.data.toList.drop 24 = dktX1_waiting_1 := dk_seg dksX1_waiting_0 24 rfl rfl
theorem dksX1_waiting_2 : cX1_waiting.data.toList.drop 48 = dktX1_waiting_2 := dk_seg dksX1_waiting_1 24 rfl rfl
theorem dksX1_waiting_3 : cX1_waiting.data.toList.drop 71 = dktX1_waiting_3 := dk_seg dksX1_waiting_2 23 rfl rfl
theorem dX1_waiting_0 : decode cX1_waiting 0 = .ok (.iload_n 1, 1) := dk_27 (dk_at dksX1_waiting_0 0 rfl rfl)
theorem dX1_waiting_1 : decode cX1_waiting 1 = .ok (.iconst 0, 1) := dk_3 (dk_at dksX1_waiting_0 1 rfl rfl)
theorem dX1_waiting_2 : decode cX1_waiting 2 = .ok (.iconst 1, 1) := dk_4 (dk_at dksX1_waiting_0 2 rfl rfl)
theorem dX1_waiting_3 : decode cX1_waiting 3 = .ok (.invokestatic 104, 3) := dk_184 0 104 (dk_at dksX1_waiting_0 3 rfl rfl)
theorem dX1_waiting_6 : decode cX1_waiting 6 = .ok (.ifCond .ne 6, 3) := dk_154 0 6 (dk_at dksX1_waiting_0 6 rfl rfl)
theorem dX1_waiting_9 : decode cX1_waiting 9 = .ok (.bipush (-2), 2) := dk_16 254 (dk_at dksX1_waiting_0 9 rfl rfl)
theorem dX1_waiting_11 : decode cX1_waiting 11 = .ok (.ireturn, 1) := dk_172 (dk_at dksX1_waiting_0 11 rfl rfl)
theorem dX1_waiting_12 : decode cX1_waiting 12 = .ok (.aload_n 0, 1) := dk_42 (dk_at dksX1_waiting_0 12 rfl rfl)
theorem dX1_waiting_13 : decode cX1_waiting 13 = .ok (.invokevirtual 152, 3) := dk_182 0 152 (dk_at dksX1_waiting_0 13 rfl rfl)
theorem dX1_waiting_16 : decode cX1_waiting 16 = .ok (.ifCond .ne 6, 3) := dk_154 0 6 (dk_at dksX1_waiting_0 16 rfl rfl)
theorem dX1_waiting_19 : decode cX1_waiting 19 = .ok (.bipush (-3), 2) := dk_16 253 (dk_at dksX1_waiting_0 19 rfl rfl)
theorem dX1_waiting_21 : decode cX1_waiting 21 = .ok (.ireturn, 1) := dk_172 (dk_at dksX1_waiting_0 21 rfl rfl)
theorem dX1_waiting_22 : decode cX1_waiting 22 = .ok (.iconst 0, 1) := dk_3 (dk_at dksX1_waiting_0 22 rfl rfl)
theorem dX1_waiting_23 : decode cX1_waiting 23 = .ok (.istore_n 2, 1) := dk_61 (dk_at dksX1_waiting_0 23 rfl rfl)
theorem dX1_waiting_24 : decode cX1_waiting 24 = .ok (.iconst (-1), 1) := dk_2 (dk_at dksX1_waiting_1 0 rfl rfl)
theorem dX1_waiting_25 : decode cX1_waiting 25 = .ok (.istore_n 3, 1) := dk_62 (dk_at dksX1_waiting_1 1 rfl rfl)
theorem dX1_waiting_26 : decode cX1_waiting 26 = .ok (.iconst 0, 1) := dk_3 (dk_at dksX1_waiting_1 2 rfl rfl)
theorem dX1_waiting_27 : decode cX1_waiting 27 = .ok (.istore 4, 2) := dk_54 4 (dk_at dksX1_waiting_1 3 rfl rfl)
theorem dX1_waiting_29 : decode cX1_waiting 29 = .ok (.iload 4, 2) := dk_21 4 (dk_at dksX1_waiting_1 5 rfl rfl)
theorem dX1_waiting_31 : decode cX1_waiting 31 = .ok (.bipush 30, 2) := dk_16 30 (dk_at dksX1_waiting_1 7 rfl rfl)
theorem dX1_waiting_33 : decode cX1_waiting 33 = .ok (.if_icmp .gt 33, 3) := dk_163 0 33 (dk_at dksX1_waiting_1 9 rfl rfl)
theorem dX1_waiting_36 : decode cX1_waiting 36 = .ok (.aload_n 0, 1) := dk_42 (dk_at dksX1_waiting_1 12 rfl rfl)
theorem dX1_waiting_37 : decode cX1_waiting 37 = .ok (.aload_n 0, 1) := dk_42 (dk_at dksX1_waiting_1 13 rfl rfl)
theorem dX1_waiting_38 : decode cX1_waiting 38 = .ok (.getfield 138, 3) := dk_180 0 138 (dk_at dksX1_waiting_1 14 rfl rfl)
theorem dX1_waiting_41 : decode cX1_waiting 41 = .ok (.iload 4, 2) := dk_21 4 (dk_at dksX1_waiting_1 17 rfl rfl)
theorem dX1_waiting_43 : decode cX1_waiting 43 = .ok (.invokevirtual 260, 3) := dk_182 1 4 (dk_at dksX1_waiting_1 19 rfl rfl)
theorem dX1_waiting_46 : decode cX1_waiting 46 = .ok (.istore 5, 2) := dk_54 5 (dk_at dksX1_waiting_1 22 rfl rfl)
theorem dX1_waiting_48 : decode cX1_waiting 48 = .ok (.iload 5, 2) := dk_21 5 (dk_at dksX1_waiting_2 0 rfl rfl)
theorem dX1_waiting_50 : decode cX1_waiting 50 = .ok (.iload_n 3, 1) := dk_29 (dk_at dksX1_waiting_2 2 rfl rfl)
theorem dX1_waiting_51 : decode cX1_waiting 51 = .ok (.if_icmp .le 9, 3) := dk_164 0 9 (dk_at dksX1_waiting_2 3 rfl rfl)
theorem dX1_waiting_54 : decode cX1_waiting 54 = .ok (.iload 5, 2) := dk_21 5 (dk_at dksX1_waiting_2 6 rfl rfl)
theorem dX1_waiting_56 : decode cX1_waiting 56 = .ok (.istore_n 3, 1) := dk_62 (dk_at dksX1_waiting_2 8 rfl rfl)
theorem dX1_waiting_57 : decode cX1_waiting 57 = .ok (.iload 4, 2) := dk_21 4 (dk_at dksX1_waiting_2 9 rfl rfl)
theorem dX1_waiting_59 : decode cX1_waiting 59 = .ok (.istore_n 2, 1) := dk_61 (dk_at dksX1_waiting_2 11 rfl rfl)
theorem dX1_waiting_60 : decode cX1_waiting 60 = .ok (.iinc 4 1, 3) := dk_132 4 1 (dk_at dksX1_waiting_2 12 rfl rfl)
theorem dX1_waiting_63 : decode cX1_waiting 63 = .ok (.goto (-34), 3) := dk_167 255 222 (dk_at dksX1_waiting_2 15 rfl rfl)
theorem dX1_waiting_66 : decode cX1_waiting 66 = .ok (.iload_n 1, 1) := dk_27 (dk_at dksX1_waiting_2 18 rfl rfl)
theorem dX1_waiting_67 : decode cX1_waiting 67 = .ok (.ifCond .ne 7, 3) := dk_154 0 7 (dk_at dksX1_waiting_2 19 rfl rfl)
theorem dX1_waiting_70 : decode cX1_waiting 70 = .ok (.iload_n 2, 1) := dk_28 (dk_at dksX1_waiting_2 22 rfl rfl)
theorem dX1_waiting_71 : decode cX1_waiting 71 = .ok (.goto 4, 3) := dk_167 0 4 (dk_at dksX1_waiting_3 0 rfl rfl)
theorem dX1_waiting_74 : decode cX1_waiting 74 = .ok (.iload_n 3, 1) := dk_29 (dk_at dksX1_waiting_3 3 rfl rfl)
theorem dX1_waiting_75 : decode cX1_waiting 75 = .ok (.ireturn, 1) := dk_172 (dk_at dksX1_waiting_3 4 rfl rfl)
abbrev cX1_mix : ByteArray := prog_12_method_56_code
def yX1_mix : MethodName := ⟨RX1, "mix", "(II)I"⟩
def dkwX1_mix_8 : List UInt8 := [172]
abbrev dktX1_mix_8 : List UInt8 := dkwX1_mix_8 ++ []
def dkwX1_mix_7 : List UInt8 := [167, 0, 24, 28, 5, 160, 0, 14, 21, 4, 16, 7, 108, 16, 7, 112, 167, 0, 8, 21, 4, 16, 7, 112]
abbrev dktX1_mix_7 : List UInt8 := dkwX1_mix_7 ++ dktX1_mix_8
def dkwX1_mix_6 : List UInt8 := [132, 5, 1, 167, 255, 154, 28, 154, 0, 7, 29, 167, 0, 37, 28, 4, 160, 0, 11, 21, 4, 16, 49, 108]
abbrev dktX1_mix_6 : List UInt8 := dkwX1_mix_6 ++ dktX1_mix_7
def dkwX1_mix_5 : List UInt8 := [182, 1, 7, 42, 182, 0, 236, 42, 182, 0, 239, 29, 164, 0, 12, 42, 182, 0, 239, 62, 21, 5, 54, 4]
abbrev dktX1_mix_5 : List UInt8 := dkwX1_mix_5 ++ dktX1_mix_6
def dkwX1_mix_4 : List UInt8 := [96, 16, 6, 21, 8, 104, 96, 27, 163, 0, 38, 42, 182, 0, 233, 42, 21, 6, 21, 7, 21, 8]
abbrev dktX1_mix_4 : List UInt8 := dkwX1_mix_4 ++ dktX1_mix_5
def dkwX1_mix_3 : List UInt8 := [112, 54, 8, 21, 6, 21, 7, 96, 21, 8, 96, 16, 6, 163, 0, 57, 5, 21, 6, 104, 7, 21, 7, 104]
abbrev dktX1_mix_3 : List UInt8 := dkwX1_mix_3 ++ dktX1_mix_4
def dkwX1_mix_2 : List UInt8 := [162, 0, 100, 21, 5, 16, 49, 108, 54, 6, 21, 5, 16, 7, 108, 16, 7, 112, 54, 7, 21, 5, 16, 7]
abbrev dktX1_mix_2 : List UInt8 := dkwX1_mix_2 ++ dktX1_mix_3
def dkwX1_mix_1 : List UInt8 := [182, 0, 152, 154, 0, 6, 16, 253, 172, 2, 62, 3, 54, 4, 3, 54, 5, 21, 5, 17, 1, 87]
abbrev dktX1_mix_1 : List UInt8 := dkwX1_mix_1 ++ dktX1_mix_2
def dkwX1_mix_0 : List UInt8 := [27, 5, 16, 24, 184, 0, 104, 153, 0, 12, 28, 3, 6, 184, 0, 104, 154, 0, 6, 16, 254, 172, 42]
abbrev dktX1_mix_0 : List UInt8 := dkwX1_mix_0 ++ dktX1_mix_1
theorem dksX1_mix_0 : cX1_mix.data.toList.drop 0 = dktX1_mix_0 := by decide +kernel
theorem dksX1_mix_1 : cX1_mix.data.toList.drop 23 = dktX1_mix_1 := dk_seg dksX1_mix_0 23 rfl rfl
theorem dksX1_mix_2 : cX1_mix.data.toList.drop 45 = dktX1_mix_2 := dk_seg dksX1_mix_1 22 rfl rfl
theorem dksX1_mix_3 : cX1_mix.data.toList.drop 69 = dktX1_mix_3 := dk_seg dksX1_mix_2 24 rfl rfl
theorem dksX1_mix_4 : cX1_mix.data.toList.drop 93 = dktX1_mix_4 := dk_seg dksX1_mix_3 24 rfl rfl
theorem dksX1_mix_5 : cX1_mix.data.toList.drop 115 = dktX1_mix_5 := dk_seg dksX1_mix_4 22 rfl rfl
theorem dksX1_mix_6 : cX1_mix.data.toList.drop 139 = dktX1_mix_6 := dk_seg dksX1_mix_5 24 rfl rfl
theorem dksX1_mix_7 : cX1_mix.data.toList.drop 163 = dktX1_mix_7 := dk_seg dksX1_mix_6 24 rfl rfl
theorem dksX1_mix_8 : cX1_mix.data.toList.drop 187 = dktX1_mix_8 := dk_seg dksX1_mix_7 24 rfl rfl
theorem dX1_mix_0 : decode cX1_mix 0 = .ok (.iload_n 1, 1) := dk_27 (dk_at dksX1_mix_0 0 rfl rfl)
theorem dX1_mix_1 : decode cX1_mix 1 = .ok (.iconst 2, 1) := dk_5 (dk_at dksX1_mix_0 1 rfl rfl)
theorem dX1_mix_2 : decode cX1_mix 2 = .ok (.bipush 24, 2) := dk_16 24 (dk_at dksX1_mix_0 2 rfl rfl)
theorem dX1_mix_4 : decode cX1_mix 4 = .ok (.invokestatic 104, 3) := dk_184 0 104 (dk_at dksX1_mix_0 4 rfl rfl)
theorem dX1_mix_7 : decode cX1_mix 7 = .ok (.ifCond .eq 12, 3) := dk_153 0 12 (dk_at dksX1_mix_0 7 rfl rfl)
theorem dX1_mix_10 : decode cX1_mix 10 = .ok (.iload_n 2, 1) := dk_28 (dk_at dksX1_mix_0 10 rfl rfl)
theorem dX1_mix_11 : decode cX1_mix 11 = .ok (.iconst 0, 1) := dk_3 (dk_at dksX1_mix_0 11 rfl rfl)
theorem dX1_mix_12 : decode cX1_mix 12 = .ok (.iconst 3, 1) := dk_6 (dk_at dksX1_mix_0 12 rfl rfl)
theorem dX1_mix_13 : decode cX1_mix 13 = .ok (.invokestatic 104, 3) := dk_184 0 104 (dk_at dksX1_mix_0 13 rfl rfl)
theorem dX1_mix_16 : decode cX1_mix 16 = .ok (.ifCond .ne 6, 3) := dk_154 0 6 (dk_at dksX1_mix_0 16 rfl rfl)
theorem dX1_mix_19 : decode cX1_mix 19 = .ok (.bipush (-2), 2) := dk_16 254 (dk_at dksX1_mix_0 19 rfl rfl)
theorem dX1_mix_21 : decode cX1_mix 21 = .ok (.ireturn, 1) := dk_172 (dk_at dksX1_mix_0 21 rfl rfl)
theorem dX1_mix_22 : decode cX1_mix 22 = .ok (.aload_n 0, 1) := dk_42 (dk_at dksX1_mix_0 22 rfl rfl)
theorem dX1_mix_23 : decode cX1_mix 23 = .ok (.invokevirtual 152, 3) := dk_182 0 152 (dk_at dksX1_mix_1 0 rfl rfl)
theorem dX1_mix_26 : decode cX1_mix 26 = .ok (.ifCond .ne 6, 3) := dk_154 0 6 (dk_at dksX1_mix_1 3 rfl rfl)
theorem dX1_mix_29 : decode cX1_mix 29 = .ok (.bipush (-3), 2) := dk_16 253 (dk_at dksX1_mix_1 6 rfl rfl)
theorem dX1_mix_31 : decode cX1_mix 31 = .ok (.ireturn, 1) := dk_172 (dk_at dksX1_mix_1 8 rfl rfl)
theorem dX1_mix_32 : decode cX1_mix 32 = .ok (.iconst (-1), 1) := dk_2 (dk_at dksX1_mix_1 9 rfl rfl)
theorem dX1_mix_33 : decode cX1_mix 33 = .ok (.istore_n 3, 1) := dk_62 (dk_at dksX1_mix_1 10 rfl rfl)
theorem dX1_mix_34 : decode cX1_mix 34 = .ok (.iconst 0, 1) := dk_3 (dk_at dksX1_mix_1 11 rfl rfl)
theorem dX1_mix_35 : decode cX1_mix 35 = .ok (.istore 4, 2) := dk_54 4 (dk_at dksX1_mix_1 12 rfl rfl)
theorem dX1_mix_37 : decode cX1_mix 37 = .ok (.iconst 0, 1) := dk_3 (dk_at dksX1_mix_1 14 rfl rfl)
theorem dX1_mix_38 : decode cX1_mix 38 = .ok (.istore 5, 2) := dk_54 5 (dk_at dksX1_mix_1 15 rfl rfl)
theorem dX1_mix_40 : decode cX1_mix 40 = .ok (.iload 5, 2) := dk_21 5 (dk_at dksX1_mix_1 17 rfl rfl)
theorem dX1_mix_42 : decode cX1_mix 42 = .ok (.sipush 343, 3) := dk_17 1 87 (dk_at dksX1_mix_1 19 rfl rfl)
theorem dX1_mix_45 : decode cX1_mix 45 = .ok (.if_icmp .ge 100, 3) := dk_162 0 100 (dk_at dksX1_mix_2 0 rfl rfl)
theorem dX1_mix_48 : decode cX1_mix 48 = .ok (.iload 5, 2) := dk_21 5 (dk_at dksX1_mix_2 3 rfl rfl)
theorem dX1_mix_50 : decode cX1_mix 50 = .ok (.bipush 49, 2) := dk_16 49 (dk_at dksX1_mix_2 5 rfl rfl)
theorem dX1_mix_52 : decode cX1_mix 52 = .ok (.idiv, 1) := dk_108 (dk_at dksX1_mix_2 7 rfl rfl)
theorem dX1_mix_53 : decode cX1_mix 53 = .ok (.istore 6, 2) := dk_54 6 (dk_at dksX1_mix_2 8 rfl rfl)
theorem dX1_mix_55 : decode cX1_mix 55 = .ok (.iload 5, 2) := dk_21 5 (dk_at dksX1_mix_2 10 rfl rfl)
theorem dX1_mix_57 : decode cX1_mix 57 = .ok (.bipush 7, 2) := dk_16 7 (dk_at dksX1_mix_2 12 rfl rfl)
theorem dX1_mix_59 : decode cX1_mix 59 = .ok (.idiv, 1) := dk_108 (dk_at dksX1_mix_2 14 rfl rfl)
theorem dX1_mix_60 : decode cX1_mix 60 = .ok (.bipush 7, 2) := dk_16 7 (dk_at dksX1_mix_2 15 rfl rfl)
theorem dX1_mix_62 : decode cX1_mix 62 = .ok (.irem, 1) := dk_112 (dk_at dksX1_mix_2 17 rfl rfl)
theorem dX1_mix_63 : decode cX1_mix 63 = .ok (.istore 7, 2) := dk_54 7 (dk_at dksX1_mix_2 18 rfl rfl)
theorem dX1_mix_65 : decode cX1_mix 65 = .ok (.iload 5, 2) := dk_21 5 (dk_at dksX1_mix_2 20 rfl rfl)
theorem dX1_mix_67 : decode cX1_mix 67 = .ok (.bipush 7, 2) := dk_16 7 (dk_at dksX1_mix_2 22 rfl rfl)
theorem dX1_mix_69 : decode cX1_mix 69 = .ok (.irem, 1) := dk_112 (dk_at dksX1_mix_3 0 rfl rfl)
theorem dX1_mix_70 : decode cX1_mix 70 = .ok (.istore 8, 2) := dk_54 8 (dk_at dksX1_mix_3 1 rfl rfl)
theorem dX1_mix_72 : decode cX1_mix 72 = .ok (.iload 6, 2) := dk_21 6 (dk_at dksX1_mix_3 3 rfl rfl)
theorem dX1_mix_74 : decode cX1_mix 74 = .ok (.iload 7, 2) := dk_21 7 (dk_at dksX1_mix_3 5 rfl rfl)
theorem dX1_mix_76 : decode cX1_mix 76 = .ok (.iadd, 1) := dk_96 (dk_at dksX1_mix_3 7 rfl rfl)
theorem dX1_mix_77 : decode cX1_mix 77 = .ok (.iload 8, 2) := dk_21 8 (dk_at dksX1_mix_3 8 rfl rfl)
theorem dX1_mix_79 : decode cX1_mix 79 = .ok (.iadd, 1) := dk_96 (dk_at dksX1_mix_3 10 rfl rfl)
theorem dX1_mix_80 : decode cX1_mix 80 = .ok (.bipush 6, 2) := dk_16 6 (dk_at dksX1_mix_3 11 rfl rfl)
theorem dX1_mix_82 : decode cX1_mix 82 = .ok (.if_icmp .gt 57, 3) := dk_163 0 57 (dk_at dksX1_mix_3 13 rfl rfl)
theorem dX1_mix_85 : decode cX1_mix 85 = .ok (.iconst 2, 1) := dk_5 (dk_at dksX1_mix_3 16 rfl rfl)
theorem dX1_mix_86 : decode cX1_mix 86 = .ok (.iload 6, 2) := dk_21 6 (dk_at dksX1_mix_3 17 rfl rfl)
theorem dX1_mix_88 : decode cX1_mix 88 = .ok (.imul, 1) := dk_104 (dk_at dksX1_mix_3 19 rfl rfl)
theorem dX1_mix_89 : decode cX1_mix 89 = .ok (.iconst 4, 1) := dk_7 (dk_at dksX1_mix_3 20 rfl rfl)
theorem dX1_mix_90 : decode cX1_mix 90 = .ok (.iload 7, 2) := dk_21 7 (dk_at dksX1_mix_3 21 rfl rfl)
theorem dX1_mix_92 : decode cX1_mix 92 = .ok (.imul, 1) := dk_104 (dk_at dksX1_mix_3 23 rfl rfl)
theorem dX1_mix_93 : decode cX1_mix 93 = .ok (.iadd, 1) := dk_96 (dk_at dksX1_mix_4 0 rfl rfl)
theorem dX1_mix_94 : decode cX1_mix 94 = .ok (.bipush 6, 2) := dk_16 6 (dk_at dksX1_mix_4 1 rfl rfl)
theorem dX1_mix_96 : decode cX1_mix 96 = .ok (.iload 8, 2) := dk_21 8 (dk_at dksX1_mix_4 3 rfl rfl)
theorem dX1_mix_98 : decode cX1_mix 98 = .ok (.imul, 1) := dk_104 (dk_at dksX1_mix_4 5 rfl rfl)
theorem dX1_mix_99 : decode cX1_mix 99 = .ok (.iadd, 1) := dk_96 (dk_at dksX1_mix_4 6 rfl rfl)
theorem dX1_mix_100 : decode cX1_mix 100 = .ok (.iload_n 1, 1) := dk_27 (dk_at dksX1_mix_4 7 rfl rfl)
theorem dX1_mix_101 : decode cX1_mix 101 = .ok (.if_icmp .gt 38, 3) := dk_163 0 38 (dk_at dksX1_mix_4 8 rfl rfl)
theorem dX1_mix_104 : decode cX1_mix 104 = .ok (.aload_n 0, 1) := dk_42 (dk_at dksX1_mix_4 11 rfl rfl)
theorem dX1_mix_105 : decode cX1_mix 105 = .ok (.invokevirtual 233, 3) := dk_182 0 233 (dk_at dksX1_mix_4 12 rfl rfl)
theorem dX1_mix_108 : decode cX1_mix 108 = .ok (.aload_n 0, 1) := dk_42 (dk_at dksX1_mix_4 15 rfl rfl)
theorem dX1_mix_109 : decode cX1_mix 109 = .ok (.iload 6, 2) := dk_21 6 (dk_at dksX1_mix_4 16 rfl rfl)
theorem dX1_mix_111 : decode cX1_mix 111 = .ok (.iload 7, 2) := dk_21 7 (dk_at dksX1_mix_4 18 rfl rfl)
theorem dX1_mix_113 : decode cX1_mix 113 = .ok (.iload 8, 2) := dk_21 8 (dk_at dksX1_mix_4 20 rfl rfl)
theorem dX1_mix_115 : decode cX1_mix 115 = .ok (.invokevirtual 263, 3) := dk_182 1 7 (dk_at dksX1_mix_5 0 rfl rfl)
theorem dX1_mix_118 : decode cX1_mix 118 = .ok (.aload_n 0, 1) := dk_42 (dk_at dksX1_mix_5 3 rfl rfl)
theorem dX1_mix_119 : decode cX1_mix 119 = .ok (.invokevirtual 236, 3) := dk_182 0 236 (dk_at dksX1_mix_5 4 rfl rfl)
theorem dX1_mix_122 : decode cX1_mix 122 = .ok (.aload_n 0, 1) := dk_42 (dk_at dksX1_mix_5 7 rfl rfl)
theorem dX1_mix_123 : decode cX1_mix 123 = .ok (.invokevirtual 239, 3) := dk_182 0 239 (dk_at dksX1_mix_5 8 rfl rfl)
theorem dX1_mix_126 : decode cX1_mix 126 = .ok (.iload_n 3, 1) := dk_29 (dk_at dksX1_mix_5 11 rfl rfl)
theorem dX1_mix_127 : decode cX1_mix 127 = .ok (.if_icmp .le 12, 3) := dk_164 0 12 (dk_at dksX1_mix_5 12 rfl rfl)
theorem dX1_mix_130 : decode cX1_mix 130 = .ok (.aload_n 0, 1) := dk_42 (dk_at dksX1_mix_5 15 rfl rfl)
theorem dX1_mix_131 : decode cX1_mix 131 = .ok (.invokevirtual 239, 3) := dk_182 0 239 (dk_at dksX1_mix_5 16 rfl rfl)
theorem dX1_mix_134 : decode cX1_mix 134 = .ok (.istore_n 3, 1) := dk_62 (dk_at dksX1_mix_5 19 rfl rfl)
theorem dX1_mix_135 : decode cX1_mix 135 = .ok (.iload 5, 2) := dk_21 5 (dk_at dksX1_mix_5 20 rfl rfl)
theorem dX1_mix_137 : decode cX1_mix 137 = .ok (.istore 4, 2) := dk_54 4 (dk_at dksX1_mix_5 22 rfl rfl)
theorem dX1_mix_139 : decode cX1_mix 139 = .ok (.iinc 5 1, 3) := dk_132 5 1 (dk_at dksX1_mix_6 0 rfl rfl)
theorem dX1_mix_142 : decode cX1_mix 142 = .ok (.goto (-102), 3) := dk_167 255 154 (dk_at dksX1_mix_6 3 rfl rfl)
theorem dX1_mix_145 : decode cX1_mix 145 = .ok (.iload_n 2, 1) := dk_28 (dk_at dksX1_mix_6 6 rfl rfl)
theorem dX1_mix_146 : decode cX1_mix 146 = .ok (.ifCond .ne 7, 3) := dk_154 0 7 (dk_at dksX1_mix_6 7 rfl rfl)
theorem dX1_mix_149 : decode cX1_mix 149 = .ok (.iload_n 3, 1) := dk_29 (dk_at dksX1_mix_6 10 rfl rfl)
theorem dX1_mix_150 : decode cX1_mix 150 = .ok (.goto 37, 3) := dk_167 0 37 (dk_at dksX1_mix_6 11 rfl rfl)
theorem dX1_mix_153 : decode cX1_mix 153 = .ok (.iload_n 2, 1) := dk_28 (dk_at dksX1_mix_6 14 rfl rfl)
theorem dX1_mix_154 : decode cX1_mix 154 = .ok (.iconst 1, 1) := dk_4 (dk_at dksX1_mix_6 15 rfl rfl)
theorem dX1_mix_155 : decode cX1_mix 155 = .ok (.if_icmp .ne 11, 3) := dk_160 0 11 (dk_at dksX1_mix_6 16 rfl rfl)
theorem dX1_mix_158 : decode cX1_mix 158 = .ok (.iload 4, 2) := dk_21 4 (dk_at dksX1_mix_6 19 rfl rfl)
theorem dX1_mix_160 : decode cX1_mix 160 = .ok (.bipush 49, 2) := dk_16 49 (dk_at dksX1_mix_6 21 rfl rfl)
theorem dX1_mix_162 : decode cX1_mix 162 = .ok (.idiv, 1) := dk_108 (dk_at dksX1_mix_6 23 rfl rfl)
theorem dX1_mix_163 : decode cX1_mix 163 = .ok (.goto 24, 3) := dk_167 0 24 (dk_at dksX1_mix_7 0 rfl rfl)
theorem dX1_mix_166 : decode cX1_mix 166 = .ok (.iload_n 2, 1) := dk_28 (dk_at dksX1_mix_7 3 rfl rfl)
theorem dX1_mix_167 : decode cX1_mix 167 = .ok (.iconst 2, 1) := dk_5 (dk_at dksX1_mix_7 4 rfl rfl)
theorem dX1_mix_168 : decode cX1_mix 168 = .ok (.if_icmp .ne 14, 3) := dk_160 0 14 (dk_at dksX1_mix_7 5 rfl rfl)
theorem dX1_mix_171 : decode cX1_mix 171 = .ok (.iload 4, 2) := dk_21 4 (dk_at dksX1_mix_7 8 rfl rfl)
theorem dX1_mix_173 : decode cX1_mix 173 = .ok (.bipush 7, 2) := dk_16 7 (dk_at dksX1_mix_7 10 rfl rfl)
theorem dX1_mix_175 : decode cX1_mix 175 = .ok (.idiv, 1) := dk_108 (dk_at dksX1_mix_7 12 rfl rfl)
theorem dX1_mix_176 : decode cX1_mix 176 = .ok (.bipush 7, 2) := dk_16 7 (dk_at dksX1_mix_7 13 rfl rfl)
theorem dX1_mix_178 : decode cX1_mix 178 = .ok (.irem, 1) := dk_112 (dk_at dksX1_mix_7 15 rfl rfl)
theorem dX1_mix_179 : decode cX1_mix 179 = .ok (.goto 8, 3) := dk_167 0 8 (dk_at dksX1_mix_7 16 rfl rfl)
theorem dX1_mix_182 : decode cX1_mix 182 = .ok (.iload 4, 2) := dk_21 4 (dk_at dksX1_mix_7 19 rfl rfl)
theorem dX1_mix_184 : decode cX1_mix 184 = .ok (.bipush 7, 2) := dk_16 7 (dk_at dksX1_mix_7 21 rfl rfl)
theorem dX1_mix_186 : decode cX1_mix 186 = .ok (.irem, 1) := dk_112 (dk_at dksX1_mix_7 23 rfl rfl)
theorem dX1_mix_187 : decode cX1_mix 187 = .ok (.ireturn, 1) := dk_172 (dk_at dksX1_mix_8 0 rfl rfl)
abbrev cX1_layMix : ByteArray := prog_12_method_57_code
def yX1_layMix : MethodName := ⟨RX1, "layMix", "(III)V"⟩
def dkwX1_layMix_3 : List UInt8 := [177]
abbrev dktX1_layMix_3 : List UInt8 := dkwX1_layMix_3 ++ []
def dkwX1_layMix_2 : List UInt8 := [167, 0, 17, 21, 4, 27, 28, 96, 162, 0, 7, 7, 167, 0, 5, 16, 6, 79, 132, 4, 1, 167, 255, 205]
abbrev dktX1_layMix_2 : List UInt8 := dkwX1_layMix_2 ++ dktX1_layMix_3
def dkwX1_layMix_1 : List UInt8 := [162, 0, 48, 42, 180, 0, 53, 21, 4, 5, 79, 42, 180, 0, 56, 21, 4, 21, 4, 27, 162, 0, 7, 5]
abbrev dktX1_layMix_1 : List UInt8 := dkwX1_layMix_1 ++ dktX1_layMix_2
def dkwX1_layMix_0 : List UInt8 := [42, 16, 247, 181, 0, 171, 42, 27, 28, 96, 29, 96, 181, 0, 162, 3, 54, 4, 21, 4, 42, 180, 0, 162]
abbrev dktX1_layMix_0 : List UInt8 := dkwX1_layMix_0 ++ dktX1_layMix_1
theorem dksX1_layMix_0 : cX1_layMix.data.toList.drop 0 = dktX1_layMix_0 := by decide +kernel
theorem dksX1_layMix_1 : cX1_layMix.data.toList.drop 24 = dktX1_layMix_1 := dk_seg dksX1_layMix_0 24 rfl rfl
theorem dksX1_layMix_2 : cX1_layMix.data.toList.drop 48 = dktX1_layMix_2 := dk_seg dksX1_layMix_1 24 rfl rfl
theorem dksX1_layMix_3 : cX1_layMix.data.toList.drop 72 = dktX1_layMix_3 := dk_seg dksX1_layMix_2 24 rfl rfl
theorem dX1_layMix_0 : decode cX1_layMix 0 = .ok (.aload_n 0, 1) := dk_42 (dk_at dksX1_layMix_0 0 rfl rfl)
theorem dX1_layMix_1 : decode cX1_layMix 1 = .ok (.bipush (-9), 2) := dk_16 247 (dk_at dksX1_layMix_0 1 rfl rfl)
theorem dX1_layMix_3 : decode cX1_layMix 3 = .ok (.putfield 171, 3) := dk_181 0 171 (dk_at dksX1_layMix_0 3 rfl rfl)
theorem dX1_layMix_6 : decode cX1_layMix 6 = .ok (.aload_n 0, 1) := dk_42 (dk_at dksX1_layMix_0 6 rfl rfl)
theorem dX1_layMix_7 : decode cX1_layMix 7 = .ok (.iload_n 1, 1) := dk_27 (dk_at dksX1_layMix_0 7 rfl rfl)
theorem dX1_layMix_8 : decode cX1_layMix 8 = .ok (.iload_n 2, 1) := dk_28 (dk_at dksX1_layMix_0 8 rfl rfl)
theorem dX1_layMix_9 : decode cX1_layMix 9 = .ok (.iadd, 1) := dk_96 (dk_at dksX1_layMix_0 9 rfl rfl)
theorem dX1_layMix_10 : decode cX1_layMix 10 = .ok (.iload_n 3, 1) := dk_29 (dk_at dksX1_layMix_0 10 rfl rfl)
theorem dX1_layMix_11 : decode cX1_layMix 11 = .ok (.iadd, 1) := dk_96 (dk_at dksX1_layMix_0 11 rfl rfl)
theorem dX1_layMix_12 : decode cX1_layMix 12 = .ok (.putfield 162, 3) := dk_181 0 162 (dk_at dksX1_layMix_0 12 rfl rfl)
theorem dX1_layMix_15 : decode cX1_layMix 15 = .ok (.iconst 0, 1) := dk_3 (dk_at dksX1_layMix_0 15 rfl rfl)
theorem dX1_layMix_16 : decode cX1_layMix 16 = .ok (.istore 4, 2) := dk_54 4 (dk_at dksX1_layMix_0 16 rfl rfl)
theorem dX1_layMix_18 : decode cX1_layMix 18 = .ok (.iload 4, 2) := dk_21 4 (dk_at dksX1_layMix_0 18 rfl rfl)
theorem dX1_layMix_20 : decode cX1_layMix 20 = .ok (.aload_n 0, 1) := dk_42 (dk_at dksX1_layMix_0 20 rfl rfl)
theorem dX1_layMix_21 : decode cX1_layMix 21 = .ok (.getfield 162, 3) := dk_180 0 162 (dk_at dksX1_layMix_0 21 rfl rfl)
theorem dX1_layMix_24 : decode cX1_layMix 24 = .ok (.if_icmp .ge 48, 3) := dk_162 0 48 (dk_at dksX1_layMix_1 0 rfl rfl)
theorem dX1_layMix_27 : decode cX1_layMix 27 = .ok (.aload_n 0, 1) := dk_42 (dk_at dksX1_layMix_1 3 rfl rfl)
theorem dX1_layMix_28 : decode cX1_layMix 28 = .ok (.getfield 53, 3) := dk_180 0 53 (dk_at dksX1_layMix_1 4 rfl rfl)
theorem dX1_layMix_31 : decode cX1_layMix 31 = .ok (.iload 4, 2) := dk_21 4 (dk_at dksX1_layMix_1 7 rfl rfl)
theorem dX1_layMix_33 : decode cX1_layMix 33 = .ok (.iconst 2, 1) := dk_5 (dk_at dksX1_layMix_1 9 rfl rfl)
theorem dX1_layMix_34 : decode cX1_layMix 34 = .ok (.iastore, 1) := dk_79 (dk_at dksX1_layMix_1 10 rfl rfl)
theorem dX1_layMix_35 : decode cX1_layMix 35 = .ok (.aload_n 0, 1) := dk_42 (dk_at dksX1_layMix_1 11 rfl rfl)
theorem dX1_layMix_36 : decode cX1_layMix 36 = .ok (.getfield 56, 3) := dk_180 0 56 (dk_at dksX1_layMix_1 12 rfl rfl)
theorem dX1_layMix_39 : decode cX1_layMix 39 = .ok (.iload 4, 2) := dk_21 4 (dk_at dksX1_layMix_1 15 rfl rfl)
theorem dX1_layMix_41 : decode cX1_layMix 41 = .ok (.iload 4, 2) := dk_21 4 (dk_at dksX1_layMix_1 17 rfl rfl)
theorem dX1_layMix_43 : decode cX1_layMix 43 = .ok (.iload_n 1, 1) := dk_27 (dk_at dksX1_layMix_1 19 rfl rfl)
theorem dX1_layMix_44 : decode cX1_layMix 44 = .ok (.if_icmp .ge 7, 3) := dk_162 0 7 (dk_at dksX1_layMix_1 20 rfl rfl)
theorem dX1_layMix_47 : decode cX1_layMix 47 = .ok (.iconst 2, 1) := dk_5 (dk_at dksX1_layMix_1 23 rfl rfl)
theorem dX1_layMix_48 : decode cX1_layMix 48 = .ok (.goto 17, 3) := dk_167 0 17 (dk_at dksX1_layMix_2 0 rfl rfl)
theorem dX1_layMix_51 : decode cX1_layMix 51 = .ok (.iload 4, 2) := dk_21 4 (dk_at dksX1_layMix_2 3 rfl rfl)
theorem dX1_layMix_53 : decode cX1_layMix 53 = .ok (.iload_n 1, 1) := dk_27 (dk_at dksX1_layMix_2 5 rfl rfl)
theorem dX1_layMix_54 : decode cX1_layMix 54 = .ok (.iload_n 2, 1) := dk_28 (dk_at dksX1_layMix_2 6 rfl rfl)
theorem dX1_layMix_55 : decode cX1_layMix 55 = .ok (.iadd, 1) := dk_96 (dk_at dksX1_layMix_2 7 rfl rfl)
theorem dX1_layMix_56 : decode cX1_layMix 56 = .ok (.if_icmp .ge 7, 3) := dk_162 0 7 (dk_at dksX1_layMix_2 8 rfl rfl)
theorem dX1_layMix_59 : decode cX1_layMix 59 = .ok (.iconst 4, 1) := dk_7 (dk_at dksX1_layMix_2 11 rfl rfl)
theorem dX1_layMix_60 : decode cX1_layMix 60 = .ok (.goto 5, 3) := dk_167 0 5 (dk_at dksX1_layMix_2 12 rfl rfl)
theorem dX1_layMix_63 : decode cX1_layMix 63 = .ok (.bipush 6, 2) := dk_16 6 (dk_at dksX1_layMix_2 15 rfl rfl)
theorem dX1_layMix_65 : decode cX1_layMix 65 = .ok (.iastore, 1) := dk_79 (dk_at dksX1_layMix_2 17 rfl rfl)
theorem dX1_layMix_66 : decode cX1_layMix 66 = .ok (.iinc 4 1, 3) := dk_132 4 1 (dk_at dksX1_layMix_2 18 rfl rfl)
theorem dX1_layMix_69 : decode cX1_layMix 69 = .ok (.goto (-51), 3) := dk_167 255 205 (dk_at dksX1_layMix_2 21 rfl rfl)
theorem dX1_layMix_72 : decode cX1_layMix 72 = .ok (.return_, 1) := dk_177 (dk_at dksX1_layMix_3 0 rfl rfl)
abbrev cX1_till : ByteArray := prog_12_method_58_code
def yX1_till : MethodName := ⟨RX1, "till", "(II)I"⟩
def dkwX1_till_4 : List UInt8 := [160, 0, 8, 21, 4, 167, 0, 5, 21, 5, 172]
abbrev dktX1_till_4 : List UInt8 := dkwX1_till_4 ++ []
def dkwX1_till_3 : List UInt8 := [21, 4, 54, 4, 21, 6, 54, 5, 132, 6, 1, 167, 255, 209, 28, 154, 0, 7, 29, 167, 0, 15, 28, 4]
abbrev dktX1_till_3 : List UInt8 := dkwX1_till_3 ++ dktX1_till_4
def dkwX1_till_2 : List UInt8 := [21, 6, 182, 1, 4, 27, 160, 0, 26, 132, 3, 1, 21, 4, 16, 247, 160, 0, 8, 21, 6, 167, 0, 5]
abbrev dktX1_till_2 : List UInt8 := dkwX1_till_2 ++ dktX1_till_3
def dkwX1_till_1 : List UInt8 := [16, 247, 54, 4, 16, 247, 54, 5, 3, 54, 6, 21, 6, 16, 30, 163, 0, 46, 42, 42, 180, 0, 138]
abbrev dktX1_till_1 : List UInt8 := dkwX1_till_1 ++ dktX1_till_2
def dkwX1_till_0 : List UInt8 := [28, 3, 5, 184, 0, 104, 154, 0, 6, 16, 254, 172, 42, 182, 0, 152, 154, 0, 6, 16, 253, 172, 3, 62]
abbrev dktX1_till_0 : List UInt8 := dkwX1_till_0 ++ dktX1_till_1
theorem dksX1_till_0 : cX1_till.data.toList.drop 0 = dktX1_till_0 := by decide +kernel
theorem dksX1_till_1 : cX1_till.data.toList.drop 24 = dktX1_till_1 := dk_seg dksX1_till_0 24 rfl rfl
theorem dksX1_till_2 : cX1_till.data.toList.drop 47 = dktX1_till_2 := dk_seg dksX1_till_1 23 rfl rfl
theorem dksX1_till_3 : cX1_till.data.toList.drop 71 = dktX1_till_3 := dk_seg dksX1_till_2 24 rfl rfl
theorem dksX1_till_4 : cX1_till.data.toList.drop 95 = dktX1_till_4 := dk_seg dksX1_till_3 24 rfl rfl
theorem dX1_till_0 : decode cX1_till 0 = .ok (.iload_n 2, 1) := dk_28 (dk_at dksX1_till_0 0 rfl rfl)
theorem dX1_till_1 : decode cX1_till 1 = .ok (.iconst 0, 1) := dk_3 (dk_at dksX1_till_0 1 rfl rfl)
theorem dX1_till_2 : decode cX1_till 2 = .ok (.iconst 2, 1) := dk_5 (dk_at dksX1_till_0 2 rfl rfl)
theorem dX1_till_3 : decode cX1_till 3 = .ok (.invokestatic 104, 3) := dk_184 0 104 (dk_at dksX1_till_0 3 rfl rfl)
theorem dX1_till_6 : decode cX1_till 6 = .ok (.ifCond .ne 6, 3) := dk_154 0 6 (dk_at dksX1_till_0 6 rfl rfl)
theorem dX1_till_9 : decode cX1_till 9 = .ok (.bipush (-2), 2) := dk_16 254 (dk_at dksX1_till_0 9 rfl rfl)
theorem dX1_till_11 : decode cX1_till 11 = .ok (.ireturn, 1) := dk_172 (dk_at dksX1_till_0 11 rfl rfl)
theorem dX1_till_12 : decode cX1_till 12 = .ok (.aload_n 0, 1) := dk_42 (dk_at dksX1_till_0 12 rfl rfl)
theorem dX1_till_13 : decode cX1_till 13 = .ok (.invokevirtual 152, 3) := dk_182 0 152 (dk_at dksX1_till_0 13 rfl rfl)
theorem dX1_till_16 : decode cX1_till 16 = .ok (.ifCond .ne 6, 3) := dk_154 0 6 (dk_at dksX1_till_0 16 rfl rfl)
theorem dX1_till_19 : decode cX1_till 19 = .ok (.bipush (-3), 2) := dk_16 253 (dk_at dksX1_till_0 19 rfl rfl)
theorem dX1_till_21 : decode cX1_till 21 = .ok (.ireturn, 1) := dk_172 (dk_at dksX1_till_0 21 rfl rfl)
theorem dX1_till_22 : decode cX1_till 22 = .ok (.iconst 0, 1) := dk_3 (dk_at dksX1_till_0 22 rfl rfl)
theorem dX1_till_23 : decode cX1_till 23 = .ok (.istore_n 3, 1) := dk_62 (dk_at dksX1_till_0 23 rfl rfl)
theorem dX1_till_24 : decode cX1_till 24 = .ok (.bipush (-9), 2) := dk_16 247 (dk_at dksX1_till_1 0 rfl rfl)
theorem dX1_till_26 : decode cX1_till 26 = .ok (.istore 4, 2) := dk_54 4 (dk_at dksX1_till_1 2 rfl rfl)
theorem dX1_till_28 : decode cX1_till 28 = .ok (.bipush (-9), 2) := dk_16 247 (dk_at dksX1_till_1 4 rfl rfl)
theorem dX1_till_30 : decode cX1_till 30 = .ok (.istore 5, 2) := dk_54 5 (dk_at dksX1_till_1 6 rfl rfl)
theorem dX1_till_32 : decode cX1_till 32 = .ok (.iconst 0, 1) := dk_3 (dk_at dksX1_till_1 8 rfl rfl)
theorem dX1_till_33 : decode cX1_till 33 = .ok (.istore 6, 2) := dk_54 6 (dk_at dksX1_till_1 9 rfl rfl)
theorem dX1_till_35 : decode cX1_till 35 = .ok (.iload 6, 2) := dk_21 6 (dk_at dksX1_till_1 11 rfl rfl)
theorem dX1_till_37 : decode cX1_till 37 = .ok (.bipush 30, 2) := dk_16 30 (dk_at dksX1_till_1 13 rfl rfl)
theorem dX1_till_39 : decode cX1_till 39 = .ok (.if_icmp .gt 46, 3) := dk_163 0 46 (dk_at dksX1_till_1 15 rfl rfl)
theorem dX1_till_42 : decode cX1_till 42 = .ok (.aload_n 0, 1) := dk_42 (dk_at dksX1_till_1 18 rfl rfl)
theorem dX1_till_43 : decode cX1_till 43 = .ok (.aload_n 0, 1) := dk_42 (dk_at dksX1_till_1 19 rfl rfl)
theorem dX1_till_44 : decode cX1_till 44 = .ok (.getfield 138, 3) := dk_180 0 138 (dk_at dksX1_till_1 20 rfl rfl)
theorem dX1_till_47 : decode cX1_till 47 = .ok (.iload 6, 2) := dk_21 6 (dk_at dksX1_till_2 0 rfl rfl)
theorem dX1_till_49 : decode cX1_till 49 = .ok (.invokevirtual 260, 3) := dk_182 1 4 (dk_at dksX1_till_2 2 rfl rfl)
theorem dX1_till_52 : decode cX1_till 52 = .ok (.iload_n 1, 1) := dk_27 (dk_at dksX1_till_2 5 rfl rfl)
theorem dX1_till_53 : decode cX1_till 53 = .ok (.if_icmp .ne 26, 3) := dk_160 0 26 (dk_at dksX1_till_2 6 rfl rfl)
theorem dX1_till_56 : decode cX1_till 56 = .ok (.iinc 3 1, 3) := dk_132 3 1 (dk_at dksX1_till_2 9 rfl rfl)
theorem dX1_till_59 : decode cX1_till 59 = .ok (.iload 4, 2) := dk_21 4 (dk_at dksX1_till_2 12 rfl rfl)
theorem dX1_till_61 : decode cX1_till 61 = .ok (.bipush (-9), 2) := dk_16 247 (dk_at dksX1_till_2 14 rfl rfl)
theorem dX1_till_63 : decode cX1_till 63 = .ok (.if_icmp .ne 8, 3) := dk_160 0 8 (dk_at dksX1_till_2 16 rfl rfl)
theorem dX1_till_66 : decode cX1_till 66 = .ok (.iload 6, 2) := dk_21 6 (dk_at dksX1_till_2 19 rfl rfl)
theorem dX1_till_68 : decode cX1_till 68 = .ok (.goto 5, 3) := dk_167 0 5 (dk_at dksX1_till_2 21 rfl rfl)
theorem dX1_till_71 : decode cX1_till 71 = .ok (.iload 4, 2) := dk_21 4 (dk_at dksX1_till_3 0 rfl rfl)
theorem dX1_till_73 : decode cX1_till 73 = .ok (.istore 4, 2) := dk_54 4 (dk_at dksX1_till_3 2 rfl rfl)
theorem dX1_till_75 : decode cX1_till 75 = .ok (.iload 6, 2) := dk_21 6 (dk_at dksX1_till_3 4 rfl rfl)
theorem dX1_till_77 : decode cX1_till 77 = .ok (.istore 5, 2) := dk_54 5 (dk_at dksX1_till_3 6 rfl rfl)
theorem dX1_till_79 : decode cX1_till 79 = .ok (.iinc 6 1, 3) := dk_132 6 1 (dk_at dksX1_till_3 8 rfl rfl)
theorem dX1_till_82 : decode cX1_till 82 = .ok (.goto (-47), 3) := dk_167 255 209 (dk_at dksX1_till_3 11 rfl rfl)
theorem dX1_till_85 : decode cX1_till 85 = .ok (.iload_n 2, 1) := dk_28 (dk_at dksX1_till_3 14 rfl rfl)
theorem dX1_till_86 : decode cX1_till 86 = .ok (.ifCond .ne 7, 3) := dk_154 0 7 (dk_at dksX1_till_3 15 rfl rfl)
theorem dX1_till_89 : decode cX1_till 89 = .ok (.iload_n 3, 1) := dk_29 (dk_at dksX1_till_3 18 rfl rfl)
theorem dX1_till_90 : decode cX1_till 90 = .ok (.goto 15, 3) := dk_167 0 15 (dk_at dksX1_till_3 19 rfl rfl)
theorem dX1_till_93 : decode cX1_till 93 = .ok (.iload_n 2, 1) := dk_28 (dk_at dksX1_till_3 22 rfl rfl)
theorem dX1_till_94 : decode cX1_till 94 = .ok (.iconst 1, 1) := dk_4 (dk_at dksX1_till_3 23 rfl rfl)
theorem dX1_till_95 : decode cX1_till 95 = .ok (.if_icmp .ne 8, 3) := dk_160 0 8 (dk_at dksX1_till_4 0 rfl rfl)
theorem dX1_till_98 : decode cX1_till 98 = .ok (.iload 4, 2) := dk_21 4 (dk_at dksX1_till_4 3 rfl rfl)
theorem dX1_till_100 : decode cX1_till 100 = .ok (.goto 5, 3) := dk_167 0 5 (dk_at dksX1_till_4 5 rfl rfl)
theorem dX1_till_103 : decode cX1_till 103 = .ok (.iload 5, 2) := dk_21 5 (dk_at dksX1_till_4 8 rfl rfl)
theorem dX1_till_105 : decode cX1_till 105 = .ok (.ireturn, 1) := dk_172 (dk_at dksX1_till_4 10 rfl rfl)
abbrev cX1_names : ByteArray := prog_12_method_62_code
def yX1_names : MethodName := ⟨RX1, "names", "(IIIIII)J"⟩
def dkwX1_names_2 : List UInt8 := [184, 1, 21, 21, 6, 184, 1, 25, 173]
abbrev dktX1_names_2 : List UInt8 := dkwX1_names_2 ++ []
def dkwX1_names_1 : List UInt8 := [3, 4, 184, 0, 104, 154, 0, 7, 20, 0, 102, 173, 27, 28, 29, 21, 4, 21, 5, 184, 1, 17, 27]
abbrev dktX1_names_1 : List UInt8 := dkwX1_names_1 ++ dktX1_names_2
def dkwX1_names_0 : List UInt8 := [27, 3, 16, 8, 184, 0, 104, 153, 0, 25, 28, 29, 21, 4, 21, 5, 184, 1, 13, 153, 0, 13, 21, 6]
abbrev dktX1_names_0 : List UInt8 := dkwX1_names_0 ++ dktX1_names_1
theorem dksX1_names_0 : cX1_names.data.toList.drop 0 = dktX1_names_0 := by decide +kernel
theorem dksX1_names_1 : cX1_names.data.toList.drop 24 = dktX1_names_1 := dk_seg dksX1_names_0 24 rfl rfl
theorem dksX1_names_2 : cX1_names.data.toList.drop 47 = dktX1_names_2 := dk_seg dksX1_names_1 23 rfl rfl
theorem dX1_names_0 : decode cX1_names 0 = .ok (.iload_n 1, 1) := dk_27 (dk_at dksX1_names_0 0 rfl rfl)
theorem dX1_names_1 : decode cX1_names 1 = .ok (.iconst 0, 1) := dk_3 (dk_at dksX1_names_0 1 rfl rfl)
theorem dX1_names_2 : decode cX1_names 2 = .ok (.bipush 8, 2) := dk_16 8 (dk_at dksX1_names_0 2 rfl rfl)
theorem dX1_names_4 : decode cX1_names 4 = .ok (.invokestatic 104, 3) := dk_184 0 104 (dk_at dksX1_names_0 4 rfl rfl)
theorem dX1_names_7 : decode cX1_names 7 = .ok (.ifCond .eq 25, 3) := dk_153 0 25 (dk_at dksX1_names_0 7 rfl rfl)
theorem dX1_names_10 : decode cX1_names 10 = .ok (.iload_n 2, 1) := dk_28 (dk_at dksX1_names_0 10 rfl rfl)
theorem dX1_names_11 : decode cX1_names 11 = .ok (.iload_n 3, 1) := dk_29 (dk_at dksX1_names_0 11 rfl rfl)
theorem dX1_names_12 : decode cX1_names 12 = .ok (.iload 4, 2) := dk_21 4 (dk_at dksX1_names_0 12 rfl rfl)
theorem dX1_names_14 : decode cX1_names 14 = .ok (.iload 5, 2) := dk_21 5 (dk_at dksX1_names_0 14 rfl rfl)
theorem dX1_names_16 : decode cX1_names 16 = .ok (.invokestatic 269, 3) := dk_184 1 13 (dk_at dksX1_names_0 16 rfl rfl)
theorem dX1_names_19 : decode cX1_names 19 = .ok (.ifCond .eq 13, 3) := dk_153 0 13 (dk_at dksX1_names_0 19 rfl rfl)
theorem dX1_names_22 : decode cX1_names 22 = .ok (.iload 6, 2) := dk_21 6 (dk_at dksX1_names_0 22 rfl rfl)
theorem dX1_names_24 : decode cX1_names 24 = .ok (.iconst 0, 1) := dk_3 (dk_at dksX1_names_1 0 rfl rfl)
theorem dX1_names_25 : decode cX1_names 25 = .ok (.iconst 1, 1) := dk_4 (dk_at dksX1_names_1 1 rfl rfl)
theorem dX1_names_26 : decode cX1_names 26 = .ok (.invokestatic 104, 3) := dk_184 0 104 (dk_at dksX1_names_1 2 rfl rfl)
theorem dX1_names_29 : decode cX1_names 29 = .ok (.ifCond .ne 7, 3) := dk_154 0 7 (dk_at dksX1_names_1 5 rfl rfl)
theorem dX1_names_32 : decode cX1_names 32 = .ok (.ldc2_w 102, 3) := dk_20 0 102 (dk_at dksX1_names_1 8 rfl rfl)
theorem dX1_names_35 : decode cX1_names 35 = .ok (.lreturn, 1) := dk_173 (dk_at dksX1_names_1 11 rfl rfl)
theorem dX1_names_36 : decode cX1_names 36 = .ok (.iload_n 1, 1) := dk_27 (dk_at dksX1_names_1 12 rfl rfl)
theorem dX1_names_37 : decode cX1_names 37 = .ok (.iload_n 2, 1) := dk_28 (dk_at dksX1_names_1 13 rfl rfl)
theorem dX1_names_38 : decode cX1_names 38 = .ok (.iload_n 3, 1) := dk_29 (dk_at dksX1_names_1 14 rfl rfl)
theorem dX1_names_39 : decode cX1_names 39 = .ok (.iload 4, 2) := dk_21 4 (dk_at dksX1_names_1 15 rfl rfl)
theorem dX1_names_41 : decode cX1_names 41 = .ok (.iload 5, 2) := dk_21 5 (dk_at dksX1_names_1 17 rfl rfl)
theorem dX1_names_43 : decode cX1_names 43 = .ok (.invokestatic 273, 3) := dk_184 1 17 (dk_at dksX1_names_1 19 rfl rfl)
theorem dX1_names_46 : decode cX1_names 46 = .ok (.iload_n 1, 1) := dk_27 (dk_at dksX1_names_1 22 rfl rfl)
theorem dX1_names_47 : decode cX1_names 47 = .ok (.invokestatic 277, 3) := dk_184 1 21 (dk_at dksX1_names_2 0 rfl rfl)
theorem dX1_names_50 : decode cX1_names 50 = .ok (.iload 6, 2) := dk_21 6 (dk_at dksX1_names_2 3 rfl rfl)
theorem dX1_names_52 : decode cX1_names 52 = .ok (.invokestatic 281, 3) := dk_184 1 25 (dk_at dksX1_names_2 5 rfl rfl)
theorem dX1_names_55 : decode cX1_names 55 = .ok (.lreturn, 1) := dk_173 (dk_at dksX1_names_2 8 rfl rfl)
abbrev cX1_areNames : ByteArray := prog_12_method_61_code
def yX1_areNames : MethodName := ⟨RX1, "areNames", "(IIII)Z"⟩
def dkwX1_areNames_1 : List UInt8 := [184, 0, 104, 153, 0, 17, 29, 3, 16, 9, 184, 0, 104, 153, 0, 7, 4, 167, 0, 4, 3, 172]
abbrev dktX1_areNames_1 : List UInt8 := dkwX1_areNames_1 ++ []
def dkwX1_areNames_0 : List UInt8 := [26, 3, 16, 100, 184, 0, 104, 153, 0, 37, 27, 3, 16, 8, 184, 0, 104, 153, 0, 27, 28, 3, 16, 9]
abbrev dktX1_areNames_0 : List UInt8 := dkwX1_areNames_0 ++ dktX1_areNames_1
theorem dksX1_areNames_0 : cX1_areNames.data.toList.drop 0 = dktX1_areNames_0 := by decide +kernel
theorem dksX1_areNames_1 : cX1_areNames.data.toList.drop 24 = dktX1_areNames_1 := dk_seg dksX1_areNames_0 24 rfl rfl
theorem dX1_areNames_0 : decode cX1_areNames 0 = .ok (.iload_n 0, 1) := dk_26 (dk_at dksX1_areNames_0 0 rfl rfl)
theorem dX1_areNames_1 : decode cX1_areNames 1 = .ok (.iconst 0, 1) := dk_3 (dk_at dksX1_areNames_0 1 rfl rfl)
theorem dX1_areNames_2 : decode cX1_areNames 2 = .ok (.bipush 100, 2) := dk_16 100 (dk_at dksX1_areNames_0 2 rfl rfl)
theorem dX1_areNames_4 : decode cX1_areNames 4 = .ok (.invokestatic 104, 3) := dk_184 0 104 (dk_at dksX1_areNames_0 4 rfl rfl)
theorem dX1_areNames_7 : decode cX1_areNames 7 = .ok (.ifCond .eq 37, 3) := dk_153 0 37 (dk_at dksX1_areNames_0 7 rfl rfl)
theorem dX1_areNames_10 : decode cX1_areNames 10 = .ok (.iload_n 1, 1) := dk_27 (dk_at dksX1_areNames_0 10 rfl rfl)
theorem dX1_areNames_11 : decode cX1_areNames 11 = .ok (.iconst 0, 1) := dk_3 (dk_at dksX1_areNames_0 11 rfl rfl)
theorem dX1_areNames_12 : decode cX1_areNames 12 = .ok (.bipush 8, 2) := dk_16 8 (dk_at dksX1_areNames_0 12 rfl rfl)
theorem dX1_areNames_14 : decode cX1_areNames 14 = .ok (.invokestatic 104, 3) := dk_184 0 104 (dk_at dksX1_areNames_0 14 rfl rfl)
theorem dX1_areNames_17 : decode cX1_areNames 17 = .ok (.ifCond .eq 27, 3) := dk_153 0 27 (dk_at dksX1_areNames_0 17 rfl rfl)
theorem dX1_areNames_20 : decode cX1_areNames 20 = .ok (.iload_n 2, 1) := dk_28 (dk_at dksX1_areNames_0 20 rfl rfl)
theorem dX1_areNames_21 : decode cX1_areNames 21 = .ok (.iconst 0, 1) := dk_3 (dk_at dksX1_areNames_0 21 rfl rfl)
theorem dX1_areNames_22 : decode cX1_areNames 22 = .ok (.bipush 9, 2) := dk_16 9 (dk_at dksX1_areNames_0 22 rfl rfl)
theorem dX1_areNames_24 : decode cX1_areNames 24 = .ok (.invokestatic 104, 3) := dk_184 0 104 (dk_at dksX1_areNames_1 0 rfl rfl)
theorem dX1_areNames_27 : decode cX1_areNames 27 = .ok (.ifCond .eq 17, 3) := dk_153 0 17 (dk_at dksX1_areNames_1 3 rfl rfl)
theorem dX1_areNames_30 : decode cX1_areNames 30 = .ok (.iload_n 3, 1) := dk_29 (dk_at dksX1_areNames_1 6 rfl rfl)
theorem dX1_areNames_31 : decode cX1_areNames 31 = .ok (.iconst 0, 1) := dk_3 (dk_at dksX1_areNames_1 7 rfl rfl)
theorem dX1_areNames_32 : decode cX1_areNames 32 = .ok (.bipush 9, 2) := dk_16 9 (dk_at dksX1_areNames_1 8 rfl rfl)
theorem dX1_areNames_34 : decode cX1_areNames 34 = .ok (.invokestatic 104, 3) := dk_184 0 104 (dk_at dksX1_areNames_1 10 rfl rfl)
theorem dX1_areNames_37 : decode cX1_areNames 37 = .ok (.ifCond .eq 7, 3) := dk_153 0 7 (dk_at dksX1_areNames_1 13 rfl rfl)
theorem dX1_areNames_40 : decode cX1_areNames 40 = .ok (.iconst 1, 1) := dk_4 (dk_at dksX1_areNames_1 16 rfl rfl)
theorem dX1_areNames_41 : decode cX1_areNames 41 = .ok (.goto 4, 3) := dk_167 0 4 (dk_at dksX1_areNames_1 17 rfl rfl)
theorem dX1_areNames_44 : decode cX1_areNames 44 = .ok (.iconst 0, 1) := dk_3 (dk_at dksX1_areNames_1 20 rfl rfl)
theorem dX1_areNames_45 : decode cX1_areNames 45 = .ok (.ireturn, 1) := dk_172 (dk_at dksX1_areNames_1 21 rfl rfl)
abbrev cX1_awaited : ByteArray := prog_12_method_59_code
def yX1_awaited : MethodName := ⟨RX1, "awaited", "(IIIII)J"⟩
def dkwX1_awaited_5 : List UInt8 := [55, 5, 132, 7, 1, 167, 255, 138, 22, 5, 173]
abbrev dktX1_awaited_5 : List UInt8 := dkwX1_awaited_5 ++ []
def dkwX1_awaited_4 : List UInt8 := [164, 0, 17, 29, 28, 104, 21, 4, 21, 10, 28, 100, 104, 100, 167, 0, 7, 29, 21, 10, 104, 133, 105, 97]
abbrev dktX1_awaited_4 : List UInt8 := dkwX1_awaited_4 ++ dktX1_awaited_5
def dkwX1_awaited_3 : List UInt8 := [167, 0, 8, 16, 100, 27, 100, 133, 105, 55, 8, 132, 11, 1, 167, 255, 194, 22, 5, 22, 8, 21, 10, 28]
abbrev dktX1_awaited_3 : List UInt8 := dkwX1_awaited_3 ++ dktX1_awaited_4
def dkwX1_awaited_2 : List UInt8 := [21, 10, 21, 12, 153, 0, 7, 4, 167, 0, 4, 3, 96, 54, 10, 22, 8, 21, 12, 153, 0, 8, 27, 133]
abbrev dktX1_awaited_2 : List UInt8 := dkwX1_awaited_2 ++ dktX1_awaited_3
def dkwX1_awaited_1 : List UInt8 := [21, 11, 26, 162, 0, 62, 21, 7, 21, 11, 122, 4, 126, 4, 160, 0, 7, 4, 167, 0, 4, 3, 54, 12]
abbrev dktX1_awaited_1 : List UInt8 := dkwX1_awaited_1 ++ dktX1_awaited_2
def dkwX1_awaited_0 : List UInt8 := [9, 55, 5, 3, 54, 7, 21, 7, 4, 26, 120, 162, 0, 116, 10, 55, 8, 3, 54, 10, 3, 54, 11]
abbrev dktX1_awaited_0 : List UInt8 := dkwX1_awaited_0 ++ dktX1_awaited_1
theorem dksX1_awaited_0 : cX1_awaited.data.toList.drop 0 = dktX1_awaited_0 := by decide +kernel
theorem dksX1_awaited_1 : cX1_awaited.data.toList.drop 23 = dktX1_awaited_1 := dk_seg dksX1_awaited_0 23 rfl rfl
theorem dksX1_awaited_2 : cX1_awaited.data.toList.drop 47 = dktX1_awaited_2 := dk_seg dksX1_awaited_1 24 rfl rfl
theorem dksX1_awaited_3 : cX1_awaited.data.toList.drop 71 = dktX1_awaited_3 := dk_seg dksX1_awaited_2 24 rfl rfl
theorem dksX1_awaited_4 : cX1_awaited.data.toList.drop 95 = dktX1_awaited_4 := dk_seg dksX1_awaited_3 24 rfl rfl
theorem dksX1_awaited_5 : cX1_awaited.data.toList.drop 119 = dktX1_awaited_5 := dk_seg dksX1_awaited_4 24 rfl rfl
theorem dX1_awaited_0 : decode cX1_awaited 0 = .ok (.lconst 0, 1) := dk_9 (dk_at dksX1_awaited_0 0 rfl rfl)
theorem dX1_awaited_1 : decode cX1_awaited 1 = .ok (.lstore 5, 2) := dk_55 5 (dk_at dksX1_awaited_0 1 rfl rfl)
theorem dX1_awaited_3 : decode cX1_awaited 3 = .ok (.iconst 0, 1) := dk_3 (dk_at dksX1_awaited_0 3 rfl rfl)
theorem dX1_awaited_4 : decode cX1_awaited 4 = .ok (.istore 7, 2) := dk_54 7 (dk_at dksX1_awaited_0 4 rfl rfl)
theorem dX1_awaited_6 : decode cX1_awaited 6 = .ok (.iload 7, 2) := dk_21 7 (dk_at dksX1_awaited_0 6 rfl rfl)
theorem dX1_awaited_8 : decode cX1_awaited 8 = .ok (.iconst 1, 1) := dk_4 (dk_at dksX1_awaited_0 8 rfl rfl)
theorem dX1_awaited_9 : decode cX1_awaited 9 = .ok (.iload_n 0, 1) := dk_26 (dk_at dksX1_awaited_0 9 rfl rfl)
theorem dX1_awaited_10 : decode cX1_awaited 10 = .ok (.ishl, 1) := dk_120 (dk_at dksX1_awaited_0 10 rfl rfl)
theorem dX1_awaited_11 : decode cX1_awaited 11 = .ok (.if_icmp .ge 116, 3) := dk_162 0 116 (dk_at dksX1_awaited_0 11 rfl rfl)
theorem dX1_awaited_14 : decode cX1_awaited 14 = .ok (.lconst 1, 1) := dk_10 (dk_at dksX1_awaited_0 14 rfl rfl)
theorem dX1_awaited_15 : decode cX1_awaited 15 = .ok (.lstore 8, 2) := dk_55 8 (dk_at dksX1_awaited_0 15 rfl rfl)
theorem dX1_awaited_17 : decode cX1_awaited 17 = .ok (.iconst 0, 1) := dk_3 (dk_at dksX1_awaited_0 17 rfl rfl)
theorem dX1_awaited_18 : decode cX1_awaited 18 = .ok (.istore 10, 2) := dk_54 10 (dk_at dksX1_awaited_0 18 rfl rfl)
theorem dX1_awaited_20 : decode cX1_awaited 20 = .ok (.iconst 0, 1) := dk_3 (dk_at dksX1_awaited_0 20 rfl rfl)
theorem dX1_awaited_21 : decode cX1_awaited 21 = .ok (.istore 11, 2) := dk_54 11 (dk_at dksX1_awaited_0 21 rfl rfl)
theorem dX1_awaited_23 : decode cX1_awaited 23 = .ok (.iload 11, 2) := dk_21 11 (dk_at dksX1_awaited_1 0 rfl rfl)
theorem dX1_awaited_25 : decode cX1_awaited 25 = .ok (.iload_n 0, 1) := dk_26 (dk_at dksX1_awaited_1 2 rfl rfl)
theorem dX1_awaited_26 : decode cX1_awaited 26 = .ok (.if_icmp .ge 62, 3) := dk_162 0 62 (dk_at dksX1_awaited_1 3 rfl rfl)
theorem dX1_awaited_29 : decode cX1_awaited 29 = .ok (.iload 7, 2) := dk_21 7 (dk_at dksX1_awaited_1 6 rfl rfl)
theorem dX1_awaited_31 : decode cX1_awaited 31 = .ok (.iload 11, 2) := dk_21 11 (dk_at dksX1_awaited_1 8 rfl rfl)
theorem dX1_awaited_33 : decode cX1_awaited 33 = .ok (.ishr, 1) := dk_122 (dk_at dksX1_awaited_1 10 rfl rfl)
theorem dX1_awaited_34 : decode cX1_awaited 34 = .ok (.iconst 1, 1) := dk_4 (dk_at dksX1_awaited_1 11 rfl rfl)
theorem dX1_awaited_35 : decode cX1_awaited 35 = .ok (.iand, 1) := dk_126 (dk_at dksX1_awaited_1 12 rfl rfl)
theorem dX1_awaited_36 : decode cX1_awaited 36 = .ok (.iconst 1, 1) := dk_4 (dk_at dksX1_awaited_1 13 rfl rfl)
theorem dX1_awaited_37 : decode cX1_awaited 37 = .ok (.if_icmp .ne 7, 3) := dk_160 0 7 (dk_at dksX1_awaited_1 14 rfl rfl)
theorem dX1_awaited_40 : decode cX1_awaited 40 = .ok (.iconst 1, 1) := dk_4 (dk_at dksX1_awaited_1 17 rfl rfl)
theorem dX1_awaited_41 : decode cX1_awaited 41 = .ok (.goto 4, 3) := dk_167 0 4 (dk_at dksX1_awaited_1 18 rfl rfl)
theorem dX1_awaited_44 : decode cX1_awaited 44 = .ok (.iconst 0, 1) := dk_3 (dk_at dksX1_awaited_1 21 rfl rfl)
theorem dX1_awaited_45 : decode cX1_awaited 45 = .ok (.istore 12, 2) := dk_54 12 (dk_at dksX1_awaited_1 22 rfl rfl)
theorem dX1_awaited_47 : decode cX1_awaited 47 = .ok (.iload 10, 2) := dk_21 10 (dk_at dksX1_awaited_2 0 rfl rfl)
theorem dX1_awaited_49 : decode cX1_awaited 49 = .ok (.iload 12, 2) := dk_21 12 (dk_at dksX1_awaited_2 2 rfl rfl)
theorem dX1_awaited_51 : decode cX1_awaited 51 = .ok (.ifCond .eq 7, 3) := dk_153 0 7 (dk_at dksX1_awaited_2 4 rfl rfl)
theorem dX1_awaited_54 : decode cX1_awaited 54 = .ok (.iconst 1, 1) := dk_4 (dk_at dksX1_awaited_2 7 rfl rfl)
theorem dX1_awaited_55 : decode cX1_awaited 55 = .ok (.goto 4, 3) := dk_167 0 4 (dk_at dksX1_awaited_2 8 rfl rfl)
theorem dX1_awaited_58 : decode cX1_awaited 58 = .ok (.iconst 0, 1) := dk_3 (dk_at dksX1_awaited_2 11 rfl rfl)
theorem dX1_awaited_59 : decode cX1_awaited 59 = .ok (.iadd, 1) := dk_96 (dk_at dksX1_awaited_2 12 rfl rfl)
theorem dX1_awaited_60 : decode cX1_awaited 60 = .ok (.istore 10, 2) := dk_54 10 (dk_at dksX1_awaited_2 13 rfl rfl)
theorem dX1_awaited_62 : decode cX1_awaited 62 = .ok (.lload 8, 2) := dk_22 8 (dk_at dksX1_awaited_2 15 rfl rfl)
theorem dX1_awaited_64 : decode cX1_awaited 64 = .ok (.iload 12, 2) := dk_21 12 (dk_at dksX1_awaited_2 17 rfl rfl)
theorem dX1_awaited_66 : decode cX1_awaited 66 = .ok (.ifCond .eq 8, 3) := dk_153 0 8 (dk_at dksX1_awaited_2 19 rfl rfl)
theorem dX1_awaited_69 : decode cX1_awaited 69 = .ok (.iload_n 1, 1) := dk_27 (dk_at dksX1_awaited_2 22 rfl rfl)
theorem dX1_awaited_70 : decode cX1_awaited 70 = .ok (.i2l, 1) := dk_133 (dk_at dksX1_awaited_2 23 rfl rfl)
theorem dX1_awaited_71 : decode cX1_awaited 71 = .ok (.goto 8, 3) := dk_167 0 8 (dk_at dksX1_awaited_3 0 rfl rfl)
theorem dX1_awaited_74 : decode cX1_awaited 74 = .ok (.bipush 100, 2) := dk_16 100 (dk_at dksX1_awaited_3 3 rfl rfl)
theorem dX1_awaited_76 : decode cX1_awaited 76 = .ok (.iload_n 1, 1) := dk_27 (dk_at dksX1_awaited_3 5 rfl rfl)
theorem dX1_awaited_77 : decode cX1_awaited 77 = .ok (.isub, 1) := dk_100 (dk_at dksX1_awaited_3 6 rfl rfl)
theorem dX1_awaited_78 : decode cX1_awaited 78 = .ok (.i2l, 1) := dk_133 (dk_at dksX1_awaited_3 7 rfl rfl)
theorem dX1_awaited_79 : decode cX1_awaited 79 = .ok (.lmul, 1) := dk_105 (dk_at dksX1_awaited_3 8 rfl rfl)
theorem dX1_awaited_80 : decode cX1_awaited 80 = .ok (.lstore 8, 2) := dk_55 8 (dk_at dksX1_awaited_3 9 rfl rfl)
theorem dX1_awaited_82 : decode cX1_awaited 82 = .ok (.iinc 11 1, 3) := dk_132 11 1 (dk_at dksX1_awaited_3 11 rfl rfl)
theorem dX1_awaited_85 : decode cX1_awaited 85 = .ok (.goto (-62), 3) := dk_167 255 194 (dk_at dksX1_awaited_3 14 rfl rfl)
theorem dX1_awaited_88 : decode cX1_awaited 88 = .ok (.lload 5, 2) := dk_22 5 (dk_at dksX1_awaited_3 17 rfl rfl)
theorem dX1_awaited_90 : decode cX1_awaited 90 = .ok (.lload 8, 2) := dk_22 8 (dk_at dksX1_awaited_3 19 rfl rfl)
theorem dX1_awaited_92 : decode cX1_awaited 92 = .ok (.iload 10, 2) := dk_21 10 (dk_at dksX1_awaited_3 21 rfl rfl)
theorem dX1_awaited_94 : decode cX1_awaited 94 = .ok (.iload_n 2, 1) := dk_28 (dk_at dksX1_awaited_3 23 rfl rfl)
theorem dX1_awaited_95 : decode cX1_awaited 95 = .ok (.if_icmp .le 17, 3) := dk_164 0 17 (dk_at dksX1_awaited_4 0 rfl rfl)
theorem dX1_awaited_98 : decode cX1_awaited 98 = .ok (.iload_n 3, 1) := dk_29 (dk_at dksX1_awaited_4 3 rfl rfl)
theorem dX1_awaited_99 : decode cX1_awaited 99 = .ok (.iload_n 2, 1) := dk_28 (dk_at dksX1_awaited_4 4 rfl rfl)
theorem dX1_awaited_100 : decode cX1_awaited 100 = .ok (.imul, 1) := dk_104 (dk_at dksX1_awaited_4 5 rfl rfl)
theorem dX1_awaited_101 : decode cX1_awaited 101 = .ok (.iload 4, 2) := dk_21 4 (dk_at dksX1_awaited_4 6 rfl rfl)
theorem dX1_awaited_103 : decode cX1_awaited 103 = .ok (.iload 10, 2) := dk_21 10 (dk_at dksX1_awaited_4 8 rfl rfl)
theorem dX1_awaited_105 : decode cX1_awaited 105 = .ok (.iload_n 2, 1) := dk_28 (dk_at dksX1_awaited_4 10 rfl rfl)
theorem dX1_awaited_106 : decode cX1_awaited 106 = .ok (.isub, 1) := dk_100 (dk_at dksX1_awaited_4 11 rfl rfl)
theorem dX1_awaited_107 : decode cX1_awaited 107 = .ok (.imul, 1) := dk_104 (dk_at dksX1_awaited_4 12 rfl rfl)
theorem dX1_awaited_108 : decode cX1_awaited 108 = .ok (.isub, 1) := dk_100 (dk_at dksX1_awaited_4 13 rfl rfl)
theorem dX1_awaited_109 : decode cX1_awaited 109 = .ok (.goto 7, 3) := dk_167 0 7 (dk_at dksX1_awaited_4 14 rfl rfl)
theorem dX1_awaited_112 : decode cX1_awaited 112 = .ok (.iload_n 3, 1) := dk_29 (dk_at dksX1_awaited_4 17 rfl rfl)
theorem dX1_awaited_113 : decode cX1_awaited 113 = .ok (.iload 10, 2) := dk_21 10 (dk_at dksX1_awaited_4 18 rfl rfl)
theorem dX1_awaited_115 : decode cX1_awaited 115 = .ok (.imul, 1) := dk_104 (dk_at dksX1_awaited_4 20 rfl rfl)
theorem dX1_awaited_116 : decode cX1_awaited 116 = .ok (.i2l, 1) := dk_133 (dk_at dksX1_awaited_4 21 rfl rfl)
theorem dX1_awaited_117 : decode cX1_awaited 117 = .ok (.lmul, 1) := dk_105 (dk_at dksX1_awaited_4 22 rfl rfl)
theorem dX1_awaited_118 : decode cX1_awaited 118 = .ok (.ladd, 1) := dk_97 (dk_at dksX1_awaited_4 23 rfl rfl)
theorem dX1_awaited_119 : decode cX1_awaited 119 = .ok (.lstore 5, 2) := dk_55 5 (dk_at dksX1_awaited_5 0 rfl rfl)
theorem dX1_awaited_121 : decode cX1_awaited 121 = .ok (.iinc 7 1, 3) := dk_132 7 1 (dk_at dksX1_awaited_5 2 rfl rfl)
theorem dX1_awaited_124 : decode cX1_awaited 124 = .ok (.goto (-118), 3) := dk_167 255 138 (dk_at dksX1_awaited_5 5 rfl rfl)
theorem dX1_awaited_127 : decode cX1_awaited 127 = .ok (.lload 5, 2) := dk_22 5 (dk_at dksX1_awaited_5 8 rfl rfl)
theorem dX1_awaited_129 : decode cX1_awaited 129 = .ok (.lreturn, 1) := dk_173 (dk_at dksX1_awaited_5 10 rfl rfl)
abbrev cX1_hundreds : ByteArray := prog_12_method_60_code
def yX1_hundreds : MethodName := ⟨RX1, "hundreds", "(I)J"⟩
def dkwX1_hundreds_0 : List UInt8 := [10, 64, 3, 62, 29, 26, 162, 0, 15, 31, 20, 1, 11, 105, 64, 132, 3, 1, 167, 255, 242, 31, 173]
abbrev dktX1_hundreds_0 : List UInt8 := dkwX1_hundreds_0 ++ []
theorem dksX1_hundreds_0 : cX1_hundreds.data.toList.drop 0 = dktX1_hundreds_0 := by decide +kernel
theorem dX1_hundreds_0 : decode cX1_hundreds 0 = .ok (.lconst 1, 1) := dk_10 (dk_at dksX1_hundreds_0 0 rfl rfl)
theorem dX1_hundreds_1 : decode cX1_hundreds 1 = .ok (.lstore_n 1, 1) := dk_64 (dk_at dksX1_hundreds_0 1 rfl rfl)
theorem dX1_hundreds_2 : decode cX1_hundreds 2 = .ok (.iconst 0, 1) := dk_3 (dk_at dksX1_hundreds_0 2 rfl rfl)
theorem dX1_hundreds_3 : decode cX1_hundreds 3 = .ok (.istore_n 3, 1) := dk_62 (dk_at dksX1_hundreds_0 3 rfl rfl)
theorem dX1_hundreds_4 : decode cX1_hundreds 4 = .ok (.iload_n 3, 1) := dk_29 (dk_at dksX1_hundreds_0 4 rfl rfl)
theorem dX1_hundreds_5 : decode cX1_hundreds 5 = .ok (.iload_n 0, 1) := dk_26 (dk_at dksX1_hundreds_0 5 rfl rfl)
theorem dX1_hundreds_6 : decode cX1_hundreds 6 = .ok (.if_icmp .ge 15, 3) := dk_162 0 15 (dk_at dksX1_hundreds_0 6 rfl rfl)
theorem dX1_hundreds_9 : decode cX1_hundreds 9 = .ok (.lload_n 1, 1) := dk_31 (dk_at dksX1_hundreds_0 9 rfl rfl)
theorem dX1_hundreds_10 : decode cX1_hundreds 10 = .ok (.ldc2_w 267, 3) := dk_20 1 11 (dk_at dksX1_hundreds_0 10 rfl rfl)
theorem dX1_hundreds_13 : decode cX1_hundreds 13 = .ok (.lmul, 1) := dk_105 (dk_at dksX1_hundreds_0 13 rfl rfl)
theorem dX1_hundreds_14 : decode cX1_hundreds 14 = .ok (.lstore_n 1, 1) := dk_64 (dk_at dksX1_hundreds_0 14 rfl rfl)
theorem dX1_hundreds_15 : decode cX1_hundreds 15 = .ok (.iinc 3 1, 3) := dk_132 3 1 (dk_at dksX1_hundreds_0 15 rfl rfl)
theorem dX1_hundreds_18 : decode cX1_hundreds 18 = .ok (.goto (-14), 3) := dk_167 255 242 (dk_at dksX1_hundreds_0 18 rfl rfl)
theorem dX1_hundreds_21 : decode cX1_hundreds 21 = .ok (.lload_n 1, 1) := dk_31 (dk_at dksX1_hundreds_0 21 rfl rfl)
theorem dX1_hundreds_22 : decode cX1_hundreds 22 = .ok (.lreturn, 1) := dk_173 (dk_at dksX1_hundreds_0 22 rfl rfl)
abbrev cX1_share : ByteArray := prog_12_method_6_code
def yX1_share : MethodName := ⟨RX1, "share", "(JJI)J"⟩
def dkwX1_share_2 : List UInt8 := [22, 5, 109, 167, 0, 7, 32, 22, 5, 109, 173]
abbrev dktX1_share_2 : List UInt8 := dkwX1_share_2 ++ []
def dkwX1_share_1 : List UInt8 := [22, 5, 22, 7, 113, 55, 9, 22, 7, 55, 5, 22, 9, 55, 7, 167, 255, 234, 21, 4, 154, 0, 10, 30]
abbrev dktX1_share_1 : List UInt8 := dkwX1_share_1 ++ dktX1_share_2
def dkwX1_share_0 : List UInt8 := [30, 9, 148, 156, 0, 8, 30, 117, 167, 0, 4, 30, 55, 5, 32, 55, 7, 22, 7, 9, 148, 153, 0, 21]
abbrev dktX1_share_0 : List UInt8 := dkwX1_share_0 ++ dktX1_share_1
theorem dksX1_share_0 : cX1_share.data.toList.drop 0 = dktX1_share_0 := by decide +kernel
theorem dksX1_share_1 : cX1_share.data.toList.drop 24 = dktX1_share_1 := dk_seg dksX1_share_0 24 rfl rfl
theorem dksX1_share_2 : cX1_share.data.toList.drop 48 = dktX1_share_2 := dk_seg dksX1_share_1 24 rfl rfl
theorem dX1_share_0 : decode cX1_share 0 = .ok (.lload_n 0, 1) := dk_30 (dk_at dksX1_share_0 0 rfl rfl)
theorem dX1_share_1 : decode cX1_share 1 = .ok (.lconst 0, 1) := dk_9 (dk_at dksX1_share_0 1 rfl rfl)
theorem dX1_share_2 : decode cX1_share 2 = .ok (.lcmp, 1) := dk_148 (dk_at dksX1_share_0 2 rfl rfl)
theorem dX1_share_3 : decode cX1_share 3 = .ok (.ifCond .ge 8, 3) := dk_156 0 8 (dk_at dksX1_share_0 3 rfl rfl)
theorem dX1_share_6 : decode cX1_share 6 = .ok (.lload_n 0, 1) := dk_30 (dk_at dksX1_share_0 6 rfl rfl)
theorem dX1_share_7 : decode cX1_share 7 = .ok (.lneg, 1) := dk_117 (dk_at dksX1_share_0 7 rfl rfl)
theorem dX1_share_8 : decode cX1_share 8 = .ok (.goto 4, 3) := dk_167 0 4 (dk_at dksX1_share_0 8 rfl rfl)
theorem dX1_share_11 : decode cX1_share 11 = .ok (.lload_n 0, 1) := dk_30 (dk_at dksX1_share_0 11 rfl rfl)
theorem dX1_share_12 : decode cX1_share 12 = .ok (.lstore 5, 2) := dk_55 5 (dk_at dksX1_share_0 12 rfl rfl)
theorem dX1_share_14 : decode cX1_share 14 = .ok (.lload_n 2, 1) := dk_32 (dk_at dksX1_share_0 14 rfl rfl)
theorem dX1_share_15 : decode cX1_share 15 = .ok (.lstore 7, 2) := dk_55 7 (dk_at dksX1_share_0 15 rfl rfl)
theorem dX1_share_17 : decode cX1_share 17 = .ok (.lload 7, 2) := dk_22 7 (dk_at dksX1_share_0 17 rfl rfl)
theorem dX1_share_19 : decode cX1_share 19 = .ok (.lconst 0, 1) := dk_9 (dk_at dksX1_share_0 19 rfl rfl)
theorem dX1_share_20 : decode cX1_share 20 = .ok (.lcmp, 1) := dk_148 (dk_at dksX1_share_0 20 rfl rfl)
theorem dX1_share_21 : decode cX1_share 21 = .ok (.ifCond .eq 21, 3) := dk_153 0 21 (dk_at dksX1_share_0 21 rfl rfl)
theorem dX1_share_24 : decode cX1_share 24 = .ok (.lload 5, 2) := dk_22 5 (dk_at dksX1_share_1 0 rfl rfl)
theorem dX1_share_26 : decode cX1_share 26 = .ok (.lload 7, 2) := dk_22 7 (dk_at dksX1_share_1 2 rfl rfl)
theorem dX1_share_28 : decode cX1_share 28 = .ok (.lrem, 1) := dk_113 (dk_at dksX1_share_1 4 rfl rfl)
theorem dX1_share_29 : decode cX1_share 29 = .ok (.lstore 9, 2) := dk_55 9 (dk_at dksX1_share_1 5 rfl rfl)
theorem dX1_share_31 : decode cX1_share 31 = .ok (.lload 7, 2) := dk_22 7 (dk_at dksX1_share_1 7 rfl rfl)
theorem dX1_share_33 : decode cX1_share 33 = .ok (.lstore 5, 2) := dk_55 5 (dk_at dksX1_share_1 9 rfl rfl)
theorem dX1_share_35 : decode cX1_share 35 = .ok (.lload 9, 2) := dk_22 9 (dk_at dksX1_share_1 11 rfl rfl)
theorem dX1_share_37 : decode cX1_share 37 = .ok (.lstore 7, 2) := dk_55 7 (dk_at dksX1_share_1 13 rfl rfl)
theorem dX1_share_39 : decode cX1_share 39 = .ok (.goto (-22), 3) := dk_167 255 234 (dk_at dksX1_share_1 15 rfl rfl)
theorem dX1_share_42 : decode cX1_share 42 = .ok (.iload 4, 2) := dk_21 4 (dk_at dksX1_share_1 18 rfl rfl)
theorem dX1_share_44 : decode cX1_share 44 = .ok (.ifCond .ne 10, 3) := dk_154 0 10 (dk_at dksX1_share_1 20 rfl rfl)
theorem dX1_share_47 : decode cX1_share 47 = .ok (.lload_n 0, 1) := dk_30 (dk_at dksX1_share_1 23 rfl rfl)
theorem dX1_share_48 : decode cX1_share 48 = .ok (.lload 5, 2) := dk_22 5 (dk_at dksX1_share_2 0 rfl rfl)
theorem dX1_share_50 : decode cX1_share 50 = .ok (.ldiv, 1) := dk_109 (dk_at dksX1_share_2 2 rfl rfl)
theorem dX1_share_51 : decode cX1_share 51 = .ok (.goto 7, 3) := dk_167 0 7 (dk_at dksX1_share_2 3 rfl rfl)
theorem dX1_share_54 : decode cX1_share 54 = .ok (.lload_n 2, 1) := dk_32 (dk_at dksX1_share_2 6 rfl rfl)
theorem dX1_share_55 : decode cX1_share 55 = .ok (.lload 5, 2) := dk_22 5 (dk_at dksX1_share_2 7 rfl rfl)
theorem dX1_share_57 : decode cX1_share 57 = .ok (.ldiv, 1) := dk_109 (dk_at dksX1_share_2 9 rfl rfl)
theorem dX1_share_58 : decode cX1_share 58 = .ok (.lreturn, 1) := dk_173 (dk_at dksX1_share_2 10 rfl rfl)
abbrev cX1_take : ByteArray := prog_12_method_63_code
def yX1_take : MethodName := ⟨RX1, "take", "(IIII)I"⟩
def dkwX1_take_3 : List UInt8 := [132, 8, 1, 167, 255, 209, 21, 5, 172]
abbrev dktX1_take_3 : List UInt8 := dkwX1_take_3 ++ []
def dkwX1_take_2 : List UInt8 := [184, 1, 21, 105, 55, 9, 22, 9, 22, 6, 148, 158, 0, 11, 22, 9, 55, 6, 21, 8, 54, 5]
abbrev dktX1_take_2 : List UInt8 := dkwX1_take_2 ++ dktX1_take_3
def dkwX1_take_1 : List UInt8 := [21, 8, 16, 8, 163, 0, 46, 21, 8, 27, 28, 29, 21, 4, 184, 1, 17, 16, 8, 21, 8, 100]
abbrev dktX1_take_1 : List UInt8 := dkwX1_take_1 ++ dktX1_take_2
def dkwX1_take_0 : List UInt8 := [27, 28, 29, 21, 4, 184, 1, 13, 154, 0, 6, 16, 254, 172, 3, 54, 5, 9, 55, 6, 4, 54, 8]
abbrev dktX1_take_0 : List UInt8 := dkwX1_take_0 ++ dktX1_take_1
theorem dksX1_take_0 : cX1_take.data.toList.drop 0 = dktX1_take_0 := by decide +kernel
theorem dksX1_take_1 : cX1_take.data.toList.drop 23 = dktX1_take_1 := dk_seg dksX1_take_0 23 rfl rfl
theorem dksX1_take_2 : cX1_take.data.toList.drop 45 = dktX1_take_2 := dk_seg dksX1_take_1 22 rfl rfl
theorem dksX1_take_3 : cX1_take.data.toList.drop 67 = dktX1_take_3 := dk_seg dksX1_take_2 22 rfl rfl
theorem dX1_take_0 : decode cX1_take 0 = .ok (.iload_n 1, 1) := dk_27 (dk_at dksX1_take_0 0 rfl rfl)
theorem dX1_take_1 : decode cX1_take 1 = .ok (.iload_n 2, 1) := dk_28 (dk_at dksX1_take_0 1 rfl rfl)
theorem dX1_take_2 : decode cX1_take 2 = .ok (.iload_n 3, 1) := dk_29 (dk_at dksX1_take_0 2 rfl rfl)
theorem dX1_take_3 : decode cX1_take 3 = .ok (.iload 4, 2) := dk_21 4 (dk_at dksX1_take_0 3 rfl rfl)
theorem dX1_take_5 : decode cX1_take 5 = .ok (.invokestatic 269, 3) := dk_184 1 13 (dk_at dksX1_take_0 5 rfl rfl)
theorem dX1_take_8 : decode cX1_take 8 = .ok (.ifCond .ne 6, 3) := dk_154 0 6 (dk_at dksX1_take_0 8 rfl rfl)
theorem dX1_take_11 : decode cX1_take 11 = .ok (.bipush (-2), 2) := dk_16 254 (dk_at dksX1_take_0 11 rfl rfl)
theorem dX1_take_13 : decode cX1_take 13 = .ok (.ireturn, 1) := dk_172 (dk_at dksX1_take_0 13 rfl rfl)
theorem dX1_take_14 : decode cX1_take 14 = .ok (.iconst 0, 1) := dk_3 (dk_at dksX1_take_0 14 rfl rfl)
theorem dX1_take_15 : decode cX1_take 15 = .ok (.istore 5, 2) := dk_54 5 (dk_at dksX1_take_0 15 rfl rfl)
theorem dX1_take_17 : decode cX1_take 17 = .ok (.lconst 0, 1) := dk_9 (dk_at dksX1_take_0 17 rfl rfl)
theorem dX1_take_18 : decode cX1_take 18 = .ok (.lstore 6, 2) := dk_55 6 (dk_at dksX1_take_0 18 rfl rfl)
theorem dX1_take_20 : decode cX1_take 20 = .ok (.iconst 1, 1) := dk_4 (dk_at dksX1_take_0 20 rfl rfl)
theorem dX1_take_21 : decode cX1_take 21 = .ok (.istore 8, 2) := dk_54 8 (dk_at dksX1_take_0 21 rfl rfl)
theorem dX1_take_23 : decode cX1_take 23 = .ok (.iload 8, 2) := dk_21 8 (dk_at dksX1_take_1 0 rfl rfl)
theorem dX1_take_25 : decode cX1_take 25 = .ok (.bipush 8, 2) := dk_16 8 (dk_at dksX1_take_1 2 rfl rfl)
theorem dX1_take_27 : decode cX1_take 27 = .ok (.if_icmp .gt 46, 3) := dk_163 0 46 (dk_at dksX1_take_1 4 rfl rfl)
theorem dX1_take_30 : decode cX1_take 30 = .ok (.iload 8, 2) := dk_21 8 (dk_at dksX1_take_1 7 rfl rfl)
theorem dX1_take_32 : decode cX1_take 32 = .ok (.iload_n 1, 1) := dk_27 (dk_at dksX1_take_1 9 rfl rfl)
theorem dX1_take_33 : decode cX1_take 33 = .ok (.iload_n 2, 1) := dk_28 (dk_at dksX1_take_1 10 rfl rfl)
theorem dX1_take_34 : decode cX1_take 34 = .ok (.iload_n 3, 1) := dk_29 (dk_at dksX1_take_1 11 rfl rfl)
theorem dX1_take_35 : decode cX1_take 35 = .ok (.iload 4, 2) := dk_21 4 (dk_at dksX1_take_1 12 rfl rfl)
theorem dX1_take_37 : decode cX1_take 37 = .ok (.invokestatic 273, 3) := dk_184 1 17 (dk_at dksX1_take_1 14 rfl rfl)
theorem dX1_take_40 : decode cX1_take 40 = .ok (.bipush 8, 2) := dk_16 8 (dk_at dksX1_take_1 17 rfl rfl)
theorem dX1_take_42 : decode cX1_take 42 = .ok (.iload 8, 2) := dk_21 8 (dk_at dksX1_take_1 19 rfl rfl)
theorem dX1_take_44 : decode cX1_take 44 = .ok (.isub, 1) := dk_100 (dk_at dksX1_take_1 21 rfl rfl)
theorem dX1_take_45 : decode cX1_take 45 = .ok (.invokestatic 277, 3) := dk_184 1 21 (dk_at dksX1_take_2 0 rfl rfl)
theorem dX1_take_48 : decode cX1_take 48 = .ok (.lmul, 1) := dk_105 (dk_at dksX1_take_2 3 rfl rfl)
theorem dX1_take_49 : decode cX1_take 49 = .ok (.lstore 9, 2) := dk_55 9 (dk_at dksX1_take_2 4 rfl rfl)
theorem dX1_take_51 : decode cX1_take 51 = .ok (.lload 9, 2) := dk_22 9 (dk_at dksX1_take_2 6 rfl rfl)
theorem dX1_take_53 : decode cX1_take 53 = .ok (.lload 6, 2) := dk_22 6 (dk_at dksX1_take_2 8 rfl rfl)
theorem dX1_take_55 : decode cX1_take 55 = .ok (.lcmp, 1) := dk_148 (dk_at dksX1_take_2 10 rfl rfl)
theorem dX1_take_56 : decode cX1_take 56 = .ok (.ifCond .le 11, 3) := dk_158 0 11 (dk_at dksX1_take_2 11 rfl rfl)
theorem dX1_take_59 : decode cX1_take 59 = .ok (.lload 9, 2) := dk_22 9 (dk_at dksX1_take_2 14 rfl rfl)
theorem dX1_take_61 : decode cX1_take 61 = .ok (.lstore 6, 2) := dk_55 6 (dk_at dksX1_take_2 16 rfl rfl)
theorem dX1_take_63 : decode cX1_take 63 = .ok (.iload 8, 2) := dk_21 8 (dk_at dksX1_take_2 18 rfl rfl)
theorem dX1_take_65 : decode cX1_take 65 = .ok (.istore 5, 2) := dk_54 5 (dk_at dksX1_take_2 20 rfl rfl)
theorem dX1_take_67 : decode cX1_take 67 = .ok (.iinc 8 1, 3) := dk_132 8 1 (dk_at dksX1_take_3 0 rfl rfl)
theorem dX1_take_70 : decode cX1_take 70 = .ok (.goto (-47), 3) := dk_167 255 209 (dk_at dksX1_take_3 3 rfl rfl)
theorem dX1_take_73 : decode cX1_take 73 = .ok (.iload 5, 2) := dk_21 5 (dk_at dksX1_take_3 6 rfl rfl)
theorem dX1_take_75 : decode cX1_take 75 = .ok (.ireturn, 1) := dk_172 (dk_at dksX1_take_3 8 rfl rfl)
abbrev cX1_sheet : ByteArray := prog_12_method_64_code
def yX1_sheet : MethodName := ⟨RX1, "sheet", "(III)I"⟩
def dkwX1_sheet_3 : List UInt8 := [21, 4, 96, 3, 79, 132, 4, 1, 167, 255, 233, 4, 172]
abbrev dktX1_sheet_3 : List UInt8 := dkwX1_sheet_3 ++ []
def dkwX1_sheet_2 : List UInt8 := [180, 0, 13, 27, 29, 79, 3, 54, 4, 21, 4, 16, 40, 162, 0, 22, 42, 180, 0, 16, 16, 40, 27, 104]
abbrev dktX1_sheet_2 : List UInt8 := dkwX1_sheet_2 ++ dktX1_sheet_3
def dkwX1_sheet_1 : List UInt8 := [164, 0, 6, 16, 254, 172, 29, 156, 0, 9, 42, 7, 182, 0, 125, 172, 42, 180, 0, 9, 27, 28, 79, 42]
abbrev dktX1_sheet_1 : List UInt8 := dkwX1_sheet_1 ++ dktX1_sheet_2
def dkwX1_sheet_0 : List UInt8 := [42, 3, 181, 0, 99, 27, 184, 0, 114, 154, 0, 5, 2, 172, 28, 184, 0, 118, 153, 0, 9, 29, 16, 40]
abbrev dktX1_sheet_0 : List UInt8 := dkwX1_sheet_0 ++ dktX1_sheet_1
theorem dksX1_sheet_0 : cX1_sheet.data.toList.drop 0 = dktX1_sheet_0 := by decide +kernel
theorem dksX1_sheet_1 : cX1_sheet.data.toList.drop 24 = dktX1_sheet_1 := dk_seg dksX1_sheet_0 24 rfl rfl
theorem dksX1_sheet_2 : cX1_sheet.data.toList.drop 48 = dktX1_sheet_2 := dk_seg dksX1_sheet_1 24 rfl rfl
theorem dksX1_sheet_3 : cX1_sheet.data.toList.drop 72 = dktX1_sheet_3 := dk_seg dksX1_sheet_2 24 rfl rfl
theorem dX1_sheet_0 : decode cX1_sheet 0 = .ok (.aload_n 0, 1) := dk_42 (dk_at dksX1_sheet_0 0 rfl rfl)
theorem dX1_sheet_1 : decode cX1_sheet 1 = .ok (.iconst 0, 1) := dk_3 (dk_at dksX1_sheet_0 1 rfl rfl)
theorem dX1_sheet_2 : decode cX1_sheet 2 = .ok (.putfield 99, 3) := dk_181 0 99 (dk_at dksX1_sheet_0 2 rfl rfl)
theorem dX1_sheet_5 : decode cX1_sheet 5 = .ok (.iload_n 1, 1) := dk_27 (dk_at dksX1_sheet_0 5 rfl rfl)
theorem dX1_sheet_6 : decode cX1_sheet 6 = .ok (.invokestatic 114, 3) := dk_184 0 114 (dk_at dksX1_sheet_0 6 rfl rfl)
theorem dX1_sheet_9 : decode cX1_sheet 9 = .ok (.ifCond .ne 5, 3) := dk_154 0 5 (dk_at dksX1_sheet_0 9 rfl rfl)
theorem dX1_sheet_12 : decode cX1_sheet 12 = .ok (.iconst (-1), 1) := dk_2 (dk_at dksX1_sheet_0 12 rfl rfl)
theorem dX1_sheet_13 : decode cX1_sheet 13 = .ok (.ireturn, 1) := dk_172 (dk_at dksX1_sheet_0 13 rfl rfl)
theorem dX1_sheet_14 : decode cX1_sheet 14 = .ok (.iload_n 2, 1) := dk_28 (dk_at dksX1_sheet_0 14 rfl rfl)
theorem dX1_sheet_15 : decode cX1_sheet 15 = .ok (.invokestatic 118, 3) := dk_184 0 118 (dk_at dksX1_sheet_0 15 rfl rfl)
theorem dX1_sheet_18 : decode cX1_sheet 18 = .ok (.ifCond .eq 9, 3) := dk_153 0 9 (dk_at dksX1_sheet_0 18 rfl rfl)
theorem dX1_sheet_21 : decode cX1_sheet 21 = .ok (.iload_n 3, 1) := dk_29 (dk_at dksX1_sheet_0 21 rfl rfl)
theorem dX1_sheet_22 : decode cX1_sheet 22 = .ok (.bipush 40, 2) := dk_16 40 (dk_at dksX1_sheet_0 22 rfl rfl)
theorem dX1_sheet_24 : decode cX1_sheet 24 = .ok (.if_icmp .le 6, 3) := dk_164 0 6 (dk_at dksX1_sheet_1 0 rfl rfl)
theorem dX1_sheet_27 : decode cX1_sheet 27 = .ok (.bipush (-2), 2) := dk_16 254 (dk_at dksX1_sheet_1 3 rfl rfl)
theorem dX1_sheet_29 : decode cX1_sheet 29 = .ok (.ireturn, 1) := dk_172 (dk_at dksX1_sheet_1 5 rfl rfl)
theorem dX1_sheet_30 : decode cX1_sheet 30 = .ok (.iload_n 3, 1) := dk_29 (dk_at dksX1_sheet_1 6 rfl rfl)
theorem dX1_sheet_31 : decode cX1_sheet 31 = .ok (.ifCond .ge 9, 3) := dk_156 0 9 (dk_at dksX1_sheet_1 7 rfl rfl)
theorem dX1_sheet_34 : decode cX1_sheet 34 = .ok (.aload_n 0, 1) := dk_42 (dk_at dksX1_sheet_1 10 rfl rfl)
theorem dX1_sheet_35 : decode cX1_sheet 35 = .ok (.iconst 4, 1) := dk_7 (dk_at dksX1_sheet_1 11 rfl rfl)
theorem dX1_sheet_36 : decode cX1_sheet 36 = .ok (.invokevirtual 125, 3) := dk_182 0 125 (dk_at dksX1_sheet_1 12 rfl rfl)
theorem dX1_sheet_39 : decode cX1_sheet 39 = .ok (.ireturn, 1) := dk_172 (dk_at dksX1_sheet_1 15 rfl rfl)
theorem dX1_sheet_40 : decode cX1_sheet 40 = .ok (.aload_n 0, 1) := dk_42 (dk_at dksX1_sheet_1 16 rfl rfl)
theorem dX1_sheet_41 : decode cX1_sheet 41 = .ok (.getfield 9, 3) := dk_180 0 9 (dk_at dksX1_sheet_1 17 rfl rfl)
theorem dX1_sheet_44 : decode cX1_sheet 44 = .ok (.iload_n 1, 1) := dk_27 (dk_at dksX1_sheet_1 20 rfl rfl)
theorem dX1_sheet_45 : decode cX1_sheet 45 = .ok (.iload_n 2, 1) := dk_28 (dk_at dksX1_sheet_1 21 rfl rfl)
theorem dX1_sheet_46 : decode cX1_sheet 46 = .ok (.iastore, 1) := dk_79 (dk_at dksX1_sheet_1 22 rfl rfl)
theorem dX1_sheet_47 : decode cX1_sheet 47 = .ok (.aload_n 0, 1) := dk_42 (dk_at dksX1_sheet_1 23 rfl rfl)
theorem dX1_sheet_48 : decode cX1_sheet 48 = .ok (.getfield 13, 3) := dk_180 0 13 (dk_at dksX1_sheet_2 0 rfl rfl)
theorem dX1_sheet_51 : decode cX1_sheet 51 = .ok (.iload_n 1, 1) := dk_27 (dk_at dksX1_sheet_2 3 rfl rfl)
theorem dX1_sheet_52 : decode cX1_sheet 52 = .ok (.iload_n 3, 1) := dk_29 (dk_at dksX1_sheet_2 4 rfl rfl)
theorem dX1_sheet_53 : decode cX1_sheet 53 = .ok (.iastore, 1) := dk_79 (dk_at dksX1_sheet_2 5 rfl rfl)
theorem dX1_sheet_54 : decode cX1_sheet 54 = .ok (.iconst 0, 1) := dk_3 (dk_at dksX1_sheet_2 6 rfl rfl)
theorem dX1_sheet_55 : decode cX1_sheet 55 = .ok (.istore 4, 2) := dk_54 4 (dk_at dksX1_sheet_2 7 rfl rfl)
theorem dX1_sheet_57 : decode cX1_sheet 57 = .ok (.iload 4, 2) := dk_21 4 (dk_at dksX1_sheet_2 9 rfl rfl)
theorem dX1_sheet_59 : decode cX1_sheet 59 = .ok (.bipush 40, 2) := dk_16 40 (dk_at dksX1_sheet_2 11 rfl rfl)
theorem dX1_sheet_61 : decode cX1_sheet 61 = .ok (.if_icmp .ge 22, 3) := dk_162 0 22 (dk_at dksX1_sheet_2 13 rfl rfl)
theorem dX1_sheet_64 : decode cX1_sheet 64 = .ok (.aload_n 0, 1) := dk_42 (dk_at dksX1_sheet_2 16 rfl rfl)
theorem dX1_sheet_65 : decode cX1_sheet 65 = .ok (.getfield 16, 3) := dk_180 0 16 (dk_at dksX1_sheet_2 17 rfl rfl)
theorem dX1_sheet_68 : decode cX1_sheet 68 = .ok (.bipush 40, 2) := dk_16 40 (dk_at dksX1_sheet_2 20 rfl rfl)
theorem dX1_sheet_70 : decode cX1_sheet 70 = .ok (.iload_n 1, 1) := dk_27 (dk_at dksX1_sheet_2 22 rfl rfl)
theorem dX1_sheet_71 : decode cX1_sheet 71 = .ok (.imul, 1) := dk_104 (dk_at dksX1_sheet_2 23 rfl rfl)
theorem dX1_sheet_72 : decode cX1_sheet 72 = .ok (.iload 4, 2) := dk_21 4 (dk_at dksX1_sheet_3 0 rfl rfl)
theorem dX1_sheet_74 : decode cX1_sheet 74 = .ok (.iadd, 1) := dk_96 (dk_at dksX1_sheet_3 2 rfl rfl)
theorem dX1_sheet_75 : decode cX1_sheet 75 = .ok (.iconst 0, 1) := dk_3 (dk_at dksX1_sheet_3 3 rfl rfl)
theorem dX1_sheet_76 : decode cX1_sheet 76 = .ok (.iastore, 1) := dk_79 (dk_at dksX1_sheet_3 4 rfl rfl)
theorem dX1_sheet_77 : decode cX1_sheet 77 = .ok (.iinc 4 1, 3) := dk_132 4 1 (dk_at dksX1_sheet_3 5 rfl rfl)
theorem dX1_sheet_80 : decode cX1_sheet 80 = .ok (.goto (-23), 3) := dk_167 255 233 (dk_at dksX1_sheet_3 8 rfl rfl)
theorem dX1_sheet_83 : decode cX1_sheet 83 = .ok (.iconst 1, 1) := dk_4 (dk_at dksX1_sheet_3 11 rfl rfl)
theorem dX1_sheet_84 : decode cX1_sheet 84 = .ok (.ireturn, 1) := dk_172 (dk_at dksX1_sheet_3 12 rfl rfl)
abbrev cX1_lose : ByteArray := prog_12_method_65_code
def yX1_lose : MethodName := ⟨RX1, "lose", "(I)I"⟩
def dkwX1_lose_1 : List UInt8 := [4, 61, 42, 180, 0, 9, 27, 16, 247, 79, 28, 172]
abbrev dktX1_lose_1 : List UInt8 := dkwX1_lose_1 ++ []
def dkwX1_lose_0 : List UInt8 := [27, 184, 0, 114, 154, 0, 5, 2, 172, 42, 180, 0, 9, 27, 46, 16, 247, 160, 0, 7, 3, 167, 0, 4]
abbrev dktX1_lose_0 : List UInt8 := dkwX1_lose_0 ++ dktX1_lose_1
theorem dksX1_lose_0 : cX1_lose.data.toList.drop 0 = dktX1_lose_0 := by decide +kernel
theorem dksX1_lose_1 : cX1_lose.data.toList.drop 24 = dktX1_lose_1 := dk_seg dksX1_lose_0 24 rfl rfl
theorem dX1_lose_0 : decode cX1_lose 0 = .ok (.iload_n 1, 1) := dk_27 (dk_at dksX1_lose_0 0 rfl rfl)
theorem dX1_lose_1 : decode cX1_lose 1 = .ok (.invokestatic 114, 3) := dk_184 0 114 (dk_at dksX1_lose_0 1 rfl rfl)
theorem dX1_lose_4 : decode cX1_lose 4 = .ok (.ifCond .ne 5, 3) := dk_154 0 5 (dk_at dksX1_lose_0 4 rfl rfl)
theorem dX1_lose_7 : decode cX1_lose 7 = .ok (.iconst (-1), 1) := dk_2 (dk_at dksX1_lose_0 7 rfl rfl)
theorem dX1_lose_8 : decode cX1_lose 8 = .ok (.ireturn, 1) := dk_172 (dk_at dksX1_lose_0 8 rfl rfl)
theorem dX1_lose_9 : decode cX1_lose 9 = .ok (.aload_n 0, 1) := dk_42 (dk_at dksX1_lose_0 9 rfl rfl)
theorem dX1_lose_10 : decode cX1_lose 10 = .ok (.getfield 9, 3) := dk_180 0 9 (dk_at dksX1_lose_0 10 rfl rfl)
theorem dX1_lose_13 : decode cX1_lose 13 = .ok (.iload_n 1, 1) := dk_27 (dk_at dksX1_lose_0 13 rfl rfl)
theorem dX1_lose_14 : decode cX1_lose 14 = .ok (.iaload, 1) := dk_46 (dk_at dksX1_lose_0 14 rfl rfl)
theorem dX1_lose_15 : decode cX1_lose 15 = .ok (.bipush (-9), 2) := dk_16 247 (dk_at dksX1_lose_0 15 rfl rfl)
theorem dX1_lose_17 : decode cX1_lose 17 = .ok (.if_icmp .ne 7, 3) := dk_160 0 7 (dk_at dksX1_lose_0 17 rfl rfl)
theorem dX1_lose_20 : decode cX1_lose 20 = .ok (.iconst 0, 1) := dk_3 (dk_at dksX1_lose_0 20 rfl rfl)
theorem dX1_lose_21 : decode cX1_lose 21 = .ok (.goto 4, 3) := dk_167 0 4 (dk_at dksX1_lose_0 21 rfl rfl)
theorem dX1_lose_24 : decode cX1_lose 24 = .ok (.iconst 1, 1) := dk_4 (dk_at dksX1_lose_1 0 rfl rfl)
theorem dX1_lose_25 : decode cX1_lose 25 = .ok (.istore_n 2, 1) := dk_61 (dk_at dksX1_lose_1 1 rfl rfl)
theorem dX1_lose_26 : decode cX1_lose 26 = .ok (.aload_n 0, 1) := dk_42 (dk_at dksX1_lose_1 2 rfl rfl)
theorem dX1_lose_27 : decode cX1_lose 27 = .ok (.getfield 9, 3) := dk_180 0 9 (dk_at dksX1_lose_1 3 rfl rfl)
theorem dX1_lose_30 : decode cX1_lose 30 = .ok (.iload_n 1, 1) := dk_27 (dk_at dksX1_lose_1 6 rfl rfl)
theorem dX1_lose_31 : decode cX1_lose 31 = .ok (.bipush (-9), 2) := dk_16 247 (dk_at dksX1_lose_1 7 rfl rfl)
theorem dX1_lose_33 : decode cX1_lose 33 = .ok (.iastore, 1) := dk_79 (dk_at dksX1_lose_1 9 rfl rfl)
theorem dX1_lose_34 : decode cX1_lose 34 = .ok (.iload_n 2, 1) := dk_28 (dk_at dksX1_lose_1 10 rfl rfl)
theorem dX1_lose_35 : decode cX1_lose 35 = .ok (.ireturn, 1) := dk_172 (dk_at dksX1_lose_1 11 rfl rfl)
abbrev cX1_put : ByteArray := prog_12_method_66_code
def yX1_put : MethodName := ⟨RX1, "put", "(III)I"⟩
def dkwX1_put_4 : List UInt8 := [29, 79, 4, 172]
abbrev dktX1_put_4 : List UInt8 := dkwX1_put_4 ++ []
def dkwX1_put_3 : List UInt8 := [46, 154, 0, 8, 29, 145, 167, 0, 19, 42, 180, 0, 9, 27, 46, 4, 160, 0, 8, 29, 147, 167, 0, 4]
abbrev dktX1_put_3 : List UInt8 := dkwX1_put_3 ++ dktX1_put_4
def dkwX1_put_2 : List UInt8 := [154, 0, 9, 42, 6, 182, 0, 125, 172, 42, 180, 0, 16, 16, 40, 27, 104, 28, 96, 42, 180, 0, 9, 27]
abbrev dktX1_put_2 : List UInt8 := dkwX1_put_2 ++ dktX1_put_3
def dkwX1_put_1 : List UInt8 := [160, 0, 9, 42, 4, 182, 0, 125, 172, 28, 3, 42, 180, 0, 13, 27, 46, 4, 100, 184, 0, 104]
abbrev dktX1_put_1 : List UInt8 := dkwX1_put_1 ++ dktX1_put_2
def dkwX1_put_0 : List UInt8 := [42, 3, 181, 0, 99, 27, 184, 0, 114, 154, 0, 5, 2, 172, 42, 180, 0, 9, 27, 46, 16, 247]
abbrev dktX1_put_0 : List UInt8 := dkwX1_put_0 ++ dktX1_put_1
theorem dksX1_put_0 : cX1_put.data.toList.drop 0 = dktX1_put_0 := by decide +kernel
theorem dksX1_put_1 : cX1_put.data.toList.drop 22 = dktX1_put_1 := dk_seg dksX1_put_0 22 rfl rfl
theorem dksX1_put_2 : cX1_put.data.toList.drop 44 = dktX1_put_2 := dk_seg dksX1_put_1 22 rfl rfl
theorem dksX1_put_3 : cX1_put.data.toList.drop 68 = dktX1_put_3 := dk_seg dksX1_put_2 24 rfl rfl
theorem dksX1_put_4 : cX1_put.data.toList.drop 92 = dktX1_put_4 := dk_seg dksX1_put_3 24 rfl rfl
theorem dX1_put_0 : decode cX1_put 0 = .ok (.aload_n 0, 1) := dk_42 (dk_at dksX1_put_0 0 rfl rfl)
theorem dX1_put_1 : decode cX1_put 1 = .ok (.iconst 0, 1) := dk_3 (dk_at dksX1_put_0 1 rfl rfl)
theorem dX1_put_2 : decode cX1_put 2 = .ok (.putfield 99, 3) := dk_181 0 99 (dk_at dksX1_put_0 2 rfl rfl)
theorem dX1_put_5 : decode cX1_put 5 = .ok (.iload_n 1, 1) := dk_27 (dk_at dksX1_put_0 5 rfl rfl)
theorem dX1_put_6 : decode cX1_put 6 = .ok (.invokestatic 114, 3) := dk_184 0 114 (dk_at dksX1_put_0 6 rfl rfl)
theorem dX1_put_9 : decode cX1_put 9 = .ok (.ifCond .ne 5, 3) := dk_154 0 5 (dk_at dksX1_put_0 9 rfl rfl)
theorem dX1_put_12 : decode cX1_put 12 = .ok (.iconst (-1), 1) := dk_2 (dk_at dksX1_put_0 12 rfl rfl)
theorem dX1_put_13 : decode cX1_put 13 = .ok (.ireturn, 1) := dk_172 (dk_at dksX1_put_0 13 rfl rfl)
theorem dX1_put_14 : decode cX1_put 14 = .ok (.aload_n 0, 1) := dk_42 (dk_at dksX1_put_0 14 rfl rfl)
theorem dX1_put_15 : decode cX1_put 15 = .ok (.getfield 9, 3) := dk_180 0 9 (dk_at dksX1_put_0 15 rfl rfl)
theorem dX1_put_18 : decode cX1_put 18 = .ok (.iload_n 1, 1) := dk_27 (dk_at dksX1_put_0 18 rfl rfl)
theorem dX1_put_19 : decode cX1_put 19 = .ok (.iaload, 1) := dk_46 (dk_at dksX1_put_0 19 rfl rfl)
theorem dX1_put_20 : decode cX1_put 20 = .ok (.bipush (-9), 2) := dk_16 247 (dk_at dksX1_put_0 20 rfl rfl)
theorem dX1_put_22 : decode cX1_put 22 = .ok (.if_icmp .ne 9, 3) := dk_160 0 9 (dk_at dksX1_put_1 0 rfl rfl)
theorem dX1_put_25 : decode cX1_put 25 = .ok (.aload_n 0, 1) := dk_42 (dk_at dksX1_put_1 3 rfl rfl)
theorem dX1_put_26 : decode cX1_put 26 = .ok (.iconst 1, 1) := dk_4 (dk_at dksX1_put_1 4 rfl rfl)
theorem dX1_put_27 : decode cX1_put 27 = .ok (.invokevirtual 125, 3) := dk_182 0 125 (dk_at dksX1_put_1 5 rfl rfl)
theorem dX1_put_30 : decode cX1_put 30 = .ok (.ireturn, 1) := dk_172 (dk_at dksX1_put_1 8 rfl rfl)
theorem dX1_put_31 : decode cX1_put 31 = .ok (.iload_n 2, 1) := dk_28 (dk_at dksX1_put_1 9 rfl rfl)
theorem dX1_put_32 : decode cX1_put 32 = .ok (.iconst 0, 1) := dk_3 (dk_at dksX1_put_1 10 rfl rfl)
theorem dX1_put_33 : decode cX1_put 33 = .ok (.aload_n 0, 1) := dk_42 (dk_at dksX1_put_1 11 rfl rfl)
theorem dX1_put_34 : decode cX1_put 34 = .ok (.getfield 13, 3) := dk_180 0 13 (dk_at dksX1_put_1 12 rfl rfl)
theorem dX1_put_37 : decode cX1_put 37 = .ok (.iload_n 1, 1) := dk_27 (dk_at dksX1_put_1 15 rfl rfl)
theorem dX1_put_38 : decode cX1_put 38 = .ok (.iaload, 1) := dk_46 (dk_at dksX1_put_1 16 rfl rfl)
theorem dX1_put_39 : decode cX1_put 39 = .ok (.iconst 1, 1) := dk_4 (dk_at dksX1_put_1 17 rfl rfl)
theorem dX1_put_40 : decode cX1_put 40 = .ok (.isub, 1) := dk_100 (dk_at dksX1_put_1 18 rfl rfl)
theorem dX1_put_41 : decode cX1_put 41 = .ok (.invokestatic 104, 3) := dk_184 0 104 (dk_at dksX1_put_1 19 rfl rfl)
theorem dX1_put_44 : decode cX1_put 44 = .ok (.ifCond .ne 9, 3) := dk_154 0 9 (dk_at dksX1_put_2 0 rfl rfl)
theorem dX1_put_47 : decode cX1_put 47 = .ok (.aload_n 0, 1) := dk_42 (dk_at dksX1_put_2 3 rfl rfl)
theorem dX1_put_48 : decode cX1_put 48 = .ok (.iconst 3, 1) := dk_6 (dk_at dksX1_put_2 4 rfl rfl)
theorem dX1_put_49 : decode cX1_put 49 = .ok (.invokevirtual 125, 3) := dk_182 0 125 (dk_at dksX1_put_2 5 rfl rfl)
theorem dX1_put_52 : decode cX1_put 52 = .ok (.ireturn, 1) := dk_172 (dk_at dksX1_put_2 8 rfl rfl)
theorem dX1_put_53 : decode cX1_put 53 = .ok (.aload_n 0, 1) := dk_42 (dk_at dksX1_put_2 9 rfl rfl)
theorem dX1_put_54 : decode cX1_put 54 = .ok (.getfield 16, 3) := dk_180 0 16 (dk_at dksX1_put_2 10 rfl rfl)
theorem dX1_put_57 : decode cX1_put 57 = .ok (.bipush 40, 2) := dk_16 40 (dk_at dksX1_put_2 13 rfl rfl)
theorem dX1_put_59 : decode cX1_put 59 = .ok (.iload_n 1, 1) := dk_27 (dk_at dksX1_put_2 15 rfl rfl)
theorem dX1_put_60 : decode cX1_put 60 = .ok (.imul, 1) := dk_104 (dk_at dksX1_put_2 16 rfl rfl)
theorem dX1_put_61 : decode cX1_put 61 = .ok (.iload_n 2, 1) := dk_28 (dk_at dksX1_put_2 17 rfl rfl)
theorem dX1_put_62 : decode cX1_put 62 = .ok (.iadd, 1) := dk_96 (dk_at dksX1_put_2 18 rfl rfl)
theorem dX1_put_63 : decode cX1_put 63 = .ok (.aload_n 0, 1) := dk_42 (dk_at dksX1_put_2 19 rfl rfl)
theorem dX1_put_64 : decode cX1_put 64 = .ok (.getfield 9, 3) := dk_180 0 9 (dk_at dksX1_put_2 20 rfl rfl)
theorem dX1_put_67 : decode cX1_put 67 = .ok (.iload_n 1, 1) := dk_27 (dk_at dksX1_put_2 23 rfl rfl)
theorem dX1_put_68 : decode cX1_put 68 = .ok (.iaload, 1) := dk_46 (dk_at dksX1_put_3 0 rfl rfl)
theorem dX1_put_69 : decode cX1_put 69 = .ok (.ifCond .ne 8, 3) := dk_154 0 8 (dk_at dksX1_put_3 1 rfl rfl)
theorem dX1_put_72 : decode cX1_put 72 = .ok (.iload_n 3, 1) := dk_29 (dk_at dksX1_put_3 4 rfl rfl)
theorem dX1_put_73 : decode cX1_put 73 = .ok (.i2b, 1) := dk_145 (dk_at dksX1_put_3 5 rfl rfl)
theorem dX1_put_74 : decode cX1_put 74 = .ok (.goto 19, 3) := dk_167 0 19 (dk_at dksX1_put_3 6 rfl rfl)
theorem dX1_put_77 : decode cX1_put 77 = .ok (.aload_n 0, 1) := dk_42 (dk_at dksX1_put_3 9 rfl rfl)
theorem dX1_put_78 : decode cX1_put 78 = .ok (.getfield 9, 3) := dk_180 0 9 (dk_at dksX1_put_3 10 rfl rfl)
theorem dX1_put_81 : decode cX1_put 81 = .ok (.iload_n 1, 1) := dk_27 (dk_at dksX1_put_3 13 rfl rfl)
theorem dX1_put_82 : decode cX1_put 82 = .ok (.iaload, 1) := dk_46 (dk_at dksX1_put_3 14 rfl rfl)
theorem dX1_put_83 : decode cX1_put 83 = .ok (.iconst 1, 1) := dk_4 (dk_at dksX1_put_3 15 rfl rfl)
theorem dX1_put_84 : decode cX1_put 84 = .ok (.if_icmp .ne 8, 3) := dk_160 0 8 (dk_at dksX1_put_3 16 rfl rfl)
theorem dX1_put_87 : decode cX1_put 87 = .ok (.iload_n 3, 1) := dk_29 (dk_at dksX1_put_3 19 rfl rfl)
theorem dX1_put_88 : decode cX1_put 88 = .ok (.i2s, 1) := dk_147 (dk_at dksX1_put_3 20 rfl rfl)
theorem dX1_put_89 : decode cX1_put 89 = .ok (.goto 4, 3) := dk_167 0 4 (dk_at dksX1_put_3 21 rfl rfl)
theorem dX1_put_92 : decode cX1_put 92 = .ok (.iload_n 3, 1) := dk_29 (dk_at dksX1_put_4 0 rfl rfl)
theorem dX1_put_93 : decode cX1_put 93 = .ok (.iastore, 1) := dk_79 (dk_at dksX1_put_4 1 rfl rfl)
theorem dX1_put_94 : decode cX1_put 94 = .ok (.iconst 1, 1) := dk_4 (dk_at dksX1_put_4 2 rfl rfl)
theorem dX1_put_95 : decode cX1_put 95 = .ok (.ireturn, 1) := dk_172 (dk_at dksX1_put_4 3 rfl rfl)
abbrev cX1_cell : ByteArray := prog_12_method_67_code
def yX1_cell : MethodName := ⟨RX1, "cell", "(III)J"⟩
def dkwX1_cell_4 : List UInt8 := [16, 40, 27, 104, 28, 96, 46, 133, 173]
abbrev dktX1_cell_4 : List UInt8 := dkwX1_cell_4 ++ []
def dkwX1_cell_3 : List UInt8 := [180, 0, 13, 27, 46, 4, 100, 184, 0, 104, 154, 0, 9, 42, 6, 182, 1, 29, 173, 42, 180, 0, 16]
abbrev dktX1_cell_3 : List UInt8 := dkwX1_cell_3 ++ dktX1_cell_4
def dkwX1_cell_2 : List UInt8 := [182, 1, 29, 173, 42, 180, 0, 9, 27, 46, 16, 247, 160, 0, 9, 42, 4, 182, 1, 29, 173, 28, 3, 42]
abbrev dktX1_cell_2 : List UInt8 := dkwX1_cell_2 ++ dktX1_cell_3
def dkwX1_cell_1 : List UInt8 := [180, 0, 9, 27, 46, 16, 247, 159, 0, 19, 42, 180, 0, 9, 27, 46, 29, 159, 0, 9, 42, 5]
abbrev dktX1_cell_1 : List UInt8 := dkwX1_cell_1 ++ dktX1_cell_2
def dkwX1_cell_0 : List UInt8 := [42, 3, 181, 0, 99, 27, 184, 0, 114, 153, 0, 10, 29, 184, 0, 118, 154, 0, 7, 20, 0, 102, 173, 42]
abbrev dktX1_cell_0 : List UInt8 := dkwX1_cell_0 ++ dktX1_cell_1
theorem dksX1_cell_0 : cX1_cell.data.toList.drop 0 = dktX1_cell_0 := by decide +kernel
theorem dksX1_cell_1 : cX1_cell.data.toList.drop 24 = dktX1_cell_1 := dk_seg dksX1_cell_0 24 rfl rfl
theorem dksX1_cell_2 : cX1_cell.data.toList.drop 46 = dktX1_cell_2 := dk_seg dksX1_cell_1 22 rfl rfl
theorem dksX1_cell_3 : cX1_cell.data.toList.drop 70 = dktX1_cell_3 := dk_seg dksX1_cell_2 24 rfl rfl
theorem dksX1_cell_4 : cX1_cell.data.toList.drop 93 = dktX1_cell_4 := dk_seg dksX1_cell_3 23 rfl rfl
theorem dX1_cell_0 : decode cX1_cell 0 = .ok (.aload_n 0, 1) := dk_42 (dk_at dksX1_cell_0 0 rfl rfl)
theorem dX1_cell_1 : decode cX1_cell 1 = .ok (.iconst 0, 1) := dk_3 (dk_at dksX1_cell_0 1 rfl rfl)
theorem dX1_cell_2 : decode cX1_cell 2 = .ok (.putfield 99, 3) := dk_181 0 99 (dk_at dksX1_cell_0 2 rfl rfl)
theorem dX1_cell_5 : decode cX1_cell 5 = .ok (.iload_n 1, 1) := dk_27 (dk_at dksX1_cell_0 5 rfl rfl)
theorem dX1_cell_6 : decode cX1_cell 6 = .ok (.invokestatic 114, 3) := dk_184 0 114 (dk_at dksX1_cell_0 6 rfl rfl)
theorem dX1_cell_9 : decode cX1_cell 9 = .ok (.ifCond .eq 10, 3) := dk_153 0 10 (dk_at dksX1_cell_0 9 rfl rfl)
theorem dX1_cell_12 : decode cX1_cell 12 = .ok (.iload_n 3, 1) := dk_29 (dk_at dksX1_cell_0 12 rfl rfl)
theorem dX1_cell_13 : decode cX1_cell 13 = .ok (.invokestatic 118, 3) := dk_184 0 118 (dk_at dksX1_cell_0 13 rfl rfl)
theorem dX1_cell_16 : decode cX1_cell 16 = .ok (.ifCond .ne 7, 3) := dk_154 0 7 (dk_at dksX1_cell_0 16 rfl rfl)
theorem dX1_cell_19 : decode cX1_cell 19 = .ok (.ldc2_w 102, 3) := dk_20 0 102 (dk_at dksX1_cell_0 19 rfl rfl)
theorem dX1_cell_22 : decode cX1_cell 22 = .ok (.lreturn, 1) := dk_173 (dk_at dksX1_cell_0 22 rfl rfl)
theorem dX1_cell_23 : decode cX1_cell 23 = .ok (.aload_n 0, 1) := dk_42 (dk_at dksX1_cell_0 23 rfl rfl)
theorem dX1_cell_24 : decode cX1_cell 24 = .ok (.getfield 9, 3) := dk_180 0 9 (dk_at dksX1_cell_1 0 rfl rfl)
theorem dX1_cell_27 : decode cX1_cell 27 = .ok (.iload_n 1, 1) := dk_27 (dk_at dksX1_cell_1 3 rfl rfl)
theorem dX1_cell_28 : decode cX1_cell 28 = .ok (.iaload, 1) := dk_46 (dk_at dksX1_cell_1 4 rfl rfl)
theorem dX1_cell_29 : decode cX1_cell 29 = .ok (.bipush (-9), 2) := dk_16 247 (dk_at dksX1_cell_1 5 rfl rfl)
theorem dX1_cell_31 : decode cX1_cell 31 = .ok (.if_icmp .eq 19, 3) := dk_159 0 19 (dk_at dksX1_cell_1 7 rfl rfl)
theorem dX1_cell_34 : decode cX1_cell 34 = .ok (.aload_n 0, 1) := dk_42 (dk_at dksX1_cell_1 10 rfl rfl)
theorem dX1_cell_35 : decode cX1_cell 35 = .ok (.getfield 9, 3) := dk_180 0 9 (dk_at dksX1_cell_1 11 rfl rfl)
theorem dX1_cell_38 : decode cX1_cell 38 = .ok (.iload_n 1, 1) := dk_27 (dk_at dksX1_cell_1 14 rfl rfl)
theorem dX1_cell_39 : decode cX1_cell 39 = .ok (.iaload, 1) := dk_46 (dk_at dksX1_cell_1 15 rfl rfl)
theorem dX1_cell_40 : decode cX1_cell 40 = .ok (.iload_n 3, 1) := dk_29 (dk_at dksX1_cell_1 16 rfl rfl)
theorem dX1_cell_41 : decode cX1_cell 41 = .ok (.if_icmp .eq 9, 3) := dk_159 0 9 (dk_at dksX1_cell_1 17 rfl rfl)
theorem dX1_cell_44 : decode cX1_cell 44 = .ok (.aload_n 0, 1) := dk_42 (dk_at dksX1_cell_1 20 rfl rfl)
theorem dX1_cell_45 : decode cX1_cell 45 = .ok (.iconst 2, 1) := dk_5 (dk_at dksX1_cell_1 21 rfl rfl)
theorem dX1_cell_46 : decode cX1_cell 46 = .ok (.invokevirtual 285, 3) := dk_182 1 29 (dk_at dksX1_cell_2 0 rfl rfl)
theorem dX1_cell_49 : decode cX1_cell 49 = .ok (.lreturn, 1) := dk_173 (dk_at dksX1_cell_2 3 rfl rfl)
theorem dX1_cell_50 : decode cX1_cell 50 = .ok (.aload_n 0, 1) := dk_42 (dk_at dksX1_cell_2 4 rfl rfl)
theorem dX1_cell_51 : decode cX1_cell 51 = .ok (.getfield 9, 3) := dk_180 0 9 (dk_at dksX1_cell_2 5 rfl rfl)
theorem dX1_cell_54 : decode cX1_cell 54 = .ok (.iload_n 1, 1) := dk_27 (dk_at dksX1_cell_2 8 rfl rfl)
theorem dX1_cell_55 : decode cX1_cell 55 = .ok (.iaload, 1) := dk_46 (dk_at dksX1_cell_2 9 rfl rfl)
theorem dX1_cell_56 : decode cX1_cell 56 = .ok (.bipush (-9), 2) := dk_16 247 (dk_at dksX1_cell_2 10 rfl rfl)
theorem dX1_cell_58 : decode cX1_cell 58 = .ok (.if_icmp .ne 9, 3) := dk_160 0 9 (dk_at dksX1_cell_2 12 rfl rfl)
theorem dX1_cell_61 : decode cX1_cell 61 = .ok (.aload_n 0, 1) := dk_42 (dk_at dksX1_cell_2 15 rfl rfl)
theorem dX1_cell_62 : decode cX1_cell 62 = .ok (.iconst 1, 1) := dk_4 (dk_at dksX1_cell_2 16 rfl rfl)
theorem dX1_cell_63 : decode cX1_cell 63 = .ok (.invokevirtual 285, 3) := dk_182 1 29 (dk_at dksX1_cell_2 17 rfl rfl)
theorem dX1_cell_66 : decode cX1_cell 66 = .ok (.lreturn, 1) := dk_173 (dk_at dksX1_cell_2 20 rfl rfl)
theorem dX1_cell_67 : decode cX1_cell 67 = .ok (.iload_n 2, 1) := dk_28 (dk_at dksX1_cell_2 21 rfl rfl)
theorem dX1_cell_68 : decode cX1_cell 68 = .ok (.iconst 0, 1) := dk_3 (dk_at dksX1_cell_2 22 rfl rfl)
theorem dX1_cell_69 : decode cX1_cell 69 = .ok (.aload_n 0, 1) := dk_42 (dk_at dksX1_cell_2 23 rfl rfl)
theorem dX1_cell_70 : decode cX1_cell 70 = .ok (.getfield 13, 3) := dk_180 0 13 (dk_at dksX1_cell_3 0 rfl rfl)
theorem dX1_cell_73 : decode cX1_cell 73 = .ok (.iload_n 1, 1) := dk_27 (dk_at dksX1_cell_3 3 rfl rfl)
theorem dX1_cell_74 : decode cX1_cell 74 = .ok (.iaload, 1) := dk_46 (dk_at dksX1_cell_3 4 rfl rfl)
theorem dX1_cell_75 : decode cX1_cell 75 = .ok (.iconst 1, 1) := dk_4 (dk_at dksX1_cell_3 5 rfl rfl)
theorem dX1_cell_76 : decode cX1_cell 76 = .ok (.isub, 1) := dk_100 (dk_at dksX1_cell_3 6 rfl rfl)
theorem dX1_cell_77 : decode cX1_cell 77 = .ok (.invokestatic 104, 3) := dk_184 0 104 (dk_at dksX1_cell_3 7 rfl rfl)
theorem dX1_cell_80 : decode cX1_cell 80 = .ok (.ifCond .ne 9, 3) := dk_154 0 9 (dk_at dksX1_cell_3 10 rfl rfl)
theorem dX1_cell_83 : decode cX1_cell 83 = .ok (.aload_n 0, 1) := dk_42 (dk_at dksX1_cell_3 13 rfl rfl)
theorem dX1_cell_84 : decode cX1_cell 84 = .ok (.iconst 3, 1) := dk_6 (dk_at dksX1_cell_3 14 rfl rfl)
theorem dX1_cell_85 : decode cX1_cell 85 = .ok (.invokevirtual 285, 3) := dk_182 1 29 (dk_at dksX1_cell_3 15 rfl rfl)
theorem dX1_cell_88 : decode cX1_cell 88 = .ok (.lreturn, 1) := dk_173 (dk_at dksX1_cell_3 18 rfl rfl)
theorem dX1_cell_89 : decode cX1_cell 89 = .ok (.aload_n 0, 1) := dk_42 (dk_at dksX1_cell_3 19 rfl rfl)
theorem dX1_cell_90 : decode cX1_cell 90 = .ok (.getfield 16, 3) := dk_180 0 16 (dk_at dksX1_cell_3 20 rfl rfl)
theorem dX1_cell_93 : decode cX1_cell 93 = .ok (.bipush 40, 2) := dk_16 40 (dk_at dksX1_cell_4 0 rfl rfl)
theorem dX1_cell_95 : decode cX1_cell 95 = .ok (.iload_n 1, 1) := dk_27 (dk_at dksX1_cell_4 2 rfl rfl)
theorem dX1_cell_96 : decode cX1_cell 96 = .ok (.imul, 1) := dk_104 (dk_at dksX1_cell_4 3 rfl rfl)
theorem dX1_cell_97 : decode cX1_cell 97 = .ok (.iload_n 2, 1) := dk_28 (dk_at dksX1_cell_4 4 rfl rfl)
theorem dX1_cell_98 : decode cX1_cell 98 = .ok (.iadd, 1) := dk_96 (dk_at dksX1_cell_4 5 rfl rfl)
theorem dX1_cell_99 : decode cX1_cell 99 = .ok (.iaload, 1) := dk_46 (dk_at dksX1_cell_4 6 rfl rfl)
theorem dX1_cell_100 : decode cX1_cell 100 = .ok (.i2l, 1) := dk_133 (dk_at dksX1_cell_4 7 rfl rfl)
theorem dX1_cell_101 : decode cX1_cell 101 = .ok (.lreturn, 1) := dk_173 (dk_at dksX1_cell_4 8 rfl rfl)
abbrev cX1_lost : ByteArray := prog_12_method_4_code
def yX1_lost : MethodName := ⟨RX1, "lost", "(I)J"⟩
def dkwX1_lost_0 : List UInt8 := [42, 27, 181, 0, 99, 20, 0, 102, 173]
abbrev dktX1_lost_0 : List UInt8 := dkwX1_lost_0 ++ []
theorem dksX1_lost_0 : cX1_lost.data.toList.drop 0 = dktX1_lost_0 := by decide +kernel
theorem dX1_lost_0 : decode cX1_lost 0 = .ok (.aload_n 0, 1) := dk_42 (dk_at dksX1_lost_0 0 rfl rfl)
theorem dX1_lost_1 : decode cX1_lost 1 = .ok (.iload_n 1, 1) := dk_27 (dk_at dksX1_lost_0 1 rfl rfl)
theorem dX1_lost_2 : decode cX1_lost 2 = .ok (.putfield 99, 3) := dk_181 0 99 (dk_at dksX1_lost_0 2 rfl rfl)
theorem dX1_lost_5 : decode cX1_lost 5 = .ok (.ldc2_w 102, 3) := dk_20 0 102 (dk_at dksX1_lost_0 5 rfl rfl)
theorem dX1_lost_8 : decode cX1_lost 8 = .ok (.lreturn, 1) := dk_173 (dk_at dksX1_lost_0 8 rfl rfl)
abbrev cX1_copy : ByteArray := prog_12_method_68_code
def yX1_copy : MethodName := ⟨RX1, "copy", "(IIIII)I"⟩
def dkwX1_copy_9 : List UInt8 := [180, 0, 16, 16, 40, 27, 104, 28, 96, 21, 9, 96, 46, 79, 132, 8, 1, 167, 255, 198, 21, 5, 172]
abbrev dktX1_copy_9 : List UInt8 := dkwX1_copy_9 ++ []
def dkwX1_copy_8 : List UInt8 := [167, 0, 5, 21, 8, 54, 9, 42, 180, 0, 16, 16, 40, 29, 104, 21, 4, 96, 21, 9, 96, 42]
abbrev dktX1_copy_8 : List UInt8 := dkwX1_copy_8 ++ dktX1_copy_9
def dkwX1_copy_7 : List UInt8 := [54, 7, 3, 54, 8, 21, 8, 21, 5, 162, 0, 57, 21, 7, 153, 0, 13, 21, 5, 4, 100, 21, 8, 100]
abbrev dktX1_copy_7 : List UInt8 := dkwX1_copy_7 ++ dktX1_copy_8
def dkwX1_copy_6 : List UInt8 := [21, 4, 100, 164, 0, 9, 42, 6, 182, 0, 125, 172, 28, 21, 4, 162, 0, 7, 4, 167, 0, 4, 3]
abbrev dktX1_copy_6 : List UInt8 := dkwX1_copy_6 ++ dktX1_copy_7
def dkwX1_copy_5 : List UInt8 := [153, 0, 30, 21, 5, 42, 180, 0, 13, 27, 46, 28, 100, 163, 0, 17, 21, 5, 42, 180, 0, 13, 29, 46]
abbrev dktX1_copy_5 : List UInt8 := dkwX1_copy_5 ++ dktX1_copy_6
def dkwX1_copy_4 : List UInt8 := [163, 0, 18, 21, 4, 42, 180, 0, 13, 29, 46, 163, 0, 7, 4, 167, 0, 4, 3, 54, 6, 21, 6]
abbrev dktX1_copy_4 : List UInt8 := dkwX1_copy_4 ++ dktX1_copy_5
def dkwX1_copy_3 : List UInt8 := [172, 28, 155, 0, 38, 21, 4, 155, 0, 33, 21, 5, 155, 0, 28, 28, 42, 180, 0, 13, 27, 46]
abbrev dktX1_copy_3 : List UInt8 := dkwX1_copy_3 ++ dktX1_copy_4
def dkwX1_copy_2 : List UInt8 := [182, 0, 125, 172, 42, 180, 0, 9, 27, 46, 42, 180, 0, 9, 29, 46, 159, 0, 9, 42, 5, 182, 0, 125]
abbrev dktX1_copy_2 : List UInt8 := dkwX1_copy_2 ++ dktX1_copy_3
def dkwX1_copy_1 : List UInt8 := [180, 0, 9, 27, 46, 16, 247, 159, 0, 14, 42, 180, 0, 9, 29, 46, 16, 247, 160, 0, 9, 42, 4]
abbrev dktX1_copy_1 : List UInt8 := dkwX1_copy_1 ++ dktX1_copy_2
def dkwX1_copy_0 : List UInt8 := [42, 3, 181, 0, 99, 27, 184, 0, 114, 153, 0, 10, 29, 184, 0, 114, 154, 0, 5, 2, 172, 42]
abbrev dktX1_copy_0 : List UInt8 := dkwX1_copy_0 ++ dktX1_copy_1
theorem dksX1_copy_0 : cX1_copy.data.toList.drop 0 = dktX1_copy_0 := by decide +kernel
theorem dksX1_copy_1 : cX1_copy.data.toList.drop 22 = dktX1_copy_1 := dk_seg dksX1_copy_0 22 rfl rfl
theorem dksX1_copy_2 : cX1_copy.data.toList.drop 45 = dktX1_copy_2 := dk_seg dksX1_copy_1 23 rfl rfl
theorem dksX1_copy_3 : cX1_copy.data.toList.drop 69 = dktX1_copy_3 := dk_seg dksX1_copy_2 24 rfl rfl
theorem dksX1_copy_4 : cX1_copy.data.toList.drop 91 = dktX1_copy_4 := dk_seg dksX1_copy_3 22 rfl rfl
theorem dksX1_copy_5 : cX1_copy.data.toList.drop 114 = dktX1_copy_5 := dk_seg dksX1_copy_4 23 rfl rfl
theorem dksX1_copy_6 : cX1_copy.data.toList.drop 138 = dktX1_copy_6 := dk_seg dksX1_copy_5 24 rfl rfl
theorem dksX1_copy_7 : cX1_copy.data.toList.drop 161 = dktX1_copy_7 := dk_seg dksX1_copy_6 23 rfl rfl
theorem dksX1_copy_8 : cX1_copy.data.toList.drop 185 = dktX1_copy_8 := dk_seg dksX1_copy_7 24 rfl rfl
theorem dksX1_copy_9 : cX1_copy.data.toList.drop 207 = dktX1_copy_9 := dk_seg dksX1_copy_8 22 rfl rfl
theorem dX1_copy_0 : decode cX1_copy 0 = .ok (.aload_n 0, 1) := dk_42 (dk_at dksX1_copy_0 0 rfl rfl)
theorem dX1_copy_1 : decode cX1_copy 1 = .ok (.iconst 0, 1) := dk_3 (dk_at dksX1_copy_0 1 rfl rfl)
theorem dX1_copy_2 : decode cX1_copy 2 = .ok (.putfield 99, 3) := dk_181 0 99 (dk_at dksX1_copy_0 2 rfl rfl)
theorem dX1_copy_5 : decode cX1_copy 5 = .ok (.iload_n 1, 1) := dk_27 (dk_at dksX1_copy_0 5 rfl rfl)
theorem dX1_copy_6 : decode cX1_copy 6 = .ok (.invokestatic 114, 3) := dk_184 0 114 (dk_at dksX1_copy_0 6 rfl rfl)
theorem dX1_copy_9 : decode cX1_copy 9 = .ok (.ifCond .eq 10, 3) := dk_153 0 10 (dk_at dksX1_copy_0 9 rfl rfl)
theorem dX1_copy_12 : decode cX1_copy 12 = .ok (.iload_n 3, 1) := dk_29 (dk_at dksX1_copy_0 12 rfl rfl)
theorem dX1_copy_13 : decode cX1_copy 13 = .ok (.invokestatic 114, 3) := dk_184 0 114 (dk_at dksX1_copy_0 13 rfl rfl)
theorem dX1_copy_16 : decode cX1_copy 16 = .ok (.ifCond .ne 5, 3) := dk_154 0 5 (dk_at dksX1_copy_0 16 rfl rfl)
theorem dX1_copy_19 : decode cX1_copy 19 = .ok (.iconst (-1), 1) := dk_2 (dk_at dksX1_copy_0 19 rfl rfl)
theorem dX1_copy_20 : decode cX1_copy 20 = .ok (.ireturn, 1) := dk_172 (dk_at dksX1_copy_0 20 rfl rfl)
theorem dX1_copy_21 : decode cX1_copy 21 = .ok (.aload_n 0, 1) := dk_42 (dk_at dksX1_copy_0 21 rfl rfl)
theorem dX1_copy_22 : decode cX1_copy 22 = .ok (.getfield 9, 3) := dk_180 0 9 (dk_at dksX1_copy_1 0 rfl rfl)
theorem dX1_copy_25 : decode cX1_copy 25 = .ok (.iload_n 1, 1) := dk_27 (dk_at dksX1_copy_1 3 rfl rfl)
theorem dX1_copy_26 : decode cX1_copy 26 = .ok (.iaload, 1) := dk_46 (dk_at dksX1_copy_1 4 rfl rfl)
theorem dX1_copy_27 : decode cX1_copy 27 = .ok (.bipush (-9), 2) := dk_16 247 (dk_at dksX1_copy_1 5 rfl rfl)
theorem dX1_copy_29 : decode cX1_copy 29 = .ok (.if_icmp .eq 14, 3) := dk_159 0 14 (dk_at dksX1_copy_1 7 rfl rfl)
theorem dX1_copy_32 : decode cX1_copy 32 = .ok (.aload_n 0, 1) := dk_42 (dk_at dksX1_copy_1 10 rfl rfl)
theorem dX1_copy_33 : decode cX1_copy 33 = .ok (.getfield 9, 3) := dk_180 0 9 (dk_at dksX1_copy_1 11 rfl rfl)
theorem dX1_copy_36 : decode cX1_copy 36 = .ok (.iload_n 3, 1) := dk_29 (dk_at dksX1_copy_1 14 rfl rfl)
theorem dX1_copy_37 : decode cX1_copy 37 = .ok (.iaload, 1) := dk_46 (dk_at dksX1_copy_1 15 rfl rfl)
theorem dX1_copy_38 : decode cX1_copy 38 = .ok (.bipush (-9), 2) := dk_16 247 (dk_at dksX1_copy_1 16 rfl rfl)
theorem dX1_copy_40 : decode cX1_copy 40 = .ok (.if_icmp .ne 9, 3) := dk_160 0 9 (dk_at dksX1_copy_1 18 rfl rfl)
theorem dX1_copy_43 : decode cX1_copy 43 = .ok (.aload_n 0, 1) := dk_42 (dk_at dksX1_copy_1 21 rfl rfl)
theorem dX1_copy_44 : decode cX1_copy 44 = .ok (.iconst 1, 1) := dk_4 (dk_at dksX1_copy_1 22 rfl rfl)
theorem dX1_copy_45 : decode cX1_copy 45 = .ok (.invokevirtual 125, 3) := dk_182 0 125 (dk_at dksX1_copy_2 0 rfl rfl)
theorem dX1_copy_48 : decode cX1_copy 48 = .ok (.ireturn, 1) := dk_172 (dk_at dksX1_copy_2 3 rfl rfl)
theorem dX1_copy_49 : decode cX1_copy 49 = .ok (.aload_n 0, 1) := dk_42 (dk_at dksX1_copy_2 4 rfl rfl)
theorem dX1_copy_50 : decode cX1_copy 50 = .ok (.getfield 9, 3) := dk_180 0 9 (dk_at dksX1_copy_2 5 rfl rfl)
theorem dX1_copy_53 : decode cX1_copy 53 = .ok (.iload_n 1, 1) := dk_27 (dk_at dksX1_copy_2 8 rfl rfl)
theorem dX1_copy_54 : decode cX1_copy 54 = .ok (.iaload, 1) := dk_46 (dk_at dksX1_copy_2 9 rfl rfl)
theorem dX1_copy_55 : decode cX1_copy 55 = .ok (.aload_n 0, 1) := dk_42 (dk_at dksX1_copy_2 10 rfl rfl)
theorem dX1_copy_56 : decode cX1_copy 56 = .ok (.getfield 9, 3) := dk_180 0 9 (dk_at dksX1_copy_2 11 rfl rfl)
theorem dX1_copy_59 : decode cX1_copy 59 = .ok (.iload_n 3, 1) := dk_29 (dk_at dksX1_copy_2 14 rfl rfl)
theorem dX1_copy_60 : decode cX1_copy 60 = .ok (.iaload, 1) := dk_46 (dk_at dksX1_copy_2 15 rfl rfl)
theorem dX1_copy_61 : decode cX1_copy 61 = .ok (.if_icmp .eq 9, 3) := dk_159 0 9 (dk_at dksX1_copy_2 16 rfl rfl)
theorem dX1_copy_64 : decode cX1_copy 64 = .ok (.aload_n 0, 1) := dk_42 (dk_at dksX1_copy_2 19 rfl rfl)
theorem dX1_copy_65 : decode cX1_copy 65 = .ok (.iconst 2, 1) := dk_5 (dk_at dksX1_copy_2 20 rfl rfl)
theorem dX1_copy_66 : decode cX1_copy 66 = .ok (.invokevirtual 125, 3) := dk_182 0 125 (dk_at dksX1_copy_2 21 rfl rfl)
theorem dX1_copy_69 : decode cX1_copy 69 = .ok (.ireturn, 1) := dk_172 (dk_at dksX1_copy_3 0 rfl rfl)
theorem dX1_copy_70 : decode cX1_copy 70 = .ok (.iload_n 2, 1) := dk_28 (dk_at dksX1_copy_3 1 rfl rfl)
theorem dX1_copy_71 : decode cX1_copy 71 = .ok (.ifCond .lt 38, 3) := dk_155 0 38 (dk_at dksX1_copy_3 2 rfl rfl)
theorem dX1_copy_74 : decode cX1_copy 74 = .ok (.iload 4, 2) := dk_21 4 (dk_at dksX1_copy_3 5 rfl rfl)
theorem dX1_copy_76 : decode cX1_copy 76 = .ok (.ifCond .lt 33, 3) := dk_155 0 33 (dk_at dksX1_copy_3 7 rfl rfl)
theorem dX1_copy_79 : decode cX1_copy 79 = .ok (.iload 5, 2) := dk_21 5 (dk_at dksX1_copy_3 10 rfl rfl)
theorem dX1_copy_81 : decode cX1_copy 81 = .ok (.ifCond .lt 28, 3) := dk_155 0 28 (dk_at dksX1_copy_3 12 rfl rfl)
theorem dX1_copy_84 : decode cX1_copy 84 = .ok (.iload_n 2, 1) := dk_28 (dk_at dksX1_copy_3 15 rfl rfl)
theorem dX1_copy_85 : decode cX1_copy 85 = .ok (.aload_n 0, 1) := dk_42 (dk_at dksX1_copy_3 16 rfl rfl)
theorem dX1_copy_86 : decode cX1_copy 86 = .ok (.getfield 13, 3) := dk_180 0 13 (dk_at dksX1_copy_3 17 rfl rfl)
theorem dX1_copy_89 : decode cX1_copy 89 = .ok (.iload_n 1, 1) := dk_27 (dk_at dksX1_copy_3 20 rfl rfl)
theorem dX1_copy_90 : decode cX1_copy 90 = .ok (.iaload, 1) := dk_46 (dk_at dksX1_copy_3 21 rfl rfl)
theorem dX1_copy_91 : decode cX1_copy 91 = .ok (.if_icmp .gt 18, 3) := dk_163 0 18 (dk_at dksX1_copy_4 0 rfl rfl)
theorem dX1_copy_94 : decode cX1_copy 94 = .ok (.iload 4, 2) := dk_21 4 (dk_at dksX1_copy_4 3 rfl rfl)
theorem dX1_copy_96 : decode cX1_copy 96 = .ok (.aload_n 0, 1) := dk_42 (dk_at dksX1_copy_4 5 rfl rfl)
theorem dX1_copy_97 : decode cX1_copy 97 = .ok (.getfield 13, 3) := dk_180 0 13 (dk_at dksX1_copy_4 6 rfl rfl)
theorem dX1_copy_100 : decode cX1_copy 100 = .ok (.iload_n 3, 1) := dk_29 (dk_at dksX1_copy_4 9 rfl rfl)
theorem dX1_copy_101 : decode cX1_copy 101 = .ok (.iaload, 1) := dk_46 (dk_at dksX1_copy_4 10 rfl rfl)
theorem dX1_copy_102 : decode cX1_copy 102 = .ok (.if_icmp .gt 7, 3) := dk_163 0 7 (dk_at dksX1_copy_4 11 rfl rfl)
theorem dX1_copy_105 : decode cX1_copy 105 = .ok (.iconst 1, 1) := dk_4 (dk_at dksX1_copy_4 14 rfl rfl)
theorem dX1_copy_106 : decode cX1_copy 106 = .ok (.goto 4, 3) := dk_167 0 4 (dk_at dksX1_copy_4 15 rfl rfl)
theorem dX1_copy_109 : decode cX1_copy 109 = .ok (.iconst 0, 1) := dk_3 (dk_at dksX1_copy_4 18 rfl rfl)
theorem dX1_copy_110 : decode cX1_copy 110 = .ok (.istore 6, 2) := dk_54 6 (dk_at dksX1_copy_4 19 rfl rfl)
theorem dX1_copy_112 : decode cX1_copy 112 = .ok (.iload 6, 2) := dk_21 6 (dk_at dksX1_copy_4 21 rfl rfl)
theorem dX1_copy_114 : decode cX1_copy 114 = .ok (.ifCond .eq 30, 3) := dk_153 0 30 (dk_at dksX1_copy_5 0 rfl rfl)
theorem dX1_copy_117 : decode cX1_copy 117 = .ok (.iload 5, 2) := dk_21 5 (dk_at dksX1_copy_5 3 rfl rfl)
theorem dX1_copy_119 : decode cX1_copy 119 = .ok (.aload_n 0, 1) := dk_42 (dk_at dksX1_copy_5 5 rfl rfl)
theorem dX1_copy_120 : decode cX1_copy 120 = .ok (.getfield 13, 3) := dk_180 0 13 (dk_at dksX1_copy_5 6 rfl rfl)
theorem dX1_copy_123 : decode cX1_copy 123 = .ok (.iload_n 1, 1) := dk_27 (dk_at dksX1_copy_5 9 rfl rfl)
theorem dX1_copy_124 : decode cX1_copy 124 = .ok (.iaload, 1) := dk_46 (dk_at dksX1_copy_5 10 rfl rfl)
theorem dX1_copy_125 : decode cX1_copy 125 = .ok (.iload_n 2, 1) := dk_28 (dk_at dksX1_copy_5 11 rfl rfl)
theorem dX1_copy_126 : decode cX1_copy 126 = .ok (.isub, 1) := dk_100 (dk_at dksX1_copy_5 12 rfl rfl)
theorem dX1_copy_127 : decode cX1_copy 127 = .ok (.if_icmp .gt 17, 3) := dk_163 0 17 (dk_at dksX1_copy_5 13 rfl rfl)
theorem dX1_copy_130 : decode cX1_copy 130 = .ok (.iload 5, 2) := dk_21 5 (dk_at dksX1_copy_5 16 rfl rfl)
theorem dX1_copy_132 : decode cX1_copy 132 = .ok (.aload_n 0, 1) := dk_42 (dk_at dksX1_copy_5 18 rfl rfl)
theorem dX1_copy_133 : decode cX1_copy 133 = .ok (.getfield 13, 3) := dk_180 0 13 (dk_at dksX1_copy_5 19 rfl rfl)
theorem dX1_copy_136 : decode cX1_copy 136 = .ok (.iload_n 3, 1) := dk_29 (dk_at dksX1_copy_5 22 rfl rfl)
theorem dX1_copy_137 : decode cX1_copy 137 = .ok (.iaload, 1) := dk_46 (dk_at dksX1_copy_5 23 rfl rfl)
theorem dX1_copy_138 : decode cX1_copy 138 = .ok (.iload 4, 2) := dk_21 4 (dk_at dksX1_copy_6 0 rfl rfl)
theorem dX1_copy_140 : decode cX1_copy 140 = .ok (.isub, 1) := dk_100 (dk_at dksX1_copy_6 2 rfl rfl)
theorem dX1_copy_141 : decode cX1_copy 141 = .ok (.if_icmp .le 9, 3) := dk_164 0 9 (dk_at dksX1_copy_6 3 rfl rfl)
theorem dX1_copy_144 : decode cX1_copy 144 = .ok (.aload_n 0, 1) := dk_42 (dk_at dksX1_copy_6 6 rfl rfl)
theorem dX1_copy_145 : decode cX1_copy 145 = .ok (.iconst 3, 1) := dk_6 (dk_at dksX1_copy_6 7 rfl rfl)
theorem dX1_copy_146 : decode cX1_copy 146 = .ok (.invokevirtual 125, 3) := dk_182 0 125 (dk_at dksX1_copy_6 8 rfl rfl)
theorem dX1_copy_149 : decode cX1_copy 149 = .ok (.ireturn, 1) := dk_172 (dk_at dksX1_copy_6 11 rfl rfl)
theorem dX1_copy_150 : decode cX1_copy 150 = .ok (.iload_n 2, 1) := dk_28 (dk_at dksX1_copy_6 12 rfl rfl)
theorem dX1_copy_151 : decode cX1_copy 151 = .ok (.iload 4, 2) := dk_21 4 (dk_at dksX1_copy_6 13 rfl rfl)
theorem dX1_copy_153 : decode cX1_copy 153 = .ok (.if_icmp .ge 7, 3) := dk_162 0 7 (dk_at dksX1_copy_6 15 rfl rfl)
theorem dX1_copy_156 : decode cX1_copy 156 = .ok (.iconst 1, 1) := dk_4 (dk_at dksX1_copy_6 18 rfl rfl)
theorem dX1_copy_157 : decode cX1_copy 157 = .ok (.goto 4, 3) := dk_167 0 4 (dk_at dksX1_copy_6 19 rfl rfl)
theorem dX1_copy_160 : decode cX1_copy 160 = .ok (.iconst 0, 1) := dk_3 (dk_at dksX1_copy_6 22 rfl rfl)
theorem dX1_copy_161 : decode cX1_copy 161 = .ok (.istore 7, 2) := dk_54 7 (dk_at dksX1_copy_7 0 rfl rfl)
theorem dX1_copy_163 : decode cX1_copy 163 = .ok (.iconst 0, 1) := dk_3 (dk_at dksX1_copy_7 2 rfl rfl)
theorem dX1_copy_164 : decode cX1_copy 164 = .ok (.istore 8, 2) := dk_54 8 (dk_at dksX1_copy_7 3 rfl rfl)
theorem dX1_copy_166 : decode cX1_copy 166 = .ok (.iload 8, 2) := dk_21 8 (dk_at dksX1_copy_7 5 rfl rfl)
theorem dX1_copy_168 : decode cX1_copy 168 = .ok (.iload 5, 2) := dk_21 5 (dk_at dksX1_copy_7 7 rfl rfl)
theorem dX1_copy_170 : decode cX1_copy 170 = .ok (.if_icmp .ge 57, 3) := dk_162 0 57 (dk_at dksX1_copy_7 9 rfl rfl)
theorem dX1_copy_173 : decode cX1_copy 173 = .ok (.iload 7, 2) := dk_21 7 (dk_at dksX1_copy_7 12 rfl rfl)
theorem dX1_copy_175 : decode cX1_copy 175 = .ok (.ifCond .eq 13, 3) := dk_153 0 13 (dk_at dksX1_copy_7 14 rfl rfl)
theorem dX1_copy_178 : decode cX1_copy 178 = .ok (.iload 5, 2) := dk_21 5 (dk_at dksX1_copy_7 17 rfl rfl)
theorem dX1_copy_180 : decode cX1_copy 180 = .ok (.iconst 1, 1) := dk_4 (dk_at dksX1_copy_7 19 rfl rfl)
theorem dX1_copy_181 : decode cX1_copy 181 = .ok (.isub, 1) := dk_100 (dk_at dksX1_copy_7 20 rfl rfl)
theorem dX1_copy_182 : decode cX1_copy 182 = .ok (.iload 8, 2) := dk_21 8 (dk_at dksX1_copy_7 21 rfl rfl)
theorem dX1_copy_184 : decode cX1_copy 184 = .ok (.isub, 1) := dk_100 (dk_at dksX1_copy_7 23 rfl rfl)
theorem dX1_copy_185 : decode cX1_copy 185 = .ok (.goto 5, 3) := dk_167 0 5 (dk_at dksX1_copy_8 0 rfl rfl)
theorem dX1_copy_188 : decode cX1_copy 188 = .ok (.iload 8, 2) := dk_21 8 (dk_at dksX1_copy_8 3 rfl rfl)
theorem dX1_copy_190 : decode cX1_copy 190 = .ok (.istore 9, 2) := dk_54 9 (dk_at dksX1_copy_8 5 rfl rfl)
theorem dX1_copy_192 : decode cX1_copy 192 = .ok (.aload_n 0, 1) := dk_42 (dk_at dksX1_copy_8 7 rfl rfl)
theorem dX1_copy_193 : decode cX1_copy 193 = .ok (.getfield 16, 3) := dk_180 0 16 (dk_at dksX1_copy_8 8 rfl rfl)
theorem dX1_copy_196 : decode cX1_copy 196 = .ok (.bipush 40, 2) := dk_16 40 (dk_at dksX1_copy_8 11 rfl rfl)
theorem dX1_copy_198 : decode cX1_copy 198 = .ok (.iload_n 3, 1) := dk_29 (dk_at dksX1_copy_8 13 rfl rfl)
theorem dX1_copy_199 : decode cX1_copy 199 = .ok (.imul, 1) := dk_104 (dk_at dksX1_copy_8 14 rfl rfl)
theorem dX1_copy_200 : decode cX1_copy 200 = .ok (.iload 4, 2) := dk_21 4 (dk_at dksX1_copy_8 15 rfl rfl)
theorem dX1_copy_202 : decode cX1_copy 202 = .ok (.iadd, 1) := dk_96 (dk_at dksX1_copy_8 17 rfl rfl)
theorem dX1_copy_203 : decode cX1_copy 203 = .ok (.iload 9, 2) := dk_21 9 (dk_at dksX1_copy_8 18 rfl rfl)
theorem dX1_copy_205 : decode cX1_copy 205 = .ok (.iadd, 1) := dk_96 (dk_at dksX1_copy_8 20 rfl rfl)
theorem dX1_copy_206 : decode cX1_copy 206 = .ok (.aload_n 0, 1) := dk_42 (dk_at dksX1_copy_8 21 rfl rfl)
theorem dX1_copy_207 : decode cX1_copy 207 = .ok (.getfield 16, 3) := dk_180 0 16 (dk_at dksX1_copy_9 0 rfl rfl)
theorem dX1_copy_210 : decode cX1_copy 210 = .ok (.bipush 40, 2) := dk_16 40 (dk_at dksX1_copy_9 3 rfl rfl)
theorem dX1_copy_212 : decode cX1_copy 212 = .ok (.iload_n 1, 1) := dk_27 (dk_at dksX1_copy_9 5 rfl rfl)
theorem dX1_copy_213 : decode cX1_copy 213 = .ok (.imul, 1) := dk_104 (dk_at dksX1_copy_9 6 rfl rfl)
theorem dX1_copy_214 : decode cX1_copy 214 = .ok (.iload_n 2, 1) := dk_28 (dk_at dksX1_copy_9 7 rfl rfl)
theorem dX1_copy_215 : decode cX1_copy 215 = .ok (.iadd, 1) := dk_96 (dk_at dksX1_copy_9 8 rfl rfl)
theorem dX1_copy_216 : decode cX1_copy 216 = .ok (.iload 9, 2) := dk_21 9 (dk_at dksX1_copy_9 9 rfl rfl)
theorem dX1_copy_218 : decode cX1_copy 218 = .ok (.iadd, 1) := dk_96 (dk_at dksX1_copy_9 11 rfl rfl)
theorem dX1_copy_219 : decode cX1_copy 219 = .ok (.iaload, 1) := dk_46 (dk_at dksX1_copy_9 12 rfl rfl)
theorem dX1_copy_220 : decode cX1_copy 220 = .ok (.iastore, 1) := dk_79 (dk_at dksX1_copy_9 13 rfl rfl)
theorem dX1_copy_221 : decode cX1_copy 221 = .ok (.iinc 8 1, 3) := dk_132 8 1 (dk_at dksX1_copy_9 14 rfl rfl)
theorem dX1_copy_224 : decode cX1_copy 224 = .ok (.goto (-58), 3) := dk_167 255 198 (dk_at dksX1_copy_9 17 rfl rfl)
theorem dX1_copy_227 : decode cX1_copy 227 = .ok (.iload 5, 2) := dk_21 5 (dk_at dksX1_copy_9 20 rfl rfl)
theorem dX1_copy_229 : decode cX1_copy 229 = .ok (.ireturn, 1) := dk_172 (dk_at dksX1_copy_9 22 rfl rfl)
abbrev cX1_tell : ByteArray := prog_12_method_70_code
def yX1_tell : MethodName := ⟨RX1, "tell", "(I)I"⟩
def dkwX1_tell_4 : List UInt8 := [182, 1, 35, 28, 172]
abbrev dktX1_tell_4 : List UInt8 := dkwX1_tell_4 ++ []
def dkwX1_tell_3 : List UInt8 := [182, 1, 35, 42, 4, 182, 1, 35, 42, 4, 182, 1, 35, 5, 28, 104, 16, 100, 96, 172, 42, 4]
abbrev dktX1_tell_3 : List UInt8 := dkwX1_tell_3 ++ dktX1_tell_4
def dkwX1_tell_2 : List UInt8 := [42, 5, 182, 1, 35, 42, 4, 182, 1, 35, 28, 16, 100, 96, 172, 42, 6, 182, 1, 35, 42, 5]
abbrev dktX1_tell_2 : List UInt8 := dkwX1_tell_2 ++ dktX1_tell_3
def dkwX1_tell_1 : List UInt8 := [171, 0, 0, 0, 67, 0, 0, 0, 2, 0, 0, 0, 1, 0, 0, 0, 25, 0, 0, 0, 2, 0, 0, 0, 40]
abbrev dktX1_tell_1 : List UInt8 := dkwX1_tell_1 ++ dktX1_tell_2
def dkwX1_tell_0 : List UInt8 := [42, 27, 182, 0, 156, 154, 0, 5, 2, 172, 42, 180, 0, 38, 27, 46, 61, 42, 180, 0, 35, 27, 46]
abbrev dktX1_tell_0 : List UInt8 := dkwX1_tell_0 ++ dktX1_tell_1
theorem dksX1_tell_0 : cX1_tell.data.toList.drop 0 = dktX1_tell_0 := by decide +kernel
theorem dksX1_tell_1 : cX1_tell.data.toList.drop 23 = dktX1_tell_1 := dk_seg dksX1_tell_0 23 rfl rfl
theorem dksX1_tell_2 : cX1_tell.data.toList.drop 48 = dktX1_tell_2 := dk_seg dksX1_tell_1 25 rfl rfl
theorem dksX1_tell_3 : cX1_tell.data.toList.drop 70 = dktX1_tell_3 := dk_seg dksX1_tell_2 22 rfl rfl
theorem dksX1_tell_4 : cX1_tell.data.toList.drop 92 = dktX1_tell_4 := dk_seg dksX1_tell_3 22 rfl rfl
theorem dX1_tell_0 : decode cX1_tell 0 = .ok (.aload_n 0, 1) := dk_42 (dk_at dksX1_tell_0 0 rfl rfl)
theorem dX1_tell_1 : decode cX1_tell 1 = .ok (.iload_n 1, 1) := dk_27 (dk_at dksX1_tell_0 1 rfl rfl)
theorem dX1_tell_2 : decode cX1_tell 2 = .ok (.invokevirtual 156, 3) := dk_182 0 156 (dk_at dksX1_tell_0 2 rfl rfl)
theorem dX1_tell_5 : decode cX1_tell 5 = .ok (.ifCond .ne 5, 3) := dk_154 0 5 (dk_at dksX1_tell_0 5 rfl rfl)
theorem dX1_tell_8 : decode cX1_tell 8 = .ok (.iconst (-1), 1) := dk_2 (dk_at dksX1_tell_0 8 rfl rfl)
theorem dX1_tell_9 : decode cX1_tell 9 = .ok (.ireturn, 1) := dk_172 (dk_at dksX1_tell_0 9 rfl rfl)
theorem dX1_tell_10 : decode cX1_tell 10 = .ok (.aload_n 0, 1) := dk_42 (dk_at dksX1_tell_0 10 rfl rfl)
theorem dX1_tell_11 : decode cX1_tell 11 = .ok (.getfield 38, 3) := dk_180 0 38 (dk_at dksX1_tell_0 11 rfl rfl)
theorem dX1_tell_14 : decode cX1_tell 14 = .ok (.iload_n 1, 1) := dk_27 (dk_at dksX1_tell_0 14 rfl rfl)
theorem dX1_tell_15 : decode cX1_tell 15 = .ok (.iaload, 1) := dk_46 (dk_at dksX1_tell_0 15 rfl rfl)
theorem dX1_tell_16 : decode cX1_tell 16 = .ok (.istore_n 2, 1) := dk_61 (dk_at dksX1_tell_0 16 rfl rfl)
theorem dX1_tell_17 : decode cX1_tell 17 = .ok (.aload_n 0, 1) := dk_42 (dk_at dksX1_tell_0 17 rfl rfl)
theorem dX1_tell_18 : decode cX1_tell 18 = .ok (.getfield 35, 3) := dk_180 0 35 (dk_at dksX1_tell_0 18 rfl rfl)
theorem dX1_tell_21 : decode cX1_tell 21 = .ok (.iload_n 1, 1) := dk_27 (dk_at dksX1_tell_0 21 rfl rfl)
theorem dX1_tell_22 : decode cX1_tell 22 = .ok (.iaload, 1) := dk_46 (dk_at dksX1_tell_0 22 rfl rfl)
theorem dX1_tell_23 : decode cX1_tell 23 = .ok (.lookupswitch 67 #[(1, 25), (2, 40)], 25) := by decide +kernel
theorem dX1_tell_48 : decode cX1_tell 48 = .ok (.aload_n 0, 1) := dk_42 (dk_at dksX1_tell_2 0 rfl rfl)
theorem dX1_tell_49 : decode cX1_tell 49 = .ok (.iconst 2, 1) := dk_5 (dk_at dksX1_tell_2 1 rfl rfl)
theorem dX1_tell_50 : decode cX1_tell 50 = .ok (.invokevirtual 291, 3) := dk_182 1 35 (dk_at dksX1_tell_2 2 rfl rfl)
theorem dX1_tell_53 : decode cX1_tell 53 = .ok (.aload_n 0, 1) := dk_42 (dk_at dksX1_tell_2 5 rfl rfl)
theorem dX1_tell_54 : decode cX1_tell 54 = .ok (.iconst 1, 1) := dk_4 (dk_at dksX1_tell_2 6 rfl rfl)
theorem dX1_tell_55 : decode cX1_tell 55 = .ok (.invokevirtual 291, 3) := dk_182 1 35 (dk_at dksX1_tell_2 7 rfl rfl)
theorem dX1_tell_58 : decode cX1_tell 58 = .ok (.iload_n 2, 1) := dk_28 (dk_at dksX1_tell_2 10 rfl rfl)
theorem dX1_tell_59 : decode cX1_tell 59 = .ok (.bipush 100, 2) := dk_16 100 (dk_at dksX1_tell_2 11 rfl rfl)
theorem dX1_tell_61 : decode cX1_tell 61 = .ok (.iadd, 1) := dk_96 (dk_at dksX1_tell_2 13 rfl rfl)
theorem dX1_tell_62 : decode cX1_tell 62 = .ok (.ireturn, 1) := dk_172 (dk_at dksX1_tell_2 14 rfl rfl)
theorem dX1_tell_63 : decode cX1_tell 63 = .ok (.aload_n 0, 1) := dk_42 (dk_at dksX1_tell_2 15 rfl rfl)
theorem dX1_tell_64 : decode cX1_tell 64 = .ok (.iconst 3, 1) := dk_6 (dk_at dksX1_tell_2 16 rfl rfl)
theorem dX1_tell_65 : decode cX1_tell 65 = .ok (.invokevirtual 291, 3) := dk_182 1 35 (dk_at dksX1_tell_2 17 rfl rfl)
theorem dX1_tell_68 : decode cX1_tell 68 = .ok (.aload_n 0, 1) := dk_42 (dk_at dksX1_tell_2 20 rfl rfl)
theorem dX1_tell_69 : decode cX1_tell 69 = .ok (.iconst 2, 1) := dk_5 (dk_at dksX1_tell_2 21 rfl rfl)
theorem dX1_tell_70 : decode cX1_tell 70 = .ok (.invokevirtual 291, 3) := dk_182 1 35 (dk_at dksX1_tell_3 0 rfl rfl)
theorem dX1_tell_73 : decode cX1_tell 73 = .ok (.aload_n 0, 1) := dk_42 (dk_at dksX1_tell_3 3 rfl rfl)
theorem dX1_tell_74 : decode cX1_tell 74 = .ok (.iconst 1, 1) := dk_4 (dk_at dksX1_tell_3 4 rfl rfl)
theorem dX1_tell_75 : decode cX1_tell 75 = .ok (.invokevirtual 291, 3) := dk_182 1 35 (dk_at dksX1_tell_3 5 rfl rfl)
theorem dX1_tell_78 : decode cX1_tell 78 = .ok (.aload_n 0, 1) := dk_42 (dk_at dksX1_tell_3 8 rfl rfl)
theorem dX1_tell_79 : decode cX1_tell 79 = .ok (.iconst 1, 1) := dk_4 (dk_at dksX1_tell_3 9 rfl rfl)
theorem dX1_tell_80 : decode cX1_tell 80 = .ok (.invokevirtual 291, 3) := dk_182 1 35 (dk_at dksX1_tell_3 10 rfl rfl)
theorem dX1_tell_83 : decode cX1_tell 83 = .ok (.iconst 2, 1) := dk_5 (dk_at dksX1_tell_3 13 rfl rfl)
theorem dX1_tell_84 : decode cX1_tell 84 = .ok (.iload_n 2, 1) := dk_28 (dk_at dksX1_tell_3 14 rfl rfl)
theorem dX1_tell_85 : decode cX1_tell 85 = .ok (.imul, 1) := dk_104 (dk_at dksX1_tell_3 15 rfl rfl)
theorem dX1_tell_86 : decode cX1_tell 86 = .ok (.bipush 100, 2) := dk_16 100 (dk_at dksX1_tell_3 16 rfl rfl)
theorem dX1_tell_88 : decode cX1_tell 88 = .ok (.iadd, 1) := dk_96 (dk_at dksX1_tell_3 18 rfl rfl)
theorem dX1_tell_89 : decode cX1_tell 89 = .ok (.ireturn, 1) := dk_172 (dk_at dksX1_tell_3 19 rfl rfl)
theorem dX1_tell_90 : decode cX1_tell 90 = .ok (.aload_n 0, 1) := dk_42 (dk_at dksX1_tell_3 20 rfl rfl)
theorem dX1_tell_91 : decode cX1_tell 91 = .ok (.iconst 1, 1) := dk_4 (dk_at dksX1_tell_3 21 rfl rfl)
theorem dX1_tell_92 : decode cX1_tell 92 = .ok (.invokevirtual 291, 3) := dk_182 1 35 (dk_at dksX1_tell_4 0 rfl rfl)
theorem dX1_tell_95 : decode cX1_tell 95 = .ok (.iload_n 2, 1) := dk_28 (dk_at dksX1_tell_4 3 rfl rfl)
theorem dX1_tell_96 : decode cX1_tell 96 = .ok (.ireturn, 1) := dk_172 (dk_at dksX1_tell_4 4 rfl rfl)
abbrev cX1_begins : ByteArray := prog_12_method_69_code
def yX1_begins : MethodName := ⟨RX1, "begins", "(I)V"⟩
def dkwX1_begins_0 : List UInt8 := [42, 16, 31, 42, 180, 1, 32, 104, 27, 96, 181, 1, 32, 177]
abbrev dktX1_begins_0 : List UInt8 := dkwX1_begins_0 ++ []
theorem dksX1_begins_0 : cX1_begins.data.toList.drop 0 = dktX1_begins_0 := by decide +kernel
theorem dX1_begins_0 : decode cX1_begins 0 = .ok (.aload_n 0, 1) := dk_42 (dk_at dksX1_begins_0 0 rfl rfl)
theorem dX1_begins_1 : decode cX1_begins 1 = .ok (.bipush 31, 2) := dk_16 31 (dk_at dksX1_begins_0 1 rfl rfl)
theorem dX1_begins_3 : decode cX1_begins 3 = .ok (.aload_n 0, 1) := dk_42 (dk_at dksX1_begins_0 3 rfl rfl)
theorem dX1_begins_4 : decode cX1_begins 4 = .ok (.getfield 288, 3) := dk_180 1 32 (dk_at dksX1_begins_0 4 rfl rfl)
theorem dX1_begins_7 : decode cX1_begins 7 = .ok (.imul, 1) := dk_104 (dk_at dksX1_begins_0 7 rfl rfl)
theorem dX1_begins_8 : decode cX1_begins 8 = .ok (.iload_n 1, 1) := dk_27 (dk_at dksX1_begins_0 8 rfl rfl)
theorem dX1_begins_9 : decode cX1_begins 9 = .ok (.iadd, 1) := dk_96 (dk_at dksX1_begins_0 9 rfl rfl)
theorem dX1_begins_10 : decode cX1_begins 10 = .ok (.putfield 288, 3) := dk_181 1 32 (dk_at dksX1_begins_0 10 rfl rfl)
theorem dX1_begins_13 : decode cX1_begins 13 = .ok (.return_, 1) := dk_177 (dk_at dksX1_begins_0 13 rfl rfl)
abbrev cX1_serve : ByteArray := prog_12_method_71_code
def yX1_serve : MethodName := ⟨RX1, "serve", "(I)I"⟩
def dkwX1_serve_1 : List UInt8 := [167, 0, 4, 7, 182, 1, 35, 42, 180, 0, 35, 27, 46, 5, 160, 0, 8, 16, 50, 167, 0, 4, 27, 172]
abbrev dktX1_serve_1 : List UInt8 := dkwX1_serve_1 ++ []
def dkwX1_serve_0 : List UInt8 := [42, 27, 182, 0, 156, 154, 0, 5, 2, 172, 42, 42, 180, 0, 35, 27, 46, 5, 160, 0, 7, 8]
abbrev dktX1_serve_0 : List UInt8 := dkwX1_serve_0 ++ dktX1_serve_1
theorem dksX1_serve_0 : cX1_serve.data.toList.drop 0 = dktX1_serve_0 := by decide +kernel
theorem dksX1_serve_1 : cX1_serve.data.toList.drop 22 = dktX1_serve_1 := dk_seg dksX1_serve_0 22 rfl rfl
theorem dX1_serve_0 : decode cX1_serve 0 = .ok (.aload_n 0, 1) := dk_42 (dk_at dksX1_serve_0 0 rfl rfl)
theorem dX1_serve_1 : decode cX1_serve 1 = .ok (.iload_n 1, 1) := dk_27 (dk_at dksX1_serve_0 1 rfl rfl)
theorem dX1_serve_2 : decode cX1_serve 2 = .ok (.invokevirtual 156, 3) := dk_182 0 156 (dk_at dksX1_serve_0 2 rfl rfl)
theorem dX1_serve_5 : decode cX1_serve 5 = .ok (.ifCond .ne 5, 3) := dk_154 0 5 (dk_at dksX1_serve_0 5 rfl rfl)
theorem dX1_serve_8 : decode cX1_serve 8 = .ok (.iconst (-1), 1) := dk_2 (dk_at dksX1_serve_0 8 rfl rfl)
theorem dX1_serve_9 : decode cX1_serve 9 = .ok (.ireturn, 1) := dk_172 (dk_at dksX1_serve_0 9 rfl rfl)
theorem dX1_serve_10 : decode cX1_serve 10 = .ok (.aload_n 0, 1) := dk_42 (dk_at dksX1_serve_0 10 rfl rfl)
theorem dX1_serve_11 : decode cX1_serve 11 = .ok (.aload_n 0, 1) := dk_42 (dk_at dksX1_serve_0 11 rfl rfl)
theorem dX1_serve_12 : decode cX1_serve 12 = .ok (.getfield 35, 3) := dk_180 0 35 (dk_at dksX1_serve_0 12 rfl rfl)
theorem dX1_serve_15 : decode cX1_serve 15 = .ok (.iload_n 1, 1) := dk_27 (dk_at dksX1_serve_0 15 rfl rfl)
theorem dX1_serve_16 : decode cX1_serve 16 = .ok (.iaload, 1) := dk_46 (dk_at dksX1_serve_0 16 rfl rfl)
theorem dX1_serve_17 : decode cX1_serve 17 = .ok (.iconst 2, 1) := dk_5 (dk_at dksX1_serve_0 17 rfl rfl)
theorem dX1_serve_18 : decode cX1_serve 18 = .ok (.if_icmp .ne 7, 3) := dk_160 0 7 (dk_at dksX1_serve_0 18 rfl rfl)
theorem dX1_serve_21 : decode cX1_serve 21 = .ok (.iconst 5, 1) := dk_8 (dk_at dksX1_serve_0 21 rfl rfl)
theorem dX1_serve_22 : decode cX1_serve 22 = .ok (.goto 4, 3) := dk_167 0 4 (dk_at dksX1_serve_1 0 rfl rfl)
theorem dX1_serve_25 : decode cX1_serve 25 = .ok (.iconst 4, 1) := dk_7 (dk_at dksX1_serve_1 3 rfl rfl)
theorem dX1_serve_26 : decode cX1_serve 26 = .ok (.invokevirtual 291, 3) := dk_182 1 35 (dk_at dksX1_serve_1 4 rfl rfl)
theorem dX1_serve_29 : decode cX1_serve 29 = .ok (.aload_n 0, 1) := dk_42 (dk_at dksX1_serve_1 7 rfl rfl)
theorem dX1_serve_30 : decode cX1_serve 30 = .ok (.getfield 35, 3) := dk_180 0 35 (dk_at dksX1_serve_1 8 rfl rfl)
theorem dX1_serve_33 : decode cX1_serve 33 = .ok (.iload_n 1, 1) := dk_27 (dk_at dksX1_serve_1 11 rfl rfl)
theorem dX1_serve_34 : decode cX1_serve 34 = .ok (.iaload, 1) := dk_46 (dk_at dksX1_serve_1 12 rfl rfl)
theorem dX1_serve_35 : decode cX1_serve 35 = .ok (.iconst 2, 1) := dk_5 (dk_at dksX1_serve_1 13 rfl rfl)
theorem dX1_serve_36 : decode cX1_serve 36 = .ok (.if_icmp .ne 8, 3) := dk_160 0 8 (dk_at dksX1_serve_1 14 rfl rfl)
theorem dX1_serve_39 : decode cX1_serve 39 = .ok (.bipush 50, 2) := dk_16 50 (dk_at dksX1_serve_1 17 rfl rfl)
theorem dX1_serve_41 : decode cX1_serve 41 = .ok (.goto 4, 3) := dk_167 0 4 (dk_at dksX1_serve_1 19 rfl rfl)
theorem dX1_serve_44 : decode cX1_serve 44 = .ok (.iload_n 1, 1) := dk_27 (dk_at dksX1_serve_1 22 rfl rfl)
theorem dX1_serve_45 : decode cX1_serve 45 = .ok (.ireturn, 1) := dk_172 (dk_at dksX1_serve_1 23 rfl rfl)
abbrev cX1_as : ByteArray := prog_12_method_72_code
def yX1_as : MethodName := ⟨RX1, "as", "(II)I"⟩
def dkwX1_as_1 : List UInt8 := [16, 254, 172, 42, 180, 0, 35, 27, 46, 28, 161, 0, 7, 4, 167, 0, 8, 42, 5, 182, 0, 125, 172]
abbrev dktX1_as_1 : List UInt8 := dkwX1_as_1 ++ []
def dkwX1_as_0 : List UInt8 := [42, 3, 181, 0, 99, 42, 27, 182, 0, 156, 154, 0, 5, 2, 172, 28, 3, 5, 184, 0, 104, 154, 0, 6]
abbrev dktX1_as_0 : List UInt8 := dkwX1_as_0 ++ dktX1_as_1
theorem dksX1_as_0 : cX1_as.data.toList.drop 0 = dktX1_as_0 := by decide +kernel
theorem dksX1_as_1 : cX1_as.data.toList.drop 24 = dktX1_as_1 := dk_seg dksX1_as_0 24 rfl rfl
theorem dX1_as_0 : decode cX1_as 0 = .ok (.aload_n 0, 1) := dk_42 (dk_at dksX1_as_0 0 rfl rfl)
theorem dX1_as_1 : decode cX1_as 1 = .ok (.iconst 0, 1) := dk_3 (dk_at dksX1_as_0 1 rfl rfl)
theorem dX1_as_2 : decode cX1_as 2 = .ok (.putfield 99, 3) := dk_181 0 99 (dk_at dksX1_as_0 2 rfl rfl)
theorem dX1_as_5 : decode cX1_as 5 = .ok (.aload_n 0, 1) := dk_42 (dk_at dksX1_as_0 5 rfl rfl)
theorem dX1_as_6 : decode cX1_as 6 = .ok (.iload_n 1, 1) := dk_27 (dk_at dksX1_as_0 6 rfl rfl)
theorem dX1_as_7 : decode cX1_as 7 = .ok (.invokevirtual 156, 3) := dk_182 0 156 (dk_at dksX1_as_0 7 rfl rfl)
theorem dX1_as_10 : decode cX1_as 10 = .ok (.ifCond .ne 5, 3) := dk_154 0 5 (dk_at dksX1_as_0 10 rfl rfl)
theorem dX1_as_13 : decode cX1_as 13 = .ok (.iconst (-1), 1) := dk_2 (dk_at dksX1_as_0 13 rfl rfl)
theorem dX1_as_14 : decode cX1_as 14 = .ok (.ireturn, 1) := dk_172 (dk_at dksX1_as_0 14 rfl rfl)
theorem dX1_as_15 : decode cX1_as 15 = .ok (.iload_n 2, 1) := dk_28 (dk_at dksX1_as_0 15 rfl rfl)
theorem dX1_as_16 : decode cX1_as 16 = .ok (.iconst 0, 1) := dk_3 (dk_at dksX1_as_0 16 rfl rfl)
theorem dX1_as_17 : decode cX1_as 17 = .ok (.iconst 2, 1) := dk_5 (dk_at dksX1_as_0 17 rfl rfl)
theorem dX1_as_18 : decode cX1_as 18 = .ok (.invokestatic 104, 3) := dk_184 0 104 (dk_at dksX1_as_0 18 rfl rfl)
theorem dX1_as_21 : decode cX1_as 21 = .ok (.ifCond .ne 6, 3) := dk_154 0 6 (dk_at dksX1_as_0 21 rfl rfl)
theorem dX1_as_24 : decode cX1_as 24 = .ok (.bipush (-2), 2) := dk_16 254 (dk_at dksX1_as_1 0 rfl rfl)
theorem dX1_as_26 : decode cX1_as 26 = .ok (.ireturn, 1) := dk_172 (dk_at dksX1_as_1 2 rfl rfl)
theorem dX1_as_27 : decode cX1_as 27 = .ok (.aload_n 0, 1) := dk_42 (dk_at dksX1_as_1 3 rfl rfl)
theorem dX1_as_28 : decode cX1_as 28 = .ok (.getfield 35, 3) := dk_180 0 35 (dk_at dksX1_as_1 4 rfl rfl)
theorem dX1_as_31 : decode cX1_as 31 = .ok (.iload_n 1, 1) := dk_27 (dk_at dksX1_as_1 7 rfl rfl)
theorem dX1_as_32 : decode cX1_as 32 = .ok (.iaload, 1) := dk_46 (dk_at dksX1_as_1 8 rfl rfl)
theorem dX1_as_33 : decode cX1_as 33 = .ok (.iload_n 2, 1) := dk_28 (dk_at dksX1_as_1 9 rfl rfl)
theorem dX1_as_34 : decode cX1_as 34 = .ok (.if_icmp .lt 7, 3) := dk_161 0 7 (dk_at dksX1_as_1 10 rfl rfl)
theorem dX1_as_37 : decode cX1_as 37 = .ok (.iconst 1, 1) := dk_4 (dk_at dksX1_as_1 13 rfl rfl)
theorem dX1_as_38 : decode cX1_as 38 = .ok (.goto 8, 3) := dk_167 0 8 (dk_at dksX1_as_1 14 rfl rfl)
theorem dX1_as_41 : decode cX1_as 41 = .ok (.aload_n 0, 1) := dk_42 (dk_at dksX1_as_1 17 rfl rfl)
theorem dX1_as_42 : decode cX1_as 42 = .ok (.iconst 2, 1) := dk_5 (dk_at dksX1_as_1 18 rfl rfl)
theorem dX1_as_43 : decode cX1_as 43 = .ok (.invokevirtual 125, 3) := dk_182 0 125 (dk_at dksX1_as_1 19 rfl rfl)
theorem dX1_as_46 : decode cX1_as 46 = .ok (.ireturn, 1) := dk_172 (dk_at dksX1_as_1 22 rfl rfl)
abbrev cX1_trace : ByteArray := prog_12_method_73_code
def yX1_trace : MethodName := ⟨RX1, "trace", "()I"⟩
theorem dX1_trace_0 : decode cX1_trace 0 = .ok (.aload_n 0, 1) := by decide +kernel
theorem dX1_trace_1 : decode cX1_trace 1 = .ok (.getfield 288, 3) := by decide +kernel
theorem dX1_trace_4 : decode cX1_trace 4 = .ok (.ireturn, 1) := by decide +kernel
abbrev cX1_fault : ByteArray := prog_12_method_74_code
def yX1_fault : MethodName := ⟨RX1, "fault", "()I"⟩
theorem dX1_fault_0 : decode cX1_fault 0 = .ok (.aload_n 0, 1) := by decide +kernel
theorem dX1_fault_1 : decode cX1_fault 1 = .ok (.getfield 99, 3) := by decide +kernel
theorem dX1_fault_4 : decode cX1_fault 4 = .ok (.ireturn, 1) := by decide +kernel
abbrev cX1_many : ByteArray := prog_12_method_75_code
def yX1_many : MethodName := ⟨RX1, "many", "(I)I"⟩
def dkwX1_many_4 : List UInt8 := [153, 0, 7, 4, 167, 0, 4, 3, 172, 42, 180, 0, 25, 172, 28, 172, 16, 254, 172]
abbrev dktX1_many_4 : List UInt8 := dkwX1_many_4 ++ []
def dkwX1_many_3 : List UInt8 := [42, 180, 0, 108, 172, 42, 180, 0, 135, 172, 42, 180, 0, 138, 172, 42, 180, 0, 141, 172, 42, 180, 0, 144]
abbrev dktX1_many_3 : List UInt8 := dkwX1_many_3 ++ dktX1_many_4
def dkwX1_many_2 : List UInt8 := [170, 0, 0, 0, 0, 0, 0, 84, 0, 0, 0, 0, 0, 0, 0, 6, 0, 0, 0, 44, 0, 0, 0, 49, 0, 0, 0, 54, 0, 0, 0, 59, 0, 0, 0, 64, 0, 0, 0, 77, 0, 0, 0, 82]
abbrev dktX1_many_2 : List UInt8 := dkwX1_many_2 ++ dktX1_many_3
def dkwX1_many_1 : List UInt8 := [167, 255, 236, 27]
abbrev dktX1_many_1 : List UInt8 := dkwX1_many_1 ++ dktX1_many_2
def dkwX1_many_0 : List UInt8 := [3, 61, 3, 62, 29, 42, 180, 0, 108, 162, 0, 18, 28, 42, 180, 0, 22, 29, 46, 96, 61, 132, 3, 1]
abbrev dktX1_many_0 : List UInt8 := dkwX1_many_0 ++ dktX1_many_1
theorem dksX1_many_0 : cX1_many.data.toList.drop 0 = dktX1_many_0 := by decide +kernel
theorem dksX1_many_1 : cX1_many.data.toList.drop 24 = dktX1_many_1 := dk_seg dksX1_many_0 24 rfl rfl
theorem dksX1_many_2 : cX1_many.data.toList.drop 28 = dktX1_many_2 := dk_seg dksX1_many_1 4 rfl rfl
theorem dksX1_many_3 : cX1_many.data.toList.drop 72 = dktX1_many_3 := dk_seg dksX1_many_2 44 rfl rfl
theorem dksX1_many_4 : cX1_many.data.toList.drop 96 = dktX1_many_4 := dk_seg dksX1_many_3 24 rfl rfl
theorem dX1_many_0 : decode cX1_many 0 = .ok (.iconst 0, 1) := dk_3 (dk_at dksX1_many_0 0 rfl rfl)
theorem dX1_many_1 : decode cX1_many 1 = .ok (.istore_n 2, 1) := dk_61 (dk_at dksX1_many_0 1 rfl rfl)
theorem dX1_many_2 : decode cX1_many 2 = .ok (.iconst 0, 1) := dk_3 (dk_at dksX1_many_0 2 rfl rfl)
theorem dX1_many_3 : decode cX1_many 3 = .ok (.istore_n 3, 1) := dk_62 (dk_at dksX1_many_0 3 rfl rfl)
theorem dX1_many_4 : decode cX1_many 4 = .ok (.iload_n 3, 1) := dk_29 (dk_at dksX1_many_0 4 rfl rfl)
theorem dX1_many_5 : decode cX1_many 5 = .ok (.aload_n 0, 1) := dk_42 (dk_at dksX1_many_0 5 rfl rfl)
theorem dX1_many_6 : decode cX1_many 6 = .ok (.getfield 108, 3) := dk_180 0 108 (dk_at dksX1_many_0 6 rfl rfl)
theorem dX1_many_9 : decode cX1_many 9 = .ok (.if_icmp .ge 18, 3) := dk_162 0 18 (dk_at dksX1_many_0 9 rfl rfl)
theorem dX1_many_12 : decode cX1_many 12 = .ok (.iload_n 2, 1) := dk_28 (dk_at dksX1_many_0 12 rfl rfl)
theorem dX1_many_13 : decode cX1_many 13 = .ok (.aload_n 0, 1) := dk_42 (dk_at dksX1_many_0 13 rfl rfl)
theorem dX1_many_14 : decode cX1_many 14 = .ok (.getfield 22, 3) := dk_180 0 22 (dk_at dksX1_many_0 14 rfl rfl)
theorem dX1_many_17 : decode cX1_many 17 = .ok (.iload_n 3, 1) := dk_29 (dk_at dksX1_many_0 17 rfl rfl)
theorem dX1_many_18 : decode cX1_many 18 = .ok (.iaload, 1) := dk_46 (dk_at dksX1_many_0 18 rfl rfl)
theorem dX1_many_19 : decode cX1_many 19 = .ok (.iadd, 1) := dk_96 (dk_at dksX1_many_0 19 rfl rfl)
theorem dX1_many_20 : decode cX1_many 20 = .ok (.istore_n 2, 1) := dk_61 (dk_at dksX1_many_0 20 rfl rfl)
theorem dX1_many_21 : decode cX1_many 21 = .ok (.iinc 3 1, 3) := dk_132 3 1 (dk_at dksX1_many_0 21 rfl rfl)
theorem dX1_many_24 : decode cX1_many 24 = .ok (.goto (-20), 3) := dk_167 255 236 (dk_at dksX1_many_1 0 rfl rfl)
theorem dX1_many_27 : decode cX1_many 27 = .ok (.iload_n 1, 1) := dk_27 (dk_at dksX1_many_1 3 rfl rfl)
theorem dX1_many_28 : decode cX1_many 28 = .ok (.tableswitch 84 0 6 #[44, 49, 54, 59, 64, 77, 82], 44) := by decide +kernel
theorem dX1_many_72 : decode cX1_many 72 = .ok (.aload_n 0, 1) := dk_42 (dk_at dksX1_many_3 0 rfl rfl)
theorem dX1_many_73 : decode cX1_many 73 = .ok (.getfield 108, 3) := dk_180 0 108 (dk_at dksX1_many_3 1 rfl rfl)
theorem dX1_many_76 : decode cX1_many 76 = .ok (.ireturn, 1) := dk_172 (dk_at dksX1_many_3 4 rfl rfl)
theorem dX1_many_77 : decode cX1_many 77 = .ok (.aload_n 0, 1) := dk_42 (dk_at dksX1_many_3 5 rfl rfl)
theorem dX1_many_78 : decode cX1_many 78 = .ok (.getfield 135, 3) := dk_180 0 135 (dk_at dksX1_many_3 6 rfl rfl)
theorem dX1_many_81 : decode cX1_many 81 = .ok (.ireturn, 1) := dk_172 (dk_at dksX1_many_3 9 rfl rfl)
theorem dX1_many_82 : decode cX1_many 82 = .ok (.aload_n 0, 1) := dk_42 (dk_at dksX1_many_3 10 rfl rfl)
theorem dX1_many_83 : decode cX1_many 83 = .ok (.getfield 138, 3) := dk_180 0 138 (dk_at dksX1_many_3 11 rfl rfl)
theorem dX1_many_86 : decode cX1_many 86 = .ok (.ireturn, 1) := dk_172 (dk_at dksX1_many_3 14 rfl rfl)
theorem dX1_many_87 : decode cX1_many 87 = .ok (.aload_n 0, 1) := dk_42 (dk_at dksX1_many_3 15 rfl rfl)
theorem dX1_many_88 : decode cX1_many 88 = .ok (.getfield 141, 3) := dk_180 0 141 (dk_at dksX1_many_3 16 rfl rfl)
theorem dX1_many_91 : decode cX1_many 91 = .ok (.ireturn, 1) := dk_172 (dk_at dksX1_many_3 19 rfl rfl)
theorem dX1_many_92 : decode cX1_many 92 = .ok (.aload_n 0, 1) := dk_42 (dk_at dksX1_many_3 20 rfl rfl)
theorem dX1_many_93 : decode cX1_many 93 = .ok (.getfield 144, 3) := dk_180 0 144 (dk_at dksX1_many_3 21 rfl rfl)
theorem dX1_many_96 : decode cX1_many 96 = .ok (.ifCond .eq 7, 3) := dk_153 0 7 (dk_at dksX1_many_4 0 rfl rfl)
theorem dX1_many_99 : decode cX1_many 99 = .ok (.iconst 1, 1) := dk_4 (dk_at dksX1_many_4 3 rfl rfl)
theorem dX1_many_100 : decode cX1_many 100 = .ok (.goto 4, 3) := dk_167 0 4 (dk_at dksX1_many_4 4 rfl rfl)
theorem dX1_many_103 : decode cX1_many 103 = .ok (.iconst 0, 1) := dk_3 (dk_at dksX1_many_4 7 rfl rfl)
theorem dX1_many_104 : decode cX1_many 104 = .ok (.ireturn, 1) := dk_172 (dk_at dksX1_many_4 8 rfl rfl)
theorem dX1_many_105 : decode cX1_many 105 = .ok (.aload_n 0, 1) := dk_42 (dk_at dksX1_many_4 9 rfl rfl)
theorem dX1_many_106 : decode cX1_many 106 = .ok (.getfield 25, 3) := dk_180 0 25 (dk_at dksX1_many_4 10 rfl rfl)
theorem dX1_many_109 : decode cX1_many 109 = .ok (.ireturn, 1) := dk_172 (dk_at dksX1_many_4 13 rfl rfl)
theorem dX1_many_110 : decode cX1_many 110 = .ok (.iload_n 2, 1) := dk_28 (dk_at dksX1_many_4 14 rfl rfl)
theorem dX1_many_111 : decode cX1_many 111 = .ok (.ireturn, 1) := dk_172 (dk_at dksX1_many_4 15 rfl rfl)
theorem dX1_many_112 : decode cX1_many 112 = .ok (.bipush (-2), 2) := dk_16 254 (dk_at dksX1_many_4 16 rfl rfl)
theorem dX1_many_114 : decode cX1_many 114 = .ok (.ireturn, 1) := dk_172 (dk_at dksX1_many_4 18 rfl rfl)
theorem q75 : (Jvm.Cond.initialized "CafeTablesModel") ∈ lw_all := lw_g (lw_at lw_m1 5 rfl) rfl
theorem q378 : (Jvm.Cond.selects "CafeTablesModel" ({ cls := "java/lang/Object", name := "getClass", desc := "()Ljava/lang/Class;" } : Jvm.MethodName) ({ cls := "java/lang/Object", name := "getClass", desc := "()Ljava/lang/Class;" } : Jvm.MethodName)) ∈ lw_all := lw_g (lw_at lw_m2 68 rfl) rfl
theorem q1110 : (Jvm.Cond.instantiable "CafeTablesModel" (44 : Nat)) ∈ lw_all := lw_g (lw_at lw_m5 80 rfl) rfl
theorem q1112 : (Jvm.Cond.instanceMethod ({ cls := "CafeTablesModel", name := "<init>", desc := "()V" } : Jvm.MethodName)) ∈ lw_all := lw_g (lw_at lw_m5 82 rfl) rfl
theorem q1113 : (Jvm.Cond.code ({ cls := "CafeTablesModel", name := "<init>", desc := "()V" } : Jvm.MethodName) prog_12_method_1_code (1 : Nat) (Option.none : Option Jvm.ClassFile.FieldType)) ∈ lw_all := lw_g (lw_at lw_m5 83 rfl) rfl
theorem q1114 : (Jvm.Cond.methodLink "CafeTablesModel" (1 : Nat) ({ cls := "java/lang/Object", name := "<init>", desc := "()V" } : Jvm.MethodName)) ∈ lw_all := lw_g (lw_at lw_m5 84 rfl) rfl
theorem q1115 : (Jvm.Cond.fieldLink "CafeTablesModel" (99 : Nat) "CafeTablesModel" "fault" "I") ∈ lw_all := lw_g (lw_at lw_m5 85 rfl) rfl
theorem q1116 : (Jvm.Cond.fieldLink "CafeTablesModel" (288 : Nat) "CafeTablesModel" "trace" "I") ∈ lw_all := lw_g (lw_at lw_m5 86 rfl) rfl
theorem q1117 : (Jvm.Cond.fieldLink "CafeTablesModel" (9 : Nat) "CafeTablesModel" "sorts" "[I") ∈ lw_all := lw_g (lw_at lw_m5 87 rfl) rfl
theorem q1118 : (Jvm.Cond.fieldLink "CafeTablesModel" (13 : Nat) "CafeTablesModel" "sheetLong" "[I") ∈ lw_all := lw_g (lw_at lw_m5 88 rfl) rfl
theorem q1119 : (Jvm.Cond.fieldLink "CafeTablesModel" (16 : Nat) "CafeTablesModel" "cells" "[I") ∈ lw_all := lw_g (lw_at lw_m5 89 rfl) rfl
theorem q1120 : (Jvm.Cond.fieldLink "CafeTablesModel" (108 : Nat) "CafeTablesModel" "tables" "I") ∈ lw_all := lw_g (lw_at lw_m5 90 rfl) rfl
theorem q1121 : (Jvm.Cond.fieldLink "CafeTablesModel" (19 : Nat) "CafeTablesModel" "where" "[I") ∈ lw_all := lw_g (lw_at lw_m5 91 rfl) rfl
theorem q1122 : (Jvm.Cond.fieldLink "CafeTablesModel" (22 : Nat) "CafeTablesModel" "seats" "[I") ∈ lw_all := lw_g (lw_at lw_m5 92 rfl) rfl
theorem q1123 : (Jvm.Cond.fieldLink "CafeTablesModel" (138 : Nat) "CafeTablesModel" "rule" "I") ∈ lw_all := lw_g (lw_at lw_m5 93 rfl) rfl
theorem q1124 : (Jvm.Cond.fieldLink "CafeTablesModel" (141 : Nat) "CafeTablesModel" "patience" "I") ∈ lw_all := lw_g (lw_at lw_m5 94 rfl) rfl
theorem q1125 : (Jvm.Cond.fieldLink "CafeTablesModel" (144 : Nat) "CafeTablesModel" "isJoining" "Z") ∈ lw_all := lw_g (lw_at lw_m5 95 rfl) rfl
theorem q1126 : (Jvm.Cond.fieldLink "CafeTablesModel" (25 : Nat) "CafeTablesModel" "rain" "I") ∈ lw_all := lw_g (lw_at lw_m5 96 rfl) rfl
theorem q1127 : (Jvm.Cond.fieldLink "CafeTablesModel" (111 : Nat) "CafeTablesModel" "at" "I") ∈ lw_all := lw_g (lw_at lw_m5 97 rfl) rfl
theorem q1128 : (Jvm.Cond.fieldLink "CafeTablesModel" (132 : Nat) "CafeTablesModel" "readTables" "I") ∈ lw_all := lw_g (lw_at lw_m5 98 rfl) rfl
theorem q1129 : (Jvm.Cond.fieldLink "CafeTablesModel" (29 : Nat) "CafeTablesModel" "readWhere" "[I") ∈ lw_all := lw_g (lw_at lw_m5 99 rfl) rfl
theorem q1130 : (Jvm.Cond.fieldLink "CafeTablesModel" (32 : Nat) "CafeTablesModel" "readSeats" "[I") ∈ lw_all := lw_g (lw_at lw_m5 100 rfl) rfl
theorem q1131 : (Jvm.Cond.fieldLink "CafeTablesModel" (135 : Nat) "CafeTablesModel" "groups" "I") ∈ lw_all := lw_g (lw_at lw_m5 101 rfl) rfl
theorem q1132 : (Jvm.Cond.fieldLink "CafeTablesModel" (35 : Nat) "CafeTablesModel" "kind" "[I") ∈ lw_all := lw_g (lw_at lw_m5 102 rfl) rfl
theorem q1133 : (Jvm.Cond.fieldLink "CafeTablesModel" (38 : Nat) "CafeTablesModel" "size" "[I") ∈ lw_all := lw_g (lw_at lw_m5 103 rfl) rfl
theorem q1134 : (Jvm.Cond.fieldLink "CafeTablesModel" (41 : Nat) "CafeTablesModel" "comes" "[I") ∈ lw_all := lw_g (lw_at lw_m5 104 rfl) rfl
theorem q1135 : (Jvm.Cond.fieldLink "CafeTablesModel" (44 : Nat) "CafeTablesModel" "stay" "[I") ∈ lw_all := lw_g (lw_at lw_m5 105 rfl) rfl
theorem q1136 : (Jvm.Cond.fieldLink "CafeTablesModel" (47 : Nat) "CafeTablesModel" "wants" "[I") ∈ lw_all := lw_g (lw_at lw_m5 106 rfl) rfl
theorem q1137 : (Jvm.Cond.fieldLink "CafeTablesModel" (50 : Nat) "CafeTablesModel" "lure" "[I") ∈ lw_all := lw_g (lw_at lw_m5 107 rfl) rfl
theorem q1138 : (Jvm.Cond.fieldLink "CafeTablesModel" (162 : Nat) "CafeTablesModel" "laidTables" "I") ∈ lw_all := lw_g (lw_at lw_m5 108 rfl) rfl
theorem q1139 : (Jvm.Cond.fieldLink "CafeTablesModel" (53 : Nat) "CafeTablesModel" "laidWhere" "[I") ∈ lw_all := lw_g (lw_at lw_m5 109 rfl) rfl
theorem q1140 : (Jvm.Cond.fieldLink "CafeTablesModel" (56 : Nat) "CafeTablesModel" "laidSeats" "[I") ∈ lw_all := lw_g (lw_at lw_m5 110 rfl) rfl
theorem q1141 : (Jvm.Cond.fieldLink "CafeTablesModel" (165 : Nat) "CafeTablesModel" "laidRule" "I") ∈ lw_all := lw_g (lw_at lw_m5 111 rfl) rfl
theorem q1142 : (Jvm.Cond.fieldLink "CafeTablesModel" (168 : Nat) "CafeTablesModel" "laidPatience" "I") ∈ lw_all := lw_g (lw_at lw_m5 112 rfl) rfl
theorem q1143 : (Jvm.Cond.fieldLink "CafeTablesModel" (171 : Nat) "CafeTablesModel" "laidRain" "I") ∈ lw_all := lw_g (lw_at lw_m5 113 rfl) rfl
theorem q1144 : (Jvm.Cond.fieldLink "CafeTablesModel" (174 : Nat) "CafeTablesModel" "leftOut" "I") ∈ lw_all := lw_g (lw_at lw_m5 114 rfl) rfl
theorem q1145 : (Jvm.Cond.fieldLink "CafeTablesModel" (59 : Nat) "CafeTablesModel" "taker" "[I") ∈ lw_all := lw_g (lw_at lw_m5 115 rfl) rfl
theorem q1146 : (Jvm.Cond.fieldLink "CafeTablesModel" (62 : Nat) "CafeTablesModel" "isShut" "[Z") ∈ lw_all := lw_g (lw_at lw_m5 116 rfl) rfl
theorem q1147 : (Jvm.Cond.fieldLink "CafeTablesModel" (66 : Nat) "CafeTablesModel" "state" "[I") ∈ lw_all := lw_g (lw_at lw_m5 117 rfl) rfl
theorem q1148 : (Jvm.Cond.fieldLink "CafeTablesModel" (69 : Nat) "CafeTablesModel" "table" "[I") ∈ lw_all := lw_g (lw_at lw_m5 118 rfl) rfl
theorem q1149 : (Jvm.Cond.fieldLink "CafeTablesModel" (72 : Nat) "CafeTablesModel" "from" "[I") ∈ lw_all := lw_g (lw_at lw_m5 119 rfl) rfl
theorem q1150 : (Jvm.Cond.fieldLink "CafeTablesModel" (75 : Nat) "CafeTablesModel" "till" "[I") ∈ lw_all := lw_g (lw_at lw_m5 120 rfl) rfl
theorem q1151 : (Jvm.Cond.fieldLink "CafeTablesModel" (78 : Nat) "CafeTablesModel" "coin" "[I") ∈ lw_all := lw_g (lw_at lw_m5 121 rfl) rfl
theorem q1152 : (Jvm.Cond.fieldLink "CafeTablesModel" (81 : Nat) "CafeTablesModel" "waited" "[I") ∈ lw_all := lw_g (lw_at lw_m5 122 rfl) rfl
theorem q1153 : (Jvm.Cond.fieldLink "CafeTablesModel" (84 : Nat) "CafeTablesModel" "takenThen" "[I") ∈ lw_all := lw_g (lw_at lw_m5 123 rfl) rfl
theorem q1154 : (Jvm.Cond.fieldLink "CafeTablesModel" (87 : Nat) "CafeTablesModel" "waitingThen" "[I") ∈ lw_all := lw_g (lw_at lw_m5 124 rfl) rfl
theorem q1155 : (Jvm.Cond.fieldLink "CafeTablesModel" (90 : Nat) "CafeTablesModel" "isWet" "[Z") ∈ lw_all := lw_g (lw_at lw_m5 125 rfl) rfl
theorem q1156 : (Jvm.Cond.fieldLink "CafeTablesModel" (93 : Nat) "CafeTablesModel" "chosen" "[I") ∈ lw_all := lw_g (lw_at lw_m5 126 rfl) rfl
theorem q1157 : (Jvm.Cond.fieldLink "CafeTablesModel" (96 : Nat) "CafeTablesModel" "bestRow" "[I") ∈ lw_all := lw_g (lw_at lw_m5 127 rfl) rfl
theorem q1158 : (Jvm.Cond.fieldLink "CafeTablesModel" (248 : Nat) "CafeTablesModel" "planMost" "I") ∈ lw_all := lw_g (lw_at lw_m5 128 rfl) rfl
theorem q1159 : (Jvm.Cond.lays "CafeTablesModel" "CafeTablesModel" "fault" "I") ∈ lw_all := lw_g (lw_at lw_m5 129 rfl) rfl
theorem q1160 : (Jvm.Cond.soleField "CafeTablesModel" "fault") ∈ lw_all := lw_g (lw_at lw_m5 130 rfl) rfl
theorem q1161 : (Jvm.Cond.lays "CafeTablesModel" "CafeTablesModel" "trace" "I") ∈ lw_all := lw_g (lw_at lw_m5 131 rfl) rfl
theorem q1162 : (Jvm.Cond.soleField "CafeTablesModel" "trace") ∈ lw_all := lw_g (lw_at lw_m5 132 rfl) rfl
theorem q1163 : (Jvm.Cond.laysFinal "CafeTablesModel" "CafeTablesModel" "sorts" "[I") ∈ lw_all := lw_g (lw_at lw_m5 133 rfl) rfl
theorem q1164 : (Jvm.Cond.soleField "CafeTablesModel" "sorts") ∈ lw_all := lw_g (lw_at lw_m5 134 rfl) rfl
theorem q1165 : (Jvm.Cond.laysFinal "CafeTablesModel" "CafeTablesModel" "sheetLong" "[I") ∈ lw_all := lw_g (lw_at lw_m5 135 rfl) rfl
theorem q1166 : (Jvm.Cond.soleField "CafeTablesModel" "sheetLong") ∈ lw_all := lw_g (lw_at lw_m5 136 rfl) rfl
theorem q1167 : (Jvm.Cond.laysFinal "CafeTablesModel" "CafeTablesModel" "cells" "[I") ∈ lw_all := lw_g (lw_at lw_m5 137 rfl) rfl
theorem q1168 : (Jvm.Cond.soleField "CafeTablesModel" "cells") ∈ lw_all := lw_g (lw_at lw_m5 138 rfl) rfl
theorem q1169 : (Jvm.Cond.lays "CafeTablesModel" "CafeTablesModel" "tables" "I") ∈ lw_all := lw_g (lw_at lw_m5 139 rfl) rfl
theorem q1170 : (Jvm.Cond.soleField "CafeTablesModel" "tables") ∈ lw_all := lw_g (lw_at lw_m5 140 rfl) rfl
theorem q1171 : (Jvm.Cond.laysFinal "CafeTablesModel" "CafeTablesModel" "where" "[I") ∈ lw_all := lw_g (lw_at lw_m5 141 rfl) rfl
theorem q1172 : (Jvm.Cond.soleField "CafeTablesModel" "where") ∈ lw_all := lw_g (lw_at lw_m5 142 rfl) rfl
theorem q1173 : (Jvm.Cond.laysFinal "CafeTablesModel" "CafeTablesModel" "seats" "[I") ∈ lw_all := lw_g (lw_at lw_m5 143 rfl) rfl
theorem q1174 : (Jvm.Cond.soleField "CafeTablesModel" "seats") ∈ lw_all := lw_g (lw_at lw_m5 144 rfl) rfl
theorem q1175 : (Jvm.Cond.lays "CafeTablesModel" "CafeTablesModel" "rule" "I") ∈ lw_all := lw_g (lw_at lw_m5 145 rfl) rfl
theorem q1176 : (Jvm.Cond.soleField "CafeTablesModel" "rule") ∈ lw_all := lw_g (lw_at lw_m5 146 rfl) rfl
theorem q1177 : (Jvm.Cond.lays "CafeTablesModel" "CafeTablesModel" "patience" "I") ∈ lw_all := lw_g (lw_at lw_m5 147 rfl) rfl
theorem q1178 : (Jvm.Cond.soleField "CafeTablesModel" "patience") ∈ lw_all := lw_g (lw_at lw_m5 148 rfl) rfl
theorem q1179 : (Jvm.Cond.lays "CafeTablesModel" "CafeTablesModel" "isJoining" "Z") ∈ lw_all := lw_g (lw_at lw_m5 149 rfl) rfl
theorem q1180 : (Jvm.Cond.soleField "CafeTablesModel" "isJoining") ∈ lw_all := lw_g (lw_at lw_m5 150 rfl) rfl
theorem q1181 : (Jvm.Cond.lays "CafeTablesModel" "CafeTablesModel" "rain" "I") ∈ lw_all := lw_g (lw_at lw_m5 151 rfl) rfl
theorem q1182 : (Jvm.Cond.soleField "CafeTablesModel" "rain") ∈ lw_all := lw_g (lw_at lw_m5 152 rfl) rfl
theorem q1183 : (Jvm.Cond.lays "CafeTablesModel" "CafeTablesModel" "at" "I") ∈ lw_all := lw_g (lw_at lw_m5 153 rfl) rfl
theorem q1184 : (Jvm.Cond.soleField "CafeTablesModel" "at") ∈ lw_all := lw_g (lw_at lw_m5 154 rfl) rfl
theorem q1185 : (Jvm.Cond.lays "CafeTablesModel" "CafeTablesModel" "readTables" "I") ∈ lw_all := lw_g (lw_at lw_m5 155 rfl) rfl
theorem q1186 : (Jvm.Cond.soleField "CafeTablesModel" "readTables") ∈ lw_all := lw_g (lw_at lw_m5 156 rfl) rfl
theorem q1187 : (Jvm.Cond.laysFinal "CafeTablesModel" "CafeTablesModel" "readWhere" "[I") ∈ lw_all := lw_g (lw_at lw_m5 157 rfl) rfl
theorem q1188 : (Jvm.Cond.soleField "CafeTablesModel" "readWhere") ∈ lw_all := lw_g (lw_at lw_m5 158 rfl) rfl
theorem q1189 : (Jvm.Cond.laysFinal "CafeTablesModel" "CafeTablesModel" "readSeats" "[I") ∈ lw_all := lw_g (lw_at lw_m5 159 rfl) rfl
theorem q1190 : (Jvm.Cond.soleField "CafeTablesModel" "readSeats") ∈ lw_all := lw_g (lw_at lw_m5 160 rfl) rfl
theorem q1191 : (Jvm.Cond.lays "CafeTablesModel" "CafeTablesModel" "groups" "I") ∈ lw_all := lw_g (lw_at lw_m5 161 rfl) rfl
theorem q1192 : (Jvm.Cond.soleField "CafeTablesModel" "groups") ∈ lw_all := lw_g (lw_at lw_m5 162 rfl) rfl
theorem q1193 : (Jvm.Cond.laysFinal "CafeTablesModel" "CafeTablesModel" "kind" "[I") ∈ lw_all := lw_g (lw_at lw_m5 163 rfl) rfl
theorem q1194 : (Jvm.Cond.soleField "CafeTablesModel" "kind") ∈ lw_all := lw_g (lw_at lw_m5 164 rfl) rfl
theorem q1195 : (Jvm.Cond.laysFinal "CafeTablesModel" "CafeTablesModel" "size" "[I") ∈ lw_all := lw_g (lw_at lw_m5 165 rfl) rfl
theorem q1196 : (Jvm.Cond.soleField "CafeTablesModel" "size") ∈ lw_all := lw_g (lw_at lw_m5 166 rfl) rfl
theorem q1197 : (Jvm.Cond.laysFinal "CafeTablesModel" "CafeTablesModel" "comes" "[I") ∈ lw_all := lw_g (lw_at lw_m5 167 rfl) rfl
theorem q1198 : (Jvm.Cond.soleField "CafeTablesModel" "comes") ∈ lw_all := lw_g (lw_at lw_m5 168 rfl) rfl
theorem q1199 : (Jvm.Cond.laysFinal "CafeTablesModel" "CafeTablesModel" "stay" "[I") ∈ lw_all := lw_g (lw_at lw_m5 169 rfl) rfl
theorem q1200 : (Jvm.Cond.soleField "CafeTablesModel" "stay") ∈ lw_all := lw_g (lw_at lw_m5 170 rfl) rfl
theorem q1201 : (Jvm.Cond.laysFinal "CafeTablesModel" "CafeTablesModel" "wants" "[I") ∈ lw_all := lw_g (lw_at lw_m5 171 rfl) rfl
theorem q1202 : (Jvm.Cond.soleField "CafeTablesModel" "wants") ∈ lw_all := lw_g (lw_at lw_m5 172 rfl) rfl
theorem q1203 : (Jvm.Cond.laysFinal "CafeTablesModel" "CafeTablesModel" "lure" "[I") ∈ lw_all := lw_g (lw_at lw_m5 173 rfl) rfl
theorem q1204 : (Jvm.Cond.soleField "CafeTablesModel" "lure") ∈ lw_all := lw_g (lw_at lw_m5 174 rfl) rfl
theorem q1205 : (Jvm.Cond.lays "CafeTablesModel" "CafeTablesModel" "laidTables" "I") ∈ lw_all := lw_g (lw_at lw_m5 175 rfl) rfl
theorem q1206 : (Jvm.Cond.soleField "CafeTablesModel" "laidTables") ∈ lw_all := lw_g (lw_at lw_m5 176 rfl) rfl
theorem q1207 : (Jvm.Cond.laysFinal "CafeTablesModel" "CafeTablesModel" "laidWhere" "[I") ∈ lw_all := lw_g (lw_at lw_m5 177 rfl) rfl
theorem q1208 : (Jvm.Cond.soleField "CafeTablesModel" "laidWhere") ∈ lw_all := lw_g (lw_at lw_m5 178 rfl) rfl
theorem q1209 : (Jvm.Cond.laysFinal "CafeTablesModel" "CafeTablesModel" "laidSeats" "[I") ∈ lw_all := lw_g (lw_at lw_m5 179 rfl) rfl
theorem q1210 : (Jvm.Cond.soleField "CafeTablesModel" "laidSeats") ∈ lw_all := lw_g (lw_at lw_m5 180 rfl) rfl
theorem q1211 : (Jvm.Cond.lays "CafeTablesModel" "CafeTablesModel" "laidRule" "I") ∈ lw_all := lw_g (lw_at lw_m5 181 rfl) rfl
theorem q1212 : (Jvm.Cond.soleField "CafeTablesModel" "laidRule") ∈ lw_all := lw_g (lw_at lw_m5 182 rfl) rfl
theorem q1213 : (Jvm.Cond.lays "CafeTablesModel" "CafeTablesModel" "laidPatience" "I") ∈ lw_all := lw_g (lw_at lw_m5 183 rfl) rfl
theorem q1214 : (Jvm.Cond.soleField "CafeTablesModel" "laidPatience") ∈ lw_all := lw_g (lw_at lw_m5 184 rfl) rfl
theorem q1215 : (Jvm.Cond.lays "CafeTablesModel" "CafeTablesModel" "laidRain" "I") ∈ lw_all := lw_g (lw_at lw_m5 185 rfl) rfl
theorem q1216 : (Jvm.Cond.soleField "CafeTablesModel" "laidRain") ∈ lw_all := lw_g (lw_at lw_m5 186 rfl) rfl
theorem q1217 : (Jvm.Cond.lays "CafeTablesModel" "CafeTablesModel" "leftOut" "I") ∈ lw_all := lw_g (lw_at lw_m5 187 rfl) rfl
theorem q1218 : (Jvm.Cond.soleField "CafeTablesModel" "leftOut") ∈ lw_all := lw_g (lw_at lw_m5 188 rfl) rfl
theorem q1219 : (Jvm.Cond.laysFinal "CafeTablesModel" "CafeTablesModel" "taker" "[I") ∈ lw_all := lw_g (lw_at lw_m5 189 rfl) rfl
theorem q1220 : (Jvm.Cond.soleField "CafeTablesModel" "taker") ∈ lw_all := lw_g (lw_at lw_m5 190 rfl) rfl
theorem q1221 : (Jvm.Cond.laysFinal "CafeTablesModel" "CafeTablesModel" "isShut" "[Z") ∈ lw_all := lw_g (lw_at lw_m5 191 rfl) rfl
theorem q1222 : (Jvm.Cond.soleField "CafeTablesModel" "isShut") ∈ lw_all := lw_g (lw_at lw_m5 192 rfl) rfl
theorem q1223 : (Jvm.Cond.laysFinal "CafeTablesModel" "CafeTablesModel" "state" "[I") ∈ lw_all := lw_g (lw_at lw_m5 193 rfl) rfl
theorem q1224 : (Jvm.Cond.soleField "CafeTablesModel" "state") ∈ lw_all := lw_g (lw_at lw_m5 194 rfl) rfl
theorem q1225 : (Jvm.Cond.laysFinal "CafeTablesModel" "CafeTablesModel" "table" "[I") ∈ lw_all := lw_g (lw_at lw_m5 195 rfl) rfl
theorem q1226 : (Jvm.Cond.soleField "CafeTablesModel" "table") ∈ lw_all := lw_g (lw_at lw_m5 196 rfl) rfl
theorem q1227 : (Jvm.Cond.laysFinal "CafeTablesModel" "CafeTablesModel" "from" "[I") ∈ lw_all := lw_g (lw_at lw_m5 197 rfl) rfl
theorem q1228 : (Jvm.Cond.soleField "CafeTablesModel" "from") ∈ lw_all := lw_g (lw_at lw_m5 198 rfl) rfl
theorem q1229 : (Jvm.Cond.laysFinal "CafeTablesModel" "CafeTablesModel" "till" "[I") ∈ lw_all := lw_g (lw_at lw_m5 199 rfl) rfl
theorem q1230 : (Jvm.Cond.soleField "CafeTablesModel" "till") ∈ lw_all := lw_g (lw_at lw_m5 200 rfl) rfl
theorem q1231 : (Jvm.Cond.laysFinal "CafeTablesModel" "CafeTablesModel" "coin" "[I") ∈ lw_all := lw_g (lw_at lw_m5 201 rfl) rfl
theorem q1232 : (Jvm.Cond.soleField "CafeTablesModel" "coin") ∈ lw_all := lw_g (lw_at lw_m5 202 rfl) rfl
theorem q1233 : (Jvm.Cond.laysFinal "CafeTablesModel" "CafeTablesModel" "waited" "[I") ∈ lw_all := lw_g (lw_at lw_m5 203 rfl) rfl
theorem q1234 : (Jvm.Cond.soleField "CafeTablesModel" "waited") ∈ lw_all := lw_g (lw_at lw_m5 204 rfl) rfl
theorem q1235 : (Jvm.Cond.laysFinal "CafeTablesModel" "CafeTablesModel" "takenThen" "[I") ∈ lw_all := lw_g (lw_at lw_m5 205 rfl) rfl
theorem q1236 : (Jvm.Cond.soleField "CafeTablesModel" "takenThen") ∈ lw_all := lw_g (lw_at lw_m5 206 rfl) rfl
theorem q1237 : (Jvm.Cond.laysFinal "CafeTablesModel" "CafeTablesModel" "waitingThen" "[I") ∈ lw_all := lw_g (lw_at lw_m5 207 rfl) rfl
theorem q1238 : (Jvm.Cond.soleField "CafeTablesModel" "waitingThen") ∈ lw_all := lw_g (lw_at lw_m5 208 rfl) rfl
theorem q1239 : (Jvm.Cond.laysFinal "CafeTablesModel" "CafeTablesModel" "isWet" "[Z") ∈ lw_all := lw_g (lw_at lw_m5 209 rfl) rfl
theorem q1240 : (Jvm.Cond.soleField "CafeTablesModel" "isWet") ∈ lw_all := lw_g (lw_at lw_m5 210 rfl) rfl
theorem q1241 : (Jvm.Cond.laysFinal "CafeTablesModel" "CafeTablesModel" "chosen" "[I") ∈ lw_all := lw_g (lw_at lw_m5 211 rfl) rfl
theorem q1242 : (Jvm.Cond.soleField "CafeTablesModel" "chosen") ∈ lw_all := lw_g (lw_at lw_m5 212 rfl) rfl
theorem q1243 : (Jvm.Cond.laysFinal "CafeTablesModel" "CafeTablesModel" "bestRow" "[I") ∈ lw_all := lw_g (lw_at lw_m5 213 rfl) rfl
theorem q1244 : (Jvm.Cond.soleField "CafeTablesModel" "bestRow") ∈ lw_all := lw_g (lw_at lw_m5 214 rfl) rfl
theorem q1245 : (Jvm.Cond.lays "CafeTablesModel" "CafeTablesModel" "planMost" "I") ∈ lw_all := lw_g (lw_at lw_m5 215 rfl) rfl
theorem q1246 : (Jvm.Cond.soleField "CafeTablesModel" "planMost") ∈ lw_all := lw_g (lw_at lw_m5 216 rfl) rfl
theorem q1247 : (Jvm.Cond.superclass "CafeTablesModel" "java/lang/Object") ∈ lw_all := lw_g (lw_at lw_m5 217 rfl) rfl
theorem q1250 : (Jvm.Cond.instanceMethod ({ cls := "CafeTablesModel", name := "cafe", desc := "(IIII)I" } : Jvm.MethodName)) ∈ lw_all := lw_g (lw_at lw_m5 220 rfl) rfl
theorem q1251 : (Jvm.Cond.selects "CafeTablesModel" ({ cls := "CafeTablesModel", name := "cafe", desc := "(IIII)I" } : Jvm.MethodName) ({ cls := "CafeTablesModel", name := "cafe", desc := "(IIII)I" } : Jvm.MethodName)) ∈ lw_all := lw_g (lw_at lw_m5 221 rfl) rfl
theorem q1252 : (Jvm.Cond.code ({ cls := "CafeTablesModel", name := "cafe", desc := "(IIII)I" } : Jvm.MethodName) prog_12_method_12_code (8 : Nat) (Option.some Jvm.ClassFile.FieldType.int)) ∈ lw_all := lw_g (lw_at lw_m5 222 rfl) rfl
theorem q1253 : (Jvm.Cond.methodLink "CafeTablesModel" (114 : Nat) ({ cls := "CafeTablesModel", name := "isSheet", desc := "(I)Z" } : Jvm.MethodName)) ∈ lw_all := lw_g (lw_at lw_m5 223 rfl) rfl
theorem q1254 : (Jvm.Cond.static ({ cls := "CafeTablesModel", name := "isSheet", desc := "(I)Z" } : Jvm.MethodName)) ∈ lw_all := lw_g (lw_at lw_m5 224 rfl) rfl
theorem q1255 : (Jvm.Cond.code ({ cls := "CafeTablesModel", name := "isSheet", desc := "(I)Z" } : Jvm.MethodName) prog_12_method_7_code (1 : Nat) (Option.some Jvm.ClassFile.FieldType.boolean)) ∈ lw_all := lw_g (lw_at lw_m5 225 rfl) rfl
theorem q1256 : (Jvm.Cond.methodLink "CafeTablesModel" (104 : Nat) ({ cls := "CafeTablesModel", name := "within", desc := "(III)Z" } : Jvm.MethodName)) ∈ lw_all := lw_g (lw_at lw_m5 226 rfl) rfl
theorem q1257 : (Jvm.Cond.static ({ cls := "CafeTablesModel", name := "within", desc := "(III)Z" } : Jvm.MethodName)) ∈ lw_all := lw_g (lw_at lw_m5 227 rfl) rfl
theorem q1258 : (Jvm.Cond.code ({ cls := "CafeTablesModel", name := "within", desc := "(III)Z" } : Jvm.MethodName) prog_12_method_5_code (3 : Nat) (Option.some Jvm.ClassFile.FieldType.boolean)) ∈ lw_all := lw_g (lw_at lw_m5 228 rfl) rfl
theorem q1259 : (Jvm.Cond.methodLink "CafeTablesModel" (118 : Nat) ({ cls := "CafeTablesModel", name := "isSort", desc := "(I)Z" } : Jvm.MethodName)) ∈ lw_all := lw_g (lw_at lw_m5 229 rfl) rfl
theorem q1260 : (Jvm.Cond.static ({ cls := "CafeTablesModel", name := "isSort", desc := "(I)Z" } : Jvm.MethodName)) ∈ lw_all := lw_g (lw_at lw_m5 230 rfl) rfl
theorem q1261 : (Jvm.Cond.code ({ cls := "CafeTablesModel", name := "isSort", desc := "(I)Z" } : Jvm.MethodName) prog_12_method_8_code (1 : Nat) (Option.some Jvm.ClassFile.FieldType.boolean)) ∈ lw_all := lw_g (lw_at lw_m5 231 rfl) rfl
theorem q1262 : (Jvm.Cond.methodLink "CafeTablesModel" (121 : Nat) ({ cls := "CafeTablesModel", name := "against", desc := "(IIII)I" } : Jvm.MethodName)) ∈ lw_all := lw_g (lw_at lw_m5 232 rfl) rfl
theorem q1263 : (Jvm.Cond.privateMethod ({ cls := "CafeTablesModel", name := "against", desc := "(IIII)I" } : Jvm.MethodName)) ∈ lw_tbl := lw_at lw_m5 233 rfl
theorem q1264 : (Jvm.Cond.instanceMethod ({ cls := "CafeTablesModel", name := "against", desc := "(IIII)I" } : Jvm.MethodName)) ∈ lw_all := lw_g (lw_at lw_m5 234 rfl) rfl
theorem q1265 : (Jvm.Cond.code ({ cls := "CafeTablesModel", name := "against", desc := "(IIII)I" } : Jvm.MethodName) prog_12_method_9_code (5 : Nat) (Option.some Jvm.ClassFile.FieldType.int)) ∈ lw_all := lw_g (lw_at lw_m5 235 rfl) rfl
theorem q1266 : (Jvm.Cond.methodLink "CafeTablesModel" (125 : Nat) ({ cls := "CafeTablesModel", name := "fails", desc := "(I)I" } : Jvm.MethodName)) ∈ lw_all := lw_g (lw_at lw_m5 236 rfl) rfl
theorem q1267 : (Jvm.Cond.privateMethod ({ cls := "CafeTablesModel", name := "fails", desc := "(I)I" } : Jvm.MethodName)) ∈ lw_tbl := lw_at lw_m5 237 rfl
theorem q1268 : (Jvm.Cond.instanceMethod ({ cls := "CafeTablesModel", name := "fails", desc := "(I)I" } : Jvm.MethodName)) ∈ lw_all := lw_g (lw_at lw_m5 238 rfl) rfl
theorem q1269 : (Jvm.Cond.code ({ cls := "CafeTablesModel", name := "fails", desc := "(I)I" } : Jvm.MethodName) prog_12_method_3_code (2 : Nat) (Option.some Jvm.ClassFile.FieldType.int)) ∈ lw_all := lw_g (lw_at lw_m5 239 rfl) rfl
theorem q1270 : (Jvm.Cond.methodLink "CafeTablesModel" (129 : Nat) ({ cls := "CafeTablesModel", name := "readCafe", desc := "(I)Z" } : Jvm.MethodName)) ∈ lw_all := lw_g (lw_at lw_m6 0 rfl) rfl
theorem q1271 : (Jvm.Cond.privateMethod ({ cls := "CafeTablesModel", name := "readCafe", desc := "(I)Z" } : Jvm.MethodName)) ∈ lw_tbl := lw_at lw_m6 1 rfl
theorem q1272 : (Jvm.Cond.instanceMethod ({ cls := "CafeTablesModel", name := "readCafe", desc := "(I)Z" } : Jvm.MethodName)) ∈ lw_all := lw_g (lw_at lw_m6 2 rfl) rfl
theorem q1273 : (Jvm.Cond.code ({ cls := "CafeTablesModel", name := "readCafe", desc := "(I)Z" } : Jvm.MethodName) prog_12_method_13_code (2 : Nat) (Option.some Jvm.ClassFile.FieldType.boolean)) ∈ lw_all := lw_g (lw_at lw_m6 3 rfl) rfl
theorem q1274 : (Jvm.Cond.methodLink "CafeTablesModel" (148 : Nat) ({ cls := "CafeTablesModel", name := "isCode", desc := "(II)Z" } : Jvm.MethodName)) ∈ lw_all := lw_g (lw_at lw_m6 4 rfl) rfl
theorem q1275 : (Jvm.Cond.privateMethod ({ cls := "CafeTablesModel", name := "isCode", desc := "(II)Z" } : Jvm.MethodName)) ∈ lw_tbl := lw_at lw_m6 5 rfl
theorem q1276 : (Jvm.Cond.instanceMethod ({ cls := "CafeTablesModel", name := "isCode", desc := "(II)Z" } : Jvm.MethodName)) ∈ lw_all := lw_g (lw_at lw_m6 6 rfl) rfl
theorem q1277 : (Jvm.Cond.code ({ cls := "CafeTablesModel", name := "isCode", desc := "(II)Z" } : Jvm.MethodName) prog_12_method_11_code (3 : Nat) (Option.some Jvm.ClassFile.FieldType.boolean)) ∈ lw_all := lw_g (lw_at lw_m6 7 rfl) rfl
theorem q1279 : (Jvm.Cond.instanceMethod ({ cls := "CafeTablesModel", name := "ofTable", desc := "(II)I" } : Jvm.MethodName)) ∈ lw_all := lw_g (lw_at lw_m6 9 rfl) rfl
theorem q1280 : (Jvm.Cond.selects "CafeTablesModel" ({ cls := "CafeTablesModel", name := "ofTable", desc := "(II)I" } : Jvm.MethodName) ({ cls := "CafeTablesModel", name := "ofTable", desc := "(II)I" } : Jvm.MethodName)) ∈ lw_all := lw_g (lw_at lw_m6 10 rfl) rfl
theorem q1281 : (Jvm.Cond.code ({ cls := "CafeTablesModel", name := "ofTable", desc := "(II)I" } : Jvm.MethodName) prog_12_method_14_code (3 : Nat) (Option.some Jvm.ClassFile.FieldType.int)) ∈ lw_all := lw_g (lw_at lw_m6 11 rfl) rfl
theorem q1283 : (Jvm.Cond.instanceMethod ({ cls := "CafeTablesModel", name := "rule", desc := "(I)I" } : Jvm.MethodName)) ∈ lw_all := lw_g (lw_at lw_m6 13 rfl) rfl
theorem q1284 : (Jvm.Cond.selects "CafeTablesModel" ({ cls := "CafeTablesModel", name := "rule", desc := "(I)I" } : Jvm.MethodName) ({ cls := "CafeTablesModel", name := "rule", desc := "(I)I" } : Jvm.MethodName)) ∈ lw_all := lw_g (lw_at lw_m6 14 rfl) rfl
theorem q1285 : (Jvm.Cond.code ({ cls := "CafeTablesModel", name := "rule", desc := "(I)I" } : Jvm.MethodName) prog_12_method_15_code (3 : Nat) (Option.some Jvm.ClassFile.FieldType.int)) ∈ lw_all := lw_g (lw_at lw_m6 15 rfl) rfl
theorem q1286 : (Jvm.Cond.methodLink "CafeTablesModel" (152 : Nat) ({ cls := "CafeTablesModel", name := "isCafe", desc := "()Z" } : Jvm.MethodName)) ∈ lw_all := lw_g (lw_at lw_m6 16 rfl) rfl
theorem q1287 : (Jvm.Cond.privateMethod ({ cls := "CafeTablesModel", name := "isCafe", desc := "()Z" } : Jvm.MethodName)) ∈ lw_tbl := lw_at lw_m6 17 rfl
theorem q1288 : (Jvm.Cond.instanceMethod ({ cls := "CafeTablesModel", name := "isCafe", desc := "()Z" } : Jvm.MethodName)) ∈ lw_all := lw_g (lw_at lw_m6 18 rfl) rfl
theorem q1289 : (Jvm.Cond.code ({ cls := "CafeTablesModel", name := "isCafe", desc := "()Z" } : Jvm.MethodName) prog_12_method_10_code (1 : Nat) (Option.some Jvm.ClassFile.FieldType.boolean)) ∈ lw_all := lw_g (lw_at lw_m6 19 rfl) rfl
theorem q1291 : (Jvm.Cond.instanceMethod ({ cls := "CafeTablesModel", name := "patience", desc := "(I)I" } : Jvm.MethodName)) ∈ lw_all := lw_g (lw_at lw_m6 21 rfl) rfl
theorem q1292 : (Jvm.Cond.selects "CafeTablesModel" ({ cls := "CafeTablesModel", name := "patience", desc := "(I)I" } : Jvm.MethodName) ({ cls := "CafeTablesModel", name := "patience", desc := "(I)I" } : Jvm.MethodName)) ∈ lw_all := lw_g (lw_at lw_m6 22 rfl) rfl
theorem q1293 : (Jvm.Cond.code ({ cls := "CafeTablesModel", name := "patience", desc := "(I)I" } : Jvm.MethodName) prog_12_method_16_code (3 : Nat) (Option.some Jvm.ClassFile.FieldType.int)) ∈ lw_all := lw_g (lw_at lw_m6 23 rfl) rfl
theorem q1295 : (Jvm.Cond.instanceMethod ({ cls := "CafeTablesModel", name := "joining", desc := "(Z)I" } : Jvm.MethodName)) ∈ lw_all := lw_g (lw_at lw_m6 25 rfl) rfl
theorem q1296 : (Jvm.Cond.selects "CafeTablesModel" ({ cls := "CafeTablesModel", name := "joining", desc := "(Z)I" } : Jvm.MethodName) ({ cls := "CafeTablesModel", name := "joining", desc := "(Z)I" } : Jvm.MethodName)) ∈ lw_all := lw_g (lw_at lw_m6 26 rfl) rfl
theorem q1297 : (Jvm.Cond.code ({ cls := "CafeTablesModel", name := "joining", desc := "(Z)I" } : Jvm.MethodName) prog_12_method_17_code (3 : Nat) (Option.some Jvm.ClassFile.FieldType.int)) ∈ lw_all := lw_g (lw_at lw_m6 27 rfl) rfl
theorem q1299 : (Jvm.Cond.instanceMethod ({ cls := "CafeTablesModel", name := "rain", desc := "(I)I" } : Jvm.MethodName)) ∈ lw_all := lw_g (lw_at lw_m6 29 rfl) rfl
theorem q1300 : (Jvm.Cond.selects "CafeTablesModel" ({ cls := "CafeTablesModel", name := "rain", desc := "(I)I" } : Jvm.MethodName) ({ cls := "CafeTablesModel", name := "rain", desc := "(I)I" } : Jvm.MethodName)) ∈ lw_all := lw_g (lw_at lw_m6 30 rfl) rfl
theorem q1301 : (Jvm.Cond.code ({ cls := "CafeTablesModel", name := "rain", desc := "(I)I" } : Jvm.MethodName) prog_12_method_18_code (2 : Nat) (Option.some Jvm.ClassFile.FieldType.int)) ∈ lw_all := lw_g (lw_at lw_m6 31 rfl) rfl
theorem q1303 : (Jvm.Cond.instanceMethod ({ cls := "CafeTablesModel", name := "group", desc := "(IIIIII)I" } : Jvm.MethodName)) ∈ lw_all := lw_g (lw_at lw_m6 33 rfl) rfl
theorem q1304 : (Jvm.Cond.selects "CafeTablesModel" ({ cls := "CafeTablesModel", name := "group", desc := "(IIIIII)I" } : Jvm.MethodName) ({ cls := "CafeTablesModel", name := "group", desc := "(IIIIII)I" } : Jvm.MethodName)) ∈ lw_all := lw_g (lw_at lw_m6 34 rfl) rfl
theorem q1305 : (Jvm.Cond.code ({ cls := "CafeTablesModel", name := "group", desc := "(IIIIII)I" } : Jvm.MethodName) prog_12_method_20_code (7 : Nat) (Option.some Jvm.ClassFile.FieldType.int)) ∈ lw_all := lw_g (lw_at lw_m6 35 rfl) rfl
theorem q1307 : (Jvm.Cond.instanceMethod ({ cls := "CafeTablesModel", name := "ofGroup", desc := "(II)I" } : Jvm.MethodName)) ∈ lw_all := lw_g (lw_at lw_m6 37 rfl) rfl
theorem q1308 : (Jvm.Cond.selects "CafeTablesModel" ({ cls := "CafeTablesModel", name := "ofGroup", desc := "(II)I" } : Jvm.MethodName) ({ cls := "CafeTablesModel", name := "ofGroup", desc := "(II)I" } : Jvm.MethodName)) ∈ lw_all := lw_g (lw_at lw_m6 38 rfl) rfl
theorem q1309 : (Jvm.Cond.code ({ cls := "CafeTablesModel", name := "ofGroup", desc := "(II)I" } : Jvm.MethodName) prog_12_method_22_code (3 : Nat) (Option.some Jvm.ClassFile.FieldType.int)) ∈ lw_all := lw_g (lw_at lw_m6 39 rfl) rfl
theorem q1310 : (Jvm.Cond.methodLink "CafeTablesModel" (156 : Nat) ({ cls := "CafeTablesModel", name := "isGroup", desc := "(I)Z" } : Jvm.MethodName)) ∈ lw_all := lw_g (lw_at lw_m6 40 rfl) rfl
theorem q1311 : (Jvm.Cond.privateMethod ({ cls := "CafeTablesModel", name := "isGroup", desc := "(I)Z" } : Jvm.MethodName)) ∈ lw_tbl := lw_at lw_m6 41 rfl
theorem q1312 : (Jvm.Cond.instanceMethod ({ cls := "CafeTablesModel", name := "isGroup", desc := "(I)Z" } : Jvm.MethodName)) ∈ lw_all := lw_g (lw_at lw_m6 42 rfl) rfl
theorem q1313 : (Jvm.Cond.code ({ cls := "CafeTablesModel", name := "isGroup", desc := "(I)Z" } : Jvm.MethodName) prog_12_method_19_code (2 : Nat) (Option.some Jvm.ClassFile.FieldType.boolean)) ∈ lw_all := lw_g (lw_at lw_m6 43 rfl) rfl
theorem q1314 : (Jvm.Cond.methodLink "CafeTablesModel" (159 : Nat) ({ cls := "CafeTablesModel", name := "stays", desc := "(I)I" } : Jvm.MethodName)) ∈ lw_all := lw_g (lw_at lw_m6 44 rfl) rfl
theorem q1315 : (Jvm.Cond.privateMethod ({ cls := "CafeTablesModel", name := "stays", desc := "(I)I" } : Jvm.MethodName)) ∈ lw_tbl := lw_at lw_m6 45 rfl
theorem q1316 : (Jvm.Cond.instanceMethod ({ cls := "CafeTablesModel", name := "stays", desc := "(I)I" } : Jvm.MethodName)) ∈ lw_all := lw_g (lw_at lw_m6 46 rfl) rfl
theorem q1317 : (Jvm.Cond.code ({ cls := "CafeTablesModel", name := "stays", desc := "(I)I" } : Jvm.MethodName) prog_12_method_21_code (2 : Nat) (Option.some Jvm.ClassFile.FieldType.int)) ∈ lw_all := lw_g (lw_at lw_m6 47 rfl) rfl
theorem q1319 : (Jvm.Cond.instanceMethod ({ cls := "CafeTablesModel", name := "day", desc := "(II)I" } : Jvm.MethodName)) ∈ lw_all := lw_g (lw_at lw_m6 49 rfl) rfl
theorem q1320 : (Jvm.Cond.selects "CafeTablesModel" ({ cls := "CafeTablesModel", name := "day", desc := "(II)I" } : Jvm.MethodName) ({ cls := "CafeTablesModel", name := "day", desc := "(II)I" } : Jvm.MethodName)) ∈ lw_all := lw_g (lw_at lw_m6 50 rfl) rfl
theorem q1321 : (Jvm.Cond.code ({ cls := "CafeTablesModel", name := "day", desc := "(II)I" } : Jvm.MethodName) prog_12_method_44_code (4 : Nat) (Option.some Jvm.ClassFile.FieldType.int)) ∈ lw_all := lw_g (lw_at lw_m6 51 rfl) rfl
theorem q1322 : (Jvm.Cond.methodLink "CafeTablesModel" (242 : Nat) ({ cls := "CafeTablesModel", name := "coinNow", desc := "()I" } : Jvm.MethodName)) ∈ lw_all := lw_g (lw_at lw_m6 52 rfl) rfl
theorem q1323 : (Jvm.Cond.privateMethod ({ cls := "CafeTablesModel", name := "coinNow", desc := "()I" } : Jvm.MethodName)) ∈ lw_tbl := lw_at lw_m6 53 rfl
theorem q1324 : (Jvm.Cond.instanceMethod ({ cls := "CafeTablesModel", name := "coinNow", desc := "()I" } : Jvm.MethodName)) ∈ lw_all := lw_g (lw_at lw_m6 54 rfl) rfl
theorem q1325 : (Jvm.Cond.code ({ cls := "CafeTablesModel", name := "coinNow", desc := "()I" } : Jvm.MethodName) prog_12_method_43_code (1 : Nat) (Option.some Jvm.ClassFile.FieldType.int)) ∈ lw_all := lw_g (lw_at lw_m6 55 rfl) rfl
theorem q1326 : (Jvm.Cond.methodLink "CafeTablesModel" (233 : Nat) ({ cls := "CafeTablesModel", name := "layNow", desc := "()V" } : Jvm.MethodName)) ∈ lw_all := lw_g (lw_at lw_m6 56 rfl) rfl
theorem q1327 : (Jvm.Cond.privateMethod ({ cls := "CafeTablesModel", name := "layNow", desc := "()V" } : Jvm.MethodName)) ∈ lw_tbl := lw_at lw_m6 57 rfl
theorem q1328 : (Jvm.Cond.instanceMethod ({ cls := "CafeTablesModel", name := "layNow", desc := "()V" } : Jvm.MethodName)) ∈ lw_all := lw_g (lw_at lw_m6 58 rfl) rfl
theorem q1329 : (Jvm.Cond.code ({ cls := "CafeTablesModel", name := "layNow", desc := "()V" } : Jvm.MethodName) prog_12_method_24_code (2 : Nat) (Option.none : Option Jvm.ClassFile.FieldType)) ∈ lw_all := lw_g (lw_at lw_m6 59 rfl) rfl
theorem q1330 : (Jvm.Cond.methodLink "CafeTablesModel" (236 : Nat) ({ cls := "CafeTablesModel", name := "goDay", desc := "()V" } : Jvm.MethodName)) ∈ lw_all := lw_g (lw_at lw_m6 60 rfl) rfl
theorem q1331 : (Jvm.Cond.privateMethod ({ cls := "CafeTablesModel", name := "goDay", desc := "()V" } : Jvm.MethodName)) ∈ lw_tbl := lw_at lw_m6 61 rfl
theorem q1332 : (Jvm.Cond.instanceMethod ({ cls := "CafeTablesModel", name := "goDay", desc := "()V" } : Jvm.MethodName)) ∈ lw_all := lw_g (lw_at lw_m6 62 rfl) rfl
theorem q1333 : (Jvm.Cond.code ({ cls := "CafeTablesModel", name := "goDay", desc := "()V" } : Jvm.MethodName) prog_12_method_25_code (2 : Nat) (Option.none : Option Jvm.ClassFile.FieldType)) ∈ lw_all := lw_g (lw_at lw_m6 63 rfl) rfl
theorem q1334 : (Jvm.Cond.methodLink "CafeTablesModel" (177 : Nat) ({ cls := "CafeTablesModel", name := "goMinute", desc := "(I)V" } : Jvm.MethodName)) ∈ lw_all := lw_g (lw_at lw_m6 64 rfl) rfl
theorem q1335 : (Jvm.Cond.privateMethod ({ cls := "CafeTablesModel", name := "goMinute", desc := "(I)V" } : Jvm.MethodName)) ∈ lw_tbl := lw_at lw_m6 65 rfl
theorem q1336 : (Jvm.Cond.instanceMethod ({ cls := "CafeTablesModel", name := "goMinute", desc := "(I)V" } : Jvm.MethodName)) ∈ lw_all := lw_g (lw_at lw_m6 66 rfl) rfl
theorem q1337 : (Jvm.Cond.code ({ cls := "CafeTablesModel", name := "goMinute", desc := "(I)V" } : Jvm.MethodName) prog_12_method_28_code (3 : Nat) (Option.none : Option Jvm.ClassFile.FieldType)) ∈ lw_all := lw_g (lw_at lw_m6 67 rfl) rfl
theorem q1338 : (Jvm.Cond.methodLink "CafeTablesModel" (188 : Nat) ({ cls := "CafeTablesModel", name := "getsUp", desc := "(I)V" } : Jvm.MethodName)) ∈ lw_all := lw_g (lw_at lw_m6 68 rfl) rfl
theorem q1339 : (Jvm.Cond.privateMethod ({ cls := "CafeTablesModel", name := "getsUp", desc := "(I)V" } : Jvm.MethodName)) ∈ lw_tbl := lw_at lw_m6 69 rfl
theorem q1340 : (Jvm.Cond.instanceMethod ({ cls := "CafeTablesModel", name := "getsUp", desc := "(I)V" } : Jvm.MethodName)) ∈ lw_all := lw_g (lw_at lw_m6 70 rfl) rfl
theorem q1341 : (Jvm.Cond.code ({ cls := "CafeTablesModel", name := "getsUp", desc := "(I)V" } : Jvm.MethodName) prog_12_method_30_code (3 : Nat) (Option.none : Option Jvm.ClassFile.FieldType)) ∈ lw_all := lw_g (lw_at lw_m6 71 rfl) rfl
theorem q1342 : (Jvm.Cond.methodLink "CafeTablesModel" (191 : Nat) ({ cls := "CafeTablesModel", name := "goes", desc := "(II)V" } : Jvm.MethodName)) ∈ lw_all := lw_g (lw_at lw_m6 72 rfl) rfl
theorem q1343 : (Jvm.Cond.privateMethod ({ cls := "CafeTablesModel", name := "goes", desc := "(II)V" } : Jvm.MethodName)) ∈ lw_tbl := lw_at lw_m6 73 rfl
theorem q1344 : (Jvm.Cond.instanceMethod ({ cls := "CafeTablesModel", name := "goes", desc := "(II)V" } : Jvm.MethodName)) ∈ lw_all := lw_g (lw_at lw_m6 74 rfl) rfl
theorem q1345 : (Jvm.Cond.code ({ cls := "CafeTablesModel", name := "goes", desc := "(II)V" } : Jvm.MethodName) prog_12_method_29_code (3 : Nat) (Option.none : Option Jvm.ClassFile.FieldType)) ∈ lw_all := lw_g (lw_at lw_m6 75 rfl) rfl
theorem q1346 : (Jvm.Cond.methodLink "CafeTablesModel" (204 : Nat) ({ cls := "CafeTablesModel", name := "coinOf", desc := "(II)I" } : Jvm.MethodName)) ∈ lw_all := lw_g (lw_at lw_m6 76 rfl) rfl
theorem q1347 : (Jvm.Cond.privateMethod ({ cls := "CafeTablesModel", name := "coinOf", desc := "(II)I" } : Jvm.MethodName)) ∈ lw_tbl := lw_at lw_m6 77 rfl
theorem q1348 : (Jvm.Cond.instanceMethod ({ cls := "CafeTablesModel", name := "coinOf", desc := "(II)I" } : Jvm.MethodName)) ∈ lw_all := lw_g (lw_at lw_m6 78 rfl) rfl
theorem q1349 : (Jvm.Cond.code ({ cls := "CafeTablesModel", name := "coinOf", desc := "(II)I" } : Jvm.MethodName) prog_12_method_23_code (3 : Nat) (Option.some Jvm.ClassFile.FieldType.int)) ∈ lw_all := lw_g (lw_at lw_m6 79 rfl) rfl
theorem q1350 : (Jvm.Cond.methodLink "CafeTablesModel" (195 : Nat) ({ cls := "CafeTablesModel", name := "rainsOn", desc := "(I)V" } : Jvm.MethodName)) ∈ lw_all := lw_g (lw_at lw_m6 80 rfl) rfl
theorem q1351 : (Jvm.Cond.privateMethod ({ cls := "CafeTablesModel", name := "rainsOn", desc := "(I)V" } : Jvm.MethodName)) ∈ lw_tbl := lw_at lw_m6 81 rfl
theorem q1352 : (Jvm.Cond.instanceMethod ({ cls := "CafeTablesModel", name := "rainsOn", desc := "(I)V" } : Jvm.MethodName)) ∈ lw_all := lw_g (lw_at lw_m6 82 rfl) rfl
theorem q1353 : (Jvm.Cond.code ({ cls := "CafeTablesModel", name := "rainsOn", desc := "(I)V" } : Jvm.MethodName) prog_12_method_32_code (3 : Nat) (Option.none : Option Jvm.ClassFile.FieldType)) ∈ lw_all := lw_g (lw_at lw_m6 83 rfl) rfl
theorem q1354 : (Jvm.Cond.methodLink "CafeTablesModel" (208 : Nat) ({ cls := "CafeTablesModel", name := "isInSun", desc := "(I)Z" } : Jvm.MethodName)) ∈ lw_all := lw_g (lw_at lw_m6 84 rfl) rfl
theorem q1355 : (Jvm.Cond.privateMethod ({ cls := "CafeTablesModel", name := "isInSun", desc := "(I)Z" } : Jvm.MethodName)) ∈ lw_tbl := lw_at lw_m6 85 rfl
theorem q1356 : (Jvm.Cond.instanceMethod ({ cls := "CafeTablesModel", name := "isInSun", desc := "(I)Z" } : Jvm.MethodName)) ∈ lw_all := lw_g (lw_at lw_m6 86 rfl) rfl
theorem q1357 : (Jvm.Cond.code ({ cls := "CafeTablesModel", name := "isInSun", desc := "(I)Z" } : Jvm.MethodName) prog_12_method_31_code (4 : Nat) (Option.some Jvm.ClassFile.FieldType.boolean)) ∈ lw_all := lw_g (lw_at lw_m6 87 rfl) rfl
theorem q1358 : (Jvm.Cond.methodLink "CafeTablesModel" (211 : Nat) ({ cls := "CafeTablesModel", name := "takesTable", desc := "(I)Z" } : Jvm.MethodName)) ∈ lw_all := lw_g (lw_at lw_m6 88 rfl) rfl
theorem q1359 : (Jvm.Cond.privateMethod ({ cls := "CafeTablesModel", name := "takesTable", desc := "(I)Z" } : Jvm.MethodName)) ∈ lw_tbl := lw_at lw_m6 89 rfl
theorem q1360 : (Jvm.Cond.instanceMethod ({ cls := "CafeTablesModel", name := "takesTable", desc := "(I)Z" } : Jvm.MethodName)) ∈ lw_all := lw_g (lw_at lw_m6 90 rfl) rfl
theorem q1361 : (Jvm.Cond.code ({ cls := "CafeTablesModel", name := "takesTable", desc := "(I)Z" } : Jvm.MethodName) prog_12_method_38_code (3 : Nat) (Option.some Jvm.ClassFile.FieldType.boolean)) ∈ lw_all := lw_g (lw_at lw_m6 91 rfl) rfl
theorem q1362 : (Jvm.Cond.methodLink "CafeTablesModel" (220 : Nat) ({ cls := "CafeTablesModel", name := "smallest", desc := "(IZ)I" } : Jvm.MethodName)) ∈ lw_all := lw_g (lw_at lw_m6 92 rfl) rfl
theorem q1363 : (Jvm.Cond.privateMethod ({ cls := "CafeTablesModel", name := "smallest", desc := "(IZ)I" } : Jvm.MethodName)) ∈ lw_tbl := lw_at lw_m6 93 rfl
theorem q1364 : (Jvm.Cond.instanceMethod ({ cls := "CafeTablesModel", name := "smallest", desc := "(IZ)I" } : Jvm.MethodName)) ∈ lw_all := lw_g (lw_at lw_m6 94 rfl) rfl
theorem q1365 : (Jvm.Cond.code ({ cls := "CafeTablesModel", name := "smallest", desc := "(IZ)I" } : Jvm.MethodName) prog_12_method_40_code (6 : Nat) (Option.some Jvm.ClassFile.FieldType.int)) ∈ lw_all := lw_g (lw_at lw_m6 95 rfl) rfl
theorem q1366 : (Jvm.Cond.methodLink "CafeTablesModel" (230 : Nat) ({ cls := "CafeTablesModel", name := "isFree", desc := "(I)Z" } : Jvm.MethodName)) ∈ lw_all := lw_g (lw_at lw_m6 96 rfl) rfl
theorem q1367 : (Jvm.Cond.privateMethod ({ cls := "CafeTablesModel", name := "isFree", desc := "(I)Z" } : Jvm.MethodName)) ∈ lw_tbl := lw_at lw_m6 97 rfl
theorem q1368 : (Jvm.Cond.instanceMethod ({ cls := "CafeTablesModel", name := "isFree", desc := "(I)Z" } : Jvm.MethodName)) ∈ lw_all := lw_g (lw_at lw_m6 98 rfl) rfl
theorem q1369 : (Jvm.Cond.code ({ cls := "CafeTablesModel", name := "isFree", desc := "(I)Z" } : Jvm.MethodName) prog_12_method_37_code (2 : Nat) (Option.some Jvm.ClassFile.FieldType.boolean)) ∈ lw_all := lw_g (lw_at lw_m6 99 rfl) rfl
theorem q1370 : (Jvm.Cond.methodLink "CafeTablesModel" (224 : Nat) ({ cls := "CafeTablesModel", name := "firstFor", desc := "(I)I" } : Jvm.MethodName)) ∈ lw_all := lw_g (lw_at lw_m6 100 rfl) rfl
theorem q1371 : (Jvm.Cond.privateMethod ({ cls := "CafeTablesModel", name := "firstFor", desc := "(I)I" } : Jvm.MethodName)) ∈ lw_tbl := lw_at lw_m6 101 rfl
theorem q1372 : (Jvm.Cond.instanceMethod ({ cls := "CafeTablesModel", name := "firstFor", desc := "(I)I" } : Jvm.MethodName)) ∈ lw_all := lw_g (lw_at lw_m6 102 rfl) rfl
theorem q1373 : (Jvm.Cond.code ({ cls := "CafeTablesModel", name := "firstFor", desc := "(I)I" } : Jvm.MethodName) prog_12_method_39_code (3 : Nat) (Option.some Jvm.ClassFile.FieldType.int)) ∈ lw_all := lw_g (lw_at lw_m6 103 rfl) rfl
theorem q1374 : (Jvm.Cond.methodLink "CafeTablesModel" (227 : Nat) ({ cls := "CafeTablesModel", name := "joinsTwo", desc := "(I)Z" } : Jvm.MethodName)) ∈ lw_all := lw_g (lw_at lw_m6 104 rfl) rfl
theorem q1375 : (Jvm.Cond.privateMethod ({ cls := "CafeTablesModel", name := "joinsTwo", desc := "(I)Z" } : Jvm.MethodName)) ∈ lw_tbl := lw_at lw_m6 105 rfl
theorem q1376 : (Jvm.Cond.instanceMethod ({ cls := "CafeTablesModel", name := "joinsTwo", desc := "(I)Z" } : Jvm.MethodName)) ∈ lw_all := lw_g (lw_at lw_m6 106 rfl) rfl
theorem q1377 : (Jvm.Cond.code ({ cls := "CafeTablesModel", name := "joinsTwo", desc := "(I)Z" } : Jvm.MethodName) prog_12_method_41_code (3 : Nat) (Option.some Jvm.ClassFile.FieldType.boolean)) ∈ lw_all := lw_g (lw_at lw_m6 107 rfl) rfl
theorem q1378 : (Jvm.Cond.methodLink "CafeTablesModel" (198 : Nat) ({ cls := "CafeTablesModel", name := "tryWaiting", desc := "(I)V" } : Jvm.MethodName)) ∈ lw_all := lw_g (lw_at lw_m6 108 rfl) rfl
theorem q1379 : (Jvm.Cond.privateMethod ({ cls := "CafeTablesModel", name := "tryWaiting", desc := "(I)V" } : Jvm.MethodName)) ∈ lw_tbl := lw_at lw_m6 109 rfl
theorem q1380 : (Jvm.Cond.instanceMethod ({ cls := "CafeTablesModel", name := "tryWaiting", desc := "(I)V" } : Jvm.MethodName)) ∈ lw_all := lw_g (lw_at lw_m6 110 rfl) rfl
theorem q1381 : (Jvm.Cond.code ({ cls := "CafeTablesModel", name := "tryWaiting", desc := "(I)V" } : Jvm.MethodName) prog_12_method_33_code (4 : Nat) (Option.none : Option Jvm.ClassFile.FieldType)) ∈ lw_all := lw_g (lw_at lw_m6 111 rfl) rfl
theorem q1382 : (Jvm.Cond.methodLink "CafeTablesModel" (214 : Nat) ({ cls := "CafeTablesModel", name := "triesAgain", desc := "(II)V" } : Jvm.MethodName)) ∈ lw_all := lw_g (lw_at lw_m6 112 rfl) rfl
theorem q1383 : (Jvm.Cond.privateMethod ({ cls := "CafeTablesModel", name := "triesAgain", desc := "(II)V" } : Jvm.MethodName)) ∈ lw_tbl := lw_at lw_m6 113 rfl
theorem q1384 : (Jvm.Cond.instanceMethod ({ cls := "CafeTablesModel", name := "triesAgain", desc := "(II)V" } : Jvm.MethodName)) ∈ lw_all := lw_g (lw_at lw_m6 114 rfl) rfl
theorem q1385 : (Jvm.Cond.code ({ cls := "CafeTablesModel", name := "triesAgain", desc := "(II)V" } : Jvm.MethodName) prog_12_method_34_code (3 : Nat) (Option.none : Option Jvm.ClassFile.FieldType)) ∈ lw_all := lw_g (lw_at lw_m6 115 rfl) rfl
theorem q1386 : (Jvm.Cond.methodLink "CafeTablesModel" (217 : Nat) ({ cls := "CafeTablesModel", name := "sitsDown", desc := "(II)Z" } : Jvm.MethodName)) ∈ lw_all := lw_g (lw_at lw_m6 116 rfl) rfl
theorem q1387 : (Jvm.Cond.privateMethod ({ cls := "CafeTablesModel", name := "sitsDown", desc := "(II)Z" } : Jvm.MethodName)) ∈ lw_tbl := lw_at lw_m6 117 rfl
theorem q1388 : (Jvm.Cond.instanceMethod ({ cls := "CafeTablesModel", name := "sitsDown", desc := "(II)Z" } : Jvm.MethodName)) ∈ lw_all := lw_g (lw_at lw_m6 118 rfl) rfl
theorem q1389 : (Jvm.Cond.code ({ cls := "CafeTablesModel", name := "sitsDown", desc := "(II)Z" } : Jvm.MethodName) prog_12_method_36_code (5 : Nat) (Option.some Jvm.ClassFile.FieldType.boolean)) ∈ lw_all := lw_g (lw_at lw_m6 119 rfl) rfl
theorem q1390 : (Jvm.Cond.methodLink "CafeTablesModel" (185 : Nat) ({ cls := "CafeTablesModel", name := "manyWait", desc := "(I)I" } : Jvm.MethodName)) ∈ lw_all := lw_g (lw_at lw_m6 120 rfl) rfl
theorem q1391 : (Jvm.Cond.privateMethod ({ cls := "CafeTablesModel", name := "manyWait", desc := "(I)I" } : Jvm.MethodName)) ∈ lw_tbl := lw_at lw_m6 121 rfl
theorem q1392 : (Jvm.Cond.instanceMethod ({ cls := "CafeTablesModel", name := "manyWait", desc := "(I)I" } : Jvm.MethodName)) ∈ lw_all := lw_g (lw_at lw_m6 122 rfl) rfl
theorem q1393 : (Jvm.Cond.code ({ cls := "CafeTablesModel", name := "manyWait", desc := "(I)I" } : Jvm.MethodName) prog_12_method_27_code (4 : Nat) (Option.some Jvm.ClassFile.FieldType.int)) ∈ lw_all := lw_g (lw_at lw_m6 123 rfl) rfl
theorem q1394 : (Jvm.Cond.methodLink "CafeTablesModel" (201 : Nat) ({ cls := "CafeTablesModel", name := "comesIn", desc := "(II)V" } : Jvm.MethodName)) ∈ lw_all := lw_g (lw_at lw_m6 124 rfl) rfl
theorem q1395 : (Jvm.Cond.privateMethod ({ cls := "CafeTablesModel", name := "comesIn", desc := "(II)V" } : Jvm.MethodName)) ∈ lw_tbl := lw_at lw_m6 125 rfl
theorem q1396 : (Jvm.Cond.instanceMethod ({ cls := "CafeTablesModel", name := "comesIn", desc := "(II)V" } : Jvm.MethodName)) ∈ lw_all := lw_g (lw_at lw_m6 126 rfl) rfl
theorem q1397 : (Jvm.Cond.code ({ cls := "CafeTablesModel", name := "comesIn", desc := "(II)V" } : Jvm.MethodName) prog_12_method_35_code (3 : Nat) (Option.none : Option Jvm.ClassFile.FieldType)) ∈ lw_all := lw_g (lw_at lw_m6 127 rfl) rfl
theorem q1398 : (Jvm.Cond.methodLink "CafeTablesModel" (181 : Nat) ({ cls := "CafeTablesModel", name := "manyTaken", desc := "()I" } : Jvm.MethodName)) ∈ lw_all := lw_g (lw_at lw_m6 128 rfl) rfl
theorem q1399 : (Jvm.Cond.privateMethod ({ cls := "CafeTablesModel", name := "manyTaken", desc := "()I" } : Jvm.MethodName)) ∈ lw_tbl := lw_at lw_m6 129 rfl
theorem q1400 : (Jvm.Cond.instanceMethod ({ cls := "CafeTablesModel", name := "manyTaken", desc := "()I" } : Jvm.MethodName)) ∈ lw_all := lw_g (lw_at lw_m6 130 rfl) rfl
theorem q1401 : (Jvm.Cond.code ({ cls := "CafeTablesModel", name := "manyTaken", desc := "()I" } : Jvm.MethodName) prog_12_method_26_code (3 : Nat) (Option.some Jvm.ClassFile.FieldType.int)) ∈ lw_all := lw_g (lw_at lw_m6 131 rfl) rfl
theorem q1402 : (Jvm.Cond.methodLink "CafeTablesModel" (239 : Nat) ({ cls := "CafeTablesModel", name := "allCoin", desc := "()I" } : Jvm.MethodName)) ∈ lw_all := lw_g (lw_at lw_m6 132 rfl) rfl
theorem q1403 : (Jvm.Cond.privateMethod ({ cls := "CafeTablesModel", name := "allCoin", desc := "()I" } : Jvm.MethodName)) ∈ lw_tbl := lw_at lw_m6 133 rfl
theorem q1404 : (Jvm.Cond.instanceMethod ({ cls := "CafeTablesModel", name := "allCoin", desc := "()I" } : Jvm.MethodName)) ∈ lw_all := lw_g (lw_at lw_m6 134 rfl) rfl
theorem q1405 : (Jvm.Cond.code ({ cls := "CafeTablesModel", name := "allCoin", desc := "()I" } : Jvm.MethodName) prog_12_method_42_code (3 : Nat) (Option.some Jvm.ClassFile.FieldType.int)) ∈ lw_all := lw_g (lw_at lw_m6 135 rfl) rfl
theorem q1407 : (Jvm.Cond.instanceMethod ({ cls := "CafeTablesModel", name := "taken", desc := "(II)I" } : Jvm.MethodName)) ∈ lw_all := lw_g (lw_at lw_m6 137 rfl) rfl
theorem q1408 : (Jvm.Cond.selects "CafeTablesModel" ({ cls := "CafeTablesModel", name := "taken", desc := "(II)I" } : Jvm.MethodName) ({ cls := "CafeTablesModel", name := "taken", desc := "(II)I" } : Jvm.MethodName)) ∈ lw_all := lw_g (lw_at lw_m6 138 rfl) rfl
theorem q1409 : (Jvm.Cond.code ({ cls := "CafeTablesModel", name := "taken", desc := "(II)I" } : Jvm.MethodName) prog_12_method_45_code (4 : Nat) (Option.some Jvm.ClassFile.FieldType.int)) ∈ lw_all := lw_g (lw_at lw_m6 139 rfl) rfl
theorem q1411 : (Jvm.Cond.instanceMethod ({ cls := "CafeTablesModel", name := "coin", desc := "()I" } : Jvm.MethodName)) ∈ lw_all := lw_g (lw_at lw_m6 141 rfl) rfl
theorem q1412 : (Jvm.Cond.selects "CafeTablesModel" ({ cls := "CafeTablesModel", name := "coin", desc := "()I" } : Jvm.MethodName) ({ cls := "CafeTablesModel", name := "coin", desc := "()I" } : Jvm.MethodName)) ∈ lw_all := lw_g (lw_at lw_m6 142 rfl) rfl
theorem q1413 : (Jvm.Cond.code ({ cls := "CafeTablesModel", name := "coin", desc := "()I" } : Jvm.MethodName) prog_12_method_46_code (1 : Nat) (Option.some Jvm.ClassFile.FieldType.int)) ∈ lw_all := lw_g (lw_at lw_m6 143 rfl) rfl
theorem q1415 : (Jvm.Cond.instanceMethod ({ cls := "CafeTablesModel", name := "worth", desc := "(I)J" } : Jvm.MethodName)) ∈ lw_all := lw_g (lw_at lw_m6 145 rfl) rfl
theorem q1416 : (Jvm.Cond.selects "CafeTablesModel" ({ cls := "CafeTablesModel", name := "worth", desc := "(I)J" } : Jvm.MethodName) ({ cls := "CafeTablesModel", name := "worth", desc := "(I)J" } : Jvm.MethodName)) ∈ lw_all := lw_g (lw_at lw_m6 146 rfl) rfl
theorem q1417 : (Jvm.Cond.code ({ cls := "CafeTablesModel", name := "worth", desc := "(I)J" } : Jvm.MethodName) prog_12_method_47_code (3 : Nat) (Option.some Jvm.ClassFile.FieldType.long)) ∈ lw_all := lw_g (lw_at lw_m6 147 rfl) rfl
theorem q1418 : (Jvm.Cond.constantLong "CafeTablesModel" (102 : Nat) (-9223372036854775808 : Int64)) ∈ lw_all := lw_g (lw_at lw_m6 148 rfl) rfl
theorem q1420 : (Jvm.Cond.instanceMethod ({ cls := "CafeTablesModel", name := "plan", desc := "(I)I" } : Jvm.MethodName)) ∈ lw_all := lw_g (lw_at lw_m6 150 rfl) rfl
theorem q1421 : (Jvm.Cond.selects "CafeTablesModel" ({ cls := "CafeTablesModel", name := "plan", desc := "(I)I" } : Jvm.MethodName) ({ cls := "CafeTablesModel", name := "plan", desc := "(I)I" } : Jvm.MethodName)) ∈ lw_all := lw_g (lw_at lw_m6 151 rfl) rfl
theorem q1422 : (Jvm.Cond.code ({ cls := "CafeTablesModel", name := "plan", desc := "(I)I" } : Jvm.MethodName) prog_12_method_52_code (2 : Nat) (Option.some Jvm.ClassFile.FieldType.int)) ∈ lw_all := lw_g (lw_at lw_m6 152 rfl) rfl
theorem q1423 : (Jvm.Cond.methodLink "CafeTablesModel" (245 : Nat) ({ cls := "CafeTablesModel", name := "planned", desc := "()I" } : Jvm.MethodName)) ∈ lw_all := lw_g (lw_at lw_m6 153 rfl) rfl
theorem q1424 : (Jvm.Cond.privateMethod ({ cls := "CafeTablesModel", name := "planned", desc := "()I" } : Jvm.MethodName)) ∈ lw_tbl := lw_at lw_m6 154 rfl
theorem q1425 : (Jvm.Cond.instanceMethod ({ cls := "CafeTablesModel", name := "planned", desc := "()I" } : Jvm.MethodName)) ∈ lw_all := lw_g (lw_at lw_m6 155 rfl) rfl
theorem q1426 : (Jvm.Cond.code ({ cls := "CafeTablesModel", name := "planned", desc := "()I" } : Jvm.MethodName) prog_12_method_48_code (1 : Nat) (Option.some Jvm.ClassFile.FieldType.int)) ∈ lw_all := lw_g (lw_at lw_m6 156 rfl) rfl
theorem q1427 : (Jvm.Cond.methodLink "CafeTablesModel" (257 : Nat) ({ cls := "CafeTablesModel", name := "findPlan", desc := "()V" } : Jvm.MethodName)) ∈ lw_all := lw_g (lw_at lw_m6 157 rfl) rfl
theorem q1428 : (Jvm.Cond.privateMethod ({ cls := "CafeTablesModel", name := "findPlan", desc := "()V" } : Jvm.MethodName)) ∈ lw_tbl := lw_at lw_m6 158 rfl
theorem q1429 : (Jvm.Cond.instanceMethod ({ cls := "CafeTablesModel", name := "findPlan", desc := "()V" } : Jvm.MethodName)) ∈ lw_all := lw_g (lw_at lw_m6 159 rfl) rfl
theorem q1430 : (Jvm.Cond.code ({ cls := "CafeTablesModel", name := "findPlan", desc := "()V" } : Jvm.MethodName) prog_12_method_50_code (3 : Nat) (Option.none : Option Jvm.ClassFile.FieldType)) ∈ lw_all := lw_g (lw_at lw_m6 160 rfl) rfl
theorem q1431 : (Jvm.Cond.methodLink "CafeTablesModel" (251 : Nat) ({ cls := "CafeTablesModel", name := "maySit", desc := "(II)Z" } : Jvm.MethodName)) ∈ lw_all := lw_g (lw_at lw_m6 161 rfl) rfl
theorem q1432 : (Jvm.Cond.privateMethod ({ cls := "CafeTablesModel", name := "maySit", desc := "(II)Z" } : Jvm.MethodName)) ∈ lw_tbl := lw_at lw_m6 162 rfl
theorem q1433 : (Jvm.Cond.instanceMethod ({ cls := "CafeTablesModel", name := "maySit", desc := "(II)Z" } : Jvm.MethodName)) ∈ lw_all := lw_g (lw_at lw_m6 163 rfl) rfl
theorem q1434 : (Jvm.Cond.code ({ cls := "CafeTablesModel", name := "maySit", desc := "(II)Z" } : Jvm.MethodName) prog_12_method_49_code (4 : Nat) (Option.some Jvm.ClassFile.FieldType.boolean)) ∈ lw_all := lw_g (lw_at lw_m6 164 rfl) rfl
theorem q1435 : (Jvm.Cond.methodLink "CafeTablesModel" (254 : Nat) ({ cls := "CafeTablesModel", name := "offer", desc := "(I)V" } : Jvm.MethodName)) ∈ lw_all := lw_g (lw_at lw_m6 165 rfl) rfl
theorem q1436 : (Jvm.Cond.privateMethod ({ cls := "CafeTablesModel", name := "offer", desc := "(I)V" } : Jvm.MethodName)) ∈ lw_tbl := lw_at lw_m6 166 rfl
theorem q1437 : (Jvm.Cond.instanceMethod ({ cls := "CafeTablesModel", name := "offer", desc := "(I)V" } : Jvm.MethodName)) ∈ lw_all := lw_g (lw_at lw_m6 167 rfl) rfl
theorem q1438 : (Jvm.Cond.code ({ cls := "CafeTablesModel", name := "offer", desc := "(I)V" } : Jvm.MethodName) prog_12_method_51_code (4 : Nat) (Option.none : Option Jvm.ClassFile.FieldType)) ∈ lw_all := lw_g (lw_at lw_m6 168 rfl) rfl
theorem q1440 : (Jvm.Cond.instanceMethod ({ cls := "CafeTablesModel", name := "bestRule", desc := "(I)I" } : Jvm.MethodName)) ∈ lw_all := lw_g (lw_at lw_m6 170 rfl) rfl
theorem q1441 : (Jvm.Cond.selects "CafeTablesModel" ({ cls := "CafeTablesModel", name := "bestRule", desc := "(I)I" } : Jvm.MethodName) ({ cls := "CafeTablesModel", name := "bestRule", desc := "(I)I" } : Jvm.MethodName)) ∈ lw_all := lw_g (lw_at lw_m6 171 rfl) rfl
theorem q1442 : (Jvm.Cond.code ({ cls := "CafeTablesModel", name := "bestRule", desc := "(I)I" } : Jvm.MethodName) prog_12_method_54_code (6 : Nat) (Option.some Jvm.ClassFile.FieldType.int)) ∈ lw_all := lw_g (lw_at lw_m6 172 rfl) rfl
theorem q1443 : (Jvm.Cond.methodLink "CafeTablesModel" (260 : Nat) ({ cls := "CafeTablesModel", name := "coinBy", desc := "(II)I" } : Jvm.MethodName)) ∈ lw_all := lw_g (lw_at lw_m6 173 rfl) rfl
theorem q1444 : (Jvm.Cond.privateMethod ({ cls := "CafeTablesModel", name := "coinBy", desc := "(II)I" } : Jvm.MethodName)) ∈ lw_tbl := lw_at lw_m6 174 rfl
theorem q1445 : (Jvm.Cond.instanceMethod ({ cls := "CafeTablesModel", name := "coinBy", desc := "(II)I" } : Jvm.MethodName)) ∈ lw_all := lw_g (lw_at lw_m6 175 rfl) rfl
theorem q1446 : (Jvm.Cond.code ({ cls := "CafeTablesModel", name := "coinBy", desc := "(II)I" } : Jvm.MethodName) prog_12_method_53_code (3 : Nat) (Option.some Jvm.ClassFile.FieldType.int)) ∈ lw_all := lw_g (lw_at lw_m6 176 rfl) rfl
theorem q1448 : (Jvm.Cond.instanceMethod ({ cls := "CafeTablesModel", name := "waiting", desc := "(I)I" } : Jvm.MethodName)) ∈ lw_all := lw_g (lw_at lw_m6 178 rfl) rfl
theorem q1449 : (Jvm.Cond.selects "CafeTablesModel" ({ cls := "CafeTablesModel", name := "waiting", desc := "(I)I" } : Jvm.MethodName) ({ cls := "CafeTablesModel", name := "waiting", desc := "(I)I" } : Jvm.MethodName)) ∈ lw_all := lw_g (lw_at lw_m6 179 rfl) rfl
theorem q1450 : (Jvm.Cond.code ({ cls := "CafeTablesModel", name := "waiting", desc := "(I)I" } : Jvm.MethodName) prog_12_method_55_code (6 : Nat) (Option.some Jvm.ClassFile.FieldType.int)) ∈ lw_all := lw_g (lw_at lw_m6 180 rfl) rfl
theorem q1452 : (Jvm.Cond.instanceMethod ({ cls := "CafeTablesModel", name := "mix", desc := "(II)I" } : Jvm.MethodName)) ∈ lw_all := lw_g (lw_at lw_m6 182 rfl) rfl
theorem q1453 : (Jvm.Cond.selects "CafeTablesModel" ({ cls := "CafeTablesModel", name := "mix", desc := "(II)I" } : Jvm.MethodName) ({ cls := "CafeTablesModel", name := "mix", desc := "(II)I" } : Jvm.MethodName)) ∈ lw_all := lw_g (lw_at lw_m6 183 rfl) rfl
theorem q1454 : (Jvm.Cond.code ({ cls := "CafeTablesModel", name := "mix", desc := "(II)I" } : Jvm.MethodName) prog_12_method_56_code (9 : Nat) (Option.some Jvm.ClassFile.FieldType.int)) ∈ lw_all := lw_g (lw_at lw_m6 184 rfl) rfl
theorem q1455 : (Jvm.Cond.methodLink "CafeTablesModel" (263 : Nat) ({ cls := "CafeTablesModel", name := "layMix", desc := "(III)V" } : Jvm.MethodName)) ∈ lw_all := lw_g (lw_at lw_m6 185 rfl) rfl
theorem q1456 : (Jvm.Cond.privateMethod ({ cls := "CafeTablesModel", name := "layMix", desc := "(III)V" } : Jvm.MethodName)) ∈ lw_tbl := lw_at lw_m6 186 rfl
theorem q1457 : (Jvm.Cond.instanceMethod ({ cls := "CafeTablesModel", name := "layMix", desc := "(III)V" } : Jvm.MethodName)) ∈ lw_all := lw_g (lw_at lw_m6 187 rfl) rfl
theorem q1458 : (Jvm.Cond.code ({ cls := "CafeTablesModel", name := "layMix", desc := "(III)V" } : Jvm.MethodName) prog_12_method_57_code (5 : Nat) (Option.none : Option Jvm.ClassFile.FieldType)) ∈ lw_all := lw_g (lw_at lw_m6 188 rfl) rfl
theorem q1460 : (Jvm.Cond.instanceMethod ({ cls := "CafeTablesModel", name := "till", desc := "(II)I" } : Jvm.MethodName)) ∈ lw_all := lw_g (lw_at lw_m6 190 rfl) rfl
theorem q1461 : (Jvm.Cond.selects "CafeTablesModel" ({ cls := "CafeTablesModel", name := "till", desc := "(II)I" } : Jvm.MethodName) ({ cls := "CafeTablesModel", name := "till", desc := "(II)I" } : Jvm.MethodName)) ∈ lw_all := lw_g (lw_at lw_m6 191 rfl) rfl
theorem q1462 : (Jvm.Cond.code ({ cls := "CafeTablesModel", name := "till", desc := "(II)I" } : Jvm.MethodName) prog_12_method_58_code (7 : Nat) (Option.some Jvm.ClassFile.FieldType.int)) ∈ lw_all := lw_g (lw_at lw_m6 192 rfl) rfl
theorem q1464 : (Jvm.Cond.instanceMethod ({ cls := "CafeTablesModel", name := "names", desc := "(IIIIII)J" } : Jvm.MethodName)) ∈ lw_all := lw_g (lw_at lw_m6 194 rfl) rfl
theorem q1465 : (Jvm.Cond.selects "CafeTablesModel" ({ cls := "CafeTablesModel", name := "names", desc := "(IIIIII)J" } : Jvm.MethodName) ({ cls := "CafeTablesModel", name := "names", desc := "(IIIIII)J" } : Jvm.MethodName)) ∈ lw_all := lw_g (lw_at lw_m6 195 rfl) rfl
theorem q1466 : (Jvm.Cond.code ({ cls := "CafeTablesModel", name := "names", desc := "(IIIIII)J" } : Jvm.MethodName) prog_12_method_62_code (7 : Nat) (Option.some Jvm.ClassFile.FieldType.long)) ∈ lw_all := lw_g (lw_at lw_m6 196 rfl) rfl
theorem q1467 : (Jvm.Cond.methodLink "CafeTablesModel" (269 : Nat) ({ cls := "CafeTablesModel", name := "areNames", desc := "(IIII)Z" } : Jvm.MethodName)) ∈ lw_all := lw_g (lw_at lw_m6 197 rfl) rfl
theorem q1468 : (Jvm.Cond.static ({ cls := "CafeTablesModel", name := "areNames", desc := "(IIII)Z" } : Jvm.MethodName)) ∈ lw_all := lw_g (lw_at lw_m6 198 rfl) rfl
theorem q1469 : (Jvm.Cond.code ({ cls := "CafeTablesModel", name := "areNames", desc := "(IIII)Z" } : Jvm.MethodName) prog_12_method_61_code (4 : Nat) (Option.some Jvm.ClassFile.FieldType.boolean)) ∈ lw_all := lw_g (lw_at lw_m6 199 rfl) rfl
theorem q1470 : (Jvm.Cond.methodLink "CafeTablesModel" (273 : Nat) ({ cls := "CafeTablesModel", name := "awaited", desc := "(IIIII)J" } : Jvm.MethodName)) ∈ lw_all := lw_g (lw_at lw_m6 200 rfl) rfl
theorem q1471 : (Jvm.Cond.static ({ cls := "CafeTablesModel", name := "awaited", desc := "(IIIII)J" } : Jvm.MethodName)) ∈ lw_all := lw_g (lw_at lw_m6 201 rfl) rfl
theorem q1472 : (Jvm.Cond.code ({ cls := "CafeTablesModel", name := "awaited", desc := "(IIIII)J" } : Jvm.MethodName) prog_12_method_59_code (13 : Nat) (Option.some Jvm.ClassFile.FieldType.long)) ∈ lw_all := lw_g (lw_at lw_m6 202 rfl) rfl
theorem q1473 : (Jvm.Cond.methodLink "CafeTablesModel" (277 : Nat) ({ cls := "CafeTablesModel", name := "hundreds", desc := "(I)J" } : Jvm.MethodName)) ∈ lw_all := lw_g (lw_at lw_m6 203 rfl) rfl
theorem q1474 : (Jvm.Cond.static ({ cls := "CafeTablesModel", name := "hundreds", desc := "(I)J" } : Jvm.MethodName)) ∈ lw_all := lw_g (lw_at lw_m6 204 rfl) rfl
theorem q1475 : (Jvm.Cond.code ({ cls := "CafeTablesModel", name := "hundreds", desc := "(I)J" } : Jvm.MethodName) prog_12_method_60_code (4 : Nat) (Option.some Jvm.ClassFile.FieldType.long)) ∈ lw_all := lw_g (lw_at lw_m6 205 rfl) rfl
theorem q1476 : (Jvm.Cond.constantLong "CafeTablesModel" (267 : Nat) (100 : Int64)) ∈ lw_all := lw_g (lw_at lw_m6 206 rfl) rfl
theorem q1477 : (Jvm.Cond.methodLink "CafeTablesModel" (281 : Nat) ({ cls := "CafeTablesModel", name := "share", desc := "(JJI)J" } : Jvm.MethodName)) ∈ lw_all := lw_g (lw_at lw_m6 207 rfl) rfl
theorem q1478 : (Jvm.Cond.static ({ cls := "CafeTablesModel", name := "share", desc := "(JJI)J" } : Jvm.MethodName)) ∈ lw_all := lw_g (lw_at lw_m6 208 rfl) rfl
theorem q1479 : (Jvm.Cond.code ({ cls := "CafeTablesModel", name := "share", desc := "(JJI)J" } : Jvm.MethodName) prog_12_method_6_code (11 : Nat) (Option.some Jvm.ClassFile.FieldType.long)) ∈ lw_all := lw_g (lw_at lw_m6 209 rfl) rfl
theorem q1481 : (Jvm.Cond.instanceMethod ({ cls := "CafeTablesModel", name := "take", desc := "(IIII)I" } : Jvm.MethodName)) ∈ lw_all := lw_g (lw_at lw_m6 211 rfl) rfl
theorem q1482 : (Jvm.Cond.selects "CafeTablesModel" ({ cls := "CafeTablesModel", name := "take", desc := "(IIII)I" } : Jvm.MethodName) ({ cls := "CafeTablesModel", name := "take", desc := "(IIII)I" } : Jvm.MethodName)) ∈ lw_all := lw_g (lw_at lw_m6 212 rfl) rfl
theorem q1483 : (Jvm.Cond.code ({ cls := "CafeTablesModel", name := "take", desc := "(IIII)I" } : Jvm.MethodName) prog_12_method_63_code (11 : Nat) (Option.some Jvm.ClassFile.FieldType.int)) ∈ lw_all := lw_g (lw_at lw_m6 213 rfl) rfl
theorem q1485 : (Jvm.Cond.instanceMethod ({ cls := "CafeTablesModel", name := "sheet", desc := "(III)I" } : Jvm.MethodName)) ∈ lw_all := lw_g (lw_at lw_m6 215 rfl) rfl
theorem q1486 : (Jvm.Cond.selects "CafeTablesModel" ({ cls := "CafeTablesModel", name := "sheet", desc := "(III)I" } : Jvm.MethodName) ({ cls := "CafeTablesModel", name := "sheet", desc := "(III)I" } : Jvm.MethodName)) ∈ lw_all := lw_g (lw_at lw_m6 216 rfl) rfl
theorem q1487 : (Jvm.Cond.code ({ cls := "CafeTablesModel", name := "sheet", desc := "(III)I" } : Jvm.MethodName) prog_12_method_64_code (5 : Nat) (Option.some Jvm.ClassFile.FieldType.int)) ∈ lw_all := lw_g (lw_at lw_m6 217 rfl) rfl
theorem q1489 : (Jvm.Cond.instanceMethod ({ cls := "CafeTablesModel", name := "lose", desc := "(I)I" } : Jvm.MethodName)) ∈ lw_all := lw_g (lw_at lw_m6 219 rfl) rfl
theorem q1490 : (Jvm.Cond.selects "CafeTablesModel" ({ cls := "CafeTablesModel", name := "lose", desc := "(I)I" } : Jvm.MethodName) ({ cls := "CafeTablesModel", name := "lose", desc := "(I)I" } : Jvm.MethodName)) ∈ lw_all := lw_g (lw_at lw_m6 220 rfl) rfl
theorem q1491 : (Jvm.Cond.code ({ cls := "CafeTablesModel", name := "lose", desc := "(I)I" } : Jvm.MethodName) prog_12_method_65_code (3 : Nat) (Option.some Jvm.ClassFile.FieldType.int)) ∈ lw_all := lw_g (lw_at lw_m6 221 rfl) rfl
theorem q1493 : (Jvm.Cond.instanceMethod ({ cls := "CafeTablesModel", name := "put", desc := "(III)I" } : Jvm.MethodName)) ∈ lw_all := lw_g (lw_at lw_m6 223 rfl) rfl
theorem q1494 : (Jvm.Cond.selects "CafeTablesModel" ({ cls := "CafeTablesModel", name := "put", desc := "(III)I" } : Jvm.MethodName) ({ cls := "CafeTablesModel", name := "put", desc := "(III)I" } : Jvm.MethodName)) ∈ lw_all := lw_g (lw_at lw_m6 224 rfl) rfl
theorem q1495 : (Jvm.Cond.code ({ cls := "CafeTablesModel", name := "put", desc := "(III)I" } : Jvm.MethodName) prog_12_method_66_code (4 : Nat) (Option.some Jvm.ClassFile.FieldType.int)) ∈ lw_all := lw_g (lw_at lw_m6 225 rfl) rfl
theorem q1497 : (Jvm.Cond.instanceMethod ({ cls := "CafeTablesModel", name := "cell", desc := "(III)J" } : Jvm.MethodName)) ∈ lw_all := lw_g (lw_at lw_m6 227 rfl) rfl
theorem q1498 : (Jvm.Cond.selects "CafeTablesModel" ({ cls := "CafeTablesModel", name := "cell", desc := "(III)J" } : Jvm.MethodName) ({ cls := "CafeTablesModel", name := "cell", desc := "(III)J" } : Jvm.MethodName)) ∈ lw_all := lw_g (lw_at lw_m6 228 rfl) rfl
theorem q1499 : (Jvm.Cond.code ({ cls := "CafeTablesModel", name := "cell", desc := "(III)J" } : Jvm.MethodName) prog_12_method_67_code (4 : Nat) (Option.some Jvm.ClassFile.FieldType.long)) ∈ lw_all := lw_g (lw_at lw_m6 229 rfl) rfl
theorem q1500 : (Jvm.Cond.methodLink "CafeTablesModel" (285 : Nat) ({ cls := "CafeTablesModel", name := "lost", desc := "(I)J" } : Jvm.MethodName)) ∈ lw_all := lw_g (lw_at lw_m6 230 rfl) rfl
theorem q1501 : (Jvm.Cond.privateMethod ({ cls := "CafeTablesModel", name := "lost", desc := "(I)J" } : Jvm.MethodName)) ∈ lw_tbl := lw_at lw_m6 231 rfl
theorem q1502 : (Jvm.Cond.instanceMethod ({ cls := "CafeTablesModel", name := "lost", desc := "(I)J" } : Jvm.MethodName)) ∈ lw_all := lw_g (lw_at lw_m6 232 rfl) rfl
theorem q1503 : (Jvm.Cond.code ({ cls := "CafeTablesModel", name := "lost", desc := "(I)J" } : Jvm.MethodName) prog_12_method_4_code (2 : Nat) (Option.some Jvm.ClassFile.FieldType.long)) ∈ lw_all := lw_g (lw_at lw_m6 233 rfl) rfl
theorem q1505 : (Jvm.Cond.instanceMethod ({ cls := "CafeTablesModel", name := "copy", desc := "(IIIII)I" } : Jvm.MethodName)) ∈ lw_all := lw_g (lw_at lw_m6 235 rfl) rfl
theorem q1506 : (Jvm.Cond.selects "CafeTablesModel" ({ cls := "CafeTablesModel", name := "copy", desc := "(IIIII)I" } : Jvm.MethodName) ({ cls := "CafeTablesModel", name := "copy", desc := "(IIIII)I" } : Jvm.MethodName)) ∈ lw_all := lw_g (lw_at lw_m6 236 rfl) rfl
theorem q1507 : (Jvm.Cond.code ({ cls := "CafeTablesModel", name := "copy", desc := "(IIIII)I" } : Jvm.MethodName) prog_12_method_68_code (10 : Nat) (Option.some Jvm.ClassFile.FieldType.int)) ∈ lw_all := lw_g (lw_at lw_m6 237 rfl) rfl
theorem q1509 : (Jvm.Cond.instanceMethod ({ cls := "CafeTablesModel", name := "tell", desc := "(I)I" } : Jvm.MethodName)) ∈ lw_all := lw_g (lw_at lw_m6 239 rfl) rfl
theorem q1510 : (Jvm.Cond.selects "CafeTablesModel" ({ cls := "CafeTablesModel", name := "tell", desc := "(I)I" } : Jvm.MethodName) ({ cls := "CafeTablesModel", name := "tell", desc := "(I)I" } : Jvm.MethodName)) ∈ lw_all := lw_g (lw_at lw_m7 0 rfl) rfl
theorem q1511 : (Jvm.Cond.code ({ cls := "CafeTablesModel", name := "tell", desc := "(I)I" } : Jvm.MethodName) prog_12_method_70_code (3 : Nat) (Option.some Jvm.ClassFile.FieldType.int)) ∈ lw_all := lw_g (lw_at lw_m7 1 rfl) rfl
theorem q1512 : (Jvm.Cond.methodLink "CafeTablesModel" (291 : Nat) ({ cls := "CafeTablesModel", name := "begins", desc := "(I)V" } : Jvm.MethodName)) ∈ lw_all := lw_g (lw_at lw_m7 2 rfl) rfl
theorem q1513 : (Jvm.Cond.privateMethod ({ cls := "CafeTablesModel", name := "begins", desc := "(I)V" } : Jvm.MethodName)) ∈ lw_tbl := lw_at lw_m7 3 rfl
theorem q1514 : (Jvm.Cond.instanceMethod ({ cls := "CafeTablesModel", name := "begins", desc := "(I)V" } : Jvm.MethodName)) ∈ lw_all := lw_g (lw_at lw_m7 4 rfl) rfl
theorem q1515 : (Jvm.Cond.code ({ cls := "CafeTablesModel", name := "begins", desc := "(I)V" } : Jvm.MethodName) prog_12_method_69_code (2 : Nat) (Option.none : Option Jvm.ClassFile.FieldType)) ∈ lw_all := lw_g (lw_at lw_m7 5 rfl) rfl
theorem q1517 : (Jvm.Cond.instanceMethod ({ cls := "CafeTablesModel", name := "serve", desc := "(I)I" } : Jvm.MethodName)) ∈ lw_all := lw_g (lw_at lw_m7 7 rfl) rfl
theorem q1518 : (Jvm.Cond.selects "CafeTablesModel" ({ cls := "CafeTablesModel", name := "serve", desc := "(I)I" } : Jvm.MethodName) ({ cls := "CafeTablesModel", name := "serve", desc := "(I)I" } : Jvm.MethodName)) ∈ lw_all := lw_g (lw_at lw_m7 8 rfl) rfl
theorem q1519 : (Jvm.Cond.code ({ cls := "CafeTablesModel", name := "serve", desc := "(I)I" } : Jvm.MethodName) prog_12_method_71_code (2 : Nat) (Option.some Jvm.ClassFile.FieldType.int)) ∈ lw_all := lw_g (lw_at lw_m7 9 rfl) rfl
theorem q1521 : (Jvm.Cond.instanceMethod ({ cls := "CafeTablesModel", name := "as", desc := "(II)I" } : Jvm.MethodName)) ∈ lw_all := lw_g (lw_at lw_m7 11 rfl) rfl
theorem q1522 : (Jvm.Cond.selects "CafeTablesModel" ({ cls := "CafeTablesModel", name := "as", desc := "(II)I" } : Jvm.MethodName) ({ cls := "CafeTablesModel", name := "as", desc := "(II)I" } : Jvm.MethodName)) ∈ lw_all := lw_g (lw_at lw_m7 12 rfl) rfl
theorem q1523 : (Jvm.Cond.code ({ cls := "CafeTablesModel", name := "as", desc := "(II)I" } : Jvm.MethodName) prog_12_method_72_code (3 : Nat) (Option.some Jvm.ClassFile.FieldType.int)) ∈ lw_all := lw_g (lw_at lw_m7 13 rfl) rfl
theorem q1525 : (Jvm.Cond.instanceMethod ({ cls := "CafeTablesModel", name := "trace", desc := "()I" } : Jvm.MethodName)) ∈ lw_all := lw_g (lw_at lw_m7 15 rfl) rfl
theorem q1526 : (Jvm.Cond.selects "CafeTablesModel" ({ cls := "CafeTablesModel", name := "trace", desc := "()I" } : Jvm.MethodName) ({ cls := "CafeTablesModel", name := "trace", desc := "()I" } : Jvm.MethodName)) ∈ lw_all := lw_g (lw_at lw_m7 16 rfl) rfl
theorem q1527 : (Jvm.Cond.code ({ cls := "CafeTablesModel", name := "trace", desc := "()I" } : Jvm.MethodName) prog_12_method_73_code (1 : Nat) (Option.some Jvm.ClassFile.FieldType.int)) ∈ lw_all := lw_g (lw_at lw_m7 17 rfl) rfl
theorem q1529 : (Jvm.Cond.instanceMethod ({ cls := "CafeTablesModel", name := "fault", desc := "()I" } : Jvm.MethodName)) ∈ lw_all := lw_g (lw_at lw_m7 19 rfl) rfl
theorem q1530 : (Jvm.Cond.selects "CafeTablesModel" ({ cls := "CafeTablesModel", name := "fault", desc := "()I" } : Jvm.MethodName) ({ cls := "CafeTablesModel", name := "fault", desc := "()I" } : Jvm.MethodName)) ∈ lw_all := lw_g (lw_at lw_m7 20 rfl) rfl
theorem q1531 : (Jvm.Cond.code ({ cls := "CafeTablesModel", name := "fault", desc := "()I" } : Jvm.MethodName) prog_12_method_74_code (1 : Nat) (Option.some Jvm.ClassFile.FieldType.int)) ∈ lw_all := lw_g (lw_at lw_m7 21 rfl) rfl
theorem q1533 : (Jvm.Cond.instanceMethod ({ cls := "CafeTablesModel", name := "many", desc := "(I)I" } : Jvm.MethodName)) ∈ lw_all := lw_g (lw_at lw_m7 23 rfl) rfl
theorem q1534 : (Jvm.Cond.selects "CafeTablesModel" ({ cls := "CafeTablesModel", name := "many", desc := "(I)I" } : Jvm.MethodName) ({ cls := "CafeTablesModel", name := "many", desc := "(I)I" } : Jvm.MethodName)) ∈ lw_all := lw_g (lw_at lw_m7 24 rfl) rfl
theorem q1535 : (Jvm.Cond.code ({ cls := "CafeTablesModel", name := "many", desc := "(I)I" } : Jvm.MethodName) prog_12_method_75_code (4 : Nat) (Option.some Jvm.ClassFile.FieldType.int)) ∈ lw_all := lw_g (lw_at lw_m7 25 rfl) rfl
theorem q1550 : (Jvm.Cond.castable "CafeTablesModel" "java/lang/Object") ∈ lw_tbl := lw_at lw_m7 40 rfl
theorem in_X1 : ∀ w ∈ wsX10, w ∈ lw_all := lw_in wsX10 [1159, 1161, 1163, 1165, 1167, 1169, 1171, 1173, 1175, 1177, 1179, 1181, 1183, 1185, 1187, 1189, 1191, 1193, 1195, 1197, 1199, 1201, 1203, 1205, 1207, 1209, 1211, 1213, 1215, 1217, 1219, 1221, 1223, 1225, 1227, 1229, 1231, 1233, 1235, 1237, 1239, 1241, 1243, 1245] (by decide +kernel) (by decide +kernel)
