/-! CafeTables -/
set_option maxRecDepth 100000
def RX0 : String := "CafeTables"
def TX0 : u_T := fun k => match k with
  | 0 => ("CafeTables", "tables", "I", false)
  | 1 => ("CafeTables", "ruleNow", "I", false)
  | 2 => ("CafeTables", "patienceNow", "I", false)
  | 3 => ("CafeTables", "joins", "Z", false)
  | 4 => ("CafeTables", "rainFrom", "I", false)
  | 5 => ("CafeTables", "whereIs", "[I", true)
  | 6 => ("CafeTables", "seatsOf", "[I", true)
  | 7 => ("CafeTables", "trace", "I", false)
  | 8 => ("CafeTables", "groups", "Ljava/util/List;", true)
  | 9 => ("CafeTables", "holds", "[I", true)
  | 10 => ("CafeTables", "isShut", "Z", false)
  | 11 => ("CafeTables", "how", "[I", true)
  | 12 => ("CafeTables", "firstAt", "[I", true)
  | 13 => ("CafeTables", "since", "[I", true)
  | 14 => ("CafeTables", "until", "[I", true)
  | 15 => ("CafeTables", "wentAt", "[I", true)
  | 16 => ("CafeTables", "trying", "[I", true)
  | 17 => ("CafeTables", "planned", "[I", true)
  | 18 => ("CafeTables", "most", "I", false)
  | 19 => ("CafeTables", "coinBy", "[I", true)
  | 20 => ("CafeTables", "whereWas", "[I", true)
  | 21 => ("CafeTables", "seatsWere", "[I", true)
  | 22 => ("CafeTables", "fault", "I", false)
  | _ => ("CafeTables", "sheets", "[LCafeTables$Sheet;", true)
def tyX0 : Nat → FieldType := fun k => match k with
  | 0 => .int
  | 1 => .int
  | 2 => .int
  | 3 => .boolean
  | 4 => .int
  | 5 => .array .int
  | 6 => .array .int
  | 7 => .int
  | 8 => .object "java/util/List"
  | 9 => .array .int
  | 10 => .boolean
  | 11 => .array .int
  | 12 => .array .int
  | 13 => .array .int
  | 14 => .array .int
  | 15 => .array .int
  | 16 => .array .int
  | 17 => .array .int
  | 18 => .int
  | 19 => .array .int
  | 20 => .array .int
  | 21 => .array .int
  | 22 => .int
  | _ => .array (.object "CafeTables$Sheet")
abbrev wsX00 : List Cond := u_ws RX0 TX0 24
set_option maxRecDepth 100000 in
theorem nmX0 : ∀ a, a < 24 → ∀ b, b < 24 → a ≠ b → (TX0 a).2.1 ≠ (TX0 b).2.1 := by decide +kernel
set_option maxRecDepth 100000 in
theorem tyX0_ok : ∀ k, k < 24 → parseFieldDescriptor (TX0 k).2.2.1 = some (tyX0 k) := by decide +kernel
abbrev cX0_init : ByteArray := prog_1_method_4_code
def yX0_init : MethodName := ⟨RX0, "<init>", "()V"⟩
def dkwX0_init_5 : List UInt8 := [16, 6, 188, 10, 181, 0, 69, 42, 7, 189, 0, 72, 181, 0, 74, 177]
abbrev dktX0_init_5 : List UInt8 := dkwX0_init_5 ++ []
def dkwX0_init_4 : List UInt8 := [16, 6, 188, 10, 181, 0, 60, 42, 16, 31, 188, 10, 181, 0, 63, 42, 16, 6, 188, 10, 181, 0, 66, 42]
abbrev dktX0_init_4 : List UInt8 := dkwX0_init_4 ++ dktX0_init_5
def dkwX0_init_3 : List UInt8 := [16, 8, 188, 10, 181, 0, 51, 42, 16, 8, 188, 10, 181, 0, 54, 42, 16, 6, 188, 10, 181, 0, 57, 42]
abbrev dktX0_init_3 : List UInt8 := dkwX0_init_3 ++ dktX0_init_4
def dkwX0_init_2 : List UInt8 := [16, 8, 188, 10, 181, 0, 42, 42, 16, 8, 188, 10, 181, 0, 45, 42, 16, 8, 188, 10, 181, 0, 48, 42]
abbrev dktX0_init_2 : List UInt8 := dkwX0_init_2 ++ dktX0_init_3
def dkwX0_init_1 : List UInt8 := [181, 0, 29, 42, 187, 0, 32, 89, 183, 0, 34, 181, 0, 35, 42, 16, 6, 188, 10, 181, 0, 39, 42]
abbrev dktX0_init_1 : List UInt8 := dkwX0_init_1 ++ dktX0_init_2
def dkwX0_init_0 : List UInt8 := [42, 183, 0, 15, 42, 16, 247, 181, 0, 21, 42, 16, 6, 188, 10, 181, 0, 25, 42, 16, 6, 188, 10]
abbrev dktX0_init_0 : List UInt8 := dkwX0_init_0 ++ dktX0_init_1
theorem dksX0_init_0 : cX0_init.data.toList.drop 0 = dktX0_init_0 := by decide +kernel
theorem dksX0_init_1 : cX0_init.data.toList.drop 23 = dktX0_init_1 := dk_seg dksX0_init_0 23 rfl rfl
theorem dksX0_init_2 : cX0_init.data.toList.drop 46 = dktX0_init_2 := dk_seg dksX0_init_1 23 rfl rfl
theorem dksX0_init_3 : cX0_init.data.toList.drop 70 = dktX0_init_3 := dk_seg dksX0_init_2 24 rfl rfl
theorem dksX0_init_4 : cX0_init.data.toList.drop 94 = dktX0_init_4 := dk_seg dksX0_init_3 24 rfl rfl
theorem dksX0_init_5 : cX0_init.data.toList.drop 118 = dktX0_init_5 := dk_seg dksX0_init_4 24 rfl rfl
theorem dX0_init_0 : decode cX0_init 0 = .ok (.aload_n 0, 1) := dk_42 (dk_at dksX0_init_0 0 rfl rfl)
theorem dX0_init_1 : decode cX0_init 1 = .ok (.invokespecial 15, 3) := dk_183 0 15 (dk_at dksX0_init_0 1 rfl rfl)
theorem dX0_init_4 : decode cX0_init 4 = .ok (.aload_n 0, 1) := dk_42 (dk_at dksX0_init_0 4 rfl rfl)
theorem dX0_init_5 : decode cX0_init 5 = .ok (.bipush (-9), 2) := dk_16 247 (dk_at dksX0_init_0 5 rfl rfl)
theorem dX0_init_7 : decode cX0_init 7 = .ok (.putfield 21, 3) := dk_181 0 21 (dk_at dksX0_init_0 7 rfl rfl)
theorem dX0_init_10 : decode cX0_init 10 = .ok (.aload_n 0, 1) := dk_42 (dk_at dksX0_init_0 10 rfl rfl)
theorem dX0_init_11 : decode cX0_init 11 = .ok (.bipush 6, 2) := dk_16 6 (dk_at dksX0_init_0 11 rfl rfl)
theorem dX0_init_13 : decode cX0_init 13 = .ok (.newarray .int, 2) := dk_188_10 (dk_at dksX0_init_0 13 rfl rfl)
theorem dX0_init_15 : decode cX0_init 15 = .ok (.putfield 25, 3) := dk_181 0 25 (dk_at dksX0_init_0 15 rfl rfl)
theorem dX0_init_18 : decode cX0_init 18 = .ok (.aload_n 0, 1) := dk_42 (dk_at dksX0_init_0 18 rfl rfl)
theorem dX0_init_19 : decode cX0_init 19 = .ok (.bipush 6, 2) := dk_16 6 (dk_at dksX0_init_0 19 rfl rfl)
theorem dX0_init_21 : decode cX0_init 21 = .ok (.newarray .int, 2) := dk_188_10 (dk_at dksX0_init_0 21 rfl rfl)
theorem dX0_init_23 : decode cX0_init 23 = .ok (.putfield 29, 3) := dk_181 0 29 (dk_at dksX0_init_1 0 rfl rfl)
theorem dX0_init_26 : decode cX0_init 26 = .ok (.aload_n 0, 1) := dk_42 (dk_at dksX0_init_1 3 rfl rfl)
theorem dX0_init_27 : decode cX0_init 27 = .ok (.new 32, 3) := dk_187 0 32 (dk_at dksX0_init_1 4 rfl rfl)
theorem dX0_init_30 : decode cX0_init 30 = .ok (.dup, 1) := dk_89 (dk_at dksX0_init_1 7 rfl rfl)
theorem dX0_init_31 : decode cX0_init 31 = .ok (.invokespecial 34, 3) := dk_183 0 34 (dk_at dksX0_init_1 8 rfl rfl)
theorem dX0_init_34 : decode cX0_init 34 = .ok (.putfield 35, 3) := dk_181 0 35 (dk_at dksX0_init_1 11 rfl rfl)
theorem dX0_init_37 : decode cX0_init 37 = .ok (.aload_n 0, 1) := dk_42 (dk_at dksX0_init_1 14 rfl rfl)
theorem dX0_init_38 : decode cX0_init 38 = .ok (.bipush 6, 2) := dk_16 6 (dk_at dksX0_init_1 15 rfl rfl)
theorem dX0_init_40 : decode cX0_init 40 = .ok (.newarray .int, 2) := dk_188_10 (dk_at dksX0_init_1 17 rfl rfl)
theorem dX0_init_42 : decode cX0_init 42 = .ok (.putfield 39, 3) := dk_181 0 39 (dk_at dksX0_init_1 19 rfl rfl)
theorem dX0_init_45 : decode cX0_init 45 = .ok (.aload_n 0, 1) := dk_42 (dk_at dksX0_init_1 22 rfl rfl)
theorem dX0_init_46 : decode cX0_init 46 = .ok (.bipush 8, 2) := dk_16 8 (dk_at dksX0_init_2 0 rfl rfl)
theorem dX0_init_48 : decode cX0_init 48 = .ok (.newarray .int, 2) := dk_188_10 (dk_at dksX0_init_2 2 rfl rfl)
theorem dX0_init_50 : decode cX0_init 50 = .ok (.putfield 42, 3) := dk_181 0 42 (dk_at dksX0_init_2 4 rfl rfl)
theorem dX0_init_53 : decode cX0_init 53 = .ok (.aload_n 0, 1) := dk_42 (dk_at dksX0_init_2 7 rfl rfl)
theorem dX0_init_54 : decode cX0_init 54 = .ok (.bipush 8, 2) := dk_16 8 (dk_at dksX0_init_2 8 rfl rfl)
theorem dX0_init_56 : decode cX0_init 56 = .ok (.newarray .int, 2) := dk_188_10 (dk_at dksX0_init_2 10 rfl rfl)
theorem dX0_init_58 : decode cX0_init 58 = .ok (.putfield 45, 3) := dk_181 0 45 (dk_at dksX0_init_2 12 rfl rfl)
theorem dX0_init_61 : decode cX0_init 61 = .ok (.aload_n 0, 1) := dk_42 (dk_at dksX0_init_2 15 rfl rfl)
theorem dX0_init_62 : decode cX0_init 62 = .ok (.bipush 8, 2) := dk_16 8 (dk_at dksX0_init_2 16 rfl rfl)
theorem dX0_init_64 : decode cX0_init 64 = .ok (.newarray .int, 2) := dk_188_10 (dk_at dksX0_init_2 18 rfl rfl)
theorem dX0_init_66 : decode cX0_init 66 = .ok (.putfield 48, 3) := dk_181 0 48 (dk_at dksX0_init_2 20 rfl rfl)
theorem dX0_init_69 : decode cX0_init 69 = .ok (.aload_n 0, 1) := dk_42 (dk_at dksX0_init_2 23 rfl rfl)
theorem dX0_init_70 : decode cX0_init 70 = .ok (.bipush 8, 2) := dk_16 8 (dk_at dksX0_init_3 0 rfl rfl)
theorem dX0_init_72 : decode cX0_init 72 = .ok (.newarray .int, 2) := dk_188_10 (dk_at dksX0_init_3 2 rfl rfl)
theorem dX0_init_74 : decode cX0_init 74 = .ok (.putfield 51, 3) := dk_181 0 51 (dk_at dksX0_init_3 4 rfl rfl)
theorem dX0_init_77 : decode cX0_init 77 = .ok (.aload_n 0, 1) := dk_42 (dk_at dksX0_init_3 7 rfl rfl)
theorem dX0_init_78 : decode cX0_init 78 = .ok (.bipush 8, 2) := dk_16 8 (dk_at dksX0_init_3 8 rfl rfl)
theorem dX0_init_80 : decode cX0_init 80 = .ok (.newarray .int, 2) := dk_188_10 (dk_at dksX0_init_3 10 rfl rfl)
theorem dX0_init_82 : decode cX0_init 82 = .ok (.putfield 54, 3) := dk_181 0 54 (dk_at dksX0_init_3 12 rfl rfl)
theorem dX0_init_85 : decode cX0_init 85 = .ok (.aload_n 0, 1) := dk_42 (dk_at dksX0_init_3 15 rfl rfl)
theorem dX0_init_86 : decode cX0_init 86 = .ok (.bipush 6, 2) := dk_16 6 (dk_at dksX0_init_3 16 rfl rfl)
theorem dX0_init_88 : decode cX0_init 88 = .ok (.newarray .int, 2) := dk_188_10 (dk_at dksX0_init_3 18 rfl rfl)
theorem dX0_init_90 : decode cX0_init 90 = .ok (.putfield 57, 3) := dk_181 0 57 (dk_at dksX0_init_3 20 rfl rfl)
theorem dX0_init_93 : decode cX0_init 93 = .ok (.aload_n 0, 1) := dk_42 (dk_at dksX0_init_3 23 rfl rfl)
theorem dX0_init_94 : decode cX0_init 94 = .ok (.bipush 6, 2) := dk_16 6 (dk_at dksX0_init_4 0 rfl rfl)
theorem dX0_init_96 : decode cX0_init 96 = .ok (.newarray .int, 2) := dk_188_10 (dk_at dksX0_init_4 2 rfl rfl)
theorem dX0_init_98 : decode cX0_init 98 = .ok (.putfield 60, 3) := dk_181 0 60 (dk_at dksX0_init_4 4 rfl rfl)
theorem dX0_init_101 : decode cX0_init 101 = .ok (.aload_n 0, 1) := dk_42 (dk_at dksX0_init_4 7 rfl rfl)
theorem dX0_init_102 : decode cX0_init 102 = .ok (.bipush 31, 2) := dk_16 31 (dk_at dksX0_init_4 8 rfl rfl)
theorem dX0_init_104 : decode cX0_init 104 = .ok (.newarray .int, 2) := dk_188_10 (dk_at dksX0_init_4 10 rfl rfl)
theorem dX0_init_106 : decode cX0_init 106 = .ok (.putfield 63, 3) := dk_181 0 63 (dk_at dksX0_init_4 12 rfl rfl)
theorem dX0_init_109 : decode cX0_init 109 = .ok (.aload_n 0, 1) := dk_42 (dk_at dksX0_init_4 15 rfl rfl)
theorem dX0_init_110 : decode cX0_init 110 = .ok (.bipush 6, 2) := dk_16 6 (dk_at dksX0_init_4 16 rfl rfl)
theorem dX0_init_112 : decode cX0_init 112 = .ok (.newarray .int, 2) := dk_188_10 (dk_at dksX0_init_4 18 rfl rfl)
theorem dX0_init_114 : decode cX0_init 114 = .ok (.putfield 66, 3) := dk_181 0 66 (dk_at dksX0_init_4 20 rfl rfl)
theorem dX0_init_117 : decode cX0_init 117 = .ok (.aload_n 0, 1) := dk_42 (dk_at dksX0_init_4 23 rfl rfl)
theorem dX0_init_118 : decode cX0_init 118 = .ok (.bipush 6, 2) := dk_16 6 (dk_at dksX0_init_5 0 rfl rfl)
theorem dX0_init_120 : decode cX0_init 120 = .ok (.newarray .int, 2) := dk_188_10 (dk_at dksX0_init_5 2 rfl rfl)
theorem dX0_init_122 : decode cX0_init 122 = .ok (.putfield 69, 3) := dk_181 0 69 (dk_at dksX0_init_5 4 rfl rfl)
theorem dX0_init_125 : decode cX0_init 125 = .ok (.aload_n 0, 1) := dk_42 (dk_at dksX0_init_5 7 rfl rfl)
theorem dX0_init_126 : decode cX0_init 126 = .ok (.iconst 4, 1) := dk_7 (dk_at dksX0_init_5 8 rfl rfl)
theorem dX0_init_127 : decode cX0_init 127 = .ok (.anewarray 72, 3) := dk_189 0 72 (dk_at dksX0_init_5 9 rfl rfl)
theorem dX0_init_130 : decode cX0_init 130 = .ok (.putfield 74, 3) := dk_181 0 74 (dk_at dksX0_init_5 12 rfl rfl)
theorem dX0_init_133 : decode cX0_init 133 = .ok (.return_, 1) := dk_177 (dk_at dksX0_init_5 15 rfl rfl)
abbrev cX0_ofTable : ByteArray := prog_1_method_7_code
def yX0_ofTable : MethodName := ⟨RX0, "ofTable", "(II)I"⟩
def dkwX0_ofTable_1 : List UInt8 := [4, 160, 0, 12, 42, 180, 0, 29, 27, 46, 167, 0, 5, 16, 254, 172]
abbrev dktX0_ofTable_1 : List UInt8 := dkwX0_ofTable_1 ++ []
def dkwX0_ofTable_0 : List UInt8 := [42, 27, 182, 0, 108, 153, 0, 5, 2, 172, 28, 154, 0, 12, 42, 180, 0, 25, 27, 46, 167, 0, 19, 28]
abbrev dktX0_ofTable_0 : List UInt8 := dkwX0_ofTable_0 ++ dktX0_ofTable_1
theorem dksX0_ofTable_0 : cX0_ofTable.data.toList.drop 0 = dktX0_ofTable_0 := by decide +kernel
theorem dksX0_ofTable_1 : cX0_ofTable.data.toList.drop 24 = dktX0_ofTable_1 := dk_seg dksX0_ofTable_0 24 rfl rfl
theorem dX0_ofTable_0 : decode cX0_ofTable 0 = .ok (.aload_n 0, 1) := dk_42 (dk_at dksX0_ofTable_0 0 rfl rfl)
theorem dX0_ofTable_1 : decode cX0_ofTable 1 = .ok (.iload_n 1, 1) := dk_27 (dk_at dksX0_ofTable_0 1 rfl rfl)
theorem dX0_ofTable_2 : decode cX0_ofTable 2 = .ok (.invokevirtual 108, 3) := dk_182 0 108 (dk_at dksX0_ofTable_0 2 rfl rfl)
theorem dX0_ofTable_5 : decode cX0_ofTable 5 = .ok (.ifCond .eq 5, 3) := dk_153 0 5 (dk_at dksX0_ofTable_0 5 rfl rfl)
theorem dX0_ofTable_8 : decode cX0_ofTable 8 = .ok (.iconst (-1), 1) := dk_2 (dk_at dksX0_ofTable_0 8 rfl rfl)
theorem dX0_ofTable_9 : decode cX0_ofTable 9 = .ok (.ireturn, 1) := dk_172 (dk_at dksX0_ofTable_0 9 rfl rfl)
theorem dX0_ofTable_10 : decode cX0_ofTable 10 = .ok (.iload_n 2, 1) := dk_28 (dk_at dksX0_ofTable_0 10 rfl rfl)
theorem dX0_ofTable_11 : decode cX0_ofTable 11 = .ok (.ifCond .ne 12, 3) := dk_154 0 12 (dk_at dksX0_ofTable_0 11 rfl rfl)
theorem dX0_ofTable_14 : decode cX0_ofTable 14 = .ok (.aload_n 0, 1) := dk_42 (dk_at dksX0_ofTable_0 14 rfl rfl)
theorem dX0_ofTable_15 : decode cX0_ofTable 15 = .ok (.getfield 25, 3) := dk_180 0 25 (dk_at dksX0_ofTable_0 15 rfl rfl)
theorem dX0_ofTable_18 : decode cX0_ofTable 18 = .ok (.iload_n 1, 1) := dk_27 (dk_at dksX0_ofTable_0 18 rfl rfl)
theorem dX0_ofTable_19 : decode cX0_ofTable 19 = .ok (.iaload, 1) := dk_46 (dk_at dksX0_ofTable_0 19 rfl rfl)
theorem dX0_ofTable_20 : decode cX0_ofTable 20 = .ok (.goto 19, 3) := dk_167 0 19 (dk_at dksX0_ofTable_0 20 rfl rfl)
theorem dX0_ofTable_23 : decode cX0_ofTable 23 = .ok (.iload_n 2, 1) := dk_28 (dk_at dksX0_ofTable_0 23 rfl rfl)
theorem dX0_ofTable_24 : decode cX0_ofTable 24 = .ok (.iconst 1, 1) := dk_4 (dk_at dksX0_ofTable_1 0 rfl rfl)
theorem dX0_ofTable_25 : decode cX0_ofTable 25 = .ok (.if_icmp .ne 12, 3) := dk_160 0 12 (dk_at dksX0_ofTable_1 1 rfl rfl)
theorem dX0_ofTable_28 : decode cX0_ofTable 28 = .ok (.aload_n 0, 1) := dk_42 (dk_at dksX0_ofTable_1 4 rfl rfl)
theorem dX0_ofTable_29 : decode cX0_ofTable 29 = .ok (.getfield 29, 3) := dk_180 0 29 (dk_at dksX0_ofTable_1 5 rfl rfl)
theorem dX0_ofTable_32 : decode cX0_ofTable 32 = .ok (.iload_n 1, 1) := dk_27 (dk_at dksX0_ofTable_1 8 rfl rfl)
theorem dX0_ofTable_33 : decode cX0_ofTable 33 = .ok (.iaload, 1) := dk_46 (dk_at dksX0_ofTable_1 9 rfl rfl)
theorem dX0_ofTable_34 : decode cX0_ofTable 34 = .ok (.goto 5, 3) := dk_167 0 5 (dk_at dksX0_ofTable_1 10 rfl rfl)
theorem dX0_ofTable_37 : decode cX0_ofTable 37 = .ok (.bipush (-2), 2) := dk_16 254 (dk_at dksX0_ofTable_1 13 rfl rfl)
theorem dX0_ofTable_39 : decode cX0_ofTable 39 = .ok (.ireturn, 1) := dk_172 (dk_at dksX0_ofTable_1 15 rfl rfl)
abbrev cX0_noTable : ByteArray := prog_1_method_5_code
def yX0_noTable : MethodName := ⟨RX0, "noTable", "(I)Z"⟩
def dkwX0_noTable_0 : List UInt8 := [27, 133, 9, 42, 180, 0, 78, 4, 100, 133, 184, 0, 81, 154, 0, 7, 4, 167, 0, 4, 3, 172]
abbrev dktX0_noTable_0 : List UInt8 := dkwX0_noTable_0 ++ []
theorem dksX0_noTable_0 : cX0_noTable.data.toList.drop 0 = dktX0_noTable_0 := by decide +kernel
theorem dX0_noTable_0 : decode cX0_noTable 0 = .ok (.iload_n 1, 1) := dk_27 (dk_at dksX0_noTable_0 0 rfl rfl)
theorem dX0_noTable_1 : decode cX0_noTable 1 = .ok (.i2l, 1) := dk_133 (dk_at dksX0_noTable_0 1 rfl rfl)
theorem dX0_noTable_2 : decode cX0_noTable 2 = .ok (.lconst 0, 1) := dk_9 (dk_at dksX0_noTable_0 2 rfl rfl)
theorem dX0_noTable_3 : decode cX0_noTable 3 = .ok (.aload_n 0, 1) := dk_42 (dk_at dksX0_noTable_0 3 rfl rfl)
theorem dX0_noTable_4 : decode cX0_noTable 4 = .ok (.getfield 78, 3) := dk_180 0 78 (dk_at dksX0_noTable_0 4 rfl rfl)
theorem dX0_noTable_7 : decode cX0_noTable 7 = .ok (.iconst 1, 1) := dk_4 (dk_at dksX0_noTable_0 7 rfl rfl)
theorem dX0_noTable_8 : decode cX0_noTable 8 = .ok (.isub, 1) := dk_100 (dk_at dksX0_noTable_0 8 rfl rfl)
theorem dX0_noTable_9 : decode cX0_noTable 9 = .ok (.i2l, 1) := dk_133 (dk_at dksX0_noTable_0 9 rfl rfl)
theorem dX0_noTable_10 : decode cX0_noTable 10 = .ok (.invokestatic 81, 3) := dk_184 0 81 (dk_at dksX0_noTable_0 10 rfl rfl)
theorem dX0_noTable_13 : decode cX0_noTable 13 = .ok (.ifCond .ne 7, 3) := dk_154 0 7 (dk_at dksX0_noTable_0 13 rfl rfl)
theorem dX0_noTable_16 : decode cX0_noTable 16 = .ok (.iconst 1, 1) := dk_4 (dk_at dksX0_noTable_0 16 rfl rfl)
theorem dX0_noTable_17 : decode cX0_noTable 17 = .ok (.goto 4, 3) := dk_167 0 4 (dk_at dksX0_noTable_0 17 rfl rfl)
theorem dX0_noTable_20 : decode cX0_noTable 20 = .ok (.iconst 0, 1) := dk_3 (dk_at dksX0_noTable_0 20 rfl rfl)
theorem dX0_noTable_21 : decode cX0_noTable 21 = .ok (.ireturn, 1) := dk_172 (dk_at dksX0_noTable_0 21 rfl rfl)
abbrev cX0_in : ByteArray := prog_1_method_1_code
def yX0_in : MethodName := ⟨RX0, "in", "(JJJ)Z"⟩
def dkwX0_in_0 : List UInt8 := [30, 32, 148, 155, 0, 14, 30, 22, 4, 148, 157, 0, 7, 4, 167, 0, 4, 3, 172]
abbrev dktX0_in_0 : List UInt8 := dkwX0_in_0 ++ []
theorem dksX0_in_0 : cX0_in.data.toList.drop 0 = dktX0_in_0 := by decide +kernel
theorem dX0_in_0 : decode cX0_in 0 = .ok (.lload_n 0, 1) := dk_30 (dk_at dksX0_in_0 0 rfl rfl)
theorem dX0_in_1 : decode cX0_in 1 = .ok (.lload_n 2, 1) := dk_32 (dk_at dksX0_in_0 1 rfl rfl)
theorem dX0_in_2 : decode cX0_in 2 = .ok (.lcmp, 1) := dk_148 (dk_at dksX0_in_0 2 rfl rfl)
theorem dX0_in_3 : decode cX0_in 3 = .ok (.ifCond .lt 14, 3) := dk_155 0 14 (dk_at dksX0_in_0 3 rfl rfl)
theorem dX0_in_6 : decode cX0_in 6 = .ok (.lload_n 0, 1) := dk_30 (dk_at dksX0_in_0 6 rfl rfl)
theorem dX0_in_7 : decode cX0_in 7 = .ok (.lload 4, 2) := dk_22 4 (dk_at dksX0_in_0 7 rfl rfl)
theorem dX0_in_9 : decode cX0_in 9 = .ok (.lcmp, 1) := dk_148 (dk_at dksX0_in_0 9 rfl rfl)
theorem dX0_in_10 : decode cX0_in 10 = .ok (.ifCond .gt 7, 3) := dk_157 0 7 (dk_at dksX0_in_0 10 rfl rfl)
theorem dX0_in_13 : decode cX0_in 13 = .ok (.iconst 1, 1) := dk_4 (dk_at dksX0_in_0 13 rfl rfl)
theorem dX0_in_14 : decode cX0_in 14 = .ok (.goto 4, 3) := dk_167 0 4 (dk_at dksX0_in_0 14 rfl rfl)
theorem dX0_in_17 : decode cX0_in 17 = .ok (.iconst 0, 1) := dk_3 (dk_at dksX0_in_0 17 rfl rfl)
theorem dX0_in_18 : decode cX0_in 18 = .ok (.ireturn, 1) := dk_172 (dk_at dksX0_in_0 18 rfl rfl)
abbrev cX0_rule : ByteArray := prog_1_method_8_code
def yX0_rule : MethodName := ⟨RX0, "rule", "(I)I"⟩
def dkwX0_rule_1 : List UInt8 := [172, 42, 180, 0, 98, 61, 42, 27, 181, 0, 98, 28, 172]
abbrev dktX0_rule_1 : List UInt8 := dkwX0_rule_1 ++ []
def dkwX0_rule_0 : List UInt8 := [27, 133, 9, 20, 0, 112, 184, 0, 81, 154, 0, 6, 16, 254, 172, 42, 180, 0, 78, 154, 0, 6, 16, 253]
abbrev dktX0_rule_0 : List UInt8 := dkwX0_rule_0 ++ dktX0_rule_1
theorem dksX0_rule_0 : cX0_rule.data.toList.drop 0 = dktX0_rule_0 := by decide +kernel
theorem dksX0_rule_1 : cX0_rule.data.toList.drop 24 = dktX0_rule_1 := dk_seg dksX0_rule_0 24 rfl rfl
theorem dX0_rule_0 : decode cX0_rule 0 = .ok (.iload_n 1, 1) := dk_27 (dk_at dksX0_rule_0 0 rfl rfl)
theorem dX0_rule_1 : decode cX0_rule 1 = .ok (.i2l, 1) := dk_133 (dk_at dksX0_rule_0 1 rfl rfl)
theorem dX0_rule_2 : decode cX0_rule 2 = .ok (.lconst 0, 1) := dk_9 (dk_at dksX0_rule_0 2 rfl rfl)
theorem dX0_rule_3 : decode cX0_rule 3 = .ok (.ldc2_w 112, 3) := dk_20 0 112 (dk_at dksX0_rule_0 3 rfl rfl)
theorem dX0_rule_6 : decode cX0_rule 6 = .ok (.invokestatic 81, 3) := dk_184 0 81 (dk_at dksX0_rule_0 6 rfl rfl)
theorem dX0_rule_9 : decode cX0_rule 9 = .ok (.ifCond .ne 6, 3) := dk_154 0 6 (dk_at dksX0_rule_0 9 rfl rfl)
theorem dX0_rule_12 : decode cX0_rule 12 = .ok (.bipush (-2), 2) := dk_16 254 (dk_at dksX0_rule_0 12 rfl rfl)
theorem dX0_rule_14 : decode cX0_rule 14 = .ok (.ireturn, 1) := dk_172 (dk_at dksX0_rule_0 14 rfl rfl)
theorem dX0_rule_15 : decode cX0_rule 15 = .ok (.aload_n 0, 1) := dk_42 (dk_at dksX0_rule_0 15 rfl rfl)
theorem dX0_rule_16 : decode cX0_rule 16 = .ok (.getfield 78, 3) := dk_180 0 78 (dk_at dksX0_rule_0 16 rfl rfl)
theorem dX0_rule_19 : decode cX0_rule 19 = .ok (.ifCond .ne 6, 3) := dk_154 0 6 (dk_at dksX0_rule_0 19 rfl rfl)
theorem dX0_rule_22 : decode cX0_rule 22 = .ok (.bipush (-3), 2) := dk_16 253 (dk_at dksX0_rule_0 22 rfl rfl)
theorem dX0_rule_24 : decode cX0_rule 24 = .ok (.ireturn, 1) := dk_172 (dk_at dksX0_rule_1 0 rfl rfl)
theorem dX0_rule_25 : decode cX0_rule 25 = .ok (.aload_n 0, 1) := dk_42 (dk_at dksX0_rule_1 1 rfl rfl)
theorem dX0_rule_26 : decode cX0_rule 26 = .ok (.getfield 98, 3) := dk_180 0 98 (dk_at dksX0_rule_1 2 rfl rfl)
theorem dX0_rule_29 : decode cX0_rule 29 = .ok (.istore_n 2, 1) := dk_61 (dk_at dksX0_rule_1 5 rfl rfl)
theorem dX0_rule_30 : decode cX0_rule 30 = .ok (.aload_n 0, 1) := dk_42 (dk_at dksX0_rule_1 6 rfl rfl)
theorem dX0_rule_31 : decode cX0_rule 31 = .ok (.iload_n 1, 1) := dk_27 (dk_at dksX0_rule_1 7 rfl rfl)
theorem dX0_rule_32 : decode cX0_rule 32 = .ok (.putfield 98, 3) := dk_181 0 98 (dk_at dksX0_rule_1 8 rfl rfl)
theorem dX0_rule_35 : decode cX0_rule 35 = .ok (.iload_n 2, 1) := dk_28 (dk_at dksX0_rule_1 11 rfl rfl)
theorem dX0_rule_36 : decode cX0_rule 36 = .ok (.ireturn, 1) := dk_172 (dk_at dksX0_rule_1 12 rfl rfl)
abbrev cX0_patience : ByteArray := prog_1_method_9_code
def yX0_patience : MethodName := ⟨RX0, "patience", "(I)I"⟩
def dkwX0_patience_1 : List UInt8 := [172, 42, 180, 0, 101, 61, 42, 27, 181, 0, 101, 28, 172]
abbrev dktX0_patience_1 : List UInt8 := dkwX0_patience_1 ++ []
def dkwX0_patience_0 : List UInt8 := [27, 133, 9, 20, 0, 114, 184, 0, 81, 154, 0, 6, 16, 254, 172, 42, 180, 0, 78, 154, 0, 6, 16, 253]
abbrev dktX0_patience_0 : List UInt8 := dkwX0_patience_0 ++ dktX0_patience_1
theorem dksX0_patience_0 : cX0_patience.data.toList.drop 0 = dktX0_patience_0 := by decide +kernel
theorem dksX0_patience_1 : cX0_patience.data.toList.drop 24 = dktX0_patience_1 := dk_seg dksX0_patience_0 24 rfl rfl
theorem dX0_patience_0 : decode cX0_patience 0 = .ok (.iload_n 1, 1) := dk_27 (dk_at dksX0_patience_0 0 rfl rfl)
theorem dX0_patience_1 : decode cX0_patience 1 = .ok (.i2l, 1) := dk_133 (dk_at dksX0_patience_0 1 rfl rfl)
theorem dX0_patience_2 : decode cX0_patience 2 = .ok (.lconst 0, 1) := dk_9 (dk_at dksX0_patience_0 2 rfl rfl)
theorem dX0_patience_3 : decode cX0_patience 3 = .ok (.ldc2_w 114, 3) := dk_20 0 114 (dk_at dksX0_patience_0 3 rfl rfl)
theorem dX0_patience_6 : decode cX0_patience 6 = .ok (.invokestatic 81, 3) := dk_184 0 81 (dk_at dksX0_patience_0 6 rfl rfl)
theorem dX0_patience_9 : decode cX0_patience 9 = .ok (.ifCond .ne 6, 3) := dk_154 0 6 (dk_at dksX0_patience_0 9 rfl rfl)
theorem dX0_patience_12 : decode cX0_patience 12 = .ok (.bipush (-2), 2) := dk_16 254 (dk_at dksX0_patience_0 12 rfl rfl)
theorem dX0_patience_14 : decode cX0_patience 14 = .ok (.ireturn, 1) := dk_172 (dk_at dksX0_patience_0 14 rfl rfl)
theorem dX0_patience_15 : decode cX0_patience 15 = .ok (.aload_n 0, 1) := dk_42 (dk_at dksX0_patience_0 15 rfl rfl)
theorem dX0_patience_16 : decode cX0_patience 16 = .ok (.getfield 78, 3) := dk_180 0 78 (dk_at dksX0_patience_0 16 rfl rfl)
theorem dX0_patience_19 : decode cX0_patience 19 = .ok (.ifCond .ne 6, 3) := dk_154 0 6 (dk_at dksX0_patience_0 19 rfl rfl)
theorem dX0_patience_22 : decode cX0_patience 22 = .ok (.bipush (-3), 2) := dk_16 253 (dk_at dksX0_patience_0 22 rfl rfl)
theorem dX0_patience_24 : decode cX0_patience 24 = .ok (.ireturn, 1) := dk_172 (dk_at dksX0_patience_1 0 rfl rfl)
theorem dX0_patience_25 : decode cX0_patience 25 = .ok (.aload_n 0, 1) := dk_42 (dk_at dksX0_patience_1 1 rfl rfl)
theorem dX0_patience_26 : decode cX0_patience 26 = .ok (.getfield 101, 3) := dk_180 0 101 (dk_at dksX0_patience_1 2 rfl rfl)
theorem dX0_patience_29 : decode cX0_patience 29 = .ok (.istore_n 2, 1) := dk_61 (dk_at dksX0_patience_1 5 rfl rfl)
theorem dX0_patience_30 : decode cX0_patience 30 = .ok (.aload_n 0, 1) := dk_42 (dk_at dksX0_patience_1 6 rfl rfl)
theorem dX0_patience_31 : decode cX0_patience 31 = .ok (.iload_n 1, 1) := dk_27 (dk_at dksX0_patience_1 7 rfl rfl)
theorem dX0_patience_32 : decode cX0_patience 32 = .ok (.putfield 101, 3) := dk_181 0 101 (dk_at dksX0_patience_1 8 rfl rfl)
theorem dX0_patience_35 : decode cX0_patience 35 = .ok (.iload_n 2, 1) := dk_28 (dk_at dksX0_patience_1 11 rfl rfl)
theorem dX0_patience_36 : decode cX0_patience 36 = .ok (.ireturn, 1) := dk_172 (dk_at dksX0_patience_1 12 rfl rfl)
abbrev cX0_joining : ByteArray := prog_1_method_10_code
def yX0_joining : MethodName := ⟨RX0, "joining", "(Z)I"⟩
def dkwX0_joining_1 : List UInt8 := [42, 27, 181, 0, 104, 28, 172]
abbrev dktX0_joining_1 : List UInt8 := dkwX0_joining_1 ++ []
def dkwX0_joining_0 : List UInt8 := [42, 180, 0, 78, 154, 0, 6, 16, 253, 172, 42, 180, 0, 104, 27, 160, 0, 7, 3, 167, 0, 4, 4, 61]
abbrev dktX0_joining_0 : List UInt8 := dkwX0_joining_0 ++ dktX0_joining_1
theorem dksX0_joining_0 : cX0_joining.data.toList.drop 0 = dktX0_joining_0 := by decide +kernel
theorem dksX0_joining_1 : cX0_joining.data.toList.drop 24 = dktX0_joining_1 := dk_seg dksX0_joining_0 24 rfl rfl
theorem dX0_joining_0 : decode cX0_joining 0 = .ok (.aload_n 0, 1) := dk_42 (dk_at dksX0_joining_0 0 rfl rfl)
theorem dX0_joining_1 : decode cX0_joining 1 = .ok (.getfield 78, 3) := dk_180 0 78 (dk_at dksX0_joining_0 1 rfl rfl)
theorem dX0_joining_4 : decode cX0_joining 4 = .ok (.ifCond .ne 6, 3) := dk_154 0 6 (dk_at dksX0_joining_0 4 rfl rfl)
theorem dX0_joining_7 : decode cX0_joining 7 = .ok (.bipush (-3), 2) := dk_16 253 (dk_at dksX0_joining_0 7 rfl rfl)
theorem dX0_joining_9 : decode cX0_joining 9 = .ok (.ireturn, 1) := dk_172 (dk_at dksX0_joining_0 9 rfl rfl)
theorem dX0_joining_10 : decode cX0_joining 10 = .ok (.aload_n 0, 1) := dk_42 (dk_at dksX0_joining_0 10 rfl rfl)
theorem dX0_joining_11 : decode cX0_joining 11 = .ok (.getfield 104, 3) := dk_180 0 104 (dk_at dksX0_joining_0 11 rfl rfl)
theorem dX0_joining_14 : decode cX0_joining 14 = .ok (.iload_n 1, 1) := dk_27 (dk_at dksX0_joining_0 14 rfl rfl)
theorem dX0_joining_15 : decode cX0_joining 15 = .ok (.if_icmp .ne 7, 3) := dk_160 0 7 (dk_at dksX0_joining_0 15 rfl rfl)
theorem dX0_joining_18 : decode cX0_joining 18 = .ok (.iconst 0, 1) := dk_3 (dk_at dksX0_joining_0 18 rfl rfl)
theorem dX0_joining_19 : decode cX0_joining 19 = .ok (.goto 4, 3) := dk_167 0 4 (dk_at dksX0_joining_0 19 rfl rfl)
theorem dX0_joining_22 : decode cX0_joining 22 = .ok (.iconst 1, 1) := dk_4 (dk_at dksX0_joining_0 22 rfl rfl)
theorem dX0_joining_23 : decode cX0_joining 23 = .ok (.istore_n 2, 1) := dk_61 (dk_at dksX0_joining_0 23 rfl rfl)
theorem dX0_joining_24 : decode cX0_joining 24 = .ok (.aload_n 0, 1) := dk_42 (dk_at dksX0_joining_1 0 rfl rfl)
theorem dX0_joining_25 : decode cX0_joining 25 = .ok (.iload_n 1, 1) := dk_27 (dk_at dksX0_joining_1 1 rfl rfl)
theorem dX0_joining_26 : decode cX0_joining 26 = .ok (.putfield 104, 3) := dk_181 0 104 (dk_at dksX0_joining_1 2 rfl rfl)
theorem dX0_joining_29 : decode cX0_joining 29 = .ok (.iload_n 2, 1) := dk_28 (dk_at dksX0_joining_1 5 rfl rfl)
theorem dX0_joining_30 : decode cX0_joining 30 = .ok (.ireturn, 1) := dk_172 (dk_at dksX0_joining_1 6 rfl rfl)
abbrev cX0_rain : ByteArray := prog_1_method_11_code
def yX0_rain : MethodName := ⟨RX0, "rain", "(I)I"⟩
def dkwX0_rain_1 : List UInt8 := [180, 0, 78, 154, 0, 6, 16, 253, 172, 42, 27, 181, 0, 21, 4, 172]
abbrev dktX0_rain_1 : List UInt8 := dkwX0_rain_1 ++ []
def dkwX0_rain_0 : List UInt8 := [27, 16, 247, 159, 0, 18, 27, 133, 9, 20, 0, 116, 184, 0, 81, 154, 0, 6, 16, 254, 172, 42]
abbrev dktX0_rain_0 : List UInt8 := dkwX0_rain_0 ++ dktX0_rain_1
theorem dksX0_rain_0 : cX0_rain.data.toList.drop 0 = dktX0_rain_0 := by decide +kernel
theorem dksX0_rain_1 : cX0_rain.data.toList.drop 22 = dktX0_rain_1 := dk_seg dksX0_rain_0 22 rfl rfl
theorem dX0_rain_0 : decode cX0_rain 0 = .ok (.iload_n 1, 1) := dk_27 (dk_at dksX0_rain_0 0 rfl rfl)
theorem dX0_rain_1 : decode cX0_rain 1 = .ok (.bipush (-9), 2) := dk_16 247 (dk_at dksX0_rain_0 1 rfl rfl)
theorem dX0_rain_3 : decode cX0_rain 3 = .ok (.if_icmp .eq 18, 3) := dk_159 0 18 (dk_at dksX0_rain_0 3 rfl rfl)
theorem dX0_rain_6 : decode cX0_rain 6 = .ok (.iload_n 1, 1) := dk_27 (dk_at dksX0_rain_0 6 rfl rfl)
theorem dX0_rain_7 : decode cX0_rain 7 = .ok (.i2l, 1) := dk_133 (dk_at dksX0_rain_0 7 rfl rfl)
theorem dX0_rain_8 : decode cX0_rain 8 = .ok (.lconst 0, 1) := dk_9 (dk_at dksX0_rain_0 8 rfl rfl)
theorem dX0_rain_9 : decode cX0_rain 9 = .ok (.ldc2_w 116, 3) := dk_20 0 116 (dk_at dksX0_rain_0 9 rfl rfl)
theorem dX0_rain_12 : decode cX0_rain 12 = .ok (.invokestatic 81, 3) := dk_184 0 81 (dk_at dksX0_rain_0 12 rfl rfl)
theorem dX0_rain_15 : decode cX0_rain 15 = .ok (.ifCond .ne 6, 3) := dk_154 0 6 (dk_at dksX0_rain_0 15 rfl rfl)
theorem dX0_rain_18 : decode cX0_rain 18 = .ok (.bipush (-2), 2) := dk_16 254 (dk_at dksX0_rain_0 18 rfl rfl)
theorem dX0_rain_20 : decode cX0_rain 20 = .ok (.ireturn, 1) := dk_172 (dk_at dksX0_rain_0 20 rfl rfl)
theorem dX0_rain_21 : decode cX0_rain 21 = .ok (.aload_n 0, 1) := dk_42 (dk_at dksX0_rain_0 21 rfl rfl)
theorem dX0_rain_22 : decode cX0_rain 22 = .ok (.getfield 78, 3) := dk_180 0 78 (dk_at dksX0_rain_1 0 rfl rfl)
theorem dX0_rain_25 : decode cX0_rain 25 = .ok (.ifCond .ne 6, 3) := dk_154 0 6 (dk_at dksX0_rain_1 3 rfl rfl)
theorem dX0_rain_28 : decode cX0_rain 28 = .ok (.bipush (-3), 2) := dk_16 253 (dk_at dksX0_rain_1 6 rfl rfl)
theorem dX0_rain_30 : decode cX0_rain 30 = .ok (.ireturn, 1) := dk_172 (dk_at dksX0_rain_1 8 rfl rfl)
theorem dX0_rain_31 : decode cX0_rain 31 = .ok (.aload_n 0, 1) := dk_42 (dk_at dksX0_rain_1 9 rfl rfl)
theorem dX0_rain_32 : decode cX0_rain 32 = .ok (.iload_n 1, 1) := dk_27 (dk_at dksX0_rain_1 10 rfl rfl)
theorem dX0_rain_33 : decode cX0_rain 33 = .ok (.putfield 21, 3) := dk_181 0 21 (dk_at dksX0_rain_1 11 rfl rfl)
theorem dX0_rain_36 : decode cX0_rain 36 = .ok (.iconst 1, 1) := dk_4 (dk_at dksX0_rain_1 14 rfl rfl)
theorem dX0_rain_37 : decode cX0_rain 37 = .ok (.ireturn, 1) := dk_172 (dk_at dksX0_rain_1 15 rfl rfl)
abbrev cX0_group : ByteArray := prog_1_method_13_code
def yX0_group : MethodName := ⟨RX0, "group", "(IIIIII)I"⟩
def dkwX0_group_8 : List UInt8 := [185, 0, 137, 2, 0, 87, 21, 7, 172]
abbrev dktX0_group_8 : List UInt8 := dkwX0_group_8 ++ []
def dkwX0_group_7 : List UInt8 := [167, 0, 21, 187, 0, 134, 89, 42, 21, 7, 28, 29, 21, 4, 21, 5, 21, 6, 183, 0, 136]
abbrev dktX0_group_7 : List UInt8 := dkwX0_group_7 ++ dktX0_group_8
def dkwX0_group_6 : List UInt8 := [27, 4, 160, 0, 24, 187, 0, 131, 89, 42, 21, 7, 28, 29, 21, 4, 21, 5, 21, 6, 183, 0, 133]
abbrev dktX0_group_6 : List UInt8 := dkwX0_group_6 ++ dktX0_group_7
def dkwX0_group_5 : List UInt8 := [154, 0, 24, 187, 0, 126, 89, 42, 21, 7, 28, 29, 21, 4, 21, 5, 21, 6, 183, 0, 128, 167, 0, 47]
abbrev dktX0_group_5 : List UInt8 := dkwX0_group_5 ++ dktX0_group_6
def dkwX0_group_4 : List UInt8 := [185, 0, 118, 1, 0, 54, 7, 21, 7, 16, 8, 160, 0, 6, 16, 252, 172, 42, 180, 0, 35, 27]
abbrev dktX0_group_4 : List UInt8 := dkwX0_group_4 ++ dktX0_group_5
def dkwX0_group_3 : List UInt8 := [184, 0, 81, 154, 0, 6, 16, 254, 172, 42, 180, 0, 78, 154, 0, 6, 16, 253, 172, 42, 180, 0, 35]
abbrev dktX0_group_3 : List UInt8 := dkwX0_group_3 ++ dktX0_group_4
def dkwX0_group_2 : List UInt8 := [153, 0, 29, 21, 5, 133, 9, 20, 0, 112, 184, 0, 81, 153, 0, 16, 21, 6, 133, 9, 20, 0, 85]
abbrev dktX0_group_2 : List UInt8 := dkwX0_group_2 ++ dktX0_group_3
def dkwX0_group_1 : List UInt8 := [29, 133, 9, 20, 0, 122, 184, 0, 81, 153, 0, 42, 21, 4, 133, 10, 20, 0, 124, 184, 0, 81]
abbrev dktX0_group_1 : List UInt8 := dkwX0_group_1 ++ dktX0_group_2
def dkwX0_group_0 : List UInt8 := [27, 133, 9, 20, 0, 112, 184, 0, 81, 153, 0, 66, 28, 133, 10, 20, 0, 85, 184, 0, 81, 153, 0, 54]
abbrev dktX0_group_0 : List UInt8 := dkwX0_group_0 ++ dktX0_group_1
theorem dksX0_group_0 : cX0_group.data.toList.drop 0 = dktX0_group_0 := by decide +kernel
theorem dksX0_group_1 : cX0_group.data.toList.drop 24 = dktX0_group_1 := dk_seg dksX0_group_0 24 rfl rfl
theorem dksX0_group_2 : cX0_group.data.toList.drop 46 = dktX0_group_2 := dk_seg dksX0_group_1 22 rfl rfl
theorem dksX0_group_3 : cX0_group.data.toList.drop 69 = dktX0_group_3 := dk_seg dksX0_group_2 23 rfl rfl
theorem dksX0_group_4 : cX0_group.data.toList.drop 92 = dktX0_group_4 := dk_seg dksX0_group_3 23 rfl rfl
theorem dksX0_group_5 : cX0_group.data.toList.drop 114 = dktX0_group_5 := dk_seg dksX0_group_4 22 rfl rfl
theorem dksX0_group_6 : cX0_group.data.toList.drop 138 = dktX0_group_6 := dk_seg dksX0_group_5 24 rfl rfl
theorem dksX0_group_7 : cX0_group.data.toList.drop 161 = dktX0_group_7 := dk_seg dksX0_group_6 23 rfl rfl
theorem dksX0_group_8 : cX0_group.data.toList.drop 182 = dktX0_group_8 := dk_seg dksX0_group_7 21 rfl rfl
theorem dX0_group_0 : decode cX0_group 0 = .ok (.iload_n 1, 1) := dk_27 (dk_at dksX0_group_0 0 rfl rfl)
theorem dX0_group_1 : decode cX0_group 1 = .ok (.i2l, 1) := dk_133 (dk_at dksX0_group_0 1 rfl rfl)
theorem dX0_group_2 : decode cX0_group 2 = .ok (.lconst 0, 1) := dk_9 (dk_at dksX0_group_0 2 rfl rfl)
theorem dX0_group_3 : decode cX0_group 3 = .ok (.ldc2_w 112, 3) := dk_20 0 112 (dk_at dksX0_group_0 3 rfl rfl)
theorem dX0_group_6 : decode cX0_group 6 = .ok (.invokestatic 81, 3) := dk_184 0 81 (dk_at dksX0_group_0 6 rfl rfl)
theorem dX0_group_9 : decode cX0_group 9 = .ok (.ifCond .eq 66, 3) := dk_153 0 66 (dk_at dksX0_group_0 9 rfl rfl)
theorem dX0_group_12 : decode cX0_group 12 = .ok (.iload_n 2, 1) := dk_28 (dk_at dksX0_group_0 12 rfl rfl)
theorem dX0_group_13 : decode cX0_group 13 = .ok (.i2l, 1) := dk_133 (dk_at dksX0_group_0 13 rfl rfl)
theorem dX0_group_14 : decode cX0_group 14 = .ok (.lconst 1, 1) := dk_10 (dk_at dksX0_group_0 14 rfl rfl)
theorem dX0_group_15 : decode cX0_group 15 = .ok (.ldc2_w 85, 3) := dk_20 0 85 (dk_at dksX0_group_0 15 rfl rfl)
theorem dX0_group_18 : decode cX0_group 18 = .ok (.invokestatic 81, 3) := dk_184 0 81 (dk_at dksX0_group_0 18 rfl rfl)
theorem dX0_group_21 : decode cX0_group 21 = .ok (.ifCond .eq 54, 3) := dk_153 0 54 (dk_at dksX0_group_0 21 rfl rfl)
theorem dX0_group_24 : decode cX0_group 24 = .ok (.iload_n 3, 1) := dk_29 (dk_at dksX0_group_1 0 rfl rfl)
theorem dX0_group_25 : decode cX0_group 25 = .ok (.i2l, 1) := dk_133 (dk_at dksX0_group_1 1 rfl rfl)
theorem dX0_group_26 : decode cX0_group 26 = .ok (.lconst 0, 1) := dk_9 (dk_at dksX0_group_1 2 rfl rfl)
theorem dX0_group_27 : decode cX0_group 27 = .ok (.ldc2_w 122, 3) := dk_20 0 122 (dk_at dksX0_group_1 3 rfl rfl)
theorem dX0_group_30 : decode cX0_group 30 = .ok (.invokestatic 81, 3) := dk_184 0 81 (dk_at dksX0_group_1 6 rfl rfl)
theorem dX0_group_33 : decode cX0_group 33 = .ok (.ifCond .eq 42, 3) := dk_153 0 42 (dk_at dksX0_group_1 9 rfl rfl)
theorem dX0_group_36 : decode cX0_group 36 = .ok (.iload 4, 2) := dk_21 4 (dk_at dksX0_group_1 12 rfl rfl)
theorem dX0_group_38 : decode cX0_group 38 = .ok (.i2l, 1) := dk_133 (dk_at dksX0_group_1 14 rfl rfl)
theorem dX0_group_39 : decode cX0_group 39 = .ok (.lconst 1, 1) := dk_10 (dk_at dksX0_group_1 15 rfl rfl)
theorem dX0_group_40 : decode cX0_group 40 = .ok (.ldc2_w 124, 3) := dk_20 0 124 (dk_at dksX0_group_1 16 rfl rfl)
theorem dX0_group_43 : decode cX0_group 43 = .ok (.invokestatic 81, 3) := dk_184 0 81 (dk_at dksX0_group_1 19 rfl rfl)
theorem dX0_group_46 : decode cX0_group 46 = .ok (.ifCond .eq 29, 3) := dk_153 0 29 (dk_at dksX0_group_2 0 rfl rfl)
theorem dX0_group_49 : decode cX0_group 49 = .ok (.iload 5, 2) := dk_21 5 (dk_at dksX0_group_2 3 rfl rfl)
theorem dX0_group_51 : decode cX0_group 51 = .ok (.i2l, 1) := dk_133 (dk_at dksX0_group_2 5 rfl rfl)
theorem dX0_group_52 : decode cX0_group 52 = .ok (.lconst 0, 1) := dk_9 (dk_at dksX0_group_2 6 rfl rfl)
theorem dX0_group_53 : decode cX0_group 53 = .ok (.ldc2_w 112, 3) := dk_20 0 112 (dk_at dksX0_group_2 7 rfl rfl)
theorem dX0_group_56 : decode cX0_group 56 = .ok (.invokestatic 81, 3) := dk_184 0 81 (dk_at dksX0_group_2 10 rfl rfl)
theorem dX0_group_59 : decode cX0_group 59 = .ok (.ifCond .eq 16, 3) := dk_153 0 16 (dk_at dksX0_group_2 13 rfl rfl)
theorem dX0_group_62 : decode cX0_group 62 = .ok (.iload 6, 2) := dk_21 6 (dk_at dksX0_group_2 16 rfl rfl)
theorem dX0_group_64 : decode cX0_group 64 = .ok (.i2l, 1) := dk_133 (dk_at dksX0_group_2 18 rfl rfl)
theorem dX0_group_65 : decode cX0_group 65 = .ok (.lconst 0, 1) := dk_9 (dk_at dksX0_group_2 19 rfl rfl)
theorem dX0_group_66 : decode cX0_group 66 = .ok (.ldc2_w 85, 3) := dk_20 0 85 (dk_at dksX0_group_2 20 rfl rfl)
theorem dX0_group_69 : decode cX0_group 69 = .ok (.invokestatic 81, 3) := dk_184 0 81 (dk_at dksX0_group_3 0 rfl rfl)
theorem dX0_group_72 : decode cX0_group 72 = .ok (.ifCond .ne 6, 3) := dk_154 0 6 (dk_at dksX0_group_3 3 rfl rfl)
theorem dX0_group_75 : decode cX0_group 75 = .ok (.bipush (-2), 2) := dk_16 254 (dk_at dksX0_group_3 6 rfl rfl)
theorem dX0_group_77 : decode cX0_group 77 = .ok (.ireturn, 1) := dk_172 (dk_at dksX0_group_3 8 rfl rfl)
theorem dX0_group_78 : decode cX0_group 78 = .ok (.aload_n 0, 1) := dk_42 (dk_at dksX0_group_3 9 rfl rfl)
theorem dX0_group_79 : decode cX0_group 79 = .ok (.getfield 78, 3) := dk_180 0 78 (dk_at dksX0_group_3 10 rfl rfl)
theorem dX0_group_82 : decode cX0_group 82 = .ok (.ifCond .ne 6, 3) := dk_154 0 6 (dk_at dksX0_group_3 13 rfl rfl)
theorem dX0_group_85 : decode cX0_group 85 = .ok (.bipush (-3), 2) := dk_16 253 (dk_at dksX0_group_3 16 rfl rfl)
theorem dX0_group_87 : decode cX0_group 87 = .ok (.ireturn, 1) := dk_172 (dk_at dksX0_group_3 18 rfl rfl)
theorem dX0_group_88 : decode cX0_group 88 = .ok (.aload_n 0, 1) := dk_42 (dk_at dksX0_group_3 19 rfl rfl)
theorem dX0_group_89 : decode cX0_group 89 = .ok (.getfield 35, 3) := dk_180 0 35 (dk_at dksX0_group_3 20 rfl rfl)
theorem dX0_group_92 : decode cX0_group 92 = .ok (.invokeinterface 118 1, 5) := by decide +kernel
theorem dX0_group_97 : decode cX0_group 97 = .ok (.istore 7, 2) := dk_54 7 (dk_at dksX0_group_4 5 rfl rfl)
theorem dX0_group_99 : decode cX0_group 99 = .ok (.iload 7, 2) := dk_21 7 (dk_at dksX0_group_4 7 rfl rfl)
theorem dX0_group_101 : decode cX0_group 101 = .ok (.bipush 8, 2) := dk_16 8 (dk_at dksX0_group_4 9 rfl rfl)
theorem dX0_group_103 : decode cX0_group 103 = .ok (.if_icmp .ne 6, 3) := dk_160 0 6 (dk_at dksX0_group_4 11 rfl rfl)
theorem dX0_group_106 : decode cX0_group 106 = .ok (.bipush (-4), 2) := dk_16 252 (dk_at dksX0_group_4 14 rfl rfl)
theorem dX0_group_108 : decode cX0_group 108 = .ok (.ireturn, 1) := dk_172 (dk_at dksX0_group_4 16 rfl rfl)
theorem dX0_group_109 : decode cX0_group 109 = .ok (.aload_n 0, 1) := dk_42 (dk_at dksX0_group_4 17 rfl rfl)
theorem dX0_group_110 : decode cX0_group 110 = .ok (.getfield 35, 3) := dk_180 0 35 (dk_at dksX0_group_4 18 rfl rfl)
theorem dX0_group_113 : decode cX0_group 113 = .ok (.iload_n 1, 1) := dk_27 (dk_at dksX0_group_4 21 rfl rfl)
theorem dX0_group_114 : decode cX0_group 114 = .ok (.ifCond .ne 24, 3) := dk_154 0 24 (dk_at dksX0_group_5 0 rfl rfl)
theorem dX0_group_117 : decode cX0_group 117 = .ok (.new 126, 3) := dk_187 0 126 (dk_at dksX0_group_5 3 rfl rfl)
theorem dX0_group_120 : decode cX0_group 120 = .ok (.dup, 1) := dk_89 (dk_at dksX0_group_5 6 rfl rfl)
theorem dX0_group_121 : decode cX0_group 121 = .ok (.aload_n 0, 1) := dk_42 (dk_at dksX0_group_5 7 rfl rfl)
theorem dX0_group_122 : decode cX0_group 122 = .ok (.iload 7, 2) := dk_21 7 (dk_at dksX0_group_5 8 rfl rfl)
theorem dX0_group_124 : decode cX0_group 124 = .ok (.iload_n 2, 1) := dk_28 (dk_at dksX0_group_5 10 rfl rfl)
theorem dX0_group_125 : decode cX0_group 125 = .ok (.iload_n 3, 1) := dk_29 (dk_at dksX0_group_5 11 rfl rfl)
theorem dX0_group_126 : decode cX0_group 126 = .ok (.iload 4, 2) := dk_21 4 (dk_at dksX0_group_5 12 rfl rfl)
theorem dX0_group_128 : decode cX0_group 128 = .ok (.iload 5, 2) := dk_21 5 (dk_at dksX0_group_5 14 rfl rfl)
theorem dX0_group_130 : decode cX0_group 130 = .ok (.iload 6, 2) := dk_21 6 (dk_at dksX0_group_5 16 rfl rfl)
theorem dX0_group_132 : decode cX0_group 132 = .ok (.invokespecial 128, 3) := dk_183 0 128 (dk_at dksX0_group_5 18 rfl rfl)
theorem dX0_group_135 : decode cX0_group 135 = .ok (.goto 47, 3) := dk_167 0 47 (dk_at dksX0_group_5 21 rfl rfl)
theorem dX0_group_138 : decode cX0_group 138 = .ok (.iload_n 1, 1) := dk_27 (dk_at dksX0_group_6 0 rfl rfl)
theorem dX0_group_139 : decode cX0_group 139 = .ok (.iconst 1, 1) := dk_4 (dk_at dksX0_group_6 1 rfl rfl)
theorem dX0_group_140 : decode cX0_group 140 = .ok (.if_icmp .ne 24, 3) := dk_160 0 24 (dk_at dksX0_group_6 2 rfl rfl)
theorem dX0_group_143 : decode cX0_group 143 = .ok (.new 131, 3) := dk_187 0 131 (dk_at dksX0_group_6 5 rfl rfl)
theorem dX0_group_146 : decode cX0_group 146 = .ok (.dup, 1) := dk_89 (dk_at dksX0_group_6 8 rfl rfl)
theorem dX0_group_147 : decode cX0_group 147 = .ok (.aload_n 0, 1) := dk_42 (dk_at dksX0_group_6 9 rfl rfl)
theorem dX0_group_148 : decode cX0_group 148 = .ok (.iload 7, 2) := dk_21 7 (dk_at dksX0_group_6 10 rfl rfl)
theorem dX0_group_150 : decode cX0_group 150 = .ok (.iload_n 2, 1) := dk_28 (dk_at dksX0_group_6 12 rfl rfl)
theorem dX0_group_151 : decode cX0_group 151 = .ok (.iload_n 3, 1) := dk_29 (dk_at dksX0_group_6 13 rfl rfl)
theorem dX0_group_152 : decode cX0_group 152 = .ok (.iload 4, 2) := dk_21 4 (dk_at dksX0_group_6 14 rfl rfl)
theorem dX0_group_154 : decode cX0_group 154 = .ok (.iload 5, 2) := dk_21 5 (dk_at dksX0_group_6 16 rfl rfl)
theorem dX0_group_156 : decode cX0_group 156 = .ok (.iload 6, 2) := dk_21 6 (dk_at dksX0_group_6 18 rfl rfl)
theorem dX0_group_158 : decode cX0_group 158 = .ok (.invokespecial 133, 3) := dk_183 0 133 (dk_at dksX0_group_6 20 rfl rfl)
theorem dX0_group_161 : decode cX0_group 161 = .ok (.goto 21, 3) := dk_167 0 21 (dk_at dksX0_group_7 0 rfl rfl)
theorem dX0_group_164 : decode cX0_group 164 = .ok (.new 134, 3) := dk_187 0 134 (dk_at dksX0_group_7 3 rfl rfl)
theorem dX0_group_167 : decode cX0_group 167 = .ok (.dup, 1) := dk_89 (dk_at dksX0_group_7 6 rfl rfl)
theorem dX0_group_168 : decode cX0_group 168 = .ok (.aload_n 0, 1) := dk_42 (dk_at dksX0_group_7 7 rfl rfl)
theorem dX0_group_169 : decode cX0_group 169 = .ok (.iload 7, 2) := dk_21 7 (dk_at dksX0_group_7 8 rfl rfl)
theorem dX0_group_171 : decode cX0_group 171 = .ok (.iload_n 2, 1) := dk_28 (dk_at dksX0_group_7 10 rfl rfl)
theorem dX0_group_172 : decode cX0_group 172 = .ok (.iload_n 3, 1) := dk_29 (dk_at dksX0_group_7 11 rfl rfl)
theorem dX0_group_173 : decode cX0_group 173 = .ok (.iload 4, 2) := dk_21 4 (dk_at dksX0_group_7 12 rfl rfl)
theorem dX0_group_175 : decode cX0_group 175 = .ok (.iload 5, 2) := dk_21 5 (dk_at dksX0_group_7 14 rfl rfl)
theorem dX0_group_177 : decode cX0_group 177 = .ok (.iload 6, 2) := dk_21 6 (dk_at dksX0_group_7 16 rfl rfl)
theorem dX0_group_179 : decode cX0_group 179 = .ok (.invokespecial 136, 3) := dk_183 0 136 (dk_at dksX0_group_7 18 rfl rfl)
theorem dX0_group_182 : decode cX0_group 182 = .ok (.invokeinterface 137 2, 5) := by decide +kernel
theorem dX0_group_187 : decode cX0_group 187 = .ok (.pop, 1) := dk_87 (dk_at dksX0_group_8 5 rfl rfl)
theorem dX0_group_188 : decode cX0_group 188 = .ok (.iload 7, 2) := dk_21 7 (dk_at dksX0_group_8 6 rfl rfl)
theorem dX0_group_190 : decode cX0_group 190 = .ok (.ireturn, 1) := dk_172 (dk_at dksX0_group_8 8 rfl rfl)
abbrev cX0_ofGroup : ByteArray := prog_1_method_14_code
def yX0_ofGroup : MethodName := ⟨RX0, "ofGroup", "(II)I"⟩
def dkwX0_ofGroup_1 : List UInt8 := [192, 0, 126, 28, 182, 0, 148, 172]
abbrev dktX0_ofGroup_1 : List UInt8 := dkwX0_ofGroup_1 ++ []
def dkwX0_ofGroup_0 : List UInt8 := [42, 27, 182, 0, 141, 153, 0, 7, 2, 167, 0, 20, 42, 180, 0, 35, 27, 185, 0, 144, 2, 0]
abbrev dktX0_ofGroup_0 : List UInt8 := dkwX0_ofGroup_0 ++ dktX0_ofGroup_1
theorem dksX0_ofGroup_0 : cX0_ofGroup.data.toList.drop 0 = dktX0_ofGroup_0 := by decide +kernel
theorem dksX0_ofGroup_1 : cX0_ofGroup.data.toList.drop 22 = dktX0_ofGroup_1 := dk_seg dksX0_ofGroup_0 22 rfl rfl
theorem dX0_ofGroup_0 : decode cX0_ofGroup 0 = .ok (.aload_n 0, 1) := dk_42 (dk_at dksX0_ofGroup_0 0 rfl rfl)
theorem dX0_ofGroup_1 : decode cX0_ofGroup 1 = .ok (.iload_n 1, 1) := dk_27 (dk_at dksX0_ofGroup_0 1 rfl rfl)
theorem dX0_ofGroup_2 : decode cX0_ofGroup 2 = .ok (.invokevirtual 141, 3) := dk_182 0 141 (dk_at dksX0_ofGroup_0 2 rfl rfl)
theorem dX0_ofGroup_5 : decode cX0_ofGroup 5 = .ok (.ifCond .eq 7, 3) := dk_153 0 7 (dk_at dksX0_ofGroup_0 5 rfl rfl)
theorem dX0_ofGroup_8 : decode cX0_ofGroup 8 = .ok (.iconst (-1), 1) := dk_2 (dk_at dksX0_ofGroup_0 8 rfl rfl)
theorem dX0_ofGroup_9 : decode cX0_ofGroup 9 = .ok (.goto 20, 3) := dk_167 0 20 (dk_at dksX0_ofGroup_0 9 rfl rfl)
theorem dX0_ofGroup_12 : decode cX0_ofGroup 12 = .ok (.aload_n 0, 1) := dk_42 (dk_at dksX0_ofGroup_0 12 rfl rfl)
theorem dX0_ofGroup_13 : decode cX0_ofGroup 13 = .ok (.getfield 35, 3) := dk_180 0 35 (dk_at dksX0_ofGroup_0 13 rfl rfl)
theorem dX0_ofGroup_16 : decode cX0_ofGroup 16 = .ok (.iload_n 1, 1) := dk_27 (dk_at dksX0_ofGroup_0 16 rfl rfl)
theorem dX0_ofGroup_17 : decode cX0_ofGroup 17 = .ok (.invokeinterface 144 2, 5) := by decide +kernel
theorem dX0_ofGroup_22 : decode cX0_ofGroup 22 = .ok (.checkcast 126, 3) := dk_192 0 126 (dk_at dksX0_ofGroup_1 0 rfl rfl)
theorem dX0_ofGroup_25 : decode cX0_ofGroup 25 = .ok (.iload_n 2, 1) := dk_28 (dk_at dksX0_ofGroup_1 3 rfl rfl)
theorem dX0_ofGroup_26 : decode cX0_ofGroup 26 = .ok (.invokevirtual 148, 3) := dk_182 0 148 (dk_at dksX0_ofGroup_1 4 rfl rfl)
theorem dX0_ofGroup_29 : decode cX0_ofGroup 29 = .ok (.ireturn, 1) := dk_172 (dk_at dksX0_ofGroup_1 7 rfl rfl)
abbrev cX0_noGroup : ByteArray := prog_1_method_12_code
def yX0_noGroup : MethodName := ⟨RX0, "noGroup", "(I)Z"⟩
def dkwX0_noGroup_1 : List UInt8 := [167, 0, 4, 3, 172]
abbrev dktX0_noGroup_1 : List UInt8 := dkwX0_noGroup_1 ++ []
def dkwX0_noGroup_0 : List UInt8 := [27, 133, 9, 42, 180, 0, 35, 185, 0, 118, 1, 0, 4, 100, 133, 184, 0, 81, 154, 0, 7, 4]
abbrev dktX0_noGroup_0 : List UInt8 := dkwX0_noGroup_0 ++ dktX0_noGroup_1
theorem dksX0_noGroup_0 : cX0_noGroup.data.toList.drop 0 = dktX0_noGroup_0 := by decide +kernel
theorem dksX0_noGroup_1 : cX0_noGroup.data.toList.drop 22 = dktX0_noGroup_1 := dk_seg dksX0_noGroup_0 22 rfl rfl
theorem dX0_noGroup_0 : decode cX0_noGroup 0 = .ok (.iload_n 1, 1) := dk_27 (dk_at dksX0_noGroup_0 0 rfl rfl)
theorem dX0_noGroup_1 : decode cX0_noGroup 1 = .ok (.i2l, 1) := dk_133 (dk_at dksX0_noGroup_0 1 rfl rfl)
theorem dX0_noGroup_2 : decode cX0_noGroup 2 = .ok (.lconst 0, 1) := dk_9 (dk_at dksX0_noGroup_0 2 rfl rfl)
theorem dX0_noGroup_3 : decode cX0_noGroup 3 = .ok (.aload_n 0, 1) := dk_42 (dk_at dksX0_noGroup_0 3 rfl rfl)
theorem dX0_noGroup_4 : decode cX0_noGroup 4 = .ok (.getfield 35, 3) := dk_180 0 35 (dk_at dksX0_noGroup_0 4 rfl rfl)
theorem dX0_noGroup_7 : decode cX0_noGroup 7 = .ok (.invokeinterface 118 1, 5) := by decide +kernel
theorem dX0_noGroup_12 : decode cX0_noGroup 12 = .ok (.iconst 1, 1) := dk_4 (dk_at dksX0_noGroup_0 12 rfl rfl)
theorem dX0_noGroup_13 : decode cX0_noGroup 13 = .ok (.isub, 1) := dk_100 (dk_at dksX0_noGroup_0 13 rfl rfl)
theorem dX0_noGroup_14 : decode cX0_noGroup 14 = .ok (.i2l, 1) := dk_133 (dk_at dksX0_noGroup_0 14 rfl rfl)
theorem dX0_noGroup_15 : decode cX0_noGroup 15 = .ok (.invokestatic 81, 3) := dk_184 0 81 (dk_at dksX0_noGroup_0 15 rfl rfl)
theorem dX0_noGroup_18 : decode cX0_noGroup 18 = .ok (.ifCond .ne 7, 3) := dk_154 0 7 (dk_at dksX0_noGroup_0 18 rfl rfl)
theorem dX0_noGroup_21 : decode cX0_noGroup 21 = .ok (.iconst 1, 1) := dk_4 (dk_at dksX0_noGroup_0 21 rfl rfl)
theorem dX0_noGroup_22 : decode cX0_noGroup 22 = .ok (.goto 4, 3) := dk_167 0 4 (dk_at dksX0_noGroup_1 0 rfl rfl)
theorem dX0_noGroup_25 : decode cX0_noGroup 25 = .ok (.iconst 0, 1) := dk_3 (dk_at dksX0_noGroup_1 3 rfl rfl)
theorem dX0_noGroup_26 : decode cX0_noGroup 26 = .ok (.ireturn, 1) := dk_172 (dk_at dksX0_noGroup_1 4 rfl rfl)
abbrev cX0_day : ByteArray := prog_1_method_33_code
def yX0_day : MethodName := ⟨RX0, "day", "(II)I"⟩
def dkwX0_day_5 : List UInt8 := [192, 0, 126, 180, 0, 189, 100, 172, 16, 254, 172]
abbrev dktX0_day_5 : List UInt8 := dkwX0_day_5 ++ []
def dkwX0_day_4 : List UInt8 := [180, 0, 48, 27, 46, 167, 0, 9, 42, 180, 0, 54, 27, 46, 42, 180, 0, 35, 27, 185, 0, 144, 2, 0]
abbrev dktX0_day_4 : List UInt8 := dkwX0_day_4 ++ dktX0_day_5
def dkwX0_day_3 : List UInt8 := [180, 0, 51, 27, 46, 172, 42, 27, 182, 0, 237, 172, 42, 180, 0, 42, 27, 46, 154, 0, 12, 42]
abbrev dktX0_day_3 : List UInt8 := dkwX0_day_3 ++ dktX0_day_4
def dkwX0_day_2 : List UInt8 := [42, 180, 0, 42, 27, 46, 172, 42, 180, 0, 45, 27, 46, 172, 42, 180, 0, 48, 27, 46, 172, 42]
abbrev dktX0_day_2 : List UInt8 := dkwX0_day_2 ++ dktX0_day_3
def dkwX0_day_1 : List UInt8 := [170, 0, 0, 0, 0, 0, 0, 116, 0, 0, 0, 0, 0, 0, 0, 5, 0, 0, 0, 40, 0, 0, 0, 47, 0, 0, 0, 54, 0, 0, 0, 61, 0, 0, 0, 68, 0, 0, 0, 74]
abbrev dktX0_day_1 : List UInt8 := dkwX0_day_1 ++ dktX0_day_2
def dkwX0_day_0 : List UInt8 := [42, 27, 182, 0, 141, 153, 0, 5, 2, 172, 42, 17, 1, 143, 16, 247, 182, 0, 234, 28]
abbrev dktX0_day_0 : List UInt8 := dkwX0_day_0 ++ dktX0_day_1
theorem dksX0_day_0 : cX0_day.data.toList.drop 0 = dktX0_day_0 := by decide +kernel
theorem dksX0_day_1 : cX0_day.data.toList.drop 20 = dktX0_day_1 := dk_seg dksX0_day_0 20 rfl rfl
theorem dksX0_day_2 : cX0_day.data.toList.drop 60 = dktX0_day_2 := dk_seg dksX0_day_1 40 rfl rfl
theorem dksX0_day_3 : cX0_day.data.toList.drop 82 = dktX0_day_3 := dk_seg dksX0_day_2 22 rfl rfl
theorem dksX0_day_4 : cX0_day.data.toList.drop 104 = dktX0_day_4 := dk_seg dksX0_day_3 22 rfl rfl
theorem dksX0_day_5 : cX0_day.data.toList.drop 128 = dktX0_day_5 := dk_seg dksX0_day_4 24 rfl rfl
theorem dX0_day_0 : decode cX0_day 0 = .ok (.aload_n 0, 1) := dk_42 (dk_at dksX0_day_0 0 rfl rfl)
theorem dX0_day_1 : decode cX0_day 1 = .ok (.iload_n 1, 1) := dk_27 (dk_at dksX0_day_0 1 rfl rfl)
theorem dX0_day_2 : decode cX0_day 2 = .ok (.invokevirtual 141, 3) := dk_182 0 141 (dk_at dksX0_day_0 2 rfl rfl)
theorem dX0_day_5 : decode cX0_day 5 = .ok (.ifCond .eq 5, 3) := dk_153 0 5 (dk_at dksX0_day_0 5 rfl rfl)
theorem dX0_day_8 : decode cX0_day 8 = .ok (.iconst (-1), 1) := dk_2 (dk_at dksX0_day_0 8 rfl rfl)
theorem dX0_day_9 : decode cX0_day 9 = .ok (.ireturn, 1) := dk_172 (dk_at dksX0_day_0 9 rfl rfl)
theorem dX0_day_10 : decode cX0_day 10 = .ok (.aload_n 0, 1) := dk_42 (dk_at dksX0_day_0 10 rfl rfl)
theorem dX0_day_11 : decode cX0_day 11 = .ok (.sipush 399, 3) := dk_17 1 143 (dk_at dksX0_day_0 11 rfl rfl)
theorem dX0_day_14 : decode cX0_day 14 = .ok (.bipush (-9), 2) := dk_16 247 (dk_at dksX0_day_0 14 rfl rfl)
theorem dX0_day_16 : decode cX0_day 16 = .ok (.invokevirtual 234, 3) := dk_182 0 234 (dk_at dksX0_day_0 16 rfl rfl)
theorem dX0_day_19 : decode cX0_day 19 = .ok (.iload_n 2, 1) := dk_28 (dk_at dksX0_day_0 19 rfl rfl)
theorem dX0_day_20 : decode cX0_day 20 = .ok (.tableswitch 116 0 5 #[40, 47, 54, 61, 68, 74], 40) := by decide +kernel
theorem dX0_day_60 : decode cX0_day 60 = .ok (.aload_n 0, 1) := dk_42 (dk_at dksX0_day_2 0 rfl rfl)
theorem dX0_day_61 : decode cX0_day 61 = .ok (.getfield 42, 3) := dk_180 0 42 (dk_at dksX0_day_2 1 rfl rfl)
theorem dX0_day_64 : decode cX0_day 64 = .ok (.iload_n 1, 1) := dk_27 (dk_at dksX0_day_2 4 rfl rfl)
theorem dX0_day_65 : decode cX0_day 65 = .ok (.iaload, 1) := dk_46 (dk_at dksX0_day_2 5 rfl rfl)
theorem dX0_day_66 : decode cX0_day 66 = .ok (.ireturn, 1) := dk_172 (dk_at dksX0_day_2 6 rfl rfl)
theorem dX0_day_67 : decode cX0_day 67 = .ok (.aload_n 0, 1) := dk_42 (dk_at dksX0_day_2 7 rfl rfl)
theorem dX0_day_68 : decode cX0_day 68 = .ok (.getfield 45, 3) := dk_180 0 45 (dk_at dksX0_day_2 8 rfl rfl)
theorem dX0_day_71 : decode cX0_day 71 = .ok (.iload_n 1, 1) := dk_27 (dk_at dksX0_day_2 11 rfl rfl)
theorem dX0_day_72 : decode cX0_day 72 = .ok (.iaload, 1) := dk_46 (dk_at dksX0_day_2 12 rfl rfl)
theorem dX0_day_73 : decode cX0_day 73 = .ok (.ireturn, 1) := dk_172 (dk_at dksX0_day_2 13 rfl rfl)
theorem dX0_day_74 : decode cX0_day 74 = .ok (.aload_n 0, 1) := dk_42 (dk_at dksX0_day_2 14 rfl rfl)
theorem dX0_day_75 : decode cX0_day 75 = .ok (.getfield 48, 3) := dk_180 0 48 (dk_at dksX0_day_2 15 rfl rfl)
theorem dX0_day_78 : decode cX0_day 78 = .ok (.iload_n 1, 1) := dk_27 (dk_at dksX0_day_2 18 rfl rfl)
theorem dX0_day_79 : decode cX0_day 79 = .ok (.iaload, 1) := dk_46 (dk_at dksX0_day_2 19 rfl rfl)
theorem dX0_day_80 : decode cX0_day 80 = .ok (.ireturn, 1) := dk_172 (dk_at dksX0_day_2 20 rfl rfl)
theorem dX0_day_81 : decode cX0_day 81 = .ok (.aload_n 0, 1) := dk_42 (dk_at dksX0_day_2 21 rfl rfl)
theorem dX0_day_82 : decode cX0_day 82 = .ok (.getfield 51, 3) := dk_180 0 51 (dk_at dksX0_day_3 0 rfl rfl)
theorem dX0_day_85 : decode cX0_day 85 = .ok (.iload_n 1, 1) := dk_27 (dk_at dksX0_day_3 3 rfl rfl)
theorem dX0_day_86 : decode cX0_day 86 = .ok (.iaload, 1) := dk_46 (dk_at dksX0_day_3 4 rfl rfl)
theorem dX0_day_87 : decode cX0_day 87 = .ok (.ireturn, 1) := dk_172 (dk_at dksX0_day_3 5 rfl rfl)
theorem dX0_day_88 : decode cX0_day 88 = .ok (.aload_n 0, 1) := dk_42 (dk_at dksX0_day_3 6 rfl rfl)
theorem dX0_day_89 : decode cX0_day 89 = .ok (.iload_n 1, 1) := dk_27 (dk_at dksX0_day_3 7 rfl rfl)
theorem dX0_day_90 : decode cX0_day 90 = .ok (.invokevirtual 237, 3) := dk_182 0 237 (dk_at dksX0_day_3 8 rfl rfl)
theorem dX0_day_93 : decode cX0_day 93 = .ok (.ireturn, 1) := dk_172 (dk_at dksX0_day_3 11 rfl rfl)
theorem dX0_day_94 : decode cX0_day 94 = .ok (.aload_n 0, 1) := dk_42 (dk_at dksX0_day_3 12 rfl rfl)
theorem dX0_day_95 : decode cX0_day 95 = .ok (.getfield 42, 3) := dk_180 0 42 (dk_at dksX0_day_3 13 rfl rfl)
theorem dX0_day_98 : decode cX0_day 98 = .ok (.iload_n 1, 1) := dk_27 (dk_at dksX0_day_3 16 rfl rfl)
theorem dX0_day_99 : decode cX0_day 99 = .ok (.iaload, 1) := dk_46 (dk_at dksX0_day_3 17 rfl rfl)
theorem dX0_day_100 : decode cX0_day 100 = .ok (.ifCond .ne 12, 3) := dk_154 0 12 (dk_at dksX0_day_3 18 rfl rfl)
theorem dX0_day_103 : decode cX0_day 103 = .ok (.aload_n 0, 1) := dk_42 (dk_at dksX0_day_3 21 rfl rfl)
theorem dX0_day_104 : decode cX0_day 104 = .ok (.getfield 48, 3) := dk_180 0 48 (dk_at dksX0_day_4 0 rfl rfl)
theorem dX0_day_107 : decode cX0_day 107 = .ok (.iload_n 1, 1) := dk_27 (dk_at dksX0_day_4 3 rfl rfl)
theorem dX0_day_108 : decode cX0_day 108 = .ok (.iaload, 1) := dk_46 (dk_at dksX0_day_4 4 rfl rfl)
theorem dX0_day_109 : decode cX0_day 109 = .ok (.goto 9, 3) := dk_167 0 9 (dk_at dksX0_day_4 5 rfl rfl)
theorem dX0_day_112 : decode cX0_day 112 = .ok (.aload_n 0, 1) := dk_42 (dk_at dksX0_day_4 8 rfl rfl)
theorem dX0_day_113 : decode cX0_day 113 = .ok (.getfield 54, 3) := dk_180 0 54 (dk_at dksX0_day_4 9 rfl rfl)
theorem dX0_day_116 : decode cX0_day 116 = .ok (.iload_n 1, 1) := dk_27 (dk_at dksX0_day_4 12 rfl rfl)
theorem dX0_day_117 : decode cX0_day 117 = .ok (.iaload, 1) := dk_46 (dk_at dksX0_day_4 13 rfl rfl)
theorem dX0_day_118 : decode cX0_day 118 = .ok (.aload_n 0, 1) := dk_42 (dk_at dksX0_day_4 14 rfl rfl)
theorem dX0_day_119 : decode cX0_day 119 = .ok (.getfield 35, 3) := dk_180 0 35 (dk_at dksX0_day_4 15 rfl rfl)
theorem dX0_day_122 : decode cX0_day 122 = .ok (.iload_n 1, 1) := dk_27 (dk_at dksX0_day_4 18 rfl rfl)
theorem dX0_day_123 : decode cX0_day 123 = .ok (.invokeinterface 144 2, 5) := by decide +kernel
theorem dX0_day_128 : decode cX0_day 128 = .ok (.checkcast 126, 3) := dk_192 0 126 (dk_at dksX0_day_5 0 rfl rfl)
theorem dX0_day_131 : decode cX0_day 131 = .ok (.getfield 189, 3) := dk_180 0 189 (dk_at dksX0_day_5 3 rfl rfl)
theorem dX0_day_134 : decode cX0_day 134 = .ok (.isub, 1) := dk_100 (dk_at dksX0_day_5 6 rfl rfl)
theorem dX0_day_135 : decode cX0_day 135 = .ok (.ireturn, 1) := dk_172 (dk_at dksX0_day_5 7 rfl rfl)
theorem dX0_day_136 : decode cX0_day 136 = .ok (.bipush (-2), 2) := dk_16 254 (dk_at dksX0_day_5 8 rfl rfl)
theorem dX0_day_138 : decode cX0_day 138 = .ok (.ireturn, 1) := dk_172 (dk_at dksX0_day_5 10 rfl rfl)
abbrev cX0_goTo : ByteArray := prog_1_method_30_code
def yX0_goTo : MethodName := ⟨RX0, "goTo", "(II)V"⟩
def dkwX0_goTo_0 : List UInt8 := [42, 28, 182, 0, 225, 3, 62, 29, 27, 163, 0, 14, 42, 29, 182, 0, 228, 132, 3, 1, 167, 255, 243, 177]
abbrev dktX0_goTo_0 : List UInt8 := dkwX0_goTo_0 ++ []
theorem dksX0_goTo_0 : cX0_goTo.data.toList.drop 0 = dktX0_goTo_0 := by decide +kernel
theorem dX0_goTo_0 : decode cX0_goTo 0 = .ok (.aload_n 0, 1) := dk_42 (dk_at dksX0_goTo_0 0 rfl rfl)
theorem dX0_goTo_1 : decode cX0_goTo 1 = .ok (.iload_n 2, 1) := dk_28 (dk_at dksX0_goTo_0 1 rfl rfl)
theorem dX0_goTo_2 : decode cX0_goTo 2 = .ok (.invokevirtual 225, 3) := dk_182 0 225 (dk_at dksX0_goTo_0 2 rfl rfl)
theorem dX0_goTo_5 : decode cX0_goTo 5 = .ok (.iconst 0, 1) := dk_3 (dk_at dksX0_goTo_0 5 rfl rfl)
theorem dX0_goTo_6 : decode cX0_goTo 6 = .ok (.istore_n 3, 1) := dk_62 (dk_at dksX0_goTo_0 6 rfl rfl)
theorem dX0_goTo_7 : decode cX0_goTo 7 = .ok (.iload_n 3, 1) := dk_29 (dk_at dksX0_goTo_0 7 rfl rfl)
theorem dX0_goTo_8 : decode cX0_goTo 8 = .ok (.iload_n 1, 1) := dk_27 (dk_at dksX0_goTo_0 8 rfl rfl)
theorem dX0_goTo_9 : decode cX0_goTo 9 = .ok (.if_icmp .gt 14, 3) := dk_163 0 14 (dk_at dksX0_goTo_0 9 rfl rfl)
theorem dX0_goTo_12 : decode cX0_goTo 12 = .ok (.aload_n 0, 1) := dk_42 (dk_at dksX0_goTo_0 12 rfl rfl)
theorem dX0_goTo_13 : decode cX0_goTo 13 = .ok (.iload_n 3, 1) := dk_29 (dk_at dksX0_goTo_0 13 rfl rfl)
theorem dX0_goTo_14 : decode cX0_goTo 14 = .ok (.invokevirtual 228, 3) := dk_182 0 228 (dk_at dksX0_goTo_0 14 rfl rfl)
theorem dX0_goTo_17 : decode cX0_goTo 17 = .ok (.iinc 3 1, 3) := dk_132 3 1 (dk_at dksX0_goTo_0 17 rfl rfl)
theorem dX0_goTo_20 : decode cX0_goTo 20 = .ok (.goto (-13), 3) := dk_167 255 243 (dk_at dksX0_goTo_0 20 rfl rfl)
theorem dX0_goTo_23 : decode cX0_goTo 23 = .ok (.return_, 1) := dk_177 (dk_at dksX0_goTo_0 23 rfl rfl)
abbrev cX0_beginDay : ByteArray := prog_1_method_28_code
def yX0_beginDay : MethodName := ⟨RX0, "beginDay", "(I)V"⟩
def dkwX0_beginDay_3 : List UInt8 := [132, 2, 1, 167, 255, 200, 177]
abbrev dktX0_beginDay_3 : List UInt8 := dkwX0_beginDay_3 ++ []
def dkwX0_beginDay_2 : List UInt8 := [180, 0, 48, 28, 16, 247, 79, 42, 180, 0, 51, 28, 16, 247, 79, 42, 180, 0, 54, 28, 3, 79]
abbrev dktX0_beginDay_2 : List UInt8 := dkwX0_beginDay_2 ++ dktX0_beginDay_3
def dkwX0_beginDay_1 : List UInt8 := [180, 0, 42, 28, 28, 27, 160, 0, 7, 5, 167, 0, 4, 2, 79, 42, 180, 0, 45, 28, 16, 247, 79, 42]
abbrev dktX0_beginDay_1 : List UInt8 := dkwX0_beginDay_1 ++ dktX0_beginDay_2
def dkwX0_beginDay_0 : List UInt8 := [42, 180, 0, 39, 16, 247, 184, 0, 209, 42, 3, 181, 0, 152, 3, 61, 28, 16, 8, 162, 0, 56, 42]
abbrev dktX0_beginDay_0 : List UInt8 := dkwX0_beginDay_0 ++ dktX0_beginDay_1
theorem dksX0_beginDay_0 : cX0_beginDay.data.toList.drop 0 = dktX0_beginDay_0 := by decide +kernel
theorem dksX0_beginDay_1 : cX0_beginDay.data.toList.drop 23 = dktX0_beginDay_1 := dk_seg dksX0_beginDay_0 23 rfl rfl
theorem dksX0_beginDay_2 : cX0_beginDay.data.toList.drop 47 = dktX0_beginDay_2 := dk_seg dksX0_beginDay_1 24 rfl rfl
theorem dksX0_beginDay_3 : cX0_beginDay.data.toList.drop 69 = dktX0_beginDay_3 := dk_seg dksX0_beginDay_2 22 rfl rfl
theorem dX0_beginDay_0 : decode cX0_beginDay 0 = .ok (.aload_n 0, 1) := dk_42 (dk_at dksX0_beginDay_0 0 rfl rfl)
theorem dX0_beginDay_1 : decode cX0_beginDay 1 = .ok (.getfield 39, 3) := dk_180 0 39 (dk_at dksX0_beginDay_0 1 rfl rfl)
theorem dX0_beginDay_4 : decode cX0_beginDay 4 = .ok (.bipush (-9), 2) := dk_16 247 (dk_at dksX0_beginDay_0 4 rfl rfl)
theorem dX0_beginDay_6 : decode cX0_beginDay 6 = .ok (.invokestatic 209, 3) := dk_184 0 209 (dk_at dksX0_beginDay_0 6 rfl rfl)
theorem dX0_beginDay_9 : decode cX0_beginDay 9 = .ok (.aload_n 0, 1) := dk_42 (dk_at dksX0_beginDay_0 9 rfl rfl)
theorem dX0_beginDay_10 : decode cX0_beginDay 10 = .ok (.iconst 0, 1) := dk_3 (dk_at dksX0_beginDay_0 10 rfl rfl)
theorem dX0_beginDay_11 : decode cX0_beginDay 11 = .ok (.putfield 152, 3) := dk_181 0 152 (dk_at dksX0_beginDay_0 11 rfl rfl)
theorem dX0_beginDay_14 : decode cX0_beginDay 14 = .ok (.iconst 0, 1) := dk_3 (dk_at dksX0_beginDay_0 14 rfl rfl)
theorem dX0_beginDay_15 : decode cX0_beginDay 15 = .ok (.istore_n 2, 1) := dk_61 (dk_at dksX0_beginDay_0 15 rfl rfl)
theorem dX0_beginDay_16 : decode cX0_beginDay 16 = .ok (.iload_n 2, 1) := dk_28 (dk_at dksX0_beginDay_0 16 rfl rfl)
theorem dX0_beginDay_17 : decode cX0_beginDay 17 = .ok (.bipush 8, 2) := dk_16 8 (dk_at dksX0_beginDay_0 17 rfl rfl)
theorem dX0_beginDay_19 : decode cX0_beginDay 19 = .ok (.if_icmp .ge 56, 3) := dk_162 0 56 (dk_at dksX0_beginDay_0 19 rfl rfl)
theorem dX0_beginDay_22 : decode cX0_beginDay 22 = .ok (.aload_n 0, 1) := dk_42 (dk_at dksX0_beginDay_0 22 rfl rfl)
theorem dX0_beginDay_23 : decode cX0_beginDay 23 = .ok (.getfield 42, 3) := dk_180 0 42 (dk_at dksX0_beginDay_1 0 rfl rfl)
theorem dX0_beginDay_26 : decode cX0_beginDay 26 = .ok (.iload_n 2, 1) := dk_28 (dk_at dksX0_beginDay_1 3 rfl rfl)
theorem dX0_beginDay_27 : decode cX0_beginDay 27 = .ok (.iload_n 2, 1) := dk_28 (dk_at dksX0_beginDay_1 4 rfl rfl)
theorem dX0_beginDay_28 : decode cX0_beginDay 28 = .ok (.iload_n 1, 1) := dk_27 (dk_at dksX0_beginDay_1 5 rfl rfl)
theorem dX0_beginDay_29 : decode cX0_beginDay 29 = .ok (.if_icmp .ne 7, 3) := dk_160 0 7 (dk_at dksX0_beginDay_1 6 rfl rfl)
theorem dX0_beginDay_32 : decode cX0_beginDay 32 = .ok (.iconst 2, 1) := dk_5 (dk_at dksX0_beginDay_1 9 rfl rfl)
theorem dX0_beginDay_33 : decode cX0_beginDay 33 = .ok (.goto 4, 3) := dk_167 0 4 (dk_at dksX0_beginDay_1 10 rfl rfl)
theorem dX0_beginDay_36 : decode cX0_beginDay 36 = .ok (.iconst (-1), 1) := dk_2 (dk_at dksX0_beginDay_1 13 rfl rfl)
theorem dX0_beginDay_37 : decode cX0_beginDay 37 = .ok (.iastore, 1) := dk_79 (dk_at dksX0_beginDay_1 14 rfl rfl)
theorem dX0_beginDay_38 : decode cX0_beginDay 38 = .ok (.aload_n 0, 1) := dk_42 (dk_at dksX0_beginDay_1 15 rfl rfl)
theorem dX0_beginDay_39 : decode cX0_beginDay 39 = .ok (.getfield 45, 3) := dk_180 0 45 (dk_at dksX0_beginDay_1 16 rfl rfl)
theorem dX0_beginDay_42 : decode cX0_beginDay 42 = .ok (.iload_n 2, 1) := dk_28 (dk_at dksX0_beginDay_1 19 rfl rfl)
theorem dX0_beginDay_43 : decode cX0_beginDay 43 = .ok (.bipush (-9), 2) := dk_16 247 (dk_at dksX0_beginDay_1 20 rfl rfl)
theorem dX0_beginDay_45 : decode cX0_beginDay 45 = .ok (.iastore, 1) := dk_79 (dk_at dksX0_beginDay_1 22 rfl rfl)
theorem dX0_beginDay_46 : decode cX0_beginDay 46 = .ok (.aload_n 0, 1) := dk_42 (dk_at dksX0_beginDay_1 23 rfl rfl)
theorem dX0_beginDay_47 : decode cX0_beginDay 47 = .ok (.getfield 48, 3) := dk_180 0 48 (dk_at dksX0_beginDay_2 0 rfl rfl)
theorem dX0_beginDay_50 : decode cX0_beginDay 50 = .ok (.iload_n 2, 1) := dk_28 (dk_at dksX0_beginDay_2 3 rfl rfl)
theorem dX0_beginDay_51 : decode cX0_beginDay 51 = .ok (.bipush (-9), 2) := dk_16 247 (dk_at dksX0_beginDay_2 4 rfl rfl)
theorem dX0_beginDay_53 : decode cX0_beginDay 53 = .ok (.iastore, 1) := dk_79 (dk_at dksX0_beginDay_2 6 rfl rfl)
theorem dX0_beginDay_54 : decode cX0_beginDay 54 = .ok (.aload_n 0, 1) := dk_42 (dk_at dksX0_beginDay_2 7 rfl rfl)
theorem dX0_beginDay_55 : decode cX0_beginDay 55 = .ok (.getfield 51, 3) := dk_180 0 51 (dk_at dksX0_beginDay_2 8 rfl rfl)
theorem dX0_beginDay_58 : decode cX0_beginDay 58 = .ok (.iload_n 2, 1) := dk_28 (dk_at dksX0_beginDay_2 11 rfl rfl)
theorem dX0_beginDay_59 : decode cX0_beginDay 59 = .ok (.bipush (-9), 2) := dk_16 247 (dk_at dksX0_beginDay_2 12 rfl rfl)
theorem dX0_beginDay_61 : decode cX0_beginDay 61 = .ok (.iastore, 1) := dk_79 (dk_at dksX0_beginDay_2 14 rfl rfl)
theorem dX0_beginDay_62 : decode cX0_beginDay 62 = .ok (.aload_n 0, 1) := dk_42 (dk_at dksX0_beginDay_2 15 rfl rfl)
theorem dX0_beginDay_63 : decode cX0_beginDay 63 = .ok (.getfield 54, 3) := dk_180 0 54 (dk_at dksX0_beginDay_2 16 rfl rfl)
theorem dX0_beginDay_66 : decode cX0_beginDay 66 = .ok (.iload_n 2, 1) := dk_28 (dk_at dksX0_beginDay_2 19 rfl rfl)
theorem dX0_beginDay_67 : decode cX0_beginDay 67 = .ok (.iconst 0, 1) := dk_3 (dk_at dksX0_beginDay_2 20 rfl rfl)
theorem dX0_beginDay_68 : decode cX0_beginDay 68 = .ok (.iastore, 1) := dk_79 (dk_at dksX0_beginDay_2 21 rfl rfl)
theorem dX0_beginDay_69 : decode cX0_beginDay 69 = .ok (.iinc 2 1, 3) := dk_132 2 1 (dk_at dksX0_beginDay_3 0 rfl rfl)
theorem dX0_beginDay_72 : decode cX0_beginDay 72 = .ok (.goto (-56), 3) := dk_167 255 200 (dk_at dksX0_beginDay_3 3 rfl rfl)
theorem dX0_beginDay_75 : decode cX0_beginDay 75 = .ok (.return_, 1) := dk_177 (dk_at dksX0_beginDay_3 6 rfl rfl)
abbrev cX0_goMinute : ByteArray := prog_1_method_29_code
def yX0_goMinute : MethodName := ⟨RX0, "goMinute", "(I)V"⟩
def dkwX0_goMinute_3 : List UInt8 := [182, 0, 222, 177]
abbrev dktX0_goMinute_3 : List UInt8 := dkwX0_goMinute_3 ++ []
def dkwX0_goMinute_2 : List UInt8 := [167, 255, 214, 27, 42, 180, 0, 21, 160, 0, 8, 42, 27, 182, 0, 215, 42, 27, 182, 0, 219, 42, 27]
abbrev dktX0_goMinute_2 : List UInt8 := dkwX0_goMinute_2 ++ dktX0_goMinute_3
def dkwX0_goMinute_1 : List UInt8 := [160, 0, 19, 42, 180, 0, 51, 28, 46, 27, 160, 0, 9, 42, 28, 27, 182, 0, 185, 132, 2, 1]
abbrev dktX0_goMinute_1 : List UInt8 := dkwX0_goMinute_1 ++ dktX0_goMinute_2
def dkwX0_goMinute_0 : List UInt8 := [3, 61, 28, 42, 180, 0, 35, 185, 0, 118, 1, 0, 162, 0, 35, 42, 180, 0, 42, 28, 46, 6]
abbrev dktX0_goMinute_0 : List UInt8 := dkwX0_goMinute_0 ++ dktX0_goMinute_1
theorem dksX0_goMinute_0 : cX0_goMinute.data.toList.drop 0 = dktX0_goMinute_0 := by decide +kernel
theorem dksX0_goMinute_1 : cX0_goMinute.data.toList.drop 22 = dktX0_goMinute_1 := dk_seg dksX0_goMinute_0 22 rfl rfl
theorem dksX0_goMinute_2 : cX0_goMinute.data.toList.drop 44 = dktX0_goMinute_2 := dk_seg dksX0_goMinute_1 22 rfl rfl
theorem dksX0_goMinute_3 : cX0_goMinute.data.toList.drop 67 = dktX0_goMinute_3 := dk_seg dksX0_goMinute_2 23 rfl rfl
theorem dX0_goMinute_0 : decode cX0_goMinute 0 = .ok (.iconst 0, 1) := dk_3 (dk_at dksX0_goMinute_0 0 rfl rfl)
theorem dX0_goMinute_1 : decode cX0_goMinute 1 = .ok (.istore_n 2, 1) := dk_61 (dk_at dksX0_goMinute_0 1 rfl rfl)
theorem dX0_goMinute_2 : decode cX0_goMinute 2 = .ok (.iload_n 2, 1) := dk_28 (dk_at dksX0_goMinute_0 2 rfl rfl)
theorem dX0_goMinute_3 : decode cX0_goMinute 3 = .ok (.aload_n 0, 1) := dk_42 (dk_at dksX0_goMinute_0 3 rfl rfl)
theorem dX0_goMinute_4 : decode cX0_goMinute 4 = .ok (.getfield 35, 3) := dk_180 0 35 (dk_at dksX0_goMinute_0 4 rfl rfl)
theorem dX0_goMinute_7 : decode cX0_goMinute 7 = .ok (.invokeinterface 118 1, 5) := by decide +kernel
theorem dX0_goMinute_12 : decode cX0_goMinute 12 = .ok (.if_icmp .ge 35, 3) := dk_162 0 35 (dk_at dksX0_goMinute_0 12 rfl rfl)
theorem dX0_goMinute_15 : decode cX0_goMinute 15 = .ok (.aload_n 0, 1) := dk_42 (dk_at dksX0_goMinute_0 15 rfl rfl)
theorem dX0_goMinute_16 : decode cX0_goMinute 16 = .ok (.getfield 42, 3) := dk_180 0 42 (dk_at dksX0_goMinute_0 16 rfl rfl)
theorem dX0_goMinute_19 : decode cX0_goMinute 19 = .ok (.iload_n 2, 1) := dk_28 (dk_at dksX0_goMinute_0 19 rfl rfl)
theorem dX0_goMinute_20 : decode cX0_goMinute 20 = .ok (.iaload, 1) := dk_46 (dk_at dksX0_goMinute_0 20 rfl rfl)
theorem dX0_goMinute_21 : decode cX0_goMinute 21 = .ok (.iconst 3, 1) := dk_6 (dk_at dksX0_goMinute_0 21 rfl rfl)
theorem dX0_goMinute_22 : decode cX0_goMinute 22 = .ok (.if_icmp .ne 19, 3) := dk_160 0 19 (dk_at dksX0_goMinute_1 0 rfl rfl)
theorem dX0_goMinute_25 : decode cX0_goMinute 25 = .ok (.aload_n 0, 1) := dk_42 (dk_at dksX0_goMinute_1 3 rfl rfl)
theorem dX0_goMinute_26 : decode cX0_goMinute 26 = .ok (.getfield 51, 3) := dk_180 0 51 (dk_at dksX0_goMinute_1 4 rfl rfl)
theorem dX0_goMinute_29 : decode cX0_goMinute 29 = .ok (.iload_n 2, 1) := dk_28 (dk_at dksX0_goMinute_1 7 rfl rfl)
theorem dX0_goMinute_30 : decode cX0_goMinute 30 = .ok (.iaload, 1) := dk_46 (dk_at dksX0_goMinute_1 8 rfl rfl)
theorem dX0_goMinute_31 : decode cX0_goMinute 31 = .ok (.iload_n 1, 1) := dk_27 (dk_at dksX0_goMinute_1 9 rfl rfl)
theorem dX0_goMinute_32 : decode cX0_goMinute 32 = .ok (.if_icmp .ne 9, 3) := dk_160 0 9 (dk_at dksX0_goMinute_1 10 rfl rfl)
theorem dX0_goMinute_35 : decode cX0_goMinute 35 = .ok (.aload_n 0, 1) := dk_42 (dk_at dksX0_goMinute_1 13 rfl rfl)
theorem dX0_goMinute_36 : decode cX0_goMinute 36 = .ok (.iload_n 2, 1) := dk_28 (dk_at dksX0_goMinute_1 14 rfl rfl)
theorem dX0_goMinute_37 : decode cX0_goMinute 37 = .ok (.iload_n 1, 1) := dk_27 (dk_at dksX0_goMinute_1 15 rfl rfl)
theorem dX0_goMinute_38 : decode cX0_goMinute 38 = .ok (.invokevirtual 185, 3) := dk_182 0 185 (dk_at dksX0_goMinute_1 16 rfl rfl)
theorem dX0_goMinute_41 : decode cX0_goMinute 41 = .ok (.iinc 2 1, 3) := dk_132 2 1 (dk_at dksX0_goMinute_1 19 rfl rfl)
theorem dX0_goMinute_44 : decode cX0_goMinute 44 = .ok (.goto (-42), 3) := dk_167 255 214 (dk_at dksX0_goMinute_2 0 rfl rfl)
theorem dX0_goMinute_47 : decode cX0_goMinute 47 = .ok (.iload_n 1, 1) := dk_27 (dk_at dksX0_goMinute_2 3 rfl rfl)
theorem dX0_goMinute_48 : decode cX0_goMinute 48 = .ok (.aload_n 0, 1) := dk_42 (dk_at dksX0_goMinute_2 4 rfl rfl)
theorem dX0_goMinute_49 : decode cX0_goMinute 49 = .ok (.getfield 21, 3) := dk_180 0 21 (dk_at dksX0_goMinute_2 5 rfl rfl)
theorem dX0_goMinute_52 : decode cX0_goMinute 52 = .ok (.if_icmp .ne 8, 3) := dk_160 0 8 (dk_at dksX0_goMinute_2 8 rfl rfl)
theorem dX0_goMinute_55 : decode cX0_goMinute 55 = .ok (.aload_n 0, 1) := dk_42 (dk_at dksX0_goMinute_2 11 rfl rfl)
theorem dX0_goMinute_56 : decode cX0_goMinute 56 = .ok (.iload_n 1, 1) := dk_27 (dk_at dksX0_goMinute_2 12 rfl rfl)
theorem dX0_goMinute_57 : decode cX0_goMinute 57 = .ok (.invokevirtual 215, 3) := dk_182 0 215 (dk_at dksX0_goMinute_2 13 rfl rfl)
theorem dX0_goMinute_60 : decode cX0_goMinute 60 = .ok (.aload_n 0, 1) := dk_42 (dk_at dksX0_goMinute_2 16 rfl rfl)
theorem dX0_goMinute_61 : decode cX0_goMinute 61 = .ok (.iload_n 1, 1) := dk_27 (dk_at dksX0_goMinute_2 17 rfl rfl)
theorem dX0_goMinute_62 : decode cX0_goMinute 62 = .ok (.invokevirtual 219, 3) := dk_182 0 219 (dk_at dksX0_goMinute_2 18 rfl rfl)
theorem dX0_goMinute_65 : decode cX0_goMinute 65 = .ok (.aload_n 0, 1) := dk_42 (dk_at dksX0_goMinute_2 21 rfl rfl)
theorem dX0_goMinute_66 : decode cX0_goMinute 66 = .ok (.iload_n 1, 1) := dk_27 (dk_at dksX0_goMinute_2 22 rfl rfl)
theorem dX0_goMinute_67 : decode cX0_goMinute 67 = .ok (.invokevirtual 222, 3) := dk_182 0 222 (dk_at dksX0_goMinute_3 0 rfl rfl)
theorem dX0_goMinute_70 : decode cX0_goMinute 70 = .ok (.return_, 1) := dk_177 (dk_at dksX0_goMinute_3 3 rfl rfl)
abbrev cX0_goes : ByteArray := prog_1_method_22_code
def yX0_goes : MethodName := ⟨RX0, "goes", "(II)V"⟩
def dkwX0_goes_2 : List UInt8 := [180, 0, 42, 27, 3, 79, 42, 180, 0, 51, 27, 28, 79, 177]
abbrev dktX0_goes_2 : List UInt8 := dkwX0_goes_2 ++ []
def dkwX0_goes_1 : List UInt8 := [160, 0, 8, 16, 247, 167, 0, 9, 42, 180, 0, 39, 29, 46, 79, 132, 3, 1, 167, 255, 218, 42]
abbrev dktX0_goes_1 : List UInt8 := dkwX0_goes_1 ++ dktX0_goes_2
def dkwX0_goes_0 : List UInt8 := [3, 62, 29, 42, 180, 0, 78, 162, 0, 36, 42, 180, 0, 39, 29, 42, 180, 0, 39, 29, 46, 27]
abbrev dktX0_goes_0 : List UInt8 := dkwX0_goes_0 ++ dktX0_goes_1
theorem dksX0_goes_0 : cX0_goes.data.toList.drop 0 = dktX0_goes_0 := by decide +kernel
theorem dksX0_goes_1 : cX0_goes.data.toList.drop 22 = dktX0_goes_1 := dk_seg dksX0_goes_0 22 rfl rfl
theorem dksX0_goes_2 : cX0_goes.data.toList.drop 44 = dktX0_goes_2 := dk_seg dksX0_goes_1 22 rfl rfl
theorem dX0_goes_0 : decode cX0_goes 0 = .ok (.iconst 0, 1) := dk_3 (dk_at dksX0_goes_0 0 rfl rfl)
theorem dX0_goes_1 : decode cX0_goes 1 = .ok (.istore_n 3, 1) := dk_62 (dk_at dksX0_goes_0 1 rfl rfl)
theorem dX0_goes_2 : decode cX0_goes 2 = .ok (.iload_n 3, 1) := dk_29 (dk_at dksX0_goes_0 2 rfl rfl)
theorem dX0_goes_3 : decode cX0_goes 3 = .ok (.aload_n 0, 1) := dk_42 (dk_at dksX0_goes_0 3 rfl rfl)
theorem dX0_goes_4 : decode cX0_goes 4 = .ok (.getfield 78, 3) := dk_180 0 78 (dk_at dksX0_goes_0 4 rfl rfl)
theorem dX0_goes_7 : decode cX0_goes 7 = .ok (.if_icmp .ge 36, 3) := dk_162 0 36 (dk_at dksX0_goes_0 7 rfl rfl)
theorem dX0_goes_10 : decode cX0_goes 10 = .ok (.aload_n 0, 1) := dk_42 (dk_at dksX0_goes_0 10 rfl rfl)
theorem dX0_goes_11 : decode cX0_goes 11 = .ok (.getfield 39, 3) := dk_180 0 39 (dk_at dksX0_goes_0 11 rfl rfl)
theorem dX0_goes_14 : decode cX0_goes 14 = .ok (.iload_n 3, 1) := dk_29 (dk_at dksX0_goes_0 14 rfl rfl)
theorem dX0_goes_15 : decode cX0_goes 15 = .ok (.aload_n 0, 1) := dk_42 (dk_at dksX0_goes_0 15 rfl rfl)
theorem dX0_goes_16 : decode cX0_goes 16 = .ok (.getfield 39, 3) := dk_180 0 39 (dk_at dksX0_goes_0 16 rfl rfl)
theorem dX0_goes_19 : decode cX0_goes 19 = .ok (.iload_n 3, 1) := dk_29 (dk_at dksX0_goes_0 19 rfl rfl)
theorem dX0_goes_20 : decode cX0_goes 20 = .ok (.iaload, 1) := dk_46 (dk_at dksX0_goes_0 20 rfl rfl)
theorem dX0_goes_21 : decode cX0_goes 21 = .ok (.iload_n 1, 1) := dk_27 (dk_at dksX0_goes_0 21 rfl rfl)
theorem dX0_goes_22 : decode cX0_goes 22 = .ok (.if_icmp .ne 8, 3) := dk_160 0 8 (dk_at dksX0_goes_1 0 rfl rfl)
theorem dX0_goes_25 : decode cX0_goes 25 = .ok (.bipush (-9), 2) := dk_16 247 (dk_at dksX0_goes_1 3 rfl rfl)
theorem dX0_goes_27 : decode cX0_goes 27 = .ok (.goto 9, 3) := dk_167 0 9 (dk_at dksX0_goes_1 5 rfl rfl)
theorem dX0_goes_30 : decode cX0_goes 30 = .ok (.aload_n 0, 1) := dk_42 (dk_at dksX0_goes_1 8 rfl rfl)
theorem dX0_goes_31 : decode cX0_goes 31 = .ok (.getfield 39, 3) := dk_180 0 39 (dk_at dksX0_goes_1 9 rfl rfl)
theorem dX0_goes_34 : decode cX0_goes 34 = .ok (.iload_n 3, 1) := dk_29 (dk_at dksX0_goes_1 12 rfl rfl)
theorem dX0_goes_35 : decode cX0_goes 35 = .ok (.iaload, 1) := dk_46 (dk_at dksX0_goes_1 13 rfl rfl)
theorem dX0_goes_36 : decode cX0_goes 36 = .ok (.iastore, 1) := dk_79 (dk_at dksX0_goes_1 14 rfl rfl)
theorem dX0_goes_37 : decode cX0_goes 37 = .ok (.iinc 3 1, 3) := dk_132 3 1 (dk_at dksX0_goes_1 15 rfl rfl)
theorem dX0_goes_40 : decode cX0_goes 40 = .ok (.goto (-38), 3) := dk_167 255 218 (dk_at dksX0_goes_1 18 rfl rfl)
theorem dX0_goes_43 : decode cX0_goes 43 = .ok (.aload_n 0, 1) := dk_42 (dk_at dksX0_goes_1 21 rfl rfl)
theorem dX0_goes_44 : decode cX0_goes 44 = .ok (.getfield 42, 3) := dk_180 0 42 (dk_at dksX0_goes_2 0 rfl rfl)
theorem dX0_goes_47 : decode cX0_goes 47 = .ok (.iload_n 1, 1) := dk_27 (dk_at dksX0_goes_2 3 rfl rfl)
theorem dX0_goes_48 : decode cX0_goes 48 = .ok (.iconst 0, 1) := dk_3 (dk_at dksX0_goes_2 4 rfl rfl)
theorem dX0_goes_49 : decode cX0_goes 49 = .ok (.iastore, 1) := dk_79 (dk_at dksX0_goes_2 5 rfl rfl)
theorem dX0_goes_50 : decode cX0_goes 50 = .ok (.aload_n 0, 1) := dk_42 (dk_at dksX0_goes_2 6 rfl rfl)
theorem dX0_goes_51 : decode cX0_goes 51 = .ok (.getfield 51, 3) := dk_180 0 51 (dk_at dksX0_goes_2 7 rfl rfl)
theorem dX0_goes_54 : decode cX0_goes 54 = .ok (.iload_n 1, 1) := dk_27 (dk_at dksX0_goes_2 10 rfl rfl)
theorem dX0_goes_55 : decode cX0_goes 55 = .ok (.iload_n 2, 1) := dk_28 (dk_at dksX0_goes_2 11 rfl rfl)
theorem dX0_goes_56 : decode cX0_goes 56 = .ok (.iastore, 1) := dk_79 (dk_at dksX0_goes_2 12 rfl rfl)
theorem dX0_goes_57 : decode cX0_goes 57 = .ok (.return_, 1) := dk_177 (dk_at dksX0_goes_2 13 rfl rfl)
abbrev cX0_beginRain : ByteArray := prog_1_method_23_code
def yX0_beginRain : MethodName := ⟨RX0, "beginRain", "(I)V"⟩
def dkwX0_beginRain_7 : List UInt8 := [167, 255, 205, 177]
abbrev dktX0_beginRain_7 : List UInt8 := dkwX0_beginRain_7 ++ []
def dkwX0_beginRain_6 : List UInt8 := [185, 0, 144, 2, 0, 192, 0, 126, 182, 0, 174, 154, 0, 9, 42, 29, 27, 182, 0, 185, 132, 3, 1]
abbrev dktX0_beginRain_6 : List UInt8 := dkwX0_beginRain_6 ++ dktX0_beginRain_7
def dkwX0_beginRain_5 : List UInt8 := [185, 0, 118, 1, 0, 162, 0, 44, 28, 29, 122, 4, 126, 4, 160, 0, 29, 42, 42, 180, 0, 35, 29]
abbrev dktX0_beginRain_5 : List UInt8 := dkwX0_beginRain_5 ++ dktX0_beginRain_6
def dkwX0_beginRain_4 : List UInt8 := [167, 0, 9, 42, 180, 0, 39, 29, 46, 79, 132, 3, 1, 167, 255, 205, 3, 62, 29, 42, 180, 0, 35]
abbrev dktX0_beginRain_4 : List UInt8 := dkwX0_beginRain_4 ++ dktX0_beginRain_5
def dkwX0_beginRain_3 : List UInt8 := [180, 0, 39, 29, 46, 155, 0, 22, 28, 42, 180, 0, 39, 29, 46, 122, 4, 126, 4, 160, 0, 8, 16, 247]
abbrev dktX0_beginRain_3 : List UInt8 := dkwX0_beginRain_3 ++ dktX0_beginRain_4
def dkwX0_beginRain_2 : List UInt8 := [128, 61, 132, 3, 1, 167, 255, 212, 3, 62, 29, 42, 180, 0, 78, 162, 0, 49, 42, 180, 0, 39, 29, 42]
abbrev dktX0_beginRain_2 : List UInt8 := dkwX0_beginRain_2 ++ dktX0_beginRain_3
def dkwX0_beginRain_1 : List UInt8 := [154, 0, 23, 42, 180, 0, 39, 29, 46, 155, 0, 14, 4, 42, 180, 0, 39, 29, 46, 120, 167, 0, 4, 3]
abbrev dktX0_beginRain_1 : List UInt8 := dkwX0_beginRain_1 ++ dktX0_beginRain_2
def dkwX0_beginRain_0 : List UInt8 := [42, 4, 181, 0, 152, 3, 61, 3, 62, 29, 42, 180, 0, 78, 162, 0, 42, 28, 42, 180, 0, 25, 29, 46]
abbrev dktX0_beginRain_0 : List UInt8 := dkwX0_beginRain_0 ++ dktX0_beginRain_1
theorem dksX0_beginRain_0 : cX0_beginRain.data.toList.drop 0 = dktX0_beginRain_0 := by decide +kernel
theorem dksX0_beginRain_1 : cX0_beginRain.data.toList.drop 24 = dktX0_beginRain_1 := dk_seg dksX0_beginRain_0 24 rfl rfl
theorem dksX0_beginRain_2 : cX0_beginRain.data.toList.drop 48 = dktX0_beginRain_2 := dk_seg dksX0_beginRain_1 24 rfl rfl
theorem dksX0_beginRain_3 : cX0_beginRain.data.toList.drop 72 = dktX0_beginRain_3 := dk_seg dksX0_beginRain_2 24 rfl rfl
theorem dksX0_beginRain_4 : cX0_beginRain.data.toList.drop 96 = dktX0_beginRain_4 := dk_seg dksX0_beginRain_3 24 rfl rfl
theorem dksX0_beginRain_5 : cX0_beginRain.data.toList.drop 119 = dktX0_beginRain_5 := dk_seg dksX0_beginRain_4 23 rfl rfl
theorem dksX0_beginRain_6 : cX0_beginRain.data.toList.drop 142 = dktX0_beginRain_6 := dk_seg dksX0_beginRain_5 23 rfl rfl
theorem dksX0_beginRain_7 : cX0_beginRain.data.toList.drop 165 = dktX0_beginRain_7 := dk_seg dksX0_beginRain_6 23 rfl rfl
theorem dX0_beginRain_0 : decode cX0_beginRain 0 = .ok (.aload_n 0, 1) := dk_42 (dk_at dksX0_beginRain_0 0 rfl rfl)
theorem dX0_beginRain_1 : decode cX0_beginRain 1 = .ok (.iconst 1, 1) := dk_4 (dk_at dksX0_beginRain_0 1 rfl rfl)
theorem dX0_beginRain_2 : decode cX0_beginRain 2 = .ok (.putfield 152, 3) := dk_181 0 152 (dk_at dksX0_beginRain_0 2 rfl rfl)
theorem dX0_beginRain_5 : decode cX0_beginRain 5 = .ok (.iconst 0, 1) := dk_3 (dk_at dksX0_beginRain_0 5 rfl rfl)
theorem dX0_beginRain_6 : decode cX0_beginRain 6 = .ok (.istore_n 2, 1) := dk_61 (dk_at dksX0_beginRain_0 6 rfl rfl)
theorem dX0_beginRain_7 : decode cX0_beginRain 7 = .ok (.iconst 0, 1) := dk_3 (dk_at dksX0_beginRain_0 7 rfl rfl)
theorem dX0_beginRain_8 : decode cX0_beginRain 8 = .ok (.istore_n 3, 1) := dk_62 (dk_at dksX0_beginRain_0 8 rfl rfl)
theorem dX0_beginRain_9 : decode cX0_beginRain 9 = .ok (.iload_n 3, 1) := dk_29 (dk_at dksX0_beginRain_0 9 rfl rfl)
theorem dX0_beginRain_10 : decode cX0_beginRain 10 = .ok (.aload_n 0, 1) := dk_42 (dk_at dksX0_beginRain_0 10 rfl rfl)
theorem dX0_beginRain_11 : decode cX0_beginRain 11 = .ok (.getfield 78, 3) := dk_180 0 78 (dk_at dksX0_beginRain_0 11 rfl rfl)
theorem dX0_beginRain_14 : decode cX0_beginRain 14 = .ok (.if_icmp .ge 42, 3) := dk_162 0 42 (dk_at dksX0_beginRain_0 14 rfl rfl)
theorem dX0_beginRain_17 : decode cX0_beginRain 17 = .ok (.iload_n 2, 1) := dk_28 (dk_at dksX0_beginRain_0 17 rfl rfl)
theorem dX0_beginRain_18 : decode cX0_beginRain 18 = .ok (.aload_n 0, 1) := dk_42 (dk_at dksX0_beginRain_0 18 rfl rfl)
theorem dX0_beginRain_19 : decode cX0_beginRain 19 = .ok (.getfield 25, 3) := dk_180 0 25 (dk_at dksX0_beginRain_0 19 rfl rfl)
theorem dX0_beginRain_22 : decode cX0_beginRain 22 = .ok (.iload_n 3, 1) := dk_29 (dk_at dksX0_beginRain_0 22 rfl rfl)
theorem dX0_beginRain_23 : decode cX0_beginRain 23 = .ok (.iaload, 1) := dk_46 (dk_at dksX0_beginRain_0 23 rfl rfl)
theorem dX0_beginRain_24 : decode cX0_beginRain 24 = .ok (.ifCond .ne 23, 3) := dk_154 0 23 (dk_at dksX0_beginRain_1 0 rfl rfl)
theorem dX0_beginRain_27 : decode cX0_beginRain 27 = .ok (.aload_n 0, 1) := dk_42 (dk_at dksX0_beginRain_1 3 rfl rfl)
theorem dX0_beginRain_28 : decode cX0_beginRain 28 = .ok (.getfield 39, 3) := dk_180 0 39 (dk_at dksX0_beginRain_1 4 rfl rfl)
theorem dX0_beginRain_31 : decode cX0_beginRain 31 = .ok (.iload_n 3, 1) := dk_29 (dk_at dksX0_beginRain_1 7 rfl rfl)
theorem dX0_beginRain_32 : decode cX0_beginRain 32 = .ok (.iaload, 1) := dk_46 (dk_at dksX0_beginRain_1 8 rfl rfl)
theorem dX0_beginRain_33 : decode cX0_beginRain 33 = .ok (.ifCond .lt 14, 3) := dk_155 0 14 (dk_at dksX0_beginRain_1 9 rfl rfl)
theorem dX0_beginRain_36 : decode cX0_beginRain 36 = .ok (.iconst 1, 1) := dk_4 (dk_at dksX0_beginRain_1 12 rfl rfl)
theorem dX0_beginRain_37 : decode cX0_beginRain 37 = .ok (.aload_n 0, 1) := dk_42 (dk_at dksX0_beginRain_1 13 rfl rfl)
theorem dX0_beginRain_38 : decode cX0_beginRain 38 = .ok (.getfield 39, 3) := dk_180 0 39 (dk_at dksX0_beginRain_1 14 rfl rfl)
theorem dX0_beginRain_41 : decode cX0_beginRain 41 = .ok (.iload_n 3, 1) := dk_29 (dk_at dksX0_beginRain_1 17 rfl rfl)
theorem dX0_beginRain_42 : decode cX0_beginRain 42 = .ok (.iaload, 1) := dk_46 (dk_at dksX0_beginRain_1 18 rfl rfl)
theorem dX0_beginRain_43 : decode cX0_beginRain 43 = .ok (.ishl, 1) := dk_120 (dk_at dksX0_beginRain_1 19 rfl rfl)
theorem dX0_beginRain_44 : decode cX0_beginRain 44 = .ok (.goto 4, 3) := dk_167 0 4 (dk_at dksX0_beginRain_1 20 rfl rfl)
theorem dX0_beginRain_47 : decode cX0_beginRain 47 = .ok (.iconst 0, 1) := dk_3 (dk_at dksX0_beginRain_1 23 rfl rfl)
theorem dX0_beginRain_48 : decode cX0_beginRain 48 = .ok (.ior, 1) := dk_128 (dk_at dksX0_beginRain_2 0 rfl rfl)
theorem dX0_beginRain_49 : decode cX0_beginRain 49 = .ok (.istore_n 2, 1) := dk_61 (dk_at dksX0_beginRain_2 1 rfl rfl)
theorem dX0_beginRain_50 : decode cX0_beginRain 50 = .ok (.iinc 3 1, 3) := dk_132 3 1 (dk_at dksX0_beginRain_2 2 rfl rfl)
theorem dX0_beginRain_53 : decode cX0_beginRain 53 = .ok (.goto (-44), 3) := dk_167 255 212 (dk_at dksX0_beginRain_2 5 rfl rfl)
theorem dX0_beginRain_56 : decode cX0_beginRain 56 = .ok (.iconst 0, 1) := dk_3 (dk_at dksX0_beginRain_2 8 rfl rfl)
theorem dX0_beginRain_57 : decode cX0_beginRain 57 = .ok (.istore_n 3, 1) := dk_62 (dk_at dksX0_beginRain_2 9 rfl rfl)
theorem dX0_beginRain_58 : decode cX0_beginRain 58 = .ok (.iload_n 3, 1) := dk_29 (dk_at dksX0_beginRain_2 10 rfl rfl)
theorem dX0_beginRain_59 : decode cX0_beginRain 59 = .ok (.aload_n 0, 1) := dk_42 (dk_at dksX0_beginRain_2 11 rfl rfl)
theorem dX0_beginRain_60 : decode cX0_beginRain 60 = .ok (.getfield 78, 3) := dk_180 0 78 (dk_at dksX0_beginRain_2 12 rfl rfl)
theorem dX0_beginRain_63 : decode cX0_beginRain 63 = .ok (.if_icmp .ge 49, 3) := dk_162 0 49 (dk_at dksX0_beginRain_2 15 rfl rfl)
theorem dX0_beginRain_66 : decode cX0_beginRain 66 = .ok (.aload_n 0, 1) := dk_42 (dk_at dksX0_beginRain_2 18 rfl rfl)
theorem dX0_beginRain_67 : decode cX0_beginRain 67 = .ok (.getfield 39, 3) := dk_180 0 39 (dk_at dksX0_beginRain_2 19 rfl rfl)
theorem dX0_beginRain_70 : decode cX0_beginRain 70 = .ok (.iload_n 3, 1) := dk_29 (dk_at dksX0_beginRain_2 22 rfl rfl)
theorem dX0_beginRain_71 : decode cX0_beginRain 71 = .ok (.aload_n 0, 1) := dk_42 (dk_at dksX0_beginRain_2 23 rfl rfl)
theorem dX0_beginRain_72 : decode cX0_beginRain 72 = .ok (.getfield 39, 3) := dk_180 0 39 (dk_at dksX0_beginRain_3 0 rfl rfl)
theorem dX0_beginRain_75 : decode cX0_beginRain 75 = .ok (.iload_n 3, 1) := dk_29 (dk_at dksX0_beginRain_3 3 rfl rfl)
theorem dX0_beginRain_76 : decode cX0_beginRain 76 = .ok (.iaload, 1) := dk_46 (dk_at dksX0_beginRain_3 4 rfl rfl)
theorem dX0_beginRain_77 : decode cX0_beginRain 77 = .ok (.ifCond .lt 22, 3) := dk_155 0 22 (dk_at dksX0_beginRain_3 5 rfl rfl)
theorem dX0_beginRain_80 : decode cX0_beginRain 80 = .ok (.iload_n 2, 1) := dk_28 (dk_at dksX0_beginRain_3 8 rfl rfl)
theorem dX0_beginRain_81 : decode cX0_beginRain 81 = .ok (.aload_n 0, 1) := dk_42 (dk_at dksX0_beginRain_3 9 rfl rfl)
theorem dX0_beginRain_82 : decode cX0_beginRain 82 = .ok (.getfield 39, 3) := dk_180 0 39 (dk_at dksX0_beginRain_3 10 rfl rfl)
theorem dX0_beginRain_85 : decode cX0_beginRain 85 = .ok (.iload_n 3, 1) := dk_29 (dk_at dksX0_beginRain_3 13 rfl rfl)
theorem dX0_beginRain_86 : decode cX0_beginRain 86 = .ok (.iaload, 1) := dk_46 (dk_at dksX0_beginRain_3 14 rfl rfl)
theorem dX0_beginRain_87 : decode cX0_beginRain 87 = .ok (.ishr, 1) := dk_122 (dk_at dksX0_beginRain_3 15 rfl rfl)
theorem dX0_beginRain_88 : decode cX0_beginRain 88 = .ok (.iconst 1, 1) := dk_4 (dk_at dksX0_beginRain_3 16 rfl rfl)
theorem dX0_beginRain_89 : decode cX0_beginRain 89 = .ok (.iand, 1) := dk_126 (dk_at dksX0_beginRain_3 17 rfl rfl)
theorem dX0_beginRain_90 : decode cX0_beginRain 90 = .ok (.iconst 1, 1) := dk_4 (dk_at dksX0_beginRain_3 18 rfl rfl)
theorem dX0_beginRain_91 : decode cX0_beginRain 91 = .ok (.if_icmp .ne 8, 3) := dk_160 0 8 (dk_at dksX0_beginRain_3 19 rfl rfl)
theorem dX0_beginRain_94 : decode cX0_beginRain 94 = .ok (.bipush (-9), 2) := dk_16 247 (dk_at dksX0_beginRain_3 22 rfl rfl)
theorem dX0_beginRain_96 : decode cX0_beginRain 96 = .ok (.goto 9, 3) := dk_167 0 9 (dk_at dksX0_beginRain_4 0 rfl rfl)
theorem dX0_beginRain_99 : decode cX0_beginRain 99 = .ok (.aload_n 0, 1) := dk_42 (dk_at dksX0_beginRain_4 3 rfl rfl)
theorem dX0_beginRain_100 : decode cX0_beginRain 100 = .ok (.getfield 39, 3) := dk_180 0 39 (dk_at dksX0_beginRain_4 4 rfl rfl)
theorem dX0_beginRain_103 : decode cX0_beginRain 103 = .ok (.iload_n 3, 1) := dk_29 (dk_at dksX0_beginRain_4 7 rfl rfl)
theorem dX0_beginRain_104 : decode cX0_beginRain 104 = .ok (.iaload, 1) := dk_46 (dk_at dksX0_beginRain_4 8 rfl rfl)
theorem dX0_beginRain_105 : decode cX0_beginRain 105 = .ok (.iastore, 1) := dk_79 (dk_at dksX0_beginRain_4 9 rfl rfl)
theorem dX0_beginRain_106 : decode cX0_beginRain 106 = .ok (.iinc 3 1, 3) := dk_132 3 1 (dk_at dksX0_beginRain_4 10 rfl rfl)
theorem dX0_beginRain_109 : decode cX0_beginRain 109 = .ok (.goto (-51), 3) := dk_167 255 205 (dk_at dksX0_beginRain_4 13 rfl rfl)
theorem dX0_beginRain_112 : decode cX0_beginRain 112 = .ok (.iconst 0, 1) := dk_3 (dk_at dksX0_beginRain_4 16 rfl rfl)
theorem dX0_beginRain_113 : decode cX0_beginRain 113 = .ok (.istore_n 3, 1) := dk_62 (dk_at dksX0_beginRain_4 17 rfl rfl)
theorem dX0_beginRain_114 : decode cX0_beginRain 114 = .ok (.iload_n 3, 1) := dk_29 (dk_at dksX0_beginRain_4 18 rfl rfl)
theorem dX0_beginRain_115 : decode cX0_beginRain 115 = .ok (.aload_n 0, 1) := dk_42 (dk_at dksX0_beginRain_4 19 rfl rfl)
theorem dX0_beginRain_116 : decode cX0_beginRain 116 = .ok (.getfield 35, 3) := dk_180 0 35 (dk_at dksX0_beginRain_4 20 rfl rfl)
theorem dX0_beginRain_119 : decode cX0_beginRain 119 = .ok (.invokeinterface 118 1, 5) := by decide +kernel
theorem dX0_beginRain_124 : decode cX0_beginRain 124 = .ok (.if_icmp .ge 44, 3) := dk_162 0 44 (dk_at dksX0_beginRain_5 5 rfl rfl)
theorem dX0_beginRain_127 : decode cX0_beginRain 127 = .ok (.iload_n 2, 1) := dk_28 (dk_at dksX0_beginRain_5 8 rfl rfl)
theorem dX0_beginRain_128 : decode cX0_beginRain 128 = .ok (.iload_n 3, 1) := dk_29 (dk_at dksX0_beginRain_5 9 rfl rfl)
theorem dX0_beginRain_129 : decode cX0_beginRain 129 = .ok (.ishr, 1) := dk_122 (dk_at dksX0_beginRain_5 10 rfl rfl)
theorem dX0_beginRain_130 : decode cX0_beginRain 130 = .ok (.iconst 1, 1) := dk_4 (dk_at dksX0_beginRain_5 11 rfl rfl)
theorem dX0_beginRain_131 : decode cX0_beginRain 131 = .ok (.iand, 1) := dk_126 (dk_at dksX0_beginRain_5 12 rfl rfl)
theorem dX0_beginRain_132 : decode cX0_beginRain 132 = .ok (.iconst 1, 1) := dk_4 (dk_at dksX0_beginRain_5 13 rfl rfl)
theorem dX0_beginRain_133 : decode cX0_beginRain 133 = .ok (.if_icmp .ne 29, 3) := dk_160 0 29 (dk_at dksX0_beginRain_5 14 rfl rfl)
theorem dX0_beginRain_136 : decode cX0_beginRain 136 = .ok (.aload_n 0, 1) := dk_42 (dk_at dksX0_beginRain_5 17 rfl rfl)
theorem dX0_beginRain_137 : decode cX0_beginRain 137 = .ok (.aload_n 0, 1) := dk_42 (dk_at dksX0_beginRain_5 18 rfl rfl)
theorem dX0_beginRain_138 : decode cX0_beginRain 138 = .ok (.getfield 35, 3) := dk_180 0 35 (dk_at dksX0_beginRain_5 19 rfl rfl)
theorem dX0_beginRain_141 : decode cX0_beginRain 141 = .ok (.iload_n 3, 1) := dk_29 (dk_at dksX0_beginRain_5 22 rfl rfl)
theorem dX0_beginRain_142 : decode cX0_beginRain 142 = .ok (.invokeinterface 144 2, 5) := by decide +kernel
theorem dX0_beginRain_147 : decode cX0_beginRain 147 = .ok (.checkcast 126, 3) := dk_192 0 126 (dk_at dksX0_beginRain_6 5 rfl rfl)
theorem dX0_beginRain_150 : decode cX0_beginRain 150 = .ok (.invokevirtual 174, 3) := dk_182 0 174 (dk_at dksX0_beginRain_6 8 rfl rfl)
theorem dX0_beginRain_153 : decode cX0_beginRain 153 = .ok (.ifCond .ne 9, 3) := dk_154 0 9 (dk_at dksX0_beginRain_6 11 rfl rfl)
theorem dX0_beginRain_156 : decode cX0_beginRain 156 = .ok (.aload_n 0, 1) := dk_42 (dk_at dksX0_beginRain_6 14 rfl rfl)
theorem dX0_beginRain_157 : decode cX0_beginRain 157 = .ok (.iload_n 3, 1) := dk_29 (dk_at dksX0_beginRain_6 15 rfl rfl)
theorem dX0_beginRain_158 : decode cX0_beginRain 158 = .ok (.iload_n 1, 1) := dk_27 (dk_at dksX0_beginRain_6 16 rfl rfl)
theorem dX0_beginRain_159 : decode cX0_beginRain 159 = .ok (.invokevirtual 185, 3) := dk_182 0 185 (dk_at dksX0_beginRain_6 17 rfl rfl)
theorem dX0_beginRain_162 : decode cX0_beginRain 162 = .ok (.iinc 3 1, 3) := dk_132 3 1 (dk_at dksX0_beginRain_6 20 rfl rfl)
theorem dX0_beginRain_165 : decode cX0_beginRain 165 = .ok (.goto (-51), 3) := dk_167 255 205 (dk_at dksX0_beginRain_7 0 rfl rfl)
theorem dX0_beginRain_168 : decode cX0_beginRain 168 = .ok (.return_, 1) := dk_177 (dk_at dksX0_beginRain_7 3 rfl rfl)
abbrev cX0_doesSit : ByteArray := prog_1_method_20_code
def yX0_doesSit : MethodName := ⟨RX0, "doesSit", "(LCafeTables$Guest;)Z"⟩
def dkwX0_doesSit_6 : List UInt8 := [155, 0, 7, 4, 167, 0, 4, 3, 172]
abbrev dktX0_doesSit_6 : List UInt8 := dkwX0_doesSit_6 ++ []
def dkwX0_doesSit_5 : List UInt8 := [180, 0, 45, 43, 180, 0, 171, 46, 156, 0, 13, 42, 180, 0, 45, 43, 180, 0, 171, 28, 79, 28]
abbrev dktX0_doesSit_5 : List UInt8 := dkwX0_doesSit_5 ++ dktX0_doesSit_6
def dkwX0_doesSit_4 : List UInt8 := [180, 0, 39, 29, 4, 96, 43, 180, 0, 171, 79, 132, 3, 1, 167, 255, 168, 28, 155, 0, 25, 42]
abbrev dktX0_doesSit_4 : List UInt8 := dkwX0_doesSit_4 ++ dktX0_doesSit_5
def dkwX0_doesSit_3 : List UInt8 := [4, 96, 46, 96, 43, 180, 0, 158, 161, 0, 27, 29, 61, 42, 180, 0, 39, 29, 43, 180, 0, 171, 79, 42]
abbrev dktX0_doesSit_3 : List UInt8 := dkwX0_doesSit_3 ++ dktX0_doesSit_4
def dkwX0_doesSit_2 : List UInt8 := [153, 0, 59, 42, 29, 4, 96, 182, 0, 155, 153, 0, 49, 42, 180, 0, 29, 29, 46, 42, 180, 0, 29, 29]
abbrev dktX0_doesSit_2 : List UInt8 := dkwX0_doesSit_2 ++ dktX0_doesSit_3
def dkwX0_doesSit_1 : List UInt8 := [180, 0, 78, 4, 100, 162, 0, 84, 28, 156, 0, 80, 42, 180, 0, 104, 153, 0, 73, 42, 29, 182, 0, 155]
abbrev dktX0_doesSit_1 : List UInt8 := dkwX0_doesSit_1 ++ dktX0_doesSit_2
def dkwX0_doesSit_0 : List UInt8 := [42, 43, 182, 0, 167, 61, 28, 155, 0, 13, 42, 180, 0, 39, 28, 43, 180, 0, 171, 79, 3, 62, 29, 42]
abbrev dktX0_doesSit_0 : List UInt8 := dkwX0_doesSit_0 ++ dktX0_doesSit_1
theorem dksX0_doesSit_0 : cX0_doesSit.data.toList.drop 0 = dktX0_doesSit_0 := by decide +kernel
theorem dksX0_doesSit_1 : cX0_doesSit.data.toList.drop 24 = dktX0_doesSit_1 := dk_seg dksX0_doesSit_0 24 rfl rfl
theorem dksX0_doesSit_2 : cX0_doesSit.data.toList.drop 48 = dktX0_doesSit_2 := dk_seg dksX0_doesSit_1 24 rfl rfl
theorem dksX0_doesSit_3 : cX0_doesSit.data.toList.drop 72 = dktX0_doesSit_3 := dk_seg dksX0_doesSit_2 24 rfl rfl
theorem dksX0_doesSit_4 : cX0_doesSit.data.toList.drop 96 = dktX0_doesSit_4 := dk_seg dksX0_doesSit_3 24 rfl rfl
theorem dksX0_doesSit_5 : cX0_doesSit.data.toList.drop 118 = dktX0_doesSit_5 := dk_seg dksX0_doesSit_4 22 rfl rfl
theorem dksX0_doesSit_6 : cX0_doesSit.data.toList.drop 140 = dktX0_doesSit_6 := dk_seg dksX0_doesSit_5 22 rfl rfl
theorem dX0_doesSit_0 : decode cX0_doesSit 0 = .ok (.aload_n 0, 1) := dk_42 (dk_at dksX0_doesSit_0 0 rfl rfl)
theorem dX0_doesSit_1 : decode cX0_doesSit 1 = .ok (.aload_n 1, 1) := dk_43 (dk_at dksX0_doesSit_0 1 rfl rfl)
theorem dX0_doesSit_2 : decode cX0_doesSit 2 = .ok (.invokevirtual 167, 3) := dk_182 0 167 (dk_at dksX0_doesSit_0 2 rfl rfl)
theorem dX0_doesSit_5 : decode cX0_doesSit 5 = .ok (.istore_n 2, 1) := dk_61 (dk_at dksX0_doesSit_0 5 rfl rfl)
theorem dX0_doesSit_6 : decode cX0_doesSit 6 = .ok (.iload_n 2, 1) := dk_28 (dk_at dksX0_doesSit_0 6 rfl rfl)
theorem dX0_doesSit_7 : decode cX0_doesSit 7 = .ok (.ifCond .lt 13, 3) := dk_155 0 13 (dk_at dksX0_doesSit_0 7 rfl rfl)
theorem dX0_doesSit_10 : decode cX0_doesSit 10 = .ok (.aload_n 0, 1) := dk_42 (dk_at dksX0_doesSit_0 10 rfl rfl)
theorem dX0_doesSit_11 : decode cX0_doesSit 11 = .ok (.getfield 39, 3) := dk_180 0 39 (dk_at dksX0_doesSit_0 11 rfl rfl)
theorem dX0_doesSit_14 : decode cX0_doesSit 14 = .ok (.iload_n 2, 1) := dk_28 (dk_at dksX0_doesSit_0 14 rfl rfl)
theorem dX0_doesSit_15 : decode cX0_doesSit 15 = .ok (.aload_n 1, 1) := dk_43 (dk_at dksX0_doesSit_0 15 rfl rfl)
theorem dX0_doesSit_16 : decode cX0_doesSit 16 = .ok (.getfield 171, 3) := dk_180 0 171 (dk_at dksX0_doesSit_0 16 rfl rfl)
theorem dX0_doesSit_19 : decode cX0_doesSit 19 = .ok (.iastore, 1) := dk_79 (dk_at dksX0_doesSit_0 19 rfl rfl)
theorem dX0_doesSit_20 : decode cX0_doesSit 20 = .ok (.iconst 0, 1) := dk_3 (dk_at dksX0_doesSit_0 20 rfl rfl)
theorem dX0_doesSit_21 : decode cX0_doesSit 21 = .ok (.istore_n 3, 1) := dk_62 (dk_at dksX0_doesSit_0 21 rfl rfl)
theorem dX0_doesSit_22 : decode cX0_doesSit 22 = .ok (.iload_n 3, 1) := dk_29 (dk_at dksX0_doesSit_0 22 rfl rfl)
theorem dX0_doesSit_23 : decode cX0_doesSit 23 = .ok (.aload_n 0, 1) := dk_42 (dk_at dksX0_doesSit_0 23 rfl rfl)
theorem dX0_doesSit_24 : decode cX0_doesSit 24 = .ok (.getfield 78, 3) := dk_180 0 78 (dk_at dksX0_doesSit_1 0 rfl rfl)
theorem dX0_doesSit_27 : decode cX0_doesSit 27 = .ok (.iconst 1, 1) := dk_4 (dk_at dksX0_doesSit_1 3 rfl rfl)
theorem dX0_doesSit_28 : decode cX0_doesSit 28 = .ok (.isub, 1) := dk_100 (dk_at dksX0_doesSit_1 4 rfl rfl)
theorem dX0_doesSit_29 : decode cX0_doesSit 29 = .ok (.if_icmp .ge 84, 3) := dk_162 0 84 (dk_at dksX0_doesSit_1 5 rfl rfl)
theorem dX0_doesSit_32 : decode cX0_doesSit 32 = .ok (.iload_n 2, 1) := dk_28 (dk_at dksX0_doesSit_1 8 rfl rfl)
theorem dX0_doesSit_33 : decode cX0_doesSit 33 = .ok (.ifCond .ge 80, 3) := dk_156 0 80 (dk_at dksX0_doesSit_1 9 rfl rfl)
theorem dX0_doesSit_36 : decode cX0_doesSit 36 = .ok (.aload_n 0, 1) := dk_42 (dk_at dksX0_doesSit_1 12 rfl rfl)
theorem dX0_doesSit_37 : decode cX0_doesSit 37 = .ok (.getfield 104, 3) := dk_180 0 104 (dk_at dksX0_doesSit_1 13 rfl rfl)
theorem dX0_doesSit_40 : decode cX0_doesSit 40 = .ok (.ifCond .eq 73, 3) := dk_153 0 73 (dk_at dksX0_doesSit_1 16 rfl rfl)
theorem dX0_doesSit_43 : decode cX0_doesSit 43 = .ok (.aload_n 0, 1) := dk_42 (dk_at dksX0_doesSit_1 19 rfl rfl)
theorem dX0_doesSit_44 : decode cX0_doesSit 44 = .ok (.iload_n 3, 1) := dk_29 (dk_at dksX0_doesSit_1 20 rfl rfl)
theorem dX0_doesSit_45 : decode cX0_doesSit 45 = .ok (.invokevirtual 155, 3) := dk_182 0 155 (dk_at dksX0_doesSit_1 21 rfl rfl)
theorem dX0_doesSit_48 : decode cX0_doesSit 48 = .ok (.ifCond .eq 59, 3) := dk_153 0 59 (dk_at dksX0_doesSit_2 0 rfl rfl)
theorem dX0_doesSit_51 : decode cX0_doesSit 51 = .ok (.aload_n 0, 1) := dk_42 (dk_at dksX0_doesSit_2 3 rfl rfl)
theorem dX0_doesSit_52 : decode cX0_doesSit 52 = .ok (.iload_n 3, 1) := dk_29 (dk_at dksX0_doesSit_2 4 rfl rfl)
theorem dX0_doesSit_53 : decode cX0_doesSit 53 = .ok (.iconst 1, 1) := dk_4 (dk_at dksX0_doesSit_2 5 rfl rfl)
theorem dX0_doesSit_54 : decode cX0_doesSit 54 = .ok (.iadd, 1) := dk_96 (dk_at dksX0_doesSit_2 6 rfl rfl)
theorem dX0_doesSit_55 : decode cX0_doesSit 55 = .ok (.invokevirtual 155, 3) := dk_182 0 155 (dk_at dksX0_doesSit_2 7 rfl rfl)
theorem dX0_doesSit_58 : decode cX0_doesSit 58 = .ok (.ifCond .eq 49, 3) := dk_153 0 49 (dk_at dksX0_doesSit_2 10 rfl rfl)
theorem dX0_doesSit_61 : decode cX0_doesSit 61 = .ok (.aload_n 0, 1) := dk_42 (dk_at dksX0_doesSit_2 13 rfl rfl)
theorem dX0_doesSit_62 : decode cX0_doesSit 62 = .ok (.getfield 29, 3) := dk_180 0 29 (dk_at dksX0_doesSit_2 14 rfl rfl)
theorem dX0_doesSit_65 : decode cX0_doesSit 65 = .ok (.iload_n 3, 1) := dk_29 (dk_at dksX0_doesSit_2 17 rfl rfl)
theorem dX0_doesSit_66 : decode cX0_doesSit 66 = .ok (.iaload, 1) := dk_46 (dk_at dksX0_doesSit_2 18 rfl rfl)
theorem dX0_doesSit_67 : decode cX0_doesSit 67 = .ok (.aload_n 0, 1) := dk_42 (dk_at dksX0_doesSit_2 19 rfl rfl)
theorem dX0_doesSit_68 : decode cX0_doesSit 68 = .ok (.getfield 29, 3) := dk_180 0 29 (dk_at dksX0_doesSit_2 20 rfl rfl)
theorem dX0_doesSit_71 : decode cX0_doesSit 71 = .ok (.iload_n 3, 1) := dk_29 (dk_at dksX0_doesSit_2 23 rfl rfl)
theorem dX0_doesSit_72 : decode cX0_doesSit 72 = .ok (.iconst 1, 1) := dk_4 (dk_at dksX0_doesSit_3 0 rfl rfl)
theorem dX0_doesSit_73 : decode cX0_doesSit 73 = .ok (.iadd, 1) := dk_96 (dk_at dksX0_doesSit_3 1 rfl rfl)
theorem dX0_doesSit_74 : decode cX0_doesSit 74 = .ok (.iaload, 1) := dk_46 (dk_at dksX0_doesSit_3 2 rfl rfl)
theorem dX0_doesSit_75 : decode cX0_doesSit 75 = .ok (.iadd, 1) := dk_96 (dk_at dksX0_doesSit_3 3 rfl rfl)
theorem dX0_doesSit_76 : decode cX0_doesSit 76 = .ok (.aload_n 1, 1) := dk_43 (dk_at dksX0_doesSit_3 4 rfl rfl)
theorem dX0_doesSit_77 : decode cX0_doesSit 77 = .ok (.getfield 158, 3) := dk_180 0 158 (dk_at dksX0_doesSit_3 5 rfl rfl)
theorem dX0_doesSit_80 : decode cX0_doesSit 80 = .ok (.if_icmp .lt 27, 3) := dk_161 0 27 (dk_at dksX0_doesSit_3 8 rfl rfl)
theorem dX0_doesSit_83 : decode cX0_doesSit 83 = .ok (.iload_n 3, 1) := dk_29 (dk_at dksX0_doesSit_3 11 rfl rfl)
theorem dX0_doesSit_84 : decode cX0_doesSit 84 = .ok (.istore_n 2, 1) := dk_61 (dk_at dksX0_doesSit_3 12 rfl rfl)
theorem dX0_doesSit_85 : decode cX0_doesSit 85 = .ok (.aload_n 0, 1) := dk_42 (dk_at dksX0_doesSit_3 13 rfl rfl)
theorem dX0_doesSit_86 : decode cX0_doesSit 86 = .ok (.getfield 39, 3) := dk_180 0 39 (dk_at dksX0_doesSit_3 14 rfl rfl)
theorem dX0_doesSit_89 : decode cX0_doesSit 89 = .ok (.iload_n 3, 1) := dk_29 (dk_at dksX0_doesSit_3 17 rfl rfl)
theorem dX0_doesSit_90 : decode cX0_doesSit 90 = .ok (.aload_n 1, 1) := dk_43 (dk_at dksX0_doesSit_3 18 rfl rfl)
theorem dX0_doesSit_91 : decode cX0_doesSit 91 = .ok (.getfield 171, 3) := dk_180 0 171 (dk_at dksX0_doesSit_3 19 rfl rfl)
theorem dX0_doesSit_94 : decode cX0_doesSit 94 = .ok (.iastore, 1) := dk_79 (dk_at dksX0_doesSit_3 22 rfl rfl)
theorem dX0_doesSit_95 : decode cX0_doesSit 95 = .ok (.aload_n 0, 1) := dk_42 (dk_at dksX0_doesSit_3 23 rfl rfl)
theorem dX0_doesSit_96 : decode cX0_doesSit 96 = .ok (.getfield 39, 3) := dk_180 0 39 (dk_at dksX0_doesSit_4 0 rfl rfl)
theorem dX0_doesSit_99 : decode cX0_doesSit 99 = .ok (.iload_n 3, 1) := dk_29 (dk_at dksX0_doesSit_4 3 rfl rfl)
theorem dX0_doesSit_100 : decode cX0_doesSit 100 = .ok (.iconst 1, 1) := dk_4 (dk_at dksX0_doesSit_4 4 rfl rfl)
theorem dX0_doesSit_101 : decode cX0_doesSit 101 = .ok (.iadd, 1) := dk_96 (dk_at dksX0_doesSit_4 5 rfl rfl)
theorem dX0_doesSit_102 : decode cX0_doesSit 102 = .ok (.aload_n 1, 1) := dk_43 (dk_at dksX0_doesSit_4 6 rfl rfl)
theorem dX0_doesSit_103 : decode cX0_doesSit 103 = .ok (.getfield 171, 3) := dk_180 0 171 (dk_at dksX0_doesSit_4 7 rfl rfl)
theorem dX0_doesSit_106 : decode cX0_doesSit 106 = .ok (.iastore, 1) := dk_79 (dk_at dksX0_doesSit_4 10 rfl rfl)
theorem dX0_doesSit_107 : decode cX0_doesSit 107 = .ok (.iinc 3 1, 3) := dk_132 3 1 (dk_at dksX0_doesSit_4 11 rfl rfl)
theorem dX0_doesSit_110 : decode cX0_doesSit 110 = .ok (.goto (-88), 3) := dk_167 255 168 (dk_at dksX0_doesSit_4 14 rfl rfl)
theorem dX0_doesSit_113 : decode cX0_doesSit 113 = .ok (.iload_n 2, 1) := dk_28 (dk_at dksX0_doesSit_4 17 rfl rfl)
theorem dX0_doesSit_114 : decode cX0_doesSit 114 = .ok (.ifCond .lt 25, 3) := dk_155 0 25 (dk_at dksX0_doesSit_4 18 rfl rfl)
theorem dX0_doesSit_117 : decode cX0_doesSit 117 = .ok (.aload_n 0, 1) := dk_42 (dk_at dksX0_doesSit_4 21 rfl rfl)
theorem dX0_doesSit_118 : decode cX0_doesSit 118 = .ok (.getfield 45, 3) := dk_180 0 45 (dk_at dksX0_doesSit_5 0 rfl rfl)
theorem dX0_doesSit_121 : decode cX0_doesSit 121 = .ok (.aload_n 1, 1) := dk_43 (dk_at dksX0_doesSit_5 3 rfl rfl)
theorem dX0_doesSit_122 : decode cX0_doesSit 122 = .ok (.getfield 171, 3) := dk_180 0 171 (dk_at dksX0_doesSit_5 4 rfl rfl)
theorem dX0_doesSit_125 : decode cX0_doesSit 125 = .ok (.iaload, 1) := dk_46 (dk_at dksX0_doesSit_5 7 rfl rfl)
theorem dX0_doesSit_126 : decode cX0_doesSit 126 = .ok (.ifCond .ge 13, 3) := dk_156 0 13 (dk_at dksX0_doesSit_5 8 rfl rfl)
theorem dX0_doesSit_129 : decode cX0_doesSit 129 = .ok (.aload_n 0, 1) := dk_42 (dk_at dksX0_doesSit_5 11 rfl rfl)
theorem dX0_doesSit_130 : decode cX0_doesSit 130 = .ok (.getfield 45, 3) := dk_180 0 45 (dk_at dksX0_doesSit_5 12 rfl rfl)
theorem dX0_doesSit_133 : decode cX0_doesSit 133 = .ok (.aload_n 1, 1) := dk_43 (dk_at dksX0_doesSit_5 15 rfl rfl)
theorem dX0_doesSit_134 : decode cX0_doesSit 134 = .ok (.getfield 171, 3) := dk_180 0 171 (dk_at dksX0_doesSit_5 16 rfl rfl)
theorem dX0_doesSit_137 : decode cX0_doesSit 137 = .ok (.iload_n 2, 1) := dk_28 (dk_at dksX0_doesSit_5 19 rfl rfl)
theorem dX0_doesSit_138 : decode cX0_doesSit 138 = .ok (.iastore, 1) := dk_79 (dk_at dksX0_doesSit_5 20 rfl rfl)
theorem dX0_doesSit_139 : decode cX0_doesSit 139 = .ok (.iload_n 2, 1) := dk_28 (dk_at dksX0_doesSit_5 21 rfl rfl)
theorem dX0_doesSit_140 : decode cX0_doesSit 140 = .ok (.ifCond .lt 7, 3) := dk_155 0 7 (dk_at dksX0_doesSit_6 0 rfl rfl)
theorem dX0_doesSit_143 : decode cX0_doesSit 143 = .ok (.iconst 1, 1) := dk_4 (dk_at dksX0_doesSit_6 3 rfl rfl)
theorem dX0_doesSit_144 : decode cX0_doesSit 144 = .ok (.goto 4, 3) := dk_167 0 4 (dk_at dksX0_doesSit_6 4 rfl rfl)
theorem dX0_doesSit_147 : decode cX0_doesSit 147 = .ok (.iconst 0, 1) := dk_3 (dk_at dksX0_doesSit_6 7 rfl rfl)
theorem dX0_doesSit_148 : decode cX0_doesSit 148 = .ok (.ireturn, 1) := dk_172 (dk_at dksX0_doesSit_6 8 rfl rfl)
abbrev cX0_tableFor : ByteArray := prog_1_method_19_code
def yX0_tableFor : MethodName := ⟨RX0, "tableFor", "(LCafeTables$Guest;)I"⟩
def dkwX0_tableFor_3 : List UInt8 := [156, 0, 12, 42, 43, 3, 182, 0, 163, 167, 0, 4, 28, 172]
abbrev dktX0_tableFor_3 : List UInt8 := dkwX0_tableFor_3 ++ []
def dkwX0_tableFor_2 : List UInt8 := [16, 247, 172, 42, 180, 0, 98, 5, 160, 0, 12, 42, 43, 4, 182, 0, 163, 167, 0, 5, 16, 247, 61, 28]
abbrev dktX0_tableFor_2 : List UInt8 := dkwX0_tableFor_2 ++ dktX0_tableFor_3
def dkwX0_tableFor_1 : List UInt8 := [153, 0, 18, 42, 180, 0, 29, 28, 46, 43, 180, 0, 158, 161, 0, 5, 28, 172, 132, 2, 1, 167, 255, 222]
abbrev dktX0_tableFor_1 : List UInt8 := dkwX0_tableFor_1 ++ dktX0_tableFor_2
def dkwX0_tableFor_0 : List UInt8 := [42, 180, 0, 98, 154, 0, 45, 3, 61, 28, 42, 180, 0, 78, 162, 0, 32, 42, 28, 182, 0, 155]
abbrev dktX0_tableFor_0 : List UInt8 := dkwX0_tableFor_0 ++ dktX0_tableFor_1
theorem dksX0_tableFor_0 : cX0_tableFor.data.toList.drop 0 = dktX0_tableFor_0 := by decide +kernel
theorem dksX0_tableFor_1 : cX0_tableFor.data.toList.drop 22 = dktX0_tableFor_1 := dk_seg dksX0_tableFor_0 22 rfl rfl
theorem dksX0_tableFor_2 : cX0_tableFor.data.toList.drop 46 = dktX0_tableFor_2 := dk_seg dksX0_tableFor_1 24 rfl rfl
theorem dksX0_tableFor_3 : cX0_tableFor.data.toList.drop 70 = dktX0_tableFor_3 := dk_seg dksX0_tableFor_2 24 rfl rfl
theorem dX0_tableFor_0 : decode cX0_tableFor 0 = .ok (.aload_n 0, 1) := dk_42 (dk_at dksX0_tableFor_0 0 rfl rfl)
theorem dX0_tableFor_1 : decode cX0_tableFor 1 = .ok (.getfield 98, 3) := dk_180 0 98 (dk_at dksX0_tableFor_0 1 rfl rfl)
theorem dX0_tableFor_4 : decode cX0_tableFor 4 = .ok (.ifCond .ne 45, 3) := dk_154 0 45 (dk_at dksX0_tableFor_0 4 rfl rfl)
theorem dX0_tableFor_7 : decode cX0_tableFor 7 = .ok (.iconst 0, 1) := dk_3 (dk_at dksX0_tableFor_0 7 rfl rfl)
theorem dX0_tableFor_8 : decode cX0_tableFor 8 = .ok (.istore_n 2, 1) := dk_61 (dk_at dksX0_tableFor_0 8 rfl rfl)
theorem dX0_tableFor_9 : decode cX0_tableFor 9 = .ok (.iload_n 2, 1) := dk_28 (dk_at dksX0_tableFor_0 9 rfl rfl)
theorem dX0_tableFor_10 : decode cX0_tableFor 10 = .ok (.aload_n 0, 1) := dk_42 (dk_at dksX0_tableFor_0 10 rfl rfl)
theorem dX0_tableFor_11 : decode cX0_tableFor 11 = .ok (.getfield 78, 3) := dk_180 0 78 (dk_at dksX0_tableFor_0 11 rfl rfl)
theorem dX0_tableFor_14 : decode cX0_tableFor 14 = .ok (.if_icmp .ge 32, 3) := dk_162 0 32 (dk_at dksX0_tableFor_0 14 rfl rfl)
theorem dX0_tableFor_17 : decode cX0_tableFor 17 = .ok (.aload_n 0, 1) := dk_42 (dk_at dksX0_tableFor_0 17 rfl rfl)
theorem dX0_tableFor_18 : decode cX0_tableFor 18 = .ok (.iload_n 2, 1) := dk_28 (dk_at dksX0_tableFor_0 18 rfl rfl)
theorem dX0_tableFor_19 : decode cX0_tableFor 19 = .ok (.invokevirtual 155, 3) := dk_182 0 155 (dk_at dksX0_tableFor_0 19 rfl rfl)
theorem dX0_tableFor_22 : decode cX0_tableFor 22 = .ok (.ifCond .eq 18, 3) := dk_153 0 18 (dk_at dksX0_tableFor_1 0 rfl rfl)
theorem dX0_tableFor_25 : decode cX0_tableFor 25 = .ok (.aload_n 0, 1) := dk_42 (dk_at dksX0_tableFor_1 3 rfl rfl)
theorem dX0_tableFor_26 : decode cX0_tableFor 26 = .ok (.getfield 29, 3) := dk_180 0 29 (dk_at dksX0_tableFor_1 4 rfl rfl)
theorem dX0_tableFor_29 : decode cX0_tableFor 29 = .ok (.iload_n 2, 1) := dk_28 (dk_at dksX0_tableFor_1 7 rfl rfl)
theorem dX0_tableFor_30 : decode cX0_tableFor 30 = .ok (.iaload, 1) := dk_46 (dk_at dksX0_tableFor_1 8 rfl rfl)
theorem dX0_tableFor_31 : decode cX0_tableFor 31 = .ok (.aload_n 1, 1) := dk_43 (dk_at dksX0_tableFor_1 9 rfl rfl)
theorem dX0_tableFor_32 : decode cX0_tableFor 32 = .ok (.getfield 158, 3) := dk_180 0 158 (dk_at dksX0_tableFor_1 10 rfl rfl)
theorem dX0_tableFor_35 : decode cX0_tableFor 35 = .ok (.if_icmp .lt 5, 3) := dk_161 0 5 (dk_at dksX0_tableFor_1 13 rfl rfl)
theorem dX0_tableFor_38 : decode cX0_tableFor 38 = .ok (.iload_n 2, 1) := dk_28 (dk_at dksX0_tableFor_1 16 rfl rfl)
theorem dX0_tableFor_39 : decode cX0_tableFor 39 = .ok (.ireturn, 1) := dk_172 (dk_at dksX0_tableFor_1 17 rfl rfl)
theorem dX0_tableFor_40 : decode cX0_tableFor 40 = .ok (.iinc 2 1, 3) := dk_132 2 1 (dk_at dksX0_tableFor_1 18 rfl rfl)
theorem dX0_tableFor_43 : decode cX0_tableFor 43 = .ok (.goto (-34), 3) := dk_167 255 222 (dk_at dksX0_tableFor_1 21 rfl rfl)
theorem dX0_tableFor_46 : decode cX0_tableFor 46 = .ok (.bipush (-9), 2) := dk_16 247 (dk_at dksX0_tableFor_2 0 rfl rfl)
theorem dX0_tableFor_48 : decode cX0_tableFor 48 = .ok (.ireturn, 1) := dk_172 (dk_at dksX0_tableFor_2 2 rfl rfl)
theorem dX0_tableFor_49 : decode cX0_tableFor 49 = .ok (.aload_n 0, 1) := dk_42 (dk_at dksX0_tableFor_2 3 rfl rfl)
theorem dX0_tableFor_50 : decode cX0_tableFor 50 = .ok (.getfield 98, 3) := dk_180 0 98 (dk_at dksX0_tableFor_2 4 rfl rfl)
theorem dX0_tableFor_53 : decode cX0_tableFor 53 = .ok (.iconst 2, 1) := dk_5 (dk_at dksX0_tableFor_2 7 rfl rfl)
theorem dX0_tableFor_54 : decode cX0_tableFor 54 = .ok (.if_icmp .ne 12, 3) := dk_160 0 12 (dk_at dksX0_tableFor_2 8 rfl rfl)
theorem dX0_tableFor_57 : decode cX0_tableFor 57 = .ok (.aload_n 0, 1) := dk_42 (dk_at dksX0_tableFor_2 11 rfl rfl)
theorem dX0_tableFor_58 : decode cX0_tableFor 58 = .ok (.aload_n 1, 1) := dk_43 (dk_at dksX0_tableFor_2 12 rfl rfl)
theorem dX0_tableFor_59 : decode cX0_tableFor 59 = .ok (.iconst 1, 1) := dk_4 (dk_at dksX0_tableFor_2 13 rfl rfl)
theorem dX0_tableFor_60 : decode cX0_tableFor 60 = .ok (.invokevirtual 163, 3) := dk_182 0 163 (dk_at dksX0_tableFor_2 14 rfl rfl)
theorem dX0_tableFor_63 : decode cX0_tableFor 63 = .ok (.goto 5, 3) := dk_167 0 5 (dk_at dksX0_tableFor_2 17 rfl rfl)
theorem dX0_tableFor_66 : decode cX0_tableFor 66 = .ok (.bipush (-9), 2) := dk_16 247 (dk_at dksX0_tableFor_2 20 rfl rfl)
theorem dX0_tableFor_68 : decode cX0_tableFor 68 = .ok (.istore_n 2, 1) := dk_61 (dk_at dksX0_tableFor_2 22 rfl rfl)
theorem dX0_tableFor_69 : decode cX0_tableFor 69 = .ok (.iload_n 2, 1) := dk_28 (dk_at dksX0_tableFor_2 23 rfl rfl)
theorem dX0_tableFor_70 : decode cX0_tableFor 70 = .ok (.ifCond .ge 12, 3) := dk_156 0 12 (dk_at dksX0_tableFor_3 0 rfl rfl)
theorem dX0_tableFor_73 : decode cX0_tableFor 73 = .ok (.aload_n 0, 1) := dk_42 (dk_at dksX0_tableFor_3 3 rfl rfl)
theorem dX0_tableFor_74 : decode cX0_tableFor 74 = .ok (.aload_n 1, 1) := dk_43 (dk_at dksX0_tableFor_3 4 rfl rfl)
theorem dX0_tableFor_75 : decode cX0_tableFor 75 = .ok (.iconst 0, 1) := dk_3 (dk_at dksX0_tableFor_3 5 rfl rfl)
theorem dX0_tableFor_76 : decode cX0_tableFor 76 = .ok (.invokevirtual 163, 3) := dk_182 0 163 (dk_at dksX0_tableFor_3 6 rfl rfl)
theorem dX0_tableFor_79 : decode cX0_tableFor 79 = .ok (.goto 4, 3) := dk_167 0 4 (dk_at dksX0_tableFor_3 9 rfl rfl)
theorem dX0_tableFor_82 : decode cX0_tableFor 82 = .ok (.iload_n 2, 1) := dk_28 (dk_at dksX0_tableFor_3 12 rfl rfl)
theorem dX0_tableFor_83 : decode cX0_tableFor 83 = .ok (.ireturn, 1) := dk_172 (dk_at dksX0_tableFor_3 13 rfl rfl)
abbrev cX0_isFree : ByteArray := prog_1_method_15_code
def yX0_isFree : MethodName := ⟨RX0, "isFree", "(I)Z"⟩
def dkwX0_isFree_1 : List UInt8 := [153, 0, 7, 4, 167, 0, 4, 3, 172]
abbrev dktX0_isFree_1 : List UInt8 := dkwX0_isFree_1 ++ []
def dkwX0_isFree_0 : List UInt8 := [42, 180, 0, 39, 27, 46, 156, 0, 23, 42, 180, 0, 152, 153, 0, 12, 42, 180, 0, 25, 27, 46]
abbrev dktX0_isFree_0 : List UInt8 := dkwX0_isFree_0 ++ dktX0_isFree_1
theorem dksX0_isFree_0 : cX0_isFree.data.toList.drop 0 = dktX0_isFree_0 := by decide +kernel
theorem dksX0_isFree_1 : cX0_isFree.data.toList.drop 22 = dktX0_isFree_1 := dk_seg dksX0_isFree_0 22 rfl rfl
theorem dX0_isFree_0 : decode cX0_isFree 0 = .ok (.aload_n 0, 1) := dk_42 (dk_at dksX0_isFree_0 0 rfl rfl)
theorem dX0_isFree_1 : decode cX0_isFree 1 = .ok (.getfield 39, 3) := dk_180 0 39 (dk_at dksX0_isFree_0 1 rfl rfl)
theorem dX0_isFree_4 : decode cX0_isFree 4 = .ok (.iload_n 1, 1) := dk_27 (dk_at dksX0_isFree_0 4 rfl rfl)
theorem dX0_isFree_5 : decode cX0_isFree 5 = .ok (.iaload, 1) := dk_46 (dk_at dksX0_isFree_0 5 rfl rfl)
theorem dX0_isFree_6 : decode cX0_isFree 6 = .ok (.ifCond .ge 23, 3) := dk_156 0 23 (dk_at dksX0_isFree_0 6 rfl rfl)
theorem dX0_isFree_9 : decode cX0_isFree 9 = .ok (.aload_n 0, 1) := dk_42 (dk_at dksX0_isFree_0 9 rfl rfl)
theorem dX0_isFree_10 : decode cX0_isFree 10 = .ok (.getfield 152, 3) := dk_180 0 152 (dk_at dksX0_isFree_0 10 rfl rfl)
theorem dX0_isFree_13 : decode cX0_isFree 13 = .ok (.ifCond .eq 12, 3) := dk_153 0 12 (dk_at dksX0_isFree_0 13 rfl rfl)
theorem dX0_isFree_16 : decode cX0_isFree 16 = .ok (.aload_n 0, 1) := dk_42 (dk_at dksX0_isFree_0 16 rfl rfl)
theorem dX0_isFree_17 : decode cX0_isFree 17 = .ok (.getfield 25, 3) := dk_180 0 25 (dk_at dksX0_isFree_0 17 rfl rfl)
theorem dX0_isFree_20 : decode cX0_isFree 20 = .ok (.iload_n 1, 1) := dk_27 (dk_at dksX0_isFree_0 20 rfl rfl)
theorem dX0_isFree_21 : decode cX0_isFree 21 = .ok (.iaload, 1) := dk_46 (dk_at dksX0_isFree_0 21 rfl rfl)
theorem dX0_isFree_22 : decode cX0_isFree 22 = .ok (.ifCond .eq 7, 3) := dk_153 0 7 (dk_at dksX0_isFree_1 0 rfl rfl)
theorem dX0_isFree_25 : decode cX0_isFree 25 = .ok (.iconst 1, 1) := dk_4 (dk_at dksX0_isFree_1 3 rfl rfl)
theorem dX0_isFree_26 : decode cX0_isFree 26 = .ok (.goto 4, 3) := dk_167 0 4 (dk_at dksX0_isFree_1 4 rfl rfl)
theorem dX0_isFree_29 : decode cX0_isFree 29 = .ok (.iconst 0, 1) := dk_3 (dk_at dksX0_isFree_1 7 rfl rfl)
theorem dX0_isFree_30 : decode cX0_isFree 30 = .ok (.ireturn, 1) := dk_172 (dk_at dksX0_isFree_1 8 rfl rfl)
abbrev cX0_tightest : ByteArray := prog_1_method_18_code
def yX0_tightest : MethodName := ⟨RX0, "tightest", "(LCafeTables$Guest;Z)I"⟩
def dkwX0_tightest_4 : List UInt8 := [132, 4, 1, 167, 255, 164, 29, 172]
abbrev dktX0_tightest_4 : List UInt8 := dkwX0_tightest_4 ++ []
def dkwX0_tightest_3 : List UInt8 := [42, 180, 0, 29, 21, 4, 46, 42, 180, 0, 29, 29, 46, 162, 0, 8, 21, 4, 167, 0, 4, 29, 62]
abbrev dktX0_tightest_3 : List UInt8 := dkwX0_tightest_3 ++ dktX0_tightest_4
def dkwX0_tightest_2 : List UInt8 := [46, 43, 180, 0, 160, 160, 0, 7, 4, 167, 0, 4, 3, 54, 5, 21, 5, 153, 0, 28, 29, 155, 0, 19]
abbrev dktX0_tightest_2 : List UInt8 := dkwX0_tightest_2 ++ dktX0_tightest_3
def dkwX0_tightest_1 : List UInt8 := [42, 180, 0, 29, 21, 4, 46, 43, 180, 0, 158, 161, 0, 25, 28, 153, 0, 17, 42, 180, 0, 25, 21, 4]
abbrev dktX0_tightest_1 : List UInt8 := dkwX0_tightest_1 ++ dktX0_tightest_2
def dkwX0_tightest_0 : List UInt8 := [16, 247, 62, 3, 54, 4, 21, 4, 42, 180, 0, 78, 162, 0, 89, 42, 21, 4, 182, 0, 155, 153, 0, 39]
abbrev dktX0_tightest_0 : List UInt8 := dkwX0_tightest_0 ++ dktX0_tightest_1
theorem dksX0_tightest_0 : cX0_tightest.data.toList.drop 0 = dktX0_tightest_0 := by decide +kernel
theorem dksX0_tightest_1 : cX0_tightest.data.toList.drop 24 = dktX0_tightest_1 := dk_seg dksX0_tightest_0 24 rfl rfl
theorem dksX0_tightest_2 : cX0_tightest.data.toList.drop 48 = dktX0_tightest_2 := dk_seg dksX0_tightest_1 24 rfl rfl
theorem dksX0_tightest_3 : cX0_tightest.data.toList.drop 72 = dktX0_tightest_3 := dk_seg dksX0_tightest_2 24 rfl rfl
theorem dksX0_tightest_4 : cX0_tightest.data.toList.drop 95 = dktX0_tightest_4 := dk_seg dksX0_tightest_3 23 rfl rfl
theorem dX0_tightest_0 : decode cX0_tightest 0 = .ok (.bipush (-9), 2) := dk_16 247 (dk_at dksX0_tightest_0 0 rfl rfl)
theorem dX0_tightest_2 : decode cX0_tightest 2 = .ok (.istore_n 3, 1) := dk_62 (dk_at dksX0_tightest_0 2 rfl rfl)
theorem dX0_tightest_3 : decode cX0_tightest 3 = .ok (.iconst 0, 1) := dk_3 (dk_at dksX0_tightest_0 3 rfl rfl)
theorem dX0_tightest_4 : decode cX0_tightest 4 = .ok (.istore 4, 2) := dk_54 4 (dk_at dksX0_tightest_0 4 rfl rfl)
theorem dX0_tightest_6 : decode cX0_tightest 6 = .ok (.iload 4, 2) := dk_21 4 (dk_at dksX0_tightest_0 6 rfl rfl)
theorem dX0_tightest_8 : decode cX0_tightest 8 = .ok (.aload_n 0, 1) := dk_42 (dk_at dksX0_tightest_0 8 rfl rfl)
theorem dX0_tightest_9 : decode cX0_tightest 9 = .ok (.getfield 78, 3) := dk_180 0 78 (dk_at dksX0_tightest_0 9 rfl rfl)
theorem dX0_tightest_12 : decode cX0_tightest 12 = .ok (.if_icmp .ge 89, 3) := dk_162 0 89 (dk_at dksX0_tightest_0 12 rfl rfl)
theorem dX0_tightest_15 : decode cX0_tightest 15 = .ok (.aload_n 0, 1) := dk_42 (dk_at dksX0_tightest_0 15 rfl rfl)
theorem dX0_tightest_16 : decode cX0_tightest 16 = .ok (.iload 4, 2) := dk_21 4 (dk_at dksX0_tightest_0 16 rfl rfl)
theorem dX0_tightest_18 : decode cX0_tightest 18 = .ok (.invokevirtual 155, 3) := dk_182 0 155 (dk_at dksX0_tightest_0 18 rfl rfl)
theorem dX0_tightest_21 : decode cX0_tightest 21 = .ok (.ifCond .eq 39, 3) := dk_153 0 39 (dk_at dksX0_tightest_0 21 rfl rfl)
theorem dX0_tightest_24 : decode cX0_tightest 24 = .ok (.aload_n 0, 1) := dk_42 (dk_at dksX0_tightest_1 0 rfl rfl)
theorem dX0_tightest_25 : decode cX0_tightest 25 = .ok (.getfield 29, 3) := dk_180 0 29 (dk_at dksX0_tightest_1 1 rfl rfl)
theorem dX0_tightest_28 : decode cX0_tightest 28 = .ok (.iload 4, 2) := dk_21 4 (dk_at dksX0_tightest_1 4 rfl rfl)
theorem dX0_tightest_30 : decode cX0_tightest 30 = .ok (.iaload, 1) := dk_46 (dk_at dksX0_tightest_1 6 rfl rfl)
theorem dX0_tightest_31 : decode cX0_tightest 31 = .ok (.aload_n 1, 1) := dk_43 (dk_at dksX0_tightest_1 7 rfl rfl)
theorem dX0_tightest_32 : decode cX0_tightest 32 = .ok (.getfield 158, 3) := dk_180 0 158 (dk_at dksX0_tightest_1 8 rfl rfl)
theorem dX0_tightest_35 : decode cX0_tightest 35 = .ok (.if_icmp .lt 25, 3) := dk_161 0 25 (dk_at dksX0_tightest_1 11 rfl rfl)
theorem dX0_tightest_38 : decode cX0_tightest 38 = .ok (.iload_n 2, 1) := dk_28 (dk_at dksX0_tightest_1 14 rfl rfl)
theorem dX0_tightest_39 : decode cX0_tightest 39 = .ok (.ifCond .eq 17, 3) := dk_153 0 17 (dk_at dksX0_tightest_1 15 rfl rfl)
theorem dX0_tightest_42 : decode cX0_tightest 42 = .ok (.aload_n 0, 1) := dk_42 (dk_at dksX0_tightest_1 18 rfl rfl)
theorem dX0_tightest_43 : decode cX0_tightest 43 = .ok (.getfield 25, 3) := dk_180 0 25 (dk_at dksX0_tightest_1 19 rfl rfl)
theorem dX0_tightest_46 : decode cX0_tightest 46 = .ok (.iload 4, 2) := dk_21 4 (dk_at dksX0_tightest_1 22 rfl rfl)
theorem dX0_tightest_48 : decode cX0_tightest 48 = .ok (.iaload, 1) := dk_46 (dk_at dksX0_tightest_2 0 rfl rfl)
theorem dX0_tightest_49 : decode cX0_tightest 49 = .ok (.aload_n 1, 1) := dk_43 (dk_at dksX0_tightest_2 1 rfl rfl)
theorem dX0_tightest_50 : decode cX0_tightest 50 = .ok (.getfield 160, 3) := dk_180 0 160 (dk_at dksX0_tightest_2 2 rfl rfl)
theorem dX0_tightest_53 : decode cX0_tightest 53 = .ok (.if_icmp .ne 7, 3) := dk_160 0 7 (dk_at dksX0_tightest_2 5 rfl rfl)
theorem dX0_tightest_56 : decode cX0_tightest 56 = .ok (.iconst 1, 1) := dk_4 (dk_at dksX0_tightest_2 8 rfl rfl)
theorem dX0_tightest_57 : decode cX0_tightest 57 = .ok (.goto 4, 3) := dk_167 0 4 (dk_at dksX0_tightest_2 9 rfl rfl)
theorem dX0_tightest_60 : decode cX0_tightest 60 = .ok (.iconst 0, 1) := dk_3 (dk_at dksX0_tightest_2 12 rfl rfl)
theorem dX0_tightest_61 : decode cX0_tightest 61 = .ok (.istore 5, 2) := dk_54 5 (dk_at dksX0_tightest_2 13 rfl rfl)
theorem dX0_tightest_63 : decode cX0_tightest 63 = .ok (.iload 5, 2) := dk_21 5 (dk_at dksX0_tightest_2 15 rfl rfl)
theorem dX0_tightest_65 : decode cX0_tightest 65 = .ok (.ifCond .eq 28, 3) := dk_153 0 28 (dk_at dksX0_tightest_2 17 rfl rfl)
theorem dX0_tightest_68 : decode cX0_tightest 68 = .ok (.iload_n 3, 1) := dk_29 (dk_at dksX0_tightest_2 20 rfl rfl)
theorem dX0_tightest_69 : decode cX0_tightest 69 = .ok (.ifCond .lt 19, 3) := dk_155 0 19 (dk_at dksX0_tightest_2 21 rfl rfl)
theorem dX0_tightest_72 : decode cX0_tightest 72 = .ok (.aload_n 0, 1) := dk_42 (dk_at dksX0_tightest_3 0 rfl rfl)
theorem dX0_tightest_73 : decode cX0_tightest 73 = .ok (.getfield 29, 3) := dk_180 0 29 (dk_at dksX0_tightest_3 1 rfl rfl)
theorem dX0_tightest_76 : decode cX0_tightest 76 = .ok (.iload 4, 2) := dk_21 4 (dk_at dksX0_tightest_3 4 rfl rfl)
theorem dX0_tightest_78 : decode cX0_tightest 78 = .ok (.iaload, 1) := dk_46 (dk_at dksX0_tightest_3 6 rfl rfl)
theorem dX0_tightest_79 : decode cX0_tightest 79 = .ok (.aload_n 0, 1) := dk_42 (dk_at dksX0_tightest_3 7 rfl rfl)
theorem dX0_tightest_80 : decode cX0_tightest 80 = .ok (.getfield 29, 3) := dk_180 0 29 (dk_at dksX0_tightest_3 8 rfl rfl)
theorem dX0_tightest_83 : decode cX0_tightest 83 = .ok (.iload_n 3, 1) := dk_29 (dk_at dksX0_tightest_3 11 rfl rfl)
theorem dX0_tightest_84 : decode cX0_tightest 84 = .ok (.iaload, 1) := dk_46 (dk_at dksX0_tightest_3 12 rfl rfl)
theorem dX0_tightest_85 : decode cX0_tightest 85 = .ok (.if_icmp .ge 8, 3) := dk_162 0 8 (dk_at dksX0_tightest_3 13 rfl rfl)
theorem dX0_tightest_88 : decode cX0_tightest 88 = .ok (.iload 4, 2) := dk_21 4 (dk_at dksX0_tightest_3 16 rfl rfl)
theorem dX0_tightest_90 : decode cX0_tightest 90 = .ok (.goto 4, 3) := dk_167 0 4 (dk_at dksX0_tightest_3 18 rfl rfl)
theorem dX0_tightest_93 : decode cX0_tightest 93 = .ok (.iload_n 3, 1) := dk_29 (dk_at dksX0_tightest_3 21 rfl rfl)
theorem dX0_tightest_94 : decode cX0_tightest 94 = .ok (.istore_n 3, 1) := dk_62 (dk_at dksX0_tightest_3 22 rfl rfl)
theorem dX0_tightest_95 : decode cX0_tightest 95 = .ok (.iinc 4 1, 3) := dk_132 4 1 (dk_at dksX0_tightest_4 0 rfl rfl)
theorem dX0_tightest_98 : decode cX0_tightest 98 = .ok (.goto (-92), 3) := dk_167 255 164 (dk_at dksX0_tightest_4 3 rfl rfl)
theorem dX0_tightest_101 : decode cX0_tightest 101 = .ok (.iload_n 3, 1) := dk_29 (dk_at dksX0_tightest_4 6 rfl rfl)
theorem dX0_tightest_102 : decode cX0_tightest 102 = .ok (.ireturn, 1) := dk_172 (dk_at dksX0_tightest_4 7 rfl rfl)
abbrev cX0_letWaiting : ByteArray := prog_1_method_26_code
def yX0_letWaiting : MethodName := ⟨RX0, "letWaiting", "(I)V"⟩
def dkwX0_letWaiting_3 : List UInt8 := [182, 0, 199, 42, 28, 182, 0, 192, 62, 167, 255, 187, 177]
abbrev dktX0_letWaiting_3 : List UInt8 := dkwX0_letWaiting_3 ++ []
def dkwX0_letWaiting_2 : List UInt8 := [185, 0, 144, 2, 0, 192, 0, 126, 180, 0, 189, 100, 42, 180, 0, 101, 161, 0, 10, 42, 29, 4, 27]
abbrev dktX0_letWaiting_2 : List UInt8 := dkwX0_letWaiting_2 ++ dktX0_letWaiting_3
def dkwX0_letWaiting_1 : List UInt8 := [185, 0, 144, 2, 0, 192, 0, 126, 27, 182, 0, 195, 154, 0, 35, 27, 42, 180, 0, 35, 29]
abbrev dktX0_letWaiting_1 : List UInt8 := dkwX0_letWaiting_1 ++ dktX0_letWaiting_2
def dkwX0_letWaiting_0 : List UInt8 := [3, 61, 42, 28, 182, 0, 192, 62, 29, 155, 0, 71, 28, 4, 29, 120, 128, 61, 42, 42, 180, 0, 35, 29]
abbrev dktX0_letWaiting_0 : List UInt8 := dkwX0_letWaiting_0 ++ dktX0_letWaiting_1
theorem dksX0_letWaiting_0 : cX0_letWaiting.data.toList.drop 0 = dktX0_letWaiting_0 := by decide +kernel
theorem dksX0_letWaiting_1 : cX0_letWaiting.data.toList.drop 24 = dktX0_letWaiting_1 := dk_seg dksX0_letWaiting_0 24 rfl rfl
theorem dksX0_letWaiting_2 : cX0_letWaiting.data.toList.drop 45 = dktX0_letWaiting_2 := dk_seg dksX0_letWaiting_1 21 rfl rfl
theorem dksX0_letWaiting_3 : cX0_letWaiting.data.toList.drop 68 = dktX0_letWaiting_3 := dk_seg dksX0_letWaiting_2 23 rfl rfl
theorem dX0_letWaiting_0 : decode cX0_letWaiting 0 = .ok (.iconst 0, 1) := dk_3 (dk_at dksX0_letWaiting_0 0 rfl rfl)
theorem dX0_letWaiting_1 : decode cX0_letWaiting 1 = .ok (.istore_n 2, 1) := dk_61 (dk_at dksX0_letWaiting_0 1 rfl rfl)
theorem dX0_letWaiting_2 : decode cX0_letWaiting 2 = .ok (.aload_n 0, 1) := dk_42 (dk_at dksX0_letWaiting_0 2 rfl rfl)
theorem dX0_letWaiting_3 : decode cX0_letWaiting 3 = .ok (.iload_n 2, 1) := dk_28 (dk_at dksX0_letWaiting_0 3 rfl rfl)
theorem dX0_letWaiting_4 : decode cX0_letWaiting 4 = .ok (.invokevirtual 192, 3) := dk_182 0 192 (dk_at dksX0_letWaiting_0 4 rfl rfl)
theorem dX0_letWaiting_7 : decode cX0_letWaiting 7 = .ok (.istore_n 3, 1) := dk_62 (dk_at dksX0_letWaiting_0 7 rfl rfl)
theorem dX0_letWaiting_8 : decode cX0_letWaiting 8 = .ok (.iload_n 3, 1) := dk_29 (dk_at dksX0_letWaiting_0 8 rfl rfl)
theorem dX0_letWaiting_9 : decode cX0_letWaiting 9 = .ok (.ifCond .lt 71, 3) := dk_155 0 71 (dk_at dksX0_letWaiting_0 9 rfl rfl)
theorem dX0_letWaiting_12 : decode cX0_letWaiting 12 = .ok (.iload_n 2, 1) := dk_28 (dk_at dksX0_letWaiting_0 12 rfl rfl)
theorem dX0_letWaiting_13 : decode cX0_letWaiting 13 = .ok (.iconst 1, 1) := dk_4 (dk_at dksX0_letWaiting_0 13 rfl rfl)
theorem dX0_letWaiting_14 : decode cX0_letWaiting 14 = .ok (.iload_n 3, 1) := dk_29 (dk_at dksX0_letWaiting_0 14 rfl rfl)
theorem dX0_letWaiting_15 : decode cX0_letWaiting 15 = .ok (.ishl, 1) := dk_120 (dk_at dksX0_letWaiting_0 15 rfl rfl)
theorem dX0_letWaiting_16 : decode cX0_letWaiting 16 = .ok (.ior, 1) := dk_128 (dk_at dksX0_letWaiting_0 16 rfl rfl)
theorem dX0_letWaiting_17 : decode cX0_letWaiting 17 = .ok (.istore_n 2, 1) := dk_61 (dk_at dksX0_letWaiting_0 17 rfl rfl)
theorem dX0_letWaiting_18 : decode cX0_letWaiting 18 = .ok (.aload_n 0, 1) := dk_42 (dk_at dksX0_letWaiting_0 18 rfl rfl)
theorem dX0_letWaiting_19 : decode cX0_letWaiting 19 = .ok (.aload_n 0, 1) := dk_42 (dk_at dksX0_letWaiting_0 19 rfl rfl)
theorem dX0_letWaiting_20 : decode cX0_letWaiting 20 = .ok (.getfield 35, 3) := dk_180 0 35 (dk_at dksX0_letWaiting_0 20 rfl rfl)
theorem dX0_letWaiting_23 : decode cX0_letWaiting 23 = .ok (.iload_n 3, 1) := dk_29 (dk_at dksX0_letWaiting_0 23 rfl rfl)
theorem dX0_letWaiting_24 : decode cX0_letWaiting 24 = .ok (.invokeinterface 144 2, 5) := by decide +kernel
theorem dX0_letWaiting_29 : decode cX0_letWaiting 29 = .ok (.checkcast 126, 3) := dk_192 0 126 (dk_at dksX0_letWaiting_1 5 rfl rfl)
theorem dX0_letWaiting_32 : decode cX0_letWaiting 32 = .ok (.iload_n 1, 1) := dk_27 (dk_at dksX0_letWaiting_1 8 rfl rfl)
theorem dX0_letWaiting_33 : decode cX0_letWaiting 33 = .ok (.invokevirtual 195, 3) := dk_182 0 195 (dk_at dksX0_letWaiting_1 9 rfl rfl)
theorem dX0_letWaiting_36 : decode cX0_letWaiting 36 = .ok (.ifCond .ne 35, 3) := dk_154 0 35 (dk_at dksX0_letWaiting_1 12 rfl rfl)
theorem dX0_letWaiting_39 : decode cX0_letWaiting 39 = .ok (.iload_n 1, 1) := dk_27 (dk_at dksX0_letWaiting_1 15 rfl rfl)
theorem dX0_letWaiting_40 : decode cX0_letWaiting 40 = .ok (.aload_n 0, 1) := dk_42 (dk_at dksX0_letWaiting_1 16 rfl rfl)
theorem dX0_letWaiting_41 : decode cX0_letWaiting 41 = .ok (.getfield 35, 3) := dk_180 0 35 (dk_at dksX0_letWaiting_1 17 rfl rfl)
theorem dX0_letWaiting_44 : decode cX0_letWaiting 44 = .ok (.iload_n 3, 1) := dk_29 (dk_at dksX0_letWaiting_1 20 rfl rfl)
theorem dX0_letWaiting_45 : decode cX0_letWaiting 45 = .ok (.invokeinterface 144 2, 5) := by decide +kernel
theorem dX0_letWaiting_50 : decode cX0_letWaiting 50 = .ok (.checkcast 126, 3) := dk_192 0 126 (dk_at dksX0_letWaiting_2 5 rfl rfl)
theorem dX0_letWaiting_53 : decode cX0_letWaiting 53 = .ok (.getfield 189, 3) := dk_180 0 189 (dk_at dksX0_letWaiting_2 8 rfl rfl)
theorem dX0_letWaiting_56 : decode cX0_letWaiting 56 = .ok (.isub, 1) := dk_100 (dk_at dksX0_letWaiting_2 11 rfl rfl)
theorem dX0_letWaiting_57 : decode cX0_letWaiting 57 = .ok (.aload_n 0, 1) := dk_42 (dk_at dksX0_letWaiting_2 12 rfl rfl)
theorem dX0_letWaiting_58 : decode cX0_letWaiting 58 = .ok (.getfield 101, 3) := dk_180 0 101 (dk_at dksX0_letWaiting_2 13 rfl rfl)
theorem dX0_letWaiting_61 : decode cX0_letWaiting 61 = .ok (.if_icmp .lt 10, 3) := dk_161 0 10 (dk_at dksX0_letWaiting_2 16 rfl rfl)
theorem dX0_letWaiting_64 : decode cX0_letWaiting 64 = .ok (.aload_n 0, 1) := dk_42 (dk_at dksX0_letWaiting_2 19 rfl rfl)
theorem dX0_letWaiting_65 : decode cX0_letWaiting 65 = .ok (.iload_n 3, 1) := dk_29 (dk_at dksX0_letWaiting_2 20 rfl rfl)
theorem dX0_letWaiting_66 : decode cX0_letWaiting 66 = .ok (.iconst 1, 1) := dk_4 (dk_at dksX0_letWaiting_2 21 rfl rfl)
theorem dX0_letWaiting_67 : decode cX0_letWaiting 67 = .ok (.iload_n 1, 1) := dk_27 (dk_at dksX0_letWaiting_2 22 rfl rfl)
theorem dX0_letWaiting_68 : decode cX0_letWaiting 68 = .ok (.invokevirtual 199, 3) := dk_182 0 199 (dk_at dksX0_letWaiting_3 0 rfl rfl)
theorem dX0_letWaiting_71 : decode cX0_letWaiting 71 = .ok (.aload_n 0, 1) := dk_42 (dk_at dksX0_letWaiting_3 3 rfl rfl)
theorem dX0_letWaiting_72 : decode cX0_letWaiting 72 = .ok (.iload_n 2, 1) := dk_28 (dk_at dksX0_letWaiting_3 4 rfl rfl)
theorem dX0_letWaiting_73 : decode cX0_letWaiting 73 = .ok (.invokevirtual 192, 3) := dk_182 0 192 (dk_at dksX0_letWaiting_3 5 rfl rfl)
theorem dX0_letWaiting_76 : decode cX0_letWaiting 76 = .ok (.istore_n 3, 1) := dk_62 (dk_at dksX0_letWaiting_3 8 rfl rfl)
theorem dX0_letWaiting_77 : decode cX0_letWaiting 77 = .ok (.goto (-69), 3) := dk_167 255 187 (dk_at dksX0_letWaiting_3 9 rfl rfl)
theorem dX0_letWaiting_80 : decode cX0_letWaiting 80 = .ok (.return_, 1) := dk_177 (dk_at dksX0_letWaiting_3 12 rfl rfl)
abbrev cX0_nextWaiting : ByteArray := prog_1_method_24_code
def yX0_nextWaiting : MethodName := ⟨RX0, "nextWaiting", "(I)I"⟩
def dkwX0_nextWaiting_4 : List UInt8 := [167, 255, 165, 28, 172]
abbrev dktX0_nextWaiting_4 : List UInt8 := dkwX0_nextWaiting_4 ++ []
def dkwX0_nextWaiting_3 : List UInt8 := [28, 185, 0, 144, 2, 0, 192, 0, 126, 180, 0, 189, 162, 0, 7, 29, 167, 0, 4, 28, 61, 132, 3, 1]
abbrev dktX0_nextWaiting_3 : List UInt8 := dkwX0_nextWaiting_3 ++ dktX0_nextWaiting_4
def dkwX0_nextWaiting_2 : List UInt8 := [28, 155, 0, 38, 42, 180, 0, 35, 29, 185, 0, 144, 2, 0, 192, 0, 126, 180, 0, 189, 42, 180, 0, 35]
abbrev dktX0_nextWaiting_2 : List UInt8 := dkwX0_nextWaiting_2 ++ dktX0_nextWaiting_3
def dkwX0_nextWaiting_1 : List UInt8 := [7, 160, 0, 15, 27, 29, 122, 4, 126, 154, 0, 7, 4, 167, 0, 4, 3, 54, 4, 21, 4, 153, 0, 46]
abbrev dktX0_nextWaiting_1 : List UInt8 := dkwX0_nextWaiting_1 ++ dktX0_nextWaiting_2
def dkwX0_nextWaiting_0 : List UInt8 := [16, 247, 61, 3, 62, 29, 42, 180, 0, 35, 185, 0, 118, 1, 0, 162, 0, 84, 42, 180, 0, 42, 29, 46]
abbrev dktX0_nextWaiting_0 : List UInt8 := dkwX0_nextWaiting_0 ++ dktX0_nextWaiting_1
theorem dksX0_nextWaiting_0 : cX0_nextWaiting.data.toList.drop 0 = dktX0_nextWaiting_0 := by decide +kernel
theorem dksX0_nextWaiting_1 : cX0_nextWaiting.data.toList.drop 24 = dktX0_nextWaiting_1 := dk_seg dksX0_nextWaiting_0 24 rfl rfl
theorem dksX0_nextWaiting_2 : cX0_nextWaiting.data.toList.drop 48 = dktX0_nextWaiting_2 := dk_seg dksX0_nextWaiting_1 24 rfl rfl
theorem dksX0_nextWaiting_3 : cX0_nextWaiting.data.toList.drop 72 = dktX0_nextWaiting_3 := dk_seg dksX0_nextWaiting_2 24 rfl rfl
theorem dksX0_nextWaiting_4 : cX0_nextWaiting.data.toList.drop 96 = dktX0_nextWaiting_4 := dk_seg dksX0_nextWaiting_3 24 rfl rfl
theorem dX0_nextWaiting_0 : decode cX0_nextWaiting 0 = .ok (.bipush (-9), 2) := dk_16 247 (dk_at dksX0_nextWaiting_0 0 rfl rfl)
theorem dX0_nextWaiting_2 : decode cX0_nextWaiting 2 = .ok (.istore_n 2, 1) := dk_61 (dk_at dksX0_nextWaiting_0 2 rfl rfl)
theorem dX0_nextWaiting_3 : decode cX0_nextWaiting 3 = .ok (.iconst 0, 1) := dk_3 (dk_at dksX0_nextWaiting_0 3 rfl rfl)
theorem dX0_nextWaiting_4 : decode cX0_nextWaiting 4 = .ok (.istore_n 3, 1) := dk_62 (dk_at dksX0_nextWaiting_0 4 rfl rfl)
theorem dX0_nextWaiting_5 : decode cX0_nextWaiting 5 = .ok (.iload_n 3, 1) := dk_29 (dk_at dksX0_nextWaiting_0 5 rfl rfl)
theorem dX0_nextWaiting_6 : decode cX0_nextWaiting 6 = .ok (.aload_n 0, 1) := dk_42 (dk_at dksX0_nextWaiting_0 6 rfl rfl)
theorem dX0_nextWaiting_7 : decode cX0_nextWaiting 7 = .ok (.getfield 35, 3) := dk_180 0 35 (dk_at dksX0_nextWaiting_0 7 rfl rfl)
theorem dX0_nextWaiting_10 : decode cX0_nextWaiting 10 = .ok (.invokeinterface 118 1, 5) := by decide +kernel
theorem dX0_nextWaiting_15 : decode cX0_nextWaiting 15 = .ok (.if_icmp .ge 84, 3) := dk_162 0 84 (dk_at dksX0_nextWaiting_0 15 rfl rfl)
theorem dX0_nextWaiting_18 : decode cX0_nextWaiting 18 = .ok (.aload_n 0, 1) := dk_42 (dk_at dksX0_nextWaiting_0 18 rfl rfl)
theorem dX0_nextWaiting_19 : decode cX0_nextWaiting 19 = .ok (.getfield 42, 3) := dk_180 0 42 (dk_at dksX0_nextWaiting_0 19 rfl rfl)
theorem dX0_nextWaiting_22 : decode cX0_nextWaiting 22 = .ok (.iload_n 3, 1) := dk_29 (dk_at dksX0_nextWaiting_0 22 rfl rfl)
theorem dX0_nextWaiting_23 : decode cX0_nextWaiting 23 = .ok (.iaload, 1) := dk_46 (dk_at dksX0_nextWaiting_0 23 rfl rfl)
theorem dX0_nextWaiting_24 : decode cX0_nextWaiting 24 = .ok (.iconst 4, 1) := dk_7 (dk_at dksX0_nextWaiting_1 0 rfl rfl)
theorem dX0_nextWaiting_25 : decode cX0_nextWaiting 25 = .ok (.if_icmp .ne 15, 3) := dk_160 0 15 (dk_at dksX0_nextWaiting_1 1 rfl rfl)
theorem dX0_nextWaiting_28 : decode cX0_nextWaiting 28 = .ok (.iload_n 1, 1) := dk_27 (dk_at dksX0_nextWaiting_1 4 rfl rfl)
theorem dX0_nextWaiting_29 : decode cX0_nextWaiting 29 = .ok (.iload_n 3, 1) := dk_29 (dk_at dksX0_nextWaiting_1 5 rfl rfl)
theorem dX0_nextWaiting_30 : decode cX0_nextWaiting 30 = .ok (.ishr, 1) := dk_122 (dk_at dksX0_nextWaiting_1 6 rfl rfl)
theorem dX0_nextWaiting_31 : decode cX0_nextWaiting 31 = .ok (.iconst 1, 1) := dk_4 (dk_at dksX0_nextWaiting_1 7 rfl rfl)
theorem dX0_nextWaiting_32 : decode cX0_nextWaiting 32 = .ok (.iand, 1) := dk_126 (dk_at dksX0_nextWaiting_1 8 rfl rfl)
theorem dX0_nextWaiting_33 : decode cX0_nextWaiting 33 = .ok (.ifCond .ne 7, 3) := dk_154 0 7 (dk_at dksX0_nextWaiting_1 9 rfl rfl)
theorem dX0_nextWaiting_36 : decode cX0_nextWaiting 36 = .ok (.iconst 1, 1) := dk_4 (dk_at dksX0_nextWaiting_1 12 rfl rfl)
theorem dX0_nextWaiting_37 : decode cX0_nextWaiting 37 = .ok (.goto 4, 3) := dk_167 0 4 (dk_at dksX0_nextWaiting_1 13 rfl rfl)
theorem dX0_nextWaiting_40 : decode cX0_nextWaiting 40 = .ok (.iconst 0, 1) := dk_3 (dk_at dksX0_nextWaiting_1 16 rfl rfl)
theorem dX0_nextWaiting_41 : decode cX0_nextWaiting 41 = .ok (.istore 4, 2) := dk_54 4 (dk_at dksX0_nextWaiting_1 17 rfl rfl)
theorem dX0_nextWaiting_43 : decode cX0_nextWaiting 43 = .ok (.iload 4, 2) := dk_21 4 (dk_at dksX0_nextWaiting_1 19 rfl rfl)
theorem dX0_nextWaiting_45 : decode cX0_nextWaiting 45 = .ok (.ifCond .eq 46, 3) := dk_153 0 46 (dk_at dksX0_nextWaiting_1 21 rfl rfl)
theorem dX0_nextWaiting_48 : decode cX0_nextWaiting 48 = .ok (.iload_n 2, 1) := dk_28 (dk_at dksX0_nextWaiting_2 0 rfl rfl)
theorem dX0_nextWaiting_49 : decode cX0_nextWaiting 49 = .ok (.ifCond .lt 38, 3) := dk_155 0 38 (dk_at dksX0_nextWaiting_2 1 rfl rfl)
theorem dX0_nextWaiting_52 : decode cX0_nextWaiting 52 = .ok (.aload_n 0, 1) := dk_42 (dk_at dksX0_nextWaiting_2 4 rfl rfl)
theorem dX0_nextWaiting_53 : decode cX0_nextWaiting 53 = .ok (.getfield 35, 3) := dk_180 0 35 (dk_at dksX0_nextWaiting_2 5 rfl rfl)
theorem dX0_nextWaiting_56 : decode cX0_nextWaiting 56 = .ok (.iload_n 3, 1) := dk_29 (dk_at dksX0_nextWaiting_2 8 rfl rfl)
theorem dX0_nextWaiting_57 : decode cX0_nextWaiting 57 = .ok (.invokeinterface 144 2, 5) := by decide +kernel
theorem dX0_nextWaiting_62 : decode cX0_nextWaiting 62 = .ok (.checkcast 126, 3) := dk_192 0 126 (dk_at dksX0_nextWaiting_2 14 rfl rfl)
theorem dX0_nextWaiting_65 : decode cX0_nextWaiting 65 = .ok (.getfield 189, 3) := dk_180 0 189 (dk_at dksX0_nextWaiting_2 17 rfl rfl)
theorem dX0_nextWaiting_68 : decode cX0_nextWaiting 68 = .ok (.aload_n 0, 1) := dk_42 (dk_at dksX0_nextWaiting_2 20 rfl rfl)
theorem dX0_nextWaiting_69 : decode cX0_nextWaiting 69 = .ok (.getfield 35, 3) := dk_180 0 35 (dk_at dksX0_nextWaiting_2 21 rfl rfl)
theorem dX0_nextWaiting_72 : decode cX0_nextWaiting 72 = .ok (.iload_n 2, 1) := dk_28 (dk_at dksX0_nextWaiting_3 0 rfl rfl)
theorem dX0_nextWaiting_73 : decode cX0_nextWaiting 73 = .ok (.invokeinterface 144 2, 5) := by decide +kernel
theorem dX0_nextWaiting_78 : decode cX0_nextWaiting 78 = .ok (.checkcast 126, 3) := dk_192 0 126 (dk_at dksX0_nextWaiting_3 6 rfl rfl)
theorem dX0_nextWaiting_81 : decode cX0_nextWaiting 81 = .ok (.getfield 189, 3) := dk_180 0 189 (dk_at dksX0_nextWaiting_3 9 rfl rfl)
theorem dX0_nextWaiting_84 : decode cX0_nextWaiting 84 = .ok (.if_icmp .ge 7, 3) := dk_162 0 7 (dk_at dksX0_nextWaiting_3 12 rfl rfl)
theorem dX0_nextWaiting_87 : decode cX0_nextWaiting 87 = .ok (.iload_n 3, 1) := dk_29 (dk_at dksX0_nextWaiting_3 15 rfl rfl)
theorem dX0_nextWaiting_88 : decode cX0_nextWaiting 88 = .ok (.goto 4, 3) := dk_167 0 4 (dk_at dksX0_nextWaiting_3 16 rfl rfl)
theorem dX0_nextWaiting_91 : decode cX0_nextWaiting 91 = .ok (.iload_n 2, 1) := dk_28 (dk_at dksX0_nextWaiting_3 19 rfl rfl)
theorem dX0_nextWaiting_92 : decode cX0_nextWaiting 92 = .ok (.istore_n 2, 1) := dk_61 (dk_at dksX0_nextWaiting_3 20 rfl rfl)
theorem dX0_nextWaiting_93 : decode cX0_nextWaiting 93 = .ok (.iinc 3 1, 3) := dk_132 3 1 (dk_at dksX0_nextWaiting_3 21 rfl rfl)
theorem dX0_nextWaiting_96 : decode cX0_nextWaiting 96 = .ok (.goto (-91), 3) := dk_167 255 165 (dk_at dksX0_nextWaiting_4 0 rfl rfl)
theorem dX0_nextWaiting_99 : decode cX0_nextWaiting 99 = .ok (.iload_n 2, 1) := dk_28 (dk_at dksX0_nextWaiting_4 3 rfl rfl)
theorem dX0_nextWaiting_100 : decode cX0_nextWaiting 100 = .ok (.ireturn, 1) := dk_172 (dk_at dksX0_nextWaiting_4 4 rfl rfl)
abbrev cX0_sitsDown : ByteArray := prog_1_method_21_code
def yX0_sitsDown : MethodName := ⟨RX0, "sitsDown", "(LCafeTables$Guest;I)Z"⟩
def dkwX0_sitsDown_2 : List UInt8 := [3, 182, 0, 181, 96, 79, 42, 180, 0, 42, 29, 6, 79, 4, 172]
abbrev dktX0_sitsDown_2 : List UInt8 := dkwX0_sitsDown_2 ++ []
def dkwX0_sitsDown_1 : List UInt8 := [180, 0, 48, 29, 28, 79, 42, 180, 0, 51, 29, 28, 43, 42, 182, 0, 178, 158, 0, 7, 4, 167, 0, 4]
abbrev dktX0_sitsDown_1 : List UInt8 := dkwX0_sitsDown_1 ++ dktX0_sitsDown_2
def dkwX0_sitsDown_0 : List UInt8 := [42, 43, 182, 0, 174, 154, 0, 5, 3, 172, 43, 180, 0, 171, 62, 42, 180, 0, 42, 29, 2, 79, 42]
abbrev dktX0_sitsDown_0 : List UInt8 := dkwX0_sitsDown_0 ++ dktX0_sitsDown_1
theorem dksX0_sitsDown_0 : cX0_sitsDown.data.toList.drop 0 = dktX0_sitsDown_0 := by decide +kernel
theorem dksX0_sitsDown_1 : cX0_sitsDown.data.toList.drop 23 = dktX0_sitsDown_1 := dk_seg dksX0_sitsDown_0 23 rfl rfl
theorem dksX0_sitsDown_2 : cX0_sitsDown.data.toList.drop 47 = dktX0_sitsDown_2 := dk_seg dksX0_sitsDown_1 24 rfl rfl
theorem dX0_sitsDown_0 : decode cX0_sitsDown 0 = .ok (.aload_n 0, 1) := dk_42 (dk_at dksX0_sitsDown_0 0 rfl rfl)
theorem dX0_sitsDown_1 : decode cX0_sitsDown 1 = .ok (.aload_n 1, 1) := dk_43 (dk_at dksX0_sitsDown_0 1 rfl rfl)
theorem dX0_sitsDown_2 : decode cX0_sitsDown 2 = .ok (.invokevirtual 174, 3) := dk_182 0 174 (dk_at dksX0_sitsDown_0 2 rfl rfl)
theorem dX0_sitsDown_5 : decode cX0_sitsDown 5 = .ok (.ifCond .ne 5, 3) := dk_154 0 5 (dk_at dksX0_sitsDown_0 5 rfl rfl)
theorem dX0_sitsDown_8 : decode cX0_sitsDown 8 = .ok (.iconst 0, 1) := dk_3 (dk_at dksX0_sitsDown_0 8 rfl rfl)
theorem dX0_sitsDown_9 : decode cX0_sitsDown 9 = .ok (.ireturn, 1) := dk_172 (dk_at dksX0_sitsDown_0 9 rfl rfl)
theorem dX0_sitsDown_10 : decode cX0_sitsDown 10 = .ok (.aload_n 1, 1) := dk_43 (dk_at dksX0_sitsDown_0 10 rfl rfl)
theorem dX0_sitsDown_11 : decode cX0_sitsDown 11 = .ok (.getfield 171, 3) := dk_180 0 171 (dk_at dksX0_sitsDown_0 11 rfl rfl)
theorem dX0_sitsDown_14 : decode cX0_sitsDown 14 = .ok (.istore_n 3, 1) := dk_62 (dk_at dksX0_sitsDown_0 14 rfl rfl)
theorem dX0_sitsDown_15 : decode cX0_sitsDown 15 = .ok (.aload_n 0, 1) := dk_42 (dk_at dksX0_sitsDown_0 15 rfl rfl)
theorem dX0_sitsDown_16 : decode cX0_sitsDown 16 = .ok (.getfield 42, 3) := dk_180 0 42 (dk_at dksX0_sitsDown_0 16 rfl rfl)
theorem dX0_sitsDown_19 : decode cX0_sitsDown 19 = .ok (.iload_n 3, 1) := dk_29 (dk_at dksX0_sitsDown_0 19 rfl rfl)
theorem dX0_sitsDown_20 : decode cX0_sitsDown 20 = .ok (.iconst (-1), 1) := dk_2 (dk_at dksX0_sitsDown_0 20 rfl rfl)
theorem dX0_sitsDown_21 : decode cX0_sitsDown 21 = .ok (.iastore, 1) := dk_79 (dk_at dksX0_sitsDown_0 21 rfl rfl)
theorem dX0_sitsDown_22 : decode cX0_sitsDown 22 = .ok (.aload_n 0, 1) := dk_42 (dk_at dksX0_sitsDown_0 22 rfl rfl)
theorem dX0_sitsDown_23 : decode cX0_sitsDown 23 = .ok (.getfield 48, 3) := dk_180 0 48 (dk_at dksX0_sitsDown_1 0 rfl rfl)
theorem dX0_sitsDown_26 : decode cX0_sitsDown 26 = .ok (.iload_n 3, 1) := dk_29 (dk_at dksX0_sitsDown_1 3 rfl rfl)
theorem dX0_sitsDown_27 : decode cX0_sitsDown 27 = .ok (.iload_n 2, 1) := dk_28 (dk_at dksX0_sitsDown_1 4 rfl rfl)
theorem dX0_sitsDown_28 : decode cX0_sitsDown 28 = .ok (.iastore, 1) := dk_79 (dk_at dksX0_sitsDown_1 5 rfl rfl)
theorem dX0_sitsDown_29 : decode cX0_sitsDown 29 = .ok (.aload_n 0, 1) := dk_42 (dk_at dksX0_sitsDown_1 6 rfl rfl)
theorem dX0_sitsDown_30 : decode cX0_sitsDown 30 = .ok (.getfield 51, 3) := dk_180 0 51 (dk_at dksX0_sitsDown_1 7 rfl rfl)
theorem dX0_sitsDown_33 : decode cX0_sitsDown 33 = .ok (.iload_n 3, 1) := dk_29 (dk_at dksX0_sitsDown_1 10 rfl rfl)
theorem dX0_sitsDown_34 : decode cX0_sitsDown 34 = .ok (.iload_n 2, 1) := dk_28 (dk_at dksX0_sitsDown_1 11 rfl rfl)
theorem dX0_sitsDown_35 : decode cX0_sitsDown 35 = .ok (.aload_n 1, 1) := dk_43 (dk_at dksX0_sitsDown_1 12 rfl rfl)
theorem dX0_sitsDown_36 : decode cX0_sitsDown 36 = .ok (.aload_n 0, 1) := dk_42 (dk_at dksX0_sitsDown_1 13 rfl rfl)
theorem dX0_sitsDown_37 : decode cX0_sitsDown 37 = .ok (.invokevirtual 178, 3) := dk_182 0 178 (dk_at dksX0_sitsDown_1 14 rfl rfl)
theorem dX0_sitsDown_40 : decode cX0_sitsDown 40 = .ok (.ifCond .le 7, 3) := dk_158 0 7 (dk_at dksX0_sitsDown_1 17 rfl rfl)
theorem dX0_sitsDown_43 : decode cX0_sitsDown 43 = .ok (.iconst 1, 1) := dk_4 (dk_at dksX0_sitsDown_1 20 rfl rfl)
theorem dX0_sitsDown_44 : decode cX0_sitsDown 44 = .ok (.goto 4, 3) := dk_167 0 4 (dk_at dksX0_sitsDown_1 21 rfl rfl)
theorem dX0_sitsDown_47 : decode cX0_sitsDown 47 = .ok (.iconst 0, 1) := dk_3 (dk_at dksX0_sitsDown_2 0 rfl rfl)
theorem dX0_sitsDown_48 : decode cX0_sitsDown 48 = .ok (.invokevirtual 181, 3) := dk_182 0 181 (dk_at dksX0_sitsDown_2 1 rfl rfl)
theorem dX0_sitsDown_51 : decode cX0_sitsDown 51 = .ok (.iadd, 1) := dk_96 (dk_at dksX0_sitsDown_2 4 rfl rfl)
theorem dX0_sitsDown_52 : decode cX0_sitsDown 52 = .ok (.iastore, 1) := dk_79 (dk_at dksX0_sitsDown_2 5 rfl rfl)
theorem dX0_sitsDown_53 : decode cX0_sitsDown 53 = .ok (.aload_n 0, 1) := dk_42 (dk_at dksX0_sitsDown_2 6 rfl rfl)
theorem dX0_sitsDown_54 : decode cX0_sitsDown 54 = .ok (.getfield 42, 3) := dk_180 0 42 (dk_at dksX0_sitsDown_2 7 rfl rfl)
theorem dX0_sitsDown_57 : decode cX0_sitsDown 57 = .ok (.iload_n 3, 1) := dk_29 (dk_at dksX0_sitsDown_2 10 rfl rfl)
theorem dX0_sitsDown_58 : decode cX0_sitsDown 58 = .ok (.iconst 3, 1) := dk_6 (dk_at dksX0_sitsDown_2 11 rfl rfl)
theorem dX0_sitsDown_59 : decode cX0_sitsDown 59 = .ok (.iastore, 1) := dk_79 (dk_at dksX0_sitsDown_2 12 rfl rfl)
theorem dX0_sitsDown_60 : decode cX0_sitsDown 60 = .ok (.iconst 1, 1) := dk_4 (dk_at dksX0_sitsDown_2 13 rfl rfl)
theorem dX0_sitsDown_61 : decode cX0_sitsDown 61 = .ok (.ireturn, 1) := dk_172 (dk_at dksX0_sitsDown_2 14 rfl rfl)
abbrev cX0_waitingNow : ByteArray := prog_1_method_17_code
def yX0_waitingNow : MethodName := ⟨RX0, "waitingNow", "()I"⟩
def dkwX0_waitingNow_1 : List UInt8 := [7, 160, 0, 7, 4, 167, 0, 4, 3, 96, 60, 132, 2, 1, 167, 255, 222, 27, 172]
abbrev dktX0_waitingNow_1 : List UInt8 := dkwX0_waitingNow_1 ++ []
def dkwX0_waitingNow_0 : List UInt8 := [3, 60, 3, 61, 28, 42, 180, 0, 35, 185, 0, 118, 1, 0, 162, 0, 27, 27, 42, 180, 0, 42, 28, 46]
abbrev dktX0_waitingNow_0 : List UInt8 := dkwX0_waitingNow_0 ++ dktX0_waitingNow_1
theorem dksX0_waitingNow_0 : cX0_waitingNow.data.toList.drop 0 = dktX0_waitingNow_0 := by decide +kernel
theorem dksX0_waitingNow_1 : cX0_waitingNow.data.toList.drop 24 = dktX0_waitingNow_1 := dk_seg dksX0_waitingNow_0 24 rfl rfl
theorem dX0_waitingNow_0 : decode cX0_waitingNow 0 = .ok (.iconst 0, 1) := dk_3 (dk_at dksX0_waitingNow_0 0 rfl rfl)
theorem dX0_waitingNow_1 : decode cX0_waitingNow 1 = .ok (.istore_n 1, 1) := dk_60 (dk_at dksX0_waitingNow_0 1 rfl rfl)
theorem dX0_waitingNow_2 : decode cX0_waitingNow 2 = .ok (.iconst 0, 1) := dk_3 (dk_at dksX0_waitingNow_0 2 rfl rfl)
theorem dX0_waitingNow_3 : decode cX0_waitingNow 3 = .ok (.istore_n 2, 1) := dk_61 (dk_at dksX0_waitingNow_0 3 rfl rfl)
theorem dX0_waitingNow_4 : decode cX0_waitingNow 4 = .ok (.iload_n 2, 1) := dk_28 (dk_at dksX0_waitingNow_0 4 rfl rfl)
theorem dX0_waitingNow_5 : decode cX0_waitingNow 5 = .ok (.aload_n 0, 1) := dk_42 (dk_at dksX0_waitingNow_0 5 rfl rfl)
theorem dX0_waitingNow_6 : decode cX0_waitingNow 6 = .ok (.getfield 35, 3) := dk_180 0 35 (dk_at dksX0_waitingNow_0 6 rfl rfl)
theorem dX0_waitingNow_9 : decode cX0_waitingNow 9 = .ok (.invokeinterface 118 1, 5) := by decide +kernel
theorem dX0_waitingNow_14 : decode cX0_waitingNow 14 = .ok (.if_icmp .ge 27, 3) := dk_162 0 27 (dk_at dksX0_waitingNow_0 14 rfl rfl)
theorem dX0_waitingNow_17 : decode cX0_waitingNow 17 = .ok (.iload_n 1, 1) := dk_27 (dk_at dksX0_waitingNow_0 17 rfl rfl)
theorem dX0_waitingNow_18 : decode cX0_waitingNow 18 = .ok (.aload_n 0, 1) := dk_42 (dk_at dksX0_waitingNow_0 18 rfl rfl)
theorem dX0_waitingNow_19 : decode cX0_waitingNow 19 = .ok (.getfield 42, 3) := dk_180 0 42 (dk_at dksX0_waitingNow_0 19 rfl rfl)
theorem dX0_waitingNow_22 : decode cX0_waitingNow 22 = .ok (.iload_n 2, 1) := dk_28 (dk_at dksX0_waitingNow_0 22 rfl rfl)
theorem dX0_waitingNow_23 : decode cX0_waitingNow 23 = .ok (.iaload, 1) := dk_46 (dk_at dksX0_waitingNow_0 23 rfl rfl)
theorem dX0_waitingNow_24 : decode cX0_waitingNow 24 = .ok (.iconst 4, 1) := dk_7 (dk_at dksX0_waitingNow_1 0 rfl rfl)
theorem dX0_waitingNow_25 : decode cX0_waitingNow 25 = .ok (.if_icmp .ne 7, 3) := dk_160 0 7 (dk_at dksX0_waitingNow_1 1 rfl rfl)
theorem dX0_waitingNow_28 : decode cX0_waitingNow 28 = .ok (.iconst 1, 1) := dk_4 (dk_at dksX0_waitingNow_1 4 rfl rfl)
theorem dX0_waitingNow_29 : decode cX0_waitingNow 29 = .ok (.goto 4, 3) := dk_167 0 4 (dk_at dksX0_waitingNow_1 5 rfl rfl)
theorem dX0_waitingNow_32 : decode cX0_waitingNow 32 = .ok (.iconst 0, 1) := dk_3 (dk_at dksX0_waitingNow_1 8 rfl rfl)
theorem dX0_waitingNow_33 : decode cX0_waitingNow 33 = .ok (.iadd, 1) := dk_96 (dk_at dksX0_waitingNow_1 9 rfl rfl)
theorem dX0_waitingNow_34 : decode cX0_waitingNow 34 = .ok (.istore_n 1, 1) := dk_60 (dk_at dksX0_waitingNow_1 10 rfl rfl)
theorem dX0_waitingNow_35 : decode cX0_waitingNow 35 = .ok (.iinc 2 1, 3) := dk_132 2 1 (dk_at dksX0_waitingNow_1 11 rfl rfl)
theorem dX0_waitingNow_38 : decode cX0_waitingNow 38 = .ok (.goto (-34), 3) := dk_167 255 222 (dk_at dksX0_waitingNow_1 14 rfl rfl)
theorem dX0_waitingNow_41 : decode cX0_waitingNow 41 = .ok (.iload_n 1, 1) := dk_27 (dk_at dksX0_waitingNow_1 17 rfl rfl)
theorem dX0_waitingNow_42 : decode cX0_waitingNow 42 = .ok (.ireturn, 1) := dk_172 (dk_at dksX0_waitingNow_1 18 rfl rfl)
abbrev cX0_goesOff : ByteArray := prog_1_method_25_code
def yX0_goesOff : MethodName := ⟨RX0, "goesOff", "(III)V"⟩
def dkwX0_goesOff_0 : List UInt8 := [42, 180, 0, 42, 27, 28, 79, 42, 180, 0, 54, 27, 29, 79, 177]
abbrev dktX0_goesOff_0 : List UInt8 := dkwX0_goesOff_0 ++ []
theorem dksX0_goesOff_0 : cX0_goesOff.data.toList.drop 0 = dktX0_goesOff_0 := by decide +kernel
theorem dX0_goesOff_0 : decode cX0_goesOff 0 = .ok (.aload_n 0, 1) := dk_42 (dk_at dksX0_goesOff_0 0 rfl rfl)
theorem dX0_goesOff_1 : decode cX0_goesOff 1 = .ok (.getfield 42, 3) := dk_180 0 42 (dk_at dksX0_goesOff_0 1 rfl rfl)
theorem dX0_goesOff_4 : decode cX0_goesOff 4 = .ok (.iload_n 1, 1) := dk_27 (dk_at dksX0_goesOff_0 4 rfl rfl)
theorem dX0_goesOff_5 : decode cX0_goesOff 5 = .ok (.iload_n 2, 1) := dk_28 (dk_at dksX0_goesOff_0 5 rfl rfl)
theorem dX0_goesOff_6 : decode cX0_goesOff 6 = .ok (.iastore, 1) := dk_79 (dk_at dksX0_goesOff_0 6 rfl rfl)
theorem dX0_goesOff_7 : decode cX0_goesOff 7 = .ok (.aload_n 0, 1) := dk_42 (dk_at dksX0_goesOff_0 7 rfl rfl)
theorem dX0_goesOff_8 : decode cX0_goesOff 8 = .ok (.getfield 54, 3) := dk_180 0 54 (dk_at dksX0_goesOff_0 8 rfl rfl)
theorem dX0_goesOff_11 : decode cX0_goesOff 11 = .ok (.iload_n 1, 1) := dk_27 (dk_at dksX0_goesOff_0 11 rfl rfl)
theorem dX0_goesOff_12 : decode cX0_goesOff 12 = .ok (.iload_n 3, 1) := dk_29 (dk_at dksX0_goesOff_0 12 rfl rfl)
theorem dX0_goesOff_13 : decode cX0_goesOff 13 = .ok (.iastore, 1) := dk_79 (dk_at dksX0_goesOff_0 13 rfl rfl)
theorem dX0_goesOff_14 : decode cX0_goesOff 14 = .ok (.return_, 1) := dk_177 (dk_at dksX0_goesOff_0 14 rfl rfl)
abbrev cX0_letCome : ByteArray := prog_1_method_27_code
def yX0_letCome : MethodName := ⟨RX0, "letCome", "(I)V"⟩
def dkwX0_letCome_4 : List UInt8 := [182, 0, 199, 132, 2, 1, 167, 255, 160, 177]
abbrev dktX0_letCome_4 : List UInt8 := dkwX0_letCome_4 ++ []
def dkwX0_letCome_3 : List UInt8 := [42, 45, 27, 182, 0, 195, 154, 0, 21, 42, 28, 42, 180, 0, 101, 158, 0, 7, 7, 167, 0, 4, 4, 27]
abbrev dktX0_letCome_3 : List UInt8 := dkwX0_letCome_3 ++ dktX0_letCome_4
def dkwX0_letCome_2 : List UInt8 := [160, 0, 51, 42, 182, 0, 203, 45, 180, 0, 206, 162, 0, 13, 42, 28, 5, 27, 182, 0, 199, 167, 0, 30]
abbrev dktX0_letCome_2 : List UInt8 := dkwX0_letCome_2 ++ dktX0_letCome_3
def dkwX0_letCome_1 : List UInt8 := [185, 0, 144, 2, 0, 192, 0, 126, 78, 45, 180, 0, 189, 27, 160, 0, 61, 42, 180, 0, 42, 28, 46, 2]
abbrev dktX0_letCome_1 : List UInt8 := dkwX0_letCome_1 ++ dktX0_letCome_2
def dkwX0_letCome_0 : List UInt8 := [3, 61, 28, 42, 180, 0, 35, 185, 0, 118, 1, 0, 162, 0, 89, 42, 180, 0, 35, 28]
abbrev dktX0_letCome_0 : List UInt8 := dkwX0_letCome_0 ++ dktX0_letCome_1
theorem dksX0_letCome_0 : cX0_letCome.data.toList.drop 0 = dktX0_letCome_0 := by decide +kernel
theorem dksX0_letCome_1 : cX0_letCome.data.toList.drop 20 = dktX0_letCome_1 := dk_seg dksX0_letCome_0 20 rfl rfl
theorem dksX0_letCome_2 : cX0_letCome.data.toList.drop 44 = dktX0_letCome_2 := dk_seg dksX0_letCome_1 24 rfl rfl
theorem dksX0_letCome_3 : cX0_letCome.data.toList.drop 68 = dktX0_letCome_3 := dk_seg dksX0_letCome_2 24 rfl rfl
theorem dksX0_letCome_4 : cX0_letCome.data.toList.drop 92 = dktX0_letCome_4 := dk_seg dksX0_letCome_3 24 rfl rfl
theorem dX0_letCome_0 : decode cX0_letCome 0 = .ok (.iconst 0, 1) := dk_3 (dk_at dksX0_letCome_0 0 rfl rfl)
theorem dX0_letCome_1 : decode cX0_letCome 1 = .ok (.istore_n 2, 1) := dk_61 (dk_at dksX0_letCome_0 1 rfl rfl)
theorem dX0_letCome_2 : decode cX0_letCome 2 = .ok (.iload_n 2, 1) := dk_28 (dk_at dksX0_letCome_0 2 rfl rfl)
theorem dX0_letCome_3 : decode cX0_letCome 3 = .ok (.aload_n 0, 1) := dk_42 (dk_at dksX0_letCome_0 3 rfl rfl)
theorem dX0_letCome_4 : decode cX0_letCome 4 = .ok (.getfield 35, 3) := dk_180 0 35 (dk_at dksX0_letCome_0 4 rfl rfl)
theorem dX0_letCome_7 : decode cX0_letCome 7 = .ok (.invokeinterface 118 1, 5) := by decide +kernel
theorem dX0_letCome_12 : decode cX0_letCome 12 = .ok (.if_icmp .ge 89, 3) := dk_162 0 89 (dk_at dksX0_letCome_0 12 rfl rfl)
theorem dX0_letCome_15 : decode cX0_letCome 15 = .ok (.aload_n 0, 1) := dk_42 (dk_at dksX0_letCome_0 15 rfl rfl)
theorem dX0_letCome_16 : decode cX0_letCome 16 = .ok (.getfield 35, 3) := dk_180 0 35 (dk_at dksX0_letCome_0 16 rfl rfl)
theorem dX0_letCome_19 : decode cX0_letCome 19 = .ok (.iload_n 2, 1) := dk_28 (dk_at dksX0_letCome_0 19 rfl rfl)
theorem dX0_letCome_20 : decode cX0_letCome 20 = .ok (.invokeinterface 144 2, 5) := by decide +kernel
theorem dX0_letCome_25 : decode cX0_letCome 25 = .ok (.checkcast 126, 3) := dk_192 0 126 (dk_at dksX0_letCome_1 5 rfl rfl)
theorem dX0_letCome_28 : decode cX0_letCome 28 = .ok (.astore_n 3, 1) := dk_78 (dk_at dksX0_letCome_1 8 rfl rfl)
theorem dX0_letCome_29 : decode cX0_letCome 29 = .ok (.aload_n 3, 1) := dk_45 (dk_at dksX0_letCome_1 9 rfl rfl)
theorem dX0_letCome_30 : decode cX0_letCome 30 = .ok (.getfield 189, 3) := dk_180 0 189 (dk_at dksX0_letCome_1 10 rfl rfl)
theorem dX0_letCome_33 : decode cX0_letCome 33 = .ok (.iload_n 1, 1) := dk_27 (dk_at dksX0_letCome_1 13 rfl rfl)
theorem dX0_letCome_34 : decode cX0_letCome 34 = .ok (.if_icmp .ne 61, 3) := dk_160 0 61 (dk_at dksX0_letCome_1 14 rfl rfl)
theorem dX0_letCome_37 : decode cX0_letCome 37 = .ok (.aload_n 0, 1) := dk_42 (dk_at dksX0_letCome_1 17 rfl rfl)
theorem dX0_letCome_38 : decode cX0_letCome 38 = .ok (.getfield 42, 3) := dk_180 0 42 (dk_at dksX0_letCome_1 18 rfl rfl)
theorem dX0_letCome_41 : decode cX0_letCome 41 = .ok (.iload_n 2, 1) := dk_28 (dk_at dksX0_letCome_1 21 rfl rfl)
theorem dX0_letCome_42 : decode cX0_letCome 42 = .ok (.iaload, 1) := dk_46 (dk_at dksX0_letCome_1 22 rfl rfl)
theorem dX0_letCome_43 : decode cX0_letCome 43 = .ok (.iconst (-1), 1) := dk_2 (dk_at dksX0_letCome_1 23 rfl rfl)
theorem dX0_letCome_44 : decode cX0_letCome 44 = .ok (.if_icmp .ne 51, 3) := dk_160 0 51 (dk_at dksX0_letCome_2 0 rfl rfl)
theorem dX0_letCome_47 : decode cX0_letCome 47 = .ok (.aload_n 0, 1) := dk_42 (dk_at dksX0_letCome_2 3 rfl rfl)
theorem dX0_letCome_48 : decode cX0_letCome 48 = .ok (.invokevirtual 203, 3) := dk_182 0 203 (dk_at dksX0_letCome_2 4 rfl rfl)
theorem dX0_letCome_51 : decode cX0_letCome 51 = .ok (.aload_n 3, 1) := dk_45 (dk_at dksX0_letCome_2 7 rfl rfl)
theorem dX0_letCome_52 : decode cX0_letCome 52 = .ok (.getfield 206, 3) := dk_180 0 206 (dk_at dksX0_letCome_2 8 rfl rfl)
theorem dX0_letCome_55 : decode cX0_letCome 55 = .ok (.if_icmp .ge 13, 3) := dk_162 0 13 (dk_at dksX0_letCome_2 11 rfl rfl)
theorem dX0_letCome_58 : decode cX0_letCome 58 = .ok (.aload_n 0, 1) := dk_42 (dk_at dksX0_letCome_2 14 rfl rfl)
theorem dX0_letCome_59 : decode cX0_letCome 59 = .ok (.iload_n 2, 1) := dk_28 (dk_at dksX0_letCome_2 15 rfl rfl)
theorem dX0_letCome_60 : decode cX0_letCome 60 = .ok (.iconst 2, 1) := dk_5 (dk_at dksX0_letCome_2 16 rfl rfl)
theorem dX0_letCome_61 : decode cX0_letCome 61 = .ok (.iload_n 1, 1) := dk_27 (dk_at dksX0_letCome_2 17 rfl rfl)
theorem dX0_letCome_62 : decode cX0_letCome 62 = .ok (.invokevirtual 199, 3) := dk_182 0 199 (dk_at dksX0_letCome_2 18 rfl rfl)
theorem dX0_letCome_65 : decode cX0_letCome 65 = .ok (.goto 30, 3) := dk_167 0 30 (dk_at dksX0_letCome_2 21 rfl rfl)
theorem dX0_letCome_68 : decode cX0_letCome 68 = .ok (.aload_n 0, 1) := dk_42 (dk_at dksX0_letCome_3 0 rfl rfl)
theorem dX0_letCome_69 : decode cX0_letCome 69 = .ok (.aload_n 3, 1) := dk_45 (dk_at dksX0_letCome_3 1 rfl rfl)
theorem dX0_letCome_70 : decode cX0_letCome 70 = .ok (.iload_n 1, 1) := dk_27 (dk_at dksX0_letCome_3 2 rfl rfl)
theorem dX0_letCome_71 : decode cX0_letCome 71 = .ok (.invokevirtual 195, 3) := dk_182 0 195 (dk_at dksX0_letCome_3 3 rfl rfl)
theorem dX0_letCome_74 : decode cX0_letCome 74 = .ok (.ifCond .ne 21, 3) := dk_154 0 21 (dk_at dksX0_letCome_3 6 rfl rfl)
theorem dX0_letCome_77 : decode cX0_letCome 77 = .ok (.aload_n 0, 1) := dk_42 (dk_at dksX0_letCome_3 9 rfl rfl)
theorem dX0_letCome_78 : decode cX0_letCome 78 = .ok (.iload_n 2, 1) := dk_28 (dk_at dksX0_letCome_3 10 rfl rfl)
theorem dX0_letCome_79 : decode cX0_letCome 79 = .ok (.aload_n 0, 1) := dk_42 (dk_at dksX0_letCome_3 11 rfl rfl)
theorem dX0_letCome_80 : decode cX0_letCome 80 = .ok (.getfield 101, 3) := dk_180 0 101 (dk_at dksX0_letCome_3 12 rfl rfl)
theorem dX0_letCome_83 : decode cX0_letCome 83 = .ok (.ifCond .le 7, 3) := dk_158 0 7 (dk_at dksX0_letCome_3 15 rfl rfl)
theorem dX0_letCome_86 : decode cX0_letCome 86 = .ok (.iconst 4, 1) := dk_7 (dk_at dksX0_letCome_3 18 rfl rfl)
theorem dX0_letCome_87 : decode cX0_letCome 87 = .ok (.goto 4, 3) := dk_167 0 4 (dk_at dksX0_letCome_3 19 rfl rfl)
theorem dX0_letCome_90 : decode cX0_letCome 90 = .ok (.iconst 1, 1) := dk_4 (dk_at dksX0_letCome_3 22 rfl rfl)
theorem dX0_letCome_91 : decode cX0_letCome 91 = .ok (.iload_n 1, 1) := dk_27 (dk_at dksX0_letCome_3 23 rfl rfl)
theorem dX0_letCome_92 : decode cX0_letCome 92 = .ok (.invokevirtual 199, 3) := dk_182 0 199 (dk_at dksX0_letCome_4 0 rfl rfl)
theorem dX0_letCome_95 : decode cX0_letCome 95 = .ok (.iinc 2 1, 3) := dk_132 2 1 (dk_at dksX0_letCome_4 3 rfl rfl)
theorem dX0_letCome_98 : decode cX0_letCome 98 = .ok (.goto (-96), 3) := dk_167 255 160 (dk_at dksX0_letCome_4 6 rfl rfl)
theorem dX0_letCome_101 : decode cX0_letCome 101 = .ok (.return_, 1) := dk_177 (dk_at dksX0_letCome_4 9 rfl rfl)
abbrev cX0_takenNow : ByteArray := prog_1_method_16_code
def yX0_takenNow : MethodName := ⟨RX0, "takenNow", "()I"⟩
def dkwX0_takenNow_1 : List UInt8 := [167, 0, 4, 4, 96, 60, 132, 2, 1, 167, 255, 228, 27, 172]
abbrev dktX0_takenNow_1 : List UInt8 := dkwX0_takenNow_1 ++ []
def dkwX0_takenNow_0 : List UInt8 := [3, 60, 3, 61, 28, 42, 180, 0, 78, 162, 0, 26, 27, 42, 180, 0, 39, 28, 46, 156, 0, 7, 3]
abbrev dktX0_takenNow_0 : List UInt8 := dkwX0_takenNow_0 ++ dktX0_takenNow_1
theorem dksX0_takenNow_0 : cX0_takenNow.data.toList.drop 0 = dktX0_takenNow_0 := by decide +kernel
theorem dksX0_takenNow_1 : cX0_takenNow.data.toList.drop 23 = dktX0_takenNow_1 := dk_seg dksX0_takenNow_0 23 rfl rfl
theorem dX0_takenNow_0 : decode cX0_takenNow 0 = .ok (.iconst 0, 1) := dk_3 (dk_at dksX0_takenNow_0 0 rfl rfl)
theorem dX0_takenNow_1 : decode cX0_takenNow 1 = .ok (.istore_n 1, 1) := dk_60 (dk_at dksX0_takenNow_0 1 rfl rfl)
theorem dX0_takenNow_2 : decode cX0_takenNow 2 = .ok (.iconst 0, 1) := dk_3 (dk_at dksX0_takenNow_0 2 rfl rfl)
theorem dX0_takenNow_3 : decode cX0_takenNow 3 = .ok (.istore_n 2, 1) := dk_61 (dk_at dksX0_takenNow_0 3 rfl rfl)
theorem dX0_takenNow_4 : decode cX0_takenNow 4 = .ok (.iload_n 2, 1) := dk_28 (dk_at dksX0_takenNow_0 4 rfl rfl)
theorem dX0_takenNow_5 : decode cX0_takenNow 5 = .ok (.aload_n 0, 1) := dk_42 (dk_at dksX0_takenNow_0 5 rfl rfl)
theorem dX0_takenNow_6 : decode cX0_takenNow 6 = .ok (.getfield 78, 3) := dk_180 0 78 (dk_at dksX0_takenNow_0 6 rfl rfl)
theorem dX0_takenNow_9 : decode cX0_takenNow 9 = .ok (.if_icmp .ge 26, 3) := dk_162 0 26 (dk_at dksX0_takenNow_0 9 rfl rfl)
theorem dX0_takenNow_12 : decode cX0_takenNow 12 = .ok (.iload_n 1, 1) := dk_27 (dk_at dksX0_takenNow_0 12 rfl rfl)
theorem dX0_takenNow_13 : decode cX0_takenNow 13 = .ok (.aload_n 0, 1) := dk_42 (dk_at dksX0_takenNow_0 13 rfl rfl)
theorem dX0_takenNow_14 : decode cX0_takenNow 14 = .ok (.getfield 39, 3) := dk_180 0 39 (dk_at dksX0_takenNow_0 14 rfl rfl)
theorem dX0_takenNow_17 : decode cX0_takenNow 17 = .ok (.iload_n 2, 1) := dk_28 (dk_at dksX0_takenNow_0 17 rfl rfl)
theorem dX0_takenNow_18 : decode cX0_takenNow 18 = .ok (.iaload, 1) := dk_46 (dk_at dksX0_takenNow_0 18 rfl rfl)
theorem dX0_takenNow_19 : decode cX0_takenNow 19 = .ok (.ifCond .ge 7, 3) := dk_156 0 7 (dk_at dksX0_takenNow_0 19 rfl rfl)
theorem dX0_takenNow_22 : decode cX0_takenNow 22 = .ok (.iconst 0, 1) := dk_3 (dk_at dksX0_takenNow_0 22 rfl rfl)
theorem dX0_takenNow_23 : decode cX0_takenNow 23 = .ok (.goto 4, 3) := dk_167 0 4 (dk_at dksX0_takenNow_1 0 rfl rfl)
theorem dX0_takenNow_26 : decode cX0_takenNow 26 = .ok (.iconst 1, 1) := dk_4 (dk_at dksX0_takenNow_1 3 rfl rfl)
theorem dX0_takenNow_27 : decode cX0_takenNow 27 = .ok (.iadd, 1) := dk_96 (dk_at dksX0_takenNow_1 4 rfl rfl)
theorem dX0_takenNow_28 : decode cX0_takenNow 28 = .ok (.istore_n 1, 1) := dk_60 (dk_at dksX0_takenNow_1 5 rfl rfl)
theorem dX0_takenNow_29 : decode cX0_takenNow 29 = .ok (.iinc 2 1, 3) := dk_132 2 1 (dk_at dksX0_takenNow_1 6 rfl rfl)
theorem dX0_takenNow_32 : decode cX0_takenNow 32 = .ok (.goto (-28), 3) := dk_167 255 228 (dk_at dksX0_takenNow_1 9 rfl rfl)
theorem dX0_takenNow_35 : decode cX0_takenNow 35 = .ok (.iload_n 1, 1) := dk_27 (dk_at dksX0_takenNow_1 12 rfl rfl)
theorem dX0_takenNow_36 : decode cX0_takenNow 36 = .ok (.ireturn, 1) := dk_172 (dk_at dksX0_takenNow_1 13 rfl rfl)
abbrev cX0_coinOf : ByteArray := prog_1_method_31_code
def yX0_coinOf : MethodName := ⟨RX0, "coinOf", "(I)I"⟩
def dkwX0_coinOf_1 : List UInt8 := [180, 0, 51, 27, 46, 42, 180, 0, 48, 27, 46, 100, 182, 0, 231, 167, 0, 4, 3, 172]
abbrev dktX0_coinOf_1 : List UInt8 := dkwX0_coinOf_1 ++ []
def dkwX0_coinOf_0 : List UInt8 := [42, 180, 0, 42, 27, 46, 154, 0, 35, 42, 180, 0, 35, 27, 185, 0, 144, 2, 0, 192, 0, 126, 42]
abbrev dktX0_coinOf_0 : List UInt8 := dkwX0_coinOf_0 ++ dktX0_coinOf_1
theorem dksX0_coinOf_0 : cX0_coinOf.data.toList.drop 0 = dktX0_coinOf_0 := by decide +kernel
theorem dksX0_coinOf_1 : cX0_coinOf.data.toList.drop 23 = dktX0_coinOf_1 := dk_seg dksX0_coinOf_0 23 rfl rfl
theorem dX0_coinOf_0 : decode cX0_coinOf 0 = .ok (.aload_n 0, 1) := dk_42 (dk_at dksX0_coinOf_0 0 rfl rfl)
theorem dX0_coinOf_1 : decode cX0_coinOf 1 = .ok (.getfield 42, 3) := dk_180 0 42 (dk_at dksX0_coinOf_0 1 rfl rfl)
theorem dX0_coinOf_4 : decode cX0_coinOf 4 = .ok (.iload_n 1, 1) := dk_27 (dk_at dksX0_coinOf_0 4 rfl rfl)
theorem dX0_coinOf_5 : decode cX0_coinOf 5 = .ok (.iaload, 1) := dk_46 (dk_at dksX0_coinOf_0 5 rfl rfl)
theorem dX0_coinOf_6 : decode cX0_coinOf 6 = .ok (.ifCond .ne 35, 3) := dk_154 0 35 (dk_at dksX0_coinOf_0 6 rfl rfl)
theorem dX0_coinOf_9 : decode cX0_coinOf 9 = .ok (.aload_n 0, 1) := dk_42 (dk_at dksX0_coinOf_0 9 rfl rfl)
theorem dX0_coinOf_10 : decode cX0_coinOf 10 = .ok (.getfield 35, 3) := dk_180 0 35 (dk_at dksX0_coinOf_0 10 rfl rfl)
theorem dX0_coinOf_13 : decode cX0_coinOf 13 = .ok (.iload_n 1, 1) := dk_27 (dk_at dksX0_coinOf_0 13 rfl rfl)
theorem dX0_coinOf_14 : decode cX0_coinOf 14 = .ok (.invokeinterface 144 2, 5) := by decide +kernel
theorem dX0_coinOf_19 : decode cX0_coinOf 19 = .ok (.checkcast 126, 3) := dk_192 0 126 (dk_at dksX0_coinOf_0 19 rfl rfl)
theorem dX0_coinOf_22 : decode cX0_coinOf 22 = .ok (.aload_n 0, 1) := dk_42 (dk_at dksX0_coinOf_0 22 rfl rfl)
theorem dX0_coinOf_23 : decode cX0_coinOf 23 = .ok (.getfield 51, 3) := dk_180 0 51 (dk_at dksX0_coinOf_1 0 rfl rfl)
theorem dX0_coinOf_26 : decode cX0_coinOf 26 = .ok (.iload_n 1, 1) := dk_27 (dk_at dksX0_coinOf_1 3 rfl rfl)
theorem dX0_coinOf_27 : decode cX0_coinOf 27 = .ok (.iaload, 1) := dk_46 (dk_at dksX0_coinOf_1 4 rfl rfl)
theorem dX0_coinOf_28 : decode cX0_coinOf 28 = .ok (.aload_n 0, 1) := dk_42 (dk_at dksX0_coinOf_1 5 rfl rfl)
theorem dX0_coinOf_29 : decode cX0_coinOf 29 = .ok (.getfield 48, 3) := dk_180 0 48 (dk_at dksX0_coinOf_1 6 rfl rfl)
theorem dX0_coinOf_32 : decode cX0_coinOf 32 = .ok (.iload_n 1, 1) := dk_27 (dk_at dksX0_coinOf_1 9 rfl rfl)
theorem dX0_coinOf_33 : decode cX0_coinOf 33 = .ok (.iaload, 1) := dk_46 (dk_at dksX0_coinOf_1 10 rfl rfl)
theorem dX0_coinOf_34 : decode cX0_coinOf 34 = .ok (.isub, 1) := dk_100 (dk_at dksX0_coinOf_1 11 rfl rfl)
theorem dX0_coinOf_35 : decode cX0_coinOf 35 = .ok (.invokevirtual 231, 3) := dk_182 0 231 (dk_at dksX0_coinOf_1 12 rfl rfl)
theorem dX0_coinOf_38 : decode cX0_coinOf 38 = .ok (.goto 4, 3) := dk_167 0 4 (dk_at dksX0_coinOf_1 15 rfl rfl)
theorem dX0_coinOf_41 : decode cX0_coinOf 41 = .ok (.iconst 0, 1) := dk_3 (dk_at dksX0_coinOf_1 18 rfl rfl)
theorem dX0_coinOf_42 : decode cX0_coinOf 42 = .ok (.ireturn, 1) := dk_172 (dk_at dksX0_coinOf_1 19 rfl rfl)
abbrev cX0_taken : ByteArray := prog_1_method_34_code
def yX0_taken : MethodName := ⟨RX0, "taken", "(II)I"⟩
def dkwX0_taken_2 : List UInt8 := [182, 0, 203, 167, 0, 7, 42, 182, 0, 178, 172]
abbrev dktX0_taken_2 : List UInt8 := dkwX0_taken_2 ++ []
def dkwX0_taken_1 : List UInt8 := [172, 42, 180, 0, 78, 154, 0, 6, 16, 253, 172, 42, 27, 16, 247, 182, 0, 234, 28, 154, 0, 10, 42]
abbrev dktX0_taken_1 : List UInt8 := dkwX0_taken_1 ++ dktX0_taken_2
def dkwX0_taken_0 : List UInt8 := [27, 133, 9, 20, 0, 116, 184, 0, 81, 153, 0, 13, 28, 133, 9, 10, 184, 0, 81, 154, 0, 6, 16, 254]
abbrev dktX0_taken_0 : List UInt8 := dkwX0_taken_0 ++ dktX0_taken_1
theorem dksX0_taken_0 : cX0_taken.data.toList.drop 0 = dktX0_taken_0 := by decide +kernel
theorem dksX0_taken_1 : cX0_taken.data.toList.drop 24 = dktX0_taken_1 := dk_seg dksX0_taken_0 24 rfl rfl
theorem dksX0_taken_2 : cX0_taken.data.toList.drop 47 = dktX0_taken_2 := dk_seg dksX0_taken_1 23 rfl rfl
theorem dX0_taken_0 : decode cX0_taken 0 = .ok (.iload_n 1, 1) := dk_27 (dk_at dksX0_taken_0 0 rfl rfl)
theorem dX0_taken_1 : decode cX0_taken 1 = .ok (.i2l, 1) := dk_133 (dk_at dksX0_taken_0 1 rfl rfl)
theorem dX0_taken_2 : decode cX0_taken 2 = .ok (.lconst 0, 1) := dk_9 (dk_at dksX0_taken_0 2 rfl rfl)
theorem dX0_taken_3 : decode cX0_taken 3 = .ok (.ldc2_w 116, 3) := dk_20 0 116 (dk_at dksX0_taken_0 3 rfl rfl)
theorem dX0_taken_6 : decode cX0_taken 6 = .ok (.invokestatic 81, 3) := dk_184 0 81 (dk_at dksX0_taken_0 6 rfl rfl)
theorem dX0_taken_9 : decode cX0_taken 9 = .ok (.ifCond .eq 13, 3) := dk_153 0 13 (dk_at dksX0_taken_0 9 rfl rfl)
theorem dX0_taken_12 : decode cX0_taken 12 = .ok (.iload_n 2, 1) := dk_28 (dk_at dksX0_taken_0 12 rfl rfl)
theorem dX0_taken_13 : decode cX0_taken 13 = .ok (.i2l, 1) := dk_133 (dk_at dksX0_taken_0 13 rfl rfl)
theorem dX0_taken_14 : decode cX0_taken 14 = .ok (.lconst 0, 1) := dk_9 (dk_at dksX0_taken_0 14 rfl rfl)
theorem dX0_taken_15 : decode cX0_taken 15 = .ok (.lconst 1, 1) := dk_10 (dk_at dksX0_taken_0 15 rfl rfl)
theorem dX0_taken_16 : decode cX0_taken 16 = .ok (.invokestatic 81, 3) := dk_184 0 81 (dk_at dksX0_taken_0 16 rfl rfl)
theorem dX0_taken_19 : decode cX0_taken 19 = .ok (.ifCond .ne 6, 3) := dk_154 0 6 (dk_at dksX0_taken_0 19 rfl rfl)
theorem dX0_taken_22 : decode cX0_taken 22 = .ok (.bipush (-2), 2) := dk_16 254 (dk_at dksX0_taken_0 22 rfl rfl)
theorem dX0_taken_24 : decode cX0_taken 24 = .ok (.ireturn, 1) := dk_172 (dk_at dksX0_taken_1 0 rfl rfl)
theorem dX0_taken_25 : decode cX0_taken 25 = .ok (.aload_n 0, 1) := dk_42 (dk_at dksX0_taken_1 1 rfl rfl)
theorem dX0_taken_26 : decode cX0_taken 26 = .ok (.getfield 78, 3) := dk_180 0 78 (dk_at dksX0_taken_1 2 rfl rfl)
theorem dX0_taken_29 : decode cX0_taken 29 = .ok (.ifCond .ne 6, 3) := dk_154 0 6 (dk_at dksX0_taken_1 5 rfl rfl)
theorem dX0_taken_32 : decode cX0_taken 32 = .ok (.bipush (-3), 2) := dk_16 253 (dk_at dksX0_taken_1 8 rfl rfl)
theorem dX0_taken_34 : decode cX0_taken 34 = .ok (.ireturn, 1) := dk_172 (dk_at dksX0_taken_1 10 rfl rfl)
theorem dX0_taken_35 : decode cX0_taken 35 = .ok (.aload_n 0, 1) := dk_42 (dk_at dksX0_taken_1 11 rfl rfl)
theorem dX0_taken_36 : decode cX0_taken 36 = .ok (.iload_n 1, 1) := dk_27 (dk_at dksX0_taken_1 12 rfl rfl)
theorem dX0_taken_37 : decode cX0_taken 37 = .ok (.bipush (-9), 2) := dk_16 247 (dk_at dksX0_taken_1 13 rfl rfl)
theorem dX0_taken_39 : decode cX0_taken 39 = .ok (.invokevirtual 234, 3) := dk_182 0 234 (dk_at dksX0_taken_1 15 rfl rfl)
theorem dX0_taken_42 : decode cX0_taken 42 = .ok (.iload_n 2, 1) := dk_28 (dk_at dksX0_taken_1 18 rfl rfl)
theorem dX0_taken_43 : decode cX0_taken 43 = .ok (.ifCond .ne 10, 3) := dk_154 0 10 (dk_at dksX0_taken_1 19 rfl rfl)
theorem dX0_taken_46 : decode cX0_taken 46 = .ok (.aload_n 0, 1) := dk_42 (dk_at dksX0_taken_1 22 rfl rfl)
theorem dX0_taken_47 : decode cX0_taken 47 = .ok (.invokevirtual 203, 3) := dk_182 0 203 (dk_at dksX0_taken_2 0 rfl rfl)
theorem dX0_taken_50 : decode cX0_taken 50 = .ok (.goto 7, 3) := dk_167 0 7 (dk_at dksX0_taken_2 3 rfl rfl)
theorem dX0_taken_53 : decode cX0_taken 53 = .ok (.aload_n 0, 1) := dk_42 (dk_at dksX0_taken_2 6 rfl rfl)
theorem dX0_taken_54 : decode cX0_taken 54 = .ok (.invokevirtual 178, 3) := dk_182 0 178 (dk_at dksX0_taken_2 7 rfl rfl)
theorem dX0_taken_57 : decode cX0_taken 57 = .ok (.ireturn, 1) := dk_172 (dk_at dksX0_taken_2 10 rfl rfl)
abbrev cX0_coin : ByteArray := prog_1_method_35_code
def yX0_coin : MethodName := ⟨RX0, "coin", "()I"⟩
def dkwX0_coin_0 : List UInt8 := [42, 180, 0, 78, 154, 0, 8, 16, 253, 167, 0, 9, 42, 16, 247, 182, 0, 240, 172]
abbrev dktX0_coin_0 : List UInt8 := dkwX0_coin_0 ++ []
theorem dksX0_coin_0 : cX0_coin.data.toList.drop 0 = dktX0_coin_0 := by decide +kernel
theorem dX0_coin_0 : decode cX0_coin 0 = .ok (.aload_n 0, 1) := dk_42 (dk_at dksX0_coin_0 0 rfl rfl)
theorem dX0_coin_1 : decode cX0_coin 1 = .ok (.getfield 78, 3) := dk_180 0 78 (dk_at dksX0_coin_0 1 rfl rfl)
theorem dX0_coin_4 : decode cX0_coin 4 = .ok (.ifCond .ne 8, 3) := dk_154 0 8 (dk_at dksX0_coin_0 4 rfl rfl)
theorem dX0_coin_7 : decode cX0_coin 7 = .ok (.bipush (-3), 2) := dk_16 253 (dk_at dksX0_coin_0 7 rfl rfl)
theorem dX0_coin_9 : decode cX0_coin 9 = .ok (.goto 9, 3) := dk_167 0 9 (dk_at dksX0_coin_0 9 rfl rfl)
theorem dX0_coin_12 : decode cX0_coin 12 = .ok (.aload_n 0, 1) := dk_42 (dk_at dksX0_coin_0 12 rfl rfl)
theorem dX0_coin_13 : decode cX0_coin 13 = .ok (.bipush (-9), 2) := dk_16 247 (dk_at dksX0_coin_0 13 rfl rfl)
theorem dX0_coin_15 : decode cX0_coin 15 = .ok (.invokevirtual 240, 3) := dk_182 0 240 (dk_at dksX0_coin_0 15 rfl rfl)
theorem dX0_coin_18 : decode cX0_coin 18 = .ok (.ireturn, 1) := dk_172 (dk_at dksX0_coin_0 18 rfl rfl)
abbrev cX0_coinOfDay : ByteArray := prog_1_method_32_code
def yX0_coinOfDay : MethodName := ⟨RX0, "coinOfDay", "(I)I"⟩
def dkwX0_coinOfDay_1 : List UInt8 := [162, 0, 17, 28, 42, 29, 182, 0, 237, 96, 61, 132, 3, 1, 167, 255, 232, 28, 172]
abbrev dktX0_coinOfDay_1 : List UInt8 := dkwX0_coinOfDay_1 ++ []
def dkwX0_coinOfDay_0 : List UInt8 := [42, 17, 1, 143, 27, 182, 0, 234, 3, 61, 3, 62, 29, 42, 180, 0, 35, 185, 0, 118, 1, 0]
abbrev dktX0_coinOfDay_0 : List UInt8 := dkwX0_coinOfDay_0 ++ dktX0_coinOfDay_1
theorem dksX0_coinOfDay_0 : cX0_coinOfDay.data.toList.drop 0 = dktX0_coinOfDay_0 := by decide +kernel
theorem dksX0_coinOfDay_1 : cX0_coinOfDay.data.toList.drop 22 = dktX0_coinOfDay_1 := dk_seg dksX0_coinOfDay_0 22 rfl rfl
theorem dX0_coinOfDay_0 : decode cX0_coinOfDay 0 = .ok (.aload_n 0, 1) := dk_42 (dk_at dksX0_coinOfDay_0 0 rfl rfl)
theorem dX0_coinOfDay_1 : decode cX0_coinOfDay 1 = .ok (.sipush 399, 3) := dk_17 1 143 (dk_at dksX0_coinOfDay_0 1 rfl rfl)
theorem dX0_coinOfDay_4 : decode cX0_coinOfDay 4 = .ok (.iload_n 1, 1) := dk_27 (dk_at dksX0_coinOfDay_0 4 rfl rfl)
theorem dX0_coinOfDay_5 : decode cX0_coinOfDay 5 = .ok (.invokevirtual 234, 3) := dk_182 0 234 (dk_at dksX0_coinOfDay_0 5 rfl rfl)
theorem dX0_coinOfDay_8 : decode cX0_coinOfDay 8 = .ok (.iconst 0, 1) := dk_3 (dk_at dksX0_coinOfDay_0 8 rfl rfl)
theorem dX0_coinOfDay_9 : decode cX0_coinOfDay 9 = .ok (.istore_n 2, 1) := dk_61 (dk_at dksX0_coinOfDay_0 9 rfl rfl)
theorem dX0_coinOfDay_10 : decode cX0_coinOfDay 10 = .ok (.iconst 0, 1) := dk_3 (dk_at dksX0_coinOfDay_0 10 rfl rfl)
theorem dX0_coinOfDay_11 : decode cX0_coinOfDay 11 = .ok (.istore_n 3, 1) := dk_62 (dk_at dksX0_coinOfDay_0 11 rfl rfl)
theorem dX0_coinOfDay_12 : decode cX0_coinOfDay 12 = .ok (.iload_n 3, 1) := dk_29 (dk_at dksX0_coinOfDay_0 12 rfl rfl)
theorem dX0_coinOfDay_13 : decode cX0_coinOfDay 13 = .ok (.aload_n 0, 1) := dk_42 (dk_at dksX0_coinOfDay_0 13 rfl rfl)
theorem dX0_coinOfDay_14 : decode cX0_coinOfDay 14 = .ok (.getfield 35, 3) := dk_180 0 35 (dk_at dksX0_coinOfDay_0 14 rfl rfl)
theorem dX0_coinOfDay_17 : decode cX0_coinOfDay 17 = .ok (.invokeinterface 118 1, 5) := by decide +kernel
theorem dX0_coinOfDay_22 : decode cX0_coinOfDay 22 = .ok (.if_icmp .ge 17, 3) := dk_162 0 17 (dk_at dksX0_coinOfDay_1 0 rfl rfl)
theorem dX0_coinOfDay_25 : decode cX0_coinOfDay 25 = .ok (.iload_n 2, 1) := dk_28 (dk_at dksX0_coinOfDay_1 3 rfl rfl)
theorem dX0_coinOfDay_26 : decode cX0_coinOfDay 26 = .ok (.aload_n 0, 1) := dk_42 (dk_at dksX0_coinOfDay_1 4 rfl rfl)
theorem dX0_coinOfDay_27 : decode cX0_coinOfDay 27 = .ok (.iload_n 3, 1) := dk_29 (dk_at dksX0_coinOfDay_1 5 rfl rfl)
theorem dX0_coinOfDay_28 : decode cX0_coinOfDay 28 = .ok (.invokevirtual 237, 3) := dk_182 0 237 (dk_at dksX0_coinOfDay_1 6 rfl rfl)
theorem dX0_coinOfDay_31 : decode cX0_coinOfDay 31 = .ok (.iadd, 1) := dk_96 (dk_at dksX0_coinOfDay_1 9 rfl rfl)
theorem dX0_coinOfDay_32 : decode cX0_coinOfDay 32 = .ok (.istore_n 2, 1) := dk_61 (dk_at dksX0_coinOfDay_1 10 rfl rfl)
theorem dX0_coinOfDay_33 : decode cX0_coinOfDay 33 = .ok (.iinc 3 1, 3) := dk_132 3 1 (dk_at dksX0_coinOfDay_1 11 rfl rfl)
theorem dX0_coinOfDay_36 : decode cX0_coinOfDay 36 = .ok (.goto (-24), 3) := dk_167 255 232 (dk_at dksX0_coinOfDay_1 14 rfl rfl)
theorem dX0_coinOfDay_39 : decode cX0_coinOfDay 39 = .ok (.iload_n 2, 1) := dk_28 (dk_at dksX0_coinOfDay_1 17 rfl rfl)
theorem dX0_coinOfDay_40 : decode cX0_coinOfDay 40 = .ok (.ireturn, 1) := dk_172 (dk_at dksX0_coinOfDay_1 18 rfl rfl)
abbrev cX0_worth : ByteArray := prog_1_method_36_code
def yX0_worth : MethodName := ⟨RX0, "worth", "(I)J"⟩
def dkwX0_worth_1 : List UInt8 := [182, 0, 240, 133, 101, 173]
abbrev dktX0_worth_1 : List UInt8 := dkwX0_worth_1 ++ []
def dkwX0_worth_0 : List UInt8 := [42, 27, 182, 0, 141, 153, 0, 9, 20, 0, 243, 167, 0, 17, 42, 16, 247, 182, 0, 240, 133, 42, 27]
abbrev dktX0_worth_0 : List UInt8 := dkwX0_worth_0 ++ dktX0_worth_1
theorem dksX0_worth_0 : cX0_worth.data.toList.drop 0 = dktX0_worth_0 := by decide +kernel
theorem dksX0_worth_1 : cX0_worth.data.toList.drop 23 = dktX0_worth_1 := dk_seg dksX0_worth_0 23 rfl rfl
theorem dX0_worth_0 : decode cX0_worth 0 = .ok (.aload_n 0, 1) := dk_42 (dk_at dksX0_worth_0 0 rfl rfl)
theorem dX0_worth_1 : decode cX0_worth 1 = .ok (.iload_n 1, 1) := dk_27 (dk_at dksX0_worth_0 1 rfl rfl)
theorem dX0_worth_2 : decode cX0_worth 2 = .ok (.invokevirtual 141, 3) := dk_182 0 141 (dk_at dksX0_worth_0 2 rfl rfl)
theorem dX0_worth_5 : decode cX0_worth 5 = .ok (.ifCond .eq 9, 3) := dk_153 0 9 (dk_at dksX0_worth_0 5 rfl rfl)
theorem dX0_worth_8 : decode cX0_worth 8 = .ok (.ldc2_w 243, 3) := dk_20 0 243 (dk_at dksX0_worth_0 8 rfl rfl)
theorem dX0_worth_11 : decode cX0_worth 11 = .ok (.goto 17, 3) := dk_167 0 17 (dk_at dksX0_worth_0 11 rfl rfl)
theorem dX0_worth_14 : decode cX0_worth 14 = .ok (.aload_n 0, 1) := dk_42 (dk_at dksX0_worth_0 14 rfl rfl)
theorem dX0_worth_15 : decode cX0_worth 15 = .ok (.bipush (-9), 2) := dk_16 247 (dk_at dksX0_worth_0 15 rfl rfl)
theorem dX0_worth_17 : decode cX0_worth 17 = .ok (.invokevirtual 240, 3) := dk_182 0 240 (dk_at dksX0_worth_0 17 rfl rfl)
theorem dX0_worth_20 : decode cX0_worth 20 = .ok (.i2l, 1) := dk_133 (dk_at dksX0_worth_0 20 rfl rfl)
theorem dX0_worth_21 : decode cX0_worth 21 = .ok (.aload_n 0, 1) := dk_42 (dk_at dksX0_worth_0 21 rfl rfl)
theorem dX0_worth_22 : decode cX0_worth 22 = .ok (.iload_n 1, 1) := dk_27 (dk_at dksX0_worth_0 22 rfl rfl)
theorem dX0_worth_23 : decode cX0_worth 23 = .ok (.invokevirtual 240, 3) := dk_182 0 240 (dk_at dksX0_worth_1 0 rfl rfl)
theorem dX0_worth_26 : decode cX0_worth 26 = .ok (.i2l, 1) := dk_133 (dk_at dksX0_worth_1 3 rfl rfl)
theorem dX0_worth_27 : decode cX0_worth 27 = .ok (.lsub, 1) := dk_101 (dk_at dksX0_worth_1 4 rfl rfl)
theorem dX0_worth_28 : decode cX0_worth 28 = .ok (.lreturn, 1) := dk_173 (dk_at dksX0_worth_1 5 rfl rfl)
abbrev cX0_plan : ByteArray := prog_1_method_39_code
def yX0_plan : MethodName := ⟨RX0, "plan", "(I)I"⟩
def dkwX0_plan_2 : List UInt8 := [3, 3, 182, 1, 0, 27, 156, 0, 10, 42, 180, 0, 249, 167, 0, 9, 42, 180, 0, 60, 27, 46, 172]
abbrev dktX0_plan_2 : List UInt8 := dkwX0_plan_2 ++ []
def dkwX0_plan_1 : List UInt8 := [184, 0, 81, 154, 0, 5, 2, 172, 42, 180, 0, 78, 154, 0, 6, 16, 253, 172, 42, 2, 181, 0, 249, 42]
abbrev dktX0_plan_1 : List UInt8 := dkwX0_plan_1 ++ dktX0_plan_2
def dkwX0_plan_0 : List UInt8 := [27, 133, 20, 1, 3, 16, 6, 42, 180, 0, 35, 185, 0, 118, 1, 0, 184, 0, 245, 4, 100, 133]
abbrev dktX0_plan_0 : List UInt8 := dkwX0_plan_0 ++ dktX0_plan_1
theorem dksX0_plan_0 : cX0_plan.data.toList.drop 0 = dktX0_plan_0 := by decide +kernel
theorem dksX0_plan_1 : cX0_plan.data.toList.drop 22 = dktX0_plan_1 := dk_seg dksX0_plan_0 22 rfl rfl
theorem dksX0_plan_2 : cX0_plan.data.toList.drop 46 = dktX0_plan_2 := dk_seg dksX0_plan_1 24 rfl rfl
theorem dX0_plan_0 : decode cX0_plan 0 = .ok (.iload_n 1, 1) := dk_27 (dk_at dksX0_plan_0 0 rfl rfl)
theorem dX0_plan_1 : decode cX0_plan 1 = .ok (.i2l, 1) := dk_133 (dk_at dksX0_plan_0 1 rfl rfl)
theorem dX0_plan_2 : decode cX0_plan 2 = .ok (.ldc2_w 259, 3) := dk_20 1 3 (dk_at dksX0_plan_0 2 rfl rfl)
theorem dX0_plan_5 : decode cX0_plan 5 = .ok (.bipush 6, 2) := dk_16 6 (dk_at dksX0_plan_0 5 rfl rfl)
theorem dX0_plan_7 : decode cX0_plan 7 = .ok (.aload_n 0, 1) := dk_42 (dk_at dksX0_plan_0 7 rfl rfl)
theorem dX0_plan_8 : decode cX0_plan 8 = .ok (.getfield 35, 3) := dk_180 0 35 (dk_at dksX0_plan_0 8 rfl rfl)
theorem dX0_plan_11 : decode cX0_plan 11 = .ok (.invokeinterface 118 1, 5) := by decide +kernel
theorem dX0_plan_16 : decode cX0_plan 16 = .ok (.invokestatic 245, 3) := dk_184 0 245 (dk_at dksX0_plan_0 16 rfl rfl)
theorem dX0_plan_19 : decode cX0_plan 19 = .ok (.iconst 1, 1) := dk_4 (dk_at dksX0_plan_0 19 rfl rfl)
theorem dX0_plan_20 : decode cX0_plan 20 = .ok (.isub, 1) := dk_100 (dk_at dksX0_plan_0 20 rfl rfl)
theorem dX0_plan_21 : decode cX0_plan 21 = .ok (.i2l, 1) := dk_133 (dk_at dksX0_plan_0 21 rfl rfl)
theorem dX0_plan_22 : decode cX0_plan 22 = .ok (.invokestatic 81, 3) := dk_184 0 81 (dk_at dksX0_plan_1 0 rfl rfl)
theorem dX0_plan_25 : decode cX0_plan 25 = .ok (.ifCond .ne 5, 3) := dk_154 0 5 (dk_at dksX0_plan_1 3 rfl rfl)
theorem dX0_plan_28 : decode cX0_plan 28 = .ok (.iconst (-1), 1) := dk_2 (dk_at dksX0_plan_1 6 rfl rfl)
theorem dX0_plan_29 : decode cX0_plan 29 = .ok (.ireturn, 1) := dk_172 (dk_at dksX0_plan_1 7 rfl rfl)
theorem dX0_plan_30 : decode cX0_plan 30 = .ok (.aload_n 0, 1) := dk_42 (dk_at dksX0_plan_1 8 rfl rfl)
theorem dX0_plan_31 : decode cX0_plan 31 = .ok (.getfield 78, 3) := dk_180 0 78 (dk_at dksX0_plan_1 9 rfl rfl)
theorem dX0_plan_34 : decode cX0_plan 34 = .ok (.ifCond .ne 6, 3) := dk_154 0 6 (dk_at dksX0_plan_1 12 rfl rfl)
theorem dX0_plan_37 : decode cX0_plan 37 = .ok (.bipush (-3), 2) := dk_16 253 (dk_at dksX0_plan_1 15 rfl rfl)
theorem dX0_plan_39 : decode cX0_plan 39 = .ok (.ireturn, 1) := dk_172 (dk_at dksX0_plan_1 17 rfl rfl)
theorem dX0_plan_40 : decode cX0_plan 40 = .ok (.aload_n 0, 1) := dk_42 (dk_at dksX0_plan_1 18 rfl rfl)
theorem dX0_plan_41 : decode cX0_plan 41 = .ok (.iconst (-1), 1) := dk_2 (dk_at dksX0_plan_1 19 rfl rfl)
theorem dX0_plan_42 : decode cX0_plan 42 = .ok (.putfield 249, 3) := dk_181 0 249 (dk_at dksX0_plan_1 20 rfl rfl)
theorem dX0_plan_45 : decode cX0_plan 45 = .ok (.aload_n 0, 1) := dk_42 (dk_at dksX0_plan_1 23 rfl rfl)
theorem dX0_plan_46 : decode cX0_plan 46 = .ok (.iconst 0, 1) := dk_3 (dk_at dksX0_plan_2 0 rfl rfl)
theorem dX0_plan_47 : decode cX0_plan 47 = .ok (.iconst 0, 1) := dk_3 (dk_at dksX0_plan_2 1 rfl rfl)
theorem dX0_plan_48 : decode cX0_plan 48 = .ok (.invokevirtual 256, 3) := dk_182 1 0 (dk_at dksX0_plan_2 2 rfl rfl)
theorem dX0_plan_51 : decode cX0_plan 51 = .ok (.iload_n 1, 1) := dk_27 (dk_at dksX0_plan_2 5 rfl rfl)
theorem dX0_plan_52 : decode cX0_plan 52 = .ok (.ifCond .ge 10, 3) := dk_156 0 10 (dk_at dksX0_plan_2 6 rfl rfl)
theorem dX0_plan_55 : decode cX0_plan 55 = .ok (.aload_n 0, 1) := dk_42 (dk_at dksX0_plan_2 9 rfl rfl)
theorem dX0_plan_56 : decode cX0_plan 56 = .ok (.getfield 249, 3) := dk_180 0 249 (dk_at dksX0_plan_2 10 rfl rfl)
theorem dX0_plan_59 : decode cX0_plan 59 = .ok (.goto 9, 3) := dk_167 0 9 (dk_at dksX0_plan_2 13 rfl rfl)
theorem dX0_plan_62 : decode cX0_plan 62 = .ok (.aload_n 0, 1) := dk_42 (dk_at dksX0_plan_2 16 rfl rfl)
theorem dX0_plan_63 : decode cX0_plan 63 = .ok (.getfield 60, 3) := dk_180 0 60 (dk_at dksX0_plan_2 17 rfl rfl)
theorem dX0_plan_66 : decode cX0_plan 66 = .ok (.iload_n 1, 1) := dk_27 (dk_at dksX0_plan_2 20 rfl rfl)
theorem dX0_plan_67 : decode cX0_plan 67 = .ok (.iaload, 1) := dk_46 (dk_at dksX0_plan_2 21 rfl rfl)
theorem dX0_plan_68 : decode cX0_plan 68 = .ok (.ireturn, 1) := dk_172 (dk_at dksX0_plan_2 22 rfl rfl)
abbrev cX0_tryPlan : ByteArray := prog_1_method_38_code
def yX0_tryPlan : MethodName := ⟨RX0, "tryPlan", "(II)V"⟩
def dkwX0_tryPlan_5 : List UInt8 := [180, 0, 57, 27, 16, 247, 79, 42, 27, 4, 96, 28, 182, 1, 0, 177]
abbrev dktX0_tryPlan_5 : List UInt8 := dkwX0_tryPlan_5 ++ []
def dkwX0_tryPlan_4 : List UInt8 := [96, 28, 45, 45, 3, 182, 0, 181, 182, 0, 231, 96, 182, 1, 0, 132, 4, 1, 167, 255, 208, 42]
abbrev dktX0_tryPlan_4 : List UInt8 := dkwX0_tryPlan_4 ++ dktX0_tryPlan_5
def dkwX0_tryPlan_3 : List UInt8 := [162, 0, 45, 42, 27, 21, 4, 182, 0, 252, 153, 0, 29, 42, 180, 0, 57, 27, 21, 4, 79, 42, 27, 4]
abbrev dktX0_tryPlan_3 : List UInt8 := dkwX0_tryPlan_3 ++ dktX0_tryPlan_4
def dkwX0_tryPlan_2 : List UInt8 := [42, 180, 0, 35, 27, 185, 0, 144, 2, 0, 192, 0, 126, 78, 3, 54, 4, 21, 4, 42, 180, 0, 78]
abbrev dktX0_tryPlan_2 : List UInt8 := dkwX0_tryPlan_2 ++ dktX0_tryPlan_3
def dkwX0_tryPlan_1 : List UInt8 := [164, 0, 23, 42, 28, 181, 0, 249, 42, 180, 0, 57, 3, 42, 180, 0, 60, 3, 16, 6, 184, 0, 87, 177]
abbrev dktX0_tryPlan_1 : List UInt8 := dkwX0_tryPlan_1 ++ dktX0_tryPlan_2
def dkwX0_tryPlan_0 : List UInt8 := [27, 16, 6, 42, 180, 0, 35, 185, 0, 118, 1, 0, 184, 0, 245, 160, 0, 32, 28, 42, 180, 0, 249]
abbrev dktX0_tryPlan_0 : List UInt8 := dkwX0_tryPlan_0 ++ dktX0_tryPlan_1
theorem dksX0_tryPlan_0 : cX0_tryPlan.data.toList.drop 0 = dktX0_tryPlan_0 := by decide +kernel
theorem dksX0_tryPlan_1 : cX0_tryPlan.data.toList.drop 23 = dktX0_tryPlan_1 := dk_seg dksX0_tryPlan_0 23 rfl rfl
theorem dksX0_tryPlan_2 : cX0_tryPlan.data.toList.drop 47 = dktX0_tryPlan_2 := dk_seg dksX0_tryPlan_1 24 rfl rfl
theorem dksX0_tryPlan_3 : cX0_tryPlan.data.toList.drop 70 = dktX0_tryPlan_3 := dk_seg dksX0_tryPlan_2 23 rfl rfl
theorem dksX0_tryPlan_4 : cX0_tryPlan.data.toList.drop 94 = dktX0_tryPlan_4 := dk_seg dksX0_tryPlan_3 24 rfl rfl
theorem dksX0_tryPlan_5 : cX0_tryPlan.data.toList.drop 116 = dktX0_tryPlan_5 := dk_seg dksX0_tryPlan_4 22 rfl rfl
theorem dX0_tryPlan_0 : decode cX0_tryPlan 0 = .ok (.iload_n 1, 1) := dk_27 (dk_at dksX0_tryPlan_0 0 rfl rfl)
theorem dX0_tryPlan_1 : decode cX0_tryPlan 1 = .ok (.bipush 6, 2) := dk_16 6 (dk_at dksX0_tryPlan_0 1 rfl rfl)
theorem dX0_tryPlan_3 : decode cX0_tryPlan 3 = .ok (.aload_n 0, 1) := dk_42 (dk_at dksX0_tryPlan_0 3 rfl rfl)
theorem dX0_tryPlan_4 : decode cX0_tryPlan 4 = .ok (.getfield 35, 3) := dk_180 0 35 (dk_at dksX0_tryPlan_0 4 rfl rfl)
theorem dX0_tryPlan_7 : decode cX0_tryPlan 7 = .ok (.invokeinterface 118 1, 5) := by decide +kernel
theorem dX0_tryPlan_12 : decode cX0_tryPlan 12 = .ok (.invokestatic 245, 3) := dk_184 0 245 (dk_at dksX0_tryPlan_0 12 rfl rfl)
theorem dX0_tryPlan_15 : decode cX0_tryPlan 15 = .ok (.if_icmp .ne 32, 3) := dk_160 0 32 (dk_at dksX0_tryPlan_0 15 rfl rfl)
theorem dX0_tryPlan_18 : decode cX0_tryPlan 18 = .ok (.iload_n 2, 1) := dk_28 (dk_at dksX0_tryPlan_0 18 rfl rfl)
theorem dX0_tryPlan_19 : decode cX0_tryPlan 19 = .ok (.aload_n 0, 1) := dk_42 (dk_at dksX0_tryPlan_0 19 rfl rfl)
theorem dX0_tryPlan_20 : decode cX0_tryPlan 20 = .ok (.getfield 249, 3) := dk_180 0 249 (dk_at dksX0_tryPlan_0 20 rfl rfl)
theorem dX0_tryPlan_23 : decode cX0_tryPlan 23 = .ok (.if_icmp .le 23, 3) := dk_164 0 23 (dk_at dksX0_tryPlan_1 0 rfl rfl)
theorem dX0_tryPlan_26 : decode cX0_tryPlan 26 = .ok (.aload_n 0, 1) := dk_42 (dk_at dksX0_tryPlan_1 3 rfl rfl)
theorem dX0_tryPlan_27 : decode cX0_tryPlan 27 = .ok (.iload_n 2, 1) := dk_28 (dk_at dksX0_tryPlan_1 4 rfl rfl)
theorem dX0_tryPlan_28 : decode cX0_tryPlan 28 = .ok (.putfield 249, 3) := dk_181 0 249 (dk_at dksX0_tryPlan_1 5 rfl rfl)
theorem dX0_tryPlan_31 : decode cX0_tryPlan 31 = .ok (.aload_n 0, 1) := dk_42 (dk_at dksX0_tryPlan_1 8 rfl rfl)
theorem dX0_tryPlan_32 : decode cX0_tryPlan 32 = .ok (.getfield 57, 3) := dk_180 0 57 (dk_at dksX0_tryPlan_1 9 rfl rfl)
theorem dX0_tryPlan_35 : decode cX0_tryPlan 35 = .ok (.iconst 0, 1) := dk_3 (dk_at dksX0_tryPlan_1 12 rfl rfl)
theorem dX0_tryPlan_36 : decode cX0_tryPlan 36 = .ok (.aload_n 0, 1) := dk_42 (dk_at dksX0_tryPlan_1 13 rfl rfl)
theorem dX0_tryPlan_37 : decode cX0_tryPlan 37 = .ok (.getfield 60, 3) := dk_180 0 60 (dk_at dksX0_tryPlan_1 14 rfl rfl)
theorem dX0_tryPlan_40 : decode cX0_tryPlan 40 = .ok (.iconst 0, 1) := dk_3 (dk_at dksX0_tryPlan_1 17 rfl rfl)
theorem dX0_tryPlan_41 : decode cX0_tryPlan 41 = .ok (.bipush 6, 2) := dk_16 6 (dk_at dksX0_tryPlan_1 18 rfl rfl)
theorem dX0_tryPlan_43 : decode cX0_tryPlan 43 = .ok (.invokestatic 87, 3) := dk_184 0 87 (dk_at dksX0_tryPlan_1 20 rfl rfl)
theorem dX0_tryPlan_46 : decode cX0_tryPlan 46 = .ok (.return_, 1) := dk_177 (dk_at dksX0_tryPlan_1 23 rfl rfl)
theorem dX0_tryPlan_47 : decode cX0_tryPlan 47 = .ok (.aload_n 0, 1) := dk_42 (dk_at dksX0_tryPlan_2 0 rfl rfl)
theorem dX0_tryPlan_48 : decode cX0_tryPlan 48 = .ok (.getfield 35, 3) := dk_180 0 35 (dk_at dksX0_tryPlan_2 1 rfl rfl)
theorem dX0_tryPlan_51 : decode cX0_tryPlan 51 = .ok (.iload_n 1, 1) := dk_27 (dk_at dksX0_tryPlan_2 4 rfl rfl)
theorem dX0_tryPlan_52 : decode cX0_tryPlan 52 = .ok (.invokeinterface 144 2, 5) := by decide +kernel
theorem dX0_tryPlan_57 : decode cX0_tryPlan 57 = .ok (.checkcast 126, 3) := dk_192 0 126 (dk_at dksX0_tryPlan_2 10 rfl rfl)
theorem dX0_tryPlan_60 : decode cX0_tryPlan 60 = .ok (.astore_n 3, 1) := dk_78 (dk_at dksX0_tryPlan_2 13 rfl rfl)
theorem dX0_tryPlan_61 : decode cX0_tryPlan 61 = .ok (.iconst 0, 1) := dk_3 (dk_at dksX0_tryPlan_2 14 rfl rfl)
theorem dX0_tryPlan_62 : decode cX0_tryPlan 62 = .ok (.istore 4, 2) := dk_54 4 (dk_at dksX0_tryPlan_2 15 rfl rfl)
theorem dX0_tryPlan_64 : decode cX0_tryPlan 64 = .ok (.iload 4, 2) := dk_21 4 (dk_at dksX0_tryPlan_2 17 rfl rfl)
theorem dX0_tryPlan_66 : decode cX0_tryPlan 66 = .ok (.aload_n 0, 1) := dk_42 (dk_at dksX0_tryPlan_2 19 rfl rfl)
theorem dX0_tryPlan_67 : decode cX0_tryPlan 67 = .ok (.getfield 78, 3) := dk_180 0 78 (dk_at dksX0_tryPlan_2 20 rfl rfl)
theorem dX0_tryPlan_70 : decode cX0_tryPlan 70 = .ok (.if_icmp .ge 45, 3) := dk_162 0 45 (dk_at dksX0_tryPlan_3 0 rfl rfl)
theorem dX0_tryPlan_73 : decode cX0_tryPlan 73 = .ok (.aload_n 0, 1) := dk_42 (dk_at dksX0_tryPlan_3 3 rfl rfl)
theorem dX0_tryPlan_74 : decode cX0_tryPlan 74 = .ok (.iload_n 1, 1) := dk_27 (dk_at dksX0_tryPlan_3 4 rfl rfl)
theorem dX0_tryPlan_75 : decode cX0_tryPlan 75 = .ok (.iload 4, 2) := dk_21 4 (dk_at dksX0_tryPlan_3 5 rfl rfl)
theorem dX0_tryPlan_77 : decode cX0_tryPlan 77 = .ok (.invokevirtual 252, 3) := dk_182 0 252 (dk_at dksX0_tryPlan_3 7 rfl rfl)
theorem dX0_tryPlan_80 : decode cX0_tryPlan 80 = .ok (.ifCond .eq 29, 3) := dk_153 0 29 (dk_at dksX0_tryPlan_3 10 rfl rfl)
theorem dX0_tryPlan_83 : decode cX0_tryPlan 83 = .ok (.aload_n 0, 1) := dk_42 (dk_at dksX0_tryPlan_3 13 rfl rfl)
theorem dX0_tryPlan_84 : decode cX0_tryPlan 84 = .ok (.getfield 57, 3) := dk_180 0 57 (dk_at dksX0_tryPlan_3 14 rfl rfl)
theorem dX0_tryPlan_87 : decode cX0_tryPlan 87 = .ok (.iload_n 1, 1) := dk_27 (dk_at dksX0_tryPlan_3 17 rfl rfl)
theorem dX0_tryPlan_88 : decode cX0_tryPlan 88 = .ok (.iload 4, 2) := dk_21 4 (dk_at dksX0_tryPlan_3 18 rfl rfl)
theorem dX0_tryPlan_90 : decode cX0_tryPlan 90 = .ok (.iastore, 1) := dk_79 (dk_at dksX0_tryPlan_3 20 rfl rfl)
theorem dX0_tryPlan_91 : decode cX0_tryPlan 91 = .ok (.aload_n 0, 1) := dk_42 (dk_at dksX0_tryPlan_3 21 rfl rfl)
theorem dX0_tryPlan_92 : decode cX0_tryPlan 92 = .ok (.iload_n 1, 1) := dk_27 (dk_at dksX0_tryPlan_3 22 rfl rfl)
theorem dX0_tryPlan_93 : decode cX0_tryPlan 93 = .ok (.iconst 1, 1) := dk_4 (dk_at dksX0_tryPlan_3 23 rfl rfl)
theorem dX0_tryPlan_94 : decode cX0_tryPlan 94 = .ok (.iadd, 1) := dk_96 (dk_at dksX0_tryPlan_4 0 rfl rfl)
theorem dX0_tryPlan_95 : decode cX0_tryPlan 95 = .ok (.iload_n 2, 1) := dk_28 (dk_at dksX0_tryPlan_4 1 rfl rfl)
theorem dX0_tryPlan_96 : decode cX0_tryPlan 96 = .ok (.aload_n 3, 1) := dk_45 (dk_at dksX0_tryPlan_4 2 rfl rfl)
theorem dX0_tryPlan_97 : decode cX0_tryPlan 97 = .ok (.aload_n 3, 1) := dk_45 (dk_at dksX0_tryPlan_4 3 rfl rfl)
theorem dX0_tryPlan_98 : decode cX0_tryPlan 98 = .ok (.iconst 0, 1) := dk_3 (dk_at dksX0_tryPlan_4 4 rfl rfl)
theorem dX0_tryPlan_99 : decode cX0_tryPlan 99 = .ok (.invokevirtual 181, 3) := dk_182 0 181 (dk_at dksX0_tryPlan_4 5 rfl rfl)
theorem dX0_tryPlan_102 : decode cX0_tryPlan 102 = .ok (.invokevirtual 231, 3) := dk_182 0 231 (dk_at dksX0_tryPlan_4 8 rfl rfl)
theorem dX0_tryPlan_105 : decode cX0_tryPlan 105 = .ok (.iadd, 1) := dk_96 (dk_at dksX0_tryPlan_4 11 rfl rfl)
theorem dX0_tryPlan_106 : decode cX0_tryPlan 106 = .ok (.invokevirtual 256, 3) := dk_182 1 0 (dk_at dksX0_tryPlan_4 12 rfl rfl)
theorem dX0_tryPlan_109 : decode cX0_tryPlan 109 = .ok (.iinc 4 1, 3) := dk_132 4 1 (dk_at dksX0_tryPlan_4 15 rfl rfl)
theorem dX0_tryPlan_112 : decode cX0_tryPlan 112 = .ok (.goto (-48), 3) := dk_167 255 208 (dk_at dksX0_tryPlan_4 18 rfl rfl)
theorem dX0_tryPlan_115 : decode cX0_tryPlan 115 = .ok (.aload_n 0, 1) := dk_42 (dk_at dksX0_tryPlan_4 21 rfl rfl)
theorem dX0_tryPlan_116 : decode cX0_tryPlan 116 = .ok (.getfield 57, 3) := dk_180 0 57 (dk_at dksX0_tryPlan_5 0 rfl rfl)
theorem dX0_tryPlan_119 : decode cX0_tryPlan 119 = .ok (.iload_n 1, 1) := dk_27 (dk_at dksX0_tryPlan_5 3 rfl rfl)
theorem dX0_tryPlan_120 : decode cX0_tryPlan 120 = .ok (.bipush (-9), 2) := dk_16 247 (dk_at dksX0_tryPlan_5 4 rfl rfl)
theorem dX0_tryPlan_122 : decode cX0_tryPlan 122 = .ok (.iastore, 1) := dk_79 (dk_at dksX0_tryPlan_5 6 rfl rfl)
theorem dX0_tryPlan_123 : decode cX0_tryPlan 123 = .ok (.aload_n 0, 1) := dk_42 (dk_at dksX0_tryPlan_5 7 rfl rfl)
theorem dX0_tryPlan_124 : decode cX0_tryPlan 124 = .ok (.iload_n 1, 1) := dk_27 (dk_at dksX0_tryPlan_5 8 rfl rfl)
theorem dX0_tryPlan_125 : decode cX0_tryPlan 125 = .ok (.iconst 1, 1) := dk_4 (dk_at dksX0_tryPlan_5 9 rfl rfl)
theorem dX0_tryPlan_126 : decode cX0_tryPlan 126 = .ok (.iadd, 1) := dk_96 (dk_at dksX0_tryPlan_5 10 rfl rfl)
theorem dX0_tryPlan_127 : decode cX0_tryPlan 127 = .ok (.iload_n 2, 1) := dk_28 (dk_at dksX0_tryPlan_5 11 rfl rfl)
theorem dX0_tryPlan_128 : decode cX0_tryPlan 128 = .ok (.invokevirtual 256, 3) := dk_182 1 0 (dk_at dksX0_tryPlan_5 12 rfl rfl)
theorem dX0_tryPlan_131 : decode cX0_tryPlan 131 = .ok (.return_, 1) := dk_177 (dk_at dksX0_tryPlan_5 15 rfl rfl)
abbrev cX0_isClear : ByteArray := prog_1_method_37_code
def yX0_isClear : MethodName := ⟨RX0, "isClear", "(II)Z"⟩
def dkwX0_isClear_5 : List UInt8 := [132, 5, 1, 167, 255, 173, 21, 4, 172]
abbrev dktX0_isClear_5 : List UInt8 := dkwX0_isClear_5 ++ []
def dkwX0_isClear_4 : List UInt8 := [180, 0, 189, 45, 180, 0, 189, 45, 3, 182, 0, 181, 96, 161, 0, 7, 4, 167, 0, 4, 3, 126, 54, 4]
abbrev dktX0_isClear_4 : List UInt8 := dkwX0_isClear_4 ++ dktX0_isClear_5
def dkwX0_isClear_3 : List UInt8 := [160, 0, 40, 45, 180, 0, 189, 25, 6, 180, 0, 189, 25, 6, 3, 182, 0, 181, 96, 162, 0, 21, 25, 6]
abbrev dktX0_isClear_3 : List UInt8 := dkwX0_isClear_3 ++ dktX0_isClear_4
def dkwX0_isClear_2 : List UInt8 := [21, 5, 185, 0, 144, 2, 0, 192, 0, 126, 58, 6, 21, 4, 42, 180, 0, 57, 21, 5, 46, 28]
abbrev dktX0_isClear_2 : List UInt8 := dkwX0_isClear_2 ++ dktX0_isClear_3
def dkwX0_isClear_1 : List UInt8 := [161, 0, 7, 4, 167, 0, 4, 3, 54, 4, 3, 54, 5, 21, 5, 27, 162, 0, 83, 42, 180, 0, 35]
abbrev dktX0_isClear_1 : List UInt8 := dkwX0_isClear_1 ++ dktX0_isClear_2
def dkwX0_isClear_0 : List UInt8 := [42, 180, 0, 35, 27, 185, 0, 144, 2, 0, 192, 0, 126, 78, 42, 180, 0, 29, 28, 46, 45, 180, 0, 158]
abbrev dktX0_isClear_0 : List UInt8 := dkwX0_isClear_0 ++ dktX0_isClear_1
theorem dksX0_isClear_0 : cX0_isClear.data.toList.drop 0 = dktX0_isClear_0 := by decide +kernel
theorem dksX0_isClear_1 : cX0_isClear.data.toList.drop 24 = dktX0_isClear_1 := dk_seg dksX0_isClear_0 24 rfl rfl
theorem dksX0_isClear_2 : cX0_isClear.data.toList.drop 47 = dktX0_isClear_2 := dk_seg dksX0_isClear_1 23 rfl rfl
theorem dksX0_isClear_3 : cX0_isClear.data.toList.drop 69 = dktX0_isClear_3 := dk_seg dksX0_isClear_2 22 rfl rfl
theorem dksX0_isClear_4 : cX0_isClear.data.toList.drop 93 = dktX0_isClear_4 := dk_seg dksX0_isClear_3 24 rfl rfl
theorem dksX0_isClear_5 : cX0_isClear.data.toList.drop 117 = dktX0_isClear_5 := dk_seg dksX0_isClear_4 24 rfl rfl
theorem dX0_isClear_0 : decode cX0_isClear 0 = .ok (.aload_n 0, 1) := dk_42 (dk_at dksX0_isClear_0 0 rfl rfl)
theorem dX0_isClear_1 : decode cX0_isClear 1 = .ok (.getfield 35, 3) := dk_180 0 35 (dk_at dksX0_isClear_0 1 rfl rfl)
theorem dX0_isClear_4 : decode cX0_isClear 4 = .ok (.iload_n 1, 1) := dk_27 (dk_at dksX0_isClear_0 4 rfl rfl)
theorem dX0_isClear_5 : decode cX0_isClear 5 = .ok (.invokeinterface 144 2, 5) := by decide +kernel
theorem dX0_isClear_10 : decode cX0_isClear 10 = .ok (.checkcast 126, 3) := dk_192 0 126 (dk_at dksX0_isClear_0 10 rfl rfl)
theorem dX0_isClear_13 : decode cX0_isClear 13 = .ok (.astore_n 3, 1) := dk_78 (dk_at dksX0_isClear_0 13 rfl rfl)
theorem dX0_isClear_14 : decode cX0_isClear 14 = .ok (.aload_n 0, 1) := dk_42 (dk_at dksX0_isClear_0 14 rfl rfl)
theorem dX0_isClear_15 : decode cX0_isClear 15 = .ok (.getfield 29, 3) := dk_180 0 29 (dk_at dksX0_isClear_0 15 rfl rfl)
theorem dX0_isClear_18 : decode cX0_isClear 18 = .ok (.iload_n 2, 1) := dk_28 (dk_at dksX0_isClear_0 18 rfl rfl)
theorem dX0_isClear_19 : decode cX0_isClear 19 = .ok (.iaload, 1) := dk_46 (dk_at dksX0_isClear_0 19 rfl rfl)
theorem dX0_isClear_20 : decode cX0_isClear 20 = .ok (.aload_n 3, 1) := dk_45 (dk_at dksX0_isClear_0 20 rfl rfl)
theorem dX0_isClear_21 : decode cX0_isClear 21 = .ok (.getfield 158, 3) := dk_180 0 158 (dk_at dksX0_isClear_0 21 rfl rfl)
theorem dX0_isClear_24 : decode cX0_isClear 24 = .ok (.if_icmp .lt 7, 3) := dk_161 0 7 (dk_at dksX0_isClear_1 0 rfl rfl)
theorem dX0_isClear_27 : decode cX0_isClear 27 = .ok (.iconst 1, 1) := dk_4 (dk_at dksX0_isClear_1 3 rfl rfl)
theorem dX0_isClear_28 : decode cX0_isClear 28 = .ok (.goto 4, 3) := dk_167 0 4 (dk_at dksX0_isClear_1 4 rfl rfl)
theorem dX0_isClear_31 : decode cX0_isClear 31 = .ok (.iconst 0, 1) := dk_3 (dk_at dksX0_isClear_1 7 rfl rfl)
theorem dX0_isClear_32 : decode cX0_isClear 32 = .ok (.istore 4, 2) := dk_54 4 (dk_at dksX0_isClear_1 8 rfl rfl)
theorem dX0_isClear_34 : decode cX0_isClear 34 = .ok (.iconst 0, 1) := dk_3 (dk_at dksX0_isClear_1 10 rfl rfl)
theorem dX0_isClear_35 : decode cX0_isClear 35 = .ok (.istore 5, 2) := dk_54 5 (dk_at dksX0_isClear_1 11 rfl rfl)
theorem dX0_isClear_37 : decode cX0_isClear 37 = .ok (.iload 5, 2) := dk_21 5 (dk_at dksX0_isClear_1 13 rfl rfl)
theorem dX0_isClear_39 : decode cX0_isClear 39 = .ok (.iload_n 1, 1) := dk_27 (dk_at dksX0_isClear_1 15 rfl rfl)
theorem dX0_isClear_40 : decode cX0_isClear 40 = .ok (.if_icmp .ge 83, 3) := dk_162 0 83 (dk_at dksX0_isClear_1 16 rfl rfl)
theorem dX0_isClear_43 : decode cX0_isClear 43 = .ok (.aload_n 0, 1) := dk_42 (dk_at dksX0_isClear_1 19 rfl rfl)
theorem dX0_isClear_44 : decode cX0_isClear 44 = .ok (.getfield 35, 3) := dk_180 0 35 (dk_at dksX0_isClear_1 20 rfl rfl)
theorem dX0_isClear_47 : decode cX0_isClear 47 = .ok (.iload 5, 2) := dk_21 5 (dk_at dksX0_isClear_2 0 rfl rfl)
theorem dX0_isClear_49 : decode cX0_isClear 49 = .ok (.invokeinterface 144 2, 5) := by decide +kernel
theorem dX0_isClear_54 : decode cX0_isClear 54 = .ok (.checkcast 126, 3) := dk_192 0 126 (dk_at dksX0_isClear_2 7 rfl rfl)
theorem dX0_isClear_57 : decode cX0_isClear 57 = .ok (.astore 6, 2) := dk_58 6 (dk_at dksX0_isClear_2 10 rfl rfl)
theorem dX0_isClear_59 : decode cX0_isClear 59 = .ok (.iload 4, 2) := dk_21 4 (dk_at dksX0_isClear_2 12 rfl rfl)
theorem dX0_isClear_61 : decode cX0_isClear 61 = .ok (.aload_n 0, 1) := dk_42 (dk_at dksX0_isClear_2 14 rfl rfl)
theorem dX0_isClear_62 : decode cX0_isClear 62 = .ok (.getfield 57, 3) := dk_180 0 57 (dk_at dksX0_isClear_2 15 rfl rfl)
theorem dX0_isClear_65 : decode cX0_isClear 65 = .ok (.iload 5, 2) := dk_21 5 (dk_at dksX0_isClear_2 18 rfl rfl)
theorem dX0_isClear_67 : decode cX0_isClear 67 = .ok (.iaload, 1) := dk_46 (dk_at dksX0_isClear_2 20 rfl rfl)
theorem dX0_isClear_68 : decode cX0_isClear 68 = .ok (.iload_n 2, 1) := dk_28 (dk_at dksX0_isClear_2 21 rfl rfl)
theorem dX0_isClear_69 : decode cX0_isClear 69 = .ok (.if_icmp .ne 40, 3) := dk_160 0 40 (dk_at dksX0_isClear_3 0 rfl rfl)
theorem dX0_isClear_72 : decode cX0_isClear 72 = .ok (.aload_n 3, 1) := dk_45 (dk_at dksX0_isClear_3 3 rfl rfl)
theorem dX0_isClear_73 : decode cX0_isClear 73 = .ok (.getfield 189, 3) := dk_180 0 189 (dk_at dksX0_isClear_3 4 rfl rfl)
theorem dX0_isClear_76 : decode cX0_isClear 76 = .ok (.aload 6, 2) := dk_25 6 (dk_at dksX0_isClear_3 7 rfl rfl)
theorem dX0_isClear_78 : decode cX0_isClear 78 = .ok (.getfield 189, 3) := dk_180 0 189 (dk_at dksX0_isClear_3 9 rfl rfl)
theorem dX0_isClear_81 : decode cX0_isClear 81 = .ok (.aload 6, 2) := dk_25 6 (dk_at dksX0_isClear_3 12 rfl rfl)
theorem dX0_isClear_83 : decode cX0_isClear 83 = .ok (.iconst 0, 1) := dk_3 (dk_at dksX0_isClear_3 14 rfl rfl)
theorem dX0_isClear_84 : decode cX0_isClear 84 = .ok (.invokevirtual 181, 3) := dk_182 0 181 (dk_at dksX0_isClear_3 15 rfl rfl)
theorem dX0_isClear_87 : decode cX0_isClear 87 = .ok (.iadd, 1) := dk_96 (dk_at dksX0_isClear_3 18 rfl rfl)
theorem dX0_isClear_88 : decode cX0_isClear 88 = .ok (.if_icmp .ge 21, 3) := dk_162 0 21 (dk_at dksX0_isClear_3 19 rfl rfl)
theorem dX0_isClear_91 : decode cX0_isClear 91 = .ok (.aload 6, 2) := dk_25 6 (dk_at dksX0_isClear_3 22 rfl rfl)
theorem dX0_isClear_93 : decode cX0_isClear 93 = .ok (.getfield 189, 3) := dk_180 0 189 (dk_at dksX0_isClear_4 0 rfl rfl)
theorem dX0_isClear_96 : decode cX0_isClear 96 = .ok (.aload_n 3, 1) := dk_45 (dk_at dksX0_isClear_4 3 rfl rfl)
theorem dX0_isClear_97 : decode cX0_isClear 97 = .ok (.getfield 189, 3) := dk_180 0 189 (dk_at dksX0_isClear_4 4 rfl rfl)
theorem dX0_isClear_100 : decode cX0_isClear 100 = .ok (.aload_n 3, 1) := dk_45 (dk_at dksX0_isClear_4 7 rfl rfl)
theorem dX0_isClear_101 : decode cX0_isClear 101 = .ok (.iconst 0, 1) := dk_3 (dk_at dksX0_isClear_4 8 rfl rfl)
theorem dX0_isClear_102 : decode cX0_isClear 102 = .ok (.invokevirtual 181, 3) := dk_182 0 181 (dk_at dksX0_isClear_4 9 rfl rfl)
theorem dX0_isClear_105 : decode cX0_isClear 105 = .ok (.iadd, 1) := dk_96 (dk_at dksX0_isClear_4 12 rfl rfl)
theorem dX0_isClear_106 : decode cX0_isClear 106 = .ok (.if_icmp .lt 7, 3) := dk_161 0 7 (dk_at dksX0_isClear_4 13 rfl rfl)
theorem dX0_isClear_109 : decode cX0_isClear 109 = .ok (.iconst 1, 1) := dk_4 (dk_at dksX0_isClear_4 16 rfl rfl)
theorem dX0_isClear_110 : decode cX0_isClear 110 = .ok (.goto 4, 3) := dk_167 0 4 (dk_at dksX0_isClear_4 17 rfl rfl)
theorem dX0_isClear_113 : decode cX0_isClear 113 = .ok (.iconst 0, 1) := dk_3 (dk_at dksX0_isClear_4 20 rfl rfl)
theorem dX0_isClear_114 : decode cX0_isClear 114 = .ok (.iand, 1) := dk_126 (dk_at dksX0_isClear_4 21 rfl rfl)
theorem dX0_isClear_115 : decode cX0_isClear 115 = .ok (.istore 4, 2) := dk_54 4 (dk_at dksX0_isClear_4 22 rfl rfl)
theorem dX0_isClear_117 : decode cX0_isClear 117 = .ok (.iinc 5 1, 3) := dk_132 5 1 (dk_at dksX0_isClear_5 0 rfl rfl)
theorem dX0_isClear_120 : decode cX0_isClear 120 = .ok (.goto (-83), 3) := dk_167 255 173 (dk_at dksX0_isClear_5 3 rfl rfl)
theorem dX0_isClear_123 : decode cX0_isClear 123 = .ok (.iload 4, 2) := dk_21 4 (dk_at dksX0_isClear_5 6 rfl rfl)
theorem dX0_isClear_125 : decode cX0_isClear 125 = .ok (.ireturn, 1) := dk_172 (dk_at dksX0_isClear_5 8 rfl rfl)
abbrev cX0_bestRule : ByteArray := prog_1_method_40_code
def yX0_bestRule : MethodName := ⟨RX0, "bestRule", "(I)I"⟩
def dkwX0_bestRule_4 : List UInt8 := [167, 0, 5, 21, 4, 172]
abbrev dktX0_bestRule_4 : List UInt8 := dkwX0_bestRule_4 ++ []
def dkwX0_bestRule_3 : List UInt8 := [21, 6, 184, 1, 5, 54, 4, 132, 5, 1, 167, 255, 210, 42, 28, 181, 0, 98, 27, 154, 0, 7, 29]
abbrev dktX0_bestRule_3 : List UInt8 := dkwX0_bestRule_3 ++ dktX0_bestRule_4
def dkwX0_bestRule_2 : List UInt8 := [42, 16, 247, 182, 0, 240, 54, 6, 21, 6, 21, 4, 164, 0, 8, 21, 5, 167, 0, 4, 29, 62, 21, 4]
abbrev dktX0_bestRule_2 : List UInt8 := dkwX0_bestRule_2 ++ dktX0_bestRule_3
def dkwX0_bestRule_1 : List UInt8 := [180, 0, 98, 61, 3, 62, 2, 54, 4, 3, 54, 5, 21, 5, 6, 162, 0, 46, 42, 21, 5, 181, 0, 98]
abbrev dktX0_bestRule_1 : List UInt8 := dkwX0_bestRule_1 ++ dktX0_bestRule_2
def dkwX0_bestRule_0 : List UInt8 := [27, 133, 9, 10, 184, 0, 81, 154, 0, 6, 16, 254, 172, 42, 180, 0, 78, 154, 0, 6, 16, 253, 172, 42]
abbrev dktX0_bestRule_0 : List UInt8 := dkwX0_bestRule_0 ++ dktX0_bestRule_1
theorem dksX0_bestRule_0 : cX0_bestRule.data.toList.drop 0 = dktX0_bestRule_0 := by decide +kernel
theorem dksX0_bestRule_1 : cX0_bestRule.data.toList.drop 24 = dktX0_bestRule_1 := dk_seg dksX0_bestRule_0 24 rfl rfl
theorem dksX0_bestRule_2 : cX0_bestRule.data.toList.drop 48 = dktX0_bestRule_2 := dk_seg dksX0_bestRule_1 24 rfl rfl
theorem dksX0_bestRule_3 : cX0_bestRule.data.toList.drop 72 = dktX0_bestRule_3 := dk_seg dksX0_bestRule_2 24 rfl rfl
theorem dksX0_bestRule_4 : cX0_bestRule.data.toList.drop 95 = dktX0_bestRule_4 := dk_seg dksX0_bestRule_3 23 rfl rfl
theorem dX0_bestRule_0 : decode cX0_bestRule 0 = .ok (.iload_n 1, 1) := dk_27 (dk_at dksX0_bestRule_0 0 rfl rfl)
theorem dX0_bestRule_1 : decode cX0_bestRule 1 = .ok (.i2l, 1) := dk_133 (dk_at dksX0_bestRule_0 1 rfl rfl)
theorem dX0_bestRule_2 : decode cX0_bestRule 2 = .ok (.lconst 0, 1) := dk_9 (dk_at dksX0_bestRule_0 2 rfl rfl)
theorem dX0_bestRule_3 : decode cX0_bestRule 3 = .ok (.lconst 1, 1) := dk_10 (dk_at dksX0_bestRule_0 3 rfl rfl)
theorem dX0_bestRule_4 : decode cX0_bestRule 4 = .ok (.invokestatic 81, 3) := dk_184 0 81 (dk_at dksX0_bestRule_0 4 rfl rfl)
theorem dX0_bestRule_7 : decode cX0_bestRule 7 = .ok (.ifCond .ne 6, 3) := dk_154 0 6 (dk_at dksX0_bestRule_0 7 rfl rfl)
theorem dX0_bestRule_10 : decode cX0_bestRule 10 = .ok (.bipush (-2), 2) := dk_16 254 (dk_at dksX0_bestRule_0 10 rfl rfl)
theorem dX0_bestRule_12 : decode cX0_bestRule 12 = .ok (.ireturn, 1) := dk_172 (dk_at dksX0_bestRule_0 12 rfl rfl)
theorem dX0_bestRule_13 : decode cX0_bestRule 13 = .ok (.aload_n 0, 1) := dk_42 (dk_at dksX0_bestRule_0 13 rfl rfl)
theorem dX0_bestRule_14 : decode cX0_bestRule 14 = .ok (.getfield 78, 3) := dk_180 0 78 (dk_at dksX0_bestRule_0 14 rfl rfl)
theorem dX0_bestRule_17 : decode cX0_bestRule 17 = .ok (.ifCond .ne 6, 3) := dk_154 0 6 (dk_at dksX0_bestRule_0 17 rfl rfl)
theorem dX0_bestRule_20 : decode cX0_bestRule 20 = .ok (.bipush (-3), 2) := dk_16 253 (dk_at dksX0_bestRule_0 20 rfl rfl)
theorem dX0_bestRule_22 : decode cX0_bestRule 22 = .ok (.ireturn, 1) := dk_172 (dk_at dksX0_bestRule_0 22 rfl rfl)
theorem dX0_bestRule_23 : decode cX0_bestRule 23 = .ok (.aload_n 0, 1) := dk_42 (dk_at dksX0_bestRule_0 23 rfl rfl)
theorem dX0_bestRule_24 : decode cX0_bestRule 24 = .ok (.getfield 98, 3) := dk_180 0 98 (dk_at dksX0_bestRule_1 0 rfl rfl)
theorem dX0_bestRule_27 : decode cX0_bestRule 27 = .ok (.istore_n 2, 1) := dk_61 (dk_at dksX0_bestRule_1 3 rfl rfl)
theorem dX0_bestRule_28 : decode cX0_bestRule 28 = .ok (.iconst 0, 1) := dk_3 (dk_at dksX0_bestRule_1 4 rfl rfl)
theorem dX0_bestRule_29 : decode cX0_bestRule 29 = .ok (.istore_n 3, 1) := dk_62 (dk_at dksX0_bestRule_1 5 rfl rfl)
theorem dX0_bestRule_30 : decode cX0_bestRule 30 = .ok (.iconst (-1), 1) := dk_2 (dk_at dksX0_bestRule_1 6 rfl rfl)
theorem dX0_bestRule_31 : decode cX0_bestRule 31 = .ok (.istore 4, 2) := dk_54 4 (dk_at dksX0_bestRule_1 7 rfl rfl)
theorem dX0_bestRule_33 : decode cX0_bestRule 33 = .ok (.iconst 0, 1) := dk_3 (dk_at dksX0_bestRule_1 9 rfl rfl)
theorem dX0_bestRule_34 : decode cX0_bestRule 34 = .ok (.istore 5, 2) := dk_54 5 (dk_at dksX0_bestRule_1 10 rfl rfl)
theorem dX0_bestRule_36 : decode cX0_bestRule 36 = .ok (.iload 5, 2) := dk_21 5 (dk_at dksX0_bestRule_1 12 rfl rfl)
theorem dX0_bestRule_38 : decode cX0_bestRule 38 = .ok (.iconst 3, 1) := dk_6 (dk_at dksX0_bestRule_1 14 rfl rfl)
theorem dX0_bestRule_39 : decode cX0_bestRule 39 = .ok (.if_icmp .ge 46, 3) := dk_162 0 46 (dk_at dksX0_bestRule_1 15 rfl rfl)
theorem dX0_bestRule_42 : decode cX0_bestRule 42 = .ok (.aload_n 0, 1) := dk_42 (dk_at dksX0_bestRule_1 18 rfl rfl)
theorem dX0_bestRule_43 : decode cX0_bestRule 43 = .ok (.iload 5, 2) := dk_21 5 (dk_at dksX0_bestRule_1 19 rfl rfl)
theorem dX0_bestRule_45 : decode cX0_bestRule 45 = .ok (.putfield 98, 3) := dk_181 0 98 (dk_at dksX0_bestRule_1 21 rfl rfl)
theorem dX0_bestRule_48 : decode cX0_bestRule 48 = .ok (.aload_n 0, 1) := dk_42 (dk_at dksX0_bestRule_2 0 rfl rfl)
theorem dX0_bestRule_49 : decode cX0_bestRule 49 = .ok (.bipush (-9), 2) := dk_16 247 (dk_at dksX0_bestRule_2 1 rfl rfl)
theorem dX0_bestRule_51 : decode cX0_bestRule 51 = .ok (.invokevirtual 240, 3) := dk_182 0 240 (dk_at dksX0_bestRule_2 3 rfl rfl)
theorem dX0_bestRule_54 : decode cX0_bestRule 54 = .ok (.istore 6, 2) := dk_54 6 (dk_at dksX0_bestRule_2 6 rfl rfl)
theorem dX0_bestRule_56 : decode cX0_bestRule 56 = .ok (.iload 6, 2) := dk_21 6 (dk_at dksX0_bestRule_2 8 rfl rfl)
theorem dX0_bestRule_58 : decode cX0_bestRule 58 = .ok (.iload 4, 2) := dk_21 4 (dk_at dksX0_bestRule_2 10 rfl rfl)
theorem dX0_bestRule_60 : decode cX0_bestRule 60 = .ok (.if_icmp .le 8, 3) := dk_164 0 8 (dk_at dksX0_bestRule_2 12 rfl rfl)
theorem dX0_bestRule_63 : decode cX0_bestRule 63 = .ok (.iload 5, 2) := dk_21 5 (dk_at dksX0_bestRule_2 15 rfl rfl)
theorem dX0_bestRule_65 : decode cX0_bestRule 65 = .ok (.goto 4, 3) := dk_167 0 4 (dk_at dksX0_bestRule_2 17 rfl rfl)
theorem dX0_bestRule_68 : decode cX0_bestRule 68 = .ok (.iload_n 3, 1) := dk_29 (dk_at dksX0_bestRule_2 20 rfl rfl)
theorem dX0_bestRule_69 : decode cX0_bestRule 69 = .ok (.istore_n 3, 1) := dk_62 (dk_at dksX0_bestRule_2 21 rfl rfl)
theorem dX0_bestRule_70 : decode cX0_bestRule 70 = .ok (.iload 4, 2) := dk_21 4 (dk_at dksX0_bestRule_2 22 rfl rfl)
theorem dX0_bestRule_72 : decode cX0_bestRule 72 = .ok (.iload 6, 2) := dk_21 6 (dk_at dksX0_bestRule_3 0 rfl rfl)
theorem dX0_bestRule_74 : decode cX0_bestRule 74 = .ok (.invokestatic 261, 3) := dk_184 1 5 (dk_at dksX0_bestRule_3 2 rfl rfl)
theorem dX0_bestRule_77 : decode cX0_bestRule 77 = .ok (.istore 4, 2) := dk_54 4 (dk_at dksX0_bestRule_3 5 rfl rfl)
theorem dX0_bestRule_79 : decode cX0_bestRule 79 = .ok (.iinc 5 1, 3) := dk_132 5 1 (dk_at dksX0_bestRule_3 7 rfl rfl)
theorem dX0_bestRule_82 : decode cX0_bestRule 82 = .ok (.goto (-46), 3) := dk_167 255 210 (dk_at dksX0_bestRule_3 10 rfl rfl)
theorem dX0_bestRule_85 : decode cX0_bestRule 85 = .ok (.aload_n 0, 1) := dk_42 (dk_at dksX0_bestRule_3 13 rfl rfl)
theorem dX0_bestRule_86 : decode cX0_bestRule 86 = .ok (.iload_n 2, 1) := dk_28 (dk_at dksX0_bestRule_3 14 rfl rfl)
theorem dX0_bestRule_87 : decode cX0_bestRule 87 = .ok (.putfield 98, 3) := dk_181 0 98 (dk_at dksX0_bestRule_3 15 rfl rfl)
theorem dX0_bestRule_90 : decode cX0_bestRule 90 = .ok (.iload_n 1, 1) := dk_27 (dk_at dksX0_bestRule_3 18 rfl rfl)
theorem dX0_bestRule_91 : decode cX0_bestRule 91 = .ok (.ifCond .ne 7, 3) := dk_154 0 7 (dk_at dksX0_bestRule_3 19 rfl rfl)
theorem dX0_bestRule_94 : decode cX0_bestRule 94 = .ok (.iload_n 3, 1) := dk_29 (dk_at dksX0_bestRule_3 22 rfl rfl)
theorem dX0_bestRule_95 : decode cX0_bestRule 95 = .ok (.goto 5, 3) := dk_167 0 5 (dk_at dksX0_bestRule_4 0 rfl rfl)
theorem dX0_bestRule_98 : decode cX0_bestRule 98 = .ok (.iload 4, 2) := dk_21 4 (dk_at dksX0_bestRule_4 3 rfl rfl)
theorem dX0_bestRule_100 : decode cX0_bestRule 100 = .ok (.ireturn, 1) := dk_172 (dk_at dksX0_bestRule_4 5 rfl rfl)
abbrev cX0_waiting : ByteArray := prog_1_method_42_code
def yX0_waiting : MethodName := ⟨RX0, "waiting", "(I)I"⟩
def dkwX0_waiting_3 : List UInt8 := [42, 180, 0, 63, 28, 46, 172]
abbrev dktX0_waiting_3 : List UInt8 := dkwX0_waiting_3 ++ []
def dkwX0_waiting_2 : List UInt8 := [46, 164, 0, 7, 29, 167, 0, 4, 28, 61, 132, 3, 1, 167, 255, 226, 27, 154, 0, 7, 28, 167, 0, 9]
abbrev dktX0_waiting_2 : List UInt8 := dkwX0_waiting_2 ++ dktX0_waiting_3
def dkwX0_waiting_1 : List UInt8 := [182, 1, 8, 3, 61, 4, 62, 29, 16, 30, 163, 0, 30, 42, 180, 0, 63, 29, 46, 42, 180, 0, 63, 28]
abbrev dktX0_waiting_1 : List UInt8 := dkwX0_waiting_1 ++ dktX0_waiting_2
def dkwX0_waiting_0 : List UInt8 := [27, 133, 9, 10, 184, 0, 81, 154, 0, 6, 16, 254, 172, 42, 180, 0, 78, 154, 0, 6, 16, 253, 172, 42]
abbrev dktX0_waiting_0 : List UInt8 := dkwX0_waiting_0 ++ dktX0_waiting_1
theorem dksX0_waiting_0 : cX0_waiting.data.toList.drop 0 = dktX0_waiting_0 := by decide +kernel
theorem dksX0_waiting_1 : cX0_waiting.data.toList.drop 24 = dktX0_waiting_1 := dk_seg dksX0_waiting_0 24 rfl rfl
theorem dksX0_waiting_2 : cX0_waiting.data.toList.drop 48 = dktX0_waiting_2 := dk_seg dksX0_waiting_1 24 rfl rfl
theorem dksX0_waiting_3 : cX0_waiting.data.toList.drop 72 = dktX0_waiting_3 := dk_seg dksX0_waiting_2 24 rfl rfl
theorem dX0_waiting_0 : decode cX0_waiting 0 = .ok (.iload_n 1, 1) := dk_27 (dk_at dksX0_waiting_0 0 rfl rfl)
theorem dX0_waiting_1 : decode cX0_waiting 1 = .ok (.i2l, 1) := dk_133 (dk_at dksX0_waiting_0 1 rfl rfl)
theorem dX0_waiting_2 : decode cX0_waiting 2 = .ok (.lconst 0, 1) := dk_9 (dk_at dksX0_waiting_0 2 rfl rfl)
theorem dX0_waiting_3 : decode cX0_waiting 3 = .ok (.lconst 1, 1) := dk_10 (dk_at dksX0_waiting_0 3 rfl rfl)
theorem dX0_waiting_4 : decode cX0_waiting 4 = .ok (.invokestatic 81, 3) := dk_184 0 81 (dk_at dksX0_waiting_0 4 rfl rfl)
theorem dX0_waiting_7 : decode cX0_waiting 7 = .ok (.ifCond .ne 6, 3) := dk_154 0 6 (dk_at dksX0_waiting_0 7 rfl rfl)
theorem dX0_waiting_10 : decode cX0_waiting 10 = .ok (.bipush (-2), 2) := dk_16 254 (dk_at dksX0_waiting_0 10 rfl rfl)
theorem dX0_waiting_12 : decode cX0_waiting 12 = .ok (.ireturn, 1) := dk_172 (dk_at dksX0_waiting_0 12 rfl rfl)
theorem dX0_waiting_13 : decode cX0_waiting 13 = .ok (.aload_n 0, 1) := dk_42 (dk_at dksX0_waiting_0 13 rfl rfl)
theorem dX0_waiting_14 : decode cX0_waiting 14 = .ok (.getfield 78, 3) := dk_180 0 78 (dk_at dksX0_waiting_0 14 rfl rfl)
theorem dX0_waiting_17 : decode cX0_waiting 17 = .ok (.ifCond .ne 6, 3) := dk_154 0 6 (dk_at dksX0_waiting_0 17 rfl rfl)
theorem dX0_waiting_20 : decode cX0_waiting 20 = .ok (.bipush (-3), 2) := dk_16 253 (dk_at dksX0_waiting_0 20 rfl rfl)
theorem dX0_waiting_22 : decode cX0_waiting 22 = .ok (.ireturn, 1) := dk_172 (dk_at dksX0_waiting_0 22 rfl rfl)
theorem dX0_waiting_23 : decode cX0_waiting 23 = .ok (.aload_n 0, 1) := dk_42 (dk_at dksX0_waiting_0 23 rfl rfl)
theorem dX0_waiting_24 : decode cX0_waiting 24 = .ok (.invokevirtual 264, 3) := dk_182 1 8 (dk_at dksX0_waiting_1 0 rfl rfl)
theorem dX0_waiting_27 : decode cX0_waiting 27 = .ok (.iconst 0, 1) := dk_3 (dk_at dksX0_waiting_1 3 rfl rfl)
theorem dX0_waiting_28 : decode cX0_waiting 28 = .ok (.istore_n 2, 1) := dk_61 (dk_at dksX0_waiting_1 4 rfl rfl)
theorem dX0_waiting_29 : decode cX0_waiting 29 = .ok (.iconst 1, 1) := dk_4 (dk_at dksX0_waiting_1 5 rfl rfl)
theorem dX0_waiting_30 : decode cX0_waiting 30 = .ok (.istore_n 3, 1) := dk_62 (dk_at dksX0_waiting_1 6 rfl rfl)
theorem dX0_waiting_31 : decode cX0_waiting 31 = .ok (.iload_n 3, 1) := dk_29 (dk_at dksX0_waiting_1 7 rfl rfl)
theorem dX0_waiting_32 : decode cX0_waiting 32 = .ok (.bipush 30, 2) := dk_16 30 (dk_at dksX0_waiting_1 8 rfl rfl)
theorem dX0_waiting_34 : decode cX0_waiting 34 = .ok (.if_icmp .gt 30, 3) := dk_163 0 30 (dk_at dksX0_waiting_1 10 rfl rfl)
theorem dX0_waiting_37 : decode cX0_waiting 37 = .ok (.aload_n 0, 1) := dk_42 (dk_at dksX0_waiting_1 13 rfl rfl)
theorem dX0_waiting_38 : decode cX0_waiting 38 = .ok (.getfield 63, 3) := dk_180 0 63 (dk_at dksX0_waiting_1 14 rfl rfl)
theorem dX0_waiting_41 : decode cX0_waiting 41 = .ok (.iload_n 3, 1) := dk_29 (dk_at dksX0_waiting_1 17 rfl rfl)
theorem dX0_waiting_42 : decode cX0_waiting 42 = .ok (.iaload, 1) := dk_46 (dk_at dksX0_waiting_1 18 rfl rfl)
theorem dX0_waiting_43 : decode cX0_waiting 43 = .ok (.aload_n 0, 1) := dk_42 (dk_at dksX0_waiting_1 19 rfl rfl)
theorem dX0_waiting_44 : decode cX0_waiting 44 = .ok (.getfield 63, 3) := dk_180 0 63 (dk_at dksX0_waiting_1 20 rfl rfl)
theorem dX0_waiting_47 : decode cX0_waiting 47 = .ok (.iload_n 2, 1) := dk_28 (dk_at dksX0_waiting_1 23 rfl rfl)
theorem dX0_waiting_48 : decode cX0_waiting 48 = .ok (.iaload, 1) := dk_46 (dk_at dksX0_waiting_2 0 rfl rfl)
theorem dX0_waiting_49 : decode cX0_waiting 49 = .ok (.if_icmp .le 7, 3) := dk_164 0 7 (dk_at dksX0_waiting_2 1 rfl rfl)
theorem dX0_waiting_52 : decode cX0_waiting 52 = .ok (.iload_n 3, 1) := dk_29 (dk_at dksX0_waiting_2 4 rfl rfl)
theorem dX0_waiting_53 : decode cX0_waiting 53 = .ok (.goto 4, 3) := dk_167 0 4 (dk_at dksX0_waiting_2 5 rfl rfl)
theorem dX0_waiting_56 : decode cX0_waiting 56 = .ok (.iload_n 2, 1) := dk_28 (dk_at dksX0_waiting_2 8 rfl rfl)
theorem dX0_waiting_57 : decode cX0_waiting 57 = .ok (.istore_n 2, 1) := dk_61 (dk_at dksX0_waiting_2 9 rfl rfl)
theorem dX0_waiting_58 : decode cX0_waiting 58 = .ok (.iinc 3 1, 3) := dk_132 3 1 (dk_at dksX0_waiting_2 10 rfl rfl)
theorem dX0_waiting_61 : decode cX0_waiting 61 = .ok (.goto (-30), 3) := dk_167 255 226 (dk_at dksX0_waiting_2 13 rfl rfl)
theorem dX0_waiting_64 : decode cX0_waiting 64 = .ok (.iload_n 1, 1) := dk_27 (dk_at dksX0_waiting_2 16 rfl rfl)
theorem dX0_waiting_65 : decode cX0_waiting 65 = .ok (.ifCond .ne 7, 3) := dk_154 0 7 (dk_at dksX0_waiting_2 17 rfl rfl)
theorem dX0_waiting_68 : decode cX0_waiting 68 = .ok (.iload_n 2, 1) := dk_28 (dk_at dksX0_waiting_2 20 rfl rfl)
theorem dX0_waiting_69 : decode cX0_waiting 69 = .ok (.goto 9, 3) := dk_167 0 9 (dk_at dksX0_waiting_2 21 rfl rfl)
theorem dX0_waiting_72 : decode cX0_waiting 72 = .ok (.aload_n 0, 1) := dk_42 (dk_at dksX0_waiting_3 0 rfl rfl)
theorem dX0_waiting_73 : decode cX0_waiting 73 = .ok (.getfield 63, 3) := dk_180 0 63 (dk_at dksX0_waiting_3 1 rfl rfl)
theorem dX0_waiting_76 : decode cX0_waiting 76 = .ok (.iload_n 2, 1) := dk_28 (dk_at dksX0_waiting_3 4 rfl rfl)
theorem dX0_waiting_77 : decode cX0_waiting 77 = .ok (.iaload, 1) := dk_46 (dk_at dksX0_waiting_3 5 rfl rfl)
theorem dX0_waiting_78 : decode cX0_waiting 78 = .ok (.ireturn, 1) := dk_172 (dk_at dksX0_waiting_3 6 rfl rfl)
abbrev cX0_layPatiences : ByteArray := prog_1_method_41_code
def yX0_layPatiences : MethodName := ⟨RX0, "layPatiences", "()V"⟩
def dkwX0_layPatiences_1 : List UInt8 := [16, 247, 182, 0, 240, 79, 132, 2, 1, 167, 255, 230, 42, 27, 181, 0, 101, 177]
abbrev dktX0_layPatiences_1 : List UInt8 := dkwX0_layPatiences_1 ++ []
def dkwX0_layPatiences_0 : List UInt8 := [42, 180, 0, 101, 60, 3, 61, 28, 16, 30, 163, 0, 26, 42, 28, 181, 0, 101, 42, 180, 0, 63, 28, 42]
abbrev dktX0_layPatiences_0 : List UInt8 := dkwX0_layPatiences_0 ++ dktX0_layPatiences_1
theorem dksX0_layPatiences_0 : cX0_layPatiences.data.toList.drop 0 = dktX0_layPatiences_0 := by decide +kernel
theorem dksX0_layPatiences_1 : cX0_layPatiences.data.toList.drop 24 = dktX0_layPatiences_1 := dk_seg dksX0_layPatiences_0 24 rfl rfl
theorem dX0_layPatiences_0 : decode cX0_layPatiences 0 = .ok (.aload_n 0, 1) := dk_42 (dk_at dksX0_layPatiences_0 0 rfl rfl)
theorem dX0_layPatiences_1 : decode cX0_layPatiences 1 = .ok (.getfield 101, 3) := dk_180 0 101 (dk_at dksX0_layPatiences_0 1 rfl rfl)
theorem dX0_layPatiences_4 : decode cX0_layPatiences 4 = .ok (.istore_n 1, 1) := dk_60 (dk_at dksX0_layPatiences_0 4 rfl rfl)
theorem dX0_layPatiences_5 : decode cX0_layPatiences 5 = .ok (.iconst 0, 1) := dk_3 (dk_at dksX0_layPatiences_0 5 rfl rfl)
theorem dX0_layPatiences_6 : decode cX0_layPatiences 6 = .ok (.istore_n 2, 1) := dk_61 (dk_at dksX0_layPatiences_0 6 rfl rfl)
theorem dX0_layPatiences_7 : decode cX0_layPatiences 7 = .ok (.iload_n 2, 1) := dk_28 (dk_at dksX0_layPatiences_0 7 rfl rfl)
theorem dX0_layPatiences_8 : decode cX0_layPatiences 8 = .ok (.bipush 30, 2) := dk_16 30 (dk_at dksX0_layPatiences_0 8 rfl rfl)
theorem dX0_layPatiences_10 : decode cX0_layPatiences 10 = .ok (.if_icmp .gt 26, 3) := dk_163 0 26 (dk_at dksX0_layPatiences_0 10 rfl rfl)
theorem dX0_layPatiences_13 : decode cX0_layPatiences 13 = .ok (.aload_n 0, 1) := dk_42 (dk_at dksX0_layPatiences_0 13 rfl rfl)
theorem dX0_layPatiences_14 : decode cX0_layPatiences 14 = .ok (.iload_n 2, 1) := dk_28 (dk_at dksX0_layPatiences_0 14 rfl rfl)
theorem dX0_layPatiences_15 : decode cX0_layPatiences 15 = .ok (.putfield 101, 3) := dk_181 0 101 (dk_at dksX0_layPatiences_0 15 rfl rfl)
theorem dX0_layPatiences_18 : decode cX0_layPatiences 18 = .ok (.aload_n 0, 1) := dk_42 (dk_at dksX0_layPatiences_0 18 rfl rfl)
theorem dX0_layPatiences_19 : decode cX0_layPatiences 19 = .ok (.getfield 63, 3) := dk_180 0 63 (dk_at dksX0_layPatiences_0 19 rfl rfl)
theorem dX0_layPatiences_22 : decode cX0_layPatiences 22 = .ok (.iload_n 2, 1) := dk_28 (dk_at dksX0_layPatiences_0 22 rfl rfl)
theorem dX0_layPatiences_23 : decode cX0_layPatiences 23 = .ok (.aload_n 0, 1) := dk_42 (dk_at dksX0_layPatiences_0 23 rfl rfl)
theorem dX0_layPatiences_24 : decode cX0_layPatiences 24 = .ok (.bipush (-9), 2) := dk_16 247 (dk_at dksX0_layPatiences_1 0 rfl rfl)
theorem dX0_layPatiences_26 : decode cX0_layPatiences 26 = .ok (.invokevirtual 240, 3) := dk_182 0 240 (dk_at dksX0_layPatiences_1 2 rfl rfl)
theorem dX0_layPatiences_29 : decode cX0_layPatiences 29 = .ok (.iastore, 1) := dk_79 (dk_at dksX0_layPatiences_1 5 rfl rfl)
theorem dX0_layPatiences_30 : decode cX0_layPatiences 30 = .ok (.iinc 2 1, 3) := dk_132 2 1 (dk_at dksX0_layPatiences_1 6 rfl rfl)
theorem dX0_layPatiences_33 : decode cX0_layPatiences 33 = .ok (.goto (-26), 3) := dk_167 255 230 (dk_at dksX0_layPatiences_1 9 rfl rfl)
theorem dX0_layPatiences_36 : decode cX0_layPatiences 36 = .ok (.aload_n 0, 1) := dk_42 (dk_at dksX0_layPatiences_1 12 rfl rfl)
theorem dX0_layPatiences_37 : decode cX0_layPatiences 37 = .ok (.iload_n 1, 1) := dk_27 (dk_at dksX0_layPatiences_1 13 rfl rfl)
theorem dX0_layPatiences_38 : decode cX0_layPatiences 38 = .ok (.putfield 101, 3) := dk_181 0 101 (dk_at dksX0_layPatiences_1 14 rfl rfl)
theorem dX0_layPatiences_41 : decode cX0_layPatiences 41 = .ok (.return_, 1) := dk_177 (dk_at dksX0_layPatiences_1 17 rfl rfl)
abbrev cX0_mix : ByteArray := prog_1_method_44_code
def yX0_mix : MethodName := ⟨RX0, "mix", "(II)I"⟩
def dkwX0_mix_12 : List UInt8 := [16, 7, 112, 167, 0, 8, 21, 6, 16, 7, 112, 172]
abbrev dktX0_mix_12 : List UInt8 := dkwX0_mix_12 ++ []
def dkwX0_mix_11 : List UInt8 := [28, 4, 160, 0, 11, 21, 6, 16, 49, 108, 167, 0, 24, 28, 5, 160, 0, 14, 21, 6, 16, 7, 108]
abbrev dktX0_mix_11 : List UInt8 := dkwX0_mix_11 ++ dktX0_mix_12
def dkwX0_mix_10 : List UInt8 := [42, 180, 0, 69, 3, 42, 180, 0, 29, 3, 16, 6, 184, 0, 87, 28, 154, 0, 8, 21, 5, 167, 0, 37]
abbrev dktX0_mix_10 : List UInt8 := dkwX0_mix_10 ++ dktX0_mix_11
def dkwX0_mix_9 : List UInt8 := [181, 0, 78, 42, 21, 4, 181, 0, 21, 42, 180, 0, 66, 3, 42, 180, 0, 25, 3, 16, 6, 184, 0, 87]
abbrev dktX0_mix_9 : List UInt8 := dkwX0_mix_9 ++ dktX0_mix_10
def dkwX0_mix_8 : List UInt8 := [167, 0, 5, 21, 6, 54, 6, 21, 5, 21, 11, 184, 1, 5, 54, 5, 132, 7, 1, 167, 255, 146, 42, 29]
abbrev dktX0_mix_8 : List UInt8 := dkwX0_mix_8 ++ dktX0_mix_9
def dkwX0_mix_7 : List UInt8 := [21, 10, 182, 1, 15, 42, 16, 247, 182, 0, 240, 54, 11, 21, 11, 21, 5, 164, 0, 8, 21, 7]
abbrev dktX0_mix_7 : List UInt8 := dkwX0_mix_7 ++ dktX0_mix_8
def dkwX0_mix_6 : List UInt8 := [21, 8, 104, 7, 21, 9, 104, 96, 16, 6, 21, 10, 104, 96, 27, 163, 0, 46, 42, 21, 8, 21, 9]
abbrev dktX0_mix_6 : List UInt8 := dkwX0_mix_6 ++ dktX0_mix_7
def dkwX0_mix_5 : List UInt8 := [112, 54, 9, 21, 7, 16, 7, 112, 54, 10, 21, 8, 21, 9, 96, 21, 10, 96, 16, 6, 163, 0, 65, 5]
abbrev dktX0_mix_5 : List UInt8 := dkwX0_mix_5 ++ dktX0_mix_6
def dkwX0_mix_4 : List UInt8 := [54, 7, 21, 7, 17, 1, 87, 162, 0, 108, 21, 7, 16, 49, 108, 54, 8, 21, 7, 16, 7, 108, 16, 7]
abbrev dktX0_mix_4 : List UInt8 := dkwX0_mix_4 ++ dktX0_mix_5
def dkwX0_mix_3 : List UInt8 := [3, 42, 180, 0, 69, 3, 16, 6, 184, 0, 87, 42, 16, 247, 181, 0, 21, 2, 54, 5, 3, 54, 6, 3]
abbrev dktX0_mix_3 : List UInt8 := dkwX0_mix_3 ++ dktX0_mix_4
def dkwX0_mix_2 : List UInt8 := [180, 0, 21, 54, 4, 42, 180, 0, 25, 3, 42, 180, 0, 66, 3, 16, 6, 184, 0, 87, 42, 180, 0, 29]
abbrev dktX0_mix_2 : List UInt8 := dkwX0_mix_2 ++ dktX0_mix_3
def dkwX0_mix_1 : List UInt8 := [154, 0, 6, 16, 254, 172, 42, 180, 0, 78, 154, 0, 6, 16, 253, 172, 42, 180, 0, 78, 62, 42]
abbrev dktX0_mix_1 : List UInt8 := dkwX0_mix_1 ++ dktX0_mix_2
def dkwX0_mix_0 : List UInt8 := [27, 133, 20, 0, 112, 20, 1, 11, 184, 0, 81, 153, 0, 15, 28, 133, 9, 20, 1, 13, 184, 0, 81]
abbrev dktX0_mix_0 : List UInt8 := dkwX0_mix_0 ++ dktX0_mix_1
theorem dksX0_mix_0 : cX0_mix.data.toList.drop 0 = dktX0_mix_0 := by decide +kernel
theorem dksX0_mix_1 : cX0_mix.data.toList.drop 23 = dktX0_mix_1 := dk_seg dksX0_mix_0 23 rfl rfl
theorem dksX0_mix_2 : cX0_mix.data.toList.drop 45 = dktX0_mix_2 := dk_seg dksX0_mix_1 22 rfl rfl
theorem dksX0_mix_3 : cX0_mix.data.toList.drop 69 = dktX0_mix_3 := dk_seg dksX0_mix_2 24 rfl rfl
theorem dksX0_mix_4 : cX0_mix.data.toList.drop 93 = dktX0_mix_4 := dk_seg dksX0_mix_3 24 rfl rfl
theorem dksX0_mix_5 : cX0_mix.data.toList.drop 117 = dktX0_mix_5 := dk_seg dksX0_mix_4 24 rfl rfl
theorem dksX0_mix_6 : cX0_mix.data.toList.drop 141 = dktX0_mix_6 := dk_seg dksX0_mix_5 24 rfl rfl
theorem dksX0_mix_7 : cX0_mix.data.toList.drop 164 = dktX0_mix_7 := dk_seg dksX0_mix_6 23 rfl rfl
theorem dksX0_mix_8 : cX0_mix.data.toList.drop 186 = dktX0_mix_8 := dk_seg dksX0_mix_7 22 rfl rfl
theorem dksX0_mix_9 : cX0_mix.data.toList.drop 210 = dktX0_mix_9 := dk_seg dksX0_mix_8 24 rfl rfl
theorem dksX0_mix_10 : cX0_mix.data.toList.drop 234 = dktX0_mix_10 := dk_seg dksX0_mix_9 24 rfl rfl
theorem dksX0_mix_11 : cX0_mix.data.toList.drop 258 = dktX0_mix_11 := dk_seg dksX0_mix_10 24 rfl rfl
theorem dksX0_mix_12 : cX0_mix.data.toList.drop 281 = dktX0_mix_12 := dk_seg dksX0_mix_11 23 rfl rfl
theorem dX0_mix_0 : decode cX0_mix 0 = .ok (.iload_n 1, 1) := dk_27 (dk_at dksX0_mix_0 0 rfl rfl)
theorem dX0_mix_1 : decode cX0_mix 1 = .ok (.i2l, 1) := dk_133 (dk_at dksX0_mix_0 1 rfl rfl)
theorem dX0_mix_2 : decode cX0_mix 2 = .ok (.ldc2_w 112, 3) := dk_20 0 112 (dk_at dksX0_mix_0 2 rfl rfl)
theorem dX0_mix_5 : decode cX0_mix 5 = .ok (.ldc2_w 267, 3) := dk_20 1 11 (dk_at dksX0_mix_0 5 rfl rfl)
theorem dX0_mix_8 : decode cX0_mix 8 = .ok (.invokestatic 81, 3) := dk_184 0 81 (dk_at dksX0_mix_0 8 rfl rfl)
theorem dX0_mix_11 : decode cX0_mix 11 = .ok (.ifCond .eq 15, 3) := dk_153 0 15 (dk_at dksX0_mix_0 11 rfl rfl)
theorem dX0_mix_14 : decode cX0_mix 14 = .ok (.iload_n 2, 1) := dk_28 (dk_at dksX0_mix_0 14 rfl rfl)
theorem dX0_mix_15 : decode cX0_mix 15 = .ok (.i2l, 1) := dk_133 (dk_at dksX0_mix_0 15 rfl rfl)
theorem dX0_mix_16 : decode cX0_mix 16 = .ok (.lconst 0, 1) := dk_9 (dk_at dksX0_mix_0 16 rfl rfl)
theorem dX0_mix_17 : decode cX0_mix 17 = .ok (.ldc2_w 269, 3) := dk_20 1 13 (dk_at dksX0_mix_0 17 rfl rfl)
theorem dX0_mix_20 : decode cX0_mix 20 = .ok (.invokestatic 81, 3) := dk_184 0 81 (dk_at dksX0_mix_0 20 rfl rfl)
theorem dX0_mix_23 : decode cX0_mix 23 = .ok (.ifCond .ne 6, 3) := dk_154 0 6 (dk_at dksX0_mix_1 0 rfl rfl)
theorem dX0_mix_26 : decode cX0_mix 26 = .ok (.bipush (-2), 2) := dk_16 254 (dk_at dksX0_mix_1 3 rfl rfl)
theorem dX0_mix_28 : decode cX0_mix 28 = .ok (.ireturn, 1) := dk_172 (dk_at dksX0_mix_1 5 rfl rfl)
theorem dX0_mix_29 : decode cX0_mix 29 = .ok (.aload_n 0, 1) := dk_42 (dk_at dksX0_mix_1 6 rfl rfl)
theorem dX0_mix_30 : decode cX0_mix 30 = .ok (.getfield 78, 3) := dk_180 0 78 (dk_at dksX0_mix_1 7 rfl rfl)
theorem dX0_mix_33 : decode cX0_mix 33 = .ok (.ifCond .ne 6, 3) := dk_154 0 6 (dk_at dksX0_mix_1 10 rfl rfl)
theorem dX0_mix_36 : decode cX0_mix 36 = .ok (.bipush (-3), 2) := dk_16 253 (dk_at dksX0_mix_1 13 rfl rfl)
theorem dX0_mix_38 : decode cX0_mix 38 = .ok (.ireturn, 1) := dk_172 (dk_at dksX0_mix_1 15 rfl rfl)
theorem dX0_mix_39 : decode cX0_mix 39 = .ok (.aload_n 0, 1) := dk_42 (dk_at dksX0_mix_1 16 rfl rfl)
theorem dX0_mix_40 : decode cX0_mix 40 = .ok (.getfield 78, 3) := dk_180 0 78 (dk_at dksX0_mix_1 17 rfl rfl)
theorem dX0_mix_43 : decode cX0_mix 43 = .ok (.istore_n 3, 1) := dk_62 (dk_at dksX0_mix_1 20 rfl rfl)
theorem dX0_mix_44 : decode cX0_mix 44 = .ok (.aload_n 0, 1) := dk_42 (dk_at dksX0_mix_1 21 rfl rfl)
theorem dX0_mix_45 : decode cX0_mix 45 = .ok (.getfield 21, 3) := dk_180 0 21 (dk_at dksX0_mix_2 0 rfl rfl)
theorem dX0_mix_48 : decode cX0_mix 48 = .ok (.istore 4, 2) := dk_54 4 (dk_at dksX0_mix_2 3 rfl rfl)
theorem dX0_mix_50 : decode cX0_mix 50 = .ok (.aload_n 0, 1) := dk_42 (dk_at dksX0_mix_2 5 rfl rfl)
theorem dX0_mix_51 : decode cX0_mix 51 = .ok (.getfield 25, 3) := dk_180 0 25 (dk_at dksX0_mix_2 6 rfl rfl)
theorem dX0_mix_54 : decode cX0_mix 54 = .ok (.iconst 0, 1) := dk_3 (dk_at dksX0_mix_2 9 rfl rfl)
theorem dX0_mix_55 : decode cX0_mix 55 = .ok (.aload_n 0, 1) := dk_42 (dk_at dksX0_mix_2 10 rfl rfl)
theorem dX0_mix_56 : decode cX0_mix 56 = .ok (.getfield 66, 3) := dk_180 0 66 (dk_at dksX0_mix_2 11 rfl rfl)
theorem dX0_mix_59 : decode cX0_mix 59 = .ok (.iconst 0, 1) := dk_3 (dk_at dksX0_mix_2 14 rfl rfl)
theorem dX0_mix_60 : decode cX0_mix 60 = .ok (.bipush 6, 2) := dk_16 6 (dk_at dksX0_mix_2 15 rfl rfl)
theorem dX0_mix_62 : decode cX0_mix 62 = .ok (.invokestatic 87, 3) := dk_184 0 87 (dk_at dksX0_mix_2 17 rfl rfl)
theorem dX0_mix_65 : decode cX0_mix 65 = .ok (.aload_n 0, 1) := dk_42 (dk_at dksX0_mix_2 20 rfl rfl)
theorem dX0_mix_66 : decode cX0_mix 66 = .ok (.getfield 29, 3) := dk_180 0 29 (dk_at dksX0_mix_2 21 rfl rfl)
theorem dX0_mix_69 : decode cX0_mix 69 = .ok (.iconst 0, 1) := dk_3 (dk_at dksX0_mix_3 0 rfl rfl)
theorem dX0_mix_70 : decode cX0_mix 70 = .ok (.aload_n 0, 1) := dk_42 (dk_at dksX0_mix_3 1 rfl rfl)
theorem dX0_mix_71 : decode cX0_mix 71 = .ok (.getfield 69, 3) := dk_180 0 69 (dk_at dksX0_mix_3 2 rfl rfl)
theorem dX0_mix_74 : decode cX0_mix 74 = .ok (.iconst 0, 1) := dk_3 (dk_at dksX0_mix_3 5 rfl rfl)
theorem dX0_mix_75 : decode cX0_mix 75 = .ok (.bipush 6, 2) := dk_16 6 (dk_at dksX0_mix_3 6 rfl rfl)
theorem dX0_mix_77 : decode cX0_mix 77 = .ok (.invokestatic 87, 3) := dk_184 0 87 (dk_at dksX0_mix_3 8 rfl rfl)
theorem dX0_mix_80 : decode cX0_mix 80 = .ok (.aload_n 0, 1) := dk_42 (dk_at dksX0_mix_3 11 rfl rfl)
theorem dX0_mix_81 : decode cX0_mix 81 = .ok (.bipush (-9), 2) := dk_16 247 (dk_at dksX0_mix_3 12 rfl rfl)
theorem dX0_mix_83 : decode cX0_mix 83 = .ok (.putfield 21, 3) := dk_181 0 21 (dk_at dksX0_mix_3 14 rfl rfl)
theorem dX0_mix_86 : decode cX0_mix 86 = .ok (.iconst (-1), 1) := dk_2 (dk_at dksX0_mix_3 17 rfl rfl)
theorem dX0_mix_87 : decode cX0_mix 87 = .ok (.istore 5, 2) := dk_54 5 (dk_at dksX0_mix_3 18 rfl rfl)
theorem dX0_mix_89 : decode cX0_mix 89 = .ok (.iconst 0, 1) := dk_3 (dk_at dksX0_mix_3 20 rfl rfl)
theorem dX0_mix_90 : decode cX0_mix 90 = .ok (.istore 6, 2) := dk_54 6 (dk_at dksX0_mix_3 21 rfl rfl)
theorem dX0_mix_92 : decode cX0_mix 92 = .ok (.iconst 0, 1) := dk_3 (dk_at dksX0_mix_3 23 rfl rfl)
theorem dX0_mix_93 : decode cX0_mix 93 = .ok (.istore 7, 2) := dk_54 7 (dk_at dksX0_mix_4 0 rfl rfl)
theorem dX0_mix_95 : decode cX0_mix 95 = .ok (.iload 7, 2) := dk_21 7 (dk_at dksX0_mix_4 2 rfl rfl)
theorem dX0_mix_97 : decode cX0_mix 97 = .ok (.sipush 343, 3) := dk_17 1 87 (dk_at dksX0_mix_4 4 rfl rfl)
theorem dX0_mix_100 : decode cX0_mix 100 = .ok (.if_icmp .ge 108, 3) := dk_162 0 108 (dk_at dksX0_mix_4 7 rfl rfl)
theorem dX0_mix_103 : decode cX0_mix 103 = .ok (.iload 7, 2) := dk_21 7 (dk_at dksX0_mix_4 10 rfl rfl)
theorem dX0_mix_105 : decode cX0_mix 105 = .ok (.bipush 49, 2) := dk_16 49 (dk_at dksX0_mix_4 12 rfl rfl)
theorem dX0_mix_107 : decode cX0_mix 107 = .ok (.idiv, 1) := dk_108 (dk_at dksX0_mix_4 14 rfl rfl)
theorem dX0_mix_108 : decode cX0_mix 108 = .ok (.istore 8, 2) := dk_54 8 (dk_at dksX0_mix_4 15 rfl rfl)
theorem dX0_mix_110 : decode cX0_mix 110 = .ok (.iload 7, 2) := dk_21 7 (dk_at dksX0_mix_4 17 rfl rfl)
theorem dX0_mix_112 : decode cX0_mix 112 = .ok (.bipush 7, 2) := dk_16 7 (dk_at dksX0_mix_4 19 rfl rfl)
theorem dX0_mix_114 : decode cX0_mix 114 = .ok (.idiv, 1) := dk_108 (dk_at dksX0_mix_4 21 rfl rfl)
theorem dX0_mix_115 : decode cX0_mix 115 = .ok (.bipush 7, 2) := dk_16 7 (dk_at dksX0_mix_4 22 rfl rfl)
theorem dX0_mix_117 : decode cX0_mix 117 = .ok (.irem, 1) := dk_112 (dk_at dksX0_mix_5 0 rfl rfl)
theorem dX0_mix_118 : decode cX0_mix 118 = .ok (.istore 9, 2) := dk_54 9 (dk_at dksX0_mix_5 1 rfl rfl)
theorem dX0_mix_120 : decode cX0_mix 120 = .ok (.iload 7, 2) := dk_21 7 (dk_at dksX0_mix_5 3 rfl rfl)
theorem dX0_mix_122 : decode cX0_mix 122 = .ok (.bipush 7, 2) := dk_16 7 (dk_at dksX0_mix_5 5 rfl rfl)
theorem dX0_mix_124 : decode cX0_mix 124 = .ok (.irem, 1) := dk_112 (dk_at dksX0_mix_5 7 rfl rfl)
theorem dX0_mix_125 : decode cX0_mix 125 = .ok (.istore 10, 2) := dk_54 10 (dk_at dksX0_mix_5 8 rfl rfl)
theorem dX0_mix_127 : decode cX0_mix 127 = .ok (.iload 8, 2) := dk_21 8 (dk_at dksX0_mix_5 10 rfl rfl)
theorem dX0_mix_129 : decode cX0_mix 129 = .ok (.iload 9, 2) := dk_21 9 (dk_at dksX0_mix_5 12 rfl rfl)
theorem dX0_mix_131 : decode cX0_mix 131 = .ok (.iadd, 1) := dk_96 (dk_at dksX0_mix_5 14 rfl rfl)
theorem dX0_mix_132 : decode cX0_mix 132 = .ok (.iload 10, 2) := dk_21 10 (dk_at dksX0_mix_5 15 rfl rfl)
theorem dX0_mix_134 : decode cX0_mix 134 = .ok (.iadd, 1) := dk_96 (dk_at dksX0_mix_5 17 rfl rfl)
theorem dX0_mix_135 : decode cX0_mix 135 = .ok (.bipush 6, 2) := dk_16 6 (dk_at dksX0_mix_5 18 rfl rfl)
theorem dX0_mix_137 : decode cX0_mix 137 = .ok (.if_icmp .gt 65, 3) := dk_163 0 65 (dk_at dksX0_mix_5 20 rfl rfl)
theorem dX0_mix_140 : decode cX0_mix 140 = .ok (.iconst 2, 1) := dk_5 (dk_at dksX0_mix_5 23 rfl rfl)
theorem dX0_mix_141 : decode cX0_mix 141 = .ok (.iload 8, 2) := dk_21 8 (dk_at dksX0_mix_6 0 rfl rfl)
theorem dX0_mix_143 : decode cX0_mix 143 = .ok (.imul, 1) := dk_104 (dk_at dksX0_mix_6 2 rfl rfl)
theorem dX0_mix_144 : decode cX0_mix 144 = .ok (.iconst 4, 1) := dk_7 (dk_at dksX0_mix_6 3 rfl rfl)
theorem dX0_mix_145 : decode cX0_mix 145 = .ok (.iload 9, 2) := dk_21 9 (dk_at dksX0_mix_6 4 rfl rfl)
theorem dX0_mix_147 : decode cX0_mix 147 = .ok (.imul, 1) := dk_104 (dk_at dksX0_mix_6 6 rfl rfl)
theorem dX0_mix_148 : decode cX0_mix 148 = .ok (.iadd, 1) := dk_96 (dk_at dksX0_mix_6 7 rfl rfl)
theorem dX0_mix_149 : decode cX0_mix 149 = .ok (.bipush 6, 2) := dk_16 6 (dk_at dksX0_mix_6 8 rfl rfl)
theorem dX0_mix_151 : decode cX0_mix 151 = .ok (.iload 10, 2) := dk_21 10 (dk_at dksX0_mix_6 10 rfl rfl)
theorem dX0_mix_153 : decode cX0_mix 153 = .ok (.imul, 1) := dk_104 (dk_at dksX0_mix_6 12 rfl rfl)
theorem dX0_mix_154 : decode cX0_mix 154 = .ok (.iadd, 1) := dk_96 (dk_at dksX0_mix_6 13 rfl rfl)
theorem dX0_mix_155 : decode cX0_mix 155 = .ok (.iload_n 1, 1) := dk_27 (dk_at dksX0_mix_6 14 rfl rfl)
theorem dX0_mix_156 : decode cX0_mix 156 = .ok (.if_icmp .gt 46, 3) := dk_163 0 46 (dk_at dksX0_mix_6 15 rfl rfl)
theorem dX0_mix_159 : decode cX0_mix 159 = .ok (.aload_n 0, 1) := dk_42 (dk_at dksX0_mix_6 18 rfl rfl)
theorem dX0_mix_160 : decode cX0_mix 160 = .ok (.iload 8, 2) := dk_21 8 (dk_at dksX0_mix_6 19 rfl rfl)
theorem dX0_mix_162 : decode cX0_mix 162 = .ok (.iload 9, 2) := dk_21 9 (dk_at dksX0_mix_6 21 rfl rfl)
theorem dX0_mix_164 : decode cX0_mix 164 = .ok (.iload 10, 2) := dk_21 10 (dk_at dksX0_mix_7 0 rfl rfl)
theorem dX0_mix_166 : decode cX0_mix 166 = .ok (.invokevirtual 271, 3) := dk_182 1 15 (dk_at dksX0_mix_7 2 rfl rfl)
theorem dX0_mix_169 : decode cX0_mix 169 = .ok (.aload_n 0, 1) := dk_42 (dk_at dksX0_mix_7 5 rfl rfl)
theorem dX0_mix_170 : decode cX0_mix 170 = .ok (.bipush (-9), 2) := dk_16 247 (dk_at dksX0_mix_7 6 rfl rfl)
theorem dX0_mix_172 : decode cX0_mix 172 = .ok (.invokevirtual 240, 3) := dk_182 0 240 (dk_at dksX0_mix_7 8 rfl rfl)
theorem dX0_mix_175 : decode cX0_mix 175 = .ok (.istore 11, 2) := dk_54 11 (dk_at dksX0_mix_7 11 rfl rfl)
theorem dX0_mix_177 : decode cX0_mix 177 = .ok (.iload 11, 2) := dk_21 11 (dk_at dksX0_mix_7 13 rfl rfl)
theorem dX0_mix_179 : decode cX0_mix 179 = .ok (.iload 5, 2) := dk_21 5 (dk_at dksX0_mix_7 15 rfl rfl)
theorem dX0_mix_181 : decode cX0_mix 181 = .ok (.if_icmp .le 8, 3) := dk_164 0 8 (dk_at dksX0_mix_7 17 rfl rfl)
theorem dX0_mix_184 : decode cX0_mix 184 = .ok (.iload 7, 2) := dk_21 7 (dk_at dksX0_mix_7 20 rfl rfl)
theorem dX0_mix_186 : decode cX0_mix 186 = .ok (.goto 5, 3) := dk_167 0 5 (dk_at dksX0_mix_8 0 rfl rfl)
theorem dX0_mix_189 : decode cX0_mix 189 = .ok (.iload 6, 2) := dk_21 6 (dk_at dksX0_mix_8 3 rfl rfl)
theorem dX0_mix_191 : decode cX0_mix 191 = .ok (.istore 6, 2) := dk_54 6 (dk_at dksX0_mix_8 5 rfl rfl)
theorem dX0_mix_193 : decode cX0_mix 193 = .ok (.iload 5, 2) := dk_21 5 (dk_at dksX0_mix_8 7 rfl rfl)
theorem dX0_mix_195 : decode cX0_mix 195 = .ok (.iload 11, 2) := dk_21 11 (dk_at dksX0_mix_8 9 rfl rfl)
theorem dX0_mix_197 : decode cX0_mix 197 = .ok (.invokestatic 261, 3) := dk_184 1 5 (dk_at dksX0_mix_8 11 rfl rfl)
theorem dX0_mix_200 : decode cX0_mix 200 = .ok (.istore 5, 2) := dk_54 5 (dk_at dksX0_mix_8 14 rfl rfl)
theorem dX0_mix_202 : decode cX0_mix 202 = .ok (.iinc 7 1, 3) := dk_132 7 1 (dk_at dksX0_mix_8 16 rfl rfl)
theorem dX0_mix_205 : decode cX0_mix 205 = .ok (.goto (-110), 3) := dk_167 255 146 (dk_at dksX0_mix_8 19 rfl rfl)
theorem dX0_mix_208 : decode cX0_mix 208 = .ok (.aload_n 0, 1) := dk_42 (dk_at dksX0_mix_8 22 rfl rfl)
theorem dX0_mix_209 : decode cX0_mix 209 = .ok (.iload_n 3, 1) := dk_29 (dk_at dksX0_mix_8 23 rfl rfl)
theorem dX0_mix_210 : decode cX0_mix 210 = .ok (.putfield 78, 3) := dk_181 0 78 (dk_at dksX0_mix_9 0 rfl rfl)
theorem dX0_mix_213 : decode cX0_mix 213 = .ok (.aload_n 0, 1) := dk_42 (dk_at dksX0_mix_9 3 rfl rfl)
theorem dX0_mix_214 : decode cX0_mix 214 = .ok (.iload 4, 2) := dk_21 4 (dk_at dksX0_mix_9 4 rfl rfl)
theorem dX0_mix_216 : decode cX0_mix 216 = .ok (.putfield 21, 3) := dk_181 0 21 (dk_at dksX0_mix_9 6 rfl rfl)
theorem dX0_mix_219 : decode cX0_mix 219 = .ok (.aload_n 0, 1) := dk_42 (dk_at dksX0_mix_9 9 rfl rfl)
theorem dX0_mix_220 : decode cX0_mix 220 = .ok (.getfield 66, 3) := dk_180 0 66 (dk_at dksX0_mix_9 10 rfl rfl)
theorem dX0_mix_223 : decode cX0_mix 223 = .ok (.iconst 0, 1) := dk_3 (dk_at dksX0_mix_9 13 rfl rfl)
theorem dX0_mix_224 : decode cX0_mix 224 = .ok (.aload_n 0, 1) := dk_42 (dk_at dksX0_mix_9 14 rfl rfl)
theorem dX0_mix_225 : decode cX0_mix 225 = .ok (.getfield 25, 3) := dk_180 0 25 (dk_at dksX0_mix_9 15 rfl rfl)
theorem dX0_mix_228 : decode cX0_mix 228 = .ok (.iconst 0, 1) := dk_3 (dk_at dksX0_mix_9 18 rfl rfl)
theorem dX0_mix_229 : decode cX0_mix 229 = .ok (.bipush 6, 2) := dk_16 6 (dk_at dksX0_mix_9 19 rfl rfl)
theorem dX0_mix_231 : decode cX0_mix 231 = .ok (.invokestatic 87, 3) := dk_184 0 87 (dk_at dksX0_mix_9 21 rfl rfl)
theorem dX0_mix_234 : decode cX0_mix 234 = .ok (.aload_n 0, 1) := dk_42 (dk_at dksX0_mix_10 0 rfl rfl)
theorem dX0_mix_235 : decode cX0_mix 235 = .ok (.getfield 69, 3) := dk_180 0 69 (dk_at dksX0_mix_10 1 rfl rfl)
theorem dX0_mix_238 : decode cX0_mix 238 = .ok (.iconst 0, 1) := dk_3 (dk_at dksX0_mix_10 4 rfl rfl)
theorem dX0_mix_239 : decode cX0_mix 239 = .ok (.aload_n 0, 1) := dk_42 (dk_at dksX0_mix_10 5 rfl rfl)
theorem dX0_mix_240 : decode cX0_mix 240 = .ok (.getfield 29, 3) := dk_180 0 29 (dk_at dksX0_mix_10 6 rfl rfl)
theorem dX0_mix_243 : decode cX0_mix 243 = .ok (.iconst 0, 1) := dk_3 (dk_at dksX0_mix_10 9 rfl rfl)
theorem dX0_mix_244 : decode cX0_mix 244 = .ok (.bipush 6, 2) := dk_16 6 (dk_at dksX0_mix_10 10 rfl rfl)
theorem dX0_mix_246 : decode cX0_mix 246 = .ok (.invokestatic 87, 3) := dk_184 0 87 (dk_at dksX0_mix_10 12 rfl rfl)
theorem dX0_mix_249 : decode cX0_mix 249 = .ok (.iload_n 2, 1) := dk_28 (dk_at dksX0_mix_10 15 rfl rfl)
theorem dX0_mix_250 : decode cX0_mix 250 = .ok (.ifCond .ne 8, 3) := dk_154 0 8 (dk_at dksX0_mix_10 16 rfl rfl)
theorem dX0_mix_253 : decode cX0_mix 253 = .ok (.iload 5, 2) := dk_21 5 (dk_at dksX0_mix_10 19 rfl rfl)
theorem dX0_mix_255 : decode cX0_mix 255 = .ok (.goto 37, 3) := dk_167 0 37 (dk_at dksX0_mix_10 21 rfl rfl)
theorem dX0_mix_258 : decode cX0_mix 258 = .ok (.iload_n 2, 1) := dk_28 (dk_at dksX0_mix_11 0 rfl rfl)
theorem dX0_mix_259 : decode cX0_mix 259 = .ok (.iconst 1, 1) := dk_4 (dk_at dksX0_mix_11 1 rfl rfl)
theorem dX0_mix_260 : decode cX0_mix 260 = .ok (.if_icmp .ne 11, 3) := dk_160 0 11 (dk_at dksX0_mix_11 2 rfl rfl)
theorem dX0_mix_263 : decode cX0_mix 263 = .ok (.iload 6, 2) := dk_21 6 (dk_at dksX0_mix_11 5 rfl rfl)
theorem dX0_mix_265 : decode cX0_mix 265 = .ok (.bipush 49, 2) := dk_16 49 (dk_at dksX0_mix_11 7 rfl rfl)
theorem dX0_mix_267 : decode cX0_mix 267 = .ok (.idiv, 1) := dk_108 (dk_at dksX0_mix_11 9 rfl rfl)
theorem dX0_mix_268 : decode cX0_mix 268 = .ok (.goto 24, 3) := dk_167 0 24 (dk_at dksX0_mix_11 10 rfl rfl)
theorem dX0_mix_271 : decode cX0_mix 271 = .ok (.iload_n 2, 1) := dk_28 (dk_at dksX0_mix_11 13 rfl rfl)
theorem dX0_mix_272 : decode cX0_mix 272 = .ok (.iconst 2, 1) := dk_5 (dk_at dksX0_mix_11 14 rfl rfl)
theorem dX0_mix_273 : decode cX0_mix 273 = .ok (.if_icmp .ne 14, 3) := dk_160 0 14 (dk_at dksX0_mix_11 15 rfl rfl)
theorem dX0_mix_276 : decode cX0_mix 276 = .ok (.iload 6, 2) := dk_21 6 (dk_at dksX0_mix_11 18 rfl rfl)
theorem dX0_mix_278 : decode cX0_mix 278 = .ok (.bipush 7, 2) := dk_16 7 (dk_at dksX0_mix_11 20 rfl rfl)
theorem dX0_mix_280 : decode cX0_mix 280 = .ok (.idiv, 1) := dk_108 (dk_at dksX0_mix_11 22 rfl rfl)
theorem dX0_mix_281 : decode cX0_mix 281 = .ok (.bipush 7, 2) := dk_16 7 (dk_at dksX0_mix_12 0 rfl rfl)
theorem dX0_mix_283 : decode cX0_mix 283 = .ok (.irem, 1) := dk_112 (dk_at dksX0_mix_12 2 rfl rfl)
theorem dX0_mix_284 : decode cX0_mix 284 = .ok (.goto 8, 3) := dk_167 0 8 (dk_at dksX0_mix_12 3 rfl rfl)
theorem dX0_mix_287 : decode cX0_mix 287 = .ok (.iload 6, 2) := dk_21 6 (dk_at dksX0_mix_12 6 rfl rfl)
theorem dX0_mix_289 : decode cX0_mix 289 = .ok (.bipush 7, 2) := dk_16 7 (dk_at dksX0_mix_12 8 rfl rfl)
theorem dX0_mix_291 : decode cX0_mix 291 = .ok (.irem, 1) := dk_112 (dk_at dksX0_mix_12 10 rfl rfl)
theorem dX0_mix_292 : decode cX0_mix 292 = .ok (.ireturn, 1) := dk_172 (dk_at dksX0_mix_12 11 rfl rfl)
abbrev cX0_layMix : ByteArray := prog_1_method_43_code
def yX0_layMix : MethodName := ⟨RX0, "layMix", "(III)V"⟩
def dkwX0_layMix_2 : List UInt8 := [21, 4, 27, 28, 96, 162, 0, 7, 7, 167, 0, 5, 16, 6, 79, 132, 4, 1, 167, 255, 205, 177]
abbrev dktX0_layMix_2 : List UInt8 := dkwX0_layMix_2 ++ []
def dkwX0_layMix_1 : List UInt8 := [180, 0, 25, 21, 4, 5, 79, 42, 180, 0, 29, 21, 4, 21, 4, 27, 162, 0, 7, 5, 167, 0, 17]
abbrev dktX0_layMix_1 : List UInt8 := dkwX0_layMix_1 ++ dktX0_layMix_2
def dkwX0_layMix_0 : List UInt8 := [42, 27, 28, 96, 29, 96, 181, 0, 78, 3, 54, 4, 21, 4, 42, 180, 0, 78, 162, 0, 48, 42]
abbrev dktX0_layMix_0 : List UInt8 := dkwX0_layMix_0 ++ dktX0_layMix_1
theorem dksX0_layMix_0 : cX0_layMix.data.toList.drop 0 = dktX0_layMix_0 := by decide +kernel
theorem dksX0_layMix_1 : cX0_layMix.data.toList.drop 22 = dktX0_layMix_1 := dk_seg dksX0_layMix_0 22 rfl rfl
theorem dksX0_layMix_2 : cX0_layMix.data.toList.drop 45 = dktX0_layMix_2 := dk_seg dksX0_layMix_1 23 rfl rfl
theorem dX0_layMix_0 : decode cX0_layMix 0 = .ok (.aload_n 0, 1) := dk_42 (dk_at dksX0_layMix_0 0 rfl rfl)
theorem dX0_layMix_1 : decode cX0_layMix 1 = .ok (.iload_n 1, 1) := dk_27 (dk_at dksX0_layMix_0 1 rfl rfl)
theorem dX0_layMix_2 : decode cX0_layMix 2 = .ok (.iload_n 2, 1) := dk_28 (dk_at dksX0_layMix_0 2 rfl rfl)
theorem dX0_layMix_3 : decode cX0_layMix 3 = .ok (.iadd, 1) := dk_96 (dk_at dksX0_layMix_0 3 rfl rfl)
theorem dX0_layMix_4 : decode cX0_layMix 4 = .ok (.iload_n 3, 1) := dk_29 (dk_at dksX0_layMix_0 4 rfl rfl)
theorem dX0_layMix_5 : decode cX0_layMix 5 = .ok (.iadd, 1) := dk_96 (dk_at dksX0_layMix_0 5 rfl rfl)
theorem dX0_layMix_6 : decode cX0_layMix 6 = .ok (.putfield 78, 3) := dk_181 0 78 (dk_at dksX0_layMix_0 6 rfl rfl)
theorem dX0_layMix_9 : decode cX0_layMix 9 = .ok (.iconst 0, 1) := dk_3 (dk_at dksX0_layMix_0 9 rfl rfl)
theorem dX0_layMix_10 : decode cX0_layMix 10 = .ok (.istore 4, 2) := dk_54 4 (dk_at dksX0_layMix_0 10 rfl rfl)
theorem dX0_layMix_12 : decode cX0_layMix 12 = .ok (.iload 4, 2) := dk_21 4 (dk_at dksX0_layMix_0 12 rfl rfl)
theorem dX0_layMix_14 : decode cX0_layMix 14 = .ok (.aload_n 0, 1) := dk_42 (dk_at dksX0_layMix_0 14 rfl rfl)
theorem dX0_layMix_15 : decode cX0_layMix 15 = .ok (.getfield 78, 3) := dk_180 0 78 (dk_at dksX0_layMix_0 15 rfl rfl)
theorem dX0_layMix_18 : decode cX0_layMix 18 = .ok (.if_icmp .ge 48, 3) := dk_162 0 48 (dk_at dksX0_layMix_0 18 rfl rfl)
theorem dX0_layMix_21 : decode cX0_layMix 21 = .ok (.aload_n 0, 1) := dk_42 (dk_at dksX0_layMix_0 21 rfl rfl)
theorem dX0_layMix_22 : decode cX0_layMix 22 = .ok (.getfield 25, 3) := dk_180 0 25 (dk_at dksX0_layMix_1 0 rfl rfl)
theorem dX0_layMix_25 : decode cX0_layMix 25 = .ok (.iload 4, 2) := dk_21 4 (dk_at dksX0_layMix_1 3 rfl rfl)
theorem dX0_layMix_27 : decode cX0_layMix 27 = .ok (.iconst 2, 1) := dk_5 (dk_at dksX0_layMix_1 5 rfl rfl)
theorem dX0_layMix_28 : decode cX0_layMix 28 = .ok (.iastore, 1) := dk_79 (dk_at dksX0_layMix_1 6 rfl rfl)
theorem dX0_layMix_29 : decode cX0_layMix 29 = .ok (.aload_n 0, 1) := dk_42 (dk_at dksX0_layMix_1 7 rfl rfl)
theorem dX0_layMix_30 : decode cX0_layMix 30 = .ok (.getfield 29, 3) := dk_180 0 29 (dk_at dksX0_layMix_1 8 rfl rfl)
theorem dX0_layMix_33 : decode cX0_layMix 33 = .ok (.iload 4, 2) := dk_21 4 (dk_at dksX0_layMix_1 11 rfl rfl)
theorem dX0_layMix_35 : decode cX0_layMix 35 = .ok (.iload 4, 2) := dk_21 4 (dk_at dksX0_layMix_1 13 rfl rfl)
theorem dX0_layMix_37 : decode cX0_layMix 37 = .ok (.iload_n 1, 1) := dk_27 (dk_at dksX0_layMix_1 15 rfl rfl)
theorem dX0_layMix_38 : decode cX0_layMix 38 = .ok (.if_icmp .ge 7, 3) := dk_162 0 7 (dk_at dksX0_layMix_1 16 rfl rfl)
theorem dX0_layMix_41 : decode cX0_layMix 41 = .ok (.iconst 2, 1) := dk_5 (dk_at dksX0_layMix_1 19 rfl rfl)
theorem dX0_layMix_42 : decode cX0_layMix 42 = .ok (.goto 17, 3) := dk_167 0 17 (dk_at dksX0_layMix_1 20 rfl rfl)
theorem dX0_layMix_45 : decode cX0_layMix 45 = .ok (.iload 4, 2) := dk_21 4 (dk_at dksX0_layMix_2 0 rfl rfl)
theorem dX0_layMix_47 : decode cX0_layMix 47 = .ok (.iload_n 1, 1) := dk_27 (dk_at dksX0_layMix_2 2 rfl rfl)
theorem dX0_layMix_48 : decode cX0_layMix 48 = .ok (.iload_n 2, 1) := dk_28 (dk_at dksX0_layMix_2 3 rfl rfl)
theorem dX0_layMix_49 : decode cX0_layMix 49 = .ok (.iadd, 1) := dk_96 (dk_at dksX0_layMix_2 4 rfl rfl)
theorem dX0_layMix_50 : decode cX0_layMix 50 = .ok (.if_icmp .ge 7, 3) := dk_162 0 7 (dk_at dksX0_layMix_2 5 rfl rfl)
theorem dX0_layMix_53 : decode cX0_layMix 53 = .ok (.iconst 4, 1) := dk_7 (dk_at dksX0_layMix_2 8 rfl rfl)
theorem dX0_layMix_54 : decode cX0_layMix 54 = .ok (.goto 5, 3) := dk_167 0 5 (dk_at dksX0_layMix_2 9 rfl rfl)
theorem dX0_layMix_57 : decode cX0_layMix 57 = .ok (.bipush 6, 2) := dk_16 6 (dk_at dksX0_layMix_2 12 rfl rfl)
theorem dX0_layMix_59 : decode cX0_layMix 59 = .ok (.iastore, 1) := dk_79 (dk_at dksX0_layMix_2 14 rfl rfl)
theorem dX0_layMix_60 : decode cX0_layMix 60 = .ok (.iinc 4 1, 3) := dk_132 4 1 (dk_at dksX0_layMix_2 15 rfl rfl)
theorem dX0_layMix_63 : decode cX0_layMix 63 = .ok (.goto (-51), 3) := dk_167 255 205 (dk_at dksX0_layMix_2 18 rfl rfl)
theorem dX0_layMix_66 : decode cX0_layMix 66 = .ok (.return_, 1) := dk_177 (dk_at dksX0_layMix_2 21 rfl rfl)
abbrev cX0_till : ByteArray := prog_1_method_45_code
def yX0_till : MethodName := ⟨RX0, "till", "(II)I"⟩
def dkwX0_till_4 : List UInt8 := [167, 0, 15, 28, 4, 160, 0, 8, 21, 4, 167, 0, 5, 21, 5, 172]
abbrev dktX0_till_4 : List UInt8 := dkwX0_till_4 ++ []
def dkwX0_till_3 : List UInt8 := [167, 0, 5, 21, 4, 54, 4, 21, 6, 54, 5, 132, 6, 1, 167, 255, 214, 28, 154, 0, 7, 29]
abbrev dktX0_till_3 : List UInt8 := dkwX0_till_3 ++ dktX0_till_4
def dkwX0_till_2 : List UInt8 := [163, 0, 41, 42, 180, 0, 63, 21, 6, 46, 27, 160, 0, 24, 132, 3, 1, 21, 4, 156, 0, 8, 21, 6]
abbrev dktX0_till_2 : List UInt8 := dkwX0_till_2 ++ dktX0_till_3
def dkwX0_till_1 : List UInt8 := [172, 42, 182, 1, 8, 3, 62, 16, 247, 54, 4, 16, 247, 54, 5, 3, 54, 6, 21, 6, 16, 30]
abbrev dktX0_till_1 : List UInt8 := dkwX0_till_1 ++ dktX0_till_2
def dkwX0_till_0 : List UInt8 := [28, 133, 9, 20, 0, 112, 184, 0, 81, 154, 0, 6, 16, 254, 172, 42, 180, 0, 78, 154, 0, 6, 16, 253]
abbrev dktX0_till_0 : List UInt8 := dkwX0_till_0 ++ dktX0_till_1
theorem dksX0_till_0 : cX0_till.data.toList.drop 0 = dktX0_till_0 := by decide +kernel
theorem dksX0_till_1 : cX0_till.data.toList.drop 24 = dktX0_till_1 := dk_seg dksX0_till_0 24 rfl rfl
theorem dksX0_till_2 : cX0_till.data.toList.drop 46 = dktX0_till_2 := dk_seg dksX0_till_1 22 rfl rfl
theorem dksX0_till_3 : cX0_till.data.toList.drop 70 = dktX0_till_3 := dk_seg dksX0_till_2 24 rfl rfl
theorem dksX0_till_4 : cX0_till.data.toList.drop 92 = dktX0_till_4 := dk_seg dksX0_till_3 22 rfl rfl
theorem dX0_till_0 : decode cX0_till 0 = .ok (.iload_n 2, 1) := dk_28 (dk_at dksX0_till_0 0 rfl rfl)
theorem dX0_till_1 : decode cX0_till 1 = .ok (.i2l, 1) := dk_133 (dk_at dksX0_till_0 1 rfl rfl)
theorem dX0_till_2 : decode cX0_till 2 = .ok (.lconst 0, 1) := dk_9 (dk_at dksX0_till_0 2 rfl rfl)
theorem dX0_till_3 : decode cX0_till 3 = .ok (.ldc2_w 112, 3) := dk_20 0 112 (dk_at dksX0_till_0 3 rfl rfl)
theorem dX0_till_6 : decode cX0_till 6 = .ok (.invokestatic 81, 3) := dk_184 0 81 (dk_at dksX0_till_0 6 rfl rfl)
theorem dX0_till_9 : decode cX0_till 9 = .ok (.ifCond .ne 6, 3) := dk_154 0 6 (dk_at dksX0_till_0 9 rfl rfl)
theorem dX0_till_12 : decode cX0_till 12 = .ok (.bipush (-2), 2) := dk_16 254 (dk_at dksX0_till_0 12 rfl rfl)
theorem dX0_till_14 : decode cX0_till 14 = .ok (.ireturn, 1) := dk_172 (dk_at dksX0_till_0 14 rfl rfl)
theorem dX0_till_15 : decode cX0_till 15 = .ok (.aload_n 0, 1) := dk_42 (dk_at dksX0_till_0 15 rfl rfl)
theorem dX0_till_16 : decode cX0_till 16 = .ok (.getfield 78, 3) := dk_180 0 78 (dk_at dksX0_till_0 16 rfl rfl)
theorem dX0_till_19 : decode cX0_till 19 = .ok (.ifCond .ne 6, 3) := dk_154 0 6 (dk_at dksX0_till_0 19 rfl rfl)
theorem dX0_till_22 : decode cX0_till 22 = .ok (.bipush (-3), 2) := dk_16 253 (dk_at dksX0_till_0 22 rfl rfl)
theorem dX0_till_24 : decode cX0_till 24 = .ok (.ireturn, 1) := dk_172 (dk_at dksX0_till_1 0 rfl rfl)
theorem dX0_till_25 : decode cX0_till 25 = .ok (.aload_n 0, 1) := dk_42 (dk_at dksX0_till_1 1 rfl rfl)
theorem dX0_till_26 : decode cX0_till 26 = .ok (.invokevirtual 264, 3) := dk_182 1 8 (dk_at dksX0_till_1 2 rfl rfl)
theorem dX0_till_29 : decode cX0_till 29 = .ok (.iconst 0, 1) := dk_3 (dk_at dksX0_till_1 5 rfl rfl)
theorem dX0_till_30 : decode cX0_till 30 = .ok (.istore_n 3, 1) := dk_62 (dk_at dksX0_till_1 6 rfl rfl)
theorem dX0_till_31 : decode cX0_till 31 = .ok (.bipush (-9), 2) := dk_16 247 (dk_at dksX0_till_1 7 rfl rfl)
theorem dX0_till_33 : decode cX0_till 33 = .ok (.istore 4, 2) := dk_54 4 (dk_at dksX0_till_1 9 rfl rfl)
theorem dX0_till_35 : decode cX0_till 35 = .ok (.bipush (-9), 2) := dk_16 247 (dk_at dksX0_till_1 11 rfl rfl)
theorem dX0_till_37 : decode cX0_till 37 = .ok (.istore 5, 2) := dk_54 5 (dk_at dksX0_till_1 13 rfl rfl)
theorem dX0_till_39 : decode cX0_till 39 = .ok (.iconst 0, 1) := dk_3 (dk_at dksX0_till_1 15 rfl rfl)
theorem dX0_till_40 : decode cX0_till 40 = .ok (.istore 6, 2) := dk_54 6 (dk_at dksX0_till_1 16 rfl rfl)
theorem dX0_till_42 : decode cX0_till 42 = .ok (.iload 6, 2) := dk_21 6 (dk_at dksX0_till_1 18 rfl rfl)
theorem dX0_till_44 : decode cX0_till 44 = .ok (.bipush 30, 2) := dk_16 30 (dk_at dksX0_till_1 20 rfl rfl)
theorem dX0_till_46 : decode cX0_till 46 = .ok (.if_icmp .gt 41, 3) := dk_163 0 41 (dk_at dksX0_till_2 0 rfl rfl)
theorem dX0_till_49 : decode cX0_till 49 = .ok (.aload_n 0, 1) := dk_42 (dk_at dksX0_till_2 3 rfl rfl)
theorem dX0_till_50 : decode cX0_till 50 = .ok (.getfield 63, 3) := dk_180 0 63 (dk_at dksX0_till_2 4 rfl rfl)
theorem dX0_till_53 : decode cX0_till 53 = .ok (.iload 6, 2) := dk_21 6 (dk_at dksX0_till_2 7 rfl rfl)
theorem dX0_till_55 : decode cX0_till 55 = .ok (.iaload, 1) := dk_46 (dk_at dksX0_till_2 9 rfl rfl)
theorem dX0_till_56 : decode cX0_till 56 = .ok (.iload_n 1, 1) := dk_27 (dk_at dksX0_till_2 10 rfl rfl)
theorem dX0_till_57 : decode cX0_till 57 = .ok (.if_icmp .ne 24, 3) := dk_160 0 24 (dk_at dksX0_till_2 11 rfl rfl)
theorem dX0_till_60 : decode cX0_till 60 = .ok (.iinc 3 1, 3) := dk_132 3 1 (dk_at dksX0_till_2 14 rfl rfl)
theorem dX0_till_63 : decode cX0_till 63 = .ok (.iload 4, 2) := dk_21 4 (dk_at dksX0_till_2 17 rfl rfl)
theorem dX0_till_65 : decode cX0_till 65 = .ok (.ifCond .ge 8, 3) := dk_156 0 8 (dk_at dksX0_till_2 19 rfl rfl)
theorem dX0_till_68 : decode cX0_till 68 = .ok (.iload 6, 2) := dk_21 6 (dk_at dksX0_till_2 22 rfl rfl)
theorem dX0_till_70 : decode cX0_till 70 = .ok (.goto 5, 3) := dk_167 0 5 (dk_at dksX0_till_3 0 rfl rfl)
theorem dX0_till_73 : decode cX0_till 73 = .ok (.iload 4, 2) := dk_21 4 (dk_at dksX0_till_3 3 rfl rfl)
theorem dX0_till_75 : decode cX0_till 75 = .ok (.istore 4, 2) := dk_54 4 (dk_at dksX0_till_3 5 rfl rfl)
theorem dX0_till_77 : decode cX0_till 77 = .ok (.iload 6, 2) := dk_21 6 (dk_at dksX0_till_3 7 rfl rfl)
theorem dX0_till_79 : decode cX0_till 79 = .ok (.istore 5, 2) := dk_54 5 (dk_at dksX0_till_3 9 rfl rfl)
theorem dX0_till_81 : decode cX0_till 81 = .ok (.iinc 6 1, 3) := dk_132 6 1 (dk_at dksX0_till_3 11 rfl rfl)
theorem dX0_till_84 : decode cX0_till 84 = .ok (.goto (-42), 3) := dk_167 255 214 (dk_at dksX0_till_3 14 rfl rfl)
theorem dX0_till_87 : decode cX0_till 87 = .ok (.iload_n 2, 1) := dk_28 (dk_at dksX0_till_3 17 rfl rfl)
theorem dX0_till_88 : decode cX0_till 88 = .ok (.ifCond .ne 7, 3) := dk_154 0 7 (dk_at dksX0_till_3 18 rfl rfl)
theorem dX0_till_91 : decode cX0_till 91 = .ok (.iload_n 3, 1) := dk_29 (dk_at dksX0_till_3 21 rfl rfl)
theorem dX0_till_92 : decode cX0_till 92 = .ok (.goto 15, 3) := dk_167 0 15 (dk_at dksX0_till_4 0 rfl rfl)
theorem dX0_till_95 : decode cX0_till 95 = .ok (.iload_n 2, 1) := dk_28 (dk_at dksX0_till_4 3 rfl rfl)
theorem dX0_till_96 : decode cX0_till 96 = .ok (.iconst 1, 1) := dk_4 (dk_at dksX0_till_4 4 rfl rfl)
theorem dX0_till_97 : decode cX0_till 97 = .ok (.if_icmp .ne 8, 3) := dk_160 0 8 (dk_at dksX0_till_4 5 rfl rfl)
theorem dX0_till_100 : decode cX0_till 100 = .ok (.iload 4, 2) := dk_21 4 (dk_at dksX0_till_4 8 rfl rfl)
theorem dX0_till_102 : decode cX0_till 102 = .ok (.goto 5, 3) := dk_167 0 5 (dk_at dksX0_till_4 10 rfl rfl)
theorem dX0_till_105 : decode cX0_till 105 = .ok (.iload 5, 2) := dk_21 5 (dk_at dksX0_till_4 13 rfl rfl)
theorem dX0_till_107 : decode cX0_till 107 = .ok (.ireturn, 1) := dk_172 (dk_at dksX0_till_4 15 rfl rfl)
abbrev cX0_names : ByteArray := prog_1_method_49_code
def yX0_names : MethodName := ⟨RX0, "names", "(IIIIII)J"⟩
def dkwX0_names_2 : List UInt8 := [184, 1, 37, 27, 184, 1, 29, 21, 6, 184, 1, 41, 173]
abbrev dktX0_names_2 : List UInt8 := dkwX0_names_2 ++ []
def dkwX0_names_1 : List UInt8 := [21, 6, 133, 9, 10, 184, 0, 81, 154, 0, 7, 20, 0, 243, 173, 27, 28, 29, 21, 4, 21, 5]
abbrev dktX0_names_1 : List UInt8 := dkwX0_names_1 ++ dktX0_names_2
def dkwX0_names_0 : List UInt8 := [27, 133, 9, 20, 1, 20, 184, 0, 81, 153, 0, 26, 28, 29, 21, 4, 21, 5, 184, 1, 33, 153, 0, 14]
abbrev dktX0_names_0 : List UInt8 := dkwX0_names_0 ++ dktX0_names_1
theorem dksX0_names_0 : cX0_names.data.toList.drop 0 = dktX0_names_0 := by decide +kernel
theorem dksX0_names_1 : cX0_names.data.toList.drop 24 = dktX0_names_1 := dk_seg dksX0_names_0 24 rfl rfl
theorem dksX0_names_2 : cX0_names.data.toList.drop 46 = dktX0_names_2 := dk_seg dksX0_names_1 22 rfl rfl
theorem dX0_names_0 : decode cX0_names 0 = .ok (.iload_n 1, 1) := dk_27 (dk_at dksX0_names_0 0 rfl rfl)
theorem dX0_names_1 : decode cX0_names 1 = .ok (.i2l, 1) := dk_133 (dk_at dksX0_names_0 1 rfl rfl)
theorem dX0_names_2 : decode cX0_names 2 = .ok (.lconst 0, 1) := dk_9 (dk_at dksX0_names_0 2 rfl rfl)
theorem dX0_names_3 : decode cX0_names 3 = .ok (.ldc2_w 276, 3) := dk_20 1 20 (dk_at dksX0_names_0 3 rfl rfl)
theorem dX0_names_6 : decode cX0_names 6 = .ok (.invokestatic 81, 3) := dk_184 0 81 (dk_at dksX0_names_0 6 rfl rfl)
theorem dX0_names_9 : decode cX0_names 9 = .ok (.ifCond .eq 26, 3) := dk_153 0 26 (dk_at dksX0_names_0 9 rfl rfl)
theorem dX0_names_12 : decode cX0_names 12 = .ok (.iload_n 2, 1) := dk_28 (dk_at dksX0_names_0 12 rfl rfl)
theorem dX0_names_13 : decode cX0_names 13 = .ok (.iload_n 3, 1) := dk_29 (dk_at dksX0_names_0 13 rfl rfl)
theorem dX0_names_14 : decode cX0_names 14 = .ok (.iload 4, 2) := dk_21 4 (dk_at dksX0_names_0 14 rfl rfl)
theorem dX0_names_16 : decode cX0_names 16 = .ok (.iload 5, 2) := dk_21 5 (dk_at dksX0_names_0 16 rfl rfl)
theorem dX0_names_18 : decode cX0_names 18 = .ok (.invokestatic 289, 3) := dk_184 1 33 (dk_at dksX0_names_0 18 rfl rfl)
theorem dX0_names_21 : decode cX0_names 21 = .ok (.ifCond .eq 14, 3) := dk_153 0 14 (dk_at dksX0_names_0 21 rfl rfl)
theorem dX0_names_24 : decode cX0_names 24 = .ok (.iload 6, 2) := dk_21 6 (dk_at dksX0_names_1 0 rfl rfl)
theorem dX0_names_26 : decode cX0_names 26 = .ok (.i2l, 1) := dk_133 (dk_at dksX0_names_1 2 rfl rfl)
theorem dX0_names_27 : decode cX0_names 27 = .ok (.lconst 0, 1) := dk_9 (dk_at dksX0_names_1 3 rfl rfl)
theorem dX0_names_28 : decode cX0_names 28 = .ok (.lconst 1, 1) := dk_10 (dk_at dksX0_names_1 4 rfl rfl)
theorem dX0_names_29 : decode cX0_names 29 = .ok (.invokestatic 81, 3) := dk_184 0 81 (dk_at dksX0_names_1 5 rfl rfl)
theorem dX0_names_32 : decode cX0_names 32 = .ok (.ifCond .ne 7, 3) := dk_154 0 7 (dk_at dksX0_names_1 8 rfl rfl)
theorem dX0_names_35 : decode cX0_names 35 = .ok (.ldc2_w 243, 3) := dk_20 0 243 (dk_at dksX0_names_1 11 rfl rfl)
theorem dX0_names_38 : decode cX0_names 38 = .ok (.lreturn, 1) := dk_173 (dk_at dksX0_names_1 14 rfl rfl)
theorem dX0_names_39 : decode cX0_names 39 = .ok (.iload_n 1, 1) := dk_27 (dk_at dksX0_names_1 15 rfl rfl)
theorem dX0_names_40 : decode cX0_names 40 = .ok (.iload_n 2, 1) := dk_28 (dk_at dksX0_names_1 16 rfl rfl)
theorem dX0_names_41 : decode cX0_names 41 = .ok (.iload_n 3, 1) := dk_29 (dk_at dksX0_names_1 17 rfl rfl)
theorem dX0_names_42 : decode cX0_names 42 = .ok (.iload 4, 2) := dk_21 4 (dk_at dksX0_names_1 18 rfl rfl)
theorem dX0_names_44 : decode cX0_names 44 = .ok (.iload 5, 2) := dk_21 5 (dk_at dksX0_names_1 20 rfl rfl)
theorem dX0_names_46 : decode cX0_names 46 = .ok (.invokestatic 293, 3) := dk_184 1 37 (dk_at dksX0_names_2 0 rfl rfl)
theorem dX0_names_49 : decode cX0_names 49 = .ok (.iload_n 1, 1) := dk_27 (dk_at dksX0_names_2 3 rfl rfl)
theorem dX0_names_50 : decode cX0_names 50 = .ok (.invokestatic 285, 3) := dk_184 1 29 (dk_at dksX0_names_2 4 rfl rfl)
theorem dX0_names_53 : decode cX0_names 53 = .ok (.iload 6, 2) := dk_21 6 (dk_at dksX0_names_2 7 rfl rfl)
theorem dX0_names_55 : decode cX0_names 55 = .ok (.invokestatic 297, 3) := dk_184 1 41 (dk_at dksX0_names_2 9 rfl rfl)
theorem dX0_names_58 : decode cX0_names 58 = .ok (.lreturn, 1) := dk_173 (dk_at dksX0_names_2 12 rfl rfl)
abbrev cX0_isBook : ByteArray := prog_1_method_46_code
def yX0_isBook : MethodName := ⟨RX0, "isBook", "(IIII)Z"⟩
def dkwX0_isBook_2 : List UInt8 := [4, 167, 0, 4, 3, 172]
abbrev dktX0_isBook_2 : List UInt8 := dkwX0_isBook_2 ++ []
def dkwX0_isBook_1 : List UInt8 := [28, 133, 9, 20, 1, 22, 184, 0, 81, 153, 0, 19, 29, 133, 9, 20, 1, 22, 184, 0, 81, 153, 0, 7]
abbrev dktX0_isBook_1 : List UInt8 := dkwX0_isBook_1 ++ dktX0_isBook_2
def dkwX0_isBook_0 : List UInt8 := [26, 133, 9, 20, 1, 18, 184, 0, 81, 153, 0, 43, 27, 133, 9, 20, 1, 20, 184, 0, 81, 153, 0, 31]
abbrev dktX0_isBook_0 : List UInt8 := dkwX0_isBook_0 ++ dktX0_isBook_1
theorem dksX0_isBook_0 : cX0_isBook.data.toList.drop 0 = dktX0_isBook_0 := by decide +kernel
theorem dksX0_isBook_1 : cX0_isBook.data.toList.drop 24 = dktX0_isBook_1 := dk_seg dksX0_isBook_0 24 rfl rfl
theorem dksX0_isBook_2 : cX0_isBook.data.toList.drop 48 = dktX0_isBook_2 := dk_seg dksX0_isBook_1 24 rfl rfl
theorem dX0_isBook_0 : decode cX0_isBook 0 = .ok (.iload_n 0, 1) := dk_26 (dk_at dksX0_isBook_0 0 rfl rfl)
theorem dX0_isBook_1 : decode cX0_isBook 1 = .ok (.i2l, 1) := dk_133 (dk_at dksX0_isBook_0 1 rfl rfl)
theorem dX0_isBook_2 : decode cX0_isBook 2 = .ok (.lconst 0, 1) := dk_9 (dk_at dksX0_isBook_0 2 rfl rfl)
theorem dX0_isBook_3 : decode cX0_isBook 3 = .ok (.ldc2_w 274, 3) := dk_20 1 18 (dk_at dksX0_isBook_0 3 rfl rfl)
theorem dX0_isBook_6 : decode cX0_isBook 6 = .ok (.invokestatic 81, 3) := dk_184 0 81 (dk_at dksX0_isBook_0 6 rfl rfl)
theorem dX0_isBook_9 : decode cX0_isBook 9 = .ok (.ifCond .eq 43, 3) := dk_153 0 43 (dk_at dksX0_isBook_0 9 rfl rfl)
theorem dX0_isBook_12 : decode cX0_isBook 12 = .ok (.iload_n 1, 1) := dk_27 (dk_at dksX0_isBook_0 12 rfl rfl)
theorem dX0_isBook_13 : decode cX0_isBook 13 = .ok (.i2l, 1) := dk_133 (dk_at dksX0_isBook_0 13 rfl rfl)
theorem dX0_isBook_14 : decode cX0_isBook 14 = .ok (.lconst 0, 1) := dk_9 (dk_at dksX0_isBook_0 14 rfl rfl)
theorem dX0_isBook_15 : decode cX0_isBook 15 = .ok (.ldc2_w 276, 3) := dk_20 1 20 (dk_at dksX0_isBook_0 15 rfl rfl)
theorem dX0_isBook_18 : decode cX0_isBook 18 = .ok (.invokestatic 81, 3) := dk_184 0 81 (dk_at dksX0_isBook_0 18 rfl rfl)
theorem dX0_isBook_21 : decode cX0_isBook 21 = .ok (.ifCond .eq 31, 3) := dk_153 0 31 (dk_at dksX0_isBook_0 21 rfl rfl)
theorem dX0_isBook_24 : decode cX0_isBook 24 = .ok (.iload_n 2, 1) := dk_28 (dk_at dksX0_isBook_1 0 rfl rfl)
theorem dX0_isBook_25 : decode cX0_isBook 25 = .ok (.i2l, 1) := dk_133 (dk_at dksX0_isBook_1 1 rfl rfl)
theorem dX0_isBook_26 : decode cX0_isBook 26 = .ok (.lconst 0, 1) := dk_9 (dk_at dksX0_isBook_1 2 rfl rfl)
theorem dX0_isBook_27 : decode cX0_isBook 27 = .ok (.ldc2_w 278, 3) := dk_20 1 22 (dk_at dksX0_isBook_1 3 rfl rfl)
theorem dX0_isBook_30 : decode cX0_isBook 30 = .ok (.invokestatic 81, 3) := dk_184 0 81 (dk_at dksX0_isBook_1 6 rfl rfl)
theorem dX0_isBook_33 : decode cX0_isBook 33 = .ok (.ifCond .eq 19, 3) := dk_153 0 19 (dk_at dksX0_isBook_1 9 rfl rfl)
theorem dX0_isBook_36 : decode cX0_isBook 36 = .ok (.iload_n 3, 1) := dk_29 (dk_at dksX0_isBook_1 12 rfl rfl)
theorem dX0_isBook_37 : decode cX0_isBook 37 = .ok (.i2l, 1) := dk_133 (dk_at dksX0_isBook_1 13 rfl rfl)
theorem dX0_isBook_38 : decode cX0_isBook 38 = .ok (.lconst 0, 1) := dk_9 (dk_at dksX0_isBook_1 14 rfl rfl)
theorem dX0_isBook_39 : decode cX0_isBook 39 = .ok (.ldc2_w 278, 3) := dk_20 1 22 (dk_at dksX0_isBook_1 15 rfl rfl)
theorem dX0_isBook_42 : decode cX0_isBook 42 = .ok (.invokestatic 81, 3) := dk_184 0 81 (dk_at dksX0_isBook_1 18 rfl rfl)
theorem dX0_isBook_45 : decode cX0_isBook 45 = .ok (.ifCond .eq 7, 3) := dk_153 0 7 (dk_at dksX0_isBook_1 21 rfl rfl)
theorem dX0_isBook_48 : decode cX0_isBook 48 = .ok (.iconst 1, 1) := dk_4 (dk_at dksX0_isBook_2 0 rfl rfl)
theorem dX0_isBook_49 : decode cX0_isBook 49 = .ok (.goto 4, 3) := dk_167 0 4 (dk_at dksX0_isBook_2 1 rfl rfl)
theorem dX0_isBook_52 : decode cX0_isBook 52 = .ok (.iconst 0, 1) := dk_3 (dk_at dksX0_isBook_2 4 rfl rfl)
theorem dX0_isBook_53 : decode cX0_isBook 53 = .ok (.ireturn, 1) := dk_172 (dk_at dksX0_isBook_2 5 rfl rfl)
abbrev cX0_awaited : ByteArray := prog_1_method_47_code
def yX0_awaited : MethodName := ⟨RX0, "awaited", "(IIIII)J"⟩
def dkwX0_awaited_4 : List UInt8 := [132, 7, 1, 167, 255, 165, 22, 5, 173]
abbrev dktX0_awaited_4 : List UInt8 := dkwX0_awaited_4 ++ []
def dkwX0_awaited_3 : List UInt8 := [21, 10, 28, 184, 0, 245, 104, 21, 4, 3, 21, 10, 28, 100, 184, 1, 5, 104, 100, 133, 105, 97, 55, 5]
abbrev dktX0_awaited_3 : List UInt8 := dkwX0_awaited_3 ++ dktX0_awaited_4
def dkwX0_awaited_2 : List UInt8 := [100, 133, 105, 55, 8, 132, 10, 1, 167, 255, 221, 21, 7, 184, 1, 24, 54, 10, 22, 5, 22, 8, 29]
abbrev dktX0_awaited_2 : List UInt8 := dkwX0_awaited_2 ++ dktX0_awaited_3
def dkwX0_awaited_1 : List UInt8 := [162, 0, 35, 22, 8, 21, 7, 21, 10, 122, 4, 126, 4, 160, 0, 8, 27, 133, 167, 0, 8, 16, 100, 27]
abbrev dktX0_awaited_1 : List UInt8 := dkwX0_awaited_1 ++ dktX0_awaited_2
def dkwX0_awaited_0 : List UInt8 := [9, 55, 5, 3, 54, 7, 21, 7, 4, 26, 120, 162, 0, 89, 10, 55, 8, 3, 54, 10, 21, 10, 26]
abbrev dktX0_awaited_0 : List UInt8 := dkwX0_awaited_0 ++ dktX0_awaited_1
theorem dksX0_awaited_0 : cX0_awaited.data.toList.drop 0 = dktX0_awaited_0 := by decide +kernel
theorem dksX0_awaited_1 : cX0_awaited.data.toList.drop 23 = dktX0_awaited_1 := dk_seg dksX0_awaited_0 23 rfl rfl
theorem dksX0_awaited_2 : cX0_awaited.data.toList.drop 47 = dktX0_awaited_2 := dk_seg dksX0_awaited_1 24 rfl rfl
theorem dksX0_awaited_3 : cX0_awaited.data.toList.drop 70 = dktX0_awaited_3 := dk_seg dksX0_awaited_2 23 rfl rfl
theorem dksX0_awaited_4 : cX0_awaited.data.toList.drop 94 = dktX0_awaited_4 := dk_seg dksX0_awaited_3 24 rfl rfl
theorem dX0_awaited_0 : decode cX0_awaited 0 = .ok (.lconst 0, 1) := dk_9 (dk_at dksX0_awaited_0 0 rfl rfl)
theorem dX0_awaited_1 : decode cX0_awaited 1 = .ok (.lstore 5, 2) := dk_55 5 (dk_at dksX0_awaited_0 1 rfl rfl)
theorem dX0_awaited_3 : decode cX0_awaited 3 = .ok (.iconst 0, 1) := dk_3 (dk_at dksX0_awaited_0 3 rfl rfl)
theorem dX0_awaited_4 : decode cX0_awaited 4 = .ok (.istore 7, 2) := dk_54 7 (dk_at dksX0_awaited_0 4 rfl rfl)
theorem dX0_awaited_6 : decode cX0_awaited 6 = .ok (.iload 7, 2) := dk_21 7 (dk_at dksX0_awaited_0 6 rfl rfl)
theorem dX0_awaited_8 : decode cX0_awaited 8 = .ok (.iconst 1, 1) := dk_4 (dk_at dksX0_awaited_0 8 rfl rfl)
theorem dX0_awaited_9 : decode cX0_awaited 9 = .ok (.iload_n 0, 1) := dk_26 (dk_at dksX0_awaited_0 9 rfl rfl)
theorem dX0_awaited_10 : decode cX0_awaited 10 = .ok (.ishl, 1) := dk_120 (dk_at dksX0_awaited_0 10 rfl rfl)
theorem dX0_awaited_11 : decode cX0_awaited 11 = .ok (.if_icmp .ge 89, 3) := dk_162 0 89 (dk_at dksX0_awaited_0 11 rfl rfl)
theorem dX0_awaited_14 : decode cX0_awaited 14 = .ok (.lconst 1, 1) := dk_10 (dk_at dksX0_awaited_0 14 rfl rfl)
theorem dX0_awaited_15 : decode cX0_awaited 15 = .ok (.lstore 8, 2) := dk_55 8 (dk_at dksX0_awaited_0 15 rfl rfl)
theorem dX0_awaited_17 : decode cX0_awaited 17 = .ok (.iconst 0, 1) := dk_3 (dk_at dksX0_awaited_0 17 rfl rfl)
theorem dX0_awaited_18 : decode cX0_awaited 18 = .ok (.istore 10, 2) := dk_54 10 (dk_at dksX0_awaited_0 18 rfl rfl)
theorem dX0_awaited_20 : decode cX0_awaited 20 = .ok (.iload 10, 2) := dk_21 10 (dk_at dksX0_awaited_0 20 rfl rfl)
theorem dX0_awaited_22 : decode cX0_awaited 22 = .ok (.iload_n 0, 1) := dk_26 (dk_at dksX0_awaited_0 22 rfl rfl)
theorem dX0_awaited_23 : decode cX0_awaited 23 = .ok (.if_icmp .ge 35, 3) := dk_162 0 35 (dk_at dksX0_awaited_1 0 rfl rfl)
theorem dX0_awaited_26 : decode cX0_awaited 26 = .ok (.lload 8, 2) := dk_22 8 (dk_at dksX0_awaited_1 3 rfl rfl)
theorem dX0_awaited_28 : decode cX0_awaited 28 = .ok (.iload 7, 2) := dk_21 7 (dk_at dksX0_awaited_1 5 rfl rfl)
theorem dX0_awaited_30 : decode cX0_awaited 30 = .ok (.iload 10, 2) := dk_21 10 (dk_at dksX0_awaited_1 7 rfl rfl)
theorem dX0_awaited_32 : decode cX0_awaited 32 = .ok (.ishr, 1) := dk_122 (dk_at dksX0_awaited_1 9 rfl rfl)
theorem dX0_awaited_33 : decode cX0_awaited 33 = .ok (.iconst 1, 1) := dk_4 (dk_at dksX0_awaited_1 10 rfl rfl)
theorem dX0_awaited_34 : decode cX0_awaited 34 = .ok (.iand, 1) := dk_126 (dk_at dksX0_awaited_1 11 rfl rfl)
theorem dX0_awaited_35 : decode cX0_awaited 35 = .ok (.iconst 1, 1) := dk_4 (dk_at dksX0_awaited_1 12 rfl rfl)
theorem dX0_awaited_36 : decode cX0_awaited 36 = .ok (.if_icmp .ne 8, 3) := dk_160 0 8 (dk_at dksX0_awaited_1 13 rfl rfl)
theorem dX0_awaited_39 : decode cX0_awaited 39 = .ok (.iload_n 1, 1) := dk_27 (dk_at dksX0_awaited_1 16 rfl rfl)
theorem dX0_awaited_40 : decode cX0_awaited 40 = .ok (.i2l, 1) := dk_133 (dk_at dksX0_awaited_1 17 rfl rfl)
theorem dX0_awaited_41 : decode cX0_awaited 41 = .ok (.goto 8, 3) := dk_167 0 8 (dk_at dksX0_awaited_1 18 rfl rfl)
theorem dX0_awaited_44 : decode cX0_awaited 44 = .ok (.bipush 100, 2) := dk_16 100 (dk_at dksX0_awaited_1 21 rfl rfl)
theorem dX0_awaited_46 : decode cX0_awaited 46 = .ok (.iload_n 1, 1) := dk_27 (dk_at dksX0_awaited_1 23 rfl rfl)
theorem dX0_awaited_47 : decode cX0_awaited 47 = .ok (.isub, 1) := dk_100 (dk_at dksX0_awaited_2 0 rfl rfl)
theorem dX0_awaited_48 : decode cX0_awaited 48 = .ok (.i2l, 1) := dk_133 (dk_at dksX0_awaited_2 1 rfl rfl)
theorem dX0_awaited_49 : decode cX0_awaited 49 = .ok (.lmul, 1) := dk_105 (dk_at dksX0_awaited_2 2 rfl rfl)
theorem dX0_awaited_50 : decode cX0_awaited 50 = .ok (.lstore 8, 2) := dk_55 8 (dk_at dksX0_awaited_2 3 rfl rfl)
theorem dX0_awaited_52 : decode cX0_awaited 52 = .ok (.iinc 10 1, 3) := dk_132 10 1 (dk_at dksX0_awaited_2 5 rfl rfl)
theorem dX0_awaited_55 : decode cX0_awaited 55 = .ok (.goto (-35), 3) := dk_167 255 221 (dk_at dksX0_awaited_2 8 rfl rfl)
theorem dX0_awaited_58 : decode cX0_awaited 58 = .ok (.iload 7, 2) := dk_21 7 (dk_at dksX0_awaited_2 11 rfl rfl)
theorem dX0_awaited_60 : decode cX0_awaited 60 = .ok (.invokestatic 280, 3) := dk_184 1 24 (dk_at dksX0_awaited_2 13 rfl rfl)
theorem dX0_awaited_63 : decode cX0_awaited 63 = .ok (.istore 10, 2) := dk_54 10 (dk_at dksX0_awaited_2 16 rfl rfl)
theorem dX0_awaited_65 : decode cX0_awaited 65 = .ok (.lload 5, 2) := dk_22 5 (dk_at dksX0_awaited_2 18 rfl rfl)
theorem dX0_awaited_67 : decode cX0_awaited 67 = .ok (.lload 8, 2) := dk_22 8 (dk_at dksX0_awaited_2 20 rfl rfl)
theorem dX0_awaited_69 : decode cX0_awaited 69 = .ok (.iload_n 3, 1) := dk_29 (dk_at dksX0_awaited_2 22 rfl rfl)
theorem dX0_awaited_70 : decode cX0_awaited 70 = .ok (.iload 10, 2) := dk_21 10 (dk_at dksX0_awaited_3 0 rfl rfl)
theorem dX0_awaited_72 : decode cX0_awaited 72 = .ok (.iload_n 2, 1) := dk_28 (dk_at dksX0_awaited_3 2 rfl rfl)
theorem dX0_awaited_73 : decode cX0_awaited 73 = .ok (.invokestatic 245, 3) := dk_184 0 245 (dk_at dksX0_awaited_3 3 rfl rfl)
theorem dX0_awaited_76 : decode cX0_awaited 76 = .ok (.imul, 1) := dk_104 (dk_at dksX0_awaited_3 6 rfl rfl)
theorem dX0_awaited_77 : decode cX0_awaited 77 = .ok (.iload 4, 2) := dk_21 4 (dk_at dksX0_awaited_3 7 rfl rfl)
theorem dX0_awaited_79 : decode cX0_awaited 79 = .ok (.iconst 0, 1) := dk_3 (dk_at dksX0_awaited_3 9 rfl rfl)
theorem dX0_awaited_80 : decode cX0_awaited 80 = .ok (.iload 10, 2) := dk_21 10 (dk_at dksX0_awaited_3 10 rfl rfl)
theorem dX0_awaited_82 : decode cX0_awaited 82 = .ok (.iload_n 2, 1) := dk_28 (dk_at dksX0_awaited_3 12 rfl rfl)
theorem dX0_awaited_83 : decode cX0_awaited 83 = .ok (.isub, 1) := dk_100 (dk_at dksX0_awaited_3 13 rfl rfl)
theorem dX0_awaited_84 : decode cX0_awaited 84 = .ok (.invokestatic 261, 3) := dk_184 1 5 (dk_at dksX0_awaited_3 14 rfl rfl)
theorem dX0_awaited_87 : decode cX0_awaited 87 = .ok (.imul, 1) := dk_104 (dk_at dksX0_awaited_3 17 rfl rfl)
theorem dX0_awaited_88 : decode cX0_awaited 88 = .ok (.isub, 1) := dk_100 (dk_at dksX0_awaited_3 18 rfl rfl)
theorem dX0_awaited_89 : decode cX0_awaited 89 = .ok (.i2l, 1) := dk_133 (dk_at dksX0_awaited_3 19 rfl rfl)
theorem dX0_awaited_90 : decode cX0_awaited 90 = .ok (.lmul, 1) := dk_105 (dk_at dksX0_awaited_3 20 rfl rfl)
theorem dX0_awaited_91 : decode cX0_awaited 91 = .ok (.ladd, 1) := dk_97 (dk_at dksX0_awaited_3 21 rfl rfl)
theorem dX0_awaited_92 : decode cX0_awaited 92 = .ok (.lstore 5, 2) := dk_55 5 (dk_at dksX0_awaited_3 22 rfl rfl)
theorem dX0_awaited_94 : decode cX0_awaited 94 = .ok (.iinc 7 1, 3) := dk_132 7 1 (dk_at dksX0_awaited_4 0 rfl rfl)
theorem dX0_awaited_97 : decode cX0_awaited 97 = .ok (.goto (-91), 3) := dk_167 255 165 (dk_at dksX0_awaited_4 3 rfl rfl)
theorem dX0_awaited_100 : decode cX0_awaited 100 = .ok (.lload 5, 2) := dk_22 5 (dk_at dksX0_awaited_4 6 rfl rfl)
theorem dX0_awaited_102 : decode cX0_awaited 102 = .ok (.lreturn, 1) := dk_173 (dk_at dksX0_awaited_4 8 rfl rfl)
abbrev cX0_hundreds : ByteArray := prog_1_method_48_code
def yX0_hundreds : MethodName := ⟨RX0, "hundreds", "(I)J"⟩
def dkwX0_hundreds_0 : List UInt8 := [26, 154, 0, 7, 10, 167, 0, 13, 20, 1, 18, 26, 4, 100, 184, 1, 29, 105, 173]
abbrev dktX0_hundreds_0 : List UInt8 := dkwX0_hundreds_0 ++ []
theorem dksX0_hundreds_0 : cX0_hundreds.data.toList.drop 0 = dktX0_hundreds_0 := by decide +kernel
theorem dX0_hundreds_0 : decode cX0_hundreds 0 = .ok (.iload_n 0, 1) := dk_26 (dk_at dksX0_hundreds_0 0 rfl rfl)
theorem dX0_hundreds_1 : decode cX0_hundreds 1 = .ok (.ifCond .ne 7, 3) := dk_154 0 7 (dk_at dksX0_hundreds_0 1 rfl rfl)
theorem dX0_hundreds_4 : decode cX0_hundreds 4 = .ok (.lconst 1, 1) := dk_10 (dk_at dksX0_hundreds_0 4 rfl rfl)
theorem dX0_hundreds_5 : decode cX0_hundreds 5 = .ok (.goto 13, 3) := dk_167 0 13 (dk_at dksX0_hundreds_0 5 rfl rfl)
theorem dX0_hundreds_8 : decode cX0_hundreds 8 = .ok (.ldc2_w 274, 3) := dk_20 1 18 (dk_at dksX0_hundreds_0 8 rfl rfl)
theorem dX0_hundreds_11 : decode cX0_hundreds 11 = .ok (.iload_n 0, 1) := dk_26 (dk_at dksX0_hundreds_0 11 rfl rfl)
theorem dX0_hundreds_12 : decode cX0_hundreds 12 = .ok (.iconst 1, 1) := dk_4 (dk_at dksX0_hundreds_0 12 rfl rfl)
theorem dX0_hundreds_13 : decode cX0_hundreds 13 = .ok (.isub, 1) := dk_100 (dk_at dksX0_hundreds_0 13 rfl rfl)
theorem dX0_hundreds_14 : decode cX0_hundreds 14 = .ok (.invokestatic 285, 3) := dk_184 1 29 (dk_at dksX0_hundreds_0 14 rfl rfl)
theorem dX0_hundreds_17 : decode cX0_hundreds 17 = .ok (.lmul, 1) := dk_105 (dk_at dksX0_hundreds_0 17 rfl rfl)
theorem dX0_hundreds_18 : decode cX0_hundreds 18 = .ok (.lreturn, 1) := dk_173 (dk_at dksX0_hundreds_0 18 rfl rfl)
abbrev cX0_told : ByteArray := prog_1_method_3_code
def yX0_told : MethodName := ⟨RX0, "told", "(JJI)J"⟩
def dkwX0_told_0 : List UInt8 := [21, 4, 154, 0, 7, 30, 167, 0, 4, 32, 30, 32, 184, 0, 9, 109, 173]
abbrev dktX0_told_0 : List UInt8 := dkwX0_told_0 ++ []
theorem dksX0_told_0 : cX0_told.data.toList.drop 0 = dktX0_told_0 := by decide +kernel
theorem dX0_told_0 : decode cX0_told 0 = .ok (.iload 4, 2) := dk_21 4 (dk_at dksX0_told_0 0 rfl rfl)
theorem dX0_told_2 : decode cX0_told 2 = .ok (.ifCond .ne 7, 3) := dk_154 0 7 (dk_at dksX0_told_0 2 rfl rfl)
theorem dX0_told_5 : decode cX0_told 5 = .ok (.lload_n 0, 1) := dk_30 (dk_at dksX0_told_0 5 rfl rfl)
theorem dX0_told_6 : decode cX0_told 6 = .ok (.goto 4, 3) := dk_167 0 4 (dk_at dksX0_told_0 6 rfl rfl)
theorem dX0_told_9 : decode cX0_told 9 = .ok (.lload_n 2, 1) := dk_32 (dk_at dksX0_told_0 9 rfl rfl)
theorem dX0_told_10 : decode cX0_told 10 = .ok (.lload_n 0, 1) := dk_30 (dk_at dksX0_told_0 10 rfl rfl)
theorem dX0_told_11 : decode cX0_told 11 = .ok (.lload_n 2, 1) := dk_32 (dk_at dksX0_told_0 11 rfl rfl)
theorem dX0_told_12 : decode cX0_told 12 = .ok (.invokestatic 9, 3) := dk_184 0 9 (dk_at dksX0_told_0 12 rfl rfl)
theorem dX0_told_15 : decode cX0_told 15 = .ok (.ldiv, 1) := dk_109 (dk_at dksX0_told_0 15 rfl rfl)
theorem dX0_told_16 : decode cX0_told 16 = .ok (.lreturn, 1) := dk_173 (dk_at dksX0_told_0 16 rfl rfl)
abbrev cX0_common : ByteArray := prog_1_method_2_code
def yX0_common : MethodName := ⟨RX0, "common", "(JJ)J"⟩
def dkwX0_common_0 : List UInt8 := [32, 9, 148, 154, 0, 10, 30, 184, 0, 3, 167, 0, 10, 32, 30, 32, 113, 184, 0, 9, 173]
abbrev dktX0_common_0 : List UInt8 := dkwX0_common_0 ++ []
theorem dksX0_common_0 : cX0_common.data.toList.drop 0 = dktX0_common_0 := by decide +kernel
theorem dX0_common_0 : decode cX0_common 0 = .ok (.lload_n 2, 1) := dk_32 (dk_at dksX0_common_0 0 rfl rfl)
theorem dX0_common_1 : decode cX0_common 1 = .ok (.lconst 0, 1) := dk_9 (dk_at dksX0_common_0 1 rfl rfl)
theorem dX0_common_2 : decode cX0_common 2 = .ok (.lcmp, 1) := dk_148 (dk_at dksX0_common_0 2 rfl rfl)
theorem dX0_common_3 : decode cX0_common 3 = .ok (.ifCond .ne 10, 3) := dk_154 0 10 (dk_at dksX0_common_0 3 rfl rfl)
theorem dX0_common_6 : decode cX0_common 6 = .ok (.lload_n 0, 1) := dk_30 (dk_at dksX0_common_0 6 rfl rfl)
theorem dX0_common_7 : decode cX0_common 7 = .ok (.invokestatic 3, 3) := dk_184 0 3 (dk_at dksX0_common_0 7 rfl rfl)
theorem dX0_common_10 : decode cX0_common 10 = .ok (.goto 10, 3) := dk_167 0 10 (dk_at dksX0_common_0 10 rfl rfl)
theorem dX0_common_13 : decode cX0_common 13 = .ok (.lload_n 2, 1) := dk_32 (dk_at dksX0_common_0 13 rfl rfl)
theorem dX0_common_14 : decode cX0_common 14 = .ok (.lload_n 0, 1) := dk_30 (dk_at dksX0_common_0 14 rfl rfl)
theorem dX0_common_15 : decode cX0_common 15 = .ok (.lload_n 2, 1) := dk_32 (dk_at dksX0_common_0 15 rfl rfl)
theorem dX0_common_16 : decode cX0_common 16 = .ok (.lrem, 1) := dk_113 (dk_at dksX0_common_0 16 rfl rfl)
theorem dX0_common_17 : decode cX0_common 17 = .ok (.invokestatic 9, 3) := dk_184 0 9 (dk_at dksX0_common_0 17 rfl rfl)
theorem dX0_common_20 : decode cX0_common 20 = .ok (.lreturn, 1) := dk_173 (dk_at dksX0_common_0 20 rfl rfl)
abbrev cX0_take : ByteArray := prog_1_method_50_code
def yX0_take : MethodName := ⟨RX0, "take", "(IIII)I"⟩
def dkwX0_take_3 : List UInt8 := [22, 6, 22, 9, 184, 1, 45, 55, 6, 132, 8, 1, 167, 255, 199, 21, 5, 172]
abbrev dktX0_take_3 : List UInt8 := dkwX0_take_3 ++ []
def dkwX0_take_2 : List UInt8 := [184, 1, 29, 105, 55, 9, 22, 9, 22, 6, 148, 158, 0, 8, 21, 8, 167, 0, 5, 21, 5, 54, 5]
abbrev dktX0_take_2 : List UInt8 := dkwX0_take_2 ++ dktX0_take_3
def dkwX0_take_1 : List UInt8 := [21, 8, 16, 8, 163, 0, 56, 21, 8, 27, 28, 29, 21, 4, 184, 1, 37, 16, 8, 21, 8, 100]
abbrev dktX0_take_1 : List UInt8 := dkwX0_take_1 ++ dktX0_take_2
def dkwX0_take_0 : List UInt8 := [27, 28, 29, 21, 4, 184, 1, 33, 154, 0, 6, 16, 254, 172, 3, 54, 5, 9, 55, 6, 4, 54, 8]
abbrev dktX0_take_0 : List UInt8 := dkwX0_take_0 ++ dktX0_take_1
theorem dksX0_take_0 : cX0_take.data.toList.drop 0 = dktX0_take_0 := by decide +kernel
theorem dksX0_take_1 : cX0_take.data.toList.drop 23 = dktX0_take_1 := dk_seg dksX0_take_0 23 rfl rfl
theorem dksX0_take_2 : cX0_take.data.toList.drop 45 = dktX0_take_2 := dk_seg dksX0_take_1 22 rfl rfl
theorem dksX0_take_3 : cX0_take.data.toList.drop 68 = dktX0_take_3 := dk_seg dksX0_take_2 23 rfl rfl
theorem dX0_take_0 : decode cX0_take 0 = .ok (.iload_n 1, 1) := dk_27 (dk_at dksX0_take_0 0 rfl rfl)
theorem dX0_take_1 : decode cX0_take 1 = .ok (.iload_n 2, 1) := dk_28 (dk_at dksX0_take_0 1 rfl rfl)
theorem dX0_take_2 : decode cX0_take 2 = .ok (.iload_n 3, 1) := dk_29 (dk_at dksX0_take_0 2 rfl rfl)
theorem dX0_take_3 : decode cX0_take 3 = .ok (.iload 4, 2) := dk_21 4 (dk_at dksX0_take_0 3 rfl rfl)
theorem dX0_take_5 : decode cX0_take 5 = .ok (.invokestatic 289, 3) := dk_184 1 33 (dk_at dksX0_take_0 5 rfl rfl)
theorem dX0_take_8 : decode cX0_take 8 = .ok (.ifCond .ne 6, 3) := dk_154 0 6 (dk_at dksX0_take_0 8 rfl rfl)
theorem dX0_take_11 : decode cX0_take 11 = .ok (.bipush (-2), 2) := dk_16 254 (dk_at dksX0_take_0 11 rfl rfl)
theorem dX0_take_13 : decode cX0_take 13 = .ok (.ireturn, 1) := dk_172 (dk_at dksX0_take_0 13 rfl rfl)
theorem dX0_take_14 : decode cX0_take 14 = .ok (.iconst 0, 1) := dk_3 (dk_at dksX0_take_0 14 rfl rfl)
theorem dX0_take_15 : decode cX0_take 15 = .ok (.istore 5, 2) := dk_54 5 (dk_at dksX0_take_0 15 rfl rfl)
theorem dX0_take_17 : decode cX0_take 17 = .ok (.lconst 0, 1) := dk_9 (dk_at dksX0_take_0 17 rfl rfl)
theorem dX0_take_18 : decode cX0_take 18 = .ok (.lstore 6, 2) := dk_55 6 (dk_at dksX0_take_0 18 rfl rfl)
theorem dX0_take_20 : decode cX0_take 20 = .ok (.iconst 1, 1) := dk_4 (dk_at dksX0_take_0 20 rfl rfl)
theorem dX0_take_21 : decode cX0_take 21 = .ok (.istore 8, 2) := dk_54 8 (dk_at dksX0_take_0 21 rfl rfl)
theorem dX0_take_23 : decode cX0_take 23 = .ok (.iload 8, 2) := dk_21 8 (dk_at dksX0_take_1 0 rfl rfl)
theorem dX0_take_25 : decode cX0_take 25 = .ok (.bipush 8, 2) := dk_16 8 (dk_at dksX0_take_1 2 rfl rfl)
theorem dX0_take_27 : decode cX0_take 27 = .ok (.if_icmp .gt 56, 3) := dk_163 0 56 (dk_at dksX0_take_1 4 rfl rfl)
theorem dX0_take_30 : decode cX0_take 30 = .ok (.iload 8, 2) := dk_21 8 (dk_at dksX0_take_1 7 rfl rfl)
theorem dX0_take_32 : decode cX0_take 32 = .ok (.iload_n 1, 1) := dk_27 (dk_at dksX0_take_1 9 rfl rfl)
theorem dX0_take_33 : decode cX0_take 33 = .ok (.iload_n 2, 1) := dk_28 (dk_at dksX0_take_1 10 rfl rfl)
theorem dX0_take_34 : decode cX0_take 34 = .ok (.iload_n 3, 1) := dk_29 (dk_at dksX0_take_1 11 rfl rfl)
theorem dX0_take_35 : decode cX0_take 35 = .ok (.iload 4, 2) := dk_21 4 (dk_at dksX0_take_1 12 rfl rfl)
theorem dX0_take_37 : decode cX0_take 37 = .ok (.invokestatic 293, 3) := dk_184 1 37 (dk_at dksX0_take_1 14 rfl rfl)
theorem dX0_take_40 : decode cX0_take 40 = .ok (.bipush 8, 2) := dk_16 8 (dk_at dksX0_take_1 17 rfl rfl)
theorem dX0_take_42 : decode cX0_take 42 = .ok (.iload 8, 2) := dk_21 8 (dk_at dksX0_take_1 19 rfl rfl)
theorem dX0_take_44 : decode cX0_take 44 = .ok (.isub, 1) := dk_100 (dk_at dksX0_take_1 21 rfl rfl)
theorem dX0_take_45 : decode cX0_take 45 = .ok (.invokestatic 285, 3) := dk_184 1 29 (dk_at dksX0_take_2 0 rfl rfl)
theorem dX0_take_48 : decode cX0_take 48 = .ok (.lmul, 1) := dk_105 (dk_at dksX0_take_2 3 rfl rfl)
theorem dX0_take_49 : decode cX0_take 49 = .ok (.lstore 9, 2) := dk_55 9 (dk_at dksX0_take_2 4 rfl rfl)
theorem dX0_take_51 : decode cX0_take 51 = .ok (.lload 9, 2) := dk_22 9 (dk_at dksX0_take_2 6 rfl rfl)
theorem dX0_take_53 : decode cX0_take 53 = .ok (.lload 6, 2) := dk_22 6 (dk_at dksX0_take_2 8 rfl rfl)
theorem dX0_take_55 : decode cX0_take 55 = .ok (.lcmp, 1) := dk_148 (dk_at dksX0_take_2 10 rfl rfl)
theorem dX0_take_56 : decode cX0_take 56 = .ok (.ifCond .le 8, 3) := dk_158 0 8 (dk_at dksX0_take_2 11 rfl rfl)
theorem dX0_take_59 : decode cX0_take 59 = .ok (.iload 8, 2) := dk_21 8 (dk_at dksX0_take_2 14 rfl rfl)
theorem dX0_take_61 : decode cX0_take 61 = .ok (.goto 5, 3) := dk_167 0 5 (dk_at dksX0_take_2 16 rfl rfl)
theorem dX0_take_64 : decode cX0_take 64 = .ok (.iload 5, 2) := dk_21 5 (dk_at dksX0_take_2 19 rfl rfl)
theorem dX0_take_66 : decode cX0_take 66 = .ok (.istore 5, 2) := dk_54 5 (dk_at dksX0_take_2 21 rfl rfl)
theorem dX0_take_68 : decode cX0_take 68 = .ok (.lload 6, 2) := dk_22 6 (dk_at dksX0_take_3 0 rfl rfl)
theorem dX0_take_70 : decode cX0_take 70 = .ok (.lload 9, 2) := dk_22 9 (dk_at dksX0_take_3 2 rfl rfl)
theorem dX0_take_72 : decode cX0_take 72 = .ok (.invokestatic 301, 3) := dk_184 1 45 (dk_at dksX0_take_3 4 rfl rfl)
theorem dX0_take_75 : decode cX0_take 75 = .ok (.lstore 6, 2) := dk_55 6 (dk_at dksX0_take_3 7 rfl rfl)
theorem dX0_take_77 : decode cX0_take 77 = .ok (.iinc 8 1, 3) := dk_132 8 1 (dk_at dksX0_take_3 9 rfl rfl)
theorem dX0_take_80 : decode cX0_take 80 = .ok (.goto (-57), 3) := dk_167 255 199 (dk_at dksX0_take_3 12 rfl rfl)
theorem dX0_take_83 : decode cX0_take 83 = .ok (.iload 5, 2) := dk_21 5 (dk_at dksX0_take_3 15 rfl rfl)
theorem dX0_take_85 : decode cX0_take 85 = .ok (.ireturn, 1) := dk_172 (dk_at dksX0_take_3 17 rfl rfl)
abbrev cX0_sheet : ByteArray := prog_1_method_60_code
def yX0_sheet : MethodName := ⟨RX0, "sheet", "(III)I"⟩
def dkwX0_sheet_3 : List UInt8 := [182, 1, 74, 172]
abbrev dktX0_sheet_3 : List UInt8 := dkwX0_sheet_3 ++ []
def dkwX0_sheet_2 : List UInt8 := [180, 0, 74, 27, 187, 0, 72, 89, 28, 29, 184, 1, 65, 183, 1, 69, 83, 4, 172, 58, 4, 42, 7]
abbrev dktX0_sheet_2 : List UInt8 := dkwX0_sheet_2 ++ dktX0_sheet_3
def dkwX0_sheet_1 : List UInt8 := [153, 0, 9, 29, 16, 40, 164, 0, 10, 42, 16, 254, 182, 1, 62, 172, 42, 3, 181, 1, 47, 42]
abbrev dktX0_sheet_1 : List UInt8 := dkwX0_sheet_1 ++ dktX0_sheet_2
def dkwX0_sheet_0 : List UInt8 := [27, 184, 1, 59, 153, 0, 9, 42, 2, 182, 1, 62, 172, 28, 133, 9, 20, 0, 112, 184, 0, 81]
abbrev dktX0_sheet_0 : List UInt8 := dkwX0_sheet_0 ++ dktX0_sheet_1
theorem dksX0_sheet_0 : cX0_sheet.data.toList.drop 0 = dktX0_sheet_0 := by decide +kernel
theorem dksX0_sheet_1 : cX0_sheet.data.toList.drop 22 = dktX0_sheet_1 := dk_seg dksX0_sheet_0 22 rfl rfl
theorem dksX0_sheet_2 : cX0_sheet.data.toList.drop 44 = dktX0_sheet_2 := dk_seg dksX0_sheet_1 22 rfl rfl
theorem dksX0_sheet_3 : cX0_sheet.data.toList.drop 67 = dktX0_sheet_3 := dk_seg dksX0_sheet_2 23 rfl rfl
theorem dX0_sheet_0 : decode cX0_sheet 0 = .ok (.iload_n 1, 1) := dk_27 (dk_at dksX0_sheet_0 0 rfl rfl)
theorem dX0_sheet_1 : decode cX0_sheet 1 = .ok (.invokestatic 315, 3) := dk_184 1 59 (dk_at dksX0_sheet_0 1 rfl rfl)
theorem dX0_sheet_4 : decode cX0_sheet 4 = .ok (.ifCond .eq 9, 3) := dk_153 0 9 (dk_at dksX0_sheet_0 4 rfl rfl)
theorem dX0_sheet_7 : decode cX0_sheet 7 = .ok (.aload_n 0, 1) := dk_42 (dk_at dksX0_sheet_0 7 rfl rfl)
theorem dX0_sheet_8 : decode cX0_sheet 8 = .ok (.iconst (-1), 1) := dk_2 (dk_at dksX0_sheet_0 8 rfl rfl)
theorem dX0_sheet_9 : decode cX0_sheet 9 = .ok (.invokevirtual 318, 3) := dk_182 1 62 (dk_at dksX0_sheet_0 9 rfl rfl)
theorem dX0_sheet_12 : decode cX0_sheet 12 = .ok (.ireturn, 1) := dk_172 (dk_at dksX0_sheet_0 12 rfl rfl)
theorem dX0_sheet_13 : decode cX0_sheet 13 = .ok (.iload_n 2, 1) := dk_28 (dk_at dksX0_sheet_0 13 rfl rfl)
theorem dX0_sheet_14 : decode cX0_sheet 14 = .ok (.i2l, 1) := dk_133 (dk_at dksX0_sheet_0 14 rfl rfl)
theorem dX0_sheet_15 : decode cX0_sheet 15 = .ok (.lconst 0, 1) := dk_9 (dk_at dksX0_sheet_0 15 rfl rfl)
theorem dX0_sheet_16 : decode cX0_sheet 16 = .ok (.ldc2_w 112, 3) := dk_20 0 112 (dk_at dksX0_sheet_0 16 rfl rfl)
theorem dX0_sheet_19 : decode cX0_sheet 19 = .ok (.invokestatic 81, 3) := dk_184 0 81 (dk_at dksX0_sheet_0 19 rfl rfl)
theorem dX0_sheet_22 : decode cX0_sheet 22 = .ok (.ifCond .eq 9, 3) := dk_153 0 9 (dk_at dksX0_sheet_1 0 rfl rfl)
theorem dX0_sheet_25 : decode cX0_sheet 25 = .ok (.iload_n 3, 1) := dk_29 (dk_at dksX0_sheet_1 3 rfl rfl)
theorem dX0_sheet_26 : decode cX0_sheet 26 = .ok (.bipush 40, 2) := dk_16 40 (dk_at dksX0_sheet_1 4 rfl rfl)
theorem dX0_sheet_28 : decode cX0_sheet 28 = .ok (.if_icmp .le 10, 3) := dk_164 0 10 (dk_at dksX0_sheet_1 6 rfl rfl)
theorem dX0_sheet_31 : decode cX0_sheet 31 = .ok (.aload_n 0, 1) := dk_42 (dk_at dksX0_sheet_1 9 rfl rfl)
theorem dX0_sheet_32 : decode cX0_sheet 32 = .ok (.bipush (-2), 2) := dk_16 254 (dk_at dksX0_sheet_1 10 rfl rfl)
theorem dX0_sheet_34 : decode cX0_sheet 34 = .ok (.invokevirtual 318, 3) := dk_182 1 62 (dk_at dksX0_sheet_1 12 rfl rfl)
theorem dX0_sheet_37 : decode cX0_sheet 37 = .ok (.ireturn, 1) := dk_172 (dk_at dksX0_sheet_1 15 rfl rfl)
theorem dX0_sheet_38 : decode cX0_sheet 38 = .ok (.aload_n 0, 1) := dk_42 (dk_at dksX0_sheet_1 16 rfl rfl)
theorem dX0_sheet_39 : decode cX0_sheet 39 = .ok (.iconst 0, 1) := dk_3 (dk_at dksX0_sheet_1 17 rfl rfl)
theorem dX0_sheet_40 : decode cX0_sheet 40 = .ok (.putfield 303, 3) := dk_181 1 47 (dk_at dksX0_sheet_1 18 rfl rfl)
theorem dX0_sheet_43 : decode cX0_sheet 43 = .ok (.aload_n 0, 1) := dk_42 (dk_at dksX0_sheet_1 21 rfl rfl)
theorem dX0_sheet_44 : decode cX0_sheet 44 = .ok (.getfield 74, 3) := dk_180 0 74 (dk_at dksX0_sheet_2 0 rfl rfl)
theorem dX0_sheet_47 : decode cX0_sheet 47 = .ok (.iload_n 1, 1) := dk_27 (dk_at dksX0_sheet_2 3 rfl rfl)
theorem dX0_sheet_48 : decode cX0_sheet 48 = .ok (.new 72, 3) := dk_187 0 72 (dk_at dksX0_sheet_2 4 rfl rfl)
theorem dX0_sheet_51 : decode cX0_sheet 51 = .ok (.dup, 1) := dk_89 (dk_at dksX0_sheet_2 7 rfl rfl)
theorem dX0_sheet_52 : decode cX0_sheet 52 = .ok (.iload_n 2, 1) := dk_28 (dk_at dksX0_sheet_2 8 rfl rfl)
theorem dX0_sheet_53 : decode cX0_sheet 53 = .ok (.iload_n 3, 1) := dk_29 (dk_at dksX0_sheet_2 9 rfl rfl)
theorem dX0_sheet_54 : decode cX0_sheet 54 = .ok (.invokestatic 321, 3) := dk_184 1 65 (dk_at dksX0_sheet_2 10 rfl rfl)
theorem dX0_sheet_57 : decode cX0_sheet 57 = .ok (.invokespecial 325, 3) := dk_183 1 69 (dk_at dksX0_sheet_2 13 rfl rfl)
theorem dX0_sheet_60 : decode cX0_sheet 60 = .ok (.aastore, 1) := dk_83 (dk_at dksX0_sheet_2 16 rfl rfl)
theorem dX0_sheet_61 : decode cX0_sheet 61 = .ok (.iconst 1, 1) := dk_4 (dk_at dksX0_sheet_2 17 rfl rfl)
theorem dX0_sheet_62 : decode cX0_sheet 62 = .ok (.ireturn, 1) := dk_172 (dk_at dksX0_sheet_2 18 rfl rfl)
theorem dX0_sheet_63 : decode cX0_sheet 63 = .ok (.astore 4, 2) := dk_58 4 (dk_at dksX0_sheet_2 19 rfl rfl)
theorem dX0_sheet_65 : decode cX0_sheet 65 = .ok (.aload_n 0, 1) := dk_42 (dk_at dksX0_sheet_2 21 rfl rfl)
theorem dX0_sheet_66 : decode cX0_sheet 66 = .ok (.iconst 4, 1) := dk_7 (dk_at dksX0_sheet_2 22 rfl rfl)
theorem dX0_sheet_67 : decode cX0_sheet 67 = .ok (.invokevirtual 330, 3) := dk_182 1 74 (dk_at dksX0_sheet_3 0 rfl rfl)
theorem dX0_sheet_70 : decode cX0_sheet 70 = .ok (.ireturn, 1) := dk_172 (dk_at dksX0_sheet_3 3 rfl rfl)
abbrev cX0_noSheet : ByteArray := prog_1_method_58_code
def yX0_noSheet : MethodName := ⟨RX0, "noSheet", "(I)Z"⟩
def dkwX0_noSheet_0 : List UInt8 := [26, 133, 9, 20, 1, 13, 184, 0, 81, 154, 0, 7, 4, 167, 0, 4, 3, 172]
abbrev dktX0_noSheet_0 : List UInt8 := dkwX0_noSheet_0 ++ []
theorem dksX0_noSheet_0 : cX0_noSheet.data.toList.drop 0 = dktX0_noSheet_0 := by decide +kernel
theorem dX0_noSheet_0 : decode cX0_noSheet 0 = .ok (.iload_n 0, 1) := dk_26 (dk_at dksX0_noSheet_0 0 rfl rfl)
theorem dX0_noSheet_1 : decode cX0_noSheet 1 = .ok (.i2l, 1) := dk_133 (dk_at dksX0_noSheet_0 1 rfl rfl)
theorem dX0_noSheet_2 : decode cX0_noSheet 2 = .ok (.lconst 0, 1) := dk_9 (dk_at dksX0_noSheet_0 2 rfl rfl)
theorem dX0_noSheet_3 : decode cX0_noSheet 3 = .ok (.ldc2_w 269, 3) := dk_20 1 13 (dk_at dksX0_noSheet_0 3 rfl rfl)
theorem dX0_noSheet_6 : decode cX0_noSheet 6 = .ok (.invokestatic 81, 3) := dk_184 0 81 (dk_at dksX0_noSheet_0 6 rfl rfl)
theorem dX0_noSheet_9 : decode cX0_noSheet 9 = .ok (.ifCond .ne 7, 3) := dk_154 0 7 (dk_at dksX0_noSheet_0 9 rfl rfl)
theorem dX0_noSheet_12 : decode cX0_noSheet 12 = .ok (.iconst 1, 1) := dk_4 (dk_at dksX0_noSheet_0 12 rfl rfl)
theorem dX0_noSheet_13 : decode cX0_noSheet 13 = .ok (.goto 4, 3) := dk_167 0 4 (dk_at dksX0_noSheet_0 13 rfl rfl)
theorem dX0_noSheet_16 : decode cX0_noSheet 16 = .ok (.iconst 0, 1) := dk_3 (dk_at dksX0_noSheet_0 16 rfl rfl)
theorem dX0_noSheet_17 : decode cX0_noSheet 17 = .ok (.ireturn, 1) := dk_172 (dk_at dksX0_noSheet_0 17 rfl rfl)
abbrev cX0_refused : ByteArray := prog_1_method_51_code
def yX0_refused : MethodName := ⟨RX0, "refused", "(I)I"⟩
def dkwX0_refused_0 : List UInt8 := [42, 3, 181, 1, 47, 27, 172]
abbrev dktX0_refused_0 : List UInt8 := dkwX0_refused_0 ++ []
theorem dksX0_refused_0 : cX0_refused.data.toList.drop 0 = dktX0_refused_0 := by decide +kernel
theorem dX0_refused_0 : decode cX0_refused 0 = .ok (.aload_n 0, 1) := dk_42 (dk_at dksX0_refused_0 0 rfl rfl)
theorem dX0_refused_1 : decode cX0_refused 1 = .ok (.iconst 0, 1) := dk_3 (dk_at dksX0_refused_0 1 rfl rfl)
theorem dX0_refused_2 : decode cX0_refused 2 = .ok (.putfield 303, 3) := dk_181 1 47 (dk_at dksX0_refused_0 2 rfl rfl)
theorem dX0_refused_5 : decode cX0_refused 5 = .ok (.iload_n 1, 1) := dk_27 (dk_at dksX0_refused_0 5 rfl rfl)
theorem dX0_refused_6 : decode cX0_refused 6 = .ok (.ireturn, 1) := dk_172 (dk_at dksX0_refused_0 6 rfl rfl)
abbrev cX0_rowOf : ByteArray := prog_1_method_54_code
def yX0_rowOf : MethodName := ⟨RX0, "rowOf", "(II)Ljava/lang/Object;"⟩
def dkwX0_rowOf_1 : List UInt8 := [176]
abbrev dktX0_rowOf_1 : List UInt8 := dkwX0_rowOf_1 ++ []
def dkwX0_rowOf_0 : List UInt8 := [26, 154, 0, 9, 27, 188, 8, 167, 0, 17, 26, 4, 160, 0, 9, 27, 188, 9, 167, 0, 6, 27, 188, 10]
abbrev dktX0_rowOf_0 : List UInt8 := dkwX0_rowOf_0 ++ dktX0_rowOf_1
theorem dksX0_rowOf_0 : cX0_rowOf.data.toList.drop 0 = dktX0_rowOf_0 := by decide +kernel
theorem dksX0_rowOf_1 : cX0_rowOf.data.toList.drop 24 = dktX0_rowOf_1 := dk_seg dksX0_rowOf_0 24 rfl rfl
theorem dX0_rowOf_0 : decode cX0_rowOf 0 = .ok (.iload_n 0, 1) := dk_26 (dk_at dksX0_rowOf_0 0 rfl rfl)
theorem dX0_rowOf_1 : decode cX0_rowOf 1 = .ok (.ifCond .ne 9, 3) := dk_154 0 9 (dk_at dksX0_rowOf_0 1 rfl rfl)
theorem dX0_rowOf_4 : decode cX0_rowOf 4 = .ok (.iload_n 1, 1) := dk_27 (dk_at dksX0_rowOf_0 4 rfl rfl)
theorem dX0_rowOf_5 : decode cX0_rowOf 5 = .ok (.newarray .byte, 2) := dk_188_8 (dk_at dksX0_rowOf_0 5 rfl rfl)
theorem dX0_rowOf_7 : decode cX0_rowOf 7 = .ok (.goto 17, 3) := dk_167 0 17 (dk_at dksX0_rowOf_0 7 rfl rfl)
theorem dX0_rowOf_10 : decode cX0_rowOf 10 = .ok (.iload_n 0, 1) := dk_26 (dk_at dksX0_rowOf_0 10 rfl rfl)
theorem dX0_rowOf_11 : decode cX0_rowOf 11 = .ok (.iconst 1, 1) := dk_4 (dk_at dksX0_rowOf_0 11 rfl rfl)
theorem dX0_rowOf_12 : decode cX0_rowOf 12 = .ok (.if_icmp .ne 9, 3) := dk_160 0 9 (dk_at dksX0_rowOf_0 12 rfl rfl)
theorem dX0_rowOf_15 : decode cX0_rowOf 15 = .ok (.iload_n 1, 1) := dk_27 (dk_at dksX0_rowOf_0 15 rfl rfl)
theorem dX0_rowOf_16 : decode cX0_rowOf 16 = .ok (.newarray .short, 2) := dk_188_9 (dk_at dksX0_rowOf_0 16 rfl rfl)
theorem dX0_rowOf_18 : decode cX0_rowOf 18 = .ok (.goto 6, 3) := dk_167 0 6 (dk_at dksX0_rowOf_0 18 rfl rfl)
theorem dX0_rowOf_21 : decode cX0_rowOf 21 = .ok (.iload_n 1, 1) := dk_27 (dk_at dksX0_rowOf_0 21 rfl rfl)
theorem dX0_rowOf_22 : decode cX0_rowOf 22 = .ok (.newarray .int, 2) := dk_188_10 (dk_at dksX0_rowOf_0 22 rfl rfl)
theorem dX0_rowOf_24 : decode cX0_rowOf 24 = .ok (.areturn, 1) := dk_176 (dk_at dksX0_rowOf_1 0 rfl rfl)
abbrev cX0_fails : ByteArray := prog_1_method_52_code
def yX0_fails : MethodName := ⟨RX0, "fails", "(I)I"⟩
def dkwX0_fails_0 : List UInt8 := [42, 27, 181, 1, 47, 16, 246, 27, 100, 172]
abbrev dktX0_fails_0 : List UInt8 := dkwX0_fails_0 ++ []
theorem dksX0_fails_0 : cX0_fails.data.toList.drop 0 = dktX0_fails_0 := by decide +kernel
theorem dX0_fails_0 : decode cX0_fails 0 = .ok (.aload_n 0, 1) := dk_42 (dk_at dksX0_fails_0 0 rfl rfl)
theorem dX0_fails_1 : decode cX0_fails 1 = .ok (.iload_n 1, 1) := dk_27 (dk_at dksX0_fails_0 1 rfl rfl)
theorem dX0_fails_2 : decode cX0_fails 2 = .ok (.putfield 303, 3) := dk_181 1 47 (dk_at dksX0_fails_0 2 rfl rfl)
theorem dX0_fails_5 : decode cX0_fails 5 = .ok (.bipush (-10), 2) := dk_16 246 (dk_at dksX0_fails_0 5 rfl rfl)
theorem dX0_fails_7 : decode cX0_fails 7 = .ok (.iload_n 1, 1) := dk_27 (dk_at dksX0_fails_0 7 rfl rfl)
theorem dX0_fails_8 : decode cX0_fails 8 = .ok (.isub, 1) := dk_100 (dk_at dksX0_fails_0 8 rfl rfl)
theorem dX0_fails_9 : decode cX0_fails 9 = .ok (.ireturn, 1) := dk_172 (dk_at dksX0_fails_0 9 rfl rfl)
abbrev cX0_lose : ByteArray := prog_1_method_61_code
def yX0_lose : MethodName := ⟨RX0, "lose", "(I)I"⟩
def dkwX0_lose_1 : List UInt8 := [42, 180, 0, 74, 27, 1, 83, 28, 172]
abbrev dktX0_lose_1 : List UInt8 := dkwX0_lose_1 ++ []
def dkwX0_lose_0 : List UInt8 := [27, 184, 1, 59, 153, 0, 5, 2, 172, 42, 180, 0, 74, 27, 50, 199, 0, 7, 3, 167, 0, 4, 4, 61]
abbrev dktX0_lose_0 : List UInt8 := dkwX0_lose_0 ++ dktX0_lose_1
theorem dksX0_lose_0 : cX0_lose.data.toList.drop 0 = dktX0_lose_0 := by decide +kernel
theorem dksX0_lose_1 : cX0_lose.data.toList.drop 24 = dktX0_lose_1 := dk_seg dksX0_lose_0 24 rfl rfl
theorem dX0_lose_0 : decode cX0_lose 0 = .ok (.iload_n 1, 1) := dk_27 (dk_at dksX0_lose_0 0 rfl rfl)
theorem dX0_lose_1 : decode cX0_lose 1 = .ok (.invokestatic 315, 3) := dk_184 1 59 (dk_at dksX0_lose_0 1 rfl rfl)
theorem dX0_lose_4 : decode cX0_lose 4 = .ok (.ifCond .eq 5, 3) := dk_153 0 5 (dk_at dksX0_lose_0 4 rfl rfl)
theorem dX0_lose_7 : decode cX0_lose 7 = .ok (.iconst (-1), 1) := dk_2 (dk_at dksX0_lose_0 7 rfl rfl)
theorem dX0_lose_8 : decode cX0_lose 8 = .ok (.ireturn, 1) := dk_172 (dk_at dksX0_lose_0 8 rfl rfl)
theorem dX0_lose_9 : decode cX0_lose 9 = .ok (.aload_n 0, 1) := dk_42 (dk_at dksX0_lose_0 9 rfl rfl)
theorem dX0_lose_10 : decode cX0_lose 10 = .ok (.getfield 74, 3) := dk_180 0 74 (dk_at dksX0_lose_0 10 rfl rfl)
theorem dX0_lose_13 : decode cX0_lose 13 = .ok (.iload_n 1, 1) := dk_27 (dk_at dksX0_lose_0 13 rfl rfl)
theorem dX0_lose_14 : decode cX0_lose 14 = .ok (.aaload, 1) := dk_50 (dk_at dksX0_lose_0 14 rfl rfl)
theorem dX0_lose_15 : decode cX0_lose 15 = .ok (.ifnonnull 7, 3) := dk_199 0 7 (dk_at dksX0_lose_0 15 rfl rfl)
theorem dX0_lose_18 : decode cX0_lose 18 = .ok (.iconst 0, 1) := dk_3 (dk_at dksX0_lose_0 18 rfl rfl)
theorem dX0_lose_19 : decode cX0_lose 19 = .ok (.goto 4, 3) := dk_167 0 4 (dk_at dksX0_lose_0 19 rfl rfl)
theorem dX0_lose_22 : decode cX0_lose 22 = .ok (.iconst 1, 1) := dk_4 (dk_at dksX0_lose_0 22 rfl rfl)
theorem dX0_lose_23 : decode cX0_lose 23 = .ok (.istore_n 2, 1) := dk_61 (dk_at dksX0_lose_0 23 rfl rfl)
theorem dX0_lose_24 : decode cX0_lose 24 = .ok (.aload_n 0, 1) := dk_42 (dk_at dksX0_lose_1 0 rfl rfl)
theorem dX0_lose_25 : decode cX0_lose 25 = .ok (.getfield 74, 3) := dk_180 0 74 (dk_at dksX0_lose_1 1 rfl rfl)
theorem dX0_lose_28 : decode cX0_lose 28 = .ok (.iload_n 1, 1) := dk_27 (dk_at dksX0_lose_1 4 rfl rfl)
theorem dX0_lose_29 : decode cX0_lose 29 = .ok (.aconst_null, 1) := dk_1 (dk_at dksX0_lose_1 5 rfl rfl)
theorem dX0_lose_30 : decode cX0_lose 30 = .ok (.aastore, 1) := dk_83 (dk_at dksX0_lose_1 6 rfl rfl)
theorem dX0_lose_31 : decode cX0_lose 31 = .ok (.iload_n 2, 1) := dk_28 (dk_at dksX0_lose_1 7 rfl rfl)
theorem dX0_lose_32 : decode cX0_lose 32 = .ok (.ireturn, 1) := dk_172 (dk_at dksX0_lose_1 8 rfl rfl)
abbrev cX0_put : ByteArray := prog_1_method_62_code
def yX0_put : MethodName := ⟨RX0, "put", "(III)I"⟩
def dkwX0_put_2 : List UInt8 := [182, 1, 74, 172]
abbrev dktX0_put_2 : List UInt8 := dkwX0_put_2 ++ []
def dkwX0_put_1 : List UInt8 := [180, 1, 55, 28, 29, 184, 1, 77, 4, 172, 58, 4, 42, 4, 182, 1, 74, 172, 58, 4, 42, 6]
abbrev dktX0_put_1 : List UInt8 := dkwX0_put_1 ++ dktX0_put_2
def dkwX0_put_0 : List UInt8 := [27, 184, 1, 59, 153, 0, 9, 42, 2, 182, 1, 62, 172, 42, 3, 181, 1, 47, 42, 180, 0, 74, 27, 50]
abbrev dktX0_put_0 : List UInt8 := dkwX0_put_0 ++ dktX0_put_1
theorem dksX0_put_0 : cX0_put.data.toList.drop 0 = dktX0_put_0 := by decide +kernel
theorem dksX0_put_1 : cX0_put.data.toList.drop 24 = dktX0_put_1 := dk_seg dksX0_put_0 24 rfl rfl
theorem dksX0_put_2 : cX0_put.data.toList.drop 46 = dktX0_put_2 := dk_seg dksX0_put_1 22 rfl rfl
theorem dX0_put_0 : decode cX0_put 0 = .ok (.iload_n 1, 1) := dk_27 (dk_at dksX0_put_0 0 rfl rfl)
theorem dX0_put_1 : decode cX0_put 1 = .ok (.invokestatic 315, 3) := dk_184 1 59 (dk_at dksX0_put_0 1 rfl rfl)
theorem dX0_put_4 : decode cX0_put 4 = .ok (.ifCond .eq 9, 3) := dk_153 0 9 (dk_at dksX0_put_0 4 rfl rfl)
theorem dX0_put_7 : decode cX0_put 7 = .ok (.aload_n 0, 1) := dk_42 (dk_at dksX0_put_0 7 rfl rfl)
theorem dX0_put_8 : decode cX0_put 8 = .ok (.iconst (-1), 1) := dk_2 (dk_at dksX0_put_0 8 rfl rfl)
theorem dX0_put_9 : decode cX0_put 9 = .ok (.invokevirtual 318, 3) := dk_182 1 62 (dk_at dksX0_put_0 9 rfl rfl)
theorem dX0_put_12 : decode cX0_put 12 = .ok (.ireturn, 1) := dk_172 (dk_at dksX0_put_0 12 rfl rfl)
theorem dX0_put_13 : decode cX0_put 13 = .ok (.aload_n 0, 1) := dk_42 (dk_at dksX0_put_0 13 rfl rfl)
theorem dX0_put_14 : decode cX0_put 14 = .ok (.iconst 0, 1) := dk_3 (dk_at dksX0_put_0 14 rfl rfl)
theorem dX0_put_15 : decode cX0_put 15 = .ok (.putfield 303, 3) := dk_181 1 47 (dk_at dksX0_put_0 15 rfl rfl)
theorem dX0_put_18 : decode cX0_put 18 = .ok (.aload_n 0, 1) := dk_42 (dk_at dksX0_put_0 18 rfl rfl)
theorem dX0_put_19 : decode cX0_put 19 = .ok (.getfield 74, 3) := dk_180 0 74 (dk_at dksX0_put_0 19 rfl rfl)
theorem dX0_put_22 : decode cX0_put 22 = .ok (.iload_n 1, 1) := dk_27 (dk_at dksX0_put_0 22 rfl rfl)
theorem dX0_put_23 : decode cX0_put 23 = .ok (.aaload, 1) := dk_50 (dk_at dksX0_put_0 23 rfl rfl)
theorem dX0_put_24 : decode cX0_put 24 = .ok (.getfield 311, 3) := dk_180 1 55 (dk_at dksX0_put_1 0 rfl rfl)
theorem dX0_put_27 : decode cX0_put 27 = .ok (.iload_n 2, 1) := dk_28 (dk_at dksX0_put_1 3 rfl rfl)
theorem dX0_put_28 : decode cX0_put 28 = .ok (.iload_n 3, 1) := dk_29 (dk_at dksX0_put_1 4 rfl rfl)
theorem dX0_put_29 : decode cX0_put 29 = .ok (.invokestatic 333, 3) := dk_184 1 77 (dk_at dksX0_put_1 5 rfl rfl)
theorem dX0_put_32 : decode cX0_put 32 = .ok (.iconst 1, 1) := dk_4 (dk_at dksX0_put_1 8 rfl rfl)
theorem dX0_put_33 : decode cX0_put 33 = .ok (.ireturn, 1) := dk_172 (dk_at dksX0_put_1 9 rfl rfl)
theorem dX0_put_34 : decode cX0_put 34 = .ok (.astore 4, 2) := dk_58 4 (dk_at dksX0_put_1 10 rfl rfl)
theorem dX0_put_36 : decode cX0_put 36 = .ok (.aload_n 0, 1) := dk_42 (dk_at dksX0_put_1 12 rfl rfl)
theorem dX0_put_37 : decode cX0_put 37 = .ok (.iconst 1, 1) := dk_4 (dk_at dksX0_put_1 13 rfl rfl)
theorem dX0_put_38 : decode cX0_put 38 = .ok (.invokevirtual 330, 3) := dk_182 1 74 (dk_at dksX0_put_1 14 rfl rfl)
theorem dX0_put_41 : decode cX0_put 41 = .ok (.ireturn, 1) := dk_172 (dk_at dksX0_put_1 17 rfl rfl)
theorem dX0_put_42 : decode cX0_put 42 = .ok (.astore 4, 2) := dk_58 4 (dk_at dksX0_put_1 18 rfl rfl)
theorem dX0_put_44 : decode cX0_put 44 = .ok (.aload_n 0, 1) := dk_42 (dk_at dksX0_put_1 20 rfl rfl)
theorem dX0_put_45 : decode cX0_put 45 = .ok (.iconst 3, 1) := dk_6 (dk_at dksX0_put_1 21 rfl rfl)
theorem dX0_put_46 : decode cX0_put 46 = .ok (.invokevirtual 330, 3) := dk_182 1 74 (dk_at dksX0_put_2 0 rfl rfl)
theorem dX0_put_49 : decode cX0_put 49 = .ok (.ireturn, 1) := dk_172 (dk_at dksX0_put_2 3 rfl rfl)
abbrev cX0_setIn : ByteArray := prog_1_method_57_code
def yX0_setIn : MethodName := ⟨RX0, "setIn", "(Ljava/lang/Object;II)V"⟩
def dkwX0_setIn_1 : List UInt8 := [153, 0, 14, 42, 192, 1, 52, 27, 28, 147, 86, 167, 0, 10, 42, 192, 1, 54, 27, 28, 79, 177]
abbrev dktX0_setIn_1 : List UInt8 := dkwX0_setIn_1 ++ []
def dkwX0_setIn_0 : List UInt8 := [42, 193, 1, 50, 153, 0, 14, 42, 192, 1, 50, 27, 28, 145, 84, 167, 0, 28, 42, 193, 1, 52]
abbrev dktX0_setIn_0 : List UInt8 := dkwX0_setIn_0 ++ dktX0_setIn_1
theorem dksX0_setIn_0 : cX0_setIn.data.toList.drop 0 = dktX0_setIn_0 := by decide +kernel
theorem dksX0_setIn_1 : cX0_setIn.data.toList.drop 22 = dktX0_setIn_1 := dk_seg dksX0_setIn_0 22 rfl rfl
theorem dX0_setIn_0 : decode cX0_setIn 0 = .ok (.aload_n 0, 1) := dk_42 (dk_at dksX0_setIn_0 0 rfl rfl)
theorem dX0_setIn_1 : decode cX0_setIn 1 = .ok (.instanceof 306, 3) := dk_193 1 50 (dk_at dksX0_setIn_0 1 rfl rfl)
theorem dX0_setIn_4 : decode cX0_setIn 4 = .ok (.ifCond .eq 14, 3) := dk_153 0 14 (dk_at dksX0_setIn_0 4 rfl rfl)
theorem dX0_setIn_7 : decode cX0_setIn 7 = .ok (.aload_n 0, 1) := dk_42 (dk_at dksX0_setIn_0 7 rfl rfl)
theorem dX0_setIn_8 : decode cX0_setIn 8 = .ok (.checkcast 306, 3) := dk_192 1 50 (dk_at dksX0_setIn_0 8 rfl rfl)
theorem dX0_setIn_11 : decode cX0_setIn 11 = .ok (.iload_n 1, 1) := dk_27 (dk_at dksX0_setIn_0 11 rfl rfl)
theorem dX0_setIn_12 : decode cX0_setIn 12 = .ok (.iload_n 2, 1) := dk_28 (dk_at dksX0_setIn_0 12 rfl rfl)
theorem dX0_setIn_13 : decode cX0_setIn 13 = .ok (.i2b, 1) := dk_145 (dk_at dksX0_setIn_0 13 rfl rfl)
theorem dX0_setIn_14 : decode cX0_setIn 14 = .ok (.bastore, 1) := dk_84 (dk_at dksX0_setIn_0 14 rfl rfl)
theorem dX0_setIn_15 : decode cX0_setIn 15 = .ok (.goto 28, 3) := dk_167 0 28 (dk_at dksX0_setIn_0 15 rfl rfl)
theorem dX0_setIn_18 : decode cX0_setIn 18 = .ok (.aload_n 0, 1) := dk_42 (dk_at dksX0_setIn_0 18 rfl rfl)
theorem dX0_setIn_19 : decode cX0_setIn 19 = .ok (.instanceof 308, 3) := dk_193 1 52 (dk_at dksX0_setIn_0 19 rfl rfl)
theorem dX0_setIn_22 : decode cX0_setIn 22 = .ok (.ifCond .eq 14, 3) := dk_153 0 14 (dk_at dksX0_setIn_1 0 rfl rfl)
theorem dX0_setIn_25 : decode cX0_setIn 25 = .ok (.aload_n 0, 1) := dk_42 (dk_at dksX0_setIn_1 3 rfl rfl)
theorem dX0_setIn_26 : decode cX0_setIn 26 = .ok (.checkcast 308, 3) := dk_192 1 52 (dk_at dksX0_setIn_1 4 rfl rfl)
theorem dX0_setIn_29 : decode cX0_setIn 29 = .ok (.iload_n 1, 1) := dk_27 (dk_at dksX0_setIn_1 7 rfl rfl)
theorem dX0_setIn_30 : decode cX0_setIn 30 = .ok (.iload_n 2, 1) := dk_28 (dk_at dksX0_setIn_1 8 rfl rfl)
theorem dX0_setIn_31 : decode cX0_setIn 31 = .ok (.i2s, 1) := dk_147 (dk_at dksX0_setIn_1 9 rfl rfl)
theorem dX0_setIn_32 : decode cX0_setIn 32 = .ok (.sastore, 1) := dk_86 (dk_at dksX0_setIn_1 10 rfl rfl)
theorem dX0_setIn_33 : decode cX0_setIn 33 = .ok (.goto 10, 3) := dk_167 0 10 (dk_at dksX0_setIn_1 11 rfl rfl)
theorem dX0_setIn_36 : decode cX0_setIn 36 = .ok (.aload_n 0, 1) := dk_42 (dk_at dksX0_setIn_1 14 rfl rfl)
theorem dX0_setIn_37 : decode cX0_setIn 37 = .ok (.checkcast 310, 3) := dk_192 1 54 (dk_at dksX0_setIn_1 15 rfl rfl)
theorem dX0_setIn_40 : decode cX0_setIn 40 = .ok (.iload_n 1, 1) := dk_27 (dk_at dksX0_setIn_1 18 rfl rfl)
theorem dX0_setIn_41 : decode cX0_setIn 41 = .ok (.iload_n 2, 1) := dk_28 (dk_at dksX0_setIn_1 19 rfl rfl)
theorem dX0_setIn_42 : decode cX0_setIn 42 = .ok (.iastore, 1) := dk_79 (dk_at dksX0_setIn_1 20 rfl rfl)
theorem dX0_setIn_43 : decode cX0_setIn 43 = .ok (.return_, 1) := dk_177 (dk_at dksX0_setIn_1 21 rfl rfl)
abbrev cX0_cell : ByteArray := prog_1_method_63_code
def yX0_cell : MethodName := ⟨RX0, "cell", "(III)J"⟩
def dkwX0_cell_2 : List UInt8 := [58, 4, 42, 5, 182, 1, 92, 173, 58, 4, 42, 6, 182, 1, 92, 173]
abbrev dktX0_cell_2 : List UInt8 := dkwX0_cell_2 ++ []
def dkwX0_cell_1 : List UInt8 := [20, 0, 243, 173, 42, 27, 182, 1, 85, 29, 28, 184, 1, 88, 133, 173, 58, 4, 42, 4, 182, 1, 92, 173]
abbrev dktX0_cell_1 : List UInt8 := dkwX0_cell_1 ++ dktX0_cell_2
def dkwX0_cell_0 : List UInt8 := [42, 3, 181, 1, 47, 27, 184, 1, 59, 154, 0, 15, 29, 133, 9, 20, 0, 112, 184, 0, 81, 154, 0, 7]
abbrev dktX0_cell_0 : List UInt8 := dkwX0_cell_0 ++ dktX0_cell_1
theorem dksX0_cell_0 : cX0_cell.data.toList.drop 0 = dktX0_cell_0 := by decide +kernel
theorem dksX0_cell_1 : cX0_cell.data.toList.drop 24 = dktX0_cell_1 := dk_seg dksX0_cell_0 24 rfl rfl
theorem dksX0_cell_2 : cX0_cell.data.toList.drop 48 = dktX0_cell_2 := dk_seg dksX0_cell_1 24 rfl rfl
theorem dX0_cell_0 : decode cX0_cell 0 = .ok (.aload_n 0, 1) := dk_42 (dk_at dksX0_cell_0 0 rfl rfl)
theorem dX0_cell_1 : decode cX0_cell 1 = .ok (.iconst 0, 1) := dk_3 (dk_at dksX0_cell_0 1 rfl rfl)
theorem dX0_cell_2 : decode cX0_cell 2 = .ok (.putfield 303, 3) := dk_181 1 47 (dk_at dksX0_cell_0 2 rfl rfl)
theorem dX0_cell_5 : decode cX0_cell 5 = .ok (.iload_n 1, 1) := dk_27 (dk_at dksX0_cell_0 5 rfl rfl)
theorem dX0_cell_6 : decode cX0_cell 6 = .ok (.invokestatic 315, 3) := dk_184 1 59 (dk_at dksX0_cell_0 6 rfl rfl)
theorem dX0_cell_9 : decode cX0_cell 9 = .ok (.ifCond .ne 15, 3) := dk_154 0 15 (dk_at dksX0_cell_0 9 rfl rfl)
theorem dX0_cell_12 : decode cX0_cell 12 = .ok (.iload_n 3, 1) := dk_29 (dk_at dksX0_cell_0 12 rfl rfl)
theorem dX0_cell_13 : decode cX0_cell 13 = .ok (.i2l, 1) := dk_133 (dk_at dksX0_cell_0 13 rfl rfl)
theorem dX0_cell_14 : decode cX0_cell 14 = .ok (.lconst 0, 1) := dk_9 (dk_at dksX0_cell_0 14 rfl rfl)
theorem dX0_cell_15 : decode cX0_cell 15 = .ok (.ldc2_w 112, 3) := dk_20 0 112 (dk_at dksX0_cell_0 15 rfl rfl)
theorem dX0_cell_18 : decode cX0_cell 18 = .ok (.invokestatic 81, 3) := dk_184 0 81 (dk_at dksX0_cell_0 18 rfl rfl)
theorem dX0_cell_21 : decode cX0_cell 21 = .ok (.ifCond .ne 7, 3) := dk_154 0 7 (dk_at dksX0_cell_0 21 rfl rfl)
theorem dX0_cell_24 : decode cX0_cell 24 = .ok (.ldc2_w 243, 3) := dk_20 0 243 (dk_at dksX0_cell_1 0 rfl rfl)
theorem dX0_cell_27 : decode cX0_cell 27 = .ok (.lreturn, 1) := dk_173 (dk_at dksX0_cell_1 3 rfl rfl)
theorem dX0_cell_28 : decode cX0_cell 28 = .ok (.aload_n 0, 1) := dk_42 (dk_at dksX0_cell_1 4 rfl rfl)
theorem dX0_cell_29 : decode cX0_cell 29 = .ok (.iload_n 1, 1) := dk_27 (dk_at dksX0_cell_1 5 rfl rfl)
theorem dX0_cell_30 : decode cX0_cell 30 = .ok (.invokevirtual 341, 3) := dk_182 1 85 (dk_at dksX0_cell_1 6 rfl rfl)
theorem dX0_cell_33 : decode cX0_cell 33 = .ok (.iload_n 3, 1) := dk_29 (dk_at dksX0_cell_1 9 rfl rfl)
theorem dX0_cell_34 : decode cX0_cell 34 = .ok (.iload_n 2, 1) := dk_28 (dk_at dksX0_cell_1 10 rfl rfl)
theorem dX0_cell_35 : decode cX0_cell 35 = .ok (.invokestatic 344, 3) := dk_184 1 88 (dk_at dksX0_cell_1 11 rfl rfl)
theorem dX0_cell_38 : decode cX0_cell 38 = .ok (.i2l, 1) := dk_133 (dk_at dksX0_cell_1 14 rfl rfl)
theorem dX0_cell_39 : decode cX0_cell 39 = .ok (.lreturn, 1) := dk_173 (dk_at dksX0_cell_1 15 rfl rfl)
theorem dX0_cell_40 : decode cX0_cell 40 = .ok (.astore 4, 2) := dk_58 4 (dk_at dksX0_cell_1 16 rfl rfl)
theorem dX0_cell_42 : decode cX0_cell 42 = .ok (.aload_n 0, 1) := dk_42 (dk_at dksX0_cell_1 18 rfl rfl)
theorem dX0_cell_43 : decode cX0_cell 43 = .ok (.iconst 1, 1) := dk_4 (dk_at dksX0_cell_1 19 rfl rfl)
theorem dX0_cell_44 : decode cX0_cell 44 = .ok (.invokevirtual 348, 3) := dk_182 1 92 (dk_at dksX0_cell_1 20 rfl rfl)
theorem dX0_cell_47 : decode cX0_cell 47 = .ok (.lreturn, 1) := dk_173 (dk_at dksX0_cell_1 23 rfl rfl)
theorem dX0_cell_48 : decode cX0_cell 48 = .ok (.astore 4, 2) := dk_58 4 (dk_at dksX0_cell_2 0 rfl rfl)
theorem dX0_cell_50 : decode cX0_cell 50 = .ok (.aload_n 0, 1) := dk_42 (dk_at dksX0_cell_2 2 rfl rfl)
theorem dX0_cell_51 : decode cX0_cell 51 = .ok (.iconst 2, 1) := dk_5 (dk_at dksX0_cell_2 3 rfl rfl)
theorem dX0_cell_52 : decode cX0_cell 52 = .ok (.invokevirtual 348, 3) := dk_182 1 92 (dk_at dksX0_cell_2 4 rfl rfl)
theorem dX0_cell_55 : decode cX0_cell 55 = .ok (.lreturn, 1) := dk_173 (dk_at dksX0_cell_2 7 rfl rfl)
theorem dX0_cell_56 : decode cX0_cell 56 = .ok (.astore 4, 2) := dk_58 4 (dk_at dksX0_cell_2 8 rfl rfl)
theorem dX0_cell_58 : decode cX0_cell 58 = .ok (.aload_n 0, 1) := dk_42 (dk_at dksX0_cell_2 10 rfl rfl)
theorem dX0_cell_59 : decode cX0_cell 59 = .ok (.iconst 3, 1) := dk_6 (dk_at dksX0_cell_2 11 rfl rfl)
theorem dX0_cell_60 : decode cX0_cell 60 = .ok (.invokevirtual 348, 3) := dk_182 1 92 (dk_at dksX0_cell_2 12 rfl rfl)
theorem dX0_cell_63 : decode cX0_cell 63 = .ok (.lreturn, 1) := dk_173 (dk_at dksX0_cell_2 15 rfl rfl)
abbrev cX0_rowIn : ByteArray := prog_1_method_59_code
def yX0_rowIn : MethodName := ⟨RX0, "rowIn", "(I)Ljava/lang/Object;"⟩
def dkwX0_rowIn_0 : List UInt8 := [42, 180, 0, 74, 27, 50, 199, 0, 7, 1, 167, 0, 12, 42, 180, 0, 74, 27, 50, 180, 1, 55, 176]
abbrev dktX0_rowIn_0 : List UInt8 := dkwX0_rowIn_0 ++ []
theorem dksX0_rowIn_0 : cX0_rowIn.data.toList.drop 0 = dktX0_rowIn_0 := by decide +kernel
theorem dX0_rowIn_0 : decode cX0_rowIn 0 = .ok (.aload_n 0, 1) := dk_42 (dk_at dksX0_rowIn_0 0 rfl rfl)
theorem dX0_rowIn_1 : decode cX0_rowIn 1 = .ok (.getfield 74, 3) := dk_180 0 74 (dk_at dksX0_rowIn_0 1 rfl rfl)
theorem dX0_rowIn_4 : decode cX0_rowIn 4 = .ok (.iload_n 1, 1) := dk_27 (dk_at dksX0_rowIn_0 4 rfl rfl)
theorem dX0_rowIn_5 : decode cX0_rowIn 5 = .ok (.aaload, 1) := dk_50 (dk_at dksX0_rowIn_0 5 rfl rfl)
theorem dX0_rowIn_6 : decode cX0_rowIn 6 = .ok (.ifnonnull 7, 3) := dk_199 0 7 (dk_at dksX0_rowIn_0 6 rfl rfl)
theorem dX0_rowIn_9 : decode cX0_rowIn 9 = .ok (.aconst_null, 1) := dk_1 (dk_at dksX0_rowIn_0 9 rfl rfl)
theorem dX0_rowIn_10 : decode cX0_rowIn 10 = .ok (.goto 12, 3) := dk_167 0 12 (dk_at dksX0_rowIn_0 10 rfl rfl)
theorem dX0_rowIn_13 : decode cX0_rowIn 13 = .ok (.aload_n 0, 1) := dk_42 (dk_at dksX0_rowIn_0 13 rfl rfl)
theorem dX0_rowIn_14 : decode cX0_rowIn 14 = .ok (.getfield 74, 3) := dk_180 0 74 (dk_at dksX0_rowIn_0 14 rfl rfl)
theorem dX0_rowIn_17 : decode cX0_rowIn 17 = .ok (.iload_n 1, 1) := dk_27 (dk_at dksX0_rowIn_0 17 rfl rfl)
theorem dX0_rowIn_18 : decode cX0_rowIn 18 = .ok (.aaload, 1) := dk_50 (dk_at dksX0_rowIn_0 18 rfl rfl)
theorem dX0_rowIn_19 : decode cX0_rowIn 19 = .ok (.getfield 311, 3) := dk_180 1 55 (dk_at dksX0_rowIn_0 19 rfl rfl)
theorem dX0_rowIn_22 : decode cX0_rowIn 22 = .ok (.areturn, 1) := dk_176 (dk_at dksX0_rowIn_0 22 rfl rfl)
abbrev cX0_cellOf : ByteArray := prog_1_method_55_code
def yX0_cellOf : MethodName := ⟨RX0, "cellOf", "(Ljava/lang/Object;II)I"⟩
def dkwX0_cellOf_1 : List UInt8 := [167, 0, 9, 42, 192, 1, 54, 28, 46, 172]
abbrev dktX0_cellOf_1 : List UInt8 := dkwX0_cellOf_1 ++ []
def dkwX0_cellOf_0 : List UInt8 := [27, 154, 0, 12, 42, 192, 1, 50, 28, 51, 167, 0, 23, 27, 4, 160, 0, 12, 42, 192, 1, 52, 28, 53]
abbrev dktX0_cellOf_0 : List UInt8 := dkwX0_cellOf_0 ++ dktX0_cellOf_1
theorem dksX0_cellOf_0 : cX0_cellOf.data.toList.drop 0 = dktX0_cellOf_0 := by decide +kernel
theorem dksX0_cellOf_1 : cX0_cellOf.data.toList.drop 24 = dktX0_cellOf_1 := dk_seg dksX0_cellOf_0 24 rfl rfl
theorem dX0_cellOf_0 : decode cX0_cellOf 0 = .ok (.iload_n 1, 1) := dk_27 (dk_at dksX0_cellOf_0 0 rfl rfl)
theorem dX0_cellOf_1 : decode cX0_cellOf 1 = .ok (.ifCond .ne 12, 3) := dk_154 0 12 (dk_at dksX0_cellOf_0 1 rfl rfl)
theorem dX0_cellOf_4 : decode cX0_cellOf 4 = .ok (.aload_n 0, 1) := dk_42 (dk_at dksX0_cellOf_0 4 rfl rfl)
theorem dX0_cellOf_5 : decode cX0_cellOf 5 = .ok (.checkcast 306, 3) := dk_192 1 50 (dk_at dksX0_cellOf_0 5 rfl rfl)
theorem dX0_cellOf_8 : decode cX0_cellOf 8 = .ok (.iload_n 2, 1) := dk_28 (dk_at dksX0_cellOf_0 8 rfl rfl)
theorem dX0_cellOf_9 : decode cX0_cellOf 9 = .ok (.baload, 1) := dk_51 (dk_at dksX0_cellOf_0 9 rfl rfl)
theorem dX0_cellOf_10 : decode cX0_cellOf 10 = .ok (.goto 23, 3) := dk_167 0 23 (dk_at dksX0_cellOf_0 10 rfl rfl)
theorem dX0_cellOf_13 : decode cX0_cellOf 13 = .ok (.iload_n 1, 1) := dk_27 (dk_at dksX0_cellOf_0 13 rfl rfl)
theorem dX0_cellOf_14 : decode cX0_cellOf 14 = .ok (.iconst 1, 1) := dk_4 (dk_at dksX0_cellOf_0 14 rfl rfl)
theorem dX0_cellOf_15 : decode cX0_cellOf 15 = .ok (.if_icmp .ne 12, 3) := dk_160 0 12 (dk_at dksX0_cellOf_0 15 rfl rfl)
theorem dX0_cellOf_18 : decode cX0_cellOf 18 = .ok (.aload_n 0, 1) := dk_42 (dk_at dksX0_cellOf_0 18 rfl rfl)
theorem dX0_cellOf_19 : decode cX0_cellOf 19 = .ok (.checkcast 308, 3) := dk_192 1 52 (dk_at dksX0_cellOf_0 19 rfl rfl)
theorem dX0_cellOf_22 : decode cX0_cellOf 22 = .ok (.iload_n 2, 1) := dk_28 (dk_at dksX0_cellOf_0 22 rfl rfl)
theorem dX0_cellOf_23 : decode cX0_cellOf 23 = .ok (.saload, 1) := dk_53 (dk_at dksX0_cellOf_0 23 rfl rfl)
theorem dX0_cellOf_24 : decode cX0_cellOf 24 = .ok (.goto 9, 3) := dk_167 0 9 (dk_at dksX0_cellOf_1 0 rfl rfl)
theorem dX0_cellOf_27 : decode cX0_cellOf 27 = .ok (.aload_n 0, 1) := dk_42 (dk_at dksX0_cellOf_1 3 rfl rfl)
theorem dX0_cellOf_28 : decode cX0_cellOf 28 = .ok (.checkcast 310, 3) := dk_192 1 54 (dk_at dksX0_cellOf_1 4 rfl rfl)
theorem dX0_cellOf_31 : decode cX0_cellOf 31 = .ok (.iload_n 2, 1) := dk_28 (dk_at dksX0_cellOf_1 7 rfl rfl)
theorem dX0_cellOf_32 : decode cX0_cellOf 32 = .ok (.iaload, 1) := dk_46 (dk_at dksX0_cellOf_1 8 rfl rfl)
theorem dX0_cellOf_33 : decode cX0_cellOf 33 = .ok (.ireturn, 1) := dk_172 (dk_at dksX0_cellOf_1 9 rfl rfl)
abbrev cX0_failsLong : ByteArray := prog_1_method_53_code
def yX0_failsLong : MethodName := ⟨RX0, "failsLong", "(I)J"⟩
def dkwX0_failsLong_0 : List UInt8 := [42, 27, 181, 1, 47, 20, 0, 243, 173]
abbrev dktX0_failsLong_0 : List UInt8 := dkwX0_failsLong_0 ++ []
theorem dksX0_failsLong_0 : cX0_failsLong.data.toList.drop 0 = dktX0_failsLong_0 := by decide +kernel
theorem dX0_failsLong_0 : decode cX0_failsLong 0 = .ok (.aload_n 0, 1) := dk_42 (dk_at dksX0_failsLong_0 0 rfl rfl)
theorem dX0_failsLong_1 : decode cX0_failsLong 1 = .ok (.iload_n 1, 1) := dk_27 (dk_at dksX0_failsLong_0 1 rfl rfl)
theorem dX0_failsLong_2 : decode cX0_failsLong 2 = .ok (.putfield 303, 3) := dk_181 1 47 (dk_at dksX0_failsLong_0 2 rfl rfl)
theorem dX0_failsLong_5 : decode cX0_failsLong 5 = .ok (.ldc2_w 243, 3) := dk_20 0 243 (dk_at dksX0_failsLong_0 5 rfl rfl)
theorem dX0_failsLong_8 : decode cX0_failsLong 8 = .ok (.lreturn, 1) := dk_173 (dk_at dksX0_failsLong_0 8 rfl rfl)
abbrev cX0_cafe : ByteArray := prog_1_method_66_code
def yX0_cafe : MethodName := ⟨RX0, "cafe", "(IIII)I"⟩
def dkwX0_cafe_2 : List UInt8 := [16, 254, 182, 1, 62, 172]
abbrev dktX0_cafe_2 : List UInt8 := dkwX0_cafe_2 ++ []
def dkwX0_cafe_1 : List UInt8 := [153, 0, 22, 187, 1, 110, 89, 42, 27, 28, 29, 21, 4, 183, 1, 112, 182, 1, 115, 167, 0, 9, 42]
abbrev dktX0_cafe_1 : List UInt8 := dkwX0_cafe_1 ++ dktX0_cafe_2
def dkwX0_cafe_0 : List UInt8 := [27, 184, 1, 59, 153, 0, 9, 42, 2, 182, 1, 62, 172, 28, 133, 9, 20, 0, 112, 184, 0, 81]
abbrev dktX0_cafe_0 : List UInt8 := dkwX0_cafe_0 ++ dktX0_cafe_1
theorem dksX0_cafe_0 : cX0_cafe.data.toList.drop 0 = dktX0_cafe_0 := by decide +kernel
theorem dksX0_cafe_1 : cX0_cafe.data.toList.drop 22 = dktX0_cafe_1 := dk_seg dksX0_cafe_0 22 rfl rfl
theorem dksX0_cafe_2 : cX0_cafe.data.toList.drop 45 = dktX0_cafe_2 := dk_seg dksX0_cafe_1 23 rfl rfl
theorem dX0_cafe_0 : decode cX0_cafe 0 = .ok (.iload_n 1, 1) := dk_27 (dk_at dksX0_cafe_0 0 rfl rfl)
theorem dX0_cafe_1 : decode cX0_cafe 1 = .ok (.invokestatic 315, 3) := dk_184 1 59 (dk_at dksX0_cafe_0 1 rfl rfl)
theorem dX0_cafe_4 : decode cX0_cafe 4 = .ok (.ifCond .eq 9, 3) := dk_153 0 9 (dk_at dksX0_cafe_0 4 rfl rfl)
theorem dX0_cafe_7 : decode cX0_cafe 7 = .ok (.aload_n 0, 1) := dk_42 (dk_at dksX0_cafe_0 7 rfl rfl)
theorem dX0_cafe_8 : decode cX0_cafe 8 = .ok (.iconst (-1), 1) := dk_2 (dk_at dksX0_cafe_0 8 rfl rfl)
theorem dX0_cafe_9 : decode cX0_cafe 9 = .ok (.invokevirtual 318, 3) := dk_182 1 62 (dk_at dksX0_cafe_0 9 rfl rfl)
theorem dX0_cafe_12 : decode cX0_cafe 12 = .ok (.ireturn, 1) := dk_172 (dk_at dksX0_cafe_0 12 rfl rfl)
theorem dX0_cafe_13 : decode cX0_cafe 13 = .ok (.iload_n 2, 1) := dk_28 (dk_at dksX0_cafe_0 13 rfl rfl)
theorem dX0_cafe_14 : decode cX0_cafe 14 = .ok (.i2l, 1) := dk_133 (dk_at dksX0_cafe_0 14 rfl rfl)
theorem dX0_cafe_15 : decode cX0_cafe 15 = .ok (.lconst 0, 1) := dk_9 (dk_at dksX0_cafe_0 15 rfl rfl)
theorem dX0_cafe_16 : decode cX0_cafe 16 = .ok (.ldc2_w 112, 3) := dk_20 0 112 (dk_at dksX0_cafe_0 16 rfl rfl)
theorem dX0_cafe_19 : decode cX0_cafe 19 = .ok (.invokestatic 81, 3) := dk_184 0 81 (dk_at dksX0_cafe_0 19 rfl rfl)
theorem dX0_cafe_22 : decode cX0_cafe 22 = .ok (.ifCond .eq 22, 3) := dk_153 0 22 (dk_at dksX0_cafe_1 0 rfl rfl)
theorem dX0_cafe_25 : decode cX0_cafe 25 = .ok (.new 366, 3) := dk_187 1 110 (dk_at dksX0_cafe_1 3 rfl rfl)
theorem dX0_cafe_28 : decode cX0_cafe 28 = .ok (.dup, 1) := dk_89 (dk_at dksX0_cafe_1 6 rfl rfl)
theorem dX0_cafe_29 : decode cX0_cafe 29 = .ok (.aload_n 0, 1) := dk_42 (dk_at dksX0_cafe_1 7 rfl rfl)
theorem dX0_cafe_30 : decode cX0_cafe 30 = .ok (.iload_n 1, 1) := dk_27 (dk_at dksX0_cafe_1 8 rfl rfl)
theorem dX0_cafe_31 : decode cX0_cafe 31 = .ok (.iload_n 2, 1) := dk_28 (dk_at dksX0_cafe_1 9 rfl rfl)
theorem dX0_cafe_32 : decode cX0_cafe 32 = .ok (.iload_n 3, 1) := dk_29 (dk_at dksX0_cafe_1 10 rfl rfl)
theorem dX0_cafe_33 : decode cX0_cafe 33 = .ok (.iload 4, 2) := dk_21 4 (dk_at dksX0_cafe_1 11 rfl rfl)
theorem dX0_cafe_35 : decode cX0_cafe 35 = .ok (.invokespecial 368, 3) := dk_183 1 112 (dk_at dksX0_cafe_1 13 rfl rfl)
theorem dX0_cafe_38 : decode cX0_cafe 38 = .ok (.invokevirtual 371, 3) := dk_182 1 115 (dk_at dksX0_cafe_1 16 rfl rfl)
theorem dX0_cafe_41 : decode cX0_cafe 41 = .ok (.goto 9, 3) := dk_167 0 9 (dk_at dksX0_cafe_1 19 rfl rfl)
theorem dX0_cafe_44 : decode cX0_cafe 44 = .ok (.aload_n 0, 1) := dk_42 (dk_at dksX0_cafe_1 22 rfl rfl)
theorem dX0_cafe_45 : decode cX0_cafe 45 = .ok (.bipush (-2), 2) := dk_16 254 (dk_at dksX0_cafe_2 0 rfl rfl)
theorem dX0_cafe_47 : decode cX0_cafe 47 = .ok (.invokevirtual 318, 3) := dk_182 1 62 (dk_at dksX0_cafe_2 2 rfl rfl)
theorem dX0_cafe_50 : decode cX0_cafe 50 = .ok (.ireturn, 1) := dk_172 (dk_at dksX0_cafe_2 5 rfl rfl)
abbrev cX0_cellsOf : ByteArray := prog_1_method_65_code
def yX0_cellsOf : MethodName := ⟨RX0, "cellsOf", "(Ljava/lang/Object;III)[I"⟩
def dkwX0_cellsOf_3 : List UInt8 := [184, 1, 88, 79, 132, 7, 1, 167, 255, 231, 25, 6, 176]
abbrev dktX0_cellsOf_3 : List UInt8 := dkwX0_cellsOf_3 ++ []
def dkwX0_cellsOf_2 : List UInt8 := [58, 6, 3, 54, 7, 21, 7, 25, 6, 190, 162, 0, 23, 25, 6, 21, 7, 42, 27, 28, 21, 7, 96]
abbrev dktX0_cellsOf_2 : List UInt8 := dkwX0_cellsOf_2 ++ dktX0_cellsOf_3
def dkwX0_cellsOf_1 : List UInt8 := [155, 0, 15, 28, 21, 4, 29, 100, 163, 0, 7, 4, 167, 0, 4, 3, 184, 1, 106, 25, 5, 190, 188, 10]
abbrev dktX0_cellsOf_1 : List UInt8 := dkwX0_cellsOf_1 ++ dktX0_cellsOf_2
def dkwX0_cellsOf_0 : List UInt8 := [42, 27, 184, 1, 102, 54, 4, 29, 16, 41, 184, 0, 245, 188, 8, 58, 5, 29, 16, 41, 162, 0, 19, 28]
abbrev dktX0_cellsOf_0 : List UInt8 := dkwX0_cellsOf_0 ++ dktX0_cellsOf_1
theorem dksX0_cellsOf_0 : cX0_cellsOf.data.toList.drop 0 = dktX0_cellsOf_0 := by decide +kernel
theorem dksX0_cellsOf_1 : cX0_cellsOf.data.toList.drop 24 = dktX0_cellsOf_1 := dk_seg dksX0_cellsOf_0 24 rfl rfl
theorem dksX0_cellsOf_2 : cX0_cellsOf.data.toList.drop 48 = dktX0_cellsOf_2 := dk_seg dksX0_cellsOf_1 24 rfl rfl
theorem dksX0_cellsOf_3 : cX0_cellsOf.data.toList.drop 71 = dktX0_cellsOf_3 := dk_seg dksX0_cellsOf_2 23 rfl rfl
theorem dX0_cellsOf_0 : decode cX0_cellsOf 0 = .ok (.aload_n 0, 1) := dk_42 (dk_at dksX0_cellsOf_0 0 rfl rfl)
theorem dX0_cellsOf_1 : decode cX0_cellsOf 1 = .ok (.iload_n 1, 1) := dk_27 (dk_at dksX0_cellsOf_0 1 rfl rfl)
theorem dX0_cellsOf_2 : decode cX0_cellsOf 2 = .ok (.invokestatic 358, 3) := dk_184 1 102 (dk_at dksX0_cellsOf_0 2 rfl rfl)
theorem dX0_cellsOf_5 : decode cX0_cellsOf 5 = .ok (.istore 4, 2) := dk_54 4 (dk_at dksX0_cellsOf_0 5 rfl rfl)
theorem dX0_cellsOf_7 : decode cX0_cellsOf 7 = .ok (.iload_n 3, 1) := dk_29 (dk_at dksX0_cellsOf_0 7 rfl rfl)
theorem dX0_cellsOf_8 : decode cX0_cellsOf 8 = .ok (.bipush 41, 2) := dk_16 41 (dk_at dksX0_cellsOf_0 8 rfl rfl)
theorem dX0_cellsOf_10 : decode cX0_cellsOf 10 = .ok (.invokestatic 245, 3) := dk_184 0 245 (dk_at dksX0_cellsOf_0 10 rfl rfl)
theorem dX0_cellsOf_13 : decode cX0_cellsOf 13 = .ok (.newarray .byte, 2) := dk_188_8 (dk_at dksX0_cellsOf_0 13 rfl rfl)
theorem dX0_cellsOf_15 : decode cX0_cellsOf 15 = .ok (.astore 5, 2) := dk_58 5 (dk_at dksX0_cellsOf_0 15 rfl rfl)
theorem dX0_cellsOf_17 : decode cX0_cellsOf 17 = .ok (.iload_n 3, 1) := dk_29 (dk_at dksX0_cellsOf_0 17 rfl rfl)
theorem dX0_cellsOf_18 : decode cX0_cellsOf 18 = .ok (.bipush 41, 2) := dk_16 41 (dk_at dksX0_cellsOf_0 18 rfl rfl)
theorem dX0_cellsOf_20 : decode cX0_cellsOf 20 = .ok (.if_icmp .ge 19, 3) := dk_162 0 19 (dk_at dksX0_cellsOf_0 20 rfl rfl)
theorem dX0_cellsOf_23 : decode cX0_cellsOf 23 = .ok (.iload_n 2, 1) := dk_28 (dk_at dksX0_cellsOf_0 23 rfl rfl)
theorem dX0_cellsOf_24 : decode cX0_cellsOf 24 = .ok (.ifCond .lt 15, 3) := dk_155 0 15 (dk_at dksX0_cellsOf_1 0 rfl rfl)
theorem dX0_cellsOf_27 : decode cX0_cellsOf 27 = .ok (.iload_n 2, 1) := dk_28 (dk_at dksX0_cellsOf_1 3 rfl rfl)
theorem dX0_cellsOf_28 : decode cX0_cellsOf 28 = .ok (.iload 4, 2) := dk_21 4 (dk_at dksX0_cellsOf_1 4 rfl rfl)
theorem dX0_cellsOf_30 : decode cX0_cellsOf 30 = .ok (.iload_n 3, 1) := dk_29 (dk_at dksX0_cellsOf_1 6 rfl rfl)
theorem dX0_cellsOf_31 : decode cX0_cellsOf 31 = .ok (.isub, 1) := dk_100 (dk_at dksX0_cellsOf_1 7 rfl rfl)
theorem dX0_cellsOf_32 : decode cX0_cellsOf 32 = .ok (.if_icmp .gt 7, 3) := dk_163 0 7 (dk_at dksX0_cellsOf_1 8 rfl rfl)
theorem dX0_cellsOf_35 : decode cX0_cellsOf 35 = .ok (.iconst 1, 1) := dk_4 (dk_at dksX0_cellsOf_1 11 rfl rfl)
theorem dX0_cellsOf_36 : decode cX0_cellsOf 36 = .ok (.goto 4, 3) := dk_167 0 4 (dk_at dksX0_cellsOf_1 12 rfl rfl)
theorem dX0_cellsOf_39 : decode cX0_cellsOf 39 = .ok (.iconst 0, 1) := dk_3 (dk_at dksX0_cellsOf_1 15 rfl rfl)
theorem dX0_cellsOf_40 : decode cX0_cellsOf 40 = .ok (.invokestatic 362, 3) := dk_184 1 106 (dk_at dksX0_cellsOf_1 16 rfl rfl)
theorem dX0_cellsOf_43 : decode cX0_cellsOf 43 = .ok (.aload 5, 2) := dk_25 5 (dk_at dksX0_cellsOf_1 19 rfl rfl)
theorem dX0_cellsOf_45 : decode cX0_cellsOf 45 = .ok (.arraylength, 1) := dk_190 (dk_at dksX0_cellsOf_1 21 rfl rfl)
theorem dX0_cellsOf_46 : decode cX0_cellsOf 46 = .ok (.newarray .int, 2) := dk_188_10 (dk_at dksX0_cellsOf_1 22 rfl rfl)
theorem dX0_cellsOf_48 : decode cX0_cellsOf 48 = .ok (.astore 6, 2) := dk_58 6 (dk_at dksX0_cellsOf_2 0 rfl rfl)
theorem dX0_cellsOf_50 : decode cX0_cellsOf 50 = .ok (.iconst 0, 1) := dk_3 (dk_at dksX0_cellsOf_2 2 rfl rfl)
theorem dX0_cellsOf_51 : decode cX0_cellsOf 51 = .ok (.istore 7, 2) := dk_54 7 (dk_at dksX0_cellsOf_2 3 rfl rfl)
theorem dX0_cellsOf_53 : decode cX0_cellsOf 53 = .ok (.iload 7, 2) := dk_21 7 (dk_at dksX0_cellsOf_2 5 rfl rfl)
theorem dX0_cellsOf_55 : decode cX0_cellsOf 55 = .ok (.aload 6, 2) := dk_25 6 (dk_at dksX0_cellsOf_2 7 rfl rfl)
theorem dX0_cellsOf_57 : decode cX0_cellsOf 57 = .ok (.arraylength, 1) := dk_190 (dk_at dksX0_cellsOf_2 9 rfl rfl)
theorem dX0_cellsOf_58 : decode cX0_cellsOf 58 = .ok (.if_icmp .ge 23, 3) := dk_162 0 23 (dk_at dksX0_cellsOf_2 10 rfl rfl)
theorem dX0_cellsOf_61 : decode cX0_cellsOf 61 = .ok (.aload 6, 2) := dk_25 6 (dk_at dksX0_cellsOf_2 13 rfl rfl)
theorem dX0_cellsOf_63 : decode cX0_cellsOf 63 = .ok (.iload 7, 2) := dk_21 7 (dk_at dksX0_cellsOf_2 15 rfl rfl)
theorem dX0_cellsOf_65 : decode cX0_cellsOf 65 = .ok (.aload_n 0, 1) := dk_42 (dk_at dksX0_cellsOf_2 17 rfl rfl)
theorem dX0_cellsOf_66 : decode cX0_cellsOf 66 = .ok (.iload_n 1, 1) := dk_27 (dk_at dksX0_cellsOf_2 18 rfl rfl)
theorem dX0_cellsOf_67 : decode cX0_cellsOf 67 = .ok (.iload_n 2, 1) := dk_28 (dk_at dksX0_cellsOf_2 19 rfl rfl)
theorem dX0_cellsOf_68 : decode cX0_cellsOf 68 = .ok (.iload 7, 2) := dk_21 7 (dk_at dksX0_cellsOf_2 20 rfl rfl)
theorem dX0_cellsOf_70 : decode cX0_cellsOf 70 = .ok (.iadd, 1) := dk_96 (dk_at dksX0_cellsOf_2 22 rfl rfl)
theorem dX0_cellsOf_71 : decode cX0_cellsOf 71 = .ok (.invokestatic 344, 3) := dk_184 1 88 (dk_at dksX0_cellsOf_3 0 rfl rfl)
theorem dX0_cellsOf_74 : decode cX0_cellsOf 74 = .ok (.iastore, 1) := dk_79 (dk_at dksX0_cellsOf_3 3 rfl rfl)
theorem dX0_cellsOf_75 : decode cX0_cellsOf 75 = .ok (.iinc 7 1, 3) := dk_132 7 1 (dk_at dksX0_cellsOf_3 4 rfl rfl)
theorem dX0_cellsOf_78 : decode cX0_cellsOf 78 = .ok (.goto (-25), 3) := dk_167 255 231 (dk_at dksX0_cellsOf_3 7 rfl rfl)
theorem dX0_cellsOf_81 : decode cX0_cellsOf 81 = .ok (.aload 6, 2) := dk_25 6 (dk_at dksX0_cellsOf_3 10 rfl rfl)
theorem dX0_cellsOf_83 : decode cX0_cellsOf 83 = .ok (.areturn, 1) := dk_176 (dk_at dksX0_cellsOf_3 12 rfl rfl)
abbrev cX0_sizeOf : ByteArray := prog_1_method_56_code
def yX0_sizeOf : MethodName := ⟨RX0, "sizeOf", "(Ljava/lang/Object;I)I"⟩
def dkwX0_sizeOf_1 : List UInt8 := [167, 0, 8, 42, 192, 1, 54, 190, 172]
abbrev dktX0_sizeOf_1 : List UInt8 := dkwX0_sizeOf_1 ++ []
def dkwX0_sizeOf_0 : List UInt8 := [27, 154, 0, 11, 42, 192, 1, 50, 190, 167, 0, 21, 27, 4, 160, 0, 11, 42, 192, 1, 52, 190]
abbrev dktX0_sizeOf_0 : List UInt8 := dkwX0_sizeOf_0 ++ dktX0_sizeOf_1
theorem dksX0_sizeOf_0 : cX0_sizeOf.data.toList.drop 0 = dktX0_sizeOf_0 := by decide +kernel
theorem dksX0_sizeOf_1 : cX0_sizeOf.data.toList.drop 22 = dktX0_sizeOf_1 := dk_seg dksX0_sizeOf_0 22 rfl rfl
theorem dX0_sizeOf_0 : decode cX0_sizeOf 0 = .ok (.iload_n 1, 1) := dk_27 (dk_at dksX0_sizeOf_0 0 rfl rfl)
theorem dX0_sizeOf_1 : decode cX0_sizeOf 1 = .ok (.ifCond .ne 11, 3) := dk_154 0 11 (dk_at dksX0_sizeOf_0 1 rfl rfl)
theorem dX0_sizeOf_4 : decode cX0_sizeOf 4 = .ok (.aload_n 0, 1) := dk_42 (dk_at dksX0_sizeOf_0 4 rfl rfl)
theorem dX0_sizeOf_5 : decode cX0_sizeOf 5 = .ok (.checkcast 306, 3) := dk_192 1 50 (dk_at dksX0_sizeOf_0 5 rfl rfl)
theorem dX0_sizeOf_8 : decode cX0_sizeOf 8 = .ok (.arraylength, 1) := dk_190 (dk_at dksX0_sizeOf_0 8 rfl rfl)
theorem dX0_sizeOf_9 : decode cX0_sizeOf 9 = .ok (.goto 21, 3) := dk_167 0 21 (dk_at dksX0_sizeOf_0 9 rfl rfl)
theorem dX0_sizeOf_12 : decode cX0_sizeOf 12 = .ok (.iload_n 1, 1) := dk_27 (dk_at dksX0_sizeOf_0 12 rfl rfl)
theorem dX0_sizeOf_13 : decode cX0_sizeOf 13 = .ok (.iconst 1, 1) := dk_4 (dk_at dksX0_sizeOf_0 13 rfl rfl)
theorem dX0_sizeOf_14 : decode cX0_sizeOf 14 = .ok (.if_icmp .ne 11, 3) := dk_160 0 11 (dk_at dksX0_sizeOf_0 14 rfl rfl)
theorem dX0_sizeOf_17 : decode cX0_sizeOf 17 = .ok (.aload_n 0, 1) := dk_42 (dk_at dksX0_sizeOf_0 17 rfl rfl)
theorem dX0_sizeOf_18 : decode cX0_sizeOf 18 = .ok (.checkcast 308, 3) := dk_192 1 52 (dk_at dksX0_sizeOf_0 18 rfl rfl)
theorem dX0_sizeOf_21 : decode cX0_sizeOf 21 = .ok (.arraylength, 1) := dk_190 (dk_at dksX0_sizeOf_0 21 rfl rfl)
theorem dX0_sizeOf_22 : decode cX0_sizeOf 22 = .ok (.goto 8, 3) := dk_167 0 8 (dk_at dksX0_sizeOf_1 0 rfl rfl)
theorem dX0_sizeOf_25 : decode cX0_sizeOf 25 = .ok (.aload_n 0, 1) := dk_42 (dk_at dksX0_sizeOf_1 3 rfl rfl)
theorem dX0_sizeOf_26 : decode cX0_sizeOf 26 = .ok (.checkcast 310, 3) := dk_192 1 54 (dk_at dksX0_sizeOf_1 4 rfl rfl)
theorem dX0_sizeOf_29 : decode cX0_sizeOf 29 = .ok (.arraylength, 1) := dk_190 (dk_at dksX0_sizeOf_1 7 rfl rfl)
theorem dX0_sizeOf_30 : decode cX0_sizeOf 30 = .ok (.ireturn, 1) := dk_172 (dk_at dksX0_sizeOf_1 8 rfl rfl)
abbrev cX0_need : ByteArray := prog_1_method_64_code
def yX0_need : MethodName := ⟨RX0, "need", "(Z)V"⟩
def dkwX0_need_0 : List UInt8 := [26, 154, 0, 14, 187, 1, 83, 89, 19, 1, 97, 183, 1, 99, 191, 177]
abbrev dktX0_need_0 : List UInt8 := dkwX0_need_0 ++ []
theorem dksX0_need_0 : cX0_need.data.toList.drop 0 = dktX0_need_0 := by decide +kernel
theorem dX0_need_0 : decode cX0_need 0 = .ok (.iload_n 0, 1) := dk_26 (dk_at dksX0_need_0 0 rfl rfl)
theorem dX0_need_1 : decode cX0_need 1 = .ok (.ifCond .ne 14, 3) := dk_154 0 14 (dk_at dksX0_need_0 1 rfl rfl)
theorem dX0_need_4 : decode cX0_need 4 = .ok (.new 339, 3) := dk_187 1 83 (dk_at dksX0_need_0 4 rfl rfl)
theorem dX0_need_7 : decode cX0_need 7 = .ok (.dup, 1) := dk_89 (dk_at dksX0_need_0 7 rfl rfl)
theorem dX0_need_8 : decode cX0_need 8 = .ok (.ldc_w 353, 3) := dk_19 1 97 (dk_at dksX0_need_0 8 rfl rfl)
theorem dX0_need_11 : decode cX0_need 11 = .ok (.invokespecial 355, 3) := dk_183 1 99 (dk_at dksX0_need_0 11 rfl rfl)
theorem dX0_need_14 : decode cX0_need 14 = .ok (.athrow, 1) := dk_191 (dk_at dksX0_need_0 14 rfl rfl)
theorem dX0_need_15 : decode cX0_need 15 = .ok (.return_, 1) := dk_177 (dk_at dksX0_need_0 15 rfl rfl)
abbrev cX0_newCafe : ByteArray := prog_1_method_6_code
def yX0_newCafe : MethodName := ⟨RX0, "newCafe", "([I)I"⟩
def dkwX0_newCafe_11 : List UInt8 := [16, 247, 181, 0, 21, 42, 180, 0, 78, 172]
abbrev dktX0_newCafe_11 : List UInt8 := dkwX0_newCafe_11 ++ []
def dkwX0_newCafe_10 : List UInt8 := [180, 0, 35, 185, 0, 93, 1, 0, 42, 3, 181, 0, 98, 42, 3, 181, 0, 101, 42, 3, 181, 0, 104, 42]
abbrev dktX0_newCafe_10 : List UInt8 := dkwX0_newCafe_10 ++ dktX0_newCafe_11
def dkwX0_newCafe_9 : List UInt8 := [180, 0, 25, 3, 16, 6, 184, 0, 87, 45, 3, 42, 180, 0, 29, 3, 16, 6, 184, 0, 87, 42]
abbrev dktX0_newCafe_9 : List UInt8 := dkwX0_newCafe_9 ++ dktX0_newCafe_10
def dkwX0_newCafe_8 : List UInt8 := [45, 21, 5, 21, 7, 79, 132, 5, 1, 132, 4, 2, 167, 255, 74, 42, 21, 5, 181, 0, 78, 44, 3, 42]
abbrev dktX0_newCafe_8 : List UInt8 := dkwX0_newCafe_8 ++ dktX0_newCafe_9
def dkwX0_newCafe_7 : List UInt8 := [21, 6, 16, 115, 160, 0, 7, 3, 167, 0, 15, 21, 6, 16, 119, 160, 0, 7, 4, 167, 0, 4, 5, 79]
abbrev dktX0_newCafe_7 : List UInt8 := dkwX0_newCafe_7 ++ dktX0_newCafe_8
def dkwX0_newCafe_6 : List UInt8 := [54, 7, 21, 7, 133, 10, 20, 0, 85, 184, 0, 81, 154, 0, 9, 16, 155, 21, 4, 100, 172, 44, 21, 5]
abbrev dktX0_newCafe_6 : List UInt8 := dkwX0_newCafe_6 ++ dktX0_newCafe_7
def dkwX0_newCafe_5 : List UInt8 := [21, 4, 4, 96, 43, 190, 162, 0, 15, 43, 21, 4, 4, 96, 46, 16, 48, 100, 167, 0, 5, 16, 247]
abbrev dktX0_newCafe_5 : List UInt8 := dkwX0_newCafe_5 ++ dktX0_newCafe_6
def dkwX0_newCafe_4 : List UInt8 := [159, 0, 23, 21, 6, 16, 119, 159, 0, 16, 21, 6, 16, 105, 159, 0, 9, 16, 156, 21, 4, 100, 172]
abbrev dktX0_newCafe_4 : List UInt8 := dkwX0_newCafe_4 ++ dktX0_newCafe_5
def dkwX0_newCafe_3 : List UInt8 := [21, 4, 43, 190, 162, 0, 10, 43, 21, 4, 46, 167, 0, 5, 16, 247, 54, 6, 21, 6, 16, 115]
abbrev dktX0_newCafe_3 : List UInt8 := dkwX0_newCafe_3 ++ dktX0_newCafe_4
def dkwX0_newCafe_2 : List UInt8 := [159, 0, 9, 16, 156, 21, 4, 100, 172, 21, 4, 21, 5, 158, 0, 7, 4, 167, 0, 4, 3, 96, 54, 4]
abbrev dktX0_newCafe_2 : List UInt8 := dkwX0_newCafe_2 ++ dktX0_newCafe_3
def dkwX0_newCafe_1 : List UInt8 := [190, 162, 0, 176, 21, 5, 158, 0, 25, 21, 5, 16, 6, 159, 0, 12, 43, 21, 4, 46, 16, 59]
abbrev dktX0_newCafe_1 : List UInt8 := dkwX0_newCafe_1 ++ dktX0_newCafe_2
def dkwX0_newCafe_0 : List UInt8 := [16, 6, 188, 10, 77, 16, 6, 188, 10, 78, 3, 54, 4, 3, 54, 5, 21, 5, 153, 0, 10, 21, 4, 43]
abbrev dktX0_newCafe_0 : List UInt8 := dkwX0_newCafe_0 ++ dktX0_newCafe_1
theorem dksX0_newCafe_0 : cX0_newCafe.data.toList.drop 0 = dktX0_newCafe_0 := by decide +kernel
theorem dksX0_newCafe_1 : cX0_newCafe.data.toList.drop 24 = dktX0_newCafe_1 := dk_seg dksX0_newCafe_0 24 rfl rfl
theorem dksX0_newCafe_2 : cX0_newCafe.data.toList.drop 46 = dktX0_newCafe_2 := dk_seg dksX0_newCafe_1 22 rfl rfl
theorem dksX0_newCafe_3 : cX0_newCafe.data.toList.drop 70 = dktX0_newCafe_3 := dk_seg dksX0_newCafe_2 24 rfl rfl
theorem dksX0_newCafe_4 : cX0_newCafe.data.toList.drop 92 = dktX0_newCafe_4 := dk_seg dksX0_newCafe_3 22 rfl rfl
theorem dksX0_newCafe_5 : cX0_newCafe.data.toList.drop 115 = dktX0_newCafe_5 := dk_seg dksX0_newCafe_4 23 rfl rfl
theorem dksX0_newCafe_6 : cX0_newCafe.data.toList.drop 138 = dktX0_newCafe_6 := dk_seg dksX0_newCafe_5 23 rfl rfl
theorem dksX0_newCafe_7 : cX0_newCafe.data.toList.drop 162 = dktX0_newCafe_7 := dk_seg dksX0_newCafe_6 24 rfl rfl
theorem dksX0_newCafe_8 : cX0_newCafe.data.toList.drop 186 = dktX0_newCafe_8 := dk_seg dksX0_newCafe_7 24 rfl rfl
theorem dksX0_newCafe_9 : cX0_newCafe.data.toList.drop 210 = dktX0_newCafe_9 := dk_seg dksX0_newCafe_8 24 rfl rfl
theorem dksX0_newCafe_10 : cX0_newCafe.data.toList.drop 232 = dktX0_newCafe_10 := dk_seg dksX0_newCafe_9 22 rfl rfl
theorem dksX0_newCafe_11 : cX0_newCafe.data.toList.drop 256 = dktX0_newCafe_11 := dk_seg dksX0_newCafe_10 24 rfl rfl
theorem dX0_newCafe_0 : decode cX0_newCafe 0 = .ok (.bipush 6, 2) := dk_16 6 (dk_at dksX0_newCafe_0 0 rfl rfl)
theorem dX0_newCafe_2 : decode cX0_newCafe 2 = .ok (.newarray .int, 2) := dk_188_10 (dk_at dksX0_newCafe_0 2 rfl rfl)
theorem dX0_newCafe_4 : decode cX0_newCafe 4 = .ok (.astore_n 2, 1) := dk_77 (dk_at dksX0_newCafe_0 4 rfl rfl)
theorem dX0_newCafe_5 : decode cX0_newCafe 5 = .ok (.bipush 6, 2) := dk_16 6 (dk_at dksX0_newCafe_0 5 rfl rfl)
theorem dX0_newCafe_7 : decode cX0_newCafe 7 = .ok (.newarray .int, 2) := dk_188_10 (dk_at dksX0_newCafe_0 7 rfl rfl)
theorem dX0_newCafe_9 : decode cX0_newCafe 9 = .ok (.astore_n 3, 1) := dk_78 (dk_at dksX0_newCafe_0 9 rfl rfl)
theorem dX0_newCafe_10 : decode cX0_newCafe 10 = .ok (.iconst 0, 1) := dk_3 (dk_at dksX0_newCafe_0 10 rfl rfl)
theorem dX0_newCafe_11 : decode cX0_newCafe 11 = .ok (.istore 4, 2) := dk_54 4 (dk_at dksX0_newCafe_0 11 rfl rfl)
theorem dX0_newCafe_13 : decode cX0_newCafe 13 = .ok (.iconst 0, 1) := dk_3 (dk_at dksX0_newCafe_0 13 rfl rfl)
theorem dX0_newCafe_14 : decode cX0_newCafe 14 = .ok (.istore 5, 2) := dk_54 5 (dk_at dksX0_newCafe_0 14 rfl rfl)
theorem dX0_newCafe_16 : decode cX0_newCafe 16 = .ok (.iload 5, 2) := dk_21 5 (dk_at dksX0_newCafe_0 16 rfl rfl)
theorem dX0_newCafe_18 : decode cX0_newCafe 18 = .ok (.ifCond .eq 10, 3) := dk_153 0 10 (dk_at dksX0_newCafe_0 18 rfl rfl)
theorem dX0_newCafe_21 : decode cX0_newCafe 21 = .ok (.iload 4, 2) := dk_21 4 (dk_at dksX0_newCafe_0 21 rfl rfl)
theorem dX0_newCafe_23 : decode cX0_newCafe 23 = .ok (.aload_n 1, 1) := dk_43 (dk_at dksX0_newCafe_0 23 rfl rfl)
theorem dX0_newCafe_24 : decode cX0_newCafe 24 = .ok (.arraylength, 1) := dk_190 (dk_at dksX0_newCafe_1 0 rfl rfl)
theorem dX0_newCafe_25 : decode cX0_newCafe 25 = .ok (.if_icmp .ge 176, 3) := dk_162 0 176 (dk_at dksX0_newCafe_1 1 rfl rfl)
theorem dX0_newCafe_28 : decode cX0_newCafe 28 = .ok (.iload 5, 2) := dk_21 5 (dk_at dksX0_newCafe_1 4 rfl rfl)
theorem dX0_newCafe_30 : decode cX0_newCafe 30 = .ok (.ifCond .le 25, 3) := dk_158 0 25 (dk_at dksX0_newCafe_1 6 rfl rfl)
theorem dX0_newCafe_33 : decode cX0_newCafe 33 = .ok (.iload 5, 2) := dk_21 5 (dk_at dksX0_newCafe_1 9 rfl rfl)
theorem dX0_newCafe_35 : decode cX0_newCafe 35 = .ok (.bipush 6, 2) := dk_16 6 (dk_at dksX0_newCafe_1 11 rfl rfl)
theorem dX0_newCafe_37 : decode cX0_newCafe 37 = .ok (.if_icmp .eq 12, 3) := dk_159 0 12 (dk_at dksX0_newCafe_1 13 rfl rfl)
theorem dX0_newCafe_40 : decode cX0_newCafe 40 = .ok (.aload_n 1, 1) := dk_43 (dk_at dksX0_newCafe_1 16 rfl rfl)
theorem dX0_newCafe_41 : decode cX0_newCafe 41 = .ok (.iload 4, 2) := dk_21 4 (dk_at dksX0_newCafe_1 17 rfl rfl)
theorem dX0_newCafe_43 : decode cX0_newCafe 43 = .ok (.iaload, 1) := dk_46 (dk_at dksX0_newCafe_1 19 rfl rfl)
theorem dX0_newCafe_44 : decode cX0_newCafe 44 = .ok (.bipush 59, 2) := dk_16 59 (dk_at dksX0_newCafe_1 20 rfl rfl)
theorem dX0_newCafe_46 : decode cX0_newCafe 46 = .ok (.if_icmp .eq 9, 3) := dk_159 0 9 (dk_at dksX0_newCafe_2 0 rfl rfl)
theorem dX0_newCafe_49 : decode cX0_newCafe 49 = .ok (.bipush (-100), 2) := dk_16 156 (dk_at dksX0_newCafe_2 3 rfl rfl)
theorem dX0_newCafe_51 : decode cX0_newCafe 51 = .ok (.iload 4, 2) := dk_21 4 (dk_at dksX0_newCafe_2 5 rfl rfl)
theorem dX0_newCafe_53 : decode cX0_newCafe 53 = .ok (.isub, 1) := dk_100 (dk_at dksX0_newCafe_2 7 rfl rfl)
theorem dX0_newCafe_54 : decode cX0_newCafe 54 = .ok (.ireturn, 1) := dk_172 (dk_at dksX0_newCafe_2 8 rfl rfl)
theorem dX0_newCafe_55 : decode cX0_newCafe 55 = .ok (.iload 4, 2) := dk_21 4 (dk_at dksX0_newCafe_2 9 rfl rfl)
theorem dX0_newCafe_57 : decode cX0_newCafe 57 = .ok (.iload 5, 2) := dk_21 5 (dk_at dksX0_newCafe_2 11 rfl rfl)
theorem dX0_newCafe_59 : decode cX0_newCafe 59 = .ok (.ifCond .le 7, 3) := dk_158 0 7 (dk_at dksX0_newCafe_2 13 rfl rfl)
theorem dX0_newCafe_62 : decode cX0_newCafe 62 = .ok (.iconst 1, 1) := dk_4 (dk_at dksX0_newCafe_2 16 rfl rfl)
theorem dX0_newCafe_63 : decode cX0_newCafe 63 = .ok (.goto 4, 3) := dk_167 0 4 (dk_at dksX0_newCafe_2 17 rfl rfl)
theorem dX0_newCafe_66 : decode cX0_newCafe 66 = .ok (.iconst 0, 1) := dk_3 (dk_at dksX0_newCafe_2 20 rfl rfl)
theorem dX0_newCafe_67 : decode cX0_newCafe 67 = .ok (.iadd, 1) := dk_96 (dk_at dksX0_newCafe_2 21 rfl rfl)
theorem dX0_newCafe_68 : decode cX0_newCafe 68 = .ok (.istore 4, 2) := dk_54 4 (dk_at dksX0_newCafe_2 22 rfl rfl)
theorem dX0_newCafe_70 : decode cX0_newCafe 70 = .ok (.iload 4, 2) := dk_21 4 (dk_at dksX0_newCafe_3 0 rfl rfl)
theorem dX0_newCafe_72 : decode cX0_newCafe 72 = .ok (.aload_n 1, 1) := dk_43 (dk_at dksX0_newCafe_3 2 rfl rfl)
theorem dX0_newCafe_73 : decode cX0_newCafe 73 = .ok (.arraylength, 1) := dk_190 (dk_at dksX0_newCafe_3 3 rfl rfl)
theorem dX0_newCafe_74 : decode cX0_newCafe 74 = .ok (.if_icmp .ge 10, 3) := dk_162 0 10 (dk_at dksX0_newCafe_3 4 rfl rfl)
theorem dX0_newCafe_77 : decode cX0_newCafe 77 = .ok (.aload_n 1, 1) := dk_43 (dk_at dksX0_newCafe_3 7 rfl rfl)
theorem dX0_newCafe_78 : decode cX0_newCafe 78 = .ok (.iload 4, 2) := dk_21 4 (dk_at dksX0_newCafe_3 8 rfl rfl)
theorem dX0_newCafe_80 : decode cX0_newCafe 80 = .ok (.iaload, 1) := dk_46 (dk_at dksX0_newCafe_3 10 rfl rfl)
theorem dX0_newCafe_81 : decode cX0_newCafe 81 = .ok (.goto 5, 3) := dk_167 0 5 (dk_at dksX0_newCafe_3 11 rfl rfl)
theorem dX0_newCafe_84 : decode cX0_newCafe 84 = .ok (.bipush (-9), 2) := dk_16 247 (dk_at dksX0_newCafe_3 14 rfl rfl)
theorem dX0_newCafe_86 : decode cX0_newCafe 86 = .ok (.istore 6, 2) := dk_54 6 (dk_at dksX0_newCafe_3 16 rfl rfl)
theorem dX0_newCafe_88 : decode cX0_newCafe 88 = .ok (.iload 6, 2) := dk_21 6 (dk_at dksX0_newCafe_3 18 rfl rfl)
theorem dX0_newCafe_90 : decode cX0_newCafe 90 = .ok (.bipush 115, 2) := dk_16 115 (dk_at dksX0_newCafe_3 20 rfl rfl)
theorem dX0_newCafe_92 : decode cX0_newCafe 92 = .ok (.if_icmp .eq 23, 3) := dk_159 0 23 (dk_at dksX0_newCafe_4 0 rfl rfl)
theorem dX0_newCafe_95 : decode cX0_newCafe 95 = .ok (.iload 6, 2) := dk_21 6 (dk_at dksX0_newCafe_4 3 rfl rfl)
theorem dX0_newCafe_97 : decode cX0_newCafe 97 = .ok (.bipush 119, 2) := dk_16 119 (dk_at dksX0_newCafe_4 5 rfl rfl)
theorem dX0_newCafe_99 : decode cX0_newCafe 99 = .ok (.if_icmp .eq 16, 3) := dk_159 0 16 (dk_at dksX0_newCafe_4 7 rfl rfl)
theorem dX0_newCafe_102 : decode cX0_newCafe 102 = .ok (.iload 6, 2) := dk_21 6 (dk_at dksX0_newCafe_4 10 rfl rfl)
theorem dX0_newCafe_104 : decode cX0_newCafe 104 = .ok (.bipush 105, 2) := dk_16 105 (dk_at dksX0_newCafe_4 12 rfl rfl)
theorem dX0_newCafe_106 : decode cX0_newCafe 106 = .ok (.if_icmp .eq 9, 3) := dk_159 0 9 (dk_at dksX0_newCafe_4 14 rfl rfl)
theorem dX0_newCafe_109 : decode cX0_newCafe 109 = .ok (.bipush (-100), 2) := dk_16 156 (dk_at dksX0_newCafe_4 17 rfl rfl)
theorem dX0_newCafe_111 : decode cX0_newCafe 111 = .ok (.iload 4, 2) := dk_21 4 (dk_at dksX0_newCafe_4 19 rfl rfl)
theorem dX0_newCafe_113 : decode cX0_newCafe 113 = .ok (.isub, 1) := dk_100 (dk_at dksX0_newCafe_4 21 rfl rfl)
theorem dX0_newCafe_114 : decode cX0_newCafe 114 = .ok (.ireturn, 1) := dk_172 (dk_at dksX0_newCafe_4 22 rfl rfl)
theorem dX0_newCafe_115 : decode cX0_newCafe 115 = .ok (.iload 4, 2) := dk_21 4 (dk_at dksX0_newCafe_5 0 rfl rfl)
theorem dX0_newCafe_117 : decode cX0_newCafe 117 = .ok (.iconst 1, 1) := dk_4 (dk_at dksX0_newCafe_5 2 rfl rfl)
theorem dX0_newCafe_118 : decode cX0_newCafe 118 = .ok (.iadd, 1) := dk_96 (dk_at dksX0_newCafe_5 3 rfl rfl)
theorem dX0_newCafe_119 : decode cX0_newCafe 119 = .ok (.aload_n 1, 1) := dk_43 (dk_at dksX0_newCafe_5 4 rfl rfl)
theorem dX0_newCafe_120 : decode cX0_newCafe 120 = .ok (.arraylength, 1) := dk_190 (dk_at dksX0_newCafe_5 5 rfl rfl)
theorem dX0_newCafe_121 : decode cX0_newCafe 121 = .ok (.if_icmp .ge 15, 3) := dk_162 0 15 (dk_at dksX0_newCafe_5 6 rfl rfl)
theorem dX0_newCafe_124 : decode cX0_newCafe 124 = .ok (.aload_n 1, 1) := dk_43 (dk_at dksX0_newCafe_5 9 rfl rfl)
theorem dX0_newCafe_125 : decode cX0_newCafe 125 = .ok (.iload 4, 2) := dk_21 4 (dk_at dksX0_newCafe_5 10 rfl rfl)
theorem dX0_newCafe_127 : decode cX0_newCafe 127 = .ok (.iconst 1, 1) := dk_4 (dk_at dksX0_newCafe_5 12 rfl rfl)
theorem dX0_newCafe_128 : decode cX0_newCafe 128 = .ok (.iadd, 1) := dk_96 (dk_at dksX0_newCafe_5 13 rfl rfl)
theorem dX0_newCafe_129 : decode cX0_newCafe 129 = .ok (.iaload, 1) := dk_46 (dk_at dksX0_newCafe_5 14 rfl rfl)
theorem dX0_newCafe_130 : decode cX0_newCafe 130 = .ok (.bipush 48, 2) := dk_16 48 (dk_at dksX0_newCafe_5 15 rfl rfl)
theorem dX0_newCafe_132 : decode cX0_newCafe 132 = .ok (.isub, 1) := dk_100 (dk_at dksX0_newCafe_5 17 rfl rfl)
theorem dX0_newCafe_133 : decode cX0_newCafe 133 = .ok (.goto 5, 3) := dk_167 0 5 (dk_at dksX0_newCafe_5 18 rfl rfl)
theorem dX0_newCafe_136 : decode cX0_newCafe 136 = .ok (.bipush (-9), 2) := dk_16 247 (dk_at dksX0_newCafe_5 21 rfl rfl)
theorem dX0_newCafe_138 : decode cX0_newCafe 138 = .ok (.istore 7, 2) := dk_54 7 (dk_at dksX0_newCafe_6 0 rfl rfl)
theorem dX0_newCafe_140 : decode cX0_newCafe 140 = .ok (.iload 7, 2) := dk_21 7 (dk_at dksX0_newCafe_6 2 rfl rfl)
theorem dX0_newCafe_142 : decode cX0_newCafe 142 = .ok (.i2l, 1) := dk_133 (dk_at dksX0_newCafe_6 4 rfl rfl)
theorem dX0_newCafe_143 : decode cX0_newCafe 143 = .ok (.lconst 1, 1) := dk_10 (dk_at dksX0_newCafe_6 5 rfl rfl)
theorem dX0_newCafe_144 : decode cX0_newCafe 144 = .ok (.ldc2_w 85, 3) := dk_20 0 85 (dk_at dksX0_newCafe_6 6 rfl rfl)
theorem dX0_newCafe_147 : decode cX0_newCafe 147 = .ok (.invokestatic 81, 3) := dk_184 0 81 (dk_at dksX0_newCafe_6 9 rfl rfl)
theorem dX0_newCafe_150 : decode cX0_newCafe 150 = .ok (.ifCond .ne 9, 3) := dk_154 0 9 (dk_at dksX0_newCafe_6 12 rfl rfl)
theorem dX0_newCafe_153 : decode cX0_newCafe 153 = .ok (.bipush (-101), 2) := dk_16 155 (dk_at dksX0_newCafe_6 15 rfl rfl)
theorem dX0_newCafe_155 : decode cX0_newCafe 155 = .ok (.iload 4, 2) := dk_21 4 (dk_at dksX0_newCafe_6 17 rfl rfl)
theorem dX0_newCafe_157 : decode cX0_newCafe 157 = .ok (.isub, 1) := dk_100 (dk_at dksX0_newCafe_6 19 rfl rfl)
theorem dX0_newCafe_158 : decode cX0_newCafe 158 = .ok (.ireturn, 1) := dk_172 (dk_at dksX0_newCafe_6 20 rfl rfl)
theorem dX0_newCafe_159 : decode cX0_newCafe 159 = .ok (.aload_n 2, 1) := dk_44 (dk_at dksX0_newCafe_6 21 rfl rfl)
theorem dX0_newCafe_160 : decode cX0_newCafe 160 = .ok (.iload 5, 2) := dk_21 5 (dk_at dksX0_newCafe_6 22 rfl rfl)
theorem dX0_newCafe_162 : decode cX0_newCafe 162 = .ok (.iload 6, 2) := dk_21 6 (dk_at dksX0_newCafe_7 0 rfl rfl)
theorem dX0_newCafe_164 : decode cX0_newCafe 164 = .ok (.bipush 115, 2) := dk_16 115 (dk_at dksX0_newCafe_7 2 rfl rfl)
theorem dX0_newCafe_166 : decode cX0_newCafe 166 = .ok (.if_icmp .ne 7, 3) := dk_160 0 7 (dk_at dksX0_newCafe_7 4 rfl rfl)
theorem dX0_newCafe_169 : decode cX0_newCafe 169 = .ok (.iconst 0, 1) := dk_3 (dk_at dksX0_newCafe_7 7 rfl rfl)
theorem dX0_newCafe_170 : decode cX0_newCafe 170 = .ok (.goto 15, 3) := dk_167 0 15 (dk_at dksX0_newCafe_7 8 rfl rfl)
theorem dX0_newCafe_173 : decode cX0_newCafe 173 = .ok (.iload 6, 2) := dk_21 6 (dk_at dksX0_newCafe_7 11 rfl rfl)
theorem dX0_newCafe_175 : decode cX0_newCafe 175 = .ok (.bipush 119, 2) := dk_16 119 (dk_at dksX0_newCafe_7 13 rfl rfl)
theorem dX0_newCafe_177 : decode cX0_newCafe 177 = .ok (.if_icmp .ne 7, 3) := dk_160 0 7 (dk_at dksX0_newCafe_7 15 rfl rfl)
theorem dX0_newCafe_180 : decode cX0_newCafe 180 = .ok (.iconst 1, 1) := dk_4 (dk_at dksX0_newCafe_7 18 rfl rfl)
theorem dX0_newCafe_181 : decode cX0_newCafe 181 = .ok (.goto 4, 3) := dk_167 0 4 (dk_at dksX0_newCafe_7 19 rfl rfl)
theorem dX0_newCafe_184 : decode cX0_newCafe 184 = .ok (.iconst 2, 1) := dk_5 (dk_at dksX0_newCafe_7 22 rfl rfl)
theorem dX0_newCafe_185 : decode cX0_newCafe 185 = .ok (.iastore, 1) := dk_79 (dk_at dksX0_newCafe_7 23 rfl rfl)
theorem dX0_newCafe_186 : decode cX0_newCafe 186 = .ok (.aload_n 3, 1) := dk_45 (dk_at dksX0_newCafe_8 0 rfl rfl)
theorem dX0_newCafe_187 : decode cX0_newCafe 187 = .ok (.iload 5, 2) := dk_21 5 (dk_at dksX0_newCafe_8 1 rfl rfl)
theorem dX0_newCafe_189 : decode cX0_newCafe 189 = .ok (.iload 7, 2) := dk_21 7 (dk_at dksX0_newCafe_8 3 rfl rfl)
theorem dX0_newCafe_191 : decode cX0_newCafe 191 = .ok (.iastore, 1) := dk_79 (dk_at dksX0_newCafe_8 5 rfl rfl)
theorem dX0_newCafe_192 : decode cX0_newCafe 192 = .ok (.iinc 5 1, 3) := dk_132 5 1 (dk_at dksX0_newCafe_8 6 rfl rfl)
theorem dX0_newCafe_195 : decode cX0_newCafe 195 = .ok (.iinc 4 2, 3) := dk_132 4 2 (dk_at dksX0_newCafe_8 9 rfl rfl)
theorem dX0_newCafe_198 : decode cX0_newCafe 198 = .ok (.goto (-182), 3) := dk_167 255 74 (dk_at dksX0_newCafe_8 12 rfl rfl)
theorem dX0_newCafe_201 : decode cX0_newCafe 201 = .ok (.aload_n 0, 1) := dk_42 (dk_at dksX0_newCafe_8 15 rfl rfl)
theorem dX0_newCafe_202 : decode cX0_newCafe 202 = .ok (.iload 5, 2) := dk_21 5 (dk_at dksX0_newCafe_8 16 rfl rfl)
theorem dX0_newCafe_204 : decode cX0_newCafe 204 = .ok (.putfield 78, 3) := dk_181 0 78 (dk_at dksX0_newCafe_8 18 rfl rfl)
theorem dX0_newCafe_207 : decode cX0_newCafe 207 = .ok (.aload_n 2, 1) := dk_44 (dk_at dksX0_newCafe_8 21 rfl rfl)
theorem dX0_newCafe_208 : decode cX0_newCafe 208 = .ok (.iconst 0, 1) := dk_3 (dk_at dksX0_newCafe_8 22 rfl rfl)
theorem dX0_newCafe_209 : decode cX0_newCafe 209 = .ok (.aload_n 0, 1) := dk_42 (dk_at dksX0_newCafe_8 23 rfl rfl)
theorem dX0_newCafe_210 : decode cX0_newCafe 210 = .ok (.getfield 25, 3) := dk_180 0 25 (dk_at dksX0_newCafe_9 0 rfl rfl)
theorem dX0_newCafe_213 : decode cX0_newCafe 213 = .ok (.iconst 0, 1) := dk_3 (dk_at dksX0_newCafe_9 3 rfl rfl)
theorem dX0_newCafe_214 : decode cX0_newCafe 214 = .ok (.bipush 6, 2) := dk_16 6 (dk_at dksX0_newCafe_9 4 rfl rfl)
theorem dX0_newCafe_216 : decode cX0_newCafe 216 = .ok (.invokestatic 87, 3) := dk_184 0 87 (dk_at dksX0_newCafe_9 6 rfl rfl)
theorem dX0_newCafe_219 : decode cX0_newCafe 219 = .ok (.aload_n 3, 1) := dk_45 (dk_at dksX0_newCafe_9 9 rfl rfl)
theorem dX0_newCafe_220 : decode cX0_newCafe 220 = .ok (.iconst 0, 1) := dk_3 (dk_at dksX0_newCafe_9 10 rfl rfl)
theorem dX0_newCafe_221 : decode cX0_newCafe 221 = .ok (.aload_n 0, 1) := dk_42 (dk_at dksX0_newCafe_9 11 rfl rfl)
theorem dX0_newCafe_222 : decode cX0_newCafe 222 = .ok (.getfield 29, 3) := dk_180 0 29 (dk_at dksX0_newCafe_9 12 rfl rfl)
theorem dX0_newCafe_225 : decode cX0_newCafe 225 = .ok (.iconst 0, 1) := dk_3 (dk_at dksX0_newCafe_9 15 rfl rfl)
theorem dX0_newCafe_226 : decode cX0_newCafe 226 = .ok (.bipush 6, 2) := dk_16 6 (dk_at dksX0_newCafe_9 16 rfl rfl)
theorem dX0_newCafe_228 : decode cX0_newCafe 228 = .ok (.invokestatic 87, 3) := dk_184 0 87 (dk_at dksX0_newCafe_9 18 rfl rfl)
theorem dX0_newCafe_231 : decode cX0_newCafe 231 = .ok (.aload_n 0, 1) := dk_42 (dk_at dksX0_newCafe_9 21 rfl rfl)
theorem dX0_newCafe_232 : decode cX0_newCafe 232 = .ok (.getfield 35, 3) := dk_180 0 35 (dk_at dksX0_newCafe_10 0 rfl rfl)
theorem dX0_newCafe_235 : decode cX0_newCafe 235 = .ok (.invokeinterface 93 1, 5) := by decide +kernel
theorem dX0_newCafe_240 : decode cX0_newCafe 240 = .ok (.aload_n 0, 1) := dk_42 (dk_at dksX0_newCafe_10 8 rfl rfl)
theorem dX0_newCafe_241 : decode cX0_newCafe 241 = .ok (.iconst 0, 1) := dk_3 (dk_at dksX0_newCafe_10 9 rfl rfl)
theorem dX0_newCafe_242 : decode cX0_newCafe 242 = .ok (.putfield 98, 3) := dk_181 0 98 (dk_at dksX0_newCafe_10 10 rfl rfl)
theorem dX0_newCafe_245 : decode cX0_newCafe 245 = .ok (.aload_n 0, 1) := dk_42 (dk_at dksX0_newCafe_10 13 rfl rfl)
theorem dX0_newCafe_246 : decode cX0_newCafe 246 = .ok (.iconst 0, 1) := dk_3 (dk_at dksX0_newCafe_10 14 rfl rfl)
theorem dX0_newCafe_247 : decode cX0_newCafe 247 = .ok (.putfield 101, 3) := dk_181 0 101 (dk_at dksX0_newCafe_10 15 rfl rfl)
theorem dX0_newCafe_250 : decode cX0_newCafe 250 = .ok (.aload_n 0, 1) := dk_42 (dk_at dksX0_newCafe_10 18 rfl rfl)
theorem dX0_newCafe_251 : decode cX0_newCafe 251 = .ok (.iconst 0, 1) := dk_3 (dk_at dksX0_newCafe_10 19 rfl rfl)
theorem dX0_newCafe_252 : decode cX0_newCafe 252 = .ok (.putfield 104, 3) := dk_181 0 104 (dk_at dksX0_newCafe_10 20 rfl rfl)
theorem dX0_newCafe_255 : decode cX0_newCafe 255 = .ok (.aload_n 0, 1) := dk_42 (dk_at dksX0_newCafe_10 23 rfl rfl)
theorem dX0_newCafe_256 : decode cX0_newCafe 256 = .ok (.bipush (-9), 2) := dk_16 247 (dk_at dksX0_newCafe_11 0 rfl rfl)
theorem dX0_newCafe_258 : decode cX0_newCafe 258 = .ok (.putfield 21, 3) := dk_181 0 21 (dk_at dksX0_newCafe_11 2 rfl rfl)
theorem dX0_newCafe_261 : decode cX0_newCafe 261 = .ok (.aload_n 0, 1) := dk_42 (dk_at dksX0_newCafe_11 5 rfl rfl)
theorem dX0_newCafe_262 : decode cX0_newCafe 262 = .ok (.getfield 78, 3) := dk_180 0 78 (dk_at dksX0_newCafe_11 6 rfl rfl)
theorem dX0_newCafe_265 : decode cX0_newCafe 265 = .ok (.ireturn, 1) := dk_172 (dk_at dksX0_newCafe_11 9 rfl rfl)
abbrev cX0_copy : ByteArray := prog_1_method_67_code
def yX0_copy : MethodName := ⟨RX0, "copy", "(IIIII)I"⟩
def dkwX0_copy_1 : List UInt8 := [187, 1, 118, 89, 42, 27, 28, 29, 21, 4, 21, 5, 183, 1, 120, 182, 1, 123, 172]
abbrev dktX0_copy_1 : List UInt8 := dkwX0_copy_1 ++ []
def dkwX0_copy_0 : List UInt8 := [27, 184, 1, 59, 154, 0, 10, 29, 184, 1, 59, 153, 0, 11, 42, 2, 182, 1, 62, 167, 0, 21]
abbrev dktX0_copy_0 : List UInt8 := dkwX0_copy_0 ++ dktX0_copy_1
theorem dksX0_copy_0 : cX0_copy.data.toList.drop 0 = dktX0_copy_0 := by decide +kernel
theorem dksX0_copy_1 : cX0_copy.data.toList.drop 22 = dktX0_copy_1 := dk_seg dksX0_copy_0 22 rfl rfl
theorem dX0_copy_0 : decode cX0_copy 0 = .ok (.iload_n 1, 1) := dk_27 (dk_at dksX0_copy_0 0 rfl rfl)
theorem dX0_copy_1 : decode cX0_copy 1 = .ok (.invokestatic 315, 3) := dk_184 1 59 (dk_at dksX0_copy_0 1 rfl rfl)
theorem dX0_copy_4 : decode cX0_copy 4 = .ok (.ifCond .ne 10, 3) := dk_154 0 10 (dk_at dksX0_copy_0 4 rfl rfl)
theorem dX0_copy_7 : decode cX0_copy 7 = .ok (.iload_n 3, 1) := dk_29 (dk_at dksX0_copy_0 7 rfl rfl)
theorem dX0_copy_8 : decode cX0_copy 8 = .ok (.invokestatic 315, 3) := dk_184 1 59 (dk_at dksX0_copy_0 8 rfl rfl)
theorem dX0_copy_11 : decode cX0_copy 11 = .ok (.ifCond .eq 11, 3) := dk_153 0 11 (dk_at dksX0_copy_0 11 rfl rfl)
theorem dX0_copy_14 : decode cX0_copy 14 = .ok (.aload_n 0, 1) := dk_42 (dk_at dksX0_copy_0 14 rfl rfl)
theorem dX0_copy_15 : decode cX0_copy 15 = .ok (.iconst (-1), 1) := dk_2 (dk_at dksX0_copy_0 15 rfl rfl)
theorem dX0_copy_16 : decode cX0_copy 16 = .ok (.invokevirtual 318, 3) := dk_182 1 62 (dk_at dksX0_copy_0 16 rfl rfl)
theorem dX0_copy_19 : decode cX0_copy 19 = .ok (.goto 21, 3) := dk_167 0 21 (dk_at dksX0_copy_0 19 rfl rfl)
theorem dX0_copy_22 : decode cX0_copy 22 = .ok (.new 374, 3) := dk_187 1 118 (dk_at dksX0_copy_1 0 rfl rfl)
theorem dX0_copy_25 : decode cX0_copy 25 = .ok (.dup, 1) := dk_89 (dk_at dksX0_copy_1 3 rfl rfl)
theorem dX0_copy_26 : decode cX0_copy 26 = .ok (.aload_n 0, 1) := dk_42 (dk_at dksX0_copy_1 4 rfl rfl)
theorem dX0_copy_27 : decode cX0_copy 27 = .ok (.iload_n 1, 1) := dk_27 (dk_at dksX0_copy_1 5 rfl rfl)
theorem dX0_copy_28 : decode cX0_copy 28 = .ok (.iload_n 2, 1) := dk_28 (dk_at dksX0_copy_1 6 rfl rfl)
theorem dX0_copy_29 : decode cX0_copy 29 = .ok (.iload_n 3, 1) := dk_29 (dk_at dksX0_copy_1 7 rfl rfl)
theorem dX0_copy_30 : decode cX0_copy 30 = .ok (.iload 4, 2) := dk_21 4 (dk_at dksX0_copy_1 8 rfl rfl)
theorem dX0_copy_32 : decode cX0_copy 32 = .ok (.iload 5, 2) := dk_21 5 (dk_at dksX0_copy_1 10 rfl rfl)
theorem dX0_copy_34 : decode cX0_copy 34 = .ok (.invokespecial 376, 3) := dk_183 1 120 (dk_at dksX0_copy_1 12 rfl rfl)
theorem dX0_copy_37 : decode cX0_copy 37 = .ok (.invokevirtual 379, 3) := dk_182 1 123 (dk_at dksX0_copy_1 15 rfl rfl)
theorem dX0_copy_40 : decode cX0_copy 40 = .ok (.ireturn, 1) := dk_172 (dk_at dksX0_copy_1 18 rfl rfl)
abbrev cX0_tell : ByteArray := prog_1_method_68_code
def yX0_tell : MethodName := ⟨RX0, "tell", "(I)I"⟩
def dkwX0_tell_1 : List UInt8 := [192, 0, 126, 182, 1, 124, 172]
abbrev dktX0_tell_1 : List UInt8 := dkwX0_tell_1 ++ []
def dkwX0_tell_0 : List UInt8 := [42, 27, 182, 0, 141, 153, 0, 7, 2, 167, 0, 19, 42, 180, 0, 35, 27, 185, 0, 144, 2, 0]
abbrev dktX0_tell_0 : List UInt8 := dkwX0_tell_0 ++ dktX0_tell_1
theorem dksX0_tell_0 : cX0_tell.data.toList.drop 0 = dktX0_tell_0 := by decide +kernel
theorem dksX0_tell_1 : cX0_tell.data.toList.drop 22 = dktX0_tell_1 := dk_seg dksX0_tell_0 22 rfl rfl
theorem dX0_tell_0 : decode cX0_tell 0 = .ok (.aload_n 0, 1) := dk_42 (dk_at dksX0_tell_0 0 rfl rfl)
theorem dX0_tell_1 : decode cX0_tell 1 = .ok (.iload_n 1, 1) := dk_27 (dk_at dksX0_tell_0 1 rfl rfl)
theorem dX0_tell_2 : decode cX0_tell 2 = .ok (.invokevirtual 141, 3) := dk_182 0 141 (dk_at dksX0_tell_0 2 rfl rfl)
theorem dX0_tell_5 : decode cX0_tell 5 = .ok (.ifCond .eq 7, 3) := dk_153 0 7 (dk_at dksX0_tell_0 5 rfl rfl)
theorem dX0_tell_8 : decode cX0_tell 8 = .ok (.iconst (-1), 1) := dk_2 (dk_at dksX0_tell_0 8 rfl rfl)
theorem dX0_tell_9 : decode cX0_tell 9 = .ok (.goto 19, 3) := dk_167 0 19 (dk_at dksX0_tell_0 9 rfl rfl)
theorem dX0_tell_12 : decode cX0_tell 12 = .ok (.aload_n 0, 1) := dk_42 (dk_at dksX0_tell_0 12 rfl rfl)
theorem dX0_tell_13 : decode cX0_tell 13 = .ok (.getfield 35, 3) := dk_180 0 35 (dk_at dksX0_tell_0 13 rfl rfl)
theorem dX0_tell_16 : decode cX0_tell 16 = .ok (.iload_n 1, 1) := dk_27 (dk_at dksX0_tell_0 16 rfl rfl)
theorem dX0_tell_17 : decode cX0_tell 17 = .ok (.invokeinterface 144 2, 5) := by decide +kernel
theorem dX0_tell_22 : decode cX0_tell 22 = .ok (.checkcast 126, 3) := dk_192 0 126 (dk_at dksX0_tell_1 0 rfl rfl)
theorem dX0_tell_25 : decode cX0_tell 25 = .ok (.invokevirtual 380, 3) := dk_182 1 124 (dk_at dksX0_tell_1 3 rfl rfl)
theorem dX0_tell_28 : decode cX0_tell 28 = .ok (.ireturn, 1) := dk_172 (dk_at dksX0_tell_1 6 rfl rfl)
abbrev cX0_serve : ByteArray := prog_1_method_69_code
def yX0_serve : MethodName := ⟨RX0, "serve", "(I)I"⟩
def dkwX0_serve_1 : List UInt8 := [44, 185, 1, 129, 1, 0, 172]
abbrev dktX0_serve_1 : List UInt8 := dkwX0_serve_1 ++ []
def dkwX0_serve_0 : List UInt8 := [42, 27, 182, 0, 141, 153, 0, 5, 2, 172, 42, 180, 0, 35, 27, 185, 0, 144, 2, 0, 192, 1, 127, 77]
abbrev dktX0_serve_0 : List UInt8 := dkwX0_serve_0 ++ dktX0_serve_1
theorem dksX0_serve_0 : cX0_serve.data.toList.drop 0 = dktX0_serve_0 := by decide +kernel
theorem dksX0_serve_1 : cX0_serve.data.toList.drop 24 = dktX0_serve_1 := dk_seg dksX0_serve_0 24 rfl rfl
theorem dX0_serve_0 : decode cX0_serve 0 = .ok (.aload_n 0, 1) := dk_42 (dk_at dksX0_serve_0 0 rfl rfl)
theorem dX0_serve_1 : decode cX0_serve 1 = .ok (.iload_n 1, 1) := dk_27 (dk_at dksX0_serve_0 1 rfl rfl)
theorem dX0_serve_2 : decode cX0_serve 2 = .ok (.invokevirtual 141, 3) := dk_182 0 141 (dk_at dksX0_serve_0 2 rfl rfl)
theorem dX0_serve_5 : decode cX0_serve 5 = .ok (.ifCond .eq 5, 3) := dk_153 0 5 (dk_at dksX0_serve_0 5 rfl rfl)
theorem dX0_serve_8 : decode cX0_serve 8 = .ok (.iconst (-1), 1) := dk_2 (dk_at dksX0_serve_0 8 rfl rfl)
theorem dX0_serve_9 : decode cX0_serve 9 = .ok (.ireturn, 1) := dk_172 (dk_at dksX0_serve_0 9 rfl rfl)
theorem dX0_serve_10 : decode cX0_serve 10 = .ok (.aload_n 0, 1) := dk_42 (dk_at dksX0_serve_0 10 rfl rfl)
theorem dX0_serve_11 : decode cX0_serve 11 = .ok (.getfield 35, 3) := dk_180 0 35 (dk_at dksX0_serve_0 11 rfl rfl)
theorem dX0_serve_14 : decode cX0_serve 14 = .ok (.iload_n 1, 1) := dk_27 (dk_at dksX0_serve_0 14 rfl rfl)
theorem dX0_serve_15 : decode cX0_serve 15 = .ok (.invokeinterface 144 2, 5) := by decide +kernel
theorem dX0_serve_20 : decode cX0_serve 20 = .ok (.checkcast 383, 3) := dk_192 1 127 (dk_at dksX0_serve_0 20 rfl rfl)
theorem dX0_serve_23 : decode cX0_serve 23 = .ok (.astore_n 2, 1) := dk_77 (dk_at dksX0_serve_0 23 rfl rfl)
theorem dX0_serve_24 : decode cX0_serve 24 = .ok (.aload_n 2, 1) := dk_44 (dk_at dksX0_serve_1 0 rfl rfl)
theorem dX0_serve_25 : decode cX0_serve 25 = .ok (.invokeinterface 385 1, 5) := by decide +kernel
theorem dX0_serve_30 : decode cX0_serve 30 = .ok (.ireturn, 1) := dk_172 (dk_at dksX0_serve_1 6 rfl rfl)
abbrev cX0_as : ByteArray := prog_1_method_70_code
def yX0_as : MethodName := ⟨RX0, "as", "(II)I"⟩
def dkwX0_as_2 : List UInt8 := [183, 1, 134, 182, 1, 137, 167, 0, 9, 42, 16, 254, 182, 1, 62, 172]
abbrev dktX0_as_2 : List UInt8 := dkwX0_as_2 ++ []
def dkwX0_as_1 : List UInt8 := [153, 0, 31, 187, 1, 132, 89, 42, 42, 180, 0, 35, 27, 185, 0, 144, 2, 0, 192, 0, 126, 28]
abbrev dktX0_as_1 : List UInt8 := dkwX0_as_1 ++ dktX0_as_2
def dkwX0_as_0 : List UInt8 := [42, 27, 182, 0, 141, 153, 0, 9, 42, 2, 182, 1, 62, 172, 28, 133, 9, 20, 0, 112, 184, 0, 81]
abbrev dktX0_as_0 : List UInt8 := dkwX0_as_0 ++ dktX0_as_1
theorem dksX0_as_0 : cX0_as.data.toList.drop 0 = dktX0_as_0 := by decide +kernel
theorem dksX0_as_1 : cX0_as.data.toList.drop 23 = dktX0_as_1 := dk_seg dksX0_as_0 23 rfl rfl
theorem dksX0_as_2 : cX0_as.data.toList.drop 45 = dktX0_as_2 := dk_seg dksX0_as_1 22 rfl rfl
theorem dX0_as_0 : decode cX0_as 0 = .ok (.aload_n 0, 1) := dk_42 (dk_at dksX0_as_0 0 rfl rfl)
theorem dX0_as_1 : decode cX0_as 1 = .ok (.iload_n 1, 1) := dk_27 (dk_at dksX0_as_0 1 rfl rfl)
theorem dX0_as_2 : decode cX0_as 2 = .ok (.invokevirtual 141, 3) := dk_182 0 141 (dk_at dksX0_as_0 2 rfl rfl)
theorem dX0_as_5 : decode cX0_as 5 = .ok (.ifCond .eq 9, 3) := dk_153 0 9 (dk_at dksX0_as_0 5 rfl rfl)
theorem dX0_as_8 : decode cX0_as 8 = .ok (.aload_n 0, 1) := dk_42 (dk_at dksX0_as_0 8 rfl rfl)
theorem dX0_as_9 : decode cX0_as 9 = .ok (.iconst (-1), 1) := dk_2 (dk_at dksX0_as_0 9 rfl rfl)
theorem dX0_as_10 : decode cX0_as 10 = .ok (.invokevirtual 318, 3) := dk_182 1 62 (dk_at dksX0_as_0 10 rfl rfl)
theorem dX0_as_13 : decode cX0_as 13 = .ok (.ireturn, 1) := dk_172 (dk_at dksX0_as_0 13 rfl rfl)
theorem dX0_as_14 : decode cX0_as 14 = .ok (.iload_n 2, 1) := dk_28 (dk_at dksX0_as_0 14 rfl rfl)
theorem dX0_as_15 : decode cX0_as 15 = .ok (.i2l, 1) := dk_133 (dk_at dksX0_as_0 15 rfl rfl)
theorem dX0_as_16 : decode cX0_as 16 = .ok (.lconst 0, 1) := dk_9 (dk_at dksX0_as_0 16 rfl rfl)
theorem dX0_as_17 : decode cX0_as 17 = .ok (.ldc2_w 112, 3) := dk_20 0 112 (dk_at dksX0_as_0 17 rfl rfl)
theorem dX0_as_20 : decode cX0_as 20 = .ok (.invokestatic 81, 3) := dk_184 0 81 (dk_at dksX0_as_0 20 rfl rfl)
theorem dX0_as_23 : decode cX0_as 23 = .ok (.ifCond .eq 31, 3) := dk_153 0 31 (dk_at dksX0_as_1 0 rfl rfl)
theorem dX0_as_26 : decode cX0_as 26 = .ok (.new 388, 3) := dk_187 1 132 (dk_at dksX0_as_1 3 rfl rfl)
theorem dX0_as_29 : decode cX0_as 29 = .ok (.dup, 1) := dk_89 (dk_at dksX0_as_1 6 rfl rfl)
theorem dX0_as_30 : decode cX0_as 30 = .ok (.aload_n 0, 1) := dk_42 (dk_at dksX0_as_1 7 rfl rfl)
theorem dX0_as_31 : decode cX0_as 31 = .ok (.aload_n 0, 1) := dk_42 (dk_at dksX0_as_1 8 rfl rfl)
theorem dX0_as_32 : decode cX0_as 32 = .ok (.getfield 35, 3) := dk_180 0 35 (dk_at dksX0_as_1 9 rfl rfl)
theorem dX0_as_35 : decode cX0_as 35 = .ok (.iload_n 1, 1) := dk_27 (dk_at dksX0_as_1 12 rfl rfl)
theorem dX0_as_36 : decode cX0_as 36 = .ok (.invokeinterface 144 2, 5) := by decide +kernel
theorem dX0_as_41 : decode cX0_as 41 = .ok (.checkcast 126, 3) := dk_192 0 126 (dk_at dksX0_as_1 18 rfl rfl)
theorem dX0_as_44 : decode cX0_as 44 = .ok (.iload_n 2, 1) := dk_28 (dk_at dksX0_as_1 21 rfl rfl)
theorem dX0_as_45 : decode cX0_as 45 = .ok (.invokespecial 390, 3) := dk_183 1 134 (dk_at dksX0_as_2 0 rfl rfl)
theorem dX0_as_48 : decode cX0_as 48 = .ok (.invokevirtual 393, 3) := dk_182 1 137 (dk_at dksX0_as_2 3 rfl rfl)
theorem dX0_as_51 : decode cX0_as 51 = .ok (.goto 9, 3) := dk_167 0 9 (dk_at dksX0_as_2 6 rfl rfl)
theorem dX0_as_54 : decode cX0_as 54 = .ok (.aload_n 0, 1) := dk_42 (dk_at dksX0_as_2 9 rfl rfl)
theorem dX0_as_55 : decode cX0_as 55 = .ok (.bipush (-2), 2) := dk_16 254 (dk_at dksX0_as_2 10 rfl rfl)
theorem dX0_as_57 : decode cX0_as 57 = .ok (.invokevirtual 318, 3) := dk_182 1 62 (dk_at dksX0_as_2 12 rfl rfl)
theorem dX0_as_60 : decode cX0_as 60 = .ok (.ireturn, 1) := dk_172 (dk_at dksX0_as_2 15 rfl rfl)
abbrev cX0_trace : ByteArray := prog_1_method_71_code
def yX0_trace : MethodName := ⟨RX0, "trace", "()I"⟩
theorem dX0_trace_0 : decode cX0_trace 0 = .ok (.aload_n 0, 1) := by decide +kernel
theorem dX0_trace_1 : decode cX0_trace 1 = .ok (.getfield 394, 3) := by decide +kernel
theorem dX0_trace_4 : decode cX0_trace 4 = .ok (.ireturn, 1) := by decide +kernel
abbrev cX0_fault : ByteArray := prog_1_method_72_code
def yX0_fault : MethodName := ⟨RX0, "fault", "()I"⟩
theorem dX0_fault_0 : decode cX0_fault 0 = .ok (.aload_n 0, 1) := by decide +kernel
theorem dX0_fault_1 : decode cX0_fault 1 = .ok (.getfield 303, 3) := by decide +kernel
theorem dX0_fault_4 : decode cX0_fault 4 = .ok (.ireturn, 1) := by decide +kernel
abbrev cX0_many : ByteArray := prog_1_method_73_code
def yX0_many : MethodName := ⟨RX0, "many", "(I)I"⟩
def dkwX0_many_4 : List UInt8 := [172, 42, 180, 0, 104, 153, 0, 7, 4, 167, 0, 4, 3, 172, 42, 180, 0, 21, 172, 28, 172, 16, 254, 172]
abbrev dktX0_many_4 : List UInt8 := dkwX0_many_4 ++ []
def dkwX0_many_3 : List UInt8 := [42, 180, 0, 78, 172, 42, 180, 0, 35, 185, 0, 118, 1, 0, 172, 42, 180, 0, 98, 172, 42, 180, 0, 101]
abbrev dktX0_many_3 : List UInt8 := dkwX0_many_3 ++ dktX0_many_4
def dkwX0_many_2 : List UInt8 := [170, 0, 0, 0, 0, 0, 0, 89, 0, 0, 0, 0, 0, 0, 0, 6, 0, 0, 0, 44, 0, 0, 0, 49, 0, 0, 0, 59, 0, 0, 0, 64, 0, 0, 0, 69, 0, 0, 0, 82, 0, 0, 0, 87]
abbrev dktX0_many_2 : List UInt8 := dkwX0_many_2 ++ dktX0_many_3
def dkwX0_many_1 : List UInt8 := [167, 255, 236, 27]
abbrev dktX0_many_1 : List UInt8 := dkwX0_many_1 ++ dktX0_many_2
def dkwX0_many_0 : List UInt8 := [3, 61, 3, 62, 29, 42, 180, 0, 78, 162, 0, 18, 28, 42, 180, 0, 29, 29, 46, 96, 61, 132, 3, 1]
abbrev dktX0_many_0 : List UInt8 := dkwX0_many_0 ++ dktX0_many_1
theorem dksX0_many_0 : cX0_many.data.toList.drop 0 = dktX0_many_0 := by decide +kernel
theorem dksX0_many_1 : cX0_many.data.toList.drop 24 = dktX0_many_1 := dk_seg dksX0_many_0 24 rfl rfl
theorem dksX0_many_2 : cX0_many.data.toList.drop 28 = dktX0_many_2 := dk_seg dksX0_many_1 4 rfl rfl
theorem dksX0_many_3 : cX0_many.data.toList.drop 72 = dktX0_many_3 := dk_seg dksX0_many_2 44 rfl rfl
theorem dksX0_many_4 : cX0_many.data.toList.drop 96 = dktX0_many_4 := dk_seg dksX0_many_3 24 rfl rfl
theorem dX0_many_0 : decode cX0_many 0 = .ok (.iconst 0, 1) := dk_3 (dk_at dksX0_many_0 0 rfl rfl)
theorem dX0_many_1 : decode cX0_many 1 = .ok (.istore_n 2, 1) := dk_61 (dk_at dksX0_many_0 1 rfl rfl)
theorem dX0_many_2 : decode cX0_many 2 = .ok (.iconst 0, 1) := dk_3 (dk_at dksX0_many_0 2 rfl rfl)
theorem dX0_many_3 : decode cX0_many 3 = .ok (.istore_n 3, 1) := dk_62 (dk_at dksX0_many_0 3 rfl rfl)
theorem dX0_many_4 : decode cX0_many 4 = .ok (.iload_n 3, 1) := dk_29 (dk_at dksX0_many_0 4 rfl rfl)
theorem dX0_many_5 : decode cX0_many 5 = .ok (.aload_n 0, 1) := dk_42 (dk_at dksX0_many_0 5 rfl rfl)
theorem dX0_many_6 : decode cX0_many 6 = .ok (.getfield 78, 3) := dk_180 0 78 (dk_at dksX0_many_0 6 rfl rfl)
theorem dX0_many_9 : decode cX0_many 9 = .ok (.if_icmp .ge 18, 3) := dk_162 0 18 (dk_at dksX0_many_0 9 rfl rfl)
theorem dX0_many_12 : decode cX0_many 12 = .ok (.iload_n 2, 1) := dk_28 (dk_at dksX0_many_0 12 rfl rfl)
theorem dX0_many_13 : decode cX0_many 13 = .ok (.aload_n 0, 1) := dk_42 (dk_at dksX0_many_0 13 rfl rfl)
theorem dX0_many_14 : decode cX0_many 14 = .ok (.getfield 29, 3) := dk_180 0 29 (dk_at dksX0_many_0 14 rfl rfl)
theorem dX0_many_17 : decode cX0_many 17 = .ok (.iload_n 3, 1) := dk_29 (dk_at dksX0_many_0 17 rfl rfl)
theorem dX0_many_18 : decode cX0_many 18 = .ok (.iaload, 1) := dk_46 (dk_at dksX0_many_0 18 rfl rfl)
theorem dX0_many_19 : decode cX0_many 19 = .ok (.iadd, 1) := dk_96 (dk_at dksX0_many_0 19 rfl rfl)
theorem dX0_many_20 : decode cX0_many 20 = .ok (.istore_n 2, 1) := dk_61 (dk_at dksX0_many_0 20 rfl rfl)
theorem dX0_many_21 : decode cX0_many 21 = .ok (.iinc 3 1, 3) := dk_132 3 1 (dk_at dksX0_many_0 21 rfl rfl)
theorem dX0_many_24 : decode cX0_many 24 = .ok (.goto (-20), 3) := dk_167 255 236 (dk_at dksX0_many_1 0 rfl rfl)
theorem dX0_many_27 : decode cX0_many 27 = .ok (.iload_n 1, 1) := dk_27 (dk_at dksX0_many_1 3 rfl rfl)
theorem dX0_many_28 : decode cX0_many 28 = .ok (.tableswitch 89 0 6 #[44, 49, 59, 64, 69, 82, 87], 44) := by decide +kernel
theorem dX0_many_72 : decode cX0_many 72 = .ok (.aload_n 0, 1) := dk_42 (dk_at dksX0_many_3 0 rfl rfl)
theorem dX0_many_73 : decode cX0_many 73 = .ok (.getfield 78, 3) := dk_180 0 78 (dk_at dksX0_many_3 1 rfl rfl)
theorem dX0_many_76 : decode cX0_many 76 = .ok (.ireturn, 1) := dk_172 (dk_at dksX0_many_3 4 rfl rfl)
theorem dX0_many_77 : decode cX0_many 77 = .ok (.aload_n 0, 1) := dk_42 (dk_at dksX0_many_3 5 rfl rfl)
theorem dX0_many_78 : decode cX0_many 78 = .ok (.getfield 35, 3) := dk_180 0 35 (dk_at dksX0_many_3 6 rfl rfl)
theorem dX0_many_81 : decode cX0_many 81 = .ok (.invokeinterface 118 1, 5) := by decide +kernel
theorem dX0_many_86 : decode cX0_many 86 = .ok (.ireturn, 1) := dk_172 (dk_at dksX0_many_3 14 rfl rfl)
theorem dX0_many_87 : decode cX0_many 87 = .ok (.aload_n 0, 1) := dk_42 (dk_at dksX0_many_3 15 rfl rfl)
theorem dX0_many_88 : decode cX0_many 88 = .ok (.getfield 98, 3) := dk_180 0 98 (dk_at dksX0_many_3 16 rfl rfl)
theorem dX0_many_91 : decode cX0_many 91 = .ok (.ireturn, 1) := dk_172 (dk_at dksX0_many_3 19 rfl rfl)
theorem dX0_many_92 : decode cX0_many 92 = .ok (.aload_n 0, 1) := dk_42 (dk_at dksX0_many_3 20 rfl rfl)
theorem dX0_many_93 : decode cX0_many 93 = .ok (.getfield 101, 3) := dk_180 0 101 (dk_at dksX0_many_3 21 rfl rfl)
theorem dX0_many_96 : decode cX0_many 96 = .ok (.ireturn, 1) := dk_172 (dk_at dksX0_many_4 0 rfl rfl)
theorem dX0_many_97 : decode cX0_many 97 = .ok (.aload_n 0, 1) := dk_42 (dk_at dksX0_many_4 1 rfl rfl)
theorem dX0_many_98 : decode cX0_many 98 = .ok (.getfield 104, 3) := dk_180 0 104 (dk_at dksX0_many_4 2 rfl rfl)
theorem dX0_many_101 : decode cX0_many 101 = .ok (.ifCond .eq 7, 3) := dk_153 0 7 (dk_at dksX0_many_4 5 rfl rfl)
theorem dX0_many_104 : decode cX0_many 104 = .ok (.iconst 1, 1) := dk_4 (dk_at dksX0_many_4 8 rfl rfl)
theorem dX0_many_105 : decode cX0_many 105 = .ok (.goto 4, 3) := dk_167 0 4 (dk_at dksX0_many_4 9 rfl rfl)
theorem dX0_many_108 : decode cX0_many 108 = .ok (.iconst 0, 1) := dk_3 (dk_at dksX0_many_4 12 rfl rfl)
theorem dX0_many_109 : decode cX0_many 109 = .ok (.ireturn, 1) := dk_172 (dk_at dksX0_many_4 13 rfl rfl)
theorem dX0_many_110 : decode cX0_many 110 = .ok (.aload_n 0, 1) := dk_42 (dk_at dksX0_many_4 14 rfl rfl)
theorem dX0_many_111 : decode cX0_many 111 = .ok (.getfield 21, 3) := dk_180 0 21 (dk_at dksX0_many_4 15 rfl rfl)
theorem dX0_many_114 : decode cX0_many 114 = .ok (.ireturn, 1) := dk_172 (dk_at dksX0_many_4 18 rfl rfl)
theorem dX0_many_115 : decode cX0_many 115 = .ok (.iload_n 2, 1) := dk_28 (dk_at dksX0_many_4 19 rfl rfl)
theorem dX0_many_116 : decode cX0_many 116 = .ok (.ireturn, 1) := dk_172 (dk_at dksX0_many_4 20 rfl rfl)
theorem dX0_many_117 : decode cX0_many 117 = .ok (.bipush (-2), 2) := dk_16 254 (dk_at dksX0_many_4 21 rfl rfl)
theorem dX0_many_119 : decode cX0_many 119 = .ok (.ireturn, 1) := dk_172 (dk_at dksX0_many_4 23 rfl rfl)
theorem q71 : (Jvm.Cond.initialized "CafeTables") ∈ lw_all := lw_g (lw_at lw_m1 1 rfl) rfl
theorem q102 : (Jvm.Cond.instantiable "CafeTables" (24 : Nat)) ∈ lw_all := lw_g (lw_at lw_m1 32 rfl) rfl
theorem q104 : (Jvm.Cond.instanceMethod ({ cls := "CafeTables", name := "<init>", desc := "()V" } : Jvm.MethodName)) ∈ lw_all := lw_g (lw_at lw_m1 34 rfl) rfl
theorem q105 : (Jvm.Cond.code ({ cls := "CafeTables", name := "<init>", desc := "()V" } : Jvm.MethodName) prog_1_method_4_code (1 : Nat) (Option.none : Option Jvm.ClassFile.FieldType)) ∈ lw_all := lw_g (lw_at lw_m1 35 rfl) rfl
theorem q106 : (Jvm.Cond.methodLink "CafeTables" (15 : Nat) ({ cls := "java/lang/Object", name := "<init>", desc := "()V" } : Jvm.MethodName)) ∈ lw_all := lw_g (lw_at lw_m1 36 rfl) rfl
theorem q109 : (Jvm.Cond.classLink "CafeTables" (32 : Nat) "java/util/ArrayList") ∈ lw_all := lw_g (lw_at lw_m1 39 rfl) rfl
theorem q111 : (Jvm.Cond.methodLink "CafeTables" (34 : Nat) ({ cls := "java/util/ArrayList", name := "<init>", desc := "()V" } : Jvm.MethodName)) ∈ lw_all := lw_g (lw_at lw_m1 41 rfl) rfl
theorem q136 : (Jvm.Cond.classLink "CafeTables" (72 : Nat) "CafeTables$Sheet") ∈ lw_all := lw_g (lw_at lw_m1 66 rfl) rfl
theorem q138 : (Jvm.Cond.fieldLink "CafeTables" (78 : Nat) "CafeTables" "tables" "I") ∈ lw_all := lw_g (lw_at lw_m1 68 rfl) rfl
theorem q139 : (Jvm.Cond.fieldLink "CafeTables" (98 : Nat) "CafeTables" "ruleNow" "I") ∈ lw_all := lw_g (lw_at lw_m1 69 rfl) rfl
theorem q140 : (Jvm.Cond.fieldLink "CafeTables" (101 : Nat) "CafeTables" "patienceNow" "I") ∈ lw_all := lw_g (lw_at lw_m1 70 rfl) rfl
theorem q141 : (Jvm.Cond.fieldLink "CafeTables" (104 : Nat) "CafeTables" "joins" "Z") ∈ lw_all := lw_g (lw_at lw_m1 71 rfl) rfl
theorem q142 : (Jvm.Cond.fieldLink "CafeTables" (21 : Nat) "CafeTables" "rainFrom" "I") ∈ lw_all := lw_g (lw_at lw_m1 72 rfl) rfl
theorem q143 : (Jvm.Cond.fieldLink "CafeTables" (25 : Nat) "CafeTables" "whereIs" "[I") ∈ lw_all := lw_g (lw_at lw_m1 73 rfl) rfl
theorem q144 : (Jvm.Cond.fieldLink "CafeTables" (29 : Nat) "CafeTables" "seatsOf" "[I") ∈ lw_all := lw_g (lw_at lw_m1 74 rfl) rfl
theorem q146 : (Jvm.Cond.fieldLink "CafeTables" (394 : Nat) "CafeTables" "trace" "I") ∈ lw_all := lw_g (lw_at lw_m1 76 rfl) rfl
theorem q147 : (Jvm.Cond.fieldLink "CafeTables" (35 : Nat) "CafeTables" "groups" "Ljava/util/List;") ∈ lw_all := lw_g (lw_at lw_m1 77 rfl) rfl
theorem q148 : (Jvm.Cond.fieldLink "CafeTables" (39 : Nat) "CafeTables" "holds" "[I") ∈ lw_all := lw_g (lw_at lw_m1 78 rfl) rfl
theorem q149 : (Jvm.Cond.fieldLink "CafeTables" (152 : Nat) "CafeTables" "isShut" "Z") ∈ lw_all := lw_g (lw_at lw_m1 79 rfl) rfl
theorem q150 : (Jvm.Cond.fieldLink "CafeTables" (42 : Nat) "CafeTables" "how" "[I") ∈ lw_all := lw_g (lw_at lw_m1 80 rfl) rfl
theorem q151 : (Jvm.Cond.fieldLink "CafeTables" (45 : Nat) "CafeTables" "firstAt" "[I") ∈ lw_all := lw_g (lw_at lw_m1 81 rfl) rfl
theorem q152 : (Jvm.Cond.fieldLink "CafeTables" (48 : Nat) "CafeTables" "since" "[I") ∈ lw_all := lw_g (lw_at lw_m1 82 rfl) rfl
theorem q153 : (Jvm.Cond.fieldLink "CafeTables" (51 : Nat) "CafeTables" "until" "[I") ∈ lw_all := lw_g (lw_at lw_m1 83 rfl) rfl
theorem q154 : (Jvm.Cond.fieldLink "CafeTables" (54 : Nat) "CafeTables" "wentAt" "[I") ∈ lw_all := lw_g (lw_at lw_m1 84 rfl) rfl
theorem q155 : (Jvm.Cond.fieldLink "CafeTables" (57 : Nat) "CafeTables" "trying" "[I") ∈ lw_all := lw_g (lw_at lw_m1 85 rfl) rfl
theorem q156 : (Jvm.Cond.fieldLink "CafeTables" (60 : Nat) "CafeTables" "planned" "[I") ∈ lw_all := lw_g (lw_at lw_m1 86 rfl) rfl
theorem q157 : (Jvm.Cond.fieldLink "CafeTables" (249 : Nat) "CafeTables" "most" "I") ∈ lw_all := lw_g (lw_at lw_m1 87 rfl) rfl
theorem q158 : (Jvm.Cond.fieldLink "CafeTables" (63 : Nat) "CafeTables" "coinBy" "[I") ∈ lw_all := lw_g (lw_at lw_m1 88 rfl) rfl
theorem q159 : (Jvm.Cond.fieldLink "CafeTables" (66 : Nat) "CafeTables" "whereWas" "[I") ∈ lw_all := lw_g (lw_at lw_m1 89 rfl) rfl
theorem q160 : (Jvm.Cond.fieldLink "CafeTables" (69 : Nat) "CafeTables" "seatsWere" "[I") ∈ lw_all := lw_g (lw_at lw_m1 90 rfl) rfl
theorem q162 : (Jvm.Cond.fieldLink "CafeTables" (303 : Nat) "CafeTables" "fault" "I") ∈ lw_all := lw_g (lw_at lw_m1 92 rfl) rfl
theorem q163 : (Jvm.Cond.fieldLink "CafeTables" (74 : Nat) "CafeTables" "sheets" "[LCafeTables$Sheet;") ∈ lw_all := lw_g (lw_at lw_m1 93 rfl) rfl
theorem q164 : (Jvm.Cond.lays "CafeTables" "CafeTables" "tables" "I") ∈ lw_all := lw_g (lw_at lw_m1 94 rfl) rfl
theorem q165 : (Jvm.Cond.soleField "CafeTables" "tables") ∈ lw_all := lw_g (lw_at lw_m1 95 rfl) rfl
theorem q166 : (Jvm.Cond.lays "CafeTables" "CafeTables" "ruleNow" "I") ∈ lw_all := lw_g (lw_at lw_m1 96 rfl) rfl
theorem q167 : (Jvm.Cond.soleField "CafeTables" "ruleNow") ∈ lw_all := lw_g (lw_at lw_m1 97 rfl) rfl
theorem q168 : (Jvm.Cond.lays "CafeTables" "CafeTables" "patienceNow" "I") ∈ lw_all := lw_g (lw_at lw_m1 98 rfl) rfl
theorem q169 : (Jvm.Cond.soleField "CafeTables" "patienceNow") ∈ lw_all := lw_g (lw_at lw_m1 99 rfl) rfl
theorem q170 : (Jvm.Cond.lays "CafeTables" "CafeTables" "joins" "Z") ∈ lw_all := lw_g (lw_at lw_m1 100 rfl) rfl
theorem q171 : (Jvm.Cond.soleField "CafeTables" "joins") ∈ lw_all := lw_g (lw_at lw_m1 101 rfl) rfl
theorem q172 : (Jvm.Cond.lays "CafeTables" "CafeTables" "rainFrom" "I") ∈ lw_all := lw_g (lw_at lw_m1 102 rfl) rfl
theorem q173 : (Jvm.Cond.soleField "CafeTables" "rainFrom") ∈ lw_all := lw_g (lw_at lw_m1 103 rfl) rfl
theorem q174 : (Jvm.Cond.laysFinal "CafeTables" "CafeTables" "whereIs" "[I") ∈ lw_all := lw_g (lw_at lw_m1 104 rfl) rfl
theorem q175 : (Jvm.Cond.soleField "CafeTables" "whereIs") ∈ lw_all := lw_g (lw_at lw_m1 105 rfl) rfl
theorem q176 : (Jvm.Cond.laysFinal "CafeTables" "CafeTables" "seatsOf" "[I") ∈ lw_all := lw_g (lw_at lw_m1 106 rfl) rfl
theorem q177 : (Jvm.Cond.soleField "CafeTables" "seatsOf") ∈ lw_all := lw_g (lw_at lw_m1 107 rfl) rfl
theorem q178 : (Jvm.Cond.lays "CafeTables" "CafeTables" "trace" "I") ∈ lw_all := lw_g (lw_at lw_m1 108 rfl) rfl
theorem q179 : (Jvm.Cond.soleField "CafeTables" "trace") ∈ lw_all := lw_g (lw_at lw_m1 109 rfl) rfl
theorem q180 : (Jvm.Cond.laysFinal "CafeTables" "CafeTables" "groups" "Ljava/util/List;") ∈ lw_all := lw_g (lw_at lw_m1 110 rfl) rfl
theorem q181 : (Jvm.Cond.soleField "CafeTables" "groups") ∈ lw_all := lw_g (lw_at lw_m1 111 rfl) rfl
theorem q182 : (Jvm.Cond.laysFinal "CafeTables" "CafeTables" "holds" "[I") ∈ lw_all := lw_g (lw_at lw_m1 112 rfl) rfl
theorem q183 : (Jvm.Cond.soleField "CafeTables" "holds") ∈ lw_all := lw_g (lw_at lw_m1 113 rfl) rfl
theorem q184 : (Jvm.Cond.lays "CafeTables" "CafeTables" "isShut" "Z") ∈ lw_all := lw_g (lw_at lw_m1 114 rfl) rfl
theorem q185 : (Jvm.Cond.soleField "CafeTables" "isShut") ∈ lw_all := lw_g (lw_at lw_m1 115 rfl) rfl
theorem q186 : (Jvm.Cond.laysFinal "CafeTables" "CafeTables" "how" "[I") ∈ lw_all := lw_g (lw_at lw_m1 116 rfl) rfl
theorem q187 : (Jvm.Cond.soleField "CafeTables" "how") ∈ lw_all := lw_g (lw_at lw_m1 117 rfl) rfl
theorem q188 : (Jvm.Cond.laysFinal "CafeTables" "CafeTables" "firstAt" "[I") ∈ lw_all := lw_g (lw_at lw_m1 118 rfl) rfl
theorem q189 : (Jvm.Cond.soleField "CafeTables" "firstAt") ∈ lw_all := lw_g (lw_at lw_m1 119 rfl) rfl
theorem q190 : (Jvm.Cond.laysFinal "CafeTables" "CafeTables" "since" "[I") ∈ lw_all := lw_g (lw_at lw_m1 120 rfl) rfl
theorem q191 : (Jvm.Cond.soleField "CafeTables" "since") ∈ lw_all := lw_g (lw_at lw_m1 121 rfl) rfl
theorem q192 : (Jvm.Cond.laysFinal "CafeTables" "CafeTables" "until" "[I") ∈ lw_all := lw_g (lw_at lw_m1 122 rfl) rfl
theorem q193 : (Jvm.Cond.soleField "CafeTables" "until") ∈ lw_all := lw_g (lw_at lw_m1 123 rfl) rfl
theorem q194 : (Jvm.Cond.laysFinal "CafeTables" "CafeTables" "wentAt" "[I") ∈ lw_all := lw_g (lw_at lw_m1 124 rfl) rfl
theorem q195 : (Jvm.Cond.soleField "CafeTables" "wentAt") ∈ lw_all := lw_g (lw_at lw_m1 125 rfl) rfl
theorem q196 : (Jvm.Cond.laysFinal "CafeTables" "CafeTables" "trying" "[I") ∈ lw_all := lw_g (lw_at lw_m1 126 rfl) rfl
theorem q197 : (Jvm.Cond.soleField "CafeTables" "trying") ∈ lw_all := lw_g (lw_at lw_m1 127 rfl) rfl
theorem q198 : (Jvm.Cond.laysFinal "CafeTables" "CafeTables" "planned" "[I") ∈ lw_all := lw_g (lw_at lw_m1 128 rfl) rfl
theorem q199 : (Jvm.Cond.soleField "CafeTables" "planned") ∈ lw_all := lw_g (lw_at lw_m1 129 rfl) rfl
theorem q200 : (Jvm.Cond.lays "CafeTables" "CafeTables" "most" "I") ∈ lw_all := lw_g (lw_at lw_m1 130 rfl) rfl
theorem q201 : (Jvm.Cond.soleField "CafeTables" "most") ∈ lw_all := lw_g (lw_at lw_m1 131 rfl) rfl
theorem q202 : (Jvm.Cond.laysFinal "CafeTables" "CafeTables" "coinBy" "[I") ∈ lw_all := lw_g (lw_at lw_m1 132 rfl) rfl
theorem q203 : (Jvm.Cond.soleField "CafeTables" "coinBy") ∈ lw_all := lw_g (lw_at lw_m1 133 rfl) rfl
theorem q204 : (Jvm.Cond.laysFinal "CafeTables" "CafeTables" "whereWas" "[I") ∈ lw_all := lw_g (lw_at lw_m1 134 rfl) rfl
theorem q205 : (Jvm.Cond.soleField "CafeTables" "whereWas") ∈ lw_all := lw_g (lw_at lw_m1 135 rfl) rfl
theorem q206 : (Jvm.Cond.laysFinal "CafeTables" "CafeTables" "seatsWere" "[I") ∈ lw_all := lw_g (lw_at lw_m1 136 rfl) rfl
theorem q207 : (Jvm.Cond.soleField "CafeTables" "seatsWere") ∈ lw_all := lw_g (lw_at lw_m1 137 rfl) rfl
theorem q208 : (Jvm.Cond.lays "CafeTables" "CafeTables" "fault" "I") ∈ lw_all := lw_g (lw_at lw_m1 138 rfl) rfl
theorem q209 : (Jvm.Cond.soleField "CafeTables" "fault") ∈ lw_all := lw_g (lw_at lw_m1 139 rfl) rfl
theorem q210 : (Jvm.Cond.laysFinal "CafeTables" "CafeTables" "sheets" "[LCafeTables$Sheet;") ∈ lw_all := lw_g (lw_at lw_m1 140 rfl) rfl
theorem q211 : (Jvm.Cond.soleField "CafeTables" "sheets") ∈ lw_all := lw_g (lw_at lw_m1 141 rfl) rfl
theorem q212 : (Jvm.Cond.superclass "CafeTables" "java/lang/Object") ∈ lw_all := lw_g (lw_at lw_m1 142 rfl) rfl
theorem q214 : (Jvm.Cond.instanceMethod ({ cls := "CafeTables", name := "ofTable", desc := "(II)I" } : Jvm.MethodName)) ∈ lw_all := lw_g (lw_at lw_m1 144 rfl) rfl
theorem q215 : (Jvm.Cond.selects "CafeTables" ({ cls := "CafeTables", name := "ofTable", desc := "(II)I" } : Jvm.MethodName) ({ cls := "CafeTables", name := "ofTable", desc := "(II)I" } : Jvm.MethodName)) ∈ lw_all := lw_g (lw_at lw_m1 145 rfl) rfl
theorem q216 : (Jvm.Cond.code ({ cls := "CafeTables", name := "ofTable", desc := "(II)I" } : Jvm.MethodName) prog_1_method_7_code (3 : Nat) (Option.some Jvm.ClassFile.FieldType.int)) ∈ lw_all := lw_g (lw_at lw_m1 146 rfl) rfl
theorem q217 : (Jvm.Cond.methodLink "CafeTables" (108 : Nat) ({ cls := "CafeTables", name := "noTable", desc := "(I)Z" } : Jvm.MethodName)) ∈ lw_all := lw_g (lw_at lw_m1 147 rfl) rfl
theorem q218 : (Jvm.Cond.privateMethod ({ cls := "CafeTables", name := "noTable", desc := "(I)Z" } : Jvm.MethodName)) ∈ lw_tbl := lw_at lw_m1 148 rfl
theorem q219 : (Jvm.Cond.instanceMethod ({ cls := "CafeTables", name := "noTable", desc := "(I)Z" } : Jvm.MethodName)) ∈ lw_all := lw_g (lw_at lw_m1 149 rfl) rfl
theorem q220 : (Jvm.Cond.code ({ cls := "CafeTables", name := "noTable", desc := "(I)Z" } : Jvm.MethodName) prog_1_method_5_code (2 : Nat) (Option.some Jvm.ClassFile.FieldType.boolean)) ∈ lw_all := lw_g (lw_at lw_m1 150 rfl) rfl
theorem q221 : (Jvm.Cond.methodLink "CafeTables" (81 : Nat) ({ cls := "CafeTables", name := "in", desc := "(JJJ)Z" } : Jvm.MethodName)) ∈ lw_all := lw_g (lw_at lw_m1 151 rfl) rfl
theorem q222 : (Jvm.Cond.static ({ cls := "CafeTables", name := "in", desc := "(JJJ)Z" } : Jvm.MethodName)) ∈ lw_all := lw_g (lw_at lw_m1 152 rfl) rfl
theorem q223 : (Jvm.Cond.code ({ cls := "CafeTables", name := "in", desc := "(JJJ)Z" } : Jvm.MethodName) prog_1_method_1_code (6 : Nat) (Option.some Jvm.ClassFile.FieldType.boolean)) ∈ lw_all := lw_g (lw_at lw_m1 153 rfl) rfl
theorem q225 : (Jvm.Cond.instanceMethod ({ cls := "CafeTables", name := "rule", desc := "(I)I" } : Jvm.MethodName)) ∈ lw_all := lw_g (lw_at lw_m1 155 rfl) rfl
theorem q226 : (Jvm.Cond.selects "CafeTables" ({ cls := "CafeTables", name := "rule", desc := "(I)I" } : Jvm.MethodName) ({ cls := "CafeTables", name := "rule", desc := "(I)I" } : Jvm.MethodName)) ∈ lw_all := lw_g (lw_at lw_m1 156 rfl) rfl
theorem q227 : (Jvm.Cond.code ({ cls := "CafeTables", name := "rule", desc := "(I)I" } : Jvm.MethodName) prog_1_method_8_code (3 : Nat) (Option.some Jvm.ClassFile.FieldType.int)) ∈ lw_all := lw_g (lw_at lw_m1 157 rfl) rfl
theorem q228 : (Jvm.Cond.constantLong "CafeTables" (112 : Nat) (2 : Int64)) ∈ lw_all := lw_g (lw_at lw_m1 158 rfl) rfl
theorem q230 : (Jvm.Cond.instanceMethod ({ cls := "CafeTables", name := "patience", desc := "(I)I" } : Jvm.MethodName)) ∈ lw_all := lw_g (lw_at lw_m1 160 rfl) rfl
theorem q231 : (Jvm.Cond.selects "CafeTables" ({ cls := "CafeTables", name := "patience", desc := "(I)I" } : Jvm.MethodName) ({ cls := "CafeTables", name := "patience", desc := "(I)I" } : Jvm.MethodName)) ∈ lw_all := lw_g (lw_at lw_m1 161 rfl) rfl
theorem q232 : (Jvm.Cond.code ({ cls := "CafeTables", name := "patience", desc := "(I)I" } : Jvm.MethodName) prog_1_method_9_code (3 : Nat) (Option.some Jvm.ClassFile.FieldType.int)) ∈ lw_all := lw_g (lw_at lw_m1 162 rfl) rfl
theorem q233 : (Jvm.Cond.constantLong "CafeTables" (114 : Nat) (30 : Int64)) ∈ lw_all := lw_g (lw_at lw_m1 163 rfl) rfl
theorem q235 : (Jvm.Cond.instanceMethod ({ cls := "CafeTables", name := "joining", desc := "(Z)I" } : Jvm.MethodName)) ∈ lw_all := lw_g (lw_at lw_m1 165 rfl) rfl
theorem q236 : (Jvm.Cond.selects "CafeTables" ({ cls := "CafeTables", name := "joining", desc := "(Z)I" } : Jvm.MethodName) ({ cls := "CafeTables", name := "joining", desc := "(Z)I" } : Jvm.MethodName)) ∈ lw_all := lw_g (lw_at lw_m1 166 rfl) rfl
theorem q237 : (Jvm.Cond.code ({ cls := "CafeTables", name := "joining", desc := "(Z)I" } : Jvm.MethodName) prog_1_method_10_code (3 : Nat) (Option.some Jvm.ClassFile.FieldType.int)) ∈ lw_all := lw_g (lw_at lw_m1 167 rfl) rfl
theorem q239 : (Jvm.Cond.instanceMethod ({ cls := "CafeTables", name := "rain", desc := "(I)I" } : Jvm.MethodName)) ∈ lw_all := lw_g (lw_at lw_m1 169 rfl) rfl
theorem q240 : (Jvm.Cond.selects "CafeTables" ({ cls := "CafeTables", name := "rain", desc := "(I)I" } : Jvm.MethodName) ({ cls := "CafeTables", name := "rain", desc := "(I)I" } : Jvm.MethodName)) ∈ lw_all := lw_g (lw_at lw_m1 170 rfl) rfl
theorem q241 : (Jvm.Cond.code ({ cls := "CafeTables", name := "rain", desc := "(I)I" } : Jvm.MethodName) prog_1_method_11_code (2 : Nat) (Option.some Jvm.ClassFile.FieldType.int)) ∈ lw_all := lw_g (lw_at lw_m1 171 rfl) rfl
theorem q242 : (Jvm.Cond.constantLong "CafeTables" (116 : Nat) (399 : Int64)) ∈ lw_all := lw_g (lw_at lw_m1 172 rfl) rfl
theorem q244 : (Jvm.Cond.instanceMethod ({ cls := "CafeTables", name := "group", desc := "(IIIIII)I" } : Jvm.MethodName)) ∈ lw_all := lw_g (lw_at lw_m1 174 rfl) rfl
theorem q245 : (Jvm.Cond.selects "CafeTables" ({ cls := "CafeTables", name := "group", desc := "(IIIIII)I" } : Jvm.MethodName) ({ cls := "CafeTables", name := "group", desc := "(IIIIII)I" } : Jvm.MethodName)) ∈ lw_all := lw_g (lw_at lw_m1 175 rfl) rfl
theorem q246 : (Jvm.Cond.code ({ cls := "CafeTables", name := "group", desc := "(IIIIII)I" } : Jvm.MethodName) prog_1_method_13_code (8 : Nat) (Option.some Jvm.ClassFile.FieldType.int)) ∈ lw_all := lw_g (lw_at lw_m1 176 rfl) rfl
theorem q247 : (Jvm.Cond.constantLong "CafeTables" (85 : Nat) (6 : Int64)) ∈ lw_all := lw_g (lw_at lw_m1 177 rfl) rfl
theorem q248 : (Jvm.Cond.constantLong "CafeTables" (122 : Nat) (99 : Int64)) ∈ lw_all := lw_g (lw_at lw_m1 178 rfl) rfl
theorem q249 : (Jvm.Cond.constantLong "CafeTables" (124 : Nat) (60 : Int64)) ∈ lw_all := lw_g (lw_at lw_m1 179 rfl) rfl
theorem q250 : (Jvm.Cond.interfaceEntry "CafeTables" (118 : Nat)) ∈ lw_tbl := lw_at lw_m1 180 rfl
theorem q251 : (Jvm.Cond.methodLink "CafeTables" (118 : Nat) ({ cls := "java/util/List", name := "size", desc := "()I" } : Jvm.MethodName)) ∈ lw_all := lw_g (lw_at lw_m1 181 rfl) rfl
theorem q260 : (Jvm.Cond.classLink "CafeTables" (126 : Nat) "CafeTables$Guest") ∈ lw_all := lw_g (lw_at lw_m1 190 rfl) rfl
theorem q262 : (Jvm.Cond.methodLink "CafeTables" (128 : Nat) ({ cls := "CafeTables$Guest", name := "<init>", desc := "(LCafeTables;IIIIII)V" } : Jvm.MethodName)) ∈ lw_all := lw_g (lw_at lw_m1 192 rfl) rfl
theorem q272 : (Jvm.Cond.fieldLink "CafeTables" (171 : Nat) "CafeTables$Guest" "number" "I") ∈ lw_all := lw_g (lw_at lw_m1 202 rfl) rfl
theorem q274 : (Jvm.Cond.fieldLink "CafeTables" (158 : Nat) "CafeTables$Guest" "size" "I") ∈ lw_all := lw_g (lw_at lw_m1 204 rfl) rfl
theorem q276 : (Jvm.Cond.fieldLink "CafeTables" (189 : Nat) "CafeTables$Guest" "comes" "I") ∈ lw_all := lw_g (lw_at lw_m1 206 rfl) rfl
theorem q279 : (Jvm.Cond.fieldLink "CafeTables" (160 : Nat) "CafeTables$Guest" "wants" "I") ∈ lw_all := lw_g (lw_at lw_m1 209 rfl) rfl
theorem q281 : (Jvm.Cond.fieldLink "CafeTables" (206 : Nat) "CafeTables$Guest" "lure" "I") ∈ lw_all := lw_g (lw_at lw_m1 211 rfl) rfl
theorem q298 : (Jvm.Cond.classLink "CafeTables" (131 : Nat) "CafeTables$Staying") ∈ lw_all := lw_g (lw_at lw_m1 228 rfl) rfl
theorem q300 : (Jvm.Cond.methodLink "CafeTables" (133 : Nat) ({ cls := "CafeTables$Staying", name := "<init>", desc := "(LCafeTables;IIIIII)V" } : Jvm.MethodName)) ∈ lw_all := lw_g (lw_at lw_m1 230 rfl) rfl
theorem q315 : (Jvm.Cond.classLink "CafeTables" (134 : Nat) "CafeTables$Looked") ∈ lw_all := lw_g (lw_at lw_m2 5 rfl) rfl
theorem q317 : (Jvm.Cond.methodLink "CafeTables" (136 : Nat) ({ cls := "CafeTables$Looked", name := "<init>", desc := "(LCafeTables;IIIIII)V" } : Jvm.MethodName)) ∈ lw_all := lw_g (lw_at lw_m2 7 rfl) rfl
theorem q333 : (Jvm.Cond.interfaceEntry "CafeTables" (137 : Nat)) ∈ lw_tbl := lw_at lw_m2 23 rfl
theorem q334 : (Jvm.Cond.methodLink "CafeTables" (137 : Nat) ({ cls := "java/util/List", name := "add", desc := "(Ljava/lang/Object;)Z" } : Jvm.MethodName)) ∈ lw_all := lw_g (lw_at lw_m2 24 rfl) rfl
theorem q370 : (Jvm.Cond.selects "CafeTables" ({ cls := "java/lang/Object", name := "getClass", desc := "()Ljava/lang/Class;" } : Jvm.MethodName) ({ cls := "java/lang/Object", name := "getClass", desc := "()Ljava/lang/Class;" } : Jvm.MethodName)) ∈ lw_all := lw_g (lw_at lw_m2 60 rfl) rfl
theorem q402 : (Jvm.Cond.instanceMethod ({ cls := "CafeTables", name := "ofGroup", desc := "(II)I" } : Jvm.MethodName)) ∈ lw_all := lw_g (lw_at lw_m2 92 rfl) rfl
theorem q403 : (Jvm.Cond.selects "CafeTables" ({ cls := "CafeTables", name := "ofGroup", desc := "(II)I" } : Jvm.MethodName) ({ cls := "CafeTables", name := "ofGroup", desc := "(II)I" } : Jvm.MethodName)) ∈ lw_all := lw_g (lw_at lw_m2 93 rfl) rfl
theorem q404 : (Jvm.Cond.code ({ cls := "CafeTables", name := "ofGroup", desc := "(II)I" } : Jvm.MethodName) prog_1_method_14_code (3 : Nat) (Option.some Jvm.ClassFile.FieldType.int)) ∈ lw_all := lw_g (lw_at lw_m2 94 rfl) rfl
theorem q405 : (Jvm.Cond.methodLink "CafeTables" (141 : Nat) ({ cls := "CafeTables", name := "noGroup", desc := "(I)Z" } : Jvm.MethodName)) ∈ lw_all := lw_g (lw_at lw_m2 95 rfl) rfl
theorem q406 : (Jvm.Cond.privateMethod ({ cls := "CafeTables", name := "noGroup", desc := "(I)Z" } : Jvm.MethodName)) ∈ lw_tbl := lw_at lw_m2 96 rfl
theorem q407 : (Jvm.Cond.instanceMethod ({ cls := "CafeTables", name := "noGroup", desc := "(I)Z" } : Jvm.MethodName)) ∈ lw_all := lw_g (lw_at lw_m2 97 rfl) rfl
theorem q408 : (Jvm.Cond.code ({ cls := "CafeTables", name := "noGroup", desc := "(I)Z" } : Jvm.MethodName) prog_1_method_12_code (2 : Nat) (Option.some Jvm.ClassFile.FieldType.boolean)) ∈ lw_all := lw_g (lw_at lw_m2 98 rfl) rfl
theorem q409 : (Jvm.Cond.interfaceEntry "CafeTables" (144 : Nat)) ∈ lw_tbl := lw_at lw_m2 99 rfl
theorem q410 : (Jvm.Cond.methodLink "CafeTables" (144 : Nat) ({ cls := "java/util/List", name := "get", desc := "(I)Ljava/lang/Object;" } : Jvm.MethodName)) ∈ lw_all := lw_g (lw_at lw_m2 100 rfl) rfl
theorem q428 : (Jvm.Cond.methodLink "CafeTables" (148 : Nat) ({ cls := "CafeTables$Guest", name := "asked", desc := "(I)I" } : Jvm.MethodName)) ∈ lw_all := lw_g (lw_at lw_m2 118 rfl) rfl
theorem q460 : (Jvm.Cond.instanceMethod ({ cls := "CafeTables", name := "day", desc := "(II)I" } : Jvm.MethodName)) ∈ lw_all := lw_g (lw_at lw_m2 150 rfl) rfl
theorem q461 : (Jvm.Cond.selects "CafeTables" ({ cls := "CafeTables", name := "day", desc := "(II)I" } : Jvm.MethodName) ({ cls := "CafeTables", name := "day", desc := "(II)I" } : Jvm.MethodName)) ∈ lw_all := lw_g (lw_at lw_m2 151 rfl) rfl
theorem q462 : (Jvm.Cond.code ({ cls := "CafeTables", name := "day", desc := "(II)I" } : Jvm.MethodName) prog_1_method_33_code (3 : Nat) (Option.some Jvm.ClassFile.FieldType.int)) ∈ lw_all := lw_g (lw_at lw_m2 152 rfl) rfl
theorem q463 : (Jvm.Cond.methodLink "CafeTables" (234 : Nat) ({ cls := "CafeTables", name := "goTo", desc := "(II)V" } : Jvm.MethodName)) ∈ lw_all := lw_g (lw_at lw_m2 153 rfl) rfl
theorem q464 : (Jvm.Cond.privateMethod ({ cls := "CafeTables", name := "goTo", desc := "(II)V" } : Jvm.MethodName)) ∈ lw_tbl := lw_at lw_m2 154 rfl
theorem q465 : (Jvm.Cond.instanceMethod ({ cls := "CafeTables", name := "goTo", desc := "(II)V" } : Jvm.MethodName)) ∈ lw_all := lw_g (lw_at lw_m2 155 rfl) rfl
theorem q466 : (Jvm.Cond.code ({ cls := "CafeTables", name := "goTo", desc := "(II)V" } : Jvm.MethodName) prog_1_method_30_code (4 : Nat) (Option.none : Option Jvm.ClassFile.FieldType)) ∈ lw_all := lw_g (lw_at lw_m2 156 rfl) rfl
theorem q467 : (Jvm.Cond.methodLink "CafeTables" (225 : Nat) ({ cls := "CafeTables", name := "beginDay", desc := "(I)V" } : Jvm.MethodName)) ∈ lw_all := lw_g (lw_at lw_m2 157 rfl) rfl
theorem q468 : (Jvm.Cond.privateMethod ({ cls := "CafeTables", name := "beginDay", desc := "(I)V" } : Jvm.MethodName)) ∈ lw_tbl := lw_at lw_m2 158 rfl
theorem q469 : (Jvm.Cond.instanceMethod ({ cls := "CafeTables", name := "beginDay", desc := "(I)V" } : Jvm.MethodName)) ∈ lw_all := lw_g (lw_at lw_m2 159 rfl) rfl
theorem q470 : (Jvm.Cond.code ({ cls := "CafeTables", name := "beginDay", desc := "(I)V" } : Jvm.MethodName) prog_1_method_28_code (3 : Nat) (Option.none : Option Jvm.ClassFile.FieldType)) ∈ lw_all := lw_g (lw_at lw_m2 160 rfl) rfl
theorem q471 : (Jvm.Cond.methodLink "CafeTables" (209 : Nat) ({ cls := "java/util/Arrays", name := "fill", desc := "([II)V" } : Jvm.MethodName)) ∈ lw_all := lw_g (lw_at lw_m2 161 rfl) rfl
theorem q474 : (Jvm.Cond.methodLink "CafeTables" (228 : Nat) ({ cls := "CafeTables", name := "goMinute", desc := "(I)V" } : Jvm.MethodName)) ∈ lw_all := lw_g (lw_at lw_m2 164 rfl) rfl
theorem q475 : (Jvm.Cond.privateMethod ({ cls := "CafeTables", name := "goMinute", desc := "(I)V" } : Jvm.MethodName)) ∈ lw_tbl := lw_at lw_m2 165 rfl
theorem q476 : (Jvm.Cond.instanceMethod ({ cls := "CafeTables", name := "goMinute", desc := "(I)V" } : Jvm.MethodName)) ∈ lw_all := lw_g (lw_at lw_m2 166 rfl) rfl
theorem q477 : (Jvm.Cond.code ({ cls := "CafeTables", name := "goMinute", desc := "(I)V" } : Jvm.MethodName) prog_1_method_29_code (3 : Nat) (Option.none : Option Jvm.ClassFile.FieldType)) ∈ lw_all := lw_g (lw_at lw_m2 167 rfl) rfl
theorem q478 : (Jvm.Cond.methodLink "CafeTables" (185 : Nat) ({ cls := "CafeTables", name := "goes", desc := "(II)V" } : Jvm.MethodName)) ∈ lw_all := lw_g (lw_at lw_m2 168 rfl) rfl
theorem q479 : (Jvm.Cond.privateMethod ({ cls := "CafeTables", name := "goes", desc := "(II)V" } : Jvm.MethodName)) ∈ lw_tbl := lw_at lw_m2 169 rfl
theorem q480 : (Jvm.Cond.instanceMethod ({ cls := "CafeTables", name := "goes", desc := "(II)V" } : Jvm.MethodName)) ∈ lw_all := lw_g (lw_at lw_m2 170 rfl) rfl
theorem q481 : (Jvm.Cond.code ({ cls := "CafeTables", name := "goes", desc := "(II)V" } : Jvm.MethodName) prog_1_method_22_code (4 : Nat) (Option.none : Option Jvm.ClassFile.FieldType)) ∈ lw_all := lw_g (lw_at lw_m2 171 rfl) rfl
theorem q482 : (Jvm.Cond.methodLink "CafeTables" (215 : Nat) ({ cls := "CafeTables", name := "beginRain", desc := "(I)V" } : Jvm.MethodName)) ∈ lw_all := lw_g (lw_at lw_m2 172 rfl) rfl
theorem q483 : (Jvm.Cond.privateMethod ({ cls := "CafeTables", name := "beginRain", desc := "(I)V" } : Jvm.MethodName)) ∈ lw_tbl := lw_at lw_m2 173 rfl
theorem q484 : (Jvm.Cond.instanceMethod ({ cls := "CafeTables", name := "beginRain", desc := "(I)V" } : Jvm.MethodName)) ∈ lw_all := lw_g (lw_at lw_m2 174 rfl) rfl
theorem q485 : (Jvm.Cond.code ({ cls := "CafeTables", name := "beginRain", desc := "(I)V" } : Jvm.MethodName) prog_1_method_23_code (4 : Nat) (Option.none : Option Jvm.ClassFile.FieldType)) ∈ lw_all := lw_g (lw_at lw_m2 175 rfl) rfl
theorem q486 : (Jvm.Cond.methodLink "CafeTables" (174 : Nat) ({ cls := "CafeTables", name := "doesSit", desc := "(LCafeTables$Guest;)Z" } : Jvm.MethodName)) ∈ lw_all := lw_g (lw_at lw_m2 176 rfl) rfl
theorem q487 : (Jvm.Cond.privateMethod ({ cls := "CafeTables", name := "doesSit", desc := "(LCafeTables$Guest;)Z" } : Jvm.MethodName)) ∈ lw_tbl := lw_at lw_m2 177 rfl
theorem q488 : (Jvm.Cond.instanceMethod ({ cls := "CafeTables", name := "doesSit", desc := "(LCafeTables$Guest;)Z" } : Jvm.MethodName)) ∈ lw_all := lw_g (lw_at lw_m2 178 rfl) rfl
theorem q489 : (Jvm.Cond.code ({ cls := "CafeTables", name := "doesSit", desc := "(LCafeTables$Guest;)Z" } : Jvm.MethodName) prog_1_method_20_code (4 : Nat) (Option.some Jvm.ClassFile.FieldType.boolean)) ∈ lw_all := lw_g (lw_at lw_m2 179 rfl) rfl
theorem q490 : (Jvm.Cond.methodLink "CafeTables" (167 : Nat) ({ cls := "CafeTables", name := "tableFor", desc := "(LCafeTables$Guest;)I" } : Jvm.MethodName)) ∈ lw_all := lw_g (lw_at lw_m2 180 rfl) rfl
theorem q491 : (Jvm.Cond.privateMethod ({ cls := "CafeTables", name := "tableFor", desc := "(LCafeTables$Guest;)I" } : Jvm.MethodName)) ∈ lw_tbl := lw_at lw_m2 181 rfl
theorem q492 : (Jvm.Cond.instanceMethod ({ cls := "CafeTables", name := "tableFor", desc := "(LCafeTables$Guest;)I" } : Jvm.MethodName)) ∈ lw_all := lw_g (lw_at lw_m2 182 rfl) rfl
theorem q493 : (Jvm.Cond.code ({ cls := "CafeTables", name := "tableFor", desc := "(LCafeTables$Guest;)I" } : Jvm.MethodName) prog_1_method_19_code (3 : Nat) (Option.some Jvm.ClassFile.FieldType.int)) ∈ lw_all := lw_g (lw_at lw_m2 183 rfl) rfl
theorem q494 : (Jvm.Cond.methodLink "CafeTables" (155 : Nat) ({ cls := "CafeTables", name := "isFree", desc := "(I)Z" } : Jvm.MethodName)) ∈ lw_all := lw_g (lw_at lw_m2 184 rfl) rfl
theorem q495 : (Jvm.Cond.privateMethod ({ cls := "CafeTables", name := "isFree", desc := "(I)Z" } : Jvm.MethodName)) ∈ lw_tbl := lw_at lw_m2 185 rfl
theorem q496 : (Jvm.Cond.instanceMethod ({ cls := "CafeTables", name := "isFree", desc := "(I)Z" } : Jvm.MethodName)) ∈ lw_all := lw_g (lw_at lw_m2 186 rfl) rfl
theorem q497 : (Jvm.Cond.code ({ cls := "CafeTables", name := "isFree", desc := "(I)Z" } : Jvm.MethodName) prog_1_method_15_code (2 : Nat) (Option.some Jvm.ClassFile.FieldType.boolean)) ∈ lw_all := lw_g (lw_at lw_m2 187 rfl) rfl
theorem q498 : (Jvm.Cond.methodLink "CafeTables" (163 : Nat) ({ cls := "CafeTables", name := "tightest", desc := "(LCafeTables$Guest;Z)I" } : Jvm.MethodName)) ∈ lw_all := lw_g (lw_at lw_m2 188 rfl) rfl
theorem q499 : (Jvm.Cond.privateMethod ({ cls := "CafeTables", name := "tightest", desc := "(LCafeTables$Guest;Z)I" } : Jvm.MethodName)) ∈ lw_tbl := lw_at lw_m2 189 rfl
theorem q500 : (Jvm.Cond.instanceMethod ({ cls := "CafeTables", name := "tightest", desc := "(LCafeTables$Guest;Z)I" } : Jvm.MethodName)) ∈ lw_all := lw_g (lw_at lw_m2 190 rfl) rfl
theorem q501 : (Jvm.Cond.code ({ cls := "CafeTables", name := "tightest", desc := "(LCafeTables$Guest;Z)I" } : Jvm.MethodName) prog_1_method_18_code (6 : Nat) (Option.some Jvm.ClassFile.FieldType.int)) ∈ lw_all := lw_g (lw_at lw_m2 191 rfl) rfl
theorem q502 : (Jvm.Cond.methodLink "CafeTables" (219 : Nat) ({ cls := "CafeTables", name := "letWaiting", desc := "(I)V" } : Jvm.MethodName)) ∈ lw_all := lw_g (lw_at lw_m2 192 rfl) rfl
theorem q503 : (Jvm.Cond.privateMethod ({ cls := "CafeTables", name := "letWaiting", desc := "(I)V" } : Jvm.MethodName)) ∈ lw_tbl := lw_at lw_m2 193 rfl
theorem q504 : (Jvm.Cond.instanceMethod ({ cls := "CafeTables", name := "letWaiting", desc := "(I)V" } : Jvm.MethodName)) ∈ lw_all := lw_g (lw_at lw_m2 194 rfl) rfl
theorem q505 : (Jvm.Cond.code ({ cls := "CafeTables", name := "letWaiting", desc := "(I)V" } : Jvm.MethodName) prog_1_method_26_code (4 : Nat) (Option.none : Option Jvm.ClassFile.FieldType)) ∈ lw_all := lw_g (lw_at lw_m2 195 rfl) rfl
theorem q506 : (Jvm.Cond.methodLink "CafeTables" (192 : Nat) ({ cls := "CafeTables", name := "nextWaiting", desc := "(I)I" } : Jvm.MethodName)) ∈ lw_all := lw_g (lw_at lw_m2 196 rfl) rfl
theorem q507 : (Jvm.Cond.privateMethod ({ cls := "CafeTables", name := "nextWaiting", desc := "(I)I" } : Jvm.MethodName)) ∈ lw_tbl := lw_at lw_m2 197 rfl
theorem q508 : (Jvm.Cond.instanceMethod ({ cls := "CafeTables", name := "nextWaiting", desc := "(I)I" } : Jvm.MethodName)) ∈ lw_all := lw_g (lw_at lw_m2 198 rfl) rfl
theorem q509 : (Jvm.Cond.code ({ cls := "CafeTables", name := "nextWaiting", desc := "(I)I" } : Jvm.MethodName) prog_1_method_24_code (5 : Nat) (Option.some Jvm.ClassFile.FieldType.int)) ∈ lw_all := lw_g (lw_at lw_m2 199 rfl) rfl
theorem q510 : (Jvm.Cond.methodLink "CafeTables" (195 : Nat) ({ cls := "CafeTables", name := "sitsDown", desc := "(LCafeTables$Guest;I)Z" } : Jvm.MethodName)) ∈ lw_all := lw_g (lw_at lw_m2 200 rfl) rfl
theorem q511 : (Jvm.Cond.privateMethod ({ cls := "CafeTables", name := "sitsDown", desc := "(LCafeTables$Guest;I)Z" } : Jvm.MethodName)) ∈ lw_tbl := lw_at lw_m2 201 rfl
theorem q512 : (Jvm.Cond.instanceMethod ({ cls := "CafeTables", name := "sitsDown", desc := "(LCafeTables$Guest;I)Z" } : Jvm.MethodName)) ∈ lw_all := lw_g (lw_at lw_m2 202 rfl) rfl
theorem q513 : (Jvm.Cond.code ({ cls := "CafeTables", name := "sitsDown", desc := "(LCafeTables$Guest;I)Z" } : Jvm.MethodName) prog_1_method_21_code (4 : Nat) (Option.some Jvm.ClassFile.FieldType.boolean)) ∈ lw_all := lw_g (lw_at lw_m2 203 rfl) rfl
theorem q514 : (Jvm.Cond.methodLink "CafeTables" (178 : Nat) ({ cls := "CafeTables", name := "waitingNow", desc := "()I" } : Jvm.MethodName)) ∈ lw_all := lw_g (lw_at lw_m2 204 rfl) rfl
theorem q515 : (Jvm.Cond.privateMethod ({ cls := "CafeTables", name := "waitingNow", desc := "()I" } : Jvm.MethodName)) ∈ lw_tbl := lw_at lw_m2 205 rfl
theorem q516 : (Jvm.Cond.instanceMethod ({ cls := "CafeTables", name := "waitingNow", desc := "()I" } : Jvm.MethodName)) ∈ lw_all := lw_g (lw_at lw_m2 206 rfl) rfl
theorem q517 : (Jvm.Cond.code ({ cls := "CafeTables", name := "waitingNow", desc := "()I" } : Jvm.MethodName) prog_1_method_17_code (3 : Nat) (Option.some Jvm.ClassFile.FieldType.int)) ∈ lw_all := lw_g (lw_at lw_m2 207 rfl) rfl
theorem q518 : (Jvm.Cond.methodLink "CafeTables" (181 : Nat) ({ cls := "CafeTables$Guest", name := "staysFor", desc := "(Z)I" } : Jvm.MethodName)) ∈ lw_all := lw_g (lw_at lw_m2 208 rfl) rfl
theorem q519 : (Jvm.Cond.methodLink "CafeTables" (199 : Nat) ({ cls := "CafeTables", name := "goesOff", desc := "(III)V" } : Jvm.MethodName)) ∈ lw_all := lw_g (lw_at lw_m2 209 rfl) rfl
theorem q520 : (Jvm.Cond.privateMethod ({ cls := "CafeTables", name := "goesOff", desc := "(III)V" } : Jvm.MethodName)) ∈ lw_tbl := lw_at lw_m2 210 rfl
theorem q521 : (Jvm.Cond.instanceMethod ({ cls := "CafeTables", name := "goesOff", desc := "(III)V" } : Jvm.MethodName)) ∈ lw_all := lw_g (lw_at lw_m2 211 rfl) rfl
theorem q522 : (Jvm.Cond.code ({ cls := "CafeTables", name := "goesOff", desc := "(III)V" } : Jvm.MethodName) prog_1_method_25_code (4 : Nat) (Option.none : Option Jvm.ClassFile.FieldType)) ∈ lw_all := lw_g (lw_at lw_m2 212 rfl) rfl
theorem q523 : (Jvm.Cond.methodLink "CafeTables" (222 : Nat) ({ cls := "CafeTables", name := "letCome", desc := "(I)V" } : Jvm.MethodName)) ∈ lw_all := lw_g (lw_at lw_m2 213 rfl) rfl
theorem q524 : (Jvm.Cond.privateMethod ({ cls := "CafeTables", name := "letCome", desc := "(I)V" } : Jvm.MethodName)) ∈ lw_tbl := lw_at lw_m2 214 rfl
theorem q525 : (Jvm.Cond.instanceMethod ({ cls := "CafeTables", name := "letCome", desc := "(I)V" } : Jvm.MethodName)) ∈ lw_all := lw_g (lw_at lw_m2 215 rfl) rfl
theorem q526 : (Jvm.Cond.code ({ cls := "CafeTables", name := "letCome", desc := "(I)V" } : Jvm.MethodName) prog_1_method_27_code (4 : Nat) (Option.none : Option Jvm.ClassFile.FieldType)) ∈ lw_all := lw_g (lw_at lw_m2 216 rfl) rfl
theorem q527 : (Jvm.Cond.methodLink "CafeTables" (203 : Nat) ({ cls := "CafeTables", name := "takenNow", desc := "()I" } : Jvm.MethodName)) ∈ lw_all := lw_g (lw_at lw_m2 217 rfl) rfl
theorem q528 : (Jvm.Cond.privateMethod ({ cls := "CafeTables", name := "takenNow", desc := "()I" } : Jvm.MethodName)) ∈ lw_tbl := lw_at lw_m2 218 rfl
theorem q529 : (Jvm.Cond.instanceMethod ({ cls := "CafeTables", name := "takenNow", desc := "()I" } : Jvm.MethodName)) ∈ lw_all := lw_g (lw_at lw_m2 219 rfl) rfl
theorem q530 : (Jvm.Cond.code ({ cls := "CafeTables", name := "takenNow", desc := "()I" } : Jvm.MethodName) prog_1_method_16_code (3 : Nat) (Option.some Jvm.ClassFile.FieldType.int)) ∈ lw_all := lw_g (lw_at lw_m2 220 rfl) rfl
theorem q531 : (Jvm.Cond.methodLink "CafeTables" (237 : Nat) ({ cls := "CafeTables", name := "coinOf", desc := "(I)I" } : Jvm.MethodName)) ∈ lw_all := lw_g (lw_at lw_m2 221 rfl) rfl
theorem q532 : (Jvm.Cond.privateMethod ({ cls := "CafeTables", name := "coinOf", desc := "(I)I" } : Jvm.MethodName)) ∈ lw_tbl := lw_at lw_m2 222 rfl
theorem q533 : (Jvm.Cond.instanceMethod ({ cls := "CafeTables", name := "coinOf", desc := "(I)I" } : Jvm.MethodName)) ∈ lw_all := lw_g (lw_at lw_m2 223 rfl) rfl
theorem q534 : (Jvm.Cond.code ({ cls := "CafeTables", name := "coinOf", desc := "(I)I" } : Jvm.MethodName) prog_1_method_31_code (2 : Nat) (Option.some Jvm.ClassFile.FieldType.int)) ∈ lw_all := lw_g (lw_at lw_m2 224 rfl) rfl
theorem q535 : (Jvm.Cond.methodLink "CafeTables" (231 : Nat) ({ cls := "CafeTables$Guest", name := "coinFor", desc := "(I)I" } : Jvm.MethodName)) ∈ lw_all := lw_g (lw_at lw_m2 225 rfl) rfl
theorem q553 : (Jvm.Cond.instanceMethod ({ cls := "CafeTables", name := "taken", desc := "(II)I" } : Jvm.MethodName)) ∈ lw_all := lw_g (lw_at lw_m3 3 rfl) rfl
theorem q554 : (Jvm.Cond.selects "CafeTables" ({ cls := "CafeTables", name := "taken", desc := "(II)I" } : Jvm.MethodName) ({ cls := "CafeTables", name := "taken", desc := "(II)I" } : Jvm.MethodName)) ∈ lw_all := lw_g (lw_at lw_m3 4 rfl) rfl
theorem q555 : (Jvm.Cond.code ({ cls := "CafeTables", name := "taken", desc := "(II)I" } : Jvm.MethodName) prog_1_method_34_code (3 : Nat) (Option.some Jvm.ClassFile.FieldType.int)) ∈ lw_all := lw_g (lw_at lw_m3 5 rfl) rfl
theorem q557 : (Jvm.Cond.instanceMethod ({ cls := "CafeTables", name := "coin", desc := "()I" } : Jvm.MethodName)) ∈ lw_all := lw_g (lw_at lw_m3 7 rfl) rfl
theorem q558 : (Jvm.Cond.selects "CafeTables" ({ cls := "CafeTables", name := "coin", desc := "()I" } : Jvm.MethodName) ({ cls := "CafeTables", name := "coin", desc := "()I" } : Jvm.MethodName)) ∈ lw_all := lw_g (lw_at lw_m3 8 rfl) rfl
theorem q559 : (Jvm.Cond.code ({ cls := "CafeTables", name := "coin", desc := "()I" } : Jvm.MethodName) prog_1_method_35_code (1 : Nat) (Option.some Jvm.ClassFile.FieldType.int)) ∈ lw_all := lw_g (lw_at lw_m3 9 rfl) rfl
theorem q560 : (Jvm.Cond.methodLink "CafeTables" (240 : Nat) ({ cls := "CafeTables", name := "coinOfDay", desc := "(I)I" } : Jvm.MethodName)) ∈ lw_all := lw_g (lw_at lw_m3 10 rfl) rfl
theorem q561 : (Jvm.Cond.privateMethod ({ cls := "CafeTables", name := "coinOfDay", desc := "(I)I" } : Jvm.MethodName)) ∈ lw_tbl := lw_at lw_m3 11 rfl
theorem q562 : (Jvm.Cond.instanceMethod ({ cls := "CafeTables", name := "coinOfDay", desc := "(I)I" } : Jvm.MethodName)) ∈ lw_all := lw_g (lw_at lw_m3 12 rfl) rfl
theorem q563 : (Jvm.Cond.code ({ cls := "CafeTables", name := "coinOfDay", desc := "(I)I" } : Jvm.MethodName) prog_1_method_32_code (4 : Nat) (Option.some Jvm.ClassFile.FieldType.int)) ∈ lw_all := lw_g (lw_at lw_m3 13 rfl) rfl
theorem q565 : (Jvm.Cond.instanceMethod ({ cls := "CafeTables", name := "worth", desc := "(I)J" } : Jvm.MethodName)) ∈ lw_all := lw_g (lw_at lw_m3 15 rfl) rfl
theorem q566 : (Jvm.Cond.selects "CafeTables" ({ cls := "CafeTables", name := "worth", desc := "(I)J" } : Jvm.MethodName) ({ cls := "CafeTables", name := "worth", desc := "(I)J" } : Jvm.MethodName)) ∈ lw_all := lw_g (lw_at lw_m3 16 rfl) rfl
theorem q567 : (Jvm.Cond.code ({ cls := "CafeTables", name := "worth", desc := "(I)J" } : Jvm.MethodName) prog_1_method_36_code (2 : Nat) (Option.some Jvm.ClassFile.FieldType.long)) ∈ lw_all := lw_g (lw_at lw_m3 17 rfl) rfl
theorem q568 : (Jvm.Cond.constantLong "CafeTables" (243 : Nat) (-9223372036854775808 : Int64)) ∈ lw_all := lw_g (lw_at lw_m3 18 rfl) rfl
theorem q570 : (Jvm.Cond.instanceMethod ({ cls := "CafeTables", name := "plan", desc := "(I)I" } : Jvm.MethodName)) ∈ lw_all := lw_g (lw_at lw_m3 20 rfl) rfl
theorem q571 : (Jvm.Cond.selects "CafeTables" ({ cls := "CafeTables", name := "plan", desc := "(I)I" } : Jvm.MethodName) ({ cls := "CafeTables", name := "plan", desc := "(I)I" } : Jvm.MethodName)) ∈ lw_all := lw_g (lw_at lw_m3 21 rfl) rfl
theorem q572 : (Jvm.Cond.code ({ cls := "CafeTables", name := "plan", desc := "(I)I" } : Jvm.MethodName) prog_1_method_39_code (2 : Nat) (Option.some Jvm.ClassFile.FieldType.int)) ∈ lw_all := lw_g (lw_at lw_m3 22 rfl) rfl
theorem q573 : (Jvm.Cond.constantLong "CafeTables" (259 : Nat) (-1 : Int64)) ∈ lw_all := lw_g (lw_at lw_m3 23 rfl) rfl
theorem q574 : (Jvm.Cond.methodLink "CafeTables" (245 : Nat) ({ cls := "java/lang/Math", name := "min", desc := "(II)I" } : Jvm.MethodName)) ∈ lw_all := lw_g (lw_at lw_m3 24 rfl) rfl
theorem q575 : (Jvm.Cond.methodLink "CafeTables" (256 : Nat) ({ cls := "CafeTables", name := "tryPlan", desc := "(II)V" } : Jvm.MethodName)) ∈ lw_all := lw_g (lw_at lw_m3 25 rfl) rfl
theorem q576 : (Jvm.Cond.privateMethod ({ cls := "CafeTables", name := "tryPlan", desc := "(II)V" } : Jvm.MethodName)) ∈ lw_tbl := lw_at lw_m3 26 rfl
theorem q577 : (Jvm.Cond.instanceMethod ({ cls := "CafeTables", name := "tryPlan", desc := "(II)V" } : Jvm.MethodName)) ∈ lw_all := lw_g (lw_at lw_m3 27 rfl) rfl
theorem q578 : (Jvm.Cond.code ({ cls := "CafeTables", name := "tryPlan", desc := "(II)V" } : Jvm.MethodName) prog_1_method_38_code (5 : Nat) (Option.none : Option Jvm.ClassFile.FieldType)) ∈ lw_all := lw_g (lw_at lw_m3 28 rfl) rfl
theorem q579 : (Jvm.Cond.methodLink "CafeTables" (87 : Nat) ({ cls := "java/lang/System", name := "arraycopy", desc := "(Ljava/lang/Object;ILjava/lang/Object;II)V" } : Jvm.MethodName)) ∈ lw_all := lw_g (lw_at lw_m3 29 rfl) rfl
theorem q580 : (Jvm.Cond.methodLink "CafeTables" (252 : Nat) ({ cls := "CafeTables", name := "isClear", desc := "(II)Z" } : Jvm.MethodName)) ∈ lw_all := lw_g (lw_at lw_m3 30 rfl) rfl
theorem q581 : (Jvm.Cond.privateMethod ({ cls := "CafeTables", name := "isClear", desc := "(II)Z" } : Jvm.MethodName)) ∈ lw_tbl := lw_at lw_m3 31 rfl
theorem q582 : (Jvm.Cond.instanceMethod ({ cls := "CafeTables", name := "isClear", desc := "(II)Z" } : Jvm.MethodName)) ∈ lw_all := lw_g (lw_at lw_m3 32 rfl) rfl
theorem q583 : (Jvm.Cond.code ({ cls := "CafeTables", name := "isClear", desc := "(II)Z" } : Jvm.MethodName) prog_1_method_37_code (7 : Nat) (Option.some Jvm.ClassFile.FieldType.boolean)) ∈ lw_all := lw_g (lw_at lw_m3 33 rfl) rfl
theorem q585 : (Jvm.Cond.instanceMethod ({ cls := "CafeTables", name := "bestRule", desc := "(I)I" } : Jvm.MethodName)) ∈ lw_all := lw_g (lw_at lw_m3 35 rfl) rfl
theorem q586 : (Jvm.Cond.selects "CafeTables" ({ cls := "CafeTables", name := "bestRule", desc := "(I)I" } : Jvm.MethodName) ({ cls := "CafeTables", name := "bestRule", desc := "(I)I" } : Jvm.MethodName)) ∈ lw_all := lw_g (lw_at lw_m3 36 rfl) rfl
theorem q587 : (Jvm.Cond.code ({ cls := "CafeTables", name := "bestRule", desc := "(I)I" } : Jvm.MethodName) prog_1_method_40_code (7 : Nat) (Option.some Jvm.ClassFile.FieldType.int)) ∈ lw_all := lw_g (lw_at lw_m3 37 rfl) rfl
theorem q588 : (Jvm.Cond.methodLink "CafeTables" (261 : Nat) ({ cls := "java/lang/Math", name := "max", desc := "(II)I" } : Jvm.MethodName)) ∈ lw_all := lw_g (lw_at lw_m3 38 rfl) rfl
theorem q590 : (Jvm.Cond.instanceMethod ({ cls := "CafeTables", name := "waiting", desc := "(I)I" } : Jvm.MethodName)) ∈ lw_all := lw_g (lw_at lw_m3 40 rfl) rfl
theorem q591 : (Jvm.Cond.selects "CafeTables" ({ cls := "CafeTables", name := "waiting", desc := "(I)I" } : Jvm.MethodName) ({ cls := "CafeTables", name := "waiting", desc := "(I)I" } : Jvm.MethodName)) ∈ lw_all := lw_g (lw_at lw_m3 41 rfl) rfl
theorem q592 : (Jvm.Cond.code ({ cls := "CafeTables", name := "waiting", desc := "(I)I" } : Jvm.MethodName) prog_1_method_42_code (4 : Nat) (Option.some Jvm.ClassFile.FieldType.int)) ∈ lw_all := lw_g (lw_at lw_m3 42 rfl) rfl
theorem q593 : (Jvm.Cond.methodLink "CafeTables" (264 : Nat) ({ cls := "CafeTables", name := "layPatiences", desc := "()V" } : Jvm.MethodName)) ∈ lw_all := lw_g (lw_at lw_m3 43 rfl) rfl
theorem q594 : (Jvm.Cond.privateMethod ({ cls := "CafeTables", name := "layPatiences", desc := "()V" } : Jvm.MethodName)) ∈ lw_tbl := lw_at lw_m3 44 rfl
theorem q595 : (Jvm.Cond.instanceMethod ({ cls := "CafeTables", name := "layPatiences", desc := "()V" } : Jvm.MethodName)) ∈ lw_all := lw_g (lw_at lw_m3 45 rfl) rfl
theorem q596 : (Jvm.Cond.code ({ cls := "CafeTables", name := "layPatiences", desc := "()V" } : Jvm.MethodName) prog_1_method_41_code (3 : Nat) (Option.none : Option Jvm.ClassFile.FieldType)) ∈ lw_all := lw_g (lw_at lw_m3 46 rfl) rfl
theorem q598 : (Jvm.Cond.instanceMethod ({ cls := "CafeTables", name := "mix", desc := "(II)I" } : Jvm.MethodName)) ∈ lw_all := lw_g (lw_at lw_m3 48 rfl) rfl
theorem q599 : (Jvm.Cond.selects "CafeTables" ({ cls := "CafeTables", name := "mix", desc := "(II)I" } : Jvm.MethodName) ({ cls := "CafeTables", name := "mix", desc := "(II)I" } : Jvm.MethodName)) ∈ lw_all := lw_g (lw_at lw_m3 49 rfl) rfl
theorem q600 : (Jvm.Cond.code ({ cls := "CafeTables", name := "mix", desc := "(II)I" } : Jvm.MethodName) prog_1_method_44_code (12 : Nat) (Option.some Jvm.ClassFile.FieldType.int)) ∈ lw_all := lw_g (lw_at lw_m3 50 rfl) rfl
theorem q601 : (Jvm.Cond.constantLong "CafeTables" (267 : Nat) (24 : Int64)) ∈ lw_all := lw_g (lw_at lw_m3 51 rfl) rfl
theorem q602 : (Jvm.Cond.constantLong "CafeTables" (269 : Nat) (3 : Int64)) ∈ lw_all := lw_g (lw_at lw_m3 52 rfl) rfl
theorem q603 : (Jvm.Cond.methodLink "CafeTables" (271 : Nat) ({ cls := "CafeTables", name := "layMix", desc := "(III)V" } : Jvm.MethodName)) ∈ lw_all := lw_g (lw_at lw_m3 53 rfl) rfl
theorem q604 : (Jvm.Cond.privateMethod ({ cls := "CafeTables", name := "layMix", desc := "(III)V" } : Jvm.MethodName)) ∈ lw_tbl := lw_at lw_m3 54 rfl
theorem q605 : (Jvm.Cond.instanceMethod ({ cls := "CafeTables", name := "layMix", desc := "(III)V" } : Jvm.MethodName)) ∈ lw_all := lw_g (lw_at lw_m3 55 rfl) rfl
theorem q606 : (Jvm.Cond.code ({ cls := "CafeTables", name := "layMix", desc := "(III)V" } : Jvm.MethodName) prog_1_method_43_code (5 : Nat) (Option.none : Option Jvm.ClassFile.FieldType)) ∈ lw_all := lw_g (lw_at lw_m3 56 rfl) rfl
theorem q608 : (Jvm.Cond.instanceMethod ({ cls := "CafeTables", name := "till", desc := "(II)I" } : Jvm.MethodName)) ∈ lw_all := lw_g (lw_at lw_m3 58 rfl) rfl
theorem q609 : (Jvm.Cond.selects "CafeTables" ({ cls := "CafeTables", name := "till", desc := "(II)I" } : Jvm.MethodName) ({ cls := "CafeTables", name := "till", desc := "(II)I" } : Jvm.MethodName)) ∈ lw_all := lw_g (lw_at lw_m3 59 rfl) rfl
theorem q610 : (Jvm.Cond.code ({ cls := "CafeTables", name := "till", desc := "(II)I" } : Jvm.MethodName) prog_1_method_45_code (7 : Nat) (Option.some Jvm.ClassFile.FieldType.int)) ∈ lw_all := lw_g (lw_at lw_m3 60 rfl) rfl
theorem q612 : (Jvm.Cond.instanceMethod ({ cls := "CafeTables", name := "names", desc := "(IIIIII)J" } : Jvm.MethodName)) ∈ lw_all := lw_g (lw_at lw_m3 62 rfl) rfl
theorem q613 : (Jvm.Cond.selects "CafeTables" ({ cls := "CafeTables", name := "names", desc := "(IIIIII)J" } : Jvm.MethodName) ({ cls := "CafeTables", name := "names", desc := "(IIIIII)J" } : Jvm.MethodName)) ∈ lw_all := lw_g (lw_at lw_m3 63 rfl) rfl
theorem q614 : (Jvm.Cond.code ({ cls := "CafeTables", name := "names", desc := "(IIIIII)J" } : Jvm.MethodName) prog_1_method_49_code (7 : Nat) (Option.some Jvm.ClassFile.FieldType.long)) ∈ lw_all := lw_g (lw_at lw_m3 64 rfl) rfl
theorem q615 : (Jvm.Cond.constantLong "CafeTables" (276 : Nat) (8 : Int64)) ∈ lw_all := lw_g (lw_at lw_m3 65 rfl) rfl
theorem q616 : (Jvm.Cond.methodLink "CafeTables" (289 : Nat) ({ cls := "CafeTables", name := "isBook", desc := "(IIII)Z" } : Jvm.MethodName)) ∈ lw_all := lw_g (lw_at lw_m3 66 rfl) rfl
theorem q617 : (Jvm.Cond.static ({ cls := "CafeTables", name := "isBook", desc := "(IIII)Z" } : Jvm.MethodName)) ∈ lw_all := lw_g (lw_at lw_m3 67 rfl) rfl
theorem q618 : (Jvm.Cond.code ({ cls := "CafeTables", name := "isBook", desc := "(IIII)Z" } : Jvm.MethodName) prog_1_method_46_code (4 : Nat) (Option.some Jvm.ClassFile.FieldType.boolean)) ∈ lw_all := lw_g (lw_at lw_m3 68 rfl) rfl
theorem q619 : (Jvm.Cond.constantLong "CafeTables" (274 : Nat) (100 : Int64)) ∈ lw_all := lw_g (lw_at lw_m3 69 rfl) rfl
theorem q620 : (Jvm.Cond.constantLong "CafeTables" (278 : Nat) (9 : Int64)) ∈ lw_all := lw_g (lw_at lw_m3 70 rfl) rfl
theorem q621 : (Jvm.Cond.methodLink "CafeTables" (293 : Nat) ({ cls := "CafeTables", name := "awaited", desc := "(IIIII)J" } : Jvm.MethodName)) ∈ lw_all := lw_g (lw_at lw_m3 71 rfl) rfl
theorem q622 : (Jvm.Cond.static ({ cls := "CafeTables", name := "awaited", desc := "(IIIII)J" } : Jvm.MethodName)) ∈ lw_all := lw_g (lw_at lw_m3 72 rfl) rfl
theorem q623 : (Jvm.Cond.code ({ cls := "CafeTables", name := "awaited", desc := "(IIIII)J" } : Jvm.MethodName) prog_1_method_47_code (11 : Nat) (Option.some Jvm.ClassFile.FieldType.long)) ∈ lw_all := lw_g (lw_at lw_m3 73 rfl) rfl
theorem q624 : (Jvm.Cond.methodLink "CafeTables" (280 : Nat) ({ cls := "java/lang/Integer", name := "bitCount", desc := "(I)I" } : Jvm.MethodName)) ∈ lw_all := lw_g (lw_at lw_m3 74 rfl) rfl
theorem q630 : (Jvm.Cond.methodLink "CafeTables" (285 : Nat) ({ cls := "CafeTables", name := "hundreds", desc := "(I)J" } : Jvm.MethodName)) ∈ lw_all := lw_g (lw_at lw_m3 80 rfl) rfl
theorem q631 : (Jvm.Cond.static ({ cls := "CafeTables", name := "hundreds", desc := "(I)J" } : Jvm.MethodName)) ∈ lw_all := lw_g (lw_at lw_m3 81 rfl) rfl
theorem q632 : (Jvm.Cond.code ({ cls := "CafeTables", name := "hundreds", desc := "(I)J" } : Jvm.MethodName) prog_1_method_48_code (1 : Nat) (Option.some Jvm.ClassFile.FieldType.long)) ∈ lw_all := lw_g (lw_at lw_m3 82 rfl) rfl
theorem q633 : (Jvm.Cond.methodLink "CafeTables" (297 : Nat) ({ cls := "CafeTables", name := "told", desc := "(JJI)J" } : Jvm.MethodName)) ∈ lw_all := lw_g (lw_at lw_m3 83 rfl) rfl
theorem q634 : (Jvm.Cond.static ({ cls := "CafeTables", name := "told", desc := "(JJI)J" } : Jvm.MethodName)) ∈ lw_all := lw_g (lw_at lw_m3 84 rfl) rfl
theorem q635 : (Jvm.Cond.code ({ cls := "CafeTables", name := "told", desc := "(JJI)J" } : Jvm.MethodName) prog_1_method_3_code (5 : Nat) (Option.some Jvm.ClassFile.FieldType.long)) ∈ lw_all := lw_g (lw_at lw_m3 85 rfl) rfl
theorem q636 : (Jvm.Cond.methodLink "CafeTables" (9 : Nat) ({ cls := "CafeTables", name := "common", desc := "(JJ)J" } : Jvm.MethodName)) ∈ lw_all := lw_g (lw_at lw_m3 86 rfl) rfl
theorem q637 : (Jvm.Cond.static ({ cls := "CafeTables", name := "common", desc := "(JJ)J" } : Jvm.MethodName)) ∈ lw_all := lw_g (lw_at lw_m3 87 rfl) rfl
theorem q638 : (Jvm.Cond.code ({ cls := "CafeTables", name := "common", desc := "(JJ)J" } : Jvm.MethodName) prog_1_method_2_code (4 : Nat) (Option.some Jvm.ClassFile.FieldType.long)) ∈ lw_all := lw_g (lw_at lw_m3 88 rfl) rfl
theorem q639 : (Jvm.Cond.methodLink "CafeTables" (3 : Nat) ({ cls := "java/lang/Math", name := "abs", desc := "(J)J" } : Jvm.MethodName)) ∈ lw_all := lw_g (lw_at lw_m3 89 rfl) rfl
theorem q643 : (Jvm.Cond.instanceMethod ({ cls := "CafeTables", name := "take", desc := "(IIII)I" } : Jvm.MethodName)) ∈ lw_all := lw_g (lw_at lw_m3 93 rfl) rfl
theorem q644 : (Jvm.Cond.selects "CafeTables" ({ cls := "CafeTables", name := "take", desc := "(IIII)I" } : Jvm.MethodName) ({ cls := "CafeTables", name := "take", desc := "(IIII)I" } : Jvm.MethodName)) ∈ lw_all := lw_g (lw_at lw_m3 94 rfl) rfl
theorem q645 : (Jvm.Cond.code ({ cls := "CafeTables", name := "take", desc := "(IIII)I" } : Jvm.MethodName) prog_1_method_50_code (11 : Nat) (Option.some Jvm.ClassFile.FieldType.int)) ∈ lw_all := lw_g (lw_at lw_m3 95 rfl) rfl
theorem q646 : (Jvm.Cond.methodLink "CafeTables" (301 : Nat) ({ cls := "java/lang/Math", name := "max", desc := "(JJ)J" } : Jvm.MethodName)) ∈ lw_all := lw_g (lw_at lw_m3 96 rfl) rfl
theorem q650 : (Jvm.Cond.instanceMethod ({ cls := "CafeTables", name := "sheet", desc := "(III)I" } : Jvm.MethodName)) ∈ lw_all := lw_g (lw_at lw_m3 100 rfl) rfl
theorem q651 : (Jvm.Cond.selects "CafeTables" ({ cls := "CafeTables", name := "sheet", desc := "(III)I" } : Jvm.MethodName) ({ cls := "CafeTables", name := "sheet", desc := "(III)I" } : Jvm.MethodName)) ∈ lw_all := lw_g (lw_at lw_m3 101 rfl) rfl
theorem q652 : (Jvm.Cond.codeWith ({ cls := "CafeTables", name := "sheet", desc := "(III)I" } : Jvm.MethodName) prog_1_method_60_code (5 : Nat) (Option.some Jvm.ClassFile.FieldType.int) [((43 : Nat), (62 : Nat), (63 : Nat), (328 : Nat))]) ∈ lw_all := lw_g (lw_at lw_m3 102 rfl) rfl
theorem q653 : (Jvm.Cond.classLink "CafeTables" (328 : Nat) "java/lang/NegativeArraySizeException") ∈ lw_all := lw_g (lw_at lw_m3 103 rfl) rfl
theorem q740 : (Jvm.Cond.methodLink "CafeTables" (315 : Nat) ({ cls := "CafeTables", name := "noSheet", desc := "(I)Z" } : Jvm.MethodName)) ∈ lw_all := lw_g (lw_at lw_m3 190 rfl) rfl
theorem q741 : (Jvm.Cond.static ({ cls := "CafeTables", name := "noSheet", desc := "(I)Z" } : Jvm.MethodName)) ∈ lw_all := lw_g (lw_at lw_m3 191 rfl) rfl
theorem q742 : (Jvm.Cond.code ({ cls := "CafeTables", name := "noSheet", desc := "(I)Z" } : Jvm.MethodName) prog_1_method_58_code (1 : Nat) (Option.some Jvm.ClassFile.FieldType.boolean)) ∈ lw_all := lw_g (lw_at lw_m3 192 rfl) rfl
theorem q743 : (Jvm.Cond.methodLink "CafeTables" (318 : Nat) ({ cls := "CafeTables", name := "refused", desc := "(I)I" } : Jvm.MethodName)) ∈ lw_all := lw_g (lw_at lw_m3 193 rfl) rfl
theorem q744 : (Jvm.Cond.privateMethod ({ cls := "CafeTables", name := "refused", desc := "(I)I" } : Jvm.MethodName)) ∈ lw_tbl := lw_at lw_m3 194 rfl
theorem q745 : (Jvm.Cond.instanceMethod ({ cls := "CafeTables", name := "refused", desc := "(I)I" } : Jvm.MethodName)) ∈ lw_all := lw_g (lw_at lw_m3 195 rfl) rfl
theorem q746 : (Jvm.Cond.code ({ cls := "CafeTables", name := "refused", desc := "(I)I" } : Jvm.MethodName) prog_1_method_51_code (2 : Nat) (Option.some Jvm.ClassFile.FieldType.int)) ∈ lw_all := lw_g (lw_at lw_m3 196 rfl) rfl
theorem q748 : (Jvm.Cond.methodLink "CafeTables" (321 : Nat) ({ cls := "CafeTables", name := "rowOf", desc := "(II)Ljava/lang/Object;" } : Jvm.MethodName)) ∈ lw_all := lw_g (lw_at lw_m3 198 rfl) rfl
theorem q749 : (Jvm.Cond.static ({ cls := "CafeTables", name := "rowOf", desc := "(II)Ljava/lang/Object;" } : Jvm.MethodName)) ∈ lw_all := lw_g (lw_at lw_m3 199 rfl) rfl
theorem q750 : (Jvm.Cond.code ({ cls := "CafeTables", name := "rowOf", desc := "(II)Ljava/lang/Object;" } : Jvm.MethodName) prog_1_method_54_code (2 : Nat) (Option.some (Jvm.ClassFile.FieldType.object "java/lang/Object"))) ∈ lw_all := lw_g (lw_at lw_m3 200 rfl) rfl
theorem q751 : (Jvm.Cond.methodLink "CafeTables" (325 : Nat) ({ cls := "CafeTables$Sheet", name := "<init>", desc := "(Ljava/lang/Object;)V" } : Jvm.MethodName)) ∈ lw_all := lw_g (lw_at lw_m3 201 rfl) rfl
theorem q756 : (Jvm.Cond.fieldLink "CafeTables" (311 : Nat) "CafeTables$Sheet" "row" "Ljava/lang/Object;") ∈ lw_all := lw_g (lw_at lw_m3 206 rfl) rfl
theorem q761 : (Jvm.Cond.methodLink "CafeTables" (330 : Nat) ({ cls := "CafeTables", name := "fails", desc := "(I)I" } : Jvm.MethodName)) ∈ lw_all := lw_g (lw_at lw_m3 211 rfl) rfl
theorem q762 : (Jvm.Cond.privateMethod ({ cls := "CafeTables", name := "fails", desc := "(I)I" } : Jvm.MethodName)) ∈ lw_tbl := lw_at lw_m3 212 rfl
theorem q763 : (Jvm.Cond.instanceMethod ({ cls := "CafeTables", name := "fails", desc := "(I)I" } : Jvm.MethodName)) ∈ lw_all := lw_g (lw_at lw_m3 213 rfl) rfl
theorem q764 : (Jvm.Cond.code ({ cls := "CafeTables", name := "fails", desc := "(I)I" } : Jvm.MethodName) prog_1_method_52_code (2 : Nat) (Option.some Jvm.ClassFile.FieldType.int)) ∈ lw_all := lw_g (lw_at lw_m3 214 rfl) rfl
theorem q766 : (Jvm.Cond.instanceMethod ({ cls := "CafeTables", name := "lose", desc := "(I)I" } : Jvm.MethodName)) ∈ lw_all := lw_g (lw_at lw_m3 216 rfl) rfl
theorem q767 : (Jvm.Cond.selects "CafeTables" ({ cls := "CafeTables", name := "lose", desc := "(I)I" } : Jvm.MethodName) ({ cls := "CafeTables", name := "lose", desc := "(I)I" } : Jvm.MethodName)) ∈ lw_all := lw_g (lw_at lw_m3 217 rfl) rfl
theorem q768 : (Jvm.Cond.code ({ cls := "CafeTables", name := "lose", desc := "(I)I" } : Jvm.MethodName) prog_1_method_61_code (3 : Nat) (Option.some Jvm.ClassFile.FieldType.int)) ∈ lw_all := lw_g (lw_at lw_m3 218 rfl) rfl
theorem q770 : (Jvm.Cond.instanceMethod ({ cls := "CafeTables", name := "put", desc := "(III)I" } : Jvm.MethodName)) ∈ lw_all := lw_g (lw_at lw_m3 220 rfl) rfl
theorem q771 : (Jvm.Cond.selects "CafeTables" ({ cls := "CafeTables", name := "put", desc := "(III)I" } : Jvm.MethodName) ({ cls := "CafeTables", name := "put", desc := "(III)I" } : Jvm.MethodName)) ∈ lw_all := lw_g (lw_at lw_m3 221 rfl) rfl
theorem q772 : (Jvm.Cond.codeWith ({ cls := "CafeTables", name := "put", desc := "(III)I" } : Jvm.MethodName) prog_1_method_62_code (5 : Nat) (Option.some Jvm.ClassFile.FieldType.int) [((18 : Nat), (33 : Nat), (34 : Nat), (337 : Nat)), ((18 : Nat), (33 : Nat), (42 : Nat), (339 : Nat))]) ∈ lw_all := lw_g (lw_at lw_m3 222 rfl) rfl
theorem q773 : (Jvm.Cond.classLink "CafeTables" (337 : Nat) "java/lang/NullPointerException") ∈ lw_all := lw_g (lw_at lw_m3 223 rfl) rfl
theorem q798 : (Jvm.Cond.classLink "CafeTables" (339 : Nat) "java/lang/IndexOutOfBoundsException") ∈ lw_all := lw_g (lw_at lw_m4 8 rfl) rfl
theorem q817 : (Jvm.Cond.methodLink "CafeTables" (333 : Nat) ({ cls := "CafeTables", name := "setIn", desc := "(Ljava/lang/Object;II)V" } : Jvm.MethodName)) ∈ lw_all := lw_g (lw_at lw_m4 27 rfl) rfl
theorem q818 : (Jvm.Cond.static ({ cls := "CafeTables", name := "setIn", desc := "(Ljava/lang/Object;II)V" } : Jvm.MethodName)) ∈ lw_all := lw_g (lw_at lw_m4 28 rfl) rfl
theorem q819 : (Jvm.Cond.code ({ cls := "CafeTables", name := "setIn", desc := "(Ljava/lang/Object;II)V" } : Jvm.MethodName) prog_1_method_57_code (3 : Nat) (Option.none : Option Jvm.ClassFile.FieldType)) ∈ lw_all := lw_g (lw_at lw_m4 29 rfl) rfl
theorem q820 : (Jvm.Cond.classLink "CafeTables" (306 : Nat) "[B") ∈ lw_all := lw_g (lw_at lw_m4 30 rfl) rfl
theorem q821 : (Jvm.Cond.classLink "CafeTables" (308 : Nat) "[S") ∈ lw_all := lw_g (lw_at lw_m4 31 rfl) rfl
theorem q822 : (Jvm.Cond.classLink "CafeTables" (310 : Nat) "[I") ∈ lw_all := lw_g (lw_at lw_m4 32 rfl) rfl
theorem q824 : (Jvm.Cond.instanceMethod ({ cls := "CafeTables", name := "cell", desc := "(III)J" } : Jvm.MethodName)) ∈ lw_all := lw_g (lw_at lw_m4 34 rfl) rfl
theorem q825 : (Jvm.Cond.selects "CafeTables" ({ cls := "CafeTables", name := "cell", desc := "(III)J" } : Jvm.MethodName) ({ cls := "CafeTables", name := "cell", desc := "(III)J" } : Jvm.MethodName)) ∈ lw_all := lw_g (lw_at lw_m4 35 rfl) rfl
theorem q826 : (Jvm.Cond.codeWith ({ cls := "CafeTables", name := "cell", desc := "(III)J" } : Jvm.MethodName) prog_1_method_63_code (5 : Nat) (Option.some Jvm.ClassFile.FieldType.long) [((28 : Nat), (39 : Nat), (40 : Nat), (337 : Nat)), ((28 : Nat), (39 : Nat), (48 : Nat), (351 : Nat)), ((28 : Nat), (39 : Nat), (56 : Nat), (339 : Nat))]) ∈ lw_all := lw_g (lw_at lw_m4 36 rfl) rfl
theorem q827 : (Jvm.Cond.classLink "CafeTables" (351 : Nat) "java/lang/ClassCastException") ∈ lw_all := lw_g (lw_at lw_m4 37 rfl) rfl
theorem q841 : (Jvm.Cond.methodLink "CafeTables" (341 : Nat) ({ cls := "CafeTables", name := "rowIn", desc := "(I)Ljava/lang/Object;" } : Jvm.MethodName)) ∈ lw_all := lw_g (lw_at lw_m4 51 rfl) rfl
theorem q842 : (Jvm.Cond.privateMethod ({ cls := "CafeTables", name := "rowIn", desc := "(I)Ljava/lang/Object;" } : Jvm.MethodName)) ∈ lw_tbl := lw_at lw_m4 52 rfl
theorem q843 : (Jvm.Cond.instanceMethod ({ cls := "CafeTables", name := "rowIn", desc := "(I)Ljava/lang/Object;" } : Jvm.MethodName)) ∈ lw_all := lw_g (lw_at lw_m4 53 rfl) rfl
theorem q844 : (Jvm.Cond.code ({ cls := "CafeTables", name := "rowIn", desc := "(I)Ljava/lang/Object;" } : Jvm.MethodName) prog_1_method_59_code (2 : Nat) (Option.some (Jvm.ClassFile.FieldType.object "java/lang/Object"))) ∈ lw_all := lw_g (lw_at lw_m4 54 rfl) rfl
theorem q845 : (Jvm.Cond.methodLink "CafeTables" (344 : Nat) ({ cls := "CafeTables", name := "cellOf", desc := "(Ljava/lang/Object;II)I" } : Jvm.MethodName)) ∈ lw_all := lw_g (lw_at lw_m4 55 rfl) rfl
theorem q846 : (Jvm.Cond.static ({ cls := "CafeTables", name := "cellOf", desc := "(Ljava/lang/Object;II)I" } : Jvm.MethodName)) ∈ lw_all := lw_g (lw_at lw_m4 56 rfl) rfl
theorem q847 : (Jvm.Cond.code ({ cls := "CafeTables", name := "cellOf", desc := "(Ljava/lang/Object;II)I" } : Jvm.MethodName) prog_1_method_55_code (3 : Nat) (Option.some Jvm.ClassFile.FieldType.int)) ∈ lw_all := lw_g (lw_at lw_m4 57 rfl) rfl
theorem q848 : (Jvm.Cond.methodLink "CafeTables" (348 : Nat) ({ cls := "CafeTables", name := "failsLong", desc := "(I)J" } : Jvm.MethodName)) ∈ lw_all := lw_g (lw_at lw_m4 58 rfl) rfl
theorem q849 : (Jvm.Cond.privateMethod ({ cls := "CafeTables", name := "failsLong", desc := "(I)J" } : Jvm.MethodName)) ∈ lw_tbl := lw_at lw_m4 59 rfl
theorem q850 : (Jvm.Cond.instanceMethod ({ cls := "CafeTables", name := "failsLong", desc := "(I)J" } : Jvm.MethodName)) ∈ lw_all := lw_g (lw_at lw_m4 60 rfl) rfl
theorem q851 : (Jvm.Cond.code ({ cls := "CafeTables", name := "failsLong", desc := "(I)J" } : Jvm.MethodName) prog_1_method_53_code (2 : Nat) (Option.some Jvm.ClassFile.FieldType.long)) ∈ lw_all := lw_g (lw_at lw_m4 61 rfl) rfl
theorem q853 : (Jvm.Cond.instanceMethod ({ cls := "CafeTables", name := "cafe", desc := "(IIII)I" } : Jvm.MethodName)) ∈ lw_all := lw_g (lw_at lw_m4 63 rfl) rfl
theorem q854 : (Jvm.Cond.selects "CafeTables" ({ cls := "CafeTables", name := "cafe", desc := "(IIII)I" } : Jvm.MethodName) ({ cls := "CafeTables", name := "cafe", desc := "(IIII)I" } : Jvm.MethodName)) ∈ lw_all := lw_g (lw_at lw_m4 64 rfl) rfl
theorem q855 : (Jvm.Cond.code ({ cls := "CafeTables", name := "cafe", desc := "(IIII)I" } : Jvm.MethodName) prog_1_method_66_code (5 : Nat) (Option.some Jvm.ClassFile.FieldType.int)) ∈ lw_all := lw_g (lw_at lw_m4 65 rfl) rfl
theorem q856 : (Jvm.Cond.classLink "CafeTables" (366 : Nat) "CafeTables$Opening") ∈ lw_all := lw_g (lw_at lw_m4 66 rfl) rfl
theorem q858 : (Jvm.Cond.methodLink "CafeTables" (368 : Nat) ({ cls := "CafeTables$Opening", name := "<init>", desc := "(LCafeTables;IIII)V" } : Jvm.MethodName)) ∈ lw_all := lw_g (lw_at lw_m4 68 rfl) rfl
theorem q884 : (Jvm.Cond.methodLink "CafeTables" (371 : Nat) ({ cls := "CafeTables$Opening", name := "tried", desc := "()I" } : Jvm.MethodName)) ∈ lw_all := lw_g (lw_at lw_m4 94 rfl) rfl
theorem q921 : (Jvm.Cond.static ({ cls := "CafeTables", name := "cellsOf", desc := "(Ljava/lang/Object;III)[I" } : Jvm.MethodName)) ∈ lw_all := lw_g (lw_at lw_m4 131 rfl) rfl
theorem q922 : (Jvm.Cond.code ({ cls := "CafeTables", name := "cellsOf", desc := "(Ljava/lang/Object;III)[I" } : Jvm.MethodName) prog_1_method_65_code (8 : Nat) (Option.some (Jvm.ClassFile.FieldType.array Jvm.ClassFile.FieldType.int))) ∈ lw_all := lw_g (lw_at lw_m4 132 rfl) rfl
theorem q923 : (Jvm.Cond.methodLink "CafeTables" (358 : Nat) ({ cls := "CafeTables", name := "sizeOf", desc := "(Ljava/lang/Object;I)I" } : Jvm.MethodName)) ∈ lw_all := lw_g (lw_at lw_m4 133 rfl) rfl
theorem q924 : (Jvm.Cond.static ({ cls := "CafeTables", name := "sizeOf", desc := "(Ljava/lang/Object;I)I" } : Jvm.MethodName)) ∈ lw_all := lw_g (lw_at lw_m4 134 rfl) rfl
theorem q925 : (Jvm.Cond.code ({ cls := "CafeTables", name := "sizeOf", desc := "(Ljava/lang/Object;I)I" } : Jvm.MethodName) prog_1_method_56_code (2 : Nat) (Option.some Jvm.ClassFile.FieldType.int)) ∈ lw_all := lw_g (lw_at lw_m4 135 rfl) rfl
theorem q926 : (Jvm.Cond.methodLink "CafeTables" (362 : Nat) ({ cls := "CafeTables", name := "need", desc := "(Z)V" } : Jvm.MethodName)) ∈ lw_all := lw_g (lw_at lw_m4 136 rfl) rfl
theorem q927 : (Jvm.Cond.static ({ cls := "CafeTables", name := "need", desc := "(Z)V" } : Jvm.MethodName)) ∈ lw_all := lw_g (lw_at lw_m4 137 rfl) rfl
theorem q928 : (Jvm.Cond.code ({ cls := "CafeTables", name := "need", desc := "(Z)V" } : Jvm.MethodName) prog_1_method_64_code (1 : Nat) (Option.none : Option Jvm.ClassFile.FieldType)) ∈ lw_all := lw_g (lw_at lw_m4 138 rfl) rfl
theorem q937 : (Jvm.Cond.stringRef "CafeTables" (353 : Nat) "not all there") ∈ lw_tbl := lw_at lw_m4 147 rfl
theorem q938 : (Jvm.Cond.methodLink "CafeTables" (355 : Nat) ({ cls := "java/lang/IndexOutOfBoundsException", name := "<init>", desc := "(Ljava/lang/String;)V" } : Jvm.MethodName)) ∈ lw_all := lw_g (lw_at lw_m4 148 rfl) rfl
theorem q942 : (Jvm.Cond.privateMethod ({ cls := "CafeTables", name := "newCafe", desc := "([I)I" } : Jvm.MethodName)) ∈ lw_tbl := lw_at lw_m4 152 rfl
theorem q943 : (Jvm.Cond.instanceMethod ({ cls := "CafeTables", name := "newCafe", desc := "([I)I" } : Jvm.MethodName)) ∈ lw_all := lw_g (lw_at lw_m4 153 rfl) rfl
theorem q944 : (Jvm.Cond.code ({ cls := "CafeTables", name := "newCafe", desc := "([I)I" } : Jvm.MethodName) prog_1_method_6_code (8 : Nat) (Option.some Jvm.ClassFile.FieldType.int)) ∈ lw_all := lw_g (lw_at lw_m4 154 rfl) rfl
theorem q945 : (Jvm.Cond.interfaceEntry "CafeTables" (93 : Nat)) ∈ lw_tbl := lw_at lw_m4 155 rfl
theorem q946 : (Jvm.Cond.methodLink "CafeTables" (93 : Nat) ({ cls := "java/util/List", name := "clear", desc := "()V" } : Jvm.MethodName)) ∈ lw_all := lw_g (lw_at lw_m4 156 rfl) rfl
theorem q961 : (Jvm.Cond.instanceMethod ({ cls := "CafeTables", name := "copy", desc := "(IIIII)I" } : Jvm.MethodName)) ∈ lw_all := lw_g (lw_at lw_m4 171 rfl) rfl
theorem q962 : (Jvm.Cond.selects "CafeTables" ({ cls := "CafeTables", name := "copy", desc := "(IIIII)I" } : Jvm.MethodName) ({ cls := "CafeTables", name := "copy", desc := "(IIIII)I" } : Jvm.MethodName)) ∈ lw_all := lw_g (lw_at lw_m4 172 rfl) rfl
theorem q963 : (Jvm.Cond.code ({ cls := "CafeTables", name := "copy", desc := "(IIIII)I" } : Jvm.MethodName) prog_1_method_67_code (6 : Nat) (Option.some Jvm.ClassFile.FieldType.int)) ∈ lw_all := lw_g (lw_at lw_m4 173 rfl) rfl
theorem q964 : (Jvm.Cond.classLink "CafeTables" (374 : Nat) "CafeTables$Copying") ∈ lw_all := lw_g (lw_at lw_m4 174 rfl) rfl
theorem q966 : (Jvm.Cond.methodLink "CafeTables" (376 : Nat) ({ cls := "CafeTables$Copying", name := "<init>", desc := "(LCafeTables;IIIII)V" } : Jvm.MethodName)) ∈ lw_all := lw_g (lw_at lw_m4 176 rfl) rfl
theorem q990 : (Jvm.Cond.methodLink "CafeTables" (379 : Nat) ({ cls := "CafeTables$Copying", name := "tried", desc := "()I" } : Jvm.MethodName)) ∈ lw_all := lw_g (lw_at lw_m4 200 rfl) rfl
theorem q994 : (Jvm.Cond.instanceMethod ({ cls := "CafeTables", name := "tell", desc := "(I)I" } : Jvm.MethodName)) ∈ lw_all := lw_g (lw_at lw_m4 204 rfl) rfl
theorem q995 : (Jvm.Cond.selects "CafeTables" ({ cls := "CafeTables", name := "tell", desc := "(I)I" } : Jvm.MethodName) ({ cls := "CafeTables", name := "tell", desc := "(I)I" } : Jvm.MethodName)) ∈ lw_all := lw_g (lw_at lw_m4 205 rfl) rfl
theorem q996 : (Jvm.Cond.code ({ cls := "CafeTables", name := "tell", desc := "(I)I" } : Jvm.MethodName) prog_1_method_68_code (2 : Nat) (Option.some Jvm.ClassFile.FieldType.int)) ∈ lw_all := lw_g (lw_at lw_m4 206 rfl) rfl
theorem q997 : (Jvm.Cond.methodLink "CafeTables" (380 : Nat) ({ cls := "CafeTables$Guest", name := "said", desc := "()I" } : Jvm.MethodName)) ∈ lw_all := lw_g (lw_at lw_m4 207 rfl) rfl
theorem q1028 : (Jvm.Cond.instanceMethod ({ cls := "CafeTables", name := "serve", desc := "(I)I" } : Jvm.MethodName)) ∈ lw_all := lw_g (lw_at lw_m4 238 rfl) rfl
theorem q1029 : (Jvm.Cond.selects "CafeTables" ({ cls := "CafeTables", name := "serve", desc := "(I)I" } : Jvm.MethodName) ({ cls := "CafeTables", name := "serve", desc := "(I)I" } : Jvm.MethodName)) ∈ lw_all := lw_g (lw_at lw_m4 239 rfl) rfl
theorem q1030 : (Jvm.Cond.code ({ cls := "CafeTables", name := "serve", desc := "(I)I" } : Jvm.MethodName) prog_1_method_69_code (3 : Nat) (Option.some Jvm.ClassFile.FieldType.int)) ∈ lw_all := lw_g (lw_at lw_m5 0 rfl) rfl
theorem q1031 : (Jvm.Cond.classLink "CafeTables" (383 : Nat) "CafeTables$Served") ∈ lw_all := lw_g (lw_at lw_m5 1 rfl) rfl
theorem q1032 : (Jvm.Cond.interfaceEntry "CafeTables" (385 : Nat)) ∈ lw_tbl := lw_at lw_m5 2 rfl
theorem q1033 : (Jvm.Cond.methodLink "CafeTables" (385 : Nat) ({ cls := "CafeTables$Served", name := "served", desc := "()I" } : Jvm.MethodName)) ∈ lw_all := lw_g (lw_at lw_m5 3 rfl) rfl
theorem q1074 : (Jvm.Cond.instanceMethod ({ cls := "CafeTables", name := "as", desc := "(II)I" } : Jvm.MethodName)) ∈ lw_all := lw_g (lw_at lw_m5 44 rfl) rfl
theorem q1075 : (Jvm.Cond.selects "CafeTables" ({ cls := "CafeTables", name := "as", desc := "(II)I" } : Jvm.MethodName) ({ cls := "CafeTables", name := "as", desc := "(II)I" } : Jvm.MethodName)) ∈ lw_all := lw_g (lw_at lw_m5 45 rfl) rfl
theorem q1076 : (Jvm.Cond.code ({ cls := "CafeTables", name := "as", desc := "(II)I" } : Jvm.MethodName) prog_1_method_70_code (3 : Nat) (Option.some Jvm.ClassFile.FieldType.int)) ∈ lw_all := lw_g (lw_at lw_m5 46 rfl) rfl
theorem q1077 : (Jvm.Cond.classLink "CafeTables" (388 : Nat) "CafeTables$Taking") ∈ lw_all := lw_g (lw_at lw_m5 47 rfl) rfl
theorem q1079 : (Jvm.Cond.methodLink "CafeTables" (390 : Nat) ({ cls := "CafeTables$Taking", name := "<init>", desc := "(LCafeTables;LCafeTables$Guest;I)V" } : Jvm.MethodName)) ∈ lw_all := lw_g (lw_at lw_m5 49 rfl) rfl
theorem q1094 : (Jvm.Cond.methodLink "CafeTables" (393 : Nat) ({ cls := "CafeTables$Taking", name := "tried", desc := "()I" } : Jvm.MethodName)) ∈ lw_all := lw_g (lw_at lw_m5 64 rfl) rfl
theorem q1098 : (Jvm.Cond.instanceMethod ({ cls := "CafeTables", name := "trace", desc := "()I" } : Jvm.MethodName)) ∈ lw_all := lw_g (lw_at lw_m5 68 rfl) rfl
theorem q1099 : (Jvm.Cond.selects "CafeTables" ({ cls := "CafeTables", name := "trace", desc := "()I" } : Jvm.MethodName) ({ cls := "CafeTables", name := "trace", desc := "()I" } : Jvm.MethodName)) ∈ lw_all := lw_g (lw_at lw_m5 69 rfl) rfl
theorem q1100 : (Jvm.Cond.code ({ cls := "CafeTables", name := "trace", desc := "()I" } : Jvm.MethodName) prog_1_method_71_code (1 : Nat) (Option.some Jvm.ClassFile.FieldType.int)) ∈ lw_all := lw_g (lw_at lw_m5 70 rfl) rfl
theorem q1102 : (Jvm.Cond.instanceMethod ({ cls := "CafeTables", name := "fault", desc := "()I" } : Jvm.MethodName)) ∈ lw_all := lw_g (lw_at lw_m5 72 rfl) rfl
theorem q1103 : (Jvm.Cond.selects "CafeTables" ({ cls := "CafeTables", name := "fault", desc := "()I" } : Jvm.MethodName) ({ cls := "CafeTables", name := "fault", desc := "()I" } : Jvm.MethodName)) ∈ lw_all := lw_g (lw_at lw_m5 73 rfl) rfl
theorem q1104 : (Jvm.Cond.code ({ cls := "CafeTables", name := "fault", desc := "()I" } : Jvm.MethodName) prog_1_method_72_code (1 : Nat) (Option.some Jvm.ClassFile.FieldType.int)) ∈ lw_all := lw_g (lw_at lw_m5 74 rfl) rfl
theorem q1106 : (Jvm.Cond.instanceMethod ({ cls := "CafeTables", name := "many", desc := "(I)I" } : Jvm.MethodName)) ∈ lw_all := lw_g (lw_at lw_m5 76 rfl) rfl
theorem q1107 : (Jvm.Cond.selects "CafeTables" ({ cls := "CafeTables", name := "many", desc := "(I)I" } : Jvm.MethodName) ({ cls := "CafeTables", name := "many", desc := "(I)I" } : Jvm.MethodName)) ∈ lw_all := lw_g (lw_at lw_m5 77 rfl) rfl
theorem q1108 : (Jvm.Cond.code ({ cls := "CafeTables", name := "many", desc := "(I)I" } : Jvm.MethodName) prog_1_method_73_code (4 : Nat) (Option.some Jvm.ClassFile.FieldType.int)) ∈ lw_all := lw_g (lw_at lw_m5 78 rfl) rfl
theorem q1548 : (Jvm.Cond.castable "CafeTables" "java/lang/Object") ∈ lw_tbl := lw_at lw_m7 38 rfl
theorem in_X0 : ∀ w ∈ wsX00, w ∈ lw_all := lw_in wsX00 [164, 166, 168, 170, 172, 174, 176, 178, 180, 182, 184, 186, 188, 190, 192, 194, 196, 198, 200, 202, 204, 206, 208, 210] (by decide +kernel) (by decide +kernel)
