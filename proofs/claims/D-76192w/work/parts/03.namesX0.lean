/-! TwoSidedTables -/
set_option maxRecDepth 100000
def RX0 : String := "TwoSidedTables"
def TX0 : u_T := fun k => match k with
  | 0 => ("TwoSidedTables", "refusal", "LTwoSidedTables$Refusal;", true)
  | 1 => ("TwoSidedTables", "fault", "LTwoSidedTables$Fault;", true)
  | 2 => ("TwoSidedTables", "unsolvable", "LTwoSidedTables$Unsolvable;", true)
  | 3 => ("TwoSidedTables", "now", "LTwoSidedTables$Tables;", false)
  | 4 => ("TwoSidedTables", "kept", "LTwoSidedTables$Tables;", false)
  | 5 => ("TwoSidedTables", "tried", "LTwoSidedTables$Tables;", false)
  | 6 => ("TwoSidedTables", "equations", "[LTwoSidedTables$Plain;", true)
  | 7 => ("TwoSidedTables", "keptEquations", "[LTwoSidedTables$Plain;", true)
  | 8 => ("TwoSidedTables", "many", "I", false)
  | 9 => ("TwoSidedTables", "keptMany", "I", false)
  | 10 => ("TwoSidedTables", "z", "I", false)
  | 11 => ("TwoSidedTables", "keptZ", "I", false)
  | 12 => ("TwoSidedTables", "isKept", "Z", false)
  | 13 => ("TwoSidedTables", "names", "[Ljava/lang/String;", true)
  | 14 => ("TwoSidedTables", "tape", "[B", true)
  | 15 => ("TwoSidedTables", "tapeMany", "I", false)
  | 16 => ("TwoSidedTables", "at", "I", false)
  | 17 => ("TwoSidedTables", "end", "I", false)
  | 18 => ("TwoSidedTables", "grid", "[J", true)
  | 19 => ("TwoSidedTables", "pivotAt", "[I", true)
  | 20 => ("TwoSidedTables", "gridRows", "I", false)
  | 21 => ("TwoSidedTables", "gridUnknowns", "I", false)
  | 22 => ("TwoSidedTables", "rank", "I", false)
  | 23 => ("TwoSidedTables", "sign", "I", false)
  | 24 => ("TwoSidedTables", "pivot", "J", false)
  | 25 => ("TwoSidedTables", "strangers", "[LTwoSidedTables$Plain;", true)
  | 26 => ("TwoSidedTables", "shelves", "[LTwoSidedTables$Shelf;", true)
  | 27 => ("TwoSidedTables", "sheets", "[LTwoSidedTables$Shelf;", true)
  | _ => ("TwoSidedTables", "trace", "LTwoSidedTables$Trace;", true)
def tyX0 : Nat → FieldType := fun k => match k with
  | 0 => .object "TwoSidedTables$Refusal"
  | 1 => .object "TwoSidedTables$Fault"
  | 2 => .object "TwoSidedTables$Unsolvable"
  | 3 => .object "TwoSidedTables$Tables"
  | 4 => .object "TwoSidedTables$Tables"
  | 5 => .object "TwoSidedTables$Tables"
  | 6 => .array (.object "TwoSidedTables$Plain")
  | 7 => .array (.object "TwoSidedTables$Plain")
  | 8 => .int
  | 9 => .int
  | 10 => .int
  | 11 => .int
  | 12 => .boolean
  | 13 => .array (.object "java/lang/String")
  | 14 => .array .byte
  | 15 => .int
  | 16 => .int
  | 17 => .int
  | 18 => .array .long
  | 19 => .array .int
  | 20 => .int
  | 21 => .int
  | 22 => .int
  | 23 => .int
  | 24 => .long
  | 25 => .array (.object "TwoSidedTables$Plain")
  | 26 => .array (.object "TwoSidedTables$Shelf")
  | 27 => .array (.object "TwoSidedTables$Shelf")
  | _ => .object "TwoSidedTables$Trace"
abbrev wsX00 : List Cond := u_ws RX0 TX0 29
set_option maxRecDepth 100000 in
theorem nmX0 : ∀ a, a < 29 → ∀ b, b < 29 → a ≠ b → (TX0 a).2.1 ≠ (TX0 b).2.1 := by decide +kernel
set_option maxRecDepth 100000 in
theorem tyX0_ok : ∀ k, k < 29 → parseFieldDescriptor (TX0 k).2.2.1 = some (tyX0 k) := by decide +kernel
abbrev cX0_init : ByteArray := prog_1_method_5_code
def yX0_init : MethodName := ⟨RX0, "<init>", "()V"⟩
def dkwX0_init_9 : List UInt8 := [183, 0, 126, 83, 132, 1, 1, 167, 255, 222, 177]
abbrev dktX0_init_9 : List UInt8 := dkwX0_init_9 ++ []
def dkwX0_init_8 : List UInt8 := [42, 180, 0, 112, 27, 187, 0, 110, 89, 183, 0, 126, 83, 42, 180, 0, 116, 27, 187, 0, 110, 89]
abbrev dktX0_init_8 : List UInt8 := dkwX0_init_8 ++ dktX0_init_9
def dkwX0_init_7 : List UInt8 := [189, 0, 110, 181, 0, 116, 42, 187, 0, 119, 89, 183, 0, 121, 181, 0, 122, 3, 60, 27, 7, 162, 0, 35]
abbrev dktX0_init_7 : List UInt8 := dkwX0_init_7 ++ dktX0_init_8
def dkwX0_init_6 : List UInt8 := [188, 10, 181, 0, 103, 42, 16, 35, 189, 0, 36, 181, 0, 107, 42, 7, 189, 0, 110, 181, 0, 112, 42, 7]
abbrev dktX0_init_6 : List UInt8 := dkwX0_init_6 ++ dktX0_init_7
def dkwX0_init_5 : List UInt8 := [181, 0, 91, 42, 17, 0, 200, 188, 8, 181, 0, 95, 42, 16, 100, 188, 11, 181, 0, 99, 42, 16, 10]
abbrev dktX0_init_5 : List UInt8 := dkwX0_init_5 ++ dktX0_init_6
def dkwX0_init_4 : List UInt8 := [181, 0, 79, 42, 6, 189, 0, 83, 89, 3, 18, 85, 83, 89, 4, 18, 87, 83, 89, 5, 18, 89, 83]
abbrev dktX0_init_4 : List UInt8 := dkwX0_init_4 ++ dktX0_init_5
def dkwX0_init_3 : List UInt8 := [181, 0, 69, 42, 16, 6, 189, 0, 36, 181, 0, 72, 42, 16, 6, 189, 0, 36, 181, 0, 76, 42, 4]
abbrev dktX0_init_3 : List UInt8 := dkwX0_init_3 ++ dktX0_init_4
def dkwX0_init_2 : List UInt8 := [181, 0, 62, 42, 187, 0, 59, 89, 183, 0, 61, 181, 0, 66, 42, 187, 0, 59, 89, 183, 0, 61]
abbrev dktX0_init_2 : List UInt8 := dkwX0_init_2 ++ dktX0_init_3
def dkwX0_init_1 : List UInt8 := [181, 0, 48, 42, 187, 0, 52, 89, 183, 0, 54, 181, 0, 55, 42, 187, 0, 59, 89, 183, 0, 61]
abbrev dktX0_init_1 : List UInt8 := dkwX0_init_1 ++ dktX0_init_2
def dkwX0_init_0 : List UInt8 := [42, 183, 0, 39, 42, 187, 0, 8, 89, 183, 0, 44, 181, 0, 1, 42, 187, 0, 45, 89, 183, 0, 47]
abbrev dktX0_init_0 : List UInt8 := dkwX0_init_0 ++ dktX0_init_1
theorem dksX0_init_0 : cX0_init.data.toList.drop 0 = dktX0_init_0 := by decide +kernel
theorem dksX0_init_1 : cX0_init.data.toList.drop 23 = dktX0_init_1 := dk_seg dksX0_init_0 23 rfl rfl
theorem dksX0_init_2 : cX0_init.data.toList.drop 45 = dktX0_init_2 := dk_seg dksX0_init_1 22 rfl rfl
theorem dksX0_init_3 : cX0_init.data.toList.drop 67 = dktX0_init_3 := dk_seg dksX0_init_2 22 rfl rfl
theorem dksX0_init_4 : cX0_init.data.toList.drop 90 = dktX0_init_4 := dk_seg dksX0_init_3 23 rfl rfl
theorem dksX0_init_5 : cX0_init.data.toList.drop 113 = dktX0_init_5 := dk_seg dksX0_init_4 23 rfl rfl
theorem dksX0_init_6 : cX0_init.data.toList.drop 136 = dktX0_init_6 := dk_seg dksX0_init_5 23 rfl rfl
theorem dksX0_init_7 : cX0_init.data.toList.drop 160 = dktX0_init_7 := dk_seg dksX0_init_6 24 rfl rfl
theorem dksX0_init_8 : cX0_init.data.toList.drop 184 = dktX0_init_8 := dk_seg dksX0_init_7 24 rfl rfl
theorem dksX0_init_9 : cX0_init.data.toList.drop 206 = dktX0_init_9 := dk_seg dksX0_init_8 22 rfl rfl
theorem dX0_init_0 : decode cX0_init 0 = .ok (.aload_n 0, 1) := dk_42 (dk_at dksX0_init_0 0 rfl rfl)
theorem dX0_init_1 : decode cX0_init 1 = .ok (.invokespecial 39, 3) := dk_183 0 39 (dk_at dksX0_init_0 1 rfl rfl)
theorem dX0_init_4 : decode cX0_init 4 = .ok (.aload_n 0, 1) := dk_42 (dk_at dksX0_init_0 4 rfl rfl)
theorem dX0_init_5 : decode cX0_init 5 = .ok (.new 8, 3) := dk_187 0 8 (dk_at dksX0_init_0 5 rfl rfl)
theorem dX0_init_8 : decode cX0_init 8 = .ok (.dup, 1) := dk_89 (dk_at dksX0_init_0 8 rfl rfl)
theorem dX0_init_9 : decode cX0_init 9 = .ok (.invokespecial 44, 3) := dk_183 0 44 (dk_at dksX0_init_0 9 rfl rfl)
theorem dX0_init_12 : decode cX0_init 12 = .ok (.putfield 1, 3) := dk_181 0 1 (dk_at dksX0_init_0 12 rfl rfl)
theorem dX0_init_15 : decode cX0_init 15 = .ok (.aload_n 0, 1) := dk_42 (dk_at dksX0_init_0 15 rfl rfl)
theorem dX0_init_16 : decode cX0_init 16 = .ok (.new 45, 3) := dk_187 0 45 (dk_at dksX0_init_0 16 rfl rfl)
theorem dX0_init_19 : decode cX0_init 19 = .ok (.dup, 1) := dk_89 (dk_at dksX0_init_0 19 rfl rfl)
theorem dX0_init_20 : decode cX0_init 20 = .ok (.invokespecial 47, 3) := dk_183 0 47 (dk_at dksX0_init_0 20 rfl rfl)
theorem dX0_init_23 : decode cX0_init 23 = .ok (.putfield 48, 3) := dk_181 0 48 (dk_at dksX0_init_1 0 rfl rfl)
theorem dX0_init_26 : decode cX0_init 26 = .ok (.aload_n 0, 1) := dk_42 (dk_at dksX0_init_1 3 rfl rfl)
theorem dX0_init_27 : decode cX0_init 27 = .ok (.new 52, 3) := dk_187 0 52 (dk_at dksX0_init_1 4 rfl rfl)
theorem dX0_init_30 : decode cX0_init 30 = .ok (.dup, 1) := dk_89 (dk_at dksX0_init_1 7 rfl rfl)
theorem dX0_init_31 : decode cX0_init 31 = .ok (.invokespecial 54, 3) := dk_183 0 54 (dk_at dksX0_init_1 8 rfl rfl)
theorem dX0_init_34 : decode cX0_init 34 = .ok (.putfield 55, 3) := dk_181 0 55 (dk_at dksX0_init_1 11 rfl rfl)
theorem dX0_init_37 : decode cX0_init 37 = .ok (.aload_n 0, 1) := dk_42 (dk_at dksX0_init_1 14 rfl rfl)
theorem dX0_init_38 : decode cX0_init 38 = .ok (.new 59, 3) := dk_187 0 59 (dk_at dksX0_init_1 15 rfl rfl)
theorem dX0_init_41 : decode cX0_init 41 = .ok (.dup, 1) := dk_89 (dk_at dksX0_init_1 18 rfl rfl)
theorem dX0_init_42 : decode cX0_init 42 = .ok (.invokespecial 61, 3) := dk_183 0 61 (dk_at dksX0_init_1 19 rfl rfl)
theorem dX0_init_45 : decode cX0_init 45 = .ok (.putfield 62, 3) := dk_181 0 62 (dk_at dksX0_init_2 0 rfl rfl)
theorem dX0_init_48 : decode cX0_init 48 = .ok (.aload_n 0, 1) := dk_42 (dk_at dksX0_init_2 3 rfl rfl)
theorem dX0_init_49 : decode cX0_init 49 = .ok (.new 59, 3) := dk_187 0 59 (dk_at dksX0_init_2 4 rfl rfl)
theorem dX0_init_52 : decode cX0_init 52 = .ok (.dup, 1) := dk_89 (dk_at dksX0_init_2 7 rfl rfl)
theorem dX0_init_53 : decode cX0_init 53 = .ok (.invokespecial 61, 3) := dk_183 0 61 (dk_at dksX0_init_2 8 rfl rfl)
theorem dX0_init_56 : decode cX0_init 56 = .ok (.putfield 66, 3) := dk_181 0 66 (dk_at dksX0_init_2 11 rfl rfl)
theorem dX0_init_59 : decode cX0_init 59 = .ok (.aload_n 0, 1) := dk_42 (dk_at dksX0_init_2 14 rfl rfl)
theorem dX0_init_60 : decode cX0_init 60 = .ok (.new 59, 3) := dk_187 0 59 (dk_at dksX0_init_2 15 rfl rfl)
theorem dX0_init_63 : decode cX0_init 63 = .ok (.dup, 1) := dk_89 (dk_at dksX0_init_2 18 rfl rfl)
theorem dX0_init_64 : decode cX0_init 64 = .ok (.invokespecial 61, 3) := dk_183 0 61 (dk_at dksX0_init_2 19 rfl rfl)
theorem dX0_init_67 : decode cX0_init 67 = .ok (.putfield 69, 3) := dk_181 0 69 (dk_at dksX0_init_3 0 rfl rfl)
theorem dX0_init_70 : decode cX0_init 70 = .ok (.aload_n 0, 1) := dk_42 (dk_at dksX0_init_3 3 rfl rfl)
theorem dX0_init_71 : decode cX0_init 71 = .ok (.bipush 6, 2) := dk_16 6 (dk_at dksX0_init_3 4 rfl rfl)
theorem dX0_init_73 : decode cX0_init 73 = .ok (.anewarray 36, 3) := dk_189 0 36 (dk_at dksX0_init_3 6 rfl rfl)
theorem dX0_init_76 : decode cX0_init 76 = .ok (.putfield 72, 3) := dk_181 0 72 (dk_at dksX0_init_3 9 rfl rfl)
theorem dX0_init_79 : decode cX0_init 79 = .ok (.aload_n 0, 1) := dk_42 (dk_at dksX0_init_3 12 rfl rfl)
theorem dX0_init_80 : decode cX0_init 80 = .ok (.bipush 6, 2) := dk_16 6 (dk_at dksX0_init_3 13 rfl rfl)
theorem dX0_init_82 : decode cX0_init 82 = .ok (.anewarray 36, 3) := dk_189 0 36 (dk_at dksX0_init_3 15 rfl rfl)
theorem dX0_init_85 : decode cX0_init 85 = .ok (.putfield 76, 3) := dk_181 0 76 (dk_at dksX0_init_3 18 rfl rfl)
theorem dX0_init_88 : decode cX0_init 88 = .ok (.aload_n 0, 1) := dk_42 (dk_at dksX0_init_3 21 rfl rfl)
theorem dX0_init_89 : decode cX0_init 89 = .ok (.iconst 1, 1) := dk_4 (dk_at dksX0_init_3 22 rfl rfl)
theorem dX0_init_90 : decode cX0_init 90 = .ok (.putfield 79, 3) := dk_181 0 79 (dk_at dksX0_init_4 0 rfl rfl)
theorem dX0_init_93 : decode cX0_init 93 = .ok (.aload_n 0, 1) := dk_42 (dk_at dksX0_init_4 3 rfl rfl)
theorem dX0_init_94 : decode cX0_init 94 = .ok (.iconst 3, 1) := dk_6 (dk_at dksX0_init_4 4 rfl rfl)
theorem dX0_init_95 : decode cX0_init 95 = .ok (.anewarray 83, 3) := dk_189 0 83 (dk_at dksX0_init_4 5 rfl rfl)
theorem dX0_init_98 : decode cX0_init 98 = .ok (.dup, 1) := dk_89 (dk_at dksX0_init_4 8 rfl rfl)
theorem dX0_init_99 : decode cX0_init 99 = .ok (.iconst 0, 1) := dk_3 (dk_at dksX0_init_4 9 rfl rfl)
theorem dX0_init_100 : decode cX0_init 100 = .ok (.ldc 85, 2) := dk_18 85 (dk_at dksX0_init_4 10 rfl rfl)
theorem dX0_init_102 : decode cX0_init 102 = .ok (.aastore, 1) := dk_83 (dk_at dksX0_init_4 12 rfl rfl)
theorem dX0_init_103 : decode cX0_init 103 = .ok (.dup, 1) := dk_89 (dk_at dksX0_init_4 13 rfl rfl)
theorem dX0_init_104 : decode cX0_init 104 = .ok (.iconst 1, 1) := dk_4 (dk_at dksX0_init_4 14 rfl rfl)
theorem dX0_init_105 : decode cX0_init 105 = .ok (.ldc 87, 2) := dk_18 87 (dk_at dksX0_init_4 15 rfl rfl)
theorem dX0_init_107 : decode cX0_init 107 = .ok (.aastore, 1) := dk_83 (dk_at dksX0_init_4 17 rfl rfl)
theorem dX0_init_108 : decode cX0_init 108 = .ok (.dup, 1) := dk_89 (dk_at dksX0_init_4 18 rfl rfl)
theorem dX0_init_109 : decode cX0_init 109 = .ok (.iconst 2, 1) := dk_5 (dk_at dksX0_init_4 19 rfl rfl)
theorem dX0_init_110 : decode cX0_init 110 = .ok (.ldc 89, 2) := dk_18 89 (dk_at dksX0_init_4 20 rfl rfl)
theorem dX0_init_112 : decode cX0_init 112 = .ok (.aastore, 1) := dk_83 (dk_at dksX0_init_4 22 rfl rfl)
theorem dX0_init_113 : decode cX0_init 113 = .ok (.putfield 91, 3) := dk_181 0 91 (dk_at dksX0_init_5 0 rfl rfl)
theorem dX0_init_116 : decode cX0_init 116 = .ok (.aload_n 0, 1) := dk_42 (dk_at dksX0_init_5 3 rfl rfl)
theorem dX0_init_117 : decode cX0_init 117 = .ok (.sipush 200, 3) := dk_17 0 200 (dk_at dksX0_init_5 4 rfl rfl)
theorem dX0_init_120 : decode cX0_init 120 = .ok (.newarray .byte, 2) := dk_188_8 (dk_at dksX0_init_5 7 rfl rfl)
theorem dX0_init_122 : decode cX0_init 122 = .ok (.putfield 95, 3) := dk_181 0 95 (dk_at dksX0_init_5 9 rfl rfl)
theorem dX0_init_125 : decode cX0_init 125 = .ok (.aload_n 0, 1) := dk_42 (dk_at dksX0_init_5 12 rfl rfl)
theorem dX0_init_126 : decode cX0_init 126 = .ok (.bipush 100, 2) := dk_16 100 (dk_at dksX0_init_5 13 rfl rfl)
theorem dX0_init_128 : decode cX0_init 128 = .ok (.newarray .long, 2) := dk_188_11 (dk_at dksX0_init_5 15 rfl rfl)
theorem dX0_init_130 : decode cX0_init 130 = .ok (.putfield 99, 3) := dk_181 0 99 (dk_at dksX0_init_5 17 rfl rfl)
theorem dX0_init_133 : decode cX0_init 133 = .ok (.aload_n 0, 1) := dk_42 (dk_at dksX0_init_5 20 rfl rfl)
theorem dX0_init_134 : decode cX0_init 134 = .ok (.bipush 10, 2) := dk_16 10 (dk_at dksX0_init_5 21 rfl rfl)
theorem dX0_init_136 : decode cX0_init 136 = .ok (.newarray .int, 2) := dk_188_10 (dk_at dksX0_init_6 0 rfl rfl)
theorem dX0_init_138 : decode cX0_init 138 = .ok (.putfield 103, 3) := dk_181 0 103 (dk_at dksX0_init_6 2 rfl rfl)
theorem dX0_init_141 : decode cX0_init 141 = .ok (.aload_n 0, 1) := dk_42 (dk_at dksX0_init_6 5 rfl rfl)
theorem dX0_init_142 : decode cX0_init 142 = .ok (.bipush 35, 2) := dk_16 35 (dk_at dksX0_init_6 6 rfl rfl)
theorem dX0_init_144 : decode cX0_init 144 = .ok (.anewarray 36, 3) := dk_189 0 36 (dk_at dksX0_init_6 8 rfl rfl)
theorem dX0_init_147 : decode cX0_init 147 = .ok (.putfield 107, 3) := dk_181 0 107 (dk_at dksX0_init_6 11 rfl rfl)
theorem dX0_init_150 : decode cX0_init 150 = .ok (.aload_n 0, 1) := dk_42 (dk_at dksX0_init_6 14 rfl rfl)
theorem dX0_init_151 : decode cX0_init 151 = .ok (.iconst 4, 1) := dk_7 (dk_at dksX0_init_6 15 rfl rfl)
theorem dX0_init_152 : decode cX0_init 152 = .ok (.anewarray 110, 3) := dk_189 0 110 (dk_at dksX0_init_6 16 rfl rfl)
theorem dX0_init_155 : decode cX0_init 155 = .ok (.putfield 112, 3) := dk_181 0 112 (dk_at dksX0_init_6 19 rfl rfl)
theorem dX0_init_158 : decode cX0_init 158 = .ok (.aload_n 0, 1) := dk_42 (dk_at dksX0_init_6 22 rfl rfl)
theorem dX0_init_159 : decode cX0_init 159 = .ok (.iconst 4, 1) := dk_7 (dk_at dksX0_init_6 23 rfl rfl)
theorem dX0_init_160 : decode cX0_init 160 = .ok (.anewarray 110, 3) := dk_189 0 110 (dk_at dksX0_init_7 0 rfl rfl)
theorem dX0_init_163 : decode cX0_init 163 = .ok (.putfield 116, 3) := dk_181 0 116 (dk_at dksX0_init_7 3 rfl rfl)
theorem dX0_init_166 : decode cX0_init 166 = .ok (.aload_n 0, 1) := dk_42 (dk_at dksX0_init_7 6 rfl rfl)
theorem dX0_init_167 : decode cX0_init 167 = .ok (.new 119, 3) := dk_187 0 119 (dk_at dksX0_init_7 7 rfl rfl)
theorem dX0_init_170 : decode cX0_init 170 = .ok (.dup, 1) := dk_89 (dk_at dksX0_init_7 10 rfl rfl)
theorem dX0_init_171 : decode cX0_init 171 = .ok (.invokespecial 121, 3) := dk_183 0 121 (dk_at dksX0_init_7 11 rfl rfl)
theorem dX0_init_174 : decode cX0_init 174 = .ok (.putfield 122, 3) := dk_181 0 122 (dk_at dksX0_init_7 14 rfl rfl)
theorem dX0_init_177 : decode cX0_init 177 = .ok (.iconst 0, 1) := dk_3 (dk_at dksX0_init_7 17 rfl rfl)
theorem dX0_init_178 : decode cX0_init 178 = .ok (.istore_n 1, 1) := dk_60 (dk_at dksX0_init_7 18 rfl rfl)
theorem dX0_init_179 : decode cX0_init 179 = .ok (.iload_n 1, 1) := dk_27 (dk_at dksX0_init_7 19 rfl rfl)
theorem dX0_init_180 : decode cX0_init 180 = .ok (.iconst 4, 1) := dk_7 (dk_at dksX0_init_7 20 rfl rfl)
theorem dX0_init_181 : decode cX0_init 181 = .ok (.if_icmp .ge 35, 3) := dk_162 0 35 (dk_at dksX0_init_7 21 rfl rfl)
theorem dX0_init_184 : decode cX0_init 184 = .ok (.aload_n 0, 1) := dk_42 (dk_at dksX0_init_8 0 rfl rfl)
theorem dX0_init_185 : decode cX0_init 185 = .ok (.getfield 112, 3) := dk_180 0 112 (dk_at dksX0_init_8 1 rfl rfl)
theorem dX0_init_188 : decode cX0_init 188 = .ok (.iload_n 1, 1) := dk_27 (dk_at dksX0_init_8 4 rfl rfl)
theorem dX0_init_189 : decode cX0_init 189 = .ok (.new 110, 3) := dk_187 0 110 (dk_at dksX0_init_8 5 rfl rfl)
theorem dX0_init_192 : decode cX0_init 192 = .ok (.dup, 1) := dk_89 (dk_at dksX0_init_8 8 rfl rfl)
theorem dX0_init_193 : decode cX0_init 193 = .ok (.invokespecial 126, 3) := dk_183 0 126 (dk_at dksX0_init_8 9 rfl rfl)
theorem dX0_init_196 : decode cX0_init 196 = .ok (.aastore, 1) := dk_83 (dk_at dksX0_init_8 12 rfl rfl)
theorem dX0_init_197 : decode cX0_init 197 = .ok (.aload_n 0, 1) := dk_42 (dk_at dksX0_init_8 13 rfl rfl)
theorem dX0_init_198 : decode cX0_init 198 = .ok (.getfield 116, 3) := dk_180 0 116 (dk_at dksX0_init_8 14 rfl rfl)
theorem dX0_init_201 : decode cX0_init 201 = .ok (.iload_n 1, 1) := dk_27 (dk_at dksX0_init_8 17 rfl rfl)
theorem dX0_init_202 : decode cX0_init 202 = .ok (.new 110, 3) := dk_187 0 110 (dk_at dksX0_init_8 18 rfl rfl)
theorem dX0_init_205 : decode cX0_init 205 = .ok (.dup, 1) := dk_89 (dk_at dksX0_init_8 21 rfl rfl)
theorem dX0_init_206 : decode cX0_init 206 = .ok (.invokespecial 126, 3) := dk_183 0 126 (dk_at dksX0_init_9 0 rfl rfl)
theorem dX0_init_209 : decode cX0_init 209 = .ok (.aastore, 1) := dk_83 (dk_at dksX0_init_9 3 rfl rfl)
theorem dX0_init_210 : decode cX0_init 210 = .ok (.iinc 1 1, 3) := dk_132 1 1 (dk_at dksX0_init_9 4 rfl rfl)
theorem dX0_init_213 : decode cX0_init 213 = .ok (.goto (-34), 3) := dk_167 255 222 (dk_at dksX0_init_9 7 rfl rfl)
theorem dX0_init_216 : decode cX0_init 216 = .ok (.return_, 1) := dk_177 (dk_at dksX0_init_9 10 rfl rfl)
abbrev cX0_size : ByteArray := prog_1_method_14_code
def yX0_size : MethodName := ⟨RX0, "size", "(II)I"⟩
def dkwX0_size_2 : List UInt8 := [183, 0, 155, 181, 0, 62, 29, 172]
abbrev dktX0_size_2 : List UInt8 := dkwX0_size_2 ++ []
def dkwX0_size_1 : List UInt8 := [180, 0, 62, 180, 0, 134, 104, 42, 180, 0, 62, 180, 0, 137, 96, 62, 42, 187, 0, 59, 89, 27, 28]
abbrev dktX0_size_1 : List UInt8 := dkwX0_size_1 ++ dktX0_size_2
def dkwX0_size_0 : List UInt8 := [27, 4, 6, 184, 0, 130, 153, 0, 12, 28, 4, 6, 184, 0, 130, 154, 0, 5, 2, 172, 16, 10, 42]
abbrev dktX0_size_0 : List UInt8 := dkwX0_size_0 ++ dktX0_size_1
theorem dksX0_size_0 : cX0_size.data.toList.drop 0 = dktX0_size_0 := by decide +kernel
theorem dksX0_size_1 : cX0_size.data.toList.drop 23 = dktX0_size_1 := dk_seg dksX0_size_0 23 rfl rfl
theorem dksX0_size_2 : cX0_size.data.toList.drop 46 = dktX0_size_2 := dk_seg dksX0_size_1 23 rfl rfl
theorem dX0_size_0 : decode cX0_size 0 = .ok (.iload_n 1, 1) := dk_27 (dk_at dksX0_size_0 0 rfl rfl)
theorem dX0_size_1 : decode cX0_size 1 = .ok (.iconst 1, 1) := dk_4 (dk_at dksX0_size_0 1 rfl rfl)
theorem dX0_size_2 : decode cX0_size 2 = .ok (.iconst 3, 1) := dk_6 (dk_at dksX0_size_0 2 rfl rfl)
theorem dX0_size_3 : decode cX0_size 3 = .ok (.invokestatic 130, 3) := dk_184 0 130 (dk_at dksX0_size_0 3 rfl rfl)
theorem dX0_size_6 : decode cX0_size 6 = .ok (.ifCond .eq 12, 3) := dk_153 0 12 (dk_at dksX0_size_0 6 rfl rfl)
theorem dX0_size_9 : decode cX0_size 9 = .ok (.iload_n 2, 1) := dk_28 (dk_at dksX0_size_0 9 rfl rfl)
theorem dX0_size_10 : decode cX0_size 10 = .ok (.iconst 1, 1) := dk_4 (dk_at dksX0_size_0 10 rfl rfl)
theorem dX0_size_11 : decode cX0_size 11 = .ok (.iconst 3, 1) := dk_6 (dk_at dksX0_size_0 11 rfl rfl)
theorem dX0_size_12 : decode cX0_size 12 = .ok (.invokestatic 130, 3) := dk_184 0 130 (dk_at dksX0_size_0 12 rfl rfl)
theorem dX0_size_15 : decode cX0_size 15 = .ok (.ifCond .ne 5, 3) := dk_154 0 5 (dk_at dksX0_size_0 15 rfl rfl)
theorem dX0_size_18 : decode cX0_size 18 = .ok (.iconst (-1), 1) := dk_2 (dk_at dksX0_size_0 18 rfl rfl)
theorem dX0_size_19 : decode cX0_size 19 = .ok (.ireturn, 1) := dk_172 (dk_at dksX0_size_0 19 rfl rfl)
theorem dX0_size_20 : decode cX0_size 20 = .ok (.bipush 10, 2) := dk_16 10 (dk_at dksX0_size_0 20 rfl rfl)
theorem dX0_size_22 : decode cX0_size 22 = .ok (.aload_n 0, 1) := dk_42 (dk_at dksX0_size_0 22 rfl rfl)
theorem dX0_size_23 : decode cX0_size 23 = .ok (.getfield 62, 3) := dk_180 0 62 (dk_at dksX0_size_1 0 rfl rfl)
theorem dX0_size_26 : decode cX0_size 26 = .ok (.getfield 134, 3) := dk_180 0 134 (dk_at dksX0_size_1 3 rfl rfl)
theorem dX0_size_29 : decode cX0_size 29 = .ok (.imul, 1) := dk_104 (dk_at dksX0_size_1 6 rfl rfl)
theorem dX0_size_30 : decode cX0_size 30 = .ok (.aload_n 0, 1) := dk_42 (dk_at dksX0_size_1 7 rfl rfl)
theorem dX0_size_31 : decode cX0_size 31 = .ok (.getfield 62, 3) := dk_180 0 62 (dk_at dksX0_size_1 8 rfl rfl)
theorem dX0_size_34 : decode cX0_size 34 = .ok (.getfield 137, 3) := dk_180 0 137 (dk_at dksX0_size_1 11 rfl rfl)
theorem dX0_size_37 : decode cX0_size 37 = .ok (.iadd, 1) := dk_96 (dk_at dksX0_size_1 14 rfl rfl)
theorem dX0_size_38 : decode cX0_size 38 = .ok (.istore_n 3, 1) := dk_62 (dk_at dksX0_size_1 15 rfl rfl)
theorem dX0_size_39 : decode cX0_size 39 = .ok (.aload_n 0, 1) := dk_42 (dk_at dksX0_size_1 16 rfl rfl)
theorem dX0_size_40 : decode cX0_size 40 = .ok (.new 59, 3) := dk_187 0 59 (dk_at dksX0_size_1 17 rfl rfl)
theorem dX0_size_43 : decode cX0_size 43 = .ok (.dup, 1) := dk_89 (dk_at dksX0_size_1 20 rfl rfl)
theorem dX0_size_44 : decode cX0_size 44 = .ok (.iload_n 1, 1) := dk_27 (dk_at dksX0_size_1 21 rfl rfl)
theorem dX0_size_45 : decode cX0_size 45 = .ok (.iload_n 2, 1) := dk_28 (dk_at dksX0_size_1 22 rfl rfl)
theorem dX0_size_46 : decode cX0_size 46 = .ok (.invokespecial 155, 3) := dk_183 0 155 (dk_at dksX0_size_2 0 rfl rfl)
theorem dX0_size_49 : decode cX0_size 49 = .ok (.putfield 62, 3) := dk_181 0 62 (dk_at dksX0_size_2 3 rfl rfl)
theorem dX0_size_52 : decode cX0_size 52 = .ok (.iload_n 3, 1) := dk_29 (dk_at dksX0_size_2 6 rfl rfl)
theorem dX0_size_53 : decode cX0_size 53 = .ok (.ireturn, 1) := dk_172 (dk_at dksX0_size_2 7 rfl rfl)
abbrev cX0_isIn : ByteArray := prog_1_method_1_code
def yX0_isIn : MethodName := ⟨RX0, "isIn", "(III)Z"⟩
def dkwX0_isIn_0 : List UInt8 := [26, 27, 161, 0, 12, 26, 28, 163, 0, 7, 4, 167, 0, 4, 3, 172]
abbrev dktX0_isIn_0 : List UInt8 := dkwX0_isIn_0 ++ []
theorem dksX0_isIn_0 : cX0_isIn.data.toList.drop 0 = dktX0_isIn_0 := by decide +kernel
theorem dX0_isIn_0 : decode cX0_isIn 0 = .ok (.iload_n 0, 1) := dk_26 (dk_at dksX0_isIn_0 0 rfl rfl)
theorem dX0_isIn_1 : decode cX0_isIn 1 = .ok (.iload_n 1, 1) := dk_27 (dk_at dksX0_isIn_0 1 rfl rfl)
theorem dX0_isIn_2 : decode cX0_isIn 2 = .ok (.if_icmp .lt 12, 3) := dk_161 0 12 (dk_at dksX0_isIn_0 2 rfl rfl)
theorem dX0_isIn_5 : decode cX0_isIn 5 = .ok (.iload_n 0, 1) := dk_26 (dk_at dksX0_isIn_0 5 rfl rfl)
theorem dX0_isIn_6 : decode cX0_isIn 6 = .ok (.iload_n 2, 1) := dk_28 (dk_at dksX0_isIn_0 6 rfl rfl)
theorem dX0_isIn_7 : decode cX0_isIn 7 = .ok (.if_icmp .gt 7, 3) := dk_163 0 7 (dk_at dksX0_isIn_0 7 rfl rfl)
theorem dX0_isIn_10 : decode cX0_isIn 10 = .ok (.iconst 1, 1) := dk_4 (dk_at dksX0_isIn_0 10 rfl rfl)
theorem dX0_isIn_11 : decode cX0_isIn 11 = .ok (.goto 4, 3) := dk_167 0 4 (dk_at dksX0_isIn_0 11 rfl rfl)
theorem dX0_isIn_14 : decode cX0_isIn 14 = .ok (.iconst 0, 1) := dk_3 (dk_at dksX0_isIn_0 14 rfl rfl)
theorem dX0_isIn_15 : decode cX0_isIn 15 = .ok (.ireturn, 1) := dk_172 (dk_at dksX0_isIn_0 15 rfl rfl)
abbrev cX0_set : ByteArray := prog_1_method_16_code
def yX0_set : MethodName := ⟨RX0, "set", "(IIII)I"⟩
def dkwX0_set_3 : List UInt8 := [172]
abbrev dktX0_set_3 : List UInt8 := dkwX0_set_3 ++ []
def dkwX0_set_2 : List UInt8 := [136, 54, 5, 42, 180, 0, 62, 27, 182, 0, 160, 28, 29, 21, 4, 133, 182, 0, 178, 16, 100, 21, 5, 96]
abbrev dktX0_set_2 : List UInt8 := dkwX0_set_2 ++ dktX0_set_3
def dkwX0_set_1 : List UInt8 := [21, 4, 133, 184, 0, 170, 154, 0, 5, 2, 172, 42, 180, 0, 62, 27, 182, 0, 160, 28, 29, 182, 0, 174]
abbrev dktX0_set_1 : List UInt8 := dkwX0_set_1 ++ dktX0_set_2
def dkwX0_set_0 : List UInt8 := [27, 184, 0, 156, 153, 0, 29, 42, 180, 0, 62, 27, 182, 0, 160, 28, 29, 182, 0, 164, 153, 0, 13, 27]
abbrev dktX0_set_0 : List UInt8 := dkwX0_set_0 ++ dktX0_set_1
theorem dksX0_set_0 : cX0_set.data.toList.drop 0 = dktX0_set_0 := by decide +kernel
theorem dksX0_set_1 : cX0_set.data.toList.drop 24 = dktX0_set_1 := dk_seg dksX0_set_0 24 rfl rfl
theorem dksX0_set_2 : cX0_set.data.toList.drop 48 = dktX0_set_2 := dk_seg dksX0_set_1 24 rfl rfl
theorem dksX0_set_3 : cX0_set.data.toList.drop 72 = dktX0_set_3 := dk_seg dksX0_set_2 24 rfl rfl
theorem dX0_set_0 : decode cX0_set 0 = .ok (.iload_n 1, 1) := dk_27 (dk_at dksX0_set_0 0 rfl rfl)
theorem dX0_set_1 : decode cX0_set 1 = .ok (.invokestatic 156, 3) := dk_184 0 156 (dk_at dksX0_set_0 1 rfl rfl)
theorem dX0_set_4 : decode cX0_set 4 = .ok (.ifCond .eq 29, 3) := dk_153 0 29 (dk_at dksX0_set_0 4 rfl rfl)
theorem dX0_set_7 : decode cX0_set 7 = .ok (.aload_n 0, 1) := dk_42 (dk_at dksX0_set_0 7 rfl rfl)
theorem dX0_set_8 : decode cX0_set 8 = .ok (.getfield 62, 3) := dk_180 0 62 (dk_at dksX0_set_0 8 rfl rfl)
theorem dX0_set_11 : decode cX0_set 11 = .ok (.iload_n 1, 1) := dk_27 (dk_at dksX0_set_0 11 rfl rfl)
theorem dX0_set_12 : decode cX0_set 12 = .ok (.invokevirtual 160, 3) := dk_182 0 160 (dk_at dksX0_set_0 12 rfl rfl)
theorem dX0_set_15 : decode cX0_set 15 = .ok (.iload_n 2, 1) := dk_28 (dk_at dksX0_set_0 15 rfl rfl)
theorem dX0_set_16 : decode cX0_set 16 = .ok (.iload_n 3, 1) := dk_29 (dk_at dksX0_set_0 16 rfl rfl)
theorem dX0_set_17 : decode cX0_set 17 = .ok (.invokevirtual 164, 3) := dk_182 0 164 (dk_at dksX0_set_0 17 rfl rfl)
theorem dX0_set_20 : decode cX0_set 20 = .ok (.ifCond .eq 13, 3) := dk_153 0 13 (dk_at dksX0_set_0 20 rfl rfl)
theorem dX0_set_23 : decode cX0_set 23 = .ok (.iload_n 1, 1) := dk_27 (dk_at dksX0_set_0 23 rfl rfl)
theorem dX0_set_24 : decode cX0_set 24 = .ok (.iload 4, 2) := dk_21 4 (dk_at dksX0_set_1 0 rfl rfl)
theorem dX0_set_26 : decode cX0_set 26 = .ok (.i2l, 1) := dk_133 (dk_at dksX0_set_1 2 rfl rfl)
theorem dX0_set_27 : decode cX0_set 27 = .ok (.invokestatic 170, 3) := dk_184 0 170 (dk_at dksX0_set_1 3 rfl rfl)
theorem dX0_set_30 : decode cX0_set 30 = .ok (.ifCond .ne 5, 3) := dk_154 0 5 (dk_at dksX0_set_1 6 rfl rfl)
theorem dX0_set_33 : decode cX0_set 33 = .ok (.iconst (-1), 1) := dk_2 (dk_at dksX0_set_1 9 rfl rfl)
theorem dX0_set_34 : decode cX0_set 34 = .ok (.ireturn, 1) := dk_172 (dk_at dksX0_set_1 10 rfl rfl)
theorem dX0_set_35 : decode cX0_set 35 = .ok (.aload_n 0, 1) := dk_42 (dk_at dksX0_set_1 11 rfl rfl)
theorem dX0_set_36 : decode cX0_set 36 = .ok (.getfield 62, 3) := dk_180 0 62 (dk_at dksX0_set_1 12 rfl rfl)
theorem dX0_set_39 : decode cX0_set 39 = .ok (.iload_n 1, 1) := dk_27 (dk_at dksX0_set_1 15 rfl rfl)
theorem dX0_set_40 : decode cX0_set 40 = .ok (.invokevirtual 160, 3) := dk_182 0 160 (dk_at dksX0_set_1 16 rfl rfl)
theorem dX0_set_43 : decode cX0_set 43 = .ok (.iload_n 2, 1) := dk_28 (dk_at dksX0_set_1 19 rfl rfl)
theorem dX0_set_44 : decode cX0_set 44 = .ok (.iload_n 3, 1) := dk_29 (dk_at dksX0_set_1 20 rfl rfl)
theorem dX0_set_45 : decode cX0_set 45 = .ok (.invokevirtual 174, 3) := dk_182 0 174 (dk_at dksX0_set_1 21 rfl rfl)
theorem dX0_set_48 : decode cX0_set 48 = .ok (.l2i, 1) := dk_136 (dk_at dksX0_set_2 0 rfl rfl)
theorem dX0_set_49 : decode cX0_set 49 = .ok (.istore 5, 2) := dk_54 5 (dk_at dksX0_set_2 1 rfl rfl)
theorem dX0_set_51 : decode cX0_set 51 = .ok (.aload_n 0, 1) := dk_42 (dk_at dksX0_set_2 3 rfl rfl)
theorem dX0_set_52 : decode cX0_set 52 = .ok (.getfield 62, 3) := dk_180 0 62 (dk_at dksX0_set_2 4 rfl rfl)
theorem dX0_set_55 : decode cX0_set 55 = .ok (.iload_n 1, 1) := dk_27 (dk_at dksX0_set_2 7 rfl rfl)
theorem dX0_set_56 : decode cX0_set 56 = .ok (.invokevirtual 160, 3) := dk_182 0 160 (dk_at dksX0_set_2 8 rfl rfl)
theorem dX0_set_59 : decode cX0_set 59 = .ok (.iload_n 2, 1) := dk_28 (dk_at dksX0_set_2 11 rfl rfl)
theorem dX0_set_60 : decode cX0_set 60 = .ok (.iload_n 3, 1) := dk_29 (dk_at dksX0_set_2 12 rfl rfl)
theorem dX0_set_61 : decode cX0_set 61 = .ok (.iload 4, 2) := dk_21 4 (dk_at dksX0_set_2 13 rfl rfl)
theorem dX0_set_63 : decode cX0_set 63 = .ok (.i2l, 1) := dk_133 (dk_at dksX0_set_2 15 rfl rfl)
theorem dX0_set_64 : decode cX0_set 64 = .ok (.invokevirtual 178, 3) := dk_182 0 178 (dk_at dksX0_set_2 16 rfl rfl)
theorem dX0_set_67 : decode cX0_set 67 = .ok (.bipush 100, 2) := dk_16 100 (dk_at dksX0_set_2 19 rfl rfl)
theorem dX0_set_69 : decode cX0_set 69 = .ok (.iload 5, 2) := dk_21 5 (dk_at dksX0_set_2 21 rfl rfl)
theorem dX0_set_71 : decode cX0_set 71 = .ok (.iadd, 1) := dk_96 (dk_at dksX0_set_2 23 rfl rfl)
theorem dX0_set_72 : decode cX0_set 72 = .ok (.ireturn, 1) := dk_172 (dk_at dksX0_set_3 0 rfl rfl)
abbrev cX0_isTable : ByteArray := prog_1_method_10_code
def yX0_isTable : MethodName := ⟨RX0, "isTable", "(I)Z"⟩
def dkwX0_isTable_0 : List UInt8 := [26, 3, 5, 184, 0, 130, 172]
abbrev dktX0_isTable_0 : List UInt8 := dkwX0_isTable_0 ++ []
theorem dksX0_isTable_0 : cX0_isTable.data.toList.drop 0 = dktX0_isTable_0 := by decide +kernel
theorem dX0_isTable_0 : decode cX0_isTable 0 = .ok (.iload_n 0, 1) := dk_26 (dk_at dksX0_isTable_0 0 rfl rfl)
theorem dX0_isTable_1 : decode cX0_isTable 1 = .ok (.iconst 0, 1) := dk_3 (dk_at dksX0_isTable_0 1 rfl rfl)
theorem dX0_isTable_2 : decode cX0_isTable 2 = .ok (.iconst 2, 1) := dk_5 (dk_at dksX0_isTable_0 2 rfl rfl)
theorem dX0_isTable_3 : decode cX0_isTable 3 = .ok (.invokestatic 130, 3) := dk_184 0 130 (dk_at dksX0_isTable_0 3 rfl rfl)
theorem dX0_isTable_6 : decode cX0_isTable 6 = .ok (.ireturn, 1) := dk_172 (dk_at dksX0_isTable_0 6 rfl rfl)
abbrev cX0_mayBe : ByteArray := prog_1_method_15_code
def yX0_mayBe : MethodName := ⟨RX0, "mayBe", "(IJ)Z"⟩
def dkwX0_mayBe_1 : List UInt8 := [8, 167, 0, 5, 16, 50, 133, 148, 157, 0, 7, 4, 167, 0, 4, 3, 172]
abbrev dktX0_mayBe_1 : List UInt8 := dkwX0_mayBe_1 ++ []
def dkwX0_mayBe_0 : List UInt8 := [31, 26, 5, 162, 0, 8, 16, 251, 167, 0, 5, 16, 206, 133, 148, 155, 0, 24, 31, 26, 5, 162, 0, 7]
abbrev dktX0_mayBe_0 : List UInt8 := dkwX0_mayBe_0 ++ dktX0_mayBe_1
theorem dksX0_mayBe_0 : cX0_mayBe.data.toList.drop 0 = dktX0_mayBe_0 := by decide +kernel
theorem dksX0_mayBe_1 : cX0_mayBe.data.toList.drop 24 = dktX0_mayBe_1 := dk_seg dksX0_mayBe_0 24 rfl rfl
theorem dX0_mayBe_0 : decode cX0_mayBe 0 = .ok (.lload_n 1, 1) := dk_31 (dk_at dksX0_mayBe_0 0 rfl rfl)
theorem dX0_mayBe_1 : decode cX0_mayBe 1 = .ok (.iload_n 0, 1) := dk_26 (dk_at dksX0_mayBe_0 1 rfl rfl)
theorem dX0_mayBe_2 : decode cX0_mayBe 2 = .ok (.iconst 2, 1) := dk_5 (dk_at dksX0_mayBe_0 2 rfl rfl)
theorem dX0_mayBe_3 : decode cX0_mayBe 3 = .ok (.if_icmp .ge 8, 3) := dk_162 0 8 (dk_at dksX0_mayBe_0 3 rfl rfl)
theorem dX0_mayBe_6 : decode cX0_mayBe 6 = .ok (.bipush (-5), 2) := dk_16 251 (dk_at dksX0_mayBe_0 6 rfl rfl)
theorem dX0_mayBe_8 : decode cX0_mayBe 8 = .ok (.goto 5, 3) := dk_167 0 5 (dk_at dksX0_mayBe_0 8 rfl rfl)
theorem dX0_mayBe_11 : decode cX0_mayBe 11 = .ok (.bipush (-50), 2) := dk_16 206 (dk_at dksX0_mayBe_0 11 rfl rfl)
theorem dX0_mayBe_13 : decode cX0_mayBe 13 = .ok (.i2l, 1) := dk_133 (dk_at dksX0_mayBe_0 13 rfl rfl)
theorem dX0_mayBe_14 : decode cX0_mayBe 14 = .ok (.lcmp, 1) := dk_148 (dk_at dksX0_mayBe_0 14 rfl rfl)
theorem dX0_mayBe_15 : decode cX0_mayBe 15 = .ok (.ifCond .lt 24, 3) := dk_155 0 24 (dk_at dksX0_mayBe_0 15 rfl rfl)
theorem dX0_mayBe_18 : decode cX0_mayBe 18 = .ok (.lload_n 1, 1) := dk_31 (dk_at dksX0_mayBe_0 18 rfl rfl)
theorem dX0_mayBe_19 : decode cX0_mayBe 19 = .ok (.iload_n 0, 1) := dk_26 (dk_at dksX0_mayBe_0 19 rfl rfl)
theorem dX0_mayBe_20 : decode cX0_mayBe 20 = .ok (.iconst 2, 1) := dk_5 (dk_at dksX0_mayBe_0 20 rfl rfl)
theorem dX0_mayBe_21 : decode cX0_mayBe 21 = .ok (.if_icmp .ge 7, 3) := dk_162 0 7 (dk_at dksX0_mayBe_0 21 rfl rfl)
theorem dX0_mayBe_24 : decode cX0_mayBe 24 = .ok (.iconst 5, 1) := dk_8 (dk_at dksX0_mayBe_1 0 rfl rfl)
theorem dX0_mayBe_25 : decode cX0_mayBe 25 = .ok (.goto 5, 3) := dk_167 0 5 (dk_at dksX0_mayBe_1 1 rfl rfl)
theorem dX0_mayBe_28 : decode cX0_mayBe 28 = .ok (.bipush 50, 2) := dk_16 50 (dk_at dksX0_mayBe_1 4 rfl rfl)
theorem dX0_mayBe_30 : decode cX0_mayBe 30 = .ok (.i2l, 1) := dk_133 (dk_at dksX0_mayBe_1 6 rfl rfl)
theorem dX0_mayBe_31 : decode cX0_mayBe 31 = .ok (.lcmp, 1) := dk_148 (dk_at dksX0_mayBe_1 7 rfl rfl)
theorem dX0_mayBe_32 : decode cX0_mayBe 32 = .ok (.ifCond .gt 7, 3) := dk_157 0 7 (dk_at dksX0_mayBe_1 8 rfl rfl)
theorem dX0_mayBe_35 : decode cX0_mayBe 35 = .ok (.iconst 1, 1) := dk_4 (dk_at dksX0_mayBe_1 11 rfl rfl)
theorem dX0_mayBe_36 : decode cX0_mayBe 36 = .ok (.goto 4, 3) := dk_167 0 4 (dk_at dksX0_mayBe_1 12 rfl rfl)
theorem dX0_mayBe_39 : decode cX0_mayBe 39 = .ok (.iconst 0, 1) := dk_3 (dk_at dksX0_mayBe_1 15 rfl rfl)
theorem dX0_mayBe_40 : decode cX0_mayBe 40 = .ok (.ireturn, 1) := dk_172 (dk_at dksX0_mayBe_1 16 rfl rfl)
abbrev cX0_at : ByteArray := prog_1_method_17_code
def yX0_at : MethodName := ⟨RX0, "at", "(III)I"⟩
def dkwX0_at_1 : List UInt8 := [16, 100, 42, 180, 0, 62, 27, 182, 0, 160, 28, 29, 182, 0, 174, 136, 96, 167, 0, 4, 2, 172]
abbrev dktX0_at_1 : List UInt8 := dkwX0_at_1 ++ []
def dkwX0_at_0 : List UInt8 := [27, 184, 0, 156, 153, 0, 39, 42, 180, 0, 62, 27, 182, 0, 160, 28, 29, 182, 0, 164, 153, 0, 23]
abbrev dktX0_at_0 : List UInt8 := dkwX0_at_0 ++ dktX0_at_1
theorem dksX0_at_0 : cX0_at.data.toList.drop 0 = dktX0_at_0 := by decide +kernel
theorem dksX0_at_1 : cX0_at.data.toList.drop 23 = dktX0_at_1 := dk_seg dksX0_at_0 23 rfl rfl
theorem dX0_at_0 : decode cX0_at 0 = .ok (.iload_n 1, 1) := dk_27 (dk_at dksX0_at_0 0 rfl rfl)
theorem dX0_at_1 : decode cX0_at 1 = .ok (.invokestatic 156, 3) := dk_184 0 156 (dk_at dksX0_at_0 1 rfl rfl)
theorem dX0_at_4 : decode cX0_at 4 = .ok (.ifCond .eq 39, 3) := dk_153 0 39 (dk_at dksX0_at_0 4 rfl rfl)
theorem dX0_at_7 : decode cX0_at 7 = .ok (.aload_n 0, 1) := dk_42 (dk_at dksX0_at_0 7 rfl rfl)
theorem dX0_at_8 : decode cX0_at 8 = .ok (.getfield 62, 3) := dk_180 0 62 (dk_at dksX0_at_0 8 rfl rfl)
theorem dX0_at_11 : decode cX0_at 11 = .ok (.iload_n 1, 1) := dk_27 (dk_at dksX0_at_0 11 rfl rfl)
theorem dX0_at_12 : decode cX0_at 12 = .ok (.invokevirtual 160, 3) := dk_182 0 160 (dk_at dksX0_at_0 12 rfl rfl)
theorem dX0_at_15 : decode cX0_at 15 = .ok (.iload_n 2, 1) := dk_28 (dk_at dksX0_at_0 15 rfl rfl)
theorem dX0_at_16 : decode cX0_at 16 = .ok (.iload_n 3, 1) := dk_29 (dk_at dksX0_at_0 16 rfl rfl)
theorem dX0_at_17 : decode cX0_at 17 = .ok (.invokevirtual 164, 3) := dk_182 0 164 (dk_at dksX0_at_0 17 rfl rfl)
theorem dX0_at_20 : decode cX0_at 20 = .ok (.ifCond .eq 23, 3) := dk_153 0 23 (dk_at dksX0_at_0 20 rfl rfl)
theorem dX0_at_23 : decode cX0_at 23 = .ok (.bipush 100, 2) := dk_16 100 (dk_at dksX0_at_1 0 rfl rfl)
theorem dX0_at_25 : decode cX0_at 25 = .ok (.aload_n 0, 1) := dk_42 (dk_at dksX0_at_1 2 rfl rfl)
theorem dX0_at_26 : decode cX0_at 26 = .ok (.getfield 62, 3) := dk_180 0 62 (dk_at dksX0_at_1 3 rfl rfl)
theorem dX0_at_29 : decode cX0_at 29 = .ok (.iload_n 1, 1) := dk_27 (dk_at dksX0_at_1 6 rfl rfl)
theorem dX0_at_30 : decode cX0_at 30 = .ok (.invokevirtual 160, 3) := dk_182 0 160 (dk_at dksX0_at_1 7 rfl rfl)
theorem dX0_at_33 : decode cX0_at 33 = .ok (.iload_n 2, 1) := dk_28 (dk_at dksX0_at_1 10 rfl rfl)
theorem dX0_at_34 : decode cX0_at 34 = .ok (.iload_n 3, 1) := dk_29 (dk_at dksX0_at_1 11 rfl rfl)
theorem dX0_at_35 : decode cX0_at 35 = .ok (.invokevirtual 174, 3) := dk_182 0 174 (dk_at dksX0_at_1 12 rfl rfl)
theorem dX0_at_38 : decode cX0_at 38 = .ok (.l2i, 1) := dk_136 (dk_at dksX0_at_1 15 rfl rfl)
theorem dX0_at_39 : decode cX0_at 39 = .ok (.iadd, 1) := dk_96 (dk_at dksX0_at_1 16 rfl rfl)
theorem dX0_at_40 : decode cX0_at 40 = .ok (.goto 4, 3) := dk_167 0 4 (dk_at dksX0_at_1 17 rfl rfl)
theorem dX0_at_43 : decode cX0_at 43 = .ok (.iconst (-1), 1) := dk_2 (dk_at dksX0_at_1 20 rfl rfl)
theorem dX0_at_44 : decode cX0_at 44 = .ok (.ireturn, 1) := dk_172 (dk_at dksX0_at_1 21 rfl rfl)
abbrev cX0_det : ByteArray := prog_1_method_22_code
def yX0_det : MethodName := ⟨RX0, "det", "(I)J"⟩
def dkwX0_det_1 : List UInt8 := [184, 0, 203, 173]
abbrev dktX0_det_1 : List UInt8 := dkwX0_det_1 ++ []
def dkwX0_det_0 : List UInt8 := [27, 3, 4, 184, 0, 130, 153, 0, 17, 42, 180, 0, 62, 27, 182, 0, 160, 184, 0, 199, 167, 0, 7, 2]
abbrev dktX0_det_0 : List UInt8 := dkwX0_det_0 ++ dktX0_det_1
theorem dksX0_det_0 : cX0_det.data.toList.drop 0 = dktX0_det_0 := by decide +kernel
theorem dksX0_det_1 : cX0_det.data.toList.drop 24 = dktX0_det_1 := dk_seg dksX0_det_0 24 rfl rfl
theorem dX0_det_0 : decode cX0_det 0 = .ok (.iload_n 1, 1) := dk_27 (dk_at dksX0_det_0 0 rfl rfl)
theorem dX0_det_1 : decode cX0_det 1 = .ok (.iconst 0, 1) := dk_3 (dk_at dksX0_det_0 1 rfl rfl)
theorem dX0_det_2 : decode cX0_det 2 = .ok (.iconst 1, 1) := dk_4 (dk_at dksX0_det_0 2 rfl rfl)
theorem dX0_det_3 : decode cX0_det 3 = .ok (.invokestatic 130, 3) := dk_184 0 130 (dk_at dksX0_det_0 3 rfl rfl)
theorem dX0_det_6 : decode cX0_det 6 = .ok (.ifCond .eq 17, 3) := dk_153 0 17 (dk_at dksX0_det_0 6 rfl rfl)
theorem dX0_det_9 : decode cX0_det 9 = .ok (.aload_n 0, 1) := dk_42 (dk_at dksX0_det_0 9 rfl rfl)
theorem dX0_det_10 : decode cX0_det 10 = .ok (.getfield 62, 3) := dk_180 0 62 (dk_at dksX0_det_0 10 rfl rfl)
theorem dX0_det_13 : decode cX0_det 13 = .ok (.iload_n 1, 1) := dk_27 (dk_at dksX0_det_0 13 rfl rfl)
theorem dX0_det_14 : decode cX0_det 14 = .ok (.invokevirtual 160, 3) := dk_182 0 160 (dk_at dksX0_det_0 14 rfl rfl)
theorem dX0_det_17 : decode cX0_det 17 = .ok (.invokestatic 199, 3) := dk_184 0 199 (dk_at dksX0_det_0 17 rfl rfl)
theorem dX0_det_20 : decode cX0_det 20 = .ok (.goto 7, 3) := dk_167 0 7 (dk_at dksX0_det_0 20 rfl rfl)
theorem dX0_det_23 : decode cX0_det 23 = .ok (.iconst (-1), 1) := dk_2 (dk_at dksX0_det_0 23 rfl rfl)
theorem dX0_det_24 : decode cX0_det 24 = .ok (.invokestatic 203, 3) := dk_184 0 203 (dk_at dksX0_det_1 0 rfl rfl)
theorem dX0_det_27 : decode cX0_det 27 = .ok (.lreturn, 1) := dk_173 (dk_at dksX0_det_1 3 rfl rfl)
abbrev cX0_determinant : ByteArray := prog_1_method_20_code
def yX0_determinant : MethodName := ⟨RX0, "determinant", "(LTwoSidedTables$Table;)J"⟩
def dkwX0_determinant_3 : List UInt8 := [89, 5, 42, 3, 5, 182, 0, 174, 42, 4, 5, 3, 4, 184, 0, 191, 105, 80, 184, 0, 195, 173]
abbrev dktX0_determinant_3 : List UInt8 := dkwX0_determinant_3 ++ []
def dkwX0_determinant_2 : List UInt8 := [184, 0, 191, 105, 80, 89, 4, 42, 3, 4, 182, 0, 174, 117, 42, 4, 5, 3, 5, 184, 0, 191, 105, 80]
abbrev dktX0_determinant_2 : List UInt8 := dkwX0_determinant_2 ++ dktX0_determinant_3
def dkwX0_determinant_1 : List UInt8 := [3, 4, 3, 4, 184, 0, 191, 173, 6, 188, 11, 89, 3, 42, 3, 3, 182, 0, 174, 42, 4, 5, 4, 5]
abbrev dktX0_determinant_1 : List UInt8 := dkwX0_determinant_1 ++ dktX0_determinant_2
def dkwX0_determinant_0 : List UInt8 := [42, 180, 0, 188, 4, 160, 0, 10, 42, 3, 3, 182, 0, 174, 173, 42, 180, 0, 188, 5, 160, 0, 12, 42]
abbrev dktX0_determinant_0 : List UInt8 := dkwX0_determinant_0 ++ dktX0_determinant_1
theorem dksX0_determinant_0 : cX0_determinant.data.toList.drop 0 = dktX0_determinant_0 := by decide +kernel
theorem dksX0_determinant_1 : cX0_determinant.data.toList.drop 24 = dktX0_determinant_1 := dk_seg dksX0_determinant_0 24 rfl rfl
theorem dksX0_determinant_2 : cX0_determinant.data.toList.drop 48 = dktX0_determinant_2 := dk_seg dksX0_determinant_1 24 rfl rfl
theorem dksX0_determinant_3 : cX0_determinant.data.toList.drop 72 = dktX0_determinant_3 := dk_seg dksX0_determinant_2 24 rfl rfl
theorem dX0_determinant_0 : decode cX0_determinant 0 = .ok (.aload_n 0, 1) := dk_42 (dk_at dksX0_determinant_0 0 rfl rfl)
theorem dX0_determinant_1 : decode cX0_determinant 1 = .ok (.getfield 188, 3) := dk_180 0 188 (dk_at dksX0_determinant_0 1 rfl rfl)
theorem dX0_determinant_4 : decode cX0_determinant 4 = .ok (.iconst 1, 1) := dk_4 (dk_at dksX0_determinant_0 4 rfl rfl)
theorem dX0_determinant_5 : decode cX0_determinant 5 = .ok (.if_icmp .ne 10, 3) := dk_160 0 10 (dk_at dksX0_determinant_0 5 rfl rfl)
theorem dX0_determinant_8 : decode cX0_determinant 8 = .ok (.aload_n 0, 1) := dk_42 (dk_at dksX0_determinant_0 8 rfl rfl)
theorem dX0_determinant_9 : decode cX0_determinant 9 = .ok (.iconst 0, 1) := dk_3 (dk_at dksX0_determinant_0 9 rfl rfl)
theorem dX0_determinant_10 : decode cX0_determinant 10 = .ok (.iconst 0, 1) := dk_3 (dk_at dksX0_determinant_0 10 rfl rfl)
theorem dX0_determinant_11 : decode cX0_determinant 11 = .ok (.invokevirtual 174, 3) := dk_182 0 174 (dk_at dksX0_determinant_0 11 rfl rfl)
theorem dX0_determinant_14 : decode cX0_determinant 14 = .ok (.lreturn, 1) := dk_173 (dk_at dksX0_determinant_0 14 rfl rfl)
theorem dX0_determinant_15 : decode cX0_determinant 15 = .ok (.aload_n 0, 1) := dk_42 (dk_at dksX0_determinant_0 15 rfl rfl)
theorem dX0_determinant_16 : decode cX0_determinant 16 = .ok (.getfield 188, 3) := dk_180 0 188 (dk_at dksX0_determinant_0 16 rfl rfl)
theorem dX0_determinant_19 : decode cX0_determinant 19 = .ok (.iconst 2, 1) := dk_5 (dk_at dksX0_determinant_0 19 rfl rfl)
theorem dX0_determinant_20 : decode cX0_determinant 20 = .ok (.if_icmp .ne 12, 3) := dk_160 0 12 (dk_at dksX0_determinant_0 20 rfl rfl)
theorem dX0_determinant_23 : decode cX0_determinant 23 = .ok (.aload_n 0, 1) := dk_42 (dk_at dksX0_determinant_0 23 rfl rfl)
theorem dX0_determinant_24 : decode cX0_determinant 24 = .ok (.iconst 0, 1) := dk_3 (dk_at dksX0_determinant_1 0 rfl rfl)
theorem dX0_determinant_25 : decode cX0_determinant 25 = .ok (.iconst 1, 1) := dk_4 (dk_at dksX0_determinant_1 1 rfl rfl)
theorem dX0_determinant_26 : decode cX0_determinant 26 = .ok (.iconst 0, 1) := dk_3 (dk_at dksX0_determinant_1 2 rfl rfl)
theorem dX0_determinant_27 : decode cX0_determinant 27 = .ok (.iconst 1, 1) := dk_4 (dk_at dksX0_determinant_1 3 rfl rfl)
theorem dX0_determinant_28 : decode cX0_determinant 28 = .ok (.invokestatic 191, 3) := dk_184 0 191 (dk_at dksX0_determinant_1 4 rfl rfl)
theorem dX0_determinant_31 : decode cX0_determinant 31 = .ok (.lreturn, 1) := dk_173 (dk_at dksX0_determinant_1 7 rfl rfl)
theorem dX0_determinant_32 : decode cX0_determinant 32 = .ok (.iconst 3, 1) := dk_6 (dk_at dksX0_determinant_1 8 rfl rfl)
theorem dX0_determinant_33 : decode cX0_determinant 33 = .ok (.newarray .long, 2) := dk_188_11 (dk_at dksX0_determinant_1 9 rfl rfl)
theorem dX0_determinant_35 : decode cX0_determinant 35 = .ok (.dup, 1) := dk_89 (dk_at dksX0_determinant_1 11 rfl rfl)
theorem dX0_determinant_36 : decode cX0_determinant 36 = .ok (.iconst 0, 1) := dk_3 (dk_at dksX0_determinant_1 12 rfl rfl)
theorem dX0_determinant_37 : decode cX0_determinant 37 = .ok (.aload_n 0, 1) := dk_42 (dk_at dksX0_determinant_1 13 rfl rfl)
theorem dX0_determinant_38 : decode cX0_determinant 38 = .ok (.iconst 0, 1) := dk_3 (dk_at dksX0_determinant_1 14 rfl rfl)
theorem dX0_determinant_39 : decode cX0_determinant 39 = .ok (.iconst 0, 1) := dk_3 (dk_at dksX0_determinant_1 15 rfl rfl)
theorem dX0_determinant_40 : decode cX0_determinant 40 = .ok (.invokevirtual 174, 3) := dk_182 0 174 (dk_at dksX0_determinant_1 16 rfl rfl)
theorem dX0_determinant_43 : decode cX0_determinant 43 = .ok (.aload_n 0, 1) := dk_42 (dk_at dksX0_determinant_1 19 rfl rfl)
theorem dX0_determinant_44 : decode cX0_determinant 44 = .ok (.iconst 1, 1) := dk_4 (dk_at dksX0_determinant_1 20 rfl rfl)
theorem dX0_determinant_45 : decode cX0_determinant 45 = .ok (.iconst 2, 1) := dk_5 (dk_at dksX0_determinant_1 21 rfl rfl)
theorem dX0_determinant_46 : decode cX0_determinant 46 = .ok (.iconst 1, 1) := dk_4 (dk_at dksX0_determinant_1 22 rfl rfl)
theorem dX0_determinant_47 : decode cX0_determinant 47 = .ok (.iconst 2, 1) := dk_5 (dk_at dksX0_determinant_1 23 rfl rfl)
theorem dX0_determinant_48 : decode cX0_determinant 48 = .ok (.invokestatic 191, 3) := dk_184 0 191 (dk_at dksX0_determinant_2 0 rfl rfl)
theorem dX0_determinant_51 : decode cX0_determinant 51 = .ok (.lmul, 1) := dk_105 (dk_at dksX0_determinant_2 3 rfl rfl)
theorem dX0_determinant_52 : decode cX0_determinant 52 = .ok (.lastore, 1) := dk_80 (dk_at dksX0_determinant_2 4 rfl rfl)
theorem dX0_determinant_53 : decode cX0_determinant 53 = .ok (.dup, 1) := dk_89 (dk_at dksX0_determinant_2 5 rfl rfl)
theorem dX0_determinant_54 : decode cX0_determinant 54 = .ok (.iconst 1, 1) := dk_4 (dk_at dksX0_determinant_2 6 rfl rfl)
theorem dX0_determinant_55 : decode cX0_determinant 55 = .ok (.aload_n 0, 1) := dk_42 (dk_at dksX0_determinant_2 7 rfl rfl)
theorem dX0_determinant_56 : decode cX0_determinant 56 = .ok (.iconst 0, 1) := dk_3 (dk_at dksX0_determinant_2 8 rfl rfl)
theorem dX0_determinant_57 : decode cX0_determinant 57 = .ok (.iconst 1, 1) := dk_4 (dk_at dksX0_determinant_2 9 rfl rfl)
theorem dX0_determinant_58 : decode cX0_determinant 58 = .ok (.invokevirtual 174, 3) := dk_182 0 174 (dk_at dksX0_determinant_2 10 rfl rfl)
theorem dX0_determinant_61 : decode cX0_determinant 61 = .ok (.lneg, 1) := dk_117 (dk_at dksX0_determinant_2 13 rfl rfl)
theorem dX0_determinant_62 : decode cX0_determinant 62 = .ok (.aload_n 0, 1) := dk_42 (dk_at dksX0_determinant_2 14 rfl rfl)
theorem dX0_determinant_63 : decode cX0_determinant 63 = .ok (.iconst 1, 1) := dk_4 (dk_at dksX0_determinant_2 15 rfl rfl)
theorem dX0_determinant_64 : decode cX0_determinant 64 = .ok (.iconst 2, 1) := dk_5 (dk_at dksX0_determinant_2 16 rfl rfl)
theorem dX0_determinant_65 : decode cX0_determinant 65 = .ok (.iconst 0, 1) := dk_3 (dk_at dksX0_determinant_2 17 rfl rfl)
theorem dX0_determinant_66 : decode cX0_determinant 66 = .ok (.iconst 2, 1) := dk_5 (dk_at dksX0_determinant_2 18 rfl rfl)
theorem dX0_determinant_67 : decode cX0_determinant 67 = .ok (.invokestatic 191, 3) := dk_184 0 191 (dk_at dksX0_determinant_2 19 rfl rfl)
theorem dX0_determinant_70 : decode cX0_determinant 70 = .ok (.lmul, 1) := dk_105 (dk_at dksX0_determinant_2 22 rfl rfl)
theorem dX0_determinant_71 : decode cX0_determinant 71 = .ok (.lastore, 1) := dk_80 (dk_at dksX0_determinant_2 23 rfl rfl)
theorem dX0_determinant_72 : decode cX0_determinant 72 = .ok (.dup, 1) := dk_89 (dk_at dksX0_determinant_3 0 rfl rfl)
theorem dX0_determinant_73 : decode cX0_determinant 73 = .ok (.iconst 2, 1) := dk_5 (dk_at dksX0_determinant_3 1 rfl rfl)
theorem dX0_determinant_74 : decode cX0_determinant 74 = .ok (.aload_n 0, 1) := dk_42 (dk_at dksX0_determinant_3 2 rfl rfl)
theorem dX0_determinant_75 : decode cX0_determinant 75 = .ok (.iconst 0, 1) := dk_3 (dk_at dksX0_determinant_3 3 rfl rfl)
theorem dX0_determinant_76 : decode cX0_determinant 76 = .ok (.iconst 2, 1) := dk_5 (dk_at dksX0_determinant_3 4 rfl rfl)
theorem dX0_determinant_77 : decode cX0_determinant 77 = .ok (.invokevirtual 174, 3) := dk_182 0 174 (dk_at dksX0_determinant_3 5 rfl rfl)
theorem dX0_determinant_80 : decode cX0_determinant 80 = .ok (.aload_n 0, 1) := dk_42 (dk_at dksX0_determinant_3 8 rfl rfl)
theorem dX0_determinant_81 : decode cX0_determinant 81 = .ok (.iconst 1, 1) := dk_4 (dk_at dksX0_determinant_3 9 rfl rfl)
theorem dX0_determinant_82 : decode cX0_determinant 82 = .ok (.iconst 2, 1) := dk_5 (dk_at dksX0_determinant_3 10 rfl rfl)
theorem dX0_determinant_83 : decode cX0_determinant 83 = .ok (.iconst 0, 1) := dk_3 (dk_at dksX0_determinant_3 11 rfl rfl)
theorem dX0_determinant_84 : decode cX0_determinant 84 = .ok (.iconst 1, 1) := dk_4 (dk_at dksX0_determinant_3 12 rfl rfl)
theorem dX0_determinant_85 : decode cX0_determinant 85 = .ok (.invokestatic 191, 3) := dk_184 0 191 (dk_at dksX0_determinant_3 13 rfl rfl)
theorem dX0_determinant_88 : decode cX0_determinant 88 = .ok (.lmul, 1) := dk_105 (dk_at dksX0_determinant_3 16 rfl rfl)
theorem dX0_determinant_89 : decode cX0_determinant 89 = .ok (.lastore, 1) := dk_80 (dk_at dksX0_determinant_3 17 rfl rfl)
theorem dX0_determinant_90 : decode cX0_determinant 90 = .ok (.invokestatic 195, 3) := dk_184 0 195 (dk_at dksX0_determinant_3 18 rfl rfl)
theorem dX0_determinant_93 : decode cX0_determinant 93 = .ok (.lreturn, 1) := dk_173 (dk_at dksX0_determinant_3 21 rfl rfl)
abbrev cX0_minor : ByteArray := prog_1_method_19_code
def yX0_minor : MethodName := ⟨RX0, "minor", "(LTwoSidedTables$Table;IIII)J"⟩
def dkwX0_minor_1 : List UInt8 := [182, 0, 174, 105, 101, 173]
abbrev dktX0_minor_1 : List UInt8 := dkwX0_minor_1 ++ []
def dkwX0_minor_0 : List UInt8 := [42, 27, 29, 182, 0, 174, 42, 28, 21, 4, 182, 0, 174, 105, 42, 27, 21, 4, 182, 0, 174, 42, 28, 29]
abbrev dktX0_minor_0 : List UInt8 := dkwX0_minor_0 ++ dktX0_minor_1
theorem dksX0_minor_0 : cX0_minor.data.toList.drop 0 = dktX0_minor_0 := by decide +kernel
theorem dksX0_minor_1 : cX0_minor.data.toList.drop 24 = dktX0_minor_1 := dk_seg dksX0_minor_0 24 rfl rfl
theorem dX0_minor_0 : decode cX0_minor 0 = .ok (.aload_n 0, 1) := dk_42 (dk_at dksX0_minor_0 0 rfl rfl)
theorem dX0_minor_1 : decode cX0_minor 1 = .ok (.iload_n 1, 1) := dk_27 (dk_at dksX0_minor_0 1 rfl rfl)
theorem dX0_minor_2 : decode cX0_minor 2 = .ok (.iload_n 3, 1) := dk_29 (dk_at dksX0_minor_0 2 rfl rfl)
theorem dX0_minor_3 : decode cX0_minor 3 = .ok (.invokevirtual 174, 3) := dk_182 0 174 (dk_at dksX0_minor_0 3 rfl rfl)
theorem dX0_minor_6 : decode cX0_minor 6 = .ok (.aload_n 0, 1) := dk_42 (dk_at dksX0_minor_0 6 rfl rfl)
theorem dX0_minor_7 : decode cX0_minor 7 = .ok (.iload_n 2, 1) := dk_28 (dk_at dksX0_minor_0 7 rfl rfl)
theorem dX0_minor_8 : decode cX0_minor 8 = .ok (.iload 4, 2) := dk_21 4 (dk_at dksX0_minor_0 8 rfl rfl)
theorem dX0_minor_10 : decode cX0_minor 10 = .ok (.invokevirtual 174, 3) := dk_182 0 174 (dk_at dksX0_minor_0 10 rfl rfl)
theorem dX0_minor_13 : decode cX0_minor 13 = .ok (.lmul, 1) := dk_105 (dk_at dksX0_minor_0 13 rfl rfl)
theorem dX0_minor_14 : decode cX0_minor 14 = .ok (.aload_n 0, 1) := dk_42 (dk_at dksX0_minor_0 14 rfl rfl)
theorem dX0_minor_15 : decode cX0_minor 15 = .ok (.iload_n 1, 1) := dk_27 (dk_at dksX0_minor_0 15 rfl rfl)
theorem dX0_minor_16 : decode cX0_minor 16 = .ok (.iload 4, 2) := dk_21 4 (dk_at dksX0_minor_0 16 rfl rfl)
theorem dX0_minor_18 : decode cX0_minor 18 = .ok (.invokevirtual 174, 3) := dk_182 0 174 (dk_at dksX0_minor_0 18 rfl rfl)
theorem dX0_minor_21 : decode cX0_minor 21 = .ok (.aload_n 0, 1) := dk_42 (dk_at dksX0_minor_0 21 rfl rfl)
theorem dX0_minor_22 : decode cX0_minor 22 = .ok (.iload_n 2, 1) := dk_28 (dk_at dksX0_minor_0 22 rfl rfl)
theorem dX0_minor_23 : decode cX0_minor 23 = .ok (.iload_n 3, 1) := dk_29 (dk_at dksX0_minor_0 23 rfl rfl)
theorem dX0_minor_24 : decode cX0_minor 24 = .ok (.invokevirtual 174, 3) := dk_182 0 174 (dk_at dksX0_minor_1 0 rfl rfl)
theorem dX0_minor_27 : decode cX0_minor 27 = .ok (.lmul, 1) := dk_105 (dk_at dksX0_minor_1 3 rfl rfl)
theorem dX0_minor_28 : decode cX0_minor 28 = .ok (.lsub, 1) := dk_101 (dk_at dksX0_minor_1 4 rfl rfl)
theorem dX0_minor_29 : decode cX0_minor 29 = .ok (.lreturn, 1) := dk_173 (dk_at dksX0_minor_1 5 rfl rfl)
abbrev cX0_sum : ByteArray := prog_1_method_18_code
def yX0_sum : MethodName := ⟨RX0, "sum", "([J)J"⟩
def dkwX0_sum_1 : List UInt8 := [31, 22, 6, 184, 0, 182, 64, 132, 5, 1, 167, 255, 233, 31, 173]
abbrev dktX0_sum_1 : List UInt8 := dkwX0_sum_1 ++ []
def dkwX0_sum_0 : List UInt8 := [9, 64, 42, 78, 45, 190, 54, 4, 3, 54, 5, 21, 5, 21, 4, 162, 0, 22, 45, 21, 5, 47, 55, 6]
abbrev dktX0_sum_0 : List UInt8 := dkwX0_sum_0 ++ dktX0_sum_1
theorem dksX0_sum_0 : cX0_sum.data.toList.drop 0 = dktX0_sum_0 := by decide +kernel
theorem dksX0_sum_1 : cX0_sum.data.toList.drop 24 = dktX0_sum_1 := dk_seg dksX0_sum_0 24 rfl rfl
theorem dX0_sum_0 : decode cX0_sum 0 = .ok (.lconst 0, 1) := dk_9 (dk_at dksX0_sum_0 0 rfl rfl)
theorem dX0_sum_1 : decode cX0_sum 1 = .ok (.lstore_n 1, 1) := dk_64 (dk_at dksX0_sum_0 1 rfl rfl)
theorem dX0_sum_2 : decode cX0_sum 2 = .ok (.aload_n 0, 1) := dk_42 (dk_at dksX0_sum_0 2 rfl rfl)
theorem dX0_sum_3 : decode cX0_sum 3 = .ok (.astore_n 3, 1) := dk_78 (dk_at dksX0_sum_0 3 rfl rfl)
theorem dX0_sum_4 : decode cX0_sum 4 = .ok (.aload_n 3, 1) := dk_45 (dk_at dksX0_sum_0 4 rfl rfl)
theorem dX0_sum_5 : decode cX0_sum 5 = .ok (.arraylength, 1) := dk_190 (dk_at dksX0_sum_0 5 rfl rfl)
theorem dX0_sum_6 : decode cX0_sum 6 = .ok (.istore 4, 2) := dk_54 4 (dk_at dksX0_sum_0 6 rfl rfl)
theorem dX0_sum_8 : decode cX0_sum 8 = .ok (.iconst 0, 1) := dk_3 (dk_at dksX0_sum_0 8 rfl rfl)
theorem dX0_sum_9 : decode cX0_sum 9 = .ok (.istore 5, 2) := dk_54 5 (dk_at dksX0_sum_0 9 rfl rfl)
theorem dX0_sum_11 : decode cX0_sum 11 = .ok (.iload 5, 2) := dk_21 5 (dk_at dksX0_sum_0 11 rfl rfl)
theorem dX0_sum_13 : decode cX0_sum 13 = .ok (.iload 4, 2) := dk_21 4 (dk_at dksX0_sum_0 13 rfl rfl)
theorem dX0_sum_15 : decode cX0_sum 15 = .ok (.if_icmp .ge 22, 3) := dk_162 0 22 (dk_at dksX0_sum_0 15 rfl rfl)
theorem dX0_sum_18 : decode cX0_sum 18 = .ok (.aload_n 3, 1) := dk_45 (dk_at dksX0_sum_0 18 rfl rfl)
theorem dX0_sum_19 : decode cX0_sum 19 = .ok (.iload 5, 2) := dk_21 5 (dk_at dksX0_sum_0 19 rfl rfl)
theorem dX0_sum_21 : decode cX0_sum 21 = .ok (.laload, 1) := dk_47 (dk_at dksX0_sum_0 21 rfl rfl)
theorem dX0_sum_22 : decode cX0_sum 22 = .ok (.lstore 6, 2) := dk_55 6 (dk_at dksX0_sum_0 22 rfl rfl)
theorem dX0_sum_24 : decode cX0_sum 24 = .ok (.lload_n 1, 1) := dk_31 (dk_at dksX0_sum_1 0 rfl rfl)
theorem dX0_sum_25 : decode cX0_sum 25 = .ok (.lload 6, 2) := dk_22 6 (dk_at dksX0_sum_1 1 rfl rfl)
theorem dX0_sum_27 : decode cX0_sum 27 = .ok (.invokestatic 182, 3) := dk_184 0 182 (dk_at dksX0_sum_1 3 rfl rfl)
theorem dX0_sum_30 : decode cX0_sum 30 = .ok (.lstore_n 1, 1) := dk_64 (dk_at dksX0_sum_1 6 rfl rfl)
theorem dX0_sum_31 : decode cX0_sum 31 = .ok (.iinc 5 1, 3) := dk_132 5 1 (dk_at dksX0_sum_1 7 rfl rfl)
theorem dX0_sum_34 : decode cX0_sum 34 = .ok (.goto (-23), 3) := dk_167 255 233 (dk_at dksX0_sum_1 10 rfl rfl)
theorem dX0_sum_37 : decode cX0_sum 37 = .ok (.lload_n 1, 1) := dk_31 (dk_at dksX0_sum_1 13 rfl rfl)
theorem dX0_sum_38 : decode cX0_sum 38 = .ok (.lreturn, 1) := dk_173 (dk_at dksX0_sum_1 14 rfl rfl)
abbrev cX0_far : ByteArray := prog_1_method_3_code
def yX0_far : MethodName := ⟨RX0, "far", "(I)J"⟩
def dkwX0_far_0 : List UInt8 := [20, 0, 13, 26, 133, 97, 173]
abbrev dktX0_far_0 : List UInt8 := dkwX0_far_0 ++ []
theorem dksX0_far_0 : cX0_far.data.toList.drop 0 = dktX0_far_0 := by decide +kernel
theorem dX0_far_0 : decode cX0_far 0 = .ok (.ldc2_w 13, 3) := dk_20 0 13 (dk_at dksX0_far_0 0 rfl rfl)
theorem dX0_far_3 : decode cX0_far 3 = .ok (.iload_n 0, 1) := dk_26 (dk_at dksX0_far_0 3 rfl rfl)
theorem dX0_far_4 : decode cX0_far 4 = .ok (.i2l, 1) := dk_133 (dk_at dksX0_far_0 4 rfl rfl)
theorem dX0_far_5 : decode cX0_far 5 = .ok (.ladd, 1) := dk_97 (dk_at dksX0_far_0 5 rfl rfl)
theorem dX0_far_6 : decode cX0_far 6 = .ok (.lreturn, 1) := dk_173 (dk_at dksX0_far_0 6 rfl rfl)
abbrev cX0_diagonal : ByteArray := prog_1_method_23_code
def yX0_diagonal : MethodName := ⟨RX0, "diagonal", "(I)J"⟩
def dkwX0_diagonal_1 : List UInt8 := [16, 252, 184, 0, 203, 167, 0, 14, 42, 180, 0, 62, 27, 182, 0, 160, 182, 0, 207, 173]
abbrev dktX0_diagonal_1 : List UInt8 := dkwX0_diagonal_1 ++ []
def dkwX0_diagonal_0 : List UInt8 := [27, 184, 0, 156, 154, 0, 8, 2, 184, 0, 203, 173, 27, 5, 160, 0, 18, 42, 182, 0, 140, 154, 0, 11]
abbrev dktX0_diagonal_0 : List UInt8 := dkwX0_diagonal_0 ++ dktX0_diagonal_1
theorem dksX0_diagonal_0 : cX0_diagonal.data.toList.drop 0 = dktX0_diagonal_0 := by decide +kernel
theorem dksX0_diagonal_1 : cX0_diagonal.data.toList.drop 24 = dktX0_diagonal_1 := dk_seg dksX0_diagonal_0 24 rfl rfl
theorem dX0_diagonal_0 : decode cX0_diagonal 0 = .ok (.iload_n 1, 1) := dk_27 (dk_at dksX0_diagonal_0 0 rfl rfl)
theorem dX0_diagonal_1 : decode cX0_diagonal 1 = .ok (.invokestatic 156, 3) := dk_184 0 156 (dk_at dksX0_diagonal_0 1 rfl rfl)
theorem dX0_diagonal_4 : decode cX0_diagonal 4 = .ok (.ifCond .ne 8, 3) := dk_154 0 8 (dk_at dksX0_diagonal_0 4 rfl rfl)
theorem dX0_diagonal_7 : decode cX0_diagonal 7 = .ok (.iconst (-1), 1) := dk_2 (dk_at dksX0_diagonal_0 7 rfl rfl)
theorem dX0_diagonal_8 : decode cX0_diagonal 8 = .ok (.invokestatic 203, 3) := dk_184 0 203 (dk_at dksX0_diagonal_0 8 rfl rfl)
theorem dX0_diagonal_11 : decode cX0_diagonal 11 = .ok (.lreturn, 1) := dk_173 (dk_at dksX0_diagonal_0 11 rfl rfl)
theorem dX0_diagonal_12 : decode cX0_diagonal 12 = .ok (.iload_n 1, 1) := dk_27 (dk_at dksX0_diagonal_0 12 rfl rfl)
theorem dX0_diagonal_13 : decode cX0_diagonal 13 = .ok (.iconst 2, 1) := dk_5 (dk_at dksX0_diagonal_0 13 rfl rfl)
theorem dX0_diagonal_14 : decode cX0_diagonal 14 = .ok (.if_icmp .ne 18, 3) := dk_160 0 18 (dk_at dksX0_diagonal_0 14 rfl rfl)
theorem dX0_diagonal_17 : decode cX0_diagonal 17 = .ok (.aload_n 0, 1) := dk_42 (dk_at dksX0_diagonal_0 17 rfl rfl)
theorem dX0_diagonal_18 : decode cX0_diagonal 18 = .ok (.invokevirtual 140, 3) := dk_182 0 140 (dk_at dksX0_diagonal_0 18 rfl rfl)
theorem dX0_diagonal_21 : decode cX0_diagonal 21 = .ok (.ifCond .ne 11, 3) := dk_154 0 11 (dk_at dksX0_diagonal_0 21 rfl rfl)
theorem dX0_diagonal_24 : decode cX0_diagonal 24 = .ok (.bipush (-4), 2) := dk_16 252 (dk_at dksX0_diagonal_1 0 rfl rfl)
theorem dX0_diagonal_26 : decode cX0_diagonal 26 = .ok (.invokestatic 203, 3) := dk_184 0 203 (dk_at dksX0_diagonal_1 2 rfl rfl)
theorem dX0_diagonal_29 : decode cX0_diagonal 29 = .ok (.goto 14, 3) := dk_167 0 14 (dk_at dksX0_diagonal_1 5 rfl rfl)
theorem dX0_diagonal_32 : decode cX0_diagonal 32 = .ok (.aload_n 0, 1) := dk_42 (dk_at dksX0_diagonal_1 8 rfl rfl)
theorem dX0_diagonal_33 : decode cX0_diagonal 33 = .ok (.getfield 62, 3) := dk_180 0 62 (dk_at dksX0_diagonal_1 9 rfl rfl)
theorem dX0_diagonal_36 : decode cX0_diagonal 36 = .ok (.iload_n 1, 1) := dk_27 (dk_at dksX0_diagonal_1 12 rfl rfl)
theorem dX0_diagonal_37 : decode cX0_diagonal 37 = .ok (.invokevirtual 160, 3) := dk_182 0 160 (dk_at dksX0_diagonal_1 13 rfl rfl)
theorem dX0_diagonal_40 : decode cX0_diagonal 40 = .ok (.invokevirtual 207, 3) := dk_182 0 207 (dk_at dksX0_diagonal_1 16 rfl rfl)
theorem dX0_diagonal_43 : decode cX0_diagonal 43 = .ok (.lreturn, 1) := dk_173 (dk_at dksX0_diagonal_1 19 rfl rfl)
abbrev cX0_isSquare : ByteArray := prog_1_method_11_code
def yX0_isSquare : MethodName := ⟨RX0, "isSquare", "()Z"⟩
def dkwX0_isSquare_0 : List UInt8 := [42, 180, 0, 62, 180, 0, 134, 42, 180, 0, 62, 180, 0, 137, 160, 0, 7, 4, 167, 0, 4, 3, 172]
abbrev dktX0_isSquare_0 : List UInt8 := dkwX0_isSquare_0 ++ []
theorem dksX0_isSquare_0 : cX0_isSquare.data.toList.drop 0 = dktX0_isSquare_0 := by decide +kernel
theorem dX0_isSquare_0 : decode cX0_isSquare 0 = .ok (.aload_n 0, 1) := dk_42 (dk_at dksX0_isSquare_0 0 rfl rfl)
theorem dX0_isSquare_1 : decode cX0_isSquare 1 = .ok (.getfield 62, 3) := dk_180 0 62 (dk_at dksX0_isSquare_0 1 rfl rfl)
theorem dX0_isSquare_4 : decode cX0_isSquare 4 = .ok (.getfield 134, 3) := dk_180 0 134 (dk_at dksX0_isSquare_0 4 rfl rfl)
theorem dX0_isSquare_7 : decode cX0_isSquare 7 = .ok (.aload_n 0, 1) := dk_42 (dk_at dksX0_isSquare_0 7 rfl rfl)
theorem dX0_isSquare_8 : decode cX0_isSquare 8 = .ok (.getfield 62, 3) := dk_180 0 62 (dk_at dksX0_isSquare_0 8 rfl rfl)
theorem dX0_isSquare_11 : decode cX0_isSquare 11 = .ok (.getfield 137, 3) := dk_180 0 137 (dk_at dksX0_isSquare_0 11 rfl rfl)
theorem dX0_isSquare_14 : decode cX0_isSquare 14 = .ok (.if_icmp .ne 7, 3) := dk_160 0 7 (dk_at dksX0_isSquare_0 14 rfl rfl)
theorem dX0_isSquare_17 : decode cX0_isSquare 17 = .ok (.iconst 1, 1) := dk_4 (dk_at dksX0_isSquare_0 17 rfl rfl)
theorem dX0_isSquare_18 : decode cX0_isSquare 18 = .ok (.goto 4, 3) := dk_167 0 4 (dk_at dksX0_isSquare_0 18 rfl rfl)
theorem dX0_isSquare_21 : decode cX0_isSquare 21 = .ok (.iconst 0, 1) := dk_3 (dk_at dksX0_isSquare_0 21 rfl rfl)
theorem dX0_isSquare_22 : decode cX0_isSquare 22 = .ok (.ireturn, 1) := dk_172 (dk_at dksX0_isSquare_0 22 rfl rfl)
abbrev cX0_character : ByteArray := prog_1_method_25_code
def yX0_character : MethodName := ⟨RX0, "character", "(II)J"⟩
def dkwX0_character_2 : List UInt8 := [184, 0, 203, 173]
abbrev dktX0_character_2 : List UInt8 := dkwX0_character_2 ++ []
def dkwX0_character_1 : List UInt8 := [184, 0, 130, 153, 0, 18, 42, 180, 0, 62, 27, 182, 0, 160, 28, 184, 0, 214, 167, 0, 7, 2]
abbrev dktX0_character_1 : List UInt8 := dkwX0_character_1 ++ dktX0_character_2
def dkwX0_character_0 : List UInt8 := [27, 3, 4, 184, 0, 130, 153, 0, 37, 28, 3, 42, 180, 0, 62, 27, 182, 0, 160, 180, 0, 188]
abbrev dktX0_character_0 : List UInt8 := dkwX0_character_0 ++ dktX0_character_1
theorem dksX0_character_0 : cX0_character.data.toList.drop 0 = dktX0_character_0 := by decide +kernel
theorem dksX0_character_1 : cX0_character.data.toList.drop 22 = dktX0_character_1 := dk_seg dksX0_character_0 22 rfl rfl
theorem dksX0_character_2 : cX0_character.data.toList.drop 44 = dktX0_character_2 := dk_seg dksX0_character_1 22 rfl rfl
theorem dX0_character_0 : decode cX0_character 0 = .ok (.iload_n 1, 1) := dk_27 (dk_at dksX0_character_0 0 rfl rfl)
theorem dX0_character_1 : decode cX0_character 1 = .ok (.iconst 0, 1) := dk_3 (dk_at dksX0_character_0 1 rfl rfl)
theorem dX0_character_2 : decode cX0_character 2 = .ok (.iconst 1, 1) := dk_4 (dk_at dksX0_character_0 2 rfl rfl)
theorem dX0_character_3 : decode cX0_character 3 = .ok (.invokestatic 130, 3) := dk_184 0 130 (dk_at dksX0_character_0 3 rfl rfl)
theorem dX0_character_6 : decode cX0_character 6 = .ok (.ifCond .eq 37, 3) := dk_153 0 37 (dk_at dksX0_character_0 6 rfl rfl)
theorem dX0_character_9 : decode cX0_character 9 = .ok (.iload_n 2, 1) := dk_28 (dk_at dksX0_character_0 9 rfl rfl)
theorem dX0_character_10 : decode cX0_character 10 = .ok (.iconst 0, 1) := dk_3 (dk_at dksX0_character_0 10 rfl rfl)
theorem dX0_character_11 : decode cX0_character 11 = .ok (.aload_n 0, 1) := dk_42 (dk_at dksX0_character_0 11 rfl rfl)
theorem dX0_character_12 : decode cX0_character 12 = .ok (.getfield 62, 3) := dk_180 0 62 (dk_at dksX0_character_0 12 rfl rfl)
theorem dX0_character_15 : decode cX0_character 15 = .ok (.iload_n 1, 1) := dk_27 (dk_at dksX0_character_0 15 rfl rfl)
theorem dX0_character_16 : decode cX0_character 16 = .ok (.invokevirtual 160, 3) := dk_182 0 160 (dk_at dksX0_character_0 16 rfl rfl)
theorem dX0_character_19 : decode cX0_character 19 = .ok (.getfield 188, 3) := dk_180 0 188 (dk_at dksX0_character_0 19 rfl rfl)
theorem dX0_character_22 : decode cX0_character 22 = .ok (.invokestatic 130, 3) := dk_184 0 130 (dk_at dksX0_character_1 0 rfl rfl)
theorem dX0_character_25 : decode cX0_character 25 = .ok (.ifCond .eq 18, 3) := dk_153 0 18 (dk_at dksX0_character_1 3 rfl rfl)
theorem dX0_character_28 : decode cX0_character 28 = .ok (.aload_n 0, 1) := dk_42 (dk_at dksX0_character_1 6 rfl rfl)
theorem dX0_character_29 : decode cX0_character 29 = .ok (.getfield 62, 3) := dk_180 0 62 (dk_at dksX0_character_1 7 rfl rfl)
theorem dX0_character_32 : decode cX0_character 32 = .ok (.iload_n 1, 1) := dk_27 (dk_at dksX0_character_1 10 rfl rfl)
theorem dX0_character_33 : decode cX0_character 33 = .ok (.invokevirtual 160, 3) := dk_182 0 160 (dk_at dksX0_character_1 11 rfl rfl)
theorem dX0_character_36 : decode cX0_character 36 = .ok (.iload_n 2, 1) := dk_28 (dk_at dksX0_character_1 14 rfl rfl)
theorem dX0_character_37 : decode cX0_character 37 = .ok (.invokestatic 214, 3) := dk_184 0 214 (dk_at dksX0_character_1 15 rfl rfl)
theorem dX0_character_40 : decode cX0_character 40 = .ok (.goto 7, 3) := dk_167 0 7 (dk_at dksX0_character_1 18 rfl rfl)
theorem dX0_character_43 : decode cX0_character 43 = .ok (.iconst (-1), 1) := dk_2 (dk_at dksX0_character_1 21 rfl rfl)
theorem dX0_character_44 : decode cX0_character 44 = .ok (.invokestatic 203, 3) := dk_184 0 203 (dk_at dksX0_character_2 0 rfl rfl)
theorem dX0_character_47 : decode cX0_character 47 = .ok (.lreturn, 1) := dk_173 (dk_at dksX0_character_2 3 rfl rfl)
abbrev cX0_characterOf : ByteArray := prog_1_method_24_code
def yX0_characterOf : MethodName := ⟨RX0, "characterOf", "(LTwoSidedTables$Table;I)J"⟩
def dkwX0_characterOf_1 : List UInt8 := [28, 5, 160, 0, 10, 42, 184, 0, 211, 167, 0, 8, 42, 184, 0, 199, 117, 173]
abbrev dktX0_characterOf_1 : List UInt8 := dkwX0_characterOf_1 ++ []
def dkwX0_characterOf_0 : List UInt8 := [42, 180, 0, 188, 27, 100, 61, 28, 154, 0, 5, 10, 173, 28, 4, 160, 0, 9, 42, 182, 0, 207, 117, 173]
abbrev dktX0_characterOf_0 : List UInt8 := dkwX0_characterOf_0 ++ dktX0_characterOf_1
theorem dksX0_characterOf_0 : cX0_characterOf.data.toList.drop 0 = dktX0_characterOf_0 := by decide +kernel
theorem dksX0_characterOf_1 : cX0_characterOf.data.toList.drop 24 = dktX0_characterOf_1 := dk_seg dksX0_characterOf_0 24 rfl rfl
theorem dX0_characterOf_0 : decode cX0_characterOf 0 = .ok (.aload_n 0, 1) := dk_42 (dk_at dksX0_characterOf_0 0 rfl rfl)
theorem dX0_characterOf_1 : decode cX0_characterOf 1 = .ok (.getfield 188, 3) := dk_180 0 188 (dk_at dksX0_characterOf_0 1 rfl rfl)
theorem dX0_characterOf_4 : decode cX0_characterOf 4 = .ok (.iload_n 1, 1) := dk_27 (dk_at dksX0_characterOf_0 4 rfl rfl)
theorem dX0_characterOf_5 : decode cX0_characterOf 5 = .ok (.isub, 1) := dk_100 (dk_at dksX0_characterOf_0 5 rfl rfl)
theorem dX0_characterOf_6 : decode cX0_characterOf 6 = .ok (.istore_n 2, 1) := dk_61 (dk_at dksX0_characterOf_0 6 rfl rfl)
theorem dX0_characterOf_7 : decode cX0_characterOf 7 = .ok (.iload_n 2, 1) := dk_28 (dk_at dksX0_characterOf_0 7 rfl rfl)
theorem dX0_characterOf_8 : decode cX0_characterOf 8 = .ok (.ifCond .ne 5, 3) := dk_154 0 5 (dk_at dksX0_characterOf_0 8 rfl rfl)
theorem dX0_characterOf_11 : decode cX0_characterOf 11 = .ok (.lconst 1, 1) := dk_10 (dk_at dksX0_characterOf_0 11 rfl rfl)
theorem dX0_characterOf_12 : decode cX0_characterOf 12 = .ok (.lreturn, 1) := dk_173 (dk_at dksX0_characterOf_0 12 rfl rfl)
theorem dX0_characterOf_13 : decode cX0_characterOf 13 = .ok (.iload_n 2, 1) := dk_28 (dk_at dksX0_characterOf_0 13 rfl rfl)
theorem dX0_characterOf_14 : decode cX0_characterOf 14 = .ok (.iconst 1, 1) := dk_4 (dk_at dksX0_characterOf_0 14 rfl rfl)
theorem dX0_characterOf_15 : decode cX0_characterOf 15 = .ok (.if_icmp .ne 9, 3) := dk_160 0 9 (dk_at dksX0_characterOf_0 15 rfl rfl)
theorem dX0_characterOf_18 : decode cX0_characterOf 18 = .ok (.aload_n 0, 1) := dk_42 (dk_at dksX0_characterOf_0 18 rfl rfl)
theorem dX0_characterOf_19 : decode cX0_characterOf 19 = .ok (.invokevirtual 207, 3) := dk_182 0 207 (dk_at dksX0_characterOf_0 19 rfl rfl)
theorem dX0_characterOf_22 : decode cX0_characterOf 22 = .ok (.lneg, 1) := dk_117 (dk_at dksX0_characterOf_0 22 rfl rfl)
theorem dX0_characterOf_23 : decode cX0_characterOf 23 = .ok (.lreturn, 1) := dk_173 (dk_at dksX0_characterOf_0 23 rfl rfl)
theorem dX0_characterOf_24 : decode cX0_characterOf 24 = .ok (.iload_n 2, 1) := dk_28 (dk_at dksX0_characterOf_1 0 rfl rfl)
theorem dX0_characterOf_25 : decode cX0_characterOf 25 = .ok (.iconst 2, 1) := dk_5 (dk_at dksX0_characterOf_1 1 rfl rfl)
theorem dX0_characterOf_26 : decode cX0_characterOf 26 = .ok (.if_icmp .ne 10, 3) := dk_160 0 10 (dk_at dksX0_characterOf_1 2 rfl rfl)
theorem dX0_characterOf_29 : decode cX0_characterOf 29 = .ok (.aload_n 0, 1) := dk_42 (dk_at dksX0_characterOf_1 5 rfl rfl)
theorem dX0_characterOf_30 : decode cX0_characterOf 30 = .ok (.invokestatic 211, 3) := dk_184 0 211 (dk_at dksX0_characterOf_1 6 rfl rfl)
theorem dX0_characterOf_33 : decode cX0_characterOf 33 = .ok (.goto 8, 3) := dk_167 0 8 (dk_at dksX0_characterOf_1 9 rfl rfl)
theorem dX0_characterOf_36 : decode cX0_characterOf 36 = .ok (.aload_n 0, 1) := dk_42 (dk_at dksX0_characterOf_1 12 rfl rfl)
theorem dX0_characterOf_37 : decode cX0_characterOf 37 = .ok (.invokestatic 199, 3) := dk_184 0 199 (dk_at dksX0_characterOf_1 13 rfl rfl)
theorem dX0_characterOf_40 : decode cX0_characterOf 40 = .ok (.lneg, 1) := dk_117 (dk_at dksX0_characterOf_1 16 rfl rfl)
theorem dX0_characterOf_41 : decode cX0_characterOf 41 = .ok (.lreturn, 1) := dk_173 (dk_at dksX0_characterOf_1 17 rfl rfl)
abbrev cX0_minors : ByteArray := prog_1_method_21_code
def yX0_minors : MethodName := ⟨RX0, "minors", "(LTwoSidedTables$Table;)J"⟩
def dkwX0_minors_2 : List UInt8 := [184, 0, 191, 80, 184, 0, 195, 173]
abbrev dktX0_minors_2 : List UInt8 := dkwX0_minors_2 ++ []
def dkwX0_minors_1 : List UInt8 := [4, 184, 0, 191, 80, 89, 4, 42, 3, 5, 3, 5, 184, 0, 191, 80, 89, 5, 42, 4, 5, 4, 5]
abbrev dktX0_minors_1 : List UInt8 := dkwX0_minors_1 ++ dktX0_minors_2
def dkwX0_minors_0 : List UInt8 := [42, 180, 0, 188, 6, 162, 0, 10, 42, 184, 0, 199, 167, 0, 42, 6, 188, 11, 89, 3, 42, 3, 4, 3]
abbrev dktX0_minors_0 : List UInt8 := dkwX0_minors_0 ++ dktX0_minors_1
theorem dksX0_minors_0 : cX0_minors.data.toList.drop 0 = dktX0_minors_0 := by decide +kernel
theorem dksX0_minors_1 : cX0_minors.data.toList.drop 24 = dktX0_minors_1 := dk_seg dksX0_minors_0 24 rfl rfl
theorem dksX0_minors_2 : cX0_minors.data.toList.drop 47 = dktX0_minors_2 := dk_seg dksX0_minors_1 23 rfl rfl
theorem dX0_minors_0 : decode cX0_minors 0 = .ok (.aload_n 0, 1) := dk_42 (dk_at dksX0_minors_0 0 rfl rfl)
theorem dX0_minors_1 : decode cX0_minors 1 = .ok (.getfield 188, 3) := dk_180 0 188 (dk_at dksX0_minors_0 1 rfl rfl)
theorem dX0_minors_4 : decode cX0_minors 4 = .ok (.iconst 3, 1) := dk_6 (dk_at dksX0_minors_0 4 rfl rfl)
theorem dX0_minors_5 : decode cX0_minors 5 = .ok (.if_icmp .ge 10, 3) := dk_162 0 10 (dk_at dksX0_minors_0 5 rfl rfl)
theorem dX0_minors_8 : decode cX0_minors 8 = .ok (.aload_n 0, 1) := dk_42 (dk_at dksX0_minors_0 8 rfl rfl)
theorem dX0_minors_9 : decode cX0_minors 9 = .ok (.invokestatic 199, 3) := dk_184 0 199 (dk_at dksX0_minors_0 9 rfl rfl)
theorem dX0_minors_12 : decode cX0_minors 12 = .ok (.goto 42, 3) := dk_167 0 42 (dk_at dksX0_minors_0 12 rfl rfl)
theorem dX0_minors_15 : decode cX0_minors 15 = .ok (.iconst 3, 1) := dk_6 (dk_at dksX0_minors_0 15 rfl rfl)
theorem dX0_minors_16 : decode cX0_minors 16 = .ok (.newarray .long, 2) := dk_188_11 (dk_at dksX0_minors_0 16 rfl rfl)
theorem dX0_minors_18 : decode cX0_minors 18 = .ok (.dup, 1) := dk_89 (dk_at dksX0_minors_0 18 rfl rfl)
theorem dX0_minors_19 : decode cX0_minors 19 = .ok (.iconst 0, 1) := dk_3 (dk_at dksX0_minors_0 19 rfl rfl)
theorem dX0_minors_20 : decode cX0_minors 20 = .ok (.aload_n 0, 1) := dk_42 (dk_at dksX0_minors_0 20 rfl rfl)
theorem dX0_minors_21 : decode cX0_minors 21 = .ok (.iconst 0, 1) := dk_3 (dk_at dksX0_minors_0 21 rfl rfl)
theorem dX0_minors_22 : decode cX0_minors 22 = .ok (.iconst 1, 1) := dk_4 (dk_at dksX0_minors_0 22 rfl rfl)
theorem dX0_minors_23 : decode cX0_minors 23 = .ok (.iconst 0, 1) := dk_3 (dk_at dksX0_minors_0 23 rfl rfl)
theorem dX0_minors_24 : decode cX0_minors 24 = .ok (.iconst 1, 1) := dk_4 (dk_at dksX0_minors_1 0 rfl rfl)
theorem dX0_minors_25 : decode cX0_minors 25 = .ok (.invokestatic 191, 3) := dk_184 0 191 (dk_at dksX0_minors_1 1 rfl rfl)
theorem dX0_minors_28 : decode cX0_minors 28 = .ok (.lastore, 1) := dk_80 (dk_at dksX0_minors_1 4 rfl rfl)
theorem dX0_minors_29 : decode cX0_minors 29 = .ok (.dup, 1) := dk_89 (dk_at dksX0_minors_1 5 rfl rfl)
theorem dX0_minors_30 : decode cX0_minors 30 = .ok (.iconst 1, 1) := dk_4 (dk_at dksX0_minors_1 6 rfl rfl)
theorem dX0_minors_31 : decode cX0_minors 31 = .ok (.aload_n 0, 1) := dk_42 (dk_at dksX0_minors_1 7 rfl rfl)
theorem dX0_minors_32 : decode cX0_minors 32 = .ok (.iconst 0, 1) := dk_3 (dk_at dksX0_minors_1 8 rfl rfl)
theorem dX0_minors_33 : decode cX0_minors 33 = .ok (.iconst 2, 1) := dk_5 (dk_at dksX0_minors_1 9 rfl rfl)
theorem dX0_minors_34 : decode cX0_minors 34 = .ok (.iconst 0, 1) := dk_3 (dk_at dksX0_minors_1 10 rfl rfl)
theorem dX0_minors_35 : decode cX0_minors 35 = .ok (.iconst 2, 1) := dk_5 (dk_at dksX0_minors_1 11 rfl rfl)
theorem dX0_minors_36 : decode cX0_minors 36 = .ok (.invokestatic 191, 3) := dk_184 0 191 (dk_at dksX0_minors_1 12 rfl rfl)
theorem dX0_minors_39 : decode cX0_minors 39 = .ok (.lastore, 1) := dk_80 (dk_at dksX0_minors_1 15 rfl rfl)
theorem dX0_minors_40 : decode cX0_minors 40 = .ok (.dup, 1) := dk_89 (dk_at dksX0_minors_1 16 rfl rfl)
theorem dX0_minors_41 : decode cX0_minors 41 = .ok (.iconst 2, 1) := dk_5 (dk_at dksX0_minors_1 17 rfl rfl)
theorem dX0_minors_42 : decode cX0_minors 42 = .ok (.aload_n 0, 1) := dk_42 (dk_at dksX0_minors_1 18 rfl rfl)
theorem dX0_minors_43 : decode cX0_minors 43 = .ok (.iconst 1, 1) := dk_4 (dk_at dksX0_minors_1 19 rfl rfl)
theorem dX0_minors_44 : decode cX0_minors 44 = .ok (.iconst 2, 1) := dk_5 (dk_at dksX0_minors_1 20 rfl rfl)
theorem dX0_minors_45 : decode cX0_minors 45 = .ok (.iconst 1, 1) := dk_4 (dk_at dksX0_minors_1 21 rfl rfl)
theorem dX0_minors_46 : decode cX0_minors 46 = .ok (.iconst 2, 1) := dk_5 (dk_at dksX0_minors_1 22 rfl rfl)
theorem dX0_minors_47 : decode cX0_minors 47 = .ok (.invokestatic 191, 3) := dk_184 0 191 (dk_at dksX0_minors_2 0 rfl rfl)
theorem dX0_minors_50 : decode cX0_minors 50 = .ok (.lastore, 1) := dk_80 (dk_at dksX0_minors_2 3 rfl rfl)
theorem dX0_minors_51 : decode cX0_minors 51 = .ok (.invokestatic 195, 3) := dk_184 0 195 (dk_at dksX0_minors_2 4 rfl rfl)
theorem dX0_minors_54 : decode cX0_minors 54 = .ok (.lreturn, 1) := dk_173 (dk_at dksX0_minors_2 7 rfl rfl)
abbrev cX0_feed : ByteArray := prog_1_method_26_code
def yX0_feed : MethodName := ⟨RX0, "feed", "(JI)I"⟩
def dkwX0_feed_3 : List UInt8 := [181, 0, 218, 42, 180, 0, 218, 172]
abbrev dktX0_feed_3 : List UInt8 := dkwX0_feed_3 ++ []
def dkwX0_feed_2 : List UInt8 := [16, 8, 21, 4, 104, 123, 136, 145, 84, 132, 4, 1, 167, 255, 226, 42, 89, 180, 0, 218, 29, 96]
abbrev dktX0_feed_2 : List UInt8 := dkwX0_feed_2 ++ dktX0_feed_3
def dkwX0_feed_1 : List UInt8 := [16, 254, 172, 3, 54, 4, 21, 4, 29, 162, 0, 30, 42, 180, 0, 95, 42, 180, 0, 218, 21, 4, 96, 31]
abbrev dktX0_feed_1 : List UInt8 := dkwX0_feed_1 ++ dktX0_feed_2
def dkwX0_feed_0 : List UInt8 := [29, 4, 16, 8, 184, 0, 130, 154, 0, 5, 2, 172, 42, 180, 0, 218, 29, 96, 17, 0, 200, 164, 0, 6]
abbrev dktX0_feed_0 : List UInt8 := dkwX0_feed_0 ++ dktX0_feed_1
theorem dksX0_feed_0 : cX0_feed.data.toList.drop 0 = dktX0_feed_0 := by decide +kernel
theorem dksX0_feed_1 : cX0_feed.data.toList.drop 24 = dktX0_feed_1 := dk_seg dksX0_feed_0 24 rfl rfl
theorem dksX0_feed_2 : cX0_feed.data.toList.drop 48 = dktX0_feed_2 := dk_seg dksX0_feed_1 24 rfl rfl
theorem dksX0_feed_3 : cX0_feed.data.toList.drop 70 = dktX0_feed_3 := dk_seg dksX0_feed_2 22 rfl rfl
theorem dX0_feed_0 : decode cX0_feed 0 = .ok (.iload_n 3, 1) := dk_29 (dk_at dksX0_feed_0 0 rfl rfl)
theorem dX0_feed_1 : decode cX0_feed 1 = .ok (.iconst 1, 1) := dk_4 (dk_at dksX0_feed_0 1 rfl rfl)
theorem dX0_feed_2 : decode cX0_feed 2 = .ok (.bipush 8, 2) := dk_16 8 (dk_at dksX0_feed_0 2 rfl rfl)
theorem dX0_feed_4 : decode cX0_feed 4 = .ok (.invokestatic 130, 3) := dk_184 0 130 (dk_at dksX0_feed_0 4 rfl rfl)
theorem dX0_feed_7 : decode cX0_feed 7 = .ok (.ifCond .ne 5, 3) := dk_154 0 5 (dk_at dksX0_feed_0 7 rfl rfl)
theorem dX0_feed_10 : decode cX0_feed 10 = .ok (.iconst (-1), 1) := dk_2 (dk_at dksX0_feed_0 10 rfl rfl)
theorem dX0_feed_11 : decode cX0_feed 11 = .ok (.ireturn, 1) := dk_172 (dk_at dksX0_feed_0 11 rfl rfl)
theorem dX0_feed_12 : decode cX0_feed 12 = .ok (.aload_n 0, 1) := dk_42 (dk_at dksX0_feed_0 12 rfl rfl)
theorem dX0_feed_13 : decode cX0_feed 13 = .ok (.getfield 218, 3) := dk_180 0 218 (dk_at dksX0_feed_0 13 rfl rfl)
theorem dX0_feed_16 : decode cX0_feed 16 = .ok (.iload_n 3, 1) := dk_29 (dk_at dksX0_feed_0 16 rfl rfl)
theorem dX0_feed_17 : decode cX0_feed 17 = .ok (.iadd, 1) := dk_96 (dk_at dksX0_feed_0 17 rfl rfl)
theorem dX0_feed_18 : decode cX0_feed 18 = .ok (.sipush 200, 3) := dk_17 0 200 (dk_at dksX0_feed_0 18 rfl rfl)
theorem dX0_feed_21 : decode cX0_feed 21 = .ok (.if_icmp .le 6, 3) := dk_164 0 6 (dk_at dksX0_feed_0 21 rfl rfl)
theorem dX0_feed_24 : decode cX0_feed 24 = .ok (.bipush (-2), 2) := dk_16 254 (dk_at dksX0_feed_1 0 rfl rfl)
theorem dX0_feed_26 : decode cX0_feed 26 = .ok (.ireturn, 1) := dk_172 (dk_at dksX0_feed_1 2 rfl rfl)
theorem dX0_feed_27 : decode cX0_feed 27 = .ok (.iconst 0, 1) := dk_3 (dk_at dksX0_feed_1 3 rfl rfl)
theorem dX0_feed_28 : decode cX0_feed 28 = .ok (.istore 4, 2) := dk_54 4 (dk_at dksX0_feed_1 4 rfl rfl)
theorem dX0_feed_30 : decode cX0_feed 30 = .ok (.iload 4, 2) := dk_21 4 (dk_at dksX0_feed_1 6 rfl rfl)
theorem dX0_feed_32 : decode cX0_feed 32 = .ok (.iload_n 3, 1) := dk_29 (dk_at dksX0_feed_1 8 rfl rfl)
theorem dX0_feed_33 : decode cX0_feed 33 = .ok (.if_icmp .ge 30, 3) := dk_162 0 30 (dk_at dksX0_feed_1 9 rfl rfl)
theorem dX0_feed_36 : decode cX0_feed 36 = .ok (.aload_n 0, 1) := dk_42 (dk_at dksX0_feed_1 12 rfl rfl)
theorem dX0_feed_37 : decode cX0_feed 37 = .ok (.getfield 95, 3) := dk_180 0 95 (dk_at dksX0_feed_1 13 rfl rfl)
theorem dX0_feed_40 : decode cX0_feed 40 = .ok (.aload_n 0, 1) := dk_42 (dk_at dksX0_feed_1 16 rfl rfl)
theorem dX0_feed_41 : decode cX0_feed 41 = .ok (.getfield 218, 3) := dk_180 0 218 (dk_at dksX0_feed_1 17 rfl rfl)
theorem dX0_feed_44 : decode cX0_feed 44 = .ok (.iload 4, 2) := dk_21 4 (dk_at dksX0_feed_1 20 rfl rfl)
theorem dX0_feed_46 : decode cX0_feed 46 = .ok (.iadd, 1) := dk_96 (dk_at dksX0_feed_1 22 rfl rfl)
theorem dX0_feed_47 : decode cX0_feed 47 = .ok (.lload_n 1, 1) := dk_31 (dk_at dksX0_feed_1 23 rfl rfl)
theorem dX0_feed_48 : decode cX0_feed 48 = .ok (.bipush 8, 2) := dk_16 8 (dk_at dksX0_feed_2 0 rfl rfl)
theorem dX0_feed_50 : decode cX0_feed 50 = .ok (.iload 4, 2) := dk_21 4 (dk_at dksX0_feed_2 2 rfl rfl)
theorem dX0_feed_52 : decode cX0_feed 52 = .ok (.imul, 1) := dk_104 (dk_at dksX0_feed_2 4 rfl rfl)
theorem dX0_feed_53 : decode cX0_feed 53 = .ok (.lshr, 1) := dk_123 (dk_at dksX0_feed_2 5 rfl rfl)
theorem dX0_feed_54 : decode cX0_feed 54 = .ok (.l2i, 1) := dk_136 (dk_at dksX0_feed_2 6 rfl rfl)
theorem dX0_feed_55 : decode cX0_feed 55 = .ok (.i2b, 1) := dk_145 (dk_at dksX0_feed_2 7 rfl rfl)
theorem dX0_feed_56 : decode cX0_feed 56 = .ok (.bastore, 1) := dk_84 (dk_at dksX0_feed_2 8 rfl rfl)
theorem dX0_feed_57 : decode cX0_feed 57 = .ok (.iinc 4 1, 3) := dk_132 4 1 (dk_at dksX0_feed_2 9 rfl rfl)
theorem dX0_feed_60 : decode cX0_feed 60 = .ok (.goto (-30), 3) := dk_167 255 226 (dk_at dksX0_feed_2 12 rfl rfl)
theorem dX0_feed_63 : decode cX0_feed 63 = .ok (.aload_n 0, 1) := dk_42 (dk_at dksX0_feed_2 15 rfl rfl)
theorem dX0_feed_64 : decode cX0_feed 64 = .ok (.dup, 1) := dk_89 (dk_at dksX0_feed_2 16 rfl rfl)
theorem dX0_feed_65 : decode cX0_feed 65 = .ok (.getfield 218, 3) := dk_180 0 218 (dk_at dksX0_feed_2 17 rfl rfl)
theorem dX0_feed_68 : decode cX0_feed 68 = .ok (.iload_n 3, 1) := dk_29 (dk_at dksX0_feed_2 20 rfl rfl)
theorem dX0_feed_69 : decode cX0_feed 69 = .ok (.iadd, 1) := dk_96 (dk_at dksX0_feed_2 21 rfl rfl)
theorem dX0_feed_70 : decode cX0_feed 70 = .ok (.putfield 218, 3) := dk_181 0 218 (dk_at dksX0_feed_3 0 rfl rfl)
theorem dX0_feed_73 : decode cX0_feed 73 = .ok (.aload_n 0, 1) := dk_42 (dk_at dksX0_feed_3 3 rfl rfl)
theorem dX0_feed_74 : decode cX0_feed 74 = .ok (.getfield 218, 3) := dk_180 0 218 (dk_at dksX0_feed_3 4 rfl rfl)
theorem dX0_feed_77 : decode cX0_feed 77 = .ok (.ireturn, 1) := dk_172 (dk_at dksX0_feed_3 7 rfl rfl)
abbrev cX0_text : ByteArray := prog_1_method_38_code
def yX0_text : MethodName := ⟨RX0, "text", "()I"⟩
def dkwX0_text_2 : List UInt8 := [181, 0, 218, 45, 191]
abbrev dktX0_text_2 : List UInt8 := dkwX0_text_2 ++ []
def dkwX0_text_1 : List UInt8 := [181, 0, 218, 28, 172, 76, 16, 156, 43, 180, 1, 30, 100, 61, 42, 3, 181, 0, 218, 28, 172, 78, 42, 3]
abbrev dktX0_text_1 : List UInt8 := dkwX0_text_1 ++ dktX0_text_2
def dkwX0_text_0 : List UInt8 := [42, 182, 1, 24, 42, 182, 1, 27, 60, 42, 180, 0, 62, 42, 180, 0, 69, 182, 1, 20, 27, 61, 42, 3]
abbrev dktX0_text_0 : List UInt8 := dkwX0_text_0 ++ dktX0_text_1
theorem dksX0_text_0 : cX0_text.data.toList.drop 0 = dktX0_text_0 := by decide +kernel
theorem dksX0_text_1 : cX0_text.data.toList.drop 24 = dktX0_text_1 := dk_seg dksX0_text_0 24 rfl rfl
theorem dksX0_text_2 : cX0_text.data.toList.drop 48 = dktX0_text_2 := dk_seg dksX0_text_1 24 rfl rfl
theorem dX0_text_0 : decode cX0_text 0 = .ok (.aload_n 0, 1) := dk_42 (dk_at dksX0_text_0 0 rfl rfl)
theorem dX0_text_1 : decode cX0_text 1 = .ok (.invokevirtual 280, 3) := dk_182 1 24 (dk_at dksX0_text_0 1 rfl rfl)
theorem dX0_text_4 : decode cX0_text 4 = .ok (.aload_n 0, 1) := dk_42 (dk_at dksX0_text_0 4 rfl rfl)
theorem dX0_text_5 : decode cX0_text 5 = .ok (.invokevirtual 283, 3) := dk_182 1 27 (dk_at dksX0_text_0 5 rfl rfl)
theorem dX0_text_8 : decode cX0_text 8 = .ok (.istore_n 1, 1) := dk_60 (dk_at dksX0_text_0 8 rfl rfl)
theorem dX0_text_9 : decode cX0_text 9 = .ok (.aload_n 0, 1) := dk_42 (dk_at dksX0_text_0 9 rfl rfl)
theorem dX0_text_10 : decode cX0_text 10 = .ok (.getfield 62, 3) := dk_180 0 62 (dk_at dksX0_text_0 10 rfl rfl)
theorem dX0_text_13 : decode cX0_text 13 = .ok (.aload_n 0, 1) := dk_42 (dk_at dksX0_text_0 13 rfl rfl)
theorem dX0_text_14 : decode cX0_text 14 = .ok (.getfield 69, 3) := dk_180 0 69 (dk_at dksX0_text_0 14 rfl rfl)
theorem dX0_text_17 : decode cX0_text 17 = .ok (.invokevirtual 276, 3) := dk_182 1 20 (dk_at dksX0_text_0 17 rfl rfl)
theorem dX0_text_20 : decode cX0_text 20 = .ok (.iload_n 1, 1) := dk_27 (dk_at dksX0_text_0 20 rfl rfl)
theorem dX0_text_21 : decode cX0_text 21 = .ok (.istore_n 2, 1) := dk_61 (dk_at dksX0_text_0 21 rfl rfl)
theorem dX0_text_22 : decode cX0_text 22 = .ok (.aload_n 0, 1) := dk_42 (dk_at dksX0_text_0 22 rfl rfl)
theorem dX0_text_23 : decode cX0_text 23 = .ok (.iconst 0, 1) := dk_3 (dk_at dksX0_text_0 23 rfl rfl)
theorem dX0_text_24 : decode cX0_text 24 = .ok (.putfield 218, 3) := dk_181 0 218 (dk_at dksX0_text_1 0 rfl rfl)
theorem dX0_text_27 : decode cX0_text 27 = .ok (.iload_n 2, 1) := dk_28 (dk_at dksX0_text_1 3 rfl rfl)
theorem dX0_text_28 : decode cX0_text 28 = .ok (.ireturn, 1) := dk_172 (dk_at dksX0_text_1 4 rfl rfl)
theorem dX0_text_29 : decode cX0_text 29 = .ok (.astore_n 1, 1) := dk_76 (dk_at dksX0_text_1 5 rfl rfl)
theorem dX0_text_30 : decode cX0_text 30 = .ok (.bipush (-100), 2) := dk_16 156 (dk_at dksX0_text_1 6 rfl rfl)
theorem dX0_text_32 : decode cX0_text 32 = .ok (.aload_n 1, 1) := dk_43 (dk_at dksX0_text_1 8 rfl rfl)
theorem dX0_text_33 : decode cX0_text 33 = .ok (.getfield 286, 3) := dk_180 1 30 (dk_at dksX0_text_1 9 rfl rfl)
theorem dX0_text_36 : decode cX0_text 36 = .ok (.isub, 1) := dk_100 (dk_at dksX0_text_1 12 rfl rfl)
theorem dX0_text_37 : decode cX0_text 37 = .ok (.istore_n 2, 1) := dk_61 (dk_at dksX0_text_1 13 rfl rfl)
theorem dX0_text_38 : decode cX0_text 38 = .ok (.aload_n 0, 1) := dk_42 (dk_at dksX0_text_1 14 rfl rfl)
theorem dX0_text_39 : decode cX0_text 39 = .ok (.iconst 0, 1) := dk_3 (dk_at dksX0_text_1 15 rfl rfl)
theorem dX0_text_40 : decode cX0_text 40 = .ok (.putfield 218, 3) := dk_181 0 218 (dk_at dksX0_text_1 16 rfl rfl)
theorem dX0_text_43 : decode cX0_text 43 = .ok (.iload_n 2, 1) := dk_28 (dk_at dksX0_text_1 19 rfl rfl)
theorem dX0_text_44 : decode cX0_text 44 = .ok (.ireturn, 1) := dk_172 (dk_at dksX0_text_1 20 rfl rfl)
theorem dX0_text_45 : decode cX0_text 45 = .ok (.astore_n 3, 1) := dk_78 (dk_at dksX0_text_1 21 rfl rfl)
theorem dX0_text_46 : decode cX0_text 46 = .ok (.aload_n 0, 1) := dk_42 (dk_at dksX0_text_1 22 rfl rfl)
theorem dX0_text_47 : decode cX0_text 47 = .ok (.iconst 0, 1) := dk_3 (dk_at dksX0_text_1 23 rfl rfl)
theorem dX0_text_48 : decode cX0_text 48 = .ok (.putfield 218, 3) := dk_181 0 218 (dk_at dksX0_text_2 0 rfl rfl)
theorem dX0_text_51 : decode cX0_text 51 = .ok (.aload_n 3, 1) := dk_45 (dk_at dksX0_text_2 3 rfl rfl)
theorem dX0_text_52 : decode cX0_text 52 = .ok (.athrow, 1) := dk_191 (dk_at dksX0_text_2 4 rfl rfl)
abbrev cX0_sets : ByteArray := prog_1_method_37_code
def yX0_sets : MethodName := ⟨RX0, "sets", "()V"⟩
def dkwX0_sets_2 : List UInt8 := [180, 0, 62, 180, 0, 137, 183, 0, 155, 181, 0, 69, 42, 180, 0, 69, 42, 180, 0, 62, 182, 1, 20, 177]
abbrev dktX0_sets_2 : List UInt8 := dkwX0_sets_2 ++ []
def dkwX0_sets_1 : List UInt8 := [42, 180, 0, 62, 180, 0, 137, 159, 0, 28, 42, 187, 0, 59, 89, 42, 180, 0, 62, 180, 0, 134, 42]
abbrev dktX0_sets_1 : List UInt8 := dkwX0_sets_1 ++ dktX0_sets_2
def dkwX0_sets_0 : List UInt8 := [42, 180, 0, 69, 180, 0, 134, 42, 180, 0, 62, 180, 0, 134, 160, 0, 20, 42, 180, 0, 69, 180, 0, 137]
abbrev dktX0_sets_0 : List UInt8 := dkwX0_sets_0 ++ dktX0_sets_1
theorem dksX0_sets_0 : cX0_sets.data.toList.drop 0 = dktX0_sets_0 := by decide +kernel
theorem dksX0_sets_1 : cX0_sets.data.toList.drop 24 = dktX0_sets_1 := dk_seg dksX0_sets_0 24 rfl rfl
theorem dksX0_sets_2 : cX0_sets.data.toList.drop 47 = dktX0_sets_2 := dk_seg dksX0_sets_1 23 rfl rfl
theorem dX0_sets_0 : decode cX0_sets 0 = .ok (.aload_n 0, 1) := dk_42 (dk_at dksX0_sets_0 0 rfl rfl)
theorem dX0_sets_1 : decode cX0_sets 1 = .ok (.getfield 69, 3) := dk_180 0 69 (dk_at dksX0_sets_0 1 rfl rfl)
theorem dX0_sets_4 : decode cX0_sets 4 = .ok (.getfield 134, 3) := dk_180 0 134 (dk_at dksX0_sets_0 4 rfl rfl)
theorem dX0_sets_7 : decode cX0_sets 7 = .ok (.aload_n 0, 1) := dk_42 (dk_at dksX0_sets_0 7 rfl rfl)
theorem dX0_sets_8 : decode cX0_sets 8 = .ok (.getfield 62, 3) := dk_180 0 62 (dk_at dksX0_sets_0 8 rfl rfl)
theorem dX0_sets_11 : decode cX0_sets 11 = .ok (.getfield 134, 3) := dk_180 0 134 (dk_at dksX0_sets_0 11 rfl rfl)
theorem dX0_sets_14 : decode cX0_sets 14 = .ok (.if_icmp .ne 20, 3) := dk_160 0 20 (dk_at dksX0_sets_0 14 rfl rfl)
theorem dX0_sets_17 : decode cX0_sets 17 = .ok (.aload_n 0, 1) := dk_42 (dk_at dksX0_sets_0 17 rfl rfl)
theorem dX0_sets_18 : decode cX0_sets 18 = .ok (.getfield 69, 3) := dk_180 0 69 (dk_at dksX0_sets_0 18 rfl rfl)
theorem dX0_sets_21 : decode cX0_sets 21 = .ok (.getfield 137, 3) := dk_180 0 137 (dk_at dksX0_sets_0 21 rfl rfl)
theorem dX0_sets_24 : decode cX0_sets 24 = .ok (.aload_n 0, 1) := dk_42 (dk_at dksX0_sets_1 0 rfl rfl)
theorem dX0_sets_25 : decode cX0_sets 25 = .ok (.getfield 62, 3) := dk_180 0 62 (dk_at dksX0_sets_1 1 rfl rfl)
theorem dX0_sets_28 : decode cX0_sets 28 = .ok (.getfield 137, 3) := dk_180 0 137 (dk_at dksX0_sets_1 4 rfl rfl)
theorem dX0_sets_31 : decode cX0_sets 31 = .ok (.if_icmp .eq 28, 3) := dk_159 0 28 (dk_at dksX0_sets_1 7 rfl rfl)
theorem dX0_sets_34 : decode cX0_sets 34 = .ok (.aload_n 0, 1) := dk_42 (dk_at dksX0_sets_1 10 rfl rfl)
theorem dX0_sets_35 : decode cX0_sets 35 = .ok (.new 59, 3) := dk_187 0 59 (dk_at dksX0_sets_1 11 rfl rfl)
theorem dX0_sets_38 : decode cX0_sets 38 = .ok (.dup, 1) := dk_89 (dk_at dksX0_sets_1 14 rfl rfl)
theorem dX0_sets_39 : decode cX0_sets 39 = .ok (.aload_n 0, 1) := dk_42 (dk_at dksX0_sets_1 15 rfl rfl)
theorem dX0_sets_40 : decode cX0_sets 40 = .ok (.getfield 62, 3) := dk_180 0 62 (dk_at dksX0_sets_1 16 rfl rfl)
theorem dX0_sets_43 : decode cX0_sets 43 = .ok (.getfield 134, 3) := dk_180 0 134 (dk_at dksX0_sets_1 19 rfl rfl)
theorem dX0_sets_46 : decode cX0_sets 46 = .ok (.aload_n 0, 1) := dk_42 (dk_at dksX0_sets_1 22 rfl rfl)
theorem dX0_sets_47 : decode cX0_sets 47 = .ok (.getfield 62, 3) := dk_180 0 62 (dk_at dksX0_sets_2 0 rfl rfl)
theorem dX0_sets_50 : decode cX0_sets 50 = .ok (.getfield 137, 3) := dk_180 0 137 (dk_at dksX0_sets_2 3 rfl rfl)
theorem dX0_sets_53 : decode cX0_sets 53 = .ok (.invokespecial 155, 3) := dk_183 0 155 (dk_at dksX0_sets_2 6 rfl rfl)
theorem dX0_sets_56 : decode cX0_sets 56 = .ok (.putfield 69, 3) := dk_181 0 69 (dk_at dksX0_sets_2 9 rfl rfl)
theorem dX0_sets_59 : decode cX0_sets 59 = .ok (.aload_n 0, 1) := dk_42 (dk_at dksX0_sets_2 12 rfl rfl)
theorem dX0_sets_60 : decode cX0_sets 60 = .ok (.getfield 69, 3) := dk_180 0 69 (dk_at dksX0_sets_2 13 rfl rfl)
theorem dX0_sets_63 : decode cX0_sets 63 = .ok (.aload_n 0, 1) := dk_42 (dk_at dksX0_sets_2 16 rfl rfl)
theorem dX0_sets_64 : decode cX0_sets 64 = .ok (.getfield 62, 3) := dk_180 0 62 (dk_at dksX0_sets_2 17 rfl rfl)
theorem dX0_sets_67 : decode cX0_sets 67 = .ok (.invokevirtual 276, 3) := dk_182 1 20 (dk_at dksX0_sets_2 20 rfl rfl)
theorem dX0_sets_70 : decode cX0_sets 70 = .ok (.return_, 1) := dk_177 (dk_at dksX0_sets_2 23 rfl rfl)
abbrev cX0_wholeText : ByteArray := prog_1_method_36_code
def yX0_wholeText : MethodName := ⟨RX0, "wholeText", "()I"⟩
def dkwX0_wholeText_2 : List UInt8 := [28, 6, 160, 0, 8, 42, 182, 0, 251, 191, 42, 28, 182, 1, 16, 132, 1, 1, 167, 255, 201, 27, 172]
abbrev dktX0_wholeText_2 : List UInt8 := dkwX0_wholeText_2 ++ []
def dkwX0_wholeText_1 : List UInt8 := [28, 6, 162, 0, 22, 42, 42, 180, 0, 91, 28, 50, 182, 0, 248, 154, 0, 9, 132, 2, 1, 167, 255, 235]
abbrev dktX0_wholeText_1 : List UInt8 := dkwX0_wholeText_1 ++ dktX0_wholeText_2
def dkwX0_wholeText_0 : List UInt8 := [3, 60, 42, 3, 181, 0, 221, 42, 182, 0, 245, 42, 180, 0, 224, 42, 180, 0, 218, 162, 0, 50, 3, 61]
abbrev dktX0_wholeText_0 : List UInt8 := dkwX0_wholeText_0 ++ dktX0_wholeText_1
theorem dksX0_wholeText_0 : cX0_wholeText.data.toList.drop 0 = dktX0_wholeText_0 := by decide +kernel
theorem dksX0_wholeText_1 : cX0_wholeText.data.toList.drop 24 = dktX0_wholeText_1 := dk_seg dksX0_wholeText_0 24 rfl rfl
theorem dksX0_wholeText_2 : cX0_wholeText.data.toList.drop 48 = dktX0_wholeText_2 := dk_seg dksX0_wholeText_1 24 rfl rfl
theorem dX0_wholeText_0 : decode cX0_wholeText 0 = .ok (.iconst 0, 1) := dk_3 (dk_at dksX0_wholeText_0 0 rfl rfl)
theorem dX0_wholeText_1 : decode cX0_wholeText 1 = .ok (.istore_n 1, 1) := dk_60 (dk_at dksX0_wholeText_0 1 rfl rfl)
theorem dX0_wholeText_2 : decode cX0_wholeText 2 = .ok (.aload_n 0, 1) := dk_42 (dk_at dksX0_wholeText_0 2 rfl rfl)
theorem dX0_wholeText_3 : decode cX0_wholeText 3 = .ok (.iconst 0, 1) := dk_3 (dk_at dksX0_wholeText_0 3 rfl rfl)
theorem dX0_wholeText_4 : decode cX0_wholeText 4 = .ok (.putfield 221, 3) := dk_181 0 221 (dk_at dksX0_wholeText_0 4 rfl rfl)
theorem dX0_wholeText_7 : decode cX0_wholeText 7 = .ok (.aload_n 0, 1) := dk_42 (dk_at dksX0_wholeText_0 7 rfl rfl)
theorem dX0_wholeText_8 : decode cX0_wholeText 8 = .ok (.invokevirtual 245, 3) := dk_182 0 245 (dk_at dksX0_wholeText_0 8 rfl rfl)
theorem dX0_wholeText_11 : decode cX0_wholeText 11 = .ok (.aload_n 0, 1) := dk_42 (dk_at dksX0_wholeText_0 11 rfl rfl)
theorem dX0_wholeText_12 : decode cX0_wholeText 12 = .ok (.getfield 224, 3) := dk_180 0 224 (dk_at dksX0_wholeText_0 12 rfl rfl)
theorem dX0_wholeText_15 : decode cX0_wholeText 15 = .ok (.aload_n 0, 1) := dk_42 (dk_at dksX0_wholeText_0 15 rfl rfl)
theorem dX0_wholeText_16 : decode cX0_wholeText 16 = .ok (.getfield 218, 3) := dk_180 0 218 (dk_at dksX0_wholeText_0 16 rfl rfl)
theorem dX0_wholeText_19 : decode cX0_wholeText 19 = .ok (.if_icmp .ge 50, 3) := dk_162 0 50 (dk_at dksX0_wholeText_0 19 rfl rfl)
theorem dX0_wholeText_22 : decode cX0_wholeText 22 = .ok (.iconst 0, 1) := dk_3 (dk_at dksX0_wholeText_0 22 rfl rfl)
theorem dX0_wholeText_23 : decode cX0_wholeText 23 = .ok (.istore_n 2, 1) := dk_61 (dk_at dksX0_wholeText_0 23 rfl rfl)
theorem dX0_wholeText_24 : decode cX0_wholeText 24 = .ok (.iload_n 2, 1) := dk_28 (dk_at dksX0_wholeText_1 0 rfl rfl)
theorem dX0_wholeText_25 : decode cX0_wholeText 25 = .ok (.iconst 3, 1) := dk_6 (dk_at dksX0_wholeText_1 1 rfl rfl)
theorem dX0_wholeText_26 : decode cX0_wholeText 26 = .ok (.if_icmp .ge 22, 3) := dk_162 0 22 (dk_at dksX0_wholeText_1 2 rfl rfl)
theorem dX0_wholeText_29 : decode cX0_wholeText 29 = .ok (.aload_n 0, 1) := dk_42 (dk_at dksX0_wholeText_1 5 rfl rfl)
theorem dX0_wholeText_30 : decode cX0_wholeText 30 = .ok (.aload_n 0, 1) := dk_42 (dk_at dksX0_wholeText_1 6 rfl rfl)
theorem dX0_wholeText_31 : decode cX0_wholeText 31 = .ok (.getfield 91, 3) := dk_180 0 91 (dk_at dksX0_wholeText_1 7 rfl rfl)
theorem dX0_wholeText_34 : decode cX0_wholeText 34 = .ok (.iload_n 2, 1) := dk_28 (dk_at dksX0_wholeText_1 10 rfl rfl)
theorem dX0_wholeText_35 : decode cX0_wholeText 35 = .ok (.aaload, 1) := dk_50 (dk_at dksX0_wholeText_1 11 rfl rfl)
theorem dX0_wholeText_36 : decode cX0_wholeText 36 = .ok (.invokevirtual 248, 3) := dk_182 0 248 (dk_at dksX0_wholeText_1 12 rfl rfl)
theorem dX0_wholeText_39 : decode cX0_wholeText 39 = .ok (.ifCond .ne 9, 3) := dk_154 0 9 (dk_at dksX0_wholeText_1 15 rfl rfl)
theorem dX0_wholeText_42 : decode cX0_wholeText 42 = .ok (.iinc 2 1, 3) := dk_132 2 1 (dk_at dksX0_wholeText_1 18 rfl rfl)
theorem dX0_wholeText_45 : decode cX0_wholeText 45 = .ok (.goto (-21), 3) := dk_167 255 235 (dk_at dksX0_wholeText_1 21 rfl rfl)
theorem dX0_wholeText_48 : decode cX0_wholeText 48 = .ok (.iload_n 2, 1) := dk_28 (dk_at dksX0_wholeText_2 0 rfl rfl)
theorem dX0_wholeText_49 : decode cX0_wholeText 49 = .ok (.iconst 3, 1) := dk_6 (dk_at dksX0_wholeText_2 1 rfl rfl)
theorem dX0_wholeText_50 : decode cX0_wholeText 50 = .ok (.if_icmp .ne 8, 3) := dk_160 0 8 (dk_at dksX0_wholeText_2 2 rfl rfl)
theorem dX0_wholeText_53 : decode cX0_wholeText 53 = .ok (.aload_n 0, 1) := dk_42 (dk_at dksX0_wholeText_2 5 rfl rfl)
theorem dX0_wholeText_54 : decode cX0_wholeText 54 = .ok (.invokevirtual 251, 3) := dk_182 0 251 (dk_at dksX0_wholeText_2 6 rfl rfl)
theorem dX0_wholeText_57 : decode cX0_wholeText 57 = .ok (.athrow, 1) := dk_191 (dk_at dksX0_wholeText_2 9 rfl rfl)
theorem dX0_wholeText_58 : decode cX0_wholeText 58 = .ok (.aload_n 0, 1) := dk_42 (dk_at dksX0_wholeText_2 10 rfl rfl)
theorem dX0_wholeText_59 : decode cX0_wholeText 59 = .ok (.iload_n 2, 1) := dk_28 (dk_at dksX0_wholeText_2 11 rfl rfl)
theorem dX0_wholeText_60 : decode cX0_wholeText 60 = .ok (.invokevirtual 272, 3) := dk_182 1 16 (dk_at dksX0_wholeText_2 12 rfl rfl)
theorem dX0_wholeText_63 : decode cX0_wholeText 63 = .ok (.iinc 1 1, 3) := dk_132 1 1 (dk_at dksX0_wholeText_2 15 rfl rfl)
theorem dX0_wholeText_66 : decode cX0_wholeText 66 = .ok (.goto (-55), 3) := dk_167 255 201 (dk_at dksX0_wholeText_2 18 rfl rfl)
theorem dX0_wholeText_69 : decode cX0_wholeText 69 = .ok (.iload_n 1, 1) := dk_27 (dk_at dksX0_wholeText_2 21 rfl rfl)
theorem dX0_wholeText_70 : decode cX0_wholeText 70 = .ok (.ireturn, 1) := dk_172 (dk_at dksX0_wholeText_2 22 rfl rfl)
abbrev cX0_next : ByteArray := prog_1_method_29_code
def yX0_next : MethodName := ⟨RX0, "next", "()V"⟩
def dkwX0_next_6 : List UInt8 := [132, 1, 1, 167, 255, 213, 42, 27, 181, 0, 221, 177]
abbrev dktX0_next_6 : List UInt8 := dkwX0_next_6 ++ []
def dkwX0_next_5 : List UInt8 := [184, 0, 226, 154, 0, 19, 29, 153, 0, 21, 42, 180, 0, 95, 27, 51, 184, 0, 229, 153, 0, 9]
abbrev dktX0_next_5 : List UInt8 := dkwX0_next_5 ++ dktX0_next_6
def dkwX0_next_4 : List UInt8 := [162, 0, 6, 132, 1, 1, 27, 42, 180, 0, 218, 162, 0, 41, 28, 153, 0, 15, 42, 180, 0, 95, 27, 51]
abbrev dktX0_next_4 : List UInt8 := dkwX0_next_4 ++ dktX0_next_5
def dkwX0_next_3 : List UInt8 := [180, 0, 95, 27, 51, 184, 0, 229, 153, 0, 7, 4, 167, 0, 4, 3, 62, 27, 42, 180, 0, 218]
abbrev dktX0_next_3 : List UInt8 := dkwX0_next_3 ++ dktX0_next_4
def dkwX0_next_2 : List UInt8 := [51, 184, 0, 226, 153, 0, 7, 4, 167, 0, 4, 3, 61, 27, 42, 180, 0, 218, 162, 0, 19, 42]
abbrev dktX0_next_2 : List UInt8 := dkwX0_next_2 ++ dktX0_next_3
def dkwX0_next_1 : List UInt8 := [132, 1, 1, 167, 255, 234, 42, 27, 181, 0, 224, 27, 42, 180, 0, 218, 162, 0, 19, 42, 180, 0, 95, 27]
abbrev dktX0_next_1 : List UInt8 := dkwX0_next_1 ++ dktX0_next_2
def dkwX0_next_0 : List UInt8 := [42, 180, 0, 221, 60, 27, 42, 180, 0, 218, 162, 0, 20, 42, 180, 0, 95, 27, 51, 16, 32, 160, 0, 9]
abbrev dktX0_next_0 : List UInt8 := dkwX0_next_0 ++ dktX0_next_1
theorem dksX0_next_0 : cX0_next.data.toList.drop 0 = dktX0_next_0 := by decide +kernel
theorem dksX0_next_1 : cX0_next.data.toList.drop 24 = dktX0_next_1 := dk_seg dksX0_next_0 24 rfl rfl
theorem dksX0_next_2 : cX0_next.data.toList.drop 48 = dktX0_next_2 := dk_seg dksX0_next_1 24 rfl rfl
theorem dksX0_next_3 : cX0_next.data.toList.drop 70 = dktX0_next_3 := dk_seg dksX0_next_2 22 rfl rfl
theorem dksX0_next_4 : cX0_next.data.toList.drop 92 = dktX0_next_4 := dk_seg dksX0_next_3 22 rfl rfl
theorem dksX0_next_5 : cX0_next.data.toList.drop 116 = dktX0_next_5 := dk_seg dksX0_next_4 24 rfl rfl
theorem dksX0_next_6 : cX0_next.data.toList.drop 138 = dktX0_next_6 := dk_seg dksX0_next_5 22 rfl rfl
theorem dX0_next_0 : decode cX0_next 0 = .ok (.aload_n 0, 1) := dk_42 (dk_at dksX0_next_0 0 rfl rfl)
theorem dX0_next_1 : decode cX0_next 1 = .ok (.getfield 221, 3) := dk_180 0 221 (dk_at dksX0_next_0 1 rfl rfl)
theorem dX0_next_4 : decode cX0_next 4 = .ok (.istore_n 1, 1) := dk_60 (dk_at dksX0_next_0 4 rfl rfl)
theorem dX0_next_5 : decode cX0_next 5 = .ok (.iload_n 1, 1) := dk_27 (dk_at dksX0_next_0 5 rfl rfl)
theorem dX0_next_6 : decode cX0_next 6 = .ok (.aload_n 0, 1) := dk_42 (dk_at dksX0_next_0 6 rfl rfl)
theorem dX0_next_7 : decode cX0_next 7 = .ok (.getfield 218, 3) := dk_180 0 218 (dk_at dksX0_next_0 7 rfl rfl)
theorem dX0_next_10 : decode cX0_next 10 = .ok (.if_icmp .ge 20, 3) := dk_162 0 20 (dk_at dksX0_next_0 10 rfl rfl)
theorem dX0_next_13 : decode cX0_next 13 = .ok (.aload_n 0, 1) := dk_42 (dk_at dksX0_next_0 13 rfl rfl)
theorem dX0_next_14 : decode cX0_next 14 = .ok (.getfield 95, 3) := dk_180 0 95 (dk_at dksX0_next_0 14 rfl rfl)
theorem dX0_next_17 : decode cX0_next 17 = .ok (.iload_n 1, 1) := dk_27 (dk_at dksX0_next_0 17 rfl rfl)
theorem dX0_next_18 : decode cX0_next 18 = .ok (.baload, 1) := dk_51 (dk_at dksX0_next_0 18 rfl rfl)
theorem dX0_next_19 : decode cX0_next 19 = .ok (.bipush 32, 2) := dk_16 32 (dk_at dksX0_next_0 19 rfl rfl)
theorem dX0_next_21 : decode cX0_next 21 = .ok (.if_icmp .ne 9, 3) := dk_160 0 9 (dk_at dksX0_next_0 21 rfl rfl)
theorem dX0_next_24 : decode cX0_next 24 = .ok (.iinc 1 1, 3) := dk_132 1 1 (dk_at dksX0_next_1 0 rfl rfl)
theorem dX0_next_27 : decode cX0_next 27 = .ok (.goto (-22), 3) := dk_167 255 234 (dk_at dksX0_next_1 3 rfl rfl)
theorem dX0_next_30 : decode cX0_next 30 = .ok (.aload_n 0, 1) := dk_42 (dk_at dksX0_next_1 6 rfl rfl)
theorem dX0_next_31 : decode cX0_next 31 = .ok (.iload_n 1, 1) := dk_27 (dk_at dksX0_next_1 7 rfl rfl)
theorem dX0_next_32 : decode cX0_next 32 = .ok (.putfield 224, 3) := dk_181 0 224 (dk_at dksX0_next_1 8 rfl rfl)
theorem dX0_next_35 : decode cX0_next 35 = .ok (.iload_n 1, 1) := dk_27 (dk_at dksX0_next_1 11 rfl rfl)
theorem dX0_next_36 : decode cX0_next 36 = .ok (.aload_n 0, 1) := dk_42 (dk_at dksX0_next_1 12 rfl rfl)
theorem dX0_next_37 : decode cX0_next 37 = .ok (.getfield 218, 3) := dk_180 0 218 (dk_at dksX0_next_1 13 rfl rfl)
theorem dX0_next_40 : decode cX0_next 40 = .ok (.if_icmp .ge 19, 3) := dk_162 0 19 (dk_at dksX0_next_1 16 rfl rfl)
theorem dX0_next_43 : decode cX0_next 43 = .ok (.aload_n 0, 1) := dk_42 (dk_at dksX0_next_1 19 rfl rfl)
theorem dX0_next_44 : decode cX0_next 44 = .ok (.getfield 95, 3) := dk_180 0 95 (dk_at dksX0_next_1 20 rfl rfl)
theorem dX0_next_47 : decode cX0_next 47 = .ok (.iload_n 1, 1) := dk_27 (dk_at dksX0_next_1 23 rfl rfl)
theorem dX0_next_48 : decode cX0_next 48 = .ok (.baload, 1) := dk_51 (dk_at dksX0_next_2 0 rfl rfl)
theorem dX0_next_49 : decode cX0_next 49 = .ok (.invokestatic 226, 3) := dk_184 0 226 (dk_at dksX0_next_2 1 rfl rfl)
theorem dX0_next_52 : decode cX0_next 52 = .ok (.ifCond .eq 7, 3) := dk_153 0 7 (dk_at dksX0_next_2 4 rfl rfl)
theorem dX0_next_55 : decode cX0_next 55 = .ok (.iconst 1, 1) := dk_4 (dk_at dksX0_next_2 7 rfl rfl)
theorem dX0_next_56 : decode cX0_next 56 = .ok (.goto 4, 3) := dk_167 0 4 (dk_at dksX0_next_2 8 rfl rfl)
theorem dX0_next_59 : decode cX0_next 59 = .ok (.iconst 0, 1) := dk_3 (dk_at dksX0_next_2 11 rfl rfl)
theorem dX0_next_60 : decode cX0_next 60 = .ok (.istore_n 2, 1) := dk_61 (dk_at dksX0_next_2 12 rfl rfl)
theorem dX0_next_61 : decode cX0_next 61 = .ok (.iload_n 1, 1) := dk_27 (dk_at dksX0_next_2 13 rfl rfl)
theorem dX0_next_62 : decode cX0_next 62 = .ok (.aload_n 0, 1) := dk_42 (dk_at dksX0_next_2 14 rfl rfl)
theorem dX0_next_63 : decode cX0_next 63 = .ok (.getfield 218, 3) := dk_180 0 218 (dk_at dksX0_next_2 15 rfl rfl)
theorem dX0_next_66 : decode cX0_next 66 = .ok (.if_icmp .ge 19, 3) := dk_162 0 19 (dk_at dksX0_next_2 18 rfl rfl)
theorem dX0_next_69 : decode cX0_next 69 = .ok (.aload_n 0, 1) := dk_42 (dk_at dksX0_next_2 21 rfl rfl)
theorem dX0_next_70 : decode cX0_next 70 = .ok (.getfield 95, 3) := dk_180 0 95 (dk_at dksX0_next_3 0 rfl rfl)
theorem dX0_next_73 : decode cX0_next 73 = .ok (.iload_n 1, 1) := dk_27 (dk_at dksX0_next_3 3 rfl rfl)
theorem dX0_next_74 : decode cX0_next 74 = .ok (.baload, 1) := dk_51 (dk_at dksX0_next_3 4 rfl rfl)
theorem dX0_next_75 : decode cX0_next 75 = .ok (.invokestatic 229, 3) := dk_184 0 229 (dk_at dksX0_next_3 5 rfl rfl)
theorem dX0_next_78 : decode cX0_next 78 = .ok (.ifCond .eq 7, 3) := dk_153 0 7 (dk_at dksX0_next_3 8 rfl rfl)
theorem dX0_next_81 : decode cX0_next 81 = .ok (.iconst 1, 1) := dk_4 (dk_at dksX0_next_3 11 rfl rfl)
theorem dX0_next_82 : decode cX0_next 82 = .ok (.goto 4, 3) := dk_167 0 4 (dk_at dksX0_next_3 12 rfl rfl)
theorem dX0_next_85 : decode cX0_next 85 = .ok (.iconst 0, 1) := dk_3 (dk_at dksX0_next_3 15 rfl rfl)
theorem dX0_next_86 : decode cX0_next 86 = .ok (.istore_n 3, 1) := dk_62 (dk_at dksX0_next_3 16 rfl rfl)
theorem dX0_next_87 : decode cX0_next 87 = .ok (.iload_n 1, 1) := dk_27 (dk_at dksX0_next_3 17 rfl rfl)
theorem dX0_next_88 : decode cX0_next 88 = .ok (.aload_n 0, 1) := dk_42 (dk_at dksX0_next_3 18 rfl rfl)
theorem dX0_next_89 : decode cX0_next 89 = .ok (.getfield 218, 3) := dk_180 0 218 (dk_at dksX0_next_3 19 rfl rfl)
theorem dX0_next_92 : decode cX0_next 92 = .ok (.if_icmp .ge 6, 3) := dk_162 0 6 (dk_at dksX0_next_4 0 rfl rfl)
theorem dX0_next_95 : decode cX0_next 95 = .ok (.iinc 1 1, 3) := dk_132 1 1 (dk_at dksX0_next_4 3 rfl rfl)
theorem dX0_next_98 : decode cX0_next 98 = .ok (.iload_n 1, 1) := dk_27 (dk_at dksX0_next_4 6 rfl rfl)
theorem dX0_next_99 : decode cX0_next 99 = .ok (.aload_n 0, 1) := dk_42 (dk_at dksX0_next_4 7 rfl rfl)
theorem dX0_next_100 : decode cX0_next 100 = .ok (.getfield 218, 3) := dk_180 0 218 (dk_at dksX0_next_4 8 rfl rfl)
theorem dX0_next_103 : decode cX0_next 103 = .ok (.if_icmp .ge 41, 3) := dk_162 0 41 (dk_at dksX0_next_4 11 rfl rfl)
theorem dX0_next_106 : decode cX0_next 106 = .ok (.iload_n 2, 1) := dk_28 (dk_at dksX0_next_4 14 rfl rfl)
theorem dX0_next_107 : decode cX0_next 107 = .ok (.ifCond .eq 15, 3) := dk_153 0 15 (dk_at dksX0_next_4 15 rfl rfl)
theorem dX0_next_110 : decode cX0_next 110 = .ok (.aload_n 0, 1) := dk_42 (dk_at dksX0_next_4 18 rfl rfl)
theorem dX0_next_111 : decode cX0_next 111 = .ok (.getfield 95, 3) := dk_180 0 95 (dk_at dksX0_next_4 19 rfl rfl)
theorem dX0_next_114 : decode cX0_next 114 = .ok (.iload_n 1, 1) := dk_27 (dk_at dksX0_next_4 22 rfl rfl)
theorem dX0_next_115 : decode cX0_next 115 = .ok (.baload, 1) := dk_51 (dk_at dksX0_next_4 23 rfl rfl)
theorem dX0_next_116 : decode cX0_next 116 = .ok (.invokestatic 226, 3) := dk_184 0 226 (dk_at dksX0_next_5 0 rfl rfl)
theorem dX0_next_119 : decode cX0_next 119 = .ok (.ifCond .ne 19, 3) := dk_154 0 19 (dk_at dksX0_next_5 3 rfl rfl)
theorem dX0_next_122 : decode cX0_next 122 = .ok (.iload_n 3, 1) := dk_29 (dk_at dksX0_next_5 6 rfl rfl)
theorem dX0_next_123 : decode cX0_next 123 = .ok (.ifCond .eq 21, 3) := dk_153 0 21 (dk_at dksX0_next_5 7 rfl rfl)
theorem dX0_next_126 : decode cX0_next 126 = .ok (.aload_n 0, 1) := dk_42 (dk_at dksX0_next_5 10 rfl rfl)
theorem dX0_next_127 : decode cX0_next 127 = .ok (.getfield 95, 3) := dk_180 0 95 (dk_at dksX0_next_5 11 rfl rfl)
theorem dX0_next_130 : decode cX0_next 130 = .ok (.iload_n 1, 1) := dk_27 (dk_at dksX0_next_5 14 rfl rfl)
theorem dX0_next_131 : decode cX0_next 131 = .ok (.baload, 1) := dk_51 (dk_at dksX0_next_5 15 rfl rfl)
theorem dX0_next_132 : decode cX0_next 132 = .ok (.invokestatic 229, 3) := dk_184 0 229 (dk_at dksX0_next_5 16 rfl rfl)
theorem dX0_next_135 : decode cX0_next 135 = .ok (.ifCond .eq 9, 3) := dk_153 0 9 (dk_at dksX0_next_5 19 rfl rfl)
theorem dX0_next_138 : decode cX0_next 138 = .ok (.iinc 1 1, 3) := dk_132 1 1 (dk_at dksX0_next_6 0 rfl rfl)
theorem dX0_next_141 : decode cX0_next 141 = .ok (.goto (-43), 3) := dk_167 255 213 (dk_at dksX0_next_6 3 rfl rfl)
theorem dX0_next_144 : decode cX0_next 144 = .ok (.aload_n 0, 1) := dk_42 (dk_at dksX0_next_6 6 rfl rfl)
theorem dX0_next_145 : decode cX0_next 145 = .ok (.iload_n 1, 1) := dk_27 (dk_at dksX0_next_6 7 rfl rfl)
theorem dX0_next_146 : decode cX0_next 146 = .ok (.putfield 221, 3) := dk_181 0 221 (dk_at dksX0_next_6 8 rfl rfl)
theorem dX0_next_149 : decode cX0_next 149 = .ok (.return_, 1) := dk_177 (dk_at dksX0_next_6 11 rfl rfl)
abbrev cX0_isLetter : ByteArray := prog_1_method_28_code
def yX0_isLetter : MethodName := ⟨RX0, "isLetter", "(I)Z"⟩
def dkwX0_isLetter_0 : List UInt8 := [26, 16, 97, 161, 0, 13, 26, 16, 122, 163, 0, 7, 4, 167, 0, 4, 3, 172]
abbrev dktX0_isLetter_0 : List UInt8 := dkwX0_isLetter_0 ++ []
theorem dksX0_isLetter_0 : cX0_isLetter.data.toList.drop 0 = dktX0_isLetter_0 := by decide +kernel
theorem dX0_isLetter_0 : decode cX0_isLetter 0 = .ok (.iload_n 0, 1) := dk_26 (dk_at dksX0_isLetter_0 0 rfl rfl)
theorem dX0_isLetter_1 : decode cX0_isLetter 1 = .ok (.bipush 97, 2) := dk_16 97 (dk_at dksX0_isLetter_0 1 rfl rfl)
theorem dX0_isLetter_3 : decode cX0_isLetter 3 = .ok (.if_icmp .lt 13, 3) := dk_161 0 13 (dk_at dksX0_isLetter_0 3 rfl rfl)
theorem dX0_isLetter_6 : decode cX0_isLetter 6 = .ok (.iload_n 0, 1) := dk_26 (dk_at dksX0_isLetter_0 6 rfl rfl)
theorem dX0_isLetter_7 : decode cX0_isLetter 7 = .ok (.bipush 122, 2) := dk_16 122 (dk_at dksX0_isLetter_0 7 rfl rfl)
theorem dX0_isLetter_9 : decode cX0_isLetter 9 = .ok (.if_icmp .gt 7, 3) := dk_163 0 7 (dk_at dksX0_isLetter_0 9 rfl rfl)
theorem dX0_isLetter_12 : decode cX0_isLetter 12 = .ok (.iconst 1, 1) := dk_4 (dk_at dksX0_isLetter_0 12 rfl rfl)
theorem dX0_isLetter_13 : decode cX0_isLetter 13 = .ok (.goto 4, 3) := dk_167 0 4 (dk_at dksX0_isLetter_0 13 rfl rfl)
theorem dX0_isLetter_16 : decode cX0_isLetter 16 = .ok (.iconst 0, 1) := dk_3 (dk_at dksX0_isLetter_0 16 rfl rfl)
theorem dX0_isLetter_17 : decode cX0_isLetter 17 = .ok (.ireturn, 1) := dk_172 (dk_at dksX0_isLetter_0 17 rfl rfl)
abbrev cX0_isDigit : ByteArray := prog_1_method_27_code
def yX0_isDigit : MethodName := ⟨RX0, "isDigit", "(I)Z"⟩
def dkwX0_isDigit_0 : List UInt8 := [26, 16, 48, 161, 0, 13, 26, 16, 57, 163, 0, 7, 4, 167, 0, 4, 3, 172]
abbrev dktX0_isDigit_0 : List UInt8 := dkwX0_isDigit_0 ++ []
theorem dksX0_isDigit_0 : cX0_isDigit.data.toList.drop 0 = dktX0_isDigit_0 := by decide +kernel
theorem dX0_isDigit_0 : decode cX0_isDigit 0 = .ok (.iload_n 0, 1) := dk_26 (dk_at dksX0_isDigit_0 0 rfl rfl)
theorem dX0_isDigit_1 : decode cX0_isDigit 1 = .ok (.bipush 48, 2) := dk_16 48 (dk_at dksX0_isDigit_0 1 rfl rfl)
theorem dX0_isDigit_3 : decode cX0_isDigit 3 = .ok (.if_icmp .lt 13, 3) := dk_161 0 13 (dk_at dksX0_isDigit_0 3 rfl rfl)
theorem dX0_isDigit_6 : decode cX0_isDigit 6 = .ok (.iload_n 0, 1) := dk_26 (dk_at dksX0_isDigit_0 6 rfl rfl)
theorem dX0_isDigit_7 : decode cX0_isDigit 7 = .ok (.bipush 57, 2) := dk_16 57 (dk_at dksX0_isDigit_0 7 rfl rfl)
theorem dX0_isDigit_9 : decode cX0_isDigit 9 = .ok (.if_icmp .gt 7, 3) := dk_163 0 7 (dk_at dksX0_isDigit_0 9 rfl rfl)
theorem dX0_isDigit_12 : decode cX0_isDigit 12 = .ok (.iconst 1, 1) := dk_4 (dk_at dksX0_isDigit_0 12 rfl rfl)
theorem dX0_isDigit_13 : decode cX0_isDigit 13 = .ok (.goto 4, 3) := dk_167 0 4 (dk_at dksX0_isDigit_0 13 rfl rfl)
theorem dX0_isDigit_16 : decode cX0_isDigit 16 = .ok (.iconst 0, 1) := dk_3 (dk_at dksX0_isDigit_0 16 rfl rfl)
theorem dX0_isDigit_17 : decode cX0_isDigit 17 = .ok (.ireturn, 1) := dk_172 (dk_at dksX0_isDigit_0 17 rfl rfl)
abbrev cX0_goesOn : ByteArray := prog_1_method_32_code
def yX0_goesOn : MethodName := ⟨RX0, "goesOn", "(Ljava/lang/String;)Z"⟩
def dkwX0_goesOn_0 : List UInt8 := [42, 43, 182, 0, 241, 154, 0, 5, 3, 172, 42, 182, 0, 245, 4, 172]
abbrev dktX0_goesOn_0 : List UInt8 := dkwX0_goesOn_0 ++ []
theorem dksX0_goesOn_0 : cX0_goesOn.data.toList.drop 0 = dktX0_goesOn_0 := by decide +kernel
theorem dX0_goesOn_0 : decode cX0_goesOn 0 = .ok (.aload_n 0, 1) := dk_42 (dk_at dksX0_goesOn_0 0 rfl rfl)
theorem dX0_goesOn_1 : decode cX0_goesOn 1 = .ok (.aload_n 1, 1) := dk_43 (dk_at dksX0_goesOn_0 1 rfl rfl)
theorem dX0_goesOn_2 : decode cX0_goesOn 2 = .ok (.invokevirtual 241, 3) := dk_182 0 241 (dk_at dksX0_goesOn_0 2 rfl rfl)
theorem dX0_goesOn_5 : decode cX0_goesOn 5 = .ok (.ifCond .ne 5, 3) := dk_154 0 5 (dk_at dksX0_goesOn_0 5 rfl rfl)
theorem dX0_goesOn_8 : decode cX0_goesOn 8 = .ok (.iconst 0, 1) := dk_3 (dk_at dksX0_goesOn_0 8 rfl rfl)
theorem dX0_goesOn_9 : decode cX0_goesOn 9 = .ok (.ireturn, 1) := dk_172 (dk_at dksX0_goesOn_0 9 rfl rfl)
theorem dX0_goesOn_10 : decode cX0_goesOn 10 = .ok (.aload_n 0, 1) := dk_42 (dk_at dksX0_goesOn_0 10 rfl rfl)
theorem dX0_goesOn_11 : decode cX0_goesOn 11 = .ok (.invokevirtual 245, 3) := dk_182 0 245 (dk_at dksX0_goesOn_0 11 rfl rfl)
theorem dX0_goesOn_14 : decode cX0_goesOn 14 = .ok (.iconst 1, 1) := dk_4 (dk_at dksX0_goesOn_0 14 rfl rfl)
theorem dX0_goesOn_15 : decode cX0_goesOn 15 = .ok (.ireturn, 1) := dk_172 (dk_at dksX0_goesOn_0 15 rfl rfl)
abbrev cX0_isName : ByteArray := prog_1_method_31_code
def yX0_isName : MethodName := ⟨RX0, "isName", "(Ljava/lang/String;)Z"⟩
def dkwX0_isName_2 : List UInt8 := [159, 0, 5, 3, 172, 132, 2, 1, 167, 255, 224, 4, 172]
abbrev dktX0_isName_2 : List UInt8 := dkwX0_isName_2 ++ []
def dkwX0_isName_1 : List UInt8 := [182, 0, 233, 162, 0, 30, 42, 180, 0, 95, 42, 180, 0, 224, 28, 96, 51, 43, 28, 182, 0, 237]
abbrev dktX0_isName_1 : List UInt8 := dkwX0_isName_1 ++ dktX0_isName_2
def dkwX0_isName_0 : List UInt8 := [42, 180, 0, 221, 42, 180, 0, 224, 100, 43, 182, 0, 233, 159, 0, 5, 3, 172, 3, 61, 28, 43]
abbrev dktX0_isName_0 : List UInt8 := dkwX0_isName_0 ++ dktX0_isName_1
theorem dksX0_isName_0 : cX0_isName.data.toList.drop 0 = dktX0_isName_0 := by decide +kernel
theorem dksX0_isName_1 : cX0_isName.data.toList.drop 22 = dktX0_isName_1 := dk_seg dksX0_isName_0 22 rfl rfl
theorem dksX0_isName_2 : cX0_isName.data.toList.drop 44 = dktX0_isName_2 := dk_seg dksX0_isName_1 22 rfl rfl
theorem dX0_isName_0 : decode cX0_isName 0 = .ok (.aload_n 0, 1) := dk_42 (dk_at dksX0_isName_0 0 rfl rfl)
theorem dX0_isName_1 : decode cX0_isName 1 = .ok (.getfield 221, 3) := dk_180 0 221 (dk_at dksX0_isName_0 1 rfl rfl)
theorem dX0_isName_4 : decode cX0_isName 4 = .ok (.aload_n 0, 1) := dk_42 (dk_at dksX0_isName_0 4 rfl rfl)
theorem dX0_isName_5 : decode cX0_isName 5 = .ok (.getfield 224, 3) := dk_180 0 224 (dk_at dksX0_isName_0 5 rfl rfl)
theorem dX0_isName_8 : decode cX0_isName 8 = .ok (.isub, 1) := dk_100 (dk_at dksX0_isName_0 8 rfl rfl)
theorem dX0_isName_9 : decode cX0_isName 9 = .ok (.aload_n 1, 1) := dk_43 (dk_at dksX0_isName_0 9 rfl rfl)
theorem dX0_isName_10 : decode cX0_isName 10 = .ok (.invokevirtual 233, 3) := dk_182 0 233 (dk_at dksX0_isName_0 10 rfl rfl)
theorem dX0_isName_13 : decode cX0_isName 13 = .ok (.if_icmp .eq 5, 3) := dk_159 0 5 (dk_at dksX0_isName_0 13 rfl rfl)
theorem dX0_isName_16 : decode cX0_isName 16 = .ok (.iconst 0, 1) := dk_3 (dk_at dksX0_isName_0 16 rfl rfl)
theorem dX0_isName_17 : decode cX0_isName 17 = .ok (.ireturn, 1) := dk_172 (dk_at dksX0_isName_0 17 rfl rfl)
theorem dX0_isName_18 : decode cX0_isName 18 = .ok (.iconst 0, 1) := dk_3 (dk_at dksX0_isName_0 18 rfl rfl)
theorem dX0_isName_19 : decode cX0_isName 19 = .ok (.istore_n 2, 1) := dk_61 (dk_at dksX0_isName_0 19 rfl rfl)
theorem dX0_isName_20 : decode cX0_isName 20 = .ok (.iload_n 2, 1) := dk_28 (dk_at dksX0_isName_0 20 rfl rfl)
theorem dX0_isName_21 : decode cX0_isName 21 = .ok (.aload_n 1, 1) := dk_43 (dk_at dksX0_isName_0 21 rfl rfl)
theorem dX0_isName_22 : decode cX0_isName 22 = .ok (.invokevirtual 233, 3) := dk_182 0 233 (dk_at dksX0_isName_1 0 rfl rfl)
theorem dX0_isName_25 : decode cX0_isName 25 = .ok (.if_icmp .ge 30, 3) := dk_162 0 30 (dk_at dksX0_isName_1 3 rfl rfl)
theorem dX0_isName_28 : decode cX0_isName 28 = .ok (.aload_n 0, 1) := dk_42 (dk_at dksX0_isName_1 6 rfl rfl)
theorem dX0_isName_29 : decode cX0_isName 29 = .ok (.getfield 95, 3) := dk_180 0 95 (dk_at dksX0_isName_1 7 rfl rfl)
theorem dX0_isName_32 : decode cX0_isName 32 = .ok (.aload_n 0, 1) := dk_42 (dk_at dksX0_isName_1 10 rfl rfl)
theorem dX0_isName_33 : decode cX0_isName 33 = .ok (.getfield 224, 3) := dk_180 0 224 (dk_at dksX0_isName_1 11 rfl rfl)
theorem dX0_isName_36 : decode cX0_isName 36 = .ok (.iload_n 2, 1) := dk_28 (dk_at dksX0_isName_1 14 rfl rfl)
theorem dX0_isName_37 : decode cX0_isName 37 = .ok (.iadd, 1) := dk_96 (dk_at dksX0_isName_1 15 rfl rfl)
theorem dX0_isName_38 : decode cX0_isName 38 = .ok (.baload, 1) := dk_51 (dk_at dksX0_isName_1 16 rfl rfl)
theorem dX0_isName_39 : decode cX0_isName 39 = .ok (.aload_n 1, 1) := dk_43 (dk_at dksX0_isName_1 17 rfl rfl)
theorem dX0_isName_40 : decode cX0_isName 40 = .ok (.iload_n 2, 1) := dk_28 (dk_at dksX0_isName_1 18 rfl rfl)
theorem dX0_isName_41 : decode cX0_isName 41 = .ok (.invokevirtual 237, 3) := dk_182 0 237 (dk_at dksX0_isName_1 19 rfl rfl)
theorem dX0_isName_44 : decode cX0_isName 44 = .ok (.if_icmp .eq 5, 3) := dk_159 0 5 (dk_at dksX0_isName_2 0 rfl rfl)
theorem dX0_isName_47 : decode cX0_isName 47 = .ok (.iconst 0, 1) := dk_3 (dk_at dksX0_isName_2 3 rfl rfl)
theorem dX0_isName_48 : decode cX0_isName 48 = .ok (.ireturn, 1) := dk_172 (dk_at dksX0_isName_2 4 rfl rfl)
theorem dX0_isName_49 : decode cX0_isName 49 = .ok (.iinc 2 1, 3) := dk_132 2 1 (dk_at dksX0_isName_2 5 rfl rfl)
theorem dX0_isName_52 : decode cX0_isName 52 = .ok (.goto (-32), 3) := dk_167 255 224 (dk_at dksX0_isName_2 8 rfl rfl)
theorem dX0_isName_55 : decode cX0_isName 55 = .ok (.iconst 1, 1) := dk_4 (dk_at dksX0_isName_2 11 rfl rfl)
theorem dX0_isName_56 : decode cX0_isName 56 = .ok (.ireturn, 1) := dk_172 (dk_at dksX0_isName_2 12 rfl rfl)
abbrev cX0_faultHere : ByteArray := prog_1_method_30_code
def yX0_faultHere : MethodName := ⟨RX0, "faultHere", "()LTwoSidedTables$Refusal;"⟩
def dkwX0_faultHere_0 : List UInt8 := [42, 180, 0, 48, 42, 180, 0, 224, 182, 0, 232, 176]
abbrev dktX0_faultHere_0 : List UInt8 := dkwX0_faultHere_0 ++ []
theorem dksX0_faultHere_0 : cX0_faultHere.data.toList.drop 0 = dktX0_faultHere_0 := by decide +kernel
theorem dX0_faultHere_0 : decode cX0_faultHere 0 = .ok (.aload_n 0, 1) := dk_42 (dk_at dksX0_faultHere_0 0 rfl rfl)
theorem dX0_faultHere_1 : decode cX0_faultHere 1 = .ok (.getfield 48, 3) := dk_180 0 48 (dk_at dksX0_faultHere_0 1 rfl rfl)
theorem dX0_faultHere_4 : decode cX0_faultHere 4 = .ok (.aload_n 0, 1) := dk_42 (dk_at dksX0_faultHere_0 4 rfl rfl)
theorem dX0_faultHere_5 : decode cX0_faultHere 5 = .ok (.getfield 224, 3) := dk_180 0 224 (dk_at dksX0_faultHere_0 5 rfl rfl)
theorem dX0_faultHere_8 : decode cX0_faultHere 8 = .ok (.invokevirtual 232, 3) := dk_182 0 232 (dk_at dksX0_faultHere_0 8 rfl rfl)
theorem dX0_faultHere_11 : decode cX0_faultHere 11 = .ok (.areturn, 1) := dk_176 (dk_at dksX0_faultHere_0 11 rfl rfl)
abbrev cX0_rowsOf : ByteArray := prog_1_method_35_code
def yX0_rowsOf : MethodName := ⟨RX0, "rowsOf", "(I)V"⟩
def dkwX0_rowsOf_3 : List UInt8 := [167, 255, 197, 42, 19, 1, 14, 182, 1, 1, 177]
abbrev dktX0_rowsOf_3 : List UInt8 := dkwX0_rowsOf_3 ++ []
def dkwX0_rowsOf_2 : List UInt8 := [19, 1, 8, 182, 0, 248, 182, 1, 10, 133, 182, 0, 178, 132, 4, 1, 167, 255, 224, 132, 3, 1]
abbrev dktX0_rowsOf_2 : List UInt8 := dkwX0_rowsOf_2 ++ dktX0_rowsOf_3
def dkwX0_rowsOf_1 : List UInt8 := [18, 255, 182, 1, 1, 3, 54, 4, 21, 4, 44, 180, 1, 5, 162, 0, 29, 44, 29, 21, 4, 42, 27, 42]
abbrev dktX0_rowsOf_1 : List UInt8 := dkwX0_rowsOf_1 ++ dktX0_rowsOf_2
def dkwX0_rowsOf_0 : List UInt8 := [42, 180, 0, 69, 27, 182, 0, 160, 77, 3, 62, 29, 44, 180, 0, 188, 162, 0, 57, 29, 158, 0, 9, 42]
abbrev dktX0_rowsOf_0 : List UInt8 := dkwX0_rowsOf_0 ++ dktX0_rowsOf_1
theorem dksX0_rowsOf_0 : cX0_rowsOf.data.toList.drop 0 = dktX0_rowsOf_0 := by decide +kernel
theorem dksX0_rowsOf_1 : cX0_rowsOf.data.toList.drop 24 = dktX0_rowsOf_1 := dk_seg dksX0_rowsOf_0 24 rfl rfl
theorem dksX0_rowsOf_2 : cX0_rowsOf.data.toList.drop 48 = dktX0_rowsOf_2 := dk_seg dksX0_rowsOf_1 24 rfl rfl
theorem dksX0_rowsOf_3 : cX0_rowsOf.data.toList.drop 70 = dktX0_rowsOf_3 := dk_seg dksX0_rowsOf_2 22 rfl rfl
theorem dX0_rowsOf_0 : decode cX0_rowsOf 0 = .ok (.aload_n 0, 1) := dk_42 (dk_at dksX0_rowsOf_0 0 rfl rfl)
theorem dX0_rowsOf_1 : decode cX0_rowsOf 1 = .ok (.getfield 69, 3) := dk_180 0 69 (dk_at dksX0_rowsOf_0 1 rfl rfl)
theorem dX0_rowsOf_4 : decode cX0_rowsOf 4 = .ok (.iload_n 1, 1) := dk_27 (dk_at dksX0_rowsOf_0 4 rfl rfl)
theorem dX0_rowsOf_5 : decode cX0_rowsOf 5 = .ok (.invokevirtual 160, 3) := dk_182 0 160 (dk_at dksX0_rowsOf_0 5 rfl rfl)
theorem dX0_rowsOf_8 : decode cX0_rowsOf 8 = .ok (.astore_n 2, 1) := dk_77 (dk_at dksX0_rowsOf_0 8 rfl rfl)
theorem dX0_rowsOf_9 : decode cX0_rowsOf 9 = .ok (.iconst 0, 1) := dk_3 (dk_at dksX0_rowsOf_0 9 rfl rfl)
theorem dX0_rowsOf_10 : decode cX0_rowsOf 10 = .ok (.istore_n 3, 1) := dk_62 (dk_at dksX0_rowsOf_0 10 rfl rfl)
theorem dX0_rowsOf_11 : decode cX0_rowsOf 11 = .ok (.iload_n 3, 1) := dk_29 (dk_at dksX0_rowsOf_0 11 rfl rfl)
theorem dX0_rowsOf_12 : decode cX0_rowsOf 12 = .ok (.aload_n 2, 1) := dk_44 (dk_at dksX0_rowsOf_0 12 rfl rfl)
theorem dX0_rowsOf_13 : decode cX0_rowsOf 13 = .ok (.getfield 188, 3) := dk_180 0 188 (dk_at dksX0_rowsOf_0 13 rfl rfl)
theorem dX0_rowsOf_16 : decode cX0_rowsOf 16 = .ok (.if_icmp .ge 57, 3) := dk_162 0 57 (dk_at dksX0_rowsOf_0 16 rfl rfl)
theorem dX0_rowsOf_19 : decode cX0_rowsOf 19 = .ok (.iload_n 3, 1) := dk_29 (dk_at dksX0_rowsOf_0 19 rfl rfl)
theorem dX0_rowsOf_20 : decode cX0_rowsOf 20 = .ok (.ifCond .le 9, 3) := dk_158 0 9 (dk_at dksX0_rowsOf_0 20 rfl rfl)
theorem dX0_rowsOf_23 : decode cX0_rowsOf 23 = .ok (.aload_n 0, 1) := dk_42 (dk_at dksX0_rowsOf_0 23 rfl rfl)
theorem dX0_rowsOf_24 : decode cX0_rowsOf 24 = .ok (.ldc 255, 2) := dk_18 255 (dk_at dksX0_rowsOf_1 0 rfl rfl)
theorem dX0_rowsOf_26 : decode cX0_rowsOf 26 = .ok (.invokevirtual 257, 3) := dk_182 1 1 (dk_at dksX0_rowsOf_1 2 rfl rfl)
theorem dX0_rowsOf_29 : decode cX0_rowsOf 29 = .ok (.iconst 0, 1) := dk_3 (dk_at dksX0_rowsOf_1 5 rfl rfl)
theorem dX0_rowsOf_30 : decode cX0_rowsOf 30 = .ok (.istore 4, 2) := dk_54 4 (dk_at dksX0_rowsOf_1 6 rfl rfl)
theorem dX0_rowsOf_32 : decode cX0_rowsOf 32 = .ok (.iload 4, 2) := dk_21 4 (dk_at dksX0_rowsOf_1 8 rfl rfl)
theorem dX0_rowsOf_34 : decode cX0_rowsOf 34 = .ok (.aload_n 2, 1) := dk_44 (dk_at dksX0_rowsOf_1 10 rfl rfl)
theorem dX0_rowsOf_35 : decode cX0_rowsOf 35 = .ok (.getfield 261, 3) := dk_180 1 5 (dk_at dksX0_rowsOf_1 11 rfl rfl)
theorem dX0_rowsOf_38 : decode cX0_rowsOf 38 = .ok (.if_icmp .ge 29, 3) := dk_162 0 29 (dk_at dksX0_rowsOf_1 14 rfl rfl)
theorem dX0_rowsOf_41 : decode cX0_rowsOf 41 = .ok (.aload_n 2, 1) := dk_44 (dk_at dksX0_rowsOf_1 17 rfl rfl)
theorem dX0_rowsOf_42 : decode cX0_rowsOf 42 = .ok (.iload_n 3, 1) := dk_29 (dk_at dksX0_rowsOf_1 18 rfl rfl)
theorem dX0_rowsOf_43 : decode cX0_rowsOf 43 = .ok (.iload 4, 2) := dk_21 4 (dk_at dksX0_rowsOf_1 19 rfl rfl)
theorem dX0_rowsOf_45 : decode cX0_rowsOf 45 = .ok (.aload_n 0, 1) := dk_42 (dk_at dksX0_rowsOf_1 21 rfl rfl)
theorem dX0_rowsOf_46 : decode cX0_rowsOf 46 = .ok (.iload_n 1, 1) := dk_27 (dk_at dksX0_rowsOf_1 22 rfl rfl)
theorem dX0_rowsOf_47 : decode cX0_rowsOf 47 = .ok (.aload_n 0, 1) := dk_42 (dk_at dksX0_rowsOf_1 23 rfl rfl)
theorem dX0_rowsOf_48 : decode cX0_rowsOf 48 = .ok (.ldc_w 264, 3) := dk_19 1 8 (dk_at dksX0_rowsOf_2 0 rfl rfl)
theorem dX0_rowsOf_51 : decode cX0_rowsOf 51 = .ok (.invokevirtual 248, 3) := dk_182 0 248 (dk_at dksX0_rowsOf_2 3 rfl rfl)
theorem dX0_rowsOf_54 : decode cX0_rowsOf 54 = .ok (.invokevirtual 266, 3) := dk_182 1 10 (dk_at dksX0_rowsOf_2 6 rfl rfl)
theorem dX0_rowsOf_57 : decode cX0_rowsOf 57 = .ok (.i2l, 1) := dk_133 (dk_at dksX0_rowsOf_2 9 rfl rfl)
theorem dX0_rowsOf_58 : decode cX0_rowsOf 58 = .ok (.invokevirtual 178, 3) := dk_182 0 178 (dk_at dksX0_rowsOf_2 10 rfl rfl)
theorem dX0_rowsOf_61 : decode cX0_rowsOf 61 = .ok (.iinc 4 1, 3) := dk_132 4 1 (dk_at dksX0_rowsOf_2 13 rfl rfl)
theorem dX0_rowsOf_64 : decode cX0_rowsOf 64 = .ok (.goto (-32), 3) := dk_167 255 224 (dk_at dksX0_rowsOf_2 16 rfl rfl)
theorem dX0_rowsOf_67 : decode cX0_rowsOf 67 = .ok (.iinc 3 1, 3) := dk_132 3 1 (dk_at dksX0_rowsOf_2 19 rfl rfl)
theorem dX0_rowsOf_70 : decode cX0_rowsOf 70 = .ok (.goto (-59), 3) := dk_167 255 197 (dk_at dksX0_rowsOf_3 0 rfl rfl)
theorem dX0_rowsOf_73 : decode cX0_rowsOf 73 = .ok (.aload_n 0, 1) := dk_42 (dk_at dksX0_rowsOf_3 3 rfl rfl)
theorem dX0_rowsOf_74 : decode cX0_rowsOf 74 = .ok (.ldc_w 270, 3) := dk_19 1 14 (dk_at dksX0_rowsOf_3 4 rfl rfl)
theorem dX0_rowsOf_77 : decode cX0_rowsOf 77 = .ok (.invokevirtual 257, 3) := dk_182 1 1 (dk_at dksX0_rowsOf_3 7 rfl rfl)
theorem dX0_rowsOf_80 : decode cX0_rowsOf 80 = .ok (.return_, 1) := dk_177 (dk_at dksX0_rowsOf_3 10 rfl rfl)
abbrev cX0_want : ByteArray := prog_1_method_33_code
def yX0_want : MethodName := ⟨RX0, "want", "(Ljava/lang/String;)V"⟩
def dkwX0_want_0 : List UInt8 := [42, 43, 182, 0, 248, 154, 0, 8, 42, 182, 0, 251, 191, 177]
abbrev dktX0_want_0 : List UInt8 := dkwX0_want_0 ++ []
theorem dksX0_want_0 : cX0_want.data.toList.drop 0 = dktX0_want_0 := by decide +kernel
theorem dX0_want_0 : decode cX0_want 0 = .ok (.aload_n 0, 1) := dk_42 (dk_at dksX0_want_0 0 rfl rfl)
theorem dX0_want_1 : decode cX0_want 1 = .ok (.aload_n 1, 1) := dk_43 (dk_at dksX0_want_0 1 rfl rfl)
theorem dX0_want_2 : decode cX0_want 2 = .ok (.invokevirtual 248, 3) := dk_182 0 248 (dk_at dksX0_want_0 2 rfl rfl)
theorem dX0_want_5 : decode cX0_want 5 = .ok (.ifCond .ne 8, 3) := dk_154 0 8 (dk_at dksX0_want_0 5 rfl rfl)
theorem dX0_want_8 : decode cX0_want 8 = .ok (.aload_n 0, 1) := dk_42 (dk_at dksX0_want_0 8 rfl rfl)
theorem dX0_want_9 : decode cX0_want 9 = .ok (.invokevirtual 251, 3) := dk_182 0 251 (dk_at dksX0_want_0 9 rfl rfl)
theorem dX0_want_12 : decode cX0_want 12 = .ok (.athrow, 1) := dk_191 (dk_at dksX0_want_0 12 rfl rfl)
theorem dX0_want_13 : decode cX0_want 13 = .ok (.return_, 1) := dk_177 (dk_at dksX0_want_0 13 rfl rfl)
abbrev cX0_figure : ByteArray := prog_1_method_34_code
def yX0_figure : MethodName := ⟨RX0, "figure", "(IZ)I"⟩
def dkwX0_figure_4 : List UInt8 := [182, 0, 251, 191, 42, 182, 0, 245, 28, 153, 0, 9, 21, 4, 116, 167, 0, 5, 21, 4, 172]
abbrev dktX0_figure_4 : List UInt8 := dkwX0_figure_4 ++ []
def dkwX0_figure_3 : List UInt8 := [16, 48, 100, 54, 4, 132, 5, 1, 167, 255, 226, 27, 21, 4, 133, 184, 0, 170, 154, 0, 8, 42]
abbrev dktX0_figure_3 : List UInt8 := dkwX0_figure_3 ++ dktX0_figure_4
def dkwX0_figure_2 : List UInt8 := [54, 5, 21, 5, 42, 180, 0, 221, 162, 0, 27, 16, 10, 21, 4, 104, 42, 180, 0, 95, 21, 5, 51, 96]
abbrev dktX0_figure_2 : List UInt8 := dkwX0_figure_2 ++ dktX0_figure_3
def dkwX0_figure_1 : List UInt8 := [42, 180, 0, 224, 51, 184, 0, 229, 154, 0, 8, 42, 182, 0, 251, 191, 3, 54, 4, 42, 180, 0, 224]
abbrev dktX0_figure_1 : List UInt8 := dkwX0_figure_1 ++ dktX0_figure_2
def dkwX0_figure_0 : List UInt8 := [42, 180, 0, 221, 42, 180, 0, 224, 100, 62, 29, 4, 161, 0, 23, 29, 5, 163, 0, 18, 42, 180, 0, 95]
abbrev dktX0_figure_0 : List UInt8 := dkwX0_figure_0 ++ dktX0_figure_1
theorem dksX0_figure_0 : cX0_figure.data.toList.drop 0 = dktX0_figure_0 := by decide +kernel
theorem dksX0_figure_1 : cX0_figure.data.toList.drop 24 = dktX0_figure_1 := dk_seg dksX0_figure_0 24 rfl rfl
theorem dksX0_figure_2 : cX0_figure.data.toList.drop 47 = dktX0_figure_2 := dk_seg dksX0_figure_1 23 rfl rfl
theorem dksX0_figure_3 : cX0_figure.data.toList.drop 71 = dktX0_figure_3 := dk_seg dksX0_figure_2 24 rfl rfl
theorem dksX0_figure_4 : cX0_figure.data.toList.drop 93 = dktX0_figure_4 := dk_seg dksX0_figure_3 22 rfl rfl
theorem dX0_figure_0 : decode cX0_figure 0 = .ok (.aload_n 0, 1) := dk_42 (dk_at dksX0_figure_0 0 rfl rfl)
theorem dX0_figure_1 : decode cX0_figure 1 = .ok (.getfield 221, 3) := dk_180 0 221 (dk_at dksX0_figure_0 1 rfl rfl)
theorem dX0_figure_4 : decode cX0_figure 4 = .ok (.aload_n 0, 1) := dk_42 (dk_at dksX0_figure_0 4 rfl rfl)
theorem dX0_figure_5 : decode cX0_figure 5 = .ok (.getfield 224, 3) := dk_180 0 224 (dk_at dksX0_figure_0 5 rfl rfl)
theorem dX0_figure_8 : decode cX0_figure 8 = .ok (.isub, 1) := dk_100 (dk_at dksX0_figure_0 8 rfl rfl)
theorem dX0_figure_9 : decode cX0_figure 9 = .ok (.istore_n 3, 1) := dk_62 (dk_at dksX0_figure_0 9 rfl rfl)
theorem dX0_figure_10 : decode cX0_figure 10 = .ok (.iload_n 3, 1) := dk_29 (dk_at dksX0_figure_0 10 rfl rfl)
theorem dX0_figure_11 : decode cX0_figure 11 = .ok (.iconst 1, 1) := dk_4 (dk_at dksX0_figure_0 11 rfl rfl)
theorem dX0_figure_12 : decode cX0_figure 12 = .ok (.if_icmp .lt 23, 3) := dk_161 0 23 (dk_at dksX0_figure_0 12 rfl rfl)
theorem dX0_figure_15 : decode cX0_figure 15 = .ok (.iload_n 3, 1) := dk_29 (dk_at dksX0_figure_0 15 rfl rfl)
theorem dX0_figure_16 : decode cX0_figure 16 = .ok (.iconst 2, 1) := dk_5 (dk_at dksX0_figure_0 16 rfl rfl)
theorem dX0_figure_17 : decode cX0_figure 17 = .ok (.if_icmp .gt 18, 3) := dk_163 0 18 (dk_at dksX0_figure_0 17 rfl rfl)
theorem dX0_figure_20 : decode cX0_figure 20 = .ok (.aload_n 0, 1) := dk_42 (dk_at dksX0_figure_0 20 rfl rfl)
theorem dX0_figure_21 : decode cX0_figure 21 = .ok (.getfield 95, 3) := dk_180 0 95 (dk_at dksX0_figure_0 21 rfl rfl)
theorem dX0_figure_24 : decode cX0_figure 24 = .ok (.aload_n 0, 1) := dk_42 (dk_at dksX0_figure_1 0 rfl rfl)
theorem dX0_figure_25 : decode cX0_figure 25 = .ok (.getfield 224, 3) := dk_180 0 224 (dk_at dksX0_figure_1 1 rfl rfl)
theorem dX0_figure_28 : decode cX0_figure 28 = .ok (.baload, 1) := dk_51 (dk_at dksX0_figure_1 4 rfl rfl)
theorem dX0_figure_29 : decode cX0_figure 29 = .ok (.invokestatic 229, 3) := dk_184 0 229 (dk_at dksX0_figure_1 5 rfl rfl)
theorem dX0_figure_32 : decode cX0_figure 32 = .ok (.ifCond .ne 8, 3) := dk_154 0 8 (dk_at dksX0_figure_1 8 rfl rfl)
theorem dX0_figure_35 : decode cX0_figure 35 = .ok (.aload_n 0, 1) := dk_42 (dk_at dksX0_figure_1 11 rfl rfl)
theorem dX0_figure_36 : decode cX0_figure 36 = .ok (.invokevirtual 251, 3) := dk_182 0 251 (dk_at dksX0_figure_1 12 rfl rfl)
theorem dX0_figure_39 : decode cX0_figure 39 = .ok (.athrow, 1) := dk_191 (dk_at dksX0_figure_1 15 rfl rfl)
theorem dX0_figure_40 : decode cX0_figure 40 = .ok (.iconst 0, 1) := dk_3 (dk_at dksX0_figure_1 16 rfl rfl)
theorem dX0_figure_41 : decode cX0_figure 41 = .ok (.istore 4, 2) := dk_54 4 (dk_at dksX0_figure_1 17 rfl rfl)
theorem dX0_figure_43 : decode cX0_figure 43 = .ok (.aload_n 0, 1) := dk_42 (dk_at dksX0_figure_1 19 rfl rfl)
theorem dX0_figure_44 : decode cX0_figure 44 = .ok (.getfield 224, 3) := dk_180 0 224 (dk_at dksX0_figure_1 20 rfl rfl)
theorem dX0_figure_47 : decode cX0_figure 47 = .ok (.istore 5, 2) := dk_54 5 (dk_at dksX0_figure_2 0 rfl rfl)
theorem dX0_figure_49 : decode cX0_figure 49 = .ok (.iload 5, 2) := dk_21 5 (dk_at dksX0_figure_2 2 rfl rfl)
theorem dX0_figure_51 : decode cX0_figure 51 = .ok (.aload_n 0, 1) := dk_42 (dk_at dksX0_figure_2 4 rfl rfl)
theorem dX0_figure_52 : decode cX0_figure 52 = .ok (.getfield 221, 3) := dk_180 0 221 (dk_at dksX0_figure_2 5 rfl rfl)
theorem dX0_figure_55 : decode cX0_figure 55 = .ok (.if_icmp .ge 27, 3) := dk_162 0 27 (dk_at dksX0_figure_2 8 rfl rfl)
theorem dX0_figure_58 : decode cX0_figure 58 = .ok (.bipush 10, 2) := dk_16 10 (dk_at dksX0_figure_2 11 rfl rfl)
theorem dX0_figure_60 : decode cX0_figure 60 = .ok (.iload 4, 2) := dk_21 4 (dk_at dksX0_figure_2 13 rfl rfl)
theorem dX0_figure_62 : decode cX0_figure 62 = .ok (.imul, 1) := dk_104 (dk_at dksX0_figure_2 15 rfl rfl)
theorem dX0_figure_63 : decode cX0_figure 63 = .ok (.aload_n 0, 1) := dk_42 (dk_at dksX0_figure_2 16 rfl rfl)
theorem dX0_figure_64 : decode cX0_figure 64 = .ok (.getfield 95, 3) := dk_180 0 95 (dk_at dksX0_figure_2 17 rfl rfl)
theorem dX0_figure_67 : decode cX0_figure 67 = .ok (.iload 5, 2) := dk_21 5 (dk_at dksX0_figure_2 20 rfl rfl)
theorem dX0_figure_69 : decode cX0_figure 69 = .ok (.baload, 1) := dk_51 (dk_at dksX0_figure_2 22 rfl rfl)
theorem dX0_figure_70 : decode cX0_figure 70 = .ok (.iadd, 1) := dk_96 (dk_at dksX0_figure_2 23 rfl rfl)
theorem dX0_figure_71 : decode cX0_figure 71 = .ok (.bipush 48, 2) := dk_16 48 (dk_at dksX0_figure_3 0 rfl rfl)
theorem dX0_figure_73 : decode cX0_figure 73 = .ok (.isub, 1) := dk_100 (dk_at dksX0_figure_3 2 rfl rfl)
theorem dX0_figure_74 : decode cX0_figure 74 = .ok (.istore 4, 2) := dk_54 4 (dk_at dksX0_figure_3 3 rfl rfl)
theorem dX0_figure_76 : decode cX0_figure 76 = .ok (.iinc 5 1, 3) := dk_132 5 1 (dk_at dksX0_figure_3 5 rfl rfl)
theorem dX0_figure_79 : decode cX0_figure 79 = .ok (.goto (-30), 3) := dk_167 255 226 (dk_at dksX0_figure_3 8 rfl rfl)
theorem dX0_figure_82 : decode cX0_figure 82 = .ok (.iload_n 1, 1) := dk_27 (dk_at dksX0_figure_3 11 rfl rfl)
theorem dX0_figure_83 : decode cX0_figure 83 = .ok (.iload 4, 2) := dk_21 4 (dk_at dksX0_figure_3 12 rfl rfl)
theorem dX0_figure_85 : decode cX0_figure 85 = .ok (.i2l, 1) := dk_133 (dk_at dksX0_figure_3 14 rfl rfl)
theorem dX0_figure_86 : decode cX0_figure 86 = .ok (.invokestatic 170, 3) := dk_184 0 170 (dk_at dksX0_figure_3 15 rfl rfl)
theorem dX0_figure_89 : decode cX0_figure 89 = .ok (.ifCond .ne 8, 3) := dk_154 0 8 (dk_at dksX0_figure_3 18 rfl rfl)
theorem dX0_figure_92 : decode cX0_figure 92 = .ok (.aload_n 0, 1) := dk_42 (dk_at dksX0_figure_3 21 rfl rfl)
theorem dX0_figure_93 : decode cX0_figure 93 = .ok (.invokevirtual 251, 3) := dk_182 0 251 (dk_at dksX0_figure_4 0 rfl rfl)
theorem dX0_figure_96 : decode cX0_figure 96 = .ok (.athrow, 1) := dk_191 (dk_at dksX0_figure_4 3 rfl rfl)
theorem dX0_figure_97 : decode cX0_figure 97 = .ok (.aload_n 0, 1) := dk_42 (dk_at dksX0_figure_4 4 rfl rfl)
theorem dX0_figure_98 : decode cX0_figure 98 = .ok (.invokevirtual 245, 3) := dk_182 0 245 (dk_at dksX0_figure_4 5 rfl rfl)
theorem dX0_figure_101 : decode cX0_figure 101 = .ok (.iload_n 2, 1) := dk_28 (dk_at dksX0_figure_4 8 rfl rfl)
theorem dX0_figure_102 : decode cX0_figure 102 = .ok (.ifCond .eq 9, 3) := dk_153 0 9 (dk_at dksX0_figure_4 9 rfl rfl)
theorem dX0_figure_105 : decode cX0_figure 105 = .ok (.iload 4, 2) := dk_21 4 (dk_at dksX0_figure_4 12 rfl rfl)
theorem dX0_figure_107 : decode cX0_figure 107 = .ok (.ineg, 1) := dk_116 (dk_at dksX0_figure_4 14 rfl rfl)
theorem dX0_figure_108 : decode cX0_figure 108 = .ok (.goto 5, 3) := dk_167 0 5 (dk_at dksX0_figure_4 15 rfl rfl)
theorem dX0_figure_111 : decode cX0_figure 111 = .ok (.iload 4, 2) := dk_21 4 (dk_at dksX0_figure_4 18 rfl rfl)
theorem dX0_figure_113 : decode cX0_figure 113 = .ok (.ireturn, 1) := dk_172 (dk_at dksX0_figure_4 20 rfl rfl)
abbrev cX0_ratio : ByteArray := prog_1_method_55_code
def yX0_ratio : MethodName := ⟨RX0, "ratio", "(JJI)J"⟩
def dkwX0_ratio_3 : List UInt8 := [167, 0, 5, 22, 8, 173, 58, 6, 16, 240, 184, 0, 203, 173]
abbrev dktX0_ratio_3 : List UInt8 := dkwX0_ratio_3 ++ []
def dkwX0_ratio_2 : List UInt8 := [31, 33, 3, 184, 1, 134, 55, 6, 31, 33, 4, 184, 1, 134, 55, 8, 21, 5, 154, 0, 8, 22, 6]
abbrev dktX0_ratio_2 : List UInt8 := dkwX0_ratio_2 ++ dktX0_ratio_3
def dkwX0_ratio_1 : List UInt8 := [154, 0, 13, 31, 9, 148, 154, 0, 7, 21, 5, 133, 173, 167, 0, 11, 58, 6, 16, 241, 184, 0, 203, 173]
abbrev dktX0_ratio_1 : List UInt8 := dkwX0_ratio_1 ++ dktX0_ratio_2
def dkwX0_ratio_0 : List UInt8 := [21, 5, 184, 1, 129, 154, 0, 8, 2, 184, 0, 203, 173, 31, 33, 113, 55, 6, 22, 6, 9, 148]
abbrev dktX0_ratio_0 : List UInt8 := dkwX0_ratio_0 ++ dktX0_ratio_1
theorem dksX0_ratio_0 : cX0_ratio.data.toList.drop 0 = dktX0_ratio_0 := by decide +kernel
theorem dksX0_ratio_1 : cX0_ratio.data.toList.drop 22 = dktX0_ratio_1 := dk_seg dksX0_ratio_0 22 rfl rfl
theorem dksX0_ratio_2 : cX0_ratio.data.toList.drop 46 = dktX0_ratio_2 := dk_seg dksX0_ratio_1 24 rfl rfl
theorem dksX0_ratio_3 : cX0_ratio.data.toList.drop 69 = dktX0_ratio_3 := dk_seg dksX0_ratio_2 23 rfl rfl
theorem dX0_ratio_0 : decode cX0_ratio 0 = .ok (.iload 5, 2) := dk_21 5 (dk_at dksX0_ratio_0 0 rfl rfl)
theorem dX0_ratio_2 : decode cX0_ratio 2 = .ok (.invokestatic 385, 3) := dk_184 1 129 (dk_at dksX0_ratio_0 2 rfl rfl)
theorem dX0_ratio_5 : decode cX0_ratio 5 = .ok (.ifCond .ne 8, 3) := dk_154 0 8 (dk_at dksX0_ratio_0 5 rfl rfl)
theorem dX0_ratio_8 : decode cX0_ratio 8 = .ok (.iconst (-1), 1) := dk_2 (dk_at dksX0_ratio_0 8 rfl rfl)
theorem dX0_ratio_9 : decode cX0_ratio 9 = .ok (.invokestatic 203, 3) := dk_184 0 203 (dk_at dksX0_ratio_0 9 rfl rfl)
theorem dX0_ratio_12 : decode cX0_ratio 12 = .ok (.lreturn, 1) := dk_173 (dk_at dksX0_ratio_0 12 rfl rfl)
theorem dX0_ratio_13 : decode cX0_ratio 13 = .ok (.lload_n 1, 1) := dk_31 (dk_at dksX0_ratio_0 13 rfl rfl)
theorem dX0_ratio_14 : decode cX0_ratio 14 = .ok (.lload_n 3, 1) := dk_33 (dk_at dksX0_ratio_0 14 rfl rfl)
theorem dX0_ratio_15 : decode cX0_ratio 15 = .ok (.lrem, 1) := dk_113 (dk_at dksX0_ratio_0 15 rfl rfl)
theorem dX0_ratio_16 : decode cX0_ratio 16 = .ok (.lstore 6, 2) := dk_55 6 (dk_at dksX0_ratio_0 16 rfl rfl)
theorem dX0_ratio_18 : decode cX0_ratio 18 = .ok (.lload 6, 2) := dk_22 6 (dk_at dksX0_ratio_0 18 rfl rfl)
theorem dX0_ratio_20 : decode cX0_ratio 20 = .ok (.lconst 0, 1) := dk_9 (dk_at dksX0_ratio_0 20 rfl rfl)
theorem dX0_ratio_21 : decode cX0_ratio 21 = .ok (.lcmp, 1) := dk_148 (dk_at dksX0_ratio_0 21 rfl rfl)
theorem dX0_ratio_22 : decode cX0_ratio 22 = .ok (.ifCond .ne 13, 3) := dk_154 0 13 (dk_at dksX0_ratio_1 0 rfl rfl)
theorem dX0_ratio_25 : decode cX0_ratio 25 = .ok (.lload_n 1, 1) := dk_31 (dk_at dksX0_ratio_1 3 rfl rfl)
theorem dX0_ratio_26 : decode cX0_ratio 26 = .ok (.lconst 0, 1) := dk_9 (dk_at dksX0_ratio_1 4 rfl rfl)
theorem dX0_ratio_27 : decode cX0_ratio 27 = .ok (.lcmp, 1) := dk_148 (dk_at dksX0_ratio_1 5 rfl rfl)
theorem dX0_ratio_28 : decode cX0_ratio 28 = .ok (.ifCond .ne 7, 3) := dk_154 0 7 (dk_at dksX0_ratio_1 6 rfl rfl)
theorem dX0_ratio_31 : decode cX0_ratio 31 = .ok (.iload 5, 2) := dk_21 5 (dk_at dksX0_ratio_1 9 rfl rfl)
theorem dX0_ratio_33 : decode cX0_ratio 33 = .ok (.i2l, 1) := dk_133 (dk_at dksX0_ratio_1 11 rfl rfl)
theorem dX0_ratio_34 : decode cX0_ratio 34 = .ok (.lreturn, 1) := dk_173 (dk_at dksX0_ratio_1 12 rfl rfl)
theorem dX0_ratio_35 : decode cX0_ratio 35 = .ok (.goto 11, 3) := dk_167 0 11 (dk_at dksX0_ratio_1 13 rfl rfl)
theorem dX0_ratio_38 : decode cX0_ratio 38 = .ok (.astore 6, 2) := dk_58 6 (dk_at dksX0_ratio_1 16 rfl rfl)
theorem dX0_ratio_40 : decode cX0_ratio 40 = .ok (.bipush (-15), 2) := dk_16 241 (dk_at dksX0_ratio_1 18 rfl rfl)
theorem dX0_ratio_42 : decode cX0_ratio 42 = .ok (.invokestatic 203, 3) := dk_184 0 203 (dk_at dksX0_ratio_1 20 rfl rfl)
theorem dX0_ratio_45 : decode cX0_ratio 45 = .ok (.lreturn, 1) := dk_173 (dk_at dksX0_ratio_1 23 rfl rfl)
theorem dX0_ratio_46 : decode cX0_ratio 46 = .ok (.lload_n 1, 1) := dk_31 (dk_at dksX0_ratio_2 0 rfl rfl)
theorem dX0_ratio_47 : decode cX0_ratio 47 = .ok (.lload_n 3, 1) := dk_33 (dk_at dksX0_ratio_2 1 rfl rfl)
theorem dX0_ratio_48 : decode cX0_ratio 48 = .ok (.iconst 0, 1) := dk_3 (dk_at dksX0_ratio_2 2 rfl rfl)
theorem dX0_ratio_49 : decode cX0_ratio 49 = .ok (.invokestatic 390, 3) := dk_184 1 134 (dk_at dksX0_ratio_2 3 rfl rfl)
theorem dX0_ratio_52 : decode cX0_ratio 52 = .ok (.lstore 6, 2) := dk_55 6 (dk_at dksX0_ratio_2 6 rfl rfl)
theorem dX0_ratio_54 : decode cX0_ratio 54 = .ok (.lload_n 1, 1) := dk_31 (dk_at dksX0_ratio_2 8 rfl rfl)
theorem dX0_ratio_55 : decode cX0_ratio 55 = .ok (.lload_n 3, 1) := dk_33 (dk_at dksX0_ratio_2 9 rfl rfl)
theorem dX0_ratio_56 : decode cX0_ratio 56 = .ok (.iconst 1, 1) := dk_4 (dk_at dksX0_ratio_2 10 rfl rfl)
theorem dX0_ratio_57 : decode cX0_ratio 57 = .ok (.invokestatic 390, 3) := dk_184 1 134 (dk_at dksX0_ratio_2 11 rfl rfl)
theorem dX0_ratio_60 : decode cX0_ratio 60 = .ok (.lstore 8, 2) := dk_55 8 (dk_at dksX0_ratio_2 14 rfl rfl)
theorem dX0_ratio_62 : decode cX0_ratio 62 = .ok (.iload 5, 2) := dk_21 5 (dk_at dksX0_ratio_2 16 rfl rfl)
theorem dX0_ratio_64 : decode cX0_ratio 64 = .ok (.ifCond .ne 8, 3) := dk_154 0 8 (dk_at dksX0_ratio_2 18 rfl rfl)
theorem dX0_ratio_67 : decode cX0_ratio 67 = .ok (.lload 6, 2) := dk_22 6 (dk_at dksX0_ratio_2 21 rfl rfl)
theorem dX0_ratio_69 : decode cX0_ratio 69 = .ok (.goto 5, 3) := dk_167 0 5 (dk_at dksX0_ratio_3 0 rfl rfl)
theorem dX0_ratio_72 : decode cX0_ratio 72 = .ok (.lload 8, 2) := dk_22 8 (dk_at dksX0_ratio_3 3 rfl rfl)
theorem dX0_ratio_74 : decode cX0_ratio 74 = .ok (.lreturn, 1) := dk_173 (dk_at dksX0_ratio_3 5 rfl rfl)
theorem dX0_ratio_75 : decode cX0_ratio 75 = .ok (.astore 6, 2) := dk_58 6 (dk_at dksX0_ratio_3 6 rfl rfl)
theorem dX0_ratio_77 : decode cX0_ratio 77 = .ok (.bipush (-16), 2) := dk_16 240 (dk_at dksX0_ratio_3 8 rfl rfl)
theorem dX0_ratio_79 : decode cX0_ratio 79 = .ok (.invokestatic 203, 3) := dk_184 0 203 (dk_at dksX0_ratio_3 10 rfl rfl)
theorem dX0_ratio_82 : decode cX0_ratio 82 = .ok (.lreturn, 1) := dk_173 (dk_at dksX0_ratio_3 13 rfl rfl)
abbrev cX0_isPart : ByteArray := prog_1_method_9_code
def yX0_isPart : MethodName := ⟨RX0, "isPart", "(I)Z"⟩
def dkwX0_isPart_0 : List UInt8 := [26, 3, 4, 184, 0, 130, 172]
abbrev dktX0_isPart_0 : List UInt8 := dkwX0_isPart_0 ++ []
theorem dksX0_isPart_0 : cX0_isPart.data.toList.drop 0 = dktX0_isPart_0 := by decide +kernel
theorem dX0_isPart_0 : decode cX0_isPart 0 = .ok (.iload_n 0, 1) := dk_26 (dk_at dksX0_isPart_0 0 rfl rfl)
theorem dX0_isPart_1 : decode cX0_isPart 1 = .ok (.iconst 0, 1) := dk_3 (dk_at dksX0_isPart_0 1 rfl rfl)
theorem dX0_isPart_2 : decode cX0_isPart 2 = .ok (.iconst 1, 1) := dk_4 (dk_at dksX0_isPart_0 2 rfl rfl)
theorem dX0_isPart_3 : decode cX0_isPart 3 = .ok (.invokestatic 130, 3) := dk_184 0 130 (dk_at dksX0_isPart_0 3 rfl rfl)
theorem dX0_isPart_6 : decode cX0_isPart 6 = .ok (.ireturn, 1) := dk_172 (dk_at dksX0_isPart_0 6 rfl rfl)
abbrev cX0_partOf : ByteArray := prog_1_method_54_code
def yX0_partOf : MethodName := ⟨RX0, "partOf", "(JJI)J"⟩
def dkwX0_partOf_3 : List UInt8 := [22, 7, 184, 1, 126, 173]
abbrev dktX0_partOf_3 : List UInt8 := dkwX0_partOf_3 ++ []
def dkwX0_partOf_2 : List UInt8 := [167, 0, 4, 3, 32, 9, 148, 156, 0, 7, 4, 167, 0, 4, 3, 159, 0, 8, 22, 7, 167, 0, 8]
abbrev dktX0_partOf_2 : List UInt8 := dkwX0_partOf_2 ++ dktX0_partOf_3
def dkwX0_partOf_1 : List UInt8 := [184, 1, 116, 22, 5, 184, 1, 123, 55, 7, 21, 4, 154, 0, 33, 30, 9, 148, 156, 0, 7, 4]
abbrev dktX0_partOf_1 : List UInt8 := dkwX0_partOf_1 ++ dktX0_partOf_2
def dkwX0_partOf_0 : List UInt8 := [30, 184, 1, 116, 32, 184, 1, 116, 184, 1, 120, 55, 5, 21, 4, 154, 0, 7, 30, 167, 0, 4, 32]
abbrev dktX0_partOf_0 : List UInt8 := dkwX0_partOf_0 ++ dktX0_partOf_1
theorem dksX0_partOf_0 : cX0_partOf.data.toList.drop 0 = dktX0_partOf_0 := by decide +kernel
theorem dksX0_partOf_1 : cX0_partOf.data.toList.drop 23 = dktX0_partOf_1 := dk_seg dksX0_partOf_0 23 rfl rfl
theorem dksX0_partOf_2 : cX0_partOf.data.toList.drop 45 = dktX0_partOf_2 := dk_seg dksX0_partOf_1 22 rfl rfl
theorem dksX0_partOf_3 : cX0_partOf.data.toList.drop 68 = dktX0_partOf_3 := dk_seg dksX0_partOf_2 23 rfl rfl
theorem dX0_partOf_0 : decode cX0_partOf 0 = .ok (.lload_n 0, 1) := dk_30 (dk_at dksX0_partOf_0 0 rfl rfl)
theorem dX0_partOf_1 : decode cX0_partOf 1 = .ok (.invokestatic 372, 3) := dk_184 1 116 (dk_at dksX0_partOf_0 1 rfl rfl)
theorem dX0_partOf_4 : decode cX0_partOf 4 = .ok (.lload_n 2, 1) := dk_32 (dk_at dksX0_partOf_0 4 rfl rfl)
theorem dX0_partOf_5 : decode cX0_partOf 5 = .ok (.invokestatic 372, 3) := dk_184 1 116 (dk_at dksX0_partOf_0 5 rfl rfl)
theorem dX0_partOf_8 : decode cX0_partOf 8 = .ok (.invokestatic 376, 3) := dk_184 1 120 (dk_at dksX0_partOf_0 8 rfl rfl)
theorem dX0_partOf_11 : decode cX0_partOf 11 = .ok (.lstore 5, 2) := dk_55 5 (dk_at dksX0_partOf_0 11 rfl rfl)
theorem dX0_partOf_13 : decode cX0_partOf 13 = .ok (.iload 4, 2) := dk_21 4 (dk_at dksX0_partOf_0 13 rfl rfl)
theorem dX0_partOf_15 : decode cX0_partOf 15 = .ok (.ifCond .ne 7, 3) := dk_154 0 7 (dk_at dksX0_partOf_0 15 rfl rfl)
theorem dX0_partOf_18 : decode cX0_partOf 18 = .ok (.lload_n 0, 1) := dk_30 (dk_at dksX0_partOf_0 18 rfl rfl)
theorem dX0_partOf_19 : decode cX0_partOf 19 = .ok (.goto 4, 3) := dk_167 0 4 (dk_at dksX0_partOf_0 19 rfl rfl)
theorem dX0_partOf_22 : decode cX0_partOf 22 = .ok (.lload_n 2, 1) := dk_32 (dk_at dksX0_partOf_0 22 rfl rfl)
theorem dX0_partOf_23 : decode cX0_partOf 23 = .ok (.invokestatic 372, 3) := dk_184 1 116 (dk_at dksX0_partOf_1 0 rfl rfl)
theorem dX0_partOf_26 : decode cX0_partOf 26 = .ok (.lload 5, 2) := dk_22 5 (dk_at dksX0_partOf_1 3 rfl rfl)
theorem dX0_partOf_28 : decode cX0_partOf 28 = .ok (.invokestatic 379, 3) := dk_184 1 123 (dk_at dksX0_partOf_1 5 rfl rfl)
theorem dX0_partOf_31 : decode cX0_partOf 31 = .ok (.lstore 7, 2) := dk_55 7 (dk_at dksX0_partOf_1 8 rfl rfl)
theorem dX0_partOf_33 : decode cX0_partOf 33 = .ok (.iload 4, 2) := dk_21 4 (dk_at dksX0_partOf_1 10 rfl rfl)
theorem dX0_partOf_35 : decode cX0_partOf 35 = .ok (.ifCond .ne 33, 3) := dk_154 0 33 (dk_at dksX0_partOf_1 12 rfl rfl)
theorem dX0_partOf_38 : decode cX0_partOf 38 = .ok (.lload_n 0, 1) := dk_30 (dk_at dksX0_partOf_1 15 rfl rfl)
theorem dX0_partOf_39 : decode cX0_partOf 39 = .ok (.lconst 0, 1) := dk_9 (dk_at dksX0_partOf_1 16 rfl rfl)
theorem dX0_partOf_40 : decode cX0_partOf 40 = .ok (.lcmp, 1) := dk_148 (dk_at dksX0_partOf_1 17 rfl rfl)
theorem dX0_partOf_41 : decode cX0_partOf 41 = .ok (.ifCond .ge 7, 3) := dk_156 0 7 (dk_at dksX0_partOf_1 18 rfl rfl)
theorem dX0_partOf_44 : decode cX0_partOf 44 = .ok (.iconst 1, 1) := dk_4 (dk_at dksX0_partOf_1 21 rfl rfl)
theorem dX0_partOf_45 : decode cX0_partOf 45 = .ok (.goto 4, 3) := dk_167 0 4 (dk_at dksX0_partOf_2 0 rfl rfl)
theorem dX0_partOf_48 : decode cX0_partOf 48 = .ok (.iconst 0, 1) := dk_3 (dk_at dksX0_partOf_2 3 rfl rfl)
theorem dX0_partOf_49 : decode cX0_partOf 49 = .ok (.lload_n 2, 1) := dk_32 (dk_at dksX0_partOf_2 4 rfl rfl)
theorem dX0_partOf_50 : decode cX0_partOf 50 = .ok (.lconst 0, 1) := dk_9 (dk_at dksX0_partOf_2 5 rfl rfl)
theorem dX0_partOf_51 : decode cX0_partOf 51 = .ok (.lcmp, 1) := dk_148 (dk_at dksX0_partOf_2 6 rfl rfl)
theorem dX0_partOf_52 : decode cX0_partOf 52 = .ok (.ifCond .ge 7, 3) := dk_156 0 7 (dk_at dksX0_partOf_2 7 rfl rfl)
theorem dX0_partOf_55 : decode cX0_partOf 55 = .ok (.iconst 1, 1) := dk_4 (dk_at dksX0_partOf_2 10 rfl rfl)
theorem dX0_partOf_56 : decode cX0_partOf 56 = .ok (.goto 4, 3) := dk_167 0 4 (dk_at dksX0_partOf_2 11 rfl rfl)
theorem dX0_partOf_59 : decode cX0_partOf 59 = .ok (.iconst 0, 1) := dk_3 (dk_at dksX0_partOf_2 14 rfl rfl)
theorem dX0_partOf_60 : decode cX0_partOf 60 = .ok (.if_icmp .eq 8, 3) := dk_159 0 8 (dk_at dksX0_partOf_2 15 rfl rfl)
theorem dX0_partOf_63 : decode cX0_partOf 63 = .ok (.lload 7, 2) := dk_22 7 (dk_at dksX0_partOf_2 18 rfl rfl)
theorem dX0_partOf_65 : decode cX0_partOf 65 = .ok (.goto 8, 3) := dk_167 0 8 (dk_at dksX0_partOf_2 20 rfl rfl)
theorem dX0_partOf_68 : decode cX0_partOf 68 = .ok (.lload 7, 2) := dk_22 7 (dk_at dksX0_partOf_3 0 rfl rfl)
theorem dX0_partOf_70 : decode cX0_partOf 70 = .ok (.invokestatic 382, 3) := dk_184 1 126 (dk_at dksX0_partOf_3 2 rfl rfl)
theorem dX0_partOf_73 : decode cX0_partOf 73 = .ok (.lreturn, 1) := dk_173 (dk_at dksX0_partOf_3 5 rfl rfl)
abbrev cX0_lowered : ByteArray := prog_1_method_52_code
def yX0_lowered : MethodName := ⟨RX0, "lowered", "(J)J"⟩
def dkwX0_lowered_0 : List UInt8 := [30, 9, 148, 158, 0, 8, 30, 117, 167, 0, 4, 30, 173]
abbrev dktX0_lowered_0 : List UInt8 := dkwX0_lowered_0 ++ []
theorem dksX0_lowered_0 : cX0_lowered.data.toList.drop 0 = dktX0_lowered_0 := by decide +kernel
theorem dX0_lowered_0 : decode cX0_lowered 0 = .ok (.lload_n 0, 1) := dk_30 (dk_at dksX0_lowered_0 0 rfl rfl)
theorem dX0_lowered_1 : decode cX0_lowered 1 = .ok (.lconst 0, 1) := dk_9 (dk_at dksX0_lowered_0 1 rfl rfl)
theorem dX0_lowered_2 : decode cX0_lowered 2 = .ok (.lcmp, 1) := dk_148 (dk_at dksX0_lowered_0 2 rfl rfl)
theorem dX0_lowered_3 : decode cX0_lowered 3 = .ok (.ifCond .le 8, 3) := dk_158 0 8 (dk_at dksX0_lowered_0 3 rfl rfl)
theorem dX0_lowered_6 : decode cX0_lowered 6 = .ok (.lload_n 0, 1) := dk_30 (dk_at dksX0_lowered_0 6 rfl rfl)
theorem dX0_lowered_7 : decode cX0_lowered 7 = .ok (.lneg, 1) := dk_117 (dk_at dksX0_lowered_0 7 rfl rfl)
theorem dX0_lowered_8 : decode cX0_lowered 8 = .ok (.goto 4, 3) := dk_167 0 4 (dk_at dksX0_lowered_0 8 rfl rfl)
theorem dX0_lowered_11 : decode cX0_lowered 11 = .ok (.lload_n 0, 1) := dk_30 (dk_at dksX0_lowered_0 11 rfl rfl)
theorem dX0_lowered_12 : decode cX0_lowered 12 = .ok (.lreturn, 1) := dk_173 (dk_at dksX0_lowered_0 12 rfl rfl)
abbrev cX0_common : ByteArray := prog_1_method_51_code
def yX0_common : MethodName := ⟨RX0, "common", "(JJ)J"⟩
def dkwX0_common_1 : List UInt8 := [22, 8, 55, 6, 167, 255, 234, 22, 4, 173]
abbrev dktX0_common_1 : List UInt8 := dkwX0_common_1 ++ []
def dkwX0_common_0 : List UInt8 := [30, 55, 4, 32, 55, 6, 22, 6, 9, 148, 153, 0, 21, 22, 4, 22, 6, 113, 55, 8, 22, 6, 55, 4]
abbrev dktX0_common_0 : List UInt8 := dkwX0_common_0 ++ dktX0_common_1
theorem dksX0_common_0 : cX0_common.data.toList.drop 0 = dktX0_common_0 := by decide +kernel
theorem dksX0_common_1 : cX0_common.data.toList.drop 24 = dktX0_common_1 := dk_seg dksX0_common_0 24 rfl rfl
theorem dX0_common_0 : decode cX0_common 0 = .ok (.lload_n 0, 1) := dk_30 (dk_at dksX0_common_0 0 rfl rfl)
theorem dX0_common_1 : decode cX0_common 1 = .ok (.lstore 4, 2) := dk_55 4 (dk_at dksX0_common_0 1 rfl rfl)
theorem dX0_common_3 : decode cX0_common 3 = .ok (.lload_n 2, 1) := dk_32 (dk_at dksX0_common_0 3 rfl rfl)
theorem dX0_common_4 : decode cX0_common 4 = .ok (.lstore 6, 2) := dk_55 6 (dk_at dksX0_common_0 4 rfl rfl)
theorem dX0_common_6 : decode cX0_common 6 = .ok (.lload 6, 2) := dk_22 6 (dk_at dksX0_common_0 6 rfl rfl)
theorem dX0_common_8 : decode cX0_common 8 = .ok (.lconst 0, 1) := dk_9 (dk_at dksX0_common_0 8 rfl rfl)
theorem dX0_common_9 : decode cX0_common 9 = .ok (.lcmp, 1) := dk_148 (dk_at dksX0_common_0 9 rfl rfl)
theorem dX0_common_10 : decode cX0_common 10 = .ok (.ifCond .eq 21, 3) := dk_153 0 21 (dk_at dksX0_common_0 10 rfl rfl)
theorem dX0_common_13 : decode cX0_common 13 = .ok (.lload 4, 2) := dk_22 4 (dk_at dksX0_common_0 13 rfl rfl)
theorem dX0_common_15 : decode cX0_common 15 = .ok (.lload 6, 2) := dk_22 6 (dk_at dksX0_common_0 15 rfl rfl)
theorem dX0_common_17 : decode cX0_common 17 = .ok (.lrem, 1) := dk_113 (dk_at dksX0_common_0 17 rfl rfl)
theorem dX0_common_18 : decode cX0_common 18 = .ok (.lstore 8, 2) := dk_55 8 (dk_at dksX0_common_0 18 rfl rfl)
theorem dX0_common_20 : decode cX0_common 20 = .ok (.lload 6, 2) := dk_22 6 (dk_at dksX0_common_0 20 rfl rfl)
theorem dX0_common_22 : decode cX0_common 22 = .ok (.lstore 4, 2) := dk_55 4 (dk_at dksX0_common_0 22 rfl rfl)
theorem dX0_common_24 : decode cX0_common 24 = .ok (.lload 8, 2) := dk_22 8 (dk_at dksX0_common_1 0 rfl rfl)
theorem dX0_common_26 : decode cX0_common 26 = .ok (.lstore 6, 2) := dk_55 6 (dk_at dksX0_common_1 2 rfl rfl)
theorem dX0_common_28 : decode cX0_common 28 = .ok (.goto (-22), 3) := dk_167 255 234 (dk_at dksX0_common_1 4 rfl rfl)
theorem dX0_common_31 : decode cX0_common 31 = .ok (.lload 4, 2) := dk_22 4 (dk_at dksX0_common_1 7 rfl rfl)
theorem dX0_common_33 : decode cX0_common 33 = .ok (.lreturn, 1) := dk_173 (dk_at dksX0_common_1 9 rfl rfl)
abbrev cX0_parted : ByteArray := prog_1_method_53_code
def yX0_parted : MethodName := ⟨RX0, "parted", "(JJ)J"⟩
def dkwX0_parted_0 : List UInt8 := [32, 20, 1, 112, 148, 154, 0, 9, 20, 1, 114, 167, 0, 7, 30, 32, 117, 109, 173]
abbrev dktX0_parted_0 : List UInt8 := dkwX0_parted_0 ++ []
theorem dksX0_parted_0 : cX0_parted.data.toList.drop 0 = dktX0_parted_0 := by decide +kernel
theorem dX0_parted_0 : decode cX0_parted 0 = .ok (.lload_n 2, 1) := dk_32 (dk_at dksX0_parted_0 0 rfl rfl)
theorem dX0_parted_1 : decode cX0_parted 1 = .ok (.ldc2_w 368, 3) := dk_20 1 112 (dk_at dksX0_parted_0 1 rfl rfl)
theorem dX0_parted_4 : decode cX0_parted 4 = .ok (.lcmp, 1) := dk_148 (dk_at dksX0_parted_0 4 rfl rfl)
theorem dX0_parted_5 : decode cX0_parted 5 = .ok (.ifCond .ne 9, 3) := dk_154 0 9 (dk_at dksX0_parted_0 5 rfl rfl)
theorem dX0_parted_8 : decode cX0_parted 8 = .ok (.ldc2_w 370, 3) := dk_20 1 114 (dk_at dksX0_parted_0 8 rfl rfl)
theorem dX0_parted_11 : decode cX0_parted 11 = .ok (.goto 7, 3) := dk_167 0 7 (dk_at dksX0_parted_0 11 rfl rfl)
theorem dX0_parted_14 : decode cX0_parted 14 = .ok (.lload_n 0, 1) := dk_30 (dk_at dksX0_parted_0 14 rfl rfl)
theorem dX0_parted_15 : decode cX0_parted 15 = .ok (.lload_n 2, 1) := dk_32 (dk_at dksX0_parted_0 15 rfl rfl)
theorem dX0_parted_16 : decode cX0_parted 16 = .ok (.lneg, 1) := dk_117 (dk_at dksX0_parted_0 16 rfl rfl)
theorem dX0_parted_17 : decode cX0_parted 17 = .ok (.ldiv, 1) := dk_109 (dk_at dksX0_parted_0 17 rfl rfl)
theorem dX0_parted_18 : decode cX0_parted 18 = .ok (.lreturn, 1) := dk_173 (dk_at dksX0_parted_0 18 rfl rfl)
abbrev cX0_equation : ByteArray := prog_1_method_56_code
def yX0_equation : MethodName := ⟨RX0, "equation", "(II)I"⟩
def dkwX0_equation_2 : List UInt8 := [42, 89, 180, 0, 127, 4, 96, 181, 0, 127, 42, 180, 0, 127, 4, 100, 172]
abbrev dktX0_equation_2 : List UInt8 := dkwX0_equation_2 ++ []
def dkwX0_equation_1 : List UInt8 := [160, 0, 6, 16, 254, 172, 42, 180, 0, 72, 42, 180, 0, 127, 27, 42, 180, 0, 127, 28, 184, 1, 144, 83]
abbrev dktX0_equation_1 : List UInt8 := dkwX0_equation_1 ++ dktX0_equation_2
def dkwX0_equation_0 : List UInt8 := [27, 184, 1, 138, 153, 0, 10, 28, 184, 1, 141, 154, 0, 5, 2, 172, 42, 180, 0, 127, 16, 6]
abbrev dktX0_equation_0 : List UInt8 := dkwX0_equation_0 ++ dktX0_equation_1
theorem dksX0_equation_0 : cX0_equation.data.toList.drop 0 = dktX0_equation_0 := by decide +kernel
theorem dksX0_equation_1 : cX0_equation.data.toList.drop 22 = dktX0_equation_1 := dk_seg dksX0_equation_0 22 rfl rfl
theorem dksX0_equation_2 : cX0_equation.data.toList.drop 46 = dktX0_equation_2 := dk_seg dksX0_equation_1 24 rfl rfl
theorem dX0_equation_0 : decode cX0_equation 0 = .ok (.iload_n 1, 1) := dk_27 (dk_at dksX0_equation_0 0 rfl rfl)
theorem dX0_equation_1 : decode cX0_equation 1 = .ok (.invokestatic 394, 3) := dk_184 1 138 (dk_at dksX0_equation_0 1 rfl rfl)
theorem dX0_equation_4 : decode cX0_equation 4 = .ok (.ifCond .eq 10, 3) := dk_153 0 10 (dk_at dksX0_equation_0 4 rfl rfl)
theorem dX0_equation_7 : decode cX0_equation 7 = .ok (.iload_n 2, 1) := dk_28 (dk_at dksX0_equation_0 7 rfl rfl)
theorem dX0_equation_8 : decode cX0_equation 8 = .ok (.invokestatic 397, 3) := dk_184 1 141 (dk_at dksX0_equation_0 8 rfl rfl)
theorem dX0_equation_11 : decode cX0_equation 11 = .ok (.ifCond .ne 5, 3) := dk_154 0 5 (dk_at dksX0_equation_0 11 rfl rfl)
theorem dX0_equation_14 : decode cX0_equation 14 = .ok (.iconst (-1), 1) := dk_2 (dk_at dksX0_equation_0 14 rfl rfl)
theorem dX0_equation_15 : decode cX0_equation 15 = .ok (.ireturn, 1) := dk_172 (dk_at dksX0_equation_0 15 rfl rfl)
theorem dX0_equation_16 : decode cX0_equation 16 = .ok (.aload_n 0, 1) := dk_42 (dk_at dksX0_equation_0 16 rfl rfl)
theorem dX0_equation_17 : decode cX0_equation 17 = .ok (.getfield 127, 3) := dk_180 0 127 (dk_at dksX0_equation_0 17 rfl rfl)
theorem dX0_equation_20 : decode cX0_equation 20 = .ok (.bipush 6, 2) := dk_16 6 (dk_at dksX0_equation_0 20 rfl rfl)
theorem dX0_equation_22 : decode cX0_equation 22 = .ok (.if_icmp .ne 6, 3) := dk_160 0 6 (dk_at dksX0_equation_1 0 rfl rfl)
theorem dX0_equation_25 : decode cX0_equation 25 = .ok (.bipush (-2), 2) := dk_16 254 (dk_at dksX0_equation_1 3 rfl rfl)
theorem dX0_equation_27 : decode cX0_equation 27 = .ok (.ireturn, 1) := dk_172 (dk_at dksX0_equation_1 5 rfl rfl)
theorem dX0_equation_28 : decode cX0_equation 28 = .ok (.aload_n 0, 1) := dk_42 (dk_at dksX0_equation_1 6 rfl rfl)
theorem dX0_equation_29 : decode cX0_equation 29 = .ok (.getfield 72, 3) := dk_180 0 72 (dk_at dksX0_equation_1 7 rfl rfl)
theorem dX0_equation_32 : decode cX0_equation 32 = .ok (.aload_n 0, 1) := dk_42 (dk_at dksX0_equation_1 10 rfl rfl)
theorem dX0_equation_33 : decode cX0_equation 33 = .ok (.getfield 127, 3) := dk_180 0 127 (dk_at dksX0_equation_1 11 rfl rfl)
theorem dX0_equation_36 : decode cX0_equation 36 = .ok (.iload_n 1, 1) := dk_27 (dk_at dksX0_equation_1 14 rfl rfl)
theorem dX0_equation_37 : decode cX0_equation 37 = .ok (.aload_n 0, 1) := dk_42 (dk_at dksX0_equation_1 15 rfl rfl)
theorem dX0_equation_38 : decode cX0_equation 38 = .ok (.getfield 127, 3) := dk_180 0 127 (dk_at dksX0_equation_1 16 rfl rfl)
theorem dX0_equation_41 : decode cX0_equation 41 = .ok (.iload_n 2, 1) := dk_28 (dk_at dksX0_equation_1 19 rfl rfl)
theorem dX0_equation_42 : decode cX0_equation 42 = .ok (.invokestatic 400, 3) := dk_184 1 144 (dk_at dksX0_equation_1 20 rfl rfl)
theorem dX0_equation_45 : decode cX0_equation 45 = .ok (.aastore, 1) := dk_83 (dk_at dksX0_equation_1 23 rfl rfl)
theorem dX0_equation_46 : decode cX0_equation 46 = .ok (.aload_n 0, 1) := dk_42 (dk_at dksX0_equation_2 0 rfl rfl)
theorem dX0_equation_47 : decode cX0_equation 47 = .ok (.dup, 1) := dk_89 (dk_at dksX0_equation_2 1 rfl rfl)
theorem dX0_equation_48 : decode cX0_equation 48 = .ok (.getfield 127, 3) := dk_180 0 127 (dk_at dksX0_equation_2 2 rfl rfl)
theorem dX0_equation_51 : decode cX0_equation 51 = .ok (.iconst 1, 1) := dk_4 (dk_at dksX0_equation_2 5 rfl rfl)
theorem dX0_equation_52 : decode cX0_equation 52 = .ok (.iadd, 1) := dk_96 (dk_at dksX0_equation_2 6 rfl rfl)
theorem dX0_equation_53 : decode cX0_equation 53 = .ok (.putfield 127, 3) := dk_181 0 127 (dk_at dksX0_equation_2 7 rfl rfl)
theorem dX0_equation_56 : decode cX0_equation 56 = .ok (.aload_n 0, 1) := dk_42 (dk_at dksX0_equation_2 10 rfl rfl)
theorem dX0_equation_57 : decode cX0_equation 57 = .ok (.getfield 127, 3) := dk_180 0 127 (dk_at dksX0_equation_2 11 rfl rfl)
theorem dX0_equation_60 : decode cX0_equation 60 = .ok (.iconst 1, 1) := dk_4 (dk_at dksX0_equation_2 14 rfl rfl)
theorem dX0_equation_61 : decode cX0_equation 61 = .ok (.isub, 1) := dk_100 (dk_at dksX0_equation_2 15 rfl rfl)
theorem dX0_equation_62 : decode cX0_equation 62 = .ok (.ireturn, 1) := dk_172 (dk_at dksX0_equation_2 16 rfl rfl)
abbrev cX0_isKind : ByteArray := prog_1_method_7_code
def yX0_isKind : MethodName := ⟨RX0, "isKind", "(I)Z"⟩
def dkwX0_isKind_0 : List UInt8 := [26, 3, 16, 6, 184, 0, 130, 172]
abbrev dktX0_isKind_0 : List UInt8 := dkwX0_isKind_0 ++ []
theorem dksX0_isKind_0 : cX0_isKind.data.toList.drop 0 = dktX0_isKind_0 := by decide +kernel
theorem dX0_isKind_0 : decode cX0_isKind 0 = .ok (.iload_n 0, 1) := dk_26 (dk_at dksX0_isKind_0 0 rfl rfl)
theorem dX0_isKind_1 : decode cX0_isKind 1 = .ok (.iconst 0, 1) := dk_3 (dk_at dksX0_isKind_0 1 rfl rfl)
theorem dX0_isKind_2 : decode cX0_isKind 2 = .ok (.bipush 6, 2) := dk_16 6 (dk_at dksX0_isKind_0 2 rfl rfl)
theorem dX0_isKind_4 : decode cX0_isKind 4 = .ok (.invokestatic 130, 3) := dk_184 0 130 (dk_at dksX0_isKind_0 4 rfl rfl)
theorem dX0_isKind_7 : decode cX0_isKind 7 = .ok (.ireturn, 1) := dk_172 (dk_at dksX0_isKind_0 7 rfl rfl)
abbrev cX0_isShift : ByteArray := prog_1_method_8_code
def yX0_isShift : MethodName := ⟨RX0, "isShift", "(I)Z"⟩
def dkwX0_isShift_0 : List UInt8 := [26, 16, 254, 5, 184, 0, 130, 172]
abbrev dktX0_isShift_0 : List UInt8 := dkwX0_isShift_0 ++ []
theorem dksX0_isShift_0 : cX0_isShift.data.toList.drop 0 = dktX0_isShift_0 := by decide +kernel
theorem dX0_isShift_0 : decode cX0_isShift 0 = .ok (.iload_n 0, 1) := dk_26 (dk_at dksX0_isShift_0 0 rfl rfl)
theorem dX0_isShift_1 : decode cX0_isShift 1 = .ok (.bipush (-2), 2) := dk_16 254 (dk_at dksX0_isShift_0 1 rfl rfl)
theorem dX0_isShift_3 : decode cX0_isShift 3 = .ok (.iconst 2, 1) := dk_5 (dk_at dksX0_isShift_0 3 rfl rfl)
theorem dX0_isShift_4 : decode cX0_isShift 4 = .ok (.invokestatic 130, 3) := dk_184 0 130 (dk_at dksX0_isShift_0 4 rfl rfl)
theorem dX0_isShift_7 : decode cX0_isShift 7 = .ok (.ireturn, 1) := dk_172 (dk_at dksX0_isShift_0 7 rfl rfl)
abbrev cX0_made : ByteArray := prog_1_method_4_code
def yX0_made : MethodName := ⟨RX0, "made", "(III)LTwoSidedTables$Plain;"⟩
def dkwX0_made_4 : List UInt8 := [183, 0, 32, 176, 187, 0, 33, 89, 27, 28, 183, 0, 35, 176, 187, 0, 36, 89, 27, 28, 183, 0, 38, 176]
abbrev dktX0_made_4 : List UInt8 := dkwX0_made_4 ++ []
def dkwX0_made_3 : List UInt8 := [27, 28, 183, 0, 26, 176, 187, 0, 27, 89, 27, 28, 183, 0, 29, 176, 187, 0, 30, 89, 27, 28]
abbrev dktX0_made_3 : List UInt8 := dkwX0_made_3 ++ dktX0_made_4
def dkwX0_made_2 : List UInt8 := [187, 0, 15, 89, 27, 28, 183, 0, 17, 176, 187, 0, 21, 89, 27, 28, 183, 0, 23, 176, 187, 0, 24, 89]
abbrev dktX0_made_2 : List UInt8 := dkwX0_made_2 ++ dktX0_made_3
def dkwX0_made_1 : List UInt8 := [170, 0, 0, 0, 0, 0, 99, 0, 0, 0, 1, 0, 0, 0, 6, 0, 0, 0, 39, 0, 0, 0, 49, 0, 0, 0, 59, 0, 0, 0, 69, 0, 0, 0, 79, 0, 0, 0, 89]
abbrev dktX0_made_1 : List UInt8 := dkwX0_made_1 ++ dktX0_made_2
def dkwX0_made_0 : List UInt8 := [26]
abbrev dktX0_made_0 : List UInt8 := dkwX0_made_0 ++ dktX0_made_1
theorem dksX0_made_0 : cX0_made.data.toList.drop 0 = dktX0_made_0 := by decide +kernel
theorem dksX0_made_1 : cX0_made.data.toList.drop 1 = dktX0_made_1 := dk_seg dksX0_made_0 1 rfl rfl
theorem dksX0_made_2 : cX0_made.data.toList.drop 40 = dktX0_made_2 := dk_seg dksX0_made_1 39 rfl rfl
theorem dksX0_made_3 : cX0_made.data.toList.drop 64 = dktX0_made_3 := dk_seg dksX0_made_2 24 rfl rfl
theorem dksX0_made_4 : cX0_made.data.toList.drop 86 = dktX0_made_4 := dk_seg dksX0_made_3 22 rfl rfl
theorem dX0_made_0 : decode cX0_made 0 = .ok (.iload_n 0, 1) := dk_26 (dk_at dksX0_made_0 0 rfl rfl)
theorem dX0_made_1 : decode cX0_made 1 = .ok (.tableswitch 99 1 6 #[39, 49, 59, 69, 79, 89], 39) := by decide +kernel
theorem dX0_made_40 : decode cX0_made 40 = .ok (.new 15, 3) := dk_187 0 15 (dk_at dksX0_made_2 0 rfl rfl)
theorem dX0_made_43 : decode cX0_made 43 = .ok (.dup, 1) := dk_89 (dk_at dksX0_made_2 3 rfl rfl)
theorem dX0_made_44 : decode cX0_made 44 = .ok (.iload_n 1, 1) := dk_27 (dk_at dksX0_made_2 4 rfl rfl)
theorem dX0_made_45 : decode cX0_made 45 = .ok (.iload_n 2, 1) := dk_28 (dk_at dksX0_made_2 5 rfl rfl)
theorem dX0_made_46 : decode cX0_made 46 = .ok (.invokespecial 17, 3) := dk_183 0 17 (dk_at dksX0_made_2 6 rfl rfl)
theorem dX0_made_49 : decode cX0_made 49 = .ok (.areturn, 1) := dk_176 (dk_at dksX0_made_2 9 rfl rfl)
theorem dX0_made_50 : decode cX0_made 50 = .ok (.new 21, 3) := dk_187 0 21 (dk_at dksX0_made_2 10 rfl rfl)
theorem dX0_made_53 : decode cX0_made 53 = .ok (.dup, 1) := dk_89 (dk_at dksX0_made_2 13 rfl rfl)
theorem dX0_made_54 : decode cX0_made 54 = .ok (.iload_n 1, 1) := dk_27 (dk_at dksX0_made_2 14 rfl rfl)
theorem dX0_made_55 : decode cX0_made 55 = .ok (.iload_n 2, 1) := dk_28 (dk_at dksX0_made_2 15 rfl rfl)
theorem dX0_made_56 : decode cX0_made 56 = .ok (.invokespecial 23, 3) := dk_183 0 23 (dk_at dksX0_made_2 16 rfl rfl)
theorem dX0_made_59 : decode cX0_made 59 = .ok (.areturn, 1) := dk_176 (dk_at dksX0_made_2 19 rfl rfl)
theorem dX0_made_60 : decode cX0_made 60 = .ok (.new 24, 3) := dk_187 0 24 (dk_at dksX0_made_2 20 rfl rfl)
theorem dX0_made_63 : decode cX0_made 63 = .ok (.dup, 1) := dk_89 (dk_at dksX0_made_2 23 rfl rfl)
theorem dX0_made_64 : decode cX0_made 64 = .ok (.iload_n 1, 1) := dk_27 (dk_at dksX0_made_3 0 rfl rfl)
theorem dX0_made_65 : decode cX0_made 65 = .ok (.iload_n 2, 1) := dk_28 (dk_at dksX0_made_3 1 rfl rfl)
theorem dX0_made_66 : decode cX0_made 66 = .ok (.invokespecial 26, 3) := dk_183 0 26 (dk_at dksX0_made_3 2 rfl rfl)
theorem dX0_made_69 : decode cX0_made 69 = .ok (.areturn, 1) := dk_176 (dk_at dksX0_made_3 5 rfl rfl)
theorem dX0_made_70 : decode cX0_made 70 = .ok (.new 27, 3) := dk_187 0 27 (dk_at dksX0_made_3 6 rfl rfl)
theorem dX0_made_73 : decode cX0_made 73 = .ok (.dup, 1) := dk_89 (dk_at dksX0_made_3 9 rfl rfl)
theorem dX0_made_74 : decode cX0_made 74 = .ok (.iload_n 1, 1) := dk_27 (dk_at dksX0_made_3 10 rfl rfl)
theorem dX0_made_75 : decode cX0_made 75 = .ok (.iload_n 2, 1) := dk_28 (dk_at dksX0_made_3 11 rfl rfl)
theorem dX0_made_76 : decode cX0_made 76 = .ok (.invokespecial 29, 3) := dk_183 0 29 (dk_at dksX0_made_3 12 rfl rfl)
theorem dX0_made_79 : decode cX0_made 79 = .ok (.areturn, 1) := dk_176 (dk_at dksX0_made_3 15 rfl rfl)
theorem dX0_made_80 : decode cX0_made 80 = .ok (.new 30, 3) := dk_187 0 30 (dk_at dksX0_made_3 16 rfl rfl)
theorem dX0_made_83 : decode cX0_made 83 = .ok (.dup, 1) := dk_89 (dk_at dksX0_made_3 19 rfl rfl)
theorem dX0_made_84 : decode cX0_made 84 = .ok (.iload_n 1, 1) := dk_27 (dk_at dksX0_made_3 20 rfl rfl)
theorem dX0_made_85 : decode cX0_made 85 = .ok (.iload_n 2, 1) := dk_28 (dk_at dksX0_made_3 21 rfl rfl)
theorem dX0_made_86 : decode cX0_made 86 = .ok (.invokespecial 32, 3) := dk_183 0 32 (dk_at dksX0_made_4 0 rfl rfl)
theorem dX0_made_89 : decode cX0_made 89 = .ok (.areturn, 1) := dk_176 (dk_at dksX0_made_4 3 rfl rfl)
theorem dX0_made_90 : decode cX0_made 90 = .ok (.new 33, 3) := dk_187 0 33 (dk_at dksX0_made_4 4 rfl rfl)
theorem dX0_made_93 : decode cX0_made 93 = .ok (.dup, 1) := dk_89 (dk_at dksX0_made_4 7 rfl rfl)
theorem dX0_made_94 : decode cX0_made 94 = .ok (.iload_n 1, 1) := dk_27 (dk_at dksX0_made_4 8 rfl rfl)
theorem dX0_made_95 : decode cX0_made 95 = .ok (.iload_n 2, 1) := dk_28 (dk_at dksX0_made_4 9 rfl rfl)
theorem dX0_made_96 : decode cX0_made 96 = .ok (.invokespecial 35, 3) := dk_183 0 35 (dk_at dksX0_made_4 10 rfl rfl)
theorem dX0_made_99 : decode cX0_made 99 = .ok (.areturn, 1) := dk_176 (dk_at dksX0_made_4 13 rfl rfl)
theorem dX0_made_100 : decode cX0_made 100 = .ok (.new 36, 3) := dk_187 0 36 (dk_at dksX0_made_4 14 rfl rfl)
theorem dX0_made_103 : decode cX0_made 103 = .ok (.dup, 1) := dk_89 (dk_at dksX0_made_4 17 rfl rfl)
theorem dX0_made_104 : decode cX0_made 104 = .ok (.iload_n 1, 1) := dk_27 (dk_at dksX0_made_4 18 rfl rfl)
theorem dX0_made_105 : decode cX0_made 105 = .ok (.iload_n 2, 1) := dk_28 (dk_at dksX0_made_4 19 rfl rfl)
theorem dX0_made_106 : decode cX0_made 106 = .ok (.invokespecial 38, 3) := dk_183 0 38 (dk_at dksX0_made_4 20 rfl rfl)
theorem dX0_made_109 : decode cX0_made 109 = .ok (.areturn, 1) := dk_176 (dk_at dksX0_made_4 23 rfl rfl)
abbrev cX0_of : ByteArray := prog_1_method_58_code
def yX0_of : MethodName := ⟨RX0, "of", "(II)I"⟩
def dkwX0_of_8 : List UInt8 := [172]
abbrev dktX0_of_8 : List UInt8 := dkwX0_of_8 ++ []
def dkwX0_of_7 : List UInt8 := [184, 1, 161, 100, 172, 42, 45, 182, 1, 157, 172, 42, 45, 182, 1, 166, 153, 0, 7, 4, 167, 0, 4, 3]
abbrev dktX0_of_7 : List UInt8 := dkwX0_of_7 ++ dktX0_of_8
def dkwX0_of_6 : List UInt8 := [45, 42, 180, 0, 62, 180, 0, 134, 42, 180, 0, 62, 180, 0, 137, 182, 0, 151, 42, 45, 182, 1, 157]
abbrev dktX0_of_6 : List UInt8 := dkwX0_of_6 ++ dktX0_of_7
def dkwX0_of_5 : List UInt8 := [167, 0, 4, 3, 172, 45, 42, 180, 0, 62, 180, 0, 134, 42, 180, 0, 62, 180, 0, 137, 182, 0, 151, 172]
abbrev dktX0_of_5 : List UInt8 := dkwX0_of_5 ++ dktX0_of_6
def dkwX0_of_4 : List UInt8 := [45, 182, 1, 154, 172, 16, 10, 45, 182, 1, 47, 96, 172, 42, 45, 182, 1, 151, 153, 0, 7, 4]
abbrev dktX0_of_4 : List UInt8 := dkwX0_of_4 ++ dktX0_of_5
def dkwX0_of_3 : List UInt8 := [170, 0, 0, 0, 0, 0, 119, 0, 0, 0, 0, 0, 0, 0, 5, 0, 0, 0, 39, 0, 0, 0, 44, 0, 0, 0, 52, 0, 0, 0, 66, 0, 0, 0, 85, 0, 0, 0, 113]
abbrev dktX0_of_3 : List UInt8 := dkwX0_of_3 ++ dktX0_of_4
def dkwX0_of_2 : List UInt8 := [182, 1, 151, 154, 0, 6, 16, 252, 172, 28]
abbrev dktX0_of_2 : List UInt8 := dkwX0_of_2 ++ dktX0_of_3
def dkwX0_of_1 : List UInt8 := [27, 50, 78, 28, 6, 160, 0, 11, 42, 45, 182, 0, 147, 153, 0, 16, 28, 6, 164, 0, 14, 42, 45]
abbrev dktX0_of_1 : List UInt8 := dkwX0_of_1 ++ dktX0_of_2
def dkwX0_of_0 : List UInt8 := [42, 27, 182, 1, 148, 153, 0, 13, 28, 3, 16, 6, 184, 0, 130, 154, 0, 5, 2, 172, 42, 180, 0, 72]
abbrev dktX0_of_0 : List UInt8 := dkwX0_of_0 ++ dktX0_of_1
theorem dksX0_of_0 : cX0_of.data.toList.drop 0 = dktX0_of_0 := by decide +kernel
theorem dksX0_of_1 : cX0_of.data.toList.drop 24 = dktX0_of_1 := dk_seg dksX0_of_0 24 rfl rfl
theorem dksX0_of_2 : cX0_of.data.toList.drop 47 = dktX0_of_2 := dk_seg dksX0_of_1 23 rfl rfl
theorem dksX0_of_3 : cX0_of.data.toList.drop 57 = dktX0_of_3 := dk_seg dksX0_of_2 10 rfl rfl
theorem dksX0_of_4 : cX0_of.data.toList.drop 96 = dktX0_of_4 := dk_seg dksX0_of_3 39 rfl rfl
theorem dksX0_of_5 : cX0_of.data.toList.drop 118 = dktX0_of_5 := dk_seg dksX0_of_4 22 rfl rfl
theorem dksX0_of_6 : cX0_of.data.toList.drop 142 = dktX0_of_6 := dk_seg dksX0_of_5 24 rfl rfl
theorem dksX0_of_7 : cX0_of.data.toList.drop 165 = dktX0_of_7 := dk_seg dksX0_of_6 23 rfl rfl
theorem dksX0_of_8 : cX0_of.data.toList.drop 189 = dktX0_of_8 := dk_seg dksX0_of_7 24 rfl rfl
theorem dX0_of_0 : decode cX0_of 0 = .ok (.aload_n 0, 1) := dk_42 (dk_at dksX0_of_0 0 rfl rfl)
theorem dX0_of_1 : decode cX0_of 1 = .ok (.iload_n 1, 1) := dk_27 (dk_at dksX0_of_0 1 rfl rfl)
theorem dX0_of_2 : decode cX0_of 2 = .ok (.invokevirtual 404, 3) := dk_182 1 148 (dk_at dksX0_of_0 2 rfl rfl)
theorem dX0_of_5 : decode cX0_of 5 = .ok (.ifCond .eq 13, 3) := dk_153 0 13 (dk_at dksX0_of_0 5 rfl rfl)
theorem dX0_of_8 : decode cX0_of 8 = .ok (.iload_n 2, 1) := dk_28 (dk_at dksX0_of_0 8 rfl rfl)
theorem dX0_of_9 : decode cX0_of 9 = .ok (.iconst 0, 1) := dk_3 (dk_at dksX0_of_0 9 rfl rfl)
theorem dX0_of_10 : decode cX0_of 10 = .ok (.bipush 6, 2) := dk_16 6 (dk_at dksX0_of_0 10 rfl rfl)
theorem dX0_of_12 : decode cX0_of 12 = .ok (.invokestatic 130, 3) := dk_184 0 130 (dk_at dksX0_of_0 12 rfl rfl)
theorem dX0_of_15 : decode cX0_of 15 = .ok (.ifCond .ne 5, 3) := dk_154 0 5 (dk_at dksX0_of_0 15 rfl rfl)
theorem dX0_of_18 : decode cX0_of 18 = .ok (.iconst (-1), 1) := dk_2 (dk_at dksX0_of_0 18 rfl rfl)
theorem dX0_of_19 : decode cX0_of 19 = .ok (.ireturn, 1) := dk_172 (dk_at dksX0_of_0 19 rfl rfl)
theorem dX0_of_20 : decode cX0_of 20 = .ok (.aload_n 0, 1) := dk_42 (dk_at dksX0_of_0 20 rfl rfl)
theorem dX0_of_21 : decode cX0_of 21 = .ok (.getfield 72, 3) := dk_180 0 72 (dk_at dksX0_of_0 21 rfl rfl)
theorem dX0_of_24 : decode cX0_of 24 = .ok (.iload_n 1, 1) := dk_27 (dk_at dksX0_of_1 0 rfl rfl)
theorem dX0_of_25 : decode cX0_of 25 = .ok (.aaload, 1) := dk_50 (dk_at dksX0_of_1 1 rfl rfl)
theorem dX0_of_26 : decode cX0_of 26 = .ok (.astore_n 3, 1) := dk_78 (dk_at dksX0_of_1 2 rfl rfl)
theorem dX0_of_27 : decode cX0_of 27 = .ok (.iload_n 2, 1) := dk_28 (dk_at dksX0_of_1 3 rfl rfl)
theorem dX0_of_28 : decode cX0_of 28 = .ok (.iconst 3, 1) := dk_6 (dk_at dksX0_of_1 4 rfl rfl)
theorem dX0_of_29 : decode cX0_of 29 = .ok (.if_icmp .ne 11, 3) := dk_160 0 11 (dk_at dksX0_of_1 5 rfl rfl)
theorem dX0_of_32 : decode cX0_of 32 = .ok (.aload_n 0, 1) := dk_42 (dk_at dksX0_of_1 8 rfl rfl)
theorem dX0_of_33 : decode cX0_of 33 = .ok (.aload_n 3, 1) := dk_45 (dk_at dksX0_of_1 9 rfl rfl)
theorem dX0_of_34 : decode cX0_of 34 = .ok (.invokevirtual 147, 3) := dk_182 0 147 (dk_at dksX0_of_1 10 rfl rfl)
theorem dX0_of_37 : decode cX0_of 37 = .ok (.ifCond .eq 16, 3) := dk_153 0 16 (dk_at dksX0_of_1 13 rfl rfl)
theorem dX0_of_40 : decode cX0_of 40 = .ok (.iload_n 2, 1) := dk_28 (dk_at dksX0_of_1 16 rfl rfl)
theorem dX0_of_41 : decode cX0_of 41 = .ok (.iconst 3, 1) := dk_6 (dk_at dksX0_of_1 17 rfl rfl)
theorem dX0_of_42 : decode cX0_of 42 = .ok (.if_icmp .le 14, 3) := dk_164 0 14 (dk_at dksX0_of_1 18 rfl rfl)
theorem dX0_of_45 : decode cX0_of 45 = .ok (.aload_n 0, 1) := dk_42 (dk_at dksX0_of_1 21 rfl rfl)
theorem dX0_of_46 : decode cX0_of 46 = .ok (.aload_n 3, 1) := dk_45 (dk_at dksX0_of_1 22 rfl rfl)
theorem dX0_of_47 : decode cX0_of 47 = .ok (.invokevirtual 407, 3) := dk_182 1 151 (dk_at dksX0_of_2 0 rfl rfl)
theorem dX0_of_50 : decode cX0_of 50 = .ok (.ifCond .ne 6, 3) := dk_154 0 6 (dk_at dksX0_of_2 3 rfl rfl)
theorem dX0_of_53 : decode cX0_of 53 = .ok (.bipush (-4), 2) := dk_16 252 (dk_at dksX0_of_2 6 rfl rfl)
theorem dX0_of_55 : decode cX0_of 55 = .ok (.ireturn, 1) := dk_172 (dk_at dksX0_of_2 8 rfl rfl)
theorem dX0_of_56 : decode cX0_of 56 = .ok (.iload_n 2, 1) := dk_28 (dk_at dksX0_of_2 9 rfl rfl)
theorem dX0_of_57 : decode cX0_of 57 = .ok (.tableswitch 119 0 5 #[39, 44, 52, 66, 85, 113], 39) := by decide +kernel
theorem dX0_of_96 : decode cX0_of 96 = .ok (.aload_n 3, 1) := dk_45 (dk_at dksX0_of_4 0 rfl rfl)
theorem dX0_of_97 : decode cX0_of 97 = .ok (.invokevirtual 410, 3) := dk_182 1 154 (dk_at dksX0_of_4 1 rfl rfl)
theorem dX0_of_100 : decode cX0_of 100 = .ok (.ireturn, 1) := dk_172 (dk_at dksX0_of_4 4 rfl rfl)
theorem dX0_of_101 : decode cX0_of 101 = .ok (.bipush 10, 2) := dk_16 10 (dk_at dksX0_of_4 5 rfl rfl)
theorem dX0_of_103 : decode cX0_of 103 = .ok (.aload_n 3, 1) := dk_45 (dk_at dksX0_of_4 7 rfl rfl)
theorem dX0_of_104 : decode cX0_of 104 = .ok (.invokevirtual 303, 3) := dk_182 1 47 (dk_at dksX0_of_4 8 rfl rfl)
theorem dX0_of_107 : decode cX0_of 107 = .ok (.iadd, 1) := dk_96 (dk_at dksX0_of_4 11 rfl rfl)
theorem dX0_of_108 : decode cX0_of 108 = .ok (.ireturn, 1) := dk_172 (dk_at dksX0_of_4 12 rfl rfl)
theorem dX0_of_109 : decode cX0_of 109 = .ok (.aload_n 0, 1) := dk_42 (dk_at dksX0_of_4 13 rfl rfl)
theorem dX0_of_110 : decode cX0_of 110 = .ok (.aload_n 3, 1) := dk_45 (dk_at dksX0_of_4 14 rfl rfl)
theorem dX0_of_111 : decode cX0_of 111 = .ok (.invokevirtual 407, 3) := dk_182 1 151 (dk_at dksX0_of_4 15 rfl rfl)
theorem dX0_of_114 : decode cX0_of 114 = .ok (.ifCond .eq 7, 3) := dk_153 0 7 (dk_at dksX0_of_4 18 rfl rfl)
theorem dX0_of_117 : decode cX0_of 117 = .ok (.iconst 1, 1) := dk_4 (dk_at dksX0_of_4 21 rfl rfl)
theorem dX0_of_118 : decode cX0_of 118 = .ok (.goto 4, 3) := dk_167 0 4 (dk_at dksX0_of_5 0 rfl rfl)
theorem dX0_of_121 : decode cX0_of 121 = .ok (.iconst 0, 1) := dk_3 (dk_at dksX0_of_5 3 rfl rfl)
theorem dX0_of_122 : decode cX0_of 122 = .ok (.ireturn, 1) := dk_172 (dk_at dksX0_of_5 4 rfl rfl)
theorem dX0_of_123 : decode cX0_of 123 = .ok (.aload_n 3, 1) := dk_45 (dk_at dksX0_of_5 5 rfl rfl)
theorem dX0_of_124 : decode cX0_of 124 = .ok (.aload_n 0, 1) := dk_42 (dk_at dksX0_of_5 6 rfl rfl)
theorem dX0_of_125 : decode cX0_of 125 = .ok (.getfield 62, 3) := dk_180 0 62 (dk_at dksX0_of_5 7 rfl rfl)
theorem dX0_of_128 : decode cX0_of 128 = .ok (.getfield 134, 3) := dk_180 0 134 (dk_at dksX0_of_5 10 rfl rfl)
theorem dX0_of_131 : decode cX0_of 131 = .ok (.aload_n 0, 1) := dk_42 (dk_at dksX0_of_5 13 rfl rfl)
theorem dX0_of_132 : decode cX0_of 132 = .ok (.getfield 62, 3) := dk_180 0 62 (dk_at dksX0_of_5 14 rfl rfl)
theorem dX0_of_135 : decode cX0_of 135 = .ok (.getfield 137, 3) := dk_180 0 137 (dk_at dksX0_of_5 17 rfl rfl)
theorem dX0_of_138 : decode cX0_of 138 = .ok (.invokevirtual 151, 3) := dk_182 0 151 (dk_at dksX0_of_5 20 rfl rfl)
theorem dX0_of_141 : decode cX0_of 141 = .ok (.ireturn, 1) := dk_172 (dk_at dksX0_of_5 23 rfl rfl)
theorem dX0_of_142 : decode cX0_of 142 = .ok (.aload_n 3, 1) := dk_45 (dk_at dksX0_of_6 0 rfl rfl)
theorem dX0_of_143 : decode cX0_of 143 = .ok (.aload_n 0, 1) := dk_42 (dk_at dksX0_of_6 1 rfl rfl)
theorem dX0_of_144 : decode cX0_of 144 = .ok (.getfield 62, 3) := dk_180 0 62 (dk_at dksX0_of_6 2 rfl rfl)
theorem dX0_of_147 : decode cX0_of 147 = .ok (.getfield 134, 3) := dk_180 0 134 (dk_at dksX0_of_6 5 rfl rfl)
theorem dX0_of_150 : decode cX0_of 150 = .ok (.aload_n 0, 1) := dk_42 (dk_at dksX0_of_6 8 rfl rfl)
theorem dX0_of_151 : decode cX0_of 151 = .ok (.getfield 62, 3) := dk_180 0 62 (dk_at dksX0_of_6 9 rfl rfl)
theorem dX0_of_154 : decode cX0_of 154 = .ok (.getfield 137, 3) := dk_180 0 137 (dk_at dksX0_of_6 12 rfl rfl)
theorem dX0_of_157 : decode cX0_of 157 = .ok (.invokevirtual 151, 3) := dk_182 0 151 (dk_at dksX0_of_6 15 rfl rfl)
theorem dX0_of_160 : decode cX0_of 160 = .ok (.aload_n 0, 1) := dk_42 (dk_at dksX0_of_6 18 rfl rfl)
theorem dX0_of_161 : decode cX0_of 161 = .ok (.aload_n 3, 1) := dk_45 (dk_at dksX0_of_6 19 rfl rfl)
theorem dX0_of_162 : decode cX0_of 162 = .ok (.invokevirtual 413, 3) := dk_182 1 157 (dk_at dksX0_of_6 20 rfl rfl)
theorem dX0_of_165 : decode cX0_of 165 = .ok (.invokestatic 417, 3) := dk_184 1 161 (dk_at dksX0_of_7 0 rfl rfl)
theorem dX0_of_168 : decode cX0_of 168 = .ok (.isub, 1) := dk_100 (dk_at dksX0_of_7 3 rfl rfl)
theorem dX0_of_169 : decode cX0_of 169 = .ok (.ireturn, 1) := dk_172 (dk_at dksX0_of_7 4 rfl rfl)
theorem dX0_of_170 : decode cX0_of 170 = .ok (.aload_n 0, 1) := dk_42 (dk_at dksX0_of_7 5 rfl rfl)
theorem dX0_of_171 : decode cX0_of 171 = .ok (.aload_n 3, 1) := dk_45 (dk_at dksX0_of_7 6 rfl rfl)
theorem dX0_of_172 : decode cX0_of 172 = .ok (.invokevirtual 413, 3) := dk_182 1 157 (dk_at dksX0_of_7 7 rfl rfl)
theorem dX0_of_175 : decode cX0_of 175 = .ok (.ireturn, 1) := dk_172 (dk_at dksX0_of_7 10 rfl rfl)
theorem dX0_of_176 : decode cX0_of 176 = .ok (.aload_n 0, 1) := dk_42 (dk_at dksX0_of_7 11 rfl rfl)
theorem dX0_of_177 : decode cX0_of 177 = .ok (.aload_n 3, 1) := dk_45 (dk_at dksX0_of_7 12 rfl rfl)
theorem dX0_of_178 : decode cX0_of 178 = .ok (.invokevirtual 422, 3) := dk_182 1 166 (dk_at dksX0_of_7 13 rfl rfl)
theorem dX0_of_181 : decode cX0_of 181 = .ok (.ifCond .eq 7, 3) := dk_153 0 7 (dk_at dksX0_of_7 16 rfl rfl)
theorem dX0_of_184 : decode cX0_of 184 = .ok (.iconst 1, 1) := dk_4 (dk_at dksX0_of_7 19 rfl rfl)
theorem dX0_of_185 : decode cX0_of 185 = .ok (.goto 4, 3) := dk_167 0 4 (dk_at dksX0_of_7 20 rfl rfl)
theorem dX0_of_188 : decode cX0_of 188 = .ok (.iconst 0, 1) := dk_3 (dk_at dksX0_of_7 23 rfl rfl)
theorem dX0_of_189 : decode cX0_of 189 = .ok (.ireturn, 1) := dk_172 (dk_at dksX0_of_8 0 rfl rfl)
abbrev cX0_isEquation : ByteArray := prog_1_method_6_code
def yX0_isEquation : MethodName := ⟨RX0, "isEquation", "(I)Z"⟩
def dkwX0_isEquation_0 : List UInt8 := [27, 3, 42, 180, 0, 127, 4, 100, 184, 0, 130, 172]
abbrev dktX0_isEquation_0 : List UInt8 := dkwX0_isEquation_0 ++ []
theorem dksX0_isEquation_0 : cX0_isEquation.data.toList.drop 0 = dktX0_isEquation_0 := by decide +kernel
theorem dX0_isEquation_0 : decode cX0_isEquation 0 = .ok (.iload_n 1, 1) := dk_27 (dk_at dksX0_isEquation_0 0 rfl rfl)
theorem dX0_isEquation_1 : decode cX0_isEquation 1 = .ok (.iconst 0, 1) := dk_3 (dk_at dksX0_isEquation_0 1 rfl rfl)
theorem dX0_isEquation_2 : decode cX0_isEquation 2 = .ok (.aload_n 0, 1) := dk_42 (dk_at dksX0_isEquation_0 2 rfl rfl)
theorem dX0_isEquation_3 : decode cX0_isEquation 3 = .ok (.getfield 127, 3) := dk_180 0 127 (dk_at dksX0_isEquation_0 3 rfl rfl)
theorem dX0_isEquation_6 : decode cX0_isEquation 6 = .ok (.iconst 1, 1) := dk_4 (dk_at dksX0_isEquation_0 6 rfl rfl)
theorem dX0_isEquation_7 : decode cX0_isEquation 7 = .ok (.isub, 1) := dk_100 (dk_at dksX0_isEquation_0 7 rfl rfl)
theorem dX0_isEquation_8 : decode cX0_isEquation 8 = .ok (.invokestatic 130, 3) := dk_184 0 130 (dk_at dksX0_isEquation_0 8 rfl rfl)
theorem dX0_isEquation_11 : decode cX0_isEquation 11 = .ok (.ireturn, 1) := dk_172 (dk_at dksX0_isEquation_0 11 rfl rfl)
abbrev cX0_mayStand : ByteArray := prog_1_method_12_code
def yX0_mayStand : MethodName := ⟨RX0, "mayStand", "(LTwoSidedTables$Plain;)Z"⟩
def dkwX0_mayStand_0 : List UInt8 := [42, 182, 0, 140, 154, 0, 10, 43, 182, 0, 144, 154, 0, 7, 4, 167, 0, 4, 3, 172]
abbrev dktX0_mayStand_0 : List UInt8 := dkwX0_mayStand_0 ++ []
theorem dksX0_mayStand_0 : cX0_mayStand.data.toList.drop 0 = dktX0_mayStand_0 := by decide +kernel
theorem dX0_mayStand_0 : decode cX0_mayStand 0 = .ok (.aload_n 0, 1) := dk_42 (dk_at dksX0_mayStand_0 0 rfl rfl)
theorem dX0_mayStand_1 : decode cX0_mayStand 1 = .ok (.invokevirtual 140, 3) := dk_182 0 140 (dk_at dksX0_mayStand_0 1 rfl rfl)
theorem dX0_mayStand_4 : decode cX0_mayStand 4 = .ok (.ifCond .ne 10, 3) := dk_154 0 10 (dk_at dksX0_mayStand_0 4 rfl rfl)
theorem dX0_mayStand_7 : decode cX0_mayStand 7 = .ok (.aload_n 1, 1) := dk_43 (dk_at dksX0_mayStand_0 7 rfl rfl)
theorem dX0_mayStand_8 : decode cX0_mayStand 8 = .ok (.invokevirtual 144, 3) := dk_182 0 144 (dk_at dksX0_mayStand_0 8 rfl rfl)
theorem dX0_mayStand_11 : decode cX0_mayStand 11 = .ok (.ifCond .ne 7, 3) := dk_154 0 7 (dk_at dksX0_mayStand_0 11 rfl rfl)
theorem dX0_mayStand_14 : decode cX0_mayStand 14 = .ok (.iconst 1, 1) := dk_4 (dk_at dksX0_mayStand_0 14 rfl rfl)
theorem dX0_mayStand_15 : decode cX0_mayStand 15 = .ok (.goto 4, 3) := dk_167 0 4 (dk_at dksX0_mayStand_0 15 rfl rfl)
theorem dX0_mayStand_18 : decode cX0_mayStand 18 = .ok (.iconst 0, 1) := dk_3 (dk_at dksX0_mayStand_0 18 rfl rfl)
theorem dX0_mayStand_19 : decode cX0_mayStand 19 = .ok (.ireturn, 1) := dk_172 (dk_at dksX0_mayStand_0 19 rfl rfl)
abbrev cX0_fits : ByteArray := prog_1_method_13_code
def yX0_fits : MethodName := ⟨RX0, "fits", "(LTwoSidedTables$Plain;)Z"⟩
def dkwX0_fits_1 : List UInt8 := [182, 0, 151, 16, 6, 163, 0, 7, 4, 167, 0, 4, 3, 172]
abbrev dktX0_fits_1 : List UInt8 := dkwX0_fits_1 ++ []
def dkwX0_fits_0 : List UInt8 := [42, 43, 182, 0, 147, 153, 0, 30, 43, 42, 180, 0, 62, 180, 0, 134, 42, 180, 0, 62, 180, 0, 137]
abbrev dktX0_fits_0 : List UInt8 := dkwX0_fits_0 ++ dktX0_fits_1
theorem dksX0_fits_0 : cX0_fits.data.toList.drop 0 = dktX0_fits_0 := by decide +kernel
theorem dksX0_fits_1 : cX0_fits.data.toList.drop 23 = dktX0_fits_1 := dk_seg dksX0_fits_0 23 rfl rfl
theorem dX0_fits_0 : decode cX0_fits 0 = .ok (.aload_n 0, 1) := dk_42 (dk_at dksX0_fits_0 0 rfl rfl)
theorem dX0_fits_1 : decode cX0_fits 1 = .ok (.aload_n 1, 1) := dk_43 (dk_at dksX0_fits_0 1 rfl rfl)
theorem dX0_fits_2 : decode cX0_fits 2 = .ok (.invokevirtual 147, 3) := dk_182 0 147 (dk_at dksX0_fits_0 2 rfl rfl)
theorem dX0_fits_5 : decode cX0_fits 5 = .ok (.ifCond .eq 30, 3) := dk_153 0 30 (dk_at dksX0_fits_0 5 rfl rfl)
theorem dX0_fits_8 : decode cX0_fits 8 = .ok (.aload_n 1, 1) := dk_43 (dk_at dksX0_fits_0 8 rfl rfl)
theorem dX0_fits_9 : decode cX0_fits 9 = .ok (.aload_n 0, 1) := dk_42 (dk_at dksX0_fits_0 9 rfl rfl)
theorem dX0_fits_10 : decode cX0_fits 10 = .ok (.getfield 62, 3) := dk_180 0 62 (dk_at dksX0_fits_0 10 rfl rfl)
theorem dX0_fits_13 : decode cX0_fits 13 = .ok (.getfield 134, 3) := dk_180 0 134 (dk_at dksX0_fits_0 13 rfl rfl)
theorem dX0_fits_16 : decode cX0_fits 16 = .ok (.aload_n 0, 1) := dk_42 (dk_at dksX0_fits_0 16 rfl rfl)
theorem dX0_fits_17 : decode cX0_fits 17 = .ok (.getfield 62, 3) := dk_180 0 62 (dk_at dksX0_fits_0 17 rfl rfl)
theorem dX0_fits_20 : decode cX0_fits 20 = .ok (.getfield 137, 3) := dk_180 0 137 (dk_at dksX0_fits_0 20 rfl rfl)
theorem dX0_fits_23 : decode cX0_fits 23 = .ok (.invokevirtual 151, 3) := dk_182 0 151 (dk_at dksX0_fits_1 0 rfl rfl)
theorem dX0_fits_26 : decode cX0_fits 26 = .ok (.bipush 6, 2) := dk_16 6 (dk_at dksX0_fits_1 3 rfl rfl)
theorem dX0_fits_28 : decode cX0_fits 28 = .ok (.if_icmp .gt 7, 3) := dk_163 0 7 (dk_at dksX0_fits_1 5 rfl rfl)
theorem dX0_fits_31 : decode cX0_fits 31 = .ok (.iconst 1, 1) := dk_4 (dk_at dksX0_fits_1 8 rfl rfl)
theorem dX0_fits_32 : decode cX0_fits 32 = .ok (.goto 4, 3) := dk_167 0 4 (dk_at dksX0_fits_1 9 rfl rfl)
theorem dX0_fits_35 : decode cX0_fits 35 = .ok (.iconst 0, 1) := dk_3 (dk_at dksX0_fits_1 12 rfl rfl)
theorem dX0_fits_36 : decode cX0_fits 36 = .ok (.ireturn, 1) := dk_172 (dk_at dksX0_fits_1 13 rfl rfl)
abbrev cX0_freeSet : ByteArray := prog_1_method_57_code
def yX0_freeSet : MethodName := ⟨RX0, "freeSet", "(LTwoSidedTables$Plain;)I"⟩
def dkwX0_freeSet_2 : List UInt8 := [172]
abbrev dktX0_freeSet_2 : List UInt8 := dkwX0_freeSet_2 ++ []
def dkwX0_freeSet_1 : List UInt8 := [180, 0, 103, 29, 46, 156, 0, 9, 4, 29, 120, 167, 0, 4, 3, 128, 61, 132, 3, 1, 167, 255, 226, 28]
abbrev dktX0_freeSet_1 : List UInt8 := dkwX0_freeSet_1 ++ dktX0_freeSet_2
def dkwX0_freeSet_0 : List UInt8 := [42, 43, 182, 1, 98, 42, 182, 1, 101, 3, 61, 3, 62, 29, 42, 180, 1, 36, 162, 0, 28, 28, 42]
abbrev dktX0_freeSet_0 : List UInt8 := dkwX0_freeSet_0 ++ dktX0_freeSet_1
theorem dksX0_freeSet_0 : cX0_freeSet.data.toList.drop 0 = dktX0_freeSet_0 := by decide +kernel
theorem dksX0_freeSet_1 : cX0_freeSet.data.toList.drop 23 = dktX0_freeSet_1 := dk_seg dksX0_freeSet_0 23 rfl rfl
theorem dksX0_freeSet_2 : cX0_freeSet.data.toList.drop 47 = dktX0_freeSet_2 := dk_seg dksX0_freeSet_1 24 rfl rfl
theorem dX0_freeSet_0 : decode cX0_freeSet 0 = .ok (.aload_n 0, 1) := dk_42 (dk_at dksX0_freeSet_0 0 rfl rfl)
theorem dX0_freeSet_1 : decode cX0_freeSet 1 = .ok (.aload_n 1, 1) := dk_43 (dk_at dksX0_freeSet_0 1 rfl rfl)
theorem dX0_freeSet_2 : decode cX0_freeSet 2 = .ok (.invokevirtual 354, 3) := dk_182 1 98 (dk_at dksX0_freeSet_0 2 rfl rfl)
theorem dX0_freeSet_5 : decode cX0_freeSet 5 = .ok (.aload_n 0, 1) := dk_42 (dk_at dksX0_freeSet_0 5 rfl rfl)
theorem dX0_freeSet_6 : decode cX0_freeSet 6 = .ok (.invokevirtual 357, 3) := dk_182 1 101 (dk_at dksX0_freeSet_0 6 rfl rfl)
theorem dX0_freeSet_9 : decode cX0_freeSet 9 = .ok (.iconst 0, 1) := dk_3 (dk_at dksX0_freeSet_0 9 rfl rfl)
theorem dX0_freeSet_10 : decode cX0_freeSet 10 = .ok (.istore_n 2, 1) := dk_61 (dk_at dksX0_freeSet_0 10 rfl rfl)
theorem dX0_freeSet_11 : decode cX0_freeSet 11 = .ok (.iconst 0, 1) := dk_3 (dk_at dksX0_freeSet_0 11 rfl rfl)
theorem dX0_freeSet_12 : decode cX0_freeSet 12 = .ok (.istore_n 3, 1) := dk_62 (dk_at dksX0_freeSet_0 12 rfl rfl)
theorem dX0_freeSet_13 : decode cX0_freeSet 13 = .ok (.iload_n 3, 1) := dk_29 (dk_at dksX0_freeSet_0 13 rfl rfl)
theorem dX0_freeSet_14 : decode cX0_freeSet 14 = .ok (.aload_n 0, 1) := dk_42 (dk_at dksX0_freeSet_0 14 rfl rfl)
theorem dX0_freeSet_15 : decode cX0_freeSet 15 = .ok (.getfield 292, 3) := dk_180 1 36 (dk_at dksX0_freeSet_0 15 rfl rfl)
theorem dX0_freeSet_18 : decode cX0_freeSet 18 = .ok (.if_icmp .ge 28, 3) := dk_162 0 28 (dk_at dksX0_freeSet_0 18 rfl rfl)
theorem dX0_freeSet_21 : decode cX0_freeSet 21 = .ok (.iload_n 2, 1) := dk_28 (dk_at dksX0_freeSet_0 21 rfl rfl)
theorem dX0_freeSet_22 : decode cX0_freeSet 22 = .ok (.aload_n 0, 1) := dk_42 (dk_at dksX0_freeSet_0 22 rfl rfl)
theorem dX0_freeSet_23 : decode cX0_freeSet 23 = .ok (.getfield 103, 3) := dk_180 0 103 (dk_at dksX0_freeSet_1 0 rfl rfl)
theorem dX0_freeSet_26 : decode cX0_freeSet 26 = .ok (.iload_n 3, 1) := dk_29 (dk_at dksX0_freeSet_1 3 rfl rfl)
theorem dX0_freeSet_27 : decode cX0_freeSet 27 = .ok (.iaload, 1) := dk_46 (dk_at dksX0_freeSet_1 4 rfl rfl)
theorem dX0_freeSet_28 : decode cX0_freeSet 28 = .ok (.ifCond .ge 9, 3) := dk_156 0 9 (dk_at dksX0_freeSet_1 5 rfl rfl)
theorem dX0_freeSet_31 : decode cX0_freeSet 31 = .ok (.iconst 1, 1) := dk_4 (dk_at dksX0_freeSet_1 8 rfl rfl)
theorem dX0_freeSet_32 : decode cX0_freeSet 32 = .ok (.iload_n 3, 1) := dk_29 (dk_at dksX0_freeSet_1 9 rfl rfl)
theorem dX0_freeSet_33 : decode cX0_freeSet 33 = .ok (.ishl, 1) := dk_120 (dk_at dksX0_freeSet_1 10 rfl rfl)
theorem dX0_freeSet_34 : decode cX0_freeSet 34 = .ok (.goto 4, 3) := dk_167 0 4 (dk_at dksX0_freeSet_1 11 rfl rfl)
theorem dX0_freeSet_37 : decode cX0_freeSet 37 = .ok (.iconst 0, 1) := dk_3 (dk_at dksX0_freeSet_1 14 rfl rfl)
theorem dX0_freeSet_38 : decode cX0_freeSet 38 = .ok (.ior, 1) := dk_128 (dk_at dksX0_freeSet_1 15 rfl rfl)
theorem dX0_freeSet_39 : decode cX0_freeSet 39 = .ok (.istore_n 2, 1) := dk_61 (dk_at dksX0_freeSet_1 16 rfl rfl)
theorem dX0_freeSet_40 : decode cX0_freeSet 40 = .ok (.iinc 3 1, 3) := dk_132 3 1 (dk_at dksX0_freeSet_1 17 rfl rfl)
theorem dX0_freeSet_43 : decode cX0_freeSet 43 = .ok (.goto (-30), 3) := dk_167 255 226 (dk_at dksX0_freeSet_1 20 rfl rfl)
theorem dX0_freeSet_46 : decode cX0_freeSet 46 = .ok (.iload_n 2, 1) := dk_28 (dk_at dksX0_freeSet_1 23 rfl rfl)
theorem dX0_freeSet_47 : decode cX0_freeSet 47 = .ok (.ireturn, 1) := dk_172 (dk_at dksX0_freeSet_2 0 rfl rfl)
abbrev cX0_laysOut : ByteArray := prog_1_method_44_code
def yX0_laysOut : MethodName := ⟨RX0, "laysOut", "(LTwoSidedTables$Plain;)V"⟩
def dkwX0_laysOut_0 : List UInt8 := [42, 43, 3, 182, 1, 69, 177]
abbrev dktX0_laysOut_0 : List UInt8 := dkwX0_laysOut_0 ++ []
theorem dksX0_laysOut_0 : cX0_laysOut.data.toList.drop 0 = dktX0_laysOut_0 := by decide +kernel
theorem dX0_laysOut_0 : decode cX0_laysOut 0 = .ok (.aload_n 0, 1) := dk_42 (dk_at dksX0_laysOut_0 0 rfl rfl)
theorem dX0_laysOut_1 : decode cX0_laysOut 1 = .ok (.aload_n 1, 1) := dk_43 (dk_at dksX0_laysOut_0 1 rfl rfl)
theorem dX0_laysOut_2 : decode cX0_laysOut 2 = .ok (.iconst 0, 1) := dk_3 (dk_at dksX0_laysOut_0 2 rfl rfl)
theorem dX0_laysOut_3 : decode cX0_laysOut 3 = .ok (.invokevirtual 325, 3) := dk_182 1 69 (dk_at dksX0_laysOut_0 3 rfl rfl)
theorem dX0_laysOut_6 : decode cX0_laysOut 6 = .ok (.return_, 1) := dk_177 (dk_at dksX0_laysOut_0 6 rfl rfl)
abbrev cX0_laysOut_2 : ByteArray := prog_1_method_43_code
def yX0_laysOut_2 : MethodName := ⟨RX0, "laysOut", "(LTwoSidedTables$Plain;I)V"⟩
def dkwX0_laysOut_2_5 : List UInt8 := [29, 21, 4, 182, 0, 174, 80, 132, 4, 1, 167, 255, 187, 132, 3, 1, 167, 255, 167, 177]
abbrev dktX0_laysOut_2_5 : List UInt8 := dkwX0_laysOut_2_5 ++ []
def dkwX0_laysOut_2_4 : List UInt8 := [182, 1, 63, 42, 180, 0, 99, 16, 10, 21, 5, 104, 42, 180, 1, 36, 96, 42, 180, 0, 62, 180, 1, 67]
abbrev dktX0_laysOut_2_4 : List UInt8 := dkwX0_laysOut_2_4 ++ dktX0_laysOut_2_5
def dkwX0_laysOut_2_3 : List UInt8 := [180, 0, 62, 180, 0, 137, 29, 28, 100, 104, 21, 4, 96, 54, 5, 42, 43, 21, 5, 29, 21, 4]
abbrev dktX0_laysOut_2_3 : List UInt8 := dkwX0_laysOut_2_3 ++ dktX0_laysOut_2_4
def dkwX0_laysOut_2_2 : List UInt8 := [180, 0, 134, 162, 0, 84, 3, 54, 4, 21, 4, 42, 180, 0, 62, 180, 0, 137, 162, 0, 63, 42]
abbrev dktX0_laysOut_2_2 : List UInt8 := dkwX0_laysOut_2_2 ++ dktX0_laysOut_2_3
def dkwX0_laysOut_2_1 : List UInt8 := [180, 0, 134, 42, 180, 0, 62, 180, 0, 137, 182, 0, 151, 182, 1, 60, 28, 62, 29, 42, 180, 0, 62]
abbrev dktX0_laysOut_2_1 : List UInt8 := dkwX0_laysOut_2_1 ++ dktX0_laysOut_2_2
def dkwX0_laysOut_2_0 : List UInt8 := [42, 42, 180, 0, 62, 180, 0, 134, 28, 100, 42, 180, 0, 62, 180, 0, 137, 104, 43, 42, 180, 0, 62]
abbrev dktX0_laysOut_2_0 : List UInt8 := dkwX0_laysOut_2_0 ++ dktX0_laysOut_2_1
theorem dksX0_laysOut_2_0 : cX0_laysOut_2.data.toList.drop 0 = dktX0_laysOut_2_0 := by decide +kernel
theorem dksX0_laysOut_2_1 : cX0_laysOut_2.data.toList.drop 23 = dktX0_laysOut_2_1 := dk_seg dksX0_laysOut_2_0 23 rfl rfl
theorem dksX0_laysOut_2_2 : cX0_laysOut_2.data.toList.drop 46 = dktX0_laysOut_2_2 := dk_seg dksX0_laysOut_2_1 23 rfl rfl
theorem dksX0_laysOut_2_3 : cX0_laysOut_2.data.toList.drop 68 = dktX0_laysOut_2_3 := dk_seg dksX0_laysOut_2_2 22 rfl rfl
theorem dksX0_laysOut_2_4 : cX0_laysOut_2.data.toList.drop 90 = dktX0_laysOut_2_4 := dk_seg dksX0_laysOut_2_3 22 rfl rfl
theorem dksX0_laysOut_2_5 : cX0_laysOut_2.data.toList.drop 114 = dktX0_laysOut_2_5 := dk_seg dksX0_laysOut_2_4 24 rfl rfl
theorem dX0_laysOut_2_0 : decode cX0_laysOut_2 0 = .ok (.aload_n 0, 1) := dk_42 (dk_at dksX0_laysOut_2_0 0 rfl rfl)
theorem dX0_laysOut_2_1 : decode cX0_laysOut_2 1 = .ok (.aload_n 0, 1) := dk_42 (dk_at dksX0_laysOut_2_0 1 rfl rfl)
theorem dX0_laysOut_2_2 : decode cX0_laysOut_2 2 = .ok (.getfield 62, 3) := dk_180 0 62 (dk_at dksX0_laysOut_2_0 2 rfl rfl)
theorem dX0_laysOut_2_5 : decode cX0_laysOut_2 5 = .ok (.getfield 134, 3) := dk_180 0 134 (dk_at dksX0_laysOut_2_0 5 rfl rfl)
theorem dX0_laysOut_2_8 : decode cX0_laysOut_2 8 = .ok (.iload_n 2, 1) := dk_28 (dk_at dksX0_laysOut_2_0 8 rfl rfl)
theorem dX0_laysOut_2_9 : decode cX0_laysOut_2 9 = .ok (.isub, 1) := dk_100 (dk_at dksX0_laysOut_2_0 9 rfl rfl)
theorem dX0_laysOut_2_10 : decode cX0_laysOut_2 10 = .ok (.aload_n 0, 1) := dk_42 (dk_at dksX0_laysOut_2_0 10 rfl rfl)
theorem dX0_laysOut_2_11 : decode cX0_laysOut_2 11 = .ok (.getfield 62, 3) := dk_180 0 62 (dk_at dksX0_laysOut_2_0 11 rfl rfl)
theorem dX0_laysOut_2_14 : decode cX0_laysOut_2 14 = .ok (.getfield 137, 3) := dk_180 0 137 (dk_at dksX0_laysOut_2_0 14 rfl rfl)
theorem dX0_laysOut_2_17 : decode cX0_laysOut_2 17 = .ok (.imul, 1) := dk_104 (dk_at dksX0_laysOut_2_0 17 rfl rfl)
theorem dX0_laysOut_2_18 : decode cX0_laysOut_2 18 = .ok (.aload_n 1, 1) := dk_43 (dk_at dksX0_laysOut_2_0 18 rfl rfl)
theorem dX0_laysOut_2_19 : decode cX0_laysOut_2 19 = .ok (.aload_n 0, 1) := dk_42 (dk_at dksX0_laysOut_2_0 19 rfl rfl)
theorem dX0_laysOut_2_20 : decode cX0_laysOut_2 20 = .ok (.getfield 62, 3) := dk_180 0 62 (dk_at dksX0_laysOut_2_0 20 rfl rfl)
theorem dX0_laysOut_2_23 : decode cX0_laysOut_2 23 = .ok (.getfield 134, 3) := dk_180 0 134 (dk_at dksX0_laysOut_2_1 0 rfl rfl)
theorem dX0_laysOut_2_26 : decode cX0_laysOut_2 26 = .ok (.aload_n 0, 1) := dk_42 (dk_at dksX0_laysOut_2_1 3 rfl rfl)
theorem dX0_laysOut_2_27 : decode cX0_laysOut_2 27 = .ok (.getfield 62, 3) := dk_180 0 62 (dk_at dksX0_laysOut_2_1 4 rfl rfl)
theorem dX0_laysOut_2_30 : decode cX0_laysOut_2 30 = .ok (.getfield 137, 3) := dk_180 0 137 (dk_at dksX0_laysOut_2_1 7 rfl rfl)
theorem dX0_laysOut_2_33 : decode cX0_laysOut_2 33 = .ok (.invokevirtual 151, 3) := dk_182 0 151 (dk_at dksX0_laysOut_2_1 10 rfl rfl)
theorem dX0_laysOut_2_36 : decode cX0_laysOut_2 36 = .ok (.invokevirtual 316, 3) := dk_182 1 60 (dk_at dksX0_laysOut_2_1 13 rfl rfl)
theorem dX0_laysOut_2_39 : decode cX0_laysOut_2 39 = .ok (.iload_n 2, 1) := dk_28 (dk_at dksX0_laysOut_2_1 16 rfl rfl)
theorem dX0_laysOut_2_40 : decode cX0_laysOut_2 40 = .ok (.istore_n 3, 1) := dk_62 (dk_at dksX0_laysOut_2_1 17 rfl rfl)
theorem dX0_laysOut_2_41 : decode cX0_laysOut_2 41 = .ok (.iload_n 3, 1) := dk_29 (dk_at dksX0_laysOut_2_1 18 rfl rfl)
theorem dX0_laysOut_2_42 : decode cX0_laysOut_2 42 = .ok (.aload_n 0, 1) := dk_42 (dk_at dksX0_laysOut_2_1 19 rfl rfl)
theorem dX0_laysOut_2_43 : decode cX0_laysOut_2 43 = .ok (.getfield 62, 3) := dk_180 0 62 (dk_at dksX0_laysOut_2_1 20 rfl rfl)
theorem dX0_laysOut_2_46 : decode cX0_laysOut_2 46 = .ok (.getfield 134, 3) := dk_180 0 134 (dk_at dksX0_laysOut_2_2 0 rfl rfl)
theorem dX0_laysOut_2_49 : decode cX0_laysOut_2 49 = .ok (.if_icmp .ge 84, 3) := dk_162 0 84 (dk_at dksX0_laysOut_2_2 3 rfl rfl)
theorem dX0_laysOut_2_52 : decode cX0_laysOut_2 52 = .ok (.iconst 0, 1) := dk_3 (dk_at dksX0_laysOut_2_2 6 rfl rfl)
theorem dX0_laysOut_2_53 : decode cX0_laysOut_2 53 = .ok (.istore 4, 2) := dk_54 4 (dk_at dksX0_laysOut_2_2 7 rfl rfl)
theorem dX0_laysOut_2_55 : decode cX0_laysOut_2 55 = .ok (.iload 4, 2) := dk_21 4 (dk_at dksX0_laysOut_2_2 9 rfl rfl)
theorem dX0_laysOut_2_57 : decode cX0_laysOut_2 57 = .ok (.aload_n 0, 1) := dk_42 (dk_at dksX0_laysOut_2_2 11 rfl rfl)
theorem dX0_laysOut_2_58 : decode cX0_laysOut_2 58 = .ok (.getfield 62, 3) := dk_180 0 62 (dk_at dksX0_laysOut_2_2 12 rfl rfl)
theorem dX0_laysOut_2_61 : decode cX0_laysOut_2 61 = .ok (.getfield 137, 3) := dk_180 0 137 (dk_at dksX0_laysOut_2_2 15 rfl rfl)
theorem dX0_laysOut_2_64 : decode cX0_laysOut_2 64 = .ok (.if_icmp .ge 63, 3) := dk_162 0 63 (dk_at dksX0_laysOut_2_2 18 rfl rfl)
theorem dX0_laysOut_2_67 : decode cX0_laysOut_2 67 = .ok (.aload_n 0, 1) := dk_42 (dk_at dksX0_laysOut_2_2 21 rfl rfl)
theorem dX0_laysOut_2_68 : decode cX0_laysOut_2 68 = .ok (.getfield 62, 3) := dk_180 0 62 (dk_at dksX0_laysOut_2_3 0 rfl rfl)
theorem dX0_laysOut_2_71 : decode cX0_laysOut_2 71 = .ok (.getfield 137, 3) := dk_180 0 137 (dk_at dksX0_laysOut_2_3 3 rfl rfl)
theorem dX0_laysOut_2_74 : decode cX0_laysOut_2 74 = .ok (.iload_n 3, 1) := dk_29 (dk_at dksX0_laysOut_2_3 6 rfl rfl)
theorem dX0_laysOut_2_75 : decode cX0_laysOut_2 75 = .ok (.iload_n 2, 1) := dk_28 (dk_at dksX0_laysOut_2_3 7 rfl rfl)
theorem dX0_laysOut_2_76 : decode cX0_laysOut_2 76 = .ok (.isub, 1) := dk_100 (dk_at dksX0_laysOut_2_3 8 rfl rfl)
theorem dX0_laysOut_2_77 : decode cX0_laysOut_2 77 = .ok (.imul, 1) := dk_104 (dk_at dksX0_laysOut_2_3 9 rfl rfl)
theorem dX0_laysOut_2_78 : decode cX0_laysOut_2 78 = .ok (.iload 4, 2) := dk_21 4 (dk_at dksX0_laysOut_2_3 10 rfl rfl)
theorem dX0_laysOut_2_80 : decode cX0_laysOut_2 80 = .ok (.iadd, 1) := dk_96 (dk_at dksX0_laysOut_2_3 12 rfl rfl)
theorem dX0_laysOut_2_81 : decode cX0_laysOut_2 81 = .ok (.istore 5, 2) := dk_54 5 (dk_at dksX0_laysOut_2_3 13 rfl rfl)
theorem dX0_laysOut_2_83 : decode cX0_laysOut_2 83 = .ok (.aload_n 0, 1) := dk_42 (dk_at dksX0_laysOut_2_3 15 rfl rfl)
theorem dX0_laysOut_2_84 : decode cX0_laysOut_2 84 = .ok (.aload_n 1, 1) := dk_43 (dk_at dksX0_laysOut_2_3 16 rfl rfl)
theorem dX0_laysOut_2_85 : decode cX0_laysOut_2 85 = .ok (.iload 5, 2) := dk_21 5 (dk_at dksX0_laysOut_2_3 17 rfl rfl)
theorem dX0_laysOut_2_87 : decode cX0_laysOut_2 87 = .ok (.iload_n 3, 1) := dk_29 (dk_at dksX0_laysOut_2_3 19 rfl rfl)
theorem dX0_laysOut_2_88 : decode cX0_laysOut_2 88 = .ok (.iload 4, 2) := dk_21 4 (dk_at dksX0_laysOut_2_3 20 rfl rfl)
theorem dX0_laysOut_2_90 : decode cX0_laysOut_2 90 = .ok (.invokevirtual 319, 3) := dk_182 1 63 (dk_at dksX0_laysOut_2_4 0 rfl rfl)
theorem dX0_laysOut_2_93 : decode cX0_laysOut_2 93 = .ok (.aload_n 0, 1) := dk_42 (dk_at dksX0_laysOut_2_4 3 rfl rfl)
theorem dX0_laysOut_2_94 : decode cX0_laysOut_2 94 = .ok (.getfield 99, 3) := dk_180 0 99 (dk_at dksX0_laysOut_2_4 4 rfl rfl)
theorem dX0_laysOut_2_97 : decode cX0_laysOut_2 97 = .ok (.bipush 10, 2) := dk_16 10 (dk_at dksX0_laysOut_2_4 7 rfl rfl)
theorem dX0_laysOut_2_99 : decode cX0_laysOut_2 99 = .ok (.iload 5, 2) := dk_21 5 (dk_at dksX0_laysOut_2_4 9 rfl rfl)
theorem dX0_laysOut_2_101 : decode cX0_laysOut_2 101 = .ok (.imul, 1) := dk_104 (dk_at dksX0_laysOut_2_4 11 rfl rfl)
theorem dX0_laysOut_2_102 : decode cX0_laysOut_2 102 = .ok (.aload_n 0, 1) := dk_42 (dk_at dksX0_laysOut_2_4 12 rfl rfl)
theorem dX0_laysOut_2_103 : decode cX0_laysOut_2 103 = .ok (.getfield 292, 3) := dk_180 1 36 (dk_at dksX0_laysOut_2_4 13 rfl rfl)
theorem dX0_laysOut_2_106 : decode cX0_laysOut_2 106 = .ok (.iadd, 1) := dk_96 (dk_at dksX0_laysOut_2_4 16 rfl rfl)
theorem dX0_laysOut_2_107 : decode cX0_laysOut_2 107 = .ok (.aload_n 0, 1) := dk_42 (dk_at dksX0_laysOut_2_4 17 rfl rfl)
theorem dX0_laysOut_2_108 : decode cX0_laysOut_2 108 = .ok (.getfield 62, 3) := dk_180 0 62 (dk_at dksX0_laysOut_2_4 18 rfl rfl)
theorem dX0_laysOut_2_111 : decode cX0_laysOut_2 111 = .ok (.getfield 323, 3) := dk_180 1 67 (dk_at dksX0_laysOut_2_4 21 rfl rfl)
theorem dX0_laysOut_2_114 : decode cX0_laysOut_2 114 = .ok (.iload_n 3, 1) := dk_29 (dk_at dksX0_laysOut_2_5 0 rfl rfl)
theorem dX0_laysOut_2_115 : decode cX0_laysOut_2 115 = .ok (.iload 4, 2) := dk_21 4 (dk_at dksX0_laysOut_2_5 1 rfl rfl)
theorem dX0_laysOut_2_117 : decode cX0_laysOut_2 117 = .ok (.invokevirtual 174, 3) := dk_182 0 174 (dk_at dksX0_laysOut_2_5 3 rfl rfl)
theorem dX0_laysOut_2_120 : decode cX0_laysOut_2 120 = .ok (.lastore, 1) := dk_80 (dk_at dksX0_laysOut_2_5 6 rfl rfl)
theorem dX0_laysOut_2_121 : decode cX0_laysOut_2 121 = .ok (.iinc 4 1, 3) := dk_132 4 1 (dk_at dksX0_laysOut_2_5 7 rfl rfl)
theorem dX0_laysOut_2_124 : decode cX0_laysOut_2 124 = .ok (.goto (-69), 3) := dk_167 255 187 (dk_at dksX0_laysOut_2_5 10 rfl rfl)
theorem dX0_laysOut_2_127 : decode cX0_laysOut_2 127 = .ok (.iinc 3 1, 3) := dk_132 3 1 (dk_at dksX0_laysOut_2_5 13 rfl rfl)
theorem dX0_laysOut_2_130 : decode cX0_laysOut_2 130 = .ok (.goto (-89), 3) := dk_167 255 167 (dk_at dksX0_laysOut_2_5 16 rfl rfl)
theorem dX0_laysOut_2_133 : decode cX0_laysOut_2 133 = .ok (.return_, 1) := dk_177 (dk_at dksX0_laysOut_2_5 19 rfl rfl)
abbrev cX0_clear : ByteArray := prog_1_method_40_code
def yX0_clear : MethodName := ⟨RX0, "clear", "(II)V"⟩
def dkwX0_clear_1 : List UInt8 := [180, 0, 99, 29, 9, 80, 132, 3, 1, 167, 255, 237, 177]
abbrev dktX0_clear_1 : List UInt8 := dkwX0_clear_1 ++ []
def dkwX0_clear_0 : List UInt8 := [42, 27, 181, 1, 33, 42, 28, 181, 1, 36, 3, 62, 29, 42, 180, 0, 99, 190, 162, 0, 16, 42]
abbrev dktX0_clear_0 : List UInt8 := dkwX0_clear_0 ++ dktX0_clear_1
theorem dksX0_clear_0 : cX0_clear.data.toList.drop 0 = dktX0_clear_0 := by decide +kernel
theorem dksX0_clear_1 : cX0_clear.data.toList.drop 22 = dktX0_clear_1 := dk_seg dksX0_clear_0 22 rfl rfl
theorem dX0_clear_0 : decode cX0_clear 0 = .ok (.aload_n 0, 1) := dk_42 (dk_at dksX0_clear_0 0 rfl rfl)
theorem dX0_clear_1 : decode cX0_clear 1 = .ok (.iload_n 1, 1) := dk_27 (dk_at dksX0_clear_0 1 rfl rfl)
theorem dX0_clear_2 : decode cX0_clear 2 = .ok (.putfield 289, 3) := dk_181 1 33 (dk_at dksX0_clear_0 2 rfl rfl)
theorem dX0_clear_5 : decode cX0_clear 5 = .ok (.aload_n 0, 1) := dk_42 (dk_at dksX0_clear_0 5 rfl rfl)
theorem dX0_clear_6 : decode cX0_clear 6 = .ok (.iload_n 2, 1) := dk_28 (dk_at dksX0_clear_0 6 rfl rfl)
theorem dX0_clear_7 : decode cX0_clear 7 = .ok (.putfield 292, 3) := dk_181 1 36 (dk_at dksX0_clear_0 7 rfl rfl)
theorem dX0_clear_10 : decode cX0_clear 10 = .ok (.iconst 0, 1) := dk_3 (dk_at dksX0_clear_0 10 rfl rfl)
theorem dX0_clear_11 : decode cX0_clear 11 = .ok (.istore_n 3, 1) := dk_62 (dk_at dksX0_clear_0 11 rfl rfl)
theorem dX0_clear_12 : decode cX0_clear 12 = .ok (.iload_n 3, 1) := dk_29 (dk_at dksX0_clear_0 12 rfl rfl)
theorem dX0_clear_13 : decode cX0_clear 13 = .ok (.aload_n 0, 1) := dk_42 (dk_at dksX0_clear_0 13 rfl rfl)
theorem dX0_clear_14 : decode cX0_clear 14 = .ok (.getfield 99, 3) := dk_180 0 99 (dk_at dksX0_clear_0 14 rfl rfl)
theorem dX0_clear_17 : decode cX0_clear 17 = .ok (.arraylength, 1) := dk_190 (dk_at dksX0_clear_0 17 rfl rfl)
theorem dX0_clear_18 : decode cX0_clear 18 = .ok (.if_icmp .ge 16, 3) := dk_162 0 16 (dk_at dksX0_clear_0 18 rfl rfl)
theorem dX0_clear_21 : decode cX0_clear 21 = .ok (.aload_n 0, 1) := dk_42 (dk_at dksX0_clear_0 21 rfl rfl)
theorem dX0_clear_22 : decode cX0_clear 22 = .ok (.getfield 99, 3) := dk_180 0 99 (dk_at dksX0_clear_1 0 rfl rfl)
theorem dX0_clear_25 : decode cX0_clear 25 = .ok (.iload_n 3, 1) := dk_29 (dk_at dksX0_clear_1 3 rfl rfl)
theorem dX0_clear_26 : decode cX0_clear 26 = .ok (.lconst 0, 1) := dk_9 (dk_at dksX0_clear_1 4 rfl rfl)
theorem dX0_clear_27 : decode cX0_clear 27 = .ok (.lastore, 1) := dk_80 (dk_at dksX0_clear_1 5 rfl rfl)
theorem dX0_clear_28 : decode cX0_clear 28 = .ok (.iinc 3 1, 3) := dk_132 3 1 (dk_at dksX0_clear_1 6 rfl rfl)
theorem dX0_clear_31 : decode cX0_clear 31 = .ok (.goto (-19), 3) := dk_167 255 237 (dk_at dksX0_clear_1 9 rfl rfl)
theorem dX0_clear_34 : decode cX0_clear 34 = .ok (.return_, 1) := dk_177 (dk_at dksX0_clear_1 12 rfl rfl)
abbrev cX0_laysSum : ByteArray := prog_1_method_42_code
def yX0_laysSum : MethodName := ⟨RX0, "laysSum", "(LTwoSidedTables$Plain;III)V"⟩
def dkwX0_laysSum_5 : List UInt8 := [21, 4, 182, 1, 56, 182, 1, 50, 132, 5, 1, 167, 255, 210, 177]
abbrev dktX0_laysSum_5 : List UInt8 := dkwX0_laysSum_5 ++ []
def dkwX0_laysSum_4 : List UInt8 := [42, 28, 43, 29, 21, 5, 42, 180, 0, 62, 180, 0, 137, 182, 1, 43, 43, 42, 180, 0, 62, 21, 5]
abbrev dktX0_laysSum_4 : List UInt8 := dkwX0_laysSum_4 ++ dktX0_laysSum_5
def dkwX0_laysSum_3 : List UInt8 := [182, 1, 50, 132, 5, 1, 167, 255, 208, 3, 54, 5, 21, 5, 42, 180, 0, 62, 180, 0, 137, 162, 0, 40]
abbrev dktX0_laysSum_3 : List UInt8 := dkwX0_laysSum_3 ++ dktX0_laysSum_4
def dkwX0_laysSum_2 : List UInt8 := [180, 0, 62, 180, 0, 137, 182, 1, 43, 42, 180, 0, 62, 180, 1, 53, 29, 21, 5, 182, 0, 174]
abbrev dktX0_laysSum_2 : List UInt8 := dkwX0_laysSum_2 ++ dktX0_laysSum_3
def dkwX0_laysSum_1 : List UInt8 := [3, 54, 5, 21, 5, 42, 180, 0, 62, 180, 0, 134, 162, 0, 42, 42, 28, 43, 21, 5, 21, 4, 42]
abbrev dktX0_laysSum_1 : List UInt8 := dkwX0_laysSum_1 ++ dktX0_laysSum_2
def dkwX0_laysSum_0 : List UInt8 := [42, 28, 43, 29, 21, 4, 42, 180, 0, 62, 180, 0, 137, 182, 1, 43, 43, 182, 1, 47, 133, 182, 1, 50]
abbrev dktX0_laysSum_0 : List UInt8 := dkwX0_laysSum_0 ++ dktX0_laysSum_1
theorem dksX0_laysSum_0 : cX0_laysSum.data.toList.drop 0 = dktX0_laysSum_0 := by decide +kernel
theorem dksX0_laysSum_1 : cX0_laysSum.data.toList.drop 24 = dktX0_laysSum_1 := dk_seg dksX0_laysSum_0 24 rfl rfl
theorem dksX0_laysSum_2 : cX0_laysSum.data.toList.drop 47 = dktX0_laysSum_2 := dk_seg dksX0_laysSum_1 23 rfl rfl
theorem dksX0_laysSum_3 : cX0_laysSum.data.toList.drop 69 = dktX0_laysSum_3 := dk_seg dksX0_laysSum_2 22 rfl rfl
theorem dksX0_laysSum_4 : cX0_laysSum.data.toList.drop 93 = dktX0_laysSum_4 := dk_seg dksX0_laysSum_3 24 rfl rfl
theorem dksX0_laysSum_5 : cX0_laysSum.data.toList.drop 116 = dktX0_laysSum_5 := dk_seg dksX0_laysSum_4 23 rfl rfl
theorem dX0_laysSum_0 : decode cX0_laysSum 0 = .ok (.aload_n 0, 1) := dk_42 (dk_at dksX0_laysSum_0 0 rfl rfl)
theorem dX0_laysSum_1 : decode cX0_laysSum 1 = .ok (.iload_n 2, 1) := dk_28 (dk_at dksX0_laysSum_0 1 rfl rfl)
theorem dX0_laysSum_2 : decode cX0_laysSum 2 = .ok (.aload_n 1, 1) := dk_43 (dk_at dksX0_laysSum_0 2 rfl rfl)
theorem dX0_laysSum_3 : decode cX0_laysSum 3 = .ok (.iload_n 3, 1) := dk_29 (dk_at dksX0_laysSum_0 3 rfl rfl)
theorem dX0_laysSum_4 : decode cX0_laysSum 4 = .ok (.iload 4, 2) := dk_21 4 (dk_at dksX0_laysSum_0 4 rfl rfl)
theorem dX0_laysSum_6 : decode cX0_laysSum 6 = .ok (.aload_n 0, 1) := dk_42 (dk_at dksX0_laysSum_0 6 rfl rfl)
theorem dX0_laysSum_7 : decode cX0_laysSum 7 = .ok (.getfield 62, 3) := dk_180 0 62 (dk_at dksX0_laysSum_0 7 rfl rfl)
theorem dX0_laysSum_10 : decode cX0_laysSum 10 = .ok (.getfield 137, 3) := dk_180 0 137 (dk_at dksX0_laysSum_0 10 rfl rfl)
theorem dX0_laysSum_13 : decode cX0_laysSum 13 = .ok (.invokevirtual 299, 3) := dk_182 1 43 (dk_at dksX0_laysSum_0 13 rfl rfl)
theorem dX0_laysSum_16 : decode cX0_laysSum 16 = .ok (.aload_n 1, 1) := dk_43 (dk_at dksX0_laysSum_0 16 rfl rfl)
theorem dX0_laysSum_17 : decode cX0_laysSum 17 = .ok (.invokevirtual 303, 3) := dk_182 1 47 (dk_at dksX0_laysSum_0 17 rfl rfl)
theorem dX0_laysSum_20 : decode cX0_laysSum 20 = .ok (.i2l, 1) := dk_133 (dk_at dksX0_laysSum_0 20 rfl rfl)
theorem dX0_laysSum_21 : decode cX0_laysSum 21 = .ok (.invokevirtual 306, 3) := dk_182 1 50 (dk_at dksX0_laysSum_0 21 rfl rfl)
theorem dX0_laysSum_24 : decode cX0_laysSum 24 = .ok (.iconst 0, 1) := dk_3 (dk_at dksX0_laysSum_1 0 rfl rfl)
theorem dX0_laysSum_25 : decode cX0_laysSum 25 = .ok (.istore 5, 2) := dk_54 5 (dk_at dksX0_laysSum_1 1 rfl rfl)
theorem dX0_laysSum_27 : decode cX0_laysSum 27 = .ok (.iload 5, 2) := dk_21 5 (dk_at dksX0_laysSum_1 3 rfl rfl)
theorem dX0_laysSum_29 : decode cX0_laysSum 29 = .ok (.aload_n 0, 1) := dk_42 (dk_at dksX0_laysSum_1 5 rfl rfl)
theorem dX0_laysSum_30 : decode cX0_laysSum 30 = .ok (.getfield 62, 3) := dk_180 0 62 (dk_at dksX0_laysSum_1 6 rfl rfl)
theorem dX0_laysSum_33 : decode cX0_laysSum 33 = .ok (.getfield 134, 3) := dk_180 0 134 (dk_at dksX0_laysSum_1 9 rfl rfl)
theorem dX0_laysSum_36 : decode cX0_laysSum 36 = .ok (.if_icmp .ge 42, 3) := dk_162 0 42 (dk_at dksX0_laysSum_1 12 rfl rfl)
theorem dX0_laysSum_39 : decode cX0_laysSum 39 = .ok (.aload_n 0, 1) := dk_42 (dk_at dksX0_laysSum_1 15 rfl rfl)
theorem dX0_laysSum_40 : decode cX0_laysSum 40 = .ok (.iload_n 2, 1) := dk_28 (dk_at dksX0_laysSum_1 16 rfl rfl)
theorem dX0_laysSum_41 : decode cX0_laysSum 41 = .ok (.aload_n 1, 1) := dk_43 (dk_at dksX0_laysSum_1 17 rfl rfl)
theorem dX0_laysSum_42 : decode cX0_laysSum 42 = .ok (.iload 5, 2) := dk_21 5 (dk_at dksX0_laysSum_1 18 rfl rfl)
theorem dX0_laysSum_44 : decode cX0_laysSum 44 = .ok (.iload 4, 2) := dk_21 4 (dk_at dksX0_laysSum_1 20 rfl rfl)
theorem dX0_laysSum_46 : decode cX0_laysSum 46 = .ok (.aload_n 0, 1) := dk_42 (dk_at dksX0_laysSum_1 22 rfl rfl)
theorem dX0_laysSum_47 : decode cX0_laysSum 47 = .ok (.getfield 62, 3) := dk_180 0 62 (dk_at dksX0_laysSum_2 0 rfl rfl)
theorem dX0_laysSum_50 : decode cX0_laysSum 50 = .ok (.getfield 137, 3) := dk_180 0 137 (dk_at dksX0_laysSum_2 3 rfl rfl)
theorem dX0_laysSum_53 : decode cX0_laysSum 53 = .ok (.invokevirtual 299, 3) := dk_182 1 43 (dk_at dksX0_laysSum_2 6 rfl rfl)
theorem dX0_laysSum_56 : decode cX0_laysSum 56 = .ok (.aload_n 0, 1) := dk_42 (dk_at dksX0_laysSum_2 9 rfl rfl)
theorem dX0_laysSum_57 : decode cX0_laysSum 57 = .ok (.getfield 62, 3) := dk_180 0 62 (dk_at dksX0_laysSum_2 10 rfl rfl)
theorem dX0_laysSum_60 : decode cX0_laysSum 60 = .ok (.getfield 309, 3) := dk_180 1 53 (dk_at dksX0_laysSum_2 13 rfl rfl)
theorem dX0_laysSum_63 : decode cX0_laysSum 63 = .ok (.iload_n 3, 1) := dk_29 (dk_at dksX0_laysSum_2 16 rfl rfl)
theorem dX0_laysSum_64 : decode cX0_laysSum 64 = .ok (.iload 5, 2) := dk_21 5 (dk_at dksX0_laysSum_2 17 rfl rfl)
theorem dX0_laysSum_66 : decode cX0_laysSum 66 = .ok (.invokevirtual 174, 3) := dk_182 0 174 (dk_at dksX0_laysSum_2 19 rfl rfl)
theorem dX0_laysSum_69 : decode cX0_laysSum 69 = .ok (.invokevirtual 306, 3) := dk_182 1 50 (dk_at dksX0_laysSum_3 0 rfl rfl)
theorem dX0_laysSum_72 : decode cX0_laysSum 72 = .ok (.iinc 5 1, 3) := dk_132 5 1 (dk_at dksX0_laysSum_3 3 rfl rfl)
theorem dX0_laysSum_75 : decode cX0_laysSum 75 = .ok (.goto (-48), 3) := dk_167 255 208 (dk_at dksX0_laysSum_3 6 rfl rfl)
theorem dX0_laysSum_78 : decode cX0_laysSum 78 = .ok (.iconst 0, 1) := dk_3 (dk_at dksX0_laysSum_3 9 rfl rfl)
theorem dX0_laysSum_79 : decode cX0_laysSum 79 = .ok (.istore 5, 2) := dk_54 5 (dk_at dksX0_laysSum_3 10 rfl rfl)
theorem dX0_laysSum_81 : decode cX0_laysSum 81 = .ok (.iload 5, 2) := dk_21 5 (dk_at dksX0_laysSum_3 12 rfl rfl)
theorem dX0_laysSum_83 : decode cX0_laysSum 83 = .ok (.aload_n 0, 1) := dk_42 (dk_at dksX0_laysSum_3 14 rfl rfl)
theorem dX0_laysSum_84 : decode cX0_laysSum 84 = .ok (.getfield 62, 3) := dk_180 0 62 (dk_at dksX0_laysSum_3 15 rfl rfl)
theorem dX0_laysSum_87 : decode cX0_laysSum 87 = .ok (.getfield 137, 3) := dk_180 0 137 (dk_at dksX0_laysSum_3 18 rfl rfl)
theorem dX0_laysSum_90 : decode cX0_laysSum 90 = .ok (.if_icmp .ge 40, 3) := dk_162 0 40 (dk_at dksX0_laysSum_3 21 rfl rfl)
theorem dX0_laysSum_93 : decode cX0_laysSum 93 = .ok (.aload_n 0, 1) := dk_42 (dk_at dksX0_laysSum_4 0 rfl rfl)
theorem dX0_laysSum_94 : decode cX0_laysSum 94 = .ok (.iload_n 2, 1) := dk_28 (dk_at dksX0_laysSum_4 1 rfl rfl)
theorem dX0_laysSum_95 : decode cX0_laysSum 95 = .ok (.aload_n 1, 1) := dk_43 (dk_at dksX0_laysSum_4 2 rfl rfl)
theorem dX0_laysSum_96 : decode cX0_laysSum 96 = .ok (.iload_n 3, 1) := dk_29 (dk_at dksX0_laysSum_4 3 rfl rfl)
theorem dX0_laysSum_97 : decode cX0_laysSum 97 = .ok (.iload 5, 2) := dk_21 5 (dk_at dksX0_laysSum_4 4 rfl rfl)
theorem dX0_laysSum_99 : decode cX0_laysSum 99 = .ok (.aload_n 0, 1) := dk_42 (dk_at dksX0_laysSum_4 6 rfl rfl)
theorem dX0_laysSum_100 : decode cX0_laysSum 100 = .ok (.getfield 62, 3) := dk_180 0 62 (dk_at dksX0_laysSum_4 7 rfl rfl)
theorem dX0_laysSum_103 : decode cX0_laysSum 103 = .ok (.getfield 137, 3) := dk_180 0 137 (dk_at dksX0_laysSum_4 10 rfl rfl)
theorem dX0_laysSum_106 : decode cX0_laysSum 106 = .ok (.invokevirtual 299, 3) := dk_182 1 43 (dk_at dksX0_laysSum_4 13 rfl rfl)
theorem dX0_laysSum_109 : decode cX0_laysSum 109 = .ok (.aload_n 1, 1) := dk_43 (dk_at dksX0_laysSum_4 16 rfl rfl)
theorem dX0_laysSum_110 : decode cX0_laysSum 110 = .ok (.aload_n 0, 1) := dk_42 (dk_at dksX0_laysSum_4 17 rfl rfl)
theorem dX0_laysSum_111 : decode cX0_laysSum 111 = .ok (.getfield 62, 3) := dk_180 0 62 (dk_at dksX0_laysSum_4 18 rfl rfl)
theorem dX0_laysSum_114 : decode cX0_laysSum 114 = .ok (.iload 5, 2) := dk_21 5 (dk_at dksX0_laysSum_4 21 rfl rfl)
theorem dX0_laysSum_116 : decode cX0_laysSum 116 = .ok (.iload 4, 2) := dk_21 4 (dk_at dksX0_laysSum_5 0 rfl rfl)
theorem dX0_laysSum_118 : decode cX0_laysSum 118 = .ok (.invokevirtual 312, 3) := dk_182 1 56 (dk_at dksX0_laysSum_5 2 rfl rfl)
theorem dX0_laysSum_121 : decode cX0_laysSum 121 = .ok (.invokevirtual 306, 3) := dk_182 1 50 (dk_at dksX0_laysSum_5 5 rfl rfl)
theorem dX0_laysSum_124 : decode cX0_laysSum 124 = .ok (.iinc 5 1, 3) := dk_132 5 1 (dk_at dksX0_laysSum_5 8 rfl rfl)
theorem dX0_laysSum_127 : decode cX0_laysSum 127 = .ok (.goto (-46), 3) := dk_167 255 210 (dk_at dksX0_laysSum_5 11 rfl rfl)
theorem dX0_laysSum_130 : decode cX0_laysSum 130 = .ok (.return_, 1) := dk_177 (dk_at dksX0_laysSum_5 14 rfl rfl)
abbrev cX0_adds : ByteArray := prog_1_method_41_code
def yX0_adds : MethodName := ⟨RX0, "adds", "(IIJ)V"⟩
def dkwX0_adds_2 : List UInt8 := [184, 0, 182, 80, 177]
abbrev dktX0_adds_2 : List UInt8 := dkwX0_adds_2 ++ []
def dkwX0_adds_1 : List UInt8 := [42, 180, 0, 99, 16, 10, 27, 104, 21, 5, 96, 47, 28, 158, 0, 7, 33, 167, 0, 5, 33, 117]
abbrev dktX0_adds_1 : List UInt8 := dkwX0_adds_1 ++ dktX0_adds_2
def dkwX0_adds_0 : List UInt8 := [28, 154, 0, 4, 177, 28, 184, 1, 39, 4, 100, 54, 5, 42, 180, 0, 99, 16, 10, 27, 104, 21, 5, 96]
abbrev dktX0_adds_0 : List UInt8 := dkwX0_adds_0 ++ dktX0_adds_1
theorem dksX0_adds_0 : cX0_adds.data.toList.drop 0 = dktX0_adds_0 := by decide +kernel
theorem dksX0_adds_1 : cX0_adds.data.toList.drop 24 = dktX0_adds_1 := dk_seg dksX0_adds_0 24 rfl rfl
theorem dksX0_adds_2 : cX0_adds.data.toList.drop 46 = dktX0_adds_2 := dk_seg dksX0_adds_1 22 rfl rfl
theorem dX0_adds_0 : decode cX0_adds 0 = .ok (.iload_n 2, 1) := dk_28 (dk_at dksX0_adds_0 0 rfl rfl)
theorem dX0_adds_1 : decode cX0_adds 1 = .ok (.ifCond .ne 4, 3) := dk_154 0 4 (dk_at dksX0_adds_0 1 rfl rfl)
theorem dX0_adds_4 : decode cX0_adds 4 = .ok (.return_, 1) := dk_177 (dk_at dksX0_adds_0 4 rfl rfl)
theorem dX0_adds_5 : decode cX0_adds 5 = .ok (.iload_n 2, 1) := dk_28 (dk_at dksX0_adds_0 5 rfl rfl)
theorem dX0_adds_6 : decode cX0_adds 6 = .ok (.invokestatic 295, 3) := dk_184 1 39 (dk_at dksX0_adds_0 6 rfl rfl)
theorem dX0_adds_9 : decode cX0_adds 9 = .ok (.iconst 1, 1) := dk_4 (dk_at dksX0_adds_0 9 rfl rfl)
theorem dX0_adds_10 : decode cX0_adds 10 = .ok (.isub, 1) := dk_100 (dk_at dksX0_adds_0 10 rfl rfl)
theorem dX0_adds_11 : decode cX0_adds 11 = .ok (.istore 5, 2) := dk_54 5 (dk_at dksX0_adds_0 11 rfl rfl)
theorem dX0_adds_13 : decode cX0_adds 13 = .ok (.aload_n 0, 1) := dk_42 (dk_at dksX0_adds_0 13 rfl rfl)
theorem dX0_adds_14 : decode cX0_adds 14 = .ok (.getfield 99, 3) := dk_180 0 99 (dk_at dksX0_adds_0 14 rfl rfl)
theorem dX0_adds_17 : decode cX0_adds 17 = .ok (.bipush 10, 2) := dk_16 10 (dk_at dksX0_adds_0 17 rfl rfl)
theorem dX0_adds_19 : decode cX0_adds 19 = .ok (.iload_n 1, 1) := dk_27 (dk_at dksX0_adds_0 19 rfl rfl)
theorem dX0_adds_20 : decode cX0_adds 20 = .ok (.imul, 1) := dk_104 (dk_at dksX0_adds_0 20 rfl rfl)
theorem dX0_adds_21 : decode cX0_adds 21 = .ok (.iload 5, 2) := dk_21 5 (dk_at dksX0_adds_0 21 rfl rfl)
theorem dX0_adds_23 : decode cX0_adds 23 = .ok (.iadd, 1) := dk_96 (dk_at dksX0_adds_0 23 rfl rfl)
theorem dX0_adds_24 : decode cX0_adds 24 = .ok (.aload_n 0, 1) := dk_42 (dk_at dksX0_adds_1 0 rfl rfl)
theorem dX0_adds_25 : decode cX0_adds 25 = .ok (.getfield 99, 3) := dk_180 0 99 (dk_at dksX0_adds_1 1 rfl rfl)
theorem dX0_adds_28 : decode cX0_adds 28 = .ok (.bipush 10, 2) := dk_16 10 (dk_at dksX0_adds_1 4 rfl rfl)
theorem dX0_adds_30 : decode cX0_adds 30 = .ok (.iload_n 1, 1) := dk_27 (dk_at dksX0_adds_1 6 rfl rfl)
theorem dX0_adds_31 : decode cX0_adds 31 = .ok (.imul, 1) := dk_104 (dk_at dksX0_adds_1 7 rfl rfl)
theorem dX0_adds_32 : decode cX0_adds 32 = .ok (.iload 5, 2) := dk_21 5 (dk_at dksX0_adds_1 8 rfl rfl)
theorem dX0_adds_34 : decode cX0_adds 34 = .ok (.iadd, 1) := dk_96 (dk_at dksX0_adds_1 10 rfl rfl)
theorem dX0_adds_35 : decode cX0_adds 35 = .ok (.laload, 1) := dk_47 (dk_at dksX0_adds_1 11 rfl rfl)
theorem dX0_adds_36 : decode cX0_adds 36 = .ok (.iload_n 2, 1) := dk_28 (dk_at dksX0_adds_1 12 rfl rfl)
theorem dX0_adds_37 : decode cX0_adds 37 = .ok (.ifCond .le 7, 3) := dk_158 0 7 (dk_at dksX0_adds_1 13 rfl rfl)
theorem dX0_adds_40 : decode cX0_adds 40 = .ok (.lload_n 3, 1) := dk_33 (dk_at dksX0_adds_1 16 rfl rfl)
theorem dX0_adds_41 : decode cX0_adds 41 = .ok (.goto 5, 3) := dk_167 0 5 (dk_at dksX0_adds_1 17 rfl rfl)
theorem dX0_adds_44 : decode cX0_adds 44 = .ok (.lload_n 3, 1) := dk_33 (dk_at dksX0_adds_1 20 rfl rfl)
theorem dX0_adds_45 : decode cX0_adds 45 = .ok (.lneg, 1) := dk_117 (dk_at dksX0_adds_1 21 rfl rfl)
theorem dX0_adds_46 : decode cX0_adds 46 = .ok (.invokestatic 182, 3) := dk_184 0 182 (dk_at dksX0_adds_2 0 rfl rfl)
theorem dX0_adds_49 : decode cX0_adds 49 = .ok (.lastore, 1) := dk_80 (dk_at dksX0_adds_2 3 rfl rfl)
theorem dX0_adds_50 : decode cX0_adds 50 = .ok (.return_, 1) := dk_177 (dk_at dksX0_adds_2 4 rfl rfl)
abbrev cX0_reduce : ByteArray := prog_1_method_47_code
def yX0_reduce : MethodName := ⟨RX0, "reduce", "()V"⟩
def dkwX0_reduce_4 : List UInt8 := [180, 1, 89, 79, 42, 89, 180, 1, 89, 4, 96, 181, 1, 89, 132, 1, 1, 167, 255, 164, 177]
abbrev dktX0_reduce_4 : List UInt8 := dkwX0_reduce_4 ++ []
def dkwX0_reduce_3 : List UInt8 := [28, 42, 180, 1, 89, 182, 1, 92, 42, 42, 180, 1, 89, 27, 182, 1, 95, 42, 180, 0, 103, 27, 42]
abbrev dktX0_reduce_3 : List UInt8 := dkwX0_reduce_3 ++ dktX0_reduce_4
def dkwX0_reduce_2 : List UInt8 := [167, 0, 61, 42, 28, 27, 182, 1, 76, 9, 148, 153, 0, 6, 167, 0, 9, 132, 2, 1, 167, 255, 228, 42]
abbrev dktX0_reduce_2 : List UInt8 := dkwX0_reduce_2 ++ dktX0_reduce_3
def dkwX0_reduce_1 : List UInt8 := [162, 0, 90, 42, 180, 0, 103, 27, 2, 79, 42, 180, 1, 89, 61, 28, 42, 180, 1, 33, 161, 0, 6]
abbrev dktX0_reduce_1 : List UInt8 := dkwX0_reduce_1 ++ dktX0_reduce_2
def dkwX0_reduce_0 : List UInt8 := [42, 3, 181, 1, 89, 42, 4, 181, 1, 73, 42, 10, 181, 1, 85, 3, 60, 27, 42, 180, 1, 36]
abbrev dktX0_reduce_0 : List UInt8 := dkwX0_reduce_0 ++ dktX0_reduce_1
theorem dksX0_reduce_0 : cX0_reduce.data.toList.drop 0 = dktX0_reduce_0 := by decide +kernel
theorem dksX0_reduce_1 : cX0_reduce.data.toList.drop 22 = dktX0_reduce_1 := dk_seg dksX0_reduce_0 22 rfl rfl
theorem dksX0_reduce_2 : cX0_reduce.data.toList.drop 45 = dktX0_reduce_2 := dk_seg dksX0_reduce_1 23 rfl rfl
theorem dksX0_reduce_3 : cX0_reduce.data.toList.drop 69 = dktX0_reduce_3 := dk_seg dksX0_reduce_2 24 rfl rfl
theorem dksX0_reduce_4 : cX0_reduce.data.toList.drop 92 = dktX0_reduce_4 := dk_seg dksX0_reduce_3 23 rfl rfl
theorem dX0_reduce_0 : decode cX0_reduce 0 = .ok (.aload_n 0, 1) := dk_42 (dk_at dksX0_reduce_0 0 rfl rfl)
theorem dX0_reduce_1 : decode cX0_reduce 1 = .ok (.iconst 0, 1) := dk_3 (dk_at dksX0_reduce_0 1 rfl rfl)
theorem dX0_reduce_2 : decode cX0_reduce 2 = .ok (.putfield 345, 3) := dk_181 1 89 (dk_at dksX0_reduce_0 2 rfl rfl)
theorem dX0_reduce_5 : decode cX0_reduce 5 = .ok (.aload_n 0, 1) := dk_42 (dk_at dksX0_reduce_0 5 rfl rfl)
theorem dX0_reduce_6 : decode cX0_reduce 6 = .ok (.iconst 1, 1) := dk_4 (dk_at dksX0_reduce_0 6 rfl rfl)
theorem dX0_reduce_7 : decode cX0_reduce 7 = .ok (.putfield 329, 3) := dk_181 1 73 (dk_at dksX0_reduce_0 7 rfl rfl)
theorem dX0_reduce_10 : decode cX0_reduce 10 = .ok (.aload_n 0, 1) := dk_42 (dk_at dksX0_reduce_0 10 rfl rfl)
theorem dX0_reduce_11 : decode cX0_reduce 11 = .ok (.lconst 1, 1) := dk_10 (dk_at dksX0_reduce_0 11 rfl rfl)
theorem dX0_reduce_12 : decode cX0_reduce 12 = .ok (.putfield 341, 3) := dk_181 1 85 (dk_at dksX0_reduce_0 12 rfl rfl)
theorem dX0_reduce_15 : decode cX0_reduce 15 = .ok (.iconst 0, 1) := dk_3 (dk_at dksX0_reduce_0 15 rfl rfl)
theorem dX0_reduce_16 : decode cX0_reduce 16 = .ok (.istore_n 1, 1) := dk_60 (dk_at dksX0_reduce_0 16 rfl rfl)
theorem dX0_reduce_17 : decode cX0_reduce 17 = .ok (.iload_n 1, 1) := dk_27 (dk_at dksX0_reduce_0 17 rfl rfl)
theorem dX0_reduce_18 : decode cX0_reduce 18 = .ok (.aload_n 0, 1) := dk_42 (dk_at dksX0_reduce_0 18 rfl rfl)
theorem dX0_reduce_19 : decode cX0_reduce 19 = .ok (.getfield 292, 3) := dk_180 1 36 (dk_at dksX0_reduce_0 19 rfl rfl)
theorem dX0_reduce_22 : decode cX0_reduce 22 = .ok (.if_icmp .ge 90, 3) := dk_162 0 90 (dk_at dksX0_reduce_1 0 rfl rfl)
theorem dX0_reduce_25 : decode cX0_reduce 25 = .ok (.aload_n 0, 1) := dk_42 (dk_at dksX0_reduce_1 3 rfl rfl)
theorem dX0_reduce_26 : decode cX0_reduce 26 = .ok (.getfield 103, 3) := dk_180 0 103 (dk_at dksX0_reduce_1 4 rfl rfl)
theorem dX0_reduce_29 : decode cX0_reduce 29 = .ok (.iload_n 1, 1) := dk_27 (dk_at dksX0_reduce_1 7 rfl rfl)
theorem dX0_reduce_30 : decode cX0_reduce 30 = .ok (.iconst (-1), 1) := dk_2 (dk_at dksX0_reduce_1 8 rfl rfl)
theorem dX0_reduce_31 : decode cX0_reduce 31 = .ok (.iastore, 1) := dk_79 (dk_at dksX0_reduce_1 9 rfl rfl)
theorem dX0_reduce_32 : decode cX0_reduce 32 = .ok (.aload_n 0, 1) := dk_42 (dk_at dksX0_reduce_1 10 rfl rfl)
theorem dX0_reduce_33 : decode cX0_reduce 33 = .ok (.getfield 345, 3) := dk_180 1 89 (dk_at dksX0_reduce_1 11 rfl rfl)
theorem dX0_reduce_36 : decode cX0_reduce 36 = .ok (.istore_n 2, 1) := dk_61 (dk_at dksX0_reduce_1 14 rfl rfl)
theorem dX0_reduce_37 : decode cX0_reduce 37 = .ok (.iload_n 2, 1) := dk_28 (dk_at dksX0_reduce_1 15 rfl rfl)
theorem dX0_reduce_38 : decode cX0_reduce 38 = .ok (.aload_n 0, 1) := dk_42 (dk_at dksX0_reduce_1 16 rfl rfl)
theorem dX0_reduce_39 : decode cX0_reduce 39 = .ok (.getfield 289, 3) := dk_180 1 33 (dk_at dksX0_reduce_1 17 rfl rfl)
theorem dX0_reduce_42 : decode cX0_reduce 42 = .ok (.if_icmp .lt 6, 3) := dk_161 0 6 (dk_at dksX0_reduce_1 20 rfl rfl)
theorem dX0_reduce_45 : decode cX0_reduce 45 = .ok (.goto 61, 3) := dk_167 0 61 (dk_at dksX0_reduce_2 0 rfl rfl)
theorem dX0_reduce_48 : decode cX0_reduce 48 = .ok (.aload_n 0, 1) := dk_42 (dk_at dksX0_reduce_2 3 rfl rfl)
theorem dX0_reduce_49 : decode cX0_reduce 49 = .ok (.iload_n 2, 1) := dk_28 (dk_at dksX0_reduce_2 4 rfl rfl)
theorem dX0_reduce_50 : decode cX0_reduce 50 = .ok (.iload_n 1, 1) := dk_27 (dk_at dksX0_reduce_2 5 rfl rfl)
theorem dX0_reduce_51 : decode cX0_reduce 51 = .ok (.invokevirtual 332, 3) := dk_182 1 76 (dk_at dksX0_reduce_2 6 rfl rfl)
theorem dX0_reduce_54 : decode cX0_reduce 54 = .ok (.lconst 0, 1) := dk_9 (dk_at dksX0_reduce_2 9 rfl rfl)
theorem dX0_reduce_55 : decode cX0_reduce 55 = .ok (.lcmp, 1) := dk_148 (dk_at dksX0_reduce_2 10 rfl rfl)
theorem dX0_reduce_56 : decode cX0_reduce 56 = .ok (.ifCond .eq 6, 3) := dk_153 0 6 (dk_at dksX0_reduce_2 11 rfl rfl)
theorem dX0_reduce_59 : decode cX0_reduce 59 = .ok (.goto 9, 3) := dk_167 0 9 (dk_at dksX0_reduce_2 14 rfl rfl)
theorem dX0_reduce_62 : decode cX0_reduce 62 = .ok (.iinc 2 1, 3) := dk_132 2 1 (dk_at dksX0_reduce_2 17 rfl rfl)
theorem dX0_reduce_65 : decode cX0_reduce 65 = .ok (.goto (-28), 3) := dk_167 255 228 (dk_at dksX0_reduce_2 20 rfl rfl)
theorem dX0_reduce_68 : decode cX0_reduce 68 = .ok (.aload_n 0, 1) := dk_42 (dk_at dksX0_reduce_2 23 rfl rfl)
theorem dX0_reduce_69 : decode cX0_reduce 69 = .ok (.iload_n 2, 1) := dk_28 (dk_at dksX0_reduce_3 0 rfl rfl)
theorem dX0_reduce_70 : decode cX0_reduce 70 = .ok (.aload_n 0, 1) := dk_42 (dk_at dksX0_reduce_3 1 rfl rfl)
theorem dX0_reduce_71 : decode cX0_reduce 71 = .ok (.getfield 345, 3) := dk_180 1 89 (dk_at dksX0_reduce_3 2 rfl rfl)
theorem dX0_reduce_74 : decode cX0_reduce 74 = .ok (.invokevirtual 348, 3) := dk_182 1 92 (dk_at dksX0_reduce_3 5 rfl rfl)
theorem dX0_reduce_77 : decode cX0_reduce 77 = .ok (.aload_n 0, 1) := dk_42 (dk_at dksX0_reduce_3 8 rfl rfl)
theorem dX0_reduce_78 : decode cX0_reduce 78 = .ok (.aload_n 0, 1) := dk_42 (dk_at dksX0_reduce_3 9 rfl rfl)
theorem dX0_reduce_79 : decode cX0_reduce 79 = .ok (.getfield 345, 3) := dk_180 1 89 (dk_at dksX0_reduce_3 10 rfl rfl)
theorem dX0_reduce_82 : decode cX0_reduce 82 = .ok (.iload_n 1, 1) := dk_27 (dk_at dksX0_reduce_3 13 rfl rfl)
theorem dX0_reduce_83 : decode cX0_reduce 83 = .ok (.invokevirtual 351, 3) := dk_182 1 95 (dk_at dksX0_reduce_3 14 rfl rfl)
theorem dX0_reduce_86 : decode cX0_reduce 86 = .ok (.aload_n 0, 1) := dk_42 (dk_at dksX0_reduce_3 17 rfl rfl)
theorem dX0_reduce_87 : decode cX0_reduce 87 = .ok (.getfield 103, 3) := dk_180 0 103 (dk_at dksX0_reduce_3 18 rfl rfl)
theorem dX0_reduce_90 : decode cX0_reduce 90 = .ok (.iload_n 1, 1) := dk_27 (dk_at dksX0_reduce_3 21 rfl rfl)
theorem dX0_reduce_91 : decode cX0_reduce 91 = .ok (.aload_n 0, 1) := dk_42 (dk_at dksX0_reduce_3 22 rfl rfl)
theorem dX0_reduce_92 : decode cX0_reduce 92 = .ok (.getfield 345, 3) := dk_180 1 89 (dk_at dksX0_reduce_4 0 rfl rfl)
theorem dX0_reduce_95 : decode cX0_reduce 95 = .ok (.iastore, 1) := dk_79 (dk_at dksX0_reduce_4 3 rfl rfl)
theorem dX0_reduce_96 : decode cX0_reduce 96 = .ok (.aload_n 0, 1) := dk_42 (dk_at dksX0_reduce_4 4 rfl rfl)
theorem dX0_reduce_97 : decode cX0_reduce 97 = .ok (.dup, 1) := dk_89 (dk_at dksX0_reduce_4 5 rfl rfl)
theorem dX0_reduce_98 : decode cX0_reduce 98 = .ok (.getfield 345, 3) := dk_180 1 89 (dk_at dksX0_reduce_4 6 rfl rfl)
theorem dX0_reduce_101 : decode cX0_reduce 101 = .ok (.iconst 1, 1) := dk_4 (dk_at dksX0_reduce_4 9 rfl rfl)
theorem dX0_reduce_102 : decode cX0_reduce 102 = .ok (.iadd, 1) := dk_96 (dk_at dksX0_reduce_4 10 rfl rfl)
theorem dX0_reduce_103 : decode cX0_reduce 103 = .ok (.putfield 345, 3) := dk_181 1 89 (dk_at dksX0_reduce_4 11 rfl rfl)
theorem dX0_reduce_106 : decode cX0_reduce 106 = .ok (.iinc 1 1, 3) := dk_132 1 1 (dk_at dksX0_reduce_4 14 rfl rfl)
theorem dX0_reduce_109 : decode cX0_reduce 109 = .ok (.goto (-92), 3) := dk_167 255 164 (dk_at dksX0_reduce_4 17 rfl rfl)
theorem dX0_reduce_112 : decode cX0_reduce 112 = .ok (.return_, 1) := dk_177 (dk_at dksX0_reduce_4 20 rfl rfl)
abbrev cX0_cell : ByteArray := prog_1_method_39_code
def yX0_cell : MethodName := ⟨RX0, "cell", "(II)J"⟩
def dkwX0_cell_0 : List UInt8 := [42, 180, 0, 99, 16, 10, 27, 104, 28, 96, 47, 173]
abbrev dktX0_cell_0 : List UInt8 := dkwX0_cell_0 ++ []
theorem dksX0_cell_0 : cX0_cell.data.toList.drop 0 = dktX0_cell_0 := by decide +kernel
theorem dX0_cell_0 : decode cX0_cell 0 = .ok (.aload_n 0, 1) := dk_42 (dk_at dksX0_cell_0 0 rfl rfl)
theorem dX0_cell_1 : decode cX0_cell 1 = .ok (.getfield 99, 3) := dk_180 0 99 (dk_at dksX0_cell_0 1 rfl rfl)
theorem dX0_cell_4 : decode cX0_cell 4 = .ok (.bipush 10, 2) := dk_16 10 (dk_at dksX0_cell_0 4 rfl rfl)
theorem dX0_cell_6 : decode cX0_cell 6 = .ok (.iload_n 1, 1) := dk_27 (dk_at dksX0_cell_0 6 rfl rfl)
theorem dX0_cell_7 : decode cX0_cell 7 = .ok (.imul, 1) := dk_104 (dk_at dksX0_cell_0 7 rfl rfl)
theorem dX0_cell_8 : decode cX0_cell 8 = .ok (.iload_n 2, 1) := dk_28 (dk_at dksX0_cell_0 8 rfl rfl)
theorem dX0_cell_9 : decode cX0_cell 9 = .ok (.iadd, 1) := dk_96 (dk_at dksX0_cell_0 9 rfl rfl)
theorem dX0_cell_10 : decode cX0_cell 10 = .ok (.laload, 1) := dk_47 (dk_at dksX0_cell_0 10 rfl rfl)
theorem dX0_cell_11 : decode cX0_cell 11 = .ok (.lreturn, 1) := dk_173 (dk_at dksX0_cell_0 11 rfl rfl)
abbrev cX0_exchange : ByteArray := prog_1_method_45_code
def yX0_exchange : MethodName := ⟨RX0, "exchange", "(II)V"⟩
def dkwX0_exchange_3 : List UInt8 := [42, 180, 1, 73, 167, 0, 8, 42, 180, 1, 73, 116, 181, 1, 73, 177]
abbrev dktX0_exchange_3 : List UInt8 := dkwX0_exchange_3 ++ []
def dkwX0_exchange_2 : List UInt8 := [180, 0, 99, 16, 10, 28, 104, 29, 96, 22, 4, 80, 132, 3, 1, 167, 255, 199, 42, 27, 28, 160, 0, 10]
abbrev dktX0_exchange_2 : List UInt8 := dkwX0_exchange_2 ++ dktX0_exchange_3
def dkwX0_exchange_1 : List UInt8 := [180, 0, 99, 16, 10, 27, 104, 29, 96, 42, 180, 0, 99, 16, 10, 28, 104, 29, 96, 47, 80, 42]
abbrev dktX0_exchange_1 : List UInt8 := dkwX0_exchange_1 ++ dktX0_exchange_2
def dkwX0_exchange_0 : List UInt8 := [3, 62, 29, 16, 10, 162, 0, 57, 42, 180, 0, 99, 16, 10, 27, 104, 29, 96, 47, 55, 4, 42]
abbrev dktX0_exchange_0 : List UInt8 := dkwX0_exchange_0 ++ dktX0_exchange_1
theorem dksX0_exchange_0 : cX0_exchange.data.toList.drop 0 = dktX0_exchange_0 := by decide +kernel
theorem dksX0_exchange_1 : cX0_exchange.data.toList.drop 22 = dktX0_exchange_1 := dk_seg dksX0_exchange_0 22 rfl rfl
theorem dksX0_exchange_2 : cX0_exchange.data.toList.drop 44 = dktX0_exchange_2 := dk_seg dksX0_exchange_1 22 rfl rfl
theorem dksX0_exchange_3 : cX0_exchange.data.toList.drop 68 = dktX0_exchange_3 := dk_seg dksX0_exchange_2 24 rfl rfl
theorem dX0_exchange_0 : decode cX0_exchange 0 = .ok (.iconst 0, 1) := dk_3 (dk_at dksX0_exchange_0 0 rfl rfl)
theorem dX0_exchange_1 : decode cX0_exchange 1 = .ok (.istore_n 3, 1) := dk_62 (dk_at dksX0_exchange_0 1 rfl rfl)
theorem dX0_exchange_2 : decode cX0_exchange 2 = .ok (.iload_n 3, 1) := dk_29 (dk_at dksX0_exchange_0 2 rfl rfl)
theorem dX0_exchange_3 : decode cX0_exchange 3 = .ok (.bipush 10, 2) := dk_16 10 (dk_at dksX0_exchange_0 3 rfl rfl)
theorem dX0_exchange_5 : decode cX0_exchange 5 = .ok (.if_icmp .ge 57, 3) := dk_162 0 57 (dk_at dksX0_exchange_0 5 rfl rfl)
theorem dX0_exchange_8 : decode cX0_exchange 8 = .ok (.aload_n 0, 1) := dk_42 (dk_at dksX0_exchange_0 8 rfl rfl)
theorem dX0_exchange_9 : decode cX0_exchange 9 = .ok (.getfield 99, 3) := dk_180 0 99 (dk_at dksX0_exchange_0 9 rfl rfl)
theorem dX0_exchange_12 : decode cX0_exchange 12 = .ok (.bipush 10, 2) := dk_16 10 (dk_at dksX0_exchange_0 12 rfl rfl)
theorem dX0_exchange_14 : decode cX0_exchange 14 = .ok (.iload_n 1, 1) := dk_27 (dk_at dksX0_exchange_0 14 rfl rfl)
theorem dX0_exchange_15 : decode cX0_exchange 15 = .ok (.imul, 1) := dk_104 (dk_at dksX0_exchange_0 15 rfl rfl)
theorem dX0_exchange_16 : decode cX0_exchange 16 = .ok (.iload_n 3, 1) := dk_29 (dk_at dksX0_exchange_0 16 rfl rfl)
theorem dX0_exchange_17 : decode cX0_exchange 17 = .ok (.iadd, 1) := dk_96 (dk_at dksX0_exchange_0 17 rfl rfl)
theorem dX0_exchange_18 : decode cX0_exchange 18 = .ok (.laload, 1) := dk_47 (dk_at dksX0_exchange_0 18 rfl rfl)
theorem dX0_exchange_19 : decode cX0_exchange 19 = .ok (.lstore 4, 2) := dk_55 4 (dk_at dksX0_exchange_0 19 rfl rfl)
theorem dX0_exchange_21 : decode cX0_exchange 21 = .ok (.aload_n 0, 1) := dk_42 (dk_at dksX0_exchange_0 21 rfl rfl)
theorem dX0_exchange_22 : decode cX0_exchange 22 = .ok (.getfield 99, 3) := dk_180 0 99 (dk_at dksX0_exchange_1 0 rfl rfl)
theorem dX0_exchange_25 : decode cX0_exchange 25 = .ok (.bipush 10, 2) := dk_16 10 (dk_at dksX0_exchange_1 3 rfl rfl)
theorem dX0_exchange_27 : decode cX0_exchange 27 = .ok (.iload_n 1, 1) := dk_27 (dk_at dksX0_exchange_1 5 rfl rfl)
theorem dX0_exchange_28 : decode cX0_exchange 28 = .ok (.imul, 1) := dk_104 (dk_at dksX0_exchange_1 6 rfl rfl)
theorem dX0_exchange_29 : decode cX0_exchange 29 = .ok (.iload_n 3, 1) := dk_29 (dk_at dksX0_exchange_1 7 rfl rfl)
theorem dX0_exchange_30 : decode cX0_exchange 30 = .ok (.iadd, 1) := dk_96 (dk_at dksX0_exchange_1 8 rfl rfl)
theorem dX0_exchange_31 : decode cX0_exchange 31 = .ok (.aload_n 0, 1) := dk_42 (dk_at dksX0_exchange_1 9 rfl rfl)
theorem dX0_exchange_32 : decode cX0_exchange 32 = .ok (.getfield 99, 3) := dk_180 0 99 (dk_at dksX0_exchange_1 10 rfl rfl)
theorem dX0_exchange_35 : decode cX0_exchange 35 = .ok (.bipush 10, 2) := dk_16 10 (dk_at dksX0_exchange_1 13 rfl rfl)
theorem dX0_exchange_37 : decode cX0_exchange 37 = .ok (.iload_n 2, 1) := dk_28 (dk_at dksX0_exchange_1 15 rfl rfl)
theorem dX0_exchange_38 : decode cX0_exchange 38 = .ok (.imul, 1) := dk_104 (dk_at dksX0_exchange_1 16 rfl rfl)
theorem dX0_exchange_39 : decode cX0_exchange 39 = .ok (.iload_n 3, 1) := dk_29 (dk_at dksX0_exchange_1 17 rfl rfl)
theorem dX0_exchange_40 : decode cX0_exchange 40 = .ok (.iadd, 1) := dk_96 (dk_at dksX0_exchange_1 18 rfl rfl)
theorem dX0_exchange_41 : decode cX0_exchange 41 = .ok (.laload, 1) := dk_47 (dk_at dksX0_exchange_1 19 rfl rfl)
theorem dX0_exchange_42 : decode cX0_exchange 42 = .ok (.lastore, 1) := dk_80 (dk_at dksX0_exchange_1 20 rfl rfl)
theorem dX0_exchange_43 : decode cX0_exchange 43 = .ok (.aload_n 0, 1) := dk_42 (dk_at dksX0_exchange_1 21 rfl rfl)
theorem dX0_exchange_44 : decode cX0_exchange 44 = .ok (.getfield 99, 3) := dk_180 0 99 (dk_at dksX0_exchange_2 0 rfl rfl)
theorem dX0_exchange_47 : decode cX0_exchange 47 = .ok (.bipush 10, 2) := dk_16 10 (dk_at dksX0_exchange_2 3 rfl rfl)
theorem dX0_exchange_49 : decode cX0_exchange 49 = .ok (.iload_n 2, 1) := dk_28 (dk_at dksX0_exchange_2 5 rfl rfl)
theorem dX0_exchange_50 : decode cX0_exchange 50 = .ok (.imul, 1) := dk_104 (dk_at dksX0_exchange_2 6 rfl rfl)
theorem dX0_exchange_51 : decode cX0_exchange 51 = .ok (.iload_n 3, 1) := dk_29 (dk_at dksX0_exchange_2 7 rfl rfl)
theorem dX0_exchange_52 : decode cX0_exchange 52 = .ok (.iadd, 1) := dk_96 (dk_at dksX0_exchange_2 8 rfl rfl)
theorem dX0_exchange_53 : decode cX0_exchange 53 = .ok (.lload 4, 2) := dk_22 4 (dk_at dksX0_exchange_2 9 rfl rfl)
theorem dX0_exchange_55 : decode cX0_exchange 55 = .ok (.lastore, 1) := dk_80 (dk_at dksX0_exchange_2 11 rfl rfl)
theorem dX0_exchange_56 : decode cX0_exchange 56 = .ok (.iinc 3 1, 3) := dk_132 3 1 (dk_at dksX0_exchange_2 12 rfl rfl)
theorem dX0_exchange_59 : decode cX0_exchange 59 = .ok (.goto (-57), 3) := dk_167 255 199 (dk_at dksX0_exchange_2 15 rfl rfl)
theorem dX0_exchange_62 : decode cX0_exchange 62 = .ok (.aload_n 0, 1) := dk_42 (dk_at dksX0_exchange_2 18 rfl rfl)
theorem dX0_exchange_63 : decode cX0_exchange 63 = .ok (.iload_n 1, 1) := dk_27 (dk_at dksX0_exchange_2 19 rfl rfl)
theorem dX0_exchange_64 : decode cX0_exchange 64 = .ok (.iload_n 2, 1) := dk_28 (dk_at dksX0_exchange_2 20 rfl rfl)
theorem dX0_exchange_65 : decode cX0_exchange 65 = .ok (.if_icmp .ne 10, 3) := dk_160 0 10 (dk_at dksX0_exchange_2 21 rfl rfl)
theorem dX0_exchange_68 : decode cX0_exchange 68 = .ok (.aload_n 0, 1) := dk_42 (dk_at dksX0_exchange_3 0 rfl rfl)
theorem dX0_exchange_69 : decode cX0_exchange 69 = .ok (.getfield 329, 3) := dk_180 1 73 (dk_at dksX0_exchange_3 1 rfl rfl)
theorem dX0_exchange_72 : decode cX0_exchange 72 = .ok (.goto 8, 3) := dk_167 0 8 (dk_at dksX0_exchange_3 4 rfl rfl)
theorem dX0_exchange_75 : decode cX0_exchange 75 = .ok (.aload_n 0, 1) := dk_42 (dk_at dksX0_exchange_3 7 rfl rfl)
theorem dX0_exchange_76 : decode cX0_exchange 76 = .ok (.getfield 329, 3) := dk_180 1 73 (dk_at dksX0_exchange_3 8 rfl rfl)
theorem dX0_exchange_79 : decode cX0_exchange 79 = .ok (.ineg, 1) := dk_116 (dk_at dksX0_exchange_3 11 rfl rfl)
theorem dX0_exchange_80 : decode cX0_exchange 80 = .ok (.putfield 329, 3) := dk_181 1 73 (dk_at dksX0_exchange_3 12 rfl rfl)
theorem dX0_exchange_83 : decode cX0_exchange 83 = .ok (.return_, 1) := dk_177 (dk_at dksX0_exchange_3 15 rfl rfl)
abbrev cX0_frees : ByteArray := prog_1_method_46_code
def yX0_frees : MethodName := ⟨RX0, "frees", "(II)V"⟩
def dkwX0_frees_4 : List UInt8 := [180, 1, 85, 109, 80, 132, 8, 1, 167, 255, 195, 132, 5, 1, 167, 255, 159, 42, 33, 181, 1, 85, 177]
abbrev dktX0_frees_4 : List UInt8 := dkwX0_frees_4 ++ []
def dkwX0_frees_3 : List UInt8 := [184, 1, 79, 184, 1, 82, 55, 9, 42, 180, 0, 99, 16, 10, 21, 5, 104, 21, 8, 96, 22, 9, 42]
abbrev dktX0_frees_3 : List UInt8 := dkwX0_frees_3 ++ dktX0_frees_4
def dkwX0_frees_2 : List UInt8 := [163, 0, 58, 33, 42, 21, 5, 21, 8, 182, 1, 76, 184, 1, 79, 22, 6, 42, 27, 21, 8, 182, 1, 76]
abbrev dktX0_frees_2 : List UInt8 := dkwX0_frees_2 ++ dktX0_frees_3
def dkwX0_frees_1 : List UInt8 := [160, 0, 6, 167, 0, 79, 42, 21, 5, 28, 182, 1, 76, 55, 6, 3, 54, 8, 21, 8, 42, 180, 1, 36]
abbrev dktX0_frees_1 : List UInt8 := dkwX0_frees_1 ++ dktX0_frees_2
def dkwX0_frees_0 : List UInt8 := [42, 27, 28, 182, 1, 76, 66, 3, 54, 5, 21, 5, 42, 180, 1, 33, 162, 0, 94, 21, 5, 27]
abbrev dktX0_frees_0 : List UInt8 := dkwX0_frees_0 ++ dktX0_frees_1
theorem dksX0_frees_0 : cX0_frees.data.toList.drop 0 = dktX0_frees_0 := by decide +kernel
theorem dksX0_frees_1 : cX0_frees.data.toList.drop 22 = dktX0_frees_1 := dk_seg dksX0_frees_0 22 rfl rfl
theorem dksX0_frees_2 : cX0_frees.data.toList.drop 46 = dktX0_frees_2 := dk_seg dksX0_frees_1 24 rfl rfl
theorem dksX0_frees_3 : cX0_frees.data.toList.drop 70 = dktX0_frees_3 := dk_seg dksX0_frees_2 24 rfl rfl
theorem dksX0_frees_4 : cX0_frees.data.toList.drop 93 = dktX0_frees_4 := dk_seg dksX0_frees_3 23 rfl rfl
theorem dX0_frees_0 : decode cX0_frees 0 = .ok (.aload_n 0, 1) := dk_42 (dk_at dksX0_frees_0 0 rfl rfl)
theorem dX0_frees_1 : decode cX0_frees 1 = .ok (.iload_n 1, 1) := dk_27 (dk_at dksX0_frees_0 1 rfl rfl)
theorem dX0_frees_2 : decode cX0_frees 2 = .ok (.iload_n 2, 1) := dk_28 (dk_at dksX0_frees_0 2 rfl rfl)
theorem dX0_frees_3 : decode cX0_frees 3 = .ok (.invokevirtual 332, 3) := dk_182 1 76 (dk_at dksX0_frees_0 3 rfl rfl)
theorem dX0_frees_6 : decode cX0_frees 6 = .ok (.lstore_n 3, 1) := dk_66 (dk_at dksX0_frees_0 6 rfl rfl)
theorem dX0_frees_7 : decode cX0_frees 7 = .ok (.iconst 0, 1) := dk_3 (dk_at dksX0_frees_0 7 rfl rfl)
theorem dX0_frees_8 : decode cX0_frees 8 = .ok (.istore 5, 2) := dk_54 5 (dk_at dksX0_frees_0 8 rfl rfl)
theorem dX0_frees_10 : decode cX0_frees 10 = .ok (.iload 5, 2) := dk_21 5 (dk_at dksX0_frees_0 10 rfl rfl)
theorem dX0_frees_12 : decode cX0_frees 12 = .ok (.aload_n 0, 1) := dk_42 (dk_at dksX0_frees_0 12 rfl rfl)
theorem dX0_frees_13 : decode cX0_frees 13 = .ok (.getfield 289, 3) := dk_180 1 33 (dk_at dksX0_frees_0 13 rfl rfl)
theorem dX0_frees_16 : decode cX0_frees 16 = .ok (.if_icmp .ge 94, 3) := dk_162 0 94 (dk_at dksX0_frees_0 16 rfl rfl)
theorem dX0_frees_19 : decode cX0_frees 19 = .ok (.iload 5, 2) := dk_21 5 (dk_at dksX0_frees_0 19 rfl rfl)
theorem dX0_frees_21 : decode cX0_frees 21 = .ok (.iload_n 1, 1) := dk_27 (dk_at dksX0_frees_0 21 rfl rfl)
theorem dX0_frees_22 : decode cX0_frees 22 = .ok (.if_icmp .ne 6, 3) := dk_160 0 6 (dk_at dksX0_frees_1 0 rfl rfl)
theorem dX0_frees_25 : decode cX0_frees 25 = .ok (.goto 79, 3) := dk_167 0 79 (dk_at dksX0_frees_1 3 rfl rfl)
theorem dX0_frees_28 : decode cX0_frees 28 = .ok (.aload_n 0, 1) := dk_42 (dk_at dksX0_frees_1 6 rfl rfl)
theorem dX0_frees_29 : decode cX0_frees 29 = .ok (.iload 5, 2) := dk_21 5 (dk_at dksX0_frees_1 7 rfl rfl)
theorem dX0_frees_31 : decode cX0_frees 31 = .ok (.iload_n 2, 1) := dk_28 (dk_at dksX0_frees_1 9 rfl rfl)
theorem dX0_frees_32 : decode cX0_frees 32 = .ok (.invokevirtual 332, 3) := dk_182 1 76 (dk_at dksX0_frees_1 10 rfl rfl)
theorem dX0_frees_35 : decode cX0_frees 35 = .ok (.lstore 6, 2) := dk_55 6 (dk_at dksX0_frees_1 13 rfl rfl)
theorem dX0_frees_37 : decode cX0_frees 37 = .ok (.iconst 0, 1) := dk_3 (dk_at dksX0_frees_1 15 rfl rfl)
theorem dX0_frees_38 : decode cX0_frees 38 = .ok (.istore 8, 2) := dk_54 8 (dk_at dksX0_frees_1 16 rfl rfl)
theorem dX0_frees_40 : decode cX0_frees 40 = .ok (.iload 8, 2) := dk_21 8 (dk_at dksX0_frees_1 18 rfl rfl)
theorem dX0_frees_42 : decode cX0_frees 42 = .ok (.aload_n 0, 1) := dk_42 (dk_at dksX0_frees_1 20 rfl rfl)
theorem dX0_frees_43 : decode cX0_frees 43 = .ok (.getfield 292, 3) := dk_180 1 36 (dk_at dksX0_frees_1 21 rfl rfl)
theorem dX0_frees_46 : decode cX0_frees 46 = .ok (.if_icmp .gt 58, 3) := dk_163 0 58 (dk_at dksX0_frees_2 0 rfl rfl)
theorem dX0_frees_49 : decode cX0_frees 49 = .ok (.lload_n 3, 1) := dk_33 (dk_at dksX0_frees_2 3 rfl rfl)
theorem dX0_frees_50 : decode cX0_frees 50 = .ok (.aload_n 0, 1) := dk_42 (dk_at dksX0_frees_2 4 rfl rfl)
theorem dX0_frees_51 : decode cX0_frees 51 = .ok (.iload 5, 2) := dk_21 5 (dk_at dksX0_frees_2 5 rfl rfl)
theorem dX0_frees_53 : decode cX0_frees 53 = .ok (.iload 8, 2) := dk_21 8 (dk_at dksX0_frees_2 7 rfl rfl)
theorem dX0_frees_55 : decode cX0_frees 55 = .ok (.invokevirtual 332, 3) := dk_182 1 76 (dk_at dksX0_frees_2 9 rfl rfl)
theorem dX0_frees_58 : decode cX0_frees 58 = .ok (.invokestatic 335, 3) := dk_184 1 79 (dk_at dksX0_frees_2 12 rfl rfl)
theorem dX0_frees_61 : decode cX0_frees 61 = .ok (.lload 6, 2) := dk_22 6 (dk_at dksX0_frees_2 15 rfl rfl)
theorem dX0_frees_63 : decode cX0_frees 63 = .ok (.aload_n 0, 1) := dk_42 (dk_at dksX0_frees_2 17 rfl rfl)
theorem dX0_frees_64 : decode cX0_frees 64 = .ok (.iload_n 1, 1) := dk_27 (dk_at dksX0_frees_2 18 rfl rfl)
theorem dX0_frees_65 : decode cX0_frees 65 = .ok (.iload 8, 2) := dk_21 8 (dk_at dksX0_frees_2 19 rfl rfl)
theorem dX0_frees_67 : decode cX0_frees 67 = .ok (.invokevirtual 332, 3) := dk_182 1 76 (dk_at dksX0_frees_2 21 rfl rfl)
theorem dX0_frees_70 : decode cX0_frees 70 = .ok (.invokestatic 335, 3) := dk_184 1 79 (dk_at dksX0_frees_3 0 rfl rfl)
theorem dX0_frees_73 : decode cX0_frees 73 = .ok (.invokestatic 338, 3) := dk_184 1 82 (dk_at dksX0_frees_3 3 rfl rfl)
theorem dX0_frees_76 : decode cX0_frees 76 = .ok (.lstore 9, 2) := dk_55 9 (dk_at dksX0_frees_3 6 rfl rfl)
theorem dX0_frees_78 : decode cX0_frees 78 = .ok (.aload_n 0, 1) := dk_42 (dk_at dksX0_frees_3 8 rfl rfl)
theorem dX0_frees_79 : decode cX0_frees 79 = .ok (.getfield 99, 3) := dk_180 0 99 (dk_at dksX0_frees_3 9 rfl rfl)
theorem dX0_frees_82 : decode cX0_frees 82 = .ok (.bipush 10, 2) := dk_16 10 (dk_at dksX0_frees_3 12 rfl rfl)
theorem dX0_frees_84 : decode cX0_frees 84 = .ok (.iload 5, 2) := dk_21 5 (dk_at dksX0_frees_3 14 rfl rfl)
theorem dX0_frees_86 : decode cX0_frees 86 = .ok (.imul, 1) := dk_104 (dk_at dksX0_frees_3 16 rfl rfl)
theorem dX0_frees_87 : decode cX0_frees 87 = .ok (.iload 8, 2) := dk_21 8 (dk_at dksX0_frees_3 17 rfl rfl)
theorem dX0_frees_89 : decode cX0_frees 89 = .ok (.iadd, 1) := dk_96 (dk_at dksX0_frees_3 19 rfl rfl)
theorem dX0_frees_90 : decode cX0_frees 90 = .ok (.lload 9, 2) := dk_22 9 (dk_at dksX0_frees_3 20 rfl rfl)
theorem dX0_frees_92 : decode cX0_frees 92 = .ok (.aload_n 0, 1) := dk_42 (dk_at dksX0_frees_3 22 rfl rfl)
theorem dX0_frees_93 : decode cX0_frees 93 = .ok (.getfield 341, 3) := dk_180 1 85 (dk_at dksX0_frees_4 0 rfl rfl)
theorem dX0_frees_96 : decode cX0_frees 96 = .ok (.ldiv, 1) := dk_109 (dk_at dksX0_frees_4 3 rfl rfl)
theorem dX0_frees_97 : decode cX0_frees 97 = .ok (.lastore, 1) := dk_80 (dk_at dksX0_frees_4 4 rfl rfl)
theorem dX0_frees_98 : decode cX0_frees 98 = .ok (.iinc 8 1, 3) := dk_132 8 1 (dk_at dksX0_frees_4 5 rfl rfl)
theorem dX0_frees_101 : decode cX0_frees 101 = .ok (.goto (-61), 3) := dk_167 255 195 (dk_at dksX0_frees_4 8 rfl rfl)
theorem dX0_frees_104 : decode cX0_frees 104 = .ok (.iinc 5 1, 3) := dk_132 5 1 (dk_at dksX0_frees_4 11 rfl rfl)
theorem dX0_frees_107 : decode cX0_frees 107 = .ok (.goto (-97), 3) := dk_167 255 159 (dk_at dksX0_frees_4 14 rfl rfl)
theorem dX0_frees_110 : decode cX0_frees 110 = .ok (.aload_n 0, 1) := dk_42 (dk_at dksX0_frees_4 17 rfl rfl)
theorem dX0_frees_111 : decode cX0_frees 111 = .ok (.lload_n 3, 1) := dk_33 (dk_at dksX0_frees_4 18 rfl rfl)
theorem dX0_frees_112 : decode cX0_frees 112 = .ok (.putfield 341, 3) := dk_181 1 85 (dk_at dksX0_frees_4 19 rfl rfl)
theorem dX0_frees_115 : decode cX0_frees 115 = .ok (.return_, 1) := dk_177 (dk_at dksX0_frees_4 22 rfl rfl)
abbrev cX0_isSolvable : ByteArray := prog_1_method_50_code
def yX0_isSolvable : MethodName := ⟨RX0, "isSolvable", "(LTwoSidedTables$Plain;)Z"⟩
def dkwX0_isSolvable_0 : List UInt8 := [42, 43, 182, 1, 107, 4, 172, 77, 3, 172]
abbrev dktX0_isSolvable_0 : List UInt8 := dkwX0_isSolvable_0 ++ []
theorem dksX0_isSolvable_0 : cX0_isSolvable.data.toList.drop 0 = dktX0_isSolvable_0 := by decide +kernel
theorem dX0_isSolvable_0 : decode cX0_isSolvable 0 = .ok (.aload_n 0, 1) := dk_42 (dk_at dksX0_isSolvable_0 0 rfl rfl)
theorem dX0_isSolvable_1 : decode cX0_isSolvable 1 = .ok (.aload_n 1, 1) := dk_43 (dk_at dksX0_isSolvable_0 1 rfl rfl)
theorem dX0_isSolvable_2 : decode cX0_isSolvable 2 = .ok (.invokevirtual 363, 3) := dk_182 1 107 (dk_at dksX0_isSolvable_0 2 rfl rfl)
theorem dX0_isSolvable_5 : decode cX0_isSolvable 5 = .ok (.iconst 1, 1) := dk_4 (dk_at dksX0_isSolvable_0 5 rfl rfl)
theorem dX0_isSolvable_6 : decode cX0_isSolvable 6 = .ok (.ireturn, 1) := dk_172 (dk_at dksX0_isSolvable_0 6 rfl rfl)
theorem dX0_isSolvable_7 : decode cX0_isSolvable 7 = .ok (.astore_n 2, 1) := dk_77 (dk_at dksX0_isSolvable_0 7 rfl rfl)
theorem dX0_isSolvable_8 : decode cX0_isSolvable 8 = .ok (.iconst 0, 1) := dk_3 (dk_at dksX0_isSolvable_0 8 rfl rfl)
theorem dX0_isSolvable_9 : decode cX0_isSolvable 9 = .ok (.ireturn, 1) := dk_172 (dk_at dksX0_isSolvable_0 9 rfl rfl)
abbrev cX0_solves : ByteArray := prog_1_method_49_code
def yX0_solves : MethodName := ⟨RX0, "solves", "(LTwoSidedTables$Plain;)V"⟩
def dkwX0_solves_0 : List UInt8 := [42, 43, 182, 1, 98, 42, 182, 1, 101, 42, 182, 1, 104, 177]
abbrev dktX0_solves_0 : List UInt8 := dkwX0_solves_0 ++ []
theorem dksX0_solves_0 : cX0_solves.data.toList.drop 0 = dktX0_solves_0 := by decide +kernel
theorem dX0_solves_0 : decode cX0_solves 0 = .ok (.aload_n 0, 1) := dk_42 (dk_at dksX0_solves_0 0 rfl rfl)
theorem dX0_solves_1 : decode cX0_solves 1 = .ok (.aload_n 1, 1) := dk_43 (dk_at dksX0_solves_0 1 rfl rfl)
theorem dX0_solves_2 : decode cX0_solves 2 = .ok (.invokevirtual 354, 3) := dk_182 1 98 (dk_at dksX0_solves_0 2 rfl rfl)
theorem dX0_solves_5 : decode cX0_solves 5 = .ok (.aload_n 0, 1) := dk_42 (dk_at dksX0_solves_0 5 rfl rfl)
theorem dX0_solves_6 : decode cX0_solves 6 = .ok (.invokevirtual 357, 3) := dk_182 1 101 (dk_at dksX0_solves_0 6 rfl rfl)
theorem dX0_solves_9 : decode cX0_solves 9 = .ok (.aload_n 0, 1) := dk_42 (dk_at dksX0_solves_0 9 rfl rfl)
theorem dX0_solves_10 : decode cX0_solves 10 = .ok (.invokevirtual 360, 3) := dk_182 1 104 (dk_at dksX0_solves_0 10 rfl rfl)
theorem dX0_solves_13 : decode cX0_solves 13 = .ok (.return_, 1) := dk_177 (dk_at dksX0_solves_0 13 rfl rfl)
abbrev cX0_mustBeSolvable : ByteArray := prog_1_method_48_code
def yX0_mustBeSolvable : MethodName := ⟨RX0, "mustBeSolvable", "()V"⟩
def dkwX0_mustBeSolvable_1 : List UInt8 := [153, 0, 8, 42, 180, 0, 55, 191, 132, 1, 1, 167, 255, 226, 177]
abbrev dktX0_mustBeSolvable_1 : List UInt8 := dkwX0_mustBeSolvable_1 ++ []
def dkwX0_mustBeSolvable_0 : List UInt8 := [42, 180, 1, 89, 60, 27, 42, 180, 1, 33, 162, 0, 28, 42, 27, 42, 180, 1, 36, 182, 1, 76, 9, 148]
abbrev dktX0_mustBeSolvable_0 : List UInt8 := dkwX0_mustBeSolvable_0 ++ dktX0_mustBeSolvable_1
theorem dksX0_mustBeSolvable_0 : cX0_mustBeSolvable.data.toList.drop 0 = dktX0_mustBeSolvable_0 := by decide +kernel
theorem dksX0_mustBeSolvable_1 : cX0_mustBeSolvable.data.toList.drop 24 = dktX0_mustBeSolvable_1 := dk_seg dksX0_mustBeSolvable_0 24 rfl rfl
theorem dX0_mustBeSolvable_0 : decode cX0_mustBeSolvable 0 = .ok (.aload_n 0, 1) := dk_42 (dk_at dksX0_mustBeSolvable_0 0 rfl rfl)
theorem dX0_mustBeSolvable_1 : decode cX0_mustBeSolvable 1 = .ok (.getfield 345, 3) := dk_180 1 89 (dk_at dksX0_mustBeSolvable_0 1 rfl rfl)
theorem dX0_mustBeSolvable_4 : decode cX0_mustBeSolvable 4 = .ok (.istore_n 1, 1) := dk_60 (dk_at dksX0_mustBeSolvable_0 4 rfl rfl)
theorem dX0_mustBeSolvable_5 : decode cX0_mustBeSolvable 5 = .ok (.iload_n 1, 1) := dk_27 (dk_at dksX0_mustBeSolvable_0 5 rfl rfl)
theorem dX0_mustBeSolvable_6 : decode cX0_mustBeSolvable 6 = .ok (.aload_n 0, 1) := dk_42 (dk_at dksX0_mustBeSolvable_0 6 rfl rfl)
theorem dX0_mustBeSolvable_7 : decode cX0_mustBeSolvable 7 = .ok (.getfield 289, 3) := dk_180 1 33 (dk_at dksX0_mustBeSolvable_0 7 rfl rfl)
theorem dX0_mustBeSolvable_10 : decode cX0_mustBeSolvable 10 = .ok (.if_icmp .ge 28, 3) := dk_162 0 28 (dk_at dksX0_mustBeSolvable_0 10 rfl rfl)
theorem dX0_mustBeSolvable_13 : decode cX0_mustBeSolvable 13 = .ok (.aload_n 0, 1) := dk_42 (dk_at dksX0_mustBeSolvable_0 13 rfl rfl)
theorem dX0_mustBeSolvable_14 : decode cX0_mustBeSolvable 14 = .ok (.iload_n 1, 1) := dk_27 (dk_at dksX0_mustBeSolvable_0 14 rfl rfl)
theorem dX0_mustBeSolvable_15 : decode cX0_mustBeSolvable 15 = .ok (.aload_n 0, 1) := dk_42 (dk_at dksX0_mustBeSolvable_0 15 rfl rfl)
theorem dX0_mustBeSolvable_16 : decode cX0_mustBeSolvable 16 = .ok (.getfield 292, 3) := dk_180 1 36 (dk_at dksX0_mustBeSolvable_0 16 rfl rfl)
theorem dX0_mustBeSolvable_19 : decode cX0_mustBeSolvable 19 = .ok (.invokevirtual 332, 3) := dk_182 1 76 (dk_at dksX0_mustBeSolvable_0 19 rfl rfl)
theorem dX0_mustBeSolvable_22 : decode cX0_mustBeSolvable 22 = .ok (.lconst 0, 1) := dk_9 (dk_at dksX0_mustBeSolvable_0 22 rfl rfl)
theorem dX0_mustBeSolvable_23 : decode cX0_mustBeSolvable 23 = .ok (.lcmp, 1) := dk_148 (dk_at dksX0_mustBeSolvable_0 23 rfl rfl)
theorem dX0_mustBeSolvable_24 : decode cX0_mustBeSolvable 24 = .ok (.ifCond .eq 8, 3) := dk_153 0 8 (dk_at dksX0_mustBeSolvable_1 0 rfl rfl)
theorem dX0_mustBeSolvable_27 : decode cX0_mustBeSolvable 27 = .ok (.aload_n 0, 1) := dk_42 (dk_at dksX0_mustBeSolvable_1 3 rfl rfl)
theorem dX0_mustBeSolvable_28 : decode cX0_mustBeSolvable 28 = .ok (.getfield 55, 3) := dk_180 0 55 (dk_at dksX0_mustBeSolvable_1 4 rfl rfl)
theorem dX0_mustBeSolvable_31 : decode cX0_mustBeSolvable 31 = .ok (.athrow, 1) := dk_191 (dk_at dksX0_mustBeSolvable_1 7 rfl rfl)
theorem dX0_mustBeSolvable_32 : decode cX0_mustBeSolvable 32 = .ok (.iinc 1 1, 3) := dk_132 1 1 (dk_at dksX0_mustBeSolvable_1 8 rfl rfl)
theorem dX0_mustBeSolvable_35 : decode cX0_mustBeSolvable 35 = .ok (.goto (-30), 3) := dk_167 255 226 (dk_at dksX0_mustBeSolvable_1 11 rfl rfl)
theorem dX0_mustBeSolvable_38 : decode cX0_mustBeSolvable 38 = .ok (.return_, 1) := dk_177 (dk_at dksX0_mustBeSolvable_1 14 rfl rfl)
abbrev cX0_change : ByteArray := prog_1_method_59_code
def yX0_change : MethodName := ⟨RX0, "change", "(III)I"⟩
def dkwX0_change_2 : List UInt8 := [21, 4, 172]
abbrev dktX0_change_2 : List UInt8 := dkwX0_change_2 ++ []
def dkwX0_change_1 : List UInt8 := [42, 180, 0, 72, 27, 50, 182, 1, 154, 54, 4, 42, 180, 0, 72, 27, 28, 27, 29, 184, 1, 144, 83]
abbrev dktX0_change_1 : List UInt8 := dkwX0_change_1 ++ dktX0_change_2
def dkwX0_change_0 : List UInt8 := [42, 27, 182, 1, 148, 153, 0, 17, 28, 184, 1, 138, 153, 0, 10, 29, 184, 1, 141, 154, 0, 5, 2, 172]
abbrev dktX0_change_0 : List UInt8 := dkwX0_change_0 ++ dktX0_change_1
theorem dksX0_change_0 : cX0_change.data.toList.drop 0 = dktX0_change_0 := by decide +kernel
theorem dksX0_change_1 : cX0_change.data.toList.drop 24 = dktX0_change_1 := dk_seg dksX0_change_0 24 rfl rfl
theorem dksX0_change_2 : cX0_change.data.toList.drop 47 = dktX0_change_2 := dk_seg dksX0_change_1 23 rfl rfl
theorem dX0_change_0 : decode cX0_change 0 = .ok (.aload_n 0, 1) := dk_42 (dk_at dksX0_change_0 0 rfl rfl)
theorem dX0_change_1 : decode cX0_change 1 = .ok (.iload_n 1, 1) := dk_27 (dk_at dksX0_change_0 1 rfl rfl)
theorem dX0_change_2 : decode cX0_change 2 = .ok (.invokevirtual 404, 3) := dk_182 1 148 (dk_at dksX0_change_0 2 rfl rfl)
theorem dX0_change_5 : decode cX0_change 5 = .ok (.ifCond .eq 17, 3) := dk_153 0 17 (dk_at dksX0_change_0 5 rfl rfl)
theorem dX0_change_8 : decode cX0_change 8 = .ok (.iload_n 2, 1) := dk_28 (dk_at dksX0_change_0 8 rfl rfl)
theorem dX0_change_9 : decode cX0_change 9 = .ok (.invokestatic 394, 3) := dk_184 1 138 (dk_at dksX0_change_0 9 rfl rfl)
theorem dX0_change_12 : decode cX0_change 12 = .ok (.ifCond .eq 10, 3) := dk_153 0 10 (dk_at dksX0_change_0 12 rfl rfl)
theorem dX0_change_15 : decode cX0_change 15 = .ok (.iload_n 3, 1) := dk_29 (dk_at dksX0_change_0 15 rfl rfl)
theorem dX0_change_16 : decode cX0_change 16 = .ok (.invokestatic 397, 3) := dk_184 1 141 (dk_at dksX0_change_0 16 rfl rfl)
theorem dX0_change_19 : decode cX0_change 19 = .ok (.ifCond .ne 5, 3) := dk_154 0 5 (dk_at dksX0_change_0 19 rfl rfl)
theorem dX0_change_22 : decode cX0_change 22 = .ok (.iconst (-1), 1) := dk_2 (dk_at dksX0_change_0 22 rfl rfl)
theorem dX0_change_23 : decode cX0_change 23 = .ok (.ireturn, 1) := dk_172 (dk_at dksX0_change_0 23 rfl rfl)
theorem dX0_change_24 : decode cX0_change 24 = .ok (.aload_n 0, 1) := dk_42 (dk_at dksX0_change_1 0 rfl rfl)
theorem dX0_change_25 : decode cX0_change 25 = .ok (.getfield 72, 3) := dk_180 0 72 (dk_at dksX0_change_1 1 rfl rfl)
theorem dX0_change_28 : decode cX0_change 28 = .ok (.iload_n 1, 1) := dk_27 (dk_at dksX0_change_1 4 rfl rfl)
theorem dX0_change_29 : decode cX0_change 29 = .ok (.aaload, 1) := dk_50 (dk_at dksX0_change_1 5 rfl rfl)
theorem dX0_change_30 : decode cX0_change 30 = .ok (.invokevirtual 410, 3) := dk_182 1 154 (dk_at dksX0_change_1 6 rfl rfl)
theorem dX0_change_33 : decode cX0_change 33 = .ok (.istore 4, 2) := dk_54 4 (dk_at dksX0_change_1 9 rfl rfl)
theorem dX0_change_35 : decode cX0_change 35 = .ok (.aload_n 0, 1) := dk_42 (dk_at dksX0_change_1 11 rfl rfl)
theorem dX0_change_36 : decode cX0_change 36 = .ok (.getfield 72, 3) := dk_180 0 72 (dk_at dksX0_change_1 12 rfl rfl)
theorem dX0_change_39 : decode cX0_change 39 = .ok (.iload_n 1, 1) := dk_27 (dk_at dksX0_change_1 15 rfl rfl)
theorem dX0_change_40 : decode cX0_change 40 = .ok (.iload_n 2, 1) := dk_28 (dk_at dksX0_change_1 16 rfl rfl)
theorem dX0_change_41 : decode cX0_change 41 = .ok (.iload_n 1, 1) := dk_27 (dk_at dksX0_change_1 17 rfl rfl)
theorem dX0_change_42 : decode cX0_change 42 = .ok (.iload_n 3, 1) := dk_29 (dk_at dksX0_change_1 18 rfl rfl)
theorem dX0_change_43 : decode cX0_change 43 = .ok (.invokestatic 400, 3) := dk_184 1 144 (dk_at dksX0_change_1 19 rfl rfl)
theorem dX0_change_46 : decode cX0_change 46 = .ok (.aastore, 1) := dk_83 (dk_at dksX0_change_1 22 rfl rfl)
theorem dX0_change_47 : decode cX0_change 47 = .ok (.iload 4, 2) := dk_21 4 (dk_at dksX0_change_2 0 rfl rfl)
theorem dX0_change_49 : decode cX0_change 49 = .ok (.ireturn, 1) := dk_172 (dk_at dksX0_change_2 2 rfl rfl)
abbrev cX0_right : ByteArray := prog_1_method_60_code
def yX0_right : MethodName := ⟨RX0, "right", "(III)J"⟩
def dkwX0_right_2 : List UInt8 := [180, 0, 62, 28, 29, 182, 1, 56, 167, 0, 8, 16, 252, 184, 0, 203, 173]
abbrev dktX0_right_2 : List UInt8 := dkwX0_right_2 ++ []
def dkwX0_right_1 : List UInt8 := [184, 0, 203, 173, 42, 42, 180, 0, 72, 27, 50, 182, 0, 147, 153, 0, 21, 42, 180, 0, 72, 27, 50, 42]
abbrev dktX0_right_1 : List UInt8 := dkwX0_right_1 ++ dktX0_right_2
def dkwX0_right_0 : List UInt8 := [42, 27, 182, 1, 148, 153, 0, 18, 42, 180, 0, 62, 180, 1, 169, 28, 29, 182, 0, 164, 154, 0, 8, 2]
abbrev dktX0_right_0 : List UInt8 := dkwX0_right_0 ++ dktX0_right_1
theorem dksX0_right_0 : cX0_right.data.toList.drop 0 = dktX0_right_0 := by decide +kernel
theorem dksX0_right_1 : cX0_right.data.toList.drop 24 = dktX0_right_1 := dk_seg dksX0_right_0 24 rfl rfl
theorem dksX0_right_2 : cX0_right.data.toList.drop 48 = dktX0_right_2 := dk_seg dksX0_right_1 24 rfl rfl
theorem dX0_right_0 : decode cX0_right 0 = .ok (.aload_n 0, 1) := dk_42 (dk_at dksX0_right_0 0 rfl rfl)
theorem dX0_right_1 : decode cX0_right 1 = .ok (.iload_n 1, 1) := dk_27 (dk_at dksX0_right_0 1 rfl rfl)
theorem dX0_right_2 : decode cX0_right 2 = .ok (.invokevirtual 404, 3) := dk_182 1 148 (dk_at dksX0_right_0 2 rfl rfl)
theorem dX0_right_5 : decode cX0_right 5 = .ok (.ifCond .eq 18, 3) := dk_153 0 18 (dk_at dksX0_right_0 5 rfl rfl)
theorem dX0_right_8 : decode cX0_right 8 = .ok (.aload_n 0, 1) := dk_42 (dk_at dksX0_right_0 8 rfl rfl)
theorem dX0_right_9 : decode cX0_right 9 = .ok (.getfield 62, 3) := dk_180 0 62 (dk_at dksX0_right_0 9 rfl rfl)
theorem dX0_right_12 : decode cX0_right 12 = .ok (.getfield 425, 3) := dk_180 1 169 (dk_at dksX0_right_0 12 rfl rfl)
theorem dX0_right_15 : decode cX0_right 15 = .ok (.iload_n 2, 1) := dk_28 (dk_at dksX0_right_0 15 rfl rfl)
theorem dX0_right_16 : decode cX0_right 16 = .ok (.iload_n 3, 1) := dk_29 (dk_at dksX0_right_0 16 rfl rfl)
theorem dX0_right_17 : decode cX0_right 17 = .ok (.invokevirtual 164, 3) := dk_182 0 164 (dk_at dksX0_right_0 17 rfl rfl)
theorem dX0_right_20 : decode cX0_right 20 = .ok (.ifCond .ne 8, 3) := dk_154 0 8 (dk_at dksX0_right_0 20 rfl rfl)
theorem dX0_right_23 : decode cX0_right 23 = .ok (.iconst (-1), 1) := dk_2 (dk_at dksX0_right_0 23 rfl rfl)
theorem dX0_right_24 : decode cX0_right 24 = .ok (.invokestatic 203, 3) := dk_184 0 203 (dk_at dksX0_right_1 0 rfl rfl)
theorem dX0_right_27 : decode cX0_right 27 = .ok (.lreturn, 1) := dk_173 (dk_at dksX0_right_1 3 rfl rfl)
theorem dX0_right_28 : decode cX0_right 28 = .ok (.aload_n 0, 1) := dk_42 (dk_at dksX0_right_1 4 rfl rfl)
theorem dX0_right_29 : decode cX0_right 29 = .ok (.aload_n 0, 1) := dk_42 (dk_at dksX0_right_1 5 rfl rfl)
theorem dX0_right_30 : decode cX0_right 30 = .ok (.getfield 72, 3) := dk_180 0 72 (dk_at dksX0_right_1 6 rfl rfl)
theorem dX0_right_33 : decode cX0_right 33 = .ok (.iload_n 1, 1) := dk_27 (dk_at dksX0_right_1 9 rfl rfl)
theorem dX0_right_34 : decode cX0_right 34 = .ok (.aaload, 1) := dk_50 (dk_at dksX0_right_1 10 rfl rfl)
theorem dX0_right_35 : decode cX0_right 35 = .ok (.invokevirtual 147, 3) := dk_182 0 147 (dk_at dksX0_right_1 11 rfl rfl)
theorem dX0_right_38 : decode cX0_right 38 = .ok (.ifCond .eq 21, 3) := dk_153 0 21 (dk_at dksX0_right_1 14 rfl rfl)
theorem dX0_right_41 : decode cX0_right 41 = .ok (.aload_n 0, 1) := dk_42 (dk_at dksX0_right_1 17 rfl rfl)
theorem dX0_right_42 : decode cX0_right 42 = .ok (.getfield 72, 3) := dk_180 0 72 (dk_at dksX0_right_1 18 rfl rfl)
theorem dX0_right_45 : decode cX0_right 45 = .ok (.iload_n 1, 1) := dk_27 (dk_at dksX0_right_1 21 rfl rfl)
theorem dX0_right_46 : decode cX0_right 46 = .ok (.aaload, 1) := dk_50 (dk_at dksX0_right_1 22 rfl rfl)
theorem dX0_right_47 : decode cX0_right 47 = .ok (.aload_n 0, 1) := dk_42 (dk_at dksX0_right_1 23 rfl rfl)
theorem dX0_right_48 : decode cX0_right 48 = .ok (.getfield 62, 3) := dk_180 0 62 (dk_at dksX0_right_2 0 rfl rfl)
theorem dX0_right_51 : decode cX0_right 51 = .ok (.iload_n 2, 1) := dk_28 (dk_at dksX0_right_2 3 rfl rfl)
theorem dX0_right_52 : decode cX0_right 52 = .ok (.iload_n 3, 1) := dk_29 (dk_at dksX0_right_2 4 rfl rfl)
theorem dX0_right_53 : decode cX0_right 53 = .ok (.invokevirtual 312, 3) := dk_182 1 56 (dk_at dksX0_right_2 5 rfl rfl)
theorem dX0_right_56 : decode cX0_right 56 = .ok (.goto 8, 3) := dk_167 0 8 (dk_at dksX0_right_2 8 rfl rfl)
theorem dX0_right_59 : decode cX0_right 59 = .ok (.bipush (-4), 2) := dk_16 252 (dk_at dksX0_right_2 11 rfl rfl)
theorem dX0_right_61 : decode cX0_right 61 = .ok (.invokestatic 203, 3) := dk_184 0 203 (dk_at dksX0_right_2 13 rfl rfl)
theorem dX0_right_64 : decode cX0_right 64 = .ok (.lreturn, 1) := dk_173 (dk_at dksX0_right_2 16 rfl rfl)
abbrev cX0_solution : ByteArray := prog_1_method_62_code
def yX0_solution : MethodName := ⟨RX0, "solution", "(IIII)J"⟩
def dkwX0_solution_4 : List UInt8 := [184, 0, 203, 173]
abbrev dktX0_solution_4 : List UInt8 := dkwX0_solution_4 ++ []
def dkwX0_solution_3 : List UInt8 := [180, 0, 62, 180, 0, 137, 182, 1, 43, 42, 180, 1, 36, 3, 21, 4, 182, 1, 171, 173, 58, 6, 16, 253]
abbrev dktX0_solution_3 : List UInt8 := dkwX0_solution_3 ++ dktX0_solution_4
def dkwX0_solution_2 : List UInt8 := [182, 1, 151, 154, 0, 9, 16, 252, 184, 0, 203, 173, 42, 25, 5, 182, 1, 107, 42, 25, 5, 28, 29, 42]
abbrev dktX0_solution_2 : List UInt8 := dkwX0_solution_2 ++ dktX0_solution_3
def dkwX0_solution_1 : List UInt8 := [21, 4, 184, 1, 129, 154, 0, 8, 2, 184, 0, 203, 173, 42, 180, 0, 72, 27, 50, 58, 5, 42, 25, 5]
abbrev dktX0_solution_1 : List UInt8 := dkwX0_solution_1 ++ dktX0_solution_2
def dkwX0_solution_0 : List UInt8 := [42, 27, 182, 1, 148, 153, 0, 26, 42, 180, 0, 62, 180, 1, 67, 28, 29, 182, 0, 164, 153, 0, 11]
abbrev dktX0_solution_0 : List UInt8 := dkwX0_solution_0 ++ dktX0_solution_1
theorem dksX0_solution_0 : cX0_solution.data.toList.drop 0 = dktX0_solution_0 := by decide +kernel
theorem dksX0_solution_1 : cX0_solution.data.toList.drop 23 = dktX0_solution_1 := dk_seg dksX0_solution_0 23 rfl rfl
theorem dksX0_solution_2 : cX0_solution.data.toList.drop 47 = dktX0_solution_2 := dk_seg dksX0_solution_1 24 rfl rfl
theorem dksX0_solution_3 : cX0_solution.data.toList.drop 71 = dktX0_solution_3 := dk_seg dksX0_solution_2 24 rfl rfl
theorem dksX0_solution_4 : cX0_solution.data.toList.drop 95 = dktX0_solution_4 := dk_seg dksX0_solution_3 24 rfl rfl
theorem dX0_solution_0 : decode cX0_solution 0 = .ok (.aload_n 0, 1) := dk_42 (dk_at dksX0_solution_0 0 rfl rfl)
theorem dX0_solution_1 : decode cX0_solution 1 = .ok (.iload_n 1, 1) := dk_27 (dk_at dksX0_solution_0 1 rfl rfl)
theorem dX0_solution_2 : decode cX0_solution 2 = .ok (.invokevirtual 404, 3) := dk_182 1 148 (dk_at dksX0_solution_0 2 rfl rfl)
theorem dX0_solution_5 : decode cX0_solution 5 = .ok (.ifCond .eq 26, 3) := dk_153 0 26 (dk_at dksX0_solution_0 5 rfl rfl)
theorem dX0_solution_8 : decode cX0_solution 8 = .ok (.aload_n 0, 1) := dk_42 (dk_at dksX0_solution_0 8 rfl rfl)
theorem dX0_solution_9 : decode cX0_solution 9 = .ok (.getfield 62, 3) := dk_180 0 62 (dk_at dksX0_solution_0 9 rfl rfl)
theorem dX0_solution_12 : decode cX0_solution 12 = .ok (.getfield 323, 3) := dk_180 1 67 (dk_at dksX0_solution_0 12 rfl rfl)
theorem dX0_solution_15 : decode cX0_solution 15 = .ok (.iload_n 2, 1) := dk_28 (dk_at dksX0_solution_0 15 rfl rfl)
theorem dX0_solution_16 : decode cX0_solution 16 = .ok (.iload_n 3, 1) := dk_29 (dk_at dksX0_solution_0 16 rfl rfl)
theorem dX0_solution_17 : decode cX0_solution 17 = .ok (.invokevirtual 164, 3) := dk_182 0 164 (dk_at dksX0_solution_0 17 rfl rfl)
theorem dX0_solution_20 : decode cX0_solution 20 = .ok (.ifCond .eq 11, 3) := dk_153 0 11 (dk_at dksX0_solution_0 20 rfl rfl)
theorem dX0_solution_23 : decode cX0_solution 23 = .ok (.iload 4, 2) := dk_21 4 (dk_at dksX0_solution_1 0 rfl rfl)
theorem dX0_solution_25 : decode cX0_solution 25 = .ok (.invokestatic 385, 3) := dk_184 1 129 (dk_at dksX0_solution_1 2 rfl rfl)
theorem dX0_solution_28 : decode cX0_solution 28 = .ok (.ifCond .ne 8, 3) := dk_154 0 8 (dk_at dksX0_solution_1 5 rfl rfl)
theorem dX0_solution_31 : decode cX0_solution 31 = .ok (.iconst (-1), 1) := dk_2 (dk_at dksX0_solution_1 8 rfl rfl)
theorem dX0_solution_32 : decode cX0_solution 32 = .ok (.invokestatic 203, 3) := dk_184 0 203 (dk_at dksX0_solution_1 9 rfl rfl)
theorem dX0_solution_35 : decode cX0_solution 35 = .ok (.lreturn, 1) := dk_173 (dk_at dksX0_solution_1 12 rfl rfl)
theorem dX0_solution_36 : decode cX0_solution 36 = .ok (.aload_n 0, 1) := dk_42 (dk_at dksX0_solution_1 13 rfl rfl)
theorem dX0_solution_37 : decode cX0_solution 37 = .ok (.getfield 72, 3) := dk_180 0 72 (dk_at dksX0_solution_1 14 rfl rfl)
theorem dX0_solution_40 : decode cX0_solution 40 = .ok (.iload_n 1, 1) := dk_27 (dk_at dksX0_solution_1 17 rfl rfl)
theorem dX0_solution_41 : decode cX0_solution 41 = .ok (.aaload, 1) := dk_50 (dk_at dksX0_solution_1 18 rfl rfl)
theorem dX0_solution_42 : decode cX0_solution 42 = .ok (.astore 5, 2) := dk_58 5 (dk_at dksX0_solution_1 19 rfl rfl)
theorem dX0_solution_44 : decode cX0_solution 44 = .ok (.aload_n 0, 1) := dk_42 (dk_at dksX0_solution_1 21 rfl rfl)
theorem dX0_solution_45 : decode cX0_solution 45 = .ok (.aload 5, 2) := dk_25 5 (dk_at dksX0_solution_1 22 rfl rfl)
theorem dX0_solution_47 : decode cX0_solution 47 = .ok (.invokevirtual 407, 3) := dk_182 1 151 (dk_at dksX0_solution_2 0 rfl rfl)
theorem dX0_solution_50 : decode cX0_solution 50 = .ok (.ifCond .ne 9, 3) := dk_154 0 9 (dk_at dksX0_solution_2 3 rfl rfl)
theorem dX0_solution_53 : decode cX0_solution 53 = .ok (.bipush (-4), 2) := dk_16 252 (dk_at dksX0_solution_2 6 rfl rfl)
theorem dX0_solution_55 : decode cX0_solution 55 = .ok (.invokestatic 203, 3) := dk_184 0 203 (dk_at dksX0_solution_2 8 rfl rfl)
theorem dX0_solution_58 : decode cX0_solution 58 = .ok (.lreturn, 1) := dk_173 (dk_at dksX0_solution_2 11 rfl rfl)
theorem dX0_solution_59 : decode cX0_solution 59 = .ok (.aload_n 0, 1) := dk_42 (dk_at dksX0_solution_2 12 rfl rfl)
theorem dX0_solution_60 : decode cX0_solution 60 = .ok (.aload 5, 2) := dk_25 5 (dk_at dksX0_solution_2 13 rfl rfl)
theorem dX0_solution_62 : decode cX0_solution 62 = .ok (.invokevirtual 363, 3) := dk_182 1 107 (dk_at dksX0_solution_2 15 rfl rfl)
theorem dX0_solution_65 : decode cX0_solution 65 = .ok (.aload_n 0, 1) := dk_42 (dk_at dksX0_solution_2 18 rfl rfl)
theorem dX0_solution_66 : decode cX0_solution 66 = .ok (.aload 5, 2) := dk_25 5 (dk_at dksX0_solution_2 19 rfl rfl)
theorem dX0_solution_68 : decode cX0_solution 68 = .ok (.iload_n 2, 1) := dk_28 (dk_at dksX0_solution_2 21 rfl rfl)
theorem dX0_solution_69 : decode cX0_solution 69 = .ok (.iload_n 3, 1) := dk_29 (dk_at dksX0_solution_2 22 rfl rfl)
theorem dX0_solution_70 : decode cX0_solution 70 = .ok (.aload_n 0, 1) := dk_42 (dk_at dksX0_solution_2 23 rfl rfl)
theorem dX0_solution_71 : decode cX0_solution 71 = .ok (.getfield 62, 3) := dk_180 0 62 (dk_at dksX0_solution_3 0 rfl rfl)
theorem dX0_solution_74 : decode cX0_solution 74 = .ok (.getfield 137, 3) := dk_180 0 137 (dk_at dksX0_solution_3 3 rfl rfl)
theorem dX0_solution_77 : decode cX0_solution 77 = .ok (.invokevirtual 299, 3) := dk_182 1 43 (dk_at dksX0_solution_3 6 rfl rfl)
theorem dX0_solution_80 : decode cX0_solution 80 = .ok (.aload_n 0, 1) := dk_42 (dk_at dksX0_solution_3 9 rfl rfl)
theorem dX0_solution_81 : decode cX0_solution 81 = .ok (.getfield 292, 3) := dk_180 1 36 (dk_at dksX0_solution_3 10 rfl rfl)
theorem dX0_solution_84 : decode cX0_solution 84 = .ok (.iconst 0, 1) := dk_3 (dk_at dksX0_solution_3 13 rfl rfl)
theorem dX0_solution_85 : decode cX0_solution 85 = .ok (.iload 4, 2) := dk_21 4 (dk_at dksX0_solution_3 14 rfl rfl)
theorem dX0_solution_87 : decode cX0_solution 87 = .ok (.invokevirtual 427, 3) := dk_182 1 171 (dk_at dksX0_solution_3 16 rfl rfl)
theorem dX0_solution_90 : decode cX0_solution 90 = .ok (.lreturn, 1) := dk_173 (dk_at dksX0_solution_3 19 rfl rfl)
theorem dX0_solution_91 : decode cX0_solution 91 = .ok (.astore 6, 2) := dk_58 6 (dk_at dksX0_solution_3 20 rfl rfl)
theorem dX0_solution_93 : decode cX0_solution 93 = .ok (.bipush (-3), 2) := dk_16 253 (dk_at dksX0_solution_3 22 rfl rfl)
theorem dX0_solution_95 : decode cX0_solution 95 = .ok (.invokestatic 203, 3) := dk_184 0 203 (dk_at dksX0_solution_4 0 rfl rfl)
theorem dX0_solution_98 : decode cX0_solution 98 = .ok (.lreturn, 1) := dk_173 (dk_at dksX0_solution_4 3 rfl rfl)
abbrev cX0_bound : ByteArray := prog_1_method_61_code
def yX0_bound : MethodName := ⟨RX0, "bound", "(IIZI)J"⟩
def dkwX0_bound_3 : List UInt8 := [160, 0, 8, 22, 6, 167, 0, 6, 22, 6, 117, 42, 180, 1, 85, 21, 4, 184, 1, 134, 173]
abbrev dktX0_bound_3 : List UInt8 := dkwX0_bound_3 ++ []
def dkwX0_bound_2 : List UInt8 := [42, 42, 180, 0, 103, 21, 5, 46, 28, 182, 1, 76, 55, 6, 27, 156, 0, 7, 4, 167, 0, 4, 3, 29]
abbrev dktX0_bound_2 : List UInt8 := dkwX0_bound_2 ++ dktX0_bound_3
def dkwX0_bound_1 : List UInt8 := [155, 0, 20, 42, 42, 180, 0, 103, 21, 5, 46, 28, 182, 1, 76, 9, 148, 154, 0, 7, 21, 4, 133, 173]
abbrev dktX0_bound_1 : List UInt8 := dkwX0_bound_1 ++ dktX0_bound_2
def dkwX0_bound_0 : List UInt8 := [27, 154, 0, 7, 21, 4, 133, 173, 27, 184, 1, 39, 4, 100, 54, 5, 42, 180, 0, 103, 21, 5, 46]
abbrev dktX0_bound_0 : List UInt8 := dkwX0_bound_0 ++ dktX0_bound_1
theorem dksX0_bound_0 : cX0_bound.data.toList.drop 0 = dktX0_bound_0 := by decide +kernel
theorem dksX0_bound_1 : cX0_bound.data.toList.drop 23 = dktX0_bound_1 := dk_seg dksX0_bound_0 23 rfl rfl
theorem dksX0_bound_2 : cX0_bound.data.toList.drop 47 = dktX0_bound_2 := dk_seg dksX0_bound_1 24 rfl rfl
theorem dksX0_bound_3 : cX0_bound.data.toList.drop 71 = dktX0_bound_3 := dk_seg dksX0_bound_2 24 rfl rfl
theorem dX0_bound_0 : decode cX0_bound 0 = .ok (.iload_n 1, 1) := dk_27 (dk_at dksX0_bound_0 0 rfl rfl)
theorem dX0_bound_1 : decode cX0_bound 1 = .ok (.ifCond .ne 7, 3) := dk_154 0 7 (dk_at dksX0_bound_0 1 rfl rfl)
theorem dX0_bound_4 : decode cX0_bound 4 = .ok (.iload 4, 2) := dk_21 4 (dk_at dksX0_bound_0 4 rfl rfl)
theorem dX0_bound_6 : decode cX0_bound 6 = .ok (.i2l, 1) := dk_133 (dk_at dksX0_bound_0 6 rfl rfl)
theorem dX0_bound_7 : decode cX0_bound 7 = .ok (.lreturn, 1) := dk_173 (dk_at dksX0_bound_0 7 rfl rfl)
theorem dX0_bound_8 : decode cX0_bound 8 = .ok (.iload_n 1, 1) := dk_27 (dk_at dksX0_bound_0 8 rfl rfl)
theorem dX0_bound_9 : decode cX0_bound 9 = .ok (.invokestatic 295, 3) := dk_184 1 39 (dk_at dksX0_bound_0 9 rfl rfl)
theorem dX0_bound_12 : decode cX0_bound 12 = .ok (.iconst 1, 1) := dk_4 (dk_at dksX0_bound_0 12 rfl rfl)
theorem dX0_bound_13 : decode cX0_bound 13 = .ok (.isub, 1) := dk_100 (dk_at dksX0_bound_0 13 rfl rfl)
theorem dX0_bound_14 : decode cX0_bound 14 = .ok (.istore 5, 2) := dk_54 5 (dk_at dksX0_bound_0 14 rfl rfl)
theorem dX0_bound_16 : decode cX0_bound 16 = .ok (.aload_n 0, 1) := dk_42 (dk_at dksX0_bound_0 16 rfl rfl)
theorem dX0_bound_17 : decode cX0_bound 17 = .ok (.getfield 103, 3) := dk_180 0 103 (dk_at dksX0_bound_0 17 rfl rfl)
theorem dX0_bound_20 : decode cX0_bound 20 = .ok (.iload 5, 2) := dk_21 5 (dk_at dksX0_bound_0 20 rfl rfl)
theorem dX0_bound_22 : decode cX0_bound 22 = .ok (.iaload, 1) := dk_46 (dk_at dksX0_bound_0 22 rfl rfl)
theorem dX0_bound_23 : decode cX0_bound 23 = .ok (.ifCond .lt 20, 3) := dk_155 0 20 (dk_at dksX0_bound_1 0 rfl rfl)
theorem dX0_bound_26 : decode cX0_bound 26 = .ok (.aload_n 0, 1) := dk_42 (dk_at dksX0_bound_1 3 rfl rfl)
theorem dX0_bound_27 : decode cX0_bound 27 = .ok (.aload_n 0, 1) := dk_42 (dk_at dksX0_bound_1 4 rfl rfl)
theorem dX0_bound_28 : decode cX0_bound 28 = .ok (.getfield 103, 3) := dk_180 0 103 (dk_at dksX0_bound_1 5 rfl rfl)
theorem dX0_bound_31 : decode cX0_bound 31 = .ok (.iload 5, 2) := dk_21 5 (dk_at dksX0_bound_1 8 rfl rfl)
theorem dX0_bound_33 : decode cX0_bound 33 = .ok (.iaload, 1) := dk_46 (dk_at dksX0_bound_1 10 rfl rfl)
theorem dX0_bound_34 : decode cX0_bound 34 = .ok (.iload_n 2, 1) := dk_28 (dk_at dksX0_bound_1 11 rfl rfl)
theorem dX0_bound_35 : decode cX0_bound 35 = .ok (.invokevirtual 332, 3) := dk_182 1 76 (dk_at dksX0_bound_1 12 rfl rfl)
theorem dX0_bound_38 : decode cX0_bound 38 = .ok (.lconst 0, 1) := dk_9 (dk_at dksX0_bound_1 15 rfl rfl)
theorem dX0_bound_39 : decode cX0_bound 39 = .ok (.lcmp, 1) := dk_148 (dk_at dksX0_bound_1 16 rfl rfl)
theorem dX0_bound_40 : decode cX0_bound 40 = .ok (.ifCond .ne 7, 3) := dk_154 0 7 (dk_at dksX0_bound_1 17 rfl rfl)
theorem dX0_bound_43 : decode cX0_bound 43 = .ok (.iload 4, 2) := dk_21 4 (dk_at dksX0_bound_1 20 rfl rfl)
theorem dX0_bound_45 : decode cX0_bound 45 = .ok (.i2l, 1) := dk_133 (dk_at dksX0_bound_1 22 rfl rfl)
theorem dX0_bound_46 : decode cX0_bound 46 = .ok (.lreturn, 1) := dk_173 (dk_at dksX0_bound_1 23 rfl rfl)
theorem dX0_bound_47 : decode cX0_bound 47 = .ok (.aload_n 0, 1) := dk_42 (dk_at dksX0_bound_2 0 rfl rfl)
theorem dX0_bound_48 : decode cX0_bound 48 = .ok (.aload_n 0, 1) := dk_42 (dk_at dksX0_bound_2 1 rfl rfl)
theorem dX0_bound_49 : decode cX0_bound 49 = .ok (.getfield 103, 3) := dk_180 0 103 (dk_at dksX0_bound_2 2 rfl rfl)
theorem dX0_bound_52 : decode cX0_bound 52 = .ok (.iload 5, 2) := dk_21 5 (dk_at dksX0_bound_2 5 rfl rfl)
theorem dX0_bound_54 : decode cX0_bound 54 = .ok (.iaload, 1) := dk_46 (dk_at dksX0_bound_2 7 rfl rfl)
theorem dX0_bound_55 : decode cX0_bound 55 = .ok (.iload_n 2, 1) := dk_28 (dk_at dksX0_bound_2 8 rfl rfl)
theorem dX0_bound_56 : decode cX0_bound 56 = .ok (.invokevirtual 332, 3) := dk_182 1 76 (dk_at dksX0_bound_2 9 rfl rfl)
theorem dX0_bound_59 : decode cX0_bound 59 = .ok (.lstore 6, 2) := dk_55 6 (dk_at dksX0_bound_2 12 rfl rfl)
theorem dX0_bound_61 : decode cX0_bound 61 = .ok (.iload_n 1, 1) := dk_27 (dk_at dksX0_bound_2 14 rfl rfl)
theorem dX0_bound_62 : decode cX0_bound 62 = .ok (.ifCond .ge 7, 3) := dk_156 0 7 (dk_at dksX0_bound_2 15 rfl rfl)
theorem dX0_bound_65 : decode cX0_bound 65 = .ok (.iconst 1, 1) := dk_4 (dk_at dksX0_bound_2 18 rfl rfl)
theorem dX0_bound_66 : decode cX0_bound 66 = .ok (.goto 4, 3) := dk_167 0 4 (dk_at dksX0_bound_2 19 rfl rfl)
theorem dX0_bound_69 : decode cX0_bound 69 = .ok (.iconst 0, 1) := dk_3 (dk_at dksX0_bound_2 22 rfl rfl)
theorem dX0_bound_70 : decode cX0_bound 70 = .ok (.iload_n 3, 1) := dk_29 (dk_at dksX0_bound_2 23 rfl rfl)
theorem dX0_bound_71 : decode cX0_bound 71 = .ok (.if_icmp .ne 8, 3) := dk_160 0 8 (dk_at dksX0_bound_3 0 rfl rfl)
theorem dX0_bound_74 : decode cX0_bound 74 = .ok (.lload 6, 2) := dk_22 6 (dk_at dksX0_bound_3 3 rfl rfl)
theorem dX0_bound_76 : decode cX0_bound 76 = .ok (.goto 6, 3) := dk_167 0 6 (dk_at dksX0_bound_3 5 rfl rfl)
theorem dX0_bound_79 : decode cX0_bound 79 = .ok (.lload 6, 2) := dk_22 6 (dk_at dksX0_bound_3 8 rfl rfl)
theorem dX0_bound_81 : decode cX0_bound 81 = .ok (.lneg, 1) := dk_117 (dk_at dksX0_bound_3 10 rfl rfl)
theorem dX0_bound_82 : decode cX0_bound 82 = .ok (.aload_n 0, 1) := dk_42 (dk_at dksX0_bound_3 11 rfl rfl)
theorem dX0_bound_83 : decode cX0_bound 83 = .ok (.getfield 341, 3) := dk_180 1 85 (dk_at dksX0_bound_3 12 rfl rfl)
theorem dX0_bound_86 : decode cX0_bound 86 = .ok (.iload 4, 2) := dk_21 4 (dk_at dksX0_bound_3 15 rfl rfl)
theorem dX0_bound_88 : decode cX0_bound 88 = .ok (.invokestatic 390, 3) := dk_184 1 134 (dk_at dksX0_bound_3 17 rfl rfl)
theorem dX0_bound_91 : decode cX0_bound 91 = .ok (.lreturn, 1) := dk_173 (dk_at dksX0_bound_3 20 rfl rfl)
abbrev cX0_base : ByteArray := prog_1_method_63_code
def yX0_base : MethodName := ⟨RX0, "base", "(IIIII)J"⟩
def dkwX0_base_6 : List UInt8 := [21, 5, 182, 1, 171, 173]
abbrev dktX0_base_6 : List UInt8 := dkwX0_base_6 ++ []
def dkwX0_base_5 : List UInt8 := [21, 5, 4, 159, 0, 8, 21, 7, 158, 0, 7, 10, 167, 0, 6, 20, 1, 114, 173, 42, 21, 7, 28, 4]
abbrev dktX0_base_5 : List UInt8 := dkwX0_base_5 ++ dktX0_base_6
def dkwX0_base_4 : List UInt8 := [42, 180, 0, 62, 180, 0, 137, 182, 1, 43, 54, 7, 21, 7, 184, 1, 39, 28, 4, 96, 160, 0, 22]
abbrev dktX0_base_4 : List UInt8 := dkwX0_base_4 ++ dktX0_base_5
def dkwX0_base_3 : List UInt8 := [42, 25, 6, 182, 1, 157, 28, 122, 4, 126, 154, 0, 9, 16, 253, 184, 0, 203, 173, 25, 6, 29, 21, 4]
abbrev dktX0_base_3 : List UInt8 := dkwX0_base_3 ++ dktX0_base_4
def dkwX0_base_2 : List UInt8 := [173, 42, 180, 0, 72, 27, 50, 58, 6, 42, 25, 6, 182, 1, 151, 154, 0, 9, 16, 252, 184, 0, 203, 173]
abbrev dktX0_base_2 : List UInt8 := dkwX0_base_2 ++ dktX0_base_3
def dkwX0_base_1 : List UInt8 := [180, 1, 67, 29, 21, 4, 182, 0, 164, 153, 0, 11, 21, 5, 184, 1, 129, 154, 0, 8, 2, 184, 0, 203]
abbrev dktX0_base_1 : List UInt8 := dkwX0_base_1 ++ dktX0_base_2
def dkwX0_base_0 : List UInt8 := [42, 27, 182, 1, 148, 153, 0, 37, 28, 3, 16, 8, 184, 0, 130, 153, 0, 27, 42, 180, 0, 62]
abbrev dktX0_base_0 : List UInt8 := dkwX0_base_0 ++ dktX0_base_1
theorem dksX0_base_0 : cX0_base.data.toList.drop 0 = dktX0_base_0 := by decide +kernel
theorem dksX0_base_1 : cX0_base.data.toList.drop 22 = dktX0_base_1 := dk_seg dksX0_base_0 22 rfl rfl
theorem dksX0_base_2 : cX0_base.data.toList.drop 46 = dktX0_base_2 := dk_seg dksX0_base_1 24 rfl rfl
theorem dksX0_base_3 : cX0_base.data.toList.drop 70 = dktX0_base_3 := dk_seg dksX0_base_2 24 rfl rfl
theorem dksX0_base_4 : cX0_base.data.toList.drop 94 = dktX0_base_4 := dk_seg dksX0_base_3 24 rfl rfl
theorem dksX0_base_5 : cX0_base.data.toList.drop 117 = dktX0_base_5 := dk_seg dksX0_base_4 23 rfl rfl
theorem dksX0_base_6 : cX0_base.data.toList.drop 141 = dktX0_base_6 := dk_seg dksX0_base_5 24 rfl rfl
theorem dX0_base_0 : decode cX0_base 0 = .ok (.aload_n 0, 1) := dk_42 (dk_at dksX0_base_0 0 rfl rfl)
theorem dX0_base_1 : decode cX0_base 1 = .ok (.iload_n 1, 1) := dk_27 (dk_at dksX0_base_0 1 rfl rfl)
theorem dX0_base_2 : decode cX0_base 2 = .ok (.invokevirtual 404, 3) := dk_182 1 148 (dk_at dksX0_base_0 2 rfl rfl)
theorem dX0_base_5 : decode cX0_base 5 = .ok (.ifCond .eq 37, 3) := dk_153 0 37 (dk_at dksX0_base_0 5 rfl rfl)
theorem dX0_base_8 : decode cX0_base 8 = .ok (.iload_n 2, 1) := dk_28 (dk_at dksX0_base_0 8 rfl rfl)
theorem dX0_base_9 : decode cX0_base 9 = .ok (.iconst 0, 1) := dk_3 (dk_at dksX0_base_0 9 rfl rfl)
theorem dX0_base_10 : decode cX0_base 10 = .ok (.bipush 8, 2) := dk_16 8 (dk_at dksX0_base_0 10 rfl rfl)
theorem dX0_base_12 : decode cX0_base 12 = .ok (.invokestatic 130, 3) := dk_184 0 130 (dk_at dksX0_base_0 12 rfl rfl)
theorem dX0_base_15 : decode cX0_base 15 = .ok (.ifCond .eq 27, 3) := dk_153 0 27 (dk_at dksX0_base_0 15 rfl rfl)
theorem dX0_base_18 : decode cX0_base 18 = .ok (.aload_n 0, 1) := dk_42 (dk_at dksX0_base_0 18 rfl rfl)
theorem dX0_base_19 : decode cX0_base 19 = .ok (.getfield 62, 3) := dk_180 0 62 (dk_at dksX0_base_0 19 rfl rfl)
theorem dX0_base_22 : decode cX0_base 22 = .ok (.getfield 323, 3) := dk_180 1 67 (dk_at dksX0_base_1 0 rfl rfl)
theorem dX0_base_25 : decode cX0_base 25 = .ok (.iload_n 3, 1) := dk_29 (dk_at dksX0_base_1 3 rfl rfl)
theorem dX0_base_26 : decode cX0_base 26 = .ok (.iload 4, 2) := dk_21 4 (dk_at dksX0_base_1 4 rfl rfl)
theorem dX0_base_28 : decode cX0_base 28 = .ok (.invokevirtual 164, 3) := dk_182 0 164 (dk_at dksX0_base_1 6 rfl rfl)
theorem dX0_base_31 : decode cX0_base 31 = .ok (.ifCond .eq 11, 3) := dk_153 0 11 (dk_at dksX0_base_1 9 rfl rfl)
theorem dX0_base_34 : decode cX0_base 34 = .ok (.iload 5, 2) := dk_21 5 (dk_at dksX0_base_1 12 rfl rfl)
theorem dX0_base_36 : decode cX0_base 36 = .ok (.invokestatic 385, 3) := dk_184 1 129 (dk_at dksX0_base_1 14 rfl rfl)
theorem dX0_base_39 : decode cX0_base 39 = .ok (.ifCond .ne 8, 3) := dk_154 0 8 (dk_at dksX0_base_1 17 rfl rfl)
theorem dX0_base_42 : decode cX0_base 42 = .ok (.iconst (-1), 1) := dk_2 (dk_at dksX0_base_1 20 rfl rfl)
theorem dX0_base_43 : decode cX0_base 43 = .ok (.invokestatic 203, 3) := dk_184 0 203 (dk_at dksX0_base_1 21 rfl rfl)
theorem dX0_base_46 : decode cX0_base 46 = .ok (.lreturn, 1) := dk_173 (dk_at dksX0_base_2 0 rfl rfl)
theorem dX0_base_47 : decode cX0_base 47 = .ok (.aload_n 0, 1) := dk_42 (dk_at dksX0_base_2 1 rfl rfl)
theorem dX0_base_48 : decode cX0_base 48 = .ok (.getfield 72, 3) := dk_180 0 72 (dk_at dksX0_base_2 2 rfl rfl)
theorem dX0_base_51 : decode cX0_base 51 = .ok (.iload_n 1, 1) := dk_27 (dk_at dksX0_base_2 5 rfl rfl)
theorem dX0_base_52 : decode cX0_base 52 = .ok (.aaload, 1) := dk_50 (dk_at dksX0_base_2 6 rfl rfl)
theorem dX0_base_53 : decode cX0_base 53 = .ok (.astore 6, 2) := dk_58 6 (dk_at dksX0_base_2 7 rfl rfl)
theorem dX0_base_55 : decode cX0_base 55 = .ok (.aload_n 0, 1) := dk_42 (dk_at dksX0_base_2 9 rfl rfl)
theorem dX0_base_56 : decode cX0_base 56 = .ok (.aload 6, 2) := dk_25 6 (dk_at dksX0_base_2 10 rfl rfl)
theorem dX0_base_58 : decode cX0_base 58 = .ok (.invokevirtual 407, 3) := dk_182 1 151 (dk_at dksX0_base_2 12 rfl rfl)
theorem dX0_base_61 : decode cX0_base 61 = .ok (.ifCond .ne 9, 3) := dk_154 0 9 (dk_at dksX0_base_2 15 rfl rfl)
theorem dX0_base_64 : decode cX0_base 64 = .ok (.bipush (-4), 2) := dk_16 252 (dk_at dksX0_base_2 18 rfl rfl)
theorem dX0_base_66 : decode cX0_base 66 = .ok (.invokestatic 203, 3) := dk_184 0 203 (dk_at dksX0_base_2 20 rfl rfl)
theorem dX0_base_69 : decode cX0_base 69 = .ok (.lreturn, 1) := dk_173 (dk_at dksX0_base_2 23 rfl rfl)
theorem dX0_base_70 : decode cX0_base 70 = .ok (.aload_n 0, 1) := dk_42 (dk_at dksX0_base_3 0 rfl rfl)
theorem dX0_base_71 : decode cX0_base 71 = .ok (.aload 6, 2) := dk_25 6 (dk_at dksX0_base_3 1 rfl rfl)
theorem dX0_base_73 : decode cX0_base 73 = .ok (.invokevirtual 413, 3) := dk_182 1 157 (dk_at dksX0_base_3 3 rfl rfl)
theorem dX0_base_76 : decode cX0_base 76 = .ok (.iload_n 2, 1) := dk_28 (dk_at dksX0_base_3 6 rfl rfl)
theorem dX0_base_77 : decode cX0_base 77 = .ok (.ishr, 1) := dk_122 (dk_at dksX0_base_3 7 rfl rfl)
theorem dX0_base_78 : decode cX0_base 78 = .ok (.iconst 1, 1) := dk_4 (dk_at dksX0_base_3 8 rfl rfl)
theorem dX0_base_79 : decode cX0_base 79 = .ok (.iand, 1) := dk_126 (dk_at dksX0_base_3 9 rfl rfl)
theorem dX0_base_80 : decode cX0_base 80 = .ok (.ifCond .ne 9, 3) := dk_154 0 9 (dk_at dksX0_base_3 10 rfl rfl)
theorem dX0_base_83 : decode cX0_base 83 = .ok (.bipush (-3), 2) := dk_16 253 (dk_at dksX0_base_3 13 rfl rfl)
theorem dX0_base_85 : decode cX0_base 85 = .ok (.invokestatic 203, 3) := dk_184 0 203 (dk_at dksX0_base_3 15 rfl rfl)
theorem dX0_base_88 : decode cX0_base 88 = .ok (.lreturn, 1) := dk_173 (dk_at dksX0_base_3 18 rfl rfl)
theorem dX0_base_89 : decode cX0_base 89 = .ok (.aload 6, 2) := dk_25 6 (dk_at dksX0_base_3 19 rfl rfl)
theorem dX0_base_91 : decode cX0_base 91 = .ok (.iload_n 3, 1) := dk_29 (dk_at dksX0_base_3 21 rfl rfl)
theorem dX0_base_92 : decode cX0_base 92 = .ok (.iload 4, 2) := dk_21 4 (dk_at dksX0_base_3 22 rfl rfl)
theorem dX0_base_94 : decode cX0_base 94 = .ok (.aload_n 0, 1) := dk_42 (dk_at dksX0_base_4 0 rfl rfl)
theorem dX0_base_95 : decode cX0_base 95 = .ok (.getfield 62, 3) := dk_180 0 62 (dk_at dksX0_base_4 1 rfl rfl)
theorem dX0_base_98 : decode cX0_base 98 = .ok (.getfield 137, 3) := dk_180 0 137 (dk_at dksX0_base_4 4 rfl rfl)
theorem dX0_base_101 : decode cX0_base 101 = .ok (.invokevirtual 299, 3) := dk_182 1 43 (dk_at dksX0_base_4 7 rfl rfl)
theorem dX0_base_104 : decode cX0_base 104 = .ok (.istore 7, 2) := dk_54 7 (dk_at dksX0_base_4 10 rfl rfl)
theorem dX0_base_106 : decode cX0_base 106 = .ok (.iload 7, 2) := dk_21 7 (dk_at dksX0_base_4 12 rfl rfl)
theorem dX0_base_108 : decode cX0_base 108 = .ok (.invokestatic 295, 3) := dk_184 1 39 (dk_at dksX0_base_4 14 rfl rfl)
theorem dX0_base_111 : decode cX0_base 111 = .ok (.iload_n 2, 1) := dk_28 (dk_at dksX0_base_4 17 rfl rfl)
theorem dX0_base_112 : decode cX0_base 112 = .ok (.iconst 1, 1) := dk_4 (dk_at dksX0_base_4 18 rfl rfl)
theorem dX0_base_113 : decode cX0_base 113 = .ok (.iadd, 1) := dk_96 (dk_at dksX0_base_4 19 rfl rfl)
theorem dX0_base_114 : decode cX0_base 114 = .ok (.if_icmp .ne 22, 3) := dk_160 0 22 (dk_at dksX0_base_4 20 rfl rfl)
theorem dX0_base_117 : decode cX0_base 117 = .ok (.iload 5, 2) := dk_21 5 (dk_at dksX0_base_5 0 rfl rfl)
theorem dX0_base_119 : decode cX0_base 119 = .ok (.iconst 1, 1) := dk_4 (dk_at dksX0_base_5 2 rfl rfl)
theorem dX0_base_120 : decode cX0_base 120 = .ok (.if_icmp .eq 8, 3) := dk_159 0 8 (dk_at dksX0_base_5 3 rfl rfl)
theorem dX0_base_123 : decode cX0_base 123 = .ok (.iload 7, 2) := dk_21 7 (dk_at dksX0_base_5 6 rfl rfl)
theorem dX0_base_125 : decode cX0_base 125 = .ok (.ifCond .le 7, 3) := dk_158 0 7 (dk_at dksX0_base_5 8 rfl rfl)
theorem dX0_base_128 : decode cX0_base 128 = .ok (.lconst 1, 1) := dk_10 (dk_at dksX0_base_5 11 rfl rfl)
theorem dX0_base_129 : decode cX0_base 129 = .ok (.goto 6, 3) := dk_167 0 6 (dk_at dksX0_base_5 12 rfl rfl)
theorem dX0_base_132 : decode cX0_base 132 = .ok (.ldc2_w 370, 3) := dk_20 1 114 (dk_at dksX0_base_5 15 rfl rfl)
theorem dX0_base_135 : decode cX0_base 135 = .ok (.lreturn, 1) := dk_173 (dk_at dksX0_base_5 18 rfl rfl)
theorem dX0_base_136 : decode cX0_base 136 = .ok (.aload_n 0, 1) := dk_42 (dk_at dksX0_base_5 19 rfl rfl)
theorem dX0_base_137 : decode cX0_base 137 = .ok (.iload 7, 2) := dk_21 7 (dk_at dksX0_base_5 20 rfl rfl)
theorem dX0_base_139 : decode cX0_base 139 = .ok (.iload_n 2, 1) := dk_28 (dk_at dksX0_base_5 22 rfl rfl)
theorem dX0_base_140 : decode cX0_base 140 = .ok (.iconst 1, 1) := dk_4 (dk_at dksX0_base_5 23 rfl rfl)
theorem dX0_base_141 : decode cX0_base 141 = .ok (.iload 5, 2) := dk_21 5 (dk_at dksX0_base_6 0 rfl rfl)
theorem dX0_base_143 : decode cX0_base 143 = .ok (.invokevirtual 427, 3) := dk_182 1 171 (dk_at dksX0_base_6 2 rfl rfl)
theorem dX0_base_146 : decode cX0_base 146 = .ok (.lreturn, 1) := dk_173 (dk_at dksX0_base_6 5 rfl rfl)
abbrev cX0_witness : ByteArray := prog_1_method_65_code
def yX0_witness : MethodName := ⟨RX0, "witness", "(IIII)J"⟩
def dkwX0_witness_4 : List UInt8 := [104, 96, 29, 96, 42, 180, 1, 36, 3, 21, 4, 182, 1, 171, 173]
abbrev dktX0_witness_4 : List UInt8 := dkwX0_witness_4 ++ []
def dkwX0_witness_3 : List UInt8 := [184, 0, 203, 173, 42, 25, 5, 182, 1, 175, 42, 182, 1, 101, 42, 4, 42, 180, 0, 62, 180, 0, 137, 28]
abbrev dktX0_witness_3 : List UInt8 := dkwX0_witness_3 ++ dktX0_witness_4
def dkwX0_witness_2 : List UInt8 := [182, 1, 151, 154, 0, 9, 16, 252, 184, 0, 203, 173, 42, 25, 5, 182, 1, 166, 153, 0, 9, 16, 253]
abbrev dktX0_witness_2 : List UInt8 := dkwX0_witness_2 ++ dktX0_witness_3
def dkwX0_witness_1 : List UInt8 := [21, 4, 184, 1, 129, 154, 0, 8, 2, 184, 0, 203, 173, 42, 180, 0, 72, 27, 50, 58, 5, 42, 25, 5]
abbrev dktX0_witness_1 : List UInt8 := dkwX0_witness_1 ++ dktX0_witness_2
def dkwX0_witness_0 : List UInt8 := [42, 27, 182, 1, 148, 153, 0, 26, 42, 180, 0, 62, 180, 1, 67, 28, 29, 182, 0, 164, 153, 0, 11]
abbrev dktX0_witness_0 : List UInt8 := dkwX0_witness_0 ++ dktX0_witness_1
theorem dksX0_witness_0 : cX0_witness.data.toList.drop 0 = dktX0_witness_0 := by decide +kernel
theorem dksX0_witness_1 : cX0_witness.data.toList.drop 23 = dktX0_witness_1 := dk_seg dksX0_witness_0 23 rfl rfl
theorem dksX0_witness_2 : cX0_witness.data.toList.drop 47 = dktX0_witness_2 := dk_seg dksX0_witness_1 24 rfl rfl
theorem dksX0_witness_3 : cX0_witness.data.toList.drop 70 = dktX0_witness_3 := dk_seg dksX0_witness_2 23 rfl rfl
theorem dksX0_witness_4 : cX0_witness.data.toList.drop 94 = dktX0_witness_4 := dk_seg dksX0_witness_3 24 rfl rfl
theorem dX0_witness_0 : decode cX0_witness 0 = .ok (.aload_n 0, 1) := dk_42 (dk_at dksX0_witness_0 0 rfl rfl)
theorem dX0_witness_1 : decode cX0_witness 1 = .ok (.iload_n 1, 1) := dk_27 (dk_at dksX0_witness_0 1 rfl rfl)
theorem dX0_witness_2 : decode cX0_witness 2 = .ok (.invokevirtual 404, 3) := dk_182 1 148 (dk_at dksX0_witness_0 2 rfl rfl)
theorem dX0_witness_5 : decode cX0_witness 5 = .ok (.ifCond .eq 26, 3) := dk_153 0 26 (dk_at dksX0_witness_0 5 rfl rfl)
theorem dX0_witness_8 : decode cX0_witness 8 = .ok (.aload_n 0, 1) := dk_42 (dk_at dksX0_witness_0 8 rfl rfl)
theorem dX0_witness_9 : decode cX0_witness 9 = .ok (.getfield 62, 3) := dk_180 0 62 (dk_at dksX0_witness_0 9 rfl rfl)
theorem dX0_witness_12 : decode cX0_witness 12 = .ok (.getfield 323, 3) := dk_180 1 67 (dk_at dksX0_witness_0 12 rfl rfl)
theorem dX0_witness_15 : decode cX0_witness 15 = .ok (.iload_n 2, 1) := dk_28 (dk_at dksX0_witness_0 15 rfl rfl)
theorem dX0_witness_16 : decode cX0_witness 16 = .ok (.iload_n 3, 1) := dk_29 (dk_at dksX0_witness_0 16 rfl rfl)
theorem dX0_witness_17 : decode cX0_witness 17 = .ok (.invokevirtual 164, 3) := dk_182 0 164 (dk_at dksX0_witness_0 17 rfl rfl)
theorem dX0_witness_20 : decode cX0_witness 20 = .ok (.ifCond .eq 11, 3) := dk_153 0 11 (dk_at dksX0_witness_0 20 rfl rfl)
theorem dX0_witness_23 : decode cX0_witness 23 = .ok (.iload 4, 2) := dk_21 4 (dk_at dksX0_witness_1 0 rfl rfl)
theorem dX0_witness_25 : decode cX0_witness 25 = .ok (.invokestatic 385, 3) := dk_184 1 129 (dk_at dksX0_witness_1 2 rfl rfl)
theorem dX0_witness_28 : decode cX0_witness 28 = .ok (.ifCond .ne 8, 3) := dk_154 0 8 (dk_at dksX0_witness_1 5 rfl rfl)
theorem dX0_witness_31 : decode cX0_witness 31 = .ok (.iconst (-1), 1) := dk_2 (dk_at dksX0_witness_1 8 rfl rfl)
theorem dX0_witness_32 : decode cX0_witness 32 = .ok (.invokestatic 203, 3) := dk_184 0 203 (dk_at dksX0_witness_1 9 rfl rfl)
theorem dX0_witness_35 : decode cX0_witness 35 = .ok (.lreturn, 1) := dk_173 (dk_at dksX0_witness_1 12 rfl rfl)
theorem dX0_witness_36 : decode cX0_witness 36 = .ok (.aload_n 0, 1) := dk_42 (dk_at dksX0_witness_1 13 rfl rfl)
theorem dX0_witness_37 : decode cX0_witness 37 = .ok (.getfield 72, 3) := dk_180 0 72 (dk_at dksX0_witness_1 14 rfl rfl)
theorem dX0_witness_40 : decode cX0_witness 40 = .ok (.iload_n 1, 1) := dk_27 (dk_at dksX0_witness_1 17 rfl rfl)
theorem dX0_witness_41 : decode cX0_witness 41 = .ok (.aaload, 1) := dk_50 (dk_at dksX0_witness_1 18 rfl rfl)
theorem dX0_witness_42 : decode cX0_witness 42 = .ok (.astore 5, 2) := dk_58 5 (dk_at dksX0_witness_1 19 rfl rfl)
theorem dX0_witness_44 : decode cX0_witness 44 = .ok (.aload_n 0, 1) := dk_42 (dk_at dksX0_witness_1 21 rfl rfl)
theorem dX0_witness_45 : decode cX0_witness 45 = .ok (.aload 5, 2) := dk_25 5 (dk_at dksX0_witness_1 22 rfl rfl)
theorem dX0_witness_47 : decode cX0_witness 47 = .ok (.invokevirtual 407, 3) := dk_182 1 151 (dk_at dksX0_witness_2 0 rfl rfl)
theorem dX0_witness_50 : decode cX0_witness 50 = .ok (.ifCond .ne 9, 3) := dk_154 0 9 (dk_at dksX0_witness_2 3 rfl rfl)
theorem dX0_witness_53 : decode cX0_witness 53 = .ok (.bipush (-4), 2) := dk_16 252 (dk_at dksX0_witness_2 6 rfl rfl)
theorem dX0_witness_55 : decode cX0_witness 55 = .ok (.invokestatic 203, 3) := dk_184 0 203 (dk_at dksX0_witness_2 8 rfl rfl)
theorem dX0_witness_58 : decode cX0_witness 58 = .ok (.lreturn, 1) := dk_173 (dk_at dksX0_witness_2 11 rfl rfl)
theorem dX0_witness_59 : decode cX0_witness 59 = .ok (.aload_n 0, 1) := dk_42 (dk_at dksX0_witness_2 12 rfl rfl)
theorem dX0_witness_60 : decode cX0_witness 60 = .ok (.aload 5, 2) := dk_25 5 (dk_at dksX0_witness_2 13 rfl rfl)
theorem dX0_witness_62 : decode cX0_witness 62 = .ok (.invokevirtual 422, 3) := dk_182 1 166 (dk_at dksX0_witness_2 15 rfl rfl)
theorem dX0_witness_65 : decode cX0_witness 65 = .ok (.ifCond .eq 9, 3) := dk_153 0 9 (dk_at dksX0_witness_2 18 rfl rfl)
theorem dX0_witness_68 : decode cX0_witness 68 = .ok (.bipush (-3), 2) := dk_16 253 (dk_at dksX0_witness_2 21 rfl rfl)
theorem dX0_witness_70 : decode cX0_witness 70 = .ok (.invokestatic 203, 3) := dk_184 0 203 (dk_at dksX0_witness_3 0 rfl rfl)
theorem dX0_witness_73 : decode cX0_witness 73 = .ok (.lreturn, 1) := dk_173 (dk_at dksX0_witness_3 3 rfl rfl)
theorem dX0_witness_74 : decode cX0_witness 74 = .ok (.aload_n 0, 1) := dk_42 (dk_at dksX0_witness_3 4 rfl rfl)
theorem dX0_witness_75 : decode cX0_witness 75 = .ok (.aload 5, 2) := dk_25 5 (dk_at dksX0_witness_3 5 rfl rfl)
theorem dX0_witness_77 : decode cX0_witness 77 = .ok (.invokevirtual 431, 3) := dk_182 1 175 (dk_at dksX0_witness_3 7 rfl rfl)
theorem dX0_witness_80 : decode cX0_witness 80 = .ok (.aload_n 0, 1) := dk_42 (dk_at dksX0_witness_3 10 rfl rfl)
theorem dX0_witness_81 : decode cX0_witness 81 = .ok (.invokevirtual 357, 3) := dk_182 1 101 (dk_at dksX0_witness_3 11 rfl rfl)
theorem dX0_witness_84 : decode cX0_witness 84 = .ok (.aload_n 0, 1) := dk_42 (dk_at dksX0_witness_3 14 rfl rfl)
theorem dX0_witness_85 : decode cX0_witness 85 = .ok (.iconst 1, 1) := dk_4 (dk_at dksX0_witness_3 15 rfl rfl)
theorem dX0_witness_86 : decode cX0_witness 86 = .ok (.aload_n 0, 1) := dk_42 (dk_at dksX0_witness_3 16 rfl rfl)
theorem dX0_witness_87 : decode cX0_witness 87 = .ok (.getfield 62, 3) := dk_180 0 62 (dk_at dksX0_witness_3 17 rfl rfl)
theorem dX0_witness_90 : decode cX0_witness 90 = .ok (.getfield 137, 3) := dk_180 0 137 (dk_at dksX0_witness_3 20 rfl rfl)
theorem dX0_witness_93 : decode cX0_witness 93 = .ok (.iload_n 2, 1) := dk_28 (dk_at dksX0_witness_3 23 rfl rfl)
theorem dX0_witness_94 : decode cX0_witness 94 = .ok (.imul, 1) := dk_104 (dk_at dksX0_witness_4 0 rfl rfl)
theorem dX0_witness_95 : decode cX0_witness 95 = .ok (.iadd, 1) := dk_96 (dk_at dksX0_witness_4 1 rfl rfl)
theorem dX0_witness_96 : decode cX0_witness 96 = .ok (.iload_n 3, 1) := dk_29 (dk_at dksX0_witness_4 2 rfl rfl)
theorem dX0_witness_97 : decode cX0_witness 97 = .ok (.iadd, 1) := dk_96 (dk_at dksX0_witness_4 3 rfl rfl)
theorem dX0_witness_98 : decode cX0_witness 98 = .ok (.aload_n 0, 1) := dk_42 (dk_at dksX0_witness_4 4 rfl rfl)
theorem dX0_witness_99 : decode cX0_witness 99 = .ok (.getfield 292, 3) := dk_180 1 36 (dk_at dksX0_witness_4 5 rfl rfl)
theorem dX0_witness_102 : decode cX0_witness 102 = .ok (.iconst 0, 1) := dk_3 (dk_at dksX0_witness_4 8 rfl rfl)
theorem dX0_witness_103 : decode cX0_witness 103 = .ok (.iload 4, 2) := dk_21 4 (dk_at dksX0_witness_4 9 rfl rfl)
theorem dX0_witness_105 : decode cX0_witness 105 = .ok (.invokevirtual 427, 3) := dk_182 1 171 (dk_at dksX0_witness_4 11 rfl rfl)
theorem dX0_witness_108 : decode cX0_witness 108 = .ok (.lreturn, 1) := dk_173 (dk_at dksX0_witness_4 14 rfl rfl)
abbrev cX0_laysWitness : ByteArray := prog_1_method_64_code
def yX0_laysWitness : MethodName := ⟨RX0, "laysWitness", "(LTwoSidedTables$Plain;)V"⟩
def dkwX0_laysWitness_5 : List UInt8 := [181, 1, 36, 42, 180, 0, 99, 16, 10, 28, 104, 29, 96, 10, 80, 177]
abbrev dktX0_laysWitness_5 : List UInt8 := dkwX0_laysWitness_5 ++ []
def dkwX0_laysWitness_4 : List UInt8 := [80, 132, 5, 1, 167, 255, 190, 132, 4, 1, 167, 255, 171, 42, 28, 4, 96, 181, 1, 33, 42, 29]
abbrev dktX0_laysWitness_4 : List UInt8 := dkwX0_laysWitness_4 ++ dktX0_laysWitness_5
def dkwX0_laysWitness_3 : List UInt8 := [16, 10, 21, 5, 104, 21, 4, 96, 47, 80, 42, 180, 0, 99, 16, 10, 21, 5, 104, 21, 4, 96, 22, 6]
abbrev dktX0_laysWitness_3 : List UInt8 := dkwX0_laysWitness_3 ++ dktX0_laysWitness_4
def dkwX0_laysWitness_2 : List UInt8 := [104, 21, 5, 96, 47, 55, 6, 42, 180, 0, 99, 16, 10, 21, 4, 104, 21, 5, 96, 42, 180, 0, 99]
abbrev dktX0_laysWitness_2 : List UInt8 := dkwX0_laysWitness_2 ++ dktX0_laysWitness_3
def dkwX0_laysWitness_1 : List UInt8 := [162, 0, 84, 21, 4, 4, 96, 54, 5, 21, 5, 16, 10, 162, 0, 65, 42, 180, 0, 99, 16, 10, 21, 4]
abbrev dktX0_laysWitness_1 : List UInt8 := dkwX0_laysWitness_1 ++ dktX0_laysWitness_2
def dkwX0_laysWitness_0 : List UInt8 := [42, 43, 182, 1, 98, 42, 180, 1, 36, 61, 42, 180, 1, 33, 62, 3, 54, 4, 21, 4, 16, 10]
abbrev dktX0_laysWitness_0 : List UInt8 := dkwX0_laysWitness_0 ++ dktX0_laysWitness_1
theorem dksX0_laysWitness_0 : cX0_laysWitness.data.toList.drop 0 = dktX0_laysWitness_0 := by decide +kernel
theorem dksX0_laysWitness_1 : cX0_laysWitness.data.toList.drop 22 = dktX0_laysWitness_1 := dk_seg dksX0_laysWitness_0 22 rfl rfl
theorem dksX0_laysWitness_2 : cX0_laysWitness.data.toList.drop 46 = dktX0_laysWitness_2 := dk_seg dksX0_laysWitness_1 24 rfl rfl
theorem dksX0_laysWitness_3 : cX0_laysWitness.data.toList.drop 69 = dktX0_laysWitness_3 := dk_seg dksX0_laysWitness_2 23 rfl rfl
theorem dksX0_laysWitness_4 : cX0_laysWitness.data.toList.drop 93 = dktX0_laysWitness_4 := dk_seg dksX0_laysWitness_3 24 rfl rfl
theorem dksX0_laysWitness_5 : cX0_laysWitness.data.toList.drop 115 = dktX0_laysWitness_5 := dk_seg dksX0_laysWitness_4 22 rfl rfl
theorem dX0_laysWitness_0 : decode cX0_laysWitness 0 = .ok (.aload_n 0, 1) := dk_42 (dk_at dksX0_laysWitness_0 0 rfl rfl)
theorem dX0_laysWitness_1 : decode cX0_laysWitness 1 = .ok (.aload_n 1, 1) := dk_43 (dk_at dksX0_laysWitness_0 1 rfl rfl)
theorem dX0_laysWitness_2 : decode cX0_laysWitness 2 = .ok (.invokevirtual 354, 3) := dk_182 1 98 (dk_at dksX0_laysWitness_0 2 rfl rfl)
theorem dX0_laysWitness_5 : decode cX0_laysWitness 5 = .ok (.aload_n 0, 1) := dk_42 (dk_at dksX0_laysWitness_0 5 rfl rfl)
theorem dX0_laysWitness_6 : decode cX0_laysWitness 6 = .ok (.getfield 292, 3) := dk_180 1 36 (dk_at dksX0_laysWitness_0 6 rfl rfl)
theorem dX0_laysWitness_9 : decode cX0_laysWitness 9 = .ok (.istore_n 2, 1) := dk_61 (dk_at dksX0_laysWitness_0 9 rfl rfl)
theorem dX0_laysWitness_10 : decode cX0_laysWitness 10 = .ok (.aload_n 0, 1) := dk_42 (dk_at dksX0_laysWitness_0 10 rfl rfl)
theorem dX0_laysWitness_11 : decode cX0_laysWitness 11 = .ok (.getfield 289, 3) := dk_180 1 33 (dk_at dksX0_laysWitness_0 11 rfl rfl)
theorem dX0_laysWitness_14 : decode cX0_laysWitness 14 = .ok (.istore_n 3, 1) := dk_62 (dk_at dksX0_laysWitness_0 14 rfl rfl)
theorem dX0_laysWitness_15 : decode cX0_laysWitness 15 = .ok (.iconst 0, 1) := dk_3 (dk_at dksX0_laysWitness_0 15 rfl rfl)
theorem dX0_laysWitness_16 : decode cX0_laysWitness 16 = .ok (.istore 4, 2) := dk_54 4 (dk_at dksX0_laysWitness_0 16 rfl rfl)
theorem dX0_laysWitness_18 : decode cX0_laysWitness 18 = .ok (.iload 4, 2) := dk_21 4 (dk_at dksX0_laysWitness_0 18 rfl rfl)
theorem dX0_laysWitness_20 : decode cX0_laysWitness 20 = .ok (.bipush 10, 2) := dk_16 10 (dk_at dksX0_laysWitness_0 20 rfl rfl)
theorem dX0_laysWitness_22 : decode cX0_laysWitness 22 = .ok (.if_icmp .ge 84, 3) := dk_162 0 84 (dk_at dksX0_laysWitness_1 0 rfl rfl)
theorem dX0_laysWitness_25 : decode cX0_laysWitness 25 = .ok (.iload 4, 2) := dk_21 4 (dk_at dksX0_laysWitness_1 3 rfl rfl)
theorem dX0_laysWitness_27 : decode cX0_laysWitness 27 = .ok (.iconst 1, 1) := dk_4 (dk_at dksX0_laysWitness_1 5 rfl rfl)
theorem dX0_laysWitness_28 : decode cX0_laysWitness 28 = .ok (.iadd, 1) := dk_96 (dk_at dksX0_laysWitness_1 6 rfl rfl)
theorem dX0_laysWitness_29 : decode cX0_laysWitness 29 = .ok (.istore 5, 2) := dk_54 5 (dk_at dksX0_laysWitness_1 7 rfl rfl)
theorem dX0_laysWitness_31 : decode cX0_laysWitness 31 = .ok (.iload 5, 2) := dk_21 5 (dk_at dksX0_laysWitness_1 9 rfl rfl)
theorem dX0_laysWitness_33 : decode cX0_laysWitness 33 = .ok (.bipush 10, 2) := dk_16 10 (dk_at dksX0_laysWitness_1 11 rfl rfl)
theorem dX0_laysWitness_35 : decode cX0_laysWitness 35 = .ok (.if_icmp .ge 65, 3) := dk_162 0 65 (dk_at dksX0_laysWitness_1 13 rfl rfl)
theorem dX0_laysWitness_38 : decode cX0_laysWitness 38 = .ok (.aload_n 0, 1) := dk_42 (dk_at dksX0_laysWitness_1 16 rfl rfl)
theorem dX0_laysWitness_39 : decode cX0_laysWitness 39 = .ok (.getfield 99, 3) := dk_180 0 99 (dk_at dksX0_laysWitness_1 17 rfl rfl)
theorem dX0_laysWitness_42 : decode cX0_laysWitness 42 = .ok (.bipush 10, 2) := dk_16 10 (dk_at dksX0_laysWitness_1 20 rfl rfl)
theorem dX0_laysWitness_44 : decode cX0_laysWitness 44 = .ok (.iload 4, 2) := dk_21 4 (dk_at dksX0_laysWitness_1 22 rfl rfl)
theorem dX0_laysWitness_46 : decode cX0_laysWitness 46 = .ok (.imul, 1) := dk_104 (dk_at dksX0_laysWitness_2 0 rfl rfl)
theorem dX0_laysWitness_47 : decode cX0_laysWitness 47 = .ok (.iload 5, 2) := dk_21 5 (dk_at dksX0_laysWitness_2 1 rfl rfl)
theorem dX0_laysWitness_49 : decode cX0_laysWitness 49 = .ok (.iadd, 1) := dk_96 (dk_at dksX0_laysWitness_2 3 rfl rfl)
theorem dX0_laysWitness_50 : decode cX0_laysWitness 50 = .ok (.laload, 1) := dk_47 (dk_at dksX0_laysWitness_2 4 rfl rfl)
theorem dX0_laysWitness_51 : decode cX0_laysWitness 51 = .ok (.lstore 6, 2) := dk_55 6 (dk_at dksX0_laysWitness_2 5 rfl rfl)
theorem dX0_laysWitness_53 : decode cX0_laysWitness 53 = .ok (.aload_n 0, 1) := dk_42 (dk_at dksX0_laysWitness_2 7 rfl rfl)
theorem dX0_laysWitness_54 : decode cX0_laysWitness 54 = .ok (.getfield 99, 3) := dk_180 0 99 (dk_at dksX0_laysWitness_2 8 rfl rfl)
theorem dX0_laysWitness_57 : decode cX0_laysWitness 57 = .ok (.bipush 10, 2) := dk_16 10 (dk_at dksX0_laysWitness_2 11 rfl rfl)
theorem dX0_laysWitness_59 : decode cX0_laysWitness 59 = .ok (.iload 4, 2) := dk_21 4 (dk_at dksX0_laysWitness_2 13 rfl rfl)
theorem dX0_laysWitness_61 : decode cX0_laysWitness 61 = .ok (.imul, 1) := dk_104 (dk_at dksX0_laysWitness_2 15 rfl rfl)
theorem dX0_laysWitness_62 : decode cX0_laysWitness 62 = .ok (.iload 5, 2) := dk_21 5 (dk_at dksX0_laysWitness_2 16 rfl rfl)
theorem dX0_laysWitness_64 : decode cX0_laysWitness 64 = .ok (.iadd, 1) := dk_96 (dk_at dksX0_laysWitness_2 18 rfl rfl)
theorem dX0_laysWitness_65 : decode cX0_laysWitness 65 = .ok (.aload_n 0, 1) := dk_42 (dk_at dksX0_laysWitness_2 19 rfl rfl)
theorem dX0_laysWitness_66 : decode cX0_laysWitness 66 = .ok (.getfield 99, 3) := dk_180 0 99 (dk_at dksX0_laysWitness_2 20 rfl rfl)
theorem dX0_laysWitness_69 : decode cX0_laysWitness 69 = .ok (.bipush 10, 2) := dk_16 10 (dk_at dksX0_laysWitness_3 0 rfl rfl)
theorem dX0_laysWitness_71 : decode cX0_laysWitness 71 = .ok (.iload 5, 2) := dk_21 5 (dk_at dksX0_laysWitness_3 2 rfl rfl)
theorem dX0_laysWitness_73 : decode cX0_laysWitness 73 = .ok (.imul, 1) := dk_104 (dk_at dksX0_laysWitness_3 4 rfl rfl)
theorem dX0_laysWitness_74 : decode cX0_laysWitness 74 = .ok (.iload 4, 2) := dk_21 4 (dk_at dksX0_laysWitness_3 5 rfl rfl)
theorem dX0_laysWitness_76 : decode cX0_laysWitness 76 = .ok (.iadd, 1) := dk_96 (dk_at dksX0_laysWitness_3 7 rfl rfl)
theorem dX0_laysWitness_77 : decode cX0_laysWitness 77 = .ok (.laload, 1) := dk_47 (dk_at dksX0_laysWitness_3 8 rfl rfl)
theorem dX0_laysWitness_78 : decode cX0_laysWitness 78 = .ok (.lastore, 1) := dk_80 (dk_at dksX0_laysWitness_3 9 rfl rfl)
theorem dX0_laysWitness_79 : decode cX0_laysWitness 79 = .ok (.aload_n 0, 1) := dk_42 (dk_at dksX0_laysWitness_3 10 rfl rfl)
theorem dX0_laysWitness_80 : decode cX0_laysWitness 80 = .ok (.getfield 99, 3) := dk_180 0 99 (dk_at dksX0_laysWitness_3 11 rfl rfl)
theorem dX0_laysWitness_83 : decode cX0_laysWitness 83 = .ok (.bipush 10, 2) := dk_16 10 (dk_at dksX0_laysWitness_3 14 rfl rfl)
theorem dX0_laysWitness_85 : decode cX0_laysWitness 85 = .ok (.iload 5, 2) := dk_21 5 (dk_at dksX0_laysWitness_3 16 rfl rfl)
theorem dX0_laysWitness_87 : decode cX0_laysWitness 87 = .ok (.imul, 1) := dk_104 (dk_at dksX0_laysWitness_3 18 rfl rfl)
theorem dX0_laysWitness_88 : decode cX0_laysWitness 88 = .ok (.iload 4, 2) := dk_21 4 (dk_at dksX0_laysWitness_3 19 rfl rfl)
theorem dX0_laysWitness_90 : decode cX0_laysWitness 90 = .ok (.iadd, 1) := dk_96 (dk_at dksX0_laysWitness_3 21 rfl rfl)
theorem dX0_laysWitness_91 : decode cX0_laysWitness 91 = .ok (.lload 6, 2) := dk_22 6 (dk_at dksX0_laysWitness_3 22 rfl rfl)
theorem dX0_laysWitness_93 : decode cX0_laysWitness 93 = .ok (.lastore, 1) := dk_80 (dk_at dksX0_laysWitness_4 0 rfl rfl)
theorem dX0_laysWitness_94 : decode cX0_laysWitness 94 = .ok (.iinc 5 1, 3) := dk_132 5 1 (dk_at dksX0_laysWitness_4 1 rfl rfl)
theorem dX0_laysWitness_97 : decode cX0_laysWitness 97 = .ok (.goto (-66), 3) := dk_167 255 190 (dk_at dksX0_laysWitness_4 4 rfl rfl)
theorem dX0_laysWitness_100 : decode cX0_laysWitness 100 = .ok (.iinc 4 1, 3) := dk_132 4 1 (dk_at dksX0_laysWitness_4 7 rfl rfl)
theorem dX0_laysWitness_103 : decode cX0_laysWitness 103 = .ok (.goto (-85), 3) := dk_167 255 171 (dk_at dksX0_laysWitness_4 10 rfl rfl)
theorem dX0_laysWitness_106 : decode cX0_laysWitness 106 = .ok (.aload_n 0, 1) := dk_42 (dk_at dksX0_laysWitness_4 13 rfl rfl)
theorem dX0_laysWitness_107 : decode cX0_laysWitness 107 = .ok (.iload_n 2, 1) := dk_28 (dk_at dksX0_laysWitness_4 14 rfl rfl)
theorem dX0_laysWitness_108 : decode cX0_laysWitness 108 = .ok (.iconst 1, 1) := dk_4 (dk_at dksX0_laysWitness_4 15 rfl rfl)
theorem dX0_laysWitness_109 : decode cX0_laysWitness 109 = .ok (.iadd, 1) := dk_96 (dk_at dksX0_laysWitness_4 16 rfl rfl)
theorem dX0_laysWitness_110 : decode cX0_laysWitness 110 = .ok (.putfield 289, 3) := dk_181 1 33 (dk_at dksX0_laysWitness_4 17 rfl rfl)
theorem dX0_laysWitness_113 : decode cX0_laysWitness 113 = .ok (.aload_n 0, 1) := dk_42 (dk_at dksX0_laysWitness_4 20 rfl rfl)
theorem dX0_laysWitness_114 : decode cX0_laysWitness 114 = .ok (.iload_n 3, 1) := dk_29 (dk_at dksX0_laysWitness_4 21 rfl rfl)
theorem dX0_laysWitness_115 : decode cX0_laysWitness 115 = .ok (.putfield 292, 3) := dk_181 1 36 (dk_at dksX0_laysWitness_5 0 rfl rfl)
theorem dX0_laysWitness_118 : decode cX0_laysWitness 118 = .ok (.aload_n 0, 1) := dk_42 (dk_at dksX0_laysWitness_5 3 rfl rfl)
theorem dX0_laysWitness_119 : decode cX0_laysWitness 119 = .ok (.getfield 99, 3) := dk_180 0 99 (dk_at dksX0_laysWitness_5 4 rfl rfl)
theorem dX0_laysWitness_122 : decode cX0_laysWitness 122 = .ok (.bipush 10, 2) := dk_16 10 (dk_at dksX0_laysWitness_5 7 rfl rfl)
theorem dX0_laysWitness_124 : decode cX0_laysWitness 124 = .ok (.iload_n 2, 1) := dk_28 (dk_at dksX0_laysWitness_5 9 rfl rfl)
theorem dX0_laysWitness_125 : decode cX0_laysWitness 125 = .ok (.imul, 1) := dk_104 (dk_at dksX0_laysWitness_5 10 rfl rfl)
theorem dX0_laysWitness_126 : decode cX0_laysWitness 126 = .ok (.iload_n 3, 1) := dk_29 (dk_at dksX0_laysWitness_5 11 rfl rfl)
theorem dX0_laysWitness_127 : decode cX0_laysWitness 127 = .ok (.iadd, 1) := dk_96 (dk_at dksX0_laysWitness_5 12 rfl rfl)
theorem dX0_laysWitness_128 : decode cX0_laysWitness 128 = .ok (.lconst 1, 1) := dk_10 (dk_at dksX0_laysWitness_5 13 rfl rfl)
theorem dX0_laysWitness_129 : decode cX0_laysWitness 129 = .ok (.lastore, 1) := dk_80 (dk_at dksX0_laysWitness_5 14 rfl rfl)
theorem dX0_laysWitness_130 : decode cX0_laysWitness 130 = .ok (.return_, 1) := dk_177 (dk_at dksX0_laysWitness_5 15 rfl rfl)
abbrev cX0_similar : ByteArray := prog_1_method_67_code
def yX0_similar : MethodName := ⟨RX0, "similar", "(I)I"⟩
def dkwX0_similar_2 : List UInt8 := [153, 0, 7, 4, 167, 0, 4, 3, 172]
abbrev dktX0_similar_2 : List UInt8 := dkwX0_similar_2 ++ []
def dkwX0_similar_1 : List UInt8 := [154, 0, 6, 16, 252, 172, 42, 187, 1, 181, 89, 42, 180, 0, 72, 27, 50, 183, 1, 183, 182, 1, 166]
abbrev dktX0_similar_1 : List UInt8 := dkwX0_similar_1 ++ dktX0_similar_2
def dkwX0_similar_0 : List UInt8 := [42, 27, 182, 1, 148, 154, 0, 5, 2, 172, 42, 27, 42, 180, 0, 62, 180, 0, 134, 182, 1, 178]
abbrev dktX0_similar_0 : List UInt8 := dkwX0_similar_0 ++ dktX0_similar_1
theorem dksX0_similar_0 : cX0_similar.data.toList.drop 0 = dktX0_similar_0 := by decide +kernel
theorem dksX0_similar_1 : cX0_similar.data.toList.drop 22 = dktX0_similar_1 := dk_seg dksX0_similar_0 22 rfl rfl
theorem dksX0_similar_2 : cX0_similar.data.toList.drop 45 = dktX0_similar_2 := dk_seg dksX0_similar_1 23 rfl rfl
theorem dX0_similar_0 : decode cX0_similar 0 = .ok (.aload_n 0, 1) := dk_42 (dk_at dksX0_similar_0 0 rfl rfl)
theorem dX0_similar_1 : decode cX0_similar 1 = .ok (.iload_n 1, 1) := dk_27 (dk_at dksX0_similar_0 1 rfl rfl)
theorem dX0_similar_2 : decode cX0_similar 2 = .ok (.invokevirtual 404, 3) := dk_182 1 148 (dk_at dksX0_similar_0 2 rfl rfl)
theorem dX0_similar_5 : decode cX0_similar 5 = .ok (.ifCond .ne 5, 3) := dk_154 0 5 (dk_at dksX0_similar_0 5 rfl rfl)
theorem dX0_similar_8 : decode cX0_similar 8 = .ok (.iconst (-1), 1) := dk_2 (dk_at dksX0_similar_0 8 rfl rfl)
theorem dX0_similar_9 : decode cX0_similar 9 = .ok (.ireturn, 1) := dk_172 (dk_at dksX0_similar_0 9 rfl rfl)
theorem dX0_similar_10 : decode cX0_similar 10 = .ok (.aload_n 0, 1) := dk_42 (dk_at dksX0_similar_0 10 rfl rfl)
theorem dX0_similar_11 : decode cX0_similar 11 = .ok (.iload_n 1, 1) := dk_27 (dk_at dksX0_similar_0 11 rfl rfl)
theorem dX0_similar_12 : decode cX0_similar 12 = .ok (.aload_n 0, 1) := dk_42 (dk_at dksX0_similar_0 12 rfl rfl)
theorem dX0_similar_13 : decode cX0_similar 13 = .ok (.getfield 62, 3) := dk_180 0 62 (dk_at dksX0_similar_0 13 rfl rfl)
theorem dX0_similar_16 : decode cX0_similar 16 = .ok (.getfield 134, 3) := dk_180 0 134 (dk_at dksX0_similar_0 16 rfl rfl)
theorem dX0_similar_19 : decode cX0_similar 19 = .ok (.invokevirtual 434, 3) := dk_182 1 178 (dk_at dksX0_similar_0 19 rfl rfl)
theorem dX0_similar_22 : decode cX0_similar 22 = .ok (.ifCond .ne 6, 3) := dk_154 0 6 (dk_at dksX0_similar_1 0 rfl rfl)
theorem dX0_similar_25 : decode cX0_similar 25 = .ok (.bipush (-4), 2) := dk_16 252 (dk_at dksX0_similar_1 3 rfl rfl)
theorem dX0_similar_27 : decode cX0_similar 27 = .ok (.ireturn, 1) := dk_172 (dk_at dksX0_similar_1 5 rfl rfl)
theorem dX0_similar_28 : decode cX0_similar 28 = .ok (.aload_n 0, 1) := dk_42 (dk_at dksX0_similar_1 6 rfl rfl)
theorem dX0_similar_29 : decode cX0_similar 29 = .ok (.new 437, 3) := dk_187 1 181 (dk_at dksX0_similar_1 7 rfl rfl)
theorem dX0_similar_32 : decode cX0_similar 32 = .ok (.dup, 1) := dk_89 (dk_at dksX0_similar_1 10 rfl rfl)
theorem dX0_similar_33 : decode cX0_similar 33 = .ok (.aload_n 0, 1) := dk_42 (dk_at dksX0_similar_1 11 rfl rfl)
theorem dX0_similar_34 : decode cX0_similar 34 = .ok (.getfield 72, 3) := dk_180 0 72 (dk_at dksX0_similar_1 12 rfl rfl)
theorem dX0_similar_37 : decode cX0_similar 37 = .ok (.iload_n 1, 1) := dk_27 (dk_at dksX0_similar_1 15 rfl rfl)
theorem dX0_similar_38 : decode cX0_similar 38 = .ok (.aaload, 1) := dk_50 (dk_at dksX0_similar_1 16 rfl rfl)
theorem dX0_similar_39 : decode cX0_similar 39 = .ok (.invokespecial 439, 3) := dk_183 1 183 (dk_at dksX0_similar_1 17 rfl rfl)
theorem dX0_similar_42 : decode cX0_similar 42 = .ok (.invokevirtual 422, 3) := dk_182 1 166 (dk_at dksX0_similar_1 20 rfl rfl)
theorem dX0_similar_45 : decode cX0_similar 45 = .ok (.ifCond .eq 7, 3) := dk_153 0 7 (dk_at dksX0_similar_2 0 rfl rfl)
theorem dX0_similar_48 : decode cX0_similar 48 = .ok (.iconst 1, 1) := dk_4 (dk_at dksX0_similar_2 3 rfl rfl)
theorem dX0_similar_49 : decode cX0_similar 49 = .ok (.goto 4, 3) := dk_167 0 4 (dk_at dksX0_similar_2 4 rfl rfl)
theorem dX0_similar_52 : decode cX0_similar 52 = .ok (.iconst 0, 1) := dk_3 (dk_at dksX0_similar_2 7 rfl rfl)
theorem dX0_similar_53 : decode cX0_similar 53 = .ok (.ireturn, 1) := dk_172 (dk_at dksX0_similar_2 8 rfl rfl)
abbrev cX0_isLoose : ByteArray := prog_1_method_66_code
def yX0_isLoose : MethodName := ⟨RX0, "isLoose", "(II)Z"⟩
def dkwX0_isLoose_1 : List UInt8 := [163, 0, 7, 4, 167, 0, 4, 3, 172]
abbrev dktX0_isLoose_1 : List UInt8 := dkwX0_isLoose_1 ++ []
def dkwX0_isLoose_0 : List UInt8 := [42, 42, 180, 0, 72, 27, 50, 182, 0, 147, 153, 0, 21, 28, 42, 180, 0, 62, 180, 0, 137, 104, 16, 6]
abbrev dktX0_isLoose_0 : List UInt8 := dkwX0_isLoose_0 ++ dktX0_isLoose_1
theorem dksX0_isLoose_0 : cX0_isLoose.data.toList.drop 0 = dktX0_isLoose_0 := by decide +kernel
theorem dksX0_isLoose_1 : cX0_isLoose.data.toList.drop 24 = dktX0_isLoose_1 := dk_seg dksX0_isLoose_0 24 rfl rfl
theorem dX0_isLoose_0 : decode cX0_isLoose 0 = .ok (.aload_n 0, 1) := dk_42 (dk_at dksX0_isLoose_0 0 rfl rfl)
theorem dX0_isLoose_1 : decode cX0_isLoose 1 = .ok (.aload_n 0, 1) := dk_42 (dk_at dksX0_isLoose_0 1 rfl rfl)
theorem dX0_isLoose_2 : decode cX0_isLoose 2 = .ok (.getfield 72, 3) := dk_180 0 72 (dk_at dksX0_isLoose_0 2 rfl rfl)
theorem dX0_isLoose_5 : decode cX0_isLoose 5 = .ok (.iload_n 1, 1) := dk_27 (dk_at dksX0_isLoose_0 5 rfl rfl)
theorem dX0_isLoose_6 : decode cX0_isLoose 6 = .ok (.aaload, 1) := dk_50 (dk_at dksX0_isLoose_0 6 rfl rfl)
theorem dX0_isLoose_7 : decode cX0_isLoose 7 = .ok (.invokevirtual 147, 3) := dk_182 0 147 (dk_at dksX0_isLoose_0 7 rfl rfl)
theorem dX0_isLoose_10 : decode cX0_isLoose 10 = .ok (.ifCond .eq 21, 3) := dk_153 0 21 (dk_at dksX0_isLoose_0 10 rfl rfl)
theorem dX0_isLoose_13 : decode cX0_isLoose 13 = .ok (.iload_n 2, 1) := dk_28 (dk_at dksX0_isLoose_0 13 rfl rfl)
theorem dX0_isLoose_14 : decode cX0_isLoose 14 = .ok (.aload_n 0, 1) := dk_42 (dk_at dksX0_isLoose_0 14 rfl rfl)
theorem dX0_isLoose_15 : decode cX0_isLoose 15 = .ok (.getfield 62, 3) := dk_180 0 62 (dk_at dksX0_isLoose_0 15 rfl rfl)
theorem dX0_isLoose_18 : decode cX0_isLoose 18 = .ok (.getfield 137, 3) := dk_180 0 137 (dk_at dksX0_isLoose_0 18 rfl rfl)
theorem dX0_isLoose_21 : decode cX0_isLoose 21 = .ok (.imul, 1) := dk_104 (dk_at dksX0_isLoose_0 21 rfl rfl)
theorem dX0_isLoose_22 : decode cX0_isLoose 22 = .ok (.bipush 6, 2) := dk_16 6 (dk_at dksX0_isLoose_0 22 rfl rfl)
theorem dX0_isLoose_24 : decode cX0_isLoose 24 = .ok (.if_icmp .gt 7, 3) := dk_163 0 7 (dk_at dksX0_isLoose_1 0 rfl rfl)
theorem dX0_isLoose_27 : decode cX0_isLoose 27 = .ok (.iconst 1, 1) := dk_4 (dk_at dksX0_isLoose_1 3 rfl rfl)
theorem dX0_isLoose_28 : decode cX0_isLoose 28 = .ok (.goto 4, 3) := dk_167 0 4 (dk_at dksX0_isLoose_1 4 rfl rfl)
theorem dX0_isLoose_31 : decode cX0_isLoose 31 = .ok (.iconst 0, 1) := dk_3 (dk_at dksX0_isLoose_1 7 rfl rfl)
theorem dX0_isLoose_32 : decode cX0_isLoose 32 = .ok (.ireturn, 1) := dk_172 (dk_at dksX0_isLoose_1 8 rfl rfl)
abbrev cX0_whole : ByteArray := prog_1_method_68_code
def yX0_whole : MethodName := ⟨RX0, "whole", "(I)J"⟩
def dkwX0_whole_3 : List UInt8 := [167, 0, 13, 42, 180, 1, 73, 133, 42, 180, 1, 85, 105, 173]
abbrev dktX0_whole_3 : List UInt8 := dkwX0_whole_3 ++ []
def dkwX0_whole_2 : List UInt8 := [183, 1, 183, 182, 1, 98, 42, 182, 1, 101, 42, 180, 1, 89, 42, 180, 1, 36, 162, 0, 7, 9]
abbrev dktX0_whole_2 : List UInt8 := dkwX0_whole_2 ++ dktX0_whole_3
def dkwX0_whole_1 : List UInt8 := [182, 1, 178, 154, 0, 9, 16, 252, 184, 0, 203, 173, 42, 187, 1, 181, 89, 42, 180, 0, 72, 27, 50]
abbrev dktX0_whole_1 : List UInt8 := dkwX0_whole_1 ++ dktX0_whole_2
def dkwX0_whole_0 : List UInt8 := [42, 27, 182, 1, 148, 154, 0, 8, 2, 184, 0, 203, 173, 42, 27, 42, 180, 0, 62, 180, 0, 134]
abbrev dktX0_whole_0 : List UInt8 := dkwX0_whole_0 ++ dktX0_whole_1
theorem dksX0_whole_0 : cX0_whole.data.toList.drop 0 = dktX0_whole_0 := by decide +kernel
theorem dksX0_whole_1 : cX0_whole.data.toList.drop 22 = dktX0_whole_1 := dk_seg dksX0_whole_0 22 rfl rfl
theorem dksX0_whole_2 : cX0_whole.data.toList.drop 45 = dktX0_whole_2 := dk_seg dksX0_whole_1 23 rfl rfl
theorem dksX0_whole_3 : cX0_whole.data.toList.drop 67 = dktX0_whole_3 := dk_seg dksX0_whole_2 22 rfl rfl
theorem dX0_whole_0 : decode cX0_whole 0 = .ok (.aload_n 0, 1) := dk_42 (dk_at dksX0_whole_0 0 rfl rfl)
theorem dX0_whole_1 : decode cX0_whole 1 = .ok (.iload_n 1, 1) := dk_27 (dk_at dksX0_whole_0 1 rfl rfl)
theorem dX0_whole_2 : decode cX0_whole 2 = .ok (.invokevirtual 404, 3) := dk_182 1 148 (dk_at dksX0_whole_0 2 rfl rfl)
theorem dX0_whole_5 : decode cX0_whole 5 = .ok (.ifCond .ne 8, 3) := dk_154 0 8 (dk_at dksX0_whole_0 5 rfl rfl)
theorem dX0_whole_8 : decode cX0_whole 8 = .ok (.iconst (-1), 1) := dk_2 (dk_at dksX0_whole_0 8 rfl rfl)
theorem dX0_whole_9 : decode cX0_whole 9 = .ok (.invokestatic 203, 3) := dk_184 0 203 (dk_at dksX0_whole_0 9 rfl rfl)
theorem dX0_whole_12 : decode cX0_whole 12 = .ok (.lreturn, 1) := dk_173 (dk_at dksX0_whole_0 12 rfl rfl)
theorem dX0_whole_13 : decode cX0_whole 13 = .ok (.aload_n 0, 1) := dk_42 (dk_at dksX0_whole_0 13 rfl rfl)
theorem dX0_whole_14 : decode cX0_whole 14 = .ok (.iload_n 1, 1) := dk_27 (dk_at dksX0_whole_0 14 rfl rfl)
theorem dX0_whole_15 : decode cX0_whole 15 = .ok (.aload_n 0, 1) := dk_42 (dk_at dksX0_whole_0 15 rfl rfl)
theorem dX0_whole_16 : decode cX0_whole 16 = .ok (.getfield 62, 3) := dk_180 0 62 (dk_at dksX0_whole_0 16 rfl rfl)
theorem dX0_whole_19 : decode cX0_whole 19 = .ok (.getfield 134, 3) := dk_180 0 134 (dk_at dksX0_whole_0 19 rfl rfl)
theorem dX0_whole_22 : decode cX0_whole 22 = .ok (.invokevirtual 434, 3) := dk_182 1 178 (dk_at dksX0_whole_1 0 rfl rfl)
theorem dX0_whole_25 : decode cX0_whole 25 = .ok (.ifCond .ne 9, 3) := dk_154 0 9 (dk_at dksX0_whole_1 3 rfl rfl)
theorem dX0_whole_28 : decode cX0_whole 28 = .ok (.bipush (-4), 2) := dk_16 252 (dk_at dksX0_whole_1 6 rfl rfl)
theorem dX0_whole_30 : decode cX0_whole 30 = .ok (.invokestatic 203, 3) := dk_184 0 203 (dk_at dksX0_whole_1 8 rfl rfl)
theorem dX0_whole_33 : decode cX0_whole 33 = .ok (.lreturn, 1) := dk_173 (dk_at dksX0_whole_1 11 rfl rfl)
theorem dX0_whole_34 : decode cX0_whole 34 = .ok (.aload_n 0, 1) := dk_42 (dk_at dksX0_whole_1 12 rfl rfl)
theorem dX0_whole_35 : decode cX0_whole 35 = .ok (.new 437, 3) := dk_187 1 181 (dk_at dksX0_whole_1 13 rfl rfl)
theorem dX0_whole_38 : decode cX0_whole 38 = .ok (.dup, 1) := dk_89 (dk_at dksX0_whole_1 16 rfl rfl)
theorem dX0_whole_39 : decode cX0_whole 39 = .ok (.aload_n 0, 1) := dk_42 (dk_at dksX0_whole_1 17 rfl rfl)
theorem dX0_whole_40 : decode cX0_whole 40 = .ok (.getfield 72, 3) := dk_180 0 72 (dk_at dksX0_whole_1 18 rfl rfl)
theorem dX0_whole_43 : decode cX0_whole 43 = .ok (.iload_n 1, 1) := dk_27 (dk_at dksX0_whole_1 21 rfl rfl)
theorem dX0_whole_44 : decode cX0_whole 44 = .ok (.aaload, 1) := dk_50 (dk_at dksX0_whole_1 22 rfl rfl)
theorem dX0_whole_45 : decode cX0_whole 45 = .ok (.invokespecial 439, 3) := dk_183 1 183 (dk_at dksX0_whole_2 0 rfl rfl)
theorem dX0_whole_48 : decode cX0_whole 48 = .ok (.invokevirtual 354, 3) := dk_182 1 98 (dk_at dksX0_whole_2 3 rfl rfl)
theorem dX0_whole_51 : decode cX0_whole 51 = .ok (.aload_n 0, 1) := dk_42 (dk_at dksX0_whole_2 6 rfl rfl)
theorem dX0_whole_52 : decode cX0_whole 52 = .ok (.invokevirtual 357, 3) := dk_182 1 101 (dk_at dksX0_whole_2 7 rfl rfl)
theorem dX0_whole_55 : decode cX0_whole 55 = .ok (.aload_n 0, 1) := dk_42 (dk_at dksX0_whole_2 10 rfl rfl)
theorem dX0_whole_56 : decode cX0_whole 56 = .ok (.getfield 345, 3) := dk_180 1 89 (dk_at dksX0_whole_2 11 rfl rfl)
theorem dX0_whole_59 : decode cX0_whole 59 = .ok (.aload_n 0, 1) := dk_42 (dk_at dksX0_whole_2 14 rfl rfl)
theorem dX0_whole_60 : decode cX0_whole 60 = .ok (.getfield 292, 3) := dk_180 1 36 (dk_at dksX0_whole_2 15 rfl rfl)
theorem dX0_whole_63 : decode cX0_whole 63 = .ok (.if_icmp .ge 7, 3) := dk_162 0 7 (dk_at dksX0_whole_2 18 rfl rfl)
theorem dX0_whole_66 : decode cX0_whole 66 = .ok (.lconst 0, 1) := dk_9 (dk_at dksX0_whole_2 21 rfl rfl)
theorem dX0_whole_67 : decode cX0_whole 67 = .ok (.goto 13, 3) := dk_167 0 13 (dk_at dksX0_whole_3 0 rfl rfl)
theorem dX0_whole_70 : decode cX0_whole 70 = .ok (.aload_n 0, 1) := dk_42 (dk_at dksX0_whole_3 3 rfl rfl)
theorem dX0_whole_71 : decode cX0_whole 71 = .ok (.getfield 329, 3) := dk_180 1 73 (dk_at dksX0_whole_3 4 rfl rfl)
theorem dX0_whole_74 : decode cX0_whole 74 = .ok (.i2l, 1) := dk_133 (dk_at dksX0_whole_3 7 rfl rfl)
theorem dX0_whole_75 : decode cX0_whole 75 = .ok (.aload_n 0, 1) := dk_42 (dk_at dksX0_whole_3 8 rfl rfl)
theorem dX0_whole_76 : decode cX0_whole 76 = .ok (.getfield 341, 3) := dk_180 1 85 (dk_at dksX0_whole_3 9 rfl rfl)
theorem dX0_whole_79 : decode cX0_whole 79 = .ok (.lmul, 1) := dk_105 (dk_at dksX0_whole_3 12 rfl rfl)
theorem dX0_whole_80 : decode cX0_whole 80 = .ok (.lreturn, 1) := dk_173 (dk_at dksX0_whole_3 13 rfl rfl)
abbrev cX0_lower : ByteArray := prog_1_method_70_code
def yX0_lower : MethodName := ⟨RX0, "lower", "(II)I"⟩
def dkwX0_lower_4 : List UInt8 := [182, 1, 76, 9, 148, 153, 0, 5, 3, 172, 132, 3, 1, 167, 255, 229, 4, 172]
abbrev dktX0_lower_4 : List UInt8 := dkwX0_lower_4 ++ []
def dkwX0_lower_3 : List UInt8 := [182, 1, 101, 42, 180, 1, 89, 62, 29, 42, 180, 1, 33, 162, 0, 25, 42, 29, 42, 180, 1, 36]
abbrev dktX0_lower_3 : List UInt8 := dkwX0_lower_3 ++ dktX0_lower_4
def dkwX0_lower_2 : List UInt8 := [16, 252, 172, 42, 187, 1, 188, 89, 42, 180, 0, 72, 27, 50, 28, 183, 1, 190, 28, 182, 1, 69, 42]
abbrev dktX0_lower_2 : List UInt8 := dkwX0_lower_2 ++ dktX0_lower_3
def dkwX0_lower_1 : List UInt8 := [122, 4, 126, 153, 0, 20, 42, 27, 42, 180, 0, 62, 180, 0, 134, 28, 100, 182, 1, 178, 154, 0, 6]
abbrev dktX0_lower_1 : List UInt8 := dkwX0_lower_1 ++ dktX0_lower_2
def dkwX0_lower_0 : List UInt8 := [42, 27, 182, 1, 148, 153, 0, 12, 28, 4, 5, 184, 0, 130, 154, 0, 5, 2, 172, 42, 182, 1, 185, 28]
abbrev dktX0_lower_0 : List UInt8 := dkwX0_lower_0 ++ dktX0_lower_1
theorem dksX0_lower_0 : cX0_lower.data.toList.drop 0 = dktX0_lower_0 := by decide +kernel
theorem dksX0_lower_1 : cX0_lower.data.toList.drop 24 = dktX0_lower_1 := dk_seg dksX0_lower_0 24 rfl rfl
theorem dksX0_lower_2 : cX0_lower.data.toList.drop 47 = dktX0_lower_2 := dk_seg dksX0_lower_1 23 rfl rfl
theorem dksX0_lower_3 : cX0_lower.data.toList.drop 70 = dktX0_lower_3 := dk_seg dksX0_lower_2 23 rfl rfl
theorem dksX0_lower_4 : cX0_lower.data.toList.drop 92 = dktX0_lower_4 := dk_seg dksX0_lower_3 22 rfl rfl
theorem dX0_lower_0 : decode cX0_lower 0 = .ok (.aload_n 0, 1) := dk_42 (dk_at dksX0_lower_0 0 rfl rfl)
theorem dX0_lower_1 : decode cX0_lower 1 = .ok (.iload_n 1, 1) := dk_27 (dk_at dksX0_lower_0 1 rfl rfl)
theorem dX0_lower_2 : decode cX0_lower 2 = .ok (.invokevirtual 404, 3) := dk_182 1 148 (dk_at dksX0_lower_0 2 rfl rfl)
theorem dX0_lower_5 : decode cX0_lower 5 = .ok (.ifCond .eq 12, 3) := dk_153 0 12 (dk_at dksX0_lower_0 5 rfl rfl)
theorem dX0_lower_8 : decode cX0_lower 8 = .ok (.iload_n 2, 1) := dk_28 (dk_at dksX0_lower_0 8 rfl rfl)
theorem dX0_lower_9 : decode cX0_lower 9 = .ok (.iconst 1, 1) := dk_4 (dk_at dksX0_lower_0 9 rfl rfl)
theorem dX0_lower_10 : decode cX0_lower 10 = .ok (.iconst 2, 1) := dk_5 (dk_at dksX0_lower_0 10 rfl rfl)
theorem dX0_lower_11 : decode cX0_lower 11 = .ok (.invokestatic 130, 3) := dk_184 0 130 (dk_at dksX0_lower_0 11 rfl rfl)
theorem dX0_lower_14 : decode cX0_lower 14 = .ok (.ifCond .ne 5, 3) := dk_154 0 5 (dk_at dksX0_lower_0 14 rfl rfl)
theorem dX0_lower_17 : decode cX0_lower 17 = .ok (.iconst (-1), 1) := dk_2 (dk_at dksX0_lower_0 17 rfl rfl)
theorem dX0_lower_18 : decode cX0_lower 18 = .ok (.ireturn, 1) := dk_172 (dk_at dksX0_lower_0 18 rfl rfl)
theorem dX0_lower_19 : decode cX0_lower 19 = .ok (.aload_n 0, 1) := dk_42 (dk_at dksX0_lower_0 19 rfl rfl)
theorem dX0_lower_20 : decode cX0_lower 20 = .ok (.invokevirtual 441, 3) := dk_182 1 185 (dk_at dksX0_lower_0 20 rfl rfl)
theorem dX0_lower_23 : decode cX0_lower 23 = .ok (.iload_n 2, 1) := dk_28 (dk_at dksX0_lower_0 23 rfl rfl)
theorem dX0_lower_24 : decode cX0_lower 24 = .ok (.ishr, 1) := dk_122 (dk_at dksX0_lower_1 0 rfl rfl)
theorem dX0_lower_25 : decode cX0_lower 25 = .ok (.iconst 1, 1) := dk_4 (dk_at dksX0_lower_1 1 rfl rfl)
theorem dX0_lower_26 : decode cX0_lower 26 = .ok (.iand, 1) := dk_126 (dk_at dksX0_lower_1 2 rfl rfl)
theorem dX0_lower_27 : decode cX0_lower 27 = .ok (.ifCond .eq 20, 3) := dk_153 0 20 (dk_at dksX0_lower_1 3 rfl rfl)
theorem dX0_lower_30 : decode cX0_lower 30 = .ok (.aload_n 0, 1) := dk_42 (dk_at dksX0_lower_1 6 rfl rfl)
theorem dX0_lower_31 : decode cX0_lower 31 = .ok (.iload_n 1, 1) := dk_27 (dk_at dksX0_lower_1 7 rfl rfl)
theorem dX0_lower_32 : decode cX0_lower 32 = .ok (.aload_n 0, 1) := dk_42 (dk_at dksX0_lower_1 8 rfl rfl)
theorem dX0_lower_33 : decode cX0_lower 33 = .ok (.getfield 62, 3) := dk_180 0 62 (dk_at dksX0_lower_1 9 rfl rfl)
theorem dX0_lower_36 : decode cX0_lower 36 = .ok (.getfield 134, 3) := dk_180 0 134 (dk_at dksX0_lower_1 12 rfl rfl)
theorem dX0_lower_39 : decode cX0_lower 39 = .ok (.iload_n 2, 1) := dk_28 (dk_at dksX0_lower_1 15 rfl rfl)
theorem dX0_lower_40 : decode cX0_lower 40 = .ok (.isub, 1) := dk_100 (dk_at dksX0_lower_1 16 rfl rfl)
theorem dX0_lower_41 : decode cX0_lower 41 = .ok (.invokevirtual 434, 3) := dk_182 1 178 (dk_at dksX0_lower_1 17 rfl rfl)
theorem dX0_lower_44 : decode cX0_lower 44 = .ok (.ifCond .ne 6, 3) := dk_154 0 6 (dk_at dksX0_lower_1 20 rfl rfl)
theorem dX0_lower_47 : decode cX0_lower 47 = .ok (.bipush (-4), 2) := dk_16 252 (dk_at dksX0_lower_2 0 rfl rfl)
theorem dX0_lower_49 : decode cX0_lower 49 = .ok (.ireturn, 1) := dk_172 (dk_at dksX0_lower_2 2 rfl rfl)
theorem dX0_lower_50 : decode cX0_lower 50 = .ok (.aload_n 0, 1) := dk_42 (dk_at dksX0_lower_2 3 rfl rfl)
theorem dX0_lower_51 : decode cX0_lower 51 = .ok (.new 444, 3) := dk_187 1 188 (dk_at dksX0_lower_2 4 rfl rfl)
theorem dX0_lower_54 : decode cX0_lower 54 = .ok (.dup, 1) := dk_89 (dk_at dksX0_lower_2 7 rfl rfl)
theorem dX0_lower_55 : decode cX0_lower 55 = .ok (.aload_n 0, 1) := dk_42 (dk_at dksX0_lower_2 8 rfl rfl)
theorem dX0_lower_56 : decode cX0_lower 56 = .ok (.getfield 72, 3) := dk_180 0 72 (dk_at dksX0_lower_2 9 rfl rfl)
theorem dX0_lower_59 : decode cX0_lower 59 = .ok (.iload_n 1, 1) := dk_27 (dk_at dksX0_lower_2 12 rfl rfl)
theorem dX0_lower_60 : decode cX0_lower 60 = .ok (.aaload, 1) := dk_50 (dk_at dksX0_lower_2 13 rfl rfl)
theorem dX0_lower_61 : decode cX0_lower 61 = .ok (.iload_n 2, 1) := dk_28 (dk_at dksX0_lower_2 14 rfl rfl)
theorem dX0_lower_62 : decode cX0_lower 62 = .ok (.invokespecial 446, 3) := dk_183 1 190 (dk_at dksX0_lower_2 15 rfl rfl)
theorem dX0_lower_65 : decode cX0_lower 65 = .ok (.iload_n 2, 1) := dk_28 (dk_at dksX0_lower_2 18 rfl rfl)
theorem dX0_lower_66 : decode cX0_lower 66 = .ok (.invokevirtual 325, 3) := dk_182 1 69 (dk_at dksX0_lower_2 19 rfl rfl)
theorem dX0_lower_69 : decode cX0_lower 69 = .ok (.aload_n 0, 1) := dk_42 (dk_at dksX0_lower_2 22 rfl rfl)
theorem dX0_lower_70 : decode cX0_lower 70 = .ok (.invokevirtual 357, 3) := dk_182 1 101 (dk_at dksX0_lower_3 0 rfl rfl)
theorem dX0_lower_73 : decode cX0_lower 73 = .ok (.aload_n 0, 1) := dk_42 (dk_at dksX0_lower_3 3 rfl rfl)
theorem dX0_lower_74 : decode cX0_lower 74 = .ok (.getfield 345, 3) := dk_180 1 89 (dk_at dksX0_lower_3 4 rfl rfl)
theorem dX0_lower_77 : decode cX0_lower 77 = .ok (.istore_n 3, 1) := dk_62 (dk_at dksX0_lower_3 7 rfl rfl)
theorem dX0_lower_78 : decode cX0_lower 78 = .ok (.iload_n 3, 1) := dk_29 (dk_at dksX0_lower_3 8 rfl rfl)
theorem dX0_lower_79 : decode cX0_lower 79 = .ok (.aload_n 0, 1) := dk_42 (dk_at dksX0_lower_3 9 rfl rfl)
theorem dX0_lower_80 : decode cX0_lower 80 = .ok (.getfield 289, 3) := dk_180 1 33 (dk_at dksX0_lower_3 10 rfl rfl)
theorem dX0_lower_83 : decode cX0_lower 83 = .ok (.if_icmp .ge 25, 3) := dk_162 0 25 (dk_at dksX0_lower_3 13 rfl rfl)
theorem dX0_lower_86 : decode cX0_lower 86 = .ok (.aload_n 0, 1) := dk_42 (dk_at dksX0_lower_3 16 rfl rfl)
theorem dX0_lower_87 : decode cX0_lower 87 = .ok (.iload_n 3, 1) := dk_29 (dk_at dksX0_lower_3 17 rfl rfl)
theorem dX0_lower_88 : decode cX0_lower 88 = .ok (.aload_n 0, 1) := dk_42 (dk_at dksX0_lower_3 18 rfl rfl)
theorem dX0_lower_89 : decode cX0_lower 89 = .ok (.getfield 292, 3) := dk_180 1 36 (dk_at dksX0_lower_3 19 rfl rfl)
theorem dX0_lower_92 : decode cX0_lower 92 = .ok (.invokevirtual 332, 3) := dk_182 1 76 (dk_at dksX0_lower_4 0 rfl rfl)
theorem dX0_lower_95 : decode cX0_lower 95 = .ok (.lconst 0, 1) := dk_9 (dk_at dksX0_lower_4 3 rfl rfl)
theorem dX0_lower_96 : decode cX0_lower 96 = .ok (.lcmp, 1) := dk_148 (dk_at dksX0_lower_4 4 rfl rfl)
theorem dX0_lower_97 : decode cX0_lower 97 = .ok (.ifCond .eq 5, 3) := dk_153 0 5 (dk_at dksX0_lower_4 5 rfl rfl)
theorem dX0_lower_100 : decode cX0_lower 100 = .ok (.iconst 0, 1) := dk_3 (dk_at dksX0_lower_4 8 rfl rfl)
theorem dX0_lower_101 : decode cX0_lower 101 = .ok (.ireturn, 1) := dk_172 (dk_at dksX0_lower_4 9 rfl rfl)
theorem dX0_lower_102 : decode cX0_lower 102 = .ok (.iinc 3 1, 3) := dk_132 3 1 (dk_at dksX0_lower_4 10 rfl rfl)
theorem dX0_lower_105 : decode cX0_lower 105 = .ok (.goto (-27), 3) := dk_167 255 229 (dk_at dksX0_lower_4 13 rfl rfl)
theorem dX0_lower_108 : decode cX0_lower 108 = .ok (.iconst 1, 1) := dk_4 (dk_at dksX0_lower_4 16 rfl rfl)
theorem dX0_lower_109 : decode cX0_lower 109 = .ok (.ireturn, 1) := dk_172 (dk_at dksX0_lower_4 17 rfl rfl)
abbrev cX0_splitSet : ByteArray := prog_1_method_69_code
def yX0_splitSet : MethodName := ⟨RX0, "splitSet", "()I"⟩
def dkwX0_splitSet_5 : List UInt8 := [27, 172]
abbrev dktX0_splitSet_5 : List UInt8 := dkwX0_splitSet_5 ++ []
def dkwX0_splitSet_4 : List UInt8 := [153, 0, 6, 167, 0, 15, 132, 3, 1, 167, 255, 172, 27, 4, 28, 120, 128, 60, 132, 2, 1, 167, 255, 147]
abbrev dktX0_splitSet_4 : List UInt8 := dkwX0_splitSet_4 ++ dktX0_splitSet_5
def dkwX0_splitSet_3 : List UInt8 := [42, 180, 0, 62, 180, 0, 134, 108, 29, 42, 180, 0, 62, 180, 0, 134, 112, 182, 0, 174, 9, 148]
abbrev dktX0_splitSet_3 : List UInt8 := dkwX0_splitSet_3 ++ dktX0_splitSet_4
def dkwX0_splitSet_2 : List UInt8 := [161, 0, 52, 29, 42, 180, 0, 62, 180, 0, 134, 112, 28, 162, 0, 39, 42, 180, 0, 62, 180, 1, 53, 29]
abbrev dktX0_splitSet_2 : List UInt8 := dkwX0_splitSet_2 ++ dktX0_splitSet_3
def dkwX0_splitSet_1 : List UInt8 := [180, 0, 134, 42, 180, 0, 62, 180, 0, 134, 104, 162, 0, 71, 29, 42, 180, 0, 62, 180, 0, 134, 108, 28]
abbrev dktX0_splitSet_1 : List UInt8 := dkwX0_splitSet_1 ++ dktX0_splitSet_2
def dkwX0_splitSet_0 : List UInt8 := [3, 60, 4, 61, 28, 42, 180, 0, 62, 180, 0, 134, 162, 0, 104, 3, 62, 29, 42, 180, 0, 62]
abbrev dktX0_splitSet_0 : List UInt8 := dkwX0_splitSet_0 ++ dktX0_splitSet_1
theorem dksX0_splitSet_0 : cX0_splitSet.data.toList.drop 0 = dktX0_splitSet_0 := by decide +kernel
theorem dksX0_splitSet_1 : cX0_splitSet.data.toList.drop 22 = dktX0_splitSet_1 := dk_seg dksX0_splitSet_0 22 rfl rfl
theorem dksX0_splitSet_2 : cX0_splitSet.data.toList.drop 46 = dktX0_splitSet_2 := dk_seg dksX0_splitSet_1 24 rfl rfl
theorem dksX0_splitSet_3 : cX0_splitSet.data.toList.drop 70 = dktX0_splitSet_3 := dk_seg dksX0_splitSet_2 24 rfl rfl
theorem dksX0_splitSet_4 : cX0_splitSet.data.toList.drop 92 = dktX0_splitSet_4 := dk_seg dksX0_splitSet_3 22 rfl rfl
theorem dksX0_splitSet_5 : cX0_splitSet.data.toList.drop 116 = dktX0_splitSet_5 := dk_seg dksX0_splitSet_4 24 rfl rfl
theorem dX0_splitSet_0 : decode cX0_splitSet 0 = .ok (.iconst 0, 1) := dk_3 (dk_at dksX0_splitSet_0 0 rfl rfl)
theorem dX0_splitSet_1 : decode cX0_splitSet 1 = .ok (.istore_n 1, 1) := dk_60 (dk_at dksX0_splitSet_0 1 rfl rfl)
theorem dX0_splitSet_2 : decode cX0_splitSet 2 = .ok (.iconst 1, 1) := dk_4 (dk_at dksX0_splitSet_0 2 rfl rfl)
theorem dX0_splitSet_3 : decode cX0_splitSet 3 = .ok (.istore_n 2, 1) := dk_61 (dk_at dksX0_splitSet_0 3 rfl rfl)
theorem dX0_splitSet_4 : decode cX0_splitSet 4 = .ok (.iload_n 2, 1) := dk_28 (dk_at dksX0_splitSet_0 4 rfl rfl)
theorem dX0_splitSet_5 : decode cX0_splitSet 5 = .ok (.aload_n 0, 1) := dk_42 (dk_at dksX0_splitSet_0 5 rfl rfl)
theorem dX0_splitSet_6 : decode cX0_splitSet 6 = .ok (.getfield 62, 3) := dk_180 0 62 (dk_at dksX0_splitSet_0 6 rfl rfl)
theorem dX0_splitSet_9 : decode cX0_splitSet 9 = .ok (.getfield 134, 3) := dk_180 0 134 (dk_at dksX0_splitSet_0 9 rfl rfl)
theorem dX0_splitSet_12 : decode cX0_splitSet 12 = .ok (.if_icmp .ge 104, 3) := dk_162 0 104 (dk_at dksX0_splitSet_0 12 rfl rfl)
theorem dX0_splitSet_15 : decode cX0_splitSet 15 = .ok (.iconst 0, 1) := dk_3 (dk_at dksX0_splitSet_0 15 rfl rfl)
theorem dX0_splitSet_16 : decode cX0_splitSet 16 = .ok (.istore_n 3, 1) := dk_62 (dk_at dksX0_splitSet_0 16 rfl rfl)
theorem dX0_splitSet_17 : decode cX0_splitSet 17 = .ok (.iload_n 3, 1) := dk_29 (dk_at dksX0_splitSet_0 17 rfl rfl)
theorem dX0_splitSet_18 : decode cX0_splitSet 18 = .ok (.aload_n 0, 1) := dk_42 (dk_at dksX0_splitSet_0 18 rfl rfl)
theorem dX0_splitSet_19 : decode cX0_splitSet 19 = .ok (.getfield 62, 3) := dk_180 0 62 (dk_at dksX0_splitSet_0 19 rfl rfl)
theorem dX0_splitSet_22 : decode cX0_splitSet 22 = .ok (.getfield 134, 3) := dk_180 0 134 (dk_at dksX0_splitSet_1 0 rfl rfl)
theorem dX0_splitSet_25 : decode cX0_splitSet 25 = .ok (.aload_n 0, 1) := dk_42 (dk_at dksX0_splitSet_1 3 rfl rfl)
theorem dX0_splitSet_26 : decode cX0_splitSet 26 = .ok (.getfield 62, 3) := dk_180 0 62 (dk_at dksX0_splitSet_1 4 rfl rfl)
theorem dX0_splitSet_29 : decode cX0_splitSet 29 = .ok (.getfield 134, 3) := dk_180 0 134 (dk_at dksX0_splitSet_1 7 rfl rfl)
theorem dX0_splitSet_32 : decode cX0_splitSet 32 = .ok (.imul, 1) := dk_104 (dk_at dksX0_splitSet_1 10 rfl rfl)
theorem dX0_splitSet_33 : decode cX0_splitSet 33 = .ok (.if_icmp .ge 71, 3) := dk_162 0 71 (dk_at dksX0_splitSet_1 11 rfl rfl)
theorem dX0_splitSet_36 : decode cX0_splitSet 36 = .ok (.iload_n 3, 1) := dk_29 (dk_at dksX0_splitSet_1 14 rfl rfl)
theorem dX0_splitSet_37 : decode cX0_splitSet 37 = .ok (.aload_n 0, 1) := dk_42 (dk_at dksX0_splitSet_1 15 rfl rfl)
theorem dX0_splitSet_38 : decode cX0_splitSet 38 = .ok (.getfield 62, 3) := dk_180 0 62 (dk_at dksX0_splitSet_1 16 rfl rfl)
theorem dX0_splitSet_41 : decode cX0_splitSet 41 = .ok (.getfield 134, 3) := dk_180 0 134 (dk_at dksX0_splitSet_1 19 rfl rfl)
theorem dX0_splitSet_44 : decode cX0_splitSet 44 = .ok (.idiv, 1) := dk_108 (dk_at dksX0_splitSet_1 22 rfl rfl)
theorem dX0_splitSet_45 : decode cX0_splitSet 45 = .ok (.iload_n 2, 1) := dk_28 (dk_at dksX0_splitSet_1 23 rfl rfl)
theorem dX0_splitSet_46 : decode cX0_splitSet 46 = .ok (.if_icmp .lt 52, 3) := dk_161 0 52 (dk_at dksX0_splitSet_2 0 rfl rfl)
theorem dX0_splitSet_49 : decode cX0_splitSet 49 = .ok (.iload_n 3, 1) := dk_29 (dk_at dksX0_splitSet_2 3 rfl rfl)
theorem dX0_splitSet_50 : decode cX0_splitSet 50 = .ok (.aload_n 0, 1) := dk_42 (dk_at dksX0_splitSet_2 4 rfl rfl)
theorem dX0_splitSet_51 : decode cX0_splitSet 51 = .ok (.getfield 62, 3) := dk_180 0 62 (dk_at dksX0_splitSet_2 5 rfl rfl)
theorem dX0_splitSet_54 : decode cX0_splitSet 54 = .ok (.getfield 134, 3) := dk_180 0 134 (dk_at dksX0_splitSet_2 8 rfl rfl)
theorem dX0_splitSet_57 : decode cX0_splitSet 57 = .ok (.irem, 1) := dk_112 (dk_at dksX0_splitSet_2 11 rfl rfl)
theorem dX0_splitSet_58 : decode cX0_splitSet 58 = .ok (.iload_n 2, 1) := dk_28 (dk_at dksX0_splitSet_2 12 rfl rfl)
theorem dX0_splitSet_59 : decode cX0_splitSet 59 = .ok (.if_icmp .ge 39, 3) := dk_162 0 39 (dk_at dksX0_splitSet_2 13 rfl rfl)
theorem dX0_splitSet_62 : decode cX0_splitSet 62 = .ok (.aload_n 0, 1) := dk_42 (dk_at dksX0_splitSet_2 16 rfl rfl)
theorem dX0_splitSet_63 : decode cX0_splitSet 63 = .ok (.getfield 62, 3) := dk_180 0 62 (dk_at dksX0_splitSet_2 17 rfl rfl)
theorem dX0_splitSet_66 : decode cX0_splitSet 66 = .ok (.getfield 309, 3) := dk_180 1 53 (dk_at dksX0_splitSet_2 20 rfl rfl)
theorem dX0_splitSet_69 : decode cX0_splitSet 69 = .ok (.iload_n 3, 1) := dk_29 (dk_at dksX0_splitSet_2 23 rfl rfl)
theorem dX0_splitSet_70 : decode cX0_splitSet 70 = .ok (.aload_n 0, 1) := dk_42 (dk_at dksX0_splitSet_3 0 rfl rfl)
theorem dX0_splitSet_71 : decode cX0_splitSet 71 = .ok (.getfield 62, 3) := dk_180 0 62 (dk_at dksX0_splitSet_3 1 rfl rfl)
theorem dX0_splitSet_74 : decode cX0_splitSet 74 = .ok (.getfield 134, 3) := dk_180 0 134 (dk_at dksX0_splitSet_3 4 rfl rfl)
theorem dX0_splitSet_77 : decode cX0_splitSet 77 = .ok (.idiv, 1) := dk_108 (dk_at dksX0_splitSet_3 7 rfl rfl)
theorem dX0_splitSet_78 : decode cX0_splitSet 78 = .ok (.iload_n 3, 1) := dk_29 (dk_at dksX0_splitSet_3 8 rfl rfl)
theorem dX0_splitSet_79 : decode cX0_splitSet 79 = .ok (.aload_n 0, 1) := dk_42 (dk_at dksX0_splitSet_3 9 rfl rfl)
theorem dX0_splitSet_80 : decode cX0_splitSet 80 = .ok (.getfield 62, 3) := dk_180 0 62 (dk_at dksX0_splitSet_3 10 rfl rfl)
theorem dX0_splitSet_83 : decode cX0_splitSet 83 = .ok (.getfield 134, 3) := dk_180 0 134 (dk_at dksX0_splitSet_3 13 rfl rfl)
theorem dX0_splitSet_86 : decode cX0_splitSet 86 = .ok (.irem, 1) := dk_112 (dk_at dksX0_splitSet_3 16 rfl rfl)
theorem dX0_splitSet_87 : decode cX0_splitSet 87 = .ok (.invokevirtual 174, 3) := dk_182 0 174 (dk_at dksX0_splitSet_3 17 rfl rfl)
theorem dX0_splitSet_90 : decode cX0_splitSet 90 = .ok (.lconst 0, 1) := dk_9 (dk_at dksX0_splitSet_3 20 rfl rfl)
theorem dX0_splitSet_91 : decode cX0_splitSet 91 = .ok (.lcmp, 1) := dk_148 (dk_at dksX0_splitSet_3 21 rfl rfl)
theorem dX0_splitSet_92 : decode cX0_splitSet 92 = .ok (.ifCond .eq 6, 3) := dk_153 0 6 (dk_at dksX0_splitSet_4 0 rfl rfl)
theorem dX0_splitSet_95 : decode cX0_splitSet 95 = .ok (.goto 15, 3) := dk_167 0 15 (dk_at dksX0_splitSet_4 3 rfl rfl)
theorem dX0_splitSet_98 : decode cX0_splitSet 98 = .ok (.iinc 3 1, 3) := dk_132 3 1 (dk_at dksX0_splitSet_4 6 rfl rfl)
theorem dX0_splitSet_101 : decode cX0_splitSet 101 = .ok (.goto (-84), 3) := dk_167 255 172 (dk_at dksX0_splitSet_4 9 rfl rfl)
theorem dX0_splitSet_104 : decode cX0_splitSet 104 = .ok (.iload_n 1, 1) := dk_27 (dk_at dksX0_splitSet_4 12 rfl rfl)
theorem dX0_splitSet_105 : decode cX0_splitSet 105 = .ok (.iconst 1, 1) := dk_4 (dk_at dksX0_splitSet_4 13 rfl rfl)
theorem dX0_splitSet_106 : decode cX0_splitSet 106 = .ok (.iload_n 2, 1) := dk_28 (dk_at dksX0_splitSet_4 14 rfl rfl)
theorem dX0_splitSet_107 : decode cX0_splitSet 107 = .ok (.ishl, 1) := dk_120 (dk_at dksX0_splitSet_4 15 rfl rfl)
theorem dX0_splitSet_108 : decode cX0_splitSet 108 = .ok (.ior, 1) := dk_128 (dk_at dksX0_splitSet_4 16 rfl rfl)
theorem dX0_splitSet_109 : decode cX0_splitSet 109 = .ok (.istore_n 1, 1) := dk_60 (dk_at dksX0_splitSet_4 17 rfl rfl)
theorem dX0_splitSet_110 : decode cX0_splitSet 110 = .ok (.iinc 2 1, 3) := dk_132 2 1 (dk_at dksX0_splitSet_4 18 rfl rfl)
theorem dX0_splitSet_113 : decode cX0_splitSet 113 = .ok (.goto (-109), 3) := dk_167 255 147 (dk_at dksX0_splitSet_4 21 rfl rfl)
theorem dX0_splitSet_116 : decode cX0_splitSet 116 = .ok (.iload_n 1, 1) := dk_27 (dk_at dksX0_splitSet_5 0 rfl rfl)
theorem dX0_splitSet_117 : decode cX0_splitSet 117 = .ok (.ireturn, 1) := dk_172 (dk_at dksX0_splitSet_5 1 rfl rfl)
abbrev cX0_swapped : ByteArray := prog_1_method_71_code
def yX0_swapped : MethodName := ⟨RX0, "swapped", "()I"⟩
def dkwX0_swapped_1 : List UInt8 := [154, 0, 7, 4, 167, 0, 4, 3, 172]
abbrev dktX0_swapped_1 : List UInt8 := dkwX0_swapped_1 ++ []
def dkwX0_swapped_0 : List UInt8 := [42, 182, 0, 140, 154, 0, 6, 16, 252, 172, 42, 180, 0, 62, 180, 1, 67, 182, 0, 207, 9, 148]
abbrev dktX0_swapped_0 : List UInt8 := dkwX0_swapped_0 ++ dktX0_swapped_1
theorem dksX0_swapped_0 : cX0_swapped.data.toList.drop 0 = dktX0_swapped_0 := by decide +kernel
theorem dksX0_swapped_1 : cX0_swapped.data.toList.drop 22 = dktX0_swapped_1 := dk_seg dksX0_swapped_0 22 rfl rfl
theorem dX0_swapped_0 : decode cX0_swapped 0 = .ok (.aload_n 0, 1) := dk_42 (dk_at dksX0_swapped_0 0 rfl rfl)
theorem dX0_swapped_1 : decode cX0_swapped 1 = .ok (.invokevirtual 140, 3) := dk_182 0 140 (dk_at dksX0_swapped_0 1 rfl rfl)
theorem dX0_swapped_4 : decode cX0_swapped 4 = .ok (.ifCond .ne 6, 3) := dk_154 0 6 (dk_at dksX0_swapped_0 4 rfl rfl)
theorem dX0_swapped_7 : decode cX0_swapped 7 = .ok (.bipush (-4), 2) := dk_16 252 (dk_at dksX0_swapped_0 7 rfl rfl)
theorem dX0_swapped_9 : decode cX0_swapped 9 = .ok (.ireturn, 1) := dk_172 (dk_at dksX0_swapped_0 9 rfl rfl)
theorem dX0_swapped_10 : decode cX0_swapped 10 = .ok (.aload_n 0, 1) := dk_42 (dk_at dksX0_swapped_0 10 rfl rfl)
theorem dX0_swapped_11 : decode cX0_swapped 11 = .ok (.getfield 62, 3) := dk_180 0 62 (dk_at dksX0_swapped_0 11 rfl rfl)
theorem dX0_swapped_14 : decode cX0_swapped 14 = .ok (.getfield 323, 3) := dk_180 1 67 (dk_at dksX0_swapped_0 14 rfl rfl)
theorem dX0_swapped_17 : decode cX0_swapped 17 = .ok (.invokevirtual 207, 3) := dk_182 0 207 (dk_at dksX0_swapped_0 17 rfl rfl)
theorem dX0_swapped_20 : decode cX0_swapped 20 = .ok (.lconst 0, 1) := dk_9 (dk_at dksX0_swapped_0 20 rfl rfl)
theorem dX0_swapped_21 : decode cX0_swapped 21 = .ok (.lcmp, 1) := dk_148 (dk_at dksX0_swapped_0 21 rfl rfl)
theorem dX0_swapped_22 : decode cX0_swapped 22 = .ok (.ifCond .ne 7, 3) := dk_154 0 7 (dk_at dksX0_swapped_1 0 rfl rfl)
theorem dX0_swapped_25 : decode cX0_swapped 25 = .ok (.iconst 1, 1) := dk_4 (dk_at dksX0_swapped_1 3 rfl rfl)
theorem dX0_swapped_26 : decode cX0_swapped 26 = .ok (.goto 4, 3) := dk_167 0 4 (dk_at dksX0_swapped_1 4 rfl rfl)
theorem dX0_swapped_29 : decode cX0_swapped 29 = .ok (.iconst 0, 1) := dk_3 (dk_at dksX0_swapped_1 7 rfl rfl)
theorem dX0_swapped_30 : decode cX0_swapped 30 = .ok (.ireturn, 1) := dk_172 (dk_at dksX0_swapped_1 8 rfl rfl)
abbrev cX0_stable : ByteArray := prog_1_method_74_code
def yX0_stable : MethodName := ⟨RX0, "stable", "()I"⟩
def dkwX0_stable_0 : List UInt8 := [42, 182, 1, 196, 153, 0, 7, 4, 167, 0, 4, 3, 172]
abbrev dktX0_stable_0 : List UInt8 := dkwX0_stable_0 ++ []
theorem dksX0_stable_0 : cX0_stable.data.toList.drop 0 = dktX0_stable_0 := by decide +kernel
theorem dX0_stable_0 : decode cX0_stable 0 = .ok (.aload_n 0, 1) := dk_42 (dk_at dksX0_stable_0 0 rfl rfl)
theorem dX0_stable_1 : decode cX0_stable 1 = .ok (.invokevirtual 452, 3) := dk_182 1 196 (dk_at dksX0_stable_0 1 rfl rfl)
theorem dX0_stable_4 : decode cX0_stable 4 = .ok (.ifCond .eq 7, 3) := dk_153 0 7 (dk_at dksX0_stable_0 4 rfl rfl)
theorem dX0_stable_7 : decode cX0_stable 7 = .ok (.iconst 1, 1) := dk_4 (dk_at dksX0_stable_0 7 rfl rfl)
theorem dX0_stable_8 : decode cX0_stable 8 = .ok (.goto 4, 3) := dk_167 0 4 (dk_at dksX0_stable_0 8 rfl rfl)
theorem dX0_stable_11 : decode cX0_stable 11 = .ok (.iconst 0, 1) := dk_3 (dk_at dksX0_stable_0 11 rfl rfl)
theorem dX0_stable_12 : decode cX0_stable 12 = .ok (.ireturn, 1) := dk_172 (dk_at dksX0_stable_0 12 rfl rfl)
abbrev cX0_isStable : ByteArray := prog_1_method_73_code
def yX0_isStable : MethodName := ⟨RX0, "isStable", "()Z"⟩
def dkwX0_isStable_4 : List UInt8 := [184, 0, 211, 105, 32, 101, 80, 184, 1, 192, 172]
abbrev dktX0_isStable_4 : List UInt8 := dkwX0_isStable_4 ++ []
def dkwX0_isStable_3 : List UInt8 := [188, 11, 89, 3, 43, 182, 0, 207, 117, 80, 89, 4, 32, 80, 89, 5, 43, 182, 0, 207, 117, 43]
abbrev dktX0_isStable_3 : List UInt8 := dkwX0_isStable_3 ++ dktX0_isStable_4
def dkwX0_isStable_2 : List UInt8 := [182, 0, 207, 117, 80, 89, 4, 43, 184, 0, 199, 80, 184, 1, 192, 172, 43, 184, 0, 199, 117, 65, 6]
abbrev dktX0_isStable_2 : List UInt8 := dkwX0_isStable_2 ++ dktX0_isStable_3
def dkwX0_isStable_1 : List UInt8 := [182, 0, 174, 117, 80, 184, 1, 192, 172, 43, 180, 0, 188, 5, 160, 0, 25, 5, 188, 11, 89, 3, 43]
abbrev dktX0_isStable_1 : List UInt8 := dkwX0_isStable_1 ++ dktX0_isStable_2
def dkwX0_isStable_0 : List UInt8 := [42, 180, 0, 62, 180, 1, 53, 76, 43, 180, 0, 188, 4, 160, 0, 20, 4, 188, 11, 89, 3, 43, 3, 3]
abbrev dktX0_isStable_0 : List UInt8 := dkwX0_isStable_0 ++ dktX0_isStable_1
theorem dksX0_isStable_0 : cX0_isStable.data.toList.drop 0 = dktX0_isStable_0 := by decide +kernel
theorem dksX0_isStable_1 : cX0_isStable.data.toList.drop 24 = dktX0_isStable_1 := dk_seg dksX0_isStable_0 24 rfl rfl
theorem dksX0_isStable_2 : cX0_isStable.data.toList.drop 47 = dktX0_isStable_2 := dk_seg dksX0_isStable_1 23 rfl rfl
theorem dksX0_isStable_3 : cX0_isStable.data.toList.drop 70 = dktX0_isStable_3 := dk_seg dksX0_isStable_2 23 rfl rfl
theorem dksX0_isStable_4 : cX0_isStable.data.toList.drop 92 = dktX0_isStable_4 := dk_seg dksX0_isStable_3 22 rfl rfl
theorem dX0_isStable_0 : decode cX0_isStable 0 = .ok (.aload_n 0, 1) := dk_42 (dk_at dksX0_isStable_0 0 rfl rfl)
theorem dX0_isStable_1 : decode cX0_isStable 1 = .ok (.getfield 62, 3) := dk_180 0 62 (dk_at dksX0_isStable_0 1 rfl rfl)
theorem dX0_isStable_4 : decode cX0_isStable 4 = .ok (.getfield 309, 3) := dk_180 1 53 (dk_at dksX0_isStable_0 4 rfl rfl)
theorem dX0_isStable_7 : decode cX0_isStable 7 = .ok (.astore_n 1, 1) := dk_76 (dk_at dksX0_isStable_0 7 rfl rfl)
theorem dX0_isStable_8 : decode cX0_isStable 8 = .ok (.aload_n 1, 1) := dk_43 (dk_at dksX0_isStable_0 8 rfl rfl)
theorem dX0_isStable_9 : decode cX0_isStable 9 = .ok (.getfield 188, 3) := dk_180 0 188 (dk_at dksX0_isStable_0 9 rfl rfl)
theorem dX0_isStable_12 : decode cX0_isStable 12 = .ok (.iconst 1, 1) := dk_4 (dk_at dksX0_isStable_0 12 rfl rfl)
theorem dX0_isStable_13 : decode cX0_isStable 13 = .ok (.if_icmp .ne 20, 3) := dk_160 0 20 (dk_at dksX0_isStable_0 13 rfl rfl)
theorem dX0_isStable_16 : decode cX0_isStable 16 = .ok (.iconst 1, 1) := dk_4 (dk_at dksX0_isStable_0 16 rfl rfl)
theorem dX0_isStable_17 : decode cX0_isStable 17 = .ok (.newarray .long, 2) := dk_188_11 (dk_at dksX0_isStable_0 17 rfl rfl)
theorem dX0_isStable_19 : decode cX0_isStable 19 = .ok (.dup, 1) := dk_89 (dk_at dksX0_isStable_0 19 rfl rfl)
theorem dX0_isStable_20 : decode cX0_isStable 20 = .ok (.iconst 0, 1) := dk_3 (dk_at dksX0_isStable_0 20 rfl rfl)
theorem dX0_isStable_21 : decode cX0_isStable 21 = .ok (.aload_n 1, 1) := dk_43 (dk_at dksX0_isStable_0 21 rfl rfl)
theorem dX0_isStable_22 : decode cX0_isStable 22 = .ok (.iconst 0, 1) := dk_3 (dk_at dksX0_isStable_0 22 rfl rfl)
theorem dX0_isStable_23 : decode cX0_isStable 23 = .ok (.iconst 0, 1) := dk_3 (dk_at dksX0_isStable_0 23 rfl rfl)
theorem dX0_isStable_24 : decode cX0_isStable 24 = .ok (.invokevirtual 174, 3) := dk_182 0 174 (dk_at dksX0_isStable_1 0 rfl rfl)
theorem dX0_isStable_27 : decode cX0_isStable 27 = .ok (.lneg, 1) := dk_117 (dk_at dksX0_isStable_1 3 rfl rfl)
theorem dX0_isStable_28 : decode cX0_isStable 28 = .ok (.lastore, 1) := dk_80 (dk_at dksX0_isStable_1 4 rfl rfl)
theorem dX0_isStable_29 : decode cX0_isStable 29 = .ok (.invokestatic 448, 3) := dk_184 1 192 (dk_at dksX0_isStable_1 5 rfl rfl)
theorem dX0_isStable_32 : decode cX0_isStable 32 = .ok (.ireturn, 1) := dk_172 (dk_at dksX0_isStable_1 8 rfl rfl)
theorem dX0_isStable_33 : decode cX0_isStable 33 = .ok (.aload_n 1, 1) := dk_43 (dk_at dksX0_isStable_1 9 rfl rfl)
theorem dX0_isStable_34 : decode cX0_isStable 34 = .ok (.getfield 188, 3) := dk_180 0 188 (dk_at dksX0_isStable_1 10 rfl rfl)
theorem dX0_isStable_37 : decode cX0_isStable 37 = .ok (.iconst 2, 1) := dk_5 (dk_at dksX0_isStable_1 13 rfl rfl)
theorem dX0_isStable_38 : decode cX0_isStable 38 = .ok (.if_icmp .ne 25, 3) := dk_160 0 25 (dk_at dksX0_isStable_1 14 rfl rfl)
theorem dX0_isStable_41 : decode cX0_isStable 41 = .ok (.iconst 2, 1) := dk_5 (dk_at dksX0_isStable_1 17 rfl rfl)
theorem dX0_isStable_42 : decode cX0_isStable 42 = .ok (.newarray .long, 2) := dk_188_11 (dk_at dksX0_isStable_1 18 rfl rfl)
theorem dX0_isStable_44 : decode cX0_isStable 44 = .ok (.dup, 1) := dk_89 (dk_at dksX0_isStable_1 20 rfl rfl)
theorem dX0_isStable_45 : decode cX0_isStable 45 = .ok (.iconst 0, 1) := dk_3 (dk_at dksX0_isStable_1 21 rfl rfl)
theorem dX0_isStable_46 : decode cX0_isStable 46 = .ok (.aload_n 1, 1) := dk_43 (dk_at dksX0_isStable_1 22 rfl rfl)
theorem dX0_isStable_47 : decode cX0_isStable 47 = .ok (.invokevirtual 207, 3) := dk_182 0 207 (dk_at dksX0_isStable_2 0 rfl rfl)
theorem dX0_isStable_50 : decode cX0_isStable 50 = .ok (.lneg, 1) := dk_117 (dk_at dksX0_isStable_2 3 rfl rfl)
theorem dX0_isStable_51 : decode cX0_isStable 51 = .ok (.lastore, 1) := dk_80 (dk_at dksX0_isStable_2 4 rfl rfl)
theorem dX0_isStable_52 : decode cX0_isStable 52 = .ok (.dup, 1) := dk_89 (dk_at dksX0_isStable_2 5 rfl rfl)
theorem dX0_isStable_53 : decode cX0_isStable 53 = .ok (.iconst 1, 1) := dk_4 (dk_at dksX0_isStable_2 6 rfl rfl)
theorem dX0_isStable_54 : decode cX0_isStable 54 = .ok (.aload_n 1, 1) := dk_43 (dk_at dksX0_isStable_2 7 rfl rfl)
theorem dX0_isStable_55 : decode cX0_isStable 55 = .ok (.invokestatic 199, 3) := dk_184 0 199 (dk_at dksX0_isStable_2 8 rfl rfl)
theorem dX0_isStable_58 : decode cX0_isStable 58 = .ok (.lastore, 1) := dk_80 (dk_at dksX0_isStable_2 11 rfl rfl)
theorem dX0_isStable_59 : decode cX0_isStable 59 = .ok (.invokestatic 448, 3) := dk_184 1 192 (dk_at dksX0_isStable_2 12 rfl rfl)
theorem dX0_isStable_62 : decode cX0_isStable 62 = .ok (.ireturn, 1) := dk_172 (dk_at dksX0_isStable_2 15 rfl rfl)
theorem dX0_isStable_63 : decode cX0_isStable 63 = .ok (.aload_n 1, 1) := dk_43 (dk_at dksX0_isStable_2 16 rfl rfl)
theorem dX0_isStable_64 : decode cX0_isStable 64 = .ok (.invokestatic 199, 3) := dk_184 0 199 (dk_at dksX0_isStable_2 17 rfl rfl)
theorem dX0_isStable_67 : decode cX0_isStable 67 = .ok (.lneg, 1) := dk_117 (dk_at dksX0_isStable_2 20 rfl rfl)
theorem dX0_isStable_68 : decode cX0_isStable 68 = .ok (.lstore_n 2, 1) := dk_65 (dk_at dksX0_isStable_2 21 rfl rfl)
theorem dX0_isStable_69 : decode cX0_isStable 69 = .ok (.iconst 3, 1) := dk_6 (dk_at dksX0_isStable_2 22 rfl rfl)
theorem dX0_isStable_70 : decode cX0_isStable 70 = .ok (.newarray .long, 2) := dk_188_11 (dk_at dksX0_isStable_3 0 rfl rfl)
theorem dX0_isStable_72 : decode cX0_isStable 72 = .ok (.dup, 1) := dk_89 (dk_at dksX0_isStable_3 2 rfl rfl)
theorem dX0_isStable_73 : decode cX0_isStable 73 = .ok (.iconst 0, 1) := dk_3 (dk_at dksX0_isStable_3 3 rfl rfl)
theorem dX0_isStable_74 : decode cX0_isStable 74 = .ok (.aload_n 1, 1) := dk_43 (dk_at dksX0_isStable_3 4 rfl rfl)
theorem dX0_isStable_75 : decode cX0_isStable 75 = .ok (.invokevirtual 207, 3) := dk_182 0 207 (dk_at dksX0_isStable_3 5 rfl rfl)
theorem dX0_isStable_78 : decode cX0_isStable 78 = .ok (.lneg, 1) := dk_117 (dk_at dksX0_isStable_3 8 rfl rfl)
theorem dX0_isStable_79 : decode cX0_isStable 79 = .ok (.lastore, 1) := dk_80 (dk_at dksX0_isStable_3 9 rfl rfl)
theorem dX0_isStable_80 : decode cX0_isStable 80 = .ok (.dup, 1) := dk_89 (dk_at dksX0_isStable_3 10 rfl rfl)
theorem dX0_isStable_81 : decode cX0_isStable 81 = .ok (.iconst 1, 1) := dk_4 (dk_at dksX0_isStable_3 11 rfl rfl)
theorem dX0_isStable_82 : decode cX0_isStable 82 = .ok (.lload_n 2, 1) := dk_32 (dk_at dksX0_isStable_3 12 rfl rfl)
theorem dX0_isStable_83 : decode cX0_isStable 83 = .ok (.lastore, 1) := dk_80 (dk_at dksX0_isStable_3 13 rfl rfl)
theorem dX0_isStable_84 : decode cX0_isStable 84 = .ok (.dup, 1) := dk_89 (dk_at dksX0_isStable_3 14 rfl rfl)
theorem dX0_isStable_85 : decode cX0_isStable 85 = .ok (.iconst 2, 1) := dk_5 (dk_at dksX0_isStable_3 15 rfl rfl)
theorem dX0_isStable_86 : decode cX0_isStable 86 = .ok (.aload_n 1, 1) := dk_43 (dk_at dksX0_isStable_3 16 rfl rfl)
theorem dX0_isStable_87 : decode cX0_isStable 87 = .ok (.invokevirtual 207, 3) := dk_182 0 207 (dk_at dksX0_isStable_3 17 rfl rfl)
theorem dX0_isStable_90 : decode cX0_isStable 90 = .ok (.lneg, 1) := dk_117 (dk_at dksX0_isStable_3 20 rfl rfl)
theorem dX0_isStable_91 : decode cX0_isStable 91 = .ok (.aload_n 1, 1) := dk_43 (dk_at dksX0_isStable_3 21 rfl rfl)
theorem dX0_isStable_92 : decode cX0_isStable 92 = .ok (.invokestatic 211, 3) := dk_184 0 211 (dk_at dksX0_isStable_4 0 rfl rfl)
theorem dX0_isStable_95 : decode cX0_isStable 95 = .ok (.lmul, 1) := dk_105 (dk_at dksX0_isStable_4 3 rfl rfl)
theorem dX0_isStable_96 : decode cX0_isStable 96 = .ok (.lload_n 2, 1) := dk_32 (dk_at dksX0_isStable_4 4 rfl rfl)
theorem dX0_isStable_97 : decode cX0_isStable 97 = .ok (.lsub, 1) := dk_101 (dk_at dksX0_isStable_4 5 rfl rfl)
theorem dX0_isStable_98 : decode cX0_isStable 98 = .ok (.lastore, 1) := dk_80 (dk_at dksX0_isStable_4 6 rfl rfl)
theorem dX0_isStable_99 : decode cX0_isStable 99 = .ok (.invokestatic 448, 3) := dk_184 1 192 (dk_at dksX0_isStable_4 7 rfl rfl)
theorem dX0_isStable_102 : decode cX0_isStable 102 = .ok (.ireturn, 1) := dk_172 (dk_at dksX0_isStable_4 10 rfl rfl)
abbrev cX0_areAbove : ByteArray := prog_1_method_72_code
def yX0_areAbove : MethodName := ⟨RX0, "areAbove", "([J)Z"⟩
def dkwX0_areAbove_1 : List UInt8 := [3, 172, 132, 3, 1, 167, 255, 234, 4, 172]
abbrev dktX0_areAbove_1 : List UInt8 := dkwX0_areAbove_1 ++ []
def dkwX0_areAbove_0 : List UInt8 := [42, 76, 43, 190, 61, 3, 62, 29, 28, 162, 0, 23, 43, 29, 47, 55, 4, 22, 4, 9, 148, 157, 0, 5]
abbrev dktX0_areAbove_0 : List UInt8 := dkwX0_areAbove_0 ++ dktX0_areAbove_1
theorem dksX0_areAbove_0 : cX0_areAbove.data.toList.drop 0 = dktX0_areAbove_0 := by decide +kernel
theorem dksX0_areAbove_1 : cX0_areAbove.data.toList.drop 24 = dktX0_areAbove_1 := dk_seg dksX0_areAbove_0 24 rfl rfl
theorem dX0_areAbove_0 : decode cX0_areAbove 0 = .ok (.aload_n 0, 1) := dk_42 (dk_at dksX0_areAbove_0 0 rfl rfl)
theorem dX0_areAbove_1 : decode cX0_areAbove 1 = .ok (.astore_n 1, 1) := dk_76 (dk_at dksX0_areAbove_0 1 rfl rfl)
theorem dX0_areAbove_2 : decode cX0_areAbove 2 = .ok (.aload_n 1, 1) := dk_43 (dk_at dksX0_areAbove_0 2 rfl rfl)
theorem dX0_areAbove_3 : decode cX0_areAbove 3 = .ok (.arraylength, 1) := dk_190 (dk_at dksX0_areAbove_0 3 rfl rfl)
theorem dX0_areAbove_4 : decode cX0_areAbove 4 = .ok (.istore_n 2, 1) := dk_61 (dk_at dksX0_areAbove_0 4 rfl rfl)
theorem dX0_areAbove_5 : decode cX0_areAbove 5 = .ok (.iconst 0, 1) := dk_3 (dk_at dksX0_areAbove_0 5 rfl rfl)
theorem dX0_areAbove_6 : decode cX0_areAbove 6 = .ok (.istore_n 3, 1) := dk_62 (dk_at dksX0_areAbove_0 6 rfl rfl)
theorem dX0_areAbove_7 : decode cX0_areAbove 7 = .ok (.iload_n 3, 1) := dk_29 (dk_at dksX0_areAbove_0 7 rfl rfl)
theorem dX0_areAbove_8 : decode cX0_areAbove 8 = .ok (.iload_n 2, 1) := dk_28 (dk_at dksX0_areAbove_0 8 rfl rfl)
theorem dX0_areAbove_9 : decode cX0_areAbove 9 = .ok (.if_icmp .ge 23, 3) := dk_162 0 23 (dk_at dksX0_areAbove_0 9 rfl rfl)
theorem dX0_areAbove_12 : decode cX0_areAbove 12 = .ok (.aload_n 1, 1) := dk_43 (dk_at dksX0_areAbove_0 12 rfl rfl)
theorem dX0_areAbove_13 : decode cX0_areAbove 13 = .ok (.iload_n 3, 1) := dk_29 (dk_at dksX0_areAbove_0 13 rfl rfl)
theorem dX0_areAbove_14 : decode cX0_areAbove 14 = .ok (.laload, 1) := dk_47 (dk_at dksX0_areAbove_0 14 rfl rfl)
theorem dX0_areAbove_15 : decode cX0_areAbove 15 = .ok (.lstore 4, 2) := dk_55 4 (dk_at dksX0_areAbove_0 15 rfl rfl)
theorem dX0_areAbove_17 : decode cX0_areAbove 17 = .ok (.lload 4, 2) := dk_22 4 (dk_at dksX0_areAbove_0 17 rfl rfl)
theorem dX0_areAbove_19 : decode cX0_areAbove 19 = .ok (.lconst 0, 1) := dk_9 (dk_at dksX0_areAbove_0 19 rfl rfl)
theorem dX0_areAbove_20 : decode cX0_areAbove 20 = .ok (.lcmp, 1) := dk_148 (dk_at dksX0_areAbove_0 20 rfl rfl)
theorem dX0_areAbove_21 : decode cX0_areAbove 21 = .ok (.ifCond .gt 5, 3) := dk_157 0 5 (dk_at dksX0_areAbove_0 21 rfl rfl)
theorem dX0_areAbove_24 : decode cX0_areAbove 24 = .ok (.iconst 0, 1) := dk_3 (dk_at dksX0_areAbove_1 0 rfl rfl)
theorem dX0_areAbove_25 : decode cX0_areAbove 25 = .ok (.ireturn, 1) := dk_172 (dk_at dksX0_areAbove_1 1 rfl rfl)
theorem dX0_areAbove_26 : decode cX0_areAbove 26 = .ok (.iinc 3 1, 3) := dk_132 3 1 (dk_at dksX0_areAbove_1 2 rfl rfl)
theorem dX0_areAbove_29 : decode cX0_areAbove 29 = .ok (.goto (-22), 3) := dk_167 255 234 (dk_at dksX0_areAbove_1 5 rfl rfl)
theorem dX0_areAbove_32 : decode cX0_areAbove 32 = .ok (.iconst 1, 1) := dk_4 (dk_at dksX0_areAbove_1 8 rfl rfl)
theorem dX0_areAbove_33 : decode cX0_areAbove 33 = .ok (.ireturn, 1) := dk_172 (dk_at dksX0_areAbove_1 9 rfl rfl)
abbrev cX0_lay : ByteArray := prog_1_method_77_code
def yX0_lay : MethodName := ⟨RX0, "lay", "(II)I"⟩
def dkwX0_lay_3 : List UInt8 := [50, 33, 182, 1, 210, 181, 1, 214, 21, 5, 172, 78, 16, 253, 172, 78, 16, 240, 172]
abbrev dktX0_lay_3 : List UInt8 := dkwX0_lay_3 ++ []
def dkwX0_lay_2 : List UInt8 := [27, 50, 182, 1, 206, 66, 33, 184, 1, 199, 54, 5, 42, 180, 0, 116, 28, 50, 42, 42, 180, 0, 72, 27]
abbrev dktX0_lay_2 : List UInt8 := dkwX0_lay_2 ++ dktX0_lay_3
def dkwX0_lay_1 : List UInt8 := [182, 1, 151, 154, 0, 6, 16, 252, 172, 42, 42, 180, 0, 72, 27, 50, 182, 1, 107, 42, 42, 180, 0, 72]
abbrev dktX0_lay_1 : List UInt8 := dkwX0_lay_1 ++ dktX0_lay_2
def dkwX0_lay_0 : List UInt8 := [42, 27, 182, 1, 148, 153, 0, 10, 28, 184, 1, 203, 154, 0, 5, 2, 172, 42, 42, 180, 0, 72, 27, 50]
abbrev dktX0_lay_0 : List UInt8 := dkwX0_lay_0 ++ dktX0_lay_1
theorem dksX0_lay_0 : cX0_lay.data.toList.drop 0 = dktX0_lay_0 := by decide +kernel
theorem dksX0_lay_1 : cX0_lay.data.toList.drop 24 = dktX0_lay_1 := dk_seg dksX0_lay_0 24 rfl rfl
theorem dksX0_lay_2 : cX0_lay.data.toList.drop 48 = dktX0_lay_2 := dk_seg dksX0_lay_1 24 rfl rfl
theorem dksX0_lay_3 : cX0_lay.data.toList.drop 72 = dktX0_lay_3 := dk_seg dksX0_lay_2 24 rfl rfl
theorem dX0_lay_0 : decode cX0_lay 0 = .ok (.aload_n 0, 1) := dk_42 (dk_at dksX0_lay_0 0 rfl rfl)
theorem dX0_lay_1 : decode cX0_lay 1 = .ok (.iload_n 1, 1) := dk_27 (dk_at dksX0_lay_0 1 rfl rfl)
theorem dX0_lay_2 : decode cX0_lay 2 = .ok (.invokevirtual 404, 3) := dk_182 1 148 (dk_at dksX0_lay_0 2 rfl rfl)
theorem dX0_lay_5 : decode cX0_lay 5 = .ok (.ifCond .eq 10, 3) := dk_153 0 10 (dk_at dksX0_lay_0 5 rfl rfl)
theorem dX0_lay_8 : decode cX0_lay 8 = .ok (.iload_n 2, 1) := dk_28 (dk_at dksX0_lay_0 8 rfl rfl)
theorem dX0_lay_9 : decode cX0_lay 9 = .ok (.invokestatic 459, 3) := dk_184 1 203 (dk_at dksX0_lay_0 9 rfl rfl)
theorem dX0_lay_12 : decode cX0_lay 12 = .ok (.ifCond .ne 5, 3) := dk_154 0 5 (dk_at dksX0_lay_0 12 rfl rfl)
theorem dX0_lay_15 : decode cX0_lay 15 = .ok (.iconst (-1), 1) := dk_2 (dk_at dksX0_lay_0 15 rfl rfl)
theorem dX0_lay_16 : decode cX0_lay 16 = .ok (.ireturn, 1) := dk_172 (dk_at dksX0_lay_0 16 rfl rfl)
theorem dX0_lay_17 : decode cX0_lay 17 = .ok (.aload_n 0, 1) := dk_42 (dk_at dksX0_lay_0 17 rfl rfl)
theorem dX0_lay_18 : decode cX0_lay 18 = .ok (.aload_n 0, 1) := dk_42 (dk_at dksX0_lay_0 18 rfl rfl)
theorem dX0_lay_19 : decode cX0_lay 19 = .ok (.getfield 72, 3) := dk_180 0 72 (dk_at dksX0_lay_0 19 rfl rfl)
theorem dX0_lay_22 : decode cX0_lay 22 = .ok (.iload_n 1, 1) := dk_27 (dk_at dksX0_lay_0 22 rfl rfl)
theorem dX0_lay_23 : decode cX0_lay 23 = .ok (.aaload, 1) := dk_50 (dk_at dksX0_lay_0 23 rfl rfl)
theorem dX0_lay_24 : decode cX0_lay 24 = .ok (.invokevirtual 407, 3) := dk_182 1 151 (dk_at dksX0_lay_1 0 rfl rfl)
theorem dX0_lay_27 : decode cX0_lay 27 = .ok (.ifCond .ne 6, 3) := dk_154 0 6 (dk_at dksX0_lay_1 3 rfl rfl)
theorem dX0_lay_30 : decode cX0_lay 30 = .ok (.bipush (-4), 2) := dk_16 252 (dk_at dksX0_lay_1 6 rfl rfl)
theorem dX0_lay_32 : decode cX0_lay 32 = .ok (.ireturn, 1) := dk_172 (dk_at dksX0_lay_1 8 rfl rfl)
theorem dX0_lay_33 : decode cX0_lay 33 = .ok (.aload_n 0, 1) := dk_42 (dk_at dksX0_lay_1 9 rfl rfl)
theorem dX0_lay_34 : decode cX0_lay 34 = .ok (.aload_n 0, 1) := dk_42 (dk_at dksX0_lay_1 10 rfl rfl)
theorem dX0_lay_35 : decode cX0_lay 35 = .ok (.getfield 72, 3) := dk_180 0 72 (dk_at dksX0_lay_1 11 rfl rfl)
theorem dX0_lay_38 : decode cX0_lay 38 = .ok (.iload_n 1, 1) := dk_27 (dk_at dksX0_lay_1 14 rfl rfl)
theorem dX0_lay_39 : decode cX0_lay 39 = .ok (.aaload, 1) := dk_50 (dk_at dksX0_lay_1 15 rfl rfl)
theorem dX0_lay_40 : decode cX0_lay 40 = .ok (.invokevirtual 363, 3) := dk_182 1 107 (dk_at dksX0_lay_1 16 rfl rfl)
theorem dX0_lay_43 : decode cX0_lay 43 = .ok (.aload_n 0, 1) := dk_42 (dk_at dksX0_lay_1 19 rfl rfl)
theorem dX0_lay_44 : decode cX0_lay 44 = .ok (.aload_n 0, 1) := dk_42 (dk_at dksX0_lay_1 20 rfl rfl)
theorem dX0_lay_45 : decode cX0_lay 45 = .ok (.getfield 72, 3) := dk_180 0 72 (dk_at dksX0_lay_1 21 rfl rfl)
theorem dX0_lay_48 : decode cX0_lay 48 = .ok (.iload_n 1, 1) := dk_27 (dk_at dksX0_lay_2 0 rfl rfl)
theorem dX0_lay_49 : decode cX0_lay 49 = .ok (.aaload, 1) := dk_50 (dk_at dksX0_lay_2 1 rfl rfl)
theorem dX0_lay_50 : decode cX0_lay 50 = .ok (.invokevirtual 462, 3) := dk_182 1 206 (dk_at dksX0_lay_2 2 rfl rfl)
theorem dX0_lay_53 : decode cX0_lay 53 = .ok (.lstore_n 3, 1) := dk_66 (dk_at dksX0_lay_2 5 rfl rfl)
theorem dX0_lay_54 : decode cX0_lay 54 = .ok (.lload_n 3, 1) := dk_33 (dk_at dksX0_lay_2 6 rfl rfl)
theorem dX0_lay_55 : decode cX0_lay 55 = .ok (.invokestatic 455, 3) := dk_184 1 199 (dk_at dksX0_lay_2 7 rfl rfl)
theorem dX0_lay_58 : decode cX0_lay 58 = .ok (.istore 5, 2) := dk_54 5 (dk_at dksX0_lay_2 10 rfl rfl)
theorem dX0_lay_60 : decode cX0_lay 60 = .ok (.aload_n 0, 1) := dk_42 (dk_at dksX0_lay_2 12 rfl rfl)
theorem dX0_lay_61 : decode cX0_lay 61 = .ok (.getfield 116, 3) := dk_180 0 116 (dk_at dksX0_lay_2 13 rfl rfl)
theorem dX0_lay_64 : decode cX0_lay 64 = .ok (.iload_n 2, 1) := dk_28 (dk_at dksX0_lay_2 16 rfl rfl)
theorem dX0_lay_65 : decode cX0_lay 65 = .ok (.aaload, 1) := dk_50 (dk_at dksX0_lay_2 17 rfl rfl)
theorem dX0_lay_66 : decode cX0_lay 66 = .ok (.aload_n 0, 1) := dk_42 (dk_at dksX0_lay_2 18 rfl rfl)
theorem dX0_lay_67 : decode cX0_lay 67 = .ok (.aload_n 0, 1) := dk_42 (dk_at dksX0_lay_2 19 rfl rfl)
theorem dX0_lay_68 : decode cX0_lay 68 = .ok (.getfield 72, 3) := dk_180 0 72 (dk_at dksX0_lay_2 20 rfl rfl)
theorem dX0_lay_71 : decode cX0_lay 71 = .ok (.iload_n 1, 1) := dk_27 (dk_at dksX0_lay_2 23 rfl rfl)
theorem dX0_lay_72 : decode cX0_lay 72 = .ok (.aaload, 1) := dk_50 (dk_at dksX0_lay_3 0 rfl rfl)
theorem dX0_lay_73 : decode cX0_lay 73 = .ok (.lload_n 3, 1) := dk_33 (dk_at dksX0_lay_3 1 rfl rfl)
theorem dX0_lay_74 : decode cX0_lay 74 = .ok (.invokevirtual 466, 3) := dk_182 1 210 (dk_at dksX0_lay_3 2 rfl rfl)
theorem dX0_lay_77 : decode cX0_lay 77 = .ok (.putfield 470, 3) := dk_181 1 214 (dk_at dksX0_lay_3 5 rfl rfl)
theorem dX0_lay_80 : decode cX0_lay 80 = .ok (.iload 5, 2) := dk_21 5 (dk_at dksX0_lay_3 8 rfl rfl)
theorem dX0_lay_82 : decode cX0_lay 82 = .ok (.ireturn, 1) := dk_172 (dk_at dksX0_lay_3 10 rfl rfl)
theorem dX0_lay_83 : decode cX0_lay 83 = .ok (.astore_n 3, 1) := dk_78 (dk_at dksX0_lay_3 11 rfl rfl)
theorem dX0_lay_84 : decode cX0_lay 84 = .ok (.bipush (-3), 2) := dk_16 253 (dk_at dksX0_lay_3 12 rfl rfl)
theorem dX0_lay_86 : decode cX0_lay 86 = .ok (.ireturn, 1) := dk_172 (dk_at dksX0_lay_3 14 rfl rfl)
theorem dX0_lay_87 : decode cX0_lay 87 = .ok (.astore_n 3, 1) := dk_78 (dk_at dksX0_lay_3 15 rfl rfl)
theorem dX0_lay_88 : decode cX0_lay 88 = .ok (.bipush (-16), 2) := dk_16 240 (dk_at dksX0_lay_3 16 rfl rfl)
theorem dX0_lay_90 : decode cX0_lay 90 = .ok (.ireturn, 1) := dk_172 (dk_at dksX0_lay_3 18 rfl rfl)
abbrev cX0_isShelf : ByteArray := prog_1_method_90_code
def yX0_isShelf : MethodName := ⟨RX0, "isShelf", "(I)Z"⟩
def dkwX0_isShelf_0 : List UInt8 := [26, 3, 6, 184, 0, 130, 172]
abbrev dktX0_isShelf_0 : List UInt8 := dkwX0_isShelf_0 ++ []
theorem dksX0_isShelf_0 : cX0_isShelf.data.toList.drop 0 = dktX0_isShelf_0 := by decide +kernel
theorem dX0_isShelf_0 : decode cX0_isShelf 0 = .ok (.iload_n 0, 1) := dk_26 (dk_at dksX0_isShelf_0 0 rfl rfl)
theorem dX0_isShelf_1 : decode cX0_isShelf 1 = .ok (.iconst 0, 1) := dk_3 (dk_at dksX0_isShelf_0 1 rfl rfl)
theorem dX0_isShelf_2 : decode cX0_isShelf 2 = .ok (.iconst 3, 1) := dk_6 (dk_at dksX0_isShelf_0 2 rfl rfl)
theorem dX0_isShelf_3 : decode cX0_isShelf 3 = .ok (.invokestatic 130, 3) := dk_184 0 130 (dk_at dksX0_isShelf_0 3 rfl rfl)
theorem dX0_isShelf_6 : decode cX0_isShelf 6 = .ok (.ireturn, 1) := dk_172 (dk_at dksX0_isShelf_0 6 rfl rfl)
abbrev cX0_scaleOf : ByteArray := prog_1_method_75_code
def yX0_scaleOf : MethodName := ⟨RX0, "scaleOf", "(LTwoSidedTables$Plain;)J"⟩
def dkwX0_scaleOf_3 : List UInt8 := [184, 1, 79, 65, 132, 5, 1, 167, 255, 200, 132, 4, 1, 167, 255, 179, 32, 173]
abbrev dktX0_scaleOf_3 : List UInt8 := dkwX0_scaleOf_3 ++ []
def dkwX0_scaleOf_2 : List UInt8 := [182, 1, 43, 42, 180, 1, 36, 3, 4, 182, 1, 171, 55, 6, 32, 22, 6, 32, 22, 6, 184, 1, 120, 109]
abbrev dktX0_scaleOf_2 : List UInt8 := dkwX0_scaleOf_2 ++ dktX0_scaleOf_3
def dkwX0_scaleOf_1 : List UInt8 := [180, 0, 62, 180, 0, 137, 162, 0, 50, 42, 43, 21, 4, 21, 5, 42, 180, 0, 62, 180, 0, 137]
abbrev dktX0_scaleOf_1 : List UInt8 := dkwX0_scaleOf_1 ++ dktX0_scaleOf_2
def dkwX0_scaleOf_0 : List UInt8 := [10, 65, 3, 54, 4, 21, 4, 42, 180, 0, 62, 180, 0, 134, 162, 0, 71, 3, 54, 5, 21, 5, 42]
abbrev dktX0_scaleOf_0 : List UInt8 := dkwX0_scaleOf_0 ++ dktX0_scaleOf_1
theorem dksX0_scaleOf_0 : cX0_scaleOf.data.toList.drop 0 = dktX0_scaleOf_0 := by decide +kernel
theorem dksX0_scaleOf_1 : cX0_scaleOf.data.toList.drop 23 = dktX0_scaleOf_1 := dk_seg dksX0_scaleOf_0 23 rfl rfl
theorem dksX0_scaleOf_2 : cX0_scaleOf.data.toList.drop 45 = dktX0_scaleOf_2 := dk_seg dksX0_scaleOf_1 22 rfl rfl
theorem dksX0_scaleOf_3 : cX0_scaleOf.data.toList.drop 69 = dktX0_scaleOf_3 := dk_seg dksX0_scaleOf_2 24 rfl rfl
theorem dX0_scaleOf_0 : decode cX0_scaleOf 0 = .ok (.lconst 1, 1) := dk_10 (dk_at dksX0_scaleOf_0 0 rfl rfl)
theorem dX0_scaleOf_1 : decode cX0_scaleOf 1 = .ok (.lstore_n 2, 1) := dk_65 (dk_at dksX0_scaleOf_0 1 rfl rfl)
theorem dX0_scaleOf_2 : decode cX0_scaleOf 2 = .ok (.iconst 0, 1) := dk_3 (dk_at dksX0_scaleOf_0 2 rfl rfl)
theorem dX0_scaleOf_3 : decode cX0_scaleOf 3 = .ok (.istore 4, 2) := dk_54 4 (dk_at dksX0_scaleOf_0 3 rfl rfl)
theorem dX0_scaleOf_5 : decode cX0_scaleOf 5 = .ok (.iload 4, 2) := dk_21 4 (dk_at dksX0_scaleOf_0 5 rfl rfl)
theorem dX0_scaleOf_7 : decode cX0_scaleOf 7 = .ok (.aload_n 0, 1) := dk_42 (dk_at dksX0_scaleOf_0 7 rfl rfl)
theorem dX0_scaleOf_8 : decode cX0_scaleOf 8 = .ok (.getfield 62, 3) := dk_180 0 62 (dk_at dksX0_scaleOf_0 8 rfl rfl)
theorem dX0_scaleOf_11 : decode cX0_scaleOf 11 = .ok (.getfield 134, 3) := dk_180 0 134 (dk_at dksX0_scaleOf_0 11 rfl rfl)
theorem dX0_scaleOf_14 : decode cX0_scaleOf 14 = .ok (.if_icmp .ge 71, 3) := dk_162 0 71 (dk_at dksX0_scaleOf_0 14 rfl rfl)
theorem dX0_scaleOf_17 : decode cX0_scaleOf 17 = .ok (.iconst 0, 1) := dk_3 (dk_at dksX0_scaleOf_0 17 rfl rfl)
theorem dX0_scaleOf_18 : decode cX0_scaleOf 18 = .ok (.istore 5, 2) := dk_54 5 (dk_at dksX0_scaleOf_0 18 rfl rfl)
theorem dX0_scaleOf_20 : decode cX0_scaleOf 20 = .ok (.iload 5, 2) := dk_21 5 (dk_at dksX0_scaleOf_0 20 rfl rfl)
theorem dX0_scaleOf_22 : decode cX0_scaleOf 22 = .ok (.aload_n 0, 1) := dk_42 (dk_at dksX0_scaleOf_0 22 rfl rfl)
theorem dX0_scaleOf_23 : decode cX0_scaleOf 23 = .ok (.getfield 62, 3) := dk_180 0 62 (dk_at dksX0_scaleOf_1 0 rfl rfl)
theorem dX0_scaleOf_26 : decode cX0_scaleOf 26 = .ok (.getfield 137, 3) := dk_180 0 137 (dk_at dksX0_scaleOf_1 3 rfl rfl)
theorem dX0_scaleOf_29 : decode cX0_scaleOf 29 = .ok (.if_icmp .ge 50, 3) := dk_162 0 50 (dk_at dksX0_scaleOf_1 6 rfl rfl)
theorem dX0_scaleOf_32 : decode cX0_scaleOf 32 = .ok (.aload_n 0, 1) := dk_42 (dk_at dksX0_scaleOf_1 9 rfl rfl)
theorem dX0_scaleOf_33 : decode cX0_scaleOf 33 = .ok (.aload_n 1, 1) := dk_43 (dk_at dksX0_scaleOf_1 10 rfl rfl)
theorem dX0_scaleOf_34 : decode cX0_scaleOf 34 = .ok (.iload 4, 2) := dk_21 4 (dk_at dksX0_scaleOf_1 11 rfl rfl)
theorem dX0_scaleOf_36 : decode cX0_scaleOf 36 = .ok (.iload 5, 2) := dk_21 5 (dk_at dksX0_scaleOf_1 13 rfl rfl)
theorem dX0_scaleOf_38 : decode cX0_scaleOf 38 = .ok (.aload_n 0, 1) := dk_42 (dk_at dksX0_scaleOf_1 15 rfl rfl)
theorem dX0_scaleOf_39 : decode cX0_scaleOf 39 = .ok (.getfield 62, 3) := dk_180 0 62 (dk_at dksX0_scaleOf_1 16 rfl rfl)
theorem dX0_scaleOf_42 : decode cX0_scaleOf 42 = .ok (.getfield 137, 3) := dk_180 0 137 (dk_at dksX0_scaleOf_1 19 rfl rfl)
theorem dX0_scaleOf_45 : decode cX0_scaleOf 45 = .ok (.invokevirtual 299, 3) := dk_182 1 43 (dk_at dksX0_scaleOf_2 0 rfl rfl)
theorem dX0_scaleOf_48 : decode cX0_scaleOf 48 = .ok (.aload_n 0, 1) := dk_42 (dk_at dksX0_scaleOf_2 3 rfl rfl)
theorem dX0_scaleOf_49 : decode cX0_scaleOf 49 = .ok (.getfield 292, 3) := dk_180 1 36 (dk_at dksX0_scaleOf_2 4 rfl rfl)
theorem dX0_scaleOf_52 : decode cX0_scaleOf 52 = .ok (.iconst 0, 1) := dk_3 (dk_at dksX0_scaleOf_2 7 rfl rfl)
theorem dX0_scaleOf_53 : decode cX0_scaleOf 53 = .ok (.iconst 1, 1) := dk_4 (dk_at dksX0_scaleOf_2 8 rfl rfl)
theorem dX0_scaleOf_54 : decode cX0_scaleOf 54 = .ok (.invokevirtual 427, 3) := dk_182 1 171 (dk_at dksX0_scaleOf_2 9 rfl rfl)
theorem dX0_scaleOf_57 : decode cX0_scaleOf 57 = .ok (.lstore 6, 2) := dk_55 6 (dk_at dksX0_scaleOf_2 12 rfl rfl)
theorem dX0_scaleOf_59 : decode cX0_scaleOf 59 = .ok (.lload_n 2, 1) := dk_32 (dk_at dksX0_scaleOf_2 14 rfl rfl)
theorem dX0_scaleOf_60 : decode cX0_scaleOf 60 = .ok (.lload 6, 2) := dk_22 6 (dk_at dksX0_scaleOf_2 15 rfl rfl)
theorem dX0_scaleOf_62 : decode cX0_scaleOf 62 = .ok (.lload_n 2, 1) := dk_32 (dk_at dksX0_scaleOf_2 17 rfl rfl)
theorem dX0_scaleOf_63 : decode cX0_scaleOf 63 = .ok (.lload 6, 2) := dk_22 6 (dk_at dksX0_scaleOf_2 18 rfl rfl)
theorem dX0_scaleOf_65 : decode cX0_scaleOf 65 = .ok (.invokestatic 376, 3) := dk_184 1 120 (dk_at dksX0_scaleOf_2 20 rfl rfl)
theorem dX0_scaleOf_68 : decode cX0_scaleOf 68 = .ok (.ldiv, 1) := dk_109 (dk_at dksX0_scaleOf_2 23 rfl rfl)
theorem dX0_scaleOf_69 : decode cX0_scaleOf 69 = .ok (.invokestatic 335, 3) := dk_184 1 79 (dk_at dksX0_scaleOf_3 0 rfl rfl)
theorem dX0_scaleOf_72 : decode cX0_scaleOf 72 = .ok (.lstore_n 2, 1) := dk_65 (dk_at dksX0_scaleOf_3 3 rfl rfl)
theorem dX0_scaleOf_73 : decode cX0_scaleOf 73 = .ok (.iinc 5 1, 3) := dk_132 5 1 (dk_at dksX0_scaleOf_3 4 rfl rfl)
theorem dX0_scaleOf_76 : decode cX0_scaleOf 76 = .ok (.goto (-56), 3) := dk_167 255 200 (dk_at dksX0_scaleOf_3 7 rfl rfl)
theorem dX0_scaleOf_79 : decode cX0_scaleOf 79 = .ok (.iinc 4 1, 3) := dk_132 4 1 (dk_at dksX0_scaleOf_3 10 rfl rfl)
theorem dX0_scaleOf_82 : decode cX0_scaleOf 82 = .ok (.goto (-77), 3) := dk_167 255 179 (dk_at dksX0_scaleOf_3 13 rfl rfl)
theorem dX0_scaleOf_85 : decode cX0_scaleOf 85 = .ok (.lload_n 2, 1) := dk_32 (dk_at dksX0_scaleOf_3 16 rfl rfl)
theorem dX0_scaleOf_86 : decode cX0_scaleOf 86 = .ok (.lreturn, 1) := dk_173 (dk_at dksX0_scaleOf_3 17 rfl rfl)
abbrev cX0_laidOut : ByteArray := prog_1_method_76_code
def yX0_laidOut : MethodName := ⟨RX0, "laidOut", "(LTwoSidedTables$Plain;J)[I"⟩
def dkwX0_laidOut_5 : List UInt8 := [132, 6, 1, 167, 255, 172, 132, 5, 1, 167, 255, 151, 25, 4, 176]
abbrev dktX0_laidOut_5 : List UInt8 := dkwX0_laidOut_5 ++ []
def dkwX0_laidOut_4 : List UInt8 := [21, 6, 96, 22, 8, 42, 21, 7, 42, 180, 1, 36, 3, 3, 182, 1, 171, 184, 1, 79, 184, 1, 199, 79]
abbrev dktX0_laidOut_4 : List UInt8 := dkwX0_laidOut_4 ++ dktX0_laidOut_5
def dkwX0_laidOut_3 : List UInt8 := [42, 180, 1, 36, 3, 4, 182, 1, 171, 109, 55, 8, 25, 4, 42, 180, 0, 62, 180, 0, 137, 21, 5, 104]
abbrev dktX0_laidOut_3 : List UInt8 := dkwX0_laidOut_3 ++ dktX0_laidOut_4
def dkwX0_laidOut_2 : List UInt8 := [162, 0, 78, 43, 21, 5, 21, 6, 42, 180, 0, 62, 180, 0, 137, 182, 1, 43, 54, 7, 32, 42, 21, 7]
abbrev dktX0_laidOut_2 : List UInt8 := dkwX0_laidOut_2 ++ dktX0_laidOut_3
def dkwX0_laidOut_1 : List UInt8 := [42, 180, 0, 62, 180, 0, 134, 162, 0, 99, 3, 54, 6, 21, 6, 42, 180, 0, 62, 180, 0, 137]
abbrev dktX0_laidOut_1 : List UInt8 := dkwX0_laidOut_1 ++ dktX0_laidOut_2
def dkwX0_laidOut_0 : List UInt8 := [42, 180, 0, 62, 180, 0, 134, 42, 180, 0, 62, 180, 0, 137, 104, 188, 10, 58, 4, 3, 54, 5, 21, 5]
abbrev dktX0_laidOut_0 : List UInt8 := dkwX0_laidOut_0 ++ dktX0_laidOut_1
theorem dksX0_laidOut_0 : cX0_laidOut.data.toList.drop 0 = dktX0_laidOut_0 := by decide +kernel
theorem dksX0_laidOut_1 : cX0_laidOut.data.toList.drop 24 = dktX0_laidOut_1 := dk_seg dksX0_laidOut_0 24 rfl rfl
theorem dksX0_laidOut_2 : cX0_laidOut.data.toList.drop 46 = dktX0_laidOut_2 := dk_seg dksX0_laidOut_1 22 rfl rfl
theorem dksX0_laidOut_3 : cX0_laidOut.data.toList.drop 70 = dktX0_laidOut_3 := dk_seg dksX0_laidOut_2 24 rfl rfl
theorem dksX0_laidOut_4 : cX0_laidOut.data.toList.drop 94 = dktX0_laidOut_4 := dk_seg dksX0_laidOut_3 24 rfl rfl
theorem dksX0_laidOut_5 : cX0_laidOut.data.toList.drop 118 = dktX0_laidOut_5 := dk_seg dksX0_laidOut_4 24 rfl rfl
theorem dX0_laidOut_0 : decode cX0_laidOut 0 = .ok (.aload_n 0, 1) := dk_42 (dk_at dksX0_laidOut_0 0 rfl rfl)
theorem dX0_laidOut_1 : decode cX0_laidOut 1 = .ok (.getfield 62, 3) := dk_180 0 62 (dk_at dksX0_laidOut_0 1 rfl rfl)
theorem dX0_laidOut_4 : decode cX0_laidOut 4 = .ok (.getfield 134, 3) := dk_180 0 134 (dk_at dksX0_laidOut_0 4 rfl rfl)
theorem dX0_laidOut_7 : decode cX0_laidOut 7 = .ok (.aload_n 0, 1) := dk_42 (dk_at dksX0_laidOut_0 7 rfl rfl)
theorem dX0_laidOut_8 : decode cX0_laidOut 8 = .ok (.getfield 62, 3) := dk_180 0 62 (dk_at dksX0_laidOut_0 8 rfl rfl)
theorem dX0_laidOut_11 : decode cX0_laidOut 11 = .ok (.getfield 137, 3) := dk_180 0 137 (dk_at dksX0_laidOut_0 11 rfl rfl)
theorem dX0_laidOut_14 : decode cX0_laidOut 14 = .ok (.imul, 1) := dk_104 (dk_at dksX0_laidOut_0 14 rfl rfl)
theorem dX0_laidOut_15 : decode cX0_laidOut 15 = .ok (.newarray .int, 2) := dk_188_10 (dk_at dksX0_laidOut_0 15 rfl rfl)
theorem dX0_laidOut_17 : decode cX0_laidOut 17 = .ok (.astore 4, 2) := dk_58 4 (dk_at dksX0_laidOut_0 17 rfl rfl)
theorem dX0_laidOut_19 : decode cX0_laidOut 19 = .ok (.iconst 0, 1) := dk_3 (dk_at dksX0_laidOut_0 19 rfl rfl)
theorem dX0_laidOut_20 : decode cX0_laidOut 20 = .ok (.istore 5, 2) := dk_54 5 (dk_at dksX0_laidOut_0 20 rfl rfl)
theorem dX0_laidOut_22 : decode cX0_laidOut 22 = .ok (.iload 5, 2) := dk_21 5 (dk_at dksX0_laidOut_0 22 rfl rfl)
theorem dX0_laidOut_24 : decode cX0_laidOut 24 = .ok (.aload_n 0, 1) := dk_42 (dk_at dksX0_laidOut_1 0 rfl rfl)
theorem dX0_laidOut_25 : decode cX0_laidOut 25 = .ok (.getfield 62, 3) := dk_180 0 62 (dk_at dksX0_laidOut_1 1 rfl rfl)
theorem dX0_laidOut_28 : decode cX0_laidOut 28 = .ok (.getfield 134, 3) := dk_180 0 134 (dk_at dksX0_laidOut_1 4 rfl rfl)
theorem dX0_laidOut_31 : decode cX0_laidOut 31 = .ok (.if_icmp .ge 99, 3) := dk_162 0 99 (dk_at dksX0_laidOut_1 7 rfl rfl)
theorem dX0_laidOut_34 : decode cX0_laidOut 34 = .ok (.iconst 0, 1) := dk_3 (dk_at dksX0_laidOut_1 10 rfl rfl)
theorem dX0_laidOut_35 : decode cX0_laidOut 35 = .ok (.istore 6, 2) := dk_54 6 (dk_at dksX0_laidOut_1 11 rfl rfl)
theorem dX0_laidOut_37 : decode cX0_laidOut 37 = .ok (.iload 6, 2) := dk_21 6 (dk_at dksX0_laidOut_1 13 rfl rfl)
theorem dX0_laidOut_39 : decode cX0_laidOut 39 = .ok (.aload_n 0, 1) := dk_42 (dk_at dksX0_laidOut_1 15 rfl rfl)
theorem dX0_laidOut_40 : decode cX0_laidOut 40 = .ok (.getfield 62, 3) := dk_180 0 62 (dk_at dksX0_laidOut_1 16 rfl rfl)
theorem dX0_laidOut_43 : decode cX0_laidOut 43 = .ok (.getfield 137, 3) := dk_180 0 137 (dk_at dksX0_laidOut_1 19 rfl rfl)
theorem dX0_laidOut_46 : decode cX0_laidOut 46 = .ok (.if_icmp .ge 78, 3) := dk_162 0 78 (dk_at dksX0_laidOut_2 0 rfl rfl)
theorem dX0_laidOut_49 : decode cX0_laidOut 49 = .ok (.aload_n 1, 1) := dk_43 (dk_at dksX0_laidOut_2 3 rfl rfl)
theorem dX0_laidOut_50 : decode cX0_laidOut 50 = .ok (.iload 5, 2) := dk_21 5 (dk_at dksX0_laidOut_2 4 rfl rfl)
theorem dX0_laidOut_52 : decode cX0_laidOut 52 = .ok (.iload 6, 2) := dk_21 6 (dk_at dksX0_laidOut_2 6 rfl rfl)
theorem dX0_laidOut_54 : decode cX0_laidOut 54 = .ok (.aload_n 0, 1) := dk_42 (dk_at dksX0_laidOut_2 8 rfl rfl)
theorem dX0_laidOut_55 : decode cX0_laidOut 55 = .ok (.getfield 62, 3) := dk_180 0 62 (dk_at dksX0_laidOut_2 9 rfl rfl)
theorem dX0_laidOut_58 : decode cX0_laidOut 58 = .ok (.getfield 137, 3) := dk_180 0 137 (dk_at dksX0_laidOut_2 12 rfl rfl)
theorem dX0_laidOut_61 : decode cX0_laidOut 61 = .ok (.invokevirtual 299, 3) := dk_182 1 43 (dk_at dksX0_laidOut_2 15 rfl rfl)
theorem dX0_laidOut_64 : decode cX0_laidOut 64 = .ok (.istore 7, 2) := dk_54 7 (dk_at dksX0_laidOut_2 18 rfl rfl)
theorem dX0_laidOut_66 : decode cX0_laidOut 66 = .ok (.lload_n 2, 1) := dk_32 (dk_at dksX0_laidOut_2 20 rfl rfl)
theorem dX0_laidOut_67 : decode cX0_laidOut 67 = .ok (.aload_n 0, 1) := dk_42 (dk_at dksX0_laidOut_2 21 rfl rfl)
theorem dX0_laidOut_68 : decode cX0_laidOut 68 = .ok (.iload 7, 2) := dk_21 7 (dk_at dksX0_laidOut_2 22 rfl rfl)
theorem dX0_laidOut_70 : decode cX0_laidOut 70 = .ok (.aload_n 0, 1) := dk_42 (dk_at dksX0_laidOut_3 0 rfl rfl)
theorem dX0_laidOut_71 : decode cX0_laidOut 71 = .ok (.getfield 292, 3) := dk_180 1 36 (dk_at dksX0_laidOut_3 1 rfl rfl)
theorem dX0_laidOut_74 : decode cX0_laidOut 74 = .ok (.iconst 0, 1) := dk_3 (dk_at dksX0_laidOut_3 4 rfl rfl)
theorem dX0_laidOut_75 : decode cX0_laidOut 75 = .ok (.iconst 1, 1) := dk_4 (dk_at dksX0_laidOut_3 5 rfl rfl)
theorem dX0_laidOut_76 : decode cX0_laidOut 76 = .ok (.invokevirtual 427, 3) := dk_182 1 171 (dk_at dksX0_laidOut_3 6 rfl rfl)
theorem dX0_laidOut_79 : decode cX0_laidOut 79 = .ok (.ldiv, 1) := dk_109 (dk_at dksX0_laidOut_3 9 rfl rfl)
theorem dX0_laidOut_80 : decode cX0_laidOut 80 = .ok (.lstore 8, 2) := dk_55 8 (dk_at dksX0_laidOut_3 10 rfl rfl)
theorem dX0_laidOut_82 : decode cX0_laidOut 82 = .ok (.aload 4, 2) := dk_25 4 (dk_at dksX0_laidOut_3 12 rfl rfl)
theorem dX0_laidOut_84 : decode cX0_laidOut 84 = .ok (.aload_n 0, 1) := dk_42 (dk_at dksX0_laidOut_3 14 rfl rfl)
theorem dX0_laidOut_85 : decode cX0_laidOut 85 = .ok (.getfield 62, 3) := dk_180 0 62 (dk_at dksX0_laidOut_3 15 rfl rfl)
theorem dX0_laidOut_88 : decode cX0_laidOut 88 = .ok (.getfield 137, 3) := dk_180 0 137 (dk_at dksX0_laidOut_3 18 rfl rfl)
theorem dX0_laidOut_91 : decode cX0_laidOut 91 = .ok (.iload 5, 2) := dk_21 5 (dk_at dksX0_laidOut_3 21 rfl rfl)
theorem dX0_laidOut_93 : decode cX0_laidOut 93 = .ok (.imul, 1) := dk_104 (dk_at dksX0_laidOut_3 23 rfl rfl)
theorem dX0_laidOut_94 : decode cX0_laidOut 94 = .ok (.iload 6, 2) := dk_21 6 (dk_at dksX0_laidOut_4 0 rfl rfl)
theorem dX0_laidOut_96 : decode cX0_laidOut 96 = .ok (.iadd, 1) := dk_96 (dk_at dksX0_laidOut_4 2 rfl rfl)
theorem dX0_laidOut_97 : decode cX0_laidOut 97 = .ok (.lload 8, 2) := dk_22 8 (dk_at dksX0_laidOut_4 3 rfl rfl)
theorem dX0_laidOut_99 : decode cX0_laidOut 99 = .ok (.aload_n 0, 1) := dk_42 (dk_at dksX0_laidOut_4 5 rfl rfl)
theorem dX0_laidOut_100 : decode cX0_laidOut 100 = .ok (.iload 7, 2) := dk_21 7 (dk_at dksX0_laidOut_4 6 rfl rfl)
theorem dX0_laidOut_102 : decode cX0_laidOut 102 = .ok (.aload_n 0, 1) := dk_42 (dk_at dksX0_laidOut_4 8 rfl rfl)
theorem dX0_laidOut_103 : decode cX0_laidOut 103 = .ok (.getfield 292, 3) := dk_180 1 36 (dk_at dksX0_laidOut_4 9 rfl rfl)
theorem dX0_laidOut_106 : decode cX0_laidOut 106 = .ok (.iconst 0, 1) := dk_3 (dk_at dksX0_laidOut_4 12 rfl rfl)
theorem dX0_laidOut_107 : decode cX0_laidOut 107 = .ok (.iconst 0, 1) := dk_3 (dk_at dksX0_laidOut_4 13 rfl rfl)
theorem dX0_laidOut_108 : decode cX0_laidOut 108 = .ok (.invokevirtual 427, 3) := dk_182 1 171 (dk_at dksX0_laidOut_4 14 rfl rfl)
theorem dX0_laidOut_111 : decode cX0_laidOut 111 = .ok (.invokestatic 335, 3) := dk_184 1 79 (dk_at dksX0_laidOut_4 17 rfl rfl)
theorem dX0_laidOut_114 : decode cX0_laidOut 114 = .ok (.invokestatic 455, 3) := dk_184 1 199 (dk_at dksX0_laidOut_4 20 rfl rfl)
theorem dX0_laidOut_117 : decode cX0_laidOut 117 = .ok (.iastore, 1) := dk_79 (dk_at dksX0_laidOut_4 23 rfl rfl)
theorem dX0_laidOut_118 : decode cX0_laidOut 118 = .ok (.iinc 6 1, 3) := dk_132 6 1 (dk_at dksX0_laidOut_5 0 rfl rfl)
theorem dX0_laidOut_121 : decode cX0_laidOut 121 = .ok (.goto (-84), 3) := dk_167 255 172 (dk_at dksX0_laidOut_5 3 rfl rfl)
theorem dX0_laidOut_124 : decode cX0_laidOut 124 = .ok (.iinc 5 1, 3) := dk_132 5 1 (dk_at dksX0_laidOut_5 6 rfl rfl)
theorem dX0_laidOut_127 : decode cX0_laidOut 127 = .ok (.goto (-105), 3) := dk_167 255 151 (dk_at dksX0_laidOut_5 9 rfl rfl)
theorem dX0_laidOut_130 : decode cX0_laidOut 130 = .ok (.aload 4, 2) := dk_25 4 (dk_at dksX0_laidOut_5 12 rfl rfl)
theorem dX0_laidOut_132 : decode cX0_laidOut 132 = .ok (.areturn, 1) := dk_176 (dk_at dksX0_laidOut_5 14 rfl rfl)
abbrev cX0_judge : ByteArray := prog_1_method_82_code
def yX0_judge : MethodName := ⟨RX0, "judge", "(III)I"⟩
def dkwX0_judge_2 : List UInt8 := [182, 1, 231, 29, 182, 1, 235, 172, 58, 4, 16, 243, 172, 58, 4, 25, 4, 180, 1, 241, 172]
abbrev dktX0_judge_2 : List UInt8 := dkwX0_judge_2 ++ []
def dkwX0_judge_1 : List UInt8 := [180, 0, 72, 27, 50, 182, 0, 147, 154, 0, 6, 16, 252, 172, 42, 42, 180, 0, 72, 27, 50, 42, 28]
abbrev dktX0_judge_1 : List UInt8 := dkwX0_judge_1 ++ dktX0_judge_2
def dkwX0_judge_0 : List UInt8 := [42, 27, 182, 1, 148, 153, 0, 15, 28, 184, 1, 203, 153, 0, 8, 29, 4, 162, 0, 5, 2, 172, 42, 42]
abbrev dktX0_judge_0 : List UInt8 := dkwX0_judge_0 ++ dktX0_judge_1
theorem dksX0_judge_0 : cX0_judge.data.toList.drop 0 = dktX0_judge_0 := by decide +kernel
theorem dksX0_judge_1 : cX0_judge.data.toList.drop 24 = dktX0_judge_1 := dk_seg dksX0_judge_0 24 rfl rfl
theorem dksX0_judge_2 : cX0_judge.data.toList.drop 47 = dktX0_judge_2 := dk_seg dksX0_judge_1 23 rfl rfl
theorem dX0_judge_0 : decode cX0_judge 0 = .ok (.aload_n 0, 1) := dk_42 (dk_at dksX0_judge_0 0 rfl rfl)
theorem dX0_judge_1 : decode cX0_judge 1 = .ok (.iload_n 1, 1) := dk_27 (dk_at dksX0_judge_0 1 rfl rfl)
theorem dX0_judge_2 : decode cX0_judge 2 = .ok (.invokevirtual 404, 3) := dk_182 1 148 (dk_at dksX0_judge_0 2 rfl rfl)
theorem dX0_judge_5 : decode cX0_judge 5 = .ok (.ifCond .eq 15, 3) := dk_153 0 15 (dk_at dksX0_judge_0 5 rfl rfl)
theorem dX0_judge_8 : decode cX0_judge 8 = .ok (.iload_n 2, 1) := dk_28 (dk_at dksX0_judge_0 8 rfl rfl)
theorem dX0_judge_9 : decode cX0_judge 9 = .ok (.invokestatic 459, 3) := dk_184 1 203 (dk_at dksX0_judge_0 9 rfl rfl)
theorem dX0_judge_12 : decode cX0_judge 12 = .ok (.ifCond .eq 8, 3) := dk_153 0 8 (dk_at dksX0_judge_0 12 rfl rfl)
theorem dX0_judge_15 : decode cX0_judge 15 = .ok (.iload_n 3, 1) := dk_29 (dk_at dksX0_judge_0 15 rfl rfl)
theorem dX0_judge_16 : decode cX0_judge 16 = .ok (.iconst 1, 1) := dk_4 (dk_at dksX0_judge_0 16 rfl rfl)
theorem dX0_judge_17 : decode cX0_judge 17 = .ok (.if_icmp .ge 5, 3) := dk_162 0 5 (dk_at dksX0_judge_0 17 rfl rfl)
theorem dX0_judge_20 : decode cX0_judge 20 = .ok (.iconst (-1), 1) := dk_2 (dk_at dksX0_judge_0 20 rfl rfl)
theorem dX0_judge_21 : decode cX0_judge 21 = .ok (.ireturn, 1) := dk_172 (dk_at dksX0_judge_0 21 rfl rfl)
theorem dX0_judge_22 : decode cX0_judge 22 = .ok (.aload_n 0, 1) := dk_42 (dk_at dksX0_judge_0 22 rfl rfl)
theorem dX0_judge_23 : decode cX0_judge 23 = .ok (.aload_n 0, 1) := dk_42 (dk_at dksX0_judge_0 23 rfl rfl)
theorem dX0_judge_24 : decode cX0_judge 24 = .ok (.getfield 72, 3) := dk_180 0 72 (dk_at dksX0_judge_1 0 rfl rfl)
theorem dX0_judge_27 : decode cX0_judge 27 = .ok (.iload_n 1, 1) := dk_27 (dk_at dksX0_judge_1 3 rfl rfl)
theorem dX0_judge_28 : decode cX0_judge 28 = .ok (.aaload, 1) := dk_50 (dk_at dksX0_judge_1 4 rfl rfl)
theorem dX0_judge_29 : decode cX0_judge 29 = .ok (.invokevirtual 147, 3) := dk_182 0 147 (dk_at dksX0_judge_1 5 rfl rfl)
theorem dX0_judge_32 : decode cX0_judge 32 = .ok (.ifCond .ne 6, 3) := dk_154 0 6 (dk_at dksX0_judge_1 8 rfl rfl)
theorem dX0_judge_35 : decode cX0_judge 35 = .ok (.bipush (-4), 2) := dk_16 252 (dk_at dksX0_judge_1 11 rfl rfl)
theorem dX0_judge_37 : decode cX0_judge 37 = .ok (.ireturn, 1) := dk_172 (dk_at dksX0_judge_1 13 rfl rfl)
theorem dX0_judge_38 : decode cX0_judge 38 = .ok (.aload_n 0, 1) := dk_42 (dk_at dksX0_judge_1 14 rfl rfl)
theorem dX0_judge_39 : decode cX0_judge 39 = .ok (.aload_n 0, 1) := dk_42 (dk_at dksX0_judge_1 15 rfl rfl)
theorem dX0_judge_40 : decode cX0_judge 40 = .ok (.getfield 72, 3) := dk_180 0 72 (dk_at dksX0_judge_1 16 rfl rfl)
theorem dX0_judge_43 : decode cX0_judge 43 = .ok (.iload_n 1, 1) := dk_27 (dk_at dksX0_judge_1 19 rfl rfl)
theorem dX0_judge_44 : decode cX0_judge 44 = .ok (.aaload, 1) := dk_50 (dk_at dksX0_judge_1 20 rfl rfl)
theorem dX0_judge_45 : decode cX0_judge 45 = .ok (.aload_n 0, 1) := dk_42 (dk_at dksX0_judge_1 21 rfl rfl)
theorem dX0_judge_46 : decode cX0_judge 46 = .ok (.iload_n 2, 1) := dk_28 (dk_at dksX0_judge_1 22 rfl rfl)
theorem dX0_judge_47 : decode cX0_judge 47 = .ok (.invokevirtual 487, 3) := dk_182 1 231 (dk_at dksX0_judge_2 0 rfl rfl)
theorem dX0_judge_50 : decode cX0_judge 50 = .ok (.iload_n 3, 1) := dk_29 (dk_at dksX0_judge_2 3 rfl rfl)
theorem dX0_judge_51 : decode cX0_judge 51 = .ok (.invokevirtual 491, 3) := dk_182 1 235 (dk_at dksX0_judge_2 4 rfl rfl)
theorem dX0_judge_54 : decode cX0_judge 54 = .ok (.ireturn, 1) := dk_172 (dk_at dksX0_judge_2 7 rfl rfl)
theorem dX0_judge_55 : decode cX0_judge 55 = .ok (.astore 4, 2) := dk_58 4 (dk_at dksX0_judge_2 8 rfl rfl)
theorem dX0_judge_57 : decode cX0_judge 57 = .ok (.bipush (-13), 2) := dk_16 243 (dk_at dksX0_judge_2 10 rfl rfl)
theorem dX0_judge_59 : decode cX0_judge 59 = .ok (.ireturn, 1) := dk_172 (dk_at dksX0_judge_2 12 rfl rfl)
theorem dX0_judge_60 : decode cX0_judge 60 = .ok (.astore 4, 2) := dk_58 4 (dk_at dksX0_judge_2 13 rfl rfl)
theorem dX0_judge_62 : decode cX0_judge 62 = .ok (.aload 4, 2) := dk_25 4 (dk_at dksX0_judge_2 15 rfl rfl)
theorem dX0_judge_64 : decode cX0_judge 64 = .ok (.getfield 497, 3) := dk_180 1 241 (dk_at dksX0_judge_2 17 rfl rfl)
theorem dX0_judge_67 : decode cX0_judge 67 = .ok (.ireturn, 1) := dk_172 (dk_at dksX0_judge_2 20 rfl rfl)
abbrev cX0_tableOf : ByteArray := prog_1_method_81_code
def yX0_tableOf : MethodName := ⟨RX0, "tableOf", "(I)[I"⟩
def dkwX0_tableOf_2 : List UInt8 := [160, 0, 7, 4, 167, 0, 4, 3, 16, 244, 182, 1, 227, 44, 176]
abbrev dktX0_tableOf_2 : List UInt8 := dkwX0_tableOf_2 ++ []
def dkwX0_tableOf_1 : List UInt8 := [16, 245, 182, 1, 227, 42, 44, 190, 42, 180, 0, 62, 180, 0, 134, 42, 180, 0, 62, 180, 0, 137, 104]
abbrev dktX0_tableOf_1 : List UInt8 := dkwX0_tableOf_1 ++ dktX0_tableOf_2
def dkwX0_tableOf_0 : List UInt8 := [42, 180, 0, 116, 27, 50, 180, 1, 214, 192, 1, 226, 77, 42, 44, 198, 0, 7, 4, 167, 0, 4, 3]
abbrev dktX0_tableOf_0 : List UInt8 := dkwX0_tableOf_0 ++ dktX0_tableOf_1
theorem dksX0_tableOf_0 : cX0_tableOf.data.toList.drop 0 = dktX0_tableOf_0 := by decide +kernel
theorem dksX0_tableOf_1 : cX0_tableOf.data.toList.drop 23 = dktX0_tableOf_1 := dk_seg dksX0_tableOf_0 23 rfl rfl
theorem dksX0_tableOf_2 : cX0_tableOf.data.toList.drop 46 = dktX0_tableOf_2 := dk_seg dksX0_tableOf_1 23 rfl rfl
theorem dX0_tableOf_0 : decode cX0_tableOf 0 = .ok (.aload_n 0, 1) := dk_42 (dk_at dksX0_tableOf_0 0 rfl rfl)
theorem dX0_tableOf_1 : decode cX0_tableOf 1 = .ok (.getfield 116, 3) := dk_180 0 116 (dk_at dksX0_tableOf_0 1 rfl rfl)
theorem dX0_tableOf_4 : decode cX0_tableOf 4 = .ok (.iload_n 1, 1) := dk_27 (dk_at dksX0_tableOf_0 4 rfl rfl)
theorem dX0_tableOf_5 : decode cX0_tableOf 5 = .ok (.aaload, 1) := dk_50 (dk_at dksX0_tableOf_0 5 rfl rfl)
theorem dX0_tableOf_6 : decode cX0_tableOf 6 = .ok (.getfield 470, 3) := dk_180 1 214 (dk_at dksX0_tableOf_0 6 rfl rfl)
theorem dX0_tableOf_9 : decode cX0_tableOf 9 = .ok (.checkcast 482, 3) := dk_192 1 226 (dk_at dksX0_tableOf_0 9 rfl rfl)
theorem dX0_tableOf_12 : decode cX0_tableOf 12 = .ok (.astore_n 2, 1) := dk_77 (dk_at dksX0_tableOf_0 12 rfl rfl)
theorem dX0_tableOf_13 : decode cX0_tableOf 13 = .ok (.aload_n 0, 1) := dk_42 (dk_at dksX0_tableOf_0 13 rfl rfl)
theorem dX0_tableOf_14 : decode cX0_tableOf 14 = .ok (.aload_n 2, 1) := dk_44 (dk_at dksX0_tableOf_0 14 rfl rfl)
theorem dX0_tableOf_15 : decode cX0_tableOf 15 = .ok (.ifnull 7, 3) := dk_198 0 7 (dk_at dksX0_tableOf_0 15 rfl rfl)
theorem dX0_tableOf_18 : decode cX0_tableOf 18 = .ok (.iconst 1, 1) := dk_4 (dk_at dksX0_tableOf_0 18 rfl rfl)
theorem dX0_tableOf_19 : decode cX0_tableOf 19 = .ok (.goto 4, 3) := dk_167 0 4 (dk_at dksX0_tableOf_0 19 rfl rfl)
theorem dX0_tableOf_22 : decode cX0_tableOf 22 = .ok (.iconst 0, 1) := dk_3 (dk_at dksX0_tableOf_0 22 rfl rfl)
theorem dX0_tableOf_23 : decode cX0_tableOf 23 = .ok (.bipush (-11), 2) := dk_16 245 (dk_at dksX0_tableOf_1 0 rfl rfl)
theorem dX0_tableOf_25 : decode cX0_tableOf 25 = .ok (.invokevirtual 483, 3) := dk_182 1 227 (dk_at dksX0_tableOf_1 2 rfl rfl)
theorem dX0_tableOf_28 : decode cX0_tableOf 28 = .ok (.aload_n 0, 1) := dk_42 (dk_at dksX0_tableOf_1 5 rfl rfl)
theorem dX0_tableOf_29 : decode cX0_tableOf 29 = .ok (.aload_n 2, 1) := dk_44 (dk_at dksX0_tableOf_1 6 rfl rfl)
theorem dX0_tableOf_30 : decode cX0_tableOf 30 = .ok (.arraylength, 1) := dk_190 (dk_at dksX0_tableOf_1 7 rfl rfl)
theorem dX0_tableOf_31 : decode cX0_tableOf 31 = .ok (.aload_n 0, 1) := dk_42 (dk_at dksX0_tableOf_1 8 rfl rfl)
theorem dX0_tableOf_32 : decode cX0_tableOf 32 = .ok (.getfield 62, 3) := dk_180 0 62 (dk_at dksX0_tableOf_1 9 rfl rfl)
theorem dX0_tableOf_35 : decode cX0_tableOf 35 = .ok (.getfield 134, 3) := dk_180 0 134 (dk_at dksX0_tableOf_1 12 rfl rfl)
theorem dX0_tableOf_38 : decode cX0_tableOf 38 = .ok (.aload_n 0, 1) := dk_42 (dk_at dksX0_tableOf_1 15 rfl rfl)
theorem dX0_tableOf_39 : decode cX0_tableOf 39 = .ok (.getfield 62, 3) := dk_180 0 62 (dk_at dksX0_tableOf_1 16 rfl rfl)
theorem dX0_tableOf_42 : decode cX0_tableOf 42 = .ok (.getfield 137, 3) := dk_180 0 137 (dk_at dksX0_tableOf_1 19 rfl rfl)
theorem dX0_tableOf_45 : decode cX0_tableOf 45 = .ok (.imul, 1) := dk_104 (dk_at dksX0_tableOf_1 22 rfl rfl)
theorem dX0_tableOf_46 : decode cX0_tableOf 46 = .ok (.if_icmp .ne 7, 3) := dk_160 0 7 (dk_at dksX0_tableOf_2 0 rfl rfl)
theorem dX0_tableOf_49 : decode cX0_tableOf 49 = .ok (.iconst 1, 1) := dk_4 (dk_at dksX0_tableOf_2 3 rfl rfl)
theorem dX0_tableOf_50 : decode cX0_tableOf 50 = .ok (.goto 4, 3) := dk_167 0 4 (dk_at dksX0_tableOf_2 4 rfl rfl)
theorem dX0_tableOf_53 : decode cX0_tableOf 53 = .ok (.iconst 0, 1) := dk_3 (dk_at dksX0_tableOf_2 7 rfl rfl)
theorem dX0_tableOf_54 : decode cX0_tableOf 54 = .ok (.bipush (-12), 2) := dk_16 244 (dk_at dksX0_tableOf_2 8 rfl rfl)
theorem dX0_tableOf_56 : decode cX0_tableOf 56 = .ok (.invokevirtual 483, 3) := dk_182 1 227 (dk_at dksX0_tableOf_2 10 rfl rfl)
theorem dX0_tableOf_59 : decode cX0_tableOf 59 = .ok (.aload_n 2, 1) := dk_44 (dk_at dksX0_tableOf_2 13 rfl rfl)
theorem dX0_tableOf_60 : decode cX0_tableOf 60 = .ok (.areturn, 1) := dk_176 (dk_at dksX0_tableOf_2 14 rfl rfl)
abbrev cX0_must : ByteArray := prog_1_method_2_code
def yX0_must : MethodName := ⟨RX0, "must", "(ZI)V"⟩
def dkwX0_must_0 : List UInt8 := [27, 154, 0, 12, 42, 180, 0, 1, 28, 182, 0, 7, 191, 177]
abbrev dktX0_must_0 : List UInt8 := dkwX0_must_0 ++ []
theorem dksX0_must_0 : cX0_must.data.toList.drop 0 = dktX0_must_0 := by decide +kernel
theorem dX0_must_0 : decode cX0_must 0 = .ok (.iload_n 1, 1) := dk_27 (dk_at dksX0_must_0 0 rfl rfl)
theorem dX0_must_1 : decode cX0_must 1 = .ok (.ifCond .ne 12, 3) := dk_154 0 12 (dk_at dksX0_must_0 1 rfl rfl)
theorem dX0_must_4 : decode cX0_must 4 = .ok (.aload_n 0, 1) := dk_42 (dk_at dksX0_must_0 4 rfl rfl)
theorem dX0_must_5 : decode cX0_must 5 = .ok (.getfield 1, 3) := dk_180 0 1 (dk_at dksX0_must_0 5 rfl rfl)
theorem dX0_must_8 : decode cX0_must 8 = .ok (.iload_n 2, 1) := dk_28 (dk_at dksX0_must_0 8 rfl rfl)
theorem dX0_must_9 : decode cX0_must 9 = .ok (.invokevirtual 7, 3) := dk_182 0 7 (dk_at dksX0_must_0 9 rfl rfl)
theorem dX0_must_12 : decode cX0_must 12 = .ok (.athrow, 1) := dk_191 (dk_at dksX0_must_0 12 rfl rfl)
theorem dX0_must_13 : decode cX0_must 13 = .ok (.return_, 1) := dk_177 (dk_at dksX0_must_0 13 rfl rfl)
abbrev cX0_firstOther : ByteArray := prog_1_method_80_code
def yX0_firstOther : MethodName := ⟨RX0, "firstOther", "(LTwoSidedTables$Plain;[II)I"⟩
def dkwX0_firstOther_5 : List UInt8 := [180, 0, 137, 104, 96, 172]
abbrev dktX0_firstOther_5 : List UInt8 := dkwX0_firstOther_5 ++ []
def dkwX0_firstOther_4 : List UInt8 := [182, 1, 222, 153, 0, 7, 3, 167, 0, 20, 4, 42, 180, 0, 62, 180, 0, 134, 42, 180, 0, 62]
abbrev dktX0_firstOther_4 : List UInt8 := dkwX0_firstOther_4 ++ dktX0_firstOther_5
def dkwX0_firstOther_3 : List UInt8 := [21, 4, 104, 96, 21, 5, 96, 172, 132, 5, 1, 167, 255, 194, 132, 4, 1, 167, 255, 173, 42, 43, 44]
abbrev dktX0_firstOther_3 : List UInt8 := dkwX0_firstOther_3 ++ dktX0_firstOther_4
def dkwX0_firstOther_2 : List UInt8 := [180, 1, 67, 21, 4, 21, 5, 182, 0, 174, 105, 148, 153, 0, 19, 4, 42, 180, 0, 62, 180, 0, 137]
abbrev dktX0_firstOther_2 : List UInt8 := dkwX0_firstOther_2 ++ dktX0_firstOther_3
def dkwX0_firstOther_1 : List UInt8 := [180, 0, 137, 162, 0, 56, 42, 43, 44, 21, 4, 21, 5, 182, 1, 218, 29, 133, 42, 180, 0, 62]
abbrev dktX0_firstOther_1 : List UInt8 := dkwX0_firstOther_1 ++ dktX0_firstOther_2
def dkwX0_firstOther_0 : List UInt8 := [3, 54, 4, 21, 4, 42, 180, 0, 62, 180, 0, 134, 162, 0, 77, 3, 54, 5, 21, 5, 42, 180, 0, 62]
abbrev dktX0_firstOther_0 : List UInt8 := dkwX0_firstOther_0 ++ dktX0_firstOther_1
theorem dksX0_firstOther_0 : cX0_firstOther.data.toList.drop 0 = dktX0_firstOther_0 := by decide +kernel
theorem dksX0_firstOther_1 : cX0_firstOther.data.toList.drop 24 = dktX0_firstOther_1 := dk_seg dksX0_firstOther_0 24 rfl rfl
theorem dksX0_firstOther_2 : cX0_firstOther.data.toList.drop 46 = dktX0_firstOther_2 := dk_seg dksX0_firstOther_1 22 rfl rfl
theorem dksX0_firstOther_3 : cX0_firstOther.data.toList.drop 69 = dktX0_firstOther_3 := dk_seg dksX0_firstOther_2 23 rfl rfl
theorem dksX0_firstOther_4 : cX0_firstOther.data.toList.drop 92 = dktX0_firstOther_4 := dk_seg dksX0_firstOther_3 23 rfl rfl
theorem dksX0_firstOther_5 : cX0_firstOther.data.toList.drop 114 = dktX0_firstOther_5 := dk_seg dksX0_firstOther_4 22 rfl rfl
theorem dX0_firstOther_0 : decode cX0_firstOther 0 = .ok (.iconst 0, 1) := dk_3 (dk_at dksX0_firstOther_0 0 rfl rfl)
theorem dX0_firstOther_1 : decode cX0_firstOther 1 = .ok (.istore 4, 2) := dk_54 4 (dk_at dksX0_firstOther_0 1 rfl rfl)
theorem dX0_firstOther_3 : decode cX0_firstOther 3 = .ok (.iload 4, 2) := dk_21 4 (dk_at dksX0_firstOther_0 3 rfl rfl)
theorem dX0_firstOther_5 : decode cX0_firstOther 5 = .ok (.aload_n 0, 1) := dk_42 (dk_at dksX0_firstOther_0 5 rfl rfl)
theorem dX0_firstOther_6 : decode cX0_firstOther 6 = .ok (.getfield 62, 3) := dk_180 0 62 (dk_at dksX0_firstOther_0 6 rfl rfl)
theorem dX0_firstOther_9 : decode cX0_firstOther 9 = .ok (.getfield 134, 3) := dk_180 0 134 (dk_at dksX0_firstOther_0 9 rfl rfl)
theorem dX0_firstOther_12 : decode cX0_firstOther 12 = .ok (.if_icmp .ge 77, 3) := dk_162 0 77 (dk_at dksX0_firstOther_0 12 rfl rfl)
theorem dX0_firstOther_15 : decode cX0_firstOther 15 = .ok (.iconst 0, 1) := dk_3 (dk_at dksX0_firstOther_0 15 rfl rfl)
theorem dX0_firstOther_16 : decode cX0_firstOther 16 = .ok (.istore 5, 2) := dk_54 5 (dk_at dksX0_firstOther_0 16 rfl rfl)
theorem dX0_firstOther_18 : decode cX0_firstOther 18 = .ok (.iload 5, 2) := dk_21 5 (dk_at dksX0_firstOther_0 18 rfl rfl)
theorem dX0_firstOther_20 : decode cX0_firstOther 20 = .ok (.aload_n 0, 1) := dk_42 (dk_at dksX0_firstOther_0 20 rfl rfl)
theorem dX0_firstOther_21 : decode cX0_firstOther 21 = .ok (.getfield 62, 3) := dk_180 0 62 (dk_at dksX0_firstOther_0 21 rfl rfl)
theorem dX0_firstOther_24 : decode cX0_firstOther 24 = .ok (.getfield 137, 3) := dk_180 0 137 (dk_at dksX0_firstOther_1 0 rfl rfl)
theorem dX0_firstOther_27 : decode cX0_firstOther 27 = .ok (.if_icmp .ge 56, 3) := dk_162 0 56 (dk_at dksX0_firstOther_1 3 rfl rfl)
theorem dX0_firstOther_30 : decode cX0_firstOther 30 = .ok (.aload_n 0, 1) := dk_42 (dk_at dksX0_firstOther_1 6 rfl rfl)
theorem dX0_firstOther_31 : decode cX0_firstOther 31 = .ok (.aload_n 1, 1) := dk_43 (dk_at dksX0_firstOther_1 7 rfl rfl)
theorem dX0_firstOther_32 : decode cX0_firstOther 32 = .ok (.aload_n 2, 1) := dk_44 (dk_at dksX0_firstOther_1 8 rfl rfl)
theorem dX0_firstOther_33 : decode cX0_firstOther 33 = .ok (.iload 4, 2) := dk_21 4 (dk_at dksX0_firstOther_1 9 rfl rfl)
theorem dX0_firstOther_35 : decode cX0_firstOther 35 = .ok (.iload 5, 2) := dk_21 5 (dk_at dksX0_firstOther_1 11 rfl rfl)
theorem dX0_firstOther_37 : decode cX0_firstOther 37 = .ok (.invokevirtual 474, 3) := dk_182 1 218 (dk_at dksX0_firstOther_1 13 rfl rfl)
theorem dX0_firstOther_40 : decode cX0_firstOther 40 = .ok (.iload_n 3, 1) := dk_29 (dk_at dksX0_firstOther_1 16 rfl rfl)
theorem dX0_firstOther_41 : decode cX0_firstOther 41 = .ok (.i2l, 1) := dk_133 (dk_at dksX0_firstOther_1 17 rfl rfl)
theorem dX0_firstOther_42 : decode cX0_firstOther 42 = .ok (.aload_n 0, 1) := dk_42 (dk_at dksX0_firstOther_1 18 rfl rfl)
theorem dX0_firstOther_43 : decode cX0_firstOther 43 = .ok (.getfield 62, 3) := dk_180 0 62 (dk_at dksX0_firstOther_1 19 rfl rfl)
theorem dX0_firstOther_46 : decode cX0_firstOther 46 = .ok (.getfield 323, 3) := dk_180 1 67 (dk_at dksX0_firstOther_2 0 rfl rfl)
theorem dX0_firstOther_49 : decode cX0_firstOther 49 = .ok (.iload 4, 2) := dk_21 4 (dk_at dksX0_firstOther_2 3 rfl rfl)
theorem dX0_firstOther_51 : decode cX0_firstOther 51 = .ok (.iload 5, 2) := dk_21 5 (dk_at dksX0_firstOther_2 5 rfl rfl)
theorem dX0_firstOther_53 : decode cX0_firstOther 53 = .ok (.invokevirtual 174, 3) := dk_182 0 174 (dk_at dksX0_firstOther_2 7 rfl rfl)
theorem dX0_firstOther_56 : decode cX0_firstOther 56 = .ok (.lmul, 1) := dk_105 (dk_at dksX0_firstOther_2 10 rfl rfl)
theorem dX0_firstOther_57 : decode cX0_firstOther 57 = .ok (.lcmp, 1) := dk_148 (dk_at dksX0_firstOther_2 11 rfl rfl)
theorem dX0_firstOther_58 : decode cX0_firstOther 58 = .ok (.ifCond .eq 19, 3) := dk_153 0 19 (dk_at dksX0_firstOther_2 12 rfl rfl)
theorem dX0_firstOther_61 : decode cX0_firstOther 61 = .ok (.iconst 1, 1) := dk_4 (dk_at dksX0_firstOther_2 15 rfl rfl)
theorem dX0_firstOther_62 : decode cX0_firstOther 62 = .ok (.aload_n 0, 1) := dk_42 (dk_at dksX0_firstOther_2 16 rfl rfl)
theorem dX0_firstOther_63 : decode cX0_firstOther 63 = .ok (.getfield 62, 3) := dk_180 0 62 (dk_at dksX0_firstOther_2 17 rfl rfl)
theorem dX0_firstOther_66 : decode cX0_firstOther 66 = .ok (.getfield 137, 3) := dk_180 0 137 (dk_at dksX0_firstOther_2 20 rfl rfl)
theorem dX0_firstOther_69 : decode cX0_firstOther 69 = .ok (.iload 4, 2) := dk_21 4 (dk_at dksX0_firstOther_3 0 rfl rfl)
theorem dX0_firstOther_71 : decode cX0_firstOther 71 = .ok (.imul, 1) := dk_104 (dk_at dksX0_firstOther_3 2 rfl rfl)
theorem dX0_firstOther_72 : decode cX0_firstOther 72 = .ok (.iadd, 1) := dk_96 (dk_at dksX0_firstOther_3 3 rfl rfl)
theorem dX0_firstOther_73 : decode cX0_firstOther 73 = .ok (.iload 5, 2) := dk_21 5 (dk_at dksX0_firstOther_3 4 rfl rfl)
theorem dX0_firstOther_75 : decode cX0_firstOther 75 = .ok (.iadd, 1) := dk_96 (dk_at dksX0_firstOther_3 6 rfl rfl)
theorem dX0_firstOther_76 : decode cX0_firstOther 76 = .ok (.ireturn, 1) := dk_172 (dk_at dksX0_firstOther_3 7 rfl rfl)
theorem dX0_firstOther_77 : decode cX0_firstOther 77 = .ok (.iinc 5 1, 3) := dk_132 5 1 (dk_at dksX0_firstOther_3 8 rfl rfl)
theorem dX0_firstOther_80 : decode cX0_firstOther 80 = .ok (.goto (-62), 3) := dk_167 255 194 (dk_at dksX0_firstOther_3 11 rfl rfl)
theorem dX0_firstOther_83 : decode cX0_firstOther 83 = .ok (.iinc 4 1, 3) := dk_132 4 1 (dk_at dksX0_firstOther_3 14 rfl rfl)
theorem dX0_firstOther_86 : decode cX0_firstOther 86 = .ok (.goto (-83), 3) := dk_167 255 173 (dk_at dksX0_firstOther_3 17 rfl rfl)
theorem dX0_firstOther_89 : decode cX0_firstOther 89 = .ok (.aload_n 0, 1) := dk_42 (dk_at dksX0_firstOther_3 20 rfl rfl)
theorem dX0_firstOther_90 : decode cX0_firstOther 90 = .ok (.aload_n 1, 1) := dk_43 (dk_at dksX0_firstOther_3 21 rfl rfl)
theorem dX0_firstOther_91 : decode cX0_firstOther 91 = .ok (.aload_n 2, 1) := dk_44 (dk_at dksX0_firstOther_3 22 rfl rfl)
theorem dX0_firstOther_92 : decode cX0_firstOther 92 = .ok (.invokevirtual 478, 3) := dk_182 1 222 (dk_at dksX0_firstOther_4 0 rfl rfl)
theorem dX0_firstOther_95 : decode cX0_firstOther 95 = .ok (.ifCond .eq 7, 3) := dk_153 0 7 (dk_at dksX0_firstOther_4 3 rfl rfl)
theorem dX0_firstOther_98 : decode cX0_firstOther 98 = .ok (.iconst 0, 1) := dk_3 (dk_at dksX0_firstOther_4 6 rfl rfl)
theorem dX0_firstOther_99 : decode cX0_firstOther 99 = .ok (.goto 20, 3) := dk_167 0 20 (dk_at dksX0_firstOther_4 7 rfl rfl)
theorem dX0_firstOther_102 : decode cX0_firstOther 102 = .ok (.iconst 1, 1) := dk_4 (dk_at dksX0_firstOther_4 10 rfl rfl)
theorem dX0_firstOther_103 : decode cX0_firstOther 103 = .ok (.aload_n 0, 1) := dk_42 (dk_at dksX0_firstOther_4 11 rfl rfl)
theorem dX0_firstOther_104 : decode cX0_firstOther 104 = .ok (.getfield 62, 3) := dk_180 0 62 (dk_at dksX0_firstOther_4 12 rfl rfl)
theorem dX0_firstOther_107 : decode cX0_firstOther 107 = .ok (.getfield 134, 3) := dk_180 0 134 (dk_at dksX0_firstOther_4 15 rfl rfl)
theorem dX0_firstOther_110 : decode cX0_firstOther 110 = .ok (.aload_n 0, 1) := dk_42 (dk_at dksX0_firstOther_4 18 rfl rfl)
theorem dX0_firstOther_111 : decode cX0_firstOther 111 = .ok (.getfield 62, 3) := dk_180 0 62 (dk_at dksX0_firstOther_4 19 rfl rfl)
theorem dX0_firstOther_114 : decode cX0_firstOther 114 = .ok (.getfield 137, 3) := dk_180 0 137 (dk_at dksX0_firstOther_5 0 rfl rfl)
theorem dX0_firstOther_117 : decode cX0_firstOther 117 = .ok (.imul, 1) := dk_104 (dk_at dksX0_firstOther_5 3 rfl rfl)
theorem dX0_firstOther_118 : decode cX0_firstOther 118 = .ok (.iadd, 1) := dk_96 (dk_at dksX0_firstOther_5 4 rfl rfl)
theorem dX0_firstOther_119 : decode cX0_firstOther 119 = .ok (.ireturn, 1) := dk_172 (dk_at dksX0_firstOther_5 5 rfl rfl)
abbrev cX0_sumAt : ByteArray := prog_1_method_78_code
def yX0_sumAt : MethodName := ⟨RX0, "sumAt", "(LTwoSidedTables$Plain;[III)J"⟩
def dkwX0_sumAt_5 : List UInt8 := [21, 4, 182, 1, 56, 105, 97, 55, 5, 132, 7, 1, 167, 255, 208, 22, 5, 173]
abbrev dktX0_sumAt_5 : List UInt8 := dkwX0_sumAt_5 ++ []
def dkwX0_sumAt_4 : List UInt8 := [22, 5, 44, 42, 180, 0, 62, 180, 0, 137, 29, 104, 21, 7, 96, 46, 133, 43, 42, 180, 0, 62, 21, 7]
abbrev dktX0_sumAt_4 : List UInt8 := dkwX0_sumAt_4 ++ dktX0_sumAt_5
def dkwX0_sumAt_3 : List UInt8 := [55, 5, 132, 7, 1, 167, 255, 206, 3, 54, 7, 21, 7, 42, 180, 0, 62, 180, 0, 137, 162, 0, 42]
abbrev dktX0_sumAt_3 : List UInt8 := dkwX0_sumAt_3 ++ dktX0_sumAt_4
def dkwX0_sumAt_2 : List UInt8 := [21, 7, 182, 0, 174, 44, 42, 180, 0, 62, 180, 0, 137, 21, 7, 104, 21, 4, 96, 46, 133, 105, 97]
abbrev dktX0_sumAt_2 : List UInt8 := dkwX0_sumAt_2 ++ dktX0_sumAt_3
def dkwX0_sumAt_1 : List UInt8 := [54, 7, 21, 7, 42, 180, 0, 62, 180, 0, 134, 162, 0, 44, 22, 5, 42, 180, 0, 62, 180, 1, 53, 29]
abbrev dktX0_sumAt_1 : List UInt8 := dkwX0_sumAt_1 ++ dktX0_sumAt_2
def dkwX0_sumAt_0 : List UInt8 := [43, 182, 1, 47, 133, 44, 42, 180, 0, 62, 180, 0, 137, 29, 104, 21, 4, 96, 46, 133, 105, 55, 5, 3]
abbrev dktX0_sumAt_0 : List UInt8 := dkwX0_sumAt_0 ++ dktX0_sumAt_1
theorem dksX0_sumAt_0 : cX0_sumAt.data.toList.drop 0 = dktX0_sumAt_0 := by decide +kernel
theorem dksX0_sumAt_1 : cX0_sumAt.data.toList.drop 24 = dktX0_sumAt_1 := dk_seg dksX0_sumAt_0 24 rfl rfl
theorem dksX0_sumAt_2 : cX0_sumAt.data.toList.drop 48 = dktX0_sumAt_2 := dk_seg dksX0_sumAt_1 24 rfl rfl
theorem dksX0_sumAt_3 : cX0_sumAt.data.toList.drop 71 = dktX0_sumAt_3 := dk_seg dksX0_sumAt_2 23 rfl rfl
theorem dksX0_sumAt_4 : cX0_sumAt.data.toList.drop 94 = dktX0_sumAt_4 := dk_seg dksX0_sumAt_3 23 rfl rfl
theorem dksX0_sumAt_5 : cX0_sumAt.data.toList.drop 118 = dktX0_sumAt_5 := dk_seg dksX0_sumAt_4 24 rfl rfl
theorem dX0_sumAt_0 : decode cX0_sumAt 0 = .ok (.aload_n 1, 1) := dk_43 (dk_at dksX0_sumAt_0 0 rfl rfl)
theorem dX0_sumAt_1 : decode cX0_sumAt 1 = .ok (.invokevirtual 303, 3) := dk_182 1 47 (dk_at dksX0_sumAt_0 1 rfl rfl)
theorem dX0_sumAt_4 : decode cX0_sumAt 4 = .ok (.i2l, 1) := dk_133 (dk_at dksX0_sumAt_0 4 rfl rfl)
theorem dX0_sumAt_5 : decode cX0_sumAt 5 = .ok (.aload_n 2, 1) := dk_44 (dk_at dksX0_sumAt_0 5 rfl rfl)
theorem dX0_sumAt_6 : decode cX0_sumAt 6 = .ok (.aload_n 0, 1) := dk_42 (dk_at dksX0_sumAt_0 6 rfl rfl)
theorem dX0_sumAt_7 : decode cX0_sumAt 7 = .ok (.getfield 62, 3) := dk_180 0 62 (dk_at dksX0_sumAt_0 7 rfl rfl)
theorem dX0_sumAt_10 : decode cX0_sumAt 10 = .ok (.getfield 137, 3) := dk_180 0 137 (dk_at dksX0_sumAt_0 10 rfl rfl)
theorem dX0_sumAt_13 : decode cX0_sumAt 13 = .ok (.iload_n 3, 1) := dk_29 (dk_at dksX0_sumAt_0 13 rfl rfl)
theorem dX0_sumAt_14 : decode cX0_sumAt 14 = .ok (.imul, 1) := dk_104 (dk_at dksX0_sumAt_0 14 rfl rfl)
theorem dX0_sumAt_15 : decode cX0_sumAt 15 = .ok (.iload 4, 2) := dk_21 4 (dk_at dksX0_sumAt_0 15 rfl rfl)
theorem dX0_sumAt_17 : decode cX0_sumAt 17 = .ok (.iadd, 1) := dk_96 (dk_at dksX0_sumAt_0 17 rfl rfl)
theorem dX0_sumAt_18 : decode cX0_sumAt 18 = .ok (.iaload, 1) := dk_46 (dk_at dksX0_sumAt_0 18 rfl rfl)
theorem dX0_sumAt_19 : decode cX0_sumAt 19 = .ok (.i2l, 1) := dk_133 (dk_at dksX0_sumAt_0 19 rfl rfl)
theorem dX0_sumAt_20 : decode cX0_sumAt 20 = .ok (.lmul, 1) := dk_105 (dk_at dksX0_sumAt_0 20 rfl rfl)
theorem dX0_sumAt_21 : decode cX0_sumAt 21 = .ok (.lstore 5, 2) := dk_55 5 (dk_at dksX0_sumAt_0 21 rfl rfl)
theorem dX0_sumAt_23 : decode cX0_sumAt 23 = .ok (.iconst 0, 1) := dk_3 (dk_at dksX0_sumAt_0 23 rfl rfl)
theorem dX0_sumAt_24 : decode cX0_sumAt 24 = .ok (.istore 7, 2) := dk_54 7 (dk_at dksX0_sumAt_1 0 rfl rfl)
theorem dX0_sumAt_26 : decode cX0_sumAt 26 = .ok (.iload 7, 2) := dk_21 7 (dk_at dksX0_sumAt_1 2 rfl rfl)
theorem dX0_sumAt_28 : decode cX0_sumAt 28 = .ok (.aload_n 0, 1) := dk_42 (dk_at dksX0_sumAt_1 4 rfl rfl)
theorem dX0_sumAt_29 : decode cX0_sumAt 29 = .ok (.getfield 62, 3) := dk_180 0 62 (dk_at dksX0_sumAt_1 5 rfl rfl)
theorem dX0_sumAt_32 : decode cX0_sumAt 32 = .ok (.getfield 134, 3) := dk_180 0 134 (dk_at dksX0_sumAt_1 8 rfl rfl)
theorem dX0_sumAt_35 : decode cX0_sumAt 35 = .ok (.if_icmp .ge 44, 3) := dk_162 0 44 (dk_at dksX0_sumAt_1 11 rfl rfl)
theorem dX0_sumAt_38 : decode cX0_sumAt 38 = .ok (.lload 5, 2) := dk_22 5 (dk_at dksX0_sumAt_1 14 rfl rfl)
theorem dX0_sumAt_40 : decode cX0_sumAt 40 = .ok (.aload_n 0, 1) := dk_42 (dk_at dksX0_sumAt_1 16 rfl rfl)
theorem dX0_sumAt_41 : decode cX0_sumAt 41 = .ok (.getfield 62, 3) := dk_180 0 62 (dk_at dksX0_sumAt_1 17 rfl rfl)
theorem dX0_sumAt_44 : decode cX0_sumAt 44 = .ok (.getfield 309, 3) := dk_180 1 53 (dk_at dksX0_sumAt_1 20 rfl rfl)
theorem dX0_sumAt_47 : decode cX0_sumAt 47 = .ok (.iload_n 3, 1) := dk_29 (dk_at dksX0_sumAt_1 23 rfl rfl)
theorem dX0_sumAt_48 : decode cX0_sumAt 48 = .ok (.iload 7, 2) := dk_21 7 (dk_at dksX0_sumAt_2 0 rfl rfl)
theorem dX0_sumAt_50 : decode cX0_sumAt 50 = .ok (.invokevirtual 174, 3) := dk_182 0 174 (dk_at dksX0_sumAt_2 2 rfl rfl)
theorem dX0_sumAt_53 : decode cX0_sumAt 53 = .ok (.aload_n 2, 1) := dk_44 (dk_at dksX0_sumAt_2 5 rfl rfl)
theorem dX0_sumAt_54 : decode cX0_sumAt 54 = .ok (.aload_n 0, 1) := dk_42 (dk_at dksX0_sumAt_2 6 rfl rfl)
theorem dX0_sumAt_55 : decode cX0_sumAt 55 = .ok (.getfield 62, 3) := dk_180 0 62 (dk_at dksX0_sumAt_2 7 rfl rfl)
theorem dX0_sumAt_58 : decode cX0_sumAt 58 = .ok (.getfield 137, 3) := dk_180 0 137 (dk_at dksX0_sumAt_2 10 rfl rfl)
theorem dX0_sumAt_61 : decode cX0_sumAt 61 = .ok (.iload 7, 2) := dk_21 7 (dk_at dksX0_sumAt_2 13 rfl rfl)
theorem dX0_sumAt_63 : decode cX0_sumAt 63 = .ok (.imul, 1) := dk_104 (dk_at dksX0_sumAt_2 15 rfl rfl)
theorem dX0_sumAt_64 : decode cX0_sumAt 64 = .ok (.iload 4, 2) := dk_21 4 (dk_at dksX0_sumAt_2 16 rfl rfl)
theorem dX0_sumAt_66 : decode cX0_sumAt 66 = .ok (.iadd, 1) := dk_96 (dk_at dksX0_sumAt_2 18 rfl rfl)
theorem dX0_sumAt_67 : decode cX0_sumAt 67 = .ok (.iaload, 1) := dk_46 (dk_at dksX0_sumAt_2 19 rfl rfl)
theorem dX0_sumAt_68 : decode cX0_sumAt 68 = .ok (.i2l, 1) := dk_133 (dk_at dksX0_sumAt_2 20 rfl rfl)
theorem dX0_sumAt_69 : decode cX0_sumAt 69 = .ok (.lmul, 1) := dk_105 (dk_at dksX0_sumAt_2 21 rfl rfl)
theorem dX0_sumAt_70 : decode cX0_sumAt 70 = .ok (.ladd, 1) := dk_97 (dk_at dksX0_sumAt_2 22 rfl rfl)
theorem dX0_sumAt_71 : decode cX0_sumAt 71 = .ok (.lstore 5, 2) := dk_55 5 (dk_at dksX0_sumAt_3 0 rfl rfl)
theorem dX0_sumAt_73 : decode cX0_sumAt 73 = .ok (.iinc 7 1, 3) := dk_132 7 1 (dk_at dksX0_sumAt_3 2 rfl rfl)
theorem dX0_sumAt_76 : decode cX0_sumAt 76 = .ok (.goto (-50), 3) := dk_167 255 206 (dk_at dksX0_sumAt_3 5 rfl rfl)
theorem dX0_sumAt_79 : decode cX0_sumAt 79 = .ok (.iconst 0, 1) := dk_3 (dk_at dksX0_sumAt_3 8 rfl rfl)
theorem dX0_sumAt_80 : decode cX0_sumAt 80 = .ok (.istore 7, 2) := dk_54 7 (dk_at dksX0_sumAt_3 9 rfl rfl)
theorem dX0_sumAt_82 : decode cX0_sumAt 82 = .ok (.iload 7, 2) := dk_21 7 (dk_at dksX0_sumAt_3 11 rfl rfl)
theorem dX0_sumAt_84 : decode cX0_sumAt 84 = .ok (.aload_n 0, 1) := dk_42 (dk_at dksX0_sumAt_3 13 rfl rfl)
theorem dX0_sumAt_85 : decode cX0_sumAt 85 = .ok (.getfield 62, 3) := dk_180 0 62 (dk_at dksX0_sumAt_3 14 rfl rfl)
theorem dX0_sumAt_88 : decode cX0_sumAt 88 = .ok (.getfield 137, 3) := dk_180 0 137 (dk_at dksX0_sumAt_3 17 rfl rfl)
theorem dX0_sumAt_91 : decode cX0_sumAt 91 = .ok (.if_icmp .ge 42, 3) := dk_162 0 42 (dk_at dksX0_sumAt_3 20 rfl rfl)
theorem dX0_sumAt_94 : decode cX0_sumAt 94 = .ok (.lload 5, 2) := dk_22 5 (dk_at dksX0_sumAt_4 0 rfl rfl)
theorem dX0_sumAt_96 : decode cX0_sumAt 96 = .ok (.aload_n 2, 1) := dk_44 (dk_at dksX0_sumAt_4 2 rfl rfl)
theorem dX0_sumAt_97 : decode cX0_sumAt 97 = .ok (.aload_n 0, 1) := dk_42 (dk_at dksX0_sumAt_4 3 rfl rfl)
theorem dX0_sumAt_98 : decode cX0_sumAt 98 = .ok (.getfield 62, 3) := dk_180 0 62 (dk_at dksX0_sumAt_4 4 rfl rfl)
theorem dX0_sumAt_101 : decode cX0_sumAt 101 = .ok (.getfield 137, 3) := dk_180 0 137 (dk_at dksX0_sumAt_4 7 rfl rfl)
theorem dX0_sumAt_104 : decode cX0_sumAt 104 = .ok (.iload_n 3, 1) := dk_29 (dk_at dksX0_sumAt_4 10 rfl rfl)
theorem dX0_sumAt_105 : decode cX0_sumAt 105 = .ok (.imul, 1) := dk_104 (dk_at dksX0_sumAt_4 11 rfl rfl)
theorem dX0_sumAt_106 : decode cX0_sumAt 106 = .ok (.iload 7, 2) := dk_21 7 (dk_at dksX0_sumAt_4 12 rfl rfl)
theorem dX0_sumAt_108 : decode cX0_sumAt 108 = .ok (.iadd, 1) := dk_96 (dk_at dksX0_sumAt_4 14 rfl rfl)
theorem dX0_sumAt_109 : decode cX0_sumAt 109 = .ok (.iaload, 1) := dk_46 (dk_at dksX0_sumAt_4 15 rfl rfl)
theorem dX0_sumAt_110 : decode cX0_sumAt 110 = .ok (.i2l, 1) := dk_133 (dk_at dksX0_sumAt_4 16 rfl rfl)
theorem dX0_sumAt_111 : decode cX0_sumAt 111 = .ok (.aload_n 1, 1) := dk_43 (dk_at dksX0_sumAt_4 17 rfl rfl)
theorem dX0_sumAt_112 : decode cX0_sumAt 112 = .ok (.aload_n 0, 1) := dk_42 (dk_at dksX0_sumAt_4 18 rfl rfl)
theorem dX0_sumAt_113 : decode cX0_sumAt 113 = .ok (.getfield 62, 3) := dk_180 0 62 (dk_at dksX0_sumAt_4 19 rfl rfl)
theorem dX0_sumAt_116 : decode cX0_sumAt 116 = .ok (.iload 7, 2) := dk_21 7 (dk_at dksX0_sumAt_4 22 rfl rfl)
theorem dX0_sumAt_118 : decode cX0_sumAt 118 = .ok (.iload 4, 2) := dk_21 4 (dk_at dksX0_sumAt_5 0 rfl rfl)
theorem dX0_sumAt_120 : decode cX0_sumAt 120 = .ok (.invokevirtual 312, 3) := dk_182 1 56 (dk_at dksX0_sumAt_5 2 rfl rfl)
theorem dX0_sumAt_123 : decode cX0_sumAt 123 = .ok (.lmul, 1) := dk_105 (dk_at dksX0_sumAt_5 5 rfl rfl)
theorem dX0_sumAt_124 : decode cX0_sumAt 124 = .ok (.ladd, 1) := dk_97 (dk_at dksX0_sumAt_5 6 rfl rfl)
theorem dX0_sumAt_125 : decode cX0_sumAt 125 = .ok (.lstore 5, 2) := dk_55 5 (dk_at dksX0_sumAt_5 7 rfl rfl)
theorem dX0_sumAt_127 : decode cX0_sumAt 127 = .ok (.iinc 7 1, 3) := dk_132 7 1 (dk_at dksX0_sumAt_5 9 rfl rfl)
theorem dX0_sumAt_130 : decode cX0_sumAt 130 = .ok (.goto (-48), 3) := dk_167 255 208 (dk_at dksX0_sumAt_5 12 rfl rfl)
theorem dX0_sumAt_133 : decode cX0_sumAt 133 = .ok (.lload 5, 2) := dk_22 5 (dk_at dksX0_sumAt_5 15 rfl rfl)
theorem dX0_sumAt_135 : decode cX0_sumAt 135 = .ok (.lreturn, 1) := dk_173 (dk_at dksX0_sumAt_5 17 rfl rfl)
abbrev cX0_isOfShape : ByteArray := prog_1_method_79_code
def yX0_isOfShape : MethodName := ⟨RX0, "isOfShape", "(LTwoSidedTables$Plain;[I)Z"⟩
def dkwX0_isOfShape_8 : List UInt8 := [167, 255, 72, 4, 172]
abbrev dktX0_isOfShape_8 : List UInt8 := dkwX0_isOfShape_8 ++ []
def dkwX0_isOfShape_7 : List UInt8 := [117, 148, 153, 0, 5, 3, 172, 132, 7, 1, 167, 255, 157, 132, 4, 1, 167, 255, 92, 132, 3, 1]
abbrev dktX0_isOfShape_7 : List UInt8 := dkwX0_isOfShape_7 ++ dktX0_isOfShape_8
def dkwX0_isOfShape_6 : List UInt8 := [160, 0, 31, 44, 21, 7, 46, 133, 21, 8, 21, 5, 160, 0, 9, 21, 6, 133, 167, 0, 7, 21, 6, 133]
abbrev dktX0_isOfShape_6 : List UInt8 := dkwX0_isOfShape_6 ++ dktX0_isOfShape_7
def dkwX0_isOfShape_5 : List UInt8 := [42, 180, 0, 62, 180, 0, 137, 182, 1, 43, 54, 8, 21, 8, 184, 1, 39, 21, 5, 184, 1, 39]
abbrev dktX0_isOfShape_5 : List UInt8 := dkwX0_isOfShape_5 ++ dktX0_isOfShape_6
def dkwX0_isOfShape_4 : List UInt8 := [153, 0, 83, 43, 21, 7, 42, 180, 0, 62, 180, 0, 137, 108, 21, 7, 42, 180, 0, 62, 180, 0, 137, 112]
abbrev dktX0_isOfShape_4 : List UInt8 := dkwX0_isOfShape_4 ++ dktX0_isOfShape_5
def dkwX0_isOfShape_3 : List UInt8 := [3, 172, 3, 54, 7, 21, 7, 42, 180, 0, 62, 180, 0, 137, 29, 104, 21, 4, 96, 162, 0, 88, 21, 5]
abbrev dktX0_isOfShape_3 : List UInt8 := dkwX0_isOfShape_3 ++ dktX0_isOfShape_4
def dkwX0_isOfShape_2 : List UInt8 := [180, 0, 62, 180, 0, 137, 29, 104, 21, 4, 96, 46, 54, 6, 21, 5, 154, 0, 10, 21, 6, 153, 0, 5]
abbrev dktX0_isOfShape_2 : List UInt8 := dkwX0_isOfShape_2 ++ dktX0_isOfShape_3
def dkwX0_isOfShape_1 : List UInt8 := [180, 0, 137, 162, 0, 158, 43, 29, 21, 4, 42, 180, 0, 62, 180, 0, 137, 182, 1, 43, 54, 5, 44, 42]
abbrev dktX0_isOfShape_1 : List UInt8 := dkwX0_isOfShape_1 ++ dktX0_isOfShape_2
def dkwX0_isOfShape_0 : List UInt8 := [3, 62, 29, 42, 180, 0, 62, 180, 0, 134, 162, 0, 179, 3, 54, 4, 21, 4, 42, 180, 0, 62]
abbrev dktX0_isOfShape_0 : List UInt8 := dkwX0_isOfShape_0 ++ dktX0_isOfShape_1
theorem dksX0_isOfShape_0 : cX0_isOfShape.data.toList.drop 0 = dktX0_isOfShape_0 := by decide +kernel
theorem dksX0_isOfShape_1 : cX0_isOfShape.data.toList.drop 22 = dktX0_isOfShape_1 := dk_seg dksX0_isOfShape_0 22 rfl rfl
theorem dksX0_isOfShape_2 : cX0_isOfShape.data.toList.drop 46 = dktX0_isOfShape_2 := dk_seg dksX0_isOfShape_1 24 rfl rfl
theorem dksX0_isOfShape_3 : cX0_isOfShape.data.toList.drop 70 = dktX0_isOfShape_3 := dk_seg dksX0_isOfShape_2 24 rfl rfl
theorem dksX0_isOfShape_4 : cX0_isOfShape.data.toList.drop 94 = dktX0_isOfShape_4 := dk_seg dksX0_isOfShape_3 24 rfl rfl
theorem dksX0_isOfShape_5 : cX0_isOfShape.data.toList.drop 118 = dktX0_isOfShape_5 := dk_seg dksX0_isOfShape_4 24 rfl rfl
theorem dksX0_isOfShape_6 : cX0_isOfShape.data.toList.drop 140 = dktX0_isOfShape_6 := dk_seg dksX0_isOfShape_5 22 rfl rfl
theorem dksX0_isOfShape_7 : cX0_isOfShape.data.toList.drop 164 = dktX0_isOfShape_7 := dk_seg dksX0_isOfShape_6 24 rfl rfl
theorem dksX0_isOfShape_8 : cX0_isOfShape.data.toList.drop 186 = dktX0_isOfShape_8 := dk_seg dksX0_isOfShape_7 22 rfl rfl
theorem dX0_isOfShape_0 : decode cX0_isOfShape 0 = .ok (.iconst 0, 1) := dk_3 (dk_at dksX0_isOfShape_0 0 rfl rfl)
theorem dX0_isOfShape_1 : decode cX0_isOfShape 1 = .ok (.istore_n 3, 1) := dk_62 (dk_at dksX0_isOfShape_0 1 rfl rfl)
theorem dX0_isOfShape_2 : decode cX0_isOfShape 2 = .ok (.iload_n 3, 1) := dk_29 (dk_at dksX0_isOfShape_0 2 rfl rfl)
theorem dX0_isOfShape_3 : decode cX0_isOfShape 3 = .ok (.aload_n 0, 1) := dk_42 (dk_at dksX0_isOfShape_0 3 rfl rfl)
theorem dX0_isOfShape_4 : decode cX0_isOfShape 4 = .ok (.getfield 62, 3) := dk_180 0 62 (dk_at dksX0_isOfShape_0 4 rfl rfl)
theorem dX0_isOfShape_7 : decode cX0_isOfShape 7 = .ok (.getfield 134, 3) := dk_180 0 134 (dk_at dksX0_isOfShape_0 7 rfl rfl)
theorem dX0_isOfShape_10 : decode cX0_isOfShape 10 = .ok (.if_icmp .ge 179, 3) := dk_162 0 179 (dk_at dksX0_isOfShape_0 10 rfl rfl)
theorem dX0_isOfShape_13 : decode cX0_isOfShape 13 = .ok (.iconst 0, 1) := dk_3 (dk_at dksX0_isOfShape_0 13 rfl rfl)
theorem dX0_isOfShape_14 : decode cX0_isOfShape 14 = .ok (.istore 4, 2) := dk_54 4 (dk_at dksX0_isOfShape_0 14 rfl rfl)
theorem dX0_isOfShape_16 : decode cX0_isOfShape 16 = .ok (.iload 4, 2) := dk_21 4 (dk_at dksX0_isOfShape_0 16 rfl rfl)
theorem dX0_isOfShape_18 : decode cX0_isOfShape 18 = .ok (.aload_n 0, 1) := dk_42 (dk_at dksX0_isOfShape_0 18 rfl rfl)
theorem dX0_isOfShape_19 : decode cX0_isOfShape 19 = .ok (.getfield 62, 3) := dk_180 0 62 (dk_at dksX0_isOfShape_0 19 rfl rfl)
theorem dX0_isOfShape_22 : decode cX0_isOfShape 22 = .ok (.getfield 137, 3) := dk_180 0 137 (dk_at dksX0_isOfShape_1 0 rfl rfl)
theorem dX0_isOfShape_25 : decode cX0_isOfShape 25 = .ok (.if_icmp .ge 158, 3) := dk_162 0 158 (dk_at dksX0_isOfShape_1 3 rfl rfl)
theorem dX0_isOfShape_28 : decode cX0_isOfShape 28 = .ok (.aload_n 1, 1) := dk_43 (dk_at dksX0_isOfShape_1 6 rfl rfl)
theorem dX0_isOfShape_29 : decode cX0_isOfShape 29 = .ok (.iload_n 3, 1) := dk_29 (dk_at dksX0_isOfShape_1 7 rfl rfl)
theorem dX0_isOfShape_30 : decode cX0_isOfShape 30 = .ok (.iload 4, 2) := dk_21 4 (dk_at dksX0_isOfShape_1 8 rfl rfl)
theorem dX0_isOfShape_32 : decode cX0_isOfShape 32 = .ok (.aload_n 0, 1) := dk_42 (dk_at dksX0_isOfShape_1 10 rfl rfl)
theorem dX0_isOfShape_33 : decode cX0_isOfShape 33 = .ok (.getfield 62, 3) := dk_180 0 62 (dk_at dksX0_isOfShape_1 11 rfl rfl)
theorem dX0_isOfShape_36 : decode cX0_isOfShape 36 = .ok (.getfield 137, 3) := dk_180 0 137 (dk_at dksX0_isOfShape_1 14 rfl rfl)
theorem dX0_isOfShape_39 : decode cX0_isOfShape 39 = .ok (.invokevirtual 299, 3) := dk_182 1 43 (dk_at dksX0_isOfShape_1 17 rfl rfl)
theorem dX0_isOfShape_42 : decode cX0_isOfShape 42 = .ok (.istore 5, 2) := dk_54 5 (dk_at dksX0_isOfShape_1 20 rfl rfl)
theorem dX0_isOfShape_44 : decode cX0_isOfShape 44 = .ok (.aload_n 2, 1) := dk_44 (dk_at dksX0_isOfShape_1 22 rfl rfl)
theorem dX0_isOfShape_45 : decode cX0_isOfShape 45 = .ok (.aload_n 0, 1) := dk_42 (dk_at dksX0_isOfShape_1 23 rfl rfl)
theorem dX0_isOfShape_46 : decode cX0_isOfShape 46 = .ok (.getfield 62, 3) := dk_180 0 62 (dk_at dksX0_isOfShape_2 0 rfl rfl)
theorem dX0_isOfShape_49 : decode cX0_isOfShape 49 = .ok (.getfield 137, 3) := dk_180 0 137 (dk_at dksX0_isOfShape_2 3 rfl rfl)
theorem dX0_isOfShape_52 : decode cX0_isOfShape 52 = .ok (.iload_n 3, 1) := dk_29 (dk_at dksX0_isOfShape_2 6 rfl rfl)
theorem dX0_isOfShape_53 : decode cX0_isOfShape 53 = .ok (.imul, 1) := dk_104 (dk_at dksX0_isOfShape_2 7 rfl rfl)
theorem dX0_isOfShape_54 : decode cX0_isOfShape 54 = .ok (.iload 4, 2) := dk_21 4 (dk_at dksX0_isOfShape_2 8 rfl rfl)
theorem dX0_isOfShape_56 : decode cX0_isOfShape 56 = .ok (.iadd, 1) := dk_96 (dk_at dksX0_isOfShape_2 10 rfl rfl)
theorem dX0_isOfShape_57 : decode cX0_isOfShape 57 = .ok (.iaload, 1) := dk_46 (dk_at dksX0_isOfShape_2 11 rfl rfl)
theorem dX0_isOfShape_58 : decode cX0_isOfShape 58 = .ok (.istore 6, 2) := dk_54 6 (dk_at dksX0_isOfShape_2 12 rfl rfl)
theorem dX0_isOfShape_60 : decode cX0_isOfShape 60 = .ok (.iload 5, 2) := dk_21 5 (dk_at dksX0_isOfShape_2 14 rfl rfl)
theorem dX0_isOfShape_62 : decode cX0_isOfShape 62 = .ok (.ifCond .ne 10, 3) := dk_154 0 10 (dk_at dksX0_isOfShape_2 16 rfl rfl)
theorem dX0_isOfShape_65 : decode cX0_isOfShape 65 = .ok (.iload 6, 2) := dk_21 6 (dk_at dksX0_isOfShape_2 19 rfl rfl)
theorem dX0_isOfShape_67 : decode cX0_isOfShape 67 = .ok (.ifCond .eq 5, 3) := dk_153 0 5 (dk_at dksX0_isOfShape_2 21 rfl rfl)
theorem dX0_isOfShape_70 : decode cX0_isOfShape 70 = .ok (.iconst 0, 1) := dk_3 (dk_at dksX0_isOfShape_3 0 rfl rfl)
theorem dX0_isOfShape_71 : decode cX0_isOfShape 71 = .ok (.ireturn, 1) := dk_172 (dk_at dksX0_isOfShape_3 1 rfl rfl)
theorem dX0_isOfShape_72 : decode cX0_isOfShape 72 = .ok (.iconst 0, 1) := dk_3 (dk_at dksX0_isOfShape_3 2 rfl rfl)
theorem dX0_isOfShape_73 : decode cX0_isOfShape 73 = .ok (.istore 7, 2) := dk_54 7 (dk_at dksX0_isOfShape_3 3 rfl rfl)
theorem dX0_isOfShape_75 : decode cX0_isOfShape 75 = .ok (.iload 7, 2) := dk_21 7 (dk_at dksX0_isOfShape_3 5 rfl rfl)
theorem dX0_isOfShape_77 : decode cX0_isOfShape 77 = .ok (.aload_n 0, 1) := dk_42 (dk_at dksX0_isOfShape_3 7 rfl rfl)
theorem dX0_isOfShape_78 : decode cX0_isOfShape 78 = .ok (.getfield 62, 3) := dk_180 0 62 (dk_at dksX0_isOfShape_3 8 rfl rfl)
theorem dX0_isOfShape_81 : decode cX0_isOfShape 81 = .ok (.getfield 137, 3) := dk_180 0 137 (dk_at dksX0_isOfShape_3 11 rfl rfl)
theorem dX0_isOfShape_84 : decode cX0_isOfShape 84 = .ok (.iload_n 3, 1) := dk_29 (dk_at dksX0_isOfShape_3 14 rfl rfl)
theorem dX0_isOfShape_85 : decode cX0_isOfShape 85 = .ok (.imul, 1) := dk_104 (dk_at dksX0_isOfShape_3 15 rfl rfl)
theorem dX0_isOfShape_86 : decode cX0_isOfShape 86 = .ok (.iload 4, 2) := dk_21 4 (dk_at dksX0_isOfShape_3 16 rfl rfl)
theorem dX0_isOfShape_88 : decode cX0_isOfShape 88 = .ok (.iadd, 1) := dk_96 (dk_at dksX0_isOfShape_3 18 rfl rfl)
theorem dX0_isOfShape_89 : decode cX0_isOfShape 89 = .ok (.if_icmp .ge 88, 3) := dk_162 0 88 (dk_at dksX0_isOfShape_3 19 rfl rfl)
theorem dX0_isOfShape_92 : decode cX0_isOfShape 92 = .ok (.iload 5, 2) := dk_21 5 (dk_at dksX0_isOfShape_3 22 rfl rfl)
theorem dX0_isOfShape_94 : decode cX0_isOfShape 94 = .ok (.ifCond .eq 83, 3) := dk_153 0 83 (dk_at dksX0_isOfShape_4 0 rfl rfl)
theorem dX0_isOfShape_97 : decode cX0_isOfShape 97 = .ok (.aload_n 1, 1) := dk_43 (dk_at dksX0_isOfShape_4 3 rfl rfl)
theorem dX0_isOfShape_98 : decode cX0_isOfShape 98 = .ok (.iload 7, 2) := dk_21 7 (dk_at dksX0_isOfShape_4 4 rfl rfl)
theorem dX0_isOfShape_100 : decode cX0_isOfShape 100 = .ok (.aload_n 0, 1) := dk_42 (dk_at dksX0_isOfShape_4 6 rfl rfl)
theorem dX0_isOfShape_101 : decode cX0_isOfShape 101 = .ok (.getfield 62, 3) := dk_180 0 62 (dk_at dksX0_isOfShape_4 7 rfl rfl)
theorem dX0_isOfShape_104 : decode cX0_isOfShape 104 = .ok (.getfield 137, 3) := dk_180 0 137 (dk_at dksX0_isOfShape_4 10 rfl rfl)
theorem dX0_isOfShape_107 : decode cX0_isOfShape 107 = .ok (.idiv, 1) := dk_108 (dk_at dksX0_isOfShape_4 13 rfl rfl)
theorem dX0_isOfShape_108 : decode cX0_isOfShape 108 = .ok (.iload 7, 2) := dk_21 7 (dk_at dksX0_isOfShape_4 14 rfl rfl)
theorem dX0_isOfShape_110 : decode cX0_isOfShape 110 = .ok (.aload_n 0, 1) := dk_42 (dk_at dksX0_isOfShape_4 16 rfl rfl)
theorem dX0_isOfShape_111 : decode cX0_isOfShape 111 = .ok (.getfield 62, 3) := dk_180 0 62 (dk_at dksX0_isOfShape_4 17 rfl rfl)
theorem dX0_isOfShape_114 : decode cX0_isOfShape 114 = .ok (.getfield 137, 3) := dk_180 0 137 (dk_at dksX0_isOfShape_4 20 rfl rfl)
theorem dX0_isOfShape_117 : decode cX0_isOfShape 117 = .ok (.irem, 1) := dk_112 (dk_at dksX0_isOfShape_4 23 rfl rfl)
theorem dX0_isOfShape_118 : decode cX0_isOfShape 118 = .ok (.aload_n 0, 1) := dk_42 (dk_at dksX0_isOfShape_5 0 rfl rfl)
theorem dX0_isOfShape_119 : decode cX0_isOfShape 119 = .ok (.getfield 62, 3) := dk_180 0 62 (dk_at dksX0_isOfShape_5 1 rfl rfl)
theorem dX0_isOfShape_122 : decode cX0_isOfShape 122 = .ok (.getfield 137, 3) := dk_180 0 137 (dk_at dksX0_isOfShape_5 4 rfl rfl)
theorem dX0_isOfShape_125 : decode cX0_isOfShape 125 = .ok (.invokevirtual 299, 3) := dk_182 1 43 (dk_at dksX0_isOfShape_5 7 rfl rfl)
theorem dX0_isOfShape_128 : decode cX0_isOfShape 128 = .ok (.istore 8, 2) := dk_54 8 (dk_at dksX0_isOfShape_5 10 rfl rfl)
theorem dX0_isOfShape_130 : decode cX0_isOfShape 130 = .ok (.iload 8, 2) := dk_21 8 (dk_at dksX0_isOfShape_5 12 rfl rfl)
theorem dX0_isOfShape_132 : decode cX0_isOfShape 132 = .ok (.invokestatic 295, 3) := dk_184 1 39 (dk_at dksX0_isOfShape_5 14 rfl rfl)
theorem dX0_isOfShape_135 : decode cX0_isOfShape 135 = .ok (.iload 5, 2) := dk_21 5 (dk_at dksX0_isOfShape_5 17 rfl rfl)
theorem dX0_isOfShape_137 : decode cX0_isOfShape 137 = .ok (.invokestatic 295, 3) := dk_184 1 39 (dk_at dksX0_isOfShape_5 19 rfl rfl)
theorem dX0_isOfShape_140 : decode cX0_isOfShape 140 = .ok (.if_icmp .ne 31, 3) := dk_160 0 31 (dk_at dksX0_isOfShape_6 0 rfl rfl)
theorem dX0_isOfShape_143 : decode cX0_isOfShape 143 = .ok (.aload_n 2, 1) := dk_44 (dk_at dksX0_isOfShape_6 3 rfl rfl)
theorem dX0_isOfShape_144 : decode cX0_isOfShape 144 = .ok (.iload 7, 2) := dk_21 7 (dk_at dksX0_isOfShape_6 4 rfl rfl)
theorem dX0_isOfShape_146 : decode cX0_isOfShape 146 = .ok (.iaload, 1) := dk_46 (dk_at dksX0_isOfShape_6 6 rfl rfl)
theorem dX0_isOfShape_147 : decode cX0_isOfShape 147 = .ok (.i2l, 1) := dk_133 (dk_at dksX0_isOfShape_6 7 rfl rfl)
theorem dX0_isOfShape_148 : decode cX0_isOfShape 148 = .ok (.iload 8, 2) := dk_21 8 (dk_at dksX0_isOfShape_6 8 rfl rfl)
theorem dX0_isOfShape_150 : decode cX0_isOfShape 150 = .ok (.iload 5, 2) := dk_21 5 (dk_at dksX0_isOfShape_6 10 rfl rfl)
theorem dX0_isOfShape_152 : decode cX0_isOfShape 152 = .ok (.if_icmp .ne 9, 3) := dk_160 0 9 (dk_at dksX0_isOfShape_6 12 rfl rfl)
theorem dX0_isOfShape_155 : decode cX0_isOfShape 155 = .ok (.iload 6, 2) := dk_21 6 (dk_at dksX0_isOfShape_6 15 rfl rfl)
theorem dX0_isOfShape_157 : decode cX0_isOfShape 157 = .ok (.i2l, 1) := dk_133 (dk_at dksX0_isOfShape_6 17 rfl rfl)
theorem dX0_isOfShape_158 : decode cX0_isOfShape 158 = .ok (.goto 7, 3) := dk_167 0 7 (dk_at dksX0_isOfShape_6 18 rfl rfl)
theorem dX0_isOfShape_161 : decode cX0_isOfShape 161 = .ok (.iload 6, 2) := dk_21 6 (dk_at dksX0_isOfShape_6 21 rfl rfl)
theorem dX0_isOfShape_163 : decode cX0_isOfShape 163 = .ok (.i2l, 1) := dk_133 (dk_at dksX0_isOfShape_6 23 rfl rfl)
theorem dX0_isOfShape_164 : decode cX0_isOfShape 164 = .ok (.lneg, 1) := dk_117 (dk_at dksX0_isOfShape_7 0 rfl rfl)
theorem dX0_isOfShape_165 : decode cX0_isOfShape 165 = .ok (.lcmp, 1) := dk_148 (dk_at dksX0_isOfShape_7 1 rfl rfl)
theorem dX0_isOfShape_166 : decode cX0_isOfShape 166 = .ok (.ifCond .eq 5, 3) := dk_153 0 5 (dk_at dksX0_isOfShape_7 2 rfl rfl)
theorem dX0_isOfShape_169 : decode cX0_isOfShape 169 = .ok (.iconst 0, 1) := dk_3 (dk_at dksX0_isOfShape_7 5 rfl rfl)
theorem dX0_isOfShape_170 : decode cX0_isOfShape 170 = .ok (.ireturn, 1) := dk_172 (dk_at dksX0_isOfShape_7 6 rfl rfl)
theorem dX0_isOfShape_171 : decode cX0_isOfShape 171 = .ok (.iinc 7 1, 3) := dk_132 7 1 (dk_at dksX0_isOfShape_7 7 rfl rfl)
theorem dX0_isOfShape_174 : decode cX0_isOfShape 174 = .ok (.goto (-99), 3) := dk_167 255 157 (dk_at dksX0_isOfShape_7 10 rfl rfl)
theorem dX0_isOfShape_177 : decode cX0_isOfShape 177 = .ok (.iinc 4 1, 3) := dk_132 4 1 (dk_at dksX0_isOfShape_7 13 rfl rfl)
theorem dX0_isOfShape_180 : decode cX0_isOfShape 180 = .ok (.goto (-164), 3) := dk_167 255 92 (dk_at dksX0_isOfShape_7 16 rfl rfl)
theorem dX0_isOfShape_183 : decode cX0_isOfShape 183 = .ok (.iinc 3 1, 3) := dk_132 3 1 (dk_at dksX0_isOfShape_7 19 rfl rfl)
theorem dX0_isOfShape_186 : decode cX0_isOfShape 186 = .ok (.goto (-184), 3) := dk_167 255 72 (dk_at dksX0_isOfShape_8 0 rfl rfl)
theorem dX0_isOfShape_189 : decode cX0_isOfShape 189 = .ok (.iconst 1, 1) := dk_4 (dk_at dksX0_isOfShape_8 3 rfl rfl)
theorem dX0_isOfShape_190 : decode cX0_isOfShape 190 = .ok (.ireturn, 1) := dk_172 (dk_at dksX0_isOfShape_8 4 rfl rfl)
abbrev cX0_kinds : ByteArray := prog_1_method_83_code
def yX0_kinds : MethodName := ⟨RX0, "kinds", "(II)I"⟩
def dkwX0_kinds_4 : List UInt8 := [45, 180, 1, 241, 172]
abbrev dktX0_kinds_4 : List UInt8 := dkwX0_kinds_4 ++ []
def dkwX0_kinds_3 : List UInt8 := [21, 5, 120, 167, 0, 4, 3, 128, 54, 4, 132, 5, 1, 167, 255, 201, 21, 4, 172, 78, 16, 243, 172, 78]
abbrev dktX0_kinds_3 : List UInt8 := dkwX0_kinds_3 ++ dktX0_kinds_4
def dkwX0_kinds_2 : List UInt8 := [182, 0, 147, 154, 0, 6, 167, 0, 27, 21, 4, 42, 25, 6, 45, 4, 182, 1, 235, 154, 0, 10, 4]
abbrev dktX0_kinds_2 : List UInt8 := dkwX0_kinds_2 ++ dktX0_kinds_3
def dkwX0_kinds_1 : List UInt8 := [54, 4, 3, 54, 5, 21, 5, 16, 6, 163, 0, 54, 42, 21, 5, 28, 182, 1, 242, 58, 6, 42, 25, 6]
abbrev dktX0_kinds_1 : List UInt8 := dkwX0_kinds_1 ++ dktX0_kinds_2
def dkwX0_kinds_0 : List UInt8 := [27, 184, 1, 203, 153, 0, 10, 28, 184, 1, 141, 154, 0, 5, 2, 172, 42, 27, 182, 1, 231, 78, 3]
abbrev dktX0_kinds_0 : List UInt8 := dkwX0_kinds_0 ++ dktX0_kinds_1
theorem dksX0_kinds_0 : cX0_kinds.data.toList.drop 0 = dktX0_kinds_0 := by decide +kernel
theorem dksX0_kinds_1 : cX0_kinds.data.toList.drop 23 = dktX0_kinds_1 := dk_seg dksX0_kinds_0 23 rfl rfl
theorem dksX0_kinds_2 : cX0_kinds.data.toList.drop 47 = dktX0_kinds_2 := dk_seg dksX0_kinds_1 24 rfl rfl
theorem dksX0_kinds_3 : cX0_kinds.data.toList.drop 70 = dktX0_kinds_3 := dk_seg dksX0_kinds_2 23 rfl rfl
theorem dksX0_kinds_4 : cX0_kinds.data.toList.drop 94 = dktX0_kinds_4 := dk_seg dksX0_kinds_3 24 rfl rfl
theorem dX0_kinds_0 : decode cX0_kinds 0 = .ok (.iload_n 1, 1) := dk_27 (dk_at dksX0_kinds_0 0 rfl rfl)
theorem dX0_kinds_1 : decode cX0_kinds 1 = .ok (.invokestatic 459, 3) := dk_184 1 203 (dk_at dksX0_kinds_0 1 rfl rfl)
theorem dX0_kinds_4 : decode cX0_kinds 4 = .ok (.ifCond .eq 10, 3) := dk_153 0 10 (dk_at dksX0_kinds_0 4 rfl rfl)
theorem dX0_kinds_7 : decode cX0_kinds 7 = .ok (.iload_n 2, 1) := dk_28 (dk_at dksX0_kinds_0 7 rfl rfl)
theorem dX0_kinds_8 : decode cX0_kinds 8 = .ok (.invokestatic 397, 3) := dk_184 1 141 (dk_at dksX0_kinds_0 8 rfl rfl)
theorem dX0_kinds_11 : decode cX0_kinds 11 = .ok (.ifCond .ne 5, 3) := dk_154 0 5 (dk_at dksX0_kinds_0 11 rfl rfl)
theorem dX0_kinds_14 : decode cX0_kinds 14 = .ok (.iconst (-1), 1) := dk_2 (dk_at dksX0_kinds_0 14 rfl rfl)
theorem dX0_kinds_15 : decode cX0_kinds 15 = .ok (.ireturn, 1) := dk_172 (dk_at dksX0_kinds_0 15 rfl rfl)
theorem dX0_kinds_16 : decode cX0_kinds 16 = .ok (.aload_n 0, 1) := dk_42 (dk_at dksX0_kinds_0 16 rfl rfl)
theorem dX0_kinds_17 : decode cX0_kinds 17 = .ok (.iload_n 1, 1) := dk_27 (dk_at dksX0_kinds_0 17 rfl rfl)
theorem dX0_kinds_18 : decode cX0_kinds 18 = .ok (.invokevirtual 487, 3) := dk_182 1 231 (dk_at dksX0_kinds_0 18 rfl rfl)
theorem dX0_kinds_21 : decode cX0_kinds 21 = .ok (.astore_n 3, 1) := dk_78 (dk_at dksX0_kinds_0 21 rfl rfl)
theorem dX0_kinds_22 : decode cX0_kinds 22 = .ok (.iconst 0, 1) := dk_3 (dk_at dksX0_kinds_0 22 rfl rfl)
theorem dX0_kinds_23 : decode cX0_kinds 23 = .ok (.istore 4, 2) := dk_54 4 (dk_at dksX0_kinds_1 0 rfl rfl)
theorem dX0_kinds_25 : decode cX0_kinds 25 = .ok (.iconst 0, 1) := dk_3 (dk_at dksX0_kinds_1 2 rfl rfl)
theorem dX0_kinds_26 : decode cX0_kinds 26 = .ok (.istore 5, 2) := dk_54 5 (dk_at dksX0_kinds_1 3 rfl rfl)
theorem dX0_kinds_28 : decode cX0_kinds 28 = .ok (.iload 5, 2) := dk_21 5 (dk_at dksX0_kinds_1 5 rfl rfl)
theorem dX0_kinds_30 : decode cX0_kinds 30 = .ok (.bipush 6, 2) := dk_16 6 (dk_at dksX0_kinds_1 7 rfl rfl)
theorem dX0_kinds_32 : decode cX0_kinds 32 = .ok (.if_icmp .gt 54, 3) := dk_163 0 54 (dk_at dksX0_kinds_1 9 rfl rfl)
theorem dX0_kinds_35 : decode cX0_kinds 35 = .ok (.aload_n 0, 1) := dk_42 (dk_at dksX0_kinds_1 12 rfl rfl)
theorem dX0_kinds_36 : decode cX0_kinds 36 = .ok (.iload 5, 2) := dk_21 5 (dk_at dksX0_kinds_1 13 rfl rfl)
theorem dX0_kinds_38 : decode cX0_kinds 38 = .ok (.iload_n 2, 1) := dk_28 (dk_at dksX0_kinds_1 15 rfl rfl)
theorem dX0_kinds_39 : decode cX0_kinds 39 = .ok (.invokevirtual 498, 3) := dk_182 1 242 (dk_at dksX0_kinds_1 16 rfl rfl)
theorem dX0_kinds_42 : decode cX0_kinds 42 = .ok (.astore 6, 2) := dk_58 6 (dk_at dksX0_kinds_1 19 rfl rfl)
theorem dX0_kinds_44 : decode cX0_kinds 44 = .ok (.aload_n 0, 1) := dk_42 (dk_at dksX0_kinds_1 21 rfl rfl)
theorem dX0_kinds_45 : decode cX0_kinds 45 = .ok (.aload 6, 2) := dk_25 6 (dk_at dksX0_kinds_1 22 rfl rfl)
theorem dX0_kinds_47 : decode cX0_kinds 47 = .ok (.invokevirtual 147, 3) := dk_182 0 147 (dk_at dksX0_kinds_2 0 rfl rfl)
theorem dX0_kinds_50 : decode cX0_kinds 50 = .ok (.ifCond .ne 6, 3) := dk_154 0 6 (dk_at dksX0_kinds_2 3 rfl rfl)
theorem dX0_kinds_53 : decode cX0_kinds 53 = .ok (.goto 27, 3) := dk_167 0 27 (dk_at dksX0_kinds_2 6 rfl rfl)
theorem dX0_kinds_56 : decode cX0_kinds 56 = .ok (.iload 4, 2) := dk_21 4 (dk_at dksX0_kinds_2 9 rfl rfl)
theorem dX0_kinds_58 : decode cX0_kinds 58 = .ok (.aload_n 0, 1) := dk_42 (dk_at dksX0_kinds_2 11 rfl rfl)
theorem dX0_kinds_59 : decode cX0_kinds 59 = .ok (.aload 6, 2) := dk_25 6 (dk_at dksX0_kinds_2 12 rfl rfl)
theorem dX0_kinds_61 : decode cX0_kinds 61 = .ok (.aload_n 3, 1) := dk_45 (dk_at dksX0_kinds_2 14 rfl rfl)
theorem dX0_kinds_62 : decode cX0_kinds 62 = .ok (.iconst 1, 1) := dk_4 (dk_at dksX0_kinds_2 15 rfl rfl)
theorem dX0_kinds_63 : decode cX0_kinds 63 = .ok (.invokevirtual 491, 3) := dk_182 1 235 (dk_at dksX0_kinds_2 16 rfl rfl)
theorem dX0_kinds_66 : decode cX0_kinds 66 = .ok (.ifCond .ne 10, 3) := dk_154 0 10 (dk_at dksX0_kinds_2 19 rfl rfl)
theorem dX0_kinds_69 : decode cX0_kinds 69 = .ok (.iconst 1, 1) := dk_4 (dk_at dksX0_kinds_2 22 rfl rfl)
theorem dX0_kinds_70 : decode cX0_kinds 70 = .ok (.iload 5, 2) := dk_21 5 (dk_at dksX0_kinds_3 0 rfl rfl)
theorem dX0_kinds_72 : decode cX0_kinds 72 = .ok (.ishl, 1) := dk_120 (dk_at dksX0_kinds_3 2 rfl rfl)
theorem dX0_kinds_73 : decode cX0_kinds 73 = .ok (.goto 4, 3) := dk_167 0 4 (dk_at dksX0_kinds_3 3 rfl rfl)
theorem dX0_kinds_76 : decode cX0_kinds 76 = .ok (.iconst 0, 1) := dk_3 (dk_at dksX0_kinds_3 6 rfl rfl)
theorem dX0_kinds_77 : decode cX0_kinds 77 = .ok (.ior, 1) := dk_128 (dk_at dksX0_kinds_3 7 rfl rfl)
theorem dX0_kinds_78 : decode cX0_kinds 78 = .ok (.istore 4, 2) := dk_54 4 (dk_at dksX0_kinds_3 8 rfl rfl)
theorem dX0_kinds_80 : decode cX0_kinds 80 = .ok (.iinc 5 1, 3) := dk_132 5 1 (dk_at dksX0_kinds_3 10 rfl rfl)
theorem dX0_kinds_83 : decode cX0_kinds 83 = .ok (.goto (-55), 3) := dk_167 255 201 (dk_at dksX0_kinds_3 13 rfl rfl)
theorem dX0_kinds_86 : decode cX0_kinds 86 = .ok (.iload 4, 2) := dk_21 4 (dk_at dksX0_kinds_3 16 rfl rfl)
theorem dX0_kinds_88 : decode cX0_kinds 88 = .ok (.ireturn, 1) := dk_172 (dk_at dksX0_kinds_3 18 rfl rfl)
theorem dX0_kinds_89 : decode cX0_kinds 89 = .ok (.astore_n 3, 1) := dk_78 (dk_at dksX0_kinds_3 19 rfl rfl)
theorem dX0_kinds_90 : decode cX0_kinds 90 = .ok (.bipush (-13), 2) := dk_16 243 (dk_at dksX0_kinds_3 20 rfl rfl)
theorem dX0_kinds_92 : decode cX0_kinds 92 = .ok (.ireturn, 1) := dk_172 (dk_at dksX0_kinds_3 22 rfl rfl)
theorem dX0_kinds_93 : decode cX0_kinds 93 = .ok (.astore_n 3, 1) := dk_78 (dk_at dksX0_kinds_3 23 rfl rfl)
theorem dX0_kinds_94 : decode cX0_kinds 94 = .ok (.aload_n 3, 1) := dk_45 (dk_at dksX0_kinds_4 0 rfl rfl)
theorem dX0_kinds_95 : decode cX0_kinds 95 = .ok (.getfield 497, 3) := dk_180 1 241 (dk_at dksX0_kinds_4 1 rfl rfl)
theorem dX0_kinds_98 : decode cX0_kinds 98 = .ok (.ireturn, 1) := dk_172 (dk_at dksX0_kinds_4 4 rfl rfl)
abbrev cX0_stranger : ByteArray := prog_1_method_84_code
def yX0_stranger : MethodName := ⟨RX0, "stranger", "(II)LTwoSidedTables$Plain;"⟩
def dkwX0_stranger_1 : List UInt8 := [28, 184, 1, 144, 83, 42, 180, 0, 107, 29, 50, 176]
abbrev dktX0_stranger_1 : List UInt8 := dkwX0_stranger_1 ++ []
def dkwX0_stranger_0 : List UInt8 := [8, 27, 104, 28, 96, 5, 96, 62, 42, 180, 0, 107, 29, 50, 199, 0, 15, 42, 180, 0, 107, 29, 27, 3]
abbrev dktX0_stranger_0 : List UInt8 := dkwX0_stranger_0 ++ dktX0_stranger_1
theorem dksX0_stranger_0 : cX0_stranger.data.toList.drop 0 = dktX0_stranger_0 := by decide +kernel
theorem dksX0_stranger_1 : cX0_stranger.data.toList.drop 24 = dktX0_stranger_1 := dk_seg dksX0_stranger_0 24 rfl rfl
theorem dX0_stranger_0 : decode cX0_stranger 0 = .ok (.iconst 5, 1) := dk_8 (dk_at dksX0_stranger_0 0 rfl rfl)
theorem dX0_stranger_1 : decode cX0_stranger 1 = .ok (.iload_n 1, 1) := dk_27 (dk_at dksX0_stranger_0 1 rfl rfl)
theorem dX0_stranger_2 : decode cX0_stranger 2 = .ok (.imul, 1) := dk_104 (dk_at dksX0_stranger_0 2 rfl rfl)
theorem dX0_stranger_3 : decode cX0_stranger 3 = .ok (.iload_n 2, 1) := dk_28 (dk_at dksX0_stranger_0 3 rfl rfl)
theorem dX0_stranger_4 : decode cX0_stranger 4 = .ok (.iadd, 1) := dk_96 (dk_at dksX0_stranger_0 4 rfl rfl)
theorem dX0_stranger_5 : decode cX0_stranger 5 = .ok (.iconst 2, 1) := dk_5 (dk_at dksX0_stranger_0 5 rfl rfl)
theorem dX0_stranger_6 : decode cX0_stranger 6 = .ok (.iadd, 1) := dk_96 (dk_at dksX0_stranger_0 6 rfl rfl)
theorem dX0_stranger_7 : decode cX0_stranger 7 = .ok (.istore_n 3, 1) := dk_62 (dk_at dksX0_stranger_0 7 rfl rfl)
theorem dX0_stranger_8 : decode cX0_stranger 8 = .ok (.aload_n 0, 1) := dk_42 (dk_at dksX0_stranger_0 8 rfl rfl)
theorem dX0_stranger_9 : decode cX0_stranger 9 = .ok (.getfield 107, 3) := dk_180 0 107 (dk_at dksX0_stranger_0 9 rfl rfl)
theorem dX0_stranger_12 : decode cX0_stranger 12 = .ok (.iload_n 3, 1) := dk_29 (dk_at dksX0_stranger_0 12 rfl rfl)
theorem dX0_stranger_13 : decode cX0_stranger 13 = .ok (.aaload, 1) := dk_50 (dk_at dksX0_stranger_0 13 rfl rfl)
theorem dX0_stranger_14 : decode cX0_stranger 14 = .ok (.ifnonnull 15, 3) := dk_199 0 15 (dk_at dksX0_stranger_0 14 rfl rfl)
theorem dX0_stranger_17 : decode cX0_stranger 17 = .ok (.aload_n 0, 1) := dk_42 (dk_at dksX0_stranger_0 17 rfl rfl)
theorem dX0_stranger_18 : decode cX0_stranger 18 = .ok (.getfield 107, 3) := dk_180 0 107 (dk_at dksX0_stranger_0 18 rfl rfl)
theorem dX0_stranger_21 : decode cX0_stranger 21 = .ok (.iload_n 3, 1) := dk_29 (dk_at dksX0_stranger_0 21 rfl rfl)
theorem dX0_stranger_22 : decode cX0_stranger 22 = .ok (.iload_n 1, 1) := dk_27 (dk_at dksX0_stranger_0 22 rfl rfl)
theorem dX0_stranger_23 : decode cX0_stranger 23 = .ok (.iconst 0, 1) := dk_3 (dk_at dksX0_stranger_0 23 rfl rfl)
theorem dX0_stranger_24 : decode cX0_stranger 24 = .ok (.iload_n 2, 1) := dk_28 (dk_at dksX0_stranger_1 0 rfl rfl)
theorem dX0_stranger_25 : decode cX0_stranger 25 = .ok (.invokestatic 400, 3) := dk_184 1 144 (dk_at dksX0_stranger_1 1 rfl rfl)
theorem dX0_stranger_28 : decode cX0_stranger 28 = .ok (.aastore, 1) := dk_83 (dk_at dksX0_stranger_1 4 rfl rfl)
theorem dX0_stranger_29 : decode cX0_stranger 29 = .ok (.aload_n 0, 1) := dk_42 (dk_at dksX0_stranger_1 5 rfl rfl)
theorem dX0_stranger_30 : decode cX0_stranger 30 = .ok (.getfield 107, 3) := dk_180 0 107 (dk_at dksX0_stranger_1 6 rfl rfl)
theorem dX0_stranger_33 : decode cX0_stranger 33 = .ok (.iload_n 3, 1) := dk_29 (dk_at dksX0_stranger_1 9 rfl rfl)
theorem dX0_stranger_34 : decode cX0_stranger 34 = .ok (.aaload, 1) := dk_50 (dk_at dksX0_stranger_1 10 rfl rfl)
theorem dX0_stranger_35 : decode cX0_stranger 35 = .ok (.areturn, 1) := dk_176 (dk_at dksX0_stranger_1 11 rfl rfl)
abbrev cX0_seed : ByteArray := prog_1_method_85_code
def yX0_seed : MethodName := ⟨RX0, "seed", "(I)I"⟩
def dkwX0_seed_0 : List UInt8 := [42, 180, 0, 79, 61, 42, 27, 181, 0, 79, 28, 172]
abbrev dktX0_seed_0 : List UInt8 := dkwX0_seed_0 ++ []
theorem dksX0_seed_0 : cX0_seed.data.toList.drop 0 = dktX0_seed_0 := by decide +kernel
theorem dX0_seed_0 : decode cX0_seed 0 = .ok (.aload_n 0, 1) := dk_42 (dk_at dksX0_seed_0 0 rfl rfl)
theorem dX0_seed_1 : decode cX0_seed 1 = .ok (.getfield 79, 3) := dk_180 0 79 (dk_at dksX0_seed_0 1 rfl rfl)
theorem dX0_seed_4 : decode cX0_seed 4 = .ok (.istore_n 2, 1) := dk_61 (dk_at dksX0_seed_0 4 rfl rfl)
theorem dX0_seed_5 : decode cX0_seed 5 = .ok (.aload_n 0, 1) := dk_42 (dk_at dksX0_seed_0 5 rfl rfl)
theorem dX0_seed_6 : decode cX0_seed 6 = .ok (.iload_n 1, 1) := dk_27 (dk_at dksX0_seed_0 6 rfl rfl)
theorem dX0_seed_7 : decode cX0_seed 7 = .ok (.putfield 79, 3) := dk_181 0 79 (dk_at dksX0_seed_0 7 rfl rfl)
theorem dX0_seed_10 : decode cX0_seed 10 = .ok (.iload_n 2, 1) := dk_28 (dk_at dksX0_seed_0 10 rfl rfl)
theorem dX0_seed_11 : decode cX0_seed 11 = .ok (.ireturn, 1) := dk_172 (dk_at dksX0_seed_0 11 rfl rfl)
abbrev cX0_lot : ByteArray := prog_1_method_88_code
def yX0_lot : MethodName := ⟨RX0, "lot", "()I"⟩
def dkwX0_lot_0 : List UInt8 := [42, 182, 1, 254, 16, 100, 42, 180, 0, 62, 180, 1, 67, 3, 3, 182, 0, 174, 136, 96, 172]
abbrev dktX0_lot_0 : List UInt8 := dkwX0_lot_0 ++ []
theorem dksX0_lot_0 : cX0_lot.data.toList.drop 0 = dktX0_lot_0 := by decide +kernel
theorem dX0_lot_0 : decode cX0_lot 0 = .ok (.aload_n 0, 1) := dk_42 (dk_at dksX0_lot_0 0 rfl rfl)
theorem dX0_lot_1 : decode cX0_lot 1 = .ok (.invokevirtual 510, 3) := dk_182 1 254 (dk_at dksX0_lot_0 1 rfl rfl)
theorem dX0_lot_4 : decode cX0_lot 4 = .ok (.bipush 100, 2) := dk_16 100 (dk_at dksX0_lot_0 4 rfl rfl)
theorem dX0_lot_6 : decode cX0_lot 6 = .ok (.aload_n 0, 1) := dk_42 (dk_at dksX0_lot_0 6 rfl rfl)
theorem dX0_lot_7 : decode cX0_lot 7 = .ok (.getfield 62, 3) := dk_180 0 62 (dk_at dksX0_lot_0 7 rfl rfl)
theorem dX0_lot_10 : decode cX0_lot 10 = .ok (.getfield 323, 3) := dk_180 1 67 (dk_at dksX0_lot_0 10 rfl rfl)
theorem dX0_lot_13 : decode cX0_lot 13 = .ok (.iconst 0, 1) := dk_3 (dk_at dksX0_lot_0 13 rfl rfl)
theorem dX0_lot_14 : decode cX0_lot 14 = .ok (.iconst 0, 1) := dk_3 (dk_at dksX0_lot_0 14 rfl rfl)
theorem dX0_lot_15 : decode cX0_lot 15 = .ok (.invokevirtual 174, 3) := dk_182 0 174 (dk_at dksX0_lot_0 15 rfl rfl)
theorem dX0_lot_18 : decode cX0_lot 18 = .ok (.l2i, 1) := dk_136 (dk_at dksX0_lot_0 18 rfl rfl)
theorem dX0_lot_19 : decode cX0_lot 19 = .ok (.iadd, 1) := dk_96 (dk_at dksX0_lot_0 19 rfl rfl)
theorem dX0_lot_20 : decode cX0_lot 20 = .ok (.ireturn, 1) := dk_172 (dk_at dksX0_lot_0 20 rfl rfl)
abbrev cX0_byLot : ByteArray := prog_1_method_87_code
def yX0_byLot : MethodName := ⟨RX0, "byLot", "()V"⟩
def dkwX0_byLot_1 : List UInt8 := [8, 182, 1, 250, 42, 42, 180, 0, 62, 180, 1, 67, 16, 101, 16, 50, 182, 1, 250, 177]
abbrev dktX0_byLot_1 : List UInt8 := dkwX0_byLot_1 ++ []
def dkwX0_byLot_0 : List UInt8 := [42, 42, 180, 0, 62, 180, 1, 53, 16, 11, 8, 182, 1, 250, 42, 42, 180, 0, 62, 180, 1, 169, 16, 11]
abbrev dktX0_byLot_0 : List UInt8 := dkwX0_byLot_0 ++ dktX0_byLot_1
theorem dksX0_byLot_0 : cX0_byLot.data.toList.drop 0 = dktX0_byLot_0 := by decide +kernel
theorem dksX0_byLot_1 : cX0_byLot.data.toList.drop 24 = dktX0_byLot_1 := dk_seg dksX0_byLot_0 24 rfl rfl
theorem dX0_byLot_0 : decode cX0_byLot 0 = .ok (.aload_n 0, 1) := dk_42 (dk_at dksX0_byLot_0 0 rfl rfl)
theorem dX0_byLot_1 : decode cX0_byLot 1 = .ok (.aload_n 0, 1) := dk_42 (dk_at dksX0_byLot_0 1 rfl rfl)
theorem dX0_byLot_2 : decode cX0_byLot 2 = .ok (.getfield 62, 3) := dk_180 0 62 (dk_at dksX0_byLot_0 2 rfl rfl)
theorem dX0_byLot_5 : decode cX0_byLot 5 = .ok (.getfield 309, 3) := dk_180 1 53 (dk_at dksX0_byLot_0 5 rfl rfl)
theorem dX0_byLot_8 : decode cX0_byLot 8 = .ok (.bipush 11, 2) := dk_16 11 (dk_at dksX0_byLot_0 8 rfl rfl)
theorem dX0_byLot_10 : decode cX0_byLot 10 = .ok (.iconst 5, 1) := dk_8 (dk_at dksX0_byLot_0 10 rfl rfl)
theorem dX0_byLot_11 : decode cX0_byLot 11 = .ok (.invokevirtual 506, 3) := dk_182 1 250 (dk_at dksX0_byLot_0 11 rfl rfl)
theorem dX0_byLot_14 : decode cX0_byLot 14 = .ok (.aload_n 0, 1) := dk_42 (dk_at dksX0_byLot_0 14 rfl rfl)
theorem dX0_byLot_15 : decode cX0_byLot 15 = .ok (.aload_n 0, 1) := dk_42 (dk_at dksX0_byLot_0 15 rfl rfl)
theorem dX0_byLot_16 : decode cX0_byLot 16 = .ok (.getfield 62, 3) := dk_180 0 62 (dk_at dksX0_byLot_0 16 rfl rfl)
theorem dX0_byLot_19 : decode cX0_byLot 19 = .ok (.getfield 425, 3) := dk_180 1 169 (dk_at dksX0_byLot_0 19 rfl rfl)
theorem dX0_byLot_22 : decode cX0_byLot 22 = .ok (.bipush 11, 2) := dk_16 11 (dk_at dksX0_byLot_0 22 rfl rfl)
theorem dX0_byLot_24 : decode cX0_byLot 24 = .ok (.iconst 5, 1) := dk_8 (dk_at dksX0_byLot_1 0 rfl rfl)
theorem dX0_byLot_25 : decode cX0_byLot 25 = .ok (.invokevirtual 506, 3) := dk_182 1 250 (dk_at dksX0_byLot_1 1 rfl rfl)
theorem dX0_byLot_28 : decode cX0_byLot 28 = .ok (.aload_n 0, 1) := dk_42 (dk_at dksX0_byLot_1 4 rfl rfl)
theorem dX0_byLot_29 : decode cX0_byLot 29 = .ok (.aload_n 0, 1) := dk_42 (dk_at dksX0_byLot_1 5 rfl rfl)
theorem dX0_byLot_30 : decode cX0_byLot 30 = .ok (.getfield 62, 3) := dk_180 0 62 (dk_at dksX0_byLot_1 6 rfl rfl)
theorem dX0_byLot_33 : decode cX0_byLot 33 = .ok (.getfield 323, 3) := dk_180 1 67 (dk_at dksX0_byLot_1 9 rfl rfl)
theorem dX0_byLot_36 : decode cX0_byLot 36 = .ok (.bipush 101, 2) := dk_16 101 (dk_at dksX0_byLot_1 12 rfl rfl)
theorem dX0_byLot_38 : decode cX0_byLot 38 = .ok (.bipush 50, 2) := dk_16 50 (dk_at dksX0_byLot_1 14 rfl rfl)
theorem dX0_byLot_40 : decode cX0_byLot 40 = .ok (.invokevirtual 506, 3) := dk_182 1 250 (dk_at dksX0_byLot_1 16 rfl rfl)
theorem dX0_byLot_43 : decode cX0_byLot 43 = .ok (.return_, 1) := dk_177 (dk_at dksX0_byLot_1 19 rfl rfl)
abbrev cX0_fill : ByteArray := prog_1_method_86_code
def yX0_fill : MethodName := ⟨RX0, "fill", "(LTwoSidedTables$Table;II)V"⟩
def dkwX0_fill_2 : List UInt8 := [28, 112, 29, 100, 133, 80, 132, 4, 1, 167, 255, 204, 177]
abbrev dktX0_fill_2 : List UInt8 := dkwX0_fill_2 ++ []
def dkwX0_fill_1 : List UInt8 := [19, 1, 246, 104, 17, 48, 57, 96, 181, 0, 79, 43, 180, 1, 247, 21, 4, 42, 180, 0, 79, 16, 16, 124]
abbrev dktX0_fill_1 : List UInt8 := dkwX0_fill_1 ++ dktX0_fill_2
def dkwX0_fill_0 : List UInt8 := [3, 54, 4, 21, 4, 43, 180, 0, 188, 43, 180, 1, 5, 104, 162, 0, 44, 42, 42, 180, 0, 79]
abbrev dktX0_fill_0 : List UInt8 := dkwX0_fill_0 ++ dktX0_fill_1
theorem dksX0_fill_0 : cX0_fill.data.toList.drop 0 = dktX0_fill_0 := by decide +kernel
theorem dksX0_fill_1 : cX0_fill.data.toList.drop 22 = dktX0_fill_1 := dk_seg dksX0_fill_0 22 rfl rfl
theorem dksX0_fill_2 : cX0_fill.data.toList.drop 46 = dktX0_fill_2 := dk_seg dksX0_fill_1 24 rfl rfl
theorem dX0_fill_0 : decode cX0_fill 0 = .ok (.iconst 0, 1) := dk_3 (dk_at dksX0_fill_0 0 rfl rfl)
theorem dX0_fill_1 : decode cX0_fill 1 = .ok (.istore 4, 2) := dk_54 4 (dk_at dksX0_fill_0 1 rfl rfl)
theorem dX0_fill_3 : decode cX0_fill 3 = .ok (.iload 4, 2) := dk_21 4 (dk_at dksX0_fill_0 3 rfl rfl)
theorem dX0_fill_5 : decode cX0_fill 5 = .ok (.aload_n 1, 1) := dk_43 (dk_at dksX0_fill_0 5 rfl rfl)
theorem dX0_fill_6 : decode cX0_fill 6 = .ok (.getfield 188, 3) := dk_180 0 188 (dk_at dksX0_fill_0 6 rfl rfl)
theorem dX0_fill_9 : decode cX0_fill 9 = .ok (.aload_n 1, 1) := dk_43 (dk_at dksX0_fill_0 9 rfl rfl)
theorem dX0_fill_10 : decode cX0_fill 10 = .ok (.getfield 261, 3) := dk_180 1 5 (dk_at dksX0_fill_0 10 rfl rfl)
theorem dX0_fill_13 : decode cX0_fill 13 = .ok (.imul, 1) := dk_104 (dk_at dksX0_fill_0 13 rfl rfl)
theorem dX0_fill_14 : decode cX0_fill 14 = .ok (.if_icmp .ge 44, 3) := dk_162 0 44 (dk_at dksX0_fill_0 14 rfl rfl)
theorem dX0_fill_17 : decode cX0_fill 17 = .ok (.aload_n 0, 1) := dk_42 (dk_at dksX0_fill_0 17 rfl rfl)
theorem dX0_fill_18 : decode cX0_fill 18 = .ok (.aload_n 0, 1) := dk_42 (dk_at dksX0_fill_0 18 rfl rfl)
theorem dX0_fill_19 : decode cX0_fill 19 = .ok (.getfield 79, 3) := dk_180 0 79 (dk_at dksX0_fill_0 19 rfl rfl)
theorem dX0_fill_22 : decode cX0_fill 22 = .ok (.ldc_w 502, 3) := dk_19 1 246 (dk_at dksX0_fill_1 0 rfl rfl)
theorem dX0_fill_25 : decode cX0_fill 25 = .ok (.imul, 1) := dk_104 (dk_at dksX0_fill_1 3 rfl rfl)
theorem dX0_fill_26 : decode cX0_fill 26 = .ok (.sipush 12345, 3) := dk_17 48 57 (dk_at dksX0_fill_1 4 rfl rfl)
theorem dX0_fill_29 : decode cX0_fill 29 = .ok (.iadd, 1) := dk_96 (dk_at dksX0_fill_1 7 rfl rfl)
theorem dX0_fill_30 : decode cX0_fill 30 = .ok (.putfield 79, 3) := dk_181 0 79 (dk_at dksX0_fill_1 8 rfl rfl)
theorem dX0_fill_33 : decode cX0_fill 33 = .ok (.aload_n 1, 1) := dk_43 (dk_at dksX0_fill_1 11 rfl rfl)
theorem dX0_fill_34 : decode cX0_fill 34 = .ok (.getfield 503, 3) := dk_180 1 247 (dk_at dksX0_fill_1 12 rfl rfl)
theorem dX0_fill_37 : decode cX0_fill 37 = .ok (.iload 4, 2) := dk_21 4 (dk_at dksX0_fill_1 15 rfl rfl)
theorem dX0_fill_39 : decode cX0_fill 39 = .ok (.aload_n 0, 1) := dk_42 (dk_at dksX0_fill_1 17 rfl rfl)
theorem dX0_fill_40 : decode cX0_fill 40 = .ok (.getfield 79, 3) := dk_180 0 79 (dk_at dksX0_fill_1 18 rfl rfl)
theorem dX0_fill_43 : decode cX0_fill 43 = .ok (.bipush 16, 2) := dk_16 16 (dk_at dksX0_fill_1 21 rfl rfl)
theorem dX0_fill_45 : decode cX0_fill 45 = .ok (.iushr, 1) := dk_124 (dk_at dksX0_fill_1 23 rfl rfl)
theorem dX0_fill_46 : decode cX0_fill 46 = .ok (.iload_n 2, 1) := dk_28 (dk_at dksX0_fill_2 0 rfl rfl)
theorem dX0_fill_47 : decode cX0_fill 47 = .ok (.irem, 1) := dk_112 (dk_at dksX0_fill_2 1 rfl rfl)
theorem dX0_fill_48 : decode cX0_fill 48 = .ok (.iload_n 3, 1) := dk_29 (dk_at dksX0_fill_2 2 rfl rfl)
theorem dX0_fill_49 : decode cX0_fill 49 = .ok (.isub, 1) := dk_100 (dk_at dksX0_fill_2 3 rfl rfl)
theorem dX0_fill_50 : decode cX0_fill 50 = .ok (.i2l, 1) := dk_133 (dk_at dksX0_fill_2 4 rfl rfl)
theorem dX0_fill_51 : decode cX0_fill 51 = .ok (.lastore, 1) := dk_80 (dk_at dksX0_fill_2 5 rfl rfl)
theorem dX0_fill_52 : decode cX0_fill 52 = .ok (.iinc 4 1, 3) := dk_132 4 1 (dk_at dksX0_fill_2 6 rfl rfl)
theorem dX0_fill_55 : decode cX0_fill 55 = .ok (.goto (-52), 3) := dk_167 255 204 (dk_at dksX0_fill_2 9 rfl rfl)
theorem dX0_fill_58 : decode cX0_fill 58 = .ok (.return_, 1) := dk_177 (dk_at dksX0_fill_2 12 rfl rfl)
abbrev cX0_times : ByteArray := prog_1_method_89_code
def yX0_times : MethodName := ⟨RX0, "times", "(II)I"⟩
def dkwX0_times_4 : List UInt8 := [182, 1, 20, 21, 4, 172, 58, 5, 42, 180, 0, 62, 42, 180, 0, 69, 182, 1, 20, 25, 5, 191]
abbrev dktX0_times_4 : List UInt8 := dkwX0_times_4 ++ []
def dkwX0_times_3 : List UInt8 := [4, 167, 0, 4, 3, 96, 62, 132, 4, 1, 167, 255, 222, 29, 54, 4, 42, 180, 0, 62, 42, 180, 0, 69]
abbrev dktX0_times_3 : List UInt8 := dkwX0_times_3 ++ dktX0_times_4
def dkwX0_times_2 : List UInt8 := [21, 4, 28, 162, 0, 34, 42, 182, 1, 254, 29, 42, 42, 180, 0, 72, 27, 50, 182, 1, 166, 153, 0, 7]
abbrev dktX0_times_2 : List UInt8 := dkwX0_times_2 ++ dktX0_times_3
def dkwX0_times_1 : List UInt8 := [180, 0, 72, 27, 50, 182, 1, 151, 154, 0, 6, 16, 252, 172, 42, 182, 1, 24, 3, 62, 3, 54, 4]
abbrev dktX0_times_1 : List UInt8 := dkwX0_times_1 ++ dktX0_times_2
def dkwX0_times_0 : List UInt8 := [42, 27, 182, 1, 148, 153, 0, 13, 28, 4, 16, 30, 184, 0, 130, 154, 0, 5, 2, 172, 42, 42]
abbrev dktX0_times_0 : List UInt8 := dkwX0_times_0 ++ dktX0_times_1
theorem dksX0_times_0 : cX0_times.data.toList.drop 0 = dktX0_times_0 := by decide +kernel
theorem dksX0_times_1 : cX0_times.data.toList.drop 22 = dktX0_times_1 := dk_seg dksX0_times_0 22 rfl rfl
theorem dksX0_times_2 : cX0_times.data.toList.drop 45 = dktX0_times_2 := dk_seg dksX0_times_1 23 rfl rfl
theorem dksX0_times_3 : cX0_times.data.toList.drop 69 = dktX0_times_3 := dk_seg dksX0_times_2 24 rfl rfl
theorem dksX0_times_4 : cX0_times.data.toList.drop 93 = dktX0_times_4 := dk_seg dksX0_times_3 24 rfl rfl
theorem dX0_times_0 : decode cX0_times 0 = .ok (.aload_n 0, 1) := dk_42 (dk_at dksX0_times_0 0 rfl rfl)
theorem dX0_times_1 : decode cX0_times 1 = .ok (.iload_n 1, 1) := dk_27 (dk_at dksX0_times_0 1 rfl rfl)
theorem dX0_times_2 : decode cX0_times 2 = .ok (.invokevirtual 404, 3) := dk_182 1 148 (dk_at dksX0_times_0 2 rfl rfl)
theorem dX0_times_5 : decode cX0_times 5 = .ok (.ifCond .eq 13, 3) := dk_153 0 13 (dk_at dksX0_times_0 5 rfl rfl)
theorem dX0_times_8 : decode cX0_times 8 = .ok (.iload_n 2, 1) := dk_28 (dk_at dksX0_times_0 8 rfl rfl)
theorem dX0_times_9 : decode cX0_times 9 = .ok (.iconst 1, 1) := dk_4 (dk_at dksX0_times_0 9 rfl rfl)
theorem dX0_times_10 : decode cX0_times 10 = .ok (.bipush 30, 2) := dk_16 30 (dk_at dksX0_times_0 10 rfl rfl)
theorem dX0_times_12 : decode cX0_times 12 = .ok (.invokestatic 130, 3) := dk_184 0 130 (dk_at dksX0_times_0 12 rfl rfl)
theorem dX0_times_15 : decode cX0_times 15 = .ok (.ifCond .ne 5, 3) := dk_154 0 5 (dk_at dksX0_times_0 15 rfl rfl)
theorem dX0_times_18 : decode cX0_times 18 = .ok (.iconst (-1), 1) := dk_2 (dk_at dksX0_times_0 18 rfl rfl)
theorem dX0_times_19 : decode cX0_times 19 = .ok (.ireturn, 1) := dk_172 (dk_at dksX0_times_0 19 rfl rfl)
theorem dX0_times_20 : decode cX0_times 20 = .ok (.aload_n 0, 1) := dk_42 (dk_at dksX0_times_0 20 rfl rfl)
theorem dX0_times_21 : decode cX0_times 21 = .ok (.aload_n 0, 1) := dk_42 (dk_at dksX0_times_0 21 rfl rfl)
theorem dX0_times_22 : decode cX0_times 22 = .ok (.getfield 72, 3) := dk_180 0 72 (dk_at dksX0_times_1 0 rfl rfl)
theorem dX0_times_25 : decode cX0_times 25 = .ok (.iload_n 1, 1) := dk_27 (dk_at dksX0_times_1 3 rfl rfl)
theorem dX0_times_26 : decode cX0_times 26 = .ok (.aaload, 1) := dk_50 (dk_at dksX0_times_1 4 rfl rfl)
theorem dX0_times_27 : decode cX0_times 27 = .ok (.invokevirtual 407, 3) := dk_182 1 151 (dk_at dksX0_times_1 5 rfl rfl)
theorem dX0_times_30 : decode cX0_times 30 = .ok (.ifCond .ne 6, 3) := dk_154 0 6 (dk_at dksX0_times_1 8 rfl rfl)
theorem dX0_times_33 : decode cX0_times 33 = .ok (.bipush (-4), 2) := dk_16 252 (dk_at dksX0_times_1 11 rfl rfl)
theorem dX0_times_35 : decode cX0_times 35 = .ok (.ireturn, 1) := dk_172 (dk_at dksX0_times_1 13 rfl rfl)
theorem dX0_times_36 : decode cX0_times 36 = .ok (.aload_n 0, 1) := dk_42 (dk_at dksX0_times_1 14 rfl rfl)
theorem dX0_times_37 : decode cX0_times 37 = .ok (.invokevirtual 280, 3) := dk_182 1 24 (dk_at dksX0_times_1 15 rfl rfl)
theorem dX0_times_40 : decode cX0_times 40 = .ok (.iconst 0, 1) := dk_3 (dk_at dksX0_times_1 18 rfl rfl)
theorem dX0_times_41 : decode cX0_times 41 = .ok (.istore_n 3, 1) := dk_62 (dk_at dksX0_times_1 19 rfl rfl)
theorem dX0_times_42 : decode cX0_times 42 = .ok (.iconst 0, 1) := dk_3 (dk_at dksX0_times_1 20 rfl rfl)
theorem dX0_times_43 : decode cX0_times 43 = .ok (.istore 4, 2) := dk_54 4 (dk_at dksX0_times_1 21 rfl rfl)
theorem dX0_times_45 : decode cX0_times 45 = .ok (.iload 4, 2) := dk_21 4 (dk_at dksX0_times_2 0 rfl rfl)
theorem dX0_times_47 : decode cX0_times 47 = .ok (.iload_n 2, 1) := dk_28 (dk_at dksX0_times_2 2 rfl rfl)
theorem dX0_times_48 : decode cX0_times 48 = .ok (.if_icmp .ge 34, 3) := dk_162 0 34 (dk_at dksX0_times_2 3 rfl rfl)
theorem dX0_times_51 : decode cX0_times 51 = .ok (.aload_n 0, 1) := dk_42 (dk_at dksX0_times_2 6 rfl rfl)
theorem dX0_times_52 : decode cX0_times 52 = .ok (.invokevirtual 510, 3) := dk_182 1 254 (dk_at dksX0_times_2 7 rfl rfl)
theorem dX0_times_55 : decode cX0_times 55 = .ok (.iload_n 3, 1) := dk_29 (dk_at dksX0_times_2 10 rfl rfl)
theorem dX0_times_56 : decode cX0_times 56 = .ok (.aload_n 0, 1) := dk_42 (dk_at dksX0_times_2 11 rfl rfl)
theorem dX0_times_57 : decode cX0_times 57 = .ok (.aload_n 0, 1) := dk_42 (dk_at dksX0_times_2 12 rfl rfl)
theorem dX0_times_58 : decode cX0_times 58 = .ok (.getfield 72, 3) := dk_180 0 72 (dk_at dksX0_times_2 13 rfl rfl)
theorem dX0_times_61 : decode cX0_times 61 = .ok (.iload_n 1, 1) := dk_27 (dk_at dksX0_times_2 16 rfl rfl)
theorem dX0_times_62 : decode cX0_times 62 = .ok (.aaload, 1) := dk_50 (dk_at dksX0_times_2 17 rfl rfl)
theorem dX0_times_63 : decode cX0_times 63 = .ok (.invokevirtual 422, 3) := dk_182 1 166 (dk_at dksX0_times_2 18 rfl rfl)
theorem dX0_times_66 : decode cX0_times 66 = .ok (.ifCond .eq 7, 3) := dk_153 0 7 (dk_at dksX0_times_2 21 rfl rfl)
theorem dX0_times_69 : decode cX0_times 69 = .ok (.iconst 1, 1) := dk_4 (dk_at dksX0_times_3 0 rfl rfl)
theorem dX0_times_70 : decode cX0_times 70 = .ok (.goto 4, 3) := dk_167 0 4 (dk_at dksX0_times_3 1 rfl rfl)
theorem dX0_times_73 : decode cX0_times 73 = .ok (.iconst 0, 1) := dk_3 (dk_at dksX0_times_3 4 rfl rfl)
theorem dX0_times_74 : decode cX0_times 74 = .ok (.iadd, 1) := dk_96 (dk_at dksX0_times_3 5 rfl rfl)
theorem dX0_times_75 : decode cX0_times 75 = .ok (.istore_n 3, 1) := dk_62 (dk_at dksX0_times_3 6 rfl rfl)
theorem dX0_times_76 : decode cX0_times 76 = .ok (.iinc 4 1, 3) := dk_132 4 1 (dk_at dksX0_times_3 7 rfl rfl)
theorem dX0_times_79 : decode cX0_times 79 = .ok (.goto (-34), 3) := dk_167 255 222 (dk_at dksX0_times_3 10 rfl rfl)
theorem dX0_times_82 : decode cX0_times 82 = .ok (.iload_n 3, 1) := dk_29 (dk_at dksX0_times_3 13 rfl rfl)
theorem dX0_times_83 : decode cX0_times 83 = .ok (.istore 4, 2) := dk_54 4 (dk_at dksX0_times_3 14 rfl rfl)
theorem dX0_times_85 : decode cX0_times 85 = .ok (.aload_n 0, 1) := dk_42 (dk_at dksX0_times_3 16 rfl rfl)
theorem dX0_times_86 : decode cX0_times 86 = .ok (.getfield 62, 3) := dk_180 0 62 (dk_at dksX0_times_3 17 rfl rfl)
theorem dX0_times_89 : decode cX0_times 89 = .ok (.aload_n 0, 1) := dk_42 (dk_at dksX0_times_3 20 rfl rfl)
theorem dX0_times_90 : decode cX0_times 90 = .ok (.getfield 69, 3) := dk_180 0 69 (dk_at dksX0_times_3 21 rfl rfl)
theorem dX0_times_93 : decode cX0_times 93 = .ok (.invokevirtual 276, 3) := dk_182 1 20 (dk_at dksX0_times_4 0 rfl rfl)
theorem dX0_times_96 : decode cX0_times 96 = .ok (.iload 4, 2) := dk_21 4 (dk_at dksX0_times_4 3 rfl rfl)
theorem dX0_times_98 : decode cX0_times 98 = .ok (.ireturn, 1) := dk_172 (dk_at dksX0_times_4 5 rfl rfl)
theorem dX0_times_99 : decode cX0_times 99 = .ok (.astore 5, 2) := dk_58 5 (dk_at dksX0_times_4 6 rfl rfl)
theorem dX0_times_101 : decode cX0_times 101 = .ok (.aload_n 0, 1) := dk_42 (dk_at dksX0_times_4 8 rfl rfl)
theorem dX0_times_102 : decode cX0_times 102 = .ok (.getfield 62, 3) := dk_180 0 62 (dk_at dksX0_times_4 9 rfl rfl)
theorem dX0_times_105 : decode cX0_times 105 = .ok (.aload_n 0, 1) := dk_42 (dk_at dksX0_times_4 12 rfl rfl)
theorem dX0_times_106 : decode cX0_times 106 = .ok (.getfield 69, 3) := dk_180 0 69 (dk_at dksX0_times_4 13 rfl rfl)
theorem dX0_times_109 : decode cX0_times 109 = .ok (.invokevirtual 276, 3) := dk_182 1 20 (dk_at dksX0_times_4 16 rfl rfl)
theorem dX0_times_112 : decode cX0_times 112 = .ok (.aload 5, 2) := dk_25 5 (dk_at dksX0_times_4 19 rfl rfl)
theorem dX0_times_114 : decode cX0_times 114 = .ok (.athrow, 1) := dk_191 (dk_at dksX0_times_4 21 rfl rfl)
abbrev cX0_sheet : ByteArray := prog_1_method_92_code
def yX0_sheet : MethodName := ⟨RX0, "sheet", "(III)I"⟩
def dkwX0_sheet_2 : List UInt8 := [181, 1, 214, 4, 172, 58, 4, 16, 242, 172]
abbrev dktX0_sheet_2 : List UInt8 := dkwX0_sheet_2 ++ []
def dkwX0_sheet_1 : List UInt8 := [164, 0, 5, 2, 172, 42, 180, 0, 116, 27, 50, 28, 156, 0, 7, 1, 167, 0, 8, 28, 29, 184, 2, 1]
abbrev dktX0_sheet_1 : List UInt8 := dkwX0_sheet_1 ++ dktX0_sheet_2
def dkwX0_sheet_0 : List UInt8 := [27, 184, 1, 203, 153, 0, 22, 28, 2, 6, 184, 0, 130, 153, 0, 13, 28, 155, 0, 11, 29, 16, 40]
abbrev dktX0_sheet_0 : List UInt8 := dkwX0_sheet_0 ++ dktX0_sheet_1
theorem dksX0_sheet_0 : cX0_sheet.data.toList.drop 0 = dktX0_sheet_0 := by decide +kernel
theorem dksX0_sheet_1 : cX0_sheet.data.toList.drop 23 = dktX0_sheet_1 := dk_seg dksX0_sheet_0 23 rfl rfl
theorem dksX0_sheet_2 : cX0_sheet.data.toList.drop 47 = dktX0_sheet_2 := dk_seg dksX0_sheet_1 24 rfl rfl
theorem dX0_sheet_0 : decode cX0_sheet 0 = .ok (.iload_n 1, 1) := dk_27 (dk_at dksX0_sheet_0 0 rfl rfl)
theorem dX0_sheet_1 : decode cX0_sheet 1 = .ok (.invokestatic 459, 3) := dk_184 1 203 (dk_at dksX0_sheet_0 1 rfl rfl)
theorem dX0_sheet_4 : decode cX0_sheet 4 = .ok (.ifCond .eq 22, 3) := dk_153 0 22 (dk_at dksX0_sheet_0 4 rfl rfl)
theorem dX0_sheet_7 : decode cX0_sheet 7 = .ok (.iload_n 2, 1) := dk_28 (dk_at dksX0_sheet_0 7 rfl rfl)
theorem dX0_sheet_8 : decode cX0_sheet 8 = .ok (.iconst (-1), 1) := dk_2 (dk_at dksX0_sheet_0 8 rfl rfl)
theorem dX0_sheet_9 : decode cX0_sheet 9 = .ok (.iconst 3, 1) := dk_6 (dk_at dksX0_sheet_0 9 rfl rfl)
theorem dX0_sheet_10 : decode cX0_sheet 10 = .ok (.invokestatic 130, 3) := dk_184 0 130 (dk_at dksX0_sheet_0 10 rfl rfl)
theorem dX0_sheet_13 : decode cX0_sheet 13 = .ok (.ifCond .eq 13, 3) := dk_153 0 13 (dk_at dksX0_sheet_0 13 rfl rfl)
theorem dX0_sheet_16 : decode cX0_sheet 16 = .ok (.iload_n 2, 1) := dk_28 (dk_at dksX0_sheet_0 16 rfl rfl)
theorem dX0_sheet_17 : decode cX0_sheet 17 = .ok (.ifCond .lt 11, 3) := dk_155 0 11 (dk_at dksX0_sheet_0 17 rfl rfl)
theorem dX0_sheet_20 : decode cX0_sheet 20 = .ok (.iload_n 3, 1) := dk_29 (dk_at dksX0_sheet_0 20 rfl rfl)
theorem dX0_sheet_21 : decode cX0_sheet 21 = .ok (.bipush 40, 2) := dk_16 40 (dk_at dksX0_sheet_0 21 rfl rfl)
theorem dX0_sheet_23 : decode cX0_sheet 23 = .ok (.if_icmp .le 5, 3) := dk_164 0 5 (dk_at dksX0_sheet_1 0 rfl rfl)
theorem dX0_sheet_26 : decode cX0_sheet 26 = .ok (.iconst (-1), 1) := dk_2 (dk_at dksX0_sheet_1 3 rfl rfl)
theorem dX0_sheet_27 : decode cX0_sheet 27 = .ok (.ireturn, 1) := dk_172 (dk_at dksX0_sheet_1 4 rfl rfl)
theorem dX0_sheet_28 : decode cX0_sheet 28 = .ok (.aload_n 0, 1) := dk_42 (dk_at dksX0_sheet_1 5 rfl rfl)
theorem dX0_sheet_29 : decode cX0_sheet 29 = .ok (.getfield 116, 3) := dk_180 0 116 (dk_at dksX0_sheet_1 6 rfl rfl)
theorem dX0_sheet_32 : decode cX0_sheet 32 = .ok (.iload_n 1, 1) := dk_27 (dk_at dksX0_sheet_1 9 rfl rfl)
theorem dX0_sheet_33 : decode cX0_sheet 33 = .ok (.aaload, 1) := dk_50 (dk_at dksX0_sheet_1 10 rfl rfl)
theorem dX0_sheet_34 : decode cX0_sheet 34 = .ok (.iload_n 2, 1) := dk_28 (dk_at dksX0_sheet_1 11 rfl rfl)
theorem dX0_sheet_35 : decode cX0_sheet 35 = .ok (.ifCond .ge 7, 3) := dk_156 0 7 (dk_at dksX0_sheet_1 12 rfl rfl)
theorem dX0_sheet_38 : decode cX0_sheet 38 = .ok (.aconst_null, 1) := dk_1 (dk_at dksX0_sheet_1 15 rfl rfl)
theorem dX0_sheet_39 : decode cX0_sheet 39 = .ok (.goto 8, 3) := dk_167 0 8 (dk_at dksX0_sheet_1 16 rfl rfl)
theorem dX0_sheet_42 : decode cX0_sheet 42 = .ok (.iload_n 2, 1) := dk_28 (dk_at dksX0_sheet_1 19 rfl rfl)
theorem dX0_sheet_43 : decode cX0_sheet 43 = .ok (.iload_n 3, 1) := dk_29 (dk_at dksX0_sheet_1 20 rfl rfl)
theorem dX0_sheet_44 : decode cX0_sheet 44 = .ok (.invokestatic 513, 3) := dk_184 2 1 (dk_at dksX0_sheet_1 21 rfl rfl)
theorem dX0_sheet_47 : decode cX0_sheet 47 = .ok (.putfield 470, 3) := dk_181 1 214 (dk_at dksX0_sheet_2 0 rfl rfl)
theorem dX0_sheet_50 : decode cX0_sheet 50 = .ok (.iconst 1, 1) := dk_4 (dk_at dksX0_sheet_2 3 rfl rfl)
theorem dX0_sheet_51 : decode cX0_sheet 51 = .ok (.ireturn, 1) := dk_172 (dk_at dksX0_sheet_2 4 rfl rfl)
theorem dX0_sheet_52 : decode cX0_sheet 52 = .ok (.astore 4, 2) := dk_58 4 (dk_at dksX0_sheet_2 5 rfl rfl)
theorem dX0_sheet_54 : decode cX0_sheet 54 = .ok (.bipush (-14), 2) := dk_16 242 (dk_at dksX0_sheet_2 7 rfl rfl)
theorem dX0_sheet_56 : decode cX0_sheet 56 = .ok (.ireturn, 1) := dk_172 (dk_at dksX0_sheet_2 9 rfl rfl)
abbrev cX0_rowOfSort : ByteArray := prog_1_method_91_code
def yX0_rowOfSort : MethodName := ⟨RX0, "rowOfSort", "(II)Ljava/lang/Object;"⟩
def dkwX0_rowOfSort_2 : List UInt8 := [27, 188, 8, 176, 27, 188, 9, 176, 27, 188, 10, 176, 27, 188, 11, 176]
abbrev dktX0_rowOfSort_2 : List UInt8 := dkwX0_rowOfSort_2 ++ []
def dkwX0_rowOfSort_1 : List UInt8 := [170, 0, 0, 0, 0, 0, 39, 0, 0, 0, 0, 0, 0, 0, 2, 0, 0, 0, 27, 0, 0, 0, 31, 0, 0, 0, 35]
abbrev dktX0_rowOfSort_1 : List UInt8 := dkwX0_rowOfSort_1 ++ dktX0_rowOfSort_2
def dkwX0_rowOfSort_0 : List UInt8 := [26]
abbrev dktX0_rowOfSort_0 : List UInt8 := dkwX0_rowOfSort_0 ++ dktX0_rowOfSort_1
theorem dksX0_rowOfSort_0 : cX0_rowOfSort.data.toList.drop 0 = dktX0_rowOfSort_0 := by decide +kernel
theorem dksX0_rowOfSort_1 : cX0_rowOfSort.data.toList.drop 1 = dktX0_rowOfSort_1 := dk_seg dksX0_rowOfSort_0 1 rfl rfl
theorem dksX0_rowOfSort_2 : cX0_rowOfSort.data.toList.drop 28 = dktX0_rowOfSort_2 := dk_seg dksX0_rowOfSort_1 27 rfl rfl
theorem dX0_rowOfSort_0 : decode cX0_rowOfSort 0 = .ok (.iload_n 0, 1) := dk_26 (dk_at dksX0_rowOfSort_0 0 rfl rfl)
theorem dX0_rowOfSort_1 : decode cX0_rowOfSort 1 = .ok (.tableswitch 39 0 2 #[27, 31, 35], 27) := by decide +kernel
theorem dX0_rowOfSort_28 : decode cX0_rowOfSort 28 = .ok (.iload_n 1, 1) := dk_27 (dk_at dksX0_rowOfSort_2 0 rfl rfl)
theorem dX0_rowOfSort_29 : decode cX0_rowOfSort 29 = .ok (.newarray .byte, 2) := dk_188_8 (dk_at dksX0_rowOfSort_2 1 rfl rfl)
theorem dX0_rowOfSort_31 : decode cX0_rowOfSort 31 = .ok (.areturn, 1) := dk_176 (dk_at dksX0_rowOfSort_2 3 rfl rfl)
theorem dX0_rowOfSort_32 : decode cX0_rowOfSort 32 = .ok (.iload_n 1, 1) := dk_27 (dk_at dksX0_rowOfSort_2 4 rfl rfl)
theorem dX0_rowOfSort_33 : decode cX0_rowOfSort 33 = .ok (.newarray .short, 2) := dk_188_9 (dk_at dksX0_rowOfSort_2 5 rfl rfl)
theorem dX0_rowOfSort_35 : decode cX0_rowOfSort 35 = .ok (.areturn, 1) := dk_176 (dk_at dksX0_rowOfSort_2 7 rfl rfl)
theorem dX0_rowOfSort_36 : decode cX0_rowOfSort 36 = .ok (.iload_n 1, 1) := dk_27 (dk_at dksX0_rowOfSort_2 8 rfl rfl)
theorem dX0_rowOfSort_37 : decode cX0_rowOfSort 37 = .ok (.newarray .int, 2) := dk_188_10 (dk_at dksX0_rowOfSort_2 9 rfl rfl)
theorem dX0_rowOfSort_39 : decode cX0_rowOfSort 39 = .ok (.areturn, 1) := dk_176 (dk_at dksX0_rowOfSort_2 11 rfl rfl)
theorem dX0_rowOfSort_40 : decode cX0_rowOfSort 40 = .ok (.iload_n 1, 1) := dk_27 (dk_at dksX0_rowOfSort_2 12 rfl rfl)
theorem dX0_rowOfSort_41 : decode cX0_rowOfSort 41 = .ok (.newarray .long, 2) := dk_188_11 (dk_at dksX0_rowOfSort_2 13 rfl rfl)
theorem dX0_rowOfSort_43 : decode cX0_rowOfSort 43 = .ok (.areturn, 1) := dk_176 (dk_at dksX0_rowOfSort_2 15 rfl rfl)
abbrev cX0_put : ByteArray := prog_1_method_95_code
def yX0_put : MethodName := ⟨RX0, "put", "(IIJ)I"⟩
def dkwX0_put_3 : List UInt8 := [172]
abbrev dktX0_put_3 : List UInt8 := dkwX0_put_3 ++ []
def dkwX0_put_2 : List UInt8 := [184, 0, 130, 16, 244, 182, 1, 227, 25, 5, 28, 33, 184, 2, 14, 4, 172, 58, 5, 25, 5, 180, 1, 241]
abbrev dktX0_put_2 : List UInt8 := dkwX0_put_2 ++ dktX0_put_3
def dkwX0_put_1 : List UInt8 := [198, 0, 7, 4, 167, 0, 4, 3, 16, 245, 182, 1, 227, 42, 28, 3, 25, 5, 184, 2, 11, 4, 100]
abbrev dktX0_put_1 : List UInt8 := dkwX0_put_1 ++ dktX0_put_2
def dkwX0_put_0 : List UInt8 := [27, 184, 1, 203, 154, 0, 5, 2, 172, 42, 180, 0, 116, 27, 50, 180, 1, 214, 58, 5, 42, 25, 5]
abbrev dktX0_put_0 : List UInt8 := dkwX0_put_0 ++ dktX0_put_1
theorem dksX0_put_0 : cX0_put.data.toList.drop 0 = dktX0_put_0 := by decide +kernel
theorem dksX0_put_1 : cX0_put.data.toList.drop 23 = dktX0_put_1 := dk_seg dksX0_put_0 23 rfl rfl
theorem dksX0_put_2 : cX0_put.data.toList.drop 46 = dktX0_put_2 := dk_seg dksX0_put_1 23 rfl rfl
theorem dksX0_put_3 : cX0_put.data.toList.drop 70 = dktX0_put_3 := dk_seg dksX0_put_2 24 rfl rfl
theorem dX0_put_0 : decode cX0_put 0 = .ok (.iload_n 1, 1) := dk_27 (dk_at dksX0_put_0 0 rfl rfl)
theorem dX0_put_1 : decode cX0_put 1 = .ok (.invokestatic 459, 3) := dk_184 1 203 (dk_at dksX0_put_0 1 rfl rfl)
theorem dX0_put_4 : decode cX0_put 4 = .ok (.ifCond .ne 5, 3) := dk_154 0 5 (dk_at dksX0_put_0 4 rfl rfl)
theorem dX0_put_7 : decode cX0_put 7 = .ok (.iconst (-1), 1) := dk_2 (dk_at dksX0_put_0 7 rfl rfl)
theorem dX0_put_8 : decode cX0_put 8 = .ok (.ireturn, 1) := dk_172 (dk_at dksX0_put_0 8 rfl rfl)
theorem dX0_put_9 : decode cX0_put 9 = .ok (.aload_n 0, 1) := dk_42 (dk_at dksX0_put_0 9 rfl rfl)
theorem dX0_put_10 : decode cX0_put 10 = .ok (.getfield 116, 3) := dk_180 0 116 (dk_at dksX0_put_0 10 rfl rfl)
theorem dX0_put_13 : decode cX0_put 13 = .ok (.iload_n 1, 1) := dk_27 (dk_at dksX0_put_0 13 rfl rfl)
theorem dX0_put_14 : decode cX0_put 14 = .ok (.aaload, 1) := dk_50 (dk_at dksX0_put_0 14 rfl rfl)
theorem dX0_put_15 : decode cX0_put 15 = .ok (.getfield 470, 3) := dk_180 1 214 (dk_at dksX0_put_0 15 rfl rfl)
theorem dX0_put_18 : decode cX0_put 18 = .ok (.astore 5, 2) := dk_58 5 (dk_at dksX0_put_0 18 rfl rfl)
theorem dX0_put_20 : decode cX0_put 20 = .ok (.aload_n 0, 1) := dk_42 (dk_at dksX0_put_0 20 rfl rfl)
theorem dX0_put_21 : decode cX0_put 21 = .ok (.aload 5, 2) := dk_25 5 (dk_at dksX0_put_0 21 rfl rfl)
theorem dX0_put_23 : decode cX0_put 23 = .ok (.ifnull 7, 3) := dk_198 0 7 (dk_at dksX0_put_1 0 rfl rfl)
theorem dX0_put_26 : decode cX0_put 26 = .ok (.iconst 1, 1) := dk_4 (dk_at dksX0_put_1 3 rfl rfl)
theorem dX0_put_27 : decode cX0_put 27 = .ok (.goto 4, 3) := dk_167 0 4 (dk_at dksX0_put_1 4 rfl rfl)
theorem dX0_put_30 : decode cX0_put 30 = .ok (.iconst 0, 1) := dk_3 (dk_at dksX0_put_1 7 rfl rfl)
theorem dX0_put_31 : decode cX0_put 31 = .ok (.bipush (-11), 2) := dk_16 245 (dk_at dksX0_put_1 8 rfl rfl)
theorem dX0_put_33 : decode cX0_put 33 = .ok (.invokevirtual 483, 3) := dk_182 1 227 (dk_at dksX0_put_1 10 rfl rfl)
theorem dX0_put_36 : decode cX0_put 36 = .ok (.aload_n 0, 1) := dk_42 (dk_at dksX0_put_1 13 rfl rfl)
theorem dX0_put_37 : decode cX0_put 37 = .ok (.iload_n 2, 1) := dk_28 (dk_at dksX0_put_1 14 rfl rfl)
theorem dX0_put_38 : decode cX0_put 38 = .ok (.iconst 0, 1) := dk_3 (dk_at dksX0_put_1 15 rfl rfl)
theorem dX0_put_39 : decode cX0_put 39 = .ok (.aload 5, 2) := dk_25 5 (dk_at dksX0_put_1 16 rfl rfl)
theorem dX0_put_41 : decode cX0_put 41 = .ok (.invokestatic 523, 3) := dk_184 2 11 (dk_at dksX0_put_1 18 rfl rfl)
theorem dX0_put_44 : decode cX0_put 44 = .ok (.iconst 1, 1) := dk_4 (dk_at dksX0_put_1 21 rfl rfl)
theorem dX0_put_45 : decode cX0_put 45 = .ok (.isub, 1) := dk_100 (dk_at dksX0_put_1 22 rfl rfl)
theorem dX0_put_46 : decode cX0_put 46 = .ok (.invokestatic 130, 3) := dk_184 0 130 (dk_at dksX0_put_2 0 rfl rfl)
theorem dX0_put_49 : decode cX0_put 49 = .ok (.bipush (-12), 2) := dk_16 244 (dk_at dksX0_put_2 3 rfl rfl)
theorem dX0_put_51 : decode cX0_put 51 = .ok (.invokevirtual 483, 3) := dk_182 1 227 (dk_at dksX0_put_2 5 rfl rfl)
theorem dX0_put_54 : decode cX0_put 54 = .ok (.aload 5, 2) := dk_25 5 (dk_at dksX0_put_2 8 rfl rfl)
theorem dX0_put_56 : decode cX0_put 56 = .ok (.iload_n 2, 1) := dk_28 (dk_at dksX0_put_2 10 rfl rfl)
theorem dX0_put_57 : decode cX0_put 57 = .ok (.lload_n 3, 1) := dk_33 (dk_at dksX0_put_2 11 rfl rfl)
theorem dX0_put_58 : decode cX0_put 58 = .ok (.invokestatic 526, 3) := dk_184 2 14 (dk_at dksX0_put_2 12 rfl rfl)
theorem dX0_put_61 : decode cX0_put 61 = .ok (.iconst 1, 1) := dk_4 (dk_at dksX0_put_2 15 rfl rfl)
theorem dX0_put_62 : decode cX0_put 62 = .ok (.ireturn, 1) := dk_172 (dk_at dksX0_put_2 16 rfl rfl)
theorem dX0_put_63 : decode cX0_put 63 = .ok (.astore 5, 2) := dk_58 5 (dk_at dksX0_put_2 17 rfl rfl)
theorem dX0_put_65 : decode cX0_put 65 = .ok (.aload 5, 2) := dk_25 5 (dk_at dksX0_put_2 19 rfl rfl)
theorem dX0_put_67 : decode cX0_put 67 = .ok (.getfield 497, 3) := dk_180 1 241 (dk_at dksX0_put_2 21 rfl rfl)
theorem dX0_put_70 : decode cX0_put 70 = .ok (.ireturn, 1) := dk_172 (dk_at dksX0_put_3 0 rfl rfl)
abbrev cX0_length : ByteArray := prog_1_method_93_code
def yX0_length : MethodName := ⟨RX0, "length", "(Ljava/lang/Object;)I"⟩
def dkwX0_length_1 : List UInt8 := [190, 172, 42, 193, 1, 226, 153, 0, 11, 42, 192, 1, 226, 190, 167, 0, 8, 42, 192, 2, 10, 190, 172]
abbrev dktX0_length_1 : List UInt8 := dkwX0_length_1 ++ []
def dkwX0_length_0 : List UInt8 := [42, 193, 2, 7, 153, 0, 9, 42, 192, 2, 7, 190, 172, 42, 193, 2, 8, 153, 0, 9, 42, 192, 2, 8]
abbrev dktX0_length_0 : List UInt8 := dkwX0_length_0 ++ dktX0_length_1
theorem dksX0_length_0 : cX0_length.data.toList.drop 0 = dktX0_length_0 := by decide +kernel
theorem dksX0_length_1 : cX0_length.data.toList.drop 24 = dktX0_length_1 := dk_seg dksX0_length_0 24 rfl rfl
theorem dX0_length_0 : decode cX0_length 0 = .ok (.aload_n 0, 1) := dk_42 (dk_at dksX0_length_0 0 rfl rfl)
theorem dX0_length_1 : decode cX0_length 1 = .ok (.instanceof 519, 3) := dk_193 2 7 (dk_at dksX0_length_0 1 rfl rfl)
theorem dX0_length_4 : decode cX0_length 4 = .ok (.ifCond .eq 9, 3) := dk_153 0 9 (dk_at dksX0_length_0 4 rfl rfl)
theorem dX0_length_7 : decode cX0_length 7 = .ok (.aload_n 0, 1) := dk_42 (dk_at dksX0_length_0 7 rfl rfl)
theorem dX0_length_8 : decode cX0_length 8 = .ok (.checkcast 519, 3) := dk_192 2 7 (dk_at dksX0_length_0 8 rfl rfl)
theorem dX0_length_11 : decode cX0_length 11 = .ok (.arraylength, 1) := dk_190 (dk_at dksX0_length_0 11 rfl rfl)
theorem dX0_length_12 : decode cX0_length 12 = .ok (.ireturn, 1) := dk_172 (dk_at dksX0_length_0 12 rfl rfl)
theorem dX0_length_13 : decode cX0_length 13 = .ok (.aload_n 0, 1) := dk_42 (dk_at dksX0_length_0 13 rfl rfl)
theorem dX0_length_14 : decode cX0_length 14 = .ok (.instanceof 520, 3) := dk_193 2 8 (dk_at dksX0_length_0 14 rfl rfl)
theorem dX0_length_17 : decode cX0_length 17 = .ok (.ifCond .eq 9, 3) := dk_153 0 9 (dk_at dksX0_length_0 17 rfl rfl)
theorem dX0_length_20 : decode cX0_length 20 = .ok (.aload_n 0, 1) := dk_42 (dk_at dksX0_length_0 20 rfl rfl)
theorem dX0_length_21 : decode cX0_length 21 = .ok (.checkcast 520, 3) := dk_192 2 8 (dk_at dksX0_length_0 21 rfl rfl)
theorem dX0_length_24 : decode cX0_length 24 = .ok (.arraylength, 1) := dk_190 (dk_at dksX0_length_1 0 rfl rfl)
theorem dX0_length_25 : decode cX0_length 25 = .ok (.ireturn, 1) := dk_172 (dk_at dksX0_length_1 1 rfl rfl)
theorem dX0_length_26 : decode cX0_length 26 = .ok (.aload_n 0, 1) := dk_42 (dk_at dksX0_length_1 2 rfl rfl)
theorem dX0_length_27 : decode cX0_length 27 = .ok (.instanceof 482, 3) := dk_193 1 226 (dk_at dksX0_length_1 3 rfl rfl)
theorem dX0_length_30 : decode cX0_length 30 = .ok (.ifCond .eq 11, 3) := dk_153 0 11 (dk_at dksX0_length_1 6 rfl rfl)
theorem dX0_length_33 : decode cX0_length 33 = .ok (.aload_n 0, 1) := dk_42 (dk_at dksX0_length_1 9 rfl rfl)
theorem dX0_length_34 : decode cX0_length 34 = .ok (.checkcast 482, 3) := dk_192 1 226 (dk_at dksX0_length_1 10 rfl rfl)
theorem dX0_length_37 : decode cX0_length 37 = .ok (.arraylength, 1) := dk_190 (dk_at dksX0_length_1 13 rfl rfl)
theorem dX0_length_38 : decode cX0_length 38 = .ok (.goto 8, 3) := dk_167 0 8 (dk_at dksX0_length_1 14 rfl rfl)
theorem dX0_length_41 : decode cX0_length 41 = .ok (.aload_n 0, 1) := dk_42 (dk_at dksX0_length_1 17 rfl rfl)
theorem dX0_length_42 : decode cX0_length 42 = .ok (.checkcast 522, 3) := dk_192 2 10 (dk_at dksX0_length_1 18 rfl rfl)
theorem dX0_length_45 : decode cX0_length 45 = .ok (.arraylength, 1) := dk_190 (dk_at dksX0_length_1 21 rfl rfl)
theorem dX0_length_46 : decode cX0_length 46 = .ok (.ireturn, 1) := dk_172 (dk_at dksX0_length_1 22 rfl rfl)
abbrev cX0_set_2 : ByteArray := prog_1_method_94_code
def yX0_set_2 : MethodName := ⟨RX0, "set", "(Ljava/lang/Object;IJ)V"⟩
def dkwX0_set_2_2 : List UInt8 := [192, 1, 226, 27, 32, 136, 79, 167, 0, 10, 42, 192, 2, 10, 27, 32, 80, 177]
abbrev dktX0_set_2_2 : List UInt8 := dkwX0_set_2_2 ++ []
def dkwX0_set_2_1 : List UInt8 := [153, 0, 15, 42, 192, 2, 8, 27, 32, 136, 147, 86, 167, 0, 28, 42, 193, 1, 226, 153, 0, 14, 42]
abbrev dktX0_set_2_1 : List UInt8 := dkwX0_set_2_1 ++ dktX0_set_2_2
def dkwX0_set_2_0 : List UInt8 := [42, 193, 2, 7, 153, 0, 15, 42, 192, 2, 7, 27, 32, 136, 145, 84, 167, 0, 47, 42, 193, 2, 8]
abbrev dktX0_set_2_0 : List UInt8 := dkwX0_set_2_0 ++ dktX0_set_2_1
theorem dksX0_set_2_0 : cX0_set_2.data.toList.drop 0 = dktX0_set_2_0 := by decide +kernel
theorem dksX0_set_2_1 : cX0_set_2.data.toList.drop 23 = dktX0_set_2_1 := dk_seg dksX0_set_2_0 23 rfl rfl
theorem dksX0_set_2_2 : cX0_set_2.data.toList.drop 46 = dktX0_set_2_2 := dk_seg dksX0_set_2_1 23 rfl rfl
theorem dX0_set_2_0 : decode cX0_set_2 0 = .ok (.aload_n 0, 1) := dk_42 (dk_at dksX0_set_2_0 0 rfl rfl)
theorem dX0_set_2_1 : decode cX0_set_2 1 = .ok (.instanceof 519, 3) := dk_193 2 7 (dk_at dksX0_set_2_0 1 rfl rfl)
theorem dX0_set_2_4 : decode cX0_set_2 4 = .ok (.ifCond .eq 15, 3) := dk_153 0 15 (dk_at dksX0_set_2_0 4 rfl rfl)
theorem dX0_set_2_7 : decode cX0_set_2 7 = .ok (.aload_n 0, 1) := dk_42 (dk_at dksX0_set_2_0 7 rfl rfl)
theorem dX0_set_2_8 : decode cX0_set_2 8 = .ok (.checkcast 519, 3) := dk_192 2 7 (dk_at dksX0_set_2_0 8 rfl rfl)
theorem dX0_set_2_11 : decode cX0_set_2 11 = .ok (.iload_n 1, 1) := dk_27 (dk_at dksX0_set_2_0 11 rfl rfl)
theorem dX0_set_2_12 : decode cX0_set_2 12 = .ok (.lload_n 2, 1) := dk_32 (dk_at dksX0_set_2_0 12 rfl rfl)
theorem dX0_set_2_13 : decode cX0_set_2 13 = .ok (.l2i, 1) := dk_136 (dk_at dksX0_set_2_0 13 rfl rfl)
theorem dX0_set_2_14 : decode cX0_set_2 14 = .ok (.i2b, 1) := dk_145 (dk_at dksX0_set_2_0 14 rfl rfl)
theorem dX0_set_2_15 : decode cX0_set_2 15 = .ok (.bastore, 1) := dk_84 (dk_at dksX0_set_2_0 15 rfl rfl)
theorem dX0_set_2_16 : decode cX0_set_2 16 = .ok (.goto 47, 3) := dk_167 0 47 (dk_at dksX0_set_2_0 16 rfl rfl)
theorem dX0_set_2_19 : decode cX0_set_2 19 = .ok (.aload_n 0, 1) := dk_42 (dk_at dksX0_set_2_0 19 rfl rfl)
theorem dX0_set_2_20 : decode cX0_set_2 20 = .ok (.instanceof 520, 3) := dk_193 2 8 (dk_at dksX0_set_2_0 20 rfl rfl)
theorem dX0_set_2_23 : decode cX0_set_2 23 = .ok (.ifCond .eq 15, 3) := dk_153 0 15 (dk_at dksX0_set_2_1 0 rfl rfl)
theorem dX0_set_2_26 : decode cX0_set_2 26 = .ok (.aload_n 0, 1) := dk_42 (dk_at dksX0_set_2_1 3 rfl rfl)
theorem dX0_set_2_27 : decode cX0_set_2 27 = .ok (.checkcast 520, 3) := dk_192 2 8 (dk_at dksX0_set_2_1 4 rfl rfl)
theorem dX0_set_2_30 : decode cX0_set_2 30 = .ok (.iload_n 1, 1) := dk_27 (dk_at dksX0_set_2_1 7 rfl rfl)
theorem dX0_set_2_31 : decode cX0_set_2 31 = .ok (.lload_n 2, 1) := dk_32 (dk_at dksX0_set_2_1 8 rfl rfl)
theorem dX0_set_2_32 : decode cX0_set_2 32 = .ok (.l2i, 1) := dk_136 (dk_at dksX0_set_2_1 9 rfl rfl)
theorem dX0_set_2_33 : decode cX0_set_2 33 = .ok (.i2s, 1) := dk_147 (dk_at dksX0_set_2_1 10 rfl rfl)
theorem dX0_set_2_34 : decode cX0_set_2 34 = .ok (.sastore, 1) := dk_86 (dk_at dksX0_set_2_1 11 rfl rfl)
theorem dX0_set_2_35 : decode cX0_set_2 35 = .ok (.goto 28, 3) := dk_167 0 28 (dk_at dksX0_set_2_1 12 rfl rfl)
theorem dX0_set_2_38 : decode cX0_set_2 38 = .ok (.aload_n 0, 1) := dk_42 (dk_at dksX0_set_2_1 15 rfl rfl)
theorem dX0_set_2_39 : decode cX0_set_2 39 = .ok (.instanceof 482, 3) := dk_193 1 226 (dk_at dksX0_set_2_1 16 rfl rfl)
theorem dX0_set_2_42 : decode cX0_set_2 42 = .ok (.ifCond .eq 14, 3) := dk_153 0 14 (dk_at dksX0_set_2_1 19 rfl rfl)
theorem dX0_set_2_45 : decode cX0_set_2 45 = .ok (.aload_n 0, 1) := dk_42 (dk_at dksX0_set_2_1 22 rfl rfl)
theorem dX0_set_2_46 : decode cX0_set_2 46 = .ok (.checkcast 482, 3) := dk_192 1 226 (dk_at dksX0_set_2_2 0 rfl rfl)
theorem dX0_set_2_49 : decode cX0_set_2 49 = .ok (.iload_n 1, 1) := dk_27 (dk_at dksX0_set_2_2 3 rfl rfl)
theorem dX0_set_2_50 : decode cX0_set_2 50 = .ok (.lload_n 2, 1) := dk_32 (dk_at dksX0_set_2_2 4 rfl rfl)
theorem dX0_set_2_51 : decode cX0_set_2 51 = .ok (.l2i, 1) := dk_136 (dk_at dksX0_set_2_2 5 rfl rfl)
theorem dX0_set_2_52 : decode cX0_set_2 52 = .ok (.iastore, 1) := dk_79 (dk_at dksX0_set_2_2 6 rfl rfl)
theorem dX0_set_2_53 : decode cX0_set_2 53 = .ok (.goto 10, 3) := dk_167 0 10 (dk_at dksX0_set_2_2 7 rfl rfl)
theorem dX0_set_2_56 : decode cX0_set_2 56 = .ok (.aload_n 0, 1) := dk_42 (dk_at dksX0_set_2_2 10 rfl rfl)
theorem dX0_set_2_57 : decode cX0_set_2 57 = .ok (.checkcast 522, 3) := dk_192 2 10 (dk_at dksX0_set_2_2 11 rfl rfl)
theorem dX0_set_2_60 : decode cX0_set_2 60 = .ok (.iload_n 1, 1) := dk_27 (dk_at dksX0_set_2_2 14 rfl rfl)
theorem dX0_set_2_61 : decode cX0_set_2 61 = .ok (.lload_n 2, 1) := dk_32 (dk_at dksX0_set_2_2 15 rfl rfl)
theorem dX0_set_2_62 : decode cX0_set_2 62 = .ok (.lastore, 1) := dk_80 (dk_at dksX0_set_2_2 16 rfl rfl)
theorem dX0_set_2_63 : decode cX0_set_2 63 = .ok (.return_, 1) := dk_177 (dk_at dksX0_set_2_2 17 rfl rfl)
abbrev cX0_item : ByteArray := prog_1_method_98_code
def yX0_item : MethodName := ⟨RX0, "item", "(III)I"⟩
def dkwX0_item_2 : List UInt8 := [180, 1, 241, 172]
abbrev dktX0_item_2 : List UInt8 := dkwX0_item_2 ++ []
def dkwX0_item_1 : List UInt8 := [50, 180, 1, 214, 28, 29, 182, 2, 21, 172, 58, 4, 16, 243, 172, 58, 4, 16, 245, 172, 58, 4, 25, 4]
abbrev dktX0_item_1 : List UInt8 := dkwX0_item_1 ++ dktX0_item_2
def dkwX0_item_0 : List UInt8 := [27, 184, 1, 203, 153, 0, 12, 28, 3, 6, 184, 0, 130, 154, 0, 5, 2, 172, 42, 42, 180, 0, 116, 27]
abbrev dktX0_item_0 : List UInt8 := dkwX0_item_0 ++ dktX0_item_1
theorem dksX0_item_0 : cX0_item.data.toList.drop 0 = dktX0_item_0 := by decide +kernel
theorem dksX0_item_1 : cX0_item.data.toList.drop 24 = dktX0_item_1 := dk_seg dksX0_item_0 24 rfl rfl
theorem dksX0_item_2 : cX0_item.data.toList.drop 48 = dktX0_item_2 := dk_seg dksX0_item_1 24 rfl rfl
theorem dX0_item_0 : decode cX0_item 0 = .ok (.iload_n 1, 1) := dk_27 (dk_at dksX0_item_0 0 rfl rfl)
theorem dX0_item_1 : decode cX0_item 1 = .ok (.invokestatic 459, 3) := dk_184 1 203 (dk_at dksX0_item_0 1 rfl rfl)
theorem dX0_item_4 : decode cX0_item 4 = .ok (.ifCond .eq 12, 3) := dk_153 0 12 (dk_at dksX0_item_0 4 rfl rfl)
theorem dX0_item_7 : decode cX0_item 7 = .ok (.iload_n 2, 1) := dk_28 (dk_at dksX0_item_0 7 rfl rfl)
theorem dX0_item_8 : decode cX0_item 8 = .ok (.iconst 0, 1) := dk_3 (dk_at dksX0_item_0 8 rfl rfl)
theorem dX0_item_9 : decode cX0_item 9 = .ok (.iconst 3, 1) := dk_6 (dk_at dksX0_item_0 9 rfl rfl)
theorem dX0_item_10 : decode cX0_item 10 = .ok (.invokestatic 130, 3) := dk_184 0 130 (dk_at dksX0_item_0 10 rfl rfl)
theorem dX0_item_13 : decode cX0_item 13 = .ok (.ifCond .ne 5, 3) := dk_154 0 5 (dk_at dksX0_item_0 13 rfl rfl)
theorem dX0_item_16 : decode cX0_item 16 = .ok (.iconst (-1), 1) := dk_2 (dk_at dksX0_item_0 16 rfl rfl)
theorem dX0_item_17 : decode cX0_item 17 = .ok (.ireturn, 1) := dk_172 (dk_at dksX0_item_0 17 rfl rfl)
theorem dX0_item_18 : decode cX0_item 18 = .ok (.aload_n 0, 1) := dk_42 (dk_at dksX0_item_0 18 rfl rfl)
theorem dX0_item_19 : decode cX0_item 19 = .ok (.aload_n 0, 1) := dk_42 (dk_at dksX0_item_0 19 rfl rfl)
theorem dX0_item_20 : decode cX0_item 20 = .ok (.getfield 116, 3) := dk_180 0 116 (dk_at dksX0_item_0 20 rfl rfl)
theorem dX0_item_23 : decode cX0_item 23 = .ok (.iload_n 1, 1) := dk_27 (dk_at dksX0_item_0 23 rfl rfl)
theorem dX0_item_24 : decode cX0_item 24 = .ok (.aaload, 1) := dk_50 (dk_at dksX0_item_1 0 rfl rfl)
theorem dX0_item_25 : decode cX0_item 25 = .ok (.getfield 470, 3) := dk_180 1 214 (dk_at dksX0_item_1 1 rfl rfl)
theorem dX0_item_28 : decode cX0_item 28 = .ok (.iload_n 2, 1) := dk_28 (dk_at dksX0_item_1 4 rfl rfl)
theorem dX0_item_29 : decode cX0_item 29 = .ok (.iload_n 3, 1) := dk_29 (dk_at dksX0_item_1 5 rfl rfl)
theorem dX0_item_30 : decode cX0_item 30 = .ok (.invokevirtual 533, 3) := dk_182 2 21 (dk_at dksX0_item_1 6 rfl rfl)
theorem dX0_item_33 : decode cX0_item 33 = .ok (.ireturn, 1) := dk_172 (dk_at dksX0_item_1 9 rfl rfl)
theorem dX0_item_34 : decode cX0_item 34 = .ok (.astore 4, 2) := dk_58 4 (dk_at dksX0_item_1 10 rfl rfl)
theorem dX0_item_36 : decode cX0_item 36 = .ok (.bipush (-13), 2) := dk_16 243 (dk_at dksX0_item_1 12 rfl rfl)
theorem dX0_item_38 : decode cX0_item 38 = .ok (.ireturn, 1) := dk_172 (dk_at dksX0_item_1 14 rfl rfl)
theorem dX0_item_39 : decode cX0_item 39 = .ok (.astore 4, 2) := dk_58 4 (dk_at dksX0_item_1 15 rfl rfl)
theorem dX0_item_41 : decode cX0_item 41 = .ok (.bipush (-11), 2) := dk_16 245 (dk_at dksX0_item_1 17 rfl rfl)
theorem dX0_item_43 : decode cX0_item 43 = .ok (.ireturn, 1) := dk_172 (dk_at dksX0_item_1 19 rfl rfl)
theorem dX0_item_44 : decode cX0_item 44 = .ok (.astore 4, 2) := dk_58 4 (dk_at dksX0_item_1 20 rfl rfl)
theorem dX0_item_46 : decode cX0_item 46 = .ok (.aload 4, 2) := dk_25 4 (dk_at dksX0_item_1 22 rfl rfl)
theorem dX0_item_48 : decode cX0_item 48 = .ok (.getfield 497, 3) := dk_180 1 241 (dk_at dksX0_item_2 0 rfl rfl)
theorem dX0_item_51 : decode cX0_item 51 = .ok (.ireturn, 1) := dk_172 (dk_at dksX0_item_2 3 rfl rfl)
abbrev cX0_itemOf : ByteArray := prog_1_method_97_code
def yX0_itemOf : MethodName := ⟨RX0, "itemOf", "(Ljava/lang/Object;II)I"⟩
def dkwX0_itemOf_3 : List UInt8 := [192, 2, 10, 29, 47, 136, 172]
abbrev dktX0_itemOf_3 : List UInt8 := dkwX0_itemOf_3 ++ []
def dkwX0_itemOf_2 : List UInt8 := [43, 192, 2, 7, 29, 51, 172, 43, 192, 2, 8, 29, 53, 172, 43, 192, 1, 226, 29, 46, 172, 43]
abbrev dktX0_itemOf_2 : List UInt8 := dkwX0_itemOf_2 ++ dktX0_itemOf_3
def dkwX0_itemOf_1 : List UInt8 := [170, 0, 0, 0, 46, 0, 0, 0, 0, 0, 0, 0, 2, 0, 0, 0, 25, 0, 0, 0, 32, 0, 0, 0, 39]
abbrev dktX0_itemOf_1 : List UInt8 := dkwX0_itemOf_1 ++ dktX0_itemOf_2
def dkwX0_itemOf_0 : List UInt8 := [42, 29, 3, 43, 28, 184, 2, 17, 4, 100, 184, 0, 130, 16, 244, 182, 1, 227, 28]
abbrev dktX0_itemOf_0 : List UInt8 := dkwX0_itemOf_0 ++ dktX0_itemOf_1
theorem dksX0_itemOf_0 : cX0_itemOf.data.toList.drop 0 = dktX0_itemOf_0 := by decide +kernel
theorem dksX0_itemOf_1 : cX0_itemOf.data.toList.drop 19 = dktX0_itemOf_1 := dk_seg dksX0_itemOf_0 19 rfl rfl
theorem dksX0_itemOf_2 : cX0_itemOf.data.toList.drop 44 = dktX0_itemOf_2 := dk_seg dksX0_itemOf_1 25 rfl rfl
theorem dksX0_itemOf_3 : cX0_itemOf.data.toList.drop 66 = dktX0_itemOf_3 := dk_seg dksX0_itemOf_2 22 rfl rfl
theorem dX0_itemOf_0 : decode cX0_itemOf 0 = .ok (.aload_n 0, 1) := dk_42 (dk_at dksX0_itemOf_0 0 rfl rfl)
theorem dX0_itemOf_1 : decode cX0_itemOf 1 = .ok (.iload_n 3, 1) := dk_29 (dk_at dksX0_itemOf_0 1 rfl rfl)
theorem dX0_itemOf_2 : decode cX0_itemOf 2 = .ok (.iconst 0, 1) := dk_3 (dk_at dksX0_itemOf_0 2 rfl rfl)
theorem dX0_itemOf_3 : decode cX0_itemOf 3 = .ok (.aload_n 1, 1) := dk_43 (dk_at dksX0_itemOf_0 3 rfl rfl)
theorem dX0_itemOf_4 : decode cX0_itemOf 4 = .ok (.iload_n 2, 1) := dk_28 (dk_at dksX0_itemOf_0 4 rfl rfl)
theorem dX0_itemOf_5 : decode cX0_itemOf 5 = .ok (.invokestatic 529, 3) := dk_184 2 17 (dk_at dksX0_itemOf_0 5 rfl rfl)
theorem dX0_itemOf_8 : decode cX0_itemOf 8 = .ok (.iconst 1, 1) := dk_4 (dk_at dksX0_itemOf_0 8 rfl rfl)
theorem dX0_itemOf_9 : decode cX0_itemOf 9 = .ok (.isub, 1) := dk_100 (dk_at dksX0_itemOf_0 9 rfl rfl)
theorem dX0_itemOf_10 : decode cX0_itemOf 10 = .ok (.invokestatic 130, 3) := dk_184 0 130 (dk_at dksX0_itemOf_0 10 rfl rfl)
theorem dX0_itemOf_13 : decode cX0_itemOf 13 = .ok (.bipush (-12), 2) := dk_16 244 (dk_at dksX0_itemOf_0 13 rfl rfl)
theorem dX0_itemOf_15 : decode cX0_itemOf 15 = .ok (.invokevirtual 483, 3) := dk_182 1 227 (dk_at dksX0_itemOf_0 15 rfl rfl)
theorem dX0_itemOf_18 : decode cX0_itemOf 18 = .ok (.iload_n 2, 1) := dk_28 (dk_at dksX0_itemOf_0 18 rfl rfl)
theorem dX0_itemOf_19 : decode cX0_itemOf 19 = .ok (.tableswitch 46 0 2 #[25, 32, 39], 25) := by decide +kernel
theorem dX0_itemOf_44 : decode cX0_itemOf 44 = .ok (.aload_n 1, 1) := dk_43 (dk_at dksX0_itemOf_2 0 rfl rfl)
theorem dX0_itemOf_45 : decode cX0_itemOf 45 = .ok (.checkcast 519, 3) := dk_192 2 7 (dk_at dksX0_itemOf_2 1 rfl rfl)
theorem dX0_itemOf_48 : decode cX0_itemOf 48 = .ok (.iload_n 3, 1) := dk_29 (dk_at dksX0_itemOf_2 4 rfl rfl)
theorem dX0_itemOf_49 : decode cX0_itemOf 49 = .ok (.baload, 1) := dk_51 (dk_at dksX0_itemOf_2 5 rfl rfl)
theorem dX0_itemOf_50 : decode cX0_itemOf 50 = .ok (.ireturn, 1) := dk_172 (dk_at dksX0_itemOf_2 6 rfl rfl)
theorem dX0_itemOf_51 : decode cX0_itemOf 51 = .ok (.aload_n 1, 1) := dk_43 (dk_at dksX0_itemOf_2 7 rfl rfl)
theorem dX0_itemOf_52 : decode cX0_itemOf 52 = .ok (.checkcast 520, 3) := dk_192 2 8 (dk_at dksX0_itemOf_2 8 rfl rfl)
theorem dX0_itemOf_55 : decode cX0_itemOf 55 = .ok (.iload_n 3, 1) := dk_29 (dk_at dksX0_itemOf_2 11 rfl rfl)
theorem dX0_itemOf_56 : decode cX0_itemOf 56 = .ok (.saload, 1) := dk_53 (dk_at dksX0_itemOf_2 12 rfl rfl)
theorem dX0_itemOf_57 : decode cX0_itemOf 57 = .ok (.ireturn, 1) := dk_172 (dk_at dksX0_itemOf_2 13 rfl rfl)
theorem dX0_itemOf_58 : decode cX0_itemOf 58 = .ok (.aload_n 1, 1) := dk_43 (dk_at dksX0_itemOf_2 14 rfl rfl)
theorem dX0_itemOf_59 : decode cX0_itemOf 59 = .ok (.checkcast 482, 3) := dk_192 1 226 (dk_at dksX0_itemOf_2 15 rfl rfl)
theorem dX0_itemOf_62 : decode cX0_itemOf 62 = .ok (.iload_n 3, 1) := dk_29 (dk_at dksX0_itemOf_2 18 rfl rfl)
theorem dX0_itemOf_63 : decode cX0_itemOf 63 = .ok (.iaload, 1) := dk_46 (dk_at dksX0_itemOf_2 19 rfl rfl)
theorem dX0_itemOf_64 : decode cX0_itemOf 64 = .ok (.ireturn, 1) := dk_172 (dk_at dksX0_itemOf_2 20 rfl rfl)
theorem dX0_itemOf_65 : decode cX0_itemOf 65 = .ok (.aload_n 1, 1) := dk_43 (dk_at dksX0_itemOf_2 21 rfl rfl)
theorem dX0_itemOf_66 : decode cX0_itemOf 66 = .ok (.checkcast 522, 3) := dk_192 2 10 (dk_at dksX0_itemOf_3 0 rfl rfl)
theorem dX0_itemOf_69 : decode cX0_itemOf 69 = .ok (.iload_n 3, 1) := dk_29 (dk_at dksX0_itemOf_3 3 rfl rfl)
theorem dX0_itemOf_70 : decode cX0_itemOf 70 = .ok (.laload, 1) := dk_47 (dk_at dksX0_itemOf_3 4 rfl rfl)
theorem dX0_itemOf_71 : decode cX0_itemOf 71 = .ok (.l2i, 1) := dk_136 (dk_at dksX0_itemOf_3 5 rfl rfl)
theorem dX0_itemOf_72 : decode cX0_itemOf 72 = .ok (.ireturn, 1) := dk_172 (dk_at dksX0_itemOf_3 6 rfl rfl)
abbrev cX0_manyOf : ByteArray := prog_1_method_96_code
def yX0_manyOf : MethodName := ⟨RX0, "manyOf", "(Ljava/lang/Object;I)I"⟩
def dkwX0_manyOf_2 : List UInt8 := [42, 192, 2, 7, 190, 172, 42, 192, 2, 8, 190, 172, 42, 192, 1, 226, 190, 172, 42, 192, 2, 10, 190, 172]
abbrev dktX0_manyOf_2 : List UInt8 := dkwX0_manyOf_2 ++ []
def dkwX0_manyOf_1 : List UInt8 := [170, 0, 0, 0, 0, 0, 45, 0, 0, 0, 0, 0, 0, 0, 2, 0, 0, 0, 27, 0, 0, 0, 33, 0, 0, 0, 39]
abbrev dktX0_manyOf_1 : List UInt8 := dkwX0_manyOf_1 ++ dktX0_manyOf_2
def dkwX0_manyOf_0 : List UInt8 := [27]
abbrev dktX0_manyOf_0 : List UInt8 := dkwX0_manyOf_0 ++ dktX0_manyOf_1
theorem dksX0_manyOf_0 : cX0_manyOf.data.toList.drop 0 = dktX0_manyOf_0 := by decide +kernel
theorem dksX0_manyOf_1 : cX0_manyOf.data.toList.drop 1 = dktX0_manyOf_1 := dk_seg dksX0_manyOf_0 1 rfl rfl
theorem dksX0_manyOf_2 : cX0_manyOf.data.toList.drop 28 = dktX0_manyOf_2 := dk_seg dksX0_manyOf_1 27 rfl rfl
theorem dX0_manyOf_0 : decode cX0_manyOf 0 = .ok (.iload_n 1, 1) := dk_27 (dk_at dksX0_manyOf_0 0 rfl rfl)
theorem dX0_manyOf_1 : decode cX0_manyOf 1 = .ok (.tableswitch 45 0 2 #[27, 33, 39], 27) := by decide +kernel
theorem dX0_manyOf_28 : decode cX0_manyOf 28 = .ok (.aload_n 0, 1) := dk_42 (dk_at dksX0_manyOf_2 0 rfl rfl)
theorem dX0_manyOf_29 : decode cX0_manyOf 29 = .ok (.checkcast 519, 3) := dk_192 2 7 (dk_at dksX0_manyOf_2 1 rfl rfl)
theorem dX0_manyOf_32 : decode cX0_manyOf 32 = .ok (.arraylength, 1) := dk_190 (dk_at dksX0_manyOf_2 4 rfl rfl)
theorem dX0_manyOf_33 : decode cX0_manyOf 33 = .ok (.ireturn, 1) := dk_172 (dk_at dksX0_manyOf_2 5 rfl rfl)
theorem dX0_manyOf_34 : decode cX0_manyOf 34 = .ok (.aload_n 0, 1) := dk_42 (dk_at dksX0_manyOf_2 6 rfl rfl)
theorem dX0_manyOf_35 : decode cX0_manyOf 35 = .ok (.checkcast 520, 3) := dk_192 2 8 (dk_at dksX0_manyOf_2 7 rfl rfl)
theorem dX0_manyOf_38 : decode cX0_manyOf 38 = .ok (.arraylength, 1) := dk_190 (dk_at dksX0_manyOf_2 10 rfl rfl)
theorem dX0_manyOf_39 : decode cX0_manyOf 39 = .ok (.ireturn, 1) := dk_172 (dk_at dksX0_manyOf_2 11 rfl rfl)
theorem dX0_manyOf_40 : decode cX0_manyOf 40 = .ok (.aload_n 0, 1) := dk_42 (dk_at dksX0_manyOf_2 12 rfl rfl)
theorem dX0_manyOf_41 : decode cX0_manyOf 41 = .ok (.checkcast 482, 3) := dk_192 1 226 (dk_at dksX0_manyOf_2 13 rfl rfl)
theorem dX0_manyOf_44 : decode cX0_manyOf 44 = .ok (.arraylength, 1) := dk_190 (dk_at dksX0_manyOf_2 16 rfl rfl)
theorem dX0_manyOf_45 : decode cX0_manyOf 45 = .ok (.ireturn, 1) := dk_172 (dk_at dksX0_manyOf_2 17 rfl rfl)
theorem dX0_manyOf_46 : decode cX0_manyOf 46 = .ok (.aload_n 0, 1) := dk_42 (dk_at dksX0_manyOf_2 18 rfl rfl)
theorem dX0_manyOf_47 : decode cX0_manyOf 47 = .ok (.checkcast 522, 3) := dk_192 2 10 (dk_at dksX0_manyOf_2 19 rfl rfl)
theorem dX0_manyOf_50 : decode cX0_manyOf 50 = .ok (.arraylength, 1) := dk_190 (dk_at dksX0_manyOf_2 22 rfl rfl)
theorem dX0_manyOf_51 : decode cX0_manyOf 51 = .ok (.ireturn, 1) := dk_172 (dk_at dksX0_manyOf_2 23 rfl rfl)
abbrev cX0_move : ByteArray := prog_1_method_99_code
def yX0_move : MethodName := ⟨RX0, "move", "(IIIII)I"⟩
def dkwX0_move_2 : List UInt8 := [58, 6, 16, 245, 172, 58, 6, 16, 243, 172, 58, 6, 16, 244, 172]
abbrev dktX0_move_2 : List UInt8 := dkwX0_move_2 ++ []
def dkwX0_move_1 : List UInt8 := [180, 1, 214, 28, 42, 180, 0, 116, 29, 50, 180, 1, 214, 21, 4, 21, 5, 184, 2, 27, 21, 5, 172]
abbrev dktX0_move_1 : List UInt8 := dkwX0_move_1 ++ dktX0_move_2
def dkwX0_move_0 : List UInt8 := [27, 184, 1, 203, 153, 0, 10, 29, 184, 1, 203, 154, 0, 5, 2, 172, 42, 180, 0, 116, 27, 50]
abbrev dktX0_move_0 : List UInt8 := dkwX0_move_0 ++ dktX0_move_1
theorem dksX0_move_0 : cX0_move.data.toList.drop 0 = dktX0_move_0 := by decide +kernel
theorem dksX0_move_1 : cX0_move.data.toList.drop 22 = dktX0_move_1 := dk_seg dksX0_move_0 22 rfl rfl
theorem dksX0_move_2 : cX0_move.data.toList.drop 45 = dktX0_move_2 := dk_seg dksX0_move_1 23 rfl rfl
theorem dX0_move_0 : decode cX0_move 0 = .ok (.iload_n 1, 1) := dk_27 (dk_at dksX0_move_0 0 rfl rfl)
theorem dX0_move_1 : decode cX0_move 1 = .ok (.invokestatic 459, 3) := dk_184 1 203 (dk_at dksX0_move_0 1 rfl rfl)
theorem dX0_move_4 : decode cX0_move 4 = .ok (.ifCond .eq 10, 3) := dk_153 0 10 (dk_at dksX0_move_0 4 rfl rfl)
theorem dX0_move_7 : decode cX0_move 7 = .ok (.iload_n 3, 1) := dk_29 (dk_at dksX0_move_0 7 rfl rfl)
theorem dX0_move_8 : decode cX0_move 8 = .ok (.invokestatic 459, 3) := dk_184 1 203 (dk_at dksX0_move_0 8 rfl rfl)
theorem dX0_move_11 : decode cX0_move 11 = .ok (.ifCond .ne 5, 3) := dk_154 0 5 (dk_at dksX0_move_0 11 rfl rfl)
theorem dX0_move_14 : decode cX0_move 14 = .ok (.iconst (-1), 1) := dk_2 (dk_at dksX0_move_0 14 rfl rfl)
theorem dX0_move_15 : decode cX0_move 15 = .ok (.ireturn, 1) := dk_172 (dk_at dksX0_move_0 15 rfl rfl)
theorem dX0_move_16 : decode cX0_move 16 = .ok (.aload_n 0, 1) := dk_42 (dk_at dksX0_move_0 16 rfl rfl)
theorem dX0_move_17 : decode cX0_move 17 = .ok (.getfield 116, 3) := dk_180 0 116 (dk_at dksX0_move_0 17 rfl rfl)
theorem dX0_move_20 : decode cX0_move 20 = .ok (.iload_n 1, 1) := dk_27 (dk_at dksX0_move_0 20 rfl rfl)
theorem dX0_move_21 : decode cX0_move 21 = .ok (.aaload, 1) := dk_50 (dk_at dksX0_move_0 21 rfl rfl)
theorem dX0_move_22 : decode cX0_move 22 = .ok (.getfield 470, 3) := dk_180 1 214 (dk_at dksX0_move_1 0 rfl rfl)
theorem dX0_move_25 : decode cX0_move 25 = .ok (.iload_n 2, 1) := dk_28 (dk_at dksX0_move_1 3 rfl rfl)
theorem dX0_move_26 : decode cX0_move 26 = .ok (.aload_n 0, 1) := dk_42 (dk_at dksX0_move_1 4 rfl rfl)
theorem dX0_move_27 : decode cX0_move 27 = .ok (.getfield 116, 3) := dk_180 0 116 (dk_at dksX0_move_1 5 rfl rfl)
theorem dX0_move_30 : decode cX0_move 30 = .ok (.iload_n 3, 1) := dk_29 (dk_at dksX0_move_1 8 rfl rfl)
theorem dX0_move_31 : decode cX0_move 31 = .ok (.aaload, 1) := dk_50 (dk_at dksX0_move_1 9 rfl rfl)
theorem dX0_move_32 : decode cX0_move 32 = .ok (.getfield 470, 3) := dk_180 1 214 (dk_at dksX0_move_1 10 rfl rfl)
theorem dX0_move_35 : decode cX0_move 35 = .ok (.iload 4, 2) := dk_21 4 (dk_at dksX0_move_1 13 rfl rfl)
theorem dX0_move_37 : decode cX0_move 37 = .ok (.iload 5, 2) := dk_21 5 (dk_at dksX0_move_1 15 rfl rfl)
theorem dX0_move_39 : decode cX0_move 39 = .ok (.invokestatic 539, 3) := dk_184 2 27 (dk_at dksX0_move_1 17 rfl rfl)
theorem dX0_move_42 : decode cX0_move 42 = .ok (.iload 5, 2) := dk_21 5 (dk_at dksX0_move_1 20 rfl rfl)
theorem dX0_move_44 : decode cX0_move 44 = .ok (.ireturn, 1) := dk_172 (dk_at dksX0_move_1 22 rfl rfl)
theorem dX0_move_45 : decode cX0_move 45 = .ok (.astore 6, 2) := dk_58 6 (dk_at dksX0_move_2 0 rfl rfl)
theorem dX0_move_47 : decode cX0_move 47 = .ok (.bipush (-11), 2) := dk_16 245 (dk_at dksX0_move_2 2 rfl rfl)
theorem dX0_move_49 : decode cX0_move 49 = .ok (.ireturn, 1) := dk_172 (dk_at dksX0_move_2 4 rfl rfl)
theorem dX0_move_50 : decode cX0_move 50 = .ok (.astore 6, 2) := dk_58 6 (dk_at dksX0_move_2 5 rfl rfl)
theorem dX0_move_52 : decode cX0_move 52 = .ok (.bipush (-13), 2) := dk_16 243 (dk_at dksX0_move_2 7 rfl rfl)
theorem dX0_move_54 : decode cX0_move 54 = .ok (.ireturn, 1) := dk_172 (dk_at dksX0_move_2 9 rfl rfl)
theorem dX0_move_55 : decode cX0_move 55 = .ok (.astore 6, 2) := dk_58 6 (dk_at dksX0_move_2 10 rfl rfl)
theorem dX0_move_57 : decode cX0_move 57 = .ok (.bipush (-12), 2) := dk_16 244 (dk_at dksX0_move_2 12 rfl rfl)
theorem dX0_move_59 : decode cX0_move 59 = .ok (.ireturn, 1) := dk_172 (dk_at dksX0_move_2 14 rfl rfl)
abbrev cX0_shelf : ByteArray := prog_1_method_101_code
def yX0_shelf : MethodName := ⟨RX0, "shelf", "(III)I"⟩
def dkwX0_shelf_3 : List UInt8 := [180, 0, 116, 29, 50, 180, 1, 214, 167, 0, 4, 1, 181, 1, 214, 4, 172]
abbrev dktX0_shelf_3 : List UInt8 := dkwX0_shelf_3 ++ []
def dkwX0_shelf_2 : List UInt8 := [27, 50, 28, 154, 0, 14, 187, 2, 37, 89, 29, 183, 2, 39, 167, 0, 21, 28, 4, 160, 0, 15, 42]
abbrev dktX0_shelf_2 : List UInt8 := dkwX0_shelf_2 ++ dktX0_shelf_3
def dkwX0_shelf_1 : List UInt8 := [184, 1, 203, 153, 0, 15, 28, 154, 0, 13, 42, 29, 182, 1, 148, 154, 0, 5, 2, 172, 42, 180, 0, 112]
abbrev dktX0_shelf_1 : List UInt8 := dkwX0_shelf_1 ++ dktX0_shelf_2
def dkwX0_shelf_0 : List UInt8 := [27, 184, 1, 203, 153, 0, 36, 28, 3, 5, 184, 0, 130, 153, 0, 27, 28, 4, 160, 0, 10, 29]
abbrev dktX0_shelf_0 : List UInt8 := dkwX0_shelf_0 ++ dktX0_shelf_1
theorem dksX0_shelf_0 : cX0_shelf.data.toList.drop 0 = dktX0_shelf_0 := by decide +kernel
theorem dksX0_shelf_1 : cX0_shelf.data.toList.drop 22 = dktX0_shelf_1 := dk_seg dksX0_shelf_0 22 rfl rfl
theorem dksX0_shelf_2 : cX0_shelf.data.toList.drop 46 = dktX0_shelf_2 := dk_seg dksX0_shelf_1 24 rfl rfl
theorem dksX0_shelf_3 : cX0_shelf.data.toList.drop 69 = dktX0_shelf_3 := dk_seg dksX0_shelf_2 23 rfl rfl
theorem dX0_shelf_0 : decode cX0_shelf 0 = .ok (.iload_n 1, 1) := dk_27 (dk_at dksX0_shelf_0 0 rfl rfl)
theorem dX0_shelf_1 : decode cX0_shelf 1 = .ok (.invokestatic 459, 3) := dk_184 1 203 (dk_at dksX0_shelf_0 1 rfl rfl)
theorem dX0_shelf_4 : decode cX0_shelf 4 = .ok (.ifCond .eq 36, 3) := dk_153 0 36 (dk_at dksX0_shelf_0 4 rfl rfl)
theorem dX0_shelf_7 : decode cX0_shelf 7 = .ok (.iload_n 2, 1) := dk_28 (dk_at dksX0_shelf_0 7 rfl rfl)
theorem dX0_shelf_8 : decode cX0_shelf 8 = .ok (.iconst 0, 1) := dk_3 (dk_at dksX0_shelf_0 8 rfl rfl)
theorem dX0_shelf_9 : decode cX0_shelf 9 = .ok (.iconst 2, 1) := dk_5 (dk_at dksX0_shelf_0 9 rfl rfl)
theorem dX0_shelf_10 : decode cX0_shelf 10 = .ok (.invokestatic 130, 3) := dk_184 0 130 (dk_at dksX0_shelf_0 10 rfl rfl)
theorem dX0_shelf_13 : decode cX0_shelf 13 = .ok (.ifCond .eq 27, 3) := dk_153 0 27 (dk_at dksX0_shelf_0 13 rfl rfl)
theorem dX0_shelf_16 : decode cX0_shelf 16 = .ok (.iload_n 2, 1) := dk_28 (dk_at dksX0_shelf_0 16 rfl rfl)
theorem dX0_shelf_17 : decode cX0_shelf 17 = .ok (.iconst 1, 1) := dk_4 (dk_at dksX0_shelf_0 17 rfl rfl)
theorem dX0_shelf_18 : decode cX0_shelf 18 = .ok (.if_icmp .ne 10, 3) := dk_160 0 10 (dk_at dksX0_shelf_0 18 rfl rfl)
theorem dX0_shelf_21 : decode cX0_shelf 21 = .ok (.iload_n 3, 1) := dk_29 (dk_at dksX0_shelf_0 21 rfl rfl)
theorem dX0_shelf_22 : decode cX0_shelf 22 = .ok (.invokestatic 459, 3) := dk_184 1 203 (dk_at dksX0_shelf_1 0 rfl rfl)
theorem dX0_shelf_25 : decode cX0_shelf 25 = .ok (.ifCond .eq 15, 3) := dk_153 0 15 (dk_at dksX0_shelf_1 3 rfl rfl)
theorem dX0_shelf_28 : decode cX0_shelf 28 = .ok (.iload_n 2, 1) := dk_28 (dk_at dksX0_shelf_1 6 rfl rfl)
theorem dX0_shelf_29 : decode cX0_shelf 29 = .ok (.ifCond .ne 13, 3) := dk_154 0 13 (dk_at dksX0_shelf_1 7 rfl rfl)
theorem dX0_shelf_32 : decode cX0_shelf 32 = .ok (.aload_n 0, 1) := dk_42 (dk_at dksX0_shelf_1 10 rfl rfl)
theorem dX0_shelf_33 : decode cX0_shelf 33 = .ok (.iload_n 3, 1) := dk_29 (dk_at dksX0_shelf_1 11 rfl rfl)
theorem dX0_shelf_34 : decode cX0_shelf 34 = .ok (.invokevirtual 404, 3) := dk_182 1 148 (dk_at dksX0_shelf_1 12 rfl rfl)
theorem dX0_shelf_37 : decode cX0_shelf 37 = .ok (.ifCond .ne 5, 3) := dk_154 0 5 (dk_at dksX0_shelf_1 15 rfl rfl)
theorem dX0_shelf_40 : decode cX0_shelf 40 = .ok (.iconst (-1), 1) := dk_2 (dk_at dksX0_shelf_1 18 rfl rfl)
theorem dX0_shelf_41 : decode cX0_shelf 41 = .ok (.ireturn, 1) := dk_172 (dk_at dksX0_shelf_1 19 rfl rfl)
theorem dX0_shelf_42 : decode cX0_shelf 42 = .ok (.aload_n 0, 1) := dk_42 (dk_at dksX0_shelf_1 20 rfl rfl)
theorem dX0_shelf_43 : decode cX0_shelf 43 = .ok (.getfield 112, 3) := dk_180 0 112 (dk_at dksX0_shelf_1 21 rfl rfl)
theorem dX0_shelf_46 : decode cX0_shelf 46 = .ok (.iload_n 1, 1) := dk_27 (dk_at dksX0_shelf_2 0 rfl rfl)
theorem dX0_shelf_47 : decode cX0_shelf 47 = .ok (.aaload, 1) := dk_50 (dk_at dksX0_shelf_2 1 rfl rfl)
theorem dX0_shelf_48 : decode cX0_shelf 48 = .ok (.iload_n 2, 1) := dk_28 (dk_at dksX0_shelf_2 2 rfl rfl)
theorem dX0_shelf_49 : decode cX0_shelf 49 = .ok (.ifCond .ne 14, 3) := dk_154 0 14 (dk_at dksX0_shelf_2 3 rfl rfl)
theorem dX0_shelf_52 : decode cX0_shelf 52 = .ok (.new 549, 3) := dk_187 2 37 (dk_at dksX0_shelf_2 6 rfl rfl)
theorem dX0_shelf_55 : decode cX0_shelf 55 = .ok (.dup, 1) := dk_89 (dk_at dksX0_shelf_2 9 rfl rfl)
theorem dX0_shelf_56 : decode cX0_shelf 56 = .ok (.iload_n 3, 1) := dk_29 (dk_at dksX0_shelf_2 10 rfl rfl)
theorem dX0_shelf_57 : decode cX0_shelf 57 = .ok (.invokespecial 551, 3) := dk_183 2 39 (dk_at dksX0_shelf_2 11 rfl rfl)
theorem dX0_shelf_60 : decode cX0_shelf 60 = .ok (.goto 21, 3) := dk_167 0 21 (dk_at dksX0_shelf_2 14 rfl rfl)
theorem dX0_shelf_63 : decode cX0_shelf 63 = .ok (.iload_n 2, 1) := dk_28 (dk_at dksX0_shelf_2 17 rfl rfl)
theorem dX0_shelf_64 : decode cX0_shelf 64 = .ok (.iconst 1, 1) := dk_4 (dk_at dksX0_shelf_2 18 rfl rfl)
theorem dX0_shelf_65 : decode cX0_shelf 65 = .ok (.if_icmp .ne 15, 3) := dk_160 0 15 (dk_at dksX0_shelf_2 19 rfl rfl)
theorem dX0_shelf_68 : decode cX0_shelf 68 = .ok (.aload_n 0, 1) := dk_42 (dk_at dksX0_shelf_2 22 rfl rfl)
theorem dX0_shelf_69 : decode cX0_shelf 69 = .ok (.getfield 116, 3) := dk_180 0 116 (dk_at dksX0_shelf_3 0 rfl rfl)
theorem dX0_shelf_72 : decode cX0_shelf 72 = .ok (.iload_n 3, 1) := dk_29 (dk_at dksX0_shelf_3 3 rfl rfl)
theorem dX0_shelf_73 : decode cX0_shelf 73 = .ok (.aaload, 1) := dk_50 (dk_at dksX0_shelf_3 4 rfl rfl)
theorem dX0_shelf_74 : decode cX0_shelf 74 = .ok (.getfield 470, 3) := dk_180 1 214 (dk_at dksX0_shelf_3 5 rfl rfl)
theorem dX0_shelf_77 : decode cX0_shelf 77 = .ok (.goto 4, 3) := dk_167 0 4 (dk_at dksX0_shelf_3 8 rfl rfl)
theorem dX0_shelf_80 : decode cX0_shelf 80 = .ok (.aconst_null, 1) := dk_1 (dk_at dksX0_shelf_3 11 rfl rfl)
theorem dX0_shelf_81 : decode cX0_shelf 81 = .ok (.putfield 470, 3) := dk_181 1 214 (dk_at dksX0_shelf_3 12 rfl rfl)
theorem dX0_shelf_84 : decode cX0_shelf 84 = .ok (.iconst 1, 1) := dk_4 (dk_at dksX0_shelf_3 15 rfl rfl)
theorem dX0_shelf_85 : decode cX0_shelf 85 = .ok (.ireturn, 1) := dk_172 (dk_at dksX0_shelf_3 16 rfl rfl)
abbrev cX0_taken : ByteArray := prog_1_method_105_code
def yX0_taken : MethodName := ⟨RX0, "taken", "(II)I"⟩
def dkwX0_taken_2 : List UInt8 := [16, 245, 172]
abbrev dktX0_taken_2 : List UInt8 := dkwX0_taken_2 ++ []
def dkwX0_taken_1 : List UInt8 := [184, 0, 130, 154, 0, 5, 2, 172, 42, 27, 182, 2, 54, 28, 184, 2, 57, 172, 78, 16, 243, 172, 78]
abbrev dktX0_taken_1 : List UInt8 := dkwX0_taken_1 ++ dktX0_taken_2
def dkwX0_taken_0 : List UInt8 := [27, 184, 1, 203, 153, 0, 24, 28, 3, 16, 6, 184, 0, 130, 154, 0, 16, 28, 16, 10, 16, 13]
abbrev dktX0_taken_0 : List UInt8 := dkwX0_taken_0 ++ dktX0_taken_1
theorem dksX0_taken_0 : cX0_taken.data.toList.drop 0 = dktX0_taken_0 := by decide +kernel
theorem dksX0_taken_1 : cX0_taken.data.toList.drop 22 = dktX0_taken_1 := dk_seg dksX0_taken_0 22 rfl rfl
theorem dksX0_taken_2 : cX0_taken.data.toList.drop 45 = dktX0_taken_2 := dk_seg dksX0_taken_1 23 rfl rfl
theorem dX0_taken_0 : decode cX0_taken 0 = .ok (.iload_n 1, 1) := dk_27 (dk_at dksX0_taken_0 0 rfl rfl)
theorem dX0_taken_1 : decode cX0_taken 1 = .ok (.invokestatic 459, 3) := dk_184 1 203 (dk_at dksX0_taken_0 1 rfl rfl)
theorem dX0_taken_4 : decode cX0_taken 4 = .ok (.ifCond .eq 24, 3) := dk_153 0 24 (dk_at dksX0_taken_0 4 rfl rfl)
theorem dX0_taken_7 : decode cX0_taken 7 = .ok (.iload_n 2, 1) := dk_28 (dk_at dksX0_taken_0 7 rfl rfl)
theorem dX0_taken_8 : decode cX0_taken 8 = .ok (.iconst 0, 1) := dk_3 (dk_at dksX0_taken_0 8 rfl rfl)
theorem dX0_taken_9 : decode cX0_taken 9 = .ok (.bipush 6, 2) := dk_16 6 (dk_at dksX0_taken_0 9 rfl rfl)
theorem dX0_taken_11 : decode cX0_taken 11 = .ok (.invokestatic 130, 3) := dk_184 0 130 (dk_at dksX0_taken_0 11 rfl rfl)
theorem dX0_taken_14 : decode cX0_taken 14 = .ok (.ifCond .ne 16, 3) := dk_154 0 16 (dk_at dksX0_taken_0 14 rfl rfl)
theorem dX0_taken_17 : decode cX0_taken 17 = .ok (.iload_n 2, 1) := dk_28 (dk_at dksX0_taken_0 17 rfl rfl)
theorem dX0_taken_18 : decode cX0_taken 18 = .ok (.bipush 10, 2) := dk_16 10 (dk_at dksX0_taken_0 18 rfl rfl)
theorem dX0_taken_20 : decode cX0_taken 20 = .ok (.bipush 13, 2) := dk_16 13 (dk_at dksX0_taken_0 20 rfl rfl)
theorem dX0_taken_22 : decode cX0_taken 22 = .ok (.invokestatic 130, 3) := dk_184 0 130 (dk_at dksX0_taken_1 0 rfl rfl)
theorem dX0_taken_25 : decode cX0_taken 25 = .ok (.ifCond .ne 5, 3) := dk_154 0 5 (dk_at dksX0_taken_1 3 rfl rfl)
theorem dX0_taken_28 : decode cX0_taken 28 = .ok (.iconst (-1), 1) := dk_2 (dk_at dksX0_taken_1 6 rfl rfl)
theorem dX0_taken_29 : decode cX0_taken 29 = .ok (.ireturn, 1) := dk_172 (dk_at dksX0_taken_1 7 rfl rfl)
theorem dX0_taken_30 : decode cX0_taken 30 = .ok (.aload_n 0, 1) := dk_42 (dk_at dksX0_taken_1 8 rfl rfl)
theorem dX0_taken_31 : decode cX0_taken 31 = .ok (.iload_n 1, 1) := dk_27 (dk_at dksX0_taken_1 9 rfl rfl)
theorem dX0_taken_32 : decode cX0_taken 32 = .ok (.invokevirtual 566, 3) := dk_182 2 54 (dk_at dksX0_taken_1 10 rfl rfl)
theorem dX0_taken_35 : decode cX0_taken 35 = .ok (.iload_n 2, 1) := dk_28 (dk_at dksX0_taken_1 13 rfl rfl)
theorem dX0_taken_36 : decode cX0_taken 36 = .ok (.invokestatic 569, 3) := dk_184 2 57 (dk_at dksX0_taken_1 14 rfl rfl)
theorem dX0_taken_39 : decode cX0_taken 39 = .ok (.ireturn, 1) := dk_172 (dk_at dksX0_taken_1 17 rfl rfl)
theorem dX0_taken_40 : decode cX0_taken 40 = .ok (.astore_n 3, 1) := dk_78 (dk_at dksX0_taken_1 18 rfl rfl)
theorem dX0_taken_41 : decode cX0_taken 41 = .ok (.bipush (-13), 2) := dk_16 243 (dk_at dksX0_taken_1 19 rfl rfl)
theorem dX0_taken_43 : decode cX0_taken 43 = .ok (.ireturn, 1) := dk_172 (dk_at dksX0_taken_1 21 rfl rfl)
theorem dX0_taken_44 : decode cX0_taken 44 = .ok (.astore_n 3, 1) := dk_78 (dk_at dksX0_taken_1 22 rfl rfl)
theorem dX0_taken_45 : decode cX0_taken 45 = .ok (.bipush (-11), 2) := dk_16 245 (dk_at dksX0_taken_2 0 rfl rfl)
theorem dX0_taken_47 : decode cX0_taken 47 = .ok (.ireturn, 1) := dk_172 (dk_at dksX0_taken_2 2 rfl rfl)
abbrev cX0_held : ByteArray := prog_1_method_102_code
def yX0_held : MethodName := ⟨RX0, "held", "(I)Ljava/lang/Object;"⟩
def dkwX0_held_1 : List UInt8 := [42, 45, 180, 2, 41, 182, 1, 148, 153, 0, 14, 42, 45, 180, 2, 41, 182, 2, 44, 167, 0, 4, 1, 176]
abbrev dktX0_held_1 : List UInt8 := dkwX0_held_1 ++ []
def dkwX0_held_0 : List UInt8 := [42, 180, 0, 112, 27, 50, 180, 1, 214, 77, 44, 193, 2, 37, 154, 0, 5, 44, 176, 44, 192, 2, 37, 78]
abbrev dktX0_held_0 : List UInt8 := dkwX0_held_0 ++ dktX0_held_1
theorem dksX0_held_0 : cX0_held.data.toList.drop 0 = dktX0_held_0 := by decide +kernel
theorem dksX0_held_1 : cX0_held.data.toList.drop 24 = dktX0_held_1 := dk_seg dksX0_held_0 24 rfl rfl
theorem dX0_held_0 : decode cX0_held 0 = .ok (.aload_n 0, 1) := dk_42 (dk_at dksX0_held_0 0 rfl rfl)
theorem dX0_held_1 : decode cX0_held 1 = .ok (.getfield 112, 3) := dk_180 0 112 (dk_at dksX0_held_0 1 rfl rfl)
theorem dX0_held_4 : decode cX0_held 4 = .ok (.iload_n 1, 1) := dk_27 (dk_at dksX0_held_0 4 rfl rfl)
theorem dX0_held_5 : decode cX0_held 5 = .ok (.aaload, 1) := dk_50 (dk_at dksX0_held_0 5 rfl rfl)
theorem dX0_held_6 : decode cX0_held 6 = .ok (.getfield 470, 3) := dk_180 1 214 (dk_at dksX0_held_0 6 rfl rfl)
theorem dX0_held_9 : decode cX0_held 9 = .ok (.astore_n 2, 1) := dk_77 (dk_at dksX0_held_0 9 rfl rfl)
theorem dX0_held_10 : decode cX0_held 10 = .ok (.aload_n 2, 1) := dk_44 (dk_at dksX0_held_0 10 rfl rfl)
theorem dX0_held_11 : decode cX0_held 11 = .ok (.instanceof 549, 3) := dk_193 2 37 (dk_at dksX0_held_0 11 rfl rfl)
theorem dX0_held_14 : decode cX0_held 14 = .ok (.ifCond .ne 5, 3) := dk_154 0 5 (dk_at dksX0_held_0 14 rfl rfl)
theorem dX0_held_17 : decode cX0_held 17 = .ok (.aload_n 2, 1) := dk_44 (dk_at dksX0_held_0 17 rfl rfl)
theorem dX0_held_18 : decode cX0_held 18 = .ok (.areturn, 1) := dk_176 (dk_at dksX0_held_0 18 rfl rfl)
theorem dX0_held_19 : decode cX0_held 19 = .ok (.aload_n 2, 1) := dk_44 (dk_at dksX0_held_0 19 rfl rfl)
theorem dX0_held_20 : decode cX0_held 20 = .ok (.checkcast 549, 3) := dk_192 2 37 (dk_at dksX0_held_0 20 rfl rfl)
theorem dX0_held_23 : decode cX0_held 23 = .ok (.astore_n 3, 1) := dk_78 (dk_at dksX0_held_0 23 rfl rfl)
theorem dX0_held_24 : decode cX0_held 24 = .ok (.aload_n 0, 1) := dk_42 (dk_at dksX0_held_1 0 rfl rfl)
theorem dX0_held_25 : decode cX0_held 25 = .ok (.aload_n 3, 1) := dk_45 (dk_at dksX0_held_1 1 rfl rfl)
theorem dX0_held_26 : decode cX0_held 26 = .ok (.getfield 553, 3) := dk_180 2 41 (dk_at dksX0_held_1 2 rfl rfl)
theorem dX0_held_29 : decode cX0_held 29 = .ok (.invokevirtual 404, 3) := dk_182 1 148 (dk_at dksX0_held_1 5 rfl rfl)
theorem dX0_held_32 : decode cX0_held 32 = .ok (.ifCond .eq 14, 3) := dk_153 0 14 (dk_at dksX0_held_1 8 rfl rfl)
theorem dX0_held_35 : decode cX0_held 35 = .ok (.aload_n 0, 1) := dk_42 (dk_at dksX0_held_1 11 rfl rfl)
theorem dX0_held_36 : decode cX0_held 36 = .ok (.aload_n 3, 1) := dk_45 (dk_at dksX0_held_1 12 rfl rfl)
theorem dX0_held_37 : decode cX0_held 37 = .ok (.getfield 553, 3) := dk_180 2 41 (dk_at dksX0_held_1 13 rfl rfl)
theorem dX0_held_40 : decode cX0_held 40 = .ok (.invokevirtual 556, 3) := dk_182 2 44 (dk_at dksX0_held_1 16 rfl rfl)
theorem dX0_held_43 : decode cX0_held 43 = .ok (.goto 4, 3) := dk_167 0 4 (dk_at dksX0_held_1 19 rfl rfl)
theorem dX0_held_46 : decode cX0_held 46 = .ok (.aconst_null, 1) := dk_1 (dk_at dksX0_held_1 22 rfl rfl)
theorem dX0_held_47 : decode cX0_held 47 = .ok (.areturn, 1) := dk_176 (dk_at dksX0_held_1 23 rfl rfl)
abbrev cX0_equationOf : ByteArray := prog_1_method_100_code
def yX0_equationOf : MethodName := ⟨RX0, "equationOf", "(I)LTwoSidedTables$Plain;"⟩
def dkwX0_equationOf_0 : List UInt8 := [42, 180, 0, 72, 27, 50, 176]
abbrev dktX0_equationOf_0 : List UInt8 := dkwX0_equationOf_0 ++ []
theorem dksX0_equationOf_0 : cX0_equationOf.data.toList.drop 0 = dktX0_equationOf_0 := by decide +kernel
theorem dX0_equationOf_0 : decode cX0_equationOf 0 = .ok (.aload_n 0, 1) := dk_42 (dk_at dksX0_equationOf_0 0 rfl rfl)
theorem dX0_equationOf_1 : decode cX0_equationOf 1 = .ok (.getfield 72, 3) := dk_180 0 72 (dk_at dksX0_equationOf_0 1 rfl rfl)
theorem dX0_equationOf_4 : decode cX0_equationOf 4 = .ok (.iload_n 1, 1) := dk_27 (dk_at dksX0_equationOf_0 4 rfl rfl)
theorem dX0_equationOf_5 : decode cX0_equationOf 5 = .ok (.aaload, 1) := dk_50 (dk_at dksX0_equationOf_0 5 rfl rfl)
theorem dX0_equationOf_6 : decode cX0_equationOf 6 = .ok (.areturn, 1) := dk_176 (dk_at dksX0_equationOf_0 6 rfl rfl)
abbrev cX0_takenAs : ByteArray := prog_1_method_104_code
def yX0_takenAs : MethodName := ⟨RX0, "takenAs", "(Ljava/lang/Object;I)I"⟩
def dkwX0_takenAs_1 : List UInt8 := [182, 2, 52, 172]
abbrev dktX0_takenAs_1 : List UInt8 := dkwX0_takenAs_1 ++ []
def dkwX0_takenAs_0 : List UInt8 := [27, 16, 10, 161, 0, 14, 42, 27, 16, 10, 100, 184, 2, 17, 167, 0, 11, 42, 27, 184, 2, 48]
abbrev dktX0_takenAs_0 : List UInt8 := dkwX0_takenAs_0 ++ dktX0_takenAs_1
theorem dksX0_takenAs_0 : cX0_takenAs.data.toList.drop 0 = dktX0_takenAs_0 := by decide +kernel
theorem dksX0_takenAs_1 : cX0_takenAs.data.toList.drop 22 = dktX0_takenAs_1 := dk_seg dksX0_takenAs_0 22 rfl rfl
theorem dX0_takenAs_0 : decode cX0_takenAs 0 = .ok (.iload_n 1, 1) := dk_27 (dk_at dksX0_takenAs_0 0 rfl rfl)
theorem dX0_takenAs_1 : decode cX0_takenAs 1 = .ok (.bipush 10, 2) := dk_16 10 (dk_at dksX0_takenAs_0 1 rfl rfl)
theorem dX0_takenAs_3 : decode cX0_takenAs 3 = .ok (.if_icmp .lt 14, 3) := dk_161 0 14 (dk_at dksX0_takenAs_0 3 rfl rfl)
theorem dX0_takenAs_6 : decode cX0_takenAs 6 = .ok (.aload_n 0, 1) := dk_42 (dk_at dksX0_takenAs_0 6 rfl rfl)
theorem dX0_takenAs_7 : decode cX0_takenAs 7 = .ok (.iload_n 1, 1) := dk_27 (dk_at dksX0_takenAs_0 7 rfl rfl)
theorem dX0_takenAs_8 : decode cX0_takenAs 8 = .ok (.bipush 10, 2) := dk_16 10 (dk_at dksX0_takenAs_0 8 rfl rfl)
theorem dX0_takenAs_10 : decode cX0_takenAs 10 = .ok (.isub, 1) := dk_100 (dk_at dksX0_takenAs_0 10 rfl rfl)
theorem dX0_takenAs_11 : decode cX0_takenAs 11 = .ok (.invokestatic 529, 3) := dk_184 2 17 (dk_at dksX0_takenAs_0 11 rfl rfl)
theorem dX0_takenAs_14 : decode cX0_takenAs 14 = .ok (.goto 11, 3) := dk_167 0 11 (dk_at dksX0_takenAs_0 14 rfl rfl)
theorem dX0_takenAs_17 : decode cX0_takenAs 17 = .ok (.aload_n 0, 1) := dk_42 (dk_at dksX0_takenAs_0 17 rfl rfl)
theorem dX0_takenAs_18 : decode cX0_takenAs 18 = .ok (.iload_n 1, 1) := dk_27 (dk_at dksX0_takenAs_0 18 rfl rfl)
theorem dX0_takenAs_19 : decode cX0_takenAs 19 = .ok (.invokestatic 560, 3) := dk_184 2 48 (dk_at dksX0_takenAs_0 19 rfl rfl)
theorem dX0_takenAs_22 : decode cX0_takenAs 22 = .ok (.invokevirtual 564, 3) := dk_182 2 52 (dk_at dksX0_takenAs_1 0 rfl rfl)
theorem dX0_takenAs_25 : decode cX0_takenAs 25 = .ok (.ireturn, 1) := dk_172 (dk_at dksX0_takenAs_1 3 rfl rfl)
abbrev cX0_takenFor : ByteArray := prog_1_method_103_code
def yX0_takenFor : MethodName := ⟨RX0, "takenFor", "(Ljava/lang/Object;I)LTwoSidedTables$Plain;"⟩
def dkwX0_takenFor_3 : List UInt8 := [176, 42, 192, 0, 30, 176, 42, 192, 0, 33, 176]
abbrev dktX0_takenFor_3 : List UInt8 := dkwX0_takenFor_3 ++ []
def dkwX0_takenFor_2 : List UInt8 := [42, 192, 0, 36, 176, 42, 192, 0, 15, 176, 42, 192, 0, 21, 176, 42, 192, 0, 24, 176, 42, 192, 0, 27]
abbrev dktX0_takenFor_2 : List UInt8 := dkwX0_takenFor_2 ++ dktX0_takenFor_3
def dkwX0_takenFor_1 : List UInt8 := [170, 0, 0, 0, 0, 0, 69, 0, 0, 0, 0, 0, 0, 0, 5, 0, 0, 0, 39, 0, 0, 0, 44, 0, 0, 0, 49, 0, 0, 0, 54, 0, 0, 0, 59, 0, 0, 0, 64]
abbrev dktX0_takenFor_1 : List UInt8 := dkwX0_takenFor_1 ++ dktX0_takenFor_2
def dkwX0_takenFor_0 : List UInt8 := [27]
abbrev dktX0_takenFor_0 : List UInt8 := dkwX0_takenFor_0 ++ dktX0_takenFor_1
theorem dksX0_takenFor_0 : cX0_takenFor.data.toList.drop 0 = dktX0_takenFor_0 := by decide +kernel
theorem dksX0_takenFor_1 : cX0_takenFor.data.toList.drop 1 = dktX0_takenFor_1 := dk_seg dksX0_takenFor_0 1 rfl rfl
theorem dksX0_takenFor_2 : cX0_takenFor.data.toList.drop 40 = dktX0_takenFor_2 := dk_seg dksX0_takenFor_1 39 rfl rfl
theorem dksX0_takenFor_3 : cX0_takenFor.data.toList.drop 64 = dktX0_takenFor_3 := dk_seg dksX0_takenFor_2 24 rfl rfl
theorem dX0_takenFor_0 : decode cX0_takenFor 0 = .ok (.iload_n 1, 1) := dk_27 (dk_at dksX0_takenFor_0 0 rfl rfl)
theorem dX0_takenFor_1 : decode cX0_takenFor 1 = .ok (.tableswitch 69 0 5 #[39, 44, 49, 54, 59, 64], 39) := by decide +kernel
theorem dX0_takenFor_40 : decode cX0_takenFor 40 = .ok (.aload_n 0, 1) := dk_42 (dk_at dksX0_takenFor_2 0 rfl rfl)
theorem dX0_takenFor_41 : decode cX0_takenFor 41 = .ok (.checkcast 36, 3) := dk_192 0 36 (dk_at dksX0_takenFor_2 1 rfl rfl)
theorem dX0_takenFor_44 : decode cX0_takenFor 44 = .ok (.areturn, 1) := dk_176 (dk_at dksX0_takenFor_2 4 rfl rfl)
theorem dX0_takenFor_45 : decode cX0_takenFor 45 = .ok (.aload_n 0, 1) := dk_42 (dk_at dksX0_takenFor_2 5 rfl rfl)
theorem dX0_takenFor_46 : decode cX0_takenFor 46 = .ok (.checkcast 15, 3) := dk_192 0 15 (dk_at dksX0_takenFor_2 6 rfl rfl)
theorem dX0_takenFor_49 : decode cX0_takenFor 49 = .ok (.areturn, 1) := dk_176 (dk_at dksX0_takenFor_2 9 rfl rfl)
theorem dX0_takenFor_50 : decode cX0_takenFor 50 = .ok (.aload_n 0, 1) := dk_42 (dk_at dksX0_takenFor_2 10 rfl rfl)
theorem dX0_takenFor_51 : decode cX0_takenFor 51 = .ok (.checkcast 21, 3) := dk_192 0 21 (dk_at dksX0_takenFor_2 11 rfl rfl)
theorem dX0_takenFor_54 : decode cX0_takenFor 54 = .ok (.areturn, 1) := dk_176 (dk_at dksX0_takenFor_2 14 rfl rfl)
theorem dX0_takenFor_55 : decode cX0_takenFor 55 = .ok (.aload_n 0, 1) := dk_42 (dk_at dksX0_takenFor_2 15 rfl rfl)
theorem dX0_takenFor_56 : decode cX0_takenFor 56 = .ok (.checkcast 24, 3) := dk_192 0 24 (dk_at dksX0_takenFor_2 16 rfl rfl)
theorem dX0_takenFor_59 : decode cX0_takenFor 59 = .ok (.areturn, 1) := dk_176 (dk_at dksX0_takenFor_2 19 rfl rfl)
theorem dX0_takenFor_60 : decode cX0_takenFor 60 = .ok (.aload_n 0, 1) := dk_42 (dk_at dksX0_takenFor_2 20 rfl rfl)
theorem dX0_takenFor_61 : decode cX0_takenFor 61 = .ok (.checkcast 27, 3) := dk_192 0 27 (dk_at dksX0_takenFor_2 21 rfl rfl)
theorem dX0_takenFor_64 : decode cX0_takenFor 64 = .ok (.areturn, 1) := dk_176 (dk_at dksX0_takenFor_3 0 rfl rfl)
theorem dX0_takenFor_65 : decode cX0_takenFor 65 = .ok (.aload_n 0, 1) := dk_42 (dk_at dksX0_takenFor_3 1 rfl rfl)
theorem dX0_takenFor_66 : decode cX0_takenFor 66 = .ok (.checkcast 30, 3) := dk_192 0 30 (dk_at dksX0_takenFor_3 2 rfl rfl)
theorem dX0_takenFor_69 : decode cX0_takenFor 69 = .ok (.areturn, 1) := dk_176 (dk_at dksX0_takenFor_3 5 rfl rfl)
theorem dX0_takenFor_70 : decode cX0_takenFor 70 = .ok (.aload_n 0, 1) := dk_42 (dk_at dksX0_takenFor_3 6 rfl rfl)
theorem dX0_takenFor_71 : decode cX0_takenFor 71 = .ok (.checkcast 33, 3) := dk_192 0 33 (dk_at dksX0_takenFor_3 7 rfl rfl)
theorem dX0_takenFor_74 : decode cX0_takenFor 74 = .ok (.areturn, 1) := dk_176 (dk_at dksX0_takenFor_3 10 rfl rfl)
abbrev cX0_act : ByteArray := prog_1_method_106_code
def yX0_act : MethodName := ⟨RX0, "act", "(III)I"⟩
def dkwX0_act_6 : List UInt8 := [180, 0, 122, 185, 2, 73, 3, 0, 172, 58, 6, 16, 241, 172]
abbrev dktX0_act_6 : List UInt8 := dkwX0_act_6 ++ []
def dkwX0_act_5 : List UInt8 := [185, 2, 67, 3, 0, 172, 25, 5, 29, 42, 180, 0, 122, 185, 2, 70, 3, 0, 172, 25, 5, 29, 42]
abbrev dktX0_act_5 : List UInt8 := dkwX0_act_5 ++ dktX0_act_6
def dkwX0_act_4 : List UInt8 := [25, 5, 29, 42, 180, 0, 122, 185, 2, 63, 3, 0, 172, 25, 5, 29, 42, 180, 0, 122]
abbrev dktX0_act_4 : List UInt8 := dkwX0_act_4 ++ dktX0_act_5
def dkwX0_act_3 : List UInt8 := [170, 0, 0, 0, 0, 0, 66, 0, 0, 0, 0, 0, 0, 0, 2, 0, 0, 0, 27, 0, 0, 0, 40, 0, 0, 0, 53]
abbrev dktX0_act_3 : List UInt8 := dkwX0_act_3 ++ dktX0_act_4
def dkwX0_act_2 : List UInt8 := [192, 2, 61, 58, 5, 28]
abbrev dktX0_act_2 : List UInt8 := dkwX0_act_2 ++ dktX0_act_3
def dkwX0_act_1 : List UInt8 := [42, 27, 182, 2, 54, 167, 0, 4, 1, 58, 4, 25, 4, 193, 2, 61, 154, 0, 5, 3, 172, 25, 4]
abbrev dktX0_act_1 : List UInt8 := dkwX0_act_1 ++ dktX0_act_2
def dkwX0_act_0 : List UInt8 := [42, 180, 0, 122, 3, 181, 2, 60, 27, 184, 1, 203, 153, 0, 20, 28, 3, 6, 184, 0, 130, 153, 0, 11]
abbrev dktX0_act_0 : List UInt8 := dkwX0_act_0 ++ dktX0_act_1
theorem dksX0_act_0 : cX0_act.data.toList.drop 0 = dktX0_act_0 := by decide +kernel
theorem dksX0_act_1 : cX0_act.data.toList.drop 24 = dktX0_act_1 := dk_seg dksX0_act_0 24 rfl rfl
theorem dksX0_act_2 : cX0_act.data.toList.drop 47 = dktX0_act_2 := dk_seg dksX0_act_1 23 rfl rfl
theorem dksX0_act_3 : cX0_act.data.toList.drop 53 = dktX0_act_3 := dk_seg dksX0_act_2 6 rfl rfl
theorem dksX0_act_4 : cX0_act.data.toList.drop 80 = dktX0_act_4 := dk_seg dksX0_act_3 27 rfl rfl
theorem dksX0_act_5 : cX0_act.data.toList.drop 100 = dktX0_act_5 := dk_seg dksX0_act_4 20 rfl rfl
theorem dksX0_act_6 : cX0_act.data.toList.drop 123 = dktX0_act_6 := dk_seg dksX0_act_5 23 rfl rfl
theorem dX0_act_0 : decode cX0_act 0 = .ok (.aload_n 0, 1) := dk_42 (dk_at dksX0_act_0 0 rfl rfl)
theorem dX0_act_1 : decode cX0_act 1 = .ok (.getfield 122, 3) := dk_180 0 122 (dk_at dksX0_act_0 1 rfl rfl)
theorem dX0_act_4 : decode cX0_act 4 = .ok (.iconst 0, 1) := dk_3 (dk_at dksX0_act_0 4 rfl rfl)
theorem dX0_act_5 : decode cX0_act 5 = .ok (.putfield 572, 3) := dk_181 2 60 (dk_at dksX0_act_0 5 rfl rfl)
theorem dX0_act_8 : decode cX0_act 8 = .ok (.iload_n 1, 1) := dk_27 (dk_at dksX0_act_0 8 rfl rfl)
theorem dX0_act_9 : decode cX0_act 9 = .ok (.invokestatic 459, 3) := dk_184 1 203 (dk_at dksX0_act_0 9 rfl rfl)
theorem dX0_act_12 : decode cX0_act 12 = .ok (.ifCond .eq 20, 3) := dk_153 0 20 (dk_at dksX0_act_0 12 rfl rfl)
theorem dX0_act_15 : decode cX0_act 15 = .ok (.iload_n 2, 1) := dk_28 (dk_at dksX0_act_0 15 rfl rfl)
theorem dX0_act_16 : decode cX0_act 16 = .ok (.iconst 0, 1) := dk_3 (dk_at dksX0_act_0 16 rfl rfl)
theorem dX0_act_17 : decode cX0_act 17 = .ok (.iconst 3, 1) := dk_6 (dk_at dksX0_act_0 17 rfl rfl)
theorem dX0_act_18 : decode cX0_act 18 = .ok (.invokestatic 130, 3) := dk_184 0 130 (dk_at dksX0_act_0 18 rfl rfl)
theorem dX0_act_21 : decode cX0_act 21 = .ok (.ifCond .eq 11, 3) := dk_153 0 11 (dk_at dksX0_act_0 21 rfl rfl)
theorem dX0_act_24 : decode cX0_act 24 = .ok (.aload_n 0, 1) := dk_42 (dk_at dksX0_act_1 0 rfl rfl)
theorem dX0_act_25 : decode cX0_act 25 = .ok (.iload_n 1, 1) := dk_27 (dk_at dksX0_act_1 1 rfl rfl)
theorem dX0_act_26 : decode cX0_act 26 = .ok (.invokevirtual 566, 3) := dk_182 2 54 (dk_at dksX0_act_1 2 rfl rfl)
theorem dX0_act_29 : decode cX0_act 29 = .ok (.goto 4, 3) := dk_167 0 4 (dk_at dksX0_act_1 5 rfl rfl)
theorem dX0_act_32 : decode cX0_act 32 = .ok (.aconst_null, 1) := dk_1 (dk_at dksX0_act_1 8 rfl rfl)
theorem dX0_act_33 : decode cX0_act 33 = .ok (.astore 4, 2) := dk_58 4 (dk_at dksX0_act_1 9 rfl rfl)
theorem dX0_act_35 : decode cX0_act 35 = .ok (.aload 4, 2) := dk_25 4 (dk_at dksX0_act_1 11 rfl rfl)
theorem dX0_act_37 : decode cX0_act 37 = .ok (.instanceof 573, 3) := dk_193 2 61 (dk_at dksX0_act_1 13 rfl rfl)
theorem dX0_act_40 : decode cX0_act 40 = .ok (.ifCond .ne 5, 3) := dk_154 0 5 (dk_at dksX0_act_1 16 rfl rfl)
theorem dX0_act_43 : decode cX0_act 43 = .ok (.iconst 0, 1) := dk_3 (dk_at dksX0_act_1 19 rfl rfl)
theorem dX0_act_44 : decode cX0_act 44 = .ok (.ireturn, 1) := dk_172 (dk_at dksX0_act_1 20 rfl rfl)
theorem dX0_act_45 : decode cX0_act 45 = .ok (.aload 4, 2) := dk_25 4 (dk_at dksX0_act_1 21 rfl rfl)
theorem dX0_act_47 : decode cX0_act 47 = .ok (.checkcast 573, 3) := dk_192 2 61 (dk_at dksX0_act_2 0 rfl rfl)
theorem dX0_act_50 : decode cX0_act 50 = .ok (.astore 5, 2) := dk_58 5 (dk_at dksX0_act_2 3 rfl rfl)
theorem dX0_act_52 : decode cX0_act 52 = .ok (.iload_n 2, 1) := dk_28 (dk_at dksX0_act_2 5 rfl rfl)
theorem dX0_act_53 : decode cX0_act 53 = .ok (.tableswitch 66 0 2 #[27, 40, 53], 27) := by decide +kernel
theorem dX0_act_80 : decode cX0_act 80 = .ok (.aload 5, 2) := dk_25 5 (dk_at dksX0_act_4 0 rfl rfl)
theorem dX0_act_82 : decode cX0_act 82 = .ok (.iload_n 3, 1) := dk_29 (dk_at dksX0_act_4 2 rfl rfl)
theorem dX0_act_83 : decode cX0_act 83 = .ok (.aload_n 0, 1) := dk_42 (dk_at dksX0_act_4 3 rfl rfl)
theorem dX0_act_84 : decode cX0_act 84 = .ok (.getfield 122, 3) := dk_180 0 122 (dk_at dksX0_act_4 4 rfl rfl)
theorem dX0_act_87 : decode cX0_act 87 = .ok (.invokeinterface 575 3, 5) := by decide +kernel
theorem dX0_act_92 : decode cX0_act 92 = .ok (.ireturn, 1) := dk_172 (dk_at dksX0_act_4 12 rfl rfl)
theorem dX0_act_93 : decode cX0_act 93 = .ok (.aload 5, 2) := dk_25 5 (dk_at dksX0_act_4 13 rfl rfl)
theorem dX0_act_95 : decode cX0_act 95 = .ok (.iload_n 3, 1) := dk_29 (dk_at dksX0_act_4 15 rfl rfl)
theorem dX0_act_96 : decode cX0_act 96 = .ok (.aload_n 0, 1) := dk_42 (dk_at dksX0_act_4 16 rfl rfl)
theorem dX0_act_97 : decode cX0_act 97 = .ok (.getfield 122, 3) := dk_180 0 122 (dk_at dksX0_act_4 17 rfl rfl)
theorem dX0_act_100 : decode cX0_act 100 = .ok (.invokeinterface 579 3, 5) := by decide +kernel
theorem dX0_act_105 : decode cX0_act 105 = .ok (.ireturn, 1) := dk_172 (dk_at dksX0_act_5 5 rfl rfl)
theorem dX0_act_106 : decode cX0_act 106 = .ok (.aload 5, 2) := dk_25 5 (dk_at dksX0_act_5 6 rfl rfl)
theorem dX0_act_108 : decode cX0_act 108 = .ok (.iload_n 3, 1) := dk_29 (dk_at dksX0_act_5 8 rfl rfl)
theorem dX0_act_109 : decode cX0_act 109 = .ok (.aload_n 0, 1) := dk_42 (dk_at dksX0_act_5 9 rfl rfl)
theorem dX0_act_110 : decode cX0_act 110 = .ok (.getfield 122, 3) := dk_180 0 122 (dk_at dksX0_act_5 10 rfl rfl)
theorem dX0_act_113 : decode cX0_act 113 = .ok (.invokeinterface 582 3, 5) := by decide +kernel
theorem dX0_act_118 : decode cX0_act 118 = .ok (.ireturn, 1) := dk_172 (dk_at dksX0_act_5 18 rfl rfl)
theorem dX0_act_119 : decode cX0_act 119 = .ok (.aload 5, 2) := dk_25 5 (dk_at dksX0_act_5 19 rfl rfl)
theorem dX0_act_121 : decode cX0_act 121 = .ok (.iload_n 3, 1) := dk_29 (dk_at dksX0_act_5 21 rfl rfl)
theorem dX0_act_122 : decode cX0_act 122 = .ok (.aload_n 0, 1) := dk_42 (dk_at dksX0_act_5 22 rfl rfl)
theorem dX0_act_123 : decode cX0_act 123 = .ok (.getfield 122, 3) := dk_180 0 122 (dk_at dksX0_act_6 0 rfl rfl)
theorem dX0_act_126 : decode cX0_act 126 = .ok (.invokeinterface 585 3, 5) := by decide +kernel
theorem dX0_act_131 : decode cX0_act 131 = .ok (.ireturn, 1) := dk_172 (dk_at dksX0_act_6 8 rfl rfl)
theorem dX0_act_132 : decode cX0_act 132 = .ok (.astore 6, 2) := dk_58 6 (dk_at dksX0_act_6 9 rfl rfl)
theorem dX0_act_134 : decode cX0_act 134 = .ok (.bipush (-15), 2) := dk_16 241 (dk_at dksX0_act_6 11 rfl rfl)
theorem dX0_act_136 : decode cX0_act 136 = .ok (.ireturn, 1) := dk_172 (dk_at dksX0_act_6 13 rfl rfl)
abbrev cX0_trace : ByteArray := prog_1_method_107_code
def yX0_trace : MethodName := ⟨RX0, "trace", "(I)I"⟩
def dkwX0_trace_1 : List UInt8 := [27, 46, 167, 0, 5, 16, 253, 172]
abbrev dktX0_trace_1 : List UInt8 := dkwX0_trace_1 ++ []
def dkwX0_trace_0 : List UInt8 := [27, 3, 42, 180, 0, 122, 180, 2, 60, 4, 100, 184, 0, 130, 153, 0, 15, 42, 180, 0, 122, 180, 2, 76]
abbrev dktX0_trace_0 : List UInt8 := dkwX0_trace_0 ++ dktX0_trace_1
theorem dksX0_trace_0 : cX0_trace.data.toList.drop 0 = dktX0_trace_0 := by decide +kernel
theorem dksX0_trace_1 : cX0_trace.data.toList.drop 24 = dktX0_trace_1 := dk_seg dksX0_trace_0 24 rfl rfl
theorem dX0_trace_0 : decode cX0_trace 0 = .ok (.iload_n 1, 1) := dk_27 (dk_at dksX0_trace_0 0 rfl rfl)
theorem dX0_trace_1 : decode cX0_trace 1 = .ok (.iconst 0, 1) := dk_3 (dk_at dksX0_trace_0 1 rfl rfl)
theorem dX0_trace_2 : decode cX0_trace 2 = .ok (.aload_n 0, 1) := dk_42 (dk_at dksX0_trace_0 2 rfl rfl)
theorem dX0_trace_3 : decode cX0_trace 3 = .ok (.getfield 122, 3) := dk_180 0 122 (dk_at dksX0_trace_0 3 rfl rfl)
theorem dX0_trace_6 : decode cX0_trace 6 = .ok (.getfield 572, 3) := dk_180 2 60 (dk_at dksX0_trace_0 6 rfl rfl)
theorem dX0_trace_9 : decode cX0_trace 9 = .ok (.iconst 1, 1) := dk_4 (dk_at dksX0_trace_0 9 rfl rfl)
theorem dX0_trace_10 : decode cX0_trace 10 = .ok (.isub, 1) := dk_100 (dk_at dksX0_trace_0 10 rfl rfl)
theorem dX0_trace_11 : decode cX0_trace 11 = .ok (.invokestatic 130, 3) := dk_184 0 130 (dk_at dksX0_trace_0 11 rfl rfl)
theorem dX0_trace_14 : decode cX0_trace 14 = .ok (.ifCond .eq 15, 3) := dk_153 0 15 (dk_at dksX0_trace_0 14 rfl rfl)
theorem dX0_trace_17 : decode cX0_trace 17 = .ok (.aload_n 0, 1) := dk_42 (dk_at dksX0_trace_0 17 rfl rfl)
theorem dX0_trace_18 : decode cX0_trace 18 = .ok (.getfield 122, 3) := dk_180 0 122 (dk_at dksX0_trace_0 18 rfl rfl)
theorem dX0_trace_21 : decode cX0_trace 21 = .ok (.getfield 588, 3) := dk_180 2 76 (dk_at dksX0_trace_0 21 rfl rfl)
theorem dX0_trace_24 : decode cX0_trace 24 = .ok (.iload_n 1, 1) := dk_27 (dk_at dksX0_trace_1 0 rfl rfl)
theorem dX0_trace_25 : decode cX0_trace 25 = .ok (.iaload, 1) := dk_46 (dk_at dksX0_trace_1 1 rfl rfl)
theorem dX0_trace_26 : decode cX0_trace 26 = .ok (.goto 5, 3) := dk_167 0 5 (dk_at dksX0_trace_1 2 rfl rfl)
theorem dX0_trace_29 : decode cX0_trace 29 = .ok (.bipush (-3), 2) := dk_16 253 (dk_at dksX0_trace_1 5 rfl rfl)
theorem dX0_trace_31 : decode cX0_trace 31 = .ok (.ireturn, 1) := dk_172 (dk_at dksX0_trace_1 7 rfl rfl)
abbrev cX0_many : ByteArray := prog_1_method_109_code
def yX0_many : MethodName := ⟨RX0, "many", "(I)I"⟩
def dkwX0_many_3 : List UInt8 := [180, 0, 218, 172, 42, 180, 0, 122, 180, 2, 60, 172, 42, 182, 2, 79, 172, 42, 182, 1, 185, 172, 2, 172]
abbrev dktX0_many_3 : List UInt8 := dkwX0_many_3 ++ []
def dkwX0_many_2 : List UInt8 := [42, 180, 0, 62, 180, 0, 134, 172, 42, 180, 0, 62, 180, 0, 137, 172, 42, 180, 0, 127, 172, 42]
abbrev dktX0_many_2 : List UInt8 := dkwX0_many_2 ++ dktX0_many_3
def dkwX0_many_1 : List UInt8 := [170, 0, 0, 0, 0, 0, 87, 0, 0, 0, 0, 0, 0, 0, 6, 0, 0, 0, 43, 0, 0, 0, 51, 0, 0, 0, 59, 0, 0, 0, 64, 0, 0, 0, 69, 0, 0, 0, 77, 0, 0, 0, 82]
abbrev dktX0_many_1 : List UInt8 := dkwX0_many_1 ++ dktX0_many_2
def dkwX0_many_0 : List UInt8 := [27]
abbrev dktX0_many_0 : List UInt8 := dkwX0_many_0 ++ dktX0_many_1
theorem dksX0_many_0 : cX0_many.data.toList.drop 0 = dktX0_many_0 := by decide +kernel
theorem dksX0_many_1 : cX0_many.data.toList.drop 1 = dktX0_many_1 := dk_seg dksX0_many_0 1 rfl rfl
theorem dksX0_many_2 : cX0_many.data.toList.drop 44 = dktX0_many_2 := dk_seg dksX0_many_1 43 rfl rfl
theorem dksX0_many_3 : cX0_many.data.toList.drop 66 = dktX0_many_3 := dk_seg dksX0_many_2 22 rfl rfl
theorem dX0_many_0 : decode cX0_many 0 = .ok (.iload_n 1, 1) := dk_27 (dk_at dksX0_many_0 0 rfl rfl)
theorem dX0_many_1 : decode cX0_many 1 = .ok (.tableswitch 87 0 6 #[43, 51, 59, 64, 69, 77, 82], 43) := by decide +kernel
theorem dX0_many_44 : decode cX0_many 44 = .ok (.aload_n 0, 1) := dk_42 (dk_at dksX0_many_2 0 rfl rfl)
theorem dX0_many_45 : decode cX0_many 45 = .ok (.getfield 62, 3) := dk_180 0 62 (dk_at dksX0_many_2 1 rfl rfl)
theorem dX0_many_48 : decode cX0_many 48 = .ok (.getfield 134, 3) := dk_180 0 134 (dk_at dksX0_many_2 4 rfl rfl)
theorem dX0_many_51 : decode cX0_many 51 = .ok (.ireturn, 1) := dk_172 (dk_at dksX0_many_2 7 rfl rfl)
theorem dX0_many_52 : decode cX0_many 52 = .ok (.aload_n 0, 1) := dk_42 (dk_at dksX0_many_2 8 rfl rfl)
theorem dX0_many_53 : decode cX0_many 53 = .ok (.getfield 62, 3) := dk_180 0 62 (dk_at dksX0_many_2 9 rfl rfl)
theorem dX0_many_56 : decode cX0_many 56 = .ok (.getfield 137, 3) := dk_180 0 137 (dk_at dksX0_many_2 12 rfl rfl)
theorem dX0_many_59 : decode cX0_many 59 = .ok (.ireturn, 1) := dk_172 (dk_at dksX0_many_2 15 rfl rfl)
theorem dX0_many_60 : decode cX0_many 60 = .ok (.aload_n 0, 1) := dk_42 (dk_at dksX0_many_2 16 rfl rfl)
theorem dX0_many_61 : decode cX0_many 61 = .ok (.getfield 127, 3) := dk_180 0 127 (dk_at dksX0_many_2 17 rfl rfl)
theorem dX0_many_64 : decode cX0_many 64 = .ok (.ireturn, 1) := dk_172 (dk_at dksX0_many_2 20 rfl rfl)
theorem dX0_many_65 : decode cX0_many 65 = .ok (.aload_n 0, 1) := dk_42 (dk_at dksX0_many_2 21 rfl rfl)
theorem dX0_many_66 : decode cX0_many 66 = .ok (.getfield 218, 3) := dk_180 0 218 (dk_at dksX0_many_3 0 rfl rfl)
theorem dX0_many_69 : decode cX0_many 69 = .ok (.ireturn, 1) := dk_172 (dk_at dksX0_many_3 3 rfl rfl)
theorem dX0_many_70 : decode cX0_many 70 = .ok (.aload_n 0, 1) := dk_42 (dk_at dksX0_many_3 4 rfl rfl)
theorem dX0_many_71 : decode cX0_many 71 = .ok (.getfield 122, 3) := dk_180 0 122 (dk_at dksX0_many_3 5 rfl rfl)
theorem dX0_many_74 : decode cX0_many 74 = .ok (.getfield 572, 3) := dk_180 2 60 (dk_at dksX0_many_3 8 rfl rfl)
theorem dX0_many_77 : decode cX0_many 77 = .ok (.ireturn, 1) := dk_172 (dk_at dksX0_many_3 11 rfl rfl)
theorem dX0_many_78 : decode cX0_many 78 = .ok (.aload_n 0, 1) := dk_42 (dk_at dksX0_many_3 12 rfl rfl)
theorem dX0_many_79 : decode cX0_many 79 = .ok (.invokevirtual 591, 3) := dk_182 2 79 (dk_at dksX0_many_3 13 rfl rfl)
theorem dX0_many_82 : decode cX0_many 82 = .ok (.ireturn, 1) := dk_172 (dk_at dksX0_many_3 16 rfl rfl)
theorem dX0_many_83 : decode cX0_many 83 = .ok (.aload_n 0, 1) := dk_42 (dk_at dksX0_many_3 17 rfl rfl)
theorem dX0_many_84 : decode cX0_many 84 = .ok (.invokevirtual 441, 3) := dk_182 1 185 (dk_at dksX0_many_3 18 rfl rfl)
theorem dX0_many_87 : decode cX0_many 87 = .ok (.ireturn, 1) := dk_172 (dk_at dksX0_many_3 21 rfl rfl)
theorem dX0_many_88 : decode cX0_many 88 = .ok (.iconst (-1), 1) := dk_2 (dk_at dksX0_many_3 22 rfl rfl)
theorem dX0_many_89 : decode cX0_many 89 = .ok (.ireturn, 1) := dk_172 (dk_at dksX0_many_3 23 rfl rfl)
abbrev cX0_fittingSet : ByteArray := prog_1_method_108_code
def yX0_fittingSet : MethodName := ⟨RX0, "fittingSet", "()I"⟩
def dkwX0_fittingSet_1 : List UInt8 := [153, 0, 9, 4, 28, 120, 167, 0, 4, 3, 128, 60, 132, 2, 1, 167, 255, 222, 27, 172]
abbrev dktX0_fittingSet_1 : List UInt8 := dkwX0_fittingSet_1 ++ []
def dkwX0_fittingSet_0 : List UInt8 := [3, 60, 3, 61, 28, 42, 180, 0, 127, 162, 0, 32, 27, 42, 42, 180, 0, 72, 28, 50, 182, 1, 151]
abbrev dktX0_fittingSet_0 : List UInt8 := dkwX0_fittingSet_0 ++ dktX0_fittingSet_1
theorem dksX0_fittingSet_0 : cX0_fittingSet.data.toList.drop 0 = dktX0_fittingSet_0 := by decide +kernel
theorem dksX0_fittingSet_1 : cX0_fittingSet.data.toList.drop 23 = dktX0_fittingSet_1 := dk_seg dksX0_fittingSet_0 23 rfl rfl
theorem dX0_fittingSet_0 : decode cX0_fittingSet 0 = .ok (.iconst 0, 1) := dk_3 (dk_at dksX0_fittingSet_0 0 rfl rfl)
theorem dX0_fittingSet_1 : decode cX0_fittingSet 1 = .ok (.istore_n 1, 1) := dk_60 (dk_at dksX0_fittingSet_0 1 rfl rfl)
theorem dX0_fittingSet_2 : decode cX0_fittingSet 2 = .ok (.iconst 0, 1) := dk_3 (dk_at dksX0_fittingSet_0 2 rfl rfl)
theorem dX0_fittingSet_3 : decode cX0_fittingSet 3 = .ok (.istore_n 2, 1) := dk_61 (dk_at dksX0_fittingSet_0 3 rfl rfl)
theorem dX0_fittingSet_4 : decode cX0_fittingSet 4 = .ok (.iload_n 2, 1) := dk_28 (dk_at dksX0_fittingSet_0 4 rfl rfl)
theorem dX0_fittingSet_5 : decode cX0_fittingSet 5 = .ok (.aload_n 0, 1) := dk_42 (dk_at dksX0_fittingSet_0 5 rfl rfl)
theorem dX0_fittingSet_6 : decode cX0_fittingSet 6 = .ok (.getfield 127, 3) := dk_180 0 127 (dk_at dksX0_fittingSet_0 6 rfl rfl)
theorem dX0_fittingSet_9 : decode cX0_fittingSet 9 = .ok (.if_icmp .ge 32, 3) := dk_162 0 32 (dk_at dksX0_fittingSet_0 9 rfl rfl)
theorem dX0_fittingSet_12 : decode cX0_fittingSet 12 = .ok (.iload_n 1, 1) := dk_27 (dk_at dksX0_fittingSet_0 12 rfl rfl)
theorem dX0_fittingSet_13 : decode cX0_fittingSet 13 = .ok (.aload_n 0, 1) := dk_42 (dk_at dksX0_fittingSet_0 13 rfl rfl)
theorem dX0_fittingSet_14 : decode cX0_fittingSet 14 = .ok (.aload_n 0, 1) := dk_42 (dk_at dksX0_fittingSet_0 14 rfl rfl)
theorem dX0_fittingSet_15 : decode cX0_fittingSet 15 = .ok (.getfield 72, 3) := dk_180 0 72 (dk_at dksX0_fittingSet_0 15 rfl rfl)
theorem dX0_fittingSet_18 : decode cX0_fittingSet 18 = .ok (.iload_n 2, 1) := dk_28 (dk_at dksX0_fittingSet_0 18 rfl rfl)
theorem dX0_fittingSet_19 : decode cX0_fittingSet 19 = .ok (.aaload, 1) := dk_50 (dk_at dksX0_fittingSet_0 19 rfl rfl)
theorem dX0_fittingSet_20 : decode cX0_fittingSet 20 = .ok (.invokevirtual 407, 3) := dk_182 1 151 (dk_at dksX0_fittingSet_0 20 rfl rfl)
theorem dX0_fittingSet_23 : decode cX0_fittingSet 23 = .ok (.ifCond .eq 9, 3) := dk_153 0 9 (dk_at dksX0_fittingSet_1 0 rfl rfl)
theorem dX0_fittingSet_26 : decode cX0_fittingSet 26 = .ok (.iconst 1, 1) := dk_4 (dk_at dksX0_fittingSet_1 3 rfl rfl)
theorem dX0_fittingSet_27 : decode cX0_fittingSet 27 = .ok (.iload_n 2, 1) := dk_28 (dk_at dksX0_fittingSet_1 4 rfl rfl)
theorem dX0_fittingSet_28 : decode cX0_fittingSet 28 = .ok (.ishl, 1) := dk_120 (dk_at dksX0_fittingSet_1 5 rfl rfl)
theorem dX0_fittingSet_29 : decode cX0_fittingSet 29 = .ok (.goto 4, 3) := dk_167 0 4 (dk_at dksX0_fittingSet_1 6 rfl rfl)
theorem dX0_fittingSet_32 : decode cX0_fittingSet 32 = .ok (.iconst 0, 1) := dk_3 (dk_at dksX0_fittingSet_1 9 rfl rfl)
theorem dX0_fittingSet_33 : decode cX0_fittingSet 33 = .ok (.ior, 1) := dk_128 (dk_at dksX0_fittingSet_1 10 rfl rfl)
theorem dX0_fittingSet_34 : decode cX0_fittingSet 34 = .ok (.istore_n 1, 1) := dk_60 (dk_at dksX0_fittingSet_1 11 rfl rfl)
theorem dX0_fittingSet_35 : decode cX0_fittingSet 35 = .ok (.iinc 2 1, 3) := dk_132 2 1 (dk_at dksX0_fittingSet_1 12 rfl rfl)
theorem dX0_fittingSet_38 : decode cX0_fittingSet 38 = .ok (.goto (-34), 3) := dk_167 255 222 (dk_at dksX0_fittingSet_1 15 rfl rfl)
theorem dX0_fittingSet_41 : decode cX0_fittingSet 41 = .ok (.iload_n 1, 1) := dk_27 (dk_at dksX0_fittingSet_1 18 rfl rfl)
theorem dX0_fittingSet_42 : decode cX0_fittingSet 42 = .ok (.ireturn, 1) := dk_172 (dk_at dksX0_fittingSet_1 19 rfl rfl)
abbrev cX0_keep : ByteArray := prog_1_method_110_code
def yX0_keep : MethodName := ⟨RX0, "keep", "()I"⟩
def dkwX0_keep_4 : List UInt8 := [180, 0, 79, 181, 2, 85, 42, 4, 181, 2, 88, 4, 172]
abbrev dktX0_keep_4 : List UInt8 := dkwX0_keep_4 ++ []
def dkwX0_keep_3 : List UInt8 := [180, 0, 72, 3, 42, 180, 0, 76, 3, 16, 6, 184, 2, 27, 42, 42, 180, 0, 127, 181, 2, 82, 42, 42]
abbrev dktX0_keep_3 : List UInt8 := dkwX0_keep_3 ++ dktX0_keep_4
def dkwX0_keep_2 : List UInt8 := [180, 0, 62, 180, 0, 137, 183, 0, 155, 181, 0, 66, 42, 180, 0, 66, 42, 180, 0, 62, 182, 1, 20, 42]
abbrev dktX0_keep_2 : List UInt8 := dkwX0_keep_2 ++ dktX0_keep_3
def dkwX0_keep_1 : List UInt8 := [42, 180, 0, 62, 180, 0, 137, 159, 0, 28, 42, 187, 0, 59, 89, 42, 180, 0, 62, 180, 0, 134, 42]
abbrev dktX0_keep_1 : List UInt8 := dkwX0_keep_1 ++ dktX0_keep_2
def dkwX0_keep_0 : List UInt8 := [42, 180, 0, 66, 180, 0, 134, 42, 180, 0, 62, 180, 0, 134, 160, 0, 20, 42, 180, 0, 66, 180, 0, 137]
abbrev dktX0_keep_0 : List UInt8 := dkwX0_keep_0 ++ dktX0_keep_1
theorem dksX0_keep_0 : cX0_keep.data.toList.drop 0 = dktX0_keep_0 := by decide +kernel
theorem dksX0_keep_1 : cX0_keep.data.toList.drop 24 = dktX0_keep_1 := dk_seg dksX0_keep_0 24 rfl rfl
theorem dksX0_keep_2 : cX0_keep.data.toList.drop 47 = dktX0_keep_2 := dk_seg dksX0_keep_1 23 rfl rfl
theorem dksX0_keep_3 : cX0_keep.data.toList.drop 71 = dktX0_keep_3 := dk_seg dksX0_keep_2 24 rfl rfl
theorem dksX0_keep_4 : cX0_keep.data.toList.drop 95 = dktX0_keep_4 := dk_seg dksX0_keep_3 24 rfl rfl
theorem dX0_keep_0 : decode cX0_keep 0 = .ok (.aload_n 0, 1) := dk_42 (dk_at dksX0_keep_0 0 rfl rfl)
theorem dX0_keep_1 : decode cX0_keep 1 = .ok (.getfield 66, 3) := dk_180 0 66 (dk_at dksX0_keep_0 1 rfl rfl)
theorem dX0_keep_4 : decode cX0_keep 4 = .ok (.getfield 134, 3) := dk_180 0 134 (dk_at dksX0_keep_0 4 rfl rfl)
theorem dX0_keep_7 : decode cX0_keep 7 = .ok (.aload_n 0, 1) := dk_42 (dk_at dksX0_keep_0 7 rfl rfl)
theorem dX0_keep_8 : decode cX0_keep 8 = .ok (.getfield 62, 3) := dk_180 0 62 (dk_at dksX0_keep_0 8 rfl rfl)
theorem dX0_keep_11 : decode cX0_keep 11 = .ok (.getfield 134, 3) := dk_180 0 134 (dk_at dksX0_keep_0 11 rfl rfl)
theorem dX0_keep_14 : decode cX0_keep 14 = .ok (.if_icmp .ne 20, 3) := dk_160 0 20 (dk_at dksX0_keep_0 14 rfl rfl)
theorem dX0_keep_17 : decode cX0_keep 17 = .ok (.aload_n 0, 1) := dk_42 (dk_at dksX0_keep_0 17 rfl rfl)
theorem dX0_keep_18 : decode cX0_keep 18 = .ok (.getfield 66, 3) := dk_180 0 66 (dk_at dksX0_keep_0 18 rfl rfl)
theorem dX0_keep_21 : decode cX0_keep 21 = .ok (.getfield 137, 3) := dk_180 0 137 (dk_at dksX0_keep_0 21 rfl rfl)
theorem dX0_keep_24 : decode cX0_keep 24 = .ok (.aload_n 0, 1) := dk_42 (dk_at dksX0_keep_1 0 rfl rfl)
theorem dX0_keep_25 : decode cX0_keep 25 = .ok (.getfield 62, 3) := dk_180 0 62 (dk_at dksX0_keep_1 1 rfl rfl)
theorem dX0_keep_28 : decode cX0_keep 28 = .ok (.getfield 137, 3) := dk_180 0 137 (dk_at dksX0_keep_1 4 rfl rfl)
theorem dX0_keep_31 : decode cX0_keep 31 = .ok (.if_icmp .eq 28, 3) := dk_159 0 28 (dk_at dksX0_keep_1 7 rfl rfl)
theorem dX0_keep_34 : decode cX0_keep 34 = .ok (.aload_n 0, 1) := dk_42 (dk_at dksX0_keep_1 10 rfl rfl)
theorem dX0_keep_35 : decode cX0_keep 35 = .ok (.new 59, 3) := dk_187 0 59 (dk_at dksX0_keep_1 11 rfl rfl)
theorem dX0_keep_38 : decode cX0_keep 38 = .ok (.dup, 1) := dk_89 (dk_at dksX0_keep_1 14 rfl rfl)
theorem dX0_keep_39 : decode cX0_keep 39 = .ok (.aload_n 0, 1) := dk_42 (dk_at dksX0_keep_1 15 rfl rfl)
theorem dX0_keep_40 : decode cX0_keep 40 = .ok (.getfield 62, 3) := dk_180 0 62 (dk_at dksX0_keep_1 16 rfl rfl)
theorem dX0_keep_43 : decode cX0_keep 43 = .ok (.getfield 134, 3) := dk_180 0 134 (dk_at dksX0_keep_1 19 rfl rfl)
theorem dX0_keep_46 : decode cX0_keep 46 = .ok (.aload_n 0, 1) := dk_42 (dk_at dksX0_keep_1 22 rfl rfl)
theorem dX0_keep_47 : decode cX0_keep 47 = .ok (.getfield 62, 3) := dk_180 0 62 (dk_at dksX0_keep_2 0 rfl rfl)
theorem dX0_keep_50 : decode cX0_keep 50 = .ok (.getfield 137, 3) := dk_180 0 137 (dk_at dksX0_keep_2 3 rfl rfl)
theorem dX0_keep_53 : decode cX0_keep 53 = .ok (.invokespecial 155, 3) := dk_183 0 155 (dk_at dksX0_keep_2 6 rfl rfl)
theorem dX0_keep_56 : decode cX0_keep 56 = .ok (.putfield 66, 3) := dk_181 0 66 (dk_at dksX0_keep_2 9 rfl rfl)
theorem dX0_keep_59 : decode cX0_keep 59 = .ok (.aload_n 0, 1) := dk_42 (dk_at dksX0_keep_2 12 rfl rfl)
theorem dX0_keep_60 : decode cX0_keep 60 = .ok (.getfield 66, 3) := dk_180 0 66 (dk_at dksX0_keep_2 13 rfl rfl)
theorem dX0_keep_63 : decode cX0_keep 63 = .ok (.aload_n 0, 1) := dk_42 (dk_at dksX0_keep_2 16 rfl rfl)
theorem dX0_keep_64 : decode cX0_keep 64 = .ok (.getfield 62, 3) := dk_180 0 62 (dk_at dksX0_keep_2 17 rfl rfl)
theorem dX0_keep_67 : decode cX0_keep 67 = .ok (.invokevirtual 276, 3) := dk_182 1 20 (dk_at dksX0_keep_2 20 rfl rfl)
theorem dX0_keep_70 : decode cX0_keep 70 = .ok (.aload_n 0, 1) := dk_42 (dk_at dksX0_keep_2 23 rfl rfl)
theorem dX0_keep_71 : decode cX0_keep 71 = .ok (.getfield 72, 3) := dk_180 0 72 (dk_at dksX0_keep_3 0 rfl rfl)
theorem dX0_keep_74 : decode cX0_keep 74 = .ok (.iconst 0, 1) := dk_3 (dk_at dksX0_keep_3 3 rfl rfl)
theorem dX0_keep_75 : decode cX0_keep 75 = .ok (.aload_n 0, 1) := dk_42 (dk_at dksX0_keep_3 4 rfl rfl)
theorem dX0_keep_76 : decode cX0_keep 76 = .ok (.getfield 76, 3) := dk_180 0 76 (dk_at dksX0_keep_3 5 rfl rfl)
theorem dX0_keep_79 : decode cX0_keep 79 = .ok (.iconst 0, 1) := dk_3 (dk_at dksX0_keep_3 8 rfl rfl)
theorem dX0_keep_80 : decode cX0_keep 80 = .ok (.bipush 6, 2) := dk_16 6 (dk_at dksX0_keep_3 9 rfl rfl)
theorem dX0_keep_82 : decode cX0_keep 82 = .ok (.invokestatic 539, 3) := dk_184 2 27 (dk_at dksX0_keep_3 11 rfl rfl)
theorem dX0_keep_85 : decode cX0_keep 85 = .ok (.aload_n 0, 1) := dk_42 (dk_at dksX0_keep_3 14 rfl rfl)
theorem dX0_keep_86 : decode cX0_keep 86 = .ok (.aload_n 0, 1) := dk_42 (dk_at dksX0_keep_3 15 rfl rfl)
theorem dX0_keep_87 : decode cX0_keep 87 = .ok (.getfield 127, 3) := dk_180 0 127 (dk_at dksX0_keep_3 16 rfl rfl)
theorem dX0_keep_90 : decode cX0_keep 90 = .ok (.putfield 594, 3) := dk_181 2 82 (dk_at dksX0_keep_3 19 rfl rfl)
theorem dX0_keep_93 : decode cX0_keep 93 = .ok (.aload_n 0, 1) := dk_42 (dk_at dksX0_keep_3 22 rfl rfl)
theorem dX0_keep_94 : decode cX0_keep 94 = .ok (.aload_n 0, 1) := dk_42 (dk_at dksX0_keep_3 23 rfl rfl)
theorem dX0_keep_95 : decode cX0_keep 95 = .ok (.getfield 79, 3) := dk_180 0 79 (dk_at dksX0_keep_4 0 rfl rfl)
theorem dX0_keep_98 : decode cX0_keep 98 = .ok (.putfield 597, 3) := dk_181 2 85 (dk_at dksX0_keep_4 3 rfl rfl)
theorem dX0_keep_101 : decode cX0_keep 101 = .ok (.aload_n 0, 1) := dk_42 (dk_at dksX0_keep_4 6 rfl rfl)
theorem dX0_keep_102 : decode cX0_keep 102 = .ok (.iconst 1, 1) := dk_4 (dk_at dksX0_keep_4 7 rfl rfl)
theorem dX0_keep_103 : decode cX0_keep 103 = .ok (.putfield 600, 3) := dk_181 2 88 (dk_at dksX0_keep_4 8 rfl rfl)
theorem dX0_keep_106 : decode cX0_keep 106 = .ok (.iconst 1, 1) := dk_4 (dk_at dksX0_keep_4 11 rfl rfl)
theorem dX0_keep_107 : decode cX0_keep 107 = .ok (.ireturn, 1) := dk_172 (dk_at dksX0_keep_4 12 rfl rfl)
abbrev cX0_again : ByteArray := prog_1_method_111_code
def yX0_again : MethodName := ⟨RX0, "again", "()I"⟩
def dkwX0_again_4 : List UInt8 := [184, 2, 27, 42, 42, 180, 2, 82, 181, 0, 127, 42, 42, 180, 2, 85, 181, 0, 79, 42, 180, 0, 127, 172]
abbrev dktX0_again_4 : List UInt8 := dkwX0_again_4 ++ []
def dkwX0_again_3 : List UInt8 := [180, 0, 62, 42, 180, 0, 66, 182, 1, 20, 42, 180, 0, 76, 3, 42, 180, 0, 72, 3, 16, 6]
abbrev dktX0_again_3 : List UInt8 := dkwX0_again_3 ++ dktX0_again_4
def dkwX0_again_2 : List UInt8 := [89, 42, 180, 0, 66, 180, 0, 134, 42, 180, 0, 66, 180, 0, 137, 183, 0, 155, 181, 0, 62, 42]
abbrev dktX0_again_2 : List UInt8 := dkwX0_again_2 ++ dktX0_again_3
def dkwX0_again_1 : List UInt8 := [160, 0, 20, 42, 180, 0, 66, 180, 0, 137, 42, 180, 0, 62, 180, 0, 137, 159, 0, 28, 42, 187, 0, 59]
abbrev dktX0_again_1 : List UInt8 := dkwX0_again_1 ++ dktX0_again_2
def dkwX0_again_0 : List UInt8 := [42, 180, 2, 88, 154, 0, 6, 16, 253, 172, 42, 180, 0, 66, 180, 0, 134, 42, 180, 0, 62, 180, 0, 134]
abbrev dktX0_again_0 : List UInt8 := dkwX0_again_0 ++ dktX0_again_1
theorem dksX0_again_0 : cX0_again.data.toList.drop 0 = dktX0_again_0 := by decide +kernel
theorem dksX0_again_1 : cX0_again.data.toList.drop 24 = dktX0_again_1 := dk_seg dksX0_again_0 24 rfl rfl
theorem dksX0_again_2 : cX0_again.data.toList.drop 48 = dktX0_again_2 := dk_seg dksX0_again_1 24 rfl rfl
theorem dksX0_again_3 : cX0_again.data.toList.drop 70 = dktX0_again_3 := dk_seg dksX0_again_2 22 rfl rfl
theorem dksX0_again_4 : cX0_again.data.toList.drop 92 = dktX0_again_4 := dk_seg dksX0_again_3 22 rfl rfl
theorem dX0_again_0 : decode cX0_again 0 = .ok (.aload_n 0, 1) := dk_42 (dk_at dksX0_again_0 0 rfl rfl)
theorem dX0_again_1 : decode cX0_again 1 = .ok (.getfield 600, 3) := dk_180 2 88 (dk_at dksX0_again_0 1 rfl rfl)
theorem dX0_again_4 : decode cX0_again 4 = .ok (.ifCond .ne 6, 3) := dk_154 0 6 (dk_at dksX0_again_0 4 rfl rfl)
theorem dX0_again_7 : decode cX0_again 7 = .ok (.bipush (-3), 2) := dk_16 253 (dk_at dksX0_again_0 7 rfl rfl)
theorem dX0_again_9 : decode cX0_again 9 = .ok (.ireturn, 1) := dk_172 (dk_at dksX0_again_0 9 rfl rfl)
theorem dX0_again_10 : decode cX0_again 10 = .ok (.aload_n 0, 1) := dk_42 (dk_at dksX0_again_0 10 rfl rfl)
theorem dX0_again_11 : decode cX0_again 11 = .ok (.getfield 66, 3) := dk_180 0 66 (dk_at dksX0_again_0 11 rfl rfl)
theorem dX0_again_14 : decode cX0_again 14 = .ok (.getfield 134, 3) := dk_180 0 134 (dk_at dksX0_again_0 14 rfl rfl)
theorem dX0_again_17 : decode cX0_again 17 = .ok (.aload_n 0, 1) := dk_42 (dk_at dksX0_again_0 17 rfl rfl)
theorem dX0_again_18 : decode cX0_again 18 = .ok (.getfield 62, 3) := dk_180 0 62 (dk_at dksX0_again_0 18 rfl rfl)
theorem dX0_again_21 : decode cX0_again 21 = .ok (.getfield 134, 3) := dk_180 0 134 (dk_at dksX0_again_0 21 rfl rfl)
theorem dX0_again_24 : decode cX0_again 24 = .ok (.if_icmp .ne 20, 3) := dk_160 0 20 (dk_at dksX0_again_1 0 rfl rfl)
theorem dX0_again_27 : decode cX0_again 27 = .ok (.aload_n 0, 1) := dk_42 (dk_at dksX0_again_1 3 rfl rfl)
theorem dX0_again_28 : decode cX0_again 28 = .ok (.getfield 66, 3) := dk_180 0 66 (dk_at dksX0_again_1 4 rfl rfl)
theorem dX0_again_31 : decode cX0_again 31 = .ok (.getfield 137, 3) := dk_180 0 137 (dk_at dksX0_again_1 7 rfl rfl)
theorem dX0_again_34 : decode cX0_again 34 = .ok (.aload_n 0, 1) := dk_42 (dk_at dksX0_again_1 10 rfl rfl)
theorem dX0_again_35 : decode cX0_again 35 = .ok (.getfield 62, 3) := dk_180 0 62 (dk_at dksX0_again_1 11 rfl rfl)
theorem dX0_again_38 : decode cX0_again 38 = .ok (.getfield 137, 3) := dk_180 0 137 (dk_at dksX0_again_1 14 rfl rfl)
theorem dX0_again_41 : decode cX0_again 41 = .ok (.if_icmp .eq 28, 3) := dk_159 0 28 (dk_at dksX0_again_1 17 rfl rfl)
theorem dX0_again_44 : decode cX0_again 44 = .ok (.aload_n 0, 1) := dk_42 (dk_at dksX0_again_1 20 rfl rfl)
theorem dX0_again_45 : decode cX0_again 45 = .ok (.new 59, 3) := dk_187 0 59 (dk_at dksX0_again_1 21 rfl rfl)
theorem dX0_again_48 : decode cX0_again 48 = .ok (.dup, 1) := dk_89 (dk_at dksX0_again_2 0 rfl rfl)
theorem dX0_again_49 : decode cX0_again 49 = .ok (.aload_n 0, 1) := dk_42 (dk_at dksX0_again_2 1 rfl rfl)
theorem dX0_again_50 : decode cX0_again 50 = .ok (.getfield 66, 3) := dk_180 0 66 (dk_at dksX0_again_2 2 rfl rfl)
theorem dX0_again_53 : decode cX0_again 53 = .ok (.getfield 134, 3) := dk_180 0 134 (dk_at dksX0_again_2 5 rfl rfl)
theorem dX0_again_56 : decode cX0_again 56 = .ok (.aload_n 0, 1) := dk_42 (dk_at dksX0_again_2 8 rfl rfl)
theorem dX0_again_57 : decode cX0_again 57 = .ok (.getfield 66, 3) := dk_180 0 66 (dk_at dksX0_again_2 9 rfl rfl)
theorem dX0_again_60 : decode cX0_again 60 = .ok (.getfield 137, 3) := dk_180 0 137 (dk_at dksX0_again_2 12 rfl rfl)
theorem dX0_again_63 : decode cX0_again 63 = .ok (.invokespecial 155, 3) := dk_183 0 155 (dk_at dksX0_again_2 15 rfl rfl)
theorem dX0_again_66 : decode cX0_again 66 = .ok (.putfield 62, 3) := dk_181 0 62 (dk_at dksX0_again_2 18 rfl rfl)
theorem dX0_again_69 : decode cX0_again 69 = .ok (.aload_n 0, 1) := dk_42 (dk_at dksX0_again_2 21 rfl rfl)
theorem dX0_again_70 : decode cX0_again 70 = .ok (.getfield 62, 3) := dk_180 0 62 (dk_at dksX0_again_3 0 rfl rfl)
theorem dX0_again_73 : decode cX0_again 73 = .ok (.aload_n 0, 1) := dk_42 (dk_at dksX0_again_3 3 rfl rfl)
theorem dX0_again_74 : decode cX0_again 74 = .ok (.getfield 66, 3) := dk_180 0 66 (dk_at dksX0_again_3 4 rfl rfl)
theorem dX0_again_77 : decode cX0_again 77 = .ok (.invokevirtual 276, 3) := dk_182 1 20 (dk_at dksX0_again_3 7 rfl rfl)
theorem dX0_again_80 : decode cX0_again 80 = .ok (.aload_n 0, 1) := dk_42 (dk_at dksX0_again_3 10 rfl rfl)
theorem dX0_again_81 : decode cX0_again 81 = .ok (.getfield 76, 3) := dk_180 0 76 (dk_at dksX0_again_3 11 rfl rfl)
theorem dX0_again_84 : decode cX0_again 84 = .ok (.iconst 0, 1) := dk_3 (dk_at dksX0_again_3 14 rfl rfl)
theorem dX0_again_85 : decode cX0_again 85 = .ok (.aload_n 0, 1) := dk_42 (dk_at dksX0_again_3 15 rfl rfl)
theorem dX0_again_86 : decode cX0_again 86 = .ok (.getfield 72, 3) := dk_180 0 72 (dk_at dksX0_again_3 16 rfl rfl)
theorem dX0_again_89 : decode cX0_again 89 = .ok (.iconst 0, 1) := dk_3 (dk_at dksX0_again_3 19 rfl rfl)
theorem dX0_again_90 : decode cX0_again 90 = .ok (.bipush 6, 2) := dk_16 6 (dk_at dksX0_again_3 20 rfl rfl)
theorem dX0_again_92 : decode cX0_again 92 = .ok (.invokestatic 539, 3) := dk_184 2 27 (dk_at dksX0_again_4 0 rfl rfl)
theorem dX0_again_95 : decode cX0_again 95 = .ok (.aload_n 0, 1) := dk_42 (dk_at dksX0_again_4 3 rfl rfl)
theorem dX0_again_96 : decode cX0_again 96 = .ok (.aload_n 0, 1) := dk_42 (dk_at dksX0_again_4 4 rfl rfl)
theorem dX0_again_97 : decode cX0_again 97 = .ok (.getfield 594, 3) := dk_180 2 82 (dk_at dksX0_again_4 5 rfl rfl)
theorem dX0_again_100 : decode cX0_again 100 = .ok (.putfield 127, 3) := dk_181 0 127 (dk_at dksX0_again_4 8 rfl rfl)
theorem dX0_again_103 : decode cX0_again 103 = .ok (.aload_n 0, 1) := dk_42 (dk_at dksX0_again_4 11 rfl rfl)
theorem dX0_again_104 : decode cX0_again 104 = .ok (.aload_n 0, 1) := dk_42 (dk_at dksX0_again_4 12 rfl rfl)
theorem dX0_again_105 : decode cX0_again 105 = .ok (.getfield 597, 3) := dk_180 2 85 (dk_at dksX0_again_4 13 rfl rfl)
theorem dX0_again_108 : decode cX0_again 108 = .ok (.putfield 79, 3) := dk_181 0 79 (dk_at dksX0_again_4 16 rfl rfl)
theorem dX0_again_111 : decode cX0_again 111 = .ok (.aload_n 0, 1) := dk_42 (dk_at dksX0_again_4 19 rfl rfl)
theorem dX0_again_112 : decode cX0_again 112 = .ok (.getfield 127, 3) := dk_180 0 127 (dk_at dksX0_again_4 20 rfl rfl)
theorem dX0_again_115 : decode cX0_again 115 = .ok (.ireturn, 1) := dk_172 (dk_at dksX0_again_4 23 rfl rfl)
theorem q102 : (Jvm.Cond.initialized "TwoSidedTables") ∈ lw_all := lw_g (lw_at lw_m1 1 rfl) rfl
theorem q139 : (Jvm.Cond.instantiable "TwoSidedTables" (29 : Nat)) ∈ lw_all := lw_g (lw_at lw_m1 38 rfl) rfl
theorem q141 : (Jvm.Cond.instanceMethod ({ cls := "TwoSidedTables", name := "<init>", desc := "()V" } : Jvm.MethodName)) ∈ lw_all := lw_g (lw_at lw_m1 40 rfl) rfl
theorem q142 : (Jvm.Cond.code ({ cls := "TwoSidedTables", name := "<init>", desc := "()V" } : Jvm.MethodName) prog_1_method_5_code (2 : Nat) (Option.none : Option Jvm.ClassFile.FieldType)) ∈ lw_all := lw_g (lw_at lw_m1 41 rfl) rfl
theorem q143 : (Jvm.Cond.methodLink "TwoSidedTables" (39 : Nat) ({ cls := "java/lang/Object", name := "<init>", desc := "()V" } : Jvm.MethodName)) ∈ lw_all := lw_g (lw_at lw_m1 42 rfl) rfl
theorem q146 : (Jvm.Cond.classLink "TwoSidedTables" (8 : Nat) "TwoSidedTables$Refusal") ∈ lw_all := lw_g (lw_at lw_m1 45 rfl) rfl
theorem q206 : (Jvm.Cond.methodLink "TwoSidedTables" (44 : Nat) ({ cls := "TwoSidedTables$Refusal", name := "<init>", desc := "()V" } : Jvm.MethodName)) ∈ lw_all := lw_g (lw_at lw_m1 105 rfl) rfl
theorem q219 : (Jvm.Cond.fieldLink "TwoSidedTables" (286 : Nat) "TwoSidedTables$Fault" "answer" "I") ∈ lw_all := lw_g (lw_at lw_m1 118 rfl) rfl
theorem q221 : (Jvm.Cond.fieldLink "TwoSidedTables" (497 : Nat) "TwoSidedTables$Refusal" "answer" "I") ∈ lw_all := lw_g (lw_at lw_m1 120 rfl) rfl
theorem q237 : (Jvm.Cond.classLink "TwoSidedTables" (45 : Nat) "TwoSidedTables$Fault") ∈ lw_all := lw_g (lw_at lw_m1 136 rfl) rfl
theorem q247 : (Jvm.Cond.methodLinkNest "TwoSidedTables" (47 : Nat) ({ cls := "TwoSidedTables$Fault", name := "<init>", desc := "()V" } : Jvm.MethodName) "TwoSidedTables") ∈ lw_tbl := lw_at lw_m1 146 rfl
theorem q254 : (Jvm.Cond.classLink "TwoSidedTables" (52 : Nat) "TwoSidedTables$Unsolvable") ∈ lw_all := lw_g (lw_at lw_m1 153 rfl) rfl
theorem q263 : (Jvm.Cond.methodLinkNest "TwoSidedTables" (54 : Nat) ({ cls := "TwoSidedTables$Unsolvable", name := "<init>", desc := "()V" } : Jvm.MethodName) "TwoSidedTables") ∈ lw_tbl := lw_at lw_m1 162 rfl
theorem q270 : (Jvm.Cond.classLink "TwoSidedTables" (59 : Nat) "TwoSidedTables$Tables") ∈ lw_all := lw_g (lw_at lw_m1 169 rfl) rfl
theorem q272 : (Jvm.Cond.methodLink "TwoSidedTables" (61 : Nat) ({ cls := "TwoSidedTables$Tables", name := "<init>", desc := "()V" } : Jvm.MethodName)) ∈ lw_all := lw_g (lw_at lw_m1 171 rfl) rfl
theorem q289 : (Jvm.Cond.fieldLinkNest "TwoSidedTables" (188 : Nat) "TwoSidedTables$Table" "rows" "I" "TwoSidedTables") ∈ lw_tbl := lw_at lw_m1 188 rfl
theorem q291 : (Jvm.Cond.fieldLinkNest "TwoSidedTables" (261 : Nat) "TwoSidedTables$Table" "columns" "I" "TwoSidedTables") ∈ lw_tbl := lw_at lw_m1 190 rfl
theorem q294 : (Jvm.Cond.fieldLinkNest "TwoSidedTables" (503 : Nat) "TwoSidedTables$Table" "cells" "[J" "TwoSidedTables") ∈ lw_tbl := lw_at lw_m1 193 rfl
theorem q307 : (Jvm.Cond.fieldLinkNest "TwoSidedTables" (134 : Nat) "TwoSidedTables$Tables" "m" "I" "TwoSidedTables") ∈ lw_tbl := lw_at lw_m1 206 rfl
theorem q309 : (Jvm.Cond.fieldLinkNest "TwoSidedTables" (137 : Nat) "TwoSidedTables$Tables" "n" "I" "TwoSidedTables") ∈ lw_tbl := lw_at lw_m1 208 rfl
theorem q313 : (Jvm.Cond.fieldLinkNest "TwoSidedTables" (309 : Nat) "TwoSidedTables$Tables" "a" "LTwoSidedTables$Table;" "TwoSidedTables") ∈ lw_tbl := lw_at lw_m1 212 rfl
theorem q316 : (Jvm.Cond.fieldLinkNest "TwoSidedTables" (425 : Nat) "TwoSidedTables$Tables" "b" "LTwoSidedTables$Table;" "TwoSidedTables") ∈ lw_tbl := lw_at lw_m1 215 rfl
theorem q318 : (Jvm.Cond.fieldLinkNest "TwoSidedTables" (323 : Nat) "TwoSidedTables$Tables" "c" "LTwoSidedTables$Table;" "TwoSidedTables") ∈ lw_tbl := lw_at lw_m1 217 rfl
theorem q330 : (Jvm.Cond.classLink "TwoSidedTables" (36 : Nat) "TwoSidedTables$Plain") ∈ lw_all := lw_g (lw_at lw_m1 229 rfl) rfl
theorem q332 : (Jvm.Cond.classLink "TwoSidedTables" (83 : Nat) "java/lang/String") ∈ lw_all := lw_g (lw_at lw_m1 231 rfl) rfl
theorem q334 : (Jvm.Cond.stringRef "TwoSidedTables" (85 : Nat) "a") ∈ lw_tbl := lw_at lw_m1 233 rfl
theorem q335 : (Jvm.Cond.stringRef "TwoSidedTables" (87 : Nat) "b") ∈ lw_tbl := lw_at lw_m1 234 rfl
theorem q336 : (Jvm.Cond.stringRef "TwoSidedTables" (89 : Nat) "c") ∈ lw_tbl := lw_at lw_m1 235 rfl
theorem q337 : (Jvm.Cond.classLink "TwoSidedTables" (110 : Nat) "TwoSidedTables$Shelf") ∈ lw_all := lw_g (lw_at lw_m1 236 rfl) rfl
theorem q339 : (Jvm.Cond.classLink "TwoSidedTables" (119 : Nat) "TwoSidedTables$Trace") ∈ lw_all := lw_g (lw_at lw_m1 238 rfl) rfl
theorem q341 : (Jvm.Cond.methodLinkNest "TwoSidedTables" (121 : Nat) ({ cls := "TwoSidedTables$Trace", name := "<init>", desc := "()V" } : Jvm.MethodName) "TwoSidedTables") ∈ lw_tbl := lw_at lw_m2 0 rfl
theorem q346 : (Jvm.Cond.fieldLinkNest "TwoSidedTables" (588 : Nat) "TwoSidedTables$Trace" "bodies" "[I" "TwoSidedTables") ∈ lw_tbl := lw_at lw_m2 5 rfl
theorem q348 : (Jvm.Cond.fieldLinkNest "TwoSidedTables" (572 : Nat) "TwoSidedTables$Trace" "many" "I" "TwoSidedTables") ∈ lw_tbl := lw_at lw_m2 7 rfl
theorem q357 : (Jvm.Cond.methodLinkNest "TwoSidedTables" (126 : Nat) ({ cls := "TwoSidedTables$Shelf", name := "<init>", desc := "()V" } : Jvm.MethodName) "TwoSidedTables") ∈ lw_tbl := lw_at lw_m2 16 rfl
theorem q361 : (Jvm.Cond.fieldLinkNest "TwoSidedTables" (470 : Nat) "TwoSidedTables$Shelf" "held" "Ljava/lang/Object;" "TwoSidedTables") ∈ lw_tbl := lw_at lw_m2 20 rfl
theorem q365 : (Jvm.Cond.fieldLink "TwoSidedTables" (1 : Nat) "TwoSidedTables" "refusal" "LTwoSidedTables$Refusal;") ∈ lw_all := lw_g (lw_at lw_m2 24 rfl) rfl
theorem q366 : (Jvm.Cond.fieldLink "TwoSidedTables" (48 : Nat) "TwoSidedTables" "fault" "LTwoSidedTables$Fault;") ∈ lw_all := lw_g (lw_at lw_m2 25 rfl) rfl
theorem q367 : (Jvm.Cond.fieldLink "TwoSidedTables" (55 : Nat) "TwoSidedTables" "unsolvable" "LTwoSidedTables$Unsolvable;") ∈ lw_all := lw_g (lw_at lw_m2 26 rfl) rfl
theorem q368 : (Jvm.Cond.fieldLink "TwoSidedTables" (62 : Nat) "TwoSidedTables" "now" "LTwoSidedTables$Tables;") ∈ lw_all := lw_g (lw_at lw_m2 27 rfl) rfl
theorem q369 : (Jvm.Cond.fieldLink "TwoSidedTables" (66 : Nat) "TwoSidedTables" "kept" "LTwoSidedTables$Tables;") ∈ lw_all := lw_g (lw_at lw_m2 28 rfl) rfl
theorem q370 : (Jvm.Cond.fieldLink "TwoSidedTables" (69 : Nat) "TwoSidedTables" "tried" "LTwoSidedTables$Tables;") ∈ lw_all := lw_g (lw_at lw_m2 29 rfl) rfl
theorem q371 : (Jvm.Cond.fieldLink "TwoSidedTables" (72 : Nat) "TwoSidedTables" "equations" "[LTwoSidedTables$Plain;") ∈ lw_all := lw_g (lw_at lw_m2 30 rfl) rfl
theorem q372 : (Jvm.Cond.fieldLink "TwoSidedTables" (76 : Nat) "TwoSidedTables" "keptEquations" "[LTwoSidedTables$Plain;") ∈ lw_all := lw_g (lw_at lw_m2 31 rfl) rfl
theorem q373 : (Jvm.Cond.fieldLink "TwoSidedTables" (127 : Nat) "TwoSidedTables" "many" "I") ∈ lw_all := lw_g (lw_at lw_m2 32 rfl) rfl
theorem q374 : (Jvm.Cond.fieldLink "TwoSidedTables" (594 : Nat) "TwoSidedTables" "keptMany" "I") ∈ lw_all := lw_g (lw_at lw_m2 33 rfl) rfl
theorem q375 : (Jvm.Cond.fieldLink "TwoSidedTables" (79 : Nat) "TwoSidedTables" "z" "I") ∈ lw_all := lw_g (lw_at lw_m2 34 rfl) rfl
theorem q376 : (Jvm.Cond.fieldLink "TwoSidedTables" (597 : Nat) "TwoSidedTables" "keptZ" "I") ∈ lw_all := lw_g (lw_at lw_m2 35 rfl) rfl
theorem q377 : (Jvm.Cond.fieldLink "TwoSidedTables" (600 : Nat) "TwoSidedTables" "isKept" "Z") ∈ lw_all := lw_g (lw_at lw_m2 36 rfl) rfl
theorem q378 : (Jvm.Cond.fieldLink "TwoSidedTables" (91 : Nat) "TwoSidedTables" "names" "[Ljava/lang/String;") ∈ lw_all := lw_g (lw_at lw_m2 37 rfl) rfl
theorem q379 : (Jvm.Cond.fieldLink "TwoSidedTables" (95 : Nat) "TwoSidedTables" "tape" "[B") ∈ lw_all := lw_g (lw_at lw_m2 38 rfl) rfl
theorem q380 : (Jvm.Cond.fieldLink "TwoSidedTables" (218 : Nat) "TwoSidedTables" "tapeMany" "I") ∈ lw_all := lw_g (lw_at lw_m2 39 rfl) rfl
theorem q381 : (Jvm.Cond.fieldLink "TwoSidedTables" (224 : Nat) "TwoSidedTables" "at" "I") ∈ lw_all := lw_g (lw_at lw_m2 40 rfl) rfl
theorem q382 : (Jvm.Cond.fieldLink "TwoSidedTables" (221 : Nat) "TwoSidedTables" "end" "I") ∈ lw_all := lw_g (lw_at lw_m2 41 rfl) rfl
theorem q383 : (Jvm.Cond.fieldLink "TwoSidedTables" (99 : Nat) "TwoSidedTables" "grid" "[J") ∈ lw_all := lw_g (lw_at lw_m2 42 rfl) rfl
theorem q384 : (Jvm.Cond.fieldLink "TwoSidedTables" (103 : Nat) "TwoSidedTables" "pivotAt" "[I") ∈ lw_all := lw_g (lw_at lw_m2 43 rfl) rfl
theorem q385 : (Jvm.Cond.fieldLink "TwoSidedTables" (289 : Nat) "TwoSidedTables" "gridRows" "I") ∈ lw_all := lw_g (lw_at lw_m2 44 rfl) rfl
theorem q386 : (Jvm.Cond.fieldLink "TwoSidedTables" (292 : Nat) "TwoSidedTables" "gridUnknowns" "I") ∈ lw_all := lw_g (lw_at lw_m2 45 rfl) rfl
theorem q387 : (Jvm.Cond.fieldLink "TwoSidedTables" (345 : Nat) "TwoSidedTables" "rank" "I") ∈ lw_all := lw_g (lw_at lw_m2 46 rfl) rfl
theorem q388 : (Jvm.Cond.fieldLink "TwoSidedTables" (329 : Nat) "TwoSidedTables" "sign" "I") ∈ lw_all := lw_g (lw_at lw_m2 47 rfl) rfl
theorem q389 : (Jvm.Cond.fieldLink "TwoSidedTables" (341 : Nat) "TwoSidedTables" "pivot" "J") ∈ lw_all := lw_g (lw_at lw_m2 48 rfl) rfl
theorem q390 : (Jvm.Cond.fieldLink "TwoSidedTables" (107 : Nat) "TwoSidedTables" "strangers" "[LTwoSidedTables$Plain;") ∈ lw_all := lw_g (lw_at lw_m2 49 rfl) rfl
theorem q391 : (Jvm.Cond.fieldLink "TwoSidedTables" (112 : Nat) "TwoSidedTables" "shelves" "[LTwoSidedTables$Shelf;") ∈ lw_all := lw_g (lw_at lw_m2 50 rfl) rfl
theorem q392 : (Jvm.Cond.fieldLink "TwoSidedTables" (116 : Nat) "TwoSidedTables" "sheets" "[LTwoSidedTables$Shelf;") ∈ lw_all := lw_g (lw_at lw_m2 51 rfl) rfl
theorem q393 : (Jvm.Cond.fieldLink "TwoSidedTables" (122 : Nat) "TwoSidedTables" "trace" "LTwoSidedTables$Trace;") ∈ lw_all := lw_g (lw_at lw_m2 52 rfl) rfl
theorem q394 : (Jvm.Cond.laysFinal "TwoSidedTables" "TwoSidedTables" "refusal" "LTwoSidedTables$Refusal;") ∈ lw_all := lw_g (lw_at lw_m2 53 rfl) rfl
theorem q395 : (Jvm.Cond.soleField "TwoSidedTables" "refusal") ∈ lw_all := lw_g (lw_at lw_m2 54 rfl) rfl
theorem q396 : (Jvm.Cond.laysFinal "TwoSidedTables" "TwoSidedTables" "fault" "LTwoSidedTables$Fault;") ∈ lw_all := lw_g (lw_at lw_m2 55 rfl) rfl
theorem q397 : (Jvm.Cond.soleField "TwoSidedTables" "fault") ∈ lw_all := lw_g (lw_at lw_m2 56 rfl) rfl
theorem q398 : (Jvm.Cond.laysFinal "TwoSidedTables" "TwoSidedTables" "unsolvable" "LTwoSidedTables$Unsolvable;") ∈ lw_all := lw_g (lw_at lw_m2 57 rfl) rfl
theorem q399 : (Jvm.Cond.soleField "TwoSidedTables" "unsolvable") ∈ lw_all := lw_g (lw_at lw_m2 58 rfl) rfl
theorem q400 : (Jvm.Cond.lays "TwoSidedTables" "TwoSidedTables" "now" "LTwoSidedTables$Tables;") ∈ lw_all := lw_g (lw_at lw_m2 59 rfl) rfl
theorem q401 : (Jvm.Cond.soleField "TwoSidedTables" "now") ∈ lw_all := lw_g (lw_at lw_m2 60 rfl) rfl
theorem q402 : (Jvm.Cond.lays "TwoSidedTables" "TwoSidedTables" "kept" "LTwoSidedTables$Tables;") ∈ lw_all := lw_g (lw_at lw_m2 61 rfl) rfl
theorem q403 : (Jvm.Cond.soleField "TwoSidedTables" "kept") ∈ lw_all := lw_g (lw_at lw_m2 62 rfl) rfl
theorem q404 : (Jvm.Cond.lays "TwoSidedTables" "TwoSidedTables" "tried" "LTwoSidedTables$Tables;") ∈ lw_all := lw_g (lw_at lw_m2 63 rfl) rfl
theorem q405 : (Jvm.Cond.soleField "TwoSidedTables" "tried") ∈ lw_all := lw_g (lw_at lw_m2 64 rfl) rfl
theorem q406 : (Jvm.Cond.laysFinal "TwoSidedTables" "TwoSidedTables" "equations" "[LTwoSidedTables$Plain;") ∈ lw_all := lw_g (lw_at lw_m2 65 rfl) rfl
theorem q407 : (Jvm.Cond.soleField "TwoSidedTables" "equations") ∈ lw_all := lw_g (lw_at lw_m2 66 rfl) rfl
theorem q408 : (Jvm.Cond.laysFinal "TwoSidedTables" "TwoSidedTables" "keptEquations" "[LTwoSidedTables$Plain;") ∈ lw_all := lw_g (lw_at lw_m2 67 rfl) rfl
theorem q409 : (Jvm.Cond.soleField "TwoSidedTables" "keptEquations") ∈ lw_all := lw_g (lw_at lw_m2 68 rfl) rfl
theorem q410 : (Jvm.Cond.lays "TwoSidedTables" "TwoSidedTables" "many" "I") ∈ lw_all := lw_g (lw_at lw_m2 69 rfl) rfl
theorem q411 : (Jvm.Cond.soleField "TwoSidedTables" "many") ∈ lw_all := lw_g (lw_at lw_m2 70 rfl) rfl
theorem q412 : (Jvm.Cond.lays "TwoSidedTables" "TwoSidedTables" "keptMany" "I") ∈ lw_all := lw_g (lw_at lw_m2 71 rfl) rfl
theorem q413 : (Jvm.Cond.soleField "TwoSidedTables" "keptMany") ∈ lw_all := lw_g (lw_at lw_m2 72 rfl) rfl
theorem q414 : (Jvm.Cond.lays "TwoSidedTables" "TwoSidedTables" "z" "I") ∈ lw_all := lw_g (lw_at lw_m2 73 rfl) rfl
theorem q415 : (Jvm.Cond.soleField "TwoSidedTables" "z") ∈ lw_all := lw_g (lw_at lw_m2 74 rfl) rfl
theorem q416 : (Jvm.Cond.lays "TwoSidedTables" "TwoSidedTables" "keptZ" "I") ∈ lw_all := lw_g (lw_at lw_m2 75 rfl) rfl
theorem q417 : (Jvm.Cond.soleField "TwoSidedTables" "keptZ") ∈ lw_all := lw_g (lw_at lw_m2 76 rfl) rfl
theorem q418 : (Jvm.Cond.lays "TwoSidedTables" "TwoSidedTables" "isKept" "Z") ∈ lw_all := lw_g (lw_at lw_m2 77 rfl) rfl
theorem q419 : (Jvm.Cond.soleField "TwoSidedTables" "isKept") ∈ lw_all := lw_g (lw_at lw_m2 78 rfl) rfl
theorem q420 : (Jvm.Cond.laysFinal "TwoSidedTables" "TwoSidedTables" "names" "[Ljava/lang/String;") ∈ lw_all := lw_g (lw_at lw_m2 79 rfl) rfl
theorem q421 : (Jvm.Cond.soleField "TwoSidedTables" "names") ∈ lw_all := lw_g (lw_at lw_m2 80 rfl) rfl
theorem q422 : (Jvm.Cond.laysFinal "TwoSidedTables" "TwoSidedTables" "tape" "[B") ∈ lw_all := lw_g (lw_at lw_m2 81 rfl) rfl
theorem q423 : (Jvm.Cond.soleField "TwoSidedTables" "tape") ∈ lw_all := lw_g (lw_at lw_m2 82 rfl) rfl
theorem q424 : (Jvm.Cond.lays "TwoSidedTables" "TwoSidedTables" "tapeMany" "I") ∈ lw_all := lw_g (lw_at lw_m2 83 rfl) rfl
theorem q425 : (Jvm.Cond.soleField "TwoSidedTables" "tapeMany") ∈ lw_all := lw_g (lw_at lw_m2 84 rfl) rfl
theorem q426 : (Jvm.Cond.lays "TwoSidedTables" "TwoSidedTables" "at" "I") ∈ lw_all := lw_g (lw_at lw_m2 85 rfl) rfl
theorem q427 : (Jvm.Cond.soleField "TwoSidedTables" "at") ∈ lw_all := lw_g (lw_at lw_m2 86 rfl) rfl
theorem q428 : (Jvm.Cond.lays "TwoSidedTables" "TwoSidedTables" "end" "I") ∈ lw_all := lw_g (lw_at lw_m2 87 rfl) rfl
theorem q429 : (Jvm.Cond.soleField "TwoSidedTables" "end") ∈ lw_all := lw_g (lw_at lw_m2 88 rfl) rfl
theorem q430 : (Jvm.Cond.laysFinal "TwoSidedTables" "TwoSidedTables" "grid" "[J") ∈ lw_all := lw_g (lw_at lw_m2 89 rfl) rfl
theorem q431 : (Jvm.Cond.soleField "TwoSidedTables" "grid") ∈ lw_all := lw_g (lw_at lw_m2 90 rfl) rfl
theorem q432 : (Jvm.Cond.laysFinal "TwoSidedTables" "TwoSidedTables" "pivotAt" "[I") ∈ lw_all := lw_g (lw_at lw_m2 91 rfl) rfl
theorem q433 : (Jvm.Cond.soleField "TwoSidedTables" "pivotAt") ∈ lw_all := lw_g (lw_at lw_m2 92 rfl) rfl
theorem q434 : (Jvm.Cond.lays "TwoSidedTables" "TwoSidedTables" "gridRows" "I") ∈ lw_all := lw_g (lw_at lw_m2 93 rfl) rfl
theorem q435 : (Jvm.Cond.soleField "TwoSidedTables" "gridRows") ∈ lw_all := lw_g (lw_at lw_m2 94 rfl) rfl
theorem q436 : (Jvm.Cond.lays "TwoSidedTables" "TwoSidedTables" "gridUnknowns" "I") ∈ lw_all := lw_g (lw_at lw_m2 95 rfl) rfl
theorem q437 : (Jvm.Cond.soleField "TwoSidedTables" "gridUnknowns") ∈ lw_all := lw_g (lw_at lw_m2 96 rfl) rfl
theorem q438 : (Jvm.Cond.lays "TwoSidedTables" "TwoSidedTables" "rank" "I") ∈ lw_all := lw_g (lw_at lw_m2 97 rfl) rfl
theorem q439 : (Jvm.Cond.soleField "TwoSidedTables" "rank") ∈ lw_all := lw_g (lw_at lw_m2 98 rfl) rfl
theorem q440 : (Jvm.Cond.lays "TwoSidedTables" "TwoSidedTables" "sign" "I") ∈ lw_all := lw_g (lw_at lw_m2 99 rfl) rfl
theorem q441 : (Jvm.Cond.soleField "TwoSidedTables" "sign") ∈ lw_all := lw_g (lw_at lw_m2 100 rfl) rfl
theorem q442 : (Jvm.Cond.lays "TwoSidedTables" "TwoSidedTables" "pivot" "J") ∈ lw_all := lw_g (lw_at lw_m2 101 rfl) rfl
theorem q443 : (Jvm.Cond.soleField "TwoSidedTables" "pivot") ∈ lw_all := lw_g (lw_at lw_m2 102 rfl) rfl
theorem q444 : (Jvm.Cond.laysFinal "TwoSidedTables" "TwoSidedTables" "strangers" "[LTwoSidedTables$Plain;") ∈ lw_all := lw_g (lw_at lw_m2 103 rfl) rfl
theorem q445 : (Jvm.Cond.soleField "TwoSidedTables" "strangers") ∈ lw_all := lw_g (lw_at lw_m2 104 rfl) rfl
theorem q446 : (Jvm.Cond.laysFinal "TwoSidedTables" "TwoSidedTables" "shelves" "[LTwoSidedTables$Shelf;") ∈ lw_all := lw_g (lw_at lw_m2 105 rfl) rfl
theorem q447 : (Jvm.Cond.soleField "TwoSidedTables" "shelves") ∈ lw_all := lw_g (lw_at lw_m2 106 rfl) rfl
theorem q448 : (Jvm.Cond.laysFinal "TwoSidedTables" "TwoSidedTables" "sheets" "[LTwoSidedTables$Shelf;") ∈ lw_all := lw_g (lw_at lw_m2 107 rfl) rfl
theorem q449 : (Jvm.Cond.soleField "TwoSidedTables" "sheets") ∈ lw_all := lw_g (lw_at lw_m2 108 rfl) rfl
theorem q450 : (Jvm.Cond.laysFinal "TwoSidedTables" "TwoSidedTables" "trace" "LTwoSidedTables$Trace;") ∈ lw_all := lw_g (lw_at lw_m2 109 rfl) rfl
theorem q451 : (Jvm.Cond.soleField "TwoSidedTables" "trace") ∈ lw_all := lw_g (lw_at lw_m2 110 rfl) rfl
theorem q452 : (Jvm.Cond.superclass "TwoSidedTables" "java/lang/Object") ∈ lw_all := lw_g (lw_at lw_m2 111 rfl) rfl
theorem q454 : (Jvm.Cond.instanceMethod ({ cls := "TwoSidedTables", name := "size", desc := "(II)I" } : Jvm.MethodName)) ∈ lw_all := lw_g (lw_at lw_m2 113 rfl) rfl
theorem q455 : (Jvm.Cond.selects "TwoSidedTables" ({ cls := "TwoSidedTables", name := "size", desc := "(II)I" } : Jvm.MethodName) ({ cls := "TwoSidedTables", name := "size", desc := "(II)I" } : Jvm.MethodName)) ∈ lw_all := lw_g (lw_at lw_m2 114 rfl) rfl
theorem q456 : (Jvm.Cond.code ({ cls := "TwoSidedTables", name := "size", desc := "(II)I" } : Jvm.MethodName) prog_1_method_14_code (4 : Nat) (Option.some Jvm.ClassFile.FieldType.int)) ∈ lw_all := lw_g (lw_at lw_m2 115 rfl) rfl
theorem q457 : (Jvm.Cond.methodLink "TwoSidedTables" (130 : Nat) ({ cls := "TwoSidedTables", name := "isIn", desc := "(III)Z" } : Jvm.MethodName)) ∈ lw_all := lw_g (lw_at lw_m2 116 rfl) rfl
theorem q458 : (Jvm.Cond.static ({ cls := "TwoSidedTables", name := "isIn", desc := "(III)Z" } : Jvm.MethodName)) ∈ lw_all := lw_g (lw_at lw_m2 117 rfl) rfl
theorem q459 : (Jvm.Cond.code ({ cls := "TwoSidedTables", name := "isIn", desc := "(III)Z" } : Jvm.MethodName) prog_1_method_1_code (3 : Nat) (Option.some Jvm.ClassFile.FieldType.boolean)) ∈ lw_all := lw_g (lw_at lw_m2 118 rfl) rfl
theorem q460 : (Jvm.Cond.methodLink "TwoSidedTables" (155 : Nat) ({ cls := "TwoSidedTables$Tables", name := "<init>", desc := "(II)V" } : Jvm.MethodName)) ∈ lw_all := lw_g (lw_at lw_m2 119 rfl) rfl
theorem q462 : (Jvm.Cond.instanceMethod ({ cls := "TwoSidedTables", name := "set", desc := "(IIII)I" } : Jvm.MethodName)) ∈ lw_all := lw_g (lw_at lw_m2 121 rfl) rfl
theorem q463 : (Jvm.Cond.selects "TwoSidedTables" ({ cls := "TwoSidedTables", name := "set", desc := "(IIII)I" } : Jvm.MethodName) ({ cls := "TwoSidedTables", name := "set", desc := "(IIII)I" } : Jvm.MethodName)) ∈ lw_all := lw_g (lw_at lw_m2 122 rfl) rfl
theorem q464 : (Jvm.Cond.code ({ cls := "TwoSidedTables", name := "set", desc := "(IIII)I" } : Jvm.MethodName) prog_1_method_16_code (6 : Nat) (Option.some Jvm.ClassFile.FieldType.int)) ∈ lw_all := lw_g (lw_at lw_m2 123 rfl) rfl
theorem q465 : (Jvm.Cond.methodLink "TwoSidedTables" (156 : Nat) ({ cls := "TwoSidedTables", name := "isTable", desc := "(I)Z" } : Jvm.MethodName)) ∈ lw_all := lw_g (lw_at lw_m2 124 rfl) rfl
theorem q466 : (Jvm.Cond.static ({ cls := "TwoSidedTables", name := "isTable", desc := "(I)Z" } : Jvm.MethodName)) ∈ lw_all := lw_g (lw_at lw_m2 125 rfl) rfl
theorem q467 : (Jvm.Cond.code ({ cls := "TwoSidedTables", name := "isTable", desc := "(I)Z" } : Jvm.MethodName) prog_1_method_10_code (1 : Nat) (Option.some Jvm.ClassFile.FieldType.boolean)) ∈ lw_all := lw_g (lw_at lw_m2 126 rfl) rfl
theorem q468 : (Jvm.Cond.methodLink "TwoSidedTables" (160 : Nat) ({ cls := "TwoSidedTables$Tables", name := "byNumber", desc := "(I)LTwoSidedTables$Table;" } : Jvm.MethodName)) ∈ lw_all := lw_g (lw_at lw_m2 127 rfl) rfl
theorem q472 : (Jvm.Cond.methodLink "TwoSidedTables" (164 : Nat) ({ cls := "TwoSidedTables$Table", name := "has", desc := "(II)Z" } : Jvm.MethodName)) ∈ lw_all := lw_g (lw_at lw_m2 131 rfl) rfl
theorem q477 : (Jvm.Cond.methodLink "TwoSidedTables" (170 : Nat) ({ cls := "TwoSidedTables", name := "mayBe", desc := "(IJ)Z" } : Jvm.MethodName)) ∈ lw_all := lw_g (lw_at lw_m2 136 rfl) rfl
theorem q478 : (Jvm.Cond.static ({ cls := "TwoSidedTables", name := "mayBe", desc := "(IJ)Z" } : Jvm.MethodName)) ∈ lw_all := lw_g (lw_at lw_m2 137 rfl) rfl
theorem q479 : (Jvm.Cond.code ({ cls := "TwoSidedTables", name := "mayBe", desc := "(IJ)Z" } : Jvm.MethodName) prog_1_method_15_code (3 : Nat) (Option.some Jvm.ClassFile.FieldType.boolean)) ∈ lw_all := lw_g (lw_at lw_m2 138 rfl) rfl
theorem q480 : (Jvm.Cond.methodLink "TwoSidedTables" (174 : Nat) ({ cls := "TwoSidedTables$Table", name := "at", desc := "(II)J" } : Jvm.MethodName)) ∈ lw_all := lw_g (lw_at lw_m2 139 rfl) rfl
theorem q484 : (Jvm.Cond.methodLink "TwoSidedTables" (178 : Nat) ({ cls := "TwoSidedTables$Table", name := "set", desc := "(IIJ)V" } : Jvm.MethodName)) ∈ lw_all := lw_g (lw_at lw_m2 143 rfl) rfl
theorem q489 : (Jvm.Cond.instanceMethod ({ cls := "TwoSidedTables", name := "at", desc := "(III)I" } : Jvm.MethodName)) ∈ lw_all := lw_g (lw_at lw_m2 148 rfl) rfl
theorem q490 : (Jvm.Cond.selects "TwoSidedTables" ({ cls := "TwoSidedTables", name := "at", desc := "(III)I" } : Jvm.MethodName) ({ cls := "TwoSidedTables", name := "at", desc := "(III)I" } : Jvm.MethodName)) ∈ lw_all := lw_g (lw_at lw_m2 149 rfl) rfl
theorem q491 : (Jvm.Cond.code ({ cls := "TwoSidedTables", name := "at", desc := "(III)I" } : Jvm.MethodName) prog_1_method_17_code (4 : Nat) (Option.some Jvm.ClassFile.FieldType.int)) ∈ lw_all := lw_g (lw_at lw_m2 150 rfl) rfl
theorem q493 : (Jvm.Cond.instanceMethod ({ cls := "TwoSidedTables", name := "det", desc := "(I)J" } : Jvm.MethodName)) ∈ lw_all := lw_g (lw_at lw_m2 152 rfl) rfl
theorem q494 : (Jvm.Cond.selects "TwoSidedTables" ({ cls := "TwoSidedTables", name := "det", desc := "(I)J" } : Jvm.MethodName) ({ cls := "TwoSidedTables", name := "det", desc := "(I)J" } : Jvm.MethodName)) ∈ lw_all := lw_g (lw_at lw_m2 153 rfl) rfl
theorem q495 : (Jvm.Cond.code ({ cls := "TwoSidedTables", name := "det", desc := "(I)J" } : Jvm.MethodName) prog_1_method_22_code (2 : Nat) (Option.some Jvm.ClassFile.FieldType.long)) ∈ lw_all := lw_g (lw_at lw_m2 154 rfl) rfl
theorem q496 : (Jvm.Cond.methodLink "TwoSidedTables" (199 : Nat) ({ cls := "TwoSidedTables", name := "determinant", desc := "(LTwoSidedTables$Table;)J" } : Jvm.MethodName)) ∈ lw_all := lw_g (lw_at lw_m2 155 rfl) rfl
theorem q497 : (Jvm.Cond.static ({ cls := "TwoSidedTables", name := "determinant", desc := "(LTwoSidedTables$Table;)J" } : Jvm.MethodName)) ∈ lw_all := lw_g (lw_at lw_m2 156 rfl) rfl
theorem q498 : (Jvm.Cond.code ({ cls := "TwoSidedTables", name := "determinant", desc := "(LTwoSidedTables$Table;)J" } : Jvm.MethodName) prog_1_method_20_code (1 : Nat) (Option.some Jvm.ClassFile.FieldType.long)) ∈ lw_all := lw_g (lw_at lw_m2 157 rfl) rfl
theorem q499 : (Jvm.Cond.methodLink "TwoSidedTables" (191 : Nat) ({ cls := "TwoSidedTables", name := "minor", desc := "(LTwoSidedTables$Table;IIII)J" } : Jvm.MethodName)) ∈ lw_all := lw_g (lw_at lw_m2 158 rfl) rfl
theorem q500 : (Jvm.Cond.static ({ cls := "TwoSidedTables", name := "minor", desc := "(LTwoSidedTables$Table;IIII)J" } : Jvm.MethodName)) ∈ lw_all := lw_g (lw_at lw_m2 159 rfl) rfl
theorem q501 : (Jvm.Cond.code ({ cls := "TwoSidedTables", name := "minor", desc := "(LTwoSidedTables$Table;IIII)J" } : Jvm.MethodName) prog_1_method_19_code (5 : Nat) (Option.some Jvm.ClassFile.FieldType.long)) ∈ lw_all := lw_g (lw_at lw_m2 160 rfl) rfl
theorem q502 : (Jvm.Cond.methodLink "TwoSidedTables" (195 : Nat) ({ cls := "TwoSidedTables", name := "sum", desc := "([J)J" } : Jvm.MethodName)) ∈ lw_all := lw_g (lw_at lw_m2 161 rfl) rfl
theorem q503 : (Jvm.Cond.static ({ cls := "TwoSidedTables", name := "sum", desc := "([J)J" } : Jvm.MethodName)) ∈ lw_all := lw_g (lw_at lw_m2 162 rfl) rfl
theorem q504 : (Jvm.Cond.code ({ cls := "TwoSidedTables", name := "sum", desc := "([J)J" } : Jvm.MethodName) prog_1_method_18_code (8 : Nat) (Option.some Jvm.ClassFile.FieldType.long)) ∈ lw_all := lw_g (lw_at lw_m2 163 rfl) rfl
theorem q505 : (Jvm.Cond.methodLink "TwoSidedTables" (182 : Nat) ({ cls := "java/lang/Math", name := "addExact", desc := "(JJ)J" } : Jvm.MethodName)) ∈ lw_all := lw_g (lw_at lw_m2 164 rfl) rfl
theorem q532 : (Jvm.Cond.methodLink "TwoSidedTables" (203 : Nat) ({ cls := "TwoSidedTables", name := "far", desc := "(I)J" } : Jvm.MethodName)) ∈ lw_all := lw_g (lw_at lw_m2 191 rfl) rfl
theorem q533 : (Jvm.Cond.static ({ cls := "TwoSidedTables", name := "far", desc := "(I)J" } : Jvm.MethodName)) ∈ lw_all := lw_g (lw_at lw_m2 192 rfl) rfl
theorem q534 : (Jvm.Cond.code ({ cls := "TwoSidedTables", name := "far", desc := "(I)J" } : Jvm.MethodName) prog_1_method_3_code (1 : Nat) (Option.some Jvm.ClassFile.FieldType.long)) ∈ lw_all := lw_g (lw_at lw_m2 193 rfl) rfl
theorem q535 : (Jvm.Cond.constantLong "TwoSidedTables" (13 : Nat) (-4000000000000000000 : Int64)) ∈ lw_all := lw_g (lw_at lw_m2 194 rfl) rfl
theorem q537 : (Jvm.Cond.instanceMethod ({ cls := "TwoSidedTables", name := "diagonal", desc := "(I)J" } : Jvm.MethodName)) ∈ lw_all := lw_g (lw_at lw_m2 196 rfl) rfl
theorem q538 : (Jvm.Cond.selects "TwoSidedTables" ({ cls := "TwoSidedTables", name := "diagonal", desc := "(I)J" } : Jvm.MethodName) ({ cls := "TwoSidedTables", name := "diagonal", desc := "(I)J" } : Jvm.MethodName)) ∈ lw_all := lw_g (lw_at lw_m2 197 rfl) rfl
theorem q539 : (Jvm.Cond.code ({ cls := "TwoSidedTables", name := "diagonal", desc := "(I)J" } : Jvm.MethodName) prog_1_method_23_code (2 : Nat) (Option.some Jvm.ClassFile.FieldType.long)) ∈ lw_all := lw_g (lw_at lw_m2 198 rfl) rfl
theorem q540 : (Jvm.Cond.methodLink "TwoSidedTables" (140 : Nat) ({ cls := "TwoSidedTables", name := "isSquare", desc := "()Z" } : Jvm.MethodName)) ∈ lw_all := lw_g (lw_at lw_m2 199 rfl) rfl
theorem q541 : (Jvm.Cond.privateMethod ({ cls := "TwoSidedTables", name := "isSquare", desc := "()Z" } : Jvm.MethodName)) ∈ lw_tbl := lw_at lw_m2 200 rfl
theorem q542 : (Jvm.Cond.instanceMethod ({ cls := "TwoSidedTables", name := "isSquare", desc := "()Z" } : Jvm.MethodName)) ∈ lw_all := lw_g (lw_at lw_m2 201 rfl) rfl
theorem q543 : (Jvm.Cond.code ({ cls := "TwoSidedTables", name := "isSquare", desc := "()Z" } : Jvm.MethodName) prog_1_method_11_code (1 : Nat) (Option.some Jvm.ClassFile.FieldType.boolean)) ∈ lw_all := lw_g (lw_at lw_m2 202 rfl) rfl
theorem q544 : (Jvm.Cond.methodLink "TwoSidedTables" (207 : Nat) ({ cls := "TwoSidedTables$Table", name := "diagonal", desc := "()J" } : Jvm.MethodName)) ∈ lw_all := lw_g (lw_at lw_m2 203 rfl) rfl
theorem q550 : (Jvm.Cond.instanceMethod ({ cls := "TwoSidedTables", name := "character", desc := "(II)J" } : Jvm.MethodName)) ∈ lw_all := lw_g (lw_at lw_m2 209 rfl) rfl
theorem q551 : (Jvm.Cond.selects "TwoSidedTables" ({ cls := "TwoSidedTables", name := "character", desc := "(II)J" } : Jvm.MethodName) ({ cls := "TwoSidedTables", name := "character", desc := "(II)J" } : Jvm.MethodName)) ∈ lw_all := lw_g (lw_at lw_m2 210 rfl) rfl
theorem q552 : (Jvm.Cond.code ({ cls := "TwoSidedTables", name := "character", desc := "(II)J" } : Jvm.MethodName) prog_1_method_25_code (3 : Nat) (Option.some Jvm.ClassFile.FieldType.long)) ∈ lw_all := lw_g (lw_at lw_m2 211 rfl) rfl
theorem q553 : (Jvm.Cond.methodLink "TwoSidedTables" (214 : Nat) ({ cls := "TwoSidedTables", name := "characterOf", desc := "(LTwoSidedTables$Table;I)J" } : Jvm.MethodName)) ∈ lw_all := lw_g (lw_at lw_m2 212 rfl) rfl
theorem q554 : (Jvm.Cond.static ({ cls := "TwoSidedTables", name := "characterOf", desc := "(LTwoSidedTables$Table;I)J" } : Jvm.MethodName)) ∈ lw_all := lw_g (lw_at lw_m2 213 rfl) rfl
theorem q555 : (Jvm.Cond.code ({ cls := "TwoSidedTables", name := "characterOf", desc := "(LTwoSidedTables$Table;I)J" } : Jvm.MethodName) prog_1_method_24_code (3 : Nat) (Option.some Jvm.ClassFile.FieldType.long)) ∈ lw_all := lw_g (lw_at lw_m2 214 rfl) rfl
theorem q556 : (Jvm.Cond.methodLink "TwoSidedTables" (211 : Nat) ({ cls := "TwoSidedTables", name := "minors", desc := "(LTwoSidedTables$Table;)J" } : Jvm.MethodName)) ∈ lw_all := lw_g (lw_at lw_m2 215 rfl) rfl
theorem q557 : (Jvm.Cond.static ({ cls := "TwoSidedTables", name := "minors", desc := "(LTwoSidedTables$Table;)J" } : Jvm.MethodName)) ∈ lw_all := lw_g (lw_at lw_m2 216 rfl) rfl
theorem q558 : (Jvm.Cond.code ({ cls := "TwoSidedTables", name := "minors", desc := "(LTwoSidedTables$Table;)J" } : Jvm.MethodName) prog_1_method_21_code (1 : Nat) (Option.some Jvm.ClassFile.FieldType.long)) ∈ lw_all := lw_g (lw_at lw_m2 217 rfl) rfl
theorem q560 : (Jvm.Cond.instanceMethod ({ cls := "TwoSidedTables", name := "feed", desc := "(JI)I" } : Jvm.MethodName)) ∈ lw_all := lw_g (lw_at lw_m2 219 rfl) rfl
theorem q561 : (Jvm.Cond.selects "TwoSidedTables" ({ cls := "TwoSidedTables", name := "feed", desc := "(JI)I" } : Jvm.MethodName) ({ cls := "TwoSidedTables", name := "feed", desc := "(JI)I" } : Jvm.MethodName)) ∈ lw_all := lw_g (lw_at lw_m2 220 rfl) rfl
theorem q562 : (Jvm.Cond.code ({ cls := "TwoSidedTables", name := "feed", desc := "(JI)I" } : Jvm.MethodName) prog_1_method_26_code (5 : Nat) (Option.some Jvm.ClassFile.FieldType.int)) ∈ lw_all := lw_g (lw_at lw_m2 221 rfl) rfl
theorem q564 : (Jvm.Cond.instanceMethod ({ cls := "TwoSidedTables", name := "text", desc := "()I" } : Jvm.MethodName)) ∈ lw_all := lw_g (lw_at lw_m2 223 rfl) rfl
theorem q565 : (Jvm.Cond.selects "TwoSidedTables" ({ cls := "TwoSidedTables", name := "text", desc := "()I" } : Jvm.MethodName) ({ cls := "TwoSidedTables", name := "text", desc := "()I" } : Jvm.MethodName)) ∈ lw_all := lw_g (lw_at lw_m2 224 rfl) rfl
theorem q566 : (Jvm.Cond.codeWith ({ cls := "TwoSidedTables", name := "text", desc := "()I" } : Jvm.MethodName) prog_1_method_38_code (4 : Nat) (Option.some Jvm.ClassFile.FieldType.int) [((4 : Nat), (22 : Nat), (29 : Nat), (45 : Nat)), ((4 : Nat), (22 : Nat), (45 : Nat), (0 : Nat)), ((29 : Nat), (38 : Nat), (45 : Nat), (0 : Nat))]) ∈ lw_all := lw_g (lw_at lw_m2 225 rfl) rfl
theorem q567 : (Jvm.Cond.methodLink "TwoSidedTables" (280 : Nat) ({ cls := "TwoSidedTables", name := "sets", desc := "()V" } : Jvm.MethodName)) ∈ lw_all := lw_g (lw_at lw_m2 226 rfl) rfl
theorem q568 : (Jvm.Cond.privateMethod ({ cls := "TwoSidedTables", name := "sets", desc := "()V" } : Jvm.MethodName)) ∈ lw_tbl := lw_at lw_m2 227 rfl
theorem q569 : (Jvm.Cond.instanceMethod ({ cls := "TwoSidedTables", name := "sets", desc := "()V" } : Jvm.MethodName)) ∈ lw_all := lw_g (lw_at lw_m2 228 rfl) rfl
theorem q570 : (Jvm.Cond.code ({ cls := "TwoSidedTables", name := "sets", desc := "()V" } : Jvm.MethodName) prog_1_method_37_code (1 : Nat) (Option.none : Option Jvm.ClassFile.FieldType)) ∈ lw_all := lw_g (lw_at lw_m2 229 rfl) rfl
theorem q571 : (Jvm.Cond.methodLink "TwoSidedTables" (276 : Nat) ({ cls := "TwoSidedTables$Tables", name := "become", desc := "(LTwoSidedTables$Tables;)V" } : Jvm.MethodName)) ∈ lw_all := lw_g (lw_at lw_m2 230 rfl) rfl
theorem q583 : (Jvm.Cond.methodLink "TwoSidedTables" (283 : Nat) ({ cls := "TwoSidedTables", name := "wholeText", desc := "()I" } : Jvm.MethodName)) ∈ lw_all := lw_g (lw_at lw_m3 2 rfl) rfl
theorem q584 : (Jvm.Cond.privateMethod ({ cls := "TwoSidedTables", name := "wholeText", desc := "()I" } : Jvm.MethodName)) ∈ lw_tbl := lw_at lw_m3 3 rfl
theorem q585 : (Jvm.Cond.instanceMethod ({ cls := "TwoSidedTables", name := "wholeText", desc := "()I" } : Jvm.MethodName)) ∈ lw_all := lw_g (lw_at lw_m3 4 rfl) rfl
theorem q586 : (Jvm.Cond.code ({ cls := "TwoSidedTables", name := "wholeText", desc := "()I" } : Jvm.MethodName) prog_1_method_36_code (3 : Nat) (Option.some Jvm.ClassFile.FieldType.int)) ∈ lw_all := lw_g (lw_at lw_m3 5 rfl) rfl
theorem q587 : (Jvm.Cond.methodLink "TwoSidedTables" (245 : Nat) ({ cls := "TwoSidedTables", name := "next", desc := "()V" } : Jvm.MethodName)) ∈ lw_all := lw_g (lw_at lw_m3 6 rfl) rfl
theorem q588 : (Jvm.Cond.privateMethod ({ cls := "TwoSidedTables", name := "next", desc := "()V" } : Jvm.MethodName)) ∈ lw_tbl := lw_at lw_m3 7 rfl
theorem q589 : (Jvm.Cond.instanceMethod ({ cls := "TwoSidedTables", name := "next", desc := "()V" } : Jvm.MethodName)) ∈ lw_all := lw_g (lw_at lw_m3 8 rfl) rfl
theorem q590 : (Jvm.Cond.code ({ cls := "TwoSidedTables", name := "next", desc := "()V" } : Jvm.MethodName) prog_1_method_29_code (4 : Nat) (Option.none : Option Jvm.ClassFile.FieldType)) ∈ lw_all := lw_g (lw_at lw_m3 9 rfl) rfl
theorem q591 : (Jvm.Cond.methodLink "TwoSidedTables" (226 : Nat) ({ cls := "TwoSidedTables", name := "isLetter", desc := "(I)Z" } : Jvm.MethodName)) ∈ lw_all := lw_g (lw_at lw_m3 10 rfl) rfl
theorem q592 : (Jvm.Cond.static ({ cls := "TwoSidedTables", name := "isLetter", desc := "(I)Z" } : Jvm.MethodName)) ∈ lw_all := lw_g (lw_at lw_m3 11 rfl) rfl
theorem q593 : (Jvm.Cond.code ({ cls := "TwoSidedTables", name := "isLetter", desc := "(I)Z" } : Jvm.MethodName) prog_1_method_28_code (1 : Nat) (Option.some Jvm.ClassFile.FieldType.boolean)) ∈ lw_all := lw_g (lw_at lw_m3 12 rfl) rfl
theorem q594 : (Jvm.Cond.methodLink "TwoSidedTables" (229 : Nat) ({ cls := "TwoSidedTables", name := "isDigit", desc := "(I)Z" } : Jvm.MethodName)) ∈ lw_all := lw_g (lw_at lw_m3 13 rfl) rfl
theorem q595 : (Jvm.Cond.static ({ cls := "TwoSidedTables", name := "isDigit", desc := "(I)Z" } : Jvm.MethodName)) ∈ lw_all := lw_g (lw_at lw_m3 14 rfl) rfl
theorem q596 : (Jvm.Cond.code ({ cls := "TwoSidedTables", name := "isDigit", desc := "(I)Z" } : Jvm.MethodName) prog_1_method_27_code (1 : Nat) (Option.some Jvm.ClassFile.FieldType.boolean)) ∈ lw_all := lw_g (lw_at lw_m3 15 rfl) rfl
theorem q597 : (Jvm.Cond.methodLink "TwoSidedTables" (248 : Nat) ({ cls := "TwoSidedTables", name := "goesOn", desc := "(Ljava/lang/String;)Z" } : Jvm.MethodName)) ∈ lw_all := lw_g (lw_at lw_m3 16 rfl) rfl
theorem q598 : (Jvm.Cond.privateMethod ({ cls := "TwoSidedTables", name := "goesOn", desc := "(Ljava/lang/String;)Z" } : Jvm.MethodName)) ∈ lw_tbl := lw_at lw_m3 17 rfl
theorem q599 : (Jvm.Cond.instanceMethod ({ cls := "TwoSidedTables", name := "goesOn", desc := "(Ljava/lang/String;)Z" } : Jvm.MethodName)) ∈ lw_all := lw_g (lw_at lw_m3 18 rfl) rfl
theorem q600 : (Jvm.Cond.code ({ cls := "TwoSidedTables", name := "goesOn", desc := "(Ljava/lang/String;)Z" } : Jvm.MethodName) prog_1_method_32_code (2 : Nat) (Option.some Jvm.ClassFile.FieldType.boolean)) ∈ lw_all := lw_g (lw_at lw_m3 19 rfl) rfl
theorem q601 : (Jvm.Cond.methodLink "TwoSidedTables" (241 : Nat) ({ cls := "TwoSidedTables", name := "isName", desc := "(Ljava/lang/String;)Z" } : Jvm.MethodName)) ∈ lw_all := lw_g (lw_at lw_m3 20 rfl) rfl
theorem q602 : (Jvm.Cond.privateMethod ({ cls := "TwoSidedTables", name := "isName", desc := "(Ljava/lang/String;)Z" } : Jvm.MethodName)) ∈ lw_tbl := lw_at lw_m3 21 rfl
theorem q603 : (Jvm.Cond.instanceMethod ({ cls := "TwoSidedTables", name := "isName", desc := "(Ljava/lang/String;)Z" } : Jvm.MethodName)) ∈ lw_all := lw_g (lw_at lw_m3 22 rfl) rfl
theorem q604 : (Jvm.Cond.code ({ cls := "TwoSidedTables", name := "isName", desc := "(Ljava/lang/String;)Z" } : Jvm.MethodName) prog_1_method_31_code (3 : Nat) (Option.some Jvm.ClassFile.FieldType.boolean)) ∈ lw_all := lw_g (lw_at lw_m3 23 rfl) rfl
theorem q605 : (Jvm.Cond.methodLink "TwoSidedTables" (233 : Nat) ({ cls := "java/lang/String", name := "length", desc := "()I" } : Jvm.MethodName)) ∈ lw_all := lw_g (lw_at lw_m3 24 rfl) rfl
theorem q615 : (Jvm.Cond.methodLink "TwoSidedTables" (237 : Nat) ({ cls := "java/lang/String", name := "charAt", desc := "(I)C" } : Jvm.MethodName)) ∈ lw_all := lw_g (lw_at lw_m3 34 rfl) rfl
theorem q653 : (Jvm.Cond.methodLink "TwoSidedTables" (251 : Nat) ({ cls := "TwoSidedTables", name := "faultHere", desc := "()LTwoSidedTables$Refusal;" } : Jvm.MethodName)) ∈ lw_all := lw_g (lw_at lw_m3 72 rfl) rfl
theorem q654 : (Jvm.Cond.privateMethod ({ cls := "TwoSidedTables", name := "faultHere", desc := "()LTwoSidedTables$Refusal;" } : Jvm.MethodName)) ∈ lw_tbl := lw_at lw_m3 73 rfl
theorem q655 : (Jvm.Cond.instanceMethod ({ cls := "TwoSidedTables", name := "faultHere", desc := "()LTwoSidedTables$Refusal;" } : Jvm.MethodName)) ∈ lw_all := lw_g (lw_at lw_m3 74 rfl) rfl
theorem q656 : (Jvm.Cond.code ({ cls := "TwoSidedTables", name := "faultHere", desc := "()LTwoSidedTables$Refusal;" } : Jvm.MethodName) prog_1_method_30_code (1 : Nat) (Option.some (Jvm.ClassFile.FieldType.object "TwoSidedTables$Refusal"))) ∈ lw_all := lw_g (lw_at lw_m3 75 rfl) rfl
theorem q657 : (Jvm.Cond.methodLink "TwoSidedTables" (232 : Nat) ({ cls := "TwoSidedTables$Fault", name := "of", desc := "(I)LTwoSidedTables$Refusal;" } : Jvm.MethodName)) ∈ lw_all := lw_g (lw_at lw_m3 76 rfl) rfl
theorem q663 : (Jvm.Cond.methodLink "TwoSidedTables" (272 : Nat) ({ cls := "TwoSidedTables", name := "rowsOf", desc := "(I)V" } : Jvm.MethodName)) ∈ lw_all := lw_g (lw_at lw_m3 82 rfl) rfl
theorem q664 : (Jvm.Cond.privateMethod ({ cls := "TwoSidedTables", name := "rowsOf", desc := "(I)V" } : Jvm.MethodName)) ∈ lw_tbl := lw_at lw_m3 83 rfl
theorem q665 : (Jvm.Cond.instanceMethod ({ cls := "TwoSidedTables", name := "rowsOf", desc := "(I)V" } : Jvm.MethodName)) ∈ lw_all := lw_g (lw_at lw_m3 84 rfl) rfl
theorem q666 : (Jvm.Cond.code ({ cls := "TwoSidedTables", name := "rowsOf", desc := "(I)V" } : Jvm.MethodName) prog_1_method_35_code (5 : Nat) (Option.none : Option Jvm.ClassFile.FieldType)) ∈ lw_all := lw_g (lw_at lw_m3 85 rfl) rfl
theorem q667 : (Jvm.Cond.stringRef "TwoSidedTables" (255 : Nat) ",") ∈ lw_tbl := lw_at lw_m3 86 rfl
theorem q668 : (Jvm.Cond.methodLink "TwoSidedTables" (257 : Nat) ({ cls := "TwoSidedTables", name := "want", desc := "(Ljava/lang/String;)V" } : Jvm.MethodName)) ∈ lw_all := lw_g (lw_at lw_m3 87 rfl) rfl
theorem q669 : (Jvm.Cond.privateMethod ({ cls := "TwoSidedTables", name := "want", desc := "(Ljava/lang/String;)V" } : Jvm.MethodName)) ∈ lw_tbl := lw_at lw_m3 88 rfl
theorem q670 : (Jvm.Cond.instanceMethod ({ cls := "TwoSidedTables", name := "want", desc := "(Ljava/lang/String;)V" } : Jvm.MethodName)) ∈ lw_all := lw_g (lw_at lw_m3 89 rfl) rfl
theorem q671 : (Jvm.Cond.code ({ cls := "TwoSidedTables", name := "want", desc := "(Ljava/lang/String;)V" } : Jvm.MethodName) prog_1_method_33_code (2 : Nat) (Option.none : Option Jvm.ClassFile.FieldType)) ∈ lw_all := lw_g (lw_at lw_m3 90 rfl) rfl
theorem q672 : (Jvm.Cond.stringRef "TwoSidedTables" (264 : Nat) "-") ∈ lw_tbl := lw_at lw_m3 91 rfl
theorem q673 : (Jvm.Cond.methodLink "TwoSidedTables" (266 : Nat) ({ cls := "TwoSidedTables", name := "figure", desc := "(IZ)I" } : Jvm.MethodName)) ∈ lw_all := lw_g (lw_at lw_m3 92 rfl) rfl
theorem q674 : (Jvm.Cond.privateMethod ({ cls := "TwoSidedTables", name := "figure", desc := "(IZ)I" } : Jvm.MethodName)) ∈ lw_tbl := lw_at lw_m3 93 rfl
theorem q675 : (Jvm.Cond.instanceMethod ({ cls := "TwoSidedTables", name := "figure", desc := "(IZ)I" } : Jvm.MethodName)) ∈ lw_all := lw_g (lw_at lw_m3 94 rfl) rfl
theorem q676 : (Jvm.Cond.code ({ cls := "TwoSidedTables", name := "figure", desc := "(IZ)I" } : Jvm.MethodName) prog_1_method_34_code (6 : Nat) (Option.some Jvm.ClassFile.FieldType.int)) ∈ lw_all := lw_g (lw_at lw_m3 95 rfl) rfl
theorem q677 : (Jvm.Cond.stringRef "TwoSidedTables" (270 : Nat) ";") ∈ lw_tbl := lw_at lw_m3 96 rfl
theorem q679 : (Jvm.Cond.instanceMethod ({ cls := "TwoSidedTables", name := "ratio", desc := "(JJI)J" } : Jvm.MethodName)) ∈ lw_all := lw_g (lw_at lw_m3 98 rfl) rfl
theorem q680 : (Jvm.Cond.selects "TwoSidedTables" ({ cls := "TwoSidedTables", name := "ratio", desc := "(JJI)J" } : Jvm.MethodName) ({ cls := "TwoSidedTables", name := "ratio", desc := "(JJI)J" } : Jvm.MethodName)) ∈ lw_all := lw_g (lw_at lw_m3 99 rfl) rfl
theorem q681 : (Jvm.Cond.codeWith ({ cls := "TwoSidedTables", name := "ratio", desc := "(JJI)J" } : Jvm.MethodName) prog_1_method_55_code (10 : Nat) (Option.some Jvm.ClassFile.FieldType.long) [((13 : Nat), (34 : Nat), (38 : Nat), (388 : Nat)), ((46 : Nat), (74 : Nat), (75 : Nat), (388 : Nat))]) ∈ lw_all := lw_g (lw_at lw_m3 100 rfl) rfl
theorem q682 : (Jvm.Cond.classLink "TwoSidedTables" (388 : Nat) "java/lang/ArithmeticException") ∈ lw_all := lw_g (lw_at lw_m3 101 rfl) rfl
theorem q688 : (Jvm.Cond.methodLink "TwoSidedTables" (385 : Nat) ({ cls := "TwoSidedTables", name := "isPart", desc := "(I)Z" } : Jvm.MethodName)) ∈ lw_all := lw_g (lw_at lw_m3 107 rfl) rfl
theorem q689 : (Jvm.Cond.static ({ cls := "TwoSidedTables", name := "isPart", desc := "(I)Z" } : Jvm.MethodName)) ∈ lw_all := lw_g (lw_at lw_m3 108 rfl) rfl
theorem q690 : (Jvm.Cond.code ({ cls := "TwoSidedTables", name := "isPart", desc := "(I)Z" } : Jvm.MethodName) prog_1_method_9_code (1 : Nat) (Option.some Jvm.ClassFile.FieldType.boolean)) ∈ lw_all := lw_g (lw_at lw_m3 109 rfl) rfl
theorem q691 : (Jvm.Cond.methodLink "TwoSidedTables" (390 : Nat) ({ cls := "TwoSidedTables", name := "partOf", desc := "(JJI)J" } : Jvm.MethodName)) ∈ lw_all := lw_g (lw_at lw_m3 110 rfl) rfl
theorem q692 : (Jvm.Cond.static ({ cls := "TwoSidedTables", name := "partOf", desc := "(JJI)J" } : Jvm.MethodName)) ∈ lw_all := lw_g (lw_at lw_m3 111 rfl) rfl
theorem q693 : (Jvm.Cond.code ({ cls := "TwoSidedTables", name := "partOf", desc := "(JJI)J" } : Jvm.MethodName) prog_1_method_54_code (9 : Nat) (Option.some Jvm.ClassFile.FieldType.long)) ∈ lw_all := lw_g (lw_at lw_m3 112 rfl) rfl
theorem q694 : (Jvm.Cond.methodLink "TwoSidedTables" (372 : Nat) ({ cls := "TwoSidedTables", name := "lowered", desc := "(J)J" } : Jvm.MethodName)) ∈ lw_all := lw_g (lw_at lw_m3 113 rfl) rfl
theorem q695 : (Jvm.Cond.static ({ cls := "TwoSidedTables", name := "lowered", desc := "(J)J" } : Jvm.MethodName)) ∈ lw_all := lw_g (lw_at lw_m3 114 rfl) rfl
theorem q696 : (Jvm.Cond.code ({ cls := "TwoSidedTables", name := "lowered", desc := "(J)J" } : Jvm.MethodName) prog_1_method_52_code (2 : Nat) (Option.some Jvm.ClassFile.FieldType.long)) ∈ lw_all := lw_g (lw_at lw_m3 115 rfl) rfl
theorem q697 : (Jvm.Cond.methodLink "TwoSidedTables" (376 : Nat) ({ cls := "TwoSidedTables", name := "common", desc := "(JJ)J" } : Jvm.MethodName)) ∈ lw_all := lw_g (lw_at lw_m3 116 rfl) rfl
theorem q698 : (Jvm.Cond.static ({ cls := "TwoSidedTables", name := "common", desc := "(JJ)J" } : Jvm.MethodName)) ∈ lw_all := lw_g (lw_at lw_m3 117 rfl) rfl
theorem q699 : (Jvm.Cond.code ({ cls := "TwoSidedTables", name := "common", desc := "(JJ)J" } : Jvm.MethodName) prog_1_method_51_code (10 : Nat) (Option.some Jvm.ClassFile.FieldType.long)) ∈ lw_all := lw_g (lw_at lw_m3 118 rfl) rfl
theorem q700 : (Jvm.Cond.methodLink "TwoSidedTables" (379 : Nat) ({ cls := "TwoSidedTables", name := "parted", desc := "(JJ)J" } : Jvm.MethodName)) ∈ lw_all := lw_g (lw_at lw_m3 119 rfl) rfl
theorem q701 : (Jvm.Cond.static ({ cls := "TwoSidedTables", name := "parted", desc := "(JJ)J" } : Jvm.MethodName)) ∈ lw_all := lw_g (lw_at lw_m3 120 rfl) rfl
theorem q702 : (Jvm.Cond.code ({ cls := "TwoSidedTables", name := "parted", desc := "(JJ)J" } : Jvm.MethodName) prog_1_method_53_code (4 : Nat) (Option.some Jvm.ClassFile.FieldType.long)) ∈ lw_all := lw_g (lw_at lw_m3 121 rfl) rfl
theorem q703 : (Jvm.Cond.constantLong "TwoSidedTables" (368 : Nat) (-9223372036854775808 : Int64)) ∈ lw_all := lw_g (lw_at lw_m3 122 rfl) rfl
theorem q704 : (Jvm.Cond.constantLong "TwoSidedTables" (370 : Nat) (-1 : Int64)) ∈ lw_all := lw_g (lw_at lw_m3 123 rfl) rfl
theorem q705 : (Jvm.Cond.methodLink "TwoSidedTables" (382 : Nat) ({ cls := "java/lang/Math", name := "negateExact", desc := "(J)J" } : Jvm.MethodName)) ∈ lw_all := lw_g (lw_at lw_m3 124 rfl) rfl
theorem q710 : (Jvm.Cond.instanceMethod ({ cls := "TwoSidedTables", name := "equation", desc := "(II)I" } : Jvm.MethodName)) ∈ lw_all := lw_g (lw_at lw_m3 129 rfl) rfl
theorem q711 : (Jvm.Cond.selects "TwoSidedTables" ({ cls := "TwoSidedTables", name := "equation", desc := "(II)I" } : Jvm.MethodName) ({ cls := "TwoSidedTables", name := "equation", desc := "(II)I" } : Jvm.MethodName)) ∈ lw_all := lw_g (lw_at lw_m3 130 rfl) rfl
theorem q712 : (Jvm.Cond.code ({ cls := "TwoSidedTables", name := "equation", desc := "(II)I" } : Jvm.MethodName) prog_1_method_56_code (3 : Nat) (Option.some Jvm.ClassFile.FieldType.int)) ∈ lw_all := lw_g (lw_at lw_m3 131 rfl) rfl
theorem q713 : (Jvm.Cond.methodLink "TwoSidedTables" (394 : Nat) ({ cls := "TwoSidedTables", name := "isKind", desc := "(I)Z" } : Jvm.MethodName)) ∈ lw_all := lw_g (lw_at lw_m3 132 rfl) rfl
theorem q714 : (Jvm.Cond.static ({ cls := "TwoSidedTables", name := "isKind", desc := "(I)Z" } : Jvm.MethodName)) ∈ lw_all := lw_g (lw_at lw_m3 133 rfl) rfl
theorem q715 : (Jvm.Cond.code ({ cls := "TwoSidedTables", name := "isKind", desc := "(I)Z" } : Jvm.MethodName) prog_1_method_7_code (1 : Nat) (Option.some Jvm.ClassFile.FieldType.boolean)) ∈ lw_all := lw_g (lw_at lw_m3 134 rfl) rfl
theorem q716 : (Jvm.Cond.methodLink "TwoSidedTables" (397 : Nat) ({ cls := "TwoSidedTables", name := "isShift", desc := "(I)Z" } : Jvm.MethodName)) ∈ lw_all := lw_g (lw_at lw_m3 135 rfl) rfl
theorem q717 : (Jvm.Cond.static ({ cls := "TwoSidedTables", name := "isShift", desc := "(I)Z" } : Jvm.MethodName)) ∈ lw_all := lw_g (lw_at lw_m3 136 rfl) rfl
theorem q718 : (Jvm.Cond.code ({ cls := "TwoSidedTables", name := "isShift", desc := "(I)Z" } : Jvm.MethodName) prog_1_method_8_code (1 : Nat) (Option.some Jvm.ClassFile.FieldType.boolean)) ∈ lw_all := lw_g (lw_at lw_m3 137 rfl) rfl
theorem q719 : (Jvm.Cond.methodLink "TwoSidedTables" (400 : Nat) ({ cls := "TwoSidedTables", name := "made", desc := "(III)LTwoSidedTables$Plain;" } : Jvm.MethodName)) ∈ lw_all := lw_g (lw_at lw_m3 138 rfl) rfl
theorem q720 : (Jvm.Cond.static ({ cls := "TwoSidedTables", name := "made", desc := "(III)LTwoSidedTables$Plain;" } : Jvm.MethodName)) ∈ lw_all := lw_g (lw_at lw_m3 139 rfl) rfl
theorem q721 : (Jvm.Cond.code ({ cls := "TwoSidedTables", name := "made", desc := "(III)LTwoSidedTables$Plain;" } : Jvm.MethodName) prog_1_method_4_code (3 : Nat) (Option.some (Jvm.ClassFile.FieldType.object "TwoSidedTables$Plain"))) ∈ lw_all := lw_g (lw_at lw_m3 140 rfl) rfl
theorem q722 : (Jvm.Cond.classLink "TwoSidedTables" (15 : Nat) "TwoSidedTables$Left") ∈ lw_all := lw_g (lw_at lw_m3 141 rfl) rfl
theorem q724 : (Jvm.Cond.methodLink "TwoSidedTables" (17 : Nat) ({ cls := "TwoSidedTables$Left", name := "<init>", desc := "(II)V" } : Jvm.MethodName)) ∈ lw_all := lw_g (lw_at lw_m3 143 rfl) rfl
theorem q738 : (Jvm.Cond.classLink "TwoSidedTables" (21 : Nat) "TwoSidedTables$Alike") ∈ lw_all := lw_g (lw_at lw_m3 157 rfl) rfl
theorem q740 : (Jvm.Cond.methodLink "TwoSidedTables" (23 : Nat) ({ cls := "TwoSidedTables$Alike", name := "<init>", desc := "(II)V" } : Jvm.MethodName)) ∈ lw_all := lw_g (lw_at lw_m3 159 rfl) rfl
theorem q747 : (Jvm.Cond.classLink "TwoSidedTables" (24 : Nat) "TwoSidedTables$Turned") ∈ lw_all := lw_g (lw_at lw_m3 166 rfl) rfl
theorem q749 : (Jvm.Cond.methodLink "TwoSidedTables" (26 : Nat) ({ cls := "TwoSidedTables$Turned", name := "<init>", desc := "(II)V" } : Jvm.MethodName)) ∈ lw_all := lw_g (lw_at lw_m3 168 rfl) rfl
theorem q756 : (Jvm.Cond.classLink "TwoSidedTables" (27 : Nat) "TwoSidedTables$Level") ∈ lw_all := lw_g (lw_at lw_m3 175 rfl) rfl
theorem q758 : (Jvm.Cond.methodLink "TwoSidedTables" (29 : Nat) ({ cls := "TwoSidedTables$Level", name := "<init>", desc := "(II)V" } : Jvm.MethodName)) ∈ lw_all := lw_g (lw_at lw_m3 177 rfl) rfl
theorem q765 : (Jvm.Cond.classLink "TwoSidedTables" (30 : Nat) "TwoSidedTables$Even") ∈ lw_all := lw_g (lw_at lw_m3 184 rfl) rfl
theorem q767 : (Jvm.Cond.methodLink "TwoSidedTables" (32 : Nat) ({ cls := "TwoSidedTables$Even", name := "<init>", desc := "(II)V" } : Jvm.MethodName)) ∈ lw_all := lw_g (lw_at lw_m3 186 rfl) rfl
theorem q774 : (Jvm.Cond.classLink "TwoSidedTables" (33 : Nat) "TwoSidedTables$Odd") ∈ lw_all := lw_g (lw_at lw_m3 193 rfl) rfl
theorem q776 : (Jvm.Cond.methodLink "TwoSidedTables" (35 : Nat) ({ cls := "TwoSidedTables$Odd", name := "<init>", desc := "(II)V" } : Jvm.MethodName)) ∈ lw_all := lw_g (lw_at lw_m3 195 rfl) rfl
theorem q784 : (Jvm.Cond.methodLink "TwoSidedTables" (38 : Nat) ({ cls := "TwoSidedTables$Plain", name := "<init>", desc := "(II)V" } : Jvm.MethodName)) ∈ lw_all := lw_g (lw_at lw_m3 203 rfl) rfl
theorem q789 : (Jvm.Cond.instanceMethod ({ cls := "TwoSidedTables", name := "of", desc := "(II)I" } : Jvm.MethodName)) ∈ lw_all := lw_g (lw_at lw_m3 208 rfl) rfl
theorem q790 : (Jvm.Cond.selects "TwoSidedTables" ({ cls := "TwoSidedTables", name := "of", desc := "(II)I" } : Jvm.MethodName) ({ cls := "TwoSidedTables", name := "of", desc := "(II)I" } : Jvm.MethodName)) ∈ lw_all := lw_g (lw_at lw_m3 209 rfl) rfl
theorem q791 : (Jvm.Cond.code ({ cls := "TwoSidedTables", name := "of", desc := "(II)I" } : Jvm.MethodName) prog_1_method_58_code (4 : Nat) (Option.some Jvm.ClassFile.FieldType.int)) ∈ lw_all := lw_g (lw_at lw_m3 210 rfl) rfl
theorem q792 : (Jvm.Cond.methodLink "TwoSidedTables" (404 : Nat) ({ cls := "TwoSidedTables", name := "isEquation", desc := "(I)Z" } : Jvm.MethodName)) ∈ lw_all := lw_g (lw_at lw_m3 211 rfl) rfl
theorem q793 : (Jvm.Cond.privateMethod ({ cls := "TwoSidedTables", name := "isEquation", desc := "(I)Z" } : Jvm.MethodName)) ∈ lw_tbl := lw_at lw_m3 212 rfl
theorem q794 : (Jvm.Cond.instanceMethod ({ cls := "TwoSidedTables", name := "isEquation", desc := "(I)Z" } : Jvm.MethodName)) ∈ lw_all := lw_g (lw_at lw_m3 213 rfl) rfl
theorem q795 : (Jvm.Cond.code ({ cls := "TwoSidedTables", name := "isEquation", desc := "(I)Z" } : Jvm.MethodName) prog_1_method_6_code (2 : Nat) (Option.some Jvm.ClassFile.FieldType.boolean)) ∈ lw_all := lw_g (lw_at lw_m3 214 rfl) rfl
theorem q796 : (Jvm.Cond.methodLink "TwoSidedTables" (147 : Nat) ({ cls := "TwoSidedTables", name := "mayStand", desc := "(LTwoSidedTables$Plain;)Z" } : Jvm.MethodName)) ∈ lw_all := lw_g (lw_at lw_m3 215 rfl) rfl
theorem q797 : (Jvm.Cond.privateMethod ({ cls := "TwoSidedTables", name := "mayStand", desc := "(LTwoSidedTables$Plain;)Z" } : Jvm.MethodName)) ∈ lw_tbl := lw_at lw_m3 216 rfl
theorem q798 : (Jvm.Cond.instanceMethod ({ cls := "TwoSidedTables", name := "mayStand", desc := "(LTwoSidedTables$Plain;)Z" } : Jvm.MethodName)) ∈ lw_all := lw_g (lw_at lw_m3 217 rfl) rfl
theorem q799 : (Jvm.Cond.code ({ cls := "TwoSidedTables", name := "mayStand", desc := "(LTwoSidedTables$Plain;)Z" } : Jvm.MethodName) prog_1_method_12_code (2 : Nat) (Option.some Jvm.ClassFile.FieldType.boolean)) ∈ lw_all := lw_g (lw_at lw_m3 218 rfl) rfl
theorem q800 : (Jvm.Cond.methodLink "TwoSidedTables" (144 : Nat) ({ cls := "TwoSidedTables$Plain", name := "needsSquare", desc := "()Z" } : Jvm.MethodName)) ∈ lw_all := lw_g (lw_at lw_m3 219 rfl) rfl
theorem q817 : (Jvm.Cond.methodLink "TwoSidedTables" (407 : Nat) ({ cls := "TwoSidedTables", name := "fits", desc := "(LTwoSidedTables$Plain;)Z" } : Jvm.MethodName)) ∈ lw_all := lw_g (lw_at lw_m3 236 rfl) rfl
theorem q818 : (Jvm.Cond.privateMethod ({ cls := "TwoSidedTables", name := "fits", desc := "(LTwoSidedTables$Plain;)Z" } : Jvm.MethodName)) ∈ lw_tbl := lw_at lw_m3 237 rfl
theorem q819 : (Jvm.Cond.instanceMethod ({ cls := "TwoSidedTables", name := "fits", desc := "(LTwoSidedTables$Plain;)Z" } : Jvm.MethodName)) ∈ lw_all := lw_g (lw_at lw_m3 238 rfl) rfl
theorem q820 : (Jvm.Cond.code ({ cls := "TwoSidedTables", name := "fits", desc := "(LTwoSidedTables$Plain;)Z" } : Jvm.MethodName) prog_1_method_13_code (2 : Nat) (Option.some Jvm.ClassFile.FieldType.boolean)) ∈ lw_all := lw_g (lw_at lw_m3 239 rfl) rfl
theorem q821 : (Jvm.Cond.methodLink "TwoSidedTables" (151 : Nat) ({ cls := "TwoSidedTables$Plain", name := "unknowns", desc := "(II)I" } : Jvm.MethodName)) ∈ lw_all := lw_g (lw_at lw_m4 0 rfl) rfl
theorem q848 : (Jvm.Cond.methodLink "TwoSidedTables" (410 : Nat) ({ cls := "TwoSidedTables$Plain", name := "kind", desc := "()I" } : Jvm.MethodName)) ∈ lw_all := lw_g (lw_at lw_m4 27 rfl) rfl
theorem q873 : (Jvm.Cond.methodLink "TwoSidedTables" (303 : Nat) ({ cls := "TwoSidedTables$Plain", name := "shift", desc := "()I" } : Jvm.MethodName)) ∈ lw_all := lw_g (lw_at lw_m4 52 rfl) rfl
theorem q886 : (Jvm.Cond.methodLink "TwoSidedTables" (413 : Nat) ({ cls := "TwoSidedTables", name := "freeSet", desc := "(LTwoSidedTables$Plain;)I" } : Jvm.MethodName)) ∈ lw_all := lw_g (lw_at lw_m4 65 rfl) rfl
theorem q887 : (Jvm.Cond.privateMethod ({ cls := "TwoSidedTables", name := "freeSet", desc := "(LTwoSidedTables$Plain;)I" } : Jvm.MethodName)) ∈ lw_tbl := lw_at lw_m4 66 rfl
theorem q888 : (Jvm.Cond.instanceMethod ({ cls := "TwoSidedTables", name := "freeSet", desc := "(LTwoSidedTables$Plain;)I" } : Jvm.MethodName)) ∈ lw_all := lw_g (lw_at lw_m4 67 rfl) rfl
theorem q889 : (Jvm.Cond.code ({ cls := "TwoSidedTables", name := "freeSet", desc := "(LTwoSidedTables$Plain;)I" } : Jvm.MethodName) prog_1_method_57_code (4 : Nat) (Option.some Jvm.ClassFile.FieldType.int)) ∈ lw_all := lw_g (lw_at lw_m4 68 rfl) rfl
theorem q890 : (Jvm.Cond.methodLink "TwoSidedTables" (354 : Nat) ({ cls := "TwoSidedTables", name := "laysOut", desc := "(LTwoSidedTables$Plain;)V" } : Jvm.MethodName)) ∈ lw_all := lw_g (lw_at lw_m4 69 rfl) rfl
theorem q891 : (Jvm.Cond.privateMethod ({ cls := "TwoSidedTables", name := "laysOut", desc := "(LTwoSidedTables$Plain;)V" } : Jvm.MethodName)) ∈ lw_tbl := lw_at lw_m4 70 rfl
theorem q892 : (Jvm.Cond.instanceMethod ({ cls := "TwoSidedTables", name := "laysOut", desc := "(LTwoSidedTables$Plain;)V" } : Jvm.MethodName)) ∈ lw_all := lw_g (lw_at lw_m4 71 rfl) rfl
theorem q893 : (Jvm.Cond.code ({ cls := "TwoSidedTables", name := "laysOut", desc := "(LTwoSidedTables$Plain;)V" } : Jvm.MethodName) prog_1_method_44_code (2 : Nat) (Option.none : Option Jvm.ClassFile.FieldType)) ∈ lw_all := lw_g (lw_at lw_m4 72 rfl) rfl
theorem q894 : (Jvm.Cond.methodLink "TwoSidedTables" (325 : Nat) ({ cls := "TwoSidedTables", name := "laysOut", desc := "(LTwoSidedTables$Plain;I)V" } : Jvm.MethodName)) ∈ lw_all := lw_g (lw_at lw_m4 73 rfl) rfl
theorem q895 : (Jvm.Cond.privateMethod ({ cls := "TwoSidedTables", name := "laysOut", desc := "(LTwoSidedTables$Plain;I)V" } : Jvm.MethodName)) ∈ lw_tbl := lw_at lw_m4 74 rfl
theorem q896 : (Jvm.Cond.instanceMethod ({ cls := "TwoSidedTables", name := "laysOut", desc := "(LTwoSidedTables$Plain;I)V" } : Jvm.MethodName)) ∈ lw_all := lw_g (lw_at lw_m4 75 rfl) rfl
theorem q897 : (Jvm.Cond.code ({ cls := "TwoSidedTables", name := "laysOut", desc := "(LTwoSidedTables$Plain;I)V" } : Jvm.MethodName) prog_1_method_43_code (6 : Nat) (Option.none : Option Jvm.ClassFile.FieldType)) ∈ lw_all := lw_g (lw_at lw_m4 76 rfl) rfl
theorem q898 : (Jvm.Cond.methodLink "TwoSidedTables" (316 : Nat) ({ cls := "TwoSidedTables", name := "clear", desc := "(II)V" } : Jvm.MethodName)) ∈ lw_all := lw_g (lw_at lw_m4 77 rfl) rfl
theorem q899 : (Jvm.Cond.privateMethod ({ cls := "TwoSidedTables", name := "clear", desc := "(II)V" } : Jvm.MethodName)) ∈ lw_tbl := lw_at lw_m4 78 rfl
theorem q900 : (Jvm.Cond.instanceMethod ({ cls := "TwoSidedTables", name := "clear", desc := "(II)V" } : Jvm.MethodName)) ∈ lw_all := lw_g (lw_at lw_m4 79 rfl) rfl
theorem q901 : (Jvm.Cond.code ({ cls := "TwoSidedTables", name := "clear", desc := "(II)V" } : Jvm.MethodName) prog_1_method_40_code (4 : Nat) (Option.none : Option Jvm.ClassFile.FieldType)) ∈ lw_all := lw_g (lw_at lw_m4 80 rfl) rfl
theorem q902 : (Jvm.Cond.methodLink "TwoSidedTables" (319 : Nat) ({ cls := "TwoSidedTables", name := "laysSum", desc := "(LTwoSidedTables$Plain;III)V" } : Jvm.MethodName)) ∈ lw_all := lw_g (lw_at lw_m4 81 rfl) rfl
theorem q903 : (Jvm.Cond.privateMethod ({ cls := "TwoSidedTables", name := "laysSum", desc := "(LTwoSidedTables$Plain;III)V" } : Jvm.MethodName)) ∈ lw_tbl := lw_at lw_m4 82 rfl
theorem q904 : (Jvm.Cond.instanceMethod ({ cls := "TwoSidedTables", name := "laysSum", desc := "(LTwoSidedTables$Plain;III)V" } : Jvm.MethodName)) ∈ lw_all := lw_g (lw_at lw_m4 83 rfl) rfl
theorem q905 : (Jvm.Cond.code ({ cls := "TwoSidedTables", name := "laysSum", desc := "(LTwoSidedTables$Plain;III)V" } : Jvm.MethodName) prog_1_method_42_code (6 : Nat) (Option.none : Option Jvm.ClassFile.FieldType)) ∈ lw_all := lw_g (lw_at lw_m4 84 rfl) rfl
theorem q906 : (Jvm.Cond.methodLink "TwoSidedTables" (299 : Nat) ({ cls := "TwoSidedTables$Plain", name := "codeAt", desc := "(III)I" } : Jvm.MethodName)) ∈ lw_all := lw_g (lw_at lw_m4 85 rfl) rfl
theorem q935 : (Jvm.Cond.methodLink "TwoSidedTables" (306 : Nat) ({ cls := "TwoSidedTables", name := "adds", desc := "(IIJ)V" } : Jvm.MethodName)) ∈ lw_all := lw_g (lw_at lw_m4 114 rfl) rfl
theorem q936 : (Jvm.Cond.privateMethod ({ cls := "TwoSidedTables", name := "adds", desc := "(IIJ)V" } : Jvm.MethodName)) ∈ lw_tbl := lw_at lw_m4 115 rfl
theorem q937 : (Jvm.Cond.instanceMethod ({ cls := "TwoSidedTables", name := "adds", desc := "(IIJ)V" } : Jvm.MethodName)) ∈ lw_all := lw_g (lw_at lw_m4 116 rfl) rfl
theorem q938 : (Jvm.Cond.code ({ cls := "TwoSidedTables", name := "adds", desc := "(IIJ)V" } : Jvm.MethodName) prog_1_method_41_code (6 : Nat) (Option.none : Option Jvm.ClassFile.FieldType)) ∈ lw_all := lw_g (lw_at lw_m4 117 rfl) rfl
theorem q939 : (Jvm.Cond.methodLink "TwoSidedTables" (295 : Nat) ({ cls := "java/lang/Math", name := "abs", desc := "(I)I" } : Jvm.MethodName)) ∈ lw_all := lw_g (lw_at lw_m4 118 rfl) rfl
theorem q942 : (Jvm.Cond.methodLink "TwoSidedTables" (312 : Nat) ({ cls := "TwoSidedTables$Plain", name := "right", desc := "(LTwoSidedTables$Tables;II)J" } : Jvm.MethodName)) ∈ lw_all := lw_g (lw_at lw_m4 121 rfl) rfl
theorem q967 : (Jvm.Cond.methodLink "TwoSidedTables" (357 : Nat) ({ cls := "TwoSidedTables", name := "reduce", desc := "()V" } : Jvm.MethodName)) ∈ lw_all := lw_g (lw_at lw_m4 146 rfl) rfl
theorem q968 : (Jvm.Cond.privateMethod ({ cls := "TwoSidedTables", name := "reduce", desc := "()V" } : Jvm.MethodName)) ∈ lw_tbl := lw_at lw_m4 147 rfl
theorem q969 : (Jvm.Cond.instanceMethod ({ cls := "TwoSidedTables", name := "reduce", desc := "()V" } : Jvm.MethodName)) ∈ lw_all := lw_g (lw_at lw_m4 148 rfl) rfl
theorem q970 : (Jvm.Cond.code ({ cls := "TwoSidedTables", name := "reduce", desc := "()V" } : Jvm.MethodName) prog_1_method_47_code (3 : Nat) (Option.none : Option Jvm.ClassFile.FieldType)) ∈ lw_all := lw_g (lw_at lw_m4 149 rfl) rfl
theorem q971 : (Jvm.Cond.methodLink "TwoSidedTables" (332 : Nat) ({ cls := "TwoSidedTables", name := "cell", desc := "(II)J" } : Jvm.MethodName)) ∈ lw_all := lw_g (lw_at lw_m4 150 rfl) rfl
theorem q972 : (Jvm.Cond.privateMethod ({ cls := "TwoSidedTables", name := "cell", desc := "(II)J" } : Jvm.MethodName)) ∈ lw_tbl := lw_at lw_m4 151 rfl
theorem q973 : (Jvm.Cond.instanceMethod ({ cls := "TwoSidedTables", name := "cell", desc := "(II)J" } : Jvm.MethodName)) ∈ lw_all := lw_g (lw_at lw_m4 152 rfl) rfl
theorem q974 : (Jvm.Cond.code ({ cls := "TwoSidedTables", name := "cell", desc := "(II)J" } : Jvm.MethodName) prog_1_method_39_code (3 : Nat) (Option.some Jvm.ClassFile.FieldType.long)) ∈ lw_all := lw_g (lw_at lw_m4 153 rfl) rfl
theorem q975 : (Jvm.Cond.methodLink "TwoSidedTables" (348 : Nat) ({ cls := "TwoSidedTables", name := "exchange", desc := "(II)V" } : Jvm.MethodName)) ∈ lw_all := lw_g (lw_at lw_m4 154 rfl) rfl
theorem q976 : (Jvm.Cond.privateMethod ({ cls := "TwoSidedTables", name := "exchange", desc := "(II)V" } : Jvm.MethodName)) ∈ lw_tbl := lw_at lw_m4 155 rfl
theorem q977 : (Jvm.Cond.instanceMethod ({ cls := "TwoSidedTables", name := "exchange", desc := "(II)V" } : Jvm.MethodName)) ∈ lw_all := lw_g (lw_at lw_m4 156 rfl) rfl
theorem q978 : (Jvm.Cond.code ({ cls := "TwoSidedTables", name := "exchange", desc := "(II)V" } : Jvm.MethodName) prog_1_method_45_code (6 : Nat) (Option.none : Option Jvm.ClassFile.FieldType)) ∈ lw_all := lw_g (lw_at lw_m4 157 rfl) rfl
theorem q979 : (Jvm.Cond.methodLink "TwoSidedTables" (351 : Nat) ({ cls := "TwoSidedTables", name := "frees", desc := "(II)V" } : Jvm.MethodName)) ∈ lw_all := lw_g (lw_at lw_m4 158 rfl) rfl
theorem q980 : (Jvm.Cond.privateMethod ({ cls := "TwoSidedTables", name := "frees", desc := "(II)V" } : Jvm.MethodName)) ∈ lw_tbl := lw_at lw_m4 159 rfl
theorem q981 : (Jvm.Cond.instanceMethod ({ cls := "TwoSidedTables", name := "frees", desc := "(II)V" } : Jvm.MethodName)) ∈ lw_all := lw_g (lw_at lw_m4 160 rfl) rfl
theorem q982 : (Jvm.Cond.code ({ cls := "TwoSidedTables", name := "frees", desc := "(II)V" } : Jvm.MethodName) prog_1_method_46_code (11 : Nat) (Option.none : Option Jvm.ClassFile.FieldType)) ∈ lw_all := lw_g (lw_at lw_m4 161 rfl) rfl
theorem q983 : (Jvm.Cond.methodLink "TwoSidedTables" (335 : Nat) ({ cls := "java/lang/Math", name := "multiplyExact", desc := "(JJ)J" } : Jvm.MethodName)) ∈ lw_all := lw_g (lw_at lw_m4 162 rfl) rfl
theorem q990 : (Jvm.Cond.methodLink "TwoSidedTables" (338 : Nat) ({ cls := "java/lang/Math", name := "subtractExact", desc := "(JJ)J" } : Jvm.MethodName)) ∈ lw_all := lw_g (lw_at lw_m4 169 rfl) rfl
theorem q993 : (Jvm.Cond.methodLink "TwoSidedTables" (417 : Nat) ({ cls := "java/lang/Integer", name := "bitCount", desc := "(I)I" } : Jvm.MethodName)) ∈ lw_all := lw_g (lw_at lw_m4 172 rfl) rfl
theorem q999 : (Jvm.Cond.methodLink "TwoSidedTables" (422 : Nat) ({ cls := "TwoSidedTables", name := "isSolvable", desc := "(LTwoSidedTables$Plain;)Z" } : Jvm.MethodName)) ∈ lw_all := lw_g (lw_at lw_m4 178 rfl) rfl
theorem q1000 : (Jvm.Cond.privateMethod ({ cls := "TwoSidedTables", name := "isSolvable", desc := "(LTwoSidedTables$Plain;)Z" } : Jvm.MethodName)) ∈ lw_tbl := lw_at lw_m4 179 rfl
theorem q1001 : (Jvm.Cond.instanceMethod ({ cls := "TwoSidedTables", name := "isSolvable", desc := "(LTwoSidedTables$Plain;)Z" } : Jvm.MethodName)) ∈ lw_all := lw_g (lw_at lw_m4 180 rfl) rfl
theorem q1002 : (Jvm.Cond.codeWith ({ cls := "TwoSidedTables", name := "isSolvable", desc := "(LTwoSidedTables$Plain;)Z" } : Jvm.MethodName) prog_1_method_50_code (3 : Nat) (Option.some Jvm.ClassFile.FieldType.boolean) [((0 : Nat), (6 : Nat), (7 : Nat), (52 : Nat))]) ∈ lw_all := lw_g (lw_at lw_m4 181 rfl) rfl
theorem q1003 : (Jvm.Cond.methodLink "TwoSidedTables" (363 : Nat) ({ cls := "TwoSidedTables", name := "solves", desc := "(LTwoSidedTables$Plain;)V" } : Jvm.MethodName)) ∈ lw_all := lw_g (lw_at lw_m4 182 rfl) rfl
theorem q1004 : (Jvm.Cond.privateMethod ({ cls := "TwoSidedTables", name := "solves", desc := "(LTwoSidedTables$Plain;)V" } : Jvm.MethodName)) ∈ lw_tbl := lw_at lw_m4 183 rfl
theorem q1005 : (Jvm.Cond.instanceMethod ({ cls := "TwoSidedTables", name := "solves", desc := "(LTwoSidedTables$Plain;)V" } : Jvm.MethodName)) ∈ lw_all := lw_g (lw_at lw_m4 184 rfl) rfl
theorem q1006 : (Jvm.Cond.code ({ cls := "TwoSidedTables", name := "solves", desc := "(LTwoSidedTables$Plain;)V" } : Jvm.MethodName) prog_1_method_49_code (2 : Nat) (Option.none : Option Jvm.ClassFile.FieldType)) ∈ lw_all := lw_g (lw_at lw_m4 185 rfl) rfl
theorem q1007 : (Jvm.Cond.methodLink "TwoSidedTables" (360 : Nat) ({ cls := "TwoSidedTables", name := "mustBeSolvable", desc := "()V" } : Jvm.MethodName)) ∈ lw_all := lw_g (lw_at lw_m4 186 rfl) rfl
theorem q1008 : (Jvm.Cond.privateMethod ({ cls := "TwoSidedTables", name := "mustBeSolvable", desc := "()V" } : Jvm.MethodName)) ∈ lw_tbl := lw_at lw_m4 187 rfl
theorem q1009 : (Jvm.Cond.instanceMethod ({ cls := "TwoSidedTables", name := "mustBeSolvable", desc := "()V" } : Jvm.MethodName)) ∈ lw_all := lw_g (lw_at lw_m4 188 rfl) rfl
theorem q1010 : (Jvm.Cond.code ({ cls := "TwoSidedTables", name := "mustBeSolvable", desc := "()V" } : Jvm.MethodName) prog_1_method_48_code (2 : Nat) (Option.none : Option Jvm.ClassFile.FieldType)) ∈ lw_all := lw_g (lw_at lw_m4 189 rfl) rfl
theorem q1012 : (Jvm.Cond.instanceMethod ({ cls := "TwoSidedTables", name := "change", desc := "(III)I" } : Jvm.MethodName)) ∈ lw_all := lw_g (lw_at lw_m4 191 rfl) rfl
theorem q1013 : (Jvm.Cond.selects "TwoSidedTables" ({ cls := "TwoSidedTables", name := "change", desc := "(III)I" } : Jvm.MethodName) ({ cls := "TwoSidedTables", name := "change", desc := "(III)I" } : Jvm.MethodName)) ∈ lw_all := lw_g (lw_at lw_m4 192 rfl) rfl
theorem q1014 : (Jvm.Cond.code ({ cls := "TwoSidedTables", name := "change", desc := "(III)I" } : Jvm.MethodName) prog_1_method_59_code (5 : Nat) (Option.some Jvm.ClassFile.FieldType.int)) ∈ lw_all := lw_g (lw_at lw_m4 193 rfl) rfl
theorem q1016 : (Jvm.Cond.instanceMethod ({ cls := "TwoSidedTables", name := "right", desc := "(III)J" } : Jvm.MethodName)) ∈ lw_all := lw_g (lw_at lw_m4 195 rfl) rfl
theorem q1017 : (Jvm.Cond.selects "TwoSidedTables" ({ cls := "TwoSidedTables", name := "right", desc := "(III)J" } : Jvm.MethodName) ({ cls := "TwoSidedTables", name := "right", desc := "(III)J" } : Jvm.MethodName)) ∈ lw_all := lw_g (lw_at lw_m4 196 rfl) rfl
theorem q1018 : (Jvm.Cond.code ({ cls := "TwoSidedTables", name := "right", desc := "(III)J" } : Jvm.MethodName) prog_1_method_60_code (4 : Nat) (Option.some Jvm.ClassFile.FieldType.long)) ∈ lw_all := lw_g (lw_at lw_m4 197 rfl) rfl
theorem q1020 : (Jvm.Cond.instanceMethod ({ cls := "TwoSidedTables", name := "solution", desc := "(IIII)J" } : Jvm.MethodName)) ∈ lw_all := lw_g (lw_at lw_m4 199 rfl) rfl
theorem q1021 : (Jvm.Cond.selects "TwoSidedTables" ({ cls := "TwoSidedTables", name := "solution", desc := "(IIII)J" } : Jvm.MethodName) ({ cls := "TwoSidedTables", name := "solution", desc := "(IIII)J" } : Jvm.MethodName)) ∈ lw_all := lw_g (lw_at lw_m4 200 rfl) rfl
theorem q1022 : (Jvm.Cond.codeWith ({ cls := "TwoSidedTables", name := "solution", desc := "(IIII)J" } : Jvm.MethodName) prog_1_method_62_code (7 : Nat) (Option.some Jvm.ClassFile.FieldType.long) [((59 : Nat), (90 : Nat), (91 : Nat), (52 : Nat))]) ∈ lw_all := lw_g (lw_at lw_m4 201 rfl) rfl
theorem q1023 : (Jvm.Cond.methodLink "TwoSidedTables" (427 : Nat) ({ cls := "TwoSidedTables", name := "bound", desc := "(IIZI)J" } : Jvm.MethodName)) ∈ lw_all := lw_g (lw_at lw_m4 202 rfl) rfl
theorem q1024 : (Jvm.Cond.privateMethod ({ cls := "TwoSidedTables", name := "bound", desc := "(IIZI)J" } : Jvm.MethodName)) ∈ lw_tbl := lw_at lw_m4 203 rfl
theorem q1025 : (Jvm.Cond.instanceMethod ({ cls := "TwoSidedTables", name := "bound", desc := "(IIZI)J" } : Jvm.MethodName)) ∈ lw_all := lw_g (lw_at lw_m4 204 rfl) rfl
theorem q1026 : (Jvm.Cond.code ({ cls := "TwoSidedTables", name := "bound", desc := "(IIZI)J" } : Jvm.MethodName) prog_1_method_61_code (8 : Nat) (Option.some Jvm.ClassFile.FieldType.long)) ∈ lw_all := lw_g (lw_at lw_m4 205 rfl) rfl
theorem q1028 : (Jvm.Cond.instanceMethod ({ cls := "TwoSidedTables", name := "base", desc := "(IIIII)J" } : Jvm.MethodName)) ∈ lw_all := lw_g (lw_at lw_m4 207 rfl) rfl
theorem q1029 : (Jvm.Cond.selects "TwoSidedTables" ({ cls := "TwoSidedTables", name := "base", desc := "(IIIII)J" } : Jvm.MethodName) ({ cls := "TwoSidedTables", name := "base", desc := "(IIIII)J" } : Jvm.MethodName)) ∈ lw_all := lw_g (lw_at lw_m4 208 rfl) rfl
theorem q1030 : (Jvm.Cond.code ({ cls := "TwoSidedTables", name := "base", desc := "(IIIII)J" } : Jvm.MethodName) prog_1_method_63_code (8 : Nat) (Option.some Jvm.ClassFile.FieldType.long)) ∈ lw_all := lw_g (lw_at lw_m4 209 rfl) rfl
theorem q1032 : (Jvm.Cond.instanceMethod ({ cls := "TwoSidedTables", name := "witness", desc := "(IIII)J" } : Jvm.MethodName)) ∈ lw_all := lw_g (lw_at lw_m4 211 rfl) rfl
theorem q1033 : (Jvm.Cond.selects "TwoSidedTables" ({ cls := "TwoSidedTables", name := "witness", desc := "(IIII)J" } : Jvm.MethodName) ({ cls := "TwoSidedTables", name := "witness", desc := "(IIII)J" } : Jvm.MethodName)) ∈ lw_all := lw_g (lw_at lw_m4 212 rfl) rfl
theorem q1034 : (Jvm.Cond.code ({ cls := "TwoSidedTables", name := "witness", desc := "(IIII)J" } : Jvm.MethodName) prog_1_method_65_code (6 : Nat) (Option.some Jvm.ClassFile.FieldType.long)) ∈ lw_all := lw_g (lw_at lw_m4 213 rfl) rfl
theorem q1035 : (Jvm.Cond.methodLink "TwoSidedTables" (431 : Nat) ({ cls := "TwoSidedTables", name := "laysWitness", desc := "(LTwoSidedTables$Plain;)V" } : Jvm.MethodName)) ∈ lw_all := lw_g (lw_at lw_m4 214 rfl) rfl
theorem q1036 : (Jvm.Cond.privateMethod ({ cls := "TwoSidedTables", name := "laysWitness", desc := "(LTwoSidedTables$Plain;)V" } : Jvm.MethodName)) ∈ lw_tbl := lw_at lw_m4 215 rfl
theorem q1037 : (Jvm.Cond.instanceMethod ({ cls := "TwoSidedTables", name := "laysWitness", desc := "(LTwoSidedTables$Plain;)V" } : Jvm.MethodName)) ∈ lw_all := lw_g (lw_at lw_m4 216 rfl) rfl
theorem q1038 : (Jvm.Cond.code ({ cls := "TwoSidedTables", name := "laysWitness", desc := "(LTwoSidedTables$Plain;)V" } : Jvm.MethodName) prog_1_method_64_code (8 : Nat) (Option.none : Option Jvm.ClassFile.FieldType)) ∈ lw_all := lw_g (lw_at lw_m4 217 rfl) rfl
theorem q1040 : (Jvm.Cond.instanceMethod ({ cls := "TwoSidedTables", name := "similar", desc := "(I)I" } : Jvm.MethodName)) ∈ lw_all := lw_g (lw_at lw_m4 219 rfl) rfl
theorem q1041 : (Jvm.Cond.selects "TwoSidedTables" ({ cls := "TwoSidedTables", name := "similar", desc := "(I)I" } : Jvm.MethodName) ({ cls := "TwoSidedTables", name := "similar", desc := "(I)I" } : Jvm.MethodName)) ∈ lw_all := lw_g (lw_at lw_m4 220 rfl) rfl
theorem q1042 : (Jvm.Cond.code ({ cls := "TwoSidedTables", name := "similar", desc := "(I)I" } : Jvm.MethodName) prog_1_method_67_code (2 : Nat) (Option.some Jvm.ClassFile.FieldType.int)) ∈ lw_all := lw_g (lw_at lw_m4 221 rfl) rfl
theorem q1043 : (Jvm.Cond.methodLink "TwoSidedTables" (434 : Nat) ({ cls := "TwoSidedTables", name := "isLoose", desc := "(II)Z" } : Jvm.MethodName)) ∈ lw_all := lw_g (lw_at lw_m4 222 rfl) rfl
theorem q1044 : (Jvm.Cond.privateMethod ({ cls := "TwoSidedTables", name := "isLoose", desc := "(II)Z" } : Jvm.MethodName)) ∈ lw_tbl := lw_at lw_m4 223 rfl
theorem q1045 : (Jvm.Cond.instanceMethod ({ cls := "TwoSidedTables", name := "isLoose", desc := "(II)Z" } : Jvm.MethodName)) ∈ lw_all := lw_g (lw_at lw_m4 224 rfl) rfl
theorem q1046 : (Jvm.Cond.code ({ cls := "TwoSidedTables", name := "isLoose", desc := "(II)Z" } : Jvm.MethodName) prog_1_method_66_code (3 : Nat) (Option.some Jvm.ClassFile.FieldType.boolean)) ∈ lw_all := lw_g (lw_at lw_m4 225 rfl) rfl
theorem q1047 : (Jvm.Cond.classLink "TwoSidedTables" (437 : Nat) "TwoSidedTables$Loose") ∈ lw_all := lw_g (lw_at lw_m4 226 rfl) rfl
theorem q1049 : (Jvm.Cond.methodLink "TwoSidedTables" (439 : Nat) ({ cls := "TwoSidedTables$Loose", name := "<init>", desc := "(LTwoSidedTables$Plain;)V" } : Jvm.MethodName)) ∈ lw_all := lw_g (lw_at lw_m4 228 rfl) rfl
theorem q1073 : (Jvm.Cond.instanceMethod ({ cls := "TwoSidedTables", name := "whole", desc := "(I)J" } : Jvm.MethodName)) ∈ lw_all := lw_g (lw_at lw_m5 12 rfl) rfl
theorem q1074 : (Jvm.Cond.selects "TwoSidedTables" ({ cls := "TwoSidedTables", name := "whole", desc := "(I)J" } : Jvm.MethodName) ({ cls := "TwoSidedTables", name := "whole", desc := "(I)J" } : Jvm.MethodName)) ∈ lw_all := lw_g (lw_at lw_m5 13 rfl) rfl
theorem q1075 : (Jvm.Cond.code ({ cls := "TwoSidedTables", name := "whole", desc := "(I)J" } : Jvm.MethodName) prog_1_method_68_code (2 : Nat) (Option.some Jvm.ClassFile.FieldType.long)) ∈ lw_all := lw_g (lw_at lw_m5 14 rfl) rfl
theorem q1077 : (Jvm.Cond.instanceMethod ({ cls := "TwoSidedTables", name := "lower", desc := "(II)I" } : Jvm.MethodName)) ∈ lw_all := lw_g (lw_at lw_m5 16 rfl) rfl
theorem q1078 : (Jvm.Cond.selects "TwoSidedTables" ({ cls := "TwoSidedTables", name := "lower", desc := "(II)I" } : Jvm.MethodName) ({ cls := "TwoSidedTables", name := "lower", desc := "(II)I" } : Jvm.MethodName)) ∈ lw_all := lw_g (lw_at lw_m5 17 rfl) rfl
theorem q1079 : (Jvm.Cond.code ({ cls := "TwoSidedTables", name := "lower", desc := "(II)I" } : Jvm.MethodName) prog_1_method_70_code (4 : Nat) (Option.some Jvm.ClassFile.FieldType.int)) ∈ lw_all := lw_g (lw_at lw_m5 18 rfl) rfl
theorem q1080 : (Jvm.Cond.methodLink "TwoSidedTables" (441 : Nat) ({ cls := "TwoSidedTables", name := "splitSet", desc := "()I" } : Jvm.MethodName)) ∈ lw_all := lw_g (lw_at lw_m5 19 rfl) rfl
theorem q1081 : (Jvm.Cond.privateMethod ({ cls := "TwoSidedTables", name := "splitSet", desc := "()I" } : Jvm.MethodName)) ∈ lw_tbl := lw_at lw_m5 20 rfl
theorem q1082 : (Jvm.Cond.instanceMethod ({ cls := "TwoSidedTables", name := "splitSet", desc := "()I" } : Jvm.MethodName)) ∈ lw_all := lw_g (lw_at lw_m5 21 rfl) rfl
theorem q1083 : (Jvm.Cond.code ({ cls := "TwoSidedTables", name := "splitSet", desc := "()I" } : Jvm.MethodName) prog_1_method_69_code (4 : Nat) (Option.some Jvm.ClassFile.FieldType.int)) ∈ lw_all := lw_g (lw_at lw_m5 22 rfl) rfl
theorem q1084 : (Jvm.Cond.classLink "TwoSidedTables" (444 : Nat) "TwoSidedTables$Lower") ∈ lw_all := lw_g (lw_at lw_m5 23 rfl) rfl
theorem q1086 : (Jvm.Cond.methodLink "TwoSidedTables" (446 : Nat) ({ cls := "TwoSidedTables$Lower", name := "<init>", desc := "(LTwoSidedTables$Plain;I)V" } : Jvm.MethodName)) ∈ lw_all := lw_g (lw_at lw_m5 25 rfl) rfl
theorem q1097 : (Jvm.Cond.instanceMethod ({ cls := "TwoSidedTables", name := "swapped", desc := "()I" } : Jvm.MethodName)) ∈ lw_all := lw_g (lw_at lw_m5 36 rfl) rfl
theorem q1098 : (Jvm.Cond.selects "TwoSidedTables" ({ cls := "TwoSidedTables", name := "swapped", desc := "()I" } : Jvm.MethodName) ({ cls := "TwoSidedTables", name := "swapped", desc := "()I" } : Jvm.MethodName)) ∈ lw_all := lw_g (lw_at lw_m5 37 rfl) rfl
theorem q1099 : (Jvm.Cond.code ({ cls := "TwoSidedTables", name := "swapped", desc := "()I" } : Jvm.MethodName) prog_1_method_71_code (1 : Nat) (Option.some Jvm.ClassFile.FieldType.int)) ∈ lw_all := lw_g (lw_at lw_m5 38 rfl) rfl
theorem q1101 : (Jvm.Cond.instanceMethod ({ cls := "TwoSidedTables", name := "stable", desc := "()I" } : Jvm.MethodName)) ∈ lw_all := lw_g (lw_at lw_m5 40 rfl) rfl
theorem q1102 : (Jvm.Cond.selects "TwoSidedTables" ({ cls := "TwoSidedTables", name := "stable", desc := "()I" } : Jvm.MethodName) ({ cls := "TwoSidedTables", name := "stable", desc := "()I" } : Jvm.MethodName)) ∈ lw_all := lw_g (lw_at lw_m5 41 rfl) rfl
theorem q1103 : (Jvm.Cond.code ({ cls := "TwoSidedTables", name := "stable", desc := "()I" } : Jvm.MethodName) prog_1_method_74_code (1 : Nat) (Option.some Jvm.ClassFile.FieldType.int)) ∈ lw_all := lw_g (lw_at lw_m5 42 rfl) rfl
theorem q1104 : (Jvm.Cond.methodLink "TwoSidedTables" (452 : Nat) ({ cls := "TwoSidedTables", name := "isStable", desc := "()Z" } : Jvm.MethodName)) ∈ lw_all := lw_g (lw_at lw_m5 43 rfl) rfl
theorem q1105 : (Jvm.Cond.privateMethod ({ cls := "TwoSidedTables", name := "isStable", desc := "()Z" } : Jvm.MethodName)) ∈ lw_tbl := lw_at lw_m5 44 rfl
theorem q1106 : (Jvm.Cond.instanceMethod ({ cls := "TwoSidedTables", name := "isStable", desc := "()Z" } : Jvm.MethodName)) ∈ lw_all := lw_g (lw_at lw_m5 45 rfl) rfl
theorem q1107 : (Jvm.Cond.code ({ cls := "TwoSidedTables", name := "isStable", desc := "()Z" } : Jvm.MethodName) prog_1_method_73_code (4 : Nat) (Option.some Jvm.ClassFile.FieldType.boolean)) ∈ lw_all := lw_g (lw_at lw_m5 46 rfl) rfl
theorem q1108 : (Jvm.Cond.methodLink "TwoSidedTables" (448 : Nat) ({ cls := "TwoSidedTables", name := "areAbove", desc := "([J)Z" } : Jvm.MethodName)) ∈ lw_all := lw_g (lw_at lw_m5 47 rfl) rfl
theorem q1109 : (Jvm.Cond.static ({ cls := "TwoSidedTables", name := "areAbove", desc := "([J)Z" } : Jvm.MethodName)) ∈ lw_all := lw_g (lw_at lw_m5 48 rfl) rfl
theorem q1110 : (Jvm.Cond.code ({ cls := "TwoSidedTables", name := "areAbove", desc := "([J)Z" } : Jvm.MethodName) prog_1_method_72_code (6 : Nat) (Option.some Jvm.ClassFile.FieldType.boolean)) ∈ lw_all := lw_g (lw_at lw_m5 49 rfl) rfl
theorem q1112 : (Jvm.Cond.instanceMethod ({ cls := "TwoSidedTables", name := "lay", desc := "(II)I" } : Jvm.MethodName)) ∈ lw_all := lw_g (lw_at lw_m5 51 rfl) rfl
theorem q1113 : (Jvm.Cond.selects "TwoSidedTables" ({ cls := "TwoSidedTables", name := "lay", desc := "(II)I" } : Jvm.MethodName) ({ cls := "TwoSidedTables", name := "lay", desc := "(II)I" } : Jvm.MethodName)) ∈ lw_all := lw_g (lw_at lw_m5 52 rfl) rfl
theorem q1114 : (Jvm.Cond.codeWith ({ cls := "TwoSidedTables", name := "lay", desc := "(II)I" } : Jvm.MethodName) prog_1_method_77_code (6 : Nat) (Option.some Jvm.ClassFile.FieldType.int) [((33 : Nat), (82 : Nat), (83 : Nat), (52 : Nat)), ((33 : Nat), (82 : Nat), (87 : Nat), (388 : Nat))]) ∈ lw_all := lw_g (lw_at lw_m5 53 rfl) rfl
theorem q1115 : (Jvm.Cond.methodLink "TwoSidedTables" (459 : Nat) ({ cls := "TwoSidedTables", name := "isShelf", desc := "(I)Z" } : Jvm.MethodName)) ∈ lw_all := lw_g (lw_at lw_m5 54 rfl) rfl
theorem q1116 : (Jvm.Cond.static ({ cls := "TwoSidedTables", name := "isShelf", desc := "(I)Z" } : Jvm.MethodName)) ∈ lw_all := lw_g (lw_at lw_m5 55 rfl) rfl
theorem q1117 : (Jvm.Cond.code ({ cls := "TwoSidedTables", name := "isShelf", desc := "(I)Z" } : Jvm.MethodName) prog_1_method_90_code (1 : Nat) (Option.some Jvm.ClassFile.FieldType.boolean)) ∈ lw_all := lw_g (lw_at lw_m5 56 rfl) rfl
theorem q1118 : (Jvm.Cond.methodLink "TwoSidedTables" (462 : Nat) ({ cls := "TwoSidedTables", name := "scaleOf", desc := "(LTwoSidedTables$Plain;)J" } : Jvm.MethodName)) ∈ lw_all := lw_g (lw_at lw_m5 57 rfl) rfl
theorem q1119 : (Jvm.Cond.privateMethod ({ cls := "TwoSidedTables", name := "scaleOf", desc := "(LTwoSidedTables$Plain;)J" } : Jvm.MethodName)) ∈ lw_tbl := lw_at lw_m5 58 rfl
theorem q1120 : (Jvm.Cond.instanceMethod ({ cls := "TwoSidedTables", name := "scaleOf", desc := "(LTwoSidedTables$Plain;)J" } : Jvm.MethodName)) ∈ lw_all := lw_g (lw_at lw_m5 59 rfl) rfl
theorem q1121 : (Jvm.Cond.code ({ cls := "TwoSidedTables", name := "scaleOf", desc := "(LTwoSidedTables$Plain;)J" } : Jvm.MethodName) prog_1_method_75_code (8 : Nat) (Option.some Jvm.ClassFile.FieldType.long)) ∈ lw_all := lw_g (lw_at lw_m5 60 rfl) rfl
theorem q1122 : (Jvm.Cond.methodLink "TwoSidedTables" (455 : Nat) ({ cls := "java/lang/Math", name := "toIntExact", desc := "(J)I" } : Jvm.MethodName)) ∈ lw_all := lw_g (lw_at lw_m5 61 rfl) rfl
theorem q1126 : (Jvm.Cond.methodLink "TwoSidedTables" (466 : Nat) ({ cls := "TwoSidedTables", name := "laidOut", desc := "(LTwoSidedTables$Plain;J)[I" } : Jvm.MethodName)) ∈ lw_all := lw_g (lw_at lw_m5 65 rfl) rfl
theorem q1127 : (Jvm.Cond.privateMethod ({ cls := "TwoSidedTables", name := "laidOut", desc := "(LTwoSidedTables$Plain;J)[I" } : Jvm.MethodName)) ∈ lw_tbl := lw_at lw_m5 66 rfl
theorem q1128 : (Jvm.Cond.instanceMethod ({ cls := "TwoSidedTables", name := "laidOut", desc := "(LTwoSidedTables$Plain;J)[I" } : Jvm.MethodName)) ∈ lw_all := lw_g (lw_at lw_m5 67 rfl) rfl
theorem q1129 : (Jvm.Cond.code ({ cls := "TwoSidedTables", name := "laidOut", desc := "(LTwoSidedTables$Plain;J)[I" } : Jvm.MethodName) prog_1_method_76_code (10 : Nat) (Option.some (Jvm.ClassFile.FieldType.array Jvm.ClassFile.FieldType.int))) ∈ lw_all := lw_g (lw_at lw_m5 68 rfl) rfl
theorem q1131 : (Jvm.Cond.instanceMethod ({ cls := "TwoSidedTables", name := "judge", desc := "(III)I" } : Jvm.MethodName)) ∈ lw_all := lw_g (lw_at lw_m5 70 rfl) rfl
theorem q1132 : (Jvm.Cond.selects "TwoSidedTables" ({ cls := "TwoSidedTables", name := "judge", desc := "(III)I" } : Jvm.MethodName) ({ cls := "TwoSidedTables", name := "judge", desc := "(III)I" } : Jvm.MethodName)) ∈ lw_all := lw_g (lw_at lw_m5 71 rfl) rfl
theorem q1133 : (Jvm.Cond.codeWith ({ cls := "TwoSidedTables", name := "judge", desc := "(III)I" } : Jvm.MethodName) prog_1_method_82_code (5 : Nat) (Option.some Jvm.ClassFile.FieldType.int) [((38 : Nat), (54 : Nat), (55 : Nat), (495 : Nat)), ((38 : Nat), (54 : Nat), (60 : Nat), (8 : Nat))]) ∈ lw_all := lw_g (lw_at lw_m5 72 rfl) rfl
theorem q1134 : (Jvm.Cond.classLink "TwoSidedTables" (495 : Nat) "java/lang/ClassCastException") ∈ lw_all := lw_g (lw_at lw_m5 73 rfl) rfl
theorem q1148 : (Jvm.Cond.methodLink "TwoSidedTables" (487 : Nat) ({ cls := "TwoSidedTables", name := "tableOf", desc := "(I)[I" } : Jvm.MethodName)) ∈ lw_all := lw_g (lw_at lw_m5 87 rfl) rfl
theorem q1149 : (Jvm.Cond.privateMethod ({ cls := "TwoSidedTables", name := "tableOf", desc := "(I)[I" } : Jvm.MethodName)) ∈ lw_tbl := lw_at lw_m5 88 rfl
theorem q1150 : (Jvm.Cond.instanceMethod ({ cls := "TwoSidedTables", name := "tableOf", desc := "(I)[I" } : Jvm.MethodName)) ∈ lw_all := lw_g (lw_at lw_m5 89 rfl) rfl
theorem q1151 : (Jvm.Cond.code ({ cls := "TwoSidedTables", name := "tableOf", desc := "(I)[I" } : Jvm.MethodName) prog_1_method_81_code (3 : Nat) (Option.some (Jvm.ClassFile.FieldType.array Jvm.ClassFile.FieldType.int))) ∈ lw_all := lw_g (lw_at lw_m5 90 rfl) rfl
theorem q1152 : (Jvm.Cond.classLink "TwoSidedTables" (482 : Nat) "[I") ∈ lw_all := lw_g (lw_at lw_m5 91 rfl) rfl
theorem q1153 : (Jvm.Cond.methodLink "TwoSidedTables" (483 : Nat) ({ cls := "TwoSidedTables", name := "must", desc := "(ZI)V" } : Jvm.MethodName)) ∈ lw_all := lw_g (lw_at lw_m5 92 rfl) rfl
theorem q1154 : (Jvm.Cond.privateMethod ({ cls := "TwoSidedTables", name := "must", desc := "(ZI)V" } : Jvm.MethodName)) ∈ lw_tbl := lw_at lw_m5 93 rfl
theorem q1155 : (Jvm.Cond.instanceMethod ({ cls := "TwoSidedTables", name := "must", desc := "(ZI)V" } : Jvm.MethodName)) ∈ lw_all := lw_g (lw_at lw_m5 94 rfl) rfl
theorem q1156 : (Jvm.Cond.code ({ cls := "TwoSidedTables", name := "must", desc := "(ZI)V" } : Jvm.MethodName) prog_1_method_2_code (3 : Nat) (Option.none : Option Jvm.ClassFile.FieldType)) ∈ lw_all := lw_g (lw_at lw_m5 95 rfl) rfl
theorem q1157 : (Jvm.Cond.methodLink "TwoSidedTables" (7 : Nat) ({ cls := "TwoSidedTables$Refusal", name := "of", desc := "(I)LTwoSidedTables$Refusal;" } : Jvm.MethodName)) ∈ lw_all := lw_g (lw_at lw_m5 96 rfl) rfl
theorem q1158 : (Jvm.Cond.methodLink "TwoSidedTables" (491 : Nat) ({ cls := "TwoSidedTables", name := "firstOther", desc := "(LTwoSidedTables$Plain;[II)I" } : Jvm.MethodName)) ∈ lw_all := lw_g (lw_at lw_m5 97 rfl) rfl
theorem q1159 : (Jvm.Cond.privateMethod ({ cls := "TwoSidedTables", name := "firstOther", desc := "(LTwoSidedTables$Plain;[II)I" } : Jvm.MethodName)) ∈ lw_tbl := lw_at lw_m5 98 rfl
theorem q1160 : (Jvm.Cond.instanceMethod ({ cls := "TwoSidedTables", name := "firstOther", desc := "(LTwoSidedTables$Plain;[II)I" } : Jvm.MethodName)) ∈ lw_all := lw_g (lw_at lw_m5 99 rfl) rfl
theorem q1161 : (Jvm.Cond.code ({ cls := "TwoSidedTables", name := "firstOther", desc := "(LTwoSidedTables$Plain;[II)I" } : Jvm.MethodName) prog_1_method_80_code (6 : Nat) (Option.some Jvm.ClassFile.FieldType.int)) ∈ lw_all := lw_g (lw_at lw_m5 100 rfl) rfl
theorem q1162 : (Jvm.Cond.methodLink "TwoSidedTables" (474 : Nat) ({ cls := "TwoSidedTables", name := "sumAt", desc := "(LTwoSidedTables$Plain;[III)J" } : Jvm.MethodName)) ∈ lw_all := lw_g (lw_at lw_m5 101 rfl) rfl
theorem q1163 : (Jvm.Cond.privateMethod ({ cls := "TwoSidedTables", name := "sumAt", desc := "(LTwoSidedTables$Plain;[III)J" } : Jvm.MethodName)) ∈ lw_tbl := lw_at lw_m5 102 rfl
theorem q1164 : (Jvm.Cond.instanceMethod ({ cls := "TwoSidedTables", name := "sumAt", desc := "(LTwoSidedTables$Plain;[III)J" } : Jvm.MethodName)) ∈ lw_all := lw_g (lw_at lw_m5 103 rfl) rfl
theorem q1165 : (Jvm.Cond.code ({ cls := "TwoSidedTables", name := "sumAt", desc := "(LTwoSidedTables$Plain;[III)J" } : Jvm.MethodName) prog_1_method_78_code (8 : Nat) (Option.some Jvm.ClassFile.FieldType.long)) ∈ lw_all := lw_g (lw_at lw_m5 104 rfl) rfl
theorem q1166 : (Jvm.Cond.methodLink "TwoSidedTables" (478 : Nat) ({ cls := "TwoSidedTables", name := "isOfShape", desc := "(LTwoSidedTables$Plain;[I)Z" } : Jvm.MethodName)) ∈ lw_all := lw_g (lw_at lw_m5 105 rfl) rfl
theorem q1167 : (Jvm.Cond.privateMethod ({ cls := "TwoSidedTables", name := "isOfShape", desc := "(LTwoSidedTables$Plain;[I)Z" } : Jvm.MethodName)) ∈ lw_tbl := lw_at lw_m5 106 rfl
theorem q1168 : (Jvm.Cond.instanceMethod ({ cls := "TwoSidedTables", name := "isOfShape", desc := "(LTwoSidedTables$Plain;[I)Z" } : Jvm.MethodName)) ∈ lw_all := lw_g (lw_at lw_m5 107 rfl) rfl
theorem q1169 : (Jvm.Cond.code ({ cls := "TwoSidedTables", name := "isOfShape", desc := "(LTwoSidedTables$Plain;[I)Z" } : Jvm.MethodName) prog_1_method_79_code (9 : Nat) (Option.some Jvm.ClassFile.FieldType.boolean)) ∈ lw_all := lw_g (lw_at lw_m5 108 rfl) rfl
theorem q1171 : (Jvm.Cond.instanceMethod ({ cls := "TwoSidedTables", name := "kinds", desc := "(II)I" } : Jvm.MethodName)) ∈ lw_all := lw_g (lw_at lw_m5 110 rfl) rfl
theorem q1172 : (Jvm.Cond.selects "TwoSidedTables" ({ cls := "TwoSidedTables", name := "kinds", desc := "(II)I" } : Jvm.MethodName) ({ cls := "TwoSidedTables", name := "kinds", desc := "(II)I" } : Jvm.MethodName)) ∈ lw_all := lw_g (lw_at lw_m5 111 rfl) rfl
theorem q1173 : (Jvm.Cond.codeWith ({ cls := "TwoSidedTables", name := "kinds", desc := "(II)I" } : Jvm.MethodName) prog_1_method_83_code (7 : Nat) (Option.some Jvm.ClassFile.FieldType.int) [((16 : Nat), (88 : Nat), (89 : Nat), (495 : Nat)), ((16 : Nat), (88 : Nat), (93 : Nat), (8 : Nat))]) ∈ lw_all := lw_g (lw_at lw_m5 112 rfl) rfl
theorem q1174 : (Jvm.Cond.methodLink "TwoSidedTables" (498 : Nat) ({ cls := "TwoSidedTables", name := "stranger", desc := "(II)LTwoSidedTables$Plain;" } : Jvm.MethodName)) ∈ lw_all := lw_g (lw_at lw_m5 113 rfl) rfl
theorem q1175 : (Jvm.Cond.privateMethod ({ cls := "TwoSidedTables", name := "stranger", desc := "(II)LTwoSidedTables$Plain;" } : Jvm.MethodName)) ∈ lw_tbl := lw_at lw_m5 114 rfl
theorem q1176 : (Jvm.Cond.instanceMethod ({ cls := "TwoSidedTables", name := "stranger", desc := "(II)LTwoSidedTables$Plain;" } : Jvm.MethodName)) ∈ lw_all := lw_g (lw_at lw_m5 115 rfl) rfl
theorem q1177 : (Jvm.Cond.code ({ cls := "TwoSidedTables", name := "stranger", desc := "(II)LTwoSidedTables$Plain;" } : Jvm.MethodName) prog_1_method_84_code (4 : Nat) (Option.some (Jvm.ClassFile.FieldType.object "TwoSidedTables$Plain"))) ∈ lw_all := lw_g (lw_at lw_m5 116 rfl) rfl
theorem q1179 : (Jvm.Cond.instanceMethod ({ cls := "TwoSidedTables", name := "seed", desc := "(I)I" } : Jvm.MethodName)) ∈ lw_all := lw_g (lw_at lw_m5 118 rfl) rfl
theorem q1180 : (Jvm.Cond.selects "TwoSidedTables" ({ cls := "TwoSidedTables", name := "seed", desc := "(I)I" } : Jvm.MethodName) ({ cls := "TwoSidedTables", name := "seed", desc := "(I)I" } : Jvm.MethodName)) ∈ lw_all := lw_g (lw_at lw_m5 119 rfl) rfl
theorem q1181 : (Jvm.Cond.code ({ cls := "TwoSidedTables", name := "seed", desc := "(I)I" } : Jvm.MethodName) prog_1_method_85_code (3 : Nat) (Option.some Jvm.ClassFile.FieldType.int)) ∈ lw_all := lw_g (lw_at lw_m5 120 rfl) rfl
theorem q1183 : (Jvm.Cond.instanceMethod ({ cls := "TwoSidedTables", name := "lot", desc := "()I" } : Jvm.MethodName)) ∈ lw_all := lw_g (lw_at lw_m5 122 rfl) rfl
theorem q1184 : (Jvm.Cond.selects "TwoSidedTables" ({ cls := "TwoSidedTables", name := "lot", desc := "()I" } : Jvm.MethodName) ({ cls := "TwoSidedTables", name := "lot", desc := "()I" } : Jvm.MethodName)) ∈ lw_all := lw_g (lw_at lw_m5 123 rfl) rfl
theorem q1185 : (Jvm.Cond.code ({ cls := "TwoSidedTables", name := "lot", desc := "()I" } : Jvm.MethodName) prog_1_method_88_code (1 : Nat) (Option.some Jvm.ClassFile.FieldType.int)) ∈ lw_all := lw_g (lw_at lw_m5 124 rfl) rfl
theorem q1186 : (Jvm.Cond.methodLink "TwoSidedTables" (510 : Nat) ({ cls := "TwoSidedTables", name := "byLot", desc := "()V" } : Jvm.MethodName)) ∈ lw_all := lw_g (lw_at lw_m5 125 rfl) rfl
theorem q1187 : (Jvm.Cond.privateMethod ({ cls := "TwoSidedTables", name := "byLot", desc := "()V" } : Jvm.MethodName)) ∈ lw_tbl := lw_at lw_m5 126 rfl
theorem q1188 : (Jvm.Cond.instanceMethod ({ cls := "TwoSidedTables", name := "byLot", desc := "()V" } : Jvm.MethodName)) ∈ lw_all := lw_g (lw_at lw_m5 127 rfl) rfl
theorem q1189 : (Jvm.Cond.code ({ cls := "TwoSidedTables", name := "byLot", desc := "()V" } : Jvm.MethodName) prog_1_method_87_code (1 : Nat) (Option.none : Option Jvm.ClassFile.FieldType)) ∈ lw_all := lw_g (lw_at lw_m5 128 rfl) rfl
theorem q1190 : (Jvm.Cond.methodLink "TwoSidedTables" (506 : Nat) ({ cls := "TwoSidedTables", name := "fill", desc := "(LTwoSidedTables$Table;II)V" } : Jvm.MethodName)) ∈ lw_all := lw_g (lw_at lw_m5 129 rfl) rfl
theorem q1191 : (Jvm.Cond.privateMethod ({ cls := "TwoSidedTables", name := "fill", desc := "(LTwoSidedTables$Table;II)V" } : Jvm.MethodName)) ∈ lw_tbl := lw_at lw_m5 130 rfl
theorem q1192 : (Jvm.Cond.instanceMethod ({ cls := "TwoSidedTables", name := "fill", desc := "(LTwoSidedTables$Table;II)V" } : Jvm.MethodName)) ∈ lw_all := lw_g (lw_at lw_m5 131 rfl) rfl
theorem q1193 : (Jvm.Cond.code ({ cls := "TwoSidedTables", name := "fill", desc := "(LTwoSidedTables$Table;II)V" } : Jvm.MethodName) prog_1_method_86_code (5 : Nat) (Option.none : Option Jvm.ClassFile.FieldType)) ∈ lw_all := lw_g (lw_at lw_m5 132 rfl) rfl
theorem q1194 : (Jvm.Cond.constant "TwoSidedTables" (502 : Nat) (1103515245 : Int32)) ∈ lw_all := lw_g (lw_at lw_m5 133 rfl) rfl
theorem q1196 : (Jvm.Cond.instanceMethod ({ cls := "TwoSidedTables", name := "times", desc := "(II)I" } : Jvm.MethodName)) ∈ lw_all := lw_g (lw_at lw_m5 135 rfl) rfl
theorem q1197 : (Jvm.Cond.selects "TwoSidedTables" ({ cls := "TwoSidedTables", name := "times", desc := "(II)I" } : Jvm.MethodName) ({ cls := "TwoSidedTables", name := "times", desc := "(II)I" } : Jvm.MethodName)) ∈ lw_all := lw_g (lw_at lw_m5 136 rfl) rfl
theorem q1198 : (Jvm.Cond.codeWith ({ cls := "TwoSidedTables", name := "times", desc := "(II)I" } : Jvm.MethodName) prog_1_method_89_code (6 : Nat) (Option.some Jvm.ClassFile.FieldType.int) [((42 : Nat), (85 : Nat), (99 : Nat), (0 : Nat)), ((99 : Nat), (101 : Nat), (99 : Nat), (0 : Nat))]) ∈ lw_all := lw_g (lw_at lw_m5 137 rfl) rfl
theorem q1200 : (Jvm.Cond.instanceMethod ({ cls := "TwoSidedTables", name := "sheet", desc := "(III)I" } : Jvm.MethodName)) ∈ lw_all := lw_g (lw_at lw_m5 139 rfl) rfl
theorem q1201 : (Jvm.Cond.selects "TwoSidedTables" ({ cls := "TwoSidedTables", name := "sheet", desc := "(III)I" } : Jvm.MethodName) ({ cls := "TwoSidedTables", name := "sheet", desc := "(III)I" } : Jvm.MethodName)) ∈ lw_all := lw_g (lw_at lw_m5 140 rfl) rfl
theorem q1202 : (Jvm.Cond.codeWith ({ cls := "TwoSidedTables", name := "sheet", desc := "(III)I" } : Jvm.MethodName) prog_1_method_92_code (5 : Nat) (Option.some Jvm.ClassFile.FieldType.int) [((28 : Nat), (51 : Nat), (52 : Nat), (517 : Nat))]) ∈ lw_all := lw_g (lw_at lw_m5 141 rfl) rfl
theorem q1203 : (Jvm.Cond.classLink "TwoSidedTables" (517 : Nat) "java/lang/NegativeArraySizeException") ∈ lw_all := lw_g (lw_at lw_m5 142 rfl) rfl
theorem q1217 : (Jvm.Cond.methodLink "TwoSidedTables" (513 : Nat) ({ cls := "TwoSidedTables", name := "rowOfSort", desc := "(II)Ljava/lang/Object;" } : Jvm.MethodName)) ∈ lw_all := lw_g (lw_at lw_m5 156 rfl) rfl
theorem q1218 : (Jvm.Cond.static ({ cls := "TwoSidedTables", name := "rowOfSort", desc := "(II)Ljava/lang/Object;" } : Jvm.MethodName)) ∈ lw_all := lw_g (lw_at lw_m5 157 rfl) rfl
theorem q1219 : (Jvm.Cond.code ({ cls := "TwoSidedTables", name := "rowOfSort", desc := "(II)Ljava/lang/Object;" } : Jvm.MethodName) prog_1_method_91_code (2 : Nat) (Option.some (Jvm.ClassFile.FieldType.object "java/lang/Object"))) ∈ lw_all := lw_g (lw_at lw_m5 158 rfl) rfl
theorem q1222 : (Jvm.Cond.instanceMethod ({ cls := "TwoSidedTables", name := "put", desc := "(IIJ)I" } : Jvm.MethodName)) ∈ lw_all := lw_g (lw_at lw_m5 161 rfl) rfl
theorem q1223 : (Jvm.Cond.selects "TwoSidedTables" ({ cls := "TwoSidedTables", name := "put", desc := "(IIJ)I" } : Jvm.MethodName) ({ cls := "TwoSidedTables", name := "put", desc := "(IIJ)I" } : Jvm.MethodName)) ∈ lw_all := lw_g (lw_at lw_m5 162 rfl) rfl
theorem q1224 : (Jvm.Cond.codeWith ({ cls := "TwoSidedTables", name := "put", desc := "(IIJ)I" } : Jvm.MethodName) prog_1_method_95_code (6 : Nat) (Option.some Jvm.ClassFile.FieldType.int) [((9 : Nat), (62 : Nat), (63 : Nat), (8 : Nat))]) ∈ lw_all := lw_g (lw_at lw_m5 163 rfl) rfl
theorem q1225 : (Jvm.Cond.methodLink "TwoSidedTables" (523 : Nat) ({ cls := "TwoSidedTables", name := "length", desc := "(Ljava/lang/Object;)I" } : Jvm.MethodName)) ∈ lw_all := lw_g (lw_at lw_m5 164 rfl) rfl
theorem q1226 : (Jvm.Cond.static ({ cls := "TwoSidedTables", name := "length", desc := "(Ljava/lang/Object;)I" } : Jvm.MethodName)) ∈ lw_all := lw_g (lw_at lw_m5 165 rfl) rfl
theorem q1227 : (Jvm.Cond.code ({ cls := "TwoSidedTables", name := "length", desc := "(Ljava/lang/Object;)I" } : Jvm.MethodName) prog_1_method_93_code (1 : Nat) (Option.some Jvm.ClassFile.FieldType.int)) ∈ lw_all := lw_g (lw_at lw_m5 166 rfl) rfl
theorem q1228 : (Jvm.Cond.classLink "TwoSidedTables" (519 : Nat) "[B") ∈ lw_all := lw_g (lw_at lw_m5 167 rfl) rfl
theorem q1229 : (Jvm.Cond.classLink "TwoSidedTables" (520 : Nat) "[S") ∈ lw_all := lw_g (lw_at lw_m5 168 rfl) rfl
theorem q1230 : (Jvm.Cond.classLink "TwoSidedTables" (522 : Nat) "[J") ∈ lw_all := lw_g (lw_at lw_m5 169 rfl) rfl
theorem q1231 : (Jvm.Cond.methodLink "TwoSidedTables" (526 : Nat) ({ cls := "TwoSidedTables", name := "set", desc := "(Ljava/lang/Object;IJ)V" } : Jvm.MethodName)) ∈ lw_all := lw_g (lw_at lw_m5 170 rfl) rfl
theorem q1232 : (Jvm.Cond.static ({ cls := "TwoSidedTables", name := "set", desc := "(Ljava/lang/Object;IJ)V" } : Jvm.MethodName)) ∈ lw_all := lw_g (lw_at lw_m5 171 rfl) rfl
theorem q1233 : (Jvm.Cond.code ({ cls := "TwoSidedTables", name := "set", desc := "(Ljava/lang/Object;IJ)V" } : Jvm.MethodName) prog_1_method_94_code (4 : Nat) (Option.none : Option Jvm.ClassFile.FieldType)) ∈ lw_all := lw_g (lw_at lw_m5 172 rfl) rfl
theorem q1235 : (Jvm.Cond.instanceMethod ({ cls := "TwoSidedTables", name := "item", desc := "(III)I" } : Jvm.MethodName)) ∈ lw_all := lw_g (lw_at lw_m5 174 rfl) rfl
theorem q1236 : (Jvm.Cond.selects "TwoSidedTables" ({ cls := "TwoSidedTables", name := "item", desc := "(III)I" } : Jvm.MethodName) ({ cls := "TwoSidedTables", name := "item", desc := "(III)I" } : Jvm.MethodName)) ∈ lw_all := lw_g (lw_at lw_m5 175 rfl) rfl
theorem q1237 : (Jvm.Cond.codeWith ({ cls := "TwoSidedTables", name := "item", desc := "(III)I" } : Jvm.MethodName) prog_1_method_98_code (5 : Nat) (Option.some Jvm.ClassFile.FieldType.int) [((18 : Nat), (33 : Nat), (34 : Nat), (495 : Nat)), ((18 : Nat), (33 : Nat), (39 : Nat), (537 : Nat)), ((18 : Nat), (33 : Nat), (44 : Nat), (8 : Nat))]) ∈ lw_all := lw_g (lw_at lw_m5 176 rfl) rfl
theorem q1238 : (Jvm.Cond.classLink "TwoSidedTables" (537 : Nat) "java/lang/NullPointerException") ∈ lw_all := lw_g (lw_at lw_m5 177 rfl) rfl
theorem q1263 : (Jvm.Cond.methodLink "TwoSidedTables" (533 : Nat) ({ cls := "TwoSidedTables", name := "itemOf", desc := "(Ljava/lang/Object;II)I" } : Jvm.MethodName)) ∈ lw_all := lw_g (lw_at lw_m5 202 rfl) rfl
theorem q1264 : (Jvm.Cond.privateMethod ({ cls := "TwoSidedTables", name := "itemOf", desc := "(Ljava/lang/Object;II)I" } : Jvm.MethodName)) ∈ lw_tbl := lw_at lw_m5 203 rfl
theorem q1265 : (Jvm.Cond.instanceMethod ({ cls := "TwoSidedTables", name := "itemOf", desc := "(Ljava/lang/Object;II)I" } : Jvm.MethodName)) ∈ lw_all := lw_g (lw_at lw_m5 204 rfl) rfl
theorem q1266 : (Jvm.Cond.code ({ cls := "TwoSidedTables", name := "itemOf", desc := "(Ljava/lang/Object;II)I" } : Jvm.MethodName) prog_1_method_97_code (4 : Nat) (Option.some Jvm.ClassFile.FieldType.int)) ∈ lw_all := lw_g (lw_at lw_m5 205 rfl) rfl
theorem q1267 : (Jvm.Cond.methodLink "TwoSidedTables" (529 : Nat) ({ cls := "TwoSidedTables", name := "manyOf", desc := "(Ljava/lang/Object;I)I" } : Jvm.MethodName)) ∈ lw_all := lw_g (lw_at lw_m5 206 rfl) rfl
theorem q1268 : (Jvm.Cond.static ({ cls := "TwoSidedTables", name := "manyOf", desc := "(Ljava/lang/Object;I)I" } : Jvm.MethodName)) ∈ lw_all := lw_g (lw_at lw_m5 207 rfl) rfl
theorem q1269 : (Jvm.Cond.code ({ cls := "TwoSidedTables", name := "manyOf", desc := "(Ljava/lang/Object;I)I" } : Jvm.MethodName) prog_1_method_96_code (2 : Nat) (Option.some Jvm.ClassFile.FieldType.int)) ∈ lw_all := lw_g (lw_at lw_m5 208 rfl) rfl
theorem q1271 : (Jvm.Cond.instanceMethod ({ cls := "TwoSidedTables", name := "move", desc := "(IIIII)I" } : Jvm.MethodName)) ∈ lw_all := lw_g (lw_at lw_m5 210 rfl) rfl
theorem q1272 : (Jvm.Cond.selects "TwoSidedTables" ({ cls := "TwoSidedTables", name := "move", desc := "(IIIII)I" } : Jvm.MethodName) ({ cls := "TwoSidedTables", name := "move", desc := "(IIIII)I" } : Jvm.MethodName)) ∈ lw_all := lw_g (lw_at lw_m5 211 rfl) rfl
theorem q1273 : (Jvm.Cond.codeWith ({ cls := "TwoSidedTables", name := "move", desc := "(IIIII)I" } : Jvm.MethodName) prog_1_method_99_code (7 : Nat) (Option.some Jvm.ClassFile.FieldType.int) [((16 : Nat), (44 : Nat), (45 : Nat), (537 : Nat)), ((16 : Nat), (44 : Nat), (50 : Nat), (545 : Nat)), ((16 : Nat), (44 : Nat), (55 : Nat), (547 : Nat))]) ∈ lw_all := lw_g (lw_at lw_m5 212 rfl) rfl
theorem q1274 : (Jvm.Cond.classLink "TwoSidedTables" (545 : Nat) "java/lang/ArrayStoreException") ∈ lw_all := lw_g (lw_at lw_m5 213 rfl) rfl
theorem q1288 : (Jvm.Cond.classLink "TwoSidedTables" (547 : Nat) "java/lang/IndexOutOfBoundsException") ∈ lw_all := lw_g (lw_at lw_m5 227 rfl) rfl
theorem q1307 : (Jvm.Cond.methodLink "TwoSidedTables" (539 : Nat) ({ cls := "java/lang/System", name := "arraycopy", desc := "(Ljava/lang/Object;ILjava/lang/Object;II)V" } : Jvm.MethodName)) ∈ lw_all := lw_g (lw_at lw_m6 6 rfl) rfl
theorem q1309 : (Jvm.Cond.instanceMethod ({ cls := "TwoSidedTables", name := "shelf", desc := "(III)I" } : Jvm.MethodName)) ∈ lw_all := lw_g (lw_at lw_m6 8 rfl) rfl
theorem q1310 : (Jvm.Cond.selects "TwoSidedTables" ({ cls := "TwoSidedTables", name := "shelf", desc := "(III)I" } : Jvm.MethodName) ({ cls := "TwoSidedTables", name := "shelf", desc := "(III)I" } : Jvm.MethodName)) ∈ lw_all := lw_g (lw_at lw_m6 9 rfl) rfl
theorem q1311 : (Jvm.Cond.code ({ cls := "TwoSidedTables", name := "shelf", desc := "(III)I" } : Jvm.MethodName) prog_1_method_101_code (4 : Nat) (Option.some Jvm.ClassFile.FieldType.int)) ∈ lw_all := lw_g (lw_at lw_m6 10 rfl) rfl
theorem q1312 : (Jvm.Cond.classLink "TwoSidedTables" (549 : Nat) "TwoSidedTables$Ticket") ∈ lw_all := lw_g (lw_at lw_m6 11 rfl) rfl
theorem q1314 : (Jvm.Cond.methodLink "TwoSidedTables" (551 : Nat) ({ cls := "TwoSidedTables$Ticket", name := "<init>", desc := "(I)V" } : Jvm.MethodName)) ∈ lw_all := lw_g (lw_at lw_m6 13 rfl) rfl
theorem q1319 : (Jvm.Cond.fieldLinkNest "TwoSidedTables" (553 : Nat) "TwoSidedTables$Ticket" "number" "I" "TwoSidedTables") ∈ lw_tbl := lw_at lw_m6 18 rfl
theorem q1324 : (Jvm.Cond.instanceMethod ({ cls := "TwoSidedTables", name := "taken", desc := "(II)I" } : Jvm.MethodName)) ∈ lw_all := lw_g (lw_at lw_m6 23 rfl) rfl
theorem q1325 : (Jvm.Cond.selects "TwoSidedTables" ({ cls := "TwoSidedTables", name := "taken", desc := "(II)I" } : Jvm.MethodName) ({ cls := "TwoSidedTables", name := "taken", desc := "(II)I" } : Jvm.MethodName)) ∈ lw_all := lw_g (lw_at lw_m6 24 rfl) rfl
theorem q1326 : (Jvm.Cond.codeWith ({ cls := "TwoSidedTables", name := "taken", desc := "(II)I" } : Jvm.MethodName) prog_1_method_105_code (4 : Nat) (Option.some Jvm.ClassFile.FieldType.int) [((30 : Nat), (39 : Nat), (40 : Nat), (495 : Nat)), ((30 : Nat), (39 : Nat), (44 : Nat), (537 : Nat))]) ∈ lw_all := lw_g (lw_at lw_m6 25 rfl) rfl
theorem q1327 : (Jvm.Cond.methodLink "TwoSidedTables" (566 : Nat) ({ cls := "TwoSidedTables", name := "held", desc := "(I)Ljava/lang/Object;" } : Jvm.MethodName)) ∈ lw_all := lw_g (lw_at lw_m6 26 rfl) rfl
theorem q1328 : (Jvm.Cond.privateMethod ({ cls := "TwoSidedTables", name := "held", desc := "(I)Ljava/lang/Object;" } : Jvm.MethodName)) ∈ lw_tbl := lw_at lw_m6 27 rfl
theorem q1329 : (Jvm.Cond.instanceMethod ({ cls := "TwoSidedTables", name := "held", desc := "(I)Ljava/lang/Object;" } : Jvm.MethodName)) ∈ lw_all := lw_g (lw_at lw_m6 28 rfl) rfl
theorem q1330 : (Jvm.Cond.code ({ cls := "TwoSidedTables", name := "held", desc := "(I)Ljava/lang/Object;" } : Jvm.MethodName) prog_1_method_102_code (4 : Nat) (Option.some (Jvm.ClassFile.FieldType.object "java/lang/Object"))) ∈ lw_all := lw_g (lw_at lw_m6 29 rfl) rfl
theorem q1331 : (Jvm.Cond.methodLink "TwoSidedTables" (556 : Nat) ({ cls := "TwoSidedTables", name := "equationOf", desc := "(I)LTwoSidedTables$Plain;" } : Jvm.MethodName)) ∈ lw_all := lw_g (lw_at lw_m6 30 rfl) rfl
theorem q1332 : (Jvm.Cond.privateMethod ({ cls := "TwoSidedTables", name := "equationOf", desc := "(I)LTwoSidedTables$Plain;" } : Jvm.MethodName)) ∈ lw_tbl := lw_at lw_m6 31 rfl
theorem q1333 : (Jvm.Cond.instanceMethod ({ cls := "TwoSidedTables", name := "equationOf", desc := "(I)LTwoSidedTables$Plain;" } : Jvm.MethodName)) ∈ lw_all := lw_g (lw_at lw_m6 32 rfl) rfl
theorem q1334 : (Jvm.Cond.code ({ cls := "TwoSidedTables", name := "equationOf", desc := "(I)LTwoSidedTables$Plain;" } : Jvm.MethodName) prog_1_method_100_code (2 : Nat) (Option.some (Jvm.ClassFile.FieldType.object "TwoSidedTables$Plain"))) ∈ lw_all := lw_g (lw_at lw_m6 33 rfl) rfl
theorem q1335 : (Jvm.Cond.methodLink "TwoSidedTables" (569 : Nat) ({ cls := "TwoSidedTables", name := "takenAs", desc := "(Ljava/lang/Object;I)I" } : Jvm.MethodName)) ∈ lw_all := lw_g (lw_at lw_m6 34 rfl) rfl
theorem q1336 : (Jvm.Cond.static ({ cls := "TwoSidedTables", name := "takenAs", desc := "(Ljava/lang/Object;I)I" } : Jvm.MethodName)) ∈ lw_all := lw_g (lw_at lw_m6 35 rfl) rfl
theorem q1337 : (Jvm.Cond.code ({ cls := "TwoSidedTables", name := "takenAs", desc := "(Ljava/lang/Object;I)I" } : Jvm.MethodName) prog_1_method_104_code (2 : Nat) (Option.some Jvm.ClassFile.FieldType.int)) ∈ lw_all := lw_g (lw_at lw_m6 36 rfl) rfl
theorem q1338 : (Jvm.Cond.methodLink "TwoSidedTables" (560 : Nat) ({ cls := "TwoSidedTables", name := "takenFor", desc := "(Ljava/lang/Object;I)LTwoSidedTables$Plain;" } : Jvm.MethodName)) ∈ lw_all := lw_g (lw_at lw_m6 37 rfl) rfl
theorem q1339 : (Jvm.Cond.static ({ cls := "TwoSidedTables", name := "takenFor", desc := "(Ljava/lang/Object;I)LTwoSidedTables$Plain;" } : Jvm.MethodName)) ∈ lw_all := lw_g (lw_at lw_m6 38 rfl) rfl
theorem q1340 : (Jvm.Cond.code ({ cls := "TwoSidedTables", name := "takenFor", desc := "(Ljava/lang/Object;I)LTwoSidedTables$Plain;" } : Jvm.MethodName) prog_1_method_103_code (2 : Nat) (Option.some (Jvm.ClassFile.FieldType.object "TwoSidedTables$Plain"))) ∈ lw_all := lw_g (lw_at lw_m6 39 rfl) rfl
theorem q1341 : (Jvm.Cond.methodLink "TwoSidedTables" (564 : Nat) ({ cls := "TwoSidedTables$Plain", name := "number", desc := "()I" } : Jvm.MethodName)) ∈ lw_all := lw_g (lw_at lw_m6 40 rfl) rfl
theorem q1343 : (Jvm.Cond.instanceMethod ({ cls := "TwoSidedTables", name := "act", desc := "(III)I" } : Jvm.MethodName)) ∈ lw_all := lw_g (lw_at lw_m6 42 rfl) rfl
theorem q1344 : (Jvm.Cond.selects "TwoSidedTables" ({ cls := "TwoSidedTables", name := "act", desc := "(III)I" } : Jvm.MethodName) ({ cls := "TwoSidedTables", name := "act", desc := "(III)I" } : Jvm.MethodName)) ∈ lw_all := lw_g (lw_at lw_m6 43 rfl) rfl
theorem q1345 : (Jvm.Cond.codeWith ({ cls := "TwoSidedTables", name := "act", desc := "(III)I" } : Jvm.MethodName) prog_1_method_106_code (7 : Nat) (Option.some Jvm.ClassFile.FieldType.int) [((52 : Nat), (92 : Nat), (132 : Nat), (388 : Nat)), ((93 : Nat), (105 : Nat), (132 : Nat), (388 : Nat)), ((106 : Nat), (118 : Nat), (132 : Nat), (388 : Nat)), ((119 : Nat), (131 : Nat), (132 : Nat), (388 : Nat))]) ∈ lw_all := lw_g (lw_at lw_m6 44 rfl) rfl
theorem q1346 : (Jvm.Cond.classLink "TwoSidedTables" (573 : Nat) "TwoSidedTables$Closes") ∈ lw_all := lw_g (lw_at lw_m6 45 rfl) rfl
theorem q1347 : (Jvm.Cond.interfaceEntry "TwoSidedTables" (575 : Nat)) ∈ lw_tbl := lw_at lw_m6 46 rfl
theorem q1429 : (Jvm.Cond.interfaceEntry "TwoSidedTables" (579 : Nat)) ∈ lw_tbl := lw_at lw_m6 128 rfl
theorem q1490 : (Jvm.Cond.interfaceEntry "TwoSidedTables" (582 : Nat)) ∈ lw_tbl := lw_at lw_m6 189 rfl
theorem q1530 : (Jvm.Cond.interfaceEntry "TwoSidedTables" (585 : Nat)) ∈ lw_tbl := lw_at lw_m6 229 rfl
theorem q1531 : (Jvm.Cond.methodLink "TwoSidedTables" (585 : Nat) ({ cls := "TwoSidedTables$Closes", name := "closes", desc := "(ILTwoSidedTables$Trace;)I" } : Jvm.MethodName)) ∈ lw_all := lw_g (lw_at lw_m6 230 rfl) rfl
theorem q1560 : (Jvm.Cond.instanceMethod ({ cls := "TwoSidedTables", name := "trace", desc := "(I)I" } : Jvm.MethodName)) ∈ lw_all := lw_g (lw_at lw_m7 19 rfl) rfl
theorem q1561 : (Jvm.Cond.selects "TwoSidedTables" ({ cls := "TwoSidedTables", name := "trace", desc := "(I)I" } : Jvm.MethodName) ({ cls := "TwoSidedTables", name := "trace", desc := "(I)I" } : Jvm.MethodName)) ∈ lw_all := lw_g (lw_at lw_m7 20 rfl) rfl
theorem q1562 : (Jvm.Cond.code ({ cls := "TwoSidedTables", name := "trace", desc := "(I)I" } : Jvm.MethodName) prog_1_method_107_code (2 : Nat) (Option.some Jvm.ClassFile.FieldType.int)) ∈ lw_all := lw_g (lw_at lw_m7 21 rfl) rfl
theorem q1564 : (Jvm.Cond.instanceMethod ({ cls := "TwoSidedTables", name := "many", desc := "(I)I" } : Jvm.MethodName)) ∈ lw_all := lw_g (lw_at lw_m7 23 rfl) rfl
theorem q1565 : (Jvm.Cond.selects "TwoSidedTables" ({ cls := "TwoSidedTables", name := "many", desc := "(I)I" } : Jvm.MethodName) ({ cls := "TwoSidedTables", name := "many", desc := "(I)I" } : Jvm.MethodName)) ∈ lw_all := lw_g (lw_at lw_m7 24 rfl) rfl
theorem q1566 : (Jvm.Cond.code ({ cls := "TwoSidedTables", name := "many", desc := "(I)I" } : Jvm.MethodName) prog_1_method_109_code (2 : Nat) (Option.some Jvm.ClassFile.FieldType.int)) ∈ lw_all := lw_g (lw_at lw_m7 25 rfl) rfl
theorem q1567 : (Jvm.Cond.methodLink "TwoSidedTables" (591 : Nat) ({ cls := "TwoSidedTables", name := "fittingSet", desc := "()I" } : Jvm.MethodName)) ∈ lw_all := lw_g (lw_at lw_m7 26 rfl) rfl
theorem q1568 : (Jvm.Cond.privateMethod ({ cls := "TwoSidedTables", name := "fittingSet", desc := "()I" } : Jvm.MethodName)) ∈ lw_tbl := lw_at lw_m7 27 rfl
theorem q1569 : (Jvm.Cond.instanceMethod ({ cls := "TwoSidedTables", name := "fittingSet", desc := "()I" } : Jvm.MethodName)) ∈ lw_all := lw_g (lw_at lw_m7 28 rfl) rfl
theorem q1570 : (Jvm.Cond.code ({ cls := "TwoSidedTables", name := "fittingSet", desc := "()I" } : Jvm.MethodName) prog_1_method_108_code (3 : Nat) (Option.some Jvm.ClassFile.FieldType.int)) ∈ lw_all := lw_g (lw_at lw_m7 29 rfl) rfl
theorem q1572 : (Jvm.Cond.instanceMethod ({ cls := "TwoSidedTables", name := "keep", desc := "()I" } : Jvm.MethodName)) ∈ lw_all := lw_g (lw_at lw_m7 31 rfl) rfl
theorem q1573 : (Jvm.Cond.selects "TwoSidedTables" ({ cls := "TwoSidedTables", name := "keep", desc := "()I" } : Jvm.MethodName) ({ cls := "TwoSidedTables", name := "keep", desc := "()I" } : Jvm.MethodName)) ∈ lw_all := lw_g (lw_at lw_m7 32 rfl) rfl
theorem q1574 : (Jvm.Cond.code ({ cls := "TwoSidedTables", name := "keep", desc := "()I" } : Jvm.MethodName) prog_1_method_110_code (1 : Nat) (Option.some Jvm.ClassFile.FieldType.int)) ∈ lw_all := lw_g (lw_at lw_m7 33 rfl) rfl
theorem q1576 : (Jvm.Cond.instanceMethod ({ cls := "TwoSidedTables", name := "again", desc := "()I" } : Jvm.MethodName)) ∈ lw_all := lw_g (lw_at lw_m7 35 rfl) rfl
theorem q1577 : (Jvm.Cond.selects "TwoSidedTables" ({ cls := "TwoSidedTables", name := "again", desc := "()I" } : Jvm.MethodName) ({ cls := "TwoSidedTables", name := "again", desc := "()I" } : Jvm.MethodName)) ∈ lw_all := lw_g (lw_at lw_m7 36 rfl) rfl
theorem q1578 : (Jvm.Cond.code ({ cls := "TwoSidedTables", name := "again", desc := "()I" } : Jvm.MethodName) prog_1_method_111_code (1 : Nat) (Option.some Jvm.ClassFile.FieldType.int)) ∈ lw_all := lw_g (lw_at lw_m7 37 rfl) rfl
theorem in_X0 : ∀ w ∈ wsX00, w ∈ lw_all := lw_in wsX00 [394, 396, 398, 400, 402, 404, 406, 408, 410, 412, 414, 416, 418, 420, 422, 424, 426, 428, 430, 432, 434, 436, 438, 440, 442, 444, 446, 448, 450] (by decide +kernel) (by decide +kernel)
