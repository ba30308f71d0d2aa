/-! TwoSidedTablesModel -/
set_option maxRecDepth 100000
def RX8 : String := "TwoSidedTablesModel"
def TX8 : u_T := fun k => match k with
  | 0 => ("TwoSidedTablesModel", "entry", "[I", true)
  | 1 => ("TwoSidedTablesModel", "keptEntry", "[I", true)
  | 2 => ("TwoSidedTablesModel", "aside0", "[I", true)
  | 3 => ("TwoSidedTablesModel", "m", "I", false)
  | 4 => ("TwoSidedTablesModel", "n", "I", false)
  | 5 => ("TwoSidedTablesModel", "equations", "I", false)
  | 6 => ("TwoSidedTablesModel", "z", "I", false)
  | 7 => ("TwoSidedTablesModel", "keptM", "I", false)
  | 8 => ("TwoSidedTablesModel", "keptN", "I", false)
  | 9 => ("TwoSidedTablesModel", "keptEquations", "I", false)
  | 10 => ("TwoSidedTablesModel", "keptZ", "I", false)
  | 11 => ("TwoSidedTablesModel", "kinds", "[I", true)
  | 12 => ("TwoSidedTablesModel", "shifts", "[I", true)
  | 13 => ("TwoSidedTablesModel", "keptKinds", "[I", true)
  | 14 => ("TwoSidedTablesModel", "keptShifts", "[I", true)
  | 15 => ("TwoSidedTablesModel", "isKept", "Z", false)
  | 16 => ("TwoSidedTablesModel", "tape", "[B", true)
  | 17 => ("TwoSidedTablesModel", "taped", "I", false)
  | 18 => ("TwoSidedTablesModel", "from", "I", false)
  | 19 => ("TwoSidedTablesModel", "to", "I", false)
  | 20 => ("TwoSidedTablesModel", "fault", "I", false)
  | 21 => ("TwoSidedTablesModel", "tables", "I", false)
  | 22 => ("TwoSidedTablesModel", "placed", "[I", true)
  | 23 => ("TwoSidedTablesModel", "rows", "[J", true)
  | 24 => ("TwoSidedTablesModel", "leads", "[I", true)
  | 25 => ("TwoSidedTablesModel", "ledBy", "[I", true)
  | 26 => ("TwoSidedTablesModel", "height", "I", false)
  | 27 => ("TwoSidedTablesModel", "width", "I", false)
  | 28 => ("TwoSidedTablesModel", "rank", "I", false)
  | 29 => ("TwoSidedTablesModel", "changed", "I", false)
  | 30 => ("TwoSidedTablesModel", "scale", "J", false)
  | 31 => ("TwoSidedTablesModel", "rule", "[J", true)
  | 32 => ("TwoSidedTablesModel", "left", "[J", true)
  | 33 => ("TwoSidedTablesModel", "ruledBy", "[I", true)
  | 34 => ("TwoSidedTablesModel", "sorts", "[I", true)
  | 35 => ("TwoSidedTablesModel", "sizes", "[I", true)
  | 36 => ("TwoSidedTablesModel", "cells", "[J", true)
  | 37 => ("TwoSidedTablesModel", "aside", "[J", true)
  | 38 => ("TwoSidedTablesModel", "held", "[I", true)
  | 39 => ("TwoSidedTablesModel", "thing", "[I", true)
  | 40 => ("TwoSidedTablesModel", "length", "[I", true)
  | 41 => ("TwoSidedTablesModel", "trace", "[I", true)
  | 42 => ("TwoSidedTablesModel", "traced", "I", false)
  | 43 => ("TwoSidedTablesModel", "kind", "I", false)
  | 44 => ("TwoSidedTablesModel", "number", "I", false)
  | 45 => ("TwoSidedTablesModel", "shift", "I", false)
  | _ => ("TwoSidedTablesModel", "isParted", "Z", false)
def tyX8 : Nat → FieldType := fun k => match k with
  | 0 => .array .int
  | 1 => .array .int
  | 2 => .array .int
  | 3 => .int
  | 4 => .int
  | 5 => .int
  | 6 => .int
  | 7 => .int
  | 8 => .int
  | 9 => .int
  | 10 => .int
  | 11 => .array .int
  | 12 => .array .int
  | 13 => .array .int
  | 14 => .array .int
  | 15 => .boolean
  | 16 => .array .byte
  | 17 => .int
  | 18 => .int
  | 19 => .int
  | 20 => .int
  | 21 => .int
  | 22 => .array .int
  | 23 => .array .long
  | 24 => .array .int
  | 25 => .array .int
  | 26 => .int
  | 27 => .int
  | 28 => .int
  | 29 => .int
  | 30 => .long
  | 31 => .array .long
  | 32 => .array .long
  | 33 => .array .int
  | 34 => .array .int
  | 35 => .array .int
  | 36 => .array .long
  | 37 => .array .long
  | 38 => .array .int
  | 39 => .array .int
  | 40 => .array .int
  | 41 => .array .int
  | 42 => .int
  | 43 => .int
  | 44 => .int
  | 45 => .int
  | _ => .boolean
abbrev wsX80 : List Cond := u_ws RX8 TX8 47
set_option maxRecDepth 100000 in
theorem nmX8 : ∀ a, a < 47 → ∀ b, b < 47 → a ≠ b → (TX8 a).2.1 ≠ (TX8 b).2.1 := by decide +kernel
set_option maxRecDepth 100000 in
theorem tyX8_ok : ∀ k, k < 47 → parseFieldDescriptor (TX8 k).2.2.1 = some (tyX8 k) := by decide +kernel
abbrev cX8_init : ByteArray := prog_24_method_1_code
def yX8_init : MethodName := ⟨RX8, "<init>", "()V"⟩
def dkwX8_init_10 : List UInt8 := [181, 0, 19, 177]
abbrev dktX8_init_10 : List UInt8 := dkwX8_init_10 ++ []
def dkwX8_init_9 : List UInt8 := [188, 10, 181, 0, 82, 42, 7, 188, 10, 181, 0, 85, 42, 16, 30, 188, 10, 181, 0, 88, 42, 5]
abbrev dktX8_init_9 : List UInt8 := dkwX8_init_9 ++ dktX8_init_10
def dkwX8_init_8 : List UInt8 := [188, 10, 89, 3, 5, 79, 89, 4, 5, 79, 89, 5, 5, 79, 89, 6, 5, 79, 181, 0, 79, 42, 7]
abbrev dktX8_init_8 : List UInt8 := dkwX8_init_8 ++ dktX8_init_9
def dkwX8_init_7 : List UInt8 := [188, 10, 181, 0, 70, 42, 17, 0, 160, 188, 11, 181, 0, 73, 42, 16, 40, 188, 11, 181, 0, 76, 42, 7]
abbrev dktX8_init_7 : List UInt8 := dkwX8_init_7 ++ dktX8_init_8
def dkwX8_init_6 : List UInt8 := [7, 188, 10, 89, 3, 2, 79, 89, 4, 2, 79, 89, 5, 2, 79, 89, 6, 2, 79, 181, 0, 67, 42, 7]
abbrev dktX8_init_6 : List UInt8 := dkwX8_init_6 ++ dktX8_init_7
def dkwX8_init_5 : List UInt8 := [16, 63, 188, 11, 181, 0, 58, 42, 16, 9, 188, 11, 181, 0, 61, 42, 16, 9, 188, 10, 181, 0, 64, 42]
abbrev dktX8_init_5 : List UInt8 := dkwX8_init_5 ++ dktX8_init_6
def dkwX8_init_4 : List UInt8 := [16, 72, 188, 11, 181, 0, 48, 42, 16, 9, 188, 10, 181, 0, 52, 42, 16, 9, 188, 10, 181, 0, 55, 42]
abbrev dktX8_init_4 : List UInt8 := dkwX8_init_4 ++ dktX8_init_5
def dkwX8_init_3 : List UInt8 := [188, 10, 181, 0, 38, 42, 17, 0, 200, 188, 8, 181, 0, 41, 42, 16, 9, 188, 10, 181, 0, 45, 42]
abbrev dktX8_init_3 : List UInt8 := dkwX8_init_3 ++ dktX8_init_4
def dkwX8_init_2 : List UInt8 := [188, 10, 181, 0, 29, 42, 16, 6, 188, 10, 181, 0, 32, 42, 16, 6, 188, 10, 181, 0, 35, 42, 16, 6]
abbrev dktX8_init_2 : List UInt8 := dkwX8_init_2 ++ dktX8_init_3
def dkwX8_init_1 : List UInt8 := [188, 10, 181, 0, 16, 42, 5, 181, 0, 19, 42, 5, 181, 0, 23, 42, 4, 181, 0, 26, 42, 16, 6]
abbrev dktX8_init_1 : List UInt8 := dkwX8_init_1 ++ dktX8_init_2
def dkwX8_init_0 : List UInt8 := [42, 183, 0, 1, 42, 16, 27, 188, 10, 181, 0, 7, 42, 16, 27, 188, 10, 181, 0, 13, 42, 16, 27]
abbrev dktX8_init_0 : List UInt8 := dkwX8_init_0 ++ dktX8_init_1
theorem dksX8_init_0 : cX8_init.data.toList.drop 0 = dktX8_init_0 := by decide +kernel
theorem dksX8_init_1 : cX8_init.data.toList.drop 23 = dktX8_init_1 := dk_seg dksX8_init_0 23 rfl rfl
theorem dksX8_init_2 : cX8_init.data.toList.drop 46 = dktX8_init_2 := dk_seg dksX8_init_1 23 rfl rfl
theorem dksX8_init_3 : cX8_init.data.toList.drop 70 = dktX8_init_3 := dk_seg dksX8_init_2 24 rfl rfl
theorem dksX8_init_4 : cX8_init.data.toList.drop 93 = dktX8_init_4 := dk_seg dksX8_init_3 23 rfl rfl
theorem dksX8_init_5 : cX8_init.data.toList.drop 117 = dktX8_init_5 := dk_seg dksX8_init_4 24 rfl rfl
theorem dksX8_init_6 : cX8_init.data.toList.drop 141 = dktX8_init_6 := dk_seg dksX8_init_5 24 rfl rfl
theorem dksX8_init_7 : cX8_init.data.toList.drop 165 = dktX8_init_7 := dk_seg dksX8_init_6 24 rfl rfl
theorem dksX8_init_8 : cX8_init.data.toList.drop 189 = dktX8_init_8 := dk_seg dksX8_init_7 24 rfl rfl
theorem dksX8_init_9 : cX8_init.data.toList.drop 212 = dktX8_init_9 := dk_seg dksX8_init_8 23 rfl rfl
theorem dksX8_init_10 : cX8_init.data.toList.drop 234 = dktX8_init_10 := dk_seg dksX8_init_9 22 rfl rfl
theorem dX8_init_0 : decode cX8_init 0 = .ok (.aload_n 0, 1) := dk_42 (dk_at dksX8_init_0 0 rfl rfl)
theorem dX8_init_1 : decode cX8_init 1 = .ok (.invokespecial 1, 3) := dk_183 0 1 (dk_at dksX8_init_0 1 rfl rfl)
theorem dX8_init_4 : decode cX8_init 4 = .ok (.aload_n 0, 1) := dk_42 (dk_at dksX8_init_0 4 rfl rfl)
theorem dX8_init_5 : decode cX8_init 5 = .ok (.bipush 27, 2) := dk_16 27 (dk_at dksX8_init_0 5 rfl rfl)
theorem dX8_init_7 : decode cX8_init 7 = .ok (.newarray .int, 2) := dk_188_10 (dk_at dksX8_init_0 7 rfl rfl)
theorem dX8_init_9 : decode cX8_init 9 = .ok (.putfield 7, 3) := dk_181 0 7 (dk_at dksX8_init_0 9 rfl rfl)
theorem dX8_init_12 : decode cX8_init 12 = .ok (.aload_n 0, 1) := dk_42 (dk_at dksX8_init_0 12 rfl rfl)
theorem dX8_init_13 : decode cX8_init 13 = .ok (.bipush 27, 2) := dk_16 27 (dk_at dksX8_init_0 13 rfl rfl)
theorem dX8_init_15 : decode cX8_init 15 = .ok (.newarray .int, 2) := dk_188_10 (dk_at dksX8_init_0 15 rfl rfl)
theorem dX8_init_17 : decode cX8_init 17 = .ok (.putfield 13, 3) := dk_181 0 13 (dk_at dksX8_init_0 17 rfl rfl)
theorem dX8_init_20 : decode cX8_init 20 = .ok (.aload_n 0, 1) := dk_42 (dk_at dksX8_init_0 20 rfl rfl)
theorem dX8_init_21 : decode cX8_init 21 = .ok (.bipush 27, 2) := dk_16 27 (dk_at dksX8_init_0 21 rfl rfl)
theorem dX8_init_23 : decode cX8_init 23 = .ok (.newarray .int, 2) := dk_188_10 (dk_at dksX8_init_1 0 rfl rfl)
theorem dX8_init_25 : decode cX8_init 25 = .ok (.putfield 16, 3) := dk_181 0 16 (dk_at dksX8_init_1 2 rfl rfl)
theorem dX8_init_28 : decode cX8_init 28 = .ok (.aload_n 0, 1) := dk_42 (dk_at dksX8_init_1 5 rfl rfl)
theorem dX8_init_29 : decode cX8_init 29 = .ok (.iconst 2, 1) := dk_5 (dk_at dksX8_init_1 6 rfl rfl)
theorem dX8_init_30 : decode cX8_init 30 = .ok (.putfield 19, 3) := dk_181 0 19 (dk_at dksX8_init_1 7 rfl rfl)
theorem dX8_init_33 : decode cX8_init 33 = .ok (.aload_n 0, 1) := dk_42 (dk_at dksX8_init_1 10 rfl rfl)
theorem dX8_init_34 : decode cX8_init 34 = .ok (.iconst 2, 1) := dk_5 (dk_at dksX8_init_1 11 rfl rfl)
theorem dX8_init_35 : decode cX8_init 35 = .ok (.putfield 23, 3) := dk_181 0 23 (dk_at dksX8_init_1 12 rfl rfl)
theorem dX8_init_38 : decode cX8_init 38 = .ok (.aload_n 0, 1) := dk_42 (dk_at dksX8_init_1 15 rfl rfl)
theorem dX8_init_39 : decode cX8_init 39 = .ok (.iconst 1, 1) := dk_4 (dk_at dksX8_init_1 16 rfl rfl)
theorem dX8_init_40 : decode cX8_init 40 = .ok (.putfield 26, 3) := dk_181 0 26 (dk_at dksX8_init_1 17 rfl rfl)
theorem dX8_init_43 : decode cX8_init 43 = .ok (.aload_n 0, 1) := dk_42 (dk_at dksX8_init_1 20 rfl rfl)
theorem dX8_init_44 : decode cX8_init 44 = .ok (.bipush 6, 2) := dk_16 6 (dk_at dksX8_init_1 21 rfl rfl)
theorem dX8_init_46 : decode cX8_init 46 = .ok (.newarray .int, 2) := dk_188_10 (dk_at dksX8_init_2 0 rfl rfl)
theorem dX8_init_48 : decode cX8_init 48 = .ok (.putfield 29, 3) := dk_181 0 29 (dk_at dksX8_init_2 2 rfl rfl)
theorem dX8_init_51 : decode cX8_init 51 = .ok (.aload_n 0, 1) := dk_42 (dk_at dksX8_init_2 5 rfl rfl)
theorem dX8_init_52 : decode cX8_init 52 = .ok (.bipush 6, 2) := dk_16 6 (dk_at dksX8_init_2 6 rfl rfl)
theorem dX8_init_54 : decode cX8_init 54 = .ok (.newarray .int, 2) := dk_188_10 (dk_at dksX8_init_2 8 rfl rfl)
theorem dX8_init_56 : decode cX8_init 56 = .ok (.putfield 32, 3) := dk_181 0 32 (dk_at dksX8_init_2 10 rfl rfl)
theorem dX8_init_59 : decode cX8_init 59 = .ok (.aload_n 0, 1) := dk_42 (dk_at dksX8_init_2 13 rfl rfl)
theorem dX8_init_60 : decode cX8_init 60 = .ok (.bipush 6, 2) := dk_16 6 (dk_at dksX8_init_2 14 rfl rfl)
theorem dX8_init_62 : decode cX8_init 62 = .ok (.newarray .int, 2) := dk_188_10 (dk_at dksX8_init_2 16 rfl rfl)
theorem dX8_init_64 : decode cX8_init 64 = .ok (.putfield 35, 3) := dk_181 0 35 (dk_at dksX8_init_2 18 rfl rfl)
theorem dX8_init_67 : decode cX8_init 67 = .ok (.aload_n 0, 1) := dk_42 (dk_at dksX8_init_2 21 rfl rfl)
theorem dX8_init_68 : decode cX8_init 68 = .ok (.bipush 6, 2) := dk_16 6 (dk_at dksX8_init_2 22 rfl rfl)
theorem dX8_init_70 : decode cX8_init 70 = .ok (.newarray .int, 2) := dk_188_10 (dk_at dksX8_init_3 0 rfl rfl)
theorem dX8_init_72 : decode cX8_init 72 = .ok (.putfield 38, 3) := dk_181 0 38 (dk_at dksX8_init_3 2 rfl rfl)
theorem dX8_init_75 : decode cX8_init 75 = .ok (.aload_n 0, 1) := dk_42 (dk_at dksX8_init_3 5 rfl rfl)
theorem dX8_init_76 : decode cX8_init 76 = .ok (.sipush 200, 3) := dk_17 0 200 (dk_at dksX8_init_3 6 rfl rfl)
theorem dX8_init_79 : decode cX8_init 79 = .ok (.newarray .byte, 2) := dk_188_8 (dk_at dksX8_init_3 9 rfl rfl)
theorem dX8_init_81 : decode cX8_init 81 = .ok (.putfield 41, 3) := dk_181 0 41 (dk_at dksX8_init_3 11 rfl rfl)
theorem dX8_init_84 : decode cX8_init 84 = .ok (.aload_n 0, 1) := dk_42 (dk_at dksX8_init_3 14 rfl rfl)
theorem dX8_init_85 : decode cX8_init 85 = .ok (.bipush 9, 2) := dk_16 9 (dk_at dksX8_init_3 15 rfl rfl)
theorem dX8_init_87 : decode cX8_init 87 = .ok (.newarray .int, 2) := dk_188_10 (dk_at dksX8_init_3 17 rfl rfl)
theorem dX8_init_89 : decode cX8_init 89 = .ok (.putfield 45, 3) := dk_181 0 45 (dk_at dksX8_init_3 19 rfl rfl)
theorem dX8_init_92 : decode cX8_init 92 = .ok (.aload_n 0, 1) := dk_42 (dk_at dksX8_init_3 22 rfl rfl)
theorem dX8_init_93 : decode cX8_init 93 = .ok (.bipush 72, 2) := dk_16 72 (dk_at dksX8_init_4 0 rfl rfl)
theorem dX8_init_95 : decode cX8_init 95 = .ok (.newarray .long, 2) := dk_188_11 (dk_at dksX8_init_4 2 rfl rfl)
theorem dX8_init_97 : decode cX8_init 97 = .ok (.putfield 48, 3) := dk_181 0 48 (dk_at dksX8_init_4 4 rfl rfl)
theorem dX8_init_100 : decode cX8_init 100 = .ok (.aload_n 0, 1) := dk_42 (dk_at dksX8_init_4 7 rfl rfl)
theorem dX8_init_101 : decode cX8_init 101 = .ok (.bipush 9, 2) := dk_16 9 (dk_at dksX8_init_4 8 rfl rfl)
theorem dX8_init_103 : decode cX8_init 103 = .ok (.newarray .int, 2) := dk_188_10 (dk_at dksX8_init_4 10 rfl rfl)
theorem dX8_init_105 : decode cX8_init 105 = .ok (.putfield 52, 3) := dk_181 0 52 (dk_at dksX8_init_4 12 rfl rfl)
theorem dX8_init_108 : decode cX8_init 108 = .ok (.aload_n 0, 1) := dk_42 (dk_at dksX8_init_4 15 rfl rfl)
theorem dX8_init_109 : decode cX8_init 109 = .ok (.bipush 9, 2) := dk_16 9 (dk_at dksX8_init_4 16 rfl rfl)
theorem dX8_init_111 : decode cX8_init 111 = .ok (.newarray .int, 2) := dk_188_10 (dk_at dksX8_init_4 18 rfl rfl)
theorem dX8_init_113 : decode cX8_init 113 = .ok (.putfield 55, 3) := dk_181 0 55 (dk_at dksX8_init_4 20 rfl rfl)
theorem dX8_init_116 : decode cX8_init 116 = .ok (.aload_n 0, 1) := dk_42 (dk_at dksX8_init_4 23 rfl rfl)
theorem dX8_init_117 : decode cX8_init 117 = .ok (.bipush 63, 2) := dk_16 63 (dk_at dksX8_init_5 0 rfl rfl)
theorem dX8_init_119 : decode cX8_init 119 = .ok (.newarray .long, 2) := dk_188_11 (dk_at dksX8_init_5 2 rfl rfl)
theorem dX8_init_121 : decode cX8_init 121 = .ok (.putfield 58, 3) := dk_181 0 58 (dk_at dksX8_init_5 4 rfl rfl)
theorem dX8_init_124 : decode cX8_init 124 = .ok (.aload_n 0, 1) := dk_42 (dk_at dksX8_init_5 7 rfl rfl)
theorem dX8_init_125 : decode cX8_init 125 = .ok (.bipush 9, 2) := dk_16 9 (dk_at dksX8_init_5 8 rfl rfl)
theorem dX8_init_127 : decode cX8_init 127 = .ok (.newarray .long, 2) := dk_188_11 (dk_at dksX8_init_5 10 rfl rfl)
theorem dX8_init_129 : decode cX8_init 129 = .ok (.putfield 61, 3) := dk_181 0 61 (dk_at dksX8_init_5 12 rfl rfl)
theorem dX8_init_132 : decode cX8_init 132 = .ok (.aload_n 0, 1) := dk_42 (dk_at dksX8_init_5 15 rfl rfl)
theorem dX8_init_133 : decode cX8_init 133 = .ok (.bipush 9, 2) := dk_16 9 (dk_at dksX8_init_5 16 rfl rfl)
theorem dX8_init_135 : decode cX8_init 135 = .ok (.newarray .int, 2) := dk_188_10 (dk_at dksX8_init_5 18 rfl rfl)
theorem dX8_init_137 : decode cX8_init 137 = .ok (.putfield 64, 3) := dk_181 0 64 (dk_at dksX8_init_5 20 rfl rfl)
theorem dX8_init_140 : decode cX8_init 140 = .ok (.aload_n 0, 1) := dk_42 (dk_at dksX8_init_5 23 rfl rfl)
theorem dX8_init_141 : decode cX8_init 141 = .ok (.iconst 4, 1) := dk_7 (dk_at dksX8_init_6 0 rfl rfl)
theorem dX8_init_142 : decode cX8_init 142 = .ok (.newarray .int, 2) := dk_188_10 (dk_at dksX8_init_6 1 rfl rfl)
theorem dX8_init_144 : decode cX8_init 144 = .ok (.dup, 1) := dk_89 (dk_at dksX8_init_6 3 rfl rfl)
theorem dX8_init_145 : decode cX8_init 145 = .ok (.iconst 0, 1) := dk_3 (dk_at dksX8_init_6 4 rfl rfl)
theorem dX8_init_146 : decode cX8_init 146 = .ok (.iconst (-1), 1) := dk_2 (dk_at dksX8_init_6 5 rfl rfl)
theorem dX8_init_147 : decode cX8_init 147 = .ok (.iastore, 1) := dk_79 (dk_at dksX8_init_6 6 rfl rfl)
theorem dX8_init_148 : decode cX8_init 148 = .ok (.dup, 1) := dk_89 (dk_at dksX8_init_6 7 rfl rfl)
theorem dX8_init_149 : decode cX8_init 149 = .ok (.iconst 1, 1) := dk_4 (dk_at dksX8_init_6 8 rfl rfl)
theorem dX8_init_150 : decode cX8_init 150 = .ok (.iconst (-1), 1) := dk_2 (dk_at dksX8_init_6 9 rfl rfl)
theorem dX8_init_151 : decode cX8_init 151 = .ok (.iastore, 1) := dk_79 (dk_at dksX8_init_6 10 rfl rfl)
theorem dX8_init_152 : decode cX8_init 152 = .ok (.dup, 1) := dk_89 (dk_at dksX8_init_6 11 rfl rfl)
theorem dX8_init_153 : decode cX8_init 153 = .ok (.iconst 2, 1) := dk_5 (dk_at dksX8_init_6 12 rfl rfl)
theorem dX8_init_154 : decode cX8_init 154 = .ok (.iconst (-1), 1) := dk_2 (dk_at dksX8_init_6 13 rfl rfl)
theorem dX8_init_155 : decode cX8_init 155 = .ok (.iastore, 1) := dk_79 (dk_at dksX8_init_6 14 rfl rfl)
theorem dX8_init_156 : decode cX8_init 156 = .ok (.dup, 1) := dk_89 (dk_at dksX8_init_6 15 rfl rfl)
theorem dX8_init_157 : decode cX8_init 157 = .ok (.iconst 3, 1) := dk_6 (dk_at dksX8_init_6 16 rfl rfl)
theorem dX8_init_158 : decode cX8_init 158 = .ok (.iconst (-1), 1) := dk_2 (dk_at dksX8_init_6 17 rfl rfl)
theorem dX8_init_159 : decode cX8_init 159 = .ok (.iastore, 1) := dk_79 (dk_at dksX8_init_6 18 rfl rfl)
theorem dX8_init_160 : decode cX8_init 160 = .ok (.putfield 67, 3) := dk_181 0 67 (dk_at dksX8_init_6 19 rfl rfl)
theorem dX8_init_163 : decode cX8_init 163 = .ok (.aload_n 0, 1) := dk_42 (dk_at dksX8_init_6 22 rfl rfl)
theorem dX8_init_164 : decode cX8_init 164 = .ok (.iconst 4, 1) := dk_7 (dk_at dksX8_init_6 23 rfl rfl)
theorem dX8_init_165 : decode cX8_init 165 = .ok (.newarray .int, 2) := dk_188_10 (dk_at dksX8_init_7 0 rfl rfl)
theorem dX8_init_167 : decode cX8_init 167 = .ok (.putfield 70, 3) := dk_181 0 70 (dk_at dksX8_init_7 2 rfl rfl)
theorem dX8_init_170 : decode cX8_init 170 = .ok (.aload_n 0, 1) := dk_42 (dk_at dksX8_init_7 5 rfl rfl)
theorem dX8_init_171 : decode cX8_init 171 = .ok (.sipush 160, 3) := dk_17 0 160 (dk_at dksX8_init_7 6 rfl rfl)
theorem dX8_init_174 : decode cX8_init 174 = .ok (.newarray .long, 2) := dk_188_11 (dk_at dksX8_init_7 9 rfl rfl)
theorem dX8_init_176 : decode cX8_init 176 = .ok (.putfield 73, 3) := dk_181 0 73 (dk_at dksX8_init_7 11 rfl rfl)
theorem dX8_init_179 : decode cX8_init 179 = .ok (.aload_n 0, 1) := dk_42 (dk_at dksX8_init_7 14 rfl rfl)
theorem dX8_init_180 : decode cX8_init 180 = .ok (.bipush 40, 2) := dk_16 40 (dk_at dksX8_init_7 15 rfl rfl)
theorem dX8_init_182 : decode cX8_init 182 = .ok (.newarray .long, 2) := dk_188_11 (dk_at dksX8_init_7 17 rfl rfl)
theorem dX8_init_184 : decode cX8_init 184 = .ok (.putfield 76, 3) := dk_181 0 76 (dk_at dksX8_init_7 19 rfl rfl)
theorem dX8_init_187 : decode cX8_init 187 = .ok (.aload_n 0, 1) := dk_42 (dk_at dksX8_init_7 22 rfl rfl)
theorem dX8_init_188 : decode cX8_init 188 = .ok (.iconst 4, 1) := dk_7 (dk_at dksX8_init_7 23 rfl rfl)
theorem dX8_init_189 : decode cX8_init 189 = .ok (.newarray .int, 2) := dk_188_10 (dk_at dksX8_init_8 0 rfl rfl)
theorem dX8_init_191 : decode cX8_init 191 = .ok (.dup, 1) := dk_89 (dk_at dksX8_init_8 2 rfl rfl)
theorem dX8_init_192 : decode cX8_init 192 = .ok (.iconst 0, 1) := dk_3 (dk_at dksX8_init_8 3 rfl rfl)
theorem dX8_init_193 : decode cX8_init 193 = .ok (.iconst 2, 1) := dk_5 (dk_at dksX8_init_8 4 rfl rfl)
theorem dX8_init_194 : decode cX8_init 194 = .ok (.iastore, 1) := dk_79 (dk_at dksX8_init_8 5 rfl rfl)
theorem dX8_init_195 : decode cX8_init 195 = .ok (.dup, 1) := dk_89 (dk_at dksX8_init_8 6 rfl rfl)
theorem dX8_init_196 : decode cX8_init 196 = .ok (.iconst 1, 1) := dk_4 (dk_at dksX8_init_8 7 rfl rfl)
theorem dX8_init_197 : decode cX8_init 197 = .ok (.iconst 2, 1) := dk_5 (dk_at dksX8_init_8 8 rfl rfl)
theorem dX8_init_198 : decode cX8_init 198 = .ok (.iastore, 1) := dk_79 (dk_at dksX8_init_8 9 rfl rfl)
theorem dX8_init_199 : decode cX8_init 199 = .ok (.dup, 1) := dk_89 (dk_at dksX8_init_8 10 rfl rfl)
theorem dX8_init_200 : decode cX8_init 200 = .ok (.iconst 2, 1) := dk_5 (dk_at dksX8_init_8 11 rfl rfl)
theorem dX8_init_201 : decode cX8_init 201 = .ok (.iconst 2, 1) := dk_5 (dk_at dksX8_init_8 12 rfl rfl)
theorem dX8_init_202 : decode cX8_init 202 = .ok (.iastore, 1) := dk_79 (dk_at dksX8_init_8 13 rfl rfl)
theorem dX8_init_203 : decode cX8_init 203 = .ok (.dup, 1) := dk_89 (dk_at dksX8_init_8 14 rfl rfl)
theorem dX8_init_204 : decode cX8_init 204 = .ok (.iconst 3, 1) := dk_6 (dk_at dksX8_init_8 15 rfl rfl)
theorem dX8_init_205 : decode cX8_init 205 = .ok (.iconst 2, 1) := dk_5 (dk_at dksX8_init_8 16 rfl rfl)
theorem dX8_init_206 : decode cX8_init 206 = .ok (.iastore, 1) := dk_79 (dk_at dksX8_init_8 17 rfl rfl)
theorem dX8_init_207 : decode cX8_init 207 = .ok (.putfield 79, 3) := dk_181 0 79 (dk_at dksX8_init_8 18 rfl rfl)
theorem dX8_init_210 : decode cX8_init 210 = .ok (.aload_n 0, 1) := dk_42 (dk_at dksX8_init_8 21 rfl rfl)
theorem dX8_init_211 : decode cX8_init 211 = .ok (.iconst 4, 1) := dk_7 (dk_at dksX8_init_8 22 rfl rfl)
theorem dX8_init_212 : decode cX8_init 212 = .ok (.newarray .int, 2) := dk_188_10 (dk_at dksX8_init_9 0 rfl rfl)
theorem dX8_init_214 : decode cX8_init 214 = .ok (.putfield 82, 3) := dk_181 0 82 (dk_at dksX8_init_9 2 rfl rfl)
theorem dX8_init_217 : decode cX8_init 217 = .ok (.aload_n 0, 1) := dk_42 (dk_at dksX8_init_9 5 rfl rfl)
theorem dX8_init_218 : decode cX8_init 218 = .ok (.iconst 4, 1) := dk_7 (dk_at dksX8_init_9 6 rfl rfl)
theorem dX8_init_219 : decode cX8_init 219 = .ok (.newarray .int, 2) := dk_188_10 (dk_at dksX8_init_9 7 rfl rfl)
theorem dX8_init_221 : decode cX8_init 221 = .ok (.putfield 85, 3) := dk_181 0 85 (dk_at dksX8_init_9 9 rfl rfl)
theorem dX8_init_224 : decode cX8_init 224 = .ok (.aload_n 0, 1) := dk_42 (dk_at dksX8_init_9 12 rfl rfl)
theorem dX8_init_225 : decode cX8_init 225 = .ok (.bipush 30, 2) := dk_16 30 (dk_at dksX8_init_9 13 rfl rfl)
theorem dX8_init_227 : decode cX8_init 227 = .ok (.newarray .int, 2) := dk_188_10 (dk_at dksX8_init_9 15 rfl rfl)
theorem dX8_init_229 : decode cX8_init 229 = .ok (.putfield 88, 3) := dk_181 0 88 (dk_at dksX8_init_9 17 rfl rfl)
theorem dX8_init_232 : decode cX8_init 232 = .ok (.aload_n 0, 1) := dk_42 (dk_at dksX8_init_9 20 rfl rfl)
theorem dX8_init_233 : decode cX8_init 233 = .ok (.iconst 2, 1) := dk_5 (dk_at dksX8_init_9 21 rfl rfl)
theorem dX8_init_234 : decode cX8_init 234 = .ok (.putfield 19, 3) := dk_181 0 19 (dk_at dksX8_init_10 0 rfl rfl)
theorem dX8_init_237 : decode cX8_init 237 = .ok (.return_, 1) := dk_177 (dk_at dksX8_init_10 3 rfl rfl)
abbrev cX8_size : ByteArray := prog_24_method_11_code
def yX8_size : MethodName := ⟨RX8, "size", "(II)I"⟩
def dkwX8_size_3 : List UInt8 := [167, 255, 238, 29, 172]
abbrev dktX8_size_3 : List UInt8 := dkwX8_size_3 ++ []
def dkwX8_size_2 : List UInt8 := [181, 0, 23, 3, 54, 4, 21, 4, 16, 27, 162, 0, 17, 42, 180, 0, 7, 21, 4, 3, 79, 132, 4, 1]
abbrev dktX8_size_2 : List UInt8 := dkwX8_size_2 ++ dktX8_size_3
def dkwX8_size_1 : List UInt8 := [2, 172, 16, 10, 42, 180, 0, 19, 104, 42, 180, 0, 23, 96, 62, 42, 27, 181, 0, 19, 42, 28]
abbrev dktX8_size_1 : List UInt8 := dkwX8_size_1 ++ dktX8_size_2
def dkwX8_size_0 : List UInt8 := [27, 133, 10, 20, 0, 118, 184, 0, 99, 153, 0, 15, 28, 133, 10, 20, 0, 118, 184, 0, 99, 154, 0, 5]
abbrev dktX8_size_0 : List UInt8 := dkwX8_size_0 ++ dktX8_size_1
theorem dksX8_size_0 : cX8_size.data.toList.drop 0 = dktX8_size_0 := by decide +kernel
theorem dksX8_size_1 : cX8_size.data.toList.drop 24 = dktX8_size_1 := dk_seg dksX8_size_0 24 rfl rfl
theorem dksX8_size_2 : cX8_size.data.toList.drop 46 = dktX8_size_2 := dk_seg dksX8_size_1 22 rfl rfl
theorem dksX8_size_3 : cX8_size.data.toList.drop 70 = dktX8_size_3 := dk_seg dksX8_size_2 24 rfl rfl
theorem dX8_size_0 : decode cX8_size 0 = .ok (.iload_n 1, 1) := dk_27 (dk_at dksX8_size_0 0 rfl rfl)
theorem dX8_size_1 : decode cX8_size 1 = .ok (.i2l, 1) := dk_133 (dk_at dksX8_size_0 1 rfl rfl)
theorem dX8_size_2 : decode cX8_size 2 = .ok (.lconst 1, 1) := dk_10 (dk_at dksX8_size_0 2 rfl rfl)
theorem dX8_size_3 : decode cX8_size 3 = .ok (.ldc2_w 118, 3) := dk_20 0 118 (dk_at dksX8_size_0 3 rfl rfl)
theorem dX8_size_6 : decode cX8_size 6 = .ok (.invokestatic 99, 3) := dk_184 0 99 (dk_at dksX8_size_0 6 rfl rfl)
theorem dX8_size_9 : decode cX8_size 9 = .ok (.ifCond .eq 15, 3) := dk_153 0 15 (dk_at dksX8_size_0 9 rfl rfl)
theorem dX8_size_12 : decode cX8_size 12 = .ok (.iload_n 2, 1) := dk_28 (dk_at dksX8_size_0 12 rfl rfl)
theorem dX8_size_13 : decode cX8_size 13 = .ok (.i2l, 1) := dk_133 (dk_at dksX8_size_0 13 rfl rfl)
theorem dX8_size_14 : decode cX8_size 14 = .ok (.lconst 1, 1) := dk_10 (dk_at dksX8_size_0 14 rfl rfl)
theorem dX8_size_15 : decode cX8_size 15 = .ok (.ldc2_w 118, 3) := dk_20 0 118 (dk_at dksX8_size_0 15 rfl rfl)
theorem dX8_size_18 : decode cX8_size 18 = .ok (.invokestatic 99, 3) := dk_184 0 99 (dk_at dksX8_size_0 18 rfl rfl)
theorem dX8_size_21 : decode cX8_size 21 = .ok (.ifCond .ne 5, 3) := dk_154 0 5 (dk_at dksX8_size_0 21 rfl rfl)
theorem dX8_size_24 : decode cX8_size 24 = .ok (.iconst (-1), 1) := dk_2 (dk_at dksX8_size_1 0 rfl rfl)
theorem dX8_size_25 : decode cX8_size 25 = .ok (.ireturn, 1) := dk_172 (dk_at dksX8_size_1 1 rfl rfl)
theorem dX8_size_26 : decode cX8_size 26 = .ok (.bipush 10, 2) := dk_16 10 (dk_at dksX8_size_1 2 rfl rfl)
theorem dX8_size_28 : decode cX8_size 28 = .ok (.aload_n 0, 1) := dk_42 (dk_at dksX8_size_1 4 rfl rfl)
theorem dX8_size_29 : decode cX8_size 29 = .ok (.getfield 19, 3) := dk_180 0 19 (dk_at dksX8_size_1 5 rfl rfl)
theorem dX8_size_32 : decode cX8_size 32 = .ok (.imul, 1) := dk_104 (dk_at dksX8_size_1 8 rfl rfl)
theorem dX8_size_33 : decode cX8_size 33 = .ok (.aload_n 0, 1) := dk_42 (dk_at dksX8_size_1 9 rfl rfl)
theorem dX8_size_34 : decode cX8_size 34 = .ok (.getfield 23, 3) := dk_180 0 23 (dk_at dksX8_size_1 10 rfl rfl)
theorem dX8_size_37 : decode cX8_size 37 = .ok (.iadd, 1) := dk_96 (dk_at dksX8_size_1 13 rfl rfl)
theorem dX8_size_38 : decode cX8_size 38 = .ok (.istore_n 3, 1) := dk_62 (dk_at dksX8_size_1 14 rfl rfl)
theorem dX8_size_39 : decode cX8_size 39 = .ok (.aload_n 0, 1) := dk_42 (dk_at dksX8_size_1 15 rfl rfl)
theorem dX8_size_40 : decode cX8_size 40 = .ok (.iload_n 1, 1) := dk_27 (dk_at dksX8_size_1 16 rfl rfl)
theorem dX8_size_41 : decode cX8_size 41 = .ok (.putfield 19, 3) := dk_181 0 19 (dk_at dksX8_size_1 17 rfl rfl)
theorem dX8_size_44 : decode cX8_size 44 = .ok (.aload_n 0, 1) := dk_42 (dk_at dksX8_size_1 20 rfl rfl)
theorem dX8_size_45 : decode cX8_size 45 = .ok (.iload_n 2, 1) := dk_28 (dk_at dksX8_size_1 21 rfl rfl)
theorem dX8_size_46 : decode cX8_size 46 = .ok (.putfield 23, 3) := dk_181 0 23 (dk_at dksX8_size_2 0 rfl rfl)
theorem dX8_size_49 : decode cX8_size 49 = .ok (.iconst 0, 1) := dk_3 (dk_at dksX8_size_2 3 rfl rfl)
theorem dX8_size_50 : decode cX8_size 50 = .ok (.istore 4, 2) := dk_54 4 (dk_at dksX8_size_2 4 rfl rfl)
theorem dX8_size_52 : decode cX8_size 52 = .ok (.iload 4, 2) := dk_21 4 (dk_at dksX8_size_2 6 rfl rfl)
theorem dX8_size_54 : decode cX8_size 54 = .ok (.bipush 27, 2) := dk_16 27 (dk_at dksX8_size_2 8 rfl rfl)
theorem dX8_size_56 : decode cX8_size 56 = .ok (.if_icmp .ge 17, 3) := dk_162 0 17 (dk_at dksX8_size_2 10 rfl rfl)
theorem dX8_size_59 : decode cX8_size 59 = .ok (.aload_n 0, 1) := dk_42 (dk_at dksX8_size_2 13 rfl rfl)
theorem dX8_size_60 : decode cX8_size 60 = .ok (.getfield 7, 3) := dk_180 0 7 (dk_at dksX8_size_2 14 rfl rfl)
theorem dX8_size_63 : decode cX8_size 63 = .ok (.iload 4, 2) := dk_21 4 (dk_at dksX8_size_2 17 rfl rfl)
theorem dX8_size_65 : decode cX8_size 65 = .ok (.iconst 0, 1) := dk_3 (dk_at dksX8_size_2 19 rfl rfl)
theorem dX8_size_66 : decode cX8_size 66 = .ok (.iastore, 1) := dk_79 (dk_at dksX8_size_2 20 rfl rfl)
theorem dX8_size_67 : decode cX8_size 67 = .ok (.iinc 4 1, 3) := dk_132 4 1 (dk_at dksX8_size_2 21 rfl rfl)
theorem dX8_size_70 : decode cX8_size 70 = .ok (.goto (-18), 3) := dk_167 255 238 (dk_at dksX8_size_3 0 rfl rfl)
theorem dX8_size_73 : decode cX8_size 73 = .ok (.iload_n 3, 1) := dk_29 (dk_at dksX8_size_3 3 rfl rfl)
theorem dX8_size_74 : decode cX8_size 74 = .ok (.ireturn, 1) := dk_172 (dk_at dksX8_size_3 4 rfl rfl)
abbrev cX8_in : ByteArray := prog_24_method_2_code
def yX8_in : MethodName := ⟨RX8, "in", "(JJJ)Z"⟩
def dkwX8_in_0 : List UInt8 := [30, 32, 148, 155, 0, 14, 30, 22, 4, 148, 157, 0, 7, 4, 167, 0, 4, 3, 172]
abbrev dktX8_in_0 : List UInt8 := dkwX8_in_0 ++ []
theorem dksX8_in_0 : cX8_in.data.toList.drop 0 = dktX8_in_0 := by decide +kernel
theorem dX8_in_0 : decode cX8_in 0 = .ok (.lload_n 0, 1) := dk_30 (dk_at dksX8_in_0 0 rfl rfl)
theorem dX8_in_1 : decode cX8_in 1 = .ok (.lload_n 2, 1) := dk_32 (dk_at dksX8_in_0 1 rfl rfl)
theorem dX8_in_2 : decode cX8_in 2 = .ok (.lcmp, 1) := dk_148 (dk_at dksX8_in_0 2 rfl rfl)
theorem dX8_in_3 : decode cX8_in 3 = .ok (.ifCond .lt 14, 3) := dk_155 0 14 (dk_at dksX8_in_0 3 rfl rfl)
theorem dX8_in_6 : decode cX8_in 6 = .ok (.lload_n 0, 1) := dk_30 (dk_at dksX8_in_0 6 rfl rfl)
theorem dX8_in_7 : decode cX8_in 7 = .ok (.lload 4, 2) := dk_22 4 (dk_at dksX8_in_0 7 rfl rfl)
theorem dX8_in_9 : decode cX8_in 9 = .ok (.lcmp, 1) := dk_148 (dk_at dksX8_in_0 9 rfl rfl)
theorem dX8_in_10 : decode cX8_in 10 = .ok (.ifCond .gt 7, 3) := dk_157 0 7 (dk_at dksX8_in_0 10 rfl rfl)
theorem dX8_in_13 : decode cX8_in 13 = .ok (.iconst 1, 1) := dk_4 (dk_at dksX8_in_0 13 rfl rfl)
theorem dX8_in_14 : decode cX8_in 14 = .ok (.goto 4, 3) := dk_167 0 4 (dk_at dksX8_in_0 14 rfl rfl)
theorem dX8_in_17 : decode cX8_in 17 = .ok (.iconst 0, 1) := dk_3 (dk_at dksX8_in_0 17 rfl rfl)
theorem dX8_in_18 : decode cX8_in 18 = .ok (.ireturn, 1) := dk_172 (dk_at dksX8_in_0 18 rfl rfl)
abbrev cX8_set : ByteArray := prog_24_method_12_code
def yX8_set : MethodName := ⟨RX8, "set", "(IIII)I"⟩
def dkwX8_set_2 : List UInt8 := [16, 100, 21, 5, 96, 172]
abbrev dktX8_set_2 : List UInt8 := dkwX8_set_2 ++ []
def dkwX8_set_1 : List UInt8 := [29, 182, 0, 128, 54, 5, 42, 180, 0, 7, 16, 9, 27, 104, 6, 28, 104, 96, 29, 96, 21, 4, 79]
abbrev dktX8_set_1 : List UInt8 := dkwX8_set_1 ++ dktX8_set_2
def dkwX8_set_0 : List UInt8 := [42, 27, 28, 29, 182, 0, 120, 153, 0, 12, 27, 21, 4, 184, 0, 124, 154, 0, 5, 2, 172, 42, 27, 28]
abbrev dktX8_set_0 : List UInt8 := dkwX8_set_0 ++ dktX8_set_1
theorem dksX8_set_0 : cX8_set.data.toList.drop 0 = dktX8_set_0 := by decide +kernel
theorem dksX8_set_1 : cX8_set.data.toList.drop 24 = dktX8_set_1 := dk_seg dksX8_set_0 24 rfl rfl
theorem dksX8_set_2 : cX8_set.data.toList.drop 47 = dktX8_set_2 := dk_seg dksX8_set_1 23 rfl rfl
theorem dX8_set_0 : decode cX8_set 0 = .ok (.aload_n 0, 1) := dk_42 (dk_at dksX8_set_0 0 rfl rfl)
theorem dX8_set_1 : decode cX8_set 1 = .ok (.iload_n 1, 1) := dk_27 (dk_at dksX8_set_0 1 rfl rfl)
theorem dX8_set_2 : decode cX8_set 2 = .ok (.iload_n 2, 1) := dk_28 (dk_at dksX8_set_0 2 rfl rfl)
theorem dX8_set_3 : decode cX8_set 3 = .ok (.iload_n 3, 1) := dk_29 (dk_at dksX8_set_0 3 rfl rfl)
theorem dX8_set_4 : decode cX8_set 4 = .ok (.invokevirtual 120, 3) := dk_182 0 120 (dk_at dksX8_set_0 4 rfl rfl)
theorem dX8_set_7 : decode cX8_set 7 = .ok (.ifCond .eq 12, 3) := dk_153 0 12 (dk_at dksX8_set_0 7 rfl rfl)
theorem dX8_set_10 : decode cX8_set 10 = .ok (.iload_n 1, 1) := dk_27 (dk_at dksX8_set_0 10 rfl rfl)
theorem dX8_set_11 : decode cX8_set 11 = .ok (.iload 4, 2) := dk_21 4 (dk_at dksX8_set_0 11 rfl rfl)
theorem dX8_set_13 : decode cX8_set 13 = .ok (.invokestatic 124, 3) := dk_184 0 124 (dk_at dksX8_set_0 13 rfl rfl)
theorem dX8_set_16 : decode cX8_set 16 = .ok (.ifCond .ne 5, 3) := dk_154 0 5 (dk_at dksX8_set_0 16 rfl rfl)
theorem dX8_set_19 : decode cX8_set 19 = .ok (.iconst (-1), 1) := dk_2 (dk_at dksX8_set_0 19 rfl rfl)
theorem dX8_set_20 : decode cX8_set 20 = .ok (.ireturn, 1) := dk_172 (dk_at dksX8_set_0 20 rfl rfl)
theorem dX8_set_21 : decode cX8_set 21 = .ok (.aload_n 0, 1) := dk_42 (dk_at dksX8_set_0 21 rfl rfl)
theorem dX8_set_22 : decode cX8_set 22 = .ok (.iload_n 1, 1) := dk_27 (dk_at dksX8_set_0 22 rfl rfl)
theorem dX8_set_23 : decode cX8_set 23 = .ok (.iload_n 2, 1) := dk_28 (dk_at dksX8_set_0 23 rfl rfl)
theorem dX8_set_24 : decode cX8_set 24 = .ok (.iload_n 3, 1) := dk_29 (dk_at dksX8_set_1 0 rfl rfl)
theorem dX8_set_25 : decode cX8_set 25 = .ok (.invokevirtual 128, 3) := dk_182 0 128 (dk_at dksX8_set_1 1 rfl rfl)
theorem dX8_set_28 : decode cX8_set 28 = .ok (.istore 5, 2) := dk_54 5 (dk_at dksX8_set_1 4 rfl rfl)
theorem dX8_set_30 : decode cX8_set 30 = .ok (.aload_n 0, 1) := dk_42 (dk_at dksX8_set_1 6 rfl rfl)
theorem dX8_set_31 : decode cX8_set 31 = .ok (.getfield 7, 3) := dk_180 0 7 (dk_at dksX8_set_1 7 rfl rfl)
theorem dX8_set_34 : decode cX8_set 34 = .ok (.bipush 9, 2) := dk_16 9 (dk_at dksX8_set_1 10 rfl rfl)
theorem dX8_set_36 : decode cX8_set 36 = .ok (.iload_n 1, 1) := dk_27 (dk_at dksX8_set_1 12 rfl rfl)
theorem dX8_set_37 : decode cX8_set 37 = .ok (.imul, 1) := dk_104 (dk_at dksX8_set_1 13 rfl rfl)
theorem dX8_set_38 : decode cX8_set 38 = .ok (.iconst 3, 1) := dk_6 (dk_at dksX8_set_1 14 rfl rfl)
theorem dX8_set_39 : decode cX8_set 39 = .ok (.iload_n 2, 1) := dk_28 (dk_at dksX8_set_1 15 rfl rfl)
theorem dX8_set_40 : decode cX8_set 40 = .ok (.imul, 1) := dk_104 (dk_at dksX8_set_1 16 rfl rfl)
theorem dX8_set_41 : decode cX8_set 41 = .ok (.iadd, 1) := dk_96 (dk_at dksX8_set_1 17 rfl rfl)
theorem dX8_set_42 : decode cX8_set 42 = .ok (.iload_n 3, 1) := dk_29 (dk_at dksX8_set_1 18 rfl rfl)
theorem dX8_set_43 : decode cX8_set 43 = .ok (.iadd, 1) := dk_96 (dk_at dksX8_set_1 19 rfl rfl)
theorem dX8_set_44 : decode cX8_set 44 = .ok (.iload 4, 2) := dk_21 4 (dk_at dksX8_set_1 20 rfl rfl)
theorem dX8_set_46 : decode cX8_set 46 = .ok (.iastore, 1) := dk_79 (dk_at dksX8_set_1 22 rfl rfl)
theorem dX8_set_47 : decode cX8_set 47 = .ok (.bipush 100, 2) := dk_16 100 (dk_at dksX8_set_2 0 rfl rfl)
theorem dX8_set_49 : decode cX8_set 49 = .ok (.iload 5, 2) := dk_21 5 (dk_at dksX8_set_2 2 rfl rfl)
theorem dX8_set_51 : decode cX8_set 51 = .ok (.iadd, 1) := dk_96 (dk_at dksX8_set_2 4 rfl rfl)
theorem dX8_set_52 : decode cX8_set 52 = .ok (.ireturn, 1) := dk_172 (dk_at dksX8_set_2 5 rfl rfl)
abbrev cX8_isPlace : ByteArray := prog_24_method_9_code
def yX8_isPlace : MethodName := ⟨RX8, "isPlace", "(III)Z"⟩
def dkwX8_isPlace_2 : List UInt8 := [167, 0, 4, 3, 172]
abbrev dktX8_isPlace_2 : List UInt8 := dkwX8_isPlace_2 ++ []
def dkwX8_isPlace_1 : List UInt8 := [184, 0, 99, 153, 0, 24, 29, 133, 9, 42, 27, 182, 0, 107, 4, 100, 133, 184, 0, 99, 153, 0, 7, 4]
abbrev dktX8_isPlace_1 : List UInt8 := dkwX8_isPlace_1 ++ dktX8_isPlace_2
def dkwX8_isPlace_0 : List UInt8 := [27, 133, 9, 20, 0, 97, 184, 0, 99, 153, 0, 41, 28, 133, 9, 42, 27, 182, 0, 103, 4, 100, 133]
abbrev dktX8_isPlace_0 : List UInt8 := dkwX8_isPlace_0 ++ dktX8_isPlace_1
theorem dksX8_isPlace_0 : cX8_isPlace.data.toList.drop 0 = dktX8_isPlace_0 := by decide +kernel
theorem dksX8_isPlace_1 : cX8_isPlace.data.toList.drop 23 = dktX8_isPlace_1 := dk_seg dksX8_isPlace_0 23 rfl rfl
theorem dksX8_isPlace_2 : cX8_isPlace.data.toList.drop 47 = dktX8_isPlace_2 := dk_seg dksX8_isPlace_1 24 rfl rfl
theorem dX8_isPlace_0 : decode cX8_isPlace 0 = .ok (.iload_n 1, 1) := dk_27 (dk_at dksX8_isPlace_0 0 rfl rfl)
theorem dX8_isPlace_1 : decode cX8_isPlace 1 = .ok (.i2l, 1) := dk_133 (dk_at dksX8_isPlace_0 1 rfl rfl)
theorem dX8_isPlace_2 : decode cX8_isPlace 2 = .ok (.lconst 0, 1) := dk_9 (dk_at dksX8_isPlace_0 2 rfl rfl)
theorem dX8_isPlace_3 : decode cX8_isPlace 3 = .ok (.ldc2_w 97, 3) := dk_20 0 97 (dk_at dksX8_isPlace_0 3 rfl rfl)
theorem dX8_isPlace_6 : decode cX8_isPlace 6 = .ok (.invokestatic 99, 3) := dk_184 0 99 (dk_at dksX8_isPlace_0 6 rfl rfl)
theorem dX8_isPlace_9 : decode cX8_isPlace 9 = .ok (.ifCond .eq 41, 3) := dk_153 0 41 (dk_at dksX8_isPlace_0 9 rfl rfl)
theorem dX8_isPlace_12 : decode cX8_isPlace 12 = .ok (.iload_n 2, 1) := dk_28 (dk_at dksX8_isPlace_0 12 rfl rfl)
theorem dX8_isPlace_13 : decode cX8_isPlace 13 = .ok (.i2l, 1) := dk_133 (dk_at dksX8_isPlace_0 13 rfl rfl)
theorem dX8_isPlace_14 : decode cX8_isPlace 14 = .ok (.lconst 0, 1) := dk_9 (dk_at dksX8_isPlace_0 14 rfl rfl)
theorem dX8_isPlace_15 : decode cX8_isPlace 15 = .ok (.aload_n 0, 1) := dk_42 (dk_at dksX8_isPlace_0 15 rfl rfl)
theorem dX8_isPlace_16 : decode cX8_isPlace 16 = .ok (.iload_n 1, 1) := dk_27 (dk_at dksX8_isPlace_0 16 rfl rfl)
theorem dX8_isPlace_17 : decode cX8_isPlace 17 = .ok (.invokevirtual 103, 3) := dk_182 0 103 (dk_at dksX8_isPlace_0 17 rfl rfl)
theorem dX8_isPlace_20 : decode cX8_isPlace 20 = .ok (.iconst 1, 1) := dk_4 (dk_at dksX8_isPlace_0 20 rfl rfl)
theorem dX8_isPlace_21 : decode cX8_isPlace 21 = .ok (.isub, 1) := dk_100 (dk_at dksX8_isPlace_0 21 rfl rfl)
theorem dX8_isPlace_22 : decode cX8_isPlace 22 = .ok (.i2l, 1) := dk_133 (dk_at dksX8_isPlace_0 22 rfl rfl)
theorem dX8_isPlace_23 : decode cX8_isPlace 23 = .ok (.invokestatic 99, 3) := dk_184 0 99 (dk_at dksX8_isPlace_1 0 rfl rfl)
theorem dX8_isPlace_26 : decode cX8_isPlace 26 = .ok (.ifCond .eq 24, 3) := dk_153 0 24 (dk_at dksX8_isPlace_1 3 rfl rfl)
theorem dX8_isPlace_29 : decode cX8_isPlace 29 = .ok (.iload_n 3, 1) := dk_29 (dk_at dksX8_isPlace_1 6 rfl rfl)
theorem dX8_isPlace_30 : decode cX8_isPlace 30 = .ok (.i2l, 1) := dk_133 (dk_at dksX8_isPlace_1 7 rfl rfl)
theorem dX8_isPlace_31 : decode cX8_isPlace 31 = .ok (.lconst 0, 1) := dk_9 (dk_at dksX8_isPlace_1 8 rfl rfl)
theorem dX8_isPlace_32 : decode cX8_isPlace 32 = .ok (.aload_n 0, 1) := dk_42 (dk_at dksX8_isPlace_1 9 rfl rfl)
theorem dX8_isPlace_33 : decode cX8_isPlace 33 = .ok (.iload_n 1, 1) := dk_27 (dk_at dksX8_isPlace_1 10 rfl rfl)
theorem dX8_isPlace_34 : decode cX8_isPlace 34 = .ok (.invokevirtual 107, 3) := dk_182 0 107 (dk_at dksX8_isPlace_1 11 rfl rfl)
theorem dX8_isPlace_37 : decode cX8_isPlace 37 = .ok (.iconst 1, 1) := dk_4 (dk_at dksX8_isPlace_1 14 rfl rfl)
theorem dX8_isPlace_38 : decode cX8_isPlace 38 = .ok (.isub, 1) := dk_100 (dk_at dksX8_isPlace_1 15 rfl rfl)
theorem dX8_isPlace_39 : decode cX8_isPlace 39 = .ok (.i2l, 1) := dk_133 (dk_at dksX8_isPlace_1 16 rfl rfl)
theorem dX8_isPlace_40 : decode cX8_isPlace 40 = .ok (.invokestatic 99, 3) := dk_184 0 99 (dk_at dksX8_isPlace_1 17 rfl rfl)
theorem dX8_isPlace_43 : decode cX8_isPlace 43 = .ok (.ifCond .eq 7, 3) := dk_153 0 7 (dk_at dksX8_isPlace_1 20 rfl rfl)
theorem dX8_isPlace_46 : decode cX8_isPlace 46 = .ok (.iconst 1, 1) := dk_4 (dk_at dksX8_isPlace_1 23 rfl rfl)
theorem dX8_isPlace_47 : decode cX8_isPlace 47 = .ok (.goto 4, 3) := dk_167 0 4 (dk_at dksX8_isPlace_2 0 rfl rfl)
theorem dX8_isPlace_50 : decode cX8_isPlace 50 = .ok (.iconst 0, 1) := dk_3 (dk_at dksX8_isPlace_2 3 rfl rfl)
theorem dX8_isPlace_51 : decode cX8_isPlace 51 = .ok (.ireturn, 1) := dk_172 (dk_at dksX8_isPlace_2 4 rfl rfl)
abbrev cX8_rowsOf : ByteArray := prog_24_method_6_code
def yX8_rowsOf : MethodName := ⟨RX8, "rowsOf", "(I)I"⟩
def dkwX8_rowsOf_0 : List UInt8 := [27, 4, 160, 0, 10, 42, 180, 0, 23, 167, 0, 7, 42, 180, 0, 19, 172]
abbrev dktX8_rowsOf_0 : List UInt8 := dkwX8_rowsOf_0 ++ []
theorem dksX8_rowsOf_0 : cX8_rowsOf.data.toList.drop 0 = dktX8_rowsOf_0 := by decide +kernel
theorem dX8_rowsOf_0 : decode cX8_rowsOf 0 = .ok (.iload_n 1, 1) := dk_27 (dk_at dksX8_rowsOf_0 0 rfl rfl)
theorem dX8_rowsOf_1 : decode cX8_rowsOf 1 = .ok (.iconst 1, 1) := dk_4 (dk_at dksX8_rowsOf_0 1 rfl rfl)
theorem dX8_rowsOf_2 : decode cX8_rowsOf 2 = .ok (.if_icmp .ne 10, 3) := dk_160 0 10 (dk_at dksX8_rowsOf_0 2 rfl rfl)
theorem dX8_rowsOf_5 : decode cX8_rowsOf 5 = .ok (.aload_n 0, 1) := dk_42 (dk_at dksX8_rowsOf_0 5 rfl rfl)
theorem dX8_rowsOf_6 : decode cX8_rowsOf 6 = .ok (.getfield 23, 3) := dk_180 0 23 (dk_at dksX8_rowsOf_0 6 rfl rfl)
theorem dX8_rowsOf_9 : decode cX8_rowsOf 9 = .ok (.goto 7, 3) := dk_167 0 7 (dk_at dksX8_rowsOf_0 9 rfl rfl)
theorem dX8_rowsOf_12 : decode cX8_rowsOf 12 = .ok (.aload_n 0, 1) := dk_42 (dk_at dksX8_rowsOf_0 12 rfl rfl)
theorem dX8_rowsOf_13 : decode cX8_rowsOf 13 = .ok (.getfield 19, 3) := dk_180 0 19 (dk_at dksX8_rowsOf_0 13 rfl rfl)
theorem dX8_rowsOf_16 : decode cX8_rowsOf 16 = .ok (.ireturn, 1) := dk_172 (dk_at dksX8_rowsOf_0 16 rfl rfl)
abbrev cX8_columnsOf : ByteArray := prog_24_method_7_code
def yX8_columnsOf : MethodName := ⟨RX8, "columnsOf", "(I)I"⟩
def dkwX8_columnsOf_0 : List UInt8 := [27, 154, 0, 10, 42, 180, 0, 19, 167, 0, 7, 42, 180, 0, 23, 172]
abbrev dktX8_columnsOf_0 : List UInt8 := dkwX8_columnsOf_0 ++ []
theorem dksX8_columnsOf_0 : cX8_columnsOf.data.toList.drop 0 = dktX8_columnsOf_0 := by decide +kernel
theorem dX8_columnsOf_0 : decode cX8_columnsOf 0 = .ok (.iload_n 1, 1) := dk_27 (dk_at dksX8_columnsOf_0 0 rfl rfl)
theorem dX8_columnsOf_1 : decode cX8_columnsOf 1 = .ok (.ifCond .ne 10, 3) := dk_154 0 10 (dk_at dksX8_columnsOf_0 1 rfl rfl)
theorem dX8_columnsOf_4 : decode cX8_columnsOf 4 = .ok (.aload_n 0, 1) := dk_42 (dk_at dksX8_columnsOf_0 4 rfl rfl)
theorem dX8_columnsOf_5 : decode cX8_columnsOf 5 = .ok (.getfield 19, 3) := dk_180 0 19 (dk_at dksX8_columnsOf_0 5 rfl rfl)
theorem dX8_columnsOf_8 : decode cX8_columnsOf 8 = .ok (.goto 7, 3) := dk_167 0 7 (dk_at dksX8_columnsOf_0 8 rfl rfl)
theorem dX8_columnsOf_11 : decode cX8_columnsOf 11 = .ok (.aload_n 0, 1) := dk_42 (dk_at dksX8_columnsOf_0 11 rfl rfl)
theorem dX8_columnsOf_12 : decode cX8_columnsOf 12 = .ok (.getfield 23, 3) := dk_180 0 23 (dk_at dksX8_columnsOf_0 12 rfl rfl)
theorem dX8_columnsOf_15 : decode cX8_columnsOf 15 = .ok (.ireturn, 1) := dk_172 (dk_at dksX8_columnsOf_0 15 rfl rfl)
abbrev cX8_isEntry : ByteArray := prog_24_method_10_code
def yX8_isEntry : MethodName := ⟨RX8, "isEntry", "(II)Z"⟩
def dkwX8_isEntry_1 : List UInt8 := [20, 0, 116, 184, 0, 99, 172]
abbrev dktX8_isEntry_1 : List UInt8 := dkwX8_isEntry_1 ++ []
def dkwX8_isEntry_0 : List UInt8 := [26, 5, 160, 0, 17, 27, 133, 20, 0, 110, 20, 0, 112, 184, 0, 99, 167, 0, 14, 27, 133, 20, 0, 114]
abbrev dktX8_isEntry_0 : List UInt8 := dkwX8_isEntry_0 ++ dktX8_isEntry_1
theorem dksX8_isEntry_0 : cX8_isEntry.data.toList.drop 0 = dktX8_isEntry_0 := by decide +kernel
theorem dksX8_isEntry_1 : cX8_isEntry.data.toList.drop 24 = dktX8_isEntry_1 := dk_seg dksX8_isEntry_0 24 rfl rfl
theorem dX8_isEntry_0 : decode cX8_isEntry 0 = .ok (.iload_n 0, 1) := dk_26 (dk_at dksX8_isEntry_0 0 rfl rfl)
theorem dX8_isEntry_1 : decode cX8_isEntry 1 = .ok (.iconst 2, 1) := dk_5 (dk_at dksX8_isEntry_0 1 rfl rfl)
theorem dX8_isEntry_2 : decode cX8_isEntry 2 = .ok (.if_icmp .ne 17, 3) := dk_160 0 17 (dk_at dksX8_isEntry_0 2 rfl rfl)
theorem dX8_isEntry_5 : decode cX8_isEntry 5 = .ok (.iload_n 1, 1) := dk_27 (dk_at dksX8_isEntry_0 5 rfl rfl)
theorem dX8_isEntry_6 : decode cX8_isEntry 6 = .ok (.i2l, 1) := dk_133 (dk_at dksX8_isEntry_0 6 rfl rfl)
theorem dX8_isEntry_7 : decode cX8_isEntry 7 = .ok (.ldc2_w 110, 3) := dk_20 0 110 (dk_at dksX8_isEntry_0 7 rfl rfl)
theorem dX8_isEntry_10 : decode cX8_isEntry 10 = .ok (.ldc2_w 112, 3) := dk_20 0 112 (dk_at dksX8_isEntry_0 10 rfl rfl)
theorem dX8_isEntry_13 : decode cX8_isEntry 13 = .ok (.invokestatic 99, 3) := dk_184 0 99 (dk_at dksX8_isEntry_0 13 rfl rfl)
theorem dX8_isEntry_16 : decode cX8_isEntry 16 = .ok (.goto 14, 3) := dk_167 0 14 (dk_at dksX8_isEntry_0 16 rfl rfl)
theorem dX8_isEntry_19 : decode cX8_isEntry 19 = .ok (.iload_n 1, 1) := dk_27 (dk_at dksX8_isEntry_0 19 rfl rfl)
theorem dX8_isEntry_20 : decode cX8_isEntry 20 = .ok (.i2l, 1) := dk_133 (dk_at dksX8_isEntry_0 20 rfl rfl)
theorem dX8_isEntry_21 : decode cX8_isEntry 21 = .ok (.ldc2_w 114, 3) := dk_20 0 114 (dk_at dksX8_isEntry_0 21 rfl rfl)
theorem dX8_isEntry_24 : decode cX8_isEntry 24 = .ok (.ldc2_w 116, 3) := dk_20 0 116 (dk_at dksX8_isEntry_1 0 rfl rfl)
theorem dX8_isEntry_27 : decode cX8_isEntry 27 = .ok (.invokestatic 99, 3) := dk_184 0 99 (dk_at dksX8_isEntry_1 3 rfl rfl)
theorem dX8_isEntry_30 : decode cX8_isEntry 30 = .ok (.ireturn, 1) := dk_172 (dk_at dksX8_isEntry_1 6 rfl rfl)
abbrev cX8_its : ByteArray := prog_24_method_8_code
def yX8_its : MethodName := ⟨RX8, "its", "(III)I"⟩
def dkwX8_its_0 : List UInt8 := [42, 180, 0, 7, 16, 9, 27, 104, 6, 28, 104, 96, 29, 96, 46, 172]
abbrev dktX8_its_0 : List UInt8 := dkwX8_its_0 ++ []
theorem dksX8_its_0 : cX8_its.data.toList.drop 0 = dktX8_its_0 := by decide +kernel
theorem dX8_its_0 : decode cX8_its 0 = .ok (.aload_n 0, 1) := dk_42 (dk_at dksX8_its_0 0 rfl rfl)
theorem dX8_its_1 : decode cX8_its 1 = .ok (.getfield 7, 3) := dk_180 0 7 (dk_at dksX8_its_0 1 rfl rfl)
theorem dX8_its_4 : decode cX8_its 4 = .ok (.bipush 9, 2) := dk_16 9 (dk_at dksX8_its_0 4 rfl rfl)
theorem dX8_its_6 : decode cX8_its 6 = .ok (.iload_n 1, 1) := dk_27 (dk_at dksX8_its_0 6 rfl rfl)
theorem dX8_its_7 : decode cX8_its 7 = .ok (.imul, 1) := dk_104 (dk_at dksX8_its_0 7 rfl rfl)
theorem dX8_its_8 : decode cX8_its 8 = .ok (.iconst 3, 1) := dk_6 (dk_at dksX8_its_0 8 rfl rfl)
theorem dX8_its_9 : decode cX8_its 9 = .ok (.iload_n 2, 1) := dk_28 (dk_at dksX8_its_0 9 rfl rfl)
theorem dX8_its_10 : decode cX8_its 10 = .ok (.imul, 1) := dk_104 (dk_at dksX8_its_0 10 rfl rfl)
theorem dX8_its_11 : decode cX8_its 11 = .ok (.iadd, 1) := dk_96 (dk_at dksX8_its_0 11 rfl rfl)
theorem dX8_its_12 : decode cX8_its 12 = .ok (.iload_n 3, 1) := dk_29 (dk_at dksX8_its_0 12 rfl rfl)
theorem dX8_its_13 : decode cX8_its 13 = .ok (.iadd, 1) := dk_96 (dk_at dksX8_its_0 13 rfl rfl)
theorem dX8_its_14 : decode cX8_its 14 = .ok (.iaload, 1) := dk_46 (dk_at dksX8_its_0 14 rfl rfl)
theorem dX8_its_15 : decode cX8_its 15 = .ok (.ireturn, 1) := dk_172 (dk_at dksX8_its_0 15 rfl rfl)
abbrev cX8_at : ByteArray := prog_24_method_13_code
def yX8_at : MethodName := ⟨RX8, "at", "(III)I"⟩
def dkwX8_at_1 : List UInt8 := [172]
abbrev dktX8_at_1 : List UInt8 := dkwX8_at_1 ++ []
def dkwX8_at_0 : List UInt8 := [42, 27, 28, 29, 182, 0, 120, 153, 0, 16, 16, 100, 42, 27, 28, 29, 182, 0, 128, 96, 167, 0, 4, 2]
abbrev dktX8_at_0 : List UInt8 := dkwX8_at_0 ++ dktX8_at_1
theorem dksX8_at_0 : cX8_at.data.toList.drop 0 = dktX8_at_0 := by decide +kernel
theorem dksX8_at_1 : cX8_at.data.toList.drop 24 = dktX8_at_1 := dk_seg dksX8_at_0 24 rfl rfl
theorem dX8_at_0 : decode cX8_at 0 = .ok (.aload_n 0, 1) := dk_42 (dk_at dksX8_at_0 0 rfl rfl)
theorem dX8_at_1 : decode cX8_at 1 = .ok (.iload_n 1, 1) := dk_27 (dk_at dksX8_at_0 1 rfl rfl)
theorem dX8_at_2 : decode cX8_at 2 = .ok (.iload_n 2, 1) := dk_28 (dk_at dksX8_at_0 2 rfl rfl)
theorem dX8_at_3 : decode cX8_at 3 = .ok (.iload_n 3, 1) := dk_29 (dk_at dksX8_at_0 3 rfl rfl)
theorem dX8_at_4 : decode cX8_at 4 = .ok (.invokevirtual 120, 3) := dk_182 0 120 (dk_at dksX8_at_0 4 rfl rfl)
theorem dX8_at_7 : decode cX8_at 7 = .ok (.ifCond .eq 16, 3) := dk_153 0 16 (dk_at dksX8_at_0 7 rfl rfl)
theorem dX8_at_10 : decode cX8_at 10 = .ok (.bipush 100, 2) := dk_16 100 (dk_at dksX8_at_0 10 rfl rfl)
theorem dX8_at_12 : decode cX8_at 12 = .ok (.aload_n 0, 1) := dk_42 (dk_at dksX8_at_0 12 rfl rfl)
theorem dX8_at_13 : decode cX8_at 13 = .ok (.iload_n 1, 1) := dk_27 (dk_at dksX8_at_0 13 rfl rfl)
theorem dX8_at_14 : decode cX8_at 14 = .ok (.iload_n 2, 1) := dk_28 (dk_at dksX8_at_0 14 rfl rfl)
theorem dX8_at_15 : decode cX8_at 15 = .ok (.iload_n 3, 1) := dk_29 (dk_at dksX8_at_0 15 rfl rfl)
theorem dX8_at_16 : decode cX8_at 16 = .ok (.invokevirtual 128, 3) := dk_182 0 128 (dk_at dksX8_at_0 16 rfl rfl)
theorem dX8_at_19 : decode cX8_at 19 = .ok (.iadd, 1) := dk_96 (dk_at dksX8_at_0 19 rfl rfl)
theorem dX8_at_20 : decode cX8_at 20 = .ok (.goto 4, 3) := dk_167 0 4 (dk_at dksX8_at_0 20 rfl rfl)
theorem dX8_at_23 : decode cX8_at 23 = .ok (.iconst (-1), 1) := dk_2 (dk_at dksX8_at_0 23 rfl rfl)
theorem dX8_at_24 : decode cX8_at 24 = .ok (.ireturn, 1) := dk_172 (dk_at dksX8_at_1 0 rfl rfl)
abbrev cX8_det : ByteArray := prog_24_method_18_code
def yX8_det : MethodName := ⟨RX8, "det", "(I)J"⟩
def dkwX8_det_0 : List UInt8 := [27, 133, 9, 10, 184, 0, 99, 153, 0, 11, 42, 27, 182, 0, 136, 167, 0, 7, 2, 184, 0, 140, 173]
abbrev dktX8_det_0 : List UInt8 := dkwX8_det_0 ++ []
theorem dksX8_det_0 : cX8_det.data.toList.drop 0 = dktX8_det_0 := by decide +kernel
theorem dX8_det_0 : decode cX8_det 0 = .ok (.iload_n 1, 1) := dk_27 (dk_at dksX8_det_0 0 rfl rfl)
theorem dX8_det_1 : decode cX8_det 1 = .ok (.i2l, 1) := dk_133 (dk_at dksX8_det_0 1 rfl rfl)
theorem dX8_det_2 : decode cX8_det 2 = .ok (.lconst 0, 1) := dk_9 (dk_at dksX8_det_0 2 rfl rfl)
theorem dX8_det_3 : decode cX8_det 3 = .ok (.lconst 1, 1) := dk_10 (dk_at dksX8_det_0 3 rfl rfl)
theorem dX8_det_4 : decode cX8_det 4 = .ok (.invokestatic 99, 3) := dk_184 0 99 (dk_at dksX8_det_0 4 rfl rfl)
theorem dX8_det_7 : decode cX8_det 7 = .ok (.ifCond .eq 11, 3) := dk_153 0 11 (dk_at dksX8_det_0 7 rfl rfl)
theorem dX8_det_10 : decode cX8_det 10 = .ok (.aload_n 0, 1) := dk_42 (dk_at dksX8_det_0 10 rfl rfl)
theorem dX8_det_11 : decode cX8_det 11 = .ok (.iload_n 1, 1) := dk_27 (dk_at dksX8_det_0 11 rfl rfl)
theorem dX8_det_12 : decode cX8_det 12 = .ok (.invokevirtual 136, 3) := dk_182 0 136 (dk_at dksX8_det_0 12 rfl rfl)
theorem dX8_det_15 : decode cX8_det 15 = .ok (.goto 7, 3) := dk_167 0 7 (dk_at dksX8_det_0 15 rfl rfl)
theorem dX8_det_18 : decode cX8_det 18 = .ok (.iconst (-1), 1) := dk_2 (dk_at dksX8_det_0 18 rfl rfl)
theorem dX8_det_19 : decode cX8_det 19 = .ok (.invokestatic 140, 3) := dk_184 0 140 (dk_at dksX8_det_0 19 rfl rfl)
theorem dX8_det_22 : decode cX8_det 22 = .ok (.lreturn, 1) := dk_173 (dk_at dksX8_det_0 22 rfl rfl)
abbrev cX8_detOf : ByteArray := prog_24_method_15_code
def yX8_detOf : MethodName := ⟨RX8, "detOf", "(I)J"⟩
def dkwX8_detOf_3 : List UInt8 := [105, 101, 42, 27, 3, 5, 182, 0, 128, 133, 42, 27, 4, 5, 3, 4, 182, 0, 132, 105, 97, 173]
abbrev dktX8_detOf_3 : List UInt8 := dkwX8_detOf_3 ++ []
def dkwX8_detOf_2 : List UInt8 := [5, 4, 5, 182, 0, 132, 105, 42, 27, 3, 4, 182, 0, 128, 133, 42, 27, 4, 5, 3, 5, 182, 0, 132]
abbrev dktX8_detOf_2 : List UInt8 := dkwX8_detOf_2 ++ dktX8_detOf_3
def dkwX8_detOf_1 : List UInt8 := [160, 0, 13, 42, 27, 3, 4, 3, 4, 182, 0, 132, 173, 42, 27, 3, 3, 182, 0, 128, 133, 42, 27, 4]
abbrev dktX8_detOf_1 : List UInt8 := dkwX8_detOf_1 ++ dktX8_detOf_2
def dkwX8_detOf_0 : List UInt8 := [42, 27, 182, 0, 103, 61, 28, 4, 160, 0, 12, 42, 27, 3, 3, 182, 0, 128, 133, 173, 28, 5]
abbrev dktX8_detOf_0 : List UInt8 := dkwX8_detOf_0 ++ dktX8_detOf_1
theorem dksX8_detOf_0 : cX8_detOf.data.toList.drop 0 = dktX8_detOf_0 := by decide +kernel
theorem dksX8_detOf_1 : cX8_detOf.data.toList.drop 22 = dktX8_detOf_1 := dk_seg dksX8_detOf_0 22 rfl rfl
theorem dksX8_detOf_2 : cX8_detOf.data.toList.drop 46 = dktX8_detOf_2 := dk_seg dksX8_detOf_1 24 rfl rfl
theorem dksX8_detOf_3 : cX8_detOf.data.toList.drop 70 = dktX8_detOf_3 := dk_seg dksX8_detOf_2 24 rfl rfl
theorem dX8_detOf_0 : decode cX8_detOf 0 = .ok (.aload_n 0, 1) := dk_42 (dk_at dksX8_detOf_0 0 rfl rfl)
theorem dX8_detOf_1 : decode cX8_detOf 1 = .ok (.iload_n 1, 1) := dk_27 (dk_at dksX8_detOf_0 1 rfl rfl)
theorem dX8_detOf_2 : decode cX8_detOf 2 = .ok (.invokevirtual 103, 3) := dk_182 0 103 (dk_at dksX8_detOf_0 2 rfl rfl)
theorem dX8_detOf_5 : decode cX8_detOf 5 = .ok (.istore_n 2, 1) := dk_61 (dk_at dksX8_detOf_0 5 rfl rfl)
theorem dX8_detOf_6 : decode cX8_detOf 6 = .ok (.iload_n 2, 1) := dk_28 (dk_at dksX8_detOf_0 6 rfl rfl)
theorem dX8_detOf_7 : decode cX8_detOf 7 = .ok (.iconst 1, 1) := dk_4 (dk_at dksX8_detOf_0 7 rfl rfl)
theorem dX8_detOf_8 : decode cX8_detOf 8 = .ok (.if_icmp .ne 12, 3) := dk_160 0 12 (dk_at dksX8_detOf_0 8 rfl rfl)
theorem dX8_detOf_11 : decode cX8_detOf 11 = .ok (.aload_n 0, 1) := dk_42 (dk_at dksX8_detOf_0 11 rfl rfl)
theorem dX8_detOf_12 : decode cX8_detOf 12 = .ok (.iload_n 1, 1) := dk_27 (dk_at dksX8_detOf_0 12 rfl rfl)
theorem dX8_detOf_13 : decode cX8_detOf 13 = .ok (.iconst 0, 1) := dk_3 (dk_at dksX8_detOf_0 13 rfl rfl)
theorem dX8_detOf_14 : decode cX8_detOf 14 = .ok (.iconst 0, 1) := dk_3 (dk_at dksX8_detOf_0 14 rfl rfl)
theorem dX8_detOf_15 : decode cX8_detOf 15 = .ok (.invokevirtual 128, 3) := dk_182 0 128 (dk_at dksX8_detOf_0 15 rfl rfl)
theorem dX8_detOf_18 : decode cX8_detOf 18 = .ok (.i2l, 1) := dk_133 (dk_at dksX8_detOf_0 18 rfl rfl)
theorem dX8_detOf_19 : decode cX8_detOf 19 = .ok (.lreturn, 1) := dk_173 (dk_at dksX8_detOf_0 19 rfl rfl)
theorem dX8_detOf_20 : decode cX8_detOf 20 = .ok (.iload_n 2, 1) := dk_28 (dk_at dksX8_detOf_0 20 rfl rfl)
theorem dX8_detOf_21 : decode cX8_detOf 21 = .ok (.iconst 2, 1) := dk_5 (dk_at dksX8_detOf_0 21 rfl rfl)
theorem dX8_detOf_22 : decode cX8_detOf 22 = .ok (.if_icmp .ne 13, 3) := dk_160 0 13 (dk_at dksX8_detOf_1 0 rfl rfl)
theorem dX8_detOf_25 : decode cX8_detOf 25 = .ok (.aload_n 0, 1) := dk_42 (dk_at dksX8_detOf_1 3 rfl rfl)
theorem dX8_detOf_26 : decode cX8_detOf 26 = .ok (.iload_n 1, 1) := dk_27 (dk_at dksX8_detOf_1 4 rfl rfl)
theorem dX8_detOf_27 : decode cX8_detOf 27 = .ok (.iconst 0, 1) := dk_3 (dk_at dksX8_detOf_1 5 rfl rfl)
theorem dX8_detOf_28 : decode cX8_detOf 28 = .ok (.iconst 1, 1) := dk_4 (dk_at dksX8_detOf_1 6 rfl rfl)
theorem dX8_detOf_29 : decode cX8_detOf 29 = .ok (.iconst 0, 1) := dk_3 (dk_at dksX8_detOf_1 7 rfl rfl)
theorem dX8_detOf_30 : decode cX8_detOf 30 = .ok (.iconst 1, 1) := dk_4 (dk_at dksX8_detOf_1 8 rfl rfl)
theorem dX8_detOf_31 : decode cX8_detOf 31 = .ok (.invokevirtual 132, 3) := dk_182 0 132 (dk_at dksX8_detOf_1 9 rfl rfl)
theorem dX8_detOf_34 : decode cX8_detOf 34 = .ok (.lreturn, 1) := dk_173 (dk_at dksX8_detOf_1 12 rfl rfl)
theorem dX8_detOf_35 : decode cX8_detOf 35 = .ok (.aload_n 0, 1) := dk_42 (dk_at dksX8_detOf_1 13 rfl rfl)
theorem dX8_detOf_36 : decode cX8_detOf 36 = .ok (.iload_n 1, 1) := dk_27 (dk_at dksX8_detOf_1 14 rfl rfl)
theorem dX8_detOf_37 : decode cX8_detOf 37 = .ok (.iconst 0, 1) := dk_3 (dk_at dksX8_detOf_1 15 rfl rfl)
theorem dX8_detOf_38 : decode cX8_detOf 38 = .ok (.iconst 0, 1) := dk_3 (dk_at dksX8_detOf_1 16 rfl rfl)
theorem dX8_detOf_39 : decode cX8_detOf 39 = .ok (.invokevirtual 128, 3) := dk_182 0 128 (dk_at dksX8_detOf_1 17 rfl rfl)
theorem dX8_detOf_42 : decode cX8_detOf 42 = .ok (.i2l, 1) := dk_133 (dk_at dksX8_detOf_1 20 rfl rfl)
theorem dX8_detOf_43 : decode cX8_detOf 43 = .ok (.aload_n 0, 1) := dk_42 (dk_at dksX8_detOf_1 21 rfl rfl)
theorem dX8_detOf_44 : decode cX8_detOf 44 = .ok (.iload_n 1, 1) := dk_27 (dk_at dksX8_detOf_1 22 rfl rfl)
theorem dX8_detOf_45 : decode cX8_detOf 45 = .ok (.iconst 1, 1) := dk_4 (dk_at dksX8_detOf_1 23 rfl rfl)
theorem dX8_detOf_46 : decode cX8_detOf 46 = .ok (.iconst 2, 1) := dk_5 (dk_at dksX8_detOf_2 0 rfl rfl)
theorem dX8_detOf_47 : decode cX8_detOf 47 = .ok (.iconst 1, 1) := dk_4 (dk_at dksX8_detOf_2 1 rfl rfl)
theorem dX8_detOf_48 : decode cX8_detOf 48 = .ok (.iconst 2, 1) := dk_5 (dk_at dksX8_detOf_2 2 rfl rfl)
theorem dX8_detOf_49 : decode cX8_detOf 49 = .ok (.invokevirtual 132, 3) := dk_182 0 132 (dk_at dksX8_detOf_2 3 rfl rfl)
theorem dX8_detOf_52 : decode cX8_detOf 52 = .ok (.lmul, 1) := dk_105 (dk_at dksX8_detOf_2 6 rfl rfl)
theorem dX8_detOf_53 : decode cX8_detOf 53 = .ok (.aload_n 0, 1) := dk_42 (dk_at dksX8_detOf_2 7 rfl rfl)
theorem dX8_detOf_54 : decode cX8_detOf 54 = .ok (.iload_n 1, 1) := dk_27 (dk_at dksX8_detOf_2 8 rfl rfl)
theorem dX8_detOf_55 : decode cX8_detOf 55 = .ok (.iconst 0, 1) := dk_3 (dk_at dksX8_detOf_2 9 rfl rfl)
theorem dX8_detOf_56 : decode cX8_detOf 56 = .ok (.iconst 1, 1) := dk_4 (dk_at dksX8_detOf_2 10 rfl rfl)
theorem dX8_detOf_57 : decode cX8_detOf 57 = .ok (.invokevirtual 128, 3) := dk_182 0 128 (dk_at dksX8_detOf_2 11 rfl rfl)
theorem dX8_detOf_60 : decode cX8_detOf 60 = .ok (.i2l, 1) := dk_133 (dk_at dksX8_detOf_2 14 rfl rfl)
theorem dX8_detOf_61 : decode cX8_detOf 61 = .ok (.aload_n 0, 1) := dk_42 (dk_at dksX8_detOf_2 15 rfl rfl)
theorem dX8_detOf_62 : decode cX8_detOf 62 = .ok (.iload_n 1, 1) := dk_27 (dk_at dksX8_detOf_2 16 rfl rfl)
theorem dX8_detOf_63 : decode cX8_detOf 63 = .ok (.iconst 1, 1) := dk_4 (dk_at dksX8_detOf_2 17 rfl rfl)
theorem dX8_detOf_64 : decode cX8_detOf 64 = .ok (.iconst 2, 1) := dk_5 (dk_at dksX8_detOf_2 18 rfl rfl)
theorem dX8_detOf_65 : decode cX8_detOf 65 = .ok (.iconst 0, 1) := dk_3 (dk_at dksX8_detOf_2 19 rfl rfl)
theorem dX8_detOf_66 : decode cX8_detOf 66 = .ok (.iconst 2, 1) := dk_5 (dk_at dksX8_detOf_2 20 rfl rfl)
theorem dX8_detOf_67 : decode cX8_detOf 67 = .ok (.invokevirtual 132, 3) := dk_182 0 132 (dk_at dksX8_detOf_2 21 rfl rfl)
theorem dX8_detOf_70 : decode cX8_detOf 70 = .ok (.lmul, 1) := dk_105 (dk_at dksX8_detOf_3 0 rfl rfl)
theorem dX8_detOf_71 : decode cX8_detOf 71 = .ok (.lsub, 1) := dk_101 (dk_at dksX8_detOf_3 1 rfl rfl)
theorem dX8_detOf_72 : decode cX8_detOf 72 = .ok (.aload_n 0, 1) := dk_42 (dk_at dksX8_detOf_3 2 rfl rfl)
theorem dX8_detOf_73 : decode cX8_detOf 73 = .ok (.iload_n 1, 1) := dk_27 (dk_at dksX8_detOf_3 3 rfl rfl)
theorem dX8_detOf_74 : decode cX8_detOf 74 = .ok (.iconst 0, 1) := dk_3 (dk_at dksX8_detOf_3 4 rfl rfl)
theorem dX8_detOf_75 : decode cX8_detOf 75 = .ok (.iconst 2, 1) := dk_5 (dk_at dksX8_detOf_3 5 rfl rfl)
theorem dX8_detOf_76 : decode cX8_detOf 76 = .ok (.invokevirtual 128, 3) := dk_182 0 128 (dk_at dksX8_detOf_3 6 rfl rfl)
theorem dX8_detOf_79 : decode cX8_detOf 79 = .ok (.i2l, 1) := dk_133 (dk_at dksX8_detOf_3 9 rfl rfl)
theorem dX8_detOf_80 : decode cX8_detOf 80 = .ok (.aload_n 0, 1) := dk_42 (dk_at dksX8_detOf_3 10 rfl rfl)
theorem dX8_detOf_81 : decode cX8_detOf 81 = .ok (.iload_n 1, 1) := dk_27 (dk_at dksX8_detOf_3 11 rfl rfl)
theorem dX8_detOf_82 : decode cX8_detOf 82 = .ok (.iconst 1, 1) := dk_4 (dk_at dksX8_detOf_3 12 rfl rfl)
theorem dX8_detOf_83 : decode cX8_detOf 83 = .ok (.iconst 2, 1) := dk_5 (dk_at dksX8_detOf_3 13 rfl rfl)
theorem dX8_detOf_84 : decode cX8_detOf 84 = .ok (.iconst 0, 1) := dk_3 (dk_at dksX8_detOf_3 14 rfl rfl)
theorem dX8_detOf_85 : decode cX8_detOf 85 = .ok (.iconst 1, 1) := dk_4 (dk_at dksX8_detOf_3 15 rfl rfl)
theorem dX8_detOf_86 : decode cX8_detOf 86 = .ok (.invokevirtual 132, 3) := dk_182 0 132 (dk_at dksX8_detOf_3 16 rfl rfl)
theorem dX8_detOf_89 : decode cX8_detOf 89 = .ok (.lmul, 1) := dk_105 (dk_at dksX8_detOf_3 19 rfl rfl)
theorem dX8_detOf_90 : decode cX8_detOf 90 = .ok (.ladd, 1) := dk_97 (dk_at dksX8_detOf_3 20 rfl rfl)
theorem dX8_detOf_91 : decode cX8_detOf 91 = .ok (.lreturn, 1) := dk_173 (dk_at dksX8_detOf_3 21 rfl rfl)
abbrev cX8_cross : ByteArray := prog_24_method_14_code
def yX8_cross : MethodName := ⟨RX8, "cross", "(IIIII)J"⟩
def dkwX8_cross_1 : List UInt8 := [182, 0, 128, 133, 42, 27, 29, 21, 4, 182, 0, 128, 133, 105, 101, 173]
abbrev dktX8_cross_1 : List UInt8 := dkwX8_cross_1 ++ []
def dkwX8_cross_0 : List UInt8 := [42, 27, 28, 21, 4, 182, 0, 128, 133, 42, 27, 29, 21, 5, 182, 0, 128, 133, 105, 42, 27, 28, 21, 5]
abbrev dktX8_cross_0 : List UInt8 := dkwX8_cross_0 ++ dktX8_cross_1
theorem dksX8_cross_0 : cX8_cross.data.toList.drop 0 = dktX8_cross_0 := by decide +kernel
theorem dksX8_cross_1 : cX8_cross.data.toList.drop 24 = dktX8_cross_1 := dk_seg dksX8_cross_0 24 rfl rfl
theorem dX8_cross_0 : decode cX8_cross 0 = .ok (.aload_n 0, 1) := dk_42 (dk_at dksX8_cross_0 0 rfl rfl)
theorem dX8_cross_1 : decode cX8_cross 1 = .ok (.iload_n 1, 1) := dk_27 (dk_at dksX8_cross_0 1 rfl rfl)
theorem dX8_cross_2 : decode cX8_cross 2 = .ok (.iload_n 2, 1) := dk_28 (dk_at dksX8_cross_0 2 rfl rfl)
theorem dX8_cross_3 : decode cX8_cross 3 = .ok (.iload 4, 2) := dk_21 4 (dk_at dksX8_cross_0 3 rfl rfl)
theorem dX8_cross_5 : decode cX8_cross 5 = .ok (.invokevirtual 128, 3) := dk_182 0 128 (dk_at dksX8_cross_0 5 rfl rfl)
theorem dX8_cross_8 : decode cX8_cross 8 = .ok (.i2l, 1) := dk_133 (dk_at dksX8_cross_0 8 rfl rfl)
theorem dX8_cross_9 : decode cX8_cross 9 = .ok (.aload_n 0, 1) := dk_42 (dk_at dksX8_cross_0 9 rfl rfl)
theorem dX8_cross_10 : decode cX8_cross 10 = .ok (.iload_n 1, 1) := dk_27 (dk_at dksX8_cross_0 10 rfl rfl)
theorem dX8_cross_11 : decode cX8_cross 11 = .ok (.iload_n 3, 1) := dk_29 (dk_at dksX8_cross_0 11 rfl rfl)
theorem dX8_cross_12 : decode cX8_cross 12 = .ok (.iload 5, 2) := dk_21 5 (dk_at dksX8_cross_0 12 rfl rfl)
theorem dX8_cross_14 : decode cX8_cross 14 = .ok (.invokevirtual 128, 3) := dk_182 0 128 (dk_at dksX8_cross_0 14 rfl rfl)
theorem dX8_cross_17 : decode cX8_cross 17 = .ok (.i2l, 1) := dk_133 (dk_at dksX8_cross_0 17 rfl rfl)
theorem dX8_cross_18 : decode cX8_cross 18 = .ok (.lmul, 1) := dk_105 (dk_at dksX8_cross_0 18 rfl rfl)
theorem dX8_cross_19 : decode cX8_cross 19 = .ok (.aload_n 0, 1) := dk_42 (dk_at dksX8_cross_0 19 rfl rfl)
theorem dX8_cross_20 : decode cX8_cross 20 = .ok (.iload_n 1, 1) := dk_27 (dk_at dksX8_cross_0 20 rfl rfl)
theorem dX8_cross_21 : decode cX8_cross 21 = .ok (.iload_n 2, 1) := dk_28 (dk_at dksX8_cross_0 21 rfl rfl)
theorem dX8_cross_22 : decode cX8_cross 22 = .ok (.iload 5, 2) := dk_21 5 (dk_at dksX8_cross_0 22 rfl rfl)
theorem dX8_cross_24 : decode cX8_cross 24 = .ok (.invokevirtual 128, 3) := dk_182 0 128 (dk_at dksX8_cross_1 0 rfl rfl)
theorem dX8_cross_27 : decode cX8_cross 27 = .ok (.i2l, 1) := dk_133 (dk_at dksX8_cross_1 3 rfl rfl)
theorem dX8_cross_28 : decode cX8_cross 28 = .ok (.aload_n 0, 1) := dk_42 (dk_at dksX8_cross_1 4 rfl rfl)
theorem dX8_cross_29 : decode cX8_cross 29 = .ok (.iload_n 1, 1) := dk_27 (dk_at dksX8_cross_1 5 rfl rfl)
theorem dX8_cross_30 : decode cX8_cross 30 = .ok (.iload_n 3, 1) := dk_29 (dk_at dksX8_cross_1 6 rfl rfl)
theorem dX8_cross_31 : decode cX8_cross 31 = .ok (.iload 4, 2) := dk_21 4 (dk_at dksX8_cross_1 7 rfl rfl)
theorem dX8_cross_33 : decode cX8_cross 33 = .ok (.invokevirtual 128, 3) := dk_182 0 128 (dk_at dksX8_cross_1 9 rfl rfl)
theorem dX8_cross_36 : decode cX8_cross 36 = .ok (.i2l, 1) := dk_133 (dk_at dksX8_cross_1 12 rfl rfl)
theorem dX8_cross_37 : decode cX8_cross 37 = .ok (.lmul, 1) := dk_105 (dk_at dksX8_cross_1 13 rfl rfl)
theorem dX8_cross_38 : decode cX8_cross 38 = .ok (.lsub, 1) := dk_101 (dk_at dksX8_cross_1 14 rfl rfl)
theorem dX8_cross_39 : decode cX8_cross 39 = .ok (.lreturn, 1) := dk_173 (dk_at dksX8_cross_1 15 rfl rfl)
abbrev cX8_told : ByteArray := prog_24_method_3_code
def yX8_told : MethodName := ⟨RX8, "told", "(I)J"⟩
def dkwX8_told_0 : List UInt8 := [26, 133, 20, 0, 91, 101, 173]
abbrev dktX8_told_0 : List UInt8 := dkwX8_told_0 ++ []
theorem dksX8_told_0 : cX8_told.data.toList.drop 0 = dktX8_told_0 := by decide +kernel
theorem dX8_told_0 : decode cX8_told 0 = .ok (.iload_n 0, 1) := dk_26 (dk_at dksX8_told_0 0 rfl rfl)
theorem dX8_told_1 : decode cX8_told 1 = .ok (.i2l, 1) := dk_133 (dk_at dksX8_told_0 1 rfl rfl)
theorem dX8_told_2 : decode cX8_told 2 = .ok (.ldc2_w 91, 3) := dk_20 0 91 (dk_at dksX8_told_0 2 rfl rfl)
theorem dX8_told_5 : decode cX8_told 5 = .ok (.lsub, 1) := dk_101 (dk_at dksX8_told_0 5 rfl rfl)
theorem dX8_told_6 : decode cX8_told 6 = .ok (.lreturn, 1) := dk_173 (dk_at dksX8_told_0 6 rfl rfl)
abbrev cX8_diagonal : ByteArray := prog_24_method_19_code
def yX8_diagonal : MethodName := ⟨RX8, "diagonal", "(I)J"⟩
def dkwX8_diagonal_1 : List UInt8 := [180, 0, 19, 42, 180, 0, 23, 159, 0, 11, 16, 252, 184, 0, 140, 167, 0, 8, 42, 27, 182, 0, 143, 173]
abbrev dktX8_diagonal_1 : List UInt8 := dkwX8_diagonal_1 ++ []
def dkwX8_diagonal_0 : List UInt8 := [27, 133, 9, 20, 0, 97, 184, 0, 99, 154, 0, 8, 2, 184, 0, 140, 173, 27, 5, 160, 0, 22, 42]
abbrev dktX8_diagonal_0 : List UInt8 := dkwX8_diagonal_0 ++ dktX8_diagonal_1
theorem dksX8_diagonal_0 : cX8_diagonal.data.toList.drop 0 = dktX8_diagonal_0 := by decide +kernel
theorem dksX8_diagonal_1 : cX8_diagonal.data.toList.drop 23 = dktX8_diagonal_1 := dk_seg dksX8_diagonal_0 23 rfl rfl
theorem dX8_diagonal_0 : decode cX8_diagonal 0 = .ok (.iload_n 1, 1) := dk_27 (dk_at dksX8_diagonal_0 0 rfl rfl)
theorem dX8_diagonal_1 : decode cX8_diagonal 1 = .ok (.i2l, 1) := dk_133 (dk_at dksX8_diagonal_0 1 rfl rfl)
theorem dX8_diagonal_2 : decode cX8_diagonal 2 = .ok (.lconst 0, 1) := dk_9 (dk_at dksX8_diagonal_0 2 rfl rfl)
theorem dX8_diagonal_3 : decode cX8_diagonal 3 = .ok (.ldc2_w 97, 3) := dk_20 0 97 (dk_at dksX8_diagonal_0 3 rfl rfl)
theorem dX8_diagonal_6 : decode cX8_diagonal 6 = .ok (.invokestatic 99, 3) := dk_184 0 99 (dk_at dksX8_diagonal_0 6 rfl rfl)
theorem dX8_diagonal_9 : decode cX8_diagonal 9 = .ok (.ifCond .ne 8, 3) := dk_154 0 8 (dk_at dksX8_diagonal_0 9 rfl rfl)
theorem dX8_diagonal_12 : decode cX8_diagonal 12 = .ok (.iconst (-1), 1) := dk_2 (dk_at dksX8_diagonal_0 12 rfl rfl)
theorem dX8_diagonal_13 : decode cX8_diagonal 13 = .ok (.invokestatic 140, 3) := dk_184 0 140 (dk_at dksX8_diagonal_0 13 rfl rfl)
theorem dX8_diagonal_16 : decode cX8_diagonal 16 = .ok (.lreturn, 1) := dk_173 (dk_at dksX8_diagonal_0 16 rfl rfl)
theorem dX8_diagonal_17 : decode cX8_diagonal 17 = .ok (.iload_n 1, 1) := dk_27 (dk_at dksX8_diagonal_0 17 rfl rfl)
theorem dX8_diagonal_18 : decode cX8_diagonal 18 = .ok (.iconst 2, 1) := dk_5 (dk_at dksX8_diagonal_0 18 rfl rfl)
theorem dX8_diagonal_19 : decode cX8_diagonal 19 = .ok (.if_icmp .ne 22, 3) := dk_160 0 22 (dk_at dksX8_diagonal_0 19 rfl rfl)
theorem dX8_diagonal_22 : decode cX8_diagonal 22 = .ok (.aload_n 0, 1) := dk_42 (dk_at dksX8_diagonal_0 22 rfl rfl)
theorem dX8_diagonal_23 : decode cX8_diagonal 23 = .ok (.getfield 19, 3) := dk_180 0 19 (dk_at dksX8_diagonal_1 0 rfl rfl)
theorem dX8_diagonal_26 : decode cX8_diagonal 26 = .ok (.aload_n 0, 1) := dk_42 (dk_at dksX8_diagonal_1 3 rfl rfl)
theorem dX8_diagonal_27 : decode cX8_diagonal 27 = .ok (.getfield 23, 3) := dk_180 0 23 (dk_at dksX8_diagonal_1 4 rfl rfl)
theorem dX8_diagonal_30 : decode cX8_diagonal 30 = .ok (.if_icmp .eq 11, 3) := dk_159 0 11 (dk_at dksX8_diagonal_1 7 rfl rfl)
theorem dX8_diagonal_33 : decode cX8_diagonal 33 = .ok (.bipush (-4), 2) := dk_16 252 (dk_at dksX8_diagonal_1 10 rfl rfl)
theorem dX8_diagonal_35 : decode cX8_diagonal 35 = .ok (.invokestatic 140, 3) := dk_184 0 140 (dk_at dksX8_diagonal_1 12 rfl rfl)
theorem dX8_diagonal_38 : decode cX8_diagonal 38 = .ok (.goto 8, 3) := dk_167 0 8 (dk_at dksX8_diagonal_1 15 rfl rfl)
theorem dX8_diagonal_41 : decode cX8_diagonal 41 = .ok (.aload_n 0, 1) := dk_42 (dk_at dksX8_diagonal_1 18 rfl rfl)
theorem dX8_diagonal_42 : decode cX8_diagonal 42 = .ok (.iload_n 1, 1) := dk_27 (dk_at dksX8_diagonal_1 19 rfl rfl)
theorem dX8_diagonal_43 : decode cX8_diagonal 43 = .ok (.invokevirtual 143, 3) := dk_182 0 143 (dk_at dksX8_diagonal_1 20 rfl rfl)
theorem dX8_diagonal_46 : decode cX8_diagonal 46 = .ok (.lreturn, 1) := dk_173 (dk_at dksX8_diagonal_1 23 rfl rfl)
abbrev cX8_sumDown : ByteArray := prog_24_method_16_code
def yX8_sumDown : MethodName := ⟨RX8, "sumDown", "(I)J"⟩
def dkwX8_sumDown_1 : List UInt8 := [182, 0, 128, 133, 97, 65, 132, 4, 1, 167, 255, 230, 32, 173]
abbrev dktX8_sumDown_1 : List UInt8 := dkwX8_sumDown_1 ++ []
def dkwX8_sumDown_0 : List UInt8 := [9, 65, 3, 54, 4, 21, 4, 42, 27, 182, 0, 103, 162, 0, 22, 32, 42, 27, 21, 4, 21, 4]
abbrev dktX8_sumDown_0 : List UInt8 := dkwX8_sumDown_0 ++ dktX8_sumDown_1
theorem dksX8_sumDown_0 : cX8_sumDown.data.toList.drop 0 = dktX8_sumDown_0 := by decide +kernel
theorem dksX8_sumDown_1 : cX8_sumDown.data.toList.drop 22 = dktX8_sumDown_1 := dk_seg dksX8_sumDown_0 22 rfl rfl
theorem dX8_sumDown_0 : decode cX8_sumDown 0 = .ok (.lconst 0, 1) := dk_9 (dk_at dksX8_sumDown_0 0 rfl rfl)
theorem dX8_sumDown_1 : decode cX8_sumDown 1 = .ok (.lstore_n 2, 1) := dk_65 (dk_at dksX8_sumDown_0 1 rfl rfl)
theorem dX8_sumDown_2 : decode cX8_sumDown 2 = .ok (.iconst 0, 1) := dk_3 (dk_at dksX8_sumDown_0 2 rfl rfl)
theorem dX8_sumDown_3 : decode cX8_sumDown 3 = .ok (.istore 4, 2) := dk_54 4 (dk_at dksX8_sumDown_0 3 rfl rfl)
theorem dX8_sumDown_5 : decode cX8_sumDown 5 = .ok (.iload 4, 2) := dk_21 4 (dk_at dksX8_sumDown_0 5 rfl rfl)
theorem dX8_sumDown_7 : decode cX8_sumDown 7 = .ok (.aload_n 0, 1) := dk_42 (dk_at dksX8_sumDown_0 7 rfl rfl)
theorem dX8_sumDown_8 : decode cX8_sumDown 8 = .ok (.iload_n 1, 1) := dk_27 (dk_at dksX8_sumDown_0 8 rfl rfl)
theorem dX8_sumDown_9 : decode cX8_sumDown 9 = .ok (.invokevirtual 103, 3) := dk_182 0 103 (dk_at dksX8_sumDown_0 9 rfl rfl)
theorem dX8_sumDown_12 : decode cX8_sumDown 12 = .ok (.if_icmp .ge 22, 3) := dk_162 0 22 (dk_at dksX8_sumDown_0 12 rfl rfl)
theorem dX8_sumDown_15 : decode cX8_sumDown 15 = .ok (.lload_n 2, 1) := dk_32 (dk_at dksX8_sumDown_0 15 rfl rfl)
theorem dX8_sumDown_16 : decode cX8_sumDown 16 = .ok (.aload_n 0, 1) := dk_42 (dk_at dksX8_sumDown_0 16 rfl rfl)
theorem dX8_sumDown_17 : decode cX8_sumDown 17 = .ok (.iload_n 1, 1) := dk_27 (dk_at dksX8_sumDown_0 17 rfl rfl)
theorem dX8_sumDown_18 : decode cX8_sumDown 18 = .ok (.iload 4, 2) := dk_21 4 (dk_at dksX8_sumDown_0 18 rfl rfl)
theorem dX8_sumDown_20 : decode cX8_sumDown 20 = .ok (.iload 4, 2) := dk_21 4 (dk_at dksX8_sumDown_0 20 rfl rfl)
theorem dX8_sumDown_22 : decode cX8_sumDown 22 = .ok (.invokevirtual 128, 3) := dk_182 0 128 (dk_at dksX8_sumDown_1 0 rfl rfl)
theorem dX8_sumDown_25 : decode cX8_sumDown 25 = .ok (.i2l, 1) := dk_133 (dk_at dksX8_sumDown_1 3 rfl rfl)
theorem dX8_sumDown_26 : decode cX8_sumDown 26 = .ok (.ladd, 1) := dk_97 (dk_at dksX8_sumDown_1 4 rfl rfl)
theorem dX8_sumDown_27 : decode cX8_sumDown 27 = .ok (.lstore_n 2, 1) := dk_65 (dk_at dksX8_sumDown_1 5 rfl rfl)
theorem dX8_sumDown_28 : decode cX8_sumDown 28 = .ok (.iinc 4 1, 3) := dk_132 4 1 (dk_at dksX8_sumDown_1 6 rfl rfl)
theorem dX8_sumDown_31 : decode cX8_sumDown 31 = .ok (.goto (-26), 3) := dk_167 255 230 (dk_at dksX8_sumDown_1 9 rfl rfl)
theorem dX8_sumDown_34 : decode cX8_sumDown 34 = .ok (.lload_n 2, 1) := dk_32 (dk_at dksX8_sumDown_1 12 rfl rfl)
theorem dX8_sumDown_35 : decode cX8_sumDown 35 = .ok (.lreturn, 1) := dk_173 (dk_at dksX8_sumDown_1 13 rfl rfl)
abbrev cX8_character : ByteArray := prog_24_method_20_code
def yX8_character : MethodName := ⟨RX8, "character", "(II)J"⟩
def dkwX8_character_3 : List UInt8 := [167, 0, 22, 29, 4, 160, 0, 12, 42, 27, 182, 0, 143, 117, 167, 0, 8, 42, 27, 182, 0, 146, 173]
abbrev dktX8_character_3 : List UInt8 := dkwX8_character_3 ++ []
def dkwX8_character_2 : List UInt8 := [154, 0, 11, 42, 27, 182, 0, 136, 167, 0, 9, 42, 27, 182, 0, 136, 117, 173, 29, 154, 0, 7, 10]
abbrev dktX8_character_2 : List UInt8 := dkwX8_character_2 ++ dktX8_character_3
def dkwX8_character_1 : List UInt8 := [154, 0, 8, 2, 184, 0, 140, 173, 42, 27, 182, 0, 103, 28, 100, 62, 28, 154, 0, 24, 29, 5, 112]
abbrev dktX8_character_1 : List UInt8 := dkwX8_character_1 ++ dktX8_character_2
def dkwX8_character_0 : List UInt8 := [27, 133, 9, 10, 184, 0, 99, 153, 0, 18, 28, 133, 9, 42, 27, 182, 0, 103, 133, 184, 0, 99]
abbrev dktX8_character_0 : List UInt8 := dkwX8_character_0 ++ dktX8_character_1
theorem dksX8_character_0 : cX8_character.data.toList.drop 0 = dktX8_character_0 := by decide +kernel
theorem dksX8_character_1 : cX8_character.data.toList.drop 22 = dktX8_character_1 := dk_seg dksX8_character_0 22 rfl rfl
theorem dksX8_character_2 : cX8_character.data.toList.drop 45 = dktX8_character_2 := dk_seg dksX8_character_1 23 rfl rfl
theorem dksX8_character_3 : cX8_character.data.toList.drop 68 = dktX8_character_3 := dk_seg dksX8_character_2 23 rfl rfl
theorem dX8_character_0 : decode cX8_character 0 = .ok (.iload_n 1, 1) := dk_27 (dk_at dksX8_character_0 0 rfl rfl)
theorem dX8_character_1 : decode cX8_character 1 = .ok (.i2l, 1) := dk_133 (dk_at dksX8_character_0 1 rfl rfl)
theorem dX8_character_2 : decode cX8_character 2 = .ok (.lconst 0, 1) := dk_9 (dk_at dksX8_character_0 2 rfl rfl)
theorem dX8_character_3 : decode cX8_character 3 = .ok (.lconst 1, 1) := dk_10 (dk_at dksX8_character_0 3 rfl rfl)
theorem dX8_character_4 : decode cX8_character 4 = .ok (.invokestatic 99, 3) := dk_184 0 99 (dk_at dksX8_character_0 4 rfl rfl)
theorem dX8_character_7 : decode cX8_character 7 = .ok (.ifCond .eq 18, 3) := dk_153 0 18 (dk_at dksX8_character_0 7 rfl rfl)
theorem dX8_character_10 : decode cX8_character 10 = .ok (.iload_n 2, 1) := dk_28 (dk_at dksX8_character_0 10 rfl rfl)
theorem dX8_character_11 : decode cX8_character 11 = .ok (.i2l, 1) := dk_133 (dk_at dksX8_character_0 11 rfl rfl)
theorem dX8_character_12 : decode cX8_character 12 = .ok (.lconst 0, 1) := dk_9 (dk_at dksX8_character_0 12 rfl rfl)
theorem dX8_character_13 : decode cX8_character 13 = .ok (.aload_n 0, 1) := dk_42 (dk_at dksX8_character_0 13 rfl rfl)
theorem dX8_character_14 : decode cX8_character 14 = .ok (.iload_n 1, 1) := dk_27 (dk_at dksX8_character_0 14 rfl rfl)
theorem dX8_character_15 : decode cX8_character 15 = .ok (.invokevirtual 103, 3) := dk_182 0 103 (dk_at dksX8_character_0 15 rfl rfl)
theorem dX8_character_18 : decode cX8_character 18 = .ok (.i2l, 1) := dk_133 (dk_at dksX8_character_0 18 rfl rfl)
theorem dX8_character_19 : decode cX8_character 19 = .ok (.invokestatic 99, 3) := dk_184 0 99 (dk_at dksX8_character_0 19 rfl rfl)
theorem dX8_character_22 : decode cX8_character 22 = .ok (.ifCond .ne 8, 3) := dk_154 0 8 (dk_at dksX8_character_1 0 rfl rfl)
theorem dX8_character_25 : decode cX8_character 25 = .ok (.iconst (-1), 1) := dk_2 (dk_at dksX8_character_1 3 rfl rfl)
theorem dX8_character_26 : decode cX8_character 26 = .ok (.invokestatic 140, 3) := dk_184 0 140 (dk_at dksX8_character_1 4 rfl rfl)
theorem dX8_character_29 : decode cX8_character 29 = .ok (.lreturn, 1) := dk_173 (dk_at dksX8_character_1 7 rfl rfl)
theorem dX8_character_30 : decode cX8_character 30 = .ok (.aload_n 0, 1) := dk_42 (dk_at dksX8_character_1 8 rfl rfl)
theorem dX8_character_31 : decode cX8_character 31 = .ok (.iload_n 1, 1) := dk_27 (dk_at dksX8_character_1 9 rfl rfl)
theorem dX8_character_32 : decode cX8_character 32 = .ok (.invokevirtual 103, 3) := dk_182 0 103 (dk_at dksX8_character_1 10 rfl rfl)
theorem dX8_character_35 : decode cX8_character 35 = .ok (.iload_n 2, 1) := dk_28 (dk_at dksX8_character_1 13 rfl rfl)
theorem dX8_character_36 : decode cX8_character 36 = .ok (.isub, 1) := dk_100 (dk_at dksX8_character_1 14 rfl rfl)
theorem dX8_character_37 : decode cX8_character 37 = .ok (.istore_n 3, 1) := dk_62 (dk_at dksX8_character_1 15 rfl rfl)
theorem dX8_character_38 : decode cX8_character 38 = .ok (.iload_n 2, 1) := dk_28 (dk_at dksX8_character_1 16 rfl rfl)
theorem dX8_character_39 : decode cX8_character 39 = .ok (.ifCond .ne 24, 3) := dk_154 0 24 (dk_at dksX8_character_1 17 rfl rfl)
theorem dX8_character_42 : decode cX8_character 42 = .ok (.iload_n 3, 1) := dk_29 (dk_at dksX8_character_1 20 rfl rfl)
theorem dX8_character_43 : decode cX8_character 43 = .ok (.iconst 2, 1) := dk_5 (dk_at dksX8_character_1 21 rfl rfl)
theorem dX8_character_44 : decode cX8_character 44 = .ok (.irem, 1) := dk_112 (dk_at dksX8_character_1 22 rfl rfl)
theorem dX8_character_45 : decode cX8_character 45 = .ok (.ifCond .ne 11, 3) := dk_154 0 11 (dk_at dksX8_character_2 0 rfl rfl)
theorem dX8_character_48 : decode cX8_character 48 = .ok (.aload_n 0, 1) := dk_42 (dk_at dksX8_character_2 3 rfl rfl)
theorem dX8_character_49 : decode cX8_character 49 = .ok (.iload_n 1, 1) := dk_27 (dk_at dksX8_character_2 4 rfl rfl)
theorem dX8_character_50 : decode cX8_character 50 = .ok (.invokevirtual 136, 3) := dk_182 0 136 (dk_at dksX8_character_2 5 rfl rfl)
theorem dX8_character_53 : decode cX8_character 53 = .ok (.goto 9, 3) := dk_167 0 9 (dk_at dksX8_character_2 8 rfl rfl)
theorem dX8_character_56 : decode cX8_character 56 = .ok (.aload_n 0, 1) := dk_42 (dk_at dksX8_character_2 11 rfl rfl)
theorem dX8_character_57 : decode cX8_character 57 = .ok (.iload_n 1, 1) := dk_27 (dk_at dksX8_character_2 12 rfl rfl)
theorem dX8_character_58 : decode cX8_character 58 = .ok (.invokevirtual 136, 3) := dk_182 0 136 (dk_at dksX8_character_2 13 rfl rfl)
theorem dX8_character_61 : decode cX8_character 61 = .ok (.lneg, 1) := dk_117 (dk_at dksX8_character_2 16 rfl rfl)
theorem dX8_character_62 : decode cX8_character 62 = .ok (.lreturn, 1) := dk_173 (dk_at dksX8_character_2 17 rfl rfl)
theorem dX8_character_63 : decode cX8_character 63 = .ok (.iload_n 3, 1) := dk_29 (dk_at dksX8_character_2 18 rfl rfl)
theorem dX8_character_64 : decode cX8_character 64 = .ok (.ifCond .ne 7, 3) := dk_154 0 7 (dk_at dksX8_character_2 19 rfl rfl)
theorem dX8_character_67 : decode cX8_character 67 = .ok (.lconst 1, 1) := dk_10 (dk_at dksX8_character_2 22 rfl rfl)
theorem dX8_character_68 : decode cX8_character 68 = .ok (.goto 22, 3) := dk_167 0 22 (dk_at dksX8_character_3 0 rfl rfl)
theorem dX8_character_71 : decode cX8_character 71 = .ok (.iload_n 3, 1) := dk_29 (dk_at dksX8_character_3 3 rfl rfl)
theorem dX8_character_72 : decode cX8_character 72 = .ok (.iconst 1, 1) := dk_4 (dk_at dksX8_character_3 4 rfl rfl)
theorem dX8_character_73 : decode cX8_character 73 = .ok (.if_icmp .ne 12, 3) := dk_160 0 12 (dk_at dksX8_character_3 5 rfl rfl)
theorem dX8_character_76 : decode cX8_character 76 = .ok (.aload_n 0, 1) := dk_42 (dk_at dksX8_character_3 8 rfl rfl)
theorem dX8_character_77 : decode cX8_character 77 = .ok (.iload_n 1, 1) := dk_27 (dk_at dksX8_character_3 9 rfl rfl)
theorem dX8_character_78 : decode cX8_character 78 = .ok (.invokevirtual 143, 3) := dk_182 0 143 (dk_at dksX8_character_3 10 rfl rfl)
theorem dX8_character_81 : decode cX8_character 81 = .ok (.lneg, 1) := dk_117 (dk_at dksX8_character_3 13 rfl rfl)
theorem dX8_character_82 : decode cX8_character 82 = .ok (.goto 8, 3) := dk_167 0 8 (dk_at dksX8_character_3 14 rfl rfl)
theorem dX8_character_85 : decode cX8_character 85 = .ok (.aload_n 0, 1) := dk_42 (dk_at dksX8_character_3 17 rfl rfl)
theorem dX8_character_86 : decode cX8_character 86 = .ok (.iload_n 1, 1) := dk_27 (dk_at dksX8_character_3 18 rfl rfl)
theorem dX8_character_87 : decode cX8_character 87 = .ok (.invokevirtual 146, 3) := dk_182 0 146 (dk_at dksX8_character_3 19 rfl rfl)
theorem dX8_character_90 : decode cX8_character 90 = .ok (.lreturn, 1) := dk_173 (dk_at dksX8_character_3 22 rfl rfl)
abbrev cX8_pairs : ByteArray := prog_24_method_17_code
def yX8_pairs : MethodName := ⟨RX8, "pairs", "(I)J"⟩
def dkwX8_pairs_2 : List UInt8 := [132, 5, 1, 167, 255, 227, 132, 4, 1, 167, 255, 205, 32, 173]
abbrev dktX8_pairs_2 : List UInt8 := dkwX8_pairs_2 ++ []
def dkwX8_pairs_1 : List UInt8 := [27, 182, 0, 103, 162, 0, 25, 32, 42, 27, 21, 4, 21, 5, 21, 4, 21, 5, 182, 0, 132, 97, 65]
abbrev dktX8_pairs_1 : List UInt8 := dkwX8_pairs_1 ++ dktX8_pairs_2
def dkwX8_pairs_0 : List UInt8 := [9, 65, 3, 54, 4, 21, 4, 42, 27, 182, 0, 103, 162, 0, 47, 21, 4, 4, 96, 54, 5, 21, 5, 42]
abbrev dktX8_pairs_0 : List UInt8 := dkwX8_pairs_0 ++ dktX8_pairs_1
theorem dksX8_pairs_0 : cX8_pairs.data.toList.drop 0 = dktX8_pairs_0 := by decide +kernel
theorem dksX8_pairs_1 : cX8_pairs.data.toList.drop 24 = dktX8_pairs_1 := dk_seg dksX8_pairs_0 24 rfl rfl
theorem dksX8_pairs_2 : cX8_pairs.data.toList.drop 47 = dktX8_pairs_2 := dk_seg dksX8_pairs_1 23 rfl rfl
theorem dX8_pairs_0 : decode cX8_pairs 0 = .ok (.lconst 0, 1) := dk_9 (dk_at dksX8_pairs_0 0 rfl rfl)
theorem dX8_pairs_1 : decode cX8_pairs 1 = .ok (.lstore_n 2, 1) := dk_65 (dk_at dksX8_pairs_0 1 rfl rfl)
theorem dX8_pairs_2 : decode cX8_pairs 2 = .ok (.iconst 0, 1) := dk_3 (dk_at dksX8_pairs_0 2 rfl rfl)
theorem dX8_pairs_3 : decode cX8_pairs 3 = .ok (.istore 4, 2) := dk_54 4 (dk_at dksX8_pairs_0 3 rfl rfl)
theorem dX8_pairs_5 : decode cX8_pairs 5 = .ok (.iload 4, 2) := dk_21 4 (dk_at dksX8_pairs_0 5 rfl rfl)
theorem dX8_pairs_7 : decode cX8_pairs 7 = .ok (.aload_n 0, 1) := dk_42 (dk_at dksX8_pairs_0 7 rfl rfl)
theorem dX8_pairs_8 : decode cX8_pairs 8 = .ok (.iload_n 1, 1) := dk_27 (dk_at dksX8_pairs_0 8 rfl rfl)
theorem dX8_pairs_9 : decode cX8_pairs 9 = .ok (.invokevirtual 103, 3) := dk_182 0 103 (dk_at dksX8_pairs_0 9 rfl rfl)
theorem dX8_pairs_12 : decode cX8_pairs 12 = .ok (.if_icmp .ge 47, 3) := dk_162 0 47 (dk_at dksX8_pairs_0 12 rfl rfl)
theorem dX8_pairs_15 : decode cX8_pairs 15 = .ok (.iload 4, 2) := dk_21 4 (dk_at dksX8_pairs_0 15 rfl rfl)
theorem dX8_pairs_17 : decode cX8_pairs 17 = .ok (.iconst 1, 1) := dk_4 (dk_at dksX8_pairs_0 17 rfl rfl)
theorem dX8_pairs_18 : decode cX8_pairs 18 = .ok (.iadd, 1) := dk_96 (dk_at dksX8_pairs_0 18 rfl rfl)
theorem dX8_pairs_19 : decode cX8_pairs 19 = .ok (.istore 5, 2) := dk_54 5 (dk_at dksX8_pairs_0 19 rfl rfl)
theorem dX8_pairs_21 : decode cX8_pairs 21 = .ok (.iload 5, 2) := dk_21 5 (dk_at dksX8_pairs_0 21 rfl rfl)
theorem dX8_pairs_23 : decode cX8_pairs 23 = .ok (.aload_n 0, 1) := dk_42 (dk_at dksX8_pairs_0 23 rfl rfl)
theorem dX8_pairs_24 : decode cX8_pairs 24 = .ok (.iload_n 1, 1) := dk_27 (dk_at dksX8_pairs_1 0 rfl rfl)
theorem dX8_pairs_25 : decode cX8_pairs 25 = .ok (.invokevirtual 103, 3) := dk_182 0 103 (dk_at dksX8_pairs_1 1 rfl rfl)
theorem dX8_pairs_28 : decode cX8_pairs 28 = .ok (.if_icmp .ge 25, 3) := dk_162 0 25 (dk_at dksX8_pairs_1 4 rfl rfl)
theorem dX8_pairs_31 : decode cX8_pairs 31 = .ok (.lload_n 2, 1) := dk_32 (dk_at dksX8_pairs_1 7 rfl rfl)
theorem dX8_pairs_32 : decode cX8_pairs 32 = .ok (.aload_n 0, 1) := dk_42 (dk_at dksX8_pairs_1 8 rfl rfl)
theorem dX8_pairs_33 : decode cX8_pairs 33 = .ok (.iload_n 1, 1) := dk_27 (dk_at dksX8_pairs_1 9 rfl rfl)
theorem dX8_pairs_34 : decode cX8_pairs 34 = .ok (.iload 4, 2) := dk_21 4 (dk_at dksX8_pairs_1 10 rfl rfl)
theorem dX8_pairs_36 : decode cX8_pairs 36 = .ok (.iload 5, 2) := dk_21 5 (dk_at dksX8_pairs_1 12 rfl rfl)
theorem dX8_pairs_38 : decode cX8_pairs 38 = .ok (.iload 4, 2) := dk_21 4 (dk_at dksX8_pairs_1 14 rfl rfl)
theorem dX8_pairs_40 : decode cX8_pairs 40 = .ok (.iload 5, 2) := dk_21 5 (dk_at dksX8_pairs_1 16 rfl rfl)
theorem dX8_pairs_42 : decode cX8_pairs 42 = .ok (.invokevirtual 132, 3) := dk_182 0 132 (dk_at dksX8_pairs_1 18 rfl rfl)
theorem dX8_pairs_45 : decode cX8_pairs 45 = .ok (.ladd, 1) := dk_97 (dk_at dksX8_pairs_1 21 rfl rfl)
theorem dX8_pairs_46 : decode cX8_pairs 46 = .ok (.lstore_n 2, 1) := dk_65 (dk_at dksX8_pairs_1 22 rfl rfl)
theorem dX8_pairs_47 : decode cX8_pairs 47 = .ok (.iinc 5 1, 3) := dk_132 5 1 (dk_at dksX8_pairs_2 0 rfl rfl)
theorem dX8_pairs_50 : decode cX8_pairs 50 = .ok (.goto (-29), 3) := dk_167 255 227 (dk_at dksX8_pairs_2 3 rfl rfl)
theorem dX8_pairs_53 : decode cX8_pairs 53 = .ok (.iinc 4 1, 3) := dk_132 4 1 (dk_at dksX8_pairs_2 6 rfl rfl)
theorem dX8_pairs_56 : decode cX8_pairs 56 = .ok (.goto (-51), 3) := dk_167 255 205 (dk_at dksX8_pairs_2 9 rfl rfl)
theorem dX8_pairs_59 : decode cX8_pairs 59 = .ok (.lload_n 2, 1) := dk_32 (dk_at dksX8_pairs_2 12 rfl rfl)
theorem dX8_pairs_60 : decode cX8_pairs 60 = .ok (.lreturn, 1) := dk_173 (dk_at dksX8_pairs_2 13 rfl rfl)
abbrev cX8_feed : ByteArray := prog_24_method_21_code
def yX8_feed : MethodName := ⟨RX8, "feed", "(JI)I"⟩
def dkwX8_feed_3 : List UInt8 := [167, 255, 219, 42, 180, 0, 151, 172]
abbrev dktX8_feed_3 : List UInt8 := dkwX8_feed_3 ++ []
def dkwX8_feed_2 : List UInt8 := [16, 8, 21, 4, 104, 125, 136, 145, 84, 42, 89, 180, 0, 151, 4, 96, 181, 0, 151, 132, 4, 1]
abbrev dktX8_feed_2 : List UInt8 := dkwX8_feed_2 ++ dktX8_feed_3
def dkwX8_feed_1 : List UInt8 := [164, 0, 6, 16, 254, 172, 3, 54, 4, 21, 4, 29, 162, 0, 37, 42, 180, 0, 41, 42, 180, 0, 151, 31]
abbrev dktX8_feed_1 : List UInt8 := dkwX8_feed_1 ++ dktX8_feed_2
def dkwX8_feed_0 : List UInt8 := [29, 133, 10, 20, 0, 149, 184, 0, 99, 154, 0, 5, 2, 172, 42, 180, 0, 151, 29, 96, 17, 0, 200]
abbrev dktX8_feed_0 : List UInt8 := dkwX8_feed_0 ++ dktX8_feed_1
theorem dksX8_feed_0 : cX8_feed.data.toList.drop 0 = dktX8_feed_0 := by decide +kernel
theorem dksX8_feed_1 : cX8_feed.data.toList.drop 23 = dktX8_feed_1 := dk_seg dksX8_feed_0 23 rfl rfl
theorem dksX8_feed_2 : cX8_feed.data.toList.drop 47 = dktX8_feed_2 := dk_seg dksX8_feed_1 24 rfl rfl
theorem dksX8_feed_3 : cX8_feed.data.toList.drop 69 = dktX8_feed_3 := dk_seg dksX8_feed_2 22 rfl rfl
theorem dX8_feed_0 : decode cX8_feed 0 = .ok (.iload_n 3, 1) := dk_29 (dk_at dksX8_feed_0 0 rfl rfl)
theorem dX8_feed_1 : decode cX8_feed 1 = .ok (.i2l, 1) := dk_133 (dk_at dksX8_feed_0 1 rfl rfl)
theorem dX8_feed_2 : decode cX8_feed 2 = .ok (.lconst 1, 1) := dk_10 (dk_at dksX8_feed_0 2 rfl rfl)
theorem dX8_feed_3 : decode cX8_feed 3 = .ok (.ldc2_w 149, 3) := dk_20 0 149 (dk_at dksX8_feed_0 3 rfl rfl)
theorem dX8_feed_6 : decode cX8_feed 6 = .ok (.invokestatic 99, 3) := dk_184 0 99 (dk_at dksX8_feed_0 6 rfl rfl)
theorem dX8_feed_9 : decode cX8_feed 9 = .ok (.ifCond .ne 5, 3) := dk_154 0 5 (dk_at dksX8_feed_0 9 rfl rfl)
theorem dX8_feed_12 : decode cX8_feed 12 = .ok (.iconst (-1), 1) := dk_2 (dk_at dksX8_feed_0 12 rfl rfl)
theorem dX8_feed_13 : decode cX8_feed 13 = .ok (.ireturn, 1) := dk_172 (dk_at dksX8_feed_0 13 rfl rfl)
theorem dX8_feed_14 : decode cX8_feed 14 = .ok (.aload_n 0, 1) := dk_42 (dk_at dksX8_feed_0 14 rfl rfl)
theorem dX8_feed_15 : decode cX8_feed 15 = .ok (.getfield 151, 3) := dk_180 0 151 (dk_at dksX8_feed_0 15 rfl rfl)
theorem dX8_feed_18 : decode cX8_feed 18 = .ok (.iload_n 3, 1) := dk_29 (dk_at dksX8_feed_0 18 rfl rfl)
theorem dX8_feed_19 : decode cX8_feed 19 = .ok (.iadd, 1) := dk_96 (dk_at dksX8_feed_0 19 rfl rfl)
theorem dX8_feed_20 : decode cX8_feed 20 = .ok (.sipush 200, 3) := dk_17 0 200 (dk_at dksX8_feed_0 20 rfl rfl)
theorem dX8_feed_23 : decode cX8_feed 23 = .ok (.if_icmp .le 6, 3) := dk_164 0 6 (dk_at dksX8_feed_1 0 rfl rfl)
theorem dX8_feed_26 : decode cX8_feed 26 = .ok (.bipush (-2), 2) := dk_16 254 (dk_at dksX8_feed_1 3 rfl rfl)
theorem dX8_feed_28 : decode cX8_feed 28 = .ok (.ireturn, 1) := dk_172 (dk_at dksX8_feed_1 5 rfl rfl)
theorem dX8_feed_29 : decode cX8_feed 29 = .ok (.iconst 0, 1) := dk_3 (dk_at dksX8_feed_1 6 rfl rfl)
theorem dX8_feed_30 : decode cX8_feed 30 = .ok (.istore 4, 2) := dk_54 4 (dk_at dksX8_feed_1 7 rfl rfl)
theorem dX8_feed_32 : decode cX8_feed 32 = .ok (.iload 4, 2) := dk_21 4 (dk_at dksX8_feed_1 9 rfl rfl)
theorem dX8_feed_34 : decode cX8_feed 34 = .ok (.iload_n 3, 1) := dk_29 (dk_at dksX8_feed_1 11 rfl rfl)
theorem dX8_feed_35 : decode cX8_feed 35 = .ok (.if_icmp .ge 37, 3) := dk_162 0 37 (dk_at dksX8_feed_1 12 rfl rfl)
theorem dX8_feed_38 : decode cX8_feed 38 = .ok (.aload_n 0, 1) := dk_42 (dk_at dksX8_feed_1 15 rfl rfl)
theorem dX8_feed_39 : decode cX8_feed 39 = .ok (.getfield 41, 3) := dk_180 0 41 (dk_at dksX8_feed_1 16 rfl rfl)
theorem dX8_feed_42 : decode cX8_feed 42 = .ok (.aload_n 0, 1) := dk_42 (dk_at dksX8_feed_1 19 rfl rfl)
theorem dX8_feed_43 : decode cX8_feed 43 = .ok (.getfield 151, 3) := dk_180 0 151 (dk_at dksX8_feed_1 20 rfl rfl)
theorem dX8_feed_46 : decode cX8_feed 46 = .ok (.lload_n 1, 1) := dk_31 (dk_at dksX8_feed_1 23 rfl rfl)
theorem dX8_feed_47 : decode cX8_feed 47 = .ok (.bipush 8, 2) := dk_16 8 (dk_at dksX8_feed_2 0 rfl rfl)
theorem dX8_feed_49 : decode cX8_feed 49 = .ok (.iload 4, 2) := dk_21 4 (dk_at dksX8_feed_2 2 rfl rfl)
theorem dX8_feed_51 : decode cX8_feed 51 = .ok (.imul, 1) := dk_104 (dk_at dksX8_feed_2 4 rfl rfl)
theorem dX8_feed_52 : decode cX8_feed 52 = .ok (.lushr, 1) := dk_125 (dk_at dksX8_feed_2 5 rfl rfl)
theorem dX8_feed_53 : decode cX8_feed 53 = .ok (.l2i, 1) := dk_136 (dk_at dksX8_feed_2 6 rfl rfl)
theorem dX8_feed_54 : decode cX8_feed 54 = .ok (.i2b, 1) := dk_145 (dk_at dksX8_feed_2 7 rfl rfl)
theorem dX8_feed_55 : decode cX8_feed 55 = .ok (.bastore, 1) := dk_84 (dk_at dksX8_feed_2 8 rfl rfl)
theorem dX8_feed_56 : decode cX8_feed 56 = .ok (.aload_n 0, 1) := dk_42 (dk_at dksX8_feed_2 9 rfl rfl)
theorem dX8_feed_57 : decode cX8_feed 57 = .ok (.dup, 1) := dk_89 (dk_at dksX8_feed_2 10 rfl rfl)
theorem dX8_feed_58 : decode cX8_feed 58 = .ok (.getfield 151, 3) := dk_180 0 151 (dk_at dksX8_feed_2 11 rfl rfl)
theorem dX8_feed_61 : decode cX8_feed 61 = .ok (.iconst 1, 1) := dk_4 (dk_at dksX8_feed_2 14 rfl rfl)
theorem dX8_feed_62 : decode cX8_feed 62 = .ok (.iadd, 1) := dk_96 (dk_at dksX8_feed_2 15 rfl rfl)
theorem dX8_feed_63 : decode cX8_feed 63 = .ok (.putfield 151, 3) := dk_181 0 151 (dk_at dksX8_feed_2 16 rfl rfl)
theorem dX8_feed_66 : decode cX8_feed 66 = .ok (.iinc 4 1, 3) := dk_132 4 1 (dk_at dksX8_feed_2 19 rfl rfl)
theorem dX8_feed_69 : decode cX8_feed 69 = .ok (.goto (-37), 3) := dk_167 255 219 (dk_at dksX8_feed_3 0 rfl rfl)
theorem dX8_feed_72 : decode cX8_feed 72 = .ok (.aload_n 0, 1) := dk_42 (dk_at dksX8_feed_3 3 rfl rfl)
theorem dX8_feed_73 : decode cX8_feed 73 = .ok (.getfield 151, 3) := dk_180 0 151 (dk_at dksX8_feed_3 4 rfl rfl)
theorem dX8_feed_76 : decode cX8_feed 76 = .ok (.ireturn, 1) := dk_172 (dk_at dksX8_feed_3 7 rfl rfl)
abbrev cX8_text : ByteArray := prog_24_method_30_code
def yX8_text : MethodName := ⟨RX8, "text", "()I"⟩
def dkwX8_text_3 : List UInt8 := [180, 0, 183, 172, 42, 42, 180, 0, 16, 42, 180, 0, 7, 182, 0, 186, 16, 156, 42, 180, 0, 167, 100, 172]
abbrev dktX8_text_3 : List UInt8 := dkwX8_text_3 ++ []
def dkwX8_text_2 : List UInt8 := [162, 0, 10, 42, 182, 0, 190, 167, 255, 234, 42, 3, 181, 0, 151, 42, 180, 0, 167, 156, 0, 8, 42]
abbrev dktX8_text_2 : List UInt8 := dkwX8_text_2 ++ dktX8_text_3
def dkwX8_text_1 : List UInt8 := [181, 0, 183, 42, 182, 0, 173, 42, 180, 0, 167, 156, 0, 21, 42, 180, 0, 157, 42, 180, 0, 151]
abbrev dktX8_text_1 : List UInt8 := dkwX8_text_1 ++ dktX8_text_2
def dkwX8_text_0 : List UInt8 := [42, 42, 180, 0, 7, 42, 180, 0, 16, 182, 0, 186, 42, 3, 181, 0, 154, 42, 2, 181, 0, 167, 42, 3]
abbrev dktX8_text_0 : List UInt8 := dkwX8_text_0 ++ dktX8_text_1
theorem dksX8_text_0 : cX8_text.data.toList.drop 0 = dktX8_text_0 := by decide +kernel
theorem dksX8_text_1 : cX8_text.data.toList.drop 24 = dktX8_text_1 := dk_seg dksX8_text_0 24 rfl rfl
theorem dksX8_text_2 : cX8_text.data.toList.drop 46 = dktX8_text_2 := dk_seg dksX8_text_1 22 rfl rfl
theorem dksX8_text_3 : cX8_text.data.toList.drop 69 = dktX8_text_3 := dk_seg dksX8_text_2 23 rfl rfl
theorem dX8_text_0 : decode cX8_text 0 = .ok (.aload_n 0, 1) := dk_42 (dk_at dksX8_text_0 0 rfl rfl)
theorem dX8_text_1 : decode cX8_text 1 = .ok (.aload_n 0, 1) := dk_42 (dk_at dksX8_text_0 1 rfl rfl)
theorem dX8_text_2 : decode cX8_text 2 = .ok (.getfield 7, 3) := dk_180 0 7 (dk_at dksX8_text_0 2 rfl rfl)
theorem dX8_text_5 : decode cX8_text 5 = .ok (.aload_n 0, 1) := dk_42 (dk_at dksX8_text_0 5 rfl rfl)
theorem dX8_text_6 : decode cX8_text 6 = .ok (.getfield 16, 3) := dk_180 0 16 (dk_at dksX8_text_0 6 rfl rfl)
theorem dX8_text_9 : decode cX8_text 9 = .ok (.invokevirtual 186, 3) := dk_182 0 186 (dk_at dksX8_text_0 9 rfl rfl)
theorem dX8_text_12 : decode cX8_text 12 = .ok (.aload_n 0, 1) := dk_42 (dk_at dksX8_text_0 12 rfl rfl)
theorem dX8_text_13 : decode cX8_text 13 = .ok (.iconst 0, 1) := dk_3 (dk_at dksX8_text_0 13 rfl rfl)
theorem dX8_text_14 : decode cX8_text 14 = .ok (.putfield 154, 3) := dk_181 0 154 (dk_at dksX8_text_0 14 rfl rfl)
theorem dX8_text_17 : decode cX8_text 17 = .ok (.aload_n 0, 1) := dk_42 (dk_at dksX8_text_0 17 rfl rfl)
theorem dX8_text_18 : decode cX8_text 18 = .ok (.iconst (-1), 1) := dk_2 (dk_at dksX8_text_0 18 rfl rfl)
theorem dX8_text_19 : decode cX8_text 19 = .ok (.putfield 167, 3) := dk_181 0 167 (dk_at dksX8_text_0 19 rfl rfl)
theorem dX8_text_22 : decode cX8_text 22 = .ok (.aload_n 0, 1) := dk_42 (dk_at dksX8_text_0 22 rfl rfl)
theorem dX8_text_23 : decode cX8_text 23 = .ok (.iconst 0, 1) := dk_3 (dk_at dksX8_text_0 23 rfl rfl)
theorem dX8_text_24 : decode cX8_text 24 = .ok (.putfield 183, 3) := dk_181 0 183 (dk_at dksX8_text_1 0 rfl rfl)
theorem dX8_text_27 : decode cX8_text 27 = .ok (.aload_n 0, 1) := dk_42 (dk_at dksX8_text_1 3 rfl rfl)
theorem dX8_text_28 : decode cX8_text 28 = .ok (.invokevirtual 173, 3) := dk_182 0 173 (dk_at dksX8_text_1 4 rfl rfl)
theorem dX8_text_31 : decode cX8_text 31 = .ok (.aload_n 0, 1) := dk_42 (dk_at dksX8_text_1 7 rfl rfl)
theorem dX8_text_32 : decode cX8_text 32 = .ok (.getfield 167, 3) := dk_180 0 167 (dk_at dksX8_text_1 8 rfl rfl)
theorem dX8_text_35 : decode cX8_text 35 = .ok (.ifCond .ge 21, 3) := dk_156 0 21 (dk_at dksX8_text_1 11 rfl rfl)
theorem dX8_text_38 : decode cX8_text 38 = .ok (.aload_n 0, 1) := dk_42 (dk_at dksX8_text_1 14 rfl rfl)
theorem dX8_text_39 : decode cX8_text 39 = .ok (.getfield 157, 3) := dk_180 0 157 (dk_at dksX8_text_1 15 rfl rfl)
theorem dX8_text_42 : decode cX8_text 42 = .ok (.aload_n 0, 1) := dk_42 (dk_at dksX8_text_1 18 rfl rfl)
theorem dX8_text_43 : decode cX8_text 43 = .ok (.getfield 151, 3) := dk_180 0 151 (dk_at dksX8_text_1 19 rfl rfl)
theorem dX8_text_46 : decode cX8_text 46 = .ok (.if_icmp .ge 10, 3) := dk_162 0 10 (dk_at dksX8_text_2 0 rfl rfl)
theorem dX8_text_49 : decode cX8_text 49 = .ok (.aload_n 0, 1) := dk_42 (dk_at dksX8_text_2 3 rfl rfl)
theorem dX8_text_50 : decode cX8_text 50 = .ok (.invokevirtual 190, 3) := dk_182 0 190 (dk_at dksX8_text_2 4 rfl rfl)
theorem dX8_text_53 : decode cX8_text 53 = .ok (.goto (-22), 3) := dk_167 255 234 (dk_at dksX8_text_2 7 rfl rfl)
theorem dX8_text_56 : decode cX8_text 56 = .ok (.aload_n 0, 1) := dk_42 (dk_at dksX8_text_2 10 rfl rfl)
theorem dX8_text_57 : decode cX8_text 57 = .ok (.iconst 0, 1) := dk_3 (dk_at dksX8_text_2 11 rfl rfl)
theorem dX8_text_58 : decode cX8_text 58 = .ok (.putfield 151, 3) := dk_181 0 151 (dk_at dksX8_text_2 12 rfl rfl)
theorem dX8_text_61 : decode cX8_text 61 = .ok (.aload_n 0, 1) := dk_42 (dk_at dksX8_text_2 15 rfl rfl)
theorem dX8_text_62 : decode cX8_text 62 = .ok (.getfield 167, 3) := dk_180 0 167 (dk_at dksX8_text_2 16 rfl rfl)
theorem dX8_text_65 : decode cX8_text 65 = .ok (.ifCond .ge 8, 3) := dk_156 0 8 (dk_at dksX8_text_2 19 rfl rfl)
theorem dX8_text_68 : decode cX8_text 68 = .ok (.aload_n 0, 1) := dk_42 (dk_at dksX8_text_2 22 rfl rfl)
theorem dX8_text_69 : decode cX8_text 69 = .ok (.getfield 183, 3) := dk_180 0 183 (dk_at dksX8_text_3 0 rfl rfl)
theorem dX8_text_72 : decode cX8_text 72 = .ok (.ireturn, 1) := dk_172 (dk_at dksX8_text_3 3 rfl rfl)
theorem dX8_text_73 : decode cX8_text 73 = .ok (.aload_n 0, 1) := dk_42 (dk_at dksX8_text_3 4 rfl rfl)
theorem dX8_text_74 : decode cX8_text 74 = .ok (.aload_n 0, 1) := dk_42 (dk_at dksX8_text_3 5 rfl rfl)
theorem dX8_text_75 : decode cX8_text 75 = .ok (.getfield 16, 3) := dk_180 0 16 (dk_at dksX8_text_3 6 rfl rfl)
theorem dX8_text_78 : decode cX8_text 78 = .ok (.aload_n 0, 1) := dk_42 (dk_at dksX8_text_3 9 rfl rfl)
theorem dX8_text_79 : decode cX8_text 79 = .ok (.getfield 7, 3) := dk_180 0 7 (dk_at dksX8_text_3 10 rfl rfl)
theorem dX8_text_82 : decode cX8_text 82 = .ok (.invokevirtual 186, 3) := dk_182 0 186 (dk_at dksX8_text_3 13 rfl rfl)
theorem dX8_text_85 : decode cX8_text 85 = .ok (.bipush (-100), 2) := dk_16 156 (dk_at dksX8_text_3 16 rfl rfl)
theorem dX8_text_87 : decode cX8_text 87 = .ok (.aload_n 0, 1) := dk_42 (dk_at dksX8_text_3 18 rfl rfl)
theorem dX8_text_88 : decode cX8_text 88 = .ok (.getfield 167, 3) := dk_180 0 167 (dk_at dksX8_text_3 19 rfl rfl)
theorem dX8_text_91 : decode cX8_text 91 = .ok (.isub, 1) := dk_100 (dk_at dksX8_text_3 22 rfl rfl)
theorem dX8_text_92 : decode cX8_text 92 = .ok (.ireturn, 1) := dk_172 (dk_at dksX8_text_3 23 rfl rfl)
abbrev cX8_saves : ByteArray := prog_24_method_29_code
def yX8_saves : MethodName := ⟨RX8, "saves", "([I[I)V"⟩
def dkwX8_saves_0 : List UInt8 := [3, 62, 29, 16, 27, 162, 0, 15, 44, 29, 43, 29, 46, 79, 132, 3, 1, 167, 255, 241, 177]
abbrev dktX8_saves_0 : List UInt8 := dkwX8_saves_0 ++ []
theorem dksX8_saves_0 : cX8_saves.data.toList.drop 0 = dktX8_saves_0 := by decide +kernel
theorem dX8_saves_0 : decode cX8_saves 0 = .ok (.iconst 0, 1) := dk_3 (dk_at dksX8_saves_0 0 rfl rfl)
theorem dX8_saves_1 : decode cX8_saves 1 = .ok (.istore_n 3, 1) := dk_62 (dk_at dksX8_saves_0 1 rfl rfl)
theorem dX8_saves_2 : decode cX8_saves 2 = .ok (.iload_n 3, 1) := dk_29 (dk_at dksX8_saves_0 2 rfl rfl)
theorem dX8_saves_3 : decode cX8_saves 3 = .ok (.bipush 27, 2) := dk_16 27 (dk_at dksX8_saves_0 3 rfl rfl)
theorem dX8_saves_5 : decode cX8_saves 5 = .ok (.if_icmp .ge 15, 3) := dk_162 0 15 (dk_at dksX8_saves_0 5 rfl rfl)
theorem dX8_saves_8 : decode cX8_saves 8 = .ok (.aload_n 2, 1) := dk_44 (dk_at dksX8_saves_0 8 rfl rfl)
theorem dX8_saves_9 : decode cX8_saves 9 = .ok (.iload_n 3, 1) := dk_29 (dk_at dksX8_saves_0 9 rfl rfl)
theorem dX8_saves_10 : decode cX8_saves 10 = .ok (.aload_n 1, 1) := dk_43 (dk_at dksX8_saves_0 10 rfl rfl)
theorem dX8_saves_11 : decode cX8_saves 11 = .ok (.iload_n 3, 1) := dk_29 (dk_at dksX8_saves_0 11 rfl rfl)
theorem dX8_saves_12 : decode cX8_saves 12 = .ok (.iaload, 1) := dk_46 (dk_at dksX8_saves_0 12 rfl rfl)
theorem dX8_saves_13 : decode cX8_saves 13 = .ok (.iastore, 1) := dk_79 (dk_at dksX8_saves_0 13 rfl rfl)
theorem dX8_saves_14 : decode cX8_saves 14 = .ok (.iinc 3 1, 3) := dk_132 3 1 (dk_at dksX8_saves_0 14 rfl rfl)
theorem dX8_saves_17 : decode cX8_saves 17 = .ok (.goto (-15), 3) := dk_167 255 241 (dk_at dksX8_saves_0 17 rfl rfl)
theorem dX8_saves_20 : decode cX8_saves 20 = .ok (.return_, 1) := dk_177 (dk_at dksX8_saves_0 20 rfl rfl)
abbrev cX8_next : ByteArray := prog_24_method_24_code
def yX8_next : MethodName := ⟨RX8, "next", "()V"⟩
def dkwX8_next_6 : List UInt8 := [180, 0, 154, 51, 184, 0, 164, 153, 0, 16, 42, 89, 180, 0, 154, 4, 96, 181, 0, 154, 167, 255, 197, 177]
abbrev dktX8_next_6 : List UInt8 := dkwX8_next_6 ++ []
def dkwX8_next_5 : List UInt8 := [180, 0, 41, 42, 180, 0, 154, 51, 184, 0, 160, 154, 0, 22, 28, 153, 0, 31, 42, 180, 0, 41, 42]
abbrev dktX8_next_5 : List UInt8 := dkwX8_next_5 ++ dktX8_next_6
def dkwX8_next_4 : List UInt8 := [180, 0, 157, 51, 184, 0, 164, 61, 42, 180, 0, 154, 42, 180, 0, 151, 162, 0, 54, 27, 153, 0, 18, 42]
abbrev dktX8_next_4 : List UInt8 := dkwX8_next_4 ++ dktX8_next_5
def dkwX8_next_3 : List UInt8 := [96, 181, 0, 154, 42, 180, 0, 41, 42, 180, 0, 157, 51, 184, 0, 160, 60, 42, 180, 0, 41, 42]
abbrev dktX8_next_3 : List UInt8 := dkwX8_next_3 ++ dktX8_next_4
def dkwX8_next_2 : List UInt8 := [180, 0, 157, 181, 0, 154, 42, 180, 0, 157, 42, 180, 0, 151, 160, 0, 4, 177, 42, 89, 180, 0, 154, 4]
abbrev dktX8_next_2 : List UInt8 := dkwX8_next_2 ++ dktX8_next_3
def dkwX8_next_1 : List UInt8 := [180, 0, 157, 51, 16, 32, 160, 0, 16, 42, 89, 180, 0, 157, 4, 96, 181, 0, 157, 167, 255, 221, 42, 42]
abbrev dktX8_next_1 : List UInt8 := dkwX8_next_1 ++ dktX8_next_2
def dkwX8_next_0 : List UInt8 := [42, 42, 180, 0, 154, 181, 0, 157, 42, 180, 0, 157, 42, 180, 0, 151, 162, 0, 30, 42, 180, 0, 41, 42]
abbrev dktX8_next_0 : List UInt8 := dkwX8_next_0 ++ dktX8_next_1
theorem dksX8_next_0 : cX8_next.data.toList.drop 0 = dktX8_next_0 := by decide +kernel
theorem dksX8_next_1 : cX8_next.data.toList.drop 24 = dktX8_next_1 := dk_seg dksX8_next_0 24 rfl rfl
theorem dksX8_next_2 : cX8_next.data.toList.drop 48 = dktX8_next_2 := dk_seg dksX8_next_1 24 rfl rfl
theorem dksX8_next_3 : cX8_next.data.toList.drop 72 = dktX8_next_3 := dk_seg dksX8_next_2 24 rfl rfl
theorem dksX8_next_4 : cX8_next.data.toList.drop 94 = dktX8_next_4 := dk_seg dksX8_next_3 22 rfl rfl
theorem dksX8_next_5 : cX8_next.data.toList.drop 118 = dktX8_next_5 := dk_seg dksX8_next_4 24 rfl rfl
theorem dksX8_next_6 : cX8_next.data.toList.drop 141 = dktX8_next_6 := dk_seg dksX8_next_5 23 rfl rfl
theorem dX8_next_0 : decode cX8_next 0 = .ok (.aload_n 0, 1) := dk_42 (dk_at dksX8_next_0 0 rfl rfl)
theorem dX8_next_1 : decode cX8_next 1 = .ok (.aload_n 0, 1) := dk_42 (dk_at dksX8_next_0 1 rfl rfl)
theorem dX8_next_2 : decode cX8_next 2 = .ok (.getfield 154, 3) := dk_180 0 154 (dk_at dksX8_next_0 2 rfl rfl)
theorem dX8_next_5 : decode cX8_next 5 = .ok (.putfield 157, 3) := dk_181 0 157 (dk_at dksX8_next_0 5 rfl rfl)
theorem dX8_next_8 : decode cX8_next 8 = .ok (.aload_n 0, 1) := dk_42 (dk_at dksX8_next_0 8 rfl rfl)
theorem dX8_next_9 : decode cX8_next 9 = .ok (.getfield 157, 3) := dk_180 0 157 (dk_at dksX8_next_0 9 rfl rfl)
theorem dX8_next_12 : decode cX8_next 12 = .ok (.aload_n 0, 1) := dk_42 (dk_at dksX8_next_0 12 rfl rfl)
theorem dX8_next_13 : decode cX8_next 13 = .ok (.getfield 151, 3) := dk_180 0 151 (dk_at dksX8_next_0 13 rfl rfl)
theorem dX8_next_16 : decode cX8_next 16 = .ok (.if_icmp .ge 30, 3) := dk_162 0 30 (dk_at dksX8_next_0 16 rfl rfl)
theorem dX8_next_19 : decode cX8_next 19 = .ok (.aload_n 0, 1) := dk_42 (dk_at dksX8_next_0 19 rfl rfl)
theorem dX8_next_20 : decode cX8_next 20 = .ok (.getfield 41, 3) := dk_180 0 41 (dk_at dksX8_next_0 20 rfl rfl)
theorem dX8_next_23 : decode cX8_next 23 = .ok (.aload_n 0, 1) := dk_42 (dk_at dksX8_next_0 23 rfl rfl)
theorem dX8_next_24 : decode cX8_next 24 = .ok (.getfield 157, 3) := dk_180 0 157 (dk_at dksX8_next_1 0 rfl rfl)
theorem dX8_next_27 : decode cX8_next 27 = .ok (.baload, 1) := dk_51 (dk_at dksX8_next_1 3 rfl rfl)
theorem dX8_next_28 : decode cX8_next 28 = .ok (.bipush 32, 2) := dk_16 32 (dk_at dksX8_next_1 4 rfl rfl)
theorem dX8_next_30 : decode cX8_next 30 = .ok (.if_icmp .ne 16, 3) := dk_160 0 16 (dk_at dksX8_next_1 6 rfl rfl)
theorem dX8_next_33 : decode cX8_next 33 = .ok (.aload_n 0, 1) := dk_42 (dk_at dksX8_next_1 9 rfl rfl)
theorem dX8_next_34 : decode cX8_next 34 = .ok (.dup, 1) := dk_89 (dk_at dksX8_next_1 10 rfl rfl)
theorem dX8_next_35 : decode cX8_next 35 = .ok (.getfield 157, 3) := dk_180 0 157 (dk_at dksX8_next_1 11 rfl rfl)
theorem dX8_next_38 : decode cX8_next 38 = .ok (.iconst 1, 1) := dk_4 (dk_at dksX8_next_1 14 rfl rfl)
theorem dX8_next_39 : decode cX8_next 39 = .ok (.iadd, 1) := dk_96 (dk_at dksX8_next_1 15 rfl rfl)
theorem dX8_next_40 : decode cX8_next 40 = .ok (.putfield 157, 3) := dk_181 0 157 (dk_at dksX8_next_1 16 rfl rfl)
theorem dX8_next_43 : decode cX8_next 43 = .ok (.goto (-35), 3) := dk_167 255 221 (dk_at dksX8_next_1 19 rfl rfl)
theorem dX8_next_46 : decode cX8_next 46 = .ok (.aload_n 0, 1) := dk_42 (dk_at dksX8_next_1 22 rfl rfl)
theorem dX8_next_47 : decode cX8_next 47 = .ok (.aload_n 0, 1) := dk_42 (dk_at dksX8_next_1 23 rfl rfl)
theorem dX8_next_48 : decode cX8_next 48 = .ok (.getfield 157, 3) := dk_180 0 157 (dk_at dksX8_next_2 0 rfl rfl)
theorem dX8_next_51 : decode cX8_next 51 = .ok (.putfield 154, 3) := dk_181 0 154 (dk_at dksX8_next_2 3 rfl rfl)
theorem dX8_next_54 : decode cX8_next 54 = .ok (.aload_n 0, 1) := dk_42 (dk_at dksX8_next_2 6 rfl rfl)
theorem dX8_next_55 : decode cX8_next 55 = .ok (.getfield 157, 3) := dk_180 0 157 (dk_at dksX8_next_2 7 rfl rfl)
theorem dX8_next_58 : decode cX8_next 58 = .ok (.aload_n 0, 1) := dk_42 (dk_at dksX8_next_2 10 rfl rfl)
theorem dX8_next_59 : decode cX8_next 59 = .ok (.getfield 151, 3) := dk_180 0 151 (dk_at dksX8_next_2 11 rfl rfl)
theorem dX8_next_62 : decode cX8_next 62 = .ok (.if_icmp .ne 4, 3) := dk_160 0 4 (dk_at dksX8_next_2 14 rfl rfl)
theorem dX8_next_65 : decode cX8_next 65 = .ok (.return_, 1) := dk_177 (dk_at dksX8_next_2 17 rfl rfl)
theorem dX8_next_66 : decode cX8_next 66 = .ok (.aload_n 0, 1) := dk_42 (dk_at dksX8_next_2 18 rfl rfl)
theorem dX8_next_67 : decode cX8_next 67 = .ok (.dup, 1) := dk_89 (dk_at dksX8_next_2 19 rfl rfl)
theorem dX8_next_68 : decode cX8_next 68 = .ok (.getfield 154, 3) := dk_180 0 154 (dk_at dksX8_next_2 20 rfl rfl)
theorem dX8_next_71 : decode cX8_next 71 = .ok (.iconst 1, 1) := dk_4 (dk_at dksX8_next_2 23 rfl rfl)
theorem dX8_next_72 : decode cX8_next 72 = .ok (.iadd, 1) := dk_96 (dk_at dksX8_next_3 0 rfl rfl)
theorem dX8_next_73 : decode cX8_next 73 = .ok (.putfield 154, 3) := dk_181 0 154 (dk_at dksX8_next_3 1 rfl rfl)
theorem dX8_next_76 : decode cX8_next 76 = .ok (.aload_n 0, 1) := dk_42 (dk_at dksX8_next_3 4 rfl rfl)
theorem dX8_next_77 : decode cX8_next 77 = .ok (.getfield 41, 3) := dk_180 0 41 (dk_at dksX8_next_3 5 rfl rfl)
theorem dX8_next_80 : decode cX8_next 80 = .ok (.aload_n 0, 1) := dk_42 (dk_at dksX8_next_3 8 rfl rfl)
theorem dX8_next_81 : decode cX8_next 81 = .ok (.getfield 157, 3) := dk_180 0 157 (dk_at dksX8_next_3 9 rfl rfl)
theorem dX8_next_84 : decode cX8_next 84 = .ok (.baload, 1) := dk_51 (dk_at dksX8_next_3 12 rfl rfl)
theorem dX8_next_85 : decode cX8_next 85 = .ok (.invokestatic 160, 3) := dk_184 0 160 (dk_at dksX8_next_3 13 rfl rfl)
theorem dX8_next_88 : decode cX8_next 88 = .ok (.istore_n 1, 1) := dk_60 (dk_at dksX8_next_3 16 rfl rfl)
theorem dX8_next_89 : decode cX8_next 89 = .ok (.aload_n 0, 1) := dk_42 (dk_at dksX8_next_3 17 rfl rfl)
theorem dX8_next_90 : decode cX8_next 90 = .ok (.getfield 41, 3) := dk_180 0 41 (dk_at dksX8_next_3 18 rfl rfl)
theorem dX8_next_93 : decode cX8_next 93 = .ok (.aload_n 0, 1) := dk_42 (dk_at dksX8_next_3 21 rfl rfl)
theorem dX8_next_94 : decode cX8_next 94 = .ok (.getfield 157, 3) := dk_180 0 157 (dk_at dksX8_next_4 0 rfl rfl)
theorem dX8_next_97 : decode cX8_next 97 = .ok (.baload, 1) := dk_51 (dk_at dksX8_next_4 3 rfl rfl)
theorem dX8_next_98 : decode cX8_next 98 = .ok (.invokestatic 164, 3) := dk_184 0 164 (dk_at dksX8_next_4 4 rfl rfl)
theorem dX8_next_101 : decode cX8_next 101 = .ok (.istore_n 2, 1) := dk_61 (dk_at dksX8_next_4 7 rfl rfl)
theorem dX8_next_102 : decode cX8_next 102 = .ok (.aload_n 0, 1) := dk_42 (dk_at dksX8_next_4 8 rfl rfl)
theorem dX8_next_103 : decode cX8_next 103 = .ok (.getfield 154, 3) := dk_180 0 154 (dk_at dksX8_next_4 9 rfl rfl)
theorem dX8_next_106 : decode cX8_next 106 = .ok (.aload_n 0, 1) := dk_42 (dk_at dksX8_next_4 12 rfl rfl)
theorem dX8_next_107 : decode cX8_next 107 = .ok (.getfield 151, 3) := dk_180 0 151 (dk_at dksX8_next_4 13 rfl rfl)
theorem dX8_next_110 : decode cX8_next 110 = .ok (.if_icmp .ge 54, 3) := dk_162 0 54 (dk_at dksX8_next_4 16 rfl rfl)
theorem dX8_next_113 : decode cX8_next 113 = .ok (.iload_n 1, 1) := dk_27 (dk_at dksX8_next_4 19 rfl rfl)
theorem dX8_next_114 : decode cX8_next 114 = .ok (.ifCond .eq 18, 3) := dk_153 0 18 (dk_at dksX8_next_4 20 rfl rfl)
theorem dX8_next_117 : decode cX8_next 117 = .ok (.aload_n 0, 1) := dk_42 (dk_at dksX8_next_4 23 rfl rfl)
theorem dX8_next_118 : decode cX8_next 118 = .ok (.getfield 41, 3) := dk_180 0 41 (dk_at dksX8_next_5 0 rfl rfl)
theorem dX8_next_121 : decode cX8_next 121 = .ok (.aload_n 0, 1) := dk_42 (dk_at dksX8_next_5 3 rfl rfl)
theorem dX8_next_122 : decode cX8_next 122 = .ok (.getfield 154, 3) := dk_180 0 154 (dk_at dksX8_next_5 4 rfl rfl)
theorem dX8_next_125 : decode cX8_next 125 = .ok (.baload, 1) := dk_51 (dk_at dksX8_next_5 7 rfl rfl)
theorem dX8_next_126 : decode cX8_next 126 = .ok (.invokestatic 160, 3) := dk_184 0 160 (dk_at dksX8_next_5 8 rfl rfl)
theorem dX8_next_129 : decode cX8_next 129 = .ok (.ifCond .ne 22, 3) := dk_154 0 22 (dk_at dksX8_next_5 11 rfl rfl)
theorem dX8_next_132 : decode cX8_next 132 = .ok (.iload_n 2, 1) := dk_28 (dk_at dksX8_next_5 14 rfl rfl)
theorem dX8_next_133 : decode cX8_next 133 = .ok (.ifCond .eq 31, 3) := dk_153 0 31 (dk_at dksX8_next_5 15 rfl rfl)
theorem dX8_next_136 : decode cX8_next 136 = .ok (.aload_n 0, 1) := dk_42 (dk_at dksX8_next_5 18 rfl rfl)
theorem dX8_next_137 : decode cX8_next 137 = .ok (.getfield 41, 3) := dk_180 0 41 (dk_at dksX8_next_5 19 rfl rfl)
theorem dX8_next_140 : decode cX8_next 140 = .ok (.aload_n 0, 1) := dk_42 (dk_at dksX8_next_5 22 rfl rfl)
theorem dX8_next_141 : decode cX8_next 141 = .ok (.getfield 154, 3) := dk_180 0 154 (dk_at dksX8_next_6 0 rfl rfl)
theorem dX8_next_144 : decode cX8_next 144 = .ok (.baload, 1) := dk_51 (dk_at dksX8_next_6 3 rfl rfl)
theorem dX8_next_145 : decode cX8_next 145 = .ok (.invokestatic 164, 3) := dk_184 0 164 (dk_at dksX8_next_6 4 rfl rfl)
theorem dX8_next_148 : decode cX8_next 148 = .ok (.ifCond .eq 16, 3) := dk_153 0 16 (dk_at dksX8_next_6 7 rfl rfl)
theorem dX8_next_151 : decode cX8_next 151 = .ok (.aload_n 0, 1) := dk_42 (dk_at dksX8_next_6 10 rfl rfl)
theorem dX8_next_152 : decode cX8_next 152 = .ok (.dup, 1) := dk_89 (dk_at dksX8_next_6 11 rfl rfl)
theorem dX8_next_153 : decode cX8_next 153 = .ok (.getfield 154, 3) := dk_180 0 154 (dk_at dksX8_next_6 12 rfl rfl)
theorem dX8_next_156 : decode cX8_next 156 = .ok (.iconst 1, 1) := dk_4 (dk_at dksX8_next_6 15 rfl rfl)
theorem dX8_next_157 : decode cX8_next 157 = .ok (.iadd, 1) := dk_96 (dk_at dksX8_next_6 16 rfl rfl)
theorem dX8_next_158 : decode cX8_next 158 = .ok (.putfield 154, 3) := dk_181 0 154 (dk_at dksX8_next_6 17 rfl rfl)
theorem dX8_next_161 : decode cX8_next 161 = .ok (.goto (-59), 3) := dk_167 255 197 (dk_at dksX8_next_6 20 rfl rfl)
theorem dX8_next_164 : decode cX8_next 164 = .ok (.return_, 1) := dk_177 (dk_at dksX8_next_6 23 rfl rfl)
abbrev cX8_isLetter : ByteArray := prog_24_method_23_code
def yX8_isLetter : MethodName := ⟨RX8, "isLetter", "(I)Z"⟩
def dkwX8_isLetter_0 : List UInt8 := [26, 16, 97, 161, 0, 13, 26, 16, 122, 163, 0, 7, 4, 167, 0, 4, 3, 172]
abbrev dktX8_isLetter_0 : List UInt8 := dkwX8_isLetter_0 ++ []
theorem dksX8_isLetter_0 : cX8_isLetter.data.toList.drop 0 = dktX8_isLetter_0 := by decide +kernel
theorem dX8_isLetter_0 : decode cX8_isLetter 0 = .ok (.iload_n 0, 1) := dk_26 (dk_at dksX8_isLetter_0 0 rfl rfl)
theorem dX8_isLetter_1 : decode cX8_isLetter 1 = .ok (.bipush 97, 2) := dk_16 97 (dk_at dksX8_isLetter_0 1 rfl rfl)
theorem dX8_isLetter_3 : decode cX8_isLetter 3 = .ok (.if_icmp .lt 13, 3) := dk_161 0 13 (dk_at dksX8_isLetter_0 3 rfl rfl)
theorem dX8_isLetter_6 : decode cX8_isLetter 6 = .ok (.iload_n 0, 1) := dk_26 (dk_at dksX8_isLetter_0 6 rfl rfl)
theorem dX8_isLetter_7 : decode cX8_isLetter 7 = .ok (.bipush 122, 2) := dk_16 122 (dk_at dksX8_isLetter_0 7 rfl rfl)
theorem dX8_isLetter_9 : decode cX8_isLetter 9 = .ok (.if_icmp .gt 7, 3) := dk_163 0 7 (dk_at dksX8_isLetter_0 9 rfl rfl)
theorem dX8_isLetter_12 : decode cX8_isLetter 12 = .ok (.iconst 1, 1) := dk_4 (dk_at dksX8_isLetter_0 12 rfl rfl)
theorem dX8_isLetter_13 : decode cX8_isLetter 13 = .ok (.goto 4, 3) := dk_167 0 4 (dk_at dksX8_isLetter_0 13 rfl rfl)
theorem dX8_isLetter_16 : decode cX8_isLetter 16 = .ok (.iconst 0, 1) := dk_3 (dk_at dksX8_isLetter_0 16 rfl rfl)
theorem dX8_isLetter_17 : decode cX8_isLetter 17 = .ok (.ireturn, 1) := dk_172 (dk_at dksX8_isLetter_0 17 rfl rfl)
abbrev cX8_isDigit : ByteArray := prog_24_method_22_code
def yX8_isDigit : MethodName := ⟨RX8, "isDigit", "(I)Z"⟩
def dkwX8_isDigit_0 : List UInt8 := [26, 16, 48, 161, 0, 13, 26, 16, 57, 163, 0, 7, 4, 167, 0, 4, 3, 172]
abbrev dktX8_isDigit_0 : List UInt8 := dkwX8_isDigit_0 ++ []
theorem dksX8_isDigit_0 : cX8_isDigit.data.toList.drop 0 = dktX8_isDigit_0 := by decide +kernel
theorem dX8_isDigit_0 : decode cX8_isDigit 0 = .ok (.iload_n 0, 1) := dk_26 (dk_at dksX8_isDigit_0 0 rfl rfl)
theorem dX8_isDigit_1 : decode cX8_isDigit 1 = .ok (.bipush 48, 2) := dk_16 48 (dk_at dksX8_isDigit_0 1 rfl rfl)
theorem dX8_isDigit_3 : decode cX8_isDigit 3 = .ok (.if_icmp .lt 13, 3) := dk_161 0 13 (dk_at dksX8_isDigit_0 3 rfl rfl)
theorem dX8_isDigit_6 : decode cX8_isDigit 6 = .ok (.iload_n 0, 1) := dk_26 (dk_at dksX8_isDigit_0 6 rfl rfl)
theorem dX8_isDigit_7 : decode cX8_isDigit 7 = .ok (.bipush 57, 2) := dk_16 57 (dk_at dksX8_isDigit_0 7 rfl rfl)
theorem dX8_isDigit_9 : decode cX8_isDigit 9 = .ok (.if_icmp .gt 7, 3) := dk_163 0 7 (dk_at dksX8_isDigit_0 9 rfl rfl)
theorem dX8_isDigit_12 : decode cX8_isDigit 12 = .ok (.iconst 1, 1) := dk_4 (dk_at dksX8_isDigit_0 12 rfl rfl)
theorem dX8_isDigit_13 : decode cX8_isDigit 13 = .ok (.goto 4, 3) := dk_167 0 4 (dk_at dksX8_isDigit_0 13 rfl rfl)
theorem dX8_isDigit_16 : decode cX8_isDigit 16 = .ok (.iconst 0, 1) := dk_3 (dk_at dksX8_isDigit_0 16 rfl rfl)
theorem dX8_isDigit_17 : decode cX8_isDigit 17 = .ok (.ireturn, 1) := dk_172 (dk_at dksX8_isDigit_0 17 rfl rfl)
abbrev cX8_table : ByteArray := prog_24_method_28_code
def yX8_table : MethodName := ⟨RX8, "table", "()V"⟩
def dkwX8_table_7 : List UInt8 := [181, 0, 183, 177]
abbrev dktX8_table_7 : List UInt8 := dkwX8_table_7 ++ []
def dkwX8_table_6 : List UInt8 := [180, 0, 167, 156, 0, 7, 42, 182, 0, 173, 132, 2, 1, 167, 255, 159, 42, 89, 180, 0, 183, 4, 96]
abbrev dktX8_table_6 : List UInt8 := dkwX8_table_6 ++ dktX8_table_7
def dkwX8_table_5 : List UInt8 := [182, 0, 103, 162, 0, 8, 16, 44, 167, 0, 5, 16, 59, 182, 0, 170, 154, 0, 7, 42, 182, 0, 176, 42]
abbrev dktX8_table_5 : List UInt8 := dkwX8_table_5 ++ dktX8_table_6
def dkwX8_table_4 : List UInt8 := [29, 182, 0, 179, 132, 3, 1, 167, 255, 230, 42, 180, 0, 167, 156, 0, 32, 42, 28, 4, 96, 42, 27]
abbrev dktX8_table_4 : List UInt8 := dkwX8_table_4 ++ dktX8_table_5
def dkwX8_table_3 : List UInt8 := [156, 0, 87, 3, 62, 29, 42, 27, 182, 0, 107, 162, 0, 23, 42, 180, 0, 167, 156, 0, 16, 42, 27, 28]
abbrev dktX8_table_3 : List UInt8 := dkwX8_table_3 ++ dktX8_table_4
def dkwX8_table_2 : List UInt8 := [182, 0, 176, 177, 42, 182, 0, 173, 3, 61, 28, 42, 27, 182, 0, 103, 162, 0, 94, 42, 180, 0, 167]
abbrev dktX8_table_2 : List UInt8 := dkwX8_table_2 ++ dktX8_table_3
def dkwX8_table_1 : List UInt8 := [167, 0, 17, 42, 16, 99, 182, 0, 170, 153, 0, 7, 5, 167, 0, 4, 2, 60, 27, 156, 0, 8, 42]
abbrev dktX8_table_1 : List UInt8 := dkwX8_table_1 ++ dktX8_table_2
def dkwX8_table_0 : List UInt8 := [42, 16, 97, 182, 0, 170, 153, 0, 7, 3, 167, 0, 30, 42, 16, 98, 182, 0, 170, 153, 0, 7, 4]
abbrev dktX8_table_0 : List UInt8 := dkwX8_table_0 ++ dktX8_table_1
theorem dksX8_table_0 : cX8_table.data.toList.drop 0 = dktX8_table_0 := by decide +kernel
theorem dksX8_table_1 : cX8_table.data.toList.drop 23 = dktX8_table_1 := dk_seg dksX8_table_0 23 rfl rfl
theorem dksX8_table_2 : cX8_table.data.toList.drop 46 = dktX8_table_2 := dk_seg dksX8_table_1 23 rfl rfl
theorem dksX8_table_3 : cX8_table.data.toList.drop 69 = dktX8_table_3 := dk_seg dksX8_table_2 23 rfl rfl
theorem dksX8_table_4 : cX8_table.data.toList.drop 93 = dktX8_table_4 := dk_seg dksX8_table_3 24 rfl rfl
theorem dksX8_table_5 : cX8_table.data.toList.drop 116 = dktX8_table_5 := dk_seg dksX8_table_4 23 rfl rfl
theorem dksX8_table_6 : cX8_table.data.toList.drop 140 = dktX8_table_6 := dk_seg dksX8_table_5 24 rfl rfl
theorem dksX8_table_7 : cX8_table.data.toList.drop 163 = dktX8_table_7 := dk_seg dksX8_table_6 23 rfl rfl
theorem dX8_table_0 : decode cX8_table 0 = .ok (.aload_n 0, 1) := dk_42 (dk_at dksX8_table_0 0 rfl rfl)
theorem dX8_table_1 : decode cX8_table 1 = .ok (.bipush 97, 2) := dk_16 97 (dk_at dksX8_table_0 1 rfl rfl)
theorem dX8_table_3 : decode cX8_table 3 = .ok (.invokevirtual 170, 3) := dk_182 0 170 (dk_at dksX8_table_0 3 rfl rfl)
theorem dX8_table_6 : decode cX8_table 6 = .ok (.ifCond .eq 7, 3) := dk_153 0 7 (dk_at dksX8_table_0 6 rfl rfl)
theorem dX8_table_9 : decode cX8_table 9 = .ok (.iconst 0, 1) := dk_3 (dk_at dksX8_table_0 9 rfl rfl)
theorem dX8_table_10 : decode cX8_table 10 = .ok (.goto 30, 3) := dk_167 0 30 (dk_at dksX8_table_0 10 rfl rfl)
theorem dX8_table_13 : decode cX8_table 13 = .ok (.aload_n 0, 1) := dk_42 (dk_at dksX8_table_0 13 rfl rfl)
theorem dX8_table_14 : decode cX8_table 14 = .ok (.bipush 98, 2) := dk_16 98 (dk_at dksX8_table_0 14 rfl rfl)
theorem dX8_table_16 : decode cX8_table 16 = .ok (.invokevirtual 170, 3) := dk_182 0 170 (dk_at dksX8_table_0 16 rfl rfl)
theorem dX8_table_19 : decode cX8_table 19 = .ok (.ifCond .eq 7, 3) := dk_153 0 7 (dk_at dksX8_table_0 19 rfl rfl)
theorem dX8_table_22 : decode cX8_table 22 = .ok (.iconst 1, 1) := dk_4 (dk_at dksX8_table_0 22 rfl rfl)
theorem dX8_table_23 : decode cX8_table 23 = .ok (.goto 17, 3) := dk_167 0 17 (dk_at dksX8_table_1 0 rfl rfl)
theorem dX8_table_26 : decode cX8_table 26 = .ok (.aload_n 0, 1) := dk_42 (dk_at dksX8_table_1 3 rfl rfl)
theorem dX8_table_27 : decode cX8_table 27 = .ok (.bipush 99, 2) := dk_16 99 (dk_at dksX8_table_1 4 rfl rfl)
theorem dX8_table_29 : decode cX8_table 29 = .ok (.invokevirtual 170, 3) := dk_182 0 170 (dk_at dksX8_table_1 6 rfl rfl)
theorem dX8_table_32 : decode cX8_table 32 = .ok (.ifCond .eq 7, 3) := dk_153 0 7 (dk_at dksX8_table_1 9 rfl rfl)
theorem dX8_table_35 : decode cX8_table 35 = .ok (.iconst 2, 1) := dk_5 (dk_at dksX8_table_1 12 rfl rfl)
theorem dX8_table_36 : decode cX8_table 36 = .ok (.goto 4, 3) := dk_167 0 4 (dk_at dksX8_table_1 13 rfl rfl)
theorem dX8_table_39 : decode cX8_table 39 = .ok (.iconst (-1), 1) := dk_2 (dk_at dksX8_table_1 16 rfl rfl)
theorem dX8_table_40 : decode cX8_table 40 = .ok (.istore_n 1, 1) := dk_60 (dk_at dksX8_table_1 17 rfl rfl)
theorem dX8_table_41 : decode cX8_table 41 = .ok (.iload_n 1, 1) := dk_27 (dk_at dksX8_table_1 18 rfl rfl)
theorem dX8_table_42 : decode cX8_table 42 = .ok (.ifCond .ge 8, 3) := dk_156 0 8 (dk_at dksX8_table_1 19 rfl rfl)
theorem dX8_table_45 : decode cX8_table 45 = .ok (.aload_n 0, 1) := dk_42 (dk_at dksX8_table_1 22 rfl rfl)
theorem dX8_table_46 : decode cX8_table 46 = .ok (.invokevirtual 176, 3) := dk_182 0 176 (dk_at dksX8_table_2 0 rfl rfl)
theorem dX8_table_49 : decode cX8_table 49 = .ok (.return_, 1) := dk_177 (dk_at dksX8_table_2 3 rfl rfl)
theorem dX8_table_50 : decode cX8_table 50 = .ok (.aload_n 0, 1) := dk_42 (dk_at dksX8_table_2 4 rfl rfl)
theorem dX8_table_51 : decode cX8_table 51 = .ok (.invokevirtual 173, 3) := dk_182 0 173 (dk_at dksX8_table_2 5 rfl rfl)
theorem dX8_table_54 : decode cX8_table 54 = .ok (.iconst 0, 1) := dk_3 (dk_at dksX8_table_2 8 rfl rfl)
theorem dX8_table_55 : decode cX8_table 55 = .ok (.istore_n 2, 1) := dk_61 (dk_at dksX8_table_2 9 rfl rfl)
theorem dX8_table_56 : decode cX8_table 56 = .ok (.iload_n 2, 1) := dk_28 (dk_at dksX8_table_2 10 rfl rfl)
theorem dX8_table_57 : decode cX8_table 57 = .ok (.aload_n 0, 1) := dk_42 (dk_at dksX8_table_2 11 rfl rfl)
theorem dX8_table_58 : decode cX8_table 58 = .ok (.iload_n 1, 1) := dk_27 (dk_at dksX8_table_2 12 rfl rfl)
theorem dX8_table_59 : decode cX8_table 59 = .ok (.invokevirtual 103, 3) := dk_182 0 103 (dk_at dksX8_table_2 13 rfl rfl)
theorem dX8_table_62 : decode cX8_table 62 = .ok (.if_icmp .ge 94, 3) := dk_162 0 94 (dk_at dksX8_table_2 16 rfl rfl)
theorem dX8_table_65 : decode cX8_table 65 = .ok (.aload_n 0, 1) := dk_42 (dk_at dksX8_table_2 19 rfl rfl)
theorem dX8_table_66 : decode cX8_table 66 = .ok (.getfield 167, 3) := dk_180 0 167 (dk_at dksX8_table_2 20 rfl rfl)
theorem dX8_table_69 : decode cX8_table 69 = .ok (.ifCond .ge 87, 3) := dk_156 0 87 (dk_at dksX8_table_3 0 rfl rfl)
theorem dX8_table_72 : decode cX8_table 72 = .ok (.iconst 0, 1) := dk_3 (dk_at dksX8_table_3 3 rfl rfl)
theorem dX8_table_73 : decode cX8_table 73 = .ok (.istore_n 3, 1) := dk_62 (dk_at dksX8_table_3 4 rfl rfl)
theorem dX8_table_74 : decode cX8_table 74 = .ok (.iload_n 3, 1) := dk_29 (dk_at dksX8_table_3 5 rfl rfl)
theorem dX8_table_75 : decode cX8_table 75 = .ok (.aload_n 0, 1) := dk_42 (dk_at dksX8_table_3 6 rfl rfl)
theorem dX8_table_76 : decode cX8_table 76 = .ok (.iload_n 1, 1) := dk_27 (dk_at dksX8_table_3 7 rfl rfl)
theorem dX8_table_77 : decode cX8_table 77 = .ok (.invokevirtual 107, 3) := dk_182 0 107 (dk_at dksX8_table_3 8 rfl rfl)
theorem dX8_table_80 : decode cX8_table 80 = .ok (.if_icmp .ge 23, 3) := dk_162 0 23 (dk_at dksX8_table_3 11 rfl rfl)
theorem dX8_table_83 : decode cX8_table 83 = .ok (.aload_n 0, 1) := dk_42 (dk_at dksX8_table_3 14 rfl rfl)
theorem dX8_table_84 : decode cX8_table 84 = .ok (.getfield 167, 3) := dk_180 0 167 (dk_at dksX8_table_3 15 rfl rfl)
theorem dX8_table_87 : decode cX8_table 87 = .ok (.ifCond .ge 16, 3) := dk_156 0 16 (dk_at dksX8_table_3 18 rfl rfl)
theorem dX8_table_90 : decode cX8_table 90 = .ok (.aload_n 0, 1) := dk_42 (dk_at dksX8_table_3 21 rfl rfl)
theorem dX8_table_91 : decode cX8_table 91 = .ok (.iload_n 1, 1) := dk_27 (dk_at dksX8_table_3 22 rfl rfl)
theorem dX8_table_92 : decode cX8_table 92 = .ok (.iload_n 2, 1) := dk_28 (dk_at dksX8_table_3 23 rfl rfl)
theorem dX8_table_93 : decode cX8_table 93 = .ok (.iload_n 3, 1) := dk_29 (dk_at dksX8_table_4 0 rfl rfl)
theorem dX8_table_94 : decode cX8_table 94 = .ok (.invokevirtual 179, 3) := dk_182 0 179 (dk_at dksX8_table_4 1 rfl rfl)
theorem dX8_table_97 : decode cX8_table 97 = .ok (.iinc 3 1, 3) := dk_132 3 1 (dk_at dksX8_table_4 4 rfl rfl)
theorem dX8_table_100 : decode cX8_table 100 = .ok (.goto (-26), 3) := dk_167 255 230 (dk_at dksX8_table_4 7 rfl rfl)
theorem dX8_table_103 : decode cX8_table 103 = .ok (.aload_n 0, 1) := dk_42 (dk_at dksX8_table_4 10 rfl rfl)
theorem dX8_table_104 : decode cX8_table 104 = .ok (.getfield 167, 3) := dk_180 0 167 (dk_at dksX8_table_4 11 rfl rfl)
theorem dX8_table_107 : decode cX8_table 107 = .ok (.ifCond .ge 32, 3) := dk_156 0 32 (dk_at dksX8_table_4 14 rfl rfl)
theorem dX8_table_110 : decode cX8_table 110 = .ok (.aload_n 0, 1) := dk_42 (dk_at dksX8_table_4 17 rfl rfl)
theorem dX8_table_111 : decode cX8_table 111 = .ok (.iload_n 2, 1) := dk_28 (dk_at dksX8_table_4 18 rfl rfl)
theorem dX8_table_112 : decode cX8_table 112 = .ok (.iconst 1, 1) := dk_4 (dk_at dksX8_table_4 19 rfl rfl)
theorem dX8_table_113 : decode cX8_table 113 = .ok (.iadd, 1) := dk_96 (dk_at dksX8_table_4 20 rfl rfl)
theorem dX8_table_114 : decode cX8_table 114 = .ok (.aload_n 0, 1) := dk_42 (dk_at dksX8_table_4 21 rfl rfl)
theorem dX8_table_115 : decode cX8_table 115 = .ok (.iload_n 1, 1) := dk_27 (dk_at dksX8_table_4 22 rfl rfl)
theorem dX8_table_116 : decode cX8_table 116 = .ok (.invokevirtual 103, 3) := dk_182 0 103 (dk_at dksX8_table_5 0 rfl rfl)
theorem dX8_table_119 : decode cX8_table 119 = .ok (.if_icmp .ge 8, 3) := dk_162 0 8 (dk_at dksX8_table_5 3 rfl rfl)
theorem dX8_table_122 : decode cX8_table 122 = .ok (.bipush 44, 2) := dk_16 44 (dk_at dksX8_table_5 6 rfl rfl)
theorem dX8_table_124 : decode cX8_table 124 = .ok (.goto 5, 3) := dk_167 0 5 (dk_at dksX8_table_5 8 rfl rfl)
theorem dX8_table_127 : decode cX8_table 127 = .ok (.bipush 59, 2) := dk_16 59 (dk_at dksX8_table_5 11 rfl rfl)
theorem dX8_table_129 : decode cX8_table 129 = .ok (.invokevirtual 170, 3) := dk_182 0 170 (dk_at dksX8_table_5 13 rfl rfl)
theorem dX8_table_132 : decode cX8_table 132 = .ok (.ifCond .ne 7, 3) := dk_154 0 7 (dk_at dksX8_table_5 16 rfl rfl)
theorem dX8_table_135 : decode cX8_table 135 = .ok (.aload_n 0, 1) := dk_42 (dk_at dksX8_table_5 19 rfl rfl)
theorem dX8_table_136 : decode cX8_table 136 = .ok (.invokevirtual 176, 3) := dk_182 0 176 (dk_at dksX8_table_5 20 rfl rfl)
theorem dX8_table_139 : decode cX8_table 139 = .ok (.aload_n 0, 1) := dk_42 (dk_at dksX8_table_5 23 rfl rfl)
theorem dX8_table_140 : decode cX8_table 140 = .ok (.getfield 167, 3) := dk_180 0 167 (dk_at dksX8_table_6 0 rfl rfl)
theorem dX8_table_143 : decode cX8_table 143 = .ok (.ifCond .ge 7, 3) := dk_156 0 7 (dk_at dksX8_table_6 3 rfl rfl)
theorem dX8_table_146 : decode cX8_table 146 = .ok (.aload_n 0, 1) := dk_42 (dk_at dksX8_table_6 6 rfl rfl)
theorem dX8_table_147 : decode cX8_table 147 = .ok (.invokevirtual 173, 3) := dk_182 0 173 (dk_at dksX8_table_6 7 rfl rfl)
theorem dX8_table_150 : decode cX8_table 150 = .ok (.iinc 2 1, 3) := dk_132 2 1 (dk_at dksX8_table_6 10 rfl rfl)
theorem dX8_table_153 : decode cX8_table 153 = .ok (.goto (-97), 3) := dk_167 255 159 (dk_at dksX8_table_6 13 rfl rfl)
theorem dX8_table_156 : decode cX8_table 156 = .ok (.aload_n 0, 1) := dk_42 (dk_at dksX8_table_6 16 rfl rfl)
theorem dX8_table_157 : decode cX8_table 157 = .ok (.dup, 1) := dk_89 (dk_at dksX8_table_6 17 rfl rfl)
theorem dX8_table_158 : decode cX8_table 158 = .ok (.getfield 183, 3) := dk_180 0 183 (dk_at dksX8_table_6 18 rfl rfl)
theorem dX8_table_161 : decode cX8_table 161 = .ok (.iconst 1, 1) := dk_4 (dk_at dksX8_table_6 21 rfl rfl)
theorem dX8_table_162 : decode cX8_table 162 = .ok (.iadd, 1) := dk_96 (dk_at dksX8_table_6 22 rfl rfl)
theorem dX8_table_163 : decode cX8_table 163 = .ok (.putfield 183, 3) := dk_181 0 183 (dk_at dksX8_table_7 0 rfl rfl)
theorem dX8_table_166 : decode cX8_table 166 = .ok (.return_, 1) := dk_177 (dk_at dksX8_table_7 3 rfl rfl)
abbrev cX8_is : ByteArray := prog_24_method_25_code
def yX8_is : MethodName := ⟨RX8, "is", "(I)Z"⟩
def dkwX8_is_1 : List UInt8 := [160, 0, 7, 4, 167, 0, 4, 3, 172]
abbrev dktX8_is_1 : List UInt8 := dkwX8_is_1 ++ []
def dkwX8_is_0 : List UInt8 := [42, 180, 0, 154, 42, 180, 0, 157, 100, 4, 160, 0, 20, 42, 180, 0, 41, 42, 180, 0, 157, 51, 27]
abbrev dktX8_is_0 : List UInt8 := dkwX8_is_0 ++ dktX8_is_1
theorem dksX8_is_0 : cX8_is.data.toList.drop 0 = dktX8_is_0 := by decide +kernel
theorem dksX8_is_1 : cX8_is.data.toList.drop 23 = dktX8_is_1 := dk_seg dksX8_is_0 23 rfl rfl
theorem dX8_is_0 : decode cX8_is 0 = .ok (.aload_n 0, 1) := dk_42 (dk_at dksX8_is_0 0 rfl rfl)
theorem dX8_is_1 : decode cX8_is 1 = .ok (.getfield 154, 3) := dk_180 0 154 (dk_at dksX8_is_0 1 rfl rfl)
theorem dX8_is_4 : decode cX8_is 4 = .ok (.aload_n 0, 1) := dk_42 (dk_at dksX8_is_0 4 rfl rfl)
theorem dX8_is_5 : decode cX8_is 5 = .ok (.getfield 157, 3) := dk_180 0 157 (dk_at dksX8_is_0 5 rfl rfl)
theorem dX8_is_8 : decode cX8_is 8 = .ok (.isub, 1) := dk_100 (dk_at dksX8_is_0 8 rfl rfl)
theorem dX8_is_9 : decode cX8_is 9 = .ok (.iconst 1, 1) := dk_4 (dk_at dksX8_is_0 9 rfl rfl)
theorem dX8_is_10 : decode cX8_is 10 = .ok (.if_icmp .ne 20, 3) := dk_160 0 20 (dk_at dksX8_is_0 10 rfl rfl)
theorem dX8_is_13 : decode cX8_is 13 = .ok (.aload_n 0, 1) := dk_42 (dk_at dksX8_is_0 13 rfl rfl)
theorem dX8_is_14 : decode cX8_is 14 = .ok (.getfield 41, 3) := dk_180 0 41 (dk_at dksX8_is_0 14 rfl rfl)
theorem dX8_is_17 : decode cX8_is 17 = .ok (.aload_n 0, 1) := dk_42 (dk_at dksX8_is_0 17 rfl rfl)
theorem dX8_is_18 : decode cX8_is 18 = .ok (.getfield 157, 3) := dk_180 0 157 (dk_at dksX8_is_0 18 rfl rfl)
theorem dX8_is_21 : decode cX8_is 21 = .ok (.baload, 1) := dk_51 (dk_at dksX8_is_0 21 rfl rfl)
theorem dX8_is_22 : decode cX8_is 22 = .ok (.iload_n 1, 1) := dk_27 (dk_at dksX8_is_0 22 rfl rfl)
theorem dX8_is_23 : decode cX8_is 23 = .ok (.if_icmp .ne 7, 3) := dk_160 0 7 (dk_at dksX8_is_1 0 rfl rfl)
theorem dX8_is_26 : decode cX8_is 26 = .ok (.iconst 1, 1) := dk_4 (dk_at dksX8_is_1 3 rfl rfl)
theorem dX8_is_27 : decode cX8_is 27 = .ok (.goto 4, 3) := dk_167 0 4 (dk_at dksX8_is_1 4 rfl rfl)
theorem dX8_is_30 : decode cX8_is 30 = .ok (.iconst 0, 1) := dk_3 (dk_at dksX8_is_1 7 rfl rfl)
theorem dX8_is_31 : decode cX8_is 31 = .ok (.ireturn, 1) := dk_172 (dk_at dksX8_is_1 8 rfl rfl)
abbrev cX8_fails : ByteArray := prog_24_method_26_code
def yX8_fails : MethodName := ⟨RX8, "fails", "()V"⟩
def dkwX8_fails_0 : List UInt8 := [42, 42, 180, 0, 167, 156, 0, 10, 42, 180, 0, 157, 167, 0, 7, 42, 180, 0, 167, 181, 0, 167, 177]
abbrev dktX8_fails_0 : List UInt8 := dkwX8_fails_0 ++ []
theorem dksX8_fails_0 : cX8_fails.data.toList.drop 0 = dktX8_fails_0 := by decide +kernel
theorem dX8_fails_0 : decode cX8_fails 0 = .ok (.aload_n 0, 1) := dk_42 (dk_at dksX8_fails_0 0 rfl rfl)
theorem dX8_fails_1 : decode cX8_fails 1 = .ok (.aload_n 0, 1) := dk_42 (dk_at dksX8_fails_0 1 rfl rfl)
theorem dX8_fails_2 : decode cX8_fails 2 = .ok (.getfield 167, 3) := dk_180 0 167 (dk_at dksX8_fails_0 2 rfl rfl)
theorem dX8_fails_5 : decode cX8_fails 5 = .ok (.ifCond .ge 10, 3) := dk_156 0 10 (dk_at dksX8_fails_0 5 rfl rfl)
theorem dX8_fails_8 : decode cX8_fails 8 = .ok (.aload_n 0, 1) := dk_42 (dk_at dksX8_fails_0 8 rfl rfl)
theorem dX8_fails_9 : decode cX8_fails 9 = .ok (.getfield 157, 3) := dk_180 0 157 (dk_at dksX8_fails_0 9 rfl rfl)
theorem dX8_fails_12 : decode cX8_fails 12 = .ok (.goto 7, 3) := dk_167 0 7 (dk_at dksX8_fails_0 12 rfl rfl)
theorem dX8_fails_15 : decode cX8_fails 15 = .ok (.aload_n 0, 1) := dk_42 (dk_at dksX8_fails_0 15 rfl rfl)
theorem dX8_fails_16 : decode cX8_fails 16 = .ok (.getfield 167, 3) := dk_180 0 167 (dk_at dksX8_fails_0 16 rfl rfl)
theorem dX8_fails_19 : decode cX8_fails 19 = .ok (.putfield 167, 3) := dk_181 0 167 (dk_at dksX8_fails_0 19 rfl rfl)
theorem dX8_fails_22 : decode cX8_fails 22 = .ok (.return_, 1) := dk_177 (dk_at dksX8_fails_0 22 rfl rfl)
abbrev cX8_entryOf : ByteArray := prog_24_method_27_code
def yX8_entryOf : MethodName := ⟨RX8, "entryOf", "(III)V"⟩
def dkwX8_entryOf_6 : List UInt8 := [27, 104, 6, 28, 104, 96, 29, 96, 21, 5, 79, 42, 182, 0, 173, 177]
abbrev dktX8_entryOf_6 : List UInt8 := dkwX8_entryOf_6 ++ []
def dkwX8_entryOf_5 : List UInt8 := [21, 5, 54, 5, 27, 21, 5, 184, 0, 124, 154, 0, 8, 42, 182, 0, 176, 177, 42, 180, 0, 7, 16, 9]
abbrev dktX8_entryOf_5 : List UInt8 := dkwX8_entryOf_5 ++ dktX8_entryOf_6
def dkwX8_entryOf_4 : List UInt8 := [16, 48, 100, 54, 5, 132, 6, 1, 167, 255, 226, 21, 4, 153, 0, 10, 3, 21, 5, 100, 167, 0, 5]
abbrev dktX8_entryOf_4 : List UInt8 := dkwX8_entryOf_4 ++ dktX8_entryOf_5
def dkwX8_entryOf_3 : List UInt8 := [54, 6, 21, 6, 42, 180, 0, 154, 162, 0, 27, 16, 10, 21, 5, 104, 42, 180, 0, 41, 21, 6, 51, 96]
abbrev dktX8_entryOf_3 : List UInt8 := dkwX8_entryOf_3 ++ dktX8_entryOf_4
def dkwX8_entryOf_2 : List UInt8 := [180, 0, 154, 42, 180, 0, 157, 100, 5, 164, 0, 8, 42, 182, 0, 176, 177, 3, 54, 5, 42, 180, 0, 157]
abbrev dktX8_entryOf_2 : List UInt8 := dkwX8_entryOf_2 ++ dktX8_entryOf_3
def dkwX8_entryOf_1 : List UInt8 := [180, 0, 151, 159, 0, 31, 42, 180, 0, 41, 42, 180, 0, 157, 51, 184, 0, 164, 153, 0, 16, 42]
abbrev dktX8_entryOf_1 : List UInt8 := dkwX8_entryOf_1 ++ dktX8_entryOf_2
def dkwX8_entryOf_0 : List UInt8 := [42, 16, 45, 182, 0, 170, 54, 4, 21, 4, 153, 0, 7, 42, 182, 0, 173, 42, 180, 0, 157, 42]
abbrev dktX8_entryOf_0 : List UInt8 := dkwX8_entryOf_0 ++ dktX8_entryOf_1
theorem dksX8_entryOf_0 : cX8_entryOf.data.toList.drop 0 = dktX8_entryOf_0 := by decide +kernel
theorem dksX8_entryOf_1 : cX8_entryOf.data.toList.drop 22 = dktX8_entryOf_1 := dk_seg dksX8_entryOf_0 22 rfl rfl
theorem dksX8_entryOf_2 : cX8_entryOf.data.toList.drop 44 = dktX8_entryOf_2 := dk_seg dksX8_entryOf_1 22 rfl rfl
theorem dksX8_entryOf_3 : cX8_entryOf.data.toList.drop 68 = dktX8_entryOf_3 := dk_seg dksX8_entryOf_2 24 rfl rfl
theorem dksX8_entryOf_4 : cX8_entryOf.data.toList.drop 92 = dktX8_entryOf_4 := dk_seg dksX8_entryOf_3 24 rfl rfl
theorem dksX8_entryOf_5 : cX8_entryOf.data.toList.drop 115 = dktX8_entryOf_5 := dk_seg dksX8_entryOf_4 23 rfl rfl
theorem dksX8_entryOf_6 : cX8_entryOf.data.toList.drop 139 = dktX8_entryOf_6 := dk_seg dksX8_entryOf_5 24 rfl rfl
theorem dX8_entryOf_0 : decode cX8_entryOf 0 = .ok (.aload_n 0, 1) := dk_42 (dk_at dksX8_entryOf_0 0 rfl rfl)
theorem dX8_entryOf_1 : decode cX8_entryOf 1 = .ok (.bipush 45, 2) := dk_16 45 (dk_at dksX8_entryOf_0 1 rfl rfl)
theorem dX8_entryOf_3 : decode cX8_entryOf 3 = .ok (.invokevirtual 170, 3) := dk_182 0 170 (dk_at dksX8_entryOf_0 3 rfl rfl)
theorem dX8_entryOf_6 : decode cX8_entryOf 6 = .ok (.istore 4, 2) := dk_54 4 (dk_at dksX8_entryOf_0 6 rfl rfl)
theorem dX8_entryOf_8 : decode cX8_entryOf 8 = .ok (.iload 4, 2) := dk_21 4 (dk_at dksX8_entryOf_0 8 rfl rfl)
theorem dX8_entryOf_10 : decode cX8_entryOf 10 = .ok (.ifCond .eq 7, 3) := dk_153 0 7 (dk_at dksX8_entryOf_0 10 rfl rfl)
theorem dX8_entryOf_13 : decode cX8_entryOf 13 = .ok (.aload_n 0, 1) := dk_42 (dk_at dksX8_entryOf_0 13 rfl rfl)
theorem dX8_entryOf_14 : decode cX8_entryOf 14 = .ok (.invokevirtual 173, 3) := dk_182 0 173 (dk_at dksX8_entryOf_0 14 rfl rfl)
theorem dX8_entryOf_17 : decode cX8_entryOf 17 = .ok (.aload_n 0, 1) := dk_42 (dk_at dksX8_entryOf_0 17 rfl rfl)
theorem dX8_entryOf_18 : decode cX8_entryOf 18 = .ok (.getfield 157, 3) := dk_180 0 157 (dk_at dksX8_entryOf_0 18 rfl rfl)
theorem dX8_entryOf_21 : decode cX8_entryOf 21 = .ok (.aload_n 0, 1) := dk_42 (dk_at dksX8_entryOf_0 21 rfl rfl)
theorem dX8_entryOf_22 : decode cX8_entryOf 22 = .ok (.getfield 151, 3) := dk_180 0 151 (dk_at dksX8_entryOf_1 0 rfl rfl)
theorem dX8_entryOf_25 : decode cX8_entryOf 25 = .ok (.if_icmp .eq 31, 3) := dk_159 0 31 (dk_at dksX8_entryOf_1 3 rfl rfl)
theorem dX8_entryOf_28 : decode cX8_entryOf 28 = .ok (.aload_n 0, 1) := dk_42 (dk_at dksX8_entryOf_1 6 rfl rfl)
theorem dX8_entryOf_29 : decode cX8_entryOf 29 = .ok (.getfield 41, 3) := dk_180 0 41 (dk_at dksX8_entryOf_1 7 rfl rfl)
theorem dX8_entryOf_32 : decode cX8_entryOf 32 = .ok (.aload_n 0, 1) := dk_42 (dk_at dksX8_entryOf_1 10 rfl rfl)
theorem dX8_entryOf_33 : decode cX8_entryOf 33 = .ok (.getfield 157, 3) := dk_180 0 157 (dk_at dksX8_entryOf_1 11 rfl rfl)
theorem dX8_entryOf_36 : decode cX8_entryOf 36 = .ok (.baload, 1) := dk_51 (dk_at dksX8_entryOf_1 14 rfl rfl)
theorem dX8_entryOf_37 : decode cX8_entryOf 37 = .ok (.invokestatic 164, 3) := dk_184 0 164 (dk_at dksX8_entryOf_1 15 rfl rfl)
theorem dX8_entryOf_40 : decode cX8_entryOf 40 = .ok (.ifCond .eq 16, 3) := dk_153 0 16 (dk_at dksX8_entryOf_1 18 rfl rfl)
theorem dX8_entryOf_43 : decode cX8_entryOf 43 = .ok (.aload_n 0, 1) := dk_42 (dk_at dksX8_entryOf_1 21 rfl rfl)
theorem dX8_entryOf_44 : decode cX8_entryOf 44 = .ok (.getfield 154, 3) := dk_180 0 154 (dk_at dksX8_entryOf_2 0 rfl rfl)
theorem dX8_entryOf_47 : decode cX8_entryOf 47 = .ok (.aload_n 0, 1) := dk_42 (dk_at dksX8_entryOf_2 3 rfl rfl)
theorem dX8_entryOf_48 : decode cX8_entryOf 48 = .ok (.getfield 157, 3) := dk_180 0 157 (dk_at dksX8_entryOf_2 4 rfl rfl)
theorem dX8_entryOf_51 : decode cX8_entryOf 51 = .ok (.isub, 1) := dk_100 (dk_at dksX8_entryOf_2 7 rfl rfl)
theorem dX8_entryOf_52 : decode cX8_entryOf 52 = .ok (.iconst 2, 1) := dk_5 (dk_at dksX8_entryOf_2 8 rfl rfl)
theorem dX8_entryOf_53 : decode cX8_entryOf 53 = .ok (.if_icmp .le 8, 3) := dk_164 0 8 (dk_at dksX8_entryOf_2 9 rfl rfl)
theorem dX8_entryOf_56 : decode cX8_entryOf 56 = .ok (.aload_n 0, 1) := dk_42 (dk_at dksX8_entryOf_2 12 rfl rfl)
theorem dX8_entryOf_57 : decode cX8_entryOf 57 = .ok (.invokevirtual 176, 3) := dk_182 0 176 (dk_at dksX8_entryOf_2 13 rfl rfl)
theorem dX8_entryOf_60 : decode cX8_entryOf 60 = .ok (.return_, 1) := dk_177 (dk_at dksX8_entryOf_2 16 rfl rfl)
theorem dX8_entryOf_61 : decode cX8_entryOf 61 = .ok (.iconst 0, 1) := dk_3 (dk_at dksX8_entryOf_2 17 rfl rfl)
theorem dX8_entryOf_62 : decode cX8_entryOf 62 = .ok (.istore 5, 2) := dk_54 5 (dk_at dksX8_entryOf_2 18 rfl rfl)
theorem dX8_entryOf_64 : decode cX8_entryOf 64 = .ok (.aload_n 0, 1) := dk_42 (dk_at dksX8_entryOf_2 20 rfl rfl)
theorem dX8_entryOf_65 : decode cX8_entryOf 65 = .ok (.getfield 157, 3) := dk_180 0 157 (dk_at dksX8_entryOf_2 21 rfl rfl)
theorem dX8_entryOf_68 : decode cX8_entryOf 68 = .ok (.istore 6, 2) := dk_54 6 (dk_at dksX8_entryOf_3 0 rfl rfl)
theorem dX8_entryOf_70 : decode cX8_entryOf 70 = .ok (.iload 6, 2) := dk_21 6 (dk_at dksX8_entryOf_3 2 rfl rfl)
theorem dX8_entryOf_72 : decode cX8_entryOf 72 = .ok (.aload_n 0, 1) := dk_42 (dk_at dksX8_entryOf_3 4 rfl rfl)
theorem dX8_entryOf_73 : decode cX8_entryOf 73 = .ok (.getfield 154, 3) := dk_180 0 154 (dk_at dksX8_entryOf_3 5 rfl rfl)
theorem dX8_entryOf_76 : decode cX8_entryOf 76 = .ok (.if_icmp .ge 27, 3) := dk_162 0 27 (dk_at dksX8_entryOf_3 8 rfl rfl)
theorem dX8_entryOf_79 : decode cX8_entryOf 79 = .ok (.bipush 10, 2) := dk_16 10 (dk_at dksX8_entryOf_3 11 rfl rfl)
theorem dX8_entryOf_81 : decode cX8_entryOf 81 = .ok (.iload 5, 2) := dk_21 5 (dk_at dksX8_entryOf_3 13 rfl rfl)
theorem dX8_entryOf_83 : decode cX8_entryOf 83 = .ok (.imul, 1) := dk_104 (dk_at dksX8_entryOf_3 15 rfl rfl)
theorem dX8_entryOf_84 : decode cX8_entryOf 84 = .ok (.aload_n 0, 1) := dk_42 (dk_at dksX8_entryOf_3 16 rfl rfl)
theorem dX8_entryOf_85 : decode cX8_entryOf 85 = .ok (.getfield 41, 3) := dk_180 0 41 (dk_at dksX8_entryOf_3 17 rfl rfl)
theorem dX8_entryOf_88 : decode cX8_entryOf 88 = .ok (.iload 6, 2) := dk_21 6 (dk_at dksX8_entryOf_3 20 rfl rfl)
theorem dX8_entryOf_90 : decode cX8_entryOf 90 = .ok (.baload, 1) := dk_51 (dk_at dksX8_entryOf_3 22 rfl rfl)
theorem dX8_entryOf_91 : decode cX8_entryOf 91 = .ok (.iadd, 1) := dk_96 (dk_at dksX8_entryOf_3 23 rfl rfl)
theorem dX8_entryOf_92 : decode cX8_entryOf 92 = .ok (.bipush 48, 2) := dk_16 48 (dk_at dksX8_entryOf_4 0 rfl rfl)
theorem dX8_entryOf_94 : decode cX8_entryOf 94 = .ok (.isub, 1) := dk_100 (dk_at dksX8_entryOf_4 2 rfl rfl)
theorem dX8_entryOf_95 : decode cX8_entryOf 95 = .ok (.istore 5, 2) := dk_54 5 (dk_at dksX8_entryOf_4 3 rfl rfl)
theorem dX8_entryOf_97 : decode cX8_entryOf 97 = .ok (.iinc 6 1, 3) := dk_132 6 1 (dk_at dksX8_entryOf_4 5 rfl rfl)
theorem dX8_entryOf_100 : decode cX8_entryOf 100 = .ok (.goto (-30), 3) := dk_167 255 226 (dk_at dksX8_entryOf_4 8 rfl rfl)
theorem dX8_entryOf_103 : decode cX8_entryOf 103 = .ok (.iload 4, 2) := dk_21 4 (dk_at dksX8_entryOf_4 11 rfl rfl)
theorem dX8_entryOf_105 : decode cX8_entryOf 105 = .ok (.ifCond .eq 10, 3) := dk_153 0 10 (dk_at dksX8_entryOf_4 13 rfl rfl)
theorem dX8_entryOf_108 : decode cX8_entryOf 108 = .ok (.iconst 0, 1) := dk_3 (dk_at dksX8_entryOf_4 16 rfl rfl)
theorem dX8_entryOf_109 : decode cX8_entryOf 109 = .ok (.iload 5, 2) := dk_21 5 (dk_at dksX8_entryOf_4 17 rfl rfl)
theorem dX8_entryOf_111 : decode cX8_entryOf 111 = .ok (.isub, 1) := dk_100 (dk_at dksX8_entryOf_4 19 rfl rfl)
theorem dX8_entryOf_112 : decode cX8_entryOf 112 = .ok (.goto 5, 3) := dk_167 0 5 (dk_at dksX8_entryOf_4 20 rfl rfl)
theorem dX8_entryOf_115 : decode cX8_entryOf 115 = .ok (.iload 5, 2) := dk_21 5 (dk_at dksX8_entryOf_5 0 rfl rfl)
theorem dX8_entryOf_117 : decode cX8_entryOf 117 = .ok (.istore 5, 2) := dk_54 5 (dk_at dksX8_entryOf_5 2 rfl rfl)
theorem dX8_entryOf_119 : decode cX8_entryOf 119 = .ok (.iload_n 1, 1) := dk_27 (dk_at dksX8_entryOf_5 4 rfl rfl)
theorem dX8_entryOf_120 : decode cX8_entryOf 120 = .ok (.iload 5, 2) := dk_21 5 (dk_at dksX8_entryOf_5 5 rfl rfl)
theorem dX8_entryOf_122 : decode cX8_entryOf 122 = .ok (.invokestatic 124, 3) := dk_184 0 124 (dk_at dksX8_entryOf_5 7 rfl rfl)
theorem dX8_entryOf_125 : decode cX8_entryOf 125 = .ok (.ifCond .ne 8, 3) := dk_154 0 8 (dk_at dksX8_entryOf_5 10 rfl rfl)
theorem dX8_entryOf_128 : decode cX8_entryOf 128 = .ok (.aload_n 0, 1) := dk_42 (dk_at dksX8_entryOf_5 13 rfl rfl)
theorem dX8_entryOf_129 : decode cX8_entryOf 129 = .ok (.invokevirtual 176, 3) := dk_182 0 176 (dk_at dksX8_entryOf_5 14 rfl rfl)
theorem dX8_entryOf_132 : decode cX8_entryOf 132 = .ok (.return_, 1) := dk_177 (dk_at dksX8_entryOf_5 17 rfl rfl)
theorem dX8_entryOf_133 : decode cX8_entryOf 133 = .ok (.aload_n 0, 1) := dk_42 (dk_at dksX8_entryOf_5 18 rfl rfl)
theorem dX8_entryOf_134 : decode cX8_entryOf 134 = .ok (.getfield 7, 3) := dk_180 0 7 (dk_at dksX8_entryOf_5 19 rfl rfl)
theorem dX8_entryOf_137 : decode cX8_entryOf 137 = .ok (.bipush 9, 2) := dk_16 9 (dk_at dksX8_entryOf_5 22 rfl rfl)
theorem dX8_entryOf_139 : decode cX8_entryOf 139 = .ok (.iload_n 1, 1) := dk_27 (dk_at dksX8_entryOf_6 0 rfl rfl)
theorem dX8_entryOf_140 : decode cX8_entryOf 140 = .ok (.imul, 1) := dk_104 (dk_at dksX8_entryOf_6 1 rfl rfl)
theorem dX8_entryOf_141 : decode cX8_entryOf 141 = .ok (.iconst 3, 1) := dk_6 (dk_at dksX8_entryOf_6 2 rfl rfl)
theorem dX8_entryOf_142 : decode cX8_entryOf 142 = .ok (.iload_n 2, 1) := dk_28 (dk_at dksX8_entryOf_6 3 rfl rfl)
theorem dX8_entryOf_143 : decode cX8_entryOf 143 = .ok (.imul, 1) := dk_104 (dk_at dksX8_entryOf_6 4 rfl rfl)
theorem dX8_entryOf_144 : decode cX8_entryOf 144 = .ok (.iadd, 1) := dk_96 (dk_at dksX8_entryOf_6 5 rfl rfl)
theorem dX8_entryOf_145 : decode cX8_entryOf 145 = .ok (.iload_n 3, 1) := dk_29 (dk_at dksX8_entryOf_6 6 rfl rfl)
theorem dX8_entryOf_146 : decode cX8_entryOf 146 = .ok (.iadd, 1) := dk_96 (dk_at dksX8_entryOf_6 7 rfl rfl)
theorem dX8_entryOf_147 : decode cX8_entryOf 147 = .ok (.iload 5, 2) := dk_21 5 (dk_at dksX8_entryOf_6 8 rfl rfl)
theorem dX8_entryOf_149 : decode cX8_entryOf 149 = .ok (.iastore, 1) := dk_79 (dk_at dksX8_entryOf_6 10 rfl rfl)
theorem dX8_entryOf_150 : decode cX8_entryOf 150 = .ok (.aload_n 0, 1) := dk_42 (dk_at dksX8_entryOf_6 11 rfl rfl)
theorem dX8_entryOf_151 : decode cX8_entryOf 151 = .ok (.invokevirtual 173, 3) := dk_182 0 173 (dk_at dksX8_entryOf_6 12 rfl rfl)
theorem dX8_entryOf_154 : decode cX8_entryOf 154 = .ok (.return_, 1) := dk_177 (dk_at dksX8_entryOf_6 15 rfl rfl)
abbrev cX8_equation : ByteArray := prog_24_method_34_code
def yX8_equation : MethodName := ⟨RX8, "equation", "(II)I"⟩
def dkwX8_equation_3 : List UInt8 := [100, 172]
abbrev dktX8_equation_3 : List UInt8 := dkwX8_equation_3 ++ []
def dkwX8_equation_2 : List UInt8 := [180, 0, 32, 42, 180, 0, 195, 28, 79, 42, 89, 180, 0, 195, 4, 96, 181, 0, 195, 42, 180, 0, 195, 4]
abbrev dktX8_equation_2 : List UInt8 := dkwX8_equation_2 ++ dktX8_equation_3
def dkwX8_equation_1 : List UInt8 := [180, 0, 195, 16, 6, 160, 0, 6, 16, 254, 172, 42, 180, 0, 29, 42, 180, 0, 195, 27, 79, 42]
abbrev dktX8_equation_1 : List UInt8 := dkwX8_equation_1 ++ dktX8_equation_2
def dkwX8_equation_0 : List UInt8 := [27, 184, 0, 198, 153, 0, 17, 28, 133, 20, 0, 201, 20, 0, 97, 184, 0, 99, 154, 0, 5, 2, 172, 42]
abbrev dktX8_equation_0 : List UInt8 := dkwX8_equation_0 ++ dktX8_equation_1
theorem dksX8_equation_0 : cX8_equation.data.toList.drop 0 = dktX8_equation_0 := by decide +kernel
theorem dksX8_equation_1 : cX8_equation.data.toList.drop 24 = dktX8_equation_1 := dk_seg dksX8_equation_0 24 rfl rfl
theorem dksX8_equation_2 : cX8_equation.data.toList.drop 46 = dktX8_equation_2 := dk_seg dksX8_equation_1 22 rfl rfl
theorem dksX8_equation_3 : cX8_equation.data.toList.drop 70 = dktX8_equation_3 := dk_seg dksX8_equation_2 24 rfl rfl
theorem dX8_equation_0 : decode cX8_equation 0 = .ok (.iload_n 1, 1) := dk_27 (dk_at dksX8_equation_0 0 rfl rfl)
theorem dX8_equation_1 : decode cX8_equation 1 = .ok (.invokestatic 198, 3) := dk_184 0 198 (dk_at dksX8_equation_0 1 rfl rfl)
theorem dX8_equation_4 : decode cX8_equation 4 = .ok (.ifCond .eq 17, 3) := dk_153 0 17 (dk_at dksX8_equation_0 4 rfl rfl)
theorem dX8_equation_7 : decode cX8_equation 7 = .ok (.iload_n 2, 1) := dk_28 (dk_at dksX8_equation_0 7 rfl rfl)
theorem dX8_equation_8 : decode cX8_equation 8 = .ok (.i2l, 1) := dk_133 (dk_at dksX8_equation_0 8 rfl rfl)
theorem dX8_equation_9 : decode cX8_equation 9 = .ok (.ldc2_w 201, 3) := dk_20 0 201 (dk_at dksX8_equation_0 9 rfl rfl)
theorem dX8_equation_12 : decode cX8_equation 12 = .ok (.ldc2_w 97, 3) := dk_20 0 97 (dk_at dksX8_equation_0 12 rfl rfl)
theorem dX8_equation_15 : decode cX8_equation 15 = .ok (.invokestatic 99, 3) := dk_184 0 99 (dk_at dksX8_equation_0 15 rfl rfl)
theorem dX8_equation_18 : decode cX8_equation 18 = .ok (.ifCond .ne 5, 3) := dk_154 0 5 (dk_at dksX8_equation_0 18 rfl rfl)
theorem dX8_equation_21 : decode cX8_equation 21 = .ok (.iconst (-1), 1) := dk_2 (dk_at dksX8_equation_0 21 rfl rfl)
theorem dX8_equation_22 : decode cX8_equation 22 = .ok (.ireturn, 1) := dk_172 (dk_at dksX8_equation_0 22 rfl rfl)
theorem dX8_equation_23 : decode cX8_equation 23 = .ok (.aload_n 0, 1) := dk_42 (dk_at dksX8_equation_0 23 rfl rfl)
theorem dX8_equation_24 : decode cX8_equation 24 = .ok (.getfield 195, 3) := dk_180 0 195 (dk_at dksX8_equation_1 0 rfl rfl)
theorem dX8_equation_27 : decode cX8_equation 27 = .ok (.bipush 6, 2) := dk_16 6 (dk_at dksX8_equation_1 3 rfl rfl)
theorem dX8_equation_29 : decode cX8_equation 29 = .ok (.if_icmp .ne 6, 3) := dk_160 0 6 (dk_at dksX8_equation_1 5 rfl rfl)
theorem dX8_equation_32 : decode cX8_equation 32 = .ok (.bipush (-2), 2) := dk_16 254 (dk_at dksX8_equation_1 8 rfl rfl)
theorem dX8_equation_34 : decode cX8_equation 34 = .ok (.ireturn, 1) := dk_172 (dk_at dksX8_equation_1 10 rfl rfl)
theorem dX8_equation_35 : decode cX8_equation 35 = .ok (.aload_n 0, 1) := dk_42 (dk_at dksX8_equation_1 11 rfl rfl)
theorem dX8_equation_36 : decode cX8_equation 36 = .ok (.getfield 29, 3) := dk_180 0 29 (dk_at dksX8_equation_1 12 rfl rfl)
theorem dX8_equation_39 : decode cX8_equation 39 = .ok (.aload_n 0, 1) := dk_42 (dk_at dksX8_equation_1 15 rfl rfl)
theorem dX8_equation_40 : decode cX8_equation 40 = .ok (.getfield 195, 3) := dk_180 0 195 (dk_at dksX8_equation_1 16 rfl rfl)
theorem dX8_equation_43 : decode cX8_equation 43 = .ok (.iload_n 1, 1) := dk_27 (dk_at dksX8_equation_1 19 rfl rfl)
theorem dX8_equation_44 : decode cX8_equation 44 = .ok (.iastore, 1) := dk_79 (dk_at dksX8_equation_1 20 rfl rfl)
theorem dX8_equation_45 : decode cX8_equation 45 = .ok (.aload_n 0, 1) := dk_42 (dk_at dksX8_equation_1 21 rfl rfl)
theorem dX8_equation_46 : decode cX8_equation 46 = .ok (.getfield 32, 3) := dk_180 0 32 (dk_at dksX8_equation_2 0 rfl rfl)
theorem dX8_equation_49 : decode cX8_equation 49 = .ok (.aload_n 0, 1) := dk_42 (dk_at dksX8_equation_2 3 rfl rfl)
theorem dX8_equation_50 : decode cX8_equation 50 = .ok (.getfield 195, 3) := dk_180 0 195 (dk_at dksX8_equation_2 4 rfl rfl)
theorem dX8_equation_53 : decode cX8_equation 53 = .ok (.iload_n 2, 1) := dk_28 (dk_at dksX8_equation_2 7 rfl rfl)
theorem dX8_equation_54 : decode cX8_equation 54 = .ok (.iastore, 1) := dk_79 (dk_at dksX8_equation_2 8 rfl rfl)
theorem dX8_equation_55 : decode cX8_equation 55 = .ok (.aload_n 0, 1) := dk_42 (dk_at dksX8_equation_2 9 rfl rfl)
theorem dX8_equation_56 : decode cX8_equation 56 = .ok (.dup, 1) := dk_89 (dk_at dksX8_equation_2 10 rfl rfl)
theorem dX8_equation_57 : decode cX8_equation 57 = .ok (.getfield 195, 3) := dk_180 0 195 (dk_at dksX8_equation_2 11 rfl rfl)
theorem dX8_equation_60 : decode cX8_equation 60 = .ok (.iconst 1, 1) := dk_4 (dk_at dksX8_equation_2 14 rfl rfl)
theorem dX8_equation_61 : decode cX8_equation 61 = .ok (.iadd, 1) := dk_96 (dk_at dksX8_equation_2 15 rfl rfl)
theorem dX8_equation_62 : decode cX8_equation 62 = .ok (.putfield 195, 3) := dk_181 0 195 (dk_at dksX8_equation_2 16 rfl rfl)
theorem dX8_equation_65 : decode cX8_equation 65 = .ok (.aload_n 0, 1) := dk_42 (dk_at dksX8_equation_2 19 rfl rfl)
theorem dX8_equation_66 : decode cX8_equation 66 = .ok (.getfield 195, 3) := dk_180 0 195 (dk_at dksX8_equation_2 20 rfl rfl)
theorem dX8_equation_69 : decode cX8_equation 69 = .ok (.iconst 1, 1) := dk_4 (dk_at dksX8_equation_2 23 rfl rfl)
theorem dX8_equation_70 : decode cX8_equation 70 = .ok (.isub, 1) := dk_100 (dk_at dksX8_equation_3 0 rfl rfl)
theorem dX8_equation_71 : decode cX8_equation 71 = .ok (.ireturn, 1) := dk_172 (dk_at dksX8_equation_3 1 rfl rfl)
abbrev cX8_isKind : ByteArray := prog_24_method_31_code
def yX8_isKind : MethodName := ⟨RX8, "isKind", "(I)Z"⟩
def dkwX8_isKind_0 : List UInt8 := [26, 133, 9, 20, 0, 193, 184, 0, 99, 172]
abbrev dktX8_isKind_0 : List UInt8 := dkwX8_isKind_0 ++ []
theorem dksX8_isKind_0 : cX8_isKind.data.toList.drop 0 = dktX8_isKind_0 := by decide +kernel
theorem dX8_isKind_0 : decode cX8_isKind 0 = .ok (.iload_n 0, 1) := dk_26 (dk_at dksX8_isKind_0 0 rfl rfl)
theorem dX8_isKind_1 : decode cX8_isKind 1 = .ok (.i2l, 1) := dk_133 (dk_at dksX8_isKind_0 1 rfl rfl)
theorem dX8_isKind_2 : decode cX8_isKind 2 = .ok (.lconst 0, 1) := dk_9 (dk_at dksX8_isKind_0 2 rfl rfl)
theorem dX8_isKind_3 : decode cX8_isKind 3 = .ok (.ldc2_w 193, 3) := dk_20 0 193 (dk_at dksX8_isKind_0 3 rfl rfl)
theorem dX8_isKind_6 : decode cX8_isKind 6 = .ok (.invokestatic 99, 3) := dk_184 0 99 (dk_at dksX8_isKind_0 6 rfl rfl)
theorem dX8_isKind_9 : decode cX8_isKind 9 = .ok (.ireturn, 1) := dk_172 (dk_at dksX8_isKind_0 9 rfl rfl)
abbrev cX8_change : ByteArray := prog_24_method_35_code
def yX8_change : MethodName := ⟨RX8, "change", "(III)I"⟩
def dkwX8_change_2 : List UInt8 := [180, 0, 32, 27, 29, 79, 21, 4, 172]
abbrev dktX8_change_2 : List UInt8 := dkwX8_change_2 ++ []
def dkwX8_change_1 : List UInt8 := [184, 0, 99, 154, 0, 5, 2, 172, 42, 180, 0, 29, 27, 46, 54, 4, 42, 180, 0, 29, 27, 28, 79, 42]
abbrev dktX8_change_1 : List UInt8 := dkwX8_change_1 ++ dktX8_change_2
def dkwX8_change_0 : List UInt8 := [42, 27, 182, 0, 203, 153, 0, 24, 28, 184, 0, 198, 153, 0, 17, 29, 133, 20, 0, 201, 20, 0, 97]
abbrev dktX8_change_0 : List UInt8 := dkwX8_change_0 ++ dktX8_change_1
theorem dksX8_change_0 : cX8_change.data.toList.drop 0 = dktX8_change_0 := by decide +kernel
theorem dksX8_change_1 : cX8_change.data.toList.drop 23 = dktX8_change_1 := dk_seg dksX8_change_0 23 rfl rfl
theorem dksX8_change_2 : cX8_change.data.toList.drop 47 = dktX8_change_2 := dk_seg dksX8_change_1 24 rfl rfl
theorem dX8_change_0 : decode cX8_change 0 = .ok (.aload_n 0, 1) := dk_42 (dk_at dksX8_change_0 0 rfl rfl)
theorem dX8_change_1 : decode cX8_change 1 = .ok (.iload_n 1, 1) := dk_27 (dk_at dksX8_change_0 1 rfl rfl)
theorem dX8_change_2 : decode cX8_change 2 = .ok (.invokevirtual 203, 3) := dk_182 0 203 (dk_at dksX8_change_0 2 rfl rfl)
theorem dX8_change_5 : decode cX8_change 5 = .ok (.ifCond .eq 24, 3) := dk_153 0 24 (dk_at dksX8_change_0 5 rfl rfl)
theorem dX8_change_8 : decode cX8_change 8 = .ok (.iload_n 2, 1) := dk_28 (dk_at dksX8_change_0 8 rfl rfl)
theorem dX8_change_9 : decode cX8_change 9 = .ok (.invokestatic 198, 3) := dk_184 0 198 (dk_at dksX8_change_0 9 rfl rfl)
theorem dX8_change_12 : decode cX8_change 12 = .ok (.ifCond .eq 17, 3) := dk_153 0 17 (dk_at dksX8_change_0 12 rfl rfl)
theorem dX8_change_15 : decode cX8_change 15 = .ok (.iload_n 3, 1) := dk_29 (dk_at dksX8_change_0 15 rfl rfl)
theorem dX8_change_16 : decode cX8_change 16 = .ok (.i2l, 1) := dk_133 (dk_at dksX8_change_0 16 rfl rfl)
theorem dX8_change_17 : decode cX8_change 17 = .ok (.ldc2_w 201, 3) := dk_20 0 201 (dk_at dksX8_change_0 17 rfl rfl)
theorem dX8_change_20 : decode cX8_change 20 = .ok (.ldc2_w 97, 3) := dk_20 0 97 (dk_at dksX8_change_0 20 rfl rfl)
theorem dX8_change_23 : decode cX8_change 23 = .ok (.invokestatic 99, 3) := dk_184 0 99 (dk_at dksX8_change_1 0 rfl rfl)
theorem dX8_change_26 : decode cX8_change 26 = .ok (.ifCond .ne 5, 3) := dk_154 0 5 (dk_at dksX8_change_1 3 rfl rfl)
theorem dX8_change_29 : decode cX8_change 29 = .ok (.iconst (-1), 1) := dk_2 (dk_at dksX8_change_1 6 rfl rfl)
theorem dX8_change_30 : decode cX8_change 30 = .ok (.ireturn, 1) := dk_172 (dk_at dksX8_change_1 7 rfl rfl)
theorem dX8_change_31 : decode cX8_change 31 = .ok (.aload_n 0, 1) := dk_42 (dk_at dksX8_change_1 8 rfl rfl)
theorem dX8_change_32 : decode cX8_change 32 = .ok (.getfield 29, 3) := dk_180 0 29 (dk_at dksX8_change_1 9 rfl rfl)
theorem dX8_change_35 : decode cX8_change 35 = .ok (.iload_n 1, 1) := dk_27 (dk_at dksX8_change_1 12 rfl rfl)
theorem dX8_change_36 : decode cX8_change 36 = .ok (.iaload, 1) := dk_46 (dk_at dksX8_change_1 13 rfl rfl)
theorem dX8_change_37 : decode cX8_change 37 = .ok (.istore 4, 2) := dk_54 4 (dk_at dksX8_change_1 14 rfl rfl)
theorem dX8_change_39 : decode cX8_change 39 = .ok (.aload_n 0, 1) := dk_42 (dk_at dksX8_change_1 16 rfl rfl)
theorem dX8_change_40 : decode cX8_change 40 = .ok (.getfield 29, 3) := dk_180 0 29 (dk_at dksX8_change_1 17 rfl rfl)
theorem dX8_change_43 : decode cX8_change 43 = .ok (.iload_n 1, 1) := dk_27 (dk_at dksX8_change_1 20 rfl rfl)
theorem dX8_change_44 : decode cX8_change 44 = .ok (.iload_n 2, 1) := dk_28 (dk_at dksX8_change_1 21 rfl rfl)
theorem dX8_change_45 : decode cX8_change 45 = .ok (.iastore, 1) := dk_79 (dk_at dksX8_change_1 22 rfl rfl)
theorem dX8_change_46 : decode cX8_change 46 = .ok (.aload_n 0, 1) := dk_42 (dk_at dksX8_change_1 23 rfl rfl)
theorem dX8_change_47 : decode cX8_change 47 = .ok (.getfield 32, 3) := dk_180 0 32 (dk_at dksX8_change_2 0 rfl rfl)
theorem dX8_change_50 : decode cX8_change 50 = .ok (.iload_n 1, 1) := dk_27 (dk_at dksX8_change_2 3 rfl rfl)
theorem dX8_change_51 : decode cX8_change 51 = .ok (.iload_n 3, 1) := dk_29 (dk_at dksX8_change_2 4 rfl rfl)
theorem dX8_change_52 : decode cX8_change 52 = .ok (.iastore, 1) := dk_79 (dk_at dksX8_change_2 5 rfl rfl)
theorem dX8_change_53 : decode cX8_change 53 = .ok (.iload 4, 2) := dk_21 4 (dk_at dksX8_change_2 6 rfl rfl)
theorem dX8_change_55 : decode cX8_change 55 = .ok (.ireturn, 1) := dk_172 (dk_at dksX8_change_2 8 rfl rfl)
abbrev cX8_isEquation : ByteArray := prog_24_method_33_code
def yX8_isEquation : MethodName := ⟨RX8, "isEquation", "(I)Z"⟩
def dkwX8_isEquation_0 : List UInt8 := [27, 133, 9, 42, 180, 0, 195, 4, 100, 133, 184, 0, 99, 172]
abbrev dktX8_isEquation_0 : List UInt8 := dkwX8_isEquation_0 ++ []
theorem dksX8_isEquation_0 : cX8_isEquation.data.toList.drop 0 = dktX8_isEquation_0 := by decide +kernel
theorem dX8_isEquation_0 : decode cX8_isEquation 0 = .ok (.iload_n 1, 1) := dk_27 (dk_at dksX8_isEquation_0 0 rfl rfl)
theorem dX8_isEquation_1 : decode cX8_isEquation 1 = .ok (.i2l, 1) := dk_133 (dk_at dksX8_isEquation_0 1 rfl rfl)
theorem dX8_isEquation_2 : decode cX8_isEquation 2 = .ok (.lconst 0, 1) := dk_9 (dk_at dksX8_isEquation_0 2 rfl rfl)
theorem dX8_isEquation_3 : decode cX8_isEquation 3 = .ok (.aload_n 0, 1) := dk_42 (dk_at dksX8_isEquation_0 3 rfl rfl)
theorem dX8_isEquation_4 : decode cX8_isEquation 4 = .ok (.getfield 195, 3) := dk_180 0 195 (dk_at dksX8_isEquation_0 4 rfl rfl)
theorem dX8_isEquation_7 : decode cX8_isEquation 7 = .ok (.iconst 1, 1) := dk_4 (dk_at dksX8_isEquation_0 7 rfl rfl)
theorem dX8_isEquation_8 : decode cX8_isEquation 8 = .ok (.isub, 1) := dk_100 (dk_at dksX8_isEquation_0 8 rfl rfl)
theorem dX8_isEquation_9 : decode cX8_isEquation 9 = .ok (.i2l, 1) := dk_133 (dk_at dksX8_isEquation_0 9 rfl rfl)
theorem dX8_isEquation_10 : decode cX8_isEquation 10 = .ok (.invokestatic 99, 3) := dk_184 0 99 (dk_at dksX8_isEquation_0 10 rfl rfl)
theorem dX8_isEquation_13 : decode cX8_isEquation 13 = .ok (.ireturn, 1) := dk_172 (dk_at dksX8_isEquation_0 13 rfl rfl)
abbrev cX8_of : ByteArray := prog_24_method_51_code
def yX8_of : MethodName := ⟨RX8, "of", "(II)I"⟩
def dkwX8_of_6 : List UInt8 := [153, 0, 7, 4, 167, 0, 4, 3, 172]
abbrev dktX8_of_6 : List UInt8 := dkwX8_of_6 ++ []
def dkwX8_of_5 : List UInt8 := [42, 180, 0, 239, 167, 0, 27, 28, 8, 160, 0, 10, 42, 182, 1, 10, 167, 0, 15, 42, 182, 1, 14]
abbrev dktX8_of_5 : List UInt8 := dkwX8_of_5 ++ dktX8_of_6
def dkwX8_of_4 : List UInt8 := [16, 252, 172, 42, 29, 182, 1, 3, 154, 0, 6, 16, 252, 172, 42, 27, 182, 1, 6, 28, 7, 160, 0, 10]
abbrev dktX8_of_4 : List UInt8 := dkwX8_of_4 ++ dktX8_of_5
def dkwX8_of_3 : List UInt8 := [3, 172, 28, 6, 160, 0, 22, 42, 29, 182, 0, 209, 153, 0, 11, 42, 29, 182, 0, 212, 167, 0, 5]
abbrev dktX8_of_3 : List UInt8 := dkwX8_of_3 ++ dktX8_of_4
def dkwX8_of_2 : List UInt8 := [16, 10, 42, 180, 0, 32, 27, 46, 96, 167, 0, 16, 42, 29, 182, 1, 3, 153, 0, 7, 4, 167, 0, 4]
abbrev dktX8_of_2 : List UInt8 := dkwX8_of_2 ++ dktX8_of_3
def dkwX8_of_1 : List UInt8 := [180, 0, 29, 27, 46, 62, 28, 6, 162, 0, 42, 28, 154, 0, 7, 29, 167, 0, 33, 28, 4, 160, 0, 15]
abbrev dktX8_of_1 : List UInt8 := dkwX8_of_1 ++ dktX8_of_2
def dkwX8_of_0 : List UInt8 := [42, 27, 182, 0, 203, 153, 0, 15, 28, 133, 9, 20, 0, 193, 184, 0, 99, 154, 0, 5, 2, 172, 42]
abbrev dktX8_of_0 : List UInt8 := dkwX8_of_0 ++ dktX8_of_1
theorem dksX8_of_0 : cX8_of.data.toList.drop 0 = dktX8_of_0 := by decide +kernel
theorem dksX8_of_1 : cX8_of.data.toList.drop 23 = dktX8_of_1 := dk_seg dksX8_of_0 23 rfl rfl
theorem dksX8_of_2 : cX8_of.data.toList.drop 47 = dktX8_of_2 := dk_seg dksX8_of_1 24 rfl rfl
theorem dksX8_of_3 : cX8_of.data.toList.drop 71 = dktX8_of_3 := dk_seg dksX8_of_2 24 rfl rfl
theorem dksX8_of_4 : cX8_of.data.toList.drop 94 = dktX8_of_4 := dk_seg dksX8_of_3 23 rfl rfl
theorem dksX8_of_5 : cX8_of.data.toList.drop 118 = dktX8_of_5 := dk_seg dksX8_of_4 24 rfl rfl
theorem dksX8_of_6 : cX8_of.data.toList.drop 141 = dktX8_of_6 := dk_seg dksX8_of_5 23 rfl rfl
theorem dX8_of_0 : decode cX8_of 0 = .ok (.aload_n 0, 1) := dk_42 (dk_at dksX8_of_0 0 rfl rfl)
theorem dX8_of_1 : decode cX8_of 1 = .ok (.iload_n 1, 1) := dk_27 (dk_at dksX8_of_0 1 rfl rfl)
theorem dX8_of_2 : decode cX8_of 2 = .ok (.invokevirtual 203, 3) := dk_182 0 203 (dk_at dksX8_of_0 2 rfl rfl)
theorem dX8_of_5 : decode cX8_of 5 = .ok (.ifCond .eq 15, 3) := dk_153 0 15 (dk_at dksX8_of_0 5 rfl rfl)
theorem dX8_of_8 : decode cX8_of 8 = .ok (.iload_n 2, 1) := dk_28 (dk_at dksX8_of_0 8 rfl rfl)
theorem dX8_of_9 : decode cX8_of 9 = .ok (.i2l, 1) := dk_133 (dk_at dksX8_of_0 9 rfl rfl)
theorem dX8_of_10 : decode cX8_of 10 = .ok (.lconst 0, 1) := dk_9 (dk_at dksX8_of_0 10 rfl rfl)
theorem dX8_of_11 : decode cX8_of 11 = .ok (.ldc2_w 193, 3) := dk_20 0 193 (dk_at dksX8_of_0 11 rfl rfl)
theorem dX8_of_14 : decode cX8_of 14 = .ok (.invokestatic 99, 3) := dk_184 0 99 (dk_at dksX8_of_0 14 rfl rfl)
theorem dX8_of_17 : decode cX8_of 17 = .ok (.ifCond .ne 5, 3) := dk_154 0 5 (dk_at dksX8_of_0 17 rfl rfl)
theorem dX8_of_20 : decode cX8_of 20 = .ok (.iconst (-1), 1) := dk_2 (dk_at dksX8_of_0 20 rfl rfl)
theorem dX8_of_21 : decode cX8_of 21 = .ok (.ireturn, 1) := dk_172 (dk_at dksX8_of_0 21 rfl rfl)
theorem dX8_of_22 : decode cX8_of 22 = .ok (.aload_n 0, 1) := dk_42 (dk_at dksX8_of_0 22 rfl rfl)
theorem dX8_of_23 : decode cX8_of 23 = .ok (.getfield 29, 3) := dk_180 0 29 (dk_at dksX8_of_1 0 rfl rfl)
theorem dX8_of_26 : decode cX8_of 26 = .ok (.iload_n 1, 1) := dk_27 (dk_at dksX8_of_1 3 rfl rfl)
theorem dX8_of_27 : decode cX8_of 27 = .ok (.iaload, 1) := dk_46 (dk_at dksX8_of_1 4 rfl rfl)
theorem dX8_of_28 : decode cX8_of 28 = .ok (.istore_n 3, 1) := dk_62 (dk_at dksX8_of_1 5 rfl rfl)
theorem dX8_of_29 : decode cX8_of 29 = .ok (.iload_n 2, 1) := dk_28 (dk_at dksX8_of_1 6 rfl rfl)
theorem dX8_of_30 : decode cX8_of 30 = .ok (.iconst 3, 1) := dk_6 (dk_at dksX8_of_1 7 rfl rfl)
theorem dX8_of_31 : decode cX8_of 31 = .ok (.if_icmp .ge 42, 3) := dk_162 0 42 (dk_at dksX8_of_1 8 rfl rfl)
theorem dX8_of_34 : decode cX8_of 34 = .ok (.iload_n 2, 1) := dk_28 (dk_at dksX8_of_1 11 rfl rfl)
theorem dX8_of_35 : decode cX8_of 35 = .ok (.ifCond .ne 7, 3) := dk_154 0 7 (dk_at dksX8_of_1 12 rfl rfl)
theorem dX8_of_38 : decode cX8_of 38 = .ok (.iload_n 3, 1) := dk_29 (dk_at dksX8_of_1 15 rfl rfl)
theorem dX8_of_39 : decode cX8_of 39 = .ok (.goto 33, 3) := dk_167 0 33 (dk_at dksX8_of_1 16 rfl rfl)
theorem dX8_of_42 : decode cX8_of 42 = .ok (.iload_n 2, 1) := dk_28 (dk_at dksX8_of_1 19 rfl rfl)
theorem dX8_of_43 : decode cX8_of 43 = .ok (.iconst 1, 1) := dk_4 (dk_at dksX8_of_1 20 rfl rfl)
theorem dX8_of_44 : decode cX8_of 44 = .ok (.if_icmp .ne 15, 3) := dk_160 0 15 (dk_at dksX8_of_1 21 rfl rfl)
theorem dX8_of_47 : decode cX8_of 47 = .ok (.bipush 10, 2) := dk_16 10 (dk_at dksX8_of_2 0 rfl rfl)
theorem dX8_of_49 : decode cX8_of 49 = .ok (.aload_n 0, 1) := dk_42 (dk_at dksX8_of_2 2 rfl rfl)
theorem dX8_of_50 : decode cX8_of 50 = .ok (.getfield 32, 3) := dk_180 0 32 (dk_at dksX8_of_2 3 rfl rfl)
theorem dX8_of_53 : decode cX8_of 53 = .ok (.iload_n 1, 1) := dk_27 (dk_at dksX8_of_2 6 rfl rfl)
theorem dX8_of_54 : decode cX8_of 54 = .ok (.iaload, 1) := dk_46 (dk_at dksX8_of_2 7 rfl rfl)
theorem dX8_of_55 : decode cX8_of 55 = .ok (.iadd, 1) := dk_96 (dk_at dksX8_of_2 8 rfl rfl)
theorem dX8_of_56 : decode cX8_of 56 = .ok (.goto 16, 3) := dk_167 0 16 (dk_at dksX8_of_2 9 rfl rfl)
theorem dX8_of_59 : decode cX8_of 59 = .ok (.aload_n 0, 1) := dk_42 (dk_at dksX8_of_2 12 rfl rfl)
theorem dX8_of_60 : decode cX8_of 60 = .ok (.iload_n 3, 1) := dk_29 (dk_at dksX8_of_2 13 rfl rfl)
theorem dX8_of_61 : decode cX8_of 61 = .ok (.invokevirtual 259, 3) := dk_182 1 3 (dk_at dksX8_of_2 14 rfl rfl)
theorem dX8_of_64 : decode cX8_of 64 = .ok (.ifCond .eq 7, 3) := dk_153 0 7 (dk_at dksX8_of_2 17 rfl rfl)
theorem dX8_of_67 : decode cX8_of 67 = .ok (.iconst 1, 1) := dk_4 (dk_at dksX8_of_2 20 rfl rfl)
theorem dX8_of_68 : decode cX8_of 68 = .ok (.goto 4, 3) := dk_167 0 4 (dk_at dksX8_of_2 21 rfl rfl)
theorem dX8_of_71 : decode cX8_of 71 = .ok (.iconst 0, 1) := dk_3 (dk_at dksX8_of_3 0 rfl rfl)
theorem dX8_of_72 : decode cX8_of 72 = .ok (.ireturn, 1) := dk_172 (dk_at dksX8_of_3 1 rfl rfl)
theorem dX8_of_73 : decode cX8_of 73 = .ok (.iload_n 2, 1) := dk_28 (dk_at dksX8_of_3 2 rfl rfl)
theorem dX8_of_74 : decode cX8_of 74 = .ok (.iconst 3, 1) := dk_6 (dk_at dksX8_of_3 3 rfl rfl)
theorem dX8_of_75 : decode cX8_of 75 = .ok (.if_icmp .ne 22, 3) := dk_160 0 22 (dk_at dksX8_of_3 4 rfl rfl)
theorem dX8_of_78 : decode cX8_of 78 = .ok (.aload_n 0, 1) := dk_42 (dk_at dksX8_of_3 7 rfl rfl)
theorem dX8_of_79 : decode cX8_of 79 = .ok (.iload_n 3, 1) := dk_29 (dk_at dksX8_of_3 8 rfl rfl)
theorem dX8_of_80 : decode cX8_of 80 = .ok (.invokevirtual 209, 3) := dk_182 0 209 (dk_at dksX8_of_3 9 rfl rfl)
theorem dX8_of_83 : decode cX8_of 83 = .ok (.ifCond .eq 11, 3) := dk_153 0 11 (dk_at dksX8_of_3 12 rfl rfl)
theorem dX8_of_86 : decode cX8_of 86 = .ok (.aload_n 0, 1) := dk_42 (dk_at dksX8_of_3 15 rfl rfl)
theorem dX8_of_87 : decode cX8_of 87 = .ok (.iload_n 3, 1) := dk_29 (dk_at dksX8_of_3 16 rfl rfl)
theorem dX8_of_88 : decode cX8_of 88 = .ok (.invokevirtual 212, 3) := dk_182 0 212 (dk_at dksX8_of_3 17 rfl rfl)
theorem dX8_of_91 : decode cX8_of 91 = .ok (.goto 5, 3) := dk_167 0 5 (dk_at dksX8_of_3 20 rfl rfl)
theorem dX8_of_94 : decode cX8_of 94 = .ok (.bipush (-4), 2) := dk_16 252 (dk_at dksX8_of_4 0 rfl rfl)
theorem dX8_of_96 : decode cX8_of 96 = .ok (.ireturn, 1) := dk_172 (dk_at dksX8_of_4 2 rfl rfl)
theorem dX8_of_97 : decode cX8_of 97 = .ok (.aload_n 0, 1) := dk_42 (dk_at dksX8_of_4 3 rfl rfl)
theorem dX8_of_98 : decode cX8_of 98 = .ok (.iload_n 3, 1) := dk_29 (dk_at dksX8_of_4 4 rfl rfl)
theorem dX8_of_99 : decode cX8_of 99 = .ok (.invokevirtual 259, 3) := dk_182 1 3 (dk_at dksX8_of_4 5 rfl rfl)
theorem dX8_of_102 : decode cX8_of 102 = .ok (.ifCond .ne 6, 3) := dk_154 0 6 (dk_at dksX8_of_4 8 rfl rfl)
theorem dX8_of_105 : decode cX8_of 105 = .ok (.bipush (-4), 2) := dk_16 252 (dk_at dksX8_of_4 11 rfl rfl)
theorem dX8_of_107 : decode cX8_of 107 = .ok (.ireturn, 1) := dk_172 (dk_at dksX8_of_4 13 rfl rfl)
theorem dX8_of_108 : decode cX8_of 108 = .ok (.aload_n 0, 1) := dk_42 (dk_at dksX8_of_4 14 rfl rfl)
theorem dX8_of_109 : decode cX8_of 109 = .ok (.iload_n 1, 1) := dk_27 (dk_at dksX8_of_4 15 rfl rfl)
theorem dX8_of_110 : decode cX8_of 110 = .ok (.invokevirtual 262, 3) := dk_182 1 6 (dk_at dksX8_of_4 16 rfl rfl)
theorem dX8_of_113 : decode cX8_of 113 = .ok (.iload_n 2, 1) := dk_28 (dk_at dksX8_of_4 19 rfl rfl)
theorem dX8_of_114 : decode cX8_of 114 = .ok (.iconst 4, 1) := dk_7 (dk_at dksX8_of_4 20 rfl rfl)
theorem dX8_of_115 : decode cX8_of 115 = .ok (.if_icmp .ne 10, 3) := dk_160 0 10 (dk_at dksX8_of_4 21 rfl rfl)
theorem dX8_of_118 : decode cX8_of 118 = .ok (.aload_n 0, 1) := dk_42 (dk_at dksX8_of_5 0 rfl rfl)
theorem dX8_of_119 : decode cX8_of 119 = .ok (.getfield 239, 3) := dk_180 0 239 (dk_at dksX8_of_5 1 rfl rfl)
theorem dX8_of_122 : decode cX8_of 122 = .ok (.goto 27, 3) := dk_167 0 27 (dk_at dksX8_of_5 4 rfl rfl)
theorem dX8_of_125 : decode cX8_of 125 = .ok (.iload_n 2, 1) := dk_28 (dk_at dksX8_of_5 7 rfl rfl)
theorem dX8_of_126 : decode cX8_of 126 = .ok (.iconst 5, 1) := dk_8 (dk_at dksX8_of_5 8 rfl rfl)
theorem dX8_of_127 : decode cX8_of 127 = .ok (.if_icmp .ne 10, 3) := dk_160 0 10 (dk_at dksX8_of_5 9 rfl rfl)
theorem dX8_of_130 : decode cX8_of 130 = .ok (.aload_n 0, 1) := dk_42 (dk_at dksX8_of_5 12 rfl rfl)
theorem dX8_of_131 : decode cX8_of 131 = .ok (.invokevirtual 266, 3) := dk_182 1 10 (dk_at dksX8_of_5 13 rfl rfl)
theorem dX8_of_134 : decode cX8_of 134 = .ok (.goto 15, 3) := dk_167 0 15 (dk_at dksX8_of_5 16 rfl rfl)
theorem dX8_of_137 : decode cX8_of 137 = .ok (.aload_n 0, 1) := dk_42 (dk_at dksX8_of_5 19 rfl rfl)
theorem dX8_of_138 : decode cX8_of 138 = .ok (.invokevirtual 270, 3) := dk_182 1 14 (dk_at dksX8_of_5 20 rfl rfl)
theorem dX8_of_141 : decode cX8_of 141 = .ok (.ifCond .eq 7, 3) := dk_153 0 7 (dk_at dksX8_of_6 0 rfl rfl)
theorem dX8_of_144 : decode cX8_of 144 = .ok (.iconst 1, 1) := dk_4 (dk_at dksX8_of_6 3 rfl rfl)
theorem dX8_of_145 : decode cX8_of 145 = .ok (.goto 4, 3) := dk_167 0 4 (dk_at dksX8_of_6 4 rfl rfl)
theorem dX8_of_148 : decode cX8_of 148 = .ok (.iconst 0, 1) := dk_3 (dk_at dksX8_of_6 7 rfl rfl)
theorem dX8_of_149 : decode cX8_of 149 = .ok (.ireturn, 1) := dk_172 (dk_at dksX8_of_6 8 rfl rfl)
abbrev cX8_isFit : ByteArray := prog_24_method_41_code
def yX8_isFit : MethodName := ⟨RX8, "isFit", "(I)Z"⟩
def dkwX8_isFit_0 : List UInt8 := [42, 27, 182, 0, 209, 153, 0, 17, 42, 27, 182, 0, 212, 16, 6, 163, 0, 7, 4, 167, 0, 4, 3, 172]
abbrev dktX8_isFit_0 : List UInt8 := dkwX8_isFit_0 ++ []
theorem dksX8_isFit_0 : cX8_isFit.data.toList.drop 0 = dktX8_isFit_0 := by decide +kernel
theorem dX8_isFit_0 : decode cX8_isFit 0 = .ok (.aload_n 0, 1) := dk_42 (dk_at dksX8_isFit_0 0 rfl rfl)
theorem dX8_isFit_1 : decode cX8_isFit 1 = .ok (.iload_n 1, 1) := dk_27 (dk_at dksX8_isFit_0 1 rfl rfl)
theorem dX8_isFit_2 : decode cX8_isFit 2 = .ok (.invokevirtual 209, 3) := dk_182 0 209 (dk_at dksX8_isFit_0 2 rfl rfl)
theorem dX8_isFit_5 : decode cX8_isFit 5 = .ok (.ifCond .eq 17, 3) := dk_153 0 17 (dk_at dksX8_isFit_0 5 rfl rfl)
theorem dX8_isFit_8 : decode cX8_isFit 8 = .ok (.aload_n 0, 1) := dk_42 (dk_at dksX8_isFit_0 8 rfl rfl)
theorem dX8_isFit_9 : decode cX8_isFit 9 = .ok (.iload_n 1, 1) := dk_27 (dk_at dksX8_isFit_0 9 rfl rfl)
theorem dX8_isFit_10 : decode cX8_isFit 10 = .ok (.invokevirtual 212, 3) := dk_182 0 212 (dk_at dksX8_isFit_0 10 rfl rfl)
theorem dX8_isFit_13 : decode cX8_isFit 13 = .ok (.bipush 6, 2) := dk_16 6 (dk_at dksX8_isFit_0 13 rfl rfl)
theorem dX8_isFit_15 : decode cX8_isFit 15 = .ok (.if_icmp .gt 7, 3) := dk_163 0 7 (dk_at dksX8_isFit_0 15 rfl rfl)
theorem dX8_isFit_18 : decode cX8_isFit 18 = .ok (.iconst 1, 1) := dk_4 (dk_at dksX8_isFit_0 18 rfl rfl)
theorem dX8_isFit_19 : decode cX8_isFit 19 = .ok (.goto 4, 3) := dk_167 0 4 (dk_at dksX8_isFit_0 19 rfl rfl)
theorem dX8_isFit_22 : decode cX8_isFit 22 = .ok (.iconst 0, 1) := dk_3 (dk_at dksX8_isFit_0 22 rfl rfl)
theorem dX8_isFit_23 : decode cX8_isFit 23 = .ok (.ireturn, 1) := dk_172 (dk_at dksX8_isFit_0 23 rfl rfl)
abbrev cX8_isLike : ByteArray := prog_24_method_36_code
def yX8_isLike : MethodName := ⟨RX8, "isLike", "(I)Z"⟩
def dkwX8_isLike_0 : List UInt8 := [27, 4, 164, 0, 14, 42, 180, 0, 23, 42, 180, 0, 19, 160, 0, 7, 4, 167, 0, 4, 3, 172]
abbrev dktX8_isLike_0 : List UInt8 := dkwX8_isLike_0 ++ []
theorem dksX8_isLike_0 : cX8_isLike.data.toList.drop 0 = dktX8_isLike_0 := by decide +kernel
theorem dX8_isLike_0 : decode cX8_isLike 0 = .ok (.iload_n 1, 1) := dk_27 (dk_at dksX8_isLike_0 0 rfl rfl)
theorem dX8_isLike_1 : decode cX8_isLike 1 = .ok (.iconst 1, 1) := dk_4 (dk_at dksX8_isLike_0 1 rfl rfl)
theorem dX8_isLike_2 : decode cX8_isLike 2 = .ok (.if_icmp .le 14, 3) := dk_164 0 14 (dk_at dksX8_isLike_0 2 rfl rfl)
theorem dX8_isLike_5 : decode cX8_isLike 5 = .ok (.aload_n 0, 1) := dk_42 (dk_at dksX8_isLike_0 5 rfl rfl)
theorem dX8_isLike_6 : decode cX8_isLike 6 = .ok (.getfield 23, 3) := dk_180 0 23 (dk_at dksX8_isLike_0 6 rfl rfl)
theorem dX8_isLike_9 : decode cX8_isLike 9 = .ok (.aload_n 0, 1) := dk_42 (dk_at dksX8_isLike_0 9 rfl rfl)
theorem dX8_isLike_10 : decode cX8_isLike 10 = .ok (.getfield 19, 3) := dk_180 0 19 (dk_at dksX8_isLike_0 10 rfl rfl)
theorem dX8_isLike_13 : decode cX8_isLike 13 = .ok (.if_icmp .ne 7, 3) := dk_160 0 7 (dk_at dksX8_isLike_0 13 rfl rfl)
theorem dX8_isLike_16 : decode cX8_isLike 16 = .ok (.iconst 1, 1) := dk_4 (dk_at dksX8_isLike_0 16 rfl rfl)
theorem dX8_isLike_17 : decode cX8_isLike 17 = .ok (.goto 4, 3) := dk_167 0 4 (dk_at dksX8_isLike_0 17 rfl rfl)
theorem dX8_isLike_20 : decode cX8_isLike 20 = .ok (.iconst 0, 1) := dk_3 (dk_at dksX8_isLike_0 20 rfl rfl)
theorem dX8_isLike_21 : decode cX8_isLike 21 = .ok (.ireturn, 1) := dk_172 (dk_at dksX8_isLike_0 21 rfl rfl)
abbrev cX8_unknownsOf : ByteArray := prog_24_method_40_code
def yX8_unknownsOf : MethodName := ⟨RX8, "unknownsOf", "(I)I"⟩
def dkwX8_unknownsOf_2 : List UInt8 := [132, 3, 1, 167, 255, 211, 28, 172]
abbrev dktX8_unknownsOf_2 : List UInt8 := dkwX8_unknownsOf_2 ++ []
def dkwX8_unknownsOf_1 : List UInt8 := [29, 42, 180, 0, 23, 112, 184, 0, 206, 153, 0, 13, 42, 180, 0, 45, 28, 29, 79, 132, 2, 1]
abbrev dktX8_unknownsOf_1 : List UInt8 := dkwX8_unknownsOf_1 ++ dktX8_unknownsOf_2
def dkwX8_unknownsOf_0 : List UInt8 := [3, 61, 3, 62, 29, 42, 180, 0, 19, 42, 180, 0, 23, 104, 162, 0, 38, 27, 29, 42, 180, 0, 23, 108]
abbrev dktX8_unknownsOf_0 : List UInt8 := dkwX8_unknownsOf_0 ++ dktX8_unknownsOf_1
theorem dksX8_unknownsOf_0 : cX8_unknownsOf.data.toList.drop 0 = dktX8_unknownsOf_0 := by decide +kernel
theorem dksX8_unknownsOf_1 : cX8_unknownsOf.data.toList.drop 24 = dktX8_unknownsOf_1 := dk_seg dksX8_unknownsOf_0 24 rfl rfl
theorem dksX8_unknownsOf_2 : cX8_unknownsOf.data.toList.drop 46 = dktX8_unknownsOf_2 := dk_seg dksX8_unknownsOf_1 22 rfl rfl
theorem dX8_unknownsOf_0 : decode cX8_unknownsOf 0 = .ok (.iconst 0, 1) := dk_3 (dk_at dksX8_unknownsOf_0 0 rfl rfl)
theorem dX8_unknownsOf_1 : decode cX8_unknownsOf 1 = .ok (.istore_n 2, 1) := dk_61 (dk_at dksX8_unknownsOf_0 1 rfl rfl)
theorem dX8_unknownsOf_2 : decode cX8_unknownsOf 2 = .ok (.iconst 0, 1) := dk_3 (dk_at dksX8_unknownsOf_0 2 rfl rfl)
theorem dX8_unknownsOf_3 : decode cX8_unknownsOf 3 = .ok (.istore_n 3, 1) := dk_62 (dk_at dksX8_unknownsOf_0 3 rfl rfl)
theorem dX8_unknownsOf_4 : decode cX8_unknownsOf 4 = .ok (.iload_n 3, 1) := dk_29 (dk_at dksX8_unknownsOf_0 4 rfl rfl)
theorem dX8_unknownsOf_5 : decode cX8_unknownsOf 5 = .ok (.aload_n 0, 1) := dk_42 (dk_at dksX8_unknownsOf_0 5 rfl rfl)
theorem dX8_unknownsOf_6 : decode cX8_unknownsOf 6 = .ok (.getfield 19, 3) := dk_180 0 19 (dk_at dksX8_unknownsOf_0 6 rfl rfl)
theorem dX8_unknownsOf_9 : decode cX8_unknownsOf 9 = .ok (.aload_n 0, 1) := dk_42 (dk_at dksX8_unknownsOf_0 9 rfl rfl)
theorem dX8_unknownsOf_10 : decode cX8_unknownsOf 10 = .ok (.getfield 23, 3) := dk_180 0 23 (dk_at dksX8_unknownsOf_0 10 rfl rfl)
theorem dX8_unknownsOf_13 : decode cX8_unknownsOf 13 = .ok (.imul, 1) := dk_104 (dk_at dksX8_unknownsOf_0 13 rfl rfl)
theorem dX8_unknownsOf_14 : decode cX8_unknownsOf 14 = .ok (.if_icmp .ge 38, 3) := dk_162 0 38 (dk_at dksX8_unknownsOf_0 14 rfl rfl)
theorem dX8_unknownsOf_17 : decode cX8_unknownsOf 17 = .ok (.iload_n 1, 1) := dk_27 (dk_at dksX8_unknownsOf_0 17 rfl rfl)
theorem dX8_unknownsOf_18 : decode cX8_unknownsOf 18 = .ok (.iload_n 3, 1) := dk_29 (dk_at dksX8_unknownsOf_0 18 rfl rfl)
theorem dX8_unknownsOf_19 : decode cX8_unknownsOf 19 = .ok (.aload_n 0, 1) := dk_42 (dk_at dksX8_unknownsOf_0 19 rfl rfl)
theorem dX8_unknownsOf_20 : decode cX8_unknownsOf 20 = .ok (.getfield 23, 3) := dk_180 0 23 (dk_at dksX8_unknownsOf_0 20 rfl rfl)
theorem dX8_unknownsOf_23 : decode cX8_unknownsOf 23 = .ok (.idiv, 1) := dk_108 (dk_at dksX8_unknownsOf_0 23 rfl rfl)
theorem dX8_unknownsOf_24 : decode cX8_unknownsOf 24 = .ok (.iload_n 3, 1) := dk_29 (dk_at dksX8_unknownsOf_1 0 rfl rfl)
theorem dX8_unknownsOf_25 : decode cX8_unknownsOf 25 = .ok (.aload_n 0, 1) := dk_42 (dk_at dksX8_unknownsOf_1 1 rfl rfl)
theorem dX8_unknownsOf_26 : decode cX8_unknownsOf 26 = .ok (.getfield 23, 3) := dk_180 0 23 (dk_at dksX8_unknownsOf_1 2 rfl rfl)
theorem dX8_unknownsOf_29 : decode cX8_unknownsOf 29 = .ok (.irem, 1) := dk_112 (dk_at dksX8_unknownsOf_1 5 rfl rfl)
theorem dX8_unknownsOf_30 : decode cX8_unknownsOf 30 = .ok (.invokestatic 206, 3) := dk_184 0 206 (dk_at dksX8_unknownsOf_1 6 rfl rfl)
theorem dX8_unknownsOf_33 : decode cX8_unknownsOf 33 = .ok (.ifCond .eq 13, 3) := dk_153 0 13 (dk_at dksX8_unknownsOf_1 9 rfl rfl)
theorem dX8_unknownsOf_36 : decode cX8_unknownsOf 36 = .ok (.aload_n 0, 1) := dk_42 (dk_at dksX8_unknownsOf_1 12 rfl rfl)
theorem dX8_unknownsOf_37 : decode cX8_unknownsOf 37 = .ok (.getfield 45, 3) := dk_180 0 45 (dk_at dksX8_unknownsOf_1 13 rfl rfl)
theorem dX8_unknownsOf_40 : decode cX8_unknownsOf 40 = .ok (.iload_n 2, 1) := dk_28 (dk_at dksX8_unknownsOf_1 16 rfl rfl)
theorem dX8_unknownsOf_41 : decode cX8_unknownsOf 41 = .ok (.iload_n 3, 1) := dk_29 (dk_at dksX8_unknownsOf_1 17 rfl rfl)
theorem dX8_unknownsOf_42 : decode cX8_unknownsOf 42 = .ok (.iastore, 1) := dk_79 (dk_at dksX8_unknownsOf_1 18 rfl rfl)
theorem dX8_unknownsOf_43 : decode cX8_unknownsOf 43 = .ok (.iinc 2 1, 3) := dk_132 2 1 (dk_at dksX8_unknownsOf_1 19 rfl rfl)
theorem dX8_unknownsOf_46 : decode cX8_unknownsOf 46 = .ok (.iinc 3 1, 3) := dk_132 3 1 (dk_at dksX8_unknownsOf_2 0 rfl rfl)
theorem dX8_unknownsOf_49 : decode cX8_unknownsOf 49 = .ok (.goto (-45), 3) := dk_167 255 211 (dk_at dksX8_unknownsOf_2 3 rfl rfl)
theorem dX8_unknownsOf_52 : decode cX8_unknownsOf 52 = .ok (.iload_n 2, 1) := dk_28 (dk_at dksX8_unknownsOf_2 6 rfl rfl)
theorem dX8_unknownsOf_53 : decode cX8_unknownsOf 53 = .ok (.ireturn, 1) := dk_172 (dk_at dksX8_unknownsOf_2 7 rfl rfl)
abbrev cX8_isUnknown : ByteArray := prog_24_method_39_code
def yX8_isUnknown : MethodName := ⟨RX8, "isUnknown", "(III)Z"⟩
def dkwX8_isUnknown_2 : List UInt8 := [167, 0, 4, 3, 172]
abbrev dktX8_isUnknown_2 : List UInt8 := dkwX8_isUnknown_2 ++ []
def dkwX8_isUnknown_1 : List UInt8 := [27, 161, 0, 7, 4, 167, 0, 23, 3, 167, 0, 19, 26, 16, 6, 160, 0, 8, 28, 27, 164, 0, 7, 4]
abbrev dktX8_isUnknown_1 : List UInt8 := dkwX8_isUnknown_1 ++ dktX8_isUnknown_2
def dkwX8_isUnknown_0 : List UInt8 := [26, 7, 160, 0, 16, 27, 28, 160, 0, 7, 4, 167, 0, 41, 3, 167, 0, 37, 26, 8, 160, 0, 16, 28]
abbrev dktX8_isUnknown_0 : List UInt8 := dkwX8_isUnknown_0 ++ dktX8_isUnknown_1
theorem dksX8_isUnknown_0 : cX8_isUnknown.data.toList.drop 0 = dktX8_isUnknown_0 := by decide +kernel
theorem dksX8_isUnknown_1 : cX8_isUnknown.data.toList.drop 24 = dktX8_isUnknown_1 := dk_seg dksX8_isUnknown_0 24 rfl rfl
theorem dksX8_isUnknown_2 : cX8_isUnknown.data.toList.drop 48 = dktX8_isUnknown_2 := dk_seg dksX8_isUnknown_1 24 rfl rfl
theorem dX8_isUnknown_0 : decode cX8_isUnknown 0 = .ok (.iload_n 0, 1) := dk_26 (dk_at dksX8_isUnknown_0 0 rfl rfl)
theorem dX8_isUnknown_1 : decode cX8_isUnknown 1 = .ok (.iconst 4, 1) := dk_7 (dk_at dksX8_isUnknown_0 1 rfl rfl)
theorem dX8_isUnknown_2 : decode cX8_isUnknown 2 = .ok (.if_icmp .ne 16, 3) := dk_160 0 16 (dk_at dksX8_isUnknown_0 2 rfl rfl)
theorem dX8_isUnknown_5 : decode cX8_isUnknown 5 = .ok (.iload_n 1, 1) := dk_27 (dk_at dksX8_isUnknown_0 5 rfl rfl)
theorem dX8_isUnknown_6 : decode cX8_isUnknown 6 = .ok (.iload_n 2, 1) := dk_28 (dk_at dksX8_isUnknown_0 6 rfl rfl)
theorem dX8_isUnknown_7 : decode cX8_isUnknown 7 = .ok (.if_icmp .ne 7, 3) := dk_160 0 7 (dk_at dksX8_isUnknown_0 7 rfl rfl)
theorem dX8_isUnknown_10 : decode cX8_isUnknown 10 = .ok (.iconst 1, 1) := dk_4 (dk_at dksX8_isUnknown_0 10 rfl rfl)
theorem dX8_isUnknown_11 : decode cX8_isUnknown 11 = .ok (.goto 41, 3) := dk_167 0 41 (dk_at dksX8_isUnknown_0 11 rfl rfl)
theorem dX8_isUnknown_14 : decode cX8_isUnknown 14 = .ok (.iconst 0, 1) := dk_3 (dk_at dksX8_isUnknown_0 14 rfl rfl)
theorem dX8_isUnknown_15 : decode cX8_isUnknown 15 = .ok (.goto 37, 3) := dk_167 0 37 (dk_at dksX8_isUnknown_0 15 rfl rfl)
theorem dX8_isUnknown_18 : decode cX8_isUnknown 18 = .ok (.iload_n 0, 1) := dk_26 (dk_at dksX8_isUnknown_0 18 rfl rfl)
theorem dX8_isUnknown_19 : decode cX8_isUnknown 19 = .ok (.iconst 5, 1) := dk_8 (dk_at dksX8_isUnknown_0 19 rfl rfl)
theorem dX8_isUnknown_20 : decode cX8_isUnknown 20 = .ok (.if_icmp .ne 16, 3) := dk_160 0 16 (dk_at dksX8_isUnknown_0 20 rfl rfl)
theorem dX8_isUnknown_23 : decode cX8_isUnknown 23 = .ok (.iload_n 2, 1) := dk_28 (dk_at dksX8_isUnknown_0 23 rfl rfl)
theorem dX8_isUnknown_24 : decode cX8_isUnknown 24 = .ok (.iload_n 1, 1) := dk_27 (dk_at dksX8_isUnknown_1 0 rfl rfl)
theorem dX8_isUnknown_25 : decode cX8_isUnknown 25 = .ok (.if_icmp .lt 7, 3) := dk_161 0 7 (dk_at dksX8_isUnknown_1 1 rfl rfl)
theorem dX8_isUnknown_28 : decode cX8_isUnknown 28 = .ok (.iconst 1, 1) := dk_4 (dk_at dksX8_isUnknown_1 4 rfl rfl)
theorem dX8_isUnknown_29 : decode cX8_isUnknown 29 = .ok (.goto 23, 3) := dk_167 0 23 (dk_at dksX8_isUnknown_1 5 rfl rfl)
theorem dX8_isUnknown_32 : decode cX8_isUnknown 32 = .ok (.iconst 0, 1) := dk_3 (dk_at dksX8_isUnknown_1 8 rfl rfl)
theorem dX8_isUnknown_33 : decode cX8_isUnknown 33 = .ok (.goto 19, 3) := dk_167 0 19 (dk_at dksX8_isUnknown_1 9 rfl rfl)
theorem dX8_isUnknown_36 : decode cX8_isUnknown 36 = .ok (.iload_n 0, 1) := dk_26 (dk_at dksX8_isUnknown_1 12 rfl rfl)
theorem dX8_isUnknown_37 : decode cX8_isUnknown 37 = .ok (.bipush 6, 2) := dk_16 6 (dk_at dksX8_isUnknown_1 13 rfl rfl)
theorem dX8_isUnknown_39 : decode cX8_isUnknown 39 = .ok (.if_icmp .ne 8, 3) := dk_160 0 8 (dk_at dksX8_isUnknown_1 15 rfl rfl)
theorem dX8_isUnknown_42 : decode cX8_isUnknown 42 = .ok (.iload_n 2, 1) := dk_28 (dk_at dksX8_isUnknown_1 18 rfl rfl)
theorem dX8_isUnknown_43 : decode cX8_isUnknown 43 = .ok (.iload_n 1, 1) := dk_27 (dk_at dksX8_isUnknown_1 19 rfl rfl)
theorem dX8_isUnknown_44 : decode cX8_isUnknown 44 = .ok (.if_icmp .le 7, 3) := dk_164 0 7 (dk_at dksX8_isUnknown_1 20 rfl rfl)
theorem dX8_isUnknown_47 : decode cX8_isUnknown 47 = .ok (.iconst 1, 1) := dk_4 (dk_at dksX8_isUnknown_1 23 rfl rfl)
theorem dX8_isUnknown_48 : decode cX8_isUnknown 48 = .ok (.goto 4, 3) := dk_167 0 4 (dk_at dksX8_isUnknown_2 0 rfl rfl)
theorem dX8_isUnknown_51 : decode cX8_isUnknown 51 = .ok (.iconst 0, 1) := dk_3 (dk_at dksX8_isUnknown_2 3 rfl rfl)
theorem dX8_isUnknown_52 : decode cX8_isUnknown 52 = .ok (.ireturn, 1) := dk_172 (dk_at dksX8_isUnknown_2 4 rfl rfl)
abbrev cX8_setsUp : ByteArray := prog_24_method_49_code
def yX8_setsUp : MethodName := ⟨RX8, "setsUp", "(I)V"⟩
def dkwX8_setsUp_0 : List UInt8 := [42, 42, 180, 0, 29, 27, 46, 42, 180, 0, 29, 27, 46, 42, 180, 0, 32, 27, 46, 3, 182, 0, 255, 177]
abbrev dktX8_setsUp_0 : List UInt8 := dkwX8_setsUp_0 ++ []
theorem dksX8_setsUp_0 : cX8_setsUp.data.toList.drop 0 = dktX8_setsUp_0 := by decide +kernel
theorem dX8_setsUp_0 : decode cX8_setsUp 0 = .ok (.aload_n 0, 1) := dk_42 (dk_at dksX8_setsUp_0 0 rfl rfl)
theorem dX8_setsUp_1 : decode cX8_setsUp 1 = .ok (.aload_n 0, 1) := dk_42 (dk_at dksX8_setsUp_0 1 rfl rfl)
theorem dX8_setsUp_2 : decode cX8_setsUp 2 = .ok (.getfield 29, 3) := dk_180 0 29 (dk_at dksX8_setsUp_0 2 rfl rfl)
theorem dX8_setsUp_5 : decode cX8_setsUp 5 = .ok (.iload_n 1, 1) := dk_27 (dk_at dksX8_setsUp_0 5 rfl rfl)
theorem dX8_setsUp_6 : decode cX8_setsUp 6 = .ok (.iaload, 1) := dk_46 (dk_at dksX8_setsUp_0 6 rfl rfl)
theorem dX8_setsUp_7 : decode cX8_setsUp 7 = .ok (.aload_n 0, 1) := dk_42 (dk_at dksX8_setsUp_0 7 rfl rfl)
theorem dX8_setsUp_8 : decode cX8_setsUp 8 = .ok (.getfield 29, 3) := dk_180 0 29 (dk_at dksX8_setsUp_0 8 rfl rfl)
theorem dX8_setsUp_11 : decode cX8_setsUp 11 = .ok (.iload_n 1, 1) := dk_27 (dk_at dksX8_setsUp_0 11 rfl rfl)
theorem dX8_setsUp_12 : decode cX8_setsUp 12 = .ok (.iaload, 1) := dk_46 (dk_at dksX8_setsUp_0 12 rfl rfl)
theorem dX8_setsUp_13 : decode cX8_setsUp 13 = .ok (.aload_n 0, 1) := dk_42 (dk_at dksX8_setsUp_0 13 rfl rfl)
theorem dX8_setsUp_14 : decode cX8_setsUp 14 = .ok (.getfield 32, 3) := dk_180 0 32 (dk_at dksX8_setsUp_0 14 rfl rfl)
theorem dX8_setsUp_17 : decode cX8_setsUp 17 = .ok (.iload_n 1, 1) := dk_27 (dk_at dksX8_setsUp_0 17 rfl rfl)
theorem dX8_setsUp_18 : decode cX8_setsUp 18 = .ok (.iaload, 1) := dk_46 (dk_at dksX8_setsUp_0 18 rfl rfl)
theorem dX8_setsUp_19 : decode cX8_setsUp 19 = .ok (.iconst 0, 1) := dk_3 (dk_at dksX8_setsUp_0 19 rfl rfl)
theorem dX8_setsUp_20 : decode cX8_setsUp 20 = .ok (.invokevirtual 255, 3) := dk_182 0 255 (dk_at dksX8_setsUp_0 20 rfl rfl)
theorem dX8_setsUp_23 : decode cX8_setsUp 23 = .ok (.return_, 1) := dk_177 (dk_at dksX8_setsUp_0 23 rfl rfl)
abbrev cX8_sets : ByteArray := prog_24_method_48_code
def yX8_sets : MethodName := ⟨RX8, "sets", "(IIII)V"⟩
def dkwX8_sets_7 : List UInt8 := [167, 255, 145, 42, 182, 0, 252, 177]
abbrev dktX8_sets_7 : List UInt8 := dkwX8_sets_7 ++ []
def dkwX8_sets_6 : List UInt8 := [42, 180, 0, 23, 108, 21, 7, 21, 6, 96, 42, 180, 0, 23, 112, 182, 0, 128, 133, 80, 132, 7, 1]
abbrev dktX8_sets_6 : List UInt8 := dkwX8_sets_6 ++ dktX8_sets_7
def dkwX8_sets_5 : List UInt8 := [167, 255, 204, 42, 180, 0, 48, 16, 8, 21, 7, 104, 42, 180, 0, 229, 96, 42, 5, 21, 7, 21, 6, 96]
abbrev dktX8_sets_5 : List UInt8 := dkwX8_sets_5 ++ dktX8_sets_6
def dkwX8_sets_4 : List UInt8 := [21, 8, 21, 4, 154, 0, 7, 3, 167, 0, 5, 21, 6, 96, 182, 0, 249, 133, 80, 132, 8, 1]
abbrev dktX8_sets_4 : List UInt8 := dkwX8_sets_4 ++ dktX8_sets_5
def dkwX8_sets_3 : List UInt8 := [162, 0, 49, 42, 180, 0, 48, 16, 8, 21, 7, 104, 21, 8, 96, 42, 27, 28, 29, 21, 7, 21, 6, 96]
abbrev dktX8_sets_3 : List UInt8 := dkwX8_sets_3 ++ dktX8_sets_4
def dkwX8_sets_2 : List UInt8 := [181, 0, 232, 3, 54, 7, 21, 7, 42, 180, 0, 232, 162, 0, 108, 3, 54, 8, 21, 8, 42, 180, 0, 229]
abbrev dktX8_sets_2 : List UInt8 := dkwX8_sets_2 ++ dktX8_sets_3
def dkwX8_sets_1 : List UInt8 := [3, 167, 0, 5, 21, 6, 100, 181, 0, 229, 42, 42, 180, 0, 19, 42, 180, 0, 23, 104, 21, 6, 100]
abbrev dktX8_sets_1 : List UInt8 := dkwX8_sets_1 ++ dktX8_sets_2
def dkwX8_sets_0 : List UInt8 := [42, 28, 182, 0, 212, 54, 5, 21, 4, 42, 180, 0, 23, 104, 54, 6, 42, 21, 5, 21, 4, 154, 0, 7]
abbrev dktX8_sets_0 : List UInt8 := dkwX8_sets_0 ++ dktX8_sets_1
theorem dksX8_sets_0 : cX8_sets.data.toList.drop 0 = dktX8_sets_0 := by decide +kernel
theorem dksX8_sets_1 : cX8_sets.data.toList.drop 24 = dktX8_sets_1 := dk_seg dksX8_sets_0 24 rfl rfl
theorem dksX8_sets_2 : cX8_sets.data.toList.drop 47 = dktX8_sets_2 := dk_seg dksX8_sets_1 23 rfl rfl
theorem dksX8_sets_3 : cX8_sets.data.toList.drop 71 = dktX8_sets_3 := dk_seg dksX8_sets_2 24 rfl rfl
theorem dksX8_sets_4 : cX8_sets.data.toList.drop 95 = dktX8_sets_4 := dk_seg dksX8_sets_3 24 rfl rfl
theorem dksX8_sets_5 : cX8_sets.data.toList.drop 117 = dktX8_sets_5 := dk_seg dksX8_sets_4 22 rfl rfl
theorem dksX8_sets_6 : cX8_sets.data.toList.drop 141 = dktX8_sets_6 := dk_seg dksX8_sets_5 24 rfl rfl
theorem dksX8_sets_7 : cX8_sets.data.toList.drop 164 = dktX8_sets_7 := dk_seg dksX8_sets_6 23 rfl rfl
theorem dX8_sets_0 : decode cX8_sets 0 = .ok (.aload_n 0, 1) := dk_42 (dk_at dksX8_sets_0 0 rfl rfl)
theorem dX8_sets_1 : decode cX8_sets 1 = .ok (.iload_n 2, 1) := dk_28 (dk_at dksX8_sets_0 1 rfl rfl)
theorem dX8_sets_2 : decode cX8_sets 2 = .ok (.invokevirtual 212, 3) := dk_182 0 212 (dk_at dksX8_sets_0 2 rfl rfl)
theorem dX8_sets_5 : decode cX8_sets 5 = .ok (.istore 5, 2) := dk_54 5 (dk_at dksX8_sets_0 5 rfl rfl)
theorem dX8_sets_7 : decode cX8_sets 7 = .ok (.iload 4, 2) := dk_21 4 (dk_at dksX8_sets_0 7 rfl rfl)
theorem dX8_sets_9 : decode cX8_sets 9 = .ok (.aload_n 0, 1) := dk_42 (dk_at dksX8_sets_0 9 rfl rfl)
theorem dX8_sets_10 : decode cX8_sets 10 = .ok (.getfield 23, 3) := dk_180 0 23 (dk_at dksX8_sets_0 10 rfl rfl)
theorem dX8_sets_13 : decode cX8_sets 13 = .ok (.imul, 1) := dk_104 (dk_at dksX8_sets_0 13 rfl rfl)
theorem dX8_sets_14 : decode cX8_sets 14 = .ok (.istore 6, 2) := dk_54 6 (dk_at dksX8_sets_0 14 rfl rfl)
theorem dX8_sets_16 : decode cX8_sets 16 = .ok (.aload_n 0, 1) := dk_42 (dk_at dksX8_sets_0 16 rfl rfl)
theorem dX8_sets_17 : decode cX8_sets 17 = .ok (.iload 5, 2) := dk_21 5 (dk_at dksX8_sets_0 17 rfl rfl)
theorem dX8_sets_19 : decode cX8_sets 19 = .ok (.iload 4, 2) := dk_21 4 (dk_at dksX8_sets_0 19 rfl rfl)
theorem dX8_sets_21 : decode cX8_sets 21 = .ok (.ifCond .ne 7, 3) := dk_154 0 7 (dk_at dksX8_sets_0 21 rfl rfl)
theorem dX8_sets_24 : decode cX8_sets 24 = .ok (.iconst 0, 1) := dk_3 (dk_at dksX8_sets_1 0 rfl rfl)
theorem dX8_sets_25 : decode cX8_sets 25 = .ok (.goto 5, 3) := dk_167 0 5 (dk_at dksX8_sets_1 1 rfl rfl)
theorem dX8_sets_28 : decode cX8_sets 28 = .ok (.iload 6, 2) := dk_21 6 (dk_at dksX8_sets_1 4 rfl rfl)
theorem dX8_sets_30 : decode cX8_sets 30 = .ok (.isub, 1) := dk_100 (dk_at dksX8_sets_1 6 rfl rfl)
theorem dX8_sets_31 : decode cX8_sets 31 = .ok (.putfield 229, 3) := dk_181 0 229 (dk_at dksX8_sets_1 7 rfl rfl)
theorem dX8_sets_34 : decode cX8_sets 34 = .ok (.aload_n 0, 1) := dk_42 (dk_at dksX8_sets_1 10 rfl rfl)
theorem dX8_sets_35 : decode cX8_sets 35 = .ok (.aload_n 0, 1) := dk_42 (dk_at dksX8_sets_1 11 rfl rfl)
theorem dX8_sets_36 : decode cX8_sets 36 = .ok (.getfield 19, 3) := dk_180 0 19 (dk_at dksX8_sets_1 12 rfl rfl)
theorem dX8_sets_39 : decode cX8_sets 39 = .ok (.aload_n 0, 1) := dk_42 (dk_at dksX8_sets_1 15 rfl rfl)
theorem dX8_sets_40 : decode cX8_sets 40 = .ok (.getfield 23, 3) := dk_180 0 23 (dk_at dksX8_sets_1 16 rfl rfl)
theorem dX8_sets_43 : decode cX8_sets 43 = .ok (.imul, 1) := dk_104 (dk_at dksX8_sets_1 19 rfl rfl)
theorem dX8_sets_44 : decode cX8_sets 44 = .ok (.iload 6, 2) := dk_21 6 (dk_at dksX8_sets_1 20 rfl rfl)
theorem dX8_sets_46 : decode cX8_sets 46 = .ok (.isub, 1) := dk_100 (dk_at dksX8_sets_1 22 rfl rfl)
theorem dX8_sets_47 : decode cX8_sets 47 = .ok (.putfield 232, 3) := dk_181 0 232 (dk_at dksX8_sets_2 0 rfl rfl)
theorem dX8_sets_50 : decode cX8_sets 50 = .ok (.iconst 0, 1) := dk_3 (dk_at dksX8_sets_2 3 rfl rfl)
theorem dX8_sets_51 : decode cX8_sets 51 = .ok (.istore 7, 2) := dk_54 7 (dk_at dksX8_sets_2 4 rfl rfl)
theorem dX8_sets_53 : decode cX8_sets 53 = .ok (.iload 7, 2) := dk_21 7 (dk_at dksX8_sets_2 6 rfl rfl)
theorem dX8_sets_55 : decode cX8_sets 55 = .ok (.aload_n 0, 1) := dk_42 (dk_at dksX8_sets_2 8 rfl rfl)
theorem dX8_sets_56 : decode cX8_sets 56 = .ok (.getfield 232, 3) := dk_180 0 232 (dk_at dksX8_sets_2 9 rfl rfl)
theorem dX8_sets_59 : decode cX8_sets 59 = .ok (.if_icmp .ge 108, 3) := dk_162 0 108 (dk_at dksX8_sets_2 12 rfl rfl)
theorem dX8_sets_62 : decode cX8_sets 62 = .ok (.iconst 0, 1) := dk_3 (dk_at dksX8_sets_2 15 rfl rfl)
theorem dX8_sets_63 : decode cX8_sets 63 = .ok (.istore 8, 2) := dk_54 8 (dk_at dksX8_sets_2 16 rfl rfl)
theorem dX8_sets_65 : decode cX8_sets 65 = .ok (.iload 8, 2) := dk_21 8 (dk_at dksX8_sets_2 18 rfl rfl)
theorem dX8_sets_67 : decode cX8_sets 67 = .ok (.aload_n 0, 1) := dk_42 (dk_at dksX8_sets_2 20 rfl rfl)
theorem dX8_sets_68 : decode cX8_sets 68 = .ok (.getfield 229, 3) := dk_180 0 229 (dk_at dksX8_sets_2 21 rfl rfl)
theorem dX8_sets_71 : decode cX8_sets 71 = .ok (.if_icmp .ge 49, 3) := dk_162 0 49 (dk_at dksX8_sets_3 0 rfl rfl)
theorem dX8_sets_74 : decode cX8_sets 74 = .ok (.aload_n 0, 1) := dk_42 (dk_at dksX8_sets_3 3 rfl rfl)
theorem dX8_sets_75 : decode cX8_sets 75 = .ok (.getfield 48, 3) := dk_180 0 48 (dk_at dksX8_sets_3 4 rfl rfl)
theorem dX8_sets_78 : decode cX8_sets 78 = .ok (.bipush 8, 2) := dk_16 8 (dk_at dksX8_sets_3 7 rfl rfl)
theorem dX8_sets_80 : decode cX8_sets 80 = .ok (.iload 7, 2) := dk_21 7 (dk_at dksX8_sets_3 9 rfl rfl)
theorem dX8_sets_82 : decode cX8_sets 82 = .ok (.imul, 1) := dk_104 (dk_at dksX8_sets_3 11 rfl rfl)
theorem dX8_sets_83 : decode cX8_sets 83 = .ok (.iload 8, 2) := dk_21 8 (dk_at dksX8_sets_3 12 rfl rfl)
theorem dX8_sets_85 : decode cX8_sets 85 = .ok (.iadd, 1) := dk_96 (dk_at dksX8_sets_3 14 rfl rfl)
theorem dX8_sets_86 : decode cX8_sets 86 = .ok (.aload_n 0, 1) := dk_42 (dk_at dksX8_sets_3 15 rfl rfl)
theorem dX8_sets_87 : decode cX8_sets 87 = .ok (.iload_n 1, 1) := dk_27 (dk_at dksX8_sets_3 16 rfl rfl)
theorem dX8_sets_88 : decode cX8_sets 88 = .ok (.iload_n 2, 1) := dk_28 (dk_at dksX8_sets_3 17 rfl rfl)
theorem dX8_sets_89 : decode cX8_sets 89 = .ok (.iload_n 3, 1) := dk_29 (dk_at dksX8_sets_3 18 rfl rfl)
theorem dX8_sets_90 : decode cX8_sets 90 = .ok (.iload 7, 2) := dk_21 7 (dk_at dksX8_sets_3 19 rfl rfl)
theorem dX8_sets_92 : decode cX8_sets 92 = .ok (.iload 6, 2) := dk_21 6 (dk_at dksX8_sets_3 21 rfl rfl)
theorem dX8_sets_94 : decode cX8_sets 94 = .ok (.iadd, 1) := dk_96 (dk_at dksX8_sets_3 23 rfl rfl)
theorem dX8_sets_95 : decode cX8_sets 95 = .ok (.iload 8, 2) := dk_21 8 (dk_at dksX8_sets_4 0 rfl rfl)
theorem dX8_sets_97 : decode cX8_sets 97 = .ok (.iload 4, 2) := dk_21 4 (dk_at dksX8_sets_4 2 rfl rfl)
theorem dX8_sets_99 : decode cX8_sets 99 = .ok (.ifCond .ne 7, 3) := dk_154 0 7 (dk_at dksX8_sets_4 4 rfl rfl)
theorem dX8_sets_102 : decode cX8_sets 102 = .ok (.iconst 0, 1) := dk_3 (dk_at dksX8_sets_4 7 rfl rfl)
theorem dX8_sets_103 : decode cX8_sets 103 = .ok (.goto 5, 3) := dk_167 0 5 (dk_at dksX8_sets_4 8 rfl rfl)
theorem dX8_sets_106 : decode cX8_sets 106 = .ok (.iload 6, 2) := dk_21 6 (dk_at dksX8_sets_4 11 rfl rfl)
theorem dX8_sets_108 : decode cX8_sets 108 = .ok (.iadd, 1) := dk_96 (dk_at dksX8_sets_4 13 rfl rfl)
theorem dX8_sets_109 : decode cX8_sets 109 = .ok (.invokevirtual 249, 3) := dk_182 0 249 (dk_at dksX8_sets_4 14 rfl rfl)
theorem dX8_sets_112 : decode cX8_sets 112 = .ok (.i2l, 1) := dk_133 (dk_at dksX8_sets_4 17 rfl rfl)
theorem dX8_sets_113 : decode cX8_sets 113 = .ok (.lastore, 1) := dk_80 (dk_at dksX8_sets_4 18 rfl rfl)
theorem dX8_sets_114 : decode cX8_sets 114 = .ok (.iinc 8 1, 3) := dk_132 8 1 (dk_at dksX8_sets_4 19 rfl rfl)
theorem dX8_sets_117 : decode cX8_sets 117 = .ok (.goto (-52), 3) := dk_167 255 204 (dk_at dksX8_sets_5 0 rfl rfl)
theorem dX8_sets_120 : decode cX8_sets 120 = .ok (.aload_n 0, 1) := dk_42 (dk_at dksX8_sets_5 3 rfl rfl)
theorem dX8_sets_121 : decode cX8_sets 121 = .ok (.getfield 48, 3) := dk_180 0 48 (dk_at dksX8_sets_5 4 rfl rfl)
theorem dX8_sets_124 : decode cX8_sets 124 = .ok (.bipush 8, 2) := dk_16 8 (dk_at dksX8_sets_5 7 rfl rfl)
theorem dX8_sets_126 : decode cX8_sets 126 = .ok (.iload 7, 2) := dk_21 7 (dk_at dksX8_sets_5 9 rfl rfl)
theorem dX8_sets_128 : decode cX8_sets 128 = .ok (.imul, 1) := dk_104 (dk_at dksX8_sets_5 11 rfl rfl)
theorem dX8_sets_129 : decode cX8_sets 129 = .ok (.aload_n 0, 1) := dk_42 (dk_at dksX8_sets_5 12 rfl rfl)
theorem dX8_sets_130 : decode cX8_sets 130 = .ok (.getfield 229, 3) := dk_180 0 229 (dk_at dksX8_sets_5 13 rfl rfl)
theorem dX8_sets_133 : decode cX8_sets 133 = .ok (.iadd, 1) := dk_96 (dk_at dksX8_sets_5 16 rfl rfl)
theorem dX8_sets_134 : decode cX8_sets 134 = .ok (.aload_n 0, 1) := dk_42 (dk_at dksX8_sets_5 17 rfl rfl)
theorem dX8_sets_135 : decode cX8_sets 135 = .ok (.iconst 2, 1) := dk_5 (dk_at dksX8_sets_5 18 rfl rfl)
theorem dX8_sets_136 : decode cX8_sets 136 = .ok (.iload 7, 2) := dk_21 7 (dk_at dksX8_sets_5 19 rfl rfl)
theorem dX8_sets_138 : decode cX8_sets 138 = .ok (.iload 6, 2) := dk_21 6 (dk_at dksX8_sets_5 21 rfl rfl)
theorem dX8_sets_140 : decode cX8_sets 140 = .ok (.iadd, 1) := dk_96 (dk_at dksX8_sets_5 23 rfl rfl)
theorem dX8_sets_141 : decode cX8_sets 141 = .ok (.aload_n 0, 1) := dk_42 (dk_at dksX8_sets_6 0 rfl rfl)
theorem dX8_sets_142 : decode cX8_sets 142 = .ok (.getfield 23, 3) := dk_180 0 23 (dk_at dksX8_sets_6 1 rfl rfl)
theorem dX8_sets_145 : decode cX8_sets 145 = .ok (.idiv, 1) := dk_108 (dk_at dksX8_sets_6 4 rfl rfl)
theorem dX8_sets_146 : decode cX8_sets 146 = .ok (.iload 7, 2) := dk_21 7 (dk_at dksX8_sets_6 5 rfl rfl)
theorem dX8_sets_148 : decode cX8_sets 148 = .ok (.iload 6, 2) := dk_21 6 (dk_at dksX8_sets_6 7 rfl rfl)
theorem dX8_sets_150 : decode cX8_sets 150 = .ok (.iadd, 1) := dk_96 (dk_at dksX8_sets_6 9 rfl rfl)
theorem dX8_sets_151 : decode cX8_sets 151 = .ok (.aload_n 0, 1) := dk_42 (dk_at dksX8_sets_6 10 rfl rfl)
theorem dX8_sets_152 : decode cX8_sets 152 = .ok (.getfield 23, 3) := dk_180 0 23 (dk_at dksX8_sets_6 11 rfl rfl)
theorem dX8_sets_155 : decode cX8_sets 155 = .ok (.irem, 1) := dk_112 (dk_at dksX8_sets_6 14 rfl rfl)
theorem dX8_sets_156 : decode cX8_sets 156 = .ok (.invokevirtual 128, 3) := dk_182 0 128 (dk_at dksX8_sets_6 15 rfl rfl)
theorem dX8_sets_159 : decode cX8_sets 159 = .ok (.i2l, 1) := dk_133 (dk_at dksX8_sets_6 18 rfl rfl)
theorem dX8_sets_160 : decode cX8_sets 160 = .ok (.lastore, 1) := dk_80 (dk_at dksX8_sets_6 19 rfl rfl)
theorem dX8_sets_161 : decode cX8_sets 161 = .ok (.iinc 7 1, 3) := dk_132 7 1 (dk_at dksX8_sets_6 20 rfl rfl)
theorem dX8_sets_164 : decode cX8_sets 164 = .ok (.goto (-111), 3) := dk_167 255 145 (dk_at dksX8_sets_7 0 rfl rfl)
theorem dX8_sets_167 : decode cX8_sets 167 = .ok (.aload_n 0, 1) := dk_42 (dk_at dksX8_sets_7 3 rfl rfl)
theorem dX8_sets_168 : decode cX8_sets 168 = .ok (.invokevirtual 252, 3) := dk_182 0 252 (dk_at dksX8_sets_7 4 rfl rfl)
theorem dX8_sets_171 : decode cX8_sets 171 = .ok (.return_, 1) := dk_177 (dk_at dksX8_sets_7 7 rfl rfl)
abbrev cX8_takenBy : ByteArray := prog_24_method_43_code
def yX8_takenBy : MethodName := ⟨RX8, "takenBy", "(IIIII)I"⟩
def dkwX8_takenBy_5 : List UInt8 := [167, 255, 144, 21, 6, 172]
abbrev dktX8_takenBy_5 : List UInt8 := dkwX8_takenBy_5 ++ []
def dkwX8_takenBy_4 : List UInt8 := [42, 180, 0, 23, 108, 21, 7, 42, 180, 0, 23, 112, 182, 0, 222, 104, 96, 54, 6, 132, 7, 1]
abbrev dktX8_takenBy_4 : List UInt8 := dkwX8_takenBy_4 ++ dktX8_takenBy_5
def dkwX8_takenBy_3 : List UInt8 := [167, 0, 40, 21, 8, 42, 27, 29, 21, 4, 42, 180, 0, 23, 108, 21, 4, 42, 180, 0, 23, 112, 21, 7]
abbrev dktX8_takenBy_3 : List UInt8 := dkwX8_takenBy_3 ++ dktX8_takenBy_4
def dkwX8_takenBy_2 : List UInt8 := [180, 0, 45, 21, 5, 46, 42, 180, 0, 23, 112, 184, 0, 218, 54, 8, 21, 6, 21, 8, 154, 0, 7, 3]
abbrev dktX8_takenBy_2 : List UInt8 := dkwX8_takenBy_2 ++ dktX8_takenBy_3
def dkwX8_takenBy_1 : List UInt8 := [180, 0, 23, 108, 21, 7, 42, 180, 0, 23, 112, 42, 180, 0, 45, 21, 5, 46, 42, 180, 0, 23, 108, 42]
abbrev dktX8_takenBy_1 : List UInt8 := dkwX8_takenBy_1 ++ dktX8_takenBy_2
def dkwX8_takenBy_0 : List UInt8 := [3, 54, 6, 3, 54, 7, 21, 7, 42, 180, 0, 19, 42, 180, 0, 23, 104, 162, 0, 104, 28, 21, 7, 42]
abbrev dktX8_takenBy_0 : List UInt8 := dkwX8_takenBy_0 ++ dktX8_takenBy_1
theorem dksX8_takenBy_0 : cX8_takenBy.data.toList.drop 0 = dktX8_takenBy_0 := by decide +kernel
theorem dksX8_takenBy_1 : cX8_takenBy.data.toList.drop 24 = dktX8_takenBy_1 := dk_seg dksX8_takenBy_0 24 rfl rfl
theorem dksX8_takenBy_2 : cX8_takenBy.data.toList.drop 48 = dktX8_takenBy_2 := dk_seg dksX8_takenBy_1 24 rfl rfl
theorem dksX8_takenBy_3 : cX8_takenBy.data.toList.drop 72 = dktX8_takenBy_3 := dk_seg dksX8_takenBy_2 24 rfl rfl
theorem dksX8_takenBy_4 : cX8_takenBy.data.toList.drop 96 = dktX8_takenBy_4 := dk_seg dksX8_takenBy_3 24 rfl rfl
theorem dksX8_takenBy_5 : cX8_takenBy.data.toList.drop 118 = dktX8_takenBy_5 := dk_seg dksX8_takenBy_4 22 rfl rfl
theorem dX8_takenBy_0 : decode cX8_takenBy 0 = .ok (.iconst 0, 1) := dk_3 (dk_at dksX8_takenBy_0 0 rfl rfl)
theorem dX8_takenBy_1 : decode cX8_takenBy 1 = .ok (.istore 6, 2) := dk_54 6 (dk_at dksX8_takenBy_0 1 rfl rfl)
theorem dX8_takenBy_3 : decode cX8_takenBy 3 = .ok (.iconst 0, 1) := dk_3 (dk_at dksX8_takenBy_0 3 rfl rfl)
theorem dX8_takenBy_4 : decode cX8_takenBy 4 = .ok (.istore 7, 2) := dk_54 7 (dk_at dksX8_takenBy_0 4 rfl rfl)
theorem dX8_takenBy_6 : decode cX8_takenBy 6 = .ok (.iload 7, 2) := dk_21 7 (dk_at dksX8_takenBy_0 6 rfl rfl)
theorem dX8_takenBy_8 : decode cX8_takenBy 8 = .ok (.aload_n 0, 1) := dk_42 (dk_at dksX8_takenBy_0 8 rfl rfl)
theorem dX8_takenBy_9 : decode cX8_takenBy 9 = .ok (.getfield 19, 3) := dk_180 0 19 (dk_at dksX8_takenBy_0 9 rfl rfl)
theorem dX8_takenBy_12 : decode cX8_takenBy 12 = .ok (.aload_n 0, 1) := dk_42 (dk_at dksX8_takenBy_0 12 rfl rfl)
theorem dX8_takenBy_13 : decode cX8_takenBy 13 = .ok (.getfield 23, 3) := dk_180 0 23 (dk_at dksX8_takenBy_0 13 rfl rfl)
theorem dX8_takenBy_16 : decode cX8_takenBy 16 = .ok (.imul, 1) := dk_104 (dk_at dksX8_takenBy_0 16 rfl rfl)
theorem dX8_takenBy_17 : decode cX8_takenBy 17 = .ok (.if_icmp .ge 104, 3) := dk_162 0 104 (dk_at dksX8_takenBy_0 17 rfl rfl)
theorem dX8_takenBy_20 : decode cX8_takenBy 20 = .ok (.iload_n 2, 1) := dk_28 (dk_at dksX8_takenBy_0 20 rfl rfl)
theorem dX8_takenBy_21 : decode cX8_takenBy 21 = .ok (.iload 7, 2) := dk_21 7 (dk_at dksX8_takenBy_0 21 rfl rfl)
theorem dX8_takenBy_23 : decode cX8_takenBy 23 = .ok (.aload_n 0, 1) := dk_42 (dk_at dksX8_takenBy_0 23 rfl rfl)
theorem dX8_takenBy_24 : decode cX8_takenBy 24 = .ok (.getfield 23, 3) := dk_180 0 23 (dk_at dksX8_takenBy_1 0 rfl rfl)
theorem dX8_takenBy_27 : decode cX8_takenBy 27 = .ok (.idiv, 1) := dk_108 (dk_at dksX8_takenBy_1 3 rfl rfl)
theorem dX8_takenBy_28 : decode cX8_takenBy 28 = .ok (.iload 7, 2) := dk_21 7 (dk_at dksX8_takenBy_1 4 rfl rfl)
theorem dX8_takenBy_30 : decode cX8_takenBy 30 = .ok (.aload_n 0, 1) := dk_42 (dk_at dksX8_takenBy_1 6 rfl rfl)
theorem dX8_takenBy_31 : decode cX8_takenBy 31 = .ok (.getfield 23, 3) := dk_180 0 23 (dk_at dksX8_takenBy_1 7 rfl rfl)
theorem dX8_takenBy_34 : decode cX8_takenBy 34 = .ok (.irem, 1) := dk_112 (dk_at dksX8_takenBy_1 10 rfl rfl)
theorem dX8_takenBy_35 : decode cX8_takenBy 35 = .ok (.aload_n 0, 1) := dk_42 (dk_at dksX8_takenBy_1 11 rfl rfl)
theorem dX8_takenBy_36 : decode cX8_takenBy 36 = .ok (.getfield 45, 3) := dk_180 0 45 (dk_at dksX8_takenBy_1 12 rfl rfl)
theorem dX8_takenBy_39 : decode cX8_takenBy 39 = .ok (.iload 5, 2) := dk_21 5 (dk_at dksX8_takenBy_1 15 rfl rfl)
theorem dX8_takenBy_41 : decode cX8_takenBy 41 = .ok (.iaload, 1) := dk_46 (dk_at dksX8_takenBy_1 17 rfl rfl)
theorem dX8_takenBy_42 : decode cX8_takenBy 42 = .ok (.aload_n 0, 1) := dk_42 (dk_at dksX8_takenBy_1 18 rfl rfl)
theorem dX8_takenBy_43 : decode cX8_takenBy 43 = .ok (.getfield 23, 3) := dk_180 0 23 (dk_at dksX8_takenBy_1 19 rfl rfl)
theorem dX8_takenBy_46 : decode cX8_takenBy 46 = .ok (.idiv, 1) := dk_108 (dk_at dksX8_takenBy_1 22 rfl rfl)
theorem dX8_takenBy_47 : decode cX8_takenBy 47 = .ok (.aload_n 0, 1) := dk_42 (dk_at dksX8_takenBy_1 23 rfl rfl)
theorem dX8_takenBy_48 : decode cX8_takenBy 48 = .ok (.getfield 45, 3) := dk_180 0 45 (dk_at dksX8_takenBy_2 0 rfl rfl)
theorem dX8_takenBy_51 : decode cX8_takenBy 51 = .ok (.iload 5, 2) := dk_21 5 (dk_at dksX8_takenBy_2 3 rfl rfl)
theorem dX8_takenBy_53 : decode cX8_takenBy 53 = .ok (.iaload, 1) := dk_46 (dk_at dksX8_takenBy_2 5 rfl rfl)
theorem dX8_takenBy_54 : decode cX8_takenBy 54 = .ok (.aload_n 0, 1) := dk_42 (dk_at dksX8_takenBy_2 6 rfl rfl)
theorem dX8_takenBy_55 : decode cX8_takenBy 55 = .ok (.getfield 23, 3) := dk_180 0 23 (dk_at dksX8_takenBy_2 7 rfl rfl)
theorem dX8_takenBy_58 : decode cX8_takenBy 58 = .ok (.irem, 1) := dk_112 (dk_at dksX8_takenBy_2 10 rfl rfl)
theorem dX8_takenBy_59 : decode cX8_takenBy 59 = .ok (.invokestatic 218, 3) := dk_184 0 218 (dk_at dksX8_takenBy_2 11 rfl rfl)
theorem dX8_takenBy_62 : decode cX8_takenBy 62 = .ok (.istore 8, 2) := dk_54 8 (dk_at dksX8_takenBy_2 14 rfl rfl)
theorem dX8_takenBy_64 : decode cX8_takenBy 64 = .ok (.iload 6, 2) := dk_21 6 (dk_at dksX8_takenBy_2 16 rfl rfl)
theorem dX8_takenBy_66 : decode cX8_takenBy 66 = .ok (.iload 8, 2) := dk_21 8 (dk_at dksX8_takenBy_2 18 rfl rfl)
theorem dX8_takenBy_68 : decode cX8_takenBy 68 = .ok (.ifCond .ne 7, 3) := dk_154 0 7 (dk_at dksX8_takenBy_2 20 rfl rfl)
theorem dX8_takenBy_71 : decode cX8_takenBy 71 = .ok (.iconst 0, 1) := dk_3 (dk_at dksX8_takenBy_2 23 rfl rfl)
theorem dX8_takenBy_72 : decode cX8_takenBy 72 = .ok (.goto 40, 3) := dk_167 0 40 (dk_at dksX8_takenBy_3 0 rfl rfl)
theorem dX8_takenBy_75 : decode cX8_takenBy 75 = .ok (.iload 8, 2) := dk_21 8 (dk_at dksX8_takenBy_3 3 rfl rfl)
theorem dX8_takenBy_77 : decode cX8_takenBy 77 = .ok (.aload_n 0, 1) := dk_42 (dk_at dksX8_takenBy_3 5 rfl rfl)
theorem dX8_takenBy_78 : decode cX8_takenBy 78 = .ok (.iload_n 1, 1) := dk_27 (dk_at dksX8_takenBy_3 6 rfl rfl)
theorem dX8_takenBy_79 : decode cX8_takenBy 79 = .ok (.iload_n 3, 1) := dk_29 (dk_at dksX8_takenBy_3 7 rfl rfl)
theorem dX8_takenBy_80 : decode cX8_takenBy 80 = .ok (.iload 4, 2) := dk_21 4 (dk_at dksX8_takenBy_3 8 rfl rfl)
theorem dX8_takenBy_82 : decode cX8_takenBy 82 = .ok (.aload_n 0, 1) := dk_42 (dk_at dksX8_takenBy_3 10 rfl rfl)
theorem dX8_takenBy_83 : decode cX8_takenBy 83 = .ok (.getfield 23, 3) := dk_180 0 23 (dk_at dksX8_takenBy_3 11 rfl rfl)
theorem dX8_takenBy_86 : decode cX8_takenBy 86 = .ok (.idiv, 1) := dk_108 (dk_at dksX8_takenBy_3 14 rfl rfl)
theorem dX8_takenBy_87 : decode cX8_takenBy 87 = .ok (.iload 4, 2) := dk_21 4 (dk_at dksX8_takenBy_3 15 rfl rfl)
theorem dX8_takenBy_89 : decode cX8_takenBy 89 = .ok (.aload_n 0, 1) := dk_42 (dk_at dksX8_takenBy_3 17 rfl rfl)
theorem dX8_takenBy_90 : decode cX8_takenBy 90 = .ok (.getfield 23, 3) := dk_180 0 23 (dk_at dksX8_takenBy_3 18 rfl rfl)
theorem dX8_takenBy_93 : decode cX8_takenBy 93 = .ok (.irem, 1) := dk_112 (dk_at dksX8_takenBy_3 21 rfl rfl)
theorem dX8_takenBy_94 : decode cX8_takenBy 94 = .ok (.iload 7, 2) := dk_21 7 (dk_at dksX8_takenBy_3 22 rfl rfl)
theorem dX8_takenBy_96 : decode cX8_takenBy 96 = .ok (.aload_n 0, 1) := dk_42 (dk_at dksX8_takenBy_4 0 rfl rfl)
theorem dX8_takenBy_97 : decode cX8_takenBy 97 = .ok (.getfield 23, 3) := dk_180 0 23 (dk_at dksX8_takenBy_4 1 rfl rfl)
theorem dX8_takenBy_100 : decode cX8_takenBy 100 = .ok (.idiv, 1) := dk_108 (dk_at dksX8_takenBy_4 4 rfl rfl)
theorem dX8_takenBy_101 : decode cX8_takenBy 101 = .ok (.iload 7, 2) := dk_21 7 (dk_at dksX8_takenBy_4 5 rfl rfl)
theorem dX8_takenBy_103 : decode cX8_takenBy 103 = .ok (.aload_n 0, 1) := dk_42 (dk_at dksX8_takenBy_4 7 rfl rfl)
theorem dX8_takenBy_104 : decode cX8_takenBy 104 = .ok (.getfield 23, 3) := dk_180 0 23 (dk_at dksX8_takenBy_4 8 rfl rfl)
theorem dX8_takenBy_107 : decode cX8_takenBy 107 = .ok (.irem, 1) := dk_112 (dk_at dksX8_takenBy_4 11 rfl rfl)
theorem dX8_takenBy_108 : decode cX8_takenBy 108 = .ok (.invokevirtual 222, 3) := dk_182 0 222 (dk_at dksX8_takenBy_4 12 rfl rfl)
theorem dX8_takenBy_111 : decode cX8_takenBy 111 = .ok (.imul, 1) := dk_104 (dk_at dksX8_takenBy_4 15 rfl rfl)
theorem dX8_takenBy_112 : decode cX8_takenBy 112 = .ok (.iadd, 1) := dk_96 (dk_at dksX8_takenBy_4 16 rfl rfl)
theorem dX8_takenBy_113 : decode cX8_takenBy 113 = .ok (.istore 6, 2) := dk_54 6 (dk_at dksX8_takenBy_4 17 rfl rfl)
theorem dX8_takenBy_115 : decode cX8_takenBy 115 = .ok (.iinc 7 1, 3) := dk_132 7 1 (dk_at dksX8_takenBy_4 19 rfl rfl)
theorem dX8_takenBy_118 : decode cX8_takenBy 118 = .ok (.goto (-112), 3) := dk_167 255 144 (dk_at dksX8_takenBy_5 0 rfl rfl)
theorem dX8_takenBy_121 : decode cX8_takenBy 121 = .ok (.iload 6, 2) := dk_21 6 (dk_at dksX8_takenBy_5 3 rfl rfl)
theorem dX8_takenBy_123 : decode cX8_takenBy 123 = .ok (.ireturn, 1) := dk_172 (dk_at dksX8_takenBy_5 5 rfl rfl)
abbrev cX8_shaped : ByteArray := prog_24_method_38_code
def yX8_shaped : MethodName := ⟨RX8, "shaped", "(IIIII)I"⟩
def dkwX8_shaped_5 : List UInt8 := [3, 172, 21, 5, 153, 0, 7, 4, 167, 0, 4, 3, 172]
abbrev dktX8_shaped_5 : List UInt8 := dkwX8_shaped_5 ++ []
def dkwX8_shaped_4 : List UInt8 := [21, 5, 153, 0, 7, 4, 167, 0, 19, 27, 21, 4, 160, 0, 12, 28, 29, 160, 0, 7, 2, 167, 0, 4]
abbrev dktX8_shaped_4 : List UInt8 := dkwX8_shaped_4 ++ dktX8_shaped_5
def dkwX8_shaped_3 : List UInt8 := [160, 0, 12, 28, 29, 160, 0, 7, 4, 167, 0, 4, 3, 172, 27, 28, 160, 0, 7, 3, 167, 0, 28]
abbrev dktX8_shaped_3 : List UInt8 := dkwX8_shaped_3 ++ dktX8_shaped_4
def dkwX8_shaped_2 : List UInt8 := [21, 5, 153, 0, 12, 27, 28, 160, 0, 7, 4, 167, 0, 4, 3, 172, 21, 5, 154, 0, 14, 27, 21, 4]
abbrev dktX8_shaped_2 : List UInt8 := dkwX8_shaped_2 ++ dktX8_shaped_3
def dkwX8_shaped_1 : List UInt8 := [170, 0, 0, 0, 98, 0, 0, 0, 4, 0, 0, 0, 6, 0, 0, 0, 25, 0, 0, 0, 41, 0, 0, 0, 63]
abbrev dktX8_shaped_1 : List UInt8 := dkwX8_shaped_1 ++ dktX8_shaped_2
def dkwX8_shaped_0 : List UInt8 := [27, 29, 160, 0, 13, 28, 21, 4, 160, 0, 7, 4, 167, 0, 4, 3, 54, 5, 26]
abbrev dktX8_shaped_0 : List UInt8 := dkwX8_shaped_0 ++ dktX8_shaped_1
theorem dksX8_shaped_0 : cX8_shaped.data.toList.drop 0 = dktX8_shaped_0 := by decide +kernel
theorem dksX8_shaped_1 : cX8_shaped.data.toList.drop 19 = dktX8_shaped_1 := dk_seg dksX8_shaped_0 19 rfl rfl
theorem dksX8_shaped_2 : cX8_shaped.data.toList.drop 44 = dktX8_shaped_2 := dk_seg dksX8_shaped_1 25 rfl rfl
theorem dksX8_shaped_3 : cX8_shaped.data.toList.drop 68 = dktX8_shaped_3 := dk_seg dksX8_shaped_2 24 rfl rfl
theorem dksX8_shaped_4 : cX8_shaped.data.toList.drop 91 = dktX8_shaped_4 := dk_seg dksX8_shaped_3 23 rfl rfl
theorem dksX8_shaped_5 : cX8_shaped.data.toList.drop 115 = dktX8_shaped_5 := dk_seg dksX8_shaped_4 24 rfl rfl
theorem dX8_shaped_0 : decode cX8_shaped 0 = .ok (.iload_n 1, 1) := dk_27 (dk_at dksX8_shaped_0 0 rfl rfl)
theorem dX8_shaped_1 : decode cX8_shaped 1 = .ok (.iload_n 3, 1) := dk_29 (dk_at dksX8_shaped_0 1 rfl rfl)
theorem dX8_shaped_2 : decode cX8_shaped 2 = .ok (.if_icmp .ne 13, 3) := dk_160 0 13 (dk_at dksX8_shaped_0 2 rfl rfl)
theorem dX8_shaped_5 : decode cX8_shaped 5 = .ok (.iload_n 2, 1) := dk_28 (dk_at dksX8_shaped_0 5 rfl rfl)
theorem dX8_shaped_6 : decode cX8_shaped 6 = .ok (.iload 4, 2) := dk_21 4 (dk_at dksX8_shaped_0 6 rfl rfl)
theorem dX8_shaped_8 : decode cX8_shaped 8 = .ok (.if_icmp .ne 7, 3) := dk_160 0 7 (dk_at dksX8_shaped_0 8 rfl rfl)
theorem dX8_shaped_11 : decode cX8_shaped 11 = .ok (.iconst 1, 1) := dk_4 (dk_at dksX8_shaped_0 11 rfl rfl)
theorem dX8_shaped_12 : decode cX8_shaped 12 = .ok (.goto 4, 3) := dk_167 0 4 (dk_at dksX8_shaped_0 12 rfl rfl)
theorem dX8_shaped_15 : decode cX8_shaped 15 = .ok (.iconst 0, 1) := dk_3 (dk_at dksX8_shaped_0 15 rfl rfl)
theorem dX8_shaped_16 : decode cX8_shaped 16 = .ok (.istore 5, 2) := dk_54 5 (dk_at dksX8_shaped_0 16 rfl rfl)
theorem dX8_shaped_18 : decode cX8_shaped 18 = .ok (.iload_n 0, 1) := dk_26 (dk_at dksX8_shaped_0 18 rfl rfl)
theorem dX8_shaped_19 : decode cX8_shaped 19 = .ok (.tableswitch 98 4 6 #[25, 41, 63], 25) := by decide +kernel
theorem dX8_shaped_44 : decode cX8_shaped 44 = .ok (.iload 5, 2) := dk_21 5 (dk_at dksX8_shaped_2 0 rfl rfl)
theorem dX8_shaped_46 : decode cX8_shaped 46 = .ok (.ifCond .eq 12, 3) := dk_153 0 12 (dk_at dksX8_shaped_2 2 rfl rfl)
theorem dX8_shaped_49 : decode cX8_shaped 49 = .ok (.iload_n 1, 1) := dk_27 (dk_at dksX8_shaped_2 5 rfl rfl)
theorem dX8_shaped_50 : decode cX8_shaped 50 = .ok (.iload_n 2, 1) := dk_28 (dk_at dksX8_shaped_2 6 rfl rfl)
theorem dX8_shaped_51 : decode cX8_shaped 51 = .ok (.if_icmp .ne 7, 3) := dk_160 0 7 (dk_at dksX8_shaped_2 7 rfl rfl)
theorem dX8_shaped_54 : decode cX8_shaped 54 = .ok (.iconst 1, 1) := dk_4 (dk_at dksX8_shaped_2 10 rfl rfl)
theorem dX8_shaped_55 : decode cX8_shaped 55 = .ok (.goto 4, 3) := dk_167 0 4 (dk_at dksX8_shaped_2 11 rfl rfl)
theorem dX8_shaped_58 : decode cX8_shaped 58 = .ok (.iconst 0, 1) := dk_3 (dk_at dksX8_shaped_2 14 rfl rfl)
theorem dX8_shaped_59 : decode cX8_shaped 59 = .ok (.ireturn, 1) := dk_172 (dk_at dksX8_shaped_2 15 rfl rfl)
theorem dX8_shaped_60 : decode cX8_shaped 60 = .ok (.iload 5, 2) := dk_21 5 (dk_at dksX8_shaped_2 16 rfl rfl)
theorem dX8_shaped_62 : decode cX8_shaped 62 = .ok (.ifCond .ne 14, 3) := dk_154 0 14 (dk_at dksX8_shaped_2 18 rfl rfl)
theorem dX8_shaped_65 : decode cX8_shaped 65 = .ok (.iload_n 1, 1) := dk_27 (dk_at dksX8_shaped_2 21 rfl rfl)
theorem dX8_shaped_66 : decode cX8_shaped 66 = .ok (.iload 4, 2) := dk_21 4 (dk_at dksX8_shaped_2 22 rfl rfl)
theorem dX8_shaped_68 : decode cX8_shaped 68 = .ok (.if_icmp .ne 12, 3) := dk_160 0 12 (dk_at dksX8_shaped_3 0 rfl rfl)
theorem dX8_shaped_71 : decode cX8_shaped 71 = .ok (.iload_n 2, 1) := dk_28 (dk_at dksX8_shaped_3 3 rfl rfl)
theorem dX8_shaped_72 : decode cX8_shaped 72 = .ok (.iload_n 3, 1) := dk_29 (dk_at dksX8_shaped_3 4 rfl rfl)
theorem dX8_shaped_73 : decode cX8_shaped 73 = .ok (.if_icmp .ne 7, 3) := dk_160 0 7 (dk_at dksX8_shaped_3 5 rfl rfl)
theorem dX8_shaped_76 : decode cX8_shaped 76 = .ok (.iconst 1, 1) := dk_4 (dk_at dksX8_shaped_3 8 rfl rfl)
theorem dX8_shaped_77 : decode cX8_shaped 77 = .ok (.goto 4, 3) := dk_167 0 4 (dk_at dksX8_shaped_3 9 rfl rfl)
theorem dX8_shaped_80 : decode cX8_shaped 80 = .ok (.iconst 0, 1) := dk_3 (dk_at dksX8_shaped_3 12 rfl rfl)
theorem dX8_shaped_81 : decode cX8_shaped 81 = .ok (.ireturn, 1) := dk_172 (dk_at dksX8_shaped_3 13 rfl rfl)
theorem dX8_shaped_82 : decode cX8_shaped 82 = .ok (.iload_n 1, 1) := dk_27 (dk_at dksX8_shaped_3 14 rfl rfl)
theorem dX8_shaped_83 : decode cX8_shaped 83 = .ok (.iload_n 2, 1) := dk_28 (dk_at dksX8_shaped_3 15 rfl rfl)
theorem dX8_shaped_84 : decode cX8_shaped 84 = .ok (.if_icmp .ne 7, 3) := dk_160 0 7 (dk_at dksX8_shaped_3 16 rfl rfl)
theorem dX8_shaped_87 : decode cX8_shaped 87 = .ok (.iconst 0, 1) := dk_3 (dk_at dksX8_shaped_3 19 rfl rfl)
theorem dX8_shaped_88 : decode cX8_shaped 88 = .ok (.goto 28, 3) := dk_167 0 28 (dk_at dksX8_shaped_3 20 rfl rfl)
theorem dX8_shaped_91 : decode cX8_shaped 91 = .ok (.iload 5, 2) := dk_21 5 (dk_at dksX8_shaped_4 0 rfl rfl)
theorem dX8_shaped_93 : decode cX8_shaped 93 = .ok (.ifCond .eq 7, 3) := dk_153 0 7 (dk_at dksX8_shaped_4 2 rfl rfl)
theorem dX8_shaped_96 : decode cX8_shaped 96 = .ok (.iconst 1, 1) := dk_4 (dk_at dksX8_shaped_4 5 rfl rfl)
theorem dX8_shaped_97 : decode cX8_shaped 97 = .ok (.goto 19, 3) := dk_167 0 19 (dk_at dksX8_shaped_4 6 rfl rfl)
theorem dX8_shaped_100 : decode cX8_shaped 100 = .ok (.iload_n 1, 1) := dk_27 (dk_at dksX8_shaped_4 9 rfl rfl)
theorem dX8_shaped_101 : decode cX8_shaped 101 = .ok (.iload 4, 2) := dk_21 4 (dk_at dksX8_shaped_4 10 rfl rfl)
theorem dX8_shaped_103 : decode cX8_shaped 103 = .ok (.if_icmp .ne 12, 3) := dk_160 0 12 (dk_at dksX8_shaped_4 12 rfl rfl)
theorem dX8_shaped_106 : decode cX8_shaped 106 = .ok (.iload_n 2, 1) := dk_28 (dk_at dksX8_shaped_4 15 rfl rfl)
theorem dX8_shaped_107 : decode cX8_shaped 107 = .ok (.iload_n 3, 1) := dk_29 (dk_at dksX8_shaped_4 16 rfl rfl)
theorem dX8_shaped_108 : decode cX8_shaped 108 = .ok (.if_icmp .ne 7, 3) := dk_160 0 7 (dk_at dksX8_shaped_4 17 rfl rfl)
theorem dX8_shaped_111 : decode cX8_shaped 111 = .ok (.iconst (-1), 1) := dk_2 (dk_at dksX8_shaped_4 20 rfl rfl)
theorem dX8_shaped_112 : decode cX8_shaped 112 = .ok (.goto 4, 3) := dk_167 0 4 (dk_at dksX8_shaped_4 21 rfl rfl)
theorem dX8_shaped_115 : decode cX8_shaped 115 = .ok (.iconst 0, 1) := dk_3 (dk_at dksX8_shaped_5 0 rfl rfl)
theorem dX8_shaped_116 : decode cX8_shaped 116 = .ok (.ireturn, 1) := dk_172 (dk_at dksX8_shaped_5 1 rfl rfl)
theorem dX8_shaped_117 : decode cX8_shaped 117 = .ok (.iload 5, 2) := dk_21 5 (dk_at dksX8_shaped_5 2 rfl rfl)
theorem dX8_shaped_119 : decode cX8_shaped 119 = .ok (.ifCond .eq 7, 3) := dk_153 0 7 (dk_at dksX8_shaped_5 4 rfl rfl)
theorem dX8_shaped_122 : decode cX8_shaped 122 = .ok (.iconst 1, 1) := dk_4 (dk_at dksX8_shaped_5 7 rfl rfl)
theorem dX8_shaped_123 : decode cX8_shaped 123 = .ok (.goto 4, 3) := dk_167 0 4 (dk_at dksX8_shaped_5 8 rfl rfl)
theorem dX8_shaped_126 : decode cX8_shaped 126 = .ok (.iconst 0, 1) := dk_3 (dk_at dksX8_shaped_5 11 rfl rfl)
theorem dX8_shaped_127 : decode cX8_shaped 127 = .ok (.ireturn, 1) := dk_172 (dk_at dksX8_shaped_5 12 rfl rfl)
abbrev cX8_times0 : ByteArray := prog_24_method_42_code
def yX8_times0 : MethodName := ⟨RX8, "times0", "(IIIIII)I"⟩
def dkwX8_times0_2 : List UInt8 := [21, 6, 21, 4, 182, 0, 215, 167, 0, 4, 3, 96, 172]
abbrev dktX8_times0_2 : List UInt8 := dkwX8_times0_2 ++ []
def dkwX8_times0_1 : List UInt8 := [160, 0, 14, 21, 4, 21, 6, 160, 0, 7, 28, 167, 0, 4, 3, 96, 29, 21, 5, 160, 0, 15, 42, 27]
abbrev dktX8_times0_1 : List UInt8 := dkwX8_times0_1 ++ dktX8_times0_2
def dkwX8_times0_0 : List UInt8 := [21, 4, 21, 6, 160, 0, 14, 42, 3, 29, 21, 5, 182, 0, 128, 167, 0, 4, 3, 29, 21, 5]
abbrev dktX8_times0_0 : List UInt8 := dkwX8_times0_0 ++ dktX8_times0_1
theorem dksX8_times0_0 : cX8_times0.data.toList.drop 0 = dktX8_times0_0 := by decide +kernel
theorem dksX8_times0_1 : cX8_times0.data.toList.drop 22 = dktX8_times0_1 := dk_seg dksX8_times0_0 22 rfl rfl
theorem dksX8_times0_2 : cX8_times0.data.toList.drop 46 = dktX8_times0_2 := dk_seg dksX8_times0_1 24 rfl rfl
theorem dX8_times0_0 : decode cX8_times0 0 = .ok (.iload 4, 2) := dk_21 4 (dk_at dksX8_times0_0 0 rfl rfl)
theorem dX8_times0_2 : decode cX8_times0 2 = .ok (.iload 6, 2) := dk_21 6 (dk_at dksX8_times0_0 2 rfl rfl)
theorem dX8_times0_4 : decode cX8_times0 4 = .ok (.if_icmp .ne 14, 3) := dk_160 0 14 (dk_at dksX8_times0_0 4 rfl rfl)
theorem dX8_times0_7 : decode cX8_times0 7 = .ok (.aload_n 0, 1) := dk_42 (dk_at dksX8_times0_0 7 rfl rfl)
theorem dX8_times0_8 : decode cX8_times0 8 = .ok (.iconst 0, 1) := dk_3 (dk_at dksX8_times0_0 8 rfl rfl)
theorem dX8_times0_9 : decode cX8_times0 9 = .ok (.iload_n 3, 1) := dk_29 (dk_at dksX8_times0_0 9 rfl rfl)
theorem dX8_times0_10 : decode cX8_times0 10 = .ok (.iload 5, 2) := dk_21 5 (dk_at dksX8_times0_0 10 rfl rfl)
theorem dX8_times0_12 : decode cX8_times0 12 = .ok (.invokevirtual 128, 3) := dk_182 0 128 (dk_at dksX8_times0_0 12 rfl rfl)
theorem dX8_times0_15 : decode cX8_times0 15 = .ok (.goto 4, 3) := dk_167 0 4 (dk_at dksX8_times0_0 15 rfl rfl)
theorem dX8_times0_18 : decode cX8_times0 18 = .ok (.iconst 0, 1) := dk_3 (dk_at dksX8_times0_0 18 rfl rfl)
theorem dX8_times0_19 : decode cX8_times0 19 = .ok (.iload_n 3, 1) := dk_29 (dk_at dksX8_times0_0 19 rfl rfl)
theorem dX8_times0_20 : decode cX8_times0 20 = .ok (.iload 5, 2) := dk_21 5 (dk_at dksX8_times0_0 20 rfl rfl)
theorem dX8_times0_22 : decode cX8_times0 22 = .ok (.if_icmp .ne 14, 3) := dk_160 0 14 (dk_at dksX8_times0_1 0 rfl rfl)
theorem dX8_times0_25 : decode cX8_times0 25 = .ok (.iload 4, 2) := dk_21 4 (dk_at dksX8_times0_1 3 rfl rfl)
theorem dX8_times0_27 : decode cX8_times0 27 = .ok (.iload 6, 2) := dk_21 6 (dk_at dksX8_times0_1 5 rfl rfl)
theorem dX8_times0_29 : decode cX8_times0 29 = .ok (.if_icmp .ne 7, 3) := dk_160 0 7 (dk_at dksX8_times0_1 7 rfl rfl)
theorem dX8_times0_32 : decode cX8_times0 32 = .ok (.iload_n 2, 1) := dk_28 (dk_at dksX8_times0_1 10 rfl rfl)
theorem dX8_times0_33 : decode cX8_times0 33 = .ok (.goto 4, 3) := dk_167 0 4 (dk_at dksX8_times0_1 11 rfl rfl)
theorem dX8_times0_36 : decode cX8_times0 36 = .ok (.iconst 0, 1) := dk_3 (dk_at dksX8_times0_1 14 rfl rfl)
theorem dX8_times0_37 : decode cX8_times0 37 = .ok (.iadd, 1) := dk_96 (dk_at dksX8_times0_1 15 rfl rfl)
theorem dX8_times0_38 : decode cX8_times0 38 = .ok (.iload_n 3, 1) := dk_29 (dk_at dksX8_times0_1 16 rfl rfl)
theorem dX8_times0_39 : decode cX8_times0 39 = .ok (.iload 5, 2) := dk_21 5 (dk_at dksX8_times0_1 17 rfl rfl)
theorem dX8_times0_41 : decode cX8_times0 41 = .ok (.if_icmp .ne 15, 3) := dk_160 0 15 (dk_at dksX8_times0_1 19 rfl rfl)
theorem dX8_times0_44 : decode cX8_times0 44 = .ok (.aload_n 0, 1) := dk_42 (dk_at dksX8_times0_1 22 rfl rfl)
theorem dX8_times0_45 : decode cX8_times0 45 = .ok (.iload_n 1, 1) := dk_27 (dk_at dksX8_times0_1 23 rfl rfl)
theorem dX8_times0_46 : decode cX8_times0 46 = .ok (.iload 6, 2) := dk_21 6 (dk_at dksX8_times0_2 0 rfl rfl)
theorem dX8_times0_48 : decode cX8_times0 48 = .ok (.iload 4, 2) := dk_21 4 (dk_at dksX8_times0_2 2 rfl rfl)
theorem dX8_times0_50 : decode cX8_times0 50 = .ok (.invokevirtual 215, 3) := dk_182 0 215 (dk_at dksX8_times0_2 4 rfl rfl)
theorem dX8_times0_53 : decode cX8_times0 53 = .ok (.goto 4, 3) := dk_167 0 4 (dk_at dksX8_times0_2 7 rfl rfl)
theorem dX8_times0_56 : decode cX8_times0 56 = .ok (.iconst 0, 1) := dk_3 (dk_at dksX8_times0_2 10 rfl rfl)
theorem dX8_times0_57 : decode cX8_times0 57 = .ok (.iadd, 1) := dk_96 (dk_at dksX8_times0_2 11 rfl rfl)
theorem dX8_times0_58 : decode cX8_times0 58 = .ok (.ireturn, 1) := dk_172 (dk_at dksX8_times0_2 12 rfl rfl)
abbrev cX8_rightOf : ByteArray := prog_24_method_37_code
def yX8_rightOf : MethodName := ⟨RX8, "rightOf", "(III)I"⟩
def dkwX8_rightOf_2 : List UInt8 := [182, 0, 128, 172]
abbrev dktX8_rightOf_2 : List UInt8 := dkwX8_rightOf_2 ++ []
def dkwX8_rightOf_1 : List UInt8 := [5, 159, 0, 8, 27, 7, 160, 0, 14, 42, 3, 28, 29, 182, 0, 128, 116, 167, 0, 10, 42, 3, 29, 28]
abbrev dktX8_rightOf_1 : List UInt8 := dkwX8_rightOf_1 ++ dktX8_rightOf_2
def dkwX8_rightOf_0 : List UInt8 := [27, 154, 0, 13, 42, 4, 28, 29, 182, 0, 128, 167, 0, 40, 27, 4, 160, 0, 7, 3, 167, 0, 31, 27]
abbrev dktX8_rightOf_0 : List UInt8 := dkwX8_rightOf_0 ++ dktX8_rightOf_1
theorem dksX8_rightOf_0 : cX8_rightOf.data.toList.drop 0 = dktX8_rightOf_0 := by decide +kernel
theorem dksX8_rightOf_1 : cX8_rightOf.data.toList.drop 24 = dktX8_rightOf_1 := dk_seg dksX8_rightOf_0 24 rfl rfl
theorem dksX8_rightOf_2 : cX8_rightOf.data.toList.drop 48 = dktX8_rightOf_2 := dk_seg dksX8_rightOf_1 24 rfl rfl
theorem dX8_rightOf_0 : decode cX8_rightOf 0 = .ok (.iload_n 1, 1) := dk_27 (dk_at dksX8_rightOf_0 0 rfl rfl)
theorem dX8_rightOf_1 : decode cX8_rightOf 1 = .ok (.ifCond .ne 13, 3) := dk_154 0 13 (dk_at dksX8_rightOf_0 1 rfl rfl)
theorem dX8_rightOf_4 : decode cX8_rightOf 4 = .ok (.aload_n 0, 1) := dk_42 (dk_at dksX8_rightOf_0 4 rfl rfl)
theorem dX8_rightOf_5 : decode cX8_rightOf 5 = .ok (.iconst 1, 1) := dk_4 (dk_at dksX8_rightOf_0 5 rfl rfl)
theorem dX8_rightOf_6 : decode cX8_rightOf 6 = .ok (.iload_n 2, 1) := dk_28 (dk_at dksX8_rightOf_0 6 rfl rfl)
theorem dX8_rightOf_7 : decode cX8_rightOf 7 = .ok (.iload_n 3, 1) := dk_29 (dk_at dksX8_rightOf_0 7 rfl rfl)
theorem dX8_rightOf_8 : decode cX8_rightOf 8 = .ok (.invokevirtual 128, 3) := dk_182 0 128 (dk_at dksX8_rightOf_0 8 rfl rfl)
theorem dX8_rightOf_11 : decode cX8_rightOf 11 = .ok (.goto 40, 3) := dk_167 0 40 (dk_at dksX8_rightOf_0 11 rfl rfl)
theorem dX8_rightOf_14 : decode cX8_rightOf 14 = .ok (.iload_n 1, 1) := dk_27 (dk_at dksX8_rightOf_0 14 rfl rfl)
theorem dX8_rightOf_15 : decode cX8_rightOf 15 = .ok (.iconst 1, 1) := dk_4 (dk_at dksX8_rightOf_0 15 rfl rfl)
theorem dX8_rightOf_16 : decode cX8_rightOf 16 = .ok (.if_icmp .ne 7, 3) := dk_160 0 7 (dk_at dksX8_rightOf_0 16 rfl rfl)
theorem dX8_rightOf_19 : decode cX8_rightOf 19 = .ok (.iconst 0, 1) := dk_3 (dk_at dksX8_rightOf_0 19 rfl rfl)
theorem dX8_rightOf_20 : decode cX8_rightOf 20 = .ok (.goto 31, 3) := dk_167 0 31 (dk_at dksX8_rightOf_0 20 rfl rfl)
theorem dX8_rightOf_23 : decode cX8_rightOf 23 = .ok (.iload_n 1, 1) := dk_27 (dk_at dksX8_rightOf_0 23 rfl rfl)
theorem dX8_rightOf_24 : decode cX8_rightOf 24 = .ok (.iconst 2, 1) := dk_5 (dk_at dksX8_rightOf_1 0 rfl rfl)
theorem dX8_rightOf_25 : decode cX8_rightOf 25 = .ok (.if_icmp .eq 8, 3) := dk_159 0 8 (dk_at dksX8_rightOf_1 1 rfl rfl)
theorem dX8_rightOf_28 : decode cX8_rightOf 28 = .ok (.iload_n 1, 1) := dk_27 (dk_at dksX8_rightOf_1 4 rfl rfl)
theorem dX8_rightOf_29 : decode cX8_rightOf 29 = .ok (.iconst 4, 1) := dk_7 (dk_at dksX8_rightOf_1 5 rfl rfl)
theorem dX8_rightOf_30 : decode cX8_rightOf 30 = .ok (.if_icmp .ne 14, 3) := dk_160 0 14 (dk_at dksX8_rightOf_1 6 rfl rfl)
theorem dX8_rightOf_33 : decode cX8_rightOf 33 = .ok (.aload_n 0, 1) := dk_42 (dk_at dksX8_rightOf_1 9 rfl rfl)
theorem dX8_rightOf_34 : decode cX8_rightOf 34 = .ok (.iconst 0, 1) := dk_3 (dk_at dksX8_rightOf_1 10 rfl rfl)
theorem dX8_rightOf_35 : decode cX8_rightOf 35 = .ok (.iload_n 2, 1) := dk_28 (dk_at dksX8_rightOf_1 11 rfl rfl)
theorem dX8_rightOf_36 : decode cX8_rightOf 36 = .ok (.iload_n 3, 1) := dk_29 (dk_at dksX8_rightOf_1 12 rfl rfl)
theorem dX8_rightOf_37 : decode cX8_rightOf 37 = .ok (.invokevirtual 128, 3) := dk_182 0 128 (dk_at dksX8_rightOf_1 13 rfl rfl)
theorem dX8_rightOf_40 : decode cX8_rightOf 40 = .ok (.ineg, 1) := dk_116 (dk_at dksX8_rightOf_1 16 rfl rfl)
theorem dX8_rightOf_41 : decode cX8_rightOf 41 = .ok (.goto 10, 3) := dk_167 0 10 (dk_at dksX8_rightOf_1 17 rfl rfl)
theorem dX8_rightOf_44 : decode cX8_rightOf 44 = .ok (.aload_n 0, 1) := dk_42 (dk_at dksX8_rightOf_1 20 rfl rfl)
theorem dX8_rightOf_45 : decode cX8_rightOf 45 = .ok (.iconst 0, 1) := dk_3 (dk_at dksX8_rightOf_1 21 rfl rfl)
theorem dX8_rightOf_46 : decode cX8_rightOf 46 = .ok (.iload_n 3, 1) := dk_29 (dk_at dksX8_rightOf_1 22 rfl rfl)
theorem dX8_rightOf_47 : decode cX8_rightOf 47 = .ok (.iload_n 2, 1) := dk_28 (dk_at dksX8_rightOf_1 23 rfl rfl)
theorem dX8_rightOf_48 : decode cX8_rightOf 48 = .ok (.invokevirtual 128, 3) := dk_182 0 128 (dk_at dksX8_rightOf_2 0 rfl rfl)
theorem dX8_rightOf_51 : decode cX8_rightOf 51 = .ok (.ireturn, 1) := dk_172 (dk_at dksX8_rightOf_2 3 rfl rfl)
abbrev cX8_works : ByteArray := prog_24_method_46_code
def yX8_works : MethodName := ⟨RX8, "works", "()V"⟩
def dkwX8_works_5 : List UInt8 := [180, 0, 239, 27, 79, 42, 89, 180, 0, 239, 4, 96, 181, 0, 239, 132, 1, 1, 167, 255, 139, 177]
abbrev dktX8_works_5 : List UInt8 := dkwX8_works_5 ++ []
def dkwX8_works_4 : List UInt8 := [28, 42, 180, 0, 239, 182, 0, 242, 42, 42, 180, 0, 239, 27, 182, 0, 246, 42, 180, 0, 52, 42]
abbrev dktX8_works_4 : List UInt8 := dkwX8_works_4 ++ dktX8_works_5
def dkwX8_works_3 : List UInt8 := [162, 0, 10, 42, 180, 0, 239, 167, 0, 4, 2, 79, 28, 42, 180, 0, 232, 160, 0, 6, 167, 0, 41, 42]
abbrev dktX8_works_3 : List UInt8 := dkwX8_works_3 ++ dktX8_works_4
def dkwX8_works_2 : List UInt8 := [27, 96, 47, 9, 148, 154, 0, 9, 132, 2, 1, 167, 255, 229, 42, 180, 0, 55, 27, 28, 42, 180, 0, 232]
abbrev dktX8_works_2 : List UInt8 := dkwX8_works_2 ++ dktX8_works_3
def dkwX8_works_1 : List UInt8 := [162, 0, 115, 42, 180, 0, 239, 61, 28, 42, 180, 0, 232, 162, 0, 25, 42, 180, 0, 48, 16, 8, 28, 104]
abbrev dktX8_works_1 : List UInt8 := dkwX8_works_1 ++ dktX8_works_2
def dkwX8_works_0 : List UInt8 := [42, 3, 181, 0, 239, 42, 3, 181, 0, 226, 42, 10, 181, 0, 235, 3, 60, 27, 42, 180, 0, 229]
abbrev dktX8_works_0 : List UInt8 := dkwX8_works_0 ++ dktX8_works_1
theorem dksX8_works_0 : cX8_works.data.toList.drop 0 = dktX8_works_0 := by decide +kernel
theorem dksX8_works_1 : cX8_works.data.toList.drop 22 = dktX8_works_1 := dk_seg dksX8_works_0 22 rfl rfl
theorem dksX8_works_2 : cX8_works.data.toList.drop 46 = dktX8_works_2 := dk_seg dksX8_works_1 24 rfl rfl
theorem dksX8_works_3 : cX8_works.data.toList.drop 70 = dktX8_works_3 := dk_seg dksX8_works_2 24 rfl rfl
theorem dksX8_works_4 : cX8_works.data.toList.drop 94 = dktX8_works_4 := dk_seg dksX8_works_3 24 rfl rfl
theorem dksX8_works_5 : cX8_works.data.toList.drop 116 = dktX8_works_5 := dk_seg dksX8_works_4 22 rfl rfl
theorem dX8_works_0 : decode cX8_works 0 = .ok (.aload_n 0, 1) := dk_42 (dk_at dksX8_works_0 0 rfl rfl)
theorem dX8_works_1 : decode cX8_works 1 = .ok (.iconst 0, 1) := dk_3 (dk_at dksX8_works_0 1 rfl rfl)
theorem dX8_works_2 : decode cX8_works 2 = .ok (.putfield 239, 3) := dk_181 0 239 (dk_at dksX8_works_0 2 rfl rfl)
theorem dX8_works_5 : decode cX8_works 5 = .ok (.aload_n 0, 1) := dk_42 (dk_at dksX8_works_0 5 rfl rfl)
theorem dX8_works_6 : decode cX8_works 6 = .ok (.iconst 0, 1) := dk_3 (dk_at dksX8_works_0 6 rfl rfl)
theorem dX8_works_7 : decode cX8_works 7 = .ok (.putfield 226, 3) := dk_181 0 226 (dk_at dksX8_works_0 7 rfl rfl)
theorem dX8_works_10 : decode cX8_works 10 = .ok (.aload_n 0, 1) := dk_42 (dk_at dksX8_works_0 10 rfl rfl)
theorem dX8_works_11 : decode cX8_works 11 = .ok (.lconst 1, 1) := dk_10 (dk_at dksX8_works_0 11 rfl rfl)
theorem dX8_works_12 : decode cX8_works 12 = .ok (.putfield 235, 3) := dk_181 0 235 (dk_at dksX8_works_0 12 rfl rfl)
theorem dX8_works_15 : decode cX8_works 15 = .ok (.iconst 0, 1) := dk_3 (dk_at dksX8_works_0 15 rfl rfl)
theorem dX8_works_16 : decode cX8_works 16 = .ok (.istore_n 1, 1) := dk_60 (dk_at dksX8_works_0 16 rfl rfl)
theorem dX8_works_17 : decode cX8_works 17 = .ok (.iload_n 1, 1) := dk_27 (dk_at dksX8_works_0 17 rfl rfl)
theorem dX8_works_18 : decode cX8_works 18 = .ok (.aload_n 0, 1) := dk_42 (dk_at dksX8_works_0 18 rfl rfl)
theorem dX8_works_19 : decode cX8_works 19 = .ok (.getfield 229, 3) := dk_180 0 229 (dk_at dksX8_works_0 19 rfl rfl)
theorem dX8_works_22 : decode cX8_works 22 = .ok (.if_icmp .ge 115, 3) := dk_162 0 115 (dk_at dksX8_works_1 0 rfl rfl)
theorem dX8_works_25 : decode cX8_works 25 = .ok (.aload_n 0, 1) := dk_42 (dk_at dksX8_works_1 3 rfl rfl)
theorem dX8_works_26 : decode cX8_works 26 = .ok (.getfield 239, 3) := dk_180 0 239 (dk_at dksX8_works_1 4 rfl rfl)
theorem dX8_works_29 : decode cX8_works 29 = .ok (.istore_n 2, 1) := dk_61 (dk_at dksX8_works_1 7 rfl rfl)
theorem dX8_works_30 : decode cX8_works 30 = .ok (.iload_n 2, 1) := dk_28 (dk_at dksX8_works_1 8 rfl rfl)
theorem dX8_works_31 : decode cX8_works 31 = .ok (.aload_n 0, 1) := dk_42 (dk_at dksX8_works_1 9 rfl rfl)
theorem dX8_works_32 : decode cX8_works 32 = .ok (.getfield 232, 3) := dk_180 0 232 (dk_at dksX8_works_1 10 rfl rfl)
theorem dX8_works_35 : decode cX8_works 35 = .ok (.if_icmp .ge 25, 3) := dk_162 0 25 (dk_at dksX8_works_1 13 rfl rfl)
theorem dX8_works_38 : decode cX8_works 38 = .ok (.aload_n 0, 1) := dk_42 (dk_at dksX8_works_1 16 rfl rfl)
theorem dX8_works_39 : decode cX8_works 39 = .ok (.getfield 48, 3) := dk_180 0 48 (dk_at dksX8_works_1 17 rfl rfl)
theorem dX8_works_42 : decode cX8_works 42 = .ok (.bipush 8, 2) := dk_16 8 (dk_at dksX8_works_1 20 rfl rfl)
theorem dX8_works_44 : decode cX8_works 44 = .ok (.iload_n 2, 1) := dk_28 (dk_at dksX8_works_1 22 rfl rfl)
theorem dX8_works_45 : decode cX8_works 45 = .ok (.imul, 1) := dk_104 (dk_at dksX8_works_1 23 rfl rfl)
theorem dX8_works_46 : decode cX8_works 46 = .ok (.iload_n 1, 1) := dk_27 (dk_at dksX8_works_2 0 rfl rfl)
theorem dX8_works_47 : decode cX8_works 47 = .ok (.iadd, 1) := dk_96 (dk_at dksX8_works_2 1 rfl rfl)
theorem dX8_works_48 : decode cX8_works 48 = .ok (.laload, 1) := dk_47 (dk_at dksX8_works_2 2 rfl rfl)
theorem dX8_works_49 : decode cX8_works 49 = .ok (.lconst 0, 1) := dk_9 (dk_at dksX8_works_2 3 rfl rfl)
theorem dX8_works_50 : decode cX8_works 50 = .ok (.lcmp, 1) := dk_148 (dk_at dksX8_works_2 4 rfl rfl)
theorem dX8_works_51 : decode cX8_works 51 = .ok (.ifCond .ne 9, 3) := dk_154 0 9 (dk_at dksX8_works_2 5 rfl rfl)
theorem dX8_works_54 : decode cX8_works 54 = .ok (.iinc 2 1, 3) := dk_132 2 1 (dk_at dksX8_works_2 8 rfl rfl)
theorem dX8_works_57 : decode cX8_works 57 = .ok (.goto (-27), 3) := dk_167 255 229 (dk_at dksX8_works_2 11 rfl rfl)
theorem dX8_works_60 : decode cX8_works 60 = .ok (.aload_n 0, 1) := dk_42 (dk_at dksX8_works_2 14 rfl rfl)
theorem dX8_works_61 : decode cX8_works 61 = .ok (.getfield 55, 3) := dk_180 0 55 (dk_at dksX8_works_2 15 rfl rfl)
theorem dX8_works_64 : decode cX8_works 64 = .ok (.iload_n 1, 1) := dk_27 (dk_at dksX8_works_2 18 rfl rfl)
theorem dX8_works_65 : decode cX8_works 65 = .ok (.iload_n 2, 1) := dk_28 (dk_at dksX8_works_2 19 rfl rfl)
theorem dX8_works_66 : decode cX8_works 66 = .ok (.aload_n 0, 1) := dk_42 (dk_at dksX8_works_2 20 rfl rfl)
theorem dX8_works_67 : decode cX8_works 67 = .ok (.getfield 232, 3) := dk_180 0 232 (dk_at dksX8_works_2 21 rfl rfl)
theorem dX8_works_70 : decode cX8_works 70 = .ok (.if_icmp .ge 10, 3) := dk_162 0 10 (dk_at dksX8_works_3 0 rfl rfl)
theorem dX8_works_73 : decode cX8_works 73 = .ok (.aload_n 0, 1) := dk_42 (dk_at dksX8_works_3 3 rfl rfl)
theorem dX8_works_74 : decode cX8_works 74 = .ok (.getfield 239, 3) := dk_180 0 239 (dk_at dksX8_works_3 4 rfl rfl)
theorem dX8_works_77 : decode cX8_works 77 = .ok (.goto 4, 3) := dk_167 0 4 (dk_at dksX8_works_3 7 rfl rfl)
theorem dX8_works_80 : decode cX8_works 80 = .ok (.iconst (-1), 1) := dk_2 (dk_at dksX8_works_3 10 rfl rfl)
theorem dX8_works_81 : decode cX8_works 81 = .ok (.iastore, 1) := dk_79 (dk_at dksX8_works_3 11 rfl rfl)
theorem dX8_works_82 : decode cX8_works 82 = .ok (.iload_n 2, 1) := dk_28 (dk_at dksX8_works_3 12 rfl rfl)
theorem dX8_works_83 : decode cX8_works 83 = .ok (.aload_n 0, 1) := dk_42 (dk_at dksX8_works_3 13 rfl rfl)
theorem dX8_works_84 : decode cX8_works 84 = .ok (.getfield 232, 3) := dk_180 0 232 (dk_at dksX8_works_3 14 rfl rfl)
theorem dX8_works_87 : decode cX8_works 87 = .ok (.if_icmp .ne 6, 3) := dk_160 0 6 (dk_at dksX8_works_3 17 rfl rfl)
theorem dX8_works_90 : decode cX8_works 90 = .ok (.goto 41, 3) := dk_167 0 41 (dk_at dksX8_works_3 20 rfl rfl)
theorem dX8_works_93 : decode cX8_works 93 = .ok (.aload_n 0, 1) := dk_42 (dk_at dksX8_works_3 23 rfl rfl)
theorem dX8_works_94 : decode cX8_works 94 = .ok (.iload_n 2, 1) := dk_28 (dk_at dksX8_works_4 0 rfl rfl)
theorem dX8_works_95 : decode cX8_works 95 = .ok (.aload_n 0, 1) := dk_42 (dk_at dksX8_works_4 1 rfl rfl)
theorem dX8_works_96 : decode cX8_works 96 = .ok (.getfield 239, 3) := dk_180 0 239 (dk_at dksX8_works_4 2 rfl rfl)
theorem dX8_works_99 : decode cX8_works 99 = .ok (.invokevirtual 242, 3) := dk_182 0 242 (dk_at dksX8_works_4 5 rfl rfl)
theorem dX8_works_102 : decode cX8_works 102 = .ok (.aload_n 0, 1) := dk_42 (dk_at dksX8_works_4 8 rfl rfl)
theorem dX8_works_103 : decode cX8_works 103 = .ok (.aload_n 0, 1) := dk_42 (dk_at dksX8_works_4 9 rfl rfl)
theorem dX8_works_104 : decode cX8_works 104 = .ok (.getfield 239, 3) := dk_180 0 239 (dk_at dksX8_works_4 10 rfl rfl)
theorem dX8_works_107 : decode cX8_works 107 = .ok (.iload_n 1, 1) := dk_27 (dk_at dksX8_works_4 13 rfl rfl)
theorem dX8_works_108 : decode cX8_works 108 = .ok (.invokevirtual 246, 3) := dk_182 0 246 (dk_at dksX8_works_4 14 rfl rfl)
theorem dX8_works_111 : decode cX8_works 111 = .ok (.aload_n 0, 1) := dk_42 (dk_at dksX8_works_4 17 rfl rfl)
theorem dX8_works_112 : decode cX8_works 112 = .ok (.getfield 52, 3) := dk_180 0 52 (dk_at dksX8_works_4 18 rfl rfl)
theorem dX8_works_115 : decode cX8_works 115 = .ok (.aload_n 0, 1) := dk_42 (dk_at dksX8_works_4 21 rfl rfl)
theorem dX8_works_116 : decode cX8_works 116 = .ok (.getfield 239, 3) := dk_180 0 239 (dk_at dksX8_works_5 0 rfl rfl)
theorem dX8_works_119 : decode cX8_works 119 = .ok (.iload_n 1, 1) := dk_27 (dk_at dksX8_works_5 3 rfl rfl)
theorem dX8_works_120 : decode cX8_works 120 = .ok (.iastore, 1) := dk_79 (dk_at dksX8_works_5 4 rfl rfl)
theorem dX8_works_121 : decode cX8_works 121 = .ok (.aload_n 0, 1) := dk_42 (dk_at dksX8_works_5 5 rfl rfl)
theorem dX8_works_122 : decode cX8_works 122 = .ok (.dup, 1) := dk_89 (dk_at dksX8_works_5 6 rfl rfl)
theorem dX8_works_123 : decode cX8_works 123 = .ok (.getfield 239, 3) := dk_180 0 239 (dk_at dksX8_works_5 7 rfl rfl)
theorem dX8_works_126 : decode cX8_works 126 = .ok (.iconst 1, 1) := dk_4 (dk_at dksX8_works_5 10 rfl rfl)
theorem dX8_works_127 : decode cX8_works 127 = .ok (.iadd, 1) := dk_96 (dk_at dksX8_works_5 11 rfl rfl)
theorem dX8_works_128 : decode cX8_works 128 = .ok (.putfield 239, 3) := dk_181 0 239 (dk_at dksX8_works_5 12 rfl rfl)
theorem dX8_works_131 : decode cX8_works 131 = .ok (.iinc 1 1, 3) := dk_132 1 1 (dk_at dksX8_works_5 15 rfl rfl)
theorem dX8_works_134 : decode cX8_works 134 = .ok (.goto (-117), 3) := dk_167 255 139 (dk_at dksX8_works_5 18 rfl rfl)
theorem dX8_works_137 : decode cX8_works 137 = .ok (.return_, 1) := dk_177 (dk_at dksX8_works_5 21 rfl rfl)
abbrev cX8_swaps : ByteArray := prog_24_method_44_code
def yX8_swaps : MethodName := ⟨RX8, "swaps", "(II)V"⟩
def dkwX8_swaps_3 : List UInt8 := [28, 104, 29, 96, 22, 4, 80, 132, 3, 1, 167, 255, 197, 177]
abbrev dktX8_swaps_3 : List UInt8 := dkwX8_swaps_3 ++ []
def dkwX8_swaps_2 : List UInt8 := [16, 8, 27, 104, 29, 96, 42, 180, 0, 48, 16, 8, 28, 104, 29, 96, 47, 80, 42, 180, 0, 48, 16, 8]
abbrev dktX8_swaps_2 : List UInt8 := dkwX8_swaps_2 ++ dktX8_swaps_3
def dkwX8_swaps_1 : List UInt8 := [180, 0, 229, 163, 0, 57, 42, 180, 0, 48, 16, 8, 27, 104, 29, 96, 47, 55, 4, 42, 180, 0, 48]
abbrev dktX8_swaps_1 : List UInt8 := dkwX8_swaps_1 ++ dktX8_swaps_2
def dkwX8_swaps_0 : List UInt8 := [42, 89, 180, 0, 226, 27, 28, 160, 0, 7, 3, 167, 0, 4, 4, 96, 181, 0, 226, 3, 62, 29, 42]
abbrev dktX8_swaps_0 : List UInt8 := dkwX8_swaps_0 ++ dktX8_swaps_1
theorem dksX8_swaps_0 : cX8_swaps.data.toList.drop 0 = dktX8_swaps_0 := by decide +kernel
theorem dksX8_swaps_1 : cX8_swaps.data.toList.drop 23 = dktX8_swaps_1 := dk_seg dksX8_swaps_0 23 rfl rfl
theorem dksX8_swaps_2 : cX8_swaps.data.toList.drop 46 = dktX8_swaps_2 := dk_seg dksX8_swaps_1 23 rfl rfl
theorem dksX8_swaps_3 : cX8_swaps.data.toList.drop 70 = dktX8_swaps_3 := dk_seg dksX8_swaps_2 24 rfl rfl
theorem dX8_swaps_0 : decode cX8_swaps 0 = .ok (.aload_n 0, 1) := dk_42 (dk_at dksX8_swaps_0 0 rfl rfl)
theorem dX8_swaps_1 : decode cX8_swaps 1 = .ok (.dup, 1) := dk_89 (dk_at dksX8_swaps_0 1 rfl rfl)
theorem dX8_swaps_2 : decode cX8_swaps 2 = .ok (.getfield 226, 3) := dk_180 0 226 (dk_at dksX8_swaps_0 2 rfl rfl)
theorem dX8_swaps_5 : decode cX8_swaps 5 = .ok (.iload_n 1, 1) := dk_27 (dk_at dksX8_swaps_0 5 rfl rfl)
theorem dX8_swaps_6 : decode cX8_swaps 6 = .ok (.iload_n 2, 1) := dk_28 (dk_at dksX8_swaps_0 6 rfl rfl)
theorem dX8_swaps_7 : decode cX8_swaps 7 = .ok (.if_icmp .ne 7, 3) := dk_160 0 7 (dk_at dksX8_swaps_0 7 rfl rfl)
theorem dX8_swaps_10 : decode cX8_swaps 10 = .ok (.iconst 0, 1) := dk_3 (dk_at dksX8_swaps_0 10 rfl rfl)
theorem dX8_swaps_11 : decode cX8_swaps 11 = .ok (.goto 4, 3) := dk_167 0 4 (dk_at dksX8_swaps_0 11 rfl rfl)
theorem dX8_swaps_14 : decode cX8_swaps 14 = .ok (.iconst 1, 1) := dk_4 (dk_at dksX8_swaps_0 14 rfl rfl)
theorem dX8_swaps_15 : decode cX8_swaps 15 = .ok (.iadd, 1) := dk_96 (dk_at dksX8_swaps_0 15 rfl rfl)
theorem dX8_swaps_16 : decode cX8_swaps 16 = .ok (.putfield 226, 3) := dk_181 0 226 (dk_at dksX8_swaps_0 16 rfl rfl)
theorem dX8_swaps_19 : decode cX8_swaps 19 = .ok (.iconst 0, 1) := dk_3 (dk_at dksX8_swaps_0 19 rfl rfl)
theorem dX8_swaps_20 : decode cX8_swaps 20 = .ok (.istore_n 3, 1) := dk_62 (dk_at dksX8_swaps_0 20 rfl rfl)
theorem dX8_swaps_21 : decode cX8_swaps 21 = .ok (.iload_n 3, 1) := dk_29 (dk_at dksX8_swaps_0 21 rfl rfl)
theorem dX8_swaps_22 : decode cX8_swaps 22 = .ok (.aload_n 0, 1) := dk_42 (dk_at dksX8_swaps_0 22 rfl rfl)
theorem dX8_swaps_23 : decode cX8_swaps 23 = .ok (.getfield 229, 3) := dk_180 0 229 (dk_at dksX8_swaps_1 0 rfl rfl)
theorem dX8_swaps_26 : decode cX8_swaps 26 = .ok (.if_icmp .gt 57, 3) := dk_163 0 57 (dk_at dksX8_swaps_1 3 rfl rfl)
theorem dX8_swaps_29 : decode cX8_swaps 29 = .ok (.aload_n 0, 1) := dk_42 (dk_at dksX8_swaps_1 6 rfl rfl)
theorem dX8_swaps_30 : decode cX8_swaps 30 = .ok (.getfield 48, 3) := dk_180 0 48 (dk_at dksX8_swaps_1 7 rfl rfl)
theorem dX8_swaps_33 : decode cX8_swaps 33 = .ok (.bipush 8, 2) := dk_16 8 (dk_at dksX8_swaps_1 10 rfl rfl)
theorem dX8_swaps_35 : decode cX8_swaps 35 = .ok (.iload_n 1, 1) := dk_27 (dk_at dksX8_swaps_1 12 rfl rfl)
theorem dX8_swaps_36 : decode cX8_swaps 36 = .ok (.imul, 1) := dk_104 (dk_at dksX8_swaps_1 13 rfl rfl)
theorem dX8_swaps_37 : decode cX8_swaps 37 = .ok (.iload_n 3, 1) := dk_29 (dk_at dksX8_swaps_1 14 rfl rfl)
theorem dX8_swaps_38 : decode cX8_swaps 38 = .ok (.iadd, 1) := dk_96 (dk_at dksX8_swaps_1 15 rfl rfl)
theorem dX8_swaps_39 : decode cX8_swaps 39 = .ok (.laload, 1) := dk_47 (dk_at dksX8_swaps_1 16 rfl rfl)
theorem dX8_swaps_40 : decode cX8_swaps 40 = .ok (.lstore 4, 2) := dk_55 4 (dk_at dksX8_swaps_1 17 rfl rfl)
theorem dX8_swaps_42 : decode cX8_swaps 42 = .ok (.aload_n 0, 1) := dk_42 (dk_at dksX8_swaps_1 19 rfl rfl)
theorem dX8_swaps_43 : decode cX8_swaps 43 = .ok (.getfield 48, 3) := dk_180 0 48 (dk_at dksX8_swaps_1 20 rfl rfl)
theorem dX8_swaps_46 : decode cX8_swaps 46 = .ok (.bipush 8, 2) := dk_16 8 (dk_at dksX8_swaps_2 0 rfl rfl)
theorem dX8_swaps_48 : decode cX8_swaps 48 = .ok (.iload_n 1, 1) := dk_27 (dk_at dksX8_swaps_2 2 rfl rfl)
theorem dX8_swaps_49 : decode cX8_swaps 49 = .ok (.imul, 1) := dk_104 (dk_at dksX8_swaps_2 3 rfl rfl)
theorem dX8_swaps_50 : decode cX8_swaps 50 = .ok (.iload_n 3, 1) := dk_29 (dk_at dksX8_swaps_2 4 rfl rfl)
theorem dX8_swaps_51 : decode cX8_swaps 51 = .ok (.iadd, 1) := dk_96 (dk_at dksX8_swaps_2 5 rfl rfl)
theorem dX8_swaps_52 : decode cX8_swaps 52 = .ok (.aload_n 0, 1) := dk_42 (dk_at dksX8_swaps_2 6 rfl rfl)
theorem dX8_swaps_53 : decode cX8_swaps 53 = .ok (.getfield 48, 3) := dk_180 0 48 (dk_at dksX8_swaps_2 7 rfl rfl)
theorem dX8_swaps_56 : decode cX8_swaps 56 = .ok (.bipush 8, 2) := dk_16 8 (dk_at dksX8_swaps_2 10 rfl rfl)
theorem dX8_swaps_58 : decode cX8_swaps 58 = .ok (.iload_n 2, 1) := dk_28 (dk_at dksX8_swaps_2 12 rfl rfl)
theorem dX8_swaps_59 : decode cX8_swaps 59 = .ok (.imul, 1) := dk_104 (dk_at dksX8_swaps_2 13 rfl rfl)
theorem dX8_swaps_60 : decode cX8_swaps 60 = .ok (.iload_n 3, 1) := dk_29 (dk_at dksX8_swaps_2 14 rfl rfl)
theorem dX8_swaps_61 : decode cX8_swaps 61 = .ok (.iadd, 1) := dk_96 (dk_at dksX8_swaps_2 15 rfl rfl)
theorem dX8_swaps_62 : decode cX8_swaps 62 = .ok (.laload, 1) := dk_47 (dk_at dksX8_swaps_2 16 rfl rfl)
theorem dX8_swaps_63 : decode cX8_swaps 63 = .ok (.lastore, 1) := dk_80 (dk_at dksX8_swaps_2 17 rfl rfl)
theorem dX8_swaps_64 : decode cX8_swaps 64 = .ok (.aload_n 0, 1) := dk_42 (dk_at dksX8_swaps_2 18 rfl rfl)
theorem dX8_swaps_65 : decode cX8_swaps 65 = .ok (.getfield 48, 3) := dk_180 0 48 (dk_at dksX8_swaps_2 19 rfl rfl)
theorem dX8_swaps_68 : decode cX8_swaps 68 = .ok (.bipush 8, 2) := dk_16 8 (dk_at dksX8_swaps_2 22 rfl rfl)
theorem dX8_swaps_70 : decode cX8_swaps 70 = .ok (.iload_n 2, 1) := dk_28 (dk_at dksX8_swaps_3 0 rfl rfl)
theorem dX8_swaps_71 : decode cX8_swaps 71 = .ok (.imul, 1) := dk_104 (dk_at dksX8_swaps_3 1 rfl rfl)
theorem dX8_swaps_72 : decode cX8_swaps 72 = .ok (.iload_n 3, 1) := dk_29 (dk_at dksX8_swaps_3 2 rfl rfl)
theorem dX8_swaps_73 : decode cX8_swaps 73 = .ok (.iadd, 1) := dk_96 (dk_at dksX8_swaps_3 3 rfl rfl)
theorem dX8_swaps_74 : decode cX8_swaps 74 = .ok (.lload 4, 2) := dk_22 4 (dk_at dksX8_swaps_3 4 rfl rfl)
theorem dX8_swaps_76 : decode cX8_swaps 76 = .ok (.lastore, 1) := dk_80 (dk_at dksX8_swaps_3 6 rfl rfl)
theorem dX8_swaps_77 : decode cX8_swaps 77 = .ok (.iinc 3 1, 3) := dk_132 3 1 (dk_at dksX8_swaps_3 7 rfl rfl)
theorem dX8_swaps_80 : decode cX8_swaps 80 = .ok (.goto (-59), 3) := dk_167 255 197 (dk_at dksX8_swaps_3 10 rfl rfl)
theorem dX8_swaps_83 : decode cX8_swaps 83 = .ok (.return_, 1) := dk_177 (dk_at dksX8_swaps_3 13 rfl rfl)
abbrev cX8_clears : ByteArray := prog_24_method_45_code
def yX8_clears : MethodName := ⟨RX8, "clears", "(II)V"⟩
def dkwX8_clears_5 : List UInt8 := [42, 33, 181, 0, 235, 177]
abbrev dktX8_clears_5 : List UInt8 := dkwX8_clears_5 ++ []
def dkwX8_clears_4 : List UInt8 := [21, 8, 96, 47, 105, 101, 42, 180, 0, 235, 109, 80, 132, 8, 1, 167, 255, 195, 132, 5, 1, 167, 255, 154]
abbrev dktX8_clears_4 : List UInt8 := dkwX8_clears_4 ++ dktX8_clears_5
def dkwX8_clears_3 : List UInt8 := [42, 180, 0, 48, 16, 8, 21, 5, 104, 21, 8, 96, 47, 105, 22, 6, 42, 180, 0, 48, 16, 8, 27, 104]
abbrev dktX8_clears_3 : List UInt8 := dkwX8_clears_3 ++ dktX8_clears_4
def dkwX8_clears_2 : List UInt8 := [54, 8, 21, 8, 42, 180, 0, 229, 163, 0, 58, 42, 180, 0, 48, 16, 8, 21, 5, 104, 21, 8, 96, 33]
abbrev dktX8_clears_2 : List UInt8 := dkwX8_clears_2 ++ dktX8_clears_3
def dkwX8_clears_1 : List UInt8 := [21, 5, 27, 160, 0, 6, 167, 0, 84, 42, 180, 0, 48, 16, 8, 21, 5, 104, 28, 96, 47, 55, 6, 3]
abbrev dktX8_clears_1 : List UInt8 := dkwX8_clears_1 ++ dktX8_clears_2
def dkwX8_clears_0 : List UInt8 := [42, 180, 0, 48, 16, 8, 27, 104, 28, 96, 47, 66, 3, 54, 5, 21, 5, 42, 180, 0, 232, 162, 0, 99]
abbrev dktX8_clears_0 : List UInt8 := dkwX8_clears_0 ++ dktX8_clears_1
theorem dksX8_clears_0 : cX8_clears.data.toList.drop 0 = dktX8_clears_0 := by decide +kernel
theorem dksX8_clears_1 : cX8_clears.data.toList.drop 24 = dktX8_clears_1 := dk_seg dksX8_clears_0 24 rfl rfl
theorem dksX8_clears_2 : cX8_clears.data.toList.drop 48 = dktX8_clears_2 := dk_seg dksX8_clears_1 24 rfl rfl
theorem dksX8_clears_3 : cX8_clears.data.toList.drop 72 = dktX8_clears_3 := dk_seg dksX8_clears_2 24 rfl rfl
theorem dksX8_clears_4 : cX8_clears.data.toList.drop 96 = dktX8_clears_4 := dk_seg dksX8_clears_3 24 rfl rfl
theorem dksX8_clears_5 : cX8_clears.data.toList.drop 120 = dktX8_clears_5 := dk_seg dksX8_clears_4 24 rfl rfl
theorem dX8_clears_0 : decode cX8_clears 0 = .ok (.aload_n 0, 1) := dk_42 (dk_at dksX8_clears_0 0 rfl rfl)
theorem dX8_clears_1 : decode cX8_clears 1 = .ok (.getfield 48, 3) := dk_180 0 48 (dk_at dksX8_clears_0 1 rfl rfl)
theorem dX8_clears_4 : decode cX8_clears 4 = .ok (.bipush 8, 2) := dk_16 8 (dk_at dksX8_clears_0 4 rfl rfl)
theorem dX8_clears_6 : decode cX8_clears 6 = .ok (.iload_n 1, 1) := dk_27 (dk_at dksX8_clears_0 6 rfl rfl)
theorem dX8_clears_7 : decode cX8_clears 7 = .ok (.imul, 1) := dk_104 (dk_at dksX8_clears_0 7 rfl rfl)
theorem dX8_clears_8 : decode cX8_clears 8 = .ok (.iload_n 2, 1) := dk_28 (dk_at dksX8_clears_0 8 rfl rfl)
theorem dX8_clears_9 : decode cX8_clears 9 = .ok (.iadd, 1) := dk_96 (dk_at dksX8_clears_0 9 rfl rfl)
theorem dX8_clears_10 : decode cX8_clears 10 = .ok (.laload, 1) := dk_47 (dk_at dksX8_clears_0 10 rfl rfl)
theorem dX8_clears_11 : decode cX8_clears 11 = .ok (.lstore_n 3, 1) := dk_66 (dk_at dksX8_clears_0 11 rfl rfl)
theorem dX8_clears_12 : decode cX8_clears 12 = .ok (.iconst 0, 1) := dk_3 (dk_at dksX8_clears_0 12 rfl rfl)
theorem dX8_clears_13 : decode cX8_clears 13 = .ok (.istore 5, 2) := dk_54 5 (dk_at dksX8_clears_0 13 rfl rfl)
theorem dX8_clears_15 : decode cX8_clears 15 = .ok (.iload 5, 2) := dk_21 5 (dk_at dksX8_clears_0 15 rfl rfl)
theorem dX8_clears_17 : decode cX8_clears 17 = .ok (.aload_n 0, 1) := dk_42 (dk_at dksX8_clears_0 17 rfl rfl)
theorem dX8_clears_18 : decode cX8_clears 18 = .ok (.getfield 232, 3) := dk_180 0 232 (dk_at dksX8_clears_0 18 rfl rfl)
theorem dX8_clears_21 : decode cX8_clears 21 = .ok (.if_icmp .ge 99, 3) := dk_162 0 99 (dk_at dksX8_clears_0 21 rfl rfl)
theorem dX8_clears_24 : decode cX8_clears 24 = .ok (.iload 5, 2) := dk_21 5 (dk_at dksX8_clears_1 0 rfl rfl)
theorem dX8_clears_26 : decode cX8_clears 26 = .ok (.iload_n 1, 1) := dk_27 (dk_at dksX8_clears_1 2 rfl rfl)
theorem dX8_clears_27 : decode cX8_clears 27 = .ok (.if_icmp .ne 6, 3) := dk_160 0 6 (dk_at dksX8_clears_1 3 rfl rfl)
theorem dX8_clears_30 : decode cX8_clears 30 = .ok (.goto 84, 3) := dk_167 0 84 (dk_at dksX8_clears_1 6 rfl rfl)
theorem dX8_clears_33 : decode cX8_clears 33 = .ok (.aload_n 0, 1) := dk_42 (dk_at dksX8_clears_1 9 rfl rfl)
theorem dX8_clears_34 : decode cX8_clears 34 = .ok (.getfield 48, 3) := dk_180 0 48 (dk_at dksX8_clears_1 10 rfl rfl)
theorem dX8_clears_37 : decode cX8_clears 37 = .ok (.bipush 8, 2) := dk_16 8 (dk_at dksX8_clears_1 13 rfl rfl)
theorem dX8_clears_39 : decode cX8_clears 39 = .ok (.iload 5, 2) := dk_21 5 (dk_at dksX8_clears_1 15 rfl rfl)
theorem dX8_clears_41 : decode cX8_clears 41 = .ok (.imul, 1) := dk_104 (dk_at dksX8_clears_1 17 rfl rfl)
theorem dX8_clears_42 : decode cX8_clears 42 = .ok (.iload_n 2, 1) := dk_28 (dk_at dksX8_clears_1 18 rfl rfl)
theorem dX8_clears_43 : decode cX8_clears 43 = .ok (.iadd, 1) := dk_96 (dk_at dksX8_clears_1 19 rfl rfl)
theorem dX8_clears_44 : decode cX8_clears 44 = .ok (.laload, 1) := dk_47 (dk_at dksX8_clears_1 20 rfl rfl)
theorem dX8_clears_45 : decode cX8_clears 45 = .ok (.lstore 6, 2) := dk_55 6 (dk_at dksX8_clears_1 21 rfl rfl)
theorem dX8_clears_47 : decode cX8_clears 47 = .ok (.iconst 0, 1) := dk_3 (dk_at dksX8_clears_1 23 rfl rfl)
theorem dX8_clears_48 : decode cX8_clears 48 = .ok (.istore 8, 2) := dk_54 8 (dk_at dksX8_clears_2 0 rfl rfl)
theorem dX8_clears_50 : decode cX8_clears 50 = .ok (.iload 8, 2) := dk_21 8 (dk_at dksX8_clears_2 2 rfl rfl)
theorem dX8_clears_52 : decode cX8_clears 52 = .ok (.aload_n 0, 1) := dk_42 (dk_at dksX8_clears_2 4 rfl rfl)
theorem dX8_clears_53 : decode cX8_clears 53 = .ok (.getfield 229, 3) := dk_180 0 229 (dk_at dksX8_clears_2 5 rfl rfl)
theorem dX8_clears_56 : decode cX8_clears 56 = .ok (.if_icmp .gt 58, 3) := dk_163 0 58 (dk_at dksX8_clears_2 8 rfl rfl)
theorem dX8_clears_59 : decode cX8_clears 59 = .ok (.aload_n 0, 1) := dk_42 (dk_at dksX8_clears_2 11 rfl rfl)
theorem dX8_clears_60 : decode cX8_clears 60 = .ok (.getfield 48, 3) := dk_180 0 48 (dk_at dksX8_clears_2 12 rfl rfl)
theorem dX8_clears_63 : decode cX8_clears 63 = .ok (.bipush 8, 2) := dk_16 8 (dk_at dksX8_clears_2 15 rfl rfl)
theorem dX8_clears_65 : decode cX8_clears 65 = .ok (.iload 5, 2) := dk_21 5 (dk_at dksX8_clears_2 17 rfl rfl)
theorem dX8_clears_67 : decode cX8_clears 67 = .ok (.imul, 1) := dk_104 (dk_at dksX8_clears_2 19 rfl rfl)
theorem dX8_clears_68 : decode cX8_clears 68 = .ok (.iload 8, 2) := dk_21 8 (dk_at dksX8_clears_2 20 rfl rfl)
theorem dX8_clears_70 : decode cX8_clears 70 = .ok (.iadd, 1) := dk_96 (dk_at dksX8_clears_2 22 rfl rfl)
theorem dX8_clears_71 : decode cX8_clears 71 = .ok (.lload_n 3, 1) := dk_33 (dk_at dksX8_clears_2 23 rfl rfl)
theorem dX8_clears_72 : decode cX8_clears 72 = .ok (.aload_n 0, 1) := dk_42 (dk_at dksX8_clears_3 0 rfl rfl)
theorem dX8_clears_73 : decode cX8_clears 73 = .ok (.getfield 48, 3) := dk_180 0 48 (dk_at dksX8_clears_3 1 rfl rfl)
theorem dX8_clears_76 : decode cX8_clears 76 = .ok (.bipush 8, 2) := dk_16 8 (dk_at dksX8_clears_3 4 rfl rfl)
theorem dX8_clears_78 : decode cX8_clears 78 = .ok (.iload 5, 2) := dk_21 5 (dk_at dksX8_clears_3 6 rfl rfl)
theorem dX8_clears_80 : decode cX8_clears 80 = .ok (.imul, 1) := dk_104 (dk_at dksX8_clears_3 8 rfl rfl)
theorem dX8_clears_81 : decode cX8_clears 81 = .ok (.iload 8, 2) := dk_21 8 (dk_at dksX8_clears_3 9 rfl rfl)
theorem dX8_clears_83 : decode cX8_clears 83 = .ok (.iadd, 1) := dk_96 (dk_at dksX8_clears_3 11 rfl rfl)
theorem dX8_clears_84 : decode cX8_clears 84 = .ok (.laload, 1) := dk_47 (dk_at dksX8_clears_3 12 rfl rfl)
theorem dX8_clears_85 : decode cX8_clears 85 = .ok (.lmul, 1) := dk_105 (dk_at dksX8_clears_3 13 rfl rfl)
theorem dX8_clears_86 : decode cX8_clears 86 = .ok (.lload 6, 2) := dk_22 6 (dk_at dksX8_clears_3 14 rfl rfl)
theorem dX8_clears_88 : decode cX8_clears 88 = .ok (.aload_n 0, 1) := dk_42 (dk_at dksX8_clears_3 16 rfl rfl)
theorem dX8_clears_89 : decode cX8_clears 89 = .ok (.getfield 48, 3) := dk_180 0 48 (dk_at dksX8_clears_3 17 rfl rfl)
theorem dX8_clears_92 : decode cX8_clears 92 = .ok (.bipush 8, 2) := dk_16 8 (dk_at dksX8_clears_3 20 rfl rfl)
theorem dX8_clears_94 : decode cX8_clears 94 = .ok (.iload_n 1, 1) := dk_27 (dk_at dksX8_clears_3 22 rfl rfl)
theorem dX8_clears_95 : decode cX8_clears 95 = .ok (.imul, 1) := dk_104 (dk_at dksX8_clears_3 23 rfl rfl)
theorem dX8_clears_96 : decode cX8_clears 96 = .ok (.iload 8, 2) := dk_21 8 (dk_at dksX8_clears_4 0 rfl rfl)
theorem dX8_clears_98 : decode cX8_clears 98 = .ok (.iadd, 1) := dk_96 (dk_at dksX8_clears_4 2 rfl rfl)
theorem dX8_clears_99 : decode cX8_clears 99 = .ok (.laload, 1) := dk_47 (dk_at dksX8_clears_4 3 rfl rfl)
theorem dX8_clears_100 : decode cX8_clears 100 = .ok (.lmul, 1) := dk_105 (dk_at dksX8_clears_4 4 rfl rfl)
theorem dX8_clears_101 : decode cX8_clears 101 = .ok (.lsub, 1) := dk_101 (dk_at dksX8_clears_4 5 rfl rfl)
theorem dX8_clears_102 : decode cX8_clears 102 = .ok (.aload_n 0, 1) := dk_42 (dk_at dksX8_clears_4 6 rfl rfl)
theorem dX8_clears_103 : decode cX8_clears 103 = .ok (.getfield 235, 3) := dk_180 0 235 (dk_at dksX8_clears_4 7 rfl rfl)
theorem dX8_clears_106 : decode cX8_clears 106 = .ok (.ldiv, 1) := dk_109 (dk_at dksX8_clears_4 10 rfl rfl)
theorem dX8_clears_107 : decode cX8_clears 107 = .ok (.lastore, 1) := dk_80 (dk_at dksX8_clears_4 11 rfl rfl)
theorem dX8_clears_108 : decode cX8_clears 108 = .ok (.iinc 8 1, 3) := dk_132 8 1 (dk_at dksX8_clears_4 12 rfl rfl)
theorem dX8_clears_111 : decode cX8_clears 111 = .ok (.goto (-61), 3) := dk_167 255 195 (dk_at dksX8_clears_4 15 rfl rfl)
theorem dX8_clears_114 : decode cX8_clears 114 = .ok (.iinc 5 1, 3) := dk_132 5 1 (dk_at dksX8_clears_4 18 rfl rfl)
theorem dX8_clears_117 : decode cX8_clears 117 = .ok (.goto (-102), 3) := dk_167 255 154 (dk_at dksX8_clears_4 21 rfl rfl)
theorem dX8_clears_120 : decode cX8_clears 120 = .ok (.aload_n 0, 1) := dk_42 (dk_at dksX8_clears_5 0 rfl rfl)
theorem dX8_clears_121 : decode cX8_clears 121 = .ok (.lload_n 3, 1) := dk_33 (dk_at dksX8_clears_5 1 rfl rfl)
theorem dX8_clears_122 : decode cX8_clears 122 = .ok (.putfield 235, 3) := dk_181 0 235 (dk_at dksX8_clears_5 2 rfl rfl)
theorem dX8_clears_125 : decode cX8_clears 125 = .ok (.return_, 1) := dk_177 (dk_at dksX8_clears_5 5 rfl rfl)
abbrev cX8_freeOnes : ByteArray := prog_24_method_50_code
def yX8_freeOnes : MethodName := ⟨RX8, "freeOnes", "()I"⟩
def dkwX8_freeOnes_1 : List UInt8 := [120, 167, 0, 4, 3, 128, 60, 132, 2, 1, 167, 255, 226, 27, 172]
abbrev dktX8_freeOnes_1 : List UInt8 := dkwX8_freeOnes_1 ++ []
def dkwX8_freeOnes_0 : List UInt8 := [3, 60, 3, 61, 28, 42, 180, 0, 229, 162, 0, 28, 27, 42, 180, 0, 55, 28, 46, 156, 0, 9, 4, 28]
abbrev dktX8_freeOnes_0 : List UInt8 := dkwX8_freeOnes_0 ++ dktX8_freeOnes_1
theorem dksX8_freeOnes_0 : cX8_freeOnes.data.toList.drop 0 = dktX8_freeOnes_0 := by decide +kernel
theorem dksX8_freeOnes_1 : cX8_freeOnes.data.toList.drop 24 = dktX8_freeOnes_1 := dk_seg dksX8_freeOnes_0 24 rfl rfl
theorem dX8_freeOnes_0 : decode cX8_freeOnes 0 = .ok (.iconst 0, 1) := dk_3 (dk_at dksX8_freeOnes_0 0 rfl rfl)
theorem dX8_freeOnes_1 : decode cX8_freeOnes 1 = .ok (.istore_n 1, 1) := dk_60 (dk_at dksX8_freeOnes_0 1 rfl rfl)
theorem dX8_freeOnes_2 : decode cX8_freeOnes 2 = .ok (.iconst 0, 1) := dk_3 (dk_at dksX8_freeOnes_0 2 rfl rfl)
theorem dX8_freeOnes_3 : decode cX8_freeOnes 3 = .ok (.istore_n 2, 1) := dk_61 (dk_at dksX8_freeOnes_0 3 rfl rfl)
theorem dX8_freeOnes_4 : decode cX8_freeOnes 4 = .ok (.iload_n 2, 1) := dk_28 (dk_at dksX8_freeOnes_0 4 rfl rfl)
theorem dX8_freeOnes_5 : decode cX8_freeOnes 5 = .ok (.aload_n 0, 1) := dk_42 (dk_at dksX8_freeOnes_0 5 rfl rfl)
theorem dX8_freeOnes_6 : decode cX8_freeOnes 6 = .ok (.getfield 229, 3) := dk_180 0 229 (dk_at dksX8_freeOnes_0 6 rfl rfl)
theorem dX8_freeOnes_9 : decode cX8_freeOnes 9 = .ok (.if_icmp .ge 28, 3) := dk_162 0 28 (dk_at dksX8_freeOnes_0 9 rfl rfl)
theorem dX8_freeOnes_12 : decode cX8_freeOnes 12 = .ok (.iload_n 1, 1) := dk_27 (dk_at dksX8_freeOnes_0 12 rfl rfl)
theorem dX8_freeOnes_13 : decode cX8_freeOnes 13 = .ok (.aload_n 0, 1) := dk_42 (dk_at dksX8_freeOnes_0 13 rfl rfl)
theorem dX8_freeOnes_14 : decode cX8_freeOnes 14 = .ok (.getfield 55, 3) := dk_180 0 55 (dk_at dksX8_freeOnes_0 14 rfl rfl)
theorem dX8_freeOnes_17 : decode cX8_freeOnes 17 = .ok (.iload_n 2, 1) := dk_28 (dk_at dksX8_freeOnes_0 17 rfl rfl)
theorem dX8_freeOnes_18 : decode cX8_freeOnes 18 = .ok (.iaload, 1) := dk_46 (dk_at dksX8_freeOnes_0 18 rfl rfl)
theorem dX8_freeOnes_19 : decode cX8_freeOnes 19 = .ok (.ifCond .ge 9, 3) := dk_156 0 9 (dk_at dksX8_freeOnes_0 19 rfl rfl)
theorem dX8_freeOnes_22 : decode cX8_freeOnes 22 = .ok (.iconst 1, 1) := dk_4 (dk_at dksX8_freeOnes_0 22 rfl rfl)
theorem dX8_freeOnes_23 : decode cX8_freeOnes 23 = .ok (.iload_n 2, 1) := dk_28 (dk_at dksX8_freeOnes_0 23 rfl rfl)
theorem dX8_freeOnes_24 : decode cX8_freeOnes 24 = .ok (.ishl, 1) := dk_120 (dk_at dksX8_freeOnes_1 0 rfl rfl)
theorem dX8_freeOnes_25 : decode cX8_freeOnes 25 = .ok (.goto 4, 3) := dk_167 0 4 (dk_at dksX8_freeOnes_1 1 rfl rfl)
theorem dX8_freeOnes_28 : decode cX8_freeOnes 28 = .ok (.iconst 0, 1) := dk_3 (dk_at dksX8_freeOnes_1 4 rfl rfl)
theorem dX8_freeOnes_29 : decode cX8_freeOnes 29 = .ok (.ior, 1) := dk_128 (dk_at dksX8_freeOnes_1 5 rfl rfl)
theorem dX8_freeOnes_30 : decode cX8_freeOnes 30 = .ok (.istore_n 1, 1) := dk_60 (dk_at dksX8_freeOnes_1 6 rfl rfl)
theorem dX8_freeOnes_31 : decode cX8_freeOnes 31 = .ok (.iinc 2 1, 3) := dk_132 2 1 (dk_at dksX8_freeOnes_1 7 rfl rfl)
theorem dX8_freeOnes_34 : decode cX8_freeOnes 34 = .ok (.goto (-30), 3) := dk_167 255 226 (dk_at dksX8_freeOnes_1 10 rfl rfl)
theorem dX8_freeOnes_37 : decode cX8_freeOnes 37 = .ok (.iload_n 1, 1) := dk_27 (dk_at dksX8_freeOnes_1 13 rfl rfl)
theorem dX8_freeOnes_38 : decode cX8_freeOnes 38 = .ok (.ireturn, 1) := dk_172 (dk_at dksX8_freeOnes_1 14 rfl rfl)
abbrev cX8_isSolved : ByteArray := prog_24_method_47_code
def yX8_isSolved : MethodName := ⟨RX8, "isSolved", "()Z"⟩
def dkwX8_isSolved_1 : List UInt8 := [180, 0, 229, 96, 47, 9, 148, 153, 0, 5, 3, 172, 132, 1, 1, 167, 255, 224, 4, 172]
abbrev dktX8_isSolved_1 : List UInt8 := dkwX8_isSolved_1 ++ []
def dkwX8_isSolved_0 : List UInt8 := [42, 180, 0, 239, 60, 27, 42, 180, 0, 232, 162, 0, 30, 42, 180, 0, 48, 16, 8, 27, 104, 42]
abbrev dktX8_isSolved_0 : List UInt8 := dkwX8_isSolved_0 ++ dktX8_isSolved_1
theorem dksX8_isSolved_0 : cX8_isSolved.data.toList.drop 0 = dktX8_isSolved_0 := by decide +kernel
theorem dksX8_isSolved_1 : cX8_isSolved.data.toList.drop 22 = dktX8_isSolved_1 := dk_seg dksX8_isSolved_0 22 rfl rfl
theorem dX8_isSolved_0 : decode cX8_isSolved 0 = .ok (.aload_n 0, 1) := dk_42 (dk_at dksX8_isSolved_0 0 rfl rfl)
theorem dX8_isSolved_1 : decode cX8_isSolved 1 = .ok (.getfield 239, 3) := dk_180 0 239 (dk_at dksX8_isSolved_0 1 rfl rfl)
theorem dX8_isSolved_4 : decode cX8_isSolved 4 = .ok (.istore_n 1, 1) := dk_60 (dk_at dksX8_isSolved_0 4 rfl rfl)
theorem dX8_isSolved_5 : decode cX8_isSolved 5 = .ok (.iload_n 1, 1) := dk_27 (dk_at dksX8_isSolved_0 5 rfl rfl)
theorem dX8_isSolved_6 : decode cX8_isSolved 6 = .ok (.aload_n 0, 1) := dk_42 (dk_at dksX8_isSolved_0 6 rfl rfl)
theorem dX8_isSolved_7 : decode cX8_isSolved 7 = .ok (.getfield 232, 3) := dk_180 0 232 (dk_at dksX8_isSolved_0 7 rfl rfl)
theorem dX8_isSolved_10 : decode cX8_isSolved 10 = .ok (.if_icmp .ge 30, 3) := dk_162 0 30 (dk_at dksX8_isSolved_0 10 rfl rfl)
theorem dX8_isSolved_13 : decode cX8_isSolved 13 = .ok (.aload_n 0, 1) := dk_42 (dk_at dksX8_isSolved_0 13 rfl rfl)
theorem dX8_isSolved_14 : decode cX8_isSolved 14 = .ok (.getfield 48, 3) := dk_180 0 48 (dk_at dksX8_isSolved_0 14 rfl rfl)
theorem dX8_isSolved_17 : decode cX8_isSolved 17 = .ok (.bipush 8, 2) := dk_16 8 (dk_at dksX8_isSolved_0 17 rfl rfl)
theorem dX8_isSolved_19 : decode cX8_isSolved 19 = .ok (.iload_n 1, 1) := dk_27 (dk_at dksX8_isSolved_0 19 rfl rfl)
theorem dX8_isSolved_20 : decode cX8_isSolved 20 = .ok (.imul, 1) := dk_104 (dk_at dksX8_isSolved_0 20 rfl rfl)
theorem dX8_isSolved_21 : decode cX8_isSolved 21 = .ok (.aload_n 0, 1) := dk_42 (dk_at dksX8_isSolved_0 21 rfl rfl)
theorem dX8_isSolved_22 : decode cX8_isSolved 22 = .ok (.getfield 229, 3) := dk_180 0 229 (dk_at dksX8_isSolved_1 0 rfl rfl)
theorem dX8_isSolved_25 : decode cX8_isSolved 25 = .ok (.iadd, 1) := dk_96 (dk_at dksX8_isSolved_1 3 rfl rfl)
theorem dX8_isSolved_26 : decode cX8_isSolved 26 = .ok (.laload, 1) := dk_47 (dk_at dksX8_isSolved_1 4 rfl rfl)
theorem dX8_isSolved_27 : decode cX8_isSolved 27 = .ok (.lconst 0, 1) := dk_9 (dk_at dksX8_isSolved_1 5 rfl rfl)
theorem dX8_isSolved_28 : decode cX8_isSolved 28 = .ok (.lcmp, 1) := dk_148 (dk_at dksX8_isSolved_1 6 rfl rfl)
theorem dX8_isSolved_29 : decode cX8_isSolved 29 = .ok (.ifCond .eq 5, 3) := dk_153 0 5 (dk_at dksX8_isSolved_1 7 rfl rfl)
theorem dX8_isSolved_32 : decode cX8_isSolved 32 = .ok (.iconst 0, 1) := dk_3 (dk_at dksX8_isSolved_1 10 rfl rfl)
theorem dX8_isSolved_33 : decode cX8_isSolved 33 = .ok (.ireturn, 1) := dk_172 (dk_at dksX8_isSolved_1 11 rfl rfl)
theorem dX8_isSolved_34 : decode cX8_isSolved 34 = .ok (.iinc 1 1, 3) := dk_132 1 1 (dk_at dksX8_isSolved_1 12 rfl rfl)
theorem dX8_isSolved_37 : decode cX8_isSolved 37 = .ok (.goto (-32), 3) := dk_167 255 224 (dk_at dksX8_isSolved_1 15 rfl rfl)
theorem dX8_isSolved_40 : decode cX8_isSolved 40 = .ok (.iconst 1, 1) := dk_4 (dk_at dksX8_isSolved_1 18 rfl rfl)
theorem dX8_isSolved_41 : decode cX8_isSolved 41 = .ok (.ireturn, 1) := dk_172 (dk_at dksX8_isSolved_1 19 rfl rfl)
abbrev cX8_right : ByteArray := prog_24_method_52_code
def yX8_right : MethodName := ⟨RX8, "right", "(III)J"⟩
def dkwX8_right_3 : List UInt8 := [167, 0, 8, 16, 252, 184, 0, 140, 173]
abbrev dktX8_right_3 : List UInt8 := dkwX8_right_3 ++ []
def dkwX8_right_2 : List UInt8 := [180, 0, 29, 27, 46, 182, 0, 209, 153, 0, 19, 42, 42, 180, 0, 29, 27, 46, 28, 29, 182, 0, 215, 133]
abbrev dktX8_right_2 : List UInt8 := dkwX8_right_2 ++ dktX8_right_3
def dkwX8_right_1 : List UInt8 := [29, 133, 9, 42, 180, 0, 23, 4, 100, 133, 184, 0, 99, 154, 0, 8, 2, 184, 0, 140, 173, 42, 42]
abbrev dktX8_right_1 : List UInt8 := dkwX8_right_1 ++ dktX8_right_2
def dkwX8_right_0 : List UInt8 := [42, 27, 182, 0, 203, 153, 0, 35, 28, 133, 9, 42, 180, 0, 23, 4, 100, 133, 184, 0, 99, 153, 0, 19]
abbrev dktX8_right_0 : List UInt8 := dkwX8_right_0 ++ dktX8_right_1
theorem dksX8_right_0 : cX8_right.data.toList.drop 0 = dktX8_right_0 := by decide +kernel
theorem dksX8_right_1 : cX8_right.data.toList.drop 24 = dktX8_right_1 := dk_seg dksX8_right_0 24 rfl rfl
theorem dksX8_right_2 : cX8_right.data.toList.drop 47 = dktX8_right_2 := dk_seg dksX8_right_1 23 rfl rfl
theorem dksX8_right_3 : cX8_right.data.toList.drop 71 = dktX8_right_3 := dk_seg dksX8_right_2 24 rfl rfl
theorem dX8_right_0 : decode cX8_right 0 = .ok (.aload_n 0, 1) := dk_42 (dk_at dksX8_right_0 0 rfl rfl)
theorem dX8_right_1 : decode cX8_right 1 = .ok (.iload_n 1, 1) := dk_27 (dk_at dksX8_right_0 1 rfl rfl)
theorem dX8_right_2 : decode cX8_right 2 = .ok (.invokevirtual 203, 3) := dk_182 0 203 (dk_at dksX8_right_0 2 rfl rfl)
theorem dX8_right_5 : decode cX8_right 5 = .ok (.ifCond .eq 35, 3) := dk_153 0 35 (dk_at dksX8_right_0 5 rfl rfl)
theorem dX8_right_8 : decode cX8_right 8 = .ok (.iload_n 2, 1) := dk_28 (dk_at dksX8_right_0 8 rfl rfl)
theorem dX8_right_9 : decode cX8_right 9 = .ok (.i2l, 1) := dk_133 (dk_at dksX8_right_0 9 rfl rfl)
theorem dX8_right_10 : decode cX8_right 10 = .ok (.lconst 0, 1) := dk_9 (dk_at dksX8_right_0 10 rfl rfl)
theorem dX8_right_11 : decode cX8_right 11 = .ok (.aload_n 0, 1) := dk_42 (dk_at dksX8_right_0 11 rfl rfl)
theorem dX8_right_12 : decode cX8_right 12 = .ok (.getfield 23, 3) := dk_180 0 23 (dk_at dksX8_right_0 12 rfl rfl)
theorem dX8_right_15 : decode cX8_right 15 = .ok (.iconst 1, 1) := dk_4 (dk_at dksX8_right_0 15 rfl rfl)
theorem dX8_right_16 : decode cX8_right 16 = .ok (.isub, 1) := dk_100 (dk_at dksX8_right_0 16 rfl rfl)
theorem dX8_right_17 : decode cX8_right 17 = .ok (.i2l, 1) := dk_133 (dk_at dksX8_right_0 17 rfl rfl)
theorem dX8_right_18 : decode cX8_right 18 = .ok (.invokestatic 99, 3) := dk_184 0 99 (dk_at dksX8_right_0 18 rfl rfl)
theorem dX8_right_21 : decode cX8_right 21 = .ok (.ifCond .eq 19, 3) := dk_153 0 19 (dk_at dksX8_right_0 21 rfl rfl)
theorem dX8_right_24 : decode cX8_right 24 = .ok (.iload_n 3, 1) := dk_29 (dk_at dksX8_right_1 0 rfl rfl)
theorem dX8_right_25 : decode cX8_right 25 = .ok (.i2l, 1) := dk_133 (dk_at dksX8_right_1 1 rfl rfl)
theorem dX8_right_26 : decode cX8_right 26 = .ok (.lconst 0, 1) := dk_9 (dk_at dksX8_right_1 2 rfl rfl)
theorem dX8_right_27 : decode cX8_right 27 = .ok (.aload_n 0, 1) := dk_42 (dk_at dksX8_right_1 3 rfl rfl)
theorem dX8_right_28 : decode cX8_right 28 = .ok (.getfield 23, 3) := dk_180 0 23 (dk_at dksX8_right_1 4 rfl rfl)
theorem dX8_right_31 : decode cX8_right 31 = .ok (.iconst 1, 1) := dk_4 (dk_at dksX8_right_1 7 rfl rfl)
theorem dX8_right_32 : decode cX8_right 32 = .ok (.isub, 1) := dk_100 (dk_at dksX8_right_1 8 rfl rfl)
theorem dX8_right_33 : decode cX8_right 33 = .ok (.i2l, 1) := dk_133 (dk_at dksX8_right_1 9 rfl rfl)
theorem dX8_right_34 : decode cX8_right 34 = .ok (.invokestatic 99, 3) := dk_184 0 99 (dk_at dksX8_right_1 10 rfl rfl)
theorem dX8_right_37 : decode cX8_right 37 = .ok (.ifCond .ne 8, 3) := dk_154 0 8 (dk_at dksX8_right_1 13 rfl rfl)
theorem dX8_right_40 : decode cX8_right 40 = .ok (.iconst (-1), 1) := dk_2 (dk_at dksX8_right_1 16 rfl rfl)
theorem dX8_right_41 : decode cX8_right 41 = .ok (.invokestatic 140, 3) := dk_184 0 140 (dk_at dksX8_right_1 17 rfl rfl)
theorem dX8_right_44 : decode cX8_right 44 = .ok (.lreturn, 1) := dk_173 (dk_at dksX8_right_1 20 rfl rfl)
theorem dX8_right_45 : decode cX8_right 45 = .ok (.aload_n 0, 1) := dk_42 (dk_at dksX8_right_1 21 rfl rfl)
theorem dX8_right_46 : decode cX8_right 46 = .ok (.aload_n 0, 1) := dk_42 (dk_at dksX8_right_1 22 rfl rfl)
theorem dX8_right_47 : decode cX8_right 47 = .ok (.getfield 29, 3) := dk_180 0 29 (dk_at dksX8_right_2 0 rfl rfl)
theorem dX8_right_50 : decode cX8_right 50 = .ok (.iload_n 1, 1) := dk_27 (dk_at dksX8_right_2 3 rfl rfl)
theorem dX8_right_51 : decode cX8_right 51 = .ok (.iaload, 1) := dk_46 (dk_at dksX8_right_2 4 rfl rfl)
theorem dX8_right_52 : decode cX8_right 52 = .ok (.invokevirtual 209, 3) := dk_182 0 209 (dk_at dksX8_right_2 5 rfl rfl)
theorem dX8_right_55 : decode cX8_right 55 = .ok (.ifCond .eq 19, 3) := dk_153 0 19 (dk_at dksX8_right_2 8 rfl rfl)
theorem dX8_right_58 : decode cX8_right 58 = .ok (.aload_n 0, 1) := dk_42 (dk_at dksX8_right_2 11 rfl rfl)
theorem dX8_right_59 : decode cX8_right 59 = .ok (.aload_n 0, 1) := dk_42 (dk_at dksX8_right_2 12 rfl rfl)
theorem dX8_right_60 : decode cX8_right 60 = .ok (.getfield 29, 3) := dk_180 0 29 (dk_at dksX8_right_2 13 rfl rfl)
theorem dX8_right_63 : decode cX8_right 63 = .ok (.iload_n 1, 1) := dk_27 (dk_at dksX8_right_2 16 rfl rfl)
theorem dX8_right_64 : decode cX8_right 64 = .ok (.iaload, 1) := dk_46 (dk_at dksX8_right_2 17 rfl rfl)
theorem dX8_right_65 : decode cX8_right 65 = .ok (.iload_n 2, 1) := dk_28 (dk_at dksX8_right_2 18 rfl rfl)
theorem dX8_right_66 : decode cX8_right 66 = .ok (.iload_n 3, 1) := dk_29 (dk_at dksX8_right_2 19 rfl rfl)
theorem dX8_right_67 : decode cX8_right 67 = .ok (.invokevirtual 215, 3) := dk_182 0 215 (dk_at dksX8_right_2 20 rfl rfl)
theorem dX8_right_70 : decode cX8_right 70 = .ok (.i2l, 1) := dk_133 (dk_at dksX8_right_2 23 rfl rfl)
theorem dX8_right_71 : decode cX8_right 71 = .ok (.goto 8, 3) := dk_167 0 8 (dk_at dksX8_right_3 0 rfl rfl)
theorem dX8_right_74 : decode cX8_right 74 = .ok (.bipush (-4), 2) := dk_16 252 (dk_at dksX8_right_3 3 rfl rfl)
theorem dX8_right_76 : decode cX8_right 76 = .ok (.invokestatic 140, 3) := dk_184 0 140 (dk_at dksX8_right_3 5 rfl rfl)
theorem dX8_right_79 : decode cX8_right 79 = .ok (.lreturn, 1) := dk_173 (dk_at dksX8_right_3 8 rfl rfl)
abbrev cX8_solution : ByteArray := prog_24_method_55_code
def yX8_solution : MethodName := ⟨RX8, "solution", "(IIII)J"⟩
def dkwX8_solution_3 : List UInt8 := [167, 0, 8, 16, 253, 184, 0, 140, 173]
abbrev dktX8_solution_3 : List UInt8 := dkwX8_solution_3 ++ []
def dkwX8_solution_2 : List UInt8 := [42, 42, 180, 0, 29, 27, 46, 28, 29, 2, 182, 1, 22, 42, 180, 0, 235, 21, 4, 184, 1, 26]
abbrev dktX8_solution_2 : List UInt8 := dkwX8_solution_2 ++ dktX8_solution_3
def dkwX8_solution_1 : List UInt8 := [182, 1, 3, 154, 0, 9, 16, 252, 184, 0, 140, 173, 42, 27, 182, 1, 6, 42, 182, 1, 14, 153, 0, 28]
abbrev dktX8_solution_1 : List UInt8 := dkwX8_solution_1 ++ dktX8_solution_2
def dkwX8_solution_0 : List UInt8 := [42, 27, 28, 29, 21, 4, 182, 1, 18, 154, 0, 8, 2, 184, 0, 140, 173, 42, 42, 180, 0, 29, 27, 46]
abbrev dktX8_solution_0 : List UInt8 := dkwX8_solution_0 ++ dktX8_solution_1
theorem dksX8_solution_0 : cX8_solution.data.toList.drop 0 = dktX8_solution_0 := by decide +kernel
theorem dksX8_solution_1 : cX8_solution.data.toList.drop 24 = dktX8_solution_1 := dk_seg dksX8_solution_0 24 rfl rfl
theorem dksX8_solution_2 : cX8_solution.data.toList.drop 48 = dktX8_solution_2 := dk_seg dksX8_solution_1 24 rfl rfl
theorem dksX8_solution_3 : cX8_solution.data.toList.drop 70 = dktX8_solution_3 := dk_seg dksX8_solution_2 22 rfl rfl
theorem dX8_solution_0 : decode cX8_solution 0 = .ok (.aload_n 0, 1) := dk_42 (dk_at dksX8_solution_0 0 rfl rfl)
theorem dX8_solution_1 : decode cX8_solution 1 = .ok (.iload_n 1, 1) := dk_27 (dk_at dksX8_solution_0 1 rfl rfl)
theorem dX8_solution_2 : decode cX8_solution 2 = .ok (.iload_n 2, 1) := dk_28 (dk_at dksX8_solution_0 2 rfl rfl)
theorem dX8_solution_3 : decode cX8_solution 3 = .ok (.iload_n 3, 1) := dk_29 (dk_at dksX8_solution_0 3 rfl rfl)
theorem dX8_solution_4 : decode cX8_solution 4 = .ok (.iload 4, 2) := dk_21 4 (dk_at dksX8_solution_0 4 rfl rfl)
theorem dX8_solution_6 : decode cX8_solution 6 = .ok (.invokevirtual 274, 3) := dk_182 1 18 (dk_at dksX8_solution_0 6 rfl rfl)
theorem dX8_solution_9 : decode cX8_solution 9 = .ok (.ifCond .ne 8, 3) := dk_154 0 8 (dk_at dksX8_solution_0 9 rfl rfl)
theorem dX8_solution_12 : decode cX8_solution 12 = .ok (.iconst (-1), 1) := dk_2 (dk_at dksX8_solution_0 12 rfl rfl)
theorem dX8_solution_13 : decode cX8_solution 13 = .ok (.invokestatic 140, 3) := dk_184 0 140 (dk_at dksX8_solution_0 13 rfl rfl)
theorem dX8_solution_16 : decode cX8_solution 16 = .ok (.lreturn, 1) := dk_173 (dk_at dksX8_solution_0 16 rfl rfl)
theorem dX8_solution_17 : decode cX8_solution 17 = .ok (.aload_n 0, 1) := dk_42 (dk_at dksX8_solution_0 17 rfl rfl)
theorem dX8_solution_18 : decode cX8_solution 18 = .ok (.aload_n 0, 1) := dk_42 (dk_at dksX8_solution_0 18 rfl rfl)
theorem dX8_solution_19 : decode cX8_solution 19 = .ok (.getfield 29, 3) := dk_180 0 29 (dk_at dksX8_solution_0 19 rfl rfl)
theorem dX8_solution_22 : decode cX8_solution 22 = .ok (.iload_n 1, 1) := dk_27 (dk_at dksX8_solution_0 22 rfl rfl)
theorem dX8_solution_23 : decode cX8_solution 23 = .ok (.iaload, 1) := dk_46 (dk_at dksX8_solution_0 23 rfl rfl)
theorem dX8_solution_24 : decode cX8_solution 24 = .ok (.invokevirtual 259, 3) := dk_182 1 3 (dk_at dksX8_solution_1 0 rfl rfl)
theorem dX8_solution_27 : decode cX8_solution 27 = .ok (.ifCond .ne 9, 3) := dk_154 0 9 (dk_at dksX8_solution_1 3 rfl rfl)
theorem dX8_solution_30 : decode cX8_solution 30 = .ok (.bipush (-4), 2) := dk_16 252 (dk_at dksX8_solution_1 6 rfl rfl)
theorem dX8_solution_32 : decode cX8_solution 32 = .ok (.invokestatic 140, 3) := dk_184 0 140 (dk_at dksX8_solution_1 8 rfl rfl)
theorem dX8_solution_35 : decode cX8_solution 35 = .ok (.lreturn, 1) := dk_173 (dk_at dksX8_solution_1 11 rfl rfl)
theorem dX8_solution_36 : decode cX8_solution 36 = .ok (.aload_n 0, 1) := dk_42 (dk_at dksX8_solution_1 12 rfl rfl)
theorem dX8_solution_37 : decode cX8_solution 37 = .ok (.iload_n 1, 1) := dk_27 (dk_at dksX8_solution_1 13 rfl rfl)
theorem dX8_solution_38 : decode cX8_solution 38 = .ok (.invokevirtual 262, 3) := dk_182 1 6 (dk_at dksX8_solution_1 14 rfl rfl)
theorem dX8_solution_41 : decode cX8_solution 41 = .ok (.aload_n 0, 1) := dk_42 (dk_at dksX8_solution_1 17 rfl rfl)
theorem dX8_solution_42 : decode cX8_solution 42 = .ok (.invokevirtual 270, 3) := dk_182 1 14 (dk_at dksX8_solution_1 18 rfl rfl)
theorem dX8_solution_45 : decode cX8_solution 45 = .ok (.ifCond .eq 28, 3) := dk_153 0 28 (dk_at dksX8_solution_1 21 rfl rfl)
theorem dX8_solution_48 : decode cX8_solution 48 = .ok (.aload_n 0, 1) := dk_42 (dk_at dksX8_solution_2 0 rfl rfl)
theorem dX8_solution_49 : decode cX8_solution 49 = .ok (.aload_n 0, 1) := dk_42 (dk_at dksX8_solution_2 1 rfl rfl)
theorem dX8_solution_50 : decode cX8_solution 50 = .ok (.getfield 29, 3) := dk_180 0 29 (dk_at dksX8_solution_2 2 rfl rfl)
theorem dX8_solution_53 : decode cX8_solution 53 = .ok (.iload_n 1, 1) := dk_27 (dk_at dksX8_solution_2 5 rfl rfl)
theorem dX8_solution_54 : decode cX8_solution 54 = .ok (.iaload, 1) := dk_46 (dk_at dksX8_solution_2 6 rfl rfl)
theorem dX8_solution_55 : decode cX8_solution 55 = .ok (.iload_n 2, 1) := dk_28 (dk_at dksX8_solution_2 7 rfl rfl)
theorem dX8_solution_56 : decode cX8_solution 56 = .ok (.iload_n 3, 1) := dk_29 (dk_at dksX8_solution_2 8 rfl rfl)
theorem dX8_solution_57 : decode cX8_solution 57 = .ok (.iconst (-1), 1) := dk_2 (dk_at dksX8_solution_2 9 rfl rfl)
theorem dX8_solution_58 : decode cX8_solution 58 = .ok (.invokevirtual 278, 3) := dk_182 1 22 (dk_at dksX8_solution_2 10 rfl rfl)
theorem dX8_solution_61 : decode cX8_solution 61 = .ok (.aload_n 0, 1) := dk_42 (dk_at dksX8_solution_2 13 rfl rfl)
theorem dX8_solution_62 : decode cX8_solution 62 = .ok (.getfield 235, 3) := dk_180 0 235 (dk_at dksX8_solution_2 14 rfl rfl)
theorem dX8_solution_65 : decode cX8_solution 65 = .ok (.iload 4, 2) := dk_21 4 (dk_at dksX8_solution_2 17 rfl rfl)
theorem dX8_solution_67 : decode cX8_solution 67 = .ok (.invokestatic 282, 3) := dk_184 1 26 (dk_at dksX8_solution_2 19 rfl rfl)
theorem dX8_solution_70 : decode cX8_solution 70 = .ok (.goto 8, 3) := dk_167 0 8 (dk_at dksX8_solution_3 0 rfl rfl)
theorem dX8_solution_73 : decode cX8_solution 73 = .ok (.bipush (-3), 2) := dk_16 253 (dk_at dksX8_solution_3 3 rfl rfl)
theorem dX8_solution_75 : decode cX8_solution 75 = .ok (.invokestatic 140, 3) := dk_184 0 140 (dk_at dksX8_solution_3 5 rfl rfl)
theorem dX8_solution_78 : decode cX8_solution 78 = .ok (.lreturn, 1) := dk_173 (dk_at dksX8_solution_3 8 rfl rfl)
abbrev cX8_isPart : ByteArray := prog_24_method_53_code
def yX8_isPart : MethodName := ⟨RX8, "isPart", "(IIII)Z"⟩
def dkwX8_isPart_2 : List UInt8 := [153, 0, 7, 4, 167, 0, 4, 3, 172]
abbrev dktX8_isPart_2 : List UInt8 := dkwX8_isPart_2 ++ []
def dkwX8_isPart_1 : List UInt8 := [29, 133, 9, 42, 180, 0, 23, 4, 100, 133, 184, 0, 99, 153, 0, 18, 21, 4, 133, 9, 10, 184, 0, 99]
abbrev dktX8_isPart_1 : List UInt8 := dkwX8_isPart_1 ++ dktX8_isPart_2
def dkwX8_isPart_0 : List UInt8 := [42, 27, 182, 0, 203, 153, 0, 50, 28, 133, 9, 42, 180, 0, 19, 4, 100, 133, 184, 0, 99, 153, 0, 34]
abbrev dktX8_isPart_0 : List UInt8 := dkwX8_isPart_0 ++ dktX8_isPart_1
theorem dksX8_isPart_0 : cX8_isPart.data.toList.drop 0 = dktX8_isPart_0 := by decide +kernel
theorem dksX8_isPart_1 : cX8_isPart.data.toList.drop 24 = dktX8_isPart_1 := dk_seg dksX8_isPart_0 24 rfl rfl
theorem dksX8_isPart_2 : cX8_isPart.data.toList.drop 48 = dktX8_isPart_2 := dk_seg dksX8_isPart_1 24 rfl rfl
theorem dX8_isPart_0 : decode cX8_isPart 0 = .ok (.aload_n 0, 1) := dk_42 (dk_at dksX8_isPart_0 0 rfl rfl)
theorem dX8_isPart_1 : decode cX8_isPart 1 = .ok (.iload_n 1, 1) := dk_27 (dk_at dksX8_isPart_0 1 rfl rfl)
theorem dX8_isPart_2 : decode cX8_isPart 2 = .ok (.invokevirtual 203, 3) := dk_182 0 203 (dk_at dksX8_isPart_0 2 rfl rfl)
theorem dX8_isPart_5 : decode cX8_isPart 5 = .ok (.ifCond .eq 50, 3) := dk_153 0 50 (dk_at dksX8_isPart_0 5 rfl rfl)
theorem dX8_isPart_8 : decode cX8_isPart 8 = .ok (.iload_n 2, 1) := dk_28 (dk_at dksX8_isPart_0 8 rfl rfl)
theorem dX8_isPart_9 : decode cX8_isPart 9 = .ok (.i2l, 1) := dk_133 (dk_at dksX8_isPart_0 9 rfl rfl)
theorem dX8_isPart_10 : decode cX8_isPart 10 = .ok (.lconst 0, 1) := dk_9 (dk_at dksX8_isPart_0 10 rfl rfl)
theorem dX8_isPart_11 : decode cX8_isPart 11 = .ok (.aload_n 0, 1) := dk_42 (dk_at dksX8_isPart_0 11 rfl rfl)
theorem dX8_isPart_12 : decode cX8_isPart 12 = .ok (.getfield 19, 3) := dk_180 0 19 (dk_at dksX8_isPart_0 12 rfl rfl)
theorem dX8_isPart_15 : decode cX8_isPart 15 = .ok (.iconst 1, 1) := dk_4 (dk_at dksX8_isPart_0 15 rfl rfl)
theorem dX8_isPart_16 : decode cX8_isPart 16 = .ok (.isub, 1) := dk_100 (dk_at dksX8_isPart_0 16 rfl rfl)
theorem dX8_isPart_17 : decode cX8_isPart 17 = .ok (.i2l, 1) := dk_133 (dk_at dksX8_isPart_0 17 rfl rfl)
theorem dX8_isPart_18 : decode cX8_isPart 18 = .ok (.invokestatic 99, 3) := dk_184 0 99 (dk_at dksX8_isPart_0 18 rfl rfl)
theorem dX8_isPart_21 : decode cX8_isPart 21 = .ok (.ifCond .eq 34, 3) := dk_153 0 34 (dk_at dksX8_isPart_0 21 rfl rfl)
theorem dX8_isPart_24 : decode cX8_isPart 24 = .ok (.iload_n 3, 1) := dk_29 (dk_at dksX8_isPart_1 0 rfl rfl)
theorem dX8_isPart_25 : decode cX8_isPart 25 = .ok (.i2l, 1) := dk_133 (dk_at dksX8_isPart_1 1 rfl rfl)
theorem dX8_isPart_26 : decode cX8_isPart 26 = .ok (.lconst 0, 1) := dk_9 (dk_at dksX8_isPart_1 2 rfl rfl)
theorem dX8_isPart_27 : decode cX8_isPart 27 = .ok (.aload_n 0, 1) := dk_42 (dk_at dksX8_isPart_1 3 rfl rfl)
theorem dX8_isPart_28 : decode cX8_isPart 28 = .ok (.getfield 23, 3) := dk_180 0 23 (dk_at dksX8_isPart_1 4 rfl rfl)
theorem dX8_isPart_31 : decode cX8_isPart 31 = .ok (.iconst 1, 1) := dk_4 (dk_at dksX8_isPart_1 7 rfl rfl)
theorem dX8_isPart_32 : decode cX8_isPart 32 = .ok (.isub, 1) := dk_100 (dk_at dksX8_isPart_1 8 rfl rfl)
theorem dX8_isPart_33 : decode cX8_isPart 33 = .ok (.i2l, 1) := dk_133 (dk_at dksX8_isPart_1 9 rfl rfl)
theorem dX8_isPart_34 : decode cX8_isPart 34 = .ok (.invokestatic 99, 3) := dk_184 0 99 (dk_at dksX8_isPart_1 10 rfl rfl)
theorem dX8_isPart_37 : decode cX8_isPart 37 = .ok (.ifCond .eq 18, 3) := dk_153 0 18 (dk_at dksX8_isPart_1 13 rfl rfl)
theorem dX8_isPart_40 : decode cX8_isPart 40 = .ok (.iload 4, 2) := dk_21 4 (dk_at dksX8_isPart_1 16 rfl rfl)
theorem dX8_isPart_42 : decode cX8_isPart 42 = .ok (.i2l, 1) := dk_133 (dk_at dksX8_isPart_1 18 rfl rfl)
theorem dX8_isPart_43 : decode cX8_isPart 43 = .ok (.lconst 0, 1) := dk_9 (dk_at dksX8_isPart_1 19 rfl rfl)
theorem dX8_isPart_44 : decode cX8_isPart 44 = .ok (.lconst 1, 1) := dk_10 (dk_at dksX8_isPart_1 20 rfl rfl)
theorem dX8_isPart_45 : decode cX8_isPart 45 = .ok (.invokestatic 99, 3) := dk_184 0 99 (dk_at dksX8_isPart_1 21 rfl rfl)
theorem dX8_isPart_48 : decode cX8_isPart 48 = .ok (.ifCond .eq 7, 3) := dk_153 0 7 (dk_at dksX8_isPart_2 0 rfl rfl)
theorem dX8_isPart_51 : decode cX8_isPart 51 = .ok (.iconst 1, 1) := dk_4 (dk_at dksX8_isPart_2 3 rfl rfl)
theorem dX8_isPart_52 : decode cX8_isPart 52 = .ok (.goto 4, 3) := dk_167 0 4 (dk_at dksX8_isPart_2 4 rfl rfl)
theorem dX8_isPart_55 : decode cX8_isPart 55 = .ok (.iconst 0, 1) := dk_3 (dk_at dksX8_isPart_2 7 rfl rfl)
theorem dX8_isPart_56 : decode cX8_isPart 56 = .ok (.ireturn, 1) := dk_172 (dk_at dksX8_isPart_2 8 rfl rfl)
abbrev cX8_shapedSum : ByteArray := prog_24_method_54_code
def yX8_shapedSum : MethodName := ⟨RX8, "shapedSum", "(IIII)J"⟩
def dkwX8_shapedSum_6 : List UInt8 := [173]
abbrev dktX8_shapedSum_6 : List UInt8 := dkwX8_shapedSum_6 ++ []
def dkwX8_shapedSum_5 : List UInt8 := [96, 47, 117, 55, 9, 22, 5, 21, 8, 133, 22, 9, 105, 97, 55, 5, 132, 7, 1, 167, 255, 124, 22, 5]
abbrev dktX8_shapedSum_5 : List UInt8 := dkwX8_shapedSum_5 ++ dktX8_shapedSum_6
def dkwX8_shapedSum_4 : List UInt8 := [180, 0, 229, 96, 47, 167, 0, 22, 42, 180, 0, 48, 16, 8, 42, 180, 0, 55, 21, 7, 46, 104, 21, 4]
abbrev dktX8_shapedSum_4 : List UInt8 := dkwX8_shapedSum_4 ++ dktX8_shapedSum_5
def dkwX8_shapedSum_3 : List UInt8 := [167, 0, 50, 21, 4, 156, 0, 26, 42, 180, 0, 48, 16, 8, 42, 180, 0, 55, 21, 7, 46, 104, 42]
abbrev dktX8_shapedSum_3 : List UInt8 := dkwX8_shapedSum_3 ++ dktX8_shapedSum_4
def dkwX8_shapedSum_2 : List UInt8 := [180, 0, 55, 21, 7, 46, 156, 0, 21, 21, 7, 21, 4, 160, 0, 10, 42, 180, 0, 235, 167, 0, 54, 9]
abbrev dktX8_shapedSum_2 : List UInt8 := dkwX8_shapedSum_2 ++ dktX8_shapedSum_3
def dkwX8_shapedSum_1 : List UInt8 := [46, 42, 180, 0, 23, 108, 42, 180, 0, 45, 21, 7, 46, 42, 180, 0, 23, 112, 184, 0, 218, 54, 8, 42]
abbrev dktX8_shapedSum_1 : List UInt8 := dkwX8_shapedSum_1 ++ dktX8_shapedSum_2
def dkwX8_shapedSum_0 : List UInt8 := [9, 55, 5, 3, 54, 7, 21, 7, 42, 180, 0, 229, 162, 0, 129, 27, 28, 29, 42, 180, 0, 45, 21, 7]
abbrev dktX8_shapedSum_0 : List UInt8 := dkwX8_shapedSum_0 ++ dktX8_shapedSum_1
theorem dksX8_shapedSum_0 : cX8_shapedSum.data.toList.drop 0 = dktX8_shapedSum_0 := by decide +kernel
theorem dksX8_shapedSum_1 : cX8_shapedSum.data.toList.drop 24 = dktX8_shapedSum_1 := dk_seg dksX8_shapedSum_0 24 rfl rfl
theorem dksX8_shapedSum_2 : cX8_shapedSum.data.toList.drop 48 = dktX8_shapedSum_2 := dk_seg dksX8_shapedSum_1 24 rfl rfl
theorem dksX8_shapedSum_3 : cX8_shapedSum.data.toList.drop 72 = dktX8_shapedSum_3 := dk_seg dksX8_shapedSum_2 24 rfl rfl
theorem dksX8_shapedSum_4 : cX8_shapedSum.data.toList.drop 95 = dktX8_shapedSum_4 := dk_seg dksX8_shapedSum_3 23 rfl rfl
theorem dksX8_shapedSum_5 : cX8_shapedSum.data.toList.drop 119 = dktX8_shapedSum_5 := dk_seg dksX8_shapedSum_4 24 rfl rfl
theorem dksX8_shapedSum_6 : cX8_shapedSum.data.toList.drop 143 = dktX8_shapedSum_6 := dk_seg dksX8_shapedSum_5 24 rfl rfl
theorem dX8_shapedSum_0 : decode cX8_shapedSum 0 = .ok (.lconst 0, 1) := dk_9 (dk_at dksX8_shapedSum_0 0 rfl rfl)
theorem dX8_shapedSum_1 : decode cX8_shapedSum 1 = .ok (.lstore 5, 2) := dk_55 5 (dk_at dksX8_shapedSum_0 1 rfl rfl)
theorem dX8_shapedSum_3 : decode cX8_shapedSum 3 = .ok (.iconst 0, 1) := dk_3 (dk_at dksX8_shapedSum_0 3 rfl rfl)
theorem dX8_shapedSum_4 : decode cX8_shapedSum 4 = .ok (.istore 7, 2) := dk_54 7 (dk_at dksX8_shapedSum_0 4 rfl rfl)
theorem dX8_shapedSum_6 : decode cX8_shapedSum 6 = .ok (.iload 7, 2) := dk_21 7 (dk_at dksX8_shapedSum_0 6 rfl rfl)
theorem dX8_shapedSum_8 : decode cX8_shapedSum 8 = .ok (.aload_n 0, 1) := dk_42 (dk_at dksX8_shapedSum_0 8 rfl rfl)
theorem dX8_shapedSum_9 : decode cX8_shapedSum 9 = .ok (.getfield 229, 3) := dk_180 0 229 (dk_at dksX8_shapedSum_0 9 rfl rfl)
theorem dX8_shapedSum_12 : decode cX8_shapedSum 12 = .ok (.if_icmp .ge 129, 3) := dk_162 0 129 (dk_at dksX8_shapedSum_0 12 rfl rfl)
theorem dX8_shapedSum_15 : decode cX8_shapedSum 15 = .ok (.iload_n 1, 1) := dk_27 (dk_at dksX8_shapedSum_0 15 rfl rfl)
theorem dX8_shapedSum_16 : decode cX8_shapedSum 16 = .ok (.iload_n 2, 1) := dk_28 (dk_at dksX8_shapedSum_0 16 rfl rfl)
theorem dX8_shapedSum_17 : decode cX8_shapedSum 17 = .ok (.iload_n 3, 1) := dk_29 (dk_at dksX8_shapedSum_0 17 rfl rfl)
theorem dX8_shapedSum_18 : decode cX8_shapedSum 18 = .ok (.aload_n 0, 1) := dk_42 (dk_at dksX8_shapedSum_0 18 rfl rfl)
theorem dX8_shapedSum_19 : decode cX8_shapedSum 19 = .ok (.getfield 45, 3) := dk_180 0 45 (dk_at dksX8_shapedSum_0 19 rfl rfl)
theorem dX8_shapedSum_22 : decode cX8_shapedSum 22 = .ok (.iload 7, 2) := dk_21 7 (dk_at dksX8_shapedSum_0 22 rfl rfl)
theorem dX8_shapedSum_24 : decode cX8_shapedSum 24 = .ok (.iaload, 1) := dk_46 (dk_at dksX8_shapedSum_1 0 rfl rfl)
theorem dX8_shapedSum_25 : decode cX8_shapedSum 25 = .ok (.aload_n 0, 1) := dk_42 (dk_at dksX8_shapedSum_1 1 rfl rfl)
theorem dX8_shapedSum_26 : decode cX8_shapedSum 26 = .ok (.getfield 23, 3) := dk_180 0 23 (dk_at dksX8_shapedSum_1 2 rfl rfl)
theorem dX8_shapedSum_29 : decode cX8_shapedSum 29 = .ok (.idiv, 1) := dk_108 (dk_at dksX8_shapedSum_1 5 rfl rfl)
theorem dX8_shapedSum_30 : decode cX8_shapedSum 30 = .ok (.aload_n 0, 1) := dk_42 (dk_at dksX8_shapedSum_1 6 rfl rfl)
theorem dX8_shapedSum_31 : decode cX8_shapedSum 31 = .ok (.getfield 45, 3) := dk_180 0 45 (dk_at dksX8_shapedSum_1 7 rfl rfl)
theorem dX8_shapedSum_34 : decode cX8_shapedSum 34 = .ok (.iload 7, 2) := dk_21 7 (dk_at dksX8_shapedSum_1 10 rfl rfl)
theorem dX8_shapedSum_36 : decode cX8_shapedSum 36 = .ok (.iaload, 1) := dk_46 (dk_at dksX8_shapedSum_1 12 rfl rfl)
theorem dX8_shapedSum_37 : decode cX8_shapedSum 37 = .ok (.aload_n 0, 1) := dk_42 (dk_at dksX8_shapedSum_1 13 rfl rfl)
theorem dX8_shapedSum_38 : decode cX8_shapedSum 38 = .ok (.getfield 23, 3) := dk_180 0 23 (dk_at dksX8_shapedSum_1 14 rfl rfl)
theorem dX8_shapedSum_41 : decode cX8_shapedSum 41 = .ok (.irem, 1) := dk_112 (dk_at dksX8_shapedSum_1 17 rfl rfl)
theorem dX8_shapedSum_42 : decode cX8_shapedSum 42 = .ok (.invokestatic 218, 3) := dk_184 0 218 (dk_at dksX8_shapedSum_1 18 rfl rfl)
theorem dX8_shapedSum_45 : decode cX8_shapedSum 45 = .ok (.istore 8, 2) := dk_54 8 (dk_at dksX8_shapedSum_1 21 rfl rfl)
theorem dX8_shapedSum_47 : decode cX8_shapedSum 47 = .ok (.aload_n 0, 1) := dk_42 (dk_at dksX8_shapedSum_1 23 rfl rfl)
theorem dX8_shapedSum_48 : decode cX8_shapedSum 48 = .ok (.getfield 55, 3) := dk_180 0 55 (dk_at dksX8_shapedSum_2 0 rfl rfl)
theorem dX8_shapedSum_51 : decode cX8_shapedSum 51 = .ok (.iload 7, 2) := dk_21 7 (dk_at dksX8_shapedSum_2 3 rfl rfl)
theorem dX8_shapedSum_53 : decode cX8_shapedSum 53 = .ok (.iaload, 1) := dk_46 (dk_at dksX8_shapedSum_2 5 rfl rfl)
theorem dX8_shapedSum_54 : decode cX8_shapedSum 54 = .ok (.ifCond .ge 21, 3) := dk_156 0 21 (dk_at dksX8_shapedSum_2 6 rfl rfl)
theorem dX8_shapedSum_57 : decode cX8_shapedSum 57 = .ok (.iload 7, 2) := dk_21 7 (dk_at dksX8_shapedSum_2 9 rfl rfl)
theorem dX8_shapedSum_59 : decode cX8_shapedSum 59 = .ok (.iload 4, 2) := dk_21 4 (dk_at dksX8_shapedSum_2 11 rfl rfl)
theorem dX8_shapedSum_61 : decode cX8_shapedSum 61 = .ok (.if_icmp .ne 10, 3) := dk_160 0 10 (dk_at dksX8_shapedSum_2 13 rfl rfl)
theorem dX8_shapedSum_64 : decode cX8_shapedSum 64 = .ok (.aload_n 0, 1) := dk_42 (dk_at dksX8_shapedSum_2 16 rfl rfl)
theorem dX8_shapedSum_65 : decode cX8_shapedSum 65 = .ok (.getfield 235, 3) := dk_180 0 235 (dk_at dksX8_shapedSum_2 17 rfl rfl)
theorem dX8_shapedSum_68 : decode cX8_shapedSum 68 = .ok (.goto 54, 3) := dk_167 0 54 (dk_at dksX8_shapedSum_2 20 rfl rfl)
theorem dX8_shapedSum_71 : decode cX8_shapedSum 71 = .ok (.lconst 0, 1) := dk_9 (dk_at dksX8_shapedSum_2 23 rfl rfl)
theorem dX8_shapedSum_72 : decode cX8_shapedSum 72 = .ok (.goto 50, 3) := dk_167 0 50 (dk_at dksX8_shapedSum_3 0 rfl rfl)
theorem dX8_shapedSum_75 : decode cX8_shapedSum 75 = .ok (.iload 4, 2) := dk_21 4 (dk_at dksX8_shapedSum_3 3 rfl rfl)
theorem dX8_shapedSum_77 : decode cX8_shapedSum 77 = .ok (.ifCond .ge 26, 3) := dk_156 0 26 (dk_at dksX8_shapedSum_3 5 rfl rfl)
theorem dX8_shapedSum_80 : decode cX8_shapedSum 80 = .ok (.aload_n 0, 1) := dk_42 (dk_at dksX8_shapedSum_3 8 rfl rfl)
theorem dX8_shapedSum_81 : decode cX8_shapedSum 81 = .ok (.getfield 48, 3) := dk_180 0 48 (dk_at dksX8_shapedSum_3 9 rfl rfl)
theorem dX8_shapedSum_84 : decode cX8_shapedSum 84 = .ok (.bipush 8, 2) := dk_16 8 (dk_at dksX8_shapedSum_3 12 rfl rfl)
theorem dX8_shapedSum_86 : decode cX8_shapedSum 86 = .ok (.aload_n 0, 1) := dk_42 (dk_at dksX8_shapedSum_3 14 rfl rfl)
theorem dX8_shapedSum_87 : decode cX8_shapedSum 87 = .ok (.getfield 55, 3) := dk_180 0 55 (dk_at dksX8_shapedSum_3 15 rfl rfl)
theorem dX8_shapedSum_90 : decode cX8_shapedSum 90 = .ok (.iload 7, 2) := dk_21 7 (dk_at dksX8_shapedSum_3 18 rfl rfl)
theorem dX8_shapedSum_92 : decode cX8_shapedSum 92 = .ok (.iaload, 1) := dk_46 (dk_at dksX8_shapedSum_3 20 rfl rfl)
theorem dX8_shapedSum_93 : decode cX8_shapedSum 93 = .ok (.imul, 1) := dk_104 (dk_at dksX8_shapedSum_3 21 rfl rfl)
theorem dX8_shapedSum_94 : decode cX8_shapedSum 94 = .ok (.aload_n 0, 1) := dk_42 (dk_at dksX8_shapedSum_3 22 rfl rfl)
theorem dX8_shapedSum_95 : decode cX8_shapedSum 95 = .ok (.getfield 229, 3) := dk_180 0 229 (dk_at dksX8_shapedSum_4 0 rfl rfl)
theorem dX8_shapedSum_98 : decode cX8_shapedSum 98 = .ok (.iadd, 1) := dk_96 (dk_at dksX8_shapedSum_4 3 rfl rfl)
theorem dX8_shapedSum_99 : decode cX8_shapedSum 99 = .ok (.laload, 1) := dk_47 (dk_at dksX8_shapedSum_4 4 rfl rfl)
theorem dX8_shapedSum_100 : decode cX8_shapedSum 100 = .ok (.goto 22, 3) := dk_167 0 22 (dk_at dksX8_shapedSum_4 5 rfl rfl)
theorem dX8_shapedSum_103 : decode cX8_shapedSum 103 = .ok (.aload_n 0, 1) := dk_42 (dk_at dksX8_shapedSum_4 8 rfl rfl)
theorem dX8_shapedSum_104 : decode cX8_shapedSum 104 = .ok (.getfield 48, 3) := dk_180 0 48 (dk_at dksX8_shapedSum_4 9 rfl rfl)
theorem dX8_shapedSum_107 : decode cX8_shapedSum 107 = .ok (.bipush 8, 2) := dk_16 8 (dk_at dksX8_shapedSum_4 12 rfl rfl)
theorem dX8_shapedSum_109 : decode cX8_shapedSum 109 = .ok (.aload_n 0, 1) := dk_42 (dk_at dksX8_shapedSum_4 14 rfl rfl)
theorem dX8_shapedSum_110 : decode cX8_shapedSum 110 = .ok (.getfield 55, 3) := dk_180 0 55 (dk_at dksX8_shapedSum_4 15 rfl rfl)
theorem dX8_shapedSum_113 : decode cX8_shapedSum 113 = .ok (.iload 7, 2) := dk_21 7 (dk_at dksX8_shapedSum_4 18 rfl rfl)
theorem dX8_shapedSum_115 : decode cX8_shapedSum 115 = .ok (.iaload, 1) := dk_46 (dk_at dksX8_shapedSum_4 20 rfl rfl)
theorem dX8_shapedSum_116 : decode cX8_shapedSum 116 = .ok (.imul, 1) := dk_104 (dk_at dksX8_shapedSum_4 21 rfl rfl)
theorem dX8_shapedSum_117 : decode cX8_shapedSum 117 = .ok (.iload 4, 2) := dk_21 4 (dk_at dksX8_shapedSum_4 22 rfl rfl)
theorem dX8_shapedSum_119 : decode cX8_shapedSum 119 = .ok (.iadd, 1) := dk_96 (dk_at dksX8_shapedSum_5 0 rfl rfl)
theorem dX8_shapedSum_120 : decode cX8_shapedSum 120 = .ok (.laload, 1) := dk_47 (dk_at dksX8_shapedSum_5 1 rfl rfl)
theorem dX8_shapedSum_121 : decode cX8_shapedSum 121 = .ok (.lneg, 1) := dk_117 (dk_at dksX8_shapedSum_5 2 rfl rfl)
theorem dX8_shapedSum_122 : decode cX8_shapedSum 122 = .ok (.lstore 9, 2) := dk_55 9 (dk_at dksX8_shapedSum_5 3 rfl rfl)
theorem dX8_shapedSum_124 : decode cX8_shapedSum 124 = .ok (.lload 5, 2) := dk_22 5 (dk_at dksX8_shapedSum_5 5 rfl rfl)
theorem dX8_shapedSum_126 : decode cX8_shapedSum 126 = .ok (.iload 8, 2) := dk_21 8 (dk_at dksX8_shapedSum_5 7 rfl rfl)
theorem dX8_shapedSum_128 : decode cX8_shapedSum 128 = .ok (.i2l, 1) := dk_133 (dk_at dksX8_shapedSum_5 9 rfl rfl)
theorem dX8_shapedSum_129 : decode cX8_shapedSum 129 = .ok (.lload 9, 2) := dk_22 9 (dk_at dksX8_shapedSum_5 10 rfl rfl)
theorem dX8_shapedSum_131 : decode cX8_shapedSum 131 = .ok (.lmul, 1) := dk_105 (dk_at dksX8_shapedSum_5 12 rfl rfl)
theorem dX8_shapedSum_132 : decode cX8_shapedSum 132 = .ok (.ladd, 1) := dk_97 (dk_at dksX8_shapedSum_5 13 rfl rfl)
theorem dX8_shapedSum_133 : decode cX8_shapedSum 133 = .ok (.lstore 5, 2) := dk_55 5 (dk_at dksX8_shapedSum_5 14 rfl rfl)
theorem dX8_shapedSum_135 : decode cX8_shapedSum 135 = .ok (.iinc 7 1, 3) := dk_132 7 1 (dk_at dksX8_shapedSum_5 16 rfl rfl)
theorem dX8_shapedSum_138 : decode cX8_shapedSum 138 = .ok (.goto (-132), 3) := dk_167 255 124 (dk_at dksX8_shapedSum_5 19 rfl rfl)
theorem dX8_shapedSum_141 : decode cX8_shapedSum 141 = .ok (.lload 5, 2) := dk_22 5 (dk_at dksX8_shapedSum_5 22 rfl rfl)
theorem dX8_shapedSum_143 : decode cX8_shapedSum 143 = .ok (.lreturn, 1) := dk_173 (dk_at dksX8_shapedSum_6 0 rfl rfl)
abbrev cX8_partOf : ByteArray := prog_24_method_5_code
def yX8_partOf : MethodName := ⟨RX8, "partOf", "(JJI)J"⟩
def dkwX8_partOf_1 : List UInt8 := [154, 0, 10, 30, 22, 5, 109, 167, 0, 7, 32, 22, 5, 109, 173]
abbrev dktX8_partOf_1 : List UInt8 := dkwX8_partOf_1 ++ []
def dkwX8_partOf_0 : List UInt8 := [32, 9, 148, 156, 0, 12, 30, 32, 184, 0, 93, 117, 167, 0, 8, 30, 32, 184, 0, 93, 55, 5, 21, 4]
abbrev dktX8_partOf_0 : List UInt8 := dkwX8_partOf_0 ++ dktX8_partOf_1
theorem dksX8_partOf_0 : cX8_partOf.data.toList.drop 0 = dktX8_partOf_0 := by decide +kernel
theorem dksX8_partOf_1 : cX8_partOf.data.toList.drop 24 = dktX8_partOf_1 := dk_seg dksX8_partOf_0 24 rfl rfl
theorem dX8_partOf_0 : decode cX8_partOf 0 = .ok (.lload_n 2, 1) := dk_32 (dk_at dksX8_partOf_0 0 rfl rfl)
theorem dX8_partOf_1 : decode cX8_partOf 1 = .ok (.lconst 0, 1) := dk_9 (dk_at dksX8_partOf_0 1 rfl rfl)
theorem dX8_partOf_2 : decode cX8_partOf 2 = .ok (.lcmp, 1) := dk_148 (dk_at dksX8_partOf_0 2 rfl rfl)
theorem dX8_partOf_3 : decode cX8_partOf 3 = .ok (.ifCond .ge 12, 3) := dk_156 0 12 (dk_at dksX8_partOf_0 3 rfl rfl)
theorem dX8_partOf_6 : decode cX8_partOf 6 = .ok (.lload_n 0, 1) := dk_30 (dk_at dksX8_partOf_0 6 rfl rfl)
theorem dX8_partOf_7 : decode cX8_partOf 7 = .ok (.lload_n 2, 1) := dk_32 (dk_at dksX8_partOf_0 7 rfl rfl)
theorem dX8_partOf_8 : decode cX8_partOf 8 = .ok (.invokestatic 93, 3) := dk_184 0 93 (dk_at dksX8_partOf_0 8 rfl rfl)
theorem dX8_partOf_11 : decode cX8_partOf 11 = .ok (.lneg, 1) := dk_117 (dk_at dksX8_partOf_0 11 rfl rfl)
theorem dX8_partOf_12 : decode cX8_partOf 12 = .ok (.goto 8, 3) := dk_167 0 8 (dk_at dksX8_partOf_0 12 rfl rfl)
theorem dX8_partOf_15 : decode cX8_partOf 15 = .ok (.lload_n 0, 1) := dk_30 (dk_at dksX8_partOf_0 15 rfl rfl)
theorem dX8_partOf_16 : decode cX8_partOf 16 = .ok (.lload_n 2, 1) := dk_32 (dk_at dksX8_partOf_0 16 rfl rfl)
theorem dX8_partOf_17 : decode cX8_partOf 17 = .ok (.invokestatic 93, 3) := dk_184 0 93 (dk_at dksX8_partOf_0 17 rfl rfl)
theorem dX8_partOf_20 : decode cX8_partOf 20 = .ok (.lstore 5, 2) := dk_55 5 (dk_at dksX8_partOf_0 20 rfl rfl)
theorem dX8_partOf_22 : decode cX8_partOf 22 = .ok (.iload 4, 2) := dk_21 4 (dk_at dksX8_partOf_0 22 rfl rfl)
theorem dX8_partOf_24 : decode cX8_partOf 24 = .ok (.ifCond .ne 10, 3) := dk_154 0 10 (dk_at dksX8_partOf_1 0 rfl rfl)
theorem dX8_partOf_27 : decode cX8_partOf 27 = .ok (.lload_n 0, 1) := dk_30 (dk_at dksX8_partOf_1 3 rfl rfl)
theorem dX8_partOf_28 : decode cX8_partOf 28 = .ok (.lload 5, 2) := dk_22 5 (dk_at dksX8_partOf_1 4 rfl rfl)
theorem dX8_partOf_30 : decode cX8_partOf 30 = .ok (.ldiv, 1) := dk_109 (dk_at dksX8_partOf_1 6 rfl rfl)
theorem dX8_partOf_31 : decode cX8_partOf 31 = .ok (.goto 7, 3) := dk_167 0 7 (dk_at dksX8_partOf_1 7 rfl rfl)
theorem dX8_partOf_34 : decode cX8_partOf 34 = .ok (.lload_n 2, 1) := dk_32 (dk_at dksX8_partOf_1 10 rfl rfl)
theorem dX8_partOf_35 : decode cX8_partOf 35 = .ok (.lload 5, 2) := dk_22 5 (dk_at dksX8_partOf_1 11 rfl rfl)
theorem dX8_partOf_37 : decode cX8_partOf 37 = .ok (.ldiv, 1) := dk_109 (dk_at dksX8_partOf_1 13 rfl rfl)
theorem dX8_partOf_38 : decode cX8_partOf 38 = .ok (.lreturn, 1) := dk_173 (dk_at dksX8_partOf_1 14 rfl rfl)
abbrev cX8_common : ByteArray := prog_24_method_4_code
def yX8_common : MethodName := ⟨RX8, "common", "(JJ)J"⟩
def dkwX8_common_2 : List UInt8 := [22, 8, 55, 6, 167, 255, 234, 22, 4, 173]
abbrev dktX8_common_2 : List UInt8 := dkwX8_common_2 ++ []
def dkwX8_common_1 : List UInt8 := [167, 0, 4, 32, 55, 6, 22, 6, 9, 148, 153, 0, 21, 22, 4, 22, 6, 113, 55, 8, 22, 6, 55, 4]
abbrev dktX8_common_1 : List UInt8 := dkwX8_common_1 ++ dktX8_common_2
def dkwX8_common_0 : List UInt8 := [30, 9, 148, 156, 0, 8, 30, 117, 167, 0, 4, 30, 55, 4, 32, 9, 148, 156, 0, 8, 32, 117]
abbrev dktX8_common_0 : List UInt8 := dkwX8_common_0 ++ dktX8_common_1
theorem dksX8_common_0 : cX8_common.data.toList.drop 0 = dktX8_common_0 := by decide +kernel
theorem dksX8_common_1 : cX8_common.data.toList.drop 22 = dktX8_common_1 := dk_seg dksX8_common_0 22 rfl rfl
theorem dksX8_common_2 : cX8_common.data.toList.drop 46 = dktX8_common_2 := dk_seg dksX8_common_1 24 rfl rfl
theorem dX8_common_0 : decode cX8_common 0 = .ok (.lload_n 0, 1) := dk_30 (dk_at dksX8_common_0 0 rfl rfl)
theorem dX8_common_1 : decode cX8_common 1 = .ok (.lconst 0, 1) := dk_9 (dk_at dksX8_common_0 1 rfl rfl)
theorem dX8_common_2 : decode cX8_common 2 = .ok (.lcmp, 1) := dk_148 (dk_at dksX8_common_0 2 rfl rfl)
theorem dX8_common_3 : decode cX8_common 3 = .ok (.ifCond .ge 8, 3) := dk_156 0 8 (dk_at dksX8_common_0 3 rfl rfl)
theorem dX8_common_6 : decode cX8_common 6 = .ok (.lload_n 0, 1) := dk_30 (dk_at dksX8_common_0 6 rfl rfl)
theorem dX8_common_7 : decode cX8_common 7 = .ok (.lneg, 1) := dk_117 (dk_at dksX8_common_0 7 rfl rfl)
theorem dX8_common_8 : decode cX8_common 8 = .ok (.goto 4, 3) := dk_167 0 4 (dk_at dksX8_common_0 8 rfl rfl)
theorem dX8_common_11 : decode cX8_common 11 = .ok (.lload_n 0, 1) := dk_30 (dk_at dksX8_common_0 11 rfl rfl)
theorem dX8_common_12 : decode cX8_common 12 = .ok (.lstore 4, 2) := dk_55 4 (dk_at dksX8_common_0 12 rfl rfl)
theorem dX8_common_14 : decode cX8_common 14 = .ok (.lload_n 2, 1) := dk_32 (dk_at dksX8_common_0 14 rfl rfl)
theorem dX8_common_15 : decode cX8_common 15 = .ok (.lconst 0, 1) := dk_9 (dk_at dksX8_common_0 15 rfl rfl)
theorem dX8_common_16 : decode cX8_common 16 = .ok (.lcmp, 1) := dk_148 (dk_at dksX8_common_0 16 rfl rfl)
theorem dX8_common_17 : decode cX8_common 17 = .ok (.ifCond .ge 8, 3) := dk_156 0 8 (dk_at dksX8_common_0 17 rfl rfl)
theorem dX8_common_20 : decode cX8_common 20 = .ok (.lload_n 2, 1) := dk_32 (dk_at dksX8_common_0 20 rfl rfl)
theorem dX8_common_21 : decode cX8_common 21 = .ok (.lneg, 1) := dk_117 (dk_at dksX8_common_0 21 rfl rfl)
theorem dX8_common_22 : decode cX8_common 22 = .ok (.goto 4, 3) := dk_167 0 4 (dk_at dksX8_common_1 0 rfl rfl)
theorem dX8_common_25 : decode cX8_common 25 = .ok (.lload_n 2, 1) := dk_32 (dk_at dksX8_common_1 3 rfl rfl)
theorem dX8_common_26 : decode cX8_common 26 = .ok (.lstore 6, 2) := dk_55 6 (dk_at dksX8_common_1 4 rfl rfl)
theorem dX8_common_28 : decode cX8_common 28 = .ok (.lload 6, 2) := dk_22 6 (dk_at dksX8_common_1 6 rfl rfl)
theorem dX8_common_30 : decode cX8_common 30 = .ok (.lconst 0, 1) := dk_9 (dk_at dksX8_common_1 8 rfl rfl)
theorem dX8_common_31 : decode cX8_common 31 = .ok (.lcmp, 1) := dk_148 (dk_at dksX8_common_1 9 rfl rfl)
theorem dX8_common_32 : decode cX8_common 32 = .ok (.ifCond .eq 21, 3) := dk_153 0 21 (dk_at dksX8_common_1 10 rfl rfl)
theorem dX8_common_35 : decode cX8_common 35 = .ok (.lload 4, 2) := dk_22 4 (dk_at dksX8_common_1 13 rfl rfl)
theorem dX8_common_37 : decode cX8_common 37 = .ok (.lload 6, 2) := dk_22 6 (dk_at dksX8_common_1 15 rfl rfl)
theorem dX8_common_39 : decode cX8_common 39 = .ok (.lrem, 1) := dk_113 (dk_at dksX8_common_1 17 rfl rfl)
theorem dX8_common_40 : decode cX8_common 40 = .ok (.lstore 8, 2) := dk_55 8 (dk_at dksX8_common_1 18 rfl rfl)
theorem dX8_common_42 : decode cX8_common 42 = .ok (.lload 6, 2) := dk_22 6 (dk_at dksX8_common_1 20 rfl rfl)
theorem dX8_common_44 : decode cX8_common 44 = .ok (.lstore 4, 2) := dk_55 4 (dk_at dksX8_common_1 22 rfl rfl)
theorem dX8_common_46 : decode cX8_common 46 = .ok (.lload 8, 2) := dk_22 8 (dk_at dksX8_common_2 0 rfl rfl)
theorem dX8_common_48 : decode cX8_common 48 = .ok (.lstore 6, 2) := dk_55 6 (dk_at dksX8_common_2 2 rfl rfl)
theorem dX8_common_50 : decode cX8_common 50 = .ok (.goto (-22), 3) := dk_167 255 234 (dk_at dksX8_common_2 4 rfl rfl)
theorem dX8_common_53 : decode cX8_common 53 = .ok (.lload 4, 2) := dk_22 4 (dk_at dksX8_common_2 7 rfl rfl)
theorem dX8_common_55 : decode cX8_common 55 = .ok (.lreturn, 1) := dk_173 (dk_at dksX8_common_2 9 rfl rfl)
abbrev cX8_base : ByteArray := prog_24_method_56_code
def yX8_base : MethodName := ⟨RX8, "base", "(IIIII)J"⟩
def dkwX8_base_4 : List UInt8 := [184, 1, 26, 167, 0, 8, 16, 253, 184, 0, 140, 173]
abbrev dktX8_base_4 : List UInt8 := dkwX8_base_4 ++ []
def dkwX8_base_3 : List UInt8 := [156, 0, 29, 42, 42, 180, 0, 29, 27, 46, 29, 21, 4, 28, 182, 1, 22, 42, 180, 0, 235, 21, 5]
abbrev dktX8_base_3 : List UInt8 := dkwX8_base_3 ++ dktX8_base_4
def dkwX8_base_2 : List UInt8 := [184, 0, 140, 173, 42, 27, 182, 1, 6, 28, 42, 180, 0, 229, 162, 0, 38, 42, 180, 0, 55, 28, 46]
abbrev dktX8_base_2 : List UInt8 := dkwX8_base_2 ++ dktX8_base_3
def dkwX8_base_1 : List UInt8 := [154, 0, 8, 2, 184, 0, 140, 173, 42, 42, 180, 0, 29, 27, 46, 182, 1, 3, 154, 0, 9, 16, 252]
abbrev dktX8_base_1 : List UInt8 := dkwX8_base_1 ++ dktX8_base_2
def dkwX8_base_0 : List UInt8 := [42, 27, 29, 21, 4, 21, 5, 182, 1, 18, 153, 0, 15, 28, 133, 9, 20, 0, 149, 184, 0, 99]
abbrev dktX8_base_0 : List UInt8 := dkwX8_base_0 ++ dktX8_base_1
theorem dksX8_base_0 : cX8_base.data.toList.drop 0 = dktX8_base_0 := by decide +kernel
theorem dksX8_base_1 : cX8_base.data.toList.drop 22 = dktX8_base_1 := dk_seg dksX8_base_0 22 rfl rfl
theorem dksX8_base_2 : cX8_base.data.toList.drop 45 = dktX8_base_2 := dk_seg dksX8_base_1 23 rfl rfl
theorem dksX8_base_3 : cX8_base.data.toList.drop 68 = dktX8_base_3 := dk_seg dksX8_base_2 23 rfl rfl
theorem dksX8_base_4 : cX8_base.data.toList.drop 91 = dktX8_base_4 := dk_seg dksX8_base_3 23 rfl rfl
theorem dX8_base_0 : decode cX8_base 0 = .ok (.aload_n 0, 1) := dk_42 (dk_at dksX8_base_0 0 rfl rfl)
theorem dX8_base_1 : decode cX8_base 1 = .ok (.iload_n 1, 1) := dk_27 (dk_at dksX8_base_0 1 rfl rfl)
theorem dX8_base_2 : decode cX8_base 2 = .ok (.iload_n 3, 1) := dk_29 (dk_at dksX8_base_0 2 rfl rfl)
theorem dX8_base_3 : decode cX8_base 3 = .ok (.iload 4, 2) := dk_21 4 (dk_at dksX8_base_0 3 rfl rfl)
theorem dX8_base_5 : decode cX8_base 5 = .ok (.iload 5, 2) := dk_21 5 (dk_at dksX8_base_0 5 rfl rfl)
theorem dX8_base_7 : decode cX8_base 7 = .ok (.invokevirtual 274, 3) := dk_182 1 18 (dk_at dksX8_base_0 7 rfl rfl)
theorem dX8_base_10 : decode cX8_base 10 = .ok (.ifCond .eq 15, 3) := dk_153 0 15 (dk_at dksX8_base_0 10 rfl rfl)
theorem dX8_base_13 : decode cX8_base 13 = .ok (.iload_n 2, 1) := dk_28 (dk_at dksX8_base_0 13 rfl rfl)
theorem dX8_base_14 : decode cX8_base 14 = .ok (.i2l, 1) := dk_133 (dk_at dksX8_base_0 14 rfl rfl)
theorem dX8_base_15 : decode cX8_base 15 = .ok (.lconst 0, 1) := dk_9 (dk_at dksX8_base_0 15 rfl rfl)
theorem dX8_base_16 : decode cX8_base 16 = .ok (.ldc2_w 149, 3) := dk_20 0 149 (dk_at dksX8_base_0 16 rfl rfl)
theorem dX8_base_19 : decode cX8_base 19 = .ok (.invokestatic 99, 3) := dk_184 0 99 (dk_at dksX8_base_0 19 rfl rfl)
theorem dX8_base_22 : decode cX8_base 22 = .ok (.ifCond .ne 8, 3) := dk_154 0 8 (dk_at dksX8_base_1 0 rfl rfl)
theorem dX8_base_25 : decode cX8_base 25 = .ok (.iconst (-1), 1) := dk_2 (dk_at dksX8_base_1 3 rfl rfl)
theorem dX8_base_26 : decode cX8_base 26 = .ok (.invokestatic 140, 3) := dk_184 0 140 (dk_at dksX8_base_1 4 rfl rfl)
theorem dX8_base_29 : decode cX8_base 29 = .ok (.lreturn, 1) := dk_173 (dk_at dksX8_base_1 7 rfl rfl)
theorem dX8_base_30 : decode cX8_base 30 = .ok (.aload_n 0, 1) := dk_42 (dk_at dksX8_base_1 8 rfl rfl)
theorem dX8_base_31 : decode cX8_base 31 = .ok (.aload_n 0, 1) := dk_42 (dk_at dksX8_base_1 9 rfl rfl)
theorem dX8_base_32 : decode cX8_base 32 = .ok (.getfield 29, 3) := dk_180 0 29 (dk_at dksX8_base_1 10 rfl rfl)
theorem dX8_base_35 : decode cX8_base 35 = .ok (.iload_n 1, 1) := dk_27 (dk_at dksX8_base_1 13 rfl rfl)
theorem dX8_base_36 : decode cX8_base 36 = .ok (.iaload, 1) := dk_46 (dk_at dksX8_base_1 14 rfl rfl)
theorem dX8_base_37 : decode cX8_base 37 = .ok (.invokevirtual 259, 3) := dk_182 1 3 (dk_at dksX8_base_1 15 rfl rfl)
theorem dX8_base_40 : decode cX8_base 40 = .ok (.ifCond .ne 9, 3) := dk_154 0 9 (dk_at dksX8_base_1 18 rfl rfl)
theorem dX8_base_43 : decode cX8_base 43 = .ok (.bipush (-4), 2) := dk_16 252 (dk_at dksX8_base_1 21 rfl rfl)
theorem dX8_base_45 : decode cX8_base 45 = .ok (.invokestatic 140, 3) := dk_184 0 140 (dk_at dksX8_base_2 0 rfl rfl)
theorem dX8_base_48 : decode cX8_base 48 = .ok (.lreturn, 1) := dk_173 (dk_at dksX8_base_2 3 rfl rfl)
theorem dX8_base_49 : decode cX8_base 49 = .ok (.aload_n 0, 1) := dk_42 (dk_at dksX8_base_2 4 rfl rfl)
theorem dX8_base_50 : decode cX8_base 50 = .ok (.iload_n 1, 1) := dk_27 (dk_at dksX8_base_2 5 rfl rfl)
theorem dX8_base_51 : decode cX8_base 51 = .ok (.invokevirtual 262, 3) := dk_182 1 6 (dk_at dksX8_base_2 6 rfl rfl)
theorem dX8_base_54 : decode cX8_base 54 = .ok (.iload_n 2, 1) := dk_28 (dk_at dksX8_base_2 9 rfl rfl)
theorem dX8_base_55 : decode cX8_base 55 = .ok (.aload_n 0, 1) := dk_42 (dk_at dksX8_base_2 10 rfl rfl)
theorem dX8_base_56 : decode cX8_base 56 = .ok (.getfield 229, 3) := dk_180 0 229 (dk_at dksX8_base_2 11 rfl rfl)
theorem dX8_base_59 : decode cX8_base 59 = .ok (.if_icmp .ge 38, 3) := dk_162 0 38 (dk_at dksX8_base_2 14 rfl rfl)
theorem dX8_base_62 : decode cX8_base 62 = .ok (.aload_n 0, 1) := dk_42 (dk_at dksX8_base_2 17 rfl rfl)
theorem dX8_base_63 : decode cX8_base 63 = .ok (.getfield 55, 3) := dk_180 0 55 (dk_at dksX8_base_2 18 rfl rfl)
theorem dX8_base_66 : decode cX8_base 66 = .ok (.iload_n 2, 1) := dk_28 (dk_at dksX8_base_2 21 rfl rfl)
theorem dX8_base_67 : decode cX8_base 67 = .ok (.iaload, 1) := dk_46 (dk_at dksX8_base_2 22 rfl rfl)
theorem dX8_base_68 : decode cX8_base 68 = .ok (.ifCond .ge 29, 3) := dk_156 0 29 (dk_at dksX8_base_3 0 rfl rfl)
theorem dX8_base_71 : decode cX8_base 71 = .ok (.aload_n 0, 1) := dk_42 (dk_at dksX8_base_3 3 rfl rfl)
theorem dX8_base_72 : decode cX8_base 72 = .ok (.aload_n 0, 1) := dk_42 (dk_at dksX8_base_3 4 rfl rfl)
theorem dX8_base_73 : decode cX8_base 73 = .ok (.getfield 29, 3) := dk_180 0 29 (dk_at dksX8_base_3 5 rfl rfl)
theorem dX8_base_76 : decode cX8_base 76 = .ok (.iload_n 1, 1) := dk_27 (dk_at dksX8_base_3 8 rfl rfl)
theorem dX8_base_77 : decode cX8_base 77 = .ok (.iaload, 1) := dk_46 (dk_at dksX8_base_3 9 rfl rfl)
theorem dX8_base_78 : decode cX8_base 78 = .ok (.iload_n 3, 1) := dk_29 (dk_at dksX8_base_3 10 rfl rfl)
theorem dX8_base_79 : decode cX8_base 79 = .ok (.iload 4, 2) := dk_21 4 (dk_at dksX8_base_3 11 rfl rfl)
theorem dX8_base_81 : decode cX8_base 81 = .ok (.iload_n 2, 1) := dk_28 (dk_at dksX8_base_3 13 rfl rfl)
theorem dX8_base_82 : decode cX8_base 82 = .ok (.invokevirtual 278, 3) := dk_182 1 22 (dk_at dksX8_base_3 14 rfl rfl)
theorem dX8_base_85 : decode cX8_base 85 = .ok (.aload_n 0, 1) := dk_42 (dk_at dksX8_base_3 17 rfl rfl)
theorem dX8_base_86 : decode cX8_base 86 = .ok (.getfield 235, 3) := dk_180 0 235 (dk_at dksX8_base_3 18 rfl rfl)
theorem dX8_base_89 : decode cX8_base 89 = .ok (.iload 5, 2) := dk_21 5 (dk_at dksX8_base_3 21 rfl rfl)
theorem dX8_base_91 : decode cX8_base 91 = .ok (.invokestatic 282, 3) := dk_184 1 26 (dk_at dksX8_base_4 0 rfl rfl)
theorem dX8_base_94 : decode cX8_base 94 = .ok (.goto 8, 3) := dk_167 0 8 (dk_at dksX8_base_4 3 rfl rfl)
theorem dX8_base_97 : decode cX8_base 97 = .ok (.bipush (-3), 2) := dk_16 253 (dk_at dksX8_base_4 6 rfl rfl)
theorem dX8_base_99 : decode cX8_base 99 = .ok (.invokestatic 140, 3) := dk_184 0 140 (dk_at dksX8_base_4 8 rfl rfl)
theorem dX8_base_102 : decode cX8_base 102 = .ok (.lreturn, 1) := dk_173 (dk_at dksX8_base_4 11 rfl rfl)
abbrev cX8_witness : ByteArray := prog_24_method_60_code
def yX8_witness : MethodName := ⟨RX8, "witness", "(IIII)J"⟩
def dkwX8_witness_7 : List UInt8 := [22, 9, 42, 180, 0, 61, 21, 7, 47, 21, 4, 184, 1, 26, 173]
abbrev dktX8_witness_7 : List UInt8 := dkwX8_witness_7 ++ []
def dkwX8_witness_6 : List UInt8 := [167, 0, 22, 42, 180, 0, 58, 16, 9, 42, 180, 0, 64, 21, 8, 46, 104, 21, 7, 96, 47, 117, 55, 9]
abbrev dktX8_witness_6 : List UInt8 := dkwX8_witness_6 ++ dktX8_witness_7
def dkwX8_witness_5 : List UInt8 := [21, 8, 21, 7, 160, 0, 8, 22, 5, 167, 0, 36, 42, 180, 0, 64, 21, 8, 46, 156, 0, 7, 9]
abbrev dktX8_witness_5 : List UInt8 := dkwX8_witness_5 ++ dktX8_witness_6
def dkwX8_witness_4 : List UInt8 := [180, 0, 23, 104, 160, 0, 9, 16, 253, 184, 0, 140, 173, 42, 180, 0, 23, 28, 104, 29, 96, 54, 8]
abbrev dktX8_witness_4 : List UInt8 := dkwX8_witness_4 ++ dktX8_witness_5
def dkwX8_witness_3 : List UInt8 := [180, 0, 61, 21, 7, 47, 9, 148, 154, 0, 9, 132, 7, 1, 167, 255, 227, 21, 7, 42, 180, 0, 19, 42]
abbrev dktX8_witness_3 : List UInt8 := dkwX8_witness_3 ++ dktX8_witness_4
def dkwX8_witness_2 : List UInt8 := [46, 182, 1, 37, 55, 5, 3, 54, 7, 21, 7, 42, 180, 0, 19, 42, 180, 0, 23, 104, 162, 0, 21, 42]
abbrev dktX8_witness_2 : List UInt8 := dkwX8_witness_2 ++ dktX8_witness_3
def dkwX8_witness_1 : List UInt8 := [182, 1, 3, 154, 0, 9, 16, 252, 184, 0, 140, 173, 42, 42, 180, 0, 29, 27, 46, 42, 180, 0, 32, 27]
abbrev dktX8_witness_1 : List UInt8 := dkwX8_witness_1 ++ dktX8_witness_2
def dkwX8_witness_0 : List UInt8 := [42, 27, 28, 29, 21, 4, 182, 1, 18, 154, 0, 8, 2, 184, 0, 140, 173, 42, 42, 180, 0, 29, 27, 46]
abbrev dktX8_witness_0 : List UInt8 := dkwX8_witness_0 ++ dktX8_witness_1
theorem dksX8_witness_0 : cX8_witness.data.toList.drop 0 = dktX8_witness_0 := by decide +kernel
theorem dksX8_witness_1 : cX8_witness.data.toList.drop 24 = dktX8_witness_1 := dk_seg dksX8_witness_0 24 rfl rfl
theorem dksX8_witness_2 : cX8_witness.data.toList.drop 48 = dktX8_witness_2 := dk_seg dksX8_witness_1 24 rfl rfl
theorem dksX8_witness_3 : cX8_witness.data.toList.drop 72 = dktX8_witness_3 := dk_seg dksX8_witness_2 24 rfl rfl
theorem dksX8_witness_4 : cX8_witness.data.toList.drop 96 = dktX8_witness_4 := dk_seg dksX8_witness_3 24 rfl rfl
theorem dksX8_witness_5 : cX8_witness.data.toList.drop 119 = dktX8_witness_5 := dk_seg dksX8_witness_4 23 rfl rfl
theorem dksX8_witness_6 : cX8_witness.data.toList.drop 142 = dktX8_witness_6 := dk_seg dksX8_witness_5 23 rfl rfl
theorem dksX8_witness_7 : cX8_witness.data.toList.drop 166 = dktX8_witness_7 := dk_seg dksX8_witness_6 24 rfl rfl
theorem dX8_witness_0 : decode cX8_witness 0 = .ok (.aload_n 0, 1) := dk_42 (dk_at dksX8_witness_0 0 rfl rfl)
theorem dX8_witness_1 : decode cX8_witness 1 = .ok (.iload_n 1, 1) := dk_27 (dk_at dksX8_witness_0 1 rfl rfl)
theorem dX8_witness_2 : decode cX8_witness 2 = .ok (.iload_n 2, 1) := dk_28 (dk_at dksX8_witness_0 2 rfl rfl)
theorem dX8_witness_3 : decode cX8_witness 3 = .ok (.iload_n 3, 1) := dk_29 (dk_at dksX8_witness_0 3 rfl rfl)
theorem dX8_witness_4 : decode cX8_witness 4 = .ok (.iload 4, 2) := dk_21 4 (dk_at dksX8_witness_0 4 rfl rfl)
theorem dX8_witness_6 : decode cX8_witness 6 = .ok (.invokevirtual 274, 3) := dk_182 1 18 (dk_at dksX8_witness_0 6 rfl rfl)
theorem dX8_witness_9 : decode cX8_witness 9 = .ok (.ifCond .ne 8, 3) := dk_154 0 8 (dk_at dksX8_witness_0 9 rfl rfl)
theorem dX8_witness_12 : decode cX8_witness 12 = .ok (.iconst (-1), 1) := dk_2 (dk_at dksX8_witness_0 12 rfl rfl)
theorem dX8_witness_13 : decode cX8_witness 13 = .ok (.invokestatic 140, 3) := dk_184 0 140 (dk_at dksX8_witness_0 13 rfl rfl)
theorem dX8_witness_16 : decode cX8_witness 16 = .ok (.lreturn, 1) := dk_173 (dk_at dksX8_witness_0 16 rfl rfl)
theorem dX8_witness_17 : decode cX8_witness 17 = .ok (.aload_n 0, 1) := dk_42 (dk_at dksX8_witness_0 17 rfl rfl)
theorem dX8_witness_18 : decode cX8_witness 18 = .ok (.aload_n 0, 1) := dk_42 (dk_at dksX8_witness_0 18 rfl rfl)
theorem dX8_witness_19 : decode cX8_witness 19 = .ok (.getfield 29, 3) := dk_180 0 29 (dk_at dksX8_witness_0 19 rfl rfl)
theorem dX8_witness_22 : decode cX8_witness 22 = .ok (.iload_n 1, 1) := dk_27 (dk_at dksX8_witness_0 22 rfl rfl)
theorem dX8_witness_23 : decode cX8_witness 23 = .ok (.iaload, 1) := dk_46 (dk_at dksX8_witness_0 23 rfl rfl)
theorem dX8_witness_24 : decode cX8_witness 24 = .ok (.invokevirtual 259, 3) := dk_182 1 3 (dk_at dksX8_witness_1 0 rfl rfl)
theorem dX8_witness_27 : decode cX8_witness 27 = .ok (.ifCond .ne 9, 3) := dk_154 0 9 (dk_at dksX8_witness_1 3 rfl rfl)
theorem dX8_witness_30 : decode cX8_witness 30 = .ok (.bipush (-4), 2) := dk_16 252 (dk_at dksX8_witness_1 6 rfl rfl)
theorem dX8_witness_32 : decode cX8_witness 32 = .ok (.invokestatic 140, 3) := dk_184 0 140 (dk_at dksX8_witness_1 8 rfl rfl)
theorem dX8_witness_35 : decode cX8_witness 35 = .ok (.lreturn, 1) := dk_173 (dk_at dksX8_witness_1 11 rfl rfl)
theorem dX8_witness_36 : decode cX8_witness 36 = .ok (.aload_n 0, 1) := dk_42 (dk_at dksX8_witness_1 12 rfl rfl)
theorem dX8_witness_37 : decode cX8_witness 37 = .ok (.aload_n 0, 1) := dk_42 (dk_at dksX8_witness_1 13 rfl rfl)
theorem dX8_witness_38 : decode cX8_witness 38 = .ok (.getfield 29, 3) := dk_180 0 29 (dk_at dksX8_witness_1 14 rfl rfl)
theorem dX8_witness_41 : decode cX8_witness 41 = .ok (.iload_n 1, 1) := dk_27 (dk_at dksX8_witness_1 17 rfl rfl)
theorem dX8_witness_42 : decode cX8_witness 42 = .ok (.iaload, 1) := dk_46 (dk_at dksX8_witness_1 18 rfl rfl)
theorem dX8_witness_43 : decode cX8_witness 43 = .ok (.aload_n 0, 1) := dk_42 (dk_at dksX8_witness_1 19 rfl rfl)
theorem dX8_witness_44 : decode cX8_witness 44 = .ok (.getfield 32, 3) := dk_180 0 32 (dk_at dksX8_witness_1 20 rfl rfl)
theorem dX8_witness_47 : decode cX8_witness 47 = .ok (.iload_n 1, 1) := dk_27 (dk_at dksX8_witness_1 23 rfl rfl)
theorem dX8_witness_48 : decode cX8_witness 48 = .ok (.iaload, 1) := dk_46 (dk_at dksX8_witness_2 0 rfl rfl)
theorem dX8_witness_49 : decode cX8_witness 49 = .ok (.invokevirtual 293, 3) := dk_182 1 37 (dk_at dksX8_witness_2 1 rfl rfl)
theorem dX8_witness_52 : decode cX8_witness 52 = .ok (.lstore 5, 2) := dk_55 5 (dk_at dksX8_witness_2 4 rfl rfl)
theorem dX8_witness_54 : decode cX8_witness 54 = .ok (.iconst 0, 1) := dk_3 (dk_at dksX8_witness_2 6 rfl rfl)
theorem dX8_witness_55 : decode cX8_witness 55 = .ok (.istore 7, 2) := dk_54 7 (dk_at dksX8_witness_2 7 rfl rfl)
theorem dX8_witness_57 : decode cX8_witness 57 = .ok (.iload 7, 2) := dk_21 7 (dk_at dksX8_witness_2 9 rfl rfl)
theorem dX8_witness_59 : decode cX8_witness 59 = .ok (.aload_n 0, 1) := dk_42 (dk_at dksX8_witness_2 11 rfl rfl)
theorem dX8_witness_60 : decode cX8_witness 60 = .ok (.getfield 19, 3) := dk_180 0 19 (dk_at dksX8_witness_2 12 rfl rfl)
theorem dX8_witness_63 : decode cX8_witness 63 = .ok (.aload_n 0, 1) := dk_42 (dk_at dksX8_witness_2 15 rfl rfl)
theorem dX8_witness_64 : decode cX8_witness 64 = .ok (.getfield 23, 3) := dk_180 0 23 (dk_at dksX8_witness_2 16 rfl rfl)
theorem dX8_witness_67 : decode cX8_witness 67 = .ok (.imul, 1) := dk_104 (dk_at dksX8_witness_2 19 rfl rfl)
theorem dX8_witness_68 : decode cX8_witness 68 = .ok (.if_icmp .ge 21, 3) := dk_162 0 21 (dk_at dksX8_witness_2 20 rfl rfl)
theorem dX8_witness_71 : decode cX8_witness 71 = .ok (.aload_n 0, 1) := dk_42 (dk_at dksX8_witness_2 23 rfl rfl)
theorem dX8_witness_72 : decode cX8_witness 72 = .ok (.getfield 61, 3) := dk_180 0 61 (dk_at dksX8_witness_3 0 rfl rfl)
theorem dX8_witness_75 : decode cX8_witness 75 = .ok (.iload 7, 2) := dk_21 7 (dk_at dksX8_witness_3 3 rfl rfl)
theorem dX8_witness_77 : decode cX8_witness 77 = .ok (.laload, 1) := dk_47 (dk_at dksX8_witness_3 5 rfl rfl)
theorem dX8_witness_78 : decode cX8_witness 78 = .ok (.lconst 0, 1) := dk_9 (dk_at dksX8_witness_3 6 rfl rfl)
theorem dX8_witness_79 : decode cX8_witness 79 = .ok (.lcmp, 1) := dk_148 (dk_at dksX8_witness_3 7 rfl rfl)
theorem dX8_witness_80 : decode cX8_witness 80 = .ok (.ifCond .ne 9, 3) := dk_154 0 9 (dk_at dksX8_witness_3 8 rfl rfl)
theorem dX8_witness_83 : decode cX8_witness 83 = .ok (.iinc 7 1, 3) := dk_132 7 1 (dk_at dksX8_witness_3 11 rfl rfl)
theorem dX8_witness_86 : decode cX8_witness 86 = .ok (.goto (-29), 3) := dk_167 255 227 (dk_at dksX8_witness_3 14 rfl rfl)
theorem dX8_witness_89 : decode cX8_witness 89 = .ok (.iload 7, 2) := dk_21 7 (dk_at dksX8_witness_3 17 rfl rfl)
theorem dX8_witness_91 : decode cX8_witness 91 = .ok (.aload_n 0, 1) := dk_42 (dk_at dksX8_witness_3 19 rfl rfl)
theorem dX8_witness_92 : decode cX8_witness 92 = .ok (.getfield 19, 3) := dk_180 0 19 (dk_at dksX8_witness_3 20 rfl rfl)
theorem dX8_witness_95 : decode cX8_witness 95 = .ok (.aload_n 0, 1) := dk_42 (dk_at dksX8_witness_3 23 rfl rfl)
theorem dX8_witness_96 : decode cX8_witness 96 = .ok (.getfield 23, 3) := dk_180 0 23 (dk_at dksX8_witness_4 0 rfl rfl)
theorem dX8_witness_99 : decode cX8_witness 99 = .ok (.imul, 1) := dk_104 (dk_at dksX8_witness_4 3 rfl rfl)
theorem dX8_witness_100 : decode cX8_witness 100 = .ok (.if_icmp .ne 9, 3) := dk_160 0 9 (dk_at dksX8_witness_4 4 rfl rfl)
theorem dX8_witness_103 : decode cX8_witness 103 = .ok (.bipush (-3), 2) := dk_16 253 (dk_at dksX8_witness_4 7 rfl rfl)
theorem dX8_witness_105 : decode cX8_witness 105 = .ok (.invokestatic 140, 3) := dk_184 0 140 (dk_at dksX8_witness_4 9 rfl rfl)
theorem dX8_witness_108 : decode cX8_witness 108 = .ok (.lreturn, 1) := dk_173 (dk_at dksX8_witness_4 12 rfl rfl)
theorem dX8_witness_109 : decode cX8_witness 109 = .ok (.aload_n 0, 1) := dk_42 (dk_at dksX8_witness_4 13 rfl rfl)
theorem dX8_witness_110 : decode cX8_witness 110 = .ok (.getfield 23, 3) := dk_180 0 23 (dk_at dksX8_witness_4 14 rfl rfl)
theorem dX8_witness_113 : decode cX8_witness 113 = .ok (.iload_n 2, 1) := dk_28 (dk_at dksX8_witness_4 17 rfl rfl)
theorem dX8_witness_114 : decode cX8_witness 114 = .ok (.imul, 1) := dk_104 (dk_at dksX8_witness_4 18 rfl rfl)
theorem dX8_witness_115 : decode cX8_witness 115 = .ok (.iload_n 3, 1) := dk_29 (dk_at dksX8_witness_4 19 rfl rfl)
theorem dX8_witness_116 : decode cX8_witness 116 = .ok (.iadd, 1) := dk_96 (dk_at dksX8_witness_4 20 rfl rfl)
theorem dX8_witness_117 : decode cX8_witness 117 = .ok (.istore 8, 2) := dk_54 8 (dk_at dksX8_witness_4 21 rfl rfl)
theorem dX8_witness_119 : decode cX8_witness 119 = .ok (.iload 8, 2) := dk_21 8 (dk_at dksX8_witness_5 0 rfl rfl)
theorem dX8_witness_121 : decode cX8_witness 121 = .ok (.iload 7, 2) := dk_21 7 (dk_at dksX8_witness_5 2 rfl rfl)
theorem dX8_witness_123 : decode cX8_witness 123 = .ok (.if_icmp .ne 8, 3) := dk_160 0 8 (dk_at dksX8_witness_5 4 rfl rfl)
theorem dX8_witness_126 : decode cX8_witness 126 = .ok (.lload 5, 2) := dk_22 5 (dk_at dksX8_witness_5 7 rfl rfl)
theorem dX8_witness_128 : decode cX8_witness 128 = .ok (.goto 36, 3) := dk_167 0 36 (dk_at dksX8_witness_5 9 rfl rfl)
theorem dX8_witness_131 : decode cX8_witness 131 = .ok (.aload_n 0, 1) := dk_42 (dk_at dksX8_witness_5 12 rfl rfl)
theorem dX8_witness_132 : decode cX8_witness 132 = .ok (.getfield 64, 3) := dk_180 0 64 (dk_at dksX8_witness_5 13 rfl rfl)
theorem dX8_witness_135 : decode cX8_witness 135 = .ok (.iload 8, 2) := dk_21 8 (dk_at dksX8_witness_5 16 rfl rfl)
theorem dX8_witness_137 : decode cX8_witness 137 = .ok (.iaload, 1) := dk_46 (dk_at dksX8_witness_5 18 rfl rfl)
theorem dX8_witness_138 : decode cX8_witness 138 = .ok (.ifCond .ge 7, 3) := dk_156 0 7 (dk_at dksX8_witness_5 19 rfl rfl)
theorem dX8_witness_141 : decode cX8_witness 141 = .ok (.lconst 0, 1) := dk_9 (dk_at dksX8_witness_5 22 rfl rfl)
theorem dX8_witness_142 : decode cX8_witness 142 = .ok (.goto 22, 3) := dk_167 0 22 (dk_at dksX8_witness_6 0 rfl rfl)
theorem dX8_witness_145 : decode cX8_witness 145 = .ok (.aload_n 0, 1) := dk_42 (dk_at dksX8_witness_6 3 rfl rfl)
theorem dX8_witness_146 : decode cX8_witness 146 = .ok (.getfield 58, 3) := dk_180 0 58 (dk_at dksX8_witness_6 4 rfl rfl)
theorem dX8_witness_149 : decode cX8_witness 149 = .ok (.bipush 9, 2) := dk_16 9 (dk_at dksX8_witness_6 7 rfl rfl)
theorem dX8_witness_151 : decode cX8_witness 151 = .ok (.aload_n 0, 1) := dk_42 (dk_at dksX8_witness_6 9 rfl rfl)
theorem dX8_witness_152 : decode cX8_witness 152 = .ok (.getfield 64, 3) := dk_180 0 64 (dk_at dksX8_witness_6 10 rfl rfl)
theorem dX8_witness_155 : decode cX8_witness 155 = .ok (.iload 8, 2) := dk_21 8 (dk_at dksX8_witness_6 13 rfl rfl)
theorem dX8_witness_157 : decode cX8_witness 157 = .ok (.iaload, 1) := dk_46 (dk_at dksX8_witness_6 15 rfl rfl)
theorem dX8_witness_158 : decode cX8_witness 158 = .ok (.imul, 1) := dk_104 (dk_at dksX8_witness_6 16 rfl rfl)
theorem dX8_witness_159 : decode cX8_witness 159 = .ok (.iload 7, 2) := dk_21 7 (dk_at dksX8_witness_6 17 rfl rfl)
theorem dX8_witness_161 : decode cX8_witness 161 = .ok (.iadd, 1) := dk_96 (dk_at dksX8_witness_6 19 rfl rfl)
theorem dX8_witness_162 : decode cX8_witness 162 = .ok (.laload, 1) := dk_47 (dk_at dksX8_witness_6 20 rfl rfl)
theorem dX8_witness_163 : decode cX8_witness 163 = .ok (.lneg, 1) := dk_117 (dk_at dksX8_witness_6 21 rfl rfl)
theorem dX8_witness_164 : decode cX8_witness 164 = .ok (.lstore 9, 2) := dk_55 9 (dk_at dksX8_witness_6 22 rfl rfl)
theorem dX8_witness_166 : decode cX8_witness 166 = .ok (.lload 9, 2) := dk_22 9 (dk_at dksX8_witness_7 0 rfl rfl)
theorem dX8_witness_168 : decode cX8_witness 168 = .ok (.aload_n 0, 1) := dk_42 (dk_at dksX8_witness_7 2 rfl rfl)
theorem dX8_witness_169 : decode cX8_witness 169 = .ok (.getfield 61, 3) := dk_180 0 61 (dk_at dksX8_witness_7 3 rfl rfl)
theorem dX8_witness_172 : decode cX8_witness 172 = .ok (.iload 7, 2) := dk_21 7 (dk_at dksX8_witness_7 6 rfl rfl)
theorem dX8_witness_174 : decode cX8_witness 174 = .ok (.laload, 1) := dk_47 (dk_at dksX8_witness_7 8 rfl rfl)
theorem dX8_witness_175 : decode cX8_witness 175 = .ok (.iload 4, 2) := dk_21 4 (dk_at dksX8_witness_7 9 rfl rfl)
theorem dX8_witness_177 : decode cX8_witness 177 = .ok (.invokestatic 282, 3) := dk_184 1 26 (dk_at dksX8_witness_7 11 rfl rfl)
theorem dX8_witness_180 : decode cX8_witness 180 = .ok (.lreturn, 1) := dk_173 (dk_at dksX8_witness_7 14 rfl rfl)
abbrev cX8_worksRules : ByteArray := prog_24_method_59_code
def yX8_worksRules : MethodName := ⟨RX8, "worksRules", "(II)J"⟩
def dkwX8_worksRules_14 : List UInt8 := [167, 255, 123, 22, 4, 173]
abbrev dktX8_worksRules_14 : List UInt8 := dkwX8_worksRules_14 ++ []
def dkwX8_worksRules_13 : List UInt8 := [42, 180, 0, 64, 21, 8, 46, 104, 21, 7, 96, 47, 105, 101, 80, 132, 8, 1, 167, 255, 176, 132, 7, 1]
abbrev dktX8_worksRules_13 : List UInt8 := dkwX8_worksRules_13 ++ dktX8_worksRules_14
def dkwX8_worksRules_12 : List UInt8 := [21, 8, 42, 180, 0, 23, 108, 21, 8, 42, 180, 0, 23, 112, 182, 0, 128, 133, 42, 180, 0, 58, 16, 9]
abbrev dktX8_worksRules_12 : List UInt8 := dkwX8_worksRules_12 ++ dktX8_worksRules_13
def dkwX8_worksRules_11 : List UInt8 := [180, 0, 61, 21, 7, 92, 47, 42, 180, 0, 64, 21, 8, 46, 156, 0, 7, 9, 167, 0, 42, 42, 5]
abbrev dktX8_worksRules_11 : List UInt8 := dkwX8_worksRules_11 ++ dktX8_worksRules_12
def dkwX8_worksRules_10 : List UInt8 := [182, 0, 128, 133, 105, 80, 3, 54, 8, 21, 8, 42, 180, 0, 19, 42, 180, 0, 23, 104, 162, 0, 72, 42]
abbrev dktX8_worksRules_10 : List UInt8 := dkwX8_worksRules_10 ++ dktX8_worksRules_11
def dkwX8_worksRules_9 : List UInt8 := [180, 0, 61, 21, 7, 22, 4, 42, 5, 21, 7, 42, 180, 0, 23, 108, 21, 7, 42, 180, 0, 23, 112]
abbrev dktX8_worksRules_9 : List UInt8 := dkwX8_worksRules_9 ++ dktX8_worksRules_10
def dkwX8_worksRules_8 : List UInt8 := [132, 7, 1, 167, 255, 156, 3, 54, 7, 21, 7, 42, 180, 0, 19, 42, 180, 0, 23, 104, 162, 0, 125, 42]
abbrev dktX8_worksRules_8 : List UInt8 := dkwX8_worksRules_8 ++ dktX8_worksRules_9
def dkwX8_worksRules_7 : List UInt8 := [42, 21, 8, 21, 6, 182, 1, 30, 42, 21, 6, 29, 21, 7, 22, 4, 182, 1, 33, 55, 4, 132, 6, 1]
abbrev dktX8_worksRules_7 : List UInt8 := dkwX8_worksRules_7 ++ dktX8_worksRules_8
def dkwX8_worksRules_6 : List UInt8 := [180, 0, 64, 21, 7, 21, 8, 29, 162, 0, 8, 21, 6, 167, 0, 4, 2, 79, 21, 8, 29, 162, 0, 27]
abbrev dktX8_worksRules_6 : List UInt8 := dkwX8_worksRules_6 ++ dktX8_worksRules_7
def dkwX8_worksRules_5 : List UInt8 := [180, 0, 58, 16, 9, 21, 8, 104, 21, 7, 96, 47, 9, 148, 154, 0, 9, 132, 8, 1, 167, 255, 229, 42]
abbrev dktX8_worksRules_5 : List UInt8 := dkwX8_worksRules_5 ++ dktX8_worksRules_6
def dkwX8_worksRules_4 : List UInt8 := [180, 0, 19, 42, 180, 0, 23, 104, 162, 0, 92, 21, 6, 54, 8, 21, 8, 29, 162, 0, 27, 42]
abbrev dktX8_worksRules_4 : List UInt8 := dkwX8_worksRules_4 ++ dktX8_worksRules_5
def dkwX8_worksRules_3 : List UInt8 := [132, 5, 1, 167, 255, 203, 132, 4, 1, 167, 255, 188, 10, 55, 4, 3, 54, 6, 3, 54, 7, 21, 7, 42]
abbrev dktX8_worksRules_3 : List UInt8 := dkwX8_worksRules_3 ++ dktX8_worksRules_4
def dkwX8_worksRules_2 : List UInt8 := [180, 0, 23, 104, 162, 0, 18, 42, 27, 27, 28, 21, 5, 21, 4, 182, 0, 249, 133, 167, 0, 4, 9, 80]
abbrev dktX8_worksRules_2 : List UInt8 := dkwX8_worksRules_2 ++ dktX8_worksRules_3
def dkwX8_worksRules_1 : List UInt8 := [162, 0, 52, 42, 180, 0, 58, 16, 9, 21, 4, 104, 21, 5, 96, 21, 5, 42, 180, 0, 19, 42]
abbrev dktX8_worksRules_1 : List UInt8 := dkwX8_worksRules_1 ++ dktX8_worksRules_2
def dkwX8_worksRules_0 : List UInt8 := [42, 27, 182, 0, 212, 62, 3, 54, 4, 21, 4, 29, 162, 0, 68, 3, 54, 5, 21, 5, 16, 9]
abbrev dktX8_worksRules_0 : List UInt8 := dkwX8_worksRules_0 ++ dktX8_worksRules_1
theorem dksX8_worksRules_0 : cX8_worksRules.data.toList.drop 0 = dktX8_worksRules_0 := by decide +kernel
theorem dksX8_worksRules_1 : cX8_worksRules.data.toList.drop 22 = dktX8_worksRules_1 := dk_seg dksX8_worksRules_0 22 rfl rfl
theorem dksX8_worksRules_2 : cX8_worksRules.data.toList.drop 44 = dktX8_worksRules_2 := dk_seg dksX8_worksRules_1 22 rfl rfl
theorem dksX8_worksRules_3 : cX8_worksRules.data.toList.drop 68 = dktX8_worksRules_3 := dk_seg dksX8_worksRules_2 24 rfl rfl
theorem dksX8_worksRules_4 : cX8_worksRules.data.toList.drop 92 = dktX8_worksRules_4 := dk_seg dksX8_worksRules_3 24 rfl rfl
theorem dksX8_worksRules_5 : cX8_worksRules.data.toList.drop 114 = dktX8_worksRules_5 := dk_seg dksX8_worksRules_4 22 rfl rfl
theorem dksX8_worksRules_6 : cX8_worksRules.data.toList.drop 138 = dktX8_worksRules_6 := dk_seg dksX8_worksRules_5 24 rfl rfl
theorem dksX8_worksRules_7 : cX8_worksRules.data.toList.drop 162 = dktX8_worksRules_7 := dk_seg dksX8_worksRules_6 24 rfl rfl
theorem dksX8_worksRules_8 : cX8_worksRules.data.toList.drop 186 = dktX8_worksRules_8 := dk_seg dksX8_worksRules_7 24 rfl rfl
theorem dksX8_worksRules_9 : cX8_worksRules.data.toList.drop 210 = dktX8_worksRules_9 := dk_seg dksX8_worksRules_8 24 rfl rfl
theorem dksX8_worksRules_10 : cX8_worksRules.data.toList.drop 233 = dktX8_worksRules_10 := dk_seg dksX8_worksRules_9 23 rfl rfl
theorem dksX8_worksRules_11 : cX8_worksRules.data.toList.drop 257 = dktX8_worksRules_11 := dk_seg dksX8_worksRules_10 24 rfl rfl
theorem dksX8_worksRules_12 : cX8_worksRules.data.toList.drop 280 = dktX8_worksRules_12 := dk_seg dksX8_worksRules_11 23 rfl rfl
theorem dksX8_worksRules_13 : cX8_worksRules.data.toList.drop 304 = dktX8_worksRules_13 := dk_seg dksX8_worksRules_12 24 rfl rfl
theorem dksX8_worksRules_14 : cX8_worksRules.data.toList.drop 328 = dktX8_worksRules_14 := dk_seg dksX8_worksRules_13 24 rfl rfl
theorem dX8_worksRules_0 : decode cX8_worksRules 0 = .ok (.aload_n 0, 1) := dk_42 (dk_at dksX8_worksRules_0 0 rfl rfl)
theorem dX8_worksRules_1 : decode cX8_worksRules 1 = .ok (.iload_n 1, 1) := dk_27 (dk_at dksX8_worksRules_0 1 rfl rfl)
theorem dX8_worksRules_2 : decode cX8_worksRules 2 = .ok (.invokevirtual 212, 3) := dk_182 0 212 (dk_at dksX8_worksRules_0 2 rfl rfl)
theorem dX8_worksRules_5 : decode cX8_worksRules 5 = .ok (.istore_n 3, 1) := dk_62 (dk_at dksX8_worksRules_0 5 rfl rfl)
theorem dX8_worksRules_6 : decode cX8_worksRules 6 = .ok (.iconst 0, 1) := dk_3 (dk_at dksX8_worksRules_0 6 rfl rfl)
theorem dX8_worksRules_7 : decode cX8_worksRules 7 = .ok (.istore 4, 2) := dk_54 4 (dk_at dksX8_worksRules_0 7 rfl rfl)
theorem dX8_worksRules_9 : decode cX8_worksRules 9 = .ok (.iload 4, 2) := dk_21 4 (dk_at dksX8_worksRules_0 9 rfl rfl)
theorem dX8_worksRules_11 : decode cX8_worksRules 11 = .ok (.iload_n 3, 1) := dk_29 (dk_at dksX8_worksRules_0 11 rfl rfl)
theorem dX8_worksRules_12 : decode cX8_worksRules 12 = .ok (.if_icmp .ge 68, 3) := dk_162 0 68 (dk_at dksX8_worksRules_0 12 rfl rfl)
theorem dX8_worksRules_15 : decode cX8_worksRules 15 = .ok (.iconst 0, 1) := dk_3 (dk_at dksX8_worksRules_0 15 rfl rfl)
theorem dX8_worksRules_16 : decode cX8_worksRules 16 = .ok (.istore 5, 2) := dk_54 5 (dk_at dksX8_worksRules_0 16 rfl rfl)
theorem dX8_worksRules_18 : decode cX8_worksRules 18 = .ok (.iload 5, 2) := dk_21 5 (dk_at dksX8_worksRules_0 18 rfl rfl)
theorem dX8_worksRules_20 : decode cX8_worksRules 20 = .ok (.bipush 9, 2) := dk_16 9 (dk_at dksX8_worksRules_0 20 rfl rfl)
theorem dX8_worksRules_22 : decode cX8_worksRules 22 = .ok (.if_icmp .ge 52, 3) := dk_162 0 52 (dk_at dksX8_worksRules_1 0 rfl rfl)
theorem dX8_worksRules_25 : decode cX8_worksRules 25 = .ok (.aload_n 0, 1) := dk_42 (dk_at dksX8_worksRules_1 3 rfl rfl)
theorem dX8_worksRules_26 : decode cX8_worksRules 26 = .ok (.getfield 58, 3) := dk_180 0 58 (dk_at dksX8_worksRules_1 4 rfl rfl)
theorem dX8_worksRules_29 : decode cX8_worksRules 29 = .ok (.bipush 9, 2) := dk_16 9 (dk_at dksX8_worksRules_1 7 rfl rfl)
theorem dX8_worksRules_31 : decode cX8_worksRules 31 = .ok (.iload 4, 2) := dk_21 4 (dk_at dksX8_worksRules_1 9 rfl rfl)
theorem dX8_worksRules_33 : decode cX8_worksRules 33 = .ok (.imul, 1) := dk_104 (dk_at dksX8_worksRules_1 11 rfl rfl)
theorem dX8_worksRules_34 : decode cX8_worksRules 34 = .ok (.iload 5, 2) := dk_21 5 (dk_at dksX8_worksRules_1 12 rfl rfl)
theorem dX8_worksRules_36 : decode cX8_worksRules 36 = .ok (.iadd, 1) := dk_96 (dk_at dksX8_worksRules_1 14 rfl rfl)
theorem dX8_worksRules_37 : decode cX8_worksRules 37 = .ok (.iload 5, 2) := dk_21 5 (dk_at dksX8_worksRules_1 15 rfl rfl)
theorem dX8_worksRules_39 : decode cX8_worksRules 39 = .ok (.aload_n 0, 1) := dk_42 (dk_at dksX8_worksRules_1 17 rfl rfl)
theorem dX8_worksRules_40 : decode cX8_worksRules 40 = .ok (.getfield 19, 3) := dk_180 0 19 (dk_at dksX8_worksRules_1 18 rfl rfl)
theorem dX8_worksRules_43 : decode cX8_worksRules 43 = .ok (.aload_n 0, 1) := dk_42 (dk_at dksX8_worksRules_1 21 rfl rfl)
theorem dX8_worksRules_44 : decode cX8_worksRules 44 = .ok (.getfield 23, 3) := dk_180 0 23 (dk_at dksX8_worksRules_2 0 rfl rfl)
theorem dX8_worksRules_47 : decode cX8_worksRules 47 = .ok (.imul, 1) := dk_104 (dk_at dksX8_worksRules_2 3 rfl rfl)
theorem dX8_worksRules_48 : decode cX8_worksRules 48 = .ok (.if_icmp .ge 18, 3) := dk_162 0 18 (dk_at dksX8_worksRules_2 4 rfl rfl)
theorem dX8_worksRules_51 : decode cX8_worksRules 51 = .ok (.aload_n 0, 1) := dk_42 (dk_at dksX8_worksRules_2 7 rfl rfl)
theorem dX8_worksRules_52 : decode cX8_worksRules 52 = .ok (.iload_n 1, 1) := dk_27 (dk_at dksX8_worksRules_2 8 rfl rfl)
theorem dX8_worksRules_53 : decode cX8_worksRules 53 = .ok (.iload_n 1, 1) := dk_27 (dk_at dksX8_worksRules_2 9 rfl rfl)
theorem dX8_worksRules_54 : decode cX8_worksRules 54 = .ok (.iload_n 2, 1) := dk_28 (dk_at dksX8_worksRules_2 10 rfl rfl)
theorem dX8_worksRules_55 : decode cX8_worksRules 55 = .ok (.iload 5, 2) := dk_21 5 (dk_at dksX8_worksRules_2 11 rfl rfl)
theorem dX8_worksRules_57 : decode cX8_worksRules 57 = .ok (.iload 4, 2) := dk_21 4 (dk_at dksX8_worksRules_2 13 rfl rfl)
theorem dX8_worksRules_59 : decode cX8_worksRules 59 = .ok (.invokevirtual 249, 3) := dk_182 0 249 (dk_at dksX8_worksRules_2 15 rfl rfl)
theorem dX8_worksRules_62 : decode cX8_worksRules 62 = .ok (.i2l, 1) := dk_133 (dk_at dksX8_worksRules_2 18 rfl rfl)
theorem dX8_worksRules_63 : decode cX8_worksRules 63 = .ok (.goto 4, 3) := dk_167 0 4 (dk_at dksX8_worksRules_2 19 rfl rfl)
theorem dX8_worksRules_66 : decode cX8_worksRules 66 = .ok (.lconst 0, 1) := dk_9 (dk_at dksX8_worksRules_2 22 rfl rfl)
theorem dX8_worksRules_67 : decode cX8_worksRules 67 = .ok (.lastore, 1) := dk_80 (dk_at dksX8_worksRules_2 23 rfl rfl)
theorem dX8_worksRules_68 : decode cX8_worksRules 68 = .ok (.iinc 5 1, 3) := dk_132 5 1 (dk_at dksX8_worksRules_3 0 rfl rfl)
theorem dX8_worksRules_71 : decode cX8_worksRules 71 = .ok (.goto (-53), 3) := dk_167 255 203 (dk_at dksX8_worksRules_3 3 rfl rfl)
theorem dX8_worksRules_74 : decode cX8_worksRules 74 = .ok (.iinc 4 1, 3) := dk_132 4 1 (dk_at dksX8_worksRules_3 6 rfl rfl)
theorem dX8_worksRules_77 : decode cX8_worksRules 77 = .ok (.goto (-68), 3) := dk_167 255 188 (dk_at dksX8_worksRules_3 9 rfl rfl)
theorem dX8_worksRules_80 : decode cX8_worksRules 80 = .ok (.lconst 1, 1) := dk_10 (dk_at dksX8_worksRules_3 12 rfl rfl)
theorem dX8_worksRules_81 : decode cX8_worksRules 81 = .ok (.lstore 4, 2) := dk_55 4 (dk_at dksX8_worksRules_3 13 rfl rfl)
theorem dX8_worksRules_83 : decode cX8_worksRules 83 = .ok (.iconst 0, 1) := dk_3 (dk_at dksX8_worksRules_3 15 rfl rfl)
theorem dX8_worksRules_84 : decode cX8_worksRules 84 = .ok (.istore 6, 2) := dk_54 6 (dk_at dksX8_worksRules_3 16 rfl rfl)
theorem dX8_worksRules_86 : decode cX8_worksRules 86 = .ok (.iconst 0, 1) := dk_3 (dk_at dksX8_worksRules_3 18 rfl rfl)
theorem dX8_worksRules_87 : decode cX8_worksRules 87 = .ok (.istore 7, 2) := dk_54 7 (dk_at dksX8_worksRules_3 19 rfl rfl)
theorem dX8_worksRules_89 : decode cX8_worksRules 89 = .ok (.iload 7, 2) := dk_21 7 (dk_at dksX8_worksRules_3 21 rfl rfl)
theorem dX8_worksRules_91 : decode cX8_worksRules 91 = .ok (.aload_n 0, 1) := dk_42 (dk_at dksX8_worksRules_3 23 rfl rfl)
theorem dX8_worksRules_92 : decode cX8_worksRules 92 = .ok (.getfield 19, 3) := dk_180 0 19 (dk_at dksX8_worksRules_4 0 rfl rfl)
theorem dX8_worksRules_95 : decode cX8_worksRules 95 = .ok (.aload_n 0, 1) := dk_42 (dk_at dksX8_worksRules_4 3 rfl rfl)
theorem dX8_worksRules_96 : decode cX8_worksRules 96 = .ok (.getfield 23, 3) := dk_180 0 23 (dk_at dksX8_worksRules_4 4 rfl rfl)
theorem dX8_worksRules_99 : decode cX8_worksRules 99 = .ok (.imul, 1) := dk_104 (dk_at dksX8_worksRules_4 7 rfl rfl)
theorem dX8_worksRules_100 : decode cX8_worksRules 100 = .ok (.if_icmp .ge 92, 3) := dk_162 0 92 (dk_at dksX8_worksRules_4 8 rfl rfl)
theorem dX8_worksRules_103 : decode cX8_worksRules 103 = .ok (.iload 6, 2) := dk_21 6 (dk_at dksX8_worksRules_4 11 rfl rfl)
theorem dX8_worksRules_105 : decode cX8_worksRules 105 = .ok (.istore 8, 2) := dk_54 8 (dk_at dksX8_worksRules_4 13 rfl rfl)
theorem dX8_worksRules_107 : decode cX8_worksRules 107 = .ok (.iload 8, 2) := dk_21 8 (dk_at dksX8_worksRules_4 15 rfl rfl)
theorem dX8_worksRules_109 : decode cX8_worksRules 109 = .ok (.iload_n 3, 1) := dk_29 (dk_at dksX8_worksRules_4 17 rfl rfl)
theorem dX8_worksRules_110 : decode cX8_worksRules 110 = .ok (.if_icmp .ge 27, 3) := dk_162 0 27 (dk_at dksX8_worksRules_4 18 rfl rfl)
theorem dX8_worksRules_113 : decode cX8_worksRules 113 = .ok (.aload_n 0, 1) := dk_42 (dk_at dksX8_worksRules_4 21 rfl rfl)
theorem dX8_worksRules_114 : decode cX8_worksRules 114 = .ok (.getfield 58, 3) := dk_180 0 58 (dk_at dksX8_worksRules_5 0 rfl rfl)
theorem dX8_worksRules_117 : decode cX8_worksRules 117 = .ok (.bipush 9, 2) := dk_16 9 (dk_at dksX8_worksRules_5 3 rfl rfl)
theorem dX8_worksRules_119 : decode cX8_worksRules 119 = .ok (.iload 8, 2) := dk_21 8 (dk_at dksX8_worksRules_5 5 rfl rfl)
theorem dX8_worksRules_121 : decode cX8_worksRules 121 = .ok (.imul, 1) := dk_104 (dk_at dksX8_worksRules_5 7 rfl rfl)
theorem dX8_worksRules_122 : decode cX8_worksRules 122 = .ok (.iload 7, 2) := dk_21 7 (dk_at dksX8_worksRules_5 8 rfl rfl)
theorem dX8_worksRules_124 : decode cX8_worksRules 124 = .ok (.iadd, 1) := dk_96 (dk_at dksX8_worksRules_5 10 rfl rfl)
theorem dX8_worksRules_125 : decode cX8_worksRules 125 = .ok (.laload, 1) := dk_47 (dk_at dksX8_worksRules_5 11 rfl rfl)
theorem dX8_worksRules_126 : decode cX8_worksRules 126 = .ok (.lconst 0, 1) := dk_9 (dk_at dksX8_worksRules_5 12 rfl rfl)
theorem dX8_worksRules_127 : decode cX8_worksRules 127 = .ok (.lcmp, 1) := dk_148 (dk_at dksX8_worksRules_5 13 rfl rfl)
theorem dX8_worksRules_128 : decode cX8_worksRules 128 = .ok (.ifCond .ne 9, 3) := dk_154 0 9 (dk_at dksX8_worksRules_5 14 rfl rfl)
theorem dX8_worksRules_131 : decode cX8_worksRules 131 = .ok (.iinc 8 1, 3) := dk_132 8 1 (dk_at dksX8_worksRules_5 17 rfl rfl)
theorem dX8_worksRules_134 : decode cX8_worksRules 134 = .ok (.goto (-27), 3) := dk_167 255 229 (dk_at dksX8_worksRules_5 20 rfl rfl)
theorem dX8_worksRules_137 : decode cX8_worksRules 137 = .ok (.aload_n 0, 1) := dk_42 (dk_at dksX8_worksRules_5 23 rfl rfl)
theorem dX8_worksRules_138 : decode cX8_worksRules 138 = .ok (.getfield 64, 3) := dk_180 0 64 (dk_at dksX8_worksRules_6 0 rfl rfl)
theorem dX8_worksRules_141 : decode cX8_worksRules 141 = .ok (.iload 7, 2) := dk_21 7 (dk_at dksX8_worksRules_6 3 rfl rfl)
theorem dX8_worksRules_143 : decode cX8_worksRules 143 = .ok (.iload 8, 2) := dk_21 8 (dk_at dksX8_worksRules_6 5 rfl rfl)
theorem dX8_worksRules_145 : decode cX8_worksRules 145 = .ok (.iload_n 3, 1) := dk_29 (dk_at dksX8_worksRules_6 7 rfl rfl)
theorem dX8_worksRules_146 : decode cX8_worksRules 146 = .ok (.if_icmp .ge 8, 3) := dk_162 0 8 (dk_at dksX8_worksRules_6 8 rfl rfl)
theorem dX8_worksRules_149 : decode cX8_worksRules 149 = .ok (.iload 6, 2) := dk_21 6 (dk_at dksX8_worksRules_6 11 rfl rfl)
theorem dX8_worksRules_151 : decode cX8_worksRules 151 = .ok (.goto 4, 3) := dk_167 0 4 (dk_at dksX8_worksRules_6 13 rfl rfl)
theorem dX8_worksRules_154 : decode cX8_worksRules 154 = .ok (.iconst (-1), 1) := dk_2 (dk_at dksX8_worksRules_6 16 rfl rfl)
theorem dX8_worksRules_155 : decode cX8_worksRules 155 = .ok (.iastore, 1) := dk_79 (dk_at dksX8_worksRules_6 17 rfl rfl)
theorem dX8_worksRules_156 : decode cX8_worksRules 156 = .ok (.iload 8, 2) := dk_21 8 (dk_at dksX8_worksRules_6 18 rfl rfl)
theorem dX8_worksRules_158 : decode cX8_worksRules 158 = .ok (.iload_n 3, 1) := dk_29 (dk_at dksX8_worksRules_6 20 rfl rfl)
theorem dX8_worksRules_159 : decode cX8_worksRules 159 = .ok (.if_icmp .ge 27, 3) := dk_162 0 27 (dk_at dksX8_worksRules_6 21 rfl rfl)
theorem dX8_worksRules_162 : decode cX8_worksRules 162 = .ok (.aload_n 0, 1) := dk_42 (dk_at dksX8_worksRules_7 0 rfl rfl)
theorem dX8_worksRules_163 : decode cX8_worksRules 163 = .ok (.iload 8, 2) := dk_21 8 (dk_at dksX8_worksRules_7 1 rfl rfl)
theorem dX8_worksRules_165 : decode cX8_worksRules 165 = .ok (.iload 6, 2) := dk_21 6 (dk_at dksX8_worksRules_7 3 rfl rfl)
theorem dX8_worksRules_167 : decode cX8_worksRules 167 = .ok (.invokevirtual 286, 3) := dk_182 1 30 (dk_at dksX8_worksRules_7 5 rfl rfl)
theorem dX8_worksRules_170 : decode cX8_worksRules 170 = .ok (.aload_n 0, 1) := dk_42 (dk_at dksX8_worksRules_7 8 rfl rfl)
theorem dX8_worksRules_171 : decode cX8_worksRules 171 = .ok (.iload 6, 2) := dk_21 6 (dk_at dksX8_worksRules_7 9 rfl rfl)
theorem dX8_worksRules_173 : decode cX8_worksRules 173 = .ok (.iload_n 3, 1) := dk_29 (dk_at dksX8_worksRules_7 11 rfl rfl)
theorem dX8_worksRules_174 : decode cX8_worksRules 174 = .ok (.iload 7, 2) := dk_21 7 (dk_at dksX8_worksRules_7 12 rfl rfl)
theorem dX8_worksRules_176 : decode cX8_worksRules 176 = .ok (.lload 4, 2) := dk_22 4 (dk_at dksX8_worksRules_7 14 rfl rfl)
theorem dX8_worksRules_178 : decode cX8_worksRules 178 = .ok (.invokevirtual 289, 3) := dk_182 1 33 (dk_at dksX8_worksRules_7 16 rfl rfl)
theorem dX8_worksRules_181 : decode cX8_worksRules 181 = .ok (.lstore 4, 2) := dk_55 4 (dk_at dksX8_worksRules_7 19 rfl rfl)
theorem dX8_worksRules_183 : decode cX8_worksRules 183 = .ok (.iinc 6 1, 3) := dk_132 6 1 (dk_at dksX8_worksRules_7 21 rfl rfl)
theorem dX8_worksRules_186 : decode cX8_worksRules 186 = .ok (.iinc 7 1, 3) := dk_132 7 1 (dk_at dksX8_worksRules_8 0 rfl rfl)
theorem dX8_worksRules_189 : decode cX8_worksRules 189 = .ok (.goto (-100), 3) := dk_167 255 156 (dk_at dksX8_worksRules_8 3 rfl rfl)
theorem dX8_worksRules_192 : decode cX8_worksRules 192 = .ok (.iconst 0, 1) := dk_3 (dk_at dksX8_worksRules_8 6 rfl rfl)
theorem dX8_worksRules_193 : decode cX8_worksRules 193 = .ok (.istore 7, 2) := dk_54 7 (dk_at dksX8_worksRules_8 7 rfl rfl)
theorem dX8_worksRules_195 : decode cX8_worksRules 195 = .ok (.iload 7, 2) := dk_21 7 (dk_at dksX8_worksRules_8 9 rfl rfl)
theorem dX8_worksRules_197 : decode cX8_worksRules 197 = .ok (.aload_n 0, 1) := dk_42 (dk_at dksX8_worksRules_8 11 rfl rfl)
theorem dX8_worksRules_198 : decode cX8_worksRules 198 = .ok (.getfield 19, 3) := dk_180 0 19 (dk_at dksX8_worksRules_8 12 rfl rfl)
theorem dX8_worksRules_201 : decode cX8_worksRules 201 = .ok (.aload_n 0, 1) := dk_42 (dk_at dksX8_worksRules_8 15 rfl rfl)
theorem dX8_worksRules_202 : decode cX8_worksRules 202 = .ok (.getfield 23, 3) := dk_180 0 23 (dk_at dksX8_worksRules_8 16 rfl rfl)
theorem dX8_worksRules_205 : decode cX8_worksRules 205 = .ok (.imul, 1) := dk_104 (dk_at dksX8_worksRules_8 19 rfl rfl)
theorem dX8_worksRules_206 : decode cX8_worksRules 206 = .ok (.if_icmp .ge 125, 3) := dk_162 0 125 (dk_at dksX8_worksRules_8 20 rfl rfl)
theorem dX8_worksRules_209 : decode cX8_worksRules 209 = .ok (.aload_n 0, 1) := dk_42 (dk_at dksX8_worksRules_8 23 rfl rfl)
theorem dX8_worksRules_210 : decode cX8_worksRules 210 = .ok (.getfield 61, 3) := dk_180 0 61 (dk_at dksX8_worksRules_9 0 rfl rfl)
theorem dX8_worksRules_213 : decode cX8_worksRules 213 = .ok (.iload 7, 2) := dk_21 7 (dk_at dksX8_worksRules_9 3 rfl rfl)
theorem dX8_worksRules_215 : decode cX8_worksRules 215 = .ok (.lload 4, 2) := dk_22 4 (dk_at dksX8_worksRules_9 5 rfl rfl)
theorem dX8_worksRules_217 : decode cX8_worksRules 217 = .ok (.aload_n 0, 1) := dk_42 (dk_at dksX8_worksRules_9 7 rfl rfl)
theorem dX8_worksRules_218 : decode cX8_worksRules 218 = .ok (.iconst 2, 1) := dk_5 (dk_at dksX8_worksRules_9 8 rfl rfl)
theorem dX8_worksRules_219 : decode cX8_worksRules 219 = .ok (.iload 7, 2) := dk_21 7 (dk_at dksX8_worksRules_9 9 rfl rfl)
theorem dX8_worksRules_221 : decode cX8_worksRules 221 = .ok (.aload_n 0, 1) := dk_42 (dk_at dksX8_worksRules_9 11 rfl rfl)
theorem dX8_worksRules_222 : decode cX8_worksRules 222 = .ok (.getfield 23, 3) := dk_180 0 23 (dk_at dksX8_worksRules_9 12 rfl rfl)
theorem dX8_worksRules_225 : decode cX8_worksRules 225 = .ok (.idiv, 1) := dk_108 (dk_at dksX8_worksRules_9 15 rfl rfl)
theorem dX8_worksRules_226 : decode cX8_worksRules 226 = .ok (.iload 7, 2) := dk_21 7 (dk_at dksX8_worksRules_9 16 rfl rfl)
theorem dX8_worksRules_228 : decode cX8_worksRules 228 = .ok (.aload_n 0, 1) := dk_42 (dk_at dksX8_worksRules_9 18 rfl rfl)
theorem dX8_worksRules_229 : decode cX8_worksRules 229 = .ok (.getfield 23, 3) := dk_180 0 23 (dk_at dksX8_worksRules_9 19 rfl rfl)
theorem dX8_worksRules_232 : decode cX8_worksRules 232 = .ok (.irem, 1) := dk_112 (dk_at dksX8_worksRules_9 22 rfl rfl)
theorem dX8_worksRules_233 : decode cX8_worksRules 233 = .ok (.invokevirtual 128, 3) := dk_182 0 128 (dk_at dksX8_worksRules_10 0 rfl rfl)
theorem dX8_worksRules_236 : decode cX8_worksRules 236 = .ok (.i2l, 1) := dk_133 (dk_at dksX8_worksRules_10 3 rfl rfl)
theorem dX8_worksRules_237 : decode cX8_worksRules 237 = .ok (.lmul, 1) := dk_105 (dk_at dksX8_worksRules_10 4 rfl rfl)
theorem dX8_worksRules_238 : decode cX8_worksRules 238 = .ok (.lastore, 1) := dk_80 (dk_at dksX8_worksRules_10 5 rfl rfl)
theorem dX8_worksRules_239 : decode cX8_worksRules 239 = .ok (.iconst 0, 1) := dk_3 (dk_at dksX8_worksRules_10 6 rfl rfl)
theorem dX8_worksRules_240 : decode cX8_worksRules 240 = .ok (.istore 8, 2) := dk_54 8 (dk_at dksX8_worksRules_10 7 rfl rfl)
theorem dX8_worksRules_242 : decode cX8_worksRules 242 = .ok (.iload 8, 2) := dk_21 8 (dk_at dksX8_worksRules_10 9 rfl rfl)
theorem dX8_worksRules_244 : decode cX8_worksRules 244 = .ok (.aload_n 0, 1) := dk_42 (dk_at dksX8_worksRules_10 11 rfl rfl)
theorem dX8_worksRules_245 : decode cX8_worksRules 245 = .ok (.getfield 19, 3) := dk_180 0 19 (dk_at dksX8_worksRules_10 12 rfl rfl)
theorem dX8_worksRules_248 : decode cX8_worksRules 248 = .ok (.aload_n 0, 1) := dk_42 (dk_at dksX8_worksRules_10 15 rfl rfl)
theorem dX8_worksRules_249 : decode cX8_worksRules 249 = .ok (.getfield 23, 3) := dk_180 0 23 (dk_at dksX8_worksRules_10 16 rfl rfl)
theorem dX8_worksRules_252 : decode cX8_worksRules 252 = .ok (.imul, 1) := dk_104 (dk_at dksX8_worksRules_10 19 rfl rfl)
theorem dX8_worksRules_253 : decode cX8_worksRules 253 = .ok (.if_icmp .ge 72, 3) := dk_162 0 72 (dk_at dksX8_worksRules_10 20 rfl rfl)
theorem dX8_worksRules_256 : decode cX8_worksRules 256 = .ok (.aload_n 0, 1) := dk_42 (dk_at dksX8_worksRules_10 23 rfl rfl)
theorem dX8_worksRules_257 : decode cX8_worksRules 257 = .ok (.getfield 61, 3) := dk_180 0 61 (dk_at dksX8_worksRules_11 0 rfl rfl)
theorem dX8_worksRules_260 : decode cX8_worksRules 260 = .ok (.iload 7, 2) := dk_21 7 (dk_at dksX8_worksRules_11 3 rfl rfl)
theorem dX8_worksRules_262 : decode cX8_worksRules 262 = .ok (.dup2, 1) := dk_92 (dk_at dksX8_worksRules_11 5 rfl rfl)
theorem dX8_worksRules_263 : decode cX8_worksRules 263 = .ok (.laload, 1) := dk_47 (dk_at dksX8_worksRules_11 6 rfl rfl)
theorem dX8_worksRules_264 : decode cX8_worksRules 264 = .ok (.aload_n 0, 1) := dk_42 (dk_at dksX8_worksRules_11 7 rfl rfl)
theorem dX8_worksRules_265 : decode cX8_worksRules 265 = .ok (.getfield 64, 3) := dk_180 0 64 (dk_at dksX8_worksRules_11 8 rfl rfl)
theorem dX8_worksRules_268 : decode cX8_worksRules 268 = .ok (.iload 8, 2) := dk_21 8 (dk_at dksX8_worksRules_11 11 rfl rfl)
theorem dX8_worksRules_270 : decode cX8_worksRules 270 = .ok (.iaload, 1) := dk_46 (dk_at dksX8_worksRules_11 13 rfl rfl)
theorem dX8_worksRules_271 : decode cX8_worksRules 271 = .ok (.ifCond .ge 7, 3) := dk_156 0 7 (dk_at dksX8_worksRules_11 14 rfl rfl)
theorem dX8_worksRules_274 : decode cX8_worksRules 274 = .ok (.lconst 0, 1) := dk_9 (dk_at dksX8_worksRules_11 17 rfl rfl)
theorem dX8_worksRules_275 : decode cX8_worksRules 275 = .ok (.goto 42, 3) := dk_167 0 42 (dk_at dksX8_worksRules_11 18 rfl rfl)
theorem dX8_worksRules_278 : decode cX8_worksRules 278 = .ok (.aload_n 0, 1) := dk_42 (dk_at dksX8_worksRules_11 21 rfl rfl)
theorem dX8_worksRules_279 : decode cX8_worksRules 279 = .ok (.iconst 2, 1) := dk_5 (dk_at dksX8_worksRules_11 22 rfl rfl)
theorem dX8_worksRules_280 : decode cX8_worksRules 280 = .ok (.iload 8, 2) := dk_21 8 (dk_at dksX8_worksRules_12 0 rfl rfl)
theorem dX8_worksRules_282 : decode cX8_worksRules 282 = .ok (.aload_n 0, 1) := dk_42 (dk_at dksX8_worksRules_12 2 rfl rfl)
theorem dX8_worksRules_283 : decode cX8_worksRules 283 = .ok (.getfield 23, 3) := dk_180 0 23 (dk_at dksX8_worksRules_12 3 rfl rfl)
theorem dX8_worksRules_286 : decode cX8_worksRules 286 = .ok (.idiv, 1) := dk_108 (dk_at dksX8_worksRules_12 6 rfl rfl)
theorem dX8_worksRules_287 : decode cX8_worksRules 287 = .ok (.iload 8, 2) := dk_21 8 (dk_at dksX8_worksRules_12 7 rfl rfl)
theorem dX8_worksRules_289 : decode cX8_worksRules 289 = .ok (.aload_n 0, 1) := dk_42 (dk_at dksX8_worksRules_12 9 rfl rfl)
theorem dX8_worksRules_290 : decode cX8_worksRules 290 = .ok (.getfield 23, 3) := dk_180 0 23 (dk_at dksX8_worksRules_12 10 rfl rfl)
theorem dX8_worksRules_293 : decode cX8_worksRules 293 = .ok (.irem, 1) := dk_112 (dk_at dksX8_worksRules_12 13 rfl rfl)
theorem dX8_worksRules_294 : decode cX8_worksRules 294 = .ok (.invokevirtual 128, 3) := dk_182 0 128 (dk_at dksX8_worksRules_12 14 rfl rfl)
theorem dX8_worksRules_297 : decode cX8_worksRules 297 = .ok (.i2l, 1) := dk_133 (dk_at dksX8_worksRules_12 17 rfl rfl)
theorem dX8_worksRules_298 : decode cX8_worksRules 298 = .ok (.aload_n 0, 1) := dk_42 (dk_at dksX8_worksRules_12 18 rfl rfl)
theorem dX8_worksRules_299 : decode cX8_worksRules 299 = .ok (.getfield 58, 3) := dk_180 0 58 (dk_at dksX8_worksRules_12 19 rfl rfl)
theorem dX8_worksRules_302 : decode cX8_worksRules 302 = .ok (.bipush 9, 2) := dk_16 9 (dk_at dksX8_worksRules_12 22 rfl rfl)
theorem dX8_worksRules_304 : decode cX8_worksRules 304 = .ok (.aload_n 0, 1) := dk_42 (dk_at dksX8_worksRules_13 0 rfl rfl)
theorem dX8_worksRules_305 : decode cX8_worksRules 305 = .ok (.getfield 64, 3) := dk_180 0 64 (dk_at dksX8_worksRules_13 1 rfl rfl)
theorem dX8_worksRules_308 : decode cX8_worksRules 308 = .ok (.iload 8, 2) := dk_21 8 (dk_at dksX8_worksRules_13 4 rfl rfl)
theorem dX8_worksRules_310 : decode cX8_worksRules 310 = .ok (.iaload, 1) := dk_46 (dk_at dksX8_worksRules_13 6 rfl rfl)
theorem dX8_worksRules_311 : decode cX8_worksRules 311 = .ok (.imul, 1) := dk_104 (dk_at dksX8_worksRules_13 7 rfl rfl)
theorem dX8_worksRules_312 : decode cX8_worksRules 312 = .ok (.iload 7, 2) := dk_21 7 (dk_at dksX8_worksRules_13 8 rfl rfl)
theorem dX8_worksRules_314 : decode cX8_worksRules 314 = .ok (.iadd, 1) := dk_96 (dk_at dksX8_worksRules_13 10 rfl rfl)
theorem dX8_worksRules_315 : decode cX8_worksRules 315 = .ok (.laload, 1) := dk_47 (dk_at dksX8_worksRules_13 11 rfl rfl)
theorem dX8_worksRules_316 : decode cX8_worksRules 316 = .ok (.lmul, 1) := dk_105 (dk_at dksX8_worksRules_13 12 rfl rfl)
theorem dX8_worksRules_317 : decode cX8_worksRules 317 = .ok (.lsub, 1) := dk_101 (dk_at dksX8_worksRules_13 13 rfl rfl)
theorem dX8_worksRules_318 : decode cX8_worksRules 318 = .ok (.lastore, 1) := dk_80 (dk_at dksX8_worksRules_13 14 rfl rfl)
theorem dX8_worksRules_319 : decode cX8_worksRules 319 = .ok (.iinc 8 1, 3) := dk_132 8 1 (dk_at dksX8_worksRules_13 15 rfl rfl)
theorem dX8_worksRules_322 : decode cX8_worksRules 322 = .ok (.goto (-80), 3) := dk_167 255 176 (dk_at dksX8_worksRules_13 18 rfl rfl)
theorem dX8_worksRules_325 : decode cX8_worksRules 325 = .ok (.iinc 7 1, 3) := dk_132 7 1 (dk_at dksX8_worksRules_13 21 rfl rfl)
theorem dX8_worksRules_328 : decode cX8_worksRules 328 = .ok (.goto (-133), 3) := dk_167 255 123 (dk_at dksX8_worksRules_14 0 rfl rfl)
theorem dX8_worksRules_331 : decode cX8_worksRules 331 = .ok (.lload 4, 2) := dk_22 4 (dk_at dksX8_worksRules_14 3 rfl rfl)
theorem dX8_worksRules_333 : decode cX8_worksRules 333 = .ok (.lreturn, 1) := dk_173 (dk_at dksX8_worksRules_14 5 rfl rfl)
abbrev cX8_swapsRules : ByteArray := prog_24_method_57_code
def yX8_swapsRules : MethodName := ⟨RX8, "swapsRules", "(II)V"⟩
def dkwX8_swapsRules_2 : List UInt8 := [180, 0, 58, 16, 9, 28, 104, 29, 96, 22, 4, 80, 132, 3, 1, 167, 255, 199, 177]
abbrev dktX8_swapsRules_2 : List UInt8 := dkwX8_swapsRules_2 ++ []
def dkwX8_swapsRules_1 : List UInt8 := [180, 0, 58, 16, 9, 27, 104, 29, 96, 42, 180, 0, 58, 16, 9, 28, 104, 29, 96, 47, 80, 42]
abbrev dktX8_swapsRules_1 : List UInt8 := dkwX8_swapsRules_1 ++ dktX8_swapsRules_2
def dkwX8_swapsRules_0 : List UInt8 := [3, 62, 29, 16, 9, 162, 0, 57, 42, 180, 0, 58, 16, 9, 27, 104, 29, 96, 47, 55, 4, 42]
abbrev dktX8_swapsRules_0 : List UInt8 := dkwX8_swapsRules_0 ++ dktX8_swapsRules_1
theorem dksX8_swapsRules_0 : cX8_swapsRules.data.toList.drop 0 = dktX8_swapsRules_0 := by decide +kernel
theorem dksX8_swapsRules_1 : cX8_swapsRules.data.toList.drop 22 = dktX8_swapsRules_1 := dk_seg dksX8_swapsRules_0 22 rfl rfl
theorem dksX8_swapsRules_2 : cX8_swapsRules.data.toList.drop 44 = dktX8_swapsRules_2 := dk_seg dksX8_swapsRules_1 22 rfl rfl
theorem dX8_swapsRules_0 : decode cX8_swapsRules 0 = .ok (.iconst 0, 1) := dk_3 (dk_at dksX8_swapsRules_0 0 rfl rfl)
theorem dX8_swapsRules_1 : decode cX8_swapsRules 1 = .ok (.istore_n 3, 1) := dk_62 (dk_at dksX8_swapsRules_0 1 rfl rfl)
theorem dX8_swapsRules_2 : decode cX8_swapsRules 2 = .ok (.iload_n 3, 1) := dk_29 (dk_at dksX8_swapsRules_0 2 rfl rfl)
theorem dX8_swapsRules_3 : decode cX8_swapsRules 3 = .ok (.bipush 9, 2) := dk_16 9 (dk_at dksX8_swapsRules_0 3 rfl rfl)
theorem dX8_swapsRules_5 : decode cX8_swapsRules 5 = .ok (.if_icmp .ge 57, 3) := dk_162 0 57 (dk_at dksX8_swapsRules_0 5 rfl rfl)
theorem dX8_swapsRules_8 : decode cX8_swapsRules 8 = .ok (.aload_n 0, 1) := dk_42 (dk_at dksX8_swapsRules_0 8 rfl rfl)
theorem dX8_swapsRules_9 : decode cX8_swapsRules 9 = .ok (.getfield 58, 3) := dk_180 0 58 (dk_at dksX8_swapsRules_0 9 rfl rfl)
theorem dX8_swapsRules_12 : decode cX8_swapsRules 12 = .ok (.bipush 9, 2) := dk_16 9 (dk_at dksX8_swapsRules_0 12 rfl rfl)
theorem dX8_swapsRules_14 : decode cX8_swapsRules 14 = .ok (.iload_n 1, 1) := dk_27 (dk_at dksX8_swapsRules_0 14 rfl rfl)
theorem dX8_swapsRules_15 : decode cX8_swapsRules 15 = .ok (.imul, 1) := dk_104 (dk_at dksX8_swapsRules_0 15 rfl rfl)
theorem dX8_swapsRules_16 : decode cX8_swapsRules 16 = .ok (.iload_n 3, 1) := dk_29 (dk_at dksX8_swapsRules_0 16 rfl rfl)
theorem dX8_swapsRules_17 : decode cX8_swapsRules 17 = .ok (.iadd, 1) := dk_96 (dk_at dksX8_swapsRules_0 17 rfl rfl)
theorem dX8_swapsRules_18 : decode cX8_swapsRules 18 = .ok (.laload, 1) := dk_47 (dk_at dksX8_swapsRules_0 18 rfl rfl)
theorem dX8_swapsRules_19 : decode cX8_swapsRules 19 = .ok (.lstore 4, 2) := dk_55 4 (dk_at dksX8_swapsRules_0 19 rfl rfl)
theorem dX8_swapsRules_21 : decode cX8_swapsRules 21 = .ok (.aload_n 0, 1) := dk_42 (dk_at dksX8_swapsRules_0 21 rfl rfl)
theorem dX8_swapsRules_22 : decode cX8_swapsRules 22 = .ok (.getfield 58, 3) := dk_180 0 58 (dk_at dksX8_swapsRules_1 0 rfl rfl)
theorem dX8_swapsRules_25 : decode cX8_swapsRules 25 = .ok (.bipush 9, 2) := dk_16 9 (dk_at dksX8_swapsRules_1 3 rfl rfl)
theorem dX8_swapsRules_27 : decode cX8_swapsRules 27 = .ok (.iload_n 1, 1) := dk_27 (dk_at dksX8_swapsRules_1 5 rfl rfl)
theorem dX8_swapsRules_28 : decode cX8_swapsRules 28 = .ok (.imul, 1) := dk_104 (dk_at dksX8_swapsRules_1 6 rfl rfl)
theorem dX8_swapsRules_29 : decode cX8_swapsRules 29 = .ok (.iload_n 3, 1) := dk_29 (dk_at dksX8_swapsRules_1 7 rfl rfl)
theorem dX8_swapsRules_30 : decode cX8_swapsRules 30 = .ok (.iadd, 1) := dk_96 (dk_at dksX8_swapsRules_1 8 rfl rfl)
theorem dX8_swapsRules_31 : decode cX8_swapsRules 31 = .ok (.aload_n 0, 1) := dk_42 (dk_at dksX8_swapsRules_1 9 rfl rfl)
theorem dX8_swapsRules_32 : decode cX8_swapsRules 32 = .ok (.getfield 58, 3) := dk_180 0 58 (dk_at dksX8_swapsRules_1 10 rfl rfl)
theorem dX8_swapsRules_35 : decode cX8_swapsRules 35 = .ok (.bipush 9, 2) := dk_16 9 (dk_at dksX8_swapsRules_1 13 rfl rfl)
theorem dX8_swapsRules_37 : decode cX8_swapsRules 37 = .ok (.iload_n 2, 1) := dk_28 (dk_at dksX8_swapsRules_1 15 rfl rfl)
theorem dX8_swapsRules_38 : decode cX8_swapsRules 38 = .ok (.imul, 1) := dk_104 (dk_at dksX8_swapsRules_1 16 rfl rfl)
theorem dX8_swapsRules_39 : decode cX8_swapsRules 39 = .ok (.iload_n 3, 1) := dk_29 (dk_at dksX8_swapsRules_1 17 rfl rfl)
theorem dX8_swapsRules_40 : decode cX8_swapsRules 40 = .ok (.iadd, 1) := dk_96 (dk_at dksX8_swapsRules_1 18 rfl rfl)
theorem dX8_swapsRules_41 : decode cX8_swapsRules 41 = .ok (.laload, 1) := dk_47 (dk_at dksX8_swapsRules_1 19 rfl rfl)
theorem dX8_swapsRules_42 : decode cX8_swapsRules 42 = .ok (.lastore, 1) := dk_80 (dk_at dksX8_swapsRules_1 20 rfl rfl)
theorem dX8_swapsRules_43 : decode cX8_swapsRules 43 = .ok (.aload_n 0, 1) := dk_42 (dk_at dksX8_swapsRules_1 21 rfl rfl)
theorem dX8_swapsRules_44 : decode cX8_swapsRules 44 = .ok (.getfield 58, 3) := dk_180 0 58 (dk_at dksX8_swapsRules_2 0 rfl rfl)
theorem dX8_swapsRules_47 : decode cX8_swapsRules 47 = .ok (.bipush 9, 2) := dk_16 9 (dk_at dksX8_swapsRules_2 3 rfl rfl)
theorem dX8_swapsRules_49 : decode cX8_swapsRules 49 = .ok (.iload_n 2, 1) := dk_28 (dk_at dksX8_swapsRules_2 5 rfl rfl)
theorem dX8_swapsRules_50 : decode cX8_swapsRules 50 = .ok (.imul, 1) := dk_104 (dk_at dksX8_swapsRules_2 6 rfl rfl)
theorem dX8_swapsRules_51 : decode cX8_swapsRules 51 = .ok (.iload_n 3, 1) := dk_29 (dk_at dksX8_swapsRules_2 7 rfl rfl)
theorem dX8_swapsRules_52 : decode cX8_swapsRules 52 = .ok (.iadd, 1) := dk_96 (dk_at dksX8_swapsRules_2 8 rfl rfl)
theorem dX8_swapsRules_53 : decode cX8_swapsRules 53 = .ok (.lload 4, 2) := dk_22 4 (dk_at dksX8_swapsRules_2 9 rfl rfl)
theorem dX8_swapsRules_55 : decode cX8_swapsRules 55 = .ok (.lastore, 1) := dk_80 (dk_at dksX8_swapsRules_2 11 rfl rfl)
theorem dX8_swapsRules_56 : decode cX8_swapsRules 56 = .ok (.iinc 3 1, 3) := dk_132 3 1 (dk_at dksX8_swapsRules_2 12 rfl rfl)
theorem dX8_swapsRules_59 : decode cX8_swapsRules 59 = .ok (.goto (-57), 3) := dk_167 255 199 (dk_at dksX8_swapsRules_2 15 rfl rfl)
theorem dX8_swapsRules_62 : decode cX8_swapsRules 62 = .ok (.return_, 1) := dk_177 (dk_at dksX8_swapsRules_2 18 rfl rfl)
abbrev cX8_clearsRules : ByteArray := prog_24_method_58_code
def yX8_clearsRules : MethodName := ⟨RX8, "clearsRules", "(IIIJ)J"⟩
def dkwX8_clearsRules_4 : List UInt8 := [105, 101, 22, 4, 109, 80, 132, 11, 1, 167, 255, 192, 132, 8, 1, 167, 255, 163, 22, 6, 173]
abbrev dktX8_clearsRules_4 : List UInt8 := dkwX8_clearsRules_4 ++ []
def dkwX8_clearsRules_3 : List UInt8 := [16, 9, 21, 8, 104, 21, 11, 96, 47, 105, 22, 9, 42, 180, 0, 58, 16, 9, 27, 104, 21, 11, 96, 47]
abbrev dktX8_clearsRules_3 : List UInt8 := dkwX8_clearsRules_3 ++ dktX8_clearsRules_4
def dkwX8_clearsRules_2 : List UInt8 := [21, 8, 27, 159, 0, 57, 42, 180, 0, 58, 16, 9, 21, 8, 104, 21, 11, 96, 22, 6, 42, 180, 0, 58]
abbrev dktX8_clearsRules_2 : List UInt8 := dkwX8_clearsRules_2 ++ dktX8_clearsRules_3
def dkwX8_clearsRules_1 : List UInt8 := [180, 0, 58, 16, 9, 21, 8, 104, 29, 96, 47, 55, 9, 3, 54, 11, 21, 11, 16, 9, 162, 0, 63]
abbrev dktX8_clearsRules_1 : List UInt8 := dkwX8_clearsRules_1 ++ dktX8_clearsRules_2
def dkwX8_clearsRules_0 : List UInt8 := [42, 180, 0, 58, 16, 9, 27, 104, 29, 96, 47, 55, 6, 3, 54, 8, 21, 8, 28, 162, 0, 93, 42]
abbrev dktX8_clearsRules_0 : List UInt8 := dkwX8_clearsRules_0 ++ dktX8_clearsRules_1
theorem dksX8_clearsRules_0 : cX8_clearsRules.data.toList.drop 0 = dktX8_clearsRules_0 := by decide +kernel
theorem dksX8_clearsRules_1 : cX8_clearsRules.data.toList.drop 23 = dktX8_clearsRules_1 := dk_seg dksX8_clearsRules_0 23 rfl rfl
theorem dksX8_clearsRules_2 : cX8_clearsRules.data.toList.drop 46 = dktX8_clearsRules_2 := dk_seg dksX8_clearsRules_1 23 rfl rfl
theorem dksX8_clearsRules_3 : cX8_clearsRules.data.toList.drop 70 = dktX8_clearsRules_3 := dk_seg dksX8_clearsRules_2 24 rfl rfl
theorem dksX8_clearsRules_4 : cX8_clearsRules.data.toList.drop 94 = dktX8_clearsRules_4 := dk_seg dksX8_clearsRules_3 24 rfl rfl
theorem dX8_clearsRules_0 : decode cX8_clearsRules 0 = .ok (.aload_n 0, 1) := dk_42 (dk_at dksX8_clearsRules_0 0 rfl rfl)
theorem dX8_clearsRules_1 : decode cX8_clearsRules 1 = .ok (.getfield 58, 3) := dk_180 0 58 (dk_at dksX8_clearsRules_0 1 rfl rfl)
theorem dX8_clearsRules_4 : decode cX8_clearsRules 4 = .ok (.bipush 9, 2) := dk_16 9 (dk_at dksX8_clearsRules_0 4 rfl rfl)
theorem dX8_clearsRules_6 : decode cX8_clearsRules 6 = .ok (.iload_n 1, 1) := dk_27 (dk_at dksX8_clearsRules_0 6 rfl rfl)
theorem dX8_clearsRules_7 : decode cX8_clearsRules 7 = .ok (.imul, 1) := dk_104 (dk_at dksX8_clearsRules_0 7 rfl rfl)
theorem dX8_clearsRules_8 : decode cX8_clearsRules 8 = .ok (.iload_n 3, 1) := dk_29 (dk_at dksX8_clearsRules_0 8 rfl rfl)
theorem dX8_clearsRules_9 : decode cX8_clearsRules 9 = .ok (.iadd, 1) := dk_96 (dk_at dksX8_clearsRules_0 9 rfl rfl)
theorem dX8_clearsRules_10 : decode cX8_clearsRules 10 = .ok (.laload, 1) := dk_47 (dk_at dksX8_clearsRules_0 10 rfl rfl)
theorem dX8_clearsRules_11 : decode cX8_clearsRules 11 = .ok (.lstore 6, 2) := dk_55 6 (dk_at dksX8_clearsRules_0 11 rfl rfl)
theorem dX8_clearsRules_13 : decode cX8_clearsRules 13 = .ok (.iconst 0, 1) := dk_3 (dk_at dksX8_clearsRules_0 13 rfl rfl)
theorem dX8_clearsRules_14 : decode cX8_clearsRules 14 = .ok (.istore 8, 2) := dk_54 8 (dk_at dksX8_clearsRules_0 14 rfl rfl)
theorem dX8_clearsRules_16 : decode cX8_clearsRules 16 = .ok (.iload 8, 2) := dk_21 8 (dk_at dksX8_clearsRules_0 16 rfl rfl)
theorem dX8_clearsRules_18 : decode cX8_clearsRules 18 = .ok (.iload_n 2, 1) := dk_28 (dk_at dksX8_clearsRules_0 18 rfl rfl)
theorem dX8_clearsRules_19 : decode cX8_clearsRules 19 = .ok (.if_icmp .ge 93, 3) := dk_162 0 93 (dk_at dksX8_clearsRules_0 19 rfl rfl)
theorem dX8_clearsRules_22 : decode cX8_clearsRules 22 = .ok (.aload_n 0, 1) := dk_42 (dk_at dksX8_clearsRules_0 22 rfl rfl)
theorem dX8_clearsRules_23 : decode cX8_clearsRules 23 = .ok (.getfield 58, 3) := dk_180 0 58 (dk_at dksX8_clearsRules_1 0 rfl rfl)
theorem dX8_clearsRules_26 : decode cX8_clearsRules 26 = .ok (.bipush 9, 2) := dk_16 9 (dk_at dksX8_clearsRules_1 3 rfl rfl)
theorem dX8_clearsRules_28 : decode cX8_clearsRules 28 = .ok (.iload 8, 2) := dk_21 8 (dk_at dksX8_clearsRules_1 5 rfl rfl)
theorem dX8_clearsRules_30 : decode cX8_clearsRules 30 = .ok (.imul, 1) := dk_104 (dk_at dksX8_clearsRules_1 7 rfl rfl)
theorem dX8_clearsRules_31 : decode cX8_clearsRules 31 = .ok (.iload_n 3, 1) := dk_29 (dk_at dksX8_clearsRules_1 8 rfl rfl)
theorem dX8_clearsRules_32 : decode cX8_clearsRules 32 = .ok (.iadd, 1) := dk_96 (dk_at dksX8_clearsRules_1 9 rfl rfl)
theorem dX8_clearsRules_33 : decode cX8_clearsRules 33 = .ok (.laload, 1) := dk_47 (dk_at dksX8_clearsRules_1 10 rfl rfl)
theorem dX8_clearsRules_34 : decode cX8_clearsRules 34 = .ok (.lstore 9, 2) := dk_55 9 (dk_at dksX8_clearsRules_1 11 rfl rfl)
theorem dX8_clearsRules_36 : decode cX8_clearsRules 36 = .ok (.iconst 0, 1) := dk_3 (dk_at dksX8_clearsRules_1 13 rfl rfl)
theorem dX8_clearsRules_37 : decode cX8_clearsRules 37 = .ok (.istore 11, 2) := dk_54 11 (dk_at dksX8_clearsRules_1 14 rfl rfl)
theorem dX8_clearsRules_39 : decode cX8_clearsRules 39 = .ok (.iload 11, 2) := dk_21 11 (dk_at dksX8_clearsRules_1 16 rfl rfl)
theorem dX8_clearsRules_41 : decode cX8_clearsRules 41 = .ok (.bipush 9, 2) := dk_16 9 (dk_at dksX8_clearsRules_1 18 rfl rfl)
theorem dX8_clearsRules_43 : decode cX8_clearsRules 43 = .ok (.if_icmp .ge 63, 3) := dk_162 0 63 (dk_at dksX8_clearsRules_1 20 rfl rfl)
theorem dX8_clearsRules_46 : decode cX8_clearsRules 46 = .ok (.iload 8, 2) := dk_21 8 (dk_at dksX8_clearsRules_2 0 rfl rfl)
theorem dX8_clearsRules_48 : decode cX8_clearsRules 48 = .ok (.iload_n 1, 1) := dk_27 (dk_at dksX8_clearsRules_2 2 rfl rfl)
theorem dX8_clearsRules_49 : decode cX8_clearsRules 49 = .ok (.if_icmp .eq 57, 3) := dk_159 0 57 (dk_at dksX8_clearsRules_2 3 rfl rfl)
theorem dX8_clearsRules_52 : decode cX8_clearsRules 52 = .ok (.aload_n 0, 1) := dk_42 (dk_at dksX8_clearsRules_2 6 rfl rfl)
theorem dX8_clearsRules_53 : decode cX8_clearsRules 53 = .ok (.getfield 58, 3) := dk_180 0 58 (dk_at dksX8_clearsRules_2 7 rfl rfl)
theorem dX8_clearsRules_56 : decode cX8_clearsRules 56 = .ok (.bipush 9, 2) := dk_16 9 (dk_at dksX8_clearsRules_2 10 rfl rfl)
theorem dX8_clearsRules_58 : decode cX8_clearsRules 58 = .ok (.iload 8, 2) := dk_21 8 (dk_at dksX8_clearsRules_2 12 rfl rfl)
theorem dX8_clearsRules_60 : decode cX8_clearsRules 60 = .ok (.imul, 1) := dk_104 (dk_at dksX8_clearsRules_2 14 rfl rfl)
theorem dX8_clearsRules_61 : decode cX8_clearsRules 61 = .ok (.iload 11, 2) := dk_21 11 (dk_at dksX8_clearsRules_2 15 rfl rfl)
theorem dX8_clearsRules_63 : decode cX8_clearsRules 63 = .ok (.iadd, 1) := dk_96 (dk_at dksX8_clearsRules_2 17 rfl rfl)
theorem dX8_clearsRules_64 : decode cX8_clearsRules 64 = .ok (.lload 6, 2) := dk_22 6 (dk_at dksX8_clearsRules_2 18 rfl rfl)
theorem dX8_clearsRules_66 : decode cX8_clearsRules 66 = .ok (.aload_n 0, 1) := dk_42 (dk_at dksX8_clearsRules_2 20 rfl rfl)
theorem dX8_clearsRules_67 : decode cX8_clearsRules 67 = .ok (.getfield 58, 3) := dk_180 0 58 (dk_at dksX8_clearsRules_2 21 rfl rfl)
theorem dX8_clearsRules_70 : decode cX8_clearsRules 70 = .ok (.bipush 9, 2) := dk_16 9 (dk_at dksX8_clearsRules_3 0 rfl rfl)
theorem dX8_clearsRules_72 : decode cX8_clearsRules 72 = .ok (.iload 8, 2) := dk_21 8 (dk_at dksX8_clearsRules_3 2 rfl rfl)
theorem dX8_clearsRules_74 : decode cX8_clearsRules 74 = .ok (.imul, 1) := dk_104 (dk_at dksX8_clearsRules_3 4 rfl rfl)
theorem dX8_clearsRules_75 : decode cX8_clearsRules 75 = .ok (.iload 11, 2) := dk_21 11 (dk_at dksX8_clearsRules_3 5 rfl rfl)
theorem dX8_clearsRules_77 : decode cX8_clearsRules 77 = .ok (.iadd, 1) := dk_96 (dk_at dksX8_clearsRules_3 7 rfl rfl)
theorem dX8_clearsRules_78 : decode cX8_clearsRules 78 = .ok (.laload, 1) := dk_47 (dk_at dksX8_clearsRules_3 8 rfl rfl)
theorem dX8_clearsRules_79 : decode cX8_clearsRules 79 = .ok (.lmul, 1) := dk_105 (dk_at dksX8_clearsRules_3 9 rfl rfl)
theorem dX8_clearsRules_80 : decode cX8_clearsRules 80 = .ok (.lload 9, 2) := dk_22 9 (dk_at dksX8_clearsRules_3 10 rfl rfl)
theorem dX8_clearsRules_82 : decode cX8_clearsRules 82 = .ok (.aload_n 0, 1) := dk_42 (dk_at dksX8_clearsRules_3 12 rfl rfl)
theorem dX8_clearsRules_83 : decode cX8_clearsRules 83 = .ok (.getfield 58, 3) := dk_180 0 58 (dk_at dksX8_clearsRules_3 13 rfl rfl)
theorem dX8_clearsRules_86 : decode cX8_clearsRules 86 = .ok (.bipush 9, 2) := dk_16 9 (dk_at dksX8_clearsRules_3 16 rfl rfl)
theorem dX8_clearsRules_88 : decode cX8_clearsRules 88 = .ok (.iload_n 1, 1) := dk_27 (dk_at dksX8_clearsRules_3 18 rfl rfl)
theorem dX8_clearsRules_89 : decode cX8_clearsRules 89 = .ok (.imul, 1) := dk_104 (dk_at dksX8_clearsRules_3 19 rfl rfl)
theorem dX8_clearsRules_90 : decode cX8_clearsRules 90 = .ok (.iload 11, 2) := dk_21 11 (dk_at dksX8_clearsRules_3 20 rfl rfl)
theorem dX8_clearsRules_92 : decode cX8_clearsRules 92 = .ok (.iadd, 1) := dk_96 (dk_at dksX8_clearsRules_3 22 rfl rfl)
theorem dX8_clearsRules_93 : decode cX8_clearsRules 93 = .ok (.laload, 1) := dk_47 (dk_at dksX8_clearsRules_3 23 rfl rfl)
theorem dX8_clearsRules_94 : decode cX8_clearsRules 94 = .ok (.lmul, 1) := dk_105 (dk_at dksX8_clearsRules_4 0 rfl rfl)
theorem dX8_clearsRules_95 : decode cX8_clearsRules 95 = .ok (.lsub, 1) := dk_101 (dk_at dksX8_clearsRules_4 1 rfl rfl)
theorem dX8_clearsRules_96 : decode cX8_clearsRules 96 = .ok (.lload 4, 2) := dk_22 4 (dk_at dksX8_clearsRules_4 2 rfl rfl)
theorem dX8_clearsRules_98 : decode cX8_clearsRules 98 = .ok (.ldiv, 1) := dk_109 (dk_at dksX8_clearsRules_4 4 rfl rfl)
theorem dX8_clearsRules_99 : decode cX8_clearsRules 99 = .ok (.lastore, 1) := dk_80 (dk_at dksX8_clearsRules_4 5 rfl rfl)
theorem dX8_clearsRules_100 : decode cX8_clearsRules 100 = .ok (.iinc 11 1, 3) := dk_132 11 1 (dk_at dksX8_clearsRules_4 6 rfl rfl)
theorem dX8_clearsRules_103 : decode cX8_clearsRules 103 = .ok (.goto (-64), 3) := dk_167 255 192 (dk_at dksX8_clearsRules_4 9 rfl rfl)
theorem dX8_clearsRules_106 : decode cX8_clearsRules 106 = .ok (.iinc 8 1, 3) := dk_132 8 1 (dk_at dksX8_clearsRules_4 12 rfl rfl)
theorem dX8_clearsRules_109 : decode cX8_clearsRules 109 = .ok (.goto (-93), 3) := dk_167 255 163 (dk_at dksX8_clearsRules_4 15 rfl rfl)
theorem dX8_clearsRules_112 : decode cX8_clearsRules 112 = .ok (.lload 6, 2) := dk_22 6 (dk_at dksX8_clearsRules_4 18 rfl rfl)
theorem dX8_clearsRules_114 : decode cX8_clearsRules 114 = .ok (.lreturn, 1) := dk_173 (dk_at dksX8_clearsRules_4 20 rfl rfl)
abbrev cX8_similar : ByteArray := prog_24_method_62_code
def yX8_similar : MethodName := ⟨RX8, "similar", "(I)I"⟩
def dkwX8_similar_2 : List UInt8 := [167, 0, 4, 3, 172]
abbrev dktX8_similar_2 : List UInt8 := dkwX8_similar_2 ++ []
def dkwX8_similar_1 : List UInt8 := [180, 0, 29, 27, 46, 3, 42, 180, 0, 32, 27, 46, 3, 182, 0, 255, 42, 182, 1, 14, 153, 0, 7, 4]
abbrev dktX8_similar_1 : List UInt8 := dkwX8_similar_1 ++ dktX8_similar_2
def dkwX8_similar_0 : List UInt8 := [42, 27, 182, 0, 203, 154, 0, 5, 2, 172, 42, 27, 182, 1, 41, 154, 0, 6, 16, 252, 172, 42, 42]
abbrev dktX8_similar_0 : List UInt8 := dkwX8_similar_0 ++ dktX8_similar_1
theorem dksX8_similar_0 : cX8_similar.data.toList.drop 0 = dktX8_similar_0 := by decide +kernel
theorem dksX8_similar_1 : cX8_similar.data.toList.drop 23 = dktX8_similar_1 := dk_seg dksX8_similar_0 23 rfl rfl
theorem dksX8_similar_2 : cX8_similar.data.toList.drop 47 = dktX8_similar_2 := dk_seg dksX8_similar_1 24 rfl rfl
theorem dX8_similar_0 : decode cX8_similar 0 = .ok (.aload_n 0, 1) := dk_42 (dk_at dksX8_similar_0 0 rfl rfl)
theorem dX8_similar_1 : decode cX8_similar 1 = .ok (.iload_n 1, 1) := dk_27 (dk_at dksX8_similar_0 1 rfl rfl)
theorem dX8_similar_2 : decode cX8_similar 2 = .ok (.invokevirtual 203, 3) := dk_182 0 203 (dk_at dksX8_similar_0 2 rfl rfl)
theorem dX8_similar_5 : decode cX8_similar 5 = .ok (.ifCond .ne 5, 3) := dk_154 0 5 (dk_at dksX8_similar_0 5 rfl rfl)
theorem dX8_similar_8 : decode cX8_similar 8 = .ok (.iconst (-1), 1) := dk_2 (dk_at dksX8_similar_0 8 rfl rfl)
theorem dX8_similar_9 : decode cX8_similar 9 = .ok (.ireturn, 1) := dk_172 (dk_at dksX8_similar_0 9 rfl rfl)
theorem dX8_similar_10 : decode cX8_similar 10 = .ok (.aload_n 0, 1) := dk_42 (dk_at dksX8_similar_0 10 rfl rfl)
theorem dX8_similar_11 : decode cX8_similar 11 = .ok (.iload_n 1, 1) := dk_27 (dk_at dksX8_similar_0 11 rfl rfl)
theorem dX8_similar_12 : decode cX8_similar 12 = .ok (.invokevirtual 297, 3) := dk_182 1 41 (dk_at dksX8_similar_0 12 rfl rfl)
theorem dX8_similar_15 : decode cX8_similar 15 = .ok (.ifCond .ne 6, 3) := dk_154 0 6 (dk_at dksX8_similar_0 15 rfl rfl)
theorem dX8_similar_18 : decode cX8_similar 18 = .ok (.bipush (-4), 2) := dk_16 252 (dk_at dksX8_similar_0 18 rfl rfl)
theorem dX8_similar_20 : decode cX8_similar 20 = .ok (.ireturn, 1) := dk_172 (dk_at dksX8_similar_0 20 rfl rfl)
theorem dX8_similar_21 : decode cX8_similar 21 = .ok (.aload_n 0, 1) := dk_42 (dk_at dksX8_similar_0 21 rfl rfl)
theorem dX8_similar_22 : decode cX8_similar 22 = .ok (.aload_n 0, 1) := dk_42 (dk_at dksX8_similar_0 22 rfl rfl)
theorem dX8_similar_23 : decode cX8_similar 23 = .ok (.getfield 29, 3) := dk_180 0 29 (dk_at dksX8_similar_1 0 rfl rfl)
theorem dX8_similar_26 : decode cX8_similar 26 = .ok (.iload_n 1, 1) := dk_27 (dk_at dksX8_similar_1 3 rfl rfl)
theorem dX8_similar_27 : decode cX8_similar 27 = .ok (.iaload, 1) := dk_46 (dk_at dksX8_similar_1 4 rfl rfl)
theorem dX8_similar_28 : decode cX8_similar 28 = .ok (.iconst 0, 1) := dk_3 (dk_at dksX8_similar_1 5 rfl rfl)
theorem dX8_similar_29 : decode cX8_similar 29 = .ok (.aload_n 0, 1) := dk_42 (dk_at dksX8_similar_1 6 rfl rfl)
theorem dX8_similar_30 : decode cX8_similar 30 = .ok (.getfield 32, 3) := dk_180 0 32 (dk_at dksX8_similar_1 7 rfl rfl)
theorem dX8_similar_33 : decode cX8_similar 33 = .ok (.iload_n 1, 1) := dk_27 (dk_at dksX8_similar_1 10 rfl rfl)
theorem dX8_similar_34 : decode cX8_similar 34 = .ok (.iaload, 1) := dk_46 (dk_at dksX8_similar_1 11 rfl rfl)
theorem dX8_similar_35 : decode cX8_similar 35 = .ok (.iconst 0, 1) := dk_3 (dk_at dksX8_similar_1 12 rfl rfl)
theorem dX8_similar_36 : decode cX8_similar 36 = .ok (.invokevirtual 255, 3) := dk_182 0 255 (dk_at dksX8_similar_1 13 rfl rfl)
theorem dX8_similar_39 : decode cX8_similar 39 = .ok (.aload_n 0, 1) := dk_42 (dk_at dksX8_similar_1 16 rfl rfl)
theorem dX8_similar_40 : decode cX8_similar 40 = .ok (.invokevirtual 270, 3) := dk_182 1 14 (dk_at dksX8_similar_1 17 rfl rfl)
theorem dX8_similar_43 : decode cX8_similar 43 = .ok (.ifCond .eq 7, 3) := dk_153 0 7 (dk_at dksX8_similar_1 20 rfl rfl)
theorem dX8_similar_46 : decode cX8_similar 46 = .ok (.iconst 1, 1) := dk_4 (dk_at dksX8_similar_1 23 rfl rfl)
theorem dX8_similar_47 : decode cX8_similar 47 = .ok (.goto 4, 3) := dk_167 0 4 (dk_at dksX8_similar_2 0 rfl rfl)
theorem dX8_similar_50 : decode cX8_similar 50 = .ok (.iconst 0, 1) := dk_3 (dk_at dksX8_similar_2 3 rfl rfl)
theorem dX8_similar_51 : decode cX8_similar 51 = .ok (.ireturn, 1) := dk_172 (dk_at dksX8_similar_2 4 rfl rfl)
abbrev cX8_isSmall : ByteArray := prog_24_method_61_code
def yX8_isSmall : MethodName := ⟨RX8, "isSmall", "(I)Z"⟩
def dkwX8_isSmall_1 : List UInt8 := [163, 0, 7, 4, 167, 0, 4, 3, 172]
abbrev dktX8_isSmall_1 : List UInt8 := dkwX8_isSmall_1 ++ []
def dkwX8_isSmall_0 : List UInt8 := [42, 42, 180, 0, 29, 27, 46, 182, 0, 209, 153, 0, 21, 42, 180, 0, 19, 42, 180, 0, 23, 104, 16, 6]
abbrev dktX8_isSmall_0 : List UInt8 := dkwX8_isSmall_0 ++ dktX8_isSmall_1
theorem dksX8_isSmall_0 : cX8_isSmall.data.toList.drop 0 = dktX8_isSmall_0 := by decide +kernel
theorem dksX8_isSmall_1 : cX8_isSmall.data.toList.drop 24 = dktX8_isSmall_1 := dk_seg dksX8_isSmall_0 24 rfl rfl
theorem dX8_isSmall_0 : decode cX8_isSmall 0 = .ok (.aload_n 0, 1) := dk_42 (dk_at dksX8_isSmall_0 0 rfl rfl)
theorem dX8_isSmall_1 : decode cX8_isSmall 1 = .ok (.aload_n 0, 1) := dk_42 (dk_at dksX8_isSmall_0 1 rfl rfl)
theorem dX8_isSmall_2 : decode cX8_isSmall 2 = .ok (.getfield 29, 3) := dk_180 0 29 (dk_at dksX8_isSmall_0 2 rfl rfl)
theorem dX8_isSmall_5 : decode cX8_isSmall 5 = .ok (.iload_n 1, 1) := dk_27 (dk_at dksX8_isSmall_0 5 rfl rfl)
theorem dX8_isSmall_6 : decode cX8_isSmall 6 = .ok (.iaload, 1) := dk_46 (dk_at dksX8_isSmall_0 6 rfl rfl)
theorem dX8_isSmall_7 : decode cX8_isSmall 7 = .ok (.invokevirtual 209, 3) := dk_182 0 209 (dk_at dksX8_isSmall_0 7 rfl rfl)
theorem dX8_isSmall_10 : decode cX8_isSmall 10 = .ok (.ifCond .eq 21, 3) := dk_153 0 21 (dk_at dksX8_isSmall_0 10 rfl rfl)
theorem dX8_isSmall_13 : decode cX8_isSmall 13 = .ok (.aload_n 0, 1) := dk_42 (dk_at dksX8_isSmall_0 13 rfl rfl)
theorem dX8_isSmall_14 : decode cX8_isSmall 14 = .ok (.getfield 19, 3) := dk_180 0 19 (dk_at dksX8_isSmall_0 14 rfl rfl)
theorem dX8_isSmall_17 : decode cX8_isSmall 17 = .ok (.aload_n 0, 1) := dk_42 (dk_at dksX8_isSmall_0 17 rfl rfl)
theorem dX8_isSmall_18 : decode cX8_isSmall 18 = .ok (.getfield 23, 3) := dk_180 0 23 (dk_at dksX8_isSmall_0 18 rfl rfl)
theorem dX8_isSmall_21 : decode cX8_isSmall 21 = .ok (.imul, 1) := dk_104 (dk_at dksX8_isSmall_0 21 rfl rfl)
theorem dX8_isSmall_22 : decode cX8_isSmall 22 = .ok (.bipush 6, 2) := dk_16 6 (dk_at dksX8_isSmall_0 22 rfl rfl)
theorem dX8_isSmall_24 : decode cX8_isSmall 24 = .ok (.if_icmp .gt 7, 3) := dk_163 0 7 (dk_at dksX8_isSmall_1 0 rfl rfl)
theorem dX8_isSmall_27 : decode cX8_isSmall 27 = .ok (.iconst 1, 1) := dk_4 (dk_at dksX8_isSmall_1 3 rfl rfl)
theorem dX8_isSmall_28 : decode cX8_isSmall 28 = .ok (.goto 4, 3) := dk_167 0 4 (dk_at dksX8_isSmall_1 4 rfl rfl)
theorem dX8_isSmall_31 : decode cX8_isSmall 31 = .ok (.iconst 0, 1) := dk_3 (dk_at dksX8_isSmall_1 7 rfl rfl)
theorem dX8_isSmall_32 : decode cX8_isSmall 32 = .ok (.ireturn, 1) := dk_172 (dk_at dksX8_isSmall_1 8 rfl rfl)
abbrev cX8_whole : ByteArray := prog_24_method_63_code
def yX8_whole : MethodName := ⟨RX8, "whole", "(I)J"⟩
def dkwX8_whole_3 : List UInt8 := [112, 4, 160, 0, 11, 42, 180, 0, 235, 117, 167, 0, 7, 42, 180, 0, 235, 173]
abbrev dktX8_whole_3 : List UInt8 := dkwX8_whole_3 ++ []
def dkwX8_whole_2 : List UInt8 := [180, 0, 239, 42, 180, 0, 19, 42, 180, 0, 23, 104, 162, 0, 7, 9, 167, 0, 25, 42, 180, 0, 226, 5]
abbrev dktX8_whole_2 : List UInt8 := dkwX8_whole_2 ++ dktX8_whole_3
def dkwX8_whole_1 : List UInt8 := [184, 0, 140, 173, 42, 42, 180, 0, 29, 27, 46, 3, 42, 180, 0, 32, 27, 46, 3, 182, 0, 255, 42]
abbrev dktX8_whole_1 : List UInt8 := dkwX8_whole_1 ++ dktX8_whole_2
def dkwX8_whole_0 : List UInt8 := [42, 27, 182, 0, 203, 154, 0, 8, 2, 184, 0, 140, 173, 42, 27, 182, 1, 41, 154, 0, 9, 16, 252]
abbrev dktX8_whole_0 : List UInt8 := dkwX8_whole_0 ++ dktX8_whole_1
theorem dksX8_whole_0 : cX8_whole.data.toList.drop 0 = dktX8_whole_0 := by decide +kernel
theorem dksX8_whole_1 : cX8_whole.data.toList.drop 23 = dktX8_whole_1 := dk_seg dksX8_whole_0 23 rfl rfl
theorem dksX8_whole_2 : cX8_whole.data.toList.drop 46 = dktX8_whole_2 := dk_seg dksX8_whole_1 23 rfl rfl
theorem dksX8_whole_3 : cX8_whole.data.toList.drop 70 = dktX8_whole_3 := dk_seg dksX8_whole_2 24 rfl rfl
theorem dX8_whole_0 : decode cX8_whole 0 = .ok (.aload_n 0, 1) := dk_42 (dk_at dksX8_whole_0 0 rfl rfl)
theorem dX8_whole_1 : decode cX8_whole 1 = .ok (.iload_n 1, 1) := dk_27 (dk_at dksX8_whole_0 1 rfl rfl)
theorem dX8_whole_2 : decode cX8_whole 2 = .ok (.invokevirtual 203, 3) := dk_182 0 203 (dk_at dksX8_whole_0 2 rfl rfl)
theorem dX8_whole_5 : decode cX8_whole 5 = .ok (.ifCond .ne 8, 3) := dk_154 0 8 (dk_at dksX8_whole_0 5 rfl rfl)
theorem dX8_whole_8 : decode cX8_whole 8 = .ok (.iconst (-1), 1) := dk_2 (dk_at dksX8_whole_0 8 rfl rfl)
theorem dX8_whole_9 : decode cX8_whole 9 = .ok (.invokestatic 140, 3) := dk_184 0 140 (dk_at dksX8_whole_0 9 rfl rfl)
theorem dX8_whole_12 : decode cX8_whole 12 = .ok (.lreturn, 1) := dk_173 (dk_at dksX8_whole_0 12 rfl rfl)
theorem dX8_whole_13 : decode cX8_whole 13 = .ok (.aload_n 0, 1) := dk_42 (dk_at dksX8_whole_0 13 rfl rfl)
theorem dX8_whole_14 : decode cX8_whole 14 = .ok (.iload_n 1, 1) := dk_27 (dk_at dksX8_whole_0 14 rfl rfl)
theorem dX8_whole_15 : decode cX8_whole 15 = .ok (.invokevirtual 297, 3) := dk_182 1 41 (dk_at dksX8_whole_0 15 rfl rfl)
theorem dX8_whole_18 : decode cX8_whole 18 = .ok (.ifCond .ne 9, 3) := dk_154 0 9 (dk_at dksX8_whole_0 18 rfl rfl)
theorem dX8_whole_21 : decode cX8_whole 21 = .ok (.bipush (-4), 2) := dk_16 252 (dk_at dksX8_whole_0 21 rfl rfl)
theorem dX8_whole_23 : decode cX8_whole 23 = .ok (.invokestatic 140, 3) := dk_184 0 140 (dk_at dksX8_whole_1 0 rfl rfl)
theorem dX8_whole_26 : decode cX8_whole 26 = .ok (.lreturn, 1) := dk_173 (dk_at dksX8_whole_1 3 rfl rfl)
theorem dX8_whole_27 : decode cX8_whole 27 = .ok (.aload_n 0, 1) := dk_42 (dk_at dksX8_whole_1 4 rfl rfl)
theorem dX8_whole_28 : decode cX8_whole 28 = .ok (.aload_n 0, 1) := dk_42 (dk_at dksX8_whole_1 5 rfl rfl)
theorem dX8_whole_29 : decode cX8_whole 29 = .ok (.getfield 29, 3) := dk_180 0 29 (dk_at dksX8_whole_1 6 rfl rfl)
theorem dX8_whole_32 : decode cX8_whole 32 = .ok (.iload_n 1, 1) := dk_27 (dk_at dksX8_whole_1 9 rfl rfl)
theorem dX8_whole_33 : decode cX8_whole 33 = .ok (.iaload, 1) := dk_46 (dk_at dksX8_whole_1 10 rfl rfl)
theorem dX8_whole_34 : decode cX8_whole 34 = .ok (.iconst 0, 1) := dk_3 (dk_at dksX8_whole_1 11 rfl rfl)
theorem dX8_whole_35 : decode cX8_whole 35 = .ok (.aload_n 0, 1) := dk_42 (dk_at dksX8_whole_1 12 rfl rfl)
theorem dX8_whole_36 : decode cX8_whole 36 = .ok (.getfield 32, 3) := dk_180 0 32 (dk_at dksX8_whole_1 13 rfl rfl)
theorem dX8_whole_39 : decode cX8_whole 39 = .ok (.iload_n 1, 1) := dk_27 (dk_at dksX8_whole_1 16 rfl rfl)
theorem dX8_whole_40 : decode cX8_whole 40 = .ok (.iaload, 1) := dk_46 (dk_at dksX8_whole_1 17 rfl rfl)
theorem dX8_whole_41 : decode cX8_whole 41 = .ok (.iconst 0, 1) := dk_3 (dk_at dksX8_whole_1 18 rfl rfl)
theorem dX8_whole_42 : decode cX8_whole 42 = .ok (.invokevirtual 255, 3) := dk_182 0 255 (dk_at dksX8_whole_1 19 rfl rfl)
theorem dX8_whole_45 : decode cX8_whole 45 = .ok (.aload_n 0, 1) := dk_42 (dk_at dksX8_whole_1 22 rfl rfl)
theorem dX8_whole_46 : decode cX8_whole 46 = .ok (.getfield 239, 3) := dk_180 0 239 (dk_at dksX8_whole_2 0 rfl rfl)
theorem dX8_whole_49 : decode cX8_whole 49 = .ok (.aload_n 0, 1) := dk_42 (dk_at dksX8_whole_2 3 rfl rfl)
theorem dX8_whole_50 : decode cX8_whole 50 = .ok (.getfield 19, 3) := dk_180 0 19 (dk_at dksX8_whole_2 4 rfl rfl)
theorem dX8_whole_53 : decode cX8_whole 53 = .ok (.aload_n 0, 1) := dk_42 (dk_at dksX8_whole_2 7 rfl rfl)
theorem dX8_whole_54 : decode cX8_whole 54 = .ok (.getfield 23, 3) := dk_180 0 23 (dk_at dksX8_whole_2 8 rfl rfl)
theorem dX8_whole_57 : decode cX8_whole 57 = .ok (.imul, 1) := dk_104 (dk_at dksX8_whole_2 11 rfl rfl)
theorem dX8_whole_58 : decode cX8_whole 58 = .ok (.if_icmp .ge 7, 3) := dk_162 0 7 (dk_at dksX8_whole_2 12 rfl rfl)
theorem dX8_whole_61 : decode cX8_whole 61 = .ok (.lconst 0, 1) := dk_9 (dk_at dksX8_whole_2 15 rfl rfl)
theorem dX8_whole_62 : decode cX8_whole 62 = .ok (.goto 25, 3) := dk_167 0 25 (dk_at dksX8_whole_2 16 rfl rfl)
theorem dX8_whole_65 : decode cX8_whole 65 = .ok (.aload_n 0, 1) := dk_42 (dk_at dksX8_whole_2 19 rfl rfl)
theorem dX8_whole_66 : decode cX8_whole 66 = .ok (.getfield 226, 3) := dk_180 0 226 (dk_at dksX8_whole_2 20 rfl rfl)
theorem dX8_whole_69 : decode cX8_whole 69 = .ok (.iconst 2, 1) := dk_5 (dk_at dksX8_whole_2 23 rfl rfl)
theorem dX8_whole_70 : decode cX8_whole 70 = .ok (.irem, 1) := dk_112 (dk_at dksX8_whole_3 0 rfl rfl)
theorem dX8_whole_71 : decode cX8_whole 71 = .ok (.iconst 1, 1) := dk_4 (dk_at dksX8_whole_3 1 rfl rfl)
theorem dX8_whole_72 : decode cX8_whole 72 = .ok (.if_icmp .ne 11, 3) := dk_160 0 11 (dk_at dksX8_whole_3 2 rfl rfl)
theorem dX8_whole_75 : decode cX8_whole 75 = .ok (.aload_n 0, 1) := dk_42 (dk_at dksX8_whole_3 5 rfl rfl)
theorem dX8_whole_76 : decode cX8_whole 76 = .ok (.getfield 235, 3) := dk_180 0 235 (dk_at dksX8_whole_3 6 rfl rfl)
theorem dX8_whole_79 : decode cX8_whole 79 = .ok (.lneg, 1) := dk_117 (dk_at dksX8_whole_3 9 rfl rfl)
theorem dX8_whole_80 : decode cX8_whole 80 = .ok (.goto 7, 3) := dk_167 0 7 (dk_at dksX8_whole_3 10 rfl rfl)
theorem dX8_whole_83 : decode cX8_whole 83 = .ok (.aload_n 0, 1) := dk_42 (dk_at dksX8_whole_3 13 rfl rfl)
theorem dX8_whole_84 : decode cX8_whole 84 = .ok (.getfield 235, 3) := dk_180 0 235 (dk_at dksX8_whole_3 14 rfl rfl)
theorem dX8_whole_87 : decode cX8_whole 87 = .ok (.lreturn, 1) := dk_173 (dk_at dksX8_whole_3 17 rfl rfl)
abbrev cX8_lower : ByteArray := prog_24_method_65_code
def yX8_lower : MethodName := ⟨RX8, "lower", "(II)I"⟩
def dkwX8_lower_3 : List UInt8 := [42, 182, 1, 14, 153, 0, 7, 4, 167, 0, 4, 3, 172]
abbrev dktX8_lower_3 : List UInt8 := dkwX8_lower_3 ++ []
def dkwX8_lower_2 : List UInt8 := [154, 0, 6, 16, 252, 172, 42, 42, 180, 0, 29, 27, 46, 3, 42, 180, 0, 32, 27, 46, 28, 182, 0, 255]
abbrev dktX8_lower_2 : List UInt8 := dkwX8_lower_2 ++ dktX8_lower_3
def dkwX8_lower_1 : List UInt8 := [180, 0, 19, 162, 0, 24, 42, 28, 182, 1, 44, 153, 0, 16, 42, 42, 180, 0, 29, 27, 46, 182, 0, 209]
abbrev dktX8_lower_1 : List UInt8 := dkwX8_lower_1 ++ dktX8_lower_2
def dkwX8_lower_0 : List UInt8 := [42, 27, 182, 0, 203, 153, 0, 15, 28, 133, 10, 20, 0, 97, 184, 0, 99, 154, 0, 5, 2, 172, 28, 42]
abbrev dktX8_lower_0 : List UInt8 := dkwX8_lower_0 ++ dktX8_lower_1
theorem dksX8_lower_0 : cX8_lower.data.toList.drop 0 = dktX8_lower_0 := by decide +kernel
theorem dksX8_lower_1 : cX8_lower.data.toList.drop 24 = dktX8_lower_1 := dk_seg dksX8_lower_0 24 rfl rfl
theorem dksX8_lower_2 : cX8_lower.data.toList.drop 48 = dktX8_lower_2 := dk_seg dksX8_lower_1 24 rfl rfl
theorem dksX8_lower_3 : cX8_lower.data.toList.drop 72 = dktX8_lower_3 := dk_seg dksX8_lower_2 24 rfl rfl
theorem dX8_lower_0 : decode cX8_lower 0 = .ok (.aload_n 0, 1) := dk_42 (dk_at dksX8_lower_0 0 rfl rfl)
theorem dX8_lower_1 : decode cX8_lower 1 = .ok (.iload_n 1, 1) := dk_27 (dk_at dksX8_lower_0 1 rfl rfl)
theorem dX8_lower_2 : decode cX8_lower 2 = .ok (.invokevirtual 203, 3) := dk_182 0 203 (dk_at dksX8_lower_0 2 rfl rfl)
theorem dX8_lower_5 : decode cX8_lower 5 = .ok (.ifCond .eq 15, 3) := dk_153 0 15 (dk_at dksX8_lower_0 5 rfl rfl)
theorem dX8_lower_8 : decode cX8_lower 8 = .ok (.iload_n 2, 1) := dk_28 (dk_at dksX8_lower_0 8 rfl rfl)
theorem dX8_lower_9 : decode cX8_lower 9 = .ok (.i2l, 1) := dk_133 (dk_at dksX8_lower_0 9 rfl rfl)
theorem dX8_lower_10 : decode cX8_lower 10 = .ok (.lconst 1, 1) := dk_10 (dk_at dksX8_lower_0 10 rfl rfl)
theorem dX8_lower_11 : decode cX8_lower 11 = .ok (.ldc2_w 97, 3) := dk_20 0 97 (dk_at dksX8_lower_0 11 rfl rfl)
theorem dX8_lower_14 : decode cX8_lower 14 = .ok (.invokestatic 99, 3) := dk_184 0 99 (dk_at dksX8_lower_0 14 rfl rfl)
theorem dX8_lower_17 : decode cX8_lower 17 = .ok (.ifCond .ne 5, 3) := dk_154 0 5 (dk_at dksX8_lower_0 17 rfl rfl)
theorem dX8_lower_20 : decode cX8_lower 20 = .ok (.iconst (-1), 1) := dk_2 (dk_at dksX8_lower_0 20 rfl rfl)
theorem dX8_lower_21 : decode cX8_lower 21 = .ok (.ireturn, 1) := dk_172 (dk_at dksX8_lower_0 21 rfl rfl)
theorem dX8_lower_22 : decode cX8_lower 22 = .ok (.iload_n 2, 1) := dk_28 (dk_at dksX8_lower_0 22 rfl rfl)
theorem dX8_lower_23 : decode cX8_lower 23 = .ok (.aload_n 0, 1) := dk_42 (dk_at dksX8_lower_0 23 rfl rfl)
theorem dX8_lower_24 : decode cX8_lower 24 = .ok (.getfield 19, 3) := dk_180 0 19 (dk_at dksX8_lower_1 0 rfl rfl)
theorem dX8_lower_27 : decode cX8_lower 27 = .ok (.if_icmp .ge 24, 3) := dk_162 0 24 (dk_at dksX8_lower_1 3 rfl rfl)
theorem dX8_lower_30 : decode cX8_lower 30 = .ok (.aload_n 0, 1) := dk_42 (dk_at dksX8_lower_1 6 rfl rfl)
theorem dX8_lower_31 : decode cX8_lower 31 = .ok (.iload_n 2, 1) := dk_28 (dk_at dksX8_lower_1 7 rfl rfl)
theorem dX8_lower_32 : decode cX8_lower 32 = .ok (.invokevirtual 300, 3) := dk_182 1 44 (dk_at dksX8_lower_1 8 rfl rfl)
theorem dX8_lower_35 : decode cX8_lower 35 = .ok (.ifCond .eq 16, 3) := dk_153 0 16 (dk_at dksX8_lower_1 11 rfl rfl)
theorem dX8_lower_38 : decode cX8_lower 38 = .ok (.aload_n 0, 1) := dk_42 (dk_at dksX8_lower_1 14 rfl rfl)
theorem dX8_lower_39 : decode cX8_lower 39 = .ok (.aload_n 0, 1) := dk_42 (dk_at dksX8_lower_1 15 rfl rfl)
theorem dX8_lower_40 : decode cX8_lower 40 = .ok (.getfield 29, 3) := dk_180 0 29 (dk_at dksX8_lower_1 16 rfl rfl)
theorem dX8_lower_43 : decode cX8_lower 43 = .ok (.iload_n 1, 1) := dk_27 (dk_at dksX8_lower_1 19 rfl rfl)
theorem dX8_lower_44 : decode cX8_lower 44 = .ok (.iaload, 1) := dk_46 (dk_at dksX8_lower_1 20 rfl rfl)
theorem dX8_lower_45 : decode cX8_lower 45 = .ok (.invokevirtual 209, 3) := dk_182 0 209 (dk_at dksX8_lower_1 21 rfl rfl)
theorem dX8_lower_48 : decode cX8_lower 48 = .ok (.ifCond .ne 6, 3) := dk_154 0 6 (dk_at dksX8_lower_2 0 rfl rfl)
theorem dX8_lower_51 : decode cX8_lower 51 = .ok (.bipush (-4), 2) := dk_16 252 (dk_at dksX8_lower_2 3 rfl rfl)
theorem dX8_lower_53 : decode cX8_lower 53 = .ok (.ireturn, 1) := dk_172 (dk_at dksX8_lower_2 5 rfl rfl)
theorem dX8_lower_54 : decode cX8_lower 54 = .ok (.aload_n 0, 1) := dk_42 (dk_at dksX8_lower_2 6 rfl rfl)
theorem dX8_lower_55 : decode cX8_lower 55 = .ok (.aload_n 0, 1) := dk_42 (dk_at dksX8_lower_2 7 rfl rfl)
theorem dX8_lower_56 : decode cX8_lower 56 = .ok (.getfield 29, 3) := dk_180 0 29 (dk_at dksX8_lower_2 8 rfl rfl)
theorem dX8_lower_59 : decode cX8_lower 59 = .ok (.iload_n 1, 1) := dk_27 (dk_at dksX8_lower_2 11 rfl rfl)
theorem dX8_lower_60 : decode cX8_lower 60 = .ok (.iaload, 1) := dk_46 (dk_at dksX8_lower_2 12 rfl rfl)
theorem dX8_lower_61 : decode cX8_lower 61 = .ok (.iconst 0, 1) := dk_3 (dk_at dksX8_lower_2 13 rfl rfl)
theorem dX8_lower_62 : decode cX8_lower 62 = .ok (.aload_n 0, 1) := dk_42 (dk_at dksX8_lower_2 14 rfl rfl)
theorem dX8_lower_63 : decode cX8_lower 63 = .ok (.getfield 32, 3) := dk_180 0 32 (dk_at dksX8_lower_2 15 rfl rfl)
theorem dX8_lower_66 : decode cX8_lower 66 = .ok (.iload_n 1, 1) := dk_27 (dk_at dksX8_lower_2 18 rfl rfl)
theorem dX8_lower_67 : decode cX8_lower 67 = .ok (.iaload, 1) := dk_46 (dk_at dksX8_lower_2 19 rfl rfl)
theorem dX8_lower_68 : decode cX8_lower 68 = .ok (.iload_n 2, 1) := dk_28 (dk_at dksX8_lower_2 20 rfl rfl)
theorem dX8_lower_69 : decode cX8_lower 69 = .ok (.invokevirtual 255, 3) := dk_182 0 255 (dk_at dksX8_lower_2 21 rfl rfl)
theorem dX8_lower_72 : decode cX8_lower 72 = .ok (.aload_n 0, 1) := dk_42 (dk_at dksX8_lower_3 0 rfl rfl)
theorem dX8_lower_73 : decode cX8_lower 73 = .ok (.invokevirtual 270, 3) := dk_182 1 14 (dk_at dksX8_lower_3 1 rfl rfl)
theorem dX8_lower_76 : decode cX8_lower 76 = .ok (.ifCond .eq 7, 3) := dk_153 0 7 (dk_at dksX8_lower_3 4 rfl rfl)
theorem dX8_lower_79 : decode cX8_lower 79 = .ok (.iconst 1, 1) := dk_4 (dk_at dksX8_lower_3 7 rfl rfl)
theorem dX8_lower_80 : decode cX8_lower 80 = .ok (.goto 4, 3) := dk_167 0 4 (dk_at dksX8_lower_3 8 rfl rfl)
theorem dX8_lower_83 : decode cX8_lower 83 = .ok (.iconst 0, 1) := dk_3 (dk_at dksX8_lower_3 11 rfl rfl)
theorem dX8_lower_84 : decode cX8_lower 84 = .ok (.ireturn, 1) := dk_172 (dk_at dksX8_lower_3 12 rfl rfl)
abbrev cX8_splits : ByteArray := prog_24_method_64_code
def yX8_splits : MethodName := ⟨RX8, "splits", "(I)Z"⟩
def dkwX8_splits_1 : List UInt8 := [153, 0, 5, 3, 172, 132, 3, 1, 167, 255, 236, 132, 2, 1, 167, 255, 220, 4, 172]
abbrev dktX8_splits_1 : List UInt8 := dkwX8_splits_1 ++ []
def dkwX8_splits_0 : List UInt8 := [27, 61, 28, 42, 180, 0, 19, 162, 0, 34, 3, 62, 29, 27, 162, 0, 21, 42, 3, 28, 29, 182, 0, 128]
abbrev dktX8_splits_0 : List UInt8 := dkwX8_splits_0 ++ dktX8_splits_1
theorem dksX8_splits_0 : cX8_splits.data.toList.drop 0 = dktX8_splits_0 := by decide +kernel
theorem dksX8_splits_1 : cX8_splits.data.toList.drop 24 = dktX8_splits_1 := dk_seg dksX8_splits_0 24 rfl rfl
theorem dX8_splits_0 : decode cX8_splits 0 = .ok (.iload_n 1, 1) := dk_27 (dk_at dksX8_splits_0 0 rfl rfl)
theorem dX8_splits_1 : decode cX8_splits 1 = .ok (.istore_n 2, 1) := dk_61 (dk_at dksX8_splits_0 1 rfl rfl)
theorem dX8_splits_2 : decode cX8_splits 2 = .ok (.iload_n 2, 1) := dk_28 (dk_at dksX8_splits_0 2 rfl rfl)
theorem dX8_splits_3 : decode cX8_splits 3 = .ok (.aload_n 0, 1) := dk_42 (dk_at dksX8_splits_0 3 rfl rfl)
theorem dX8_splits_4 : decode cX8_splits 4 = .ok (.getfield 19, 3) := dk_180 0 19 (dk_at dksX8_splits_0 4 rfl rfl)
theorem dX8_splits_7 : decode cX8_splits 7 = .ok (.if_icmp .ge 34, 3) := dk_162 0 34 (dk_at dksX8_splits_0 7 rfl rfl)
theorem dX8_splits_10 : decode cX8_splits 10 = .ok (.iconst 0, 1) := dk_3 (dk_at dksX8_splits_0 10 rfl rfl)
theorem dX8_splits_11 : decode cX8_splits 11 = .ok (.istore_n 3, 1) := dk_62 (dk_at dksX8_splits_0 11 rfl rfl)
theorem dX8_splits_12 : decode cX8_splits 12 = .ok (.iload_n 3, 1) := dk_29 (dk_at dksX8_splits_0 12 rfl rfl)
theorem dX8_splits_13 : decode cX8_splits 13 = .ok (.iload_n 1, 1) := dk_27 (dk_at dksX8_splits_0 13 rfl rfl)
theorem dX8_splits_14 : decode cX8_splits 14 = .ok (.if_icmp .ge 21, 3) := dk_162 0 21 (dk_at dksX8_splits_0 14 rfl rfl)
theorem dX8_splits_17 : decode cX8_splits 17 = .ok (.aload_n 0, 1) := dk_42 (dk_at dksX8_splits_0 17 rfl rfl)
theorem dX8_splits_18 : decode cX8_splits 18 = .ok (.iconst 0, 1) := dk_3 (dk_at dksX8_splits_0 18 rfl rfl)
theorem dX8_splits_19 : decode cX8_splits 19 = .ok (.iload_n 2, 1) := dk_28 (dk_at dksX8_splits_0 19 rfl rfl)
theorem dX8_splits_20 : decode cX8_splits 20 = .ok (.iload_n 3, 1) := dk_29 (dk_at dksX8_splits_0 20 rfl rfl)
theorem dX8_splits_21 : decode cX8_splits 21 = .ok (.invokevirtual 128, 3) := dk_182 0 128 (dk_at dksX8_splits_0 21 rfl rfl)
theorem dX8_splits_24 : decode cX8_splits 24 = .ok (.ifCond .eq 5, 3) := dk_153 0 5 (dk_at dksX8_splits_1 0 rfl rfl)
theorem dX8_splits_27 : decode cX8_splits 27 = .ok (.iconst 0, 1) := dk_3 (dk_at dksX8_splits_1 3 rfl rfl)
theorem dX8_splits_28 : decode cX8_splits 28 = .ok (.ireturn, 1) := dk_172 (dk_at dksX8_splits_1 4 rfl rfl)
theorem dX8_splits_29 : decode cX8_splits 29 = .ok (.iinc 3 1, 3) := dk_132 3 1 (dk_at dksX8_splits_1 5 rfl rfl)
theorem dX8_splits_32 : decode cX8_splits 32 = .ok (.goto (-20), 3) := dk_167 255 236 (dk_at dksX8_splits_1 8 rfl rfl)
theorem dX8_splits_35 : decode cX8_splits 35 = .ok (.iinc 2 1, 3) := dk_132 2 1 (dk_at dksX8_splits_1 11 rfl rfl)
theorem dX8_splits_38 : decode cX8_splits 38 = .ok (.goto (-36), 3) := dk_167 255 220 (dk_at dksX8_splits_1 14 rfl rfl)
theorem dX8_splits_41 : decode cX8_splits 41 = .ok (.iconst 1, 1) := dk_4 (dk_at dksX8_splits_1 17 rfl rfl)
theorem dX8_splits_42 : decode cX8_splits 42 = .ok (.ireturn, 1) := dk_172 (dk_at dksX8_splits_1 18 rfl rfl)
abbrev cX8_swapped : ByteArray := prog_24_method_66_code
def yX8_swapped : MethodName := ⟨RX8, "swapped", "()I"⟩
def dkwX8_swapped_1 : List UInt8 := [154, 0, 7, 4, 167, 0, 4, 3, 172]
abbrev dktX8_swapped_1 : List UInt8 := dkwX8_swapped_1 ++ []
def dkwX8_swapped_0 : List UInt8 := [42, 180, 0, 19, 42, 180, 0, 23, 159, 0, 8, 16, 252, 167, 0, 18, 42, 5, 182, 0, 143, 9, 148]
abbrev dktX8_swapped_0 : List UInt8 := dkwX8_swapped_0 ++ dktX8_swapped_1
theorem dksX8_swapped_0 : cX8_swapped.data.toList.drop 0 = dktX8_swapped_0 := by decide +kernel
theorem dksX8_swapped_1 : cX8_swapped.data.toList.drop 23 = dktX8_swapped_1 := dk_seg dksX8_swapped_0 23 rfl rfl
theorem dX8_swapped_0 : decode cX8_swapped 0 = .ok (.aload_n 0, 1) := dk_42 (dk_at dksX8_swapped_0 0 rfl rfl)
theorem dX8_swapped_1 : decode cX8_swapped 1 = .ok (.getfield 19, 3) := dk_180 0 19 (dk_at dksX8_swapped_0 1 rfl rfl)
theorem dX8_swapped_4 : decode cX8_swapped 4 = .ok (.aload_n 0, 1) := dk_42 (dk_at dksX8_swapped_0 4 rfl rfl)
theorem dX8_swapped_5 : decode cX8_swapped 5 = .ok (.getfield 23, 3) := dk_180 0 23 (dk_at dksX8_swapped_0 5 rfl rfl)
theorem dX8_swapped_8 : decode cX8_swapped 8 = .ok (.if_icmp .eq 8, 3) := dk_159 0 8 (dk_at dksX8_swapped_0 8 rfl rfl)
theorem dX8_swapped_11 : decode cX8_swapped 11 = .ok (.bipush (-4), 2) := dk_16 252 (dk_at dksX8_swapped_0 11 rfl rfl)
theorem dX8_swapped_13 : decode cX8_swapped 13 = .ok (.goto 18, 3) := dk_167 0 18 (dk_at dksX8_swapped_0 13 rfl rfl)
theorem dX8_swapped_16 : decode cX8_swapped 16 = .ok (.aload_n 0, 1) := dk_42 (dk_at dksX8_swapped_0 16 rfl rfl)
theorem dX8_swapped_17 : decode cX8_swapped 17 = .ok (.iconst 2, 1) := dk_5 (dk_at dksX8_swapped_0 17 rfl rfl)
theorem dX8_swapped_18 : decode cX8_swapped 18 = .ok (.invokevirtual 143, 3) := dk_182 0 143 (dk_at dksX8_swapped_0 18 rfl rfl)
theorem dX8_swapped_21 : decode cX8_swapped 21 = .ok (.lconst 0, 1) := dk_9 (dk_at dksX8_swapped_0 21 rfl rfl)
theorem dX8_swapped_22 : decode cX8_swapped 22 = .ok (.lcmp, 1) := dk_148 (dk_at dksX8_swapped_0 22 rfl rfl)
theorem dX8_swapped_23 : decode cX8_swapped 23 = .ok (.ifCond .ne 7, 3) := dk_154 0 7 (dk_at dksX8_swapped_1 0 rfl rfl)
theorem dX8_swapped_26 : decode cX8_swapped 26 = .ok (.iconst 1, 1) := dk_4 (dk_at dksX8_swapped_1 3 rfl rfl)
theorem dX8_swapped_27 : decode cX8_swapped 27 = .ok (.goto 4, 3) := dk_167 0 4 (dk_at dksX8_swapped_1 4 rfl rfl)
theorem dX8_swapped_30 : decode cX8_swapped 30 = .ok (.iconst 0, 1) := dk_3 (dk_at dksX8_swapped_1 7 rfl rfl)
theorem dX8_swapped_31 : decode cX8_swapped 31 = .ok (.ireturn, 1) := dk_172 (dk_at dksX8_swapped_1 8 rfl rfl)
abbrev cX8_stable : ByteArray := prog_24_method_67_code
def yX8_stable : MethodName := ⟨RX8, "stable", "()I"⟩
def dkwX8_stable_5 : List UInt8 := [21, 7, 153, 0, 7, 4, 167, 0, 4, 3, 172]
abbrev dktX8_stable_5 : List UInt8 := dkwX8_stable_5 ++ []
def dkwX8_stable_4 : List UInt8 := [22, 5, 9, 148, 158, 0, 16, 31, 33, 105, 22, 5, 148, 158, 0, 7, 4, 167, 0, 4, 3, 54, 7]
abbrev dktX8_stable_4 : List UInt8 := dkwX8_stable_4 ++ dktX8_stable_5
def dkwX8_stable_3 : List UInt8 := [158, 0, 13, 33, 9, 148, 158, 0, 7, 4, 167, 0, 34, 3, 167, 0, 30, 31, 9, 148, 158, 0, 23]
abbrev dktX8_stable_3 : List UInt8 := dkwX8_stable_3 ++ dktX8_stable_4
def dkwX8_stable_2 : List UInt8 := [148, 158, 0, 7, 4, 167, 0, 62, 3, 167, 0, 58, 42, 180, 0, 19, 5, 160, 0, 23, 31, 9, 148]
abbrev dktX8_stable_2 : List UInt8 := dkwX8_stable_2 ++ dktX8_stable_3
def dkwX8_stable_1 : List UInt8 := [182, 0, 136, 167, 0, 9, 42, 3, 182, 0, 136, 117, 55, 5, 42, 180, 0, 19, 4, 160, 0, 17, 31, 9]
abbrev dktX8_stable_1 : List UInt8 := dkwX8_stable_1 ++ dktX8_stable_2
def dkwX8_stable_0 : List UInt8 := [42, 3, 182, 0, 143, 117, 64, 42, 3, 182, 0, 146, 66, 42, 180, 0, 19, 5, 112, 154, 0, 11, 42, 3]
abbrev dktX8_stable_0 : List UInt8 := dkwX8_stable_0 ++ dktX8_stable_1
theorem dksX8_stable_0 : cX8_stable.data.toList.drop 0 = dktX8_stable_0 := by decide +kernel
theorem dksX8_stable_1 : cX8_stable.data.toList.drop 24 = dktX8_stable_1 := dk_seg dksX8_stable_0 24 rfl rfl
theorem dksX8_stable_2 : cX8_stable.data.toList.drop 48 = dktX8_stable_2 := dk_seg dksX8_stable_1 24 rfl rfl
theorem dksX8_stable_3 : cX8_stable.data.toList.drop 71 = dktX8_stable_3 := dk_seg dksX8_stable_2 23 rfl rfl
theorem dksX8_stable_4 : cX8_stable.data.toList.drop 94 = dktX8_stable_4 := dk_seg dksX8_stable_3 23 rfl rfl
theorem dksX8_stable_5 : cX8_stable.data.toList.drop 117 = dktX8_stable_5 := dk_seg dksX8_stable_4 23 rfl rfl
theorem dX8_stable_0 : decode cX8_stable 0 = .ok (.aload_n 0, 1) := dk_42 (dk_at dksX8_stable_0 0 rfl rfl)
theorem dX8_stable_1 : decode cX8_stable 1 = .ok (.iconst 0, 1) := dk_3 (dk_at dksX8_stable_0 1 rfl rfl)
theorem dX8_stable_2 : decode cX8_stable 2 = .ok (.invokevirtual 143, 3) := dk_182 0 143 (dk_at dksX8_stable_0 2 rfl rfl)
theorem dX8_stable_5 : decode cX8_stable 5 = .ok (.lneg, 1) := dk_117 (dk_at dksX8_stable_0 5 rfl rfl)
theorem dX8_stable_6 : decode cX8_stable 6 = .ok (.lstore_n 1, 1) := dk_64 (dk_at dksX8_stable_0 6 rfl rfl)
theorem dX8_stable_7 : decode cX8_stable 7 = .ok (.aload_n 0, 1) := dk_42 (dk_at dksX8_stable_0 7 rfl rfl)
theorem dX8_stable_8 : decode cX8_stable 8 = .ok (.iconst 0, 1) := dk_3 (dk_at dksX8_stable_0 8 rfl rfl)
theorem dX8_stable_9 : decode cX8_stable 9 = .ok (.invokevirtual 146, 3) := dk_182 0 146 (dk_at dksX8_stable_0 9 rfl rfl)
theorem dX8_stable_12 : decode cX8_stable 12 = .ok (.lstore_n 3, 1) := dk_66 (dk_at dksX8_stable_0 12 rfl rfl)
theorem dX8_stable_13 : decode cX8_stable 13 = .ok (.aload_n 0, 1) := dk_42 (dk_at dksX8_stable_0 13 rfl rfl)
theorem dX8_stable_14 : decode cX8_stable 14 = .ok (.getfield 19, 3) := dk_180 0 19 (dk_at dksX8_stable_0 14 rfl rfl)
theorem dX8_stable_17 : decode cX8_stable 17 = .ok (.iconst 2, 1) := dk_5 (dk_at dksX8_stable_0 17 rfl rfl)
theorem dX8_stable_18 : decode cX8_stable 18 = .ok (.irem, 1) := dk_112 (dk_at dksX8_stable_0 18 rfl rfl)
theorem dX8_stable_19 : decode cX8_stable 19 = .ok (.ifCond .ne 11, 3) := dk_154 0 11 (dk_at dksX8_stable_0 19 rfl rfl)
theorem dX8_stable_22 : decode cX8_stable 22 = .ok (.aload_n 0, 1) := dk_42 (dk_at dksX8_stable_0 22 rfl rfl)
theorem dX8_stable_23 : decode cX8_stable 23 = .ok (.iconst 0, 1) := dk_3 (dk_at dksX8_stable_0 23 rfl rfl)
theorem dX8_stable_24 : decode cX8_stable 24 = .ok (.invokevirtual 136, 3) := dk_182 0 136 (dk_at dksX8_stable_1 0 rfl rfl)
theorem dX8_stable_27 : decode cX8_stable 27 = .ok (.goto 9, 3) := dk_167 0 9 (dk_at dksX8_stable_1 3 rfl rfl)
theorem dX8_stable_30 : decode cX8_stable 30 = .ok (.aload_n 0, 1) := dk_42 (dk_at dksX8_stable_1 6 rfl rfl)
theorem dX8_stable_31 : decode cX8_stable 31 = .ok (.iconst 0, 1) := dk_3 (dk_at dksX8_stable_1 7 rfl rfl)
theorem dX8_stable_32 : decode cX8_stable 32 = .ok (.invokevirtual 136, 3) := dk_182 0 136 (dk_at dksX8_stable_1 8 rfl rfl)
theorem dX8_stable_35 : decode cX8_stable 35 = .ok (.lneg, 1) := dk_117 (dk_at dksX8_stable_1 11 rfl rfl)
theorem dX8_stable_36 : decode cX8_stable 36 = .ok (.lstore 5, 2) := dk_55 5 (dk_at dksX8_stable_1 12 rfl rfl)
theorem dX8_stable_38 : decode cX8_stable 38 = .ok (.aload_n 0, 1) := dk_42 (dk_at dksX8_stable_1 14 rfl rfl)
theorem dX8_stable_39 : decode cX8_stable 39 = .ok (.getfield 19, 3) := dk_180 0 19 (dk_at dksX8_stable_1 15 rfl rfl)
theorem dX8_stable_42 : decode cX8_stable 42 = .ok (.iconst 1, 1) := dk_4 (dk_at dksX8_stable_1 18 rfl rfl)
theorem dX8_stable_43 : decode cX8_stable 43 = .ok (.if_icmp .ne 17, 3) := dk_160 0 17 (dk_at dksX8_stable_1 19 rfl rfl)
theorem dX8_stable_46 : decode cX8_stable 46 = .ok (.lload_n 1, 1) := dk_31 (dk_at dksX8_stable_1 22 rfl rfl)
theorem dX8_stable_47 : decode cX8_stable 47 = .ok (.lconst 0, 1) := dk_9 (dk_at dksX8_stable_1 23 rfl rfl)
theorem dX8_stable_48 : decode cX8_stable 48 = .ok (.lcmp, 1) := dk_148 (dk_at dksX8_stable_2 0 rfl rfl)
theorem dX8_stable_49 : decode cX8_stable 49 = .ok (.ifCond .le 7, 3) := dk_158 0 7 (dk_at dksX8_stable_2 1 rfl rfl)
theorem dX8_stable_52 : decode cX8_stable 52 = .ok (.iconst 1, 1) := dk_4 (dk_at dksX8_stable_2 4 rfl rfl)
theorem dX8_stable_53 : decode cX8_stable 53 = .ok (.goto 62, 3) := dk_167 0 62 (dk_at dksX8_stable_2 5 rfl rfl)
theorem dX8_stable_56 : decode cX8_stable 56 = .ok (.iconst 0, 1) := dk_3 (dk_at dksX8_stable_2 8 rfl rfl)
theorem dX8_stable_57 : decode cX8_stable 57 = .ok (.goto 58, 3) := dk_167 0 58 (dk_at dksX8_stable_2 9 rfl rfl)
theorem dX8_stable_60 : decode cX8_stable 60 = .ok (.aload_n 0, 1) := dk_42 (dk_at dksX8_stable_2 12 rfl rfl)
theorem dX8_stable_61 : decode cX8_stable 61 = .ok (.getfield 19, 3) := dk_180 0 19 (dk_at dksX8_stable_2 13 rfl rfl)
theorem dX8_stable_64 : decode cX8_stable 64 = .ok (.iconst 2, 1) := dk_5 (dk_at dksX8_stable_2 16 rfl rfl)
theorem dX8_stable_65 : decode cX8_stable 65 = .ok (.if_icmp .ne 23, 3) := dk_160 0 23 (dk_at dksX8_stable_2 17 rfl rfl)
theorem dX8_stable_68 : decode cX8_stable 68 = .ok (.lload_n 1, 1) := dk_31 (dk_at dksX8_stable_2 20 rfl rfl)
theorem dX8_stable_69 : decode cX8_stable 69 = .ok (.lconst 0, 1) := dk_9 (dk_at dksX8_stable_2 21 rfl rfl)
theorem dX8_stable_70 : decode cX8_stable 70 = .ok (.lcmp, 1) := dk_148 (dk_at dksX8_stable_2 22 rfl rfl)
theorem dX8_stable_71 : decode cX8_stable 71 = .ok (.ifCond .le 13, 3) := dk_158 0 13 (dk_at dksX8_stable_3 0 rfl rfl)
theorem dX8_stable_74 : decode cX8_stable 74 = .ok (.lload_n 3, 1) := dk_33 (dk_at dksX8_stable_3 3 rfl rfl)
theorem dX8_stable_75 : decode cX8_stable 75 = .ok (.lconst 0, 1) := dk_9 (dk_at dksX8_stable_3 4 rfl rfl)
theorem dX8_stable_76 : decode cX8_stable 76 = .ok (.lcmp, 1) := dk_148 (dk_at dksX8_stable_3 5 rfl rfl)
theorem dX8_stable_77 : decode cX8_stable 77 = .ok (.ifCond .le 7, 3) := dk_158 0 7 (dk_at dksX8_stable_3 6 rfl rfl)
theorem dX8_stable_80 : decode cX8_stable 80 = .ok (.iconst 1, 1) := dk_4 (dk_at dksX8_stable_3 9 rfl rfl)
theorem dX8_stable_81 : decode cX8_stable 81 = .ok (.goto 34, 3) := dk_167 0 34 (dk_at dksX8_stable_3 10 rfl rfl)
theorem dX8_stable_84 : decode cX8_stable 84 = .ok (.iconst 0, 1) := dk_3 (dk_at dksX8_stable_3 13 rfl rfl)
theorem dX8_stable_85 : decode cX8_stable 85 = .ok (.goto 30, 3) := dk_167 0 30 (dk_at dksX8_stable_3 14 rfl rfl)
theorem dX8_stable_88 : decode cX8_stable 88 = .ok (.lload_n 1, 1) := dk_31 (dk_at dksX8_stable_3 17 rfl rfl)
theorem dX8_stable_89 : decode cX8_stable 89 = .ok (.lconst 0, 1) := dk_9 (dk_at dksX8_stable_3 18 rfl rfl)
theorem dX8_stable_90 : decode cX8_stable 90 = .ok (.lcmp, 1) := dk_148 (dk_at dksX8_stable_3 19 rfl rfl)
theorem dX8_stable_91 : decode cX8_stable 91 = .ok (.ifCond .le 23, 3) := dk_158 0 23 (dk_at dksX8_stable_3 20 rfl rfl)
theorem dX8_stable_94 : decode cX8_stable 94 = .ok (.lload 5, 2) := dk_22 5 (dk_at dksX8_stable_4 0 rfl rfl)
theorem dX8_stable_96 : decode cX8_stable 96 = .ok (.lconst 0, 1) := dk_9 (dk_at dksX8_stable_4 2 rfl rfl)
theorem dX8_stable_97 : decode cX8_stable 97 = .ok (.lcmp, 1) := dk_148 (dk_at dksX8_stable_4 3 rfl rfl)
theorem dX8_stable_98 : decode cX8_stable 98 = .ok (.ifCond .le 16, 3) := dk_158 0 16 (dk_at dksX8_stable_4 4 rfl rfl)
theorem dX8_stable_101 : decode cX8_stable 101 = .ok (.lload_n 1, 1) := dk_31 (dk_at dksX8_stable_4 7 rfl rfl)
theorem dX8_stable_102 : decode cX8_stable 102 = .ok (.lload_n 3, 1) := dk_33 (dk_at dksX8_stable_4 8 rfl rfl)
theorem dX8_stable_103 : decode cX8_stable 103 = .ok (.lmul, 1) := dk_105 (dk_at dksX8_stable_4 9 rfl rfl)
theorem dX8_stable_104 : decode cX8_stable 104 = .ok (.lload 5, 2) := dk_22 5 (dk_at dksX8_stable_4 10 rfl rfl)
theorem dX8_stable_106 : decode cX8_stable 106 = .ok (.lcmp, 1) := dk_148 (dk_at dksX8_stable_4 12 rfl rfl)
theorem dX8_stable_107 : decode cX8_stable 107 = .ok (.ifCond .le 7, 3) := dk_158 0 7 (dk_at dksX8_stable_4 13 rfl rfl)
theorem dX8_stable_110 : decode cX8_stable 110 = .ok (.iconst 1, 1) := dk_4 (dk_at dksX8_stable_4 16 rfl rfl)
theorem dX8_stable_111 : decode cX8_stable 111 = .ok (.goto 4, 3) := dk_167 0 4 (dk_at dksX8_stable_4 17 rfl rfl)
theorem dX8_stable_114 : decode cX8_stable 114 = .ok (.iconst 0, 1) := dk_3 (dk_at dksX8_stable_4 20 rfl rfl)
theorem dX8_stable_115 : decode cX8_stable 115 = .ok (.istore 7, 2) := dk_54 7 (dk_at dksX8_stable_4 21 rfl rfl)
theorem dX8_stable_117 : decode cX8_stable 117 = .ok (.iload 7, 2) := dk_21 7 (dk_at dksX8_stable_5 0 rfl rfl)
theorem dX8_stable_119 : decode cX8_stable 119 = .ok (.ifCond .eq 7, 3) := dk_153 0 7 (dk_at dksX8_stable_5 2 rfl rfl)
theorem dX8_stable_122 : decode cX8_stable 122 = .ok (.iconst 1, 1) := dk_4 (dk_at dksX8_stable_5 5 rfl rfl)
theorem dX8_stable_123 : decode cX8_stable 123 = .ok (.goto 4, 3) := dk_167 0 4 (dk_at dksX8_stable_5 6 rfl rfl)
theorem dX8_stable_126 : decode cX8_stable 126 = .ok (.iconst 0, 1) := dk_3 (dk_at dksX8_stable_5 9 rfl rfl)
theorem dX8_stable_127 : decode cX8_stable 127 = .ok (.ireturn, 1) := dk_172 (dk_at dksX8_stable_5 10 rfl rfl)
abbrev cX8_lay : ByteArray := prog_24_method_69_code
def yX8_lay : MethodName := ⟨RX8, "lay", "(II)I"⟩
def dkwX8_lay_13 : List UInt8 := [105, 167, 0, 4, 9, 80, 132, 7, 1, 167, 255, 156, 22, 4, 136, 172]
abbrev dktX8_lay_13 : List UInt8 := dkwX8_lay_13 ++ []
def dkwX8_lay_12 : List UInt8 := [180, 0, 23, 108, 21, 7, 42, 180, 0, 23, 112, 2, 182, 1, 22, 42, 180, 0, 235, 4, 184, 1, 26, 109]
abbrev dktX8_lay_12 : List UInt8 := dkwX8_lay_12 ++ dktX8_lay_13
def dkwX8_lay_11 : List UInt8 := [180, 0, 23, 112, 2, 182, 1, 22, 42, 180, 0, 235, 3, 184, 1, 26, 22, 4, 42, 29, 21, 7, 42]
abbrev dktX8_lay_11 : List UInt8 := dkwX8_lay_11 ++ dktX8_lay_12
def dkwX8_lay_10 : List UInt8 := [180, 0, 19, 42, 180, 0, 23, 104, 162, 0, 66, 42, 29, 21, 7, 42, 180, 0, 23, 108, 21, 7, 42]
abbrev dktX8_lay_10 : List UInt8 := dkwX8_lay_10 ++ dktX8_lay_11
def dkwX8_lay_9 : List UInt8 := [54, 7, 21, 7, 16, 40, 162, 0, 99, 42, 180, 0, 73, 16, 40, 28, 104, 21, 7, 96, 21, 7, 42]
abbrev dktX8_lay_9 : List UInt8 := dkwX8_lay_9 ++ dktX8_lay_10
def dkwX8_lay_8 : List UInt8 := [42, 180, 0, 67, 28, 5, 79, 42, 180, 0, 70, 28, 42, 180, 0, 19, 42, 180, 0, 23, 104, 79, 3]
abbrev dktX8_lay_8 : List UInt8 := dkwX8_lay_8 ++ dktX8_lay_9
def dkwX8_lay_7 : List UInt8 := [154, 0, 7, 4, 167, 0, 4, 3, 54, 6, 132, 7, 1, 167, 255, 155, 21, 6, 154, 0, 6, 16, 240, 172]
abbrev dktX8_lay_7 : List UInt8 := dkwX8_lay_7 ++ dktX8_lay_8
def dkwX8_lay_6 : List UInt8 := [180, 0, 235, 4, 184, 1, 26, 109, 105, 55, 8, 21, 6, 153, 0, 17, 22, 8, 22, 8, 136, 133, 148]
abbrev dktX8_lay_6 : List UInt8 := dkwX8_lay_6 ++ dktX8_lay_7
def dkwX8_lay_5 : List UInt8 := [22, 4, 42, 29, 21, 7, 42, 180, 0, 23, 108, 21, 7, 42, 180, 0, 23, 112, 2, 182, 1, 22, 42]
abbrev dktX8_lay_5 : List UInt8 := dkwX8_lay_5 ++ dktX8_lay_6
def dkwX8_lay_4 : List UInt8 := [42, 180, 0, 23, 108, 21, 7, 42, 180, 0, 23, 112, 2, 182, 1, 22, 42, 180, 0, 235, 3, 184, 1, 26]
abbrev dktX8_lay_4 : List UInt8 := dkwX8_lay_4 ++ dktX8_lay_5
def dkwX8_lay_3 : List UInt8 := [3, 54, 6, 3, 54, 7, 21, 7, 42, 180, 0, 19, 42, 180, 0, 23, 104, 162, 0, 93, 42, 29, 21, 7]
abbrev dktX8_lay_3 : List UInt8 := dkwX8_lay_3 ++ dktX8_lay_4
def dkwX8_lay_2 : List UInt8 := [16, 253, 172, 42, 29, 182, 1, 50, 55, 4, 22, 4, 22, 4, 136, 133, 148, 154, 0, 7, 4, 167, 0, 4]
abbrev dktX8_lay_2 : List UInt8 := dkwX8_lay_2 ++ dktX8_lay_3
def dkwX8_lay_1 : List UInt8 := [42, 29, 182, 1, 3, 154, 0, 6, 16, 252, 172, 42, 27, 182, 1, 6, 42, 182, 1, 14, 154, 0, 6]
abbrev dktX8_lay_1 : List UInt8 := dkwX8_lay_1 ++ dktX8_lay_2
def dkwX8_lay_0 : List UInt8 := [42, 27, 182, 0, 203, 153, 0, 10, 28, 184, 1, 47, 154, 0, 5, 2, 172, 42, 180, 0, 29, 27, 46, 62]
abbrev dktX8_lay_0 : List UInt8 := dkwX8_lay_0 ++ dktX8_lay_1
theorem dksX8_lay_0 : cX8_lay.data.toList.drop 0 = dktX8_lay_0 := by decide +kernel
theorem dksX8_lay_1 : cX8_lay.data.toList.drop 24 = dktX8_lay_1 := dk_seg dksX8_lay_0 24 rfl rfl
theorem dksX8_lay_2 : cX8_lay.data.toList.drop 47 = dktX8_lay_2 := dk_seg dksX8_lay_1 23 rfl rfl
theorem dksX8_lay_3 : cX8_lay.data.toList.drop 71 = dktX8_lay_3 := dk_seg dksX8_lay_2 24 rfl rfl
theorem dksX8_lay_4 : cX8_lay.data.toList.drop 95 = dktX8_lay_4 := dk_seg dksX8_lay_3 24 rfl rfl
theorem dksX8_lay_5 : cX8_lay.data.toList.drop 119 = dktX8_lay_5 := dk_seg dksX8_lay_4 24 rfl rfl
theorem dksX8_lay_6 : cX8_lay.data.toList.drop 142 = dktX8_lay_6 := dk_seg dksX8_lay_5 23 rfl rfl
theorem dksX8_lay_7 : cX8_lay.data.toList.drop 165 = dktX8_lay_7 := dk_seg dksX8_lay_6 23 rfl rfl
theorem dksX8_lay_8 : cX8_lay.data.toList.drop 189 = dktX8_lay_8 := dk_seg dksX8_lay_7 24 rfl rfl
theorem dksX8_lay_9 : cX8_lay.data.toList.drop 212 = dktX8_lay_9 := dk_seg dksX8_lay_8 23 rfl rfl
theorem dksX8_lay_10 : cX8_lay.data.toList.drop 235 = dktX8_lay_10 := dk_seg dksX8_lay_9 23 rfl rfl
theorem dksX8_lay_11 : cX8_lay.data.toList.drop 258 = dktX8_lay_11 := dk_seg dksX8_lay_10 23 rfl rfl
theorem dksX8_lay_12 : cX8_lay.data.toList.drop 281 = dktX8_lay_12 := dk_seg dksX8_lay_11 23 rfl rfl
theorem dksX8_lay_13 : cX8_lay.data.toList.drop 305 = dktX8_lay_13 := dk_seg dksX8_lay_12 24 rfl rfl
theorem dX8_lay_0 : decode cX8_lay 0 = .ok (.aload_n 0, 1) := dk_42 (dk_at dksX8_lay_0 0 rfl rfl)
theorem dX8_lay_1 : decode cX8_lay 1 = .ok (.iload_n 1, 1) := dk_27 (dk_at dksX8_lay_0 1 rfl rfl)
theorem dX8_lay_2 : decode cX8_lay 2 = .ok (.invokevirtual 203, 3) := dk_182 0 203 (dk_at dksX8_lay_0 2 rfl rfl)
theorem dX8_lay_5 : decode cX8_lay 5 = .ok (.ifCond .eq 10, 3) := dk_153 0 10 (dk_at dksX8_lay_0 5 rfl rfl)
theorem dX8_lay_8 : decode cX8_lay 8 = .ok (.iload_n 2, 1) := dk_28 (dk_at dksX8_lay_0 8 rfl rfl)
theorem dX8_lay_9 : decode cX8_lay 9 = .ok (.invokestatic 303, 3) := dk_184 1 47 (dk_at dksX8_lay_0 9 rfl rfl)
theorem dX8_lay_12 : decode cX8_lay 12 = .ok (.ifCond .ne 5, 3) := dk_154 0 5 (dk_at dksX8_lay_0 12 rfl rfl)
theorem dX8_lay_15 : decode cX8_lay 15 = .ok (.iconst (-1), 1) := dk_2 (dk_at dksX8_lay_0 15 rfl rfl)
theorem dX8_lay_16 : decode cX8_lay 16 = .ok (.ireturn, 1) := dk_172 (dk_at dksX8_lay_0 16 rfl rfl)
theorem dX8_lay_17 : decode cX8_lay 17 = .ok (.aload_n 0, 1) := dk_42 (dk_at dksX8_lay_0 17 rfl rfl)
theorem dX8_lay_18 : decode cX8_lay 18 = .ok (.getfield 29, 3) := dk_180 0 29 (dk_at dksX8_lay_0 18 rfl rfl)
theorem dX8_lay_21 : decode cX8_lay 21 = .ok (.iload_n 1, 1) := dk_27 (dk_at dksX8_lay_0 21 rfl rfl)
theorem dX8_lay_22 : decode cX8_lay 22 = .ok (.iaload, 1) := dk_46 (dk_at dksX8_lay_0 22 rfl rfl)
theorem dX8_lay_23 : decode cX8_lay 23 = .ok (.istore_n 3, 1) := dk_62 (dk_at dksX8_lay_0 23 rfl rfl)
theorem dX8_lay_24 : decode cX8_lay 24 = .ok (.aload_n 0, 1) := dk_42 (dk_at dksX8_lay_1 0 rfl rfl)
theorem dX8_lay_25 : decode cX8_lay 25 = .ok (.iload_n 3, 1) := dk_29 (dk_at dksX8_lay_1 1 rfl rfl)
theorem dX8_lay_26 : decode cX8_lay 26 = .ok (.invokevirtual 259, 3) := dk_182 1 3 (dk_at dksX8_lay_1 2 rfl rfl)
theorem dX8_lay_29 : decode cX8_lay 29 = .ok (.ifCond .ne 6, 3) := dk_154 0 6 (dk_at dksX8_lay_1 5 rfl rfl)
theorem dX8_lay_32 : decode cX8_lay 32 = .ok (.bipush (-4), 2) := dk_16 252 (dk_at dksX8_lay_1 8 rfl rfl)
theorem dX8_lay_34 : decode cX8_lay 34 = .ok (.ireturn, 1) := dk_172 (dk_at dksX8_lay_1 10 rfl rfl)
theorem dX8_lay_35 : decode cX8_lay 35 = .ok (.aload_n 0, 1) := dk_42 (dk_at dksX8_lay_1 11 rfl rfl)
theorem dX8_lay_36 : decode cX8_lay 36 = .ok (.iload_n 1, 1) := dk_27 (dk_at dksX8_lay_1 12 rfl rfl)
theorem dX8_lay_37 : decode cX8_lay 37 = .ok (.invokevirtual 262, 3) := dk_182 1 6 (dk_at dksX8_lay_1 13 rfl rfl)
theorem dX8_lay_40 : decode cX8_lay 40 = .ok (.aload_n 0, 1) := dk_42 (dk_at dksX8_lay_1 16 rfl rfl)
theorem dX8_lay_41 : decode cX8_lay 41 = .ok (.invokevirtual 270, 3) := dk_182 1 14 (dk_at dksX8_lay_1 17 rfl rfl)
theorem dX8_lay_44 : decode cX8_lay 44 = .ok (.ifCond .ne 6, 3) := dk_154 0 6 (dk_at dksX8_lay_1 20 rfl rfl)
theorem dX8_lay_47 : decode cX8_lay 47 = .ok (.bipush (-3), 2) := dk_16 253 (dk_at dksX8_lay_2 0 rfl rfl)
theorem dX8_lay_49 : decode cX8_lay 49 = .ok (.ireturn, 1) := dk_172 (dk_at dksX8_lay_2 2 rfl rfl)
theorem dX8_lay_50 : decode cX8_lay 50 = .ok (.aload_n 0, 1) := dk_42 (dk_at dksX8_lay_2 3 rfl rfl)
theorem dX8_lay_51 : decode cX8_lay 51 = .ok (.iload_n 3, 1) := dk_29 (dk_at dksX8_lay_2 4 rfl rfl)
theorem dX8_lay_52 : decode cX8_lay 52 = .ok (.invokevirtual 306, 3) := dk_182 1 50 (dk_at dksX8_lay_2 5 rfl rfl)
theorem dX8_lay_55 : decode cX8_lay 55 = .ok (.lstore 4, 2) := dk_55 4 (dk_at dksX8_lay_2 8 rfl rfl)
theorem dX8_lay_57 : decode cX8_lay 57 = .ok (.lload 4, 2) := dk_22 4 (dk_at dksX8_lay_2 10 rfl rfl)
theorem dX8_lay_59 : decode cX8_lay 59 = .ok (.lload 4, 2) := dk_22 4 (dk_at dksX8_lay_2 12 rfl rfl)
theorem dX8_lay_61 : decode cX8_lay 61 = .ok (.l2i, 1) := dk_136 (dk_at dksX8_lay_2 14 rfl rfl)
theorem dX8_lay_62 : decode cX8_lay 62 = .ok (.i2l, 1) := dk_133 (dk_at dksX8_lay_2 15 rfl rfl)
theorem dX8_lay_63 : decode cX8_lay 63 = .ok (.lcmp, 1) := dk_148 (dk_at dksX8_lay_2 16 rfl rfl)
theorem dX8_lay_64 : decode cX8_lay 64 = .ok (.ifCond .ne 7, 3) := dk_154 0 7 (dk_at dksX8_lay_2 17 rfl rfl)
theorem dX8_lay_67 : decode cX8_lay 67 = .ok (.iconst 1, 1) := dk_4 (dk_at dksX8_lay_2 20 rfl rfl)
theorem dX8_lay_68 : decode cX8_lay 68 = .ok (.goto 4, 3) := dk_167 0 4 (dk_at dksX8_lay_2 21 rfl rfl)
theorem dX8_lay_71 : decode cX8_lay 71 = .ok (.iconst 0, 1) := dk_3 (dk_at dksX8_lay_3 0 rfl rfl)
theorem dX8_lay_72 : decode cX8_lay 72 = .ok (.istore 6, 2) := dk_54 6 (dk_at dksX8_lay_3 1 rfl rfl)
theorem dX8_lay_74 : decode cX8_lay 74 = .ok (.iconst 0, 1) := dk_3 (dk_at dksX8_lay_3 3 rfl rfl)
theorem dX8_lay_75 : decode cX8_lay 75 = .ok (.istore 7, 2) := dk_54 7 (dk_at dksX8_lay_3 4 rfl rfl)
theorem dX8_lay_77 : decode cX8_lay 77 = .ok (.iload 7, 2) := dk_21 7 (dk_at dksX8_lay_3 6 rfl rfl)
theorem dX8_lay_79 : decode cX8_lay 79 = .ok (.aload_n 0, 1) := dk_42 (dk_at dksX8_lay_3 8 rfl rfl)
theorem dX8_lay_80 : decode cX8_lay 80 = .ok (.getfield 19, 3) := dk_180 0 19 (dk_at dksX8_lay_3 9 rfl rfl)
theorem dX8_lay_83 : decode cX8_lay 83 = .ok (.aload_n 0, 1) := dk_42 (dk_at dksX8_lay_3 12 rfl rfl)
theorem dX8_lay_84 : decode cX8_lay 84 = .ok (.getfield 23, 3) := dk_180 0 23 (dk_at dksX8_lay_3 13 rfl rfl)
theorem dX8_lay_87 : decode cX8_lay 87 = .ok (.imul, 1) := dk_104 (dk_at dksX8_lay_3 16 rfl rfl)
theorem dX8_lay_88 : decode cX8_lay 88 = .ok (.if_icmp .ge 93, 3) := dk_162 0 93 (dk_at dksX8_lay_3 17 rfl rfl)
theorem dX8_lay_91 : decode cX8_lay 91 = .ok (.aload_n 0, 1) := dk_42 (dk_at dksX8_lay_3 20 rfl rfl)
theorem dX8_lay_92 : decode cX8_lay 92 = .ok (.iload_n 3, 1) := dk_29 (dk_at dksX8_lay_3 21 rfl rfl)
theorem dX8_lay_93 : decode cX8_lay 93 = .ok (.iload 7, 2) := dk_21 7 (dk_at dksX8_lay_3 22 rfl rfl)
theorem dX8_lay_95 : decode cX8_lay 95 = .ok (.aload_n 0, 1) := dk_42 (dk_at dksX8_lay_4 0 rfl rfl)
theorem dX8_lay_96 : decode cX8_lay 96 = .ok (.getfield 23, 3) := dk_180 0 23 (dk_at dksX8_lay_4 1 rfl rfl)
theorem dX8_lay_99 : decode cX8_lay 99 = .ok (.idiv, 1) := dk_108 (dk_at dksX8_lay_4 4 rfl rfl)
theorem dX8_lay_100 : decode cX8_lay 100 = .ok (.iload 7, 2) := dk_21 7 (dk_at dksX8_lay_4 5 rfl rfl)
theorem dX8_lay_102 : decode cX8_lay 102 = .ok (.aload_n 0, 1) := dk_42 (dk_at dksX8_lay_4 7 rfl rfl)
theorem dX8_lay_103 : decode cX8_lay 103 = .ok (.getfield 23, 3) := dk_180 0 23 (dk_at dksX8_lay_4 8 rfl rfl)
theorem dX8_lay_106 : decode cX8_lay 106 = .ok (.irem, 1) := dk_112 (dk_at dksX8_lay_4 11 rfl rfl)
theorem dX8_lay_107 : decode cX8_lay 107 = .ok (.iconst (-1), 1) := dk_2 (dk_at dksX8_lay_4 12 rfl rfl)
theorem dX8_lay_108 : decode cX8_lay 108 = .ok (.invokevirtual 278, 3) := dk_182 1 22 (dk_at dksX8_lay_4 13 rfl rfl)
theorem dX8_lay_111 : decode cX8_lay 111 = .ok (.aload_n 0, 1) := dk_42 (dk_at dksX8_lay_4 16 rfl rfl)
theorem dX8_lay_112 : decode cX8_lay 112 = .ok (.getfield 235, 3) := dk_180 0 235 (dk_at dksX8_lay_4 17 rfl rfl)
theorem dX8_lay_115 : decode cX8_lay 115 = .ok (.iconst 0, 1) := dk_3 (dk_at dksX8_lay_4 20 rfl rfl)
theorem dX8_lay_116 : decode cX8_lay 116 = .ok (.invokestatic 282, 3) := dk_184 1 26 (dk_at dksX8_lay_4 21 rfl rfl)
theorem dX8_lay_119 : decode cX8_lay 119 = .ok (.lload 4, 2) := dk_22 4 (dk_at dksX8_lay_5 0 rfl rfl)
theorem dX8_lay_121 : decode cX8_lay 121 = .ok (.aload_n 0, 1) := dk_42 (dk_at dksX8_lay_5 2 rfl rfl)
theorem dX8_lay_122 : decode cX8_lay 122 = .ok (.iload_n 3, 1) := dk_29 (dk_at dksX8_lay_5 3 rfl rfl)
theorem dX8_lay_123 : decode cX8_lay 123 = .ok (.iload 7, 2) := dk_21 7 (dk_at dksX8_lay_5 4 rfl rfl)
theorem dX8_lay_125 : decode cX8_lay 125 = .ok (.aload_n 0, 1) := dk_42 (dk_at dksX8_lay_5 6 rfl rfl)
theorem dX8_lay_126 : decode cX8_lay 126 = .ok (.getfield 23, 3) := dk_180 0 23 (dk_at dksX8_lay_5 7 rfl rfl)
theorem dX8_lay_129 : decode cX8_lay 129 = .ok (.idiv, 1) := dk_108 (dk_at dksX8_lay_5 10 rfl rfl)
theorem dX8_lay_130 : decode cX8_lay 130 = .ok (.iload 7, 2) := dk_21 7 (dk_at dksX8_lay_5 11 rfl rfl)
theorem dX8_lay_132 : decode cX8_lay 132 = .ok (.aload_n 0, 1) := dk_42 (dk_at dksX8_lay_5 13 rfl rfl)
theorem dX8_lay_133 : decode cX8_lay 133 = .ok (.getfield 23, 3) := dk_180 0 23 (dk_at dksX8_lay_5 14 rfl rfl)
theorem dX8_lay_136 : decode cX8_lay 136 = .ok (.irem, 1) := dk_112 (dk_at dksX8_lay_5 17 rfl rfl)
theorem dX8_lay_137 : decode cX8_lay 137 = .ok (.iconst (-1), 1) := dk_2 (dk_at dksX8_lay_5 18 rfl rfl)
theorem dX8_lay_138 : decode cX8_lay 138 = .ok (.invokevirtual 278, 3) := dk_182 1 22 (dk_at dksX8_lay_5 19 rfl rfl)
theorem dX8_lay_141 : decode cX8_lay 141 = .ok (.aload_n 0, 1) := dk_42 (dk_at dksX8_lay_5 22 rfl rfl)
theorem dX8_lay_142 : decode cX8_lay 142 = .ok (.getfield 235, 3) := dk_180 0 235 (dk_at dksX8_lay_6 0 rfl rfl)
theorem dX8_lay_145 : decode cX8_lay 145 = .ok (.iconst 1, 1) := dk_4 (dk_at dksX8_lay_6 3 rfl rfl)
theorem dX8_lay_146 : decode cX8_lay 146 = .ok (.invokestatic 282, 3) := dk_184 1 26 (dk_at dksX8_lay_6 4 rfl rfl)
theorem dX8_lay_149 : decode cX8_lay 149 = .ok (.ldiv, 1) := dk_109 (dk_at dksX8_lay_6 7 rfl rfl)
theorem dX8_lay_150 : decode cX8_lay 150 = .ok (.lmul, 1) := dk_105 (dk_at dksX8_lay_6 8 rfl rfl)
theorem dX8_lay_151 : decode cX8_lay 151 = .ok (.lstore 8, 2) := dk_55 8 (dk_at dksX8_lay_6 9 rfl rfl)
theorem dX8_lay_153 : decode cX8_lay 153 = .ok (.iload 6, 2) := dk_21 6 (dk_at dksX8_lay_6 11 rfl rfl)
theorem dX8_lay_155 : decode cX8_lay 155 = .ok (.ifCond .eq 17, 3) := dk_153 0 17 (dk_at dksX8_lay_6 13 rfl rfl)
theorem dX8_lay_158 : decode cX8_lay 158 = .ok (.lload 8, 2) := dk_22 8 (dk_at dksX8_lay_6 16 rfl rfl)
theorem dX8_lay_160 : decode cX8_lay 160 = .ok (.lload 8, 2) := dk_22 8 (dk_at dksX8_lay_6 18 rfl rfl)
theorem dX8_lay_162 : decode cX8_lay 162 = .ok (.l2i, 1) := dk_136 (dk_at dksX8_lay_6 20 rfl rfl)
theorem dX8_lay_163 : decode cX8_lay 163 = .ok (.i2l, 1) := dk_133 (dk_at dksX8_lay_6 21 rfl rfl)
theorem dX8_lay_164 : decode cX8_lay 164 = .ok (.lcmp, 1) := dk_148 (dk_at dksX8_lay_6 22 rfl rfl)
theorem dX8_lay_165 : decode cX8_lay 165 = .ok (.ifCond .ne 7, 3) := dk_154 0 7 (dk_at dksX8_lay_7 0 rfl rfl)
theorem dX8_lay_168 : decode cX8_lay 168 = .ok (.iconst 1, 1) := dk_4 (dk_at dksX8_lay_7 3 rfl rfl)
theorem dX8_lay_169 : decode cX8_lay 169 = .ok (.goto 4, 3) := dk_167 0 4 (dk_at dksX8_lay_7 4 rfl rfl)
theorem dX8_lay_172 : decode cX8_lay 172 = .ok (.iconst 0, 1) := dk_3 (dk_at dksX8_lay_7 7 rfl rfl)
theorem dX8_lay_173 : decode cX8_lay 173 = .ok (.istore 6, 2) := dk_54 6 (dk_at dksX8_lay_7 8 rfl rfl)
theorem dX8_lay_175 : decode cX8_lay 175 = .ok (.iinc 7 1, 3) := dk_132 7 1 (dk_at dksX8_lay_7 10 rfl rfl)
theorem dX8_lay_178 : decode cX8_lay 178 = .ok (.goto (-101), 3) := dk_167 255 155 (dk_at dksX8_lay_7 13 rfl rfl)
theorem dX8_lay_181 : decode cX8_lay 181 = .ok (.iload 6, 2) := dk_21 6 (dk_at dksX8_lay_7 16 rfl rfl)
theorem dX8_lay_183 : decode cX8_lay 183 = .ok (.ifCond .ne 6, 3) := dk_154 0 6 (dk_at dksX8_lay_7 18 rfl rfl)
theorem dX8_lay_186 : decode cX8_lay 186 = .ok (.bipush (-16), 2) := dk_16 240 (dk_at dksX8_lay_7 21 rfl rfl)
theorem dX8_lay_188 : decode cX8_lay 188 = .ok (.ireturn, 1) := dk_172 (dk_at dksX8_lay_7 23 rfl rfl)
theorem dX8_lay_189 : decode cX8_lay 189 = .ok (.aload_n 0, 1) := dk_42 (dk_at dksX8_lay_8 0 rfl rfl)
theorem dX8_lay_190 : decode cX8_lay 190 = .ok (.getfield 67, 3) := dk_180 0 67 (dk_at dksX8_lay_8 1 rfl rfl)
theorem dX8_lay_193 : decode cX8_lay 193 = .ok (.iload_n 2, 1) := dk_28 (dk_at dksX8_lay_8 4 rfl rfl)
theorem dX8_lay_194 : decode cX8_lay 194 = .ok (.iconst 2, 1) := dk_5 (dk_at dksX8_lay_8 5 rfl rfl)
theorem dX8_lay_195 : decode cX8_lay 195 = .ok (.iastore, 1) := dk_79 (dk_at dksX8_lay_8 6 rfl rfl)
theorem dX8_lay_196 : decode cX8_lay 196 = .ok (.aload_n 0, 1) := dk_42 (dk_at dksX8_lay_8 7 rfl rfl)
theorem dX8_lay_197 : decode cX8_lay 197 = .ok (.getfield 70, 3) := dk_180 0 70 (dk_at dksX8_lay_8 8 rfl rfl)
theorem dX8_lay_200 : decode cX8_lay 200 = .ok (.iload_n 2, 1) := dk_28 (dk_at dksX8_lay_8 11 rfl rfl)
theorem dX8_lay_201 : decode cX8_lay 201 = .ok (.aload_n 0, 1) := dk_42 (dk_at dksX8_lay_8 12 rfl rfl)
theorem dX8_lay_202 : decode cX8_lay 202 = .ok (.getfield 19, 3) := dk_180 0 19 (dk_at dksX8_lay_8 13 rfl rfl)
theorem dX8_lay_205 : decode cX8_lay 205 = .ok (.aload_n 0, 1) := dk_42 (dk_at dksX8_lay_8 16 rfl rfl)
theorem dX8_lay_206 : decode cX8_lay 206 = .ok (.getfield 23, 3) := dk_180 0 23 (dk_at dksX8_lay_8 17 rfl rfl)
theorem dX8_lay_209 : decode cX8_lay 209 = .ok (.imul, 1) := dk_104 (dk_at dksX8_lay_8 20 rfl rfl)
theorem dX8_lay_210 : decode cX8_lay 210 = .ok (.iastore, 1) := dk_79 (dk_at dksX8_lay_8 21 rfl rfl)
theorem dX8_lay_211 : decode cX8_lay 211 = .ok (.iconst 0, 1) := dk_3 (dk_at dksX8_lay_8 22 rfl rfl)
theorem dX8_lay_212 : decode cX8_lay 212 = .ok (.istore 7, 2) := dk_54 7 (dk_at dksX8_lay_9 0 rfl rfl)
theorem dX8_lay_214 : decode cX8_lay 214 = .ok (.iload 7, 2) := dk_21 7 (dk_at dksX8_lay_9 2 rfl rfl)
theorem dX8_lay_216 : decode cX8_lay 216 = .ok (.bipush 40, 2) := dk_16 40 (dk_at dksX8_lay_9 4 rfl rfl)
theorem dX8_lay_218 : decode cX8_lay 218 = .ok (.if_icmp .ge 99, 3) := dk_162 0 99 (dk_at dksX8_lay_9 6 rfl rfl)
theorem dX8_lay_221 : decode cX8_lay 221 = .ok (.aload_n 0, 1) := dk_42 (dk_at dksX8_lay_9 9 rfl rfl)
theorem dX8_lay_222 : decode cX8_lay 222 = .ok (.getfield 73, 3) := dk_180 0 73 (dk_at dksX8_lay_9 10 rfl rfl)
theorem dX8_lay_225 : decode cX8_lay 225 = .ok (.bipush 40, 2) := dk_16 40 (dk_at dksX8_lay_9 13 rfl rfl)
theorem dX8_lay_227 : decode cX8_lay 227 = .ok (.iload_n 2, 1) := dk_28 (dk_at dksX8_lay_9 15 rfl rfl)
theorem dX8_lay_228 : decode cX8_lay 228 = .ok (.imul, 1) := dk_104 (dk_at dksX8_lay_9 16 rfl rfl)
theorem dX8_lay_229 : decode cX8_lay 229 = .ok (.iload 7, 2) := dk_21 7 (dk_at dksX8_lay_9 17 rfl rfl)
theorem dX8_lay_231 : decode cX8_lay 231 = .ok (.iadd, 1) := dk_96 (dk_at dksX8_lay_9 19 rfl rfl)
theorem dX8_lay_232 : decode cX8_lay 232 = .ok (.iload 7, 2) := dk_21 7 (dk_at dksX8_lay_9 20 rfl rfl)
theorem dX8_lay_234 : decode cX8_lay 234 = .ok (.aload_n 0, 1) := dk_42 (dk_at dksX8_lay_9 22 rfl rfl)
theorem dX8_lay_235 : decode cX8_lay 235 = .ok (.getfield 19, 3) := dk_180 0 19 (dk_at dksX8_lay_10 0 rfl rfl)
theorem dX8_lay_238 : decode cX8_lay 238 = .ok (.aload_n 0, 1) := dk_42 (dk_at dksX8_lay_10 3 rfl rfl)
theorem dX8_lay_239 : decode cX8_lay 239 = .ok (.getfield 23, 3) := dk_180 0 23 (dk_at dksX8_lay_10 4 rfl rfl)
theorem dX8_lay_242 : decode cX8_lay 242 = .ok (.imul, 1) := dk_104 (dk_at dksX8_lay_10 7 rfl rfl)
theorem dX8_lay_243 : decode cX8_lay 243 = .ok (.if_icmp .ge 66, 3) := dk_162 0 66 (dk_at dksX8_lay_10 8 rfl rfl)
theorem dX8_lay_246 : decode cX8_lay 246 = .ok (.aload_n 0, 1) := dk_42 (dk_at dksX8_lay_10 11 rfl rfl)
theorem dX8_lay_247 : decode cX8_lay 247 = .ok (.iload_n 3, 1) := dk_29 (dk_at dksX8_lay_10 12 rfl rfl)
theorem dX8_lay_248 : decode cX8_lay 248 = .ok (.iload 7, 2) := dk_21 7 (dk_at dksX8_lay_10 13 rfl rfl)
theorem dX8_lay_250 : decode cX8_lay 250 = .ok (.aload_n 0, 1) := dk_42 (dk_at dksX8_lay_10 15 rfl rfl)
theorem dX8_lay_251 : decode cX8_lay 251 = .ok (.getfield 23, 3) := dk_180 0 23 (dk_at dksX8_lay_10 16 rfl rfl)
theorem dX8_lay_254 : decode cX8_lay 254 = .ok (.idiv, 1) := dk_108 (dk_at dksX8_lay_10 19 rfl rfl)
theorem dX8_lay_255 : decode cX8_lay 255 = .ok (.iload 7, 2) := dk_21 7 (dk_at dksX8_lay_10 20 rfl rfl)
theorem dX8_lay_257 : decode cX8_lay 257 = .ok (.aload_n 0, 1) := dk_42 (dk_at dksX8_lay_10 22 rfl rfl)
theorem dX8_lay_258 : decode cX8_lay 258 = .ok (.getfield 23, 3) := dk_180 0 23 (dk_at dksX8_lay_11 0 rfl rfl)
theorem dX8_lay_261 : decode cX8_lay 261 = .ok (.irem, 1) := dk_112 (dk_at dksX8_lay_11 3 rfl rfl)
theorem dX8_lay_262 : decode cX8_lay 262 = .ok (.iconst (-1), 1) := dk_2 (dk_at dksX8_lay_11 4 rfl rfl)
theorem dX8_lay_263 : decode cX8_lay 263 = .ok (.invokevirtual 278, 3) := dk_182 1 22 (dk_at dksX8_lay_11 5 rfl rfl)
theorem dX8_lay_266 : decode cX8_lay 266 = .ok (.aload_n 0, 1) := dk_42 (dk_at dksX8_lay_11 8 rfl rfl)
theorem dX8_lay_267 : decode cX8_lay 267 = .ok (.getfield 235, 3) := dk_180 0 235 (dk_at dksX8_lay_11 9 rfl rfl)
theorem dX8_lay_270 : decode cX8_lay 270 = .ok (.iconst 0, 1) := dk_3 (dk_at dksX8_lay_11 12 rfl rfl)
theorem dX8_lay_271 : decode cX8_lay 271 = .ok (.invokestatic 282, 3) := dk_184 1 26 (dk_at dksX8_lay_11 13 rfl rfl)
theorem dX8_lay_274 : decode cX8_lay 274 = .ok (.lload 4, 2) := dk_22 4 (dk_at dksX8_lay_11 16 rfl rfl)
theorem dX8_lay_276 : decode cX8_lay 276 = .ok (.aload_n 0, 1) := dk_42 (dk_at dksX8_lay_11 18 rfl rfl)
theorem dX8_lay_277 : decode cX8_lay 277 = .ok (.iload_n 3, 1) := dk_29 (dk_at dksX8_lay_11 19 rfl rfl)
theorem dX8_lay_278 : decode cX8_lay 278 = .ok (.iload 7, 2) := dk_21 7 (dk_at dksX8_lay_11 20 rfl rfl)
theorem dX8_lay_280 : decode cX8_lay 280 = .ok (.aload_n 0, 1) := dk_42 (dk_at dksX8_lay_11 22 rfl rfl)
theorem dX8_lay_281 : decode cX8_lay 281 = .ok (.getfield 23, 3) := dk_180 0 23 (dk_at dksX8_lay_12 0 rfl rfl)
theorem dX8_lay_284 : decode cX8_lay 284 = .ok (.idiv, 1) := dk_108 (dk_at dksX8_lay_12 3 rfl rfl)
theorem dX8_lay_285 : decode cX8_lay 285 = .ok (.iload 7, 2) := dk_21 7 (dk_at dksX8_lay_12 4 rfl rfl)
theorem dX8_lay_287 : decode cX8_lay 287 = .ok (.aload_n 0, 1) := dk_42 (dk_at dksX8_lay_12 6 rfl rfl)
theorem dX8_lay_288 : decode cX8_lay 288 = .ok (.getfield 23, 3) := dk_180 0 23 (dk_at dksX8_lay_12 7 rfl rfl)
theorem dX8_lay_291 : decode cX8_lay 291 = .ok (.irem, 1) := dk_112 (dk_at dksX8_lay_12 10 rfl rfl)
theorem dX8_lay_292 : decode cX8_lay 292 = .ok (.iconst (-1), 1) := dk_2 (dk_at dksX8_lay_12 11 rfl rfl)
theorem dX8_lay_293 : decode cX8_lay 293 = .ok (.invokevirtual 278, 3) := dk_182 1 22 (dk_at dksX8_lay_12 12 rfl rfl)
theorem dX8_lay_296 : decode cX8_lay 296 = .ok (.aload_n 0, 1) := dk_42 (dk_at dksX8_lay_12 15 rfl rfl)
theorem dX8_lay_297 : decode cX8_lay 297 = .ok (.getfield 235, 3) := dk_180 0 235 (dk_at dksX8_lay_12 16 rfl rfl)
theorem dX8_lay_300 : decode cX8_lay 300 = .ok (.iconst 1, 1) := dk_4 (dk_at dksX8_lay_12 19 rfl rfl)
theorem dX8_lay_301 : decode cX8_lay 301 = .ok (.invokestatic 282, 3) := dk_184 1 26 (dk_at dksX8_lay_12 20 rfl rfl)
theorem dX8_lay_304 : decode cX8_lay 304 = .ok (.ldiv, 1) := dk_109 (dk_at dksX8_lay_12 23 rfl rfl)
theorem dX8_lay_305 : decode cX8_lay 305 = .ok (.lmul, 1) := dk_105 (dk_at dksX8_lay_13 0 rfl rfl)
theorem dX8_lay_306 : decode cX8_lay 306 = .ok (.goto 4, 3) := dk_167 0 4 (dk_at dksX8_lay_13 1 rfl rfl)
theorem dX8_lay_309 : decode cX8_lay 309 = .ok (.lconst 0, 1) := dk_9 (dk_at dksX8_lay_13 4 rfl rfl)
theorem dX8_lay_310 : decode cX8_lay 310 = .ok (.lastore, 1) := dk_80 (dk_at dksX8_lay_13 5 rfl rfl)
theorem dX8_lay_311 : decode cX8_lay 311 = .ok (.iinc 7 1, 3) := dk_132 7 1 (dk_at dksX8_lay_13 6 rfl rfl)
theorem dX8_lay_314 : decode cX8_lay 314 = .ok (.goto (-100), 3) := dk_167 255 156 (dk_at dksX8_lay_13 9 rfl rfl)
theorem dX8_lay_317 : decode cX8_lay 317 = .ok (.lload 4, 2) := dk_22 4 (dk_at dksX8_lay_13 12 rfl rfl)
theorem dX8_lay_319 : decode cX8_lay 319 = .ok (.l2i, 1) := dk_136 (dk_at dksX8_lay_13 14 rfl rfl)
theorem dX8_lay_320 : decode cX8_lay 320 = .ok (.ireturn, 1) := dk_172 (dk_at dksX8_lay_13 15 rfl rfl)
abbrev cX8_isSheet : ByteArray := prog_24_method_80_code
def yX8_isSheet : MethodName := ⟨RX8, "isSheet", "(I)Z"⟩
def dkwX8_isSheet_0 : List UInt8 := [26, 133, 9, 20, 0, 118, 184, 0, 99, 172]
abbrev dktX8_isSheet_0 : List UInt8 := dkwX8_isSheet_0 ++ []
theorem dksX8_isSheet_0 : cX8_isSheet.data.toList.drop 0 = dktX8_isSheet_0 := by decide +kernel
theorem dX8_isSheet_0 : decode cX8_isSheet 0 = .ok (.iload_n 0, 1) := dk_26 (dk_at dksX8_isSheet_0 0 rfl rfl)
theorem dX8_isSheet_1 : decode cX8_isSheet 1 = .ok (.i2l, 1) := dk_133 (dk_at dksX8_isSheet_0 1 rfl rfl)
theorem dX8_isSheet_2 : decode cX8_isSheet 2 = .ok (.lconst 0, 1) := dk_9 (dk_at dksX8_isSheet_0 2 rfl rfl)
theorem dX8_isSheet_3 : decode cX8_isSheet 3 = .ok (.ldc2_w 118, 3) := dk_20 0 118 (dk_at dksX8_isSheet_0 3 rfl rfl)
theorem dX8_isSheet_6 : decode cX8_isSheet 6 = .ok (.invokestatic 99, 3) := dk_184 0 99 (dk_at dksX8_isSheet_0 6 rfl rfl)
theorem dX8_isSheet_9 : decode cX8_isSheet 9 = .ok (.ireturn, 1) := dk_172 (dk_at dksX8_isSheet_0 9 rfl rfl)
abbrev cX8_leastScale : ByteArray := prog_24_method_68_code
def yX8_leastScale : MethodName := ⟨RX8, "leastScale", "(I)J"⟩
def dkwX8_leastScale_2 : List UInt8 := [55, 5, 32, 32, 22, 5, 184, 0, 93, 109, 22, 5, 105, 65, 132, 4, 1, 167, 255, 197, 32, 173]
abbrev dktX8_leastScale_2 : List UInt8 := dkwX8_leastScale_2 ++ []
def dkwX8_leastScale_1 : List UInt8 := [180, 0, 23, 108, 21, 4, 42, 180, 0, 23, 112, 2, 182, 1, 22, 42, 180, 0, 235, 4, 184, 1, 26]
abbrev dktX8_leastScale_1 : List UInt8 := dkwX8_leastScale_1 ++ dktX8_leastScale_2
def dkwX8_leastScale_0 : List UInt8 := [10, 65, 3, 54, 4, 21, 4, 42, 180, 0, 19, 42, 180, 0, 23, 104, 162, 0, 51, 42, 27, 21, 4, 42]
abbrev dktX8_leastScale_0 : List UInt8 := dkwX8_leastScale_0 ++ dktX8_leastScale_1
theorem dksX8_leastScale_0 : cX8_leastScale.data.toList.drop 0 = dktX8_leastScale_0 := by decide +kernel
theorem dksX8_leastScale_1 : cX8_leastScale.data.toList.drop 24 = dktX8_leastScale_1 := dk_seg dksX8_leastScale_0 24 rfl rfl
theorem dksX8_leastScale_2 : cX8_leastScale.data.toList.drop 47 = dktX8_leastScale_2 := dk_seg dksX8_leastScale_1 23 rfl rfl
theorem dX8_leastScale_0 : decode cX8_leastScale 0 = .ok (.lconst 1, 1) := dk_10 (dk_at dksX8_leastScale_0 0 rfl rfl)
theorem dX8_leastScale_1 : decode cX8_leastScale 1 = .ok (.lstore_n 2, 1) := dk_65 (dk_at dksX8_leastScale_0 1 rfl rfl)
theorem dX8_leastScale_2 : decode cX8_leastScale 2 = .ok (.iconst 0, 1) := dk_3 (dk_at dksX8_leastScale_0 2 rfl rfl)
theorem dX8_leastScale_3 : decode cX8_leastScale 3 = .ok (.istore 4, 2) := dk_54 4 (dk_at dksX8_leastScale_0 3 rfl rfl)
theorem dX8_leastScale_5 : decode cX8_leastScale 5 = .ok (.iload 4, 2) := dk_21 4 (dk_at dksX8_leastScale_0 5 rfl rfl)
theorem dX8_leastScale_7 : decode cX8_leastScale 7 = .ok (.aload_n 0, 1) := dk_42 (dk_at dksX8_leastScale_0 7 rfl rfl)
theorem dX8_leastScale_8 : decode cX8_leastScale 8 = .ok (.getfield 19, 3) := dk_180 0 19 (dk_at dksX8_leastScale_0 8 rfl rfl)
theorem dX8_leastScale_11 : decode cX8_leastScale 11 = .ok (.aload_n 0, 1) := dk_42 (dk_at dksX8_leastScale_0 11 rfl rfl)
theorem dX8_leastScale_12 : decode cX8_leastScale 12 = .ok (.getfield 23, 3) := dk_180 0 23 (dk_at dksX8_leastScale_0 12 rfl rfl)
theorem dX8_leastScale_15 : decode cX8_leastScale 15 = .ok (.imul, 1) := dk_104 (dk_at dksX8_leastScale_0 15 rfl rfl)
theorem dX8_leastScale_16 : decode cX8_leastScale 16 = .ok (.if_icmp .ge 51, 3) := dk_162 0 51 (dk_at dksX8_leastScale_0 16 rfl rfl)
theorem dX8_leastScale_19 : decode cX8_leastScale 19 = .ok (.aload_n 0, 1) := dk_42 (dk_at dksX8_leastScale_0 19 rfl rfl)
theorem dX8_leastScale_20 : decode cX8_leastScale 20 = .ok (.iload_n 1, 1) := dk_27 (dk_at dksX8_leastScale_0 20 rfl rfl)
theorem dX8_leastScale_21 : decode cX8_leastScale 21 = .ok (.iload 4, 2) := dk_21 4 (dk_at dksX8_leastScale_0 21 rfl rfl)
theorem dX8_leastScale_23 : decode cX8_leastScale 23 = .ok (.aload_n 0, 1) := dk_42 (dk_at dksX8_leastScale_0 23 rfl rfl)
theorem dX8_leastScale_24 : decode cX8_leastScale 24 = .ok (.getfield 23, 3) := dk_180 0 23 (dk_at dksX8_leastScale_1 0 rfl rfl)
theorem dX8_leastScale_27 : decode cX8_leastScale 27 = .ok (.idiv, 1) := dk_108 (dk_at dksX8_leastScale_1 3 rfl rfl)
theorem dX8_leastScale_28 : decode cX8_leastScale 28 = .ok (.iload 4, 2) := dk_21 4 (dk_at dksX8_leastScale_1 4 rfl rfl)
theorem dX8_leastScale_30 : decode cX8_leastScale 30 = .ok (.aload_n 0, 1) := dk_42 (dk_at dksX8_leastScale_1 6 rfl rfl)
theorem dX8_leastScale_31 : decode cX8_leastScale 31 = .ok (.getfield 23, 3) := dk_180 0 23 (dk_at dksX8_leastScale_1 7 rfl rfl)
theorem dX8_leastScale_34 : decode cX8_leastScale 34 = .ok (.irem, 1) := dk_112 (dk_at dksX8_leastScale_1 10 rfl rfl)
theorem dX8_leastScale_35 : decode cX8_leastScale 35 = .ok (.iconst (-1), 1) := dk_2 (dk_at dksX8_leastScale_1 11 rfl rfl)
theorem dX8_leastScale_36 : decode cX8_leastScale 36 = .ok (.invokevirtual 278, 3) := dk_182 1 22 (dk_at dksX8_leastScale_1 12 rfl rfl)
theorem dX8_leastScale_39 : decode cX8_leastScale 39 = .ok (.aload_n 0, 1) := dk_42 (dk_at dksX8_leastScale_1 15 rfl rfl)
theorem dX8_leastScale_40 : decode cX8_leastScale 40 = .ok (.getfield 235, 3) := dk_180 0 235 (dk_at dksX8_leastScale_1 16 rfl rfl)
theorem dX8_leastScale_43 : decode cX8_leastScale 43 = .ok (.iconst 1, 1) := dk_4 (dk_at dksX8_leastScale_1 19 rfl rfl)
theorem dX8_leastScale_44 : decode cX8_leastScale 44 = .ok (.invokestatic 282, 3) := dk_184 1 26 (dk_at dksX8_leastScale_1 20 rfl rfl)
theorem dX8_leastScale_47 : decode cX8_leastScale 47 = .ok (.lstore 5, 2) := dk_55 5 (dk_at dksX8_leastScale_2 0 rfl rfl)
theorem dX8_leastScale_49 : decode cX8_leastScale 49 = .ok (.lload_n 2, 1) := dk_32 (dk_at dksX8_leastScale_2 2 rfl rfl)
theorem dX8_leastScale_50 : decode cX8_leastScale 50 = .ok (.lload_n 2, 1) := dk_32 (dk_at dksX8_leastScale_2 3 rfl rfl)
theorem dX8_leastScale_51 : decode cX8_leastScale 51 = .ok (.lload 5, 2) := dk_22 5 (dk_at dksX8_leastScale_2 4 rfl rfl)
theorem dX8_leastScale_53 : decode cX8_leastScale 53 = .ok (.invokestatic 93, 3) := dk_184 0 93 (dk_at dksX8_leastScale_2 6 rfl rfl)
theorem dX8_leastScale_56 : decode cX8_leastScale 56 = .ok (.ldiv, 1) := dk_109 (dk_at dksX8_leastScale_2 9 rfl rfl)
theorem dX8_leastScale_57 : decode cX8_leastScale 57 = .ok (.lload 5, 2) := dk_22 5 (dk_at dksX8_leastScale_2 10 rfl rfl)
theorem dX8_leastScale_59 : decode cX8_leastScale 59 = .ok (.lmul, 1) := dk_105 (dk_at dksX8_leastScale_2 12 rfl rfl)
theorem dX8_leastScale_60 : decode cX8_leastScale 60 = .ok (.lstore_n 2, 1) := dk_65 (dk_at dksX8_leastScale_2 13 rfl rfl)
theorem dX8_leastScale_61 : decode cX8_leastScale 61 = .ok (.iinc 4 1, 3) := dk_132 4 1 (dk_at dksX8_leastScale_2 14 rfl rfl)
theorem dX8_leastScale_64 : decode cX8_leastScale 64 = .ok (.goto (-59), 3) := dk_167 255 197 (dk_at dksX8_leastScale_2 17 rfl rfl)
theorem dX8_leastScale_67 : decode cX8_leastScale 67 = .ok (.lload_n 2, 1) := dk_32 (dk_at dksX8_leastScale_2 20 rfl rfl)
theorem dX8_leastScale_68 : decode cX8_leastScale 68 = .ok (.lreturn, 1) := dk_173 (dk_at dksX8_leastScale_2 21 rfl rfl)
abbrev cX8_judge : ByteArray := prog_24_method_73_code
def yX8_judge : MethodName := ⟨RX8, "judge", "(III)I"⟩
def dkwX8_judge_4 : List UInt8 := [182, 1, 60, 154, 0, 10, 4, 21, 4, 96, 167, 0, 4, 3, 172]
abbrev dktX8_judge_4 : List UInt8 := dkwX8_judge_4 ++ []
def dkwX8_judge_3 : List UInt8 := [21, 4, 42, 180, 0, 19, 42, 180, 0, 23, 104, 161, 0, 17, 42, 28, 42, 180, 0, 29, 27, 46]
abbrev dktX8_judge_3 : List UInt8 := dkwX8_judge_3 ++ dktX8_judge_4
def dkwX8_judge_2 : List UInt8 := [182, 1, 53, 172, 42, 28, 42, 180, 0, 29, 27, 46, 42, 180, 0, 32, 27, 46, 29, 182, 1, 56, 54, 4]
abbrev dktX8_judge_2 : List UInt8 := dkwX8_judge_2 ++ dktX8_judge_3
def dkwX8_judge_1 : List UInt8 := [180, 0, 29, 27, 46, 182, 0, 209, 154, 0, 6, 16, 252, 172, 42, 28, 182, 1, 53, 156, 0, 9, 42, 28]
abbrev dktX8_judge_1 : List UInt8 := dkwX8_judge_1 ++ dktX8_judge_2
def dkwX8_judge_0 : List UInt8 := [42, 27, 182, 0, 203, 153, 0, 15, 28, 184, 1, 47, 153, 0, 8, 29, 4, 162, 0, 5, 2, 172, 42, 42]
abbrev dktX8_judge_0 : List UInt8 := dkwX8_judge_0 ++ dktX8_judge_1
theorem dksX8_judge_0 : cX8_judge.data.toList.drop 0 = dktX8_judge_0 := by decide +kernel
theorem dksX8_judge_1 : cX8_judge.data.toList.drop 24 = dktX8_judge_1 := dk_seg dksX8_judge_0 24 rfl rfl
theorem dksX8_judge_2 : cX8_judge.data.toList.drop 48 = dktX8_judge_2 := dk_seg dksX8_judge_1 24 rfl rfl
theorem dksX8_judge_3 : cX8_judge.data.toList.drop 72 = dktX8_judge_3 := dk_seg dksX8_judge_2 24 rfl rfl
theorem dksX8_judge_4 : cX8_judge.data.toList.drop 94 = dktX8_judge_4 := dk_seg dksX8_judge_3 22 rfl rfl
theorem dX8_judge_0 : decode cX8_judge 0 = .ok (.aload_n 0, 1) := dk_42 (dk_at dksX8_judge_0 0 rfl rfl)
theorem dX8_judge_1 : decode cX8_judge 1 = .ok (.iload_n 1, 1) := dk_27 (dk_at dksX8_judge_0 1 rfl rfl)
theorem dX8_judge_2 : decode cX8_judge 2 = .ok (.invokevirtual 203, 3) := dk_182 0 203 (dk_at dksX8_judge_0 2 rfl rfl)
theorem dX8_judge_5 : decode cX8_judge 5 = .ok (.ifCond .eq 15, 3) := dk_153 0 15 (dk_at dksX8_judge_0 5 rfl rfl)
theorem dX8_judge_8 : decode cX8_judge 8 = .ok (.iload_n 2, 1) := dk_28 (dk_at dksX8_judge_0 8 rfl rfl)
theorem dX8_judge_9 : decode cX8_judge 9 = .ok (.invokestatic 303, 3) := dk_184 1 47 (dk_at dksX8_judge_0 9 rfl rfl)
theorem dX8_judge_12 : decode cX8_judge 12 = .ok (.ifCond .eq 8, 3) := dk_153 0 8 (dk_at dksX8_judge_0 12 rfl rfl)
theorem dX8_judge_15 : decode cX8_judge 15 = .ok (.iload_n 3, 1) := dk_29 (dk_at dksX8_judge_0 15 rfl rfl)
theorem dX8_judge_16 : decode cX8_judge 16 = .ok (.iconst 1, 1) := dk_4 (dk_at dksX8_judge_0 16 rfl rfl)
theorem dX8_judge_17 : decode cX8_judge 17 = .ok (.if_icmp .ge 5, 3) := dk_162 0 5 (dk_at dksX8_judge_0 17 rfl rfl)
theorem dX8_judge_20 : decode cX8_judge 20 = .ok (.iconst (-1), 1) := dk_2 (dk_at dksX8_judge_0 20 rfl rfl)
theorem dX8_judge_21 : decode cX8_judge 21 = .ok (.ireturn, 1) := dk_172 (dk_at dksX8_judge_0 21 rfl rfl)
theorem dX8_judge_22 : decode cX8_judge 22 = .ok (.aload_n 0, 1) := dk_42 (dk_at dksX8_judge_0 22 rfl rfl)
theorem dX8_judge_23 : decode cX8_judge 23 = .ok (.aload_n 0, 1) := dk_42 (dk_at dksX8_judge_0 23 rfl rfl)
theorem dX8_judge_24 : decode cX8_judge 24 = .ok (.getfield 29, 3) := dk_180 0 29 (dk_at dksX8_judge_1 0 rfl rfl)
theorem dX8_judge_27 : decode cX8_judge 27 = .ok (.iload_n 1, 1) := dk_27 (dk_at dksX8_judge_1 3 rfl rfl)
theorem dX8_judge_28 : decode cX8_judge 28 = .ok (.iaload, 1) := dk_46 (dk_at dksX8_judge_1 4 rfl rfl)
theorem dX8_judge_29 : decode cX8_judge 29 = .ok (.invokevirtual 209, 3) := dk_182 0 209 (dk_at dksX8_judge_1 5 rfl rfl)
theorem dX8_judge_32 : decode cX8_judge 32 = .ok (.ifCond .ne 6, 3) := dk_154 0 6 (dk_at dksX8_judge_1 8 rfl rfl)
theorem dX8_judge_35 : decode cX8_judge 35 = .ok (.bipush (-4), 2) := dk_16 252 (dk_at dksX8_judge_1 11 rfl rfl)
theorem dX8_judge_37 : decode cX8_judge 37 = .ok (.ireturn, 1) := dk_172 (dk_at dksX8_judge_1 13 rfl rfl)
theorem dX8_judge_38 : decode cX8_judge 38 = .ok (.aload_n 0, 1) := dk_42 (dk_at dksX8_judge_1 14 rfl rfl)
theorem dX8_judge_39 : decode cX8_judge 39 = .ok (.iload_n 2, 1) := dk_28 (dk_at dksX8_judge_1 15 rfl rfl)
theorem dX8_judge_40 : decode cX8_judge 40 = .ok (.invokevirtual 309, 3) := dk_182 1 53 (dk_at dksX8_judge_1 16 rfl rfl)
theorem dX8_judge_43 : decode cX8_judge 43 = .ok (.ifCond .ge 9, 3) := dk_156 0 9 (dk_at dksX8_judge_1 19 rfl rfl)
theorem dX8_judge_46 : decode cX8_judge 46 = .ok (.aload_n 0, 1) := dk_42 (dk_at dksX8_judge_1 22 rfl rfl)
theorem dX8_judge_47 : decode cX8_judge 47 = .ok (.iload_n 2, 1) := dk_28 (dk_at dksX8_judge_1 23 rfl rfl)
theorem dX8_judge_48 : decode cX8_judge 48 = .ok (.invokevirtual 309, 3) := dk_182 1 53 (dk_at dksX8_judge_2 0 rfl rfl)
theorem dX8_judge_51 : decode cX8_judge 51 = .ok (.ireturn, 1) := dk_172 (dk_at dksX8_judge_2 3 rfl rfl)
theorem dX8_judge_52 : decode cX8_judge 52 = .ok (.aload_n 0, 1) := dk_42 (dk_at dksX8_judge_2 4 rfl rfl)
theorem dX8_judge_53 : decode cX8_judge 53 = .ok (.iload_n 2, 1) := dk_28 (dk_at dksX8_judge_2 5 rfl rfl)
theorem dX8_judge_54 : decode cX8_judge 54 = .ok (.aload_n 0, 1) := dk_42 (dk_at dksX8_judge_2 6 rfl rfl)
theorem dX8_judge_55 : decode cX8_judge 55 = .ok (.getfield 29, 3) := dk_180 0 29 (dk_at dksX8_judge_2 7 rfl rfl)
theorem dX8_judge_58 : decode cX8_judge 58 = .ok (.iload_n 1, 1) := dk_27 (dk_at dksX8_judge_2 10 rfl rfl)
theorem dX8_judge_59 : decode cX8_judge 59 = .ok (.iaload, 1) := dk_46 (dk_at dksX8_judge_2 11 rfl rfl)
theorem dX8_judge_60 : decode cX8_judge 60 = .ok (.aload_n 0, 1) := dk_42 (dk_at dksX8_judge_2 12 rfl rfl)
theorem dX8_judge_61 : decode cX8_judge 61 = .ok (.getfield 32, 3) := dk_180 0 32 (dk_at dksX8_judge_2 13 rfl rfl)
theorem dX8_judge_64 : decode cX8_judge 64 = .ok (.iload_n 1, 1) := dk_27 (dk_at dksX8_judge_2 16 rfl rfl)
theorem dX8_judge_65 : decode cX8_judge 65 = .ok (.iaload, 1) := dk_46 (dk_at dksX8_judge_2 17 rfl rfl)
theorem dX8_judge_66 : decode cX8_judge 66 = .ok (.iload_n 3, 1) := dk_29 (dk_at dksX8_judge_2 18 rfl rfl)
theorem dX8_judge_67 : decode cX8_judge 67 = .ok (.invokevirtual 312, 3) := dk_182 1 56 (dk_at dksX8_judge_2 19 rfl rfl)
theorem dX8_judge_70 : decode cX8_judge 70 = .ok (.istore 4, 2) := dk_54 4 (dk_at dksX8_judge_2 22 rfl rfl)
theorem dX8_judge_72 : decode cX8_judge 72 = .ok (.iload 4, 2) := dk_21 4 (dk_at dksX8_judge_3 0 rfl rfl)
theorem dX8_judge_74 : decode cX8_judge 74 = .ok (.aload_n 0, 1) := dk_42 (dk_at dksX8_judge_3 2 rfl rfl)
theorem dX8_judge_75 : decode cX8_judge 75 = .ok (.getfield 19, 3) := dk_180 0 19 (dk_at dksX8_judge_3 3 rfl rfl)
theorem dX8_judge_78 : decode cX8_judge 78 = .ok (.aload_n 0, 1) := dk_42 (dk_at dksX8_judge_3 6 rfl rfl)
theorem dX8_judge_79 : decode cX8_judge 79 = .ok (.getfield 23, 3) := dk_180 0 23 (dk_at dksX8_judge_3 7 rfl rfl)
theorem dX8_judge_82 : decode cX8_judge 82 = .ok (.imul, 1) := dk_104 (dk_at dksX8_judge_3 10 rfl rfl)
theorem dX8_judge_83 : decode cX8_judge 83 = .ok (.if_icmp .lt 17, 3) := dk_161 0 17 (dk_at dksX8_judge_3 11 rfl rfl)
theorem dX8_judge_86 : decode cX8_judge 86 = .ok (.aload_n 0, 1) := dk_42 (dk_at dksX8_judge_3 14 rfl rfl)
theorem dX8_judge_87 : decode cX8_judge 87 = .ok (.iload_n 2, 1) := dk_28 (dk_at dksX8_judge_3 15 rfl rfl)
theorem dX8_judge_88 : decode cX8_judge 88 = .ok (.aload_n 0, 1) := dk_42 (dk_at dksX8_judge_3 16 rfl rfl)
theorem dX8_judge_89 : decode cX8_judge 89 = .ok (.getfield 29, 3) := dk_180 0 29 (dk_at dksX8_judge_3 17 rfl rfl)
theorem dX8_judge_92 : decode cX8_judge 92 = .ok (.iload_n 1, 1) := dk_27 (dk_at dksX8_judge_3 20 rfl rfl)
theorem dX8_judge_93 : decode cX8_judge 93 = .ok (.iaload, 1) := dk_46 (dk_at dksX8_judge_3 21 rfl rfl)
theorem dX8_judge_94 : decode cX8_judge 94 = .ok (.invokevirtual 316, 3) := dk_182 1 60 (dk_at dksX8_judge_4 0 rfl rfl)
theorem dX8_judge_97 : decode cX8_judge 97 = .ok (.ifCond .ne 10, 3) := dk_154 0 10 (dk_at dksX8_judge_4 3 rfl rfl)
theorem dX8_judge_100 : decode cX8_judge 100 = .ok (.iconst 1, 1) := dk_4 (dk_at dksX8_judge_4 6 rfl rfl)
theorem dX8_judge_101 : decode cX8_judge 101 = .ok (.iload 4, 2) := dk_21 4 (dk_at dksX8_judge_4 7 rfl rfl)
theorem dX8_judge_103 : decode cX8_judge 103 = .ok (.iadd, 1) := dk_96 (dk_at dksX8_judge_4 9 rfl rfl)
theorem dX8_judge_104 : decode cX8_judge 104 = .ok (.goto 4, 3) := dk_167 0 4 (dk_at dksX8_judge_4 10 rfl rfl)
theorem dX8_judge_107 : decode cX8_judge 107 = .ok (.iconst 0, 1) := dk_3 (dk_at dksX8_judge_4 13 rfl rfl)
theorem dX8_judge_108 : decode cX8_judge 108 = .ok (.ireturn, 1) := dk_172 (dk_at dksX8_judge_4 14 rfl rfl)
abbrev cX8_against : ByteArray := prog_24_method_72_code
def yX8_against : MethodName := ⟨RX8, "against", "(I)I"⟩
def dkwX8_against_2 : List UInt8 := [167, 0, 5, 16, 244, 172]
abbrev dktX8_against_2 : List UInt8 := dkwX8_against_2 ++ []
def dkwX8_against_1 : List UInt8 := [16, 243, 172, 42, 180, 0, 70, 27, 46, 42, 180, 0, 19, 42, 180, 0, 23, 104, 160, 0, 7, 3]
abbrev dktX8_against_1 : List UInt8 := dkwX8_against_1 ++ dktX8_against_2
def dkwX8_against_0 : List UInt8 := [42, 180, 0, 67, 27, 46, 5, 159, 0, 20, 42, 180, 0, 67, 27, 46, 156, 0, 8, 16, 245, 167, 0, 5]
abbrev dktX8_against_0 : List UInt8 := dkwX8_against_0 ++ dktX8_against_1
theorem dksX8_against_0 : cX8_against.data.toList.drop 0 = dktX8_against_0 := by decide +kernel
theorem dksX8_against_1 : cX8_against.data.toList.drop 24 = dktX8_against_1 := dk_seg dksX8_against_0 24 rfl rfl
theorem dksX8_against_2 : cX8_against.data.toList.drop 46 = dktX8_against_2 := dk_seg dksX8_against_1 22 rfl rfl
theorem dX8_against_0 : decode cX8_against 0 = .ok (.aload_n 0, 1) := dk_42 (dk_at dksX8_against_0 0 rfl rfl)
theorem dX8_against_1 : decode cX8_against 1 = .ok (.getfield 67, 3) := dk_180 0 67 (dk_at dksX8_against_0 1 rfl rfl)
theorem dX8_against_4 : decode cX8_against 4 = .ok (.iload_n 1, 1) := dk_27 (dk_at dksX8_against_0 4 rfl rfl)
theorem dX8_against_5 : decode cX8_against 5 = .ok (.iaload, 1) := dk_46 (dk_at dksX8_against_0 5 rfl rfl)
theorem dX8_against_6 : decode cX8_against 6 = .ok (.iconst 2, 1) := dk_5 (dk_at dksX8_against_0 6 rfl rfl)
theorem dX8_against_7 : decode cX8_against 7 = .ok (.if_icmp .eq 20, 3) := dk_159 0 20 (dk_at dksX8_against_0 7 rfl rfl)
theorem dX8_against_10 : decode cX8_against 10 = .ok (.aload_n 0, 1) := dk_42 (dk_at dksX8_against_0 10 rfl rfl)
theorem dX8_against_11 : decode cX8_against 11 = .ok (.getfield 67, 3) := dk_180 0 67 (dk_at dksX8_against_0 11 rfl rfl)
theorem dX8_against_14 : decode cX8_against 14 = .ok (.iload_n 1, 1) := dk_27 (dk_at dksX8_against_0 14 rfl rfl)
theorem dX8_against_15 : decode cX8_against 15 = .ok (.iaload, 1) := dk_46 (dk_at dksX8_against_0 15 rfl rfl)
theorem dX8_against_16 : decode cX8_against 16 = .ok (.ifCond .ge 8, 3) := dk_156 0 8 (dk_at dksX8_against_0 16 rfl rfl)
theorem dX8_against_19 : decode cX8_against 19 = .ok (.bipush (-11), 2) := dk_16 245 (dk_at dksX8_against_0 19 rfl rfl)
theorem dX8_against_21 : decode cX8_against 21 = .ok (.goto 5, 3) := dk_167 0 5 (dk_at dksX8_against_0 21 rfl rfl)
theorem dX8_against_24 : decode cX8_against 24 = .ok (.bipush (-13), 2) := dk_16 243 (dk_at dksX8_against_1 0 rfl rfl)
theorem dX8_against_26 : decode cX8_against 26 = .ok (.ireturn, 1) := dk_172 (dk_at dksX8_against_1 2 rfl rfl)
theorem dX8_against_27 : decode cX8_against 27 = .ok (.aload_n 0, 1) := dk_42 (dk_at dksX8_against_1 3 rfl rfl)
theorem dX8_against_28 : decode cX8_against 28 = .ok (.getfield 70, 3) := dk_180 0 70 (dk_at dksX8_against_1 4 rfl rfl)
theorem dX8_against_31 : decode cX8_against 31 = .ok (.iload_n 1, 1) := dk_27 (dk_at dksX8_against_1 7 rfl rfl)
theorem dX8_against_32 : decode cX8_against 32 = .ok (.iaload, 1) := dk_46 (dk_at dksX8_against_1 8 rfl rfl)
theorem dX8_against_33 : decode cX8_against 33 = .ok (.aload_n 0, 1) := dk_42 (dk_at dksX8_against_1 9 rfl rfl)
theorem dX8_against_34 : decode cX8_against 34 = .ok (.getfield 19, 3) := dk_180 0 19 (dk_at dksX8_against_1 10 rfl rfl)
theorem dX8_against_37 : decode cX8_against 37 = .ok (.aload_n 0, 1) := dk_42 (dk_at dksX8_against_1 13 rfl rfl)
theorem dX8_against_38 : decode cX8_against 38 = .ok (.getfield 23, 3) := dk_180 0 23 (dk_at dksX8_against_1 14 rfl rfl)
theorem dX8_against_41 : decode cX8_against 41 = .ok (.imul, 1) := dk_104 (dk_at dksX8_against_1 17 rfl rfl)
theorem dX8_against_42 : decode cX8_against 42 = .ok (.if_icmp .ne 7, 3) := dk_160 0 7 (dk_at dksX8_against_1 18 rfl rfl)
theorem dX8_against_45 : decode cX8_against 45 = .ok (.iconst 0, 1) := dk_3 (dk_at dksX8_against_1 21 rfl rfl)
theorem dX8_against_46 : decode cX8_against 46 = .ok (.goto 5, 3) := dk_167 0 5 (dk_at dksX8_against_2 0 rfl rfl)
theorem dX8_against_49 : decode cX8_against 49 = .ok (.bipush (-12), 2) := dk_16 244 (dk_at dksX8_against_2 3 rfl rfl)
theorem dX8_against_51 : decode cX8_against 51 = .ok (.ireturn, 1) := dk_172 (dk_at dksX8_against_2 5 rfl rfl)
abbrev cX8_firstOff : ByteArray := prog_24_method_70_code
def yX8_firstOff : MethodName := ⟨RX8, "firstOff", "(IIII)I"⟩
def dkwX8_firstOff_6 : List UInt8 := [180, 0, 23, 104, 172]
abbrev dktX8_firstOff_6 : List UInt8 := dkwX8_firstOff_6 ++ []
def dkwX8_firstOff_5 : List UInt8 := [182, 0, 128, 133, 105, 148, 153, 0, 6, 21, 5, 172, 132, 5, 1, 167, 255, 127, 42, 180, 0, 19, 42]
abbrev dktX8_firstOff_5 : List UInt8 := dkwX8_firstOff_5 ++ dktX8_firstOff_6
def dkwX8_firstOff_4 : List UInt8 := [167, 255, 186, 22, 6, 21, 4, 133, 42, 5, 21, 5, 42, 180, 0, 23, 108, 21, 5, 42, 180, 0, 23, 112]
abbrev dktX8_firstOff_4 : List UInt8 := dkwX8_firstOff_4 ++ dktX8_firstOff_5
def dkwX8_firstOff_3 : List UInt8 := [112, 182, 0, 222, 133, 42, 180, 0, 73, 16, 40, 27, 104, 21, 8, 96, 47, 105, 97, 55, 6, 132, 8, 1]
abbrev dktX8_firstOff_3 : List UInt8 := dkwX8_firstOff_3 ++ dktX8_firstOff_4
def dkwX8_firstOff_2 : List UInt8 := [180, 0, 23, 108, 21, 5, 42, 180, 0, 23, 112, 21, 8, 42, 180, 0, 23, 108, 21, 8, 42, 180, 0, 23]
abbrev dktX8_firstOff_2 : List UInt8 := dkwX8_firstOff_2 ++ dktX8_firstOff_3
def dkwX8_firstOff_1 : List UInt8 := [21, 8, 42, 180, 0, 19, 42, 180, 0, 23, 104, 162, 0, 62, 22, 6, 42, 28, 29, 21, 5, 42]
abbrev dktX8_firstOff_1 : List UInt8 := dkwX8_firstOff_1 ++ dktX8_firstOff_2
def dkwX8_firstOff_0 : List UInt8 := [3, 54, 5, 21, 5, 42, 180, 0, 19, 42, 180, 0, 23, 104, 162, 0, 121, 9, 55, 6, 3, 54, 8]
abbrev dktX8_firstOff_0 : List UInt8 := dkwX8_firstOff_0 ++ dktX8_firstOff_1
theorem dksX8_firstOff_0 : cX8_firstOff.data.toList.drop 0 = dktX8_firstOff_0 := by decide +kernel
theorem dksX8_firstOff_1 : cX8_firstOff.data.toList.drop 23 = dktX8_firstOff_1 := dk_seg dksX8_firstOff_0 23 rfl rfl
theorem dksX8_firstOff_2 : cX8_firstOff.data.toList.drop 45 = dktX8_firstOff_2 := dk_seg dksX8_firstOff_1 22 rfl rfl
theorem dksX8_firstOff_3 : cX8_firstOff.data.toList.drop 69 = dktX8_firstOff_3 := dk_seg dksX8_firstOff_2 24 rfl rfl
theorem dksX8_firstOff_4 : cX8_firstOff.data.toList.drop 93 = dktX8_firstOff_4 := dk_seg dksX8_firstOff_3 24 rfl rfl
theorem dksX8_firstOff_5 : cX8_firstOff.data.toList.drop 117 = dktX8_firstOff_5 := dk_seg dksX8_firstOff_4 24 rfl rfl
theorem dksX8_firstOff_6 : cX8_firstOff.data.toList.drop 140 = dktX8_firstOff_6 := dk_seg dksX8_firstOff_5 23 rfl rfl
theorem dX8_firstOff_0 : decode cX8_firstOff 0 = .ok (.iconst 0, 1) := dk_3 (dk_at dksX8_firstOff_0 0 rfl rfl)
theorem dX8_firstOff_1 : decode cX8_firstOff 1 = .ok (.istore 5, 2) := dk_54 5 (dk_at dksX8_firstOff_0 1 rfl rfl)
theorem dX8_firstOff_3 : decode cX8_firstOff 3 = .ok (.iload 5, 2) := dk_21 5 (dk_at dksX8_firstOff_0 3 rfl rfl)
theorem dX8_firstOff_5 : decode cX8_firstOff 5 = .ok (.aload_n 0, 1) := dk_42 (dk_at dksX8_firstOff_0 5 rfl rfl)
theorem dX8_firstOff_6 : decode cX8_firstOff 6 = .ok (.getfield 19, 3) := dk_180 0 19 (dk_at dksX8_firstOff_0 6 rfl rfl)
theorem dX8_firstOff_9 : decode cX8_firstOff 9 = .ok (.aload_n 0, 1) := dk_42 (dk_at dksX8_firstOff_0 9 rfl rfl)
theorem dX8_firstOff_10 : decode cX8_firstOff 10 = .ok (.getfield 23, 3) := dk_180 0 23 (dk_at dksX8_firstOff_0 10 rfl rfl)
theorem dX8_firstOff_13 : decode cX8_firstOff 13 = .ok (.imul, 1) := dk_104 (dk_at dksX8_firstOff_0 13 rfl rfl)
theorem dX8_firstOff_14 : decode cX8_firstOff 14 = .ok (.if_icmp .ge 121, 3) := dk_162 0 121 (dk_at dksX8_firstOff_0 14 rfl rfl)
theorem dX8_firstOff_17 : decode cX8_firstOff 17 = .ok (.lconst 0, 1) := dk_9 (dk_at dksX8_firstOff_0 17 rfl rfl)
theorem dX8_firstOff_18 : decode cX8_firstOff 18 = .ok (.lstore 6, 2) := dk_55 6 (dk_at dksX8_firstOff_0 18 rfl rfl)
theorem dX8_firstOff_20 : decode cX8_firstOff 20 = .ok (.iconst 0, 1) := dk_3 (dk_at dksX8_firstOff_0 20 rfl rfl)
theorem dX8_firstOff_21 : decode cX8_firstOff 21 = .ok (.istore 8, 2) := dk_54 8 (dk_at dksX8_firstOff_0 21 rfl rfl)
theorem dX8_firstOff_23 : decode cX8_firstOff 23 = .ok (.iload 8, 2) := dk_21 8 (dk_at dksX8_firstOff_1 0 rfl rfl)
theorem dX8_firstOff_25 : decode cX8_firstOff 25 = .ok (.aload_n 0, 1) := dk_42 (dk_at dksX8_firstOff_1 2 rfl rfl)
theorem dX8_firstOff_26 : decode cX8_firstOff 26 = .ok (.getfield 19, 3) := dk_180 0 19 (dk_at dksX8_firstOff_1 3 rfl rfl)
theorem dX8_firstOff_29 : decode cX8_firstOff 29 = .ok (.aload_n 0, 1) := dk_42 (dk_at dksX8_firstOff_1 6 rfl rfl)
theorem dX8_firstOff_30 : decode cX8_firstOff 30 = .ok (.getfield 23, 3) := dk_180 0 23 (dk_at dksX8_firstOff_1 7 rfl rfl)
theorem dX8_firstOff_33 : decode cX8_firstOff 33 = .ok (.imul, 1) := dk_104 (dk_at dksX8_firstOff_1 10 rfl rfl)
theorem dX8_firstOff_34 : decode cX8_firstOff 34 = .ok (.if_icmp .ge 62, 3) := dk_162 0 62 (dk_at dksX8_firstOff_1 11 rfl rfl)
theorem dX8_firstOff_37 : decode cX8_firstOff 37 = .ok (.lload 6, 2) := dk_22 6 (dk_at dksX8_firstOff_1 14 rfl rfl)
theorem dX8_firstOff_39 : decode cX8_firstOff 39 = .ok (.aload_n 0, 1) := dk_42 (dk_at dksX8_firstOff_1 16 rfl rfl)
theorem dX8_firstOff_40 : decode cX8_firstOff 40 = .ok (.iload_n 2, 1) := dk_28 (dk_at dksX8_firstOff_1 17 rfl rfl)
theorem dX8_firstOff_41 : decode cX8_firstOff 41 = .ok (.iload_n 3, 1) := dk_29 (dk_at dksX8_firstOff_1 18 rfl rfl)
theorem dX8_firstOff_42 : decode cX8_firstOff 42 = .ok (.iload 5, 2) := dk_21 5 (dk_at dksX8_firstOff_1 19 rfl rfl)
theorem dX8_firstOff_44 : decode cX8_firstOff 44 = .ok (.aload_n 0, 1) := dk_42 (dk_at dksX8_firstOff_1 21 rfl rfl)
theorem dX8_firstOff_45 : decode cX8_firstOff 45 = .ok (.getfield 23, 3) := dk_180 0 23 (dk_at dksX8_firstOff_2 0 rfl rfl)
theorem dX8_firstOff_48 : decode cX8_firstOff 48 = .ok (.idiv, 1) := dk_108 (dk_at dksX8_firstOff_2 3 rfl rfl)
theorem dX8_firstOff_49 : decode cX8_firstOff 49 = .ok (.iload 5, 2) := dk_21 5 (dk_at dksX8_firstOff_2 4 rfl rfl)
theorem dX8_firstOff_51 : decode cX8_firstOff 51 = .ok (.aload_n 0, 1) := dk_42 (dk_at dksX8_firstOff_2 6 rfl rfl)
theorem dX8_firstOff_52 : decode cX8_firstOff 52 = .ok (.getfield 23, 3) := dk_180 0 23 (dk_at dksX8_firstOff_2 7 rfl rfl)
theorem dX8_firstOff_55 : decode cX8_firstOff 55 = .ok (.irem, 1) := dk_112 (dk_at dksX8_firstOff_2 10 rfl rfl)
theorem dX8_firstOff_56 : decode cX8_firstOff 56 = .ok (.iload 8, 2) := dk_21 8 (dk_at dksX8_firstOff_2 11 rfl rfl)
theorem dX8_firstOff_58 : decode cX8_firstOff 58 = .ok (.aload_n 0, 1) := dk_42 (dk_at dksX8_firstOff_2 13 rfl rfl)
theorem dX8_firstOff_59 : decode cX8_firstOff 59 = .ok (.getfield 23, 3) := dk_180 0 23 (dk_at dksX8_firstOff_2 14 rfl rfl)
theorem dX8_firstOff_62 : decode cX8_firstOff 62 = .ok (.idiv, 1) := dk_108 (dk_at dksX8_firstOff_2 17 rfl rfl)
theorem dX8_firstOff_63 : decode cX8_firstOff 63 = .ok (.iload 8, 2) := dk_21 8 (dk_at dksX8_firstOff_2 18 rfl rfl)
theorem dX8_firstOff_65 : decode cX8_firstOff 65 = .ok (.aload_n 0, 1) := dk_42 (dk_at dksX8_firstOff_2 20 rfl rfl)
theorem dX8_firstOff_66 : decode cX8_firstOff 66 = .ok (.getfield 23, 3) := dk_180 0 23 (dk_at dksX8_firstOff_2 21 rfl rfl)
theorem dX8_firstOff_69 : decode cX8_firstOff 69 = .ok (.irem, 1) := dk_112 (dk_at dksX8_firstOff_3 0 rfl rfl)
theorem dX8_firstOff_70 : decode cX8_firstOff 70 = .ok (.invokevirtual 222, 3) := dk_182 0 222 (dk_at dksX8_firstOff_3 1 rfl rfl)
theorem dX8_firstOff_73 : decode cX8_firstOff 73 = .ok (.i2l, 1) := dk_133 (dk_at dksX8_firstOff_3 4 rfl rfl)
theorem dX8_firstOff_74 : decode cX8_firstOff 74 = .ok (.aload_n 0, 1) := dk_42 (dk_at dksX8_firstOff_3 5 rfl rfl)
theorem dX8_firstOff_75 : decode cX8_firstOff 75 = .ok (.getfield 73, 3) := dk_180 0 73 (dk_at dksX8_firstOff_3 6 rfl rfl)
theorem dX8_firstOff_78 : decode cX8_firstOff 78 = .ok (.bipush 40, 2) := dk_16 40 (dk_at dksX8_firstOff_3 9 rfl rfl)
theorem dX8_firstOff_80 : decode cX8_firstOff 80 = .ok (.iload_n 1, 1) := dk_27 (dk_at dksX8_firstOff_3 11 rfl rfl)
theorem dX8_firstOff_81 : decode cX8_firstOff 81 = .ok (.imul, 1) := dk_104 (dk_at dksX8_firstOff_3 12 rfl rfl)
theorem dX8_firstOff_82 : decode cX8_firstOff 82 = .ok (.iload 8, 2) := dk_21 8 (dk_at dksX8_firstOff_3 13 rfl rfl)
theorem dX8_firstOff_84 : decode cX8_firstOff 84 = .ok (.iadd, 1) := dk_96 (dk_at dksX8_firstOff_3 15 rfl rfl)
theorem dX8_firstOff_85 : decode cX8_firstOff 85 = .ok (.laload, 1) := dk_47 (dk_at dksX8_firstOff_3 16 rfl rfl)
theorem dX8_firstOff_86 : decode cX8_firstOff 86 = .ok (.lmul, 1) := dk_105 (dk_at dksX8_firstOff_3 17 rfl rfl)
theorem dX8_firstOff_87 : decode cX8_firstOff 87 = .ok (.ladd, 1) := dk_97 (dk_at dksX8_firstOff_3 18 rfl rfl)
theorem dX8_firstOff_88 : decode cX8_firstOff 88 = .ok (.lstore 6, 2) := dk_55 6 (dk_at dksX8_firstOff_3 19 rfl rfl)
theorem dX8_firstOff_90 : decode cX8_firstOff 90 = .ok (.iinc 8 1, 3) := dk_132 8 1 (dk_at dksX8_firstOff_3 21 rfl rfl)
theorem dX8_firstOff_93 : decode cX8_firstOff 93 = .ok (.goto (-70), 3) := dk_167 255 186 (dk_at dksX8_firstOff_4 0 rfl rfl)
theorem dX8_firstOff_96 : decode cX8_firstOff 96 = .ok (.lload 6, 2) := dk_22 6 (dk_at dksX8_firstOff_4 3 rfl rfl)
theorem dX8_firstOff_98 : decode cX8_firstOff 98 = .ok (.iload 4, 2) := dk_21 4 (dk_at dksX8_firstOff_4 5 rfl rfl)
theorem dX8_firstOff_100 : decode cX8_firstOff 100 = .ok (.i2l, 1) := dk_133 (dk_at dksX8_firstOff_4 7 rfl rfl)
theorem dX8_firstOff_101 : decode cX8_firstOff 101 = .ok (.aload_n 0, 1) := dk_42 (dk_at dksX8_firstOff_4 8 rfl rfl)
theorem dX8_firstOff_102 : decode cX8_firstOff 102 = .ok (.iconst 2, 1) := dk_5 (dk_at dksX8_firstOff_4 9 rfl rfl)
theorem dX8_firstOff_103 : decode cX8_firstOff 103 = .ok (.iload 5, 2) := dk_21 5 (dk_at dksX8_firstOff_4 10 rfl rfl)
theorem dX8_firstOff_105 : decode cX8_firstOff 105 = .ok (.aload_n 0, 1) := dk_42 (dk_at dksX8_firstOff_4 12 rfl rfl)
theorem dX8_firstOff_106 : decode cX8_firstOff 106 = .ok (.getfield 23, 3) := dk_180 0 23 (dk_at dksX8_firstOff_4 13 rfl rfl)
theorem dX8_firstOff_109 : decode cX8_firstOff 109 = .ok (.idiv, 1) := dk_108 (dk_at dksX8_firstOff_4 16 rfl rfl)
theorem dX8_firstOff_110 : decode cX8_firstOff 110 = .ok (.iload 5, 2) := dk_21 5 (dk_at dksX8_firstOff_4 17 rfl rfl)
theorem dX8_firstOff_112 : decode cX8_firstOff 112 = .ok (.aload_n 0, 1) := dk_42 (dk_at dksX8_firstOff_4 19 rfl rfl)
theorem dX8_firstOff_113 : decode cX8_firstOff 113 = .ok (.getfield 23, 3) := dk_180 0 23 (dk_at dksX8_firstOff_4 20 rfl rfl)
theorem dX8_firstOff_116 : decode cX8_firstOff 116 = .ok (.irem, 1) := dk_112 (dk_at dksX8_firstOff_4 23 rfl rfl)
theorem dX8_firstOff_117 : decode cX8_firstOff 117 = .ok (.invokevirtual 128, 3) := dk_182 0 128 (dk_at dksX8_firstOff_5 0 rfl rfl)
theorem dX8_firstOff_120 : decode cX8_firstOff 120 = .ok (.i2l, 1) := dk_133 (dk_at dksX8_firstOff_5 3 rfl rfl)
theorem dX8_firstOff_121 : decode cX8_firstOff 121 = .ok (.lmul, 1) := dk_105 (dk_at dksX8_firstOff_5 4 rfl rfl)
theorem dX8_firstOff_122 : decode cX8_firstOff 122 = .ok (.lcmp, 1) := dk_148 (dk_at dksX8_firstOff_5 5 rfl rfl)
theorem dX8_firstOff_123 : decode cX8_firstOff 123 = .ok (.ifCond .eq 6, 3) := dk_153 0 6 (dk_at dksX8_firstOff_5 6 rfl rfl)
theorem dX8_firstOff_126 : decode cX8_firstOff 126 = .ok (.iload 5, 2) := dk_21 5 (dk_at dksX8_firstOff_5 9 rfl rfl)
theorem dX8_firstOff_128 : decode cX8_firstOff 128 = .ok (.ireturn, 1) := dk_172 (dk_at dksX8_firstOff_5 11 rfl rfl)
theorem dX8_firstOff_129 : decode cX8_firstOff 129 = .ok (.iinc 5 1, 3) := dk_132 5 1 (dk_at dksX8_firstOff_5 12 rfl rfl)
theorem dX8_firstOff_132 : decode cX8_firstOff 132 = .ok (.goto (-129), 3) := dk_167 255 127 (dk_at dksX8_firstOff_5 15 rfl rfl)
theorem dX8_firstOff_135 : decode cX8_firstOff 135 = .ok (.aload_n 0, 1) := dk_42 (dk_at dksX8_firstOff_5 18 rfl rfl)
theorem dX8_firstOff_136 : decode cX8_firstOff 136 = .ok (.getfield 19, 3) := dk_180 0 19 (dk_at dksX8_firstOff_5 19 rfl rfl)
theorem dX8_firstOff_139 : decode cX8_firstOff 139 = .ok (.aload_n 0, 1) := dk_42 (dk_at dksX8_firstOff_5 22 rfl rfl)
theorem dX8_firstOff_140 : decode cX8_firstOff 140 = .ok (.getfield 23, 3) := dk_180 0 23 (dk_at dksX8_firstOff_6 0 rfl rfl)
theorem dX8_firstOff_143 : decode cX8_firstOff 143 = .ok (.imul, 1) := dk_104 (dk_at dksX8_firstOff_6 3 rfl rfl)
theorem dX8_firstOff_144 : decode cX8_firstOff 144 = .ok (.ireturn, 1) := dk_172 (dk_at dksX8_firstOff_6 4 rfl rfl)
abbrev cX8_isShaped : ByteArray := prog_24_method_71_code
def yX8_isShaped : MethodName := ⟨RX8, "isShaped", "(II)Z"⟩
def dkwX8_isShaped_5 : List UInt8 := [22, 7, 22, 9, 117, 148, 154, 0, 7, 4, 167, 0, 4, 3, 62, 132, 4, 1, 167, 255, 123, 29, 172]
abbrev dktX8_isShaped_5 : List UInt8 := dkwX8_isShaped_5 ++ []
def dkwX8_isShaped_4 : List UInt8 := [9, 148, 154, 0, 35, 167, 0, 28, 28, 8, 160, 0, 14, 22, 7, 22, 9, 148, 154, 0, 19, 167, 0, 12]
abbrev dktX8_isShaped_4 : List UInt8 := dkwX8_isShaped_4 ++ dktX8_isShaped_5
def dkwX8_isShaped_3 : List UInt8 := [21, 5, 96, 47, 55, 9, 29, 153, 0, 54, 28, 7, 160, 0, 20, 21, 5, 21, 6, 159, 0, 38, 22, 7]
abbrev dktX8_isShaped_3 : List UInt8 := dkwX8_isShaped_3 ++ dktX8_isShaped_4
def dkwX8_isShaped_2 : List UInt8 := [27, 104, 21, 4, 96, 47, 55, 7, 42, 180, 0, 73, 16, 40, 27, 104, 42, 180, 0, 23, 21, 6, 104, 96]
abbrev dktX8_isShaped_2 : List UInt8 := dkwX8_isShaped_2 ++ dktX8_isShaped_3
def dkwX8_isShaped_1 : List UInt8 := [21, 4, 42, 180, 0, 23, 108, 54, 5, 21, 4, 42, 180, 0, 23, 112, 54, 6, 42, 180, 0, 73, 16, 40]
abbrev dktX8_isShaped_1 : List UInt8 := dkwX8_isShaped_1 ++ dktX8_isShaped_2
def dkwX8_isShaped_0 : List UInt8 := [4, 62, 3, 54, 4, 21, 4, 42, 180, 0, 19, 42, 180, 0, 23, 104, 162, 0, 125, 28, 7, 161, 0, 120]
abbrev dktX8_isShaped_0 : List UInt8 := dkwX8_isShaped_0 ++ dktX8_isShaped_1
theorem dksX8_isShaped_0 : cX8_isShaped.data.toList.drop 0 = dktX8_isShaped_0 := by decide +kernel
theorem dksX8_isShaped_1 : cX8_isShaped.data.toList.drop 24 = dktX8_isShaped_1 := dk_seg dksX8_isShaped_0 24 rfl rfl
theorem dksX8_isShaped_2 : cX8_isShaped.data.toList.drop 48 = dktX8_isShaped_2 := dk_seg dksX8_isShaped_1 24 rfl rfl
theorem dksX8_isShaped_3 : cX8_isShaped.data.toList.drop 72 = dktX8_isShaped_3 := dk_seg dksX8_isShaped_2 24 rfl rfl
theorem dksX8_isShaped_4 : cX8_isShaped.data.toList.drop 96 = dktX8_isShaped_4 := dk_seg dksX8_isShaped_3 24 rfl rfl
theorem dksX8_isShaped_5 : cX8_isShaped.data.toList.drop 120 = dktX8_isShaped_5 := dk_seg dksX8_isShaped_4 24 rfl rfl
theorem dX8_isShaped_0 : decode cX8_isShaped 0 = .ok (.iconst 1, 1) := dk_4 (dk_at dksX8_isShaped_0 0 rfl rfl)
theorem dX8_isShaped_1 : decode cX8_isShaped 1 = .ok (.istore_n 3, 1) := dk_62 (dk_at dksX8_isShaped_0 1 rfl rfl)
theorem dX8_isShaped_2 : decode cX8_isShaped 2 = .ok (.iconst 0, 1) := dk_3 (dk_at dksX8_isShaped_0 2 rfl rfl)
theorem dX8_isShaped_3 : decode cX8_isShaped 3 = .ok (.istore 4, 2) := dk_54 4 (dk_at dksX8_isShaped_0 3 rfl rfl)
theorem dX8_isShaped_5 : decode cX8_isShaped 5 = .ok (.iload 4, 2) := dk_21 4 (dk_at dksX8_isShaped_0 5 rfl rfl)
theorem dX8_isShaped_7 : decode cX8_isShaped 7 = .ok (.aload_n 0, 1) := dk_42 (dk_at dksX8_isShaped_0 7 rfl rfl)
theorem dX8_isShaped_8 : decode cX8_isShaped 8 = .ok (.getfield 19, 3) := dk_180 0 19 (dk_at dksX8_isShaped_0 8 rfl rfl)
theorem dX8_isShaped_11 : decode cX8_isShaped 11 = .ok (.aload_n 0, 1) := dk_42 (dk_at dksX8_isShaped_0 11 rfl rfl)
theorem dX8_isShaped_12 : decode cX8_isShaped 12 = .ok (.getfield 23, 3) := dk_180 0 23 (dk_at dksX8_isShaped_0 12 rfl rfl)
theorem dX8_isShaped_15 : decode cX8_isShaped 15 = .ok (.imul, 1) := dk_104 (dk_at dksX8_isShaped_0 15 rfl rfl)
theorem dX8_isShaped_16 : decode cX8_isShaped 16 = .ok (.if_icmp .ge 125, 3) := dk_162 0 125 (dk_at dksX8_isShaped_0 16 rfl rfl)
theorem dX8_isShaped_19 : decode cX8_isShaped 19 = .ok (.iload_n 2, 1) := dk_28 (dk_at dksX8_isShaped_0 19 rfl rfl)
theorem dX8_isShaped_20 : decode cX8_isShaped 20 = .ok (.iconst 4, 1) := dk_7 (dk_at dksX8_isShaped_0 20 rfl rfl)
theorem dX8_isShaped_21 : decode cX8_isShaped 21 = .ok (.if_icmp .lt 120, 3) := dk_161 0 120 (dk_at dksX8_isShaped_0 21 rfl rfl)
theorem dX8_isShaped_24 : decode cX8_isShaped 24 = .ok (.iload 4, 2) := dk_21 4 (dk_at dksX8_isShaped_1 0 rfl rfl)
theorem dX8_isShaped_26 : decode cX8_isShaped 26 = .ok (.aload_n 0, 1) := dk_42 (dk_at dksX8_isShaped_1 2 rfl rfl)
theorem dX8_isShaped_27 : decode cX8_isShaped 27 = .ok (.getfield 23, 3) := dk_180 0 23 (dk_at dksX8_isShaped_1 3 rfl rfl)
theorem dX8_isShaped_30 : decode cX8_isShaped 30 = .ok (.idiv, 1) := dk_108 (dk_at dksX8_isShaped_1 6 rfl rfl)
theorem dX8_isShaped_31 : decode cX8_isShaped 31 = .ok (.istore 5, 2) := dk_54 5 (dk_at dksX8_isShaped_1 7 rfl rfl)
theorem dX8_isShaped_33 : decode cX8_isShaped 33 = .ok (.iload 4, 2) := dk_21 4 (dk_at dksX8_isShaped_1 9 rfl rfl)
theorem dX8_isShaped_35 : decode cX8_isShaped 35 = .ok (.aload_n 0, 1) := dk_42 (dk_at dksX8_isShaped_1 11 rfl rfl)
theorem dX8_isShaped_36 : decode cX8_isShaped 36 = .ok (.getfield 23, 3) := dk_180 0 23 (dk_at dksX8_isShaped_1 12 rfl rfl)
theorem dX8_isShaped_39 : decode cX8_isShaped 39 = .ok (.irem, 1) := dk_112 (dk_at dksX8_isShaped_1 15 rfl rfl)
theorem dX8_isShaped_40 : decode cX8_isShaped 40 = .ok (.istore 6, 2) := dk_54 6 (dk_at dksX8_isShaped_1 16 rfl rfl)
theorem dX8_isShaped_42 : decode cX8_isShaped 42 = .ok (.aload_n 0, 1) := dk_42 (dk_at dksX8_isShaped_1 18 rfl rfl)
theorem dX8_isShaped_43 : decode cX8_isShaped 43 = .ok (.getfield 73, 3) := dk_180 0 73 (dk_at dksX8_isShaped_1 19 rfl rfl)
theorem dX8_isShaped_46 : decode cX8_isShaped 46 = .ok (.bipush 40, 2) := dk_16 40 (dk_at dksX8_isShaped_1 22 rfl rfl)
theorem dX8_isShaped_48 : decode cX8_isShaped 48 = .ok (.iload_n 1, 1) := dk_27 (dk_at dksX8_isShaped_2 0 rfl rfl)
theorem dX8_isShaped_49 : decode cX8_isShaped 49 = .ok (.imul, 1) := dk_104 (dk_at dksX8_isShaped_2 1 rfl rfl)
theorem dX8_isShaped_50 : decode cX8_isShaped 50 = .ok (.iload 4, 2) := dk_21 4 (dk_at dksX8_isShaped_2 2 rfl rfl)
theorem dX8_isShaped_52 : decode cX8_isShaped 52 = .ok (.iadd, 1) := dk_96 (dk_at dksX8_isShaped_2 4 rfl rfl)
theorem dX8_isShaped_53 : decode cX8_isShaped 53 = .ok (.laload, 1) := dk_47 (dk_at dksX8_isShaped_2 5 rfl rfl)
theorem dX8_isShaped_54 : decode cX8_isShaped 54 = .ok (.lstore 7, 2) := dk_55 7 (dk_at dksX8_isShaped_2 6 rfl rfl)
theorem dX8_isShaped_56 : decode cX8_isShaped 56 = .ok (.aload_n 0, 1) := dk_42 (dk_at dksX8_isShaped_2 8 rfl rfl)
theorem dX8_isShaped_57 : decode cX8_isShaped 57 = .ok (.getfield 73, 3) := dk_180 0 73 (dk_at dksX8_isShaped_2 9 rfl rfl)
theorem dX8_isShaped_60 : decode cX8_isShaped 60 = .ok (.bipush 40, 2) := dk_16 40 (dk_at dksX8_isShaped_2 12 rfl rfl)
theorem dX8_isShaped_62 : decode cX8_isShaped 62 = .ok (.iload_n 1, 1) := dk_27 (dk_at dksX8_isShaped_2 14 rfl rfl)
theorem dX8_isShaped_63 : decode cX8_isShaped 63 = .ok (.imul, 1) := dk_104 (dk_at dksX8_isShaped_2 15 rfl rfl)
theorem dX8_isShaped_64 : decode cX8_isShaped 64 = .ok (.aload_n 0, 1) := dk_42 (dk_at dksX8_isShaped_2 16 rfl rfl)
theorem dX8_isShaped_65 : decode cX8_isShaped 65 = .ok (.getfield 23, 3) := dk_180 0 23 (dk_at dksX8_isShaped_2 17 rfl rfl)
theorem dX8_isShaped_68 : decode cX8_isShaped 68 = .ok (.iload 6, 2) := dk_21 6 (dk_at dksX8_isShaped_2 20 rfl rfl)
theorem dX8_isShaped_70 : decode cX8_isShaped 70 = .ok (.imul, 1) := dk_104 (dk_at dksX8_isShaped_2 22 rfl rfl)
theorem dX8_isShaped_71 : decode cX8_isShaped 71 = .ok (.iadd, 1) := dk_96 (dk_at dksX8_isShaped_2 23 rfl rfl)
theorem dX8_isShaped_72 : decode cX8_isShaped 72 = .ok (.iload 5, 2) := dk_21 5 (dk_at dksX8_isShaped_3 0 rfl rfl)
theorem dX8_isShaped_74 : decode cX8_isShaped 74 = .ok (.iadd, 1) := dk_96 (dk_at dksX8_isShaped_3 2 rfl rfl)
theorem dX8_isShaped_75 : decode cX8_isShaped 75 = .ok (.laload, 1) := dk_47 (dk_at dksX8_isShaped_3 3 rfl rfl)
theorem dX8_isShaped_76 : decode cX8_isShaped 76 = .ok (.lstore 9, 2) := dk_55 9 (dk_at dksX8_isShaped_3 4 rfl rfl)
theorem dX8_isShaped_78 : decode cX8_isShaped 78 = .ok (.iload_n 3, 1) := dk_29 (dk_at dksX8_isShaped_3 6 rfl rfl)
theorem dX8_isShaped_79 : decode cX8_isShaped 79 = .ok (.ifCond .eq 54, 3) := dk_153 0 54 (dk_at dksX8_isShaped_3 7 rfl rfl)
theorem dX8_isShaped_82 : decode cX8_isShaped 82 = .ok (.iload_n 2, 1) := dk_28 (dk_at dksX8_isShaped_3 10 rfl rfl)
theorem dX8_isShaped_83 : decode cX8_isShaped 83 = .ok (.iconst 4, 1) := dk_7 (dk_at dksX8_isShaped_3 11 rfl rfl)
theorem dX8_isShaped_84 : decode cX8_isShaped 84 = .ok (.if_icmp .ne 20, 3) := dk_160 0 20 (dk_at dksX8_isShaped_3 12 rfl rfl)
theorem dX8_isShaped_87 : decode cX8_isShaped 87 = .ok (.iload 5, 2) := dk_21 5 (dk_at dksX8_isShaped_3 15 rfl rfl)
theorem dX8_isShaped_89 : decode cX8_isShaped 89 = .ok (.iload 6, 2) := dk_21 6 (dk_at dksX8_isShaped_3 17 rfl rfl)
theorem dX8_isShaped_91 : decode cX8_isShaped 91 = .ok (.if_icmp .eq 38, 3) := dk_159 0 38 (dk_at dksX8_isShaped_3 19 rfl rfl)
theorem dX8_isShaped_94 : decode cX8_isShaped 94 = .ok (.lload 7, 2) := dk_22 7 (dk_at dksX8_isShaped_3 22 rfl rfl)
theorem dX8_isShaped_96 : decode cX8_isShaped 96 = .ok (.lconst 0, 1) := dk_9 (dk_at dksX8_isShaped_4 0 rfl rfl)
theorem dX8_isShaped_97 : decode cX8_isShaped 97 = .ok (.lcmp, 1) := dk_148 (dk_at dksX8_isShaped_4 1 rfl rfl)
theorem dX8_isShaped_98 : decode cX8_isShaped 98 = .ok (.ifCond .ne 35, 3) := dk_154 0 35 (dk_at dksX8_isShaped_4 2 rfl rfl)
theorem dX8_isShaped_101 : decode cX8_isShaped 101 = .ok (.goto 28, 3) := dk_167 0 28 (dk_at dksX8_isShaped_4 5 rfl rfl)
theorem dX8_isShaped_104 : decode cX8_isShaped 104 = .ok (.iload_n 2, 1) := dk_28 (dk_at dksX8_isShaped_4 8 rfl rfl)
theorem dX8_isShaped_105 : decode cX8_isShaped 105 = .ok (.iconst 5, 1) := dk_8 (dk_at dksX8_isShaped_4 9 rfl rfl)
theorem dX8_isShaped_106 : decode cX8_isShaped 106 = .ok (.if_icmp .ne 14, 3) := dk_160 0 14 (dk_at dksX8_isShaped_4 10 rfl rfl)
theorem dX8_isShaped_109 : decode cX8_isShaped 109 = .ok (.lload 7, 2) := dk_22 7 (dk_at dksX8_isShaped_4 13 rfl rfl)
theorem dX8_isShaped_111 : decode cX8_isShaped 111 = .ok (.lload 9, 2) := dk_22 9 (dk_at dksX8_isShaped_4 15 rfl rfl)
theorem dX8_isShaped_113 : decode cX8_isShaped 113 = .ok (.lcmp, 1) := dk_148 (dk_at dksX8_isShaped_4 17 rfl rfl)
theorem dX8_isShaped_114 : decode cX8_isShaped 114 = .ok (.ifCond .ne 19, 3) := dk_154 0 19 (dk_at dksX8_isShaped_4 18 rfl rfl)
theorem dX8_isShaped_117 : decode cX8_isShaped 117 = .ok (.goto 12, 3) := dk_167 0 12 (dk_at dksX8_isShaped_4 21 rfl rfl)
theorem dX8_isShaped_120 : decode cX8_isShaped 120 = .ok (.lload 7, 2) := dk_22 7 (dk_at dksX8_isShaped_5 0 rfl rfl)
theorem dX8_isShaped_122 : decode cX8_isShaped 122 = .ok (.lload 9, 2) := dk_22 9 (dk_at dksX8_isShaped_5 2 rfl rfl)
theorem dX8_isShaped_124 : decode cX8_isShaped 124 = .ok (.lneg, 1) := dk_117 (dk_at dksX8_isShaped_5 4 rfl rfl)
theorem dX8_isShaped_125 : decode cX8_isShaped 125 = .ok (.lcmp, 1) := dk_148 (dk_at dksX8_isShaped_5 5 rfl rfl)
theorem dX8_isShaped_126 : decode cX8_isShaped 126 = .ok (.ifCond .ne 7, 3) := dk_154 0 7 (dk_at dksX8_isShaped_5 6 rfl rfl)
theorem dX8_isShaped_129 : decode cX8_isShaped 129 = .ok (.iconst 1, 1) := dk_4 (dk_at dksX8_isShaped_5 9 rfl rfl)
theorem dX8_isShaped_130 : decode cX8_isShaped 130 = .ok (.goto 4, 3) := dk_167 0 4 (dk_at dksX8_isShaped_5 10 rfl rfl)
theorem dX8_isShaped_133 : decode cX8_isShaped 133 = .ok (.iconst 0, 1) := dk_3 (dk_at dksX8_isShaped_5 13 rfl rfl)
theorem dX8_isShaped_134 : decode cX8_isShaped 134 = .ok (.istore_n 3, 1) := dk_62 (dk_at dksX8_isShaped_5 14 rfl rfl)
theorem dX8_isShaped_135 : decode cX8_isShaped 135 = .ok (.iinc 4 1, 3) := dk_132 4 1 (dk_at dksX8_isShaped_5 15 rfl rfl)
theorem dX8_isShaped_138 : decode cX8_isShaped 138 = .ok (.goto (-133), 3) := dk_167 255 123 (dk_at dksX8_isShaped_5 18 rfl rfl)
theorem dX8_isShaped_141 : decode cX8_isShaped 141 = .ok (.iload_n 3, 1) := dk_29 (dk_at dksX8_isShaped_5 21 rfl rfl)
theorem dX8_isShaped_142 : decode cX8_isShaped 142 = .ok (.ireturn, 1) := dk_172 (dk_at dksX8_isShaped_5 22 rfl rfl)
abbrev cX8_kinds : ByteArray := prog_24_method_74_code
def yX8_kinds : MethodName := ⟨RX8, "kinds", "(II)I"⟩
def dkwX8_kinds_4 : List UInt8 := [120, 167, 0, 4, 3, 128, 62, 132, 4, 1, 167, 255, 195, 29, 172]
abbrev dktX8_kinds_4 : List UInt8 := dkwX8_kinds_4 ++ []
def dkwX8_kinds_3 : List UInt8 := [180, 0, 19, 42, 180, 0, 23, 104, 160, 0, 20, 42, 27, 21, 4, 182, 1, 60, 153, 0, 10, 4, 21, 4]
abbrev dktX8_kinds_3 : List UInt8 := dkwX8_kinds_3 ++ dktX8_kinds_4
def dkwX8_kinds_2 : List UInt8 := [163, 0, 60, 29, 42, 21, 4, 182, 0, 209, 153, 0, 41, 42, 27, 21, 4, 28, 4, 182, 1, 56, 42]
abbrev dktX8_kinds_2 : List UInt8 := dkwX8_kinds_2 ++ dktX8_kinds_3
def dkwX8_kinds_1 : List UInt8 := [27, 182, 1, 53, 156, 0, 9, 42, 27, 182, 1, 53, 172, 3, 62, 3, 54, 4, 21, 4, 16, 6]
abbrev dktX8_kinds_1 : List UInt8 := dkwX8_kinds_1 ++ dktX8_kinds_2
def dkwX8_kinds_0 : List UInt8 := [27, 184, 1, 47, 153, 0, 17, 28, 133, 20, 0, 201, 20, 0, 97, 184, 0, 99, 154, 0, 5, 2, 172, 42]
abbrev dktX8_kinds_0 : List UInt8 := dkwX8_kinds_0 ++ dktX8_kinds_1
theorem dksX8_kinds_0 : cX8_kinds.data.toList.drop 0 = dktX8_kinds_0 := by decide +kernel
theorem dksX8_kinds_1 : cX8_kinds.data.toList.drop 24 = dktX8_kinds_1 := dk_seg dksX8_kinds_0 24 rfl rfl
theorem dksX8_kinds_2 : cX8_kinds.data.toList.drop 46 = dktX8_kinds_2 := dk_seg dksX8_kinds_1 22 rfl rfl
theorem dksX8_kinds_3 : cX8_kinds.data.toList.drop 69 = dktX8_kinds_3 := dk_seg dksX8_kinds_2 23 rfl rfl
theorem dksX8_kinds_4 : cX8_kinds.data.toList.drop 93 = dktX8_kinds_4 := dk_seg dksX8_kinds_3 24 rfl rfl
theorem dX8_kinds_0 : decode cX8_kinds 0 = .ok (.iload_n 1, 1) := dk_27 (dk_at dksX8_kinds_0 0 rfl rfl)
theorem dX8_kinds_1 : decode cX8_kinds 1 = .ok (.invokestatic 303, 3) := dk_184 1 47 (dk_at dksX8_kinds_0 1 rfl rfl)
theorem dX8_kinds_4 : decode cX8_kinds 4 = .ok (.ifCond .eq 17, 3) := dk_153 0 17 (dk_at dksX8_kinds_0 4 rfl rfl)
theorem dX8_kinds_7 : decode cX8_kinds 7 = .ok (.iload_n 2, 1) := dk_28 (dk_at dksX8_kinds_0 7 rfl rfl)
theorem dX8_kinds_8 : decode cX8_kinds 8 = .ok (.i2l, 1) := dk_133 (dk_at dksX8_kinds_0 8 rfl rfl)
theorem dX8_kinds_9 : decode cX8_kinds 9 = .ok (.ldc2_w 201, 3) := dk_20 0 201 (dk_at dksX8_kinds_0 9 rfl rfl)
theorem dX8_kinds_12 : decode cX8_kinds 12 = .ok (.ldc2_w 97, 3) := dk_20 0 97 (dk_at dksX8_kinds_0 12 rfl rfl)
theorem dX8_kinds_15 : decode cX8_kinds 15 = .ok (.invokestatic 99, 3) := dk_184 0 99 (dk_at dksX8_kinds_0 15 rfl rfl)
theorem dX8_kinds_18 : decode cX8_kinds 18 = .ok (.ifCond .ne 5, 3) := dk_154 0 5 (dk_at dksX8_kinds_0 18 rfl rfl)
theorem dX8_kinds_21 : decode cX8_kinds 21 = .ok (.iconst (-1), 1) := dk_2 (dk_at dksX8_kinds_0 21 rfl rfl)
theorem dX8_kinds_22 : decode cX8_kinds 22 = .ok (.ireturn, 1) := dk_172 (dk_at dksX8_kinds_0 22 rfl rfl)
theorem dX8_kinds_23 : decode cX8_kinds 23 = .ok (.aload_n 0, 1) := dk_42 (dk_at dksX8_kinds_0 23 rfl rfl)
theorem dX8_kinds_24 : decode cX8_kinds 24 = .ok (.iload_n 1, 1) := dk_27 (dk_at dksX8_kinds_1 0 rfl rfl)
theorem dX8_kinds_25 : decode cX8_kinds 25 = .ok (.invokevirtual 309, 3) := dk_182 1 53 (dk_at dksX8_kinds_1 1 rfl rfl)
theorem dX8_kinds_28 : decode cX8_kinds 28 = .ok (.ifCond .ge 9, 3) := dk_156 0 9 (dk_at dksX8_kinds_1 4 rfl rfl)
theorem dX8_kinds_31 : decode cX8_kinds 31 = .ok (.aload_n 0, 1) := dk_42 (dk_at dksX8_kinds_1 7 rfl rfl)
theorem dX8_kinds_32 : decode cX8_kinds 32 = .ok (.iload_n 1, 1) := dk_27 (dk_at dksX8_kinds_1 8 rfl rfl)
theorem dX8_kinds_33 : decode cX8_kinds 33 = .ok (.invokevirtual 309, 3) := dk_182 1 53 (dk_at dksX8_kinds_1 9 rfl rfl)
theorem dX8_kinds_36 : decode cX8_kinds 36 = .ok (.ireturn, 1) := dk_172 (dk_at dksX8_kinds_1 12 rfl rfl)
theorem dX8_kinds_37 : decode cX8_kinds 37 = .ok (.iconst 0, 1) := dk_3 (dk_at dksX8_kinds_1 13 rfl rfl)
theorem dX8_kinds_38 : decode cX8_kinds 38 = .ok (.istore_n 3, 1) := dk_62 (dk_at dksX8_kinds_1 14 rfl rfl)
theorem dX8_kinds_39 : decode cX8_kinds 39 = .ok (.iconst 0, 1) := dk_3 (dk_at dksX8_kinds_1 15 rfl rfl)
theorem dX8_kinds_40 : decode cX8_kinds 40 = .ok (.istore 4, 2) := dk_54 4 (dk_at dksX8_kinds_1 16 rfl rfl)
theorem dX8_kinds_42 : decode cX8_kinds 42 = .ok (.iload 4, 2) := dk_21 4 (dk_at dksX8_kinds_1 18 rfl rfl)
theorem dX8_kinds_44 : decode cX8_kinds 44 = .ok (.bipush 6, 2) := dk_16 6 (dk_at dksX8_kinds_1 20 rfl rfl)
theorem dX8_kinds_46 : decode cX8_kinds 46 = .ok (.if_icmp .gt 60, 3) := dk_163 0 60 (dk_at dksX8_kinds_2 0 rfl rfl)
theorem dX8_kinds_49 : decode cX8_kinds 49 = .ok (.iload_n 3, 1) := dk_29 (dk_at dksX8_kinds_2 3 rfl rfl)
theorem dX8_kinds_50 : decode cX8_kinds 50 = .ok (.aload_n 0, 1) := dk_42 (dk_at dksX8_kinds_2 4 rfl rfl)
theorem dX8_kinds_51 : decode cX8_kinds 51 = .ok (.iload 4, 2) := dk_21 4 (dk_at dksX8_kinds_2 5 rfl rfl)
theorem dX8_kinds_53 : decode cX8_kinds 53 = .ok (.invokevirtual 209, 3) := dk_182 0 209 (dk_at dksX8_kinds_2 7 rfl rfl)
theorem dX8_kinds_56 : decode cX8_kinds 56 = .ok (.ifCond .eq 41, 3) := dk_153 0 41 (dk_at dksX8_kinds_2 10 rfl rfl)
theorem dX8_kinds_59 : decode cX8_kinds 59 = .ok (.aload_n 0, 1) := dk_42 (dk_at dksX8_kinds_2 13 rfl rfl)
theorem dX8_kinds_60 : decode cX8_kinds 60 = .ok (.iload_n 1, 1) := dk_27 (dk_at dksX8_kinds_2 14 rfl rfl)
theorem dX8_kinds_61 : decode cX8_kinds 61 = .ok (.iload 4, 2) := dk_21 4 (dk_at dksX8_kinds_2 15 rfl rfl)
theorem dX8_kinds_63 : decode cX8_kinds 63 = .ok (.iload_n 2, 1) := dk_28 (dk_at dksX8_kinds_2 17 rfl rfl)
theorem dX8_kinds_64 : decode cX8_kinds 64 = .ok (.iconst 1, 1) := dk_4 (dk_at dksX8_kinds_2 18 rfl rfl)
theorem dX8_kinds_65 : decode cX8_kinds 65 = .ok (.invokevirtual 312, 3) := dk_182 1 56 (dk_at dksX8_kinds_2 19 rfl rfl)
theorem dX8_kinds_68 : decode cX8_kinds 68 = .ok (.aload_n 0, 1) := dk_42 (dk_at dksX8_kinds_2 22 rfl rfl)
theorem dX8_kinds_69 : decode cX8_kinds 69 = .ok (.getfield 19, 3) := dk_180 0 19 (dk_at dksX8_kinds_3 0 rfl rfl)
theorem dX8_kinds_72 : decode cX8_kinds 72 = .ok (.aload_n 0, 1) := dk_42 (dk_at dksX8_kinds_3 3 rfl rfl)
theorem dX8_kinds_73 : decode cX8_kinds 73 = .ok (.getfield 23, 3) := dk_180 0 23 (dk_at dksX8_kinds_3 4 rfl rfl)
theorem dX8_kinds_76 : decode cX8_kinds 76 = .ok (.imul, 1) := dk_104 (dk_at dksX8_kinds_3 7 rfl rfl)
theorem dX8_kinds_77 : decode cX8_kinds 77 = .ok (.if_icmp .ne 20, 3) := dk_160 0 20 (dk_at dksX8_kinds_3 8 rfl rfl)
theorem dX8_kinds_80 : decode cX8_kinds 80 = .ok (.aload_n 0, 1) := dk_42 (dk_at dksX8_kinds_3 11 rfl rfl)
theorem dX8_kinds_81 : decode cX8_kinds 81 = .ok (.iload_n 1, 1) := dk_27 (dk_at dksX8_kinds_3 12 rfl rfl)
theorem dX8_kinds_82 : decode cX8_kinds 82 = .ok (.iload 4, 2) := dk_21 4 (dk_at dksX8_kinds_3 13 rfl rfl)
theorem dX8_kinds_84 : decode cX8_kinds 84 = .ok (.invokevirtual 316, 3) := dk_182 1 60 (dk_at dksX8_kinds_3 15 rfl rfl)
theorem dX8_kinds_87 : decode cX8_kinds 87 = .ok (.ifCond .eq 10, 3) := dk_153 0 10 (dk_at dksX8_kinds_3 18 rfl rfl)
theorem dX8_kinds_90 : decode cX8_kinds 90 = .ok (.iconst 1, 1) := dk_4 (dk_at dksX8_kinds_3 21 rfl rfl)
theorem dX8_kinds_91 : decode cX8_kinds 91 = .ok (.iload 4, 2) := dk_21 4 (dk_at dksX8_kinds_3 22 rfl rfl)
theorem dX8_kinds_93 : decode cX8_kinds 93 = .ok (.ishl, 1) := dk_120 (dk_at dksX8_kinds_4 0 rfl rfl)
theorem dX8_kinds_94 : decode cX8_kinds 94 = .ok (.goto 4, 3) := dk_167 0 4 (dk_at dksX8_kinds_4 1 rfl rfl)
theorem dX8_kinds_97 : decode cX8_kinds 97 = .ok (.iconst 0, 1) := dk_3 (dk_at dksX8_kinds_4 4 rfl rfl)
theorem dX8_kinds_98 : decode cX8_kinds 98 = .ok (.ior, 1) := dk_128 (dk_at dksX8_kinds_4 5 rfl rfl)
theorem dX8_kinds_99 : decode cX8_kinds 99 = .ok (.istore_n 3, 1) := dk_62 (dk_at dksX8_kinds_4 6 rfl rfl)
theorem dX8_kinds_100 : decode cX8_kinds 100 = .ok (.iinc 4 1, 3) := dk_132 4 1 (dk_at dksX8_kinds_4 7 rfl rfl)
theorem dX8_kinds_103 : decode cX8_kinds 103 = .ok (.goto (-61), 3) := dk_167 255 195 (dk_at dksX8_kinds_4 10 rfl rfl)
theorem dX8_kinds_106 : decode cX8_kinds 106 = .ok (.iload_n 3, 1) := dk_29 (dk_at dksX8_kinds_4 13 rfl rfl)
theorem dX8_kinds_107 : decode cX8_kinds 107 = .ok (.ireturn, 1) := dk_172 (dk_at dksX8_kinds_4 14 rfl rfl)
abbrev cX8_ratio : ByteArray := prog_24_method_75_code
def yX8_ratio : MethodName := ⟨RX8, "ratio", "(JJI)J"⟩
def dkwX8_ratio_10 : List UInt8 := [167, 0, 6, 22, 12, 117, 173]
abbrev dktX8_ratio_10 : List UInt8 := dkwX8_ratio_10 ++ []
def dkwX8_ratio_9 : List UInt8 := [184, 0, 140, 173, 21, 5, 4, 160, 0, 9, 22, 14, 117, 167, 0, 16, 21, 16, 153, 0, 8, 22, 12]
abbrev dktX8_ratio_9 : List UInt8 := dkwX8_ratio_9 ++ dktX8_ratio_10
def dkwX8_ratio_8 : List UInt8 := [20, 1, 65, 148, 153, 0, 17, 21, 16, 154, 0, 18, 22, 12, 20, 1, 65, 148, 154, 0, 9, 16, 240]
abbrev dktX8_ratio_8 : List UInt8 := dkwX8_ratio_8 ++ dktX8_ratio_9
def dkwX8_ratio_7 : List UInt8 := [3, 33, 9, 148, 156, 0, 7, 4, 167, 0, 4, 3, 159, 0, 7, 4, 167, 0, 4, 3, 54, 16, 22, 14]
abbrev dktX8_ratio_7 : List UInt8 := dkwX8_ratio_7 ++ dktX8_ratio_8
def dkwX8_ratio_6 : List UInt8 := [20, 1, 67, 167, 0, 9, 22, 8, 22, 10, 117, 109, 55, 14, 31, 9, 148, 156, 0, 7, 4, 167, 0, 4]
abbrev dktX8_ratio_6 : List UInt8 := dkwX8_ratio_6 ++ dktX8_ratio_7
def dkwX8_ratio_5 : List UInt8 := [117, 109, 55, 12, 22, 10, 20, 1, 65, 148, 154, 0, 20, 22, 8, 9, 148, 154, 0, 7, 9, 167, 0, 15]
abbrev dktX8_ratio_5 : List UInt8 := dkwX8_ratio_5 ++ dktX8_ratio_6
def dkwX8_ratio_4 : List UInt8 := [154, 0, 20, 22, 6, 9, 148, 154, 0, 7, 9, 167, 0, 15, 20, 1, 67, 167, 0, 9, 22, 6, 22, 10]
abbrev dktX8_ratio_4 : List UInt8 := dkwX8_ratio_4 ++ dktX8_ratio_5
def dkwX8_ratio_3 : List UInt8 := [22, 10, 22, 12, 113, 55, 14, 22, 12, 55, 10, 22, 14, 55, 12, 167, 255, 234, 22, 10, 20, 1, 65, 148]
abbrev dktX8_ratio_3 : List UInt8 := dkwX8_ratio_3 ++ dktX8_ratio_4
def dkwX8_ratio_2 : List UInt8 := [33, 167, 0, 5, 33, 117, 55, 8, 22, 6, 55, 10, 22, 8, 55, 12, 22, 12, 9, 148, 153, 0, 21]
abbrev dktX8_ratio_2 : List UInt8 := dkwX8_ratio_2 ++ dktX8_ratio_3
def dkwX8_ratio_1 : List UInt8 := [184, 0, 140, 173, 31, 9, 148, 156, 0, 7, 31, 167, 0, 5, 31, 117, 55, 6, 33, 9, 148, 156, 0, 7]
abbrev dktX8_ratio_1 : List UInt8 := dkwX8_ratio_1 ++ dktX8_ratio_2
def dkwX8_ratio_0 : List UInt8 := [21, 5, 133, 9, 10, 184, 0, 99, 154, 0, 8, 2, 184, 0, 140, 173, 33, 9, 148, 154, 0, 9, 16, 241]
abbrev dktX8_ratio_0 : List UInt8 := dkwX8_ratio_0 ++ dktX8_ratio_1
theorem dksX8_ratio_0 : cX8_ratio.data.toList.drop 0 = dktX8_ratio_0 := by decide +kernel
theorem dksX8_ratio_1 : cX8_ratio.data.toList.drop 24 = dktX8_ratio_1 := dk_seg dksX8_ratio_0 24 rfl rfl
theorem dksX8_ratio_2 : cX8_ratio.data.toList.drop 48 = dktX8_ratio_2 := dk_seg dksX8_ratio_1 24 rfl rfl
theorem dksX8_ratio_3 : cX8_ratio.data.toList.drop 71 = dktX8_ratio_3 := dk_seg dksX8_ratio_2 23 rfl rfl
theorem dksX8_ratio_4 : cX8_ratio.data.toList.drop 95 = dktX8_ratio_4 := dk_seg dksX8_ratio_3 24 rfl rfl
theorem dksX8_ratio_5 : cX8_ratio.data.toList.drop 119 = dktX8_ratio_5 := dk_seg dksX8_ratio_4 24 rfl rfl
theorem dksX8_ratio_6 : cX8_ratio.data.toList.drop 143 = dktX8_ratio_6 := dk_seg dksX8_ratio_5 24 rfl rfl
theorem dksX8_ratio_7 : cX8_ratio.data.toList.drop 167 = dktX8_ratio_7 := dk_seg dksX8_ratio_6 24 rfl rfl
theorem dksX8_ratio_8 : cX8_ratio.data.toList.drop 191 = dktX8_ratio_8 := dk_seg dksX8_ratio_7 24 rfl rfl
theorem dksX8_ratio_9 : cX8_ratio.data.toList.drop 214 = dktX8_ratio_9 := dk_seg dksX8_ratio_8 23 rfl rfl
theorem dksX8_ratio_10 : cX8_ratio.data.toList.drop 237 = dktX8_ratio_10 := dk_seg dksX8_ratio_9 23 rfl rfl
theorem dX8_ratio_0 : decode cX8_ratio 0 = .ok (.iload 5, 2) := dk_21 5 (dk_at dksX8_ratio_0 0 rfl rfl)
theorem dX8_ratio_2 : decode cX8_ratio 2 = .ok (.i2l, 1) := dk_133 (dk_at dksX8_ratio_0 2 rfl rfl)
theorem dX8_ratio_3 : decode cX8_ratio 3 = .ok (.lconst 0, 1) := dk_9 (dk_at dksX8_ratio_0 3 rfl rfl)
theorem dX8_ratio_4 : decode cX8_ratio 4 = .ok (.lconst 1, 1) := dk_10 (dk_at dksX8_ratio_0 4 rfl rfl)
theorem dX8_ratio_5 : decode cX8_ratio 5 = .ok (.invokestatic 99, 3) := dk_184 0 99 (dk_at dksX8_ratio_0 5 rfl rfl)
theorem dX8_ratio_8 : decode cX8_ratio 8 = .ok (.ifCond .ne 8, 3) := dk_154 0 8 (dk_at dksX8_ratio_0 8 rfl rfl)
theorem dX8_ratio_11 : decode cX8_ratio 11 = .ok (.iconst (-1), 1) := dk_2 (dk_at dksX8_ratio_0 11 rfl rfl)
theorem dX8_ratio_12 : decode cX8_ratio 12 = .ok (.invokestatic 140, 3) := dk_184 0 140 (dk_at dksX8_ratio_0 12 rfl rfl)
theorem dX8_ratio_15 : decode cX8_ratio 15 = .ok (.lreturn, 1) := dk_173 (dk_at dksX8_ratio_0 15 rfl rfl)
theorem dX8_ratio_16 : decode cX8_ratio 16 = .ok (.lload_n 3, 1) := dk_33 (dk_at dksX8_ratio_0 16 rfl rfl)
theorem dX8_ratio_17 : decode cX8_ratio 17 = .ok (.lconst 0, 1) := dk_9 (dk_at dksX8_ratio_0 17 rfl rfl)
theorem dX8_ratio_18 : decode cX8_ratio 18 = .ok (.lcmp, 1) := dk_148 (dk_at dksX8_ratio_0 18 rfl rfl)
theorem dX8_ratio_19 : decode cX8_ratio 19 = .ok (.ifCond .ne 9, 3) := dk_154 0 9 (dk_at dksX8_ratio_0 19 rfl rfl)
theorem dX8_ratio_22 : decode cX8_ratio 22 = .ok (.bipush (-15), 2) := dk_16 241 (dk_at dksX8_ratio_0 22 rfl rfl)
theorem dX8_ratio_24 : decode cX8_ratio 24 = .ok (.invokestatic 140, 3) := dk_184 0 140 (dk_at dksX8_ratio_1 0 rfl rfl)
theorem dX8_ratio_27 : decode cX8_ratio 27 = .ok (.lreturn, 1) := dk_173 (dk_at dksX8_ratio_1 3 rfl rfl)
theorem dX8_ratio_28 : decode cX8_ratio 28 = .ok (.lload_n 1, 1) := dk_31 (dk_at dksX8_ratio_1 4 rfl rfl)
theorem dX8_ratio_29 : decode cX8_ratio 29 = .ok (.lconst 0, 1) := dk_9 (dk_at dksX8_ratio_1 5 rfl rfl)
theorem dX8_ratio_30 : decode cX8_ratio 30 = .ok (.lcmp, 1) := dk_148 (dk_at dksX8_ratio_1 6 rfl rfl)
theorem dX8_ratio_31 : decode cX8_ratio 31 = .ok (.ifCond .ge 7, 3) := dk_156 0 7 (dk_at dksX8_ratio_1 7 rfl rfl)
theorem dX8_ratio_34 : decode cX8_ratio 34 = .ok (.lload_n 1, 1) := dk_31 (dk_at dksX8_ratio_1 10 rfl rfl)
theorem dX8_ratio_35 : decode cX8_ratio 35 = .ok (.goto 5, 3) := dk_167 0 5 (dk_at dksX8_ratio_1 11 rfl rfl)
theorem dX8_ratio_38 : decode cX8_ratio 38 = .ok (.lload_n 1, 1) := dk_31 (dk_at dksX8_ratio_1 14 rfl rfl)
theorem dX8_ratio_39 : decode cX8_ratio 39 = .ok (.lneg, 1) := dk_117 (dk_at dksX8_ratio_1 15 rfl rfl)
theorem dX8_ratio_40 : decode cX8_ratio 40 = .ok (.lstore 6, 2) := dk_55 6 (dk_at dksX8_ratio_1 16 rfl rfl)
theorem dX8_ratio_42 : decode cX8_ratio 42 = .ok (.lload_n 3, 1) := dk_33 (dk_at dksX8_ratio_1 18 rfl rfl)
theorem dX8_ratio_43 : decode cX8_ratio 43 = .ok (.lconst 0, 1) := dk_9 (dk_at dksX8_ratio_1 19 rfl rfl)
theorem dX8_ratio_44 : decode cX8_ratio 44 = .ok (.lcmp, 1) := dk_148 (dk_at dksX8_ratio_1 20 rfl rfl)
theorem dX8_ratio_45 : decode cX8_ratio 45 = .ok (.ifCond .ge 7, 3) := dk_156 0 7 (dk_at dksX8_ratio_1 21 rfl rfl)
theorem dX8_ratio_48 : decode cX8_ratio 48 = .ok (.lload_n 3, 1) := dk_33 (dk_at dksX8_ratio_2 0 rfl rfl)
theorem dX8_ratio_49 : decode cX8_ratio 49 = .ok (.goto 5, 3) := dk_167 0 5 (dk_at dksX8_ratio_2 1 rfl rfl)
theorem dX8_ratio_52 : decode cX8_ratio 52 = .ok (.lload_n 3, 1) := dk_33 (dk_at dksX8_ratio_2 4 rfl rfl)
theorem dX8_ratio_53 : decode cX8_ratio 53 = .ok (.lneg, 1) := dk_117 (dk_at dksX8_ratio_2 5 rfl rfl)
theorem dX8_ratio_54 : decode cX8_ratio 54 = .ok (.lstore 8, 2) := dk_55 8 (dk_at dksX8_ratio_2 6 rfl rfl)
theorem dX8_ratio_56 : decode cX8_ratio 56 = .ok (.lload 6, 2) := dk_22 6 (dk_at dksX8_ratio_2 8 rfl rfl)
theorem dX8_ratio_58 : decode cX8_ratio 58 = .ok (.lstore 10, 2) := dk_55 10 (dk_at dksX8_ratio_2 10 rfl rfl)
theorem dX8_ratio_60 : decode cX8_ratio 60 = .ok (.lload 8, 2) := dk_22 8 (dk_at dksX8_ratio_2 12 rfl rfl)
theorem dX8_ratio_62 : decode cX8_ratio 62 = .ok (.lstore 12, 2) := dk_55 12 (dk_at dksX8_ratio_2 14 rfl rfl)
theorem dX8_ratio_64 : decode cX8_ratio 64 = .ok (.lload 12, 2) := dk_22 12 (dk_at dksX8_ratio_2 16 rfl rfl)
theorem dX8_ratio_66 : decode cX8_ratio 66 = .ok (.lconst 0, 1) := dk_9 (dk_at dksX8_ratio_2 18 rfl rfl)
theorem dX8_ratio_67 : decode cX8_ratio 67 = .ok (.lcmp, 1) := dk_148 (dk_at dksX8_ratio_2 19 rfl rfl)
theorem dX8_ratio_68 : decode cX8_ratio 68 = .ok (.ifCond .eq 21, 3) := dk_153 0 21 (dk_at dksX8_ratio_2 20 rfl rfl)
theorem dX8_ratio_71 : decode cX8_ratio 71 = .ok (.lload 10, 2) := dk_22 10 (dk_at dksX8_ratio_3 0 rfl rfl)
theorem dX8_ratio_73 : decode cX8_ratio 73 = .ok (.lload 12, 2) := dk_22 12 (dk_at dksX8_ratio_3 2 rfl rfl)
theorem dX8_ratio_75 : decode cX8_ratio 75 = .ok (.lrem, 1) := dk_113 (dk_at dksX8_ratio_3 4 rfl rfl)
theorem dX8_ratio_76 : decode cX8_ratio 76 = .ok (.lstore 14, 2) := dk_55 14 (dk_at dksX8_ratio_3 5 rfl rfl)
theorem dX8_ratio_78 : decode cX8_ratio 78 = .ok (.lload 12, 2) := dk_22 12 (dk_at dksX8_ratio_3 7 rfl rfl)
theorem dX8_ratio_80 : decode cX8_ratio 80 = .ok (.lstore 10, 2) := dk_55 10 (dk_at dksX8_ratio_3 9 rfl rfl)
theorem dX8_ratio_82 : decode cX8_ratio 82 = .ok (.lload 14, 2) := dk_22 14 (dk_at dksX8_ratio_3 11 rfl rfl)
theorem dX8_ratio_84 : decode cX8_ratio 84 = .ok (.lstore 12, 2) := dk_55 12 (dk_at dksX8_ratio_3 13 rfl rfl)
theorem dX8_ratio_86 : decode cX8_ratio 86 = .ok (.goto (-22), 3) := dk_167 255 234 (dk_at dksX8_ratio_3 15 rfl rfl)
theorem dX8_ratio_89 : decode cX8_ratio 89 = .ok (.lload 10, 2) := dk_22 10 (dk_at dksX8_ratio_3 18 rfl rfl)
theorem dX8_ratio_91 : decode cX8_ratio 91 = .ok (.ldc2_w 321, 3) := dk_20 1 65 (dk_at dksX8_ratio_3 20 rfl rfl)
theorem dX8_ratio_94 : decode cX8_ratio 94 = .ok (.lcmp, 1) := dk_148 (dk_at dksX8_ratio_3 23 rfl rfl)
theorem dX8_ratio_95 : decode cX8_ratio 95 = .ok (.ifCond .ne 20, 3) := dk_154 0 20 (dk_at dksX8_ratio_4 0 rfl rfl)
theorem dX8_ratio_98 : decode cX8_ratio 98 = .ok (.lload 6, 2) := dk_22 6 (dk_at dksX8_ratio_4 3 rfl rfl)
theorem dX8_ratio_100 : decode cX8_ratio 100 = .ok (.lconst 0, 1) := dk_9 (dk_at dksX8_ratio_4 5 rfl rfl)
theorem dX8_ratio_101 : decode cX8_ratio 101 = .ok (.lcmp, 1) := dk_148 (dk_at dksX8_ratio_4 6 rfl rfl)
theorem dX8_ratio_102 : decode cX8_ratio 102 = .ok (.ifCond .ne 7, 3) := dk_154 0 7 (dk_at dksX8_ratio_4 7 rfl rfl)
theorem dX8_ratio_105 : decode cX8_ratio 105 = .ok (.lconst 0, 1) := dk_9 (dk_at dksX8_ratio_4 10 rfl rfl)
theorem dX8_ratio_106 : decode cX8_ratio 106 = .ok (.goto 15, 3) := dk_167 0 15 (dk_at dksX8_ratio_4 11 rfl rfl)
theorem dX8_ratio_109 : decode cX8_ratio 109 = .ok (.ldc2_w 323, 3) := dk_20 1 67 (dk_at dksX8_ratio_4 14 rfl rfl)
theorem dX8_ratio_112 : decode cX8_ratio 112 = .ok (.goto 9, 3) := dk_167 0 9 (dk_at dksX8_ratio_4 17 rfl rfl)
theorem dX8_ratio_115 : decode cX8_ratio 115 = .ok (.lload 6, 2) := dk_22 6 (dk_at dksX8_ratio_4 20 rfl rfl)
theorem dX8_ratio_117 : decode cX8_ratio 117 = .ok (.lload 10, 2) := dk_22 10 (dk_at dksX8_ratio_4 22 rfl rfl)
theorem dX8_ratio_119 : decode cX8_ratio 119 = .ok (.lneg, 1) := dk_117 (dk_at dksX8_ratio_5 0 rfl rfl)
theorem dX8_ratio_120 : decode cX8_ratio 120 = .ok (.ldiv, 1) := dk_109 (dk_at dksX8_ratio_5 1 rfl rfl)
theorem dX8_ratio_121 : decode cX8_ratio 121 = .ok (.lstore 12, 2) := dk_55 12 (dk_at dksX8_ratio_5 2 rfl rfl)
theorem dX8_ratio_123 : decode cX8_ratio 123 = .ok (.lload 10, 2) := dk_22 10 (dk_at dksX8_ratio_5 4 rfl rfl)
theorem dX8_ratio_125 : decode cX8_ratio 125 = .ok (.ldc2_w 321, 3) := dk_20 1 65 (dk_at dksX8_ratio_5 6 rfl rfl)
theorem dX8_ratio_128 : decode cX8_ratio 128 = .ok (.lcmp, 1) := dk_148 (dk_at dksX8_ratio_5 9 rfl rfl)
theorem dX8_ratio_129 : decode cX8_ratio 129 = .ok (.ifCond .ne 20, 3) := dk_154 0 20 (dk_at dksX8_ratio_5 10 rfl rfl)
theorem dX8_ratio_132 : decode cX8_ratio 132 = .ok (.lload 8, 2) := dk_22 8 (dk_at dksX8_ratio_5 13 rfl rfl)
theorem dX8_ratio_134 : decode cX8_ratio 134 = .ok (.lconst 0, 1) := dk_9 (dk_at dksX8_ratio_5 15 rfl rfl)
theorem dX8_ratio_135 : decode cX8_ratio 135 = .ok (.lcmp, 1) := dk_148 (dk_at dksX8_ratio_5 16 rfl rfl)
theorem dX8_ratio_136 : decode cX8_ratio 136 = .ok (.ifCond .ne 7, 3) := dk_154 0 7 (dk_at dksX8_ratio_5 17 rfl rfl)
theorem dX8_ratio_139 : decode cX8_ratio 139 = .ok (.lconst 0, 1) := dk_9 (dk_at dksX8_ratio_5 20 rfl rfl)
theorem dX8_ratio_140 : decode cX8_ratio 140 = .ok (.goto 15, 3) := dk_167 0 15 (dk_at dksX8_ratio_5 21 rfl rfl)
theorem dX8_ratio_143 : decode cX8_ratio 143 = .ok (.ldc2_w 323, 3) := dk_20 1 67 (dk_at dksX8_ratio_6 0 rfl rfl)
theorem dX8_ratio_146 : decode cX8_ratio 146 = .ok (.goto 9, 3) := dk_167 0 9 (dk_at dksX8_ratio_6 3 rfl rfl)
theorem dX8_ratio_149 : decode cX8_ratio 149 = .ok (.lload 8, 2) := dk_22 8 (dk_at dksX8_ratio_6 6 rfl rfl)
theorem dX8_ratio_151 : decode cX8_ratio 151 = .ok (.lload 10, 2) := dk_22 10 (dk_at dksX8_ratio_6 8 rfl rfl)
theorem dX8_ratio_153 : decode cX8_ratio 153 = .ok (.lneg, 1) := dk_117 (dk_at dksX8_ratio_6 10 rfl rfl)
theorem dX8_ratio_154 : decode cX8_ratio 154 = .ok (.ldiv, 1) := dk_109 (dk_at dksX8_ratio_6 11 rfl rfl)
theorem dX8_ratio_155 : decode cX8_ratio 155 = .ok (.lstore 14, 2) := dk_55 14 (dk_at dksX8_ratio_6 12 rfl rfl)
theorem dX8_ratio_157 : decode cX8_ratio 157 = .ok (.lload_n 1, 1) := dk_31 (dk_at dksX8_ratio_6 14 rfl rfl)
theorem dX8_ratio_158 : decode cX8_ratio 158 = .ok (.lconst 0, 1) := dk_9 (dk_at dksX8_ratio_6 15 rfl rfl)
theorem dX8_ratio_159 : decode cX8_ratio 159 = .ok (.lcmp, 1) := dk_148 (dk_at dksX8_ratio_6 16 rfl rfl)
theorem dX8_ratio_160 : decode cX8_ratio 160 = .ok (.ifCond .ge 7, 3) := dk_156 0 7 (dk_at dksX8_ratio_6 17 rfl rfl)
theorem dX8_ratio_163 : decode cX8_ratio 163 = .ok (.iconst 1, 1) := dk_4 (dk_at dksX8_ratio_6 20 rfl rfl)
theorem dX8_ratio_164 : decode cX8_ratio 164 = .ok (.goto 4, 3) := dk_167 0 4 (dk_at dksX8_ratio_6 21 rfl rfl)
theorem dX8_ratio_167 : decode cX8_ratio 167 = .ok (.iconst 0, 1) := dk_3 (dk_at dksX8_ratio_7 0 rfl rfl)
theorem dX8_ratio_168 : decode cX8_ratio 168 = .ok (.lload_n 3, 1) := dk_33 (dk_at dksX8_ratio_7 1 rfl rfl)
theorem dX8_ratio_169 : decode cX8_ratio 169 = .ok (.lconst 0, 1) := dk_9 (dk_at dksX8_ratio_7 2 rfl rfl)
theorem dX8_ratio_170 : decode cX8_ratio 170 = .ok (.lcmp, 1) := dk_148 (dk_at dksX8_ratio_7 3 rfl rfl)
theorem dX8_ratio_171 : decode cX8_ratio 171 = .ok (.ifCond .ge 7, 3) := dk_156 0 7 (dk_at dksX8_ratio_7 4 rfl rfl)
theorem dX8_ratio_174 : decode cX8_ratio 174 = .ok (.iconst 1, 1) := dk_4 (dk_at dksX8_ratio_7 7 rfl rfl)
theorem dX8_ratio_175 : decode cX8_ratio 175 = .ok (.goto 4, 3) := dk_167 0 4 (dk_at dksX8_ratio_7 8 rfl rfl)
theorem dX8_ratio_178 : decode cX8_ratio 178 = .ok (.iconst 0, 1) := dk_3 (dk_at dksX8_ratio_7 11 rfl rfl)
theorem dX8_ratio_179 : decode cX8_ratio 179 = .ok (.if_icmp .eq 7, 3) := dk_159 0 7 (dk_at dksX8_ratio_7 12 rfl rfl)
theorem dX8_ratio_182 : decode cX8_ratio 182 = .ok (.iconst 1, 1) := dk_4 (dk_at dksX8_ratio_7 15 rfl rfl)
theorem dX8_ratio_183 : decode cX8_ratio 183 = .ok (.goto 4, 3) := dk_167 0 4 (dk_at dksX8_ratio_7 16 rfl rfl)
theorem dX8_ratio_186 : decode cX8_ratio 186 = .ok (.iconst 0, 1) := dk_3 (dk_at dksX8_ratio_7 19 rfl rfl)
theorem dX8_ratio_187 : decode cX8_ratio 187 = .ok (.istore 16, 2) := dk_54 16 (dk_at dksX8_ratio_7 20 rfl rfl)
theorem dX8_ratio_189 : decode cX8_ratio 189 = .ok (.lload 14, 2) := dk_22 14 (dk_at dksX8_ratio_7 22 rfl rfl)
theorem dX8_ratio_191 : decode cX8_ratio 191 = .ok (.ldc2_w 321, 3) := dk_20 1 65 (dk_at dksX8_ratio_8 0 rfl rfl)
theorem dX8_ratio_194 : decode cX8_ratio 194 = .ok (.lcmp, 1) := dk_148 (dk_at dksX8_ratio_8 3 rfl rfl)
theorem dX8_ratio_195 : decode cX8_ratio 195 = .ok (.ifCond .eq 17, 3) := dk_153 0 17 (dk_at dksX8_ratio_8 4 rfl rfl)
theorem dX8_ratio_198 : decode cX8_ratio 198 = .ok (.iload 16, 2) := dk_21 16 (dk_at dksX8_ratio_8 7 rfl rfl)
theorem dX8_ratio_200 : decode cX8_ratio 200 = .ok (.ifCond .ne 18, 3) := dk_154 0 18 (dk_at dksX8_ratio_8 9 rfl rfl)
theorem dX8_ratio_203 : decode cX8_ratio 203 = .ok (.lload 12, 2) := dk_22 12 (dk_at dksX8_ratio_8 12 rfl rfl)
theorem dX8_ratio_205 : decode cX8_ratio 205 = .ok (.ldc2_w 321, 3) := dk_20 1 65 (dk_at dksX8_ratio_8 14 rfl rfl)
theorem dX8_ratio_208 : decode cX8_ratio 208 = .ok (.lcmp, 1) := dk_148 (dk_at dksX8_ratio_8 17 rfl rfl)
theorem dX8_ratio_209 : decode cX8_ratio 209 = .ok (.ifCond .ne 9, 3) := dk_154 0 9 (dk_at dksX8_ratio_8 18 rfl rfl)
theorem dX8_ratio_212 : decode cX8_ratio 212 = .ok (.bipush (-16), 2) := dk_16 240 (dk_at dksX8_ratio_8 21 rfl rfl)
theorem dX8_ratio_214 : decode cX8_ratio 214 = .ok (.invokestatic 140, 3) := dk_184 0 140 (dk_at dksX8_ratio_9 0 rfl rfl)
theorem dX8_ratio_217 : decode cX8_ratio 217 = .ok (.lreturn, 1) := dk_173 (dk_at dksX8_ratio_9 3 rfl rfl)
theorem dX8_ratio_218 : decode cX8_ratio 218 = .ok (.iload 5, 2) := dk_21 5 (dk_at dksX8_ratio_9 4 rfl rfl)
theorem dX8_ratio_220 : decode cX8_ratio 220 = .ok (.iconst 1, 1) := dk_4 (dk_at dksX8_ratio_9 6 rfl rfl)
theorem dX8_ratio_221 : decode cX8_ratio 221 = .ok (.if_icmp .ne 9, 3) := dk_160 0 9 (dk_at dksX8_ratio_9 7 rfl rfl)
theorem dX8_ratio_224 : decode cX8_ratio 224 = .ok (.lload 14, 2) := dk_22 14 (dk_at dksX8_ratio_9 10 rfl rfl)
theorem dX8_ratio_226 : decode cX8_ratio 226 = .ok (.lneg, 1) := dk_117 (dk_at dksX8_ratio_9 12 rfl rfl)
theorem dX8_ratio_227 : decode cX8_ratio 227 = .ok (.goto 16, 3) := dk_167 0 16 (dk_at dksX8_ratio_9 13 rfl rfl)
theorem dX8_ratio_230 : decode cX8_ratio 230 = .ok (.iload 16, 2) := dk_21 16 (dk_at dksX8_ratio_9 16 rfl rfl)
theorem dX8_ratio_232 : decode cX8_ratio 232 = .ok (.ifCond .eq 8, 3) := dk_153 0 8 (dk_at dksX8_ratio_9 18 rfl rfl)
theorem dX8_ratio_235 : decode cX8_ratio 235 = .ok (.lload 12, 2) := dk_22 12 (dk_at dksX8_ratio_9 21 rfl rfl)
theorem dX8_ratio_237 : decode cX8_ratio 237 = .ok (.goto 6, 3) := dk_167 0 6 (dk_at dksX8_ratio_10 0 rfl rfl)
theorem dX8_ratio_240 : decode cX8_ratio 240 = .ok (.lload 12, 2) := dk_22 12 (dk_at dksX8_ratio_10 3 rfl rfl)
theorem dX8_ratio_242 : decode cX8_ratio 242 = .ok (.lneg, 1) := dk_117 (dk_at dksX8_ratio_10 5 rfl rfl)
theorem dX8_ratio_243 : decode cX8_ratio 243 = .ok (.lreturn, 1) := dk_173 (dk_at dksX8_ratio_10 6 rfl rfl)
abbrev cX8_seed : ByteArray := prog_24_method_76_code
def yX8_seed : MethodName := ⟨RX8, "seed", "(I)I"⟩
def dkwX8_seed_0 : List UInt8 := [42, 180, 0, 26, 61, 42, 27, 181, 0, 26, 28, 172]
abbrev dktX8_seed_0 : List UInt8 := dkwX8_seed_0 ++ []
theorem dksX8_seed_0 : cX8_seed.data.toList.drop 0 = dktX8_seed_0 := by decide +kernel
theorem dX8_seed_0 : decode cX8_seed 0 = .ok (.aload_n 0, 1) := dk_42 (dk_at dksX8_seed_0 0 rfl rfl)
theorem dX8_seed_1 : decode cX8_seed 1 = .ok (.getfield 26, 3) := dk_180 0 26 (dk_at dksX8_seed_0 1 rfl rfl)
theorem dX8_seed_4 : decode cX8_seed 4 = .ok (.istore_n 2, 1) := dk_61 (dk_at dksX8_seed_0 4 rfl rfl)
theorem dX8_seed_5 : decode cX8_seed 5 = .ok (.aload_n 0, 1) := dk_42 (dk_at dksX8_seed_0 5 rfl rfl)
theorem dX8_seed_6 : decode cX8_seed 6 = .ok (.iload_n 1, 1) := dk_27 (dk_at dksX8_seed_0 6 rfl rfl)
theorem dX8_seed_7 : decode cX8_seed 7 = .ok (.putfield 26, 3) := dk_181 0 26 (dk_at dksX8_seed_0 7 rfl rfl)
theorem dX8_seed_10 : decode cX8_seed 10 = .ok (.iload_n 2, 1) := dk_28 (dk_at dksX8_seed_0 10 rfl rfl)
theorem dX8_seed_11 : decode cX8_seed 11 = .ok (.ireturn, 1) := dk_172 (dk_at dksX8_seed_0 11 rfl rfl)
abbrev cX8_lot : ByteArray := prog_24_method_78_code
def yX8_lot : MethodName := ⟨RX8, "lot", "()I"⟩
def dkwX8_lot_0 : List UInt8 := [42, 182, 1, 70, 16, 100, 42, 5, 3, 3, 182, 0, 128, 96, 172]
abbrev dktX8_lot_0 : List UInt8 := dkwX8_lot_0 ++ []
theorem dksX8_lot_0 : cX8_lot.data.toList.drop 0 = dktX8_lot_0 := by decide +kernel
theorem dX8_lot_0 : decode cX8_lot 0 = .ok (.aload_n 0, 1) := dk_42 (dk_at dksX8_lot_0 0 rfl rfl)
theorem dX8_lot_1 : decode cX8_lot 1 = .ok (.invokevirtual 326, 3) := dk_182 1 70 (dk_at dksX8_lot_0 1 rfl rfl)
theorem dX8_lot_4 : decode cX8_lot 4 = .ok (.bipush 100, 2) := dk_16 100 (dk_at dksX8_lot_0 4 rfl rfl)
theorem dX8_lot_6 : decode cX8_lot 6 = .ok (.aload_n 0, 1) := dk_42 (dk_at dksX8_lot_0 6 rfl rfl)
theorem dX8_lot_7 : decode cX8_lot 7 = .ok (.iconst 2, 1) := dk_5 (dk_at dksX8_lot_0 7 rfl rfl)
theorem dX8_lot_8 : decode cX8_lot 8 = .ok (.iconst 0, 1) := dk_3 (dk_at dksX8_lot_0 8 rfl rfl)
theorem dX8_lot_9 : decode cX8_lot 9 = .ok (.iconst 0, 1) := dk_3 (dk_at dksX8_lot_0 9 rfl rfl)
theorem dX8_lot_10 : decode cX8_lot 10 = .ok (.invokevirtual 128, 3) := dk_182 0 128 (dk_at dksX8_lot_0 10 rfl rfl)
theorem dX8_lot_13 : decode cX8_lot 13 = .ok (.iadd, 1) := dk_96 (dk_at dksX8_lot_0 13 rfl rfl)
theorem dX8_lot_14 : decode cX8_lot 14 = .ok (.ireturn, 1) := dk_172 (dk_at dksX8_lot_0 14 rfl rfl)
abbrev cX8_lots : ByteArray := prog_24_method_77_code
def yX8_lots : MethodName := ⟨RX8, "lots", "()V"⟩
def dkwX8_lots_4 : List UInt8 := [132, 3, 1, 167, 255, 180, 132, 2, 1, 167, 255, 163, 132, 1, 1, 167, 255, 150, 177]
abbrev dktX8_lots_4 : List UInt8 := dkwX8_lots_4 ++ []
def dkwX8_lots_3 : List UInt8 := [124, 16, 101, 112, 16, 50, 100, 167, 0, 15, 42, 180, 0, 26, 16, 16, 124, 16, 11, 112, 8, 100, 79]
abbrev dktX8_lots_3 : List UInt8 := dkwX8_lots_3 ++ dktX8_lots_4
def dkwX8_lots_2 : List UInt8 := [180, 0, 7, 16, 9, 27, 104, 6, 28, 104, 96, 29, 96, 27, 5, 160, 0, 19, 42, 180, 0, 26, 16, 16]
abbrev dktX8_lots_2 : List UInt8 := dkwX8_lots_2 ++ dktX8_lots_3
def dkwX8_lots_1 : List UInt8 := [182, 0, 107, 162, 0, 73, 42, 42, 180, 0, 26, 19, 1, 69, 104, 17, 48, 57, 96, 181, 0, 26, 42]
abbrev dktX8_lots_1 : List UInt8 := dkwX8_lots_1 ++ dktX8_lots_2
def dkwX8_lots_0 : List UInt8 := [3, 60, 27, 6, 162, 0, 107, 3, 61, 28, 42, 27, 182, 0, 103, 162, 0, 90, 3, 62, 29, 42, 27]
abbrev dktX8_lots_0 : List UInt8 := dkwX8_lots_0 ++ dktX8_lots_1
theorem dksX8_lots_0 : cX8_lots.data.toList.drop 0 = dktX8_lots_0 := by decide +kernel
theorem dksX8_lots_1 : cX8_lots.data.toList.drop 23 = dktX8_lots_1 := dk_seg dksX8_lots_0 23 rfl rfl
theorem dksX8_lots_2 : cX8_lots.data.toList.drop 46 = dktX8_lots_2 := dk_seg dksX8_lots_1 23 rfl rfl
theorem dksX8_lots_3 : cX8_lots.data.toList.drop 70 = dktX8_lots_3 := dk_seg dksX8_lots_2 24 rfl rfl
theorem dksX8_lots_4 : cX8_lots.data.toList.drop 93 = dktX8_lots_4 := dk_seg dksX8_lots_3 23 rfl rfl
theorem dX8_lots_0 : decode cX8_lots 0 = .ok (.iconst 0, 1) := dk_3 (dk_at dksX8_lots_0 0 rfl rfl)
theorem dX8_lots_1 : decode cX8_lots 1 = .ok (.istore_n 1, 1) := dk_60 (dk_at dksX8_lots_0 1 rfl rfl)
theorem dX8_lots_2 : decode cX8_lots 2 = .ok (.iload_n 1, 1) := dk_27 (dk_at dksX8_lots_0 2 rfl rfl)
theorem dX8_lots_3 : decode cX8_lots 3 = .ok (.iconst 3, 1) := dk_6 (dk_at dksX8_lots_0 3 rfl rfl)
theorem dX8_lots_4 : decode cX8_lots 4 = .ok (.if_icmp .ge 107, 3) := dk_162 0 107 (dk_at dksX8_lots_0 4 rfl rfl)
theorem dX8_lots_7 : decode cX8_lots 7 = .ok (.iconst 0, 1) := dk_3 (dk_at dksX8_lots_0 7 rfl rfl)
theorem dX8_lots_8 : decode cX8_lots 8 = .ok (.istore_n 2, 1) := dk_61 (dk_at dksX8_lots_0 8 rfl rfl)
theorem dX8_lots_9 : decode cX8_lots 9 = .ok (.iload_n 2, 1) := dk_28 (dk_at dksX8_lots_0 9 rfl rfl)
theorem dX8_lots_10 : decode cX8_lots 10 = .ok (.aload_n 0, 1) := dk_42 (dk_at dksX8_lots_0 10 rfl rfl)
theorem dX8_lots_11 : decode cX8_lots 11 = .ok (.iload_n 1, 1) := dk_27 (dk_at dksX8_lots_0 11 rfl rfl)
theorem dX8_lots_12 : decode cX8_lots 12 = .ok (.invokevirtual 103, 3) := dk_182 0 103 (dk_at dksX8_lots_0 12 rfl rfl)
theorem dX8_lots_15 : decode cX8_lots 15 = .ok (.if_icmp .ge 90, 3) := dk_162 0 90 (dk_at dksX8_lots_0 15 rfl rfl)
theorem dX8_lots_18 : decode cX8_lots 18 = .ok (.iconst 0, 1) := dk_3 (dk_at dksX8_lots_0 18 rfl rfl)
theorem dX8_lots_19 : decode cX8_lots 19 = .ok (.istore_n 3, 1) := dk_62 (dk_at dksX8_lots_0 19 rfl rfl)
theorem dX8_lots_20 : decode cX8_lots 20 = .ok (.iload_n 3, 1) := dk_29 (dk_at dksX8_lots_0 20 rfl rfl)
theorem dX8_lots_21 : decode cX8_lots 21 = .ok (.aload_n 0, 1) := dk_42 (dk_at dksX8_lots_0 21 rfl rfl)
theorem dX8_lots_22 : decode cX8_lots 22 = .ok (.iload_n 1, 1) := dk_27 (dk_at dksX8_lots_0 22 rfl rfl)
theorem dX8_lots_23 : decode cX8_lots 23 = .ok (.invokevirtual 107, 3) := dk_182 0 107 (dk_at dksX8_lots_1 0 rfl rfl)
theorem dX8_lots_26 : decode cX8_lots 26 = .ok (.if_icmp .ge 73, 3) := dk_162 0 73 (dk_at dksX8_lots_1 3 rfl rfl)
theorem dX8_lots_29 : decode cX8_lots 29 = .ok (.aload_n 0, 1) := dk_42 (dk_at dksX8_lots_1 6 rfl rfl)
theorem dX8_lots_30 : decode cX8_lots 30 = .ok (.aload_n 0, 1) := dk_42 (dk_at dksX8_lots_1 7 rfl rfl)
theorem dX8_lots_31 : decode cX8_lots 31 = .ok (.getfield 26, 3) := dk_180 0 26 (dk_at dksX8_lots_1 8 rfl rfl)
theorem dX8_lots_34 : decode cX8_lots 34 = .ok (.ldc_w 325, 3) := dk_19 1 69 (dk_at dksX8_lots_1 11 rfl rfl)
theorem dX8_lots_37 : decode cX8_lots 37 = .ok (.imul, 1) := dk_104 (dk_at dksX8_lots_1 14 rfl rfl)
theorem dX8_lots_38 : decode cX8_lots 38 = .ok (.sipush 12345, 3) := dk_17 48 57 (dk_at dksX8_lots_1 15 rfl rfl)
theorem dX8_lots_41 : decode cX8_lots 41 = .ok (.iadd, 1) := dk_96 (dk_at dksX8_lots_1 18 rfl rfl)
theorem dX8_lots_42 : decode cX8_lots 42 = .ok (.putfield 26, 3) := dk_181 0 26 (dk_at dksX8_lots_1 19 rfl rfl)
theorem dX8_lots_45 : decode cX8_lots 45 = .ok (.aload_n 0, 1) := dk_42 (dk_at dksX8_lots_1 22 rfl rfl)
theorem dX8_lots_46 : decode cX8_lots 46 = .ok (.getfield 7, 3) := dk_180 0 7 (dk_at dksX8_lots_2 0 rfl rfl)
theorem dX8_lots_49 : decode cX8_lots 49 = .ok (.bipush 9, 2) := dk_16 9 (dk_at dksX8_lots_2 3 rfl rfl)
theorem dX8_lots_51 : decode cX8_lots 51 = .ok (.iload_n 1, 1) := dk_27 (dk_at dksX8_lots_2 5 rfl rfl)
theorem dX8_lots_52 : decode cX8_lots 52 = .ok (.imul, 1) := dk_104 (dk_at dksX8_lots_2 6 rfl rfl)
theorem dX8_lots_53 : decode cX8_lots 53 = .ok (.iconst 3, 1) := dk_6 (dk_at dksX8_lots_2 7 rfl rfl)
theorem dX8_lots_54 : decode cX8_lots 54 = .ok (.iload_n 2, 1) := dk_28 (dk_at dksX8_lots_2 8 rfl rfl)
theorem dX8_lots_55 : decode cX8_lots 55 = .ok (.imul, 1) := dk_104 (dk_at dksX8_lots_2 9 rfl rfl)
theorem dX8_lots_56 : decode cX8_lots 56 = .ok (.iadd, 1) := dk_96 (dk_at dksX8_lots_2 10 rfl rfl)
theorem dX8_lots_57 : decode cX8_lots 57 = .ok (.iload_n 3, 1) := dk_29 (dk_at dksX8_lots_2 11 rfl rfl)
theorem dX8_lots_58 : decode cX8_lots 58 = .ok (.iadd, 1) := dk_96 (dk_at dksX8_lots_2 12 rfl rfl)
theorem dX8_lots_59 : decode cX8_lots 59 = .ok (.iload_n 1, 1) := dk_27 (dk_at dksX8_lots_2 13 rfl rfl)
theorem dX8_lots_60 : decode cX8_lots 60 = .ok (.iconst 2, 1) := dk_5 (dk_at dksX8_lots_2 14 rfl rfl)
theorem dX8_lots_61 : decode cX8_lots 61 = .ok (.if_icmp .ne 19, 3) := dk_160 0 19 (dk_at dksX8_lots_2 15 rfl rfl)
theorem dX8_lots_64 : decode cX8_lots 64 = .ok (.aload_n 0, 1) := dk_42 (dk_at dksX8_lots_2 18 rfl rfl)
theorem dX8_lots_65 : decode cX8_lots 65 = .ok (.getfield 26, 3) := dk_180 0 26 (dk_at dksX8_lots_2 19 rfl rfl)
theorem dX8_lots_68 : decode cX8_lots 68 = .ok (.bipush 16, 2) := dk_16 16 (dk_at dksX8_lots_2 22 rfl rfl)
theorem dX8_lots_70 : decode cX8_lots 70 = .ok (.iushr, 1) := dk_124 (dk_at dksX8_lots_3 0 rfl rfl)
theorem dX8_lots_71 : decode cX8_lots 71 = .ok (.bipush 101, 2) := dk_16 101 (dk_at dksX8_lots_3 1 rfl rfl)
theorem dX8_lots_73 : decode cX8_lots 73 = .ok (.irem, 1) := dk_112 (dk_at dksX8_lots_3 3 rfl rfl)
theorem dX8_lots_74 : decode cX8_lots 74 = .ok (.bipush 50, 2) := dk_16 50 (dk_at dksX8_lots_3 4 rfl rfl)
theorem dX8_lots_76 : decode cX8_lots 76 = .ok (.isub, 1) := dk_100 (dk_at dksX8_lots_3 6 rfl rfl)
theorem dX8_lots_77 : decode cX8_lots 77 = .ok (.goto 15, 3) := dk_167 0 15 (dk_at dksX8_lots_3 7 rfl rfl)
theorem dX8_lots_80 : decode cX8_lots 80 = .ok (.aload_n 0, 1) := dk_42 (dk_at dksX8_lots_3 10 rfl rfl)
theorem dX8_lots_81 : decode cX8_lots 81 = .ok (.getfield 26, 3) := dk_180 0 26 (dk_at dksX8_lots_3 11 rfl rfl)
theorem dX8_lots_84 : decode cX8_lots 84 = .ok (.bipush 16, 2) := dk_16 16 (dk_at dksX8_lots_3 14 rfl rfl)
theorem dX8_lots_86 : decode cX8_lots 86 = .ok (.iushr, 1) := dk_124 (dk_at dksX8_lots_3 16 rfl rfl)
theorem dX8_lots_87 : decode cX8_lots 87 = .ok (.bipush 11, 2) := dk_16 11 (dk_at dksX8_lots_3 17 rfl rfl)
theorem dX8_lots_89 : decode cX8_lots 89 = .ok (.irem, 1) := dk_112 (dk_at dksX8_lots_3 19 rfl rfl)
theorem dX8_lots_90 : decode cX8_lots 90 = .ok (.iconst 5, 1) := dk_8 (dk_at dksX8_lots_3 20 rfl rfl)
theorem dX8_lots_91 : decode cX8_lots 91 = .ok (.isub, 1) := dk_100 (dk_at dksX8_lots_3 21 rfl rfl)
theorem dX8_lots_92 : decode cX8_lots 92 = .ok (.iastore, 1) := dk_79 (dk_at dksX8_lots_3 22 rfl rfl)
theorem dX8_lots_93 : decode cX8_lots 93 = .ok (.iinc 3 1, 3) := dk_132 3 1 (dk_at dksX8_lots_4 0 rfl rfl)
theorem dX8_lots_96 : decode cX8_lots 96 = .ok (.goto (-76), 3) := dk_167 255 180 (dk_at dksX8_lots_4 3 rfl rfl)
theorem dX8_lots_99 : decode cX8_lots 99 = .ok (.iinc 2 1, 3) := dk_132 2 1 (dk_at dksX8_lots_4 6 rfl rfl)
theorem dX8_lots_102 : decode cX8_lots 102 = .ok (.goto (-93), 3) := dk_167 255 163 (dk_at dksX8_lots_4 9 rfl rfl)
theorem dX8_lots_105 : decode cX8_lots 105 = .ok (.iinc 1 1, 3) := dk_132 1 1 (dk_at dksX8_lots_4 12 rfl rfl)
theorem dX8_lots_108 : decode cX8_lots 108 = .ok (.goto (-106), 3) := dk_167 255 150 (dk_at dksX8_lots_4 15 rfl rfl)
theorem dX8_lots_111 : decode cX8_lots 111 = .ok (.return_, 1) := dk_177 (dk_at dksX8_lots_4 18 rfl rfl)
abbrev cX8_times : ByteArray := prog_24_method_79_code
def yX8_times : MethodName := ⟨RX8, "times", "(II)I"⟩
def dkwX8_times_4 : List UInt8 := [180, 0, 16, 42, 180, 0, 7, 182, 0, 186, 29, 172]
abbrev dktX8_times_4 : List UInt8 := dkwX8_times_4 ++ []
def dkwX8_times_3 : List UInt8 := [42, 182, 1, 14, 153, 0, 7, 4, 167, 0, 4, 3, 96, 62, 132, 4, 1, 167, 255, 223, 42, 42]
abbrev dktX8_times_3 : List UInt8 := dkwX8_times_3 ++ dktX8_times_4
def dkwX8_times_2 : List UInt8 := [182, 0, 186, 3, 62, 3, 54, 4, 21, 4, 28, 162, 0, 33, 42, 182, 1, 70, 42, 27, 182, 1, 6, 29]
abbrev dktX8_times_2 : List UInt8 := dkwX8_times_2 ++ dktX8_times_3
def dkwX8_times_1 : List UInt8 := [180, 0, 29, 27, 46, 182, 1, 3, 154, 0, 6, 16, 252, 172, 42, 42, 180, 0, 7, 42, 180, 0, 16]
abbrev dktX8_times_1 : List UInt8 := dkwX8_times_1 ++ dktX8_times_2
def dkwX8_times_0 : List UInt8 := [42, 27, 182, 0, 203, 153, 0, 15, 28, 133, 10, 20, 1, 73, 184, 0, 99, 154, 0, 5, 2, 172, 42, 42]
abbrev dktX8_times_0 : List UInt8 := dkwX8_times_0 ++ dktX8_times_1
theorem dksX8_times_0 : cX8_times.data.toList.drop 0 = dktX8_times_0 := by decide +kernel
theorem dksX8_times_1 : cX8_times.data.toList.drop 24 = dktX8_times_1 := dk_seg dksX8_times_0 24 rfl rfl
theorem dksX8_times_2 : cX8_times.data.toList.drop 47 = dktX8_times_2 := dk_seg dksX8_times_1 23 rfl rfl
theorem dksX8_times_3 : cX8_times.data.toList.drop 71 = dktX8_times_3 := dk_seg dksX8_times_2 24 rfl rfl
theorem dksX8_times_4 : cX8_times.data.toList.drop 93 = dktX8_times_4 := dk_seg dksX8_times_3 22 rfl rfl
theorem dX8_times_0 : decode cX8_times 0 = .ok (.aload_n 0, 1) := dk_42 (dk_at dksX8_times_0 0 rfl rfl)
theorem dX8_times_1 : decode cX8_times 1 = .ok (.iload_n 1, 1) := dk_27 (dk_at dksX8_times_0 1 rfl rfl)
theorem dX8_times_2 : decode cX8_times 2 = .ok (.invokevirtual 203, 3) := dk_182 0 203 (dk_at dksX8_times_0 2 rfl rfl)
theorem dX8_times_5 : decode cX8_times 5 = .ok (.ifCond .eq 15, 3) := dk_153 0 15 (dk_at dksX8_times_0 5 rfl rfl)
theorem dX8_times_8 : decode cX8_times 8 = .ok (.iload_n 2, 1) := dk_28 (dk_at dksX8_times_0 8 rfl rfl)
theorem dX8_times_9 : decode cX8_times 9 = .ok (.i2l, 1) := dk_133 (dk_at dksX8_times_0 9 rfl rfl)
theorem dX8_times_10 : decode cX8_times 10 = .ok (.lconst 1, 1) := dk_10 (dk_at dksX8_times_0 10 rfl rfl)
theorem dX8_times_11 : decode cX8_times 11 = .ok (.ldc2_w 329, 3) := dk_20 1 73 (dk_at dksX8_times_0 11 rfl rfl)
theorem dX8_times_14 : decode cX8_times 14 = .ok (.invokestatic 99, 3) := dk_184 0 99 (dk_at dksX8_times_0 14 rfl rfl)
theorem dX8_times_17 : decode cX8_times 17 = .ok (.ifCond .ne 5, 3) := dk_154 0 5 (dk_at dksX8_times_0 17 rfl rfl)
theorem dX8_times_20 : decode cX8_times 20 = .ok (.iconst (-1), 1) := dk_2 (dk_at dksX8_times_0 20 rfl rfl)
theorem dX8_times_21 : decode cX8_times 21 = .ok (.ireturn, 1) := dk_172 (dk_at dksX8_times_0 21 rfl rfl)
theorem dX8_times_22 : decode cX8_times 22 = .ok (.aload_n 0, 1) := dk_42 (dk_at dksX8_times_0 22 rfl rfl)
theorem dX8_times_23 : decode cX8_times 23 = .ok (.aload_n 0, 1) := dk_42 (dk_at dksX8_times_0 23 rfl rfl)
theorem dX8_times_24 : decode cX8_times 24 = .ok (.getfield 29, 3) := dk_180 0 29 (dk_at dksX8_times_1 0 rfl rfl)
theorem dX8_times_27 : decode cX8_times 27 = .ok (.iload_n 1, 1) := dk_27 (dk_at dksX8_times_1 3 rfl rfl)
theorem dX8_times_28 : decode cX8_times 28 = .ok (.iaload, 1) := dk_46 (dk_at dksX8_times_1 4 rfl rfl)
theorem dX8_times_29 : decode cX8_times 29 = .ok (.invokevirtual 259, 3) := dk_182 1 3 (dk_at dksX8_times_1 5 rfl rfl)
theorem dX8_times_32 : decode cX8_times 32 = .ok (.ifCond .ne 6, 3) := dk_154 0 6 (dk_at dksX8_times_1 8 rfl rfl)
theorem dX8_times_35 : decode cX8_times 35 = .ok (.bipush (-4), 2) := dk_16 252 (dk_at dksX8_times_1 11 rfl rfl)
theorem dX8_times_37 : decode cX8_times 37 = .ok (.ireturn, 1) := dk_172 (dk_at dksX8_times_1 13 rfl rfl)
theorem dX8_times_38 : decode cX8_times 38 = .ok (.aload_n 0, 1) := dk_42 (dk_at dksX8_times_1 14 rfl rfl)
theorem dX8_times_39 : decode cX8_times 39 = .ok (.aload_n 0, 1) := dk_42 (dk_at dksX8_times_1 15 rfl rfl)
theorem dX8_times_40 : decode cX8_times 40 = .ok (.getfield 7, 3) := dk_180 0 7 (dk_at dksX8_times_1 16 rfl rfl)
theorem dX8_times_43 : decode cX8_times 43 = .ok (.aload_n 0, 1) := dk_42 (dk_at dksX8_times_1 19 rfl rfl)
theorem dX8_times_44 : decode cX8_times 44 = .ok (.getfield 16, 3) := dk_180 0 16 (dk_at dksX8_times_1 20 rfl rfl)
theorem dX8_times_47 : decode cX8_times 47 = .ok (.invokevirtual 186, 3) := dk_182 0 186 (dk_at dksX8_times_2 0 rfl rfl)
theorem dX8_times_50 : decode cX8_times 50 = .ok (.iconst 0, 1) := dk_3 (dk_at dksX8_times_2 3 rfl rfl)
theorem dX8_times_51 : decode cX8_times 51 = .ok (.istore_n 3, 1) := dk_62 (dk_at dksX8_times_2 4 rfl rfl)
theorem dX8_times_52 : decode cX8_times 52 = .ok (.iconst 0, 1) := dk_3 (dk_at dksX8_times_2 5 rfl rfl)
theorem dX8_times_53 : decode cX8_times 53 = .ok (.istore 4, 2) := dk_54 4 (dk_at dksX8_times_2 6 rfl rfl)
theorem dX8_times_55 : decode cX8_times 55 = .ok (.iload 4, 2) := dk_21 4 (dk_at dksX8_times_2 8 rfl rfl)
theorem dX8_times_57 : decode cX8_times 57 = .ok (.iload_n 2, 1) := dk_28 (dk_at dksX8_times_2 10 rfl rfl)
theorem dX8_times_58 : decode cX8_times 58 = .ok (.if_icmp .ge 33, 3) := dk_162 0 33 (dk_at dksX8_times_2 11 rfl rfl)
theorem dX8_times_61 : decode cX8_times 61 = .ok (.aload_n 0, 1) := dk_42 (dk_at dksX8_times_2 14 rfl rfl)
theorem dX8_times_62 : decode cX8_times 62 = .ok (.invokevirtual 326, 3) := dk_182 1 70 (dk_at dksX8_times_2 15 rfl rfl)
theorem dX8_times_65 : decode cX8_times 65 = .ok (.aload_n 0, 1) := dk_42 (dk_at dksX8_times_2 18 rfl rfl)
theorem dX8_times_66 : decode cX8_times 66 = .ok (.iload_n 1, 1) := dk_27 (dk_at dksX8_times_2 19 rfl rfl)
theorem dX8_times_67 : decode cX8_times 67 = .ok (.invokevirtual 262, 3) := dk_182 1 6 (dk_at dksX8_times_2 20 rfl rfl)
theorem dX8_times_70 : decode cX8_times 70 = .ok (.iload_n 3, 1) := dk_29 (dk_at dksX8_times_2 23 rfl rfl)
theorem dX8_times_71 : decode cX8_times 71 = .ok (.aload_n 0, 1) := dk_42 (dk_at dksX8_times_3 0 rfl rfl)
theorem dX8_times_72 : decode cX8_times 72 = .ok (.invokevirtual 270, 3) := dk_182 1 14 (dk_at dksX8_times_3 1 rfl rfl)
theorem dX8_times_75 : decode cX8_times 75 = .ok (.ifCond .eq 7, 3) := dk_153 0 7 (dk_at dksX8_times_3 4 rfl rfl)
theorem dX8_times_78 : decode cX8_times 78 = .ok (.iconst 1, 1) := dk_4 (dk_at dksX8_times_3 7 rfl rfl)
theorem dX8_times_79 : decode cX8_times 79 = .ok (.goto 4, 3) := dk_167 0 4 (dk_at dksX8_times_3 8 rfl rfl)
theorem dX8_times_82 : decode cX8_times 82 = .ok (.iconst 0, 1) := dk_3 (dk_at dksX8_times_3 11 rfl rfl)
theorem dX8_times_83 : decode cX8_times 83 = .ok (.iadd, 1) := dk_96 (dk_at dksX8_times_3 12 rfl rfl)
theorem dX8_times_84 : decode cX8_times 84 = .ok (.istore_n 3, 1) := dk_62 (dk_at dksX8_times_3 13 rfl rfl)
theorem dX8_times_85 : decode cX8_times 85 = .ok (.iinc 4 1, 3) := dk_132 4 1 (dk_at dksX8_times_3 14 rfl rfl)
theorem dX8_times_88 : decode cX8_times 88 = .ok (.goto (-33), 3) := dk_167 255 223 (dk_at dksX8_times_3 17 rfl rfl)
theorem dX8_times_91 : decode cX8_times 91 = .ok (.aload_n 0, 1) := dk_42 (dk_at dksX8_times_3 20 rfl rfl)
theorem dX8_times_92 : decode cX8_times 92 = .ok (.aload_n 0, 1) := dk_42 (dk_at dksX8_times_3 21 rfl rfl)
theorem dX8_times_93 : decode cX8_times 93 = .ok (.getfield 16, 3) := dk_180 0 16 (dk_at dksX8_times_4 0 rfl rfl)
theorem dX8_times_96 : decode cX8_times 96 = .ok (.aload_n 0, 1) := dk_42 (dk_at dksX8_times_4 3 rfl rfl)
theorem dX8_times_97 : decode cX8_times 97 = .ok (.getfield 7, 3) := dk_180 0 7 (dk_at dksX8_times_4 4 rfl rfl)
theorem dX8_times_100 : decode cX8_times 100 = .ok (.invokevirtual 186, 3) := dk_182 0 186 (dk_at dksX8_times_4 7 rfl rfl)
theorem dX8_times_103 : decode cX8_times 103 = .ok (.iload_n 3, 1) := dk_29 (dk_at dksX8_times_4 10 rfl rfl)
theorem dX8_times_104 : decode cX8_times 104 = .ok (.ireturn, 1) := dk_172 (dk_at dksX8_times_4 11 rfl rfl)
abbrev cX8_sheet : ByteArray := prog_24_method_81_code
def yX8_sheet : MethodName := ⟨RX8, "sheet", "(III)I"⟩
def dkwX8_sheet_4 : List UInt8 := [167, 255, 233, 4, 172]
abbrev dktX8_sheet_4 : List UInt8 := dkwX8_sheet_4 ++ []
def dkwX8_sheet_3 : List UInt8 := [21, 4, 16, 40, 162, 0, 22, 42, 180, 0, 73, 16, 40, 27, 104, 21, 4, 96, 9, 80, 132, 4, 1]
abbrev dktX8_sheet_3 : List UInt8 := dkwX8_sheet_3 ++ dktX8_sheet_4
def dkwX8_sheet_2 : List UInt8 := [180, 0, 67, 27, 28, 79, 42, 180, 0, 70, 27, 28, 156, 0, 7, 3, 167, 0, 4, 29, 79, 3, 54, 4]
abbrev dktX8_sheet_2 : List UInt8 := dkwX8_sheet_2 ++ dktX8_sheet_3
def dkwX8_sheet_1 : List UInt8 := [155, 0, 11, 29, 16, 40, 164, 0, 5, 2, 172, 28, 155, 0, 10, 29, 156, 0, 6, 16, 242, 172, 42]
abbrev dktX8_sheet_1 : List UInt8 := dkwX8_sheet_1 ++ dktX8_sheet_2
def dkwX8_sheet_0 : List UInt8 := [27, 184, 1, 47, 153, 0, 27, 28, 133, 20, 1, 67, 20, 0, 118, 184, 0, 99, 153, 0, 13, 28]
abbrev dktX8_sheet_0 : List UInt8 := dkwX8_sheet_0 ++ dktX8_sheet_1
theorem dksX8_sheet_0 : cX8_sheet.data.toList.drop 0 = dktX8_sheet_0 := by decide +kernel
theorem dksX8_sheet_1 : cX8_sheet.data.toList.drop 22 = dktX8_sheet_1 := dk_seg dksX8_sheet_0 22 rfl rfl
theorem dksX8_sheet_2 : cX8_sheet.data.toList.drop 45 = dktX8_sheet_2 := dk_seg dksX8_sheet_1 23 rfl rfl
theorem dksX8_sheet_3 : cX8_sheet.data.toList.drop 69 = dktX8_sheet_3 := dk_seg dksX8_sheet_2 24 rfl rfl
theorem dksX8_sheet_4 : cX8_sheet.data.toList.drop 92 = dktX8_sheet_4 := dk_seg dksX8_sheet_3 23 rfl rfl
theorem dX8_sheet_0 : decode cX8_sheet 0 = .ok (.iload_n 1, 1) := dk_27 (dk_at dksX8_sheet_0 0 rfl rfl)
theorem dX8_sheet_1 : decode cX8_sheet 1 = .ok (.invokestatic 303, 3) := dk_184 1 47 (dk_at dksX8_sheet_0 1 rfl rfl)
theorem dX8_sheet_4 : decode cX8_sheet 4 = .ok (.ifCond .eq 27, 3) := dk_153 0 27 (dk_at dksX8_sheet_0 4 rfl rfl)
theorem dX8_sheet_7 : decode cX8_sheet 7 = .ok (.iload_n 2, 1) := dk_28 (dk_at dksX8_sheet_0 7 rfl rfl)
theorem dX8_sheet_8 : decode cX8_sheet 8 = .ok (.i2l, 1) := dk_133 (dk_at dksX8_sheet_0 8 rfl rfl)
theorem dX8_sheet_9 : decode cX8_sheet 9 = .ok (.ldc2_w 323, 3) := dk_20 1 67 (dk_at dksX8_sheet_0 9 rfl rfl)
theorem dX8_sheet_12 : decode cX8_sheet 12 = .ok (.ldc2_w 118, 3) := dk_20 0 118 (dk_at dksX8_sheet_0 12 rfl rfl)
theorem dX8_sheet_15 : decode cX8_sheet 15 = .ok (.invokestatic 99, 3) := dk_184 0 99 (dk_at dksX8_sheet_0 15 rfl rfl)
theorem dX8_sheet_18 : decode cX8_sheet 18 = .ok (.ifCond .eq 13, 3) := dk_153 0 13 (dk_at dksX8_sheet_0 18 rfl rfl)
theorem dX8_sheet_21 : decode cX8_sheet 21 = .ok (.iload_n 2, 1) := dk_28 (dk_at dksX8_sheet_0 21 rfl rfl)
theorem dX8_sheet_22 : decode cX8_sheet 22 = .ok (.ifCond .lt 11, 3) := dk_155 0 11 (dk_at dksX8_sheet_1 0 rfl rfl)
theorem dX8_sheet_25 : decode cX8_sheet 25 = .ok (.iload_n 3, 1) := dk_29 (dk_at dksX8_sheet_1 3 rfl rfl)
theorem dX8_sheet_26 : decode cX8_sheet 26 = .ok (.bipush 40, 2) := dk_16 40 (dk_at dksX8_sheet_1 4 rfl rfl)
theorem dX8_sheet_28 : decode cX8_sheet 28 = .ok (.if_icmp .le 5, 3) := dk_164 0 5 (dk_at dksX8_sheet_1 6 rfl rfl)
theorem dX8_sheet_31 : decode cX8_sheet 31 = .ok (.iconst (-1), 1) := dk_2 (dk_at dksX8_sheet_1 9 rfl rfl)
theorem dX8_sheet_32 : decode cX8_sheet 32 = .ok (.ireturn, 1) := dk_172 (dk_at dksX8_sheet_1 10 rfl rfl)
theorem dX8_sheet_33 : decode cX8_sheet 33 = .ok (.iload_n 2, 1) := dk_28 (dk_at dksX8_sheet_1 11 rfl rfl)
theorem dX8_sheet_34 : decode cX8_sheet 34 = .ok (.ifCond .lt 10, 3) := dk_155 0 10 (dk_at dksX8_sheet_1 12 rfl rfl)
theorem dX8_sheet_37 : decode cX8_sheet 37 = .ok (.iload_n 3, 1) := dk_29 (dk_at dksX8_sheet_1 15 rfl rfl)
theorem dX8_sheet_38 : decode cX8_sheet 38 = .ok (.ifCond .ge 6, 3) := dk_156 0 6 (dk_at dksX8_sheet_1 16 rfl rfl)
theorem dX8_sheet_41 : decode cX8_sheet 41 = .ok (.bipush (-14), 2) := dk_16 242 (dk_at dksX8_sheet_1 19 rfl rfl)
theorem dX8_sheet_43 : decode cX8_sheet 43 = .ok (.ireturn, 1) := dk_172 (dk_at dksX8_sheet_1 21 rfl rfl)
theorem dX8_sheet_44 : decode cX8_sheet 44 = .ok (.aload_n 0, 1) := dk_42 (dk_at dksX8_sheet_1 22 rfl rfl)
theorem dX8_sheet_45 : decode cX8_sheet 45 = .ok (.getfield 67, 3) := dk_180 0 67 (dk_at dksX8_sheet_2 0 rfl rfl)
theorem dX8_sheet_48 : decode cX8_sheet 48 = .ok (.iload_n 1, 1) := dk_27 (dk_at dksX8_sheet_2 3 rfl rfl)
theorem dX8_sheet_49 : decode cX8_sheet 49 = .ok (.iload_n 2, 1) := dk_28 (dk_at dksX8_sheet_2 4 rfl rfl)
theorem dX8_sheet_50 : decode cX8_sheet 50 = .ok (.iastore, 1) := dk_79 (dk_at dksX8_sheet_2 5 rfl rfl)
theorem dX8_sheet_51 : decode cX8_sheet 51 = .ok (.aload_n 0, 1) := dk_42 (dk_at dksX8_sheet_2 6 rfl rfl)
theorem dX8_sheet_52 : decode cX8_sheet 52 = .ok (.getfield 70, 3) := dk_180 0 70 (dk_at dksX8_sheet_2 7 rfl rfl)
theorem dX8_sheet_55 : decode cX8_sheet 55 = .ok (.iload_n 1, 1) := dk_27 (dk_at dksX8_sheet_2 10 rfl rfl)
theorem dX8_sheet_56 : decode cX8_sheet 56 = .ok (.iload_n 2, 1) := dk_28 (dk_at dksX8_sheet_2 11 rfl rfl)
theorem dX8_sheet_57 : decode cX8_sheet 57 = .ok (.ifCond .ge 7, 3) := dk_156 0 7 (dk_at dksX8_sheet_2 12 rfl rfl)
theorem dX8_sheet_60 : decode cX8_sheet 60 = .ok (.iconst 0, 1) := dk_3 (dk_at dksX8_sheet_2 15 rfl rfl)
theorem dX8_sheet_61 : decode cX8_sheet 61 = .ok (.goto 4, 3) := dk_167 0 4 (dk_at dksX8_sheet_2 16 rfl rfl)
theorem dX8_sheet_64 : decode cX8_sheet 64 = .ok (.iload_n 3, 1) := dk_29 (dk_at dksX8_sheet_2 19 rfl rfl)
theorem dX8_sheet_65 : decode cX8_sheet 65 = .ok (.iastore, 1) := dk_79 (dk_at dksX8_sheet_2 20 rfl rfl)
theorem dX8_sheet_66 : decode cX8_sheet 66 = .ok (.iconst 0, 1) := dk_3 (dk_at dksX8_sheet_2 21 rfl rfl)
theorem dX8_sheet_67 : decode cX8_sheet 67 = .ok (.istore 4, 2) := dk_54 4 (dk_at dksX8_sheet_2 22 rfl rfl)
theorem dX8_sheet_69 : decode cX8_sheet 69 = .ok (.iload 4, 2) := dk_21 4 (dk_at dksX8_sheet_3 0 rfl rfl)
theorem dX8_sheet_71 : decode cX8_sheet 71 = .ok (.bipush 40, 2) := dk_16 40 (dk_at dksX8_sheet_3 2 rfl rfl)
theorem dX8_sheet_73 : decode cX8_sheet 73 = .ok (.if_icmp .ge 22, 3) := dk_162 0 22 (dk_at dksX8_sheet_3 4 rfl rfl)
theorem dX8_sheet_76 : decode cX8_sheet 76 = .ok (.aload_n 0, 1) := dk_42 (dk_at dksX8_sheet_3 7 rfl rfl)
theorem dX8_sheet_77 : decode cX8_sheet 77 = .ok (.getfield 73, 3) := dk_180 0 73 (dk_at dksX8_sheet_3 8 rfl rfl)
theorem dX8_sheet_80 : decode cX8_sheet 80 = .ok (.bipush 40, 2) := dk_16 40 (dk_at dksX8_sheet_3 11 rfl rfl)
theorem dX8_sheet_82 : decode cX8_sheet 82 = .ok (.iload_n 1, 1) := dk_27 (dk_at dksX8_sheet_3 13 rfl rfl)
theorem dX8_sheet_83 : decode cX8_sheet 83 = .ok (.imul, 1) := dk_104 (dk_at dksX8_sheet_3 14 rfl rfl)
theorem dX8_sheet_84 : decode cX8_sheet 84 = .ok (.iload 4, 2) := dk_21 4 (dk_at dksX8_sheet_3 15 rfl rfl)
theorem dX8_sheet_86 : decode cX8_sheet 86 = .ok (.iadd, 1) := dk_96 (dk_at dksX8_sheet_3 17 rfl rfl)
theorem dX8_sheet_87 : decode cX8_sheet 87 = .ok (.lconst 0, 1) := dk_9 (dk_at dksX8_sheet_3 18 rfl rfl)
theorem dX8_sheet_88 : decode cX8_sheet 88 = .ok (.lastore, 1) := dk_80 (dk_at dksX8_sheet_3 19 rfl rfl)
theorem dX8_sheet_89 : decode cX8_sheet 89 = .ok (.iinc 4 1, 3) := dk_132 4 1 (dk_at dksX8_sheet_3 20 rfl rfl)
theorem dX8_sheet_92 : decode cX8_sheet 92 = .ok (.goto (-23), 3) := dk_167 255 233 (dk_at dksX8_sheet_4 0 rfl rfl)
theorem dX8_sheet_95 : decode cX8_sheet 95 = .ok (.iconst 1, 1) := dk_4 (dk_at dksX8_sheet_4 3 rfl rfl)
theorem dX8_sheet_96 : decode cX8_sheet 96 = .ok (.ireturn, 1) := dk_172 (dk_at dksX8_sheet_4 4 rfl rfl)
abbrev cX8_put : ByteArray := prog_24_method_83_code
def yX8_put : MethodName := ⟨RX8, "put", "(IIJ)I"⟩
def dkwX8_put_2 : List UInt8 := [27, 104, 28, 96, 42, 180, 0, 67, 27, 46, 33, 184, 1, 75, 80, 4, 172]
abbrev dktX8_put_2 : List UInt8 := dkwX8_put_2 ++ []
def dkwX8_put_1 : List UInt8 := [42, 180, 0, 70, 27, 46, 4, 100, 133, 184, 0, 99, 154, 0, 6, 16, 244, 172, 42, 180, 0, 73, 16, 40]
abbrev dktX8_put_1 : List UInt8 := dkwX8_put_1 ++ dktX8_put_2
def dkwX8_put_0 : List UInt8 := [27, 184, 1, 47, 154, 0, 5, 2, 172, 42, 180, 0, 67, 27, 46, 156, 0, 6, 16, 245, 172, 28, 133, 9]
abbrev dktX8_put_0 : List UInt8 := dkwX8_put_0 ++ dktX8_put_1
theorem dksX8_put_0 : cX8_put.data.toList.drop 0 = dktX8_put_0 := by decide +kernel
theorem dksX8_put_1 : cX8_put.data.toList.drop 24 = dktX8_put_1 := dk_seg dksX8_put_0 24 rfl rfl
theorem dksX8_put_2 : cX8_put.data.toList.drop 48 = dktX8_put_2 := dk_seg dksX8_put_1 24 rfl rfl
theorem dX8_put_0 : decode cX8_put 0 = .ok (.iload_n 1, 1) := dk_27 (dk_at dksX8_put_0 0 rfl rfl)
theorem dX8_put_1 : decode cX8_put 1 = .ok (.invokestatic 303, 3) := dk_184 1 47 (dk_at dksX8_put_0 1 rfl rfl)
theorem dX8_put_4 : decode cX8_put 4 = .ok (.ifCond .ne 5, 3) := dk_154 0 5 (dk_at dksX8_put_0 4 rfl rfl)
theorem dX8_put_7 : decode cX8_put 7 = .ok (.iconst (-1), 1) := dk_2 (dk_at dksX8_put_0 7 rfl rfl)
theorem dX8_put_8 : decode cX8_put 8 = .ok (.ireturn, 1) := dk_172 (dk_at dksX8_put_0 8 rfl rfl)
theorem dX8_put_9 : decode cX8_put 9 = .ok (.aload_n 0, 1) := dk_42 (dk_at dksX8_put_0 9 rfl rfl)
theorem dX8_put_10 : decode cX8_put 10 = .ok (.getfield 67, 3) := dk_180 0 67 (dk_at dksX8_put_0 10 rfl rfl)
theorem dX8_put_13 : decode cX8_put 13 = .ok (.iload_n 1, 1) := dk_27 (dk_at dksX8_put_0 13 rfl rfl)
theorem dX8_put_14 : decode cX8_put 14 = .ok (.iaload, 1) := dk_46 (dk_at dksX8_put_0 14 rfl rfl)
theorem dX8_put_15 : decode cX8_put 15 = .ok (.ifCond .ge 6, 3) := dk_156 0 6 (dk_at dksX8_put_0 15 rfl rfl)
theorem dX8_put_18 : decode cX8_put 18 = .ok (.bipush (-11), 2) := dk_16 245 (dk_at dksX8_put_0 18 rfl rfl)
theorem dX8_put_20 : decode cX8_put 20 = .ok (.ireturn, 1) := dk_172 (dk_at dksX8_put_0 20 rfl rfl)
theorem dX8_put_21 : decode cX8_put 21 = .ok (.iload_n 2, 1) := dk_28 (dk_at dksX8_put_0 21 rfl rfl)
theorem dX8_put_22 : decode cX8_put 22 = .ok (.i2l, 1) := dk_133 (dk_at dksX8_put_0 22 rfl rfl)
theorem dX8_put_23 : decode cX8_put 23 = .ok (.lconst 0, 1) := dk_9 (dk_at dksX8_put_0 23 rfl rfl)
theorem dX8_put_24 : decode cX8_put 24 = .ok (.aload_n 0, 1) := dk_42 (dk_at dksX8_put_1 0 rfl rfl)
theorem dX8_put_25 : decode cX8_put 25 = .ok (.getfield 70, 3) := dk_180 0 70 (dk_at dksX8_put_1 1 rfl rfl)
theorem dX8_put_28 : decode cX8_put 28 = .ok (.iload_n 1, 1) := dk_27 (dk_at dksX8_put_1 4 rfl rfl)
theorem dX8_put_29 : decode cX8_put 29 = .ok (.iaload, 1) := dk_46 (dk_at dksX8_put_1 5 rfl rfl)
theorem dX8_put_30 : decode cX8_put 30 = .ok (.iconst 1, 1) := dk_4 (dk_at dksX8_put_1 6 rfl rfl)
theorem dX8_put_31 : decode cX8_put 31 = .ok (.isub, 1) := dk_100 (dk_at dksX8_put_1 7 rfl rfl)
theorem dX8_put_32 : decode cX8_put 32 = .ok (.i2l, 1) := dk_133 (dk_at dksX8_put_1 8 rfl rfl)
theorem dX8_put_33 : decode cX8_put 33 = .ok (.invokestatic 99, 3) := dk_184 0 99 (dk_at dksX8_put_1 9 rfl rfl)
theorem dX8_put_36 : decode cX8_put 36 = .ok (.ifCond .ne 6, 3) := dk_154 0 6 (dk_at dksX8_put_1 12 rfl rfl)
theorem dX8_put_39 : decode cX8_put 39 = .ok (.bipush (-12), 2) := dk_16 244 (dk_at dksX8_put_1 15 rfl rfl)
theorem dX8_put_41 : decode cX8_put 41 = .ok (.ireturn, 1) := dk_172 (dk_at dksX8_put_1 17 rfl rfl)
theorem dX8_put_42 : decode cX8_put 42 = .ok (.aload_n 0, 1) := dk_42 (dk_at dksX8_put_1 18 rfl rfl)
theorem dX8_put_43 : decode cX8_put 43 = .ok (.getfield 73, 3) := dk_180 0 73 (dk_at dksX8_put_1 19 rfl rfl)
theorem dX8_put_46 : decode cX8_put 46 = .ok (.bipush 40, 2) := dk_16 40 (dk_at dksX8_put_1 22 rfl rfl)
theorem dX8_put_48 : decode cX8_put 48 = .ok (.iload_n 1, 1) := dk_27 (dk_at dksX8_put_2 0 rfl rfl)
theorem dX8_put_49 : decode cX8_put 49 = .ok (.imul, 1) := dk_104 (dk_at dksX8_put_2 1 rfl rfl)
theorem dX8_put_50 : decode cX8_put 50 = .ok (.iload_n 2, 1) := dk_28 (dk_at dksX8_put_2 2 rfl rfl)
theorem dX8_put_51 : decode cX8_put 51 = .ok (.iadd, 1) := dk_96 (dk_at dksX8_put_2 3 rfl rfl)
theorem dX8_put_52 : decode cX8_put 52 = .ok (.aload_n 0, 1) := dk_42 (dk_at dksX8_put_2 4 rfl rfl)
theorem dX8_put_53 : decode cX8_put 53 = .ok (.getfield 67, 3) := dk_180 0 67 (dk_at dksX8_put_2 5 rfl rfl)
theorem dX8_put_56 : decode cX8_put 56 = .ok (.iload_n 1, 1) := dk_27 (dk_at dksX8_put_2 8 rfl rfl)
theorem dX8_put_57 : decode cX8_put 57 = .ok (.iaload, 1) := dk_46 (dk_at dksX8_put_2 9 rfl rfl)
theorem dX8_put_58 : decode cX8_put 58 = .ok (.lload_n 3, 1) := dk_33 (dk_at dksX8_put_2 10 rfl rfl)
theorem dX8_put_59 : decode cX8_put 59 = .ok (.invokestatic 331, 3) := dk_184 1 75 (dk_at dksX8_put_2 11 rfl rfl)
theorem dX8_put_62 : decode cX8_put 62 = .ok (.lastore, 1) := dk_80 (dk_at dksX8_put_2 14 rfl rfl)
theorem dX8_put_63 : decode cX8_put 63 = .ok (.iconst 1, 1) := dk_4 (dk_at dksX8_put_2 15 rfl rfl)
theorem dX8_put_64 : decode cX8_put 64 = .ok (.ireturn, 1) := dk_172 (dk_at dksX8_put_2 16 rfl rfl)
abbrev cX8_narrowed : ByteArray := prog_24_method_82_code
def yX8_narrowed : MethodName := ⟨RX8, "narrowed", "(IJ)J"⟩
def dkwX8_narrowed_1 : List UInt8 := [5, 160, 0, 9, 31, 136, 133, 167, 0, 4, 31, 173]
abbrev dktX8_narrowed_1 : List UInt8 := dkwX8_narrowed_1 ++ []
def dkwX8_narrowed_0 : List UInt8 := [26, 154, 0, 10, 31, 136, 145, 133, 167, 0, 27, 26, 4, 160, 0, 10, 31, 136, 147, 133, 167, 0, 15, 26]
abbrev dktX8_narrowed_0 : List UInt8 := dkwX8_narrowed_0 ++ dktX8_narrowed_1
theorem dksX8_narrowed_0 : cX8_narrowed.data.toList.drop 0 = dktX8_narrowed_0 := by decide +kernel
theorem dksX8_narrowed_1 : cX8_narrowed.data.toList.drop 24 = dktX8_narrowed_1 := dk_seg dksX8_narrowed_0 24 rfl rfl
theorem dX8_narrowed_0 : decode cX8_narrowed 0 = .ok (.iload_n 0, 1) := dk_26 (dk_at dksX8_narrowed_0 0 rfl rfl)
theorem dX8_narrowed_1 : decode cX8_narrowed 1 = .ok (.ifCond .ne 10, 3) := dk_154 0 10 (dk_at dksX8_narrowed_0 1 rfl rfl)
theorem dX8_narrowed_4 : decode cX8_narrowed 4 = .ok (.lload_n 1, 1) := dk_31 (dk_at dksX8_narrowed_0 4 rfl rfl)
theorem dX8_narrowed_5 : decode cX8_narrowed 5 = .ok (.l2i, 1) := dk_136 (dk_at dksX8_narrowed_0 5 rfl rfl)
theorem dX8_narrowed_6 : decode cX8_narrowed 6 = .ok (.i2b, 1) := dk_145 (dk_at dksX8_narrowed_0 6 rfl rfl)
theorem dX8_narrowed_7 : decode cX8_narrowed 7 = .ok (.i2l, 1) := dk_133 (dk_at dksX8_narrowed_0 7 rfl rfl)
theorem dX8_narrowed_8 : decode cX8_narrowed 8 = .ok (.goto 27, 3) := dk_167 0 27 (dk_at dksX8_narrowed_0 8 rfl rfl)
theorem dX8_narrowed_11 : decode cX8_narrowed 11 = .ok (.iload_n 0, 1) := dk_26 (dk_at dksX8_narrowed_0 11 rfl rfl)
theorem dX8_narrowed_12 : decode cX8_narrowed 12 = .ok (.iconst 1, 1) := dk_4 (dk_at dksX8_narrowed_0 12 rfl rfl)
theorem dX8_narrowed_13 : decode cX8_narrowed 13 = .ok (.if_icmp .ne 10, 3) := dk_160 0 10 (dk_at dksX8_narrowed_0 13 rfl rfl)
theorem dX8_narrowed_16 : decode cX8_narrowed 16 = .ok (.lload_n 1, 1) := dk_31 (dk_at dksX8_narrowed_0 16 rfl rfl)
theorem dX8_narrowed_17 : decode cX8_narrowed 17 = .ok (.l2i, 1) := dk_136 (dk_at dksX8_narrowed_0 17 rfl rfl)
theorem dX8_narrowed_18 : decode cX8_narrowed 18 = .ok (.i2s, 1) := dk_147 (dk_at dksX8_narrowed_0 18 rfl rfl)
theorem dX8_narrowed_19 : decode cX8_narrowed 19 = .ok (.i2l, 1) := dk_133 (dk_at dksX8_narrowed_0 19 rfl rfl)
theorem dX8_narrowed_20 : decode cX8_narrowed 20 = .ok (.goto 15, 3) := dk_167 0 15 (dk_at dksX8_narrowed_0 20 rfl rfl)
theorem dX8_narrowed_23 : decode cX8_narrowed 23 = .ok (.iload_n 0, 1) := dk_26 (dk_at dksX8_narrowed_0 23 rfl rfl)
theorem dX8_narrowed_24 : decode cX8_narrowed 24 = .ok (.iconst 2, 1) := dk_5 (dk_at dksX8_narrowed_1 0 rfl rfl)
theorem dX8_narrowed_25 : decode cX8_narrowed 25 = .ok (.if_icmp .ne 9, 3) := dk_160 0 9 (dk_at dksX8_narrowed_1 1 rfl rfl)
theorem dX8_narrowed_28 : decode cX8_narrowed 28 = .ok (.lload_n 1, 1) := dk_31 (dk_at dksX8_narrowed_1 4 rfl rfl)
theorem dX8_narrowed_29 : decode cX8_narrowed 29 = .ok (.l2i, 1) := dk_136 (dk_at dksX8_narrowed_1 5 rfl rfl)
theorem dX8_narrowed_30 : decode cX8_narrowed 30 = .ok (.i2l, 1) := dk_133 (dk_at dksX8_narrowed_1 6 rfl rfl)
theorem dX8_narrowed_31 : decode cX8_narrowed 31 = .ok (.goto 4, 3) := dk_167 0 4 (dk_at dksX8_narrowed_1 7 rfl rfl)
theorem dX8_narrowed_34 : decode cX8_narrowed 34 = .ok (.lload_n 1, 1) := dk_31 (dk_at dksX8_narrowed_1 10 rfl rfl)
theorem dX8_narrowed_35 : decode cX8_narrowed 35 = .ok (.lreturn, 1) := dk_173 (dk_at dksX8_narrowed_1 11 rfl rfl)
abbrev cX8_item : ByteArray := prog_24_method_84_code
def yX8_item : MethodName := ⟨RX8, "item", "(III)I"⟩
def dkwX8_item_3 : List UInt8 := [180, 0, 73, 16, 40, 27, 104, 29, 96, 47, 136, 167, 0, 5, 16, 244, 172]
abbrev dktX8_item_3 : List UInt8 := dkwX8_item_3 ++ []
def dkwX8_item_2 : List UInt8 := [16, 243, 172, 29, 133, 9, 42, 180, 0, 70, 27, 46, 4, 100, 133, 184, 0, 99, 153, 0, 18, 42]
abbrev dktX8_item_2 : List UInt8 := dkwX8_item_2 ++ dktX8_item_3
def dkwX8_item_1 : List UInt8 := [180, 0, 67, 27, 46, 28, 159, 0, 20, 42, 180, 0, 67, 27, 46, 156, 0, 8, 16, 245, 167, 0, 5]
abbrev dktX8_item_1 : List UInt8 := dkwX8_item_1 ++ dktX8_item_2
def dkwX8_item_0 : List UInt8 := [27, 184, 1, 47, 153, 0, 15, 28, 133, 9, 20, 0, 118, 184, 0, 99, 154, 0, 5, 2, 172, 42]
abbrev dktX8_item_0 : List UInt8 := dkwX8_item_0 ++ dktX8_item_1
theorem dksX8_item_0 : cX8_item.data.toList.drop 0 = dktX8_item_0 := by decide +kernel
theorem dksX8_item_1 : cX8_item.data.toList.drop 22 = dktX8_item_1 := dk_seg dksX8_item_0 22 rfl rfl
theorem dksX8_item_2 : cX8_item.data.toList.drop 45 = dktX8_item_2 := dk_seg dksX8_item_1 23 rfl rfl
theorem dksX8_item_3 : cX8_item.data.toList.drop 67 = dktX8_item_3 := dk_seg dksX8_item_2 22 rfl rfl
theorem dX8_item_0 : decode cX8_item 0 = .ok (.iload_n 1, 1) := dk_27 (dk_at dksX8_item_0 0 rfl rfl)
theorem dX8_item_1 : decode cX8_item 1 = .ok (.invokestatic 303, 3) := dk_184 1 47 (dk_at dksX8_item_0 1 rfl rfl)
theorem dX8_item_4 : decode cX8_item 4 = .ok (.ifCond .eq 15, 3) := dk_153 0 15 (dk_at dksX8_item_0 4 rfl rfl)
theorem dX8_item_7 : decode cX8_item 7 = .ok (.iload_n 2, 1) := dk_28 (dk_at dksX8_item_0 7 rfl rfl)
theorem dX8_item_8 : decode cX8_item 8 = .ok (.i2l, 1) := dk_133 (dk_at dksX8_item_0 8 rfl rfl)
theorem dX8_item_9 : decode cX8_item 9 = .ok (.lconst 0, 1) := dk_9 (dk_at dksX8_item_0 9 rfl rfl)
theorem dX8_item_10 : decode cX8_item 10 = .ok (.ldc2_w 118, 3) := dk_20 0 118 (dk_at dksX8_item_0 10 rfl rfl)
theorem dX8_item_13 : decode cX8_item 13 = .ok (.invokestatic 99, 3) := dk_184 0 99 (dk_at dksX8_item_0 13 rfl rfl)
theorem dX8_item_16 : decode cX8_item 16 = .ok (.ifCond .ne 5, 3) := dk_154 0 5 (dk_at dksX8_item_0 16 rfl rfl)
theorem dX8_item_19 : decode cX8_item 19 = .ok (.iconst (-1), 1) := dk_2 (dk_at dksX8_item_0 19 rfl rfl)
theorem dX8_item_20 : decode cX8_item 20 = .ok (.ireturn, 1) := dk_172 (dk_at dksX8_item_0 20 rfl rfl)
theorem dX8_item_21 : decode cX8_item 21 = .ok (.aload_n 0, 1) := dk_42 (dk_at dksX8_item_0 21 rfl rfl)
theorem dX8_item_22 : decode cX8_item 22 = .ok (.getfield 67, 3) := dk_180 0 67 (dk_at dksX8_item_1 0 rfl rfl)
theorem dX8_item_25 : decode cX8_item 25 = .ok (.iload_n 1, 1) := dk_27 (dk_at dksX8_item_1 3 rfl rfl)
theorem dX8_item_26 : decode cX8_item 26 = .ok (.iaload, 1) := dk_46 (dk_at dksX8_item_1 4 rfl rfl)
theorem dX8_item_27 : decode cX8_item 27 = .ok (.iload_n 2, 1) := dk_28 (dk_at dksX8_item_1 5 rfl rfl)
theorem dX8_item_28 : decode cX8_item 28 = .ok (.if_icmp .eq 20, 3) := dk_159 0 20 (dk_at dksX8_item_1 6 rfl rfl)
theorem dX8_item_31 : decode cX8_item 31 = .ok (.aload_n 0, 1) := dk_42 (dk_at dksX8_item_1 9 rfl rfl)
theorem dX8_item_32 : decode cX8_item 32 = .ok (.getfield 67, 3) := dk_180 0 67 (dk_at dksX8_item_1 10 rfl rfl)
theorem dX8_item_35 : decode cX8_item 35 = .ok (.iload_n 1, 1) := dk_27 (dk_at dksX8_item_1 13 rfl rfl)
theorem dX8_item_36 : decode cX8_item 36 = .ok (.iaload, 1) := dk_46 (dk_at dksX8_item_1 14 rfl rfl)
theorem dX8_item_37 : decode cX8_item 37 = .ok (.ifCond .ge 8, 3) := dk_156 0 8 (dk_at dksX8_item_1 15 rfl rfl)
theorem dX8_item_40 : decode cX8_item 40 = .ok (.bipush (-11), 2) := dk_16 245 (dk_at dksX8_item_1 18 rfl rfl)
theorem dX8_item_42 : decode cX8_item 42 = .ok (.goto 5, 3) := dk_167 0 5 (dk_at dksX8_item_1 20 rfl rfl)
theorem dX8_item_45 : decode cX8_item 45 = .ok (.bipush (-13), 2) := dk_16 243 (dk_at dksX8_item_2 0 rfl rfl)
theorem dX8_item_47 : decode cX8_item 47 = .ok (.ireturn, 1) := dk_172 (dk_at dksX8_item_2 2 rfl rfl)
theorem dX8_item_48 : decode cX8_item 48 = .ok (.iload_n 3, 1) := dk_29 (dk_at dksX8_item_2 3 rfl rfl)
theorem dX8_item_49 : decode cX8_item 49 = .ok (.i2l, 1) := dk_133 (dk_at dksX8_item_2 4 rfl rfl)
theorem dX8_item_50 : decode cX8_item 50 = .ok (.lconst 0, 1) := dk_9 (dk_at dksX8_item_2 5 rfl rfl)
theorem dX8_item_51 : decode cX8_item 51 = .ok (.aload_n 0, 1) := dk_42 (dk_at dksX8_item_2 6 rfl rfl)
theorem dX8_item_52 : decode cX8_item 52 = .ok (.getfield 70, 3) := dk_180 0 70 (dk_at dksX8_item_2 7 rfl rfl)
theorem dX8_item_55 : decode cX8_item 55 = .ok (.iload_n 1, 1) := dk_27 (dk_at dksX8_item_2 10 rfl rfl)
theorem dX8_item_56 : decode cX8_item 56 = .ok (.iaload, 1) := dk_46 (dk_at dksX8_item_2 11 rfl rfl)
theorem dX8_item_57 : decode cX8_item 57 = .ok (.iconst 1, 1) := dk_4 (dk_at dksX8_item_2 12 rfl rfl)
theorem dX8_item_58 : decode cX8_item 58 = .ok (.isub, 1) := dk_100 (dk_at dksX8_item_2 13 rfl rfl)
theorem dX8_item_59 : decode cX8_item 59 = .ok (.i2l, 1) := dk_133 (dk_at dksX8_item_2 14 rfl rfl)
theorem dX8_item_60 : decode cX8_item 60 = .ok (.invokestatic 99, 3) := dk_184 0 99 (dk_at dksX8_item_2 15 rfl rfl)
theorem dX8_item_63 : decode cX8_item 63 = .ok (.ifCond .eq 18, 3) := dk_153 0 18 (dk_at dksX8_item_2 18 rfl rfl)
theorem dX8_item_66 : decode cX8_item 66 = .ok (.aload_n 0, 1) := dk_42 (dk_at dksX8_item_2 21 rfl rfl)
theorem dX8_item_67 : decode cX8_item 67 = .ok (.getfield 73, 3) := dk_180 0 73 (dk_at dksX8_item_3 0 rfl rfl)
theorem dX8_item_70 : decode cX8_item 70 = .ok (.bipush 40, 2) := dk_16 40 (dk_at dksX8_item_3 3 rfl rfl)
theorem dX8_item_72 : decode cX8_item 72 = .ok (.iload_n 1, 1) := dk_27 (dk_at dksX8_item_3 5 rfl rfl)
theorem dX8_item_73 : decode cX8_item 73 = .ok (.imul, 1) := dk_104 (dk_at dksX8_item_3 6 rfl rfl)
theorem dX8_item_74 : decode cX8_item 74 = .ok (.iload_n 3, 1) := dk_29 (dk_at dksX8_item_3 7 rfl rfl)
theorem dX8_item_75 : decode cX8_item 75 = .ok (.iadd, 1) := dk_96 (dk_at dksX8_item_3 8 rfl rfl)
theorem dX8_item_76 : decode cX8_item 76 = .ok (.laload, 1) := dk_47 (dk_at dksX8_item_3 9 rfl rfl)
theorem dX8_item_77 : decode cX8_item 77 = .ok (.l2i, 1) := dk_136 (dk_at dksX8_item_3 10 rfl rfl)
theorem dX8_item_78 : decode cX8_item 78 = .ok (.goto 5, 3) := dk_167 0 5 (dk_at dksX8_item_3 11 rfl rfl)
theorem dX8_item_81 : decode cX8_item 81 = .ok (.bipush (-12), 2) := dk_16 244 (dk_at dksX8_item_3 14 rfl rfl)
theorem dX8_item_83 : decode cX8_item 83 = .ok (.ireturn, 1) := dk_172 (dk_at dksX8_item_3 16 rfl rfl)
abbrev cX8_move : ByteArray := prog_24_method_85_code
def yX8_move : MethodName := ⟨RX8, "move", "(IIIII)I"⟩
def dkwX8_move_7 : List UInt8 := [180, 0, 76, 21, 6, 47, 80, 132, 6, 1, 167, 255, 224, 21, 5, 172]
abbrev dktX8_move_7 : List UInt8 := dkwX8_move_7 ++ []
def dkwX8_move_6 : List UInt8 := [54, 6, 21, 6, 21, 5, 162, 0, 31, 42, 180, 0, 73, 16, 40, 29, 104, 21, 4, 96, 21, 6, 96, 42]
abbrev dktX8_move_6 : List UInt8 := dkwX8_move_6 ++ dktX8_move_7
def dkwX8_move_5 : List UInt8 := [21, 6, 42, 180, 0, 73, 16, 40, 27, 104, 28, 96, 21, 6, 96, 47, 80, 132, 6, 1, 167, 255, 225, 3]
abbrev dktX8_move_5 : List UInt8 := dkwX8_move_5 ++ dktX8_move_6
def dkwX8_move_4 : List UInt8 := [21, 5, 100, 164, 0, 6, 16, 244, 172, 3, 54, 6, 21, 6, 21, 5, 162, 0, 30, 42, 180, 0, 76]
abbrev dktX8_move_4 : List UInt8 := dkwX8_move_4 ++ dktX8_move_5
def dkwX8_move_3 : List UInt8 := [155, 0, 30, 28, 42, 180, 0, 70, 27, 46, 21, 5, 100, 163, 0, 17, 21, 4, 42, 180, 0, 70, 29, 46]
abbrev dktX8_move_3 : List UInt8 := dkwX8_move_3 ++ dktX8_move_4
def dkwX8_move_2 : List UInt8 := [180, 0, 67, 29, 46, 159, 0, 6, 16, 243, 172, 21, 5, 155, 0, 39, 28, 155, 0, 35, 21, 4]
abbrev dktX8_move_2 : List UInt8 := dkwX8_move_2 ++ dktX8_move_3
def dkwX8_move_1 : List UInt8 := [155, 0, 12, 42, 180, 0, 67, 29, 46, 156, 0, 6, 16, 245, 172, 42, 180, 0, 67, 27, 46, 42]
abbrev dktX8_move_1 : List UInt8 := dkwX8_move_1 ++ dktX8_move_2
def dkwX8_move_0 : List UInt8 := [27, 184, 1, 47, 153, 0, 10, 29, 184, 1, 47, 154, 0, 5, 2, 172, 42, 180, 0, 67, 27, 46]
abbrev dktX8_move_0 : List UInt8 := dkwX8_move_0 ++ dktX8_move_1
theorem dksX8_move_0 : cX8_move.data.toList.drop 0 = dktX8_move_0 := by decide +kernel
theorem dksX8_move_1 : cX8_move.data.toList.drop 22 = dktX8_move_1 := dk_seg dksX8_move_0 22 rfl rfl
theorem dksX8_move_2 : cX8_move.data.toList.drop 44 = dktX8_move_2 := dk_seg dksX8_move_1 22 rfl rfl
theorem dksX8_move_3 : cX8_move.data.toList.drop 66 = dktX8_move_3 := dk_seg dksX8_move_2 22 rfl rfl
theorem dksX8_move_4 : cX8_move.data.toList.drop 90 = dktX8_move_4 := dk_seg dksX8_move_3 24 rfl rfl
theorem dksX8_move_5 : cX8_move.data.toList.drop 113 = dktX8_move_5 := dk_seg dksX8_move_4 23 rfl rfl
theorem dksX8_move_6 : cX8_move.data.toList.drop 137 = dktX8_move_6 := dk_seg dksX8_move_5 24 rfl rfl
theorem dksX8_move_7 : cX8_move.data.toList.drop 161 = dktX8_move_7 := dk_seg dksX8_move_6 24 rfl rfl
theorem dX8_move_0 : decode cX8_move 0 = .ok (.iload_n 1, 1) := dk_27 (dk_at dksX8_move_0 0 rfl rfl)
theorem dX8_move_1 : decode cX8_move 1 = .ok (.invokestatic 303, 3) := dk_184 1 47 (dk_at dksX8_move_0 1 rfl rfl)
theorem dX8_move_4 : decode cX8_move 4 = .ok (.ifCond .eq 10, 3) := dk_153 0 10 (dk_at dksX8_move_0 4 rfl rfl)
theorem dX8_move_7 : decode cX8_move 7 = .ok (.iload_n 3, 1) := dk_29 (dk_at dksX8_move_0 7 rfl rfl)
theorem dX8_move_8 : decode cX8_move 8 = .ok (.invokestatic 303, 3) := dk_184 1 47 (dk_at dksX8_move_0 8 rfl rfl)
theorem dX8_move_11 : decode cX8_move 11 = .ok (.ifCond .ne 5, 3) := dk_154 0 5 (dk_at dksX8_move_0 11 rfl rfl)
theorem dX8_move_14 : decode cX8_move 14 = .ok (.iconst (-1), 1) := dk_2 (dk_at dksX8_move_0 14 rfl rfl)
theorem dX8_move_15 : decode cX8_move 15 = .ok (.ireturn, 1) := dk_172 (dk_at dksX8_move_0 15 rfl rfl)
theorem dX8_move_16 : decode cX8_move 16 = .ok (.aload_n 0, 1) := dk_42 (dk_at dksX8_move_0 16 rfl rfl)
theorem dX8_move_17 : decode cX8_move 17 = .ok (.getfield 67, 3) := dk_180 0 67 (dk_at dksX8_move_0 17 rfl rfl)
theorem dX8_move_20 : decode cX8_move 20 = .ok (.iload_n 1, 1) := dk_27 (dk_at dksX8_move_0 20 rfl rfl)
theorem dX8_move_21 : decode cX8_move 21 = .ok (.iaload, 1) := dk_46 (dk_at dksX8_move_0 21 rfl rfl)
theorem dX8_move_22 : decode cX8_move 22 = .ok (.ifCond .lt 12, 3) := dk_155 0 12 (dk_at dksX8_move_1 0 rfl rfl)
theorem dX8_move_25 : decode cX8_move 25 = .ok (.aload_n 0, 1) := dk_42 (dk_at dksX8_move_1 3 rfl rfl)
theorem dX8_move_26 : decode cX8_move 26 = .ok (.getfield 67, 3) := dk_180 0 67 (dk_at dksX8_move_1 4 rfl rfl)
theorem dX8_move_29 : decode cX8_move 29 = .ok (.iload_n 3, 1) := dk_29 (dk_at dksX8_move_1 7 rfl rfl)
theorem dX8_move_30 : decode cX8_move 30 = .ok (.iaload, 1) := dk_46 (dk_at dksX8_move_1 8 rfl rfl)
theorem dX8_move_31 : decode cX8_move 31 = .ok (.ifCond .ge 6, 3) := dk_156 0 6 (dk_at dksX8_move_1 9 rfl rfl)
theorem dX8_move_34 : decode cX8_move 34 = .ok (.bipush (-11), 2) := dk_16 245 (dk_at dksX8_move_1 12 rfl rfl)
theorem dX8_move_36 : decode cX8_move 36 = .ok (.ireturn, 1) := dk_172 (dk_at dksX8_move_1 14 rfl rfl)
theorem dX8_move_37 : decode cX8_move 37 = .ok (.aload_n 0, 1) := dk_42 (dk_at dksX8_move_1 15 rfl rfl)
theorem dX8_move_38 : decode cX8_move 38 = .ok (.getfield 67, 3) := dk_180 0 67 (dk_at dksX8_move_1 16 rfl rfl)
theorem dX8_move_41 : decode cX8_move 41 = .ok (.iload_n 1, 1) := dk_27 (dk_at dksX8_move_1 19 rfl rfl)
theorem dX8_move_42 : decode cX8_move 42 = .ok (.iaload, 1) := dk_46 (dk_at dksX8_move_1 20 rfl rfl)
theorem dX8_move_43 : decode cX8_move 43 = .ok (.aload_n 0, 1) := dk_42 (dk_at dksX8_move_1 21 rfl rfl)
theorem dX8_move_44 : decode cX8_move 44 = .ok (.getfield 67, 3) := dk_180 0 67 (dk_at dksX8_move_2 0 rfl rfl)
theorem dX8_move_47 : decode cX8_move 47 = .ok (.iload_n 3, 1) := dk_29 (dk_at dksX8_move_2 3 rfl rfl)
theorem dX8_move_48 : decode cX8_move 48 = .ok (.iaload, 1) := dk_46 (dk_at dksX8_move_2 4 rfl rfl)
theorem dX8_move_49 : decode cX8_move 49 = .ok (.if_icmp .eq 6, 3) := dk_159 0 6 (dk_at dksX8_move_2 5 rfl rfl)
theorem dX8_move_52 : decode cX8_move 52 = .ok (.bipush (-13), 2) := dk_16 243 (dk_at dksX8_move_2 8 rfl rfl)
theorem dX8_move_54 : decode cX8_move 54 = .ok (.ireturn, 1) := dk_172 (dk_at dksX8_move_2 10 rfl rfl)
theorem dX8_move_55 : decode cX8_move 55 = .ok (.iload 5, 2) := dk_21 5 (dk_at dksX8_move_2 11 rfl rfl)
theorem dX8_move_57 : decode cX8_move 57 = .ok (.ifCond .lt 39, 3) := dk_155 0 39 (dk_at dksX8_move_2 13 rfl rfl)
theorem dX8_move_60 : decode cX8_move 60 = .ok (.iload_n 2, 1) := dk_28 (dk_at dksX8_move_2 16 rfl rfl)
theorem dX8_move_61 : decode cX8_move 61 = .ok (.ifCond .lt 35, 3) := dk_155 0 35 (dk_at dksX8_move_2 17 rfl rfl)
theorem dX8_move_64 : decode cX8_move 64 = .ok (.iload 4, 2) := dk_21 4 (dk_at dksX8_move_2 20 rfl rfl)
theorem dX8_move_66 : decode cX8_move 66 = .ok (.ifCond .lt 30, 3) := dk_155 0 30 (dk_at dksX8_move_3 0 rfl rfl)
theorem dX8_move_69 : decode cX8_move 69 = .ok (.iload_n 2, 1) := dk_28 (dk_at dksX8_move_3 3 rfl rfl)
theorem dX8_move_70 : decode cX8_move 70 = .ok (.aload_n 0, 1) := dk_42 (dk_at dksX8_move_3 4 rfl rfl)
theorem dX8_move_71 : decode cX8_move 71 = .ok (.getfield 70, 3) := dk_180 0 70 (dk_at dksX8_move_3 5 rfl rfl)
theorem dX8_move_74 : decode cX8_move 74 = .ok (.iload_n 1, 1) := dk_27 (dk_at dksX8_move_3 8 rfl rfl)
theorem dX8_move_75 : decode cX8_move 75 = .ok (.iaload, 1) := dk_46 (dk_at dksX8_move_3 9 rfl rfl)
theorem dX8_move_76 : decode cX8_move 76 = .ok (.iload 5, 2) := dk_21 5 (dk_at dksX8_move_3 10 rfl rfl)
theorem dX8_move_78 : decode cX8_move 78 = .ok (.isub, 1) := dk_100 (dk_at dksX8_move_3 12 rfl rfl)
theorem dX8_move_79 : decode cX8_move 79 = .ok (.if_icmp .gt 17, 3) := dk_163 0 17 (dk_at dksX8_move_3 13 rfl rfl)
theorem dX8_move_82 : decode cX8_move 82 = .ok (.iload 4, 2) := dk_21 4 (dk_at dksX8_move_3 16 rfl rfl)
theorem dX8_move_84 : decode cX8_move 84 = .ok (.aload_n 0, 1) := dk_42 (dk_at dksX8_move_3 18 rfl rfl)
theorem dX8_move_85 : decode cX8_move 85 = .ok (.getfield 70, 3) := dk_180 0 70 (dk_at dksX8_move_3 19 rfl rfl)
theorem dX8_move_88 : decode cX8_move 88 = .ok (.iload_n 3, 1) := dk_29 (dk_at dksX8_move_3 22 rfl rfl)
theorem dX8_move_89 : decode cX8_move 89 = .ok (.iaload, 1) := dk_46 (dk_at dksX8_move_3 23 rfl rfl)
theorem dX8_move_90 : decode cX8_move 90 = .ok (.iload 5, 2) := dk_21 5 (dk_at dksX8_move_4 0 rfl rfl)
theorem dX8_move_92 : decode cX8_move 92 = .ok (.isub, 1) := dk_100 (dk_at dksX8_move_4 2 rfl rfl)
theorem dX8_move_93 : decode cX8_move 93 = .ok (.if_icmp .le 6, 3) := dk_164 0 6 (dk_at dksX8_move_4 3 rfl rfl)
theorem dX8_move_96 : decode cX8_move 96 = .ok (.bipush (-12), 2) := dk_16 244 (dk_at dksX8_move_4 6 rfl rfl)
theorem dX8_move_98 : decode cX8_move 98 = .ok (.ireturn, 1) := dk_172 (dk_at dksX8_move_4 8 rfl rfl)
theorem dX8_move_99 : decode cX8_move 99 = .ok (.iconst 0, 1) := dk_3 (dk_at dksX8_move_4 9 rfl rfl)
theorem dX8_move_100 : decode cX8_move 100 = .ok (.istore 6, 2) := dk_54 6 (dk_at dksX8_move_4 10 rfl rfl)
theorem dX8_move_102 : decode cX8_move 102 = .ok (.iload 6, 2) := dk_21 6 (dk_at dksX8_move_4 12 rfl rfl)
theorem dX8_move_104 : decode cX8_move 104 = .ok (.iload 5, 2) := dk_21 5 (dk_at dksX8_move_4 14 rfl rfl)
theorem dX8_move_106 : decode cX8_move 106 = .ok (.if_icmp .ge 30, 3) := dk_162 0 30 (dk_at dksX8_move_4 16 rfl rfl)
theorem dX8_move_109 : decode cX8_move 109 = .ok (.aload_n 0, 1) := dk_42 (dk_at dksX8_move_4 19 rfl rfl)
theorem dX8_move_110 : decode cX8_move 110 = .ok (.getfield 76, 3) := dk_180 0 76 (dk_at dksX8_move_4 20 rfl rfl)
theorem dX8_move_113 : decode cX8_move 113 = .ok (.iload 6, 2) := dk_21 6 (dk_at dksX8_move_5 0 rfl rfl)
theorem dX8_move_115 : decode cX8_move 115 = .ok (.aload_n 0, 1) := dk_42 (dk_at dksX8_move_5 2 rfl rfl)
theorem dX8_move_116 : decode cX8_move 116 = .ok (.getfield 73, 3) := dk_180 0 73 (dk_at dksX8_move_5 3 rfl rfl)
theorem dX8_move_119 : decode cX8_move 119 = .ok (.bipush 40, 2) := dk_16 40 (dk_at dksX8_move_5 6 rfl rfl)
theorem dX8_move_121 : decode cX8_move 121 = .ok (.iload_n 1, 1) := dk_27 (dk_at dksX8_move_5 8 rfl rfl)
theorem dX8_move_122 : decode cX8_move 122 = .ok (.imul, 1) := dk_104 (dk_at dksX8_move_5 9 rfl rfl)
theorem dX8_move_123 : decode cX8_move 123 = .ok (.iload_n 2, 1) := dk_28 (dk_at dksX8_move_5 10 rfl rfl)
theorem dX8_move_124 : decode cX8_move 124 = .ok (.iadd, 1) := dk_96 (dk_at dksX8_move_5 11 rfl rfl)
theorem dX8_move_125 : decode cX8_move 125 = .ok (.iload 6, 2) := dk_21 6 (dk_at dksX8_move_5 12 rfl rfl)
theorem dX8_move_127 : decode cX8_move 127 = .ok (.iadd, 1) := dk_96 (dk_at dksX8_move_5 14 rfl rfl)
theorem dX8_move_128 : decode cX8_move 128 = .ok (.laload, 1) := dk_47 (dk_at dksX8_move_5 15 rfl rfl)
theorem dX8_move_129 : decode cX8_move 129 = .ok (.lastore, 1) := dk_80 (dk_at dksX8_move_5 16 rfl rfl)
theorem dX8_move_130 : decode cX8_move 130 = .ok (.iinc 6 1, 3) := dk_132 6 1 (dk_at dksX8_move_5 17 rfl rfl)
theorem dX8_move_133 : decode cX8_move 133 = .ok (.goto (-31), 3) := dk_167 255 225 (dk_at dksX8_move_5 20 rfl rfl)
theorem dX8_move_136 : decode cX8_move 136 = .ok (.iconst 0, 1) := dk_3 (dk_at dksX8_move_5 23 rfl rfl)
theorem dX8_move_137 : decode cX8_move 137 = .ok (.istore 6, 2) := dk_54 6 (dk_at dksX8_move_6 0 rfl rfl)
theorem dX8_move_139 : decode cX8_move 139 = .ok (.iload 6, 2) := dk_21 6 (dk_at dksX8_move_6 2 rfl rfl)
theorem dX8_move_141 : decode cX8_move 141 = .ok (.iload 5, 2) := dk_21 5 (dk_at dksX8_move_6 4 rfl rfl)
theorem dX8_move_143 : decode cX8_move 143 = .ok (.if_icmp .ge 31, 3) := dk_162 0 31 (dk_at dksX8_move_6 6 rfl rfl)
theorem dX8_move_146 : decode cX8_move 146 = .ok (.aload_n 0, 1) := dk_42 (dk_at dksX8_move_6 9 rfl rfl)
theorem dX8_move_147 : decode cX8_move 147 = .ok (.getfield 73, 3) := dk_180 0 73 (dk_at dksX8_move_6 10 rfl rfl)
theorem dX8_move_150 : decode cX8_move 150 = .ok (.bipush 40, 2) := dk_16 40 (dk_at dksX8_move_6 13 rfl rfl)
theorem dX8_move_152 : decode cX8_move 152 = .ok (.iload_n 3, 1) := dk_29 (dk_at dksX8_move_6 15 rfl rfl)
theorem dX8_move_153 : decode cX8_move 153 = .ok (.imul, 1) := dk_104 (dk_at dksX8_move_6 16 rfl rfl)
theorem dX8_move_154 : decode cX8_move 154 = .ok (.iload 4, 2) := dk_21 4 (dk_at dksX8_move_6 17 rfl rfl)
theorem dX8_move_156 : decode cX8_move 156 = .ok (.iadd, 1) := dk_96 (dk_at dksX8_move_6 19 rfl rfl)
theorem dX8_move_157 : decode cX8_move 157 = .ok (.iload 6, 2) := dk_21 6 (dk_at dksX8_move_6 20 rfl rfl)
theorem dX8_move_159 : decode cX8_move 159 = .ok (.iadd, 1) := dk_96 (dk_at dksX8_move_6 22 rfl rfl)
theorem dX8_move_160 : decode cX8_move 160 = .ok (.aload_n 0, 1) := dk_42 (dk_at dksX8_move_6 23 rfl rfl)
theorem dX8_move_161 : decode cX8_move 161 = .ok (.getfield 76, 3) := dk_180 0 76 (dk_at dksX8_move_7 0 rfl rfl)
theorem dX8_move_164 : decode cX8_move 164 = .ok (.iload 6, 2) := dk_21 6 (dk_at dksX8_move_7 3 rfl rfl)
theorem dX8_move_166 : decode cX8_move 166 = .ok (.laload, 1) := dk_47 (dk_at dksX8_move_7 5 rfl rfl)
theorem dX8_move_167 : decode cX8_move 167 = .ok (.lastore, 1) := dk_80 (dk_at dksX8_move_7 6 rfl rfl)
theorem dX8_move_168 : decode cX8_move 168 = .ok (.iinc 6 1, 3) := dk_132 6 1 (dk_at dksX8_move_7 7 rfl rfl)
theorem dX8_move_171 : decode cX8_move 171 = .ok (.goto (-32), 3) := dk_167 255 224 (dk_at dksX8_move_7 10 rfl rfl)
theorem dX8_move_174 : decode cX8_move 174 = .ok (.iload 5, 2) := dk_21 5 (dk_at dksX8_move_7 13 rfl rfl)
theorem dX8_move_176 : decode cX8_move 176 = .ok (.ireturn, 1) := dk_172 (dk_at dksX8_move_7 15 rfl rfl)
abbrev cX8_shelf : ByteArray := prog_24_method_87_code
def yX8_shelf : MethodName := ⟨RX8, "shelf", "(III)I"⟩
def dkwX8_shelf_4 : List UInt8 := [180, 0, 85, 27, 28, 4, 160, 0, 12, 42, 180, 0, 70, 29, 46, 167, 0, 4, 3, 79, 4, 172]
abbrev dktX8_shelf_4 : List UInt8 := dkwX8_shelf_4 ++ []
def dkwX8_shelf_3 : List UInt8 := [42, 180, 0, 82, 27, 28, 4, 160, 0, 12, 42, 180, 0, 67, 29, 46, 167, 0, 4, 29, 79, 42]
abbrev dktX8_shelf_3 : List UInt8 := dkwX8_shelf_3 ++ dktX8_shelf_4
def dkwX8_shelf_2 : List UInt8 := [180, 0, 79, 27, 28, 4, 160, 0, 16, 42, 180, 0, 67, 29, 46, 156, 0, 7, 5, 167, 0, 4, 28, 79]
abbrev dktX8_shelf_2 : List UInt8 := dkwX8_shelf_2 ++ dktX8_shelf_3
def dkwX8_shelf_1 : List UInt8 := [29, 182, 0, 203, 153, 0, 15, 28, 4, 160, 0, 12, 29, 184, 1, 47, 154, 0, 5, 2, 172, 42]
abbrev dktX8_shelf_1 : List UInt8 := dkwX8_shelf_1 ++ dktX8_shelf_2
def dkwX8_shelf_0 : List UInt8 := [27, 184, 1, 79, 153, 0, 39, 28, 133, 9, 20, 0, 97, 184, 0, 99, 153, 0, 27, 28, 154, 0, 11, 42]
abbrev dktX8_shelf_0 : List UInt8 := dkwX8_shelf_0 ++ dktX8_shelf_1
theorem dksX8_shelf_0 : cX8_shelf.data.toList.drop 0 = dktX8_shelf_0 := by decide +kernel
theorem dksX8_shelf_1 : cX8_shelf.data.toList.drop 24 = dktX8_shelf_1 := dk_seg dksX8_shelf_0 24 rfl rfl
theorem dksX8_shelf_2 : cX8_shelf.data.toList.drop 46 = dktX8_shelf_2 := dk_seg dksX8_shelf_1 22 rfl rfl
theorem dksX8_shelf_3 : cX8_shelf.data.toList.drop 70 = dktX8_shelf_3 := dk_seg dksX8_shelf_2 24 rfl rfl
theorem dksX8_shelf_4 : cX8_shelf.data.toList.drop 92 = dktX8_shelf_4 := dk_seg dksX8_shelf_3 22 rfl rfl
theorem dX8_shelf_0 : decode cX8_shelf 0 = .ok (.iload_n 1, 1) := dk_27 (dk_at dksX8_shelf_0 0 rfl rfl)
theorem dX8_shelf_1 : decode cX8_shelf 1 = .ok (.invokestatic 335, 3) := dk_184 1 79 (dk_at dksX8_shelf_0 1 rfl rfl)
theorem dX8_shelf_4 : decode cX8_shelf 4 = .ok (.ifCond .eq 39, 3) := dk_153 0 39 (dk_at dksX8_shelf_0 4 rfl rfl)
theorem dX8_shelf_7 : decode cX8_shelf 7 = .ok (.iload_n 2, 1) := dk_28 (dk_at dksX8_shelf_0 7 rfl rfl)
theorem dX8_shelf_8 : decode cX8_shelf 8 = .ok (.i2l, 1) := dk_133 (dk_at dksX8_shelf_0 8 rfl rfl)
theorem dX8_shelf_9 : decode cX8_shelf 9 = .ok (.lconst 0, 1) := dk_9 (dk_at dksX8_shelf_0 9 rfl rfl)
theorem dX8_shelf_10 : decode cX8_shelf 10 = .ok (.ldc2_w 97, 3) := dk_20 0 97 (dk_at dksX8_shelf_0 10 rfl rfl)
theorem dX8_shelf_13 : decode cX8_shelf 13 = .ok (.invokestatic 99, 3) := dk_184 0 99 (dk_at dksX8_shelf_0 13 rfl rfl)
theorem dX8_shelf_16 : decode cX8_shelf 16 = .ok (.ifCond .eq 27, 3) := dk_153 0 27 (dk_at dksX8_shelf_0 16 rfl rfl)
theorem dX8_shelf_19 : decode cX8_shelf 19 = .ok (.iload_n 2, 1) := dk_28 (dk_at dksX8_shelf_0 19 rfl rfl)
theorem dX8_shelf_20 : decode cX8_shelf 20 = .ok (.ifCond .ne 11, 3) := dk_154 0 11 (dk_at dksX8_shelf_0 20 rfl rfl)
theorem dX8_shelf_23 : decode cX8_shelf 23 = .ok (.aload_n 0, 1) := dk_42 (dk_at dksX8_shelf_0 23 rfl rfl)
theorem dX8_shelf_24 : decode cX8_shelf 24 = .ok (.iload_n 3, 1) := dk_29 (dk_at dksX8_shelf_1 0 rfl rfl)
theorem dX8_shelf_25 : decode cX8_shelf 25 = .ok (.invokevirtual 203, 3) := dk_182 0 203 (dk_at dksX8_shelf_1 1 rfl rfl)
theorem dX8_shelf_28 : decode cX8_shelf 28 = .ok (.ifCond .eq 15, 3) := dk_153 0 15 (dk_at dksX8_shelf_1 4 rfl rfl)
theorem dX8_shelf_31 : decode cX8_shelf 31 = .ok (.iload_n 2, 1) := dk_28 (dk_at dksX8_shelf_1 7 rfl rfl)
theorem dX8_shelf_32 : decode cX8_shelf 32 = .ok (.iconst 1, 1) := dk_4 (dk_at dksX8_shelf_1 8 rfl rfl)
theorem dX8_shelf_33 : decode cX8_shelf 33 = .ok (.if_icmp .ne 12, 3) := dk_160 0 12 (dk_at dksX8_shelf_1 9 rfl rfl)
theorem dX8_shelf_36 : decode cX8_shelf 36 = .ok (.iload_n 3, 1) := dk_29 (dk_at dksX8_shelf_1 12 rfl rfl)
theorem dX8_shelf_37 : decode cX8_shelf 37 = .ok (.invokestatic 303, 3) := dk_184 1 47 (dk_at dksX8_shelf_1 13 rfl rfl)
theorem dX8_shelf_40 : decode cX8_shelf 40 = .ok (.ifCond .ne 5, 3) := dk_154 0 5 (dk_at dksX8_shelf_1 16 rfl rfl)
theorem dX8_shelf_43 : decode cX8_shelf 43 = .ok (.iconst (-1), 1) := dk_2 (dk_at dksX8_shelf_1 19 rfl rfl)
theorem dX8_shelf_44 : decode cX8_shelf 44 = .ok (.ireturn, 1) := dk_172 (dk_at dksX8_shelf_1 20 rfl rfl)
theorem dX8_shelf_45 : decode cX8_shelf 45 = .ok (.aload_n 0, 1) := dk_42 (dk_at dksX8_shelf_1 21 rfl rfl)
theorem dX8_shelf_46 : decode cX8_shelf 46 = .ok (.getfield 79, 3) := dk_180 0 79 (dk_at dksX8_shelf_2 0 rfl rfl)
theorem dX8_shelf_49 : decode cX8_shelf 49 = .ok (.iload_n 1, 1) := dk_27 (dk_at dksX8_shelf_2 3 rfl rfl)
theorem dX8_shelf_50 : decode cX8_shelf 50 = .ok (.iload_n 2, 1) := dk_28 (dk_at dksX8_shelf_2 4 rfl rfl)
theorem dX8_shelf_51 : decode cX8_shelf 51 = .ok (.iconst 1, 1) := dk_4 (dk_at dksX8_shelf_2 5 rfl rfl)
theorem dX8_shelf_52 : decode cX8_shelf 52 = .ok (.if_icmp .ne 16, 3) := dk_160 0 16 (dk_at dksX8_shelf_2 6 rfl rfl)
theorem dX8_shelf_55 : decode cX8_shelf 55 = .ok (.aload_n 0, 1) := dk_42 (dk_at dksX8_shelf_2 9 rfl rfl)
theorem dX8_shelf_56 : decode cX8_shelf 56 = .ok (.getfield 67, 3) := dk_180 0 67 (dk_at dksX8_shelf_2 10 rfl rfl)
theorem dX8_shelf_59 : decode cX8_shelf 59 = .ok (.iload_n 3, 1) := dk_29 (dk_at dksX8_shelf_2 13 rfl rfl)
theorem dX8_shelf_60 : decode cX8_shelf 60 = .ok (.iaload, 1) := dk_46 (dk_at dksX8_shelf_2 14 rfl rfl)
theorem dX8_shelf_61 : decode cX8_shelf 61 = .ok (.ifCond .ge 7, 3) := dk_156 0 7 (dk_at dksX8_shelf_2 15 rfl rfl)
theorem dX8_shelf_64 : decode cX8_shelf 64 = .ok (.iconst 2, 1) := dk_5 (dk_at dksX8_shelf_2 18 rfl rfl)
theorem dX8_shelf_65 : decode cX8_shelf 65 = .ok (.goto 4, 3) := dk_167 0 4 (dk_at dksX8_shelf_2 19 rfl rfl)
theorem dX8_shelf_68 : decode cX8_shelf 68 = .ok (.iload_n 2, 1) := dk_28 (dk_at dksX8_shelf_2 22 rfl rfl)
theorem dX8_shelf_69 : decode cX8_shelf 69 = .ok (.iastore, 1) := dk_79 (dk_at dksX8_shelf_2 23 rfl rfl)
theorem dX8_shelf_70 : decode cX8_shelf 70 = .ok (.aload_n 0, 1) := dk_42 (dk_at dksX8_shelf_3 0 rfl rfl)
theorem dX8_shelf_71 : decode cX8_shelf 71 = .ok (.getfield 82, 3) := dk_180 0 82 (dk_at dksX8_shelf_3 1 rfl rfl)
theorem dX8_shelf_74 : decode cX8_shelf 74 = .ok (.iload_n 1, 1) := dk_27 (dk_at dksX8_shelf_3 4 rfl rfl)
theorem dX8_shelf_75 : decode cX8_shelf 75 = .ok (.iload_n 2, 1) := dk_28 (dk_at dksX8_shelf_3 5 rfl rfl)
theorem dX8_shelf_76 : decode cX8_shelf 76 = .ok (.iconst 1, 1) := dk_4 (dk_at dksX8_shelf_3 6 rfl rfl)
theorem dX8_shelf_77 : decode cX8_shelf 77 = .ok (.if_icmp .ne 12, 3) := dk_160 0 12 (dk_at dksX8_shelf_3 7 rfl rfl)
theorem dX8_shelf_80 : decode cX8_shelf 80 = .ok (.aload_n 0, 1) := dk_42 (dk_at dksX8_shelf_3 10 rfl rfl)
theorem dX8_shelf_81 : decode cX8_shelf 81 = .ok (.getfield 67, 3) := dk_180 0 67 (dk_at dksX8_shelf_3 11 rfl rfl)
theorem dX8_shelf_84 : decode cX8_shelf 84 = .ok (.iload_n 3, 1) := dk_29 (dk_at dksX8_shelf_3 14 rfl rfl)
theorem dX8_shelf_85 : decode cX8_shelf 85 = .ok (.iaload, 1) := dk_46 (dk_at dksX8_shelf_3 15 rfl rfl)
theorem dX8_shelf_86 : decode cX8_shelf 86 = .ok (.goto 4, 3) := dk_167 0 4 (dk_at dksX8_shelf_3 16 rfl rfl)
theorem dX8_shelf_89 : decode cX8_shelf 89 = .ok (.iload_n 3, 1) := dk_29 (dk_at dksX8_shelf_3 19 rfl rfl)
theorem dX8_shelf_90 : decode cX8_shelf 90 = .ok (.iastore, 1) := dk_79 (dk_at dksX8_shelf_3 20 rfl rfl)
theorem dX8_shelf_91 : decode cX8_shelf 91 = .ok (.aload_n 0, 1) := dk_42 (dk_at dksX8_shelf_3 21 rfl rfl)
theorem dX8_shelf_92 : decode cX8_shelf 92 = .ok (.getfield 85, 3) := dk_180 0 85 (dk_at dksX8_shelf_4 0 rfl rfl)
theorem dX8_shelf_95 : decode cX8_shelf 95 = .ok (.iload_n 1, 1) := dk_27 (dk_at dksX8_shelf_4 3 rfl rfl)
theorem dX8_shelf_96 : decode cX8_shelf 96 = .ok (.iload_n 2, 1) := dk_28 (dk_at dksX8_shelf_4 4 rfl rfl)
theorem dX8_shelf_97 : decode cX8_shelf 97 = .ok (.iconst 1, 1) := dk_4 (dk_at dksX8_shelf_4 5 rfl rfl)
theorem dX8_shelf_98 : decode cX8_shelf 98 = .ok (.if_icmp .ne 12, 3) := dk_160 0 12 (dk_at dksX8_shelf_4 6 rfl rfl)
theorem dX8_shelf_101 : decode cX8_shelf 101 = .ok (.aload_n 0, 1) := dk_42 (dk_at dksX8_shelf_4 9 rfl rfl)
theorem dX8_shelf_102 : decode cX8_shelf 102 = .ok (.getfield 70, 3) := dk_180 0 70 (dk_at dksX8_shelf_4 10 rfl rfl)
theorem dX8_shelf_105 : decode cX8_shelf 105 = .ok (.iload_n 3, 1) := dk_29 (dk_at dksX8_shelf_4 13 rfl rfl)
theorem dX8_shelf_106 : decode cX8_shelf 106 = .ok (.iaload, 1) := dk_46 (dk_at dksX8_shelf_4 14 rfl rfl)
theorem dX8_shelf_107 : decode cX8_shelf 107 = .ok (.goto 4, 3) := dk_167 0 4 (dk_at dksX8_shelf_4 15 rfl rfl)
theorem dX8_shelf_110 : decode cX8_shelf 110 = .ok (.iconst 0, 1) := dk_3 (dk_at dksX8_shelf_4 18 rfl rfl)
theorem dX8_shelf_111 : decode cX8_shelf 111 = .ok (.iastore, 1) := dk_79 (dk_at dksX8_shelf_4 19 rfl rfl)
theorem dX8_shelf_112 : decode cX8_shelf 112 = .ok (.iconst 1, 1) := dk_4 (dk_at dksX8_shelf_4 20 rfl rfl)
theorem dX8_shelf_113 : decode cX8_shelf 113 = .ok (.ireturn, 1) := dk_172 (dk_at dksX8_shelf_4 21 rfl rfl)
abbrev cX8_isShelf : ByteArray := prog_24_method_86_code
def yX8_isShelf : MethodName := ⟨RX8, "isShelf", "(I)Z"⟩
def dkwX8_isShelf_0 : List UInt8 := [26, 133, 9, 20, 0, 118, 184, 0, 99, 172]
abbrev dktX8_isShelf_0 : List UInt8 := dkwX8_isShelf_0 ++ []
theorem dksX8_isShelf_0 : cX8_isShelf.data.toList.drop 0 = dktX8_isShelf_0 := by decide +kernel
theorem dX8_isShelf_0 : decode cX8_isShelf 0 = .ok (.iload_n 0, 1) := dk_26 (dk_at dksX8_isShelf_0 0 rfl rfl)
theorem dX8_isShelf_1 : decode cX8_isShelf 1 = .ok (.i2l, 1) := dk_133 (dk_at dksX8_isShelf_0 1 rfl rfl)
theorem dX8_isShelf_2 : decode cX8_isShelf 2 = .ok (.lconst 0, 1) := dk_9 (dk_at dksX8_isShelf_0 2 rfl rfl)
theorem dX8_isShelf_3 : decode cX8_isShelf 3 = .ok (.ldc2_w 118, 3) := dk_20 0 118 (dk_at dksX8_isShelf_0 3 rfl rfl)
theorem dX8_isShelf_6 : decode cX8_isShelf 6 = .ok (.invokestatic 99, 3) := dk_184 0 99 (dk_at dksX8_isShelf_0 6 rfl rfl)
theorem dX8_isShelf_9 : decode cX8_isShelf 9 = .ok (.ireturn, 1) := dk_172 (dk_at dksX8_isShelf_0 9 rfl rfl)
abbrev cX8_taken : ByteArray := prog_24_method_89_code
def yX8_taken : MethodName := ⟨RX8, "taken", "(II)I"⟩
def dkwX8_taken_4 : List UInt8 := [96, 160, 0, 12, 42, 180, 0, 85, 27, 46, 167, 0, 5, 16, 243, 172]
abbrev dktX8_taken_4 : List UInt8 := dkwX8_taken_4 ++ []
def dkwX8_taken_3 : List UInt8 := [153, 0, 12, 42, 180, 0, 82, 27, 46, 167, 0, 5, 16, 243, 172, 28, 16, 10, 42, 180, 0, 82, 27, 46]
abbrev dktX8_taken_3 : List UInt8 := dkwX8_taken_3 ++ dktX8_taken_4
def dkwX8_taken_2 : List UInt8 := [154, 0, 39, 28, 16, 6, 163, 0, 30, 42, 180, 0, 29, 42, 180, 0, 82, 27, 46, 46, 28, 184, 1, 89]
abbrev dktX8_taken_2 : List UInt8 := dkwX8_taken_2 ++ dktX8_taken_3
def dkwX8_taken_1 : List UInt8 := [184, 0, 99, 154, 0, 5, 2, 172, 42, 27, 182, 1, 86, 62, 29, 5, 160, 0, 6, 16, 245, 172, 29]
abbrev dktX8_taken_1 : List UInt8 := dkwX8_taken_1 ++ dktX8_taken_2
def dkwX8_taken_0 : List UInt8 := [27, 184, 1, 79, 153, 0, 24, 28, 184, 0, 198, 154, 0, 19, 28, 133, 20, 1, 82, 20, 1, 84]
abbrev dktX8_taken_0 : List UInt8 := dkwX8_taken_0 ++ dktX8_taken_1
theorem dksX8_taken_0 : cX8_taken.data.toList.drop 0 = dktX8_taken_0 := by decide +kernel
theorem dksX8_taken_1 : cX8_taken.data.toList.drop 22 = dktX8_taken_1 := dk_seg dksX8_taken_0 22 rfl rfl
theorem dksX8_taken_2 : cX8_taken.data.toList.drop 45 = dktX8_taken_2 := dk_seg dksX8_taken_1 23 rfl rfl
theorem dksX8_taken_3 : cX8_taken.data.toList.drop 69 = dktX8_taken_3 := dk_seg dksX8_taken_2 24 rfl rfl
theorem dksX8_taken_4 : cX8_taken.data.toList.drop 93 = dktX8_taken_4 := dk_seg dksX8_taken_3 24 rfl rfl
theorem dX8_taken_0 : decode cX8_taken 0 = .ok (.iload_n 1, 1) := dk_27 (dk_at dksX8_taken_0 0 rfl rfl)
theorem dX8_taken_1 : decode cX8_taken 1 = .ok (.invokestatic 335, 3) := dk_184 1 79 (dk_at dksX8_taken_0 1 rfl rfl)
theorem dX8_taken_4 : decode cX8_taken 4 = .ok (.ifCond .eq 24, 3) := dk_153 0 24 (dk_at dksX8_taken_0 4 rfl rfl)
theorem dX8_taken_7 : decode cX8_taken 7 = .ok (.iload_n 2, 1) := dk_28 (dk_at dksX8_taken_0 7 rfl rfl)
theorem dX8_taken_8 : decode cX8_taken 8 = .ok (.invokestatic 198, 3) := dk_184 0 198 (dk_at dksX8_taken_0 8 rfl rfl)
theorem dX8_taken_11 : decode cX8_taken 11 = .ok (.ifCond .ne 19, 3) := dk_154 0 19 (dk_at dksX8_taken_0 11 rfl rfl)
theorem dX8_taken_14 : decode cX8_taken 14 = .ok (.iload_n 2, 1) := dk_28 (dk_at dksX8_taken_0 14 rfl rfl)
theorem dX8_taken_15 : decode cX8_taken 15 = .ok (.i2l, 1) := dk_133 (dk_at dksX8_taken_0 15 rfl rfl)
theorem dX8_taken_16 : decode cX8_taken 16 = .ok (.ldc2_w 338, 3) := dk_20 1 82 (dk_at dksX8_taken_0 16 rfl rfl)
theorem dX8_taken_19 : decode cX8_taken 19 = .ok (.ldc2_w 340, 3) := dk_20 1 84 (dk_at dksX8_taken_0 19 rfl rfl)
theorem dX8_taken_22 : decode cX8_taken 22 = .ok (.invokestatic 99, 3) := dk_184 0 99 (dk_at dksX8_taken_1 0 rfl rfl)
theorem dX8_taken_25 : decode cX8_taken 25 = .ok (.ifCond .ne 5, 3) := dk_154 0 5 (dk_at dksX8_taken_1 3 rfl rfl)
theorem dX8_taken_28 : decode cX8_taken 28 = .ok (.iconst (-1), 1) := dk_2 (dk_at dksX8_taken_1 6 rfl rfl)
theorem dX8_taken_29 : decode cX8_taken 29 = .ok (.ireturn, 1) := dk_172 (dk_at dksX8_taken_1 7 rfl rfl)
theorem dX8_taken_30 : decode cX8_taken 30 = .ok (.aload_n 0, 1) := dk_42 (dk_at dksX8_taken_1 8 rfl rfl)
theorem dX8_taken_31 : decode cX8_taken 31 = .ok (.iload_n 1, 1) := dk_27 (dk_at dksX8_taken_1 9 rfl rfl)
theorem dX8_taken_32 : decode cX8_taken 32 = .ok (.invokevirtual 342, 3) := dk_182 1 86 (dk_at dksX8_taken_1 10 rfl rfl)
theorem dX8_taken_35 : decode cX8_taken 35 = .ok (.istore_n 3, 1) := dk_62 (dk_at dksX8_taken_1 13 rfl rfl)
theorem dX8_taken_36 : decode cX8_taken 36 = .ok (.iload_n 3, 1) := dk_29 (dk_at dksX8_taken_1 14 rfl rfl)
theorem dX8_taken_37 : decode cX8_taken 37 = .ok (.iconst 2, 1) := dk_5 (dk_at dksX8_taken_1 15 rfl rfl)
theorem dX8_taken_38 : decode cX8_taken 38 = .ok (.if_icmp .ne 6, 3) := dk_160 0 6 (dk_at dksX8_taken_1 16 rfl rfl)
theorem dX8_taken_41 : decode cX8_taken 41 = .ok (.bipush (-11), 2) := dk_16 245 (dk_at dksX8_taken_1 19 rfl rfl)
theorem dX8_taken_43 : decode cX8_taken 43 = .ok (.ireturn, 1) := dk_172 (dk_at dksX8_taken_1 21 rfl rfl)
theorem dX8_taken_44 : decode cX8_taken 44 = .ok (.iload_n 3, 1) := dk_29 (dk_at dksX8_taken_1 22 rfl rfl)
theorem dX8_taken_45 : decode cX8_taken 45 = .ok (.ifCond .ne 39, 3) := dk_154 0 39 (dk_at dksX8_taken_2 0 rfl rfl)
theorem dX8_taken_48 : decode cX8_taken 48 = .ok (.iload_n 2, 1) := dk_28 (dk_at dksX8_taken_2 3 rfl rfl)
theorem dX8_taken_49 : decode cX8_taken 49 = .ok (.bipush 6, 2) := dk_16 6 (dk_at dksX8_taken_2 4 rfl rfl)
theorem dX8_taken_51 : decode cX8_taken 51 = .ok (.if_icmp .gt 30, 3) := dk_163 0 30 (dk_at dksX8_taken_2 6 rfl rfl)
theorem dX8_taken_54 : decode cX8_taken 54 = .ok (.aload_n 0, 1) := dk_42 (dk_at dksX8_taken_2 9 rfl rfl)
theorem dX8_taken_55 : decode cX8_taken 55 = .ok (.getfield 29, 3) := dk_180 0 29 (dk_at dksX8_taken_2 10 rfl rfl)
theorem dX8_taken_58 : decode cX8_taken 58 = .ok (.aload_n 0, 1) := dk_42 (dk_at dksX8_taken_2 13 rfl rfl)
theorem dX8_taken_59 : decode cX8_taken 59 = .ok (.getfield 82, 3) := dk_180 0 82 (dk_at dksX8_taken_2 14 rfl rfl)
theorem dX8_taken_62 : decode cX8_taken 62 = .ok (.iload_n 1, 1) := dk_27 (dk_at dksX8_taken_2 17 rfl rfl)
theorem dX8_taken_63 : decode cX8_taken 63 = .ok (.iaload, 1) := dk_46 (dk_at dksX8_taken_2 18 rfl rfl)
theorem dX8_taken_64 : decode cX8_taken 64 = .ok (.iaload, 1) := dk_46 (dk_at dksX8_taken_2 19 rfl rfl)
theorem dX8_taken_65 : decode cX8_taken 65 = .ok (.iload_n 2, 1) := dk_28 (dk_at dksX8_taken_2 20 rfl rfl)
theorem dX8_taken_66 : decode cX8_taken 66 = .ok (.invokestatic 345, 3) := dk_184 1 89 (dk_at dksX8_taken_2 21 rfl rfl)
theorem dX8_taken_69 : decode cX8_taken 69 = .ok (.ifCond .eq 12, 3) := dk_153 0 12 (dk_at dksX8_taken_3 0 rfl rfl)
theorem dX8_taken_72 : decode cX8_taken 72 = .ok (.aload_n 0, 1) := dk_42 (dk_at dksX8_taken_3 3 rfl rfl)
theorem dX8_taken_73 : decode cX8_taken 73 = .ok (.getfield 82, 3) := dk_180 0 82 (dk_at dksX8_taken_3 4 rfl rfl)
theorem dX8_taken_76 : decode cX8_taken 76 = .ok (.iload_n 1, 1) := dk_27 (dk_at dksX8_taken_3 7 rfl rfl)
theorem dX8_taken_77 : decode cX8_taken 77 = .ok (.iaload, 1) := dk_46 (dk_at dksX8_taken_3 8 rfl rfl)
theorem dX8_taken_78 : decode cX8_taken 78 = .ok (.goto 5, 3) := dk_167 0 5 (dk_at dksX8_taken_3 9 rfl rfl)
theorem dX8_taken_81 : decode cX8_taken 81 = .ok (.bipush (-13), 2) := dk_16 243 (dk_at dksX8_taken_3 12 rfl rfl)
theorem dX8_taken_83 : decode cX8_taken 83 = .ok (.ireturn, 1) := dk_172 (dk_at dksX8_taken_3 14 rfl rfl)
theorem dX8_taken_84 : decode cX8_taken 84 = .ok (.iload_n 2, 1) := dk_28 (dk_at dksX8_taken_3 15 rfl rfl)
theorem dX8_taken_85 : decode cX8_taken 85 = .ok (.bipush 10, 2) := dk_16 10 (dk_at dksX8_taken_3 16 rfl rfl)
theorem dX8_taken_87 : decode cX8_taken 87 = .ok (.aload_n 0, 1) := dk_42 (dk_at dksX8_taken_3 18 rfl rfl)
theorem dX8_taken_88 : decode cX8_taken 88 = .ok (.getfield 82, 3) := dk_180 0 82 (dk_at dksX8_taken_3 19 rfl rfl)
theorem dX8_taken_91 : decode cX8_taken 91 = .ok (.iload_n 1, 1) := dk_27 (dk_at dksX8_taken_3 22 rfl rfl)
theorem dX8_taken_92 : decode cX8_taken 92 = .ok (.iaload, 1) := dk_46 (dk_at dksX8_taken_3 23 rfl rfl)
theorem dX8_taken_93 : decode cX8_taken 93 = .ok (.iadd, 1) := dk_96 (dk_at dksX8_taken_4 0 rfl rfl)
theorem dX8_taken_94 : decode cX8_taken 94 = .ok (.if_icmp .ne 12, 3) := dk_160 0 12 (dk_at dksX8_taken_4 1 rfl rfl)
theorem dX8_taken_97 : decode cX8_taken 97 = .ok (.aload_n 0, 1) := dk_42 (dk_at dksX8_taken_4 4 rfl rfl)
theorem dX8_taken_98 : decode cX8_taken 98 = .ok (.getfield 85, 3) := dk_180 0 85 (dk_at dksX8_taken_4 5 rfl rfl)
theorem dX8_taken_101 : decode cX8_taken 101 = .ok (.iload_n 1, 1) := dk_27 (dk_at dksX8_taken_4 8 rfl rfl)
theorem dX8_taken_102 : decode cX8_taken 102 = .ok (.iaload, 1) := dk_46 (dk_at dksX8_taken_4 9 rfl rfl)
theorem dX8_taken_103 : decode cX8_taken 103 = .ok (.goto 5, 3) := dk_167 0 5 (dk_at dksX8_taken_4 10 rfl rfl)
theorem dX8_taken_106 : decode cX8_taken 106 = .ok (.bipush (-13), 2) := dk_16 243 (dk_at dksX8_taken_4 13 rfl rfl)
theorem dX8_taken_108 : decode cX8_taken 108 = .ok (.ireturn, 1) := dk_172 (dk_at dksX8_taken_4 15 rfl rfl)
abbrev cX8_heldBy : ByteArray := prog_24_method_88_code
def yX8_heldBy : MethodName := ⟨RX8, "heldBy", "(I)I"⟩
def dkwX8_heldBy_1 : List UInt8 := [167, 0, 9, 42, 180, 0, 79, 27, 46, 172]
abbrev dktX8_heldBy_1 : List UInt8 := dkwX8_heldBy_1 ++ []
def dkwX8_heldBy_0 : List UInt8 := [42, 180, 0, 79, 27, 46, 154, 0, 20, 42, 42, 180, 0, 82, 27, 46, 182, 0, 203, 154, 0, 7, 5]
abbrev dktX8_heldBy_0 : List UInt8 := dkwX8_heldBy_0 ++ dktX8_heldBy_1
theorem dksX8_heldBy_0 : cX8_heldBy.data.toList.drop 0 = dktX8_heldBy_0 := by decide +kernel
theorem dksX8_heldBy_1 : cX8_heldBy.data.toList.drop 23 = dktX8_heldBy_1 := dk_seg dksX8_heldBy_0 23 rfl rfl
theorem dX8_heldBy_0 : decode cX8_heldBy 0 = .ok (.aload_n 0, 1) := dk_42 (dk_at dksX8_heldBy_0 0 rfl rfl)
theorem dX8_heldBy_1 : decode cX8_heldBy 1 = .ok (.getfield 79, 3) := dk_180 0 79 (dk_at dksX8_heldBy_0 1 rfl rfl)
theorem dX8_heldBy_4 : decode cX8_heldBy 4 = .ok (.iload_n 1, 1) := dk_27 (dk_at dksX8_heldBy_0 4 rfl rfl)
theorem dX8_heldBy_5 : decode cX8_heldBy 5 = .ok (.iaload, 1) := dk_46 (dk_at dksX8_heldBy_0 5 rfl rfl)
theorem dX8_heldBy_6 : decode cX8_heldBy 6 = .ok (.ifCond .ne 20, 3) := dk_154 0 20 (dk_at dksX8_heldBy_0 6 rfl rfl)
theorem dX8_heldBy_9 : decode cX8_heldBy 9 = .ok (.aload_n 0, 1) := dk_42 (dk_at dksX8_heldBy_0 9 rfl rfl)
theorem dX8_heldBy_10 : decode cX8_heldBy 10 = .ok (.aload_n 0, 1) := dk_42 (dk_at dksX8_heldBy_0 10 rfl rfl)
theorem dX8_heldBy_11 : decode cX8_heldBy 11 = .ok (.getfield 82, 3) := dk_180 0 82 (dk_at dksX8_heldBy_0 11 rfl rfl)
theorem dX8_heldBy_14 : decode cX8_heldBy 14 = .ok (.iload_n 1, 1) := dk_27 (dk_at dksX8_heldBy_0 14 rfl rfl)
theorem dX8_heldBy_15 : decode cX8_heldBy 15 = .ok (.iaload, 1) := dk_46 (dk_at dksX8_heldBy_0 15 rfl rfl)
theorem dX8_heldBy_16 : decode cX8_heldBy 16 = .ok (.invokevirtual 203, 3) := dk_182 0 203 (dk_at dksX8_heldBy_0 16 rfl rfl)
theorem dX8_heldBy_19 : decode cX8_heldBy 19 = .ok (.ifCond .ne 7, 3) := dk_154 0 7 (dk_at dksX8_heldBy_0 19 rfl rfl)
theorem dX8_heldBy_22 : decode cX8_heldBy 22 = .ok (.iconst 2, 1) := dk_5 (dk_at dksX8_heldBy_0 22 rfl rfl)
theorem dX8_heldBy_23 : decode cX8_heldBy 23 = .ok (.goto 9, 3) := dk_167 0 9 (dk_at dksX8_heldBy_1 0 rfl rfl)
theorem dX8_heldBy_26 : decode cX8_heldBy 26 = .ok (.aload_n 0, 1) := dk_42 (dk_at dksX8_heldBy_1 3 rfl rfl)
theorem dX8_heldBy_27 : decode cX8_heldBy 27 = .ok (.getfield 79, 3) := dk_180 0 79 (dk_at dksX8_heldBy_1 4 rfl rfl)
theorem dX8_heldBy_30 : decode cX8_heldBy 30 = .ok (.iload_n 1, 1) := dk_27 (dk_at dksX8_heldBy_1 7 rfl rfl)
theorem dX8_heldBy_31 : decode cX8_heldBy 31 = .ok (.iaload, 1) := dk_46 (dk_at dksX8_heldBy_1 8 rfl rfl)
theorem dX8_heldBy_32 : decode cX8_heldBy 32 = .ok (.ireturn, 1) := dk_172 (dk_at dksX8_heldBy_1 9 rfl rfl)
abbrev cX8_isUnder : ByteArray := prog_24_method_32_code
def yX8_isUnder : MethodName := ⟨RX8, "isUnder", "(II)Z"⟩
def dkwX8_isUnder_1 : List UInt8 := [26, 8, 162, 0, 14, 27, 8, 160, 0, 13, 26, 16, 6, 160, 0, 7, 4, 167, 0, 4, 3, 172]
abbrev dktX8_isUnder_1 : List UInt8 := dkwX8_isUnder_1 ++ []
def dkwX8_isUnder_0 : List UInt8 := [27, 153, 0, 39, 26, 27, 159, 0, 34, 27, 5, 160, 0, 8, 26, 7, 159, 0, 24, 27, 6, 160, 0, 8]
abbrev dktX8_isUnder_0 : List UInt8 := dkwX8_isUnder_0 ++ dktX8_isUnder_1
theorem dksX8_isUnder_0 : cX8_isUnder.data.toList.drop 0 = dktX8_isUnder_0 := by decide +kernel
theorem dksX8_isUnder_1 : cX8_isUnder.data.toList.drop 24 = dktX8_isUnder_1 := dk_seg dksX8_isUnder_0 24 rfl rfl
theorem dX8_isUnder_0 : decode cX8_isUnder 0 = .ok (.iload_n 1, 1) := dk_27 (dk_at dksX8_isUnder_0 0 rfl rfl)
theorem dX8_isUnder_1 : decode cX8_isUnder 1 = .ok (.ifCond .eq 39, 3) := dk_153 0 39 (dk_at dksX8_isUnder_0 1 rfl rfl)
theorem dX8_isUnder_4 : decode cX8_isUnder 4 = .ok (.iload_n 0, 1) := dk_26 (dk_at dksX8_isUnder_0 4 rfl rfl)
theorem dX8_isUnder_5 : decode cX8_isUnder 5 = .ok (.iload_n 1, 1) := dk_27 (dk_at dksX8_isUnder_0 5 rfl rfl)
theorem dX8_isUnder_6 : decode cX8_isUnder 6 = .ok (.if_icmp .eq 34, 3) := dk_159 0 34 (dk_at dksX8_isUnder_0 6 rfl rfl)
theorem dX8_isUnder_9 : decode cX8_isUnder 9 = .ok (.iload_n 1, 1) := dk_27 (dk_at dksX8_isUnder_0 9 rfl rfl)
theorem dX8_isUnder_10 : decode cX8_isUnder 10 = .ok (.iconst 2, 1) := dk_5 (dk_at dksX8_isUnder_0 10 rfl rfl)
theorem dX8_isUnder_11 : decode cX8_isUnder 11 = .ok (.if_icmp .ne 8, 3) := dk_160 0 8 (dk_at dksX8_isUnder_0 11 rfl rfl)
theorem dX8_isUnder_14 : decode cX8_isUnder 14 = .ok (.iload_n 0, 1) := dk_26 (dk_at dksX8_isUnder_0 14 rfl rfl)
theorem dX8_isUnder_15 : decode cX8_isUnder 15 = .ok (.iconst 4, 1) := dk_7 (dk_at dksX8_isUnder_0 15 rfl rfl)
theorem dX8_isUnder_16 : decode cX8_isUnder 16 = .ok (.if_icmp .eq 24, 3) := dk_159 0 24 (dk_at dksX8_isUnder_0 16 rfl rfl)
theorem dX8_isUnder_19 : decode cX8_isUnder 19 = .ok (.iload_n 1, 1) := dk_27 (dk_at dksX8_isUnder_0 19 rfl rfl)
theorem dX8_isUnder_20 : decode cX8_isUnder 20 = .ok (.iconst 3, 1) := dk_6 (dk_at dksX8_isUnder_0 20 rfl rfl)
theorem dX8_isUnder_21 : decode cX8_isUnder 21 = .ok (.if_icmp .ne 8, 3) := dk_160 0 8 (dk_at dksX8_isUnder_0 21 rfl rfl)
theorem dX8_isUnder_24 : decode cX8_isUnder 24 = .ok (.iload_n 0, 1) := dk_26 (dk_at dksX8_isUnder_1 0 rfl rfl)
theorem dX8_isUnder_25 : decode cX8_isUnder 25 = .ok (.iconst 5, 1) := dk_8 (dk_at dksX8_isUnder_1 1 rfl rfl)
theorem dX8_isUnder_26 : decode cX8_isUnder 26 = .ok (.if_icmp .ge 14, 3) := dk_162 0 14 (dk_at dksX8_isUnder_1 2 rfl rfl)
theorem dX8_isUnder_29 : decode cX8_isUnder 29 = .ok (.iload_n 1, 1) := dk_27 (dk_at dksX8_isUnder_1 5 rfl rfl)
theorem dX8_isUnder_30 : decode cX8_isUnder 30 = .ok (.iconst 5, 1) := dk_8 (dk_at dksX8_isUnder_1 6 rfl rfl)
theorem dX8_isUnder_31 : decode cX8_isUnder 31 = .ok (.if_icmp .ne 13, 3) := dk_160 0 13 (dk_at dksX8_isUnder_1 7 rfl rfl)
theorem dX8_isUnder_34 : decode cX8_isUnder 34 = .ok (.iload_n 0, 1) := dk_26 (dk_at dksX8_isUnder_1 10 rfl rfl)
theorem dX8_isUnder_35 : decode cX8_isUnder 35 = .ok (.bipush 6, 2) := dk_16 6 (dk_at dksX8_isUnder_1 11 rfl rfl)
theorem dX8_isUnder_37 : decode cX8_isUnder 37 = .ok (.if_icmp .ne 7, 3) := dk_160 0 7 (dk_at dksX8_isUnder_1 13 rfl rfl)
theorem dX8_isUnder_40 : decode cX8_isUnder 40 = .ok (.iconst 1, 1) := dk_4 (dk_at dksX8_isUnder_1 16 rfl rfl)
theorem dX8_isUnder_41 : decode cX8_isUnder 41 = .ok (.goto 4, 3) := dk_167 0 4 (dk_at dksX8_isUnder_1 17 rfl rfl)
theorem dX8_isUnder_44 : decode cX8_isUnder 44 = .ok (.iconst 0, 1) := dk_3 (dk_at dksX8_isUnder_1 20 rfl rfl)
theorem dX8_isUnder_45 : decode cX8_isUnder 45 = .ok (.ireturn, 1) := dk_172 (dk_at dksX8_isUnder_1 21 rfl rfl)
abbrev cX8_act : ByteArray := prog_24_method_101_code
def yX8_act : MethodName := ⟨RX8, "act", "(III)I"⟩
def dkwX8_act_5 : List UInt8 := [54, 4, 42, 180, 1, 122, 153, 0, 8, 16, 241, 167, 0, 5, 21, 4, 172]
abbrev dktX8_act_5 : List UInt8 := dkwX8_act_5 ++ []
def dkwX8_act_4 : List UInt8 := [182, 1, 126, 167, 0, 21, 28, 5, 160, 0, 11, 42, 29, 182, 1, 129, 167, 0, 8, 42, 29, 182, 1, 138]
abbrev dktX8_act_4 : List UInt8 := dkwX8_act_4 ++ dktX8_act_5
def dkwX8_act_3 : List UInt8 := [42, 3, 181, 1, 122, 28, 154, 0, 11, 42, 29, 182, 1, 113, 167, 0, 34, 28, 4, 160, 0, 11, 42, 29]
abbrev dktX8_act_3 : List UInt8 := dkwX8_act_3 ++ dktX8_act_4
def dkwX8_act_2 : List UInt8 := [180, 0, 29, 42, 180, 1, 98, 46, 181, 1, 104, 42, 42, 180, 0, 32, 42, 180, 1, 98, 46, 181, 1, 110]
abbrev dktX8_act_2 : List UInt8 := dkwX8_act_2 ++ dktX8_act_3
def dkwX8_act_1 : List UInt8 := [42, 27, 182, 1, 86, 153, 0, 5, 3, 172, 42, 42, 180, 0, 82, 27, 46, 181, 1, 98, 42, 42]
abbrev dktX8_act_1 : List UInt8 := dkwX8_act_1 ++ dktX8_act_2
def dkwX8_act_0 : List UInt8 := [42, 3, 181, 1, 92, 27, 184, 1, 79, 153, 0, 23, 28, 133, 9, 20, 0, 118, 184, 0, 99, 153, 0, 11]
abbrev dktX8_act_0 : List UInt8 := dkwX8_act_0 ++ dktX8_act_1
theorem dksX8_act_0 : cX8_act.data.toList.drop 0 = dktX8_act_0 := by decide +kernel
theorem dksX8_act_1 : cX8_act.data.toList.drop 24 = dktX8_act_1 := dk_seg dksX8_act_0 24 rfl rfl
theorem dksX8_act_2 : cX8_act.data.toList.drop 46 = dktX8_act_2 := dk_seg dksX8_act_1 22 rfl rfl
theorem dksX8_act_3 : cX8_act.data.toList.drop 70 = dktX8_act_3 := dk_seg dksX8_act_2 24 rfl rfl
theorem dksX8_act_4 : cX8_act.data.toList.drop 94 = dktX8_act_4 := dk_seg dksX8_act_3 24 rfl rfl
theorem dksX8_act_5 : cX8_act.data.toList.drop 118 = dktX8_act_5 := dk_seg dksX8_act_4 24 rfl rfl
theorem dX8_act_0 : decode cX8_act 0 = .ok (.aload_n 0, 1) := dk_42 (dk_at dksX8_act_0 0 rfl rfl)
theorem dX8_act_1 : decode cX8_act 1 = .ok (.iconst 0, 1) := dk_3 (dk_at dksX8_act_0 1 rfl rfl)
theorem dX8_act_2 : decode cX8_act 2 = .ok (.putfield 348, 3) := dk_181 1 92 (dk_at dksX8_act_0 2 rfl rfl)
theorem dX8_act_5 : decode cX8_act 5 = .ok (.iload_n 1, 1) := dk_27 (dk_at dksX8_act_0 5 rfl rfl)
theorem dX8_act_6 : decode cX8_act 6 = .ok (.invokestatic 335, 3) := dk_184 1 79 (dk_at dksX8_act_0 6 rfl rfl)
theorem dX8_act_9 : decode cX8_act 9 = .ok (.ifCond .eq 23, 3) := dk_153 0 23 (dk_at dksX8_act_0 9 rfl rfl)
theorem dX8_act_12 : decode cX8_act 12 = .ok (.iload_n 2, 1) := dk_28 (dk_at dksX8_act_0 12 rfl rfl)
theorem dX8_act_13 : decode cX8_act 13 = .ok (.i2l, 1) := dk_133 (dk_at dksX8_act_0 13 rfl rfl)
theorem dX8_act_14 : decode cX8_act 14 = .ok (.lconst 0, 1) := dk_9 (dk_at dksX8_act_0 14 rfl rfl)
theorem dX8_act_15 : decode cX8_act 15 = .ok (.ldc2_w 118, 3) := dk_20 0 118 (dk_at dksX8_act_0 15 rfl rfl)
theorem dX8_act_18 : decode cX8_act 18 = .ok (.invokestatic 99, 3) := dk_184 0 99 (dk_at dksX8_act_0 18 rfl rfl)
theorem dX8_act_21 : decode cX8_act 21 = .ok (.ifCond .eq 11, 3) := dk_153 0 11 (dk_at dksX8_act_0 21 rfl rfl)
theorem dX8_act_24 : decode cX8_act 24 = .ok (.aload_n 0, 1) := dk_42 (dk_at dksX8_act_1 0 rfl rfl)
theorem dX8_act_25 : decode cX8_act 25 = .ok (.iload_n 1, 1) := dk_27 (dk_at dksX8_act_1 1 rfl rfl)
theorem dX8_act_26 : decode cX8_act 26 = .ok (.invokevirtual 342, 3) := dk_182 1 86 (dk_at dksX8_act_1 2 rfl rfl)
theorem dX8_act_29 : decode cX8_act 29 = .ok (.ifCond .eq 5, 3) := dk_153 0 5 (dk_at dksX8_act_1 5 rfl rfl)
theorem dX8_act_32 : decode cX8_act 32 = .ok (.iconst 0, 1) := dk_3 (dk_at dksX8_act_1 8 rfl rfl)
theorem dX8_act_33 : decode cX8_act 33 = .ok (.ireturn, 1) := dk_172 (dk_at dksX8_act_1 9 rfl rfl)
theorem dX8_act_34 : decode cX8_act 34 = .ok (.aload_n 0, 1) := dk_42 (dk_at dksX8_act_1 10 rfl rfl)
theorem dX8_act_35 : decode cX8_act 35 = .ok (.aload_n 0, 1) := dk_42 (dk_at dksX8_act_1 11 rfl rfl)
theorem dX8_act_36 : decode cX8_act 36 = .ok (.getfield 82, 3) := dk_180 0 82 (dk_at dksX8_act_1 12 rfl rfl)
theorem dX8_act_39 : decode cX8_act 39 = .ok (.iload_n 1, 1) := dk_27 (dk_at dksX8_act_1 15 rfl rfl)
theorem dX8_act_40 : decode cX8_act 40 = .ok (.iaload, 1) := dk_46 (dk_at dksX8_act_1 16 rfl rfl)
theorem dX8_act_41 : decode cX8_act 41 = .ok (.putfield 354, 3) := dk_181 1 98 (dk_at dksX8_act_1 17 rfl rfl)
theorem dX8_act_44 : decode cX8_act 44 = .ok (.aload_n 0, 1) := dk_42 (dk_at dksX8_act_1 20 rfl rfl)
theorem dX8_act_45 : decode cX8_act 45 = .ok (.aload_n 0, 1) := dk_42 (dk_at dksX8_act_1 21 rfl rfl)
theorem dX8_act_46 : decode cX8_act 46 = .ok (.getfield 29, 3) := dk_180 0 29 (dk_at dksX8_act_2 0 rfl rfl)
theorem dX8_act_49 : decode cX8_act 49 = .ok (.aload_n 0, 1) := dk_42 (dk_at dksX8_act_2 3 rfl rfl)
theorem dX8_act_50 : decode cX8_act 50 = .ok (.getfield 354, 3) := dk_180 1 98 (dk_at dksX8_act_2 4 rfl rfl)
theorem dX8_act_53 : decode cX8_act 53 = .ok (.iaload, 1) := dk_46 (dk_at dksX8_act_2 7 rfl rfl)
theorem dX8_act_54 : decode cX8_act 54 = .ok (.putfield 360, 3) := dk_181 1 104 (dk_at dksX8_act_2 8 rfl rfl)
theorem dX8_act_57 : decode cX8_act 57 = .ok (.aload_n 0, 1) := dk_42 (dk_at dksX8_act_2 11 rfl rfl)
theorem dX8_act_58 : decode cX8_act 58 = .ok (.aload_n 0, 1) := dk_42 (dk_at dksX8_act_2 12 rfl rfl)
theorem dX8_act_59 : decode cX8_act 59 = .ok (.getfield 32, 3) := dk_180 0 32 (dk_at dksX8_act_2 13 rfl rfl)
theorem dX8_act_62 : decode cX8_act 62 = .ok (.aload_n 0, 1) := dk_42 (dk_at dksX8_act_2 16 rfl rfl)
theorem dX8_act_63 : decode cX8_act 63 = .ok (.getfield 354, 3) := dk_180 1 98 (dk_at dksX8_act_2 17 rfl rfl)
theorem dX8_act_66 : decode cX8_act 66 = .ok (.iaload, 1) := dk_46 (dk_at dksX8_act_2 20 rfl rfl)
theorem dX8_act_67 : decode cX8_act 67 = .ok (.putfield 366, 3) := dk_181 1 110 (dk_at dksX8_act_2 21 rfl rfl)
theorem dX8_act_70 : decode cX8_act 70 = .ok (.aload_n 0, 1) := dk_42 (dk_at dksX8_act_3 0 rfl rfl)
theorem dX8_act_71 : decode cX8_act 71 = .ok (.iconst 0, 1) := dk_3 (dk_at dksX8_act_3 1 rfl rfl)
theorem dX8_act_72 : decode cX8_act 72 = .ok (.putfield 378, 3) := dk_181 1 122 (dk_at dksX8_act_3 2 rfl rfl)
theorem dX8_act_75 : decode cX8_act 75 = .ok (.iload_n 2, 1) := dk_28 (dk_at dksX8_act_3 5 rfl rfl)
theorem dX8_act_76 : decode cX8_act 76 = .ok (.ifCond .ne 11, 3) := dk_154 0 11 (dk_at dksX8_act_3 6 rfl rfl)
theorem dX8_act_79 : decode cX8_act 79 = .ok (.aload_n 0, 1) := dk_42 (dk_at dksX8_act_3 9 rfl rfl)
theorem dX8_act_80 : decode cX8_act 80 = .ok (.iload_n 3, 1) := dk_29 (dk_at dksX8_act_3 10 rfl rfl)
theorem dX8_act_81 : decode cX8_act 81 = .ok (.invokevirtual 369, 3) := dk_182 1 113 (dk_at dksX8_act_3 11 rfl rfl)
theorem dX8_act_84 : decode cX8_act 84 = .ok (.goto 34, 3) := dk_167 0 34 (dk_at dksX8_act_3 14 rfl rfl)
theorem dX8_act_87 : decode cX8_act 87 = .ok (.iload_n 2, 1) := dk_28 (dk_at dksX8_act_3 17 rfl rfl)
theorem dX8_act_88 : decode cX8_act 88 = .ok (.iconst 1, 1) := dk_4 (dk_at dksX8_act_3 18 rfl rfl)
theorem dX8_act_89 : decode cX8_act 89 = .ok (.if_icmp .ne 11, 3) := dk_160 0 11 (dk_at dksX8_act_3 19 rfl rfl)
theorem dX8_act_92 : decode cX8_act 92 = .ok (.aload_n 0, 1) := dk_42 (dk_at dksX8_act_3 22 rfl rfl)
theorem dX8_act_93 : decode cX8_act 93 = .ok (.iload_n 3, 1) := dk_29 (dk_at dksX8_act_3 23 rfl rfl)
theorem dX8_act_94 : decode cX8_act 94 = .ok (.invokevirtual 382, 3) := dk_182 1 126 (dk_at dksX8_act_4 0 rfl rfl)
theorem dX8_act_97 : decode cX8_act 97 = .ok (.goto 21, 3) := dk_167 0 21 (dk_at dksX8_act_4 3 rfl rfl)
theorem dX8_act_100 : decode cX8_act 100 = .ok (.iload_n 2, 1) := dk_28 (dk_at dksX8_act_4 6 rfl rfl)
theorem dX8_act_101 : decode cX8_act 101 = .ok (.iconst 2, 1) := dk_5 (dk_at dksX8_act_4 7 rfl rfl)
theorem dX8_act_102 : decode cX8_act 102 = .ok (.if_icmp .ne 11, 3) := dk_160 0 11 (dk_at dksX8_act_4 8 rfl rfl)
theorem dX8_act_105 : decode cX8_act 105 = .ok (.aload_n 0, 1) := dk_42 (dk_at dksX8_act_4 11 rfl rfl)
theorem dX8_act_106 : decode cX8_act 106 = .ok (.iload_n 3, 1) := dk_29 (dk_at dksX8_act_4 12 rfl rfl)
theorem dX8_act_107 : decode cX8_act 107 = .ok (.invokevirtual 385, 3) := dk_182 1 129 (dk_at dksX8_act_4 13 rfl rfl)
theorem dX8_act_110 : decode cX8_act 110 = .ok (.goto 8, 3) := dk_167 0 8 (dk_at dksX8_act_4 16 rfl rfl)
theorem dX8_act_113 : decode cX8_act 113 = .ok (.aload_n 0, 1) := dk_42 (dk_at dksX8_act_4 19 rfl rfl)
theorem dX8_act_114 : decode cX8_act 114 = .ok (.iload_n 3, 1) := dk_29 (dk_at dksX8_act_4 20 rfl rfl)
theorem dX8_act_115 : decode cX8_act 115 = .ok (.invokevirtual 394, 3) := dk_182 1 138 (dk_at dksX8_act_4 21 rfl rfl)
theorem dX8_act_118 : decode cX8_act 118 = .ok (.istore 4, 2) := dk_54 4 (dk_at dksX8_act_5 0 rfl rfl)
theorem dX8_act_120 : decode cX8_act 120 = .ok (.aload_n 0, 1) := dk_42 (dk_at dksX8_act_5 2 rfl rfl)
theorem dX8_act_121 : decode cX8_act 121 = .ok (.getfield 378, 3) := dk_180 1 122 (dk_at dksX8_act_5 3 rfl rfl)
theorem dX8_act_124 : decode cX8_act 124 = .ok (.ifCond .eq 8, 3) := dk_153 0 8 (dk_at dksX8_act_5 6 rfl rfl)
theorem dX8_act_127 : decode cX8_act 127 = .ok (.bipush (-15), 2) := dk_16 241 (dk_at dksX8_act_5 9 rfl rfl)
theorem dX8_act_129 : decode cX8_act 129 = .ok (.goto 5, 3) := dk_167 0 5 (dk_at dksX8_act_5 11 rfl rfl)
theorem dX8_act_132 : decode cX8_act 132 = .ok (.iload 4, 2) := dk_21 4 (dk_at dksX8_act_5 14 rfl rfl)
theorem dX8_act_134 : decode cX8_act 134 = .ok (.ireturn, 1) := dk_172 (dk_at dksX8_act_5 16 rfl rfl)
abbrev cX8_weighs : ByteArray := prog_24_method_93_code
def yX8_weighs : MethodName := ⟨RX8, "weighs", "(I)I"⟩
def dkwX8_weighs_3 : List UInt8 := [182, 1, 95, 42, 27, 182, 1, 107, 42, 180, 1, 110, 130, 172, 42, 27, 182, 1, 101, 172]
abbrev dktX8_weighs_3 : List UInt8 := dkwX8_weighs_3 ++ []
def dkwX8_weighs_2 : List UInt8 := [42, 16, 20, 182, 1, 95, 42, 27, 182, 1, 101, 7, 96, 172, 42, 27, 182, 1, 107, 172, 42, 16, 70]
abbrev dktX8_weighs_2 : List UInt8 := dkwX8_weighs_2 ++ dktX8_weighs_3
def dkwX8_weighs_1 : List UInt8 := [170, 0, 0, 0, 0, 0, 0, 77, 0, 0, 0, 1, 0, 0, 0, 6, 0, 0, 0, 40, 0, 0, 0, 77, 0, 0, 0, 54, 0, 0, 0, 77, 0, 0, 0, 54, 0, 0, 0, 60]
abbrev dktX8_weighs_1 : List UInt8 := dkwX8_weighs_1 ++ dktX8_weighs_2
def dkwX8_weighs_0 : List UInt8 := [42, 180, 1, 104]
abbrev dktX8_weighs_0 : List UInt8 := dkwX8_weighs_0 ++ dktX8_weighs_1
theorem dksX8_weighs_0 : cX8_weighs.data.toList.drop 0 = dktX8_weighs_0 := by decide +kernel
theorem dksX8_weighs_1 : cX8_weighs.data.toList.drop 4 = dktX8_weighs_1 := dk_seg dksX8_weighs_0 4 rfl rfl
theorem dksX8_weighs_2 : cX8_weighs.data.toList.drop 44 = dktX8_weighs_2 := dk_seg dksX8_weighs_1 40 rfl rfl
theorem dksX8_weighs_3 : cX8_weighs.data.toList.drop 67 = dktX8_weighs_3 := dk_seg dksX8_weighs_2 23 rfl rfl
theorem dX8_weighs_0 : decode cX8_weighs 0 = .ok (.aload_n 0, 1) := dk_42 (dk_at dksX8_weighs_0 0 rfl rfl)
theorem dX8_weighs_1 : decode cX8_weighs 1 = .ok (.getfield 360, 3) := dk_180 1 104 (dk_at dksX8_weighs_0 1 rfl rfl)
theorem dX8_weighs_4 : decode cX8_weighs 4 = .ok (.tableswitch 77 1 6 #[40, 77, 54, 77, 54, 60], 40) := by decide +kernel
theorem dX8_weighs_44 : decode cX8_weighs 44 = .ok (.aload_n 0, 1) := dk_42 (dk_at dksX8_weighs_2 0 rfl rfl)
theorem dX8_weighs_45 : decode cX8_weighs 45 = .ok (.bipush 20, 2) := dk_16 20 (dk_at dksX8_weighs_2 1 rfl rfl)
theorem dX8_weighs_47 : decode cX8_weighs 47 = .ok (.invokevirtual 351, 3) := dk_182 1 95 (dk_at dksX8_weighs_2 3 rfl rfl)
theorem dX8_weighs_50 : decode cX8_weighs 50 = .ok (.aload_n 0, 1) := dk_42 (dk_at dksX8_weighs_2 6 rfl rfl)
theorem dX8_weighs_51 : decode cX8_weighs 51 = .ok (.iload_n 1, 1) := dk_27 (dk_at dksX8_weighs_2 7 rfl rfl)
theorem dX8_weighs_52 : decode cX8_weighs 52 = .ok (.invokevirtual 357, 3) := dk_182 1 101 (dk_at dksX8_weighs_2 8 rfl rfl)
theorem dX8_weighs_55 : decode cX8_weighs 55 = .ok (.iconst 4, 1) := dk_7 (dk_at dksX8_weighs_2 11 rfl rfl)
theorem dX8_weighs_56 : decode cX8_weighs 56 = .ok (.iadd, 1) := dk_96 (dk_at dksX8_weighs_2 12 rfl rfl)
theorem dX8_weighs_57 : decode cX8_weighs 57 = .ok (.ireturn, 1) := dk_172 (dk_at dksX8_weighs_2 13 rfl rfl)
theorem dX8_weighs_58 : decode cX8_weighs 58 = .ok (.aload_n 0, 1) := dk_42 (dk_at dksX8_weighs_2 14 rfl rfl)
theorem dX8_weighs_59 : decode cX8_weighs 59 = .ok (.iload_n 1, 1) := dk_27 (dk_at dksX8_weighs_2 15 rfl rfl)
theorem dX8_weighs_60 : decode cX8_weighs 60 = .ok (.invokevirtual 363, 3) := dk_182 1 107 (dk_at dksX8_weighs_2 16 rfl rfl)
theorem dX8_weighs_63 : decode cX8_weighs 63 = .ok (.ireturn, 1) := dk_172 (dk_at dksX8_weighs_2 19 rfl rfl)
theorem dX8_weighs_64 : decode cX8_weighs 64 = .ok (.aload_n 0, 1) := dk_42 (dk_at dksX8_weighs_2 20 rfl rfl)
theorem dX8_weighs_65 : decode cX8_weighs 65 = .ok (.bipush 70, 2) := dk_16 70 (dk_at dksX8_weighs_2 21 rfl rfl)
theorem dX8_weighs_67 : decode cX8_weighs 67 = .ok (.invokevirtual 351, 3) := dk_182 1 95 (dk_at dksX8_weighs_3 0 rfl rfl)
theorem dX8_weighs_70 : decode cX8_weighs 70 = .ok (.aload_n 0, 1) := dk_42 (dk_at dksX8_weighs_3 3 rfl rfl)
theorem dX8_weighs_71 : decode cX8_weighs 71 = .ok (.iload_n 1, 1) := dk_27 (dk_at dksX8_weighs_3 4 rfl rfl)
theorem dX8_weighs_72 : decode cX8_weighs 72 = .ok (.invokevirtual 363, 3) := dk_182 1 107 (dk_at dksX8_weighs_3 5 rfl rfl)
theorem dX8_weighs_75 : decode cX8_weighs 75 = .ok (.aload_n 0, 1) := dk_42 (dk_at dksX8_weighs_3 8 rfl rfl)
theorem dX8_weighs_76 : decode cX8_weighs 76 = .ok (.getfield 366, 3) := dk_180 1 110 (dk_at dksX8_weighs_3 9 rfl rfl)
theorem dX8_weighs_79 : decode cX8_weighs 79 = .ok (.ixor, 1) := dk_130 (dk_at dksX8_weighs_3 12 rfl rfl)
theorem dX8_weighs_80 : decode cX8_weighs 80 = .ok (.ireturn, 1) := dk_172 (dk_at dksX8_weighs_3 13 rfl rfl)
theorem dX8_weighs_81 : decode cX8_weighs 81 = .ok (.aload_n 0, 1) := dk_42 (dk_at dksX8_weighs_3 14 rfl rfl)
theorem dX8_weighs_82 : decode cX8_weighs 82 = .ok (.iload_n 1, 1) := dk_27 (dk_at dksX8_weighs_3 15 rfl rfl)
theorem dX8_weighs_83 : decode cX8_weighs 83 = .ok (.invokevirtual 357, 3) := dk_182 1 101 (dk_at dksX8_weighs_3 16 rfl rfl)
theorem dX8_weighs_86 : decode cX8_weighs 86 = .ok (.ireturn, 1) := dk_172 (dk_at dksX8_weighs_3 19 rfl rfl)
abbrev cX8_ran : ByteArray := prog_24_method_90_code
def yX8_ran : MethodName := ⟨RX8, "ran", "(I)V"⟩
def dkwX8_ran_1 : List UInt8 := [4, 96, 181, 1, 92, 177]
abbrev dktX8_ran_1 : List UInt8 := dkwX8_ran_1 ++ []
def dkwX8_ran_0 : List UInt8 := [42, 180, 1, 92, 16, 30, 162, 0, 23, 42, 180, 0, 88, 42, 180, 1, 92, 27, 79, 42, 89, 180, 1, 92]
abbrev dktX8_ran_0 : List UInt8 := dkwX8_ran_0 ++ dktX8_ran_1
theorem dksX8_ran_0 : cX8_ran.data.toList.drop 0 = dktX8_ran_0 := by decide +kernel
theorem dksX8_ran_1 : cX8_ran.data.toList.drop 24 = dktX8_ran_1 := dk_seg dksX8_ran_0 24 rfl rfl
theorem dX8_ran_0 : decode cX8_ran 0 = .ok (.aload_n 0, 1) := dk_42 (dk_at dksX8_ran_0 0 rfl rfl)
theorem dX8_ran_1 : decode cX8_ran 1 = .ok (.getfield 348, 3) := dk_180 1 92 (dk_at dksX8_ran_0 1 rfl rfl)
theorem dX8_ran_4 : decode cX8_ran 4 = .ok (.bipush 30, 2) := dk_16 30 (dk_at dksX8_ran_0 4 rfl rfl)
theorem dX8_ran_6 : decode cX8_ran 6 = .ok (.if_icmp .ge 23, 3) := dk_162 0 23 (dk_at dksX8_ran_0 6 rfl rfl)
theorem dX8_ran_9 : decode cX8_ran 9 = .ok (.aload_n 0, 1) := dk_42 (dk_at dksX8_ran_0 9 rfl rfl)
theorem dX8_ran_10 : decode cX8_ran 10 = .ok (.getfield 88, 3) := dk_180 0 88 (dk_at dksX8_ran_0 10 rfl rfl)
theorem dX8_ran_13 : decode cX8_ran 13 = .ok (.aload_n 0, 1) := dk_42 (dk_at dksX8_ran_0 13 rfl rfl)
theorem dX8_ran_14 : decode cX8_ran 14 = .ok (.getfield 348, 3) := dk_180 1 92 (dk_at dksX8_ran_0 14 rfl rfl)
theorem dX8_ran_17 : decode cX8_ran 17 = .ok (.iload_n 1, 1) := dk_27 (dk_at dksX8_ran_0 17 rfl rfl)
theorem dX8_ran_18 : decode cX8_ran 18 = .ok (.iastore, 1) := dk_79 (dk_at dksX8_ran_0 18 rfl rfl)
theorem dX8_ran_19 : decode cX8_ran 19 = .ok (.aload_n 0, 1) := dk_42 (dk_at dksX8_ran_0 19 rfl rfl)
theorem dX8_ran_20 : decode cX8_ran 20 = .ok (.dup, 1) := dk_89 (dk_at dksX8_ran_0 20 rfl rfl)
theorem dX8_ran_21 : decode cX8_ran 21 = .ok (.getfield 348, 3) := dk_180 1 92 (dk_at dksX8_ran_0 21 rfl rfl)
theorem dX8_ran_24 : decode cX8_ran 24 = .ok (.iconst 1, 1) := dk_4 (dk_at dksX8_ran_1 0 rfl rfl)
theorem dX8_ran_25 : decode cX8_ran 25 = .ok (.iadd, 1) := dk_96 (dk_at dksX8_ran_1 1 rfl rfl)
theorem dX8_ran_26 : decode cX8_ran 26 = .ok (.putfield 348, 3) := dk_181 1 92 (dk_at dksX8_ran_1 2 rfl rfl)
theorem dX8_ran_29 : decode cX8_ran 29 = .ok (.return_, 1) := dk_177 (dk_at dksX8_ran_1 5 rfl rfl)
abbrev cX8_plainWeighs : ByteArray := prog_24_method_91_code
def yX8_plainWeighs : MethodName := ⟨RX8, "plainWeighs", "(I)I"⟩
def dkwX8_plainWeighs_0 : List UInt8 := [42, 16, 10, 182, 1, 95, 27, 16, 7, 104, 42, 180, 1, 98, 96, 172]
abbrev dktX8_plainWeighs_0 : List UInt8 := dkwX8_plainWeighs_0 ++ []
theorem dksX8_plainWeighs_0 : cX8_plainWeighs.data.toList.drop 0 = dktX8_plainWeighs_0 := by decide +kernel
theorem dX8_plainWeighs_0 : decode cX8_plainWeighs 0 = .ok (.aload_n 0, 1) := dk_42 (dk_at dksX8_plainWeighs_0 0 rfl rfl)
theorem dX8_plainWeighs_1 : decode cX8_plainWeighs 1 = .ok (.bipush 10, 2) := dk_16 10 (dk_at dksX8_plainWeighs_0 1 rfl rfl)
theorem dX8_plainWeighs_3 : decode cX8_plainWeighs 3 = .ok (.invokevirtual 351, 3) := dk_182 1 95 (dk_at dksX8_plainWeighs_0 3 rfl rfl)
theorem dX8_plainWeighs_6 : decode cX8_plainWeighs 6 = .ok (.iload_n 1, 1) := dk_27 (dk_at dksX8_plainWeighs_0 6 rfl rfl)
theorem dX8_plainWeighs_7 : decode cX8_plainWeighs 7 = .ok (.bipush 7, 2) := dk_16 7 (dk_at dksX8_plainWeighs_0 7 rfl rfl)
theorem dX8_plainWeighs_9 : decode cX8_plainWeighs 9 = .ok (.imul, 1) := dk_104 (dk_at dksX8_plainWeighs_0 9 rfl rfl)
theorem dX8_plainWeighs_10 : decode cX8_plainWeighs 10 = .ok (.aload_n 0, 1) := dk_42 (dk_at dksX8_plainWeighs_0 10 rfl rfl)
theorem dX8_plainWeighs_11 : decode cX8_plainWeighs 11 = .ok (.getfield 354, 3) := dk_180 1 98 (dk_at dksX8_plainWeighs_0 11 rfl rfl)
theorem dX8_plainWeighs_14 : decode cX8_plainWeighs 14 = .ok (.iadd, 1) := dk_96 (dk_at dksX8_plainWeighs_0 14 rfl rfl)
theorem dX8_plainWeighs_15 : decode cX8_plainWeighs 15 = .ok (.ireturn, 1) := dk_172 (dk_at dksX8_plainWeighs_0 15 rfl rfl)
abbrev cX8_turnedWeighs : ByteArray := prog_24_method_92_code
def yX8_turnedWeighs : MethodName := ⟨RX8, "turnedWeighs", "(I)I"⟩
def dkwX8_turnedWeighs_0 : List UInt8 := [42, 16, 40, 182, 1, 95, 42, 27, 4, 100, 182, 1, 101, 5, 104, 172]
abbrev dktX8_turnedWeighs_0 : List UInt8 := dkwX8_turnedWeighs_0 ++ []
theorem dksX8_turnedWeighs_0 : cX8_turnedWeighs.data.toList.drop 0 = dktX8_turnedWeighs_0 := by decide +kernel
theorem dX8_turnedWeighs_0 : decode cX8_turnedWeighs 0 = .ok (.aload_n 0, 1) := dk_42 (dk_at dksX8_turnedWeighs_0 0 rfl rfl)
theorem dX8_turnedWeighs_1 : decode cX8_turnedWeighs 1 = .ok (.bipush 40, 2) := dk_16 40 (dk_at dksX8_turnedWeighs_0 1 rfl rfl)
theorem dX8_turnedWeighs_3 : decode cX8_turnedWeighs 3 = .ok (.invokevirtual 351, 3) := dk_182 1 95 (dk_at dksX8_turnedWeighs_0 3 rfl rfl)
theorem dX8_turnedWeighs_6 : decode cX8_turnedWeighs 6 = .ok (.aload_n 0, 1) := dk_42 (dk_at dksX8_turnedWeighs_0 6 rfl rfl)
theorem dX8_turnedWeighs_7 : decode cX8_turnedWeighs 7 = .ok (.iload_n 1, 1) := dk_27 (dk_at dksX8_turnedWeighs_0 7 rfl rfl)
theorem dX8_turnedWeighs_8 : decode cX8_turnedWeighs 8 = .ok (.iconst 1, 1) := dk_4 (dk_at dksX8_turnedWeighs_0 8 rfl rfl)
theorem dX8_turnedWeighs_9 : decode cX8_turnedWeighs 9 = .ok (.isub, 1) := dk_100 (dk_at dksX8_turnedWeighs_0 9 rfl rfl)
theorem dX8_turnedWeighs_10 : decode cX8_turnedWeighs 10 = .ok (.invokevirtual 357, 3) := dk_182 1 101 (dk_at dksX8_turnedWeighs_0 10 rfl rfl)
theorem dX8_turnedWeighs_13 : decode cX8_turnedWeighs 13 = .ok (.iconst 2, 1) := dk_5 (dk_at dksX8_turnedWeighs_0 13 rfl rfl)
theorem dX8_turnedWeighs_14 : decode cX8_turnedWeighs 14 = .ok (.imul, 1) := dk_104 (dk_at dksX8_turnedWeighs_0 14 rfl rfl)
theorem dX8_turnedWeighs_15 : decode cX8_turnedWeighs 15 = .ok (.ireturn, 1) := dk_172 (dk_at dksX8_turnedWeighs_0 15 rfl rfl)
abbrev cX8_turns : ByteArray := prog_24_method_96_code
def yX8_turns : MethodName := ⟨RX8, "turns", "(I)I"⟩
def dkwX8_turns_2 : List UInt8 := [172]
abbrev dktX8_turns_2 : List UInt8 := dkwX8_turns_2 ++ []
def dkwX8_turns_1 : List UInt8 := [6, 130, 172, 42, 180, 1, 104, 5, 160, 0, 11, 42, 27, 182, 1, 119, 167, 0, 8, 42, 27, 182, 1, 116]
abbrev dktX8_turns_1 : List UInt8 := dkwX8_turns_1 ++ dktX8_turns_2
def dkwX8_turns_0 : List UInt8 := [42, 180, 1, 104, 7, 160, 0, 22, 42, 16, 50, 182, 1, 95, 42, 27, 42, 180, 1, 110, 96, 182, 1, 119]
abbrev dktX8_turns_0 : List UInt8 := dkwX8_turns_0 ++ dktX8_turns_1
theorem dksX8_turns_0 : cX8_turns.data.toList.drop 0 = dktX8_turns_0 := by decide +kernel
theorem dksX8_turns_1 : cX8_turns.data.toList.drop 24 = dktX8_turns_1 := dk_seg dksX8_turns_0 24 rfl rfl
theorem dksX8_turns_2 : cX8_turns.data.toList.drop 48 = dktX8_turns_2 := dk_seg dksX8_turns_1 24 rfl rfl
theorem dX8_turns_0 : decode cX8_turns 0 = .ok (.aload_n 0, 1) := dk_42 (dk_at dksX8_turns_0 0 rfl rfl)
theorem dX8_turns_1 : decode cX8_turns 1 = .ok (.getfield 360, 3) := dk_180 1 104 (dk_at dksX8_turns_0 1 rfl rfl)
theorem dX8_turns_4 : decode cX8_turns 4 = .ok (.iconst 4, 1) := dk_7 (dk_at dksX8_turns_0 4 rfl rfl)
theorem dX8_turns_5 : decode cX8_turns 5 = .ok (.if_icmp .ne 22, 3) := dk_160 0 22 (dk_at dksX8_turns_0 5 rfl rfl)
theorem dX8_turns_8 : decode cX8_turns 8 = .ok (.aload_n 0, 1) := dk_42 (dk_at dksX8_turns_0 8 rfl rfl)
theorem dX8_turns_9 : decode cX8_turns 9 = .ok (.bipush 50, 2) := dk_16 50 (dk_at dksX8_turns_0 9 rfl rfl)
theorem dX8_turns_11 : decode cX8_turns 11 = .ok (.invokevirtual 351, 3) := dk_182 1 95 (dk_at dksX8_turns_0 11 rfl rfl)
theorem dX8_turns_14 : decode cX8_turns 14 = .ok (.aload_n 0, 1) := dk_42 (dk_at dksX8_turns_0 14 rfl rfl)
theorem dX8_turns_15 : decode cX8_turns 15 = .ok (.iload_n 1, 1) := dk_27 (dk_at dksX8_turns_0 15 rfl rfl)
theorem dX8_turns_16 : decode cX8_turns 16 = .ok (.aload_n 0, 1) := dk_42 (dk_at dksX8_turns_0 16 rfl rfl)
theorem dX8_turns_17 : decode cX8_turns 17 = .ok (.getfield 366, 3) := dk_180 1 110 (dk_at dksX8_turns_0 17 rfl rfl)
theorem dX8_turns_20 : decode cX8_turns 20 = .ok (.iadd, 1) := dk_96 (dk_at dksX8_turns_0 20 rfl rfl)
theorem dX8_turns_21 : decode cX8_turns 21 = .ok (.invokevirtual 375, 3) := dk_182 1 119 (dk_at dksX8_turns_0 21 rfl rfl)
theorem dX8_turns_24 : decode cX8_turns 24 = .ok (.iconst 3, 1) := dk_6 (dk_at dksX8_turns_1 0 rfl rfl)
theorem dX8_turns_25 : decode cX8_turns 25 = .ok (.ixor, 1) := dk_130 (dk_at dksX8_turns_1 1 rfl rfl)
theorem dX8_turns_26 : decode cX8_turns 26 = .ok (.ireturn, 1) := dk_172 (dk_at dksX8_turns_1 2 rfl rfl)
theorem dX8_turns_27 : decode cX8_turns 27 = .ok (.aload_n 0, 1) := dk_42 (dk_at dksX8_turns_1 3 rfl rfl)
theorem dX8_turns_28 : decode cX8_turns 28 = .ok (.getfield 360, 3) := dk_180 1 104 (dk_at dksX8_turns_1 4 rfl rfl)
theorem dX8_turns_31 : decode cX8_turns 31 = .ok (.iconst 2, 1) := dk_5 (dk_at dksX8_turns_1 7 rfl rfl)
theorem dX8_turns_32 : decode cX8_turns 32 = .ok (.if_icmp .ne 11, 3) := dk_160 0 11 (dk_at dksX8_turns_1 8 rfl rfl)
theorem dX8_turns_35 : decode cX8_turns 35 = .ok (.aload_n 0, 1) := dk_42 (dk_at dksX8_turns_1 11 rfl rfl)
theorem dX8_turns_36 : decode cX8_turns 36 = .ok (.iload_n 1, 1) := dk_27 (dk_at dksX8_turns_1 12 rfl rfl)
theorem dX8_turns_37 : decode cX8_turns 37 = .ok (.invokevirtual 375, 3) := dk_182 1 119 (dk_at dksX8_turns_1 13 rfl rfl)
theorem dX8_turns_40 : decode cX8_turns 40 = .ok (.goto 8, 3) := dk_167 0 8 (dk_at dksX8_turns_1 16 rfl rfl)
theorem dX8_turns_43 : decode cX8_turns 43 = .ok (.aload_n 0, 1) := dk_42 (dk_at dksX8_turns_1 19 rfl rfl)
theorem dX8_turns_44 : decode cX8_turns 44 = .ok (.iload_n 1, 1) := dk_27 (dk_at dksX8_turns_1 20 rfl rfl)
theorem dX8_turns_45 : decode cX8_turns 45 = .ok (.invokevirtual 372, 3) := dk_182 1 116 (dk_at dksX8_turns_1 21 rfl rfl)
theorem dX8_turns_48 : decode cX8_turns 48 = .ok (.ireturn, 1) := dk_172 (dk_at dksX8_turns_2 0 rfl rfl)
abbrev cX8_alikeTurns : ByteArray := prog_24_method_95_code
def yX8_alikeTurns : MethodName := ⟨RX8, "alikeTurns", "(I)I"⟩
def dkwX8_alikeTurns_0 : List UInt8 := [42, 16, 30, 182, 1, 95, 3, 42, 27, 182, 1, 116, 100, 172]
abbrev dktX8_alikeTurns_0 : List UInt8 := dkwX8_alikeTurns_0 ++ []
theorem dksX8_alikeTurns_0 : cX8_alikeTurns.data.toList.drop 0 = dktX8_alikeTurns_0 := by decide +kernel
theorem dX8_alikeTurns_0 : decode cX8_alikeTurns 0 = .ok (.aload_n 0, 1) := dk_42 (dk_at dksX8_alikeTurns_0 0 rfl rfl)
theorem dX8_alikeTurns_1 : decode cX8_alikeTurns 1 = .ok (.bipush 30, 2) := dk_16 30 (dk_at dksX8_alikeTurns_0 1 rfl rfl)
theorem dX8_alikeTurns_3 : decode cX8_alikeTurns 3 = .ok (.invokevirtual 351, 3) := dk_182 1 95 (dk_at dksX8_alikeTurns_0 3 rfl rfl)
theorem dX8_alikeTurns_6 : decode cX8_alikeTurns 6 = .ok (.iconst 0, 1) := dk_3 (dk_at dksX8_alikeTurns_0 6 rfl rfl)
theorem dX8_alikeTurns_7 : decode cX8_alikeTurns 7 = .ok (.aload_n 0, 1) := dk_42 (dk_at dksX8_alikeTurns_0 7 rfl rfl)
theorem dX8_alikeTurns_8 : decode cX8_alikeTurns 8 = .ok (.iload_n 1, 1) := dk_27 (dk_at dksX8_alikeTurns_0 8 rfl rfl)
theorem dX8_alikeTurns_9 : decode cX8_alikeTurns 9 = .ok (.invokevirtual 372, 3) := dk_182 1 116 (dk_at dksX8_alikeTurns_0 9 rfl rfl)
theorem dX8_alikeTurns_12 : decode cX8_alikeTurns 12 = .ok (.isub, 1) := dk_100 (dk_at dksX8_alikeTurns_0 12 rfl rfl)
theorem dX8_alikeTurns_13 : decode cX8_alikeTurns 13 = .ok (.ireturn, 1) := dk_172 (dk_at dksX8_alikeTurns_0 13 rfl rfl)
abbrev cX8_plainTurns : ByteArray := prog_24_method_94_code
def yX8_plainTurns : MethodName := ⟨RX8, "plainTurns", "(I)I"⟩
def dkwX8_plainTurns_0 : List UInt8 := [42, 16, 11, 182, 1, 95, 42, 27, 182, 1, 113, 42, 180, 1, 110, 100, 172]
abbrev dktX8_plainTurns_0 : List UInt8 := dkwX8_plainTurns_0 ++ []
theorem dksX8_plainTurns_0 : cX8_plainTurns.data.toList.drop 0 = dktX8_plainTurns_0 := by decide +kernel
theorem dX8_plainTurns_0 : decode cX8_plainTurns 0 = .ok (.aload_n 0, 1) := dk_42 (dk_at dksX8_plainTurns_0 0 rfl rfl)
theorem dX8_plainTurns_1 : decode cX8_plainTurns 1 = .ok (.bipush 11, 2) := dk_16 11 (dk_at dksX8_plainTurns_0 1 rfl rfl)
theorem dX8_plainTurns_3 : decode cX8_plainTurns 3 = .ok (.invokevirtual 351, 3) := dk_182 1 95 (dk_at dksX8_plainTurns_0 3 rfl rfl)
theorem dX8_plainTurns_6 : decode cX8_plainTurns 6 = .ok (.aload_n 0, 1) := dk_42 (dk_at dksX8_plainTurns_0 6 rfl rfl)
theorem dX8_plainTurns_7 : decode cX8_plainTurns 7 = .ok (.iload_n 1, 1) := dk_27 (dk_at dksX8_plainTurns_0 7 rfl rfl)
theorem dX8_plainTurns_8 : decode cX8_plainTurns 8 = .ok (.invokevirtual 369, 3) := dk_182 1 113 (dk_at dksX8_plainTurns_0 8 rfl rfl)
theorem dX8_plainTurns_11 : decode cX8_plainTurns 11 = .ok (.aload_n 0, 1) := dk_42 (dk_at dksX8_plainTurns_0 11 rfl rfl)
theorem dX8_plainTurns_12 : decode cX8_plainTurns 12 = .ok (.getfield 366, 3) := dk_180 1 110 (dk_at dksX8_plainTurns_0 12 rfl rfl)
theorem dX8_plainTurns_15 : decode cX8_plainTurns 15 = .ok (.isub, 1) := dk_100 (dk_at dksX8_plainTurns_0 15 rfl rfl)
theorem dX8_plainTurns_16 : decode cX8_plainTurns 16 = .ok (.ireturn, 1) := dk_172 (dk_at dksX8_plainTurns_0 16 rfl rfl)
abbrev cX8_parts : ByteArray := prog_24_method_97_code
def yX8_parts : MethodName := ⟨RX8, "parts", "(I)I"⟩
def dkwX8_parts_5 : List UInt8 := [182, 1, 113, 100, 167, 0, 4, 29, 172]
abbrev dktX8_parts_5 : List UInt8 := dkwX8_parts_5 ++ []
def dkwX8_parts_4 : List UInt8 := [27, 42, 180, 1, 98, 42, 180, 1, 110, 100, 108, 62, 28, 153, 0, 16, 29, 42, 42, 180, 1, 98]
abbrev dktX8_parts_4 : List UInt8 := dkwX8_parts_4 ++ dktX8_parts_5
def dkwX8_parts_3 : List UInt8 := [153, 0, 5, 3, 172, 42, 180, 1, 98, 42, 180, 1, 110, 100, 2, 160, 0, 9, 3, 27, 100, 167, 0, 14]
abbrev dktX8_parts_3 : List UInt8 := dkwX8_parts_3 ++ dktX8_parts_4
def dkwX8_parts_2 : List UInt8 := [180, 1, 98, 42, 180, 1, 110, 160, 0, 7, 4, 167, 0, 4, 3, 181, 1, 122, 42, 180, 1, 122]
abbrev dktX8_parts_2 : List UInt8 := dkwX8_parts_2 ++ dktX8_parts_3
def dkwX8_parts_1 : List UInt8 := [153, 0, 9, 42, 16, 41, 182, 1, 95, 42, 16, 12, 182, 1, 95, 42, 42, 180, 1, 122, 154, 0, 14, 42]
abbrev dktX8_parts_1 : List UInt8 := dkwX8_parts_1 ++ dktX8_parts_2
def dkwX8_parts_0 : List UInt8 := [42, 180, 1, 104, 6, 159, 0, 11, 42, 180, 1, 104, 8, 161, 0, 7, 4, 167, 0, 4, 3, 61, 28]
abbrev dktX8_parts_0 : List UInt8 := dkwX8_parts_0 ++ dktX8_parts_1
theorem dksX8_parts_0 : cX8_parts.data.toList.drop 0 = dktX8_parts_0 := by decide +kernel
theorem dksX8_parts_1 : cX8_parts.data.toList.drop 23 = dktX8_parts_1 := dk_seg dksX8_parts_0 23 rfl rfl
theorem dksX8_parts_2 : cX8_parts.data.toList.drop 47 = dktX8_parts_2 := dk_seg dksX8_parts_1 24 rfl rfl
theorem dksX8_parts_3 : cX8_parts.data.toList.drop 69 = dktX8_parts_3 := dk_seg dksX8_parts_2 22 rfl rfl
theorem dksX8_parts_4 : cX8_parts.data.toList.drop 93 = dktX8_parts_4 := dk_seg dksX8_parts_3 24 rfl rfl
theorem dksX8_parts_5 : cX8_parts.data.toList.drop 115 = dktX8_parts_5 := dk_seg dksX8_parts_4 22 rfl rfl
theorem dX8_parts_0 : decode cX8_parts 0 = .ok (.aload_n 0, 1) := dk_42 (dk_at dksX8_parts_0 0 rfl rfl)
theorem dX8_parts_1 : decode cX8_parts 1 = .ok (.getfield 360, 3) := dk_180 1 104 (dk_at dksX8_parts_0 1 rfl rfl)
theorem dX8_parts_4 : decode cX8_parts 4 = .ok (.iconst 3, 1) := dk_6 (dk_at dksX8_parts_0 4 rfl rfl)
theorem dX8_parts_5 : decode cX8_parts 5 = .ok (.if_icmp .eq 11, 3) := dk_159 0 11 (dk_at dksX8_parts_0 5 rfl rfl)
theorem dX8_parts_8 : decode cX8_parts 8 = .ok (.aload_n 0, 1) := dk_42 (dk_at dksX8_parts_0 8 rfl rfl)
theorem dX8_parts_9 : decode cX8_parts 9 = .ok (.getfield 360, 3) := dk_180 1 104 (dk_at dksX8_parts_0 9 rfl rfl)
theorem dX8_parts_12 : decode cX8_parts 12 = .ok (.iconst 5, 1) := dk_8 (dk_at dksX8_parts_0 12 rfl rfl)
theorem dX8_parts_13 : decode cX8_parts 13 = .ok (.if_icmp .lt 7, 3) := dk_161 0 7 (dk_at dksX8_parts_0 13 rfl rfl)
theorem dX8_parts_16 : decode cX8_parts 16 = .ok (.iconst 1, 1) := dk_4 (dk_at dksX8_parts_0 16 rfl rfl)
theorem dX8_parts_17 : decode cX8_parts 17 = .ok (.goto 4, 3) := dk_167 0 4 (dk_at dksX8_parts_0 17 rfl rfl)
theorem dX8_parts_20 : decode cX8_parts 20 = .ok (.iconst 0, 1) := dk_3 (dk_at dksX8_parts_0 20 rfl rfl)
theorem dX8_parts_21 : decode cX8_parts 21 = .ok (.istore_n 2, 1) := dk_61 (dk_at dksX8_parts_0 21 rfl rfl)
theorem dX8_parts_22 : decode cX8_parts 22 = .ok (.iload_n 2, 1) := dk_28 (dk_at dksX8_parts_0 22 rfl rfl)
theorem dX8_parts_23 : decode cX8_parts 23 = .ok (.ifCond .eq 9, 3) := dk_153 0 9 (dk_at dksX8_parts_1 0 rfl rfl)
theorem dX8_parts_26 : decode cX8_parts 26 = .ok (.aload_n 0, 1) := dk_42 (dk_at dksX8_parts_1 3 rfl rfl)
theorem dX8_parts_27 : decode cX8_parts 27 = .ok (.bipush 41, 2) := dk_16 41 (dk_at dksX8_parts_1 4 rfl rfl)
theorem dX8_parts_29 : decode cX8_parts 29 = .ok (.invokevirtual 351, 3) := dk_182 1 95 (dk_at dksX8_parts_1 6 rfl rfl)
theorem dX8_parts_32 : decode cX8_parts 32 = .ok (.aload_n 0, 1) := dk_42 (dk_at dksX8_parts_1 9 rfl rfl)
theorem dX8_parts_33 : decode cX8_parts 33 = .ok (.bipush 12, 2) := dk_16 12 (dk_at dksX8_parts_1 10 rfl rfl)
theorem dX8_parts_35 : decode cX8_parts 35 = .ok (.invokevirtual 351, 3) := dk_182 1 95 (dk_at dksX8_parts_1 12 rfl rfl)
theorem dX8_parts_38 : decode cX8_parts 38 = .ok (.aload_n 0, 1) := dk_42 (dk_at dksX8_parts_1 15 rfl rfl)
theorem dX8_parts_39 : decode cX8_parts 39 = .ok (.aload_n 0, 1) := dk_42 (dk_at dksX8_parts_1 16 rfl rfl)
theorem dX8_parts_40 : decode cX8_parts 40 = .ok (.getfield 378, 3) := dk_180 1 122 (dk_at dksX8_parts_1 17 rfl rfl)
theorem dX8_parts_43 : decode cX8_parts 43 = .ok (.ifCond .ne 14, 3) := dk_154 0 14 (dk_at dksX8_parts_1 20 rfl rfl)
theorem dX8_parts_46 : decode cX8_parts 46 = .ok (.aload_n 0, 1) := dk_42 (dk_at dksX8_parts_1 23 rfl rfl)
theorem dX8_parts_47 : decode cX8_parts 47 = .ok (.getfield 354, 3) := dk_180 1 98 (dk_at dksX8_parts_2 0 rfl rfl)
theorem dX8_parts_50 : decode cX8_parts 50 = .ok (.aload_n 0, 1) := dk_42 (dk_at dksX8_parts_2 3 rfl rfl)
theorem dX8_parts_51 : decode cX8_parts 51 = .ok (.getfield 366, 3) := dk_180 1 110 (dk_at dksX8_parts_2 4 rfl rfl)
theorem dX8_parts_54 : decode cX8_parts 54 = .ok (.if_icmp .ne 7, 3) := dk_160 0 7 (dk_at dksX8_parts_2 7 rfl rfl)
theorem dX8_parts_57 : decode cX8_parts 57 = .ok (.iconst 1, 1) := dk_4 (dk_at dksX8_parts_2 10 rfl rfl)
theorem dX8_parts_58 : decode cX8_parts 58 = .ok (.goto 4, 3) := dk_167 0 4 (dk_at dksX8_parts_2 11 rfl rfl)
theorem dX8_parts_61 : decode cX8_parts 61 = .ok (.iconst 0, 1) := dk_3 (dk_at dksX8_parts_2 14 rfl rfl)
theorem dX8_parts_62 : decode cX8_parts 62 = .ok (.putfield 378, 3) := dk_181 1 122 (dk_at dksX8_parts_2 15 rfl rfl)
theorem dX8_parts_65 : decode cX8_parts 65 = .ok (.aload_n 0, 1) := dk_42 (dk_at dksX8_parts_2 18 rfl rfl)
theorem dX8_parts_66 : decode cX8_parts 66 = .ok (.getfield 378, 3) := dk_180 1 122 (dk_at dksX8_parts_2 19 rfl rfl)
theorem dX8_parts_69 : decode cX8_parts 69 = .ok (.ifCond .eq 5, 3) := dk_153 0 5 (dk_at dksX8_parts_3 0 rfl rfl)
theorem dX8_parts_72 : decode cX8_parts 72 = .ok (.iconst 0, 1) := dk_3 (dk_at dksX8_parts_3 3 rfl rfl)
theorem dX8_parts_73 : decode cX8_parts 73 = .ok (.ireturn, 1) := dk_172 (dk_at dksX8_parts_3 4 rfl rfl)
theorem dX8_parts_74 : decode cX8_parts 74 = .ok (.aload_n 0, 1) := dk_42 (dk_at dksX8_parts_3 5 rfl rfl)
theorem dX8_parts_75 : decode cX8_parts 75 = .ok (.getfield 354, 3) := dk_180 1 98 (dk_at dksX8_parts_3 6 rfl rfl)
theorem dX8_parts_78 : decode cX8_parts 78 = .ok (.aload_n 0, 1) := dk_42 (dk_at dksX8_parts_3 9 rfl rfl)
theorem dX8_parts_79 : decode cX8_parts 79 = .ok (.getfield 366, 3) := dk_180 1 110 (dk_at dksX8_parts_3 10 rfl rfl)
theorem dX8_parts_82 : decode cX8_parts 82 = .ok (.isub, 1) := dk_100 (dk_at dksX8_parts_3 13 rfl rfl)
theorem dX8_parts_83 : decode cX8_parts 83 = .ok (.iconst (-1), 1) := dk_2 (dk_at dksX8_parts_3 14 rfl rfl)
theorem dX8_parts_84 : decode cX8_parts 84 = .ok (.if_icmp .ne 9, 3) := dk_160 0 9 (dk_at dksX8_parts_3 15 rfl rfl)
theorem dX8_parts_87 : decode cX8_parts 87 = .ok (.iconst 0, 1) := dk_3 (dk_at dksX8_parts_3 18 rfl rfl)
theorem dX8_parts_88 : decode cX8_parts 88 = .ok (.iload_n 1, 1) := dk_27 (dk_at dksX8_parts_3 19 rfl rfl)
theorem dX8_parts_89 : decode cX8_parts 89 = .ok (.isub, 1) := dk_100 (dk_at dksX8_parts_3 20 rfl rfl)
theorem dX8_parts_90 : decode cX8_parts 90 = .ok (.goto 14, 3) := dk_167 0 14 (dk_at dksX8_parts_3 21 rfl rfl)
theorem dX8_parts_93 : decode cX8_parts 93 = .ok (.iload_n 1, 1) := dk_27 (dk_at dksX8_parts_4 0 rfl rfl)
theorem dX8_parts_94 : decode cX8_parts 94 = .ok (.aload_n 0, 1) := dk_42 (dk_at dksX8_parts_4 1 rfl rfl)
theorem dX8_parts_95 : decode cX8_parts 95 = .ok (.getfield 354, 3) := dk_180 1 98 (dk_at dksX8_parts_4 2 rfl rfl)
theorem dX8_parts_98 : decode cX8_parts 98 = .ok (.aload_n 0, 1) := dk_42 (dk_at dksX8_parts_4 5 rfl rfl)
theorem dX8_parts_99 : decode cX8_parts 99 = .ok (.getfield 366, 3) := dk_180 1 110 (dk_at dksX8_parts_4 6 rfl rfl)
theorem dX8_parts_102 : decode cX8_parts 102 = .ok (.isub, 1) := dk_100 (dk_at dksX8_parts_4 9 rfl rfl)
theorem dX8_parts_103 : decode cX8_parts 103 = .ok (.idiv, 1) := dk_108 (dk_at dksX8_parts_4 10 rfl rfl)
theorem dX8_parts_104 : decode cX8_parts 104 = .ok (.istore_n 3, 1) := dk_62 (dk_at dksX8_parts_4 11 rfl rfl)
theorem dX8_parts_105 : decode cX8_parts 105 = .ok (.iload_n 2, 1) := dk_28 (dk_at dksX8_parts_4 12 rfl rfl)
theorem dX8_parts_106 : decode cX8_parts 106 = .ok (.ifCond .eq 16, 3) := dk_153 0 16 (dk_at dksX8_parts_4 13 rfl rfl)
theorem dX8_parts_109 : decode cX8_parts 109 = .ok (.iload_n 3, 1) := dk_29 (dk_at dksX8_parts_4 16 rfl rfl)
theorem dX8_parts_110 : decode cX8_parts 110 = .ok (.aload_n 0, 1) := dk_42 (dk_at dksX8_parts_4 17 rfl rfl)
theorem dX8_parts_111 : decode cX8_parts 111 = .ok (.aload_n 0, 1) := dk_42 (dk_at dksX8_parts_4 18 rfl rfl)
theorem dX8_parts_112 : decode cX8_parts 112 = .ok (.getfield 354, 3) := dk_180 1 98 (dk_at dksX8_parts_4 19 rfl rfl)
theorem dX8_parts_115 : decode cX8_parts 115 = .ok (.invokevirtual 369, 3) := dk_182 1 113 (dk_at dksX8_parts_5 0 rfl rfl)
theorem dX8_parts_118 : decode cX8_parts 118 = .ok (.isub, 1) := dk_100 (dk_at dksX8_parts_5 3 rfl rfl)
theorem dX8_parts_119 : decode cX8_parts 119 = .ok (.goto 4, 3) := dk_167 0 4 (dk_at dksX8_parts_5 4 rfl rfl)
theorem dX8_parts_122 : decode cX8_parts 122 = .ok (.iload_n 3, 1) := dk_29 (dk_at dksX8_parts_5 7 rfl rfl)
theorem dX8_parts_123 : decode cX8_parts 123 = .ok (.ireturn, 1) := dk_172 (dk_at dksX8_parts_5 8 rfl rfl)
abbrev cX8_closes : ByteArray := prog_24_method_100_code
def yX8_closes : MethodName := ⟨RX8, "closes", "(I)I"⟩
def dkwX8_closes_1 : List UInt8 := [172, 42, 180, 1, 104, 8, 160, 0, 11, 42, 27, 182, 1, 135, 167, 0, 8, 42, 27, 182, 1, 132, 172]
abbrev dktX8_closes_1 : List UInt8 := dkwX8_closes_1 ++ []
def dkwX8_closes_0 : List UInt8 := [42, 180, 1, 104, 16, 6, 160, 0, 19, 42, 16, 71, 182, 1, 95, 42, 27, 5, 104, 182, 1, 135, 8, 100]
abbrev dktX8_closes_0 : List UInt8 := dkwX8_closes_0 ++ dktX8_closes_1
theorem dksX8_closes_0 : cX8_closes.data.toList.drop 0 = dktX8_closes_0 := by decide +kernel
theorem dksX8_closes_1 : cX8_closes.data.toList.drop 24 = dktX8_closes_1 := dk_seg dksX8_closes_0 24 rfl rfl
theorem dX8_closes_0 : decode cX8_closes 0 = .ok (.aload_n 0, 1) := dk_42 (dk_at dksX8_closes_0 0 rfl rfl)
theorem dX8_closes_1 : decode cX8_closes 1 = .ok (.getfield 360, 3) := dk_180 1 104 (dk_at dksX8_closes_0 1 rfl rfl)
theorem dX8_closes_4 : decode cX8_closes 4 = .ok (.bipush 6, 2) := dk_16 6 (dk_at dksX8_closes_0 4 rfl rfl)
theorem dX8_closes_6 : decode cX8_closes 6 = .ok (.if_icmp .ne 19, 3) := dk_160 0 19 (dk_at dksX8_closes_0 6 rfl rfl)
theorem dX8_closes_9 : decode cX8_closes 9 = .ok (.aload_n 0, 1) := dk_42 (dk_at dksX8_closes_0 9 rfl rfl)
theorem dX8_closes_10 : decode cX8_closes 10 = .ok (.bipush 71, 2) := dk_16 71 (dk_at dksX8_closes_0 10 rfl rfl)
theorem dX8_closes_12 : decode cX8_closes 12 = .ok (.invokevirtual 351, 3) := dk_182 1 95 (dk_at dksX8_closes_0 12 rfl rfl)
theorem dX8_closes_15 : decode cX8_closes 15 = .ok (.aload_n 0, 1) := dk_42 (dk_at dksX8_closes_0 15 rfl rfl)
theorem dX8_closes_16 : decode cX8_closes 16 = .ok (.iload_n 1, 1) := dk_27 (dk_at dksX8_closes_0 16 rfl rfl)
theorem dX8_closes_17 : decode cX8_closes 17 = .ok (.iconst 2, 1) := dk_5 (dk_at dksX8_closes_0 17 rfl rfl)
theorem dX8_closes_18 : decode cX8_closes 18 = .ok (.imul, 1) := dk_104 (dk_at dksX8_closes_0 18 rfl rfl)
theorem dX8_closes_19 : decode cX8_closes 19 = .ok (.invokevirtual 391, 3) := dk_182 1 135 (dk_at dksX8_closes_0 19 rfl rfl)
theorem dX8_closes_22 : decode cX8_closes 22 = .ok (.iconst 5, 1) := dk_8 (dk_at dksX8_closes_0 22 rfl rfl)
theorem dX8_closes_23 : decode cX8_closes 23 = .ok (.isub, 1) := dk_100 (dk_at dksX8_closes_0 23 rfl rfl)
theorem dX8_closes_24 : decode cX8_closes 24 = .ok (.ireturn, 1) := dk_172 (dk_at dksX8_closes_1 0 rfl rfl)
theorem dX8_closes_25 : decode cX8_closes 25 = .ok (.aload_n 0, 1) := dk_42 (dk_at dksX8_closes_1 1 rfl rfl)
theorem dX8_closes_26 : decode cX8_closes 26 = .ok (.getfield 360, 3) := dk_180 1 104 (dk_at dksX8_closes_1 2 rfl rfl)
theorem dX8_closes_29 : decode cX8_closes 29 = .ok (.iconst 5, 1) := dk_8 (dk_at dksX8_closes_1 5 rfl rfl)
theorem dX8_closes_30 : decode cX8_closes 30 = .ok (.if_icmp .ne 11, 3) := dk_160 0 11 (dk_at dksX8_closes_1 6 rfl rfl)
theorem dX8_closes_33 : decode cX8_closes 33 = .ok (.aload_n 0, 1) := dk_42 (dk_at dksX8_closes_1 9 rfl rfl)
theorem dX8_closes_34 : decode cX8_closes 34 = .ok (.iload_n 1, 1) := dk_27 (dk_at dksX8_closes_1 10 rfl rfl)
theorem dX8_closes_35 : decode cX8_closes 35 = .ok (.invokevirtual 391, 3) := dk_182 1 135 (dk_at dksX8_closes_1 11 rfl rfl)
theorem dX8_closes_38 : decode cX8_closes 38 = .ok (.goto 8, 3) := dk_167 0 8 (dk_at dksX8_closes_1 14 rfl rfl)
theorem dX8_closes_41 : decode cX8_closes 41 = .ok (.aload_n 0, 1) := dk_42 (dk_at dksX8_closes_1 17 rfl rfl)
theorem dX8_closes_42 : decode cX8_closes 42 = .ok (.iload_n 1, 1) := dk_27 (dk_at dksX8_closes_1 18 rfl rfl)
theorem dX8_closes_43 : decode cX8_closes 43 = .ok (.invokevirtual 388, 3) := dk_182 1 132 (dk_at dksX8_closes_1 19 rfl rfl)
theorem dX8_closes_46 : decode cX8_closes 46 = .ok (.ireturn, 1) := dk_172 (dk_at dksX8_closes_1 22 rfl rfl)
abbrev cX8_evenCloses : ByteArray := prog_24_method_99_code
def yX8_evenCloses : MethodName := ⟨RX8, "evenCloses", "(I)I"⟩
def dkwX8_evenCloses_1 : List UInt8 := [42, 4, 182, 1, 126, 96, 172]
abbrev dktX8_evenCloses_1 : List UInt8 := dkwX8_evenCloses_1 ++ []
def dkwX8_evenCloses_0 : List UInt8 := [42, 16, 60, 182, 1, 95, 42, 27, 182, 1, 132, 61, 42, 180, 1, 122, 153, 0, 7, 3, 167, 0, 10, 28]
abbrev dktX8_evenCloses_0 : List UInt8 := dkwX8_evenCloses_0 ++ dktX8_evenCloses_1
theorem dksX8_evenCloses_0 : cX8_evenCloses.data.toList.drop 0 = dktX8_evenCloses_0 := by decide +kernel
theorem dksX8_evenCloses_1 : cX8_evenCloses.data.toList.drop 24 = dktX8_evenCloses_1 := dk_seg dksX8_evenCloses_0 24 rfl rfl
theorem dX8_evenCloses_0 : decode cX8_evenCloses 0 = .ok (.aload_n 0, 1) := dk_42 (dk_at dksX8_evenCloses_0 0 rfl rfl)
theorem dX8_evenCloses_1 : decode cX8_evenCloses 1 = .ok (.bipush 60, 2) := dk_16 60 (dk_at dksX8_evenCloses_0 1 rfl rfl)
theorem dX8_evenCloses_3 : decode cX8_evenCloses 3 = .ok (.invokevirtual 351, 3) := dk_182 1 95 (dk_at dksX8_evenCloses_0 3 rfl rfl)
theorem dX8_evenCloses_6 : decode cX8_evenCloses 6 = .ok (.aload_n 0, 1) := dk_42 (dk_at dksX8_evenCloses_0 6 rfl rfl)
theorem dX8_evenCloses_7 : decode cX8_evenCloses 7 = .ok (.iload_n 1, 1) := dk_27 (dk_at dksX8_evenCloses_0 7 rfl rfl)
theorem dX8_evenCloses_8 : decode cX8_evenCloses 8 = .ok (.invokevirtual 388, 3) := dk_182 1 132 (dk_at dksX8_evenCloses_0 8 rfl rfl)
theorem dX8_evenCloses_11 : decode cX8_evenCloses 11 = .ok (.istore_n 2, 1) := dk_61 (dk_at dksX8_evenCloses_0 11 rfl rfl)
theorem dX8_evenCloses_12 : decode cX8_evenCloses 12 = .ok (.aload_n 0, 1) := dk_42 (dk_at dksX8_evenCloses_0 12 rfl rfl)
theorem dX8_evenCloses_13 : decode cX8_evenCloses 13 = .ok (.getfield 378, 3) := dk_180 1 122 (dk_at dksX8_evenCloses_0 13 rfl rfl)
theorem dX8_evenCloses_16 : decode cX8_evenCloses 16 = .ok (.ifCond .eq 7, 3) := dk_153 0 7 (dk_at dksX8_evenCloses_0 16 rfl rfl)
theorem dX8_evenCloses_19 : decode cX8_evenCloses 19 = .ok (.iconst 0, 1) := dk_3 (dk_at dksX8_evenCloses_0 19 rfl rfl)
theorem dX8_evenCloses_20 : decode cX8_evenCloses 20 = .ok (.goto 10, 3) := dk_167 0 10 (dk_at dksX8_evenCloses_0 20 rfl rfl)
theorem dX8_evenCloses_23 : decode cX8_evenCloses 23 = .ok (.iload_n 2, 1) := dk_28 (dk_at dksX8_evenCloses_0 23 rfl rfl)
theorem dX8_evenCloses_24 : decode cX8_evenCloses 24 = .ok (.aload_n 0, 1) := dk_42 (dk_at dksX8_evenCloses_1 0 rfl rfl)
theorem dX8_evenCloses_25 : decode cX8_evenCloses 25 = .ok (.iconst 1, 1) := dk_4 (dk_at dksX8_evenCloses_1 1 rfl rfl)
theorem dX8_evenCloses_26 : decode cX8_evenCloses 26 = .ok (.invokevirtual 382, 3) := dk_182 1 126 (dk_at dksX8_evenCloses_1 2 rfl rfl)
theorem dX8_evenCloses_29 : decode cX8_evenCloses 29 = .ok (.iadd, 1) := dk_96 (dk_at dksX8_evenCloses_1 5 rfl rfl)
theorem dX8_evenCloses_30 : decode cX8_evenCloses 30 = .ok (.ireturn, 1) := dk_172 (dk_at dksX8_evenCloses_1 6 rfl rfl)
abbrev cX8_plainCloses : ByteArray := prog_24_method_98_code
def yX8_plainCloses : MethodName := ⟨RX8, "plainCloses", "(I)I"⟩
def dkwX8_plainCloses_0 : List UInt8 := [42, 16, 13, 182, 1, 95, 42, 27, 182, 1, 126, 61, 28, 42, 27, 5, 96, 182, 1, 129, 130, 172]
abbrev dktX8_plainCloses_0 : List UInt8 := dkwX8_plainCloses_0 ++ []
theorem dksX8_plainCloses_0 : cX8_plainCloses.data.toList.drop 0 = dktX8_plainCloses_0 := by decide +kernel
theorem dX8_plainCloses_0 : decode cX8_plainCloses 0 = .ok (.aload_n 0, 1) := dk_42 (dk_at dksX8_plainCloses_0 0 rfl rfl)
theorem dX8_plainCloses_1 : decode cX8_plainCloses 1 = .ok (.bipush 13, 2) := dk_16 13 (dk_at dksX8_plainCloses_0 1 rfl rfl)
theorem dX8_plainCloses_3 : decode cX8_plainCloses 3 = .ok (.invokevirtual 351, 3) := dk_182 1 95 (dk_at dksX8_plainCloses_0 3 rfl rfl)
theorem dX8_plainCloses_6 : decode cX8_plainCloses 6 = .ok (.aload_n 0, 1) := dk_42 (dk_at dksX8_plainCloses_0 6 rfl rfl)
theorem dX8_plainCloses_7 : decode cX8_plainCloses 7 = .ok (.iload_n 1, 1) := dk_27 (dk_at dksX8_plainCloses_0 7 rfl rfl)
theorem dX8_plainCloses_8 : decode cX8_plainCloses 8 = .ok (.invokevirtual 382, 3) := dk_182 1 126 (dk_at dksX8_plainCloses_0 8 rfl rfl)
theorem dX8_plainCloses_11 : decode cX8_plainCloses 11 = .ok (.istore_n 2, 1) := dk_61 (dk_at dksX8_plainCloses_0 11 rfl rfl)
theorem dX8_plainCloses_12 : decode cX8_plainCloses 12 = .ok (.iload_n 2, 1) := dk_28 (dk_at dksX8_plainCloses_0 12 rfl rfl)
theorem dX8_plainCloses_13 : decode cX8_plainCloses 13 = .ok (.aload_n 0, 1) := dk_42 (dk_at dksX8_plainCloses_0 13 rfl rfl)
theorem dX8_plainCloses_14 : decode cX8_plainCloses 14 = .ok (.iload_n 1, 1) := dk_27 (dk_at dksX8_plainCloses_0 14 rfl rfl)
theorem dX8_plainCloses_15 : decode cX8_plainCloses 15 = .ok (.iconst 2, 1) := dk_5 (dk_at dksX8_plainCloses_0 15 rfl rfl)
theorem dX8_plainCloses_16 : decode cX8_plainCloses 16 = .ok (.iadd, 1) := dk_96 (dk_at dksX8_plainCloses_0 16 rfl rfl)
theorem dX8_plainCloses_17 : decode cX8_plainCloses 17 = .ok (.invokevirtual 385, 3) := dk_182 1 129 (dk_at dksX8_plainCloses_0 17 rfl rfl)
theorem dX8_plainCloses_20 : decode cX8_plainCloses 20 = .ok (.ixor, 1) := dk_130 (dk_at dksX8_plainCloses_0 20 rfl rfl)
theorem dX8_plainCloses_21 : decode cX8_plainCloses 21 = .ok (.ireturn, 1) := dk_172 (dk_at dksX8_plainCloses_0 21 rfl rfl)
abbrev cX8_trace : ByteArray := prog_24_method_102_code
def yX8_trace : MethodName := ⟨RX8, "trace", "(I)I"⟩
def dkwX8_trace_1 : List UInt8 := [167, 0, 5, 16, 253, 172]
abbrev dktX8_trace_1 : List UInt8 := dkwX8_trace_1 ++ []
def dkwX8_trace_0 : List UInt8 := [27, 133, 9, 42, 180, 1, 92, 4, 100, 133, 184, 0, 99, 153, 0, 12, 42, 180, 0, 88, 27, 46]
abbrev dktX8_trace_0 : List UInt8 := dkwX8_trace_0 ++ dktX8_trace_1
theorem dksX8_trace_0 : cX8_trace.data.toList.drop 0 = dktX8_trace_0 := by decide +kernel
theorem dksX8_trace_1 : cX8_trace.data.toList.drop 22 = dktX8_trace_1 := dk_seg dksX8_trace_0 22 rfl rfl
theorem dX8_trace_0 : decode cX8_trace 0 = .ok (.iload_n 1, 1) := dk_27 (dk_at dksX8_trace_0 0 rfl rfl)
theorem dX8_trace_1 : decode cX8_trace 1 = .ok (.i2l, 1) := dk_133 (dk_at dksX8_trace_0 1 rfl rfl)
theorem dX8_trace_2 : decode cX8_trace 2 = .ok (.lconst 0, 1) := dk_9 (dk_at dksX8_trace_0 2 rfl rfl)
theorem dX8_trace_3 : decode cX8_trace 3 = .ok (.aload_n 0, 1) := dk_42 (dk_at dksX8_trace_0 3 rfl rfl)
theorem dX8_trace_4 : decode cX8_trace 4 = .ok (.getfield 348, 3) := dk_180 1 92 (dk_at dksX8_trace_0 4 rfl rfl)
theorem dX8_trace_7 : decode cX8_trace 7 = .ok (.iconst 1, 1) := dk_4 (dk_at dksX8_trace_0 7 rfl rfl)
theorem dX8_trace_8 : decode cX8_trace 8 = .ok (.isub, 1) := dk_100 (dk_at dksX8_trace_0 8 rfl rfl)
theorem dX8_trace_9 : decode cX8_trace 9 = .ok (.i2l, 1) := dk_133 (dk_at dksX8_trace_0 9 rfl rfl)
theorem dX8_trace_10 : decode cX8_trace 10 = .ok (.invokestatic 99, 3) := dk_184 0 99 (dk_at dksX8_trace_0 10 rfl rfl)
theorem dX8_trace_13 : decode cX8_trace 13 = .ok (.ifCond .eq 12, 3) := dk_153 0 12 (dk_at dksX8_trace_0 13 rfl rfl)
theorem dX8_trace_16 : decode cX8_trace 16 = .ok (.aload_n 0, 1) := dk_42 (dk_at dksX8_trace_0 16 rfl rfl)
theorem dX8_trace_17 : decode cX8_trace 17 = .ok (.getfield 88, 3) := dk_180 0 88 (dk_at dksX8_trace_0 17 rfl rfl)
theorem dX8_trace_20 : decode cX8_trace 20 = .ok (.iload_n 1, 1) := dk_27 (dk_at dksX8_trace_0 20 rfl rfl)
theorem dX8_trace_21 : decode cX8_trace 21 = .ok (.iaload, 1) := dk_46 (dk_at dksX8_trace_0 21 rfl rfl)
theorem dX8_trace_22 : decode cX8_trace 22 = .ok (.goto 5, 3) := dk_167 0 5 (dk_at dksX8_trace_1 0 rfl rfl)
theorem dX8_trace_25 : decode cX8_trace 25 = .ok (.bipush (-3), 2) := dk_16 253 (dk_at dksX8_trace_1 3 rfl rfl)
theorem dX8_trace_27 : decode cX8_trace 27 = .ok (.ireturn, 1) := dk_172 (dk_at dksX8_trace_1 5 rfl rfl)
abbrev cX8_many : ByteArray := prog_24_method_105_code
def yX8_many : MethodName := ⟨RX8, "many", "(I)I"⟩
def dkwX8_many_3 : List UInt8 := [172, 42, 182, 1, 141, 172, 42, 182, 1, 144, 172, 2, 172]
abbrev dktX8_many_3 : List UInt8 := dkwX8_many_3 ++ []
def dkwX8_many_2 : List UInt8 := [42, 180, 0, 19, 172, 42, 180, 0, 23, 172, 42, 180, 0, 195, 172, 42, 180, 0, 151, 172, 42, 180, 1, 92]
abbrev dktX8_many_2 : List UInt8 := dkwX8_many_2 ++ dktX8_many_3
def dkwX8_many_1 : List UInt8 := [170, 0, 0, 0, 0, 0, 78, 0, 0, 0, 0, 0, 0, 0, 6, 0, 0, 0, 43, 0, 0, 0, 48, 0, 0, 0, 53, 0, 0, 0, 58, 0, 0, 0, 63, 0, 0, 0, 68, 0, 0, 0, 73]
abbrev dktX8_many_1 : List UInt8 := dkwX8_many_1 ++ dktX8_many_2
def dkwX8_many_0 : List UInt8 := [27]
abbrev dktX8_many_0 : List UInt8 := dkwX8_many_0 ++ dktX8_many_1
theorem dksX8_many_0 : cX8_many.data.toList.drop 0 = dktX8_many_0 := by decide +kernel
theorem dksX8_many_1 : cX8_many.data.toList.drop 1 = dktX8_many_1 := dk_seg dksX8_many_0 1 rfl rfl
theorem dksX8_many_2 : cX8_many.data.toList.drop 44 = dktX8_many_2 := dk_seg dksX8_many_1 43 rfl rfl
theorem dksX8_many_3 : cX8_many.data.toList.drop 68 = dktX8_many_3 := dk_seg dksX8_many_2 24 rfl rfl
theorem dX8_many_0 : decode cX8_many 0 = .ok (.iload_n 1, 1) := dk_27 (dk_at dksX8_many_0 0 rfl rfl)
theorem dX8_many_1 : decode cX8_many 1 = .ok (.tableswitch 78 0 6 #[43, 48, 53, 58, 63, 68, 73], 43) := by decide +kernel
theorem dX8_many_44 : decode cX8_many 44 = .ok (.aload_n 0, 1) := dk_42 (dk_at dksX8_many_2 0 rfl rfl)
theorem dX8_many_45 : decode cX8_many 45 = .ok (.getfield 19, 3) := dk_180 0 19 (dk_at dksX8_many_2 1 rfl rfl)
theorem dX8_many_48 : decode cX8_many 48 = .ok (.ireturn, 1) := dk_172 (dk_at dksX8_many_2 4 rfl rfl)
theorem dX8_many_49 : decode cX8_many 49 = .ok (.aload_n 0, 1) := dk_42 (dk_at dksX8_many_2 5 rfl rfl)
theorem dX8_many_50 : decode cX8_many 50 = .ok (.getfield 23, 3) := dk_180 0 23 (dk_at dksX8_many_2 6 rfl rfl)
theorem dX8_many_53 : decode cX8_many 53 = .ok (.ireturn, 1) := dk_172 (dk_at dksX8_many_2 9 rfl rfl)
theorem dX8_many_54 : decode cX8_many 54 = .ok (.aload_n 0, 1) := dk_42 (dk_at dksX8_many_2 10 rfl rfl)
theorem dX8_many_55 : decode cX8_many 55 = .ok (.getfield 195, 3) := dk_180 0 195 (dk_at dksX8_many_2 11 rfl rfl)
theorem dX8_many_58 : decode cX8_many 58 = .ok (.ireturn, 1) := dk_172 (dk_at dksX8_many_2 14 rfl rfl)
theorem dX8_many_59 : decode cX8_many 59 = .ok (.aload_n 0, 1) := dk_42 (dk_at dksX8_many_2 15 rfl rfl)
theorem dX8_many_60 : decode cX8_many 60 = .ok (.getfield 151, 3) := dk_180 0 151 (dk_at dksX8_many_2 16 rfl rfl)
theorem dX8_many_63 : decode cX8_many 63 = .ok (.ireturn, 1) := dk_172 (dk_at dksX8_many_2 19 rfl rfl)
theorem dX8_many_64 : decode cX8_many 64 = .ok (.aload_n 0, 1) := dk_42 (dk_at dksX8_many_2 20 rfl rfl)
theorem dX8_many_65 : decode cX8_many 65 = .ok (.getfield 348, 3) := dk_180 1 92 (dk_at dksX8_many_2 21 rfl rfl)
theorem dX8_many_68 : decode cX8_many 68 = .ok (.ireturn, 1) := dk_172 (dk_at dksX8_many_3 0 rfl rfl)
theorem dX8_many_69 : decode cX8_many 69 = .ok (.aload_n 0, 1) := dk_42 (dk_at dksX8_many_3 1 rfl rfl)
theorem dX8_many_70 : decode cX8_many 70 = .ok (.invokevirtual 397, 3) := dk_182 1 141 (dk_at dksX8_many_3 2 rfl rfl)
theorem dX8_many_73 : decode cX8_many 73 = .ok (.ireturn, 1) := dk_172 (dk_at dksX8_many_3 5 rfl rfl)
theorem dX8_many_74 : decode cX8_many 74 = .ok (.aload_n 0, 1) := dk_42 (dk_at dksX8_many_3 6 rfl rfl)
theorem dX8_many_75 : decode cX8_many 75 = .ok (.invokevirtual 400, 3) := dk_182 1 144 (dk_at dksX8_many_3 7 rfl rfl)
theorem dX8_many_78 : decode cX8_many 78 = .ok (.ireturn, 1) := dk_172 (dk_at dksX8_many_3 10 rfl rfl)
theorem dX8_many_79 : decode cX8_many 79 = .ok (.iconst (-1), 1) := dk_2 (dk_at dksX8_many_3 11 rfl rfl)
theorem dX8_many_80 : decode cX8_many 80 = .ok (.ireturn, 1) := dk_172 (dk_at dksX8_many_3 12 rfl rfl)
abbrev cX8_fitting : ByteArray := prog_24_method_103_code
def yX8_fitting : MethodName := ⟨RX8, "fitting", "()I"⟩
def dkwX8_fitting_1 : List UInt8 := [153, 0, 9, 4, 28, 120, 167, 0, 4, 3, 128, 60, 132, 2, 1, 167, 255, 222, 27, 172]
abbrev dktX8_fitting_1 : List UInt8 := dkwX8_fitting_1 ++ []
def dkwX8_fitting_0 : List UInt8 := [3, 60, 3, 61, 28, 42, 180, 0, 195, 162, 0, 32, 27, 42, 42, 180, 0, 29, 28, 46, 182, 1, 3]
abbrev dktX8_fitting_0 : List UInt8 := dkwX8_fitting_0 ++ dktX8_fitting_1
theorem dksX8_fitting_0 : cX8_fitting.data.toList.drop 0 = dktX8_fitting_0 := by decide +kernel
theorem dksX8_fitting_1 : cX8_fitting.data.toList.drop 23 = dktX8_fitting_1 := dk_seg dksX8_fitting_0 23 rfl rfl
theorem dX8_fitting_0 : decode cX8_fitting 0 = .ok (.iconst 0, 1) := dk_3 (dk_at dksX8_fitting_0 0 rfl rfl)
theorem dX8_fitting_1 : decode cX8_fitting 1 = .ok (.istore_n 1, 1) := dk_60 (dk_at dksX8_fitting_0 1 rfl rfl)
theorem dX8_fitting_2 : decode cX8_fitting 2 = .ok (.iconst 0, 1) := dk_3 (dk_at dksX8_fitting_0 2 rfl rfl)
theorem dX8_fitting_3 : decode cX8_fitting 3 = .ok (.istore_n 2, 1) := dk_61 (dk_at dksX8_fitting_0 3 rfl rfl)
theorem dX8_fitting_4 : decode cX8_fitting 4 = .ok (.iload_n 2, 1) := dk_28 (dk_at dksX8_fitting_0 4 rfl rfl)
theorem dX8_fitting_5 : decode cX8_fitting 5 = .ok (.aload_n 0, 1) := dk_42 (dk_at dksX8_fitting_0 5 rfl rfl)
theorem dX8_fitting_6 : decode cX8_fitting 6 = .ok (.getfield 195, 3) := dk_180 0 195 (dk_at dksX8_fitting_0 6 rfl rfl)
theorem dX8_fitting_9 : decode cX8_fitting 9 = .ok (.if_icmp .ge 32, 3) := dk_162 0 32 (dk_at dksX8_fitting_0 9 rfl rfl)
theorem dX8_fitting_12 : decode cX8_fitting 12 = .ok (.iload_n 1, 1) := dk_27 (dk_at dksX8_fitting_0 12 rfl rfl)
theorem dX8_fitting_13 : decode cX8_fitting 13 = .ok (.aload_n 0, 1) := dk_42 (dk_at dksX8_fitting_0 13 rfl rfl)
theorem dX8_fitting_14 : decode cX8_fitting 14 = .ok (.aload_n 0, 1) := dk_42 (dk_at dksX8_fitting_0 14 rfl rfl)
theorem dX8_fitting_15 : decode cX8_fitting 15 = .ok (.getfield 29, 3) := dk_180 0 29 (dk_at dksX8_fitting_0 15 rfl rfl)
theorem dX8_fitting_18 : decode cX8_fitting 18 = .ok (.iload_n 2, 1) := dk_28 (dk_at dksX8_fitting_0 18 rfl rfl)
theorem dX8_fitting_19 : decode cX8_fitting 19 = .ok (.iaload, 1) := dk_46 (dk_at dksX8_fitting_0 19 rfl rfl)
theorem dX8_fitting_20 : decode cX8_fitting 20 = .ok (.invokevirtual 259, 3) := dk_182 1 3 (dk_at dksX8_fitting_0 20 rfl rfl)
theorem dX8_fitting_23 : decode cX8_fitting 23 = .ok (.ifCond .eq 9, 3) := dk_153 0 9 (dk_at dksX8_fitting_1 0 rfl rfl)
theorem dX8_fitting_26 : decode cX8_fitting 26 = .ok (.iconst 1, 1) := dk_4 (dk_at dksX8_fitting_1 3 rfl rfl)
theorem dX8_fitting_27 : decode cX8_fitting 27 = .ok (.iload_n 2, 1) := dk_28 (dk_at dksX8_fitting_1 4 rfl rfl)
theorem dX8_fitting_28 : decode cX8_fitting 28 = .ok (.ishl, 1) := dk_120 (dk_at dksX8_fitting_1 5 rfl rfl)
theorem dX8_fitting_29 : decode cX8_fitting 29 = .ok (.goto 4, 3) := dk_167 0 4 (dk_at dksX8_fitting_1 6 rfl rfl)
theorem dX8_fitting_32 : decode cX8_fitting 32 = .ok (.iconst 0, 1) := dk_3 (dk_at dksX8_fitting_1 9 rfl rfl)
theorem dX8_fitting_33 : decode cX8_fitting 33 = .ok (.ior, 1) := dk_128 (dk_at dksX8_fitting_1 10 rfl rfl)
theorem dX8_fitting_34 : decode cX8_fitting 34 = .ok (.istore_n 1, 1) := dk_60 (dk_at dksX8_fitting_1 11 rfl rfl)
theorem dX8_fitting_35 : decode cX8_fitting 35 = .ok (.iinc 2 1, 3) := dk_132 2 1 (dk_at dksX8_fitting_1 12 rfl rfl)
theorem dX8_fitting_38 : decode cX8_fitting 38 = .ok (.goto (-34), 3) := dk_167 255 222 (dk_at dksX8_fitting_1 15 rfl rfl)
theorem dX8_fitting_41 : decode cX8_fitting 41 = .ok (.iload_n 1, 1) := dk_27 (dk_at dksX8_fitting_1 18 rfl rfl)
theorem dX8_fitting_42 : decode cX8_fitting 42 = .ok (.ireturn, 1) := dk_172 (dk_at dksX8_fitting_1 19 rfl rfl)
abbrev cX8_splitting : ByteArray := prog_24_method_104_code
def yX8_splitting : MethodName := ⟨RX8, "splitting", "()I"⟩
def dkwX8_splitting_1 : List UInt8 := [167, 0, 4, 3, 128, 60, 132, 2, 1, 167, 255, 227, 27, 172]
abbrev dktX8_splitting_1 : List UInt8 := dkwX8_splitting_1 ++ []
def dkwX8_splitting_0 : List UInt8 := [3, 60, 4, 61, 28, 42, 180, 0, 19, 162, 0, 27, 27, 42, 28, 182, 1, 44, 153, 0, 9, 4, 28, 120]
abbrev dktX8_splitting_0 : List UInt8 := dkwX8_splitting_0 ++ dktX8_splitting_1
theorem dksX8_splitting_0 : cX8_splitting.data.toList.drop 0 = dktX8_splitting_0 := by decide +kernel
theorem dksX8_splitting_1 : cX8_splitting.data.toList.drop 24 = dktX8_splitting_1 := dk_seg dksX8_splitting_0 24 rfl rfl
theorem dX8_splitting_0 : decode cX8_splitting 0 = .ok (.iconst 0, 1) := dk_3 (dk_at dksX8_splitting_0 0 rfl rfl)
theorem dX8_splitting_1 : decode cX8_splitting 1 = .ok (.istore_n 1, 1) := dk_60 (dk_at dksX8_splitting_0 1 rfl rfl)
theorem dX8_splitting_2 : decode cX8_splitting 2 = .ok (.iconst 1, 1) := dk_4 (dk_at dksX8_splitting_0 2 rfl rfl)
theorem dX8_splitting_3 : decode cX8_splitting 3 = .ok (.istore_n 2, 1) := dk_61 (dk_at dksX8_splitting_0 3 rfl rfl)
theorem dX8_splitting_4 : decode cX8_splitting 4 = .ok (.iload_n 2, 1) := dk_28 (dk_at dksX8_splitting_0 4 rfl rfl)
theorem dX8_splitting_5 : decode cX8_splitting 5 = .ok (.aload_n 0, 1) := dk_42 (dk_at dksX8_splitting_0 5 rfl rfl)
theorem dX8_splitting_6 : decode cX8_splitting 6 = .ok (.getfield 19, 3) := dk_180 0 19 (dk_at dksX8_splitting_0 6 rfl rfl)
theorem dX8_splitting_9 : decode cX8_splitting 9 = .ok (.if_icmp .ge 27, 3) := dk_162 0 27 (dk_at dksX8_splitting_0 9 rfl rfl)
theorem dX8_splitting_12 : decode cX8_splitting 12 = .ok (.iload_n 1, 1) := dk_27 (dk_at dksX8_splitting_0 12 rfl rfl)
theorem dX8_splitting_13 : decode cX8_splitting 13 = .ok (.aload_n 0, 1) := dk_42 (dk_at dksX8_splitting_0 13 rfl rfl)
theorem dX8_splitting_14 : decode cX8_splitting 14 = .ok (.iload_n 2, 1) := dk_28 (dk_at dksX8_splitting_0 14 rfl rfl)
theorem dX8_splitting_15 : decode cX8_splitting 15 = .ok (.invokevirtual 300, 3) := dk_182 1 44 (dk_at dksX8_splitting_0 15 rfl rfl)
theorem dX8_splitting_18 : decode cX8_splitting 18 = .ok (.ifCond .eq 9, 3) := dk_153 0 9 (dk_at dksX8_splitting_0 18 rfl rfl)
theorem dX8_splitting_21 : decode cX8_splitting 21 = .ok (.iconst 1, 1) := dk_4 (dk_at dksX8_splitting_0 21 rfl rfl)
theorem dX8_splitting_22 : decode cX8_splitting 22 = .ok (.iload_n 2, 1) := dk_28 (dk_at dksX8_splitting_0 22 rfl rfl)
theorem dX8_splitting_23 : decode cX8_splitting 23 = .ok (.ishl, 1) := dk_120 (dk_at dksX8_splitting_0 23 rfl rfl)
theorem dX8_splitting_24 : decode cX8_splitting 24 = .ok (.goto 4, 3) := dk_167 0 4 (dk_at dksX8_splitting_1 0 rfl rfl)
theorem dX8_splitting_27 : decode cX8_splitting 27 = .ok (.iconst 0, 1) := dk_3 (dk_at dksX8_splitting_1 3 rfl rfl)
theorem dX8_splitting_28 : decode cX8_splitting 28 = .ok (.ior, 1) := dk_128 (dk_at dksX8_splitting_1 4 rfl rfl)
theorem dX8_splitting_29 : decode cX8_splitting 29 = .ok (.istore_n 1, 1) := dk_60 (dk_at dksX8_splitting_1 5 rfl rfl)
theorem dX8_splitting_30 : decode cX8_splitting 30 = .ok (.iinc 2 1, 3) := dk_132 2 1 (dk_at dksX8_splitting_1 6 rfl rfl)
theorem dX8_splitting_33 : decode cX8_splitting 33 = .ok (.goto (-29), 3) := dk_167 255 227 (dk_at dksX8_splitting_1 9 rfl rfl)
theorem dX8_splitting_36 : decode cX8_splitting 36 = .ok (.iload_n 1, 1) := dk_27 (dk_at dksX8_splitting_1 12 rfl rfl)
theorem dX8_splitting_37 : decode cX8_splitting 37 = .ok (.ireturn, 1) := dk_172 (dk_at dksX8_splitting_1 13 rfl rfl)
abbrev cX8_keep : ByteArray := prog_24_method_106_code
def yX8_keep : MethodName := ⟨RX8, "keep", "()I"⟩
def dkwX8_keep_3 : List UInt8 := [180, 0, 32, 27, 46, 79, 132, 1, 1, 167, 255, 223, 42, 4, 181, 1, 159, 4, 172]
abbrev dktX8_keep_3 : List UInt8 := dkwX8_keep_3 ++ []
def dkwX8_keep_2 : List UInt8 := [27, 16, 6, 162, 0, 33, 42, 180, 0, 35, 27, 42, 180, 0, 29, 27, 46, 79, 42, 180, 0, 38, 27, 42]
abbrev dktX8_keep_2 : List UInt8 := dkwX8_keep_2 ++ dktX8_keep_3
def dkwX8_keep_1 : List UInt8 := [180, 0, 23, 181, 1, 150, 42, 42, 180, 0, 26, 181, 1, 153, 42, 42, 180, 0, 195, 181, 1, 156, 3, 60]
abbrev dktX8_keep_1 : List UInt8 := dkwX8_keep_1 ++ dktX8_keep_2
def dkwX8_keep_0 : List UInt8 := [42, 42, 180, 0, 7, 42, 180, 0, 13, 182, 0, 186, 42, 42, 180, 0, 19, 181, 1, 147, 42, 42]
abbrev dktX8_keep_0 : List UInt8 := dkwX8_keep_0 ++ dktX8_keep_1
theorem dksX8_keep_0 : cX8_keep.data.toList.drop 0 = dktX8_keep_0 := by decide +kernel
theorem dksX8_keep_1 : cX8_keep.data.toList.drop 22 = dktX8_keep_1 := dk_seg dksX8_keep_0 22 rfl rfl
theorem dksX8_keep_2 : cX8_keep.data.toList.drop 46 = dktX8_keep_2 := dk_seg dksX8_keep_1 24 rfl rfl
theorem dksX8_keep_3 : cX8_keep.data.toList.drop 70 = dktX8_keep_3 := dk_seg dksX8_keep_2 24 rfl rfl
theorem dX8_keep_0 : decode cX8_keep 0 = .ok (.aload_n 0, 1) := dk_42 (dk_at dksX8_keep_0 0 rfl rfl)
theorem dX8_keep_1 : decode cX8_keep 1 = .ok (.aload_n 0, 1) := dk_42 (dk_at dksX8_keep_0 1 rfl rfl)
theorem dX8_keep_2 : decode cX8_keep 2 = .ok (.getfield 7, 3) := dk_180 0 7 (dk_at dksX8_keep_0 2 rfl rfl)
theorem dX8_keep_5 : decode cX8_keep 5 = .ok (.aload_n 0, 1) := dk_42 (dk_at dksX8_keep_0 5 rfl rfl)
theorem dX8_keep_6 : decode cX8_keep 6 = .ok (.getfield 13, 3) := dk_180 0 13 (dk_at dksX8_keep_0 6 rfl rfl)
theorem dX8_keep_9 : decode cX8_keep 9 = .ok (.invokevirtual 186, 3) := dk_182 0 186 (dk_at dksX8_keep_0 9 rfl rfl)
theorem dX8_keep_12 : decode cX8_keep 12 = .ok (.aload_n 0, 1) := dk_42 (dk_at dksX8_keep_0 12 rfl rfl)
theorem dX8_keep_13 : decode cX8_keep 13 = .ok (.aload_n 0, 1) := dk_42 (dk_at dksX8_keep_0 13 rfl rfl)
theorem dX8_keep_14 : decode cX8_keep 14 = .ok (.getfield 19, 3) := dk_180 0 19 (dk_at dksX8_keep_0 14 rfl rfl)
theorem dX8_keep_17 : decode cX8_keep 17 = .ok (.putfield 403, 3) := dk_181 1 147 (dk_at dksX8_keep_0 17 rfl rfl)
theorem dX8_keep_20 : decode cX8_keep 20 = .ok (.aload_n 0, 1) := dk_42 (dk_at dksX8_keep_0 20 rfl rfl)
theorem dX8_keep_21 : decode cX8_keep 21 = .ok (.aload_n 0, 1) := dk_42 (dk_at dksX8_keep_0 21 rfl rfl)
theorem dX8_keep_22 : decode cX8_keep 22 = .ok (.getfield 23, 3) := dk_180 0 23 (dk_at dksX8_keep_1 0 rfl rfl)
theorem dX8_keep_25 : decode cX8_keep 25 = .ok (.putfield 406, 3) := dk_181 1 150 (dk_at dksX8_keep_1 3 rfl rfl)
theorem dX8_keep_28 : decode cX8_keep 28 = .ok (.aload_n 0, 1) := dk_42 (dk_at dksX8_keep_1 6 rfl rfl)
theorem dX8_keep_29 : decode cX8_keep 29 = .ok (.aload_n 0, 1) := dk_42 (dk_at dksX8_keep_1 7 rfl rfl)
theorem dX8_keep_30 : decode cX8_keep 30 = .ok (.getfield 26, 3) := dk_180 0 26 (dk_at dksX8_keep_1 8 rfl rfl)
theorem dX8_keep_33 : decode cX8_keep 33 = .ok (.putfield 409, 3) := dk_181 1 153 (dk_at dksX8_keep_1 11 rfl rfl)
theorem dX8_keep_36 : decode cX8_keep 36 = .ok (.aload_n 0, 1) := dk_42 (dk_at dksX8_keep_1 14 rfl rfl)
theorem dX8_keep_37 : decode cX8_keep 37 = .ok (.aload_n 0, 1) := dk_42 (dk_at dksX8_keep_1 15 rfl rfl)
theorem dX8_keep_38 : decode cX8_keep 38 = .ok (.getfield 195, 3) := dk_180 0 195 (dk_at dksX8_keep_1 16 rfl rfl)
theorem dX8_keep_41 : decode cX8_keep 41 = .ok (.putfield 412, 3) := dk_181 1 156 (dk_at dksX8_keep_1 19 rfl rfl)
theorem dX8_keep_44 : decode cX8_keep 44 = .ok (.iconst 0, 1) := dk_3 (dk_at dksX8_keep_1 22 rfl rfl)
theorem dX8_keep_45 : decode cX8_keep 45 = .ok (.istore_n 1, 1) := dk_60 (dk_at dksX8_keep_1 23 rfl rfl)
theorem dX8_keep_46 : decode cX8_keep 46 = .ok (.iload_n 1, 1) := dk_27 (dk_at dksX8_keep_2 0 rfl rfl)
theorem dX8_keep_47 : decode cX8_keep 47 = .ok (.bipush 6, 2) := dk_16 6 (dk_at dksX8_keep_2 1 rfl rfl)
theorem dX8_keep_49 : decode cX8_keep 49 = .ok (.if_icmp .ge 33, 3) := dk_162 0 33 (dk_at dksX8_keep_2 3 rfl rfl)
theorem dX8_keep_52 : decode cX8_keep 52 = .ok (.aload_n 0, 1) := dk_42 (dk_at dksX8_keep_2 6 rfl rfl)
theorem dX8_keep_53 : decode cX8_keep 53 = .ok (.getfield 35, 3) := dk_180 0 35 (dk_at dksX8_keep_2 7 rfl rfl)
theorem dX8_keep_56 : decode cX8_keep 56 = .ok (.iload_n 1, 1) := dk_27 (dk_at dksX8_keep_2 10 rfl rfl)
theorem dX8_keep_57 : decode cX8_keep 57 = .ok (.aload_n 0, 1) := dk_42 (dk_at dksX8_keep_2 11 rfl rfl)
theorem dX8_keep_58 : decode cX8_keep 58 = .ok (.getfield 29, 3) := dk_180 0 29 (dk_at dksX8_keep_2 12 rfl rfl)
theorem dX8_keep_61 : decode cX8_keep 61 = .ok (.iload_n 1, 1) := dk_27 (dk_at dksX8_keep_2 15 rfl rfl)
theorem dX8_keep_62 : decode cX8_keep 62 = .ok (.iaload, 1) := dk_46 (dk_at dksX8_keep_2 16 rfl rfl)
theorem dX8_keep_63 : decode cX8_keep 63 = .ok (.iastore, 1) := dk_79 (dk_at dksX8_keep_2 17 rfl rfl)
theorem dX8_keep_64 : decode cX8_keep 64 = .ok (.aload_n 0, 1) := dk_42 (dk_at dksX8_keep_2 18 rfl rfl)
theorem dX8_keep_65 : decode cX8_keep 65 = .ok (.getfield 38, 3) := dk_180 0 38 (dk_at dksX8_keep_2 19 rfl rfl)
theorem dX8_keep_68 : decode cX8_keep 68 = .ok (.iload_n 1, 1) := dk_27 (dk_at dksX8_keep_2 22 rfl rfl)
theorem dX8_keep_69 : decode cX8_keep 69 = .ok (.aload_n 0, 1) := dk_42 (dk_at dksX8_keep_2 23 rfl rfl)
theorem dX8_keep_70 : decode cX8_keep 70 = .ok (.getfield 32, 3) := dk_180 0 32 (dk_at dksX8_keep_3 0 rfl rfl)
theorem dX8_keep_73 : decode cX8_keep 73 = .ok (.iload_n 1, 1) := dk_27 (dk_at dksX8_keep_3 3 rfl rfl)
theorem dX8_keep_74 : decode cX8_keep 74 = .ok (.iaload, 1) := dk_46 (dk_at dksX8_keep_3 4 rfl rfl)
theorem dX8_keep_75 : decode cX8_keep 75 = .ok (.iastore, 1) := dk_79 (dk_at dksX8_keep_3 5 rfl rfl)
theorem dX8_keep_76 : decode cX8_keep 76 = .ok (.iinc 1 1, 3) := dk_132 1 1 (dk_at dksX8_keep_3 6 rfl rfl)
theorem dX8_keep_79 : decode cX8_keep 79 = .ok (.goto (-33), 3) := dk_167 255 223 (dk_at dksX8_keep_3 9 rfl rfl)
theorem dX8_keep_82 : decode cX8_keep 82 = .ok (.aload_n 0, 1) := dk_42 (dk_at dksX8_keep_3 12 rfl rfl)
theorem dX8_keep_83 : decode cX8_keep 83 = .ok (.iconst 1, 1) := dk_4 (dk_at dksX8_keep_3 13 rfl rfl)
theorem dX8_keep_84 : decode cX8_keep 84 = .ok (.putfield 415, 3) := dk_181 1 159 (dk_at dksX8_keep_3 14 rfl rfl)
theorem dX8_keep_87 : decode cX8_keep 87 = .ok (.iconst 1, 1) := dk_4 (dk_at dksX8_keep_3 17 rfl rfl)
theorem dX8_keep_88 : decode cX8_keep 88 = .ok (.ireturn, 1) := dk_172 (dk_at dksX8_keep_3 18 rfl rfl)
abbrev cX8_again : ByteArray := prog_24_method_107_code
def yX8_again : MethodName := ⟨RX8, "again", "()I"⟩
def dkwX8_again_4 : List UInt8 := [172]
abbrev dktX8_again_4 : List UInt8 := dkwX8_again_4 ++ []
def dkwX8_again_3 : List UInt8 := [46, 79, 42, 180, 0, 32, 27, 42, 180, 0, 38, 27, 46, 79, 132, 1, 1, 167, 255, 223, 42, 180, 0, 195]
abbrev dktX8_again_3 : List UInt8 := dkwX8_again_3 ++ dktX8_again_4
def dkwX8_again_2 : List UInt8 := [180, 1, 156, 181, 0, 195, 3, 60, 27, 16, 6, 162, 0, 33, 42, 180, 0, 29, 27, 42, 180, 0, 35, 27]
abbrev dktX8_again_2 : List UInt8 := dkwX8_again_2 ++ dktX8_again_3
def dkwX8_again_1 : List UInt8 := [180, 1, 147, 181, 0, 19, 42, 42, 180, 1, 150, 181, 0, 23, 42, 42, 180, 1, 153, 181, 0, 26, 42, 42]
abbrev dktX8_again_1 : List UInt8 := dkwX8_again_1 ++ dktX8_again_2
def dkwX8_again_0 : List UInt8 := [42, 180, 1, 159, 154, 0, 6, 16, 253, 172, 42, 42, 180, 0, 13, 42, 180, 0, 7, 182, 0, 186, 42, 42]
abbrev dktX8_again_0 : List UInt8 := dkwX8_again_0 ++ dktX8_again_1
theorem dksX8_again_0 : cX8_again.data.toList.drop 0 = dktX8_again_0 := by decide +kernel
theorem dksX8_again_1 : cX8_again.data.toList.drop 24 = dktX8_again_1 := dk_seg dksX8_again_0 24 rfl rfl
theorem dksX8_again_2 : cX8_again.data.toList.drop 48 = dktX8_again_2 := dk_seg dksX8_again_1 24 rfl rfl
theorem dksX8_again_3 : cX8_again.data.toList.drop 72 = dktX8_again_3 := dk_seg dksX8_again_2 24 rfl rfl
theorem dksX8_again_4 : cX8_again.data.toList.drop 96 = dktX8_again_4 := dk_seg dksX8_again_3 24 rfl rfl
theorem dX8_again_0 : decode cX8_again 0 = .ok (.aload_n 0, 1) := dk_42 (dk_at dksX8_again_0 0 rfl rfl)
theorem dX8_again_1 : decode cX8_again 1 = .ok (.getfield 415, 3) := dk_180 1 159 (dk_at dksX8_again_0 1 rfl rfl)
theorem dX8_again_4 : decode cX8_again 4 = .ok (.ifCond .ne 6, 3) := dk_154 0 6 (dk_at dksX8_again_0 4 rfl rfl)
theorem dX8_again_7 : decode cX8_again 7 = .ok (.bipush (-3), 2) := dk_16 253 (dk_at dksX8_again_0 7 rfl rfl)
theorem dX8_again_9 : decode cX8_again 9 = .ok (.ireturn, 1) := dk_172 (dk_at dksX8_again_0 9 rfl rfl)
theorem dX8_again_10 : decode cX8_again 10 = .ok (.aload_n 0, 1) := dk_42 (dk_at dksX8_again_0 10 rfl rfl)
theorem dX8_again_11 : decode cX8_again 11 = .ok (.aload_n 0, 1) := dk_42 (dk_at dksX8_again_0 11 rfl rfl)
theorem dX8_again_12 : decode cX8_again 12 = .ok (.getfield 13, 3) := dk_180 0 13 (dk_at dksX8_again_0 12 rfl rfl)
theorem dX8_again_15 : decode cX8_again 15 = .ok (.aload_n 0, 1) := dk_42 (dk_at dksX8_again_0 15 rfl rfl)
theorem dX8_again_16 : decode cX8_again 16 = .ok (.getfield 7, 3) := dk_180 0 7 (dk_at dksX8_again_0 16 rfl rfl)
theorem dX8_again_19 : decode cX8_again 19 = .ok (.invokevirtual 186, 3) := dk_182 0 186 (dk_at dksX8_again_0 19 rfl rfl)
theorem dX8_again_22 : decode cX8_again 22 = .ok (.aload_n 0, 1) := dk_42 (dk_at dksX8_again_0 22 rfl rfl)
theorem dX8_again_23 : decode cX8_again 23 = .ok (.aload_n 0, 1) := dk_42 (dk_at dksX8_again_0 23 rfl rfl)
theorem dX8_again_24 : decode cX8_again 24 = .ok (.getfield 403, 3) := dk_180 1 147 (dk_at dksX8_again_1 0 rfl rfl)
theorem dX8_again_27 : decode cX8_again 27 = .ok (.putfield 19, 3) := dk_181 0 19 (dk_at dksX8_again_1 3 rfl rfl)
theorem dX8_again_30 : decode cX8_again 30 = .ok (.aload_n 0, 1) := dk_42 (dk_at dksX8_again_1 6 rfl rfl)
theorem dX8_again_31 : decode cX8_again 31 = .ok (.aload_n 0, 1) := dk_42 (dk_at dksX8_again_1 7 rfl rfl)
theorem dX8_again_32 : decode cX8_again 32 = .ok (.getfield 406, 3) := dk_180 1 150 (dk_at dksX8_again_1 8 rfl rfl)
theorem dX8_again_35 : decode cX8_again 35 = .ok (.putfield 23, 3) := dk_181 0 23 (dk_at dksX8_again_1 11 rfl rfl)
theorem dX8_again_38 : decode cX8_again 38 = .ok (.aload_n 0, 1) := dk_42 (dk_at dksX8_again_1 14 rfl rfl)
theorem dX8_again_39 : decode cX8_again 39 = .ok (.aload_n 0, 1) := dk_42 (dk_at dksX8_again_1 15 rfl rfl)
theorem dX8_again_40 : decode cX8_again 40 = .ok (.getfield 409, 3) := dk_180 1 153 (dk_at dksX8_again_1 16 rfl rfl)
theorem dX8_again_43 : decode cX8_again 43 = .ok (.putfield 26, 3) := dk_181 0 26 (dk_at dksX8_again_1 19 rfl rfl)
theorem dX8_again_46 : decode cX8_again 46 = .ok (.aload_n 0, 1) := dk_42 (dk_at dksX8_again_1 22 rfl rfl)
theorem dX8_again_47 : decode cX8_again 47 = .ok (.aload_n 0, 1) := dk_42 (dk_at dksX8_again_1 23 rfl rfl)
theorem dX8_again_48 : decode cX8_again 48 = .ok (.getfield 412, 3) := dk_180 1 156 (dk_at dksX8_again_2 0 rfl rfl)
theorem dX8_again_51 : decode cX8_again 51 = .ok (.putfield 195, 3) := dk_181 0 195 (dk_at dksX8_again_2 3 rfl rfl)
theorem dX8_again_54 : decode cX8_again 54 = .ok (.iconst 0, 1) := dk_3 (dk_at dksX8_again_2 6 rfl rfl)
theorem dX8_again_55 : decode cX8_again 55 = .ok (.istore_n 1, 1) := dk_60 (dk_at dksX8_again_2 7 rfl rfl)
theorem dX8_again_56 : decode cX8_again 56 = .ok (.iload_n 1, 1) := dk_27 (dk_at dksX8_again_2 8 rfl rfl)
theorem dX8_again_57 : decode cX8_again 57 = .ok (.bipush 6, 2) := dk_16 6 (dk_at dksX8_again_2 9 rfl rfl)
theorem dX8_again_59 : decode cX8_again 59 = .ok (.if_icmp .ge 33, 3) := dk_162 0 33 (dk_at dksX8_again_2 11 rfl rfl)
theorem dX8_again_62 : decode cX8_again 62 = .ok (.aload_n 0, 1) := dk_42 (dk_at dksX8_again_2 14 rfl rfl)
theorem dX8_again_63 : decode cX8_again 63 = .ok (.getfield 29, 3) := dk_180 0 29 (dk_at dksX8_again_2 15 rfl rfl)
theorem dX8_again_66 : decode cX8_again 66 = .ok (.iload_n 1, 1) := dk_27 (dk_at dksX8_again_2 18 rfl rfl)
theorem dX8_again_67 : decode cX8_again 67 = .ok (.aload_n 0, 1) := dk_42 (dk_at dksX8_again_2 19 rfl rfl)
theorem dX8_again_68 : decode cX8_again 68 = .ok (.getfield 35, 3) := dk_180 0 35 (dk_at dksX8_again_2 20 rfl rfl)
theorem dX8_again_71 : decode cX8_again 71 = .ok (.iload_n 1, 1) := dk_27 (dk_at dksX8_again_2 23 rfl rfl)
theorem dX8_again_72 : decode cX8_again 72 = .ok (.iaload, 1) := dk_46 (dk_at dksX8_again_3 0 rfl rfl)
theorem dX8_again_73 : decode cX8_again 73 = .ok (.iastore, 1) := dk_79 (dk_at dksX8_again_3 1 rfl rfl)
theorem dX8_again_74 : decode cX8_again 74 = .ok (.aload_n 0, 1) := dk_42 (dk_at dksX8_again_3 2 rfl rfl)
theorem dX8_again_75 : decode cX8_again 75 = .ok (.getfield 32, 3) := dk_180 0 32 (dk_at dksX8_again_3 3 rfl rfl)
theorem dX8_again_78 : decode cX8_again 78 = .ok (.iload_n 1, 1) := dk_27 (dk_at dksX8_again_3 6 rfl rfl)
theorem dX8_again_79 : decode cX8_again 79 = .ok (.aload_n 0, 1) := dk_42 (dk_at dksX8_again_3 7 rfl rfl)
theorem dX8_again_80 : decode cX8_again 80 = .ok (.getfield 38, 3) := dk_180 0 38 (dk_at dksX8_again_3 8 rfl rfl)
theorem dX8_again_83 : decode cX8_again 83 = .ok (.iload_n 1, 1) := dk_27 (dk_at dksX8_again_3 11 rfl rfl)
theorem dX8_again_84 : decode cX8_again 84 = .ok (.iaload, 1) := dk_46 (dk_at dksX8_again_3 12 rfl rfl)
theorem dX8_again_85 : decode cX8_again 85 = .ok (.iastore, 1) := dk_79 (dk_at dksX8_again_3 13 rfl rfl)
theorem dX8_again_86 : decode cX8_again 86 = .ok (.iinc 1 1, 3) := dk_132 1 1 (dk_at dksX8_again_3 14 rfl rfl)
theorem dX8_again_89 : decode cX8_again 89 = .ok (.goto (-33), 3) := dk_167 255 223 (dk_at dksX8_again_3 17 rfl rfl)
theorem dX8_again_92 : decode cX8_again 92 = .ok (.aload_n 0, 1) := dk_42 (dk_at dksX8_again_3 20 rfl rfl)
theorem dX8_again_93 : decode cX8_again 93 = .ok (.getfield 195, 3) := dk_180 0 195 (dk_at dksX8_again_3 21 rfl rfl)
theorem dX8_again_96 : decode cX8_again 96 = .ok (.ireturn, 1) := dk_172 (dk_at dksX8_again_4 0 rfl rfl)
theorem q113 : (Jvm.Cond.initialized "TwoSidedTablesModel") ∈ lw_all := lw_g (lw_at lw_m1 12 rfl) rfl
theorem q1580 : (Jvm.Cond.instantiable "TwoSidedTablesModel" (47 : Nat)) ∈ lw_all := lw_g (lw_at lw_m7 39 rfl) rfl
theorem q1582 : (Jvm.Cond.instanceMethod ({ cls := "TwoSidedTablesModel", name := "<init>", desc := "()V" } : Jvm.MethodName)) ∈ lw_all := lw_g (lw_at lw_m7 41 rfl) rfl
theorem q1583 : (Jvm.Cond.code ({ cls := "TwoSidedTablesModel", name := "<init>", desc := "()V" } : Jvm.MethodName) prog_24_method_1_code (1 : Nat) (Option.none : Option Jvm.ClassFile.FieldType)) ∈ lw_all := lw_g (lw_at lw_m7 42 rfl) rfl
theorem q1584 : (Jvm.Cond.methodLink "TwoSidedTablesModel" (1 : Nat) ({ cls := "java/lang/Object", name := "<init>", desc := "()V" } : Jvm.MethodName)) ∈ lw_all := lw_g (lw_at lw_m7 43 rfl) rfl
theorem q1585 : (Jvm.Cond.fieldLink "TwoSidedTablesModel" (7 : Nat) "TwoSidedTablesModel" "entry" "[I") ∈ lw_all := lw_g (lw_at lw_m7 44 rfl) rfl
theorem q1586 : (Jvm.Cond.fieldLink "TwoSidedTablesModel" (13 : Nat) "TwoSidedTablesModel" "keptEntry" "[I") ∈ lw_all := lw_g (lw_at lw_m7 45 rfl) rfl
theorem q1587 : (Jvm.Cond.fieldLink "TwoSidedTablesModel" (16 : Nat) "TwoSidedTablesModel" "aside0" "[I") ∈ lw_all := lw_g (lw_at lw_m7 46 rfl) rfl
theorem q1588 : (Jvm.Cond.fieldLink "TwoSidedTablesModel" (19 : Nat) "TwoSidedTablesModel" "m" "I") ∈ lw_all := lw_g (lw_at lw_m7 47 rfl) rfl
theorem q1589 : (Jvm.Cond.fieldLink "TwoSidedTablesModel" (23 : Nat) "TwoSidedTablesModel" "n" "I") ∈ lw_all := lw_g (lw_at lw_m7 48 rfl) rfl
theorem q1590 : (Jvm.Cond.fieldLink "TwoSidedTablesModel" (195 : Nat) "TwoSidedTablesModel" "equations" "I") ∈ lw_all := lw_g (lw_at lw_m7 49 rfl) rfl
theorem q1591 : (Jvm.Cond.fieldLink "TwoSidedTablesModel" (26 : Nat) "TwoSidedTablesModel" "z" "I") ∈ lw_all := lw_g (lw_at lw_m7 50 rfl) rfl
theorem q1592 : (Jvm.Cond.fieldLink "TwoSidedTablesModel" (403 : Nat) "TwoSidedTablesModel" "keptM" "I") ∈ lw_all := lw_g (lw_at lw_m7 51 rfl) rfl
theorem q1593 : (Jvm.Cond.fieldLink "TwoSidedTablesModel" (406 : Nat) "TwoSidedTablesModel" "keptN" "I") ∈ lw_all := lw_g (lw_at lw_m7 52 rfl) rfl
theorem q1594 : (Jvm.Cond.fieldLink "TwoSidedTablesModel" (412 : Nat) "TwoSidedTablesModel" "keptEquations" "I") ∈ lw_all := lw_g (lw_at lw_m7 53 rfl) rfl
theorem q1595 : (Jvm.Cond.fieldLink "TwoSidedTablesModel" (409 : Nat) "TwoSidedTablesModel" "keptZ" "I") ∈ lw_all := lw_g (lw_at lw_m7 54 rfl) rfl
theorem q1596 : (Jvm.Cond.fieldLink "TwoSidedTablesModel" (29 : Nat) "TwoSidedTablesModel" "kinds" "[I") ∈ lw_all := lw_g (lw_at lw_m7 55 rfl) rfl
theorem q1597 : (Jvm.Cond.fieldLink "TwoSidedTablesModel" (32 : Nat) "TwoSidedTablesModel" "shifts" "[I") ∈ lw_all := lw_g (lw_at lw_m7 56 rfl) rfl
theorem q1598 : (Jvm.Cond.fieldLink "TwoSidedTablesModel" (35 : Nat) "TwoSidedTablesModel" "keptKinds" "[I") ∈ lw_all := lw_g (lw_at lw_m7 57 rfl) rfl
theorem q1599 : (Jvm.Cond.fieldLink "TwoSidedTablesModel" (38 : Nat) "TwoSidedTablesModel" "keptShifts" "[I") ∈ lw_all := lw_g (lw_at lw_m7 58 rfl) rfl
theorem q1600 : (Jvm.Cond.fieldLink "TwoSidedTablesModel" (415 : Nat) "TwoSidedTablesModel" "isKept" "Z") ∈ lw_all := lw_g (lw_at lw_m7 59 rfl) rfl
theorem q1601 : (Jvm.Cond.fieldLink "TwoSidedTablesModel" (41 : Nat) "TwoSidedTablesModel" "tape" "[B") ∈ lw_all := lw_g (lw_at lw_m7 60 rfl) rfl
theorem q1602 : (Jvm.Cond.fieldLink "TwoSidedTablesModel" (151 : Nat) "TwoSidedTablesModel" "taped" "I") ∈ lw_all := lw_g (lw_at lw_m7 61 rfl) rfl
theorem q1603 : (Jvm.Cond.fieldLink "TwoSidedTablesModel" (157 : Nat) "TwoSidedTablesModel" "from" "I") ∈ lw_all := lw_g (lw_at lw_m7 62 rfl) rfl
theorem q1604 : (Jvm.Cond.fieldLink "TwoSidedTablesModel" (154 : Nat) "TwoSidedTablesModel" "to" "I") ∈ lw_all := lw_g (lw_at lw_m7 63 rfl) rfl
theorem q1605 : (Jvm.Cond.fieldLink "TwoSidedTablesModel" (167 : Nat) "TwoSidedTablesModel" "fault" "I") ∈ lw_all := lw_g (lw_at lw_m7 64 rfl) rfl
theorem q1606 : (Jvm.Cond.fieldLink "TwoSidedTablesModel" (183 : Nat) "TwoSidedTablesModel" "tables" "I") ∈ lw_all := lw_g (lw_at lw_m7 65 rfl) rfl
theorem q1607 : (Jvm.Cond.fieldLink "TwoSidedTablesModel" (45 : Nat) "TwoSidedTablesModel" "placed" "[I") ∈ lw_all := lw_g (lw_at lw_m7 66 rfl) rfl
theorem q1608 : (Jvm.Cond.fieldLink "TwoSidedTablesModel" (48 : Nat) "TwoSidedTablesModel" "rows" "[J") ∈ lw_all := lw_g (lw_at lw_m7 67 rfl) rfl
theorem q1609 : (Jvm.Cond.fieldLink "TwoSidedTablesModel" (52 : Nat) "TwoSidedTablesModel" "leads" "[I") ∈ lw_all := lw_g (lw_at lw_m7 68 rfl) rfl
theorem q1610 : (Jvm.Cond.fieldLink "TwoSidedTablesModel" (55 : Nat) "TwoSidedTablesModel" "ledBy" "[I") ∈ lw_all := lw_g (lw_at lw_m7 69 rfl) rfl
theorem q1611 : (Jvm.Cond.fieldLink "TwoSidedTablesModel" (232 : Nat) "TwoSidedTablesModel" "height" "I") ∈ lw_all := lw_g (lw_at lw_m7 70 rfl) rfl
theorem q1612 : (Jvm.Cond.fieldLink "TwoSidedTablesModel" (229 : Nat) "TwoSidedTablesModel" "width" "I") ∈ lw_all := lw_g (lw_at lw_m7 71 rfl) rfl
theorem q1613 : (Jvm.Cond.fieldLink "TwoSidedTablesModel" (239 : Nat) "TwoSidedTablesModel" "rank" "I") ∈ lw_all := lw_g (lw_at lw_m7 72 rfl) rfl
theorem q1614 : (Jvm.Cond.fieldLink "TwoSidedTablesModel" (226 : Nat) "TwoSidedTablesModel" "changed" "I") ∈ lw_all := lw_g (lw_at lw_m7 73 rfl) rfl
theorem q1615 : (Jvm.Cond.fieldLink "TwoSidedTablesModel" (235 : Nat) "TwoSidedTablesModel" "scale" "J") ∈ lw_all := lw_g (lw_at lw_m7 74 rfl) rfl
theorem q1616 : (Jvm.Cond.fieldLink "TwoSidedTablesModel" (58 : Nat) "TwoSidedTablesModel" "rule" "[J") ∈ lw_all := lw_g (lw_at lw_m7 75 rfl) rfl
theorem q1617 : (Jvm.Cond.fieldLink "TwoSidedTablesModel" (61 : Nat) "TwoSidedTablesModel" "left" "[J") ∈ lw_all := lw_g (lw_at lw_m7 76 rfl) rfl
theorem q1618 : (Jvm.Cond.fieldLink "TwoSidedTablesModel" (64 : Nat) "TwoSidedTablesModel" "ruledBy" "[I") ∈ lw_all := lw_g (lw_at lw_m7 77 rfl) rfl
theorem q1619 : (Jvm.Cond.fieldLink "TwoSidedTablesModel" (67 : Nat) "TwoSidedTablesModel" "sorts" "[I") ∈ lw_all := lw_g (lw_at lw_m7 78 rfl) rfl
theorem q1620 : (Jvm.Cond.fieldLink "TwoSidedTablesModel" (70 : Nat) "TwoSidedTablesModel" "sizes" "[I") ∈ lw_all := lw_g (lw_at lw_m7 79 rfl) rfl
theorem q1621 : (Jvm.Cond.fieldLink "TwoSidedTablesModel" (73 : Nat) "TwoSidedTablesModel" "cells" "[J") ∈ lw_all := lw_g (lw_at lw_m7 80 rfl) rfl
theorem q1622 : (Jvm.Cond.fieldLink "TwoSidedTablesModel" (76 : Nat) "TwoSidedTablesModel" "aside" "[J") ∈ lw_all := lw_g (lw_at lw_m7 81 rfl) rfl
theorem q1623 : (Jvm.Cond.fieldLink "TwoSidedTablesModel" (79 : Nat) "TwoSidedTablesModel" "held" "[I") ∈ lw_all := lw_g (lw_at lw_m7 82 rfl) rfl
theorem q1624 : (Jvm.Cond.fieldLink "TwoSidedTablesModel" (82 : Nat) "TwoSidedTablesModel" "thing" "[I") ∈ lw_all := lw_g (lw_at lw_m7 83 rfl) rfl
theorem q1625 : (Jvm.Cond.fieldLink "TwoSidedTablesModel" (85 : Nat) "TwoSidedTablesModel" "length" "[I") ∈ lw_all := lw_g (lw_at lw_m7 84 rfl) rfl
theorem q1626 : (Jvm.Cond.fieldLink "TwoSidedTablesModel" (88 : Nat) "TwoSidedTablesModel" "trace" "[I") ∈ lw_all := lw_g (lw_at lw_m7 85 rfl) rfl
theorem q1627 : (Jvm.Cond.fieldLink "TwoSidedTablesModel" (348 : Nat) "TwoSidedTablesModel" "traced" "I") ∈ lw_all := lw_g (lw_at lw_m7 86 rfl) rfl
theorem q1628 : (Jvm.Cond.fieldLink "TwoSidedTablesModel" (360 : Nat) "TwoSidedTablesModel" "kind" "I") ∈ lw_all := lw_g (lw_at lw_m7 87 rfl) rfl
theorem q1629 : (Jvm.Cond.fieldLink "TwoSidedTablesModel" (354 : Nat) "TwoSidedTablesModel" "number" "I") ∈ lw_all := lw_g (lw_at lw_m7 88 rfl) rfl
theorem q1630 : (Jvm.Cond.fieldLink "TwoSidedTablesModel" (366 : Nat) "TwoSidedTablesModel" "shift" "I") ∈ lw_all := lw_g (lw_at lw_m7 89 rfl) rfl
theorem q1631 : (Jvm.Cond.fieldLink "TwoSidedTablesModel" (378 : Nat) "TwoSidedTablesModel" "isParted" "Z") ∈ lw_all := lw_g (lw_at lw_m7 90 rfl) rfl
theorem q1632 : (Jvm.Cond.laysFinal "TwoSidedTablesModel" "TwoSidedTablesModel" "entry" "[I") ∈ lw_all := lw_g (lw_at lw_m7 91 rfl) rfl
theorem q1633 : (Jvm.Cond.soleField "TwoSidedTablesModel" "entry") ∈ lw_all := lw_g (lw_at lw_m7 92 rfl) rfl
theorem q1634 : (Jvm.Cond.laysFinal "TwoSidedTablesModel" "TwoSidedTablesModel" "keptEntry" "[I") ∈ lw_all := lw_g (lw_at lw_m7 93 rfl) rfl
theorem q1635 : (Jvm.Cond.soleField "TwoSidedTablesModel" "keptEntry") ∈ lw_all := lw_g (lw_at lw_m7 94 rfl) rfl
theorem q1636 : (Jvm.Cond.laysFinal "TwoSidedTablesModel" "TwoSidedTablesModel" "aside0" "[I") ∈ lw_all := lw_g (lw_at lw_m7 95 rfl) rfl
theorem q1637 : (Jvm.Cond.soleField "TwoSidedTablesModel" "aside0") ∈ lw_all := lw_g (lw_at lw_m7 96 rfl) rfl
theorem q1638 : (Jvm.Cond.lays "TwoSidedTablesModel" "TwoSidedTablesModel" "m" "I") ∈ lw_all := lw_g (lw_at lw_m7 97 rfl) rfl
theorem q1639 : (Jvm.Cond.soleField "TwoSidedTablesModel" "m") ∈ lw_all := lw_g (lw_at lw_m7 98 rfl) rfl
theorem q1640 : (Jvm.Cond.lays "TwoSidedTablesModel" "TwoSidedTablesModel" "n" "I") ∈ lw_all := lw_g (lw_at lw_m7 99 rfl) rfl
theorem q1641 : (Jvm.Cond.soleField "TwoSidedTablesModel" "n") ∈ lw_all := lw_g (lw_at lw_m7 100 rfl) rfl
theorem q1642 : (Jvm.Cond.lays "TwoSidedTablesModel" "TwoSidedTablesModel" "equations" "I") ∈ lw_all := lw_g (lw_at lw_m7 101 rfl) rfl
theorem q1643 : (Jvm.Cond.soleField "TwoSidedTablesModel" "equations") ∈ lw_all := lw_g (lw_at lw_m7 102 rfl) rfl
theorem q1644 : (Jvm.Cond.lays "TwoSidedTablesModel" "TwoSidedTablesModel" "z" "I") ∈ lw_all := lw_g (lw_at lw_m7 103 rfl) rfl
theorem q1645 : (Jvm.Cond.soleField "TwoSidedTablesModel" "z") ∈ lw_all := lw_g (lw_at lw_m7 104 rfl) rfl
theorem q1646 : (Jvm.Cond.lays "TwoSidedTablesModel" "TwoSidedTablesModel" "keptM" "I") ∈ lw_all := lw_g (lw_at lw_m7 105 rfl) rfl
theorem q1647 : (Jvm.Cond.soleField "TwoSidedTablesModel" "keptM") ∈ lw_all := lw_g (lw_at lw_m7 106 rfl) rfl
theorem q1648 : (Jvm.Cond.lays "TwoSidedTablesModel" "TwoSidedTablesModel" "keptN" "I") ∈ lw_all := lw_g (lw_at lw_m7 107 rfl) rfl
theorem q1649 : (Jvm.Cond.soleField "TwoSidedTablesModel" "keptN") ∈ lw_all := lw_g (lw_at lw_m7 108 rfl) rfl
theorem q1650 : (Jvm.Cond.lays "TwoSidedTablesModel" "TwoSidedTablesModel" "keptEquations" "I") ∈ lw_all := lw_g (lw_at lw_m7 109 rfl) rfl
theorem q1651 : (Jvm.Cond.soleField "TwoSidedTablesModel" "keptEquations") ∈ lw_all := lw_g (lw_at lw_m7 110 rfl) rfl
theorem q1652 : (Jvm.Cond.lays "TwoSidedTablesModel" "TwoSidedTablesModel" "keptZ" "I") ∈ lw_all := lw_g (lw_at lw_m7 111 rfl) rfl
theorem q1653 : (Jvm.Cond.soleField "TwoSidedTablesModel" "keptZ") ∈ lw_all := lw_g (lw_at lw_m7 112 rfl) rfl
theorem q1654 : (Jvm.Cond.laysFinal "TwoSidedTablesModel" "TwoSidedTablesModel" "kinds" "[I") ∈ lw_all := lw_g (lw_at lw_m7 113 rfl) rfl
theorem q1655 : (Jvm.Cond.soleField "TwoSidedTablesModel" "kinds") ∈ lw_all := lw_g (lw_at lw_m7 114 rfl) rfl
theorem q1656 : (Jvm.Cond.laysFinal "TwoSidedTablesModel" "TwoSidedTablesModel" "shifts" "[I") ∈ lw_all := lw_g (lw_at lw_m7 115 rfl) rfl
theorem q1657 : (Jvm.Cond.soleField "TwoSidedTablesModel" "shifts") ∈ lw_all := lw_g (lw_at lw_m7 116 rfl) rfl
theorem q1658 : (Jvm.Cond.laysFinal "TwoSidedTablesModel" "TwoSidedTablesModel" "keptKinds" "[I") ∈ lw_all := lw_g (lw_at lw_m7 117 rfl) rfl
theorem q1659 : (Jvm.Cond.soleField "TwoSidedTablesModel" "keptKinds") ∈ lw_all := lw_g (lw_at lw_m7 118 rfl) rfl
theorem q1660 : (Jvm.Cond.laysFinal "TwoSidedTablesModel" "TwoSidedTablesModel" "keptShifts" "[I") ∈ lw_all := lw_g (lw_at lw_m7 119 rfl) rfl
theorem q1661 : (Jvm.Cond.soleField "TwoSidedTablesModel" "keptShifts") ∈ lw_all := lw_g (lw_at lw_m7 120 rfl) rfl
theorem q1662 : (Jvm.Cond.lays "TwoSidedTablesModel" "TwoSidedTablesModel" "isKept" "Z") ∈ lw_all := lw_g (lw_at lw_m7 121 rfl) rfl
theorem q1663 : (Jvm.Cond.soleField "TwoSidedTablesModel" "isKept") ∈ lw_all := lw_g (lw_at lw_m7 122 rfl) rfl
theorem q1664 : (Jvm.Cond.laysFinal "TwoSidedTablesModel" "TwoSidedTablesModel" "tape" "[B") ∈ lw_all := lw_g (lw_at lw_m7 123 rfl) rfl
theorem q1665 : (Jvm.Cond.soleField "TwoSidedTablesModel" "tape") ∈ lw_all := lw_g (lw_at lw_m7 124 rfl) rfl
theorem q1666 : (Jvm.Cond.lays "TwoSidedTablesModel" "TwoSidedTablesModel" "taped" "I") ∈ lw_all := lw_g (lw_at lw_m7 125 rfl) rfl
theorem q1667 : (Jvm.Cond.soleField "TwoSidedTablesModel" "taped") ∈ lw_all := lw_g (lw_at lw_m7 126 rfl) rfl
theorem q1668 : (Jvm.Cond.lays "TwoSidedTablesModel" "TwoSidedTablesModel" "from" "I") ∈ lw_all := lw_g (lw_at lw_m7 127 rfl) rfl
theorem q1669 : (Jvm.Cond.soleField "TwoSidedTablesModel" "from") ∈ lw_all := lw_g (lw_at lw_m7 128 rfl) rfl
theorem q1670 : (Jvm.Cond.lays "TwoSidedTablesModel" "TwoSidedTablesModel" "to" "I") ∈ lw_all := lw_g (lw_at lw_m7 129 rfl) rfl
theorem q1671 : (Jvm.Cond.soleField "TwoSidedTablesModel" "to") ∈ lw_all := lw_g (lw_at lw_m7 130 rfl) rfl
theorem q1672 : (Jvm.Cond.lays "TwoSidedTablesModel" "TwoSidedTablesModel" "fault" "I") ∈ lw_all := lw_g (lw_at lw_m7 131 rfl) rfl
theorem q1673 : (Jvm.Cond.soleField "TwoSidedTablesModel" "fault") ∈ lw_all := lw_g (lw_at lw_m7 132 rfl) rfl
theorem q1674 : (Jvm.Cond.lays "TwoSidedTablesModel" "TwoSidedTablesModel" "tables" "I") ∈ lw_all := lw_g (lw_at lw_m7 133 rfl) rfl
theorem q1675 : (Jvm.Cond.soleField "TwoSidedTablesModel" "tables") ∈ lw_all := lw_g (lw_at lw_m7 134 rfl) rfl
theorem q1676 : (Jvm.Cond.laysFinal "TwoSidedTablesModel" "TwoSidedTablesModel" "placed" "[I") ∈ lw_all := lw_g (lw_at lw_m7 135 rfl) rfl
theorem q1677 : (Jvm.Cond.soleField "TwoSidedTablesModel" "placed") ∈ lw_all := lw_g (lw_at lw_m7 136 rfl) rfl
theorem q1678 : (Jvm.Cond.laysFinal "TwoSidedTablesModel" "TwoSidedTablesModel" "rows" "[J") ∈ lw_all := lw_g (lw_at lw_m7 137 rfl) rfl
theorem q1679 : (Jvm.Cond.soleField "TwoSidedTablesModel" "rows") ∈ lw_all := lw_g (lw_at lw_m7 138 rfl) rfl
theorem q1680 : (Jvm.Cond.laysFinal "TwoSidedTablesModel" "TwoSidedTablesModel" "leads" "[I") ∈ lw_all := lw_g (lw_at lw_m7 139 rfl) rfl
theorem q1681 : (Jvm.Cond.soleField "TwoSidedTablesModel" "leads") ∈ lw_all := lw_g (lw_at lw_m7 140 rfl) rfl
theorem q1682 : (Jvm.Cond.laysFinal "TwoSidedTablesModel" "TwoSidedTablesModel" "ledBy" "[I") ∈ lw_all := lw_g (lw_at lw_m7 141 rfl) rfl
theorem q1683 : (Jvm.Cond.soleField "TwoSidedTablesModel" "ledBy") ∈ lw_all := lw_g (lw_at lw_m7 142 rfl) rfl
theorem q1684 : (Jvm.Cond.lays "TwoSidedTablesModel" "TwoSidedTablesModel" "height" "I") ∈ lw_all := lw_g (lw_at lw_m7 143 rfl) rfl
theorem q1685 : (Jvm.Cond.soleField "TwoSidedTablesModel" "height") ∈ lw_all := lw_g (lw_at lw_m7 144 rfl) rfl
theorem q1686 : (Jvm.Cond.lays "TwoSidedTablesModel" "TwoSidedTablesModel" "width" "I") ∈ lw_all := lw_g (lw_at lw_m7 145 rfl) rfl
theorem q1687 : (Jvm.Cond.soleField "TwoSidedTablesModel" "width") ∈ lw_all := lw_g (lw_at lw_m7 146 rfl) rfl
theorem q1688 : (Jvm.Cond.lays "TwoSidedTablesModel" "TwoSidedTablesModel" "rank" "I") ∈ lw_all := lw_g (lw_at lw_m7 147 rfl) rfl
theorem q1689 : (Jvm.Cond.soleField "TwoSidedTablesModel" "rank") ∈ lw_all := lw_g (lw_at lw_m7 148 rfl) rfl
theorem q1690 : (Jvm.Cond.lays "TwoSidedTablesModel" "TwoSidedTablesModel" "changed" "I") ∈ lw_all := lw_g (lw_at lw_m7 149 rfl) rfl
theorem q1691 : (Jvm.Cond.soleField "TwoSidedTablesModel" "changed") ∈ lw_all := lw_g (lw_at lw_m7 150 rfl) rfl
theorem q1692 : (Jvm.Cond.lays "TwoSidedTablesModel" "TwoSidedTablesModel" "scale" "J") ∈ lw_all := lw_g (lw_at lw_m7 151 rfl) rfl
theorem q1693 : (Jvm.Cond.soleField "TwoSidedTablesModel" "scale") ∈ lw_all := lw_g (lw_at lw_m7 152 rfl) rfl
theorem q1694 : (Jvm.Cond.laysFinal "TwoSidedTablesModel" "TwoSidedTablesModel" "rule" "[J") ∈ lw_all := lw_g (lw_at lw_m7 153 rfl) rfl
theorem q1695 : (Jvm.Cond.soleField "TwoSidedTablesModel" "rule") ∈ lw_all := lw_g (lw_at lw_m7 154 rfl) rfl
theorem q1696 : (Jvm.Cond.laysFinal "TwoSidedTablesModel" "TwoSidedTablesModel" "left" "[J") ∈ lw_all := lw_g (lw_at lw_m7 155 rfl) rfl
theorem q1697 : (Jvm.Cond.soleField "TwoSidedTablesModel" "left") ∈ lw_all := lw_g (lw_at lw_m7 156 rfl) rfl
theorem q1698 : (Jvm.Cond.laysFinal "TwoSidedTablesModel" "TwoSidedTablesModel" "ruledBy" "[I") ∈ lw_all := lw_g (lw_at lw_m7 157 rfl) rfl
theorem q1699 : (Jvm.Cond.soleField "TwoSidedTablesModel" "ruledBy") ∈ lw_all := lw_g (lw_at lw_m7 158 rfl) rfl
theorem q1700 : (Jvm.Cond.laysFinal "TwoSidedTablesModel" "TwoSidedTablesModel" "sorts" "[I") ∈ lw_all := lw_g (lw_at lw_m7 159 rfl) rfl
theorem q1701 : (Jvm.Cond.soleField "TwoSidedTablesModel" "sorts") ∈ lw_all := lw_g (lw_at lw_m7 160 rfl) rfl
theorem q1702 : (Jvm.Cond.laysFinal "TwoSidedTablesModel" "TwoSidedTablesModel" "sizes" "[I") ∈ lw_all := lw_g (lw_at lw_m7 161 rfl) rfl
theorem q1703 : (Jvm.Cond.soleField "TwoSidedTablesModel" "sizes") ∈ lw_all := lw_g (lw_at lw_m7 162 rfl) rfl
theorem q1704 : (Jvm.Cond.laysFinal "TwoSidedTablesModel" "TwoSidedTablesModel" "cells" "[J") ∈ lw_all := lw_g (lw_at lw_m7 163 rfl) rfl
theorem q1705 : (Jvm.Cond.soleField "TwoSidedTablesModel" "cells") ∈ lw_all := lw_g (lw_at lw_m7 164 rfl) rfl
theorem q1706 : (Jvm.Cond.laysFinal "TwoSidedTablesModel" "TwoSidedTablesModel" "aside" "[J") ∈ lw_all := lw_g (lw_at lw_m7 165 rfl) rfl
theorem q1707 : (Jvm.Cond.soleField "TwoSidedTablesModel" "aside") ∈ lw_all := lw_g (lw_at lw_m7 166 rfl) rfl
theorem q1708 : (Jvm.Cond.laysFinal "TwoSidedTablesModel" "TwoSidedTablesModel" "held" "[I") ∈ lw_all := lw_g (lw_at lw_m7 167 rfl) rfl
theorem q1709 : (Jvm.Cond.soleField "TwoSidedTablesModel" "held") ∈ lw_all := lw_g (lw_at lw_m7 168 rfl) rfl
theorem q1710 : (Jvm.Cond.laysFinal "TwoSidedTablesModel" "TwoSidedTablesModel" "thing" "[I") ∈ lw_all := lw_g (lw_at lw_m7 169 rfl) rfl
theorem q1711 : (Jvm.Cond.soleField "TwoSidedTablesModel" "thing") ∈ lw_all := lw_g (lw_at lw_m7 170 rfl) rfl
theorem q1712 : (Jvm.Cond.laysFinal "TwoSidedTablesModel" "TwoSidedTablesModel" "length" "[I") ∈ lw_all := lw_g (lw_at lw_m7 171 rfl) rfl
theorem q1713 : (Jvm.Cond.soleField "TwoSidedTablesModel" "length") ∈ lw_all := lw_g (lw_at lw_m7 172 rfl) rfl
theorem q1714 : (Jvm.Cond.laysFinal "TwoSidedTablesModel" "TwoSidedTablesModel" "trace" "[I") ∈ lw_all := lw_g (lw_at lw_m7 173 rfl) rfl
theorem q1715 : (Jvm.Cond.soleField "TwoSidedTablesModel" "trace") ∈ lw_all := lw_g (lw_at lw_m7 174 rfl) rfl
theorem q1716 : (Jvm.Cond.lays "TwoSidedTablesModel" "TwoSidedTablesModel" "traced" "I") ∈ lw_all := lw_g (lw_at lw_m7 175 rfl) rfl
theorem q1717 : (Jvm.Cond.soleField "TwoSidedTablesModel" "traced") ∈ lw_all := lw_g (lw_at lw_m7 176 rfl) rfl
theorem q1718 : (Jvm.Cond.lays "TwoSidedTablesModel" "TwoSidedTablesModel" "kind" "I") ∈ lw_all := lw_g (lw_at lw_m7 177 rfl) rfl
theorem q1719 : (Jvm.Cond.soleField "TwoSidedTablesModel" "kind") ∈ lw_all := lw_g (lw_at lw_m7 178 rfl) rfl
theorem q1720 : (Jvm.Cond.lays "TwoSidedTablesModel" "TwoSidedTablesModel" "number" "I") ∈ lw_all := lw_g (lw_at lw_m7 179 rfl) rfl
theorem q1721 : (Jvm.Cond.soleField "TwoSidedTablesModel" "number") ∈ lw_all := lw_g (lw_at lw_m7 180 rfl) rfl
theorem q1722 : (Jvm.Cond.lays "TwoSidedTablesModel" "TwoSidedTablesModel" "shift" "I") ∈ lw_all := lw_g (lw_at lw_m7 181 rfl) rfl
theorem q1723 : (Jvm.Cond.soleField "TwoSidedTablesModel" "shift") ∈ lw_all := lw_g (lw_at lw_m7 182 rfl) rfl
theorem q1724 : (Jvm.Cond.lays "TwoSidedTablesModel" "TwoSidedTablesModel" "isParted" "Z") ∈ lw_all := lw_g (lw_at lw_m7 183 rfl) rfl
theorem q1725 : (Jvm.Cond.soleField "TwoSidedTablesModel" "isParted") ∈ lw_all := lw_g (lw_at lw_m7 184 rfl) rfl
theorem q1726 : (Jvm.Cond.superclass "TwoSidedTablesModel" "java/lang/Object") ∈ lw_all := lw_g (lw_at lw_m7 185 rfl) rfl
theorem q1728 : (Jvm.Cond.instanceMethod ({ cls := "TwoSidedTablesModel", name := "size", desc := "(II)I" } : Jvm.MethodName)) ∈ lw_all := lw_g (lw_at lw_m7 187 rfl) rfl
theorem q1729 : (Jvm.Cond.selects "TwoSidedTablesModel" ({ cls := "TwoSidedTablesModel", name := "size", desc := "(II)I" } : Jvm.MethodName) ({ cls := "TwoSidedTablesModel", name := "size", desc := "(II)I" } : Jvm.MethodName)) ∈ lw_all := lw_g (lw_at lw_m7 188 rfl) rfl
theorem q1730 : (Jvm.Cond.code ({ cls := "TwoSidedTablesModel", name := "size", desc := "(II)I" } : Jvm.MethodName) prog_24_method_11_code (5 : Nat) (Option.some Jvm.ClassFile.FieldType.int)) ∈ lw_all := lw_g (lw_at lw_m7 189 rfl) rfl
theorem q1731 : (Jvm.Cond.constantLong "TwoSidedTablesModel" (118 : Nat) (3 : Int64)) ∈ lw_all := lw_g (lw_at lw_m7 190 rfl) rfl
theorem q1732 : (Jvm.Cond.methodLink "TwoSidedTablesModel" (99 : Nat) ({ cls := "TwoSidedTablesModel", name := "in", desc := "(JJJ)Z" } : Jvm.MethodName)) ∈ lw_all := lw_g (lw_at lw_m7 191 rfl) rfl
theorem q1733 : (Jvm.Cond.static ({ cls := "TwoSidedTablesModel", name := "in", desc := "(JJJ)Z" } : Jvm.MethodName)) ∈ lw_all := lw_g (lw_at lw_m7 192 rfl) rfl
theorem q1734 : (Jvm.Cond.code ({ cls := "TwoSidedTablesModel", name := "in", desc := "(JJJ)Z" } : Jvm.MethodName) prog_24_method_2_code (6 : Nat) (Option.some Jvm.ClassFile.FieldType.boolean)) ∈ lw_all := lw_g (lw_at lw_m7 193 rfl) rfl
theorem q1736 : (Jvm.Cond.instanceMethod ({ cls := "TwoSidedTablesModel", name := "set", desc := "(IIII)I" } : Jvm.MethodName)) ∈ lw_all := lw_g (lw_at lw_m7 195 rfl) rfl
theorem q1737 : (Jvm.Cond.selects "TwoSidedTablesModel" ({ cls := "TwoSidedTablesModel", name := "set", desc := "(IIII)I" } : Jvm.MethodName) ({ cls := "TwoSidedTablesModel", name := "set", desc := "(IIII)I" } : Jvm.MethodName)) ∈ lw_all := lw_g (lw_at lw_m7 196 rfl) rfl
theorem q1738 : (Jvm.Cond.code ({ cls := "TwoSidedTablesModel", name := "set", desc := "(IIII)I" } : Jvm.MethodName) prog_24_method_12_code (6 : Nat) (Option.some Jvm.ClassFile.FieldType.int)) ∈ lw_all := lw_g (lw_at lw_m7 197 rfl) rfl
theorem q1739 : (Jvm.Cond.methodLink "TwoSidedTablesModel" (120 : Nat) ({ cls := "TwoSidedTablesModel", name := "isPlace", desc := "(III)Z" } : Jvm.MethodName)) ∈ lw_all := lw_g (lw_at lw_m7 198 rfl) rfl
theorem q1740 : (Jvm.Cond.privateMethod ({ cls := "TwoSidedTablesModel", name := "isPlace", desc := "(III)Z" } : Jvm.MethodName)) ∈ lw_tbl := lw_at lw_m7 199 rfl
theorem q1741 : (Jvm.Cond.instanceMethod ({ cls := "TwoSidedTablesModel", name := "isPlace", desc := "(III)Z" } : Jvm.MethodName)) ∈ lw_all := lw_g (lw_at lw_m7 200 rfl) rfl
theorem q1742 : (Jvm.Cond.code ({ cls := "TwoSidedTablesModel", name := "isPlace", desc := "(III)Z" } : Jvm.MethodName) prog_24_method_9_code (4 : Nat) (Option.some Jvm.ClassFile.FieldType.boolean)) ∈ lw_all := lw_g (lw_at lw_m7 201 rfl) rfl
theorem q1743 : (Jvm.Cond.constantLong "TwoSidedTablesModel" (97 : Nat) (2 : Int64)) ∈ lw_all := lw_g (lw_at lw_m7 202 rfl) rfl
theorem q1744 : (Jvm.Cond.methodLink "TwoSidedTablesModel" (103 : Nat) ({ cls := "TwoSidedTablesModel", name := "rowsOf", desc := "(I)I" } : Jvm.MethodName)) ∈ lw_all := lw_g (lw_at lw_m7 203 rfl) rfl
theorem q1745 : (Jvm.Cond.privateMethod ({ cls := "TwoSidedTablesModel", name := "rowsOf", desc := "(I)I" } : Jvm.MethodName)) ∈ lw_tbl := lw_at lw_m7 204 rfl
theorem q1746 : (Jvm.Cond.instanceMethod ({ cls := "TwoSidedTablesModel", name := "rowsOf", desc := "(I)I" } : Jvm.MethodName)) ∈ lw_all := lw_g (lw_at lw_m7 205 rfl) rfl
theorem q1747 : (Jvm.Cond.code ({ cls := "TwoSidedTablesModel", name := "rowsOf", desc := "(I)I" } : Jvm.MethodName) prog_24_method_6_code (2 : Nat) (Option.some Jvm.ClassFile.FieldType.int)) ∈ lw_all := lw_g (lw_at lw_m7 206 rfl) rfl
theorem q1748 : (Jvm.Cond.methodLink "TwoSidedTablesModel" (107 : Nat) ({ cls := "TwoSidedTablesModel", name := "columnsOf", desc := "(I)I" } : Jvm.MethodName)) ∈ lw_all := lw_g (lw_at lw_m7 207 rfl) rfl
theorem q1749 : (Jvm.Cond.privateMethod ({ cls := "TwoSidedTablesModel", name := "columnsOf", desc := "(I)I" } : Jvm.MethodName)) ∈ lw_tbl := lw_at lw_m7 208 rfl
theorem q1750 : (Jvm.Cond.instanceMethod ({ cls := "TwoSidedTablesModel", name := "columnsOf", desc := "(I)I" } : Jvm.MethodName)) ∈ lw_all := lw_g (lw_at lw_m7 209 rfl) rfl
theorem q1751 : (Jvm.Cond.code ({ cls := "TwoSidedTablesModel", name := "columnsOf", desc := "(I)I" } : Jvm.MethodName) prog_24_method_7_code (2 : Nat) (Option.some Jvm.ClassFile.FieldType.int)) ∈ lw_all := lw_g (lw_at lw_m7 210 rfl) rfl
theorem q1752 : (Jvm.Cond.methodLink "TwoSidedTablesModel" (124 : Nat) ({ cls := "TwoSidedTablesModel", name := "isEntry", desc := "(II)Z" } : Jvm.MethodName)) ∈ lw_all := lw_g (lw_at lw_m7 211 rfl) rfl
theorem q1753 : (Jvm.Cond.static ({ cls := "TwoSidedTablesModel", name := "isEntry", desc := "(II)Z" } : Jvm.MethodName)) ∈ lw_all := lw_g (lw_at lw_m7 212 rfl) rfl
theorem q1754 : (Jvm.Cond.code ({ cls := "TwoSidedTablesModel", name := "isEntry", desc := "(II)Z" } : Jvm.MethodName) prog_24_method_10_code (2 : Nat) (Option.some Jvm.ClassFile.FieldType.boolean)) ∈ lw_all := lw_g (lw_at lw_m7 213 rfl) rfl
theorem q1755 : (Jvm.Cond.constantLong "TwoSidedTablesModel" (110 : Nat) (-50 : Int64)) ∈ lw_all := lw_g (lw_at lw_m7 214 rfl) rfl
theorem q1756 : (Jvm.Cond.constantLong "TwoSidedTablesModel" (112 : Nat) (50 : Int64)) ∈ lw_all := lw_g (lw_at lw_m7 215 rfl) rfl
theorem q1757 : (Jvm.Cond.constantLong "TwoSidedTablesModel" (114 : Nat) (-5 : Int64)) ∈ lw_all := lw_g (lw_at lw_m7 216 rfl) rfl
theorem q1758 : (Jvm.Cond.constantLong "TwoSidedTablesModel" (116 : Nat) (5 : Int64)) ∈ lw_all := lw_g (lw_at lw_m7 217 rfl) rfl
theorem q1759 : (Jvm.Cond.methodLink "TwoSidedTablesModel" (128 : Nat) ({ cls := "TwoSidedTablesModel", name := "its", desc := "(III)I" } : Jvm.MethodName)) ∈ lw_all := lw_g (lw_at lw_m7 218 rfl) rfl
theorem q1760 : (Jvm.Cond.privateMethod ({ cls := "TwoSidedTablesModel", name := "its", desc := "(III)I" } : Jvm.MethodName)) ∈ lw_tbl := lw_at lw_m7 219 rfl
theorem q1761 : (Jvm.Cond.instanceMethod ({ cls := "TwoSidedTablesModel", name := "its", desc := "(III)I" } : Jvm.MethodName)) ∈ lw_all := lw_g (lw_at lw_m7 220 rfl) rfl
theorem q1762 : (Jvm.Cond.code ({ cls := "TwoSidedTablesModel", name := "its", desc := "(III)I" } : Jvm.MethodName) prog_24_method_8_code (4 : Nat) (Option.some Jvm.ClassFile.FieldType.int)) ∈ lw_all := lw_g (lw_at lw_m7 221 rfl) rfl
theorem q1764 : (Jvm.Cond.instanceMethod ({ cls := "TwoSidedTablesModel", name := "at", desc := "(III)I" } : Jvm.MethodName)) ∈ lw_all := lw_g (lw_at lw_m7 223 rfl) rfl
theorem q1765 : (Jvm.Cond.selects "TwoSidedTablesModel" ({ cls := "TwoSidedTablesModel", name := "at", desc := "(III)I" } : Jvm.MethodName) ({ cls := "TwoSidedTablesModel", name := "at", desc := "(III)I" } : Jvm.MethodName)) ∈ lw_all := lw_g (lw_at lw_m7 224 rfl) rfl
theorem q1766 : (Jvm.Cond.code ({ cls := "TwoSidedTablesModel", name := "at", desc := "(III)I" } : Jvm.MethodName) prog_24_method_13_code (4 : Nat) (Option.some Jvm.ClassFile.FieldType.int)) ∈ lw_all := lw_g (lw_at lw_m7 225 rfl) rfl
theorem q1768 : (Jvm.Cond.instanceMethod ({ cls := "TwoSidedTablesModel", name := "det", desc := "(I)J" } : Jvm.MethodName)) ∈ lw_all := lw_g (lw_at lw_m7 227 rfl) rfl
theorem q1769 : (Jvm.Cond.selects "TwoSidedTablesModel" ({ cls := "TwoSidedTablesModel", name := "det", desc := "(I)J" } : Jvm.MethodName) ({ cls := "TwoSidedTablesModel", name := "det", desc := "(I)J" } : Jvm.MethodName)) ∈ lw_all := lw_g (lw_at lw_m7 228 rfl) rfl
theorem q1770 : (Jvm.Cond.code ({ cls := "TwoSidedTablesModel", name := "det", desc := "(I)J" } : Jvm.MethodName) prog_24_method_18_code (2 : Nat) (Option.some Jvm.ClassFile.FieldType.long)) ∈ lw_all := lw_g (lw_at lw_m7 229 rfl) rfl
theorem q1771 : (Jvm.Cond.methodLink "TwoSidedTablesModel" (136 : Nat) ({ cls := "TwoSidedTablesModel", name := "detOf", desc := "(I)J" } : Jvm.MethodName)) ∈ lw_all := lw_g (lw_at lw_m7 230 rfl) rfl
theorem q1772 : (Jvm.Cond.privateMethod ({ cls := "TwoSidedTablesModel", name := "detOf", desc := "(I)J" } : Jvm.MethodName)) ∈ lw_tbl := lw_at lw_m7 231 rfl
theorem q1773 : (Jvm.Cond.instanceMethod ({ cls := "TwoSidedTablesModel", name := "detOf", desc := "(I)J" } : Jvm.MethodName)) ∈ lw_all := lw_g (lw_at lw_m7 232 rfl) rfl
theorem q1774 : (Jvm.Cond.code ({ cls := "TwoSidedTablesModel", name := "detOf", desc := "(I)J" } : Jvm.MethodName) prog_24_method_15_code (3 : Nat) (Option.some Jvm.ClassFile.FieldType.long)) ∈ lw_all := lw_g (lw_at lw_m7 233 rfl) rfl
theorem q1775 : (Jvm.Cond.methodLink "TwoSidedTablesModel" (132 : Nat) ({ cls := "TwoSidedTablesModel", name := "cross", desc := "(IIIII)J" } : Jvm.MethodName)) ∈ lw_all := lw_g (lw_at lw_m7 234 rfl) rfl
theorem q1776 : (Jvm.Cond.privateMethod ({ cls := "TwoSidedTablesModel", name := "cross", desc := "(IIIII)J" } : Jvm.MethodName)) ∈ lw_tbl := lw_at lw_m7 235 rfl
theorem q1777 : (Jvm.Cond.instanceMethod ({ cls := "TwoSidedTablesModel", name := "cross", desc := "(IIIII)J" } : Jvm.MethodName)) ∈ lw_all := lw_g (lw_at lw_m7 236 rfl) rfl
theorem q1778 : (Jvm.Cond.code ({ cls := "TwoSidedTablesModel", name := "cross", desc := "(IIIII)J" } : Jvm.MethodName) prog_24_method_14_code (6 : Nat) (Option.some Jvm.ClassFile.FieldType.long)) ∈ lw_all := lw_g (lw_at lw_m7 237 rfl) rfl
theorem q1779 : (Jvm.Cond.methodLink "TwoSidedTablesModel" (140 : Nat) ({ cls := "TwoSidedTablesModel", name := "told", desc := "(I)J" } : Jvm.MethodName)) ∈ lw_all := lw_g (lw_at lw_m7 238 rfl) rfl
theorem q1780 : (Jvm.Cond.static ({ cls := "TwoSidedTablesModel", name := "told", desc := "(I)J" } : Jvm.MethodName)) ∈ lw_all := lw_g (lw_at lw_m7 239 rfl) rfl
theorem q1781 : (Jvm.Cond.code ({ cls := "TwoSidedTablesModel", name := "told", desc := "(I)J" } : Jvm.MethodName) prog_24_method_3_code (1 : Nat) (Option.some Jvm.ClassFile.FieldType.long)) ∈ lw_all := lw_g (lw_at lw_m8 0 rfl) rfl
theorem q1782 : (Jvm.Cond.constantLong "TwoSidedTablesModel" (91 : Nat) (4000000000000000000 : Int64)) ∈ lw_all := lw_g (lw_at lw_m8 1 rfl) rfl
theorem q1784 : (Jvm.Cond.instanceMethod ({ cls := "TwoSidedTablesModel", name := "diagonal", desc := "(I)J" } : Jvm.MethodName)) ∈ lw_all := lw_g (lw_at lw_m8 3 rfl) rfl
theorem q1785 : (Jvm.Cond.selects "TwoSidedTablesModel" ({ cls := "TwoSidedTablesModel", name := "diagonal", desc := "(I)J" } : Jvm.MethodName) ({ cls := "TwoSidedTablesModel", name := "diagonal", desc := "(I)J" } : Jvm.MethodName)) ∈ lw_all := lw_g (lw_at lw_m8 4 rfl) rfl
theorem q1786 : (Jvm.Cond.code ({ cls := "TwoSidedTablesModel", name := "diagonal", desc := "(I)J" } : Jvm.MethodName) prog_24_method_19_code (2 : Nat) (Option.some Jvm.ClassFile.FieldType.long)) ∈ lw_all := lw_g (lw_at lw_m8 5 rfl) rfl
theorem q1787 : (Jvm.Cond.methodLink "TwoSidedTablesModel" (143 : Nat) ({ cls := "TwoSidedTablesModel", name := "sumDown", desc := "(I)J" } : Jvm.MethodName)) ∈ lw_all := lw_g (lw_at lw_m8 6 rfl) rfl
theorem q1788 : (Jvm.Cond.privateMethod ({ cls := "TwoSidedTablesModel", name := "sumDown", desc := "(I)J" } : Jvm.MethodName)) ∈ lw_tbl := lw_at lw_m8 7 rfl
theorem q1789 : (Jvm.Cond.instanceMethod ({ cls := "TwoSidedTablesModel", name := "sumDown", desc := "(I)J" } : Jvm.MethodName)) ∈ lw_all := lw_g (lw_at lw_m8 8 rfl) rfl
theorem q1790 : (Jvm.Cond.code ({ cls := "TwoSidedTablesModel", name := "sumDown", desc := "(I)J" } : Jvm.MethodName) prog_24_method_16_code (5 : Nat) (Option.some Jvm.ClassFile.FieldType.long)) ∈ lw_all := lw_g (lw_at lw_m8 9 rfl) rfl
theorem q1792 : (Jvm.Cond.instanceMethod ({ cls := "TwoSidedTablesModel", name := "character", desc := "(II)J" } : Jvm.MethodName)) ∈ lw_all := lw_g (lw_at lw_m8 11 rfl) rfl
theorem q1793 : (Jvm.Cond.selects "TwoSidedTablesModel" ({ cls := "TwoSidedTablesModel", name := "character", desc := "(II)J" } : Jvm.MethodName) ({ cls := "TwoSidedTablesModel", name := "character", desc := "(II)J" } : Jvm.MethodName)) ∈ lw_all := lw_g (lw_at lw_m8 12 rfl) rfl
theorem q1794 : (Jvm.Cond.code ({ cls := "TwoSidedTablesModel", name := "character", desc := "(II)J" } : Jvm.MethodName) prog_24_method_20_code (4 : Nat) (Option.some Jvm.ClassFile.FieldType.long)) ∈ lw_all := lw_g (lw_at lw_m8 13 rfl) rfl
theorem q1795 : (Jvm.Cond.methodLink "TwoSidedTablesModel" (146 : Nat) ({ cls := "TwoSidedTablesModel", name := "pairs", desc := "(I)J" } : Jvm.MethodName)) ∈ lw_all := lw_g (lw_at lw_m8 14 rfl) rfl
theorem q1796 : (Jvm.Cond.privateMethod ({ cls := "TwoSidedTablesModel", name := "pairs", desc := "(I)J" } : Jvm.MethodName)) ∈ lw_tbl := lw_at lw_m8 15 rfl
theorem q1797 : (Jvm.Cond.instanceMethod ({ cls := "TwoSidedTablesModel", name := "pairs", desc := "(I)J" } : Jvm.MethodName)) ∈ lw_all := lw_g (lw_at lw_m8 16 rfl) rfl
theorem q1798 : (Jvm.Cond.code ({ cls := "TwoSidedTablesModel", name := "pairs", desc := "(I)J" } : Jvm.MethodName) prog_24_method_17_code (6 : Nat) (Option.some Jvm.ClassFile.FieldType.long)) ∈ lw_all := lw_g (lw_at lw_m8 17 rfl) rfl
theorem q1800 : (Jvm.Cond.instanceMethod ({ cls := "TwoSidedTablesModel", name := "feed", desc := "(JI)I" } : Jvm.MethodName)) ∈ lw_all := lw_g (lw_at lw_m8 19 rfl) rfl
theorem q1801 : (Jvm.Cond.selects "TwoSidedTablesModel" ({ cls := "TwoSidedTablesModel", name := "feed", desc := "(JI)I" } : Jvm.MethodName) ({ cls := "TwoSidedTablesModel", name := "feed", desc := "(JI)I" } : Jvm.MethodName)) ∈ lw_all := lw_g (lw_at lw_m8 20 rfl) rfl
theorem q1802 : (Jvm.Cond.code ({ cls := "TwoSidedTablesModel", name := "feed", desc := "(JI)I" } : Jvm.MethodName) prog_24_method_21_code (5 : Nat) (Option.some Jvm.ClassFile.FieldType.int)) ∈ lw_all := lw_g (lw_at lw_m8 21 rfl) rfl
theorem q1803 : (Jvm.Cond.constantLong "TwoSidedTablesModel" (149 : Nat) (8 : Int64)) ∈ lw_all := lw_g (lw_at lw_m8 22 rfl) rfl
theorem q1805 : (Jvm.Cond.instanceMethod ({ cls := "TwoSidedTablesModel", name := "text", desc := "()I" } : Jvm.MethodName)) ∈ lw_all := lw_g (lw_at lw_m8 24 rfl) rfl
theorem q1806 : (Jvm.Cond.selects "TwoSidedTablesModel" ({ cls := "TwoSidedTablesModel", name := "text", desc := "()I" } : Jvm.MethodName) ({ cls := "TwoSidedTablesModel", name := "text", desc := "()I" } : Jvm.MethodName)) ∈ lw_all := lw_g (lw_at lw_m8 25 rfl) rfl
theorem q1807 : (Jvm.Cond.code ({ cls := "TwoSidedTablesModel", name := "text", desc := "()I" } : Jvm.MethodName) prog_24_method_30_code (1 : Nat) (Option.some Jvm.ClassFile.FieldType.int)) ∈ lw_all := lw_g (lw_at lw_m8 26 rfl) rfl
theorem q1808 : (Jvm.Cond.methodLink "TwoSidedTablesModel" (186 : Nat) ({ cls := "TwoSidedTablesModel", name := "saves", desc := "([I[I)V" } : Jvm.MethodName)) ∈ lw_all := lw_g (lw_at lw_m8 27 rfl) rfl
theorem q1809 : (Jvm.Cond.privateMethod ({ cls := "TwoSidedTablesModel", name := "saves", desc := "([I[I)V" } : Jvm.MethodName)) ∈ lw_tbl := lw_at lw_m8 28 rfl
theorem q1810 : (Jvm.Cond.instanceMethod ({ cls := "TwoSidedTablesModel", name := "saves", desc := "([I[I)V" } : Jvm.MethodName)) ∈ lw_all := lw_g (lw_at lw_m8 29 rfl) rfl
theorem q1811 : (Jvm.Cond.code ({ cls := "TwoSidedTablesModel", name := "saves", desc := "([I[I)V" } : Jvm.MethodName) prog_24_method_29_code (4 : Nat) (Option.none : Option Jvm.ClassFile.FieldType)) ∈ lw_all := lw_g (lw_at lw_m8 30 rfl) rfl
theorem q1812 : (Jvm.Cond.methodLink "TwoSidedTablesModel" (173 : Nat) ({ cls := "TwoSidedTablesModel", name := "next", desc := "()V" } : Jvm.MethodName)) ∈ lw_all := lw_g (lw_at lw_m8 31 rfl) rfl
theorem q1813 : (Jvm.Cond.privateMethod ({ cls := "TwoSidedTablesModel", name := "next", desc := "()V" } : Jvm.MethodName)) ∈ lw_tbl := lw_at lw_m8 32 rfl
theorem q1814 : (Jvm.Cond.instanceMethod ({ cls := "TwoSidedTablesModel", name := "next", desc := "()V" } : Jvm.MethodName)) ∈ lw_all := lw_g (lw_at lw_m8 33 rfl) rfl
theorem q1815 : (Jvm.Cond.code ({ cls := "TwoSidedTablesModel", name := "next", desc := "()V" } : Jvm.MethodName) prog_24_method_24_code (3 : Nat) (Option.none : Option Jvm.ClassFile.FieldType)) ∈ lw_all := lw_g (lw_at lw_m8 34 rfl) rfl
theorem q1816 : (Jvm.Cond.methodLink "TwoSidedTablesModel" (160 : Nat) ({ cls := "TwoSidedTablesModel", name := "isLetter", desc := "(I)Z" } : Jvm.MethodName)) ∈ lw_all := lw_g (lw_at lw_m8 35 rfl) rfl
theorem q1817 : (Jvm.Cond.static ({ cls := "TwoSidedTablesModel", name := "isLetter", desc := "(I)Z" } : Jvm.MethodName)) ∈ lw_all := lw_g (lw_at lw_m8 36 rfl) rfl
theorem q1818 : (Jvm.Cond.code ({ cls := "TwoSidedTablesModel", name := "isLetter", desc := "(I)Z" } : Jvm.MethodName) prog_24_method_23_code (1 : Nat) (Option.some Jvm.ClassFile.FieldType.boolean)) ∈ lw_all := lw_g (lw_at lw_m8 37 rfl) rfl
theorem q1819 : (Jvm.Cond.methodLink "TwoSidedTablesModel" (164 : Nat) ({ cls := "TwoSidedTablesModel", name := "isDigit", desc := "(I)Z" } : Jvm.MethodName)) ∈ lw_all := lw_g (lw_at lw_m8 38 rfl) rfl
theorem q1820 : (Jvm.Cond.static ({ cls := "TwoSidedTablesModel", name := "isDigit", desc := "(I)Z" } : Jvm.MethodName)) ∈ lw_all := lw_g (lw_at lw_m8 39 rfl) rfl
theorem q1821 : (Jvm.Cond.code ({ cls := "TwoSidedTablesModel", name := "isDigit", desc := "(I)Z" } : Jvm.MethodName) prog_24_method_22_code (1 : Nat) (Option.some Jvm.ClassFile.FieldType.boolean)) ∈ lw_all := lw_g (lw_at lw_m8 40 rfl) rfl
theorem q1822 : (Jvm.Cond.methodLink "TwoSidedTablesModel" (190 : Nat) ({ cls := "TwoSidedTablesModel", name := "table", desc := "()V" } : Jvm.MethodName)) ∈ lw_all := lw_g (lw_at lw_m8 41 rfl) rfl
theorem q1823 : (Jvm.Cond.privateMethod ({ cls := "TwoSidedTablesModel", name := "table", desc := "()V" } : Jvm.MethodName)) ∈ lw_tbl := lw_at lw_m8 42 rfl
theorem q1824 : (Jvm.Cond.instanceMethod ({ cls := "TwoSidedTablesModel", name := "table", desc := "()V" } : Jvm.MethodName)) ∈ lw_all := lw_g (lw_at lw_m8 43 rfl) rfl
theorem q1825 : (Jvm.Cond.code ({ cls := "TwoSidedTablesModel", name := "table", desc := "()V" } : Jvm.MethodName) prog_24_method_28_code (4 : Nat) (Option.none : Option Jvm.ClassFile.FieldType)) ∈ lw_all := lw_g (lw_at lw_m8 44 rfl) rfl
theorem q1826 : (Jvm.Cond.methodLink "TwoSidedTablesModel" (170 : Nat) ({ cls := "TwoSidedTablesModel", name := "is", desc := "(I)Z" } : Jvm.MethodName)) ∈ lw_all := lw_g (lw_at lw_m8 45 rfl) rfl
theorem q1827 : (Jvm.Cond.privateMethod ({ cls := "TwoSidedTablesModel", name := "is", desc := "(I)Z" } : Jvm.MethodName)) ∈ lw_tbl := lw_at lw_m8 46 rfl
theorem q1828 : (Jvm.Cond.instanceMethod ({ cls := "TwoSidedTablesModel", name := "is", desc := "(I)Z" } : Jvm.MethodName)) ∈ lw_all := lw_g (lw_at lw_m8 47 rfl) rfl
theorem q1829 : (Jvm.Cond.code ({ cls := "TwoSidedTablesModel", name := "is", desc := "(I)Z" } : Jvm.MethodName) prog_24_method_25_code (2 : Nat) (Option.some Jvm.ClassFile.FieldType.boolean)) ∈ lw_all := lw_g (lw_at lw_m8 48 rfl) rfl
theorem q1830 : (Jvm.Cond.methodLink "TwoSidedTablesModel" (176 : Nat) ({ cls := "TwoSidedTablesModel", name := "fails", desc := "()V" } : Jvm.MethodName)) ∈ lw_all := lw_g (lw_at lw_m8 49 rfl) rfl
theorem q1831 : (Jvm.Cond.privateMethod ({ cls := "TwoSidedTablesModel", name := "fails", desc := "()V" } : Jvm.MethodName)) ∈ lw_tbl := lw_at lw_m8 50 rfl
theorem q1832 : (Jvm.Cond.instanceMethod ({ cls := "TwoSidedTablesModel", name := "fails", desc := "()V" } : Jvm.MethodName)) ∈ lw_all := lw_g (lw_at lw_m8 51 rfl) rfl
theorem q1833 : (Jvm.Cond.code ({ cls := "TwoSidedTablesModel", name := "fails", desc := "()V" } : Jvm.MethodName) prog_24_method_26_code (1 : Nat) (Option.none : Option Jvm.ClassFile.FieldType)) ∈ lw_all := lw_g (lw_at lw_m8 52 rfl) rfl
theorem q1834 : (Jvm.Cond.methodLink "TwoSidedTablesModel" (179 : Nat) ({ cls := "TwoSidedTablesModel", name := "entryOf", desc := "(III)V" } : Jvm.MethodName)) ∈ lw_all := lw_g (lw_at lw_m8 53 rfl) rfl
theorem q1835 : (Jvm.Cond.privateMethod ({ cls := "TwoSidedTablesModel", name := "entryOf", desc := "(III)V" } : Jvm.MethodName)) ∈ lw_tbl := lw_at lw_m8 54 rfl
theorem q1836 : (Jvm.Cond.instanceMethod ({ cls := "TwoSidedTablesModel", name := "entryOf", desc := "(III)V" } : Jvm.MethodName)) ∈ lw_all := lw_g (lw_at lw_m8 55 rfl) rfl
theorem q1837 : (Jvm.Cond.code ({ cls := "TwoSidedTablesModel", name := "entryOf", desc := "(III)V" } : Jvm.MethodName) prog_24_method_27_code (7 : Nat) (Option.none : Option Jvm.ClassFile.FieldType)) ∈ lw_all := lw_g (lw_at lw_m8 56 rfl) rfl
theorem q1839 : (Jvm.Cond.instanceMethod ({ cls := "TwoSidedTablesModel", name := "equation", desc := "(II)I" } : Jvm.MethodName)) ∈ lw_all := lw_g (lw_at lw_m8 58 rfl) rfl
theorem q1840 : (Jvm.Cond.selects "TwoSidedTablesModel" ({ cls := "TwoSidedTablesModel", name := "equation", desc := "(II)I" } : Jvm.MethodName) ({ cls := "TwoSidedTablesModel", name := "equation", desc := "(II)I" } : Jvm.MethodName)) ∈ lw_all := lw_g (lw_at lw_m8 59 rfl) rfl
theorem q1841 : (Jvm.Cond.code ({ cls := "TwoSidedTablesModel", name := "equation", desc := "(II)I" } : Jvm.MethodName) prog_24_method_34_code (3 : Nat) (Option.some Jvm.ClassFile.FieldType.int)) ∈ lw_all := lw_g (lw_at lw_m8 60 rfl) rfl
theorem q1842 : (Jvm.Cond.methodLink "TwoSidedTablesModel" (198 : Nat) ({ cls := "TwoSidedTablesModel", name := "isKind", desc := "(I)Z" } : Jvm.MethodName)) ∈ lw_all := lw_g (lw_at lw_m8 61 rfl) rfl
theorem q1843 : (Jvm.Cond.static ({ cls := "TwoSidedTablesModel", name := "isKind", desc := "(I)Z" } : Jvm.MethodName)) ∈ lw_all := lw_g (lw_at lw_m8 62 rfl) rfl
theorem q1844 : (Jvm.Cond.code ({ cls := "TwoSidedTablesModel", name := "isKind", desc := "(I)Z" } : Jvm.MethodName) prog_24_method_31_code (1 : Nat) (Option.some Jvm.ClassFile.FieldType.boolean)) ∈ lw_all := lw_g (lw_at lw_m8 63 rfl) rfl
theorem q1845 : (Jvm.Cond.constantLong "TwoSidedTablesModel" (193 : Nat) (6 : Int64)) ∈ lw_all := lw_g (lw_at lw_m8 64 rfl) rfl
theorem q1846 : (Jvm.Cond.constantLong "TwoSidedTablesModel" (201 : Nat) (-2 : Int64)) ∈ lw_all := lw_g (lw_at lw_m8 65 rfl) rfl
theorem q1848 : (Jvm.Cond.instanceMethod ({ cls := "TwoSidedTablesModel", name := "change", desc := "(III)I" } : Jvm.MethodName)) ∈ lw_all := lw_g (lw_at lw_m8 67 rfl) rfl
theorem q1849 : (Jvm.Cond.selects "TwoSidedTablesModel" ({ cls := "TwoSidedTablesModel", name := "change", desc := "(III)I" } : Jvm.MethodName) ({ cls := "TwoSidedTablesModel", name := "change", desc := "(III)I" } : Jvm.MethodName)) ∈ lw_all := lw_g (lw_at lw_m8 68 rfl) rfl
theorem q1850 : (Jvm.Cond.code ({ cls := "TwoSidedTablesModel", name := "change", desc := "(III)I" } : Jvm.MethodName) prog_24_method_35_code (5 : Nat) (Option.some Jvm.ClassFile.FieldType.int)) ∈ lw_all := lw_g (lw_at lw_m8 69 rfl) rfl
theorem q1851 : (Jvm.Cond.methodLink "TwoSidedTablesModel" (203 : Nat) ({ cls := "TwoSidedTablesModel", name := "isEquation", desc := "(I)Z" } : Jvm.MethodName)) ∈ lw_all := lw_g (lw_at lw_m8 70 rfl) rfl
theorem q1852 : (Jvm.Cond.privateMethod ({ cls := "TwoSidedTablesModel", name := "isEquation", desc := "(I)Z" } : Jvm.MethodName)) ∈ lw_tbl := lw_at lw_m8 71 rfl
theorem q1853 : (Jvm.Cond.instanceMethod ({ cls := "TwoSidedTablesModel", name := "isEquation", desc := "(I)Z" } : Jvm.MethodName)) ∈ lw_all := lw_g (lw_at lw_m8 72 rfl) rfl
theorem q1854 : (Jvm.Cond.code ({ cls := "TwoSidedTablesModel", name := "isEquation", desc := "(I)Z" } : Jvm.MethodName) prog_24_method_33_code (2 : Nat) (Option.some Jvm.ClassFile.FieldType.boolean)) ∈ lw_all := lw_g (lw_at lw_m8 73 rfl) rfl
theorem q1856 : (Jvm.Cond.instanceMethod ({ cls := "TwoSidedTablesModel", name := "of", desc := "(II)I" } : Jvm.MethodName)) ∈ lw_all := lw_g (lw_at lw_m8 75 rfl) rfl
theorem q1857 : (Jvm.Cond.selects "TwoSidedTablesModel" ({ cls := "TwoSidedTablesModel", name := "of", desc := "(II)I" } : Jvm.MethodName) ({ cls := "TwoSidedTablesModel", name := "of", desc := "(II)I" } : Jvm.MethodName)) ∈ lw_all := lw_g (lw_at lw_m8 76 rfl) rfl
theorem q1858 : (Jvm.Cond.code ({ cls := "TwoSidedTablesModel", name := "of", desc := "(II)I" } : Jvm.MethodName) prog_24_method_51_code (4 : Nat) (Option.some Jvm.ClassFile.FieldType.int)) ∈ lw_all := lw_g (lw_at lw_m8 77 rfl) rfl
theorem q1859 : (Jvm.Cond.methodLink "TwoSidedTablesModel" (259 : Nat) ({ cls := "TwoSidedTablesModel", name := "isFit", desc := "(I)Z" } : Jvm.MethodName)) ∈ lw_all := lw_g (lw_at lw_m8 78 rfl) rfl
theorem q1860 : (Jvm.Cond.privateMethod ({ cls := "TwoSidedTablesModel", name := "isFit", desc := "(I)Z" } : Jvm.MethodName)) ∈ lw_tbl := lw_at lw_m8 79 rfl
theorem q1861 : (Jvm.Cond.instanceMethod ({ cls := "TwoSidedTablesModel", name := "isFit", desc := "(I)Z" } : Jvm.MethodName)) ∈ lw_all := lw_g (lw_at lw_m8 80 rfl) rfl
theorem q1862 : (Jvm.Cond.code ({ cls := "TwoSidedTablesModel", name := "isFit", desc := "(I)Z" } : Jvm.MethodName) prog_24_method_41_code (2 : Nat) (Option.some Jvm.ClassFile.FieldType.boolean)) ∈ lw_all := lw_g (lw_at lw_m8 81 rfl) rfl
theorem q1863 : (Jvm.Cond.methodLink "TwoSidedTablesModel" (209 : Nat) ({ cls := "TwoSidedTablesModel", name := "isLike", desc := "(I)Z" } : Jvm.MethodName)) ∈ lw_all := lw_g (lw_at lw_m8 82 rfl) rfl
theorem q1864 : (Jvm.Cond.privateMethod ({ cls := "TwoSidedTablesModel", name := "isLike", desc := "(I)Z" } : Jvm.MethodName)) ∈ lw_tbl := lw_at lw_m8 83 rfl
theorem q1865 : (Jvm.Cond.instanceMethod ({ cls := "TwoSidedTablesModel", name := "isLike", desc := "(I)Z" } : Jvm.MethodName)) ∈ lw_all := lw_g (lw_at lw_m8 84 rfl) rfl
theorem q1866 : (Jvm.Cond.code ({ cls := "TwoSidedTablesModel", name := "isLike", desc := "(I)Z" } : Jvm.MethodName) prog_24_method_36_code (2 : Nat) (Option.some Jvm.ClassFile.FieldType.boolean)) ∈ lw_all := lw_g (lw_at lw_m8 85 rfl) rfl
theorem q1867 : (Jvm.Cond.methodLink "TwoSidedTablesModel" (212 : Nat) ({ cls := "TwoSidedTablesModel", name := "unknownsOf", desc := "(I)I" } : Jvm.MethodName)) ∈ lw_all := lw_g (lw_at lw_m8 86 rfl) rfl
theorem q1868 : (Jvm.Cond.privateMethod ({ cls := "TwoSidedTablesModel", name := "unknownsOf", desc := "(I)I" } : Jvm.MethodName)) ∈ lw_tbl := lw_at lw_m8 87 rfl
theorem q1869 : (Jvm.Cond.instanceMethod ({ cls := "TwoSidedTablesModel", name := "unknownsOf", desc := "(I)I" } : Jvm.MethodName)) ∈ lw_all := lw_g (lw_at lw_m8 88 rfl) rfl
theorem q1870 : (Jvm.Cond.code ({ cls := "TwoSidedTablesModel", name := "unknownsOf", desc := "(I)I" } : Jvm.MethodName) prog_24_method_40_code (4 : Nat) (Option.some Jvm.ClassFile.FieldType.int)) ∈ lw_all := lw_g (lw_at lw_m8 89 rfl) rfl
theorem q1871 : (Jvm.Cond.methodLink "TwoSidedTablesModel" (206 : Nat) ({ cls := "TwoSidedTablesModel", name := "isUnknown", desc := "(III)Z" } : Jvm.MethodName)) ∈ lw_all := lw_g (lw_at lw_m8 90 rfl) rfl
theorem q1872 : (Jvm.Cond.static ({ cls := "TwoSidedTablesModel", name := "isUnknown", desc := "(III)Z" } : Jvm.MethodName)) ∈ lw_all := lw_g (lw_at lw_m8 91 rfl) rfl
theorem q1873 : (Jvm.Cond.code ({ cls := "TwoSidedTablesModel", name := "isUnknown", desc := "(III)Z" } : Jvm.MethodName) prog_24_method_39_code (3 : Nat) (Option.some Jvm.ClassFile.FieldType.boolean)) ∈ lw_all := lw_g (lw_at lw_m8 92 rfl) rfl
theorem q1874 : (Jvm.Cond.methodLink "TwoSidedTablesModel" (262 : Nat) ({ cls := "TwoSidedTablesModel", name := "setsUp", desc := "(I)V" } : Jvm.MethodName)) ∈ lw_all := lw_g (lw_at lw_m8 93 rfl) rfl
theorem q1875 : (Jvm.Cond.privateMethod ({ cls := "TwoSidedTablesModel", name := "setsUp", desc := "(I)V" } : Jvm.MethodName)) ∈ lw_tbl := lw_at lw_m8 94 rfl
theorem q1876 : (Jvm.Cond.instanceMethod ({ cls := "TwoSidedTablesModel", name := "setsUp", desc := "(I)V" } : Jvm.MethodName)) ∈ lw_all := lw_g (lw_at lw_m8 95 rfl) rfl
theorem q1877 : (Jvm.Cond.code ({ cls := "TwoSidedTablesModel", name := "setsUp", desc := "(I)V" } : Jvm.MethodName) prog_24_method_49_code (2 : Nat) (Option.none : Option Jvm.ClassFile.FieldType)) ∈ lw_all := lw_g (lw_at lw_m8 96 rfl) rfl
theorem q1878 : (Jvm.Cond.methodLink "TwoSidedTablesModel" (255 : Nat) ({ cls := "TwoSidedTablesModel", name := "sets", desc := "(IIII)V" } : Jvm.MethodName)) ∈ lw_all := lw_g (lw_at lw_m8 97 rfl) rfl
theorem q1879 : (Jvm.Cond.privateMethod ({ cls := "TwoSidedTablesModel", name := "sets", desc := "(IIII)V" } : Jvm.MethodName)) ∈ lw_tbl := lw_at lw_m8 98 rfl
theorem q1880 : (Jvm.Cond.instanceMethod ({ cls := "TwoSidedTablesModel", name := "sets", desc := "(IIII)V" } : Jvm.MethodName)) ∈ lw_all := lw_g (lw_at lw_m8 99 rfl) rfl
theorem q1881 : (Jvm.Cond.code ({ cls := "TwoSidedTablesModel", name := "sets", desc := "(IIII)V" } : Jvm.MethodName) prog_24_method_48_code (9 : Nat) (Option.none : Option Jvm.ClassFile.FieldType)) ∈ lw_all := lw_g (lw_at lw_m8 100 rfl) rfl
theorem q1882 : (Jvm.Cond.methodLink "TwoSidedTablesModel" (249 : Nat) ({ cls := "TwoSidedTablesModel", name := "takenBy", desc := "(IIIII)I" } : Jvm.MethodName)) ∈ lw_all := lw_g (lw_at lw_m8 101 rfl) rfl
theorem q1883 : (Jvm.Cond.privateMethod ({ cls := "TwoSidedTablesModel", name := "takenBy", desc := "(IIIII)I" } : Jvm.MethodName)) ∈ lw_tbl := lw_at lw_m8 102 rfl
theorem q1884 : (Jvm.Cond.instanceMethod ({ cls := "TwoSidedTablesModel", name := "takenBy", desc := "(IIIII)I" } : Jvm.MethodName)) ∈ lw_all := lw_g (lw_at lw_m8 103 rfl) rfl
theorem q1885 : (Jvm.Cond.code ({ cls := "TwoSidedTablesModel", name := "takenBy", desc := "(IIIII)I" } : Jvm.MethodName) prog_24_method_43_code (9 : Nat) (Option.some Jvm.ClassFile.FieldType.int)) ∈ lw_all := lw_g (lw_at lw_m8 104 rfl) rfl
theorem q1886 : (Jvm.Cond.methodLink "TwoSidedTablesModel" (218 : Nat) ({ cls := "TwoSidedTablesModel", name := "shaped", desc := "(IIIII)I" } : Jvm.MethodName)) ∈ lw_all := lw_g (lw_at lw_m8 105 rfl) rfl
theorem q1887 : (Jvm.Cond.static ({ cls := "TwoSidedTablesModel", name := "shaped", desc := "(IIIII)I" } : Jvm.MethodName)) ∈ lw_all := lw_g (lw_at lw_m8 106 rfl) rfl
theorem q1888 : (Jvm.Cond.code ({ cls := "TwoSidedTablesModel", name := "shaped", desc := "(IIIII)I" } : Jvm.MethodName) prog_24_method_38_code (6 : Nat) (Option.some Jvm.ClassFile.FieldType.int)) ∈ lw_all := lw_g (lw_at lw_m8 107 rfl) rfl
theorem q1889 : (Jvm.Cond.methodLink "TwoSidedTablesModel" (222 : Nat) ({ cls := "TwoSidedTablesModel", name := "times0", desc := "(IIIIII)I" } : Jvm.MethodName)) ∈ lw_all := lw_g (lw_at lw_m8 108 rfl) rfl
theorem q1890 : (Jvm.Cond.privateMethod ({ cls := "TwoSidedTablesModel", name := "times0", desc := "(IIIIII)I" } : Jvm.MethodName)) ∈ lw_tbl := lw_at lw_m8 109 rfl
theorem q1891 : (Jvm.Cond.instanceMethod ({ cls := "TwoSidedTablesModel", name := "times0", desc := "(IIIIII)I" } : Jvm.MethodName)) ∈ lw_all := lw_g (lw_at lw_m8 110 rfl) rfl
theorem q1892 : (Jvm.Cond.code ({ cls := "TwoSidedTablesModel", name := "times0", desc := "(IIIIII)I" } : Jvm.MethodName) prog_24_method_42_code (7 : Nat) (Option.some Jvm.ClassFile.FieldType.int)) ∈ lw_all := lw_g (lw_at lw_m8 111 rfl) rfl
theorem q1893 : (Jvm.Cond.methodLink "TwoSidedTablesModel" (215 : Nat) ({ cls := "TwoSidedTablesModel", name := "rightOf", desc := "(III)I" } : Jvm.MethodName)) ∈ lw_all := lw_g (lw_at lw_m8 112 rfl) rfl
theorem q1894 : (Jvm.Cond.privateMethod ({ cls := "TwoSidedTablesModel", name := "rightOf", desc := "(III)I" } : Jvm.MethodName)) ∈ lw_tbl := lw_at lw_m8 113 rfl
theorem q1895 : (Jvm.Cond.instanceMethod ({ cls := "TwoSidedTablesModel", name := "rightOf", desc := "(III)I" } : Jvm.MethodName)) ∈ lw_all := lw_g (lw_at lw_m8 114 rfl) rfl
theorem q1896 : (Jvm.Cond.code ({ cls := "TwoSidedTablesModel", name := "rightOf", desc := "(III)I" } : Jvm.MethodName) prog_24_method_37_code (4 : Nat) (Option.some Jvm.ClassFile.FieldType.int)) ∈ lw_all := lw_g (lw_at lw_m8 115 rfl) rfl
theorem q1897 : (Jvm.Cond.methodLink "TwoSidedTablesModel" (252 : Nat) ({ cls := "TwoSidedTablesModel", name := "works", desc := "()V" } : Jvm.MethodName)) ∈ lw_all := lw_g (lw_at lw_m8 116 rfl) rfl
theorem q1898 : (Jvm.Cond.privateMethod ({ cls := "TwoSidedTablesModel", name := "works", desc := "()V" } : Jvm.MethodName)) ∈ lw_tbl := lw_at lw_m8 117 rfl
theorem q1899 : (Jvm.Cond.instanceMethod ({ cls := "TwoSidedTablesModel", name := "works", desc := "()V" } : Jvm.MethodName)) ∈ lw_all := lw_g (lw_at lw_m8 118 rfl) rfl
theorem q1900 : (Jvm.Cond.code ({ cls := "TwoSidedTablesModel", name := "works", desc := "()V" } : Jvm.MethodName) prog_24_method_46_code (3 : Nat) (Option.none : Option Jvm.ClassFile.FieldType)) ∈ lw_all := lw_g (lw_at lw_m8 119 rfl) rfl
theorem q1901 : (Jvm.Cond.methodLink "TwoSidedTablesModel" (242 : Nat) ({ cls := "TwoSidedTablesModel", name := "swaps", desc := "(II)V" } : Jvm.MethodName)) ∈ lw_all := lw_g (lw_at lw_m8 120 rfl) rfl
theorem q1902 : (Jvm.Cond.privateMethod ({ cls := "TwoSidedTablesModel", name := "swaps", desc := "(II)V" } : Jvm.MethodName)) ∈ lw_tbl := lw_at lw_m8 121 rfl
theorem q1903 : (Jvm.Cond.instanceMethod ({ cls := "TwoSidedTablesModel", name := "swaps", desc := "(II)V" } : Jvm.MethodName)) ∈ lw_all := lw_g (lw_at lw_m8 122 rfl) rfl
theorem q1904 : (Jvm.Cond.code ({ cls := "TwoSidedTablesModel", name := "swaps", desc := "(II)V" } : Jvm.MethodName) prog_24_method_44_code (6 : Nat) (Option.none : Option Jvm.ClassFile.FieldType)) ∈ lw_all := lw_g (lw_at lw_m8 123 rfl) rfl
theorem q1905 : (Jvm.Cond.methodLink "TwoSidedTablesModel" (246 : Nat) ({ cls := "TwoSidedTablesModel", name := "clears", desc := "(II)V" } : Jvm.MethodName)) ∈ lw_all := lw_g (lw_at lw_m8 124 rfl) rfl
theorem q1906 : (Jvm.Cond.privateMethod ({ cls := "TwoSidedTablesModel", name := "clears", desc := "(II)V" } : Jvm.MethodName)) ∈ lw_tbl := lw_at lw_m8 125 rfl
theorem q1907 : (Jvm.Cond.instanceMethod ({ cls := "TwoSidedTablesModel", name := "clears", desc := "(II)V" } : Jvm.MethodName)) ∈ lw_all := lw_g (lw_at lw_m8 126 rfl) rfl
theorem q1908 : (Jvm.Cond.code ({ cls := "TwoSidedTablesModel", name := "clears", desc := "(II)V" } : Jvm.MethodName) prog_24_method_45_code (9 : Nat) (Option.none : Option Jvm.ClassFile.FieldType)) ∈ lw_all := lw_g (lw_at lw_m8 127 rfl) rfl
theorem q1909 : (Jvm.Cond.methodLink "TwoSidedTablesModel" (266 : Nat) ({ cls := "TwoSidedTablesModel", name := "freeOnes", desc := "()I" } : Jvm.MethodName)) ∈ lw_all := lw_g (lw_at lw_m8 128 rfl) rfl
theorem q1910 : (Jvm.Cond.privateMethod ({ cls := "TwoSidedTablesModel", name := "freeOnes", desc := "()I" } : Jvm.MethodName)) ∈ lw_tbl := lw_at lw_m8 129 rfl
theorem q1911 : (Jvm.Cond.instanceMethod ({ cls := "TwoSidedTablesModel", name := "freeOnes", desc := "()I" } : Jvm.MethodName)) ∈ lw_all := lw_g (lw_at lw_m8 130 rfl) rfl
theorem q1912 : (Jvm.Cond.code ({ cls := "TwoSidedTablesModel", name := "freeOnes", desc := "()I" } : Jvm.MethodName) prog_24_method_50_code (3 : Nat) (Option.some Jvm.ClassFile.FieldType.int)) ∈ lw_all := lw_g (lw_at lw_m8 131 rfl) rfl
theorem q1913 : (Jvm.Cond.methodLink "TwoSidedTablesModel" (270 : Nat) ({ cls := "TwoSidedTablesModel", name := "isSolved", desc := "()Z" } : Jvm.MethodName)) ∈ lw_all := lw_g (lw_at lw_m8 132 rfl) rfl
theorem q1914 : (Jvm.Cond.privateMethod ({ cls := "TwoSidedTablesModel", name := "isSolved", desc := "()Z" } : Jvm.MethodName)) ∈ lw_tbl := lw_at lw_m8 133 rfl
theorem q1915 : (Jvm.Cond.instanceMethod ({ cls := "TwoSidedTablesModel", name := "isSolved", desc := "()Z" } : Jvm.MethodName)) ∈ lw_all := lw_g (lw_at lw_m8 134 rfl) rfl
theorem q1916 : (Jvm.Cond.code ({ cls := "TwoSidedTablesModel", name := "isSolved", desc := "()Z" } : Jvm.MethodName) prog_24_method_47_code (2 : Nat) (Option.some Jvm.ClassFile.FieldType.boolean)) ∈ lw_all := lw_g (lw_at lw_m8 135 rfl) rfl
theorem q1918 : (Jvm.Cond.instanceMethod ({ cls := "TwoSidedTablesModel", name := "right", desc := "(III)J" } : Jvm.MethodName)) ∈ lw_all := lw_g (lw_at lw_m8 137 rfl) rfl
theorem q1919 : (Jvm.Cond.selects "TwoSidedTablesModel" ({ cls := "TwoSidedTablesModel", name := "right", desc := "(III)J" } : Jvm.MethodName) ({ cls := "TwoSidedTablesModel", name := "right", desc := "(III)J" } : Jvm.MethodName)) ∈ lw_all := lw_g (lw_at lw_m8 138 rfl) rfl
theorem q1920 : (Jvm.Cond.code ({ cls := "TwoSidedTablesModel", name := "right", desc := "(III)J" } : Jvm.MethodName) prog_24_method_52_code (4 : Nat) (Option.some Jvm.ClassFile.FieldType.long)) ∈ lw_all := lw_g (lw_at lw_m8 139 rfl) rfl
theorem q1922 : (Jvm.Cond.instanceMethod ({ cls := "TwoSidedTablesModel", name := "solution", desc := "(IIII)J" } : Jvm.MethodName)) ∈ lw_all := lw_g (lw_at lw_m8 141 rfl) rfl
theorem q1923 : (Jvm.Cond.selects "TwoSidedTablesModel" ({ cls := "TwoSidedTablesModel", name := "solution", desc := "(IIII)J" } : Jvm.MethodName) ({ cls := "TwoSidedTablesModel", name := "solution", desc := "(IIII)J" } : Jvm.MethodName)) ∈ lw_all := lw_g (lw_at lw_m8 142 rfl) rfl
theorem q1924 : (Jvm.Cond.code ({ cls := "TwoSidedTablesModel", name := "solution", desc := "(IIII)J" } : Jvm.MethodName) prog_24_method_55_code (5 : Nat) (Option.some Jvm.ClassFile.FieldType.long)) ∈ lw_all := lw_g (lw_at lw_m8 143 rfl) rfl
theorem q1925 : (Jvm.Cond.methodLink "TwoSidedTablesModel" (274 : Nat) ({ cls := "TwoSidedTablesModel", name := "isPart", desc := "(IIII)Z" } : Jvm.MethodName)) ∈ lw_all := lw_g (lw_at lw_m8 144 rfl) rfl
theorem q1926 : (Jvm.Cond.privateMethod ({ cls := "TwoSidedTablesModel", name := "isPart", desc := "(IIII)Z" } : Jvm.MethodName)) ∈ lw_tbl := lw_at lw_m8 145 rfl
theorem q1927 : (Jvm.Cond.instanceMethod ({ cls := "TwoSidedTablesModel", name := "isPart", desc := "(IIII)Z" } : Jvm.MethodName)) ∈ lw_all := lw_g (lw_at lw_m8 146 rfl) rfl
theorem q1928 : (Jvm.Cond.code ({ cls := "TwoSidedTablesModel", name := "isPart", desc := "(IIII)Z" } : Jvm.MethodName) prog_24_method_53_code (5 : Nat) (Option.some Jvm.ClassFile.FieldType.boolean)) ∈ lw_all := lw_g (lw_at lw_m8 147 rfl) rfl
theorem q1929 : (Jvm.Cond.methodLink "TwoSidedTablesModel" (278 : Nat) ({ cls := "TwoSidedTablesModel", name := "shapedSum", desc := "(IIII)J" } : Jvm.MethodName)) ∈ lw_all := lw_g (lw_at lw_m8 148 rfl) rfl
theorem q1930 : (Jvm.Cond.privateMethod ({ cls := "TwoSidedTablesModel", name := "shapedSum", desc := "(IIII)J" } : Jvm.MethodName)) ∈ lw_tbl := lw_at lw_m8 149 rfl
theorem q1931 : (Jvm.Cond.instanceMethod ({ cls := "TwoSidedTablesModel", name := "shapedSum", desc := "(IIII)J" } : Jvm.MethodName)) ∈ lw_all := lw_g (lw_at lw_m8 150 rfl) rfl
theorem q1932 : (Jvm.Cond.code ({ cls := "TwoSidedTablesModel", name := "shapedSum", desc := "(IIII)J" } : Jvm.MethodName) prog_24_method_54_code (11 : Nat) (Option.some Jvm.ClassFile.FieldType.long)) ∈ lw_all := lw_g (lw_at lw_m8 151 rfl) rfl
theorem q1933 : (Jvm.Cond.methodLink "TwoSidedTablesModel" (282 : Nat) ({ cls := "TwoSidedTablesModel", name := "partOf", desc := "(JJI)J" } : Jvm.MethodName)) ∈ lw_all := lw_g (lw_at lw_m8 152 rfl) rfl
theorem q1934 : (Jvm.Cond.static ({ cls := "TwoSidedTablesModel", name := "partOf", desc := "(JJI)J" } : Jvm.MethodName)) ∈ lw_all := lw_g (lw_at lw_m8 153 rfl) rfl
theorem q1935 : (Jvm.Cond.code ({ cls := "TwoSidedTablesModel", name := "partOf", desc := "(JJI)J" } : Jvm.MethodName) prog_24_method_5_code (7 : Nat) (Option.some Jvm.ClassFile.FieldType.long)) ∈ lw_all := lw_g (lw_at lw_m8 154 rfl) rfl
theorem q1936 : (Jvm.Cond.methodLink "TwoSidedTablesModel" (93 : Nat) ({ cls := "TwoSidedTablesModel", name := "common", desc := "(JJ)J" } : Jvm.MethodName)) ∈ lw_all := lw_g (lw_at lw_m8 155 rfl) rfl
theorem q1937 : (Jvm.Cond.static ({ cls := "TwoSidedTablesModel", name := "common", desc := "(JJ)J" } : Jvm.MethodName)) ∈ lw_all := lw_g (lw_at lw_m8 156 rfl) rfl
theorem q1938 : (Jvm.Cond.code ({ cls := "TwoSidedTablesModel", name := "common", desc := "(JJ)J" } : Jvm.MethodName) prog_24_method_4_code (10 : Nat) (Option.some Jvm.ClassFile.FieldType.long)) ∈ lw_all := lw_g (lw_at lw_m8 157 rfl) rfl
theorem q1940 : (Jvm.Cond.instanceMethod ({ cls := "TwoSidedTablesModel", name := "base", desc := "(IIIII)J" } : Jvm.MethodName)) ∈ lw_all := lw_g (lw_at lw_m8 159 rfl) rfl
theorem q1941 : (Jvm.Cond.selects "TwoSidedTablesModel" ({ cls := "TwoSidedTablesModel", name := "base", desc := "(IIIII)J" } : Jvm.MethodName) ({ cls := "TwoSidedTablesModel", name := "base", desc := "(IIIII)J" } : Jvm.MethodName)) ∈ lw_all := lw_g (lw_at lw_m8 160 rfl) rfl
theorem q1942 : (Jvm.Cond.code ({ cls := "TwoSidedTablesModel", name := "base", desc := "(IIIII)J" } : Jvm.MethodName) prog_24_method_56_code (6 : Nat) (Option.some Jvm.ClassFile.FieldType.long)) ∈ lw_all := lw_g (lw_at lw_m8 161 rfl) rfl
theorem q1944 : (Jvm.Cond.instanceMethod ({ cls := "TwoSidedTablesModel", name := "witness", desc := "(IIII)J" } : Jvm.MethodName)) ∈ lw_all := lw_g (lw_at lw_m8 163 rfl) rfl
theorem q1945 : (Jvm.Cond.selects "TwoSidedTablesModel" ({ cls := "TwoSidedTablesModel", name := "witness", desc := "(IIII)J" } : Jvm.MethodName) ({ cls := "TwoSidedTablesModel", name := "witness", desc := "(IIII)J" } : Jvm.MethodName)) ∈ lw_all := lw_g (lw_at lw_m8 164 rfl) rfl
theorem q1946 : (Jvm.Cond.code ({ cls := "TwoSidedTablesModel", name := "witness", desc := "(IIII)J" } : Jvm.MethodName) prog_24_method_60_code (11 : Nat) (Option.some Jvm.ClassFile.FieldType.long)) ∈ lw_all := lw_g (lw_at lw_m8 165 rfl) rfl
theorem q1947 : (Jvm.Cond.methodLink "TwoSidedTablesModel" (293 : Nat) ({ cls := "TwoSidedTablesModel", name := "worksRules", desc := "(II)J" } : Jvm.MethodName)) ∈ lw_all := lw_g (lw_at lw_m8 166 rfl) rfl
theorem q1948 : (Jvm.Cond.privateMethod ({ cls := "TwoSidedTablesModel", name := "worksRules", desc := "(II)J" } : Jvm.MethodName)) ∈ lw_tbl := lw_at lw_m8 167 rfl
theorem q1949 : (Jvm.Cond.instanceMethod ({ cls := "TwoSidedTablesModel", name := "worksRules", desc := "(II)J" } : Jvm.MethodName)) ∈ lw_all := lw_g (lw_at lw_m8 168 rfl) rfl
theorem q1950 : (Jvm.Cond.code ({ cls := "TwoSidedTablesModel", name := "worksRules", desc := "(II)J" } : Jvm.MethodName) prog_24_method_59_code (9 : Nat) (Option.some Jvm.ClassFile.FieldType.long)) ∈ lw_all := lw_g (lw_at lw_m8 169 rfl) rfl
theorem q1951 : (Jvm.Cond.methodLink "TwoSidedTablesModel" (286 : Nat) ({ cls := "TwoSidedTablesModel", name := "swapsRules", desc := "(II)V" } : Jvm.MethodName)) ∈ lw_all := lw_g (lw_at lw_m8 170 rfl) rfl
theorem q1952 : (Jvm.Cond.privateMethod ({ cls := "TwoSidedTablesModel", name := "swapsRules", desc := "(II)V" } : Jvm.MethodName)) ∈ lw_tbl := lw_at lw_m8 171 rfl
theorem q1953 : (Jvm.Cond.instanceMethod ({ cls := "TwoSidedTablesModel", name := "swapsRules", desc := "(II)V" } : Jvm.MethodName)) ∈ lw_all := lw_g (lw_at lw_m8 172 rfl) rfl
theorem q1954 : (Jvm.Cond.code ({ cls := "TwoSidedTablesModel", name := "swapsRules", desc := "(II)V" } : Jvm.MethodName) prog_24_method_57_code (6 : Nat) (Option.none : Option Jvm.ClassFile.FieldType)) ∈ lw_all := lw_g (lw_at lw_m8 173 rfl) rfl
theorem q1955 : (Jvm.Cond.methodLink "TwoSidedTablesModel" (289 : Nat) ({ cls := "TwoSidedTablesModel", name := "clearsRules", desc := "(IIIJ)J" } : Jvm.MethodName)) ∈ lw_all := lw_g (lw_at lw_m8 174 rfl) rfl
theorem q1956 : (Jvm.Cond.privateMethod ({ cls := "TwoSidedTablesModel", name := "clearsRules", desc := "(IIIJ)J" } : Jvm.MethodName)) ∈ lw_tbl := lw_at lw_m8 175 rfl
theorem q1957 : (Jvm.Cond.instanceMethod ({ cls := "TwoSidedTablesModel", name := "clearsRules", desc := "(IIIJ)J" } : Jvm.MethodName)) ∈ lw_all := lw_g (lw_at lw_m8 176 rfl) rfl
theorem q1958 : (Jvm.Cond.code ({ cls := "TwoSidedTablesModel", name := "clearsRules", desc := "(IIIJ)J" } : Jvm.MethodName) prog_24_method_58_code (12 : Nat) (Option.some Jvm.ClassFile.FieldType.long)) ∈ lw_all := lw_g (lw_at lw_m8 177 rfl) rfl
theorem q1960 : (Jvm.Cond.instanceMethod ({ cls := "TwoSidedTablesModel", name := "similar", desc := "(I)I" } : Jvm.MethodName)) ∈ lw_all := lw_g (lw_at lw_m8 179 rfl) rfl
theorem q1961 : (Jvm.Cond.selects "TwoSidedTablesModel" ({ cls := "TwoSidedTablesModel", name := "similar", desc := "(I)I" } : Jvm.MethodName) ({ cls := "TwoSidedTablesModel", name := "similar", desc := "(I)I" } : Jvm.MethodName)) ∈ lw_all := lw_g (lw_at lw_m8 180 rfl) rfl
theorem q1962 : (Jvm.Cond.code ({ cls := "TwoSidedTablesModel", name := "similar", desc := "(I)I" } : Jvm.MethodName) prog_24_method_62_code (2 : Nat) (Option.some Jvm.ClassFile.FieldType.int)) ∈ lw_all := lw_g (lw_at lw_m8 181 rfl) rfl
theorem q1963 : (Jvm.Cond.methodLink "TwoSidedTablesModel" (297 : Nat) ({ cls := "TwoSidedTablesModel", name := "isSmall", desc := "(I)Z" } : Jvm.MethodName)) ∈ lw_all := lw_g (lw_at lw_m8 182 rfl) rfl
theorem q1964 : (Jvm.Cond.privateMethod ({ cls := "TwoSidedTablesModel", name := "isSmall", desc := "(I)Z" } : Jvm.MethodName)) ∈ lw_tbl := lw_at lw_m8 183 rfl
theorem q1965 : (Jvm.Cond.instanceMethod ({ cls := "TwoSidedTablesModel", name := "isSmall", desc := "(I)Z" } : Jvm.MethodName)) ∈ lw_all := lw_g (lw_at lw_m8 184 rfl) rfl
theorem q1966 : (Jvm.Cond.code ({ cls := "TwoSidedTablesModel", name := "isSmall", desc := "(I)Z" } : Jvm.MethodName) prog_24_method_61_code (2 : Nat) (Option.some Jvm.ClassFile.FieldType.boolean)) ∈ lw_all := lw_g (lw_at lw_m8 185 rfl) rfl
theorem q1968 : (Jvm.Cond.instanceMethod ({ cls := "TwoSidedTablesModel", name := "whole", desc := "(I)J" } : Jvm.MethodName)) ∈ lw_all := lw_g (lw_at lw_m8 187 rfl) rfl
theorem q1969 : (Jvm.Cond.selects "TwoSidedTablesModel" ({ cls := "TwoSidedTablesModel", name := "whole", desc := "(I)J" } : Jvm.MethodName) ({ cls := "TwoSidedTablesModel", name := "whole", desc := "(I)J" } : Jvm.MethodName)) ∈ lw_all := lw_g (lw_at lw_m8 188 rfl) rfl
theorem q1970 : (Jvm.Cond.code ({ cls := "TwoSidedTablesModel", name := "whole", desc := "(I)J" } : Jvm.MethodName) prog_24_method_63_code (2 : Nat) (Option.some Jvm.ClassFile.FieldType.long)) ∈ lw_all := lw_g (lw_at lw_m8 189 rfl) rfl
theorem q1972 : (Jvm.Cond.instanceMethod ({ cls := "TwoSidedTablesModel", name := "lower", desc := "(II)I" } : Jvm.MethodName)) ∈ lw_all := lw_g (lw_at lw_m8 191 rfl) rfl
theorem q1973 : (Jvm.Cond.selects "TwoSidedTablesModel" ({ cls := "TwoSidedTablesModel", name := "lower", desc := "(II)I" } : Jvm.MethodName) ({ cls := "TwoSidedTablesModel", name := "lower", desc := "(II)I" } : Jvm.MethodName)) ∈ lw_all := lw_g (lw_at lw_m8 192 rfl) rfl
theorem q1974 : (Jvm.Cond.code ({ cls := "TwoSidedTablesModel", name := "lower", desc := "(II)I" } : Jvm.MethodName) prog_24_method_65_code (3 : Nat) (Option.some Jvm.ClassFile.FieldType.int)) ∈ lw_all := lw_g (lw_at lw_m8 193 rfl) rfl
theorem q1975 : (Jvm.Cond.methodLink "TwoSidedTablesModel" (300 : Nat) ({ cls := "TwoSidedTablesModel", name := "splits", desc := "(I)Z" } : Jvm.MethodName)) ∈ lw_all := lw_g (lw_at lw_m8 194 rfl) rfl
theorem q1976 : (Jvm.Cond.privateMethod ({ cls := "TwoSidedTablesModel", name := "splits", desc := "(I)Z" } : Jvm.MethodName)) ∈ lw_tbl := lw_at lw_m8 195 rfl
theorem q1977 : (Jvm.Cond.instanceMethod ({ cls := "TwoSidedTablesModel", name := "splits", desc := "(I)Z" } : Jvm.MethodName)) ∈ lw_all := lw_g (lw_at lw_m8 196 rfl) rfl
theorem q1978 : (Jvm.Cond.code ({ cls := "TwoSidedTablesModel", name := "splits", desc := "(I)Z" } : Jvm.MethodName) prog_24_method_64_code (4 : Nat) (Option.some Jvm.ClassFile.FieldType.boolean)) ∈ lw_all := lw_g (lw_at lw_m8 197 rfl) rfl
theorem q1980 : (Jvm.Cond.instanceMethod ({ cls := "TwoSidedTablesModel", name := "swapped", desc := "()I" } : Jvm.MethodName)) ∈ lw_all := lw_g (lw_at lw_m8 199 rfl) rfl
theorem q1981 : (Jvm.Cond.selects "TwoSidedTablesModel" ({ cls := "TwoSidedTablesModel", name := "swapped", desc := "()I" } : Jvm.MethodName) ({ cls := "TwoSidedTablesModel", name := "swapped", desc := "()I" } : Jvm.MethodName)) ∈ lw_all := lw_g (lw_at lw_m8 200 rfl) rfl
theorem q1982 : (Jvm.Cond.code ({ cls := "TwoSidedTablesModel", name := "swapped", desc := "()I" } : Jvm.MethodName) prog_24_method_66_code (1 : Nat) (Option.some Jvm.ClassFile.FieldType.int)) ∈ lw_all := lw_g (lw_at lw_m8 201 rfl) rfl
theorem q1984 : (Jvm.Cond.instanceMethod ({ cls := "TwoSidedTablesModel", name := "stable", desc := "()I" } : Jvm.MethodName)) ∈ lw_all := lw_g (lw_at lw_m8 203 rfl) rfl
theorem q1985 : (Jvm.Cond.selects "TwoSidedTablesModel" ({ cls := "TwoSidedTablesModel", name := "stable", desc := "()I" } : Jvm.MethodName) ({ cls := "TwoSidedTablesModel", name := "stable", desc := "()I" } : Jvm.MethodName)) ∈ lw_all := lw_g (lw_at lw_m8 204 rfl) rfl
theorem q1986 : (Jvm.Cond.code ({ cls := "TwoSidedTablesModel", name := "stable", desc := "()I" } : Jvm.MethodName) prog_24_method_67_code (8 : Nat) (Option.some Jvm.ClassFile.FieldType.int)) ∈ lw_all := lw_g (lw_at lw_m8 205 rfl) rfl
theorem q1988 : (Jvm.Cond.instanceMethod ({ cls := "TwoSidedTablesModel", name := "lay", desc := "(II)I" } : Jvm.MethodName)) ∈ lw_all := lw_g (lw_at lw_m8 207 rfl) rfl
theorem q1989 : (Jvm.Cond.selects "TwoSidedTablesModel" ({ cls := "TwoSidedTablesModel", name := "lay", desc := "(II)I" } : Jvm.MethodName) ({ cls := "TwoSidedTablesModel", name := "lay", desc := "(II)I" } : Jvm.MethodName)) ∈ lw_all := lw_g (lw_at lw_m8 208 rfl) rfl
theorem q1990 : (Jvm.Cond.code ({ cls := "TwoSidedTablesModel", name := "lay", desc := "(II)I" } : Jvm.MethodName) prog_24_method_69_code (10 : Nat) (Option.some Jvm.ClassFile.FieldType.int)) ∈ lw_all := lw_g (lw_at lw_m8 209 rfl) rfl
theorem q1991 : (Jvm.Cond.methodLink "TwoSidedTablesModel" (303 : Nat) ({ cls := "TwoSidedTablesModel", name := "isSheet", desc := "(I)Z" } : Jvm.MethodName)) ∈ lw_all := lw_g (lw_at lw_m8 210 rfl) rfl
theorem q1992 : (Jvm.Cond.static ({ cls := "TwoSidedTablesModel", name := "isSheet", desc := "(I)Z" } : Jvm.MethodName)) ∈ lw_all := lw_g (lw_at lw_m8 211 rfl) rfl
theorem q1993 : (Jvm.Cond.code ({ cls := "TwoSidedTablesModel", name := "isSheet", desc := "(I)Z" } : Jvm.MethodName) prog_24_method_80_code (1 : Nat) (Option.some Jvm.ClassFile.FieldType.boolean)) ∈ lw_all := lw_g (lw_at lw_m8 212 rfl) rfl
theorem q1994 : (Jvm.Cond.methodLink "TwoSidedTablesModel" (306 : Nat) ({ cls := "TwoSidedTablesModel", name := "leastScale", desc := "(I)J" } : Jvm.MethodName)) ∈ lw_all := lw_g (lw_at lw_m8 213 rfl) rfl
theorem q1995 : (Jvm.Cond.privateMethod ({ cls := "TwoSidedTablesModel", name := "leastScale", desc := "(I)J" } : Jvm.MethodName)) ∈ lw_tbl := lw_at lw_m8 214 rfl
theorem q1996 : (Jvm.Cond.instanceMethod ({ cls := "TwoSidedTablesModel", name := "leastScale", desc := "(I)J" } : Jvm.MethodName)) ∈ lw_all := lw_g (lw_at lw_m8 215 rfl) rfl
theorem q1997 : (Jvm.Cond.code ({ cls := "TwoSidedTablesModel", name := "leastScale", desc := "(I)J" } : Jvm.MethodName) prog_24_method_68_code (7 : Nat) (Option.some Jvm.ClassFile.FieldType.long)) ∈ lw_all := lw_g (lw_at lw_m8 216 rfl) rfl
theorem q1999 : (Jvm.Cond.instanceMethod ({ cls := "TwoSidedTablesModel", name := "judge", desc := "(III)I" } : Jvm.MethodName)) ∈ lw_all := lw_g (lw_at lw_m8 218 rfl) rfl
theorem q2000 : (Jvm.Cond.selects "TwoSidedTablesModel" ({ cls := "TwoSidedTablesModel", name := "judge", desc := "(III)I" } : Jvm.MethodName) ({ cls := "TwoSidedTablesModel", name := "judge", desc := "(III)I" } : Jvm.MethodName)) ∈ lw_all := lw_g (lw_at lw_m8 219 rfl) rfl
theorem q2001 : (Jvm.Cond.code ({ cls := "TwoSidedTablesModel", name := "judge", desc := "(III)I" } : Jvm.MethodName) prog_24_method_73_code (5 : Nat) (Option.some Jvm.ClassFile.FieldType.int)) ∈ lw_all := lw_g (lw_at lw_m8 220 rfl) rfl
theorem q2002 : (Jvm.Cond.methodLink "TwoSidedTablesModel" (309 : Nat) ({ cls := "TwoSidedTablesModel", name := "against", desc := "(I)I" } : Jvm.MethodName)) ∈ lw_all := lw_g (lw_at lw_m8 221 rfl) rfl
theorem q2003 : (Jvm.Cond.privateMethod ({ cls := "TwoSidedTablesModel", name := "against", desc := "(I)I" } : Jvm.MethodName)) ∈ lw_tbl := lw_at lw_m8 222 rfl
theorem q2004 : (Jvm.Cond.instanceMethod ({ cls := "TwoSidedTablesModel", name := "against", desc := "(I)I" } : Jvm.MethodName)) ∈ lw_all := lw_g (lw_at lw_m8 223 rfl) rfl
theorem q2005 : (Jvm.Cond.code ({ cls := "TwoSidedTablesModel", name := "against", desc := "(I)I" } : Jvm.MethodName) prog_24_method_72_code (2 : Nat) (Option.some Jvm.ClassFile.FieldType.int)) ∈ lw_all := lw_g (lw_at lw_m8 224 rfl) rfl
theorem q2006 : (Jvm.Cond.methodLink "TwoSidedTablesModel" (312 : Nat) ({ cls := "TwoSidedTablesModel", name := "firstOff", desc := "(IIII)I" } : Jvm.MethodName)) ∈ lw_all := lw_g (lw_at lw_m8 225 rfl) rfl
theorem q2007 : (Jvm.Cond.privateMethod ({ cls := "TwoSidedTablesModel", name := "firstOff", desc := "(IIII)I" } : Jvm.MethodName)) ∈ lw_tbl := lw_at lw_m8 226 rfl
theorem q2008 : (Jvm.Cond.instanceMethod ({ cls := "TwoSidedTablesModel", name := "firstOff", desc := "(IIII)I" } : Jvm.MethodName)) ∈ lw_all := lw_g (lw_at lw_m8 227 rfl) rfl
theorem q2009 : (Jvm.Cond.code ({ cls := "TwoSidedTablesModel", name := "firstOff", desc := "(IIII)I" } : Jvm.MethodName) prog_24_method_70_code (9 : Nat) (Option.some Jvm.ClassFile.FieldType.int)) ∈ lw_all := lw_g (lw_at lw_m8 228 rfl) rfl
theorem q2010 : (Jvm.Cond.methodLink "TwoSidedTablesModel" (316 : Nat) ({ cls := "TwoSidedTablesModel", name := "isShaped", desc := "(II)Z" } : Jvm.MethodName)) ∈ lw_all := lw_g (lw_at lw_m8 229 rfl) rfl
theorem q2011 : (Jvm.Cond.privateMethod ({ cls := "TwoSidedTablesModel", name := "isShaped", desc := "(II)Z" } : Jvm.MethodName)) ∈ lw_tbl := lw_at lw_m8 230 rfl
theorem q2012 : (Jvm.Cond.instanceMethod ({ cls := "TwoSidedTablesModel", name := "isShaped", desc := "(II)Z" } : Jvm.MethodName)) ∈ lw_all := lw_g (lw_at lw_m8 231 rfl) rfl
theorem q2013 : (Jvm.Cond.code ({ cls := "TwoSidedTablesModel", name := "isShaped", desc := "(II)Z" } : Jvm.MethodName) prog_24_method_71_code (11 : Nat) (Option.some Jvm.ClassFile.FieldType.boolean)) ∈ lw_all := lw_g (lw_at lw_m8 232 rfl) rfl
theorem q2015 : (Jvm.Cond.instanceMethod ({ cls := "TwoSidedTablesModel", name := "kinds", desc := "(II)I" } : Jvm.MethodName)) ∈ lw_all := lw_g (lw_at lw_m8 234 rfl) rfl
theorem q2016 : (Jvm.Cond.selects "TwoSidedTablesModel" ({ cls := "TwoSidedTablesModel", name := "kinds", desc := "(II)I" } : Jvm.MethodName) ({ cls := "TwoSidedTablesModel", name := "kinds", desc := "(II)I" } : Jvm.MethodName)) ∈ lw_all := lw_g (lw_at lw_m8 235 rfl) rfl
theorem q2017 : (Jvm.Cond.code ({ cls := "TwoSidedTablesModel", name := "kinds", desc := "(II)I" } : Jvm.MethodName) prog_24_method_74_code (5 : Nat) (Option.some Jvm.ClassFile.FieldType.int)) ∈ lw_all := lw_g (lw_at lw_m8 236 rfl) rfl
theorem q2019 : (Jvm.Cond.instanceMethod ({ cls := "TwoSidedTablesModel", name := "ratio", desc := "(JJI)J" } : Jvm.MethodName)) ∈ lw_all := lw_g (lw_at lw_m8 238 rfl) rfl
theorem q2020 : (Jvm.Cond.selects "TwoSidedTablesModel" ({ cls := "TwoSidedTablesModel", name := "ratio", desc := "(JJI)J" } : Jvm.MethodName) ({ cls := "TwoSidedTablesModel", name := "ratio", desc := "(JJI)J" } : Jvm.MethodName)) ∈ lw_all := lw_g (lw_at lw_m8 239 rfl) rfl
theorem q2021 : (Jvm.Cond.code ({ cls := "TwoSidedTablesModel", name := "ratio", desc := "(JJI)J" } : Jvm.MethodName) prog_24_method_75_code (17 : Nat) (Option.some Jvm.ClassFile.FieldType.long)) ∈ lw_all := lw_g (lw_at lw_m9 0 rfl) rfl
theorem q2022 : (Jvm.Cond.constantLong "TwoSidedTablesModel" (321 : Nat) (-9223372036854775808 : Int64)) ∈ lw_all := lw_g (lw_at lw_m9 1 rfl) rfl
theorem q2023 : (Jvm.Cond.constantLong "TwoSidedTablesModel" (323 : Nat) (-1 : Int64)) ∈ lw_all := lw_g (lw_at lw_m9 2 rfl) rfl
theorem q2025 : (Jvm.Cond.instanceMethod ({ cls := "TwoSidedTablesModel", name := "seed", desc := "(I)I" } : Jvm.MethodName)) ∈ lw_all := lw_g (lw_at lw_m9 4 rfl) rfl
theorem q2026 : (Jvm.Cond.selects "TwoSidedTablesModel" ({ cls := "TwoSidedTablesModel", name := "seed", desc := "(I)I" } : Jvm.MethodName) ({ cls := "TwoSidedTablesModel", name := "seed", desc := "(I)I" } : Jvm.MethodName)) ∈ lw_all := lw_g (lw_at lw_m9 5 rfl) rfl
theorem q2027 : (Jvm.Cond.code ({ cls := "TwoSidedTablesModel", name := "seed", desc := "(I)I" } : Jvm.MethodName) prog_24_method_76_code (3 : Nat) (Option.some Jvm.ClassFile.FieldType.int)) ∈ lw_all := lw_g (lw_at lw_m9 6 rfl) rfl
theorem q2029 : (Jvm.Cond.instanceMethod ({ cls := "TwoSidedTablesModel", name := "lot", desc := "()I" } : Jvm.MethodName)) ∈ lw_all := lw_g (lw_at lw_m9 8 rfl) rfl
theorem q2030 : (Jvm.Cond.selects "TwoSidedTablesModel" ({ cls := "TwoSidedTablesModel", name := "lot", desc := "()I" } : Jvm.MethodName) ({ cls := "TwoSidedTablesModel", name := "lot", desc := "()I" } : Jvm.MethodName)) ∈ lw_all := lw_g (lw_at lw_m9 9 rfl) rfl
theorem q2031 : (Jvm.Cond.code ({ cls := "TwoSidedTablesModel", name := "lot", desc := "()I" } : Jvm.MethodName) prog_24_method_78_code (1 : Nat) (Option.some Jvm.ClassFile.FieldType.int)) ∈ lw_all := lw_g (lw_at lw_m9 10 rfl) rfl
theorem q2032 : (Jvm.Cond.methodLink "TwoSidedTablesModel" (326 : Nat) ({ cls := "TwoSidedTablesModel", name := "lots", desc := "()V" } : Jvm.MethodName)) ∈ lw_all := lw_g (lw_at lw_m9 11 rfl) rfl
theorem q2033 : (Jvm.Cond.privateMethod ({ cls := "TwoSidedTablesModel", name := "lots", desc := "()V" } : Jvm.MethodName)) ∈ lw_tbl := lw_at lw_m9 12 rfl
theorem q2034 : (Jvm.Cond.instanceMethod ({ cls := "TwoSidedTablesModel", name := "lots", desc := "()V" } : Jvm.MethodName)) ∈ lw_all := lw_g (lw_at lw_m9 13 rfl) rfl
theorem q2035 : (Jvm.Cond.code ({ cls := "TwoSidedTablesModel", name := "lots", desc := "()V" } : Jvm.MethodName) prog_24_method_77_code (4 : Nat) (Option.none : Option Jvm.ClassFile.FieldType)) ∈ lw_all := lw_g (lw_at lw_m9 14 rfl) rfl
theorem q2036 : (Jvm.Cond.constant "TwoSidedTablesModel" (325 : Nat) (1103515245 : Int32)) ∈ lw_all := lw_g (lw_at lw_m9 15 rfl) rfl
theorem q2038 : (Jvm.Cond.instanceMethod ({ cls := "TwoSidedTablesModel", name := "times", desc := "(II)I" } : Jvm.MethodName)) ∈ lw_all := lw_g (lw_at lw_m9 17 rfl) rfl
theorem q2039 : (Jvm.Cond.selects "TwoSidedTablesModel" ({ cls := "TwoSidedTablesModel", name := "times", desc := "(II)I" } : Jvm.MethodName) ({ cls := "TwoSidedTablesModel", name := "times", desc := "(II)I" } : Jvm.MethodName)) ∈ lw_all := lw_g (lw_at lw_m9 18 rfl) rfl
theorem q2040 : (Jvm.Cond.code ({ cls := "TwoSidedTablesModel", name := "times", desc := "(II)I" } : Jvm.MethodName) prog_24_method_79_code (5 : Nat) (Option.some Jvm.ClassFile.FieldType.int)) ∈ lw_all := lw_g (lw_at lw_m9 19 rfl) rfl
theorem q2041 : (Jvm.Cond.constantLong "TwoSidedTablesModel" (329 : Nat) (30 : Int64)) ∈ lw_all := lw_g (lw_at lw_m9 20 rfl) rfl
theorem q2043 : (Jvm.Cond.instanceMethod ({ cls := "TwoSidedTablesModel", name := "sheet", desc := "(III)I" } : Jvm.MethodName)) ∈ lw_all := lw_g (lw_at lw_m9 22 rfl) rfl
theorem q2044 : (Jvm.Cond.selects "TwoSidedTablesModel" ({ cls := "TwoSidedTablesModel", name := "sheet", desc := "(III)I" } : Jvm.MethodName) ({ cls := "TwoSidedTablesModel", name := "sheet", desc := "(III)I" } : Jvm.MethodName)) ∈ lw_all := lw_g (lw_at lw_m9 23 rfl) rfl
theorem q2045 : (Jvm.Cond.code ({ cls := "TwoSidedTablesModel", name := "sheet", desc := "(III)I" } : Jvm.MethodName) prog_24_method_81_code (5 : Nat) (Option.some Jvm.ClassFile.FieldType.int)) ∈ lw_all := lw_g (lw_at lw_m9 24 rfl) rfl
theorem q2047 : (Jvm.Cond.instanceMethod ({ cls := "TwoSidedTablesModel", name := "put", desc := "(IIJ)I" } : Jvm.MethodName)) ∈ lw_all := lw_g (lw_at lw_m9 26 rfl) rfl
theorem q2048 : (Jvm.Cond.selects "TwoSidedTablesModel" ({ cls := "TwoSidedTablesModel", name := "put", desc := "(IIJ)I" } : Jvm.MethodName) ({ cls := "TwoSidedTablesModel", name := "put", desc := "(IIJ)I" } : Jvm.MethodName)) ∈ lw_all := lw_g (lw_at lw_m9 27 rfl) rfl
theorem q2049 : (Jvm.Cond.code ({ cls := "TwoSidedTablesModel", name := "put", desc := "(IIJ)I" } : Jvm.MethodName) prog_24_method_83_code (5 : Nat) (Option.some Jvm.ClassFile.FieldType.int)) ∈ lw_all := lw_g (lw_at lw_m9 28 rfl) rfl
theorem q2050 : (Jvm.Cond.methodLink "TwoSidedTablesModel" (331 : Nat) ({ cls := "TwoSidedTablesModel", name := "narrowed", desc := "(IJ)J" } : Jvm.MethodName)) ∈ lw_all := lw_g (lw_at lw_m9 29 rfl) rfl
theorem q2051 : (Jvm.Cond.static ({ cls := "TwoSidedTablesModel", name := "narrowed", desc := "(IJ)J" } : Jvm.MethodName)) ∈ lw_all := lw_g (lw_at lw_m9 30 rfl) rfl
theorem q2052 : (Jvm.Cond.code ({ cls := "TwoSidedTablesModel", name := "narrowed", desc := "(IJ)J" } : Jvm.MethodName) prog_24_method_82_code (3 : Nat) (Option.some Jvm.ClassFile.FieldType.long)) ∈ lw_all := lw_g (lw_at lw_m9 31 rfl) rfl
theorem q2054 : (Jvm.Cond.instanceMethod ({ cls := "TwoSidedTablesModel", name := "item", desc := "(III)I" } : Jvm.MethodName)) ∈ lw_all := lw_g (lw_at lw_m9 33 rfl) rfl
theorem q2055 : (Jvm.Cond.selects "TwoSidedTablesModel" ({ cls := "TwoSidedTablesModel", name := "item", desc := "(III)I" } : Jvm.MethodName) ({ cls := "TwoSidedTablesModel", name := "item", desc := "(III)I" } : Jvm.MethodName)) ∈ lw_all := lw_g (lw_at lw_m9 34 rfl) rfl
theorem q2056 : (Jvm.Cond.code ({ cls := "TwoSidedTablesModel", name := "item", desc := "(III)I" } : Jvm.MethodName) prog_24_method_84_code (4 : Nat) (Option.some Jvm.ClassFile.FieldType.int)) ∈ lw_all := lw_g (lw_at lw_m9 35 rfl) rfl
theorem q2058 : (Jvm.Cond.instanceMethod ({ cls := "TwoSidedTablesModel", name := "move", desc := "(IIIII)I" } : Jvm.MethodName)) ∈ lw_all := lw_g (lw_at lw_m9 37 rfl) rfl
theorem q2059 : (Jvm.Cond.selects "TwoSidedTablesModel" ({ cls := "TwoSidedTablesModel", name := "move", desc := "(IIIII)I" } : Jvm.MethodName) ({ cls := "TwoSidedTablesModel", name := "move", desc := "(IIIII)I" } : Jvm.MethodName)) ∈ lw_all := lw_g (lw_at lw_m9 38 rfl) rfl
theorem q2060 : (Jvm.Cond.code ({ cls := "TwoSidedTablesModel", name := "move", desc := "(IIIII)I" } : Jvm.MethodName) prog_24_method_85_code (7 : Nat) (Option.some Jvm.ClassFile.FieldType.int)) ∈ lw_all := lw_g (lw_at lw_m9 39 rfl) rfl
theorem q2062 : (Jvm.Cond.instanceMethod ({ cls := "TwoSidedTablesModel", name := "shelf", desc := "(III)I" } : Jvm.MethodName)) ∈ lw_all := lw_g (lw_at lw_m9 41 rfl) rfl
theorem q2063 : (Jvm.Cond.selects "TwoSidedTablesModel" ({ cls := "TwoSidedTablesModel", name := "shelf", desc := "(III)I" } : Jvm.MethodName) ({ cls := "TwoSidedTablesModel", name := "shelf", desc := "(III)I" } : Jvm.MethodName)) ∈ lw_all := lw_g (lw_at lw_m9 42 rfl) rfl
theorem q2064 : (Jvm.Cond.code ({ cls := "TwoSidedTablesModel", name := "shelf", desc := "(III)I" } : Jvm.MethodName) prog_24_method_87_code (4 : Nat) (Option.some Jvm.ClassFile.FieldType.int)) ∈ lw_all := lw_g (lw_at lw_m9 43 rfl) rfl
theorem q2065 : (Jvm.Cond.methodLink "TwoSidedTablesModel" (335 : Nat) ({ cls := "TwoSidedTablesModel", name := "isShelf", desc := "(I)Z" } : Jvm.MethodName)) ∈ lw_all := lw_g (lw_at lw_m9 44 rfl) rfl
theorem q2066 : (Jvm.Cond.static ({ cls := "TwoSidedTablesModel", name := "isShelf", desc := "(I)Z" } : Jvm.MethodName)) ∈ lw_all := lw_g (lw_at lw_m9 45 rfl) rfl
theorem q2067 : (Jvm.Cond.code ({ cls := "TwoSidedTablesModel", name := "isShelf", desc := "(I)Z" } : Jvm.MethodName) prog_24_method_86_code (1 : Nat) (Option.some Jvm.ClassFile.FieldType.boolean)) ∈ lw_all := lw_g (lw_at lw_m9 46 rfl) rfl
theorem q2069 : (Jvm.Cond.instanceMethod ({ cls := "TwoSidedTablesModel", name := "taken", desc := "(II)I" } : Jvm.MethodName)) ∈ lw_all := lw_g (lw_at lw_m9 48 rfl) rfl
theorem q2070 : (Jvm.Cond.selects "TwoSidedTablesModel" ({ cls := "TwoSidedTablesModel", name := "taken", desc := "(II)I" } : Jvm.MethodName) ({ cls := "TwoSidedTablesModel", name := "taken", desc := "(II)I" } : Jvm.MethodName)) ∈ lw_all := lw_g (lw_at lw_m9 49 rfl) rfl
theorem q2071 : (Jvm.Cond.code ({ cls := "TwoSidedTablesModel", name := "taken", desc := "(II)I" } : Jvm.MethodName) prog_24_method_89_code (4 : Nat) (Option.some Jvm.ClassFile.FieldType.int)) ∈ lw_all := lw_g (lw_at lw_m9 50 rfl) rfl
theorem q2072 : (Jvm.Cond.constantLong "TwoSidedTablesModel" (338 : Nat) (10 : Int64)) ∈ lw_all := lw_g (lw_at lw_m9 51 rfl) rfl
theorem q2073 : (Jvm.Cond.constantLong "TwoSidedTablesModel" (340 : Nat) (13 : Int64)) ∈ lw_all := lw_g (lw_at lw_m9 52 rfl) rfl
theorem q2074 : (Jvm.Cond.methodLink "TwoSidedTablesModel" (342 : Nat) ({ cls := "TwoSidedTablesModel", name := "heldBy", desc := "(I)I" } : Jvm.MethodName)) ∈ lw_all := lw_g (lw_at lw_m9 53 rfl) rfl
theorem q2075 : (Jvm.Cond.privateMethod ({ cls := "TwoSidedTablesModel", name := "heldBy", desc := "(I)I" } : Jvm.MethodName)) ∈ lw_tbl := lw_at lw_m9 54 rfl
theorem q2076 : (Jvm.Cond.instanceMethod ({ cls := "TwoSidedTablesModel", name := "heldBy", desc := "(I)I" } : Jvm.MethodName)) ∈ lw_all := lw_g (lw_at lw_m9 55 rfl) rfl
theorem q2077 : (Jvm.Cond.code ({ cls := "TwoSidedTablesModel", name := "heldBy", desc := "(I)I" } : Jvm.MethodName) prog_24_method_88_code (2 : Nat) (Option.some Jvm.ClassFile.FieldType.int)) ∈ lw_all := lw_g (lw_at lw_m9 56 rfl) rfl
theorem q2078 : (Jvm.Cond.methodLink "TwoSidedTablesModel" (345 : Nat) ({ cls := "TwoSidedTablesModel", name := "isUnder", desc := "(II)Z" } : Jvm.MethodName)) ∈ lw_all := lw_g (lw_at lw_m9 57 rfl) rfl
theorem q2079 : (Jvm.Cond.static ({ cls := "TwoSidedTablesModel", name := "isUnder", desc := "(II)Z" } : Jvm.MethodName)) ∈ lw_all := lw_g (lw_at lw_m9 58 rfl) rfl
theorem q2080 : (Jvm.Cond.code ({ cls := "TwoSidedTablesModel", name := "isUnder", desc := "(II)Z" } : Jvm.MethodName) prog_24_method_32_code (2 : Nat) (Option.some Jvm.ClassFile.FieldType.boolean)) ∈ lw_all := lw_g (lw_at lw_m9 59 rfl) rfl
theorem q2082 : (Jvm.Cond.instanceMethod ({ cls := "TwoSidedTablesModel", name := "act", desc := "(III)I" } : Jvm.MethodName)) ∈ lw_all := lw_g (lw_at lw_m9 61 rfl) rfl
theorem q2083 : (Jvm.Cond.selects "TwoSidedTablesModel" ({ cls := "TwoSidedTablesModel", name := "act", desc := "(III)I" } : Jvm.MethodName) ({ cls := "TwoSidedTablesModel", name := "act", desc := "(III)I" } : Jvm.MethodName)) ∈ lw_all := lw_g (lw_at lw_m9 62 rfl) rfl
theorem q2084 : (Jvm.Cond.code ({ cls := "TwoSidedTablesModel", name := "act", desc := "(III)I" } : Jvm.MethodName) prog_24_method_101_code (5 : Nat) (Option.some Jvm.ClassFile.FieldType.int)) ∈ lw_all := lw_g (lw_at lw_m9 63 rfl) rfl
theorem q2085 : (Jvm.Cond.methodLink "TwoSidedTablesModel" (369 : Nat) ({ cls := "TwoSidedTablesModel", name := "weighs", desc := "(I)I" } : Jvm.MethodName)) ∈ lw_all := lw_g (lw_at lw_m9 64 rfl) rfl
theorem q2086 : (Jvm.Cond.privateMethod ({ cls := "TwoSidedTablesModel", name := "weighs", desc := "(I)I" } : Jvm.MethodName)) ∈ lw_tbl := lw_at lw_m9 65 rfl
theorem q2087 : (Jvm.Cond.instanceMethod ({ cls := "TwoSidedTablesModel", name := "weighs", desc := "(I)I" } : Jvm.MethodName)) ∈ lw_all := lw_g (lw_at lw_m9 66 rfl) rfl
theorem q2088 : (Jvm.Cond.code ({ cls := "TwoSidedTablesModel", name := "weighs", desc := "(I)I" } : Jvm.MethodName) prog_24_method_93_code (2 : Nat) (Option.some Jvm.ClassFile.FieldType.int)) ∈ lw_all := lw_g (lw_at lw_m9 67 rfl) rfl
theorem q2089 : (Jvm.Cond.methodLink "TwoSidedTablesModel" (351 : Nat) ({ cls := "TwoSidedTablesModel", name := "ran", desc := "(I)V" } : Jvm.MethodName)) ∈ lw_all := lw_g (lw_at lw_m9 68 rfl) rfl
theorem q2090 : (Jvm.Cond.privateMethod ({ cls := "TwoSidedTablesModel", name := "ran", desc := "(I)V" } : Jvm.MethodName)) ∈ lw_tbl := lw_at lw_m9 69 rfl
theorem q2091 : (Jvm.Cond.instanceMethod ({ cls := "TwoSidedTablesModel", name := "ran", desc := "(I)V" } : Jvm.MethodName)) ∈ lw_all := lw_g (lw_at lw_m9 70 rfl) rfl
theorem q2092 : (Jvm.Cond.code ({ cls := "TwoSidedTablesModel", name := "ran", desc := "(I)V" } : Jvm.MethodName) prog_24_method_90_code (2 : Nat) (Option.none : Option Jvm.ClassFile.FieldType)) ∈ lw_all := lw_g (lw_at lw_m9 71 rfl) rfl
theorem q2093 : (Jvm.Cond.methodLink "TwoSidedTablesModel" (357 : Nat) ({ cls := "TwoSidedTablesModel", name := "plainWeighs", desc := "(I)I" } : Jvm.MethodName)) ∈ lw_all := lw_g (lw_at lw_m9 72 rfl) rfl
theorem q2094 : (Jvm.Cond.privateMethod ({ cls := "TwoSidedTablesModel", name := "plainWeighs", desc := "(I)I" } : Jvm.MethodName)) ∈ lw_tbl := lw_at lw_m9 73 rfl
theorem q2095 : (Jvm.Cond.instanceMethod ({ cls := "TwoSidedTablesModel", name := "plainWeighs", desc := "(I)I" } : Jvm.MethodName)) ∈ lw_all := lw_g (lw_at lw_m9 74 rfl) rfl
theorem q2096 : (Jvm.Cond.code ({ cls := "TwoSidedTablesModel", name := "plainWeighs", desc := "(I)I" } : Jvm.MethodName) prog_24_method_91_code (2 : Nat) (Option.some Jvm.ClassFile.FieldType.int)) ∈ lw_all := lw_g (lw_at lw_m9 75 rfl) rfl
theorem q2097 : (Jvm.Cond.methodLink "TwoSidedTablesModel" (363 : Nat) ({ cls := "TwoSidedTablesModel", name := "turnedWeighs", desc := "(I)I" } : Jvm.MethodName)) ∈ lw_all := lw_g (lw_at lw_m9 76 rfl) rfl
theorem q2098 : (Jvm.Cond.privateMethod ({ cls := "TwoSidedTablesModel", name := "turnedWeighs", desc := "(I)I" } : Jvm.MethodName)) ∈ lw_tbl := lw_at lw_m9 77 rfl
theorem q2099 : (Jvm.Cond.instanceMethod ({ cls := "TwoSidedTablesModel", name := "turnedWeighs", desc := "(I)I" } : Jvm.MethodName)) ∈ lw_all := lw_g (lw_at lw_m9 78 rfl) rfl
theorem q2100 : (Jvm.Cond.code ({ cls := "TwoSidedTablesModel", name := "turnedWeighs", desc := "(I)I" } : Jvm.MethodName) prog_24_method_92_code (2 : Nat) (Option.some Jvm.ClassFile.FieldType.int)) ∈ lw_all := lw_g (lw_at lw_m9 79 rfl) rfl
theorem q2101 : (Jvm.Cond.methodLink "TwoSidedTablesModel" (382 : Nat) ({ cls := "TwoSidedTablesModel", name := "turns", desc := "(I)I" } : Jvm.MethodName)) ∈ lw_all := lw_g (lw_at lw_m9 80 rfl) rfl
theorem q2102 : (Jvm.Cond.privateMethod ({ cls := "TwoSidedTablesModel", name := "turns", desc := "(I)I" } : Jvm.MethodName)) ∈ lw_tbl := lw_at lw_m9 81 rfl
theorem q2103 : (Jvm.Cond.instanceMethod ({ cls := "TwoSidedTablesModel", name := "turns", desc := "(I)I" } : Jvm.MethodName)) ∈ lw_all := lw_g (lw_at lw_m9 82 rfl) rfl
theorem q2104 : (Jvm.Cond.code ({ cls := "TwoSidedTablesModel", name := "turns", desc := "(I)I" } : Jvm.MethodName) prog_24_method_96_code (2 : Nat) (Option.some Jvm.ClassFile.FieldType.int)) ∈ lw_all := lw_g (lw_at lw_m9 83 rfl) rfl
theorem q2105 : (Jvm.Cond.methodLink "TwoSidedTablesModel" (375 : Nat) ({ cls := "TwoSidedTablesModel", name := "alikeTurns", desc := "(I)I" } : Jvm.MethodName)) ∈ lw_all := lw_g (lw_at lw_m9 84 rfl) rfl
theorem q2106 : (Jvm.Cond.privateMethod ({ cls := "TwoSidedTablesModel", name := "alikeTurns", desc := "(I)I" } : Jvm.MethodName)) ∈ lw_tbl := lw_at lw_m9 85 rfl
theorem q2107 : (Jvm.Cond.instanceMethod ({ cls := "TwoSidedTablesModel", name := "alikeTurns", desc := "(I)I" } : Jvm.MethodName)) ∈ lw_all := lw_g (lw_at lw_m9 86 rfl) rfl
theorem q2108 : (Jvm.Cond.code ({ cls := "TwoSidedTablesModel", name := "alikeTurns", desc := "(I)I" } : Jvm.MethodName) prog_24_method_95_code (2 : Nat) (Option.some Jvm.ClassFile.FieldType.int)) ∈ lw_all := lw_g (lw_at lw_m9 87 rfl) rfl
theorem q2109 : (Jvm.Cond.methodLink "TwoSidedTablesModel" (372 : Nat) ({ cls := "TwoSidedTablesModel", name := "plainTurns", desc := "(I)I" } : Jvm.MethodName)) ∈ lw_all := lw_g (lw_at lw_m9 88 rfl) rfl
theorem q2110 : (Jvm.Cond.privateMethod ({ cls := "TwoSidedTablesModel", name := "plainTurns", desc := "(I)I" } : Jvm.MethodName)) ∈ lw_tbl := lw_at lw_m9 89 rfl
theorem q2111 : (Jvm.Cond.instanceMethod ({ cls := "TwoSidedTablesModel", name := "plainTurns", desc := "(I)I" } : Jvm.MethodName)) ∈ lw_all := lw_g (lw_at lw_m9 90 rfl) rfl
theorem q2112 : (Jvm.Cond.code ({ cls := "TwoSidedTablesModel", name := "plainTurns", desc := "(I)I" } : Jvm.MethodName) prog_24_method_94_code (2 : Nat) (Option.some Jvm.ClassFile.FieldType.int)) ∈ lw_all := lw_g (lw_at lw_m9 91 rfl) rfl
theorem q2113 : (Jvm.Cond.methodLink "TwoSidedTablesModel" (385 : Nat) ({ cls := "TwoSidedTablesModel", name := "parts", desc := "(I)I" } : Jvm.MethodName)) ∈ lw_all := lw_g (lw_at lw_m9 92 rfl) rfl
theorem q2114 : (Jvm.Cond.privateMethod ({ cls := "TwoSidedTablesModel", name := "parts", desc := "(I)I" } : Jvm.MethodName)) ∈ lw_tbl := lw_at lw_m9 93 rfl
theorem q2115 : (Jvm.Cond.instanceMethod ({ cls := "TwoSidedTablesModel", name := "parts", desc := "(I)I" } : Jvm.MethodName)) ∈ lw_all := lw_g (lw_at lw_m9 94 rfl) rfl
theorem q2116 : (Jvm.Cond.code ({ cls := "TwoSidedTablesModel", name := "parts", desc := "(I)I" } : Jvm.MethodName) prog_24_method_97_code (4 : Nat) (Option.some Jvm.ClassFile.FieldType.int)) ∈ lw_all := lw_g (lw_at lw_m9 95 rfl) rfl
theorem q2117 : (Jvm.Cond.methodLink "TwoSidedTablesModel" (394 : Nat) ({ cls := "TwoSidedTablesModel", name := "closes", desc := "(I)I" } : Jvm.MethodName)) ∈ lw_all := lw_g (lw_at lw_m9 96 rfl) rfl
theorem q2118 : (Jvm.Cond.privateMethod ({ cls := "TwoSidedTablesModel", name := "closes", desc := "(I)I" } : Jvm.MethodName)) ∈ lw_tbl := lw_at lw_m9 97 rfl
theorem q2119 : (Jvm.Cond.instanceMethod ({ cls := "TwoSidedTablesModel", name := "closes", desc := "(I)I" } : Jvm.MethodName)) ∈ lw_all := lw_g (lw_at lw_m9 98 rfl) rfl
theorem q2120 : (Jvm.Cond.code ({ cls := "TwoSidedTablesModel", name := "closes", desc := "(I)I" } : Jvm.MethodName) prog_24_method_100_code (2 : Nat) (Option.some Jvm.ClassFile.FieldType.int)) ∈ lw_all := lw_g (lw_at lw_m9 99 rfl) rfl
theorem q2121 : (Jvm.Cond.methodLink "TwoSidedTablesModel" (391 : Nat) ({ cls := "TwoSidedTablesModel", name := "evenCloses", desc := "(I)I" } : Jvm.MethodName)) ∈ lw_all := lw_g (lw_at lw_m9 100 rfl) rfl
theorem q2122 : (Jvm.Cond.privateMethod ({ cls := "TwoSidedTablesModel", name := "evenCloses", desc := "(I)I" } : Jvm.MethodName)) ∈ lw_tbl := lw_at lw_m9 101 rfl
theorem q2123 : (Jvm.Cond.instanceMethod ({ cls := "TwoSidedTablesModel", name := "evenCloses", desc := "(I)I" } : Jvm.MethodName)) ∈ lw_all := lw_g (lw_at lw_m9 102 rfl) rfl
theorem q2124 : (Jvm.Cond.code ({ cls := "TwoSidedTablesModel", name := "evenCloses", desc := "(I)I" } : Jvm.MethodName) prog_24_method_99_code (3 : Nat) (Option.some Jvm.ClassFile.FieldType.int)) ∈ lw_all := lw_g (lw_at lw_m9 103 rfl) rfl
theorem q2125 : (Jvm.Cond.methodLink "TwoSidedTablesModel" (388 : Nat) ({ cls := "TwoSidedTablesModel", name := "plainCloses", desc := "(I)I" } : Jvm.MethodName)) ∈ lw_all := lw_g (lw_at lw_m9 104 rfl) rfl
theorem q2126 : (Jvm.Cond.privateMethod ({ cls := "TwoSidedTablesModel", name := "plainCloses", desc := "(I)I" } : Jvm.MethodName)) ∈ lw_tbl := lw_at lw_m9 105 rfl
theorem q2127 : (Jvm.Cond.instanceMethod ({ cls := "TwoSidedTablesModel", name := "plainCloses", desc := "(I)I" } : Jvm.MethodName)) ∈ lw_all := lw_g (lw_at lw_m9 106 rfl) rfl
theorem q2128 : (Jvm.Cond.code ({ cls := "TwoSidedTablesModel", name := "plainCloses", desc := "(I)I" } : Jvm.MethodName) prog_24_method_98_code (3 : Nat) (Option.some Jvm.ClassFile.FieldType.int)) ∈ lw_all := lw_g (lw_at lw_m9 107 rfl) rfl
theorem q2130 : (Jvm.Cond.instanceMethod ({ cls := "TwoSidedTablesModel", name := "trace", desc := "(I)I" } : Jvm.MethodName)) ∈ lw_all := lw_g (lw_at lw_m9 109 rfl) rfl
theorem q2131 : (Jvm.Cond.selects "TwoSidedTablesModel" ({ cls := "TwoSidedTablesModel", name := "trace", desc := "(I)I" } : Jvm.MethodName) ({ cls := "TwoSidedTablesModel", name := "trace", desc := "(I)I" } : Jvm.MethodName)) ∈ lw_all := lw_g (lw_at lw_m9 110 rfl) rfl
theorem q2132 : (Jvm.Cond.code ({ cls := "TwoSidedTablesModel", name := "trace", desc := "(I)I" } : Jvm.MethodName) prog_24_method_102_code (2 : Nat) (Option.some Jvm.ClassFile.FieldType.int)) ∈ lw_all := lw_g (lw_at lw_m9 111 rfl) rfl
theorem q2134 : (Jvm.Cond.instanceMethod ({ cls := "TwoSidedTablesModel", name := "many", desc := "(I)I" } : Jvm.MethodName)) ∈ lw_all := lw_g (lw_at lw_m9 113 rfl) rfl
theorem q2135 : (Jvm.Cond.selects "TwoSidedTablesModel" ({ cls := "TwoSidedTablesModel", name := "many", desc := "(I)I" } : Jvm.MethodName) ({ cls := "TwoSidedTablesModel", name := "many", desc := "(I)I" } : Jvm.MethodName)) ∈ lw_all := lw_g (lw_at lw_m9 114 rfl) rfl
theorem q2136 : (Jvm.Cond.code ({ cls := "TwoSidedTablesModel", name := "many", desc := "(I)I" } : Jvm.MethodName) prog_24_method_105_code (2 : Nat) (Option.some Jvm.ClassFile.FieldType.int)) ∈ lw_all := lw_g (lw_at lw_m9 115 rfl) rfl
theorem q2137 : (Jvm.Cond.methodLink "TwoSidedTablesModel" (397 : Nat) ({ cls := "TwoSidedTablesModel", name := "fitting", desc := "()I" } : Jvm.MethodName)) ∈ lw_all := lw_g (lw_at lw_m9 116 rfl) rfl
theorem q2138 : (Jvm.Cond.privateMethod ({ cls := "TwoSidedTablesModel", name := "fitting", desc := "()I" } : Jvm.MethodName)) ∈ lw_tbl := lw_at lw_m9 117 rfl
theorem q2139 : (Jvm.Cond.instanceMethod ({ cls := "TwoSidedTablesModel", name := "fitting", desc := "()I" } : Jvm.MethodName)) ∈ lw_all := lw_g (lw_at lw_m9 118 rfl) rfl
theorem q2140 : (Jvm.Cond.code ({ cls := "TwoSidedTablesModel", name := "fitting", desc := "()I" } : Jvm.MethodName) prog_24_method_103_code (3 : Nat) (Option.some Jvm.ClassFile.FieldType.int)) ∈ lw_all := lw_g (lw_at lw_m9 119 rfl) rfl
theorem q2141 : (Jvm.Cond.methodLink "TwoSidedTablesModel" (400 : Nat) ({ cls := "TwoSidedTablesModel", name := "splitting", desc := "()I" } : Jvm.MethodName)) ∈ lw_all := lw_g (lw_at lw_m9 120 rfl) rfl
theorem q2142 : (Jvm.Cond.privateMethod ({ cls := "TwoSidedTablesModel", name := "splitting", desc := "()I" } : Jvm.MethodName)) ∈ lw_tbl := lw_at lw_m9 121 rfl
theorem q2143 : (Jvm.Cond.instanceMethod ({ cls := "TwoSidedTablesModel", name := "splitting", desc := "()I" } : Jvm.MethodName)) ∈ lw_all := lw_g (lw_at lw_m9 122 rfl) rfl
theorem q2144 : (Jvm.Cond.code ({ cls := "TwoSidedTablesModel", name := "splitting", desc := "()I" } : Jvm.MethodName) prog_24_method_104_code (3 : Nat) (Option.some Jvm.ClassFile.FieldType.int)) ∈ lw_all := lw_g (lw_at lw_m9 123 rfl) rfl
theorem q2146 : (Jvm.Cond.instanceMethod ({ cls := "TwoSidedTablesModel", name := "keep", desc := "()I" } : Jvm.MethodName)) ∈ lw_all := lw_g (lw_at lw_m9 125 rfl) rfl
theorem q2147 : (Jvm.Cond.selects "TwoSidedTablesModel" ({ cls := "TwoSidedTablesModel", name := "keep", desc := "()I" } : Jvm.MethodName) ({ cls := "TwoSidedTablesModel", name := "keep", desc := "()I" } : Jvm.MethodName)) ∈ lw_all := lw_g (lw_at lw_m9 126 rfl) rfl
theorem q2148 : (Jvm.Cond.code ({ cls := "TwoSidedTablesModel", name := "keep", desc := "()I" } : Jvm.MethodName) prog_24_method_106_code (2 : Nat) (Option.some Jvm.ClassFile.FieldType.int)) ∈ lw_all := lw_g (lw_at lw_m9 127 rfl) rfl
theorem q2150 : (Jvm.Cond.instanceMethod ({ cls := "TwoSidedTablesModel", name := "again", desc := "()I" } : Jvm.MethodName)) ∈ lw_all := lw_g (lw_at lw_m9 129 rfl) rfl
theorem q2151 : (Jvm.Cond.selects "TwoSidedTablesModel" ({ cls := "TwoSidedTablesModel", name := "again", desc := "()I" } : Jvm.MethodName) ({ cls := "TwoSidedTablesModel", name := "again", desc := "()I" } : Jvm.MethodName)) ∈ lw_all := lw_g (lw_at lw_m9 130 rfl) rfl
theorem q2152 : (Jvm.Cond.code ({ cls := "TwoSidedTablesModel", name := "again", desc := "()I" } : Jvm.MethodName) prog_24_method_107_code (2 : Nat) (Option.some Jvm.ClassFile.FieldType.int)) ∈ lw_all := lw_g (lw_at lw_m9 131 rfl) rfl
theorem in_X8 : ∀ w ∈ wsX80, w ∈ lw_all := lw_in wsX80 [1632, 1634, 1636, 1638, 1640, 1642, 1644, 1646, 1648, 1650, 1652, 1654, 1656, 1658, 1660, 1662, 1664, 1666, 1668, 1670, 1672, 1674, 1676, 1678, 1680, 1682, 1684, 1686, 1688, 1690, 1692, 1694, 1696, 1698, 1700, 1702, 1704, 1706, 1708, 1710, 1712, 1714, 1716, 1718, 1720, 1722, 1724] (by decide +kernel) (by decide +kernel)
