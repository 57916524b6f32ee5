/-! SawLineModel -/
set_option maxRecDepth 100000
def RX2 : String := "SawLineModel"
def TX2 : u_T := fun k => match k with
  | 0 => ("SawLineModel", "fault", "I", false)
  | 1 => ("SawLineModel", "teeth", "I", false)
  | 2 => ("SawLineModel", "kindOf", "[I", true)
  | 3 => ("SawLineModel", "sideOf", "[I", true)
  | 4 => ("SawLineModel", "bendOf", "[I", true)
  | 5 => ("SawLineModel", "heightOf", "[I", true)
  | 6 => ("SawLineModel", "edgeOf", "[I", true)
  | 7 => ("SawLineModel", "readAt", "I", false)
  | 8 => ("SawLineModel", "readMany", "I", false)
  | 9 => ("SawLineModel", "readKind", "[I", true)
  | 10 => ("SawLineModel", "readSide", "[I", true)
  | 11 => ("SawLineModel", "readNumber", "[I", true)
  | 12 => ("SawLineModel", "lines", "I", false)
  | 13 => ("SawLineModel", "hardOf", "[I", true)
  | 14 => ("SawLineModel", "grainOf", "[I", true)
  | 15 => ("SawLineModel", "closesOf", "[I", true)
  | 16 => ("SawLineModel", "leans", "I", false)
  | 17 => ("SawLineModel", "steers", "I", false)
  | 18 => ("SawLineModel", "late", "I", false)
  | 19 => ("SawLineModel", "fenceNow", "I", false)
  | 20 => ("SawLineModel", "strokes", "I", false)
  | 21 => ("SawLineModel", "placeAt", "[I", true)
  | 22 => ("SawLineModel", "headingAt", "[I", true)
  | 23 => ("SawLineModel", "offNow", "I", false)
  | 24 => ("SawLineModel", "flaws", "I", false)
  | 25 => ("SawLineModel", "flawOn", "[I", true)
  | 26 => ("SawLineModel", "flawWhat", "[I", true)
  | 27 => ("SawLineModel", "flawTo", "[I", true)
  | 28 => ("SawLineModel", "readings", "I", false)
  | 29 => ("SawLineModel", "readingLine", "[I", true)
  | 30 => ("SawLineModel", "readingPlace", "[I", true)
  | 31 => ("SawLineModel", "manySets", "I", false)
  | 32 => ("SawLineModel", "firstSet", "I", false)
  | 33 => ("SawLineModel", "setsWith", "[I", true)
  | 34 => ("SawLineModel", "bestCost", "I", false)
  | 35 => ("SawLineModel", "bestMany", "I", false)
  | 36 => ("SawLineModel", "bestFirst", "I", false)
  | 37 => ("SawLineModel", "bestSecond", "I", false)
  | 38 => ("SawLineModel", "kept", "[I", true)
  | 39 => ("SawLineModel", "strain", "[I", true)
  | 40 => ("SawLineModel", "bestOrder", "I", false)
  | 41 => ("SawLineModel", "sheetSize", "[I", true)
  | 42 => ("SawLineModel", "sheetLane", "[I", true)
  | 43 => ("SawLineModel", "sheet", "[I", true)
  | 44 => ("SawLineModel", "hands", "[I", true)
  | _ => ("SawLineModel", "traceNow", "I", false)
def tyX2 : Nat → FieldType := fun k => match k with
  | 0 => .int
  | 1 => .int
  | 2 => .array .int
  | 3 => .array .int
  | 4 => .array .int
  | 5 => .array .int
  | 6 => .array .int
  | 7 => .int
  | 8 => .int
  | 9 => .array .int
  | 10 => .array .int
  | 11 => .array .int
  | 12 => .int
  | 13 => .array .int
  | 14 => .array .int
  | 15 => .array .int
  | 16 => .int
  | 17 => .int
  | 18 => .int
  | 19 => .int
  | 20 => .int
  | 21 => .array .int
  | 22 => .array .int
  | 23 => .int
  | 24 => .int
  | 25 => .array .int
  | 26 => .array .int
  | 27 => .array .int
  | 28 => .int
  | 29 => .array .int
  | 30 => .array .int
  | 31 => .int
  | 32 => .int
  | 33 => .array .int
  | 34 => .int
  | 35 => .int
  | 36 => .int
  | 37 => .int
  | 38 => .array .int
  | 39 => .array .int
  | 40 => .int
  | 41 => .array .int
  | 42 => .array .int
  | 43 => .array .int
  | 44 => .array .int
  | _ => .int
abbrev wsX20 : List Cond := u_ws RX2 TX2 46
set_option maxRecDepth 100000 in
theorem nmX2 : ∀ a, a < 46 → ∀ b, b < 46 → a ≠ b → (TX2 a).2.1 ≠ (TX2 b).2.1 := by decide +kernel
set_option maxRecDepth 100000 in
theorem tyX2_ok : ∀ k, k < 46 → parseFieldDescriptor (TX2 k).2.2.1 = some (tyX2 k) := by decide +kernel
abbrev cX2_init : ByteArray := prog_8_method_1_code
def yX2_init : MethodName := ⟨RX2, "<init>", "()V"⟩
def dkwX2_init_9 : List UInt8 := [27, 2, 79, 132, 1, 1, 167, 255, 241, 177]
abbrev dktX2_init_9 : List UInt8 := dkwX2_init_9 ++ []
def dkwX2_init_8 : List UInt8 := [188, 10, 181, 0, 79, 42, 16, 80, 188, 10, 181, 0, 82, 3, 60, 27, 7, 162, 0, 16, 42, 180, 0, 73]
abbrev dktX2_init_8 : List UInt8 := dkwX2_init_8 ++ dktX2_init_9
def dkwX2_init_7 : List UInt8 := [188, 10, 181, 0, 70, 42, 7, 188, 10, 181, 0, 73, 42, 7, 188, 10, 181, 0, 76, 42, 17, 1, 64]
abbrev dktX2_init_7 : List UInt8 := dkwX2_init_7 ++ dktX2_init_8
def dkwX2_init_6 : List UInt8 := [188, 10, 181, 0, 61, 42, 16, 6, 188, 10, 181, 0, 64, 42, 16, 6, 188, 10, 181, 0, 67, 42, 16, 7]
abbrev dktX2_init_6 : List UInt8 := dkwX2_init_6 ++ dktX2_init_7
def dkwX2_init_5 : List UInt8 := [188, 10, 181, 0, 52, 42, 16, 6, 188, 10, 181, 0, 55, 42, 16, 8, 188, 10, 181, 0, 58, 42, 16, 8]
abbrev dktX2_init_5 : List UInt8 := dkwX2_init_5 ++ dktX2_init_6
def dkwX2_init_4 : List UInt8 := [188, 10, 181, 0, 43, 42, 16, 24, 188, 10, 181, 0, 46, 42, 16, 6, 188, 10, 181, 0, 49, 42, 16, 6]
abbrev dktX2_init_4 : List UInt8 := dkwX2_init_4 ++ dktX2_init_5
def dkwX2_init_3 : List UInt8 := [188, 10, 181, 0, 34, 42, 16, 24, 188, 10, 181, 0, 37, 42, 16, 24, 188, 10, 181, 0, 40, 42, 16, 24]
abbrev dktX2_init_3 : List UInt8 := dkwX2_init_3 ++ dktX2_init_4
def dkwX2_init_2 : List UInt8 := [188, 10, 181, 0, 25, 42, 16, 8, 188, 10, 181, 0, 28, 42, 16, 72, 188, 10, 181, 0, 31, 42, 16, 24]
abbrev dktX2_init_2 : List UInt8 := dkwX2_init_2 ++ dktX2_init_3
def dkwX2_init_1 : List UInt8 := [188, 10, 181, 0, 16, 42, 16, 8, 188, 10, 181, 0, 19, 42, 16, 8, 188, 10, 181, 0, 22, 42, 16, 8]
abbrev dktX2_init_1 : List UInt8 := dkwX2_init_1 ++ dktX2_init_2
def dkwX2_init_0 : List UInt8 := [42, 183, 0, 1, 42, 16, 8, 188, 10, 181, 0, 7, 42, 16, 8, 188, 10, 181, 0, 13, 42, 16, 8]
abbrev dktX2_init_0 : List UInt8 := dkwX2_init_0 ++ dktX2_init_1
theorem dksX2_init_0 : cX2_init.data.toList.drop 0 = dktX2_init_0 := by decide +kernel
theorem dksX2_init_1 : cX2_init.data.toList.drop 23 = dktX2_init_1 := dk_seg dksX2_init_0 23 rfl rfl
theorem dksX2_init_2 : cX2_init.data.toList.drop 47 = dktX2_init_2 := dk_seg dksX2_init_1 24 rfl rfl
theorem dksX2_init_3 : cX2_init.data.toList.drop 71 = dktX2_init_3 := dk_seg dksX2_init_2 24 rfl rfl
theorem dksX2_init_4 : cX2_init.data.toList.drop 95 = dktX2_init_4 := dk_seg dksX2_init_3 24 rfl rfl
theorem dksX2_init_5 : cX2_init.data.toList.drop 119 = dktX2_init_5 := dk_seg dksX2_init_4 24 rfl rfl
theorem dksX2_init_6 : cX2_init.data.toList.drop 143 = dktX2_init_6 := dk_seg dksX2_init_5 24 rfl rfl
theorem dksX2_init_7 : cX2_init.data.toList.drop 167 = dktX2_init_7 := dk_seg dksX2_init_6 24 rfl rfl
theorem dksX2_init_8 : cX2_init.data.toList.drop 190 = dktX2_init_8 := dk_seg dksX2_init_7 23 rfl rfl
theorem dksX2_init_9 : cX2_init.data.toList.drop 214 = dktX2_init_9 := dk_seg dksX2_init_8 24 rfl rfl
theorem dX2_init_0 : decode cX2_init 0 = .ok (.aload_n 0, 1) := dk_42 (dk_at dksX2_init_0 0 rfl rfl)
theorem dX2_init_1 : decode cX2_init 1 = .ok (.invokespecial 1, 3) := dk_183 0 1 (dk_at dksX2_init_0 1 rfl rfl)
theorem dX2_init_4 : decode cX2_init 4 = .ok (.aload_n 0, 1) := dk_42 (dk_at dksX2_init_0 4 rfl rfl)
theorem dX2_init_5 : decode cX2_init 5 = .ok (.bipush 8, 2) := dk_16 8 (dk_at dksX2_init_0 5 rfl rfl)
theorem dX2_init_7 : decode cX2_init 7 = .ok (.newarray .int, 2) := dk_188_10 (dk_at dksX2_init_0 7 rfl rfl)
theorem dX2_init_9 : decode cX2_init 9 = .ok (.putfield 7, 3) := dk_181 0 7 (dk_at dksX2_init_0 9 rfl rfl)
theorem dX2_init_12 : decode cX2_init 12 = .ok (.aload_n 0, 1) := dk_42 (dk_at dksX2_init_0 12 rfl rfl)
theorem dX2_init_13 : decode cX2_init 13 = .ok (.bipush 8, 2) := dk_16 8 (dk_at dksX2_init_0 13 rfl rfl)
theorem dX2_init_15 : decode cX2_init 15 = .ok (.newarray .int, 2) := dk_188_10 (dk_at dksX2_init_0 15 rfl rfl)
theorem dX2_init_17 : decode cX2_init 17 = .ok (.putfield 13, 3) := dk_181 0 13 (dk_at dksX2_init_0 17 rfl rfl)
theorem dX2_init_20 : decode cX2_init 20 = .ok (.aload_n 0, 1) := dk_42 (dk_at dksX2_init_0 20 rfl rfl)
theorem dX2_init_21 : decode cX2_init 21 = .ok (.bipush 8, 2) := dk_16 8 (dk_at dksX2_init_0 21 rfl rfl)
theorem dX2_init_23 : decode cX2_init 23 = .ok (.newarray .int, 2) := dk_188_10 (dk_at dksX2_init_1 0 rfl rfl)
theorem dX2_init_25 : decode cX2_init 25 = .ok (.putfield 16, 3) := dk_181 0 16 (dk_at dksX2_init_1 2 rfl rfl)
theorem dX2_init_28 : decode cX2_init 28 = .ok (.aload_n 0, 1) := dk_42 (dk_at dksX2_init_1 5 rfl rfl)
theorem dX2_init_29 : decode cX2_init 29 = .ok (.bipush 8, 2) := dk_16 8 (dk_at dksX2_init_1 6 rfl rfl)
theorem dX2_init_31 : decode cX2_init 31 = .ok (.newarray .int, 2) := dk_188_10 (dk_at dksX2_init_1 8 rfl rfl)
theorem dX2_init_33 : decode cX2_init 33 = .ok (.putfield 19, 3) := dk_181 0 19 (dk_at dksX2_init_1 10 rfl rfl)
theorem dX2_init_36 : decode cX2_init 36 = .ok (.aload_n 0, 1) := dk_42 (dk_at dksX2_init_1 13 rfl rfl)
theorem dX2_init_37 : decode cX2_init 37 = .ok (.bipush 8, 2) := dk_16 8 (dk_at dksX2_init_1 14 rfl rfl)
theorem dX2_init_39 : decode cX2_init 39 = .ok (.newarray .int, 2) := dk_188_10 (dk_at dksX2_init_1 16 rfl rfl)
theorem dX2_init_41 : decode cX2_init 41 = .ok (.putfield 22, 3) := dk_181 0 22 (dk_at dksX2_init_1 18 rfl rfl)
theorem dX2_init_44 : decode cX2_init 44 = .ok (.aload_n 0, 1) := dk_42 (dk_at dksX2_init_1 21 rfl rfl)
theorem dX2_init_45 : decode cX2_init 45 = .ok (.bipush 8, 2) := dk_16 8 (dk_at dksX2_init_1 22 rfl rfl)
theorem dX2_init_47 : decode cX2_init 47 = .ok (.newarray .int, 2) := dk_188_10 (dk_at dksX2_init_2 0 rfl rfl)
theorem dX2_init_49 : decode cX2_init 49 = .ok (.putfield 25, 3) := dk_181 0 25 (dk_at dksX2_init_2 2 rfl rfl)
theorem dX2_init_52 : decode cX2_init 52 = .ok (.aload_n 0, 1) := dk_42 (dk_at dksX2_init_2 5 rfl rfl)
theorem dX2_init_53 : decode cX2_init 53 = .ok (.bipush 8, 2) := dk_16 8 (dk_at dksX2_init_2 6 rfl rfl)
theorem dX2_init_55 : decode cX2_init 55 = .ok (.newarray .int, 2) := dk_188_10 (dk_at dksX2_init_2 8 rfl rfl)
theorem dX2_init_57 : decode cX2_init 57 = .ok (.putfield 28, 3) := dk_181 0 28 (dk_at dksX2_init_2 10 rfl rfl)
theorem dX2_init_60 : decode cX2_init 60 = .ok (.aload_n 0, 1) := dk_42 (dk_at dksX2_init_2 13 rfl rfl)
theorem dX2_init_61 : decode cX2_init 61 = .ok (.bipush 72, 2) := dk_16 72 (dk_at dksX2_init_2 14 rfl rfl)
theorem dX2_init_63 : decode cX2_init 63 = .ok (.newarray .int, 2) := dk_188_10 (dk_at dksX2_init_2 16 rfl rfl)
theorem dX2_init_65 : decode cX2_init 65 = .ok (.putfield 31, 3) := dk_181 0 31 (dk_at dksX2_init_2 18 rfl rfl)
theorem dX2_init_68 : decode cX2_init 68 = .ok (.aload_n 0, 1) := dk_42 (dk_at dksX2_init_2 21 rfl rfl)
theorem dX2_init_69 : decode cX2_init 69 = .ok (.bipush 24, 2) := dk_16 24 (dk_at dksX2_init_2 22 rfl rfl)
theorem dX2_init_71 : decode cX2_init 71 = .ok (.newarray .int, 2) := dk_188_10 (dk_at dksX2_init_3 0 rfl rfl)
theorem dX2_init_73 : decode cX2_init 73 = .ok (.putfield 34, 3) := dk_181 0 34 (dk_at dksX2_init_3 2 rfl rfl)
theorem dX2_init_76 : decode cX2_init 76 = .ok (.aload_n 0, 1) := dk_42 (dk_at dksX2_init_3 5 rfl rfl)
theorem dX2_init_77 : decode cX2_init 77 = .ok (.bipush 24, 2) := dk_16 24 (dk_at dksX2_init_3 6 rfl rfl)
theorem dX2_init_79 : decode cX2_init 79 = .ok (.newarray .int, 2) := dk_188_10 (dk_at dksX2_init_3 8 rfl rfl)
theorem dX2_init_81 : decode cX2_init 81 = .ok (.putfield 37, 3) := dk_181 0 37 (dk_at dksX2_init_3 10 rfl rfl)
theorem dX2_init_84 : decode cX2_init 84 = .ok (.aload_n 0, 1) := dk_42 (dk_at dksX2_init_3 13 rfl rfl)
theorem dX2_init_85 : decode cX2_init 85 = .ok (.bipush 24, 2) := dk_16 24 (dk_at dksX2_init_3 14 rfl rfl)
theorem dX2_init_87 : decode cX2_init 87 = .ok (.newarray .int, 2) := dk_188_10 (dk_at dksX2_init_3 16 rfl rfl)
theorem dX2_init_89 : decode cX2_init 89 = .ok (.putfield 40, 3) := dk_181 0 40 (dk_at dksX2_init_3 18 rfl rfl)
theorem dX2_init_92 : decode cX2_init 92 = .ok (.aload_n 0, 1) := dk_42 (dk_at dksX2_init_3 21 rfl rfl)
theorem dX2_init_93 : decode cX2_init 93 = .ok (.bipush 24, 2) := dk_16 24 (dk_at dksX2_init_3 22 rfl rfl)
theorem dX2_init_95 : decode cX2_init 95 = .ok (.newarray .int, 2) := dk_188_10 (dk_at dksX2_init_4 0 rfl rfl)
theorem dX2_init_97 : decode cX2_init 97 = .ok (.putfield 43, 3) := dk_181 0 43 (dk_at dksX2_init_4 2 rfl rfl)
theorem dX2_init_100 : decode cX2_init 100 = .ok (.aload_n 0, 1) := dk_42 (dk_at dksX2_init_4 5 rfl rfl)
theorem dX2_init_101 : decode cX2_init 101 = .ok (.bipush 24, 2) := dk_16 24 (dk_at dksX2_init_4 6 rfl rfl)
theorem dX2_init_103 : decode cX2_init 103 = .ok (.newarray .int, 2) := dk_188_10 (dk_at dksX2_init_4 8 rfl rfl)
theorem dX2_init_105 : decode cX2_init 105 = .ok (.putfield 46, 3) := dk_181 0 46 (dk_at dksX2_init_4 10 rfl rfl)
theorem dX2_init_108 : decode cX2_init 108 = .ok (.aload_n 0, 1) := dk_42 (dk_at dksX2_init_4 13 rfl rfl)
theorem dX2_init_109 : decode cX2_init 109 = .ok (.bipush 6, 2) := dk_16 6 (dk_at dksX2_init_4 14 rfl rfl)
theorem dX2_init_111 : decode cX2_init 111 = .ok (.newarray .int, 2) := dk_188_10 (dk_at dksX2_init_4 16 rfl rfl)
theorem dX2_init_113 : decode cX2_init 113 = .ok (.putfield 49, 3) := dk_181 0 49 (dk_at dksX2_init_4 18 rfl rfl)
theorem dX2_init_116 : decode cX2_init 116 = .ok (.aload_n 0, 1) := dk_42 (dk_at dksX2_init_4 21 rfl rfl)
theorem dX2_init_117 : decode cX2_init 117 = .ok (.bipush 6, 2) := dk_16 6 (dk_at dksX2_init_4 22 rfl rfl)
theorem dX2_init_119 : decode cX2_init 119 = .ok (.newarray .int, 2) := dk_188_10 (dk_at dksX2_init_5 0 rfl rfl)
theorem dX2_init_121 : decode cX2_init 121 = .ok (.putfield 52, 3) := dk_181 0 52 (dk_at dksX2_init_5 2 rfl rfl)
theorem dX2_init_124 : decode cX2_init 124 = .ok (.aload_n 0, 1) := dk_42 (dk_at dksX2_init_5 5 rfl rfl)
theorem dX2_init_125 : decode cX2_init 125 = .ok (.bipush 6, 2) := dk_16 6 (dk_at dksX2_init_5 6 rfl rfl)
theorem dX2_init_127 : decode cX2_init 127 = .ok (.newarray .int, 2) := dk_188_10 (dk_at dksX2_init_5 8 rfl rfl)
theorem dX2_init_129 : decode cX2_init 129 = .ok (.putfield 55, 3) := dk_181 0 55 (dk_at dksX2_init_5 10 rfl rfl)
theorem dX2_init_132 : decode cX2_init 132 = .ok (.aload_n 0, 1) := dk_42 (dk_at dksX2_init_5 13 rfl rfl)
theorem dX2_init_133 : decode cX2_init 133 = .ok (.bipush 8, 2) := dk_16 8 (dk_at dksX2_init_5 14 rfl rfl)
theorem dX2_init_135 : decode cX2_init 135 = .ok (.newarray .int, 2) := dk_188_10 (dk_at dksX2_init_5 16 rfl rfl)
theorem dX2_init_137 : decode cX2_init 137 = .ok (.putfield 58, 3) := dk_181 0 58 (dk_at dksX2_init_5 18 rfl rfl)
theorem dX2_init_140 : decode cX2_init 140 = .ok (.aload_n 0, 1) := dk_42 (dk_at dksX2_init_5 21 rfl rfl)
theorem dX2_init_141 : decode cX2_init 141 = .ok (.bipush 8, 2) := dk_16 8 (dk_at dksX2_init_5 22 rfl rfl)
theorem dX2_init_143 : decode cX2_init 143 = .ok (.newarray .int, 2) := dk_188_10 (dk_at dksX2_init_6 0 rfl rfl)
theorem dX2_init_145 : decode cX2_init 145 = .ok (.putfield 61, 3) := dk_181 0 61 (dk_at dksX2_init_6 2 rfl rfl)
theorem dX2_init_148 : decode cX2_init 148 = .ok (.aload_n 0, 1) := dk_42 (dk_at dksX2_init_6 5 rfl rfl)
theorem dX2_init_149 : decode cX2_init 149 = .ok (.bipush 6, 2) := dk_16 6 (dk_at dksX2_init_6 6 rfl rfl)
theorem dX2_init_151 : decode cX2_init 151 = .ok (.newarray .int, 2) := dk_188_10 (dk_at dksX2_init_6 8 rfl rfl)
theorem dX2_init_153 : decode cX2_init 153 = .ok (.putfield 64, 3) := dk_181 0 64 (dk_at dksX2_init_6 10 rfl rfl)
theorem dX2_init_156 : decode cX2_init 156 = .ok (.aload_n 0, 1) := dk_42 (dk_at dksX2_init_6 13 rfl rfl)
theorem dX2_init_157 : decode cX2_init 157 = .ok (.bipush 6, 2) := dk_16 6 (dk_at dksX2_init_6 14 rfl rfl)
theorem dX2_init_159 : decode cX2_init 159 = .ok (.newarray .int, 2) := dk_188_10 (dk_at dksX2_init_6 16 rfl rfl)
theorem dX2_init_161 : decode cX2_init 161 = .ok (.putfield 67, 3) := dk_181 0 67 (dk_at dksX2_init_6 18 rfl rfl)
theorem dX2_init_164 : decode cX2_init 164 = .ok (.aload_n 0, 1) := dk_42 (dk_at dksX2_init_6 21 rfl rfl)
theorem dX2_init_165 : decode cX2_init 165 = .ok (.bipush 7, 2) := dk_16 7 (dk_at dksX2_init_6 22 rfl rfl)
theorem dX2_init_167 : decode cX2_init 167 = .ok (.newarray .int, 2) := dk_188_10 (dk_at dksX2_init_7 0 rfl rfl)
theorem dX2_init_169 : decode cX2_init 169 = .ok (.putfield 70, 3) := dk_181 0 70 (dk_at dksX2_init_7 2 rfl rfl)
theorem dX2_init_172 : decode cX2_init 172 = .ok (.aload_n 0, 1) := dk_42 (dk_at dksX2_init_7 5 rfl rfl)
theorem dX2_init_173 : decode cX2_init 173 = .ok (.iconst 4, 1) := dk_7 (dk_at dksX2_init_7 6 rfl rfl)
theorem dX2_init_174 : decode cX2_init 174 = .ok (.newarray .int, 2) := dk_188_10 (dk_at dksX2_init_7 7 rfl rfl)
theorem dX2_init_176 : decode cX2_init 176 = .ok (.putfield 73, 3) := dk_181 0 73 (dk_at dksX2_init_7 9 rfl rfl)
theorem dX2_init_179 : decode cX2_init 179 = .ok (.aload_n 0, 1) := dk_42 (dk_at dksX2_init_7 12 rfl rfl)
theorem dX2_init_180 : decode cX2_init 180 = .ok (.iconst 4, 1) := dk_7 (dk_at dksX2_init_7 13 rfl rfl)
theorem dX2_init_181 : decode cX2_init 181 = .ok (.newarray .int, 2) := dk_188_10 (dk_at dksX2_init_7 14 rfl rfl)
theorem dX2_init_183 : decode cX2_init 183 = .ok (.putfield 76, 3) := dk_181 0 76 (dk_at dksX2_init_7 16 rfl rfl)
theorem dX2_init_186 : decode cX2_init 186 = .ok (.aload_n 0, 1) := dk_42 (dk_at dksX2_init_7 19 rfl rfl)
theorem dX2_init_187 : decode cX2_init 187 = .ok (.sipush 320, 3) := dk_17 1 64 (dk_at dksX2_init_7 20 rfl rfl)
theorem dX2_init_190 : decode cX2_init 190 = .ok (.newarray .int, 2) := dk_188_10 (dk_at dksX2_init_8 0 rfl rfl)
theorem dX2_init_192 : decode cX2_init 192 = .ok (.putfield 79, 3) := dk_181 0 79 (dk_at dksX2_init_8 2 rfl rfl)
theorem dX2_init_195 : decode cX2_init 195 = .ok (.aload_n 0, 1) := dk_42 (dk_at dksX2_init_8 5 rfl rfl)
theorem dX2_init_196 : decode cX2_init 196 = .ok (.bipush 80, 2) := dk_16 80 (dk_at dksX2_init_8 6 rfl rfl)
theorem dX2_init_198 : decode cX2_init 198 = .ok (.newarray .int, 2) := dk_188_10 (dk_at dksX2_init_8 8 rfl rfl)
theorem dX2_init_200 : decode cX2_init 200 = .ok (.putfield 82, 3) := dk_181 0 82 (dk_at dksX2_init_8 10 rfl rfl)
theorem dX2_init_203 : decode cX2_init 203 = .ok (.iconst 0, 1) := dk_3 (dk_at dksX2_init_8 13 rfl rfl)
theorem dX2_init_204 : decode cX2_init 204 = .ok (.istore_n 1, 1) := dk_60 (dk_at dksX2_init_8 14 rfl rfl)
theorem dX2_init_205 : decode cX2_init 205 = .ok (.iload_n 1, 1) := dk_27 (dk_at dksX2_init_8 15 rfl rfl)
theorem dX2_init_206 : decode cX2_init 206 = .ok (.iconst 4, 1) := dk_7 (dk_at dksX2_init_8 16 rfl rfl)
theorem dX2_init_207 : decode cX2_init 207 = .ok (.if_icmp .ge 16, 3) := dk_162 0 16 (dk_at dksX2_init_8 17 rfl rfl)
theorem dX2_init_210 : decode cX2_init 210 = .ok (.aload_n 0, 1) := dk_42 (dk_at dksX2_init_8 20 rfl rfl)
theorem dX2_init_211 : decode cX2_init 211 = .ok (.getfield 73, 3) := dk_180 0 73 (dk_at dksX2_init_8 21 rfl rfl)
theorem dX2_init_214 : decode cX2_init 214 = .ok (.iload_n 1, 1) := dk_27 (dk_at dksX2_init_9 0 rfl rfl)
theorem dX2_init_215 : decode cX2_init 215 = .ok (.iconst (-1), 1) := dk_2 (dk_at dksX2_init_9 1 rfl rfl)
theorem dX2_init_216 : decode cX2_init 216 = .ok (.iastore, 1) := dk_79 (dk_at dksX2_init_9 2 rfl rfl)
theorem dX2_init_217 : decode cX2_init 217 = .ok (.iinc 1 1, 3) := dk_132 1 1 (dk_at dksX2_init_9 3 rfl rfl)
theorem dX2_init_220 : decode cX2_init 220 = .ok (.goto (-15), 3) := dk_167 255 241 (dk_at dksX2_init_9 6 rfl rfl)
theorem dX2_init_223 : decode cX2_init 223 = .ok (.return_, 1) := dk_177 (dk_at dksX2_init_9 9 rfl rfl)
abbrev cX2_saw : ByteArray := prog_8_method_14_code
def yX2_saw : MethodName := ⟨RX2, "saw", "(IIII)I"⟩
def dkwX2_saw_7 : List UInt8 := [180, 0, 116, 182, 0, 99, 172]
abbrev dktX2_saw_7 : List UInt8 := dkwX2_saw_7 ++ []
def dkwX2_saw_6 : List UInt8 := [104, 5, 96, 46, 79, 132, 6, 1, 167, 255, 164, 42, 3, 181, 0, 142, 42, 3, 181, 0, 145, 42, 42]
abbrev dktX2_saw_6 : List UInt8 := dkwX2_saw_6 ++ dktX2_saw_7
def dkwX2_saw_5 : List UInt8 := [180, 0, 31, 6, 21, 6, 104, 4, 96, 46, 79, 42, 180, 0, 22, 21, 6, 42, 180, 0, 31, 6, 21, 6]
abbrev dktX2_saw_5 : List UInt8 := dkwX2_saw_5 ++ dktX2_saw_6
def dkwX2_saw_4 : List UInt8 := [42, 180, 0, 16, 21, 6, 42, 180, 0, 31, 6, 21, 6, 104, 46, 79, 42, 180, 0, 19, 21, 6, 42]
abbrev dktX2_saw_4 : List UInt8 := dkwX2_saw_4 ++ dktX2_saw_5
def dkwX2_saw_3 : List UInt8 := [21, 6, 42, 180, 0, 25, 21, 6, 46, 79, 42, 180, 0, 13, 21, 6, 42, 180, 0, 28, 21, 6, 46, 79]
abbrev dktX2_saw_3 : List UInt8 := dkwX2_saw_3 ++ dktX2_saw_4
def dkwX2_saw_2 : List UInt8 := [42, 180, 0, 124, 181, 0, 116, 3, 54, 6, 21, 6, 42, 180, 0, 116, 162, 0, 89, 42, 180, 0, 7]
abbrev dktX2_saw_2 : List UInt8 := dkwX2_saw_2 ++ dktX2_saw_3
def dkwX2_saw_1 : List UInt8 := [104, 29, 96, 21, 4, 182, 0, 138, 154, 0, 15, 42, 16, 156, 42, 180, 0, 119, 100, 182, 0, 99, 172, 42]
abbrev dktX2_saw_1 : List UInt8 := dkwX2_saw_1 ++ dktX2_saw_2
def dkwX2_saw_0 : List UInt8 := [42, 27, 28, 29, 21, 4, 133, 182, 0, 134, 54, 5, 21, 5, 156, 0, 6, 21, 5, 172, 42, 16, 80, 27]
abbrev dktX2_saw_0 : List UInt8 := dkwX2_saw_0 ++ dktX2_saw_1
theorem dksX2_saw_0 : cX2_saw.data.toList.drop 0 = dktX2_saw_0 := by decide +kernel
theorem dksX2_saw_1 : cX2_saw.data.toList.drop 24 = dktX2_saw_1 := dk_seg dksX2_saw_0 24 rfl rfl
theorem dksX2_saw_2 : cX2_saw.data.toList.drop 48 = dktX2_saw_2 := dk_seg dksX2_saw_1 24 rfl rfl
theorem dksX2_saw_3 : cX2_saw.data.toList.drop 71 = dktX2_saw_3 := dk_seg dksX2_saw_2 23 rfl rfl
theorem dksX2_saw_4 : cX2_saw.data.toList.drop 95 = dktX2_saw_4 := dk_seg dksX2_saw_3 24 rfl rfl
theorem dksX2_saw_5 : cX2_saw.data.toList.drop 118 = dktX2_saw_5 := dk_seg dksX2_saw_4 23 rfl rfl
theorem dksX2_saw_6 : cX2_saw.data.toList.drop 142 = dktX2_saw_6 := dk_seg dksX2_saw_5 24 rfl rfl
theorem dksX2_saw_7 : cX2_saw.data.toList.drop 165 = dktX2_saw_7 := dk_seg dksX2_saw_6 23 rfl rfl
theorem dX2_saw_0 : decode cX2_saw 0 = .ok (.aload_n 0, 1) := dk_42 (dk_at dksX2_saw_0 0 rfl rfl)
theorem dX2_saw_1 : decode cX2_saw 1 = .ok (.iload_n 1, 1) := dk_27 (dk_at dksX2_saw_0 1 rfl rfl)
theorem dX2_saw_2 : decode cX2_saw 2 = .ok (.iload_n 2, 1) := dk_28 (dk_at dksX2_saw_0 2 rfl rfl)
theorem dX2_saw_3 : decode cX2_saw 3 = .ok (.iload_n 3, 1) := dk_29 (dk_at dksX2_saw_0 3 rfl rfl)
theorem dX2_saw_4 : decode cX2_saw 4 = .ok (.iload 4, 2) := dk_21 4 (dk_at dksX2_saw_0 4 rfl rfl)
theorem dX2_saw_6 : decode cX2_saw 6 = .ok (.i2l, 1) := dk_133 (dk_at dksX2_saw_0 6 rfl rfl)
theorem dX2_saw_7 : decode cX2_saw 7 = .ok (.invokevirtual 134, 3) := dk_182 0 134 (dk_at dksX2_saw_0 7 rfl rfl)
theorem dX2_saw_10 : decode cX2_saw 10 = .ok (.istore 5, 2) := dk_54 5 (dk_at dksX2_saw_0 10 rfl rfl)
theorem dX2_saw_12 : decode cX2_saw 12 = .ok (.iload 5, 2) := dk_21 5 (dk_at dksX2_saw_0 12 rfl rfl)
theorem dX2_saw_14 : decode cX2_saw 14 = .ok (.ifCond .ge 6, 3) := dk_156 0 6 (dk_at dksX2_saw_0 14 rfl rfl)
theorem dX2_saw_17 : decode cX2_saw 17 = .ok (.iload 5, 2) := dk_21 5 (dk_at dksX2_saw_0 17 rfl rfl)
theorem dX2_saw_19 : decode cX2_saw 19 = .ok (.ireturn, 1) := dk_172 (dk_at dksX2_saw_0 19 rfl rfl)
theorem dX2_saw_20 : decode cX2_saw 20 = .ok (.aload_n 0, 1) := dk_42 (dk_at dksX2_saw_0 20 rfl rfl)
theorem dX2_saw_21 : decode cX2_saw 21 = .ok (.bipush 80, 2) := dk_16 80 (dk_at dksX2_saw_0 21 rfl rfl)
theorem dX2_saw_23 : decode cX2_saw 23 = .ok (.iload_n 1, 1) := dk_27 (dk_at dksX2_saw_0 23 rfl rfl)
theorem dX2_saw_24 : decode cX2_saw 24 = .ok (.imul, 1) := dk_104 (dk_at dksX2_saw_1 0 rfl rfl)
theorem dX2_saw_25 : decode cX2_saw 25 = .ok (.iload_n 3, 1) := dk_29 (dk_at dksX2_saw_1 1 rfl rfl)
theorem dX2_saw_26 : decode cX2_saw 26 = .ok (.iadd, 1) := dk_96 (dk_at dksX2_saw_1 2 rfl rfl)
theorem dX2_saw_27 : decode cX2_saw 27 = .ok (.iload 4, 2) := dk_21 4 (dk_at dksX2_saw_1 3 rfl rfl)
theorem dX2_saw_29 : decode cX2_saw 29 = .ok (.invokevirtual 138, 3) := dk_182 0 138 (dk_at dksX2_saw_1 5 rfl rfl)
theorem dX2_saw_32 : decode cX2_saw 32 = .ok (.ifCond .ne 15, 3) := dk_154 0 15 (dk_at dksX2_saw_1 8 rfl rfl)
theorem dX2_saw_35 : decode cX2_saw 35 = .ok (.aload_n 0, 1) := dk_42 (dk_at dksX2_saw_1 11 rfl rfl)
theorem dX2_saw_36 : decode cX2_saw 36 = .ok (.bipush (-100), 2) := dk_16 156 (dk_at dksX2_saw_1 12 rfl rfl)
theorem dX2_saw_38 : decode cX2_saw 38 = .ok (.aload_n 0, 1) := dk_42 (dk_at dksX2_saw_1 14 rfl rfl)
theorem dX2_saw_39 : decode cX2_saw 39 = .ok (.getfield 119, 3) := dk_180 0 119 (dk_at dksX2_saw_1 15 rfl rfl)
theorem dX2_saw_42 : decode cX2_saw 42 = .ok (.isub, 1) := dk_100 (dk_at dksX2_saw_1 18 rfl rfl)
theorem dX2_saw_43 : decode cX2_saw 43 = .ok (.invokevirtual 99, 3) := dk_182 0 99 (dk_at dksX2_saw_1 19 rfl rfl)
theorem dX2_saw_46 : decode cX2_saw 46 = .ok (.ireturn, 1) := dk_172 (dk_at dksX2_saw_1 22 rfl rfl)
theorem dX2_saw_47 : decode cX2_saw 47 = .ok (.aload_n 0, 1) := dk_42 (dk_at dksX2_saw_1 23 rfl rfl)
theorem dX2_saw_48 : decode cX2_saw 48 = .ok (.aload_n 0, 1) := dk_42 (dk_at dksX2_saw_2 0 rfl rfl)
theorem dX2_saw_49 : decode cX2_saw 49 = .ok (.getfield 124, 3) := dk_180 0 124 (dk_at dksX2_saw_2 1 rfl rfl)
theorem dX2_saw_52 : decode cX2_saw 52 = .ok (.putfield 116, 3) := dk_181 0 116 (dk_at dksX2_saw_2 4 rfl rfl)
theorem dX2_saw_55 : decode cX2_saw 55 = .ok (.iconst 0, 1) := dk_3 (dk_at dksX2_saw_2 7 rfl rfl)
theorem dX2_saw_56 : decode cX2_saw 56 = .ok (.istore 6, 2) := dk_54 6 (dk_at dksX2_saw_2 8 rfl rfl)
theorem dX2_saw_58 : decode cX2_saw 58 = .ok (.iload 6, 2) := dk_21 6 (dk_at dksX2_saw_2 10 rfl rfl)
theorem dX2_saw_60 : decode cX2_saw 60 = .ok (.aload_n 0, 1) := dk_42 (dk_at dksX2_saw_2 12 rfl rfl)
theorem dX2_saw_61 : decode cX2_saw 61 = .ok (.getfield 116, 3) := dk_180 0 116 (dk_at dksX2_saw_2 13 rfl rfl)
theorem dX2_saw_64 : decode cX2_saw 64 = .ok (.if_icmp .ge 89, 3) := dk_162 0 89 (dk_at dksX2_saw_2 16 rfl rfl)
theorem dX2_saw_67 : decode cX2_saw 67 = .ok (.aload_n 0, 1) := dk_42 (dk_at dksX2_saw_2 19 rfl rfl)
theorem dX2_saw_68 : decode cX2_saw 68 = .ok (.getfield 7, 3) := dk_180 0 7 (dk_at dksX2_saw_2 20 rfl rfl)
theorem dX2_saw_71 : decode cX2_saw 71 = .ok (.iload 6, 2) := dk_21 6 (dk_at dksX2_saw_3 0 rfl rfl)
theorem dX2_saw_73 : decode cX2_saw 73 = .ok (.aload_n 0, 1) := dk_42 (dk_at dksX2_saw_3 2 rfl rfl)
theorem dX2_saw_74 : decode cX2_saw 74 = .ok (.getfield 25, 3) := dk_180 0 25 (dk_at dksX2_saw_3 3 rfl rfl)
theorem dX2_saw_77 : decode cX2_saw 77 = .ok (.iload 6, 2) := dk_21 6 (dk_at dksX2_saw_3 6 rfl rfl)
theorem dX2_saw_79 : decode cX2_saw 79 = .ok (.iaload, 1) := dk_46 (dk_at dksX2_saw_3 8 rfl rfl)
theorem dX2_saw_80 : decode cX2_saw 80 = .ok (.iastore, 1) := dk_79 (dk_at dksX2_saw_3 9 rfl rfl)
theorem dX2_saw_81 : decode cX2_saw 81 = .ok (.aload_n 0, 1) := dk_42 (dk_at dksX2_saw_3 10 rfl rfl)
theorem dX2_saw_82 : decode cX2_saw 82 = .ok (.getfield 13, 3) := dk_180 0 13 (dk_at dksX2_saw_3 11 rfl rfl)
theorem dX2_saw_85 : decode cX2_saw 85 = .ok (.iload 6, 2) := dk_21 6 (dk_at dksX2_saw_3 14 rfl rfl)
theorem dX2_saw_87 : decode cX2_saw 87 = .ok (.aload_n 0, 1) := dk_42 (dk_at dksX2_saw_3 16 rfl rfl)
theorem dX2_saw_88 : decode cX2_saw 88 = .ok (.getfield 28, 3) := dk_180 0 28 (dk_at dksX2_saw_3 17 rfl rfl)
theorem dX2_saw_91 : decode cX2_saw 91 = .ok (.iload 6, 2) := dk_21 6 (dk_at dksX2_saw_3 20 rfl rfl)
theorem dX2_saw_93 : decode cX2_saw 93 = .ok (.iaload, 1) := dk_46 (dk_at dksX2_saw_3 22 rfl rfl)
theorem dX2_saw_94 : decode cX2_saw 94 = .ok (.iastore, 1) := dk_79 (dk_at dksX2_saw_3 23 rfl rfl)
theorem dX2_saw_95 : decode cX2_saw 95 = .ok (.aload_n 0, 1) := dk_42 (dk_at dksX2_saw_4 0 rfl rfl)
theorem dX2_saw_96 : decode cX2_saw 96 = .ok (.getfield 16, 3) := dk_180 0 16 (dk_at dksX2_saw_4 1 rfl rfl)
theorem dX2_saw_99 : decode cX2_saw 99 = .ok (.iload 6, 2) := dk_21 6 (dk_at dksX2_saw_4 4 rfl rfl)
theorem dX2_saw_101 : decode cX2_saw 101 = .ok (.aload_n 0, 1) := dk_42 (dk_at dksX2_saw_4 6 rfl rfl)
theorem dX2_saw_102 : decode cX2_saw 102 = .ok (.getfield 31, 3) := dk_180 0 31 (dk_at dksX2_saw_4 7 rfl rfl)
theorem dX2_saw_105 : decode cX2_saw 105 = .ok (.iconst 3, 1) := dk_6 (dk_at dksX2_saw_4 10 rfl rfl)
theorem dX2_saw_106 : decode cX2_saw 106 = .ok (.iload 6, 2) := dk_21 6 (dk_at dksX2_saw_4 11 rfl rfl)
theorem dX2_saw_108 : decode cX2_saw 108 = .ok (.imul, 1) := dk_104 (dk_at dksX2_saw_4 13 rfl rfl)
theorem dX2_saw_109 : decode cX2_saw 109 = .ok (.iaload, 1) := dk_46 (dk_at dksX2_saw_4 14 rfl rfl)
theorem dX2_saw_110 : decode cX2_saw 110 = .ok (.iastore, 1) := dk_79 (dk_at dksX2_saw_4 15 rfl rfl)
theorem dX2_saw_111 : decode cX2_saw 111 = .ok (.aload_n 0, 1) := dk_42 (dk_at dksX2_saw_4 16 rfl rfl)
theorem dX2_saw_112 : decode cX2_saw 112 = .ok (.getfield 19, 3) := dk_180 0 19 (dk_at dksX2_saw_4 17 rfl rfl)
theorem dX2_saw_115 : decode cX2_saw 115 = .ok (.iload 6, 2) := dk_21 6 (dk_at dksX2_saw_4 20 rfl rfl)
theorem dX2_saw_117 : decode cX2_saw 117 = .ok (.aload_n 0, 1) := dk_42 (dk_at dksX2_saw_4 22 rfl rfl)
theorem dX2_saw_118 : decode cX2_saw 118 = .ok (.getfield 31, 3) := dk_180 0 31 (dk_at dksX2_saw_5 0 rfl rfl)
theorem dX2_saw_121 : decode cX2_saw 121 = .ok (.iconst 3, 1) := dk_6 (dk_at dksX2_saw_5 3 rfl rfl)
theorem dX2_saw_122 : decode cX2_saw 122 = .ok (.iload 6, 2) := dk_21 6 (dk_at dksX2_saw_5 4 rfl rfl)
theorem dX2_saw_124 : decode cX2_saw 124 = .ok (.imul, 1) := dk_104 (dk_at dksX2_saw_5 6 rfl rfl)
theorem dX2_saw_125 : decode cX2_saw 125 = .ok (.iconst 1, 1) := dk_4 (dk_at dksX2_saw_5 7 rfl rfl)
theorem dX2_saw_126 : decode cX2_saw 126 = .ok (.iadd, 1) := dk_96 (dk_at dksX2_saw_5 8 rfl rfl)
theorem dX2_saw_127 : decode cX2_saw 127 = .ok (.iaload, 1) := dk_46 (dk_at dksX2_saw_5 9 rfl rfl)
theorem dX2_saw_128 : decode cX2_saw 128 = .ok (.iastore, 1) := dk_79 (dk_at dksX2_saw_5 10 rfl rfl)
theorem dX2_saw_129 : decode cX2_saw 129 = .ok (.aload_n 0, 1) := dk_42 (dk_at dksX2_saw_5 11 rfl rfl)
theorem dX2_saw_130 : decode cX2_saw 130 = .ok (.getfield 22, 3) := dk_180 0 22 (dk_at dksX2_saw_5 12 rfl rfl)
theorem dX2_saw_133 : decode cX2_saw 133 = .ok (.iload 6, 2) := dk_21 6 (dk_at dksX2_saw_5 15 rfl rfl)
theorem dX2_saw_135 : decode cX2_saw 135 = .ok (.aload_n 0, 1) := dk_42 (dk_at dksX2_saw_5 17 rfl rfl)
theorem dX2_saw_136 : decode cX2_saw 136 = .ok (.getfield 31, 3) := dk_180 0 31 (dk_at dksX2_saw_5 18 rfl rfl)
theorem dX2_saw_139 : decode cX2_saw 139 = .ok (.iconst 3, 1) := dk_6 (dk_at dksX2_saw_5 21 rfl rfl)
theorem dX2_saw_140 : decode cX2_saw 140 = .ok (.iload 6, 2) := dk_21 6 (dk_at dksX2_saw_5 22 rfl rfl)
theorem dX2_saw_142 : decode cX2_saw 142 = .ok (.imul, 1) := dk_104 (dk_at dksX2_saw_6 0 rfl rfl)
theorem dX2_saw_143 : decode cX2_saw 143 = .ok (.iconst 2, 1) := dk_5 (dk_at dksX2_saw_6 1 rfl rfl)
theorem dX2_saw_144 : decode cX2_saw 144 = .ok (.iadd, 1) := dk_96 (dk_at dksX2_saw_6 2 rfl rfl)
theorem dX2_saw_145 : decode cX2_saw 145 = .ok (.iaload, 1) := dk_46 (dk_at dksX2_saw_6 3 rfl rfl)
theorem dX2_saw_146 : decode cX2_saw 146 = .ok (.iastore, 1) := dk_79 (dk_at dksX2_saw_6 4 rfl rfl)
theorem dX2_saw_147 : decode cX2_saw 147 = .ok (.iinc 6 1, 3) := dk_132 6 1 (dk_at dksX2_saw_6 5 rfl rfl)
theorem dX2_saw_150 : decode cX2_saw 150 = .ok (.goto (-92), 3) := dk_167 255 164 (dk_at dksX2_saw_6 8 rfl rfl)
theorem dX2_saw_153 : decode cX2_saw 153 = .ok (.aload_n 0, 1) := dk_42 (dk_at dksX2_saw_6 11 rfl rfl)
theorem dX2_saw_154 : decode cX2_saw 154 = .ok (.iconst 0, 1) := dk_3 (dk_at dksX2_saw_6 12 rfl rfl)
theorem dX2_saw_155 : decode cX2_saw 155 = .ok (.putfield 142, 3) := dk_181 0 142 (dk_at dksX2_saw_6 13 rfl rfl)
theorem dX2_saw_158 : decode cX2_saw 158 = .ok (.aload_n 0, 1) := dk_42 (dk_at dksX2_saw_6 16 rfl rfl)
theorem dX2_saw_159 : decode cX2_saw 159 = .ok (.iconst 0, 1) := dk_3 (dk_at dksX2_saw_6 17 rfl rfl)
theorem dX2_saw_160 : decode cX2_saw 160 = .ok (.putfield 145, 3) := dk_181 0 145 (dk_at dksX2_saw_6 18 rfl rfl)
theorem dX2_saw_163 : decode cX2_saw 163 = .ok (.aload_n 0, 1) := dk_42 (dk_at dksX2_saw_6 21 rfl rfl)
theorem dX2_saw_164 : decode cX2_saw 164 = .ok (.aload_n 0, 1) := dk_42 (dk_at dksX2_saw_6 22 rfl rfl)
theorem dX2_saw_165 : decode cX2_saw 165 = .ok (.getfield 116, 3) := dk_180 0 116 (dk_at dksX2_saw_7 0 rfl rfl)
theorem dX2_saw_168 : decode cX2_saw 168 = .ok (.invokevirtual 99, 3) := dk_182 0 99 (dk_at dksX2_saw_7 3 rfl rfl)
theorem dX2_saw_171 : decode cX2_saw 171 = .ok (.ireturn, 1) := dk_172 (dk_at dksX2_saw_7 6 rfl rfl)
abbrev cX2_barred : ByteArray := prog_8_method_9_code
def yX2_barred : MethodName := ⟨RX2, "barred", "(IIIJ)I"⟩
def dkwX2_barred_4 : List UInt8 := [27, 46, 184, 0, 112, 153, 0, 11, 42, 6, 182, 0, 109, 167, 0, 4, 3, 172]
abbrev dktX2_barred_4 : List UInt8 := dkwX2_barred_4 ++ []
def dkwX2_barred_3 : List UInt8 := [182, 0, 109, 172, 22, 4, 9, 148, 156, 0, 9, 42, 7, 182, 0, 109, 172, 29, 22, 4, 42, 180, 0, 73]
abbrev dktX2_barred_3 : List UInt8 := dkwX2_barred_3 ++ dktX2_barred_4
def dkwX2_barred_2 : List UInt8 := [46, 28, 159, 0, 9, 42, 5, 182, 0, 109, 172, 42, 180, 0, 73, 27, 46, 156, 0, 9, 42, 4]
abbrev dktX2_barred_2 : List UInt8 := dkwX2_barred_2 ++ dktX2_barred_3
def dkwX2_barred_1 : List UInt8 := [154, 0, 10, 42, 16, 254, 182, 0, 99, 172, 42, 180, 0, 73, 27, 46, 155, 0, 19, 42, 180, 0, 76, 27]
abbrev dktX2_barred_1 : List UInt8 := dkwX2_barred_1 ++ dktX2_barred_2
def dkwX2_barred_0 : List UInt8 := [27, 184, 0, 95, 153, 0, 9, 42, 2, 182, 0, 99, 172, 28, 133, 9, 20, 0, 103, 184, 0, 105]
abbrev dktX2_barred_0 : List UInt8 := dkwX2_barred_0 ++ dktX2_barred_1
theorem dksX2_barred_0 : cX2_barred.data.toList.drop 0 = dktX2_barred_0 := by decide +kernel
theorem dksX2_barred_1 : cX2_barred.data.toList.drop 22 = dktX2_barred_1 := dk_seg dksX2_barred_0 22 rfl rfl
theorem dksX2_barred_2 : cX2_barred.data.toList.drop 46 = dktX2_barred_2 := dk_seg dksX2_barred_1 24 rfl rfl
theorem dksX2_barred_3 : cX2_barred.data.toList.drop 68 = dktX2_barred_3 := dk_seg dksX2_barred_2 22 rfl rfl
theorem dksX2_barred_4 : cX2_barred.data.toList.drop 92 = dktX2_barred_4 := dk_seg dksX2_barred_3 24 rfl rfl
theorem dX2_barred_0 : decode cX2_barred 0 = .ok (.iload_n 1, 1) := dk_27 (dk_at dksX2_barred_0 0 rfl rfl)
theorem dX2_barred_1 : decode cX2_barred 1 = .ok (.invokestatic 95, 3) := dk_184 0 95 (dk_at dksX2_barred_0 1 rfl rfl)
theorem dX2_barred_4 : decode cX2_barred 4 = .ok (.ifCond .eq 9, 3) := dk_153 0 9 (dk_at dksX2_barred_0 4 rfl rfl)
theorem dX2_barred_7 : decode cX2_barred 7 = .ok (.aload_n 0, 1) := dk_42 (dk_at dksX2_barred_0 7 rfl rfl)
theorem dX2_barred_8 : decode cX2_barred 8 = .ok (.iconst (-1), 1) := dk_2 (dk_at dksX2_barred_0 8 rfl rfl)
theorem dX2_barred_9 : decode cX2_barred 9 = .ok (.invokevirtual 99, 3) := dk_182 0 99 (dk_at dksX2_barred_0 9 rfl rfl)
theorem dX2_barred_12 : decode cX2_barred 12 = .ok (.ireturn, 1) := dk_172 (dk_at dksX2_barred_0 12 rfl rfl)
theorem dX2_barred_13 : decode cX2_barred 13 = .ok (.iload_n 2, 1) := dk_28 (dk_at dksX2_barred_0 13 rfl rfl)
theorem dX2_barred_14 : decode cX2_barred 14 = .ok (.i2l, 1) := dk_133 (dk_at dksX2_barred_0 14 rfl rfl)
theorem dX2_barred_15 : decode cX2_barred 15 = .ok (.lconst 0, 1) := dk_9 (dk_at dksX2_barred_0 15 rfl rfl)
theorem dX2_barred_16 : decode cX2_barred 16 = .ok (.ldc2_w 103, 3) := dk_20 0 103 (dk_at dksX2_barred_0 16 rfl rfl)
theorem dX2_barred_19 : decode cX2_barred 19 = .ok (.invokestatic 105, 3) := dk_184 0 105 (dk_at dksX2_barred_0 19 rfl rfl)
theorem dX2_barred_22 : decode cX2_barred 22 = .ok (.ifCond .ne 10, 3) := dk_154 0 10 (dk_at dksX2_barred_1 0 rfl rfl)
theorem dX2_barred_25 : decode cX2_barred 25 = .ok (.aload_n 0, 1) := dk_42 (dk_at dksX2_barred_1 3 rfl rfl)
theorem dX2_barred_26 : decode cX2_barred 26 = .ok (.bipush (-2), 2) := dk_16 254 (dk_at dksX2_barred_1 4 rfl rfl)
theorem dX2_barred_28 : decode cX2_barred 28 = .ok (.invokevirtual 99, 3) := dk_182 0 99 (dk_at dksX2_barred_1 6 rfl rfl)
theorem dX2_barred_31 : decode cX2_barred 31 = .ok (.ireturn, 1) := dk_172 (dk_at dksX2_barred_1 9 rfl rfl)
theorem dX2_barred_32 : decode cX2_barred 32 = .ok (.aload_n 0, 1) := dk_42 (dk_at dksX2_barred_1 10 rfl rfl)
theorem dX2_barred_33 : decode cX2_barred 33 = .ok (.getfield 73, 3) := dk_180 0 73 (dk_at dksX2_barred_1 11 rfl rfl)
theorem dX2_barred_36 : decode cX2_barred 36 = .ok (.iload_n 1, 1) := dk_27 (dk_at dksX2_barred_1 14 rfl rfl)
theorem dX2_barred_37 : decode cX2_barred 37 = .ok (.iaload, 1) := dk_46 (dk_at dksX2_barred_1 15 rfl rfl)
theorem dX2_barred_38 : decode cX2_barred 38 = .ok (.ifCond .lt 19, 3) := dk_155 0 19 (dk_at dksX2_barred_1 16 rfl rfl)
theorem dX2_barred_41 : decode cX2_barred 41 = .ok (.aload_n 0, 1) := dk_42 (dk_at dksX2_barred_1 19 rfl rfl)
theorem dX2_barred_42 : decode cX2_barred 42 = .ok (.getfield 76, 3) := dk_180 0 76 (dk_at dksX2_barred_1 20 rfl rfl)
theorem dX2_barred_45 : decode cX2_barred 45 = .ok (.iload_n 1, 1) := dk_27 (dk_at dksX2_barred_1 23 rfl rfl)
theorem dX2_barred_46 : decode cX2_barred 46 = .ok (.iaload, 1) := dk_46 (dk_at dksX2_barred_2 0 rfl rfl)
theorem dX2_barred_47 : decode cX2_barred 47 = .ok (.iload_n 2, 1) := dk_28 (dk_at dksX2_barred_2 1 rfl rfl)
theorem dX2_barred_48 : decode cX2_barred 48 = .ok (.if_icmp .eq 9, 3) := dk_159 0 9 (dk_at dksX2_barred_2 2 rfl rfl)
theorem dX2_barred_51 : decode cX2_barred 51 = .ok (.aload_n 0, 1) := dk_42 (dk_at dksX2_barred_2 5 rfl rfl)
theorem dX2_barred_52 : decode cX2_barred 52 = .ok (.iconst 2, 1) := dk_5 (dk_at dksX2_barred_2 6 rfl rfl)
theorem dX2_barred_53 : decode cX2_barred 53 = .ok (.invokevirtual 109, 3) := dk_182 0 109 (dk_at dksX2_barred_2 7 rfl rfl)
theorem dX2_barred_56 : decode cX2_barred 56 = .ok (.ireturn, 1) := dk_172 (dk_at dksX2_barred_2 10 rfl rfl)
theorem dX2_barred_57 : decode cX2_barred 57 = .ok (.aload_n 0, 1) := dk_42 (dk_at dksX2_barred_2 11 rfl rfl)
theorem dX2_barred_58 : decode cX2_barred 58 = .ok (.getfield 73, 3) := dk_180 0 73 (dk_at dksX2_barred_2 12 rfl rfl)
theorem dX2_barred_61 : decode cX2_barred 61 = .ok (.iload_n 1, 1) := dk_27 (dk_at dksX2_barred_2 15 rfl rfl)
theorem dX2_barred_62 : decode cX2_barred 62 = .ok (.iaload, 1) := dk_46 (dk_at dksX2_barred_2 16 rfl rfl)
theorem dX2_barred_63 : decode cX2_barred 63 = .ok (.ifCond .ge 9, 3) := dk_156 0 9 (dk_at dksX2_barred_2 17 rfl rfl)
theorem dX2_barred_66 : decode cX2_barred 66 = .ok (.aload_n 0, 1) := dk_42 (dk_at dksX2_barred_2 20 rfl rfl)
theorem dX2_barred_67 : decode cX2_barred 67 = .ok (.iconst 1, 1) := dk_4 (dk_at dksX2_barred_2 21 rfl rfl)
theorem dX2_barred_68 : decode cX2_barred 68 = .ok (.invokevirtual 109, 3) := dk_182 0 109 (dk_at dksX2_barred_3 0 rfl rfl)
theorem dX2_barred_71 : decode cX2_barred 71 = .ok (.ireturn, 1) := dk_172 (dk_at dksX2_barred_3 3 rfl rfl)
theorem dX2_barred_72 : decode cX2_barred 72 = .ok (.lload 4, 2) := dk_22 4 (dk_at dksX2_barred_3 4 rfl rfl)
theorem dX2_barred_74 : decode cX2_barred 74 = .ok (.lconst 0, 1) := dk_9 (dk_at dksX2_barred_3 6 rfl rfl)
theorem dX2_barred_75 : decode cX2_barred 75 = .ok (.lcmp, 1) := dk_148 (dk_at dksX2_barred_3 7 rfl rfl)
theorem dX2_barred_76 : decode cX2_barred 76 = .ok (.ifCond .ge 9, 3) := dk_156 0 9 (dk_at dksX2_barred_3 8 rfl rfl)
theorem dX2_barred_79 : decode cX2_barred 79 = .ok (.aload_n 0, 1) := dk_42 (dk_at dksX2_barred_3 11 rfl rfl)
theorem dX2_barred_80 : decode cX2_barred 80 = .ok (.iconst 4, 1) := dk_7 (dk_at dksX2_barred_3 12 rfl rfl)
theorem dX2_barred_81 : decode cX2_barred 81 = .ok (.invokevirtual 109, 3) := dk_182 0 109 (dk_at dksX2_barred_3 13 rfl rfl)
theorem dX2_barred_84 : decode cX2_barred 84 = .ok (.ireturn, 1) := dk_172 (dk_at dksX2_barred_3 16 rfl rfl)
theorem dX2_barred_85 : decode cX2_barred 85 = .ok (.iload_n 3, 1) := dk_29 (dk_at dksX2_barred_3 17 rfl rfl)
theorem dX2_barred_86 : decode cX2_barred 86 = .ok (.lload 4, 2) := dk_22 4 (dk_at dksX2_barred_3 18 rfl rfl)
theorem dX2_barred_88 : decode cX2_barred 88 = .ok (.aload_n 0, 1) := dk_42 (dk_at dksX2_barred_3 20 rfl rfl)
theorem dX2_barred_89 : decode cX2_barred 89 = .ok (.getfield 73, 3) := dk_180 0 73 (dk_at dksX2_barred_3 21 rfl rfl)
theorem dX2_barred_92 : decode cX2_barred 92 = .ok (.iload_n 1, 1) := dk_27 (dk_at dksX2_barred_4 0 rfl rfl)
theorem dX2_barred_93 : decode cX2_barred 93 = .ok (.iaload, 1) := dk_46 (dk_at dksX2_barred_4 1 rfl rfl)
theorem dX2_barred_94 : decode cX2_barred 94 = .ok (.invokestatic 112, 3) := dk_184 0 112 (dk_at dksX2_barred_4 2 rfl rfl)
theorem dX2_barred_97 : decode cX2_barred 97 = .ok (.ifCond .eq 11, 3) := dk_153 0 11 (dk_at dksX2_barred_4 5 rfl rfl)
theorem dX2_barred_100 : decode cX2_barred 100 = .ok (.aload_n 0, 1) := dk_42 (dk_at dksX2_barred_4 8 rfl rfl)
theorem dX2_barred_101 : decode cX2_barred 101 = .ok (.iconst 3, 1) := dk_6 (dk_at dksX2_barred_4 9 rfl rfl)
theorem dX2_barred_102 : decode cX2_barred 102 = .ok (.invokevirtual 109, 3) := dk_182 0 109 (dk_at dksX2_barred_4 10 rfl rfl)
theorem dX2_barred_105 : decode cX2_barred 105 = .ok (.goto 4, 3) := dk_167 0 4 (dk_at dksX2_barred_4 13 rfl rfl)
theorem dX2_barred_108 : decode cX2_barred 108 = .ok (.iconst 0, 1) := dk_3 (dk_at dksX2_barred_4 16 rfl rfl)
theorem dX2_barred_109 : decode cX2_barred 109 = .ok (.ireturn, 1) := dk_172 (dk_at dksX2_barred_4 17 rfl rfl)
abbrev cX2_noSheet : ByteArray := prog_8_method_64_code
def yX2_noSheet : MethodName := ⟨RX2, "noSheet", "(I)Z"⟩
def dkwX2_noSheet_0 : List UInt8 := [26, 133, 9, 20, 0, 223, 184, 0, 105, 154, 0, 7, 4, 167, 0, 4, 3, 172]
abbrev dktX2_noSheet_0 : List UInt8 := dkwX2_noSheet_0 ++ []
theorem dksX2_noSheet_0 : cX2_noSheet.data.toList.drop 0 = dktX2_noSheet_0 := by decide +kernel
theorem dX2_noSheet_0 : decode cX2_noSheet 0 = .ok (.iload_n 0, 1) := dk_26 (dk_at dksX2_noSheet_0 0 rfl rfl)
theorem dX2_noSheet_1 : decode cX2_noSheet 1 = .ok (.i2l, 1) := dk_133 (dk_at dksX2_noSheet_0 1 rfl rfl)
theorem dX2_noSheet_2 : decode cX2_noSheet 2 = .ok (.lconst 0, 1) := dk_9 (dk_at dksX2_noSheet_0 2 rfl rfl)
theorem dX2_noSheet_3 : decode cX2_noSheet 3 = .ok (.ldc2_w 223, 3) := dk_20 0 223 (dk_at dksX2_noSheet_0 3 rfl rfl)
theorem dX2_noSheet_6 : decode cX2_noSheet 6 = .ok (.invokestatic 105, 3) := dk_184 0 105 (dk_at dksX2_noSheet_0 6 rfl rfl)
theorem dX2_noSheet_9 : decode cX2_noSheet 9 = .ok (.ifCond .ne 7, 3) := dk_154 0 7 (dk_at dksX2_noSheet_0 9 rfl rfl)
theorem dX2_noSheet_12 : decode cX2_noSheet 12 = .ok (.iconst 1, 1) := dk_4 (dk_at dksX2_noSheet_0 12 rfl rfl)
theorem dX2_noSheet_13 : decode cX2_noSheet 13 = .ok (.goto 4, 3) := dk_167 0 4 (dk_at dksX2_noSheet_0 13 rfl rfl)
theorem dX2_noSheet_16 : decode cX2_noSheet 16 = .ok (.iconst 0, 1) := dk_3 (dk_at dksX2_noSheet_0 16 rfl rfl)
theorem dX2_noSheet_17 : decode cX2_noSheet 17 = .ok (.ireturn, 1) := dk_172 (dk_at dksX2_noSheet_0 17 rfl rfl)
abbrev cX2_in : ByteArray := prog_8_method_2_code
def yX2_in : MethodName := ⟨RX2, "in", "(JJJ)Z"⟩
def dkwX2_in_0 : List UInt8 := [30, 32, 148, 155, 0, 14, 30, 22, 4, 148, 157, 0, 7, 4, 167, 0, 4, 3, 172]
abbrev dktX2_in_0 : List UInt8 := dkwX2_in_0 ++ []
theorem dksX2_in_0 : cX2_in.data.toList.drop 0 = dktX2_in_0 := by decide +kernel
theorem dX2_in_0 : decode cX2_in 0 = .ok (.lload_n 0, 1) := dk_30 (dk_at dksX2_in_0 0 rfl rfl)
theorem dX2_in_1 : decode cX2_in 1 = .ok (.lload_n 2, 1) := dk_32 (dk_at dksX2_in_0 1 rfl rfl)
theorem dX2_in_2 : decode cX2_in 2 = .ok (.lcmp, 1) := dk_148 (dk_at dksX2_in_0 2 rfl rfl)
theorem dX2_in_3 : decode cX2_in 3 = .ok (.ifCond .lt 14, 3) := dk_155 0 14 (dk_at dksX2_in_0 3 rfl rfl)
theorem dX2_in_6 : decode cX2_in 6 = .ok (.lload_n 0, 1) := dk_30 (dk_at dksX2_in_0 6 rfl rfl)
theorem dX2_in_7 : decode cX2_in 7 = .ok (.lload 4, 2) := dk_22 4 (dk_at dksX2_in_0 7 rfl rfl)
theorem dX2_in_9 : decode cX2_in 9 = .ok (.lcmp, 1) := dk_148 (dk_at dksX2_in_0 9 rfl rfl)
theorem dX2_in_10 : decode cX2_in 10 = .ok (.ifCond .gt 7, 3) := dk_157 0 7 (dk_at dksX2_in_0 10 rfl rfl)
theorem dX2_in_13 : decode cX2_in 13 = .ok (.iconst 1, 1) := dk_4 (dk_at dksX2_in_0 13 rfl rfl)
theorem dX2_in_14 : decode cX2_in 14 = .ok (.goto 4, 3) := dk_167 0 4 (dk_at dksX2_in_0 14 rfl rfl)
theorem dX2_in_17 : decode cX2_in 17 = .ok (.iconst 0, 1) := dk_3 (dk_at dksX2_in_0 17 rfl rfl)
theorem dX2_in_18 : decode cX2_in 18 = .ok (.ireturn, 1) := dk_172 (dk_at dksX2_in_0 18 rfl rfl)
abbrev cX2_refused : ByteArray := prog_8_method_6_code
def yX2_refused : MethodName := ⟨RX2, "refused", "(I)I"⟩
def dkwX2_refused_0 : List UInt8 := [42, 3, 181, 0, 87, 27, 172]
abbrev dktX2_refused_0 : List UInt8 := dkwX2_refused_0 ++ []
theorem dksX2_refused_0 : cX2_refused.data.toList.drop 0 = dktX2_refused_0 := by decide +kernel
theorem dX2_refused_0 : decode cX2_refused 0 = .ok (.aload_n 0, 1) := dk_42 (dk_at dksX2_refused_0 0 rfl rfl)
theorem dX2_refused_1 : decode cX2_refused 1 = .ok (.iconst 0, 1) := dk_3 (dk_at dksX2_refused_0 1 rfl rfl)
theorem dX2_refused_2 : decode cX2_refused 2 = .ok (.putfield 87, 3) := dk_181 0 87 (dk_at dksX2_refused_0 2 rfl rfl)
theorem dX2_refused_5 : decode cX2_refused 5 = .ok (.iload_n 1, 1) := dk_27 (dk_at dksX2_refused_0 5 rfl rfl)
theorem dX2_refused_6 : decode cX2_refused 6 = .ok (.ireturn, 1) := dk_172 (dk_at dksX2_refused_0 6 rfl rfl)
abbrev cX2_failed : ByteArray := prog_8_method_7_code
def yX2_failed : MethodName := ⟨RX2, "failed", "(I)I"⟩
def dkwX2_failed_0 : List UInt8 := [42, 27, 181, 0, 87, 16, 246, 27, 100, 172]
abbrev dktX2_failed_0 : List UInt8 := dkwX2_failed_0 ++ []
theorem dksX2_failed_0 : cX2_failed.data.toList.drop 0 = dktX2_failed_0 := by decide +kernel
theorem dX2_failed_0 : decode cX2_failed 0 = .ok (.aload_n 0, 1) := dk_42 (dk_at dksX2_failed_0 0 rfl rfl)
theorem dX2_failed_1 : decode cX2_failed 1 = .ok (.iload_n 1, 1) := dk_27 (dk_at dksX2_failed_0 1 rfl rfl)
theorem dX2_failed_2 : decode cX2_failed 2 = .ok (.putfield 87, 3) := dk_181 0 87 (dk_at dksX2_failed_0 2 rfl rfl)
theorem dX2_failed_5 : decode cX2_failed 5 = .ok (.bipush (-10), 2) := dk_16 246 (dk_at dksX2_failed_0 5 rfl rfl)
theorem dX2_failed_7 : decode cX2_failed 7 = .ok (.iload_n 1, 1) := dk_27 (dk_at dksX2_failed_0 7 rfl rfl)
theorem dX2_failed_8 : decode cX2_failed 8 = .ok (.isub, 1) := dk_100 (dk_at dksX2_failed_0 8 rfl rfl)
theorem dX2_failed_9 : decode cX2_failed 9 = .ok (.ireturn, 1) := dk_172 (dk_at dksX2_failed_0 9 rfl rfl)
abbrev cX2_isBeyond : ByteArray := prog_8_method_70_code
def yX2_isBeyond : MethodName := ⟨RX2, "isBeyond", "(IJI)Z"⟩
def dkwX2_isBeyond_1 : List UInt8 := [3, 172]
abbrev dktX2_isBeyond_1 : List UInt8 := dkwX2_isBeyond_1 ++ []
def dkwX2_isBeyond_0 : List UInt8 := [26, 155, 0, 19, 31, 9, 148, 155, 0, 13, 26, 133, 31, 97, 29, 133, 148, 158, 0, 7, 4, 167, 0, 4]
abbrev dktX2_isBeyond_0 : List UInt8 := dkwX2_isBeyond_0 ++ dktX2_isBeyond_1
theorem dksX2_isBeyond_0 : cX2_isBeyond.data.toList.drop 0 = dktX2_isBeyond_0 := by decide +kernel
theorem dksX2_isBeyond_1 : cX2_isBeyond.data.toList.drop 24 = dktX2_isBeyond_1 := dk_seg dksX2_isBeyond_0 24 rfl rfl
theorem dX2_isBeyond_0 : decode cX2_isBeyond 0 = .ok (.iload_n 0, 1) := dk_26 (dk_at dksX2_isBeyond_0 0 rfl rfl)
theorem dX2_isBeyond_1 : decode cX2_isBeyond 1 = .ok (.ifCond .lt 19, 3) := dk_155 0 19 (dk_at dksX2_isBeyond_0 1 rfl rfl)
theorem dX2_isBeyond_4 : decode cX2_isBeyond 4 = .ok (.lload_n 1, 1) := dk_31 (dk_at dksX2_isBeyond_0 4 rfl rfl)
theorem dX2_isBeyond_5 : decode cX2_isBeyond 5 = .ok (.lconst 0, 1) := dk_9 (dk_at dksX2_isBeyond_0 5 rfl rfl)
theorem dX2_isBeyond_6 : decode cX2_isBeyond 6 = .ok (.lcmp, 1) := dk_148 (dk_at dksX2_isBeyond_0 6 rfl rfl)
theorem dX2_isBeyond_7 : decode cX2_isBeyond 7 = .ok (.ifCond .lt 13, 3) := dk_155 0 13 (dk_at dksX2_isBeyond_0 7 rfl rfl)
theorem dX2_isBeyond_10 : decode cX2_isBeyond 10 = .ok (.iload_n 0, 1) := dk_26 (dk_at dksX2_isBeyond_0 10 rfl rfl)
theorem dX2_isBeyond_11 : decode cX2_isBeyond 11 = .ok (.i2l, 1) := dk_133 (dk_at dksX2_isBeyond_0 11 rfl rfl)
theorem dX2_isBeyond_12 : decode cX2_isBeyond 12 = .ok (.lload_n 1, 1) := dk_31 (dk_at dksX2_isBeyond_0 12 rfl rfl)
theorem dX2_isBeyond_13 : decode cX2_isBeyond 13 = .ok (.ladd, 1) := dk_97 (dk_at dksX2_isBeyond_0 13 rfl rfl)
theorem dX2_isBeyond_14 : decode cX2_isBeyond 14 = .ok (.iload_n 3, 1) := dk_29 (dk_at dksX2_isBeyond_0 14 rfl rfl)
theorem dX2_isBeyond_15 : decode cX2_isBeyond 15 = .ok (.i2l, 1) := dk_133 (dk_at dksX2_isBeyond_0 15 rfl rfl)
theorem dX2_isBeyond_16 : decode cX2_isBeyond 16 = .ok (.lcmp, 1) := dk_148 (dk_at dksX2_isBeyond_0 16 rfl rfl)
theorem dX2_isBeyond_17 : decode cX2_isBeyond 17 = .ok (.ifCond .le 7, 3) := dk_158 0 7 (dk_at dksX2_isBeyond_0 17 rfl rfl)
theorem dX2_isBeyond_20 : decode cX2_isBeyond 20 = .ok (.iconst 1, 1) := dk_4 (dk_at dksX2_isBeyond_0 20 rfl rfl)
theorem dX2_isBeyond_21 : decode cX2_isBeyond 21 = .ok (.goto 4, 3) := dk_167 0 4 (dk_at dksX2_isBeyond_0 21 rfl rfl)
theorem dX2_isBeyond_24 : decode cX2_isBeyond 24 = .ok (.iconst 0, 1) := dk_3 (dk_at dksX2_isBeyond_1 0 rfl rfl)
theorem dX2_isBeyond_25 : decode cX2_isBeyond 25 = .ok (.ireturn, 1) := dk_172 (dk_at dksX2_isBeyond_1 1 rfl rfl)
abbrev cX2_readsSaw : ByteArray := prog_8_method_13_code
def yX2_readsSaw : MethodName := ⟨RX2, "readsSaw", "(II)Z"⟩
def dkwX2_readsSaw_9 : List UInt8 := [153, 0, 7, 5, 167, 0, 4, 4, 79, 42, 89, 180, 0, 124, 4, 96, 181, 0, 124, 167, 255, 35, 4, 172]
abbrev dktX2_readsSaw_9 : List UInt8 := dkwX2_readsSaw_9 ++ []
def dkwX2_readsSaw_8 : List UInt8 := [180, 0, 124, 29, 79, 42, 180, 0, 25, 42, 180, 0, 124, 29, 154, 0, 7, 3, 167, 0, 13, 21, 4]
abbrev dktX2_readsSaw_8 : List UInt8 := dkwX2_readsSaw_8 ++ dktX2_readsSaw_9
def dkwX2_readsSaw_7 : List UInt8 := [89, 180, 0, 119, 21, 4, 153, 0, 7, 4, 167, 0, 4, 3, 96, 181, 0, 119, 42, 180, 0, 28, 42]
abbrev dktX2_readsSaw_7 : List UInt8 := dkwX2_readsSaw_7 ++ dktX2_readsSaw_8
def dkwX2_readsSaw_6 : List UInt8 := [42, 180, 0, 79, 27, 42, 180, 0, 119, 96, 46, 16, 104, 160, 0, 7, 4, 167, 0, 4, 3, 54, 4, 42]
abbrev dktX2_readsSaw_6 : List UInt8 := dkwX2_readsSaw_6 ++ dktX2_readsSaw_7
def dkwX2_readsSaw_5 : List UInt8 := [42, 180, 0, 124, 182, 0, 130, 154, 0, 5, 3, 172, 29, 153, 0, 31, 42, 180, 0, 119, 28, 162, 0, 23]
abbrev dktX2_readsSaw_5 : List UInt8 := dkwX2_readsSaw_5 ++ dktX2_readsSaw_6
def dkwX2_readsSaw_4 : List UInt8 := [16, 247, 62, 29, 16, 247, 160, 0, 5, 3, 172, 42, 89, 180, 0, 119, 4, 96, 181, 0, 119, 42, 27, 28]
abbrev dktX2_readsSaw_4 : List UInt8 := dkwX2_readsSaw_4 ++ dktX2_readsSaw_5
def dkwX2_readsSaw_3 : List UInt8 := [180, 0, 119, 28, 162, 0, 20, 42, 180, 0, 79, 27, 42, 180, 0, 119, 96, 46, 184, 0, 127, 167, 0, 5]
abbrev dktX2_readsSaw_3 : List UInt8 := dkwX2_readsSaw_3 ++ dktX2_readsSaw_4
def dkwX2_readsSaw_2 : List UInt8 := [42, 180, 0, 119, 96, 46, 16, 59, 159, 0, 5, 3, 172, 42, 89, 180, 0, 119, 4, 96, 181, 0, 119, 42]
abbrev dktX2_readsSaw_2 : List UInt8 := dkwX2_readsSaw_2 ++ dktX2_readsSaw_3
def dkwX2_readsSaw_1 : List UInt8 := [162, 0, 212, 42, 180, 0, 124, 158, 0, 40, 42, 180, 0, 124, 16, 8, 159, 0, 19, 42, 180, 0, 79, 27]
abbrev dktX2_readsSaw_1 : List UInt8 := dkwX2_readsSaw_1 ++ dktX2_readsSaw_2
def dkwX2_readsSaw_0 : List UInt8 := [42, 3, 181, 0, 119, 42, 3, 181, 0, 124, 42, 180, 0, 124, 153, 0, 11, 42, 180, 0, 119, 28]
abbrev dktX2_readsSaw_0 : List UInt8 := dkwX2_readsSaw_0 ++ dktX2_readsSaw_1
theorem dksX2_readsSaw_0 : cX2_readsSaw.data.toList.drop 0 = dktX2_readsSaw_0 := by decide +kernel
theorem dksX2_readsSaw_1 : cX2_readsSaw.data.toList.drop 22 = dktX2_readsSaw_1 := dk_seg dksX2_readsSaw_0 22 rfl rfl
theorem dksX2_readsSaw_2 : cX2_readsSaw.data.toList.drop 46 = dktX2_readsSaw_2 := dk_seg dksX2_readsSaw_1 24 rfl rfl
theorem dksX2_readsSaw_3 : cX2_readsSaw.data.toList.drop 70 = dktX2_readsSaw_3 := dk_seg dksX2_readsSaw_2 24 rfl rfl
theorem dksX2_readsSaw_4 : cX2_readsSaw.data.toList.drop 94 = dktX2_readsSaw_4 := dk_seg dksX2_readsSaw_3 24 rfl rfl
theorem dksX2_readsSaw_5 : cX2_readsSaw.data.toList.drop 118 = dktX2_readsSaw_5 := dk_seg dksX2_readsSaw_4 24 rfl rfl
theorem dksX2_readsSaw_6 : cX2_readsSaw.data.toList.drop 142 = dktX2_readsSaw_6 := dk_seg dksX2_readsSaw_5 24 rfl rfl
theorem dksX2_readsSaw_7 : cX2_readsSaw.data.toList.drop 166 = dktX2_readsSaw_7 := dk_seg dksX2_readsSaw_6 24 rfl rfl
theorem dksX2_readsSaw_8 : cX2_readsSaw.data.toList.drop 189 = dktX2_readsSaw_8 := dk_seg dksX2_readsSaw_7 23 rfl rfl
theorem dksX2_readsSaw_9 : cX2_readsSaw.data.toList.drop 212 = dktX2_readsSaw_9 := dk_seg dksX2_readsSaw_8 23 rfl rfl
theorem dX2_readsSaw_0 : decode cX2_readsSaw 0 = .ok (.aload_n 0, 1) := dk_42 (dk_at dksX2_readsSaw_0 0 rfl rfl)
theorem dX2_readsSaw_1 : decode cX2_readsSaw 1 = .ok (.iconst 0, 1) := dk_3 (dk_at dksX2_readsSaw_0 1 rfl rfl)
theorem dX2_readsSaw_2 : decode cX2_readsSaw 2 = .ok (.putfield 119, 3) := dk_181 0 119 (dk_at dksX2_readsSaw_0 2 rfl rfl)
theorem dX2_readsSaw_5 : decode cX2_readsSaw 5 = .ok (.aload_n 0, 1) := dk_42 (dk_at dksX2_readsSaw_0 5 rfl rfl)
theorem dX2_readsSaw_6 : decode cX2_readsSaw 6 = .ok (.iconst 0, 1) := dk_3 (dk_at dksX2_readsSaw_0 6 rfl rfl)
theorem dX2_readsSaw_7 : decode cX2_readsSaw 7 = .ok (.putfield 124, 3) := dk_181 0 124 (dk_at dksX2_readsSaw_0 7 rfl rfl)
theorem dX2_readsSaw_10 : decode cX2_readsSaw 10 = .ok (.aload_n 0, 1) := dk_42 (dk_at dksX2_readsSaw_0 10 rfl rfl)
theorem dX2_readsSaw_11 : decode cX2_readsSaw 11 = .ok (.getfield 124, 3) := dk_180 0 124 (dk_at dksX2_readsSaw_0 11 rfl rfl)
theorem dX2_readsSaw_14 : decode cX2_readsSaw 14 = .ok (.ifCond .eq 11, 3) := dk_153 0 11 (dk_at dksX2_readsSaw_0 14 rfl rfl)
theorem dX2_readsSaw_17 : decode cX2_readsSaw 17 = .ok (.aload_n 0, 1) := dk_42 (dk_at dksX2_readsSaw_0 17 rfl rfl)
theorem dX2_readsSaw_18 : decode cX2_readsSaw 18 = .ok (.getfield 119, 3) := dk_180 0 119 (dk_at dksX2_readsSaw_0 18 rfl rfl)
theorem dX2_readsSaw_21 : decode cX2_readsSaw 21 = .ok (.iload_n 2, 1) := dk_28 (dk_at dksX2_readsSaw_0 21 rfl rfl)
theorem dX2_readsSaw_22 : decode cX2_readsSaw 22 = .ok (.if_icmp .ge 212, 3) := dk_162 0 212 (dk_at dksX2_readsSaw_1 0 rfl rfl)
theorem dX2_readsSaw_25 : decode cX2_readsSaw 25 = .ok (.aload_n 0, 1) := dk_42 (dk_at dksX2_readsSaw_1 3 rfl rfl)
theorem dX2_readsSaw_26 : decode cX2_readsSaw 26 = .ok (.getfield 124, 3) := dk_180 0 124 (dk_at dksX2_readsSaw_1 4 rfl rfl)
theorem dX2_readsSaw_29 : decode cX2_readsSaw 29 = .ok (.ifCond .le 40, 3) := dk_158 0 40 (dk_at dksX2_readsSaw_1 7 rfl rfl)
theorem dX2_readsSaw_32 : decode cX2_readsSaw 32 = .ok (.aload_n 0, 1) := dk_42 (dk_at dksX2_readsSaw_1 10 rfl rfl)
theorem dX2_readsSaw_33 : decode cX2_readsSaw 33 = .ok (.getfield 124, 3) := dk_180 0 124 (dk_at dksX2_readsSaw_1 11 rfl rfl)
theorem dX2_readsSaw_36 : decode cX2_readsSaw 36 = .ok (.bipush 8, 2) := dk_16 8 (dk_at dksX2_readsSaw_1 14 rfl rfl)
theorem dX2_readsSaw_38 : decode cX2_readsSaw 38 = .ok (.if_icmp .eq 19, 3) := dk_159 0 19 (dk_at dksX2_readsSaw_1 16 rfl rfl)
theorem dX2_readsSaw_41 : decode cX2_readsSaw 41 = .ok (.aload_n 0, 1) := dk_42 (dk_at dksX2_readsSaw_1 19 rfl rfl)
theorem dX2_readsSaw_42 : decode cX2_readsSaw 42 = .ok (.getfield 79, 3) := dk_180 0 79 (dk_at dksX2_readsSaw_1 20 rfl rfl)
theorem dX2_readsSaw_45 : decode cX2_readsSaw 45 = .ok (.iload_n 1, 1) := dk_27 (dk_at dksX2_readsSaw_1 23 rfl rfl)
theorem dX2_readsSaw_46 : decode cX2_readsSaw 46 = .ok (.aload_n 0, 1) := dk_42 (dk_at dksX2_readsSaw_2 0 rfl rfl)
theorem dX2_readsSaw_47 : decode cX2_readsSaw 47 = .ok (.getfield 119, 3) := dk_180 0 119 (dk_at dksX2_readsSaw_2 1 rfl rfl)
theorem dX2_readsSaw_50 : decode cX2_readsSaw 50 = .ok (.iadd, 1) := dk_96 (dk_at dksX2_readsSaw_2 4 rfl rfl)
theorem dX2_readsSaw_51 : decode cX2_readsSaw 51 = .ok (.iaload, 1) := dk_46 (dk_at dksX2_readsSaw_2 5 rfl rfl)
theorem dX2_readsSaw_52 : decode cX2_readsSaw 52 = .ok (.bipush 59, 2) := dk_16 59 (dk_at dksX2_readsSaw_2 6 rfl rfl)
theorem dX2_readsSaw_54 : decode cX2_readsSaw 54 = .ok (.if_icmp .eq 5, 3) := dk_159 0 5 (dk_at dksX2_readsSaw_2 8 rfl rfl)
theorem dX2_readsSaw_57 : decode cX2_readsSaw 57 = .ok (.iconst 0, 1) := dk_3 (dk_at dksX2_readsSaw_2 11 rfl rfl)
theorem dX2_readsSaw_58 : decode cX2_readsSaw 58 = .ok (.ireturn, 1) := dk_172 (dk_at dksX2_readsSaw_2 12 rfl rfl)
theorem dX2_readsSaw_59 : decode cX2_readsSaw 59 = .ok (.aload_n 0, 1) := dk_42 (dk_at dksX2_readsSaw_2 13 rfl rfl)
theorem dX2_readsSaw_60 : decode cX2_readsSaw 60 = .ok (.dup, 1) := dk_89 (dk_at dksX2_readsSaw_2 14 rfl rfl)
theorem dX2_readsSaw_61 : decode cX2_readsSaw 61 = .ok (.getfield 119, 3) := dk_180 0 119 (dk_at dksX2_readsSaw_2 15 rfl rfl)
theorem dX2_readsSaw_64 : decode cX2_readsSaw 64 = .ok (.iconst 1, 1) := dk_4 (dk_at dksX2_readsSaw_2 18 rfl rfl)
theorem dX2_readsSaw_65 : decode cX2_readsSaw 65 = .ok (.iadd, 1) := dk_96 (dk_at dksX2_readsSaw_2 19 rfl rfl)
theorem dX2_readsSaw_66 : decode cX2_readsSaw 66 = .ok (.putfield 119, 3) := dk_181 0 119 (dk_at dksX2_readsSaw_2 20 rfl rfl)
theorem dX2_readsSaw_69 : decode cX2_readsSaw 69 = .ok (.aload_n 0, 1) := dk_42 (dk_at dksX2_readsSaw_2 23 rfl rfl)
theorem dX2_readsSaw_70 : decode cX2_readsSaw 70 = .ok (.getfield 119, 3) := dk_180 0 119 (dk_at dksX2_readsSaw_3 0 rfl rfl)
theorem dX2_readsSaw_73 : decode cX2_readsSaw 73 = .ok (.iload_n 2, 1) := dk_28 (dk_at dksX2_readsSaw_3 3 rfl rfl)
theorem dX2_readsSaw_74 : decode cX2_readsSaw 74 = .ok (.if_icmp .ge 20, 3) := dk_162 0 20 (dk_at dksX2_readsSaw_3 4 rfl rfl)
theorem dX2_readsSaw_77 : decode cX2_readsSaw 77 = .ok (.aload_n 0, 1) := dk_42 (dk_at dksX2_readsSaw_3 7 rfl rfl)
theorem dX2_readsSaw_78 : decode cX2_readsSaw 78 = .ok (.getfield 79, 3) := dk_180 0 79 (dk_at dksX2_readsSaw_3 8 rfl rfl)
theorem dX2_readsSaw_81 : decode cX2_readsSaw 81 = .ok (.iload_n 1, 1) := dk_27 (dk_at dksX2_readsSaw_3 11 rfl rfl)
theorem dX2_readsSaw_82 : decode cX2_readsSaw 82 = .ok (.aload_n 0, 1) := dk_42 (dk_at dksX2_readsSaw_3 12 rfl rfl)
theorem dX2_readsSaw_83 : decode cX2_readsSaw 83 = .ok (.getfield 119, 3) := dk_180 0 119 (dk_at dksX2_readsSaw_3 13 rfl rfl)
theorem dX2_readsSaw_86 : decode cX2_readsSaw 86 = .ok (.iadd, 1) := dk_96 (dk_at dksX2_readsSaw_3 16 rfl rfl)
theorem dX2_readsSaw_87 : decode cX2_readsSaw 87 = .ok (.iaload, 1) := dk_46 (dk_at dksX2_readsSaw_3 17 rfl rfl)
theorem dX2_readsSaw_88 : decode cX2_readsSaw 88 = .ok (.invokestatic 127, 3) := dk_184 0 127 (dk_at dksX2_readsSaw_3 18 rfl rfl)
theorem dX2_readsSaw_91 : decode cX2_readsSaw 91 = .ok (.goto 5, 3) := dk_167 0 5 (dk_at dksX2_readsSaw_3 21 rfl rfl)
theorem dX2_readsSaw_94 : decode cX2_readsSaw 94 = .ok (.bipush (-9), 2) := dk_16 247 (dk_at dksX2_readsSaw_4 0 rfl rfl)
theorem dX2_readsSaw_96 : decode cX2_readsSaw 96 = .ok (.istore_n 3, 1) := dk_62 (dk_at dksX2_readsSaw_4 2 rfl rfl)
theorem dX2_readsSaw_97 : decode cX2_readsSaw 97 = .ok (.iload_n 3, 1) := dk_29 (dk_at dksX2_readsSaw_4 3 rfl rfl)
theorem dX2_readsSaw_98 : decode cX2_readsSaw 98 = .ok (.bipush (-9), 2) := dk_16 247 (dk_at dksX2_readsSaw_4 4 rfl rfl)
theorem dX2_readsSaw_100 : decode cX2_readsSaw 100 = .ok (.if_icmp .ne 5, 3) := dk_160 0 5 (dk_at dksX2_readsSaw_4 6 rfl rfl)
theorem dX2_readsSaw_103 : decode cX2_readsSaw 103 = .ok (.iconst 0, 1) := dk_3 (dk_at dksX2_readsSaw_4 9 rfl rfl)
theorem dX2_readsSaw_104 : decode cX2_readsSaw 104 = .ok (.ireturn, 1) := dk_172 (dk_at dksX2_readsSaw_4 10 rfl rfl)
theorem dX2_readsSaw_105 : decode cX2_readsSaw 105 = .ok (.aload_n 0, 1) := dk_42 (dk_at dksX2_readsSaw_4 11 rfl rfl)
theorem dX2_readsSaw_106 : decode cX2_readsSaw 106 = .ok (.dup, 1) := dk_89 (dk_at dksX2_readsSaw_4 12 rfl rfl)
theorem dX2_readsSaw_107 : decode cX2_readsSaw 107 = .ok (.getfield 119, 3) := dk_180 0 119 (dk_at dksX2_readsSaw_4 13 rfl rfl)
theorem dX2_readsSaw_110 : decode cX2_readsSaw 110 = .ok (.iconst 1, 1) := dk_4 (dk_at dksX2_readsSaw_4 16 rfl rfl)
theorem dX2_readsSaw_111 : decode cX2_readsSaw 111 = .ok (.iadd, 1) := dk_96 (dk_at dksX2_readsSaw_4 17 rfl rfl)
theorem dX2_readsSaw_112 : decode cX2_readsSaw 112 = .ok (.putfield 119, 3) := dk_181 0 119 (dk_at dksX2_readsSaw_4 18 rfl rfl)
theorem dX2_readsSaw_115 : decode cX2_readsSaw 115 = .ok (.aload_n 0, 1) := dk_42 (dk_at dksX2_readsSaw_4 21 rfl rfl)
theorem dX2_readsSaw_116 : decode cX2_readsSaw 116 = .ok (.iload_n 1, 1) := dk_27 (dk_at dksX2_readsSaw_4 22 rfl rfl)
theorem dX2_readsSaw_117 : decode cX2_readsSaw 117 = .ok (.iload_n 2, 1) := dk_28 (dk_at dksX2_readsSaw_4 23 rfl rfl)
theorem dX2_readsSaw_118 : decode cX2_readsSaw 118 = .ok (.aload_n 0, 1) := dk_42 (dk_at dksX2_readsSaw_5 0 rfl rfl)
theorem dX2_readsSaw_119 : decode cX2_readsSaw 119 = .ok (.getfield 124, 3) := dk_180 0 124 (dk_at dksX2_readsSaw_5 1 rfl rfl)
theorem dX2_readsSaw_122 : decode cX2_readsSaw 122 = .ok (.invokevirtual 130, 3) := dk_182 0 130 (dk_at dksX2_readsSaw_5 4 rfl rfl)
theorem dX2_readsSaw_125 : decode cX2_readsSaw 125 = .ok (.ifCond .ne 5, 3) := dk_154 0 5 (dk_at dksX2_readsSaw_5 7 rfl rfl)
theorem dX2_readsSaw_128 : decode cX2_readsSaw 128 = .ok (.iconst 0, 1) := dk_3 (dk_at dksX2_readsSaw_5 10 rfl rfl)
theorem dX2_readsSaw_129 : decode cX2_readsSaw 129 = .ok (.ireturn, 1) := dk_172 (dk_at dksX2_readsSaw_5 11 rfl rfl)
theorem dX2_readsSaw_130 : decode cX2_readsSaw 130 = .ok (.iload_n 3, 1) := dk_29 (dk_at dksX2_readsSaw_5 12 rfl rfl)
theorem dX2_readsSaw_131 : decode cX2_readsSaw 131 = .ok (.ifCond .eq 31, 3) := dk_153 0 31 (dk_at dksX2_readsSaw_5 13 rfl rfl)
theorem dX2_readsSaw_134 : decode cX2_readsSaw 134 = .ok (.aload_n 0, 1) := dk_42 (dk_at dksX2_readsSaw_5 16 rfl rfl)
theorem dX2_readsSaw_135 : decode cX2_readsSaw 135 = .ok (.getfield 119, 3) := dk_180 0 119 (dk_at dksX2_readsSaw_5 17 rfl rfl)
theorem dX2_readsSaw_138 : decode cX2_readsSaw 138 = .ok (.iload_n 2, 1) := dk_28 (dk_at dksX2_readsSaw_5 20 rfl rfl)
theorem dX2_readsSaw_139 : decode cX2_readsSaw 139 = .ok (.if_icmp .ge 23, 3) := dk_162 0 23 (dk_at dksX2_readsSaw_5 21 rfl rfl)
theorem dX2_readsSaw_142 : decode cX2_readsSaw 142 = .ok (.aload_n 0, 1) := dk_42 (dk_at dksX2_readsSaw_6 0 rfl rfl)
theorem dX2_readsSaw_143 : decode cX2_readsSaw 143 = .ok (.getfield 79, 3) := dk_180 0 79 (dk_at dksX2_readsSaw_6 1 rfl rfl)
theorem dX2_readsSaw_146 : decode cX2_readsSaw 146 = .ok (.iload_n 1, 1) := dk_27 (dk_at dksX2_readsSaw_6 4 rfl rfl)
theorem dX2_readsSaw_147 : decode cX2_readsSaw 147 = .ok (.aload_n 0, 1) := dk_42 (dk_at dksX2_readsSaw_6 5 rfl rfl)
theorem dX2_readsSaw_148 : decode cX2_readsSaw 148 = .ok (.getfield 119, 3) := dk_180 0 119 (dk_at dksX2_readsSaw_6 6 rfl rfl)
theorem dX2_readsSaw_151 : decode cX2_readsSaw 151 = .ok (.iadd, 1) := dk_96 (dk_at dksX2_readsSaw_6 9 rfl rfl)
theorem dX2_readsSaw_152 : decode cX2_readsSaw 152 = .ok (.iaload, 1) := dk_46 (dk_at dksX2_readsSaw_6 10 rfl rfl)
theorem dX2_readsSaw_153 : decode cX2_readsSaw 153 = .ok (.bipush 104, 2) := dk_16 104 (dk_at dksX2_readsSaw_6 11 rfl rfl)
theorem dX2_readsSaw_155 : decode cX2_readsSaw 155 = .ok (.if_icmp .ne 7, 3) := dk_160 0 7 (dk_at dksX2_readsSaw_6 13 rfl rfl)
theorem dX2_readsSaw_158 : decode cX2_readsSaw 158 = .ok (.iconst 1, 1) := dk_4 (dk_at dksX2_readsSaw_6 16 rfl rfl)
theorem dX2_readsSaw_159 : decode cX2_readsSaw 159 = .ok (.goto 4, 3) := dk_167 0 4 (dk_at dksX2_readsSaw_6 17 rfl rfl)
theorem dX2_readsSaw_162 : decode cX2_readsSaw 162 = .ok (.iconst 0, 1) := dk_3 (dk_at dksX2_readsSaw_6 20 rfl rfl)
theorem dX2_readsSaw_163 : decode cX2_readsSaw 163 = .ok (.istore 4, 2) := dk_54 4 (dk_at dksX2_readsSaw_6 21 rfl rfl)
theorem dX2_readsSaw_165 : decode cX2_readsSaw 165 = .ok (.aload_n 0, 1) := dk_42 (dk_at dksX2_readsSaw_6 23 rfl rfl)
theorem dX2_readsSaw_166 : decode cX2_readsSaw 166 = .ok (.dup, 1) := dk_89 (dk_at dksX2_readsSaw_7 0 rfl rfl)
theorem dX2_readsSaw_167 : decode cX2_readsSaw 167 = .ok (.getfield 119, 3) := dk_180 0 119 (dk_at dksX2_readsSaw_7 1 rfl rfl)
theorem dX2_readsSaw_170 : decode cX2_readsSaw 170 = .ok (.iload 4, 2) := dk_21 4 (dk_at dksX2_readsSaw_7 4 rfl rfl)
theorem dX2_readsSaw_172 : decode cX2_readsSaw 172 = .ok (.ifCond .eq 7, 3) := dk_153 0 7 (dk_at dksX2_readsSaw_7 6 rfl rfl)
theorem dX2_readsSaw_175 : decode cX2_readsSaw 175 = .ok (.iconst 1, 1) := dk_4 (dk_at dksX2_readsSaw_7 9 rfl rfl)
theorem dX2_readsSaw_176 : decode cX2_readsSaw 176 = .ok (.goto 4, 3) := dk_167 0 4 (dk_at dksX2_readsSaw_7 10 rfl rfl)
theorem dX2_readsSaw_179 : decode cX2_readsSaw 179 = .ok (.iconst 0, 1) := dk_3 (dk_at dksX2_readsSaw_7 13 rfl rfl)
theorem dX2_readsSaw_180 : decode cX2_readsSaw 180 = .ok (.iadd, 1) := dk_96 (dk_at dksX2_readsSaw_7 14 rfl rfl)
theorem dX2_readsSaw_181 : decode cX2_readsSaw 181 = .ok (.putfield 119, 3) := dk_181 0 119 (dk_at dksX2_readsSaw_7 15 rfl rfl)
theorem dX2_readsSaw_184 : decode cX2_readsSaw 184 = .ok (.aload_n 0, 1) := dk_42 (dk_at dksX2_readsSaw_7 18 rfl rfl)
theorem dX2_readsSaw_185 : decode cX2_readsSaw 185 = .ok (.getfield 28, 3) := dk_180 0 28 (dk_at dksX2_readsSaw_7 19 rfl rfl)
theorem dX2_readsSaw_188 : decode cX2_readsSaw 188 = .ok (.aload_n 0, 1) := dk_42 (dk_at dksX2_readsSaw_7 22 rfl rfl)
theorem dX2_readsSaw_189 : decode cX2_readsSaw 189 = .ok (.getfield 124, 3) := dk_180 0 124 (dk_at dksX2_readsSaw_8 0 rfl rfl)
theorem dX2_readsSaw_192 : decode cX2_readsSaw 192 = .ok (.iload_n 3, 1) := dk_29 (dk_at dksX2_readsSaw_8 3 rfl rfl)
theorem dX2_readsSaw_193 : decode cX2_readsSaw 193 = .ok (.iastore, 1) := dk_79 (dk_at dksX2_readsSaw_8 4 rfl rfl)
theorem dX2_readsSaw_194 : decode cX2_readsSaw 194 = .ok (.aload_n 0, 1) := dk_42 (dk_at dksX2_readsSaw_8 5 rfl rfl)
theorem dX2_readsSaw_195 : decode cX2_readsSaw 195 = .ok (.getfield 25, 3) := dk_180 0 25 (dk_at dksX2_readsSaw_8 6 rfl rfl)
theorem dX2_readsSaw_198 : decode cX2_readsSaw 198 = .ok (.aload_n 0, 1) := dk_42 (dk_at dksX2_readsSaw_8 9 rfl rfl)
theorem dX2_readsSaw_199 : decode cX2_readsSaw 199 = .ok (.getfield 124, 3) := dk_180 0 124 (dk_at dksX2_readsSaw_8 10 rfl rfl)
theorem dX2_readsSaw_202 : decode cX2_readsSaw 202 = .ok (.iload_n 3, 1) := dk_29 (dk_at dksX2_readsSaw_8 13 rfl rfl)
theorem dX2_readsSaw_203 : decode cX2_readsSaw 203 = .ok (.ifCond .ne 7, 3) := dk_154 0 7 (dk_at dksX2_readsSaw_8 14 rfl rfl)
theorem dX2_readsSaw_206 : decode cX2_readsSaw 206 = .ok (.iconst 0, 1) := dk_3 (dk_at dksX2_readsSaw_8 17 rfl rfl)
theorem dX2_readsSaw_207 : decode cX2_readsSaw 207 = .ok (.goto 13, 3) := dk_167 0 13 (dk_at dksX2_readsSaw_8 18 rfl rfl)
theorem dX2_readsSaw_210 : decode cX2_readsSaw 210 = .ok (.iload 4, 2) := dk_21 4 (dk_at dksX2_readsSaw_8 21 rfl rfl)
theorem dX2_readsSaw_212 : decode cX2_readsSaw 212 = .ok (.ifCond .eq 7, 3) := dk_153 0 7 (dk_at dksX2_readsSaw_9 0 rfl rfl)
theorem dX2_readsSaw_215 : decode cX2_readsSaw 215 = .ok (.iconst 2, 1) := dk_5 (dk_at dksX2_readsSaw_9 3 rfl rfl)
theorem dX2_readsSaw_216 : decode cX2_readsSaw 216 = .ok (.goto 4, 3) := dk_167 0 4 (dk_at dksX2_readsSaw_9 4 rfl rfl)
theorem dX2_readsSaw_219 : decode cX2_readsSaw 219 = .ok (.iconst 1, 1) := dk_4 (dk_at dksX2_readsSaw_9 7 rfl rfl)
theorem dX2_readsSaw_220 : decode cX2_readsSaw 220 = .ok (.iastore, 1) := dk_79 (dk_at dksX2_readsSaw_9 8 rfl rfl)
theorem dX2_readsSaw_221 : decode cX2_readsSaw 221 = .ok (.aload_n 0, 1) := dk_42 (dk_at dksX2_readsSaw_9 9 rfl rfl)
theorem dX2_readsSaw_222 : decode cX2_readsSaw 222 = .ok (.dup, 1) := dk_89 (dk_at dksX2_readsSaw_9 10 rfl rfl)
theorem dX2_readsSaw_223 : decode cX2_readsSaw 223 = .ok (.getfield 124, 3) := dk_180 0 124 (dk_at dksX2_readsSaw_9 11 rfl rfl)
theorem dX2_readsSaw_226 : decode cX2_readsSaw 226 = .ok (.iconst 1, 1) := dk_4 (dk_at dksX2_readsSaw_9 14 rfl rfl)
theorem dX2_readsSaw_227 : decode cX2_readsSaw 227 = .ok (.iadd, 1) := dk_96 (dk_at dksX2_readsSaw_9 15 rfl rfl)
theorem dX2_readsSaw_228 : decode cX2_readsSaw 228 = .ok (.putfield 124, 3) := dk_181 0 124 (dk_at dksX2_readsSaw_9 16 rfl rfl)
theorem dX2_readsSaw_231 : decode cX2_readsSaw 231 = .ok (.goto (-221), 3) := dk_167 255 35 (dk_at dksX2_readsSaw_9 19 rfl rfl)
theorem dX2_readsSaw_234 : decode cX2_readsSaw 234 = .ok (.iconst 1, 1) := dk_4 (dk_at dksX2_readsSaw_9 22 rfl rfl)
theorem dX2_readsSaw_235 : decode cX2_readsSaw 235 = .ok (.ireturn, 1) := dk_172 (dk_at dksX2_readsSaw_9 23 rfl rfl)
abbrev cX2_sideBy : ByteArray := prog_8_method_11_code
def yX2_sideBy : MethodName := ⟨RX2, "sideBy", "(I)I"⟩
def dkwX2_sideBy_1 : List UInt8 := [160, 0, 7, 4, 167, 0, 5, 16, 247, 172]
abbrev dktX2_sideBy_1 : List UInt8 := dkwX2_sideBy_1 ++ []
def dkwX2_sideBy_0 : List UInt8 := [26, 16, 108, 160, 0, 7, 2, 167, 0, 25, 26, 16, 99, 160, 0, 7, 3, 167, 0, 15, 26, 16, 114]
abbrev dktX2_sideBy_0 : List UInt8 := dkwX2_sideBy_0 ++ dktX2_sideBy_1
theorem dksX2_sideBy_0 : cX2_sideBy.data.toList.drop 0 = dktX2_sideBy_0 := by decide +kernel
theorem dksX2_sideBy_1 : cX2_sideBy.data.toList.drop 23 = dktX2_sideBy_1 := dk_seg dksX2_sideBy_0 23 rfl rfl
theorem dX2_sideBy_0 : decode cX2_sideBy 0 = .ok (.iload_n 0, 1) := dk_26 (dk_at dksX2_sideBy_0 0 rfl rfl)
theorem dX2_sideBy_1 : decode cX2_sideBy 1 = .ok (.bipush 108, 2) := dk_16 108 (dk_at dksX2_sideBy_0 1 rfl rfl)
theorem dX2_sideBy_3 : decode cX2_sideBy 3 = .ok (.if_icmp .ne 7, 3) := dk_160 0 7 (dk_at dksX2_sideBy_0 3 rfl rfl)
theorem dX2_sideBy_6 : decode cX2_sideBy 6 = .ok (.iconst (-1), 1) := dk_2 (dk_at dksX2_sideBy_0 6 rfl rfl)
theorem dX2_sideBy_7 : decode cX2_sideBy 7 = .ok (.goto 25, 3) := dk_167 0 25 (dk_at dksX2_sideBy_0 7 rfl rfl)
theorem dX2_sideBy_10 : decode cX2_sideBy 10 = .ok (.iload_n 0, 1) := dk_26 (dk_at dksX2_sideBy_0 10 rfl rfl)
theorem dX2_sideBy_11 : decode cX2_sideBy 11 = .ok (.bipush 99, 2) := dk_16 99 (dk_at dksX2_sideBy_0 11 rfl rfl)
theorem dX2_sideBy_13 : decode cX2_sideBy 13 = .ok (.if_icmp .ne 7, 3) := dk_160 0 7 (dk_at dksX2_sideBy_0 13 rfl rfl)
theorem dX2_sideBy_16 : decode cX2_sideBy 16 = .ok (.iconst 0, 1) := dk_3 (dk_at dksX2_sideBy_0 16 rfl rfl)
theorem dX2_sideBy_17 : decode cX2_sideBy 17 = .ok (.goto 15, 3) := dk_167 0 15 (dk_at dksX2_sideBy_0 17 rfl rfl)
theorem dX2_sideBy_20 : decode cX2_sideBy 20 = .ok (.iload_n 0, 1) := dk_26 (dk_at dksX2_sideBy_0 20 rfl rfl)
theorem dX2_sideBy_21 : decode cX2_sideBy 21 = .ok (.bipush 114, 2) := dk_16 114 (dk_at dksX2_sideBy_0 21 rfl rfl)
theorem dX2_sideBy_23 : decode cX2_sideBy 23 = .ok (.if_icmp .ne 7, 3) := dk_160 0 7 (dk_at dksX2_sideBy_1 0 rfl rfl)
theorem dX2_sideBy_26 : decode cX2_sideBy 26 = .ok (.iconst 1, 1) := dk_4 (dk_at dksX2_sideBy_1 3 rfl rfl)
theorem dX2_sideBy_27 : decode cX2_sideBy 27 = .ok (.goto 5, 3) := dk_167 0 5 (dk_at dksX2_sideBy_1 4 rfl rfl)
theorem dX2_sideBy_30 : decode cX2_sideBy 30 = .ok (.bipush (-9), 2) := dk_16 247 (dk_at dksX2_sideBy_1 7 rfl rfl)
theorem dX2_sideBy_32 : decode cX2_sideBy 32 = .ok (.ireturn, 1) := dk_172 (dk_at dksX2_sideBy_1 9 rfl rfl)
abbrev cX2_readsFigures : ByteArray := prog_8_method_12_code
def yX2_readsFigures : MethodName := ⟨RX2, "readsFigures", "(III)Z"⟩
def dkwX2_readsFigures_3 : List UInt8 := [180, 0, 119, 4, 96, 181, 0, 119, 132, 4, 1, 167, 255, 180, 4, 172]
abbrev dktX2_readsFigures_3 : List UInt8 := dkwX2_readsFigures_3 ++ []
def dkwX2_readsFigures_2 : List UInt8 := [184, 0, 105, 154, 0, 5, 3, 172, 42, 180, 0, 31, 6, 29, 104, 21, 4, 96, 21, 5, 79, 42, 89]
abbrev dktX2_readsFigures_2 : List UInt8 := dkwX2_readsFigures_2 ++ dktX2_readsFigures_3
def dkwX2_readsFigures_1 : List UInt8 := [180, 0, 119, 96, 46, 16, 48, 100, 167, 0, 5, 16, 247, 54, 5, 21, 5, 133, 9, 20, 0, 122]
abbrev dktX2_readsFigures_1 : List UInt8 := dkwX2_readsFigures_1 ++ dktX2_readsFigures_2
def dkwX2_readsFigures_0 : List UInt8 := [3, 54, 4, 21, 4, 6, 162, 0, 76, 42, 180, 0, 119, 28, 162, 0, 20, 42, 180, 0, 79, 27, 42]
abbrev dktX2_readsFigures_0 : List UInt8 := dkwX2_readsFigures_0 ++ dktX2_readsFigures_1
theorem dksX2_readsFigures_0 : cX2_readsFigures.data.toList.drop 0 = dktX2_readsFigures_0 := by decide +kernel
theorem dksX2_readsFigures_1 : cX2_readsFigures.data.toList.drop 23 = dktX2_readsFigures_1 := dk_seg dksX2_readsFigures_0 23 rfl rfl
theorem dksX2_readsFigures_2 : cX2_readsFigures.data.toList.drop 45 = dktX2_readsFigures_2 := dk_seg dksX2_readsFigures_1 22 rfl rfl
theorem dksX2_readsFigures_3 : cX2_readsFigures.data.toList.drop 68 = dktX2_readsFigures_3 := dk_seg dksX2_readsFigures_2 23 rfl rfl
theorem dX2_readsFigures_0 : decode cX2_readsFigures 0 = .ok (.iconst 0, 1) := dk_3 (dk_at dksX2_readsFigures_0 0 rfl rfl)
theorem dX2_readsFigures_1 : decode cX2_readsFigures 1 = .ok (.istore 4, 2) := dk_54 4 (dk_at dksX2_readsFigures_0 1 rfl rfl)
theorem dX2_readsFigures_3 : decode cX2_readsFigures 3 = .ok (.iload 4, 2) := dk_21 4 (dk_at dksX2_readsFigures_0 3 rfl rfl)
theorem dX2_readsFigures_5 : decode cX2_readsFigures 5 = .ok (.iconst 3, 1) := dk_6 (dk_at dksX2_readsFigures_0 5 rfl rfl)
theorem dX2_readsFigures_6 : decode cX2_readsFigures 6 = .ok (.if_icmp .ge 76, 3) := dk_162 0 76 (dk_at dksX2_readsFigures_0 6 rfl rfl)
theorem dX2_readsFigures_9 : decode cX2_readsFigures 9 = .ok (.aload_n 0, 1) := dk_42 (dk_at dksX2_readsFigures_0 9 rfl rfl)
theorem dX2_readsFigures_10 : decode cX2_readsFigures 10 = .ok (.getfield 119, 3) := dk_180 0 119 (dk_at dksX2_readsFigures_0 10 rfl rfl)
theorem dX2_readsFigures_13 : decode cX2_readsFigures 13 = .ok (.iload_n 2, 1) := dk_28 (dk_at dksX2_readsFigures_0 13 rfl rfl)
theorem dX2_readsFigures_14 : decode cX2_readsFigures 14 = .ok (.if_icmp .ge 20, 3) := dk_162 0 20 (dk_at dksX2_readsFigures_0 14 rfl rfl)
theorem dX2_readsFigures_17 : decode cX2_readsFigures 17 = .ok (.aload_n 0, 1) := dk_42 (dk_at dksX2_readsFigures_0 17 rfl rfl)
theorem dX2_readsFigures_18 : decode cX2_readsFigures 18 = .ok (.getfield 79, 3) := dk_180 0 79 (dk_at dksX2_readsFigures_0 18 rfl rfl)
theorem dX2_readsFigures_21 : decode cX2_readsFigures 21 = .ok (.iload_n 1, 1) := dk_27 (dk_at dksX2_readsFigures_0 21 rfl rfl)
theorem dX2_readsFigures_22 : decode cX2_readsFigures 22 = .ok (.aload_n 0, 1) := dk_42 (dk_at dksX2_readsFigures_0 22 rfl rfl)
theorem dX2_readsFigures_23 : decode cX2_readsFigures 23 = .ok (.getfield 119, 3) := dk_180 0 119 (dk_at dksX2_readsFigures_1 0 rfl rfl)
theorem dX2_readsFigures_26 : decode cX2_readsFigures 26 = .ok (.iadd, 1) := dk_96 (dk_at dksX2_readsFigures_1 3 rfl rfl)
theorem dX2_readsFigures_27 : decode cX2_readsFigures 27 = .ok (.iaload, 1) := dk_46 (dk_at dksX2_readsFigures_1 4 rfl rfl)
theorem dX2_readsFigures_28 : decode cX2_readsFigures 28 = .ok (.bipush 48, 2) := dk_16 48 (dk_at dksX2_readsFigures_1 5 rfl rfl)
theorem dX2_readsFigures_30 : decode cX2_readsFigures 30 = .ok (.isub, 1) := dk_100 (dk_at dksX2_readsFigures_1 7 rfl rfl)
theorem dX2_readsFigures_31 : decode cX2_readsFigures 31 = .ok (.goto 5, 3) := dk_167 0 5 (dk_at dksX2_readsFigures_1 8 rfl rfl)
theorem dX2_readsFigures_34 : decode cX2_readsFigures 34 = .ok (.bipush (-9), 2) := dk_16 247 (dk_at dksX2_readsFigures_1 11 rfl rfl)
theorem dX2_readsFigures_36 : decode cX2_readsFigures 36 = .ok (.istore 5, 2) := dk_54 5 (dk_at dksX2_readsFigures_1 13 rfl rfl)
theorem dX2_readsFigures_38 : decode cX2_readsFigures 38 = .ok (.iload 5, 2) := dk_21 5 (dk_at dksX2_readsFigures_1 15 rfl rfl)
theorem dX2_readsFigures_40 : decode cX2_readsFigures 40 = .ok (.i2l, 1) := dk_133 (dk_at dksX2_readsFigures_1 17 rfl rfl)
theorem dX2_readsFigures_41 : decode cX2_readsFigures 41 = .ok (.lconst 0, 1) := dk_9 (dk_at dksX2_readsFigures_1 18 rfl rfl)
theorem dX2_readsFigures_42 : decode cX2_readsFigures 42 = .ok (.ldc2_w 122, 3) := dk_20 0 122 (dk_at dksX2_readsFigures_1 19 rfl rfl)
theorem dX2_readsFigures_45 : decode cX2_readsFigures 45 = .ok (.invokestatic 105, 3) := dk_184 0 105 (dk_at dksX2_readsFigures_2 0 rfl rfl)
theorem dX2_readsFigures_48 : decode cX2_readsFigures 48 = .ok (.ifCond .ne 5, 3) := dk_154 0 5 (dk_at dksX2_readsFigures_2 3 rfl rfl)
theorem dX2_readsFigures_51 : decode cX2_readsFigures 51 = .ok (.iconst 0, 1) := dk_3 (dk_at dksX2_readsFigures_2 6 rfl rfl)
theorem dX2_readsFigures_52 : decode cX2_readsFigures 52 = .ok (.ireturn, 1) := dk_172 (dk_at dksX2_readsFigures_2 7 rfl rfl)
theorem dX2_readsFigures_53 : decode cX2_readsFigures 53 = .ok (.aload_n 0, 1) := dk_42 (dk_at dksX2_readsFigures_2 8 rfl rfl)
theorem dX2_readsFigures_54 : decode cX2_readsFigures 54 = .ok (.getfield 31, 3) := dk_180 0 31 (dk_at dksX2_readsFigures_2 9 rfl rfl)
theorem dX2_readsFigures_57 : decode cX2_readsFigures 57 = .ok (.iconst 3, 1) := dk_6 (dk_at dksX2_readsFigures_2 12 rfl rfl)
theorem dX2_readsFigures_58 : decode cX2_readsFigures 58 = .ok (.iload_n 3, 1) := dk_29 (dk_at dksX2_readsFigures_2 13 rfl rfl)
theorem dX2_readsFigures_59 : decode cX2_readsFigures 59 = .ok (.imul, 1) := dk_104 (dk_at dksX2_readsFigures_2 14 rfl rfl)
theorem dX2_readsFigures_60 : decode cX2_readsFigures 60 = .ok (.iload 4, 2) := dk_21 4 (dk_at dksX2_readsFigures_2 15 rfl rfl)
theorem dX2_readsFigures_62 : decode cX2_readsFigures 62 = .ok (.iadd, 1) := dk_96 (dk_at dksX2_readsFigures_2 17 rfl rfl)
theorem dX2_readsFigures_63 : decode cX2_readsFigures 63 = .ok (.iload 5, 2) := dk_21 5 (dk_at dksX2_readsFigures_2 18 rfl rfl)
theorem dX2_readsFigures_65 : decode cX2_readsFigures 65 = .ok (.iastore, 1) := dk_79 (dk_at dksX2_readsFigures_2 20 rfl rfl)
theorem dX2_readsFigures_66 : decode cX2_readsFigures 66 = .ok (.aload_n 0, 1) := dk_42 (dk_at dksX2_readsFigures_2 21 rfl rfl)
theorem dX2_readsFigures_67 : decode cX2_readsFigures 67 = .ok (.dup, 1) := dk_89 (dk_at dksX2_readsFigures_2 22 rfl rfl)
theorem dX2_readsFigures_68 : decode cX2_readsFigures 68 = .ok (.getfield 119, 3) := dk_180 0 119 (dk_at dksX2_readsFigures_3 0 rfl rfl)
theorem dX2_readsFigures_71 : decode cX2_readsFigures 71 = .ok (.iconst 1, 1) := dk_4 (dk_at dksX2_readsFigures_3 3 rfl rfl)
theorem dX2_readsFigures_72 : decode cX2_readsFigures 72 = .ok (.iadd, 1) := dk_96 (dk_at dksX2_readsFigures_3 4 rfl rfl)
theorem dX2_readsFigures_73 : decode cX2_readsFigures 73 = .ok (.putfield 119, 3) := dk_181 0 119 (dk_at dksX2_readsFigures_3 5 rfl rfl)
theorem dX2_readsFigures_76 : decode cX2_readsFigures 76 = .ok (.iinc 4 1, 3) := dk_132 4 1 (dk_at dksX2_readsFigures_3 8 rfl rfl)
theorem dX2_readsFigures_79 : decode cX2_readsFigures 79 = .ok (.goto (-76), 3) := dk_167 255 180 (dk_at dksX2_readsFigures_3 11 rfl rfl)
theorem dX2_readsFigures_82 : decode cX2_readsFigures 82 = .ok (.iconst 1, 1) := dk_4 (dk_at dksX2_readsFigures_3 14 rfl rfl)
theorem dX2_readsFigures_83 : decode cX2_readsFigures 83 = .ok (.ireturn, 1) := dk_172 (dk_at dksX2_readsFigures_3 15 rfl rfl)
abbrev cX2_ofTooth : ByteArray := prog_8_method_17_code
def yX2_ofTooth : MethodName := ⟨RX2, "ofTooth", "(II)I"⟩
def dkwX2_ofTooth_4 : List UInt8 := [172, 16, 254, 172]
abbrev dktX2_ofTooth_4 : List UInt8 := dkwX2_ofTooth_4 ++ []
def dkwX2_ofTooth_3 : List UInt8 := [180, 0, 19, 27, 46, 172, 42, 180, 0, 22, 27, 46, 172, 42, 27, 182, 0, 148, 172, 42, 27, 182, 0, 154]
abbrev dktX2_ofTooth_3 : List UInt8 := dkwX2_ofTooth_3 ++ dktX2_ofTooth_4
def dkwX2_ofTooth_2 : List UInt8 := [42, 180, 0, 7, 27, 46, 172, 42, 180, 0, 13, 27, 46, 172, 42, 180, 0, 16, 27, 46, 172, 42]
abbrev dktX2_ofTooth_2 : List UInt8 := dkwX2_ofTooth_2 ++ dktX2_ofTooth_3
def dkwX2_ofTooth_1 : List UInt8 := [170, 0, 0, 0, 88, 0, 0, 0, 0, 0, 0, 0, 6, 0, 0, 0, 41, 0, 0, 0, 48, 0, 0, 0, 55, 0, 0, 0, 62, 0, 0, 0, 69, 0, 0, 0, 76, 0, 0, 0, 82]
abbrev dktX2_ofTooth_1 : List UInt8 := dkwX2_ofTooth_1 ++ dktX2_ofTooth_2
def dkwX2_ofTooth_0 : List UInt8 := [42, 27, 182, 0, 151, 153, 0, 5, 2, 172, 28]
abbrev dktX2_ofTooth_0 : List UInt8 := dkwX2_ofTooth_0 ++ dktX2_ofTooth_1
theorem dksX2_ofTooth_0 : cX2_ofTooth.data.toList.drop 0 = dktX2_ofTooth_0 := by decide +kernel
theorem dksX2_ofTooth_1 : cX2_ofTooth.data.toList.drop 11 = dktX2_ofTooth_1 := dk_seg dksX2_ofTooth_0 11 rfl rfl
theorem dksX2_ofTooth_2 : cX2_ofTooth.data.toList.drop 52 = dktX2_ofTooth_2 := dk_seg dksX2_ofTooth_1 41 rfl rfl
theorem dksX2_ofTooth_3 : cX2_ofTooth.data.toList.drop 74 = dktX2_ofTooth_3 := dk_seg dksX2_ofTooth_2 22 rfl rfl
theorem dksX2_ofTooth_4 : cX2_ofTooth.data.toList.drop 98 = dktX2_ofTooth_4 := dk_seg dksX2_ofTooth_3 24 rfl rfl
theorem dX2_ofTooth_0 : decode cX2_ofTooth 0 = .ok (.aload_n 0, 1) := dk_42 (dk_at dksX2_ofTooth_0 0 rfl rfl)
theorem dX2_ofTooth_1 : decode cX2_ofTooth 1 = .ok (.iload_n 1, 1) := dk_27 (dk_at dksX2_ofTooth_0 1 rfl rfl)
theorem dX2_ofTooth_2 : decode cX2_ofTooth 2 = .ok (.invokevirtual 151, 3) := dk_182 0 151 (dk_at dksX2_ofTooth_0 2 rfl rfl)
theorem dX2_ofTooth_5 : decode cX2_ofTooth 5 = .ok (.ifCond .eq 5, 3) := dk_153 0 5 (dk_at dksX2_ofTooth_0 5 rfl rfl)
theorem dX2_ofTooth_8 : decode cX2_ofTooth 8 = .ok (.iconst (-1), 1) := dk_2 (dk_at dksX2_ofTooth_0 8 rfl rfl)
theorem dX2_ofTooth_9 : decode cX2_ofTooth 9 = .ok (.ireturn, 1) := dk_172 (dk_at dksX2_ofTooth_0 9 rfl rfl)
theorem dX2_ofTooth_10 : decode cX2_ofTooth 10 = .ok (.iload_n 2, 1) := dk_28 (dk_at dksX2_ofTooth_0 10 rfl rfl)
theorem dX2_ofTooth_11 : decode cX2_ofTooth 11 = .ok (.tableswitch 88 0 6 #[41, 48, 55, 62, 69, 76, 82], 41) := by decide +kernel
theorem dX2_ofTooth_52 : decode cX2_ofTooth 52 = .ok (.aload_n 0, 1) := dk_42 (dk_at dksX2_ofTooth_2 0 rfl rfl)
theorem dX2_ofTooth_53 : decode cX2_ofTooth 53 = .ok (.getfield 7, 3) := dk_180 0 7 (dk_at dksX2_ofTooth_2 1 rfl rfl)
theorem dX2_ofTooth_56 : decode cX2_ofTooth 56 = .ok (.iload_n 1, 1) := dk_27 (dk_at dksX2_ofTooth_2 4 rfl rfl)
theorem dX2_ofTooth_57 : decode cX2_ofTooth 57 = .ok (.iaload, 1) := dk_46 (dk_at dksX2_ofTooth_2 5 rfl rfl)
theorem dX2_ofTooth_58 : decode cX2_ofTooth 58 = .ok (.ireturn, 1) := dk_172 (dk_at dksX2_ofTooth_2 6 rfl rfl)
theorem dX2_ofTooth_59 : decode cX2_ofTooth 59 = .ok (.aload_n 0, 1) := dk_42 (dk_at dksX2_ofTooth_2 7 rfl rfl)
theorem dX2_ofTooth_60 : decode cX2_ofTooth 60 = .ok (.getfield 13, 3) := dk_180 0 13 (dk_at dksX2_ofTooth_2 8 rfl rfl)
theorem dX2_ofTooth_63 : decode cX2_ofTooth 63 = .ok (.iload_n 1, 1) := dk_27 (dk_at dksX2_ofTooth_2 11 rfl rfl)
theorem dX2_ofTooth_64 : decode cX2_ofTooth 64 = .ok (.iaload, 1) := dk_46 (dk_at dksX2_ofTooth_2 12 rfl rfl)
theorem dX2_ofTooth_65 : decode cX2_ofTooth 65 = .ok (.ireturn, 1) := dk_172 (dk_at dksX2_ofTooth_2 13 rfl rfl)
theorem dX2_ofTooth_66 : decode cX2_ofTooth 66 = .ok (.aload_n 0, 1) := dk_42 (dk_at dksX2_ofTooth_2 14 rfl rfl)
theorem dX2_ofTooth_67 : decode cX2_ofTooth 67 = .ok (.getfield 16, 3) := dk_180 0 16 (dk_at dksX2_ofTooth_2 15 rfl rfl)
theorem dX2_ofTooth_70 : decode cX2_ofTooth 70 = .ok (.iload_n 1, 1) := dk_27 (dk_at dksX2_ofTooth_2 18 rfl rfl)
theorem dX2_ofTooth_71 : decode cX2_ofTooth 71 = .ok (.iaload, 1) := dk_46 (dk_at dksX2_ofTooth_2 19 rfl rfl)
theorem dX2_ofTooth_72 : decode cX2_ofTooth 72 = .ok (.ireturn, 1) := dk_172 (dk_at dksX2_ofTooth_2 20 rfl rfl)
theorem dX2_ofTooth_73 : decode cX2_ofTooth 73 = .ok (.aload_n 0, 1) := dk_42 (dk_at dksX2_ofTooth_2 21 rfl rfl)
theorem dX2_ofTooth_74 : decode cX2_ofTooth 74 = .ok (.getfield 19, 3) := dk_180 0 19 (dk_at dksX2_ofTooth_3 0 rfl rfl)
theorem dX2_ofTooth_77 : decode cX2_ofTooth 77 = .ok (.iload_n 1, 1) := dk_27 (dk_at dksX2_ofTooth_3 3 rfl rfl)
theorem dX2_ofTooth_78 : decode cX2_ofTooth 78 = .ok (.iaload, 1) := dk_46 (dk_at dksX2_ofTooth_3 4 rfl rfl)
theorem dX2_ofTooth_79 : decode cX2_ofTooth 79 = .ok (.ireturn, 1) := dk_172 (dk_at dksX2_ofTooth_3 5 rfl rfl)
theorem dX2_ofTooth_80 : decode cX2_ofTooth 80 = .ok (.aload_n 0, 1) := dk_42 (dk_at dksX2_ofTooth_3 6 rfl rfl)
theorem dX2_ofTooth_81 : decode cX2_ofTooth 81 = .ok (.getfield 22, 3) := dk_180 0 22 (dk_at dksX2_ofTooth_3 7 rfl rfl)
theorem dX2_ofTooth_84 : decode cX2_ofTooth 84 = .ok (.iload_n 1, 1) := dk_27 (dk_at dksX2_ofTooth_3 10 rfl rfl)
theorem dX2_ofTooth_85 : decode cX2_ofTooth 85 = .ok (.iaload, 1) := dk_46 (dk_at dksX2_ofTooth_3 11 rfl rfl)
theorem dX2_ofTooth_86 : decode cX2_ofTooth 86 = .ok (.ireturn, 1) := dk_172 (dk_at dksX2_ofTooth_3 12 rfl rfl)
theorem dX2_ofTooth_87 : decode cX2_ofTooth 87 = .ok (.aload_n 0, 1) := dk_42 (dk_at dksX2_ofTooth_3 13 rfl rfl)
theorem dX2_ofTooth_88 : decode cX2_ofTooth 88 = .ok (.iload_n 1, 1) := dk_27 (dk_at dksX2_ofTooth_3 14 rfl rfl)
theorem dX2_ofTooth_89 : decode cX2_ofTooth 89 = .ok (.invokevirtual 148, 3) := dk_182 0 148 (dk_at dksX2_ofTooth_3 15 rfl rfl)
theorem dX2_ofTooth_92 : decode cX2_ofTooth 92 = .ok (.ireturn, 1) := dk_172 (dk_at dksX2_ofTooth_3 18 rfl rfl)
theorem dX2_ofTooth_93 : decode cX2_ofTooth 93 = .ok (.aload_n 0, 1) := dk_42 (dk_at dksX2_ofTooth_3 19 rfl rfl)
theorem dX2_ofTooth_94 : decode cX2_ofTooth 94 = .ok (.iload_n 1, 1) := dk_27 (dk_at dksX2_ofTooth_3 20 rfl rfl)
theorem dX2_ofTooth_95 : decode cX2_ofTooth 95 = .ok (.invokevirtual 154, 3) := dk_182 0 154 (dk_at dksX2_ofTooth_3 21 rfl rfl)
theorem dX2_ofTooth_98 : decode cX2_ofTooth 98 = .ok (.ireturn, 1) := dk_172 (dk_at dksX2_ofTooth_4 0 rfl rfl)
theorem dX2_ofTooth_99 : decode cX2_ofTooth 99 = .ok (.bipush (-2), 2) := dk_16 254 (dk_at dksX2_ofTooth_4 1 rfl rfl)
theorem dX2_ofTooth_101 : decode cX2_ofTooth 101 = .ok (.ireturn, 1) := dk_172 (dk_at dksX2_ofTooth_4 3 rfl rfl)
abbrev cX2_noTooth : ByteArray := prog_8_method_10_code
def yX2_noTooth : MethodName := ⟨RX2, "noTooth", "(I)Z"⟩
def dkwX2_noTooth_0 : List UInt8 := [27, 133, 9, 42, 180, 0, 116, 133, 10, 101, 184, 0, 105, 154, 0, 7, 4, 167, 0, 4, 3, 172]
abbrev dktX2_noTooth_0 : List UInt8 := dkwX2_noTooth_0 ++ []
theorem dksX2_noTooth_0 : cX2_noTooth.data.toList.drop 0 = dktX2_noTooth_0 := by decide +kernel
theorem dX2_noTooth_0 : decode cX2_noTooth 0 = .ok (.iload_n 1, 1) := dk_27 (dk_at dksX2_noTooth_0 0 rfl rfl)
theorem dX2_noTooth_1 : decode cX2_noTooth 1 = .ok (.i2l, 1) := dk_133 (dk_at dksX2_noTooth_0 1 rfl rfl)
theorem dX2_noTooth_2 : decode cX2_noTooth 2 = .ok (.lconst 0, 1) := dk_9 (dk_at dksX2_noTooth_0 2 rfl rfl)
theorem dX2_noTooth_3 : decode cX2_noTooth 3 = .ok (.aload_n 0, 1) := dk_42 (dk_at dksX2_noTooth_0 3 rfl rfl)
theorem dX2_noTooth_4 : decode cX2_noTooth 4 = .ok (.getfield 116, 3) := dk_180 0 116 (dk_at dksX2_noTooth_0 4 rfl rfl)
theorem dX2_noTooth_7 : decode cX2_noTooth 7 = .ok (.i2l, 1) := dk_133 (dk_at dksX2_noTooth_0 7 rfl rfl)
theorem dX2_noTooth_8 : decode cX2_noTooth 8 = .ok (.lconst 1, 1) := dk_10 (dk_at dksX2_noTooth_0 8 rfl rfl)
theorem dX2_noTooth_9 : decode cX2_noTooth 9 = .ok (.lsub, 1) := dk_101 (dk_at dksX2_noTooth_0 9 rfl rfl)
theorem dX2_noTooth_10 : decode cX2_noTooth 10 = .ok (.invokestatic 105, 3) := dk_184 0 105 (dk_at dksX2_noTooth_0 10 rfl rfl)
theorem dX2_noTooth_13 : decode cX2_noTooth 13 = .ok (.ifCond .ne 7, 3) := dk_154 0 7 (dk_at dksX2_noTooth_0 13 rfl rfl)
theorem dX2_noTooth_16 : decode cX2_noTooth 16 = .ok (.iconst 1, 1) := dk_4 (dk_at dksX2_noTooth_0 16 rfl rfl)
theorem dX2_noTooth_17 : decode cX2_noTooth 17 = .ok (.goto 4, 3) := dk_167 0 4 (dk_at dksX2_noTooth_0 17 rfl rfl)
theorem dX2_noTooth_20 : decode cX2_noTooth 20 = .ok (.iconst 0, 1) := dk_3 (dk_at dksX2_noTooth_0 20 rfl rfl)
theorem dX2_noTooth_21 : decode cX2_noTooth 21 = .ok (.ireturn, 1) := dk_172 (dk_at dksX2_noTooth_0 21 rfl rfl)
abbrev cX2_takesOf : ByteArray := prog_8_method_15_code
def yX2_takesOf : MethodName := ⟨RX2, "takesOf", "(I)I"⟩
def dkwX2_takesOf_1 : List UInt8 := [5, 160, 0, 9, 28, 5, 96, 167, 0, 4, 28, 172]
abbrev dktX2_takesOf_1 : List UInt8 := dkwX2_takesOf_1 ++ []
def dkwX2_takesOf_0 : List UInt8 := [42, 180, 0, 19, 27, 46, 42, 180, 0, 22, 27, 46, 104, 61, 28, 158, 0, 19, 42, 180, 0, 7, 27, 46]
abbrev dktX2_takesOf_0 : List UInt8 := dkwX2_takesOf_0 ++ dktX2_takesOf_1
theorem dksX2_takesOf_0 : cX2_takesOf.data.toList.drop 0 = dktX2_takesOf_0 := by decide +kernel
theorem dksX2_takesOf_1 : cX2_takesOf.data.toList.drop 24 = dktX2_takesOf_1 := dk_seg dksX2_takesOf_0 24 rfl rfl
theorem dX2_takesOf_0 : decode cX2_takesOf 0 = .ok (.aload_n 0, 1) := dk_42 (dk_at dksX2_takesOf_0 0 rfl rfl)
theorem dX2_takesOf_1 : decode cX2_takesOf 1 = .ok (.getfield 19, 3) := dk_180 0 19 (dk_at dksX2_takesOf_0 1 rfl rfl)
theorem dX2_takesOf_4 : decode cX2_takesOf 4 = .ok (.iload_n 1, 1) := dk_27 (dk_at dksX2_takesOf_0 4 rfl rfl)
theorem dX2_takesOf_5 : decode cX2_takesOf 5 = .ok (.iaload, 1) := dk_46 (dk_at dksX2_takesOf_0 5 rfl rfl)
theorem dX2_takesOf_6 : decode cX2_takesOf 6 = .ok (.aload_n 0, 1) := dk_42 (dk_at dksX2_takesOf_0 6 rfl rfl)
theorem dX2_takesOf_7 : decode cX2_takesOf 7 = .ok (.getfield 22, 3) := dk_180 0 22 (dk_at dksX2_takesOf_0 7 rfl rfl)
theorem dX2_takesOf_10 : decode cX2_takesOf 10 = .ok (.iload_n 1, 1) := dk_27 (dk_at dksX2_takesOf_0 10 rfl rfl)
theorem dX2_takesOf_11 : decode cX2_takesOf 11 = .ok (.iaload, 1) := dk_46 (dk_at dksX2_takesOf_0 11 rfl rfl)
theorem dX2_takesOf_12 : decode cX2_takesOf 12 = .ok (.imul, 1) := dk_104 (dk_at dksX2_takesOf_0 12 rfl rfl)
theorem dX2_takesOf_13 : decode cX2_takesOf 13 = .ok (.istore_n 2, 1) := dk_61 (dk_at dksX2_takesOf_0 13 rfl rfl)
theorem dX2_takesOf_14 : decode cX2_takesOf 14 = .ok (.iload_n 2, 1) := dk_28 (dk_at dksX2_takesOf_0 14 rfl rfl)
theorem dX2_takesOf_15 : decode cX2_takesOf 15 = .ok (.ifCond .le 19, 3) := dk_158 0 19 (dk_at dksX2_takesOf_0 15 rfl rfl)
theorem dX2_takesOf_18 : decode cX2_takesOf 18 = .ok (.aload_n 0, 1) := dk_42 (dk_at dksX2_takesOf_0 18 rfl rfl)
theorem dX2_takesOf_19 : decode cX2_takesOf 19 = .ok (.getfield 7, 3) := dk_180 0 7 (dk_at dksX2_takesOf_0 19 rfl rfl)
theorem dX2_takesOf_22 : decode cX2_takesOf 22 = .ok (.iload_n 1, 1) := dk_27 (dk_at dksX2_takesOf_0 22 rfl rfl)
theorem dX2_takesOf_23 : decode cX2_takesOf 23 = .ok (.iaload, 1) := dk_46 (dk_at dksX2_takesOf_0 23 rfl rfl)
theorem dX2_takesOf_24 : decode cX2_takesOf 24 = .ok (.iconst 2, 1) := dk_5 (dk_at dksX2_takesOf_1 0 rfl rfl)
theorem dX2_takesOf_25 : decode cX2_takesOf 25 = .ok (.if_icmp .ne 9, 3) := dk_160 0 9 (dk_at dksX2_takesOf_1 1 rfl rfl)
theorem dX2_takesOf_28 : decode cX2_takesOf 28 = .ok (.iload_n 2, 1) := dk_28 (dk_at dksX2_takesOf_1 4 rfl rfl)
theorem dX2_takesOf_29 : decode cX2_takesOf 29 = .ok (.iconst 2, 1) := dk_5 (dk_at dksX2_takesOf_1 5 rfl rfl)
theorem dX2_takesOf_30 : decode cX2_takesOf 30 = .ok (.iadd, 1) := dk_96 (dk_at dksX2_takesOf_1 6 rfl rfl)
theorem dX2_takesOf_31 : decode cX2_takesOf 31 = .ok (.goto 4, 3) := dk_167 0 4 (dk_at dksX2_takesOf_1 7 rfl rfl)
theorem dX2_takesOf_34 : decode cX2_takesOf 34 = .ok (.iload_n 2, 1) := dk_28 (dk_at dksX2_takesOf_1 10 rfl rfl)
theorem dX2_takesOf_35 : decode cX2_takesOf 35 = .ok (.ireturn, 1) := dk_172 (dk_at dksX2_takesOf_1 11 rfl rfl)
abbrev cX2_pushOf : ByteArray := prog_8_method_16_code
def yX2_pushOf : MethodName := ⟨RX2, "pushOf", "(I)I"⟩
def dkwX2_pushOf_0 : List UInt8 := [42, 27, 182, 0, 148, 42, 180, 0, 16, 27, 46, 104, 42, 180, 0, 13, 27, 46, 104, 172]
abbrev dktX2_pushOf_0 : List UInt8 := dkwX2_pushOf_0 ++ []
theorem dksX2_pushOf_0 : cX2_pushOf.data.toList.drop 0 = dktX2_pushOf_0 := by decide +kernel
theorem dX2_pushOf_0 : decode cX2_pushOf 0 = .ok (.aload_n 0, 1) := dk_42 (dk_at dksX2_pushOf_0 0 rfl rfl)
theorem dX2_pushOf_1 : decode cX2_pushOf 1 = .ok (.iload_n 1, 1) := dk_27 (dk_at dksX2_pushOf_0 1 rfl rfl)
theorem dX2_pushOf_2 : decode cX2_pushOf 2 = .ok (.invokevirtual 148, 3) := dk_182 0 148 (dk_at dksX2_pushOf_0 2 rfl rfl)
theorem dX2_pushOf_5 : decode cX2_pushOf 5 = .ok (.aload_n 0, 1) := dk_42 (dk_at dksX2_pushOf_0 5 rfl rfl)
theorem dX2_pushOf_6 : decode cX2_pushOf 6 = .ok (.getfield 16, 3) := dk_180 0 16 (dk_at dksX2_pushOf_0 6 rfl rfl)
theorem dX2_pushOf_9 : decode cX2_pushOf 9 = .ok (.iload_n 1, 1) := dk_27 (dk_at dksX2_pushOf_0 9 rfl rfl)
theorem dX2_pushOf_10 : decode cX2_pushOf 10 = .ok (.iaload, 1) := dk_46 (dk_at dksX2_pushOf_0 10 rfl rfl)
theorem dX2_pushOf_11 : decode cX2_pushOf 11 = .ok (.imul, 1) := dk_104 (dk_at dksX2_pushOf_0 11 rfl rfl)
theorem dX2_pushOf_12 : decode cX2_pushOf 12 = .ok (.aload_n 0, 1) := dk_42 (dk_at dksX2_pushOf_0 12 rfl rfl)
theorem dX2_pushOf_13 : decode cX2_pushOf 13 = .ok (.getfield 13, 3) := dk_180 0 13 (dk_at dksX2_pushOf_0 13 rfl rfl)
theorem dX2_pushOf_16 : decode cX2_pushOf 16 = .ok (.iload_n 1, 1) := dk_27 (dk_at dksX2_pushOf_0 16 rfl rfl)
theorem dX2_pushOf_17 : decode cX2_pushOf 17 = .ok (.iaload, 1) := dk_46 (dk_at dksX2_pushOf_0 17 rfl rfl)
theorem dX2_pushOf_18 : decode cX2_pushOf 18 = .ok (.imul, 1) := dk_104 (dk_at dksX2_pushOf_0 18 rfl rfl)
theorem dX2_pushOf_19 : decode cX2_pushOf 19 = .ok (.ireturn, 1) := dk_172 (dk_at dksX2_pushOf_0 19 rfl rfl)
abbrev cX2_set : ByteArray := prog_8_method_19_code
def yX2_set : MethodName := ⟨RX2, "set", "(III)I"⟩
def dkwX2_set_1 : List UInt8 := [9, 20, 0, 122, 184, 0, 105, 153, 0, 13, 42, 27, 28, 29, 182, 0, 157, 167, 0, 5, 16, 254, 172]
abbrev dktX2_set_1 : List UInt8 := dkwX2_set_1 ++ []
def dkwX2_set_0 : List UInt8 := [42, 27, 182, 0, 151, 153, 0, 5, 2, 172, 28, 133, 9, 20, 0, 103, 184, 0, 105, 153, 0, 25, 29, 133]
abbrev dktX2_set_0 : List UInt8 := dkwX2_set_0 ++ dktX2_set_1
theorem dksX2_set_0 : cX2_set.data.toList.drop 0 = dktX2_set_0 := by decide +kernel
theorem dksX2_set_1 : cX2_set.data.toList.drop 24 = dktX2_set_1 := dk_seg dksX2_set_0 24 rfl rfl
theorem dX2_set_0 : decode cX2_set 0 = .ok (.aload_n 0, 1) := dk_42 (dk_at dksX2_set_0 0 rfl rfl)
theorem dX2_set_1 : decode cX2_set 1 = .ok (.iload_n 1, 1) := dk_27 (dk_at dksX2_set_0 1 rfl rfl)
theorem dX2_set_2 : decode cX2_set 2 = .ok (.invokevirtual 151, 3) := dk_182 0 151 (dk_at dksX2_set_0 2 rfl rfl)
theorem dX2_set_5 : decode cX2_set 5 = .ok (.ifCond .eq 5, 3) := dk_153 0 5 (dk_at dksX2_set_0 5 rfl rfl)
theorem dX2_set_8 : decode cX2_set 8 = .ok (.iconst (-1), 1) := dk_2 (dk_at dksX2_set_0 8 rfl rfl)
theorem dX2_set_9 : decode cX2_set 9 = .ok (.ireturn, 1) := dk_172 (dk_at dksX2_set_0 9 rfl rfl)
theorem dX2_set_10 : decode cX2_set 10 = .ok (.iload_n 2, 1) := dk_28 (dk_at dksX2_set_0 10 rfl rfl)
theorem dX2_set_11 : decode cX2_set 11 = .ok (.i2l, 1) := dk_133 (dk_at dksX2_set_0 11 rfl rfl)
theorem dX2_set_12 : decode cX2_set 12 = .ok (.lconst 0, 1) := dk_9 (dk_at dksX2_set_0 12 rfl rfl)
theorem dX2_set_13 : decode cX2_set 13 = .ok (.ldc2_w 103, 3) := dk_20 0 103 (dk_at dksX2_set_0 13 rfl rfl)
theorem dX2_set_16 : decode cX2_set 16 = .ok (.invokestatic 105, 3) := dk_184 0 105 (dk_at dksX2_set_0 16 rfl rfl)
theorem dX2_set_19 : decode cX2_set 19 = .ok (.ifCond .eq 25, 3) := dk_153 0 25 (dk_at dksX2_set_0 19 rfl rfl)
theorem dX2_set_22 : decode cX2_set 22 = .ok (.iload_n 3, 1) := dk_29 (dk_at dksX2_set_0 22 rfl rfl)
theorem dX2_set_23 : decode cX2_set 23 = .ok (.i2l, 1) := dk_133 (dk_at dksX2_set_0 23 rfl rfl)
theorem dX2_set_24 : decode cX2_set 24 = .ok (.lconst 0, 1) := dk_9 (dk_at dksX2_set_1 0 rfl rfl)
theorem dX2_set_25 : decode cX2_set 25 = .ok (.ldc2_w 122, 3) := dk_20 0 122 (dk_at dksX2_set_1 1 rfl rfl)
theorem dX2_set_28 : decode cX2_set 28 = .ok (.invokestatic 105, 3) := dk_184 0 105 (dk_at dksX2_set_1 4 rfl rfl)
theorem dX2_set_31 : decode cX2_set 31 = .ok (.ifCond .eq 13, 3) := dk_153 0 13 (dk_at dksX2_set_1 7 rfl rfl)
theorem dX2_set_34 : decode cX2_set 34 = .ok (.aload_n 0, 1) := dk_42 (dk_at dksX2_set_1 10 rfl rfl)
theorem dX2_set_35 : decode cX2_set 35 = .ok (.iload_n 1, 1) := dk_27 (dk_at dksX2_set_1 11 rfl rfl)
theorem dX2_set_36 : decode cX2_set 36 = .ok (.iload_n 2, 1) := dk_28 (dk_at dksX2_set_1 12 rfl rfl)
theorem dX2_set_37 : decode cX2_set 37 = .ok (.iload_n 3, 1) := dk_29 (dk_at dksX2_set_1 13 rfl rfl)
theorem dX2_set_38 : decode cX2_set 38 = .ok (.invokevirtual 157, 3) := dk_182 0 157 (dk_at dksX2_set_1 14 rfl rfl)
theorem dX2_set_41 : decode cX2_set 41 = .ok (.goto 5, 3) := dk_167 0 5 (dk_at dksX2_set_1 17 rfl rfl)
theorem dX2_set_44 : decode cX2_set 44 = .ok (.bipush (-2), 2) := dk_16 254 (dk_at dksX2_set_1 20 rfl rfl)
theorem dX2_set_46 : decode cX2_set 46 = .ok (.ireturn, 1) := dk_172 (dk_at dksX2_set_1 22 rfl rfl)
abbrev cX2_change : ByteArray := prog_8_method_18_code
def yX2_change : MethodName := ⟨RX2, "change", "(III)I"⟩
def dkwX2_change_3 : List UInt8 := [79, 21, 4, 172]
abbrev dktX2_change_3 : List UInt8 := dkwX2_change_3 ++ []
def dkwX2_change_2 : List UInt8 := [167, 0, 25, 28, 4, 160, 0, 13, 42, 180, 0, 19, 27, 29, 79, 167, 0, 10, 42, 180, 0, 22, 27, 29]
abbrev dktX2_change_2 : List UInt8 := dkwX2_change_2 ++ dktX2_change_3
def dkwX2_change_1 : List UInt8 := [167, 0, 9, 42, 180, 0, 22, 27, 46, 54, 4, 28, 154, 0, 13, 42, 180, 0, 16, 27, 29, 79]
abbrev dktX2_change_1 : List UInt8 := dkwX2_change_1 ++ dktX2_change_2
def dkwX2_change_0 : List UInt8 := [28, 154, 0, 12, 42, 180, 0, 16, 27, 46, 167, 0, 23, 28, 4, 160, 0, 12, 42, 180, 0, 19, 27, 46]
abbrev dktX2_change_0 : List UInt8 := dkwX2_change_0 ++ dktX2_change_1
theorem dksX2_change_0 : cX2_change.data.toList.drop 0 = dktX2_change_0 := by decide +kernel
theorem dksX2_change_1 : cX2_change.data.toList.drop 24 = dktX2_change_1 := dk_seg dksX2_change_0 24 rfl rfl
theorem dksX2_change_2 : cX2_change.data.toList.drop 46 = dktX2_change_2 := dk_seg dksX2_change_1 22 rfl rfl
theorem dksX2_change_3 : cX2_change.data.toList.drop 70 = dktX2_change_3 := dk_seg dksX2_change_2 24 rfl rfl
theorem dX2_change_0 : decode cX2_change 0 = .ok (.iload_n 2, 1) := dk_28 (dk_at dksX2_change_0 0 rfl rfl)
theorem dX2_change_1 : decode cX2_change 1 = .ok (.ifCond .ne 12, 3) := dk_154 0 12 (dk_at dksX2_change_0 1 rfl rfl)
theorem dX2_change_4 : decode cX2_change 4 = .ok (.aload_n 0, 1) := dk_42 (dk_at dksX2_change_0 4 rfl rfl)
theorem dX2_change_5 : decode cX2_change 5 = .ok (.getfield 16, 3) := dk_180 0 16 (dk_at dksX2_change_0 5 rfl rfl)
theorem dX2_change_8 : decode cX2_change 8 = .ok (.iload_n 1, 1) := dk_27 (dk_at dksX2_change_0 8 rfl rfl)
theorem dX2_change_9 : decode cX2_change 9 = .ok (.iaload, 1) := dk_46 (dk_at dksX2_change_0 9 rfl rfl)
theorem dX2_change_10 : decode cX2_change 10 = .ok (.goto 23, 3) := dk_167 0 23 (dk_at dksX2_change_0 10 rfl rfl)
theorem dX2_change_13 : decode cX2_change 13 = .ok (.iload_n 2, 1) := dk_28 (dk_at dksX2_change_0 13 rfl rfl)
theorem dX2_change_14 : decode cX2_change 14 = .ok (.iconst 1, 1) := dk_4 (dk_at dksX2_change_0 14 rfl rfl)
theorem dX2_change_15 : decode cX2_change 15 = .ok (.if_icmp .ne 12, 3) := dk_160 0 12 (dk_at dksX2_change_0 15 rfl rfl)
theorem dX2_change_18 : decode cX2_change 18 = .ok (.aload_n 0, 1) := dk_42 (dk_at dksX2_change_0 18 rfl rfl)
theorem dX2_change_19 : decode cX2_change 19 = .ok (.getfield 19, 3) := dk_180 0 19 (dk_at dksX2_change_0 19 rfl rfl)
theorem dX2_change_22 : decode cX2_change 22 = .ok (.iload_n 1, 1) := dk_27 (dk_at dksX2_change_0 22 rfl rfl)
theorem dX2_change_23 : decode cX2_change 23 = .ok (.iaload, 1) := dk_46 (dk_at dksX2_change_0 23 rfl rfl)
theorem dX2_change_24 : decode cX2_change 24 = .ok (.goto 9, 3) := dk_167 0 9 (dk_at dksX2_change_1 0 rfl rfl)
theorem dX2_change_27 : decode cX2_change 27 = .ok (.aload_n 0, 1) := dk_42 (dk_at dksX2_change_1 3 rfl rfl)
theorem dX2_change_28 : decode cX2_change 28 = .ok (.getfield 22, 3) := dk_180 0 22 (dk_at dksX2_change_1 4 rfl rfl)
theorem dX2_change_31 : decode cX2_change 31 = .ok (.iload_n 1, 1) := dk_27 (dk_at dksX2_change_1 7 rfl rfl)
theorem dX2_change_32 : decode cX2_change 32 = .ok (.iaload, 1) := dk_46 (dk_at dksX2_change_1 8 rfl rfl)
theorem dX2_change_33 : decode cX2_change 33 = .ok (.istore 4, 2) := dk_54 4 (dk_at dksX2_change_1 9 rfl rfl)
theorem dX2_change_35 : decode cX2_change 35 = .ok (.iload_n 2, 1) := dk_28 (dk_at dksX2_change_1 11 rfl rfl)
theorem dX2_change_36 : decode cX2_change 36 = .ok (.ifCond .ne 13, 3) := dk_154 0 13 (dk_at dksX2_change_1 12 rfl rfl)
theorem dX2_change_39 : decode cX2_change 39 = .ok (.aload_n 0, 1) := dk_42 (dk_at dksX2_change_1 15 rfl rfl)
theorem dX2_change_40 : decode cX2_change 40 = .ok (.getfield 16, 3) := dk_180 0 16 (dk_at dksX2_change_1 16 rfl rfl)
theorem dX2_change_43 : decode cX2_change 43 = .ok (.iload_n 1, 1) := dk_27 (dk_at dksX2_change_1 19 rfl rfl)
theorem dX2_change_44 : decode cX2_change 44 = .ok (.iload_n 3, 1) := dk_29 (dk_at dksX2_change_1 20 rfl rfl)
theorem dX2_change_45 : decode cX2_change 45 = .ok (.iastore, 1) := dk_79 (dk_at dksX2_change_1 21 rfl rfl)
theorem dX2_change_46 : decode cX2_change 46 = .ok (.goto 25, 3) := dk_167 0 25 (dk_at dksX2_change_2 0 rfl rfl)
theorem dX2_change_49 : decode cX2_change 49 = .ok (.iload_n 2, 1) := dk_28 (dk_at dksX2_change_2 3 rfl rfl)
theorem dX2_change_50 : decode cX2_change 50 = .ok (.iconst 1, 1) := dk_4 (dk_at dksX2_change_2 4 rfl rfl)
theorem dX2_change_51 : decode cX2_change 51 = .ok (.if_icmp .ne 13, 3) := dk_160 0 13 (dk_at dksX2_change_2 5 rfl rfl)
theorem dX2_change_54 : decode cX2_change 54 = .ok (.aload_n 0, 1) := dk_42 (dk_at dksX2_change_2 8 rfl rfl)
theorem dX2_change_55 : decode cX2_change 55 = .ok (.getfield 19, 3) := dk_180 0 19 (dk_at dksX2_change_2 9 rfl rfl)
theorem dX2_change_58 : decode cX2_change 58 = .ok (.iload_n 1, 1) := dk_27 (dk_at dksX2_change_2 12 rfl rfl)
theorem dX2_change_59 : decode cX2_change 59 = .ok (.iload_n 3, 1) := dk_29 (dk_at dksX2_change_2 13 rfl rfl)
theorem dX2_change_60 : decode cX2_change 60 = .ok (.iastore, 1) := dk_79 (dk_at dksX2_change_2 14 rfl rfl)
theorem dX2_change_61 : decode cX2_change 61 = .ok (.goto 10, 3) := dk_167 0 10 (dk_at dksX2_change_2 15 rfl rfl)
theorem dX2_change_64 : decode cX2_change 64 = .ok (.aload_n 0, 1) := dk_42 (dk_at dksX2_change_2 18 rfl rfl)
theorem dX2_change_65 : decode cX2_change 65 = .ok (.getfield 22, 3) := dk_180 0 22 (dk_at dksX2_change_2 19 rfl rfl)
theorem dX2_change_68 : decode cX2_change 68 = .ok (.iload_n 1, 1) := dk_27 (dk_at dksX2_change_2 22 rfl rfl)
theorem dX2_change_69 : decode cX2_change 69 = .ok (.iload_n 3, 1) := dk_29 (dk_at dksX2_change_2 23 rfl rfl)
theorem dX2_change_70 : decode cX2_change 70 = .ok (.iastore, 1) := dk_79 (dk_at dksX2_change_3 0 rfl rfl)
theorem dX2_change_71 : decode cX2_change 71 = .ok (.iload 4, 2) := dk_21 4 (dk_at dksX2_change_3 1 rfl rfl)
theorem dX2_change_73 : decode cX2_change 73 = .ok (.ireturn, 1) := dk_172 (dk_at dksX2_change_3 3 rfl rfl)
abbrev cX2_ofSaw : ByteArray := prog_8_method_22_code
def yX2_ofSaw : MethodName := ⟨RX2, "ofSaw", "(I)I"⟩
def dkwX2_ofSaw_3 : List UInt8 := [167, 0, 4, 28, 172]
abbrev dktX2_ofSaw_3 : List UInt8 := dkwX2_ofSaw_3 ++ []
def dkwX2_ofSaw_2 : List UInt8 := [167, 255, 237, 27, 154, 0, 10, 42, 182, 0, 165, 167, 0, 16, 27, 4, 160, 0, 10, 42, 182, 0, 169]
abbrev dktX2_ofSaw_2 : List UInt8 := dkwX2_ofSaw_2 ++ dktX2_ofSaw_3
def dkwX2_ofSaw_1 : List UInt8 := [172, 3, 61, 3, 62, 29, 42, 180, 0, 116, 162, 0, 17, 28, 42, 29, 182, 0, 148, 96, 61, 132, 3, 1]
abbrev dktX2_ofSaw_1 : List UInt8 := dkwX2_ofSaw_1 ++ dktX2_ofSaw_2
def dkwX2_ofSaw_0 : List UInt8 := [27, 133, 9, 20, 0, 103, 184, 0, 105, 154, 0, 6, 16, 254, 172, 42, 180, 0, 116, 154, 0, 6, 16, 253]
abbrev dktX2_ofSaw_0 : List UInt8 := dkwX2_ofSaw_0 ++ dktX2_ofSaw_1
theorem dksX2_ofSaw_0 : cX2_ofSaw.data.toList.drop 0 = dktX2_ofSaw_0 := by decide +kernel
theorem dksX2_ofSaw_1 : cX2_ofSaw.data.toList.drop 24 = dktX2_ofSaw_1 := dk_seg dksX2_ofSaw_0 24 rfl rfl
theorem dksX2_ofSaw_2 : cX2_ofSaw.data.toList.drop 48 = dktX2_ofSaw_2 := dk_seg dksX2_ofSaw_1 24 rfl rfl
theorem dksX2_ofSaw_3 : cX2_ofSaw.data.toList.drop 71 = dktX2_ofSaw_3 := dk_seg dksX2_ofSaw_2 23 rfl rfl
theorem dX2_ofSaw_0 : decode cX2_ofSaw 0 = .ok (.iload_n 1, 1) := dk_27 (dk_at dksX2_ofSaw_0 0 rfl rfl)
theorem dX2_ofSaw_1 : decode cX2_ofSaw 1 = .ok (.i2l, 1) := dk_133 (dk_at dksX2_ofSaw_0 1 rfl rfl)
theorem dX2_ofSaw_2 : decode cX2_ofSaw 2 = .ok (.lconst 0, 1) := dk_9 (dk_at dksX2_ofSaw_0 2 rfl rfl)
theorem dX2_ofSaw_3 : decode cX2_ofSaw 3 = .ok (.ldc2_w 103, 3) := dk_20 0 103 (dk_at dksX2_ofSaw_0 3 rfl rfl)
theorem dX2_ofSaw_6 : decode cX2_ofSaw 6 = .ok (.invokestatic 105, 3) := dk_184 0 105 (dk_at dksX2_ofSaw_0 6 rfl rfl)
theorem dX2_ofSaw_9 : decode cX2_ofSaw 9 = .ok (.ifCond .ne 6, 3) := dk_154 0 6 (dk_at dksX2_ofSaw_0 9 rfl rfl)
theorem dX2_ofSaw_12 : decode cX2_ofSaw 12 = .ok (.bipush (-2), 2) := dk_16 254 (dk_at dksX2_ofSaw_0 12 rfl rfl)
theorem dX2_ofSaw_14 : decode cX2_ofSaw 14 = .ok (.ireturn, 1) := dk_172 (dk_at dksX2_ofSaw_0 14 rfl rfl)
theorem dX2_ofSaw_15 : decode cX2_ofSaw 15 = .ok (.aload_n 0, 1) := dk_42 (dk_at dksX2_ofSaw_0 15 rfl rfl)
theorem dX2_ofSaw_16 : decode cX2_ofSaw 16 = .ok (.getfield 116, 3) := dk_180 0 116 (dk_at dksX2_ofSaw_0 16 rfl rfl)
theorem dX2_ofSaw_19 : decode cX2_ofSaw 19 = .ok (.ifCond .ne 6, 3) := dk_154 0 6 (dk_at dksX2_ofSaw_0 19 rfl rfl)
theorem dX2_ofSaw_22 : decode cX2_ofSaw 22 = .ok (.bipush (-3), 2) := dk_16 253 (dk_at dksX2_ofSaw_0 22 rfl rfl)
theorem dX2_ofSaw_24 : decode cX2_ofSaw 24 = .ok (.ireturn, 1) := dk_172 (dk_at dksX2_ofSaw_1 0 rfl rfl)
theorem dX2_ofSaw_25 : decode cX2_ofSaw 25 = .ok (.iconst 0, 1) := dk_3 (dk_at dksX2_ofSaw_1 1 rfl rfl)
theorem dX2_ofSaw_26 : decode cX2_ofSaw 26 = .ok (.istore_n 2, 1) := dk_61 (dk_at dksX2_ofSaw_1 2 rfl rfl)
theorem dX2_ofSaw_27 : decode cX2_ofSaw 27 = .ok (.iconst 0, 1) := dk_3 (dk_at dksX2_ofSaw_1 3 rfl rfl)
theorem dX2_ofSaw_28 : decode cX2_ofSaw 28 = .ok (.istore_n 3, 1) := dk_62 (dk_at dksX2_ofSaw_1 4 rfl rfl)
theorem dX2_ofSaw_29 : decode cX2_ofSaw 29 = .ok (.iload_n 3, 1) := dk_29 (dk_at dksX2_ofSaw_1 5 rfl rfl)
theorem dX2_ofSaw_30 : decode cX2_ofSaw 30 = .ok (.aload_n 0, 1) := dk_42 (dk_at dksX2_ofSaw_1 6 rfl rfl)
theorem dX2_ofSaw_31 : decode cX2_ofSaw 31 = .ok (.getfield 116, 3) := dk_180 0 116 (dk_at dksX2_ofSaw_1 7 rfl rfl)
theorem dX2_ofSaw_34 : decode cX2_ofSaw 34 = .ok (.if_icmp .ge 17, 3) := dk_162 0 17 (dk_at dksX2_ofSaw_1 10 rfl rfl)
theorem dX2_ofSaw_37 : decode cX2_ofSaw 37 = .ok (.iload_n 2, 1) := dk_28 (dk_at dksX2_ofSaw_1 13 rfl rfl)
theorem dX2_ofSaw_38 : decode cX2_ofSaw 38 = .ok (.aload_n 0, 1) := dk_42 (dk_at dksX2_ofSaw_1 14 rfl rfl)
theorem dX2_ofSaw_39 : decode cX2_ofSaw 39 = .ok (.iload_n 3, 1) := dk_29 (dk_at dksX2_ofSaw_1 15 rfl rfl)
theorem dX2_ofSaw_40 : decode cX2_ofSaw 40 = .ok (.invokevirtual 148, 3) := dk_182 0 148 (dk_at dksX2_ofSaw_1 16 rfl rfl)
theorem dX2_ofSaw_43 : decode cX2_ofSaw 43 = .ok (.iadd, 1) := dk_96 (dk_at dksX2_ofSaw_1 19 rfl rfl)
theorem dX2_ofSaw_44 : decode cX2_ofSaw 44 = .ok (.istore_n 2, 1) := dk_61 (dk_at dksX2_ofSaw_1 20 rfl rfl)
theorem dX2_ofSaw_45 : decode cX2_ofSaw 45 = .ok (.iinc 3 1, 3) := dk_132 3 1 (dk_at dksX2_ofSaw_1 21 rfl rfl)
theorem dX2_ofSaw_48 : decode cX2_ofSaw 48 = .ok (.goto (-19), 3) := dk_167 255 237 (dk_at dksX2_ofSaw_2 0 rfl rfl)
theorem dX2_ofSaw_51 : decode cX2_ofSaw 51 = .ok (.iload_n 1, 1) := dk_27 (dk_at dksX2_ofSaw_2 3 rfl rfl)
theorem dX2_ofSaw_52 : decode cX2_ofSaw 52 = .ok (.ifCond .ne 10, 3) := dk_154 0 10 (dk_at dksX2_ofSaw_2 4 rfl rfl)
theorem dX2_ofSaw_55 : decode cX2_ofSaw 55 = .ok (.aload_n 0, 1) := dk_42 (dk_at dksX2_ofSaw_2 7 rfl rfl)
theorem dX2_ofSaw_56 : decode cX2_ofSaw 56 = .ok (.invokevirtual 165, 3) := dk_182 0 165 (dk_at dksX2_ofSaw_2 8 rfl rfl)
theorem dX2_ofSaw_59 : decode cX2_ofSaw 59 = .ok (.goto 16, 3) := dk_167 0 16 (dk_at dksX2_ofSaw_2 11 rfl rfl)
theorem dX2_ofSaw_62 : decode cX2_ofSaw 62 = .ok (.iload_n 1, 1) := dk_27 (dk_at dksX2_ofSaw_2 14 rfl rfl)
theorem dX2_ofSaw_63 : decode cX2_ofSaw 63 = .ok (.iconst 1, 1) := dk_4 (dk_at dksX2_ofSaw_2 15 rfl rfl)
theorem dX2_ofSaw_64 : decode cX2_ofSaw 64 = .ok (.if_icmp .ne 10, 3) := dk_160 0 10 (dk_at dksX2_ofSaw_2 16 rfl rfl)
theorem dX2_ofSaw_67 : decode cX2_ofSaw 67 = .ok (.aload_n 0, 1) := dk_42 (dk_at dksX2_ofSaw_2 19 rfl rfl)
theorem dX2_ofSaw_68 : decode cX2_ofSaw 68 = .ok (.invokevirtual 169, 3) := dk_182 0 169 (dk_at dksX2_ofSaw_2 20 rfl rfl)
theorem dX2_ofSaw_71 : decode cX2_ofSaw 71 = .ok (.goto 4, 3) := dk_167 0 4 (dk_at dksX2_ofSaw_3 0 rfl rfl)
theorem dX2_ofSaw_74 : decode cX2_ofSaw 74 = .ok (.iload_n 2, 1) := dk_28 (dk_at dksX2_ofSaw_3 3 rfl rfl)
theorem dX2_ofSaw_75 : decode cX2_ofSaw 75 = .ok (.ireturn, 1) := dk_172 (dk_at dksX2_ofSaw_3 4 rfl rfl)
abbrev cX2_pushNow : ByteArray := prog_8_method_20_code
def yX2_pushNow : MethodName := ⟨RX2, "pushNow", "()I"⟩
def dkwX2_pushNow_1 : List UInt8 := [167, 255, 237, 27, 172]
abbrev dktX2_pushNow_1 : List UInt8 := dkwX2_pushNow_1 ++ []
def dkwX2_pushNow_0 : List UInt8 := [3, 60, 3, 61, 28, 42, 180, 0, 116, 162, 0, 17, 27, 42, 28, 182, 0, 154, 96, 60, 132, 2, 1]
abbrev dktX2_pushNow_0 : List UInt8 := dkwX2_pushNow_0 ++ dktX2_pushNow_1
theorem dksX2_pushNow_0 : cX2_pushNow.data.toList.drop 0 = dktX2_pushNow_0 := by decide +kernel
theorem dksX2_pushNow_1 : cX2_pushNow.data.toList.drop 23 = dktX2_pushNow_1 := dk_seg dksX2_pushNow_0 23 rfl rfl
theorem dX2_pushNow_0 : decode cX2_pushNow 0 = .ok (.iconst 0, 1) := dk_3 (dk_at dksX2_pushNow_0 0 rfl rfl)
theorem dX2_pushNow_1 : decode cX2_pushNow 1 = .ok (.istore_n 1, 1) := dk_60 (dk_at dksX2_pushNow_0 1 rfl rfl)
theorem dX2_pushNow_2 : decode cX2_pushNow 2 = .ok (.iconst 0, 1) := dk_3 (dk_at dksX2_pushNow_0 2 rfl rfl)
theorem dX2_pushNow_3 : decode cX2_pushNow 3 = .ok (.istore_n 2, 1) := dk_61 (dk_at dksX2_pushNow_0 3 rfl rfl)
theorem dX2_pushNow_4 : decode cX2_pushNow 4 = .ok (.iload_n 2, 1) := dk_28 (dk_at dksX2_pushNow_0 4 rfl rfl)
theorem dX2_pushNow_5 : decode cX2_pushNow 5 = .ok (.aload_n 0, 1) := dk_42 (dk_at dksX2_pushNow_0 5 rfl rfl)
theorem dX2_pushNow_6 : decode cX2_pushNow 6 = .ok (.getfield 116, 3) := dk_180 0 116 (dk_at dksX2_pushNow_0 6 rfl rfl)
theorem dX2_pushNow_9 : decode cX2_pushNow 9 = .ok (.if_icmp .ge 17, 3) := dk_162 0 17 (dk_at dksX2_pushNow_0 9 rfl rfl)
theorem dX2_pushNow_12 : decode cX2_pushNow 12 = .ok (.iload_n 1, 1) := dk_27 (dk_at dksX2_pushNow_0 12 rfl rfl)
theorem dX2_pushNow_13 : decode cX2_pushNow 13 = .ok (.aload_n 0, 1) := dk_42 (dk_at dksX2_pushNow_0 13 rfl rfl)
theorem dX2_pushNow_14 : decode cX2_pushNow 14 = .ok (.iload_n 2, 1) := dk_28 (dk_at dksX2_pushNow_0 14 rfl rfl)
theorem dX2_pushNow_15 : decode cX2_pushNow 15 = .ok (.invokevirtual 154, 3) := dk_182 0 154 (dk_at dksX2_pushNow_0 15 rfl rfl)
theorem dX2_pushNow_18 : decode cX2_pushNow 18 = .ok (.iadd, 1) := dk_96 (dk_at dksX2_pushNow_0 18 rfl rfl)
theorem dX2_pushNow_19 : decode cX2_pushNow 19 = .ok (.istore_n 1, 1) := dk_60 (dk_at dksX2_pushNow_0 19 rfl rfl)
theorem dX2_pushNow_20 : decode cX2_pushNow 20 = .ok (.iinc 2 1, 3) := dk_132 2 1 (dk_at dksX2_pushNow_0 20 rfl rfl)
theorem dX2_pushNow_23 : decode cX2_pushNow 23 = .ok (.goto (-19), 3) := dk_167 255 237 (dk_at dksX2_pushNow_1 0 rfl rfl)
theorem dX2_pushNow_26 : decode cX2_pushNow 26 = .ok (.iload_n 1, 1) := dk_27 (dk_at dksX2_pushNow_1 3 rfl rfl)
theorem dX2_pushNow_27 : decode cX2_pushNow 27 = .ok (.ireturn, 1) := dk_172 (dk_at dksX2_pushNow_1 4 rfl rfl)
abbrev cX2_kerfNow : ByteArray := prog_8_method_21_code
def yX2_kerfNow : MethodName := ⟨RX2, "kerfNow", "()I"⟩
def dkwX2_kerfNow_4 : List UInt8 := [4, 27, 96, 28, 96, 172]
abbrev dktX2_kerfNow_4 : List UInt8 := dkwX2_kerfNow_4 ++ []
def dkwX2_kerfNow_3 : List UInt8 := [158, 0, 16, 28, 42, 180, 0, 16, 29, 46, 184, 0, 161, 167, 0, 4, 28, 61, 132, 3, 1, 167, 255, 172]
abbrev dktX2_kerfNow_3 : List UInt8 := dkwX2_kerfNow_3 ++ dktX2_kerfNow_4
def dkwX2_kerfNow_2 : List UInt8 := [180, 0, 16, 29, 46, 184, 0, 161, 167, 0, 4, 27, 60, 21, 4, 153, 0, 25, 42, 180, 0, 13, 29, 46]
abbrev dktX2_kerfNow_2 : List UInt8 := dkwX2_kerfNow_2 ++ dktX2_kerfNow_3
def dkwX2_kerfNow_1 : List UInt8 := [167, 0, 4, 3, 54, 4, 21, 4, 153, 0, 25, 42, 180, 0, 13, 29, 46, 156, 0, 16, 27, 42]
abbrev dktX2_kerfNow_1 : List UInt8 := dkwX2_kerfNow_1 ++ dktX2_kerfNow_2
def dkwX2_kerfNow_0 : List UInt8 := [3, 60, 3, 61, 3, 62, 29, 42, 180, 0, 116, 162, 0, 82, 42, 29, 182, 0, 148, 158, 0, 7, 4]
abbrev dktX2_kerfNow_0 : List UInt8 := dkwX2_kerfNow_0 ++ dktX2_kerfNow_1
theorem dksX2_kerfNow_0 : cX2_kerfNow.data.toList.drop 0 = dktX2_kerfNow_0 := by decide +kernel
theorem dksX2_kerfNow_1 : cX2_kerfNow.data.toList.drop 23 = dktX2_kerfNow_1 := dk_seg dksX2_kerfNow_0 23 rfl rfl
theorem dksX2_kerfNow_2 : cX2_kerfNow.data.toList.drop 45 = dktX2_kerfNow_2 := dk_seg dksX2_kerfNow_1 22 rfl rfl
theorem dksX2_kerfNow_3 : cX2_kerfNow.data.toList.drop 69 = dktX2_kerfNow_3 := dk_seg dksX2_kerfNow_2 24 rfl rfl
theorem dksX2_kerfNow_4 : cX2_kerfNow.data.toList.drop 93 = dktX2_kerfNow_4 := dk_seg dksX2_kerfNow_3 24 rfl rfl
theorem dX2_kerfNow_0 : decode cX2_kerfNow 0 = .ok (.iconst 0, 1) := dk_3 (dk_at dksX2_kerfNow_0 0 rfl rfl)
theorem dX2_kerfNow_1 : decode cX2_kerfNow 1 = .ok (.istore_n 1, 1) := dk_60 (dk_at dksX2_kerfNow_0 1 rfl rfl)
theorem dX2_kerfNow_2 : decode cX2_kerfNow 2 = .ok (.iconst 0, 1) := dk_3 (dk_at dksX2_kerfNow_0 2 rfl rfl)
theorem dX2_kerfNow_3 : decode cX2_kerfNow 3 = .ok (.istore_n 2, 1) := dk_61 (dk_at dksX2_kerfNow_0 3 rfl rfl)
theorem dX2_kerfNow_4 : decode cX2_kerfNow 4 = .ok (.iconst 0, 1) := dk_3 (dk_at dksX2_kerfNow_0 4 rfl rfl)
theorem dX2_kerfNow_5 : decode cX2_kerfNow 5 = .ok (.istore_n 3, 1) := dk_62 (dk_at dksX2_kerfNow_0 5 rfl rfl)
theorem dX2_kerfNow_6 : decode cX2_kerfNow 6 = .ok (.iload_n 3, 1) := dk_29 (dk_at dksX2_kerfNow_0 6 rfl rfl)
theorem dX2_kerfNow_7 : decode cX2_kerfNow 7 = .ok (.aload_n 0, 1) := dk_42 (dk_at dksX2_kerfNow_0 7 rfl rfl)
theorem dX2_kerfNow_8 : decode cX2_kerfNow 8 = .ok (.getfield 116, 3) := dk_180 0 116 (dk_at dksX2_kerfNow_0 8 rfl rfl)
theorem dX2_kerfNow_11 : decode cX2_kerfNow 11 = .ok (.if_icmp .ge 82, 3) := dk_162 0 82 (dk_at dksX2_kerfNow_0 11 rfl rfl)
theorem dX2_kerfNow_14 : decode cX2_kerfNow 14 = .ok (.aload_n 0, 1) := dk_42 (dk_at dksX2_kerfNow_0 14 rfl rfl)
theorem dX2_kerfNow_15 : decode cX2_kerfNow 15 = .ok (.iload_n 3, 1) := dk_29 (dk_at dksX2_kerfNow_0 15 rfl rfl)
theorem dX2_kerfNow_16 : decode cX2_kerfNow 16 = .ok (.invokevirtual 148, 3) := dk_182 0 148 (dk_at dksX2_kerfNow_0 16 rfl rfl)
theorem dX2_kerfNow_19 : decode cX2_kerfNow 19 = .ok (.ifCond .le 7, 3) := dk_158 0 7 (dk_at dksX2_kerfNow_0 19 rfl rfl)
theorem dX2_kerfNow_22 : decode cX2_kerfNow 22 = .ok (.iconst 1, 1) := dk_4 (dk_at dksX2_kerfNow_0 22 rfl rfl)
theorem dX2_kerfNow_23 : decode cX2_kerfNow 23 = .ok (.goto 4, 3) := dk_167 0 4 (dk_at dksX2_kerfNow_1 0 rfl rfl)
theorem dX2_kerfNow_26 : decode cX2_kerfNow 26 = .ok (.iconst 0, 1) := dk_3 (dk_at dksX2_kerfNow_1 3 rfl rfl)
theorem dX2_kerfNow_27 : decode cX2_kerfNow 27 = .ok (.istore 4, 2) := dk_54 4 (dk_at dksX2_kerfNow_1 4 rfl rfl)
theorem dX2_kerfNow_29 : decode cX2_kerfNow 29 = .ok (.iload 4, 2) := dk_21 4 (dk_at dksX2_kerfNow_1 6 rfl rfl)
theorem dX2_kerfNow_31 : decode cX2_kerfNow 31 = .ok (.ifCond .eq 25, 3) := dk_153 0 25 (dk_at dksX2_kerfNow_1 8 rfl rfl)
theorem dX2_kerfNow_34 : decode cX2_kerfNow 34 = .ok (.aload_n 0, 1) := dk_42 (dk_at dksX2_kerfNow_1 11 rfl rfl)
theorem dX2_kerfNow_35 : decode cX2_kerfNow 35 = .ok (.getfield 13, 3) := dk_180 0 13 (dk_at dksX2_kerfNow_1 12 rfl rfl)
theorem dX2_kerfNow_38 : decode cX2_kerfNow 38 = .ok (.iload_n 3, 1) := dk_29 (dk_at dksX2_kerfNow_1 15 rfl rfl)
theorem dX2_kerfNow_39 : decode cX2_kerfNow 39 = .ok (.iaload, 1) := dk_46 (dk_at dksX2_kerfNow_1 16 rfl rfl)
theorem dX2_kerfNow_40 : decode cX2_kerfNow 40 = .ok (.ifCond .ge 16, 3) := dk_156 0 16 (dk_at dksX2_kerfNow_1 17 rfl rfl)
theorem dX2_kerfNow_43 : decode cX2_kerfNow 43 = .ok (.iload_n 1, 1) := dk_27 (dk_at dksX2_kerfNow_1 20 rfl rfl)
theorem dX2_kerfNow_44 : decode cX2_kerfNow 44 = .ok (.aload_n 0, 1) := dk_42 (dk_at dksX2_kerfNow_1 21 rfl rfl)
theorem dX2_kerfNow_45 : decode cX2_kerfNow 45 = .ok (.getfield 16, 3) := dk_180 0 16 (dk_at dksX2_kerfNow_2 0 rfl rfl)
theorem dX2_kerfNow_48 : decode cX2_kerfNow 48 = .ok (.iload_n 3, 1) := dk_29 (dk_at dksX2_kerfNow_2 3 rfl rfl)
theorem dX2_kerfNow_49 : decode cX2_kerfNow 49 = .ok (.iaload, 1) := dk_46 (dk_at dksX2_kerfNow_2 4 rfl rfl)
theorem dX2_kerfNow_50 : decode cX2_kerfNow 50 = .ok (.invokestatic 161, 3) := dk_184 0 161 (dk_at dksX2_kerfNow_2 5 rfl rfl)
theorem dX2_kerfNow_53 : decode cX2_kerfNow 53 = .ok (.goto 4, 3) := dk_167 0 4 (dk_at dksX2_kerfNow_2 8 rfl rfl)
theorem dX2_kerfNow_56 : decode cX2_kerfNow 56 = .ok (.iload_n 1, 1) := dk_27 (dk_at dksX2_kerfNow_2 11 rfl rfl)
theorem dX2_kerfNow_57 : decode cX2_kerfNow 57 = .ok (.istore_n 1, 1) := dk_60 (dk_at dksX2_kerfNow_2 12 rfl rfl)
theorem dX2_kerfNow_58 : decode cX2_kerfNow 58 = .ok (.iload 4, 2) := dk_21 4 (dk_at dksX2_kerfNow_2 13 rfl rfl)
theorem dX2_kerfNow_60 : decode cX2_kerfNow 60 = .ok (.ifCond .eq 25, 3) := dk_153 0 25 (dk_at dksX2_kerfNow_2 15 rfl rfl)
theorem dX2_kerfNow_63 : decode cX2_kerfNow 63 = .ok (.aload_n 0, 1) := dk_42 (dk_at dksX2_kerfNow_2 18 rfl rfl)
theorem dX2_kerfNow_64 : decode cX2_kerfNow 64 = .ok (.getfield 13, 3) := dk_180 0 13 (dk_at dksX2_kerfNow_2 19 rfl rfl)
theorem dX2_kerfNow_67 : decode cX2_kerfNow 67 = .ok (.iload_n 3, 1) := dk_29 (dk_at dksX2_kerfNow_2 22 rfl rfl)
theorem dX2_kerfNow_68 : decode cX2_kerfNow 68 = .ok (.iaload, 1) := dk_46 (dk_at dksX2_kerfNow_2 23 rfl rfl)
theorem dX2_kerfNow_69 : decode cX2_kerfNow 69 = .ok (.ifCond .le 16, 3) := dk_158 0 16 (dk_at dksX2_kerfNow_3 0 rfl rfl)
theorem dX2_kerfNow_72 : decode cX2_kerfNow 72 = .ok (.iload_n 2, 1) := dk_28 (dk_at dksX2_kerfNow_3 3 rfl rfl)
theorem dX2_kerfNow_73 : decode cX2_kerfNow 73 = .ok (.aload_n 0, 1) := dk_42 (dk_at dksX2_kerfNow_3 4 rfl rfl)
theorem dX2_kerfNow_74 : decode cX2_kerfNow 74 = .ok (.getfield 16, 3) := dk_180 0 16 (dk_at dksX2_kerfNow_3 5 rfl rfl)
theorem dX2_kerfNow_77 : decode cX2_kerfNow 77 = .ok (.iload_n 3, 1) := dk_29 (dk_at dksX2_kerfNow_3 8 rfl rfl)
theorem dX2_kerfNow_78 : decode cX2_kerfNow 78 = .ok (.iaload, 1) := dk_46 (dk_at dksX2_kerfNow_3 9 rfl rfl)
theorem dX2_kerfNow_79 : decode cX2_kerfNow 79 = .ok (.invokestatic 161, 3) := dk_184 0 161 (dk_at dksX2_kerfNow_3 10 rfl rfl)
theorem dX2_kerfNow_82 : decode cX2_kerfNow 82 = .ok (.goto 4, 3) := dk_167 0 4 (dk_at dksX2_kerfNow_3 13 rfl rfl)
theorem dX2_kerfNow_85 : decode cX2_kerfNow 85 = .ok (.iload_n 2, 1) := dk_28 (dk_at dksX2_kerfNow_3 16 rfl rfl)
theorem dX2_kerfNow_86 : decode cX2_kerfNow 86 = .ok (.istore_n 2, 1) := dk_61 (dk_at dksX2_kerfNow_3 17 rfl rfl)
theorem dX2_kerfNow_87 : decode cX2_kerfNow 87 = .ok (.iinc 3 1, 3) := dk_132 3 1 (dk_at dksX2_kerfNow_3 18 rfl rfl)
theorem dX2_kerfNow_90 : decode cX2_kerfNow 90 = .ok (.goto (-84), 3) := dk_167 255 172 (dk_at dksX2_kerfNow_3 21 rfl rfl)
theorem dX2_kerfNow_93 : decode cX2_kerfNow 93 = .ok (.iconst 1, 1) := dk_4 (dk_at dksX2_kerfNow_4 0 rfl rfl)
theorem dX2_kerfNow_94 : decode cX2_kerfNow 94 = .ok (.iload_n 1, 1) := dk_27 (dk_at dksX2_kerfNow_4 1 rfl rfl)
theorem dX2_kerfNow_95 : decode cX2_kerfNow 95 = .ok (.iadd, 1) := dk_96 (dk_at dksX2_kerfNow_4 2 rfl rfl)
theorem dX2_kerfNow_96 : decode cX2_kerfNow 96 = .ok (.iload_n 2, 1) := dk_28 (dk_at dksX2_kerfNow_4 3 rfl rfl)
theorem dX2_kerfNow_97 : decode cX2_kerfNow 97 = .ok (.iadd, 1) := dk_96 (dk_at dksX2_kerfNow_4 4 rfl rfl)
theorem dX2_kerfNow_98 : decode cX2_kerfNow 98 = .ok (.ireturn, 1) := dk_172 (dk_at dksX2_kerfNow_4 5 rfl rfl)
abbrev cX2_greater : ByteArray := prog_8_method_4_code
def yX2_greater : MethodName := ⟨RX2, "greater", "(II)I"⟩
def dkwX2_greater_0 : List UInt8 := [26, 27, 164, 0, 7, 26, 167, 0, 4, 27, 172]
abbrev dktX2_greater_0 : List UInt8 := dkwX2_greater_0 ++ []
theorem dksX2_greater_0 : cX2_greater.data.toList.drop 0 = dktX2_greater_0 := by decide +kernel
theorem dX2_greater_0 : decode cX2_greater 0 = .ok (.iload_n 0, 1) := dk_26 (dk_at dksX2_greater_0 0 rfl rfl)
theorem dX2_greater_1 : decode cX2_greater 1 = .ok (.iload_n 1, 1) := dk_27 (dk_at dksX2_greater_0 1 rfl rfl)
theorem dX2_greater_2 : decode cX2_greater 2 = .ok (.if_icmp .le 7, 3) := dk_164 0 7 (dk_at dksX2_greater_0 2 rfl rfl)
theorem dX2_greater_5 : decode cX2_greater 5 = .ok (.iload_n 0, 1) := dk_26 (dk_at dksX2_greater_0 5 rfl rfl)
theorem dX2_greater_6 : decode cX2_greater 6 = .ok (.goto 4, 3) := dk_167 0 4 (dk_at dksX2_greater_0 6 rfl rfl)
theorem dX2_greater_9 : decode cX2_greater 9 = .ok (.iload_n 1, 1) := dk_27 (dk_at dksX2_greater_0 9 rfl rfl)
theorem dX2_greater_10 : decode cX2_greater 10 = .ok (.ireturn, 1) := dk_172 (dk_at dksX2_greater_0 10 rfl rfl)
abbrev cX2_board : ByteArray := prog_8_method_25_code
def yX2_board : MethodName := ⟨RX2, "board", "(IIII)I"⟩
def dkwX2_board_5 : List UInt8 := [79, 132, 6, 1, 167, 255, 192, 42, 3, 181, 0, 145, 42, 42, 180, 0, 172, 182, 0, 99, 172]
abbrev dktX2_board_5 : List UInt8 := dkwX2_board_5 ++ []
def dkwX2_board_4 : List UInt8 := [21, 6, 104, 4, 96, 46, 79, 42, 180, 0, 40, 21, 6, 42, 180, 0, 31, 6, 21, 6, 104, 5, 96, 46]
abbrev dktX2_board_4 : List UInt8 := dkwX2_board_4 ++ dktX2_board_5
def dkwX2_board_3 : List UInt8 := [21, 6, 42, 180, 0, 31, 6, 21, 6, 104, 46, 79, 42, 180, 0, 37, 21, 6, 42, 180, 0, 31, 6]
abbrev dktX2_board_3 : List UInt8 := dkwX2_board_3 ++ dktX2_board_4
def dkwX2_board_2 : List UInt8 := [42, 180, 0, 124, 181, 0, 172, 3, 54, 6, 21, 6, 42, 180, 0, 172, 162, 0, 61, 42, 180, 0, 34]
abbrev dktX2_board_2 : List UInt8 := dkwX2_board_2 ++ dktX2_board_3
def dkwX2_board_1 : List UInt8 := [104, 29, 96, 21, 4, 182, 0, 177, 154, 0, 15, 42, 16, 156, 42, 180, 0, 119, 100, 182, 0, 99, 172, 42]
abbrev dktX2_board_1 : List UInt8 := dkwX2_board_1 ++ dktX2_board_2
def dkwX2_board_0 : List UInt8 := [42, 27, 28, 29, 21, 4, 133, 182, 0, 134, 54, 5, 21, 5, 156, 0, 6, 21, 5, 172, 42, 16, 80, 27]
abbrev dktX2_board_0 : List UInt8 := dkwX2_board_0 ++ dktX2_board_1
theorem dksX2_board_0 : cX2_board.data.toList.drop 0 = dktX2_board_0 := by decide +kernel
theorem dksX2_board_1 : cX2_board.data.toList.drop 24 = dktX2_board_1 := dk_seg dksX2_board_0 24 rfl rfl
theorem dksX2_board_2 : cX2_board.data.toList.drop 48 = dktX2_board_2 := dk_seg dksX2_board_1 24 rfl rfl
theorem dksX2_board_3 : cX2_board.data.toList.drop 71 = dktX2_board_3 := dk_seg dksX2_board_2 23 rfl rfl
theorem dksX2_board_4 : cX2_board.data.toList.drop 94 = dktX2_board_4 := dk_seg dksX2_board_3 23 rfl rfl
theorem dksX2_board_5 : cX2_board.data.toList.drop 118 = dktX2_board_5 := dk_seg dksX2_board_4 24 rfl rfl
theorem dX2_board_0 : decode cX2_board 0 = .ok (.aload_n 0, 1) := dk_42 (dk_at dksX2_board_0 0 rfl rfl)
theorem dX2_board_1 : decode cX2_board 1 = .ok (.iload_n 1, 1) := dk_27 (dk_at dksX2_board_0 1 rfl rfl)
theorem dX2_board_2 : decode cX2_board 2 = .ok (.iload_n 2, 1) := dk_28 (dk_at dksX2_board_0 2 rfl rfl)
theorem dX2_board_3 : decode cX2_board 3 = .ok (.iload_n 3, 1) := dk_29 (dk_at dksX2_board_0 3 rfl rfl)
theorem dX2_board_4 : decode cX2_board 4 = .ok (.iload 4, 2) := dk_21 4 (dk_at dksX2_board_0 4 rfl rfl)
theorem dX2_board_6 : decode cX2_board 6 = .ok (.i2l, 1) := dk_133 (dk_at dksX2_board_0 6 rfl rfl)
theorem dX2_board_7 : decode cX2_board 7 = .ok (.invokevirtual 134, 3) := dk_182 0 134 (dk_at dksX2_board_0 7 rfl rfl)
theorem dX2_board_10 : decode cX2_board 10 = .ok (.istore 5, 2) := dk_54 5 (dk_at dksX2_board_0 10 rfl rfl)
theorem dX2_board_12 : decode cX2_board 12 = .ok (.iload 5, 2) := dk_21 5 (dk_at dksX2_board_0 12 rfl rfl)
theorem dX2_board_14 : decode cX2_board 14 = .ok (.ifCond .ge 6, 3) := dk_156 0 6 (dk_at dksX2_board_0 14 rfl rfl)
theorem dX2_board_17 : decode cX2_board 17 = .ok (.iload 5, 2) := dk_21 5 (dk_at dksX2_board_0 17 rfl rfl)
theorem dX2_board_19 : decode cX2_board 19 = .ok (.ireturn, 1) := dk_172 (dk_at dksX2_board_0 19 rfl rfl)
theorem dX2_board_20 : decode cX2_board 20 = .ok (.aload_n 0, 1) := dk_42 (dk_at dksX2_board_0 20 rfl rfl)
theorem dX2_board_21 : decode cX2_board 21 = .ok (.bipush 80, 2) := dk_16 80 (dk_at dksX2_board_0 21 rfl rfl)
theorem dX2_board_23 : decode cX2_board 23 = .ok (.iload_n 1, 1) := dk_27 (dk_at dksX2_board_0 23 rfl rfl)
theorem dX2_board_24 : decode cX2_board 24 = .ok (.imul, 1) := dk_104 (dk_at dksX2_board_1 0 rfl rfl)
theorem dX2_board_25 : decode cX2_board 25 = .ok (.iload_n 3, 1) := dk_29 (dk_at dksX2_board_1 1 rfl rfl)
theorem dX2_board_26 : decode cX2_board 26 = .ok (.iadd, 1) := dk_96 (dk_at dksX2_board_1 2 rfl rfl)
theorem dX2_board_27 : decode cX2_board 27 = .ok (.iload 4, 2) := dk_21 4 (dk_at dksX2_board_1 3 rfl rfl)
theorem dX2_board_29 : decode cX2_board 29 = .ok (.invokevirtual 177, 3) := dk_182 0 177 (dk_at dksX2_board_1 5 rfl rfl)
theorem dX2_board_32 : decode cX2_board 32 = .ok (.ifCond .ne 15, 3) := dk_154 0 15 (dk_at dksX2_board_1 8 rfl rfl)
theorem dX2_board_35 : decode cX2_board 35 = .ok (.aload_n 0, 1) := dk_42 (dk_at dksX2_board_1 11 rfl rfl)
theorem dX2_board_36 : decode cX2_board 36 = .ok (.bipush (-100), 2) := dk_16 156 (dk_at dksX2_board_1 12 rfl rfl)
theorem dX2_board_38 : decode cX2_board 38 = .ok (.aload_n 0, 1) := dk_42 (dk_at dksX2_board_1 14 rfl rfl)
theorem dX2_board_39 : decode cX2_board 39 = .ok (.getfield 119, 3) := dk_180 0 119 (dk_at dksX2_board_1 15 rfl rfl)
theorem dX2_board_42 : decode cX2_board 42 = .ok (.isub, 1) := dk_100 (dk_at dksX2_board_1 18 rfl rfl)
theorem dX2_board_43 : decode cX2_board 43 = .ok (.invokevirtual 99, 3) := dk_182 0 99 (dk_at dksX2_board_1 19 rfl rfl)
theorem dX2_board_46 : decode cX2_board 46 = .ok (.ireturn, 1) := dk_172 (dk_at dksX2_board_1 22 rfl rfl)
theorem dX2_board_47 : decode cX2_board 47 = .ok (.aload_n 0, 1) := dk_42 (dk_at dksX2_board_1 23 rfl rfl)
theorem dX2_board_48 : decode cX2_board 48 = .ok (.aload_n 0, 1) := dk_42 (dk_at dksX2_board_2 0 rfl rfl)
theorem dX2_board_49 : decode cX2_board 49 = .ok (.getfield 124, 3) := dk_180 0 124 (dk_at dksX2_board_2 1 rfl rfl)
theorem dX2_board_52 : decode cX2_board 52 = .ok (.putfield 172, 3) := dk_181 0 172 (dk_at dksX2_board_2 4 rfl rfl)
theorem dX2_board_55 : decode cX2_board 55 = .ok (.iconst 0, 1) := dk_3 (dk_at dksX2_board_2 7 rfl rfl)
theorem dX2_board_56 : decode cX2_board 56 = .ok (.istore 6, 2) := dk_54 6 (dk_at dksX2_board_2 8 rfl rfl)
theorem dX2_board_58 : decode cX2_board 58 = .ok (.iload 6, 2) := dk_21 6 (dk_at dksX2_board_2 10 rfl rfl)
theorem dX2_board_60 : decode cX2_board 60 = .ok (.aload_n 0, 1) := dk_42 (dk_at dksX2_board_2 12 rfl rfl)
theorem dX2_board_61 : decode cX2_board 61 = .ok (.getfield 172, 3) := dk_180 0 172 (dk_at dksX2_board_2 13 rfl rfl)
theorem dX2_board_64 : decode cX2_board 64 = .ok (.if_icmp .ge 61, 3) := dk_162 0 61 (dk_at dksX2_board_2 16 rfl rfl)
theorem dX2_board_67 : decode cX2_board 67 = .ok (.aload_n 0, 1) := dk_42 (dk_at dksX2_board_2 19 rfl rfl)
theorem dX2_board_68 : decode cX2_board 68 = .ok (.getfield 34, 3) := dk_180 0 34 (dk_at dksX2_board_2 20 rfl rfl)
theorem dX2_board_71 : decode cX2_board 71 = .ok (.iload 6, 2) := dk_21 6 (dk_at dksX2_board_3 0 rfl rfl)
theorem dX2_board_73 : decode cX2_board 73 = .ok (.aload_n 0, 1) := dk_42 (dk_at dksX2_board_3 2 rfl rfl)
theorem dX2_board_74 : decode cX2_board 74 = .ok (.getfield 31, 3) := dk_180 0 31 (dk_at dksX2_board_3 3 rfl rfl)
theorem dX2_board_77 : decode cX2_board 77 = .ok (.iconst 3, 1) := dk_6 (dk_at dksX2_board_3 6 rfl rfl)
theorem dX2_board_78 : decode cX2_board 78 = .ok (.iload 6, 2) := dk_21 6 (dk_at dksX2_board_3 7 rfl rfl)
theorem dX2_board_80 : decode cX2_board 80 = .ok (.imul, 1) := dk_104 (dk_at dksX2_board_3 9 rfl rfl)
theorem dX2_board_81 : decode cX2_board 81 = .ok (.iaload, 1) := dk_46 (dk_at dksX2_board_3 10 rfl rfl)
theorem dX2_board_82 : decode cX2_board 82 = .ok (.iastore, 1) := dk_79 (dk_at dksX2_board_3 11 rfl rfl)
theorem dX2_board_83 : decode cX2_board 83 = .ok (.aload_n 0, 1) := dk_42 (dk_at dksX2_board_3 12 rfl rfl)
theorem dX2_board_84 : decode cX2_board 84 = .ok (.getfield 37, 3) := dk_180 0 37 (dk_at dksX2_board_3 13 rfl rfl)
theorem dX2_board_87 : decode cX2_board 87 = .ok (.iload 6, 2) := dk_21 6 (dk_at dksX2_board_3 16 rfl rfl)
theorem dX2_board_89 : decode cX2_board 89 = .ok (.aload_n 0, 1) := dk_42 (dk_at dksX2_board_3 18 rfl rfl)
theorem dX2_board_90 : decode cX2_board 90 = .ok (.getfield 31, 3) := dk_180 0 31 (dk_at dksX2_board_3 19 rfl rfl)
theorem dX2_board_93 : decode cX2_board 93 = .ok (.iconst 3, 1) := dk_6 (dk_at dksX2_board_3 22 rfl rfl)
theorem dX2_board_94 : decode cX2_board 94 = .ok (.iload 6, 2) := dk_21 6 (dk_at dksX2_board_4 0 rfl rfl)
theorem dX2_board_96 : decode cX2_board 96 = .ok (.imul, 1) := dk_104 (dk_at dksX2_board_4 2 rfl rfl)
theorem dX2_board_97 : decode cX2_board 97 = .ok (.iconst 1, 1) := dk_4 (dk_at dksX2_board_4 3 rfl rfl)
theorem dX2_board_98 : decode cX2_board 98 = .ok (.iadd, 1) := dk_96 (dk_at dksX2_board_4 4 rfl rfl)
theorem dX2_board_99 : decode cX2_board 99 = .ok (.iaload, 1) := dk_46 (dk_at dksX2_board_4 5 rfl rfl)
theorem dX2_board_100 : decode cX2_board 100 = .ok (.iastore, 1) := dk_79 (dk_at dksX2_board_4 6 rfl rfl)
theorem dX2_board_101 : decode cX2_board 101 = .ok (.aload_n 0, 1) := dk_42 (dk_at dksX2_board_4 7 rfl rfl)
theorem dX2_board_102 : decode cX2_board 102 = .ok (.getfield 40, 3) := dk_180 0 40 (dk_at dksX2_board_4 8 rfl rfl)
theorem dX2_board_105 : decode cX2_board 105 = .ok (.iload 6, 2) := dk_21 6 (dk_at dksX2_board_4 11 rfl rfl)
theorem dX2_board_107 : decode cX2_board 107 = .ok (.aload_n 0, 1) := dk_42 (dk_at dksX2_board_4 13 rfl rfl)
theorem dX2_board_108 : decode cX2_board 108 = .ok (.getfield 31, 3) := dk_180 0 31 (dk_at dksX2_board_4 14 rfl rfl)
theorem dX2_board_111 : decode cX2_board 111 = .ok (.iconst 3, 1) := dk_6 (dk_at dksX2_board_4 17 rfl rfl)
theorem dX2_board_112 : decode cX2_board 112 = .ok (.iload 6, 2) := dk_21 6 (dk_at dksX2_board_4 18 rfl rfl)
theorem dX2_board_114 : decode cX2_board 114 = .ok (.imul, 1) := dk_104 (dk_at dksX2_board_4 20 rfl rfl)
theorem dX2_board_115 : decode cX2_board 115 = .ok (.iconst 2, 1) := dk_5 (dk_at dksX2_board_4 21 rfl rfl)
theorem dX2_board_116 : decode cX2_board 116 = .ok (.iadd, 1) := dk_96 (dk_at dksX2_board_4 22 rfl rfl)
theorem dX2_board_117 : decode cX2_board 117 = .ok (.iaload, 1) := dk_46 (dk_at dksX2_board_4 23 rfl rfl)
theorem dX2_board_118 : decode cX2_board 118 = .ok (.iastore, 1) := dk_79 (dk_at dksX2_board_5 0 rfl rfl)
theorem dX2_board_119 : decode cX2_board 119 = .ok (.iinc 6 1, 3) := dk_132 6 1 (dk_at dksX2_board_5 1 rfl rfl)
theorem dX2_board_122 : decode cX2_board 122 = .ok (.goto (-64), 3) := dk_167 255 192 (dk_at dksX2_board_5 4 rfl rfl)
theorem dX2_board_125 : decode cX2_board 125 = .ok (.aload_n 0, 1) := dk_42 (dk_at dksX2_board_5 7 rfl rfl)
theorem dX2_board_126 : decode cX2_board 126 = .ok (.iconst 0, 1) := dk_3 (dk_at dksX2_board_5 8 rfl rfl)
theorem dX2_board_127 : decode cX2_board 127 = .ok (.putfield 145, 3) := dk_181 0 145 (dk_at dksX2_board_5 9 rfl rfl)
theorem dX2_board_130 : decode cX2_board 130 = .ok (.aload_n 0, 1) := dk_42 (dk_at dksX2_board_5 12 rfl rfl)
theorem dX2_board_131 : decode cX2_board 131 = .ok (.aload_n 0, 1) := dk_42 (dk_at dksX2_board_5 13 rfl rfl)
theorem dX2_board_132 : decode cX2_board 132 = .ok (.getfield 172, 3) := dk_180 0 172 (dk_at dksX2_board_5 14 rfl rfl)
theorem dX2_board_135 : decode cX2_board 135 = .ok (.invokevirtual 99, 3) := dk_182 0 99 (dk_at dksX2_board_5 17 rfl rfl)
theorem dX2_board_138 : decode cX2_board 138 = .ok (.ireturn, 1) := dk_172 (dk_at dksX2_board_5 20 rfl rfl)
abbrev cX2_readsBoard : ByteArray := prog_8_method_24_code
def yX2_readsBoard : MethodName := ⟨RX2, "readsBoard", "(II)Z"⟩
def dkwX2_readsBoard_11 : List UInt8 := [167, 255, 10, 4, 172]
abbrev dktX2_readsBoard_11 : List UInt8 := dkwX2_readsBoard_11 ++ []
def dkwX2_readsBoard_10 : List UInt8 := [21, 5, 79, 42, 89, 180, 0, 119, 6, 96, 181, 0, 119, 42, 89, 180, 0, 124, 4, 96, 181, 0, 124]
abbrev dktX2_readsBoard_10 : List UInt8 := dkwX2_readsBoard_10 ++ dktX2_readsBoard_11
def dkwX2_readsBoard_9 : List UInt8 := [180, 0, 124, 104, 4, 96, 21, 4, 7, 100, 79, 42, 180, 0, 31, 6, 42, 180, 0, 124, 104, 5, 96]
abbrev dktX2_readsBoard_9 : List UInt8 := dkwX2_readsBoard_9 ++ dktX2_readsBoard_10
def dkwX2_readsBoard_8 : List UInt8 := [181, 0, 119, 3, 172, 42, 180, 0, 31, 6, 42, 180, 0, 124, 104, 29, 79, 42, 180, 0, 31, 6, 42]
abbrev dktX2_readsBoard_8 : List UInt8 := dkwX2_readsBoard_8 ++ dktX2_readsBoard_9
def dkwX2_readsBoard_7 : List UInt8 := [16, 247, 54, 5, 21, 5, 133, 9, 20, 0, 122, 184, 0, 105, 154, 0, 15, 42, 89, 180, 0, 119, 5, 96]
abbrev dktX2_readsBoard_7 : List UInt8 := dkwX2_readsBoard_7 ++ dktX2_readsBoard_8
def dkwX2_readsBoard_6 : List UInt8 := [28, 162, 0, 22, 42, 180, 0, 79, 27, 42, 180, 0, 119, 96, 5, 96, 46, 16, 48, 100, 167, 0, 5]
abbrev dktX2_readsBoard_6 : List UInt8 := dkwX2_readsBoard_6 ++ dktX2_readsBoard_7
def dkwX2_readsBoard_5 : List UInt8 := [184, 0, 105, 154, 0, 15, 42, 89, 180, 0, 119, 4, 96, 181, 0, 119, 3, 172, 42, 180, 0, 119, 5, 96]
abbrev dktX2_readsBoard_5 : List UInt8 := dkwX2_readsBoard_5 ++ dktX2_readsBoard_6
def dkwX2_readsBoard_4 : List UInt8 := [180, 0, 119, 96, 4, 96, 46, 16, 48, 100, 167, 0, 5, 16, 247, 54, 4, 21, 4, 133, 9, 20, 0, 175]
abbrev dktX2_readsBoard_4 : List UInt8 := dkwX2_readsBoard_4 ++ dktX2_readsBoard_5
def dkwX2_readsBoard_3 : List UInt8 := [184, 0, 105, 154, 0, 5, 3, 172, 42, 180, 0, 119, 4, 96, 28, 162, 0, 22, 42, 180, 0, 79, 27, 42]
abbrev dktX2_readsBoard_3 : List UInt8 := dkwX2_readsBoard_3 ++ dktX2_readsBoard_4
def dkwX2_readsBoard_2 : List UInt8 := [100, 167, 0, 5, 16, 247, 62, 42, 180, 0, 124, 16, 24, 159, 0, 15, 29, 133, 10, 20, 0, 122]
abbrev dktX2_readsBoard_2 : List UInt8 := dkwX2_readsBoard_2 ++ dktX2_readsBoard_3
def dkwX2_readsBoard_1 : List UInt8 := [162, 0, 237, 42, 180, 0, 119, 28, 162, 0, 20, 42, 180, 0, 79, 27, 42, 180, 0, 119, 96, 46, 16, 48]
abbrev dktX2_readsBoard_1 : List UInt8 := dkwX2_readsBoard_1 ++ dktX2_readsBoard_2
def dkwX2_readsBoard_0 : List UInt8 := [42, 3, 181, 0, 119, 42, 3, 181, 0, 124, 42, 180, 0, 124, 153, 0, 11, 42, 180, 0, 119, 28]
abbrev dktX2_readsBoard_0 : List UInt8 := dkwX2_readsBoard_0 ++ dktX2_readsBoard_1
theorem dksX2_readsBoard_0 : cX2_readsBoard.data.toList.drop 0 = dktX2_readsBoard_0 := by decide +kernel
theorem dksX2_readsBoard_1 : cX2_readsBoard.data.toList.drop 22 = dktX2_readsBoard_1 := dk_seg dksX2_readsBoard_0 22 rfl rfl
theorem dksX2_readsBoard_2 : cX2_readsBoard.data.toList.drop 46 = dktX2_readsBoard_2 := dk_seg dksX2_readsBoard_1 24 rfl rfl
theorem dksX2_readsBoard_3 : cX2_readsBoard.data.toList.drop 68 = dktX2_readsBoard_3 := dk_seg dksX2_readsBoard_2 22 rfl rfl
theorem dksX2_readsBoard_4 : cX2_readsBoard.data.toList.drop 92 = dktX2_readsBoard_4 := dk_seg dksX2_readsBoard_3 24 rfl rfl
theorem dksX2_readsBoard_5 : cX2_readsBoard.data.toList.drop 116 = dktX2_readsBoard_5 := dk_seg dksX2_readsBoard_4 24 rfl rfl
theorem dksX2_readsBoard_6 : cX2_readsBoard.data.toList.drop 140 = dktX2_readsBoard_6 := dk_seg dksX2_readsBoard_5 24 rfl rfl
theorem dksX2_readsBoard_7 : cX2_readsBoard.data.toList.drop 163 = dktX2_readsBoard_7 := dk_seg dksX2_readsBoard_6 23 rfl rfl
theorem dksX2_readsBoard_8 : cX2_readsBoard.data.toList.drop 187 = dktX2_readsBoard_8 := dk_seg dksX2_readsBoard_7 24 rfl rfl
theorem dksX2_readsBoard_9 : cX2_readsBoard.data.toList.drop 210 = dktX2_readsBoard_9 := dk_seg dksX2_readsBoard_8 23 rfl rfl
theorem dksX2_readsBoard_10 : cX2_readsBoard.data.toList.drop 233 = dktX2_readsBoard_10 := dk_seg dksX2_readsBoard_9 23 rfl rfl
theorem dksX2_readsBoard_11 : cX2_readsBoard.data.toList.drop 256 = dktX2_readsBoard_11 := dk_seg dksX2_readsBoard_10 23 rfl rfl
theorem dX2_readsBoard_0 : decode cX2_readsBoard 0 = .ok (.aload_n 0, 1) := dk_42 (dk_at dksX2_readsBoard_0 0 rfl rfl)
theorem dX2_readsBoard_1 : decode cX2_readsBoard 1 = .ok (.iconst 0, 1) := dk_3 (dk_at dksX2_readsBoard_0 1 rfl rfl)
theorem dX2_readsBoard_2 : decode cX2_readsBoard 2 = .ok (.putfield 119, 3) := dk_181 0 119 (dk_at dksX2_readsBoard_0 2 rfl rfl)
theorem dX2_readsBoard_5 : decode cX2_readsBoard 5 = .ok (.aload_n 0, 1) := dk_42 (dk_at dksX2_readsBoard_0 5 rfl rfl)
theorem dX2_readsBoard_6 : decode cX2_readsBoard 6 = .ok (.iconst 0, 1) := dk_3 (dk_at dksX2_readsBoard_0 6 rfl rfl)
theorem dX2_readsBoard_7 : decode cX2_readsBoard 7 = .ok (.putfield 124, 3) := dk_181 0 124 (dk_at dksX2_readsBoard_0 7 rfl rfl)
theorem dX2_readsBoard_10 : decode cX2_readsBoard 10 = .ok (.aload_n 0, 1) := dk_42 (dk_at dksX2_readsBoard_0 10 rfl rfl)
theorem dX2_readsBoard_11 : decode cX2_readsBoard 11 = .ok (.getfield 124, 3) := dk_180 0 124 (dk_at dksX2_readsBoard_0 11 rfl rfl)
theorem dX2_readsBoard_14 : decode cX2_readsBoard 14 = .ok (.ifCond .eq 11, 3) := dk_153 0 11 (dk_at dksX2_readsBoard_0 14 rfl rfl)
theorem dX2_readsBoard_17 : decode cX2_readsBoard 17 = .ok (.aload_n 0, 1) := dk_42 (dk_at dksX2_readsBoard_0 17 rfl rfl)
theorem dX2_readsBoard_18 : decode cX2_readsBoard 18 = .ok (.getfield 119, 3) := dk_180 0 119 (dk_at dksX2_readsBoard_0 18 rfl rfl)
theorem dX2_readsBoard_21 : decode cX2_readsBoard 21 = .ok (.iload_n 2, 1) := dk_28 (dk_at dksX2_readsBoard_0 21 rfl rfl)
theorem dX2_readsBoard_22 : decode cX2_readsBoard 22 = .ok (.if_icmp .ge 237, 3) := dk_162 0 237 (dk_at dksX2_readsBoard_1 0 rfl rfl)
theorem dX2_readsBoard_25 : decode cX2_readsBoard 25 = .ok (.aload_n 0, 1) := dk_42 (dk_at dksX2_readsBoard_1 3 rfl rfl)
theorem dX2_readsBoard_26 : decode cX2_readsBoard 26 = .ok (.getfield 119, 3) := dk_180 0 119 (dk_at dksX2_readsBoard_1 4 rfl rfl)
theorem dX2_readsBoard_29 : decode cX2_readsBoard 29 = .ok (.iload_n 2, 1) := dk_28 (dk_at dksX2_readsBoard_1 7 rfl rfl)
theorem dX2_readsBoard_30 : decode cX2_readsBoard 30 = .ok (.if_icmp .ge 20, 3) := dk_162 0 20 (dk_at dksX2_readsBoard_1 8 rfl rfl)
theorem dX2_readsBoard_33 : decode cX2_readsBoard 33 = .ok (.aload_n 0, 1) := dk_42 (dk_at dksX2_readsBoard_1 11 rfl rfl)
theorem dX2_readsBoard_34 : decode cX2_readsBoard 34 = .ok (.getfield 79, 3) := dk_180 0 79 (dk_at dksX2_readsBoard_1 12 rfl rfl)
theorem dX2_readsBoard_37 : decode cX2_readsBoard 37 = .ok (.iload_n 1, 1) := dk_27 (dk_at dksX2_readsBoard_1 15 rfl rfl)
theorem dX2_readsBoard_38 : decode cX2_readsBoard 38 = .ok (.aload_n 0, 1) := dk_42 (dk_at dksX2_readsBoard_1 16 rfl rfl)
theorem dX2_readsBoard_39 : decode cX2_readsBoard 39 = .ok (.getfield 119, 3) := dk_180 0 119 (dk_at dksX2_readsBoard_1 17 rfl rfl)
theorem dX2_readsBoard_42 : decode cX2_readsBoard 42 = .ok (.iadd, 1) := dk_96 (dk_at dksX2_readsBoard_1 20 rfl rfl)
theorem dX2_readsBoard_43 : decode cX2_readsBoard 43 = .ok (.iaload, 1) := dk_46 (dk_at dksX2_readsBoard_1 21 rfl rfl)
theorem dX2_readsBoard_44 : decode cX2_readsBoard 44 = .ok (.bipush 48, 2) := dk_16 48 (dk_at dksX2_readsBoard_1 22 rfl rfl)
theorem dX2_readsBoard_46 : decode cX2_readsBoard 46 = .ok (.isub, 1) := dk_100 (dk_at dksX2_readsBoard_2 0 rfl rfl)
theorem dX2_readsBoard_47 : decode cX2_readsBoard 47 = .ok (.goto 5, 3) := dk_167 0 5 (dk_at dksX2_readsBoard_2 1 rfl rfl)
theorem dX2_readsBoard_50 : decode cX2_readsBoard 50 = .ok (.bipush (-9), 2) := dk_16 247 (dk_at dksX2_readsBoard_2 4 rfl rfl)
theorem dX2_readsBoard_52 : decode cX2_readsBoard 52 = .ok (.istore_n 3, 1) := dk_62 (dk_at dksX2_readsBoard_2 6 rfl rfl)
theorem dX2_readsBoard_53 : decode cX2_readsBoard 53 = .ok (.aload_n 0, 1) := dk_42 (dk_at dksX2_readsBoard_2 7 rfl rfl)
theorem dX2_readsBoard_54 : decode cX2_readsBoard 54 = .ok (.getfield 124, 3) := dk_180 0 124 (dk_at dksX2_readsBoard_2 8 rfl rfl)
theorem dX2_readsBoard_57 : decode cX2_readsBoard 57 = .ok (.bipush 24, 2) := dk_16 24 (dk_at dksX2_readsBoard_2 11 rfl rfl)
theorem dX2_readsBoard_59 : decode cX2_readsBoard 59 = .ok (.if_icmp .eq 15, 3) := dk_159 0 15 (dk_at dksX2_readsBoard_2 13 rfl rfl)
theorem dX2_readsBoard_62 : decode cX2_readsBoard 62 = .ok (.iload_n 3, 1) := dk_29 (dk_at dksX2_readsBoard_2 16 rfl rfl)
theorem dX2_readsBoard_63 : decode cX2_readsBoard 63 = .ok (.i2l, 1) := dk_133 (dk_at dksX2_readsBoard_2 17 rfl rfl)
theorem dX2_readsBoard_64 : decode cX2_readsBoard 64 = .ok (.lconst 1, 1) := dk_10 (dk_at dksX2_readsBoard_2 18 rfl rfl)
theorem dX2_readsBoard_65 : decode cX2_readsBoard 65 = .ok (.ldc2_w 122, 3) := dk_20 0 122 (dk_at dksX2_readsBoard_2 19 rfl rfl)
theorem dX2_readsBoard_68 : decode cX2_readsBoard 68 = .ok (.invokestatic 105, 3) := dk_184 0 105 (dk_at dksX2_readsBoard_3 0 rfl rfl)
theorem dX2_readsBoard_71 : decode cX2_readsBoard 71 = .ok (.ifCond .ne 5, 3) := dk_154 0 5 (dk_at dksX2_readsBoard_3 3 rfl rfl)
theorem dX2_readsBoard_74 : decode cX2_readsBoard 74 = .ok (.iconst 0, 1) := dk_3 (dk_at dksX2_readsBoard_3 6 rfl rfl)
theorem dX2_readsBoard_75 : decode cX2_readsBoard 75 = .ok (.ireturn, 1) := dk_172 (dk_at dksX2_readsBoard_3 7 rfl rfl)
theorem dX2_readsBoard_76 : decode cX2_readsBoard 76 = .ok (.aload_n 0, 1) := dk_42 (dk_at dksX2_readsBoard_3 8 rfl rfl)
theorem dX2_readsBoard_77 : decode cX2_readsBoard 77 = .ok (.getfield 119, 3) := dk_180 0 119 (dk_at dksX2_readsBoard_3 9 rfl rfl)
theorem dX2_readsBoard_80 : decode cX2_readsBoard 80 = .ok (.iconst 1, 1) := dk_4 (dk_at dksX2_readsBoard_3 12 rfl rfl)
theorem dX2_readsBoard_81 : decode cX2_readsBoard 81 = .ok (.iadd, 1) := dk_96 (dk_at dksX2_readsBoard_3 13 rfl rfl)
theorem dX2_readsBoard_82 : decode cX2_readsBoard 82 = .ok (.iload_n 2, 1) := dk_28 (dk_at dksX2_readsBoard_3 14 rfl rfl)
theorem dX2_readsBoard_83 : decode cX2_readsBoard 83 = .ok (.if_icmp .ge 22, 3) := dk_162 0 22 (dk_at dksX2_readsBoard_3 15 rfl rfl)
theorem dX2_readsBoard_86 : decode cX2_readsBoard 86 = .ok (.aload_n 0, 1) := dk_42 (dk_at dksX2_readsBoard_3 18 rfl rfl)
theorem dX2_readsBoard_87 : decode cX2_readsBoard 87 = .ok (.getfield 79, 3) := dk_180 0 79 (dk_at dksX2_readsBoard_3 19 rfl rfl)
theorem dX2_readsBoard_90 : decode cX2_readsBoard 90 = .ok (.iload_n 1, 1) := dk_27 (dk_at dksX2_readsBoard_3 22 rfl rfl)
theorem dX2_readsBoard_91 : decode cX2_readsBoard 91 = .ok (.aload_n 0, 1) := dk_42 (dk_at dksX2_readsBoard_3 23 rfl rfl)
theorem dX2_readsBoard_92 : decode cX2_readsBoard 92 = .ok (.getfield 119, 3) := dk_180 0 119 (dk_at dksX2_readsBoard_4 0 rfl rfl)
theorem dX2_readsBoard_95 : decode cX2_readsBoard 95 = .ok (.iadd, 1) := dk_96 (dk_at dksX2_readsBoard_4 3 rfl rfl)
theorem dX2_readsBoard_96 : decode cX2_readsBoard 96 = .ok (.iconst 1, 1) := dk_4 (dk_at dksX2_readsBoard_4 4 rfl rfl)
theorem dX2_readsBoard_97 : decode cX2_readsBoard 97 = .ok (.iadd, 1) := dk_96 (dk_at dksX2_readsBoard_4 5 rfl rfl)
theorem dX2_readsBoard_98 : decode cX2_readsBoard 98 = .ok (.iaload, 1) := dk_46 (dk_at dksX2_readsBoard_4 6 rfl rfl)
theorem dX2_readsBoard_99 : decode cX2_readsBoard 99 = .ok (.bipush 48, 2) := dk_16 48 (dk_at dksX2_readsBoard_4 7 rfl rfl)
theorem dX2_readsBoard_101 : decode cX2_readsBoard 101 = .ok (.isub, 1) := dk_100 (dk_at dksX2_readsBoard_4 9 rfl rfl)
theorem dX2_readsBoard_102 : decode cX2_readsBoard 102 = .ok (.goto 5, 3) := dk_167 0 5 (dk_at dksX2_readsBoard_4 10 rfl rfl)
theorem dX2_readsBoard_105 : decode cX2_readsBoard 105 = .ok (.bipush (-9), 2) := dk_16 247 (dk_at dksX2_readsBoard_4 13 rfl rfl)
theorem dX2_readsBoard_107 : decode cX2_readsBoard 107 = .ok (.istore 4, 2) := dk_54 4 (dk_at dksX2_readsBoard_4 15 rfl rfl)
theorem dX2_readsBoard_109 : decode cX2_readsBoard 109 = .ok (.iload 4, 2) := dk_21 4 (dk_at dksX2_readsBoard_4 17 rfl rfl)
theorem dX2_readsBoard_111 : decode cX2_readsBoard 111 = .ok (.i2l, 1) := dk_133 (dk_at dksX2_readsBoard_4 19 rfl rfl)
theorem dX2_readsBoard_112 : decode cX2_readsBoard 112 = .ok (.lconst 0, 1) := dk_9 (dk_at dksX2_readsBoard_4 20 rfl rfl)
theorem dX2_readsBoard_113 : decode cX2_readsBoard 113 = .ok (.ldc2_w 175, 3) := dk_20 0 175 (dk_at dksX2_readsBoard_4 21 rfl rfl)
theorem dX2_readsBoard_116 : decode cX2_readsBoard 116 = .ok (.invokestatic 105, 3) := dk_184 0 105 (dk_at dksX2_readsBoard_5 0 rfl rfl)
theorem dX2_readsBoard_119 : decode cX2_readsBoard 119 = .ok (.ifCond .ne 15, 3) := dk_154 0 15 (dk_at dksX2_readsBoard_5 3 rfl rfl)
theorem dX2_readsBoard_122 : decode cX2_readsBoard 122 = .ok (.aload_n 0, 1) := dk_42 (dk_at dksX2_readsBoard_5 6 rfl rfl)
theorem dX2_readsBoard_123 : decode cX2_readsBoard 123 = .ok (.dup, 1) := dk_89 (dk_at dksX2_readsBoard_5 7 rfl rfl)
theorem dX2_readsBoard_124 : decode cX2_readsBoard 124 = .ok (.getfield 119, 3) := dk_180 0 119 (dk_at dksX2_readsBoard_5 8 rfl rfl)
theorem dX2_readsBoard_127 : decode cX2_readsBoard 127 = .ok (.iconst 1, 1) := dk_4 (dk_at dksX2_readsBoard_5 11 rfl rfl)
theorem dX2_readsBoard_128 : decode cX2_readsBoard 128 = .ok (.iadd, 1) := dk_96 (dk_at dksX2_readsBoard_5 12 rfl rfl)
theorem dX2_readsBoard_129 : decode cX2_readsBoard 129 = .ok (.putfield 119, 3) := dk_181 0 119 (dk_at dksX2_readsBoard_5 13 rfl rfl)
theorem dX2_readsBoard_132 : decode cX2_readsBoard 132 = .ok (.iconst 0, 1) := dk_3 (dk_at dksX2_readsBoard_5 16 rfl rfl)
theorem dX2_readsBoard_133 : decode cX2_readsBoard 133 = .ok (.ireturn, 1) := dk_172 (dk_at dksX2_readsBoard_5 17 rfl rfl)
theorem dX2_readsBoard_134 : decode cX2_readsBoard 134 = .ok (.aload_n 0, 1) := dk_42 (dk_at dksX2_readsBoard_5 18 rfl rfl)
theorem dX2_readsBoard_135 : decode cX2_readsBoard 135 = .ok (.getfield 119, 3) := dk_180 0 119 (dk_at dksX2_readsBoard_5 19 rfl rfl)
theorem dX2_readsBoard_138 : decode cX2_readsBoard 138 = .ok (.iconst 2, 1) := dk_5 (dk_at dksX2_readsBoard_5 22 rfl rfl)
theorem dX2_readsBoard_139 : decode cX2_readsBoard 139 = .ok (.iadd, 1) := dk_96 (dk_at dksX2_readsBoard_5 23 rfl rfl)
theorem dX2_readsBoard_140 : decode cX2_readsBoard 140 = .ok (.iload_n 2, 1) := dk_28 (dk_at dksX2_readsBoard_6 0 rfl rfl)
theorem dX2_readsBoard_141 : decode cX2_readsBoard 141 = .ok (.if_icmp .ge 22, 3) := dk_162 0 22 (dk_at dksX2_readsBoard_6 1 rfl rfl)
theorem dX2_readsBoard_144 : decode cX2_readsBoard 144 = .ok (.aload_n 0, 1) := dk_42 (dk_at dksX2_readsBoard_6 4 rfl rfl)
theorem dX2_readsBoard_145 : decode cX2_readsBoard 145 = .ok (.getfield 79, 3) := dk_180 0 79 (dk_at dksX2_readsBoard_6 5 rfl rfl)
theorem dX2_readsBoard_148 : decode cX2_readsBoard 148 = .ok (.iload_n 1, 1) := dk_27 (dk_at dksX2_readsBoard_6 8 rfl rfl)
theorem dX2_readsBoard_149 : decode cX2_readsBoard 149 = .ok (.aload_n 0, 1) := dk_42 (dk_at dksX2_readsBoard_6 9 rfl rfl)
theorem dX2_readsBoard_150 : decode cX2_readsBoard 150 = .ok (.getfield 119, 3) := dk_180 0 119 (dk_at dksX2_readsBoard_6 10 rfl rfl)
theorem dX2_readsBoard_153 : decode cX2_readsBoard 153 = .ok (.iadd, 1) := dk_96 (dk_at dksX2_readsBoard_6 13 rfl rfl)
theorem dX2_readsBoard_154 : decode cX2_readsBoard 154 = .ok (.iconst 2, 1) := dk_5 (dk_at dksX2_readsBoard_6 14 rfl rfl)
theorem dX2_readsBoard_155 : decode cX2_readsBoard 155 = .ok (.iadd, 1) := dk_96 (dk_at dksX2_readsBoard_6 15 rfl rfl)
theorem dX2_readsBoard_156 : decode cX2_readsBoard 156 = .ok (.iaload, 1) := dk_46 (dk_at dksX2_readsBoard_6 16 rfl rfl)
theorem dX2_readsBoard_157 : decode cX2_readsBoard 157 = .ok (.bipush 48, 2) := dk_16 48 (dk_at dksX2_readsBoard_6 17 rfl rfl)
theorem dX2_readsBoard_159 : decode cX2_readsBoard 159 = .ok (.isub, 1) := dk_100 (dk_at dksX2_readsBoard_6 19 rfl rfl)
theorem dX2_readsBoard_160 : decode cX2_readsBoard 160 = .ok (.goto 5, 3) := dk_167 0 5 (dk_at dksX2_readsBoard_6 20 rfl rfl)
theorem dX2_readsBoard_163 : decode cX2_readsBoard 163 = .ok (.bipush (-9), 2) := dk_16 247 (dk_at dksX2_readsBoard_7 0 rfl rfl)
theorem dX2_readsBoard_165 : decode cX2_readsBoard 165 = .ok (.istore 5, 2) := dk_54 5 (dk_at dksX2_readsBoard_7 2 rfl rfl)
theorem dX2_readsBoard_167 : decode cX2_readsBoard 167 = .ok (.iload 5, 2) := dk_21 5 (dk_at dksX2_readsBoard_7 4 rfl rfl)
theorem dX2_readsBoard_169 : decode cX2_readsBoard 169 = .ok (.i2l, 1) := dk_133 (dk_at dksX2_readsBoard_7 6 rfl rfl)
theorem dX2_readsBoard_170 : decode cX2_readsBoard 170 = .ok (.lconst 0, 1) := dk_9 (dk_at dksX2_readsBoard_7 7 rfl rfl)
theorem dX2_readsBoard_171 : decode cX2_readsBoard 171 = .ok (.ldc2_w 122, 3) := dk_20 0 122 (dk_at dksX2_readsBoard_7 8 rfl rfl)
theorem dX2_readsBoard_174 : decode cX2_readsBoard 174 = .ok (.invokestatic 105, 3) := dk_184 0 105 (dk_at dksX2_readsBoard_7 11 rfl rfl)
theorem dX2_readsBoard_177 : decode cX2_readsBoard 177 = .ok (.ifCond .ne 15, 3) := dk_154 0 15 (dk_at dksX2_readsBoard_7 14 rfl rfl)
theorem dX2_readsBoard_180 : decode cX2_readsBoard 180 = .ok (.aload_n 0, 1) := dk_42 (dk_at dksX2_readsBoard_7 17 rfl rfl)
theorem dX2_readsBoard_181 : decode cX2_readsBoard 181 = .ok (.dup, 1) := dk_89 (dk_at dksX2_readsBoard_7 18 rfl rfl)
theorem dX2_readsBoard_182 : decode cX2_readsBoard 182 = .ok (.getfield 119, 3) := dk_180 0 119 (dk_at dksX2_readsBoard_7 19 rfl rfl)
theorem dX2_readsBoard_185 : decode cX2_readsBoard 185 = .ok (.iconst 2, 1) := dk_5 (dk_at dksX2_readsBoard_7 22 rfl rfl)
theorem dX2_readsBoard_186 : decode cX2_readsBoard 186 = .ok (.iadd, 1) := dk_96 (dk_at dksX2_readsBoard_7 23 rfl rfl)
theorem dX2_readsBoard_187 : decode cX2_readsBoard 187 = .ok (.putfield 119, 3) := dk_181 0 119 (dk_at dksX2_readsBoard_8 0 rfl rfl)
theorem dX2_readsBoard_190 : decode cX2_readsBoard 190 = .ok (.iconst 0, 1) := dk_3 (dk_at dksX2_readsBoard_8 3 rfl rfl)
theorem dX2_readsBoard_191 : decode cX2_readsBoard 191 = .ok (.ireturn, 1) := dk_172 (dk_at dksX2_readsBoard_8 4 rfl rfl)
theorem dX2_readsBoard_192 : decode cX2_readsBoard 192 = .ok (.aload_n 0, 1) := dk_42 (dk_at dksX2_readsBoard_8 5 rfl rfl)
theorem dX2_readsBoard_193 : decode cX2_readsBoard 193 = .ok (.getfield 31, 3) := dk_180 0 31 (dk_at dksX2_readsBoard_8 6 rfl rfl)
theorem dX2_readsBoard_196 : decode cX2_readsBoard 196 = .ok (.iconst 3, 1) := dk_6 (dk_at dksX2_readsBoard_8 9 rfl rfl)
theorem dX2_readsBoard_197 : decode cX2_readsBoard 197 = .ok (.aload_n 0, 1) := dk_42 (dk_at dksX2_readsBoard_8 10 rfl rfl)
theorem dX2_readsBoard_198 : decode cX2_readsBoard 198 = .ok (.getfield 124, 3) := dk_180 0 124 (dk_at dksX2_readsBoard_8 11 rfl rfl)
theorem dX2_readsBoard_201 : decode cX2_readsBoard 201 = .ok (.imul, 1) := dk_104 (dk_at dksX2_readsBoard_8 14 rfl rfl)
theorem dX2_readsBoard_202 : decode cX2_readsBoard 202 = .ok (.iload_n 3, 1) := dk_29 (dk_at dksX2_readsBoard_8 15 rfl rfl)
theorem dX2_readsBoard_203 : decode cX2_readsBoard 203 = .ok (.iastore, 1) := dk_79 (dk_at dksX2_readsBoard_8 16 rfl rfl)
theorem dX2_readsBoard_204 : decode cX2_readsBoard 204 = .ok (.aload_n 0, 1) := dk_42 (dk_at dksX2_readsBoard_8 17 rfl rfl)
theorem dX2_readsBoard_205 : decode cX2_readsBoard 205 = .ok (.getfield 31, 3) := dk_180 0 31 (dk_at dksX2_readsBoard_8 18 rfl rfl)
theorem dX2_readsBoard_208 : decode cX2_readsBoard 208 = .ok (.iconst 3, 1) := dk_6 (dk_at dksX2_readsBoard_8 21 rfl rfl)
theorem dX2_readsBoard_209 : decode cX2_readsBoard 209 = .ok (.aload_n 0, 1) := dk_42 (dk_at dksX2_readsBoard_8 22 rfl rfl)
theorem dX2_readsBoard_210 : decode cX2_readsBoard 210 = .ok (.getfield 124, 3) := dk_180 0 124 (dk_at dksX2_readsBoard_9 0 rfl rfl)
theorem dX2_readsBoard_213 : decode cX2_readsBoard 213 = .ok (.imul, 1) := dk_104 (dk_at dksX2_readsBoard_9 3 rfl rfl)
theorem dX2_readsBoard_214 : decode cX2_readsBoard 214 = .ok (.iconst 1, 1) := dk_4 (dk_at dksX2_readsBoard_9 4 rfl rfl)
theorem dX2_readsBoard_215 : decode cX2_readsBoard 215 = .ok (.iadd, 1) := dk_96 (dk_at dksX2_readsBoard_9 5 rfl rfl)
theorem dX2_readsBoard_216 : decode cX2_readsBoard 216 = .ok (.iload 4, 2) := dk_21 4 (dk_at dksX2_readsBoard_9 6 rfl rfl)
theorem dX2_readsBoard_218 : decode cX2_readsBoard 218 = .ok (.iconst 4, 1) := dk_7 (dk_at dksX2_readsBoard_9 8 rfl rfl)
theorem dX2_readsBoard_219 : decode cX2_readsBoard 219 = .ok (.isub, 1) := dk_100 (dk_at dksX2_readsBoard_9 9 rfl rfl)
theorem dX2_readsBoard_220 : decode cX2_readsBoard 220 = .ok (.iastore, 1) := dk_79 (dk_at dksX2_readsBoard_9 10 rfl rfl)
theorem dX2_readsBoard_221 : decode cX2_readsBoard 221 = .ok (.aload_n 0, 1) := dk_42 (dk_at dksX2_readsBoard_9 11 rfl rfl)
theorem dX2_readsBoard_222 : decode cX2_readsBoard 222 = .ok (.getfield 31, 3) := dk_180 0 31 (dk_at dksX2_readsBoard_9 12 rfl rfl)
theorem dX2_readsBoard_225 : decode cX2_readsBoard 225 = .ok (.iconst 3, 1) := dk_6 (dk_at dksX2_readsBoard_9 15 rfl rfl)
theorem dX2_readsBoard_226 : decode cX2_readsBoard 226 = .ok (.aload_n 0, 1) := dk_42 (dk_at dksX2_readsBoard_9 16 rfl rfl)
theorem dX2_readsBoard_227 : decode cX2_readsBoard 227 = .ok (.getfield 124, 3) := dk_180 0 124 (dk_at dksX2_readsBoard_9 17 rfl rfl)
theorem dX2_readsBoard_230 : decode cX2_readsBoard 230 = .ok (.imul, 1) := dk_104 (dk_at dksX2_readsBoard_9 20 rfl rfl)
theorem dX2_readsBoard_231 : decode cX2_readsBoard 231 = .ok (.iconst 2, 1) := dk_5 (dk_at dksX2_readsBoard_9 21 rfl rfl)
theorem dX2_readsBoard_232 : decode cX2_readsBoard 232 = .ok (.iadd, 1) := dk_96 (dk_at dksX2_readsBoard_9 22 rfl rfl)
theorem dX2_readsBoard_233 : decode cX2_readsBoard 233 = .ok (.iload 5, 2) := dk_21 5 (dk_at dksX2_readsBoard_10 0 rfl rfl)
theorem dX2_readsBoard_235 : decode cX2_readsBoard 235 = .ok (.iastore, 1) := dk_79 (dk_at dksX2_readsBoard_10 2 rfl rfl)
theorem dX2_readsBoard_236 : decode cX2_readsBoard 236 = .ok (.aload_n 0, 1) := dk_42 (dk_at dksX2_readsBoard_10 3 rfl rfl)
theorem dX2_readsBoard_237 : decode cX2_readsBoard 237 = .ok (.dup, 1) := dk_89 (dk_at dksX2_readsBoard_10 4 rfl rfl)
theorem dX2_readsBoard_238 : decode cX2_readsBoard 238 = .ok (.getfield 119, 3) := dk_180 0 119 (dk_at dksX2_readsBoard_10 5 rfl rfl)
theorem dX2_readsBoard_241 : decode cX2_readsBoard 241 = .ok (.iconst 3, 1) := dk_6 (dk_at dksX2_readsBoard_10 8 rfl rfl)
theorem dX2_readsBoard_242 : decode cX2_readsBoard 242 = .ok (.iadd, 1) := dk_96 (dk_at dksX2_readsBoard_10 9 rfl rfl)
theorem dX2_readsBoard_243 : decode cX2_readsBoard 243 = .ok (.putfield 119, 3) := dk_181 0 119 (dk_at dksX2_readsBoard_10 10 rfl rfl)
theorem dX2_readsBoard_246 : decode cX2_readsBoard 246 = .ok (.aload_n 0, 1) := dk_42 (dk_at dksX2_readsBoard_10 13 rfl rfl)
theorem dX2_readsBoard_247 : decode cX2_readsBoard 247 = .ok (.dup, 1) := dk_89 (dk_at dksX2_readsBoard_10 14 rfl rfl)
theorem dX2_readsBoard_248 : decode cX2_readsBoard 248 = .ok (.getfield 124, 3) := dk_180 0 124 (dk_at dksX2_readsBoard_10 15 rfl rfl)
theorem dX2_readsBoard_251 : decode cX2_readsBoard 251 = .ok (.iconst 1, 1) := dk_4 (dk_at dksX2_readsBoard_10 18 rfl rfl)
theorem dX2_readsBoard_252 : decode cX2_readsBoard 252 = .ok (.iadd, 1) := dk_96 (dk_at dksX2_readsBoard_10 19 rfl rfl)
theorem dX2_readsBoard_253 : decode cX2_readsBoard 253 = .ok (.putfield 124, 3) := dk_181 0 124 (dk_at dksX2_readsBoard_10 20 rfl rfl)
theorem dX2_readsBoard_256 : decode cX2_readsBoard 256 = .ok (.goto (-246), 3) := dk_167 255 10 (dk_at dksX2_readsBoard_11 0 rfl rfl)
theorem dX2_readsBoard_259 : decode cX2_readsBoard 259 = .ok (.iconst 1, 1) := dk_4 (dk_at dksX2_readsBoard_11 3 rfl rfl)
theorem dX2_readsBoard_260 : decode cX2_readsBoard 260 = .ok (.ireturn, 1) := dk_172 (dk_at dksX2_readsBoard_11 4 rfl rfl)
abbrev cX2_ofLine : ByteArray := prog_8_method_26_code
def yX2_ofLine : MethodName := ⟨RX2, "ofLine", "(II)I"⟩
def dkwX2_ofLine_2 : List UInt8 := [167, 0, 5, 16, 254, 172]
abbrev dktX2_ofLine_2 : List UInt8 := dkwX2_ofLine_2 ++ []
def dkwX2_ofLine_1 : List UInt8 := [4, 160, 0, 12, 42, 180, 0, 37, 27, 46, 167, 0, 19, 28, 5, 160, 0, 12, 42, 180, 0, 40, 27, 46]
abbrev dktX2_ofLine_1 : List UInt8 := dkwX2_ofLine_1 ++ dktX2_ofLine_2
def dkwX2_ofLine_0 : List UInt8 := [42, 27, 182, 0, 180, 153, 0, 5, 2, 172, 28, 154, 0, 12, 42, 180, 0, 34, 27, 46, 167, 0, 33, 28]
abbrev dktX2_ofLine_0 : List UInt8 := dkwX2_ofLine_0 ++ dktX2_ofLine_1
theorem dksX2_ofLine_0 : cX2_ofLine.data.toList.drop 0 = dktX2_ofLine_0 := by decide +kernel
theorem dksX2_ofLine_1 : cX2_ofLine.data.toList.drop 24 = dktX2_ofLine_1 := dk_seg dksX2_ofLine_0 24 rfl rfl
theorem dksX2_ofLine_2 : cX2_ofLine.data.toList.drop 48 = dktX2_ofLine_2 := dk_seg dksX2_ofLine_1 24 rfl rfl
theorem dX2_ofLine_0 : decode cX2_ofLine 0 = .ok (.aload_n 0, 1) := dk_42 (dk_at dksX2_ofLine_0 0 rfl rfl)
theorem dX2_ofLine_1 : decode cX2_ofLine 1 = .ok (.iload_n 1, 1) := dk_27 (dk_at dksX2_ofLine_0 1 rfl rfl)
theorem dX2_ofLine_2 : decode cX2_ofLine 2 = .ok (.invokevirtual 180, 3) := dk_182 0 180 (dk_at dksX2_ofLine_0 2 rfl rfl)
theorem dX2_ofLine_5 : decode cX2_ofLine 5 = .ok (.ifCond .eq 5, 3) := dk_153 0 5 (dk_at dksX2_ofLine_0 5 rfl rfl)
theorem dX2_ofLine_8 : decode cX2_ofLine 8 = .ok (.iconst (-1), 1) := dk_2 (dk_at dksX2_ofLine_0 8 rfl rfl)
theorem dX2_ofLine_9 : decode cX2_ofLine 9 = .ok (.ireturn, 1) := dk_172 (dk_at dksX2_ofLine_0 9 rfl rfl)
theorem dX2_ofLine_10 : decode cX2_ofLine 10 = .ok (.iload_n 2, 1) := dk_28 (dk_at dksX2_ofLine_0 10 rfl rfl)
theorem dX2_ofLine_11 : decode cX2_ofLine 11 = .ok (.ifCond .ne 12, 3) := dk_154 0 12 (dk_at dksX2_ofLine_0 11 rfl rfl)
theorem dX2_ofLine_14 : decode cX2_ofLine 14 = .ok (.aload_n 0, 1) := dk_42 (dk_at dksX2_ofLine_0 14 rfl rfl)
theorem dX2_ofLine_15 : decode cX2_ofLine 15 = .ok (.getfield 34, 3) := dk_180 0 34 (dk_at dksX2_ofLine_0 15 rfl rfl)
theorem dX2_ofLine_18 : decode cX2_ofLine 18 = .ok (.iload_n 1, 1) := dk_27 (dk_at dksX2_ofLine_0 18 rfl rfl)
theorem dX2_ofLine_19 : decode cX2_ofLine 19 = .ok (.iaload, 1) := dk_46 (dk_at dksX2_ofLine_0 19 rfl rfl)
theorem dX2_ofLine_20 : decode cX2_ofLine 20 = .ok (.goto 33, 3) := dk_167 0 33 (dk_at dksX2_ofLine_0 20 rfl rfl)
theorem dX2_ofLine_23 : decode cX2_ofLine 23 = .ok (.iload_n 2, 1) := dk_28 (dk_at dksX2_ofLine_0 23 rfl rfl)
theorem dX2_ofLine_24 : decode cX2_ofLine 24 = .ok (.iconst 1, 1) := dk_4 (dk_at dksX2_ofLine_1 0 rfl rfl)
theorem dX2_ofLine_25 : decode cX2_ofLine 25 = .ok (.if_icmp .ne 12, 3) := dk_160 0 12 (dk_at dksX2_ofLine_1 1 rfl rfl)
theorem dX2_ofLine_28 : decode cX2_ofLine 28 = .ok (.aload_n 0, 1) := dk_42 (dk_at dksX2_ofLine_1 4 rfl rfl)
theorem dX2_ofLine_29 : decode cX2_ofLine 29 = .ok (.getfield 37, 3) := dk_180 0 37 (dk_at dksX2_ofLine_1 5 rfl rfl)
theorem dX2_ofLine_32 : decode cX2_ofLine 32 = .ok (.iload_n 1, 1) := dk_27 (dk_at dksX2_ofLine_1 8 rfl rfl)
theorem dX2_ofLine_33 : decode cX2_ofLine 33 = .ok (.iaload, 1) := dk_46 (dk_at dksX2_ofLine_1 9 rfl rfl)
theorem dX2_ofLine_34 : decode cX2_ofLine 34 = .ok (.goto 19, 3) := dk_167 0 19 (dk_at dksX2_ofLine_1 10 rfl rfl)
theorem dX2_ofLine_37 : decode cX2_ofLine 37 = .ok (.iload_n 2, 1) := dk_28 (dk_at dksX2_ofLine_1 13 rfl rfl)
theorem dX2_ofLine_38 : decode cX2_ofLine 38 = .ok (.iconst 2, 1) := dk_5 (dk_at dksX2_ofLine_1 14 rfl rfl)
theorem dX2_ofLine_39 : decode cX2_ofLine 39 = .ok (.if_icmp .ne 12, 3) := dk_160 0 12 (dk_at dksX2_ofLine_1 15 rfl rfl)
theorem dX2_ofLine_42 : decode cX2_ofLine 42 = .ok (.aload_n 0, 1) := dk_42 (dk_at dksX2_ofLine_1 18 rfl rfl)
theorem dX2_ofLine_43 : decode cX2_ofLine 43 = .ok (.getfield 40, 3) := dk_180 0 40 (dk_at dksX2_ofLine_1 19 rfl rfl)
theorem dX2_ofLine_46 : decode cX2_ofLine 46 = .ok (.iload_n 1, 1) := dk_27 (dk_at dksX2_ofLine_1 22 rfl rfl)
theorem dX2_ofLine_47 : decode cX2_ofLine 47 = .ok (.iaload, 1) := dk_46 (dk_at dksX2_ofLine_1 23 rfl rfl)
theorem dX2_ofLine_48 : decode cX2_ofLine 48 = .ok (.goto 5, 3) := dk_167 0 5 (dk_at dksX2_ofLine_2 0 rfl rfl)
theorem dX2_ofLine_51 : decode cX2_ofLine 51 = .ok (.bipush (-2), 2) := dk_16 254 (dk_at dksX2_ofLine_2 3 rfl rfl)
theorem dX2_ofLine_53 : decode cX2_ofLine 53 = .ok (.ireturn, 1) := dk_172 (dk_at dksX2_ofLine_2 5 rfl rfl)
abbrev cX2_noLine : ByteArray := prog_8_method_23_code
def yX2_noLine : MethodName := ⟨RX2, "noLine", "(I)Z"⟩
def dkwX2_noLine_0 : List UInt8 := [27, 133, 9, 42, 180, 0, 172, 133, 10, 101, 184, 0, 105, 154, 0, 7, 4, 167, 0, 4, 3, 172]
abbrev dktX2_noLine_0 : List UInt8 := dkwX2_noLine_0 ++ []
theorem dksX2_noLine_0 : cX2_noLine.data.toList.drop 0 = dktX2_noLine_0 := by decide +kernel
theorem dX2_noLine_0 : decode cX2_noLine 0 = .ok (.iload_n 1, 1) := dk_27 (dk_at dksX2_noLine_0 0 rfl rfl)
theorem dX2_noLine_1 : decode cX2_noLine 1 = .ok (.i2l, 1) := dk_133 (dk_at dksX2_noLine_0 1 rfl rfl)
theorem dX2_noLine_2 : decode cX2_noLine 2 = .ok (.lconst 0, 1) := dk_9 (dk_at dksX2_noLine_0 2 rfl rfl)
theorem dX2_noLine_3 : decode cX2_noLine 3 = .ok (.aload_n 0, 1) := dk_42 (dk_at dksX2_noLine_0 3 rfl rfl)
theorem dX2_noLine_4 : decode cX2_noLine 4 = .ok (.getfield 172, 3) := dk_180 0 172 (dk_at dksX2_noLine_0 4 rfl rfl)
theorem dX2_noLine_7 : decode cX2_noLine 7 = .ok (.i2l, 1) := dk_133 (dk_at dksX2_noLine_0 7 rfl rfl)
theorem dX2_noLine_8 : decode cX2_noLine 8 = .ok (.lconst 1, 1) := dk_10 (dk_at dksX2_noLine_0 8 rfl rfl)
theorem dX2_noLine_9 : decode cX2_noLine 9 = .ok (.lsub, 1) := dk_101 (dk_at dksX2_noLine_0 9 rfl rfl)
theorem dX2_noLine_10 : decode cX2_noLine 10 = .ok (.invokestatic 105, 3) := dk_184 0 105 (dk_at dksX2_noLine_0 10 rfl rfl)
theorem dX2_noLine_13 : decode cX2_noLine 13 = .ok (.ifCond .ne 7, 3) := dk_154 0 7 (dk_at dksX2_noLine_0 13 rfl rfl)
theorem dX2_noLine_16 : decode cX2_noLine 16 = .ok (.iconst 1, 1) := dk_4 (dk_at dksX2_noLine_0 16 rfl rfl)
theorem dX2_noLine_17 : decode cX2_noLine 17 = .ok (.goto 4, 3) := dk_167 0 4 (dk_at dksX2_noLine_0 17 rfl rfl)
theorem dX2_noLine_20 : decode cX2_noLine 20 = .ok (.iconst 0, 1) := dk_3 (dk_at dksX2_noLine_0 20 rfl rfl)
theorem dX2_noLine_21 : decode cX2_noLine 21 = .ok (.ireturn, 1) := dk_172 (dk_at dksX2_noLine_0 21 rfl rfl)
abbrev cX2_hand : ByteArray := prog_8_method_27_code
def yX2_hand : MethodName := ⟨RX2, "hand", "(III)I"⟩
def dkwX2_hand_2 : List UInt8 := [28, 181, 0, 190, 42, 29, 181, 0, 193, 4, 172]
abbrev dktX2_hand_2 : List UInt8 := dkwX2_hand_2 ++ []
def dkwX2_hand_1 : List UInt8 := [153, 0, 15, 29, 133, 9, 20, 0, 185, 184, 0, 105, 154, 0, 6, 16, 254, 172, 42, 27, 181, 0, 187, 42]
abbrev dktX2_hand_1 : List UInt8 := dkwX2_hand_1 ++ dktX2_hand_2
def dkwX2_hand_0 : List UInt8 := [27, 133, 20, 0, 183, 20, 0, 122, 184, 0, 105, 153, 0, 27, 28, 133, 9, 20, 0, 122, 184, 0, 105]
abbrev dktX2_hand_0 : List UInt8 := dkwX2_hand_0 ++ dktX2_hand_1
theorem dksX2_hand_0 : cX2_hand.data.toList.drop 0 = dktX2_hand_0 := by decide +kernel
theorem dksX2_hand_1 : cX2_hand.data.toList.drop 23 = dktX2_hand_1 := dk_seg dksX2_hand_0 23 rfl rfl
theorem dksX2_hand_2 : cX2_hand.data.toList.drop 47 = dktX2_hand_2 := dk_seg dksX2_hand_1 24 rfl rfl
theorem dX2_hand_0 : decode cX2_hand 0 = .ok (.iload_n 1, 1) := dk_27 (dk_at dksX2_hand_0 0 rfl rfl)
theorem dX2_hand_1 : decode cX2_hand 1 = .ok (.i2l, 1) := dk_133 (dk_at dksX2_hand_0 1 rfl rfl)
theorem dX2_hand_2 : decode cX2_hand 2 = .ok (.ldc2_w 183, 3) := dk_20 0 183 (dk_at dksX2_hand_0 2 rfl rfl)
theorem dX2_hand_5 : decode cX2_hand 5 = .ok (.ldc2_w 122, 3) := dk_20 0 122 (dk_at dksX2_hand_0 5 rfl rfl)
theorem dX2_hand_8 : decode cX2_hand 8 = .ok (.invokestatic 105, 3) := dk_184 0 105 (dk_at dksX2_hand_0 8 rfl rfl)
theorem dX2_hand_11 : decode cX2_hand 11 = .ok (.ifCond .eq 27, 3) := dk_153 0 27 (dk_at dksX2_hand_0 11 rfl rfl)
theorem dX2_hand_14 : decode cX2_hand 14 = .ok (.iload_n 2, 1) := dk_28 (dk_at dksX2_hand_0 14 rfl rfl)
theorem dX2_hand_15 : decode cX2_hand 15 = .ok (.i2l, 1) := dk_133 (dk_at dksX2_hand_0 15 rfl rfl)
theorem dX2_hand_16 : decode cX2_hand 16 = .ok (.lconst 0, 1) := dk_9 (dk_at dksX2_hand_0 16 rfl rfl)
theorem dX2_hand_17 : decode cX2_hand 17 = .ok (.ldc2_w 122, 3) := dk_20 0 122 (dk_at dksX2_hand_0 17 rfl rfl)
theorem dX2_hand_20 : decode cX2_hand 20 = .ok (.invokestatic 105, 3) := dk_184 0 105 (dk_at dksX2_hand_0 20 rfl rfl)
theorem dX2_hand_23 : decode cX2_hand 23 = .ok (.ifCond .eq 15, 3) := dk_153 0 15 (dk_at dksX2_hand_1 0 rfl rfl)
theorem dX2_hand_26 : decode cX2_hand 26 = .ok (.iload_n 3, 1) := dk_29 (dk_at dksX2_hand_1 3 rfl rfl)
theorem dX2_hand_27 : decode cX2_hand 27 = .ok (.i2l, 1) := dk_133 (dk_at dksX2_hand_1 4 rfl rfl)
theorem dX2_hand_28 : decode cX2_hand 28 = .ok (.lconst 0, 1) := dk_9 (dk_at dksX2_hand_1 5 rfl rfl)
theorem dX2_hand_29 : decode cX2_hand 29 = .ok (.ldc2_w 185, 3) := dk_20 0 185 (dk_at dksX2_hand_1 6 rfl rfl)
theorem dX2_hand_32 : decode cX2_hand 32 = .ok (.invokestatic 105, 3) := dk_184 0 105 (dk_at dksX2_hand_1 9 rfl rfl)
theorem dX2_hand_35 : decode cX2_hand 35 = .ok (.ifCond .ne 6, 3) := dk_154 0 6 (dk_at dksX2_hand_1 12 rfl rfl)
theorem dX2_hand_38 : decode cX2_hand 38 = .ok (.bipush (-2), 2) := dk_16 254 (dk_at dksX2_hand_1 15 rfl rfl)
theorem dX2_hand_40 : decode cX2_hand 40 = .ok (.ireturn, 1) := dk_172 (dk_at dksX2_hand_1 17 rfl rfl)
theorem dX2_hand_41 : decode cX2_hand 41 = .ok (.aload_n 0, 1) := dk_42 (dk_at dksX2_hand_1 18 rfl rfl)
theorem dX2_hand_42 : decode cX2_hand 42 = .ok (.iload_n 1, 1) := dk_27 (dk_at dksX2_hand_1 19 rfl rfl)
theorem dX2_hand_43 : decode cX2_hand 43 = .ok (.putfield 187, 3) := dk_181 0 187 (dk_at dksX2_hand_1 20 rfl rfl)
theorem dX2_hand_46 : decode cX2_hand 46 = .ok (.aload_n 0, 1) := dk_42 (dk_at dksX2_hand_1 23 rfl rfl)
theorem dX2_hand_47 : decode cX2_hand 47 = .ok (.iload_n 2, 1) := dk_28 (dk_at dksX2_hand_2 0 rfl rfl)
theorem dX2_hand_48 : decode cX2_hand 48 = .ok (.putfield 190, 3) := dk_181 0 190 (dk_at dksX2_hand_2 1 rfl rfl)
theorem dX2_hand_51 : decode cX2_hand 51 = .ok (.aload_n 0, 1) := dk_42 (dk_at dksX2_hand_2 4 rfl rfl)
theorem dX2_hand_52 : decode cX2_hand 52 = .ok (.iload_n 3, 1) := dk_29 (dk_at dksX2_hand_2 5 rfl rfl)
theorem dX2_hand_53 : decode cX2_hand 53 = .ok (.putfield 193, 3) := dk_181 0 193 (dk_at dksX2_hand_2 6 rfl rfl)
theorem dX2_hand_56 : decode cX2_hand 56 = .ok (.iconst 1, 1) := dk_4 (dk_at dksX2_hand_2 9 rfl rfl)
theorem dX2_hand_57 : decode cX2_hand 57 = .ok (.ireturn, 1) := dk_172 (dk_at dksX2_hand_2 10 rfl rfl)
abbrev cX2_ofHand : ByteArray := prog_8_method_28_code
def yX2_ofHand : MethodName := ⟨RX2, "ofHand", "(I)I"⟩
def dkwX2_ofHand_1 : List UInt8 := [5, 160, 0, 10, 42, 180, 0, 193, 167, 0, 5, 16, 254, 172]
abbrev dktX2_ofHand_1 : List UInt8 := dkwX2_ofHand_1 ++ []
def dkwX2_ofHand_0 : List UInt8 := [27, 154, 0, 10, 42, 180, 0, 187, 167, 0, 29, 27, 4, 160, 0, 10, 42, 180, 0, 190, 167, 0, 17, 27]
abbrev dktX2_ofHand_0 : List UInt8 := dkwX2_ofHand_0 ++ dktX2_ofHand_1
theorem dksX2_ofHand_0 : cX2_ofHand.data.toList.drop 0 = dktX2_ofHand_0 := by decide +kernel
theorem dksX2_ofHand_1 : cX2_ofHand.data.toList.drop 24 = dktX2_ofHand_1 := dk_seg dksX2_ofHand_0 24 rfl rfl
theorem dX2_ofHand_0 : decode cX2_ofHand 0 = .ok (.iload_n 1, 1) := dk_27 (dk_at dksX2_ofHand_0 0 rfl rfl)
theorem dX2_ofHand_1 : decode cX2_ofHand 1 = .ok (.ifCond .ne 10, 3) := dk_154 0 10 (dk_at dksX2_ofHand_0 1 rfl rfl)
theorem dX2_ofHand_4 : decode cX2_ofHand 4 = .ok (.aload_n 0, 1) := dk_42 (dk_at dksX2_ofHand_0 4 rfl rfl)
theorem dX2_ofHand_5 : decode cX2_ofHand 5 = .ok (.getfield 187, 3) := dk_180 0 187 (dk_at dksX2_ofHand_0 5 rfl rfl)
theorem dX2_ofHand_8 : decode cX2_ofHand 8 = .ok (.goto 29, 3) := dk_167 0 29 (dk_at dksX2_ofHand_0 8 rfl rfl)
theorem dX2_ofHand_11 : decode cX2_ofHand 11 = .ok (.iload_n 1, 1) := dk_27 (dk_at dksX2_ofHand_0 11 rfl rfl)
theorem dX2_ofHand_12 : decode cX2_ofHand 12 = .ok (.iconst 1, 1) := dk_4 (dk_at dksX2_ofHand_0 12 rfl rfl)
theorem dX2_ofHand_13 : decode cX2_ofHand 13 = .ok (.if_icmp .ne 10, 3) := dk_160 0 10 (dk_at dksX2_ofHand_0 13 rfl rfl)
theorem dX2_ofHand_16 : decode cX2_ofHand 16 = .ok (.aload_n 0, 1) := dk_42 (dk_at dksX2_ofHand_0 16 rfl rfl)
theorem dX2_ofHand_17 : decode cX2_ofHand 17 = .ok (.getfield 190, 3) := dk_180 0 190 (dk_at dksX2_ofHand_0 17 rfl rfl)
theorem dX2_ofHand_20 : decode cX2_ofHand 20 = .ok (.goto 17, 3) := dk_167 0 17 (dk_at dksX2_ofHand_0 20 rfl rfl)
theorem dX2_ofHand_23 : decode cX2_ofHand 23 = .ok (.iload_n 1, 1) := dk_27 (dk_at dksX2_ofHand_0 23 rfl rfl)
theorem dX2_ofHand_24 : decode cX2_ofHand 24 = .ok (.iconst 2, 1) := dk_5 (dk_at dksX2_ofHand_1 0 rfl rfl)
theorem dX2_ofHand_25 : decode cX2_ofHand 25 = .ok (.if_icmp .ne 10, 3) := dk_160 0 10 (dk_at dksX2_ofHand_1 1 rfl rfl)
theorem dX2_ofHand_28 : decode cX2_ofHand 28 = .ok (.aload_n 0, 1) := dk_42 (dk_at dksX2_ofHand_1 4 rfl rfl)
theorem dX2_ofHand_29 : decode cX2_ofHand 29 = .ok (.getfield 193, 3) := dk_180 0 193 (dk_at dksX2_ofHand_1 5 rfl rfl)
theorem dX2_ofHand_32 : decode cX2_ofHand 32 = .ok (.goto 5, 3) := dk_167 0 5 (dk_at dksX2_ofHand_1 8 rfl rfl)
theorem dX2_ofHand_35 : decode cX2_ofHand 35 = .ok (.bipush (-2), 2) := dk_16 254 (dk_at dksX2_ofHand_1 11 rfl rfl)
theorem dX2_ofHand_37 : decode cX2_ofHand 37 = .ok (.ireturn, 1) := dk_172 (dk_at dksX2_ofHand_1 13 rfl rfl)
abbrev cX2_fence : ByteArray := prog_8_method_29_code
def yX2_fence : MethodName := ⟨RX2, "fence", "(I)I"⟩
def dkwX2_fence_1 : List UInt8 := [181, 0, 198, 28, 172]
abbrev dktX2_fence_1 : List UInt8 := dkwX2_fence_1 ++ []
def dkwX2_fence_0 : List UInt8 := [27, 133, 9, 20, 0, 196, 184, 0, 105, 154, 0, 6, 16, 254, 172, 42, 180, 0, 198, 61, 42, 27]
abbrev dktX2_fence_0 : List UInt8 := dkwX2_fence_0 ++ dktX2_fence_1
theorem dksX2_fence_0 : cX2_fence.data.toList.drop 0 = dktX2_fence_0 := by decide +kernel
theorem dksX2_fence_1 : cX2_fence.data.toList.drop 22 = dktX2_fence_1 := dk_seg dksX2_fence_0 22 rfl rfl
theorem dX2_fence_0 : decode cX2_fence 0 = .ok (.iload_n 1, 1) := dk_27 (dk_at dksX2_fence_0 0 rfl rfl)
theorem dX2_fence_1 : decode cX2_fence 1 = .ok (.i2l, 1) := dk_133 (dk_at dksX2_fence_0 1 rfl rfl)
theorem dX2_fence_2 : decode cX2_fence 2 = .ok (.lconst 0, 1) := dk_9 (dk_at dksX2_fence_0 2 rfl rfl)
theorem dX2_fence_3 : decode cX2_fence 3 = .ok (.ldc2_w 196, 3) := dk_20 0 196 (dk_at dksX2_fence_0 3 rfl rfl)
theorem dX2_fence_6 : decode cX2_fence 6 = .ok (.invokestatic 105, 3) := dk_184 0 105 (dk_at dksX2_fence_0 6 rfl rfl)
theorem dX2_fence_9 : decode cX2_fence 9 = .ok (.ifCond .ne 6, 3) := dk_154 0 6 (dk_at dksX2_fence_0 9 rfl rfl)
theorem dX2_fence_12 : decode cX2_fence 12 = .ok (.bipush (-2), 2) := dk_16 254 (dk_at dksX2_fence_0 12 rfl rfl)
theorem dX2_fence_14 : decode cX2_fence 14 = .ok (.ireturn, 1) := dk_172 (dk_at dksX2_fence_0 14 rfl rfl)
theorem dX2_fence_15 : decode cX2_fence 15 = .ok (.aload_n 0, 1) := dk_42 (dk_at dksX2_fence_0 15 rfl rfl)
theorem dX2_fence_16 : decode cX2_fence 16 = .ok (.getfield 198, 3) := dk_180 0 198 (dk_at dksX2_fence_0 16 rfl rfl)
theorem dX2_fence_19 : decode cX2_fence 19 = .ok (.istore_n 2, 1) := dk_61 (dk_at dksX2_fence_0 19 rfl rfl)
theorem dX2_fence_20 : decode cX2_fence 20 = .ok (.aload_n 0, 1) := dk_42 (dk_at dksX2_fence_0 20 rfl rfl)
theorem dX2_fence_21 : decode cX2_fence 21 = .ok (.iload_n 1, 1) := dk_27 (dk_at dksX2_fence_0 21 rfl rfl)
theorem dX2_fence_22 : decode cX2_fence 22 = .ok (.putfield 198, 3) := dk_181 0 198 (dk_at dksX2_fence_1 0 rfl rfl)
theorem dX2_fence_25 : decode cX2_fence 25 = .ok (.iload_n 2, 1) := dk_28 (dk_at dksX2_fence_1 3 rfl rfl)
theorem dX2_fence_26 : decode cX2_fence 26 = .ok (.ireturn, 1) := dk_172 (dk_at dksX2_fence_1 4 rfl rfl)
abbrev cX2_where : ByteArray := prog_8_method_33_code
def yX2_where : MethodName := ⟨RX2, "where", "(I)J"⟩
def dkwX2_where_1 : List UInt8 := [180, 0, 43, 27, 46, 133, 173]
abbrev dktX2_where_1 : List UInt8 := dkwX2_where_1 ++ []
def dkwX2_where_0 : List UInt8 := [42, 27, 182, 0, 180, 154, 0, 11, 42, 27, 182, 0, 213, 153, 0, 9, 184, 0, 91, 167, 0, 10, 42]
abbrev dktX2_where_0 : List UInt8 := dkwX2_where_0 ++ dktX2_where_1
theorem dksX2_where_0 : cX2_where.data.toList.drop 0 = dktX2_where_0 := by decide +kernel
theorem dksX2_where_1 : cX2_where.data.toList.drop 23 = dktX2_where_1 := dk_seg dksX2_where_0 23 rfl rfl
theorem dX2_where_0 : decode cX2_where 0 = .ok (.aload_n 0, 1) := dk_42 (dk_at dksX2_where_0 0 rfl rfl)
theorem dX2_where_1 : decode cX2_where 1 = .ok (.iload_n 1, 1) := dk_27 (dk_at dksX2_where_0 1 rfl rfl)
theorem dX2_where_2 : decode cX2_where 2 = .ok (.invokevirtual 180, 3) := dk_182 0 180 (dk_at dksX2_where_0 2 rfl rfl)
theorem dX2_where_5 : decode cX2_where 5 = .ok (.ifCond .ne 11, 3) := dk_154 0 11 (dk_at dksX2_where_0 5 rfl rfl)
theorem dX2_where_8 : decode cX2_where 8 = .ok (.aload_n 0, 1) := dk_42 (dk_at dksX2_where_0 8 rfl rfl)
theorem dX2_where_9 : decode cX2_where 9 = .ok (.iload_n 1, 1) := dk_27 (dk_at dksX2_where_0 9 rfl rfl)
theorem dX2_where_10 : decode cX2_where 10 = .ok (.invokevirtual 213, 3) := dk_182 0 213 (dk_at dksX2_where_0 10 rfl rfl)
theorem dX2_where_13 : decode cX2_where 13 = .ok (.ifCond .eq 9, 3) := dk_153 0 9 (dk_at dksX2_where_0 13 rfl rfl)
theorem dX2_where_16 : decode cX2_where 16 = .ok (.invokestatic 91, 3) := dk_184 0 91 (dk_at dksX2_where_0 16 rfl rfl)
theorem dX2_where_19 : decode cX2_where 19 = .ok (.goto 10, 3) := dk_167 0 10 (dk_at dksX2_where_0 19 rfl rfl)
theorem dX2_where_22 : decode cX2_where 22 = .ok (.aload_n 0, 1) := dk_42 (dk_at dksX2_where_0 22 rfl rfl)
theorem dX2_where_23 : decode cX2_where 23 = .ok (.getfield 43, 3) := dk_180 0 43 (dk_at dksX2_where_1 0 rfl rfl)
theorem dX2_where_26 : decode cX2_where 26 = .ok (.iload_n 1, 1) := dk_27 (dk_at dksX2_where_1 3 rfl rfl)
theorem dX2_where_27 : decode cX2_where 27 = .ok (.iaload, 1) := dk_46 (dk_at dksX2_where_1 4 rfl rfl)
theorem dX2_where_28 : decode cX2_where 28 = .ok (.i2l, 1) := dk_133 (dk_at dksX2_where_1 5 rfl rfl)
theorem dX2_where_29 : decode cX2_where 29 = .ok (.lreturn, 1) := dk_173 (dk_at dksX2_where_1 6 rfl rfl)
abbrev cX2_isUncut : ByteArray := prog_8_method_32_code
def yX2_isUncut : MethodName := ⟨RX2, "isUncut", "(I)Z"⟩
def dkwX2_isUncut_0 : List UInt8 := [42, 182, 0, 210, 27, 42, 180, 0, 201, 161, 0, 7, 4, 167, 0, 4, 3, 172]
abbrev dktX2_isUncut_0 : List UInt8 := dkwX2_isUncut_0 ++ []
theorem dksX2_isUncut_0 : cX2_isUncut.data.toList.drop 0 = dktX2_isUncut_0 := by decide +kernel
theorem dX2_isUncut_0 : decode cX2_isUncut 0 = .ok (.aload_n 0, 1) := dk_42 (dk_at dksX2_isUncut_0 0 rfl rfl)
theorem dX2_isUncut_1 : decode cX2_isUncut 1 = .ok (.invokevirtual 210, 3) := dk_182 0 210 (dk_at dksX2_isUncut_0 1 rfl rfl)
theorem dX2_isUncut_4 : decode cX2_isUncut 4 = .ok (.iload_n 1, 1) := dk_27 (dk_at dksX2_isUncut_0 4 rfl rfl)
theorem dX2_isUncut_5 : decode cX2_isUncut 5 = .ok (.aload_n 0, 1) := dk_42 (dk_at dksX2_isUncut_0 5 rfl rfl)
theorem dX2_isUncut_6 : decode cX2_isUncut 6 = .ok (.getfield 201, 3) := dk_180 0 201 (dk_at dksX2_isUncut_0 6 rfl rfl)
theorem dX2_isUncut_9 : decode cX2_isUncut 9 = .ok (.if_icmp .lt 7, 3) := dk_161 0 7 (dk_at dksX2_isUncut_0 9 rfl rfl)
theorem dX2_isUncut_12 : decode cX2_isUncut 12 = .ok (.iconst 1, 1) := dk_4 (dk_at dksX2_isUncut_0 12 rfl rfl)
theorem dX2_isUncut_13 : decode cX2_isUncut 13 = .ok (.goto 4, 3) := dk_167 0 4 (dk_at dksX2_isUncut_0 13 rfl rfl)
theorem dX2_isUncut_16 : decode cX2_isUncut 16 = .ok (.iconst 0, 1) := dk_3 (dk_at dksX2_isUncut_0 16 rfl rfl)
theorem dX2_isUncut_17 : decode cX2_isUncut 17 = .ok (.ireturn, 1) := dk_172 (dk_at dksX2_isUncut_0 17 rfl rfl)
abbrev cX2_cut : ByteArray := prog_8_method_30_code
def yX2_cut : MethodName := ⟨RX2, "cut", "()V"⟩
def dkwX2_cut_10 : List UInt8 := [89, 180, 0, 201, 4, 96, 181, 0, 201, 132, 5, 1, 167, 255, 43, 177]
abbrev dktX2_cut_10 : List UInt8 := dkwX2_cut_10 ++ []
def dkwX2_cut_9 : List UInt8 := [180, 0, 46, 21, 5, 21, 4, 79, 42, 42, 180, 0, 204, 29, 184, 0, 207, 184, 0, 161, 181, 0, 204, 42]
abbrev dktX2_cut_9 : List UInt8 := dkwX2_cut_9 ++ dktX2_cut_10
def dkwX2_cut_8 : List UInt8 := [180, 0, 198, 167, 0, 8, 42, 180, 0, 198, 116, 62, 3, 54, 4, 42, 180, 0, 43, 21, 5, 29, 79, 42]
abbrev dktX2_cut_8 : List UInt8 := dkwX2_cut_8 ++ dktX2_cut_9
def dkwX2_cut_7 : List UInt8 := [42, 180, 0, 198, 158, 0, 34, 29, 184, 0, 207, 42, 180, 0, 198, 164, 0, 23, 29, 158, 0, 10, 42]
abbrev dktX2_cut_7 : List UInt8 := dkwX2_cut_7 ++ dktX2_cut_8
def dkwX2_cut_6 : List UInt8 := [167, 0, 17, 21, 4, 16, 157, 162, 0, 8, 16, 157, 167, 0, 5, 21, 4, 54, 4, 29, 21, 4, 96, 62]
abbrev dktX2_cut_6 : List UInt8 := dkwX2_cut_6 ++ dktX2_cut_7
def dkwX2_cut_5 : List UInt8 := [180, 0, 190, 21, 7, 104, 16, 8, 108, 100, 96, 54, 4, 21, 4, 16, 99, 164, 0, 8, 16, 99]
abbrev dktX2_cut_5 : List UInt8 := dkwX2_cut_5 ++ dktX2_cut_6
def dkwX2_cut_4 : List UInt8 := [180, 0, 34, 21, 5, 46, 104, 108, 42, 180, 0, 37, 21, 5, 46, 96, 42, 180, 0, 187, 96, 42]
abbrev dktX2_cut_4 : List UInt8 := dkwX2_cut_4 ++ dktX2_cut_5
def dkwX2_cut_3 : List UInt8 := [156, 0, 7, 3, 167, 0, 10, 42, 180, 0, 43, 21, 6, 46, 54, 7, 21, 4, 27, 16, 10, 42]
abbrev dktX2_cut_3 : List UInt8 := dkwX2_cut_3 ++ dktX2_cut_4
def dkwX2_cut_2 : List UInt8 := [180, 0, 40, 21, 5, 46, 28, 163, 0, 192, 21, 5, 4, 100, 42, 180, 0, 193, 100, 54, 6, 21, 6]
abbrev dktX2_cut_2 : List UInt8 := dkwX2_cut_2 ++ dktX2_cut_3
def dkwX2_cut_1 : List UInt8 := [181, 0, 204, 3, 54, 5, 21, 5, 42, 180, 0, 172, 162, 0, 210, 42, 180, 0, 116, 158, 0, 203, 42]
abbrev dktX2_cut_1 : List UInt8 := dkwX2_cut_1 ++ dktX2_cut_2
def dkwX2_cut_0 : List UInt8 := [42, 182, 0, 165, 60, 42, 182, 0, 169, 61, 3, 62, 3, 54, 4, 42, 3, 181, 0, 201, 42, 3]
abbrev dktX2_cut_0 : List UInt8 := dkwX2_cut_0 ++ dktX2_cut_1
theorem dksX2_cut_0 : cX2_cut.data.toList.drop 0 = dktX2_cut_0 := by decide +kernel
theorem dksX2_cut_1 : cX2_cut.data.toList.drop 22 = dktX2_cut_1 := dk_seg dksX2_cut_0 22 rfl rfl
theorem dksX2_cut_2 : cX2_cut.data.toList.drop 45 = dktX2_cut_2 := dk_seg dksX2_cut_1 23 rfl rfl
theorem dksX2_cut_3 : cX2_cut.data.toList.drop 68 = dktX2_cut_3 := dk_seg dksX2_cut_2 23 rfl rfl
theorem dksX2_cut_4 : cX2_cut.data.toList.drop 90 = dktX2_cut_4 := dk_seg dksX2_cut_3 22 rfl rfl
theorem dksX2_cut_5 : cX2_cut.data.toList.drop 112 = dktX2_cut_5 := dk_seg dksX2_cut_4 22 rfl rfl
theorem dksX2_cut_6 : cX2_cut.data.toList.drop 134 = dktX2_cut_6 := dk_seg dksX2_cut_5 22 rfl rfl
theorem dksX2_cut_7 : cX2_cut.data.toList.drop 158 = dktX2_cut_7 := dk_seg dksX2_cut_6 24 rfl rfl
theorem dksX2_cut_8 : cX2_cut.data.toList.drop 181 = dktX2_cut_8 := dk_seg dksX2_cut_7 23 rfl rfl
theorem dksX2_cut_9 : cX2_cut.data.toList.drop 205 = dktX2_cut_9 := dk_seg dksX2_cut_8 24 rfl rfl
theorem dksX2_cut_10 : cX2_cut.data.toList.drop 229 = dktX2_cut_10 := dk_seg dksX2_cut_9 24 rfl rfl
theorem dX2_cut_0 : decode cX2_cut 0 = .ok (.aload_n 0, 1) := dk_42 (dk_at dksX2_cut_0 0 rfl rfl)
theorem dX2_cut_1 : decode cX2_cut 1 = .ok (.invokevirtual 165, 3) := dk_182 0 165 (dk_at dksX2_cut_0 1 rfl rfl)
theorem dX2_cut_4 : decode cX2_cut 4 = .ok (.istore_n 1, 1) := dk_60 (dk_at dksX2_cut_0 4 rfl rfl)
theorem dX2_cut_5 : decode cX2_cut 5 = .ok (.aload_n 0, 1) := dk_42 (dk_at dksX2_cut_0 5 rfl rfl)
theorem dX2_cut_6 : decode cX2_cut 6 = .ok (.invokevirtual 169, 3) := dk_182 0 169 (dk_at dksX2_cut_0 6 rfl rfl)
theorem dX2_cut_9 : decode cX2_cut 9 = .ok (.istore_n 2, 1) := dk_61 (dk_at dksX2_cut_0 9 rfl rfl)
theorem dX2_cut_10 : decode cX2_cut 10 = .ok (.iconst 0, 1) := dk_3 (dk_at dksX2_cut_0 10 rfl rfl)
theorem dX2_cut_11 : decode cX2_cut 11 = .ok (.istore_n 3, 1) := dk_62 (dk_at dksX2_cut_0 11 rfl rfl)
theorem dX2_cut_12 : decode cX2_cut 12 = .ok (.iconst 0, 1) := dk_3 (dk_at dksX2_cut_0 12 rfl rfl)
theorem dX2_cut_13 : decode cX2_cut 13 = .ok (.istore 4, 2) := dk_54 4 (dk_at dksX2_cut_0 13 rfl rfl)
theorem dX2_cut_15 : decode cX2_cut 15 = .ok (.aload_n 0, 1) := dk_42 (dk_at dksX2_cut_0 15 rfl rfl)
theorem dX2_cut_16 : decode cX2_cut 16 = .ok (.iconst 0, 1) := dk_3 (dk_at dksX2_cut_0 16 rfl rfl)
theorem dX2_cut_17 : decode cX2_cut 17 = .ok (.putfield 201, 3) := dk_181 0 201 (dk_at dksX2_cut_0 17 rfl rfl)
theorem dX2_cut_20 : decode cX2_cut 20 = .ok (.aload_n 0, 1) := dk_42 (dk_at dksX2_cut_0 20 rfl rfl)
theorem dX2_cut_21 : decode cX2_cut 21 = .ok (.iconst 0, 1) := dk_3 (dk_at dksX2_cut_0 21 rfl rfl)
theorem dX2_cut_22 : decode cX2_cut 22 = .ok (.putfield 204, 3) := dk_181 0 204 (dk_at dksX2_cut_1 0 rfl rfl)
theorem dX2_cut_25 : decode cX2_cut 25 = .ok (.iconst 0, 1) := dk_3 (dk_at dksX2_cut_1 3 rfl rfl)
theorem dX2_cut_26 : decode cX2_cut 26 = .ok (.istore 5, 2) := dk_54 5 (dk_at dksX2_cut_1 4 rfl rfl)
theorem dX2_cut_28 : decode cX2_cut 28 = .ok (.iload 5, 2) := dk_21 5 (dk_at dksX2_cut_1 6 rfl rfl)
theorem dX2_cut_30 : decode cX2_cut 30 = .ok (.aload_n 0, 1) := dk_42 (dk_at dksX2_cut_1 8 rfl rfl)
theorem dX2_cut_31 : decode cX2_cut 31 = .ok (.getfield 172, 3) := dk_180 0 172 (dk_at dksX2_cut_1 9 rfl rfl)
theorem dX2_cut_34 : decode cX2_cut 34 = .ok (.if_icmp .ge 210, 3) := dk_162 0 210 (dk_at dksX2_cut_1 12 rfl rfl)
theorem dX2_cut_37 : decode cX2_cut 37 = .ok (.aload_n 0, 1) := dk_42 (dk_at dksX2_cut_1 15 rfl rfl)
theorem dX2_cut_38 : decode cX2_cut 38 = .ok (.getfield 116, 3) := dk_180 0 116 (dk_at dksX2_cut_1 16 rfl rfl)
theorem dX2_cut_41 : decode cX2_cut 41 = .ok (.ifCond .le 203, 3) := dk_158 0 203 (dk_at dksX2_cut_1 19 rfl rfl)
theorem dX2_cut_44 : decode cX2_cut 44 = .ok (.aload_n 0, 1) := dk_42 (dk_at dksX2_cut_1 22 rfl rfl)
theorem dX2_cut_45 : decode cX2_cut 45 = .ok (.getfield 40, 3) := dk_180 0 40 (dk_at dksX2_cut_2 0 rfl rfl)
theorem dX2_cut_48 : decode cX2_cut 48 = .ok (.iload 5, 2) := dk_21 5 (dk_at dksX2_cut_2 3 rfl rfl)
theorem dX2_cut_50 : decode cX2_cut 50 = .ok (.iaload, 1) := dk_46 (dk_at dksX2_cut_2 5 rfl rfl)
theorem dX2_cut_51 : decode cX2_cut 51 = .ok (.iload_n 2, 1) := dk_28 (dk_at dksX2_cut_2 6 rfl rfl)
theorem dX2_cut_52 : decode cX2_cut 52 = .ok (.if_icmp .gt 192, 3) := dk_163 0 192 (dk_at dksX2_cut_2 7 rfl rfl)
theorem dX2_cut_55 : decode cX2_cut 55 = .ok (.iload 5, 2) := dk_21 5 (dk_at dksX2_cut_2 10 rfl rfl)
theorem dX2_cut_57 : decode cX2_cut 57 = .ok (.iconst 1, 1) := dk_4 (dk_at dksX2_cut_2 12 rfl rfl)
theorem dX2_cut_58 : decode cX2_cut 58 = .ok (.isub, 1) := dk_100 (dk_at dksX2_cut_2 13 rfl rfl)
theorem dX2_cut_59 : decode cX2_cut 59 = .ok (.aload_n 0, 1) := dk_42 (dk_at dksX2_cut_2 14 rfl rfl)
theorem dX2_cut_60 : decode cX2_cut 60 = .ok (.getfield 193, 3) := dk_180 0 193 (dk_at dksX2_cut_2 15 rfl rfl)
theorem dX2_cut_63 : decode cX2_cut 63 = .ok (.isub, 1) := dk_100 (dk_at dksX2_cut_2 18 rfl rfl)
theorem dX2_cut_64 : decode cX2_cut 64 = .ok (.istore 6, 2) := dk_54 6 (dk_at dksX2_cut_2 19 rfl rfl)
theorem dX2_cut_66 : decode cX2_cut 66 = .ok (.iload 6, 2) := dk_21 6 (dk_at dksX2_cut_2 21 rfl rfl)
theorem dX2_cut_68 : decode cX2_cut 68 = .ok (.ifCond .ge 7, 3) := dk_156 0 7 (dk_at dksX2_cut_3 0 rfl rfl)
theorem dX2_cut_71 : decode cX2_cut 71 = .ok (.iconst 0, 1) := dk_3 (dk_at dksX2_cut_3 3 rfl rfl)
theorem dX2_cut_72 : decode cX2_cut 72 = .ok (.goto 10, 3) := dk_167 0 10 (dk_at dksX2_cut_3 4 rfl rfl)
theorem dX2_cut_75 : decode cX2_cut 75 = .ok (.aload_n 0, 1) := dk_42 (dk_at dksX2_cut_3 7 rfl rfl)
theorem dX2_cut_76 : decode cX2_cut 76 = .ok (.getfield 43, 3) := dk_180 0 43 (dk_at dksX2_cut_3 8 rfl rfl)
theorem dX2_cut_79 : decode cX2_cut 79 = .ok (.iload 6, 2) := dk_21 6 (dk_at dksX2_cut_3 11 rfl rfl)
theorem dX2_cut_81 : decode cX2_cut 81 = .ok (.iaload, 1) := dk_46 (dk_at dksX2_cut_3 13 rfl rfl)
theorem dX2_cut_82 : decode cX2_cut 82 = .ok (.istore 7, 2) := dk_54 7 (dk_at dksX2_cut_3 14 rfl rfl)
theorem dX2_cut_84 : decode cX2_cut 84 = .ok (.iload 4, 2) := dk_21 4 (dk_at dksX2_cut_3 16 rfl rfl)
theorem dX2_cut_86 : decode cX2_cut 86 = .ok (.iload_n 1, 1) := dk_27 (dk_at dksX2_cut_3 18 rfl rfl)
theorem dX2_cut_87 : decode cX2_cut 87 = .ok (.bipush 10, 2) := dk_16 10 (dk_at dksX2_cut_3 19 rfl rfl)
theorem dX2_cut_89 : decode cX2_cut 89 = .ok (.aload_n 0, 1) := dk_42 (dk_at dksX2_cut_3 21 rfl rfl)
theorem dX2_cut_90 : decode cX2_cut 90 = .ok (.getfield 34, 3) := dk_180 0 34 (dk_at dksX2_cut_4 0 rfl rfl)
theorem dX2_cut_93 : decode cX2_cut 93 = .ok (.iload 5, 2) := dk_21 5 (dk_at dksX2_cut_4 3 rfl rfl)
theorem dX2_cut_95 : decode cX2_cut 95 = .ok (.iaload, 1) := dk_46 (dk_at dksX2_cut_4 5 rfl rfl)
theorem dX2_cut_96 : decode cX2_cut 96 = .ok (.imul, 1) := dk_104 (dk_at dksX2_cut_4 6 rfl rfl)
theorem dX2_cut_97 : decode cX2_cut 97 = .ok (.idiv, 1) := dk_108 (dk_at dksX2_cut_4 7 rfl rfl)
theorem dX2_cut_98 : decode cX2_cut 98 = .ok (.aload_n 0, 1) := dk_42 (dk_at dksX2_cut_4 8 rfl rfl)
theorem dX2_cut_99 : decode cX2_cut 99 = .ok (.getfield 37, 3) := dk_180 0 37 (dk_at dksX2_cut_4 9 rfl rfl)
theorem dX2_cut_102 : decode cX2_cut 102 = .ok (.iload 5, 2) := dk_21 5 (dk_at dksX2_cut_4 12 rfl rfl)
theorem dX2_cut_104 : decode cX2_cut 104 = .ok (.iaload, 1) := dk_46 (dk_at dksX2_cut_4 14 rfl rfl)
theorem dX2_cut_105 : decode cX2_cut 105 = .ok (.iadd, 1) := dk_96 (dk_at dksX2_cut_4 15 rfl rfl)
theorem dX2_cut_106 : decode cX2_cut 106 = .ok (.aload_n 0, 1) := dk_42 (dk_at dksX2_cut_4 16 rfl rfl)
theorem dX2_cut_107 : decode cX2_cut 107 = .ok (.getfield 187, 3) := dk_180 0 187 (dk_at dksX2_cut_4 17 rfl rfl)
theorem dX2_cut_110 : decode cX2_cut 110 = .ok (.iadd, 1) := dk_96 (dk_at dksX2_cut_4 20 rfl rfl)
theorem dX2_cut_111 : decode cX2_cut 111 = .ok (.aload_n 0, 1) := dk_42 (dk_at dksX2_cut_4 21 rfl rfl)
theorem dX2_cut_112 : decode cX2_cut 112 = .ok (.getfield 190, 3) := dk_180 0 190 (dk_at dksX2_cut_5 0 rfl rfl)
theorem dX2_cut_115 : decode cX2_cut 115 = .ok (.iload 7, 2) := dk_21 7 (dk_at dksX2_cut_5 3 rfl rfl)
theorem dX2_cut_117 : decode cX2_cut 117 = .ok (.imul, 1) := dk_104 (dk_at dksX2_cut_5 5 rfl rfl)
theorem dX2_cut_118 : decode cX2_cut 118 = .ok (.bipush 8, 2) := dk_16 8 (dk_at dksX2_cut_5 6 rfl rfl)
theorem dX2_cut_120 : decode cX2_cut 120 = .ok (.idiv, 1) := dk_108 (dk_at dksX2_cut_5 8 rfl rfl)
theorem dX2_cut_121 : decode cX2_cut 121 = .ok (.isub, 1) := dk_100 (dk_at dksX2_cut_5 9 rfl rfl)
theorem dX2_cut_122 : decode cX2_cut 122 = .ok (.iadd, 1) := dk_96 (dk_at dksX2_cut_5 10 rfl rfl)
theorem dX2_cut_123 : decode cX2_cut 123 = .ok (.istore 4, 2) := dk_54 4 (dk_at dksX2_cut_5 11 rfl rfl)
theorem dX2_cut_125 : decode cX2_cut 125 = .ok (.iload 4, 2) := dk_21 4 (dk_at dksX2_cut_5 13 rfl rfl)
theorem dX2_cut_127 : decode cX2_cut 127 = .ok (.bipush 99, 2) := dk_16 99 (dk_at dksX2_cut_5 15 rfl rfl)
theorem dX2_cut_129 : decode cX2_cut 129 = .ok (.if_icmp .le 8, 3) := dk_164 0 8 (dk_at dksX2_cut_5 17 rfl rfl)
theorem dX2_cut_132 : decode cX2_cut 132 = .ok (.bipush 99, 2) := dk_16 99 (dk_at dksX2_cut_5 20 rfl rfl)
theorem dX2_cut_134 : decode cX2_cut 134 = .ok (.goto 17, 3) := dk_167 0 17 (dk_at dksX2_cut_6 0 rfl rfl)
theorem dX2_cut_137 : decode cX2_cut 137 = .ok (.iload 4, 2) := dk_21 4 (dk_at dksX2_cut_6 3 rfl rfl)
theorem dX2_cut_139 : decode cX2_cut 139 = .ok (.bipush (-99), 2) := dk_16 157 (dk_at dksX2_cut_6 5 rfl rfl)
theorem dX2_cut_141 : decode cX2_cut 141 = .ok (.if_icmp .ge 8, 3) := dk_162 0 8 (dk_at dksX2_cut_6 7 rfl rfl)
theorem dX2_cut_144 : decode cX2_cut 144 = .ok (.bipush (-99), 2) := dk_16 157 (dk_at dksX2_cut_6 10 rfl rfl)
theorem dX2_cut_146 : decode cX2_cut 146 = .ok (.goto 5, 3) := dk_167 0 5 (dk_at dksX2_cut_6 12 rfl rfl)
theorem dX2_cut_149 : decode cX2_cut 149 = .ok (.iload 4, 2) := dk_21 4 (dk_at dksX2_cut_6 15 rfl rfl)
theorem dX2_cut_151 : decode cX2_cut 151 = .ok (.istore 4, 2) := dk_54 4 (dk_at dksX2_cut_6 17 rfl rfl)
theorem dX2_cut_153 : decode cX2_cut 153 = .ok (.iload_n 3, 1) := dk_29 (dk_at dksX2_cut_6 19 rfl rfl)
theorem dX2_cut_154 : decode cX2_cut 154 = .ok (.iload 4, 2) := dk_21 4 (dk_at dksX2_cut_6 20 rfl rfl)
theorem dX2_cut_156 : decode cX2_cut 156 = .ok (.iadd, 1) := dk_96 (dk_at dksX2_cut_6 22 rfl rfl)
theorem dX2_cut_157 : decode cX2_cut 157 = .ok (.istore_n 3, 1) := dk_62 (dk_at dksX2_cut_6 23 rfl rfl)
theorem dX2_cut_158 : decode cX2_cut 158 = .ok (.aload_n 0, 1) := dk_42 (dk_at dksX2_cut_7 0 rfl rfl)
theorem dX2_cut_159 : decode cX2_cut 159 = .ok (.getfield 198, 3) := dk_180 0 198 (dk_at dksX2_cut_7 1 rfl rfl)
theorem dX2_cut_162 : decode cX2_cut 162 = .ok (.ifCond .le 34, 3) := dk_158 0 34 (dk_at dksX2_cut_7 4 rfl rfl)
theorem dX2_cut_165 : decode cX2_cut 165 = .ok (.iload_n 3, 1) := dk_29 (dk_at dksX2_cut_7 7 rfl rfl)
theorem dX2_cut_166 : decode cX2_cut 166 = .ok (.invokestatic 207, 3) := dk_184 0 207 (dk_at dksX2_cut_7 8 rfl rfl)
theorem dX2_cut_169 : decode cX2_cut 169 = .ok (.aload_n 0, 1) := dk_42 (dk_at dksX2_cut_7 11 rfl rfl)
theorem dX2_cut_170 : decode cX2_cut 170 = .ok (.getfield 198, 3) := dk_180 0 198 (dk_at dksX2_cut_7 12 rfl rfl)
theorem dX2_cut_173 : decode cX2_cut 173 = .ok (.if_icmp .le 23, 3) := dk_164 0 23 (dk_at dksX2_cut_7 15 rfl rfl)
theorem dX2_cut_176 : decode cX2_cut 176 = .ok (.iload_n 3, 1) := dk_29 (dk_at dksX2_cut_7 18 rfl rfl)
theorem dX2_cut_177 : decode cX2_cut 177 = .ok (.ifCond .le 10, 3) := dk_158 0 10 (dk_at dksX2_cut_7 19 rfl rfl)
theorem dX2_cut_180 : decode cX2_cut 180 = .ok (.aload_n 0, 1) := dk_42 (dk_at dksX2_cut_7 22 rfl rfl)
theorem dX2_cut_181 : decode cX2_cut 181 = .ok (.getfield 198, 3) := dk_180 0 198 (dk_at dksX2_cut_8 0 rfl rfl)
theorem dX2_cut_184 : decode cX2_cut 184 = .ok (.goto 8, 3) := dk_167 0 8 (dk_at dksX2_cut_8 3 rfl rfl)
theorem dX2_cut_187 : decode cX2_cut 187 = .ok (.aload_n 0, 1) := dk_42 (dk_at dksX2_cut_8 6 rfl rfl)
theorem dX2_cut_188 : decode cX2_cut 188 = .ok (.getfield 198, 3) := dk_180 0 198 (dk_at dksX2_cut_8 7 rfl rfl)
theorem dX2_cut_191 : decode cX2_cut 191 = .ok (.ineg, 1) := dk_116 (dk_at dksX2_cut_8 10 rfl rfl)
theorem dX2_cut_192 : decode cX2_cut 192 = .ok (.istore_n 3, 1) := dk_62 (dk_at dksX2_cut_8 11 rfl rfl)
theorem dX2_cut_193 : decode cX2_cut 193 = .ok (.iconst 0, 1) := dk_3 (dk_at dksX2_cut_8 12 rfl rfl)
theorem dX2_cut_194 : decode cX2_cut 194 = .ok (.istore 4, 2) := dk_54 4 (dk_at dksX2_cut_8 13 rfl rfl)
theorem dX2_cut_196 : decode cX2_cut 196 = .ok (.aload_n 0, 1) := dk_42 (dk_at dksX2_cut_8 15 rfl rfl)
theorem dX2_cut_197 : decode cX2_cut 197 = .ok (.getfield 43, 3) := dk_180 0 43 (dk_at dksX2_cut_8 16 rfl rfl)
theorem dX2_cut_200 : decode cX2_cut 200 = .ok (.iload 5, 2) := dk_21 5 (dk_at dksX2_cut_8 19 rfl rfl)
theorem dX2_cut_202 : decode cX2_cut 202 = .ok (.iload_n 3, 1) := dk_29 (dk_at dksX2_cut_8 21 rfl rfl)
theorem dX2_cut_203 : decode cX2_cut 203 = .ok (.iastore, 1) := dk_79 (dk_at dksX2_cut_8 22 rfl rfl)
theorem dX2_cut_204 : decode cX2_cut 204 = .ok (.aload_n 0, 1) := dk_42 (dk_at dksX2_cut_8 23 rfl rfl)
theorem dX2_cut_205 : decode cX2_cut 205 = .ok (.getfield 46, 3) := dk_180 0 46 (dk_at dksX2_cut_9 0 rfl rfl)
theorem dX2_cut_208 : decode cX2_cut 208 = .ok (.iload 5, 2) := dk_21 5 (dk_at dksX2_cut_9 3 rfl rfl)
theorem dX2_cut_210 : decode cX2_cut 210 = .ok (.iload 4, 2) := dk_21 4 (dk_at dksX2_cut_9 5 rfl rfl)
theorem dX2_cut_212 : decode cX2_cut 212 = .ok (.iastore, 1) := dk_79 (dk_at dksX2_cut_9 7 rfl rfl)
theorem dX2_cut_213 : decode cX2_cut 213 = .ok (.aload_n 0, 1) := dk_42 (dk_at dksX2_cut_9 8 rfl rfl)
theorem dX2_cut_214 : decode cX2_cut 214 = .ok (.aload_n 0, 1) := dk_42 (dk_at dksX2_cut_9 9 rfl rfl)
theorem dX2_cut_215 : decode cX2_cut 215 = .ok (.getfield 204, 3) := dk_180 0 204 (dk_at dksX2_cut_9 10 rfl rfl)
theorem dX2_cut_218 : decode cX2_cut 218 = .ok (.iload_n 3, 1) := dk_29 (dk_at dksX2_cut_9 13 rfl rfl)
theorem dX2_cut_219 : decode cX2_cut 219 = .ok (.invokestatic 207, 3) := dk_184 0 207 (dk_at dksX2_cut_9 14 rfl rfl)
theorem dX2_cut_222 : decode cX2_cut 222 = .ok (.invokestatic 161, 3) := dk_184 0 161 (dk_at dksX2_cut_9 17 rfl rfl)
theorem dX2_cut_225 : decode cX2_cut 225 = .ok (.putfield 204, 3) := dk_181 0 204 (dk_at dksX2_cut_9 20 rfl rfl)
theorem dX2_cut_228 : decode cX2_cut 228 = .ok (.aload_n 0, 1) := dk_42 (dk_at dksX2_cut_9 23 rfl rfl)
theorem dX2_cut_229 : decode cX2_cut 229 = .ok (.dup, 1) := dk_89 (dk_at dksX2_cut_10 0 rfl rfl)
theorem dX2_cut_230 : decode cX2_cut 230 = .ok (.getfield 201, 3) := dk_180 0 201 (dk_at dksX2_cut_10 1 rfl rfl)
theorem dX2_cut_233 : decode cX2_cut 233 = .ok (.iconst 1, 1) := dk_4 (dk_at dksX2_cut_10 4 rfl rfl)
theorem dX2_cut_234 : decode cX2_cut 234 = .ok (.iadd, 1) := dk_96 (dk_at dksX2_cut_10 5 rfl rfl)
theorem dX2_cut_235 : decode cX2_cut 235 = .ok (.putfield 201, 3) := dk_181 0 201 (dk_at dksX2_cut_10 6 rfl rfl)
theorem dX2_cut_238 : decode cX2_cut 238 = .ok (.iinc 5 1, 3) := dk_132 5 1 (dk_at dksX2_cut_10 9 rfl rfl)
theorem dX2_cut_241 : decode cX2_cut 241 = .ok (.goto (-213), 3) := dk_167 255 43 (dk_at dksX2_cut_10 12 rfl rfl)
theorem dX2_cut_244 : decode cX2_cut 244 = .ok (.return_, 1) := dk_177 (dk_at dksX2_cut_10 15 rfl rfl)
abbrev cX2_size : ByteArray := prog_8_method_5_code
def yX2_size : MethodName := ⟨RX2, "size", "(I)I"⟩
def dkwX2_size_0 : List UInt8 := [26, 156, 0, 8, 26, 116, 167, 0, 4, 26, 172]
abbrev dktX2_size_0 : List UInt8 := dkwX2_size_0 ++ []
theorem dksX2_size_0 : cX2_size.data.toList.drop 0 = dktX2_size_0 := by decide +kernel
theorem dX2_size_0 : decode cX2_size 0 = .ok (.iload_n 0, 1) := dk_26 (dk_at dksX2_size_0 0 rfl rfl)
theorem dX2_size_1 : decode cX2_size 1 = .ok (.ifCond .ge 8, 3) := dk_156 0 8 (dk_at dksX2_size_0 1 rfl rfl)
theorem dX2_size_4 : decode cX2_size 4 = .ok (.iload_n 0, 1) := dk_26 (dk_at dksX2_size_0 4 rfl rfl)
theorem dX2_size_5 : decode cX2_size 5 = .ok (.ineg, 1) := dk_116 (dk_at dksX2_size_0 5 rfl rfl)
theorem dX2_size_6 : decode cX2_size 6 = .ok (.goto 4, 3) := dk_167 0 4 (dk_at dksX2_size_0 6 rfl rfl)
theorem dX2_size_9 : decode cX2_size 9 = .ok (.iload_n 0, 1) := dk_26 (dk_at dksX2_size_0 9 rfl rfl)
theorem dX2_size_10 : decode cX2_size 10 = .ok (.ireturn, 1) := dk_172 (dk_at dksX2_size_0 10 rfl rfl)
abbrev cX2_lost : ByteArray := prog_8_method_3_code
def yX2_lost : MethodName := ⟨RX2, "lost", "()J"⟩
theorem dX2_lost_0 : decode cX2_lost 0 = .ok (.ldc2_w 85, 3) := by decide +kernel
theorem dX2_lost_3 : decode cX2_lost 3 = .ok (.lreturn, 1) := by decide +kernel
abbrev cX2_heading : ByteArray := prog_8_method_34_code
def yX2_heading : MethodName := ⟨RX2, "heading", "(I)J"⟩
def dkwX2_heading_1 : List UInt8 := [180, 0, 46, 27, 46, 133, 173]
abbrev dktX2_heading_1 : List UInt8 := dkwX2_heading_1 ++ []
def dkwX2_heading_0 : List UInt8 := [42, 27, 182, 0, 180, 154, 0, 11, 42, 27, 182, 0, 213, 153, 0, 9, 184, 0, 91, 167, 0, 10, 42]
abbrev dktX2_heading_0 : List UInt8 := dkwX2_heading_0 ++ dktX2_heading_1
theorem dksX2_heading_0 : cX2_heading.data.toList.drop 0 = dktX2_heading_0 := by decide +kernel
theorem dksX2_heading_1 : cX2_heading.data.toList.drop 23 = dktX2_heading_1 := dk_seg dksX2_heading_0 23 rfl rfl
theorem dX2_heading_0 : decode cX2_heading 0 = .ok (.aload_n 0, 1) := dk_42 (dk_at dksX2_heading_0 0 rfl rfl)
theorem dX2_heading_1 : decode cX2_heading 1 = .ok (.iload_n 1, 1) := dk_27 (dk_at dksX2_heading_0 1 rfl rfl)
theorem dX2_heading_2 : decode cX2_heading 2 = .ok (.invokevirtual 180, 3) := dk_182 0 180 (dk_at dksX2_heading_0 2 rfl rfl)
theorem dX2_heading_5 : decode cX2_heading 5 = .ok (.ifCond .ne 11, 3) := dk_154 0 11 (dk_at dksX2_heading_0 5 rfl rfl)
theorem dX2_heading_8 : decode cX2_heading 8 = .ok (.aload_n 0, 1) := dk_42 (dk_at dksX2_heading_0 8 rfl rfl)
theorem dX2_heading_9 : decode cX2_heading 9 = .ok (.iload_n 1, 1) := dk_27 (dk_at dksX2_heading_0 9 rfl rfl)
theorem dX2_heading_10 : decode cX2_heading 10 = .ok (.invokevirtual 213, 3) := dk_182 0 213 (dk_at dksX2_heading_0 10 rfl rfl)
theorem dX2_heading_13 : decode cX2_heading 13 = .ok (.ifCond .eq 9, 3) := dk_153 0 9 (dk_at dksX2_heading_0 13 rfl rfl)
theorem dX2_heading_16 : decode cX2_heading 16 = .ok (.invokestatic 91, 3) := dk_184 0 91 (dk_at dksX2_heading_0 16 rfl rfl)
theorem dX2_heading_19 : decode cX2_heading 19 = .ok (.goto 10, 3) := dk_167 0 10 (dk_at dksX2_heading_0 19 rfl rfl)
theorem dX2_heading_22 : decode cX2_heading 22 = .ok (.aload_n 0, 1) := dk_42 (dk_at dksX2_heading_0 22 rfl rfl)
theorem dX2_heading_23 : decode cX2_heading 23 = .ok (.getfield 46, 3) := dk_180 0 46 (dk_at dksX2_heading_1 0 rfl rfl)
theorem dX2_heading_26 : decode cX2_heading 26 = .ok (.iload_n 1, 1) := dk_27 (dk_at dksX2_heading_1 3 rfl rfl)
theorem dX2_heading_27 : decode cX2_heading 27 = .ok (.iaload, 1) := dk_46 (dk_at dksX2_heading_1 4 rfl rfl)
theorem dX2_heading_28 : decode cX2_heading 28 = .ok (.i2l, 1) := dk_133 (dk_at dksX2_heading_1 5 rfl rfl)
theorem dX2_heading_29 : decode cX2_heading 29 = .ok (.lreturn, 1) := dk_173 (dk_at dksX2_heading_1 6 rfl rfl)
abbrev cX2_off : ByteArray := prog_8_method_35_code
def yX2_off : MethodName := ⟨RX2, "off", "()I"⟩
def dkwX2_off_0 : List UInt8 := [42, 182, 0, 216, 153, 0, 6, 16, 253, 172, 42, 182, 0, 210, 42, 180, 0, 204, 172]
abbrev dktX2_off_0 : List UInt8 := dkwX2_off_0 ++ []
theorem dksX2_off_0 : cX2_off.data.toList.drop 0 = dktX2_off_0 := by decide +kernel
theorem dX2_off_0 : decode cX2_off 0 = .ok (.aload_n 0, 1) := dk_42 (dk_at dksX2_off_0 0 rfl rfl)
theorem dX2_off_1 : decode cX2_off 1 = .ok (.invokevirtual 216, 3) := dk_182 0 216 (dk_at dksX2_off_0 1 rfl rfl)
theorem dX2_off_4 : decode cX2_off 4 = .ok (.ifCond .eq 6, 3) := dk_153 0 6 (dk_at dksX2_off_0 4 rfl rfl)
theorem dX2_off_7 : decode cX2_off 7 = .ok (.bipush (-3), 2) := dk_16 253 (dk_at dksX2_off_0 7 rfl rfl)
theorem dX2_off_9 : decode cX2_off 9 = .ok (.ireturn, 1) := dk_172 (dk_at dksX2_off_0 9 rfl rfl)
theorem dX2_off_10 : decode cX2_off 10 = .ok (.aload_n 0, 1) := dk_42 (dk_at dksX2_off_0 10 rfl rfl)
theorem dX2_off_11 : decode cX2_off 11 = .ok (.invokevirtual 210, 3) := dk_182 0 210 (dk_at dksX2_off_0 11 rfl rfl)
theorem dX2_off_14 : decode cX2_off 14 = .ok (.aload_n 0, 1) := dk_42 (dk_at dksX2_off_0 14 rfl rfl)
theorem dX2_off_15 : decode cX2_off 15 = .ok (.getfield 204, 3) := dk_180 0 204 (dk_at dksX2_off_0 15 rfl rfl)
theorem dX2_off_18 : decode cX2_off 18 = .ok (.ireturn, 1) := dk_172 (dk_at dksX2_off_0 18 rfl rfl)
abbrev cX2_isBare : ByteArray := prog_8_method_31_code
def yX2_isBare : MethodName := ⟨RX2, "isBare", "()Z"⟩
def dkwX2_isBare_0 : List UInt8 := [42, 180, 0, 116, 153, 0, 10, 42, 180, 0, 172, 154, 0, 7, 4, 167, 0, 4, 3, 172]
abbrev dktX2_isBare_0 : List UInt8 := dkwX2_isBare_0 ++ []
theorem dksX2_isBare_0 : cX2_isBare.data.toList.drop 0 = dktX2_isBare_0 := by decide +kernel
theorem dX2_isBare_0 : decode cX2_isBare 0 = .ok (.aload_n 0, 1) := dk_42 (dk_at dksX2_isBare_0 0 rfl rfl)
theorem dX2_isBare_1 : decode cX2_isBare 1 = .ok (.getfield 116, 3) := dk_180 0 116 (dk_at dksX2_isBare_0 1 rfl rfl)
theorem dX2_isBare_4 : decode cX2_isBare 4 = .ok (.ifCond .eq 10, 3) := dk_153 0 10 (dk_at dksX2_isBare_0 4 rfl rfl)
theorem dX2_isBare_7 : decode cX2_isBare 7 = .ok (.aload_n 0, 1) := dk_42 (dk_at dksX2_isBare_0 7 rfl rfl)
theorem dX2_isBare_8 : decode cX2_isBare 8 = .ok (.getfield 172, 3) := dk_180 0 172 (dk_at dksX2_isBare_0 8 rfl rfl)
theorem dX2_isBare_11 : decode cX2_isBare 11 = .ok (.ifCond .ne 7, 3) := dk_154 0 7 (dk_at dksX2_isBare_0 11 rfl rfl)
theorem dX2_isBare_14 : decode cX2_isBare 14 = .ok (.iconst 1, 1) := dk_4 (dk_at dksX2_isBare_0 14 rfl rfl)
theorem dX2_isBare_15 : decode cX2_isBare 15 = .ok (.goto 4, 3) := dk_167 0 4 (dk_at dksX2_isBare_0 15 rfl rfl)
theorem dX2_isBare_18 : decode cX2_isBare 18 = .ok (.iconst 0, 1) := dk_3 (dk_at dksX2_isBare_0 18 rfl rfl)
theorem dX2_isBare_19 : decode cX2_isBare 19 = .ok (.ireturn, 1) := dk_172 (dk_at dksX2_isBare_0 19 rfl rfl)
abbrev cX2_pinched : ByteArray := prog_8_method_36_code
def yX2_pinched : MethodName := ⟨RX2, "pinched", "()I"⟩
def dkwX2_pinched_1 : List UInt8 := [162, 0, 10, 42, 180, 0, 201, 167, 0, 5, 16, 247, 172]
abbrev dktX2_pinched_1 : List UInt8 := dkwX2_pinched_1 ++ []
def dkwX2_pinched_0 : List UInt8 := [42, 182, 0, 216, 153, 0, 6, 16, 253, 172, 42, 182, 0, 210, 42, 180, 0, 201, 42, 180, 0, 172]
abbrev dktX2_pinched_0 : List UInt8 := dkwX2_pinched_0 ++ dktX2_pinched_1
theorem dksX2_pinched_0 : cX2_pinched.data.toList.drop 0 = dktX2_pinched_0 := by decide +kernel
theorem dksX2_pinched_1 : cX2_pinched.data.toList.drop 22 = dktX2_pinched_1 := dk_seg dksX2_pinched_0 22 rfl rfl
theorem dX2_pinched_0 : decode cX2_pinched 0 = .ok (.aload_n 0, 1) := dk_42 (dk_at dksX2_pinched_0 0 rfl rfl)
theorem dX2_pinched_1 : decode cX2_pinched 1 = .ok (.invokevirtual 216, 3) := dk_182 0 216 (dk_at dksX2_pinched_0 1 rfl rfl)
theorem dX2_pinched_4 : decode cX2_pinched 4 = .ok (.ifCond .eq 6, 3) := dk_153 0 6 (dk_at dksX2_pinched_0 4 rfl rfl)
theorem dX2_pinched_7 : decode cX2_pinched 7 = .ok (.bipush (-3), 2) := dk_16 253 (dk_at dksX2_pinched_0 7 rfl rfl)
theorem dX2_pinched_9 : decode cX2_pinched 9 = .ok (.ireturn, 1) := dk_172 (dk_at dksX2_pinched_0 9 rfl rfl)
theorem dX2_pinched_10 : decode cX2_pinched 10 = .ok (.aload_n 0, 1) := dk_42 (dk_at dksX2_pinched_0 10 rfl rfl)
theorem dX2_pinched_11 : decode cX2_pinched 11 = .ok (.invokevirtual 210, 3) := dk_182 0 210 (dk_at dksX2_pinched_0 11 rfl rfl)
theorem dX2_pinched_14 : decode cX2_pinched 14 = .ok (.aload_n 0, 1) := dk_42 (dk_at dksX2_pinched_0 14 rfl rfl)
theorem dX2_pinched_15 : decode cX2_pinched 15 = .ok (.getfield 201, 3) := dk_180 0 201 (dk_at dksX2_pinched_0 15 rfl rfl)
theorem dX2_pinched_18 : decode cX2_pinched 18 = .ok (.aload_n 0, 1) := dk_42 (dk_at dksX2_pinched_0 18 rfl rfl)
theorem dX2_pinched_19 : decode cX2_pinched 19 = .ok (.getfield 172, 3) := dk_180 0 172 (dk_at dksX2_pinched_0 19 rfl rfl)
theorem dX2_pinched_22 : decode cX2_pinched 22 = .ok (.if_icmp .ge 10, 3) := dk_162 0 10 (dk_at dksX2_pinched_1 0 rfl rfl)
theorem dX2_pinched_25 : decode cX2_pinched 25 = .ok (.aload_n 0, 1) := dk_42 (dk_at dksX2_pinched_1 3 rfl rfl)
theorem dX2_pinched_26 : decode cX2_pinched 26 = .ok (.getfield 201, 3) := dk_180 0 201 (dk_at dksX2_pinched_1 4 rfl rfl)
theorem dX2_pinched_29 : decode cX2_pinched 29 = .ok (.goto 5, 3) := dk_167 0 5 (dk_at dksX2_pinched_1 7 rfl rfl)
theorem dX2_pinched_32 : decode cX2_pinched 32 = .ok (.bipush (-9), 2) := dk_16 247 (dk_at dksX2_pinched_1 10 rfl rfl)
theorem dX2_pinched_34 : decode cX2_pinched 34 = .ok (.ireturn, 1) := dk_172 (dk_at dksX2_pinched_1 12 rfl rfl)
abbrev cX2_marks : ByteArray := prog_8_method_38_code
def yX2_marks : MethodName := ⟨RX2, "marks", "(I)I"⟩
def dkwX2_marks_5 : List UInt8 := [167, 255, 165, 28, 172]
abbrev dktX2_marks_5 : List UInt8 := dkwX2_marks_5 ++ []
def dkwX2_marks_4 : List UInt8 := [132, 5, 1, 167, 255, 210, 28, 21, 4, 153, 0, 7, 4, 167, 0, 4, 3, 96, 61, 132, 3, 1]
abbrev dktX2_marks_4 : List UInt8 := dkwX2_marks_4 ++ dktX2_marks_5
def dkwX2_marks_3 : List UInt8 := [21, 5, 3, 182, 0, 220, 42, 29, 3, 182, 0, 220, 159, 0, 7, 4, 167, 0, 4, 3, 54, 4]
abbrev dktX2_marks_3 : List UInt8 := dkwX2_marks_3 ++ dktX2_marks_4
def dkwX2_marks_2 : List UInt8 := [3, 54, 5, 21, 5, 29, 162, 0, 46, 21, 4, 153, 0, 32, 42, 21, 5, 182, 0, 148, 158, 0, 19, 42]
abbrev dktX2_marks_2 : List UInt8 := dkwX2_marks_2 ++ dktX2_marks_3
def dkwX2_marks_1 : List UInt8 := [62, 29, 42, 180, 0, 116, 162, 0, 89, 42, 29, 182, 0, 148, 158, 0, 7, 4, 167, 0, 4, 3, 54, 4]
abbrev dktX2_marks_1 : List UInt8 := dkwX2_marks_1 ++ dktX2_marks_2
def dkwX2_marks_0 : List UInt8 := [42, 27, 182, 0, 180, 153, 0, 5, 2, 172, 42, 27, 182, 0, 213, 153, 0, 6, 16, 253, 172, 3, 61, 3]
abbrev dktX2_marks_0 : List UInt8 := dkwX2_marks_0 ++ dktX2_marks_1
theorem dksX2_marks_0 : cX2_marks.data.toList.drop 0 = dktX2_marks_0 := by decide +kernel
theorem dksX2_marks_1 : cX2_marks.data.toList.drop 24 = dktX2_marks_1 := dk_seg dksX2_marks_0 24 rfl rfl
theorem dksX2_marks_2 : cX2_marks.data.toList.drop 48 = dktX2_marks_2 := dk_seg dksX2_marks_1 24 rfl rfl
theorem dksX2_marks_3 : cX2_marks.data.toList.drop 72 = dktX2_marks_3 := dk_seg dksX2_marks_2 24 rfl rfl
theorem dksX2_marks_4 : cX2_marks.data.toList.drop 94 = dktX2_marks_4 := dk_seg dksX2_marks_3 22 rfl rfl
theorem dksX2_marks_5 : cX2_marks.data.toList.drop 116 = dktX2_marks_5 := dk_seg dksX2_marks_4 22 rfl rfl
theorem dX2_marks_0 : decode cX2_marks 0 = .ok (.aload_n 0, 1) := dk_42 (dk_at dksX2_marks_0 0 rfl rfl)
theorem dX2_marks_1 : decode cX2_marks 1 = .ok (.iload_n 1, 1) := dk_27 (dk_at dksX2_marks_0 1 rfl rfl)
theorem dX2_marks_2 : decode cX2_marks 2 = .ok (.invokevirtual 180, 3) := dk_182 0 180 (dk_at dksX2_marks_0 2 rfl rfl)
theorem dX2_marks_5 : decode cX2_marks 5 = .ok (.ifCond .eq 5, 3) := dk_153 0 5 (dk_at dksX2_marks_0 5 rfl rfl)
theorem dX2_marks_8 : decode cX2_marks 8 = .ok (.iconst (-1), 1) := dk_2 (dk_at dksX2_marks_0 8 rfl rfl)
theorem dX2_marks_9 : decode cX2_marks 9 = .ok (.ireturn, 1) := dk_172 (dk_at dksX2_marks_0 9 rfl rfl)
theorem dX2_marks_10 : decode cX2_marks 10 = .ok (.aload_n 0, 1) := dk_42 (dk_at dksX2_marks_0 10 rfl rfl)
theorem dX2_marks_11 : decode cX2_marks 11 = .ok (.iload_n 1, 1) := dk_27 (dk_at dksX2_marks_0 11 rfl rfl)
theorem dX2_marks_12 : decode cX2_marks 12 = .ok (.invokevirtual 213, 3) := dk_182 0 213 (dk_at dksX2_marks_0 12 rfl rfl)
theorem dX2_marks_15 : decode cX2_marks 15 = .ok (.ifCond .eq 6, 3) := dk_153 0 6 (dk_at dksX2_marks_0 15 rfl rfl)
theorem dX2_marks_18 : decode cX2_marks 18 = .ok (.bipush (-3), 2) := dk_16 253 (dk_at dksX2_marks_0 18 rfl rfl)
theorem dX2_marks_20 : decode cX2_marks 20 = .ok (.ireturn, 1) := dk_172 (dk_at dksX2_marks_0 20 rfl rfl)
theorem dX2_marks_21 : decode cX2_marks 21 = .ok (.iconst 0, 1) := dk_3 (dk_at dksX2_marks_0 21 rfl rfl)
theorem dX2_marks_22 : decode cX2_marks 22 = .ok (.istore_n 2, 1) := dk_61 (dk_at dksX2_marks_0 22 rfl rfl)
theorem dX2_marks_23 : decode cX2_marks 23 = .ok (.iconst 0, 1) := dk_3 (dk_at dksX2_marks_0 23 rfl rfl)
theorem dX2_marks_24 : decode cX2_marks 24 = .ok (.istore_n 3, 1) := dk_62 (dk_at dksX2_marks_1 0 rfl rfl)
theorem dX2_marks_25 : decode cX2_marks 25 = .ok (.iload_n 3, 1) := dk_29 (dk_at dksX2_marks_1 1 rfl rfl)
theorem dX2_marks_26 : decode cX2_marks 26 = .ok (.aload_n 0, 1) := dk_42 (dk_at dksX2_marks_1 2 rfl rfl)
theorem dX2_marks_27 : decode cX2_marks 27 = .ok (.getfield 116, 3) := dk_180 0 116 (dk_at dksX2_marks_1 3 rfl rfl)
theorem dX2_marks_30 : decode cX2_marks 30 = .ok (.if_icmp .ge 89, 3) := dk_162 0 89 (dk_at dksX2_marks_1 6 rfl rfl)
theorem dX2_marks_33 : decode cX2_marks 33 = .ok (.aload_n 0, 1) := dk_42 (dk_at dksX2_marks_1 9 rfl rfl)
theorem dX2_marks_34 : decode cX2_marks 34 = .ok (.iload_n 3, 1) := dk_29 (dk_at dksX2_marks_1 10 rfl rfl)
theorem dX2_marks_35 : decode cX2_marks 35 = .ok (.invokevirtual 148, 3) := dk_182 0 148 (dk_at dksX2_marks_1 11 rfl rfl)
theorem dX2_marks_38 : decode cX2_marks 38 = .ok (.ifCond .le 7, 3) := dk_158 0 7 (dk_at dksX2_marks_1 14 rfl rfl)
theorem dX2_marks_41 : decode cX2_marks 41 = .ok (.iconst 1, 1) := dk_4 (dk_at dksX2_marks_1 17 rfl rfl)
theorem dX2_marks_42 : decode cX2_marks 42 = .ok (.goto 4, 3) := dk_167 0 4 (dk_at dksX2_marks_1 18 rfl rfl)
theorem dX2_marks_45 : decode cX2_marks 45 = .ok (.iconst 0, 1) := dk_3 (dk_at dksX2_marks_1 21 rfl rfl)
theorem dX2_marks_46 : decode cX2_marks 46 = .ok (.istore 4, 2) := dk_54 4 (dk_at dksX2_marks_1 22 rfl rfl)
theorem dX2_marks_48 : decode cX2_marks 48 = .ok (.iconst 0, 1) := dk_3 (dk_at dksX2_marks_2 0 rfl rfl)
theorem dX2_marks_49 : decode cX2_marks 49 = .ok (.istore 5, 2) := dk_54 5 (dk_at dksX2_marks_2 1 rfl rfl)
theorem dX2_marks_51 : decode cX2_marks 51 = .ok (.iload 5, 2) := dk_21 5 (dk_at dksX2_marks_2 3 rfl rfl)
theorem dX2_marks_53 : decode cX2_marks 53 = .ok (.iload_n 3, 1) := dk_29 (dk_at dksX2_marks_2 5 rfl rfl)
theorem dX2_marks_54 : decode cX2_marks 54 = .ok (.if_icmp .ge 46, 3) := dk_162 0 46 (dk_at dksX2_marks_2 6 rfl rfl)
theorem dX2_marks_57 : decode cX2_marks 57 = .ok (.iload 4, 2) := dk_21 4 (dk_at dksX2_marks_2 9 rfl rfl)
theorem dX2_marks_59 : decode cX2_marks 59 = .ok (.ifCond .eq 32, 3) := dk_153 0 32 (dk_at dksX2_marks_2 11 rfl rfl)
theorem dX2_marks_62 : decode cX2_marks 62 = .ok (.aload_n 0, 1) := dk_42 (dk_at dksX2_marks_2 14 rfl rfl)
theorem dX2_marks_63 : decode cX2_marks 63 = .ok (.iload 5, 2) := dk_21 5 (dk_at dksX2_marks_2 15 rfl rfl)
theorem dX2_marks_65 : decode cX2_marks 65 = .ok (.invokevirtual 148, 3) := dk_182 0 148 (dk_at dksX2_marks_2 17 rfl rfl)
theorem dX2_marks_68 : decode cX2_marks 68 = .ok (.ifCond .le 19, 3) := dk_158 0 19 (dk_at dksX2_marks_2 20 rfl rfl)
theorem dX2_marks_71 : decode cX2_marks 71 = .ok (.aload_n 0, 1) := dk_42 (dk_at dksX2_marks_2 23 rfl rfl)
theorem dX2_marks_72 : decode cX2_marks 72 = .ok (.iload 5, 2) := dk_21 5 (dk_at dksX2_marks_3 0 rfl rfl)
theorem dX2_marks_74 : decode cX2_marks 74 = .ok (.iconst 0, 1) := dk_3 (dk_at dksX2_marks_3 2 rfl rfl)
theorem dX2_marks_75 : decode cX2_marks 75 = .ok (.invokevirtual 220, 3) := dk_182 0 220 (dk_at dksX2_marks_3 3 rfl rfl)
theorem dX2_marks_78 : decode cX2_marks 78 = .ok (.aload_n 0, 1) := dk_42 (dk_at dksX2_marks_3 6 rfl rfl)
theorem dX2_marks_79 : decode cX2_marks 79 = .ok (.iload_n 3, 1) := dk_29 (dk_at dksX2_marks_3 7 rfl rfl)
theorem dX2_marks_80 : decode cX2_marks 80 = .ok (.iconst 0, 1) := dk_3 (dk_at dksX2_marks_3 8 rfl rfl)
theorem dX2_marks_81 : decode cX2_marks 81 = .ok (.invokevirtual 220, 3) := dk_182 0 220 (dk_at dksX2_marks_3 9 rfl rfl)
theorem dX2_marks_84 : decode cX2_marks 84 = .ok (.if_icmp .eq 7, 3) := dk_159 0 7 (dk_at dksX2_marks_3 12 rfl rfl)
theorem dX2_marks_87 : decode cX2_marks 87 = .ok (.iconst 1, 1) := dk_4 (dk_at dksX2_marks_3 15 rfl rfl)
theorem dX2_marks_88 : decode cX2_marks 88 = .ok (.goto 4, 3) := dk_167 0 4 (dk_at dksX2_marks_3 16 rfl rfl)
theorem dX2_marks_91 : decode cX2_marks 91 = .ok (.iconst 0, 1) := dk_3 (dk_at dksX2_marks_3 19 rfl rfl)
theorem dX2_marks_92 : decode cX2_marks 92 = .ok (.istore 4, 2) := dk_54 4 (dk_at dksX2_marks_3 20 rfl rfl)
theorem dX2_marks_94 : decode cX2_marks 94 = .ok (.iinc 5 1, 3) := dk_132 5 1 (dk_at dksX2_marks_4 0 rfl rfl)
theorem dX2_marks_97 : decode cX2_marks 97 = .ok (.goto (-46), 3) := dk_167 255 210 (dk_at dksX2_marks_4 3 rfl rfl)
theorem dX2_marks_100 : decode cX2_marks 100 = .ok (.iload_n 2, 1) := dk_28 (dk_at dksX2_marks_4 6 rfl rfl)
theorem dX2_marks_101 : decode cX2_marks 101 = .ok (.iload 4, 2) := dk_21 4 (dk_at dksX2_marks_4 7 rfl rfl)
theorem dX2_marks_103 : decode cX2_marks 103 = .ok (.ifCond .eq 7, 3) := dk_153 0 7 (dk_at dksX2_marks_4 9 rfl rfl)
theorem dX2_marks_106 : decode cX2_marks 106 = .ok (.iconst 1, 1) := dk_4 (dk_at dksX2_marks_4 12 rfl rfl)
theorem dX2_marks_107 : decode cX2_marks 107 = .ok (.goto 4, 3) := dk_167 0 4 (dk_at dksX2_marks_4 13 rfl rfl)
theorem dX2_marks_110 : decode cX2_marks 110 = .ok (.iconst 0, 1) := dk_3 (dk_at dksX2_marks_4 16 rfl rfl)
theorem dX2_marks_111 : decode cX2_marks 111 = .ok (.iadd, 1) := dk_96 (dk_at dksX2_marks_4 17 rfl rfl)
theorem dX2_marks_112 : decode cX2_marks 112 = .ok (.istore_n 2, 1) := dk_61 (dk_at dksX2_marks_4 18 rfl rfl)
theorem dX2_marks_113 : decode cX2_marks 113 = .ok (.iinc 3 1, 3) := dk_132 3 1 (dk_at dksX2_marks_4 19 rfl rfl)
theorem dX2_marks_116 : decode cX2_marks 116 = .ok (.goto (-91), 3) := dk_167 255 165 (dk_at dksX2_marks_5 0 rfl rfl)
theorem dX2_marks_119 : decode cX2_marks 119 = .ok (.iload_n 2, 1) := dk_28 (dk_at dksX2_marks_5 3 rfl rfl)
theorem dX2_marks_120 : decode cX2_marks 120 = .ok (.ireturn, 1) := dk_172 (dk_at dksX2_marks_5 4 rfl rfl)
abbrev cX2_markOf : ByteArray := prog_8_method_37_code
def yX2_markOf : MethodName := ⟨RX2, "markOf", "(II)I"⟩
def dkwX2_markOf_0 : List UInt8 := [28, 42, 180, 0, 13, 27, 46, 42, 180, 0, 16, 27, 46, 104, 96, 172]
abbrev dktX2_markOf_0 : List UInt8 := dkwX2_markOf_0 ++ []
theorem dksX2_markOf_0 : cX2_markOf.data.toList.drop 0 = dktX2_markOf_0 := by decide +kernel
theorem dX2_markOf_0 : decode cX2_markOf 0 = .ok (.iload_n 2, 1) := dk_28 (dk_at dksX2_markOf_0 0 rfl rfl)
theorem dX2_markOf_1 : decode cX2_markOf 1 = .ok (.aload_n 0, 1) := dk_42 (dk_at dksX2_markOf_0 1 rfl rfl)
theorem dX2_markOf_2 : decode cX2_markOf 2 = .ok (.getfield 13, 3) := dk_180 0 13 (dk_at dksX2_markOf_0 2 rfl rfl)
theorem dX2_markOf_5 : decode cX2_markOf 5 = .ok (.iload_n 1, 1) := dk_27 (dk_at dksX2_markOf_0 5 rfl rfl)
theorem dX2_markOf_6 : decode cX2_markOf 6 = .ok (.iaload, 1) := dk_46 (dk_at dksX2_markOf_0 6 rfl rfl)
theorem dX2_markOf_7 : decode cX2_markOf 7 = .ok (.aload_n 0, 1) := dk_42 (dk_at dksX2_markOf_0 7 rfl rfl)
theorem dX2_markOf_8 : decode cX2_markOf 8 = .ok (.getfield 16, 3) := dk_180 0 16 (dk_at dksX2_markOf_0 8 rfl rfl)
theorem dX2_markOf_11 : decode cX2_markOf 11 = .ok (.iload_n 1, 1) := dk_27 (dk_at dksX2_markOf_0 11 rfl rfl)
theorem dX2_markOf_12 : decode cX2_markOf 12 = .ok (.iaload, 1) := dk_46 (dk_at dksX2_markOf_0 12 rfl rfl)
theorem dX2_markOf_13 : decode cX2_markOf 13 = .ok (.imul, 1) := dk_104 (dk_at dksX2_markOf_0 13 rfl rfl)
theorem dX2_markOf_14 : decode cX2_markOf 14 = .ok (.iadd, 1) := dk_96 (dk_at dksX2_markOf_0 14 rfl rfl)
theorem dX2_markOf_15 : decode cX2_markOf 15 = .ok (.ireturn, 1) := dk_172 (dk_at dksX2_markOf_0 15 rfl rfl)
abbrev cX2_which : ByteArray := prog_8_method_39_code
def yX2_which : MethodName := ⟨RX2, "which", "(II)I"⟩
def dkwX2_which_3 : List UInt8 := [132, 4, 1, 167, 255, 208, 29, 172]
abbrev dktX2_which_3 : List UInt8 := dkwX2_which_3 ++ []
def dkwX2_which_2 : List UInt8 := [42, 180, 0, 43, 27, 46, 182, 0, 220, 28, 160, 0, 10, 4, 21, 4, 120, 167, 0, 4, 3, 128, 62]
abbrev dktX2_which_2 : List UInt8 := dkwX2_which_2 ++ dktX2_which_3
def dkwX2_which_1 : List UInt8 := [54, 4, 21, 4, 42, 180, 0, 116, 162, 0, 45, 29, 42, 21, 4, 182, 0, 148, 158, 0, 26, 42, 21, 4]
abbrev dktX2_which_1 : List UInt8 := dkwX2_which_1 ++ dktX2_which_2
def dkwX2_which_0 : List UInt8 := [42, 27, 182, 0, 180, 153, 0, 5, 2, 172, 42, 27, 182, 0, 213, 153, 0, 6, 16, 253, 172, 3, 62, 3]
abbrev dktX2_which_0 : List UInt8 := dkwX2_which_0 ++ dktX2_which_1
theorem dksX2_which_0 : cX2_which.data.toList.drop 0 = dktX2_which_0 := by decide +kernel
theorem dksX2_which_1 : cX2_which.data.toList.drop 24 = dktX2_which_1 := dk_seg dksX2_which_0 24 rfl rfl
theorem dksX2_which_2 : cX2_which.data.toList.drop 48 = dktX2_which_2 := dk_seg dksX2_which_1 24 rfl rfl
theorem dksX2_which_3 : cX2_which.data.toList.drop 71 = dktX2_which_3 := dk_seg dksX2_which_2 23 rfl rfl
theorem dX2_which_0 : decode cX2_which 0 = .ok (.aload_n 0, 1) := dk_42 (dk_at dksX2_which_0 0 rfl rfl)
theorem dX2_which_1 : decode cX2_which 1 = .ok (.iload_n 1, 1) := dk_27 (dk_at dksX2_which_0 1 rfl rfl)
theorem dX2_which_2 : decode cX2_which 2 = .ok (.invokevirtual 180, 3) := dk_182 0 180 (dk_at dksX2_which_0 2 rfl rfl)
theorem dX2_which_5 : decode cX2_which 5 = .ok (.ifCond .eq 5, 3) := dk_153 0 5 (dk_at dksX2_which_0 5 rfl rfl)
theorem dX2_which_8 : decode cX2_which 8 = .ok (.iconst (-1), 1) := dk_2 (dk_at dksX2_which_0 8 rfl rfl)
theorem dX2_which_9 : decode cX2_which 9 = .ok (.ireturn, 1) := dk_172 (dk_at dksX2_which_0 9 rfl rfl)
theorem dX2_which_10 : decode cX2_which 10 = .ok (.aload_n 0, 1) := dk_42 (dk_at dksX2_which_0 10 rfl rfl)
theorem dX2_which_11 : decode cX2_which 11 = .ok (.iload_n 1, 1) := dk_27 (dk_at dksX2_which_0 11 rfl rfl)
theorem dX2_which_12 : decode cX2_which 12 = .ok (.invokevirtual 213, 3) := dk_182 0 213 (dk_at dksX2_which_0 12 rfl rfl)
theorem dX2_which_15 : decode cX2_which 15 = .ok (.ifCond .eq 6, 3) := dk_153 0 6 (dk_at dksX2_which_0 15 rfl rfl)
theorem dX2_which_18 : decode cX2_which 18 = .ok (.bipush (-3), 2) := dk_16 253 (dk_at dksX2_which_0 18 rfl rfl)
theorem dX2_which_20 : decode cX2_which 20 = .ok (.ireturn, 1) := dk_172 (dk_at dksX2_which_0 20 rfl rfl)
theorem dX2_which_21 : decode cX2_which 21 = .ok (.iconst 0, 1) := dk_3 (dk_at dksX2_which_0 21 rfl rfl)
theorem dX2_which_22 : decode cX2_which 22 = .ok (.istore_n 3, 1) := dk_62 (dk_at dksX2_which_0 22 rfl rfl)
theorem dX2_which_23 : decode cX2_which 23 = .ok (.iconst 0, 1) := dk_3 (dk_at dksX2_which_0 23 rfl rfl)
theorem dX2_which_24 : decode cX2_which 24 = .ok (.istore 4, 2) := dk_54 4 (dk_at dksX2_which_1 0 rfl rfl)
theorem dX2_which_26 : decode cX2_which 26 = .ok (.iload 4, 2) := dk_21 4 (dk_at dksX2_which_1 2 rfl rfl)
theorem dX2_which_28 : decode cX2_which 28 = .ok (.aload_n 0, 1) := dk_42 (dk_at dksX2_which_1 4 rfl rfl)
theorem dX2_which_29 : decode cX2_which 29 = .ok (.getfield 116, 3) := dk_180 0 116 (dk_at dksX2_which_1 5 rfl rfl)
theorem dX2_which_32 : decode cX2_which 32 = .ok (.if_icmp .ge 45, 3) := dk_162 0 45 (dk_at dksX2_which_1 8 rfl rfl)
theorem dX2_which_35 : decode cX2_which 35 = .ok (.iload_n 3, 1) := dk_29 (dk_at dksX2_which_1 11 rfl rfl)
theorem dX2_which_36 : decode cX2_which 36 = .ok (.aload_n 0, 1) := dk_42 (dk_at dksX2_which_1 12 rfl rfl)
theorem dX2_which_37 : decode cX2_which 37 = .ok (.iload 4, 2) := dk_21 4 (dk_at dksX2_which_1 13 rfl rfl)
theorem dX2_which_39 : decode cX2_which 39 = .ok (.invokevirtual 148, 3) := dk_182 0 148 (dk_at dksX2_which_1 15 rfl rfl)
theorem dX2_which_42 : decode cX2_which 42 = .ok (.ifCond .le 26, 3) := dk_158 0 26 (dk_at dksX2_which_1 18 rfl rfl)
theorem dX2_which_45 : decode cX2_which 45 = .ok (.aload_n 0, 1) := dk_42 (dk_at dksX2_which_1 21 rfl rfl)
theorem dX2_which_46 : decode cX2_which 46 = .ok (.iload 4, 2) := dk_21 4 (dk_at dksX2_which_1 22 rfl rfl)
theorem dX2_which_48 : decode cX2_which 48 = .ok (.aload_n 0, 1) := dk_42 (dk_at dksX2_which_2 0 rfl rfl)
theorem dX2_which_49 : decode cX2_which 49 = .ok (.getfield 43, 3) := dk_180 0 43 (dk_at dksX2_which_2 1 rfl rfl)
theorem dX2_which_52 : decode cX2_which 52 = .ok (.iload_n 1, 1) := dk_27 (dk_at dksX2_which_2 4 rfl rfl)
theorem dX2_which_53 : decode cX2_which 53 = .ok (.iaload, 1) := dk_46 (dk_at dksX2_which_2 5 rfl rfl)
theorem dX2_which_54 : decode cX2_which 54 = .ok (.invokevirtual 220, 3) := dk_182 0 220 (dk_at dksX2_which_2 6 rfl rfl)
theorem dX2_which_57 : decode cX2_which 57 = .ok (.iload_n 2, 1) := dk_28 (dk_at dksX2_which_2 9 rfl rfl)
theorem dX2_which_58 : decode cX2_which 58 = .ok (.if_icmp .ne 10, 3) := dk_160 0 10 (dk_at dksX2_which_2 10 rfl rfl)
theorem dX2_which_61 : decode cX2_which 61 = .ok (.iconst 1, 1) := dk_4 (dk_at dksX2_which_2 13 rfl rfl)
theorem dX2_which_62 : decode cX2_which 62 = .ok (.iload 4, 2) := dk_21 4 (dk_at dksX2_which_2 14 rfl rfl)
theorem dX2_which_64 : decode cX2_which 64 = .ok (.ishl, 1) := dk_120 (dk_at dksX2_which_2 16 rfl rfl)
theorem dX2_which_65 : decode cX2_which 65 = .ok (.goto 4, 3) := dk_167 0 4 (dk_at dksX2_which_2 17 rfl rfl)
theorem dX2_which_68 : decode cX2_which 68 = .ok (.iconst 0, 1) := dk_3 (dk_at dksX2_which_2 20 rfl rfl)
theorem dX2_which_69 : decode cX2_which 69 = .ok (.ior, 1) := dk_128 (dk_at dksX2_which_2 21 rfl rfl)
theorem dX2_which_70 : decode cX2_which 70 = .ok (.istore_n 3, 1) := dk_62 (dk_at dksX2_which_2 22 rfl rfl)
theorem dX2_which_71 : decode cX2_which 71 = .ok (.iinc 4 1, 3) := dk_132 4 1 (dk_at dksX2_which_3 0 rfl rfl)
theorem dX2_which_74 : decode cX2_which 74 = .ok (.goto (-48), 3) := dk_167 255 208 (dk_at dksX2_which_3 3 rfl rfl)
theorem dX2_which_77 : decode cX2_which 77 = .ok (.iload_n 3, 1) := dk_29 (dk_at dksX2_which_3 6 rfl rfl)
theorem dX2_which_78 : decode cX2_which 78 = .ok (.ireturn, 1) := dk_172 (dk_at dksX2_which_3 7 rfl rfl)
abbrev cX2_straightest : ByteArray := prog_8_method_40_code
def yX2_straightest : MethodName := ⟨RX2, "straightest", "(I)I"⟩
def dkwX2_straightest_8 : List UInt8 := [167, 0, 5, 21, 5, 172]
abbrev dktX2_straightest_8 : List UInt8 := dkwX2_straightest_8 ++ []
def dkwX2_straightest_7 : List UInt8 := [28, 153, 0, 11, 42, 29, 181, 0, 187, 167, 0, 8, 42, 29, 181, 0, 190, 27, 5, 162, 0, 8, 21, 4]
abbrev dktX2_straightest_7 : List UInt8 := dkwX2_straightest_7 ++ dktX2_straightest_8
def dkwX2_straightest_6 : List UInt8 := [180, 0, 204, 21, 5, 162, 0, 13, 21, 7, 54, 4, 42, 180, 0, 204, 54, 5, 132, 6, 1, 167, 255, 157]
abbrev dktX2_straightest_6 : List UInt8 := dkwX2_straightest_6 ++ dktX2_straightest_7
def dkwX2_straightest_5 : List UInt8 := [21, 7, 181, 0, 187, 167, 0, 9, 42, 21, 7, 181, 0, 190, 42, 182, 0, 210, 21, 5, 155, 0, 12, 42]
abbrev dktX2_straightest_5 : List UInt8 := dkwX2_straightest_5 ++ dktX2_straightest_6
def dkwX2_straightest_4 : List UInt8 := [160, 0, 13, 21, 6, 4, 96, 116, 5, 108, 167, 0, 7, 21, 6, 5, 108, 54, 7, 28, 153, 0, 12, 42]
abbrev dktX2_straightest_4 : List UInt8 := dkwX2_straightest_4 ++ dktX2_straightest_5
def dkwX2_straightest_3 : List UInt8 := [167, 0, 5, 16, 10, 162, 0, 89, 28, 154, 0, 8, 21, 6, 167, 0, 25, 21, 6, 5, 112, 4]
abbrev dktX2_straightest_3 : List UInt8 := dkwX2_straightest_3 ++ dktX2_straightest_4
def dkwX2_straightest_2 : List UInt8 := [42, 180, 0, 190, 62, 3, 54, 4, 16, 247, 54, 5, 3, 54, 6, 21, 6, 28, 153, 0, 8, 16, 19]
abbrev dktX2_straightest_2 : List UInt8 := dkwX2_straightest_2 ++ dktX2_straightest_3
def dkwX2_straightest_1 : List UInt8 := [172, 27, 5, 112, 154, 0, 7, 4, 167, 0, 4, 3, 61, 28, 153, 0, 10, 42, 180, 0, 187, 167, 0, 7]
abbrev dktX2_straightest_1 : List UInt8 := dkwX2_straightest_1 ++ dktX2_straightest_2
def dkwX2_straightest_0 : List UInt8 := [27, 133, 9, 20, 0, 223, 184, 0, 105, 154, 0, 6, 16, 254, 172, 42, 182, 0, 216, 153, 0, 6, 16, 253]
abbrev dktX2_straightest_0 : List UInt8 := dkwX2_straightest_0 ++ dktX2_straightest_1
theorem dksX2_straightest_0 : cX2_straightest.data.toList.drop 0 = dktX2_straightest_0 := by decide +kernel
theorem dksX2_straightest_1 : cX2_straightest.data.toList.drop 24 = dktX2_straightest_1 := dk_seg dksX2_straightest_0 24 rfl rfl
theorem dksX2_straightest_2 : cX2_straightest.data.toList.drop 48 = dktX2_straightest_2 := dk_seg dksX2_straightest_1 24 rfl rfl
theorem dksX2_straightest_3 : cX2_straightest.data.toList.drop 71 = dktX2_straightest_3 := dk_seg dksX2_straightest_2 23 rfl rfl
theorem dksX2_straightest_4 : cX2_straightest.data.toList.drop 93 = dktX2_straightest_4 := dk_seg dksX2_straightest_3 22 rfl rfl
theorem dksX2_straightest_5 : cX2_straightest.data.toList.drop 117 = dktX2_straightest_5 := dk_seg dksX2_straightest_4 24 rfl rfl
theorem dksX2_straightest_6 : cX2_straightest.data.toList.drop 141 = dktX2_straightest_6 := dk_seg dksX2_straightest_5 24 rfl rfl
theorem dksX2_straightest_7 : cX2_straightest.data.toList.drop 165 = dktX2_straightest_7 := dk_seg dksX2_straightest_6 24 rfl rfl
theorem dksX2_straightest_8 : cX2_straightest.data.toList.drop 189 = dktX2_straightest_8 := dk_seg dksX2_straightest_7 24 rfl rfl
theorem dX2_straightest_0 : decode cX2_straightest 0 = .ok (.iload_n 1, 1) := dk_27 (dk_at dksX2_straightest_0 0 rfl rfl)
theorem dX2_straightest_1 : decode cX2_straightest 1 = .ok (.i2l, 1) := dk_133 (dk_at dksX2_straightest_0 1 rfl rfl)
theorem dX2_straightest_2 : decode cX2_straightest 2 = .ok (.lconst 0, 1) := dk_9 (dk_at dksX2_straightest_0 2 rfl rfl)
theorem dX2_straightest_3 : decode cX2_straightest 3 = .ok (.ldc2_w 223, 3) := dk_20 0 223 (dk_at dksX2_straightest_0 3 rfl rfl)
theorem dX2_straightest_6 : decode cX2_straightest 6 = .ok (.invokestatic 105, 3) := dk_184 0 105 (dk_at dksX2_straightest_0 6 rfl rfl)
theorem dX2_straightest_9 : decode cX2_straightest 9 = .ok (.ifCond .ne 6, 3) := dk_154 0 6 (dk_at dksX2_straightest_0 9 rfl rfl)
theorem dX2_straightest_12 : decode cX2_straightest 12 = .ok (.bipush (-2), 2) := dk_16 254 (dk_at dksX2_straightest_0 12 rfl rfl)
theorem dX2_straightest_14 : decode cX2_straightest 14 = .ok (.ireturn, 1) := dk_172 (dk_at dksX2_straightest_0 14 rfl rfl)
theorem dX2_straightest_15 : decode cX2_straightest 15 = .ok (.aload_n 0, 1) := dk_42 (dk_at dksX2_straightest_0 15 rfl rfl)
theorem dX2_straightest_16 : decode cX2_straightest 16 = .ok (.invokevirtual 216, 3) := dk_182 0 216 (dk_at dksX2_straightest_0 16 rfl rfl)
theorem dX2_straightest_19 : decode cX2_straightest 19 = .ok (.ifCond .eq 6, 3) := dk_153 0 6 (dk_at dksX2_straightest_0 19 rfl rfl)
theorem dX2_straightest_22 : decode cX2_straightest 22 = .ok (.bipush (-3), 2) := dk_16 253 (dk_at dksX2_straightest_0 22 rfl rfl)
theorem dX2_straightest_24 : decode cX2_straightest 24 = .ok (.ireturn, 1) := dk_172 (dk_at dksX2_straightest_1 0 rfl rfl)
theorem dX2_straightest_25 : decode cX2_straightest 25 = .ok (.iload_n 1, 1) := dk_27 (dk_at dksX2_straightest_1 1 rfl rfl)
theorem dX2_straightest_26 : decode cX2_straightest 26 = .ok (.iconst 2, 1) := dk_5 (dk_at dksX2_straightest_1 2 rfl rfl)
theorem dX2_straightest_27 : decode cX2_straightest 27 = .ok (.irem, 1) := dk_112 (dk_at dksX2_straightest_1 3 rfl rfl)
theorem dX2_straightest_28 : decode cX2_straightest 28 = .ok (.ifCond .ne 7, 3) := dk_154 0 7 (dk_at dksX2_straightest_1 4 rfl rfl)
theorem dX2_straightest_31 : decode cX2_straightest 31 = .ok (.iconst 1, 1) := dk_4 (dk_at dksX2_straightest_1 7 rfl rfl)
theorem dX2_straightest_32 : decode cX2_straightest 32 = .ok (.goto 4, 3) := dk_167 0 4 (dk_at dksX2_straightest_1 8 rfl rfl)
theorem dX2_straightest_35 : decode cX2_straightest 35 = .ok (.iconst 0, 1) := dk_3 (dk_at dksX2_straightest_1 11 rfl rfl)
theorem dX2_straightest_36 : decode cX2_straightest 36 = .ok (.istore_n 2, 1) := dk_61 (dk_at dksX2_straightest_1 12 rfl rfl)
theorem dX2_straightest_37 : decode cX2_straightest 37 = .ok (.iload_n 2, 1) := dk_28 (dk_at dksX2_straightest_1 13 rfl rfl)
theorem dX2_straightest_38 : decode cX2_straightest 38 = .ok (.ifCond .eq 10, 3) := dk_153 0 10 (dk_at dksX2_straightest_1 14 rfl rfl)
theorem dX2_straightest_41 : decode cX2_straightest 41 = .ok (.aload_n 0, 1) := dk_42 (dk_at dksX2_straightest_1 17 rfl rfl)
theorem dX2_straightest_42 : decode cX2_straightest 42 = .ok (.getfield 187, 3) := dk_180 0 187 (dk_at dksX2_straightest_1 18 rfl rfl)
theorem dX2_straightest_45 : decode cX2_straightest 45 = .ok (.goto 7, 3) := dk_167 0 7 (dk_at dksX2_straightest_1 21 rfl rfl)
theorem dX2_straightest_48 : decode cX2_straightest 48 = .ok (.aload_n 0, 1) := dk_42 (dk_at dksX2_straightest_2 0 rfl rfl)
theorem dX2_straightest_49 : decode cX2_straightest 49 = .ok (.getfield 190, 3) := dk_180 0 190 (dk_at dksX2_straightest_2 1 rfl rfl)
theorem dX2_straightest_52 : decode cX2_straightest 52 = .ok (.istore_n 3, 1) := dk_62 (dk_at dksX2_straightest_2 4 rfl rfl)
theorem dX2_straightest_53 : decode cX2_straightest 53 = .ok (.iconst 0, 1) := dk_3 (dk_at dksX2_straightest_2 5 rfl rfl)
theorem dX2_straightest_54 : decode cX2_straightest 54 = .ok (.istore 4, 2) := dk_54 4 (dk_at dksX2_straightest_2 6 rfl rfl)
theorem dX2_straightest_56 : decode cX2_straightest 56 = .ok (.bipush (-9), 2) := dk_16 247 (dk_at dksX2_straightest_2 8 rfl rfl)
theorem dX2_straightest_58 : decode cX2_straightest 58 = .ok (.istore 5, 2) := dk_54 5 (dk_at dksX2_straightest_2 10 rfl rfl)
theorem dX2_straightest_60 : decode cX2_straightest 60 = .ok (.iconst 0, 1) := dk_3 (dk_at dksX2_straightest_2 12 rfl rfl)
theorem dX2_straightest_61 : decode cX2_straightest 61 = .ok (.istore 6, 2) := dk_54 6 (dk_at dksX2_straightest_2 13 rfl rfl)
theorem dX2_straightest_63 : decode cX2_straightest 63 = .ok (.iload 6, 2) := dk_21 6 (dk_at dksX2_straightest_2 15 rfl rfl)
theorem dX2_straightest_65 : decode cX2_straightest 65 = .ok (.iload_n 2, 1) := dk_28 (dk_at dksX2_straightest_2 17 rfl rfl)
theorem dX2_straightest_66 : decode cX2_straightest 66 = .ok (.ifCond .eq 8, 3) := dk_153 0 8 (dk_at dksX2_straightest_2 18 rfl rfl)
theorem dX2_straightest_69 : decode cX2_straightest 69 = .ok (.bipush 19, 2) := dk_16 19 (dk_at dksX2_straightest_2 21 rfl rfl)
theorem dX2_straightest_71 : decode cX2_straightest 71 = .ok (.goto 5, 3) := dk_167 0 5 (dk_at dksX2_straightest_3 0 rfl rfl)
theorem dX2_straightest_74 : decode cX2_straightest 74 = .ok (.bipush 10, 2) := dk_16 10 (dk_at dksX2_straightest_3 3 rfl rfl)
theorem dX2_straightest_76 : decode cX2_straightest 76 = .ok (.if_icmp .ge 89, 3) := dk_162 0 89 (dk_at dksX2_straightest_3 5 rfl rfl)
theorem dX2_straightest_79 : decode cX2_straightest 79 = .ok (.iload_n 2, 1) := dk_28 (dk_at dksX2_straightest_3 8 rfl rfl)
theorem dX2_straightest_80 : decode cX2_straightest 80 = .ok (.ifCond .ne 8, 3) := dk_154 0 8 (dk_at dksX2_straightest_3 9 rfl rfl)
theorem dX2_straightest_83 : decode cX2_straightest 83 = .ok (.iload 6, 2) := dk_21 6 (dk_at dksX2_straightest_3 12 rfl rfl)
theorem dX2_straightest_85 : decode cX2_straightest 85 = .ok (.goto 25, 3) := dk_167 0 25 (dk_at dksX2_straightest_3 14 rfl rfl)
theorem dX2_straightest_88 : decode cX2_straightest 88 = .ok (.iload 6, 2) := dk_21 6 (dk_at dksX2_straightest_3 17 rfl rfl)
theorem dX2_straightest_90 : decode cX2_straightest 90 = .ok (.iconst 2, 1) := dk_5 (dk_at dksX2_straightest_3 19 rfl rfl)
theorem dX2_straightest_91 : decode cX2_straightest 91 = .ok (.irem, 1) := dk_112 (dk_at dksX2_straightest_3 20 rfl rfl)
theorem dX2_straightest_92 : decode cX2_straightest 92 = .ok (.iconst 1, 1) := dk_4 (dk_at dksX2_straightest_3 21 rfl rfl)
theorem dX2_straightest_93 : decode cX2_straightest 93 = .ok (.if_icmp .ne 13, 3) := dk_160 0 13 (dk_at dksX2_straightest_4 0 rfl rfl)
theorem dX2_straightest_96 : decode cX2_straightest 96 = .ok (.iload 6, 2) := dk_21 6 (dk_at dksX2_straightest_4 3 rfl rfl)
theorem dX2_straightest_98 : decode cX2_straightest 98 = .ok (.iconst 1, 1) := dk_4 (dk_at dksX2_straightest_4 5 rfl rfl)
theorem dX2_straightest_99 : decode cX2_straightest 99 = .ok (.iadd, 1) := dk_96 (dk_at dksX2_straightest_4 6 rfl rfl)
theorem dX2_straightest_100 : decode cX2_straightest 100 = .ok (.ineg, 1) := dk_116 (dk_at dksX2_straightest_4 7 rfl rfl)
theorem dX2_straightest_101 : decode cX2_straightest 101 = .ok (.iconst 2, 1) := dk_5 (dk_at dksX2_straightest_4 8 rfl rfl)
theorem dX2_straightest_102 : decode cX2_straightest 102 = .ok (.idiv, 1) := dk_108 (dk_at dksX2_straightest_4 9 rfl rfl)
theorem dX2_straightest_103 : decode cX2_straightest 103 = .ok (.goto 7, 3) := dk_167 0 7 (dk_at dksX2_straightest_4 10 rfl rfl)
theorem dX2_straightest_106 : decode cX2_straightest 106 = .ok (.iload 6, 2) := dk_21 6 (dk_at dksX2_straightest_4 13 rfl rfl)
theorem dX2_straightest_108 : decode cX2_straightest 108 = .ok (.iconst 2, 1) := dk_5 (dk_at dksX2_straightest_4 15 rfl rfl)
theorem dX2_straightest_109 : decode cX2_straightest 109 = .ok (.idiv, 1) := dk_108 (dk_at dksX2_straightest_4 16 rfl rfl)
theorem dX2_straightest_110 : decode cX2_straightest 110 = .ok (.istore 7, 2) := dk_54 7 (dk_at dksX2_straightest_4 17 rfl rfl)
theorem dX2_straightest_112 : decode cX2_straightest 112 = .ok (.iload_n 2, 1) := dk_28 (dk_at dksX2_straightest_4 19 rfl rfl)
theorem dX2_straightest_113 : decode cX2_straightest 113 = .ok (.ifCond .eq 12, 3) := dk_153 0 12 (dk_at dksX2_straightest_4 20 rfl rfl)
theorem dX2_straightest_116 : decode cX2_straightest 116 = .ok (.aload_n 0, 1) := dk_42 (dk_at dksX2_straightest_4 23 rfl rfl)
theorem dX2_straightest_117 : decode cX2_straightest 117 = .ok (.iload 7, 2) := dk_21 7 (dk_at dksX2_straightest_5 0 rfl rfl)
theorem dX2_straightest_119 : decode cX2_straightest 119 = .ok (.putfield 187, 3) := dk_181 0 187 (dk_at dksX2_straightest_5 2 rfl rfl)
theorem dX2_straightest_122 : decode cX2_straightest 122 = .ok (.goto 9, 3) := dk_167 0 9 (dk_at dksX2_straightest_5 5 rfl rfl)
theorem dX2_straightest_125 : decode cX2_straightest 125 = .ok (.aload_n 0, 1) := dk_42 (dk_at dksX2_straightest_5 8 rfl rfl)
theorem dX2_straightest_126 : decode cX2_straightest 126 = .ok (.iload 7, 2) := dk_21 7 (dk_at dksX2_straightest_5 9 rfl rfl)
theorem dX2_straightest_128 : decode cX2_straightest 128 = .ok (.putfield 190, 3) := dk_181 0 190 (dk_at dksX2_straightest_5 11 rfl rfl)
theorem dX2_straightest_131 : decode cX2_straightest 131 = .ok (.aload_n 0, 1) := dk_42 (dk_at dksX2_straightest_5 14 rfl rfl)
theorem dX2_straightest_132 : decode cX2_straightest 132 = .ok (.invokevirtual 210, 3) := dk_182 0 210 (dk_at dksX2_straightest_5 15 rfl rfl)
theorem dX2_straightest_135 : decode cX2_straightest 135 = .ok (.iload 5, 2) := dk_21 5 (dk_at dksX2_straightest_5 18 rfl rfl)
theorem dX2_straightest_137 : decode cX2_straightest 137 = .ok (.ifCond .lt 12, 3) := dk_155 0 12 (dk_at dksX2_straightest_5 20 rfl rfl)
theorem dX2_straightest_140 : decode cX2_straightest 140 = .ok (.aload_n 0, 1) := dk_42 (dk_at dksX2_straightest_5 23 rfl rfl)
theorem dX2_straightest_141 : decode cX2_straightest 141 = .ok (.getfield 204, 3) := dk_180 0 204 (dk_at dksX2_straightest_6 0 rfl rfl)
theorem dX2_straightest_144 : decode cX2_straightest 144 = .ok (.iload 5, 2) := dk_21 5 (dk_at dksX2_straightest_6 3 rfl rfl)
theorem dX2_straightest_146 : decode cX2_straightest 146 = .ok (.if_icmp .ge 13, 3) := dk_162 0 13 (dk_at dksX2_straightest_6 5 rfl rfl)
theorem dX2_straightest_149 : decode cX2_straightest 149 = .ok (.iload 7, 2) := dk_21 7 (dk_at dksX2_straightest_6 8 rfl rfl)
theorem dX2_straightest_151 : decode cX2_straightest 151 = .ok (.istore 4, 2) := dk_54 4 (dk_at dksX2_straightest_6 10 rfl rfl)
theorem dX2_straightest_153 : decode cX2_straightest 153 = .ok (.aload_n 0, 1) := dk_42 (dk_at dksX2_straightest_6 12 rfl rfl)
theorem dX2_straightest_154 : decode cX2_straightest 154 = .ok (.getfield 204, 3) := dk_180 0 204 (dk_at dksX2_straightest_6 13 rfl rfl)
theorem dX2_straightest_157 : decode cX2_straightest 157 = .ok (.istore 5, 2) := dk_54 5 (dk_at dksX2_straightest_6 16 rfl rfl)
theorem dX2_straightest_159 : decode cX2_straightest 159 = .ok (.iinc 6 1, 3) := dk_132 6 1 (dk_at dksX2_straightest_6 18 rfl rfl)
theorem dX2_straightest_162 : decode cX2_straightest 162 = .ok (.goto (-99), 3) := dk_167 255 157 (dk_at dksX2_straightest_6 21 rfl rfl)
theorem dX2_straightest_165 : decode cX2_straightest 165 = .ok (.iload_n 2, 1) := dk_28 (dk_at dksX2_straightest_7 0 rfl rfl)
theorem dX2_straightest_166 : decode cX2_straightest 166 = .ok (.ifCond .eq 11, 3) := dk_153 0 11 (dk_at dksX2_straightest_7 1 rfl rfl)
theorem dX2_straightest_169 : decode cX2_straightest 169 = .ok (.aload_n 0, 1) := dk_42 (dk_at dksX2_straightest_7 4 rfl rfl)
theorem dX2_straightest_170 : decode cX2_straightest 170 = .ok (.iload_n 3, 1) := dk_29 (dk_at dksX2_straightest_7 5 rfl rfl)
theorem dX2_straightest_171 : decode cX2_straightest 171 = .ok (.putfield 187, 3) := dk_181 0 187 (dk_at dksX2_straightest_7 6 rfl rfl)
theorem dX2_straightest_174 : decode cX2_straightest 174 = .ok (.goto 8, 3) := dk_167 0 8 (dk_at dksX2_straightest_7 9 rfl rfl)
theorem dX2_straightest_177 : decode cX2_straightest 177 = .ok (.aload_n 0, 1) := dk_42 (dk_at dksX2_straightest_7 12 rfl rfl)
theorem dX2_straightest_178 : decode cX2_straightest 178 = .ok (.iload_n 3, 1) := dk_29 (dk_at dksX2_straightest_7 13 rfl rfl)
theorem dX2_straightest_179 : decode cX2_straightest 179 = .ok (.putfield 190, 3) := dk_181 0 190 (dk_at dksX2_straightest_7 14 rfl rfl)
theorem dX2_straightest_182 : decode cX2_straightest 182 = .ok (.iload_n 1, 1) := dk_27 (dk_at dksX2_straightest_7 17 rfl rfl)
theorem dX2_straightest_183 : decode cX2_straightest 183 = .ok (.iconst 2, 1) := dk_5 (dk_at dksX2_straightest_7 18 rfl rfl)
theorem dX2_straightest_184 : decode cX2_straightest 184 = .ok (.if_icmp .ge 8, 3) := dk_162 0 8 (dk_at dksX2_straightest_7 19 rfl rfl)
theorem dX2_straightest_187 : decode cX2_straightest 187 = .ok (.iload 4, 2) := dk_21 4 (dk_at dksX2_straightest_7 22 rfl rfl)
theorem dX2_straightest_189 : decode cX2_straightest 189 = .ok (.goto 5, 3) := dk_167 0 5 (dk_at dksX2_straightest_8 0 rfl rfl)
theorem dX2_straightest_192 : decode cX2_straightest 192 = .ok (.iload 5, 2) := dk_21 5 (dk_at dksX2_straightest_8 3 rfl rfl)
theorem dX2_straightest_194 : decode cX2_straightest 194 = .ok (.ireturn, 1) := dk_172 (dk_at dksX2_straightest_8 5 rfl rfl)
abbrev cX2_flaw : ByteArray := prog_8_method_42_code
def yX2_flaw : MethodName := ⟨RX2, "flaw", "(III)I"⟩
def dkwX2_flaw_4 : List UInt8 := [100, 172]
abbrev dktX2_flaw_4 : List UInt8 := dkwX2_flaw_4 ++ []
def dkwX2_flaw_3 : List UInt8 := [180, 0, 55, 42, 180, 0, 142, 29, 79, 42, 89, 180, 0, 142, 4, 96, 181, 0, 142, 42, 180, 0, 142, 4]
abbrev dktX2_flaw_3 : List UInt8 := dkwX2_flaw_3 ++ dktX2_flaw_4
def dkwX2_flaw_2 : List UInt8 := [172, 42, 180, 0, 49, 42, 180, 0, 142, 27, 79, 42, 180, 0, 52, 42, 180, 0, 142, 28, 79, 42]
abbrev dktX2_flaw_2 : List UInt8 := dkwX2_flaw_2 ++ dktX2_flaw_3
def dkwX2_flaw_1 : List UInt8 := [9, 20, 0, 122, 184, 0, 105, 154, 0, 6, 16, 254, 172, 42, 180, 0, 142, 16, 6, 160, 0, 6, 16, 252]
abbrev dktX2_flaw_1 : List UInt8 := dkwX2_flaw_1 ++ dktX2_flaw_2
def dkwX2_flaw_0 : List UInt8 := [42, 27, 182, 0, 151, 153, 0, 5, 2, 172, 28, 133, 9, 20, 0, 103, 184, 0, 105, 153, 0, 15, 29, 133]
abbrev dktX2_flaw_0 : List UInt8 := dkwX2_flaw_0 ++ dktX2_flaw_1
theorem dksX2_flaw_0 : cX2_flaw.data.toList.drop 0 = dktX2_flaw_0 := by decide +kernel
theorem dksX2_flaw_1 : cX2_flaw.data.toList.drop 24 = dktX2_flaw_1 := dk_seg dksX2_flaw_0 24 rfl rfl
theorem dksX2_flaw_2 : cX2_flaw.data.toList.drop 48 = dktX2_flaw_2 := dk_seg dksX2_flaw_1 24 rfl rfl
theorem dksX2_flaw_3 : cX2_flaw.data.toList.drop 70 = dktX2_flaw_3 := dk_seg dksX2_flaw_2 22 rfl rfl
theorem dksX2_flaw_4 : cX2_flaw.data.toList.drop 94 = dktX2_flaw_4 := dk_seg dksX2_flaw_3 24 rfl rfl
theorem dX2_flaw_0 : decode cX2_flaw 0 = .ok (.aload_n 0, 1) := dk_42 (dk_at dksX2_flaw_0 0 rfl rfl)
theorem dX2_flaw_1 : decode cX2_flaw 1 = .ok (.iload_n 1, 1) := dk_27 (dk_at dksX2_flaw_0 1 rfl rfl)
theorem dX2_flaw_2 : decode cX2_flaw 2 = .ok (.invokevirtual 151, 3) := dk_182 0 151 (dk_at dksX2_flaw_0 2 rfl rfl)
theorem dX2_flaw_5 : decode cX2_flaw 5 = .ok (.ifCond .eq 5, 3) := dk_153 0 5 (dk_at dksX2_flaw_0 5 rfl rfl)
theorem dX2_flaw_8 : decode cX2_flaw 8 = .ok (.iconst (-1), 1) := dk_2 (dk_at dksX2_flaw_0 8 rfl rfl)
theorem dX2_flaw_9 : decode cX2_flaw 9 = .ok (.ireturn, 1) := dk_172 (dk_at dksX2_flaw_0 9 rfl rfl)
theorem dX2_flaw_10 : decode cX2_flaw 10 = .ok (.iload_n 2, 1) := dk_28 (dk_at dksX2_flaw_0 10 rfl rfl)
theorem dX2_flaw_11 : decode cX2_flaw 11 = .ok (.i2l, 1) := dk_133 (dk_at dksX2_flaw_0 11 rfl rfl)
theorem dX2_flaw_12 : decode cX2_flaw 12 = .ok (.lconst 0, 1) := dk_9 (dk_at dksX2_flaw_0 12 rfl rfl)
theorem dX2_flaw_13 : decode cX2_flaw 13 = .ok (.ldc2_w 103, 3) := dk_20 0 103 (dk_at dksX2_flaw_0 13 rfl rfl)
theorem dX2_flaw_16 : decode cX2_flaw 16 = .ok (.invokestatic 105, 3) := dk_184 0 105 (dk_at dksX2_flaw_0 16 rfl rfl)
theorem dX2_flaw_19 : decode cX2_flaw 19 = .ok (.ifCond .eq 15, 3) := dk_153 0 15 (dk_at dksX2_flaw_0 19 rfl rfl)
theorem dX2_flaw_22 : decode cX2_flaw 22 = .ok (.iload_n 3, 1) := dk_29 (dk_at dksX2_flaw_0 22 rfl rfl)
theorem dX2_flaw_23 : decode cX2_flaw 23 = .ok (.i2l, 1) := dk_133 (dk_at dksX2_flaw_0 23 rfl rfl)
theorem dX2_flaw_24 : decode cX2_flaw 24 = .ok (.lconst 0, 1) := dk_9 (dk_at dksX2_flaw_1 0 rfl rfl)
theorem dX2_flaw_25 : decode cX2_flaw 25 = .ok (.ldc2_w 122, 3) := dk_20 0 122 (dk_at dksX2_flaw_1 1 rfl rfl)
theorem dX2_flaw_28 : decode cX2_flaw 28 = .ok (.invokestatic 105, 3) := dk_184 0 105 (dk_at dksX2_flaw_1 4 rfl rfl)
theorem dX2_flaw_31 : decode cX2_flaw 31 = .ok (.ifCond .ne 6, 3) := dk_154 0 6 (dk_at dksX2_flaw_1 7 rfl rfl)
theorem dX2_flaw_34 : decode cX2_flaw 34 = .ok (.bipush (-2), 2) := dk_16 254 (dk_at dksX2_flaw_1 10 rfl rfl)
theorem dX2_flaw_36 : decode cX2_flaw 36 = .ok (.ireturn, 1) := dk_172 (dk_at dksX2_flaw_1 12 rfl rfl)
theorem dX2_flaw_37 : decode cX2_flaw 37 = .ok (.aload_n 0, 1) := dk_42 (dk_at dksX2_flaw_1 13 rfl rfl)
theorem dX2_flaw_38 : decode cX2_flaw 38 = .ok (.getfield 142, 3) := dk_180 0 142 (dk_at dksX2_flaw_1 14 rfl rfl)
theorem dX2_flaw_41 : decode cX2_flaw 41 = .ok (.bipush 6, 2) := dk_16 6 (dk_at dksX2_flaw_1 17 rfl rfl)
theorem dX2_flaw_43 : decode cX2_flaw 43 = .ok (.if_icmp .ne 6, 3) := dk_160 0 6 (dk_at dksX2_flaw_1 19 rfl rfl)
theorem dX2_flaw_46 : decode cX2_flaw 46 = .ok (.bipush (-4), 2) := dk_16 252 (dk_at dksX2_flaw_1 22 rfl rfl)
theorem dX2_flaw_48 : decode cX2_flaw 48 = .ok (.ireturn, 1) := dk_172 (dk_at dksX2_flaw_2 0 rfl rfl)
theorem dX2_flaw_49 : decode cX2_flaw 49 = .ok (.aload_n 0, 1) := dk_42 (dk_at dksX2_flaw_2 1 rfl rfl)
theorem dX2_flaw_50 : decode cX2_flaw 50 = .ok (.getfield 49, 3) := dk_180 0 49 (dk_at dksX2_flaw_2 2 rfl rfl)
theorem dX2_flaw_53 : decode cX2_flaw 53 = .ok (.aload_n 0, 1) := dk_42 (dk_at dksX2_flaw_2 5 rfl rfl)
theorem dX2_flaw_54 : decode cX2_flaw 54 = .ok (.getfield 142, 3) := dk_180 0 142 (dk_at dksX2_flaw_2 6 rfl rfl)
theorem dX2_flaw_57 : decode cX2_flaw 57 = .ok (.iload_n 1, 1) := dk_27 (dk_at dksX2_flaw_2 9 rfl rfl)
theorem dX2_flaw_58 : decode cX2_flaw 58 = .ok (.iastore, 1) := dk_79 (dk_at dksX2_flaw_2 10 rfl rfl)
theorem dX2_flaw_59 : decode cX2_flaw 59 = .ok (.aload_n 0, 1) := dk_42 (dk_at dksX2_flaw_2 11 rfl rfl)
theorem dX2_flaw_60 : decode cX2_flaw 60 = .ok (.getfield 52, 3) := dk_180 0 52 (dk_at dksX2_flaw_2 12 rfl rfl)
theorem dX2_flaw_63 : decode cX2_flaw 63 = .ok (.aload_n 0, 1) := dk_42 (dk_at dksX2_flaw_2 15 rfl rfl)
theorem dX2_flaw_64 : decode cX2_flaw 64 = .ok (.getfield 142, 3) := dk_180 0 142 (dk_at dksX2_flaw_2 16 rfl rfl)
theorem dX2_flaw_67 : decode cX2_flaw 67 = .ok (.iload_n 2, 1) := dk_28 (dk_at dksX2_flaw_2 19 rfl rfl)
theorem dX2_flaw_68 : decode cX2_flaw 68 = .ok (.iastore, 1) := dk_79 (dk_at dksX2_flaw_2 20 rfl rfl)
theorem dX2_flaw_69 : decode cX2_flaw 69 = .ok (.aload_n 0, 1) := dk_42 (dk_at dksX2_flaw_2 21 rfl rfl)
theorem dX2_flaw_70 : decode cX2_flaw 70 = .ok (.getfield 55, 3) := dk_180 0 55 (dk_at dksX2_flaw_3 0 rfl rfl)
theorem dX2_flaw_73 : decode cX2_flaw 73 = .ok (.aload_n 0, 1) := dk_42 (dk_at dksX2_flaw_3 3 rfl rfl)
theorem dX2_flaw_74 : decode cX2_flaw 74 = .ok (.getfield 142, 3) := dk_180 0 142 (dk_at dksX2_flaw_3 4 rfl rfl)
theorem dX2_flaw_77 : decode cX2_flaw 77 = .ok (.iload_n 3, 1) := dk_29 (dk_at dksX2_flaw_3 7 rfl rfl)
theorem dX2_flaw_78 : decode cX2_flaw 78 = .ok (.iastore, 1) := dk_79 (dk_at dksX2_flaw_3 8 rfl rfl)
theorem dX2_flaw_79 : decode cX2_flaw 79 = .ok (.aload_n 0, 1) := dk_42 (dk_at dksX2_flaw_3 9 rfl rfl)
theorem dX2_flaw_80 : decode cX2_flaw 80 = .ok (.dup, 1) := dk_89 (dk_at dksX2_flaw_3 10 rfl rfl)
theorem dX2_flaw_81 : decode cX2_flaw 81 = .ok (.getfield 142, 3) := dk_180 0 142 (dk_at dksX2_flaw_3 11 rfl rfl)
theorem dX2_flaw_84 : decode cX2_flaw 84 = .ok (.iconst 1, 1) := dk_4 (dk_at dksX2_flaw_3 14 rfl rfl)
theorem dX2_flaw_85 : decode cX2_flaw 85 = .ok (.iadd, 1) := dk_96 (dk_at dksX2_flaw_3 15 rfl rfl)
theorem dX2_flaw_86 : decode cX2_flaw 86 = .ok (.putfield 142, 3) := dk_181 0 142 (dk_at dksX2_flaw_3 16 rfl rfl)
theorem dX2_flaw_89 : decode cX2_flaw 89 = .ok (.aload_n 0, 1) := dk_42 (dk_at dksX2_flaw_3 19 rfl rfl)
theorem dX2_flaw_90 : decode cX2_flaw 90 = .ok (.getfield 142, 3) := dk_180 0 142 (dk_at dksX2_flaw_3 20 rfl rfl)
theorem dX2_flaw_93 : decode cX2_flaw 93 = .ok (.iconst 1, 1) := dk_4 (dk_at dksX2_flaw_3 23 rfl rfl)
theorem dX2_flaw_94 : decode cX2_flaw 94 = .ok (.isub, 1) := dk_100 (dk_at dksX2_flaw_4 0 rfl rfl)
theorem dX2_flaw_95 : decode cX2_flaw 95 = .ok (.ireturn, 1) := dk_172 (dk_at dksX2_flaw_4 1 rfl rfl)
abbrev cX2_ofFlaw : ByteArray := prog_8_method_43_code
def yX2_ofFlaw : MethodName := ⟨RX2, "ofFlaw", "(II)I"⟩
def dkwX2_ofFlaw_2 : List UInt8 := [167, 0, 5, 16, 254, 172]
abbrev dktX2_ofFlaw_2 : List UInt8 := dkwX2_ofFlaw_2 ++ []
def dkwX2_ofFlaw_1 : List UInt8 := [4, 160, 0, 12, 42, 180, 0, 52, 27, 46, 167, 0, 19, 28, 5, 160, 0, 12, 42, 180, 0, 55, 27, 46]
abbrev dktX2_ofFlaw_1 : List UInt8 := dkwX2_ofFlaw_1 ++ dktX2_ofFlaw_2
def dkwX2_ofFlaw_0 : List UInt8 := [42, 27, 182, 0, 225, 153, 0, 5, 2, 172, 28, 154, 0, 12, 42, 180, 0, 49, 27, 46, 167, 0, 33, 28]
abbrev dktX2_ofFlaw_0 : List UInt8 := dkwX2_ofFlaw_0 ++ dktX2_ofFlaw_1
theorem dksX2_ofFlaw_0 : cX2_ofFlaw.data.toList.drop 0 = dktX2_ofFlaw_0 := by decide +kernel
theorem dksX2_ofFlaw_1 : cX2_ofFlaw.data.toList.drop 24 = dktX2_ofFlaw_1 := dk_seg dksX2_ofFlaw_0 24 rfl rfl
theorem dksX2_ofFlaw_2 : cX2_ofFlaw.data.toList.drop 48 = dktX2_ofFlaw_2 := dk_seg dksX2_ofFlaw_1 24 rfl rfl
theorem dX2_ofFlaw_0 : decode cX2_ofFlaw 0 = .ok (.aload_n 0, 1) := dk_42 (dk_at dksX2_ofFlaw_0 0 rfl rfl)
theorem dX2_ofFlaw_1 : decode cX2_ofFlaw 1 = .ok (.iload_n 1, 1) := dk_27 (dk_at dksX2_ofFlaw_0 1 rfl rfl)
theorem dX2_ofFlaw_2 : decode cX2_ofFlaw 2 = .ok (.invokevirtual 225, 3) := dk_182 0 225 (dk_at dksX2_ofFlaw_0 2 rfl rfl)
theorem dX2_ofFlaw_5 : decode cX2_ofFlaw 5 = .ok (.ifCond .eq 5, 3) := dk_153 0 5 (dk_at dksX2_ofFlaw_0 5 rfl rfl)
theorem dX2_ofFlaw_8 : decode cX2_ofFlaw 8 = .ok (.iconst (-1), 1) := dk_2 (dk_at dksX2_ofFlaw_0 8 rfl rfl)
theorem dX2_ofFlaw_9 : decode cX2_ofFlaw 9 = .ok (.ireturn, 1) := dk_172 (dk_at dksX2_ofFlaw_0 9 rfl rfl)
theorem dX2_ofFlaw_10 : decode cX2_ofFlaw 10 = .ok (.iload_n 2, 1) := dk_28 (dk_at dksX2_ofFlaw_0 10 rfl rfl)
theorem dX2_ofFlaw_11 : decode cX2_ofFlaw 11 = .ok (.ifCond .ne 12, 3) := dk_154 0 12 (dk_at dksX2_ofFlaw_0 11 rfl rfl)
theorem dX2_ofFlaw_14 : decode cX2_ofFlaw 14 = .ok (.aload_n 0, 1) := dk_42 (dk_at dksX2_ofFlaw_0 14 rfl rfl)
theorem dX2_ofFlaw_15 : decode cX2_ofFlaw 15 = .ok (.getfield 49, 3) := dk_180 0 49 (dk_at dksX2_ofFlaw_0 15 rfl rfl)
theorem dX2_ofFlaw_18 : decode cX2_ofFlaw 18 = .ok (.iload_n 1, 1) := dk_27 (dk_at dksX2_ofFlaw_0 18 rfl rfl)
theorem dX2_ofFlaw_19 : decode cX2_ofFlaw 19 = .ok (.iaload, 1) := dk_46 (dk_at dksX2_ofFlaw_0 19 rfl rfl)
theorem dX2_ofFlaw_20 : decode cX2_ofFlaw 20 = .ok (.goto 33, 3) := dk_167 0 33 (dk_at dksX2_ofFlaw_0 20 rfl rfl)
theorem dX2_ofFlaw_23 : decode cX2_ofFlaw 23 = .ok (.iload_n 2, 1) := dk_28 (dk_at dksX2_ofFlaw_0 23 rfl rfl)
theorem dX2_ofFlaw_24 : decode cX2_ofFlaw 24 = .ok (.iconst 1, 1) := dk_4 (dk_at dksX2_ofFlaw_1 0 rfl rfl)
theorem dX2_ofFlaw_25 : decode cX2_ofFlaw 25 = .ok (.if_icmp .ne 12, 3) := dk_160 0 12 (dk_at dksX2_ofFlaw_1 1 rfl rfl)
theorem dX2_ofFlaw_28 : decode cX2_ofFlaw 28 = .ok (.aload_n 0, 1) := dk_42 (dk_at dksX2_ofFlaw_1 4 rfl rfl)
theorem dX2_ofFlaw_29 : decode cX2_ofFlaw 29 = .ok (.getfield 52, 3) := dk_180 0 52 (dk_at dksX2_ofFlaw_1 5 rfl rfl)
theorem dX2_ofFlaw_32 : decode cX2_ofFlaw 32 = .ok (.iload_n 1, 1) := dk_27 (dk_at dksX2_ofFlaw_1 8 rfl rfl)
theorem dX2_ofFlaw_33 : decode cX2_ofFlaw 33 = .ok (.iaload, 1) := dk_46 (dk_at dksX2_ofFlaw_1 9 rfl rfl)
theorem dX2_ofFlaw_34 : decode cX2_ofFlaw 34 = .ok (.goto 19, 3) := dk_167 0 19 (dk_at dksX2_ofFlaw_1 10 rfl rfl)
theorem dX2_ofFlaw_37 : decode cX2_ofFlaw 37 = .ok (.iload_n 2, 1) := dk_28 (dk_at dksX2_ofFlaw_1 13 rfl rfl)
theorem dX2_ofFlaw_38 : decode cX2_ofFlaw 38 = .ok (.iconst 2, 1) := dk_5 (dk_at dksX2_ofFlaw_1 14 rfl rfl)
theorem dX2_ofFlaw_39 : decode cX2_ofFlaw 39 = .ok (.if_icmp .ne 12, 3) := dk_160 0 12 (dk_at dksX2_ofFlaw_1 15 rfl rfl)
theorem dX2_ofFlaw_42 : decode cX2_ofFlaw 42 = .ok (.aload_n 0, 1) := dk_42 (dk_at dksX2_ofFlaw_1 18 rfl rfl)
theorem dX2_ofFlaw_43 : decode cX2_ofFlaw 43 = .ok (.getfield 55, 3) := dk_180 0 55 (dk_at dksX2_ofFlaw_1 19 rfl rfl)
theorem dX2_ofFlaw_46 : decode cX2_ofFlaw 46 = .ok (.iload_n 1, 1) := dk_27 (dk_at dksX2_ofFlaw_1 22 rfl rfl)
theorem dX2_ofFlaw_47 : decode cX2_ofFlaw 47 = .ok (.iaload, 1) := dk_46 (dk_at dksX2_ofFlaw_1 23 rfl rfl)
theorem dX2_ofFlaw_48 : decode cX2_ofFlaw 48 = .ok (.goto 5, 3) := dk_167 0 5 (dk_at dksX2_ofFlaw_2 0 rfl rfl)
theorem dX2_ofFlaw_51 : decode cX2_ofFlaw 51 = .ok (.bipush (-2), 2) := dk_16 254 (dk_at dksX2_ofFlaw_2 3 rfl rfl)
theorem dX2_ofFlaw_53 : decode cX2_ofFlaw 53 = .ok (.ireturn, 1) := dk_172 (dk_at dksX2_ofFlaw_2 5 rfl rfl)
abbrev cX2_noFlaw : ByteArray := prog_8_method_41_code
def yX2_noFlaw : MethodName := ⟨RX2, "noFlaw", "(I)Z"⟩
def dkwX2_noFlaw_0 : List UInt8 := [27, 133, 9, 42, 180, 0, 142, 133, 10, 101, 184, 0, 105, 154, 0, 7, 4, 167, 0, 4, 3, 172]
abbrev dktX2_noFlaw_0 : List UInt8 := dkwX2_noFlaw_0 ++ []
theorem dksX2_noFlaw_0 : cX2_noFlaw.data.toList.drop 0 = dktX2_noFlaw_0 := by decide +kernel
theorem dX2_noFlaw_0 : decode cX2_noFlaw 0 = .ok (.iload_n 1, 1) := dk_27 (dk_at dksX2_noFlaw_0 0 rfl rfl)
theorem dX2_noFlaw_1 : decode cX2_noFlaw 1 = .ok (.i2l, 1) := dk_133 (dk_at dksX2_noFlaw_0 1 rfl rfl)
theorem dX2_noFlaw_2 : decode cX2_noFlaw 2 = .ok (.lconst 0, 1) := dk_9 (dk_at dksX2_noFlaw_0 2 rfl rfl)
theorem dX2_noFlaw_3 : decode cX2_noFlaw 3 = .ok (.aload_n 0, 1) := dk_42 (dk_at dksX2_noFlaw_0 3 rfl rfl)
theorem dX2_noFlaw_4 : decode cX2_noFlaw 4 = .ok (.getfield 142, 3) := dk_180 0 142 (dk_at dksX2_noFlaw_0 4 rfl rfl)
theorem dX2_noFlaw_7 : decode cX2_noFlaw 7 = .ok (.i2l, 1) := dk_133 (dk_at dksX2_noFlaw_0 7 rfl rfl)
theorem dX2_noFlaw_8 : decode cX2_noFlaw 8 = .ok (.lconst 1, 1) := dk_10 (dk_at dksX2_noFlaw_0 8 rfl rfl)
theorem dX2_noFlaw_9 : decode cX2_noFlaw 9 = .ok (.lsub, 1) := dk_101 (dk_at dksX2_noFlaw_0 9 rfl rfl)
theorem dX2_noFlaw_10 : decode cX2_noFlaw 10 = .ok (.invokestatic 105, 3) := dk_184 0 105 (dk_at dksX2_noFlaw_0 10 rfl rfl)
theorem dX2_noFlaw_13 : decode cX2_noFlaw 13 = .ok (.ifCond .ne 7, 3) := dk_154 0 7 (dk_at dksX2_noFlaw_0 13 rfl rfl)
theorem dX2_noFlaw_16 : decode cX2_noFlaw 16 = .ok (.iconst 1, 1) := dk_4 (dk_at dksX2_noFlaw_0 16 rfl rfl)
theorem dX2_noFlaw_17 : decode cX2_noFlaw 17 = .ok (.goto 4, 3) := dk_167 0 4 (dk_at dksX2_noFlaw_0 17 rfl rfl)
theorem dX2_noFlaw_20 : decode cX2_noFlaw 20 = .ok (.iconst 0, 1) := dk_3 (dk_at dksX2_noFlaw_0 20 rfl rfl)
theorem dX2_noFlaw_21 : decode cX2_noFlaw 21 = .ok (.ireturn, 1) := dk_172 (dk_at dksX2_noFlaw_0 21 rfl rfl)
abbrev cX2_reading : ByteArray := prog_8_method_44_code
def yX2_reading : MethodName := ⟨RX2, "reading", "(II)I"⟩
def dkwX2_reading_2 : List UInt8 := [4, 96, 181, 0, 145, 42, 180, 0, 145, 4, 100, 172]
abbrev dktX2_reading_2 : List UInt8 := dkwX2_reading_2 ++ []
def dkwX2_reading_1 : List UInt8 := [180, 0, 58, 42, 180, 0, 145, 27, 79, 42, 180, 0, 61, 42, 180, 0, 145, 28, 79, 42, 89, 180, 0, 145]
abbrev dktX2_reading_1 : List UInt8 := dkwX2_reading_1 ++ dktX2_reading_2
def dkwX2_reading_0 : List UInt8 := [42, 27, 182, 0, 180, 153, 0, 5, 2, 172, 42, 180, 0, 145, 16, 8, 160, 0, 6, 16, 252, 172, 42]
abbrev dktX2_reading_0 : List UInt8 := dkwX2_reading_0 ++ dktX2_reading_1
theorem dksX2_reading_0 : cX2_reading.data.toList.drop 0 = dktX2_reading_0 := by decide +kernel
theorem dksX2_reading_1 : cX2_reading.data.toList.drop 23 = dktX2_reading_1 := dk_seg dksX2_reading_0 23 rfl rfl
theorem dksX2_reading_2 : cX2_reading.data.toList.drop 47 = dktX2_reading_2 := dk_seg dksX2_reading_1 24 rfl rfl
theorem dX2_reading_0 : decode cX2_reading 0 = .ok (.aload_n 0, 1) := dk_42 (dk_at dksX2_reading_0 0 rfl rfl)
theorem dX2_reading_1 : decode cX2_reading 1 = .ok (.iload_n 1, 1) := dk_27 (dk_at dksX2_reading_0 1 rfl rfl)
theorem dX2_reading_2 : decode cX2_reading 2 = .ok (.invokevirtual 180, 3) := dk_182 0 180 (dk_at dksX2_reading_0 2 rfl rfl)
theorem dX2_reading_5 : decode cX2_reading 5 = .ok (.ifCond .eq 5, 3) := dk_153 0 5 (dk_at dksX2_reading_0 5 rfl rfl)
theorem dX2_reading_8 : decode cX2_reading 8 = .ok (.iconst (-1), 1) := dk_2 (dk_at dksX2_reading_0 8 rfl rfl)
theorem dX2_reading_9 : decode cX2_reading 9 = .ok (.ireturn, 1) := dk_172 (dk_at dksX2_reading_0 9 rfl rfl)
theorem dX2_reading_10 : decode cX2_reading 10 = .ok (.aload_n 0, 1) := dk_42 (dk_at dksX2_reading_0 10 rfl rfl)
theorem dX2_reading_11 : decode cX2_reading 11 = .ok (.getfield 145, 3) := dk_180 0 145 (dk_at dksX2_reading_0 11 rfl rfl)
theorem dX2_reading_14 : decode cX2_reading 14 = .ok (.bipush 8, 2) := dk_16 8 (dk_at dksX2_reading_0 14 rfl rfl)
theorem dX2_reading_16 : decode cX2_reading 16 = .ok (.if_icmp .ne 6, 3) := dk_160 0 6 (dk_at dksX2_reading_0 16 rfl rfl)
theorem dX2_reading_19 : decode cX2_reading 19 = .ok (.bipush (-4), 2) := dk_16 252 (dk_at dksX2_reading_0 19 rfl rfl)
theorem dX2_reading_21 : decode cX2_reading 21 = .ok (.ireturn, 1) := dk_172 (dk_at dksX2_reading_0 21 rfl rfl)
theorem dX2_reading_22 : decode cX2_reading 22 = .ok (.aload_n 0, 1) := dk_42 (dk_at dksX2_reading_0 22 rfl rfl)
theorem dX2_reading_23 : decode cX2_reading 23 = .ok (.getfield 58, 3) := dk_180 0 58 (dk_at dksX2_reading_1 0 rfl rfl)
theorem dX2_reading_26 : decode cX2_reading 26 = .ok (.aload_n 0, 1) := dk_42 (dk_at dksX2_reading_1 3 rfl rfl)
theorem dX2_reading_27 : decode cX2_reading 27 = .ok (.getfield 145, 3) := dk_180 0 145 (dk_at dksX2_reading_1 4 rfl rfl)
theorem dX2_reading_30 : decode cX2_reading 30 = .ok (.iload_n 1, 1) := dk_27 (dk_at dksX2_reading_1 7 rfl rfl)
theorem dX2_reading_31 : decode cX2_reading 31 = .ok (.iastore, 1) := dk_79 (dk_at dksX2_reading_1 8 rfl rfl)
theorem dX2_reading_32 : decode cX2_reading 32 = .ok (.aload_n 0, 1) := dk_42 (dk_at dksX2_reading_1 9 rfl rfl)
theorem dX2_reading_33 : decode cX2_reading 33 = .ok (.getfield 61, 3) := dk_180 0 61 (dk_at dksX2_reading_1 10 rfl rfl)
theorem dX2_reading_36 : decode cX2_reading 36 = .ok (.aload_n 0, 1) := dk_42 (dk_at dksX2_reading_1 13 rfl rfl)
theorem dX2_reading_37 : decode cX2_reading 37 = .ok (.getfield 145, 3) := dk_180 0 145 (dk_at dksX2_reading_1 14 rfl rfl)
theorem dX2_reading_40 : decode cX2_reading 40 = .ok (.iload_n 2, 1) := dk_28 (dk_at dksX2_reading_1 17 rfl rfl)
theorem dX2_reading_41 : decode cX2_reading 41 = .ok (.iastore, 1) := dk_79 (dk_at dksX2_reading_1 18 rfl rfl)
theorem dX2_reading_42 : decode cX2_reading 42 = .ok (.aload_n 0, 1) := dk_42 (dk_at dksX2_reading_1 19 rfl rfl)
theorem dX2_reading_43 : decode cX2_reading 43 = .ok (.dup, 1) := dk_89 (dk_at dksX2_reading_1 20 rfl rfl)
theorem dX2_reading_44 : decode cX2_reading 44 = .ok (.getfield 145, 3) := dk_180 0 145 (dk_at dksX2_reading_1 21 rfl rfl)
theorem dX2_reading_47 : decode cX2_reading 47 = .ok (.iconst 1, 1) := dk_4 (dk_at dksX2_reading_2 0 rfl rfl)
theorem dX2_reading_48 : decode cX2_reading 48 = .ok (.iadd, 1) := dk_96 (dk_at dksX2_reading_2 1 rfl rfl)
theorem dX2_reading_49 : decode cX2_reading 49 = .ok (.putfield 145, 3) := dk_181 0 145 (dk_at dksX2_reading_2 2 rfl rfl)
theorem dX2_reading_52 : decode cX2_reading 52 = .ok (.aload_n 0, 1) := dk_42 (dk_at dksX2_reading_2 5 rfl rfl)
theorem dX2_reading_53 : decode cX2_reading 53 = .ok (.getfield 145, 3) := dk_180 0 145 (dk_at dksX2_reading_2 6 rfl rfl)
theorem dX2_reading_56 : decode cX2_reading 56 = .ok (.iconst 1, 1) := dk_4 (dk_at dksX2_reading_2 9 rfl rfl)
theorem dX2_reading_57 : decode cX2_reading 57 = .ok (.isub, 1) := dk_100 (dk_at dksX2_reading_2 10 rfl rfl)
theorem dX2_reading_58 : decode cX2_reading 58 = .ok (.ireturn, 1) := dk_172 (dk_at dksX2_reading_2 11 rfl rfl)
abbrev cX2_back : ByteArray := prog_8_method_45_code
def yX2_back : MethodName := ⟨RX2, "back", "(I)I"⟩
def dkwX2_back_1 : List UInt8 := [181, 0, 145, 42, 180, 0, 145, 172]
abbrev dktX2_back_1 : List UInt8 := dkwX2_back_1 ++ []
def dkwX2_back_0 : List UInt8 := [27, 133, 9, 42, 180, 0, 145, 133, 184, 0, 105, 154, 0, 6, 16, 254, 172, 42, 89, 180, 0, 145, 27, 100]
abbrev dktX2_back_0 : List UInt8 := dkwX2_back_0 ++ dktX2_back_1
theorem dksX2_back_0 : cX2_back.data.toList.drop 0 = dktX2_back_0 := by decide +kernel
theorem dksX2_back_1 : cX2_back.data.toList.drop 24 = dktX2_back_1 := dk_seg dksX2_back_0 24 rfl rfl
theorem dX2_back_0 : decode cX2_back 0 = .ok (.iload_n 1, 1) := dk_27 (dk_at dksX2_back_0 0 rfl rfl)
theorem dX2_back_1 : decode cX2_back 1 = .ok (.i2l, 1) := dk_133 (dk_at dksX2_back_0 1 rfl rfl)
theorem dX2_back_2 : decode cX2_back 2 = .ok (.lconst 0, 1) := dk_9 (dk_at dksX2_back_0 2 rfl rfl)
theorem dX2_back_3 : decode cX2_back 3 = .ok (.aload_n 0, 1) := dk_42 (dk_at dksX2_back_0 3 rfl rfl)
theorem dX2_back_4 : decode cX2_back 4 = .ok (.getfield 145, 3) := dk_180 0 145 (dk_at dksX2_back_0 4 rfl rfl)
theorem dX2_back_7 : decode cX2_back 7 = .ok (.i2l, 1) := dk_133 (dk_at dksX2_back_0 7 rfl rfl)
theorem dX2_back_8 : decode cX2_back 8 = .ok (.invokestatic 105, 3) := dk_184 0 105 (dk_at dksX2_back_0 8 rfl rfl)
theorem dX2_back_11 : decode cX2_back 11 = .ok (.ifCond .ne 6, 3) := dk_154 0 6 (dk_at dksX2_back_0 11 rfl rfl)
theorem dX2_back_14 : decode cX2_back 14 = .ok (.bipush (-2), 2) := dk_16 254 (dk_at dksX2_back_0 14 rfl rfl)
theorem dX2_back_16 : decode cX2_back 16 = .ok (.ireturn, 1) := dk_172 (dk_at dksX2_back_0 16 rfl rfl)
theorem dX2_back_17 : decode cX2_back 17 = .ok (.aload_n 0, 1) := dk_42 (dk_at dksX2_back_0 17 rfl rfl)
theorem dX2_back_18 : decode cX2_back 18 = .ok (.dup, 1) := dk_89 (dk_at dksX2_back_0 18 rfl rfl)
theorem dX2_back_19 : decode cX2_back 19 = .ok (.getfield 145, 3) := dk_180 0 145 (dk_at dksX2_back_0 19 rfl rfl)
theorem dX2_back_22 : decode cX2_back 22 = .ok (.iload_n 1, 1) := dk_27 (dk_at dksX2_back_0 22 rfl rfl)
theorem dX2_back_23 : decode cX2_back 23 = .ok (.isub, 1) := dk_100 (dk_at dksX2_back_0 23 rfl rfl)
theorem dX2_back_24 : decode cX2_back 24 = .ok (.putfield 145, 3) := dk_181 0 145 (dk_at dksX2_back_1 0 rfl rfl)
theorem dX2_back_27 : decode cX2_back 27 = .ok (.aload_n 0, 1) := dk_42 (dk_at dksX2_back_1 3 rfl rfl)
theorem dX2_back_28 : decode cX2_back 28 = .ok (.getfield 145, 3) := dk_180 0 145 (dk_at dksX2_back_1 4 rfl rfl)
theorem dX2_back_31 : decode cX2_back 31 = .ok (.ireturn, 1) := dk_172 (dk_at dksX2_back_1 7 rfl rfl)
abbrev cX2_likely : ByteArray := prog_8_method_49_code
def yX2_likely : MethodName := ⟨RX2, "likely", "(I)I"⟩
def dkwX2_likely_1 : List UInt8 := [182, 0, 240, 27, 154, 0, 10, 42, 180, 0, 231, 167, 0, 7, 42, 180, 0, 234, 172]
abbrev dktX2_likely_1 : List UInt8 := dkwX2_likely_1 ++ []
def dkwX2_likely_0 : List UInt8 := [27, 133, 9, 10, 184, 0, 105, 154, 0, 6, 16, 254, 172, 42, 182, 0, 216, 153, 0, 6, 16, 253, 172, 42]
abbrev dktX2_likely_0 : List UInt8 := dkwX2_likely_0 ++ dktX2_likely_1
theorem dksX2_likely_0 : cX2_likely.data.toList.drop 0 = dktX2_likely_0 := by decide +kernel
theorem dksX2_likely_1 : cX2_likely.data.toList.drop 24 = dktX2_likely_1 := dk_seg dksX2_likely_0 24 rfl rfl
theorem dX2_likely_0 : decode cX2_likely 0 = .ok (.iload_n 1, 1) := dk_27 (dk_at dksX2_likely_0 0 rfl rfl)
theorem dX2_likely_1 : decode cX2_likely 1 = .ok (.i2l, 1) := dk_133 (dk_at dksX2_likely_0 1 rfl rfl)
theorem dX2_likely_2 : decode cX2_likely 2 = .ok (.lconst 0, 1) := dk_9 (dk_at dksX2_likely_0 2 rfl rfl)
theorem dX2_likely_3 : decode cX2_likely 3 = .ok (.lconst 1, 1) := dk_10 (dk_at dksX2_likely_0 3 rfl rfl)
theorem dX2_likely_4 : decode cX2_likely 4 = .ok (.invokestatic 105, 3) := dk_184 0 105 (dk_at dksX2_likely_0 4 rfl rfl)
theorem dX2_likely_7 : decode cX2_likely 7 = .ok (.ifCond .ne 6, 3) := dk_154 0 6 (dk_at dksX2_likely_0 7 rfl rfl)
theorem dX2_likely_10 : decode cX2_likely 10 = .ok (.bipush (-2), 2) := dk_16 254 (dk_at dksX2_likely_0 10 rfl rfl)
theorem dX2_likely_12 : decode cX2_likely 12 = .ok (.ireturn, 1) := dk_172 (dk_at dksX2_likely_0 12 rfl rfl)
theorem dX2_likely_13 : decode cX2_likely 13 = .ok (.aload_n 0, 1) := dk_42 (dk_at dksX2_likely_0 13 rfl rfl)
theorem dX2_likely_14 : decode cX2_likely 14 = .ok (.invokevirtual 216, 3) := dk_182 0 216 (dk_at dksX2_likely_0 14 rfl rfl)
theorem dX2_likely_17 : decode cX2_likely 17 = .ok (.ifCond .eq 6, 3) := dk_153 0 6 (dk_at dksX2_likely_0 17 rfl rfl)
theorem dX2_likely_20 : decode cX2_likely 20 = .ok (.bipush (-3), 2) := dk_16 253 (dk_at dksX2_likely_0 20 rfl rfl)
theorem dX2_likely_22 : decode cX2_likely 22 = .ok (.ireturn, 1) := dk_172 (dk_at dksX2_likely_0 22 rfl rfl)
theorem dX2_likely_23 : decode cX2_likely 23 = .ok (.aload_n 0, 1) := dk_42 (dk_at dksX2_likely_0 23 rfl rfl)
theorem dX2_likely_24 : decode cX2_likely 24 = .ok (.invokevirtual 240, 3) := dk_182 0 240 (dk_at dksX2_likely_1 0 rfl rfl)
theorem dX2_likely_27 : decode cX2_likely 27 = .ok (.iload_n 1, 1) := dk_27 (dk_at dksX2_likely_1 3 rfl rfl)
theorem dX2_likely_28 : decode cX2_likely 28 = .ok (.ifCond .ne 10, 3) := dk_154 0 10 (dk_at dksX2_likely_1 4 rfl rfl)
theorem dX2_likely_31 : decode cX2_likely 31 = .ok (.aload_n 0, 1) := dk_42 (dk_at dksX2_likely_1 7 rfl rfl)
theorem dX2_likely_32 : decode cX2_likely 32 = .ok (.getfield 231, 3) := dk_180 0 231 (dk_at dksX2_likely_1 8 rfl rfl)
theorem dX2_likely_35 : decode cX2_likely 35 = .ok (.goto 7, 3) := dk_167 0 7 (dk_at dksX2_likely_1 11 rfl rfl)
theorem dX2_likely_38 : decode cX2_likely 38 = .ok (.aload_n 0, 1) := dk_42 (dk_at dksX2_likely_1 14 rfl rfl)
theorem dX2_likely_39 : decode cX2_likely 39 = .ok (.getfield 234, 3) := dk_180 0 234 (dk_at dksX2_likely_1 15 rfl rfl)
theorem dX2_likely_42 : decode cX2_likely 42 = .ok (.ireturn, 1) := dk_172 (dk_at dksX2_likely_1 18 rfl rfl)
abbrev cX2_layLikely : ByteArray := prog_8_method_48_code
def yX2_layLikely : MethodName := ⟨RX2, "layLikely", "()V"⟩
def dkwX2_layLikely_9 : List UInt8 := [167, 0, 7, 42, 180, 0, 234, 181, 0, 234, 132, 3, 1, 167, 255, 180, 132, 2, 1, 167, 255, 164, 177]
abbrev dktX2_layLikely_9 : List UInt8 := dkwX2_layLikely_9 ++ []
def dkwX2_layLikely_8 : List UInt8 := [46, 4, 96, 79, 42, 27, 154, 0, 20, 42, 180, 0, 234, 156, 0, 13, 4, 29, 120, 4, 28, 120, 128]
abbrev dktX2_layLikely_8 : List UInt8 := dkwX2_layLikely_8 ++ dktX2_layLikely_9
def dkwX2_layLikely_7 : List UInt8 := [180, 0, 231, 4, 96, 181, 0, 231, 42, 180, 0, 64, 29, 92, 46, 4, 96, 79, 42, 180, 0, 64, 28, 92]
abbrev dktX2_layLikely_7 : List UInt8 := dkwX2_layLikely_7 ++ dktX2_layLikely_8
def dkwX2_layLikely_6 : List UInt8 := [180, 0, 142, 162, 0, 90, 3, 62, 29, 28, 162, 0, 77, 42, 29, 28, 182, 0, 237, 153, 0, 62, 42, 89]
abbrev dktX2_layLikely_6 : List UInt8 := dkwX2_layLikely_6 ++ dktX2_layLikely_7
def dkwX2_layLikely_5 : List UInt8 := [132, 1, 1, 167, 255, 194, 42, 180, 0, 234, 155, 0, 7, 4, 167, 0, 4, 3, 60, 4, 61, 28, 42]
abbrev dktX2_layLikely_5 : List UInt8 := dkwX2_layLikely_5 ++ dktX2_layLikely_6
def dkwX2_layLikely_4 : List UInt8 := [96, 79, 42, 42, 180, 0, 234, 156, 0, 9, 4, 27, 120, 167, 0, 7, 42, 180, 0, 234, 181, 0, 234]
abbrev dktX2_layLikely_4 : List UInt8 := dkwX2_layLikely_4 ++ dktX2_layLikely_5
def dkwX2_layLikely_3 : List UInt8 := [182, 0, 237, 153, 0, 44, 42, 89, 180, 0, 231, 4, 96, 181, 0, 231, 42, 180, 0, 64, 27, 92, 46, 4]
abbrev dktX2_layLikely_3 : List UInt8 := dkwX2_layLikely_3 ++ dktX2_layLikely_4
def dkwX2_layLikely_2 : List UInt8 := [4, 96, 181, 0, 231, 42, 3, 181, 0, 234, 3, 60, 27, 42, 180, 0, 142, 162, 0, 60, 42, 27, 16, 247]
abbrev dktX2_layLikely_2 : List UInt8 := dkwX2_layLikely_2 ++ dktX2_layLikely_3
def dkwX2_layLikely_1 : List UInt8 := [3, 79, 132, 1, 1, 167, 255, 240, 42, 16, 247, 16, 247, 182, 0, 237, 153, 0, 18, 42, 89, 180, 0, 231]
abbrev dktX2_layLikely_1 : List UInt8 := dkwX2_layLikely_1 ++ dktX2_layLikely_2
def dkwX2_layLikely_0 : List UInt8 := [42, 3, 181, 0, 231, 42, 16, 247, 181, 0, 234, 3, 60, 27, 16, 6, 162, 0, 16, 42, 180, 0, 64, 27]
abbrev dktX2_layLikely_0 : List UInt8 := dkwX2_layLikely_0 ++ dktX2_layLikely_1
theorem dksX2_layLikely_0 : cX2_layLikely.data.toList.drop 0 = dktX2_layLikely_0 := by decide +kernel
theorem dksX2_layLikely_1 : cX2_layLikely.data.toList.drop 24 = dktX2_layLikely_1 := dk_seg dksX2_layLikely_0 24 rfl rfl
theorem dksX2_layLikely_2 : cX2_layLikely.data.toList.drop 48 = dktX2_layLikely_2 := dk_seg dksX2_layLikely_1 24 rfl rfl
theorem dksX2_layLikely_3 : cX2_layLikely.data.toList.drop 72 = dktX2_layLikely_3 := dk_seg dksX2_layLikely_2 24 rfl rfl
theorem dksX2_layLikely_4 : cX2_layLikely.data.toList.drop 96 = dktX2_layLikely_4 := dk_seg dksX2_layLikely_3 24 rfl rfl
theorem dksX2_layLikely_5 : cX2_layLikely.data.toList.drop 119 = dktX2_layLikely_5 := dk_seg dksX2_layLikely_4 23 rfl rfl
theorem dksX2_layLikely_6 : cX2_layLikely.data.toList.drop 142 = dktX2_layLikely_6 := dk_seg dksX2_layLikely_5 23 rfl rfl
theorem dksX2_layLikely_7 : cX2_layLikely.data.toList.drop 166 = dktX2_layLikely_7 := dk_seg dksX2_layLikely_6 24 rfl rfl
theorem dksX2_layLikely_8 : cX2_layLikely.data.toList.drop 190 = dktX2_layLikely_8 := dk_seg dksX2_layLikely_7 24 rfl rfl
theorem dksX2_layLikely_9 : cX2_layLikely.data.toList.drop 213 = dktX2_layLikely_9 := dk_seg dksX2_layLikely_8 23 rfl rfl
theorem dX2_layLikely_0 : decode cX2_layLikely 0 = .ok (.aload_n 0, 1) := dk_42 (dk_at dksX2_layLikely_0 0 rfl rfl)
theorem dX2_layLikely_1 : decode cX2_layLikely 1 = .ok (.iconst 0, 1) := dk_3 (dk_at dksX2_layLikely_0 1 rfl rfl)
theorem dX2_layLikely_2 : decode cX2_layLikely 2 = .ok (.putfield 231, 3) := dk_181 0 231 (dk_at dksX2_layLikely_0 2 rfl rfl)
theorem dX2_layLikely_5 : decode cX2_layLikely 5 = .ok (.aload_n 0, 1) := dk_42 (dk_at dksX2_layLikely_0 5 rfl rfl)
theorem dX2_layLikely_6 : decode cX2_layLikely 6 = .ok (.bipush (-9), 2) := dk_16 247 (dk_at dksX2_layLikely_0 6 rfl rfl)
theorem dX2_layLikely_8 : decode cX2_layLikely 8 = .ok (.putfield 234, 3) := dk_181 0 234 (dk_at dksX2_layLikely_0 8 rfl rfl)
theorem dX2_layLikely_11 : decode cX2_layLikely 11 = .ok (.iconst 0, 1) := dk_3 (dk_at dksX2_layLikely_0 11 rfl rfl)
theorem dX2_layLikely_12 : decode cX2_layLikely 12 = .ok (.istore_n 1, 1) := dk_60 (dk_at dksX2_layLikely_0 12 rfl rfl)
theorem dX2_layLikely_13 : decode cX2_layLikely 13 = .ok (.iload_n 1, 1) := dk_27 (dk_at dksX2_layLikely_0 13 rfl rfl)
theorem dX2_layLikely_14 : decode cX2_layLikely 14 = .ok (.bipush 6, 2) := dk_16 6 (dk_at dksX2_layLikely_0 14 rfl rfl)
theorem dX2_layLikely_16 : decode cX2_layLikely 16 = .ok (.if_icmp .ge 16, 3) := dk_162 0 16 (dk_at dksX2_layLikely_0 16 rfl rfl)
theorem dX2_layLikely_19 : decode cX2_layLikely 19 = .ok (.aload_n 0, 1) := dk_42 (dk_at dksX2_layLikely_0 19 rfl rfl)
theorem dX2_layLikely_20 : decode cX2_layLikely 20 = .ok (.getfield 64, 3) := dk_180 0 64 (dk_at dksX2_layLikely_0 20 rfl rfl)
theorem dX2_layLikely_23 : decode cX2_layLikely 23 = .ok (.iload_n 1, 1) := dk_27 (dk_at dksX2_layLikely_0 23 rfl rfl)
theorem dX2_layLikely_24 : decode cX2_layLikely 24 = .ok (.iconst 0, 1) := dk_3 (dk_at dksX2_layLikely_1 0 rfl rfl)
theorem dX2_layLikely_25 : decode cX2_layLikely 25 = .ok (.iastore, 1) := dk_79 (dk_at dksX2_layLikely_1 1 rfl rfl)
theorem dX2_layLikely_26 : decode cX2_layLikely 26 = .ok (.iinc 1 1, 3) := dk_132 1 1 (dk_at dksX2_layLikely_1 2 rfl rfl)
theorem dX2_layLikely_29 : decode cX2_layLikely 29 = .ok (.goto (-16), 3) := dk_167 255 240 (dk_at dksX2_layLikely_1 5 rfl rfl)
theorem dX2_layLikely_32 : decode cX2_layLikely 32 = .ok (.aload_n 0, 1) := dk_42 (dk_at dksX2_layLikely_1 8 rfl rfl)
theorem dX2_layLikely_33 : decode cX2_layLikely 33 = .ok (.bipush (-9), 2) := dk_16 247 (dk_at dksX2_layLikely_1 9 rfl rfl)
theorem dX2_layLikely_35 : decode cX2_layLikely 35 = .ok (.bipush (-9), 2) := dk_16 247 (dk_at dksX2_layLikely_1 11 rfl rfl)
theorem dX2_layLikely_37 : decode cX2_layLikely 37 = .ok (.invokevirtual 237, 3) := dk_182 0 237 (dk_at dksX2_layLikely_1 13 rfl rfl)
theorem dX2_layLikely_40 : decode cX2_layLikely 40 = .ok (.ifCond .eq 18, 3) := dk_153 0 18 (dk_at dksX2_layLikely_1 16 rfl rfl)
theorem dX2_layLikely_43 : decode cX2_layLikely 43 = .ok (.aload_n 0, 1) := dk_42 (dk_at dksX2_layLikely_1 19 rfl rfl)
theorem dX2_layLikely_44 : decode cX2_layLikely 44 = .ok (.dup, 1) := dk_89 (dk_at dksX2_layLikely_1 20 rfl rfl)
theorem dX2_layLikely_45 : decode cX2_layLikely 45 = .ok (.getfield 231, 3) := dk_180 0 231 (dk_at dksX2_layLikely_1 21 rfl rfl)
theorem dX2_layLikely_48 : decode cX2_layLikely 48 = .ok (.iconst 1, 1) := dk_4 (dk_at dksX2_layLikely_2 0 rfl rfl)
theorem dX2_layLikely_49 : decode cX2_layLikely 49 = .ok (.iadd, 1) := dk_96 (dk_at dksX2_layLikely_2 1 rfl rfl)
theorem dX2_layLikely_50 : decode cX2_layLikely 50 = .ok (.putfield 231, 3) := dk_181 0 231 (dk_at dksX2_layLikely_2 2 rfl rfl)
theorem dX2_layLikely_53 : decode cX2_layLikely 53 = .ok (.aload_n 0, 1) := dk_42 (dk_at dksX2_layLikely_2 5 rfl rfl)
theorem dX2_layLikely_54 : decode cX2_layLikely 54 = .ok (.iconst 0, 1) := dk_3 (dk_at dksX2_layLikely_2 6 rfl rfl)
theorem dX2_layLikely_55 : decode cX2_layLikely 55 = .ok (.putfield 234, 3) := dk_181 0 234 (dk_at dksX2_layLikely_2 7 rfl rfl)
theorem dX2_layLikely_58 : decode cX2_layLikely 58 = .ok (.iconst 0, 1) := dk_3 (dk_at dksX2_layLikely_2 10 rfl rfl)
theorem dX2_layLikely_59 : decode cX2_layLikely 59 = .ok (.istore_n 1, 1) := dk_60 (dk_at dksX2_layLikely_2 11 rfl rfl)
theorem dX2_layLikely_60 : decode cX2_layLikely 60 = .ok (.iload_n 1, 1) := dk_27 (dk_at dksX2_layLikely_2 12 rfl rfl)
theorem dX2_layLikely_61 : decode cX2_layLikely 61 = .ok (.aload_n 0, 1) := dk_42 (dk_at dksX2_layLikely_2 13 rfl rfl)
theorem dX2_layLikely_62 : decode cX2_layLikely 62 = .ok (.getfield 142, 3) := dk_180 0 142 (dk_at dksX2_layLikely_2 14 rfl rfl)
theorem dX2_layLikely_65 : decode cX2_layLikely 65 = .ok (.if_icmp .ge 60, 3) := dk_162 0 60 (dk_at dksX2_layLikely_2 17 rfl rfl)
theorem dX2_layLikely_68 : decode cX2_layLikely 68 = .ok (.aload_n 0, 1) := dk_42 (dk_at dksX2_layLikely_2 20 rfl rfl)
theorem dX2_layLikely_69 : decode cX2_layLikely 69 = .ok (.iload_n 1, 1) := dk_27 (dk_at dksX2_layLikely_2 21 rfl rfl)
theorem dX2_layLikely_70 : decode cX2_layLikely 70 = .ok (.bipush (-9), 2) := dk_16 247 (dk_at dksX2_layLikely_2 22 rfl rfl)
theorem dX2_layLikely_72 : decode cX2_layLikely 72 = .ok (.invokevirtual 237, 3) := dk_182 0 237 (dk_at dksX2_layLikely_3 0 rfl rfl)
theorem dX2_layLikely_75 : decode cX2_layLikely 75 = .ok (.ifCond .eq 44, 3) := dk_153 0 44 (dk_at dksX2_layLikely_3 3 rfl rfl)
theorem dX2_layLikely_78 : decode cX2_layLikely 78 = .ok (.aload_n 0, 1) := dk_42 (dk_at dksX2_layLikely_3 6 rfl rfl)
theorem dX2_layLikely_79 : decode cX2_layLikely 79 = .ok (.dup, 1) := dk_89 (dk_at dksX2_layLikely_3 7 rfl rfl)
theorem dX2_layLikely_80 : decode cX2_layLikely 80 = .ok (.getfield 231, 3) := dk_180 0 231 (dk_at dksX2_layLikely_3 8 rfl rfl)
theorem dX2_layLikely_83 : decode cX2_layLikely 83 = .ok (.iconst 1, 1) := dk_4 (dk_at dksX2_layLikely_3 11 rfl rfl)
theorem dX2_layLikely_84 : decode cX2_layLikely 84 = .ok (.iadd, 1) := dk_96 (dk_at dksX2_layLikely_3 12 rfl rfl)
theorem dX2_layLikely_85 : decode cX2_layLikely 85 = .ok (.putfield 231, 3) := dk_181 0 231 (dk_at dksX2_layLikely_3 13 rfl rfl)
theorem dX2_layLikely_88 : decode cX2_layLikely 88 = .ok (.aload_n 0, 1) := dk_42 (dk_at dksX2_layLikely_3 16 rfl rfl)
theorem dX2_layLikely_89 : decode cX2_layLikely 89 = .ok (.getfield 64, 3) := dk_180 0 64 (dk_at dksX2_layLikely_3 17 rfl rfl)
theorem dX2_layLikely_92 : decode cX2_layLikely 92 = .ok (.iload_n 1, 1) := dk_27 (dk_at dksX2_layLikely_3 20 rfl rfl)
theorem dX2_layLikely_93 : decode cX2_layLikely 93 = .ok (.dup2, 1) := dk_92 (dk_at dksX2_layLikely_3 21 rfl rfl)
theorem dX2_layLikely_94 : decode cX2_layLikely 94 = .ok (.iaload, 1) := dk_46 (dk_at dksX2_layLikely_3 22 rfl rfl)
theorem dX2_layLikely_95 : decode cX2_layLikely 95 = .ok (.iconst 1, 1) := dk_4 (dk_at dksX2_layLikely_3 23 rfl rfl)
theorem dX2_layLikely_96 : decode cX2_layLikely 96 = .ok (.iadd, 1) := dk_96 (dk_at dksX2_layLikely_4 0 rfl rfl)
theorem dX2_layLikely_97 : decode cX2_layLikely 97 = .ok (.iastore, 1) := dk_79 (dk_at dksX2_layLikely_4 1 rfl rfl)
theorem dX2_layLikely_98 : decode cX2_layLikely 98 = .ok (.aload_n 0, 1) := dk_42 (dk_at dksX2_layLikely_4 2 rfl rfl)
theorem dX2_layLikely_99 : decode cX2_layLikely 99 = .ok (.aload_n 0, 1) := dk_42 (dk_at dksX2_layLikely_4 3 rfl rfl)
theorem dX2_layLikely_100 : decode cX2_layLikely 100 = .ok (.getfield 234, 3) := dk_180 0 234 (dk_at dksX2_layLikely_4 4 rfl rfl)
theorem dX2_layLikely_103 : decode cX2_layLikely 103 = .ok (.ifCond .ge 9, 3) := dk_156 0 9 (dk_at dksX2_layLikely_4 7 rfl rfl)
theorem dX2_layLikely_106 : decode cX2_layLikely 106 = .ok (.iconst 1, 1) := dk_4 (dk_at dksX2_layLikely_4 10 rfl rfl)
theorem dX2_layLikely_107 : decode cX2_layLikely 107 = .ok (.iload_n 1, 1) := dk_27 (dk_at dksX2_layLikely_4 11 rfl rfl)
theorem dX2_layLikely_108 : decode cX2_layLikely 108 = .ok (.ishl, 1) := dk_120 (dk_at dksX2_layLikely_4 12 rfl rfl)
theorem dX2_layLikely_109 : decode cX2_layLikely 109 = .ok (.goto 7, 3) := dk_167 0 7 (dk_at dksX2_layLikely_4 13 rfl rfl)
theorem dX2_layLikely_112 : decode cX2_layLikely 112 = .ok (.aload_n 0, 1) := dk_42 (dk_at dksX2_layLikely_4 16 rfl rfl)
theorem dX2_layLikely_113 : decode cX2_layLikely 113 = .ok (.getfield 234, 3) := dk_180 0 234 (dk_at dksX2_layLikely_4 17 rfl rfl)
theorem dX2_layLikely_116 : decode cX2_layLikely 116 = .ok (.putfield 234, 3) := dk_181 0 234 (dk_at dksX2_layLikely_4 20 rfl rfl)
theorem dX2_layLikely_119 : decode cX2_layLikely 119 = .ok (.iinc 1 1, 3) := dk_132 1 1 (dk_at dksX2_layLikely_5 0 rfl rfl)
theorem dX2_layLikely_122 : decode cX2_layLikely 122 = .ok (.goto (-62), 3) := dk_167 255 194 (dk_at dksX2_layLikely_5 3 rfl rfl)
theorem dX2_layLikely_125 : decode cX2_layLikely 125 = .ok (.aload_n 0, 1) := dk_42 (dk_at dksX2_layLikely_5 6 rfl rfl)
theorem dX2_layLikely_126 : decode cX2_layLikely 126 = .ok (.getfield 234, 3) := dk_180 0 234 (dk_at dksX2_layLikely_5 7 rfl rfl)
theorem dX2_layLikely_129 : decode cX2_layLikely 129 = .ok (.ifCond .lt 7, 3) := dk_155 0 7 (dk_at dksX2_layLikely_5 10 rfl rfl)
theorem dX2_layLikely_132 : decode cX2_layLikely 132 = .ok (.iconst 1, 1) := dk_4 (dk_at dksX2_layLikely_5 13 rfl rfl)
theorem dX2_layLikely_133 : decode cX2_layLikely 133 = .ok (.goto 4, 3) := dk_167 0 4 (dk_at dksX2_layLikely_5 14 rfl rfl)
theorem dX2_layLikely_136 : decode cX2_layLikely 136 = .ok (.iconst 0, 1) := dk_3 (dk_at dksX2_layLikely_5 17 rfl rfl)
theorem dX2_layLikely_137 : decode cX2_layLikely 137 = .ok (.istore_n 1, 1) := dk_60 (dk_at dksX2_layLikely_5 18 rfl rfl)
theorem dX2_layLikely_138 : decode cX2_layLikely 138 = .ok (.iconst 1, 1) := dk_4 (dk_at dksX2_layLikely_5 19 rfl rfl)
theorem dX2_layLikely_139 : decode cX2_layLikely 139 = .ok (.istore_n 2, 1) := dk_61 (dk_at dksX2_layLikely_5 20 rfl rfl)
theorem dX2_layLikely_140 : decode cX2_layLikely 140 = .ok (.iload_n 2, 1) := dk_28 (dk_at dksX2_layLikely_5 21 rfl rfl)
theorem dX2_layLikely_141 : decode cX2_layLikely 141 = .ok (.aload_n 0, 1) := dk_42 (dk_at dksX2_layLikely_5 22 rfl rfl)
theorem dX2_layLikely_142 : decode cX2_layLikely 142 = .ok (.getfield 142, 3) := dk_180 0 142 (dk_at dksX2_layLikely_6 0 rfl rfl)
theorem dX2_layLikely_145 : decode cX2_layLikely 145 = .ok (.if_icmp .ge 90, 3) := dk_162 0 90 (dk_at dksX2_layLikely_6 3 rfl rfl)
theorem dX2_layLikely_148 : decode cX2_layLikely 148 = .ok (.iconst 0, 1) := dk_3 (dk_at dksX2_layLikely_6 6 rfl rfl)
theorem dX2_layLikely_149 : decode cX2_layLikely 149 = .ok (.istore_n 3, 1) := dk_62 (dk_at dksX2_layLikely_6 7 rfl rfl)
theorem dX2_layLikely_150 : decode cX2_layLikely 150 = .ok (.iload_n 3, 1) := dk_29 (dk_at dksX2_layLikely_6 8 rfl rfl)
theorem dX2_layLikely_151 : decode cX2_layLikely 151 = .ok (.iload_n 2, 1) := dk_28 (dk_at dksX2_layLikely_6 9 rfl rfl)
theorem dX2_layLikely_152 : decode cX2_layLikely 152 = .ok (.if_icmp .ge 77, 3) := dk_162 0 77 (dk_at dksX2_layLikely_6 10 rfl rfl)
theorem dX2_layLikely_155 : decode cX2_layLikely 155 = .ok (.aload_n 0, 1) := dk_42 (dk_at dksX2_layLikely_6 13 rfl rfl)
theorem dX2_layLikely_156 : decode cX2_layLikely 156 = .ok (.iload_n 3, 1) := dk_29 (dk_at dksX2_layLikely_6 14 rfl rfl)
theorem dX2_layLikely_157 : decode cX2_layLikely 157 = .ok (.iload_n 2, 1) := dk_28 (dk_at dksX2_layLikely_6 15 rfl rfl)
theorem dX2_layLikely_158 : decode cX2_layLikely 158 = .ok (.invokevirtual 237, 3) := dk_182 0 237 (dk_at dksX2_layLikely_6 16 rfl rfl)
theorem dX2_layLikely_161 : decode cX2_layLikely 161 = .ok (.ifCond .eq 62, 3) := dk_153 0 62 (dk_at dksX2_layLikely_6 19 rfl rfl)
theorem dX2_layLikely_164 : decode cX2_layLikely 164 = .ok (.aload_n 0, 1) := dk_42 (dk_at dksX2_layLikely_6 22 rfl rfl)
theorem dX2_layLikely_165 : decode cX2_layLikely 165 = .ok (.dup, 1) := dk_89 (dk_at dksX2_layLikely_6 23 rfl rfl)
theorem dX2_layLikely_166 : decode cX2_layLikely 166 = .ok (.getfield 231, 3) := dk_180 0 231 (dk_at dksX2_layLikely_7 0 rfl rfl)
theorem dX2_layLikely_169 : decode cX2_layLikely 169 = .ok (.iconst 1, 1) := dk_4 (dk_at dksX2_layLikely_7 3 rfl rfl)
theorem dX2_layLikely_170 : decode cX2_layLikely 170 = .ok (.iadd, 1) := dk_96 (dk_at dksX2_layLikely_7 4 rfl rfl)
theorem dX2_layLikely_171 : decode cX2_layLikely 171 = .ok (.putfield 231, 3) := dk_181 0 231 (dk_at dksX2_layLikely_7 5 rfl rfl)
theorem dX2_layLikely_174 : decode cX2_layLikely 174 = .ok (.aload_n 0, 1) := dk_42 (dk_at dksX2_layLikely_7 8 rfl rfl)
theorem dX2_layLikely_175 : decode cX2_layLikely 175 = .ok (.getfield 64, 3) := dk_180 0 64 (dk_at dksX2_layLikely_7 9 rfl rfl)
theorem dX2_layLikely_178 : decode cX2_layLikely 178 = .ok (.iload_n 3, 1) := dk_29 (dk_at dksX2_layLikely_7 12 rfl rfl)
theorem dX2_layLikely_179 : decode cX2_layLikely 179 = .ok (.dup2, 1) := dk_92 (dk_at dksX2_layLikely_7 13 rfl rfl)
theorem dX2_layLikely_180 : decode cX2_layLikely 180 = .ok (.iaload, 1) := dk_46 (dk_at dksX2_layLikely_7 14 rfl rfl)
theorem dX2_layLikely_181 : decode cX2_layLikely 181 = .ok (.iconst 1, 1) := dk_4 (dk_at dksX2_layLikely_7 15 rfl rfl)
theorem dX2_layLikely_182 : decode cX2_layLikely 182 = .ok (.iadd, 1) := dk_96 (dk_at dksX2_layLikely_7 16 rfl rfl)
theorem dX2_layLikely_183 : decode cX2_layLikely 183 = .ok (.iastore, 1) := dk_79 (dk_at dksX2_layLikely_7 17 rfl rfl)
theorem dX2_layLikely_184 : decode cX2_layLikely 184 = .ok (.aload_n 0, 1) := dk_42 (dk_at dksX2_layLikely_7 18 rfl rfl)
theorem dX2_layLikely_185 : decode cX2_layLikely 185 = .ok (.getfield 64, 3) := dk_180 0 64 (dk_at dksX2_layLikely_7 19 rfl rfl)
theorem dX2_layLikely_188 : decode cX2_layLikely 188 = .ok (.iload_n 2, 1) := dk_28 (dk_at dksX2_layLikely_7 22 rfl rfl)
theorem dX2_layLikely_189 : decode cX2_layLikely 189 = .ok (.dup2, 1) := dk_92 (dk_at dksX2_layLikely_7 23 rfl rfl)
theorem dX2_layLikely_190 : decode cX2_layLikely 190 = .ok (.iaload, 1) := dk_46 (dk_at dksX2_layLikely_8 0 rfl rfl)
theorem dX2_layLikely_191 : decode cX2_layLikely 191 = .ok (.iconst 1, 1) := dk_4 (dk_at dksX2_layLikely_8 1 rfl rfl)
theorem dX2_layLikely_192 : decode cX2_layLikely 192 = .ok (.iadd, 1) := dk_96 (dk_at dksX2_layLikely_8 2 rfl rfl)
theorem dX2_layLikely_193 : decode cX2_layLikely 193 = .ok (.iastore, 1) := dk_79 (dk_at dksX2_layLikely_8 3 rfl rfl)
theorem dX2_layLikely_194 : decode cX2_layLikely 194 = .ok (.aload_n 0, 1) := dk_42 (dk_at dksX2_layLikely_8 4 rfl rfl)
theorem dX2_layLikely_195 : decode cX2_layLikely 195 = .ok (.iload_n 1, 1) := dk_27 (dk_at dksX2_layLikely_8 5 rfl rfl)
theorem dX2_layLikely_196 : decode cX2_layLikely 196 = .ok (.ifCond .ne 20, 3) := dk_154 0 20 (dk_at dksX2_layLikely_8 6 rfl rfl)
theorem dX2_layLikely_199 : decode cX2_layLikely 199 = .ok (.aload_n 0, 1) := dk_42 (dk_at dksX2_layLikely_8 9 rfl rfl)
theorem dX2_layLikely_200 : decode cX2_layLikely 200 = .ok (.getfield 234, 3) := dk_180 0 234 (dk_at dksX2_layLikely_8 10 rfl rfl)
theorem dX2_layLikely_203 : decode cX2_layLikely 203 = .ok (.ifCond .ge 13, 3) := dk_156 0 13 (dk_at dksX2_layLikely_8 13 rfl rfl)
theorem dX2_layLikely_206 : decode cX2_layLikely 206 = .ok (.iconst 1, 1) := dk_4 (dk_at dksX2_layLikely_8 16 rfl rfl)
theorem dX2_layLikely_207 : decode cX2_layLikely 207 = .ok (.iload_n 3, 1) := dk_29 (dk_at dksX2_layLikely_8 17 rfl rfl)
theorem dX2_layLikely_208 : decode cX2_layLikely 208 = .ok (.ishl, 1) := dk_120 (dk_at dksX2_layLikely_8 18 rfl rfl)
theorem dX2_layLikely_209 : decode cX2_layLikely 209 = .ok (.iconst 1, 1) := dk_4 (dk_at dksX2_layLikely_8 19 rfl rfl)
theorem dX2_layLikely_210 : decode cX2_layLikely 210 = .ok (.iload_n 2, 1) := dk_28 (dk_at dksX2_layLikely_8 20 rfl rfl)
theorem dX2_layLikely_211 : decode cX2_layLikely 211 = .ok (.ishl, 1) := dk_120 (dk_at dksX2_layLikely_8 21 rfl rfl)
theorem dX2_layLikely_212 : decode cX2_layLikely 212 = .ok (.ior, 1) := dk_128 (dk_at dksX2_layLikely_8 22 rfl rfl)
theorem dX2_layLikely_213 : decode cX2_layLikely 213 = .ok (.goto 7, 3) := dk_167 0 7 (dk_at dksX2_layLikely_9 0 rfl rfl)
theorem dX2_layLikely_216 : decode cX2_layLikely 216 = .ok (.aload_n 0, 1) := dk_42 (dk_at dksX2_layLikely_9 3 rfl rfl)
theorem dX2_layLikely_217 : decode cX2_layLikely 217 = .ok (.getfield 234, 3) := dk_180 0 234 (dk_at dksX2_layLikely_9 4 rfl rfl)
theorem dX2_layLikely_220 : decode cX2_layLikely 220 = .ok (.putfield 234, 3) := dk_181 0 234 (dk_at dksX2_layLikely_9 7 rfl rfl)
theorem dX2_layLikely_223 : decode cX2_layLikely 223 = .ok (.iinc 3 1, 3) := dk_132 3 1 (dk_at dksX2_layLikely_9 10 rfl rfl)
theorem dX2_layLikely_226 : decode cX2_layLikely 226 = .ok (.goto (-76), 3) := dk_167 255 180 (dk_at dksX2_layLikely_9 13 rfl rfl)
theorem dX2_layLikely_229 : decode cX2_layLikely 229 = .ok (.iinc 2 1, 3) := dk_132 2 1 (dk_at dksX2_layLikely_9 16 rfl rfl)
theorem dX2_layLikely_232 : decode cX2_layLikely 232 = .ok (.goto (-92), 3) := dk_167 255 164 (dk_at dksX2_layLikely_9 19 rfl rfl)
theorem dX2_layLikely_235 : decode cX2_layLikely 235 = .ok (.return_, 1) := dk_177 (dk_at dksX2_layLikely_9 22 rfl rfl)
abbrev cX2_doFit : ByteArray := prog_8_method_47_code
def yX2_doFit : MethodName := ⟨RX2, "doFit", "(II)Z"⟩
def dkwX2_doFit_4 : List UInt8 := [155, 0, 21, 42, 42, 180, 0, 49, 27, 46, 42, 180, 0, 52, 27, 46, 29, 182, 0, 157, 87, 21, 5, 172]
abbrev dktX2_doFit_4 : List UInt8 := dkwX2_doFit_4 ++ []
def dkwX2_doFit_3 : List UInt8 := [155, 0, 22, 42, 42, 180, 0, 49, 28, 46, 42, 180, 0, 52, 28, 46, 21, 4, 182, 0, 157, 87, 27]
abbrev dktX2_doFit_3 : List UInt8 := dkwX2_doFit_3 ++ dktX2_doFit_4
def dkwX2_doFit_2 : List UInt8 := [42, 180, 0, 52, 28, 46, 42, 180, 0, 55, 28, 46, 182, 0, 157, 54, 4, 42, 182, 0, 228, 54, 5, 28]
abbrev dktX2_doFit_2 : List UInt8 := dkwX2_doFit_2 ++ dktX2_doFit_3
def dkwX2_doFit_1 : List UInt8 := [180, 0, 55, 27, 46, 182, 0, 157, 62, 28, 156, 0, 7, 3, 167, 0, 25, 42, 42, 180, 0, 49, 28, 46]
abbrev dktX2_doFit_1 : List UInt8 := dkwX2_doFit_1 ++ dktX2_doFit_2
def dkwX2_doFit_0 : List UInt8 := [27, 156, 0, 7, 3, 167, 0, 25, 42, 42, 180, 0, 49, 27, 46, 42, 180, 0, 52, 27, 46, 42]
abbrev dktX2_doFit_0 : List UInt8 := dkwX2_doFit_0 ++ dktX2_doFit_1
theorem dksX2_doFit_0 : cX2_doFit.data.toList.drop 0 = dktX2_doFit_0 := by decide +kernel
theorem dksX2_doFit_1 : cX2_doFit.data.toList.drop 22 = dktX2_doFit_1 := dk_seg dksX2_doFit_0 22 rfl rfl
theorem dksX2_doFit_2 : cX2_doFit.data.toList.drop 46 = dktX2_doFit_2 := dk_seg dksX2_doFit_1 24 rfl rfl
theorem dksX2_doFit_3 : cX2_doFit.data.toList.drop 70 = dktX2_doFit_3 := dk_seg dksX2_doFit_2 24 rfl rfl
theorem dksX2_doFit_4 : cX2_doFit.data.toList.drop 93 = dktX2_doFit_4 := dk_seg dksX2_doFit_3 23 rfl rfl
theorem dX2_doFit_0 : decode cX2_doFit 0 = .ok (.iload_n 1, 1) := dk_27 (dk_at dksX2_doFit_0 0 rfl rfl)
theorem dX2_doFit_1 : decode cX2_doFit 1 = .ok (.ifCond .ge 7, 3) := dk_156 0 7 (dk_at dksX2_doFit_0 1 rfl rfl)
theorem dX2_doFit_4 : decode cX2_doFit 4 = .ok (.iconst 0, 1) := dk_3 (dk_at dksX2_doFit_0 4 rfl rfl)
theorem dX2_doFit_5 : decode cX2_doFit 5 = .ok (.goto 25, 3) := dk_167 0 25 (dk_at dksX2_doFit_0 5 rfl rfl)
theorem dX2_doFit_8 : decode cX2_doFit 8 = .ok (.aload_n 0, 1) := dk_42 (dk_at dksX2_doFit_0 8 rfl rfl)
theorem dX2_doFit_9 : decode cX2_doFit 9 = .ok (.aload_n 0, 1) := dk_42 (dk_at dksX2_doFit_0 9 rfl rfl)
theorem dX2_doFit_10 : decode cX2_doFit 10 = .ok (.getfield 49, 3) := dk_180 0 49 (dk_at dksX2_doFit_0 10 rfl rfl)
theorem dX2_doFit_13 : decode cX2_doFit 13 = .ok (.iload_n 1, 1) := dk_27 (dk_at dksX2_doFit_0 13 rfl rfl)
theorem dX2_doFit_14 : decode cX2_doFit 14 = .ok (.iaload, 1) := dk_46 (dk_at dksX2_doFit_0 14 rfl rfl)
theorem dX2_doFit_15 : decode cX2_doFit 15 = .ok (.aload_n 0, 1) := dk_42 (dk_at dksX2_doFit_0 15 rfl rfl)
theorem dX2_doFit_16 : decode cX2_doFit 16 = .ok (.getfield 52, 3) := dk_180 0 52 (dk_at dksX2_doFit_0 16 rfl rfl)
theorem dX2_doFit_19 : decode cX2_doFit 19 = .ok (.iload_n 1, 1) := dk_27 (dk_at dksX2_doFit_0 19 rfl rfl)
theorem dX2_doFit_20 : decode cX2_doFit 20 = .ok (.iaload, 1) := dk_46 (dk_at dksX2_doFit_0 20 rfl rfl)
theorem dX2_doFit_21 : decode cX2_doFit 21 = .ok (.aload_n 0, 1) := dk_42 (dk_at dksX2_doFit_0 21 rfl rfl)
theorem dX2_doFit_22 : decode cX2_doFit 22 = .ok (.getfield 55, 3) := dk_180 0 55 (dk_at dksX2_doFit_1 0 rfl rfl)
theorem dX2_doFit_25 : decode cX2_doFit 25 = .ok (.iload_n 1, 1) := dk_27 (dk_at dksX2_doFit_1 3 rfl rfl)
theorem dX2_doFit_26 : decode cX2_doFit 26 = .ok (.iaload, 1) := dk_46 (dk_at dksX2_doFit_1 4 rfl rfl)
theorem dX2_doFit_27 : decode cX2_doFit 27 = .ok (.invokevirtual 157, 3) := dk_182 0 157 (dk_at dksX2_doFit_1 5 rfl rfl)
theorem dX2_doFit_30 : decode cX2_doFit 30 = .ok (.istore_n 3, 1) := dk_62 (dk_at dksX2_doFit_1 8 rfl rfl)
theorem dX2_doFit_31 : decode cX2_doFit 31 = .ok (.iload_n 2, 1) := dk_28 (dk_at dksX2_doFit_1 9 rfl rfl)
theorem dX2_doFit_32 : decode cX2_doFit 32 = .ok (.ifCond .ge 7, 3) := dk_156 0 7 (dk_at dksX2_doFit_1 10 rfl rfl)
theorem dX2_doFit_35 : decode cX2_doFit 35 = .ok (.iconst 0, 1) := dk_3 (dk_at dksX2_doFit_1 13 rfl rfl)
theorem dX2_doFit_36 : decode cX2_doFit 36 = .ok (.goto 25, 3) := dk_167 0 25 (dk_at dksX2_doFit_1 14 rfl rfl)
theorem dX2_doFit_39 : decode cX2_doFit 39 = .ok (.aload_n 0, 1) := dk_42 (dk_at dksX2_doFit_1 17 rfl rfl)
theorem dX2_doFit_40 : decode cX2_doFit 40 = .ok (.aload_n 0, 1) := dk_42 (dk_at dksX2_doFit_1 18 rfl rfl)
theorem dX2_doFit_41 : decode cX2_doFit 41 = .ok (.getfield 49, 3) := dk_180 0 49 (dk_at dksX2_doFit_1 19 rfl rfl)
theorem dX2_doFit_44 : decode cX2_doFit 44 = .ok (.iload_n 2, 1) := dk_28 (dk_at dksX2_doFit_1 22 rfl rfl)
theorem dX2_doFit_45 : decode cX2_doFit 45 = .ok (.iaload, 1) := dk_46 (dk_at dksX2_doFit_1 23 rfl rfl)
theorem dX2_doFit_46 : decode cX2_doFit 46 = .ok (.aload_n 0, 1) := dk_42 (dk_at dksX2_doFit_2 0 rfl rfl)
theorem dX2_doFit_47 : decode cX2_doFit 47 = .ok (.getfield 52, 3) := dk_180 0 52 (dk_at dksX2_doFit_2 1 rfl rfl)
theorem dX2_doFit_50 : decode cX2_doFit 50 = .ok (.iload_n 2, 1) := dk_28 (dk_at dksX2_doFit_2 4 rfl rfl)
theorem dX2_doFit_51 : decode cX2_doFit 51 = .ok (.iaload, 1) := dk_46 (dk_at dksX2_doFit_2 5 rfl rfl)
theorem dX2_doFit_52 : decode cX2_doFit 52 = .ok (.aload_n 0, 1) := dk_42 (dk_at dksX2_doFit_2 6 rfl rfl)
theorem dX2_doFit_53 : decode cX2_doFit 53 = .ok (.getfield 55, 3) := dk_180 0 55 (dk_at dksX2_doFit_2 7 rfl rfl)
theorem dX2_doFit_56 : decode cX2_doFit 56 = .ok (.iload_n 2, 1) := dk_28 (dk_at dksX2_doFit_2 10 rfl rfl)
theorem dX2_doFit_57 : decode cX2_doFit 57 = .ok (.iaload, 1) := dk_46 (dk_at dksX2_doFit_2 11 rfl rfl)
theorem dX2_doFit_58 : decode cX2_doFit 58 = .ok (.invokevirtual 157, 3) := dk_182 0 157 (dk_at dksX2_doFit_2 12 rfl rfl)
theorem dX2_doFit_61 : decode cX2_doFit 61 = .ok (.istore 4, 2) := dk_54 4 (dk_at dksX2_doFit_2 15 rfl rfl)
theorem dX2_doFit_63 : decode cX2_doFit 63 = .ok (.aload_n 0, 1) := dk_42 (dk_at dksX2_doFit_2 17 rfl rfl)
theorem dX2_doFit_64 : decode cX2_doFit 64 = .ok (.invokevirtual 228, 3) := dk_182 0 228 (dk_at dksX2_doFit_2 18 rfl rfl)
theorem dX2_doFit_67 : decode cX2_doFit 67 = .ok (.istore 5, 2) := dk_54 5 (dk_at dksX2_doFit_2 21 rfl rfl)
theorem dX2_doFit_69 : decode cX2_doFit 69 = .ok (.iload_n 2, 1) := dk_28 (dk_at dksX2_doFit_2 23 rfl rfl)
theorem dX2_doFit_70 : decode cX2_doFit 70 = .ok (.ifCond .lt 22, 3) := dk_155 0 22 (dk_at dksX2_doFit_3 0 rfl rfl)
theorem dX2_doFit_73 : decode cX2_doFit 73 = .ok (.aload_n 0, 1) := dk_42 (dk_at dksX2_doFit_3 3 rfl rfl)
theorem dX2_doFit_74 : decode cX2_doFit 74 = .ok (.aload_n 0, 1) := dk_42 (dk_at dksX2_doFit_3 4 rfl rfl)
theorem dX2_doFit_75 : decode cX2_doFit 75 = .ok (.getfield 49, 3) := dk_180 0 49 (dk_at dksX2_doFit_3 5 rfl rfl)
theorem dX2_doFit_78 : decode cX2_doFit 78 = .ok (.iload_n 2, 1) := dk_28 (dk_at dksX2_doFit_3 8 rfl rfl)
theorem dX2_doFit_79 : decode cX2_doFit 79 = .ok (.iaload, 1) := dk_46 (dk_at dksX2_doFit_3 9 rfl rfl)
theorem dX2_doFit_80 : decode cX2_doFit 80 = .ok (.aload_n 0, 1) := dk_42 (dk_at dksX2_doFit_3 10 rfl rfl)
theorem dX2_doFit_81 : decode cX2_doFit 81 = .ok (.getfield 52, 3) := dk_180 0 52 (dk_at dksX2_doFit_3 11 rfl rfl)
theorem dX2_doFit_84 : decode cX2_doFit 84 = .ok (.iload_n 2, 1) := dk_28 (dk_at dksX2_doFit_3 14 rfl rfl)
theorem dX2_doFit_85 : decode cX2_doFit 85 = .ok (.iaload, 1) := dk_46 (dk_at dksX2_doFit_3 15 rfl rfl)
theorem dX2_doFit_86 : decode cX2_doFit 86 = .ok (.iload 4, 2) := dk_21 4 (dk_at dksX2_doFit_3 16 rfl rfl)
theorem dX2_doFit_88 : decode cX2_doFit 88 = .ok (.invokevirtual 157, 3) := dk_182 0 157 (dk_at dksX2_doFit_3 18 rfl rfl)
theorem dX2_doFit_91 : decode cX2_doFit 91 = .ok (.pop, 1) := dk_87 (dk_at dksX2_doFit_3 21 rfl rfl)
theorem dX2_doFit_92 : decode cX2_doFit 92 = .ok (.iload_n 1, 1) := dk_27 (dk_at dksX2_doFit_3 22 rfl rfl)
theorem dX2_doFit_93 : decode cX2_doFit 93 = .ok (.ifCond .lt 21, 3) := dk_155 0 21 (dk_at dksX2_doFit_4 0 rfl rfl)
theorem dX2_doFit_96 : decode cX2_doFit 96 = .ok (.aload_n 0, 1) := dk_42 (dk_at dksX2_doFit_4 3 rfl rfl)
theorem dX2_doFit_97 : decode cX2_doFit 97 = .ok (.aload_n 0, 1) := dk_42 (dk_at dksX2_doFit_4 4 rfl rfl)
theorem dX2_doFit_98 : decode cX2_doFit 98 = .ok (.getfield 49, 3) := dk_180 0 49 (dk_at dksX2_doFit_4 5 rfl rfl)
theorem dX2_doFit_101 : decode cX2_doFit 101 = .ok (.iload_n 1, 1) := dk_27 (dk_at dksX2_doFit_4 8 rfl rfl)
theorem dX2_doFit_102 : decode cX2_doFit 102 = .ok (.iaload, 1) := dk_46 (dk_at dksX2_doFit_4 9 rfl rfl)
theorem dX2_doFit_103 : decode cX2_doFit 103 = .ok (.aload_n 0, 1) := dk_42 (dk_at dksX2_doFit_4 10 rfl rfl)
theorem dX2_doFit_104 : decode cX2_doFit 104 = .ok (.getfield 52, 3) := dk_180 0 52 (dk_at dksX2_doFit_4 11 rfl rfl)
theorem dX2_doFit_107 : decode cX2_doFit 107 = .ok (.iload_n 1, 1) := dk_27 (dk_at dksX2_doFit_4 14 rfl rfl)
theorem dX2_doFit_108 : decode cX2_doFit 108 = .ok (.iaload, 1) := dk_46 (dk_at dksX2_doFit_4 15 rfl rfl)
theorem dX2_doFit_109 : decode cX2_doFit 109 = .ok (.iload_n 3, 1) := dk_29 (dk_at dksX2_doFit_4 16 rfl rfl)
theorem dX2_doFit_110 : decode cX2_doFit 110 = .ok (.invokevirtual 157, 3) := dk_182 0 157 (dk_at dksX2_doFit_4 17 rfl rfl)
theorem dX2_doFit_113 : decode cX2_doFit 113 = .ok (.pop, 1) := dk_87 (dk_at dksX2_doFit_4 20 rfl rfl)
theorem dX2_doFit_114 : decode cX2_doFit 114 = .ok (.iload 5, 2) := dk_21 5 (dk_at dksX2_doFit_4 21 rfl rfl)
theorem dX2_doFit_116 : decode cX2_doFit 116 = .ok (.ireturn, 1) := dk_172 (dk_at dksX2_doFit_4 23 rfl rfl)
abbrev cX2_doesFit : ByteArray := prog_8_method_46_code
def yX2_doesFit : MethodName := ⟨RX2, "doesFit", "()Z"⟩
def dkwX2_doesFit_2 : List UInt8 := [28, 46, 160, 0, 7, 4, 167, 0, 4, 3, 60, 132, 2, 1, 167, 255, 202, 27, 172]
abbrev dktX2_doesFit_2 : List UInt8 := dkwX2_doesFit_2 ++ []
def dkwX2_doesFit_1 : List UInt8 := [28, 46, 42, 180, 0, 201, 162, 0, 27, 42, 180, 0, 43, 42, 180, 0, 58, 28, 46, 46, 42, 180, 0, 61]
abbrev dktX2_doesFit_1 : List UInt8 := dkwX2_doesFit_1 ++ dktX2_doesFit_2
def dkwX2_doesFit_0 : List UInt8 := [42, 182, 0, 210, 4, 60, 3, 61, 28, 42, 180, 0, 145, 162, 0, 52, 27, 153, 0, 40, 42, 180, 0, 58]
abbrev dktX2_doesFit_0 : List UInt8 := dkwX2_doesFit_0 ++ dktX2_doesFit_1
theorem dksX2_doesFit_0 : cX2_doesFit.data.toList.drop 0 = dktX2_doesFit_0 := by decide +kernel
theorem dksX2_doesFit_1 : cX2_doesFit.data.toList.drop 24 = dktX2_doesFit_1 := dk_seg dksX2_doesFit_0 24 rfl rfl
theorem dksX2_doesFit_2 : cX2_doesFit.data.toList.drop 48 = dktX2_doesFit_2 := dk_seg dksX2_doesFit_1 24 rfl rfl
theorem dX2_doesFit_0 : decode cX2_doesFit 0 = .ok (.aload_n 0, 1) := dk_42 (dk_at dksX2_doesFit_0 0 rfl rfl)
theorem dX2_doesFit_1 : decode cX2_doesFit 1 = .ok (.invokevirtual 210, 3) := dk_182 0 210 (dk_at dksX2_doesFit_0 1 rfl rfl)
theorem dX2_doesFit_4 : decode cX2_doesFit 4 = .ok (.iconst 1, 1) := dk_4 (dk_at dksX2_doesFit_0 4 rfl rfl)
theorem dX2_doesFit_5 : decode cX2_doesFit 5 = .ok (.istore_n 1, 1) := dk_60 (dk_at dksX2_doesFit_0 5 rfl rfl)
theorem dX2_doesFit_6 : decode cX2_doesFit 6 = .ok (.iconst 0, 1) := dk_3 (dk_at dksX2_doesFit_0 6 rfl rfl)
theorem dX2_doesFit_7 : decode cX2_doesFit 7 = .ok (.istore_n 2, 1) := dk_61 (dk_at dksX2_doesFit_0 7 rfl rfl)
theorem dX2_doesFit_8 : decode cX2_doesFit 8 = .ok (.iload_n 2, 1) := dk_28 (dk_at dksX2_doesFit_0 8 rfl rfl)
theorem dX2_doesFit_9 : decode cX2_doesFit 9 = .ok (.aload_n 0, 1) := dk_42 (dk_at dksX2_doesFit_0 9 rfl rfl)
theorem dX2_doesFit_10 : decode cX2_doesFit 10 = .ok (.getfield 145, 3) := dk_180 0 145 (dk_at dksX2_doesFit_0 10 rfl rfl)
theorem dX2_doesFit_13 : decode cX2_doesFit 13 = .ok (.if_icmp .ge 52, 3) := dk_162 0 52 (dk_at dksX2_doesFit_0 13 rfl rfl)
theorem dX2_doesFit_16 : decode cX2_doesFit 16 = .ok (.iload_n 1, 1) := dk_27 (dk_at dksX2_doesFit_0 16 rfl rfl)
theorem dX2_doesFit_17 : decode cX2_doesFit 17 = .ok (.ifCond .eq 40, 3) := dk_153 0 40 (dk_at dksX2_doesFit_0 17 rfl rfl)
theorem dX2_doesFit_20 : decode cX2_doesFit 20 = .ok (.aload_n 0, 1) := dk_42 (dk_at dksX2_doesFit_0 20 rfl rfl)
theorem dX2_doesFit_21 : decode cX2_doesFit 21 = .ok (.getfield 58, 3) := dk_180 0 58 (dk_at dksX2_doesFit_0 21 rfl rfl)
theorem dX2_doesFit_24 : decode cX2_doesFit 24 = .ok (.iload_n 2, 1) := dk_28 (dk_at dksX2_doesFit_1 0 rfl rfl)
theorem dX2_doesFit_25 : decode cX2_doesFit 25 = .ok (.iaload, 1) := dk_46 (dk_at dksX2_doesFit_1 1 rfl rfl)
theorem dX2_doesFit_26 : decode cX2_doesFit 26 = .ok (.aload_n 0, 1) := dk_42 (dk_at dksX2_doesFit_1 2 rfl rfl)
theorem dX2_doesFit_27 : decode cX2_doesFit 27 = .ok (.getfield 201, 3) := dk_180 0 201 (dk_at dksX2_doesFit_1 3 rfl rfl)
theorem dX2_doesFit_30 : decode cX2_doesFit 30 = .ok (.if_icmp .ge 27, 3) := dk_162 0 27 (dk_at dksX2_doesFit_1 6 rfl rfl)
theorem dX2_doesFit_33 : decode cX2_doesFit 33 = .ok (.aload_n 0, 1) := dk_42 (dk_at dksX2_doesFit_1 9 rfl rfl)
theorem dX2_doesFit_34 : decode cX2_doesFit 34 = .ok (.getfield 43, 3) := dk_180 0 43 (dk_at dksX2_doesFit_1 10 rfl rfl)
theorem dX2_doesFit_37 : decode cX2_doesFit 37 = .ok (.aload_n 0, 1) := dk_42 (dk_at dksX2_doesFit_1 13 rfl rfl)
theorem dX2_doesFit_38 : decode cX2_doesFit 38 = .ok (.getfield 58, 3) := dk_180 0 58 (dk_at dksX2_doesFit_1 14 rfl rfl)
theorem dX2_doesFit_41 : decode cX2_doesFit 41 = .ok (.iload_n 2, 1) := dk_28 (dk_at dksX2_doesFit_1 17 rfl rfl)
theorem dX2_doesFit_42 : decode cX2_doesFit 42 = .ok (.iaload, 1) := dk_46 (dk_at dksX2_doesFit_1 18 rfl rfl)
theorem dX2_doesFit_43 : decode cX2_doesFit 43 = .ok (.iaload, 1) := dk_46 (dk_at dksX2_doesFit_1 19 rfl rfl)
theorem dX2_doesFit_44 : decode cX2_doesFit 44 = .ok (.aload_n 0, 1) := dk_42 (dk_at dksX2_doesFit_1 20 rfl rfl)
theorem dX2_doesFit_45 : decode cX2_doesFit 45 = .ok (.getfield 61, 3) := dk_180 0 61 (dk_at dksX2_doesFit_1 21 rfl rfl)
theorem dX2_doesFit_48 : decode cX2_doesFit 48 = .ok (.iload_n 2, 1) := dk_28 (dk_at dksX2_doesFit_2 0 rfl rfl)
theorem dX2_doesFit_49 : decode cX2_doesFit 49 = .ok (.iaload, 1) := dk_46 (dk_at dksX2_doesFit_2 1 rfl rfl)
theorem dX2_doesFit_50 : decode cX2_doesFit 50 = .ok (.if_icmp .ne 7, 3) := dk_160 0 7 (dk_at dksX2_doesFit_2 2 rfl rfl)
theorem dX2_doesFit_53 : decode cX2_doesFit 53 = .ok (.iconst 1, 1) := dk_4 (dk_at dksX2_doesFit_2 5 rfl rfl)
theorem dX2_doesFit_54 : decode cX2_doesFit 54 = .ok (.goto 4, 3) := dk_167 0 4 (dk_at dksX2_doesFit_2 6 rfl rfl)
theorem dX2_doesFit_57 : decode cX2_doesFit 57 = .ok (.iconst 0, 1) := dk_3 (dk_at dksX2_doesFit_2 9 rfl rfl)
theorem dX2_doesFit_58 : decode cX2_doesFit 58 = .ok (.istore_n 1, 1) := dk_60 (dk_at dksX2_doesFit_2 10 rfl rfl)
theorem dX2_doesFit_59 : decode cX2_doesFit 59 = .ok (.iinc 2 1, 3) := dk_132 2 1 (dk_at dksX2_doesFit_2 11 rfl rfl)
theorem dX2_doesFit_62 : decode cX2_doesFit 62 = .ok (.goto (-54), 3) := dk_167 255 202 (dk_at dksX2_doesFit_2 14 rfl rfl)
theorem dX2_doesFit_65 : decode cX2_doesFit 65 = .ok (.iload_n 1, 1) := dk_27 (dk_at dksX2_doesFit_2 17 rfl rfl)
theorem dX2_doesFit_66 : decode cX2_doesFit 66 = .ok (.ireturn, 1) := dk_172 (dk_at dksX2_doesFit_2 18 rfl rfl)
abbrev cX2_each : ByteArray := prog_8_method_50_code
def yX2_each : MethodName := ⟨RX2, "each", "(I)I"⟩
def dkwX2_each_1 : List UInt8 := [42, 180, 0, 64, 27, 46, 172]
abbrev dktX2_each_1 : List UInt8 := dkwX2_each_1 ++ []
def dkwX2_each_0 : List UInt8 := [42, 27, 182, 0, 225, 153, 0, 5, 2, 172, 42, 182, 0, 216, 153, 0, 6, 16, 253, 172, 42, 182, 0, 240]
abbrev dktX2_each_0 : List UInt8 := dkwX2_each_0 ++ dktX2_each_1
theorem dksX2_each_0 : cX2_each.data.toList.drop 0 = dktX2_each_0 := by decide +kernel
theorem dksX2_each_1 : cX2_each.data.toList.drop 24 = dktX2_each_1 := dk_seg dksX2_each_0 24 rfl rfl
theorem dX2_each_0 : decode cX2_each 0 = .ok (.aload_n 0, 1) := dk_42 (dk_at dksX2_each_0 0 rfl rfl)
theorem dX2_each_1 : decode cX2_each 1 = .ok (.iload_n 1, 1) := dk_27 (dk_at dksX2_each_0 1 rfl rfl)
theorem dX2_each_2 : decode cX2_each 2 = .ok (.invokevirtual 225, 3) := dk_182 0 225 (dk_at dksX2_each_0 2 rfl rfl)
theorem dX2_each_5 : decode cX2_each 5 = .ok (.ifCond .eq 5, 3) := dk_153 0 5 (dk_at dksX2_each_0 5 rfl rfl)
theorem dX2_each_8 : decode cX2_each 8 = .ok (.iconst (-1), 1) := dk_2 (dk_at dksX2_each_0 8 rfl rfl)
theorem dX2_each_9 : decode cX2_each 9 = .ok (.ireturn, 1) := dk_172 (dk_at dksX2_each_0 9 rfl rfl)
theorem dX2_each_10 : decode cX2_each 10 = .ok (.aload_n 0, 1) := dk_42 (dk_at dksX2_each_0 10 rfl rfl)
theorem dX2_each_11 : decode cX2_each 11 = .ok (.invokevirtual 216, 3) := dk_182 0 216 (dk_at dksX2_each_0 11 rfl rfl)
theorem dX2_each_14 : decode cX2_each 14 = .ok (.ifCond .eq 6, 3) := dk_153 0 6 (dk_at dksX2_each_0 14 rfl rfl)
theorem dX2_each_17 : decode cX2_each 17 = .ok (.bipush (-3), 2) := dk_16 253 (dk_at dksX2_each_0 17 rfl rfl)
theorem dX2_each_19 : decode cX2_each 19 = .ok (.ireturn, 1) := dk_172 (dk_at dksX2_each_0 19 rfl rfl)
theorem dX2_each_20 : decode cX2_each 20 = .ok (.aload_n 0, 1) := dk_42 (dk_at dksX2_each_0 20 rfl rfl)
theorem dX2_each_21 : decode cX2_each 21 = .ok (.invokevirtual 240, 3) := dk_182 0 240 (dk_at dksX2_each_0 21 rfl rfl)
theorem dX2_each_24 : decode cX2_each 24 = .ok (.aload_n 0, 1) := dk_42 (dk_at dksX2_each_1 0 rfl rfl)
theorem dX2_each_25 : decode cX2_each 25 = .ok (.getfield 64, 3) := dk_180 0 64 (dk_at dksX2_each_1 1 rfl rfl)
theorem dX2_each_28 : decode cX2_each 28 = .ok (.iload_n 1, 1) := dk_27 (dk_at dksX2_each_1 4 rfl rfl)
theorem dX2_each_29 : decode cX2_each 29 = .ok (.iaload, 1) := dk_46 (dk_at dksX2_each_1 5 rfl rfl)
theorem dX2_each_30 : decode cX2_each 30 = .ok (.ireturn, 1) := dk_172 (dk_at dksX2_each_1 6 rfl rfl)
abbrev cX2_act : ByteArray := prog_8_method_54_code
def yX2_act : MethodName := ⟨RX2, "act", "(II)I"⟩
def dkwX2_act_1 : List UInt8 := [172, 42, 27, 28, 182, 0, 243, 154, 0, 5, 3, 172, 42, 27, 28, 182, 0, 246, 4, 172]
abbrev dktX2_act_1 : List UInt8 := dkwX2_act_1 ++ []
def dkwX2_act_0 : List UInt8 := [42, 27, 182, 0, 151, 153, 0, 5, 2, 172, 28, 133, 9, 20, 0, 223, 184, 0, 105, 154, 0, 6, 16, 254]
abbrev dktX2_act_0 : List UInt8 := dkwX2_act_0 ++ dktX2_act_1
theorem dksX2_act_0 : cX2_act.data.toList.drop 0 = dktX2_act_0 := by decide +kernel
theorem dksX2_act_1 : cX2_act.data.toList.drop 24 = dktX2_act_1 := dk_seg dksX2_act_0 24 rfl rfl
theorem dX2_act_0 : decode cX2_act 0 = .ok (.aload_n 0, 1) := dk_42 (dk_at dksX2_act_0 0 rfl rfl)
theorem dX2_act_1 : decode cX2_act 1 = .ok (.iload_n 1, 1) := dk_27 (dk_at dksX2_act_0 1 rfl rfl)
theorem dX2_act_2 : decode cX2_act 2 = .ok (.invokevirtual 151, 3) := dk_182 0 151 (dk_at dksX2_act_0 2 rfl rfl)
theorem dX2_act_5 : decode cX2_act 5 = .ok (.ifCond .eq 5, 3) := dk_153 0 5 (dk_at dksX2_act_0 5 rfl rfl)
theorem dX2_act_8 : decode cX2_act 8 = .ok (.iconst (-1), 1) := dk_2 (dk_at dksX2_act_0 8 rfl rfl)
theorem dX2_act_9 : decode cX2_act 9 = .ok (.ireturn, 1) := dk_172 (dk_at dksX2_act_0 9 rfl rfl)
theorem dX2_act_10 : decode cX2_act 10 = .ok (.iload_n 2, 1) := dk_28 (dk_at dksX2_act_0 10 rfl rfl)
theorem dX2_act_11 : decode cX2_act 11 = .ok (.i2l, 1) := dk_133 (dk_at dksX2_act_0 11 rfl rfl)
theorem dX2_act_12 : decode cX2_act 12 = .ok (.lconst 0, 1) := dk_9 (dk_at dksX2_act_0 12 rfl rfl)
theorem dX2_act_13 : decode cX2_act 13 = .ok (.ldc2_w 223, 3) := dk_20 0 223 (dk_at dksX2_act_0 13 rfl rfl)
theorem dX2_act_16 : decode cX2_act 16 = .ok (.invokestatic 105, 3) := dk_184 0 105 (dk_at dksX2_act_0 16 rfl rfl)
theorem dX2_act_19 : decode cX2_act 19 = .ok (.ifCond .ne 6, 3) := dk_154 0 6 (dk_at dksX2_act_0 19 rfl rfl)
theorem dX2_act_22 : decode cX2_act 22 = .ok (.bipush (-2), 2) := dk_16 254 (dk_at dksX2_act_0 22 rfl rfl)
theorem dX2_act_24 : decode cX2_act 24 = .ok (.ireturn, 1) := dk_172 (dk_at dksX2_act_1 0 rfl rfl)
theorem dX2_act_25 : decode cX2_act 25 = .ok (.aload_n 0, 1) := dk_42 (dk_at dksX2_act_1 1 rfl rfl)
theorem dX2_act_26 : decode cX2_act 26 = .ok (.iload_n 1, 1) := dk_27 (dk_at dksX2_act_1 2 rfl rfl)
theorem dX2_act_27 : decode cX2_act 27 = .ok (.iload_n 2, 1) := dk_28 (dk_at dksX2_act_1 3 rfl rfl)
theorem dX2_act_28 : decode cX2_act 28 = .ok (.invokevirtual 243, 3) := dk_182 0 243 (dk_at dksX2_act_1 4 rfl rfl)
theorem dX2_act_31 : decode cX2_act 31 = .ok (.ifCond .ne 5, 3) := dk_154 0 5 (dk_at dksX2_act_1 7 rfl rfl)
theorem dX2_act_34 : decode cX2_act 34 = .ok (.iconst 0, 1) := dk_3 (dk_at dksX2_act_1 10 rfl rfl)
theorem dX2_act_35 : decode cX2_act 35 = .ok (.ireturn, 1) := dk_172 (dk_at dksX2_act_1 11 rfl rfl)
theorem dX2_act_36 : decode cX2_act 36 = .ok (.aload_n 0, 1) := dk_42 (dk_at dksX2_act_1 12 rfl rfl)
theorem dX2_act_37 : decode cX2_act 37 = .ok (.iload_n 1, 1) := dk_27 (dk_at dksX2_act_1 13 rfl rfl)
theorem dX2_act_38 : decode cX2_act 38 = .ok (.iload_n 2, 1) := dk_28 (dk_at dksX2_act_1 14 rfl rfl)
theorem dX2_act_39 : decode cX2_act 39 = .ok (.invokevirtual 246, 3) := dk_182 0 246 (dk_at dksX2_act_1 15 rfl rfl)
theorem dX2_act_42 : decode cX2_act 42 = .ok (.iconst 1, 1) := dk_4 (dk_at dksX2_act_1 18 rfl rfl)
theorem dX2_act_43 : decode cX2_act 43 = .ok (.ireturn, 1) := dk_172 (dk_at dksX2_act_1 19 rfl rfl)
abbrev cX2_mayBe : ByteArray := prog_8_method_51_code
def yX2_mayBe : MethodName := ⟨RX2, "mayBe", "(II)Z"⟩
def dkwX2_mayBe_5 : List UInt8 := [167, 0, 4, 3, 172, 42, 180, 0, 19, 27, 46, 158, 0, 7, 4, 167, 0, 4, 3, 172]
abbrev dktX2_mayBe_5 : List UInt8 := dkwX2_mayBe_5 ++ []
def dkwX2_mayBe_4 : List UInt8 := [3, 172, 42, 180, 0, 7, 27, 46, 158, 0, 18, 42, 180, 0, 16, 27, 46, 16, 9, 162, 0, 7, 4]
abbrev dktX2_mayBe_4 : List UInt8 := dkwX2_mayBe_4 ++ dktX2_mayBe_5
def dkwX2_mayBe_3 : List UInt8 := [3, 172, 42, 180, 0, 7, 27, 46, 158, 0, 16, 42, 180, 0, 16, 27, 46, 158, 0, 7, 4, 167, 0, 4]
abbrev dktX2_mayBe_3 : List UInt8 := dkwX2_mayBe_3 ++ dktX2_mayBe_4
def dkwX2_mayBe_2 : List UInt8 := [42, 180, 0, 22, 27, 46, 16, 8, 162, 0, 16, 42, 180, 0, 19, 27, 46, 158, 0, 7, 4, 167, 0, 4]
abbrev dktX2_mayBe_2 : List UInt8 := dkwX2_mayBe_2 ++ dktX2_mayBe_3
def dkwX2_mayBe_1 : List UInt8 := [170, 0, 0, 0, 0, 0, 103, 0, 0, 0, 0, 0, 0, 0, 2, 0, 0, 0, 27, 0, 0, 0, 53, 0, 0, 0, 77]
abbrev dktX2_mayBe_1 : List UInt8 := dkwX2_mayBe_1 ++ dktX2_mayBe_2
def dkwX2_mayBe_0 : List UInt8 := [28]
abbrev dktX2_mayBe_0 : List UInt8 := dkwX2_mayBe_0 ++ dktX2_mayBe_1
theorem dksX2_mayBe_0 : cX2_mayBe.data.toList.drop 0 = dktX2_mayBe_0 := by decide +kernel
theorem dksX2_mayBe_1 : cX2_mayBe.data.toList.drop 1 = dktX2_mayBe_1 := dk_seg dksX2_mayBe_0 1 rfl rfl
theorem dksX2_mayBe_2 : cX2_mayBe.data.toList.drop 28 = dktX2_mayBe_2 := dk_seg dksX2_mayBe_1 27 rfl rfl
theorem dksX2_mayBe_3 : cX2_mayBe.data.toList.drop 52 = dktX2_mayBe_3 := dk_seg dksX2_mayBe_2 24 rfl rfl
theorem dksX2_mayBe_4 : cX2_mayBe.data.toList.drop 76 = dktX2_mayBe_4 := dk_seg dksX2_mayBe_3 24 rfl rfl
theorem dksX2_mayBe_5 : cX2_mayBe.data.toList.drop 99 = dktX2_mayBe_5 := dk_seg dksX2_mayBe_4 23 rfl rfl
theorem dX2_mayBe_0 : decode cX2_mayBe 0 = .ok (.iload_n 2, 1) := dk_28 (dk_at dksX2_mayBe_0 0 rfl rfl)
theorem dX2_mayBe_1 : decode cX2_mayBe 1 = .ok (.tableswitch 103 0 2 #[27, 53, 77], 27) := by decide +kernel
theorem dX2_mayBe_28 : decode cX2_mayBe 28 = .ok (.aload_n 0, 1) := dk_42 (dk_at dksX2_mayBe_2 0 rfl rfl)
theorem dX2_mayBe_29 : decode cX2_mayBe 29 = .ok (.getfield 22, 3) := dk_180 0 22 (dk_at dksX2_mayBe_2 1 rfl rfl)
theorem dX2_mayBe_32 : decode cX2_mayBe 32 = .ok (.iload_n 1, 1) := dk_27 (dk_at dksX2_mayBe_2 4 rfl rfl)
theorem dX2_mayBe_33 : decode cX2_mayBe 33 = .ok (.iaload, 1) := dk_46 (dk_at dksX2_mayBe_2 5 rfl rfl)
theorem dX2_mayBe_34 : decode cX2_mayBe 34 = .ok (.bipush 8, 2) := dk_16 8 (dk_at dksX2_mayBe_2 6 rfl rfl)
theorem dX2_mayBe_36 : decode cX2_mayBe 36 = .ok (.if_icmp .ge 16, 3) := dk_162 0 16 (dk_at dksX2_mayBe_2 8 rfl rfl)
theorem dX2_mayBe_39 : decode cX2_mayBe 39 = .ok (.aload_n 0, 1) := dk_42 (dk_at dksX2_mayBe_2 11 rfl rfl)
theorem dX2_mayBe_40 : decode cX2_mayBe 40 = .ok (.getfield 19, 3) := dk_180 0 19 (dk_at dksX2_mayBe_2 12 rfl rfl)
theorem dX2_mayBe_43 : decode cX2_mayBe 43 = .ok (.iload_n 1, 1) := dk_27 (dk_at dksX2_mayBe_2 15 rfl rfl)
theorem dX2_mayBe_44 : decode cX2_mayBe 44 = .ok (.iaload, 1) := dk_46 (dk_at dksX2_mayBe_2 16 rfl rfl)
theorem dX2_mayBe_45 : decode cX2_mayBe 45 = .ok (.ifCond .le 7, 3) := dk_158 0 7 (dk_at dksX2_mayBe_2 17 rfl rfl)
theorem dX2_mayBe_48 : decode cX2_mayBe 48 = .ok (.iconst 1, 1) := dk_4 (dk_at dksX2_mayBe_2 20 rfl rfl)
theorem dX2_mayBe_49 : decode cX2_mayBe 49 = .ok (.goto 4, 3) := dk_167 0 4 (dk_at dksX2_mayBe_2 21 rfl rfl)
theorem dX2_mayBe_52 : decode cX2_mayBe 52 = .ok (.iconst 0, 1) := dk_3 (dk_at dksX2_mayBe_3 0 rfl rfl)
theorem dX2_mayBe_53 : decode cX2_mayBe 53 = .ok (.ireturn, 1) := dk_172 (dk_at dksX2_mayBe_3 1 rfl rfl)
theorem dX2_mayBe_54 : decode cX2_mayBe 54 = .ok (.aload_n 0, 1) := dk_42 (dk_at dksX2_mayBe_3 2 rfl rfl)
theorem dX2_mayBe_55 : decode cX2_mayBe 55 = .ok (.getfield 7, 3) := dk_180 0 7 (dk_at dksX2_mayBe_3 3 rfl rfl)
theorem dX2_mayBe_58 : decode cX2_mayBe 58 = .ok (.iload_n 1, 1) := dk_27 (dk_at dksX2_mayBe_3 6 rfl rfl)
theorem dX2_mayBe_59 : decode cX2_mayBe 59 = .ok (.iaload, 1) := dk_46 (dk_at dksX2_mayBe_3 7 rfl rfl)
theorem dX2_mayBe_60 : decode cX2_mayBe 60 = .ok (.ifCond .le 16, 3) := dk_158 0 16 (dk_at dksX2_mayBe_3 8 rfl rfl)
theorem dX2_mayBe_63 : decode cX2_mayBe 63 = .ok (.aload_n 0, 1) := dk_42 (dk_at dksX2_mayBe_3 11 rfl rfl)
theorem dX2_mayBe_64 : decode cX2_mayBe 64 = .ok (.getfield 16, 3) := dk_180 0 16 (dk_at dksX2_mayBe_3 12 rfl rfl)
theorem dX2_mayBe_67 : decode cX2_mayBe 67 = .ok (.iload_n 1, 1) := dk_27 (dk_at dksX2_mayBe_3 15 rfl rfl)
theorem dX2_mayBe_68 : decode cX2_mayBe 68 = .ok (.iaload, 1) := dk_46 (dk_at dksX2_mayBe_3 16 rfl rfl)
theorem dX2_mayBe_69 : decode cX2_mayBe 69 = .ok (.ifCond .le 7, 3) := dk_158 0 7 (dk_at dksX2_mayBe_3 17 rfl rfl)
theorem dX2_mayBe_72 : decode cX2_mayBe 72 = .ok (.iconst 1, 1) := dk_4 (dk_at dksX2_mayBe_3 20 rfl rfl)
theorem dX2_mayBe_73 : decode cX2_mayBe 73 = .ok (.goto 4, 3) := dk_167 0 4 (dk_at dksX2_mayBe_3 21 rfl rfl)
theorem dX2_mayBe_76 : decode cX2_mayBe 76 = .ok (.iconst 0, 1) := dk_3 (dk_at dksX2_mayBe_4 0 rfl rfl)
theorem dX2_mayBe_77 : decode cX2_mayBe 77 = .ok (.ireturn, 1) := dk_172 (dk_at dksX2_mayBe_4 1 rfl rfl)
theorem dX2_mayBe_78 : decode cX2_mayBe 78 = .ok (.aload_n 0, 1) := dk_42 (dk_at dksX2_mayBe_4 2 rfl rfl)
theorem dX2_mayBe_79 : decode cX2_mayBe 79 = .ok (.getfield 7, 3) := dk_180 0 7 (dk_at dksX2_mayBe_4 3 rfl rfl)
theorem dX2_mayBe_82 : decode cX2_mayBe 82 = .ok (.iload_n 1, 1) := dk_27 (dk_at dksX2_mayBe_4 6 rfl rfl)
theorem dX2_mayBe_83 : decode cX2_mayBe 83 = .ok (.iaload, 1) := dk_46 (dk_at dksX2_mayBe_4 7 rfl rfl)
theorem dX2_mayBe_84 : decode cX2_mayBe 84 = .ok (.ifCond .le 18, 3) := dk_158 0 18 (dk_at dksX2_mayBe_4 8 rfl rfl)
theorem dX2_mayBe_87 : decode cX2_mayBe 87 = .ok (.aload_n 0, 1) := dk_42 (dk_at dksX2_mayBe_4 11 rfl rfl)
theorem dX2_mayBe_88 : decode cX2_mayBe 88 = .ok (.getfield 16, 3) := dk_180 0 16 (dk_at dksX2_mayBe_4 12 rfl rfl)
theorem dX2_mayBe_91 : decode cX2_mayBe 91 = .ok (.iload_n 1, 1) := dk_27 (dk_at dksX2_mayBe_4 15 rfl rfl)
theorem dX2_mayBe_92 : decode cX2_mayBe 92 = .ok (.iaload, 1) := dk_46 (dk_at dksX2_mayBe_4 16 rfl rfl)
theorem dX2_mayBe_93 : decode cX2_mayBe 93 = .ok (.bipush 9, 2) := dk_16 9 (dk_at dksX2_mayBe_4 17 rfl rfl)
theorem dX2_mayBe_95 : decode cX2_mayBe 95 = .ok (.if_icmp .ge 7, 3) := dk_162 0 7 (dk_at dksX2_mayBe_4 19 rfl rfl)
theorem dX2_mayBe_98 : decode cX2_mayBe 98 = .ok (.iconst 1, 1) := dk_4 (dk_at dksX2_mayBe_4 22 rfl rfl)
theorem dX2_mayBe_99 : decode cX2_mayBe 99 = .ok (.goto 4, 3) := dk_167 0 4 (dk_at dksX2_mayBe_5 0 rfl rfl)
theorem dX2_mayBe_102 : decode cX2_mayBe 102 = .ok (.iconst 0, 1) := dk_3 (dk_at dksX2_mayBe_5 3 rfl rfl)
theorem dX2_mayBe_103 : decode cX2_mayBe 103 = .ok (.ireturn, 1) := dk_172 (dk_at dksX2_mayBe_5 4 rfl rfl)
theorem dX2_mayBe_104 : decode cX2_mayBe 104 = .ok (.aload_n 0, 1) := dk_42 (dk_at dksX2_mayBe_5 5 rfl rfl)
theorem dX2_mayBe_105 : decode cX2_mayBe 105 = .ok (.getfield 19, 3) := dk_180 0 19 (dk_at dksX2_mayBe_5 6 rfl rfl)
theorem dX2_mayBe_108 : decode cX2_mayBe 108 = .ok (.iload_n 1, 1) := dk_27 (dk_at dksX2_mayBe_5 9 rfl rfl)
theorem dX2_mayBe_109 : decode cX2_mayBe 109 = .ok (.iaload, 1) := dk_46 (dk_at dksX2_mayBe_5 10 rfl rfl)
theorem dX2_mayBe_110 : decode cX2_mayBe 110 = .ok (.ifCond .le 7, 3) := dk_158 0 7 (dk_at dksX2_mayBe_5 11 rfl rfl)
theorem dX2_mayBe_113 : decode cX2_mayBe 113 = .ok (.iconst 1, 1) := dk_4 (dk_at dksX2_mayBe_5 14 rfl rfl)
theorem dX2_mayBe_114 : decode cX2_mayBe 114 = .ok (.goto 4, 3) := dk_167 0 4 (dk_at dksX2_mayBe_5 15 rfl rfl)
theorem dX2_mayBe_117 : decode cX2_mayBe 117 = .ok (.iconst 0, 1) := dk_3 (dk_at dksX2_mayBe_5 18 rfl rfl)
theorem dX2_mayBe_118 : decode cX2_mayBe 118 = .ok (.ireturn, 1) := dk_172 (dk_at dksX2_mayBe_5 19 rfl rfl)
abbrev cX2_doAct : ByteArray := prog_8_method_52_code
def yX2_doAct : MethodName := ⟨RX2, "doAct", "(II)V"⟩
def dkwX2_doAct_2 : List UInt8 := [160, 0, 16, 42, 180, 0, 16, 27, 92, 46, 4, 96, 79, 167, 0, 10, 42, 180, 0, 19, 27, 3, 79, 177]
abbrev dktX2_doAct_2 : List UInt8 := dkwX2_doAct_2 ++ []
def dkwX2_doAct_1 : List UInt8 := [167, 0, 46, 28, 4, 160, 0, 16, 42, 180, 0, 16, 27, 92, 46, 4, 100, 79, 167, 0, 28, 28, 5]
abbrev dktX2_doAct_1 : List UInt8 := dkwX2_doAct_1 ++ dktX2_doAct_2
def dkwX2_doAct_0 : List UInt8 := [28, 154, 0, 26, 42, 180, 0, 22, 27, 92, 46, 5, 96, 79, 42, 180, 0, 19, 27, 92, 46, 4, 100, 79]
abbrev dktX2_doAct_0 : List UInt8 := dkwX2_doAct_0 ++ dktX2_doAct_1
theorem dksX2_doAct_0 : cX2_doAct.data.toList.drop 0 = dktX2_doAct_0 := by decide +kernel
theorem dksX2_doAct_1 : cX2_doAct.data.toList.drop 24 = dktX2_doAct_1 := dk_seg dksX2_doAct_0 24 rfl rfl
theorem dksX2_doAct_2 : cX2_doAct.data.toList.drop 47 = dktX2_doAct_2 := dk_seg dksX2_doAct_1 23 rfl rfl
theorem dX2_doAct_0 : decode cX2_doAct 0 = .ok (.iload_n 2, 1) := dk_28 (dk_at dksX2_doAct_0 0 rfl rfl)
theorem dX2_doAct_1 : decode cX2_doAct 1 = .ok (.ifCond .ne 26, 3) := dk_154 0 26 (dk_at dksX2_doAct_0 1 rfl rfl)
theorem dX2_doAct_4 : decode cX2_doAct 4 = .ok (.aload_n 0, 1) := dk_42 (dk_at dksX2_doAct_0 4 rfl rfl)
theorem dX2_doAct_5 : decode cX2_doAct 5 = .ok (.getfield 22, 3) := dk_180 0 22 (dk_at dksX2_doAct_0 5 rfl rfl)
theorem dX2_doAct_8 : decode cX2_doAct 8 = .ok (.iload_n 1, 1) := dk_27 (dk_at dksX2_doAct_0 8 rfl rfl)
theorem dX2_doAct_9 : decode cX2_doAct 9 = .ok (.dup2, 1) := dk_92 (dk_at dksX2_doAct_0 9 rfl rfl)
theorem dX2_doAct_10 : decode cX2_doAct 10 = .ok (.iaload, 1) := dk_46 (dk_at dksX2_doAct_0 10 rfl rfl)
theorem dX2_doAct_11 : decode cX2_doAct 11 = .ok (.iconst 2, 1) := dk_5 (dk_at dksX2_doAct_0 11 rfl rfl)
theorem dX2_doAct_12 : decode cX2_doAct 12 = .ok (.iadd, 1) := dk_96 (dk_at dksX2_doAct_0 12 rfl rfl)
theorem dX2_doAct_13 : decode cX2_doAct 13 = .ok (.iastore, 1) := dk_79 (dk_at dksX2_doAct_0 13 rfl rfl)
theorem dX2_doAct_14 : decode cX2_doAct 14 = .ok (.aload_n 0, 1) := dk_42 (dk_at dksX2_doAct_0 14 rfl rfl)
theorem dX2_doAct_15 : decode cX2_doAct 15 = .ok (.getfield 19, 3) := dk_180 0 19 (dk_at dksX2_doAct_0 15 rfl rfl)
theorem dX2_doAct_18 : decode cX2_doAct 18 = .ok (.iload_n 1, 1) := dk_27 (dk_at dksX2_doAct_0 18 rfl rfl)
theorem dX2_doAct_19 : decode cX2_doAct 19 = .ok (.dup2, 1) := dk_92 (dk_at dksX2_doAct_0 19 rfl rfl)
theorem dX2_doAct_20 : decode cX2_doAct 20 = .ok (.iaload, 1) := dk_46 (dk_at dksX2_doAct_0 20 rfl rfl)
theorem dX2_doAct_21 : decode cX2_doAct 21 = .ok (.iconst 1, 1) := dk_4 (dk_at dksX2_doAct_0 21 rfl rfl)
theorem dX2_doAct_22 : decode cX2_doAct 22 = .ok (.isub, 1) := dk_100 (dk_at dksX2_doAct_0 22 rfl rfl)
theorem dX2_doAct_23 : decode cX2_doAct 23 = .ok (.iastore, 1) := dk_79 (dk_at dksX2_doAct_0 23 rfl rfl)
theorem dX2_doAct_24 : decode cX2_doAct 24 = .ok (.goto 46, 3) := dk_167 0 46 (dk_at dksX2_doAct_1 0 rfl rfl)
theorem dX2_doAct_27 : decode cX2_doAct 27 = .ok (.iload_n 2, 1) := dk_28 (dk_at dksX2_doAct_1 3 rfl rfl)
theorem dX2_doAct_28 : decode cX2_doAct 28 = .ok (.iconst 1, 1) := dk_4 (dk_at dksX2_doAct_1 4 rfl rfl)
theorem dX2_doAct_29 : decode cX2_doAct 29 = .ok (.if_icmp .ne 16, 3) := dk_160 0 16 (dk_at dksX2_doAct_1 5 rfl rfl)
theorem dX2_doAct_32 : decode cX2_doAct 32 = .ok (.aload_n 0, 1) := dk_42 (dk_at dksX2_doAct_1 8 rfl rfl)
theorem dX2_doAct_33 : decode cX2_doAct 33 = .ok (.getfield 16, 3) := dk_180 0 16 (dk_at dksX2_doAct_1 9 rfl rfl)
theorem dX2_doAct_36 : decode cX2_doAct 36 = .ok (.iload_n 1, 1) := dk_27 (dk_at dksX2_doAct_1 12 rfl rfl)
theorem dX2_doAct_37 : decode cX2_doAct 37 = .ok (.dup2, 1) := dk_92 (dk_at dksX2_doAct_1 13 rfl rfl)
theorem dX2_doAct_38 : decode cX2_doAct 38 = .ok (.iaload, 1) := dk_46 (dk_at dksX2_doAct_1 14 rfl rfl)
theorem dX2_doAct_39 : decode cX2_doAct 39 = .ok (.iconst 1, 1) := dk_4 (dk_at dksX2_doAct_1 15 rfl rfl)
theorem dX2_doAct_40 : decode cX2_doAct 40 = .ok (.isub, 1) := dk_100 (dk_at dksX2_doAct_1 16 rfl rfl)
theorem dX2_doAct_41 : decode cX2_doAct 41 = .ok (.iastore, 1) := dk_79 (dk_at dksX2_doAct_1 17 rfl rfl)
theorem dX2_doAct_42 : decode cX2_doAct 42 = .ok (.goto 28, 3) := dk_167 0 28 (dk_at dksX2_doAct_1 18 rfl rfl)
theorem dX2_doAct_45 : decode cX2_doAct 45 = .ok (.iload_n 2, 1) := dk_28 (dk_at dksX2_doAct_1 21 rfl rfl)
theorem dX2_doAct_46 : decode cX2_doAct 46 = .ok (.iconst 2, 1) := dk_5 (dk_at dksX2_doAct_1 22 rfl rfl)
theorem dX2_doAct_47 : decode cX2_doAct 47 = .ok (.if_icmp .ne 16, 3) := dk_160 0 16 (dk_at dksX2_doAct_2 0 rfl rfl)
theorem dX2_doAct_50 : decode cX2_doAct 50 = .ok (.aload_n 0, 1) := dk_42 (dk_at dksX2_doAct_2 3 rfl rfl)
theorem dX2_doAct_51 : decode cX2_doAct 51 = .ok (.getfield 16, 3) := dk_180 0 16 (dk_at dksX2_doAct_2 4 rfl rfl)
theorem dX2_doAct_54 : decode cX2_doAct 54 = .ok (.iload_n 1, 1) := dk_27 (dk_at dksX2_doAct_2 7 rfl rfl)
theorem dX2_doAct_55 : decode cX2_doAct 55 = .ok (.dup2, 1) := dk_92 (dk_at dksX2_doAct_2 8 rfl rfl)
theorem dX2_doAct_56 : decode cX2_doAct 56 = .ok (.iaload, 1) := dk_46 (dk_at dksX2_doAct_2 9 rfl rfl)
theorem dX2_doAct_57 : decode cX2_doAct 57 = .ok (.iconst 1, 1) := dk_4 (dk_at dksX2_doAct_2 10 rfl rfl)
theorem dX2_doAct_58 : decode cX2_doAct 58 = .ok (.iadd, 1) := dk_96 (dk_at dksX2_doAct_2 11 rfl rfl)
theorem dX2_doAct_59 : decode cX2_doAct 59 = .ok (.iastore, 1) := dk_79 (dk_at dksX2_doAct_2 12 rfl rfl)
theorem dX2_doAct_60 : decode cX2_doAct 60 = .ok (.goto 10, 3) := dk_167 0 10 (dk_at dksX2_doAct_2 13 rfl rfl)
theorem dX2_doAct_63 : decode cX2_doAct 63 = .ok (.aload_n 0, 1) := dk_42 (dk_at dksX2_doAct_2 16 rfl rfl)
theorem dX2_doAct_64 : decode cX2_doAct 64 = .ok (.getfield 19, 3) := dk_180 0 19 (dk_at dksX2_doAct_2 17 rfl rfl)
theorem dX2_doAct_67 : decode cX2_doAct 67 = .ok (.iload_n 1, 1) := dk_27 (dk_at dksX2_doAct_2 20 rfl rfl)
theorem dX2_doAct_68 : decode cX2_doAct 68 = .ok (.iconst 0, 1) := dk_3 (dk_at dksX2_doAct_2 21 rfl rfl)
theorem dX2_doAct_69 : decode cX2_doAct 69 = .ok (.iastore, 1) := dk_79 (dk_at dksX2_doAct_2 22 rfl rfl)
theorem dX2_doAct_70 : decode cX2_doAct 70 = .ok (.return_, 1) := dk_177 (dk_at dksX2_doAct_2 23 rfl rfl)
abbrev cX2_mend : ByteArray := prog_8_method_60_code
def yX2_mend : MethodName := ⟨RX2, "mend", "(II)I"⟩
def dkwX2_mend_3 : List UInt8 := [42, 180, 0, 253, 167, 0, 18, 28, 154, 0, 10, 42, 180, 1, 0, 167, 0, 7, 42, 180, 1, 3, 172]
abbrev dktX2_mend_3 : List UInt8 := dkwX2_mend_3 ++ []
def dkwX2_mend_2 : List UInt8 := [156, 0, 6, 16, 247, 172, 28, 2, 160, 0, 10, 42, 180, 0, 250, 167, 0, 31, 28, 16, 254, 160, 0, 10]
abbrev dktX2_mend_2 : List UInt8 := dkwX2_mend_2 ++ dktX2_mend_3
def dkwX2_mend_1 : List UInt8 := [154, 0, 5, 2, 172, 42, 182, 0, 216, 153, 0, 6, 16, 253, 172, 42, 27, 182, 1, 27, 42, 180, 0, 250]
abbrev dktX2_mend_1 : List UInt8 := dkwX2_mend_1 ++ dktX2_mend_2
def dkwX2_mend_0 : List UInt8 := [27, 133, 9, 20, 1, 23, 184, 0, 105, 154, 0, 6, 16, 254, 172, 28, 133, 20, 1, 25, 10, 184, 0, 105]
abbrev dktX2_mend_0 : List UInt8 := dkwX2_mend_0 ++ dktX2_mend_1
theorem dksX2_mend_0 : cX2_mend.data.toList.drop 0 = dktX2_mend_0 := by decide +kernel
theorem dksX2_mend_1 : cX2_mend.data.toList.drop 24 = dktX2_mend_1 := dk_seg dksX2_mend_0 24 rfl rfl
theorem dksX2_mend_2 : cX2_mend.data.toList.drop 48 = dktX2_mend_2 := dk_seg dksX2_mend_1 24 rfl rfl
theorem dksX2_mend_3 : cX2_mend.data.toList.drop 72 = dktX2_mend_3 := dk_seg dksX2_mend_2 24 rfl rfl
theorem dX2_mend_0 : decode cX2_mend 0 = .ok (.iload_n 1, 1) := dk_27 (dk_at dksX2_mend_0 0 rfl rfl)
theorem dX2_mend_1 : decode cX2_mend 1 = .ok (.i2l, 1) := dk_133 (dk_at dksX2_mend_0 1 rfl rfl)
theorem dX2_mend_2 : decode cX2_mend 2 = .ok (.lconst 0, 1) := dk_9 (dk_at dksX2_mend_0 2 rfl rfl)
theorem dX2_mend_3 : decode cX2_mend 3 = .ok (.ldc2_w 279, 3) := dk_20 1 23 (dk_at dksX2_mend_0 3 rfl rfl)
theorem dX2_mend_6 : decode cX2_mend 6 = .ok (.invokestatic 105, 3) := dk_184 0 105 (dk_at dksX2_mend_0 6 rfl rfl)
theorem dX2_mend_9 : decode cX2_mend 9 = .ok (.ifCond .ne 6, 3) := dk_154 0 6 (dk_at dksX2_mend_0 9 rfl rfl)
theorem dX2_mend_12 : decode cX2_mend 12 = .ok (.bipush (-2), 2) := dk_16 254 (dk_at dksX2_mend_0 12 rfl rfl)
theorem dX2_mend_14 : decode cX2_mend 14 = .ok (.ireturn, 1) := dk_172 (dk_at dksX2_mend_0 14 rfl rfl)
theorem dX2_mend_15 : decode cX2_mend 15 = .ok (.iload_n 2, 1) := dk_28 (dk_at dksX2_mend_0 15 rfl rfl)
theorem dX2_mend_16 : decode cX2_mend 16 = .ok (.i2l, 1) := dk_133 (dk_at dksX2_mend_0 16 rfl rfl)
theorem dX2_mend_17 : decode cX2_mend 17 = .ok (.ldc2_w 281, 3) := dk_20 1 25 (dk_at dksX2_mend_0 17 rfl rfl)
theorem dX2_mend_20 : decode cX2_mend 20 = .ok (.lconst 1, 1) := dk_10 (dk_at dksX2_mend_0 20 rfl rfl)
theorem dX2_mend_21 : decode cX2_mend 21 = .ok (.invokestatic 105, 3) := dk_184 0 105 (dk_at dksX2_mend_0 21 rfl rfl)
theorem dX2_mend_24 : decode cX2_mend 24 = .ok (.ifCond .ne 5, 3) := dk_154 0 5 (dk_at dksX2_mend_1 0 rfl rfl)
theorem dX2_mend_27 : decode cX2_mend 27 = .ok (.iconst (-1), 1) := dk_2 (dk_at dksX2_mend_1 3 rfl rfl)
theorem dX2_mend_28 : decode cX2_mend 28 = .ok (.ireturn, 1) := dk_172 (dk_at dksX2_mend_1 4 rfl rfl)
theorem dX2_mend_29 : decode cX2_mend 29 = .ok (.aload_n 0, 1) := dk_42 (dk_at dksX2_mend_1 5 rfl rfl)
theorem dX2_mend_30 : decode cX2_mend 30 = .ok (.invokevirtual 216, 3) := dk_182 0 216 (dk_at dksX2_mend_1 6 rfl rfl)
theorem dX2_mend_33 : decode cX2_mend 33 = .ok (.ifCond .eq 6, 3) := dk_153 0 6 (dk_at dksX2_mend_1 9 rfl rfl)
theorem dX2_mend_36 : decode cX2_mend 36 = .ok (.bipush (-3), 2) := dk_16 253 (dk_at dksX2_mend_1 12 rfl rfl)
theorem dX2_mend_38 : decode cX2_mend 38 = .ok (.ireturn, 1) := dk_172 (dk_at dksX2_mend_1 14 rfl rfl)
theorem dX2_mend_39 : decode cX2_mend 39 = .ok (.aload_n 0, 1) := dk_42 (dk_at dksX2_mend_1 15 rfl rfl)
theorem dX2_mend_40 : decode cX2_mend 40 = .ok (.iload_n 1, 1) := dk_27 (dk_at dksX2_mend_1 16 rfl rfl)
theorem dX2_mend_41 : decode cX2_mend 41 = .ok (.invokevirtual 283, 3) := dk_182 1 27 (dk_at dksX2_mend_1 17 rfl rfl)
theorem dX2_mend_44 : decode cX2_mend 44 = .ok (.aload_n 0, 1) := dk_42 (dk_at dksX2_mend_1 20 rfl rfl)
theorem dX2_mend_45 : decode cX2_mend 45 = .ok (.getfield 250, 3) := dk_180 0 250 (dk_at dksX2_mend_1 21 rfl rfl)
theorem dX2_mend_48 : decode cX2_mend 48 = .ok (.ifCond .ge 6, 3) := dk_156 0 6 (dk_at dksX2_mend_2 0 rfl rfl)
theorem dX2_mend_51 : decode cX2_mend 51 = .ok (.bipush (-9), 2) := dk_16 247 (dk_at dksX2_mend_2 3 rfl rfl)
theorem dX2_mend_53 : decode cX2_mend 53 = .ok (.ireturn, 1) := dk_172 (dk_at dksX2_mend_2 5 rfl rfl)
theorem dX2_mend_54 : decode cX2_mend 54 = .ok (.iload_n 2, 1) := dk_28 (dk_at dksX2_mend_2 6 rfl rfl)
theorem dX2_mend_55 : decode cX2_mend 55 = .ok (.iconst (-1), 1) := dk_2 (dk_at dksX2_mend_2 7 rfl rfl)
theorem dX2_mend_56 : decode cX2_mend 56 = .ok (.if_icmp .ne 10, 3) := dk_160 0 10 (dk_at dksX2_mend_2 8 rfl rfl)
theorem dX2_mend_59 : decode cX2_mend 59 = .ok (.aload_n 0, 1) := dk_42 (dk_at dksX2_mend_2 11 rfl rfl)
theorem dX2_mend_60 : decode cX2_mend 60 = .ok (.getfield 250, 3) := dk_180 0 250 (dk_at dksX2_mend_2 12 rfl rfl)
theorem dX2_mend_63 : decode cX2_mend 63 = .ok (.goto 31, 3) := dk_167 0 31 (dk_at dksX2_mend_2 15 rfl rfl)
theorem dX2_mend_66 : decode cX2_mend 66 = .ok (.iload_n 2, 1) := dk_28 (dk_at dksX2_mend_2 18 rfl rfl)
theorem dX2_mend_67 : decode cX2_mend 67 = .ok (.bipush (-2), 2) := dk_16 254 (dk_at dksX2_mend_2 19 rfl rfl)
theorem dX2_mend_69 : decode cX2_mend 69 = .ok (.if_icmp .ne 10, 3) := dk_160 0 10 (dk_at dksX2_mend_2 21 rfl rfl)
theorem dX2_mend_72 : decode cX2_mend 72 = .ok (.aload_n 0, 1) := dk_42 (dk_at dksX2_mend_3 0 rfl rfl)
theorem dX2_mend_73 : decode cX2_mend 73 = .ok (.getfield 253, 3) := dk_180 0 253 (dk_at dksX2_mend_3 1 rfl rfl)
theorem dX2_mend_76 : decode cX2_mend 76 = .ok (.goto 18, 3) := dk_167 0 18 (dk_at dksX2_mend_3 4 rfl rfl)
theorem dX2_mend_79 : decode cX2_mend 79 = .ok (.iload_n 2, 1) := dk_28 (dk_at dksX2_mend_3 7 rfl rfl)
theorem dX2_mend_80 : decode cX2_mend 80 = .ok (.ifCond .ne 10, 3) := dk_154 0 10 (dk_at dksX2_mend_3 8 rfl rfl)
theorem dX2_mend_83 : decode cX2_mend 83 = .ok (.aload_n 0, 1) := dk_42 (dk_at dksX2_mend_3 11 rfl rfl)
theorem dX2_mend_84 : decode cX2_mend 84 = .ok (.getfield 256, 3) := dk_180 1 0 (dk_at dksX2_mend_3 12 rfl rfl)
theorem dX2_mend_87 : decode cX2_mend 87 = .ok (.goto 7, 3) := dk_167 0 7 (dk_at dksX2_mend_3 15 rfl rfl)
theorem dX2_mend_90 : decode cX2_mend 90 = .ok (.aload_n 0, 1) := dk_42 (dk_at dksX2_mend_3 18 rfl rfl)
theorem dX2_mend_91 : decode cX2_mend 91 = .ok (.getfield 259, 3) := dk_180 1 3 (dk_at dksX2_mend_3 19 rfl rfl)
theorem dX2_mend_94 : decode cX2_mend 94 = .ok (.ireturn, 1) := dk_172 (dk_at dksX2_mend_3 22 rfl rfl)
abbrev cX2_layMend : ByteArray := prog_8_method_59_code
def yX2_layMend : MethodName := ⟨RX2, "layMend", "(I)V"⟩
def dkwX2_layMend_4 : List UInt8 := [182, 1, 12, 42, 27, 29, 21, 4, 182, 1, 19, 42, 29, 3, 182, 1, 16, 132, 2, 1, 167, 255, 177, 177]
abbrev dktX2_layMend_4 : List UInt8 := dkwX2_layMend_4 ++ []
def dkwX2_layMend_3 : List UInt8 := [29, 21, 4, 182, 0, 246, 42, 27, 21, 4, 184, 1, 9, 4, 16, 10, 29, 104, 21, 4, 96, 16, 247]
abbrev dktX2_layMend_3 : List UInt8 := dkwX2_layMend_3 ++ dktX2_layMend_4
def dkwX2_layMend_2 : List UInt8 := [108, 62, 28, 7, 112, 54, 4, 42, 29, 21, 4, 182, 0, 243, 153, 0, 50, 42, 29, 3, 182, 1, 6, 42]
abbrev dktX2_layMend_2 : List UInt8 := dkwX2_layMend_2 ++ dktX2_layMend_3
def dkwX2_layMend_1 : List UInt8 := [27, 3, 3, 16, 247, 16, 247, 182, 1, 12, 3, 61, 28, 7, 42, 180, 0, 116, 104, 162, 0, 75, 28, 7]
abbrev dktX2_layMend_1 : List UInt8 := dkwX2_layMend_1 ++ dktX2_layMend_2
def dkwX2_layMend_0 : List UInt8 := [42, 16, 247, 181, 0, 250, 42, 3, 181, 0, 253, 42, 16, 247, 181, 1, 0, 42, 16, 247, 181, 1, 3, 42]
abbrev dktX2_layMend_0 : List UInt8 := dkwX2_layMend_0 ++ dktX2_layMend_1
theorem dksX2_layMend_0 : cX2_layMend.data.toList.drop 0 = dktX2_layMend_0 := by decide +kernel
theorem dksX2_layMend_1 : cX2_layMend.data.toList.drop 24 = dktX2_layMend_1 := dk_seg dksX2_layMend_0 24 rfl rfl
theorem dksX2_layMend_2 : cX2_layMend.data.toList.drop 48 = dktX2_layMend_2 := dk_seg dksX2_layMend_1 24 rfl rfl
theorem dksX2_layMend_3 : cX2_layMend.data.toList.drop 72 = dktX2_layMend_3 := dk_seg dksX2_layMend_2 24 rfl rfl
theorem dksX2_layMend_4 : cX2_layMend.data.toList.drop 95 = dktX2_layMend_4 := dk_seg dksX2_layMend_3 23 rfl rfl
theorem dX2_layMend_0 : decode cX2_layMend 0 = .ok (.aload_n 0, 1) := dk_42 (dk_at dksX2_layMend_0 0 rfl rfl)
theorem dX2_layMend_1 : decode cX2_layMend 1 = .ok (.bipush (-9), 2) := dk_16 247 (dk_at dksX2_layMend_0 1 rfl rfl)
theorem dX2_layMend_3 : decode cX2_layMend 3 = .ok (.putfield 250, 3) := dk_181 0 250 (dk_at dksX2_layMend_0 3 rfl rfl)
theorem dX2_layMend_6 : decode cX2_layMend 6 = .ok (.aload_n 0, 1) := dk_42 (dk_at dksX2_layMend_0 6 rfl rfl)
theorem dX2_layMend_7 : decode cX2_layMend 7 = .ok (.iconst 0, 1) := dk_3 (dk_at dksX2_layMend_0 7 rfl rfl)
theorem dX2_layMend_8 : decode cX2_layMend 8 = .ok (.putfield 253, 3) := dk_181 0 253 (dk_at dksX2_layMend_0 8 rfl rfl)
theorem dX2_layMend_11 : decode cX2_layMend 11 = .ok (.aload_n 0, 1) := dk_42 (dk_at dksX2_layMend_0 11 rfl rfl)
theorem dX2_layMend_12 : decode cX2_layMend 12 = .ok (.bipush (-9), 2) := dk_16 247 (dk_at dksX2_layMend_0 12 rfl rfl)
theorem dX2_layMend_14 : decode cX2_layMend 14 = .ok (.putfield 256, 3) := dk_181 1 0 (dk_at dksX2_layMend_0 14 rfl rfl)
theorem dX2_layMend_17 : decode cX2_layMend 17 = .ok (.aload_n 0, 1) := dk_42 (dk_at dksX2_layMend_0 17 rfl rfl)
theorem dX2_layMend_18 : decode cX2_layMend 18 = .ok (.bipush (-9), 2) := dk_16 247 (dk_at dksX2_layMend_0 18 rfl rfl)
theorem dX2_layMend_20 : decode cX2_layMend 20 = .ok (.putfield 259, 3) := dk_181 1 3 (dk_at dksX2_layMend_0 20 rfl rfl)
theorem dX2_layMend_23 : decode cX2_layMend 23 = .ok (.aload_n 0, 1) := dk_42 (dk_at dksX2_layMend_0 23 rfl rfl)
theorem dX2_layMend_24 : decode cX2_layMend 24 = .ok (.iload_n 1, 1) := dk_27 (dk_at dksX2_layMend_1 0 rfl rfl)
theorem dX2_layMend_25 : decode cX2_layMend 25 = .ok (.iconst 0, 1) := dk_3 (dk_at dksX2_layMend_1 1 rfl rfl)
theorem dX2_layMend_26 : decode cX2_layMend 26 = .ok (.iconst 0, 1) := dk_3 (dk_at dksX2_layMend_1 2 rfl rfl)
theorem dX2_layMend_27 : decode cX2_layMend 27 = .ok (.bipush (-9), 2) := dk_16 247 (dk_at dksX2_layMend_1 3 rfl rfl)
theorem dX2_layMend_29 : decode cX2_layMend 29 = .ok (.bipush (-9), 2) := dk_16 247 (dk_at dksX2_layMend_1 5 rfl rfl)
theorem dX2_layMend_31 : decode cX2_layMend 31 = .ok (.invokevirtual 268, 3) := dk_182 1 12 (dk_at dksX2_layMend_1 7 rfl rfl)
theorem dX2_layMend_34 : decode cX2_layMend 34 = .ok (.iconst 0, 1) := dk_3 (dk_at dksX2_layMend_1 10 rfl rfl)
theorem dX2_layMend_35 : decode cX2_layMend 35 = .ok (.istore_n 2, 1) := dk_61 (dk_at dksX2_layMend_1 11 rfl rfl)
theorem dX2_layMend_36 : decode cX2_layMend 36 = .ok (.iload_n 2, 1) := dk_28 (dk_at dksX2_layMend_1 12 rfl rfl)
theorem dX2_layMend_37 : decode cX2_layMend 37 = .ok (.iconst 4, 1) := dk_7 (dk_at dksX2_layMend_1 13 rfl rfl)
theorem dX2_layMend_38 : decode cX2_layMend 38 = .ok (.aload_n 0, 1) := dk_42 (dk_at dksX2_layMend_1 14 rfl rfl)
theorem dX2_layMend_39 : decode cX2_layMend 39 = .ok (.getfield 116, 3) := dk_180 0 116 (dk_at dksX2_layMend_1 15 rfl rfl)
theorem dX2_layMend_42 : decode cX2_layMend 42 = .ok (.imul, 1) := dk_104 (dk_at dksX2_layMend_1 18 rfl rfl)
theorem dX2_layMend_43 : decode cX2_layMend 43 = .ok (.if_icmp .ge 75, 3) := dk_162 0 75 (dk_at dksX2_layMend_1 19 rfl rfl)
theorem dX2_layMend_46 : decode cX2_layMend 46 = .ok (.iload_n 2, 1) := dk_28 (dk_at dksX2_layMend_1 22 rfl rfl)
theorem dX2_layMend_47 : decode cX2_layMend 47 = .ok (.iconst 4, 1) := dk_7 (dk_at dksX2_layMend_1 23 rfl rfl)
theorem dX2_layMend_48 : decode cX2_layMend 48 = .ok (.idiv, 1) := dk_108 (dk_at dksX2_layMend_2 0 rfl rfl)
theorem dX2_layMend_49 : decode cX2_layMend 49 = .ok (.istore_n 3, 1) := dk_62 (dk_at dksX2_layMend_2 1 rfl rfl)
theorem dX2_layMend_50 : decode cX2_layMend 50 = .ok (.iload_n 2, 1) := dk_28 (dk_at dksX2_layMend_2 2 rfl rfl)
theorem dX2_layMend_51 : decode cX2_layMend 51 = .ok (.iconst 4, 1) := dk_7 (dk_at dksX2_layMend_2 3 rfl rfl)
theorem dX2_layMend_52 : decode cX2_layMend 52 = .ok (.irem, 1) := dk_112 (dk_at dksX2_layMend_2 4 rfl rfl)
theorem dX2_layMend_53 : decode cX2_layMend 53 = .ok (.istore 4, 2) := dk_54 4 (dk_at dksX2_layMend_2 5 rfl rfl)
theorem dX2_layMend_55 : decode cX2_layMend 55 = .ok (.aload_n 0, 1) := dk_42 (dk_at dksX2_layMend_2 7 rfl rfl)
theorem dX2_layMend_56 : decode cX2_layMend 56 = .ok (.iload_n 3, 1) := dk_29 (dk_at dksX2_layMend_2 8 rfl rfl)
theorem dX2_layMend_57 : decode cX2_layMend 57 = .ok (.iload 4, 2) := dk_21 4 (dk_at dksX2_layMend_2 9 rfl rfl)
theorem dX2_layMend_59 : decode cX2_layMend 59 = .ok (.invokevirtual 243, 3) := dk_182 0 243 (dk_at dksX2_layMend_2 11 rfl rfl)
theorem dX2_layMend_62 : decode cX2_layMend 62 = .ok (.ifCond .eq 50, 3) := dk_153 0 50 (dk_at dksX2_layMend_2 14 rfl rfl)
theorem dX2_layMend_65 : decode cX2_layMend 65 = .ok (.aload_n 0, 1) := dk_42 (dk_at dksX2_layMend_2 17 rfl rfl)
theorem dX2_layMend_66 : decode cX2_layMend 66 = .ok (.iload_n 3, 1) := dk_29 (dk_at dksX2_layMend_2 18 rfl rfl)
theorem dX2_layMend_67 : decode cX2_layMend 67 = .ok (.iconst 0, 1) := dk_3 (dk_at dksX2_layMend_2 19 rfl rfl)
theorem dX2_layMend_68 : decode cX2_layMend 68 = .ok (.invokevirtual 262, 3) := dk_182 1 6 (dk_at dksX2_layMend_2 20 rfl rfl)
theorem dX2_layMend_71 : decode cX2_layMend 71 = .ok (.aload_n 0, 1) := dk_42 (dk_at dksX2_layMend_2 23 rfl rfl)
theorem dX2_layMend_72 : decode cX2_layMend 72 = .ok (.iload_n 3, 1) := dk_29 (dk_at dksX2_layMend_3 0 rfl rfl)
theorem dX2_layMend_73 : decode cX2_layMend 73 = .ok (.iload 4, 2) := dk_21 4 (dk_at dksX2_layMend_3 1 rfl rfl)
theorem dX2_layMend_75 : decode cX2_layMend 75 = .ok (.invokevirtual 246, 3) := dk_182 0 246 (dk_at dksX2_layMend_3 3 rfl rfl)
theorem dX2_layMend_78 : decode cX2_layMend 78 = .ok (.aload_n 0, 1) := dk_42 (dk_at dksX2_layMend_3 6 rfl rfl)
theorem dX2_layMend_79 : decode cX2_layMend 79 = .ok (.iload_n 1, 1) := dk_27 (dk_at dksX2_layMend_3 7 rfl rfl)
theorem dX2_layMend_80 : decode cX2_layMend 80 = .ok (.iload 4, 2) := dk_21 4 (dk_at dksX2_layMend_3 8 rfl rfl)
theorem dX2_layMend_82 : decode cX2_layMend 82 = .ok (.invokestatic 265, 3) := dk_184 1 9 (dk_at dksX2_layMend_3 10 rfl rfl)
theorem dX2_layMend_85 : decode cX2_layMend 85 = .ok (.iconst 1, 1) := dk_4 (dk_at dksX2_layMend_3 13 rfl rfl)
theorem dX2_layMend_86 : decode cX2_layMend 86 = .ok (.bipush 10, 2) := dk_16 10 (dk_at dksX2_layMend_3 14 rfl rfl)
theorem dX2_layMend_88 : decode cX2_layMend 88 = .ok (.iload_n 3, 1) := dk_29 (dk_at dksX2_layMend_3 16 rfl rfl)
theorem dX2_layMend_89 : decode cX2_layMend 89 = .ok (.imul, 1) := dk_104 (dk_at dksX2_layMend_3 17 rfl rfl)
theorem dX2_layMend_90 : decode cX2_layMend 90 = .ok (.iload 4, 2) := dk_21 4 (dk_at dksX2_layMend_3 18 rfl rfl)
theorem dX2_layMend_92 : decode cX2_layMend 92 = .ok (.iadd, 1) := dk_96 (dk_at dksX2_layMend_3 20 rfl rfl)
theorem dX2_layMend_93 : decode cX2_layMend 93 = .ok (.bipush (-9), 2) := dk_16 247 (dk_at dksX2_layMend_3 21 rfl rfl)
theorem dX2_layMend_95 : decode cX2_layMend 95 = .ok (.invokevirtual 268, 3) := dk_182 1 12 (dk_at dksX2_layMend_4 0 rfl rfl)
theorem dX2_layMend_98 : decode cX2_layMend 98 = .ok (.aload_n 0, 1) := dk_42 (dk_at dksX2_layMend_4 3 rfl rfl)
theorem dX2_layMend_99 : decode cX2_layMend 99 = .ok (.iload_n 1, 1) := dk_27 (dk_at dksX2_layMend_4 4 rfl rfl)
theorem dX2_layMend_100 : decode cX2_layMend 100 = .ok (.iload_n 3, 1) := dk_29 (dk_at dksX2_layMend_4 5 rfl rfl)
theorem dX2_layMend_101 : decode cX2_layMend 101 = .ok (.iload 4, 2) := dk_21 4 (dk_at dksX2_layMend_4 6 rfl rfl)
theorem dX2_layMend_103 : decode cX2_layMend 103 = .ok (.invokevirtual 275, 3) := dk_182 1 19 (dk_at dksX2_layMend_4 8 rfl rfl)
theorem dX2_layMend_106 : decode cX2_layMend 106 = .ok (.aload_n 0, 1) := dk_42 (dk_at dksX2_layMend_4 11 rfl rfl)
theorem dX2_layMend_107 : decode cX2_layMend 107 = .ok (.iload_n 3, 1) := dk_29 (dk_at dksX2_layMend_4 12 rfl rfl)
theorem dX2_layMend_108 : decode cX2_layMend 108 = .ok (.iconst 0, 1) := dk_3 (dk_at dksX2_layMend_4 13 rfl rfl)
theorem dX2_layMend_109 : decode cX2_layMend 109 = .ok (.invokevirtual 272, 3) := dk_182 1 16 (dk_at dksX2_layMend_4 14 rfl rfl)
theorem dX2_layMend_112 : decode cX2_layMend 112 = .ok (.iinc 2 1, 3) := dk_132 2 1 (dk_at dksX2_layMend_4 17 rfl rfl)
theorem dX2_layMend_115 : decode cX2_layMend 115 = .ok (.goto (-79), 3) := dk_167 255 177 (dk_at dksX2_layMend_4 20 rfl rfl)
theorem dX2_layMend_118 : decode cX2_layMend 118 = .ok (.return_, 1) := dk_177 (dk_at dksX2_layMend_4 23 rfl rfl)
abbrev cX2_look : ByteArray := prog_8_method_55_code
def yX2_look : MethodName := ⟨RX2, "look", "(IIIII)V"⟩
def dkwX2_look_3 : List UInt8 := [42, 29, 181, 0, 253, 42, 21, 4, 181, 1, 0, 42, 21, 5, 181, 1, 3, 177]
abbrev dktX2_look_3 : List UInt8 := dkwX2_look_3 ++ []
def dkwX2_look_2 : List UInt8 := [180, 0, 172, 160, 0, 38, 42, 180, 0, 204, 27, 163, 0, 30, 21, 6, 153, 0, 25, 42, 28, 181, 0, 250]
abbrev dktX2_look_2 : List UInt8 := dkwX2_look_2 ++ dktX2_look_3
def dkwX2_look_1 : List UInt8 := [160, 0, 15, 29, 42, 180, 0, 253, 162, 0, 7, 4, 167, 0, 4, 3, 54, 6, 42, 180, 0, 201, 42]
abbrev dktX2_look_1 : List UInt8 := dkwX2_look_1 ++ dktX2_look_2
def dkwX2_look_0 : List UInt8 := [42, 182, 0, 210, 42, 180, 0, 250, 155, 0, 27, 28, 42, 180, 0, 250, 161, 0, 19, 28, 42, 180, 0, 250]
abbrev dktX2_look_0 : List UInt8 := dkwX2_look_0 ++ dktX2_look_1
theorem dksX2_look_0 : cX2_look.data.toList.drop 0 = dktX2_look_0 := by decide +kernel
theorem dksX2_look_1 : cX2_look.data.toList.drop 24 = dktX2_look_1 := dk_seg dksX2_look_0 24 rfl rfl
theorem dksX2_look_2 : cX2_look.data.toList.drop 47 = dktX2_look_2 := dk_seg dksX2_look_1 23 rfl rfl
theorem dksX2_look_3 : cX2_look.data.toList.drop 71 = dktX2_look_3 := dk_seg dksX2_look_2 24 rfl rfl
theorem dX2_look_0 : decode cX2_look 0 = .ok (.aload_n 0, 1) := dk_42 (dk_at dksX2_look_0 0 rfl rfl)
theorem dX2_look_1 : decode cX2_look 1 = .ok (.invokevirtual 210, 3) := dk_182 0 210 (dk_at dksX2_look_0 1 rfl rfl)
theorem dX2_look_4 : decode cX2_look 4 = .ok (.aload_n 0, 1) := dk_42 (dk_at dksX2_look_0 4 rfl rfl)
theorem dX2_look_5 : decode cX2_look 5 = .ok (.getfield 250, 3) := dk_180 0 250 (dk_at dksX2_look_0 5 rfl rfl)
theorem dX2_look_8 : decode cX2_look 8 = .ok (.ifCond .lt 27, 3) := dk_155 0 27 (dk_at dksX2_look_0 8 rfl rfl)
theorem dX2_look_11 : decode cX2_look 11 = .ok (.iload_n 2, 1) := dk_28 (dk_at dksX2_look_0 11 rfl rfl)
theorem dX2_look_12 : decode cX2_look 12 = .ok (.aload_n 0, 1) := dk_42 (dk_at dksX2_look_0 12 rfl rfl)
theorem dX2_look_13 : decode cX2_look 13 = .ok (.getfield 250, 3) := dk_180 0 250 (dk_at dksX2_look_0 13 rfl rfl)
theorem dX2_look_16 : decode cX2_look 16 = .ok (.if_icmp .lt 19, 3) := dk_161 0 19 (dk_at dksX2_look_0 16 rfl rfl)
theorem dX2_look_19 : decode cX2_look 19 = .ok (.iload_n 2, 1) := dk_28 (dk_at dksX2_look_0 19 rfl rfl)
theorem dX2_look_20 : decode cX2_look 20 = .ok (.aload_n 0, 1) := dk_42 (dk_at dksX2_look_0 20 rfl rfl)
theorem dX2_look_21 : decode cX2_look 21 = .ok (.getfield 250, 3) := dk_180 0 250 (dk_at dksX2_look_0 21 rfl rfl)
theorem dX2_look_24 : decode cX2_look 24 = .ok (.if_icmp .ne 15, 3) := dk_160 0 15 (dk_at dksX2_look_1 0 rfl rfl)
theorem dX2_look_27 : decode cX2_look 27 = .ok (.iload_n 3, 1) := dk_29 (dk_at dksX2_look_1 3 rfl rfl)
theorem dX2_look_28 : decode cX2_look 28 = .ok (.aload_n 0, 1) := dk_42 (dk_at dksX2_look_1 4 rfl rfl)
theorem dX2_look_29 : decode cX2_look 29 = .ok (.getfield 253, 3) := dk_180 0 253 (dk_at dksX2_look_1 5 rfl rfl)
theorem dX2_look_32 : decode cX2_look 32 = .ok (.if_icmp .ge 7, 3) := dk_162 0 7 (dk_at dksX2_look_1 8 rfl rfl)
theorem dX2_look_35 : decode cX2_look 35 = .ok (.iconst 1, 1) := dk_4 (dk_at dksX2_look_1 11 rfl rfl)
theorem dX2_look_36 : decode cX2_look 36 = .ok (.goto 4, 3) := dk_167 0 4 (dk_at dksX2_look_1 12 rfl rfl)
theorem dX2_look_39 : decode cX2_look 39 = .ok (.iconst 0, 1) := dk_3 (dk_at dksX2_look_1 15 rfl rfl)
theorem dX2_look_40 : decode cX2_look 40 = .ok (.istore 6, 2) := dk_54 6 (dk_at dksX2_look_1 16 rfl rfl)
theorem dX2_look_42 : decode cX2_look 42 = .ok (.aload_n 0, 1) := dk_42 (dk_at dksX2_look_1 18 rfl rfl)
theorem dX2_look_43 : decode cX2_look 43 = .ok (.getfield 201, 3) := dk_180 0 201 (dk_at dksX2_look_1 19 rfl rfl)
theorem dX2_look_46 : decode cX2_look 46 = .ok (.aload_n 0, 1) := dk_42 (dk_at dksX2_look_1 22 rfl rfl)
theorem dX2_look_47 : decode cX2_look 47 = .ok (.getfield 172, 3) := dk_180 0 172 (dk_at dksX2_look_2 0 rfl rfl)
theorem dX2_look_50 : decode cX2_look 50 = .ok (.if_icmp .ne 38, 3) := dk_160 0 38 (dk_at dksX2_look_2 3 rfl rfl)
theorem dX2_look_53 : decode cX2_look 53 = .ok (.aload_n 0, 1) := dk_42 (dk_at dksX2_look_2 6 rfl rfl)
theorem dX2_look_54 : decode cX2_look 54 = .ok (.getfield 204, 3) := dk_180 0 204 (dk_at dksX2_look_2 7 rfl rfl)
theorem dX2_look_57 : decode cX2_look 57 = .ok (.iload_n 1, 1) := dk_27 (dk_at dksX2_look_2 10 rfl rfl)
theorem dX2_look_58 : decode cX2_look 58 = .ok (.if_icmp .gt 30, 3) := dk_163 0 30 (dk_at dksX2_look_2 11 rfl rfl)
theorem dX2_look_61 : decode cX2_look 61 = .ok (.iload 6, 2) := dk_21 6 (dk_at dksX2_look_2 14 rfl rfl)
theorem dX2_look_63 : decode cX2_look 63 = .ok (.ifCond .eq 25, 3) := dk_153 0 25 (dk_at dksX2_look_2 16 rfl rfl)
theorem dX2_look_66 : decode cX2_look 66 = .ok (.aload_n 0, 1) := dk_42 (dk_at dksX2_look_2 19 rfl rfl)
theorem dX2_look_67 : decode cX2_look 67 = .ok (.iload_n 2, 1) := dk_28 (dk_at dksX2_look_2 20 rfl rfl)
theorem dX2_look_68 : decode cX2_look 68 = .ok (.putfield 250, 3) := dk_181 0 250 (dk_at dksX2_look_2 21 rfl rfl)
theorem dX2_look_71 : decode cX2_look 71 = .ok (.aload_n 0, 1) := dk_42 (dk_at dksX2_look_3 0 rfl rfl)
theorem dX2_look_72 : decode cX2_look 72 = .ok (.iload_n 3, 1) := dk_29 (dk_at dksX2_look_3 1 rfl rfl)
theorem dX2_look_73 : decode cX2_look 73 = .ok (.putfield 253, 3) := dk_181 0 253 (dk_at dksX2_look_3 2 rfl rfl)
theorem dX2_look_76 : decode cX2_look 76 = .ok (.aload_n 0, 1) := dk_42 (dk_at dksX2_look_3 5 rfl rfl)
theorem dX2_look_77 : decode cX2_look 77 = .ok (.iload 4, 2) := dk_21 4 (dk_at dksX2_look_3 6 rfl rfl)
theorem dX2_look_79 : decode cX2_look 79 = .ok (.putfield 256, 3) := dk_181 1 0 (dk_at dksX2_look_3 8 rfl rfl)
theorem dX2_look_82 : decode cX2_look 82 = .ok (.aload_n 0, 1) := dk_42 (dk_at dksX2_look_3 11 rfl rfl)
theorem dX2_look_83 : decode cX2_look 83 = .ok (.iload 5, 2) := dk_21 5 (dk_at dksX2_look_3 12 rfl rfl)
theorem dX2_look_85 : decode cX2_look 85 = .ok (.putfield 259, 3) := dk_181 1 3 (dk_at dksX2_look_3 14 rfl rfl)
theorem dX2_look_88 : decode cX2_look 88 = .ok (.return_, 1) := dk_177 (dk_at dksX2_look_3 17 rfl rfl)
abbrev cX2_keep : ByteArray := prog_8_method_56_code
def yX2_keep : MethodName := ⟨RX2, "keep", "(II)V"⟩
def dkwX2_keep_1 : List UInt8 := [46, 79, 42, 180, 0, 67, 28, 5, 96, 42, 180, 0, 22, 27, 46, 79, 177]
abbrev dktX2_keep_1 : List UInt8 := dkwX2_keep_1 ++ []
def dkwX2_keep_0 : List UInt8 := [42, 180, 0, 67, 28, 42, 180, 0, 16, 27, 46, 79, 42, 180, 0, 67, 28, 4, 96, 42, 180, 0, 19, 27]
abbrev dktX2_keep_0 : List UInt8 := dkwX2_keep_0 ++ dktX2_keep_1
theorem dksX2_keep_0 : cX2_keep.data.toList.drop 0 = dktX2_keep_0 := by decide +kernel
theorem dksX2_keep_1 : cX2_keep.data.toList.drop 24 = dktX2_keep_1 := dk_seg dksX2_keep_0 24 rfl rfl
theorem dX2_keep_0 : decode cX2_keep 0 = .ok (.aload_n 0, 1) := dk_42 (dk_at dksX2_keep_0 0 rfl rfl)
theorem dX2_keep_1 : decode cX2_keep 1 = .ok (.getfield 67, 3) := dk_180 0 67 (dk_at dksX2_keep_0 1 rfl rfl)
theorem dX2_keep_4 : decode cX2_keep 4 = .ok (.iload_n 2, 1) := dk_28 (dk_at dksX2_keep_0 4 rfl rfl)
theorem dX2_keep_5 : decode cX2_keep 5 = .ok (.aload_n 0, 1) := dk_42 (dk_at dksX2_keep_0 5 rfl rfl)
theorem dX2_keep_6 : decode cX2_keep 6 = .ok (.getfield 16, 3) := dk_180 0 16 (dk_at dksX2_keep_0 6 rfl rfl)
theorem dX2_keep_9 : decode cX2_keep 9 = .ok (.iload_n 1, 1) := dk_27 (dk_at dksX2_keep_0 9 rfl rfl)
theorem dX2_keep_10 : decode cX2_keep 10 = .ok (.iaload, 1) := dk_46 (dk_at dksX2_keep_0 10 rfl rfl)
theorem dX2_keep_11 : decode cX2_keep 11 = .ok (.iastore, 1) := dk_79 (dk_at dksX2_keep_0 11 rfl rfl)
theorem dX2_keep_12 : decode cX2_keep 12 = .ok (.aload_n 0, 1) := dk_42 (dk_at dksX2_keep_0 12 rfl rfl)
theorem dX2_keep_13 : decode cX2_keep 13 = .ok (.getfield 67, 3) := dk_180 0 67 (dk_at dksX2_keep_0 13 rfl rfl)
theorem dX2_keep_16 : decode cX2_keep 16 = .ok (.iload_n 2, 1) := dk_28 (dk_at dksX2_keep_0 16 rfl rfl)
theorem dX2_keep_17 : decode cX2_keep 17 = .ok (.iconst 1, 1) := dk_4 (dk_at dksX2_keep_0 17 rfl rfl)
theorem dX2_keep_18 : decode cX2_keep 18 = .ok (.iadd, 1) := dk_96 (dk_at dksX2_keep_0 18 rfl rfl)
theorem dX2_keep_19 : decode cX2_keep 19 = .ok (.aload_n 0, 1) := dk_42 (dk_at dksX2_keep_0 19 rfl rfl)
theorem dX2_keep_20 : decode cX2_keep 20 = .ok (.getfield 19, 3) := dk_180 0 19 (dk_at dksX2_keep_0 20 rfl rfl)
theorem dX2_keep_23 : decode cX2_keep 23 = .ok (.iload_n 1, 1) := dk_27 (dk_at dksX2_keep_0 23 rfl rfl)
theorem dX2_keep_24 : decode cX2_keep 24 = .ok (.iaload, 1) := dk_46 (dk_at dksX2_keep_1 0 rfl rfl)
theorem dX2_keep_25 : decode cX2_keep 25 = .ok (.iastore, 1) := dk_79 (dk_at dksX2_keep_1 1 rfl rfl)
theorem dX2_keep_26 : decode cX2_keep 26 = .ok (.aload_n 0, 1) := dk_42 (dk_at dksX2_keep_1 2 rfl rfl)
theorem dX2_keep_27 : decode cX2_keep 27 = .ok (.getfield 67, 3) := dk_180 0 67 (dk_at dksX2_keep_1 3 rfl rfl)
theorem dX2_keep_30 : decode cX2_keep 30 = .ok (.iload_n 2, 1) := dk_28 (dk_at dksX2_keep_1 6 rfl rfl)
theorem dX2_keep_31 : decode cX2_keep 31 = .ok (.iconst 2, 1) := dk_5 (dk_at dksX2_keep_1 7 rfl rfl)
theorem dX2_keep_32 : decode cX2_keep 32 = .ok (.iadd, 1) := dk_96 (dk_at dksX2_keep_1 8 rfl rfl)
theorem dX2_keep_33 : decode cX2_keep 33 = .ok (.aload_n 0, 1) := dk_42 (dk_at dksX2_keep_1 9 rfl rfl)
theorem dX2_keep_34 : decode cX2_keep 34 = .ok (.getfield 22, 3) := dk_180 0 22 (dk_at dksX2_keep_1 10 rfl rfl)
theorem dX2_keep_37 : decode cX2_keep 37 = .ok (.iload_n 1, 1) := dk_27 (dk_at dksX2_keep_1 13 rfl rfl)
theorem dX2_keep_38 : decode cX2_keep 38 = .ok (.iaload, 1) := dk_46 (dk_at dksX2_keep_1 14 rfl rfl)
theorem dX2_keep_39 : decode cX2_keep 39 = .ok (.iastore, 1) := dk_79 (dk_at dksX2_keep_1 15 rfl rfl)
theorem dX2_keep_40 : decode cX2_keep 40 = .ok (.return_, 1) := dk_177 (dk_at dksX2_keep_1 16 rfl rfl)
abbrev cX2_costOf : ByteArray := prog_8_method_53_code
def yX2_costOf : MethodName := ⟨RX2, "costOf", "(I)I"⟩
def dkwX2_costOf_0 : List UInt8 := [26, 154, 0, 7, 5, 167, 0, 13, 26, 6, 160, 0, 7, 7, 167, 0, 4, 4, 172]
abbrev dktX2_costOf_0 : List UInt8 := dkwX2_costOf_0 ++ []
theorem dksX2_costOf_0 : cX2_costOf.data.toList.drop 0 = dktX2_costOf_0 := by decide +kernel
theorem dX2_costOf_0 : decode cX2_costOf 0 = .ok (.iload_n 0, 1) := dk_26 (dk_at dksX2_costOf_0 0 rfl rfl)
theorem dX2_costOf_1 : decode cX2_costOf 1 = .ok (.ifCond .ne 7, 3) := dk_154 0 7 (dk_at dksX2_costOf_0 1 rfl rfl)
theorem dX2_costOf_4 : decode cX2_costOf 4 = .ok (.iconst 2, 1) := dk_5 (dk_at dksX2_costOf_0 4 rfl rfl)
theorem dX2_costOf_5 : decode cX2_costOf 5 = .ok (.goto 13, 3) := dk_167 0 13 (dk_at dksX2_costOf_0 5 rfl rfl)
theorem dX2_costOf_8 : decode cX2_costOf 8 = .ok (.iload_n 0, 1) := dk_26 (dk_at dksX2_costOf_0 8 rfl rfl)
theorem dX2_costOf_9 : decode cX2_costOf 9 = .ok (.iconst 3, 1) := dk_6 (dk_at dksX2_costOf_0 9 rfl rfl)
theorem dX2_costOf_10 : decode cX2_costOf 10 = .ok (.if_icmp .ne 7, 3) := dk_160 0 7 (dk_at dksX2_costOf_0 10 rfl rfl)
theorem dX2_costOf_13 : decode cX2_costOf 13 = .ok (.iconst 4, 1) := dk_7 (dk_at dksX2_costOf_0 13 rfl rfl)
theorem dX2_costOf_14 : decode cX2_costOf 14 = .ok (.goto 4, 3) := dk_167 0 4 (dk_at dksX2_costOf_0 14 rfl rfl)
theorem dX2_costOf_17 : decode cX2_costOf 17 = .ok (.iconst 1, 1) := dk_4 (dk_at dksX2_costOf_0 17 rfl rfl)
theorem dX2_costOf_18 : decode cX2_costOf 18 = .ok (.ireturn, 1) := dk_172 (dk_at dksX2_costOf_0 18 rfl rfl)
abbrev cX2_lookFurther : ByteArray := prog_8_method_58_code
def yX2_lookFurther : MethodName := ⟨RX2, "lookFurther", "(III)V"⟩
def dkwX2_lookFurther_4 : List UInt8 := [177]
abbrev dktX2_lookFurther_4 : List UInt8 := dkwX2_lookFurther_4 ++ []
def dkwX2_lookFurther_3 : List UInt8 := [16, 10, 21, 5, 104, 21, 6, 96, 182, 1, 12, 42, 21, 5, 6, 182, 1, 16, 132, 4, 1, 167, 255, 167]
abbrev dktX2_lookFurther_3 : List UInt8 := dkwX2_lookFurther_3 ++ dktX2_lookFurther_4
def dkwX2_lookFurther_2 : List UInt8 := [21, 6, 182, 0, 246, 42, 27, 29, 184, 1, 9, 21, 6, 184, 1, 9, 96, 5, 16, 10, 28, 104, 29, 96]
abbrev dktX2_lookFurther_2 : List UInt8 := dkwX2_lookFurther_2 ++ dktX2_lookFurther_3
def dkwX2_lookFurther_1 : List UInt8 := [54, 6, 42, 21, 5, 21, 6, 182, 0, 243, 153, 0, 55, 42, 21, 5, 6, 182, 1, 6, 42, 21, 5]
abbrev dktX2_lookFurther_1 : List UInt8 := dkwX2_lookFurther_1 ++ dktX2_lookFurther_2
def dkwX2_lookFurther_0 : List UInt8 := [3, 54, 4, 21, 4, 7, 42, 180, 0, 116, 104, 162, 0, 84, 21, 4, 7, 108, 54, 5, 21, 4, 7, 112]
abbrev dktX2_lookFurther_0 : List UInt8 := dkwX2_lookFurther_0 ++ dktX2_lookFurther_1
theorem dksX2_lookFurther_0 : cX2_lookFurther.data.toList.drop 0 = dktX2_lookFurther_0 := by decide +kernel
theorem dksX2_lookFurther_1 : cX2_lookFurther.data.toList.drop 24 = dktX2_lookFurther_1 := dk_seg dksX2_lookFurther_0 24 rfl rfl
theorem dksX2_lookFurther_2 : cX2_lookFurther.data.toList.drop 47 = dktX2_lookFurther_2 := dk_seg dksX2_lookFurther_1 23 rfl rfl
theorem dksX2_lookFurther_3 : cX2_lookFurther.data.toList.drop 71 = dktX2_lookFurther_3 := dk_seg dksX2_lookFurther_2 24 rfl rfl
theorem dksX2_lookFurther_4 : cX2_lookFurther.data.toList.drop 95 = dktX2_lookFurther_4 := dk_seg dksX2_lookFurther_3 24 rfl rfl
theorem dX2_lookFurther_0 : decode cX2_lookFurther 0 = .ok (.iconst 0, 1) := dk_3 (dk_at dksX2_lookFurther_0 0 rfl rfl)
theorem dX2_lookFurther_1 : decode cX2_lookFurther 1 = .ok (.istore 4, 2) := dk_54 4 (dk_at dksX2_lookFurther_0 1 rfl rfl)
theorem dX2_lookFurther_3 : decode cX2_lookFurther 3 = .ok (.iload 4, 2) := dk_21 4 (dk_at dksX2_lookFurther_0 3 rfl rfl)
theorem dX2_lookFurther_5 : decode cX2_lookFurther 5 = .ok (.iconst 4, 1) := dk_7 (dk_at dksX2_lookFurther_0 5 rfl rfl)
theorem dX2_lookFurther_6 : decode cX2_lookFurther 6 = .ok (.aload_n 0, 1) := dk_42 (dk_at dksX2_lookFurther_0 6 rfl rfl)
theorem dX2_lookFurther_7 : decode cX2_lookFurther 7 = .ok (.getfield 116, 3) := dk_180 0 116 (dk_at dksX2_lookFurther_0 7 rfl rfl)
theorem dX2_lookFurther_10 : decode cX2_lookFurther 10 = .ok (.imul, 1) := dk_104 (dk_at dksX2_lookFurther_0 10 rfl rfl)
theorem dX2_lookFurther_11 : decode cX2_lookFurther 11 = .ok (.if_icmp .ge 84, 3) := dk_162 0 84 (dk_at dksX2_lookFurther_0 11 rfl rfl)
theorem dX2_lookFurther_14 : decode cX2_lookFurther 14 = .ok (.iload 4, 2) := dk_21 4 (dk_at dksX2_lookFurther_0 14 rfl rfl)
theorem dX2_lookFurther_16 : decode cX2_lookFurther 16 = .ok (.iconst 4, 1) := dk_7 (dk_at dksX2_lookFurther_0 16 rfl rfl)
theorem dX2_lookFurther_17 : decode cX2_lookFurther 17 = .ok (.idiv, 1) := dk_108 (dk_at dksX2_lookFurther_0 17 rfl rfl)
theorem dX2_lookFurther_18 : decode cX2_lookFurther 18 = .ok (.istore 5, 2) := dk_54 5 (dk_at dksX2_lookFurther_0 18 rfl rfl)
theorem dX2_lookFurther_20 : decode cX2_lookFurther 20 = .ok (.iload 4, 2) := dk_21 4 (dk_at dksX2_lookFurther_0 20 rfl rfl)
theorem dX2_lookFurther_22 : decode cX2_lookFurther 22 = .ok (.iconst 4, 1) := dk_7 (dk_at dksX2_lookFurther_0 22 rfl rfl)
theorem dX2_lookFurther_23 : decode cX2_lookFurther 23 = .ok (.irem, 1) := dk_112 (dk_at dksX2_lookFurther_0 23 rfl rfl)
theorem dX2_lookFurther_24 : decode cX2_lookFurther 24 = .ok (.istore 6, 2) := dk_54 6 (dk_at dksX2_lookFurther_1 0 rfl rfl)
theorem dX2_lookFurther_26 : decode cX2_lookFurther 26 = .ok (.aload_n 0, 1) := dk_42 (dk_at dksX2_lookFurther_1 2 rfl rfl)
theorem dX2_lookFurther_27 : decode cX2_lookFurther 27 = .ok (.iload 5, 2) := dk_21 5 (dk_at dksX2_lookFurther_1 3 rfl rfl)
theorem dX2_lookFurther_29 : decode cX2_lookFurther 29 = .ok (.iload 6, 2) := dk_21 6 (dk_at dksX2_lookFurther_1 5 rfl rfl)
theorem dX2_lookFurther_31 : decode cX2_lookFurther 31 = .ok (.invokevirtual 243, 3) := dk_182 0 243 (dk_at dksX2_lookFurther_1 7 rfl rfl)
theorem dX2_lookFurther_34 : decode cX2_lookFurther 34 = .ok (.ifCond .eq 55, 3) := dk_153 0 55 (dk_at dksX2_lookFurther_1 10 rfl rfl)
theorem dX2_lookFurther_37 : decode cX2_lookFurther 37 = .ok (.aload_n 0, 1) := dk_42 (dk_at dksX2_lookFurther_1 13 rfl rfl)
theorem dX2_lookFurther_38 : decode cX2_lookFurther 38 = .ok (.iload 5, 2) := dk_21 5 (dk_at dksX2_lookFurther_1 14 rfl rfl)
theorem dX2_lookFurther_40 : decode cX2_lookFurther 40 = .ok (.iconst 3, 1) := dk_6 (dk_at dksX2_lookFurther_1 16 rfl rfl)
theorem dX2_lookFurther_41 : decode cX2_lookFurther 41 = .ok (.invokevirtual 262, 3) := dk_182 1 6 (dk_at dksX2_lookFurther_1 17 rfl rfl)
theorem dX2_lookFurther_44 : decode cX2_lookFurther 44 = .ok (.aload_n 0, 1) := dk_42 (dk_at dksX2_lookFurther_1 20 rfl rfl)
theorem dX2_lookFurther_45 : decode cX2_lookFurther 45 = .ok (.iload 5, 2) := dk_21 5 (dk_at dksX2_lookFurther_1 21 rfl rfl)
theorem dX2_lookFurther_47 : decode cX2_lookFurther 47 = .ok (.iload 6, 2) := dk_21 6 (dk_at dksX2_lookFurther_2 0 rfl rfl)
theorem dX2_lookFurther_49 : decode cX2_lookFurther 49 = .ok (.invokevirtual 246, 3) := dk_182 0 246 (dk_at dksX2_lookFurther_2 2 rfl rfl)
theorem dX2_lookFurther_52 : decode cX2_lookFurther 52 = .ok (.aload_n 0, 1) := dk_42 (dk_at dksX2_lookFurther_2 5 rfl rfl)
theorem dX2_lookFurther_53 : decode cX2_lookFurther 53 = .ok (.iload_n 1, 1) := dk_27 (dk_at dksX2_lookFurther_2 6 rfl rfl)
theorem dX2_lookFurther_54 : decode cX2_lookFurther 54 = .ok (.iload_n 3, 1) := dk_29 (dk_at dksX2_lookFurther_2 7 rfl rfl)
theorem dX2_lookFurther_55 : decode cX2_lookFurther 55 = .ok (.invokestatic 265, 3) := dk_184 1 9 (dk_at dksX2_lookFurther_2 8 rfl rfl)
theorem dX2_lookFurther_58 : decode cX2_lookFurther 58 = .ok (.iload 6, 2) := dk_21 6 (dk_at dksX2_lookFurther_2 11 rfl rfl)
theorem dX2_lookFurther_60 : decode cX2_lookFurther 60 = .ok (.invokestatic 265, 3) := dk_184 1 9 (dk_at dksX2_lookFurther_2 13 rfl rfl)
theorem dX2_lookFurther_63 : decode cX2_lookFurther 63 = .ok (.iadd, 1) := dk_96 (dk_at dksX2_lookFurther_2 16 rfl rfl)
theorem dX2_lookFurther_64 : decode cX2_lookFurther 64 = .ok (.iconst 2, 1) := dk_5 (dk_at dksX2_lookFurther_2 17 rfl rfl)
theorem dX2_lookFurther_65 : decode cX2_lookFurther 65 = .ok (.bipush 10, 2) := dk_16 10 (dk_at dksX2_lookFurther_2 18 rfl rfl)
theorem dX2_lookFurther_67 : decode cX2_lookFurther 67 = .ok (.iload_n 2, 1) := dk_28 (dk_at dksX2_lookFurther_2 20 rfl rfl)
theorem dX2_lookFurther_68 : decode cX2_lookFurther 68 = .ok (.imul, 1) := dk_104 (dk_at dksX2_lookFurther_2 21 rfl rfl)
theorem dX2_lookFurther_69 : decode cX2_lookFurther 69 = .ok (.iload_n 3, 1) := dk_29 (dk_at dksX2_lookFurther_2 22 rfl rfl)
theorem dX2_lookFurther_70 : decode cX2_lookFurther 70 = .ok (.iadd, 1) := dk_96 (dk_at dksX2_lookFurther_2 23 rfl rfl)
theorem dX2_lookFurther_71 : decode cX2_lookFurther 71 = .ok (.bipush 10, 2) := dk_16 10 (dk_at dksX2_lookFurther_3 0 rfl rfl)
theorem dX2_lookFurther_73 : decode cX2_lookFurther 73 = .ok (.iload 5, 2) := dk_21 5 (dk_at dksX2_lookFurther_3 2 rfl rfl)
theorem dX2_lookFurther_75 : decode cX2_lookFurther 75 = .ok (.imul, 1) := dk_104 (dk_at dksX2_lookFurther_3 4 rfl rfl)
theorem dX2_lookFurther_76 : decode cX2_lookFurther 76 = .ok (.iload 6, 2) := dk_21 6 (dk_at dksX2_lookFurther_3 5 rfl rfl)
theorem dX2_lookFurther_78 : decode cX2_lookFurther 78 = .ok (.iadd, 1) := dk_96 (dk_at dksX2_lookFurther_3 7 rfl rfl)
theorem dX2_lookFurther_79 : decode cX2_lookFurther 79 = .ok (.invokevirtual 268, 3) := dk_182 1 12 (dk_at dksX2_lookFurther_3 8 rfl rfl)
theorem dX2_lookFurther_82 : decode cX2_lookFurther 82 = .ok (.aload_n 0, 1) := dk_42 (dk_at dksX2_lookFurther_3 11 rfl rfl)
theorem dX2_lookFurther_83 : decode cX2_lookFurther 83 = .ok (.iload 5, 2) := dk_21 5 (dk_at dksX2_lookFurther_3 12 rfl rfl)
theorem dX2_lookFurther_85 : decode cX2_lookFurther 85 = .ok (.iconst 3, 1) := dk_6 (dk_at dksX2_lookFurther_3 14 rfl rfl)
theorem dX2_lookFurther_86 : decode cX2_lookFurther 86 = .ok (.invokevirtual 272, 3) := dk_182 1 16 (dk_at dksX2_lookFurther_3 15 rfl rfl)
theorem dX2_lookFurther_89 : decode cX2_lookFurther 89 = .ok (.iinc 4 1, 3) := dk_132 4 1 (dk_at dksX2_lookFurther_3 18 rfl rfl)
theorem dX2_lookFurther_92 : decode cX2_lookFurther 92 = .ok (.goto (-89), 3) := dk_167 255 167 (dk_at dksX2_lookFurther_3 21 rfl rfl)
theorem dX2_lookFurther_95 : decode cX2_lookFurther 95 = .ok (.return_, 1) := dk_177 (dk_at dksX2_lookFurther_4 0 rfl rfl)
abbrev cX2_putBack : ByteArray := prog_8_method_57_code
def yX2_putBack : MethodName := ⟨RX2, "putBack", "(II)V"⟩
def dkwX2_putBack_1 : List UInt8 := [46, 79, 42, 180, 0, 22, 27, 42, 180, 0, 67, 28, 5, 96, 46, 79, 177]
abbrev dktX2_putBack_1 : List UInt8 := dkwX2_putBack_1 ++ []
def dkwX2_putBack_0 : List UInt8 := [42, 180, 0, 16, 27, 42, 180, 0, 67, 28, 46, 79, 42, 180, 0, 19, 27, 42, 180, 0, 67, 28, 4, 96]
abbrev dktX2_putBack_0 : List UInt8 := dkwX2_putBack_0 ++ dktX2_putBack_1
theorem dksX2_putBack_0 : cX2_putBack.data.toList.drop 0 = dktX2_putBack_0 := by decide +kernel
theorem dksX2_putBack_1 : cX2_putBack.data.toList.drop 24 = dktX2_putBack_1 := dk_seg dksX2_putBack_0 24 rfl rfl
theorem dX2_putBack_0 : decode cX2_putBack 0 = .ok (.aload_n 0, 1) := dk_42 (dk_at dksX2_putBack_0 0 rfl rfl)
theorem dX2_putBack_1 : decode cX2_putBack 1 = .ok (.getfield 16, 3) := dk_180 0 16 (dk_at dksX2_putBack_0 1 rfl rfl)
theorem dX2_putBack_4 : decode cX2_putBack 4 = .ok (.iload_n 1, 1) := dk_27 (dk_at dksX2_putBack_0 4 rfl rfl)
theorem dX2_putBack_5 : decode cX2_putBack 5 = .ok (.aload_n 0, 1) := dk_42 (dk_at dksX2_putBack_0 5 rfl rfl)
theorem dX2_putBack_6 : decode cX2_putBack 6 = .ok (.getfield 67, 3) := dk_180 0 67 (dk_at dksX2_putBack_0 6 rfl rfl)
theorem dX2_putBack_9 : decode cX2_putBack 9 = .ok (.iload_n 2, 1) := dk_28 (dk_at dksX2_putBack_0 9 rfl rfl)
theorem dX2_putBack_10 : decode cX2_putBack 10 = .ok (.iaload, 1) := dk_46 (dk_at dksX2_putBack_0 10 rfl rfl)
theorem dX2_putBack_11 : decode cX2_putBack 11 = .ok (.iastore, 1) := dk_79 (dk_at dksX2_putBack_0 11 rfl rfl)
theorem dX2_putBack_12 : decode cX2_putBack 12 = .ok (.aload_n 0, 1) := dk_42 (dk_at dksX2_putBack_0 12 rfl rfl)
theorem dX2_putBack_13 : decode cX2_putBack 13 = .ok (.getfield 19, 3) := dk_180 0 19 (dk_at dksX2_putBack_0 13 rfl rfl)
theorem dX2_putBack_16 : decode cX2_putBack 16 = .ok (.iload_n 1, 1) := dk_27 (dk_at dksX2_putBack_0 16 rfl rfl)
theorem dX2_putBack_17 : decode cX2_putBack 17 = .ok (.aload_n 0, 1) := dk_42 (dk_at dksX2_putBack_0 17 rfl rfl)
theorem dX2_putBack_18 : decode cX2_putBack 18 = .ok (.getfield 67, 3) := dk_180 0 67 (dk_at dksX2_putBack_0 18 rfl rfl)
theorem dX2_putBack_21 : decode cX2_putBack 21 = .ok (.iload_n 2, 1) := dk_28 (dk_at dksX2_putBack_0 21 rfl rfl)
theorem dX2_putBack_22 : decode cX2_putBack 22 = .ok (.iconst 1, 1) := dk_4 (dk_at dksX2_putBack_0 22 rfl rfl)
theorem dX2_putBack_23 : decode cX2_putBack 23 = .ok (.iadd, 1) := dk_96 (dk_at dksX2_putBack_0 23 rfl rfl)
theorem dX2_putBack_24 : decode cX2_putBack 24 = .ok (.iaload, 1) := dk_46 (dk_at dksX2_putBack_1 0 rfl rfl)
theorem dX2_putBack_25 : decode cX2_putBack 25 = .ok (.iastore, 1) := dk_79 (dk_at dksX2_putBack_1 1 rfl rfl)
theorem dX2_putBack_26 : decode cX2_putBack 26 = .ok (.aload_n 0, 1) := dk_42 (dk_at dksX2_putBack_1 2 rfl rfl)
theorem dX2_putBack_27 : decode cX2_putBack 27 = .ok (.getfield 22, 3) := dk_180 0 22 (dk_at dksX2_putBack_1 3 rfl rfl)
theorem dX2_putBack_30 : decode cX2_putBack 30 = .ok (.iload_n 1, 1) := dk_27 (dk_at dksX2_putBack_1 6 rfl rfl)
theorem dX2_putBack_31 : decode cX2_putBack 31 = .ok (.aload_n 0, 1) := dk_42 (dk_at dksX2_putBack_1 7 rfl rfl)
theorem dX2_putBack_32 : decode cX2_putBack 32 = .ok (.getfield 67, 3) := dk_180 0 67 (dk_at dksX2_putBack_1 8 rfl rfl)
theorem dX2_putBack_35 : decode cX2_putBack 35 = .ok (.iload_n 2, 1) := dk_28 (dk_at dksX2_putBack_1 11 rfl rfl)
theorem dX2_putBack_36 : decode cX2_putBack 36 = .ok (.iconst 2, 1) := dk_5 (dk_at dksX2_putBack_1 12 rfl rfl)
theorem dX2_putBack_37 : decode cX2_putBack 37 = .ok (.iadd, 1) := dk_96 (dk_at dksX2_putBack_1 13 rfl rfl)
theorem dX2_putBack_38 : decode cX2_putBack 38 = .ok (.iaload, 1) := dk_46 (dk_at dksX2_putBack_1 14 rfl rfl)
theorem dX2_putBack_39 : decode cX2_putBack 39 = .ok (.iastore, 1) := dk_79 (dk_at dksX2_putBack_1 15 rfl rfl)
theorem dX2_putBack_40 : decode cX2_putBack 40 = .ok (.return_, 1) := dk_177 (dk_at dksX2_putBack_1 16 rfl rfl)
abbrev cX2_log : ByteArray := prog_8_method_63_code
def yX2_log : MethodName := ⟨RX2, "log", "(IIIII)I"⟩
def dkwX2_log_10 : List UInt8 := [180, 1, 38, 21, 4, 4, 100, 21, 5, 184, 1, 31, 167, 0, 5, 16, 247, 182, 0, 99, 172]
abbrev dktX2_log_10 : List UInt8 := dkwX2_log_10 ++ []
def dkwX2_log_9 : List UInt8 := [167, 255, 209, 42, 21, 5, 156, 0, 8, 21, 8, 167, 0, 30, 21, 5, 21, 4, 4, 100, 162, 0, 19, 42]
abbrev dktX2_log_9 : List UInt8 := dkwX2_log_9 ++ dktX2_log_10
def dkwX2_log_8 : List UInt8 := [155, 0, 10, 21, 10, 21, 8, 162, 0, 13, 21, 10, 54, 8, 42, 21, 9, 181, 1, 38, 132, 9, 1]
abbrev dktX2_log_8 : List UInt8 := dkwX2_log_8 ++ dktX2_log_9
def dkwX2_log_7 : List UInt8 := [21, 7, 162, 0, 46, 42, 21, 9, 21, 4, 182, 1, 41, 54, 10, 21, 10, 155, 0, 25, 21, 8]
abbrev dktX2_log_7 : List UInt8 := dkwX2_log_7 ++ dktX2_log_8
def dkwX2_log_6 : List UInt8 := [154, 0, 9, 42, 2, 182, 0, 99, 172, 42, 16, 247, 181, 1, 38, 16, 247, 54, 8, 3, 54, 9, 21, 9]
abbrev dktX2_log_6 : List UInt8 := dkwX2_log_6 ++ dktX2_log_7
def dkwX2_log_5 : List UInt8 := [182, 0, 99, 172, 132, 8, 1, 167, 255, 182, 21, 5, 133, 20, 1, 36, 20, 0, 185, 184, 0, 105]
abbrev dktX2_log_5 : List UInt8 := dkwX2_log_5 ++ dktX2_log_6
def dkwX2_log_4 : List UInt8 := [180, 0, 70, 21, 8, 46, 133, 20, 0, 183, 20, 0, 122, 184, 0, 105, 154, 0, 10, 42, 16, 254]
abbrev dktX2_log_4 : List UInt8 := dkwX2_log_4 ++ dktX2_log_5
def dkwX2_log_3 : List UInt8 := [96, 21, 8, 96, 46, 79, 21, 7, 21, 8, 158, 0, 8, 16, 7, 167, 0, 4, 4, 104, 54, 7, 42]
abbrev dktX2_log_3 : List UInt8 := dkwX2_log_3 ++ dktX2_log_4
def dkwX2_log_2 : List UInt8 := [54, 8, 21, 8, 21, 4, 162, 0, 73, 42, 180, 0, 70, 21, 8, 42, 180, 0, 79, 16, 80, 27, 104, 29]
abbrev dktX2_log_2 : List UInt8 := dkwX2_log_2 ++ dktX2_log_3
def dkwX2_log_1 : List UInt8 := [20, 0, 103, 20, 1, 34, 184, 0, 105, 154, 0, 10, 42, 16, 254, 182, 0, 99, 172, 4, 54, 7, 3]
abbrev dktX2_log_1 : List UInt8 := dkwX2_log_1 ++ dktX2_log_2
def dkwX2_log_0 : List UInt8 := [42, 27, 28, 29, 21, 4, 133, 182, 0, 134, 54, 6, 21, 6, 156, 0, 6, 21, 6, 172, 21, 4, 133]
abbrev dktX2_log_0 : List UInt8 := dkwX2_log_0 ++ dktX2_log_1
theorem dksX2_log_0 : cX2_log.data.toList.drop 0 = dktX2_log_0 := by decide +kernel
theorem dksX2_log_1 : cX2_log.data.toList.drop 23 = dktX2_log_1 := dk_seg dksX2_log_0 23 rfl rfl
theorem dksX2_log_2 : cX2_log.data.toList.drop 46 = dktX2_log_2 := dk_seg dksX2_log_1 23 rfl rfl
theorem dksX2_log_3 : cX2_log.data.toList.drop 70 = dktX2_log_3 := dk_seg dksX2_log_2 24 rfl rfl
theorem dksX2_log_4 : cX2_log.data.toList.drop 93 = dktX2_log_4 := dk_seg dksX2_log_3 23 rfl rfl
theorem dksX2_log_5 : cX2_log.data.toList.drop 115 = dktX2_log_5 := dk_seg dksX2_log_4 22 rfl rfl
theorem dksX2_log_6 : cX2_log.data.toList.drop 137 = dktX2_log_6 := dk_seg dksX2_log_5 22 rfl rfl
theorem dksX2_log_7 : cX2_log.data.toList.drop 161 = dktX2_log_7 := dk_seg dksX2_log_6 24 rfl rfl
theorem dksX2_log_8 : cX2_log.data.toList.drop 183 = dktX2_log_8 := dk_seg dksX2_log_7 22 rfl rfl
theorem dksX2_log_9 : cX2_log.data.toList.drop 206 = dktX2_log_9 := dk_seg dksX2_log_8 23 rfl rfl
theorem dksX2_log_10 : cX2_log.data.toList.drop 230 = dktX2_log_10 := dk_seg dksX2_log_9 24 rfl rfl
theorem dX2_log_0 : decode cX2_log 0 = .ok (.aload_n 0, 1) := dk_42 (dk_at dksX2_log_0 0 rfl rfl)
theorem dX2_log_1 : decode cX2_log 1 = .ok (.iload_n 1, 1) := dk_27 (dk_at dksX2_log_0 1 rfl rfl)
theorem dX2_log_2 : decode cX2_log 2 = .ok (.iload_n 2, 1) := dk_28 (dk_at dksX2_log_0 2 rfl rfl)
theorem dX2_log_3 : decode cX2_log 3 = .ok (.iload_n 3, 1) := dk_29 (dk_at dksX2_log_0 3 rfl rfl)
theorem dX2_log_4 : decode cX2_log 4 = .ok (.iload 4, 2) := dk_21 4 (dk_at dksX2_log_0 4 rfl rfl)
theorem dX2_log_6 : decode cX2_log 6 = .ok (.i2l, 1) := dk_133 (dk_at dksX2_log_0 6 rfl rfl)
theorem dX2_log_7 : decode cX2_log 7 = .ok (.invokevirtual 134, 3) := dk_182 0 134 (dk_at dksX2_log_0 7 rfl rfl)
theorem dX2_log_10 : decode cX2_log 10 = .ok (.istore 6, 2) := dk_54 6 (dk_at dksX2_log_0 10 rfl rfl)
theorem dX2_log_12 : decode cX2_log 12 = .ok (.iload 6, 2) := dk_21 6 (dk_at dksX2_log_0 12 rfl rfl)
theorem dX2_log_14 : decode cX2_log 14 = .ok (.ifCond .ge 6, 3) := dk_156 0 6 (dk_at dksX2_log_0 14 rfl rfl)
theorem dX2_log_17 : decode cX2_log 17 = .ok (.iload 6, 2) := dk_21 6 (dk_at dksX2_log_0 17 rfl rfl)
theorem dX2_log_19 : decode cX2_log 19 = .ok (.ireturn, 1) := dk_172 (dk_at dksX2_log_0 19 rfl rfl)
theorem dX2_log_20 : decode cX2_log 20 = .ok (.iload 4, 2) := dk_21 4 (dk_at dksX2_log_0 20 rfl rfl)
theorem dX2_log_22 : decode cX2_log 22 = .ok (.i2l, 1) := dk_133 (dk_at dksX2_log_0 22 rfl rfl)
theorem dX2_log_23 : decode cX2_log 23 = .ok (.ldc2_w 103, 3) := dk_20 0 103 (dk_at dksX2_log_1 0 rfl rfl)
theorem dX2_log_26 : decode cX2_log 26 = .ok (.ldc2_w 290, 3) := dk_20 1 34 (dk_at dksX2_log_1 3 rfl rfl)
theorem dX2_log_29 : decode cX2_log 29 = .ok (.invokestatic 105, 3) := dk_184 0 105 (dk_at dksX2_log_1 6 rfl rfl)
theorem dX2_log_32 : decode cX2_log 32 = .ok (.ifCond .ne 10, 3) := dk_154 0 10 (dk_at dksX2_log_1 9 rfl rfl)
theorem dX2_log_35 : decode cX2_log 35 = .ok (.aload_n 0, 1) := dk_42 (dk_at dksX2_log_1 12 rfl rfl)
theorem dX2_log_36 : decode cX2_log 36 = .ok (.bipush (-2), 2) := dk_16 254 (dk_at dksX2_log_1 13 rfl rfl)
theorem dX2_log_38 : decode cX2_log 38 = .ok (.invokevirtual 99, 3) := dk_182 0 99 (dk_at dksX2_log_1 15 rfl rfl)
theorem dX2_log_41 : decode cX2_log 41 = .ok (.ireturn, 1) := dk_172 (dk_at dksX2_log_1 18 rfl rfl)
theorem dX2_log_42 : decode cX2_log 42 = .ok (.iconst 1, 1) := dk_4 (dk_at dksX2_log_1 19 rfl rfl)
theorem dX2_log_43 : decode cX2_log 43 = .ok (.istore 7, 2) := dk_54 7 (dk_at dksX2_log_1 20 rfl rfl)
theorem dX2_log_45 : decode cX2_log 45 = .ok (.iconst 0, 1) := dk_3 (dk_at dksX2_log_1 22 rfl rfl)
theorem dX2_log_46 : decode cX2_log 46 = .ok (.istore 8, 2) := dk_54 8 (dk_at dksX2_log_2 0 rfl rfl)
theorem dX2_log_48 : decode cX2_log 48 = .ok (.iload 8, 2) := dk_21 8 (dk_at dksX2_log_2 2 rfl rfl)
theorem dX2_log_50 : decode cX2_log 50 = .ok (.iload 4, 2) := dk_21 4 (dk_at dksX2_log_2 4 rfl rfl)
theorem dX2_log_52 : decode cX2_log 52 = .ok (.if_icmp .ge 73, 3) := dk_162 0 73 (dk_at dksX2_log_2 6 rfl rfl)
theorem dX2_log_55 : decode cX2_log 55 = .ok (.aload_n 0, 1) := dk_42 (dk_at dksX2_log_2 9 rfl rfl)
theorem dX2_log_56 : decode cX2_log 56 = .ok (.getfield 70, 3) := dk_180 0 70 (dk_at dksX2_log_2 10 rfl rfl)
theorem dX2_log_59 : decode cX2_log 59 = .ok (.iload 8, 2) := dk_21 8 (dk_at dksX2_log_2 13 rfl rfl)
theorem dX2_log_61 : decode cX2_log 61 = .ok (.aload_n 0, 1) := dk_42 (dk_at dksX2_log_2 15 rfl rfl)
theorem dX2_log_62 : decode cX2_log 62 = .ok (.getfield 79, 3) := dk_180 0 79 (dk_at dksX2_log_2 16 rfl rfl)
theorem dX2_log_65 : decode cX2_log 65 = .ok (.bipush 80, 2) := dk_16 80 (dk_at dksX2_log_2 19 rfl rfl)
theorem dX2_log_67 : decode cX2_log 67 = .ok (.iload_n 1, 1) := dk_27 (dk_at dksX2_log_2 21 rfl rfl)
theorem dX2_log_68 : decode cX2_log 68 = .ok (.imul, 1) := dk_104 (dk_at dksX2_log_2 22 rfl rfl)
theorem dX2_log_69 : decode cX2_log 69 = .ok (.iload_n 3, 1) := dk_29 (dk_at dksX2_log_2 23 rfl rfl)
theorem dX2_log_70 : decode cX2_log 70 = .ok (.iadd, 1) := dk_96 (dk_at dksX2_log_3 0 rfl rfl)
theorem dX2_log_71 : decode cX2_log 71 = .ok (.iload 8, 2) := dk_21 8 (dk_at dksX2_log_3 1 rfl rfl)
theorem dX2_log_73 : decode cX2_log 73 = .ok (.iadd, 1) := dk_96 (dk_at dksX2_log_3 3 rfl rfl)
theorem dX2_log_74 : decode cX2_log 74 = .ok (.iaload, 1) := dk_46 (dk_at dksX2_log_3 4 rfl rfl)
theorem dX2_log_75 : decode cX2_log 75 = .ok (.iastore, 1) := dk_79 (dk_at dksX2_log_3 5 rfl rfl)
theorem dX2_log_76 : decode cX2_log 76 = .ok (.iload 7, 2) := dk_21 7 (dk_at dksX2_log_3 6 rfl rfl)
theorem dX2_log_78 : decode cX2_log 78 = .ok (.iload 8, 2) := dk_21 8 (dk_at dksX2_log_3 8 rfl rfl)
theorem dX2_log_80 : decode cX2_log 80 = .ok (.ifCond .le 8, 3) := dk_158 0 8 (dk_at dksX2_log_3 10 rfl rfl)
theorem dX2_log_83 : decode cX2_log 83 = .ok (.bipush 7, 2) := dk_16 7 (dk_at dksX2_log_3 13 rfl rfl)
theorem dX2_log_85 : decode cX2_log 85 = .ok (.goto 4, 3) := dk_167 0 4 (dk_at dksX2_log_3 15 rfl rfl)
theorem dX2_log_88 : decode cX2_log 88 = .ok (.iconst 1, 1) := dk_4 (dk_at dksX2_log_3 18 rfl rfl)
theorem dX2_log_89 : decode cX2_log 89 = .ok (.imul, 1) := dk_104 (dk_at dksX2_log_3 19 rfl rfl)
theorem dX2_log_90 : decode cX2_log 90 = .ok (.istore 7, 2) := dk_54 7 (dk_at dksX2_log_3 20 rfl rfl)
theorem dX2_log_92 : decode cX2_log 92 = .ok (.aload_n 0, 1) := dk_42 (dk_at dksX2_log_3 22 rfl rfl)
theorem dX2_log_93 : decode cX2_log 93 = .ok (.getfield 70, 3) := dk_180 0 70 (dk_at dksX2_log_4 0 rfl rfl)
theorem dX2_log_96 : decode cX2_log 96 = .ok (.iload 8, 2) := dk_21 8 (dk_at dksX2_log_4 3 rfl rfl)
theorem dX2_log_98 : decode cX2_log 98 = .ok (.iaload, 1) := dk_46 (dk_at dksX2_log_4 5 rfl rfl)
theorem dX2_log_99 : decode cX2_log 99 = .ok (.i2l, 1) := dk_133 (dk_at dksX2_log_4 6 rfl rfl)
theorem dX2_log_100 : decode cX2_log 100 = .ok (.ldc2_w 183, 3) := dk_20 0 183 (dk_at dksX2_log_4 7 rfl rfl)
theorem dX2_log_103 : decode cX2_log 103 = .ok (.ldc2_w 122, 3) := dk_20 0 122 (dk_at dksX2_log_4 10 rfl rfl)
theorem dX2_log_106 : decode cX2_log 106 = .ok (.invokestatic 105, 3) := dk_184 0 105 (dk_at dksX2_log_4 13 rfl rfl)
theorem dX2_log_109 : decode cX2_log 109 = .ok (.ifCond .ne 10, 3) := dk_154 0 10 (dk_at dksX2_log_4 16 rfl rfl)
theorem dX2_log_112 : decode cX2_log 112 = .ok (.aload_n 0, 1) := dk_42 (dk_at dksX2_log_4 19 rfl rfl)
theorem dX2_log_113 : decode cX2_log 113 = .ok (.bipush (-2), 2) := dk_16 254 (dk_at dksX2_log_4 20 rfl rfl)
theorem dX2_log_115 : decode cX2_log 115 = .ok (.invokevirtual 99, 3) := dk_182 0 99 (dk_at dksX2_log_5 0 rfl rfl)
theorem dX2_log_118 : decode cX2_log 118 = .ok (.ireturn, 1) := dk_172 (dk_at dksX2_log_5 3 rfl rfl)
theorem dX2_log_119 : decode cX2_log 119 = .ok (.iinc 8 1, 3) := dk_132 8 1 (dk_at dksX2_log_5 4 rfl rfl)
theorem dX2_log_122 : decode cX2_log 122 = .ok (.goto (-74), 3) := dk_167 255 182 (dk_at dksX2_log_5 7 rfl rfl)
theorem dX2_log_125 : decode cX2_log 125 = .ok (.iload 5, 2) := dk_21 5 (dk_at dksX2_log_5 10 rfl rfl)
theorem dX2_log_127 : decode cX2_log 127 = .ok (.i2l, 1) := dk_133 (dk_at dksX2_log_5 12 rfl rfl)
theorem dX2_log_128 : decode cX2_log 128 = .ok (.ldc2_w 292, 3) := dk_20 1 36 (dk_at dksX2_log_5 13 rfl rfl)
theorem dX2_log_131 : decode cX2_log 131 = .ok (.ldc2_w 185, 3) := dk_20 0 185 (dk_at dksX2_log_5 16 rfl rfl)
theorem dX2_log_134 : decode cX2_log 134 = .ok (.invokestatic 105, 3) := dk_184 0 105 (dk_at dksX2_log_5 19 rfl rfl)
theorem dX2_log_137 : decode cX2_log 137 = .ok (.ifCond .ne 9, 3) := dk_154 0 9 (dk_at dksX2_log_6 0 rfl rfl)
theorem dX2_log_140 : decode cX2_log 140 = .ok (.aload_n 0, 1) := dk_42 (dk_at dksX2_log_6 3 rfl rfl)
theorem dX2_log_141 : decode cX2_log 141 = .ok (.iconst (-1), 1) := dk_2 (dk_at dksX2_log_6 4 rfl rfl)
theorem dX2_log_142 : decode cX2_log 142 = .ok (.invokevirtual 99, 3) := dk_182 0 99 (dk_at dksX2_log_6 5 rfl rfl)
theorem dX2_log_145 : decode cX2_log 145 = .ok (.ireturn, 1) := dk_172 (dk_at dksX2_log_6 8 rfl rfl)
theorem dX2_log_146 : decode cX2_log 146 = .ok (.aload_n 0, 1) := dk_42 (dk_at dksX2_log_6 9 rfl rfl)
theorem dX2_log_147 : decode cX2_log 147 = .ok (.bipush (-9), 2) := dk_16 247 (dk_at dksX2_log_6 10 rfl rfl)
theorem dX2_log_149 : decode cX2_log 149 = .ok (.putfield 294, 3) := dk_181 1 38 (dk_at dksX2_log_6 12 rfl rfl)
theorem dX2_log_152 : decode cX2_log 152 = .ok (.bipush (-9), 2) := dk_16 247 (dk_at dksX2_log_6 15 rfl rfl)
theorem dX2_log_154 : decode cX2_log 154 = .ok (.istore 8, 2) := dk_54 8 (dk_at dksX2_log_6 17 rfl rfl)
theorem dX2_log_156 : decode cX2_log 156 = .ok (.iconst 0, 1) := dk_3 (dk_at dksX2_log_6 19 rfl rfl)
theorem dX2_log_157 : decode cX2_log 157 = .ok (.istore 9, 2) := dk_54 9 (dk_at dksX2_log_6 20 rfl rfl)
theorem dX2_log_159 : decode cX2_log 159 = .ok (.iload 9, 2) := dk_21 9 (dk_at dksX2_log_6 22 rfl rfl)
theorem dX2_log_161 : decode cX2_log 161 = .ok (.iload 7, 2) := dk_21 7 (dk_at dksX2_log_7 0 rfl rfl)
theorem dX2_log_163 : decode cX2_log 163 = .ok (.if_icmp .ge 46, 3) := dk_162 0 46 (dk_at dksX2_log_7 2 rfl rfl)
theorem dX2_log_166 : decode cX2_log 166 = .ok (.aload_n 0, 1) := dk_42 (dk_at dksX2_log_7 5 rfl rfl)
theorem dX2_log_167 : decode cX2_log 167 = .ok (.iload 9, 2) := dk_21 9 (dk_at dksX2_log_7 6 rfl rfl)
theorem dX2_log_169 : decode cX2_log 169 = .ok (.iload 4, 2) := dk_21 4 (dk_at dksX2_log_7 8 rfl rfl)
theorem dX2_log_171 : decode cX2_log 171 = .ok (.invokevirtual 297, 3) := dk_182 1 41 (dk_at dksX2_log_7 10 rfl rfl)
theorem dX2_log_174 : decode cX2_log 174 = .ok (.istore 10, 2) := dk_54 10 (dk_at dksX2_log_7 13 rfl rfl)
theorem dX2_log_176 : decode cX2_log 176 = .ok (.iload 10, 2) := dk_21 10 (dk_at dksX2_log_7 15 rfl rfl)
theorem dX2_log_178 : decode cX2_log 178 = .ok (.ifCond .lt 25, 3) := dk_155 0 25 (dk_at dksX2_log_7 17 rfl rfl)
theorem dX2_log_181 : decode cX2_log 181 = .ok (.iload 8, 2) := dk_21 8 (dk_at dksX2_log_7 20 rfl rfl)
theorem dX2_log_183 : decode cX2_log 183 = .ok (.ifCond .lt 10, 3) := dk_155 0 10 (dk_at dksX2_log_8 0 rfl rfl)
theorem dX2_log_186 : decode cX2_log 186 = .ok (.iload 10, 2) := dk_21 10 (dk_at dksX2_log_8 3 rfl rfl)
theorem dX2_log_188 : decode cX2_log 188 = .ok (.iload 8, 2) := dk_21 8 (dk_at dksX2_log_8 5 rfl rfl)
theorem dX2_log_190 : decode cX2_log 190 = .ok (.if_icmp .ge 13, 3) := dk_162 0 13 (dk_at dksX2_log_8 7 rfl rfl)
theorem dX2_log_193 : decode cX2_log 193 = .ok (.iload 10, 2) := dk_21 10 (dk_at dksX2_log_8 10 rfl rfl)
theorem dX2_log_195 : decode cX2_log 195 = .ok (.istore 8, 2) := dk_54 8 (dk_at dksX2_log_8 12 rfl rfl)
theorem dX2_log_197 : decode cX2_log 197 = .ok (.aload_n 0, 1) := dk_42 (dk_at dksX2_log_8 14 rfl rfl)
theorem dX2_log_198 : decode cX2_log 198 = .ok (.iload 9, 2) := dk_21 9 (dk_at dksX2_log_8 15 rfl rfl)
theorem dX2_log_200 : decode cX2_log 200 = .ok (.putfield 294, 3) := dk_181 1 38 (dk_at dksX2_log_8 17 rfl rfl)
theorem dX2_log_203 : decode cX2_log 203 = .ok (.iinc 9 1, 3) := dk_132 9 1 (dk_at dksX2_log_8 20 rfl rfl)
theorem dX2_log_206 : decode cX2_log 206 = .ok (.goto (-47), 3) := dk_167 255 209 (dk_at dksX2_log_9 0 rfl rfl)
theorem dX2_log_209 : decode cX2_log 209 = .ok (.aload_n 0, 1) := dk_42 (dk_at dksX2_log_9 3 rfl rfl)
theorem dX2_log_210 : decode cX2_log 210 = .ok (.iload 5, 2) := dk_21 5 (dk_at dksX2_log_9 4 rfl rfl)
theorem dX2_log_212 : decode cX2_log 212 = .ok (.ifCond .ge 8, 3) := dk_156 0 8 (dk_at dksX2_log_9 6 rfl rfl)
theorem dX2_log_215 : decode cX2_log 215 = .ok (.iload 8, 2) := dk_21 8 (dk_at dksX2_log_9 9 rfl rfl)
theorem dX2_log_217 : decode cX2_log 217 = .ok (.goto 30, 3) := dk_167 0 30 (dk_at dksX2_log_9 11 rfl rfl)
theorem dX2_log_220 : decode cX2_log 220 = .ok (.iload 5, 2) := dk_21 5 (dk_at dksX2_log_9 14 rfl rfl)
theorem dX2_log_222 : decode cX2_log 222 = .ok (.iload 4, 2) := dk_21 4 (dk_at dksX2_log_9 16 rfl rfl)
theorem dX2_log_224 : decode cX2_log 224 = .ok (.iconst 1, 1) := dk_4 (dk_at dksX2_log_9 18 rfl rfl)
theorem dX2_log_225 : decode cX2_log 225 = .ok (.isub, 1) := dk_100 (dk_at dksX2_log_9 19 rfl rfl)
theorem dX2_log_226 : decode cX2_log 226 = .ok (.if_icmp .ge 19, 3) := dk_162 0 19 (dk_at dksX2_log_9 20 rfl rfl)
theorem dX2_log_229 : decode cX2_log 229 = .ok (.aload_n 0, 1) := dk_42 (dk_at dksX2_log_9 23 rfl rfl)
theorem dX2_log_230 : decode cX2_log 230 = .ok (.getfield 294, 3) := dk_180 1 38 (dk_at dksX2_log_10 0 rfl rfl)
theorem dX2_log_233 : decode cX2_log 233 = .ok (.iload 4, 2) := dk_21 4 (dk_at dksX2_log_10 3 rfl rfl)
theorem dX2_log_235 : decode cX2_log 235 = .ok (.iconst 1, 1) := dk_4 (dk_at dksX2_log_10 5 rfl rfl)
theorem dX2_log_236 : decode cX2_log 236 = .ok (.isub, 1) := dk_100 (dk_at dksX2_log_10 6 rfl rfl)
theorem dX2_log_237 : decode cX2_log 237 = .ok (.iload 5, 2) := dk_21 5 (dk_at dksX2_log_10 7 rfl rfl)
theorem dX2_log_239 : decode cX2_log 239 = .ok (.invokestatic 287, 3) := dk_184 1 31 (dk_at dksX2_log_10 9 rfl rfl)
theorem dX2_log_242 : decode cX2_log 242 = .ok (.goto 5, 3) := dk_167 0 5 (dk_at dksX2_log_10 12 rfl rfl)
theorem dX2_log_245 : decode cX2_log 245 = .ok (.bipush (-9), 2) := dk_16 247 (dk_at dksX2_log_10 15 rfl rfl)
theorem dX2_log_247 : decode cX2_log 247 = .ok (.invokevirtual 99, 3) := dk_182 0 99 (dk_at dksX2_log_10 17 rfl rfl)
theorem dX2_log_250 : decode cX2_log 250 = .ok (.ireturn, 1) := dk_172 (dk_at dksX2_log_10 20 rfl rfl)
abbrev cX2_costOfOrder : ByteArray := prog_8_method_62_code
def yX2_costOfOrder : MethodName := ⟨RX2, "costOfOrder", "(II)I"⟩
def dkwX2_costOfOrder_7 : List UInt8 := [132, 5, 1, 167, 255, 100, 21, 4, 172]
abbrev dktX2_costOfOrder_7 : List UInt8 := dkwX2_costOfOrder_7 ++ []
def dkwX2_costOfOrder_6 : List UInt8 := [132, 8, 1, 167, 255, 215, 21, 4, 21, 7, 184, 0, 207, 96, 54, 4, 29, 4, 21, 6, 120, 128, 62]
abbrev dktX2_costOfOrder_6 : List UInt8 := dkwX2_costOfOrder_6 ++ dktX2_costOfOrder_7
def dkwX2_costOfOrder_5 : List UInt8 := [29, 21, 8, 4, 100, 122, 4, 126, 154, 0, 21, 21, 7, 42, 180, 0, 70, 21, 8, 46, 100, 54, 7]
abbrev dktX2_costOfOrder_5 : List UInt8 := dkwX2_costOfOrder_5 ++ dktX2_costOfOrder_6
def dkwX2_costOfOrder_4 : List UInt8 := [167, 255, 220, 21, 6, 4, 96, 54, 8, 21, 8, 28, 162, 0, 41, 21, 8, 21, 6, 4, 96, 159, 0, 14]
abbrev dktX2_costOfOrder_4 : List UInt8 := dkwX2_costOfOrder_4 ++ dktX2_costOfOrder_5
def dkwX2_costOfOrder_3 : List UInt8 := [21, 8, 122, 4, 126, 154, 0, 21, 21, 7, 42, 180, 0, 70, 21, 8, 46, 96, 54, 7, 132, 8, 255]
abbrev dktX2_costOfOrder_3 : List UInt8 := dkwX2_costOfOrder_3 ++ dktX2_costOfOrder_4
def dkwX2_costOfOrder_2 : List UInt8 := [16, 247, 172, 3, 54, 7, 21, 6, 54, 8, 21, 8, 155, 0, 37, 21, 8, 21, 6, 159, 0, 12, 29]
abbrev dktX2_costOfOrder_2 : List UInt8 := dkwX2_costOfOrder_2 ++ dktX2_costOfOrder_3
def dkwX2_costOfOrder_1 : List UInt8 := [184, 1, 31, 54, 6, 21, 6, 28, 5, 100, 163, 0, 13, 29, 21, 6, 122, 4, 126, 4, 160, 0, 6]
abbrev dktX2_costOfOrder_1 : List UInt8 := dkwX2_costOfOrder_1 ++ dktX2_costOfOrder_2
def dkwX2_costOfOrder_0 : List UInt8 := [3, 62, 3, 54, 4, 3, 54, 5, 21, 5, 28, 4, 100, 162, 0, 154, 27, 28, 4, 100, 21, 5]
abbrev dktX2_costOfOrder_0 : List UInt8 := dkwX2_costOfOrder_0 ++ dktX2_costOfOrder_1
theorem dksX2_costOfOrder_0 : cX2_costOfOrder.data.toList.drop 0 = dktX2_costOfOrder_0 := by decide +kernel
theorem dksX2_costOfOrder_1 : cX2_costOfOrder.data.toList.drop 22 = dktX2_costOfOrder_1 := dk_seg dksX2_costOfOrder_0 22 rfl rfl
theorem dksX2_costOfOrder_2 : cX2_costOfOrder.data.toList.drop 45 = dktX2_costOfOrder_2 := dk_seg dksX2_costOfOrder_1 23 rfl rfl
theorem dksX2_costOfOrder_3 : cX2_costOfOrder.data.toList.drop 68 = dktX2_costOfOrder_3 := dk_seg dksX2_costOfOrder_2 23 rfl rfl
theorem dksX2_costOfOrder_4 : cX2_costOfOrder.data.toList.drop 91 = dktX2_costOfOrder_4 := dk_seg dksX2_costOfOrder_3 23 rfl rfl
theorem dksX2_costOfOrder_5 : cX2_costOfOrder.data.toList.drop 115 = dktX2_costOfOrder_5 := dk_seg dksX2_costOfOrder_4 24 rfl rfl
theorem dksX2_costOfOrder_6 : cX2_costOfOrder.data.toList.drop 138 = dktX2_costOfOrder_6 := dk_seg dksX2_costOfOrder_5 23 rfl rfl
theorem dksX2_costOfOrder_7 : cX2_costOfOrder.data.toList.drop 161 = dktX2_costOfOrder_7 := dk_seg dksX2_costOfOrder_6 23 rfl rfl
theorem dX2_costOfOrder_0 : decode cX2_costOfOrder 0 = .ok (.iconst 0, 1) := dk_3 (dk_at dksX2_costOfOrder_0 0 rfl rfl)
theorem dX2_costOfOrder_1 : decode cX2_costOfOrder 1 = .ok (.istore_n 3, 1) := dk_62 (dk_at dksX2_costOfOrder_0 1 rfl rfl)
theorem dX2_costOfOrder_2 : decode cX2_costOfOrder 2 = .ok (.iconst 0, 1) := dk_3 (dk_at dksX2_costOfOrder_0 2 rfl rfl)
theorem dX2_costOfOrder_3 : decode cX2_costOfOrder 3 = .ok (.istore 4, 2) := dk_54 4 (dk_at dksX2_costOfOrder_0 3 rfl rfl)
theorem dX2_costOfOrder_5 : decode cX2_costOfOrder 5 = .ok (.iconst 0, 1) := dk_3 (dk_at dksX2_costOfOrder_0 5 rfl rfl)
theorem dX2_costOfOrder_6 : decode cX2_costOfOrder 6 = .ok (.istore 5, 2) := dk_54 5 (dk_at dksX2_costOfOrder_0 6 rfl rfl)
theorem dX2_costOfOrder_8 : decode cX2_costOfOrder 8 = .ok (.iload 5, 2) := dk_21 5 (dk_at dksX2_costOfOrder_0 8 rfl rfl)
theorem dX2_costOfOrder_10 : decode cX2_costOfOrder 10 = .ok (.iload_n 2, 1) := dk_28 (dk_at dksX2_costOfOrder_0 10 rfl rfl)
theorem dX2_costOfOrder_11 : decode cX2_costOfOrder 11 = .ok (.iconst 1, 1) := dk_4 (dk_at dksX2_costOfOrder_0 11 rfl rfl)
theorem dX2_costOfOrder_12 : decode cX2_costOfOrder 12 = .ok (.isub, 1) := dk_100 (dk_at dksX2_costOfOrder_0 12 rfl rfl)
theorem dX2_costOfOrder_13 : decode cX2_costOfOrder 13 = .ok (.if_icmp .ge 154, 3) := dk_162 0 154 (dk_at dksX2_costOfOrder_0 13 rfl rfl)
theorem dX2_costOfOrder_16 : decode cX2_costOfOrder 16 = .ok (.iload_n 1, 1) := dk_27 (dk_at dksX2_costOfOrder_0 16 rfl rfl)
theorem dX2_costOfOrder_17 : decode cX2_costOfOrder 17 = .ok (.iload_n 2, 1) := dk_28 (dk_at dksX2_costOfOrder_0 17 rfl rfl)
theorem dX2_costOfOrder_18 : decode cX2_costOfOrder 18 = .ok (.iconst 1, 1) := dk_4 (dk_at dksX2_costOfOrder_0 18 rfl rfl)
theorem dX2_costOfOrder_19 : decode cX2_costOfOrder 19 = .ok (.isub, 1) := dk_100 (dk_at dksX2_costOfOrder_0 19 rfl rfl)
theorem dX2_costOfOrder_20 : decode cX2_costOfOrder 20 = .ok (.iload 5, 2) := dk_21 5 (dk_at dksX2_costOfOrder_0 20 rfl rfl)
theorem dX2_costOfOrder_22 : decode cX2_costOfOrder 22 = .ok (.invokestatic 287, 3) := dk_184 1 31 (dk_at dksX2_costOfOrder_1 0 rfl rfl)
theorem dX2_costOfOrder_25 : decode cX2_costOfOrder 25 = .ok (.istore 6, 2) := dk_54 6 (dk_at dksX2_costOfOrder_1 3 rfl rfl)
theorem dX2_costOfOrder_27 : decode cX2_costOfOrder 27 = .ok (.iload 6, 2) := dk_21 6 (dk_at dksX2_costOfOrder_1 5 rfl rfl)
theorem dX2_costOfOrder_29 : decode cX2_costOfOrder 29 = .ok (.iload_n 2, 1) := dk_28 (dk_at dksX2_costOfOrder_1 7 rfl rfl)
theorem dX2_costOfOrder_30 : decode cX2_costOfOrder 30 = .ok (.iconst 2, 1) := dk_5 (dk_at dksX2_costOfOrder_1 8 rfl rfl)
theorem dX2_costOfOrder_31 : decode cX2_costOfOrder 31 = .ok (.isub, 1) := dk_100 (dk_at dksX2_costOfOrder_1 9 rfl rfl)
theorem dX2_costOfOrder_32 : decode cX2_costOfOrder 32 = .ok (.if_icmp .gt 13, 3) := dk_163 0 13 (dk_at dksX2_costOfOrder_1 10 rfl rfl)
theorem dX2_costOfOrder_35 : decode cX2_costOfOrder 35 = .ok (.iload_n 3, 1) := dk_29 (dk_at dksX2_costOfOrder_1 13 rfl rfl)
theorem dX2_costOfOrder_36 : decode cX2_costOfOrder 36 = .ok (.iload 6, 2) := dk_21 6 (dk_at dksX2_costOfOrder_1 14 rfl rfl)
theorem dX2_costOfOrder_38 : decode cX2_costOfOrder 38 = .ok (.ishr, 1) := dk_122 (dk_at dksX2_costOfOrder_1 16 rfl rfl)
theorem dX2_costOfOrder_39 : decode cX2_costOfOrder 39 = .ok (.iconst 1, 1) := dk_4 (dk_at dksX2_costOfOrder_1 17 rfl rfl)
theorem dX2_costOfOrder_40 : decode cX2_costOfOrder 40 = .ok (.iand, 1) := dk_126 (dk_at dksX2_costOfOrder_1 18 rfl rfl)
theorem dX2_costOfOrder_41 : decode cX2_costOfOrder 41 = .ok (.iconst 1, 1) := dk_4 (dk_at dksX2_costOfOrder_1 19 rfl rfl)
theorem dX2_costOfOrder_42 : decode cX2_costOfOrder 42 = .ok (.if_icmp .ne 6, 3) := dk_160 0 6 (dk_at dksX2_costOfOrder_1 20 rfl rfl)
theorem dX2_costOfOrder_45 : decode cX2_costOfOrder 45 = .ok (.bipush (-9), 2) := dk_16 247 (dk_at dksX2_costOfOrder_2 0 rfl rfl)
theorem dX2_costOfOrder_47 : decode cX2_costOfOrder 47 = .ok (.ireturn, 1) := dk_172 (dk_at dksX2_costOfOrder_2 2 rfl rfl)
theorem dX2_costOfOrder_48 : decode cX2_costOfOrder 48 = .ok (.iconst 0, 1) := dk_3 (dk_at dksX2_costOfOrder_2 3 rfl rfl)
theorem dX2_costOfOrder_49 : decode cX2_costOfOrder 49 = .ok (.istore 7, 2) := dk_54 7 (dk_at dksX2_costOfOrder_2 4 rfl rfl)
theorem dX2_costOfOrder_51 : decode cX2_costOfOrder 51 = .ok (.iload 6, 2) := dk_21 6 (dk_at dksX2_costOfOrder_2 6 rfl rfl)
theorem dX2_costOfOrder_53 : decode cX2_costOfOrder 53 = .ok (.istore 8, 2) := dk_54 8 (dk_at dksX2_costOfOrder_2 8 rfl rfl)
theorem dX2_costOfOrder_55 : decode cX2_costOfOrder 55 = .ok (.iload 8, 2) := dk_21 8 (dk_at dksX2_costOfOrder_2 10 rfl rfl)
theorem dX2_costOfOrder_57 : decode cX2_costOfOrder 57 = .ok (.ifCond .lt 37, 3) := dk_155 0 37 (dk_at dksX2_costOfOrder_2 12 rfl rfl)
theorem dX2_costOfOrder_60 : decode cX2_costOfOrder 60 = .ok (.iload 8, 2) := dk_21 8 (dk_at dksX2_costOfOrder_2 15 rfl rfl)
theorem dX2_costOfOrder_62 : decode cX2_costOfOrder 62 = .ok (.iload 6, 2) := dk_21 6 (dk_at dksX2_costOfOrder_2 17 rfl rfl)
theorem dX2_costOfOrder_64 : decode cX2_costOfOrder 64 = .ok (.if_icmp .eq 12, 3) := dk_159 0 12 (dk_at dksX2_costOfOrder_2 19 rfl rfl)
theorem dX2_costOfOrder_67 : decode cX2_costOfOrder 67 = .ok (.iload_n 3, 1) := dk_29 (dk_at dksX2_costOfOrder_2 22 rfl rfl)
theorem dX2_costOfOrder_68 : decode cX2_costOfOrder 68 = .ok (.iload 8, 2) := dk_21 8 (dk_at dksX2_costOfOrder_3 0 rfl rfl)
theorem dX2_costOfOrder_70 : decode cX2_costOfOrder 70 = .ok (.ishr, 1) := dk_122 (dk_at dksX2_costOfOrder_3 2 rfl rfl)
theorem dX2_costOfOrder_71 : decode cX2_costOfOrder 71 = .ok (.iconst 1, 1) := dk_4 (dk_at dksX2_costOfOrder_3 3 rfl rfl)
theorem dX2_costOfOrder_72 : decode cX2_costOfOrder 72 = .ok (.iand, 1) := dk_126 (dk_at dksX2_costOfOrder_3 4 rfl rfl)
theorem dX2_costOfOrder_73 : decode cX2_costOfOrder 73 = .ok (.ifCond .ne 21, 3) := dk_154 0 21 (dk_at dksX2_costOfOrder_3 5 rfl rfl)
theorem dX2_costOfOrder_76 : decode cX2_costOfOrder 76 = .ok (.iload 7, 2) := dk_21 7 (dk_at dksX2_costOfOrder_3 8 rfl rfl)
theorem dX2_costOfOrder_78 : decode cX2_costOfOrder 78 = .ok (.aload_n 0, 1) := dk_42 (dk_at dksX2_costOfOrder_3 10 rfl rfl)
theorem dX2_costOfOrder_79 : decode cX2_costOfOrder 79 = .ok (.getfield 70, 3) := dk_180 0 70 (dk_at dksX2_costOfOrder_3 11 rfl rfl)
theorem dX2_costOfOrder_82 : decode cX2_costOfOrder 82 = .ok (.iload 8, 2) := dk_21 8 (dk_at dksX2_costOfOrder_3 14 rfl rfl)
theorem dX2_costOfOrder_84 : decode cX2_costOfOrder 84 = .ok (.iaload, 1) := dk_46 (dk_at dksX2_costOfOrder_3 16 rfl rfl)
theorem dX2_costOfOrder_85 : decode cX2_costOfOrder 85 = .ok (.iadd, 1) := dk_96 (dk_at dksX2_costOfOrder_3 17 rfl rfl)
theorem dX2_costOfOrder_86 : decode cX2_costOfOrder 86 = .ok (.istore 7, 2) := dk_54 7 (dk_at dksX2_costOfOrder_3 18 rfl rfl)
theorem dX2_costOfOrder_88 : decode cX2_costOfOrder 88 = .ok (.iinc 8 (-1), 3) := dk_132 8 255 (dk_at dksX2_costOfOrder_3 20 rfl rfl)
theorem dX2_costOfOrder_91 : decode cX2_costOfOrder 91 = .ok (.goto (-36), 3) := dk_167 255 220 (dk_at dksX2_costOfOrder_4 0 rfl rfl)
theorem dX2_costOfOrder_94 : decode cX2_costOfOrder 94 = .ok (.iload 6, 2) := dk_21 6 (dk_at dksX2_costOfOrder_4 3 rfl rfl)
theorem dX2_costOfOrder_96 : decode cX2_costOfOrder 96 = .ok (.iconst 1, 1) := dk_4 (dk_at dksX2_costOfOrder_4 5 rfl rfl)
theorem dX2_costOfOrder_97 : decode cX2_costOfOrder 97 = .ok (.iadd, 1) := dk_96 (dk_at dksX2_costOfOrder_4 6 rfl rfl)
theorem dX2_costOfOrder_98 : decode cX2_costOfOrder 98 = .ok (.istore 8, 2) := dk_54 8 (dk_at dksX2_costOfOrder_4 7 rfl rfl)
theorem dX2_costOfOrder_100 : decode cX2_costOfOrder 100 = .ok (.iload 8, 2) := dk_21 8 (dk_at dksX2_costOfOrder_4 9 rfl rfl)
theorem dX2_costOfOrder_102 : decode cX2_costOfOrder 102 = .ok (.iload_n 2, 1) := dk_28 (dk_at dksX2_costOfOrder_4 11 rfl rfl)
theorem dX2_costOfOrder_103 : decode cX2_costOfOrder 103 = .ok (.if_icmp .ge 41, 3) := dk_162 0 41 (dk_at dksX2_costOfOrder_4 12 rfl rfl)
theorem dX2_costOfOrder_106 : decode cX2_costOfOrder 106 = .ok (.iload 8, 2) := dk_21 8 (dk_at dksX2_costOfOrder_4 15 rfl rfl)
theorem dX2_costOfOrder_108 : decode cX2_costOfOrder 108 = .ok (.iload 6, 2) := dk_21 6 (dk_at dksX2_costOfOrder_4 17 rfl rfl)
theorem dX2_costOfOrder_110 : decode cX2_costOfOrder 110 = .ok (.iconst 1, 1) := dk_4 (dk_at dksX2_costOfOrder_4 19 rfl rfl)
theorem dX2_costOfOrder_111 : decode cX2_costOfOrder 111 = .ok (.iadd, 1) := dk_96 (dk_at dksX2_costOfOrder_4 20 rfl rfl)
theorem dX2_costOfOrder_112 : decode cX2_costOfOrder 112 = .ok (.if_icmp .eq 14, 3) := dk_159 0 14 (dk_at dksX2_costOfOrder_4 21 rfl rfl)
theorem dX2_costOfOrder_115 : decode cX2_costOfOrder 115 = .ok (.iload_n 3, 1) := dk_29 (dk_at dksX2_costOfOrder_5 0 rfl rfl)
theorem dX2_costOfOrder_116 : decode cX2_costOfOrder 116 = .ok (.iload 8, 2) := dk_21 8 (dk_at dksX2_costOfOrder_5 1 rfl rfl)
theorem dX2_costOfOrder_118 : decode cX2_costOfOrder 118 = .ok (.iconst 1, 1) := dk_4 (dk_at dksX2_costOfOrder_5 3 rfl rfl)
theorem dX2_costOfOrder_119 : decode cX2_costOfOrder 119 = .ok (.isub, 1) := dk_100 (dk_at dksX2_costOfOrder_5 4 rfl rfl)
theorem dX2_costOfOrder_120 : decode cX2_costOfOrder 120 = .ok (.ishr, 1) := dk_122 (dk_at dksX2_costOfOrder_5 5 rfl rfl)
theorem dX2_costOfOrder_121 : decode cX2_costOfOrder 121 = .ok (.iconst 1, 1) := dk_4 (dk_at dksX2_costOfOrder_5 6 rfl rfl)
theorem dX2_costOfOrder_122 : decode cX2_costOfOrder 122 = .ok (.iand, 1) := dk_126 (dk_at dksX2_costOfOrder_5 7 rfl rfl)
theorem dX2_costOfOrder_123 : decode cX2_costOfOrder 123 = .ok (.ifCond .ne 21, 3) := dk_154 0 21 (dk_at dksX2_costOfOrder_5 8 rfl rfl)
theorem dX2_costOfOrder_126 : decode cX2_costOfOrder 126 = .ok (.iload 7, 2) := dk_21 7 (dk_at dksX2_costOfOrder_5 11 rfl rfl)
theorem dX2_costOfOrder_128 : decode cX2_costOfOrder 128 = .ok (.aload_n 0, 1) := dk_42 (dk_at dksX2_costOfOrder_5 13 rfl rfl)
theorem dX2_costOfOrder_129 : decode cX2_costOfOrder 129 = .ok (.getfield 70, 3) := dk_180 0 70 (dk_at dksX2_costOfOrder_5 14 rfl rfl)
theorem dX2_costOfOrder_132 : decode cX2_costOfOrder 132 = .ok (.iload 8, 2) := dk_21 8 (dk_at dksX2_costOfOrder_5 17 rfl rfl)
theorem dX2_costOfOrder_134 : decode cX2_costOfOrder 134 = .ok (.iaload, 1) := dk_46 (dk_at dksX2_costOfOrder_5 19 rfl rfl)
theorem dX2_costOfOrder_135 : decode cX2_costOfOrder 135 = .ok (.isub, 1) := dk_100 (dk_at dksX2_costOfOrder_5 20 rfl rfl)
theorem dX2_costOfOrder_136 : decode cX2_costOfOrder 136 = .ok (.istore 7, 2) := dk_54 7 (dk_at dksX2_costOfOrder_5 21 rfl rfl)
theorem dX2_costOfOrder_138 : decode cX2_costOfOrder 138 = .ok (.iinc 8 1, 3) := dk_132 8 1 (dk_at dksX2_costOfOrder_6 0 rfl rfl)
theorem dX2_costOfOrder_141 : decode cX2_costOfOrder 141 = .ok (.goto (-41), 3) := dk_167 255 215 (dk_at dksX2_costOfOrder_6 3 rfl rfl)
theorem dX2_costOfOrder_144 : decode cX2_costOfOrder 144 = .ok (.iload 4, 2) := dk_21 4 (dk_at dksX2_costOfOrder_6 6 rfl rfl)
theorem dX2_costOfOrder_146 : decode cX2_costOfOrder 146 = .ok (.iload 7, 2) := dk_21 7 (dk_at dksX2_costOfOrder_6 8 rfl rfl)
theorem dX2_costOfOrder_148 : decode cX2_costOfOrder 148 = .ok (.invokestatic 207, 3) := dk_184 0 207 (dk_at dksX2_costOfOrder_6 10 rfl rfl)
theorem dX2_costOfOrder_151 : decode cX2_costOfOrder 151 = .ok (.iadd, 1) := dk_96 (dk_at dksX2_costOfOrder_6 13 rfl rfl)
theorem dX2_costOfOrder_152 : decode cX2_costOfOrder 152 = .ok (.istore 4, 2) := dk_54 4 (dk_at dksX2_costOfOrder_6 14 rfl rfl)
theorem dX2_costOfOrder_154 : decode cX2_costOfOrder 154 = .ok (.iload_n 3, 1) := dk_29 (dk_at dksX2_costOfOrder_6 16 rfl rfl)
theorem dX2_costOfOrder_155 : decode cX2_costOfOrder 155 = .ok (.iconst 1, 1) := dk_4 (dk_at dksX2_costOfOrder_6 17 rfl rfl)
theorem dX2_costOfOrder_156 : decode cX2_costOfOrder 156 = .ok (.iload 6, 2) := dk_21 6 (dk_at dksX2_costOfOrder_6 18 rfl rfl)
theorem dX2_costOfOrder_158 : decode cX2_costOfOrder 158 = .ok (.ishl, 1) := dk_120 (dk_at dksX2_costOfOrder_6 20 rfl rfl)
theorem dX2_costOfOrder_159 : decode cX2_costOfOrder 159 = .ok (.ior, 1) := dk_128 (dk_at dksX2_costOfOrder_6 21 rfl rfl)
theorem dX2_costOfOrder_160 : decode cX2_costOfOrder 160 = .ok (.istore_n 3, 1) := dk_62 (dk_at dksX2_costOfOrder_6 22 rfl rfl)
theorem dX2_costOfOrder_161 : decode cX2_costOfOrder 161 = .ok (.iinc 5 1, 3) := dk_132 5 1 (dk_at dksX2_costOfOrder_7 0 rfl rfl)
theorem dX2_costOfOrder_164 : decode cX2_costOfOrder 164 = .ok (.goto (-156), 3) := dk_167 255 100 (dk_at dksX2_costOfOrder_7 3 rfl rfl)
theorem dX2_costOfOrder_167 : decode cX2_costOfOrder 167 = .ok (.iload 4, 2) := dk_21 4 (dk_at dksX2_costOfOrder_7 6 rfl rfl)
theorem dX2_costOfOrder_169 : decode cX2_costOfOrder 169 = .ok (.ireturn, 1) := dk_172 (dk_at dksX2_costOfOrder_7 8 rfl rfl)
abbrev cX2_cutIn : ByteArray := prog_8_method_61_code
def yX2_cutIn : MethodName := ⟨RX2, "cutIn", "(III)I"⟩
def dkwX2_cutIn_1 : List UInt8 := [29, 16, 7, 112, 172]
abbrev dktX2_cutIn_1 : List UInt8 := dkwX2_cutIn_1 ++ []
def dkwX2_cutIn_0 : List UInt8 := [26, 62, 27, 4, 100, 54, 4, 21, 4, 28, 164, 0, 14, 29, 16, 7, 108, 62, 132, 4, 255, 167, 255, 242]
abbrev dktX2_cutIn_0 : List UInt8 := dkwX2_cutIn_0 ++ dktX2_cutIn_1
theorem dksX2_cutIn_0 : cX2_cutIn.data.toList.drop 0 = dktX2_cutIn_0 := by decide +kernel
theorem dksX2_cutIn_1 : cX2_cutIn.data.toList.drop 24 = dktX2_cutIn_1 := dk_seg dksX2_cutIn_0 24 rfl rfl
theorem dX2_cutIn_0 : decode cX2_cutIn 0 = .ok (.iload_n 0, 1) := dk_26 (dk_at dksX2_cutIn_0 0 rfl rfl)
theorem dX2_cutIn_1 : decode cX2_cutIn 1 = .ok (.istore_n 3, 1) := dk_62 (dk_at dksX2_cutIn_0 1 rfl rfl)
theorem dX2_cutIn_2 : decode cX2_cutIn 2 = .ok (.iload_n 1, 1) := dk_27 (dk_at dksX2_cutIn_0 2 rfl rfl)
theorem dX2_cutIn_3 : decode cX2_cutIn 3 = .ok (.iconst 1, 1) := dk_4 (dk_at dksX2_cutIn_0 3 rfl rfl)
theorem dX2_cutIn_4 : decode cX2_cutIn 4 = .ok (.isub, 1) := dk_100 (dk_at dksX2_cutIn_0 4 rfl rfl)
theorem dX2_cutIn_5 : decode cX2_cutIn 5 = .ok (.istore 4, 2) := dk_54 4 (dk_at dksX2_cutIn_0 5 rfl rfl)
theorem dX2_cutIn_7 : decode cX2_cutIn 7 = .ok (.iload 4, 2) := dk_21 4 (dk_at dksX2_cutIn_0 7 rfl rfl)
theorem dX2_cutIn_9 : decode cX2_cutIn 9 = .ok (.iload_n 2, 1) := dk_28 (dk_at dksX2_cutIn_0 9 rfl rfl)
theorem dX2_cutIn_10 : decode cX2_cutIn 10 = .ok (.if_icmp .le 14, 3) := dk_164 0 14 (dk_at dksX2_cutIn_0 10 rfl rfl)
theorem dX2_cutIn_13 : decode cX2_cutIn 13 = .ok (.iload_n 3, 1) := dk_29 (dk_at dksX2_cutIn_0 13 rfl rfl)
theorem dX2_cutIn_14 : decode cX2_cutIn 14 = .ok (.bipush 7, 2) := dk_16 7 (dk_at dksX2_cutIn_0 14 rfl rfl)
theorem dX2_cutIn_16 : decode cX2_cutIn 16 = .ok (.idiv, 1) := dk_108 (dk_at dksX2_cutIn_0 16 rfl rfl)
theorem dX2_cutIn_17 : decode cX2_cutIn 17 = .ok (.istore_n 3, 1) := dk_62 (dk_at dksX2_cutIn_0 17 rfl rfl)
theorem dX2_cutIn_18 : decode cX2_cutIn 18 = .ok (.iinc 4 (-1), 3) := dk_132 4 255 (dk_at dksX2_cutIn_0 18 rfl rfl)
theorem dX2_cutIn_21 : decode cX2_cutIn 21 = .ok (.goto (-14), 3) := dk_167 255 242 (dk_at dksX2_cutIn_0 21 rfl rfl)
theorem dX2_cutIn_24 : decode cX2_cutIn 24 = .ok (.iload_n 3, 1) := dk_29 (dk_at dksX2_cutIn_1 0 rfl rfl)
theorem dX2_cutIn_25 : decode cX2_cutIn 25 = .ok (.bipush 7, 2) := dk_16 7 (dk_at dksX2_cutIn_1 1 rfl rfl)
theorem dX2_cutIn_27 : decode cX2_cutIn 27 = .ok (.irem, 1) := dk_112 (dk_at dksX2_cutIn_1 3 rfl rfl)
theorem dX2_cutIn_28 : decode cX2_cutIn 28 = .ok (.ireturn, 1) := dk_172 (dk_at dksX2_cutIn_1 4 rfl rfl)
abbrev cX2_sheet : ByteArray := prog_8_method_65_code
def yX2_sheet : MethodName := ⟨RX2, "sheet", "(III)I"⟩
def dkwX2_sheet_4 : List UInt8 := [182, 0, 99, 172]
abbrev dktX2_sheet_4 : List UInt8 := dkwX2_sheet_4 ++ []
def dkwX2_sheet_3 : List UInt8 := [162, 0, 22, 42, 180, 0, 79, 16, 80, 27, 104, 21, 4, 96, 3, 79, 132, 4, 1, 167, 255, 234, 42, 4]
abbrev dktX2_sheet_3 : List UInt8 := dkwX2_sheet_3 ++ dktX2_sheet_4
def dkwX2_sheet_2 : List UInt8 := [182, 0, 109, 172, 42, 180, 0, 73, 27, 29, 79, 42, 180, 0, 76, 27, 28, 79, 3, 54, 4, 21, 4, 29]
abbrev dktX2_sheet_2 : List UInt8 := dkwX2_sheet_2 ++ dktX2_sheet_3
def dkwX2_sheet_1 : List UInt8 := [153, 0, 9, 29, 16, 80, 164, 0, 10, 42, 16, 254, 182, 0, 99, 172, 29, 156, 0, 9, 42, 7]
abbrev dktX2_sheet_1 : List UInt8 := dkwX2_sheet_1 ++ dktX2_sheet_2
def dkwX2_sheet_0 : List UInt8 := [27, 184, 0, 95, 153, 0, 9, 42, 2, 182, 0, 99, 172, 28, 133, 9, 20, 0, 103, 184, 0, 105]
abbrev dktX2_sheet_0 : List UInt8 := dkwX2_sheet_0 ++ dktX2_sheet_1
theorem dksX2_sheet_0 : cX2_sheet.data.toList.drop 0 = dktX2_sheet_0 := by decide +kernel
theorem dksX2_sheet_1 : cX2_sheet.data.toList.drop 22 = dktX2_sheet_1 := dk_seg dksX2_sheet_0 22 rfl rfl
theorem dksX2_sheet_2 : cX2_sheet.data.toList.drop 44 = dktX2_sheet_2 := dk_seg dksX2_sheet_1 22 rfl rfl
theorem dksX2_sheet_3 : cX2_sheet.data.toList.drop 68 = dktX2_sheet_3 := dk_seg dksX2_sheet_2 24 rfl rfl
theorem dksX2_sheet_4 : cX2_sheet.data.toList.drop 92 = dktX2_sheet_4 := dk_seg dksX2_sheet_3 24 rfl rfl
theorem dX2_sheet_0 : decode cX2_sheet 0 = .ok (.iload_n 1, 1) := dk_27 (dk_at dksX2_sheet_0 0 rfl rfl)
theorem dX2_sheet_1 : decode cX2_sheet 1 = .ok (.invokestatic 95, 3) := dk_184 0 95 (dk_at dksX2_sheet_0 1 rfl rfl)
theorem dX2_sheet_4 : decode cX2_sheet 4 = .ok (.ifCond .eq 9, 3) := dk_153 0 9 (dk_at dksX2_sheet_0 4 rfl rfl)
theorem dX2_sheet_7 : decode cX2_sheet 7 = .ok (.aload_n 0, 1) := dk_42 (dk_at dksX2_sheet_0 7 rfl rfl)
theorem dX2_sheet_8 : decode cX2_sheet 8 = .ok (.iconst (-1), 1) := dk_2 (dk_at dksX2_sheet_0 8 rfl rfl)
theorem dX2_sheet_9 : decode cX2_sheet 9 = .ok (.invokevirtual 99, 3) := dk_182 0 99 (dk_at dksX2_sheet_0 9 rfl rfl)
theorem dX2_sheet_12 : decode cX2_sheet 12 = .ok (.ireturn, 1) := dk_172 (dk_at dksX2_sheet_0 12 rfl rfl)
theorem dX2_sheet_13 : decode cX2_sheet 13 = .ok (.iload_n 2, 1) := dk_28 (dk_at dksX2_sheet_0 13 rfl rfl)
theorem dX2_sheet_14 : decode cX2_sheet 14 = .ok (.i2l, 1) := dk_133 (dk_at dksX2_sheet_0 14 rfl rfl)
theorem dX2_sheet_15 : decode cX2_sheet 15 = .ok (.lconst 0, 1) := dk_9 (dk_at dksX2_sheet_0 15 rfl rfl)
theorem dX2_sheet_16 : decode cX2_sheet 16 = .ok (.ldc2_w 103, 3) := dk_20 0 103 (dk_at dksX2_sheet_0 16 rfl rfl)
theorem dX2_sheet_19 : decode cX2_sheet 19 = .ok (.invokestatic 105, 3) := dk_184 0 105 (dk_at dksX2_sheet_0 19 rfl rfl)
theorem dX2_sheet_22 : decode cX2_sheet 22 = .ok (.ifCond .eq 9, 3) := dk_153 0 9 (dk_at dksX2_sheet_1 0 rfl rfl)
theorem dX2_sheet_25 : decode cX2_sheet 25 = .ok (.iload_n 3, 1) := dk_29 (dk_at dksX2_sheet_1 3 rfl rfl)
theorem dX2_sheet_26 : decode cX2_sheet 26 = .ok (.bipush 80, 2) := dk_16 80 (dk_at dksX2_sheet_1 4 rfl rfl)
theorem dX2_sheet_28 : decode cX2_sheet 28 = .ok (.if_icmp .le 10, 3) := dk_164 0 10 (dk_at dksX2_sheet_1 6 rfl rfl)
theorem dX2_sheet_31 : decode cX2_sheet 31 = .ok (.aload_n 0, 1) := dk_42 (dk_at dksX2_sheet_1 9 rfl rfl)
theorem dX2_sheet_32 : decode cX2_sheet 32 = .ok (.bipush (-2), 2) := dk_16 254 (dk_at dksX2_sheet_1 10 rfl rfl)
theorem dX2_sheet_34 : decode cX2_sheet 34 = .ok (.invokevirtual 99, 3) := dk_182 0 99 (dk_at dksX2_sheet_1 12 rfl rfl)
theorem dX2_sheet_37 : decode cX2_sheet 37 = .ok (.ireturn, 1) := dk_172 (dk_at dksX2_sheet_1 15 rfl rfl)
theorem dX2_sheet_38 : decode cX2_sheet 38 = .ok (.iload_n 3, 1) := dk_29 (dk_at dksX2_sheet_1 16 rfl rfl)
theorem dX2_sheet_39 : decode cX2_sheet 39 = .ok (.ifCond .ge 9, 3) := dk_156 0 9 (dk_at dksX2_sheet_1 17 rfl rfl)
theorem dX2_sheet_42 : decode cX2_sheet 42 = .ok (.aload_n 0, 1) := dk_42 (dk_at dksX2_sheet_1 20 rfl rfl)
theorem dX2_sheet_43 : decode cX2_sheet 43 = .ok (.iconst 4, 1) := dk_7 (dk_at dksX2_sheet_1 21 rfl rfl)
theorem dX2_sheet_44 : decode cX2_sheet 44 = .ok (.invokevirtual 109, 3) := dk_182 0 109 (dk_at dksX2_sheet_2 0 rfl rfl)
theorem dX2_sheet_47 : decode cX2_sheet 47 = .ok (.ireturn, 1) := dk_172 (dk_at dksX2_sheet_2 3 rfl rfl)
theorem dX2_sheet_48 : decode cX2_sheet 48 = .ok (.aload_n 0, 1) := dk_42 (dk_at dksX2_sheet_2 4 rfl rfl)
theorem dX2_sheet_49 : decode cX2_sheet 49 = .ok (.getfield 73, 3) := dk_180 0 73 (dk_at dksX2_sheet_2 5 rfl rfl)
theorem dX2_sheet_52 : decode cX2_sheet 52 = .ok (.iload_n 1, 1) := dk_27 (dk_at dksX2_sheet_2 8 rfl rfl)
theorem dX2_sheet_53 : decode cX2_sheet 53 = .ok (.iload_n 3, 1) := dk_29 (dk_at dksX2_sheet_2 9 rfl rfl)
theorem dX2_sheet_54 : decode cX2_sheet 54 = .ok (.iastore, 1) := dk_79 (dk_at dksX2_sheet_2 10 rfl rfl)
theorem dX2_sheet_55 : decode cX2_sheet 55 = .ok (.aload_n 0, 1) := dk_42 (dk_at dksX2_sheet_2 11 rfl rfl)
theorem dX2_sheet_56 : decode cX2_sheet 56 = .ok (.getfield 76, 3) := dk_180 0 76 (dk_at dksX2_sheet_2 12 rfl rfl)
theorem dX2_sheet_59 : decode cX2_sheet 59 = .ok (.iload_n 1, 1) := dk_27 (dk_at dksX2_sheet_2 15 rfl rfl)
theorem dX2_sheet_60 : decode cX2_sheet 60 = .ok (.iload_n 2, 1) := dk_28 (dk_at dksX2_sheet_2 16 rfl rfl)
theorem dX2_sheet_61 : decode cX2_sheet 61 = .ok (.iastore, 1) := dk_79 (dk_at dksX2_sheet_2 17 rfl rfl)
theorem dX2_sheet_62 : decode cX2_sheet 62 = .ok (.iconst 0, 1) := dk_3 (dk_at dksX2_sheet_2 18 rfl rfl)
theorem dX2_sheet_63 : decode cX2_sheet 63 = .ok (.istore 4, 2) := dk_54 4 (dk_at dksX2_sheet_2 19 rfl rfl)
theorem dX2_sheet_65 : decode cX2_sheet 65 = .ok (.iload 4, 2) := dk_21 4 (dk_at dksX2_sheet_2 21 rfl rfl)
theorem dX2_sheet_67 : decode cX2_sheet 67 = .ok (.iload_n 3, 1) := dk_29 (dk_at dksX2_sheet_2 23 rfl rfl)
theorem dX2_sheet_68 : decode cX2_sheet 68 = .ok (.if_icmp .ge 22, 3) := dk_162 0 22 (dk_at dksX2_sheet_3 0 rfl rfl)
theorem dX2_sheet_71 : decode cX2_sheet 71 = .ok (.aload_n 0, 1) := dk_42 (dk_at dksX2_sheet_3 3 rfl rfl)
theorem dX2_sheet_72 : decode cX2_sheet 72 = .ok (.getfield 79, 3) := dk_180 0 79 (dk_at dksX2_sheet_3 4 rfl rfl)
theorem dX2_sheet_75 : decode cX2_sheet 75 = .ok (.bipush 80, 2) := dk_16 80 (dk_at dksX2_sheet_3 7 rfl rfl)
theorem dX2_sheet_77 : decode cX2_sheet 77 = .ok (.iload_n 1, 1) := dk_27 (dk_at dksX2_sheet_3 9 rfl rfl)
theorem dX2_sheet_78 : decode cX2_sheet 78 = .ok (.imul, 1) := dk_104 (dk_at dksX2_sheet_3 10 rfl rfl)
theorem dX2_sheet_79 : decode cX2_sheet 79 = .ok (.iload 4, 2) := dk_21 4 (dk_at dksX2_sheet_3 11 rfl rfl)
theorem dX2_sheet_81 : decode cX2_sheet 81 = .ok (.iadd, 1) := dk_96 (dk_at dksX2_sheet_3 13 rfl rfl)
theorem dX2_sheet_82 : decode cX2_sheet 82 = .ok (.iconst 0, 1) := dk_3 (dk_at dksX2_sheet_3 14 rfl rfl)
theorem dX2_sheet_83 : decode cX2_sheet 83 = .ok (.iastore, 1) := dk_79 (dk_at dksX2_sheet_3 15 rfl rfl)
theorem dX2_sheet_84 : decode cX2_sheet 84 = .ok (.iinc 4 1, 3) := dk_132 4 1 (dk_at dksX2_sheet_3 16 rfl rfl)
theorem dX2_sheet_87 : decode cX2_sheet 87 = .ok (.goto (-22), 3) := dk_167 255 234 (dk_at dksX2_sheet_3 19 rfl rfl)
theorem dX2_sheet_90 : decode cX2_sheet 90 = .ok (.aload_n 0, 1) := dk_42 (dk_at dksX2_sheet_3 22 rfl rfl)
theorem dX2_sheet_91 : decode cX2_sheet 91 = .ok (.iconst 1, 1) := dk_4 (dk_at dksX2_sheet_3 23 rfl rfl)
theorem dX2_sheet_92 : decode cX2_sheet 92 = .ok (.invokevirtual 99, 3) := dk_182 0 99 (dk_at dksX2_sheet_4 0 rfl rfl)
theorem dX2_sheet_95 : decode cX2_sheet 95 = .ok (.ireturn, 1) := dk_172 (dk_at dksX2_sheet_4 3 rfl rfl)
abbrev cX2_lose : ByteArray := prog_8_method_66_code
def yX2_lose : MethodName := ⟨RX2, "lose", "(I)I"⟩
def dkwX2_lose_1 : List UInt8 := [42, 180, 0, 73, 27, 2, 79, 28, 172]
abbrev dktX2_lose_1 : List UInt8 := dkwX2_lose_1 ++ []
def dkwX2_lose_0 : List UInt8 := [27, 184, 0, 95, 153, 0, 5, 2, 172, 42, 180, 0, 73, 27, 46, 156, 0, 7, 3, 167, 0, 4, 4, 61]
abbrev dktX2_lose_0 : List UInt8 := dkwX2_lose_0 ++ dktX2_lose_1
theorem dksX2_lose_0 : cX2_lose.data.toList.drop 0 = dktX2_lose_0 := by decide +kernel
theorem dksX2_lose_1 : cX2_lose.data.toList.drop 24 = dktX2_lose_1 := dk_seg dksX2_lose_0 24 rfl rfl
theorem dX2_lose_0 : decode cX2_lose 0 = .ok (.iload_n 1, 1) := dk_27 (dk_at dksX2_lose_0 0 rfl rfl)
theorem dX2_lose_1 : decode cX2_lose 1 = .ok (.invokestatic 95, 3) := dk_184 0 95 (dk_at dksX2_lose_0 1 rfl rfl)
theorem dX2_lose_4 : decode cX2_lose 4 = .ok (.ifCond .eq 5, 3) := dk_153 0 5 (dk_at dksX2_lose_0 4 rfl rfl)
theorem dX2_lose_7 : decode cX2_lose 7 = .ok (.iconst (-1), 1) := dk_2 (dk_at dksX2_lose_0 7 rfl rfl)
theorem dX2_lose_8 : decode cX2_lose 8 = .ok (.ireturn, 1) := dk_172 (dk_at dksX2_lose_0 8 rfl rfl)
theorem dX2_lose_9 : decode cX2_lose 9 = .ok (.aload_n 0, 1) := dk_42 (dk_at dksX2_lose_0 9 rfl rfl)
theorem dX2_lose_10 : decode cX2_lose 10 = .ok (.getfield 73, 3) := dk_180 0 73 (dk_at dksX2_lose_0 10 rfl rfl)
theorem dX2_lose_13 : decode cX2_lose 13 = .ok (.iload_n 1, 1) := dk_27 (dk_at dksX2_lose_0 13 rfl rfl)
theorem dX2_lose_14 : decode cX2_lose 14 = .ok (.iaload, 1) := dk_46 (dk_at dksX2_lose_0 14 rfl rfl)
theorem dX2_lose_15 : decode cX2_lose 15 = .ok (.ifCond .ge 7, 3) := dk_156 0 7 (dk_at dksX2_lose_0 15 rfl rfl)
theorem dX2_lose_18 : decode cX2_lose 18 = .ok (.iconst 0, 1) := dk_3 (dk_at dksX2_lose_0 18 rfl rfl)
theorem dX2_lose_19 : decode cX2_lose 19 = .ok (.goto 4, 3) := dk_167 0 4 (dk_at dksX2_lose_0 19 rfl rfl)
theorem dX2_lose_22 : decode cX2_lose 22 = .ok (.iconst 1, 1) := dk_4 (dk_at dksX2_lose_0 22 rfl rfl)
theorem dX2_lose_23 : decode cX2_lose 23 = .ok (.istore_n 2, 1) := dk_61 (dk_at dksX2_lose_0 23 rfl rfl)
theorem dX2_lose_24 : decode cX2_lose 24 = .ok (.aload_n 0, 1) := dk_42 (dk_at dksX2_lose_1 0 rfl rfl)
theorem dX2_lose_25 : decode cX2_lose 25 = .ok (.getfield 73, 3) := dk_180 0 73 (dk_at dksX2_lose_1 1 rfl rfl)
theorem dX2_lose_28 : decode cX2_lose 28 = .ok (.iload_n 1, 1) := dk_27 (dk_at dksX2_lose_1 4 rfl rfl)
theorem dX2_lose_29 : decode cX2_lose 29 = .ok (.iconst (-1), 1) := dk_2 (dk_at dksX2_lose_1 5 rfl rfl)
theorem dX2_lose_30 : decode cX2_lose 30 = .ok (.iastore, 1) := dk_79 (dk_at dksX2_lose_1 6 rfl rfl)
theorem dX2_lose_31 : decode cX2_lose 31 = .ok (.iload_n 2, 1) := dk_28 (dk_at dksX2_lose_1 7 rfl rfl)
theorem dX2_lose_32 : decode cX2_lose 32 = .ok (.ireturn, 1) := dk_172 (dk_at dksX2_lose_1 8 rfl rfl)
abbrev cX2_put : ByteArray := prog_8_method_68_code
def yX2_put : MethodName := ⟨RX2, "put", "(III)I"⟩
def dkwX2_put_3 : List UInt8 := [29, 79, 42, 4, 182, 0, 99, 172]
abbrev dktX2_put_3 : List UInt8 := dkwX2_put_3 ++ []
def dkwX2_put_2 : List UInt8 := [46, 154, 0, 8, 29, 145, 167, 0, 19, 42, 180, 0, 76, 27, 46, 4, 160, 0, 8, 29, 147, 167, 0, 4]
abbrev dktX2_put_2 : List UInt8 := dkwX2_put_2 ++ dktX2_put_3
def dkwX2_put_1 : List UInt8 := [27, 28, 182, 1, 44, 182, 0, 109, 172, 42, 180, 0, 79, 16, 80, 27, 104, 28, 96, 42, 180, 0, 76, 27]
abbrev dktX2_put_1 : List UInt8 := dkwX2_put_1 ++ dktX2_put_2
def dkwX2_put_0 : List UInt8 := [27, 184, 0, 95, 153, 0, 9, 42, 2, 182, 0, 99, 172, 42, 27, 28, 182, 1, 44, 158, 0, 14, 42, 42]
abbrev dktX2_put_0 : List UInt8 := dkwX2_put_0 ++ dktX2_put_1
theorem dksX2_put_0 : cX2_put.data.toList.drop 0 = dktX2_put_0 := by decide +kernel
theorem dksX2_put_1 : cX2_put.data.toList.drop 24 = dktX2_put_1 := dk_seg dksX2_put_0 24 rfl rfl
theorem dksX2_put_2 : cX2_put.data.toList.drop 48 = dktX2_put_2 := dk_seg dksX2_put_1 24 rfl rfl
theorem dksX2_put_3 : cX2_put.data.toList.drop 72 = dktX2_put_3 := dk_seg dksX2_put_2 24 rfl rfl
theorem dX2_put_0 : decode cX2_put 0 = .ok (.iload_n 1, 1) := dk_27 (dk_at dksX2_put_0 0 rfl rfl)
theorem dX2_put_1 : decode cX2_put 1 = .ok (.invokestatic 95, 3) := dk_184 0 95 (dk_at dksX2_put_0 1 rfl rfl)
theorem dX2_put_4 : decode cX2_put 4 = .ok (.ifCond .eq 9, 3) := dk_153 0 9 (dk_at dksX2_put_0 4 rfl rfl)
theorem dX2_put_7 : decode cX2_put 7 = .ok (.aload_n 0, 1) := dk_42 (dk_at dksX2_put_0 7 rfl rfl)
theorem dX2_put_8 : decode cX2_put 8 = .ok (.iconst (-1), 1) := dk_2 (dk_at dksX2_put_0 8 rfl rfl)
theorem dX2_put_9 : decode cX2_put 9 = .ok (.invokevirtual 99, 3) := dk_182 0 99 (dk_at dksX2_put_0 9 rfl rfl)
theorem dX2_put_12 : decode cX2_put 12 = .ok (.ireturn, 1) := dk_172 (dk_at dksX2_put_0 12 rfl rfl)
theorem dX2_put_13 : decode cX2_put 13 = .ok (.aload_n 0, 1) := dk_42 (dk_at dksX2_put_0 13 rfl rfl)
theorem dX2_put_14 : decode cX2_put 14 = .ok (.iload_n 1, 1) := dk_27 (dk_at dksX2_put_0 14 rfl rfl)
theorem dX2_put_15 : decode cX2_put 15 = .ok (.iload_n 2, 1) := dk_28 (dk_at dksX2_put_0 15 rfl rfl)
theorem dX2_put_16 : decode cX2_put 16 = .ok (.invokevirtual 300, 3) := dk_182 1 44 (dk_at dksX2_put_0 16 rfl rfl)
theorem dX2_put_19 : decode cX2_put 19 = .ok (.ifCond .le 14, 3) := dk_158 0 14 (dk_at dksX2_put_0 19 rfl rfl)
theorem dX2_put_22 : decode cX2_put 22 = .ok (.aload_n 0, 1) := dk_42 (dk_at dksX2_put_0 22 rfl rfl)
theorem dX2_put_23 : decode cX2_put 23 = .ok (.aload_n 0, 1) := dk_42 (dk_at dksX2_put_0 23 rfl rfl)
theorem dX2_put_24 : decode cX2_put 24 = .ok (.iload_n 1, 1) := dk_27 (dk_at dksX2_put_1 0 rfl rfl)
theorem dX2_put_25 : decode cX2_put 25 = .ok (.iload_n 2, 1) := dk_28 (dk_at dksX2_put_1 1 rfl rfl)
theorem dX2_put_26 : decode cX2_put 26 = .ok (.invokevirtual 300, 3) := dk_182 1 44 (dk_at dksX2_put_1 2 rfl rfl)
theorem dX2_put_29 : decode cX2_put 29 = .ok (.invokevirtual 109, 3) := dk_182 0 109 (dk_at dksX2_put_1 5 rfl rfl)
theorem dX2_put_32 : decode cX2_put 32 = .ok (.ireturn, 1) := dk_172 (dk_at dksX2_put_1 8 rfl rfl)
theorem dX2_put_33 : decode cX2_put 33 = .ok (.aload_n 0, 1) := dk_42 (dk_at dksX2_put_1 9 rfl rfl)
theorem dX2_put_34 : decode cX2_put 34 = .ok (.getfield 79, 3) := dk_180 0 79 (dk_at dksX2_put_1 10 rfl rfl)
theorem dX2_put_37 : decode cX2_put 37 = .ok (.bipush 80, 2) := dk_16 80 (dk_at dksX2_put_1 13 rfl rfl)
theorem dX2_put_39 : decode cX2_put 39 = .ok (.iload_n 1, 1) := dk_27 (dk_at dksX2_put_1 15 rfl rfl)
theorem dX2_put_40 : decode cX2_put 40 = .ok (.imul, 1) := dk_104 (dk_at dksX2_put_1 16 rfl rfl)
theorem dX2_put_41 : decode cX2_put 41 = .ok (.iload_n 2, 1) := dk_28 (dk_at dksX2_put_1 17 rfl rfl)
theorem dX2_put_42 : decode cX2_put 42 = .ok (.iadd, 1) := dk_96 (dk_at dksX2_put_1 18 rfl rfl)
theorem dX2_put_43 : decode cX2_put 43 = .ok (.aload_n 0, 1) := dk_42 (dk_at dksX2_put_1 19 rfl rfl)
theorem dX2_put_44 : decode cX2_put 44 = .ok (.getfield 76, 3) := dk_180 0 76 (dk_at dksX2_put_1 20 rfl rfl)
theorem dX2_put_47 : decode cX2_put 47 = .ok (.iload_n 1, 1) := dk_27 (dk_at dksX2_put_1 23 rfl rfl)
theorem dX2_put_48 : decode cX2_put 48 = .ok (.iaload, 1) := dk_46 (dk_at dksX2_put_2 0 rfl rfl)
theorem dX2_put_49 : decode cX2_put 49 = .ok (.ifCond .ne 8, 3) := dk_154 0 8 (dk_at dksX2_put_2 1 rfl rfl)
theorem dX2_put_52 : decode cX2_put 52 = .ok (.iload_n 3, 1) := dk_29 (dk_at dksX2_put_2 4 rfl rfl)
theorem dX2_put_53 : decode cX2_put 53 = .ok (.i2b, 1) := dk_145 (dk_at dksX2_put_2 5 rfl rfl)
theorem dX2_put_54 : decode cX2_put 54 = .ok (.goto 19, 3) := dk_167 0 19 (dk_at dksX2_put_2 6 rfl rfl)
theorem dX2_put_57 : decode cX2_put 57 = .ok (.aload_n 0, 1) := dk_42 (dk_at dksX2_put_2 9 rfl rfl)
theorem dX2_put_58 : decode cX2_put 58 = .ok (.getfield 76, 3) := dk_180 0 76 (dk_at dksX2_put_2 10 rfl rfl)
theorem dX2_put_61 : decode cX2_put 61 = .ok (.iload_n 1, 1) := dk_27 (dk_at dksX2_put_2 13 rfl rfl)
theorem dX2_put_62 : decode cX2_put 62 = .ok (.iaload, 1) := dk_46 (dk_at dksX2_put_2 14 rfl rfl)
theorem dX2_put_63 : decode cX2_put 63 = .ok (.iconst 1, 1) := dk_4 (dk_at dksX2_put_2 15 rfl rfl)
theorem dX2_put_64 : decode cX2_put 64 = .ok (.if_icmp .ne 8, 3) := dk_160 0 8 (dk_at dksX2_put_2 16 rfl rfl)
theorem dX2_put_67 : decode cX2_put 67 = .ok (.iload_n 3, 1) := dk_29 (dk_at dksX2_put_2 19 rfl rfl)
theorem dX2_put_68 : decode cX2_put 68 = .ok (.i2s, 1) := dk_147 (dk_at dksX2_put_2 20 rfl rfl)
theorem dX2_put_69 : decode cX2_put 69 = .ok (.goto 4, 3) := dk_167 0 4 (dk_at dksX2_put_2 21 rfl rfl)
theorem dX2_put_72 : decode cX2_put 72 = .ok (.iload_n 3, 1) := dk_29 (dk_at dksX2_put_3 0 rfl rfl)
theorem dX2_put_73 : decode cX2_put 73 = .ok (.iastore, 1) := dk_79 (dk_at dksX2_put_3 1 rfl rfl)
theorem dX2_put_74 : decode cX2_put 74 = .ok (.aload_n 0, 1) := dk_42 (dk_at dksX2_put_3 2 rfl rfl)
theorem dX2_put_75 : decode cX2_put 75 = .ok (.iconst 1, 1) := dk_4 (dk_at dksX2_put_3 3 rfl rfl)
theorem dX2_put_76 : decode cX2_put 76 = .ok (.invokevirtual 99, 3) := dk_182 0 99 (dk_at dksX2_put_3 4 rfl rfl)
theorem dX2_put_79 : decode cX2_put 79 = .ok (.ireturn, 1) := dk_172 (dk_at dksX2_put_3 7 rfl rfl)
abbrev cX2_noCell : ByteArray := prog_8_method_67_code
def yX2_noCell : MethodName := ⟨RX2, "noCell", "(II)I"⟩
def dkwX2_noCell_1 : List UInt8 := [101, 184, 0, 105, 153, 0, 7, 3, 167, 0, 4, 6, 172]
abbrev dktX2_noCell_1 : List UInt8 := dkwX2_noCell_1 ++ []
def dkwX2_noCell_0 : List UInt8 := [42, 180, 0, 73, 27, 46, 156, 0, 7, 4, 167, 0, 26, 28, 133, 9, 42, 180, 0, 73, 27, 46, 133, 10]
abbrev dktX2_noCell_0 : List UInt8 := dkwX2_noCell_0 ++ dktX2_noCell_1
theorem dksX2_noCell_0 : cX2_noCell.data.toList.drop 0 = dktX2_noCell_0 := by decide +kernel
theorem dksX2_noCell_1 : cX2_noCell.data.toList.drop 24 = dktX2_noCell_1 := dk_seg dksX2_noCell_0 24 rfl rfl
theorem dX2_noCell_0 : decode cX2_noCell 0 = .ok (.aload_n 0, 1) := dk_42 (dk_at dksX2_noCell_0 0 rfl rfl)
theorem dX2_noCell_1 : decode cX2_noCell 1 = .ok (.getfield 73, 3) := dk_180 0 73 (dk_at dksX2_noCell_0 1 rfl rfl)
theorem dX2_noCell_4 : decode cX2_noCell 4 = .ok (.iload_n 1, 1) := dk_27 (dk_at dksX2_noCell_0 4 rfl rfl)
theorem dX2_noCell_5 : decode cX2_noCell 5 = .ok (.iaload, 1) := dk_46 (dk_at dksX2_noCell_0 5 rfl rfl)
theorem dX2_noCell_6 : decode cX2_noCell 6 = .ok (.ifCond .ge 7, 3) := dk_156 0 7 (dk_at dksX2_noCell_0 6 rfl rfl)
theorem dX2_noCell_9 : decode cX2_noCell 9 = .ok (.iconst 1, 1) := dk_4 (dk_at dksX2_noCell_0 9 rfl rfl)
theorem dX2_noCell_10 : decode cX2_noCell 10 = .ok (.goto 26, 3) := dk_167 0 26 (dk_at dksX2_noCell_0 10 rfl rfl)
theorem dX2_noCell_13 : decode cX2_noCell 13 = .ok (.iload_n 2, 1) := dk_28 (dk_at dksX2_noCell_0 13 rfl rfl)
theorem dX2_noCell_14 : decode cX2_noCell 14 = .ok (.i2l, 1) := dk_133 (dk_at dksX2_noCell_0 14 rfl rfl)
theorem dX2_noCell_15 : decode cX2_noCell 15 = .ok (.lconst 0, 1) := dk_9 (dk_at dksX2_noCell_0 15 rfl rfl)
theorem dX2_noCell_16 : decode cX2_noCell 16 = .ok (.aload_n 0, 1) := dk_42 (dk_at dksX2_noCell_0 16 rfl rfl)
theorem dX2_noCell_17 : decode cX2_noCell 17 = .ok (.getfield 73, 3) := dk_180 0 73 (dk_at dksX2_noCell_0 17 rfl rfl)
theorem dX2_noCell_20 : decode cX2_noCell 20 = .ok (.iload_n 1, 1) := dk_27 (dk_at dksX2_noCell_0 20 rfl rfl)
theorem dX2_noCell_21 : decode cX2_noCell 21 = .ok (.iaload, 1) := dk_46 (dk_at dksX2_noCell_0 21 rfl rfl)
theorem dX2_noCell_22 : decode cX2_noCell 22 = .ok (.i2l, 1) := dk_133 (dk_at dksX2_noCell_0 22 rfl rfl)
theorem dX2_noCell_23 : decode cX2_noCell 23 = .ok (.lconst 1, 1) := dk_10 (dk_at dksX2_noCell_0 23 rfl rfl)
theorem dX2_noCell_24 : decode cX2_noCell 24 = .ok (.lsub, 1) := dk_101 (dk_at dksX2_noCell_1 0 rfl rfl)
theorem dX2_noCell_25 : decode cX2_noCell 25 = .ok (.invokestatic 105, 3) := dk_184 0 105 (dk_at dksX2_noCell_1 1 rfl rfl)
theorem dX2_noCell_28 : decode cX2_noCell 28 = .ok (.ifCond .eq 7, 3) := dk_153 0 7 (dk_at dksX2_noCell_1 4 rfl rfl)
theorem dX2_noCell_31 : decode cX2_noCell 31 = .ok (.iconst 0, 1) := dk_3 (dk_at dksX2_noCell_1 7 rfl rfl)
theorem dX2_noCell_32 : decode cX2_noCell 32 = .ok (.goto 4, 3) := dk_167 0 4 (dk_at dksX2_noCell_1 8 rfl rfl)
theorem dX2_noCell_35 : decode cX2_noCell 35 = .ok (.iconst 3, 1) := dk_6 (dk_at dksX2_noCell_1 11 rfl rfl)
theorem dX2_noCell_36 : decode cX2_noCell 36 = .ok (.ireturn, 1) := dk_172 (dk_at dksX2_noCell_1 12 rfl rfl)
abbrev cX2_cell : ByteArray := prog_8_method_69_code
def yX2_cell : MethodName := ⟨RX2, "cell", "(III)J"⟩
def dkwX2_cell_3 : List UInt8 := [167, 0, 15, 42, 180, 0, 79, 16, 80, 27, 104, 28, 96, 46, 133, 173]
abbrev dktX2_cell_3 : List UInt8 := dkwX2_cell_3 ++ []
def dkwX2_cell_2 : List UInt8 := [5, 182, 1, 47, 173, 42, 27, 28, 182, 1, 44, 158, 0, 16, 42, 42, 27, 28, 182, 1, 44, 182, 1, 47]
abbrev dktX2_cell_2 : List UInt8 := dkwX2_cell_2 ++ dktX2_cell_3
def dkwX2_cell_1 : List UInt8 := [184, 0, 91, 173, 42, 180, 0, 73, 27, 46, 155, 0, 19, 42, 180, 0, 76, 27, 46, 29, 159, 0, 9, 42]
abbrev dktX2_cell_1 : List UInt8 := dkwX2_cell_1 ++ dktX2_cell_2
def dkwX2_cell_0 : List UInt8 := [42, 3, 181, 0, 87, 27, 184, 0, 95, 154, 0, 15, 29, 133, 9, 20, 0, 103, 184, 0, 105, 154, 0, 7]
abbrev dktX2_cell_0 : List UInt8 := dkwX2_cell_0 ++ dktX2_cell_1
theorem dksX2_cell_0 : cX2_cell.data.toList.drop 0 = dktX2_cell_0 := by decide +kernel
theorem dksX2_cell_1 : cX2_cell.data.toList.drop 24 = dktX2_cell_1 := dk_seg dksX2_cell_0 24 rfl rfl
theorem dksX2_cell_2 : cX2_cell.data.toList.drop 48 = dktX2_cell_2 := dk_seg dksX2_cell_1 24 rfl rfl
theorem dksX2_cell_3 : cX2_cell.data.toList.drop 72 = dktX2_cell_3 := dk_seg dksX2_cell_2 24 rfl rfl
theorem dX2_cell_0 : decode cX2_cell 0 = .ok (.aload_n 0, 1) := dk_42 (dk_at dksX2_cell_0 0 rfl rfl)
theorem dX2_cell_1 : decode cX2_cell 1 = .ok (.iconst 0, 1) := dk_3 (dk_at dksX2_cell_0 1 rfl rfl)
theorem dX2_cell_2 : decode cX2_cell 2 = .ok (.putfield 87, 3) := dk_181 0 87 (dk_at dksX2_cell_0 2 rfl rfl)
theorem dX2_cell_5 : decode cX2_cell 5 = .ok (.iload_n 1, 1) := dk_27 (dk_at dksX2_cell_0 5 rfl rfl)
theorem dX2_cell_6 : decode cX2_cell 6 = .ok (.invokestatic 95, 3) := dk_184 0 95 (dk_at dksX2_cell_0 6 rfl rfl)
theorem dX2_cell_9 : decode cX2_cell 9 = .ok (.ifCond .ne 15, 3) := dk_154 0 15 (dk_at dksX2_cell_0 9 rfl rfl)
theorem dX2_cell_12 : decode cX2_cell 12 = .ok (.iload_n 3, 1) := dk_29 (dk_at dksX2_cell_0 12 rfl rfl)
theorem dX2_cell_13 : decode cX2_cell 13 = .ok (.i2l, 1) := dk_133 (dk_at dksX2_cell_0 13 rfl rfl)
theorem dX2_cell_14 : decode cX2_cell 14 = .ok (.lconst 0, 1) := dk_9 (dk_at dksX2_cell_0 14 rfl rfl)
theorem dX2_cell_15 : decode cX2_cell 15 = .ok (.ldc2_w 103, 3) := dk_20 0 103 (dk_at dksX2_cell_0 15 rfl rfl)
theorem dX2_cell_18 : decode cX2_cell 18 = .ok (.invokestatic 105, 3) := dk_184 0 105 (dk_at dksX2_cell_0 18 rfl rfl)
theorem dX2_cell_21 : decode cX2_cell 21 = .ok (.ifCond .ne 7, 3) := dk_154 0 7 (dk_at dksX2_cell_0 21 rfl rfl)
theorem dX2_cell_24 : decode cX2_cell 24 = .ok (.invokestatic 91, 3) := dk_184 0 91 (dk_at dksX2_cell_1 0 rfl rfl)
theorem dX2_cell_27 : decode cX2_cell 27 = .ok (.lreturn, 1) := dk_173 (dk_at dksX2_cell_1 3 rfl rfl)
theorem dX2_cell_28 : decode cX2_cell 28 = .ok (.aload_n 0, 1) := dk_42 (dk_at dksX2_cell_1 4 rfl rfl)
theorem dX2_cell_29 : decode cX2_cell 29 = .ok (.getfield 73, 3) := dk_180 0 73 (dk_at dksX2_cell_1 5 rfl rfl)
theorem dX2_cell_32 : decode cX2_cell 32 = .ok (.iload_n 1, 1) := dk_27 (dk_at dksX2_cell_1 8 rfl rfl)
theorem dX2_cell_33 : decode cX2_cell 33 = .ok (.iaload, 1) := dk_46 (dk_at dksX2_cell_1 9 rfl rfl)
theorem dX2_cell_34 : decode cX2_cell 34 = .ok (.ifCond .lt 19, 3) := dk_155 0 19 (dk_at dksX2_cell_1 10 rfl rfl)
theorem dX2_cell_37 : decode cX2_cell 37 = .ok (.aload_n 0, 1) := dk_42 (dk_at dksX2_cell_1 13 rfl rfl)
theorem dX2_cell_38 : decode cX2_cell 38 = .ok (.getfield 76, 3) := dk_180 0 76 (dk_at dksX2_cell_1 14 rfl rfl)
theorem dX2_cell_41 : decode cX2_cell 41 = .ok (.iload_n 1, 1) := dk_27 (dk_at dksX2_cell_1 17 rfl rfl)
theorem dX2_cell_42 : decode cX2_cell 42 = .ok (.iaload, 1) := dk_46 (dk_at dksX2_cell_1 18 rfl rfl)
theorem dX2_cell_43 : decode cX2_cell 43 = .ok (.iload_n 3, 1) := dk_29 (dk_at dksX2_cell_1 19 rfl rfl)
theorem dX2_cell_44 : decode cX2_cell 44 = .ok (.if_icmp .eq 9, 3) := dk_159 0 9 (dk_at dksX2_cell_1 20 rfl rfl)
theorem dX2_cell_47 : decode cX2_cell 47 = .ok (.aload_n 0, 1) := dk_42 (dk_at dksX2_cell_1 23 rfl rfl)
theorem dX2_cell_48 : decode cX2_cell 48 = .ok (.iconst 2, 1) := dk_5 (dk_at dksX2_cell_2 0 rfl rfl)
theorem dX2_cell_49 : decode cX2_cell 49 = .ok (.invokevirtual 303, 3) := dk_182 1 47 (dk_at dksX2_cell_2 1 rfl rfl)
theorem dX2_cell_52 : decode cX2_cell 52 = .ok (.lreturn, 1) := dk_173 (dk_at dksX2_cell_2 4 rfl rfl)
theorem dX2_cell_53 : decode cX2_cell 53 = .ok (.aload_n 0, 1) := dk_42 (dk_at dksX2_cell_2 5 rfl rfl)
theorem dX2_cell_54 : decode cX2_cell 54 = .ok (.iload_n 1, 1) := dk_27 (dk_at dksX2_cell_2 6 rfl rfl)
theorem dX2_cell_55 : decode cX2_cell 55 = .ok (.iload_n 2, 1) := dk_28 (dk_at dksX2_cell_2 7 rfl rfl)
theorem dX2_cell_56 : decode cX2_cell 56 = .ok (.invokevirtual 300, 3) := dk_182 1 44 (dk_at dksX2_cell_2 8 rfl rfl)
theorem dX2_cell_59 : decode cX2_cell 59 = .ok (.ifCond .le 16, 3) := dk_158 0 16 (dk_at dksX2_cell_2 11 rfl rfl)
theorem dX2_cell_62 : decode cX2_cell 62 = .ok (.aload_n 0, 1) := dk_42 (dk_at dksX2_cell_2 14 rfl rfl)
theorem dX2_cell_63 : decode cX2_cell 63 = .ok (.aload_n 0, 1) := dk_42 (dk_at dksX2_cell_2 15 rfl rfl)
theorem dX2_cell_64 : decode cX2_cell 64 = .ok (.iload_n 1, 1) := dk_27 (dk_at dksX2_cell_2 16 rfl rfl)
theorem dX2_cell_65 : decode cX2_cell 65 = .ok (.iload_n 2, 1) := dk_28 (dk_at dksX2_cell_2 17 rfl rfl)
theorem dX2_cell_66 : decode cX2_cell 66 = .ok (.invokevirtual 300, 3) := dk_182 1 44 (dk_at dksX2_cell_2 18 rfl rfl)
theorem dX2_cell_69 : decode cX2_cell 69 = .ok (.invokevirtual 303, 3) := dk_182 1 47 (dk_at dksX2_cell_2 21 rfl rfl)
theorem dX2_cell_72 : decode cX2_cell 72 = .ok (.goto 15, 3) := dk_167 0 15 (dk_at dksX2_cell_3 0 rfl rfl)
theorem dX2_cell_75 : decode cX2_cell 75 = .ok (.aload_n 0, 1) := dk_42 (dk_at dksX2_cell_3 3 rfl rfl)
theorem dX2_cell_76 : decode cX2_cell 76 = .ok (.getfield 79, 3) := dk_180 0 79 (dk_at dksX2_cell_3 4 rfl rfl)
theorem dX2_cell_79 : decode cX2_cell 79 = .ok (.bipush 80, 2) := dk_16 80 (dk_at dksX2_cell_3 7 rfl rfl)
theorem dX2_cell_81 : decode cX2_cell 81 = .ok (.iload_n 1, 1) := dk_27 (dk_at dksX2_cell_3 9 rfl rfl)
theorem dX2_cell_82 : decode cX2_cell 82 = .ok (.imul, 1) := dk_104 (dk_at dksX2_cell_3 10 rfl rfl)
theorem dX2_cell_83 : decode cX2_cell 83 = .ok (.iload_n 2, 1) := dk_28 (dk_at dksX2_cell_3 11 rfl rfl)
theorem dX2_cell_84 : decode cX2_cell 84 = .ok (.iadd, 1) := dk_96 (dk_at dksX2_cell_3 12 rfl rfl)
theorem dX2_cell_85 : decode cX2_cell 85 = .ok (.iaload, 1) := dk_46 (dk_at dksX2_cell_3 13 rfl rfl)
theorem dX2_cell_86 : decode cX2_cell 86 = .ok (.i2l, 1) := dk_133 (dk_at dksX2_cell_3 14 rfl rfl)
theorem dX2_cell_87 : decode cX2_cell 87 = .ok (.lreturn, 1) := dk_173 (dk_at dksX2_cell_3 15 rfl rfl)
abbrev cX2_failedLong : ByteArray := prog_8_method_8_code
def yX2_failedLong : MethodName := ⟨RX2, "failedLong", "(I)J"⟩
def dkwX2_failedLong_0 : List UInt8 := [42, 27, 181, 0, 87, 184, 0, 91, 173]
abbrev dktX2_failedLong_0 : List UInt8 := dkwX2_failedLong_0 ++ []
theorem dksX2_failedLong_0 : cX2_failedLong.data.toList.drop 0 = dktX2_failedLong_0 := by decide +kernel
theorem dX2_failedLong_0 : decode cX2_failedLong 0 = .ok (.aload_n 0, 1) := dk_42 (dk_at dksX2_failedLong_0 0 rfl rfl)
theorem dX2_failedLong_1 : decode cX2_failedLong 1 = .ok (.iload_n 1, 1) := dk_27 (dk_at dksX2_failedLong_0 1 rfl rfl)
theorem dX2_failedLong_2 : decode cX2_failedLong 2 = .ok (.putfield 87, 3) := dk_181 0 87 (dk_at dksX2_failedLong_0 2 rfl rfl)
theorem dX2_failedLong_5 : decode cX2_failedLong 5 = .ok (.invokestatic 91, 3) := dk_184 0 91 (dk_at dksX2_failedLong_0 5 rfl rfl)
theorem dX2_failedLong_8 : decode cX2_failedLong 8 = .ok (.lreturn, 1) := dk_173 (dk_at dksX2_failedLong_0 8 rfl rfl)
abbrev cX2_copy : ByteArray := prog_8_method_71_code
def yX2_copy : MethodName := ⟨RX2, "copy", "(IIIII)I"⟩
def dkwX2_copy_7 : List UInt8 := [21, 6, 96, 42, 180, 0, 82, 21, 6, 46, 79, 132, 6, 1, 167, 255, 224, 42, 21, 5, 182, 0, 99, 172]
abbrev dktX2_copy_7 : List UInt8 := dkwX2_copy_7 ++ []
def dkwX2_copy_6 : List UInt8 := [167, 255, 225, 3, 54, 6, 21, 6, 21, 5, 162, 0, 31, 42, 180, 0, 79, 16, 80, 29, 104, 21, 4, 96]
abbrev dktX2_copy_6 : List UInt8 := dkwX2_copy_6 ++ dktX2_copy_7
def dkwX2_copy_5 : List UInt8 := [180, 0, 82, 21, 6, 42, 180, 0, 79, 16, 80, 27, 104, 28, 96, 21, 6, 96, 46, 79, 132, 6, 1]
abbrev dktX2_copy_5 : List UInt8 := dkwX2_copy_5 ++ dktX2_copy_6
def dkwX2_copy_4 : List UInt8 := [184, 0, 112, 153, 0, 9, 42, 6, 182, 0, 109, 172, 3, 54, 6, 21, 6, 21, 5, 162, 0, 30, 42]
abbrev dktX2_copy_4 : List UInt8 := dkwX2_copy_4 ++ dktX2_copy_5
def dkwX2_copy_3 : List UInt8 := [180, 0, 73, 27, 46, 184, 0, 112, 154, 0, 20, 21, 4, 21, 5, 133, 42, 180, 0, 73, 29, 46]
abbrev dktX2_copy_3 : List UInt8 := dkwX2_copy_3 ++ dktX2_copy_4
def dkwX2_copy_2 : List UInt8 := [27, 46, 42, 180, 0, 76, 29, 46, 159, 0, 9, 42, 5, 182, 0, 109, 172, 28, 21, 5, 133, 42]
abbrev dktX2_copy_2 : List UInt8 := dkwX2_copy_2 ++ dktX2_copy_3
def dkwX2_copy_1 : List UInt8 := [27, 46, 155, 0, 12, 42, 180, 0, 73, 29, 46, 156, 0, 9, 42, 4, 182, 0, 109, 172, 42, 180, 0, 76]
abbrev dktX2_copy_1 : List UInt8 := dkwX2_copy_1 ++ dktX2_copy_2
def dkwX2_copy_0 : List UInt8 := [27, 184, 0, 95, 154, 0, 10, 29, 184, 0, 95, 153, 0, 9, 42, 2, 182, 0, 99, 172, 42, 180, 0, 73]
abbrev dktX2_copy_0 : List UInt8 := dkwX2_copy_0 ++ dktX2_copy_1
theorem dksX2_copy_0 : cX2_copy.data.toList.drop 0 = dktX2_copy_0 := by decide +kernel
theorem dksX2_copy_1 : cX2_copy.data.toList.drop 24 = dktX2_copy_1 := dk_seg dksX2_copy_0 24 rfl rfl
theorem dksX2_copy_2 : cX2_copy.data.toList.drop 48 = dktX2_copy_2 := dk_seg dksX2_copy_1 24 rfl rfl
theorem dksX2_copy_3 : cX2_copy.data.toList.drop 70 = dktX2_copy_3 := dk_seg dksX2_copy_2 22 rfl rfl
theorem dksX2_copy_4 : cX2_copy.data.toList.drop 92 = dktX2_copy_4 := dk_seg dksX2_copy_3 22 rfl rfl
theorem dksX2_copy_5 : cX2_copy.data.toList.drop 115 = dktX2_copy_5 := dk_seg dksX2_copy_4 23 rfl rfl
theorem dksX2_copy_6 : cX2_copy.data.toList.drop 138 = dktX2_copy_6 := dk_seg dksX2_copy_5 23 rfl rfl
theorem dksX2_copy_7 : cX2_copy.data.toList.drop 162 = dktX2_copy_7 := dk_seg dksX2_copy_6 24 rfl rfl
theorem dX2_copy_0 : decode cX2_copy 0 = .ok (.iload_n 1, 1) := dk_27 (dk_at dksX2_copy_0 0 rfl rfl)
theorem dX2_copy_1 : decode cX2_copy 1 = .ok (.invokestatic 95, 3) := dk_184 0 95 (dk_at dksX2_copy_0 1 rfl rfl)
theorem dX2_copy_4 : decode cX2_copy 4 = .ok (.ifCond .ne 10, 3) := dk_154 0 10 (dk_at dksX2_copy_0 4 rfl rfl)
theorem dX2_copy_7 : decode cX2_copy 7 = .ok (.iload_n 3, 1) := dk_29 (dk_at dksX2_copy_0 7 rfl rfl)
theorem dX2_copy_8 : decode cX2_copy 8 = .ok (.invokestatic 95, 3) := dk_184 0 95 (dk_at dksX2_copy_0 8 rfl rfl)
theorem dX2_copy_11 : decode cX2_copy 11 = .ok (.ifCond .eq 9, 3) := dk_153 0 9 (dk_at dksX2_copy_0 11 rfl rfl)
theorem dX2_copy_14 : decode cX2_copy 14 = .ok (.aload_n 0, 1) := dk_42 (dk_at dksX2_copy_0 14 rfl rfl)
theorem dX2_copy_15 : decode cX2_copy 15 = .ok (.iconst (-1), 1) := dk_2 (dk_at dksX2_copy_0 15 rfl rfl)
theorem dX2_copy_16 : decode cX2_copy 16 = .ok (.invokevirtual 99, 3) := dk_182 0 99 (dk_at dksX2_copy_0 16 rfl rfl)
theorem dX2_copy_19 : decode cX2_copy 19 = .ok (.ireturn, 1) := dk_172 (dk_at dksX2_copy_0 19 rfl rfl)
theorem dX2_copy_20 : decode cX2_copy 20 = .ok (.aload_n 0, 1) := dk_42 (dk_at dksX2_copy_0 20 rfl rfl)
theorem dX2_copy_21 : decode cX2_copy 21 = .ok (.getfield 73, 3) := dk_180 0 73 (dk_at dksX2_copy_0 21 rfl rfl)
theorem dX2_copy_24 : decode cX2_copy 24 = .ok (.iload_n 1, 1) := dk_27 (dk_at dksX2_copy_1 0 rfl rfl)
theorem dX2_copy_25 : decode cX2_copy 25 = .ok (.iaload, 1) := dk_46 (dk_at dksX2_copy_1 1 rfl rfl)
theorem dX2_copy_26 : decode cX2_copy 26 = .ok (.ifCond .lt 12, 3) := dk_155 0 12 (dk_at dksX2_copy_1 2 rfl rfl)
theorem dX2_copy_29 : decode cX2_copy 29 = .ok (.aload_n 0, 1) := dk_42 (dk_at dksX2_copy_1 5 rfl rfl)
theorem dX2_copy_30 : decode cX2_copy 30 = .ok (.getfield 73, 3) := dk_180 0 73 (dk_at dksX2_copy_1 6 rfl rfl)
theorem dX2_copy_33 : decode cX2_copy 33 = .ok (.iload_n 3, 1) := dk_29 (dk_at dksX2_copy_1 9 rfl rfl)
theorem dX2_copy_34 : decode cX2_copy 34 = .ok (.iaload, 1) := dk_46 (dk_at dksX2_copy_1 10 rfl rfl)
theorem dX2_copy_35 : decode cX2_copy 35 = .ok (.ifCond .ge 9, 3) := dk_156 0 9 (dk_at dksX2_copy_1 11 rfl rfl)
theorem dX2_copy_38 : decode cX2_copy 38 = .ok (.aload_n 0, 1) := dk_42 (dk_at dksX2_copy_1 14 rfl rfl)
theorem dX2_copy_39 : decode cX2_copy 39 = .ok (.iconst 1, 1) := dk_4 (dk_at dksX2_copy_1 15 rfl rfl)
theorem dX2_copy_40 : decode cX2_copy 40 = .ok (.invokevirtual 109, 3) := dk_182 0 109 (dk_at dksX2_copy_1 16 rfl rfl)
theorem dX2_copy_43 : decode cX2_copy 43 = .ok (.ireturn, 1) := dk_172 (dk_at dksX2_copy_1 19 rfl rfl)
theorem dX2_copy_44 : decode cX2_copy 44 = .ok (.aload_n 0, 1) := dk_42 (dk_at dksX2_copy_1 20 rfl rfl)
theorem dX2_copy_45 : decode cX2_copy 45 = .ok (.getfield 76, 3) := dk_180 0 76 (dk_at dksX2_copy_1 21 rfl rfl)
theorem dX2_copy_48 : decode cX2_copy 48 = .ok (.iload_n 1, 1) := dk_27 (dk_at dksX2_copy_2 0 rfl rfl)
theorem dX2_copy_49 : decode cX2_copy 49 = .ok (.iaload, 1) := dk_46 (dk_at dksX2_copy_2 1 rfl rfl)
theorem dX2_copy_50 : decode cX2_copy 50 = .ok (.aload_n 0, 1) := dk_42 (dk_at dksX2_copy_2 2 rfl rfl)
theorem dX2_copy_51 : decode cX2_copy 51 = .ok (.getfield 76, 3) := dk_180 0 76 (dk_at dksX2_copy_2 3 rfl rfl)
theorem dX2_copy_54 : decode cX2_copy 54 = .ok (.iload_n 3, 1) := dk_29 (dk_at dksX2_copy_2 6 rfl rfl)
theorem dX2_copy_55 : decode cX2_copy 55 = .ok (.iaload, 1) := dk_46 (dk_at dksX2_copy_2 7 rfl rfl)
theorem dX2_copy_56 : decode cX2_copy 56 = .ok (.if_icmp .eq 9, 3) := dk_159 0 9 (dk_at dksX2_copy_2 8 rfl rfl)
theorem dX2_copy_59 : decode cX2_copy 59 = .ok (.aload_n 0, 1) := dk_42 (dk_at dksX2_copy_2 11 rfl rfl)
theorem dX2_copy_60 : decode cX2_copy 60 = .ok (.iconst 2, 1) := dk_5 (dk_at dksX2_copy_2 12 rfl rfl)
theorem dX2_copy_61 : decode cX2_copy 61 = .ok (.invokevirtual 109, 3) := dk_182 0 109 (dk_at dksX2_copy_2 13 rfl rfl)
theorem dX2_copy_64 : decode cX2_copy 64 = .ok (.ireturn, 1) := dk_172 (dk_at dksX2_copy_2 16 rfl rfl)
theorem dX2_copy_65 : decode cX2_copy 65 = .ok (.iload_n 2, 1) := dk_28 (dk_at dksX2_copy_2 17 rfl rfl)
theorem dX2_copy_66 : decode cX2_copy 66 = .ok (.iload 5, 2) := dk_21 5 (dk_at dksX2_copy_2 18 rfl rfl)
theorem dX2_copy_68 : decode cX2_copy 68 = .ok (.i2l, 1) := dk_133 (dk_at dksX2_copy_2 20 rfl rfl)
theorem dX2_copy_69 : decode cX2_copy 69 = .ok (.aload_n 0, 1) := dk_42 (dk_at dksX2_copy_2 21 rfl rfl)
theorem dX2_copy_70 : decode cX2_copy 70 = .ok (.getfield 73, 3) := dk_180 0 73 (dk_at dksX2_copy_3 0 rfl rfl)
theorem dX2_copy_73 : decode cX2_copy 73 = .ok (.iload_n 1, 1) := dk_27 (dk_at dksX2_copy_3 3 rfl rfl)
theorem dX2_copy_74 : decode cX2_copy 74 = .ok (.iaload, 1) := dk_46 (dk_at dksX2_copy_3 4 rfl rfl)
theorem dX2_copy_75 : decode cX2_copy 75 = .ok (.invokestatic 112, 3) := dk_184 0 112 (dk_at dksX2_copy_3 5 rfl rfl)
theorem dX2_copy_78 : decode cX2_copy 78 = .ok (.ifCond .ne 20, 3) := dk_154 0 20 (dk_at dksX2_copy_3 8 rfl rfl)
theorem dX2_copy_81 : decode cX2_copy 81 = .ok (.iload 4, 2) := dk_21 4 (dk_at dksX2_copy_3 11 rfl rfl)
theorem dX2_copy_83 : decode cX2_copy 83 = .ok (.iload 5, 2) := dk_21 5 (dk_at dksX2_copy_3 13 rfl rfl)
theorem dX2_copy_85 : decode cX2_copy 85 = .ok (.i2l, 1) := dk_133 (dk_at dksX2_copy_3 15 rfl rfl)
theorem dX2_copy_86 : decode cX2_copy 86 = .ok (.aload_n 0, 1) := dk_42 (dk_at dksX2_copy_3 16 rfl rfl)
theorem dX2_copy_87 : decode cX2_copy 87 = .ok (.getfield 73, 3) := dk_180 0 73 (dk_at dksX2_copy_3 17 rfl rfl)
theorem dX2_copy_90 : decode cX2_copy 90 = .ok (.iload_n 3, 1) := dk_29 (dk_at dksX2_copy_3 20 rfl rfl)
theorem dX2_copy_91 : decode cX2_copy 91 = .ok (.iaload, 1) := dk_46 (dk_at dksX2_copy_3 21 rfl rfl)
theorem dX2_copy_92 : decode cX2_copy 92 = .ok (.invokestatic 112, 3) := dk_184 0 112 (dk_at dksX2_copy_4 0 rfl rfl)
theorem dX2_copy_95 : decode cX2_copy 95 = .ok (.ifCond .eq 9, 3) := dk_153 0 9 (dk_at dksX2_copy_4 3 rfl rfl)
theorem dX2_copy_98 : decode cX2_copy 98 = .ok (.aload_n 0, 1) := dk_42 (dk_at dksX2_copy_4 6 rfl rfl)
theorem dX2_copy_99 : decode cX2_copy 99 = .ok (.iconst 3, 1) := dk_6 (dk_at dksX2_copy_4 7 rfl rfl)
theorem dX2_copy_100 : decode cX2_copy 100 = .ok (.invokevirtual 109, 3) := dk_182 0 109 (dk_at dksX2_copy_4 8 rfl rfl)
theorem dX2_copy_103 : decode cX2_copy 103 = .ok (.ireturn, 1) := dk_172 (dk_at dksX2_copy_4 11 rfl rfl)
theorem dX2_copy_104 : decode cX2_copy 104 = .ok (.iconst 0, 1) := dk_3 (dk_at dksX2_copy_4 12 rfl rfl)
theorem dX2_copy_105 : decode cX2_copy 105 = .ok (.istore 6, 2) := dk_54 6 (dk_at dksX2_copy_4 13 rfl rfl)
theorem dX2_copy_107 : decode cX2_copy 107 = .ok (.iload 6, 2) := dk_21 6 (dk_at dksX2_copy_4 15 rfl rfl)
theorem dX2_copy_109 : decode cX2_copy 109 = .ok (.iload 5, 2) := dk_21 5 (dk_at dksX2_copy_4 17 rfl rfl)
theorem dX2_copy_111 : decode cX2_copy 111 = .ok (.if_icmp .ge 30, 3) := dk_162 0 30 (dk_at dksX2_copy_4 19 rfl rfl)
theorem dX2_copy_114 : decode cX2_copy 114 = .ok (.aload_n 0, 1) := dk_42 (dk_at dksX2_copy_4 22 rfl rfl)
theorem dX2_copy_115 : decode cX2_copy 115 = .ok (.getfield 82, 3) := dk_180 0 82 (dk_at dksX2_copy_5 0 rfl rfl)
theorem dX2_copy_118 : decode cX2_copy 118 = .ok (.iload 6, 2) := dk_21 6 (dk_at dksX2_copy_5 3 rfl rfl)
theorem dX2_copy_120 : decode cX2_copy 120 = .ok (.aload_n 0, 1) := dk_42 (dk_at dksX2_copy_5 5 rfl rfl)
theorem dX2_copy_121 : decode cX2_copy 121 = .ok (.getfield 79, 3) := dk_180 0 79 (dk_at dksX2_copy_5 6 rfl rfl)
theorem dX2_copy_124 : decode cX2_copy 124 = .ok (.bipush 80, 2) := dk_16 80 (dk_at dksX2_copy_5 9 rfl rfl)
theorem dX2_copy_126 : decode cX2_copy 126 = .ok (.iload_n 1, 1) := dk_27 (dk_at dksX2_copy_5 11 rfl rfl)
theorem dX2_copy_127 : decode cX2_copy 127 = .ok (.imul, 1) := dk_104 (dk_at dksX2_copy_5 12 rfl rfl)
theorem dX2_copy_128 : decode cX2_copy 128 = .ok (.iload_n 2, 1) := dk_28 (dk_at dksX2_copy_5 13 rfl rfl)
theorem dX2_copy_129 : decode cX2_copy 129 = .ok (.iadd, 1) := dk_96 (dk_at dksX2_copy_5 14 rfl rfl)
theorem dX2_copy_130 : decode cX2_copy 130 = .ok (.iload 6, 2) := dk_21 6 (dk_at dksX2_copy_5 15 rfl rfl)
theorem dX2_copy_132 : decode cX2_copy 132 = .ok (.iadd, 1) := dk_96 (dk_at dksX2_copy_5 17 rfl rfl)
theorem dX2_copy_133 : decode cX2_copy 133 = .ok (.iaload, 1) := dk_46 (dk_at dksX2_copy_5 18 rfl rfl)
theorem dX2_copy_134 : decode cX2_copy 134 = .ok (.iastore, 1) := dk_79 (dk_at dksX2_copy_5 19 rfl rfl)
theorem dX2_copy_135 : decode cX2_copy 135 = .ok (.iinc 6 1, 3) := dk_132 6 1 (dk_at dksX2_copy_5 20 rfl rfl)
theorem dX2_copy_138 : decode cX2_copy 138 = .ok (.goto (-31), 3) := dk_167 255 225 (dk_at dksX2_copy_6 0 rfl rfl)
theorem dX2_copy_141 : decode cX2_copy 141 = .ok (.iconst 0, 1) := dk_3 (dk_at dksX2_copy_6 3 rfl rfl)
theorem dX2_copy_142 : decode cX2_copy 142 = .ok (.istore 6, 2) := dk_54 6 (dk_at dksX2_copy_6 4 rfl rfl)
theorem dX2_copy_144 : decode cX2_copy 144 = .ok (.iload 6, 2) := dk_21 6 (dk_at dksX2_copy_6 6 rfl rfl)
theorem dX2_copy_146 : decode cX2_copy 146 = .ok (.iload 5, 2) := dk_21 5 (dk_at dksX2_copy_6 8 rfl rfl)
theorem dX2_copy_148 : decode cX2_copy 148 = .ok (.if_icmp .ge 31, 3) := dk_162 0 31 (dk_at dksX2_copy_6 10 rfl rfl)
theorem dX2_copy_151 : decode cX2_copy 151 = .ok (.aload_n 0, 1) := dk_42 (dk_at dksX2_copy_6 13 rfl rfl)
theorem dX2_copy_152 : decode cX2_copy 152 = .ok (.getfield 79, 3) := dk_180 0 79 (dk_at dksX2_copy_6 14 rfl rfl)
theorem dX2_copy_155 : decode cX2_copy 155 = .ok (.bipush 80, 2) := dk_16 80 (dk_at dksX2_copy_6 17 rfl rfl)
theorem dX2_copy_157 : decode cX2_copy 157 = .ok (.iload_n 3, 1) := dk_29 (dk_at dksX2_copy_6 19 rfl rfl)
theorem dX2_copy_158 : decode cX2_copy 158 = .ok (.imul, 1) := dk_104 (dk_at dksX2_copy_6 20 rfl rfl)
theorem dX2_copy_159 : decode cX2_copy 159 = .ok (.iload 4, 2) := dk_21 4 (dk_at dksX2_copy_6 21 rfl rfl)
theorem dX2_copy_161 : decode cX2_copy 161 = .ok (.iadd, 1) := dk_96 (dk_at dksX2_copy_6 23 rfl rfl)
theorem dX2_copy_162 : decode cX2_copy 162 = .ok (.iload 6, 2) := dk_21 6 (dk_at dksX2_copy_7 0 rfl rfl)
theorem dX2_copy_164 : decode cX2_copy 164 = .ok (.iadd, 1) := dk_96 (dk_at dksX2_copy_7 2 rfl rfl)
theorem dX2_copy_165 : decode cX2_copy 165 = .ok (.aload_n 0, 1) := dk_42 (dk_at dksX2_copy_7 3 rfl rfl)
theorem dX2_copy_166 : decode cX2_copy 166 = .ok (.getfield 82, 3) := dk_180 0 82 (dk_at dksX2_copy_7 4 rfl rfl)
theorem dX2_copy_169 : decode cX2_copy 169 = .ok (.iload 6, 2) := dk_21 6 (dk_at dksX2_copy_7 7 rfl rfl)
theorem dX2_copy_171 : decode cX2_copy 171 = .ok (.iaload, 1) := dk_46 (dk_at dksX2_copy_7 9 rfl rfl)
theorem dX2_copy_172 : decode cX2_copy 172 = .ok (.iastore, 1) := dk_79 (dk_at dksX2_copy_7 10 rfl rfl)
theorem dX2_copy_173 : decode cX2_copy 173 = .ok (.iinc 6 1, 3) := dk_132 6 1 (dk_at dksX2_copy_7 11 rfl rfl)
theorem dX2_copy_176 : decode cX2_copy 176 = .ok (.goto (-32), 3) := dk_167 255 224 (dk_at dksX2_copy_7 14 rfl rfl)
theorem dX2_copy_179 : decode cX2_copy 179 = .ok (.aload_n 0, 1) := dk_42 (dk_at dksX2_copy_7 17 rfl rfl)
theorem dX2_copy_180 : decode cX2_copy 180 = .ok (.iload 5, 2) := dk_21 5 (dk_at dksX2_copy_7 18 rfl rfl)
theorem dX2_copy_182 : decode cX2_copy 182 = .ok (.invokevirtual 99, 3) := dk_182 0 99 (dk_at dksX2_copy_7 20 rfl rfl)
theorem dX2_copy_185 : decode cX2_copy 185 = .ok (.ireturn, 1) := dk_172 (dk_at dksX2_copy_7 23 rfl rfl)
abbrev cX2_tell : ByteArray := prog_8_method_73_code
def yX2_tell : MethodName := ⟨RX2, "tell", "(I)I"⟩
def dkwX2_tell_3 : List UInt8 := [16, 100, 96, 167, 0, 9, 5, 29, 104, 16, 100, 96, 172]
abbrev dktX2_tell_3 : List UInt8 := dkwX2_tell_3 ++ []
def dkwX2_tell_2 : List UInt8 := [182, 1, 54, 42, 180, 0, 22, 27, 46, 62, 28, 154, 0, 7, 29, 167, 0, 21, 28, 4, 160, 0, 10, 29]
abbrev dktX2_tell_2 : List UInt8 := dkwX2_tell_2 ++ dktX2_tell_3
def dkwX2_tell_1 : List UInt8 := [182, 1, 54, 28, 158, 0, 8, 42, 5, 182, 1, 54, 42, 4, 182, 1, 54, 28, 5, 160, 0, 8, 42, 4]
abbrev dktX2_tell_1 : List UInt8 := dkwX2_tell_1 ++ dktX2_tell_2
def dkwX2_tell_0 : List UInt8 := [42, 27, 182, 0, 151, 153, 0, 5, 2, 172, 42, 180, 0, 7, 27, 46, 61, 28, 5, 160, 0, 8, 42, 6]
abbrev dktX2_tell_0 : List UInt8 := dkwX2_tell_0 ++ dktX2_tell_1
theorem dksX2_tell_0 : cX2_tell.data.toList.drop 0 = dktX2_tell_0 := by decide +kernel
theorem dksX2_tell_1 : cX2_tell.data.toList.drop 24 = dktX2_tell_1 := dk_seg dksX2_tell_0 24 rfl rfl
theorem dksX2_tell_2 : cX2_tell.data.toList.drop 48 = dktX2_tell_2 := dk_seg dksX2_tell_1 24 rfl rfl
theorem dksX2_tell_3 : cX2_tell.data.toList.drop 72 = dktX2_tell_3 := dk_seg dksX2_tell_2 24 rfl rfl
theorem dX2_tell_0 : decode cX2_tell 0 = .ok (.aload_n 0, 1) := dk_42 (dk_at dksX2_tell_0 0 rfl rfl)
theorem dX2_tell_1 : decode cX2_tell 1 = .ok (.iload_n 1, 1) := dk_27 (dk_at dksX2_tell_0 1 rfl rfl)
theorem dX2_tell_2 : decode cX2_tell 2 = .ok (.invokevirtual 151, 3) := dk_182 0 151 (dk_at dksX2_tell_0 2 rfl rfl)
theorem dX2_tell_5 : decode cX2_tell 5 = .ok (.ifCond .eq 5, 3) := dk_153 0 5 (dk_at dksX2_tell_0 5 rfl rfl)
theorem dX2_tell_8 : decode cX2_tell 8 = .ok (.iconst (-1), 1) := dk_2 (dk_at dksX2_tell_0 8 rfl rfl)
theorem dX2_tell_9 : decode cX2_tell 9 = .ok (.ireturn, 1) := dk_172 (dk_at dksX2_tell_0 9 rfl rfl)
theorem dX2_tell_10 : decode cX2_tell 10 = .ok (.aload_n 0, 1) := dk_42 (dk_at dksX2_tell_0 10 rfl rfl)
theorem dX2_tell_11 : decode cX2_tell 11 = .ok (.getfield 7, 3) := dk_180 0 7 (dk_at dksX2_tell_0 11 rfl rfl)
theorem dX2_tell_14 : decode cX2_tell 14 = .ok (.iload_n 1, 1) := dk_27 (dk_at dksX2_tell_0 14 rfl rfl)
theorem dX2_tell_15 : decode cX2_tell 15 = .ok (.iaload, 1) := dk_46 (dk_at dksX2_tell_0 15 rfl rfl)
theorem dX2_tell_16 : decode cX2_tell 16 = .ok (.istore_n 2, 1) := dk_61 (dk_at dksX2_tell_0 16 rfl rfl)
theorem dX2_tell_17 : decode cX2_tell 17 = .ok (.iload_n 2, 1) := dk_28 (dk_at dksX2_tell_0 17 rfl rfl)
theorem dX2_tell_18 : decode cX2_tell 18 = .ok (.iconst 2, 1) := dk_5 (dk_at dksX2_tell_0 18 rfl rfl)
theorem dX2_tell_19 : decode cX2_tell 19 = .ok (.if_icmp .ne 8, 3) := dk_160 0 8 (dk_at dksX2_tell_0 19 rfl rfl)
theorem dX2_tell_22 : decode cX2_tell 22 = .ok (.aload_n 0, 1) := dk_42 (dk_at dksX2_tell_0 22 rfl rfl)
theorem dX2_tell_23 : decode cX2_tell 23 = .ok (.iconst 3, 1) := dk_6 (dk_at dksX2_tell_0 23 rfl rfl)
theorem dX2_tell_24 : decode cX2_tell 24 = .ok (.invokevirtual 310, 3) := dk_182 1 54 (dk_at dksX2_tell_1 0 rfl rfl)
theorem dX2_tell_27 : decode cX2_tell 27 = .ok (.iload_n 2, 1) := dk_28 (dk_at dksX2_tell_1 3 rfl rfl)
theorem dX2_tell_28 : decode cX2_tell 28 = .ok (.ifCond .le 8, 3) := dk_158 0 8 (dk_at dksX2_tell_1 4 rfl rfl)
theorem dX2_tell_31 : decode cX2_tell 31 = .ok (.aload_n 0, 1) := dk_42 (dk_at dksX2_tell_1 7 rfl rfl)
theorem dX2_tell_32 : decode cX2_tell 32 = .ok (.iconst 2, 1) := dk_5 (dk_at dksX2_tell_1 8 rfl rfl)
theorem dX2_tell_33 : decode cX2_tell 33 = .ok (.invokevirtual 310, 3) := dk_182 1 54 (dk_at dksX2_tell_1 9 rfl rfl)
theorem dX2_tell_36 : decode cX2_tell 36 = .ok (.aload_n 0, 1) := dk_42 (dk_at dksX2_tell_1 12 rfl rfl)
theorem dX2_tell_37 : decode cX2_tell 37 = .ok (.iconst 1, 1) := dk_4 (dk_at dksX2_tell_1 13 rfl rfl)
theorem dX2_tell_38 : decode cX2_tell 38 = .ok (.invokevirtual 310, 3) := dk_182 1 54 (dk_at dksX2_tell_1 14 rfl rfl)
theorem dX2_tell_41 : decode cX2_tell 41 = .ok (.iload_n 2, 1) := dk_28 (dk_at dksX2_tell_1 17 rfl rfl)
theorem dX2_tell_42 : decode cX2_tell 42 = .ok (.iconst 2, 1) := dk_5 (dk_at dksX2_tell_1 18 rfl rfl)
theorem dX2_tell_43 : decode cX2_tell 43 = .ok (.if_icmp .ne 8, 3) := dk_160 0 8 (dk_at dksX2_tell_1 19 rfl rfl)
theorem dX2_tell_46 : decode cX2_tell 46 = .ok (.aload_n 0, 1) := dk_42 (dk_at dksX2_tell_1 22 rfl rfl)
theorem dX2_tell_47 : decode cX2_tell 47 = .ok (.iconst 1, 1) := dk_4 (dk_at dksX2_tell_1 23 rfl rfl)
theorem dX2_tell_48 : decode cX2_tell 48 = .ok (.invokevirtual 310, 3) := dk_182 1 54 (dk_at dksX2_tell_2 0 rfl rfl)
theorem dX2_tell_51 : decode cX2_tell 51 = .ok (.aload_n 0, 1) := dk_42 (dk_at dksX2_tell_2 3 rfl rfl)
theorem dX2_tell_52 : decode cX2_tell 52 = .ok (.getfield 22, 3) := dk_180 0 22 (dk_at dksX2_tell_2 4 rfl rfl)
theorem dX2_tell_55 : decode cX2_tell 55 = .ok (.iload_n 1, 1) := dk_27 (dk_at dksX2_tell_2 7 rfl rfl)
theorem dX2_tell_56 : decode cX2_tell 56 = .ok (.iaload, 1) := dk_46 (dk_at dksX2_tell_2 8 rfl rfl)
theorem dX2_tell_57 : decode cX2_tell 57 = .ok (.istore_n 3, 1) := dk_62 (dk_at dksX2_tell_2 9 rfl rfl)
theorem dX2_tell_58 : decode cX2_tell 58 = .ok (.iload_n 2, 1) := dk_28 (dk_at dksX2_tell_2 10 rfl rfl)
theorem dX2_tell_59 : decode cX2_tell 59 = .ok (.ifCond .ne 7, 3) := dk_154 0 7 (dk_at dksX2_tell_2 11 rfl rfl)
theorem dX2_tell_62 : decode cX2_tell 62 = .ok (.iload_n 3, 1) := dk_29 (dk_at dksX2_tell_2 14 rfl rfl)
theorem dX2_tell_63 : decode cX2_tell 63 = .ok (.goto 21, 3) := dk_167 0 21 (dk_at dksX2_tell_2 15 rfl rfl)
theorem dX2_tell_66 : decode cX2_tell 66 = .ok (.iload_n 2, 1) := dk_28 (dk_at dksX2_tell_2 18 rfl rfl)
theorem dX2_tell_67 : decode cX2_tell 67 = .ok (.iconst 1, 1) := dk_4 (dk_at dksX2_tell_2 19 rfl rfl)
theorem dX2_tell_68 : decode cX2_tell 68 = .ok (.if_icmp .ne 10, 3) := dk_160 0 10 (dk_at dksX2_tell_2 20 rfl rfl)
theorem dX2_tell_71 : decode cX2_tell 71 = .ok (.iload_n 3, 1) := dk_29 (dk_at dksX2_tell_2 23 rfl rfl)
theorem dX2_tell_72 : decode cX2_tell 72 = .ok (.bipush 100, 2) := dk_16 100 (dk_at dksX2_tell_3 0 rfl rfl)
theorem dX2_tell_74 : decode cX2_tell 74 = .ok (.iadd, 1) := dk_96 (dk_at dksX2_tell_3 2 rfl rfl)
theorem dX2_tell_75 : decode cX2_tell 75 = .ok (.goto 9, 3) := dk_167 0 9 (dk_at dksX2_tell_3 3 rfl rfl)
theorem dX2_tell_78 : decode cX2_tell 78 = .ok (.iconst 2, 1) := dk_5 (dk_at dksX2_tell_3 6 rfl rfl)
theorem dX2_tell_79 : decode cX2_tell 79 = .ok (.iload_n 3, 1) := dk_29 (dk_at dksX2_tell_3 7 rfl rfl)
theorem dX2_tell_80 : decode cX2_tell 80 = .ok (.imul, 1) := dk_104 (dk_at dksX2_tell_3 8 rfl rfl)
theorem dX2_tell_81 : decode cX2_tell 81 = .ok (.bipush 100, 2) := dk_16 100 (dk_at dksX2_tell_3 9 rfl rfl)
theorem dX2_tell_83 : decode cX2_tell 83 = .ok (.iadd, 1) := dk_96 (dk_at dksX2_tell_3 11 rfl rfl)
theorem dX2_tell_84 : decode cX2_tell 84 = .ok (.ireturn, 1) := dk_172 (dk_at dksX2_tell_3 12 rfl rfl)
abbrev cX2_traced : ByteArray := prog_8_method_72_code
def yX2_traced : MethodName := ⟨RX2, "traced", "(I)V"⟩
def dkwX2_traced_0 : List UInt8 := [42, 16, 31, 42, 180, 1, 51, 104, 27, 96, 181, 1, 51, 177]
abbrev dktX2_traced_0 : List UInt8 := dkwX2_traced_0 ++ []
theorem dksX2_traced_0 : cX2_traced.data.toList.drop 0 = dktX2_traced_0 := by decide +kernel
theorem dX2_traced_0 : decode cX2_traced 0 = .ok (.aload_n 0, 1) := dk_42 (dk_at dksX2_traced_0 0 rfl rfl)
theorem dX2_traced_1 : decode cX2_traced 1 = .ok (.bipush 31, 2) := dk_16 31 (dk_at dksX2_traced_0 1 rfl rfl)
theorem dX2_traced_3 : decode cX2_traced 3 = .ok (.aload_n 0, 1) := dk_42 (dk_at dksX2_traced_0 3 rfl rfl)
theorem dX2_traced_4 : decode cX2_traced 4 = .ok (.getfield 307, 3) := dk_180 1 51 (dk_at dksX2_traced_0 4 rfl rfl)
theorem dX2_traced_7 : decode cX2_traced 7 = .ok (.imul, 1) := dk_104 (dk_at dksX2_traced_0 7 rfl rfl)
theorem dX2_traced_8 : decode cX2_traced 8 = .ok (.iload_n 1, 1) := dk_27 (dk_at dksX2_traced_0 8 rfl rfl)
theorem dX2_traced_9 : decode cX2_traced 9 = .ok (.iadd, 1) := dk_96 (dk_at dksX2_traced_0 9 rfl rfl)
theorem dX2_traced_10 : decode cX2_traced 10 = .ok (.putfield 307, 3) := dk_181 1 51 (dk_at dksX2_traced_0 10 rfl rfl)
theorem dX2_traced_13 : decode cX2_traced 13 = .ok (.return_, 1) := dk_177 (dk_at dksX2_traced_0 13 rfl rfl)
abbrev cX2_joint : ByteArray := prog_8_method_74_code
def yX2_joint : MethodName := ⟨RX2, "joint", "(I)I"⟩
def dkwX2_joint_1 : List UInt8 := [167, 0, 4, 7, 182, 1, 54, 42, 180, 0, 7, 27, 46, 5, 160, 0, 8, 16, 70, 167, 0, 4, 27, 172]
abbrev dktX2_joint_1 : List UInt8 := dkwX2_joint_1 ++ []
def dkwX2_joint_0 : List UInt8 := [42, 27, 182, 0, 151, 153, 0, 5, 2, 172, 42, 42, 180, 0, 7, 27, 46, 5, 160, 0, 7, 8]
abbrev dktX2_joint_0 : List UInt8 := dkwX2_joint_0 ++ dktX2_joint_1
theorem dksX2_joint_0 : cX2_joint.data.toList.drop 0 = dktX2_joint_0 := by decide +kernel
theorem dksX2_joint_1 : cX2_joint.data.toList.drop 22 = dktX2_joint_1 := dk_seg dksX2_joint_0 22 rfl rfl
theorem dX2_joint_0 : decode cX2_joint 0 = .ok (.aload_n 0, 1) := dk_42 (dk_at dksX2_joint_0 0 rfl rfl)
theorem dX2_joint_1 : decode cX2_joint 1 = .ok (.iload_n 1, 1) := dk_27 (dk_at dksX2_joint_0 1 rfl rfl)
theorem dX2_joint_2 : decode cX2_joint 2 = .ok (.invokevirtual 151, 3) := dk_182 0 151 (dk_at dksX2_joint_0 2 rfl rfl)
theorem dX2_joint_5 : decode cX2_joint 5 = .ok (.ifCond .eq 5, 3) := dk_153 0 5 (dk_at dksX2_joint_0 5 rfl rfl)
theorem dX2_joint_8 : decode cX2_joint 8 = .ok (.iconst (-1), 1) := dk_2 (dk_at dksX2_joint_0 8 rfl rfl)
theorem dX2_joint_9 : decode cX2_joint 9 = .ok (.ireturn, 1) := dk_172 (dk_at dksX2_joint_0 9 rfl rfl)
theorem dX2_joint_10 : decode cX2_joint 10 = .ok (.aload_n 0, 1) := dk_42 (dk_at dksX2_joint_0 10 rfl rfl)
theorem dX2_joint_11 : decode cX2_joint 11 = .ok (.aload_n 0, 1) := dk_42 (dk_at dksX2_joint_0 11 rfl rfl)
theorem dX2_joint_12 : decode cX2_joint 12 = .ok (.getfield 7, 3) := dk_180 0 7 (dk_at dksX2_joint_0 12 rfl rfl)
theorem dX2_joint_15 : decode cX2_joint 15 = .ok (.iload_n 1, 1) := dk_27 (dk_at dksX2_joint_0 15 rfl rfl)
theorem dX2_joint_16 : decode cX2_joint 16 = .ok (.iaload, 1) := dk_46 (dk_at dksX2_joint_0 16 rfl rfl)
theorem dX2_joint_17 : decode cX2_joint 17 = .ok (.iconst 2, 1) := dk_5 (dk_at dksX2_joint_0 17 rfl rfl)
theorem dX2_joint_18 : decode cX2_joint 18 = .ok (.if_icmp .ne 7, 3) := dk_160 0 7 (dk_at dksX2_joint_0 18 rfl rfl)
theorem dX2_joint_21 : decode cX2_joint 21 = .ok (.iconst 5, 1) := dk_8 (dk_at dksX2_joint_0 21 rfl rfl)
theorem dX2_joint_22 : decode cX2_joint 22 = .ok (.goto 4, 3) := dk_167 0 4 (dk_at dksX2_joint_1 0 rfl rfl)
theorem dX2_joint_25 : decode cX2_joint 25 = .ok (.iconst 4, 1) := dk_7 (dk_at dksX2_joint_1 3 rfl rfl)
theorem dX2_joint_26 : decode cX2_joint 26 = .ok (.invokevirtual 310, 3) := dk_182 1 54 (dk_at dksX2_joint_1 4 rfl rfl)
theorem dX2_joint_29 : decode cX2_joint 29 = .ok (.aload_n 0, 1) := dk_42 (dk_at dksX2_joint_1 7 rfl rfl)
theorem dX2_joint_30 : decode cX2_joint 30 = .ok (.getfield 7, 3) := dk_180 0 7 (dk_at dksX2_joint_1 8 rfl rfl)
theorem dX2_joint_33 : decode cX2_joint 33 = .ok (.iload_n 1, 1) := dk_27 (dk_at dksX2_joint_1 11 rfl rfl)
theorem dX2_joint_34 : decode cX2_joint 34 = .ok (.iaload, 1) := dk_46 (dk_at dksX2_joint_1 12 rfl rfl)
theorem dX2_joint_35 : decode cX2_joint 35 = .ok (.iconst 2, 1) := dk_5 (dk_at dksX2_joint_1 13 rfl rfl)
theorem dX2_joint_36 : decode cX2_joint 36 = .ok (.if_icmp .ne 8, 3) := dk_160 0 8 (dk_at dksX2_joint_1 14 rfl rfl)
theorem dX2_joint_39 : decode cX2_joint 39 = .ok (.bipush 70, 2) := dk_16 70 (dk_at dksX2_joint_1 17 rfl rfl)
theorem dX2_joint_41 : decode cX2_joint 41 = .ok (.goto 4, 3) := dk_167 0 4 (dk_at dksX2_joint_1 19 rfl rfl)
theorem dX2_joint_44 : decode cX2_joint 44 = .ok (.iload_n 1, 1) := dk_27 (dk_at dksX2_joint_1 22 rfl rfl)
theorem dX2_joint_45 : decode cX2_joint 45 = .ok (.ireturn, 1) := dk_172 (dk_at dksX2_joint_1 23 rfl rfl)
abbrev cX2_as : ByteArray := prog_8_method_75_code
def yX2_as : MethodName := ⟨RX2, "as", "(II)I"⟩
def dkwX2_as_2 : List UInt8 := [182, 0, 99, 167, 0, 8, 42, 5, 182, 0, 109, 172]
abbrev dktX2_as_2 : List UInt8 := dkwX2_as_2 ++ []
def dkwX2_as_1 : List UInt8 := [154, 0, 10, 42, 16, 254, 182, 0, 99, 172, 42, 180, 0, 7, 27, 46, 28, 161, 0, 11, 42, 4]
abbrev dktX2_as_1 : List UInt8 := dkwX2_as_1 ++ dktX2_as_2
def dkwX2_as_0 : List UInt8 := [42, 27, 182, 0, 151, 153, 0, 9, 42, 2, 182, 0, 99, 172, 28, 133, 9, 20, 0, 103, 184, 0, 105]
abbrev dktX2_as_0 : List UInt8 := dkwX2_as_0 ++ dktX2_as_1
theorem dksX2_as_0 : cX2_as.data.toList.drop 0 = dktX2_as_0 := by decide +kernel
theorem dksX2_as_1 : cX2_as.data.toList.drop 23 = dktX2_as_1 := dk_seg dksX2_as_0 23 rfl rfl
theorem dksX2_as_2 : cX2_as.data.toList.drop 45 = dktX2_as_2 := dk_seg dksX2_as_1 22 rfl rfl
theorem dX2_as_0 : decode cX2_as 0 = .ok (.aload_n 0, 1) := dk_42 (dk_at dksX2_as_0 0 rfl rfl)
theorem dX2_as_1 : decode cX2_as 1 = .ok (.iload_n 1, 1) := dk_27 (dk_at dksX2_as_0 1 rfl rfl)
theorem dX2_as_2 : decode cX2_as 2 = .ok (.invokevirtual 151, 3) := dk_182 0 151 (dk_at dksX2_as_0 2 rfl rfl)
theorem dX2_as_5 : decode cX2_as 5 = .ok (.ifCond .eq 9, 3) := dk_153 0 9 (dk_at dksX2_as_0 5 rfl rfl)
theorem dX2_as_8 : decode cX2_as 8 = .ok (.aload_n 0, 1) := dk_42 (dk_at dksX2_as_0 8 rfl rfl)
theorem dX2_as_9 : decode cX2_as 9 = .ok (.iconst (-1), 1) := dk_2 (dk_at dksX2_as_0 9 rfl rfl)
theorem dX2_as_10 : decode cX2_as 10 = .ok (.invokevirtual 99, 3) := dk_182 0 99 (dk_at dksX2_as_0 10 rfl rfl)
theorem dX2_as_13 : decode cX2_as 13 = .ok (.ireturn, 1) := dk_172 (dk_at dksX2_as_0 13 rfl rfl)
theorem dX2_as_14 : decode cX2_as 14 = .ok (.iload_n 2, 1) := dk_28 (dk_at dksX2_as_0 14 rfl rfl)
theorem dX2_as_15 : decode cX2_as 15 = .ok (.i2l, 1) := dk_133 (dk_at dksX2_as_0 15 rfl rfl)
theorem dX2_as_16 : decode cX2_as 16 = .ok (.lconst 0, 1) := dk_9 (dk_at dksX2_as_0 16 rfl rfl)
theorem dX2_as_17 : decode cX2_as 17 = .ok (.ldc2_w 103, 3) := dk_20 0 103 (dk_at dksX2_as_0 17 rfl rfl)
theorem dX2_as_20 : decode cX2_as 20 = .ok (.invokestatic 105, 3) := dk_184 0 105 (dk_at dksX2_as_0 20 rfl rfl)
theorem dX2_as_23 : decode cX2_as 23 = .ok (.ifCond .ne 10, 3) := dk_154 0 10 (dk_at dksX2_as_1 0 rfl rfl)
theorem dX2_as_26 : decode cX2_as 26 = .ok (.aload_n 0, 1) := dk_42 (dk_at dksX2_as_1 3 rfl rfl)
theorem dX2_as_27 : decode cX2_as 27 = .ok (.bipush (-2), 2) := dk_16 254 (dk_at dksX2_as_1 4 rfl rfl)
theorem dX2_as_29 : decode cX2_as 29 = .ok (.invokevirtual 99, 3) := dk_182 0 99 (dk_at dksX2_as_1 6 rfl rfl)
theorem dX2_as_32 : decode cX2_as 32 = .ok (.ireturn, 1) := dk_172 (dk_at dksX2_as_1 9 rfl rfl)
theorem dX2_as_33 : decode cX2_as 33 = .ok (.aload_n 0, 1) := dk_42 (dk_at dksX2_as_1 10 rfl rfl)
theorem dX2_as_34 : decode cX2_as 34 = .ok (.getfield 7, 3) := dk_180 0 7 (dk_at dksX2_as_1 11 rfl rfl)
theorem dX2_as_37 : decode cX2_as 37 = .ok (.iload_n 1, 1) := dk_27 (dk_at dksX2_as_1 14 rfl rfl)
theorem dX2_as_38 : decode cX2_as 38 = .ok (.iaload, 1) := dk_46 (dk_at dksX2_as_1 15 rfl rfl)
theorem dX2_as_39 : decode cX2_as 39 = .ok (.iload_n 2, 1) := dk_28 (dk_at dksX2_as_1 16 rfl rfl)
theorem dX2_as_40 : decode cX2_as 40 = .ok (.if_icmp .lt 11, 3) := dk_161 0 11 (dk_at dksX2_as_1 17 rfl rfl)
theorem dX2_as_43 : decode cX2_as 43 = .ok (.aload_n 0, 1) := dk_42 (dk_at dksX2_as_1 20 rfl rfl)
theorem dX2_as_44 : decode cX2_as 44 = .ok (.iconst 1, 1) := dk_4 (dk_at dksX2_as_1 21 rfl rfl)
theorem dX2_as_45 : decode cX2_as 45 = .ok (.invokevirtual 99, 3) := dk_182 0 99 (dk_at dksX2_as_2 0 rfl rfl)
theorem dX2_as_48 : decode cX2_as 48 = .ok (.goto 8, 3) := dk_167 0 8 (dk_at dksX2_as_2 3 rfl rfl)
theorem dX2_as_51 : decode cX2_as 51 = .ok (.aload_n 0, 1) := dk_42 (dk_at dksX2_as_2 6 rfl rfl)
theorem dX2_as_52 : decode cX2_as 52 = .ok (.iconst 2, 1) := dk_5 (dk_at dksX2_as_2 7 rfl rfl)
theorem dX2_as_53 : decode cX2_as 53 = .ok (.invokevirtual 109, 3) := dk_182 0 109 (dk_at dksX2_as_2 8 rfl rfl)
theorem dX2_as_56 : decode cX2_as 56 = .ok (.ireturn, 1) := dk_172 (dk_at dksX2_as_2 11 rfl rfl)
abbrev cX2_trace : ByteArray := prog_8_method_76_code
def yX2_trace : MethodName := ⟨RX2, "trace", "()I"⟩
theorem dX2_trace_0 : decode cX2_trace 0 = .ok (.aload_n 0, 1) := by decide +kernel
theorem dX2_trace_1 : decode cX2_trace 1 = .ok (.getfield 307, 3) := by decide +kernel
theorem dX2_trace_4 : decode cX2_trace 4 = .ok (.ireturn, 1) := by decide +kernel
abbrev cX2_fault : ByteArray := prog_8_method_77_code
def yX2_fault : MethodName := ⟨RX2, "fault", "()I"⟩
theorem dX2_fault_0 : decode cX2_fault 0 = .ok (.aload_n 0, 1) := by decide +kernel
theorem dX2_fault_1 : decode cX2_fault 1 = .ok (.getfield 87, 3) := by decide +kernel
theorem dX2_fault_4 : decode cX2_fault 4 = .ok (.ireturn, 1) := by decide +kernel
abbrev cX2_many : ByteArray := prog_8_method_78_code
def yX2_many : MethodName := ⟨RX2, "many", "(I)I"⟩
def dkwX2_many_3 : List UInt8 := [172, 16, 254, 172]
abbrev dktX2_many_3 : List UInt8 := dkwX2_many_3 ++ []
def dkwX2_many_2 : List UInt8 := [42, 180, 0, 116, 172, 42, 180, 0, 172, 172, 42, 180, 0, 142, 172, 42, 180, 0, 145, 172, 42, 180, 0, 201]
abbrev dktX2_many_2 : List UInt8 := dkwX2_many_2 ++ dktX2_many_3
def dkwX2_many_1 : List UInt8 := [170, 0, 0, 0, 0, 0, 60, 0, 0, 0, 0, 0, 0, 0, 4, 0, 0, 0, 35, 0, 0, 0, 40, 0, 0, 0, 45, 0, 0, 0, 50, 0, 0, 0, 55]
abbrev dktX2_many_1 : List UInt8 := dkwX2_many_1 ++ dktX2_many_2
def dkwX2_many_0 : List UInt8 := [42, 182, 0, 210, 27]
abbrev dktX2_many_0 : List UInt8 := dkwX2_many_0 ++ dktX2_many_1
theorem dksX2_many_0 : cX2_many.data.toList.drop 0 = dktX2_many_0 := by decide +kernel
theorem dksX2_many_1 : cX2_many.data.toList.drop 5 = dktX2_many_1 := dk_seg dksX2_many_0 5 rfl rfl
theorem dksX2_many_2 : cX2_many.data.toList.drop 40 = dktX2_many_2 := dk_seg dksX2_many_1 35 rfl rfl
theorem dksX2_many_3 : cX2_many.data.toList.drop 64 = dktX2_many_3 := dk_seg dksX2_many_2 24 rfl rfl
theorem dX2_many_0 : decode cX2_many 0 = .ok (.aload_n 0, 1) := dk_42 (dk_at dksX2_many_0 0 rfl rfl)
theorem dX2_many_1 : decode cX2_many 1 = .ok (.invokevirtual 210, 3) := dk_182 0 210 (dk_at dksX2_many_0 1 rfl rfl)
theorem dX2_many_4 : decode cX2_many 4 = .ok (.iload_n 1, 1) := dk_27 (dk_at dksX2_many_0 4 rfl rfl)
theorem dX2_many_5 : decode cX2_many 5 = .ok (.tableswitch 60 0 4 #[35, 40, 45, 50, 55], 35) := by decide +kernel
theorem dX2_many_40 : decode cX2_many 40 = .ok (.aload_n 0, 1) := dk_42 (dk_at dksX2_many_2 0 rfl rfl)
theorem dX2_many_41 : decode cX2_many 41 = .ok (.getfield 116, 3) := dk_180 0 116 (dk_at dksX2_many_2 1 rfl rfl)
theorem dX2_many_44 : decode cX2_many 44 = .ok (.ireturn, 1) := dk_172 (dk_at dksX2_many_2 4 rfl rfl)
theorem dX2_many_45 : decode cX2_many 45 = .ok (.aload_n 0, 1) := dk_42 (dk_at dksX2_many_2 5 rfl rfl)
theorem dX2_many_46 : decode cX2_many 46 = .ok (.getfield 172, 3) := dk_180 0 172 (dk_at dksX2_many_2 6 rfl rfl)
theorem dX2_many_49 : decode cX2_many 49 = .ok (.ireturn, 1) := dk_172 (dk_at dksX2_many_2 9 rfl rfl)
theorem dX2_many_50 : decode cX2_many 50 = .ok (.aload_n 0, 1) := dk_42 (dk_at dksX2_many_2 10 rfl rfl)
theorem dX2_many_51 : decode cX2_many 51 = .ok (.getfield 142, 3) := dk_180 0 142 (dk_at dksX2_many_2 11 rfl rfl)
theorem dX2_many_54 : decode cX2_many 54 = .ok (.ireturn, 1) := dk_172 (dk_at dksX2_many_2 14 rfl rfl)
theorem dX2_many_55 : decode cX2_many 55 = .ok (.aload_n 0, 1) := dk_42 (dk_at dksX2_many_2 15 rfl rfl)
theorem dX2_many_56 : decode cX2_many 56 = .ok (.getfield 145, 3) := dk_180 0 145 (dk_at dksX2_many_2 16 rfl rfl)
theorem dX2_many_59 : decode cX2_many 59 = .ok (.ireturn, 1) := dk_172 (dk_at dksX2_many_2 19 rfl rfl)
theorem dX2_many_60 : decode cX2_many 60 = .ok (.aload_n 0, 1) := dk_42 (dk_at dksX2_many_2 20 rfl rfl)
theorem dX2_many_61 : decode cX2_many 61 = .ok (.getfield 201, 3) := dk_180 0 201 (dk_at dksX2_many_2 21 rfl rfl)
theorem dX2_many_64 : decode cX2_many 64 = .ok (.ireturn, 1) := dk_172 (dk_at dksX2_many_3 0 rfl rfl)
theorem dX2_many_65 : decode cX2_many 65 = .ok (.bipush (-2), 2) := dk_16 254 (dk_at dksX2_many_3 1 rfl rfl)
theorem dX2_many_67 : decode cX2_many 67 = .ok (.ireturn, 1) := dk_172 (dk_at dksX2_many_3 3 rfl rfl)
theorem q79 : (Jvm.Cond.initialized "SawLineModel") ∈ lw_all := lw_g (lw_at lw_m1 6 rfl) rfl
theorem q573 : (Jvm.Cond.selects "SawLineModel" ({ cls := "java/lang/Object", name := "getClass", desc := "()Ljava/lang/Class;" } : Jvm.MethodName) ({ cls := "java/lang/Object", name := "getClass", desc := "()Ljava/lang/Class;" } : Jvm.MethodName)) ∈ lw_all := lw_g (lw_at lw_m3 20 rfl) rfl
theorem q1072 : (Jvm.Cond.instantiable "SawLineModel" (46 : Nat)) ∈ lw_all := lw_g (lw_at lw_m5 39 rfl) rfl
theorem q1074 : (Jvm.Cond.instanceMethod ({ cls := "SawLineModel", name := "<init>", desc := "()V" } : Jvm.MethodName)) ∈ lw_all := lw_g (lw_at lw_m5 41 rfl) rfl
theorem q1075 : (Jvm.Cond.code ({ cls := "SawLineModel", name := "<init>", desc := "()V" } : Jvm.MethodName) prog_8_method_1_code (2 : Nat) (Option.none : Option Jvm.ClassFile.FieldType)) ∈ lw_all := lw_g (lw_at lw_m5 42 rfl) rfl
theorem q1076 : (Jvm.Cond.methodLink "SawLineModel" (1 : Nat) ({ cls := "java/lang/Object", name := "<init>", desc := "()V" } : Jvm.MethodName)) ∈ lw_all := lw_g (lw_at lw_m5 43 rfl) rfl
theorem q1077 : (Jvm.Cond.fieldLink "SawLineModel" (87 : Nat) "SawLineModel" "fault" "I") ∈ lw_all := lw_g (lw_at lw_m5 44 rfl) rfl
theorem q1078 : (Jvm.Cond.fieldLink "SawLineModel" (116 : Nat) "SawLineModel" "teeth" "I") ∈ lw_all := lw_g (lw_at lw_m5 45 rfl) rfl
theorem q1079 : (Jvm.Cond.fieldLink "SawLineModel" (7 : Nat) "SawLineModel" "kindOf" "[I") ∈ lw_all := lw_g (lw_at lw_m5 46 rfl) rfl
theorem q1080 : (Jvm.Cond.fieldLink "SawLineModel" (13 : Nat) "SawLineModel" "sideOf" "[I") ∈ lw_all := lw_g (lw_at lw_m5 47 rfl) rfl
theorem q1081 : (Jvm.Cond.fieldLink "SawLineModel" (16 : Nat) "SawLineModel" "bendOf" "[I") ∈ lw_all := lw_g (lw_at lw_m5 48 rfl) rfl
theorem q1082 : (Jvm.Cond.fieldLink "SawLineModel" (19 : Nat) "SawLineModel" "heightOf" "[I") ∈ lw_all := lw_g (lw_at lw_m5 49 rfl) rfl
theorem q1083 : (Jvm.Cond.fieldLink "SawLineModel" (22 : Nat) "SawLineModel" "edgeOf" "[I") ∈ lw_all := lw_g (lw_at lw_m5 50 rfl) rfl
theorem q1084 : (Jvm.Cond.fieldLink "SawLineModel" (119 : Nat) "SawLineModel" "readAt" "I") ∈ lw_all := lw_g (lw_at lw_m5 51 rfl) rfl
theorem q1085 : (Jvm.Cond.fieldLink "SawLineModel" (124 : Nat) "SawLineModel" "readMany" "I") ∈ lw_all := lw_g (lw_at lw_m5 52 rfl) rfl
theorem q1086 : (Jvm.Cond.fieldLink "SawLineModel" (25 : Nat) "SawLineModel" "readKind" "[I") ∈ lw_all := lw_g (lw_at lw_m5 53 rfl) rfl
theorem q1087 : (Jvm.Cond.fieldLink "SawLineModel" (28 : Nat) "SawLineModel" "readSide" "[I") ∈ lw_all := lw_g (lw_at lw_m5 54 rfl) rfl
theorem q1088 : (Jvm.Cond.fieldLink "SawLineModel" (31 : Nat) "SawLineModel" "readNumber" "[I") ∈ lw_all := lw_g (lw_at lw_m5 55 rfl) rfl
theorem q1089 : (Jvm.Cond.fieldLink "SawLineModel" (172 : Nat) "SawLineModel" "lines" "I") ∈ lw_all := lw_g (lw_at lw_m5 56 rfl) rfl
theorem q1090 : (Jvm.Cond.fieldLink "SawLineModel" (34 : Nat) "SawLineModel" "hardOf" "[I") ∈ lw_all := lw_g (lw_at lw_m5 57 rfl) rfl
theorem q1091 : (Jvm.Cond.fieldLink "SawLineModel" (37 : Nat) "SawLineModel" "grainOf" "[I") ∈ lw_all := lw_g (lw_at lw_m5 58 rfl) rfl
theorem q1092 : (Jvm.Cond.fieldLink "SawLineModel" (40 : Nat) "SawLineModel" "closesOf" "[I") ∈ lw_all := lw_g (lw_at lw_m5 59 rfl) rfl
theorem q1093 : (Jvm.Cond.fieldLink "SawLineModel" (187 : Nat) "SawLineModel" "leans" "I") ∈ lw_all := lw_g (lw_at lw_m5 60 rfl) rfl
theorem q1094 : (Jvm.Cond.fieldLink "SawLineModel" (190 : Nat) "SawLineModel" "steers" "I") ∈ lw_all := lw_g (lw_at lw_m5 61 rfl) rfl
theorem q1095 : (Jvm.Cond.fieldLink "SawLineModel" (193 : Nat) "SawLineModel" "late" "I") ∈ lw_all := lw_g (lw_at lw_m5 62 rfl) rfl
theorem q1096 : (Jvm.Cond.fieldLink "SawLineModel" (198 : Nat) "SawLineModel" "fenceNow" "I") ∈ lw_all := lw_g (lw_at lw_m5 63 rfl) rfl
theorem q1097 : (Jvm.Cond.fieldLink "SawLineModel" (201 : Nat) "SawLineModel" "strokes" "I") ∈ lw_all := lw_g (lw_at lw_m5 64 rfl) rfl
theorem q1098 : (Jvm.Cond.fieldLink "SawLineModel" (43 : Nat) "SawLineModel" "placeAt" "[I") ∈ lw_all := lw_g (lw_at lw_m5 65 rfl) rfl
theorem q1099 : (Jvm.Cond.fieldLink "SawLineModel" (46 : Nat) "SawLineModel" "headingAt" "[I") ∈ lw_all := lw_g (lw_at lw_m5 66 rfl) rfl
theorem q1100 : (Jvm.Cond.fieldLink "SawLineModel" (204 : Nat) "SawLineModel" "offNow" "I") ∈ lw_all := lw_g (lw_at lw_m5 67 rfl) rfl
theorem q1101 : (Jvm.Cond.fieldLink "SawLineModel" (142 : Nat) "SawLineModel" "flaws" "I") ∈ lw_all := lw_g (lw_at lw_m5 68 rfl) rfl
theorem q1102 : (Jvm.Cond.fieldLink "SawLineModel" (49 : Nat) "SawLineModel" "flawOn" "[I") ∈ lw_all := lw_g (lw_at lw_m5 69 rfl) rfl
theorem q1103 : (Jvm.Cond.fieldLink "SawLineModel" (52 : Nat) "SawLineModel" "flawWhat" "[I") ∈ lw_all := lw_g (lw_at lw_m5 70 rfl) rfl
theorem q1104 : (Jvm.Cond.fieldLink "SawLineModel" (55 : Nat) "SawLineModel" "flawTo" "[I") ∈ lw_all := lw_g (lw_at lw_m5 71 rfl) rfl
theorem q1105 : (Jvm.Cond.fieldLink "SawLineModel" (145 : Nat) "SawLineModel" "readings" "I") ∈ lw_all := lw_g (lw_at lw_m5 72 rfl) rfl
theorem q1106 : (Jvm.Cond.fieldLink "SawLineModel" (58 : Nat) "SawLineModel" "readingLine" "[I") ∈ lw_all := lw_g (lw_at lw_m5 73 rfl) rfl
theorem q1107 : (Jvm.Cond.fieldLink "SawLineModel" (61 : Nat) "SawLineModel" "readingPlace" "[I") ∈ lw_all := lw_g (lw_at lw_m5 74 rfl) rfl
theorem q1108 : (Jvm.Cond.fieldLink "SawLineModel" (231 : Nat) "SawLineModel" "manySets" "I") ∈ lw_all := lw_g (lw_at lw_m5 75 rfl) rfl
theorem q1109 : (Jvm.Cond.fieldLink "SawLineModel" (234 : Nat) "SawLineModel" "firstSet" "I") ∈ lw_all := lw_g (lw_at lw_m5 76 rfl) rfl
theorem q1110 : (Jvm.Cond.fieldLink "SawLineModel" (64 : Nat) "SawLineModel" "setsWith" "[I") ∈ lw_all := lw_g (lw_at lw_m5 77 rfl) rfl
theorem q1111 : (Jvm.Cond.fieldLink "SawLineModel" (250 : Nat) "SawLineModel" "bestCost" "I") ∈ lw_all := lw_g (lw_at lw_m5 78 rfl) rfl
theorem q1112 : (Jvm.Cond.fieldLink "SawLineModel" (253 : Nat) "SawLineModel" "bestMany" "I") ∈ lw_all := lw_g (lw_at lw_m5 79 rfl) rfl
theorem q1113 : (Jvm.Cond.fieldLink "SawLineModel" (256 : Nat) "SawLineModel" "bestFirst" "I") ∈ lw_all := lw_g (lw_at lw_m5 80 rfl) rfl
theorem q1114 : (Jvm.Cond.fieldLink "SawLineModel" (259 : Nat) "SawLineModel" "bestSecond" "I") ∈ lw_all := lw_g (lw_at lw_m5 81 rfl) rfl
theorem q1115 : (Jvm.Cond.fieldLink "SawLineModel" (67 : Nat) "SawLineModel" "kept" "[I") ∈ lw_all := lw_g (lw_at lw_m5 82 rfl) rfl
theorem q1116 : (Jvm.Cond.fieldLink "SawLineModel" (70 : Nat) "SawLineModel" "strain" "[I") ∈ lw_all := lw_g (lw_at lw_m5 83 rfl) rfl
theorem q1117 : (Jvm.Cond.fieldLink "SawLineModel" (294 : Nat) "SawLineModel" "bestOrder" "I") ∈ lw_all := lw_g (lw_at lw_m5 84 rfl) rfl
theorem q1118 : (Jvm.Cond.fieldLink "SawLineModel" (73 : Nat) "SawLineModel" "sheetSize" "[I") ∈ lw_all := lw_g (lw_at lw_m5 85 rfl) rfl
theorem q1119 : (Jvm.Cond.fieldLink "SawLineModel" (76 : Nat) "SawLineModel" "sheetLane" "[I") ∈ lw_all := lw_g (lw_at lw_m5 86 rfl) rfl
theorem q1120 : (Jvm.Cond.fieldLink "SawLineModel" (79 : Nat) "SawLineModel" "sheet" "[I") ∈ lw_all := lw_g (lw_at lw_m5 87 rfl) rfl
theorem q1121 : (Jvm.Cond.fieldLink "SawLineModel" (82 : Nat) "SawLineModel" "hands" "[I") ∈ lw_all := lw_g (lw_at lw_m5 88 rfl) rfl
theorem q1122 : (Jvm.Cond.fieldLink "SawLineModel" (307 : Nat) "SawLineModel" "traceNow" "I") ∈ lw_all := lw_g (lw_at lw_m5 89 rfl) rfl
theorem q1123 : (Jvm.Cond.lays "SawLineModel" "SawLineModel" "fault" "I") ∈ lw_all := lw_g (lw_at lw_m5 90 rfl) rfl
theorem q1124 : (Jvm.Cond.soleField "SawLineModel" "fault") ∈ lw_all := lw_g (lw_at lw_m5 91 rfl) rfl
theorem q1125 : (Jvm.Cond.lays "SawLineModel" "SawLineModel" "teeth" "I") ∈ lw_all := lw_g (lw_at lw_m5 92 rfl) rfl
theorem q1126 : (Jvm.Cond.soleField "SawLineModel" "teeth") ∈ lw_all := lw_g (lw_at lw_m5 93 rfl) rfl
theorem q1127 : (Jvm.Cond.laysFinal "SawLineModel" "SawLineModel" "kindOf" "[I") ∈ lw_all := lw_g (lw_at lw_m5 94 rfl) rfl
theorem q1128 : (Jvm.Cond.soleField "SawLineModel" "kindOf") ∈ lw_all := lw_g (lw_at lw_m5 95 rfl) rfl
theorem q1129 : (Jvm.Cond.laysFinal "SawLineModel" "SawLineModel" "sideOf" "[I") ∈ lw_all := lw_g (lw_at lw_m5 96 rfl) rfl
theorem q1130 : (Jvm.Cond.soleField "SawLineModel" "sideOf") ∈ lw_all := lw_g (lw_at lw_m5 97 rfl) rfl
theorem q1131 : (Jvm.Cond.laysFinal "SawLineModel" "SawLineModel" "bendOf" "[I") ∈ lw_all := lw_g (lw_at lw_m5 98 rfl) rfl
theorem q1132 : (Jvm.Cond.soleField "SawLineModel" "bendOf") ∈ lw_all := lw_g (lw_at lw_m5 99 rfl) rfl
theorem q1133 : (Jvm.Cond.laysFinal "SawLineModel" "SawLineModel" "heightOf" "[I") ∈ lw_all := lw_g (lw_at lw_m5 100 rfl) rfl
theorem q1134 : (Jvm.Cond.soleField "SawLineModel" "heightOf") ∈ lw_all := lw_g (lw_at lw_m5 101 rfl) rfl
theorem q1135 : (Jvm.Cond.laysFinal "SawLineModel" "SawLineModel" "edgeOf" "[I") ∈ lw_all := lw_g (lw_at lw_m5 102 rfl) rfl
theorem q1136 : (Jvm.Cond.soleField "SawLineModel" "edgeOf") ∈ lw_all := lw_g (lw_at lw_m5 103 rfl) rfl
theorem q1137 : (Jvm.Cond.lays "SawLineModel" "SawLineModel" "readAt" "I") ∈ lw_all := lw_g (lw_at lw_m5 104 rfl) rfl
theorem q1138 : (Jvm.Cond.soleField "SawLineModel" "readAt") ∈ lw_all := lw_g (lw_at lw_m5 105 rfl) rfl
theorem q1139 : (Jvm.Cond.lays "SawLineModel" "SawLineModel" "readMany" "I") ∈ lw_all := lw_g (lw_at lw_m5 106 rfl) rfl
theorem q1140 : (Jvm.Cond.soleField "SawLineModel" "readMany") ∈ lw_all := lw_g (lw_at lw_m5 107 rfl) rfl
theorem q1141 : (Jvm.Cond.laysFinal "SawLineModel" "SawLineModel" "readKind" "[I") ∈ lw_all := lw_g (lw_at lw_m5 108 rfl) rfl
theorem q1142 : (Jvm.Cond.soleField "SawLineModel" "readKind") ∈ lw_all := lw_g (lw_at lw_m5 109 rfl) rfl
theorem q1143 : (Jvm.Cond.laysFinal "SawLineModel" "SawLineModel" "readSide" "[I") ∈ lw_all := lw_g (lw_at lw_m5 110 rfl) rfl
theorem q1144 : (Jvm.Cond.soleField "SawLineModel" "readSide") ∈ lw_all := lw_g (lw_at lw_m5 111 rfl) rfl
theorem q1145 : (Jvm.Cond.laysFinal "SawLineModel" "SawLineModel" "readNumber" "[I") ∈ lw_all := lw_g (lw_at lw_m5 112 rfl) rfl
theorem q1146 : (Jvm.Cond.soleField "SawLineModel" "readNumber") ∈ lw_all := lw_g (lw_at lw_m5 113 rfl) rfl
theorem q1147 : (Jvm.Cond.lays "SawLineModel" "SawLineModel" "lines" "I") ∈ lw_all := lw_g (lw_at lw_m5 114 rfl) rfl
theorem q1148 : (Jvm.Cond.soleField "SawLineModel" "lines") ∈ lw_all := lw_g (lw_at lw_m5 115 rfl) rfl
theorem q1149 : (Jvm.Cond.laysFinal "SawLineModel" "SawLineModel" "hardOf" "[I") ∈ lw_all := lw_g (lw_at lw_m5 116 rfl) rfl
theorem q1150 : (Jvm.Cond.soleField "SawLineModel" "hardOf") ∈ lw_all := lw_g (lw_at lw_m5 117 rfl) rfl
theorem q1151 : (Jvm.Cond.laysFinal "SawLineModel" "SawLineModel" "grainOf" "[I") ∈ lw_all := lw_g (lw_at lw_m5 118 rfl) rfl
theorem q1152 : (Jvm.Cond.soleField "SawLineModel" "grainOf") ∈ lw_all := lw_g (lw_at lw_m5 119 rfl) rfl
theorem q1153 : (Jvm.Cond.laysFinal "SawLineModel" "SawLineModel" "closesOf" "[I") ∈ lw_all := lw_g (lw_at lw_m5 120 rfl) rfl
theorem q1154 : (Jvm.Cond.soleField "SawLineModel" "closesOf") ∈ lw_all := lw_g (lw_at lw_m5 121 rfl) rfl
theorem q1155 : (Jvm.Cond.lays "SawLineModel" "SawLineModel" "leans" "I") ∈ lw_all := lw_g (lw_at lw_m5 122 rfl) rfl
theorem q1156 : (Jvm.Cond.soleField "SawLineModel" "leans") ∈ lw_all := lw_g (lw_at lw_m5 123 rfl) rfl
theorem q1157 : (Jvm.Cond.lays "SawLineModel" "SawLineModel" "steers" "I") ∈ lw_all := lw_g (lw_at lw_m5 124 rfl) rfl
theorem q1158 : (Jvm.Cond.soleField "SawLineModel" "steers") ∈ lw_all := lw_g (lw_at lw_m5 125 rfl) rfl
theorem q1159 : (Jvm.Cond.lays "SawLineModel" "SawLineModel" "late" "I") ∈ lw_all := lw_g (lw_at lw_m5 126 rfl) rfl
theorem q1160 : (Jvm.Cond.soleField "SawLineModel" "late") ∈ lw_all := lw_g (lw_at lw_m5 127 rfl) rfl
theorem q1161 : (Jvm.Cond.lays "SawLineModel" "SawLineModel" "fenceNow" "I") ∈ lw_all := lw_g (lw_at lw_m5 128 rfl) rfl
theorem q1162 : (Jvm.Cond.soleField "SawLineModel" "fenceNow") ∈ lw_all := lw_g (lw_at lw_m5 129 rfl) rfl
theorem q1163 : (Jvm.Cond.lays "SawLineModel" "SawLineModel" "strokes" "I") ∈ lw_all := lw_g (lw_at lw_m5 130 rfl) rfl
theorem q1164 : (Jvm.Cond.soleField "SawLineModel" "strokes") ∈ lw_all := lw_g (lw_at lw_m5 131 rfl) rfl
theorem q1165 : (Jvm.Cond.laysFinal "SawLineModel" "SawLineModel" "placeAt" "[I") ∈ lw_all := lw_g (lw_at lw_m5 132 rfl) rfl
theorem q1166 : (Jvm.Cond.soleField "SawLineModel" "placeAt") ∈ lw_all := lw_g (lw_at lw_m5 133 rfl) rfl
theorem q1167 : (Jvm.Cond.laysFinal "SawLineModel" "SawLineModel" "headingAt" "[I") ∈ lw_all := lw_g (lw_at lw_m5 134 rfl) rfl
theorem q1168 : (Jvm.Cond.soleField "SawLineModel" "headingAt") ∈ lw_all := lw_g (lw_at lw_m5 135 rfl) rfl
theorem q1169 : (Jvm.Cond.lays "SawLineModel" "SawLineModel" "offNow" "I") ∈ lw_all := lw_g (lw_at lw_m5 136 rfl) rfl
theorem q1170 : (Jvm.Cond.soleField "SawLineModel" "offNow") ∈ lw_all := lw_g (lw_at lw_m5 137 rfl) rfl
theorem q1171 : (Jvm.Cond.lays "SawLineModel" "SawLineModel" "flaws" "I") ∈ lw_all := lw_g (lw_at lw_m5 138 rfl) rfl
theorem q1172 : (Jvm.Cond.soleField "SawLineModel" "flaws") ∈ lw_all := lw_g (lw_at lw_m5 139 rfl) rfl
theorem q1173 : (Jvm.Cond.laysFinal "SawLineModel" "SawLineModel" "flawOn" "[I") ∈ lw_all := lw_g (lw_at lw_m5 140 rfl) rfl
theorem q1174 : (Jvm.Cond.soleField "SawLineModel" "flawOn") ∈ lw_all := lw_g (lw_at lw_m5 141 rfl) rfl
theorem q1175 : (Jvm.Cond.laysFinal "SawLineModel" "SawLineModel" "flawWhat" "[I") ∈ lw_all := lw_g (lw_at lw_m5 142 rfl) rfl
theorem q1176 : (Jvm.Cond.soleField "SawLineModel" "flawWhat") ∈ lw_all := lw_g (lw_at lw_m5 143 rfl) rfl
theorem q1177 : (Jvm.Cond.laysFinal "SawLineModel" "SawLineModel" "flawTo" "[I") ∈ lw_all := lw_g (lw_at lw_m5 144 rfl) rfl
theorem q1178 : (Jvm.Cond.soleField "SawLineModel" "flawTo") ∈ lw_all := lw_g (lw_at lw_m5 145 rfl) rfl
theorem q1179 : (Jvm.Cond.lays "SawLineModel" "SawLineModel" "readings" "I") ∈ lw_all := lw_g (lw_at lw_m5 146 rfl) rfl
theorem q1180 : (Jvm.Cond.soleField "SawLineModel" "readings") ∈ lw_all := lw_g (lw_at lw_m5 147 rfl) rfl
theorem q1181 : (Jvm.Cond.laysFinal "SawLineModel" "SawLineModel" "readingLine" "[I") ∈ lw_all := lw_g (lw_at lw_m5 148 rfl) rfl
theorem q1182 : (Jvm.Cond.soleField "SawLineModel" "readingLine") ∈ lw_all := lw_g (lw_at lw_m5 149 rfl) rfl
theorem q1183 : (Jvm.Cond.laysFinal "SawLineModel" "SawLineModel" "readingPlace" "[I") ∈ lw_all := lw_g (lw_at lw_m5 150 rfl) rfl
theorem q1184 : (Jvm.Cond.soleField "SawLineModel" "readingPlace") ∈ lw_all := lw_g (lw_at lw_m5 151 rfl) rfl
theorem q1185 : (Jvm.Cond.lays "SawLineModel" "SawLineModel" "manySets" "I") ∈ lw_all := lw_g (lw_at lw_m5 152 rfl) rfl
theorem q1186 : (Jvm.Cond.soleField "SawLineModel" "manySets") ∈ lw_all := lw_g (lw_at lw_m5 153 rfl) rfl
theorem q1187 : (Jvm.Cond.lays "SawLineModel" "SawLineModel" "firstSet" "I") ∈ lw_all := lw_g (lw_at lw_m5 154 rfl) rfl
theorem q1188 : (Jvm.Cond.soleField "SawLineModel" "firstSet") ∈ lw_all := lw_g (lw_at lw_m5 155 rfl) rfl
theorem q1189 : (Jvm.Cond.laysFinal "SawLineModel" "SawLineModel" "setsWith" "[I") ∈ lw_all := lw_g (lw_at lw_m5 156 rfl) rfl
theorem q1190 : (Jvm.Cond.soleField "SawLineModel" "setsWith") ∈ lw_all := lw_g (lw_at lw_m5 157 rfl) rfl
theorem q1191 : (Jvm.Cond.lays "SawLineModel" "SawLineModel" "bestCost" "I") ∈ lw_all := lw_g (lw_at lw_m5 158 rfl) rfl
theorem q1192 : (Jvm.Cond.soleField "SawLineModel" "bestCost") ∈ lw_all := lw_g (lw_at lw_m5 159 rfl) rfl
theorem q1193 : (Jvm.Cond.lays "SawLineModel" "SawLineModel" "bestMany" "I") ∈ lw_all := lw_g (lw_at lw_m5 160 rfl) rfl
theorem q1194 : (Jvm.Cond.soleField "SawLineModel" "bestMany") ∈ lw_all := lw_g (lw_at lw_m5 161 rfl) rfl
theorem q1195 : (Jvm.Cond.lays "SawLineModel" "SawLineModel" "bestFirst" "I") ∈ lw_all := lw_g (lw_at lw_m5 162 rfl) rfl
theorem q1196 : (Jvm.Cond.soleField "SawLineModel" "bestFirst") ∈ lw_all := lw_g (lw_at lw_m5 163 rfl) rfl
theorem q1197 : (Jvm.Cond.lays "SawLineModel" "SawLineModel" "bestSecond" "I") ∈ lw_all := lw_g (lw_at lw_m5 164 rfl) rfl
theorem q1198 : (Jvm.Cond.soleField "SawLineModel" "bestSecond") ∈ lw_all := lw_g (lw_at lw_m5 165 rfl) rfl
theorem q1199 : (Jvm.Cond.laysFinal "SawLineModel" "SawLineModel" "kept" "[I") ∈ lw_all := lw_g (lw_at lw_m5 166 rfl) rfl
theorem q1200 : (Jvm.Cond.soleField "SawLineModel" "kept") ∈ lw_all := lw_g (lw_at lw_m5 167 rfl) rfl
theorem q1201 : (Jvm.Cond.laysFinal "SawLineModel" "SawLineModel" "strain" "[I") ∈ lw_all := lw_g (lw_at lw_m5 168 rfl) rfl
theorem q1202 : (Jvm.Cond.soleField "SawLineModel" "strain") ∈ lw_all := lw_g (lw_at lw_m5 169 rfl) rfl
theorem q1203 : (Jvm.Cond.lays "SawLineModel" "SawLineModel" "bestOrder" "I") ∈ lw_all := lw_g (lw_at lw_m5 170 rfl) rfl
theorem q1204 : (Jvm.Cond.soleField "SawLineModel" "bestOrder") ∈ lw_all := lw_g (lw_at lw_m5 171 rfl) rfl
theorem q1205 : (Jvm.Cond.laysFinal "SawLineModel" "SawLineModel" "sheetSize" "[I") ∈ lw_all := lw_g (lw_at lw_m5 172 rfl) rfl
theorem q1206 : (Jvm.Cond.soleField "SawLineModel" "sheetSize") ∈ lw_all := lw_g (lw_at lw_m5 173 rfl) rfl
theorem q1207 : (Jvm.Cond.laysFinal "SawLineModel" "SawLineModel" "sheetLane" "[I") ∈ lw_all := lw_g (lw_at lw_m5 174 rfl) rfl
theorem q1208 : (Jvm.Cond.soleField "SawLineModel" "sheetLane") ∈ lw_all := lw_g (lw_at lw_m5 175 rfl) rfl
theorem q1209 : (Jvm.Cond.laysFinal "SawLineModel" "SawLineModel" "sheet" "[I") ∈ lw_all := lw_g (lw_at lw_m5 176 rfl) rfl
theorem q1210 : (Jvm.Cond.soleField "SawLineModel" "sheet") ∈ lw_all := lw_g (lw_at lw_m5 177 rfl) rfl
theorem q1211 : (Jvm.Cond.laysFinal "SawLineModel" "SawLineModel" "hands" "[I") ∈ lw_all := lw_g (lw_at lw_m5 178 rfl) rfl
theorem q1212 : (Jvm.Cond.soleField "SawLineModel" "hands") ∈ lw_all := lw_g (lw_at lw_m5 179 rfl) rfl
theorem q1213 : (Jvm.Cond.lays "SawLineModel" "SawLineModel" "traceNow" "I") ∈ lw_all := lw_g (lw_at lw_m5 180 rfl) rfl
theorem q1214 : (Jvm.Cond.soleField "SawLineModel" "traceNow") ∈ lw_all := lw_g (lw_at lw_m5 181 rfl) rfl
theorem q1215 : (Jvm.Cond.superclass "SawLineModel" "java/lang/Object") ∈ lw_all := lw_g (lw_at lw_m5 182 rfl) rfl
theorem q1217 : (Jvm.Cond.instanceMethod ({ cls := "SawLineModel", name := "saw", desc := "(IIII)I" } : Jvm.MethodName)) ∈ lw_all := lw_g (lw_at lw_m5 184 rfl) rfl
theorem q1218 : (Jvm.Cond.selects "SawLineModel" ({ cls := "SawLineModel", name := "saw", desc := "(IIII)I" } : Jvm.MethodName) ({ cls := "SawLineModel", name := "saw", desc := "(IIII)I" } : Jvm.MethodName)) ∈ lw_all := lw_g (lw_at lw_m5 185 rfl) rfl
theorem q1219 : (Jvm.Cond.code ({ cls := "SawLineModel", name := "saw", desc := "(IIII)I" } : Jvm.MethodName) prog_8_method_14_code (7 : Nat) (Option.some Jvm.ClassFile.FieldType.int)) ∈ lw_all := lw_g (lw_at lw_m5 186 rfl) rfl
theorem q1220 : (Jvm.Cond.methodLink "SawLineModel" (134 : Nat) ({ cls := "SawLineModel", name := "barred", desc := "(IIIJ)I" } : Jvm.MethodName)) ∈ lw_all := lw_g (lw_at lw_m5 187 rfl) rfl
theorem q1221 : (Jvm.Cond.privateMethod ({ cls := "SawLineModel", name := "barred", desc := "(IIIJ)I" } : Jvm.MethodName)) ∈ lw_tbl := lw_at lw_m5 188 rfl
theorem q1222 : (Jvm.Cond.instanceMethod ({ cls := "SawLineModel", name := "barred", desc := "(IIIJ)I" } : Jvm.MethodName)) ∈ lw_all := lw_g (lw_at lw_m5 189 rfl) rfl
theorem q1223 : (Jvm.Cond.code ({ cls := "SawLineModel", name := "barred", desc := "(IIIJ)I" } : Jvm.MethodName) prog_8_method_9_code (6 : Nat) (Option.some Jvm.ClassFile.FieldType.int)) ∈ lw_all := lw_g (lw_at lw_m5 190 rfl) rfl
theorem q1224 : (Jvm.Cond.methodLink "SawLineModel" (95 : Nat) ({ cls := "SawLineModel", name := "noSheet", desc := "(I)Z" } : Jvm.MethodName)) ∈ lw_all := lw_g (lw_at lw_m5 191 rfl) rfl
theorem q1225 : (Jvm.Cond.static ({ cls := "SawLineModel", name := "noSheet", desc := "(I)Z" } : Jvm.MethodName)) ∈ lw_all := lw_g (lw_at lw_m5 192 rfl) rfl
theorem q1226 : (Jvm.Cond.code ({ cls := "SawLineModel", name := "noSheet", desc := "(I)Z" } : Jvm.MethodName) prog_8_method_64_code (1 : Nat) (Option.some Jvm.ClassFile.FieldType.boolean)) ∈ lw_all := lw_g (lw_at lw_m5 193 rfl) rfl
theorem q1227 : (Jvm.Cond.constantLong "SawLineModel" (223 : Nat) (3 : Int64)) ∈ lw_all := lw_g (lw_at lw_m5 194 rfl) rfl
theorem q1228 : (Jvm.Cond.methodLink "SawLineModel" (105 : Nat) ({ cls := "SawLineModel", name := "in", desc := "(JJJ)Z" } : Jvm.MethodName)) ∈ lw_all := lw_g (lw_at lw_m5 195 rfl) rfl
theorem q1229 : (Jvm.Cond.static ({ cls := "SawLineModel", name := "in", desc := "(JJJ)Z" } : Jvm.MethodName)) ∈ lw_all := lw_g (lw_at lw_m5 196 rfl) rfl
theorem q1230 : (Jvm.Cond.code ({ cls := "SawLineModel", name := "in", desc := "(JJJ)Z" } : Jvm.MethodName) prog_8_method_2_code (6 : Nat) (Option.some Jvm.ClassFile.FieldType.boolean)) ∈ lw_all := lw_g (lw_at lw_m5 197 rfl) rfl
theorem q1231 : (Jvm.Cond.methodLink "SawLineModel" (99 : Nat) ({ cls := "SawLineModel", name := "refused", desc := "(I)I" } : Jvm.MethodName)) ∈ lw_all := lw_g (lw_at lw_m5 198 rfl) rfl
theorem q1232 : (Jvm.Cond.privateMethod ({ cls := "SawLineModel", name := "refused", desc := "(I)I" } : Jvm.MethodName)) ∈ lw_tbl := lw_at lw_m5 199 rfl
theorem q1233 : (Jvm.Cond.instanceMethod ({ cls := "SawLineModel", name := "refused", desc := "(I)I" } : Jvm.MethodName)) ∈ lw_all := lw_g (lw_at lw_m5 200 rfl) rfl
theorem q1234 : (Jvm.Cond.code ({ cls := "SawLineModel", name := "refused", desc := "(I)I" } : Jvm.MethodName) prog_8_method_6_code (2 : Nat) (Option.some Jvm.ClassFile.FieldType.int)) ∈ lw_all := lw_g (lw_at lw_m5 201 rfl) rfl
theorem q1235 : (Jvm.Cond.constantLong "SawLineModel" (103 : Nat) (2 : Int64)) ∈ lw_all := lw_g (lw_at lw_m5 202 rfl) rfl
theorem q1236 : (Jvm.Cond.methodLink "SawLineModel" (109 : Nat) ({ cls := "SawLineModel", name := "failed", desc := "(I)I" } : Jvm.MethodName)) ∈ lw_all := lw_g (lw_at lw_m5 203 rfl) rfl
theorem q1237 : (Jvm.Cond.privateMethod ({ cls := "SawLineModel", name := "failed", desc := "(I)I" } : Jvm.MethodName)) ∈ lw_tbl := lw_at lw_m5 204 rfl
theorem q1238 : (Jvm.Cond.instanceMethod ({ cls := "SawLineModel", name := "failed", desc := "(I)I" } : Jvm.MethodName)) ∈ lw_all := lw_g (lw_at lw_m5 205 rfl) rfl
theorem q1239 : (Jvm.Cond.code ({ cls := "SawLineModel", name := "failed", desc := "(I)I" } : Jvm.MethodName) prog_8_method_7_code (2 : Nat) (Option.some Jvm.ClassFile.FieldType.int)) ∈ lw_all := lw_g (lw_at lw_m5 206 rfl) rfl
theorem q1240 : (Jvm.Cond.methodLink "SawLineModel" (112 : Nat) ({ cls := "SawLineModel", name := "isBeyond", desc := "(IJI)Z" } : Jvm.MethodName)) ∈ lw_all := lw_g (lw_at lw_m5 207 rfl) rfl
theorem q1241 : (Jvm.Cond.static ({ cls := "SawLineModel", name := "isBeyond", desc := "(IJI)Z" } : Jvm.MethodName)) ∈ lw_all := lw_g (lw_at lw_m5 208 rfl) rfl
theorem q1242 : (Jvm.Cond.code ({ cls := "SawLineModel", name := "isBeyond", desc := "(IJI)Z" } : Jvm.MethodName) prog_8_method_70_code (4 : Nat) (Option.some Jvm.ClassFile.FieldType.boolean)) ∈ lw_all := lw_g (lw_at lw_m5 209 rfl) rfl
theorem q1243 : (Jvm.Cond.methodLink "SawLineModel" (138 : Nat) ({ cls := "SawLineModel", name := "readsSaw", desc := "(II)Z" } : Jvm.MethodName)) ∈ lw_all := lw_g (lw_at lw_m5 210 rfl) rfl
theorem q1244 : (Jvm.Cond.privateMethod ({ cls := "SawLineModel", name := "readsSaw", desc := "(II)Z" } : Jvm.MethodName)) ∈ lw_tbl := lw_at lw_m5 211 rfl
theorem q1245 : (Jvm.Cond.instanceMethod ({ cls := "SawLineModel", name := "readsSaw", desc := "(II)Z" } : Jvm.MethodName)) ∈ lw_all := lw_g (lw_at lw_m5 212 rfl) rfl
theorem q1246 : (Jvm.Cond.code ({ cls := "SawLineModel", name := "readsSaw", desc := "(II)Z" } : Jvm.MethodName) prog_8_method_13_code (5 : Nat) (Option.some Jvm.ClassFile.FieldType.boolean)) ∈ lw_all := lw_g (lw_at lw_m5 213 rfl) rfl
theorem q1247 : (Jvm.Cond.methodLink "SawLineModel" (127 : Nat) ({ cls := "SawLineModel", name := "sideBy", desc := "(I)I" } : Jvm.MethodName)) ∈ lw_all := lw_g (lw_at lw_m5 214 rfl) rfl
theorem q1248 : (Jvm.Cond.static ({ cls := "SawLineModel", name := "sideBy", desc := "(I)I" } : Jvm.MethodName)) ∈ lw_all := lw_g (lw_at lw_m5 215 rfl) rfl
theorem q1249 : (Jvm.Cond.code ({ cls := "SawLineModel", name := "sideBy", desc := "(I)I" } : Jvm.MethodName) prog_8_method_11_code (1 : Nat) (Option.some Jvm.ClassFile.FieldType.int)) ∈ lw_all := lw_g (lw_at lw_m5 216 rfl) rfl
theorem q1250 : (Jvm.Cond.methodLink "SawLineModel" (130 : Nat) ({ cls := "SawLineModel", name := "readsFigures", desc := "(III)Z" } : Jvm.MethodName)) ∈ lw_all := lw_g (lw_at lw_m5 217 rfl) rfl
theorem q1251 : (Jvm.Cond.privateMethod ({ cls := "SawLineModel", name := "readsFigures", desc := "(III)Z" } : Jvm.MethodName)) ∈ lw_tbl := lw_at lw_m5 218 rfl
theorem q1252 : (Jvm.Cond.instanceMethod ({ cls := "SawLineModel", name := "readsFigures", desc := "(III)Z" } : Jvm.MethodName)) ∈ lw_all := lw_g (lw_at lw_m5 219 rfl) rfl
theorem q1253 : (Jvm.Cond.code ({ cls := "SawLineModel", name := "readsFigures", desc := "(III)Z" } : Jvm.MethodName) prog_8_method_12_code (6 : Nat) (Option.some Jvm.ClassFile.FieldType.boolean)) ∈ lw_all := lw_g (lw_at lw_m5 220 rfl) rfl
theorem q1254 : (Jvm.Cond.constantLong "SawLineModel" (122 : Nat) (9 : Int64)) ∈ lw_all := lw_g (lw_at lw_m5 221 rfl) rfl
theorem q1256 : (Jvm.Cond.instanceMethod ({ cls := "SawLineModel", name := "ofTooth", desc := "(II)I" } : Jvm.MethodName)) ∈ lw_all := lw_g (lw_at lw_m5 223 rfl) rfl
theorem q1257 : (Jvm.Cond.selects "SawLineModel" ({ cls := "SawLineModel", name := "ofTooth", desc := "(II)I" } : Jvm.MethodName) ({ cls := "SawLineModel", name := "ofTooth", desc := "(II)I" } : Jvm.MethodName)) ∈ lw_all := lw_g (lw_at lw_m5 224 rfl) rfl
theorem q1258 : (Jvm.Cond.code ({ cls := "SawLineModel", name := "ofTooth", desc := "(II)I" } : Jvm.MethodName) prog_8_method_17_code (3 : Nat) (Option.some Jvm.ClassFile.FieldType.int)) ∈ lw_all := lw_g (lw_at lw_m5 225 rfl) rfl
theorem q1259 : (Jvm.Cond.methodLink "SawLineModel" (151 : Nat) ({ cls := "SawLineModel", name := "noTooth", desc := "(I)Z" } : Jvm.MethodName)) ∈ lw_all := lw_g (lw_at lw_m5 226 rfl) rfl
theorem q1260 : (Jvm.Cond.privateMethod ({ cls := "SawLineModel", name := "noTooth", desc := "(I)Z" } : Jvm.MethodName)) ∈ lw_tbl := lw_at lw_m5 227 rfl
theorem q1261 : (Jvm.Cond.instanceMethod ({ cls := "SawLineModel", name := "noTooth", desc := "(I)Z" } : Jvm.MethodName)) ∈ lw_all := lw_g (lw_at lw_m5 228 rfl) rfl
theorem q1262 : (Jvm.Cond.code ({ cls := "SawLineModel", name := "noTooth", desc := "(I)Z" } : Jvm.MethodName) prog_8_method_10_code (2 : Nat) (Option.some Jvm.ClassFile.FieldType.boolean)) ∈ lw_all := lw_g (lw_at lw_m5 229 rfl) rfl
theorem q1263 : (Jvm.Cond.methodLink "SawLineModel" (148 : Nat) ({ cls := "SawLineModel", name := "takesOf", desc := "(I)I" } : Jvm.MethodName)) ∈ lw_all := lw_g (lw_at lw_m5 230 rfl) rfl
theorem q1264 : (Jvm.Cond.privateMethod ({ cls := "SawLineModel", name := "takesOf", desc := "(I)I" } : Jvm.MethodName)) ∈ lw_tbl := lw_at lw_m5 231 rfl
theorem q1265 : (Jvm.Cond.instanceMethod ({ cls := "SawLineModel", name := "takesOf", desc := "(I)I" } : Jvm.MethodName)) ∈ lw_all := lw_g (lw_at lw_m5 232 rfl) rfl
theorem q1266 : (Jvm.Cond.code ({ cls := "SawLineModel", name := "takesOf", desc := "(I)I" } : Jvm.MethodName) prog_8_method_15_code (3 : Nat) (Option.some Jvm.ClassFile.FieldType.int)) ∈ lw_all := lw_g (lw_at lw_m5 233 rfl) rfl
theorem q1267 : (Jvm.Cond.methodLink "SawLineModel" (154 : Nat) ({ cls := "SawLineModel", name := "pushOf", desc := "(I)I" } : Jvm.MethodName)) ∈ lw_all := lw_g (lw_at lw_m5 234 rfl) rfl
theorem q1268 : (Jvm.Cond.privateMethod ({ cls := "SawLineModel", name := "pushOf", desc := "(I)I" } : Jvm.MethodName)) ∈ lw_tbl := lw_at lw_m5 235 rfl
theorem q1269 : (Jvm.Cond.instanceMethod ({ cls := "SawLineModel", name := "pushOf", desc := "(I)I" } : Jvm.MethodName)) ∈ lw_all := lw_g (lw_at lw_m5 236 rfl) rfl
theorem q1270 : (Jvm.Cond.code ({ cls := "SawLineModel", name := "pushOf", desc := "(I)I" } : Jvm.MethodName) prog_8_method_16_code (2 : Nat) (Option.some Jvm.ClassFile.FieldType.int)) ∈ lw_all := lw_g (lw_at lw_m5 237 rfl) rfl
theorem q1272 : (Jvm.Cond.instanceMethod ({ cls := "SawLineModel", name := "set", desc := "(III)I" } : Jvm.MethodName)) ∈ lw_all := lw_g (lw_at lw_m5 239 rfl) rfl
theorem q1273 : (Jvm.Cond.selects "SawLineModel" ({ cls := "SawLineModel", name := "set", desc := "(III)I" } : Jvm.MethodName) ({ cls := "SawLineModel", name := "set", desc := "(III)I" } : Jvm.MethodName)) ∈ lw_all := lw_g (lw_at lw_m6 0 rfl) rfl
theorem q1274 : (Jvm.Cond.code ({ cls := "SawLineModel", name := "set", desc := "(III)I" } : Jvm.MethodName) prog_8_method_19_code (4 : Nat) (Option.some Jvm.ClassFile.FieldType.int)) ∈ lw_all := lw_g (lw_at lw_m6 1 rfl) rfl
theorem q1275 : (Jvm.Cond.methodLink "SawLineModel" (157 : Nat) ({ cls := "SawLineModel", name := "change", desc := "(III)I" } : Jvm.MethodName)) ∈ lw_all := lw_g (lw_at lw_m6 2 rfl) rfl
theorem q1276 : (Jvm.Cond.privateMethod ({ cls := "SawLineModel", name := "change", desc := "(III)I" } : Jvm.MethodName)) ∈ lw_tbl := lw_at lw_m6 3 rfl
theorem q1277 : (Jvm.Cond.instanceMethod ({ cls := "SawLineModel", name := "change", desc := "(III)I" } : Jvm.MethodName)) ∈ lw_all := lw_g (lw_at lw_m6 4 rfl) rfl
theorem q1278 : (Jvm.Cond.code ({ cls := "SawLineModel", name := "change", desc := "(III)I" } : Jvm.MethodName) prog_8_method_18_code (5 : Nat) (Option.some Jvm.ClassFile.FieldType.int)) ∈ lw_all := lw_g (lw_at lw_m6 5 rfl) rfl
theorem q1280 : (Jvm.Cond.instanceMethod ({ cls := "SawLineModel", name := "ofSaw", desc := "(I)I" } : Jvm.MethodName)) ∈ lw_all := lw_g (lw_at lw_m6 7 rfl) rfl
theorem q1281 : (Jvm.Cond.selects "SawLineModel" ({ cls := "SawLineModel", name := "ofSaw", desc := "(I)I" } : Jvm.MethodName) ({ cls := "SawLineModel", name := "ofSaw", desc := "(I)I" } : Jvm.MethodName)) ∈ lw_all := lw_g (lw_at lw_m6 8 rfl) rfl
theorem q1282 : (Jvm.Cond.code ({ cls := "SawLineModel", name := "ofSaw", desc := "(I)I" } : Jvm.MethodName) prog_8_method_22_code (4 : Nat) (Option.some Jvm.ClassFile.FieldType.int)) ∈ lw_all := lw_g (lw_at lw_m6 9 rfl) rfl
theorem q1283 : (Jvm.Cond.methodLink "SawLineModel" (165 : Nat) ({ cls := "SawLineModel", name := "pushNow", desc := "()I" } : Jvm.MethodName)) ∈ lw_all := lw_g (lw_at lw_m6 10 rfl) rfl
theorem q1284 : (Jvm.Cond.privateMethod ({ cls := "SawLineModel", name := "pushNow", desc := "()I" } : Jvm.MethodName)) ∈ lw_tbl := lw_at lw_m6 11 rfl
theorem q1285 : (Jvm.Cond.instanceMethod ({ cls := "SawLineModel", name := "pushNow", desc := "()I" } : Jvm.MethodName)) ∈ lw_all := lw_g (lw_at lw_m6 12 rfl) rfl
theorem q1286 : (Jvm.Cond.code ({ cls := "SawLineModel", name := "pushNow", desc := "()I" } : Jvm.MethodName) prog_8_method_20_code (3 : Nat) (Option.some Jvm.ClassFile.FieldType.int)) ∈ lw_all := lw_g (lw_at lw_m6 13 rfl) rfl
theorem q1287 : (Jvm.Cond.methodLink "SawLineModel" (169 : Nat) ({ cls := "SawLineModel", name := "kerfNow", desc := "()I" } : Jvm.MethodName)) ∈ lw_all := lw_g (lw_at lw_m6 14 rfl) rfl
theorem q1288 : (Jvm.Cond.privateMethod ({ cls := "SawLineModel", name := "kerfNow", desc := "()I" } : Jvm.MethodName)) ∈ lw_tbl := lw_at lw_m6 15 rfl
theorem q1289 : (Jvm.Cond.instanceMethod ({ cls := "SawLineModel", name := "kerfNow", desc := "()I" } : Jvm.MethodName)) ∈ lw_all := lw_g (lw_at lw_m6 16 rfl) rfl
theorem q1290 : (Jvm.Cond.code ({ cls := "SawLineModel", name := "kerfNow", desc := "()I" } : Jvm.MethodName) prog_8_method_21_code (5 : Nat) (Option.some Jvm.ClassFile.FieldType.int)) ∈ lw_all := lw_g (lw_at lw_m6 17 rfl) rfl
theorem q1291 : (Jvm.Cond.methodLink "SawLineModel" (161 : Nat) ({ cls := "SawLineModel", name := "greater", desc := "(II)I" } : Jvm.MethodName)) ∈ lw_all := lw_g (lw_at lw_m6 18 rfl) rfl
theorem q1292 : (Jvm.Cond.static ({ cls := "SawLineModel", name := "greater", desc := "(II)I" } : Jvm.MethodName)) ∈ lw_all := lw_g (lw_at lw_m6 19 rfl) rfl
theorem q1293 : (Jvm.Cond.code ({ cls := "SawLineModel", name := "greater", desc := "(II)I" } : Jvm.MethodName) prog_8_method_4_code (2 : Nat) (Option.some Jvm.ClassFile.FieldType.int)) ∈ lw_all := lw_g (lw_at lw_m6 20 rfl) rfl
theorem q1295 : (Jvm.Cond.instanceMethod ({ cls := "SawLineModel", name := "board", desc := "(IIII)I" } : Jvm.MethodName)) ∈ lw_all := lw_g (lw_at lw_m6 22 rfl) rfl
theorem q1296 : (Jvm.Cond.selects "SawLineModel" ({ cls := "SawLineModel", name := "board", desc := "(IIII)I" } : Jvm.MethodName) ({ cls := "SawLineModel", name := "board", desc := "(IIII)I" } : Jvm.MethodName)) ∈ lw_all := lw_g (lw_at lw_m6 23 rfl) rfl
theorem q1297 : (Jvm.Cond.code ({ cls := "SawLineModel", name := "board", desc := "(IIII)I" } : Jvm.MethodName) prog_8_method_25_code (7 : Nat) (Option.some Jvm.ClassFile.FieldType.int)) ∈ lw_all := lw_g (lw_at lw_m6 24 rfl) rfl
theorem q1298 : (Jvm.Cond.methodLink "SawLineModel" (177 : Nat) ({ cls := "SawLineModel", name := "readsBoard", desc := "(II)Z" } : Jvm.MethodName)) ∈ lw_all := lw_g (lw_at lw_m6 25 rfl) rfl
theorem q1299 : (Jvm.Cond.privateMethod ({ cls := "SawLineModel", name := "readsBoard", desc := "(II)Z" } : Jvm.MethodName)) ∈ lw_tbl := lw_at lw_m6 26 rfl
theorem q1300 : (Jvm.Cond.instanceMethod ({ cls := "SawLineModel", name := "readsBoard", desc := "(II)Z" } : Jvm.MethodName)) ∈ lw_all := lw_g (lw_at lw_m6 27 rfl) rfl
theorem q1301 : (Jvm.Cond.code ({ cls := "SawLineModel", name := "readsBoard", desc := "(II)Z" } : Jvm.MethodName) prog_8_method_24_code (6 : Nat) (Option.some Jvm.ClassFile.FieldType.boolean)) ∈ lw_all := lw_g (lw_at lw_m6 28 rfl) rfl
theorem q1302 : (Jvm.Cond.constantLong "SawLineModel" (175 : Nat) (8 : Int64)) ∈ lw_all := lw_g (lw_at lw_m6 29 rfl) rfl
theorem q1304 : (Jvm.Cond.instanceMethod ({ cls := "SawLineModel", name := "ofLine", desc := "(II)I" } : Jvm.MethodName)) ∈ lw_all := lw_g (lw_at lw_m6 31 rfl) rfl
theorem q1305 : (Jvm.Cond.selects "SawLineModel" ({ cls := "SawLineModel", name := "ofLine", desc := "(II)I" } : Jvm.MethodName) ({ cls := "SawLineModel", name := "ofLine", desc := "(II)I" } : Jvm.MethodName)) ∈ lw_all := lw_g (lw_at lw_m6 32 rfl) rfl
theorem q1306 : (Jvm.Cond.code ({ cls := "SawLineModel", name := "ofLine", desc := "(II)I" } : Jvm.MethodName) prog_8_method_26_code (3 : Nat) (Option.some Jvm.ClassFile.FieldType.int)) ∈ lw_all := lw_g (lw_at lw_m6 33 rfl) rfl
theorem q1307 : (Jvm.Cond.methodLink "SawLineModel" (180 : Nat) ({ cls := "SawLineModel", name := "noLine", desc := "(I)Z" } : Jvm.MethodName)) ∈ lw_all := lw_g (lw_at lw_m6 34 rfl) rfl
theorem q1308 : (Jvm.Cond.privateMethod ({ cls := "SawLineModel", name := "noLine", desc := "(I)Z" } : Jvm.MethodName)) ∈ lw_tbl := lw_at lw_m6 35 rfl
theorem q1309 : (Jvm.Cond.instanceMethod ({ cls := "SawLineModel", name := "noLine", desc := "(I)Z" } : Jvm.MethodName)) ∈ lw_all := lw_g (lw_at lw_m6 36 rfl) rfl
theorem q1310 : (Jvm.Cond.code ({ cls := "SawLineModel", name := "noLine", desc := "(I)Z" } : Jvm.MethodName) prog_8_method_23_code (2 : Nat) (Option.some Jvm.ClassFile.FieldType.boolean)) ∈ lw_all := lw_g (lw_at lw_m6 37 rfl) rfl
theorem q1312 : (Jvm.Cond.instanceMethod ({ cls := "SawLineModel", name := "hand", desc := "(III)I" } : Jvm.MethodName)) ∈ lw_all := lw_g (lw_at lw_m6 39 rfl) rfl
theorem q1313 : (Jvm.Cond.selects "SawLineModel" ({ cls := "SawLineModel", name := "hand", desc := "(III)I" } : Jvm.MethodName) ({ cls := "SawLineModel", name := "hand", desc := "(III)I" } : Jvm.MethodName)) ∈ lw_all := lw_g (lw_at lw_m6 40 rfl) rfl
theorem q1314 : (Jvm.Cond.code ({ cls := "SawLineModel", name := "hand", desc := "(III)I" } : Jvm.MethodName) prog_8_method_27_code (4 : Nat) (Option.some Jvm.ClassFile.FieldType.int)) ∈ lw_all := lw_g (lw_at lw_m6 41 rfl) rfl
theorem q1315 : (Jvm.Cond.constantLong "SawLineModel" (183 : Nat) (-9 : Int64)) ∈ lw_all := lw_g (lw_at lw_m6 42 rfl) rfl
theorem q1316 : (Jvm.Cond.constantLong "SawLineModel" (185 : Nat) (5 : Int64)) ∈ lw_all := lw_g (lw_at lw_m6 43 rfl) rfl
theorem q1318 : (Jvm.Cond.instanceMethod ({ cls := "SawLineModel", name := "ofHand", desc := "(I)I" } : Jvm.MethodName)) ∈ lw_all := lw_g (lw_at lw_m6 45 rfl) rfl
theorem q1319 : (Jvm.Cond.selects "SawLineModel" ({ cls := "SawLineModel", name := "ofHand", desc := "(I)I" } : Jvm.MethodName) ({ cls := "SawLineModel", name := "ofHand", desc := "(I)I" } : Jvm.MethodName)) ∈ lw_all := lw_g (lw_at lw_m6 46 rfl) rfl
theorem q1320 : (Jvm.Cond.code ({ cls := "SawLineModel", name := "ofHand", desc := "(I)I" } : Jvm.MethodName) prog_8_method_28_code (2 : Nat) (Option.some Jvm.ClassFile.FieldType.int)) ∈ lw_all := lw_g (lw_at lw_m6 47 rfl) rfl
theorem q1322 : (Jvm.Cond.instanceMethod ({ cls := "SawLineModel", name := "fence", desc := "(I)I" } : Jvm.MethodName)) ∈ lw_all := lw_g (lw_at lw_m6 49 rfl) rfl
theorem q1323 : (Jvm.Cond.selects "SawLineModel" ({ cls := "SawLineModel", name := "fence", desc := "(I)I" } : Jvm.MethodName) ({ cls := "SawLineModel", name := "fence", desc := "(I)I" } : Jvm.MethodName)) ∈ lw_all := lw_g (lw_at lw_m6 50 rfl) rfl
theorem q1324 : (Jvm.Cond.code ({ cls := "SawLineModel", name := "fence", desc := "(I)I" } : Jvm.MethodName) prog_8_method_29_code (3 : Nat) (Option.some Jvm.ClassFile.FieldType.int)) ∈ lw_all := lw_g (lw_at lw_m6 51 rfl) rfl
theorem q1325 : (Jvm.Cond.constantLong "SawLineModel" (196 : Nat) (99 : Int64)) ∈ lw_all := lw_g (lw_at lw_m6 52 rfl) rfl
theorem q1327 : (Jvm.Cond.instanceMethod ({ cls := "SawLineModel", name := "where", desc := "(I)J" } : Jvm.MethodName)) ∈ lw_all := lw_g (lw_at lw_m6 54 rfl) rfl
theorem q1328 : (Jvm.Cond.selects "SawLineModel" ({ cls := "SawLineModel", name := "where", desc := "(I)J" } : Jvm.MethodName) ({ cls := "SawLineModel", name := "where", desc := "(I)J" } : Jvm.MethodName)) ∈ lw_all := lw_g (lw_at lw_m6 55 rfl) rfl
theorem q1329 : (Jvm.Cond.code ({ cls := "SawLineModel", name := "where", desc := "(I)J" } : Jvm.MethodName) prog_8_method_33_code (2 : Nat) (Option.some Jvm.ClassFile.FieldType.long)) ∈ lw_all := lw_g (lw_at lw_m6 56 rfl) rfl
theorem q1330 : (Jvm.Cond.methodLink "SawLineModel" (213 : Nat) ({ cls := "SawLineModel", name := "isUncut", desc := "(I)Z" } : Jvm.MethodName)) ∈ lw_all := lw_g (lw_at lw_m6 57 rfl) rfl
theorem q1331 : (Jvm.Cond.privateMethod ({ cls := "SawLineModel", name := "isUncut", desc := "(I)Z" } : Jvm.MethodName)) ∈ lw_tbl := lw_at lw_m6 58 rfl
theorem q1332 : (Jvm.Cond.instanceMethod ({ cls := "SawLineModel", name := "isUncut", desc := "(I)Z" } : Jvm.MethodName)) ∈ lw_all := lw_g (lw_at lw_m6 59 rfl) rfl
theorem q1333 : (Jvm.Cond.code ({ cls := "SawLineModel", name := "isUncut", desc := "(I)Z" } : Jvm.MethodName) prog_8_method_32_code (2 : Nat) (Option.some Jvm.ClassFile.FieldType.boolean)) ∈ lw_all := lw_g (lw_at lw_m6 60 rfl) rfl
theorem q1334 : (Jvm.Cond.methodLink "SawLineModel" (210 : Nat) ({ cls := "SawLineModel", name := "cut", desc := "()V" } : Jvm.MethodName)) ∈ lw_all := lw_g (lw_at lw_m6 61 rfl) rfl
theorem q1335 : (Jvm.Cond.privateMethod ({ cls := "SawLineModel", name := "cut", desc := "()V" } : Jvm.MethodName)) ∈ lw_tbl := lw_at lw_m6 62 rfl
theorem q1336 : (Jvm.Cond.instanceMethod ({ cls := "SawLineModel", name := "cut", desc := "()V" } : Jvm.MethodName)) ∈ lw_all := lw_g (lw_at lw_m6 63 rfl) rfl
theorem q1337 : (Jvm.Cond.code ({ cls := "SawLineModel", name := "cut", desc := "()V" } : Jvm.MethodName) prog_8_method_30_code (8 : Nat) (Option.none : Option Jvm.ClassFile.FieldType)) ∈ lw_all := lw_g (lw_at lw_m6 64 rfl) rfl
theorem q1338 : (Jvm.Cond.methodLink "SawLineModel" (207 : Nat) ({ cls := "SawLineModel", name := "size", desc := "(I)I" } : Jvm.MethodName)) ∈ lw_all := lw_g (lw_at lw_m6 65 rfl) rfl
theorem q1339 : (Jvm.Cond.static ({ cls := "SawLineModel", name := "size", desc := "(I)I" } : Jvm.MethodName)) ∈ lw_all := lw_g (lw_at lw_m6 66 rfl) rfl
theorem q1340 : (Jvm.Cond.code ({ cls := "SawLineModel", name := "size", desc := "(I)I" } : Jvm.MethodName) prog_8_method_5_code (1 : Nat) (Option.some Jvm.ClassFile.FieldType.int)) ∈ lw_all := lw_g (lw_at lw_m6 67 rfl) rfl
theorem q1341 : (Jvm.Cond.methodLink "SawLineModel" (91 : Nat) ({ cls := "SawLineModel", name := "lost", desc := "()J" } : Jvm.MethodName)) ∈ lw_all := lw_g (lw_at lw_m6 68 rfl) rfl
theorem q1342 : (Jvm.Cond.static ({ cls := "SawLineModel", name := "lost", desc := "()J" } : Jvm.MethodName)) ∈ lw_all := lw_g (lw_at lw_m6 69 rfl) rfl
theorem q1343 : (Jvm.Cond.code ({ cls := "SawLineModel", name := "lost", desc := "()J" } : Jvm.MethodName) prog_8_method_3_code (0 : Nat) (Option.some Jvm.ClassFile.FieldType.long)) ∈ lw_all := lw_g (lw_at lw_m6 70 rfl) rfl
theorem q1344 : (Jvm.Cond.constantLong "SawLineModel" (85 : Nat) (-9223372036854775808 : Int64)) ∈ lw_all := lw_g (lw_at lw_m6 71 rfl) rfl
theorem q1346 : (Jvm.Cond.instanceMethod ({ cls := "SawLineModel", name := "heading", desc := "(I)J" } : Jvm.MethodName)) ∈ lw_all := lw_g (lw_at lw_m6 73 rfl) rfl
theorem q1347 : (Jvm.Cond.selects "SawLineModel" ({ cls := "SawLineModel", name := "heading", desc := "(I)J" } : Jvm.MethodName) ({ cls := "SawLineModel", name := "heading", desc := "(I)J" } : Jvm.MethodName)) ∈ lw_all := lw_g (lw_at lw_m6 74 rfl) rfl
theorem q1348 : (Jvm.Cond.code ({ cls := "SawLineModel", name := "heading", desc := "(I)J" } : Jvm.MethodName) prog_8_method_34_code (2 : Nat) (Option.some Jvm.ClassFile.FieldType.long)) ∈ lw_all := lw_g (lw_at lw_m6 75 rfl) rfl
theorem q1350 : (Jvm.Cond.instanceMethod ({ cls := "SawLineModel", name := "off", desc := "()I" } : Jvm.MethodName)) ∈ lw_all := lw_g (lw_at lw_m6 77 rfl) rfl
theorem q1351 : (Jvm.Cond.selects "SawLineModel" ({ cls := "SawLineModel", name := "off", desc := "()I" } : Jvm.MethodName) ({ cls := "SawLineModel", name := "off", desc := "()I" } : Jvm.MethodName)) ∈ lw_all := lw_g (lw_at lw_m6 78 rfl) rfl
theorem q1352 : (Jvm.Cond.code ({ cls := "SawLineModel", name := "off", desc := "()I" } : Jvm.MethodName) prog_8_method_35_code (1 : Nat) (Option.some Jvm.ClassFile.FieldType.int)) ∈ lw_all := lw_g (lw_at lw_m6 79 rfl) rfl
theorem q1353 : (Jvm.Cond.methodLink "SawLineModel" (216 : Nat) ({ cls := "SawLineModel", name := "isBare", desc := "()Z" } : Jvm.MethodName)) ∈ lw_all := lw_g (lw_at lw_m6 80 rfl) rfl
theorem q1354 : (Jvm.Cond.privateMethod ({ cls := "SawLineModel", name := "isBare", desc := "()Z" } : Jvm.MethodName)) ∈ lw_tbl := lw_at lw_m6 81 rfl
theorem q1355 : (Jvm.Cond.instanceMethod ({ cls := "SawLineModel", name := "isBare", desc := "()Z" } : Jvm.MethodName)) ∈ lw_all := lw_g (lw_at lw_m6 82 rfl) rfl
theorem q1356 : (Jvm.Cond.code ({ cls := "SawLineModel", name := "isBare", desc := "()Z" } : Jvm.MethodName) prog_8_method_31_code (1 : Nat) (Option.some Jvm.ClassFile.FieldType.boolean)) ∈ lw_all := lw_g (lw_at lw_m6 83 rfl) rfl
theorem q1358 : (Jvm.Cond.instanceMethod ({ cls := "SawLineModel", name := "pinched", desc := "()I" } : Jvm.MethodName)) ∈ lw_all := lw_g (lw_at lw_m6 85 rfl) rfl
theorem q1359 : (Jvm.Cond.selects "SawLineModel" ({ cls := "SawLineModel", name := "pinched", desc := "()I" } : Jvm.MethodName) ({ cls := "SawLineModel", name := "pinched", desc := "()I" } : Jvm.MethodName)) ∈ lw_all := lw_g (lw_at lw_m6 86 rfl) rfl
theorem q1360 : (Jvm.Cond.code ({ cls := "SawLineModel", name := "pinched", desc := "()I" } : Jvm.MethodName) prog_8_method_36_code (1 : Nat) (Option.some Jvm.ClassFile.FieldType.int)) ∈ lw_all := lw_g (lw_at lw_m6 87 rfl) rfl
theorem q1362 : (Jvm.Cond.instanceMethod ({ cls := "SawLineModel", name := "marks", desc := "(I)I" } : Jvm.MethodName)) ∈ lw_all := lw_g (lw_at lw_m6 89 rfl) rfl
theorem q1363 : (Jvm.Cond.selects "SawLineModel" ({ cls := "SawLineModel", name := "marks", desc := "(I)I" } : Jvm.MethodName) ({ cls := "SawLineModel", name := "marks", desc := "(I)I" } : Jvm.MethodName)) ∈ lw_all := lw_g (lw_at lw_m6 90 rfl) rfl
theorem q1364 : (Jvm.Cond.code ({ cls := "SawLineModel", name := "marks", desc := "(I)I" } : Jvm.MethodName) prog_8_method_38_code (6 : Nat) (Option.some Jvm.ClassFile.FieldType.int)) ∈ lw_all := lw_g (lw_at lw_m6 91 rfl) rfl
theorem q1365 : (Jvm.Cond.methodLink "SawLineModel" (220 : Nat) ({ cls := "SawLineModel", name := "markOf", desc := "(II)I" } : Jvm.MethodName)) ∈ lw_all := lw_g (lw_at lw_m6 92 rfl) rfl
theorem q1366 : (Jvm.Cond.privateMethod ({ cls := "SawLineModel", name := "markOf", desc := "(II)I" } : Jvm.MethodName)) ∈ lw_tbl := lw_at lw_m6 93 rfl
theorem q1367 : (Jvm.Cond.instanceMethod ({ cls := "SawLineModel", name := "markOf", desc := "(II)I" } : Jvm.MethodName)) ∈ lw_all := lw_g (lw_at lw_m6 94 rfl) rfl
theorem q1368 : (Jvm.Cond.code ({ cls := "SawLineModel", name := "markOf", desc := "(II)I" } : Jvm.MethodName) prog_8_method_37_code (3 : Nat) (Option.some Jvm.ClassFile.FieldType.int)) ∈ lw_all := lw_g (lw_at lw_m6 95 rfl) rfl
theorem q1370 : (Jvm.Cond.instanceMethod ({ cls := "SawLineModel", name := "which", desc := "(II)I" } : Jvm.MethodName)) ∈ lw_all := lw_g (lw_at lw_m6 97 rfl) rfl
theorem q1371 : (Jvm.Cond.selects "SawLineModel" ({ cls := "SawLineModel", name := "which", desc := "(II)I" } : Jvm.MethodName) ({ cls := "SawLineModel", name := "which", desc := "(II)I" } : Jvm.MethodName)) ∈ lw_all := lw_g (lw_at lw_m6 98 rfl) rfl
theorem q1372 : (Jvm.Cond.code ({ cls := "SawLineModel", name := "which", desc := "(II)I" } : Jvm.MethodName) prog_8_method_39_code (5 : Nat) (Option.some Jvm.ClassFile.FieldType.int)) ∈ lw_all := lw_g (lw_at lw_m6 99 rfl) rfl
theorem q1374 : (Jvm.Cond.instanceMethod ({ cls := "SawLineModel", name := "straightest", desc := "(I)I" } : Jvm.MethodName)) ∈ lw_all := lw_g (lw_at lw_m6 101 rfl) rfl
theorem q1375 : (Jvm.Cond.selects "SawLineModel" ({ cls := "SawLineModel", name := "straightest", desc := "(I)I" } : Jvm.MethodName) ({ cls := "SawLineModel", name := "straightest", desc := "(I)I" } : Jvm.MethodName)) ∈ lw_all := lw_g (lw_at lw_m6 102 rfl) rfl
theorem q1376 : (Jvm.Cond.code ({ cls := "SawLineModel", name := "straightest", desc := "(I)I" } : Jvm.MethodName) prog_8_method_40_code (8 : Nat) (Option.some Jvm.ClassFile.FieldType.int)) ∈ lw_all := lw_g (lw_at lw_m6 103 rfl) rfl
theorem q1378 : (Jvm.Cond.instanceMethod ({ cls := "SawLineModel", name := "flaw", desc := "(III)I" } : Jvm.MethodName)) ∈ lw_all := lw_g (lw_at lw_m6 105 rfl) rfl
theorem q1379 : (Jvm.Cond.selects "SawLineModel" ({ cls := "SawLineModel", name := "flaw", desc := "(III)I" } : Jvm.MethodName) ({ cls := "SawLineModel", name := "flaw", desc := "(III)I" } : Jvm.MethodName)) ∈ lw_all := lw_g (lw_at lw_m6 106 rfl) rfl
theorem q1380 : (Jvm.Cond.code ({ cls := "SawLineModel", name := "flaw", desc := "(III)I" } : Jvm.MethodName) prog_8_method_42_code (4 : Nat) (Option.some Jvm.ClassFile.FieldType.int)) ∈ lw_all := lw_g (lw_at lw_m6 107 rfl) rfl
theorem q1382 : (Jvm.Cond.instanceMethod ({ cls := "SawLineModel", name := "ofFlaw", desc := "(II)I" } : Jvm.MethodName)) ∈ lw_all := lw_g (lw_at lw_m6 109 rfl) rfl
theorem q1383 : (Jvm.Cond.selects "SawLineModel" ({ cls := "SawLineModel", name := "ofFlaw", desc := "(II)I" } : Jvm.MethodName) ({ cls := "SawLineModel", name := "ofFlaw", desc := "(II)I" } : Jvm.MethodName)) ∈ lw_all := lw_g (lw_at lw_m6 110 rfl) rfl
theorem q1384 : (Jvm.Cond.code ({ cls := "SawLineModel", name := "ofFlaw", desc := "(II)I" } : Jvm.MethodName) prog_8_method_43_code (3 : Nat) (Option.some Jvm.ClassFile.FieldType.int)) ∈ lw_all := lw_g (lw_at lw_m6 111 rfl) rfl
theorem q1385 : (Jvm.Cond.methodLink "SawLineModel" (225 : Nat) ({ cls := "SawLineModel", name := "noFlaw", desc := "(I)Z" } : Jvm.MethodName)) ∈ lw_all := lw_g (lw_at lw_m6 112 rfl) rfl
theorem q1386 : (Jvm.Cond.privateMethod ({ cls := "SawLineModel", name := "noFlaw", desc := "(I)Z" } : Jvm.MethodName)) ∈ lw_tbl := lw_at lw_m6 113 rfl
theorem q1387 : (Jvm.Cond.instanceMethod ({ cls := "SawLineModel", name := "noFlaw", desc := "(I)Z" } : Jvm.MethodName)) ∈ lw_all := lw_g (lw_at lw_m6 114 rfl) rfl
theorem q1388 : (Jvm.Cond.code ({ cls := "SawLineModel", name := "noFlaw", desc := "(I)Z" } : Jvm.MethodName) prog_8_method_41_code (2 : Nat) (Option.some Jvm.ClassFile.FieldType.boolean)) ∈ lw_all := lw_g (lw_at lw_m6 115 rfl) rfl
theorem q1390 : (Jvm.Cond.instanceMethod ({ cls := "SawLineModel", name := "reading", desc := "(II)I" } : Jvm.MethodName)) ∈ lw_all := lw_g (lw_at lw_m6 117 rfl) rfl
theorem q1391 : (Jvm.Cond.selects "SawLineModel" ({ cls := "SawLineModel", name := "reading", desc := "(II)I" } : Jvm.MethodName) ({ cls := "SawLineModel", name := "reading", desc := "(II)I" } : Jvm.MethodName)) ∈ lw_all := lw_g (lw_at lw_m6 118 rfl) rfl
theorem q1392 : (Jvm.Cond.code ({ cls := "SawLineModel", name := "reading", desc := "(II)I" } : Jvm.MethodName) prog_8_method_44_code (3 : Nat) (Option.some Jvm.ClassFile.FieldType.int)) ∈ lw_all := lw_g (lw_at lw_m6 119 rfl) rfl
theorem q1394 : (Jvm.Cond.instanceMethod ({ cls := "SawLineModel", name := "back", desc := "(I)I" } : Jvm.MethodName)) ∈ lw_all := lw_g (lw_at lw_m6 121 rfl) rfl
theorem q1395 : (Jvm.Cond.selects "SawLineModel" ({ cls := "SawLineModel", name := "back", desc := "(I)I" } : Jvm.MethodName) ({ cls := "SawLineModel", name := "back", desc := "(I)I" } : Jvm.MethodName)) ∈ lw_all := lw_g (lw_at lw_m6 122 rfl) rfl
theorem q1396 : (Jvm.Cond.code ({ cls := "SawLineModel", name := "back", desc := "(I)I" } : Jvm.MethodName) prog_8_method_45_code (2 : Nat) (Option.some Jvm.ClassFile.FieldType.int)) ∈ lw_all := lw_g (lw_at lw_m6 123 rfl) rfl
theorem q1398 : (Jvm.Cond.instanceMethod ({ cls := "SawLineModel", name := "likely", desc := "(I)I" } : Jvm.MethodName)) ∈ lw_all := lw_g (lw_at lw_m6 125 rfl) rfl
theorem q1399 : (Jvm.Cond.selects "SawLineModel" ({ cls := "SawLineModel", name := "likely", desc := "(I)I" } : Jvm.MethodName) ({ cls := "SawLineModel", name := "likely", desc := "(I)I" } : Jvm.MethodName)) ∈ lw_all := lw_g (lw_at lw_m6 126 rfl) rfl
theorem q1400 : (Jvm.Cond.code ({ cls := "SawLineModel", name := "likely", desc := "(I)I" } : Jvm.MethodName) prog_8_method_49_code (2 : Nat) (Option.some Jvm.ClassFile.FieldType.int)) ∈ lw_all := lw_g (lw_at lw_m6 127 rfl) rfl
theorem q1401 : (Jvm.Cond.methodLink "SawLineModel" (240 : Nat) ({ cls := "SawLineModel", name := "layLikely", desc := "()V" } : Jvm.MethodName)) ∈ lw_all := lw_g (lw_at lw_m6 128 rfl) rfl
theorem q1402 : (Jvm.Cond.privateMethod ({ cls := "SawLineModel", name := "layLikely", desc := "()V" } : Jvm.MethodName)) ∈ lw_tbl := lw_at lw_m6 129 rfl
theorem q1403 : (Jvm.Cond.instanceMethod ({ cls := "SawLineModel", name := "layLikely", desc := "()V" } : Jvm.MethodName)) ∈ lw_all := lw_g (lw_at lw_m6 130 rfl) rfl
theorem q1404 : (Jvm.Cond.code ({ cls := "SawLineModel", name := "layLikely", desc := "()V" } : Jvm.MethodName) prog_8_method_48_code (4 : Nat) (Option.none : Option Jvm.ClassFile.FieldType)) ∈ lw_all := lw_g (lw_at lw_m6 131 rfl) rfl
theorem q1405 : (Jvm.Cond.methodLink "SawLineModel" (237 : Nat) ({ cls := "SawLineModel", name := "doFit", desc := "(II)Z" } : Jvm.MethodName)) ∈ lw_all := lw_g (lw_at lw_m6 132 rfl) rfl
theorem q1406 : (Jvm.Cond.privateMethod ({ cls := "SawLineModel", name := "doFit", desc := "(II)Z" } : Jvm.MethodName)) ∈ lw_tbl := lw_at lw_m6 133 rfl
theorem q1407 : (Jvm.Cond.instanceMethod ({ cls := "SawLineModel", name := "doFit", desc := "(II)Z" } : Jvm.MethodName)) ∈ lw_all := lw_g (lw_at lw_m6 134 rfl) rfl
theorem q1408 : (Jvm.Cond.code ({ cls := "SawLineModel", name := "doFit", desc := "(II)Z" } : Jvm.MethodName) prog_8_method_47_code (6 : Nat) (Option.some Jvm.ClassFile.FieldType.boolean)) ∈ lw_all := lw_g (lw_at lw_m6 135 rfl) rfl
theorem q1409 : (Jvm.Cond.methodLink "SawLineModel" (228 : Nat) ({ cls := "SawLineModel", name := "doesFit", desc := "()Z" } : Jvm.MethodName)) ∈ lw_all := lw_g (lw_at lw_m6 136 rfl) rfl
theorem q1410 : (Jvm.Cond.privateMethod ({ cls := "SawLineModel", name := "doesFit", desc := "()Z" } : Jvm.MethodName)) ∈ lw_tbl := lw_at lw_m6 137 rfl
theorem q1411 : (Jvm.Cond.instanceMethod ({ cls := "SawLineModel", name := "doesFit", desc := "()Z" } : Jvm.MethodName)) ∈ lw_all := lw_g (lw_at lw_m6 138 rfl) rfl
theorem q1412 : (Jvm.Cond.code ({ cls := "SawLineModel", name := "doesFit", desc := "()Z" } : Jvm.MethodName) prog_8_method_46_code (3 : Nat) (Option.some Jvm.ClassFile.FieldType.boolean)) ∈ lw_all := lw_g (lw_at lw_m6 139 rfl) rfl
theorem q1414 : (Jvm.Cond.instanceMethod ({ cls := "SawLineModel", name := "each", desc := "(I)I" } : Jvm.MethodName)) ∈ lw_all := lw_g (lw_at lw_m6 141 rfl) rfl
theorem q1415 : (Jvm.Cond.selects "SawLineModel" ({ cls := "SawLineModel", name := "each", desc := "(I)I" } : Jvm.MethodName) ({ cls := "SawLineModel", name := "each", desc := "(I)I" } : Jvm.MethodName)) ∈ lw_all := lw_g (lw_at lw_m6 142 rfl) rfl
theorem q1416 : (Jvm.Cond.code ({ cls := "SawLineModel", name := "each", desc := "(I)I" } : Jvm.MethodName) prog_8_method_50_code (2 : Nat) (Option.some Jvm.ClassFile.FieldType.int)) ∈ lw_all := lw_g (lw_at lw_m6 143 rfl) rfl
theorem q1418 : (Jvm.Cond.instanceMethod ({ cls := "SawLineModel", name := "act", desc := "(II)I" } : Jvm.MethodName)) ∈ lw_all := lw_g (lw_at lw_m6 145 rfl) rfl
theorem q1419 : (Jvm.Cond.selects "SawLineModel" ({ cls := "SawLineModel", name := "act", desc := "(II)I" } : Jvm.MethodName) ({ cls := "SawLineModel", name := "act", desc := "(II)I" } : Jvm.MethodName)) ∈ lw_all := lw_g (lw_at lw_m6 146 rfl) rfl
theorem q1420 : (Jvm.Cond.code ({ cls := "SawLineModel", name := "act", desc := "(II)I" } : Jvm.MethodName) prog_8_method_54_code (3 : Nat) (Option.some Jvm.ClassFile.FieldType.int)) ∈ lw_all := lw_g (lw_at lw_m6 147 rfl) rfl
theorem q1421 : (Jvm.Cond.methodLink "SawLineModel" (243 : Nat) ({ cls := "SawLineModel", name := "mayBe", desc := "(II)Z" } : Jvm.MethodName)) ∈ lw_all := lw_g (lw_at lw_m6 148 rfl) rfl
theorem q1422 : (Jvm.Cond.privateMethod ({ cls := "SawLineModel", name := "mayBe", desc := "(II)Z" } : Jvm.MethodName)) ∈ lw_tbl := lw_at lw_m6 149 rfl
theorem q1423 : (Jvm.Cond.instanceMethod ({ cls := "SawLineModel", name := "mayBe", desc := "(II)Z" } : Jvm.MethodName)) ∈ lw_all := lw_g (lw_at lw_m6 150 rfl) rfl
theorem q1424 : (Jvm.Cond.code ({ cls := "SawLineModel", name := "mayBe", desc := "(II)Z" } : Jvm.MethodName) prog_8_method_51_code (3 : Nat) (Option.some Jvm.ClassFile.FieldType.boolean)) ∈ lw_all := lw_g (lw_at lw_m6 151 rfl) rfl
theorem q1425 : (Jvm.Cond.methodLink "SawLineModel" (246 : Nat) ({ cls := "SawLineModel", name := "doAct", desc := "(II)V" } : Jvm.MethodName)) ∈ lw_all := lw_g (lw_at lw_m6 152 rfl) rfl
theorem q1426 : (Jvm.Cond.privateMethod ({ cls := "SawLineModel", name := "doAct", desc := "(II)V" } : Jvm.MethodName)) ∈ lw_tbl := lw_at lw_m6 153 rfl
theorem q1427 : (Jvm.Cond.instanceMethod ({ cls := "SawLineModel", name := "doAct", desc := "(II)V" } : Jvm.MethodName)) ∈ lw_all := lw_g (lw_at lw_m6 154 rfl) rfl
theorem q1428 : (Jvm.Cond.code ({ cls := "SawLineModel", name := "doAct", desc := "(II)V" } : Jvm.MethodName) prog_8_method_52_code (3 : Nat) (Option.none : Option Jvm.ClassFile.FieldType)) ∈ lw_all := lw_g (lw_at lw_m6 155 rfl) rfl
theorem q1430 : (Jvm.Cond.instanceMethod ({ cls := "SawLineModel", name := "mend", desc := "(II)I" } : Jvm.MethodName)) ∈ lw_all := lw_g (lw_at lw_m6 157 rfl) rfl
theorem q1431 : (Jvm.Cond.selects "SawLineModel" ({ cls := "SawLineModel", name := "mend", desc := "(II)I" } : Jvm.MethodName) ({ cls := "SawLineModel", name := "mend", desc := "(II)I" } : Jvm.MethodName)) ∈ lw_all := lw_g (lw_at lw_m6 158 rfl) rfl
theorem q1432 : (Jvm.Cond.code ({ cls := "SawLineModel", name := "mend", desc := "(II)I" } : Jvm.MethodName) prog_8_method_60_code (3 : Nat) (Option.some Jvm.ClassFile.FieldType.int)) ∈ lw_all := lw_g (lw_at lw_m6 159 rfl) rfl
theorem q1433 : (Jvm.Cond.constantLong "SawLineModel" (279 : Nat) (9999 : Int64)) ∈ lw_all := lw_g (lw_at lw_m6 160 rfl) rfl
theorem q1434 : (Jvm.Cond.constantLong "SawLineModel" (281 : Nat) (-2 : Int64)) ∈ lw_all := lw_g (lw_at lw_m6 161 rfl) rfl
theorem q1435 : (Jvm.Cond.methodLink "SawLineModel" (283 : Nat) ({ cls := "SawLineModel", name := "layMend", desc := "(I)V" } : Jvm.MethodName)) ∈ lw_all := lw_g (lw_at lw_m6 162 rfl) rfl
theorem q1436 : (Jvm.Cond.privateMethod ({ cls := "SawLineModel", name := "layMend", desc := "(I)V" } : Jvm.MethodName)) ∈ lw_tbl := lw_at lw_m6 163 rfl
theorem q1437 : (Jvm.Cond.instanceMethod ({ cls := "SawLineModel", name := "layMend", desc := "(I)V" } : Jvm.MethodName)) ∈ lw_all := lw_g (lw_at lw_m6 164 rfl) rfl
theorem q1438 : (Jvm.Cond.code ({ cls := "SawLineModel", name := "layMend", desc := "(I)V" } : Jvm.MethodName) prog_8_method_59_code (5 : Nat) (Option.none : Option Jvm.ClassFile.FieldType)) ∈ lw_all := lw_g (lw_at lw_m6 165 rfl) rfl
theorem q1439 : (Jvm.Cond.methodLink "SawLineModel" (268 : Nat) ({ cls := "SawLineModel", name := "look", desc := "(IIIII)V" } : Jvm.MethodName)) ∈ lw_all := lw_g (lw_at lw_m6 166 rfl) rfl
theorem q1440 : (Jvm.Cond.privateMethod ({ cls := "SawLineModel", name := "look", desc := "(IIIII)V" } : Jvm.MethodName)) ∈ lw_tbl := lw_at lw_m6 167 rfl
theorem q1441 : (Jvm.Cond.instanceMethod ({ cls := "SawLineModel", name := "look", desc := "(IIIII)V" } : Jvm.MethodName)) ∈ lw_all := lw_g (lw_at lw_m6 168 rfl) rfl
theorem q1442 : (Jvm.Cond.code ({ cls := "SawLineModel", name := "look", desc := "(IIIII)V" } : Jvm.MethodName) prog_8_method_55_code (7 : Nat) (Option.none : Option Jvm.ClassFile.FieldType)) ∈ lw_all := lw_g (lw_at lw_m6 169 rfl) rfl
theorem q1443 : (Jvm.Cond.methodLink "SawLineModel" (262 : Nat) ({ cls := "SawLineModel", name := "keep", desc := "(II)V" } : Jvm.MethodName)) ∈ lw_all := lw_g (lw_at lw_m6 170 rfl) rfl
theorem q1444 : (Jvm.Cond.privateMethod ({ cls := "SawLineModel", name := "keep", desc := "(II)V" } : Jvm.MethodName)) ∈ lw_tbl := lw_at lw_m6 171 rfl
theorem q1445 : (Jvm.Cond.instanceMethod ({ cls := "SawLineModel", name := "keep", desc := "(II)V" } : Jvm.MethodName)) ∈ lw_all := lw_g (lw_at lw_m6 172 rfl) rfl
theorem q1446 : (Jvm.Cond.code ({ cls := "SawLineModel", name := "keep", desc := "(II)V" } : Jvm.MethodName) prog_8_method_56_code (3 : Nat) (Option.none : Option Jvm.ClassFile.FieldType)) ∈ lw_all := lw_g (lw_at lw_m6 173 rfl) rfl
theorem q1447 : (Jvm.Cond.methodLink "SawLineModel" (265 : Nat) ({ cls := "SawLineModel", name := "costOf", desc := "(I)I" } : Jvm.MethodName)) ∈ lw_all := lw_g (lw_at lw_m6 174 rfl) rfl
theorem q1448 : (Jvm.Cond.static ({ cls := "SawLineModel", name := "costOf", desc := "(I)I" } : Jvm.MethodName)) ∈ lw_all := lw_g (lw_at lw_m6 175 rfl) rfl
theorem q1449 : (Jvm.Cond.code ({ cls := "SawLineModel", name := "costOf", desc := "(I)I" } : Jvm.MethodName) prog_8_method_53_code (1 : Nat) (Option.some Jvm.ClassFile.FieldType.int)) ∈ lw_all := lw_g (lw_at lw_m6 176 rfl) rfl
theorem q1450 : (Jvm.Cond.methodLink "SawLineModel" (275 : Nat) ({ cls := "SawLineModel", name := "lookFurther", desc := "(III)V" } : Jvm.MethodName)) ∈ lw_all := lw_g (lw_at lw_m6 177 rfl) rfl
theorem q1451 : (Jvm.Cond.privateMethod ({ cls := "SawLineModel", name := "lookFurther", desc := "(III)V" } : Jvm.MethodName)) ∈ lw_tbl := lw_at lw_m6 178 rfl
theorem q1452 : (Jvm.Cond.instanceMethod ({ cls := "SawLineModel", name := "lookFurther", desc := "(III)V" } : Jvm.MethodName)) ∈ lw_all := lw_g (lw_at lw_m6 179 rfl) rfl
theorem q1453 : (Jvm.Cond.code ({ cls := "SawLineModel", name := "lookFurther", desc := "(III)V" } : Jvm.MethodName) prog_8_method_58_code (7 : Nat) (Option.none : Option Jvm.ClassFile.FieldType)) ∈ lw_all := lw_g (lw_at lw_m6 180 rfl) rfl
theorem q1454 : (Jvm.Cond.methodLink "SawLineModel" (272 : Nat) ({ cls := "SawLineModel", name := "putBack", desc := "(II)V" } : Jvm.MethodName)) ∈ lw_all := lw_g (lw_at lw_m6 181 rfl) rfl
theorem q1455 : (Jvm.Cond.privateMethod ({ cls := "SawLineModel", name := "putBack", desc := "(II)V" } : Jvm.MethodName)) ∈ lw_tbl := lw_at lw_m6 182 rfl
theorem q1456 : (Jvm.Cond.instanceMethod ({ cls := "SawLineModel", name := "putBack", desc := "(II)V" } : Jvm.MethodName)) ∈ lw_all := lw_g (lw_at lw_m6 183 rfl) rfl
theorem q1457 : (Jvm.Cond.code ({ cls := "SawLineModel", name := "putBack", desc := "(II)V" } : Jvm.MethodName) prog_8_method_57_code (3 : Nat) (Option.none : Option Jvm.ClassFile.FieldType)) ∈ lw_all := lw_g (lw_at lw_m6 184 rfl) rfl
theorem q1459 : (Jvm.Cond.instanceMethod ({ cls := "SawLineModel", name := "log", desc := "(IIIII)I" } : Jvm.MethodName)) ∈ lw_all := lw_g (lw_at lw_m6 186 rfl) rfl
theorem q1460 : (Jvm.Cond.selects "SawLineModel" ({ cls := "SawLineModel", name := "log", desc := "(IIIII)I" } : Jvm.MethodName) ({ cls := "SawLineModel", name := "log", desc := "(IIIII)I" } : Jvm.MethodName)) ∈ lw_all := lw_g (lw_at lw_m6 187 rfl) rfl
theorem q1461 : (Jvm.Cond.code ({ cls := "SawLineModel", name := "log", desc := "(IIIII)I" } : Jvm.MethodName) prog_8_method_63_code (11 : Nat) (Option.some Jvm.ClassFile.FieldType.int)) ∈ lw_all := lw_g (lw_at lw_m6 188 rfl) rfl
theorem q1462 : (Jvm.Cond.constantLong "SawLineModel" (290 : Nat) (7 : Int64)) ∈ lw_all := lw_g (lw_at lw_m6 189 rfl) rfl
theorem q1463 : (Jvm.Cond.constantLong "SawLineModel" (292 : Nat) (-1 : Int64)) ∈ lw_all := lw_g (lw_at lw_m6 190 rfl) rfl
theorem q1464 : (Jvm.Cond.methodLink "SawLineModel" (297 : Nat) ({ cls := "SawLineModel", name := "costOfOrder", desc := "(II)I" } : Jvm.MethodName)) ∈ lw_all := lw_g (lw_at lw_m6 191 rfl) rfl
theorem q1465 : (Jvm.Cond.privateMethod ({ cls := "SawLineModel", name := "costOfOrder", desc := "(II)I" } : Jvm.MethodName)) ∈ lw_tbl := lw_at lw_m6 192 rfl
theorem q1466 : (Jvm.Cond.instanceMethod ({ cls := "SawLineModel", name := "costOfOrder", desc := "(II)I" } : Jvm.MethodName)) ∈ lw_all := lw_g (lw_at lw_m6 193 rfl) rfl
theorem q1467 : (Jvm.Cond.code ({ cls := "SawLineModel", name := "costOfOrder", desc := "(II)I" } : Jvm.MethodName) prog_8_method_62_code (9 : Nat) (Option.some Jvm.ClassFile.FieldType.int)) ∈ lw_all := lw_g (lw_at lw_m6 194 rfl) rfl
theorem q1468 : (Jvm.Cond.methodLink "SawLineModel" (287 : Nat) ({ cls := "SawLineModel", name := "cutIn", desc := "(III)I" } : Jvm.MethodName)) ∈ lw_all := lw_g (lw_at lw_m6 195 rfl) rfl
theorem q1469 : (Jvm.Cond.static ({ cls := "SawLineModel", name := "cutIn", desc := "(III)I" } : Jvm.MethodName)) ∈ lw_all := lw_g (lw_at lw_m6 196 rfl) rfl
theorem q1470 : (Jvm.Cond.code ({ cls := "SawLineModel", name := "cutIn", desc := "(III)I" } : Jvm.MethodName) prog_8_method_61_code (5 : Nat) (Option.some Jvm.ClassFile.FieldType.int)) ∈ lw_all := lw_g (lw_at lw_m6 197 rfl) rfl
theorem q1472 : (Jvm.Cond.instanceMethod ({ cls := "SawLineModel", name := "sheet", desc := "(III)I" } : Jvm.MethodName)) ∈ lw_all := lw_g (lw_at lw_m6 199 rfl) rfl
theorem q1473 : (Jvm.Cond.selects "SawLineModel" ({ cls := "SawLineModel", name := "sheet", desc := "(III)I" } : Jvm.MethodName) ({ cls := "SawLineModel", name := "sheet", desc := "(III)I" } : Jvm.MethodName)) ∈ lw_all := lw_g (lw_at lw_m6 200 rfl) rfl
theorem q1474 : (Jvm.Cond.code ({ cls := "SawLineModel", name := "sheet", desc := "(III)I" } : Jvm.MethodName) prog_8_method_65_code (5 : Nat) (Option.some Jvm.ClassFile.FieldType.int)) ∈ lw_all := lw_g (lw_at lw_m6 201 rfl) rfl
theorem q1476 : (Jvm.Cond.instanceMethod ({ cls := "SawLineModel", name := "lose", desc := "(I)I" } : Jvm.MethodName)) ∈ lw_all := lw_g (lw_at lw_m6 203 rfl) rfl
theorem q1477 : (Jvm.Cond.selects "SawLineModel" ({ cls := "SawLineModel", name := "lose", desc := "(I)I" } : Jvm.MethodName) ({ cls := "SawLineModel", name := "lose", desc := "(I)I" } : Jvm.MethodName)) ∈ lw_all := lw_g (lw_at lw_m6 204 rfl) rfl
theorem q1478 : (Jvm.Cond.code ({ cls := "SawLineModel", name := "lose", desc := "(I)I" } : Jvm.MethodName) prog_8_method_66_code (3 : Nat) (Option.some Jvm.ClassFile.FieldType.int)) ∈ lw_all := lw_g (lw_at lw_m6 205 rfl) rfl
theorem q1480 : (Jvm.Cond.instanceMethod ({ cls := "SawLineModel", name := "put", desc := "(III)I" } : Jvm.MethodName)) ∈ lw_all := lw_g (lw_at lw_m6 207 rfl) rfl
theorem q1481 : (Jvm.Cond.selects "SawLineModel" ({ cls := "SawLineModel", name := "put", desc := "(III)I" } : Jvm.MethodName) ({ cls := "SawLineModel", name := "put", desc := "(III)I" } : Jvm.MethodName)) ∈ lw_all := lw_g (lw_at lw_m6 208 rfl) rfl
theorem q1482 : (Jvm.Cond.code ({ cls := "SawLineModel", name := "put", desc := "(III)I" } : Jvm.MethodName) prog_8_method_68_code (4 : Nat) (Option.some Jvm.ClassFile.FieldType.int)) ∈ lw_all := lw_g (lw_at lw_m6 209 rfl) rfl
theorem q1483 : (Jvm.Cond.methodLink "SawLineModel" (300 : Nat) ({ cls := "SawLineModel", name := "noCell", desc := "(II)I" } : Jvm.MethodName)) ∈ lw_all := lw_g (lw_at lw_m6 210 rfl) rfl
theorem q1484 : (Jvm.Cond.privateMethod ({ cls := "SawLineModel", name := "noCell", desc := "(II)I" } : Jvm.MethodName)) ∈ lw_tbl := lw_at lw_m6 211 rfl
theorem q1485 : (Jvm.Cond.instanceMethod ({ cls := "SawLineModel", name := "noCell", desc := "(II)I" } : Jvm.MethodName)) ∈ lw_all := lw_g (lw_at lw_m6 212 rfl) rfl
theorem q1486 : (Jvm.Cond.code ({ cls := "SawLineModel", name := "noCell", desc := "(II)I" } : Jvm.MethodName) prog_8_method_67_code (3 : Nat) (Option.some Jvm.ClassFile.FieldType.int)) ∈ lw_all := lw_g (lw_at lw_m6 213 rfl) rfl
theorem q1488 : (Jvm.Cond.instanceMethod ({ cls := "SawLineModel", name := "cell", desc := "(III)J" } : Jvm.MethodName)) ∈ lw_all := lw_g (lw_at lw_m6 215 rfl) rfl
theorem q1489 : (Jvm.Cond.selects "SawLineModel" ({ cls := "SawLineModel", name := "cell", desc := "(III)J" } : Jvm.MethodName) ({ cls := "SawLineModel", name := "cell", desc := "(III)J" } : Jvm.MethodName)) ∈ lw_all := lw_g (lw_at lw_m6 216 rfl) rfl
theorem q1490 : (Jvm.Cond.code ({ cls := "SawLineModel", name := "cell", desc := "(III)J" } : Jvm.MethodName) prog_8_method_69_code (4 : Nat) (Option.some Jvm.ClassFile.FieldType.long)) ∈ lw_all := lw_g (lw_at lw_m6 217 rfl) rfl
theorem q1491 : (Jvm.Cond.methodLink "SawLineModel" (303 : Nat) ({ cls := "SawLineModel", name := "failedLong", desc := "(I)J" } : Jvm.MethodName)) ∈ lw_all := lw_g (lw_at lw_m6 218 rfl) rfl
theorem q1492 : (Jvm.Cond.privateMethod ({ cls := "SawLineModel", name := "failedLong", desc := "(I)J" } : Jvm.MethodName)) ∈ lw_tbl := lw_at lw_m6 219 rfl
theorem q1493 : (Jvm.Cond.instanceMethod ({ cls := "SawLineModel", name := "failedLong", desc := "(I)J" } : Jvm.MethodName)) ∈ lw_all := lw_g (lw_at lw_m6 220 rfl) rfl
theorem q1494 : (Jvm.Cond.code ({ cls := "SawLineModel", name := "failedLong", desc := "(I)J" } : Jvm.MethodName) prog_8_method_8_code (2 : Nat) (Option.some Jvm.ClassFile.FieldType.long)) ∈ lw_all := lw_g (lw_at lw_m6 221 rfl) rfl
theorem q1496 : (Jvm.Cond.instanceMethod ({ cls := "SawLineModel", name := "copy", desc := "(IIIII)I" } : Jvm.MethodName)) ∈ lw_all := lw_g (lw_at lw_m6 223 rfl) rfl
theorem q1497 : (Jvm.Cond.selects "SawLineModel" ({ cls := "SawLineModel", name := "copy", desc := "(IIIII)I" } : Jvm.MethodName) ({ cls := "SawLineModel", name := "copy", desc := "(IIIII)I" } : Jvm.MethodName)) ∈ lw_all := lw_g (lw_at lw_m6 224 rfl) rfl
theorem q1498 : (Jvm.Cond.code ({ cls := "SawLineModel", name := "copy", desc := "(IIIII)I" } : Jvm.MethodName) prog_8_method_71_code (7 : Nat) (Option.some Jvm.ClassFile.FieldType.int)) ∈ lw_all := lw_g (lw_at lw_m6 225 rfl) rfl
theorem q1500 : (Jvm.Cond.instanceMethod ({ cls := "SawLineModel", name := "tell", desc := "(I)I" } : Jvm.MethodName)) ∈ lw_all := lw_g (lw_at lw_m6 227 rfl) rfl
theorem q1501 : (Jvm.Cond.selects "SawLineModel" ({ cls := "SawLineModel", name := "tell", desc := "(I)I" } : Jvm.MethodName) ({ cls := "SawLineModel", name := "tell", desc := "(I)I" } : Jvm.MethodName)) ∈ lw_all := lw_g (lw_at lw_m6 228 rfl) rfl
theorem q1502 : (Jvm.Cond.code ({ cls := "SawLineModel", name := "tell", desc := "(I)I" } : Jvm.MethodName) prog_8_method_73_code (4 : Nat) (Option.some Jvm.ClassFile.FieldType.int)) ∈ lw_all := lw_g (lw_at lw_m6 229 rfl) rfl
theorem q1503 : (Jvm.Cond.methodLink "SawLineModel" (310 : Nat) ({ cls := "SawLineModel", name := "traced", desc := "(I)V" } : Jvm.MethodName)) ∈ lw_all := lw_g (lw_at lw_m6 230 rfl) rfl
theorem q1504 : (Jvm.Cond.privateMethod ({ cls := "SawLineModel", name := "traced", desc := "(I)V" } : Jvm.MethodName)) ∈ lw_tbl := lw_at lw_m6 231 rfl
theorem q1505 : (Jvm.Cond.instanceMethod ({ cls := "SawLineModel", name := "traced", desc := "(I)V" } : Jvm.MethodName)) ∈ lw_all := lw_g (lw_at lw_m6 232 rfl) rfl
theorem q1506 : (Jvm.Cond.code ({ cls := "SawLineModel", name := "traced", desc := "(I)V" } : Jvm.MethodName) prog_8_method_72_code (2 : Nat) (Option.none : Option Jvm.ClassFile.FieldType)) ∈ lw_all := lw_g (lw_at lw_m6 233 rfl) rfl
theorem q1508 : (Jvm.Cond.instanceMethod ({ cls := "SawLineModel", name := "joint", desc := "(I)I" } : Jvm.MethodName)) ∈ lw_all := lw_g (lw_at lw_m6 235 rfl) rfl
theorem q1509 : (Jvm.Cond.selects "SawLineModel" ({ cls := "SawLineModel", name := "joint", desc := "(I)I" } : Jvm.MethodName) ({ cls := "SawLineModel", name := "joint", desc := "(I)I" } : Jvm.MethodName)) ∈ lw_all := lw_g (lw_at lw_m6 236 rfl) rfl
theorem q1510 : (Jvm.Cond.code ({ cls := "SawLineModel", name := "joint", desc := "(I)I" } : Jvm.MethodName) prog_8_method_74_code (2 : Nat) (Option.some Jvm.ClassFile.FieldType.int)) ∈ lw_all := lw_g (lw_at lw_m6 237 rfl) rfl
theorem q1512 : (Jvm.Cond.instanceMethod ({ cls := "SawLineModel", name := "as", desc := "(II)I" } : Jvm.MethodName)) ∈ lw_all := lw_g (lw_at lw_m6 239 rfl) rfl
theorem q1513 : (Jvm.Cond.selects "SawLineModel" ({ cls := "SawLineModel", name := "as", desc := "(II)I" } : Jvm.MethodName) ({ cls := "SawLineModel", name := "as", desc := "(II)I" } : Jvm.MethodName)) ∈ lw_all := lw_g (lw_at lw_m7 0 rfl) rfl
theorem q1514 : (Jvm.Cond.code ({ cls := "SawLineModel", name := "as", desc := "(II)I" } : Jvm.MethodName) prog_8_method_75_code (3 : Nat) (Option.some Jvm.ClassFile.FieldType.int)) ∈ lw_all := lw_g (lw_at lw_m7 1 rfl) rfl
theorem q1516 : (Jvm.Cond.instanceMethod ({ cls := "SawLineModel", name := "trace", desc := "()I" } : Jvm.MethodName)) ∈ lw_all := lw_g (lw_at lw_m7 3 rfl) rfl
theorem q1517 : (Jvm.Cond.selects "SawLineModel" ({ cls := "SawLineModel", name := "trace", desc := "()I" } : Jvm.MethodName) ({ cls := "SawLineModel", name := "trace", desc := "()I" } : Jvm.MethodName)) ∈ lw_all := lw_g (lw_at lw_m7 4 rfl) rfl
theorem q1518 : (Jvm.Cond.code ({ cls := "SawLineModel", name := "trace", desc := "()I" } : Jvm.MethodName) prog_8_method_76_code (1 : Nat) (Option.some Jvm.ClassFile.FieldType.int)) ∈ lw_all := lw_g (lw_at lw_m7 5 rfl) rfl
theorem q1520 : (Jvm.Cond.instanceMethod ({ cls := "SawLineModel", name := "fault", desc := "()I" } : Jvm.MethodName)) ∈ lw_all := lw_g (lw_at lw_m7 7 rfl) rfl
theorem q1521 : (Jvm.Cond.selects "SawLineModel" ({ cls := "SawLineModel", name := "fault", desc := "()I" } : Jvm.MethodName) ({ cls := "SawLineModel", name := "fault", desc := "()I" } : Jvm.MethodName)) ∈ lw_all := lw_g (lw_at lw_m7 8 rfl) rfl
theorem q1522 : (Jvm.Cond.code ({ cls := "SawLineModel", name := "fault", desc := "()I" } : Jvm.MethodName) prog_8_method_77_code (1 : Nat) (Option.some Jvm.ClassFile.FieldType.int)) ∈ lw_all := lw_g (lw_at lw_m7 9 rfl) rfl
theorem q1524 : (Jvm.Cond.instanceMethod ({ cls := "SawLineModel", name := "many", desc := "(I)I" } : Jvm.MethodName)) ∈ lw_all := lw_g (lw_at lw_m7 11 rfl) rfl
theorem q1525 : (Jvm.Cond.selects "SawLineModel" ({ cls := "SawLineModel", name := "many", desc := "(I)I" } : Jvm.MethodName) ({ cls := "SawLineModel", name := "many", desc := "(I)I" } : Jvm.MethodName)) ∈ lw_all := lw_g (lw_at lw_m7 12 rfl) rfl
theorem q1526 : (Jvm.Cond.code ({ cls := "SawLineModel", name := "many", desc := "(I)I" } : Jvm.MethodName) prog_8_method_78_code (2 : Nat) (Option.some Jvm.ClassFile.FieldType.int)) ∈ lw_all := lw_g (lw_at lw_m7 13 rfl) rfl
theorem q1544 : (Jvm.Cond.castable "SawLineModel" "java/lang/Object") ∈ lw_tbl := lw_at lw_m7 31 rfl
theorem in_X2 : ∀ w ∈ wsX20, w ∈ lw_all := lw_in wsX20 [1123, 1125, 1127, 1129, 1131, 1133, 1135, 1137, 1139, 1141, 1143, 1145, 1147, 1149, 1151, 1153, 1155, 1157, 1159, 1161, 1163, 1165, 1167, 1169, 1171, 1173, 1175, 1177, 1179, 1181, 1183, 1185, 1187, 1189, 1191, 1193, 1195, 1197, 1199, 1201, 1203, 1205, 1207, 1209, 1211, 1213] (by decide +kernel) (by decide +kernel)
