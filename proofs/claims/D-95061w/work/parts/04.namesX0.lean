/-! SawLine -/
set_option maxRecDepth 100000
def RX0 : String := "SawLine"
def TX0 : u_T := fun k => match k with
  | 0 => ("SawLine", "fault", "I", false)
  | 1 => ("SawLine", "trace", "I", false)
  | 2 => ("SawLine", "teeth", "Ljava/util/List;", true)
  | 3 => ("SawLine", "at", "I", false)
  | 4 => ("SawLine", "readMany", "I", false)
  | 5 => ("SawLine", "read", "[I", true)
  | 6 => ("SawLine", "lines", "I", false)
  | 7 => ("SawLine", "hard", "[I", true)
  | 8 => ("SawLine", "grain", "[I", true)
  | 9 => ("SawLine", "closes", "[I", true)
  | 10 => ("SawLine", "lean", "I", false)
  | 11 => ("SawLine", "steers", "I", false)
  | 12 => ("SawLine", "late", "I", false)
  | 13 => ("SawLine", "fence", "I", false)
  | 14 => ("SawLine", "strokes", "I", false)
  | 15 => ("SawLine", "places", "[I", true)
  | 16 => ("SawLine", "headings", "[I", true)
  | 17 => ("SawLine", "mostOff", "I", false)
  | 18 => ("SawLine", "straightestOff", "I", false)
  | 19 => ("SawLine", "flaws", "I", false)
  | 20 => ("SawLine", "flawTooth", "[I", true)
  | 21 => ("SawLine", "flawWhat", "[I", true)
  | 22 => ("SawLine", "flawIs", "[I", true)
  | 23 => ("SawLine", "readings", "I", false)
  | 24 => ("SawLine", "readLine", "[I", true)
  | 25 => ("SawLine", "readPlace", "[I", true)
  | 26 => ("SawLine", "kept", "[I", true)
  | 27 => ("SawLine", "fitting", "I", false)
  | 28 => ("SawLine", "firstFit", "I", false)
  | 29 => ("SawLine", "fitsOf", "[I", true)
  | 30 => ("SawLine", "mendCost", "I", false)
  | 31 => ("SawLine", "mendLong", "I", false)
  | 32 => ("SawLine", "mendRow", "[I", true)
  | 33 => ("SawLine", "logOrder", "[I", true)
  | 34 => ("SawLine", "logTried", "[I", true)
  | 35 => ("SawLine", "logCost", "I", false)
  | _ => ("SawLine", "sheets", "[LSawLine$Place;", true)
def tyX0 : Nat → FieldType := fun k => match k with
  | 0 => .int
  | 1 => .int
  | 2 => .object "java/util/List"
  | 3 => .int
  | 4 => .int
  | 5 => .array .int
  | 6 => .int
  | 7 => .array .int
  | 8 => .array .int
  | 9 => .array .int
  | 10 => .int
  | 11 => .int
  | 12 => .int
  | 13 => .int
  | 14 => .int
  | 15 => .array .int
  | 16 => .array .int
  | 17 => .int
  | 18 => .int
  | 19 => .int
  | 20 => .array .int
  | 21 => .array .int
  | 22 => .array .int
  | 23 => .int
  | 24 => .array .int
  | 25 => .array .int
  | 26 => .array .int
  | 27 => .int
  | 28 => .int
  | 29 => .array .int
  | 30 => .int
  | 31 => .int
  | 32 => .array .int
  | 33 => .array .int
  | 34 => .array .int
  | 35 => .int
  | _ => .array (.object "SawLine$Place")
abbrev wsX00 : List Cond := u_ws RX0 TX0 37
set_option maxRecDepth 100000 in
theorem nmX0 : ∀ a, a < 37 → ∀ b, b < 37 → a ≠ b → (TX0 a).2.1 ≠ (TX0 b).2.1 := by decide +kernel
set_option maxRecDepth 100000 in
theorem tyX0_ok : ∀ k, k < 37 → parseFieldDescriptor (TX0 k).2.2.1 = some (tyX0 k) := by decide +kernel
abbrev cX0_init : ByteArray := prog_1_method_1_code
def yX0_init : MethodName := ⟨RX0, "<init>", "()V"⟩
def dkwX0_init_6 : List UInt8 := [184, 0, 67, 181, 0, 70, 177]
abbrev dktX0_init_6 : List UInt8 := dkwX0_init_6 ++ []
def dkwX0_init_5 : List UInt8 := [5, 188, 10, 181, 0, 58, 42, 16, 7, 188, 10, 181, 0, 61, 42, 16, 7, 188, 10, 181, 0, 64, 42, 7]
abbrev dktX0_init_5 : List UInt8 := dkwX0_init_5 ++ dktX0_init_6
def dkwX0_init_4 : List UInt8 := [16, 8, 188, 10, 181, 0, 49, 42, 16, 24, 188, 10, 181, 0, 52, 42, 16, 6, 188, 10, 181, 0, 55, 42]
abbrev dktX0_init_4 : List UInt8 := dkwX0_init_4 ++ dktX0_init_5
def dkwX0_init_3 : List UInt8 := [16, 6, 188, 10, 181, 0, 40, 42, 16, 6, 188, 10, 181, 0, 43, 42, 16, 8, 188, 10, 181, 0, 46, 42]
abbrev dktX0_init_3 : List UInt8 := dkwX0_init_3 ++ dktX0_init_4
def dkwX0_init_2 : List UInt8 := [16, 24, 188, 10, 181, 0, 31, 42, 16, 24, 188, 10, 181, 0, 34, 42, 16, 6, 188, 10, 181, 0, 37, 42]
abbrev dktX0_init_2 : List UInt8 := dkwX0_init_2 ++ dktX0_init_3
def dkwX0_init_1 : List UInt8 := [16, 24, 188, 10, 181, 0, 22, 42, 16, 24, 188, 10, 181, 0, 25, 42, 16, 24, 188, 10, 181, 0, 28, 42]
abbrev dktX0_init_1 : List UInt8 := dkwX0_init_1 ++ dktX0_init_2
def dkwX0_init_0 : List UInt8 := [42, 183, 0, 3, 42, 187, 0, 9, 89, 183, 0, 11, 181, 0, 12, 42, 16, 120, 188, 10, 181, 0, 18, 42]
abbrev dktX0_init_0 : List UInt8 := dkwX0_init_0 ++ dktX0_init_1
theorem dksX0_init_0 : cX0_init.data.toList.drop 0 = dktX0_init_0 := by decide +kernel
theorem dksX0_init_1 : cX0_init.data.toList.drop 24 = dktX0_init_1 := dk_seg dksX0_init_0 24 rfl rfl
theorem dksX0_init_2 : cX0_init.data.toList.drop 48 = dktX0_init_2 := dk_seg dksX0_init_1 24 rfl rfl
theorem dksX0_init_3 : cX0_init.data.toList.drop 72 = dktX0_init_3 := dk_seg dksX0_init_2 24 rfl rfl
theorem dksX0_init_4 : cX0_init.data.toList.drop 96 = dktX0_init_4 := dk_seg dksX0_init_3 24 rfl rfl
theorem dksX0_init_5 : cX0_init.data.toList.drop 120 = dktX0_init_5 := dk_seg dksX0_init_4 24 rfl rfl
theorem dksX0_init_6 : cX0_init.data.toList.drop 144 = dktX0_init_6 := dk_seg dksX0_init_5 24 rfl rfl
theorem dX0_init_0 : decode cX0_init 0 = .ok (.aload_n 0, 1) := dk_42 (dk_at dksX0_init_0 0 rfl rfl)
theorem dX0_init_1 : decode cX0_init 1 = .ok (.invokespecial 3, 3) := dk_183 0 3 (dk_at dksX0_init_0 1 rfl rfl)
theorem dX0_init_4 : decode cX0_init 4 = .ok (.aload_n 0, 1) := dk_42 (dk_at dksX0_init_0 4 rfl rfl)
theorem dX0_init_5 : decode cX0_init 5 = .ok (.new 9, 3) := dk_187 0 9 (dk_at dksX0_init_0 5 rfl rfl)
theorem dX0_init_8 : decode cX0_init 8 = .ok (.dup, 1) := dk_89 (dk_at dksX0_init_0 8 rfl rfl)
theorem dX0_init_9 : decode cX0_init 9 = .ok (.invokespecial 11, 3) := dk_183 0 11 (dk_at dksX0_init_0 9 rfl rfl)
theorem dX0_init_12 : decode cX0_init 12 = .ok (.putfield 12, 3) := dk_181 0 12 (dk_at dksX0_init_0 12 rfl rfl)
theorem dX0_init_15 : decode cX0_init 15 = .ok (.aload_n 0, 1) := dk_42 (dk_at dksX0_init_0 15 rfl rfl)
theorem dX0_init_16 : decode cX0_init 16 = .ok (.bipush 120, 2) := dk_16 120 (dk_at dksX0_init_0 16 rfl rfl)
theorem dX0_init_18 : decode cX0_init 18 = .ok (.newarray .int, 2) := dk_188_10 (dk_at dksX0_init_0 18 rfl rfl)
theorem dX0_init_20 : decode cX0_init 20 = .ok (.putfield 18, 3) := dk_181 0 18 (dk_at dksX0_init_0 20 rfl rfl)
theorem dX0_init_23 : decode cX0_init 23 = .ok (.aload_n 0, 1) := dk_42 (dk_at dksX0_init_0 23 rfl rfl)
theorem dX0_init_24 : decode cX0_init 24 = .ok (.bipush 24, 2) := dk_16 24 (dk_at dksX0_init_1 0 rfl rfl)
theorem dX0_init_26 : decode cX0_init 26 = .ok (.newarray .int, 2) := dk_188_10 (dk_at dksX0_init_1 2 rfl rfl)
theorem dX0_init_28 : decode cX0_init 28 = .ok (.putfield 22, 3) := dk_181 0 22 (dk_at dksX0_init_1 4 rfl rfl)
theorem dX0_init_31 : decode cX0_init 31 = .ok (.aload_n 0, 1) := dk_42 (dk_at dksX0_init_1 7 rfl rfl)
theorem dX0_init_32 : decode cX0_init 32 = .ok (.bipush 24, 2) := dk_16 24 (dk_at dksX0_init_1 8 rfl rfl)
theorem dX0_init_34 : decode cX0_init 34 = .ok (.newarray .int, 2) := dk_188_10 (dk_at dksX0_init_1 10 rfl rfl)
theorem dX0_init_36 : decode cX0_init 36 = .ok (.putfield 25, 3) := dk_181 0 25 (dk_at dksX0_init_1 12 rfl rfl)
theorem dX0_init_39 : decode cX0_init 39 = .ok (.aload_n 0, 1) := dk_42 (dk_at dksX0_init_1 15 rfl rfl)
theorem dX0_init_40 : decode cX0_init 40 = .ok (.bipush 24, 2) := dk_16 24 (dk_at dksX0_init_1 16 rfl rfl)
theorem dX0_init_42 : decode cX0_init 42 = .ok (.newarray .int, 2) := dk_188_10 (dk_at dksX0_init_1 18 rfl rfl)
theorem dX0_init_44 : decode cX0_init 44 = .ok (.putfield 28, 3) := dk_181 0 28 (dk_at dksX0_init_1 20 rfl rfl)
theorem dX0_init_47 : decode cX0_init 47 = .ok (.aload_n 0, 1) := dk_42 (dk_at dksX0_init_1 23 rfl rfl)
theorem dX0_init_48 : decode cX0_init 48 = .ok (.bipush 24, 2) := dk_16 24 (dk_at dksX0_init_2 0 rfl rfl)
theorem dX0_init_50 : decode cX0_init 50 = .ok (.newarray .int, 2) := dk_188_10 (dk_at dksX0_init_2 2 rfl rfl)
theorem dX0_init_52 : decode cX0_init 52 = .ok (.putfield 31, 3) := dk_181 0 31 (dk_at dksX0_init_2 4 rfl rfl)
theorem dX0_init_55 : decode cX0_init 55 = .ok (.aload_n 0, 1) := dk_42 (dk_at dksX0_init_2 7 rfl rfl)
theorem dX0_init_56 : decode cX0_init 56 = .ok (.bipush 24, 2) := dk_16 24 (dk_at dksX0_init_2 8 rfl rfl)
theorem dX0_init_58 : decode cX0_init 58 = .ok (.newarray .int, 2) := dk_188_10 (dk_at dksX0_init_2 10 rfl rfl)
theorem dX0_init_60 : decode cX0_init 60 = .ok (.putfield 34, 3) := dk_181 0 34 (dk_at dksX0_init_2 12 rfl rfl)
theorem dX0_init_63 : decode cX0_init 63 = .ok (.aload_n 0, 1) := dk_42 (dk_at dksX0_init_2 15 rfl rfl)
theorem dX0_init_64 : decode cX0_init 64 = .ok (.bipush 6, 2) := dk_16 6 (dk_at dksX0_init_2 16 rfl rfl)
theorem dX0_init_66 : decode cX0_init 66 = .ok (.newarray .int, 2) := dk_188_10 (dk_at dksX0_init_2 18 rfl rfl)
theorem dX0_init_68 : decode cX0_init 68 = .ok (.putfield 37, 3) := dk_181 0 37 (dk_at dksX0_init_2 20 rfl rfl)
theorem dX0_init_71 : decode cX0_init 71 = .ok (.aload_n 0, 1) := dk_42 (dk_at dksX0_init_2 23 rfl rfl)
theorem dX0_init_72 : decode cX0_init 72 = .ok (.bipush 6, 2) := dk_16 6 (dk_at dksX0_init_3 0 rfl rfl)
theorem dX0_init_74 : decode cX0_init 74 = .ok (.newarray .int, 2) := dk_188_10 (dk_at dksX0_init_3 2 rfl rfl)
theorem dX0_init_76 : decode cX0_init 76 = .ok (.putfield 40, 3) := dk_181 0 40 (dk_at dksX0_init_3 4 rfl rfl)
theorem dX0_init_79 : decode cX0_init 79 = .ok (.aload_n 0, 1) := dk_42 (dk_at dksX0_init_3 7 rfl rfl)
theorem dX0_init_80 : decode cX0_init 80 = .ok (.bipush 6, 2) := dk_16 6 (dk_at dksX0_init_3 8 rfl rfl)
theorem dX0_init_82 : decode cX0_init 82 = .ok (.newarray .int, 2) := dk_188_10 (dk_at dksX0_init_3 10 rfl rfl)
theorem dX0_init_84 : decode cX0_init 84 = .ok (.putfield 43, 3) := dk_181 0 43 (dk_at dksX0_init_3 12 rfl rfl)
theorem dX0_init_87 : decode cX0_init 87 = .ok (.aload_n 0, 1) := dk_42 (dk_at dksX0_init_3 15 rfl rfl)
theorem dX0_init_88 : decode cX0_init 88 = .ok (.bipush 8, 2) := dk_16 8 (dk_at dksX0_init_3 16 rfl rfl)
theorem dX0_init_90 : decode cX0_init 90 = .ok (.newarray .int, 2) := dk_188_10 (dk_at dksX0_init_3 18 rfl rfl)
theorem dX0_init_92 : decode cX0_init 92 = .ok (.putfield 46, 3) := dk_181 0 46 (dk_at dksX0_init_3 20 rfl rfl)
theorem dX0_init_95 : decode cX0_init 95 = .ok (.aload_n 0, 1) := dk_42 (dk_at dksX0_init_3 23 rfl rfl)
theorem dX0_init_96 : decode cX0_init 96 = .ok (.bipush 8, 2) := dk_16 8 (dk_at dksX0_init_4 0 rfl rfl)
theorem dX0_init_98 : decode cX0_init 98 = .ok (.newarray .int, 2) := dk_188_10 (dk_at dksX0_init_4 2 rfl rfl)
theorem dX0_init_100 : decode cX0_init 100 = .ok (.putfield 49, 3) := dk_181 0 49 (dk_at dksX0_init_4 4 rfl rfl)
theorem dX0_init_103 : decode cX0_init 103 = .ok (.aload_n 0, 1) := dk_42 (dk_at dksX0_init_4 7 rfl rfl)
theorem dX0_init_104 : decode cX0_init 104 = .ok (.bipush 24, 2) := dk_16 24 (dk_at dksX0_init_4 8 rfl rfl)
theorem dX0_init_106 : decode cX0_init 106 = .ok (.newarray .int, 2) := dk_188_10 (dk_at dksX0_init_4 10 rfl rfl)
theorem dX0_init_108 : decode cX0_init 108 = .ok (.putfield 52, 3) := dk_181 0 52 (dk_at dksX0_init_4 12 rfl rfl)
theorem dX0_init_111 : decode cX0_init 111 = .ok (.aload_n 0, 1) := dk_42 (dk_at dksX0_init_4 15 rfl rfl)
theorem dX0_init_112 : decode cX0_init 112 = .ok (.bipush 6, 2) := dk_16 6 (dk_at dksX0_init_4 16 rfl rfl)
theorem dX0_init_114 : decode cX0_init 114 = .ok (.newarray .int, 2) := dk_188_10 (dk_at dksX0_init_4 18 rfl rfl)
theorem dX0_init_116 : decode cX0_init 116 = .ok (.putfield 55, 3) := dk_181 0 55 (dk_at dksX0_init_4 20 rfl rfl)
theorem dX0_init_119 : decode cX0_init 119 = .ok (.aload_n 0, 1) := dk_42 (dk_at dksX0_init_4 23 rfl rfl)
theorem dX0_init_120 : decode cX0_init 120 = .ok (.iconst 2, 1) := dk_5 (dk_at dksX0_init_5 0 rfl rfl)
theorem dX0_init_121 : decode cX0_init 121 = .ok (.newarray .int, 2) := dk_188_10 (dk_at dksX0_init_5 1 rfl rfl)
theorem dX0_init_123 : decode cX0_init 123 = .ok (.putfield 58, 3) := dk_181 0 58 (dk_at dksX0_init_5 3 rfl rfl)
theorem dX0_init_126 : decode cX0_init 126 = .ok (.aload_n 0, 1) := dk_42 (dk_at dksX0_init_5 6 rfl rfl)
theorem dX0_init_127 : decode cX0_init 127 = .ok (.bipush 7, 2) := dk_16 7 (dk_at dksX0_init_5 7 rfl rfl)
theorem dX0_init_129 : decode cX0_init 129 = .ok (.newarray .int, 2) := dk_188_10 (dk_at dksX0_init_5 9 rfl rfl)
theorem dX0_init_131 : decode cX0_init 131 = .ok (.putfield 61, 3) := dk_181 0 61 (dk_at dksX0_init_5 11 rfl rfl)
theorem dX0_init_134 : decode cX0_init 134 = .ok (.aload_n 0, 1) := dk_42 (dk_at dksX0_init_5 14 rfl rfl)
theorem dX0_init_135 : decode cX0_init 135 = .ok (.bipush 7, 2) := dk_16 7 (dk_at dksX0_init_5 15 rfl rfl)
theorem dX0_init_137 : decode cX0_init 137 = .ok (.newarray .int, 2) := dk_188_10 (dk_at dksX0_init_5 17 rfl rfl)
theorem dX0_init_139 : decode cX0_init 139 = .ok (.putfield 64, 3) := dk_181 0 64 (dk_at dksX0_init_5 19 rfl rfl)
theorem dX0_init_142 : decode cX0_init 142 = .ok (.aload_n 0, 1) := dk_42 (dk_at dksX0_init_5 22 rfl rfl)
theorem dX0_init_143 : decode cX0_init 143 = .ok (.iconst 4, 1) := dk_7 (dk_at dksX0_init_5 23 rfl rfl)
theorem dX0_init_144 : decode cX0_init 144 = .ok (.invokestatic 67, 3) := dk_184 0 67 (dk_at dksX0_init_6 0 rfl rfl)
theorem dX0_init_147 : decode cX0_init 147 = .ok (.putfield 70, 3) := dk_181 0 70 (dk_at dksX0_init_6 3 rfl rfl)
theorem dX0_init_150 : decode cX0_init 150 = .ok (.return_, 1) := dk_177 (dk_at dksX0_init_6 6 rfl rfl)
abbrev cX0_places : ByteArray := prog_1_method_71_code
def yX0_places : MethodName := ⟨RX0, "places", "(I)[LSawLine$Place;"⟩
def dkwX0_places_1 : List UInt8 := [132, 2, 1, 167, 255, 238, 43, 176]
abbrev dktX0_places_1 : List UInt8 := dkwX0_places_1 ++ []
def dkwX0_places_0 : List UInt8 := [26, 189, 0, 156, 76, 3, 61, 28, 26, 162, 0, 19, 43, 28, 187, 0, 156, 89, 183, 1, 154, 83]
abbrev dktX0_places_0 : List UInt8 := dkwX0_places_0 ++ dktX0_places_1
theorem dksX0_places_0 : cX0_places.data.toList.drop 0 = dktX0_places_0 := by decide +kernel
theorem dksX0_places_1 : cX0_places.data.toList.drop 22 = dktX0_places_1 := dk_seg dksX0_places_0 22 rfl rfl
theorem dX0_places_0 : decode cX0_places 0 = .ok (.iload_n 0, 1) := dk_26 (dk_at dksX0_places_0 0 rfl rfl)
theorem dX0_places_1 : decode cX0_places 1 = .ok (.anewarray 156, 3) := dk_189 0 156 (dk_at dksX0_places_0 1 rfl rfl)
theorem dX0_places_4 : decode cX0_places 4 = .ok (.astore_n 1, 1) := dk_76 (dk_at dksX0_places_0 4 rfl rfl)
theorem dX0_places_5 : decode cX0_places 5 = .ok (.iconst 0, 1) := dk_3 (dk_at dksX0_places_0 5 rfl rfl)
theorem dX0_places_6 : decode cX0_places 6 = .ok (.istore_n 2, 1) := dk_61 (dk_at dksX0_places_0 6 rfl rfl)
theorem dX0_places_7 : decode cX0_places 7 = .ok (.iload_n 2, 1) := dk_28 (dk_at dksX0_places_0 7 rfl rfl)
theorem dX0_places_8 : decode cX0_places 8 = .ok (.iload_n 0, 1) := dk_26 (dk_at dksX0_places_0 8 rfl rfl)
theorem dX0_places_9 : decode cX0_places 9 = .ok (.if_icmp .ge 19, 3) := dk_162 0 19 (dk_at dksX0_places_0 9 rfl rfl)
theorem dX0_places_12 : decode cX0_places 12 = .ok (.aload_n 1, 1) := dk_43 (dk_at dksX0_places_0 12 rfl rfl)
theorem dX0_places_13 : decode cX0_places 13 = .ok (.iload_n 2, 1) := dk_28 (dk_at dksX0_places_0 13 rfl rfl)
theorem dX0_places_14 : decode cX0_places 14 = .ok (.new 156, 3) := dk_187 0 156 (dk_at dksX0_places_0 14 rfl rfl)
theorem dX0_places_17 : decode cX0_places 17 = .ok (.dup, 1) := dk_89 (dk_at dksX0_places_0 17 rfl rfl)
theorem dX0_places_18 : decode cX0_places 18 = .ok (.invokespecial 410, 3) := dk_183 1 154 (dk_at dksX0_places_0 18 rfl rfl)
theorem dX0_places_21 : decode cX0_places 21 = .ok (.aastore, 1) := dk_83 (dk_at dksX0_places_0 21 rfl rfl)
theorem dX0_places_22 : decode cX0_places 22 = .ok (.iinc 2 1, 3) := dk_132 2 1 (dk_at dksX0_places_1 0 rfl rfl)
theorem dX0_places_25 : decode cX0_places 25 = .ok (.goto (-18), 3) := dk_167 255 238 (dk_at dksX0_places_1 3 rfl rfl)
theorem dX0_places_28 : decode cX0_places 28 = .ok (.aload_n 1, 1) := dk_43 (dk_at dksX0_places_1 6 rfl rfl)
theorem dX0_places_29 : decode cX0_places 29 = .ok (.areturn, 1) := dk_176 (dk_at dksX0_places_1 7 rfl rfl)
abbrev cX0_saw : ByteArray := prog_1_method_15_code
def yX0_saw : MethodName := ⟨RX0, "saw", "(IIII)I"⟩
def dkwX0_saw_3 : List UInt8 := [58, 5, 42, 6, 182, 0, 175, 172]
abbrev dktX0_saw_3 : List UInt8 := dkwX0_saw_3 ++ []
def dkwX0_saw_2 : List UInt8 := [58, 5, 42, 5, 182, 0, 175, 172, 58, 5, 42, 4, 182, 0, 175, 172, 58, 5, 42, 7, 182, 0, 175, 172]
abbrev dktX0_saw_2 : List UInt8 := dkwX0_saw_2 ++ dktX0_saw_3
def dkwX0_saw_1 : List UInt8 := [42, 42, 180, 0, 70, 27, 50, 180, 0, 155, 28, 184, 0, 161, 29, 21, 4, 184, 0, 165, 182, 0, 169, 172]
abbrev dktX0_saw_1 : List UInt8 := dkwX0_saw_1 ++ dktX0_saw_2
def dkwX0_saw_0 : List UInt8 := [42, 3, 181, 0, 80, 27, 184, 0, 148, 154, 0, 5, 2, 172, 28, 184, 0, 152, 154, 0, 6, 16, 254, 172]
abbrev dktX0_saw_0 : List UInt8 := dkwX0_saw_0 ++ dktX0_saw_1
theorem dksX0_saw_0 : cX0_saw.data.toList.drop 0 = dktX0_saw_0 := by decide +kernel
theorem dksX0_saw_1 : cX0_saw.data.toList.drop 24 = dktX0_saw_1 := dk_seg dksX0_saw_0 24 rfl rfl
theorem dksX0_saw_2 : cX0_saw.data.toList.drop 48 = dktX0_saw_2 := dk_seg dksX0_saw_1 24 rfl rfl
theorem dksX0_saw_3 : cX0_saw.data.toList.drop 72 = dktX0_saw_3 := dk_seg dksX0_saw_2 24 rfl rfl
theorem dX0_saw_0 : decode cX0_saw 0 = .ok (.aload_n 0, 1) := dk_42 (dk_at dksX0_saw_0 0 rfl rfl)
theorem dX0_saw_1 : decode cX0_saw 1 = .ok (.iconst 0, 1) := dk_3 (dk_at dksX0_saw_0 1 rfl rfl)
theorem dX0_saw_2 : decode cX0_saw 2 = .ok (.putfield 80, 3) := dk_181 0 80 (dk_at dksX0_saw_0 2 rfl rfl)
theorem dX0_saw_5 : decode cX0_saw 5 = .ok (.iload_n 1, 1) := dk_27 (dk_at dksX0_saw_0 5 rfl rfl)
theorem dX0_saw_6 : decode cX0_saw 6 = .ok (.invokestatic 148, 3) := dk_184 0 148 (dk_at dksX0_saw_0 6 rfl rfl)
theorem dX0_saw_9 : decode cX0_saw 9 = .ok (.ifCond .ne 5, 3) := dk_154 0 5 (dk_at dksX0_saw_0 9 rfl rfl)
theorem dX0_saw_12 : decode cX0_saw 12 = .ok (.iconst (-1), 1) := dk_2 (dk_at dksX0_saw_0 12 rfl rfl)
theorem dX0_saw_13 : decode cX0_saw 13 = .ok (.ireturn, 1) := dk_172 (dk_at dksX0_saw_0 13 rfl rfl)
theorem dX0_saw_14 : decode cX0_saw 14 = .ok (.iload_n 2, 1) := dk_28 (dk_at dksX0_saw_0 14 rfl rfl)
theorem dX0_saw_15 : decode cX0_saw 15 = .ok (.invokestatic 152, 3) := dk_184 0 152 (dk_at dksX0_saw_0 15 rfl rfl)
theorem dX0_saw_18 : decode cX0_saw 18 = .ok (.ifCond .ne 6, 3) := dk_154 0 6 (dk_at dksX0_saw_0 18 rfl rfl)
theorem dX0_saw_21 : decode cX0_saw 21 = .ok (.bipush (-2), 2) := dk_16 254 (dk_at dksX0_saw_0 21 rfl rfl)
theorem dX0_saw_23 : decode cX0_saw 23 = .ok (.ireturn, 1) := dk_172 (dk_at dksX0_saw_0 23 rfl rfl)
theorem dX0_saw_24 : decode cX0_saw 24 = .ok (.aload_n 0, 1) := dk_42 (dk_at dksX0_saw_1 0 rfl rfl)
theorem dX0_saw_25 : decode cX0_saw 25 = .ok (.aload_n 0, 1) := dk_42 (dk_at dksX0_saw_1 1 rfl rfl)
theorem dX0_saw_26 : decode cX0_saw 26 = .ok (.getfield 70, 3) := dk_180 0 70 (dk_at dksX0_saw_1 2 rfl rfl)
theorem dX0_saw_29 : decode cX0_saw 29 = .ok (.iload_n 1, 1) := dk_27 (dk_at dksX0_saw_1 5 rfl rfl)
theorem dX0_saw_30 : decode cX0_saw 30 = .ok (.aaload, 1) := dk_50 (dk_at dksX0_saw_1 6 rfl rfl)
theorem dX0_saw_31 : decode cX0_saw 31 = .ok (.getfield 155, 3) := dk_180 0 155 (dk_at dksX0_saw_1 7 rfl rfl)
theorem dX0_saw_34 : decode cX0_saw 34 = .ok (.iload_n 2, 1) := dk_28 (dk_at dksX0_saw_1 10 rfl rfl)
theorem dX0_saw_35 : decode cX0_saw 35 = .ok (.invokestatic 161, 3) := dk_184 0 161 (dk_at dksX0_saw_1 11 rfl rfl)
theorem dX0_saw_38 : decode cX0_saw 38 = .ok (.iload_n 3, 1) := dk_29 (dk_at dksX0_saw_1 14 rfl rfl)
theorem dX0_saw_39 : decode cX0_saw 39 = .ok (.iload 4, 2) := dk_21 4 (dk_at dksX0_saw_1 15 rfl rfl)
theorem dX0_saw_41 : decode cX0_saw 41 = .ok (.invokestatic 165, 3) := dk_184 0 165 (dk_at dksX0_saw_1 17 rfl rfl)
theorem dX0_saw_44 : decode cX0_saw 44 = .ok (.invokevirtual 169, 3) := dk_182 0 169 (dk_at dksX0_saw_1 20 rfl rfl)
theorem dX0_saw_47 : decode cX0_saw 47 = .ok (.ireturn, 1) := dk_172 (dk_at dksX0_saw_1 23 rfl rfl)
theorem dX0_saw_48 : decode cX0_saw 48 = .ok (.astore 5, 2) := dk_58 5 (dk_at dksX0_saw_2 0 rfl rfl)
theorem dX0_saw_50 : decode cX0_saw 50 = .ok (.aload_n 0, 1) := dk_42 (dk_at dksX0_saw_2 2 rfl rfl)
theorem dX0_saw_51 : decode cX0_saw 51 = .ok (.iconst 2, 1) := dk_5 (dk_at dksX0_saw_2 3 rfl rfl)
theorem dX0_saw_52 : decode cX0_saw 52 = .ok (.invokevirtual 175, 3) := dk_182 0 175 (dk_at dksX0_saw_2 4 rfl rfl)
theorem dX0_saw_55 : decode cX0_saw 55 = .ok (.ireturn, 1) := dk_172 (dk_at dksX0_saw_2 7 rfl rfl)
theorem dX0_saw_56 : decode cX0_saw 56 = .ok (.astore 5, 2) := dk_58 5 (dk_at dksX0_saw_2 8 rfl rfl)
theorem dX0_saw_58 : decode cX0_saw 58 = .ok (.aload_n 0, 1) := dk_42 (dk_at dksX0_saw_2 10 rfl rfl)
theorem dX0_saw_59 : decode cX0_saw 59 = .ok (.iconst 1, 1) := dk_4 (dk_at dksX0_saw_2 11 rfl rfl)
theorem dX0_saw_60 : decode cX0_saw 60 = .ok (.invokevirtual 175, 3) := dk_182 0 175 (dk_at dksX0_saw_2 12 rfl rfl)
theorem dX0_saw_63 : decode cX0_saw 63 = .ok (.ireturn, 1) := dk_172 (dk_at dksX0_saw_2 15 rfl rfl)
theorem dX0_saw_64 : decode cX0_saw 64 = .ok (.astore 5, 2) := dk_58 5 (dk_at dksX0_saw_2 16 rfl rfl)
theorem dX0_saw_66 : decode cX0_saw 66 = .ok (.aload_n 0, 1) := dk_42 (dk_at dksX0_saw_2 18 rfl rfl)
theorem dX0_saw_67 : decode cX0_saw 67 = .ok (.iconst 4, 1) := dk_7 (dk_at dksX0_saw_2 19 rfl rfl)
theorem dX0_saw_68 : decode cX0_saw 68 = .ok (.invokevirtual 175, 3) := dk_182 0 175 (dk_at dksX0_saw_2 20 rfl rfl)
theorem dX0_saw_71 : decode cX0_saw 71 = .ok (.ireturn, 1) := dk_172 (dk_at dksX0_saw_2 23 rfl rfl)
theorem dX0_saw_72 : decode cX0_saw 72 = .ok (.astore 5, 2) := dk_58 5 (dk_at dksX0_saw_3 0 rfl rfl)
theorem dX0_saw_74 : decode cX0_saw 74 = .ok (.aload_n 0, 1) := dk_42 (dk_at dksX0_saw_3 2 rfl rfl)
theorem dX0_saw_75 : decode cX0_saw 75 = .ok (.iconst 3, 1) := dk_6 (dk_at dksX0_saw_3 3 rfl rfl)
theorem dX0_saw_76 : decode cX0_saw 76 = .ok (.invokevirtual 175, 3) := dk_182 0 175 (dk_at dksX0_saw_3 4 rfl rfl)
theorem dX0_saw_79 : decode cX0_saw 79 = .ok (.ireturn, 1) := dk_172 (dk_at dksX0_saw_3 7 rfl rfl)
abbrev cX0_isSheet : ByteArray := prog_1_method_72_code
def yX0_isSheet : MethodName := ⟨RX0, "isSheet", "(I)Z"⟩
def dkwX0_isSheet_0 : List UInt8 := [26, 133, 9, 20, 1, 51, 184, 0, 76, 172]
abbrev dktX0_isSheet_0 : List UInt8 := dkwX0_isSheet_0 ++ []
theorem dksX0_isSheet_0 : cX0_isSheet.data.toList.drop 0 = dktX0_isSheet_0 := by decide +kernel
theorem dX0_isSheet_0 : decode cX0_isSheet 0 = .ok (.iload_n 0, 1) := dk_26 (dk_at dksX0_isSheet_0 0 rfl rfl)
theorem dX0_isSheet_1 : decode cX0_isSheet 1 = .ok (.i2l, 1) := dk_133 (dk_at dksX0_isSheet_0 1 rfl rfl)
theorem dX0_isSheet_2 : decode cX0_isSheet 2 = .ok (.lconst 0, 1) := dk_9 (dk_at dksX0_isSheet_0 2 rfl rfl)
theorem dX0_isSheet_3 : decode cX0_isSheet 3 = .ok (.ldc2_w 307, 3) := dk_20 1 51 (dk_at dksX0_isSheet_0 3 rfl rfl)
theorem dX0_isSheet_6 : decode cX0_isSheet 6 = .ok (.invokestatic 76, 3) := dk_184 0 76 (dk_at dksX0_isSheet_0 6 rfl rfl)
theorem dX0_isSheet_9 : decode cX0_isSheet 9 = .ok (.ireturn, 1) := dk_172 (dk_at dksX0_isSheet_0 9 rfl rfl)
abbrev cX0_isIn : ByteArray := prog_1_method_2_code
def yX0_isIn : MethodName := ⟨RX0, "isIn", "(JJJ)Z"⟩
def dkwX0_isIn_0 : List UInt8 := [30, 32, 148, 155, 0, 14, 30, 22, 4, 148, 157, 0, 7, 4, 167, 0, 4, 3, 172]
abbrev dktX0_isIn_0 : List UInt8 := dkwX0_isIn_0 ++ []
theorem dksX0_isIn_0 : cX0_isIn.data.toList.drop 0 = dktX0_isIn_0 := by decide +kernel
theorem dX0_isIn_0 : decode cX0_isIn 0 = .ok (.lload_n 0, 1) := dk_30 (dk_at dksX0_isIn_0 0 rfl rfl)
theorem dX0_isIn_1 : decode cX0_isIn 1 = .ok (.lload_n 2, 1) := dk_32 (dk_at dksX0_isIn_0 1 rfl rfl)
theorem dX0_isIn_2 : decode cX0_isIn 2 = .ok (.lcmp, 1) := dk_148 (dk_at dksX0_isIn_0 2 rfl rfl)
theorem dX0_isIn_3 : decode cX0_isIn 3 = .ok (.ifCond .lt 14, 3) := dk_155 0 14 (dk_at dksX0_isIn_0 3 rfl rfl)
theorem dX0_isIn_6 : decode cX0_isIn 6 = .ok (.lload_n 0, 1) := dk_30 (dk_at dksX0_isIn_0 6 rfl rfl)
theorem dX0_isIn_7 : decode cX0_isIn 7 = .ok (.lload 4, 2) := dk_22 4 (dk_at dksX0_isIn_0 7 rfl rfl)
theorem dX0_isIn_9 : decode cX0_isIn 9 = .ok (.lcmp, 1) := dk_148 (dk_at dksX0_isIn_0 9 rfl rfl)
theorem dX0_isIn_10 : decode cX0_isIn 10 = .ok (.ifCond .gt 7, 3) := dk_157 0 7 (dk_at dksX0_isIn_0 10 rfl rfl)
theorem dX0_isIn_13 : decode cX0_isIn 13 = .ok (.iconst 1, 1) := dk_4 (dk_at dksX0_isIn_0 13 rfl rfl)
theorem dX0_isIn_14 : decode cX0_isIn 14 = .ok (.goto 4, 3) := dk_167 0 4 (dk_at dksX0_isIn_0 14 rfl rfl)
theorem dX0_isIn_17 : decode cX0_isIn 17 = .ok (.iconst 0, 1) := dk_3 (dk_at dksX0_isIn_0 17 rfl rfl)
theorem dX0_isIn_18 : decode cX0_isIn 18 = .ok (.ireturn, 1) := dk_172 (dk_at dksX0_isIn_0 18 rfl rfl)
abbrev cX0_isLane : ByteArray := prog_1_method_73_code
def yX0_isLane : MethodName := ⟨RX0, "isLane", "(I)Z"⟩
def dkwX0_isLane_0 : List UInt8 := [26, 133, 9, 20, 0, 210, 184, 0, 76, 172]
abbrev dktX0_isLane_0 : List UInt8 := dkwX0_isLane_0 ++ []
theorem dksX0_isLane_0 : cX0_isLane.data.toList.drop 0 = dktX0_isLane_0 := by decide +kernel
theorem dX0_isLane_0 : decode cX0_isLane 0 = .ok (.iload_n 0, 1) := dk_26 (dk_at dksX0_isLane_0 0 rfl rfl)
theorem dX0_isLane_1 : decode cX0_isLane 1 = .ok (.i2l, 1) := dk_133 (dk_at dksX0_isLane_0 1 rfl rfl)
theorem dX0_isLane_2 : decode cX0_isLane 2 = .ok (.lconst 0, 1) := dk_9 (dk_at dksX0_isLane_0 2 rfl rfl)
theorem dX0_isLane_3 : decode cX0_isLane 3 = .ok (.ldc2_w 210, 3) := dk_20 0 210 (dk_at dksX0_isLane_0 3 rfl rfl)
theorem dX0_isLane_6 : decode cX0_isLane 6 = .ok (.invokestatic 76, 3) := dk_184 0 76 (dk_at dksX0_isLane_0 6 rfl rfl)
theorem dX0_isLane_9 : decode cX0_isLane 9 = .ok (.ireturn, 1) := dk_172 (dk_at dksX0_isLane_0 9 rfl rfl)
abbrev cX0_asLane : ByteArray := prog_1_method_74_code
def yX0_asLane : MethodName := ⟨RX0, "asLane", "(Ljava/lang/Object;I)Ljava/lang/Object;"⟩
def dkwX0_asLane_2 : List UInt8 := [42, 192, 1, 155, 176, 42, 192, 1, 157, 176, 42, 192, 1, 159, 176]
abbrev dktX0_asLane_2 : List UInt8 := dkwX0_asLane_2 ++ []
def dkwX0_asLane_1 : List UInt8 := [171, 0, 0, 0, 0, 0, 37, 0, 0, 0, 2, 0, 0, 0, 0, 0, 0, 0, 27, 0, 0, 0, 1, 0, 0, 0, 32]
abbrev dktX0_asLane_1 : List UInt8 := dkwX0_asLane_1 ++ dktX0_asLane_2
def dkwX0_asLane_0 : List UInt8 := [27]
abbrev dktX0_asLane_0 : List UInt8 := dkwX0_asLane_0 ++ dktX0_asLane_1
theorem dksX0_asLane_0 : cX0_asLane.data.toList.drop 0 = dktX0_asLane_0 := by decide +kernel
theorem dksX0_asLane_1 : cX0_asLane.data.toList.drop 1 = dktX0_asLane_1 := dk_seg dksX0_asLane_0 1 rfl rfl
theorem dksX0_asLane_2 : cX0_asLane.data.toList.drop 28 = dktX0_asLane_2 := dk_seg dksX0_asLane_1 27 rfl rfl
theorem dX0_asLane_0 : decode cX0_asLane 0 = .ok (.iload_n 1, 1) := dk_27 (dk_at dksX0_asLane_0 0 rfl rfl)
theorem dX0_asLane_1 : decode cX0_asLane 1 = .ok (.lookupswitch 37 #[(0, 27), (1, 32)], 27) := by decide +kernel
theorem dX0_asLane_28 : decode cX0_asLane 28 = .ok (.aload_n 0, 1) := dk_42 (dk_at dksX0_asLane_2 0 rfl rfl)
theorem dX0_asLane_29 : decode cX0_asLane 29 = .ok (.checkcast 411, 3) := dk_192 1 155 (dk_at dksX0_asLane_2 1 rfl rfl)
theorem dX0_asLane_32 : decode cX0_asLane 32 = .ok (.areturn, 1) := dk_176 (dk_at dksX0_asLane_2 4 rfl rfl)
theorem dX0_asLane_33 : decode cX0_asLane 33 = .ok (.aload_n 0, 1) := dk_42 (dk_at dksX0_asLane_2 5 rfl rfl)
theorem dX0_asLane_34 : decode cX0_asLane 34 = .ok (.checkcast 413, 3) := dk_192 1 157 (dk_at dksX0_asLane_2 6 rfl rfl)
theorem dX0_asLane_37 : decode cX0_asLane 37 = .ok (.areturn, 1) := dk_176 (dk_at dksX0_asLane_2 9 rfl rfl)
theorem dX0_asLane_38 : decode cX0_asLane 38 = .ok (.aload_n 0, 1) := dk_42 (dk_at dksX0_asLane_2 10 rfl rfl)
theorem dX0_asLane_39 : decode cX0_asLane 39 = .ok (.checkcast 415, 3) := dk_192 1 159 (dk_at dksX0_asLane_2 11 rfl rfl)
theorem dX0_asLane_42 : decode cX0_asLane 42 = .ok (.areturn, 1) := dk_176 (dk_at dksX0_asLane_2 14 rfl rfl)
abbrev cX0_rowOf : ByteArray := prog_1_method_82_code
def yX0_rowOf : MethodName := ⟨RX0, "rowOf", "(Ljava/lang/Object;II)[I"⟩
def dkwX0_rowOf_2 : List UInt8 := [42, 27, 21, 5, 96, 184, 1, 160, 79, 132, 5, 1, 167, 255, 234, 25, 4, 176]
abbrev dktX0_rowOf_2 : List UInt8 := dkwX0_rowOf_2 ++ []
def dkwX0_rowOf_1 : List UInt8 := [164, 0, 11, 187, 0, 182, 89, 183, 1, 176, 191, 3, 54, 5, 21, 5, 28, 162, 0, 22, 25, 4, 21, 5]
abbrev dktX0_rowOf_1 : List UInt8 := dkwX0_rowOf_1 ++ dktX0_rowOf_2
def dkwX0_rowOf_0 : List UInt8 := [42, 184, 1, 172, 62, 28, 16, 81, 184, 0, 226, 188, 10, 58, 4, 27, 155, 0, 10, 27, 29, 28, 100]
abbrev dktX0_rowOf_0 : List UInt8 := dkwX0_rowOf_0 ++ dktX0_rowOf_1
theorem dksX0_rowOf_0 : cX0_rowOf.data.toList.drop 0 = dktX0_rowOf_0 := by decide +kernel
theorem dksX0_rowOf_1 : cX0_rowOf.data.toList.drop 23 = dktX0_rowOf_1 := dk_seg dksX0_rowOf_0 23 rfl rfl
theorem dksX0_rowOf_2 : cX0_rowOf.data.toList.drop 47 = dktX0_rowOf_2 := dk_seg dksX0_rowOf_1 24 rfl rfl
theorem dX0_rowOf_0 : decode cX0_rowOf 0 = .ok (.aload_n 0, 1) := dk_42 (dk_at dksX0_rowOf_0 0 rfl rfl)
theorem dX0_rowOf_1 : decode cX0_rowOf 1 = .ok (.invokestatic 428, 3) := dk_184 1 172 (dk_at dksX0_rowOf_0 1 rfl rfl)
theorem dX0_rowOf_4 : decode cX0_rowOf 4 = .ok (.istore_n 3, 1) := dk_62 (dk_at dksX0_rowOf_0 4 rfl rfl)
theorem dX0_rowOf_5 : decode cX0_rowOf 5 = .ok (.iload_n 2, 1) := dk_28 (dk_at dksX0_rowOf_0 5 rfl rfl)
theorem dX0_rowOf_6 : decode cX0_rowOf 6 = .ok (.bipush 81, 2) := dk_16 81 (dk_at dksX0_rowOf_0 6 rfl rfl)
theorem dX0_rowOf_8 : decode cX0_rowOf 8 = .ok (.invokestatic 226, 3) := dk_184 0 226 (dk_at dksX0_rowOf_0 8 rfl rfl)
theorem dX0_rowOf_11 : decode cX0_rowOf 11 = .ok (.newarray .int, 2) := dk_188_10 (dk_at dksX0_rowOf_0 11 rfl rfl)
theorem dX0_rowOf_13 : decode cX0_rowOf 13 = .ok (.astore 4, 2) := dk_58 4 (dk_at dksX0_rowOf_0 13 rfl rfl)
theorem dX0_rowOf_15 : decode cX0_rowOf 15 = .ok (.iload_n 1, 1) := dk_27 (dk_at dksX0_rowOf_0 15 rfl rfl)
theorem dX0_rowOf_16 : decode cX0_rowOf 16 = .ok (.ifCond .lt 10, 3) := dk_155 0 10 (dk_at dksX0_rowOf_0 16 rfl rfl)
theorem dX0_rowOf_19 : decode cX0_rowOf 19 = .ok (.iload_n 1, 1) := dk_27 (dk_at dksX0_rowOf_0 19 rfl rfl)
theorem dX0_rowOf_20 : decode cX0_rowOf 20 = .ok (.iload_n 3, 1) := dk_29 (dk_at dksX0_rowOf_0 20 rfl rfl)
theorem dX0_rowOf_21 : decode cX0_rowOf 21 = .ok (.iload_n 2, 1) := dk_28 (dk_at dksX0_rowOf_0 21 rfl rfl)
theorem dX0_rowOf_22 : decode cX0_rowOf 22 = .ok (.isub, 1) := dk_100 (dk_at dksX0_rowOf_0 22 rfl rfl)
theorem dX0_rowOf_23 : decode cX0_rowOf 23 = .ok (.if_icmp .le 11, 3) := dk_164 0 11 (dk_at dksX0_rowOf_1 0 rfl rfl)
theorem dX0_rowOf_26 : decode cX0_rowOf 26 = .ok (.new 182, 3) := dk_187 0 182 (dk_at dksX0_rowOf_1 3 rfl rfl)
theorem dX0_rowOf_29 : decode cX0_rowOf 29 = .ok (.dup, 1) := dk_89 (dk_at dksX0_rowOf_1 6 rfl rfl)
theorem dX0_rowOf_30 : decode cX0_rowOf 30 = .ok (.invokespecial 432, 3) := dk_183 1 176 (dk_at dksX0_rowOf_1 7 rfl rfl)
theorem dX0_rowOf_33 : decode cX0_rowOf 33 = .ok (.athrow, 1) := dk_191 (dk_at dksX0_rowOf_1 10 rfl rfl)
theorem dX0_rowOf_34 : decode cX0_rowOf 34 = .ok (.iconst 0, 1) := dk_3 (dk_at dksX0_rowOf_1 11 rfl rfl)
theorem dX0_rowOf_35 : decode cX0_rowOf 35 = .ok (.istore 5, 2) := dk_54 5 (dk_at dksX0_rowOf_1 12 rfl rfl)
theorem dX0_rowOf_37 : decode cX0_rowOf 37 = .ok (.iload 5, 2) := dk_21 5 (dk_at dksX0_rowOf_1 14 rfl rfl)
theorem dX0_rowOf_39 : decode cX0_rowOf 39 = .ok (.iload_n 2, 1) := dk_28 (dk_at dksX0_rowOf_1 16 rfl rfl)
theorem dX0_rowOf_40 : decode cX0_rowOf 40 = .ok (.if_icmp .ge 22, 3) := dk_162 0 22 (dk_at dksX0_rowOf_1 17 rfl rfl)
theorem dX0_rowOf_43 : decode cX0_rowOf 43 = .ok (.aload 4, 2) := dk_25 4 (dk_at dksX0_rowOf_1 20 rfl rfl)
theorem dX0_rowOf_45 : decode cX0_rowOf 45 = .ok (.iload 5, 2) := dk_21 5 (dk_at dksX0_rowOf_1 22 rfl rfl)
theorem dX0_rowOf_47 : decode cX0_rowOf 47 = .ok (.aload_n 0, 1) := dk_42 (dk_at dksX0_rowOf_2 0 rfl rfl)
theorem dX0_rowOf_48 : decode cX0_rowOf 48 = .ok (.iload_n 1, 1) := dk_27 (dk_at dksX0_rowOf_2 1 rfl rfl)
theorem dX0_rowOf_49 : decode cX0_rowOf 49 = .ok (.iload 5, 2) := dk_21 5 (dk_at dksX0_rowOf_2 2 rfl rfl)
theorem dX0_rowOf_51 : decode cX0_rowOf 51 = .ok (.iadd, 1) := dk_96 (dk_at dksX0_rowOf_2 4 rfl rfl)
theorem dX0_rowOf_52 : decode cX0_rowOf 52 = .ok (.invokestatic 416, 3) := dk_184 1 160 (dk_at dksX0_rowOf_2 5 rfl rfl)
theorem dX0_rowOf_55 : decode cX0_rowOf 55 = .ok (.iastore, 1) := dk_79 (dk_at dksX0_rowOf_2 8 rfl rfl)
theorem dX0_rowOf_56 : decode cX0_rowOf 56 = .ok (.iinc 5 1, 3) := dk_132 5 1 (dk_at dksX0_rowOf_2 9 rfl rfl)
theorem dX0_rowOf_59 : decode cX0_rowOf 59 = .ok (.goto (-22), 3) := dk_167 255 234 (dk_at dksX0_rowOf_2 12 rfl rfl)
theorem dX0_rowOf_62 : decode cX0_rowOf 62 = .ok (.aload 4, 2) := dk_25 4 (dk_at dksX0_rowOf_2 15 rfl rfl)
theorem dX0_rowOf_64 : decode cX0_rowOf 64 = .ok (.areturn, 1) := dk_176 (dk_at dksX0_rowOf_2 17 rfl rfl)
abbrev cX0_lengthOf : ByteArray := prog_1_method_76_code
def yX0_lengthOf : MethodName := ⟨RX0, "lengthOf", "(Ljava/lang/Object;)I"⟩
def dkwX0_lengthOf_1 : List UInt8 := [192, 1, 157, 76, 43, 190, 172, 42, 192, 1, 159, 190, 172]
abbrev dktX0_lengthOf_1 : List UInt8 := dkwX0_lengthOf_1 ++ []
def dkwX0_lengthOf_0 : List UInt8 := [42, 193, 1, 155, 153, 0, 11, 42, 192, 1, 155, 76, 43, 190, 172, 42, 193, 1, 157, 153, 0, 11, 42]
abbrev dktX0_lengthOf_0 : List UInt8 := dkwX0_lengthOf_0 ++ dktX0_lengthOf_1
theorem dksX0_lengthOf_0 : cX0_lengthOf.data.toList.drop 0 = dktX0_lengthOf_0 := by decide +kernel
theorem dksX0_lengthOf_1 : cX0_lengthOf.data.toList.drop 23 = dktX0_lengthOf_1 := dk_seg dksX0_lengthOf_0 23 rfl rfl
theorem dX0_lengthOf_0 : decode cX0_lengthOf 0 = .ok (.aload_n 0, 1) := dk_42 (dk_at dksX0_lengthOf_0 0 rfl rfl)
theorem dX0_lengthOf_1 : decode cX0_lengthOf 1 = .ok (.instanceof 411, 3) := dk_193 1 155 (dk_at dksX0_lengthOf_0 1 rfl rfl)
theorem dX0_lengthOf_4 : decode cX0_lengthOf 4 = .ok (.ifCond .eq 11, 3) := dk_153 0 11 (dk_at dksX0_lengthOf_0 4 rfl rfl)
theorem dX0_lengthOf_7 : decode cX0_lengthOf 7 = .ok (.aload_n 0, 1) := dk_42 (dk_at dksX0_lengthOf_0 7 rfl rfl)
theorem dX0_lengthOf_8 : decode cX0_lengthOf 8 = .ok (.checkcast 411, 3) := dk_192 1 155 (dk_at dksX0_lengthOf_0 8 rfl rfl)
theorem dX0_lengthOf_11 : decode cX0_lengthOf 11 = .ok (.astore_n 1, 1) := dk_76 (dk_at dksX0_lengthOf_0 11 rfl rfl)
theorem dX0_lengthOf_12 : decode cX0_lengthOf 12 = .ok (.aload_n 1, 1) := dk_43 (dk_at dksX0_lengthOf_0 12 rfl rfl)
theorem dX0_lengthOf_13 : decode cX0_lengthOf 13 = .ok (.arraylength, 1) := dk_190 (dk_at dksX0_lengthOf_0 13 rfl rfl)
theorem dX0_lengthOf_14 : decode cX0_lengthOf 14 = .ok (.ireturn, 1) := dk_172 (dk_at dksX0_lengthOf_0 14 rfl rfl)
theorem dX0_lengthOf_15 : decode cX0_lengthOf 15 = .ok (.aload_n 0, 1) := dk_42 (dk_at dksX0_lengthOf_0 15 rfl rfl)
theorem dX0_lengthOf_16 : decode cX0_lengthOf 16 = .ok (.instanceof 413, 3) := dk_193 1 157 (dk_at dksX0_lengthOf_0 16 rfl rfl)
theorem dX0_lengthOf_19 : decode cX0_lengthOf 19 = .ok (.ifCond .eq 11, 3) := dk_153 0 11 (dk_at dksX0_lengthOf_0 19 rfl rfl)
theorem dX0_lengthOf_22 : decode cX0_lengthOf 22 = .ok (.aload_n 0, 1) := dk_42 (dk_at dksX0_lengthOf_0 22 rfl rfl)
theorem dX0_lengthOf_23 : decode cX0_lengthOf 23 = .ok (.checkcast 413, 3) := dk_192 1 157 (dk_at dksX0_lengthOf_1 0 rfl rfl)
theorem dX0_lengthOf_26 : decode cX0_lengthOf 26 = .ok (.astore_n 1, 1) := dk_76 (dk_at dksX0_lengthOf_1 3 rfl rfl)
theorem dX0_lengthOf_27 : decode cX0_lengthOf 27 = .ok (.aload_n 1, 1) := dk_43 (dk_at dksX0_lengthOf_1 4 rfl rfl)
theorem dX0_lengthOf_28 : decode cX0_lengthOf 28 = .ok (.arraylength, 1) := dk_190 (dk_at dksX0_lengthOf_1 5 rfl rfl)
theorem dX0_lengthOf_29 : decode cX0_lengthOf 29 = .ok (.ireturn, 1) := dk_172 (dk_at dksX0_lengthOf_1 6 rfl rfl)
theorem dX0_lengthOf_30 : decode cX0_lengthOf 30 = .ok (.aload_n 0, 1) := dk_42 (dk_at dksX0_lengthOf_1 7 rfl rfl)
theorem dX0_lengthOf_31 : decode cX0_lengthOf 31 = .ok (.checkcast 415, 3) := dk_192 1 159 (dk_at dksX0_lengthOf_1 8 rfl rfl)
theorem dX0_lengthOf_34 : decode cX0_lengthOf 34 = .ok (.arraylength, 1) := dk_190 (dk_at dksX0_lengthOf_1 11 rfl rfl)
theorem dX0_lengthOf_35 : decode cX0_lengthOf 35 = .ok (.ireturn, 1) := dk_172 (dk_at dksX0_lengthOf_1 12 rfl rfl)
abbrev cX0_cellOf : ByteArray := prog_1_method_75_code
def yX0_cellOf : MethodName := ⟨RX0, "cellOf", "(Ljava/lang/Object;I)I"⟩
def dkwX0_cellOf_1 : List UInt8 := [192, 1, 157, 77, 44, 27, 53, 172, 42, 192, 1, 159, 27, 46, 172]
abbrev dktX0_cellOf_1 : List UInt8 := dkwX0_cellOf_1 ++ []
def dkwX0_cellOf_0 : List UInt8 := [42, 193, 1, 155, 153, 0, 12, 42, 192, 1, 155, 77, 44, 27, 51, 172, 42, 193, 1, 157, 153, 0, 12, 42]
abbrev dktX0_cellOf_0 : List UInt8 := dkwX0_cellOf_0 ++ dktX0_cellOf_1
theorem dksX0_cellOf_0 : cX0_cellOf.data.toList.drop 0 = dktX0_cellOf_0 := by decide +kernel
theorem dksX0_cellOf_1 : cX0_cellOf.data.toList.drop 24 = dktX0_cellOf_1 := dk_seg dksX0_cellOf_0 24 rfl rfl
theorem dX0_cellOf_0 : decode cX0_cellOf 0 = .ok (.aload_n 0, 1) := dk_42 (dk_at dksX0_cellOf_0 0 rfl rfl)
theorem dX0_cellOf_1 : decode cX0_cellOf 1 = .ok (.instanceof 411, 3) := dk_193 1 155 (dk_at dksX0_cellOf_0 1 rfl rfl)
theorem dX0_cellOf_4 : decode cX0_cellOf 4 = .ok (.ifCond .eq 12, 3) := dk_153 0 12 (dk_at dksX0_cellOf_0 4 rfl rfl)
theorem dX0_cellOf_7 : decode cX0_cellOf 7 = .ok (.aload_n 0, 1) := dk_42 (dk_at dksX0_cellOf_0 7 rfl rfl)
theorem dX0_cellOf_8 : decode cX0_cellOf 8 = .ok (.checkcast 411, 3) := dk_192 1 155 (dk_at dksX0_cellOf_0 8 rfl rfl)
theorem dX0_cellOf_11 : decode cX0_cellOf 11 = .ok (.astore_n 2, 1) := dk_77 (dk_at dksX0_cellOf_0 11 rfl rfl)
theorem dX0_cellOf_12 : decode cX0_cellOf 12 = .ok (.aload_n 2, 1) := dk_44 (dk_at dksX0_cellOf_0 12 rfl rfl)
theorem dX0_cellOf_13 : decode cX0_cellOf 13 = .ok (.iload_n 1, 1) := dk_27 (dk_at dksX0_cellOf_0 13 rfl rfl)
theorem dX0_cellOf_14 : decode cX0_cellOf 14 = .ok (.baload, 1) := dk_51 (dk_at dksX0_cellOf_0 14 rfl rfl)
theorem dX0_cellOf_15 : decode cX0_cellOf 15 = .ok (.ireturn, 1) := dk_172 (dk_at dksX0_cellOf_0 15 rfl rfl)
theorem dX0_cellOf_16 : decode cX0_cellOf 16 = .ok (.aload_n 0, 1) := dk_42 (dk_at dksX0_cellOf_0 16 rfl rfl)
theorem dX0_cellOf_17 : decode cX0_cellOf 17 = .ok (.instanceof 413, 3) := dk_193 1 157 (dk_at dksX0_cellOf_0 17 rfl rfl)
theorem dX0_cellOf_20 : decode cX0_cellOf 20 = .ok (.ifCond .eq 12, 3) := dk_153 0 12 (dk_at dksX0_cellOf_0 20 rfl rfl)
theorem dX0_cellOf_23 : decode cX0_cellOf 23 = .ok (.aload_n 0, 1) := dk_42 (dk_at dksX0_cellOf_0 23 rfl rfl)
theorem dX0_cellOf_24 : decode cX0_cellOf 24 = .ok (.checkcast 413, 3) := dk_192 1 157 (dk_at dksX0_cellOf_1 0 rfl rfl)
theorem dX0_cellOf_27 : decode cX0_cellOf 27 = .ok (.astore_n 2, 1) := dk_77 (dk_at dksX0_cellOf_1 3 rfl rfl)
theorem dX0_cellOf_28 : decode cX0_cellOf 28 = .ok (.aload_n 2, 1) := dk_44 (dk_at dksX0_cellOf_1 4 rfl rfl)
theorem dX0_cellOf_29 : decode cX0_cellOf 29 = .ok (.iload_n 1, 1) := dk_27 (dk_at dksX0_cellOf_1 5 rfl rfl)
theorem dX0_cellOf_30 : decode cX0_cellOf 30 = .ok (.saload, 1) := dk_53 (dk_at dksX0_cellOf_1 6 rfl rfl)
theorem dX0_cellOf_31 : decode cX0_cellOf 31 = .ok (.ireturn, 1) := dk_172 (dk_at dksX0_cellOf_1 7 rfl rfl)
theorem dX0_cellOf_32 : decode cX0_cellOf 32 = .ok (.aload_n 0, 1) := dk_42 (dk_at dksX0_cellOf_1 8 rfl rfl)
theorem dX0_cellOf_33 : decode cX0_cellOf 33 = .ok (.checkcast 415, 3) := dk_192 1 159 (dk_at dksX0_cellOf_1 9 rfl rfl)
theorem dX0_cellOf_36 : decode cX0_cellOf 36 = .ok (.iload_n 1, 1) := dk_27 (dk_at dksX0_cellOf_1 12 rfl rfl)
theorem dX0_cellOf_37 : decode cX0_cellOf 37 = .ok (.iaload, 1) := dk_46 (dk_at dksX0_cellOf_1 13 rfl rfl)
theorem dX0_cellOf_38 : decode cX0_cellOf 38 = .ok (.ireturn, 1) := dk_172 (dk_at dksX0_cellOf_1 14 rfl rfl)
abbrev cX0_comesSaw : ByteArray := prog_1_method_14_code
def yX0_comesSaw : MethodName := ⟨RX0, "comesSaw", "([I)I"⟩
def dkwX0_comesSaw_3 : List UInt8 := [180, 0, 98, 172]
abbrev dktX0_comesSaw_3 : List UInt8 := dkwX0_comesSaw_3 ++ []
def dkwX0_comesSaw_2 : List UInt8 := [185, 0, 138, 2, 0, 87, 132, 2, 1, 167, 255, 230, 42, 3, 181, 0, 142, 42, 3, 181, 0, 145, 42]
abbrev dktX0_comesSaw_2 : List UInt8 := dkwX0_comesSaw_2 ++ dktX0_comesSaw_3
def dkwX0_comesSaw_1 : List UInt8 := [185, 0, 129, 1, 0, 3, 61, 28, 42, 180, 0, 98, 162, 0, 24, 42, 180, 0, 12, 42, 28, 182, 0, 134]
abbrev dktX0_comesSaw_1 : List UInt8 := dkwX0_comesSaw_1 ++ dktX0_comesSaw_2
def dkwX0_comesSaw_0 : List UInt8 := [42, 43, 182, 0, 126, 154, 0, 11, 16, 156, 42, 180, 0, 89, 100, 172, 42, 180, 0, 12]
abbrev dktX0_comesSaw_0 : List UInt8 := dkwX0_comesSaw_0 ++ dktX0_comesSaw_1
theorem dksX0_comesSaw_0 : cX0_comesSaw.data.toList.drop 0 = dktX0_comesSaw_0 := by decide +kernel
theorem dksX0_comesSaw_1 : cX0_comesSaw.data.toList.drop 20 = dktX0_comesSaw_1 := dk_seg dksX0_comesSaw_0 20 rfl rfl
theorem dksX0_comesSaw_2 : cX0_comesSaw.data.toList.drop 44 = dktX0_comesSaw_2 := dk_seg dksX0_comesSaw_1 24 rfl rfl
theorem dksX0_comesSaw_3 : cX0_comesSaw.data.toList.drop 67 = dktX0_comesSaw_3 := dk_seg dksX0_comesSaw_2 23 rfl rfl
theorem dX0_comesSaw_0 : decode cX0_comesSaw 0 = .ok (.aload_n 0, 1) := dk_42 (dk_at dksX0_comesSaw_0 0 rfl rfl)
theorem dX0_comesSaw_1 : decode cX0_comesSaw 1 = .ok (.aload_n 1, 1) := dk_43 (dk_at dksX0_comesSaw_0 1 rfl rfl)
theorem dX0_comesSaw_2 : decode cX0_comesSaw 2 = .ok (.invokevirtual 126, 3) := dk_182 0 126 (dk_at dksX0_comesSaw_0 2 rfl rfl)
theorem dX0_comesSaw_5 : decode cX0_comesSaw 5 = .ok (.ifCond .ne 11, 3) := dk_154 0 11 (dk_at dksX0_comesSaw_0 5 rfl rfl)
theorem dX0_comesSaw_8 : decode cX0_comesSaw 8 = .ok (.bipush (-100), 2) := dk_16 156 (dk_at dksX0_comesSaw_0 8 rfl rfl)
theorem dX0_comesSaw_10 : decode cX0_comesSaw 10 = .ok (.aload_n 0, 1) := dk_42 (dk_at dksX0_comesSaw_0 10 rfl rfl)
theorem dX0_comesSaw_11 : decode cX0_comesSaw 11 = .ok (.getfield 89, 3) := dk_180 0 89 (dk_at dksX0_comesSaw_0 11 rfl rfl)
theorem dX0_comesSaw_14 : decode cX0_comesSaw 14 = .ok (.isub, 1) := dk_100 (dk_at dksX0_comesSaw_0 14 rfl rfl)
theorem dX0_comesSaw_15 : decode cX0_comesSaw 15 = .ok (.ireturn, 1) := dk_172 (dk_at dksX0_comesSaw_0 15 rfl rfl)
theorem dX0_comesSaw_16 : decode cX0_comesSaw 16 = .ok (.aload_n 0, 1) := dk_42 (dk_at dksX0_comesSaw_0 16 rfl rfl)
theorem dX0_comesSaw_17 : decode cX0_comesSaw 17 = .ok (.getfield 12, 3) := dk_180 0 12 (dk_at dksX0_comesSaw_0 17 rfl rfl)
theorem dX0_comesSaw_20 : decode cX0_comesSaw 20 = .ok (.invokeinterface 129 1, 5) := by decide +kernel
theorem dX0_comesSaw_25 : decode cX0_comesSaw 25 = .ok (.iconst 0, 1) := dk_3 (dk_at dksX0_comesSaw_1 5 rfl rfl)
theorem dX0_comesSaw_26 : decode cX0_comesSaw 26 = .ok (.istore_n 2, 1) := dk_61 (dk_at dksX0_comesSaw_1 6 rfl rfl)
theorem dX0_comesSaw_27 : decode cX0_comesSaw 27 = .ok (.iload_n 2, 1) := dk_28 (dk_at dksX0_comesSaw_1 7 rfl rfl)
theorem dX0_comesSaw_28 : decode cX0_comesSaw 28 = .ok (.aload_n 0, 1) := dk_42 (dk_at dksX0_comesSaw_1 8 rfl rfl)
theorem dX0_comesSaw_29 : decode cX0_comesSaw 29 = .ok (.getfield 98, 3) := dk_180 0 98 (dk_at dksX0_comesSaw_1 9 rfl rfl)
theorem dX0_comesSaw_32 : decode cX0_comesSaw 32 = .ok (.if_icmp .ge 24, 3) := dk_162 0 24 (dk_at dksX0_comesSaw_1 12 rfl rfl)
theorem dX0_comesSaw_35 : decode cX0_comesSaw 35 = .ok (.aload_n 0, 1) := dk_42 (dk_at dksX0_comesSaw_1 15 rfl rfl)
theorem dX0_comesSaw_36 : decode cX0_comesSaw 36 = .ok (.getfield 12, 3) := dk_180 0 12 (dk_at dksX0_comesSaw_1 16 rfl rfl)
theorem dX0_comesSaw_39 : decode cX0_comesSaw 39 = .ok (.aload_n 0, 1) := dk_42 (dk_at dksX0_comesSaw_1 19 rfl rfl)
theorem dX0_comesSaw_40 : decode cX0_comesSaw 40 = .ok (.iload_n 2, 1) := dk_28 (dk_at dksX0_comesSaw_1 20 rfl rfl)
theorem dX0_comesSaw_41 : decode cX0_comesSaw 41 = .ok (.invokevirtual 134, 3) := dk_182 0 134 (dk_at dksX0_comesSaw_1 21 rfl rfl)
theorem dX0_comesSaw_44 : decode cX0_comesSaw 44 = .ok (.invokeinterface 138 2, 5) := by decide +kernel
theorem dX0_comesSaw_49 : decode cX0_comesSaw 49 = .ok (.pop, 1) := dk_87 (dk_at dksX0_comesSaw_2 5 rfl rfl)
theorem dX0_comesSaw_50 : decode cX0_comesSaw 50 = .ok (.iinc 2 1, 3) := dk_132 2 1 (dk_at dksX0_comesSaw_2 6 rfl rfl)
theorem dX0_comesSaw_53 : decode cX0_comesSaw 53 = .ok (.goto (-26), 3) := dk_167 255 230 (dk_at dksX0_comesSaw_2 9 rfl rfl)
theorem dX0_comesSaw_56 : decode cX0_comesSaw 56 = .ok (.aload_n 0, 1) := dk_42 (dk_at dksX0_comesSaw_2 12 rfl rfl)
theorem dX0_comesSaw_57 : decode cX0_comesSaw 57 = .ok (.iconst 0, 1) := dk_3 (dk_at dksX0_comesSaw_2 13 rfl rfl)
theorem dX0_comesSaw_58 : decode cX0_comesSaw 58 = .ok (.putfield 142, 3) := dk_181 0 142 (dk_at dksX0_comesSaw_2 14 rfl rfl)
theorem dX0_comesSaw_61 : decode cX0_comesSaw 61 = .ok (.aload_n 0, 1) := dk_42 (dk_at dksX0_comesSaw_2 17 rfl rfl)
theorem dX0_comesSaw_62 : decode cX0_comesSaw 62 = .ok (.iconst 0, 1) := dk_3 (dk_at dksX0_comesSaw_2 18 rfl rfl)
theorem dX0_comesSaw_63 : decode cX0_comesSaw 63 = .ok (.putfield 145, 3) := dk_181 0 145 (dk_at dksX0_comesSaw_2 19 rfl rfl)
theorem dX0_comesSaw_66 : decode cX0_comesSaw 66 = .ok (.aload_n 0, 1) := dk_42 (dk_at dksX0_comesSaw_2 22 rfl rfl)
theorem dX0_comesSaw_67 : decode cX0_comesSaw 67 = .ok (.getfield 98, 3) := dk_180 0 98 (dk_at dksX0_comesSaw_3 0 rfl rfl)
theorem dX0_comesSaw_70 : decode cX0_comesSaw 70 = .ok (.ireturn, 1) := dk_172 (dk_at dksX0_comesSaw_3 3 rfl rfl)
abbrev cX0_readSaw : ByteArray := prog_1_method_12_code
def yX0_readSaw : MethodName := ⟨RX0, "readSaw", "([I)Z"⟩
def dkwX0_readSaw_2 : List UInt8 := [172, 42, 180, 0, 89, 43, 190, 160, 0, 7, 4, 167, 0, 4, 3, 172]
abbrev dktX0_readSaw_2 : List UInt8 := dkwX0_readSaw_2 ++ []
def dkwX0_readSaw_1 : List UInt8 := [16, 8, 162, 0, 23, 42, 43, 16, 59, 182, 0, 105, 153, 0, 13, 42, 43, 182, 0, 109, 154, 255, 232, 3]
abbrev dktX0_readSaw_1 : List UInt8 := dkwX0_readSaw_1 ++ dktX0_readSaw_2
def dkwX0_readSaw_0 : List UInt8 := [42, 3, 181, 0, 89, 42, 3, 181, 0, 98, 42, 43, 182, 0, 109, 154, 0, 5, 3, 172, 42, 180, 0, 98]
abbrev dktX0_readSaw_0 : List UInt8 := dkwX0_readSaw_0 ++ dktX0_readSaw_1
theorem dksX0_readSaw_0 : cX0_readSaw.data.toList.drop 0 = dktX0_readSaw_0 := by decide +kernel
theorem dksX0_readSaw_1 : cX0_readSaw.data.toList.drop 24 = dktX0_readSaw_1 := dk_seg dksX0_readSaw_0 24 rfl rfl
theorem dksX0_readSaw_2 : cX0_readSaw.data.toList.drop 48 = dktX0_readSaw_2 := dk_seg dksX0_readSaw_1 24 rfl rfl
theorem dX0_readSaw_0 : decode cX0_readSaw 0 = .ok (.aload_n 0, 1) := dk_42 (dk_at dksX0_readSaw_0 0 rfl rfl)
theorem dX0_readSaw_1 : decode cX0_readSaw 1 = .ok (.iconst 0, 1) := dk_3 (dk_at dksX0_readSaw_0 1 rfl rfl)
theorem dX0_readSaw_2 : decode cX0_readSaw 2 = .ok (.putfield 89, 3) := dk_181 0 89 (dk_at dksX0_readSaw_0 2 rfl rfl)
theorem dX0_readSaw_5 : decode cX0_readSaw 5 = .ok (.aload_n 0, 1) := dk_42 (dk_at dksX0_readSaw_0 5 rfl rfl)
theorem dX0_readSaw_6 : decode cX0_readSaw 6 = .ok (.iconst 0, 1) := dk_3 (dk_at dksX0_readSaw_0 6 rfl rfl)
theorem dX0_readSaw_7 : decode cX0_readSaw 7 = .ok (.putfield 98, 3) := dk_181 0 98 (dk_at dksX0_readSaw_0 7 rfl rfl)
theorem dX0_readSaw_10 : decode cX0_readSaw 10 = .ok (.aload_n 0, 1) := dk_42 (dk_at dksX0_readSaw_0 10 rfl rfl)
theorem dX0_readSaw_11 : decode cX0_readSaw 11 = .ok (.aload_n 1, 1) := dk_43 (dk_at dksX0_readSaw_0 11 rfl rfl)
theorem dX0_readSaw_12 : decode cX0_readSaw 12 = .ok (.invokevirtual 109, 3) := dk_182 0 109 (dk_at dksX0_readSaw_0 12 rfl rfl)
theorem dX0_readSaw_15 : decode cX0_readSaw 15 = .ok (.ifCond .ne 5, 3) := dk_154 0 5 (dk_at dksX0_readSaw_0 15 rfl rfl)
theorem dX0_readSaw_18 : decode cX0_readSaw 18 = .ok (.iconst 0, 1) := dk_3 (dk_at dksX0_readSaw_0 18 rfl rfl)
theorem dX0_readSaw_19 : decode cX0_readSaw 19 = .ok (.ireturn, 1) := dk_172 (dk_at dksX0_readSaw_0 19 rfl rfl)
theorem dX0_readSaw_20 : decode cX0_readSaw 20 = .ok (.aload_n 0, 1) := dk_42 (dk_at dksX0_readSaw_0 20 rfl rfl)
theorem dX0_readSaw_21 : decode cX0_readSaw 21 = .ok (.getfield 98, 3) := dk_180 0 98 (dk_at dksX0_readSaw_0 21 rfl rfl)
theorem dX0_readSaw_24 : decode cX0_readSaw 24 = .ok (.bipush 8, 2) := dk_16 8 (dk_at dksX0_readSaw_1 0 rfl rfl)
theorem dX0_readSaw_26 : decode cX0_readSaw 26 = .ok (.if_icmp .ge 23, 3) := dk_162 0 23 (dk_at dksX0_readSaw_1 2 rfl rfl)
theorem dX0_readSaw_29 : decode cX0_readSaw 29 = .ok (.aload_n 0, 1) := dk_42 (dk_at dksX0_readSaw_1 5 rfl rfl)
theorem dX0_readSaw_30 : decode cX0_readSaw 30 = .ok (.aload_n 1, 1) := dk_43 (dk_at dksX0_readSaw_1 6 rfl rfl)
theorem dX0_readSaw_31 : decode cX0_readSaw 31 = .ok (.bipush 59, 2) := dk_16 59 (dk_at dksX0_readSaw_1 7 rfl rfl)
theorem dX0_readSaw_33 : decode cX0_readSaw 33 = .ok (.invokevirtual 105, 3) := dk_182 0 105 (dk_at dksX0_readSaw_1 9 rfl rfl)
theorem dX0_readSaw_36 : decode cX0_readSaw 36 = .ok (.ifCond .eq 13, 3) := dk_153 0 13 (dk_at dksX0_readSaw_1 12 rfl rfl)
theorem dX0_readSaw_39 : decode cX0_readSaw 39 = .ok (.aload_n 0, 1) := dk_42 (dk_at dksX0_readSaw_1 15 rfl rfl)
theorem dX0_readSaw_40 : decode cX0_readSaw 40 = .ok (.aload_n 1, 1) := dk_43 (dk_at dksX0_readSaw_1 16 rfl rfl)
theorem dX0_readSaw_41 : decode cX0_readSaw 41 = .ok (.invokevirtual 109, 3) := dk_182 0 109 (dk_at dksX0_readSaw_1 17 rfl rfl)
theorem dX0_readSaw_44 : decode cX0_readSaw 44 = .ok (.ifCond .ne (-24), 3) := dk_154 255 232 (dk_at dksX0_readSaw_1 20 rfl rfl)
theorem dX0_readSaw_47 : decode cX0_readSaw 47 = .ok (.iconst 0, 1) := dk_3 (dk_at dksX0_readSaw_1 23 rfl rfl)
theorem dX0_readSaw_48 : decode cX0_readSaw 48 = .ok (.ireturn, 1) := dk_172 (dk_at dksX0_readSaw_2 0 rfl rfl)
theorem dX0_readSaw_49 : decode cX0_readSaw 49 = .ok (.aload_n 0, 1) := dk_42 (dk_at dksX0_readSaw_2 1 rfl rfl)
theorem dX0_readSaw_50 : decode cX0_readSaw 50 = .ok (.getfield 89, 3) := dk_180 0 89 (dk_at dksX0_readSaw_2 2 rfl rfl)
theorem dX0_readSaw_53 : decode cX0_readSaw 53 = .ok (.aload_n 1, 1) := dk_43 (dk_at dksX0_readSaw_2 5 rfl rfl)
theorem dX0_readSaw_54 : decode cX0_readSaw 54 = .ok (.arraylength, 1) := dk_190 (dk_at dksX0_readSaw_2 6 rfl rfl)
theorem dX0_readSaw_55 : decode cX0_readSaw 55 = .ok (.if_icmp .ne 7, 3) := dk_160 0 7 (dk_at dksX0_readSaw_2 7 rfl rfl)
theorem dX0_readSaw_58 : decode cX0_readSaw 58 = .ok (.iconst 1, 1) := dk_4 (dk_at dksX0_readSaw_2 10 rfl rfl)
theorem dX0_readSaw_59 : decode cX0_readSaw 59 = .ok (.goto 4, 3) := dk_167 0 4 (dk_at dksX0_readSaw_2 11 rfl rfl)
theorem dX0_readSaw_62 : decode cX0_readSaw 62 = .ok (.iconst 0, 1) := dk_3 (dk_at dksX0_readSaw_2 14 rfl rfl)
theorem dX0_readSaw_63 : decode cX0_readSaw 63 = .ok (.ireturn, 1) := dk_172 (dk_at dksX0_readSaw_2 15 rfl rfl)
abbrev cX0_readTooth : ByteArray := prog_1_method_11_code
def yX0_readTooth : MethodName := ⟨RX0, "readTooth", "([I)Z"⟩
def dkwX0_readTooth_6 : List UInt8 := [4, 172]
abbrev dktX0_readTooth_6 : List UInt8 := dkwX0_readTooth_6 ++ []
def dkwX0_readTooth_5 : List UInt8 := [16, 104, 182, 0, 105, 153, 0, 7, 4, 167, 0, 4, 3, 79, 42, 89, 180, 0, 98, 4, 96, 181, 0, 98]
abbrev dktX0_readTooth_5 : List UInt8 := dkwX0_readTooth_5 ++ dktX0_readTooth_6
def dkwX0_readTooth_4 : List UInt8 := [132, 3, 1, 167, 255, 214, 42, 180, 0, 18, 8, 42, 180, 0, 98, 104, 7, 96, 28, 153, 0, 17, 42, 43]
abbrev dktX0_readTooth_4 : List UInt8 := dkwX0_readTooth_4 ++ dktX0_readTooth_5
def dkwX0_readTooth_3 : List UInt8 := [21, 4, 16, 247, 160, 0, 5, 3, 172, 42, 180, 0, 18, 8, 42, 180, 0, 98, 104, 29, 96, 21, 4, 79]
abbrev dktX0_readTooth_3 : List UInt8 := dkwX0_readTooth_3 ++ dktX0_readTooth_4
def dkwX0_readTooth_2 : List UInt8 := [180, 0, 98, 104, 28, 79, 4, 62, 29, 7, 162, 0, 43, 42, 43, 3, 16, 9, 182, 0, 101, 54, 4]
abbrev dktX0_readTooth_2 : List UInt8 := dkwX0_readTooth_2 ++ dktX0_readTooth_3
def dkwX0_readTooth_1 : List UInt8 := [28, 16, 247, 160, 0, 5, 3, 172, 42, 89, 180, 0, 89, 4, 96, 181, 0, 89, 42, 180, 0, 18, 8, 42]
abbrev dktX0_readTooth_1 : List UInt8 := dkwX0_readTooth_1 ++ dktX0_readTooth_2
def dkwX0_readTooth_0 : List UInt8 := [42, 180, 0, 89, 43, 190, 160, 0, 8, 16, 247, 167, 0, 12, 43, 42, 180, 0, 89, 46, 184, 0, 94, 61]
abbrev dktX0_readTooth_0 : List UInt8 := dkwX0_readTooth_0 ++ dktX0_readTooth_1
theorem dksX0_readTooth_0 : cX0_readTooth.data.toList.drop 0 = dktX0_readTooth_0 := by decide +kernel
theorem dksX0_readTooth_1 : cX0_readTooth.data.toList.drop 24 = dktX0_readTooth_1 := dk_seg dksX0_readTooth_0 24 rfl rfl
theorem dksX0_readTooth_2 : cX0_readTooth.data.toList.drop 48 = dktX0_readTooth_2 := dk_seg dksX0_readTooth_1 24 rfl rfl
theorem dksX0_readTooth_3 : cX0_readTooth.data.toList.drop 71 = dktX0_readTooth_3 := dk_seg dksX0_readTooth_2 23 rfl rfl
theorem dksX0_readTooth_4 : cX0_readTooth.data.toList.drop 95 = dktX0_readTooth_4 := dk_seg dksX0_readTooth_3 24 rfl rfl
theorem dksX0_readTooth_5 : cX0_readTooth.data.toList.drop 119 = dktX0_readTooth_5 := dk_seg dksX0_readTooth_4 24 rfl rfl
theorem dksX0_readTooth_6 : cX0_readTooth.data.toList.drop 143 = dktX0_readTooth_6 := dk_seg dksX0_readTooth_5 24 rfl rfl
theorem dX0_readTooth_0 : decode cX0_readTooth 0 = .ok (.aload_n 0, 1) := dk_42 (dk_at dksX0_readTooth_0 0 rfl rfl)
theorem dX0_readTooth_1 : decode cX0_readTooth 1 = .ok (.getfield 89, 3) := dk_180 0 89 (dk_at dksX0_readTooth_0 1 rfl rfl)
theorem dX0_readTooth_4 : decode cX0_readTooth 4 = .ok (.aload_n 1, 1) := dk_43 (dk_at dksX0_readTooth_0 4 rfl rfl)
theorem dX0_readTooth_5 : decode cX0_readTooth 5 = .ok (.arraylength, 1) := dk_190 (dk_at dksX0_readTooth_0 5 rfl rfl)
theorem dX0_readTooth_6 : decode cX0_readTooth 6 = .ok (.if_icmp .ne 8, 3) := dk_160 0 8 (dk_at dksX0_readTooth_0 6 rfl rfl)
theorem dX0_readTooth_9 : decode cX0_readTooth 9 = .ok (.bipush (-9), 2) := dk_16 247 (dk_at dksX0_readTooth_0 9 rfl rfl)
theorem dX0_readTooth_11 : decode cX0_readTooth 11 = .ok (.goto 12, 3) := dk_167 0 12 (dk_at dksX0_readTooth_0 11 rfl rfl)
theorem dX0_readTooth_14 : decode cX0_readTooth 14 = .ok (.aload_n 1, 1) := dk_43 (dk_at dksX0_readTooth_0 14 rfl rfl)
theorem dX0_readTooth_15 : decode cX0_readTooth 15 = .ok (.aload_n 0, 1) := dk_42 (dk_at dksX0_readTooth_0 15 rfl rfl)
theorem dX0_readTooth_16 : decode cX0_readTooth 16 = .ok (.getfield 89, 3) := dk_180 0 89 (dk_at dksX0_readTooth_0 16 rfl rfl)
theorem dX0_readTooth_19 : decode cX0_readTooth 19 = .ok (.iaload, 1) := dk_46 (dk_at dksX0_readTooth_0 19 rfl rfl)
theorem dX0_readTooth_20 : decode cX0_readTooth 20 = .ok (.invokestatic 94, 3) := dk_184 0 94 (dk_at dksX0_readTooth_0 20 rfl rfl)
theorem dX0_readTooth_23 : decode cX0_readTooth 23 = .ok (.istore_n 2, 1) := dk_61 (dk_at dksX0_readTooth_0 23 rfl rfl)
theorem dX0_readTooth_24 : decode cX0_readTooth 24 = .ok (.iload_n 2, 1) := dk_28 (dk_at dksX0_readTooth_1 0 rfl rfl)
theorem dX0_readTooth_25 : decode cX0_readTooth 25 = .ok (.bipush (-9), 2) := dk_16 247 (dk_at dksX0_readTooth_1 1 rfl rfl)
theorem dX0_readTooth_27 : decode cX0_readTooth 27 = .ok (.if_icmp .ne 5, 3) := dk_160 0 5 (dk_at dksX0_readTooth_1 3 rfl rfl)
theorem dX0_readTooth_30 : decode cX0_readTooth 30 = .ok (.iconst 0, 1) := dk_3 (dk_at dksX0_readTooth_1 6 rfl rfl)
theorem dX0_readTooth_31 : decode cX0_readTooth 31 = .ok (.ireturn, 1) := dk_172 (dk_at dksX0_readTooth_1 7 rfl rfl)
theorem dX0_readTooth_32 : decode cX0_readTooth 32 = .ok (.aload_n 0, 1) := dk_42 (dk_at dksX0_readTooth_1 8 rfl rfl)
theorem dX0_readTooth_33 : decode cX0_readTooth 33 = .ok (.dup, 1) := dk_89 (dk_at dksX0_readTooth_1 9 rfl rfl)
theorem dX0_readTooth_34 : decode cX0_readTooth 34 = .ok (.getfield 89, 3) := dk_180 0 89 (dk_at dksX0_readTooth_1 10 rfl rfl)
theorem dX0_readTooth_37 : decode cX0_readTooth 37 = .ok (.iconst 1, 1) := dk_4 (dk_at dksX0_readTooth_1 13 rfl rfl)
theorem dX0_readTooth_38 : decode cX0_readTooth 38 = .ok (.iadd, 1) := dk_96 (dk_at dksX0_readTooth_1 14 rfl rfl)
theorem dX0_readTooth_39 : decode cX0_readTooth 39 = .ok (.putfield 89, 3) := dk_181 0 89 (dk_at dksX0_readTooth_1 15 rfl rfl)
theorem dX0_readTooth_42 : decode cX0_readTooth 42 = .ok (.aload_n 0, 1) := dk_42 (dk_at dksX0_readTooth_1 18 rfl rfl)
theorem dX0_readTooth_43 : decode cX0_readTooth 43 = .ok (.getfield 18, 3) := dk_180 0 18 (dk_at dksX0_readTooth_1 19 rfl rfl)
theorem dX0_readTooth_46 : decode cX0_readTooth 46 = .ok (.iconst 5, 1) := dk_8 (dk_at dksX0_readTooth_1 22 rfl rfl)
theorem dX0_readTooth_47 : decode cX0_readTooth 47 = .ok (.aload_n 0, 1) := dk_42 (dk_at dksX0_readTooth_1 23 rfl rfl)
theorem dX0_readTooth_48 : decode cX0_readTooth 48 = .ok (.getfield 98, 3) := dk_180 0 98 (dk_at dksX0_readTooth_2 0 rfl rfl)
theorem dX0_readTooth_51 : decode cX0_readTooth 51 = .ok (.imul, 1) := dk_104 (dk_at dksX0_readTooth_2 3 rfl rfl)
theorem dX0_readTooth_52 : decode cX0_readTooth 52 = .ok (.iload_n 2, 1) := dk_28 (dk_at dksX0_readTooth_2 4 rfl rfl)
theorem dX0_readTooth_53 : decode cX0_readTooth 53 = .ok (.iastore, 1) := dk_79 (dk_at dksX0_readTooth_2 5 rfl rfl)
theorem dX0_readTooth_54 : decode cX0_readTooth 54 = .ok (.iconst 1, 1) := dk_4 (dk_at dksX0_readTooth_2 6 rfl rfl)
theorem dX0_readTooth_55 : decode cX0_readTooth 55 = .ok (.istore_n 3, 1) := dk_62 (dk_at dksX0_readTooth_2 7 rfl rfl)
theorem dX0_readTooth_56 : decode cX0_readTooth 56 = .ok (.iload_n 3, 1) := dk_29 (dk_at dksX0_readTooth_2 8 rfl rfl)
theorem dX0_readTooth_57 : decode cX0_readTooth 57 = .ok (.iconst 4, 1) := dk_7 (dk_at dksX0_readTooth_2 9 rfl rfl)
theorem dX0_readTooth_58 : decode cX0_readTooth 58 = .ok (.if_icmp .ge 43, 3) := dk_162 0 43 (dk_at dksX0_readTooth_2 10 rfl rfl)
theorem dX0_readTooth_61 : decode cX0_readTooth 61 = .ok (.aload_n 0, 1) := dk_42 (dk_at dksX0_readTooth_2 13 rfl rfl)
theorem dX0_readTooth_62 : decode cX0_readTooth 62 = .ok (.aload_n 1, 1) := dk_43 (dk_at dksX0_readTooth_2 14 rfl rfl)
theorem dX0_readTooth_63 : decode cX0_readTooth 63 = .ok (.iconst 0, 1) := dk_3 (dk_at dksX0_readTooth_2 15 rfl rfl)
theorem dX0_readTooth_64 : decode cX0_readTooth 64 = .ok (.bipush 9, 2) := dk_16 9 (dk_at dksX0_readTooth_2 16 rfl rfl)
theorem dX0_readTooth_66 : decode cX0_readTooth 66 = .ok (.invokevirtual 101, 3) := dk_182 0 101 (dk_at dksX0_readTooth_2 18 rfl rfl)
theorem dX0_readTooth_69 : decode cX0_readTooth 69 = .ok (.istore 4, 2) := dk_54 4 (dk_at dksX0_readTooth_2 21 rfl rfl)
theorem dX0_readTooth_71 : decode cX0_readTooth 71 = .ok (.iload 4, 2) := dk_21 4 (dk_at dksX0_readTooth_3 0 rfl rfl)
theorem dX0_readTooth_73 : decode cX0_readTooth 73 = .ok (.bipush (-9), 2) := dk_16 247 (dk_at dksX0_readTooth_3 2 rfl rfl)
theorem dX0_readTooth_75 : decode cX0_readTooth 75 = .ok (.if_icmp .ne 5, 3) := dk_160 0 5 (dk_at dksX0_readTooth_3 4 rfl rfl)
theorem dX0_readTooth_78 : decode cX0_readTooth 78 = .ok (.iconst 0, 1) := dk_3 (dk_at dksX0_readTooth_3 7 rfl rfl)
theorem dX0_readTooth_79 : decode cX0_readTooth 79 = .ok (.ireturn, 1) := dk_172 (dk_at dksX0_readTooth_3 8 rfl rfl)
theorem dX0_readTooth_80 : decode cX0_readTooth 80 = .ok (.aload_n 0, 1) := dk_42 (dk_at dksX0_readTooth_3 9 rfl rfl)
theorem dX0_readTooth_81 : decode cX0_readTooth 81 = .ok (.getfield 18, 3) := dk_180 0 18 (dk_at dksX0_readTooth_3 10 rfl rfl)
theorem dX0_readTooth_84 : decode cX0_readTooth 84 = .ok (.iconst 5, 1) := dk_8 (dk_at dksX0_readTooth_3 13 rfl rfl)
theorem dX0_readTooth_85 : decode cX0_readTooth 85 = .ok (.aload_n 0, 1) := dk_42 (dk_at dksX0_readTooth_3 14 rfl rfl)
theorem dX0_readTooth_86 : decode cX0_readTooth 86 = .ok (.getfield 98, 3) := dk_180 0 98 (dk_at dksX0_readTooth_3 15 rfl rfl)
theorem dX0_readTooth_89 : decode cX0_readTooth 89 = .ok (.imul, 1) := dk_104 (dk_at dksX0_readTooth_3 18 rfl rfl)
theorem dX0_readTooth_90 : decode cX0_readTooth 90 = .ok (.iload_n 3, 1) := dk_29 (dk_at dksX0_readTooth_3 19 rfl rfl)
theorem dX0_readTooth_91 : decode cX0_readTooth 91 = .ok (.iadd, 1) := dk_96 (dk_at dksX0_readTooth_3 20 rfl rfl)
theorem dX0_readTooth_92 : decode cX0_readTooth 92 = .ok (.iload 4, 2) := dk_21 4 (dk_at dksX0_readTooth_3 21 rfl rfl)
theorem dX0_readTooth_94 : decode cX0_readTooth 94 = .ok (.iastore, 1) := dk_79 (dk_at dksX0_readTooth_3 23 rfl rfl)
theorem dX0_readTooth_95 : decode cX0_readTooth 95 = .ok (.iinc 3 1, 3) := dk_132 3 1 (dk_at dksX0_readTooth_4 0 rfl rfl)
theorem dX0_readTooth_98 : decode cX0_readTooth 98 = .ok (.goto (-42), 3) := dk_167 255 214 (dk_at dksX0_readTooth_4 3 rfl rfl)
theorem dX0_readTooth_101 : decode cX0_readTooth 101 = .ok (.aload_n 0, 1) := dk_42 (dk_at dksX0_readTooth_4 6 rfl rfl)
theorem dX0_readTooth_102 : decode cX0_readTooth 102 = .ok (.getfield 18, 3) := dk_180 0 18 (dk_at dksX0_readTooth_4 7 rfl rfl)
theorem dX0_readTooth_105 : decode cX0_readTooth 105 = .ok (.iconst 5, 1) := dk_8 (dk_at dksX0_readTooth_4 10 rfl rfl)
theorem dX0_readTooth_106 : decode cX0_readTooth 106 = .ok (.aload_n 0, 1) := dk_42 (dk_at dksX0_readTooth_4 11 rfl rfl)
theorem dX0_readTooth_107 : decode cX0_readTooth 107 = .ok (.getfield 98, 3) := dk_180 0 98 (dk_at dksX0_readTooth_4 12 rfl rfl)
theorem dX0_readTooth_110 : decode cX0_readTooth 110 = .ok (.imul, 1) := dk_104 (dk_at dksX0_readTooth_4 15 rfl rfl)
theorem dX0_readTooth_111 : decode cX0_readTooth 111 = .ok (.iconst 4, 1) := dk_7 (dk_at dksX0_readTooth_4 16 rfl rfl)
theorem dX0_readTooth_112 : decode cX0_readTooth 112 = .ok (.iadd, 1) := dk_96 (dk_at dksX0_readTooth_4 17 rfl rfl)
theorem dX0_readTooth_113 : decode cX0_readTooth 113 = .ok (.iload_n 2, 1) := dk_28 (dk_at dksX0_readTooth_4 18 rfl rfl)
theorem dX0_readTooth_114 : decode cX0_readTooth 114 = .ok (.ifCond .eq 17, 3) := dk_153 0 17 (dk_at dksX0_readTooth_4 19 rfl rfl)
theorem dX0_readTooth_117 : decode cX0_readTooth 117 = .ok (.aload_n 0, 1) := dk_42 (dk_at dksX0_readTooth_4 22 rfl rfl)
theorem dX0_readTooth_118 : decode cX0_readTooth 118 = .ok (.aload_n 1, 1) := dk_43 (dk_at dksX0_readTooth_4 23 rfl rfl)
theorem dX0_readTooth_119 : decode cX0_readTooth 119 = .ok (.bipush 104, 2) := dk_16 104 (dk_at dksX0_readTooth_5 0 rfl rfl)
theorem dX0_readTooth_121 : decode cX0_readTooth 121 = .ok (.invokevirtual 105, 3) := dk_182 0 105 (dk_at dksX0_readTooth_5 2 rfl rfl)
theorem dX0_readTooth_124 : decode cX0_readTooth 124 = .ok (.ifCond .eq 7, 3) := dk_153 0 7 (dk_at dksX0_readTooth_5 5 rfl rfl)
theorem dX0_readTooth_127 : decode cX0_readTooth 127 = .ok (.iconst 1, 1) := dk_4 (dk_at dksX0_readTooth_5 8 rfl rfl)
theorem dX0_readTooth_128 : decode cX0_readTooth 128 = .ok (.goto 4, 3) := dk_167 0 4 (dk_at dksX0_readTooth_5 9 rfl rfl)
theorem dX0_readTooth_131 : decode cX0_readTooth 131 = .ok (.iconst 0, 1) := dk_3 (dk_at dksX0_readTooth_5 12 rfl rfl)
theorem dX0_readTooth_132 : decode cX0_readTooth 132 = .ok (.iastore, 1) := dk_79 (dk_at dksX0_readTooth_5 13 rfl rfl)
theorem dX0_readTooth_133 : decode cX0_readTooth 133 = .ok (.aload_n 0, 1) := dk_42 (dk_at dksX0_readTooth_5 14 rfl rfl)
theorem dX0_readTooth_134 : decode cX0_readTooth 134 = .ok (.dup, 1) := dk_89 (dk_at dksX0_readTooth_5 15 rfl rfl)
theorem dX0_readTooth_135 : decode cX0_readTooth 135 = .ok (.getfield 98, 3) := dk_180 0 98 (dk_at dksX0_readTooth_5 16 rfl rfl)
theorem dX0_readTooth_138 : decode cX0_readTooth 138 = .ok (.iconst 1, 1) := dk_4 (dk_at dksX0_readTooth_5 19 rfl rfl)
theorem dX0_readTooth_139 : decode cX0_readTooth 139 = .ok (.iadd, 1) := dk_96 (dk_at dksX0_readTooth_5 20 rfl rfl)
theorem dX0_readTooth_140 : decode cX0_readTooth 140 = .ok (.putfield 98, 3) := dk_181 0 98 (dk_at dksX0_readTooth_5 21 rfl rfl)
theorem dX0_readTooth_143 : decode cX0_readTooth 143 = .ok (.iconst 1, 1) := dk_4 (dk_at dksX0_readTooth_6 0 rfl rfl)
theorem dX0_readTooth_144 : decode cX0_readTooth 144 = .ok (.ireturn, 1) := dk_172 (dk_at dksX0_readTooth_6 1 rfl rfl)
abbrev cX0_sideOf : ByteArray := prog_1_method_10_code
def yX0_sideOf : MethodName := ⟨RX0, "sideOf", "(I)I"⟩
def dkwX0_sideOf_1 : List UInt8 := [160, 0, 7, 4, 167, 0, 5, 16, 247, 172]
abbrev dktX0_sideOf_1 : List UInt8 := dkwX0_sideOf_1 ++ []
def dkwX0_sideOf_0 : List UInt8 := [26, 16, 108, 160, 0, 7, 2, 167, 0, 25, 26, 16, 99, 160, 0, 7, 3, 167, 0, 15, 26, 16, 114]
abbrev dktX0_sideOf_0 : List UInt8 := dkwX0_sideOf_0 ++ dktX0_sideOf_1
theorem dksX0_sideOf_0 : cX0_sideOf.data.toList.drop 0 = dktX0_sideOf_0 := by decide +kernel
theorem dksX0_sideOf_1 : cX0_sideOf.data.toList.drop 23 = dktX0_sideOf_1 := dk_seg dksX0_sideOf_0 23 rfl rfl
theorem dX0_sideOf_0 : decode cX0_sideOf 0 = .ok (.iload_n 0, 1) := dk_26 (dk_at dksX0_sideOf_0 0 rfl rfl)
theorem dX0_sideOf_1 : decode cX0_sideOf 1 = .ok (.bipush 108, 2) := dk_16 108 (dk_at dksX0_sideOf_0 1 rfl rfl)
theorem dX0_sideOf_3 : decode cX0_sideOf 3 = .ok (.if_icmp .ne 7, 3) := dk_160 0 7 (dk_at dksX0_sideOf_0 3 rfl rfl)
theorem dX0_sideOf_6 : decode cX0_sideOf 6 = .ok (.iconst (-1), 1) := dk_2 (dk_at dksX0_sideOf_0 6 rfl rfl)
theorem dX0_sideOf_7 : decode cX0_sideOf 7 = .ok (.goto 25, 3) := dk_167 0 25 (dk_at dksX0_sideOf_0 7 rfl rfl)
theorem dX0_sideOf_10 : decode cX0_sideOf 10 = .ok (.iload_n 0, 1) := dk_26 (dk_at dksX0_sideOf_0 10 rfl rfl)
theorem dX0_sideOf_11 : decode cX0_sideOf 11 = .ok (.bipush 99, 2) := dk_16 99 (dk_at dksX0_sideOf_0 11 rfl rfl)
theorem dX0_sideOf_13 : decode cX0_sideOf 13 = .ok (.if_icmp .ne 7, 3) := dk_160 0 7 (dk_at dksX0_sideOf_0 13 rfl rfl)
theorem dX0_sideOf_16 : decode cX0_sideOf 16 = .ok (.iconst 0, 1) := dk_3 (dk_at dksX0_sideOf_0 16 rfl rfl)
theorem dX0_sideOf_17 : decode cX0_sideOf 17 = .ok (.goto 15, 3) := dk_167 0 15 (dk_at dksX0_sideOf_0 17 rfl rfl)
theorem dX0_sideOf_20 : decode cX0_sideOf 20 = .ok (.iload_n 0, 1) := dk_26 (dk_at dksX0_sideOf_0 20 rfl rfl)
theorem dX0_sideOf_21 : decode cX0_sideOf 21 = .ok (.bipush 114, 2) := dk_16 114 (dk_at dksX0_sideOf_0 21 rfl rfl)
theorem dX0_sideOf_23 : decode cX0_sideOf 23 = .ok (.if_icmp .ne 7, 3) := dk_160 0 7 (dk_at dksX0_sideOf_1 0 rfl rfl)
theorem dX0_sideOf_26 : decode cX0_sideOf 26 = .ok (.iconst 1, 1) := dk_4 (dk_at dksX0_sideOf_1 3 rfl rfl)
theorem dX0_sideOf_27 : decode cX0_sideOf 27 = .ok (.goto 5, 3) := dk_167 0 5 (dk_at dksX0_sideOf_1 4 rfl rfl)
theorem dX0_sideOf_30 : decode cX0_sideOf 30 = .ok (.bipush (-9), 2) := dk_16 247 (dk_at dksX0_sideOf_1 7 rfl rfl)
theorem dX0_sideOf_32 : decode cX0_sideOf 32 = .ok (.ireturn, 1) := dk_172 (dk_at dksX0_sideOf_1 9 rfl rfl)
abbrev cX0_digit : ByteArray := prog_1_method_9_code
def yX0_digit : MethodName := ⟨RX0, "digit", "([III)I"⟩
def dkwX0_digit_2 : List UInt8 := [4, 100, 46, 16, 48, 100, 172]
abbrev dktX0_digit_2 : List UInt8 := dkwX0_digit_2 ++ []
def dkwX0_digit_1 : List UInt8 := [184, 0, 76, 154, 0, 6, 16, 247, 172, 42, 89, 180, 0, 89, 4, 96, 181, 0, 89, 43, 42, 180, 0, 89]
abbrev dktX0_digit_1 : List UInt8 := dkwX0_digit_1 ++ dktX0_digit_2
def dkwX0_digit_0 : List UInt8 := [42, 180, 0, 89, 43, 190, 159, 0, 24, 43, 42, 180, 0, 89, 46, 133, 20, 0, 92, 101, 28, 133, 29, 133]
abbrev dktX0_digit_0 : List UInt8 := dkwX0_digit_0 ++ dktX0_digit_1
theorem dksX0_digit_0 : cX0_digit.data.toList.drop 0 = dktX0_digit_0 := by decide +kernel
theorem dksX0_digit_1 : cX0_digit.data.toList.drop 24 = dktX0_digit_1 := dk_seg dksX0_digit_0 24 rfl rfl
theorem dksX0_digit_2 : cX0_digit.data.toList.drop 48 = dktX0_digit_2 := dk_seg dksX0_digit_1 24 rfl rfl
theorem dX0_digit_0 : decode cX0_digit 0 = .ok (.aload_n 0, 1) := dk_42 (dk_at dksX0_digit_0 0 rfl rfl)
theorem dX0_digit_1 : decode cX0_digit 1 = .ok (.getfield 89, 3) := dk_180 0 89 (dk_at dksX0_digit_0 1 rfl rfl)
theorem dX0_digit_4 : decode cX0_digit 4 = .ok (.aload_n 1, 1) := dk_43 (dk_at dksX0_digit_0 4 rfl rfl)
theorem dX0_digit_5 : decode cX0_digit 5 = .ok (.arraylength, 1) := dk_190 (dk_at dksX0_digit_0 5 rfl rfl)
theorem dX0_digit_6 : decode cX0_digit 6 = .ok (.if_icmp .eq 24, 3) := dk_159 0 24 (dk_at dksX0_digit_0 6 rfl rfl)
theorem dX0_digit_9 : decode cX0_digit 9 = .ok (.aload_n 1, 1) := dk_43 (dk_at dksX0_digit_0 9 rfl rfl)
theorem dX0_digit_10 : decode cX0_digit 10 = .ok (.aload_n 0, 1) := dk_42 (dk_at dksX0_digit_0 10 rfl rfl)
theorem dX0_digit_11 : decode cX0_digit 11 = .ok (.getfield 89, 3) := dk_180 0 89 (dk_at dksX0_digit_0 11 rfl rfl)
theorem dX0_digit_14 : decode cX0_digit 14 = .ok (.iaload, 1) := dk_46 (dk_at dksX0_digit_0 14 rfl rfl)
theorem dX0_digit_15 : decode cX0_digit 15 = .ok (.i2l, 1) := dk_133 (dk_at dksX0_digit_0 15 rfl rfl)
theorem dX0_digit_16 : decode cX0_digit 16 = .ok (.ldc2_w 92, 3) := dk_20 0 92 (dk_at dksX0_digit_0 16 rfl rfl)
theorem dX0_digit_19 : decode cX0_digit 19 = .ok (.lsub, 1) := dk_101 (dk_at dksX0_digit_0 19 rfl rfl)
theorem dX0_digit_20 : decode cX0_digit 20 = .ok (.iload_n 2, 1) := dk_28 (dk_at dksX0_digit_0 20 rfl rfl)
theorem dX0_digit_21 : decode cX0_digit 21 = .ok (.i2l, 1) := dk_133 (dk_at dksX0_digit_0 21 rfl rfl)
theorem dX0_digit_22 : decode cX0_digit 22 = .ok (.iload_n 3, 1) := dk_29 (dk_at dksX0_digit_0 22 rfl rfl)
theorem dX0_digit_23 : decode cX0_digit 23 = .ok (.i2l, 1) := dk_133 (dk_at dksX0_digit_0 23 rfl rfl)
theorem dX0_digit_24 : decode cX0_digit 24 = .ok (.invokestatic 76, 3) := dk_184 0 76 (dk_at dksX0_digit_1 0 rfl rfl)
theorem dX0_digit_27 : decode cX0_digit 27 = .ok (.ifCond .ne 6, 3) := dk_154 0 6 (dk_at dksX0_digit_1 3 rfl rfl)
theorem dX0_digit_30 : decode cX0_digit 30 = .ok (.bipush (-9), 2) := dk_16 247 (dk_at dksX0_digit_1 6 rfl rfl)
theorem dX0_digit_32 : decode cX0_digit 32 = .ok (.ireturn, 1) := dk_172 (dk_at dksX0_digit_1 8 rfl rfl)
theorem dX0_digit_33 : decode cX0_digit 33 = .ok (.aload_n 0, 1) := dk_42 (dk_at dksX0_digit_1 9 rfl rfl)
theorem dX0_digit_34 : decode cX0_digit 34 = .ok (.dup, 1) := dk_89 (dk_at dksX0_digit_1 10 rfl rfl)
theorem dX0_digit_35 : decode cX0_digit 35 = .ok (.getfield 89, 3) := dk_180 0 89 (dk_at dksX0_digit_1 11 rfl rfl)
theorem dX0_digit_38 : decode cX0_digit 38 = .ok (.iconst 1, 1) := dk_4 (dk_at dksX0_digit_1 14 rfl rfl)
theorem dX0_digit_39 : decode cX0_digit 39 = .ok (.iadd, 1) := dk_96 (dk_at dksX0_digit_1 15 rfl rfl)
theorem dX0_digit_40 : decode cX0_digit 40 = .ok (.putfield 89, 3) := dk_181 0 89 (dk_at dksX0_digit_1 16 rfl rfl)
theorem dX0_digit_43 : decode cX0_digit 43 = .ok (.aload_n 1, 1) := dk_43 (dk_at dksX0_digit_1 19 rfl rfl)
theorem dX0_digit_44 : decode cX0_digit 44 = .ok (.aload_n 0, 1) := dk_42 (dk_at dksX0_digit_1 20 rfl rfl)
theorem dX0_digit_45 : decode cX0_digit 45 = .ok (.getfield 89, 3) := dk_180 0 89 (dk_at dksX0_digit_1 21 rfl rfl)
theorem dX0_digit_48 : decode cX0_digit 48 = .ok (.iconst 1, 1) := dk_4 (dk_at dksX0_digit_2 0 rfl rfl)
theorem dX0_digit_49 : decode cX0_digit 49 = .ok (.isub, 1) := dk_100 (dk_at dksX0_digit_2 1 rfl rfl)
theorem dX0_digit_50 : decode cX0_digit 50 = .ok (.iaload, 1) := dk_46 (dk_at dksX0_digit_2 2 rfl rfl)
theorem dX0_digit_51 : decode cX0_digit 51 = .ok (.bipush 48, 2) := dk_16 48 (dk_at dksX0_digit_2 3 rfl rfl)
theorem dX0_digit_53 : decode cX0_digit 53 = .ok (.isub, 1) := dk_100 (dk_at dksX0_digit_2 5 rfl rfl)
theorem dX0_digit_54 : decode cX0_digit 54 = .ok (.ireturn, 1) := dk_172 (dk_at dksX0_digit_2 6 rfl rfl)
abbrev cX0_isSign : ByteArray := prog_1_method_8_code
def yX0_isSign : MethodName := ⟨RX0, "isSign", "([II)Z"⟩
def dkwX0_isSign_1 : List UInt8 := [180, 0, 89, 4, 96, 181, 0, 89, 4, 172]
abbrev dktX0_isSign_1 : List UInt8 := dkwX0_isSign_1 ++ []
def dkwX0_isSign_0 : List UInt8 := [42, 180, 0, 89, 43, 190, 159, 0, 13, 43, 42, 180, 0, 89, 46, 28, 159, 0, 5, 3, 172, 42, 89]
abbrev dktX0_isSign_0 : List UInt8 := dkwX0_isSign_0 ++ dktX0_isSign_1
theorem dksX0_isSign_0 : cX0_isSign.data.toList.drop 0 = dktX0_isSign_0 := by decide +kernel
theorem dksX0_isSign_1 : cX0_isSign.data.toList.drop 23 = dktX0_isSign_1 := dk_seg dksX0_isSign_0 23 rfl rfl
theorem dX0_isSign_0 : decode cX0_isSign 0 = .ok (.aload_n 0, 1) := dk_42 (dk_at dksX0_isSign_0 0 rfl rfl)
theorem dX0_isSign_1 : decode cX0_isSign 1 = .ok (.getfield 89, 3) := dk_180 0 89 (dk_at dksX0_isSign_0 1 rfl rfl)
theorem dX0_isSign_4 : decode cX0_isSign 4 = .ok (.aload_n 1, 1) := dk_43 (dk_at dksX0_isSign_0 4 rfl rfl)
theorem dX0_isSign_5 : decode cX0_isSign 5 = .ok (.arraylength, 1) := dk_190 (dk_at dksX0_isSign_0 5 rfl rfl)
theorem dX0_isSign_6 : decode cX0_isSign 6 = .ok (.if_icmp .eq 13, 3) := dk_159 0 13 (dk_at dksX0_isSign_0 6 rfl rfl)
theorem dX0_isSign_9 : decode cX0_isSign 9 = .ok (.aload_n 1, 1) := dk_43 (dk_at dksX0_isSign_0 9 rfl rfl)
theorem dX0_isSign_10 : decode cX0_isSign 10 = .ok (.aload_n 0, 1) := dk_42 (dk_at dksX0_isSign_0 10 rfl rfl)
theorem dX0_isSign_11 : decode cX0_isSign 11 = .ok (.getfield 89, 3) := dk_180 0 89 (dk_at dksX0_isSign_0 11 rfl rfl)
theorem dX0_isSign_14 : decode cX0_isSign 14 = .ok (.iaload, 1) := dk_46 (dk_at dksX0_isSign_0 14 rfl rfl)
theorem dX0_isSign_15 : decode cX0_isSign 15 = .ok (.iload_n 2, 1) := dk_28 (dk_at dksX0_isSign_0 15 rfl rfl)
theorem dX0_isSign_16 : decode cX0_isSign 16 = .ok (.if_icmp .eq 5, 3) := dk_159 0 5 (dk_at dksX0_isSign_0 16 rfl rfl)
theorem dX0_isSign_19 : decode cX0_isSign 19 = .ok (.iconst 0, 1) := dk_3 (dk_at dksX0_isSign_0 19 rfl rfl)
theorem dX0_isSign_20 : decode cX0_isSign 20 = .ok (.ireturn, 1) := dk_172 (dk_at dksX0_isSign_0 20 rfl rfl)
theorem dX0_isSign_21 : decode cX0_isSign 21 = .ok (.aload_n 0, 1) := dk_42 (dk_at dksX0_isSign_0 21 rfl rfl)
theorem dX0_isSign_22 : decode cX0_isSign 22 = .ok (.dup, 1) := dk_89 (dk_at dksX0_isSign_0 22 rfl rfl)
theorem dX0_isSign_23 : decode cX0_isSign 23 = .ok (.getfield 89, 3) := dk_180 0 89 (dk_at dksX0_isSign_1 0 rfl rfl)
theorem dX0_isSign_26 : decode cX0_isSign 26 = .ok (.iconst 1, 1) := dk_4 (dk_at dksX0_isSign_1 3 rfl rfl)
theorem dX0_isSign_27 : decode cX0_isSign 27 = .ok (.iadd, 1) := dk_96 (dk_at dksX0_isSign_1 4 rfl rfl)
theorem dX0_isSign_28 : decode cX0_isSign 28 = .ok (.putfield 89, 3) := dk_181 0 89 (dk_at dksX0_isSign_1 5 rfl rfl)
theorem dX0_isSign_31 : decode cX0_isSign 31 = .ok (.iconst 1, 1) := dk_4 (dk_at dksX0_isSign_1 8 rfl rfl)
theorem dX0_isSign_32 : decode cX0_isSign 32 = .ok (.ireturn, 1) := dk_172 (dk_at dksX0_isSign_1 9 rfl rfl)
abbrev cX0_toothOf : ByteArray := prog_1_method_13_code
def yX0_toothOf : MethodName := ⟨RX0, "toothOf", "(I)LSawLine$Tooth;"⟩
def dkwX0_toothOf_4 : List UInt8 := [187, 0, 123, 89, 42, 27, 28, 29, 21, 4, 21, 5, 183, 0, 125, 176]
abbrev dktX0_toothOf_4 : List UInt8 := dkwX0_toothOf_4 ++ []
def dkwX0_toothOf_3 : List UInt8 := [7, 96, 46, 154, 0, 21, 187, 0, 118, 89, 42, 27, 28, 29, 21, 4, 21, 5, 183, 0, 120, 167, 0, 18]
abbrev dktX0_toothOf_3 : List UInt8 := dkwX0_toothOf_3 ++ dktX0_toothOf_4
def dkwX0_toothOf_2 : List UInt8 := [187, 0, 113, 89, 42, 27, 29, 21, 4, 21, 5, 183, 0, 115, 167, 0, 49, 42, 180, 0, 18, 8, 27, 104]
abbrev dktX0_toothOf_2 : List UInt8 := dkwX0_toothOf_2 ++ dktX0_toothOf_3
def dkwX0_toothOf_1 : List UInt8 := [8, 27, 104, 5, 96, 46, 54, 4, 42, 180, 0, 18, 8, 27, 104, 6, 96, 46, 54, 5, 28, 154, 0, 20]
abbrev dktX0_toothOf_1 : List UInt8 := dkwX0_toothOf_1 ++ dktX0_toothOf_2
def dkwX0_toothOf_0 : List UInt8 := [42, 180, 0, 18, 8, 27, 104, 46, 61, 42, 180, 0, 18, 8, 27, 104, 4, 96, 46, 62, 42, 180, 0, 18]
abbrev dktX0_toothOf_0 : List UInt8 := dkwX0_toothOf_0 ++ dktX0_toothOf_1
theorem dksX0_toothOf_0 : cX0_toothOf.data.toList.drop 0 = dktX0_toothOf_0 := by decide +kernel
theorem dksX0_toothOf_1 : cX0_toothOf.data.toList.drop 24 = dktX0_toothOf_1 := dk_seg dksX0_toothOf_0 24 rfl rfl
theorem dksX0_toothOf_2 : cX0_toothOf.data.toList.drop 48 = dktX0_toothOf_2 := dk_seg dksX0_toothOf_1 24 rfl rfl
theorem dksX0_toothOf_3 : cX0_toothOf.data.toList.drop 72 = dktX0_toothOf_3 := dk_seg dksX0_toothOf_2 24 rfl rfl
theorem dksX0_toothOf_4 : cX0_toothOf.data.toList.drop 96 = dktX0_toothOf_4 := dk_seg dksX0_toothOf_3 24 rfl rfl
theorem dX0_toothOf_0 : decode cX0_toothOf 0 = .ok (.aload_n 0, 1) := dk_42 (dk_at dksX0_toothOf_0 0 rfl rfl)
theorem dX0_toothOf_1 : decode cX0_toothOf 1 = .ok (.getfield 18, 3) := dk_180 0 18 (dk_at dksX0_toothOf_0 1 rfl rfl)
theorem dX0_toothOf_4 : decode cX0_toothOf 4 = .ok (.iconst 5, 1) := dk_8 (dk_at dksX0_toothOf_0 4 rfl rfl)
theorem dX0_toothOf_5 : decode cX0_toothOf 5 = .ok (.iload_n 1, 1) := dk_27 (dk_at dksX0_toothOf_0 5 rfl rfl)
theorem dX0_toothOf_6 : decode cX0_toothOf 6 = .ok (.imul, 1) := dk_104 (dk_at dksX0_toothOf_0 6 rfl rfl)
theorem dX0_toothOf_7 : decode cX0_toothOf 7 = .ok (.iaload, 1) := dk_46 (dk_at dksX0_toothOf_0 7 rfl rfl)
theorem dX0_toothOf_8 : decode cX0_toothOf 8 = .ok (.istore_n 2, 1) := dk_61 (dk_at dksX0_toothOf_0 8 rfl rfl)
theorem dX0_toothOf_9 : decode cX0_toothOf 9 = .ok (.aload_n 0, 1) := dk_42 (dk_at dksX0_toothOf_0 9 rfl rfl)
theorem dX0_toothOf_10 : decode cX0_toothOf 10 = .ok (.getfield 18, 3) := dk_180 0 18 (dk_at dksX0_toothOf_0 10 rfl rfl)
theorem dX0_toothOf_13 : decode cX0_toothOf 13 = .ok (.iconst 5, 1) := dk_8 (dk_at dksX0_toothOf_0 13 rfl rfl)
theorem dX0_toothOf_14 : decode cX0_toothOf 14 = .ok (.iload_n 1, 1) := dk_27 (dk_at dksX0_toothOf_0 14 rfl rfl)
theorem dX0_toothOf_15 : decode cX0_toothOf 15 = .ok (.imul, 1) := dk_104 (dk_at dksX0_toothOf_0 15 rfl rfl)
theorem dX0_toothOf_16 : decode cX0_toothOf 16 = .ok (.iconst 1, 1) := dk_4 (dk_at dksX0_toothOf_0 16 rfl rfl)
theorem dX0_toothOf_17 : decode cX0_toothOf 17 = .ok (.iadd, 1) := dk_96 (dk_at dksX0_toothOf_0 17 rfl rfl)
theorem dX0_toothOf_18 : decode cX0_toothOf 18 = .ok (.iaload, 1) := dk_46 (dk_at dksX0_toothOf_0 18 rfl rfl)
theorem dX0_toothOf_19 : decode cX0_toothOf 19 = .ok (.istore_n 3, 1) := dk_62 (dk_at dksX0_toothOf_0 19 rfl rfl)
theorem dX0_toothOf_20 : decode cX0_toothOf 20 = .ok (.aload_n 0, 1) := dk_42 (dk_at dksX0_toothOf_0 20 rfl rfl)
theorem dX0_toothOf_21 : decode cX0_toothOf 21 = .ok (.getfield 18, 3) := dk_180 0 18 (dk_at dksX0_toothOf_0 21 rfl rfl)
theorem dX0_toothOf_24 : decode cX0_toothOf 24 = .ok (.iconst 5, 1) := dk_8 (dk_at dksX0_toothOf_1 0 rfl rfl)
theorem dX0_toothOf_25 : decode cX0_toothOf 25 = .ok (.iload_n 1, 1) := dk_27 (dk_at dksX0_toothOf_1 1 rfl rfl)
theorem dX0_toothOf_26 : decode cX0_toothOf 26 = .ok (.imul, 1) := dk_104 (dk_at dksX0_toothOf_1 2 rfl rfl)
theorem dX0_toothOf_27 : decode cX0_toothOf 27 = .ok (.iconst 2, 1) := dk_5 (dk_at dksX0_toothOf_1 3 rfl rfl)
theorem dX0_toothOf_28 : decode cX0_toothOf 28 = .ok (.iadd, 1) := dk_96 (dk_at dksX0_toothOf_1 4 rfl rfl)
theorem dX0_toothOf_29 : decode cX0_toothOf 29 = .ok (.iaload, 1) := dk_46 (dk_at dksX0_toothOf_1 5 rfl rfl)
theorem dX0_toothOf_30 : decode cX0_toothOf 30 = .ok (.istore 4, 2) := dk_54 4 (dk_at dksX0_toothOf_1 6 rfl rfl)
theorem dX0_toothOf_32 : decode cX0_toothOf 32 = .ok (.aload_n 0, 1) := dk_42 (dk_at dksX0_toothOf_1 8 rfl rfl)
theorem dX0_toothOf_33 : decode cX0_toothOf 33 = .ok (.getfield 18, 3) := dk_180 0 18 (dk_at dksX0_toothOf_1 9 rfl rfl)
theorem dX0_toothOf_36 : decode cX0_toothOf 36 = .ok (.iconst 5, 1) := dk_8 (dk_at dksX0_toothOf_1 12 rfl rfl)
theorem dX0_toothOf_37 : decode cX0_toothOf 37 = .ok (.iload_n 1, 1) := dk_27 (dk_at dksX0_toothOf_1 13 rfl rfl)
theorem dX0_toothOf_38 : decode cX0_toothOf 38 = .ok (.imul, 1) := dk_104 (dk_at dksX0_toothOf_1 14 rfl rfl)
theorem dX0_toothOf_39 : decode cX0_toothOf 39 = .ok (.iconst 3, 1) := dk_6 (dk_at dksX0_toothOf_1 15 rfl rfl)
theorem dX0_toothOf_40 : decode cX0_toothOf 40 = .ok (.iadd, 1) := dk_96 (dk_at dksX0_toothOf_1 16 rfl rfl)
theorem dX0_toothOf_41 : decode cX0_toothOf 41 = .ok (.iaload, 1) := dk_46 (dk_at dksX0_toothOf_1 17 rfl rfl)
theorem dX0_toothOf_42 : decode cX0_toothOf 42 = .ok (.istore 5, 2) := dk_54 5 (dk_at dksX0_toothOf_1 18 rfl rfl)
theorem dX0_toothOf_44 : decode cX0_toothOf 44 = .ok (.iload_n 2, 1) := dk_28 (dk_at dksX0_toothOf_1 20 rfl rfl)
theorem dX0_toothOf_45 : decode cX0_toothOf 45 = .ok (.ifCond .ne 20, 3) := dk_154 0 20 (dk_at dksX0_toothOf_1 21 rfl rfl)
theorem dX0_toothOf_48 : decode cX0_toothOf 48 = .ok (.new 113, 3) := dk_187 0 113 (dk_at dksX0_toothOf_2 0 rfl rfl)
theorem dX0_toothOf_51 : decode cX0_toothOf 51 = .ok (.dup, 1) := dk_89 (dk_at dksX0_toothOf_2 3 rfl rfl)
theorem dX0_toothOf_52 : decode cX0_toothOf 52 = .ok (.aload_n 0, 1) := dk_42 (dk_at dksX0_toothOf_2 4 rfl rfl)
theorem dX0_toothOf_53 : decode cX0_toothOf 53 = .ok (.iload_n 1, 1) := dk_27 (dk_at dksX0_toothOf_2 5 rfl rfl)
theorem dX0_toothOf_54 : decode cX0_toothOf 54 = .ok (.iload_n 3, 1) := dk_29 (dk_at dksX0_toothOf_2 6 rfl rfl)
theorem dX0_toothOf_55 : decode cX0_toothOf 55 = .ok (.iload 4, 2) := dk_21 4 (dk_at dksX0_toothOf_2 7 rfl rfl)
theorem dX0_toothOf_57 : decode cX0_toothOf 57 = .ok (.iload 5, 2) := dk_21 5 (dk_at dksX0_toothOf_2 9 rfl rfl)
theorem dX0_toothOf_59 : decode cX0_toothOf 59 = .ok (.invokespecial 115, 3) := dk_183 0 115 (dk_at dksX0_toothOf_2 11 rfl rfl)
theorem dX0_toothOf_62 : decode cX0_toothOf 62 = .ok (.goto 49, 3) := dk_167 0 49 (dk_at dksX0_toothOf_2 14 rfl rfl)
theorem dX0_toothOf_65 : decode cX0_toothOf 65 = .ok (.aload_n 0, 1) := dk_42 (dk_at dksX0_toothOf_2 17 rfl rfl)
theorem dX0_toothOf_66 : decode cX0_toothOf 66 = .ok (.getfield 18, 3) := dk_180 0 18 (dk_at dksX0_toothOf_2 18 rfl rfl)
theorem dX0_toothOf_69 : decode cX0_toothOf 69 = .ok (.iconst 5, 1) := dk_8 (dk_at dksX0_toothOf_2 21 rfl rfl)
theorem dX0_toothOf_70 : decode cX0_toothOf 70 = .ok (.iload_n 1, 1) := dk_27 (dk_at dksX0_toothOf_2 22 rfl rfl)
theorem dX0_toothOf_71 : decode cX0_toothOf 71 = .ok (.imul, 1) := dk_104 (dk_at dksX0_toothOf_2 23 rfl rfl)
theorem dX0_toothOf_72 : decode cX0_toothOf 72 = .ok (.iconst 4, 1) := dk_7 (dk_at dksX0_toothOf_3 0 rfl rfl)
theorem dX0_toothOf_73 : decode cX0_toothOf 73 = .ok (.iadd, 1) := dk_96 (dk_at dksX0_toothOf_3 1 rfl rfl)
theorem dX0_toothOf_74 : decode cX0_toothOf 74 = .ok (.iaload, 1) := dk_46 (dk_at dksX0_toothOf_3 2 rfl rfl)
theorem dX0_toothOf_75 : decode cX0_toothOf 75 = .ok (.ifCond .ne 21, 3) := dk_154 0 21 (dk_at dksX0_toothOf_3 3 rfl rfl)
theorem dX0_toothOf_78 : decode cX0_toothOf 78 = .ok (.new 118, 3) := dk_187 0 118 (dk_at dksX0_toothOf_3 6 rfl rfl)
theorem dX0_toothOf_81 : decode cX0_toothOf 81 = .ok (.dup, 1) := dk_89 (dk_at dksX0_toothOf_3 9 rfl rfl)
theorem dX0_toothOf_82 : decode cX0_toothOf 82 = .ok (.aload_n 0, 1) := dk_42 (dk_at dksX0_toothOf_3 10 rfl rfl)
theorem dX0_toothOf_83 : decode cX0_toothOf 83 = .ok (.iload_n 1, 1) := dk_27 (dk_at dksX0_toothOf_3 11 rfl rfl)
theorem dX0_toothOf_84 : decode cX0_toothOf 84 = .ok (.iload_n 2, 1) := dk_28 (dk_at dksX0_toothOf_3 12 rfl rfl)
theorem dX0_toothOf_85 : decode cX0_toothOf 85 = .ok (.iload_n 3, 1) := dk_29 (dk_at dksX0_toothOf_3 13 rfl rfl)
theorem dX0_toothOf_86 : decode cX0_toothOf 86 = .ok (.iload 4, 2) := dk_21 4 (dk_at dksX0_toothOf_3 14 rfl rfl)
theorem dX0_toothOf_88 : decode cX0_toothOf 88 = .ok (.iload 5, 2) := dk_21 5 (dk_at dksX0_toothOf_3 16 rfl rfl)
theorem dX0_toothOf_90 : decode cX0_toothOf 90 = .ok (.invokespecial 120, 3) := dk_183 0 120 (dk_at dksX0_toothOf_3 18 rfl rfl)
theorem dX0_toothOf_93 : decode cX0_toothOf 93 = .ok (.goto 18, 3) := dk_167 0 18 (dk_at dksX0_toothOf_3 21 rfl rfl)
theorem dX0_toothOf_96 : decode cX0_toothOf 96 = .ok (.new 123, 3) := dk_187 0 123 (dk_at dksX0_toothOf_4 0 rfl rfl)
theorem dX0_toothOf_99 : decode cX0_toothOf 99 = .ok (.dup, 1) := dk_89 (dk_at dksX0_toothOf_4 3 rfl rfl)
theorem dX0_toothOf_100 : decode cX0_toothOf 100 = .ok (.aload_n 0, 1) := dk_42 (dk_at dksX0_toothOf_4 4 rfl rfl)
theorem dX0_toothOf_101 : decode cX0_toothOf 101 = .ok (.iload_n 1, 1) := dk_27 (dk_at dksX0_toothOf_4 5 rfl rfl)
theorem dX0_toothOf_102 : decode cX0_toothOf 102 = .ok (.iload_n 2, 1) := dk_28 (dk_at dksX0_toothOf_4 6 rfl rfl)
theorem dX0_toothOf_103 : decode cX0_toothOf 103 = .ok (.iload_n 3, 1) := dk_29 (dk_at dksX0_toothOf_4 7 rfl rfl)
theorem dX0_toothOf_104 : decode cX0_toothOf 104 = .ok (.iload 4, 2) := dk_21 4 (dk_at dksX0_toothOf_4 8 rfl rfl)
theorem dX0_toothOf_106 : decode cX0_toothOf 106 = .ok (.iload 5, 2) := dk_21 5 (dk_at dksX0_toothOf_4 10 rfl rfl)
theorem dX0_toothOf_108 : decode cX0_toothOf 108 = .ok (.invokespecial 125, 3) := dk_183 0 125 (dk_at dksX0_toothOf_4 12 rfl rfl)
theorem dX0_toothOf_111 : decode cX0_toothOf 111 = .ok (.areturn, 1) := dk_176 (dk_at dksX0_toothOf_4 15 rfl rfl)
abbrev cX0_faulty : ByteArray := prog_1_method_5_code
def yX0_faulty : MethodName := ⟨RX0, "faulty", "(I)I"⟩
def dkwX0_faulty_0 : List UInt8 := [42, 27, 181, 0, 80, 16, 246, 27, 100, 172]
abbrev dktX0_faulty_0 : List UInt8 := dkwX0_faulty_0 ++ []
theorem dksX0_faulty_0 : cX0_faulty.data.toList.drop 0 = dktX0_faulty_0 := by decide +kernel
theorem dX0_faulty_0 : decode cX0_faulty 0 = .ok (.aload_n 0, 1) := dk_42 (dk_at dksX0_faulty_0 0 rfl rfl)
theorem dX0_faulty_1 : decode cX0_faulty 1 = .ok (.iload_n 1, 1) := dk_27 (dk_at dksX0_faulty_0 1 rfl rfl)
theorem dX0_faulty_2 : decode cX0_faulty 2 = .ok (.putfield 80, 3) := dk_181 0 80 (dk_at dksX0_faulty_0 2 rfl rfl)
theorem dX0_faulty_5 : decode cX0_faulty 5 = .ok (.bipush (-10), 2) := dk_16 246 (dk_at dksX0_faulty_0 5 rfl rfl)
theorem dX0_faulty_7 : decode cX0_faulty 7 = .ok (.iload_n 1, 1) := dk_27 (dk_at dksX0_faulty_0 7 rfl rfl)
theorem dX0_faulty_8 : decode cX0_faulty 8 = .ok (.isub, 1) := dk_100 (dk_at dksX0_faulty_0 8 rfl rfl)
theorem dX0_faulty_9 : decode cX0_faulty 9 = .ok (.ireturn, 1) := dk_172 (dk_at dksX0_faulty_0 9 rfl rfl)
abbrev cX0_ofTooth : ByteArray := prog_1_method_17_code
def yX0_ofTooth : MethodName := ⟨RX0, "ofTooth", "(II)I"⟩
def dkwX0_ofTooth_4 : List UInt8 := [45, 182, 0, 207, 172, 16, 254, 172]
abbrev dktX0_ofTooth_4 : List UInt8 := dkwX0_ofTooth_4 ++ []
def dkwX0_ofTooth_3 : List UInt8 := [45, 182, 0, 195, 172, 45, 182, 0, 198, 172, 45, 180, 0, 201, 28, 5, 100, 46, 172, 45, 182, 0, 204, 172]
abbrev dktX0_ofTooth_3 : List UInt8 := dkwX0_ofTooth_3 ++ dktX0_ofTooth_4
def dkwX0_ofTooth_2 : List UInt8 := [170, 0, 0, 0, 0, 0, 72, 0, 0, 0, 0, 0, 0, 0, 6, 0, 0, 0, 43, 0, 0, 0, 48, 0, 0, 0, 53, 0, 0, 0, 53, 0, 0, 0, 53, 0, 0, 0, 62, 0, 0, 0, 67]
abbrev dktX0_ofTooth_2 : List UInt8 := dkwX0_ofTooth_2 ++ dktX0_ofTooth_3
def dkwX0_ofTooth_1 : List UInt8 := [28]
abbrev dktX0_ofTooth_1 : List UInt8 := dkwX0_ofTooth_1 ++ dktX0_ofTooth_2
def dkwX0_ofTooth_0 : List UInt8 := [42, 27, 182, 0, 188, 154, 0, 5, 2, 172, 42, 180, 0, 12, 27, 185, 0, 191, 2, 0, 192, 0, 113, 78]
abbrev dktX0_ofTooth_0 : List UInt8 := dkwX0_ofTooth_0 ++ dktX0_ofTooth_1
theorem dksX0_ofTooth_0 : cX0_ofTooth.data.toList.drop 0 = dktX0_ofTooth_0 := by decide +kernel
theorem dksX0_ofTooth_1 : cX0_ofTooth.data.toList.drop 24 = dktX0_ofTooth_1 := dk_seg dksX0_ofTooth_0 24 rfl rfl
theorem dksX0_ofTooth_2 : cX0_ofTooth.data.toList.drop 25 = dktX0_ofTooth_2 := dk_seg dksX0_ofTooth_1 1 rfl rfl
theorem dksX0_ofTooth_3 : cX0_ofTooth.data.toList.drop 68 = dktX0_ofTooth_3 := dk_seg dksX0_ofTooth_2 43 rfl rfl
theorem dksX0_ofTooth_4 : cX0_ofTooth.data.toList.drop 92 = dktX0_ofTooth_4 := dk_seg dksX0_ofTooth_3 24 rfl rfl
theorem dX0_ofTooth_0 : decode cX0_ofTooth 0 = .ok (.aload_n 0, 1) := dk_42 (dk_at dksX0_ofTooth_0 0 rfl rfl)
theorem dX0_ofTooth_1 : decode cX0_ofTooth 1 = .ok (.iload_n 1, 1) := dk_27 (dk_at dksX0_ofTooth_0 1 rfl rfl)
theorem dX0_ofTooth_2 : decode cX0_ofTooth 2 = .ok (.invokevirtual 188, 3) := dk_182 0 188 (dk_at dksX0_ofTooth_0 2 rfl rfl)
theorem dX0_ofTooth_5 : decode cX0_ofTooth 5 = .ok (.ifCond .ne 5, 3) := dk_154 0 5 (dk_at dksX0_ofTooth_0 5 rfl rfl)
theorem dX0_ofTooth_8 : decode cX0_ofTooth 8 = .ok (.iconst (-1), 1) := dk_2 (dk_at dksX0_ofTooth_0 8 rfl rfl)
theorem dX0_ofTooth_9 : decode cX0_ofTooth 9 = .ok (.ireturn, 1) := dk_172 (dk_at dksX0_ofTooth_0 9 rfl rfl)
theorem dX0_ofTooth_10 : decode cX0_ofTooth 10 = .ok (.aload_n 0, 1) := dk_42 (dk_at dksX0_ofTooth_0 10 rfl rfl)
theorem dX0_ofTooth_11 : decode cX0_ofTooth 11 = .ok (.getfield 12, 3) := dk_180 0 12 (dk_at dksX0_ofTooth_0 11 rfl rfl)
theorem dX0_ofTooth_14 : decode cX0_ofTooth 14 = .ok (.iload_n 1, 1) := dk_27 (dk_at dksX0_ofTooth_0 14 rfl rfl)
theorem dX0_ofTooth_15 : decode cX0_ofTooth 15 = .ok (.invokeinterface 191 2, 5) := by decide +kernel
theorem dX0_ofTooth_20 : decode cX0_ofTooth 20 = .ok (.checkcast 113, 3) := dk_192 0 113 (dk_at dksX0_ofTooth_0 20 rfl rfl)
theorem dX0_ofTooth_23 : decode cX0_ofTooth 23 = .ok (.astore_n 3, 1) := dk_78 (dk_at dksX0_ofTooth_0 23 rfl rfl)
theorem dX0_ofTooth_24 : decode cX0_ofTooth 24 = .ok (.iload_n 2, 1) := dk_28 (dk_at dksX0_ofTooth_1 0 rfl rfl)
theorem dX0_ofTooth_25 : decode cX0_ofTooth 25 = .ok (.tableswitch 72 0 6 #[43, 48, 53, 53, 53, 62, 67], 43) := by decide +kernel
theorem dX0_ofTooth_68 : decode cX0_ofTooth 68 = .ok (.aload_n 3, 1) := dk_45 (dk_at dksX0_ofTooth_3 0 rfl rfl)
theorem dX0_ofTooth_69 : decode cX0_ofTooth 69 = .ok (.invokevirtual 195, 3) := dk_182 0 195 (dk_at dksX0_ofTooth_3 1 rfl rfl)
theorem dX0_ofTooth_72 : decode cX0_ofTooth 72 = .ok (.ireturn, 1) := dk_172 (dk_at dksX0_ofTooth_3 4 rfl rfl)
theorem dX0_ofTooth_73 : decode cX0_ofTooth 73 = .ok (.aload_n 3, 1) := dk_45 (dk_at dksX0_ofTooth_3 5 rfl rfl)
theorem dX0_ofTooth_74 : decode cX0_ofTooth 74 = .ok (.invokevirtual 198, 3) := dk_182 0 198 (dk_at dksX0_ofTooth_3 6 rfl rfl)
theorem dX0_ofTooth_77 : decode cX0_ofTooth 77 = .ok (.ireturn, 1) := dk_172 (dk_at dksX0_ofTooth_3 9 rfl rfl)
theorem dX0_ofTooth_78 : decode cX0_ofTooth 78 = .ok (.aload_n 3, 1) := dk_45 (dk_at dksX0_ofTooth_3 10 rfl rfl)
theorem dX0_ofTooth_79 : decode cX0_ofTooth 79 = .ok (.getfield 201, 3) := dk_180 0 201 (dk_at dksX0_ofTooth_3 11 rfl rfl)
theorem dX0_ofTooth_82 : decode cX0_ofTooth 82 = .ok (.iload_n 2, 1) := dk_28 (dk_at dksX0_ofTooth_3 14 rfl rfl)
theorem dX0_ofTooth_83 : decode cX0_ofTooth 83 = .ok (.iconst 2, 1) := dk_5 (dk_at dksX0_ofTooth_3 15 rfl rfl)
theorem dX0_ofTooth_84 : decode cX0_ofTooth 84 = .ok (.isub, 1) := dk_100 (dk_at dksX0_ofTooth_3 16 rfl rfl)
theorem dX0_ofTooth_85 : decode cX0_ofTooth 85 = .ok (.iaload, 1) := dk_46 (dk_at dksX0_ofTooth_3 17 rfl rfl)
theorem dX0_ofTooth_86 : decode cX0_ofTooth 86 = .ok (.ireturn, 1) := dk_172 (dk_at dksX0_ofTooth_3 18 rfl rfl)
theorem dX0_ofTooth_87 : decode cX0_ofTooth 87 = .ok (.aload_n 3, 1) := dk_45 (dk_at dksX0_ofTooth_3 19 rfl rfl)
theorem dX0_ofTooth_88 : decode cX0_ofTooth 88 = .ok (.invokevirtual 204, 3) := dk_182 0 204 (dk_at dksX0_ofTooth_3 20 rfl rfl)
theorem dX0_ofTooth_91 : decode cX0_ofTooth 91 = .ok (.ireturn, 1) := dk_172 (dk_at dksX0_ofTooth_3 23 rfl rfl)
theorem dX0_ofTooth_92 : decode cX0_ofTooth 92 = .ok (.aload_n 3, 1) := dk_45 (dk_at dksX0_ofTooth_4 0 rfl rfl)
theorem dX0_ofTooth_93 : decode cX0_ofTooth 93 = .ok (.invokevirtual 207, 3) := dk_182 0 207 (dk_at dksX0_ofTooth_4 1 rfl rfl)
theorem dX0_ofTooth_96 : decode cX0_ofTooth 96 = .ok (.ireturn, 1) := dk_172 (dk_at dksX0_ofTooth_4 4 rfl rfl)
theorem dX0_ofTooth_97 : decode cX0_ofTooth 97 = .ok (.bipush (-2), 2) := dk_16 254 (dk_at dksX0_ofTooth_4 5 rfl rfl)
theorem dX0_ofTooth_99 : decode cX0_ofTooth 99 = .ok (.ireturn, 1) := dk_172 (dk_at dksX0_ofTooth_4 7 rfl rfl)
abbrev cX0_isTooth : ByteArray := prog_1_method_16_code
def yX0_isTooth : MethodName := ⟨RX0, "isTooth", "(I)Z"⟩
def dkwX0_isTooth_0 : List UInt8 := [27, 133, 9, 42, 180, 0, 12, 185, 0, 184, 1, 0, 133, 10, 101, 184, 0, 76, 172]
abbrev dktX0_isTooth_0 : List UInt8 := dkwX0_isTooth_0 ++ []
theorem dksX0_isTooth_0 : cX0_isTooth.data.toList.drop 0 = dktX0_isTooth_0 := by decide +kernel
theorem dX0_isTooth_0 : decode cX0_isTooth 0 = .ok (.iload_n 1, 1) := dk_27 (dk_at dksX0_isTooth_0 0 rfl rfl)
theorem dX0_isTooth_1 : decode cX0_isTooth 1 = .ok (.i2l, 1) := dk_133 (dk_at dksX0_isTooth_0 1 rfl rfl)
theorem dX0_isTooth_2 : decode cX0_isTooth 2 = .ok (.lconst 0, 1) := dk_9 (dk_at dksX0_isTooth_0 2 rfl rfl)
theorem dX0_isTooth_3 : decode cX0_isTooth 3 = .ok (.aload_n 0, 1) := dk_42 (dk_at dksX0_isTooth_0 3 rfl rfl)
theorem dX0_isTooth_4 : decode cX0_isTooth 4 = .ok (.getfield 12, 3) := dk_180 0 12 (dk_at dksX0_isTooth_0 4 rfl rfl)
theorem dX0_isTooth_7 : decode cX0_isTooth 7 = .ok (.invokeinterface 184 1, 5) := by decide +kernel
theorem dX0_isTooth_12 : decode cX0_isTooth 12 = .ok (.i2l, 1) := dk_133 (dk_at dksX0_isTooth_0 12 rfl rfl)
theorem dX0_isTooth_13 : decode cX0_isTooth 13 = .ok (.lconst 1, 1) := dk_10 (dk_at dksX0_isTooth_0 13 rfl rfl)
theorem dX0_isTooth_14 : decode cX0_isTooth 14 = .ok (.lsub, 1) := dk_101 (dk_at dksX0_isTooth_0 14 rfl rfl)
theorem dX0_isTooth_15 : decode cX0_isTooth 15 = .ok (.invokestatic 76, 3) := dk_184 0 76 (dk_at dksX0_isTooth_0 15 rfl rfl)
theorem dX0_isTooth_18 : decode cX0_isTooth 18 = .ok (.ireturn, 1) := dk_172 (dk_at dksX0_isTooth_0 18 rfl rfl)
abbrev cX0_set : ByteArray := prog_1_method_19_code
def yX0_set : MethodName := ⟨RX0, "set", "(III)I"⟩
def dkwX0_set_2 : List UInt8 := [185, 0, 191, 2, 0, 192, 0, 113, 180, 0, 201, 28, 29, 79, 21, 4, 172]
abbrev dktX0_set_2 : List UInt8 := dkwX0_set_2 ++ []
def dkwX0_set_1 : List UInt8 := [180, 0, 12, 27, 185, 0, 191, 2, 0, 192, 0, 113, 180, 0, 201, 28, 46, 54, 4, 42, 180, 0, 12, 27]
abbrev dktX0_set_1 : List UInt8 := dkwX0_set_1 ++ dktX0_set_2
def dkwX0_set_0 : List UInt8 := [42, 27, 182, 0, 188, 154, 0, 5, 2, 172, 28, 29, 184, 0, 215, 154, 0, 6, 16, 254, 172, 42]
abbrev dktX0_set_0 : List UInt8 := dkwX0_set_0 ++ dktX0_set_1
theorem dksX0_set_0 : cX0_set.data.toList.drop 0 = dktX0_set_0 := by decide +kernel
theorem dksX0_set_1 : cX0_set.data.toList.drop 22 = dktX0_set_1 := dk_seg dksX0_set_0 22 rfl rfl
theorem dksX0_set_2 : cX0_set.data.toList.drop 46 = dktX0_set_2 := dk_seg dksX0_set_1 24 rfl rfl
theorem dX0_set_0 : decode cX0_set 0 = .ok (.aload_n 0, 1) := dk_42 (dk_at dksX0_set_0 0 rfl rfl)
theorem dX0_set_1 : decode cX0_set 1 = .ok (.iload_n 1, 1) := dk_27 (dk_at dksX0_set_0 1 rfl rfl)
theorem dX0_set_2 : decode cX0_set 2 = .ok (.invokevirtual 188, 3) := dk_182 0 188 (dk_at dksX0_set_0 2 rfl rfl)
theorem dX0_set_5 : decode cX0_set 5 = .ok (.ifCond .ne 5, 3) := dk_154 0 5 (dk_at dksX0_set_0 5 rfl rfl)
theorem dX0_set_8 : decode cX0_set 8 = .ok (.iconst (-1), 1) := dk_2 (dk_at dksX0_set_0 8 rfl rfl)
theorem dX0_set_9 : decode cX0_set 9 = .ok (.ireturn, 1) := dk_172 (dk_at dksX0_set_0 9 rfl rfl)
theorem dX0_set_10 : decode cX0_set 10 = .ok (.iload_n 2, 1) := dk_28 (dk_at dksX0_set_0 10 rfl rfl)
theorem dX0_set_11 : decode cX0_set 11 = .ok (.iload_n 3, 1) := dk_29 (dk_at dksX0_set_0 11 rfl rfl)
theorem dX0_set_12 : decode cX0_set 12 = .ok (.invokestatic 215, 3) := dk_184 0 215 (dk_at dksX0_set_0 12 rfl rfl)
theorem dX0_set_15 : decode cX0_set 15 = .ok (.ifCond .ne 6, 3) := dk_154 0 6 (dk_at dksX0_set_0 15 rfl rfl)
theorem dX0_set_18 : decode cX0_set 18 = .ok (.bipush (-2), 2) := dk_16 254 (dk_at dksX0_set_0 18 rfl rfl)
theorem dX0_set_20 : decode cX0_set 20 = .ok (.ireturn, 1) := dk_172 (dk_at dksX0_set_0 20 rfl rfl)
theorem dX0_set_21 : decode cX0_set 21 = .ok (.aload_n 0, 1) := dk_42 (dk_at dksX0_set_0 21 rfl rfl)
theorem dX0_set_22 : decode cX0_set 22 = .ok (.getfield 12, 3) := dk_180 0 12 (dk_at dksX0_set_1 0 rfl rfl)
theorem dX0_set_25 : decode cX0_set 25 = .ok (.iload_n 1, 1) := dk_27 (dk_at dksX0_set_1 3 rfl rfl)
theorem dX0_set_26 : decode cX0_set 26 = .ok (.invokeinterface 191 2, 5) := by decide +kernel
theorem dX0_set_31 : decode cX0_set 31 = .ok (.checkcast 113, 3) := dk_192 0 113 (dk_at dksX0_set_1 9 rfl rfl)
theorem dX0_set_34 : decode cX0_set 34 = .ok (.getfield 201, 3) := dk_180 0 201 (dk_at dksX0_set_1 12 rfl rfl)
theorem dX0_set_37 : decode cX0_set 37 = .ok (.iload_n 2, 1) := dk_28 (dk_at dksX0_set_1 15 rfl rfl)
theorem dX0_set_38 : decode cX0_set 38 = .ok (.iaload, 1) := dk_46 (dk_at dksX0_set_1 16 rfl rfl)
theorem dX0_set_39 : decode cX0_set 39 = .ok (.istore 4, 2) := dk_54 4 (dk_at dksX0_set_1 17 rfl rfl)
theorem dX0_set_41 : decode cX0_set 41 = .ok (.aload_n 0, 1) := dk_42 (dk_at dksX0_set_1 19 rfl rfl)
theorem dX0_set_42 : decode cX0_set 42 = .ok (.getfield 12, 3) := dk_180 0 12 (dk_at dksX0_set_1 20 rfl rfl)
theorem dX0_set_45 : decode cX0_set 45 = .ok (.iload_n 1, 1) := dk_27 (dk_at dksX0_set_1 23 rfl rfl)
theorem dX0_set_46 : decode cX0_set 46 = .ok (.invokeinterface 191 2, 5) := by decide +kernel
theorem dX0_set_51 : decode cX0_set 51 = .ok (.checkcast 113, 3) := dk_192 0 113 (dk_at dksX0_set_2 5 rfl rfl)
theorem dX0_set_54 : decode cX0_set 54 = .ok (.getfield 201, 3) := dk_180 0 201 (dk_at dksX0_set_2 8 rfl rfl)
theorem dX0_set_57 : decode cX0_set 57 = .ok (.iload_n 2, 1) := dk_28 (dk_at dksX0_set_2 11 rfl rfl)
theorem dX0_set_58 : decode cX0_set 58 = .ok (.iload_n 3, 1) := dk_29 (dk_at dksX0_set_2 12 rfl rfl)
theorem dX0_set_59 : decode cX0_set 59 = .ok (.iastore, 1) := dk_79 (dk_at dksX0_set_2 13 rfl rfl)
theorem dX0_set_60 : decode cX0_set 60 = .ok (.iload 4, 2) := dk_21 4 (dk_at dksX0_set_2 14 rfl rfl)
theorem dX0_set_62 : decode cX0_set 62 = .ok (.ireturn, 1) := dk_172 (dk_at dksX0_set_2 16 rfl rfl)
abbrev cX0_isPart : ByteArray := prog_1_method_18_code
def yX0_isPart : MethodName := ⟨RX0, "isPart", "(II)Z"⟩
def dkwX0_isPart_1 : List UInt8 := [172]
abbrev dktX0_isPart_1 : List UInt8 := dkwX0_isPart_1 ++ []
def dkwX0_isPart_0 : List UInt8 := [26, 133, 9, 20, 0, 210, 184, 0, 76, 153, 0, 14, 27, 184, 0, 212, 153, 0, 7, 4, 167, 0, 4, 3]
abbrev dktX0_isPart_0 : List UInt8 := dkwX0_isPart_0 ++ dktX0_isPart_1
theorem dksX0_isPart_0 : cX0_isPart.data.toList.drop 0 = dktX0_isPart_0 := by decide +kernel
theorem dksX0_isPart_1 : cX0_isPart.data.toList.drop 24 = dktX0_isPart_1 := dk_seg dksX0_isPart_0 24 rfl rfl
theorem dX0_isPart_0 : decode cX0_isPart 0 = .ok (.iload_n 0, 1) := dk_26 (dk_at dksX0_isPart_0 0 rfl rfl)
theorem dX0_isPart_1 : decode cX0_isPart 1 = .ok (.i2l, 1) := dk_133 (dk_at dksX0_isPart_0 1 rfl rfl)
theorem dX0_isPart_2 : decode cX0_isPart 2 = .ok (.lconst 0, 1) := dk_9 (dk_at dksX0_isPart_0 2 rfl rfl)
theorem dX0_isPart_3 : decode cX0_isPart 3 = .ok (.ldc2_w 210, 3) := dk_20 0 210 (dk_at dksX0_isPart_0 3 rfl rfl)
theorem dX0_isPart_6 : decode cX0_isPart 6 = .ok (.invokestatic 76, 3) := dk_184 0 76 (dk_at dksX0_isPart_0 6 rfl rfl)
theorem dX0_isPart_9 : decode cX0_isPart 9 = .ok (.ifCond .eq 14, 3) := dk_153 0 14 (dk_at dksX0_isPart_0 9 rfl rfl)
theorem dX0_isPart_12 : decode cX0_isPart 12 = .ok (.iload_n 1, 1) := dk_27 (dk_at dksX0_isPart_0 12 rfl rfl)
theorem dX0_isPart_13 : decode cX0_isPart 13 = .ok (.invokestatic 212, 3) := dk_184 0 212 (dk_at dksX0_isPart_0 13 rfl rfl)
theorem dX0_isPart_16 : decode cX0_isPart 16 = .ok (.ifCond .eq 7, 3) := dk_153 0 7 (dk_at dksX0_isPart_0 16 rfl rfl)
theorem dX0_isPart_19 : decode cX0_isPart 19 = .ok (.iconst 1, 1) := dk_4 (dk_at dksX0_isPart_0 19 rfl rfl)
theorem dX0_isPart_20 : decode cX0_isPart 20 = .ok (.goto 4, 3) := dk_167 0 4 (dk_at dksX0_isPart_0 20 rfl rfl)
theorem dX0_isPart_23 : decode cX0_isPart 23 = .ok (.iconst 0, 1) := dk_3 (dk_at dksX0_isPart_0 23 rfl rfl)
theorem dX0_isPart_24 : decode cX0_isPart 24 = .ok (.ireturn, 1) := dk_172 (dk_at dksX0_isPart_1 0 rfl rfl)
abbrev cX0_isNine : ByteArray := prog_1_method_3_code
def yX0_isNine : MethodName := ⟨RX0, "isNine", "(I)Z"⟩
def dkwX0_isNine_0 : List UInt8 := [26, 133, 9, 20, 0, 74, 184, 0, 76, 172]
abbrev dktX0_isNine_0 : List UInt8 := dkwX0_isNine_0 ++ []
theorem dksX0_isNine_0 : cX0_isNine.data.toList.drop 0 = dktX0_isNine_0 := by decide +kernel
theorem dX0_isNine_0 : decode cX0_isNine 0 = .ok (.iload_n 0, 1) := dk_26 (dk_at dksX0_isNine_0 0 rfl rfl)
theorem dX0_isNine_1 : decode cX0_isNine 1 = .ok (.i2l, 1) := dk_133 (dk_at dksX0_isNine_0 1 rfl rfl)
theorem dX0_isNine_2 : decode cX0_isNine 2 = .ok (.lconst 0, 1) := dk_9 (dk_at dksX0_isNine_0 2 rfl rfl)
theorem dX0_isNine_3 : decode cX0_isNine 3 = .ok (.ldc2_w 74, 3) := dk_20 0 74 (dk_at dksX0_isNine_0 3 rfl rfl)
theorem dX0_isNine_6 : decode cX0_isNine 6 = .ok (.invokestatic 76, 3) := dk_184 0 76 (dk_at dksX0_isNine_0 6 rfl rfl)
theorem dX0_isNine_9 : decode cX0_isNine 9 = .ok (.ireturn, 1) := dk_172 (dk_at dksX0_isNine_0 9 rfl rfl)
abbrev cX0_ofSaw : ByteArray := prog_1_method_22_code
def yX0_ofSaw : MethodName := ⟨RX0, "ofSaw", "(I)I"⟩
def dkwX0_ofSaw_2 : List UInt8 := [167, 0, 4, 3, 182, 0, 241, 172]
abbrev dktX0_ofSaw_2 : List UInt8 := dkwX0_ofSaw_2 ++ []
def dkwX0_ofSaw_1 : List UInt8 := [153, 0, 6, 16, 253, 172, 27, 4, 160, 0, 10, 42, 182, 0, 238, 167, 0, 16, 42, 27, 154, 0, 7, 4]
abbrev dktX0_ofSaw_1 : List UInt8 := dkwX0_ofSaw_1 ++ dktX0_ofSaw_2
def dkwX0_ofSaw_0 : List UInt8 := [27, 133, 9, 20, 0, 210, 184, 0, 76, 154, 0, 6, 16, 254, 172, 42, 180, 0, 12, 185, 0, 235, 1, 0]
abbrev dktX0_ofSaw_0 : List UInt8 := dkwX0_ofSaw_0 ++ dktX0_ofSaw_1
theorem dksX0_ofSaw_0 : cX0_ofSaw.data.toList.drop 0 = dktX0_ofSaw_0 := by decide +kernel
theorem dksX0_ofSaw_1 : cX0_ofSaw.data.toList.drop 24 = dktX0_ofSaw_1 := dk_seg dksX0_ofSaw_0 24 rfl rfl
theorem dksX0_ofSaw_2 : cX0_ofSaw.data.toList.drop 48 = dktX0_ofSaw_2 := dk_seg dksX0_ofSaw_1 24 rfl rfl
theorem dX0_ofSaw_0 : decode cX0_ofSaw 0 = .ok (.iload_n 1, 1) := dk_27 (dk_at dksX0_ofSaw_0 0 rfl rfl)
theorem dX0_ofSaw_1 : decode cX0_ofSaw 1 = .ok (.i2l, 1) := dk_133 (dk_at dksX0_ofSaw_0 1 rfl rfl)
theorem dX0_ofSaw_2 : decode cX0_ofSaw 2 = .ok (.lconst 0, 1) := dk_9 (dk_at dksX0_ofSaw_0 2 rfl rfl)
theorem dX0_ofSaw_3 : decode cX0_ofSaw 3 = .ok (.ldc2_w 210, 3) := dk_20 0 210 (dk_at dksX0_ofSaw_0 3 rfl rfl)
theorem dX0_ofSaw_6 : decode cX0_ofSaw 6 = .ok (.invokestatic 76, 3) := dk_184 0 76 (dk_at dksX0_ofSaw_0 6 rfl rfl)
theorem dX0_ofSaw_9 : decode cX0_ofSaw 9 = .ok (.ifCond .ne 6, 3) := dk_154 0 6 (dk_at dksX0_ofSaw_0 9 rfl rfl)
theorem dX0_ofSaw_12 : decode cX0_ofSaw 12 = .ok (.bipush (-2), 2) := dk_16 254 (dk_at dksX0_ofSaw_0 12 rfl rfl)
theorem dX0_ofSaw_14 : decode cX0_ofSaw 14 = .ok (.ireturn, 1) := dk_172 (dk_at dksX0_ofSaw_0 14 rfl rfl)
theorem dX0_ofSaw_15 : decode cX0_ofSaw 15 = .ok (.aload_n 0, 1) := dk_42 (dk_at dksX0_ofSaw_0 15 rfl rfl)
theorem dX0_ofSaw_16 : decode cX0_ofSaw 16 = .ok (.getfield 12, 3) := dk_180 0 12 (dk_at dksX0_ofSaw_0 16 rfl rfl)
theorem dX0_ofSaw_19 : decode cX0_ofSaw 19 = .ok (.invokeinterface 235 1, 5) := by decide +kernel
theorem dX0_ofSaw_24 : decode cX0_ofSaw 24 = .ok (.ifCond .eq 6, 3) := dk_153 0 6 (dk_at dksX0_ofSaw_1 0 rfl rfl)
theorem dX0_ofSaw_27 : decode cX0_ofSaw 27 = .ok (.bipush (-3), 2) := dk_16 253 (dk_at dksX0_ofSaw_1 3 rfl rfl)
theorem dX0_ofSaw_29 : decode cX0_ofSaw 29 = .ok (.ireturn, 1) := dk_172 (dk_at dksX0_ofSaw_1 5 rfl rfl)
theorem dX0_ofSaw_30 : decode cX0_ofSaw 30 = .ok (.iload_n 1, 1) := dk_27 (dk_at dksX0_ofSaw_1 6 rfl rfl)
theorem dX0_ofSaw_31 : decode cX0_ofSaw 31 = .ok (.iconst 1, 1) := dk_4 (dk_at dksX0_ofSaw_1 7 rfl rfl)
theorem dX0_ofSaw_32 : decode cX0_ofSaw 32 = .ok (.if_icmp .ne 10, 3) := dk_160 0 10 (dk_at dksX0_ofSaw_1 8 rfl rfl)
theorem dX0_ofSaw_35 : decode cX0_ofSaw 35 = .ok (.aload_n 0, 1) := dk_42 (dk_at dksX0_ofSaw_1 11 rfl rfl)
theorem dX0_ofSaw_36 : decode cX0_ofSaw 36 = .ok (.invokevirtual 238, 3) := dk_182 0 238 (dk_at dksX0_ofSaw_1 12 rfl rfl)
theorem dX0_ofSaw_39 : decode cX0_ofSaw 39 = .ok (.goto 16, 3) := dk_167 0 16 (dk_at dksX0_ofSaw_1 15 rfl rfl)
theorem dX0_ofSaw_42 : decode cX0_ofSaw 42 = .ok (.aload_n 0, 1) := dk_42 (dk_at dksX0_ofSaw_1 18 rfl rfl)
theorem dX0_ofSaw_43 : decode cX0_ofSaw 43 = .ok (.iload_n 1, 1) := dk_27 (dk_at dksX0_ofSaw_1 19 rfl rfl)
theorem dX0_ofSaw_44 : decode cX0_ofSaw 44 = .ok (.ifCond .ne 7, 3) := dk_154 0 7 (dk_at dksX0_ofSaw_1 20 rfl rfl)
theorem dX0_ofSaw_47 : decode cX0_ofSaw 47 = .ok (.iconst 1, 1) := dk_4 (dk_at dksX0_ofSaw_1 23 rfl rfl)
theorem dX0_ofSaw_48 : decode cX0_ofSaw 48 = .ok (.goto 4, 3) := dk_167 0 4 (dk_at dksX0_ofSaw_2 0 rfl rfl)
theorem dX0_ofSaw_51 : decode cX0_ofSaw 51 = .ok (.iconst 0, 1) := dk_3 (dk_at dksX0_ofSaw_2 3 rfl rfl)
theorem dX0_ofSaw_52 : decode cX0_ofSaw 52 = .ok (.invokevirtual 241, 3) := dk_182 0 241 (dk_at dksX0_ofSaw_2 4 rfl rfl)
theorem dX0_ofSaw_55 : decode cX0_ofSaw 55 = .ok (.ireturn, 1) := dk_172 (dk_at dksX0_ofSaw_2 7 rfl rfl)
abbrev cX0_kerf : ByteArray := prog_1_method_21_code
def yX0_kerf : MethodName := ⟨RX0, "kerf", "()I"⟩
def dkwX0_kerf_4 : List UInt8 := [27, 100, 172]
abbrev dktX0_kerf_4 : List UInt8 := dkwX0_kerf_4 ++ []
def dkwX0_kerf_3 : List UInt8 := [185, 0, 191, 2, 0, 192, 0, 113, 182, 0, 223, 184, 0, 232, 61, 132, 3, 1, 167, 255, 176, 4, 28, 96]
abbrev dktX0_kerf_3 : List UInt8 := dkwX0_kerf_3 ++ dktX0_kerf_4
def dkwX0_kerf_2 : List UInt8 := [185, 0, 191, 2, 0, 192, 0, 113, 182, 0, 223, 184, 0, 226, 60, 28, 42, 180, 0, 12, 29]
abbrev dktX0_kerf_2 : List UInt8 := dkwX0_kerf_2 ++ dktX0_kerf_3
def dkwX0_kerf_1 : List UInt8 := [185, 0, 191, 2, 0, 192, 0, 113, 182, 0, 219, 154, 0, 6, 167, 0, 45, 27, 42, 180, 0, 12, 29]
abbrev dktX0_kerf_1 : List UInt8 := dkwX0_kerf_1 ++ dktX0_kerf_2
def dkwX0_kerf_0 : List UInt8 := [3, 60, 3, 61, 3, 62, 29, 42, 180, 0, 12, 185, 0, 184, 1, 0, 162, 0, 73, 42, 180, 0, 12, 29]
abbrev dktX0_kerf_0 : List UInt8 := dkwX0_kerf_0 ++ dktX0_kerf_1
theorem dksX0_kerf_0 : cX0_kerf.data.toList.drop 0 = dktX0_kerf_0 := by decide +kernel
theorem dksX0_kerf_1 : cX0_kerf.data.toList.drop 24 = dktX0_kerf_1 := dk_seg dksX0_kerf_0 24 rfl rfl
theorem dksX0_kerf_2 : cX0_kerf.data.toList.drop 47 = dktX0_kerf_2 := dk_seg dksX0_kerf_1 23 rfl rfl
theorem dksX0_kerf_3 : cX0_kerf.data.toList.drop 68 = dktX0_kerf_3 := dk_seg dksX0_kerf_2 21 rfl rfl
theorem dksX0_kerf_4 : cX0_kerf.data.toList.drop 92 = dktX0_kerf_4 := dk_seg dksX0_kerf_3 24 rfl rfl
theorem dX0_kerf_0 : decode cX0_kerf 0 = .ok (.iconst 0, 1) := dk_3 (dk_at dksX0_kerf_0 0 rfl rfl)
theorem dX0_kerf_1 : decode cX0_kerf 1 = .ok (.istore_n 1, 1) := dk_60 (dk_at dksX0_kerf_0 1 rfl rfl)
theorem dX0_kerf_2 : decode cX0_kerf 2 = .ok (.iconst 0, 1) := dk_3 (dk_at dksX0_kerf_0 2 rfl rfl)
theorem dX0_kerf_3 : decode cX0_kerf 3 = .ok (.istore_n 2, 1) := dk_61 (dk_at dksX0_kerf_0 3 rfl rfl)
theorem dX0_kerf_4 : decode cX0_kerf 4 = .ok (.iconst 0, 1) := dk_3 (dk_at dksX0_kerf_0 4 rfl rfl)
theorem dX0_kerf_5 : decode cX0_kerf 5 = .ok (.istore_n 3, 1) := dk_62 (dk_at dksX0_kerf_0 5 rfl rfl)
theorem dX0_kerf_6 : decode cX0_kerf 6 = .ok (.iload_n 3, 1) := dk_29 (dk_at dksX0_kerf_0 6 rfl rfl)
theorem dX0_kerf_7 : decode cX0_kerf 7 = .ok (.aload_n 0, 1) := dk_42 (dk_at dksX0_kerf_0 7 rfl rfl)
theorem dX0_kerf_8 : decode cX0_kerf 8 = .ok (.getfield 12, 3) := dk_180 0 12 (dk_at dksX0_kerf_0 8 rfl rfl)
theorem dX0_kerf_11 : decode cX0_kerf 11 = .ok (.invokeinterface 184 1, 5) := by decide +kernel
theorem dX0_kerf_16 : decode cX0_kerf 16 = .ok (.if_icmp .ge 73, 3) := dk_162 0 73 (dk_at dksX0_kerf_0 16 rfl rfl)
theorem dX0_kerf_19 : decode cX0_kerf 19 = .ok (.aload_n 0, 1) := dk_42 (dk_at dksX0_kerf_0 19 rfl rfl)
theorem dX0_kerf_20 : decode cX0_kerf 20 = .ok (.getfield 12, 3) := dk_180 0 12 (dk_at dksX0_kerf_0 20 rfl rfl)
theorem dX0_kerf_23 : decode cX0_kerf 23 = .ok (.iload_n 3, 1) := dk_29 (dk_at dksX0_kerf_0 23 rfl rfl)
theorem dX0_kerf_24 : decode cX0_kerf 24 = .ok (.invokeinterface 191 2, 5) := by decide +kernel
theorem dX0_kerf_29 : decode cX0_kerf 29 = .ok (.checkcast 113, 3) := dk_192 0 113 (dk_at dksX0_kerf_1 5 rfl rfl)
theorem dX0_kerf_32 : decode cX0_kerf 32 = .ok (.invokevirtual 219, 3) := dk_182 0 219 (dk_at dksX0_kerf_1 8 rfl rfl)
theorem dX0_kerf_35 : decode cX0_kerf 35 = .ok (.ifCond .ne 6, 3) := dk_154 0 6 (dk_at dksX0_kerf_1 11 rfl rfl)
theorem dX0_kerf_38 : decode cX0_kerf 38 = .ok (.goto 45, 3) := dk_167 0 45 (dk_at dksX0_kerf_1 14 rfl rfl)
theorem dX0_kerf_41 : decode cX0_kerf 41 = .ok (.iload_n 1, 1) := dk_27 (dk_at dksX0_kerf_1 17 rfl rfl)
theorem dX0_kerf_42 : decode cX0_kerf 42 = .ok (.aload_n 0, 1) := dk_42 (dk_at dksX0_kerf_1 18 rfl rfl)
theorem dX0_kerf_43 : decode cX0_kerf 43 = .ok (.getfield 12, 3) := dk_180 0 12 (dk_at dksX0_kerf_1 19 rfl rfl)
theorem dX0_kerf_46 : decode cX0_kerf 46 = .ok (.iload_n 3, 1) := dk_29 (dk_at dksX0_kerf_1 22 rfl rfl)
theorem dX0_kerf_47 : decode cX0_kerf 47 = .ok (.invokeinterface 191 2, 5) := by decide +kernel
theorem dX0_kerf_52 : decode cX0_kerf 52 = .ok (.checkcast 113, 3) := dk_192 0 113 (dk_at dksX0_kerf_2 5 rfl rfl)
theorem dX0_kerf_55 : decode cX0_kerf 55 = .ok (.invokevirtual 223, 3) := dk_182 0 223 (dk_at dksX0_kerf_2 8 rfl rfl)
theorem dX0_kerf_58 : decode cX0_kerf 58 = .ok (.invokestatic 226, 3) := dk_184 0 226 (dk_at dksX0_kerf_2 11 rfl rfl)
theorem dX0_kerf_61 : decode cX0_kerf 61 = .ok (.istore_n 1, 1) := dk_60 (dk_at dksX0_kerf_2 14 rfl rfl)
theorem dX0_kerf_62 : decode cX0_kerf 62 = .ok (.iload_n 2, 1) := dk_28 (dk_at dksX0_kerf_2 15 rfl rfl)
theorem dX0_kerf_63 : decode cX0_kerf 63 = .ok (.aload_n 0, 1) := dk_42 (dk_at dksX0_kerf_2 16 rfl rfl)
theorem dX0_kerf_64 : decode cX0_kerf 64 = .ok (.getfield 12, 3) := dk_180 0 12 (dk_at dksX0_kerf_2 17 rfl rfl)
theorem dX0_kerf_67 : decode cX0_kerf 67 = .ok (.iload_n 3, 1) := dk_29 (dk_at dksX0_kerf_2 20 rfl rfl)
theorem dX0_kerf_68 : decode cX0_kerf 68 = .ok (.invokeinterface 191 2, 5) := by decide +kernel
theorem dX0_kerf_73 : decode cX0_kerf 73 = .ok (.checkcast 113, 3) := dk_192 0 113 (dk_at dksX0_kerf_3 5 rfl rfl)
theorem dX0_kerf_76 : decode cX0_kerf 76 = .ok (.invokevirtual 223, 3) := dk_182 0 223 (dk_at dksX0_kerf_3 8 rfl rfl)
theorem dX0_kerf_79 : decode cX0_kerf 79 = .ok (.invokestatic 232, 3) := dk_184 0 232 (dk_at dksX0_kerf_3 11 rfl rfl)
theorem dX0_kerf_82 : decode cX0_kerf 82 = .ok (.istore_n 2, 1) := dk_61 (dk_at dksX0_kerf_3 14 rfl rfl)
theorem dX0_kerf_83 : decode cX0_kerf 83 = .ok (.iinc 3 1, 3) := dk_132 3 1 (dk_at dksX0_kerf_3 15 rfl rfl)
theorem dX0_kerf_86 : decode cX0_kerf 86 = .ok (.goto (-80), 3) := dk_167 255 176 (dk_at dksX0_kerf_3 18 rfl rfl)
theorem dX0_kerf_89 : decode cX0_kerf 89 = .ok (.iconst 1, 1) := dk_4 (dk_at dksX0_kerf_3 21 rfl rfl)
theorem dX0_kerf_90 : decode cX0_kerf 90 = .ok (.iload_n 2, 1) := dk_28 (dk_at dksX0_kerf_3 22 rfl rfl)
theorem dX0_kerf_91 : decode cX0_kerf 91 = .ok (.iadd, 1) := dk_96 (dk_at dksX0_kerf_3 23 rfl rfl)
theorem dX0_kerf_92 : decode cX0_kerf 92 = .ok (.iload_n 1, 1) := dk_27 (dk_at dksX0_kerf_4 0 rfl rfl)
theorem dX0_kerf_93 : decode cX0_kerf 93 = .ok (.isub, 1) := dk_100 (dk_at dksX0_kerf_4 1 rfl rfl)
theorem dX0_kerf_94 : decode cX0_kerf 94 = .ok (.ireturn, 1) := dk_172 (dk_at dksX0_kerf_4 2 rfl rfl)
abbrev cX0_sumOf : ByteArray := prog_1_method_20_code
def yX0_sumOf : MethodName := ⟨RX0, "sumOf", "(Z)I"⟩
def dkwX0_sumOf_2 : List UInt8 := [185, 0, 191, 2, 0, 192, 0, 113, 182, 0, 204, 96, 61, 132, 3, 1, 167, 255, 198, 28, 172]
abbrev dktX0_sumOf_2 : List UInt8 := dkwX0_sumOf_2 ++ []
def dkwX0_sumOf_1 : List UInt8 := [180, 0, 12, 29, 185, 0, 191, 2, 0, 192, 0, 113, 182, 0, 207, 167, 0, 19, 42, 180, 0, 12, 29]
abbrev dktX0_sumOf_1 : List UInt8 := dkwX0_sumOf_1 ++ dktX0_sumOf_2
def dkwX0_sumOf_0 : List UInt8 := [3, 61, 3, 62, 29, 42, 180, 0, 12, 185, 0, 184, 1, 0, 162, 0, 51, 28, 27, 153, 0, 22, 42]
abbrev dktX0_sumOf_0 : List UInt8 := dkwX0_sumOf_0 ++ dktX0_sumOf_1
theorem dksX0_sumOf_0 : cX0_sumOf.data.toList.drop 0 = dktX0_sumOf_0 := by decide +kernel
theorem dksX0_sumOf_1 : cX0_sumOf.data.toList.drop 23 = dktX0_sumOf_1 := dk_seg dksX0_sumOf_0 23 rfl rfl
theorem dksX0_sumOf_2 : cX0_sumOf.data.toList.drop 46 = dktX0_sumOf_2 := dk_seg dksX0_sumOf_1 23 rfl rfl
theorem dX0_sumOf_0 : decode cX0_sumOf 0 = .ok (.iconst 0, 1) := dk_3 (dk_at dksX0_sumOf_0 0 rfl rfl)
theorem dX0_sumOf_1 : decode cX0_sumOf 1 = .ok (.istore_n 2, 1) := dk_61 (dk_at dksX0_sumOf_0 1 rfl rfl)
theorem dX0_sumOf_2 : decode cX0_sumOf 2 = .ok (.iconst 0, 1) := dk_3 (dk_at dksX0_sumOf_0 2 rfl rfl)
theorem dX0_sumOf_3 : decode cX0_sumOf 3 = .ok (.istore_n 3, 1) := dk_62 (dk_at dksX0_sumOf_0 3 rfl rfl)
theorem dX0_sumOf_4 : decode cX0_sumOf 4 = .ok (.iload_n 3, 1) := dk_29 (dk_at dksX0_sumOf_0 4 rfl rfl)
theorem dX0_sumOf_5 : decode cX0_sumOf 5 = .ok (.aload_n 0, 1) := dk_42 (dk_at dksX0_sumOf_0 5 rfl rfl)
theorem dX0_sumOf_6 : decode cX0_sumOf 6 = .ok (.getfield 12, 3) := dk_180 0 12 (dk_at dksX0_sumOf_0 6 rfl rfl)
theorem dX0_sumOf_9 : decode cX0_sumOf 9 = .ok (.invokeinterface 184 1, 5) := by decide +kernel
theorem dX0_sumOf_14 : decode cX0_sumOf 14 = .ok (.if_icmp .ge 51, 3) := dk_162 0 51 (dk_at dksX0_sumOf_0 14 rfl rfl)
theorem dX0_sumOf_17 : decode cX0_sumOf 17 = .ok (.iload_n 2, 1) := dk_28 (dk_at dksX0_sumOf_0 17 rfl rfl)
theorem dX0_sumOf_18 : decode cX0_sumOf 18 = .ok (.iload_n 1, 1) := dk_27 (dk_at dksX0_sumOf_0 18 rfl rfl)
theorem dX0_sumOf_19 : decode cX0_sumOf 19 = .ok (.ifCond .eq 22, 3) := dk_153 0 22 (dk_at dksX0_sumOf_0 19 rfl rfl)
theorem dX0_sumOf_22 : decode cX0_sumOf 22 = .ok (.aload_n 0, 1) := dk_42 (dk_at dksX0_sumOf_0 22 rfl rfl)
theorem dX0_sumOf_23 : decode cX0_sumOf 23 = .ok (.getfield 12, 3) := dk_180 0 12 (dk_at dksX0_sumOf_1 0 rfl rfl)
theorem dX0_sumOf_26 : decode cX0_sumOf 26 = .ok (.iload_n 3, 1) := dk_29 (dk_at dksX0_sumOf_1 3 rfl rfl)
theorem dX0_sumOf_27 : decode cX0_sumOf 27 = .ok (.invokeinterface 191 2, 5) := by decide +kernel
theorem dX0_sumOf_32 : decode cX0_sumOf 32 = .ok (.checkcast 113, 3) := dk_192 0 113 (dk_at dksX0_sumOf_1 9 rfl rfl)
theorem dX0_sumOf_35 : decode cX0_sumOf 35 = .ok (.invokevirtual 207, 3) := dk_182 0 207 (dk_at dksX0_sumOf_1 12 rfl rfl)
theorem dX0_sumOf_38 : decode cX0_sumOf 38 = .ok (.goto 19, 3) := dk_167 0 19 (dk_at dksX0_sumOf_1 15 rfl rfl)
theorem dX0_sumOf_41 : decode cX0_sumOf 41 = .ok (.aload_n 0, 1) := dk_42 (dk_at dksX0_sumOf_1 18 rfl rfl)
theorem dX0_sumOf_42 : decode cX0_sumOf 42 = .ok (.getfield 12, 3) := dk_180 0 12 (dk_at dksX0_sumOf_1 19 rfl rfl)
theorem dX0_sumOf_45 : decode cX0_sumOf 45 = .ok (.iload_n 3, 1) := dk_29 (dk_at dksX0_sumOf_1 22 rfl rfl)
theorem dX0_sumOf_46 : decode cX0_sumOf 46 = .ok (.invokeinterface 191 2, 5) := by decide +kernel
theorem dX0_sumOf_51 : decode cX0_sumOf 51 = .ok (.checkcast 113, 3) := dk_192 0 113 (dk_at dksX0_sumOf_2 5 rfl rfl)
theorem dX0_sumOf_54 : decode cX0_sumOf 54 = .ok (.invokevirtual 204, 3) := dk_182 0 204 (dk_at dksX0_sumOf_2 8 rfl rfl)
theorem dX0_sumOf_57 : decode cX0_sumOf 57 = .ok (.iadd, 1) := dk_96 (dk_at dksX0_sumOf_2 11 rfl rfl)
theorem dX0_sumOf_58 : decode cX0_sumOf 58 = .ok (.istore_n 2, 1) := dk_61 (dk_at dksX0_sumOf_2 12 rfl rfl)
theorem dX0_sumOf_59 : decode cX0_sumOf 59 = .ok (.iinc 3 1, 3) := dk_132 3 1 (dk_at dksX0_sumOf_2 13 rfl rfl)
theorem dX0_sumOf_62 : decode cX0_sumOf 62 = .ok (.goto (-58), 3) := dk_167 255 198 (dk_at dksX0_sumOf_2 16 rfl rfl)
theorem dX0_sumOf_65 : decode cX0_sumOf 65 = .ok (.iload_n 2, 1) := dk_28 (dk_at dksX0_sumOf_2 19 rfl rfl)
theorem dX0_sumOf_66 : decode cX0_sumOf 66 = .ok (.ireturn, 1) := dk_172 (dk_at dksX0_sumOf_2 20 rfl rfl)
abbrev cX0_board : ByteArray := prog_1_method_25_code
def yX0_board : MethodName := ⟨RX0, "board", "(IIII)I"⟩
def dkwX0_board_3 : List UInt8 := [58, 5, 42, 6, 182, 0, 175, 172]
abbrev dktX0_board_3 : List UInt8 := dkwX0_board_3 ++ []
def dkwX0_board_2 : List UInt8 := [58, 5, 42, 5, 182, 0, 175, 172, 58, 5, 42, 4, 182, 0, 175, 172, 58, 5, 42, 7, 182, 0, 175, 172]
abbrev dktX0_board_2 : List UInt8 := dkwX0_board_2 ++ dktX0_board_3
def dkwX0_board_1 : List UInt8 := [42, 42, 180, 0, 70, 27, 50, 180, 0, 155, 28, 184, 0, 161, 29, 21, 4, 184, 0, 165, 182, 0, 251, 172]
abbrev dktX0_board_1 : List UInt8 := dkwX0_board_1 ++ dktX0_board_2
def dkwX0_board_0 : List UInt8 := [42, 3, 181, 0, 80, 27, 184, 0, 148, 154, 0, 5, 2, 172, 28, 184, 0, 152, 154, 0, 6, 16, 254, 172]
abbrev dktX0_board_0 : List UInt8 := dkwX0_board_0 ++ dktX0_board_1
theorem dksX0_board_0 : cX0_board.data.toList.drop 0 = dktX0_board_0 := by decide +kernel
theorem dksX0_board_1 : cX0_board.data.toList.drop 24 = dktX0_board_1 := dk_seg dksX0_board_0 24 rfl rfl
theorem dksX0_board_2 : cX0_board.data.toList.drop 48 = dktX0_board_2 := dk_seg dksX0_board_1 24 rfl rfl
theorem dksX0_board_3 : cX0_board.data.toList.drop 72 = dktX0_board_3 := dk_seg dksX0_board_2 24 rfl rfl
theorem dX0_board_0 : decode cX0_board 0 = .ok (.aload_n 0, 1) := dk_42 (dk_at dksX0_board_0 0 rfl rfl)
theorem dX0_board_1 : decode cX0_board 1 = .ok (.iconst 0, 1) := dk_3 (dk_at dksX0_board_0 1 rfl rfl)
theorem dX0_board_2 : decode cX0_board 2 = .ok (.putfield 80, 3) := dk_181 0 80 (dk_at dksX0_board_0 2 rfl rfl)
theorem dX0_board_5 : decode cX0_board 5 = .ok (.iload_n 1, 1) := dk_27 (dk_at dksX0_board_0 5 rfl rfl)
theorem dX0_board_6 : decode cX0_board 6 = .ok (.invokestatic 148, 3) := dk_184 0 148 (dk_at dksX0_board_0 6 rfl rfl)
theorem dX0_board_9 : decode cX0_board 9 = .ok (.ifCond .ne 5, 3) := dk_154 0 5 (dk_at dksX0_board_0 9 rfl rfl)
theorem dX0_board_12 : decode cX0_board 12 = .ok (.iconst (-1), 1) := dk_2 (dk_at dksX0_board_0 12 rfl rfl)
theorem dX0_board_13 : decode cX0_board 13 = .ok (.ireturn, 1) := dk_172 (dk_at dksX0_board_0 13 rfl rfl)
theorem dX0_board_14 : decode cX0_board 14 = .ok (.iload_n 2, 1) := dk_28 (dk_at dksX0_board_0 14 rfl rfl)
theorem dX0_board_15 : decode cX0_board 15 = .ok (.invokestatic 152, 3) := dk_184 0 152 (dk_at dksX0_board_0 15 rfl rfl)
theorem dX0_board_18 : decode cX0_board 18 = .ok (.ifCond .ne 6, 3) := dk_154 0 6 (dk_at dksX0_board_0 18 rfl rfl)
theorem dX0_board_21 : decode cX0_board 21 = .ok (.bipush (-2), 2) := dk_16 254 (dk_at dksX0_board_0 21 rfl rfl)
theorem dX0_board_23 : decode cX0_board 23 = .ok (.ireturn, 1) := dk_172 (dk_at dksX0_board_0 23 rfl rfl)
theorem dX0_board_24 : decode cX0_board 24 = .ok (.aload_n 0, 1) := dk_42 (dk_at dksX0_board_1 0 rfl rfl)
theorem dX0_board_25 : decode cX0_board 25 = .ok (.aload_n 0, 1) := dk_42 (dk_at dksX0_board_1 1 rfl rfl)
theorem dX0_board_26 : decode cX0_board 26 = .ok (.getfield 70, 3) := dk_180 0 70 (dk_at dksX0_board_1 2 rfl rfl)
theorem dX0_board_29 : decode cX0_board 29 = .ok (.iload_n 1, 1) := dk_27 (dk_at dksX0_board_1 5 rfl rfl)
theorem dX0_board_30 : decode cX0_board 30 = .ok (.aaload, 1) := dk_50 (dk_at dksX0_board_1 6 rfl rfl)
theorem dX0_board_31 : decode cX0_board 31 = .ok (.getfield 155, 3) := dk_180 0 155 (dk_at dksX0_board_1 7 rfl rfl)
theorem dX0_board_34 : decode cX0_board 34 = .ok (.iload_n 2, 1) := dk_28 (dk_at dksX0_board_1 10 rfl rfl)
theorem dX0_board_35 : decode cX0_board 35 = .ok (.invokestatic 161, 3) := dk_184 0 161 (dk_at dksX0_board_1 11 rfl rfl)
theorem dX0_board_38 : decode cX0_board 38 = .ok (.iload_n 3, 1) := dk_29 (dk_at dksX0_board_1 14 rfl rfl)
theorem dX0_board_39 : decode cX0_board 39 = .ok (.iload 4, 2) := dk_21 4 (dk_at dksX0_board_1 15 rfl rfl)
theorem dX0_board_41 : decode cX0_board 41 = .ok (.invokestatic 165, 3) := dk_184 0 165 (dk_at dksX0_board_1 17 rfl rfl)
theorem dX0_board_44 : decode cX0_board 44 = .ok (.invokevirtual 251, 3) := dk_182 0 251 (dk_at dksX0_board_1 20 rfl rfl)
theorem dX0_board_47 : decode cX0_board 47 = .ok (.ireturn, 1) := dk_172 (dk_at dksX0_board_1 23 rfl rfl)
theorem dX0_board_48 : decode cX0_board 48 = .ok (.astore 5, 2) := dk_58 5 (dk_at dksX0_board_2 0 rfl rfl)
theorem dX0_board_50 : decode cX0_board 50 = .ok (.aload_n 0, 1) := dk_42 (dk_at dksX0_board_2 2 rfl rfl)
theorem dX0_board_51 : decode cX0_board 51 = .ok (.iconst 2, 1) := dk_5 (dk_at dksX0_board_2 3 rfl rfl)
theorem dX0_board_52 : decode cX0_board 52 = .ok (.invokevirtual 175, 3) := dk_182 0 175 (dk_at dksX0_board_2 4 rfl rfl)
theorem dX0_board_55 : decode cX0_board 55 = .ok (.ireturn, 1) := dk_172 (dk_at dksX0_board_2 7 rfl rfl)
theorem dX0_board_56 : decode cX0_board 56 = .ok (.astore 5, 2) := dk_58 5 (dk_at dksX0_board_2 8 rfl rfl)
theorem dX0_board_58 : decode cX0_board 58 = .ok (.aload_n 0, 1) := dk_42 (dk_at dksX0_board_2 10 rfl rfl)
theorem dX0_board_59 : decode cX0_board 59 = .ok (.iconst 1, 1) := dk_4 (dk_at dksX0_board_2 11 rfl rfl)
theorem dX0_board_60 : decode cX0_board 60 = .ok (.invokevirtual 175, 3) := dk_182 0 175 (dk_at dksX0_board_2 12 rfl rfl)
theorem dX0_board_63 : decode cX0_board 63 = .ok (.ireturn, 1) := dk_172 (dk_at dksX0_board_2 15 rfl rfl)
theorem dX0_board_64 : decode cX0_board 64 = .ok (.astore 5, 2) := dk_58 5 (dk_at dksX0_board_2 16 rfl rfl)
theorem dX0_board_66 : decode cX0_board 66 = .ok (.aload_n 0, 1) := dk_42 (dk_at dksX0_board_2 18 rfl rfl)
theorem dX0_board_67 : decode cX0_board 67 = .ok (.iconst 4, 1) := dk_7 (dk_at dksX0_board_2 19 rfl rfl)
theorem dX0_board_68 : decode cX0_board 68 = .ok (.invokevirtual 175, 3) := dk_182 0 175 (dk_at dksX0_board_2 20 rfl rfl)
theorem dX0_board_71 : decode cX0_board 71 = .ok (.ireturn, 1) := dk_172 (dk_at dksX0_board_2 23 rfl rfl)
theorem dX0_board_72 : decode cX0_board 72 = .ok (.astore 5, 2) := dk_58 5 (dk_at dksX0_board_3 0 rfl rfl)
theorem dX0_board_74 : decode cX0_board 74 = .ok (.aload_n 0, 1) := dk_42 (dk_at dksX0_board_3 2 rfl rfl)
theorem dX0_board_75 : decode cX0_board 75 = .ok (.iconst 3, 1) := dk_6 (dk_at dksX0_board_3 3 rfl rfl)
theorem dX0_board_76 : decode cX0_board 76 = .ok (.invokevirtual 175, 3) := dk_182 0 175 (dk_at dksX0_board_3 4 rfl rfl)
theorem dX0_board_79 : decode cX0_board 79 = .ok (.ireturn, 1) := dk_172 (dk_at dksX0_board_3 7 rfl rfl)
abbrev cX0_comesBoard : ByteArray := prog_1_method_24_code
def yX0_comesBoard : MethodName := ⟨RX0, "comesBoard", "([I)I"⟩
def dkwX0_comesBoard_4 : List UInt8 := [180, 0, 248, 172]
abbrev dktX0_comesBoard_4 : List UInt8 := dkwX0_comesBoard_4 ++ []
def dkwX0_comesBoard_3 : List UInt8 := [180, 0, 18, 8, 28, 104, 5, 96, 46, 79, 132, 2, 1, 167, 255, 199, 42, 3, 181, 0, 145, 42]
abbrev dktX0_comesBoard_3 : List UInt8 := dkwX0_comesBoard_3 ++ dktX0_comesBoard_4
def dkwX0_comesBoard_2 : List UInt8 := [42, 180, 0, 25, 28, 42, 180, 0, 18, 8, 28, 104, 4, 96, 46, 79, 42, 180, 0, 28, 28, 42]
abbrev dktX0_comesBoard_2 : List UInt8 := dkwX0_comesBoard_2 ++ dktX0_comesBoard_3
def dkwX0_comesBoard_1 : List UInt8 := [3, 61, 28, 42, 180, 0, 248, 162, 0, 55, 42, 180, 0, 22, 28, 42, 180, 0, 18, 8, 28, 104, 46, 79]
abbrev dktX0_comesBoard_1 : List UInt8 := dkwX0_comesBoard_1 ++ dktX0_comesBoard_2
def dkwX0_comesBoard_0 : List UInt8 := [42, 43, 182, 0, 245, 154, 0, 11, 16, 156, 42, 180, 0, 89, 100, 172, 42, 42, 180, 0, 98, 181, 0, 248]
abbrev dktX0_comesBoard_0 : List UInt8 := dkwX0_comesBoard_0 ++ dktX0_comesBoard_1
theorem dksX0_comesBoard_0 : cX0_comesBoard.data.toList.drop 0 = dktX0_comesBoard_0 := by decide +kernel
theorem dksX0_comesBoard_1 : cX0_comesBoard.data.toList.drop 24 = dktX0_comesBoard_1 := dk_seg dksX0_comesBoard_0 24 rfl rfl
theorem dksX0_comesBoard_2 : cX0_comesBoard.data.toList.drop 48 = dktX0_comesBoard_2 := dk_seg dksX0_comesBoard_1 24 rfl rfl
theorem dksX0_comesBoard_3 : cX0_comesBoard.data.toList.drop 70 = dktX0_comesBoard_3 := dk_seg dksX0_comesBoard_2 22 rfl rfl
theorem dksX0_comesBoard_4 : cX0_comesBoard.data.toList.drop 92 = dktX0_comesBoard_4 := dk_seg dksX0_comesBoard_3 22 rfl rfl
theorem dX0_comesBoard_0 : decode cX0_comesBoard 0 = .ok (.aload_n 0, 1) := dk_42 (dk_at dksX0_comesBoard_0 0 rfl rfl)
theorem dX0_comesBoard_1 : decode cX0_comesBoard 1 = .ok (.aload_n 1, 1) := dk_43 (dk_at dksX0_comesBoard_0 1 rfl rfl)
theorem dX0_comesBoard_2 : decode cX0_comesBoard 2 = .ok (.invokevirtual 245, 3) := dk_182 0 245 (dk_at dksX0_comesBoard_0 2 rfl rfl)
theorem dX0_comesBoard_5 : decode cX0_comesBoard 5 = .ok (.ifCond .ne 11, 3) := dk_154 0 11 (dk_at dksX0_comesBoard_0 5 rfl rfl)
theorem dX0_comesBoard_8 : decode cX0_comesBoard 8 = .ok (.bipush (-100), 2) := dk_16 156 (dk_at dksX0_comesBoard_0 8 rfl rfl)
theorem dX0_comesBoard_10 : decode cX0_comesBoard 10 = .ok (.aload_n 0, 1) := dk_42 (dk_at dksX0_comesBoard_0 10 rfl rfl)
theorem dX0_comesBoard_11 : decode cX0_comesBoard 11 = .ok (.getfield 89, 3) := dk_180 0 89 (dk_at dksX0_comesBoard_0 11 rfl rfl)
theorem dX0_comesBoard_14 : decode cX0_comesBoard 14 = .ok (.isub, 1) := dk_100 (dk_at dksX0_comesBoard_0 14 rfl rfl)
theorem dX0_comesBoard_15 : decode cX0_comesBoard 15 = .ok (.ireturn, 1) := dk_172 (dk_at dksX0_comesBoard_0 15 rfl rfl)
theorem dX0_comesBoard_16 : decode cX0_comesBoard 16 = .ok (.aload_n 0, 1) := dk_42 (dk_at dksX0_comesBoard_0 16 rfl rfl)
theorem dX0_comesBoard_17 : decode cX0_comesBoard 17 = .ok (.aload_n 0, 1) := dk_42 (dk_at dksX0_comesBoard_0 17 rfl rfl)
theorem dX0_comesBoard_18 : decode cX0_comesBoard 18 = .ok (.getfield 98, 3) := dk_180 0 98 (dk_at dksX0_comesBoard_0 18 rfl rfl)
theorem dX0_comesBoard_21 : decode cX0_comesBoard 21 = .ok (.putfield 248, 3) := dk_181 0 248 (dk_at dksX0_comesBoard_0 21 rfl rfl)
theorem dX0_comesBoard_24 : decode cX0_comesBoard 24 = .ok (.iconst 0, 1) := dk_3 (dk_at dksX0_comesBoard_1 0 rfl rfl)
theorem dX0_comesBoard_25 : decode cX0_comesBoard 25 = .ok (.istore_n 2, 1) := dk_61 (dk_at dksX0_comesBoard_1 1 rfl rfl)
theorem dX0_comesBoard_26 : decode cX0_comesBoard 26 = .ok (.iload_n 2, 1) := dk_28 (dk_at dksX0_comesBoard_1 2 rfl rfl)
theorem dX0_comesBoard_27 : decode cX0_comesBoard 27 = .ok (.aload_n 0, 1) := dk_42 (dk_at dksX0_comesBoard_1 3 rfl rfl)
theorem dX0_comesBoard_28 : decode cX0_comesBoard 28 = .ok (.getfield 248, 3) := dk_180 0 248 (dk_at dksX0_comesBoard_1 4 rfl rfl)
theorem dX0_comesBoard_31 : decode cX0_comesBoard 31 = .ok (.if_icmp .ge 55, 3) := dk_162 0 55 (dk_at dksX0_comesBoard_1 7 rfl rfl)
theorem dX0_comesBoard_34 : decode cX0_comesBoard 34 = .ok (.aload_n 0, 1) := dk_42 (dk_at dksX0_comesBoard_1 10 rfl rfl)
theorem dX0_comesBoard_35 : decode cX0_comesBoard 35 = .ok (.getfield 22, 3) := dk_180 0 22 (dk_at dksX0_comesBoard_1 11 rfl rfl)
theorem dX0_comesBoard_38 : decode cX0_comesBoard 38 = .ok (.iload_n 2, 1) := dk_28 (dk_at dksX0_comesBoard_1 14 rfl rfl)
theorem dX0_comesBoard_39 : decode cX0_comesBoard 39 = .ok (.aload_n 0, 1) := dk_42 (dk_at dksX0_comesBoard_1 15 rfl rfl)
theorem dX0_comesBoard_40 : decode cX0_comesBoard 40 = .ok (.getfield 18, 3) := dk_180 0 18 (dk_at dksX0_comesBoard_1 16 rfl rfl)
theorem dX0_comesBoard_43 : decode cX0_comesBoard 43 = .ok (.iconst 5, 1) := dk_8 (dk_at dksX0_comesBoard_1 19 rfl rfl)
theorem dX0_comesBoard_44 : decode cX0_comesBoard 44 = .ok (.iload_n 2, 1) := dk_28 (dk_at dksX0_comesBoard_1 20 rfl rfl)
theorem dX0_comesBoard_45 : decode cX0_comesBoard 45 = .ok (.imul, 1) := dk_104 (dk_at dksX0_comesBoard_1 21 rfl rfl)
theorem dX0_comesBoard_46 : decode cX0_comesBoard 46 = .ok (.iaload, 1) := dk_46 (dk_at dksX0_comesBoard_1 22 rfl rfl)
theorem dX0_comesBoard_47 : decode cX0_comesBoard 47 = .ok (.iastore, 1) := dk_79 (dk_at dksX0_comesBoard_1 23 rfl rfl)
theorem dX0_comesBoard_48 : decode cX0_comesBoard 48 = .ok (.aload_n 0, 1) := dk_42 (dk_at dksX0_comesBoard_2 0 rfl rfl)
theorem dX0_comesBoard_49 : decode cX0_comesBoard 49 = .ok (.getfield 25, 3) := dk_180 0 25 (dk_at dksX0_comesBoard_2 1 rfl rfl)
theorem dX0_comesBoard_52 : decode cX0_comesBoard 52 = .ok (.iload_n 2, 1) := dk_28 (dk_at dksX0_comesBoard_2 4 rfl rfl)
theorem dX0_comesBoard_53 : decode cX0_comesBoard 53 = .ok (.aload_n 0, 1) := dk_42 (dk_at dksX0_comesBoard_2 5 rfl rfl)
theorem dX0_comesBoard_54 : decode cX0_comesBoard 54 = .ok (.getfield 18, 3) := dk_180 0 18 (dk_at dksX0_comesBoard_2 6 rfl rfl)
theorem dX0_comesBoard_57 : decode cX0_comesBoard 57 = .ok (.iconst 5, 1) := dk_8 (dk_at dksX0_comesBoard_2 9 rfl rfl)
theorem dX0_comesBoard_58 : decode cX0_comesBoard 58 = .ok (.iload_n 2, 1) := dk_28 (dk_at dksX0_comesBoard_2 10 rfl rfl)
theorem dX0_comesBoard_59 : decode cX0_comesBoard 59 = .ok (.imul, 1) := dk_104 (dk_at dksX0_comesBoard_2 11 rfl rfl)
theorem dX0_comesBoard_60 : decode cX0_comesBoard 60 = .ok (.iconst 1, 1) := dk_4 (dk_at dksX0_comesBoard_2 12 rfl rfl)
theorem dX0_comesBoard_61 : decode cX0_comesBoard 61 = .ok (.iadd, 1) := dk_96 (dk_at dksX0_comesBoard_2 13 rfl rfl)
theorem dX0_comesBoard_62 : decode cX0_comesBoard 62 = .ok (.iaload, 1) := dk_46 (dk_at dksX0_comesBoard_2 14 rfl rfl)
theorem dX0_comesBoard_63 : decode cX0_comesBoard 63 = .ok (.iastore, 1) := dk_79 (dk_at dksX0_comesBoard_2 15 rfl rfl)
theorem dX0_comesBoard_64 : decode cX0_comesBoard 64 = .ok (.aload_n 0, 1) := dk_42 (dk_at dksX0_comesBoard_2 16 rfl rfl)
theorem dX0_comesBoard_65 : decode cX0_comesBoard 65 = .ok (.getfield 28, 3) := dk_180 0 28 (dk_at dksX0_comesBoard_2 17 rfl rfl)
theorem dX0_comesBoard_68 : decode cX0_comesBoard 68 = .ok (.iload_n 2, 1) := dk_28 (dk_at dksX0_comesBoard_2 20 rfl rfl)
theorem dX0_comesBoard_69 : decode cX0_comesBoard 69 = .ok (.aload_n 0, 1) := dk_42 (dk_at dksX0_comesBoard_2 21 rfl rfl)
theorem dX0_comesBoard_70 : decode cX0_comesBoard 70 = .ok (.getfield 18, 3) := dk_180 0 18 (dk_at dksX0_comesBoard_3 0 rfl rfl)
theorem dX0_comesBoard_73 : decode cX0_comesBoard 73 = .ok (.iconst 5, 1) := dk_8 (dk_at dksX0_comesBoard_3 3 rfl rfl)
theorem dX0_comesBoard_74 : decode cX0_comesBoard 74 = .ok (.iload_n 2, 1) := dk_28 (dk_at dksX0_comesBoard_3 4 rfl rfl)
theorem dX0_comesBoard_75 : decode cX0_comesBoard 75 = .ok (.imul, 1) := dk_104 (dk_at dksX0_comesBoard_3 5 rfl rfl)
theorem dX0_comesBoard_76 : decode cX0_comesBoard 76 = .ok (.iconst 2, 1) := dk_5 (dk_at dksX0_comesBoard_3 6 rfl rfl)
theorem dX0_comesBoard_77 : decode cX0_comesBoard 77 = .ok (.iadd, 1) := dk_96 (dk_at dksX0_comesBoard_3 7 rfl rfl)
theorem dX0_comesBoard_78 : decode cX0_comesBoard 78 = .ok (.iaload, 1) := dk_46 (dk_at dksX0_comesBoard_3 8 rfl rfl)
theorem dX0_comesBoard_79 : decode cX0_comesBoard 79 = .ok (.iastore, 1) := dk_79 (dk_at dksX0_comesBoard_3 9 rfl rfl)
theorem dX0_comesBoard_80 : decode cX0_comesBoard 80 = .ok (.iinc 2 1, 3) := dk_132 2 1 (dk_at dksX0_comesBoard_3 10 rfl rfl)
theorem dX0_comesBoard_83 : decode cX0_comesBoard 83 = .ok (.goto (-57), 3) := dk_167 255 199 (dk_at dksX0_comesBoard_3 13 rfl rfl)
theorem dX0_comesBoard_86 : decode cX0_comesBoard 86 = .ok (.aload_n 0, 1) := dk_42 (dk_at dksX0_comesBoard_3 16 rfl rfl)
theorem dX0_comesBoard_87 : decode cX0_comesBoard 87 = .ok (.iconst 0, 1) := dk_3 (dk_at dksX0_comesBoard_3 17 rfl rfl)
theorem dX0_comesBoard_88 : decode cX0_comesBoard 88 = .ok (.putfield 145, 3) := dk_181 0 145 (dk_at dksX0_comesBoard_3 18 rfl rfl)
theorem dX0_comesBoard_91 : decode cX0_comesBoard 91 = .ok (.aload_n 0, 1) := dk_42 (dk_at dksX0_comesBoard_3 21 rfl rfl)
theorem dX0_comesBoard_92 : decode cX0_comesBoard 92 = .ok (.getfield 248, 3) := dk_180 0 248 (dk_at dksX0_comesBoard_4 0 rfl rfl)
theorem dX0_comesBoard_95 : decode cX0_comesBoard 95 = .ok (.ireturn, 1) := dk_172 (dk_at dksX0_comesBoard_4 3 rfl rfl)
abbrev cX0_readBoard : ByteArray := prog_1_method_23_code
def yX0_readBoard : MethodName := ⟨RX0, "readBoard", "([I)Z"⟩
def dkwX0_readBoard_6 : List UInt8 := [167, 255, 125, 42, 180, 0, 89, 43, 190, 160, 0, 7, 4, 167, 0, 4, 3, 172]
abbrev dktX0_readBoard_6 : List UInt8 := dkwX0_readBoard_6 ++ []
def dkwX0_readBoard_5 : List UInt8 := [180, 0, 18, 8, 42, 180, 0, 98, 104, 5, 96, 21, 4, 79, 42, 89, 180, 0, 98, 4, 96, 181, 0, 98]
abbrev dktX0_readBoard_5 : List UInt8 := dkwX0_readBoard_5 ++ dktX0_readBoard_6
def dkwX0_readBoard_4 : List UInt8 := [180, 0, 98, 104, 28, 79, 42, 180, 0, 18, 8, 42, 180, 0, 98, 104, 4, 96, 29, 7, 100, 79, 42]
abbrev dktX0_readBoard_4 : List UInt8 := dkwX0_readBoard_4 ++ dktX0_readBoard_5
def dkwX0_readBoard_3 : List UInt8 := [3, 16, 9, 182, 0, 101, 54, 4, 21, 4, 16, 247, 160, 0, 5, 3, 172, 42, 180, 0, 18, 8, 42]
abbrev dktX0_readBoard_3 : List UInt8 := dkwX0_readBoard_3 ++ dktX0_readBoard_4
def dkwX0_readBoard_2 : List UInt8 := [160, 0, 5, 3, 172, 42, 43, 3, 16, 8, 182, 0, 101, 62, 29, 16, 247, 160, 0, 5, 3, 172, 42, 43]
abbrev dktX0_readBoard_2 : List UInt8 := dkwX0_readBoard_2 ++ dktX0_readBoard_3
def dkwX0_readBoard_1 : List UInt8 := [162, 0, 121, 42, 180, 0, 89, 43, 190, 162, 0, 112, 42, 43, 4, 16, 9, 182, 0, 101, 61, 28, 16, 247]
abbrev dktX0_readBoard_1 : List UInt8 := dkwX0_readBoard_1 ++ dktX0_readBoard_2
def dkwX0_readBoard_0 : List UInt8 := [42, 3, 181, 0, 89, 42, 3, 181, 0, 98, 42, 180, 0, 98, 153, 0, 21, 42, 180, 0, 98, 16, 24]
abbrev dktX0_readBoard_0 : List UInt8 := dkwX0_readBoard_0 ++ dktX0_readBoard_1
theorem dksX0_readBoard_0 : cX0_readBoard.data.toList.drop 0 = dktX0_readBoard_0 := by decide +kernel
theorem dksX0_readBoard_1 : cX0_readBoard.data.toList.drop 23 = dktX0_readBoard_1 := dk_seg dksX0_readBoard_0 23 rfl rfl
theorem dksX0_readBoard_2 : cX0_readBoard.data.toList.drop 47 = dktX0_readBoard_2 := dk_seg dksX0_readBoard_1 24 rfl rfl
theorem dksX0_readBoard_3 : cX0_readBoard.data.toList.drop 71 = dktX0_readBoard_3 := dk_seg dksX0_readBoard_2 24 rfl rfl
theorem dksX0_readBoard_4 : cX0_readBoard.data.toList.drop 94 = dktX0_readBoard_4 := dk_seg dksX0_readBoard_3 23 rfl rfl
theorem dksX0_readBoard_5 : cX0_readBoard.data.toList.drop 117 = dktX0_readBoard_5 := dk_seg dksX0_readBoard_4 23 rfl rfl
theorem dksX0_readBoard_6 : cX0_readBoard.data.toList.drop 141 = dktX0_readBoard_6 := dk_seg dksX0_readBoard_5 24 rfl rfl
theorem dX0_readBoard_0 : decode cX0_readBoard 0 = .ok (.aload_n 0, 1) := dk_42 (dk_at dksX0_readBoard_0 0 rfl rfl)
theorem dX0_readBoard_1 : decode cX0_readBoard 1 = .ok (.iconst 0, 1) := dk_3 (dk_at dksX0_readBoard_0 1 rfl rfl)
theorem dX0_readBoard_2 : decode cX0_readBoard 2 = .ok (.putfield 89, 3) := dk_181 0 89 (dk_at dksX0_readBoard_0 2 rfl rfl)
theorem dX0_readBoard_5 : decode cX0_readBoard 5 = .ok (.aload_n 0, 1) := dk_42 (dk_at dksX0_readBoard_0 5 rfl rfl)
theorem dX0_readBoard_6 : decode cX0_readBoard 6 = .ok (.iconst 0, 1) := dk_3 (dk_at dksX0_readBoard_0 6 rfl rfl)
theorem dX0_readBoard_7 : decode cX0_readBoard 7 = .ok (.putfield 98, 3) := dk_181 0 98 (dk_at dksX0_readBoard_0 7 rfl rfl)
theorem dX0_readBoard_10 : decode cX0_readBoard 10 = .ok (.aload_n 0, 1) := dk_42 (dk_at dksX0_readBoard_0 10 rfl rfl)
theorem dX0_readBoard_11 : decode cX0_readBoard 11 = .ok (.getfield 98, 3) := dk_180 0 98 (dk_at dksX0_readBoard_0 11 rfl rfl)
theorem dX0_readBoard_14 : decode cX0_readBoard 14 = .ok (.ifCond .eq 21, 3) := dk_153 0 21 (dk_at dksX0_readBoard_0 14 rfl rfl)
theorem dX0_readBoard_17 : decode cX0_readBoard 17 = .ok (.aload_n 0, 1) := dk_42 (dk_at dksX0_readBoard_0 17 rfl rfl)
theorem dX0_readBoard_18 : decode cX0_readBoard 18 = .ok (.getfield 98, 3) := dk_180 0 98 (dk_at dksX0_readBoard_0 18 rfl rfl)
theorem dX0_readBoard_21 : decode cX0_readBoard 21 = .ok (.bipush 24, 2) := dk_16 24 (dk_at dksX0_readBoard_0 21 rfl rfl)
theorem dX0_readBoard_23 : decode cX0_readBoard 23 = .ok (.if_icmp .ge 121, 3) := dk_162 0 121 (dk_at dksX0_readBoard_1 0 rfl rfl)
theorem dX0_readBoard_26 : decode cX0_readBoard 26 = .ok (.aload_n 0, 1) := dk_42 (dk_at dksX0_readBoard_1 3 rfl rfl)
theorem dX0_readBoard_27 : decode cX0_readBoard 27 = .ok (.getfield 89, 3) := dk_180 0 89 (dk_at dksX0_readBoard_1 4 rfl rfl)
theorem dX0_readBoard_30 : decode cX0_readBoard 30 = .ok (.aload_n 1, 1) := dk_43 (dk_at dksX0_readBoard_1 7 rfl rfl)
theorem dX0_readBoard_31 : decode cX0_readBoard 31 = .ok (.arraylength, 1) := dk_190 (dk_at dksX0_readBoard_1 8 rfl rfl)
theorem dX0_readBoard_32 : decode cX0_readBoard 32 = .ok (.if_icmp .ge 112, 3) := dk_162 0 112 (dk_at dksX0_readBoard_1 9 rfl rfl)
theorem dX0_readBoard_35 : decode cX0_readBoard 35 = .ok (.aload_n 0, 1) := dk_42 (dk_at dksX0_readBoard_1 12 rfl rfl)
theorem dX0_readBoard_36 : decode cX0_readBoard 36 = .ok (.aload_n 1, 1) := dk_43 (dk_at dksX0_readBoard_1 13 rfl rfl)
theorem dX0_readBoard_37 : decode cX0_readBoard 37 = .ok (.iconst 1, 1) := dk_4 (dk_at dksX0_readBoard_1 14 rfl rfl)
theorem dX0_readBoard_38 : decode cX0_readBoard 38 = .ok (.bipush 9, 2) := dk_16 9 (dk_at dksX0_readBoard_1 15 rfl rfl)
theorem dX0_readBoard_40 : decode cX0_readBoard 40 = .ok (.invokevirtual 101, 3) := dk_182 0 101 (dk_at dksX0_readBoard_1 17 rfl rfl)
theorem dX0_readBoard_43 : decode cX0_readBoard 43 = .ok (.istore_n 2, 1) := dk_61 (dk_at dksX0_readBoard_1 20 rfl rfl)
theorem dX0_readBoard_44 : decode cX0_readBoard 44 = .ok (.iload_n 2, 1) := dk_28 (dk_at dksX0_readBoard_1 21 rfl rfl)
theorem dX0_readBoard_45 : decode cX0_readBoard 45 = .ok (.bipush (-9), 2) := dk_16 247 (dk_at dksX0_readBoard_1 22 rfl rfl)
theorem dX0_readBoard_47 : decode cX0_readBoard 47 = .ok (.if_icmp .ne 5, 3) := dk_160 0 5 (dk_at dksX0_readBoard_2 0 rfl rfl)
theorem dX0_readBoard_50 : decode cX0_readBoard 50 = .ok (.iconst 0, 1) := dk_3 (dk_at dksX0_readBoard_2 3 rfl rfl)
theorem dX0_readBoard_51 : decode cX0_readBoard 51 = .ok (.ireturn, 1) := dk_172 (dk_at dksX0_readBoard_2 4 rfl rfl)
theorem dX0_readBoard_52 : decode cX0_readBoard 52 = .ok (.aload_n 0, 1) := dk_42 (dk_at dksX0_readBoard_2 5 rfl rfl)
theorem dX0_readBoard_53 : decode cX0_readBoard 53 = .ok (.aload_n 1, 1) := dk_43 (dk_at dksX0_readBoard_2 6 rfl rfl)
theorem dX0_readBoard_54 : decode cX0_readBoard 54 = .ok (.iconst 0, 1) := dk_3 (dk_at dksX0_readBoard_2 7 rfl rfl)
theorem dX0_readBoard_55 : decode cX0_readBoard 55 = .ok (.bipush 8, 2) := dk_16 8 (dk_at dksX0_readBoard_2 8 rfl rfl)
theorem dX0_readBoard_57 : decode cX0_readBoard 57 = .ok (.invokevirtual 101, 3) := dk_182 0 101 (dk_at dksX0_readBoard_2 10 rfl rfl)
theorem dX0_readBoard_60 : decode cX0_readBoard 60 = .ok (.istore_n 3, 1) := dk_62 (dk_at dksX0_readBoard_2 13 rfl rfl)
theorem dX0_readBoard_61 : decode cX0_readBoard 61 = .ok (.iload_n 3, 1) := dk_29 (dk_at dksX0_readBoard_2 14 rfl rfl)
theorem dX0_readBoard_62 : decode cX0_readBoard 62 = .ok (.bipush (-9), 2) := dk_16 247 (dk_at dksX0_readBoard_2 15 rfl rfl)
theorem dX0_readBoard_64 : decode cX0_readBoard 64 = .ok (.if_icmp .ne 5, 3) := dk_160 0 5 (dk_at dksX0_readBoard_2 17 rfl rfl)
theorem dX0_readBoard_67 : decode cX0_readBoard 67 = .ok (.iconst 0, 1) := dk_3 (dk_at dksX0_readBoard_2 20 rfl rfl)
theorem dX0_readBoard_68 : decode cX0_readBoard 68 = .ok (.ireturn, 1) := dk_172 (dk_at dksX0_readBoard_2 21 rfl rfl)
theorem dX0_readBoard_69 : decode cX0_readBoard 69 = .ok (.aload_n 0, 1) := dk_42 (dk_at dksX0_readBoard_2 22 rfl rfl)
theorem dX0_readBoard_70 : decode cX0_readBoard 70 = .ok (.aload_n 1, 1) := dk_43 (dk_at dksX0_readBoard_2 23 rfl rfl)
theorem dX0_readBoard_71 : decode cX0_readBoard 71 = .ok (.iconst 0, 1) := dk_3 (dk_at dksX0_readBoard_3 0 rfl rfl)
theorem dX0_readBoard_72 : decode cX0_readBoard 72 = .ok (.bipush 9, 2) := dk_16 9 (dk_at dksX0_readBoard_3 1 rfl rfl)
theorem dX0_readBoard_74 : decode cX0_readBoard 74 = .ok (.invokevirtual 101, 3) := dk_182 0 101 (dk_at dksX0_readBoard_3 3 rfl rfl)
theorem dX0_readBoard_77 : decode cX0_readBoard 77 = .ok (.istore 4, 2) := dk_54 4 (dk_at dksX0_readBoard_3 6 rfl rfl)
theorem dX0_readBoard_79 : decode cX0_readBoard 79 = .ok (.iload 4, 2) := dk_21 4 (dk_at dksX0_readBoard_3 8 rfl rfl)
theorem dX0_readBoard_81 : decode cX0_readBoard 81 = .ok (.bipush (-9), 2) := dk_16 247 (dk_at dksX0_readBoard_3 10 rfl rfl)
theorem dX0_readBoard_83 : decode cX0_readBoard 83 = .ok (.if_icmp .ne 5, 3) := dk_160 0 5 (dk_at dksX0_readBoard_3 12 rfl rfl)
theorem dX0_readBoard_86 : decode cX0_readBoard 86 = .ok (.iconst 0, 1) := dk_3 (dk_at dksX0_readBoard_3 15 rfl rfl)
theorem dX0_readBoard_87 : decode cX0_readBoard 87 = .ok (.ireturn, 1) := dk_172 (dk_at dksX0_readBoard_3 16 rfl rfl)
theorem dX0_readBoard_88 : decode cX0_readBoard 88 = .ok (.aload_n 0, 1) := dk_42 (dk_at dksX0_readBoard_3 17 rfl rfl)
theorem dX0_readBoard_89 : decode cX0_readBoard 89 = .ok (.getfield 18, 3) := dk_180 0 18 (dk_at dksX0_readBoard_3 18 rfl rfl)
theorem dX0_readBoard_92 : decode cX0_readBoard 92 = .ok (.iconst 5, 1) := dk_8 (dk_at dksX0_readBoard_3 21 rfl rfl)
theorem dX0_readBoard_93 : decode cX0_readBoard 93 = .ok (.aload_n 0, 1) := dk_42 (dk_at dksX0_readBoard_3 22 rfl rfl)
theorem dX0_readBoard_94 : decode cX0_readBoard 94 = .ok (.getfield 98, 3) := dk_180 0 98 (dk_at dksX0_readBoard_4 0 rfl rfl)
theorem dX0_readBoard_97 : decode cX0_readBoard 97 = .ok (.imul, 1) := dk_104 (dk_at dksX0_readBoard_4 3 rfl rfl)
theorem dX0_readBoard_98 : decode cX0_readBoard 98 = .ok (.iload_n 2, 1) := dk_28 (dk_at dksX0_readBoard_4 4 rfl rfl)
theorem dX0_readBoard_99 : decode cX0_readBoard 99 = .ok (.iastore, 1) := dk_79 (dk_at dksX0_readBoard_4 5 rfl rfl)
theorem dX0_readBoard_100 : decode cX0_readBoard 100 = .ok (.aload_n 0, 1) := dk_42 (dk_at dksX0_readBoard_4 6 rfl rfl)
theorem dX0_readBoard_101 : decode cX0_readBoard 101 = .ok (.getfield 18, 3) := dk_180 0 18 (dk_at dksX0_readBoard_4 7 rfl rfl)
theorem dX0_readBoard_104 : decode cX0_readBoard 104 = .ok (.iconst 5, 1) := dk_8 (dk_at dksX0_readBoard_4 10 rfl rfl)
theorem dX0_readBoard_105 : decode cX0_readBoard 105 = .ok (.aload_n 0, 1) := dk_42 (dk_at dksX0_readBoard_4 11 rfl rfl)
theorem dX0_readBoard_106 : decode cX0_readBoard 106 = .ok (.getfield 98, 3) := dk_180 0 98 (dk_at dksX0_readBoard_4 12 rfl rfl)
theorem dX0_readBoard_109 : decode cX0_readBoard 109 = .ok (.imul, 1) := dk_104 (dk_at dksX0_readBoard_4 15 rfl rfl)
theorem dX0_readBoard_110 : decode cX0_readBoard 110 = .ok (.iconst 1, 1) := dk_4 (dk_at dksX0_readBoard_4 16 rfl rfl)
theorem dX0_readBoard_111 : decode cX0_readBoard 111 = .ok (.iadd, 1) := dk_96 (dk_at dksX0_readBoard_4 17 rfl rfl)
theorem dX0_readBoard_112 : decode cX0_readBoard 112 = .ok (.iload_n 3, 1) := dk_29 (dk_at dksX0_readBoard_4 18 rfl rfl)
theorem dX0_readBoard_113 : decode cX0_readBoard 113 = .ok (.iconst 4, 1) := dk_7 (dk_at dksX0_readBoard_4 19 rfl rfl)
theorem dX0_readBoard_114 : decode cX0_readBoard 114 = .ok (.isub, 1) := dk_100 (dk_at dksX0_readBoard_4 20 rfl rfl)
theorem dX0_readBoard_115 : decode cX0_readBoard 115 = .ok (.iastore, 1) := dk_79 (dk_at dksX0_readBoard_4 21 rfl rfl)
theorem dX0_readBoard_116 : decode cX0_readBoard 116 = .ok (.aload_n 0, 1) := dk_42 (dk_at dksX0_readBoard_4 22 rfl rfl)
theorem dX0_readBoard_117 : decode cX0_readBoard 117 = .ok (.getfield 18, 3) := dk_180 0 18 (dk_at dksX0_readBoard_5 0 rfl rfl)
theorem dX0_readBoard_120 : decode cX0_readBoard 120 = .ok (.iconst 5, 1) := dk_8 (dk_at dksX0_readBoard_5 3 rfl rfl)
theorem dX0_readBoard_121 : decode cX0_readBoard 121 = .ok (.aload_n 0, 1) := dk_42 (dk_at dksX0_readBoard_5 4 rfl rfl)
theorem dX0_readBoard_122 : decode cX0_readBoard 122 = .ok (.getfield 98, 3) := dk_180 0 98 (dk_at dksX0_readBoard_5 5 rfl rfl)
theorem dX0_readBoard_125 : decode cX0_readBoard 125 = .ok (.imul, 1) := dk_104 (dk_at dksX0_readBoard_5 8 rfl rfl)
theorem dX0_readBoard_126 : decode cX0_readBoard 126 = .ok (.iconst 2, 1) := dk_5 (dk_at dksX0_readBoard_5 9 rfl rfl)
theorem dX0_readBoard_127 : decode cX0_readBoard 127 = .ok (.iadd, 1) := dk_96 (dk_at dksX0_readBoard_5 10 rfl rfl)
theorem dX0_readBoard_128 : decode cX0_readBoard 128 = .ok (.iload 4, 2) := dk_21 4 (dk_at dksX0_readBoard_5 11 rfl rfl)
theorem dX0_readBoard_130 : decode cX0_readBoard 130 = .ok (.iastore, 1) := dk_79 (dk_at dksX0_readBoard_5 13 rfl rfl)
theorem dX0_readBoard_131 : decode cX0_readBoard 131 = .ok (.aload_n 0, 1) := dk_42 (dk_at dksX0_readBoard_5 14 rfl rfl)
theorem dX0_readBoard_132 : decode cX0_readBoard 132 = .ok (.dup, 1) := dk_89 (dk_at dksX0_readBoard_5 15 rfl rfl)
theorem dX0_readBoard_133 : decode cX0_readBoard 133 = .ok (.getfield 98, 3) := dk_180 0 98 (dk_at dksX0_readBoard_5 16 rfl rfl)
theorem dX0_readBoard_136 : decode cX0_readBoard 136 = .ok (.iconst 1, 1) := dk_4 (dk_at dksX0_readBoard_5 19 rfl rfl)
theorem dX0_readBoard_137 : decode cX0_readBoard 137 = .ok (.iadd, 1) := dk_96 (dk_at dksX0_readBoard_5 20 rfl rfl)
theorem dX0_readBoard_138 : decode cX0_readBoard 138 = .ok (.putfield 98, 3) := dk_181 0 98 (dk_at dksX0_readBoard_5 21 rfl rfl)
theorem dX0_readBoard_141 : decode cX0_readBoard 141 = .ok (.goto (-131), 3) := dk_167 255 125 (dk_at dksX0_readBoard_6 0 rfl rfl)
theorem dX0_readBoard_144 : decode cX0_readBoard 144 = .ok (.aload_n 0, 1) := dk_42 (dk_at dksX0_readBoard_6 3 rfl rfl)
theorem dX0_readBoard_145 : decode cX0_readBoard 145 = .ok (.getfield 89, 3) := dk_180 0 89 (dk_at dksX0_readBoard_6 4 rfl rfl)
theorem dX0_readBoard_148 : decode cX0_readBoard 148 = .ok (.aload_n 1, 1) := dk_43 (dk_at dksX0_readBoard_6 7 rfl rfl)
theorem dX0_readBoard_149 : decode cX0_readBoard 149 = .ok (.arraylength, 1) := dk_190 (dk_at dksX0_readBoard_6 8 rfl rfl)
theorem dX0_readBoard_150 : decode cX0_readBoard 150 = .ok (.if_icmp .ne 7, 3) := dk_160 0 7 (dk_at dksX0_readBoard_6 9 rfl rfl)
theorem dX0_readBoard_153 : decode cX0_readBoard 153 = .ok (.iconst 1, 1) := dk_4 (dk_at dksX0_readBoard_6 12 rfl rfl)
theorem dX0_readBoard_154 : decode cX0_readBoard 154 = .ok (.goto 4, 3) := dk_167 0 4 (dk_at dksX0_readBoard_6 13 rfl rfl)
theorem dX0_readBoard_157 : decode cX0_readBoard 157 = .ok (.iconst 0, 1) := dk_3 (dk_at dksX0_readBoard_6 16 rfl rfl)
theorem dX0_readBoard_158 : decode cX0_readBoard 158 = .ok (.ireturn, 1) := dk_172 (dk_at dksX0_readBoard_6 17 rfl rfl)
abbrev cX0_ofLine : ByteArray := prog_1_method_27_code
def yX0_ofLine : MethodName := ⟨RX0, "ofLine", "(II)I"⟩
def dkwX0_ofLine_2 : List UInt8 := [167, 0, 5, 16, 254, 172]
abbrev dktX0_ofLine_2 : List UInt8 := dkwX0_ofLine_2 ++ []
def dkwX0_ofLine_1 : List UInt8 := [4, 160, 0, 12, 42, 180, 0, 25, 27, 46, 167, 0, 19, 28, 5, 160, 0, 12, 42, 180, 0, 28, 27, 46]
abbrev dktX0_ofLine_1 : List UInt8 := dkwX0_ofLine_1 ++ dktX0_ofLine_2
def dkwX0_ofLine_0 : List UInt8 := [42, 27, 182, 0, 254, 154, 0, 5, 2, 172, 28, 154, 0, 12, 42, 180, 0, 22, 27, 46, 167, 0, 33, 28]
abbrev dktX0_ofLine_0 : List UInt8 := dkwX0_ofLine_0 ++ dktX0_ofLine_1
theorem dksX0_ofLine_0 : cX0_ofLine.data.toList.drop 0 = dktX0_ofLine_0 := by decide +kernel
theorem dksX0_ofLine_1 : cX0_ofLine.data.toList.drop 24 = dktX0_ofLine_1 := dk_seg dksX0_ofLine_0 24 rfl rfl
theorem dksX0_ofLine_2 : cX0_ofLine.data.toList.drop 48 = dktX0_ofLine_2 := dk_seg dksX0_ofLine_1 24 rfl rfl
theorem dX0_ofLine_0 : decode cX0_ofLine 0 = .ok (.aload_n 0, 1) := dk_42 (dk_at dksX0_ofLine_0 0 rfl rfl)
theorem dX0_ofLine_1 : decode cX0_ofLine 1 = .ok (.iload_n 1, 1) := dk_27 (dk_at dksX0_ofLine_0 1 rfl rfl)
theorem dX0_ofLine_2 : decode cX0_ofLine 2 = .ok (.invokevirtual 254, 3) := dk_182 0 254 (dk_at dksX0_ofLine_0 2 rfl rfl)
theorem dX0_ofLine_5 : decode cX0_ofLine 5 = .ok (.ifCond .ne 5, 3) := dk_154 0 5 (dk_at dksX0_ofLine_0 5 rfl rfl)
theorem dX0_ofLine_8 : decode cX0_ofLine 8 = .ok (.iconst (-1), 1) := dk_2 (dk_at dksX0_ofLine_0 8 rfl rfl)
theorem dX0_ofLine_9 : decode cX0_ofLine 9 = .ok (.ireturn, 1) := dk_172 (dk_at dksX0_ofLine_0 9 rfl rfl)
theorem dX0_ofLine_10 : decode cX0_ofLine 10 = .ok (.iload_n 2, 1) := dk_28 (dk_at dksX0_ofLine_0 10 rfl rfl)
theorem dX0_ofLine_11 : decode cX0_ofLine 11 = .ok (.ifCond .ne 12, 3) := dk_154 0 12 (dk_at dksX0_ofLine_0 11 rfl rfl)
theorem dX0_ofLine_14 : decode cX0_ofLine 14 = .ok (.aload_n 0, 1) := dk_42 (dk_at dksX0_ofLine_0 14 rfl rfl)
theorem dX0_ofLine_15 : decode cX0_ofLine 15 = .ok (.getfield 22, 3) := dk_180 0 22 (dk_at dksX0_ofLine_0 15 rfl rfl)
theorem dX0_ofLine_18 : decode cX0_ofLine 18 = .ok (.iload_n 1, 1) := dk_27 (dk_at dksX0_ofLine_0 18 rfl rfl)
theorem dX0_ofLine_19 : decode cX0_ofLine 19 = .ok (.iaload, 1) := dk_46 (dk_at dksX0_ofLine_0 19 rfl rfl)
theorem dX0_ofLine_20 : decode cX0_ofLine 20 = .ok (.goto 33, 3) := dk_167 0 33 (dk_at dksX0_ofLine_0 20 rfl rfl)
theorem dX0_ofLine_23 : decode cX0_ofLine 23 = .ok (.iload_n 2, 1) := dk_28 (dk_at dksX0_ofLine_0 23 rfl rfl)
theorem dX0_ofLine_24 : decode cX0_ofLine 24 = .ok (.iconst 1, 1) := dk_4 (dk_at dksX0_ofLine_1 0 rfl rfl)
theorem dX0_ofLine_25 : decode cX0_ofLine 25 = .ok (.if_icmp .ne 12, 3) := dk_160 0 12 (dk_at dksX0_ofLine_1 1 rfl rfl)
theorem dX0_ofLine_28 : decode cX0_ofLine 28 = .ok (.aload_n 0, 1) := dk_42 (dk_at dksX0_ofLine_1 4 rfl rfl)
theorem dX0_ofLine_29 : decode cX0_ofLine 29 = .ok (.getfield 25, 3) := dk_180 0 25 (dk_at dksX0_ofLine_1 5 rfl rfl)
theorem dX0_ofLine_32 : decode cX0_ofLine 32 = .ok (.iload_n 1, 1) := dk_27 (dk_at dksX0_ofLine_1 8 rfl rfl)
theorem dX0_ofLine_33 : decode cX0_ofLine 33 = .ok (.iaload, 1) := dk_46 (dk_at dksX0_ofLine_1 9 rfl rfl)
theorem dX0_ofLine_34 : decode cX0_ofLine 34 = .ok (.goto 19, 3) := dk_167 0 19 (dk_at dksX0_ofLine_1 10 rfl rfl)
theorem dX0_ofLine_37 : decode cX0_ofLine 37 = .ok (.iload_n 2, 1) := dk_28 (dk_at dksX0_ofLine_1 13 rfl rfl)
theorem dX0_ofLine_38 : decode cX0_ofLine 38 = .ok (.iconst 2, 1) := dk_5 (dk_at dksX0_ofLine_1 14 rfl rfl)
theorem dX0_ofLine_39 : decode cX0_ofLine 39 = .ok (.if_icmp .ne 12, 3) := dk_160 0 12 (dk_at dksX0_ofLine_1 15 rfl rfl)
theorem dX0_ofLine_42 : decode cX0_ofLine 42 = .ok (.aload_n 0, 1) := dk_42 (dk_at dksX0_ofLine_1 18 rfl rfl)
theorem dX0_ofLine_43 : decode cX0_ofLine 43 = .ok (.getfield 28, 3) := dk_180 0 28 (dk_at dksX0_ofLine_1 19 rfl rfl)
theorem dX0_ofLine_46 : decode cX0_ofLine 46 = .ok (.iload_n 1, 1) := dk_27 (dk_at dksX0_ofLine_1 22 rfl rfl)
theorem dX0_ofLine_47 : decode cX0_ofLine 47 = .ok (.iaload, 1) := dk_46 (dk_at dksX0_ofLine_1 23 rfl rfl)
theorem dX0_ofLine_48 : decode cX0_ofLine 48 = .ok (.goto 5, 3) := dk_167 0 5 (dk_at dksX0_ofLine_2 0 rfl rfl)
theorem dX0_ofLine_51 : decode cX0_ofLine 51 = .ok (.bipush (-2), 2) := dk_16 254 (dk_at dksX0_ofLine_2 3 rfl rfl)
theorem dX0_ofLine_53 : decode cX0_ofLine 53 = .ok (.ireturn, 1) := dk_172 (dk_at dksX0_ofLine_2 5 rfl rfl)
abbrev cX0_isLine : ByteArray := prog_1_method_26_code
def yX0_isLine : MethodName := ⟨RX0, "isLine", "(I)Z"⟩
def dkwX0_isLine_0 : List UInt8 := [27, 133, 9, 42, 180, 0, 248, 133, 10, 101, 184, 0, 76, 172]
abbrev dktX0_isLine_0 : List UInt8 := dkwX0_isLine_0 ++ []
theorem dksX0_isLine_0 : cX0_isLine.data.toList.drop 0 = dktX0_isLine_0 := by decide +kernel
theorem dX0_isLine_0 : decode cX0_isLine 0 = .ok (.iload_n 1, 1) := dk_27 (dk_at dksX0_isLine_0 0 rfl rfl)
theorem dX0_isLine_1 : decode cX0_isLine 1 = .ok (.i2l, 1) := dk_133 (dk_at dksX0_isLine_0 1 rfl rfl)
theorem dX0_isLine_2 : decode cX0_isLine 2 = .ok (.lconst 0, 1) := dk_9 (dk_at dksX0_isLine_0 2 rfl rfl)
theorem dX0_isLine_3 : decode cX0_isLine 3 = .ok (.aload_n 0, 1) := dk_42 (dk_at dksX0_isLine_0 3 rfl rfl)
theorem dX0_isLine_4 : decode cX0_isLine 4 = .ok (.getfield 248, 3) := dk_180 0 248 (dk_at dksX0_isLine_0 4 rfl rfl)
theorem dX0_isLine_7 : decode cX0_isLine 7 = .ok (.i2l, 1) := dk_133 (dk_at dksX0_isLine_0 7 rfl rfl)
theorem dX0_isLine_8 : decode cX0_isLine 8 = .ok (.lconst 1, 1) := dk_10 (dk_at dksX0_isLine_0 8 rfl rfl)
theorem dX0_isLine_9 : decode cX0_isLine 9 = .ok (.lsub, 1) := dk_101 (dk_at dksX0_isLine_0 9 rfl rfl)
theorem dX0_isLine_10 : decode cX0_isLine 10 = .ok (.invokestatic 76, 3) := dk_184 0 76 (dk_at dksX0_isLine_0 10 rfl rfl)
theorem dX0_isLine_13 : decode cX0_isLine 13 = .ok (.ireturn, 1) := dk_172 (dk_at dksX0_isLine_0 13 rfl rfl)
abbrev cX0_hand : ByteArray := prog_1_method_28_code
def yX0_hand : MethodName := ⟨RX0, "hand", "(III)I"⟩
def dkwX0_hand_2 : List UInt8 := [181, 1, 11, 4, 172]
abbrev dktX0_hand_2 : List UInt8 := dkwX0_hand_2 ++ []
def dkwX0_hand_1 : List UInt8 := [20, 1, 3, 184, 0, 76, 154, 0, 6, 16, 254, 172, 42, 27, 181, 1, 5, 42, 28, 181, 1, 8, 42, 29]
abbrev dktX0_hand_1 : List UInt8 := dkwX0_hand_1 ++ dktX0_hand_2
def dkwX0_hand_0 : List UInt8 := [27, 133, 20, 1, 1, 20, 0, 74, 184, 0, 76, 153, 0, 22, 28, 184, 0, 212, 153, 0, 15, 29, 133, 9]
abbrev dktX0_hand_0 : List UInt8 := dkwX0_hand_0 ++ dktX0_hand_1
theorem dksX0_hand_0 : cX0_hand.data.toList.drop 0 = dktX0_hand_0 := by decide +kernel
theorem dksX0_hand_1 : cX0_hand.data.toList.drop 24 = dktX0_hand_1 := dk_seg dksX0_hand_0 24 rfl rfl
theorem dksX0_hand_2 : cX0_hand.data.toList.drop 48 = dktX0_hand_2 := dk_seg dksX0_hand_1 24 rfl rfl
theorem dX0_hand_0 : decode cX0_hand 0 = .ok (.iload_n 1, 1) := dk_27 (dk_at dksX0_hand_0 0 rfl rfl)
theorem dX0_hand_1 : decode cX0_hand 1 = .ok (.i2l, 1) := dk_133 (dk_at dksX0_hand_0 1 rfl rfl)
theorem dX0_hand_2 : decode cX0_hand 2 = .ok (.ldc2_w 257, 3) := dk_20 1 1 (dk_at dksX0_hand_0 2 rfl rfl)
theorem dX0_hand_5 : decode cX0_hand 5 = .ok (.ldc2_w 74, 3) := dk_20 0 74 (dk_at dksX0_hand_0 5 rfl rfl)
theorem dX0_hand_8 : decode cX0_hand 8 = .ok (.invokestatic 76, 3) := dk_184 0 76 (dk_at dksX0_hand_0 8 rfl rfl)
theorem dX0_hand_11 : decode cX0_hand 11 = .ok (.ifCond .eq 22, 3) := dk_153 0 22 (dk_at dksX0_hand_0 11 rfl rfl)
theorem dX0_hand_14 : decode cX0_hand 14 = .ok (.iload_n 2, 1) := dk_28 (dk_at dksX0_hand_0 14 rfl rfl)
theorem dX0_hand_15 : decode cX0_hand 15 = .ok (.invokestatic 212, 3) := dk_184 0 212 (dk_at dksX0_hand_0 15 rfl rfl)
theorem dX0_hand_18 : decode cX0_hand 18 = .ok (.ifCond .eq 15, 3) := dk_153 0 15 (dk_at dksX0_hand_0 18 rfl rfl)
theorem dX0_hand_21 : decode cX0_hand 21 = .ok (.iload_n 3, 1) := dk_29 (dk_at dksX0_hand_0 21 rfl rfl)
theorem dX0_hand_22 : decode cX0_hand 22 = .ok (.i2l, 1) := dk_133 (dk_at dksX0_hand_0 22 rfl rfl)
theorem dX0_hand_23 : decode cX0_hand 23 = .ok (.lconst 0, 1) := dk_9 (dk_at dksX0_hand_0 23 rfl rfl)
theorem dX0_hand_24 : decode cX0_hand 24 = .ok (.ldc2_w 259, 3) := dk_20 1 3 (dk_at dksX0_hand_1 0 rfl rfl)
theorem dX0_hand_27 : decode cX0_hand 27 = .ok (.invokestatic 76, 3) := dk_184 0 76 (dk_at dksX0_hand_1 3 rfl rfl)
theorem dX0_hand_30 : decode cX0_hand 30 = .ok (.ifCond .ne 6, 3) := dk_154 0 6 (dk_at dksX0_hand_1 6 rfl rfl)
theorem dX0_hand_33 : decode cX0_hand 33 = .ok (.bipush (-2), 2) := dk_16 254 (dk_at dksX0_hand_1 9 rfl rfl)
theorem dX0_hand_35 : decode cX0_hand 35 = .ok (.ireturn, 1) := dk_172 (dk_at dksX0_hand_1 11 rfl rfl)
theorem dX0_hand_36 : decode cX0_hand 36 = .ok (.aload_n 0, 1) := dk_42 (dk_at dksX0_hand_1 12 rfl rfl)
theorem dX0_hand_37 : decode cX0_hand 37 = .ok (.iload_n 1, 1) := dk_27 (dk_at dksX0_hand_1 13 rfl rfl)
theorem dX0_hand_38 : decode cX0_hand 38 = .ok (.putfield 261, 3) := dk_181 1 5 (dk_at dksX0_hand_1 14 rfl rfl)
theorem dX0_hand_41 : decode cX0_hand 41 = .ok (.aload_n 0, 1) := dk_42 (dk_at dksX0_hand_1 17 rfl rfl)
theorem dX0_hand_42 : decode cX0_hand 42 = .ok (.iload_n 2, 1) := dk_28 (dk_at dksX0_hand_1 18 rfl rfl)
theorem dX0_hand_43 : decode cX0_hand 43 = .ok (.putfield 264, 3) := dk_181 1 8 (dk_at dksX0_hand_1 19 rfl rfl)
theorem dX0_hand_46 : decode cX0_hand 46 = .ok (.aload_n 0, 1) := dk_42 (dk_at dksX0_hand_1 22 rfl rfl)
theorem dX0_hand_47 : decode cX0_hand 47 = .ok (.iload_n 3, 1) := dk_29 (dk_at dksX0_hand_1 23 rfl rfl)
theorem dX0_hand_48 : decode cX0_hand 48 = .ok (.putfield 267, 3) := dk_181 1 11 (dk_at dksX0_hand_2 0 rfl rfl)
theorem dX0_hand_51 : decode cX0_hand 51 = .ok (.iconst 1, 1) := dk_4 (dk_at dksX0_hand_2 3 rfl rfl)
theorem dX0_hand_52 : decode cX0_hand 52 = .ok (.ireturn, 1) := dk_172 (dk_at dksX0_hand_2 4 rfl rfl)
abbrev cX0_ofHand : ByteArray := prog_1_method_29_code
def yX0_ofHand : MethodName := ⟨RX0, "ofHand", "(I)I"⟩
def dkwX0_ofHand_1 : List UInt8 := [5, 160, 0, 10, 42, 180, 1, 11, 167, 0, 5, 16, 254, 172]
abbrev dktX0_ofHand_1 : List UInt8 := dkwX0_ofHand_1 ++ []
def dkwX0_ofHand_0 : List UInt8 := [27, 154, 0, 10, 42, 180, 1, 5, 167, 0, 29, 27, 4, 160, 0, 10, 42, 180, 1, 8, 167, 0, 17, 27]
abbrev dktX0_ofHand_0 : List UInt8 := dkwX0_ofHand_0 ++ dktX0_ofHand_1
theorem dksX0_ofHand_0 : cX0_ofHand.data.toList.drop 0 = dktX0_ofHand_0 := by decide +kernel
theorem dksX0_ofHand_1 : cX0_ofHand.data.toList.drop 24 = dktX0_ofHand_1 := dk_seg dksX0_ofHand_0 24 rfl rfl
theorem dX0_ofHand_0 : decode cX0_ofHand 0 = .ok (.iload_n 1, 1) := dk_27 (dk_at dksX0_ofHand_0 0 rfl rfl)
theorem dX0_ofHand_1 : decode cX0_ofHand 1 = .ok (.ifCond .ne 10, 3) := dk_154 0 10 (dk_at dksX0_ofHand_0 1 rfl rfl)
theorem dX0_ofHand_4 : decode cX0_ofHand 4 = .ok (.aload_n 0, 1) := dk_42 (dk_at dksX0_ofHand_0 4 rfl rfl)
theorem dX0_ofHand_5 : decode cX0_ofHand 5 = .ok (.getfield 261, 3) := dk_180 1 5 (dk_at dksX0_ofHand_0 5 rfl rfl)
theorem dX0_ofHand_8 : decode cX0_ofHand 8 = .ok (.goto 29, 3) := dk_167 0 29 (dk_at dksX0_ofHand_0 8 rfl rfl)
theorem dX0_ofHand_11 : decode cX0_ofHand 11 = .ok (.iload_n 1, 1) := dk_27 (dk_at dksX0_ofHand_0 11 rfl rfl)
theorem dX0_ofHand_12 : decode cX0_ofHand 12 = .ok (.iconst 1, 1) := dk_4 (dk_at dksX0_ofHand_0 12 rfl rfl)
theorem dX0_ofHand_13 : decode cX0_ofHand 13 = .ok (.if_icmp .ne 10, 3) := dk_160 0 10 (dk_at dksX0_ofHand_0 13 rfl rfl)
theorem dX0_ofHand_16 : decode cX0_ofHand 16 = .ok (.aload_n 0, 1) := dk_42 (dk_at dksX0_ofHand_0 16 rfl rfl)
theorem dX0_ofHand_17 : decode cX0_ofHand 17 = .ok (.getfield 264, 3) := dk_180 1 8 (dk_at dksX0_ofHand_0 17 rfl rfl)
theorem dX0_ofHand_20 : decode cX0_ofHand 20 = .ok (.goto 17, 3) := dk_167 0 17 (dk_at dksX0_ofHand_0 20 rfl rfl)
theorem dX0_ofHand_23 : decode cX0_ofHand 23 = .ok (.iload_n 1, 1) := dk_27 (dk_at dksX0_ofHand_0 23 rfl rfl)
theorem dX0_ofHand_24 : decode cX0_ofHand 24 = .ok (.iconst 2, 1) := dk_5 (dk_at dksX0_ofHand_1 0 rfl rfl)
theorem dX0_ofHand_25 : decode cX0_ofHand 25 = .ok (.if_icmp .ne 10, 3) := dk_160 0 10 (dk_at dksX0_ofHand_1 1 rfl rfl)
theorem dX0_ofHand_28 : decode cX0_ofHand 28 = .ok (.aload_n 0, 1) := dk_42 (dk_at dksX0_ofHand_1 4 rfl rfl)
theorem dX0_ofHand_29 : decode cX0_ofHand 29 = .ok (.getfield 267, 3) := dk_180 1 11 (dk_at dksX0_ofHand_1 5 rfl rfl)
theorem dX0_ofHand_32 : decode cX0_ofHand 32 = .ok (.goto 5, 3) := dk_167 0 5 (dk_at dksX0_ofHand_1 8 rfl rfl)
theorem dX0_ofHand_35 : decode cX0_ofHand 35 = .ok (.bipush (-2), 2) := dk_16 254 (dk_at dksX0_ofHand_1 11 rfl rfl)
theorem dX0_ofHand_37 : decode cX0_ofHand 37 = .ok (.ireturn, 1) := dk_172 (dk_at dksX0_ofHand_1 13 rfl rfl)
abbrev cX0_fence : ByteArray := prog_1_method_30_code
def yX0_fence : MethodName := ⟨RX0, "fence", "(I)I"⟩
def dkwX0_fence_1 : List UInt8 := [181, 1, 16, 28, 172]
abbrev dktX0_fence_1 : List UInt8 := dkwX0_fence_1 ++ []
def dkwX0_fence_0 : List UInt8 := [27, 133, 9, 20, 1, 14, 184, 0, 76, 154, 0, 6, 16, 254, 172, 42, 180, 1, 16, 61, 42, 27]
abbrev dktX0_fence_0 : List UInt8 := dkwX0_fence_0 ++ dktX0_fence_1
theorem dksX0_fence_0 : cX0_fence.data.toList.drop 0 = dktX0_fence_0 := by decide +kernel
theorem dksX0_fence_1 : cX0_fence.data.toList.drop 22 = dktX0_fence_1 := dk_seg dksX0_fence_0 22 rfl rfl
theorem dX0_fence_0 : decode cX0_fence 0 = .ok (.iload_n 1, 1) := dk_27 (dk_at dksX0_fence_0 0 rfl rfl)
theorem dX0_fence_1 : decode cX0_fence 1 = .ok (.i2l, 1) := dk_133 (dk_at dksX0_fence_0 1 rfl rfl)
theorem dX0_fence_2 : decode cX0_fence 2 = .ok (.lconst 0, 1) := dk_9 (dk_at dksX0_fence_0 2 rfl rfl)
theorem dX0_fence_3 : decode cX0_fence 3 = .ok (.ldc2_w 270, 3) := dk_20 1 14 (dk_at dksX0_fence_0 3 rfl rfl)
theorem dX0_fence_6 : decode cX0_fence 6 = .ok (.invokestatic 76, 3) := dk_184 0 76 (dk_at dksX0_fence_0 6 rfl rfl)
theorem dX0_fence_9 : decode cX0_fence 9 = .ok (.ifCond .ne 6, 3) := dk_154 0 6 (dk_at dksX0_fence_0 9 rfl rfl)
theorem dX0_fence_12 : decode cX0_fence 12 = .ok (.bipush (-2), 2) := dk_16 254 (dk_at dksX0_fence_0 12 rfl rfl)
theorem dX0_fence_14 : decode cX0_fence 14 = .ok (.ireturn, 1) := dk_172 (dk_at dksX0_fence_0 14 rfl rfl)
theorem dX0_fence_15 : decode cX0_fence 15 = .ok (.aload_n 0, 1) := dk_42 (dk_at dksX0_fence_0 15 rfl rfl)
theorem dX0_fence_16 : decode cX0_fence 16 = .ok (.getfield 272, 3) := dk_180 1 16 (dk_at dksX0_fence_0 16 rfl rfl)
theorem dX0_fence_19 : decode cX0_fence 19 = .ok (.istore_n 2, 1) := dk_61 (dk_at dksX0_fence_0 19 rfl rfl)
theorem dX0_fence_20 : decode cX0_fence 20 = .ok (.aload_n 0, 1) := dk_42 (dk_at dksX0_fence_0 20 rfl rfl)
theorem dX0_fence_21 : decode cX0_fence 21 = .ok (.iload_n 1, 1) := dk_27 (dk_at dksX0_fence_0 21 rfl rfl)
theorem dX0_fence_22 : decode cX0_fence 22 = .ok (.putfield 272, 3) := dk_181 1 16 (dk_at dksX0_fence_1 0 rfl rfl)
theorem dX0_fence_25 : decode cX0_fence 25 = .ok (.iload_n 2, 1) := dk_28 (dk_at dksX0_fence_1 3 rfl rfl)
theorem dX0_fence_26 : decode cX0_fence 26 = .ok (.ireturn, 1) := dk_172 (dk_at dksX0_fence_1 4 rfl rfl)
abbrev cX0_where : ByteArray := prog_1_method_35_code
def yX0_where : MethodName := ⟨RX0, "where", "(I)J"⟩
def dkwX0_where_0 : List UInt8 := [42, 27, 182, 1, 38, 153, 0, 13, 42, 180, 0, 31, 27, 46, 133, 167, 0, 6, 20, 0, 84, 173]
abbrev dktX0_where_0 : List UInt8 := dkwX0_where_0 ++ []
theorem dksX0_where_0 : cX0_where.data.toList.drop 0 = dktX0_where_0 := by decide +kernel
theorem dX0_where_0 : decode cX0_where 0 = .ok (.aload_n 0, 1) := dk_42 (dk_at dksX0_where_0 0 rfl rfl)
theorem dX0_where_1 : decode cX0_where 1 = .ok (.iload_n 1, 1) := dk_27 (dk_at dksX0_where_0 1 rfl rfl)
theorem dX0_where_2 : decode cX0_where 2 = .ok (.invokevirtual 294, 3) := dk_182 1 38 (dk_at dksX0_where_0 2 rfl rfl)
theorem dX0_where_5 : decode cX0_where 5 = .ok (.ifCond .eq 13, 3) := dk_153 0 13 (dk_at dksX0_where_0 5 rfl rfl)
theorem dX0_where_8 : decode cX0_where 8 = .ok (.aload_n 0, 1) := dk_42 (dk_at dksX0_where_0 8 rfl rfl)
theorem dX0_where_9 : decode cX0_where 9 = .ok (.getfield 31, 3) := dk_180 0 31 (dk_at dksX0_where_0 9 rfl rfl)
theorem dX0_where_12 : decode cX0_where 12 = .ok (.iload_n 1, 1) := dk_27 (dk_at dksX0_where_0 12 rfl rfl)
theorem dX0_where_13 : decode cX0_where 13 = .ok (.iaload, 1) := dk_46 (dk_at dksX0_where_0 13 rfl rfl)
theorem dX0_where_14 : decode cX0_where 14 = .ok (.i2l, 1) := dk_133 (dk_at dksX0_where_0 14 rfl rfl)
theorem dX0_where_15 : decode cX0_where 15 = .ok (.goto 6, 3) := dk_167 0 6 (dk_at dksX0_where_0 15 rfl rfl)
theorem dX0_where_18 : decode cX0_where 18 = .ok (.ldc2_w 84, 3) := dk_20 0 84 (dk_at dksX0_where_0 18 rfl rfl)
theorem dX0_where_21 : decode cX0_where 21 = .ok (.lreturn, 1) := dk_173 (dk_at dksX0_where_0 21 rfl rfl)
abbrev cX0_isCut : ByteArray := prog_1_method_34_code
def yX0_isCut : MethodName := ⟨RX0, "isCut", "(I)Z"⟩
def dkwX0_isCut_1 : List UInt8 := [180, 1, 25, 162, 0, 7, 4, 167, 0, 4, 3, 172]
abbrev dktX0_isCut_1 : List UInt8 := dkwX0_isCut_1 ++ []
def dkwX0_isCut_0 : List UInt8 := [42, 182, 1, 32, 153, 0, 11, 42, 27, 182, 0, 254, 154, 0, 5, 3, 172, 42, 182, 1, 35, 27, 42]
abbrev dktX0_isCut_0 : List UInt8 := dkwX0_isCut_0 ++ dktX0_isCut_1
theorem dksX0_isCut_0 : cX0_isCut.data.toList.drop 0 = dktX0_isCut_0 := by decide +kernel
theorem dksX0_isCut_1 : cX0_isCut.data.toList.drop 23 = dktX0_isCut_1 := dk_seg dksX0_isCut_0 23 rfl rfl
theorem dX0_isCut_0 : decode cX0_isCut 0 = .ok (.aload_n 0, 1) := dk_42 (dk_at dksX0_isCut_0 0 rfl rfl)
theorem dX0_isCut_1 : decode cX0_isCut 1 = .ok (.invokevirtual 288, 3) := dk_182 1 32 (dk_at dksX0_isCut_0 1 rfl rfl)
theorem dX0_isCut_4 : decode cX0_isCut 4 = .ok (.ifCond .eq 11, 3) := dk_153 0 11 (dk_at dksX0_isCut_0 4 rfl rfl)
theorem dX0_isCut_7 : decode cX0_isCut 7 = .ok (.aload_n 0, 1) := dk_42 (dk_at dksX0_isCut_0 7 rfl rfl)
theorem dX0_isCut_8 : decode cX0_isCut 8 = .ok (.iload_n 1, 1) := dk_27 (dk_at dksX0_isCut_0 8 rfl rfl)
theorem dX0_isCut_9 : decode cX0_isCut 9 = .ok (.invokevirtual 254, 3) := dk_182 0 254 (dk_at dksX0_isCut_0 9 rfl rfl)
theorem dX0_isCut_12 : decode cX0_isCut 12 = .ok (.ifCond .ne 5, 3) := dk_154 0 5 (dk_at dksX0_isCut_0 12 rfl rfl)
theorem dX0_isCut_15 : decode cX0_isCut 15 = .ok (.iconst 0, 1) := dk_3 (dk_at dksX0_isCut_0 15 rfl rfl)
theorem dX0_isCut_16 : decode cX0_isCut 16 = .ok (.ireturn, 1) := dk_172 (dk_at dksX0_isCut_0 16 rfl rfl)
theorem dX0_isCut_17 : decode cX0_isCut 17 = .ok (.aload_n 0, 1) := dk_42 (dk_at dksX0_isCut_0 17 rfl rfl)
theorem dX0_isCut_18 : decode cX0_isCut 18 = .ok (.invokevirtual 291, 3) := dk_182 1 35 (dk_at dksX0_isCut_0 18 rfl rfl)
theorem dX0_isCut_21 : decode cX0_isCut 21 = .ok (.iload_n 1, 1) := dk_27 (dk_at dksX0_isCut_0 21 rfl rfl)
theorem dX0_isCut_22 : decode cX0_isCut 22 = .ok (.aload_n 0, 1) := dk_42 (dk_at dksX0_isCut_0 22 rfl rfl)
theorem dX0_isCut_23 : decode cX0_isCut 23 = .ok (.getfield 281, 3) := dk_180 1 25 (dk_at dksX0_isCut_1 0 rfl rfl)
theorem dX0_isCut_26 : decode cX0_isCut 26 = .ok (.if_icmp .ge 7, 3) := dk_162 0 7 (dk_at dksX0_isCut_1 3 rfl rfl)
theorem dX0_isCut_29 : decode cX0_isCut 29 = .ok (.iconst 1, 1) := dk_4 (dk_at dksX0_isCut_1 6 rfl rfl)
theorem dX0_isCut_30 : decode cX0_isCut 30 = .ok (.goto 4, 3) := dk_167 0 4 (dk_at dksX0_isCut_1 7 rfl rfl)
theorem dX0_isCut_33 : decode cX0_isCut 33 = .ok (.iconst 0, 1) := dk_3 (dk_at dksX0_isCut_1 10 rfl rfl)
theorem dX0_isCut_34 : decode cX0_isCut 34 = .ok (.ireturn, 1) := dk_172 (dk_at dksX0_isCut_1 11 rfl rfl)
abbrev cX0_isAll : ByteArray := prog_1_method_31_code
def yX0_isAll : MethodName := ⟨RX0, "isAll", "()Z"⟩
def dkwX0_isAll_1 : List UInt8 := [172]
abbrev dktX0_isAll_1 : List UInt8 := dkwX0_isAll_1 ++ []
def dkwX0_isAll_0 : List UInt8 := [42, 180, 0, 12, 185, 0, 235, 1, 0, 154, 0, 14, 42, 180, 0, 248, 158, 0, 7, 4, 167, 0, 4, 3]
abbrev dktX0_isAll_0 : List UInt8 := dkwX0_isAll_0 ++ dktX0_isAll_1
theorem dksX0_isAll_0 : cX0_isAll.data.toList.drop 0 = dktX0_isAll_0 := by decide +kernel
theorem dksX0_isAll_1 : cX0_isAll.data.toList.drop 24 = dktX0_isAll_1 := dk_seg dksX0_isAll_0 24 rfl rfl
theorem dX0_isAll_0 : decode cX0_isAll 0 = .ok (.aload_n 0, 1) := dk_42 (dk_at dksX0_isAll_0 0 rfl rfl)
theorem dX0_isAll_1 : decode cX0_isAll 1 = .ok (.getfield 12, 3) := dk_180 0 12 (dk_at dksX0_isAll_0 1 rfl rfl)
theorem dX0_isAll_4 : decode cX0_isAll 4 = .ok (.invokeinterface 235 1, 5) := by decide +kernel
theorem dX0_isAll_9 : decode cX0_isAll 9 = .ok (.ifCond .ne 14, 3) := dk_154 0 14 (dk_at dksX0_isAll_0 9 rfl rfl)
theorem dX0_isAll_12 : decode cX0_isAll 12 = .ok (.aload_n 0, 1) := dk_42 (dk_at dksX0_isAll_0 12 rfl rfl)
theorem dX0_isAll_13 : decode cX0_isAll 13 = .ok (.getfield 248, 3) := dk_180 0 248 (dk_at dksX0_isAll_0 13 rfl rfl)
theorem dX0_isAll_16 : decode cX0_isAll 16 = .ok (.ifCond .le 7, 3) := dk_158 0 7 (dk_at dksX0_isAll_0 16 rfl rfl)
theorem dX0_isAll_19 : decode cX0_isAll 19 = .ok (.iconst 1, 1) := dk_4 (dk_at dksX0_isAll_0 19 rfl rfl)
theorem dX0_isAll_20 : decode cX0_isAll 20 = .ok (.goto 4, 3) := dk_167 0 4 (dk_at dksX0_isAll_0 20 rfl rfl)
theorem dX0_isAll_23 : decode cX0_isAll 23 = .ok (.iconst 0, 1) := dk_3 (dk_at dksX0_isAll_0 23 rfl rfl)
theorem dX0_isAll_24 : decode cX0_isAll 24 = .ok (.ireturn, 1) := dk_172 (dk_at dksX0_isAll_1 0 rfl rfl)
abbrev cX0_cut : ByteArray := prog_1_method_33_code
def yX0_cut : MethodName := ⟨RX0, "cut", "()V"⟩
def dkwX0_cut_2 : List UInt8 := [42, 180, 1, 25, 27, 182, 1, 28, 42, 89, 180, 1, 25, 4, 96, 181, 1, 25, 167, 255, 213, 177]
abbrev dktX0_cut_2 : List UInt8 := dkwX0_cut_2 ++ []
def dkwX0_cut_1 : List UInt8 := [180, 1, 25, 42, 180, 0, 248, 162, 0, 38, 42, 180, 0, 28, 42, 180, 1, 25, 46, 28, 163, 0, 25, 42]
abbrev dktX0_cut_1 : List UInt8 := dkwX0_cut_1 ++ dktX0_cut_2
def dkwX0_cut_0 : List UInt8 := [42, 3, 181, 1, 25, 42, 3, 181, 1, 22, 42, 4, 182, 0, 241, 60, 42, 182, 0, 238, 61, 42]
abbrev dktX0_cut_0 : List UInt8 := dkwX0_cut_0 ++ dktX0_cut_1
theorem dksX0_cut_0 : cX0_cut.data.toList.drop 0 = dktX0_cut_0 := by decide +kernel
theorem dksX0_cut_1 : cX0_cut.data.toList.drop 22 = dktX0_cut_1 := dk_seg dksX0_cut_0 22 rfl rfl
theorem dksX0_cut_2 : cX0_cut.data.toList.drop 46 = dktX0_cut_2 := dk_seg dksX0_cut_1 24 rfl rfl
theorem dX0_cut_0 : decode cX0_cut 0 = .ok (.aload_n 0, 1) := dk_42 (dk_at dksX0_cut_0 0 rfl rfl)
theorem dX0_cut_1 : decode cX0_cut 1 = .ok (.iconst 0, 1) := dk_3 (dk_at dksX0_cut_0 1 rfl rfl)
theorem dX0_cut_2 : decode cX0_cut 2 = .ok (.putfield 281, 3) := dk_181 1 25 (dk_at dksX0_cut_0 2 rfl rfl)
theorem dX0_cut_5 : decode cX0_cut 5 = .ok (.aload_n 0, 1) := dk_42 (dk_at dksX0_cut_0 5 rfl rfl)
theorem dX0_cut_6 : decode cX0_cut 6 = .ok (.iconst 0, 1) := dk_3 (dk_at dksX0_cut_0 6 rfl rfl)
theorem dX0_cut_7 : decode cX0_cut 7 = .ok (.putfield 278, 3) := dk_181 1 22 (dk_at dksX0_cut_0 7 rfl rfl)
theorem dX0_cut_10 : decode cX0_cut 10 = .ok (.aload_n 0, 1) := dk_42 (dk_at dksX0_cut_0 10 rfl rfl)
theorem dX0_cut_11 : decode cX0_cut 11 = .ok (.iconst 1, 1) := dk_4 (dk_at dksX0_cut_0 11 rfl rfl)
theorem dX0_cut_12 : decode cX0_cut 12 = .ok (.invokevirtual 241, 3) := dk_182 0 241 (dk_at dksX0_cut_0 12 rfl rfl)
theorem dX0_cut_15 : decode cX0_cut 15 = .ok (.istore_n 1, 1) := dk_60 (dk_at dksX0_cut_0 15 rfl rfl)
theorem dX0_cut_16 : decode cX0_cut 16 = .ok (.aload_n 0, 1) := dk_42 (dk_at dksX0_cut_0 16 rfl rfl)
theorem dX0_cut_17 : decode cX0_cut 17 = .ok (.invokevirtual 238, 3) := dk_182 0 238 (dk_at dksX0_cut_0 17 rfl rfl)
theorem dX0_cut_20 : decode cX0_cut 20 = .ok (.istore_n 2, 1) := dk_61 (dk_at dksX0_cut_0 20 rfl rfl)
theorem dX0_cut_21 : decode cX0_cut 21 = .ok (.aload_n 0, 1) := dk_42 (dk_at dksX0_cut_0 21 rfl rfl)
theorem dX0_cut_22 : decode cX0_cut 22 = .ok (.getfield 281, 3) := dk_180 1 25 (dk_at dksX0_cut_1 0 rfl rfl)
theorem dX0_cut_25 : decode cX0_cut 25 = .ok (.aload_n 0, 1) := dk_42 (dk_at dksX0_cut_1 3 rfl rfl)
theorem dX0_cut_26 : decode cX0_cut 26 = .ok (.getfield 248, 3) := dk_180 0 248 (dk_at dksX0_cut_1 4 rfl rfl)
theorem dX0_cut_29 : decode cX0_cut 29 = .ok (.if_icmp .ge 38, 3) := dk_162 0 38 (dk_at dksX0_cut_1 7 rfl rfl)
theorem dX0_cut_32 : decode cX0_cut 32 = .ok (.aload_n 0, 1) := dk_42 (dk_at dksX0_cut_1 10 rfl rfl)
theorem dX0_cut_33 : decode cX0_cut 33 = .ok (.getfield 28, 3) := dk_180 0 28 (dk_at dksX0_cut_1 11 rfl rfl)
theorem dX0_cut_36 : decode cX0_cut 36 = .ok (.aload_n 0, 1) := dk_42 (dk_at dksX0_cut_1 14 rfl rfl)
theorem dX0_cut_37 : decode cX0_cut 37 = .ok (.getfield 281, 3) := dk_180 1 25 (dk_at dksX0_cut_1 15 rfl rfl)
theorem dX0_cut_40 : decode cX0_cut 40 = .ok (.iaload, 1) := dk_46 (dk_at dksX0_cut_1 18 rfl rfl)
theorem dX0_cut_41 : decode cX0_cut 41 = .ok (.iload_n 2, 1) := dk_28 (dk_at dksX0_cut_1 19 rfl rfl)
theorem dX0_cut_42 : decode cX0_cut 42 = .ok (.if_icmp .gt 25, 3) := dk_163 0 25 (dk_at dksX0_cut_1 20 rfl rfl)
theorem dX0_cut_45 : decode cX0_cut 45 = .ok (.aload_n 0, 1) := dk_42 (dk_at dksX0_cut_1 23 rfl rfl)
theorem dX0_cut_46 : decode cX0_cut 46 = .ok (.aload_n 0, 1) := dk_42 (dk_at dksX0_cut_2 0 rfl rfl)
theorem dX0_cut_47 : decode cX0_cut 47 = .ok (.getfield 281, 3) := dk_180 1 25 (dk_at dksX0_cut_2 1 rfl rfl)
theorem dX0_cut_50 : decode cX0_cut 50 = .ok (.iload_n 1, 1) := dk_27 (dk_at dksX0_cut_2 4 rfl rfl)
theorem dX0_cut_51 : decode cX0_cut 51 = .ok (.invokevirtual 284, 3) := dk_182 1 28 (dk_at dksX0_cut_2 5 rfl rfl)
theorem dX0_cut_54 : decode cX0_cut 54 = .ok (.aload_n 0, 1) := dk_42 (dk_at dksX0_cut_2 8 rfl rfl)
theorem dX0_cut_55 : decode cX0_cut 55 = .ok (.dup, 1) := dk_89 (dk_at dksX0_cut_2 9 rfl rfl)
theorem dX0_cut_56 : decode cX0_cut 56 = .ok (.getfield 281, 3) := dk_180 1 25 (dk_at dksX0_cut_2 10 rfl rfl)
theorem dX0_cut_59 : decode cX0_cut 59 = .ok (.iconst 1, 1) := dk_4 (dk_at dksX0_cut_2 13 rfl rfl)
theorem dX0_cut_60 : decode cX0_cut 60 = .ok (.iadd, 1) := dk_96 (dk_at dksX0_cut_2 14 rfl rfl)
theorem dX0_cut_61 : decode cX0_cut 61 = .ok (.putfield 281, 3) := dk_181 1 25 (dk_at dksX0_cut_2 15 rfl rfl)
theorem dX0_cut_64 : decode cX0_cut 64 = .ok (.goto (-43), 3) := dk_167 255 213 (dk_at dksX0_cut_2 18 rfl rfl)
theorem dX0_cut_67 : decode cX0_cut 67 = .ok (.return_, 1) := dk_177 (dk_at dksX0_cut_2 21 rfl rfl)
abbrev cX0_goLine : ByteArray := prog_1_method_32_code
def yX0_goLine : MethodName := ⟨RX0, "goLine", "(II)V"⟩
def dkwX0_goLine_8 : List UInt8 := [42, 180, 1, 22, 42, 180, 0, 31, 27, 46, 184, 1, 19, 184, 0, 232, 181, 1, 22, 177]
abbrev dktX0_goLine_8 : List UInt8 := dkwX0_goLine_8 ++ []
def dkwX0_goLine_7 : List UInt8 := [167, 0, 5, 21, 7, 79, 42, 180, 0, 34, 27, 21, 8, 153, 0, 7, 3, 167, 0, 5, 21, 6, 79, 42]
abbrev dktX0_goLine_7 : List UInt8 := dkwX0_goLine_7 ++ dktX0_goLine_8
def dkwX0_goLine_6 : List UInt8 := [21, 8, 153, 0, 23, 21, 7, 158, 0, 10, 42, 180, 1, 16, 167, 0, 13, 42, 180, 1, 16, 116]
abbrev dktX0_goLine_6 : List UInt8 := dkwX0_goLine_6 ++ dktX0_goLine_7
def dkwX0_goLine_5 : List UInt8 := [21, 7, 184, 1, 19, 42, 180, 1, 16, 164, 0, 7, 4, 167, 0, 4, 3, 54, 8, 42, 180, 0, 31, 27]
abbrev dktX0_goLine_5 : List UInt8 := dkwX0_goLine_5 ++ dktX0_goLine_6
def dkwX0_goLine_4 : List UInt8 := [3, 167, 0, 11, 42, 180, 0, 31, 27, 4, 100, 46, 21, 6, 96, 54, 7, 42, 180, 1, 16, 158, 0, 19]
abbrev dktX0_goLine_4 : List UInt8 := dkwX0_goLine_4 ++ dktX0_goLine_5
def dkwX0_goLine_3 : List UInt8 := [46, 54, 5, 16, 157, 16, 99, 21, 5, 21, 4, 96, 184, 0, 226, 184, 0, 232, 54, 6, 27, 154, 0, 7]
abbrev dktX0_goLine_3 : List UInt8 := dkwX0_goLine_3 ++ dktX0_goLine_4
def dkwX0_goLine_2 : List UInt8 := [29, 46, 104, 16, 8, 108, 100, 54, 4, 27, 154, 0, 7, 3, 167, 0, 11, 42, 180, 0, 34, 27, 4, 100]
abbrev dktX0_goLine_2 : List UInt8 := dkwX0_goLine_2 ++ dktX0_goLine_3
def dkwX0_goLine_1 : List UInt8 := [27, 46, 96, 42, 180, 1, 5, 96, 29, 156, 0, 7, 3, 167, 0, 17, 42, 180, 1, 8, 42, 180, 0, 31]
abbrev dktX0_goLine_1 : List UInt8 := dkwX0_goLine_1 ++ dktX0_goLine_2
def dkwX0_goLine_0 : List UInt8 := [27, 4, 100, 42, 180, 1, 11, 100, 62, 28, 16, 10, 42, 180, 0, 22, 27, 46, 104, 108, 42, 180, 0, 25]
abbrev dktX0_goLine_0 : List UInt8 := dkwX0_goLine_0 ++ dktX0_goLine_1
theorem dksX0_goLine_0 : cX0_goLine.data.toList.drop 0 = dktX0_goLine_0 := by decide +kernel
theorem dksX0_goLine_1 : cX0_goLine.data.toList.drop 24 = dktX0_goLine_1 := dk_seg dksX0_goLine_0 24 rfl rfl
theorem dksX0_goLine_2 : cX0_goLine.data.toList.drop 48 = dktX0_goLine_2 := dk_seg dksX0_goLine_1 24 rfl rfl
theorem dksX0_goLine_3 : cX0_goLine.data.toList.drop 72 = dktX0_goLine_3 := dk_seg dksX0_goLine_2 24 rfl rfl
theorem dksX0_goLine_4 : cX0_goLine.data.toList.drop 96 = dktX0_goLine_4 := dk_seg dksX0_goLine_3 24 rfl rfl
theorem dksX0_goLine_5 : cX0_goLine.data.toList.drop 120 = dktX0_goLine_5 := dk_seg dksX0_goLine_4 24 rfl rfl
theorem dksX0_goLine_6 : cX0_goLine.data.toList.drop 144 = dktX0_goLine_6 := dk_seg dksX0_goLine_5 24 rfl rfl
theorem dksX0_goLine_7 : cX0_goLine.data.toList.drop 166 = dktX0_goLine_7 := dk_seg dksX0_goLine_6 22 rfl rfl
theorem dksX0_goLine_8 : cX0_goLine.data.toList.drop 190 = dktX0_goLine_8 := dk_seg dksX0_goLine_7 24 rfl rfl
theorem dX0_goLine_0 : decode cX0_goLine 0 = .ok (.iload_n 1, 1) := dk_27 (dk_at dksX0_goLine_0 0 rfl rfl)
theorem dX0_goLine_1 : decode cX0_goLine 1 = .ok (.iconst 1, 1) := dk_4 (dk_at dksX0_goLine_0 1 rfl rfl)
theorem dX0_goLine_2 : decode cX0_goLine 2 = .ok (.isub, 1) := dk_100 (dk_at dksX0_goLine_0 2 rfl rfl)
theorem dX0_goLine_3 : decode cX0_goLine 3 = .ok (.aload_n 0, 1) := dk_42 (dk_at dksX0_goLine_0 3 rfl rfl)
theorem dX0_goLine_4 : decode cX0_goLine 4 = .ok (.getfield 267, 3) := dk_180 1 11 (dk_at dksX0_goLine_0 4 rfl rfl)
theorem dX0_goLine_7 : decode cX0_goLine 7 = .ok (.isub, 1) := dk_100 (dk_at dksX0_goLine_0 7 rfl rfl)
theorem dX0_goLine_8 : decode cX0_goLine 8 = .ok (.istore_n 3, 1) := dk_62 (dk_at dksX0_goLine_0 8 rfl rfl)
theorem dX0_goLine_9 : decode cX0_goLine 9 = .ok (.iload_n 2, 1) := dk_28 (dk_at dksX0_goLine_0 9 rfl rfl)
theorem dX0_goLine_10 : decode cX0_goLine 10 = .ok (.bipush 10, 2) := dk_16 10 (dk_at dksX0_goLine_0 10 rfl rfl)
theorem dX0_goLine_12 : decode cX0_goLine 12 = .ok (.aload_n 0, 1) := dk_42 (dk_at dksX0_goLine_0 12 rfl rfl)
theorem dX0_goLine_13 : decode cX0_goLine 13 = .ok (.getfield 22, 3) := dk_180 0 22 (dk_at dksX0_goLine_0 13 rfl rfl)
theorem dX0_goLine_16 : decode cX0_goLine 16 = .ok (.iload_n 1, 1) := dk_27 (dk_at dksX0_goLine_0 16 rfl rfl)
theorem dX0_goLine_17 : decode cX0_goLine 17 = .ok (.iaload, 1) := dk_46 (dk_at dksX0_goLine_0 17 rfl rfl)
theorem dX0_goLine_18 : decode cX0_goLine 18 = .ok (.imul, 1) := dk_104 (dk_at dksX0_goLine_0 18 rfl rfl)
theorem dX0_goLine_19 : decode cX0_goLine 19 = .ok (.idiv, 1) := dk_108 (dk_at dksX0_goLine_0 19 rfl rfl)
theorem dX0_goLine_20 : decode cX0_goLine 20 = .ok (.aload_n 0, 1) := dk_42 (dk_at dksX0_goLine_0 20 rfl rfl)
theorem dX0_goLine_21 : decode cX0_goLine 21 = .ok (.getfield 25, 3) := dk_180 0 25 (dk_at dksX0_goLine_0 21 rfl rfl)
theorem dX0_goLine_24 : decode cX0_goLine 24 = .ok (.iload_n 1, 1) := dk_27 (dk_at dksX0_goLine_1 0 rfl rfl)
theorem dX0_goLine_25 : decode cX0_goLine 25 = .ok (.iaload, 1) := dk_46 (dk_at dksX0_goLine_1 1 rfl rfl)
theorem dX0_goLine_26 : decode cX0_goLine 26 = .ok (.iadd, 1) := dk_96 (dk_at dksX0_goLine_1 2 rfl rfl)
theorem dX0_goLine_27 : decode cX0_goLine 27 = .ok (.aload_n 0, 1) := dk_42 (dk_at dksX0_goLine_1 3 rfl rfl)
theorem dX0_goLine_28 : decode cX0_goLine 28 = .ok (.getfield 261, 3) := dk_180 1 5 (dk_at dksX0_goLine_1 4 rfl rfl)
theorem dX0_goLine_31 : decode cX0_goLine 31 = .ok (.iadd, 1) := dk_96 (dk_at dksX0_goLine_1 7 rfl rfl)
theorem dX0_goLine_32 : decode cX0_goLine 32 = .ok (.iload_n 3, 1) := dk_29 (dk_at dksX0_goLine_1 8 rfl rfl)
theorem dX0_goLine_33 : decode cX0_goLine 33 = .ok (.ifCond .ge 7, 3) := dk_156 0 7 (dk_at dksX0_goLine_1 9 rfl rfl)
theorem dX0_goLine_36 : decode cX0_goLine 36 = .ok (.iconst 0, 1) := dk_3 (dk_at dksX0_goLine_1 12 rfl rfl)
theorem dX0_goLine_37 : decode cX0_goLine 37 = .ok (.goto 17, 3) := dk_167 0 17 (dk_at dksX0_goLine_1 13 rfl rfl)
theorem dX0_goLine_40 : decode cX0_goLine 40 = .ok (.aload_n 0, 1) := dk_42 (dk_at dksX0_goLine_1 16 rfl rfl)
theorem dX0_goLine_41 : decode cX0_goLine 41 = .ok (.getfield 264, 3) := dk_180 1 8 (dk_at dksX0_goLine_1 17 rfl rfl)
theorem dX0_goLine_44 : decode cX0_goLine 44 = .ok (.aload_n 0, 1) := dk_42 (dk_at dksX0_goLine_1 20 rfl rfl)
theorem dX0_goLine_45 : decode cX0_goLine 45 = .ok (.getfield 31, 3) := dk_180 0 31 (dk_at dksX0_goLine_1 21 rfl rfl)
theorem dX0_goLine_48 : decode cX0_goLine 48 = .ok (.iload_n 3, 1) := dk_29 (dk_at dksX0_goLine_2 0 rfl rfl)
theorem dX0_goLine_49 : decode cX0_goLine 49 = .ok (.iaload, 1) := dk_46 (dk_at dksX0_goLine_2 1 rfl rfl)
theorem dX0_goLine_50 : decode cX0_goLine 50 = .ok (.imul, 1) := dk_104 (dk_at dksX0_goLine_2 2 rfl rfl)
theorem dX0_goLine_51 : decode cX0_goLine 51 = .ok (.bipush 8, 2) := dk_16 8 (dk_at dksX0_goLine_2 3 rfl rfl)
theorem dX0_goLine_53 : decode cX0_goLine 53 = .ok (.idiv, 1) := dk_108 (dk_at dksX0_goLine_2 5 rfl rfl)
theorem dX0_goLine_54 : decode cX0_goLine 54 = .ok (.isub, 1) := dk_100 (dk_at dksX0_goLine_2 6 rfl rfl)
theorem dX0_goLine_55 : decode cX0_goLine 55 = .ok (.istore 4, 2) := dk_54 4 (dk_at dksX0_goLine_2 7 rfl rfl)
theorem dX0_goLine_57 : decode cX0_goLine 57 = .ok (.iload_n 1, 1) := dk_27 (dk_at dksX0_goLine_2 9 rfl rfl)
theorem dX0_goLine_58 : decode cX0_goLine 58 = .ok (.ifCond .ne 7, 3) := dk_154 0 7 (dk_at dksX0_goLine_2 10 rfl rfl)
theorem dX0_goLine_61 : decode cX0_goLine 61 = .ok (.iconst 0, 1) := dk_3 (dk_at dksX0_goLine_2 13 rfl rfl)
theorem dX0_goLine_62 : decode cX0_goLine 62 = .ok (.goto 11, 3) := dk_167 0 11 (dk_at dksX0_goLine_2 14 rfl rfl)
theorem dX0_goLine_65 : decode cX0_goLine 65 = .ok (.aload_n 0, 1) := dk_42 (dk_at dksX0_goLine_2 17 rfl rfl)
theorem dX0_goLine_66 : decode cX0_goLine 66 = .ok (.getfield 34, 3) := dk_180 0 34 (dk_at dksX0_goLine_2 18 rfl rfl)
theorem dX0_goLine_69 : decode cX0_goLine 69 = .ok (.iload_n 1, 1) := dk_27 (dk_at dksX0_goLine_2 21 rfl rfl)
theorem dX0_goLine_70 : decode cX0_goLine 70 = .ok (.iconst 1, 1) := dk_4 (dk_at dksX0_goLine_2 22 rfl rfl)
theorem dX0_goLine_71 : decode cX0_goLine 71 = .ok (.isub, 1) := dk_100 (dk_at dksX0_goLine_2 23 rfl rfl)
theorem dX0_goLine_72 : decode cX0_goLine 72 = .ok (.iaload, 1) := dk_46 (dk_at dksX0_goLine_3 0 rfl rfl)
theorem dX0_goLine_73 : decode cX0_goLine 73 = .ok (.istore 5, 2) := dk_54 5 (dk_at dksX0_goLine_3 1 rfl rfl)
theorem dX0_goLine_75 : decode cX0_goLine 75 = .ok (.bipush (-99), 2) := dk_16 157 (dk_at dksX0_goLine_3 3 rfl rfl)
theorem dX0_goLine_77 : decode cX0_goLine 77 = .ok (.bipush 99, 2) := dk_16 99 (dk_at dksX0_goLine_3 5 rfl rfl)
theorem dX0_goLine_79 : decode cX0_goLine 79 = .ok (.iload 5, 2) := dk_21 5 (dk_at dksX0_goLine_3 7 rfl rfl)
theorem dX0_goLine_81 : decode cX0_goLine 81 = .ok (.iload 4, 2) := dk_21 4 (dk_at dksX0_goLine_3 9 rfl rfl)
theorem dX0_goLine_83 : decode cX0_goLine 83 = .ok (.iadd, 1) := dk_96 (dk_at dksX0_goLine_3 11 rfl rfl)
theorem dX0_goLine_84 : decode cX0_goLine 84 = .ok (.invokestatic 226, 3) := dk_184 0 226 (dk_at dksX0_goLine_3 12 rfl rfl)
theorem dX0_goLine_87 : decode cX0_goLine 87 = .ok (.invokestatic 232, 3) := dk_184 0 232 (dk_at dksX0_goLine_3 15 rfl rfl)
theorem dX0_goLine_90 : decode cX0_goLine 90 = .ok (.istore 6, 2) := dk_54 6 (dk_at dksX0_goLine_3 18 rfl rfl)
theorem dX0_goLine_92 : decode cX0_goLine 92 = .ok (.iload_n 1, 1) := dk_27 (dk_at dksX0_goLine_3 20 rfl rfl)
theorem dX0_goLine_93 : decode cX0_goLine 93 = .ok (.ifCond .ne 7, 3) := dk_154 0 7 (dk_at dksX0_goLine_3 21 rfl rfl)
theorem dX0_goLine_96 : decode cX0_goLine 96 = .ok (.iconst 0, 1) := dk_3 (dk_at dksX0_goLine_4 0 rfl rfl)
theorem dX0_goLine_97 : decode cX0_goLine 97 = .ok (.goto 11, 3) := dk_167 0 11 (dk_at dksX0_goLine_4 1 rfl rfl)
theorem dX0_goLine_100 : decode cX0_goLine 100 = .ok (.aload_n 0, 1) := dk_42 (dk_at dksX0_goLine_4 4 rfl rfl)
theorem dX0_goLine_101 : decode cX0_goLine 101 = .ok (.getfield 31, 3) := dk_180 0 31 (dk_at dksX0_goLine_4 5 rfl rfl)
theorem dX0_goLine_104 : decode cX0_goLine 104 = .ok (.iload_n 1, 1) := dk_27 (dk_at dksX0_goLine_4 8 rfl rfl)
theorem dX0_goLine_105 : decode cX0_goLine 105 = .ok (.iconst 1, 1) := dk_4 (dk_at dksX0_goLine_4 9 rfl rfl)
theorem dX0_goLine_106 : decode cX0_goLine 106 = .ok (.isub, 1) := dk_100 (dk_at dksX0_goLine_4 10 rfl rfl)
theorem dX0_goLine_107 : decode cX0_goLine 107 = .ok (.iaload, 1) := dk_46 (dk_at dksX0_goLine_4 11 rfl rfl)
theorem dX0_goLine_108 : decode cX0_goLine 108 = .ok (.iload 6, 2) := dk_21 6 (dk_at dksX0_goLine_4 12 rfl rfl)
theorem dX0_goLine_110 : decode cX0_goLine 110 = .ok (.iadd, 1) := dk_96 (dk_at dksX0_goLine_4 14 rfl rfl)
theorem dX0_goLine_111 : decode cX0_goLine 111 = .ok (.istore 7, 2) := dk_54 7 (dk_at dksX0_goLine_4 15 rfl rfl)
theorem dX0_goLine_113 : decode cX0_goLine 113 = .ok (.aload_n 0, 1) := dk_42 (dk_at dksX0_goLine_4 17 rfl rfl)
theorem dX0_goLine_114 : decode cX0_goLine 114 = .ok (.getfield 272, 3) := dk_180 1 16 (dk_at dksX0_goLine_4 18 rfl rfl)
theorem dX0_goLine_117 : decode cX0_goLine 117 = .ok (.ifCond .le 19, 3) := dk_158 0 19 (dk_at dksX0_goLine_4 21 rfl rfl)
theorem dX0_goLine_120 : decode cX0_goLine 120 = .ok (.iload 7, 2) := dk_21 7 (dk_at dksX0_goLine_5 0 rfl rfl)
theorem dX0_goLine_122 : decode cX0_goLine 122 = .ok (.invokestatic 275, 3) := dk_184 1 19 (dk_at dksX0_goLine_5 2 rfl rfl)
theorem dX0_goLine_125 : decode cX0_goLine 125 = .ok (.aload_n 0, 1) := dk_42 (dk_at dksX0_goLine_5 5 rfl rfl)
theorem dX0_goLine_126 : decode cX0_goLine 126 = .ok (.getfield 272, 3) := dk_180 1 16 (dk_at dksX0_goLine_5 6 rfl rfl)
theorem dX0_goLine_129 : decode cX0_goLine 129 = .ok (.if_icmp .le 7, 3) := dk_164 0 7 (dk_at dksX0_goLine_5 9 rfl rfl)
theorem dX0_goLine_132 : decode cX0_goLine 132 = .ok (.iconst 1, 1) := dk_4 (dk_at dksX0_goLine_5 12 rfl rfl)
theorem dX0_goLine_133 : decode cX0_goLine 133 = .ok (.goto 4, 3) := dk_167 0 4 (dk_at dksX0_goLine_5 13 rfl rfl)
theorem dX0_goLine_136 : decode cX0_goLine 136 = .ok (.iconst 0, 1) := dk_3 (dk_at dksX0_goLine_5 16 rfl rfl)
theorem dX0_goLine_137 : decode cX0_goLine 137 = .ok (.istore 8, 2) := dk_54 8 (dk_at dksX0_goLine_5 17 rfl rfl)
theorem dX0_goLine_139 : decode cX0_goLine 139 = .ok (.aload_n 0, 1) := dk_42 (dk_at dksX0_goLine_5 19 rfl rfl)
theorem dX0_goLine_140 : decode cX0_goLine 140 = .ok (.getfield 31, 3) := dk_180 0 31 (dk_at dksX0_goLine_5 20 rfl rfl)
theorem dX0_goLine_143 : decode cX0_goLine 143 = .ok (.iload_n 1, 1) := dk_27 (dk_at dksX0_goLine_5 23 rfl rfl)
theorem dX0_goLine_144 : decode cX0_goLine 144 = .ok (.iload 8, 2) := dk_21 8 (dk_at dksX0_goLine_6 0 rfl rfl)
theorem dX0_goLine_146 : decode cX0_goLine 146 = .ok (.ifCond .eq 23, 3) := dk_153 0 23 (dk_at dksX0_goLine_6 2 rfl rfl)
theorem dX0_goLine_149 : decode cX0_goLine 149 = .ok (.iload 7, 2) := dk_21 7 (dk_at dksX0_goLine_6 5 rfl rfl)
theorem dX0_goLine_151 : decode cX0_goLine 151 = .ok (.ifCond .le 10, 3) := dk_158 0 10 (dk_at dksX0_goLine_6 7 rfl rfl)
theorem dX0_goLine_154 : decode cX0_goLine 154 = .ok (.aload_n 0, 1) := dk_42 (dk_at dksX0_goLine_6 10 rfl rfl)
theorem dX0_goLine_155 : decode cX0_goLine 155 = .ok (.getfield 272, 3) := dk_180 1 16 (dk_at dksX0_goLine_6 11 rfl rfl)
theorem dX0_goLine_158 : decode cX0_goLine 158 = .ok (.goto 13, 3) := dk_167 0 13 (dk_at dksX0_goLine_6 14 rfl rfl)
theorem dX0_goLine_161 : decode cX0_goLine 161 = .ok (.aload_n 0, 1) := dk_42 (dk_at dksX0_goLine_6 17 rfl rfl)
theorem dX0_goLine_162 : decode cX0_goLine 162 = .ok (.getfield 272, 3) := dk_180 1 16 (dk_at dksX0_goLine_6 18 rfl rfl)
theorem dX0_goLine_165 : decode cX0_goLine 165 = .ok (.ineg, 1) := dk_116 (dk_at dksX0_goLine_6 21 rfl rfl)
theorem dX0_goLine_166 : decode cX0_goLine 166 = .ok (.goto 5, 3) := dk_167 0 5 (dk_at dksX0_goLine_7 0 rfl rfl)
theorem dX0_goLine_169 : decode cX0_goLine 169 = .ok (.iload 7, 2) := dk_21 7 (dk_at dksX0_goLine_7 3 rfl rfl)
theorem dX0_goLine_171 : decode cX0_goLine 171 = .ok (.iastore, 1) := dk_79 (dk_at dksX0_goLine_7 5 rfl rfl)
theorem dX0_goLine_172 : decode cX0_goLine 172 = .ok (.aload_n 0, 1) := dk_42 (dk_at dksX0_goLine_7 6 rfl rfl)
theorem dX0_goLine_173 : decode cX0_goLine 173 = .ok (.getfield 34, 3) := dk_180 0 34 (dk_at dksX0_goLine_7 7 rfl rfl)
theorem dX0_goLine_176 : decode cX0_goLine 176 = .ok (.iload_n 1, 1) := dk_27 (dk_at dksX0_goLine_7 10 rfl rfl)
theorem dX0_goLine_177 : decode cX0_goLine 177 = .ok (.iload 8, 2) := dk_21 8 (dk_at dksX0_goLine_7 11 rfl rfl)
theorem dX0_goLine_179 : decode cX0_goLine 179 = .ok (.ifCond .eq 7, 3) := dk_153 0 7 (dk_at dksX0_goLine_7 13 rfl rfl)
theorem dX0_goLine_182 : decode cX0_goLine 182 = .ok (.iconst 0, 1) := dk_3 (dk_at dksX0_goLine_7 16 rfl rfl)
theorem dX0_goLine_183 : decode cX0_goLine 183 = .ok (.goto 5, 3) := dk_167 0 5 (dk_at dksX0_goLine_7 17 rfl rfl)
theorem dX0_goLine_186 : decode cX0_goLine 186 = .ok (.iload 6, 2) := dk_21 6 (dk_at dksX0_goLine_7 20 rfl rfl)
theorem dX0_goLine_188 : decode cX0_goLine 188 = .ok (.iastore, 1) := dk_79 (dk_at dksX0_goLine_7 22 rfl rfl)
theorem dX0_goLine_189 : decode cX0_goLine 189 = .ok (.aload_n 0, 1) := dk_42 (dk_at dksX0_goLine_7 23 rfl rfl)
theorem dX0_goLine_190 : decode cX0_goLine 190 = .ok (.aload_n 0, 1) := dk_42 (dk_at dksX0_goLine_8 0 rfl rfl)
theorem dX0_goLine_191 : decode cX0_goLine 191 = .ok (.getfield 278, 3) := dk_180 1 22 (dk_at dksX0_goLine_8 1 rfl rfl)
theorem dX0_goLine_194 : decode cX0_goLine 194 = .ok (.aload_n 0, 1) := dk_42 (dk_at dksX0_goLine_8 4 rfl rfl)
theorem dX0_goLine_195 : decode cX0_goLine 195 = .ok (.getfield 31, 3) := dk_180 0 31 (dk_at dksX0_goLine_8 5 rfl rfl)
theorem dX0_goLine_198 : decode cX0_goLine 198 = .ok (.iload_n 1, 1) := dk_27 (dk_at dksX0_goLine_8 8 rfl rfl)
theorem dX0_goLine_199 : decode cX0_goLine 199 = .ok (.iaload, 1) := dk_46 (dk_at dksX0_goLine_8 9 rfl rfl)
theorem dX0_goLine_200 : decode cX0_goLine 200 = .ok (.invokestatic 275, 3) := dk_184 1 19 (dk_at dksX0_goLine_8 10 rfl rfl)
theorem dX0_goLine_203 : decode cX0_goLine 203 = .ok (.invokestatic 232, 3) := dk_184 0 232 (dk_at dksX0_goLine_8 13 rfl rfl)
theorem dX0_goLine_206 : decode cX0_goLine 206 = .ok (.putfield 278, 3) := dk_181 1 22 (dk_at dksX0_goLine_8 16 rfl rfl)
theorem dX0_goLine_209 : decode cX0_goLine 209 = .ok (.return_, 1) := dk_177 (dk_at dksX0_goLine_8 19 rfl rfl)
abbrev cX0_heading : ByteArray := prog_1_method_36_code
def yX0_heading : MethodName := ⟨RX0, "heading", "(I)J"⟩
def dkwX0_heading_0 : List UInt8 := [42, 27, 182, 1, 38, 153, 0, 13, 42, 180, 0, 34, 27, 46, 133, 167, 0, 6, 20, 0, 84, 173]
abbrev dktX0_heading_0 : List UInt8 := dkwX0_heading_0 ++ []
theorem dksX0_heading_0 : cX0_heading.data.toList.drop 0 = dktX0_heading_0 := by decide +kernel
theorem dX0_heading_0 : decode cX0_heading 0 = .ok (.aload_n 0, 1) := dk_42 (dk_at dksX0_heading_0 0 rfl rfl)
theorem dX0_heading_1 : decode cX0_heading 1 = .ok (.iload_n 1, 1) := dk_27 (dk_at dksX0_heading_0 1 rfl rfl)
theorem dX0_heading_2 : decode cX0_heading 2 = .ok (.invokevirtual 294, 3) := dk_182 1 38 (dk_at dksX0_heading_0 2 rfl rfl)
theorem dX0_heading_5 : decode cX0_heading 5 = .ok (.ifCond .eq 13, 3) := dk_153 0 13 (dk_at dksX0_heading_0 5 rfl rfl)
theorem dX0_heading_8 : decode cX0_heading 8 = .ok (.aload_n 0, 1) := dk_42 (dk_at dksX0_heading_0 8 rfl rfl)
theorem dX0_heading_9 : decode cX0_heading 9 = .ok (.getfield 34, 3) := dk_180 0 34 (dk_at dksX0_heading_0 9 rfl rfl)
theorem dX0_heading_12 : decode cX0_heading 12 = .ok (.iload_n 1, 1) := dk_27 (dk_at dksX0_heading_0 12 rfl rfl)
theorem dX0_heading_13 : decode cX0_heading 13 = .ok (.iaload, 1) := dk_46 (dk_at dksX0_heading_0 13 rfl rfl)
theorem dX0_heading_14 : decode cX0_heading 14 = .ok (.i2l, 1) := dk_133 (dk_at dksX0_heading_0 14 rfl rfl)
theorem dX0_heading_15 : decode cX0_heading 15 = .ok (.goto 6, 3) := dk_167 0 6 (dk_at dksX0_heading_0 15 rfl rfl)
theorem dX0_heading_18 : decode cX0_heading 18 = .ok (.ldc2_w 84, 3) := dk_20 0 84 (dk_at dksX0_heading_0 18 rfl rfl)
theorem dX0_heading_21 : decode cX0_heading 21 = .ok (.lreturn, 1) := dk_173 (dk_at dksX0_heading_0 21 rfl rfl)
abbrev cX0_off : ByteArray := prog_1_method_37_code
def yX0_off : MethodName := ⟨RX0, "off", "()I"⟩
def dkwX0_off_0 : List UInt8 := [42, 182, 1, 32, 154, 0, 6, 16, 253, 172, 42, 182, 1, 35, 42, 180, 1, 22, 172]
abbrev dktX0_off_0 : List UInt8 := dkwX0_off_0 ++ []
theorem dksX0_off_0 : cX0_off.data.toList.drop 0 = dktX0_off_0 := by decide +kernel
theorem dX0_off_0 : decode cX0_off 0 = .ok (.aload_n 0, 1) := dk_42 (dk_at dksX0_off_0 0 rfl rfl)
theorem dX0_off_1 : decode cX0_off 1 = .ok (.invokevirtual 288, 3) := dk_182 1 32 (dk_at dksX0_off_0 1 rfl rfl)
theorem dX0_off_4 : decode cX0_off 4 = .ok (.ifCond .ne 6, 3) := dk_154 0 6 (dk_at dksX0_off_0 4 rfl rfl)
theorem dX0_off_7 : decode cX0_off 7 = .ok (.bipush (-3), 2) := dk_16 253 (dk_at dksX0_off_0 7 rfl rfl)
theorem dX0_off_9 : decode cX0_off 9 = .ok (.ireturn, 1) := dk_172 (dk_at dksX0_off_0 9 rfl rfl)
theorem dX0_off_10 : decode cX0_off 10 = .ok (.aload_n 0, 1) := dk_42 (dk_at dksX0_off_0 10 rfl rfl)
theorem dX0_off_11 : decode cX0_off 11 = .ok (.invokevirtual 291, 3) := dk_182 1 35 (dk_at dksX0_off_0 11 rfl rfl)
theorem dX0_off_14 : decode cX0_off 14 = .ok (.aload_n 0, 1) := dk_42 (dk_at dksX0_off_0 14 rfl rfl)
theorem dX0_off_15 : decode cX0_off 15 = .ok (.getfield 278, 3) := dk_180 1 22 (dk_at dksX0_off_0 15 rfl rfl)
theorem dX0_off_18 : decode cX0_off 18 = .ok (.ireturn, 1) := dk_172 (dk_at dksX0_off_0 18 rfl rfl)
abbrev cX0_pinched : ByteArray := prog_1_method_38_code
def yX0_pinched : MethodName := ⟨RX0, "pinched", "()I"⟩
def dkwX0_pinched_1 : List UInt8 := [162, 0, 10, 42, 180, 1, 25, 167, 0, 5, 16, 247, 172]
abbrev dktX0_pinched_1 : List UInt8 := dkwX0_pinched_1 ++ []
def dkwX0_pinched_0 : List UInt8 := [42, 182, 1, 32, 154, 0, 6, 16, 253, 172, 42, 182, 1, 35, 42, 180, 1, 25, 42, 180, 0, 248]
abbrev dktX0_pinched_0 : List UInt8 := dkwX0_pinched_0 ++ dktX0_pinched_1
theorem dksX0_pinched_0 : cX0_pinched.data.toList.drop 0 = dktX0_pinched_0 := by decide +kernel
theorem dksX0_pinched_1 : cX0_pinched.data.toList.drop 22 = dktX0_pinched_1 := dk_seg dksX0_pinched_0 22 rfl rfl
theorem dX0_pinched_0 : decode cX0_pinched 0 = .ok (.aload_n 0, 1) := dk_42 (dk_at dksX0_pinched_0 0 rfl rfl)
theorem dX0_pinched_1 : decode cX0_pinched 1 = .ok (.invokevirtual 288, 3) := dk_182 1 32 (dk_at dksX0_pinched_0 1 rfl rfl)
theorem dX0_pinched_4 : decode cX0_pinched 4 = .ok (.ifCond .ne 6, 3) := dk_154 0 6 (dk_at dksX0_pinched_0 4 rfl rfl)
theorem dX0_pinched_7 : decode cX0_pinched 7 = .ok (.bipush (-3), 2) := dk_16 253 (dk_at dksX0_pinched_0 7 rfl rfl)
theorem dX0_pinched_9 : decode cX0_pinched 9 = .ok (.ireturn, 1) := dk_172 (dk_at dksX0_pinched_0 9 rfl rfl)
theorem dX0_pinched_10 : decode cX0_pinched 10 = .ok (.aload_n 0, 1) := dk_42 (dk_at dksX0_pinched_0 10 rfl rfl)
theorem dX0_pinched_11 : decode cX0_pinched 11 = .ok (.invokevirtual 291, 3) := dk_182 1 35 (dk_at dksX0_pinched_0 11 rfl rfl)
theorem dX0_pinched_14 : decode cX0_pinched 14 = .ok (.aload_n 0, 1) := dk_42 (dk_at dksX0_pinched_0 14 rfl rfl)
theorem dX0_pinched_15 : decode cX0_pinched 15 = .ok (.getfield 281, 3) := dk_180 1 25 (dk_at dksX0_pinched_0 15 rfl rfl)
theorem dX0_pinched_18 : decode cX0_pinched 18 = .ok (.aload_n 0, 1) := dk_42 (dk_at dksX0_pinched_0 18 rfl rfl)
theorem dX0_pinched_19 : decode cX0_pinched 19 = .ok (.getfield 248, 3) := dk_180 0 248 (dk_at dksX0_pinched_0 19 rfl rfl)
theorem dX0_pinched_22 : decode cX0_pinched 22 = .ok (.if_icmp .ge 10, 3) := dk_162 0 10 (dk_at dksX0_pinched_1 0 rfl rfl)
theorem dX0_pinched_25 : decode cX0_pinched 25 = .ok (.aload_n 0, 1) := dk_42 (dk_at dksX0_pinched_1 3 rfl rfl)
theorem dX0_pinched_26 : decode cX0_pinched 26 = .ok (.getfield 281, 3) := dk_180 1 25 (dk_at dksX0_pinched_1 4 rfl rfl)
theorem dX0_pinched_29 : decode cX0_pinched 29 = .ok (.goto 5, 3) := dk_167 0 5 (dk_at dksX0_pinched_1 7 rfl rfl)
theorem dX0_pinched_32 : decode cX0_pinched 32 = .ok (.bipush (-9), 2) := dk_16 247 (dk_at dksX0_pinched_1 10 rfl rfl)
theorem dX0_pinched_34 : decode cX0_pinched 34 = .ok (.ireturn, 1) := dk_172 (dk_at dksX0_pinched_1 12 rfl rfl)
abbrev cX0_marks : ByteArray := prog_1_method_40_code
def yX0_marks : MethodName := ⟨RX0, "marks", "(I)I"⟩
def dkwX0_marks_2 : List UInt8 := [167, 0, 4, 3, 96, 61, 132, 3, 1, 167, 255, 224, 28, 172]
abbrev dktX0_marks_2 : List UInt8 := dkwX0_marks_2 ++ []
def dkwX0_marks_1 : List UInt8 := [62, 29, 42, 180, 0, 12, 185, 0, 184, 1, 0, 162, 0, 25, 28, 42, 29, 182, 1, 41, 153, 0, 7, 4]
abbrev dktX0_marks_1 : List UInt8 := dkwX0_marks_1 ++ dktX0_marks_2
def dkwX0_marks_0 : List UInt8 := [42, 27, 182, 0, 254, 154, 0, 5, 2, 172, 42, 27, 182, 1, 38, 154, 0, 6, 16, 253, 172, 3, 61, 3]
abbrev dktX0_marks_0 : List UInt8 := dkwX0_marks_0 ++ dktX0_marks_1
theorem dksX0_marks_0 : cX0_marks.data.toList.drop 0 = dktX0_marks_0 := by decide +kernel
theorem dksX0_marks_1 : cX0_marks.data.toList.drop 24 = dktX0_marks_1 := dk_seg dksX0_marks_0 24 rfl rfl
theorem dksX0_marks_2 : cX0_marks.data.toList.drop 48 = dktX0_marks_2 := dk_seg dksX0_marks_1 24 rfl rfl
theorem dX0_marks_0 : decode cX0_marks 0 = .ok (.aload_n 0, 1) := dk_42 (dk_at dksX0_marks_0 0 rfl rfl)
theorem dX0_marks_1 : decode cX0_marks 1 = .ok (.iload_n 1, 1) := dk_27 (dk_at dksX0_marks_0 1 rfl rfl)
theorem dX0_marks_2 : decode cX0_marks 2 = .ok (.invokevirtual 254, 3) := dk_182 0 254 (dk_at dksX0_marks_0 2 rfl rfl)
theorem dX0_marks_5 : decode cX0_marks 5 = .ok (.ifCond .ne 5, 3) := dk_154 0 5 (dk_at dksX0_marks_0 5 rfl rfl)
theorem dX0_marks_8 : decode cX0_marks 8 = .ok (.iconst (-1), 1) := dk_2 (dk_at dksX0_marks_0 8 rfl rfl)
theorem dX0_marks_9 : decode cX0_marks 9 = .ok (.ireturn, 1) := dk_172 (dk_at dksX0_marks_0 9 rfl rfl)
theorem dX0_marks_10 : decode cX0_marks 10 = .ok (.aload_n 0, 1) := dk_42 (dk_at dksX0_marks_0 10 rfl rfl)
theorem dX0_marks_11 : decode cX0_marks 11 = .ok (.iload_n 1, 1) := dk_27 (dk_at dksX0_marks_0 11 rfl rfl)
theorem dX0_marks_12 : decode cX0_marks 12 = .ok (.invokevirtual 294, 3) := dk_182 1 38 (dk_at dksX0_marks_0 12 rfl rfl)
theorem dX0_marks_15 : decode cX0_marks 15 = .ok (.ifCond .ne 6, 3) := dk_154 0 6 (dk_at dksX0_marks_0 15 rfl rfl)
theorem dX0_marks_18 : decode cX0_marks 18 = .ok (.bipush (-3), 2) := dk_16 253 (dk_at dksX0_marks_0 18 rfl rfl)
theorem dX0_marks_20 : decode cX0_marks 20 = .ok (.ireturn, 1) := dk_172 (dk_at dksX0_marks_0 20 rfl rfl)
theorem dX0_marks_21 : decode cX0_marks 21 = .ok (.iconst 0, 1) := dk_3 (dk_at dksX0_marks_0 21 rfl rfl)
theorem dX0_marks_22 : decode cX0_marks 22 = .ok (.istore_n 2, 1) := dk_61 (dk_at dksX0_marks_0 22 rfl rfl)
theorem dX0_marks_23 : decode cX0_marks 23 = .ok (.iconst 0, 1) := dk_3 (dk_at dksX0_marks_0 23 rfl rfl)
theorem dX0_marks_24 : decode cX0_marks 24 = .ok (.istore_n 3, 1) := dk_62 (dk_at dksX0_marks_1 0 rfl rfl)
theorem dX0_marks_25 : decode cX0_marks 25 = .ok (.iload_n 3, 1) := dk_29 (dk_at dksX0_marks_1 1 rfl rfl)
theorem dX0_marks_26 : decode cX0_marks 26 = .ok (.aload_n 0, 1) := dk_42 (dk_at dksX0_marks_1 2 rfl rfl)
theorem dX0_marks_27 : decode cX0_marks 27 = .ok (.getfield 12, 3) := dk_180 0 12 (dk_at dksX0_marks_1 3 rfl rfl)
theorem dX0_marks_30 : decode cX0_marks 30 = .ok (.invokeinterface 184 1, 5) := by decide +kernel
theorem dX0_marks_35 : decode cX0_marks 35 = .ok (.if_icmp .ge 25, 3) := dk_162 0 25 (dk_at dksX0_marks_1 11 rfl rfl)
theorem dX0_marks_38 : decode cX0_marks 38 = .ok (.iload_n 2, 1) := dk_28 (dk_at dksX0_marks_1 14 rfl rfl)
theorem dX0_marks_39 : decode cX0_marks 39 = .ok (.aload_n 0, 1) := dk_42 (dk_at dksX0_marks_1 15 rfl rfl)
theorem dX0_marks_40 : decode cX0_marks 40 = .ok (.iload_n 3, 1) := dk_29 (dk_at dksX0_marks_1 16 rfl rfl)
theorem dX0_marks_41 : decode cX0_marks 41 = .ok (.invokevirtual 297, 3) := dk_182 1 41 (dk_at dksX0_marks_1 17 rfl rfl)
theorem dX0_marks_44 : decode cX0_marks 44 = .ok (.ifCond .eq 7, 3) := dk_153 0 7 (dk_at dksX0_marks_1 20 rfl rfl)
theorem dX0_marks_47 : decode cX0_marks 47 = .ok (.iconst 1, 1) := dk_4 (dk_at dksX0_marks_1 23 rfl rfl)
theorem dX0_marks_48 : decode cX0_marks 48 = .ok (.goto 4, 3) := dk_167 0 4 (dk_at dksX0_marks_2 0 rfl rfl)
theorem dX0_marks_51 : decode cX0_marks 51 = .ok (.iconst 0, 1) := dk_3 (dk_at dksX0_marks_2 3 rfl rfl)
theorem dX0_marks_52 : decode cX0_marks 52 = .ok (.iadd, 1) := dk_96 (dk_at dksX0_marks_2 4 rfl rfl)
theorem dX0_marks_53 : decode cX0_marks 53 = .ok (.istore_n 2, 1) := dk_61 (dk_at dksX0_marks_2 5 rfl rfl)
theorem dX0_marks_54 : decode cX0_marks 54 = .ok (.iinc 3 1, 3) := dk_132 3 1 (dk_at dksX0_marks_2 6 rfl rfl)
theorem dX0_marks_57 : decode cX0_marks 57 = .ok (.goto (-32), 3) := dk_167 255 224 (dk_at dksX0_marks_2 9 rfl rfl)
theorem dX0_marks_60 : decode cX0_marks 60 = .ok (.iload_n 2, 1) := dk_28 (dk_at dksX0_marks_2 12 rfl rfl)
theorem dX0_marks_61 : decode cX0_marks 61 = .ok (.ireturn, 1) := dk_172 (dk_at dksX0_marks_2 13 rfl rfl)
abbrev cX0_isFirst : ByteArray := prog_1_method_39_code
def yX0_isFirst : MethodName := ⟨RX0, "isFirst", "(I)Z"⟩
def dkwX0_isFirst_4 : List UInt8 := [167, 255, 184, 28, 172]
abbrev dktX0_isFirst_4 : List UInt8 := dkwX0_isFirst_4 ++ []
def dkwX0_isFirst_3 : List UInt8 := [185, 0, 191, 2, 0, 192, 0, 113, 182, 0, 223, 159, 0, 7, 4, 167, 0, 4, 3, 61, 132, 3, 1]
abbrev dktX0_isFirst_3 : List UInt8 := dkwX0_isFirst_3 ++ dktX0_isFirst_4
def dkwX0_isFirst_2 : List UInt8 := [180, 0, 12, 29, 185, 0, 191, 2, 0, 192, 0, 113, 182, 0, 223, 42, 180, 0, 12, 27]
abbrev dktX0_isFirst_2 : List UInt8 := dkwX0_isFirst_2 ++ dktX0_isFirst_3
def dkwX0_isFirst_1 : List UInt8 := [28, 153, 0, 69, 42, 180, 0, 12, 29, 185, 0, 191, 2, 0, 192, 0, 113, 182, 0, 219, 153, 0, 38, 42]
abbrev dktX0_isFirst_1 : List UInt8 := dkwX0_isFirst_1 ++ dktX0_isFirst_2
def dkwX0_isFirst_0 : List UInt8 := [42, 180, 0, 12, 27, 185, 0, 191, 2, 0, 192, 0, 113, 182, 0, 219, 61, 3, 62, 29, 27, 162, 0, 73]
abbrev dktX0_isFirst_0 : List UInt8 := dkwX0_isFirst_0 ++ dktX0_isFirst_1
theorem dksX0_isFirst_0 : cX0_isFirst.data.toList.drop 0 = dktX0_isFirst_0 := by decide +kernel
theorem dksX0_isFirst_1 : cX0_isFirst.data.toList.drop 24 = dktX0_isFirst_1 := dk_seg dksX0_isFirst_0 24 rfl rfl
theorem dksX0_isFirst_2 : cX0_isFirst.data.toList.drop 48 = dktX0_isFirst_2 := dk_seg dksX0_isFirst_1 24 rfl rfl
theorem dksX0_isFirst_3 : cX0_isFirst.data.toList.drop 68 = dktX0_isFirst_3 := dk_seg dksX0_isFirst_2 20 rfl rfl
theorem dksX0_isFirst_4 : cX0_isFirst.data.toList.drop 91 = dktX0_isFirst_4 := dk_seg dksX0_isFirst_3 23 rfl rfl
theorem dX0_isFirst_0 : decode cX0_isFirst 0 = .ok (.aload_n 0, 1) := dk_42 (dk_at dksX0_isFirst_0 0 rfl rfl)
theorem dX0_isFirst_1 : decode cX0_isFirst 1 = .ok (.getfield 12, 3) := dk_180 0 12 (dk_at dksX0_isFirst_0 1 rfl rfl)
theorem dX0_isFirst_4 : decode cX0_isFirst 4 = .ok (.iload_n 1, 1) := dk_27 (dk_at dksX0_isFirst_0 4 rfl rfl)
theorem dX0_isFirst_5 : decode cX0_isFirst 5 = .ok (.invokeinterface 191 2, 5) := by decide +kernel
theorem dX0_isFirst_10 : decode cX0_isFirst 10 = .ok (.checkcast 113, 3) := dk_192 0 113 (dk_at dksX0_isFirst_0 10 rfl rfl)
theorem dX0_isFirst_13 : decode cX0_isFirst 13 = .ok (.invokevirtual 219, 3) := dk_182 0 219 (dk_at dksX0_isFirst_0 13 rfl rfl)
theorem dX0_isFirst_16 : decode cX0_isFirst 16 = .ok (.istore_n 2, 1) := dk_61 (dk_at dksX0_isFirst_0 16 rfl rfl)
theorem dX0_isFirst_17 : decode cX0_isFirst 17 = .ok (.iconst 0, 1) := dk_3 (dk_at dksX0_isFirst_0 17 rfl rfl)
theorem dX0_isFirst_18 : decode cX0_isFirst 18 = .ok (.istore_n 3, 1) := dk_62 (dk_at dksX0_isFirst_0 18 rfl rfl)
theorem dX0_isFirst_19 : decode cX0_isFirst 19 = .ok (.iload_n 3, 1) := dk_29 (dk_at dksX0_isFirst_0 19 rfl rfl)
theorem dX0_isFirst_20 : decode cX0_isFirst 20 = .ok (.iload_n 1, 1) := dk_27 (dk_at dksX0_isFirst_0 20 rfl rfl)
theorem dX0_isFirst_21 : decode cX0_isFirst 21 = .ok (.if_icmp .ge 73, 3) := dk_162 0 73 (dk_at dksX0_isFirst_0 21 rfl rfl)
theorem dX0_isFirst_24 : decode cX0_isFirst 24 = .ok (.iload_n 2, 1) := dk_28 (dk_at dksX0_isFirst_1 0 rfl rfl)
theorem dX0_isFirst_25 : decode cX0_isFirst 25 = .ok (.ifCond .eq 69, 3) := dk_153 0 69 (dk_at dksX0_isFirst_1 1 rfl rfl)
theorem dX0_isFirst_28 : decode cX0_isFirst 28 = .ok (.aload_n 0, 1) := dk_42 (dk_at dksX0_isFirst_1 4 rfl rfl)
theorem dX0_isFirst_29 : decode cX0_isFirst 29 = .ok (.getfield 12, 3) := dk_180 0 12 (dk_at dksX0_isFirst_1 5 rfl rfl)
theorem dX0_isFirst_32 : decode cX0_isFirst 32 = .ok (.iload_n 3, 1) := dk_29 (dk_at dksX0_isFirst_1 8 rfl rfl)
theorem dX0_isFirst_33 : decode cX0_isFirst 33 = .ok (.invokeinterface 191 2, 5) := by decide +kernel
theorem dX0_isFirst_38 : decode cX0_isFirst 38 = .ok (.checkcast 113, 3) := dk_192 0 113 (dk_at dksX0_isFirst_1 14 rfl rfl)
theorem dX0_isFirst_41 : decode cX0_isFirst 41 = .ok (.invokevirtual 219, 3) := dk_182 0 219 (dk_at dksX0_isFirst_1 17 rfl rfl)
theorem dX0_isFirst_44 : decode cX0_isFirst 44 = .ok (.ifCond .eq 38, 3) := dk_153 0 38 (dk_at dksX0_isFirst_1 20 rfl rfl)
theorem dX0_isFirst_47 : decode cX0_isFirst 47 = .ok (.aload_n 0, 1) := dk_42 (dk_at dksX0_isFirst_1 23 rfl rfl)
theorem dX0_isFirst_48 : decode cX0_isFirst 48 = .ok (.getfield 12, 3) := dk_180 0 12 (dk_at dksX0_isFirst_2 0 rfl rfl)
theorem dX0_isFirst_51 : decode cX0_isFirst 51 = .ok (.iload_n 3, 1) := dk_29 (dk_at dksX0_isFirst_2 3 rfl rfl)
theorem dX0_isFirst_52 : decode cX0_isFirst 52 = .ok (.invokeinterface 191 2, 5) := by decide +kernel
theorem dX0_isFirst_57 : decode cX0_isFirst 57 = .ok (.checkcast 113, 3) := dk_192 0 113 (dk_at dksX0_isFirst_2 9 rfl rfl)
theorem dX0_isFirst_60 : decode cX0_isFirst 60 = .ok (.invokevirtual 223, 3) := dk_182 0 223 (dk_at dksX0_isFirst_2 12 rfl rfl)
theorem dX0_isFirst_63 : decode cX0_isFirst 63 = .ok (.aload_n 0, 1) := dk_42 (dk_at dksX0_isFirst_2 15 rfl rfl)
theorem dX0_isFirst_64 : decode cX0_isFirst 64 = .ok (.getfield 12, 3) := dk_180 0 12 (dk_at dksX0_isFirst_2 16 rfl rfl)
theorem dX0_isFirst_67 : decode cX0_isFirst 67 = .ok (.iload_n 1, 1) := dk_27 (dk_at dksX0_isFirst_2 19 rfl rfl)
theorem dX0_isFirst_68 : decode cX0_isFirst 68 = .ok (.invokeinterface 191 2, 5) := by decide +kernel
theorem dX0_isFirst_73 : decode cX0_isFirst 73 = .ok (.checkcast 113, 3) := dk_192 0 113 (dk_at dksX0_isFirst_3 5 rfl rfl)
theorem dX0_isFirst_76 : decode cX0_isFirst 76 = .ok (.invokevirtual 223, 3) := dk_182 0 223 (dk_at dksX0_isFirst_3 8 rfl rfl)
theorem dX0_isFirst_79 : decode cX0_isFirst 79 = .ok (.if_icmp .eq 7, 3) := dk_159 0 7 (dk_at dksX0_isFirst_3 11 rfl rfl)
theorem dX0_isFirst_82 : decode cX0_isFirst 82 = .ok (.iconst 1, 1) := dk_4 (dk_at dksX0_isFirst_3 14 rfl rfl)
theorem dX0_isFirst_83 : decode cX0_isFirst 83 = .ok (.goto 4, 3) := dk_167 0 4 (dk_at dksX0_isFirst_3 15 rfl rfl)
theorem dX0_isFirst_86 : decode cX0_isFirst 86 = .ok (.iconst 0, 1) := dk_3 (dk_at dksX0_isFirst_3 18 rfl rfl)
theorem dX0_isFirst_87 : decode cX0_isFirst 87 = .ok (.istore_n 2, 1) := dk_61 (dk_at dksX0_isFirst_3 19 rfl rfl)
theorem dX0_isFirst_88 : decode cX0_isFirst 88 = .ok (.iinc 3 1, 3) := dk_132 3 1 (dk_at dksX0_isFirst_3 20 rfl rfl)
theorem dX0_isFirst_91 : decode cX0_isFirst 91 = .ok (.goto (-72), 3) := dk_167 255 184 (dk_at dksX0_isFirst_4 0 rfl rfl)
theorem dX0_isFirst_94 : decode cX0_isFirst 94 = .ok (.iload_n 2, 1) := dk_28 (dk_at dksX0_isFirst_4 3 rfl rfl)
theorem dX0_isFirst_95 : decode cX0_isFirst 95 = .ok (.ireturn, 1) := dk_172 (dk_at dksX0_isFirst_4 4 rfl rfl)
abbrev cX0_which : ByteArray := prog_1_method_41_code
def yX0_which : MethodName := ⟨RX0, "which", "(II)I"⟩
def dkwX0_which_4 : List UInt8 := [167, 0, 4, 3, 128, 62, 132, 4, 1, 167, 255, 180, 29, 172]
abbrev dktX0_which_4 : List UInt8 := dkwX0_which_4 ++ []
def dkwX0_which_3 : List UInt8 := [21, 4, 185, 0, 191, 2, 0, 192, 0, 113, 182, 0, 223, 96, 28, 160, 0, 10, 4, 21, 4, 120]
abbrev dktX0_which_3 : List UInt8 := dkwX0_which_3 ++ dktX0_which_4
def dkwX0_which_2 : List UInt8 := [185, 0, 191, 2, 0, 192, 0, 113, 182, 0, 219, 153, 0, 38, 42, 180, 0, 31, 27, 46, 42, 180, 0, 12]
abbrev dktX0_which_2 : List UInt8 := dkwX0_which_2 ++ dktX0_which_3
def dkwX0_which_1 : List UInt8 := [54, 4, 21, 4, 42, 180, 0, 12, 185, 0, 184, 1, 0, 162, 0, 68, 29, 42, 180, 0, 12, 21, 4]
abbrev dktX0_which_1 : List UInt8 := dkwX0_which_1 ++ dktX0_which_2
def dkwX0_which_0 : List UInt8 := [42, 27, 182, 0, 254, 154, 0, 5, 2, 172, 42, 27, 182, 1, 38, 154, 0, 6, 16, 253, 172, 3, 62, 3]
abbrev dktX0_which_0 : List UInt8 := dkwX0_which_0 ++ dktX0_which_1
theorem dksX0_which_0 : cX0_which.data.toList.drop 0 = dktX0_which_0 := by decide +kernel
theorem dksX0_which_1 : cX0_which.data.toList.drop 24 = dktX0_which_1 := dk_seg dksX0_which_0 24 rfl rfl
theorem dksX0_which_2 : cX0_which.data.toList.drop 47 = dktX0_which_2 := dk_seg dksX0_which_1 23 rfl rfl
theorem dksX0_which_3 : cX0_which.data.toList.drop 71 = dktX0_which_3 := dk_seg dksX0_which_2 24 rfl rfl
theorem dksX0_which_4 : cX0_which.data.toList.drop 93 = dktX0_which_4 := dk_seg dksX0_which_3 22 rfl rfl
theorem dX0_which_0 : decode cX0_which 0 = .ok (.aload_n 0, 1) := dk_42 (dk_at dksX0_which_0 0 rfl rfl)
theorem dX0_which_1 : decode cX0_which 1 = .ok (.iload_n 1, 1) := dk_27 (dk_at dksX0_which_0 1 rfl rfl)
theorem dX0_which_2 : decode cX0_which 2 = .ok (.invokevirtual 254, 3) := dk_182 0 254 (dk_at dksX0_which_0 2 rfl rfl)
theorem dX0_which_5 : decode cX0_which 5 = .ok (.ifCond .ne 5, 3) := dk_154 0 5 (dk_at dksX0_which_0 5 rfl rfl)
theorem dX0_which_8 : decode cX0_which 8 = .ok (.iconst (-1), 1) := dk_2 (dk_at dksX0_which_0 8 rfl rfl)
theorem dX0_which_9 : decode cX0_which 9 = .ok (.ireturn, 1) := dk_172 (dk_at dksX0_which_0 9 rfl rfl)
theorem dX0_which_10 : decode cX0_which 10 = .ok (.aload_n 0, 1) := dk_42 (dk_at dksX0_which_0 10 rfl rfl)
theorem dX0_which_11 : decode cX0_which 11 = .ok (.iload_n 1, 1) := dk_27 (dk_at dksX0_which_0 11 rfl rfl)
theorem dX0_which_12 : decode cX0_which 12 = .ok (.invokevirtual 294, 3) := dk_182 1 38 (dk_at dksX0_which_0 12 rfl rfl)
theorem dX0_which_15 : decode cX0_which 15 = .ok (.ifCond .ne 6, 3) := dk_154 0 6 (dk_at dksX0_which_0 15 rfl rfl)
theorem dX0_which_18 : decode cX0_which 18 = .ok (.bipush (-3), 2) := dk_16 253 (dk_at dksX0_which_0 18 rfl rfl)
theorem dX0_which_20 : decode cX0_which 20 = .ok (.ireturn, 1) := dk_172 (dk_at dksX0_which_0 20 rfl rfl)
theorem dX0_which_21 : decode cX0_which 21 = .ok (.iconst 0, 1) := dk_3 (dk_at dksX0_which_0 21 rfl rfl)
theorem dX0_which_22 : decode cX0_which 22 = .ok (.istore_n 3, 1) := dk_62 (dk_at dksX0_which_0 22 rfl rfl)
theorem dX0_which_23 : decode cX0_which 23 = .ok (.iconst 0, 1) := dk_3 (dk_at dksX0_which_0 23 rfl rfl)
theorem dX0_which_24 : decode cX0_which 24 = .ok (.istore 4, 2) := dk_54 4 (dk_at dksX0_which_1 0 rfl rfl)
theorem dX0_which_26 : decode cX0_which 26 = .ok (.iload 4, 2) := dk_21 4 (dk_at dksX0_which_1 2 rfl rfl)
theorem dX0_which_28 : decode cX0_which 28 = .ok (.aload_n 0, 1) := dk_42 (dk_at dksX0_which_1 4 rfl rfl)
theorem dX0_which_29 : decode cX0_which 29 = .ok (.getfield 12, 3) := dk_180 0 12 (dk_at dksX0_which_1 5 rfl rfl)
theorem dX0_which_32 : decode cX0_which 32 = .ok (.invokeinterface 184 1, 5) := by decide +kernel
theorem dX0_which_37 : decode cX0_which 37 = .ok (.if_icmp .ge 68, 3) := dk_162 0 68 (dk_at dksX0_which_1 13 rfl rfl)
theorem dX0_which_40 : decode cX0_which 40 = .ok (.iload_n 3, 1) := dk_29 (dk_at dksX0_which_1 16 rfl rfl)
theorem dX0_which_41 : decode cX0_which 41 = .ok (.aload_n 0, 1) := dk_42 (dk_at dksX0_which_1 17 rfl rfl)
theorem dX0_which_42 : decode cX0_which 42 = .ok (.getfield 12, 3) := dk_180 0 12 (dk_at dksX0_which_1 18 rfl rfl)
theorem dX0_which_45 : decode cX0_which 45 = .ok (.iload 4, 2) := dk_21 4 (dk_at dksX0_which_1 21 rfl rfl)
theorem dX0_which_47 : decode cX0_which 47 = .ok (.invokeinterface 191 2, 5) := by decide +kernel
theorem dX0_which_52 : decode cX0_which 52 = .ok (.checkcast 113, 3) := dk_192 0 113 (dk_at dksX0_which_2 5 rfl rfl)
theorem dX0_which_55 : decode cX0_which 55 = .ok (.invokevirtual 219, 3) := dk_182 0 219 (dk_at dksX0_which_2 8 rfl rfl)
theorem dX0_which_58 : decode cX0_which 58 = .ok (.ifCond .eq 38, 3) := dk_153 0 38 (dk_at dksX0_which_2 11 rfl rfl)
theorem dX0_which_61 : decode cX0_which 61 = .ok (.aload_n 0, 1) := dk_42 (dk_at dksX0_which_2 14 rfl rfl)
theorem dX0_which_62 : decode cX0_which 62 = .ok (.getfield 31, 3) := dk_180 0 31 (dk_at dksX0_which_2 15 rfl rfl)
theorem dX0_which_65 : decode cX0_which 65 = .ok (.iload_n 1, 1) := dk_27 (dk_at dksX0_which_2 18 rfl rfl)
theorem dX0_which_66 : decode cX0_which 66 = .ok (.iaload, 1) := dk_46 (dk_at dksX0_which_2 19 rfl rfl)
theorem dX0_which_67 : decode cX0_which 67 = .ok (.aload_n 0, 1) := dk_42 (dk_at dksX0_which_2 20 rfl rfl)
theorem dX0_which_68 : decode cX0_which 68 = .ok (.getfield 12, 3) := dk_180 0 12 (dk_at dksX0_which_2 21 rfl rfl)
theorem dX0_which_71 : decode cX0_which 71 = .ok (.iload 4, 2) := dk_21 4 (dk_at dksX0_which_3 0 rfl rfl)
theorem dX0_which_73 : decode cX0_which 73 = .ok (.invokeinterface 191 2, 5) := by decide +kernel
theorem dX0_which_78 : decode cX0_which 78 = .ok (.checkcast 113, 3) := dk_192 0 113 (dk_at dksX0_which_3 7 rfl rfl)
theorem dX0_which_81 : decode cX0_which 81 = .ok (.invokevirtual 223, 3) := dk_182 0 223 (dk_at dksX0_which_3 10 rfl rfl)
theorem dX0_which_84 : decode cX0_which 84 = .ok (.iadd, 1) := dk_96 (dk_at dksX0_which_3 13 rfl rfl)
theorem dX0_which_85 : decode cX0_which 85 = .ok (.iload_n 2, 1) := dk_28 (dk_at dksX0_which_3 14 rfl rfl)
theorem dX0_which_86 : decode cX0_which 86 = .ok (.if_icmp .ne 10, 3) := dk_160 0 10 (dk_at dksX0_which_3 15 rfl rfl)
theorem dX0_which_89 : decode cX0_which 89 = .ok (.iconst 1, 1) := dk_4 (dk_at dksX0_which_3 18 rfl rfl)
theorem dX0_which_90 : decode cX0_which 90 = .ok (.iload 4, 2) := dk_21 4 (dk_at dksX0_which_3 19 rfl rfl)
theorem dX0_which_92 : decode cX0_which 92 = .ok (.ishl, 1) := dk_120 (dk_at dksX0_which_3 21 rfl rfl)
theorem dX0_which_93 : decode cX0_which 93 = .ok (.goto 4, 3) := dk_167 0 4 (dk_at dksX0_which_4 0 rfl rfl)
theorem dX0_which_96 : decode cX0_which 96 = .ok (.iconst 0, 1) := dk_3 (dk_at dksX0_which_4 3 rfl rfl)
theorem dX0_which_97 : decode cX0_which 97 = .ok (.ior, 1) := dk_128 (dk_at dksX0_which_4 4 rfl rfl)
theorem dX0_which_98 : decode cX0_which 98 = .ok (.istore_n 3, 1) := dk_62 (dk_at dksX0_which_4 5 rfl rfl)
theorem dX0_which_99 : decode cX0_which 99 = .ok (.iinc 4 1, 3) := dk_132 4 1 (dk_at dksX0_which_4 6 rfl rfl)
theorem dX0_which_102 : decode cX0_which 102 = .ok (.goto (-76), 3) := dk_167 255 180 (dk_at dksX0_which_4 9 rfl rfl)
theorem dX0_which_105 : decode cX0_which 105 = .ok (.iload_n 3, 1) := dk_29 (dk_at dksX0_which_4 12 rfl rfl)
theorem dX0_which_106 : decode cX0_which 106 = .ok (.ireturn, 1) := dk_172 (dk_at dksX0_which_4 13 rfl rfl)
abbrev cX0_straightest : ByteArray := prog_1_method_45_code
def yX0_straightest : MethodName := ⟨RX0, "straightest", "(I)I"⟩
def dkwX0_straightest_2 : List UInt8 := [28, 167, 0, 7, 42, 180, 1, 45, 172]
abbrev dktX0_straightest_2 : List UInt8 := dkwX0_straightest_2 ++ []
def dkwX0_straightest_1 : List UInt8 := [172, 27, 5, 112, 154, 0, 10, 42, 182, 1, 53, 167, 0, 7, 42, 182, 1, 56, 61, 27, 5, 162, 0, 7]
abbrev dktX0_straightest_1 : List UInt8 := dkwX0_straightest_1 ++ dktX0_straightest_2
def dkwX0_straightest_0 : List UInt8 := [27, 133, 9, 20, 1, 51, 184, 0, 76, 154, 0, 6, 16, 254, 172, 42, 182, 1, 32, 154, 0, 6, 16, 253]
abbrev dktX0_straightest_0 : List UInt8 := dkwX0_straightest_0 ++ dktX0_straightest_1
theorem dksX0_straightest_0 : cX0_straightest.data.toList.drop 0 = dktX0_straightest_0 := by decide +kernel
theorem dksX0_straightest_1 : cX0_straightest.data.toList.drop 24 = dktX0_straightest_1 := dk_seg dksX0_straightest_0 24 rfl rfl
theorem dksX0_straightest_2 : cX0_straightest.data.toList.drop 48 = dktX0_straightest_2 := dk_seg dksX0_straightest_1 24 rfl rfl
theorem dX0_straightest_0 : decode cX0_straightest 0 = .ok (.iload_n 1, 1) := dk_27 (dk_at dksX0_straightest_0 0 rfl rfl)
theorem dX0_straightest_1 : decode cX0_straightest 1 = .ok (.i2l, 1) := dk_133 (dk_at dksX0_straightest_0 1 rfl rfl)
theorem dX0_straightest_2 : decode cX0_straightest 2 = .ok (.lconst 0, 1) := dk_9 (dk_at dksX0_straightest_0 2 rfl rfl)
theorem dX0_straightest_3 : decode cX0_straightest 3 = .ok (.ldc2_w 307, 3) := dk_20 1 51 (dk_at dksX0_straightest_0 3 rfl rfl)
theorem dX0_straightest_6 : decode cX0_straightest 6 = .ok (.invokestatic 76, 3) := dk_184 0 76 (dk_at dksX0_straightest_0 6 rfl rfl)
theorem dX0_straightest_9 : decode cX0_straightest 9 = .ok (.ifCond .ne 6, 3) := dk_154 0 6 (dk_at dksX0_straightest_0 9 rfl rfl)
theorem dX0_straightest_12 : decode cX0_straightest 12 = .ok (.bipush (-2), 2) := dk_16 254 (dk_at dksX0_straightest_0 12 rfl rfl)
theorem dX0_straightest_14 : decode cX0_straightest 14 = .ok (.ireturn, 1) := dk_172 (dk_at dksX0_straightest_0 14 rfl rfl)
theorem dX0_straightest_15 : decode cX0_straightest 15 = .ok (.aload_n 0, 1) := dk_42 (dk_at dksX0_straightest_0 15 rfl rfl)
theorem dX0_straightest_16 : decode cX0_straightest 16 = .ok (.invokevirtual 288, 3) := dk_182 1 32 (dk_at dksX0_straightest_0 16 rfl rfl)
theorem dX0_straightest_19 : decode cX0_straightest 19 = .ok (.ifCond .ne 6, 3) := dk_154 0 6 (dk_at dksX0_straightest_0 19 rfl rfl)
theorem dX0_straightest_22 : decode cX0_straightest 22 = .ok (.bipush (-3), 2) := dk_16 253 (dk_at dksX0_straightest_0 22 rfl rfl)
theorem dX0_straightest_24 : decode cX0_straightest 24 = .ok (.ireturn, 1) := dk_172 (dk_at dksX0_straightest_1 0 rfl rfl)
theorem dX0_straightest_25 : decode cX0_straightest 25 = .ok (.iload_n 1, 1) := dk_27 (dk_at dksX0_straightest_1 1 rfl rfl)
theorem dX0_straightest_26 : decode cX0_straightest 26 = .ok (.iconst 2, 1) := dk_5 (dk_at dksX0_straightest_1 2 rfl rfl)
theorem dX0_straightest_27 : decode cX0_straightest 27 = .ok (.irem, 1) := dk_112 (dk_at dksX0_straightest_1 3 rfl rfl)
theorem dX0_straightest_28 : decode cX0_straightest 28 = .ok (.ifCond .ne 10, 3) := dk_154 0 10 (dk_at dksX0_straightest_1 4 rfl rfl)
theorem dX0_straightest_31 : decode cX0_straightest 31 = .ok (.aload_n 0, 1) := dk_42 (dk_at dksX0_straightest_1 7 rfl rfl)
theorem dX0_straightest_32 : decode cX0_straightest 32 = .ok (.invokevirtual 309, 3) := dk_182 1 53 (dk_at dksX0_straightest_1 8 rfl rfl)
theorem dX0_straightest_35 : decode cX0_straightest 35 = .ok (.goto 7, 3) := dk_167 0 7 (dk_at dksX0_straightest_1 11 rfl rfl)
theorem dX0_straightest_38 : decode cX0_straightest 38 = .ok (.aload_n 0, 1) := dk_42 (dk_at dksX0_straightest_1 14 rfl rfl)
theorem dX0_straightest_39 : decode cX0_straightest 39 = .ok (.invokevirtual 312, 3) := dk_182 1 56 (dk_at dksX0_straightest_1 15 rfl rfl)
theorem dX0_straightest_42 : decode cX0_straightest 42 = .ok (.istore_n 2, 1) := dk_61 (dk_at dksX0_straightest_1 18 rfl rfl)
theorem dX0_straightest_43 : decode cX0_straightest 43 = .ok (.iload_n 1, 1) := dk_27 (dk_at dksX0_straightest_1 19 rfl rfl)
theorem dX0_straightest_44 : decode cX0_straightest 44 = .ok (.iconst 2, 1) := dk_5 (dk_at dksX0_straightest_1 20 rfl rfl)
theorem dX0_straightest_45 : decode cX0_straightest 45 = .ok (.if_icmp .ge 7, 3) := dk_162 0 7 (dk_at dksX0_straightest_1 21 rfl rfl)
theorem dX0_straightest_48 : decode cX0_straightest 48 = .ok (.iload_n 2, 1) := dk_28 (dk_at dksX0_straightest_2 0 rfl rfl)
theorem dX0_straightest_49 : decode cX0_straightest 49 = .ok (.goto 7, 3) := dk_167 0 7 (dk_at dksX0_straightest_2 1 rfl rfl)
theorem dX0_straightest_52 : decode cX0_straightest 52 = .ok (.aload_n 0, 1) := dk_42 (dk_at dksX0_straightest_2 4 rfl rfl)
theorem dX0_straightest_53 : decode cX0_straightest 53 = .ok (.getfield 301, 3) := dk_180 1 45 (dk_at dksX0_straightest_2 5 rfl rfl)
theorem dX0_straightest_56 : decode cX0_straightest 56 = .ok (.ireturn, 1) := dk_172 (dk_at dksX0_straightest_2 8 rfl rfl)
abbrev cX0_bestLean : ByteArray := prog_1_method_43_code
def yX0_bestLean : MethodName := ⟨RX0, "bestLean", "()I"⟩
def dkwX0_bestLean_3 : List UInt8 := [28, 172]
abbrev dktX0_bestLean_3 : List UInt8 := dkwX0_bestLean_3 ++ []
def dkwX0_bestLean_2 : List UInt8 := [42, 42, 180, 1, 22, 181, 1, 45, 42, 180, 1, 5, 61, 132, 3, 1, 167, 255, 208, 42, 27, 181, 1, 5]
abbrev dktX0_bestLean_2 : List UInt8 := dkwX0_bestLean_2 ++ dktX0_bestLean_3
def dkwX0_bestLean_1 : List UInt8 := [184, 1, 48, 181, 1, 5, 42, 182, 1, 35, 42, 180, 1, 22, 42, 180, 1, 45, 161, 0, 6, 167, 0, 16]
abbrev dktX0_bestLean_1 : List UInt8 := dkwX0_bestLean_1 ++ dktX0_bestLean_2
def dkwX0_bestLean_0 : List UInt8 := [42, 180, 1, 5, 60, 3, 61, 42, 19, 1, 44, 181, 1, 45, 3, 62, 29, 16, 19, 162, 0, 48, 42, 29]
abbrev dktX0_bestLean_0 : List UInt8 := dkwX0_bestLean_0 ++ dktX0_bestLean_1
theorem dksX0_bestLean_0 : cX0_bestLean.data.toList.drop 0 = dktX0_bestLean_0 := by decide +kernel
theorem dksX0_bestLean_1 : cX0_bestLean.data.toList.drop 24 = dktX0_bestLean_1 := dk_seg dksX0_bestLean_0 24 rfl rfl
theorem dksX0_bestLean_2 : cX0_bestLean.data.toList.drop 48 = dktX0_bestLean_2 := dk_seg dksX0_bestLean_1 24 rfl rfl
theorem dksX0_bestLean_3 : cX0_bestLean.data.toList.drop 72 = dktX0_bestLean_3 := dk_seg dksX0_bestLean_2 24 rfl rfl
theorem dX0_bestLean_0 : decode cX0_bestLean 0 = .ok (.aload_n 0, 1) := dk_42 (dk_at dksX0_bestLean_0 0 rfl rfl)
theorem dX0_bestLean_1 : decode cX0_bestLean 1 = .ok (.getfield 261, 3) := dk_180 1 5 (dk_at dksX0_bestLean_0 1 rfl rfl)
theorem dX0_bestLean_4 : decode cX0_bestLean 4 = .ok (.istore_n 1, 1) := dk_60 (dk_at dksX0_bestLean_0 4 rfl rfl)
theorem dX0_bestLean_5 : decode cX0_bestLean 5 = .ok (.iconst 0, 1) := dk_3 (dk_at dksX0_bestLean_0 5 rfl rfl)
theorem dX0_bestLean_6 : decode cX0_bestLean 6 = .ok (.istore_n 2, 1) := dk_61 (dk_at dksX0_bestLean_0 6 rfl rfl)
theorem dX0_bestLean_7 : decode cX0_bestLean 7 = .ok (.aload_n 0, 1) := dk_42 (dk_at dksX0_bestLean_0 7 rfl rfl)
theorem dX0_bestLean_8 : decode cX0_bestLean 8 = .ok (.ldc_w 300, 3) := dk_19 1 44 (dk_at dksX0_bestLean_0 8 rfl rfl)
theorem dX0_bestLean_11 : decode cX0_bestLean 11 = .ok (.putfield 301, 3) := dk_181 1 45 (dk_at dksX0_bestLean_0 11 rfl rfl)
theorem dX0_bestLean_14 : decode cX0_bestLean 14 = .ok (.iconst 0, 1) := dk_3 (dk_at dksX0_bestLean_0 14 rfl rfl)
theorem dX0_bestLean_15 : decode cX0_bestLean 15 = .ok (.istore_n 3, 1) := dk_62 (dk_at dksX0_bestLean_0 15 rfl rfl)
theorem dX0_bestLean_16 : decode cX0_bestLean 16 = .ok (.iload_n 3, 1) := dk_29 (dk_at dksX0_bestLean_0 16 rfl rfl)
theorem dX0_bestLean_17 : decode cX0_bestLean 17 = .ok (.bipush 19, 2) := dk_16 19 (dk_at dksX0_bestLean_0 17 rfl rfl)
theorem dX0_bestLean_19 : decode cX0_bestLean 19 = .ok (.if_icmp .ge 48, 3) := dk_162 0 48 (dk_at dksX0_bestLean_0 19 rfl rfl)
theorem dX0_bestLean_22 : decode cX0_bestLean 22 = .ok (.aload_n 0, 1) := dk_42 (dk_at dksX0_bestLean_0 22 rfl rfl)
theorem dX0_bestLean_23 : decode cX0_bestLean 23 = .ok (.iload_n 3, 1) := dk_29 (dk_at dksX0_bestLean_0 23 rfl rfl)
theorem dX0_bestLean_24 : decode cX0_bestLean 24 = .ok (.invokestatic 304, 3) := dk_184 1 48 (dk_at dksX0_bestLean_1 0 rfl rfl)
theorem dX0_bestLean_27 : decode cX0_bestLean 27 = .ok (.putfield 261, 3) := dk_181 1 5 (dk_at dksX0_bestLean_1 3 rfl rfl)
theorem dX0_bestLean_30 : decode cX0_bestLean 30 = .ok (.aload_n 0, 1) := dk_42 (dk_at dksX0_bestLean_1 6 rfl rfl)
theorem dX0_bestLean_31 : decode cX0_bestLean 31 = .ok (.invokevirtual 291, 3) := dk_182 1 35 (dk_at dksX0_bestLean_1 7 rfl rfl)
theorem dX0_bestLean_34 : decode cX0_bestLean 34 = .ok (.aload_n 0, 1) := dk_42 (dk_at dksX0_bestLean_1 10 rfl rfl)
theorem dX0_bestLean_35 : decode cX0_bestLean 35 = .ok (.getfield 278, 3) := dk_180 1 22 (dk_at dksX0_bestLean_1 11 rfl rfl)
theorem dX0_bestLean_38 : decode cX0_bestLean 38 = .ok (.aload_n 0, 1) := dk_42 (dk_at dksX0_bestLean_1 14 rfl rfl)
theorem dX0_bestLean_39 : decode cX0_bestLean 39 = .ok (.getfield 301, 3) := dk_180 1 45 (dk_at dksX0_bestLean_1 15 rfl rfl)
theorem dX0_bestLean_42 : decode cX0_bestLean 42 = .ok (.if_icmp .lt 6, 3) := dk_161 0 6 (dk_at dksX0_bestLean_1 18 rfl rfl)
theorem dX0_bestLean_45 : decode cX0_bestLean 45 = .ok (.goto 16, 3) := dk_167 0 16 (dk_at dksX0_bestLean_1 21 rfl rfl)
theorem dX0_bestLean_48 : decode cX0_bestLean 48 = .ok (.aload_n 0, 1) := dk_42 (dk_at dksX0_bestLean_2 0 rfl rfl)
theorem dX0_bestLean_49 : decode cX0_bestLean 49 = .ok (.aload_n 0, 1) := dk_42 (dk_at dksX0_bestLean_2 1 rfl rfl)
theorem dX0_bestLean_50 : decode cX0_bestLean 50 = .ok (.getfield 278, 3) := dk_180 1 22 (dk_at dksX0_bestLean_2 2 rfl rfl)
theorem dX0_bestLean_53 : decode cX0_bestLean 53 = .ok (.putfield 301, 3) := dk_181 1 45 (dk_at dksX0_bestLean_2 5 rfl rfl)
theorem dX0_bestLean_56 : decode cX0_bestLean 56 = .ok (.aload_n 0, 1) := dk_42 (dk_at dksX0_bestLean_2 8 rfl rfl)
theorem dX0_bestLean_57 : decode cX0_bestLean 57 = .ok (.getfield 261, 3) := dk_180 1 5 (dk_at dksX0_bestLean_2 9 rfl rfl)
theorem dX0_bestLean_60 : decode cX0_bestLean 60 = .ok (.istore_n 2, 1) := dk_61 (dk_at dksX0_bestLean_2 12 rfl rfl)
theorem dX0_bestLean_61 : decode cX0_bestLean 61 = .ok (.iinc 3 1, 3) := dk_132 3 1 (dk_at dksX0_bestLean_2 13 rfl rfl)
theorem dX0_bestLean_64 : decode cX0_bestLean 64 = .ok (.goto (-48), 3) := dk_167 255 208 (dk_at dksX0_bestLean_2 16 rfl rfl)
theorem dX0_bestLean_67 : decode cX0_bestLean 67 = .ok (.aload_n 0, 1) := dk_42 (dk_at dksX0_bestLean_2 19 rfl rfl)
theorem dX0_bestLean_68 : decode cX0_bestLean 68 = .ok (.iload_n 1, 1) := dk_27 (dk_at dksX0_bestLean_2 20 rfl rfl)
theorem dX0_bestLean_69 : decode cX0_bestLean 69 = .ok (.putfield 261, 3) := dk_181 1 5 (dk_at dksX0_bestLean_2 21 rfl rfl)
theorem dX0_bestLean_72 : decode cX0_bestLean 72 = .ok (.iload_n 2, 1) := dk_28 (dk_at dksX0_bestLean_3 0 rfl rfl)
theorem dX0_bestLean_73 : decode cX0_bestLean 73 = .ok (.ireturn, 1) := dk_172 (dk_at dksX0_bestLean_3 1 rfl rfl)
abbrev cX0_leanAt : ByteArray := prog_1_method_42_code
def yX0_leanAt : MethodName := ⟨RX0, "leanAt", "(I)I"⟩
def dkwX0_leanAt_0 : List UInt8 := [26, 5, 112, 154, 0, 9, 26, 5, 108, 167, 0, 9, 26, 4, 96, 116, 5, 108, 172]
abbrev dktX0_leanAt_0 : List UInt8 := dkwX0_leanAt_0 ++ []
theorem dksX0_leanAt_0 : cX0_leanAt.data.toList.drop 0 = dktX0_leanAt_0 := by decide +kernel
theorem dX0_leanAt_0 : decode cX0_leanAt 0 = .ok (.iload_n 0, 1) := dk_26 (dk_at dksX0_leanAt_0 0 rfl rfl)
theorem dX0_leanAt_1 : decode cX0_leanAt 1 = .ok (.iconst 2, 1) := dk_5 (dk_at dksX0_leanAt_0 1 rfl rfl)
theorem dX0_leanAt_2 : decode cX0_leanAt 2 = .ok (.irem, 1) := dk_112 (dk_at dksX0_leanAt_0 2 rfl rfl)
theorem dX0_leanAt_3 : decode cX0_leanAt 3 = .ok (.ifCond .ne 9, 3) := dk_154 0 9 (dk_at dksX0_leanAt_0 3 rfl rfl)
theorem dX0_leanAt_6 : decode cX0_leanAt 6 = .ok (.iload_n 0, 1) := dk_26 (dk_at dksX0_leanAt_0 6 rfl rfl)
theorem dX0_leanAt_7 : decode cX0_leanAt 7 = .ok (.iconst 2, 1) := dk_5 (dk_at dksX0_leanAt_0 7 rfl rfl)
theorem dX0_leanAt_8 : decode cX0_leanAt 8 = .ok (.idiv, 1) := dk_108 (dk_at dksX0_leanAt_0 8 rfl rfl)
theorem dX0_leanAt_9 : decode cX0_leanAt 9 = .ok (.goto 9, 3) := dk_167 0 9 (dk_at dksX0_leanAt_0 9 rfl rfl)
theorem dX0_leanAt_12 : decode cX0_leanAt 12 = .ok (.iload_n 0, 1) := dk_26 (dk_at dksX0_leanAt_0 12 rfl rfl)
theorem dX0_leanAt_13 : decode cX0_leanAt 13 = .ok (.iconst 1, 1) := dk_4 (dk_at dksX0_leanAt_0 13 rfl rfl)
theorem dX0_leanAt_14 : decode cX0_leanAt 14 = .ok (.iadd, 1) := dk_96 (dk_at dksX0_leanAt_0 14 rfl rfl)
theorem dX0_leanAt_15 : decode cX0_leanAt 15 = .ok (.ineg, 1) := dk_116 (dk_at dksX0_leanAt_0 15 rfl rfl)
theorem dX0_leanAt_16 : decode cX0_leanAt 16 = .ok (.iconst 2, 1) := dk_5 (dk_at dksX0_leanAt_0 16 rfl rfl)
theorem dX0_leanAt_17 : decode cX0_leanAt 17 = .ok (.idiv, 1) := dk_108 (dk_at dksX0_leanAt_0 17 rfl rfl)
theorem dX0_leanAt_18 : decode cX0_leanAt 18 = .ok (.ireturn, 1) := dk_172 (dk_at dksX0_leanAt_0 18 rfl rfl)
abbrev cX0_bestSteers : ByteArray := prog_1_method_44_code
def yX0_bestSteers : MethodName := ⟨RX0, "bestSteers", "()I"⟩
def dkwX0_bestSteers_2 : List UInt8 := [180, 1, 22, 181, 1, 45, 29, 61, 132, 3, 1, 167, 255, 214, 42, 27, 181, 1, 8, 28, 172]
abbrev dktX0_bestSteers_2 : List UInt8 := dkwX0_bestSteers_2 ++ []
def dkwX0_bestSteers_1 : List UInt8 := [181, 1, 8, 42, 182, 1, 35, 42, 180, 1, 22, 42, 180, 1, 45, 161, 0, 6, 167, 0, 13, 42, 42]
abbrev dktX0_bestSteers_1 : List UInt8 := dkwX0_bestSteers_1 ++ dktX0_bestSteers_2
def dkwX0_bestSteers_0 : List UInt8 := [42, 180, 1, 8, 60, 3, 61, 42, 19, 1, 44, 181, 1, 45, 3, 62, 29, 16, 9, 163, 0, 42, 42, 29]
abbrev dktX0_bestSteers_0 : List UInt8 := dkwX0_bestSteers_0 ++ dktX0_bestSteers_1
theorem dksX0_bestSteers_0 : cX0_bestSteers.data.toList.drop 0 = dktX0_bestSteers_0 := by decide +kernel
theorem dksX0_bestSteers_1 : cX0_bestSteers.data.toList.drop 24 = dktX0_bestSteers_1 := dk_seg dksX0_bestSteers_0 24 rfl rfl
theorem dksX0_bestSteers_2 : cX0_bestSteers.data.toList.drop 47 = dktX0_bestSteers_2 := dk_seg dksX0_bestSteers_1 23 rfl rfl
theorem dX0_bestSteers_0 : decode cX0_bestSteers 0 = .ok (.aload_n 0, 1) := dk_42 (dk_at dksX0_bestSteers_0 0 rfl rfl)
theorem dX0_bestSteers_1 : decode cX0_bestSteers 1 = .ok (.getfield 264, 3) := dk_180 1 8 (dk_at dksX0_bestSteers_0 1 rfl rfl)
theorem dX0_bestSteers_4 : decode cX0_bestSteers 4 = .ok (.istore_n 1, 1) := dk_60 (dk_at dksX0_bestSteers_0 4 rfl rfl)
theorem dX0_bestSteers_5 : decode cX0_bestSteers 5 = .ok (.iconst 0, 1) := dk_3 (dk_at dksX0_bestSteers_0 5 rfl rfl)
theorem dX0_bestSteers_6 : decode cX0_bestSteers 6 = .ok (.istore_n 2, 1) := dk_61 (dk_at dksX0_bestSteers_0 6 rfl rfl)
theorem dX0_bestSteers_7 : decode cX0_bestSteers 7 = .ok (.aload_n 0, 1) := dk_42 (dk_at dksX0_bestSteers_0 7 rfl rfl)
theorem dX0_bestSteers_8 : decode cX0_bestSteers 8 = .ok (.ldc_w 300, 3) := dk_19 1 44 (dk_at dksX0_bestSteers_0 8 rfl rfl)
theorem dX0_bestSteers_11 : decode cX0_bestSteers 11 = .ok (.putfield 301, 3) := dk_181 1 45 (dk_at dksX0_bestSteers_0 11 rfl rfl)
theorem dX0_bestSteers_14 : decode cX0_bestSteers 14 = .ok (.iconst 0, 1) := dk_3 (dk_at dksX0_bestSteers_0 14 rfl rfl)
theorem dX0_bestSteers_15 : decode cX0_bestSteers 15 = .ok (.istore_n 3, 1) := dk_62 (dk_at dksX0_bestSteers_0 15 rfl rfl)
theorem dX0_bestSteers_16 : decode cX0_bestSteers 16 = .ok (.iload_n 3, 1) := dk_29 (dk_at dksX0_bestSteers_0 16 rfl rfl)
theorem dX0_bestSteers_17 : decode cX0_bestSteers 17 = .ok (.bipush 9, 2) := dk_16 9 (dk_at dksX0_bestSteers_0 17 rfl rfl)
theorem dX0_bestSteers_19 : decode cX0_bestSteers 19 = .ok (.if_icmp .gt 42, 3) := dk_163 0 42 (dk_at dksX0_bestSteers_0 19 rfl rfl)
theorem dX0_bestSteers_22 : decode cX0_bestSteers 22 = .ok (.aload_n 0, 1) := dk_42 (dk_at dksX0_bestSteers_0 22 rfl rfl)
theorem dX0_bestSteers_23 : decode cX0_bestSteers 23 = .ok (.iload_n 3, 1) := dk_29 (dk_at dksX0_bestSteers_0 23 rfl rfl)
theorem dX0_bestSteers_24 : decode cX0_bestSteers 24 = .ok (.putfield 264, 3) := dk_181 1 8 (dk_at dksX0_bestSteers_1 0 rfl rfl)
theorem dX0_bestSteers_27 : decode cX0_bestSteers 27 = .ok (.aload_n 0, 1) := dk_42 (dk_at dksX0_bestSteers_1 3 rfl rfl)
theorem dX0_bestSteers_28 : decode cX0_bestSteers 28 = .ok (.invokevirtual 291, 3) := dk_182 1 35 (dk_at dksX0_bestSteers_1 4 rfl rfl)
theorem dX0_bestSteers_31 : decode cX0_bestSteers 31 = .ok (.aload_n 0, 1) := dk_42 (dk_at dksX0_bestSteers_1 7 rfl rfl)
theorem dX0_bestSteers_32 : decode cX0_bestSteers 32 = .ok (.getfield 278, 3) := dk_180 1 22 (dk_at dksX0_bestSteers_1 8 rfl rfl)
theorem dX0_bestSteers_35 : decode cX0_bestSteers 35 = .ok (.aload_n 0, 1) := dk_42 (dk_at dksX0_bestSteers_1 11 rfl rfl)
theorem dX0_bestSteers_36 : decode cX0_bestSteers 36 = .ok (.getfield 301, 3) := dk_180 1 45 (dk_at dksX0_bestSteers_1 12 rfl rfl)
theorem dX0_bestSteers_39 : decode cX0_bestSteers 39 = .ok (.if_icmp .lt 6, 3) := dk_161 0 6 (dk_at dksX0_bestSteers_1 15 rfl rfl)
theorem dX0_bestSteers_42 : decode cX0_bestSteers 42 = .ok (.goto 13, 3) := dk_167 0 13 (dk_at dksX0_bestSteers_1 18 rfl rfl)
theorem dX0_bestSteers_45 : decode cX0_bestSteers 45 = .ok (.aload_n 0, 1) := dk_42 (dk_at dksX0_bestSteers_1 21 rfl rfl)
theorem dX0_bestSteers_46 : decode cX0_bestSteers 46 = .ok (.aload_n 0, 1) := dk_42 (dk_at dksX0_bestSteers_1 22 rfl rfl)
theorem dX0_bestSteers_47 : decode cX0_bestSteers 47 = .ok (.getfield 278, 3) := dk_180 1 22 (dk_at dksX0_bestSteers_2 0 rfl rfl)
theorem dX0_bestSteers_50 : decode cX0_bestSteers 50 = .ok (.putfield 301, 3) := dk_181 1 45 (dk_at dksX0_bestSteers_2 3 rfl rfl)
theorem dX0_bestSteers_53 : decode cX0_bestSteers 53 = .ok (.iload_n 3, 1) := dk_29 (dk_at dksX0_bestSteers_2 6 rfl rfl)
theorem dX0_bestSteers_54 : decode cX0_bestSteers 54 = .ok (.istore_n 2, 1) := dk_61 (dk_at dksX0_bestSteers_2 7 rfl rfl)
theorem dX0_bestSteers_55 : decode cX0_bestSteers 55 = .ok (.iinc 3 1, 3) := dk_132 3 1 (dk_at dksX0_bestSteers_2 8 rfl rfl)
theorem dX0_bestSteers_58 : decode cX0_bestSteers 58 = .ok (.goto (-42), 3) := dk_167 255 214 (dk_at dksX0_bestSteers_2 11 rfl rfl)
theorem dX0_bestSteers_61 : decode cX0_bestSteers 61 = .ok (.aload_n 0, 1) := dk_42 (dk_at dksX0_bestSteers_2 14 rfl rfl)
theorem dX0_bestSteers_62 : decode cX0_bestSteers 62 = .ok (.iload_n 1, 1) := dk_27 (dk_at dksX0_bestSteers_2 15 rfl rfl)
theorem dX0_bestSteers_63 : decode cX0_bestSteers 63 = .ok (.putfield 264, 3) := dk_181 1 8 (dk_at dksX0_bestSteers_2 16 rfl rfl)
theorem dX0_bestSteers_66 : decode cX0_bestSteers 66 = .ok (.iload_n 2, 1) := dk_28 (dk_at dksX0_bestSteers_2 19 rfl rfl)
theorem dX0_bestSteers_67 : decode cX0_bestSteers 67 = .ok (.ireturn, 1) := dk_172 (dk_at dksX0_bestSteers_2 20 rfl rfl)
abbrev cX0_flaw : ByteArray := prog_1_method_46_code
def yX0_flaw : MethodName := ⟨RX0, "flaw", "(III)I"⟩
def dkwX0_flaw_3 : List UInt8 := [4, 96, 181, 0, 142, 42, 180, 0, 142, 4, 100, 172]
abbrev dktX0_flaw_3 : List UInt8 := dkwX0_flaw_3 ++ []
def dkwX0_flaw_2 : List UInt8 := [180, 0, 40, 42, 180, 0, 142, 28, 79, 42, 180, 0, 43, 42, 180, 0, 142, 29, 79, 42, 89, 180, 0, 142]
abbrev dktX0_flaw_2 : List UInt8 := dkwX0_flaw_2 ++ dktX0_flaw_3
def dkwX0_flaw_1 : List UInt8 := [180, 0, 142, 16, 6, 160, 0, 6, 16, 252, 172, 42, 180, 0, 37, 42, 180, 0, 142, 27, 79, 42]
abbrev dktX0_flaw_1 : List UInt8 := dkwX0_flaw_1 ++ dktX0_flaw_2
def dkwX0_flaw_0 : List UInt8 := [42, 27, 182, 0, 188, 154, 0, 5, 2, 172, 28, 29, 184, 0, 215, 154, 0, 6, 16, 254, 172, 42]
abbrev dktX0_flaw_0 : List UInt8 := dkwX0_flaw_0 ++ dktX0_flaw_1
theorem dksX0_flaw_0 : cX0_flaw.data.toList.drop 0 = dktX0_flaw_0 := by decide +kernel
theorem dksX0_flaw_1 : cX0_flaw.data.toList.drop 22 = dktX0_flaw_1 := dk_seg dksX0_flaw_0 22 rfl rfl
theorem dksX0_flaw_2 : cX0_flaw.data.toList.drop 44 = dktX0_flaw_2 := dk_seg dksX0_flaw_1 22 rfl rfl
theorem dksX0_flaw_3 : cX0_flaw.data.toList.drop 68 = dktX0_flaw_3 := dk_seg dksX0_flaw_2 24 rfl rfl
theorem dX0_flaw_0 : decode cX0_flaw 0 = .ok (.aload_n 0, 1) := dk_42 (dk_at dksX0_flaw_0 0 rfl rfl)
theorem dX0_flaw_1 : decode cX0_flaw 1 = .ok (.iload_n 1, 1) := dk_27 (dk_at dksX0_flaw_0 1 rfl rfl)
theorem dX0_flaw_2 : decode cX0_flaw 2 = .ok (.invokevirtual 188, 3) := dk_182 0 188 (dk_at dksX0_flaw_0 2 rfl rfl)
theorem dX0_flaw_5 : decode cX0_flaw 5 = .ok (.ifCond .ne 5, 3) := dk_154 0 5 (dk_at dksX0_flaw_0 5 rfl rfl)
theorem dX0_flaw_8 : decode cX0_flaw 8 = .ok (.iconst (-1), 1) := dk_2 (dk_at dksX0_flaw_0 8 rfl rfl)
theorem dX0_flaw_9 : decode cX0_flaw 9 = .ok (.ireturn, 1) := dk_172 (dk_at dksX0_flaw_0 9 rfl rfl)
theorem dX0_flaw_10 : decode cX0_flaw 10 = .ok (.iload_n 2, 1) := dk_28 (dk_at dksX0_flaw_0 10 rfl rfl)
theorem dX0_flaw_11 : decode cX0_flaw 11 = .ok (.iload_n 3, 1) := dk_29 (dk_at dksX0_flaw_0 11 rfl rfl)
theorem dX0_flaw_12 : decode cX0_flaw 12 = .ok (.invokestatic 215, 3) := dk_184 0 215 (dk_at dksX0_flaw_0 12 rfl rfl)
theorem dX0_flaw_15 : decode cX0_flaw 15 = .ok (.ifCond .ne 6, 3) := dk_154 0 6 (dk_at dksX0_flaw_0 15 rfl rfl)
theorem dX0_flaw_18 : decode cX0_flaw 18 = .ok (.bipush (-2), 2) := dk_16 254 (dk_at dksX0_flaw_0 18 rfl rfl)
theorem dX0_flaw_20 : decode cX0_flaw 20 = .ok (.ireturn, 1) := dk_172 (dk_at dksX0_flaw_0 20 rfl rfl)
theorem dX0_flaw_21 : decode cX0_flaw 21 = .ok (.aload_n 0, 1) := dk_42 (dk_at dksX0_flaw_0 21 rfl rfl)
theorem dX0_flaw_22 : decode cX0_flaw 22 = .ok (.getfield 142, 3) := dk_180 0 142 (dk_at dksX0_flaw_1 0 rfl rfl)
theorem dX0_flaw_25 : decode cX0_flaw 25 = .ok (.bipush 6, 2) := dk_16 6 (dk_at dksX0_flaw_1 3 rfl rfl)
theorem dX0_flaw_27 : decode cX0_flaw 27 = .ok (.if_icmp .ne 6, 3) := dk_160 0 6 (dk_at dksX0_flaw_1 5 rfl rfl)
theorem dX0_flaw_30 : decode cX0_flaw 30 = .ok (.bipush (-4), 2) := dk_16 252 (dk_at dksX0_flaw_1 8 rfl rfl)
theorem dX0_flaw_32 : decode cX0_flaw 32 = .ok (.ireturn, 1) := dk_172 (dk_at dksX0_flaw_1 10 rfl rfl)
theorem dX0_flaw_33 : decode cX0_flaw 33 = .ok (.aload_n 0, 1) := dk_42 (dk_at dksX0_flaw_1 11 rfl rfl)
theorem dX0_flaw_34 : decode cX0_flaw 34 = .ok (.getfield 37, 3) := dk_180 0 37 (dk_at dksX0_flaw_1 12 rfl rfl)
theorem dX0_flaw_37 : decode cX0_flaw 37 = .ok (.aload_n 0, 1) := dk_42 (dk_at dksX0_flaw_1 15 rfl rfl)
theorem dX0_flaw_38 : decode cX0_flaw 38 = .ok (.getfield 142, 3) := dk_180 0 142 (dk_at dksX0_flaw_1 16 rfl rfl)
theorem dX0_flaw_41 : decode cX0_flaw 41 = .ok (.iload_n 1, 1) := dk_27 (dk_at dksX0_flaw_1 19 rfl rfl)
theorem dX0_flaw_42 : decode cX0_flaw 42 = .ok (.iastore, 1) := dk_79 (dk_at dksX0_flaw_1 20 rfl rfl)
theorem dX0_flaw_43 : decode cX0_flaw 43 = .ok (.aload_n 0, 1) := dk_42 (dk_at dksX0_flaw_1 21 rfl rfl)
theorem dX0_flaw_44 : decode cX0_flaw 44 = .ok (.getfield 40, 3) := dk_180 0 40 (dk_at dksX0_flaw_2 0 rfl rfl)
theorem dX0_flaw_47 : decode cX0_flaw 47 = .ok (.aload_n 0, 1) := dk_42 (dk_at dksX0_flaw_2 3 rfl rfl)
theorem dX0_flaw_48 : decode cX0_flaw 48 = .ok (.getfield 142, 3) := dk_180 0 142 (dk_at dksX0_flaw_2 4 rfl rfl)
theorem dX0_flaw_51 : decode cX0_flaw 51 = .ok (.iload_n 2, 1) := dk_28 (dk_at dksX0_flaw_2 7 rfl rfl)
theorem dX0_flaw_52 : decode cX0_flaw 52 = .ok (.iastore, 1) := dk_79 (dk_at dksX0_flaw_2 8 rfl rfl)
theorem dX0_flaw_53 : decode cX0_flaw 53 = .ok (.aload_n 0, 1) := dk_42 (dk_at dksX0_flaw_2 9 rfl rfl)
theorem dX0_flaw_54 : decode cX0_flaw 54 = .ok (.getfield 43, 3) := dk_180 0 43 (dk_at dksX0_flaw_2 10 rfl rfl)
theorem dX0_flaw_57 : decode cX0_flaw 57 = .ok (.aload_n 0, 1) := dk_42 (dk_at dksX0_flaw_2 13 rfl rfl)
theorem dX0_flaw_58 : decode cX0_flaw 58 = .ok (.getfield 142, 3) := dk_180 0 142 (dk_at dksX0_flaw_2 14 rfl rfl)
theorem dX0_flaw_61 : decode cX0_flaw 61 = .ok (.iload_n 3, 1) := dk_29 (dk_at dksX0_flaw_2 17 rfl rfl)
theorem dX0_flaw_62 : decode cX0_flaw 62 = .ok (.iastore, 1) := dk_79 (dk_at dksX0_flaw_2 18 rfl rfl)
theorem dX0_flaw_63 : decode cX0_flaw 63 = .ok (.aload_n 0, 1) := dk_42 (dk_at dksX0_flaw_2 19 rfl rfl)
theorem dX0_flaw_64 : decode cX0_flaw 64 = .ok (.dup, 1) := dk_89 (dk_at dksX0_flaw_2 20 rfl rfl)
theorem dX0_flaw_65 : decode cX0_flaw 65 = .ok (.getfield 142, 3) := dk_180 0 142 (dk_at dksX0_flaw_2 21 rfl rfl)
theorem dX0_flaw_68 : decode cX0_flaw 68 = .ok (.iconst 1, 1) := dk_4 (dk_at dksX0_flaw_3 0 rfl rfl)
theorem dX0_flaw_69 : decode cX0_flaw 69 = .ok (.iadd, 1) := dk_96 (dk_at dksX0_flaw_3 1 rfl rfl)
theorem dX0_flaw_70 : decode cX0_flaw 70 = .ok (.putfield 142, 3) := dk_181 0 142 (dk_at dksX0_flaw_3 2 rfl rfl)
theorem dX0_flaw_73 : decode cX0_flaw 73 = .ok (.aload_n 0, 1) := dk_42 (dk_at dksX0_flaw_3 5 rfl rfl)
theorem dX0_flaw_74 : decode cX0_flaw 74 = .ok (.getfield 142, 3) := dk_180 0 142 (dk_at dksX0_flaw_3 6 rfl rfl)
theorem dX0_flaw_77 : decode cX0_flaw 77 = .ok (.iconst 1, 1) := dk_4 (dk_at dksX0_flaw_3 9 rfl rfl)
theorem dX0_flaw_78 : decode cX0_flaw 78 = .ok (.isub, 1) := dk_100 (dk_at dksX0_flaw_3 10 rfl rfl)
theorem dX0_flaw_79 : decode cX0_flaw 79 = .ok (.ireturn, 1) := dk_172 (dk_at dksX0_flaw_3 11 rfl rfl)
abbrev cX0_ofFlaw : ByteArray := prog_1_method_48_code
def yX0_ofFlaw : MethodName := ⟨RX0, "ofFlaw", "(II)I"⟩
def dkwX0_ofFlaw_2 : List UInt8 := [167, 0, 5, 16, 254, 172]
abbrev dktX0_ofFlaw_2 : List UInt8 := dkwX0_ofFlaw_2 ++ []
def dkwX0_ofFlaw_1 : List UInt8 := [4, 160, 0, 12, 42, 180, 0, 40, 27, 46, 167, 0, 19, 28, 5, 160, 0, 12, 42, 180, 0, 43, 27, 46]
abbrev dktX0_ofFlaw_1 : List UInt8 := dkwX0_ofFlaw_1 ++ dktX0_ofFlaw_2
def dkwX0_ofFlaw_0 : List UInt8 := [42, 27, 182, 1, 59, 154, 0, 5, 2, 172, 28, 154, 0, 12, 42, 180, 0, 37, 27, 46, 167, 0, 33, 28]
abbrev dktX0_ofFlaw_0 : List UInt8 := dkwX0_ofFlaw_0 ++ dktX0_ofFlaw_1
theorem dksX0_ofFlaw_0 : cX0_ofFlaw.data.toList.drop 0 = dktX0_ofFlaw_0 := by decide +kernel
theorem dksX0_ofFlaw_1 : cX0_ofFlaw.data.toList.drop 24 = dktX0_ofFlaw_1 := dk_seg dksX0_ofFlaw_0 24 rfl rfl
theorem dksX0_ofFlaw_2 : cX0_ofFlaw.data.toList.drop 48 = dktX0_ofFlaw_2 := dk_seg dksX0_ofFlaw_1 24 rfl rfl
theorem dX0_ofFlaw_0 : decode cX0_ofFlaw 0 = .ok (.aload_n 0, 1) := dk_42 (dk_at dksX0_ofFlaw_0 0 rfl rfl)
theorem dX0_ofFlaw_1 : decode cX0_ofFlaw 1 = .ok (.iload_n 1, 1) := dk_27 (dk_at dksX0_ofFlaw_0 1 rfl rfl)
theorem dX0_ofFlaw_2 : decode cX0_ofFlaw 2 = .ok (.invokevirtual 315, 3) := dk_182 1 59 (dk_at dksX0_ofFlaw_0 2 rfl rfl)
theorem dX0_ofFlaw_5 : decode cX0_ofFlaw 5 = .ok (.ifCond .ne 5, 3) := dk_154 0 5 (dk_at dksX0_ofFlaw_0 5 rfl rfl)
theorem dX0_ofFlaw_8 : decode cX0_ofFlaw 8 = .ok (.iconst (-1), 1) := dk_2 (dk_at dksX0_ofFlaw_0 8 rfl rfl)
theorem dX0_ofFlaw_9 : decode cX0_ofFlaw 9 = .ok (.ireturn, 1) := dk_172 (dk_at dksX0_ofFlaw_0 9 rfl rfl)
theorem dX0_ofFlaw_10 : decode cX0_ofFlaw 10 = .ok (.iload_n 2, 1) := dk_28 (dk_at dksX0_ofFlaw_0 10 rfl rfl)
theorem dX0_ofFlaw_11 : decode cX0_ofFlaw 11 = .ok (.ifCond .ne 12, 3) := dk_154 0 12 (dk_at dksX0_ofFlaw_0 11 rfl rfl)
theorem dX0_ofFlaw_14 : decode cX0_ofFlaw 14 = .ok (.aload_n 0, 1) := dk_42 (dk_at dksX0_ofFlaw_0 14 rfl rfl)
theorem dX0_ofFlaw_15 : decode cX0_ofFlaw 15 = .ok (.getfield 37, 3) := dk_180 0 37 (dk_at dksX0_ofFlaw_0 15 rfl rfl)
theorem dX0_ofFlaw_18 : decode cX0_ofFlaw 18 = .ok (.iload_n 1, 1) := dk_27 (dk_at dksX0_ofFlaw_0 18 rfl rfl)
theorem dX0_ofFlaw_19 : decode cX0_ofFlaw 19 = .ok (.iaload, 1) := dk_46 (dk_at dksX0_ofFlaw_0 19 rfl rfl)
theorem dX0_ofFlaw_20 : decode cX0_ofFlaw 20 = .ok (.goto 33, 3) := dk_167 0 33 (dk_at dksX0_ofFlaw_0 20 rfl rfl)
theorem dX0_ofFlaw_23 : decode cX0_ofFlaw 23 = .ok (.iload_n 2, 1) := dk_28 (dk_at dksX0_ofFlaw_0 23 rfl rfl)
theorem dX0_ofFlaw_24 : decode cX0_ofFlaw 24 = .ok (.iconst 1, 1) := dk_4 (dk_at dksX0_ofFlaw_1 0 rfl rfl)
theorem dX0_ofFlaw_25 : decode cX0_ofFlaw 25 = .ok (.if_icmp .ne 12, 3) := dk_160 0 12 (dk_at dksX0_ofFlaw_1 1 rfl rfl)
theorem dX0_ofFlaw_28 : decode cX0_ofFlaw 28 = .ok (.aload_n 0, 1) := dk_42 (dk_at dksX0_ofFlaw_1 4 rfl rfl)
theorem dX0_ofFlaw_29 : decode cX0_ofFlaw 29 = .ok (.getfield 40, 3) := dk_180 0 40 (dk_at dksX0_ofFlaw_1 5 rfl rfl)
theorem dX0_ofFlaw_32 : decode cX0_ofFlaw 32 = .ok (.iload_n 1, 1) := dk_27 (dk_at dksX0_ofFlaw_1 8 rfl rfl)
theorem dX0_ofFlaw_33 : decode cX0_ofFlaw 33 = .ok (.iaload, 1) := dk_46 (dk_at dksX0_ofFlaw_1 9 rfl rfl)
theorem dX0_ofFlaw_34 : decode cX0_ofFlaw 34 = .ok (.goto 19, 3) := dk_167 0 19 (dk_at dksX0_ofFlaw_1 10 rfl rfl)
theorem dX0_ofFlaw_37 : decode cX0_ofFlaw 37 = .ok (.iload_n 2, 1) := dk_28 (dk_at dksX0_ofFlaw_1 13 rfl rfl)
theorem dX0_ofFlaw_38 : decode cX0_ofFlaw 38 = .ok (.iconst 2, 1) := dk_5 (dk_at dksX0_ofFlaw_1 14 rfl rfl)
theorem dX0_ofFlaw_39 : decode cX0_ofFlaw 39 = .ok (.if_icmp .ne 12, 3) := dk_160 0 12 (dk_at dksX0_ofFlaw_1 15 rfl rfl)
theorem dX0_ofFlaw_42 : decode cX0_ofFlaw 42 = .ok (.aload_n 0, 1) := dk_42 (dk_at dksX0_ofFlaw_1 18 rfl rfl)
theorem dX0_ofFlaw_43 : decode cX0_ofFlaw 43 = .ok (.getfield 43, 3) := dk_180 0 43 (dk_at dksX0_ofFlaw_1 19 rfl rfl)
theorem dX0_ofFlaw_46 : decode cX0_ofFlaw 46 = .ok (.iload_n 1, 1) := dk_27 (dk_at dksX0_ofFlaw_1 22 rfl rfl)
theorem dX0_ofFlaw_47 : decode cX0_ofFlaw 47 = .ok (.iaload, 1) := dk_46 (dk_at dksX0_ofFlaw_1 23 rfl rfl)
theorem dX0_ofFlaw_48 : decode cX0_ofFlaw 48 = .ok (.goto 5, 3) := dk_167 0 5 (dk_at dksX0_ofFlaw_2 0 rfl rfl)
theorem dX0_ofFlaw_51 : decode cX0_ofFlaw 51 = .ok (.bipush (-2), 2) := dk_16 254 (dk_at dksX0_ofFlaw_2 3 rfl rfl)
theorem dX0_ofFlaw_53 : decode cX0_ofFlaw 53 = .ok (.ireturn, 1) := dk_172 (dk_at dksX0_ofFlaw_2 5 rfl rfl)
abbrev cX0_isFlaw : ByteArray := prog_1_method_47_code
def yX0_isFlaw : MethodName := ⟨RX0, "isFlaw", "(I)Z"⟩
def dkwX0_isFlaw_0 : List UInt8 := [27, 133, 9, 42, 180, 0, 142, 133, 10, 101, 184, 0, 76, 172]
abbrev dktX0_isFlaw_0 : List UInt8 := dkwX0_isFlaw_0 ++ []
theorem dksX0_isFlaw_0 : cX0_isFlaw.data.toList.drop 0 = dktX0_isFlaw_0 := by decide +kernel
theorem dX0_isFlaw_0 : decode cX0_isFlaw 0 = .ok (.iload_n 1, 1) := dk_27 (dk_at dksX0_isFlaw_0 0 rfl rfl)
theorem dX0_isFlaw_1 : decode cX0_isFlaw 1 = .ok (.i2l, 1) := dk_133 (dk_at dksX0_isFlaw_0 1 rfl rfl)
theorem dX0_isFlaw_2 : decode cX0_isFlaw 2 = .ok (.lconst 0, 1) := dk_9 (dk_at dksX0_isFlaw_0 2 rfl rfl)
theorem dX0_isFlaw_3 : decode cX0_isFlaw 3 = .ok (.aload_n 0, 1) := dk_42 (dk_at dksX0_isFlaw_0 3 rfl rfl)
theorem dX0_isFlaw_4 : decode cX0_isFlaw 4 = .ok (.getfield 142, 3) := dk_180 0 142 (dk_at dksX0_isFlaw_0 4 rfl rfl)
theorem dX0_isFlaw_7 : decode cX0_isFlaw 7 = .ok (.i2l, 1) := dk_133 (dk_at dksX0_isFlaw_0 7 rfl rfl)
theorem dX0_isFlaw_8 : decode cX0_isFlaw 8 = .ok (.lconst 1, 1) := dk_10 (dk_at dksX0_isFlaw_0 8 rfl rfl)
theorem dX0_isFlaw_9 : decode cX0_isFlaw 9 = .ok (.lsub, 1) := dk_101 (dk_at dksX0_isFlaw_0 9 rfl rfl)
theorem dX0_isFlaw_10 : decode cX0_isFlaw 10 = .ok (.invokestatic 76, 3) := dk_184 0 76 (dk_at dksX0_isFlaw_0 10 rfl rfl)
theorem dX0_isFlaw_13 : decode cX0_isFlaw 13 = .ok (.ireturn, 1) := dk_172 (dk_at dksX0_isFlaw_0 13 rfl rfl)
abbrev cX0_reading : ByteArray := prog_1_method_49_code
def yX0_reading : MethodName := ⟨RX0, "reading", "(II)I"⟩
def dkwX0_reading_2 : List UInt8 := [4, 96, 181, 0, 145, 42, 180, 0, 145, 4, 100, 172]
abbrev dktX0_reading_2 : List UInt8 := dkwX0_reading_2 ++ []
def dkwX0_reading_1 : List UInt8 := [180, 0, 46, 42, 180, 0, 145, 27, 79, 42, 180, 0, 49, 42, 180, 0, 145, 28, 79, 42, 89, 180, 0, 145]
abbrev dktX0_reading_1 : List UInt8 := dkwX0_reading_1 ++ dktX0_reading_2
def dkwX0_reading_0 : List UInt8 := [42, 27, 182, 0, 254, 154, 0, 5, 2, 172, 42, 180, 0, 145, 16, 8, 160, 0, 6, 16, 252, 172, 42]
abbrev dktX0_reading_0 : List UInt8 := dkwX0_reading_0 ++ dktX0_reading_1
theorem dksX0_reading_0 : cX0_reading.data.toList.drop 0 = dktX0_reading_0 := by decide +kernel
theorem dksX0_reading_1 : cX0_reading.data.toList.drop 23 = dktX0_reading_1 := dk_seg dksX0_reading_0 23 rfl rfl
theorem dksX0_reading_2 : cX0_reading.data.toList.drop 47 = dktX0_reading_2 := dk_seg dksX0_reading_1 24 rfl rfl
theorem dX0_reading_0 : decode cX0_reading 0 = .ok (.aload_n 0, 1) := dk_42 (dk_at dksX0_reading_0 0 rfl rfl)
theorem dX0_reading_1 : decode cX0_reading 1 = .ok (.iload_n 1, 1) := dk_27 (dk_at dksX0_reading_0 1 rfl rfl)
theorem dX0_reading_2 : decode cX0_reading 2 = .ok (.invokevirtual 254, 3) := dk_182 0 254 (dk_at dksX0_reading_0 2 rfl rfl)
theorem dX0_reading_5 : decode cX0_reading 5 = .ok (.ifCond .ne 5, 3) := dk_154 0 5 (dk_at dksX0_reading_0 5 rfl rfl)
theorem dX0_reading_8 : decode cX0_reading 8 = .ok (.iconst (-1), 1) := dk_2 (dk_at dksX0_reading_0 8 rfl rfl)
theorem dX0_reading_9 : decode cX0_reading 9 = .ok (.ireturn, 1) := dk_172 (dk_at dksX0_reading_0 9 rfl rfl)
theorem dX0_reading_10 : decode cX0_reading 10 = .ok (.aload_n 0, 1) := dk_42 (dk_at dksX0_reading_0 10 rfl rfl)
theorem dX0_reading_11 : decode cX0_reading 11 = .ok (.getfield 145, 3) := dk_180 0 145 (dk_at dksX0_reading_0 11 rfl rfl)
theorem dX0_reading_14 : decode cX0_reading 14 = .ok (.bipush 8, 2) := dk_16 8 (dk_at dksX0_reading_0 14 rfl rfl)
theorem dX0_reading_16 : decode cX0_reading 16 = .ok (.if_icmp .ne 6, 3) := dk_160 0 6 (dk_at dksX0_reading_0 16 rfl rfl)
theorem dX0_reading_19 : decode cX0_reading 19 = .ok (.bipush (-4), 2) := dk_16 252 (dk_at dksX0_reading_0 19 rfl rfl)
theorem dX0_reading_21 : decode cX0_reading 21 = .ok (.ireturn, 1) := dk_172 (dk_at dksX0_reading_0 21 rfl rfl)
theorem dX0_reading_22 : decode cX0_reading 22 = .ok (.aload_n 0, 1) := dk_42 (dk_at dksX0_reading_0 22 rfl rfl)
theorem dX0_reading_23 : decode cX0_reading 23 = .ok (.getfield 46, 3) := dk_180 0 46 (dk_at dksX0_reading_1 0 rfl rfl)
theorem dX0_reading_26 : decode cX0_reading 26 = .ok (.aload_n 0, 1) := dk_42 (dk_at dksX0_reading_1 3 rfl rfl)
theorem dX0_reading_27 : decode cX0_reading 27 = .ok (.getfield 145, 3) := dk_180 0 145 (dk_at dksX0_reading_1 4 rfl rfl)
theorem dX0_reading_30 : decode cX0_reading 30 = .ok (.iload_n 1, 1) := dk_27 (dk_at dksX0_reading_1 7 rfl rfl)
theorem dX0_reading_31 : decode cX0_reading 31 = .ok (.iastore, 1) := dk_79 (dk_at dksX0_reading_1 8 rfl rfl)
theorem dX0_reading_32 : decode cX0_reading 32 = .ok (.aload_n 0, 1) := dk_42 (dk_at dksX0_reading_1 9 rfl rfl)
theorem dX0_reading_33 : decode cX0_reading 33 = .ok (.getfield 49, 3) := dk_180 0 49 (dk_at dksX0_reading_1 10 rfl rfl)
theorem dX0_reading_36 : decode cX0_reading 36 = .ok (.aload_n 0, 1) := dk_42 (dk_at dksX0_reading_1 13 rfl rfl)
theorem dX0_reading_37 : decode cX0_reading 37 = .ok (.getfield 145, 3) := dk_180 0 145 (dk_at dksX0_reading_1 14 rfl rfl)
theorem dX0_reading_40 : decode cX0_reading 40 = .ok (.iload_n 2, 1) := dk_28 (dk_at dksX0_reading_1 17 rfl rfl)
theorem dX0_reading_41 : decode cX0_reading 41 = .ok (.iastore, 1) := dk_79 (dk_at dksX0_reading_1 18 rfl rfl)
theorem dX0_reading_42 : decode cX0_reading 42 = .ok (.aload_n 0, 1) := dk_42 (dk_at dksX0_reading_1 19 rfl rfl)
theorem dX0_reading_43 : decode cX0_reading 43 = .ok (.dup, 1) := dk_89 (dk_at dksX0_reading_1 20 rfl rfl)
theorem dX0_reading_44 : decode cX0_reading 44 = .ok (.getfield 145, 3) := dk_180 0 145 (dk_at dksX0_reading_1 21 rfl rfl)
theorem dX0_reading_47 : decode cX0_reading 47 = .ok (.iconst 1, 1) := dk_4 (dk_at dksX0_reading_2 0 rfl rfl)
theorem dX0_reading_48 : decode cX0_reading 48 = .ok (.iadd, 1) := dk_96 (dk_at dksX0_reading_2 1 rfl rfl)
theorem dX0_reading_49 : decode cX0_reading 49 = .ok (.putfield 145, 3) := dk_181 0 145 (dk_at dksX0_reading_2 2 rfl rfl)
theorem dX0_reading_52 : decode cX0_reading 52 = .ok (.aload_n 0, 1) := dk_42 (dk_at dksX0_reading_2 5 rfl rfl)
theorem dX0_reading_53 : decode cX0_reading 53 = .ok (.getfield 145, 3) := dk_180 0 145 (dk_at dksX0_reading_2 6 rfl rfl)
theorem dX0_reading_56 : decode cX0_reading 56 = .ok (.iconst 1, 1) := dk_4 (dk_at dksX0_reading_2 9 rfl rfl)
theorem dX0_reading_57 : decode cX0_reading 57 = .ok (.isub, 1) := dk_100 (dk_at dksX0_reading_2 10 rfl rfl)
theorem dX0_reading_58 : decode cX0_reading 58 = .ok (.ireturn, 1) := dk_172 (dk_at dksX0_reading_2 11 rfl rfl)
abbrev cX0_back : ByteArray := prog_1_method_50_code
def yX0_back : MethodName := ⟨RX0, "back", "(I)I"⟩
def dkwX0_back_1 : List UInt8 := [181, 0, 145, 42, 180, 0, 145, 172]
abbrev dktX0_back_1 : List UInt8 := dkwX0_back_1 ++ []
def dkwX0_back_0 : List UInt8 := [27, 133, 9, 42, 180, 0, 145, 133, 184, 0, 76, 154, 0, 6, 16, 254, 172, 42, 89, 180, 0, 145, 27, 100]
abbrev dktX0_back_0 : List UInt8 := dkwX0_back_0 ++ dktX0_back_1
theorem dksX0_back_0 : cX0_back.data.toList.drop 0 = dktX0_back_0 := by decide +kernel
theorem dksX0_back_1 : cX0_back.data.toList.drop 24 = dktX0_back_1 := dk_seg dksX0_back_0 24 rfl rfl
theorem dX0_back_0 : decode cX0_back 0 = .ok (.iload_n 1, 1) := dk_27 (dk_at dksX0_back_0 0 rfl rfl)
theorem dX0_back_1 : decode cX0_back 1 = .ok (.i2l, 1) := dk_133 (dk_at dksX0_back_0 1 rfl rfl)
theorem dX0_back_2 : decode cX0_back 2 = .ok (.lconst 0, 1) := dk_9 (dk_at dksX0_back_0 2 rfl rfl)
theorem dX0_back_3 : decode cX0_back 3 = .ok (.aload_n 0, 1) := dk_42 (dk_at dksX0_back_0 3 rfl rfl)
theorem dX0_back_4 : decode cX0_back 4 = .ok (.getfield 145, 3) := dk_180 0 145 (dk_at dksX0_back_0 4 rfl rfl)
theorem dX0_back_7 : decode cX0_back 7 = .ok (.i2l, 1) := dk_133 (dk_at dksX0_back_0 7 rfl rfl)
theorem dX0_back_8 : decode cX0_back 8 = .ok (.invokestatic 76, 3) := dk_184 0 76 (dk_at dksX0_back_0 8 rfl rfl)
theorem dX0_back_11 : decode cX0_back 11 = .ok (.ifCond .ne 6, 3) := dk_154 0 6 (dk_at dksX0_back_0 11 rfl rfl)
theorem dX0_back_14 : decode cX0_back 14 = .ok (.bipush (-2), 2) := dk_16 254 (dk_at dksX0_back_0 14 rfl rfl)
theorem dX0_back_16 : decode cX0_back 16 = .ok (.ireturn, 1) := dk_172 (dk_at dksX0_back_0 16 rfl rfl)
theorem dX0_back_17 : decode cX0_back 17 = .ok (.aload_n 0, 1) := dk_42 (dk_at dksX0_back_0 17 rfl rfl)
theorem dX0_back_18 : decode cX0_back 18 = .ok (.dup, 1) := dk_89 (dk_at dksX0_back_0 18 rfl rfl)
theorem dX0_back_19 : decode cX0_back 19 = .ok (.getfield 145, 3) := dk_180 0 145 (dk_at dksX0_back_0 19 rfl rfl)
theorem dX0_back_22 : decode cX0_back 22 = .ok (.iload_n 1, 1) := dk_27 (dk_at dksX0_back_0 22 rfl rfl)
theorem dX0_back_23 : decode cX0_back 23 = .ok (.isub, 1) := dk_100 (dk_at dksX0_back_0 23 rfl rfl)
theorem dX0_back_24 : decode cX0_back 24 = .ok (.putfield 145, 3) := dk_181 0 145 (dk_at dksX0_back_1 0 rfl rfl)
theorem dX0_back_27 : decode cX0_back 27 = .ok (.aload_n 0, 1) := dk_42 (dk_at dksX0_back_1 3 rfl rfl)
theorem dX0_back_28 : decode cX0_back 28 = .ok (.getfield 145, 3) := dk_180 0 145 (dk_at dksX0_back_1 4 rfl rfl)
theorem dX0_back_31 : decode cX0_back 31 = .ok (.ireturn, 1) := dk_172 (dk_at dksX0_back_1 7 rfl rfl)
abbrev cX0_likely : ByteArray := prog_1_method_56_code
def yX0_likely : MethodName := ⟨RX0, "likely", "(I)I"⟩
def dkwX0_likely_1 : List UInt8 := [182, 1, 99, 27, 154, 0, 10, 42, 180, 1, 79, 167, 0, 7, 42, 180, 1, 82, 172]
abbrev dktX0_likely_1 : List UInt8 := dkwX0_likely_1 ++ []
def dkwX0_likely_0 : List UInt8 := [27, 133, 9, 10, 184, 0, 76, 154, 0, 6, 16, 254, 172, 42, 182, 1, 32, 154, 0, 6, 16, 253, 172, 42]
abbrev dktX0_likely_0 : List UInt8 := dkwX0_likely_0 ++ dktX0_likely_1
theorem dksX0_likely_0 : cX0_likely.data.toList.drop 0 = dktX0_likely_0 := by decide +kernel
theorem dksX0_likely_1 : cX0_likely.data.toList.drop 24 = dktX0_likely_1 := dk_seg dksX0_likely_0 24 rfl rfl
theorem dX0_likely_0 : decode cX0_likely 0 = .ok (.iload_n 1, 1) := dk_27 (dk_at dksX0_likely_0 0 rfl rfl)
theorem dX0_likely_1 : decode cX0_likely 1 = .ok (.i2l, 1) := dk_133 (dk_at dksX0_likely_0 1 rfl rfl)
theorem dX0_likely_2 : decode cX0_likely 2 = .ok (.lconst 0, 1) := dk_9 (dk_at dksX0_likely_0 2 rfl rfl)
theorem dX0_likely_3 : decode cX0_likely 3 = .ok (.lconst 1, 1) := dk_10 (dk_at dksX0_likely_0 3 rfl rfl)
theorem dX0_likely_4 : decode cX0_likely 4 = .ok (.invokestatic 76, 3) := dk_184 0 76 (dk_at dksX0_likely_0 4 rfl rfl)
theorem dX0_likely_7 : decode cX0_likely 7 = .ok (.ifCond .ne 6, 3) := dk_154 0 6 (dk_at dksX0_likely_0 7 rfl rfl)
theorem dX0_likely_10 : decode cX0_likely 10 = .ok (.bipush (-2), 2) := dk_16 254 (dk_at dksX0_likely_0 10 rfl rfl)
theorem dX0_likely_12 : decode cX0_likely 12 = .ok (.ireturn, 1) := dk_172 (dk_at dksX0_likely_0 12 rfl rfl)
theorem dX0_likely_13 : decode cX0_likely 13 = .ok (.aload_n 0, 1) := dk_42 (dk_at dksX0_likely_0 13 rfl rfl)
theorem dX0_likely_14 : decode cX0_likely 14 = .ok (.invokevirtual 288, 3) := dk_182 1 32 (dk_at dksX0_likely_0 14 rfl rfl)
theorem dX0_likely_17 : decode cX0_likely 17 = .ok (.ifCond .ne 6, 3) := dk_154 0 6 (dk_at dksX0_likely_0 17 rfl rfl)
theorem dX0_likely_20 : decode cX0_likely 20 = .ok (.bipush (-3), 2) := dk_16 253 (dk_at dksX0_likely_0 20 rfl rfl)
theorem dX0_likely_22 : decode cX0_likely 22 = .ok (.ireturn, 1) := dk_172 (dk_at dksX0_likely_0 22 rfl rfl)
theorem dX0_likely_23 : decode cX0_likely 23 = .ok (.aload_n 0, 1) := dk_42 (dk_at dksX0_likely_0 23 rfl rfl)
theorem dX0_likely_24 : decode cX0_likely 24 = .ok (.invokevirtual 355, 3) := dk_182 1 99 (dk_at dksX0_likely_1 0 rfl rfl)
theorem dX0_likely_27 : decode cX0_likely 27 = .ok (.iload_n 1, 1) := dk_27 (dk_at dksX0_likely_1 3 rfl rfl)
theorem dX0_likely_28 : decode cX0_likely 28 = .ok (.ifCond .ne 10, 3) := dk_154 0 10 (dk_at dksX0_likely_1 4 rfl rfl)
theorem dX0_likely_31 : decode cX0_likely 31 = .ok (.aload_n 0, 1) := dk_42 (dk_at dksX0_likely_1 7 rfl rfl)
theorem dX0_likely_32 : decode cX0_likely 32 = .ok (.getfield 335, 3) := dk_180 1 79 (dk_at dksX0_likely_1 8 rfl rfl)
theorem dX0_likely_35 : decode cX0_likely 35 = .ok (.goto 7, 3) := dk_167 0 7 (dk_at dksX0_likely_1 11 rfl rfl)
theorem dX0_likely_38 : decode cX0_likely 38 = .ok (.aload_n 0, 1) := dk_42 (dk_at dksX0_likely_1 14 rfl rfl)
theorem dX0_likely_39 : decode cX0_likely 39 = .ok (.getfield 338, 3) := dk_180 1 82 (dk_at dksX0_likely_1 15 rfl rfl)
theorem dX0_likely_42 : decode cX0_likely 42 = .ok (.ireturn, 1) := dk_172 (dk_at dksX0_likely_1 18 rfl rfl)
abbrev cX0_findLikely : ByteArray := prog_1_method_55_code
def yX0_findLikely : MethodName := ⟨RX0, "findLikely", "()V"⟩
def dkwX0_findLikely_5 : List UInt8 := [167, 0, 4, 3, 96, 79, 132, 3, 1, 167, 255, 223, 132, 1, 1, 167, 255, 149, 177]
abbrev dktX0_findLikely_5 : List UInt8 := dkwX0_findLikely_5 ++ []
def dkwX0_findLikely_4 : List UInt8 := [42, 180, 0, 142, 162, 0, 31, 42, 180, 0, 55, 29, 92, 46, 27, 29, 184, 1, 68, 153, 0, 7, 4]
abbrev dktX0_findLikely_4 : List UInt8 := dkwX0_findLikely_4 ++ dktX0_findLikely_5
def dkwX0_findLikely_3 : List UInt8 := [16, 247, 159, 0, 14, 28, 42, 180, 1, 82, 184, 1, 91, 162, 0, 8, 42, 27, 181, 1, 82, 3, 62, 29]
abbrev dktX0_findLikely_3 : List UInt8 := dkwX0_findLikely_3 ++ dktX0_findLikely_4
def dkwX0_findLikely_2 : List UInt8 := [182, 1, 96, 154, 0, 6, 167, 0, 76, 42, 89, 180, 1, 79, 4, 96, 181, 1, 79, 42, 180, 1, 82]
abbrev dktX0_findLikely_2 : List UInt8 := dkwX0_findLikely_2 ++ dktX0_findLikely_3
def dkwX0_findLikely_1 : List UInt8 := [60, 27, 4, 42, 180, 0, 142, 120, 162, 0, 103, 27, 184, 1, 91, 61, 28, 5, 163, 0, 87, 42, 27]
abbrev dktX0_findLikely_1 : List UInt8 := dkwX0_findLikely_1 ++ dktX0_findLikely_2
def dkwX0_findLikely_0 : List UInt8 := [42, 182, 1, 76, 42, 3, 181, 1, 79, 42, 16, 247, 181, 1, 82, 42, 180, 0, 55, 3, 184, 1, 85, 3]
abbrev dktX0_findLikely_0 : List UInt8 := dkwX0_findLikely_0 ++ dktX0_findLikely_1
theorem dksX0_findLikely_0 : cX0_findLikely.data.toList.drop 0 = dktX0_findLikely_0 := by decide +kernel
theorem dksX0_findLikely_1 : cX0_findLikely.data.toList.drop 24 = dktX0_findLikely_1 := dk_seg dksX0_findLikely_0 24 rfl rfl
theorem dksX0_findLikely_2 : cX0_findLikely.data.toList.drop 47 = dktX0_findLikely_2 := dk_seg dksX0_findLikely_1 23 rfl rfl
theorem dksX0_findLikely_3 : cX0_findLikely.data.toList.drop 70 = dktX0_findLikely_3 := dk_seg dksX0_findLikely_2 23 rfl rfl
theorem dksX0_findLikely_4 : cX0_findLikely.data.toList.drop 94 = dktX0_findLikely_4 := dk_seg dksX0_findLikely_3 24 rfl rfl
theorem dksX0_findLikely_5 : cX0_findLikely.data.toList.drop 117 = dktX0_findLikely_5 := dk_seg dksX0_findLikely_4 23 rfl rfl
theorem dX0_findLikely_0 : decode cX0_findLikely 0 = .ok (.aload_n 0, 1) := dk_42 (dk_at dksX0_findLikely_0 0 rfl rfl)
theorem dX0_findLikely_1 : decode cX0_findLikely 1 = .ok (.invokevirtual 332, 3) := dk_182 1 76 (dk_at dksX0_findLikely_0 1 rfl rfl)
theorem dX0_findLikely_4 : decode cX0_findLikely 4 = .ok (.aload_n 0, 1) := dk_42 (dk_at dksX0_findLikely_0 4 rfl rfl)
theorem dX0_findLikely_5 : decode cX0_findLikely 5 = .ok (.iconst 0, 1) := dk_3 (dk_at dksX0_findLikely_0 5 rfl rfl)
theorem dX0_findLikely_6 : decode cX0_findLikely 6 = .ok (.putfield 335, 3) := dk_181 1 79 (dk_at dksX0_findLikely_0 6 rfl rfl)
theorem dX0_findLikely_9 : decode cX0_findLikely 9 = .ok (.aload_n 0, 1) := dk_42 (dk_at dksX0_findLikely_0 9 rfl rfl)
theorem dX0_findLikely_10 : decode cX0_findLikely 10 = .ok (.bipush (-9), 2) := dk_16 247 (dk_at dksX0_findLikely_0 10 rfl rfl)
theorem dX0_findLikely_12 : decode cX0_findLikely 12 = .ok (.putfield 338, 3) := dk_181 1 82 (dk_at dksX0_findLikely_0 12 rfl rfl)
theorem dX0_findLikely_15 : decode cX0_findLikely 15 = .ok (.aload_n 0, 1) := dk_42 (dk_at dksX0_findLikely_0 15 rfl rfl)
theorem dX0_findLikely_16 : decode cX0_findLikely 16 = .ok (.getfield 55, 3) := dk_180 0 55 (dk_at dksX0_findLikely_0 16 rfl rfl)
theorem dX0_findLikely_19 : decode cX0_findLikely 19 = .ok (.iconst 0, 1) := dk_3 (dk_at dksX0_findLikely_0 19 rfl rfl)
theorem dX0_findLikely_20 : decode cX0_findLikely 20 = .ok (.invokestatic 341, 3) := dk_184 1 85 (dk_at dksX0_findLikely_0 20 rfl rfl)
theorem dX0_findLikely_23 : decode cX0_findLikely 23 = .ok (.iconst 0, 1) := dk_3 (dk_at dksX0_findLikely_0 23 rfl rfl)
theorem dX0_findLikely_24 : decode cX0_findLikely 24 = .ok (.istore_n 1, 1) := dk_60 (dk_at dksX0_findLikely_1 0 rfl rfl)
theorem dX0_findLikely_25 : decode cX0_findLikely 25 = .ok (.iload_n 1, 1) := dk_27 (dk_at dksX0_findLikely_1 1 rfl rfl)
theorem dX0_findLikely_26 : decode cX0_findLikely 26 = .ok (.iconst 1, 1) := dk_4 (dk_at dksX0_findLikely_1 2 rfl rfl)
theorem dX0_findLikely_27 : decode cX0_findLikely 27 = .ok (.aload_n 0, 1) := dk_42 (dk_at dksX0_findLikely_1 3 rfl rfl)
theorem dX0_findLikely_28 : decode cX0_findLikely 28 = .ok (.getfield 142, 3) := dk_180 0 142 (dk_at dksX0_findLikely_1 4 rfl rfl)
theorem dX0_findLikely_31 : decode cX0_findLikely 31 = .ok (.ishl, 1) := dk_120 (dk_at dksX0_findLikely_1 7 rfl rfl)
theorem dX0_findLikely_32 : decode cX0_findLikely 32 = .ok (.if_icmp .ge 103, 3) := dk_162 0 103 (dk_at dksX0_findLikely_1 8 rfl rfl)
theorem dX0_findLikely_35 : decode cX0_findLikely 35 = .ok (.iload_n 1, 1) := dk_27 (dk_at dksX0_findLikely_1 11 rfl rfl)
theorem dX0_findLikely_36 : decode cX0_findLikely 36 = .ok (.invokestatic 347, 3) := dk_184 1 91 (dk_at dksX0_findLikely_1 12 rfl rfl)
theorem dX0_findLikely_39 : decode cX0_findLikely 39 = .ok (.istore_n 2, 1) := dk_61 (dk_at dksX0_findLikely_1 15 rfl rfl)
theorem dX0_findLikely_40 : decode cX0_findLikely 40 = .ok (.iload_n 2, 1) := dk_28 (dk_at dksX0_findLikely_1 16 rfl rfl)
theorem dX0_findLikely_41 : decode cX0_findLikely 41 = .ok (.iconst 2, 1) := dk_5 (dk_at dksX0_findLikely_1 17 rfl rfl)
theorem dX0_findLikely_42 : decode cX0_findLikely 42 = .ok (.if_icmp .gt 87, 3) := dk_163 0 87 (dk_at dksX0_findLikely_1 18 rfl rfl)
theorem dX0_findLikely_45 : decode cX0_findLikely 45 = .ok (.aload_n 0, 1) := dk_42 (dk_at dksX0_findLikely_1 21 rfl rfl)
theorem dX0_findLikely_46 : decode cX0_findLikely 46 = .ok (.iload_n 1, 1) := dk_27 (dk_at dksX0_findLikely_1 22 rfl rfl)
theorem dX0_findLikely_47 : decode cX0_findLikely 47 = .ok (.invokevirtual 352, 3) := dk_182 1 96 (dk_at dksX0_findLikely_2 0 rfl rfl)
theorem dX0_findLikely_50 : decode cX0_findLikely 50 = .ok (.ifCond .ne 6, 3) := dk_154 0 6 (dk_at dksX0_findLikely_2 3 rfl rfl)
theorem dX0_findLikely_53 : decode cX0_findLikely 53 = .ok (.goto 76, 3) := dk_167 0 76 (dk_at dksX0_findLikely_2 6 rfl rfl)
theorem dX0_findLikely_56 : decode cX0_findLikely 56 = .ok (.aload_n 0, 1) := dk_42 (dk_at dksX0_findLikely_2 9 rfl rfl)
theorem dX0_findLikely_57 : decode cX0_findLikely 57 = .ok (.dup, 1) := dk_89 (dk_at dksX0_findLikely_2 10 rfl rfl)
theorem dX0_findLikely_58 : decode cX0_findLikely 58 = .ok (.getfield 335, 3) := dk_180 1 79 (dk_at dksX0_findLikely_2 11 rfl rfl)
theorem dX0_findLikely_61 : decode cX0_findLikely 61 = .ok (.iconst 1, 1) := dk_4 (dk_at dksX0_findLikely_2 14 rfl rfl)
theorem dX0_findLikely_62 : decode cX0_findLikely 62 = .ok (.iadd, 1) := dk_96 (dk_at dksX0_findLikely_2 15 rfl rfl)
theorem dX0_findLikely_63 : decode cX0_findLikely 63 = .ok (.putfield 335, 3) := dk_181 1 79 (dk_at dksX0_findLikely_2 16 rfl rfl)
theorem dX0_findLikely_66 : decode cX0_findLikely 66 = .ok (.aload_n 0, 1) := dk_42 (dk_at dksX0_findLikely_2 19 rfl rfl)
theorem dX0_findLikely_67 : decode cX0_findLikely 67 = .ok (.getfield 338, 3) := dk_180 1 82 (dk_at dksX0_findLikely_2 20 rfl rfl)
theorem dX0_findLikely_70 : decode cX0_findLikely 70 = .ok (.bipush (-9), 2) := dk_16 247 (dk_at dksX0_findLikely_3 0 rfl rfl)
theorem dX0_findLikely_72 : decode cX0_findLikely 72 = .ok (.if_icmp .eq 14, 3) := dk_159 0 14 (dk_at dksX0_findLikely_3 2 rfl rfl)
theorem dX0_findLikely_75 : decode cX0_findLikely 75 = .ok (.iload_n 2, 1) := dk_28 (dk_at dksX0_findLikely_3 5 rfl rfl)
theorem dX0_findLikely_76 : decode cX0_findLikely 76 = .ok (.aload_n 0, 1) := dk_42 (dk_at dksX0_findLikely_3 6 rfl rfl)
theorem dX0_findLikely_77 : decode cX0_findLikely 77 = .ok (.getfield 338, 3) := dk_180 1 82 (dk_at dksX0_findLikely_3 7 rfl rfl)
theorem dX0_findLikely_80 : decode cX0_findLikely 80 = .ok (.invokestatic 347, 3) := dk_184 1 91 (dk_at dksX0_findLikely_3 10 rfl rfl)
theorem dX0_findLikely_83 : decode cX0_findLikely 83 = .ok (.if_icmp .ge 8, 3) := dk_162 0 8 (dk_at dksX0_findLikely_3 13 rfl rfl)
theorem dX0_findLikely_86 : decode cX0_findLikely 86 = .ok (.aload_n 0, 1) := dk_42 (dk_at dksX0_findLikely_3 16 rfl rfl)
theorem dX0_findLikely_87 : decode cX0_findLikely 87 = .ok (.iload_n 1, 1) := dk_27 (dk_at dksX0_findLikely_3 17 rfl rfl)
theorem dX0_findLikely_88 : decode cX0_findLikely 88 = .ok (.putfield 338, 3) := dk_181 1 82 (dk_at dksX0_findLikely_3 18 rfl rfl)
theorem dX0_findLikely_91 : decode cX0_findLikely 91 = .ok (.iconst 0, 1) := dk_3 (dk_at dksX0_findLikely_3 21 rfl rfl)
theorem dX0_findLikely_92 : decode cX0_findLikely 92 = .ok (.istore_n 3, 1) := dk_62 (dk_at dksX0_findLikely_3 22 rfl rfl)
theorem dX0_findLikely_93 : decode cX0_findLikely 93 = .ok (.iload_n 3, 1) := dk_29 (dk_at dksX0_findLikely_3 23 rfl rfl)
theorem dX0_findLikely_94 : decode cX0_findLikely 94 = .ok (.aload_n 0, 1) := dk_42 (dk_at dksX0_findLikely_4 0 rfl rfl)
theorem dX0_findLikely_95 : decode cX0_findLikely 95 = .ok (.getfield 142, 3) := dk_180 0 142 (dk_at dksX0_findLikely_4 1 rfl rfl)
theorem dX0_findLikely_98 : decode cX0_findLikely 98 = .ok (.if_icmp .ge 31, 3) := dk_162 0 31 (dk_at dksX0_findLikely_4 4 rfl rfl)
theorem dX0_findLikely_101 : decode cX0_findLikely 101 = .ok (.aload_n 0, 1) := dk_42 (dk_at dksX0_findLikely_4 7 rfl rfl)
theorem dX0_findLikely_102 : decode cX0_findLikely 102 = .ok (.getfield 55, 3) := dk_180 0 55 (dk_at dksX0_findLikely_4 8 rfl rfl)
theorem dX0_findLikely_105 : decode cX0_findLikely 105 = .ok (.iload_n 3, 1) := dk_29 (dk_at dksX0_findLikely_4 11 rfl rfl)
theorem dX0_findLikely_106 : decode cX0_findLikely 106 = .ok (.dup2, 1) := dk_92 (dk_at dksX0_findLikely_4 12 rfl rfl)
theorem dX0_findLikely_107 : decode cX0_findLikely 107 = .ok (.iaload, 1) := dk_46 (dk_at dksX0_findLikely_4 13 rfl rfl)
theorem dX0_findLikely_108 : decode cX0_findLikely 108 = .ok (.iload_n 1, 1) := dk_27 (dk_at dksX0_findLikely_4 14 rfl rfl)
theorem dX0_findLikely_109 : decode cX0_findLikely 109 = .ok (.iload_n 3, 1) := dk_29 (dk_at dksX0_findLikely_4 15 rfl rfl)
theorem dX0_findLikely_110 : decode cX0_findLikely 110 = .ok (.invokestatic 324, 3) := dk_184 1 68 (dk_at dksX0_findLikely_4 16 rfl rfl)
theorem dX0_findLikely_113 : decode cX0_findLikely 113 = .ok (.ifCond .eq 7, 3) := dk_153 0 7 (dk_at dksX0_findLikely_4 19 rfl rfl)
theorem dX0_findLikely_116 : decode cX0_findLikely 116 = .ok (.iconst 1, 1) := dk_4 (dk_at dksX0_findLikely_4 22 rfl rfl)
theorem dX0_findLikely_117 : decode cX0_findLikely 117 = .ok (.goto 4, 3) := dk_167 0 4 (dk_at dksX0_findLikely_5 0 rfl rfl)
theorem dX0_findLikely_120 : decode cX0_findLikely 120 = .ok (.iconst 0, 1) := dk_3 (dk_at dksX0_findLikely_5 3 rfl rfl)
theorem dX0_findLikely_121 : decode cX0_findLikely 121 = .ok (.iadd, 1) := dk_96 (dk_at dksX0_findLikely_5 4 rfl rfl)
theorem dX0_findLikely_122 : decode cX0_findLikely 122 = .ok (.iastore, 1) := dk_79 (dk_at dksX0_findLikely_5 5 rfl rfl)
theorem dX0_findLikely_123 : decode cX0_findLikely 123 = .ok (.iinc 3 1, 3) := dk_132 3 1 (dk_at dksX0_findLikely_5 6 rfl rfl)
theorem dX0_findLikely_126 : decode cX0_findLikely 126 = .ok (.goto (-33), 3) := dk_167 255 223 (dk_at dksX0_findLikely_5 9 rfl rfl)
theorem dX0_findLikely_129 : decode cX0_findLikely 129 = .ok (.iinc 1 1, 3) := dk_132 1 1 (dk_at dksX0_findLikely_5 12 rfl rfl)
theorem dX0_findLikely_132 : decode cX0_findLikely 132 = .ok (.goto (-107), 3) := dk_167 255 149 (dk_at dksX0_findLikely_5 15 rfl rfl)
theorem dX0_findLikely_135 : decode cX0_findLikely 135 = .ok (.return_, 1) := dk_177 (dk_at dksX0_findLikely_5 18 rfl rfl)
abbrev cX0_keepTeeth : ByteArray := prog_1_method_51_code
def yX0_keepTeeth : MethodName := ⟨RX0, "keepTeeth", "()V"⟩
def dkwX0_keepTeeth_2 : List UInt8 := [132, 1, 1, 167, 255, 212, 177]
abbrev dktX0_keepTeeth_2 : List UInt8 := dkwX0_keepTeeth_2 ++ []
def dkwX0_keepTeeth_1 : List UInt8 := [185, 0, 191, 2, 0, 192, 0, 113, 180, 0, 201, 3, 42, 180, 0, 52, 6, 27, 104, 6, 184, 1, 62]
abbrev dktX0_keepTeeth_1 : List UInt8 := dkwX0_keepTeeth_1 ++ dktX0_keepTeeth_2
def dkwX0_keepTeeth_0 : List UInt8 := [3, 60, 27, 42, 180, 0, 12, 185, 0, 184, 1, 0, 162, 0, 37, 42, 180, 0, 12, 27]
abbrev dktX0_keepTeeth_0 : List UInt8 := dkwX0_keepTeeth_0 ++ dktX0_keepTeeth_1
theorem dksX0_keepTeeth_0 : cX0_keepTeeth.data.toList.drop 0 = dktX0_keepTeeth_0 := by decide +kernel
theorem dksX0_keepTeeth_1 : cX0_keepTeeth.data.toList.drop 20 = dktX0_keepTeeth_1 := dk_seg dksX0_keepTeeth_0 20 rfl rfl
theorem dksX0_keepTeeth_2 : cX0_keepTeeth.data.toList.drop 43 = dktX0_keepTeeth_2 := dk_seg dksX0_keepTeeth_1 23 rfl rfl
theorem dX0_keepTeeth_0 : decode cX0_keepTeeth 0 = .ok (.iconst 0, 1) := dk_3 (dk_at dksX0_keepTeeth_0 0 rfl rfl)
theorem dX0_keepTeeth_1 : decode cX0_keepTeeth 1 = .ok (.istore_n 1, 1) := dk_60 (dk_at dksX0_keepTeeth_0 1 rfl rfl)
theorem dX0_keepTeeth_2 : decode cX0_keepTeeth 2 = .ok (.iload_n 1, 1) := dk_27 (dk_at dksX0_keepTeeth_0 2 rfl rfl)
theorem dX0_keepTeeth_3 : decode cX0_keepTeeth 3 = .ok (.aload_n 0, 1) := dk_42 (dk_at dksX0_keepTeeth_0 3 rfl rfl)
theorem dX0_keepTeeth_4 : decode cX0_keepTeeth 4 = .ok (.getfield 12, 3) := dk_180 0 12 (dk_at dksX0_keepTeeth_0 4 rfl rfl)
theorem dX0_keepTeeth_7 : decode cX0_keepTeeth 7 = .ok (.invokeinterface 184 1, 5) := by decide +kernel
theorem dX0_keepTeeth_12 : decode cX0_keepTeeth 12 = .ok (.if_icmp .ge 37, 3) := dk_162 0 37 (dk_at dksX0_keepTeeth_0 12 rfl rfl)
theorem dX0_keepTeeth_15 : decode cX0_keepTeeth 15 = .ok (.aload_n 0, 1) := dk_42 (dk_at dksX0_keepTeeth_0 15 rfl rfl)
theorem dX0_keepTeeth_16 : decode cX0_keepTeeth 16 = .ok (.getfield 12, 3) := dk_180 0 12 (dk_at dksX0_keepTeeth_0 16 rfl rfl)
theorem dX0_keepTeeth_19 : decode cX0_keepTeeth 19 = .ok (.iload_n 1, 1) := dk_27 (dk_at dksX0_keepTeeth_0 19 rfl rfl)
theorem dX0_keepTeeth_20 : decode cX0_keepTeeth 20 = .ok (.invokeinterface 191 2, 5) := by decide +kernel
theorem dX0_keepTeeth_25 : decode cX0_keepTeeth 25 = .ok (.checkcast 113, 3) := dk_192 0 113 (dk_at dksX0_keepTeeth_1 5 rfl rfl)
theorem dX0_keepTeeth_28 : decode cX0_keepTeeth 28 = .ok (.getfield 201, 3) := dk_180 0 201 (dk_at dksX0_keepTeeth_1 8 rfl rfl)
theorem dX0_keepTeeth_31 : decode cX0_keepTeeth 31 = .ok (.iconst 0, 1) := dk_3 (dk_at dksX0_keepTeeth_1 11 rfl rfl)
theorem dX0_keepTeeth_32 : decode cX0_keepTeeth 32 = .ok (.aload_n 0, 1) := dk_42 (dk_at dksX0_keepTeeth_1 12 rfl rfl)
theorem dX0_keepTeeth_33 : decode cX0_keepTeeth 33 = .ok (.getfield 52, 3) := dk_180 0 52 (dk_at dksX0_keepTeeth_1 13 rfl rfl)
theorem dX0_keepTeeth_36 : decode cX0_keepTeeth 36 = .ok (.iconst 3, 1) := dk_6 (dk_at dksX0_keepTeeth_1 16 rfl rfl)
theorem dX0_keepTeeth_37 : decode cX0_keepTeeth 37 = .ok (.iload_n 1, 1) := dk_27 (dk_at dksX0_keepTeeth_1 17 rfl rfl)
theorem dX0_keepTeeth_38 : decode cX0_keepTeeth 38 = .ok (.imul, 1) := dk_104 (dk_at dksX0_keepTeeth_1 18 rfl rfl)
theorem dX0_keepTeeth_39 : decode cX0_keepTeeth 39 = .ok (.iconst 3, 1) := dk_6 (dk_at dksX0_keepTeeth_1 19 rfl rfl)
theorem dX0_keepTeeth_40 : decode cX0_keepTeeth 40 = .ok (.invokestatic 318, 3) := dk_184 1 62 (dk_at dksX0_keepTeeth_1 20 rfl rfl)
theorem dX0_keepTeeth_43 : decode cX0_keepTeeth 43 = .ok (.iinc 1 1, 3) := dk_132 1 1 (dk_at dksX0_keepTeeth_2 0 rfl rfl)
theorem dX0_keepTeeth_46 : decode cX0_keepTeeth 46 = .ok (.goto (-44), 3) := dk_167 255 212 (dk_at dksX0_keepTeeth_2 3 rfl rfl)
theorem dX0_keepTeeth_49 : decode cX0_keepTeeth 49 = .ok (.return_, 1) := dk_177 (dk_at dksX0_keepTeeth_2 6 rfl rfl)
abbrev cX0_fits : ByteArray := prog_1_method_54_code
def yX0_fits : MethodName := ⟨RX0, "fits", "(I)Z"⟩
def dkwX0_fits_2 : List UInt8 := [180, 0, 43, 28, 46, 79, 132, 2, 1, 167, 255, 203, 42, 182, 1, 70, 61, 42, 182, 1, 73, 28, 172]
abbrev dktX0_fits_2 : List UInt8 := dkwX0_fits_2 ++ []
def dkwX0_fits_1 : List UInt8 := [180, 0, 37, 28, 46, 185, 0, 191, 2, 0, 192, 0, 113, 180, 0, 201, 42, 180, 0, 40, 28, 46, 42]
abbrev dktX0_fits_1 : List UInt8 := dkwX0_fits_1 ++ dktX0_fits_2
def dkwX0_fits_0 : List UInt8 := [3, 61, 28, 42, 180, 0, 142, 162, 0, 51, 27, 28, 184, 1, 68, 153, 0, 37, 42, 180, 0, 12, 42]
abbrev dktX0_fits_0 : List UInt8 := dkwX0_fits_0 ++ dktX0_fits_1
theorem dksX0_fits_0 : cX0_fits.data.toList.drop 0 = dktX0_fits_0 := by decide +kernel
theorem dksX0_fits_1 : cX0_fits.data.toList.drop 23 = dktX0_fits_1 := dk_seg dksX0_fits_0 23 rfl rfl
theorem dksX0_fits_2 : cX0_fits.data.toList.drop 46 = dktX0_fits_2 := dk_seg dksX0_fits_1 23 rfl rfl
theorem dX0_fits_0 : decode cX0_fits 0 = .ok (.iconst 0, 1) := dk_3 (dk_at dksX0_fits_0 0 rfl rfl)
theorem dX0_fits_1 : decode cX0_fits 1 = .ok (.istore_n 2, 1) := dk_61 (dk_at dksX0_fits_0 1 rfl rfl)
theorem dX0_fits_2 : decode cX0_fits 2 = .ok (.iload_n 2, 1) := dk_28 (dk_at dksX0_fits_0 2 rfl rfl)
theorem dX0_fits_3 : decode cX0_fits 3 = .ok (.aload_n 0, 1) := dk_42 (dk_at dksX0_fits_0 3 rfl rfl)
theorem dX0_fits_4 : decode cX0_fits 4 = .ok (.getfield 142, 3) := dk_180 0 142 (dk_at dksX0_fits_0 4 rfl rfl)
theorem dX0_fits_7 : decode cX0_fits 7 = .ok (.if_icmp .ge 51, 3) := dk_162 0 51 (dk_at dksX0_fits_0 7 rfl rfl)
theorem dX0_fits_10 : decode cX0_fits 10 = .ok (.iload_n 1, 1) := dk_27 (dk_at dksX0_fits_0 10 rfl rfl)
theorem dX0_fits_11 : decode cX0_fits 11 = .ok (.iload_n 2, 1) := dk_28 (dk_at dksX0_fits_0 11 rfl rfl)
theorem dX0_fits_12 : decode cX0_fits 12 = .ok (.invokestatic 324, 3) := dk_184 1 68 (dk_at dksX0_fits_0 12 rfl rfl)
theorem dX0_fits_15 : decode cX0_fits 15 = .ok (.ifCond .eq 37, 3) := dk_153 0 37 (dk_at dksX0_fits_0 15 rfl rfl)
theorem dX0_fits_18 : decode cX0_fits 18 = .ok (.aload_n 0, 1) := dk_42 (dk_at dksX0_fits_0 18 rfl rfl)
theorem dX0_fits_19 : decode cX0_fits 19 = .ok (.getfield 12, 3) := dk_180 0 12 (dk_at dksX0_fits_0 19 rfl rfl)
theorem dX0_fits_22 : decode cX0_fits 22 = .ok (.aload_n 0, 1) := dk_42 (dk_at dksX0_fits_0 22 rfl rfl)
theorem dX0_fits_23 : decode cX0_fits 23 = .ok (.getfield 37, 3) := dk_180 0 37 (dk_at dksX0_fits_1 0 rfl rfl)
theorem dX0_fits_26 : decode cX0_fits 26 = .ok (.iload_n 2, 1) := dk_28 (dk_at dksX0_fits_1 3 rfl rfl)
theorem dX0_fits_27 : decode cX0_fits 27 = .ok (.iaload, 1) := dk_46 (dk_at dksX0_fits_1 4 rfl rfl)
theorem dX0_fits_28 : decode cX0_fits 28 = .ok (.invokeinterface 191 2, 5) := by decide +kernel
theorem dX0_fits_33 : decode cX0_fits 33 = .ok (.checkcast 113, 3) := dk_192 0 113 (dk_at dksX0_fits_1 10 rfl rfl)
theorem dX0_fits_36 : decode cX0_fits 36 = .ok (.getfield 201, 3) := dk_180 0 201 (dk_at dksX0_fits_1 13 rfl rfl)
theorem dX0_fits_39 : decode cX0_fits 39 = .ok (.aload_n 0, 1) := dk_42 (dk_at dksX0_fits_1 16 rfl rfl)
theorem dX0_fits_40 : decode cX0_fits 40 = .ok (.getfield 40, 3) := dk_180 0 40 (dk_at dksX0_fits_1 17 rfl rfl)
theorem dX0_fits_43 : decode cX0_fits 43 = .ok (.iload_n 2, 1) := dk_28 (dk_at dksX0_fits_1 20 rfl rfl)
theorem dX0_fits_44 : decode cX0_fits 44 = .ok (.iaload, 1) := dk_46 (dk_at dksX0_fits_1 21 rfl rfl)
theorem dX0_fits_45 : decode cX0_fits 45 = .ok (.aload_n 0, 1) := dk_42 (dk_at dksX0_fits_1 22 rfl rfl)
theorem dX0_fits_46 : decode cX0_fits 46 = .ok (.getfield 43, 3) := dk_180 0 43 (dk_at dksX0_fits_2 0 rfl rfl)
theorem dX0_fits_49 : decode cX0_fits 49 = .ok (.iload_n 2, 1) := dk_28 (dk_at dksX0_fits_2 3 rfl rfl)
theorem dX0_fits_50 : decode cX0_fits 50 = .ok (.iaload, 1) := dk_46 (dk_at dksX0_fits_2 4 rfl rfl)
theorem dX0_fits_51 : decode cX0_fits 51 = .ok (.iastore, 1) := dk_79 (dk_at dksX0_fits_2 5 rfl rfl)
theorem dX0_fits_52 : decode cX0_fits 52 = .ok (.iinc 2 1, 3) := dk_132 2 1 (dk_at dksX0_fits_2 6 rfl rfl)
theorem dX0_fits_55 : decode cX0_fits 55 = .ok (.goto (-53), 3) := dk_167 255 203 (dk_at dksX0_fits_2 9 rfl rfl)
theorem dX0_fits_58 : decode cX0_fits 58 = .ok (.aload_n 0, 1) := dk_42 (dk_at dksX0_fits_2 12 rfl rfl)
theorem dX0_fits_59 : decode cX0_fits 59 = .ok (.invokevirtual 326, 3) := dk_182 1 70 (dk_at dksX0_fits_2 13 rfl rfl)
theorem dX0_fits_62 : decode cX0_fits 62 = .ok (.istore_n 2, 1) := dk_61 (dk_at dksX0_fits_2 16 rfl rfl)
theorem dX0_fits_63 : decode cX0_fits 63 = .ok (.aload_n 0, 1) := dk_42 (dk_at dksX0_fits_2 17 rfl rfl)
theorem dX0_fits_64 : decode cX0_fits 64 = .ok (.invokevirtual 329, 3) := dk_182 1 73 (dk_at dksX0_fits_2 18 rfl rfl)
theorem dX0_fits_67 : decode cX0_fits 67 = .ok (.iload_n 2, 1) := dk_28 (dk_at dksX0_fits_2 21 rfl rfl)
theorem dX0_fits_68 : decode cX0_fits 68 = .ok (.ireturn, 1) := dk_172 (dk_at dksX0_fits_2 22 rfl rfl)
abbrev cX0_has : ByteArray := prog_1_method_4_code
def yX0_has : MethodName := ⟨RX0, "has", "(II)Z"⟩
def dkwX0_has_0 : List UInt8 := [26, 27, 122, 4, 126, 4, 160, 0, 7, 4, 167, 0, 4, 3, 172]
abbrev dktX0_has_0 : List UInt8 := dkwX0_has_0 ++ []
theorem dksX0_has_0 : cX0_has.data.toList.drop 0 = dktX0_has_0 := by decide +kernel
theorem dX0_has_0 : decode cX0_has 0 = .ok (.iload_n 0, 1) := dk_26 (dk_at dksX0_has_0 0 rfl rfl)
theorem dX0_has_1 : decode cX0_has 1 = .ok (.iload_n 1, 1) := dk_27 (dk_at dksX0_has_0 1 rfl rfl)
theorem dX0_has_2 : decode cX0_has 2 = .ok (.ishr, 1) := dk_122 (dk_at dksX0_has_0 2 rfl rfl)
theorem dX0_has_3 : decode cX0_has 3 = .ok (.iconst 1, 1) := dk_4 (dk_at dksX0_has_0 3 rfl rfl)
theorem dX0_has_4 : decode cX0_has 4 = .ok (.iand, 1) := dk_126 (dk_at dksX0_has_0 4 rfl rfl)
theorem dX0_has_5 : decode cX0_has 5 = .ok (.iconst 1, 1) := dk_4 (dk_at dksX0_has_0 5 rfl rfl)
theorem dX0_has_6 : decode cX0_has 6 = .ok (.if_icmp .ne 7, 3) := dk_160 0 7 (dk_at dksX0_has_0 6 rfl rfl)
theorem dX0_has_9 : decode cX0_has 9 = .ok (.iconst 1, 1) := dk_4 (dk_at dksX0_has_0 9 rfl rfl)
theorem dX0_has_10 : decode cX0_has 10 = .ok (.goto 4, 3) := dk_167 0 4 (dk_at dksX0_has_0 10 rfl rfl)
theorem dX0_has_13 : decode cX0_has 13 = .ok (.iconst 0, 1) := dk_3 (dk_at dksX0_has_0 13 rfl rfl)
theorem dX0_has_14 : decode cX0_has 14 = .ok (.ireturn, 1) := dk_172 (dk_at dksX0_has_0 14 rfl rfl)
abbrev cX0_isRead : ByteArray := prog_1_method_53_code
def yX0_isRead : MethodName := ⟨RX0, "isRead", "()Z"⟩
def dkwX0_isRead_2 : List UInt8 := [28, 46, 160, 0, 7, 4, 167, 0, 4, 3, 60, 132, 2, 1, 167, 255, 202, 27, 172]
abbrev dktX0_isRead_2 : List UInt8 := dkwX0_isRead_2 ++ []
def dkwX0_isRead_1 : List UInt8 := [28, 46, 42, 180, 1, 25, 162, 0, 27, 42, 180, 0, 31, 42, 180, 0, 46, 28, 46, 46, 42, 180, 0, 49]
abbrev dktX0_isRead_1 : List UInt8 := dkwX0_isRead_1 ++ dktX0_isRead_2
def dkwX0_isRead_0 : List UInt8 := [42, 182, 1, 35, 4, 60, 3, 61, 28, 42, 180, 0, 145, 162, 0, 52, 27, 153, 0, 48, 42, 180, 0, 46]
abbrev dktX0_isRead_0 : List UInt8 := dkwX0_isRead_0 ++ dktX0_isRead_1
theorem dksX0_isRead_0 : cX0_isRead.data.toList.drop 0 = dktX0_isRead_0 := by decide +kernel
theorem dksX0_isRead_1 : cX0_isRead.data.toList.drop 24 = dktX0_isRead_1 := dk_seg dksX0_isRead_0 24 rfl rfl
theorem dksX0_isRead_2 : cX0_isRead.data.toList.drop 48 = dktX0_isRead_2 := dk_seg dksX0_isRead_1 24 rfl rfl
theorem dX0_isRead_0 : decode cX0_isRead 0 = .ok (.aload_n 0, 1) := dk_42 (dk_at dksX0_isRead_0 0 rfl rfl)
theorem dX0_isRead_1 : decode cX0_isRead 1 = .ok (.invokevirtual 291, 3) := dk_182 1 35 (dk_at dksX0_isRead_0 1 rfl rfl)
theorem dX0_isRead_4 : decode cX0_isRead 4 = .ok (.iconst 1, 1) := dk_4 (dk_at dksX0_isRead_0 4 rfl rfl)
theorem dX0_isRead_5 : decode cX0_isRead 5 = .ok (.istore_n 1, 1) := dk_60 (dk_at dksX0_isRead_0 5 rfl rfl)
theorem dX0_isRead_6 : decode cX0_isRead 6 = .ok (.iconst 0, 1) := dk_3 (dk_at dksX0_isRead_0 6 rfl rfl)
theorem dX0_isRead_7 : decode cX0_isRead 7 = .ok (.istore_n 2, 1) := dk_61 (dk_at dksX0_isRead_0 7 rfl rfl)
theorem dX0_isRead_8 : decode cX0_isRead 8 = .ok (.iload_n 2, 1) := dk_28 (dk_at dksX0_isRead_0 8 rfl rfl)
theorem dX0_isRead_9 : decode cX0_isRead 9 = .ok (.aload_n 0, 1) := dk_42 (dk_at dksX0_isRead_0 9 rfl rfl)
theorem dX0_isRead_10 : decode cX0_isRead 10 = .ok (.getfield 145, 3) := dk_180 0 145 (dk_at dksX0_isRead_0 10 rfl rfl)
theorem dX0_isRead_13 : decode cX0_isRead 13 = .ok (.if_icmp .ge 52, 3) := dk_162 0 52 (dk_at dksX0_isRead_0 13 rfl rfl)
theorem dX0_isRead_16 : decode cX0_isRead 16 = .ok (.iload_n 1, 1) := dk_27 (dk_at dksX0_isRead_0 16 rfl rfl)
theorem dX0_isRead_17 : decode cX0_isRead 17 = .ok (.ifCond .eq 48, 3) := dk_153 0 48 (dk_at dksX0_isRead_0 17 rfl rfl)
theorem dX0_isRead_20 : decode cX0_isRead 20 = .ok (.aload_n 0, 1) := dk_42 (dk_at dksX0_isRead_0 20 rfl rfl)
theorem dX0_isRead_21 : decode cX0_isRead 21 = .ok (.getfield 46, 3) := dk_180 0 46 (dk_at dksX0_isRead_0 21 rfl rfl)
theorem dX0_isRead_24 : decode cX0_isRead 24 = .ok (.iload_n 2, 1) := dk_28 (dk_at dksX0_isRead_1 0 rfl rfl)
theorem dX0_isRead_25 : decode cX0_isRead 25 = .ok (.iaload, 1) := dk_46 (dk_at dksX0_isRead_1 1 rfl rfl)
theorem dX0_isRead_26 : decode cX0_isRead 26 = .ok (.aload_n 0, 1) := dk_42 (dk_at dksX0_isRead_1 2 rfl rfl)
theorem dX0_isRead_27 : decode cX0_isRead 27 = .ok (.getfield 281, 3) := dk_180 1 25 (dk_at dksX0_isRead_1 3 rfl rfl)
theorem dX0_isRead_30 : decode cX0_isRead 30 = .ok (.if_icmp .ge 27, 3) := dk_162 0 27 (dk_at dksX0_isRead_1 6 rfl rfl)
theorem dX0_isRead_33 : decode cX0_isRead 33 = .ok (.aload_n 0, 1) := dk_42 (dk_at dksX0_isRead_1 9 rfl rfl)
theorem dX0_isRead_34 : decode cX0_isRead 34 = .ok (.getfield 31, 3) := dk_180 0 31 (dk_at dksX0_isRead_1 10 rfl rfl)
theorem dX0_isRead_37 : decode cX0_isRead 37 = .ok (.aload_n 0, 1) := dk_42 (dk_at dksX0_isRead_1 13 rfl rfl)
theorem dX0_isRead_38 : decode cX0_isRead 38 = .ok (.getfield 46, 3) := dk_180 0 46 (dk_at dksX0_isRead_1 14 rfl rfl)
theorem dX0_isRead_41 : decode cX0_isRead 41 = .ok (.iload_n 2, 1) := dk_28 (dk_at dksX0_isRead_1 17 rfl rfl)
theorem dX0_isRead_42 : decode cX0_isRead 42 = .ok (.iaload, 1) := dk_46 (dk_at dksX0_isRead_1 18 rfl rfl)
theorem dX0_isRead_43 : decode cX0_isRead 43 = .ok (.iaload, 1) := dk_46 (dk_at dksX0_isRead_1 19 rfl rfl)
theorem dX0_isRead_44 : decode cX0_isRead 44 = .ok (.aload_n 0, 1) := dk_42 (dk_at dksX0_isRead_1 20 rfl rfl)
theorem dX0_isRead_45 : decode cX0_isRead 45 = .ok (.getfield 49, 3) := dk_180 0 49 (dk_at dksX0_isRead_1 21 rfl rfl)
theorem dX0_isRead_48 : decode cX0_isRead 48 = .ok (.iload_n 2, 1) := dk_28 (dk_at dksX0_isRead_2 0 rfl rfl)
theorem dX0_isRead_49 : decode cX0_isRead 49 = .ok (.iaload, 1) := dk_46 (dk_at dksX0_isRead_2 1 rfl rfl)
theorem dX0_isRead_50 : decode cX0_isRead 50 = .ok (.if_icmp .ne 7, 3) := dk_160 0 7 (dk_at dksX0_isRead_2 2 rfl rfl)
theorem dX0_isRead_53 : decode cX0_isRead 53 = .ok (.iconst 1, 1) := dk_4 (dk_at dksX0_isRead_2 5 rfl rfl)
theorem dX0_isRead_54 : decode cX0_isRead 54 = .ok (.goto 4, 3) := dk_167 0 4 (dk_at dksX0_isRead_2 6 rfl rfl)
theorem dX0_isRead_57 : decode cX0_isRead 57 = .ok (.iconst 0, 1) := dk_3 (dk_at dksX0_isRead_2 9 rfl rfl)
theorem dX0_isRead_58 : decode cX0_isRead 58 = .ok (.istore_n 1, 1) := dk_60 (dk_at dksX0_isRead_2 10 rfl rfl)
theorem dX0_isRead_59 : decode cX0_isRead 59 = .ok (.iinc 2 1, 3) := dk_132 2 1 (dk_at dksX0_isRead_2 11 rfl rfl)
theorem dX0_isRead_62 : decode cX0_isRead 62 = .ok (.goto (-54), 3) := dk_167 255 202 (dk_at dksX0_isRead_2 14 rfl rfl)
theorem dX0_isRead_65 : decode cX0_isRead 65 = .ok (.iload_n 1, 1) := dk_27 (dk_at dksX0_isRead_2 17 rfl rfl)
theorem dX0_isRead_66 : decode cX0_isRead 66 = .ok (.ireturn, 1) := dk_172 (dk_at dksX0_isRead_2 18 rfl rfl)
abbrev cX0_bringTeeth : ByteArray := prog_1_method_52_code
def yX0_bringTeeth : MethodName := ⟨RX0, "bringTeeth", "()V"⟩
def dkwX0_bringTeeth_2 : List UInt8 := [167, 255, 212, 177]
abbrev dktX0_bringTeeth_2 : List UInt8 := dkwX0_bringTeeth_2 ++ []
def dkwX0_bringTeeth_1 : List UInt8 := [180, 0, 12, 27, 185, 0, 191, 2, 0, 192, 0, 113, 180, 0, 201, 3, 6, 184, 1, 62, 132, 1, 1]
abbrev dktX0_bringTeeth_1 : List UInt8 := dkwX0_bringTeeth_1 ++ dktX0_bringTeeth_2
def dkwX0_bringTeeth_0 : List UInt8 := [3, 60, 27, 42, 180, 0, 12, 185, 0, 184, 1, 0, 162, 0, 37, 42, 180, 0, 52, 6, 27, 104, 42]
abbrev dktX0_bringTeeth_0 : List UInt8 := dkwX0_bringTeeth_0 ++ dktX0_bringTeeth_1
theorem dksX0_bringTeeth_0 : cX0_bringTeeth.data.toList.drop 0 = dktX0_bringTeeth_0 := by decide +kernel
theorem dksX0_bringTeeth_1 : cX0_bringTeeth.data.toList.drop 23 = dktX0_bringTeeth_1 := dk_seg dksX0_bringTeeth_0 23 rfl rfl
theorem dksX0_bringTeeth_2 : cX0_bringTeeth.data.toList.drop 46 = dktX0_bringTeeth_2 := dk_seg dksX0_bringTeeth_1 23 rfl rfl
theorem dX0_bringTeeth_0 : decode cX0_bringTeeth 0 = .ok (.iconst 0, 1) := dk_3 (dk_at dksX0_bringTeeth_0 0 rfl rfl)
theorem dX0_bringTeeth_1 : decode cX0_bringTeeth 1 = .ok (.istore_n 1, 1) := dk_60 (dk_at dksX0_bringTeeth_0 1 rfl rfl)
theorem dX0_bringTeeth_2 : decode cX0_bringTeeth 2 = .ok (.iload_n 1, 1) := dk_27 (dk_at dksX0_bringTeeth_0 2 rfl rfl)
theorem dX0_bringTeeth_3 : decode cX0_bringTeeth 3 = .ok (.aload_n 0, 1) := dk_42 (dk_at dksX0_bringTeeth_0 3 rfl rfl)
theorem dX0_bringTeeth_4 : decode cX0_bringTeeth 4 = .ok (.getfield 12, 3) := dk_180 0 12 (dk_at dksX0_bringTeeth_0 4 rfl rfl)
theorem dX0_bringTeeth_7 : decode cX0_bringTeeth 7 = .ok (.invokeinterface 184 1, 5) := by decide +kernel
theorem dX0_bringTeeth_12 : decode cX0_bringTeeth 12 = .ok (.if_icmp .ge 37, 3) := dk_162 0 37 (dk_at dksX0_bringTeeth_0 12 rfl rfl)
theorem dX0_bringTeeth_15 : decode cX0_bringTeeth 15 = .ok (.aload_n 0, 1) := dk_42 (dk_at dksX0_bringTeeth_0 15 rfl rfl)
theorem dX0_bringTeeth_16 : decode cX0_bringTeeth 16 = .ok (.getfield 52, 3) := dk_180 0 52 (dk_at dksX0_bringTeeth_0 16 rfl rfl)
theorem dX0_bringTeeth_19 : decode cX0_bringTeeth 19 = .ok (.iconst 3, 1) := dk_6 (dk_at dksX0_bringTeeth_0 19 rfl rfl)
theorem dX0_bringTeeth_20 : decode cX0_bringTeeth 20 = .ok (.iload_n 1, 1) := dk_27 (dk_at dksX0_bringTeeth_0 20 rfl rfl)
theorem dX0_bringTeeth_21 : decode cX0_bringTeeth 21 = .ok (.imul, 1) := dk_104 (dk_at dksX0_bringTeeth_0 21 rfl rfl)
theorem dX0_bringTeeth_22 : decode cX0_bringTeeth 22 = .ok (.aload_n 0, 1) := dk_42 (dk_at dksX0_bringTeeth_0 22 rfl rfl)
theorem dX0_bringTeeth_23 : decode cX0_bringTeeth 23 = .ok (.getfield 12, 3) := dk_180 0 12 (dk_at dksX0_bringTeeth_1 0 rfl rfl)
theorem dX0_bringTeeth_26 : decode cX0_bringTeeth 26 = .ok (.iload_n 1, 1) := dk_27 (dk_at dksX0_bringTeeth_1 3 rfl rfl)
theorem dX0_bringTeeth_27 : decode cX0_bringTeeth 27 = .ok (.invokeinterface 191 2, 5) := by decide +kernel
theorem dX0_bringTeeth_32 : decode cX0_bringTeeth 32 = .ok (.checkcast 113, 3) := dk_192 0 113 (dk_at dksX0_bringTeeth_1 9 rfl rfl)
theorem dX0_bringTeeth_35 : decode cX0_bringTeeth 35 = .ok (.getfield 201, 3) := dk_180 0 201 (dk_at dksX0_bringTeeth_1 12 rfl rfl)
theorem dX0_bringTeeth_38 : decode cX0_bringTeeth 38 = .ok (.iconst 0, 1) := dk_3 (dk_at dksX0_bringTeeth_1 15 rfl rfl)
theorem dX0_bringTeeth_39 : decode cX0_bringTeeth 39 = .ok (.iconst 3, 1) := dk_6 (dk_at dksX0_bringTeeth_1 16 rfl rfl)
theorem dX0_bringTeeth_40 : decode cX0_bringTeeth 40 = .ok (.invokestatic 318, 3) := dk_184 1 62 (dk_at dksX0_bringTeeth_1 17 rfl rfl)
theorem dX0_bringTeeth_43 : decode cX0_bringTeeth 43 = .ok (.iinc 1 1, 3) := dk_132 1 1 (dk_at dksX0_bringTeeth_1 20 rfl rfl)
theorem dX0_bringTeeth_46 : decode cX0_bringTeeth 46 = .ok (.goto (-44), 3) := dk_167 255 212 (dk_at dksX0_bringTeeth_2 0 rfl rfl)
theorem dX0_bringTeeth_49 : decode cX0_bringTeeth 49 = .ok (.return_, 1) := dk_177 (dk_at dksX0_bringTeeth_2 3 rfl rfl)
abbrev cX0_each : ByteArray := prog_1_method_57_code
def yX0_each : MethodName := ⟨RX0, "each", "(I)I"⟩
def dkwX0_each_1 : List UInt8 := [42, 180, 0, 55, 27, 46, 172]
abbrev dktX0_each_1 : List UInt8 := dkwX0_each_1 ++ []
def dkwX0_each_0 : List UInt8 := [42, 27, 182, 1, 59, 154, 0, 5, 2, 172, 42, 182, 1, 32, 154, 0, 6, 16, 253, 172, 42, 182, 1, 99]
abbrev dktX0_each_0 : List UInt8 := dkwX0_each_0 ++ dktX0_each_1
theorem dksX0_each_0 : cX0_each.data.toList.drop 0 = dktX0_each_0 := by decide +kernel
theorem dksX0_each_1 : cX0_each.data.toList.drop 24 = dktX0_each_1 := dk_seg dksX0_each_0 24 rfl rfl
theorem dX0_each_0 : decode cX0_each 0 = .ok (.aload_n 0, 1) := dk_42 (dk_at dksX0_each_0 0 rfl rfl)
theorem dX0_each_1 : decode cX0_each 1 = .ok (.iload_n 1, 1) := dk_27 (dk_at dksX0_each_0 1 rfl rfl)
theorem dX0_each_2 : decode cX0_each 2 = .ok (.invokevirtual 315, 3) := dk_182 1 59 (dk_at dksX0_each_0 2 rfl rfl)
theorem dX0_each_5 : decode cX0_each 5 = .ok (.ifCond .ne 5, 3) := dk_154 0 5 (dk_at dksX0_each_0 5 rfl rfl)
theorem dX0_each_8 : decode cX0_each 8 = .ok (.iconst (-1), 1) := dk_2 (dk_at dksX0_each_0 8 rfl rfl)
theorem dX0_each_9 : decode cX0_each 9 = .ok (.ireturn, 1) := dk_172 (dk_at dksX0_each_0 9 rfl rfl)
theorem dX0_each_10 : decode cX0_each 10 = .ok (.aload_n 0, 1) := dk_42 (dk_at dksX0_each_0 10 rfl rfl)
theorem dX0_each_11 : decode cX0_each 11 = .ok (.invokevirtual 288, 3) := dk_182 1 32 (dk_at dksX0_each_0 11 rfl rfl)
theorem dX0_each_14 : decode cX0_each 14 = .ok (.ifCond .ne 6, 3) := dk_154 0 6 (dk_at dksX0_each_0 14 rfl rfl)
theorem dX0_each_17 : decode cX0_each 17 = .ok (.bipush (-3), 2) := dk_16 253 (dk_at dksX0_each_0 17 rfl rfl)
theorem dX0_each_19 : decode cX0_each 19 = .ok (.ireturn, 1) := dk_172 (dk_at dksX0_each_0 19 rfl rfl)
theorem dX0_each_20 : decode cX0_each 20 = .ok (.aload_n 0, 1) := dk_42 (dk_at dksX0_each_0 20 rfl rfl)
theorem dX0_each_21 : decode cX0_each 21 = .ok (.invokevirtual 355, 3) := dk_182 1 99 (dk_at dksX0_each_0 21 rfl rfl)
theorem dX0_each_24 : decode cX0_each 24 = .ok (.aload_n 0, 1) := dk_42 (dk_at dksX0_each_1 0 rfl rfl)
theorem dX0_each_25 : decode cX0_each 25 = .ok (.getfield 55, 3) := dk_180 0 55 (dk_at dksX0_each_1 1 rfl rfl)
theorem dX0_each_28 : decode cX0_each 28 = .ok (.iload_n 1, 1) := dk_27 (dk_at dksX0_each_1 4 rfl rfl)
theorem dX0_each_29 : decode cX0_each 29 = .ok (.iaload, 1) := dk_46 (dk_at dksX0_each_1 5 rfl rfl)
theorem dX0_each_30 : decode cX0_each 30 = .ok (.ireturn, 1) := dk_172 (dk_at dksX0_each_1 6 rfl rfl)
abbrev cX0_act : ByteArray := prog_1_method_61_code
def yX0_act : MethodName := ⟨RX0, "act", "(II)I"⟩
def dkwX0_act_2 : List UInt8 := [172]
abbrev dktX0_act_2 : List UInt8 := dkwX0_act_2 ++ []
def dkwX0_act_1 : List UInt8 := [180, 0, 12, 27, 185, 0, 191, 2, 0, 192, 0, 113, 28, 182, 1, 105, 153, 0, 7, 4, 167, 0, 4, 3]
abbrev dktX0_act_1 : List UInt8 := dkwX0_act_1 ++ dktX0_act_2
def dkwX0_act_0 : List UInt8 := [42, 27, 182, 0, 188, 154, 0, 5, 2, 172, 28, 184, 1, 102, 154, 0, 6, 16, 254, 172, 42, 42]
abbrev dktX0_act_0 : List UInt8 := dkwX0_act_0 ++ dktX0_act_1
theorem dksX0_act_0 : cX0_act.data.toList.drop 0 = dktX0_act_0 := by decide +kernel
theorem dksX0_act_1 : cX0_act.data.toList.drop 22 = dktX0_act_1 := dk_seg dksX0_act_0 22 rfl rfl
theorem dksX0_act_2 : cX0_act.data.toList.drop 46 = dktX0_act_2 := dk_seg dksX0_act_1 24 rfl rfl
theorem dX0_act_0 : decode cX0_act 0 = .ok (.aload_n 0, 1) := dk_42 (dk_at dksX0_act_0 0 rfl rfl)
theorem dX0_act_1 : decode cX0_act 1 = .ok (.iload_n 1, 1) := dk_27 (dk_at dksX0_act_0 1 rfl rfl)
theorem dX0_act_2 : decode cX0_act 2 = .ok (.invokevirtual 188, 3) := dk_182 0 188 (dk_at dksX0_act_0 2 rfl rfl)
theorem dX0_act_5 : decode cX0_act 5 = .ok (.ifCond .ne 5, 3) := dk_154 0 5 (dk_at dksX0_act_0 5 rfl rfl)
theorem dX0_act_8 : decode cX0_act 8 = .ok (.iconst (-1), 1) := dk_2 (dk_at dksX0_act_0 8 rfl rfl)
theorem dX0_act_9 : decode cX0_act 9 = .ok (.ireturn, 1) := dk_172 (dk_at dksX0_act_0 9 rfl rfl)
theorem dX0_act_10 : decode cX0_act 10 = .ok (.iload_n 2, 1) := dk_28 (dk_at dksX0_act_0 10 rfl rfl)
theorem dX0_act_11 : decode cX0_act 11 = .ok (.invokestatic 358, 3) := dk_184 1 102 (dk_at dksX0_act_0 11 rfl rfl)
theorem dX0_act_14 : decode cX0_act 14 = .ok (.ifCond .ne 6, 3) := dk_154 0 6 (dk_at dksX0_act_0 14 rfl rfl)
theorem dX0_act_17 : decode cX0_act 17 = .ok (.bipush (-2), 2) := dk_16 254 (dk_at dksX0_act_0 17 rfl rfl)
theorem dX0_act_19 : decode cX0_act 19 = .ok (.ireturn, 1) := dk_172 (dk_at dksX0_act_0 19 rfl rfl)
theorem dX0_act_20 : decode cX0_act 20 = .ok (.aload_n 0, 1) := dk_42 (dk_at dksX0_act_0 20 rfl rfl)
theorem dX0_act_21 : decode cX0_act 21 = .ok (.aload_n 0, 1) := dk_42 (dk_at dksX0_act_0 21 rfl rfl)
theorem dX0_act_22 : decode cX0_act 22 = .ok (.getfield 12, 3) := dk_180 0 12 (dk_at dksX0_act_1 0 rfl rfl)
theorem dX0_act_25 : decode cX0_act 25 = .ok (.iload_n 1, 1) := dk_27 (dk_at dksX0_act_1 3 rfl rfl)
theorem dX0_act_26 : decode cX0_act 26 = .ok (.invokeinterface 191 2, 5) := by decide +kernel
theorem dX0_act_31 : decode cX0_act 31 = .ok (.checkcast 113, 3) := dk_192 0 113 (dk_at dksX0_act_1 9 rfl rfl)
theorem dX0_act_34 : decode cX0_act 34 = .ok (.iload_n 2, 1) := dk_28 (dk_at dksX0_act_1 12 rfl rfl)
theorem dX0_act_35 : decode cX0_act 35 = .ok (.invokevirtual 361, 3) := dk_182 1 105 (dk_at dksX0_act_1 13 rfl rfl)
theorem dX0_act_38 : decode cX0_act 38 = .ok (.ifCond .eq 7, 3) := dk_153 0 7 (dk_at dksX0_act_1 16 rfl rfl)
theorem dX0_act_41 : decode cX0_act 41 = .ok (.iconst 1, 1) := dk_4 (dk_at dksX0_act_1 19 rfl rfl)
theorem dX0_act_42 : decode cX0_act 42 = .ok (.goto 4, 3) := dk_167 0 4 (dk_at dksX0_act_1 20 rfl rfl)
theorem dX0_act_45 : decode cX0_act 45 = .ok (.iconst 0, 1) := dk_3 (dk_at dksX0_act_1 23 rfl rfl)
theorem dX0_act_46 : decode cX0_act 46 = .ok (.ireturn, 1) := dk_172 (dk_at dksX0_act_2 0 rfl rfl)
abbrev cX0_isAct : ByteArray := prog_1_method_60_code
def yX0_isAct : MethodName := ⟨RX0, "isAct", "(I)Z"⟩
def dkwX0_isAct_0 : List UInt8 := [26, 133, 9, 20, 1, 51, 184, 0, 76, 172]
abbrev dktX0_isAct_0 : List UInt8 := dkwX0_isAct_0 ++ []
theorem dksX0_isAct_0 : cX0_isAct.data.toList.drop 0 = dktX0_isAct_0 := by decide +kernel
theorem dX0_isAct_0 : decode cX0_isAct 0 = .ok (.iload_n 0, 1) := dk_26 (dk_at dksX0_isAct_0 0 rfl rfl)
theorem dX0_isAct_1 : decode cX0_isAct 1 = .ok (.i2l, 1) := dk_133 (dk_at dksX0_isAct_0 1 rfl rfl)
theorem dX0_isAct_2 : decode cX0_isAct 2 = .ok (.lconst 0, 1) := dk_9 (dk_at dksX0_isAct_0 2 rfl rfl)
theorem dX0_isAct_3 : decode cX0_isAct 3 = .ok (.ldc2_w 307, 3) := dk_20 1 51 (dk_at dksX0_isAct_0 3 rfl rfl)
theorem dX0_isAct_6 : decode cX0_isAct 6 = .ok (.invokestatic 76, 3) := dk_184 0 76 (dk_at dksX0_isAct_0 6 rfl rfl)
theorem dX0_isAct_9 : decode cX0_isAct 9 = .ok (.ireturn, 1) := dk_172 (dk_at dksX0_isAct_0 9 rfl rfl)
abbrev cX0_isDone : ByteArray := prog_1_method_58_code
def yX0_isDone : MethodName := ⟨RX0, "isDone", "(LSawLine$Tooth;I)Z"⟩
def dkwX0_isDone_8 : List UInt8 := [45, 5, 92, 46, 28, 154, 0, 7, 5, 167, 0, 4, 3, 96, 79, 4, 172]
abbrev dktX0_isDone_8 : List UInt8 := dkwX0_isDone_8 ++ []
def dkwX0_isDone_7 : List UInt8 := [6, 160, 0, 7, 3, 167, 0, 18, 28, 154, 0, 11, 45, 4, 46, 4, 100, 167, 0, 6, 45, 4, 46, 79]
abbrev dktX0_isDone_7 : List UInt8 := dkwX0_isDone_7 ++ dktX0_isDone_8
def dkwX0_isDone_6 : List UInt8 := [28, 4, 160, 0, 7, 2, 167, 0, 13, 28, 5, 160, 0, 7, 4, 167, 0, 4, 3, 96, 79, 45, 4, 28]
abbrev dktX0_isDone_6 : List UInt8 := dkwX0_isDone_6 ++ dktX0_isDone_7
def dkwX0_isDone_5 : List UInt8 := [45, 4, 46, 158, 0, 7, 4, 167, 0, 4, 3, 54, 4, 21, 4, 154, 0, 5, 3, 172, 45, 3, 92, 46]
abbrev dktX0_isDone_5 : List UInt8 := dkwX0_isDone_5 ++ dktX0_isDone_6
def dkwX0_isDone_4 : List UInt8 := [3, 46, 16, 9, 162, 0, 14, 43, 182, 0, 198, 153, 0, 7, 4, 167, 0, 4, 3, 54, 4, 167, 0, 16]
abbrev dktX0_isDone_4 : List UInt8 := dkwX0_isDone_4 ++ dktX0_isDone_5
def dkwX0_isDone_3 : List UInt8 := [45, 3, 46, 158, 0, 14, 43, 182, 0, 198, 153, 0, 7, 4, 167, 0, 4, 3, 54, 4, 167, 0, 41, 45]
abbrev dktX0_isDone_3 : List UInt8 := dkwX0_isDone_3 ++ dktX0_isDone_4
def dkwX0_isDone_2 : List UInt8 := [45, 5, 46, 16, 7, 163, 0, 13, 45, 4, 46, 158, 0, 7, 4, 167, 0, 4, 3, 54, 4, 167, 0, 64]
abbrev dktX0_isDone_2 : List UInt8 := dkwX0_isDone_2 ++ dktX0_isDone_3
def dkwX0_isDone_1 : List UInt8 := [170, 0, 0, 0, 0, 98, 0, 0, 0, 0, 0, 0, 0, 2, 0, 0, 0, 26, 0, 0, 0, 50, 0, 0, 0, 73]
abbrev dktX0_isDone_1 : List UInt8 := dkwX0_isDone_1 ++ dktX0_isDone_2
def dkwX0_isDone_0 : List UInt8 := [43, 180, 0, 201, 78, 28]
abbrev dktX0_isDone_0 : List UInt8 := dkwX0_isDone_0 ++ dktX0_isDone_1
theorem dksX0_isDone_0 : cX0_isDone.data.toList.drop 0 = dktX0_isDone_0 := by decide +kernel
theorem dksX0_isDone_1 : cX0_isDone.data.toList.drop 6 = dktX0_isDone_1 := dk_seg dksX0_isDone_0 6 rfl rfl
theorem dksX0_isDone_2 : cX0_isDone.data.toList.drop 32 = dktX0_isDone_2 := dk_seg dksX0_isDone_1 26 rfl rfl
theorem dksX0_isDone_3 : cX0_isDone.data.toList.drop 56 = dktX0_isDone_3 := dk_seg dksX0_isDone_2 24 rfl rfl
theorem dksX0_isDone_4 : cX0_isDone.data.toList.drop 80 = dktX0_isDone_4 := dk_seg dksX0_isDone_3 24 rfl rfl
theorem dksX0_isDone_5 : cX0_isDone.data.toList.drop 104 = dktX0_isDone_5 := dk_seg dksX0_isDone_4 24 rfl rfl
theorem dksX0_isDone_6 : cX0_isDone.data.toList.drop 128 = dktX0_isDone_6 := dk_seg dksX0_isDone_5 24 rfl rfl
theorem dksX0_isDone_7 : cX0_isDone.data.toList.drop 152 = dktX0_isDone_7 := dk_seg dksX0_isDone_6 24 rfl rfl
theorem dksX0_isDone_8 : cX0_isDone.data.toList.drop 176 = dktX0_isDone_8 := dk_seg dksX0_isDone_7 24 rfl rfl
theorem dX0_isDone_0 : decode cX0_isDone 0 = .ok (.aload_n 1, 1) := dk_43 (dk_at dksX0_isDone_0 0 rfl rfl)
theorem dX0_isDone_1 : decode cX0_isDone 1 = .ok (.getfield 201, 3) := dk_180 0 201 (dk_at dksX0_isDone_0 1 rfl rfl)
theorem dX0_isDone_4 : decode cX0_isDone 4 = .ok (.astore_n 3, 1) := dk_78 (dk_at dksX0_isDone_0 4 rfl rfl)
theorem dX0_isDone_5 : decode cX0_isDone 5 = .ok (.iload_n 2, 1) := dk_28 (dk_at dksX0_isDone_0 5 rfl rfl)
theorem dX0_isDone_6 : decode cX0_isDone 6 = .ok (.tableswitch 98 0 2 #[26, 50, 73], 26) := by decide +kernel
theorem dX0_isDone_32 : decode cX0_isDone 32 = .ok (.aload_n 3, 1) := dk_45 (dk_at dksX0_isDone_2 0 rfl rfl)
theorem dX0_isDone_33 : decode cX0_isDone 33 = .ok (.iconst 2, 1) := dk_5 (dk_at dksX0_isDone_2 1 rfl rfl)
theorem dX0_isDone_34 : decode cX0_isDone 34 = .ok (.iaload, 1) := dk_46 (dk_at dksX0_isDone_2 2 rfl rfl)
theorem dX0_isDone_35 : decode cX0_isDone 35 = .ok (.bipush 7, 2) := dk_16 7 (dk_at dksX0_isDone_2 3 rfl rfl)
theorem dX0_isDone_37 : decode cX0_isDone 37 = .ok (.if_icmp .gt 13, 3) := dk_163 0 13 (dk_at dksX0_isDone_2 5 rfl rfl)
theorem dX0_isDone_40 : decode cX0_isDone 40 = .ok (.aload_n 3, 1) := dk_45 (dk_at dksX0_isDone_2 8 rfl rfl)
theorem dX0_isDone_41 : decode cX0_isDone 41 = .ok (.iconst 1, 1) := dk_4 (dk_at dksX0_isDone_2 9 rfl rfl)
theorem dX0_isDone_42 : decode cX0_isDone 42 = .ok (.iaload, 1) := dk_46 (dk_at dksX0_isDone_2 10 rfl rfl)
theorem dX0_isDone_43 : decode cX0_isDone 43 = .ok (.ifCond .le 7, 3) := dk_158 0 7 (dk_at dksX0_isDone_2 11 rfl rfl)
theorem dX0_isDone_46 : decode cX0_isDone 46 = .ok (.iconst 1, 1) := dk_4 (dk_at dksX0_isDone_2 14 rfl rfl)
theorem dX0_isDone_47 : decode cX0_isDone 47 = .ok (.goto 4, 3) := dk_167 0 4 (dk_at dksX0_isDone_2 15 rfl rfl)
theorem dX0_isDone_50 : decode cX0_isDone 50 = .ok (.iconst 0, 1) := dk_3 (dk_at dksX0_isDone_2 18 rfl rfl)
theorem dX0_isDone_51 : decode cX0_isDone 51 = .ok (.istore 4, 2) := dk_54 4 (dk_at dksX0_isDone_2 19 rfl rfl)
theorem dX0_isDone_53 : decode cX0_isDone 53 = .ok (.goto 64, 3) := dk_167 0 64 (dk_at dksX0_isDone_2 21 rfl rfl)
theorem dX0_isDone_56 : decode cX0_isDone 56 = .ok (.aload_n 3, 1) := dk_45 (dk_at dksX0_isDone_3 0 rfl rfl)
theorem dX0_isDone_57 : decode cX0_isDone 57 = .ok (.iconst 0, 1) := dk_3 (dk_at dksX0_isDone_3 1 rfl rfl)
theorem dX0_isDone_58 : decode cX0_isDone 58 = .ok (.iaload, 1) := dk_46 (dk_at dksX0_isDone_3 2 rfl rfl)
theorem dX0_isDone_59 : decode cX0_isDone 59 = .ok (.ifCond .le 14, 3) := dk_158 0 14 (dk_at dksX0_isDone_3 3 rfl rfl)
theorem dX0_isDone_62 : decode cX0_isDone 62 = .ok (.aload_n 1, 1) := dk_43 (dk_at dksX0_isDone_3 6 rfl rfl)
theorem dX0_isDone_63 : decode cX0_isDone 63 = .ok (.invokevirtual 198, 3) := dk_182 0 198 (dk_at dksX0_isDone_3 7 rfl rfl)
theorem dX0_isDone_66 : decode cX0_isDone 66 = .ok (.ifCond .eq 7, 3) := dk_153 0 7 (dk_at dksX0_isDone_3 10 rfl rfl)
theorem dX0_isDone_69 : decode cX0_isDone 69 = .ok (.iconst 1, 1) := dk_4 (dk_at dksX0_isDone_3 13 rfl rfl)
theorem dX0_isDone_70 : decode cX0_isDone 70 = .ok (.goto 4, 3) := dk_167 0 4 (dk_at dksX0_isDone_3 14 rfl rfl)
theorem dX0_isDone_73 : decode cX0_isDone 73 = .ok (.iconst 0, 1) := dk_3 (dk_at dksX0_isDone_3 17 rfl rfl)
theorem dX0_isDone_74 : decode cX0_isDone 74 = .ok (.istore 4, 2) := dk_54 4 (dk_at dksX0_isDone_3 18 rfl rfl)
theorem dX0_isDone_76 : decode cX0_isDone 76 = .ok (.goto 41, 3) := dk_167 0 41 (dk_at dksX0_isDone_3 20 rfl rfl)
theorem dX0_isDone_79 : decode cX0_isDone 79 = .ok (.aload_n 3, 1) := dk_45 (dk_at dksX0_isDone_3 23 rfl rfl)
theorem dX0_isDone_80 : decode cX0_isDone 80 = .ok (.iconst 0, 1) := dk_3 (dk_at dksX0_isDone_4 0 rfl rfl)
theorem dX0_isDone_81 : decode cX0_isDone 81 = .ok (.iaload, 1) := dk_46 (dk_at dksX0_isDone_4 1 rfl rfl)
theorem dX0_isDone_82 : decode cX0_isDone 82 = .ok (.bipush 9, 2) := dk_16 9 (dk_at dksX0_isDone_4 2 rfl rfl)
theorem dX0_isDone_84 : decode cX0_isDone 84 = .ok (.if_icmp .ge 14, 3) := dk_162 0 14 (dk_at dksX0_isDone_4 4 rfl rfl)
theorem dX0_isDone_87 : decode cX0_isDone 87 = .ok (.aload_n 1, 1) := dk_43 (dk_at dksX0_isDone_4 7 rfl rfl)
theorem dX0_isDone_88 : decode cX0_isDone 88 = .ok (.invokevirtual 198, 3) := dk_182 0 198 (dk_at dksX0_isDone_4 8 rfl rfl)
theorem dX0_isDone_91 : decode cX0_isDone 91 = .ok (.ifCond .eq 7, 3) := dk_153 0 7 (dk_at dksX0_isDone_4 11 rfl rfl)
theorem dX0_isDone_94 : decode cX0_isDone 94 = .ok (.iconst 1, 1) := dk_4 (dk_at dksX0_isDone_4 14 rfl rfl)
theorem dX0_isDone_95 : decode cX0_isDone 95 = .ok (.goto 4, 3) := dk_167 0 4 (dk_at dksX0_isDone_4 15 rfl rfl)
theorem dX0_isDone_98 : decode cX0_isDone 98 = .ok (.iconst 0, 1) := dk_3 (dk_at dksX0_isDone_4 18 rfl rfl)
theorem dX0_isDone_99 : decode cX0_isDone 99 = .ok (.istore 4, 2) := dk_54 4 (dk_at dksX0_isDone_4 19 rfl rfl)
theorem dX0_isDone_101 : decode cX0_isDone 101 = .ok (.goto 16, 3) := dk_167 0 16 (dk_at dksX0_isDone_4 21 rfl rfl)
theorem dX0_isDone_104 : decode cX0_isDone 104 = .ok (.aload_n 3, 1) := dk_45 (dk_at dksX0_isDone_5 0 rfl rfl)
theorem dX0_isDone_105 : decode cX0_isDone 105 = .ok (.iconst 1, 1) := dk_4 (dk_at dksX0_isDone_5 1 rfl rfl)
theorem dX0_isDone_106 : decode cX0_isDone 106 = .ok (.iaload, 1) := dk_46 (dk_at dksX0_isDone_5 2 rfl rfl)
theorem dX0_isDone_107 : decode cX0_isDone 107 = .ok (.ifCond .le 7, 3) := dk_158 0 7 (dk_at dksX0_isDone_5 3 rfl rfl)
theorem dX0_isDone_110 : decode cX0_isDone 110 = .ok (.iconst 1, 1) := dk_4 (dk_at dksX0_isDone_5 6 rfl rfl)
theorem dX0_isDone_111 : decode cX0_isDone 111 = .ok (.goto 4, 3) := dk_167 0 4 (dk_at dksX0_isDone_5 7 rfl rfl)
theorem dX0_isDone_114 : decode cX0_isDone 114 = .ok (.iconst 0, 1) := dk_3 (dk_at dksX0_isDone_5 10 rfl rfl)
theorem dX0_isDone_115 : decode cX0_isDone 115 = .ok (.istore 4, 2) := dk_54 4 (dk_at dksX0_isDone_5 11 rfl rfl)
theorem dX0_isDone_117 : decode cX0_isDone 117 = .ok (.iload 4, 2) := dk_21 4 (dk_at dksX0_isDone_5 13 rfl rfl)
theorem dX0_isDone_119 : decode cX0_isDone 119 = .ok (.ifCond .ne 5, 3) := dk_154 0 5 (dk_at dksX0_isDone_5 15 rfl rfl)
theorem dX0_isDone_122 : decode cX0_isDone 122 = .ok (.iconst 0, 1) := dk_3 (dk_at dksX0_isDone_5 18 rfl rfl)
theorem dX0_isDone_123 : decode cX0_isDone 123 = .ok (.ireturn, 1) := dk_172 (dk_at dksX0_isDone_5 19 rfl rfl)
theorem dX0_isDone_124 : decode cX0_isDone 124 = .ok (.aload_n 3, 1) := dk_45 (dk_at dksX0_isDone_5 20 rfl rfl)
theorem dX0_isDone_125 : decode cX0_isDone 125 = .ok (.iconst 0, 1) := dk_3 (dk_at dksX0_isDone_5 21 rfl rfl)
theorem dX0_isDone_126 : decode cX0_isDone 126 = .ok (.dup2, 1) := dk_92 (dk_at dksX0_isDone_5 22 rfl rfl)
theorem dX0_isDone_127 : decode cX0_isDone 127 = .ok (.iaload, 1) := dk_46 (dk_at dksX0_isDone_5 23 rfl rfl)
theorem dX0_isDone_128 : decode cX0_isDone 128 = .ok (.iload_n 2, 1) := dk_28 (dk_at dksX0_isDone_6 0 rfl rfl)
theorem dX0_isDone_129 : decode cX0_isDone 129 = .ok (.iconst 1, 1) := dk_4 (dk_at dksX0_isDone_6 1 rfl rfl)
theorem dX0_isDone_130 : decode cX0_isDone 130 = .ok (.if_icmp .ne 7, 3) := dk_160 0 7 (dk_at dksX0_isDone_6 2 rfl rfl)
theorem dX0_isDone_133 : decode cX0_isDone 133 = .ok (.iconst (-1), 1) := dk_2 (dk_at dksX0_isDone_6 5 rfl rfl)
theorem dX0_isDone_134 : decode cX0_isDone 134 = .ok (.goto 13, 3) := dk_167 0 13 (dk_at dksX0_isDone_6 6 rfl rfl)
theorem dX0_isDone_137 : decode cX0_isDone 137 = .ok (.iload_n 2, 1) := dk_28 (dk_at dksX0_isDone_6 9 rfl rfl)
theorem dX0_isDone_138 : decode cX0_isDone 138 = .ok (.iconst 2, 1) := dk_5 (dk_at dksX0_isDone_6 10 rfl rfl)
theorem dX0_isDone_139 : decode cX0_isDone 139 = .ok (.if_icmp .ne 7, 3) := dk_160 0 7 (dk_at dksX0_isDone_6 11 rfl rfl)
theorem dX0_isDone_142 : decode cX0_isDone 142 = .ok (.iconst 1, 1) := dk_4 (dk_at dksX0_isDone_6 14 rfl rfl)
theorem dX0_isDone_143 : decode cX0_isDone 143 = .ok (.goto 4, 3) := dk_167 0 4 (dk_at dksX0_isDone_6 15 rfl rfl)
theorem dX0_isDone_146 : decode cX0_isDone 146 = .ok (.iconst 0, 1) := dk_3 (dk_at dksX0_isDone_6 18 rfl rfl)
theorem dX0_isDone_147 : decode cX0_isDone 147 = .ok (.iadd, 1) := dk_96 (dk_at dksX0_isDone_6 19 rfl rfl)
theorem dX0_isDone_148 : decode cX0_isDone 148 = .ok (.iastore, 1) := dk_79 (dk_at dksX0_isDone_6 20 rfl rfl)
theorem dX0_isDone_149 : decode cX0_isDone 149 = .ok (.aload_n 3, 1) := dk_45 (dk_at dksX0_isDone_6 21 rfl rfl)
theorem dX0_isDone_150 : decode cX0_isDone 150 = .ok (.iconst 1, 1) := dk_4 (dk_at dksX0_isDone_6 22 rfl rfl)
theorem dX0_isDone_151 : decode cX0_isDone 151 = .ok (.iload_n 2, 1) := dk_28 (dk_at dksX0_isDone_6 23 rfl rfl)
theorem dX0_isDone_152 : decode cX0_isDone 152 = .ok (.iconst 3, 1) := dk_6 (dk_at dksX0_isDone_7 0 rfl rfl)
theorem dX0_isDone_153 : decode cX0_isDone 153 = .ok (.if_icmp .ne 7, 3) := dk_160 0 7 (dk_at dksX0_isDone_7 1 rfl rfl)
theorem dX0_isDone_156 : decode cX0_isDone 156 = .ok (.iconst 0, 1) := dk_3 (dk_at dksX0_isDone_7 4 rfl rfl)
theorem dX0_isDone_157 : decode cX0_isDone 157 = .ok (.goto 18, 3) := dk_167 0 18 (dk_at dksX0_isDone_7 5 rfl rfl)
theorem dX0_isDone_160 : decode cX0_isDone 160 = .ok (.iload_n 2, 1) := dk_28 (dk_at dksX0_isDone_7 8 rfl rfl)
theorem dX0_isDone_161 : decode cX0_isDone 161 = .ok (.ifCond .ne 11, 3) := dk_154 0 11 (dk_at dksX0_isDone_7 9 rfl rfl)
theorem dX0_isDone_164 : decode cX0_isDone 164 = .ok (.aload_n 3, 1) := dk_45 (dk_at dksX0_isDone_7 12 rfl rfl)
theorem dX0_isDone_165 : decode cX0_isDone 165 = .ok (.iconst 1, 1) := dk_4 (dk_at dksX0_isDone_7 13 rfl rfl)
theorem dX0_isDone_166 : decode cX0_isDone 166 = .ok (.iaload, 1) := dk_46 (dk_at dksX0_isDone_7 14 rfl rfl)
theorem dX0_isDone_167 : decode cX0_isDone 167 = .ok (.iconst 1, 1) := dk_4 (dk_at dksX0_isDone_7 15 rfl rfl)
theorem dX0_isDone_168 : decode cX0_isDone 168 = .ok (.isub, 1) := dk_100 (dk_at dksX0_isDone_7 16 rfl rfl)
theorem dX0_isDone_169 : decode cX0_isDone 169 = .ok (.goto 6, 3) := dk_167 0 6 (dk_at dksX0_isDone_7 17 rfl rfl)
theorem dX0_isDone_172 : decode cX0_isDone 172 = .ok (.aload_n 3, 1) := dk_45 (dk_at dksX0_isDone_7 20 rfl rfl)
theorem dX0_isDone_173 : decode cX0_isDone 173 = .ok (.iconst 1, 1) := dk_4 (dk_at dksX0_isDone_7 21 rfl rfl)
theorem dX0_isDone_174 : decode cX0_isDone 174 = .ok (.iaload, 1) := dk_46 (dk_at dksX0_isDone_7 22 rfl rfl)
theorem dX0_isDone_175 : decode cX0_isDone 175 = .ok (.iastore, 1) := dk_79 (dk_at dksX0_isDone_7 23 rfl rfl)
theorem dX0_isDone_176 : decode cX0_isDone 176 = .ok (.aload_n 3, 1) := dk_45 (dk_at dksX0_isDone_8 0 rfl rfl)
theorem dX0_isDone_177 : decode cX0_isDone 177 = .ok (.iconst 2, 1) := dk_5 (dk_at dksX0_isDone_8 1 rfl rfl)
theorem dX0_isDone_178 : decode cX0_isDone 178 = .ok (.dup2, 1) := dk_92 (dk_at dksX0_isDone_8 2 rfl rfl)
theorem dX0_isDone_179 : decode cX0_isDone 179 = .ok (.iaload, 1) := dk_46 (dk_at dksX0_isDone_8 3 rfl rfl)
theorem dX0_isDone_180 : decode cX0_isDone 180 = .ok (.iload_n 2, 1) := dk_28 (dk_at dksX0_isDone_8 4 rfl rfl)
theorem dX0_isDone_181 : decode cX0_isDone 181 = .ok (.ifCond .ne 7, 3) := dk_154 0 7 (dk_at dksX0_isDone_8 5 rfl rfl)
theorem dX0_isDone_184 : decode cX0_isDone 184 = .ok (.iconst 2, 1) := dk_5 (dk_at dksX0_isDone_8 8 rfl rfl)
theorem dX0_isDone_185 : decode cX0_isDone 185 = .ok (.goto 4, 3) := dk_167 0 4 (dk_at dksX0_isDone_8 9 rfl rfl)
theorem dX0_isDone_188 : decode cX0_isDone 188 = .ok (.iconst 0, 1) := dk_3 (dk_at dksX0_isDone_8 12 rfl rfl)
theorem dX0_isDone_189 : decode cX0_isDone 189 = .ok (.iadd, 1) := dk_96 (dk_at dksX0_isDone_8 13 rfl rfl)
theorem dX0_isDone_190 : decode cX0_isDone 190 = .ok (.iastore, 1) := dk_79 (dk_at dksX0_isDone_8 14 rfl rfl)
theorem dX0_isDone_191 : decode cX0_isDone 191 = .ok (.iconst 1, 1) := dk_4 (dk_at dksX0_isDone_8 15 rfl rfl)
theorem dX0_isDone_192 : decode cX0_isDone 192 = .ok (.ireturn, 1) := dk_172 (dk_at dksX0_isDone_8 16 rfl rfl)
abbrev cX0_mend : ByteArray := prog_1_method_66_code
def yX0_mend : MethodName := ⟨RX0, "mend", "(II)I"⟩
def dkwX0_mend_3 : List UInt8 := [160, 0, 10, 42, 180, 1, 112, 167, 0, 9, 42, 180, 0, 58, 28, 46, 172]
abbrev dktX0_mend_3 : List UInt8 := dkwX0_mend_3 ++ []
def dkwX0_mend_2 : List UInt8 := [19, 1, 44, 160, 0, 6, 16, 247, 172, 28, 2, 160, 0, 10, 42, 180, 1, 109, 167, 0, 22, 28, 16, 254]
abbrev dktX0_mend_2 : List UInt8 := dkwX0_mend_2 ++ dktX0_mend_3
def dkwX0_mend_1 : List UInt8 := [154, 0, 5, 2, 172, 42, 182, 1, 32, 154, 0, 6, 16, 253, 172, 42, 27, 182, 1, 132, 42, 180, 1, 109]
abbrev dktX0_mend_1 : List UInt8 := dkwX0_mend_1 ++ dktX0_mend_2
def dkwX0_mend_0 : List UInt8 := [27, 133, 9, 20, 1, 128, 184, 0, 76, 154, 0, 6, 16, 254, 172, 28, 133, 20, 1, 130, 10, 184, 0, 76]
abbrev dktX0_mend_0 : List UInt8 := dkwX0_mend_0 ++ dktX0_mend_1
theorem dksX0_mend_0 : cX0_mend.data.toList.drop 0 = dktX0_mend_0 := by decide +kernel
theorem dksX0_mend_1 : cX0_mend.data.toList.drop 24 = dktX0_mend_1 := dk_seg dksX0_mend_0 24 rfl rfl
theorem dksX0_mend_2 : cX0_mend.data.toList.drop 48 = dktX0_mend_2 := dk_seg dksX0_mend_1 24 rfl rfl
theorem dksX0_mend_3 : cX0_mend.data.toList.drop 72 = dktX0_mend_3 := dk_seg dksX0_mend_2 24 rfl rfl
theorem dX0_mend_0 : decode cX0_mend 0 = .ok (.iload_n 1, 1) := dk_27 (dk_at dksX0_mend_0 0 rfl rfl)
theorem dX0_mend_1 : decode cX0_mend 1 = .ok (.i2l, 1) := dk_133 (dk_at dksX0_mend_0 1 rfl rfl)
theorem dX0_mend_2 : decode cX0_mend 2 = .ok (.lconst 0, 1) := dk_9 (dk_at dksX0_mend_0 2 rfl rfl)
theorem dX0_mend_3 : decode cX0_mend 3 = .ok (.ldc2_w 384, 3) := dk_20 1 128 (dk_at dksX0_mend_0 3 rfl rfl)
theorem dX0_mend_6 : decode cX0_mend 6 = .ok (.invokestatic 76, 3) := dk_184 0 76 (dk_at dksX0_mend_0 6 rfl rfl)
theorem dX0_mend_9 : decode cX0_mend 9 = .ok (.ifCond .ne 6, 3) := dk_154 0 6 (dk_at dksX0_mend_0 9 rfl rfl)
theorem dX0_mend_12 : decode cX0_mend 12 = .ok (.bipush (-2), 2) := dk_16 254 (dk_at dksX0_mend_0 12 rfl rfl)
theorem dX0_mend_14 : decode cX0_mend 14 = .ok (.ireturn, 1) := dk_172 (dk_at dksX0_mend_0 14 rfl rfl)
theorem dX0_mend_15 : decode cX0_mend 15 = .ok (.iload_n 2, 1) := dk_28 (dk_at dksX0_mend_0 15 rfl rfl)
theorem dX0_mend_16 : decode cX0_mend 16 = .ok (.i2l, 1) := dk_133 (dk_at dksX0_mend_0 16 rfl rfl)
theorem dX0_mend_17 : decode cX0_mend 17 = .ok (.ldc2_w 386, 3) := dk_20 1 130 (dk_at dksX0_mend_0 17 rfl rfl)
theorem dX0_mend_20 : decode cX0_mend 20 = .ok (.lconst 1, 1) := dk_10 (dk_at dksX0_mend_0 20 rfl rfl)
theorem dX0_mend_21 : decode cX0_mend 21 = .ok (.invokestatic 76, 3) := dk_184 0 76 (dk_at dksX0_mend_0 21 rfl rfl)
theorem dX0_mend_24 : decode cX0_mend 24 = .ok (.ifCond .ne 5, 3) := dk_154 0 5 (dk_at dksX0_mend_1 0 rfl rfl)
theorem dX0_mend_27 : decode cX0_mend 27 = .ok (.iconst (-1), 1) := dk_2 (dk_at dksX0_mend_1 3 rfl rfl)
theorem dX0_mend_28 : decode cX0_mend 28 = .ok (.ireturn, 1) := dk_172 (dk_at dksX0_mend_1 4 rfl rfl)
theorem dX0_mend_29 : decode cX0_mend 29 = .ok (.aload_n 0, 1) := dk_42 (dk_at dksX0_mend_1 5 rfl rfl)
theorem dX0_mend_30 : decode cX0_mend 30 = .ok (.invokevirtual 288, 3) := dk_182 1 32 (dk_at dksX0_mend_1 6 rfl rfl)
theorem dX0_mend_33 : decode cX0_mend 33 = .ok (.ifCond .ne 6, 3) := dk_154 0 6 (dk_at dksX0_mend_1 9 rfl rfl)
theorem dX0_mend_36 : decode cX0_mend 36 = .ok (.bipush (-3), 2) := dk_16 253 (dk_at dksX0_mend_1 12 rfl rfl)
theorem dX0_mend_38 : decode cX0_mend 38 = .ok (.ireturn, 1) := dk_172 (dk_at dksX0_mend_1 14 rfl rfl)
theorem dX0_mend_39 : decode cX0_mend 39 = .ok (.aload_n 0, 1) := dk_42 (dk_at dksX0_mend_1 15 rfl rfl)
theorem dX0_mend_40 : decode cX0_mend 40 = .ok (.iload_n 1, 1) := dk_27 (dk_at dksX0_mend_1 16 rfl rfl)
theorem dX0_mend_41 : decode cX0_mend 41 = .ok (.invokevirtual 388, 3) := dk_182 1 132 (dk_at dksX0_mend_1 17 rfl rfl)
theorem dX0_mend_44 : decode cX0_mend 44 = .ok (.aload_n 0, 1) := dk_42 (dk_at dksX0_mend_1 20 rfl rfl)
theorem dX0_mend_45 : decode cX0_mend 45 = .ok (.getfield 365, 3) := dk_180 1 109 (dk_at dksX0_mend_1 21 rfl rfl)
theorem dX0_mend_48 : decode cX0_mend 48 = .ok (.ldc_w 300, 3) := dk_19 1 44 (dk_at dksX0_mend_2 0 rfl rfl)
theorem dX0_mend_51 : decode cX0_mend 51 = .ok (.if_icmp .ne 6, 3) := dk_160 0 6 (dk_at dksX0_mend_2 3 rfl rfl)
theorem dX0_mend_54 : decode cX0_mend 54 = .ok (.bipush (-9), 2) := dk_16 247 (dk_at dksX0_mend_2 6 rfl rfl)
theorem dX0_mend_56 : decode cX0_mend 56 = .ok (.ireturn, 1) := dk_172 (dk_at dksX0_mend_2 8 rfl rfl)
theorem dX0_mend_57 : decode cX0_mend 57 = .ok (.iload_n 2, 1) := dk_28 (dk_at dksX0_mend_2 9 rfl rfl)
theorem dX0_mend_58 : decode cX0_mend 58 = .ok (.iconst (-1), 1) := dk_2 (dk_at dksX0_mend_2 10 rfl rfl)
theorem dX0_mend_59 : decode cX0_mend 59 = .ok (.if_icmp .ne 10, 3) := dk_160 0 10 (dk_at dksX0_mend_2 11 rfl rfl)
theorem dX0_mend_62 : decode cX0_mend 62 = .ok (.aload_n 0, 1) := dk_42 (dk_at dksX0_mend_2 14 rfl rfl)
theorem dX0_mend_63 : decode cX0_mend 63 = .ok (.getfield 365, 3) := dk_180 1 109 (dk_at dksX0_mend_2 15 rfl rfl)
theorem dX0_mend_66 : decode cX0_mend 66 = .ok (.goto 22, 3) := dk_167 0 22 (dk_at dksX0_mend_2 18 rfl rfl)
theorem dX0_mend_69 : decode cX0_mend 69 = .ok (.iload_n 2, 1) := dk_28 (dk_at dksX0_mend_2 21 rfl rfl)
theorem dX0_mend_70 : decode cX0_mend 70 = .ok (.bipush (-2), 2) := dk_16 254 (dk_at dksX0_mend_2 22 rfl rfl)
theorem dX0_mend_72 : decode cX0_mend 72 = .ok (.if_icmp .ne 10, 3) := dk_160 0 10 (dk_at dksX0_mend_3 0 rfl rfl)
theorem dX0_mend_75 : decode cX0_mend 75 = .ok (.aload_n 0, 1) := dk_42 (dk_at dksX0_mend_3 3 rfl rfl)
theorem dX0_mend_76 : decode cX0_mend 76 = .ok (.getfield 368, 3) := dk_180 1 112 (dk_at dksX0_mend_3 4 rfl rfl)
theorem dX0_mend_79 : decode cX0_mend 79 = .ok (.goto 9, 3) := dk_167 0 9 (dk_at dksX0_mend_3 7 rfl rfl)
theorem dX0_mend_82 : decode cX0_mend 82 = .ok (.aload_n 0, 1) := dk_42 (dk_at dksX0_mend_3 10 rfl rfl)
theorem dX0_mend_83 : decode cX0_mend 83 = .ok (.getfield 58, 3) := dk_180 0 58 (dk_at dksX0_mend_3 11 rfl rfl)
theorem dX0_mend_86 : decode cX0_mend 86 = .ok (.iload_n 2, 1) := dk_28 (dk_at dksX0_mend_3 14 rfl rfl)
theorem dX0_mend_87 : decode cX0_mend 87 = .ok (.iaload, 1) := dk_46 (dk_at dksX0_mend_3 15 rfl rfl)
theorem dX0_mend_88 : decode cX0_mend 88 = .ok (.ireturn, 1) := dk_172 (dk_at dksX0_mend_3 16 rfl rfl)
abbrev cX0_findMend : ByteArray := prog_1_method_65_code
def yX0_findMend : MethodName := ⟨RX0, "findMend", "(I)V"⟩
def dkwX0_findMend_5 : List UInt8 := [182, 1, 125, 42, 182, 1, 73, 132, 3, 1, 167, 255, 187, 132, 2, 1, 167, 255, 159, 177]
abbrev dktX0_findMend_5 : List UInt8 := dkwX0_findMend_5 ++ []
def dkwX0_findMend_4 : List UInt8 := [29, 184, 1, 115, 4, 16, 10, 28, 104, 29, 96, 16, 247, 182, 1, 121, 42, 16, 10, 28, 104, 29, 96, 27]
abbrev dktX0_findMend_4 : List UInt8 := dkwX0_findMend_4 ++ dktX0_findMend_5
def dkwX0_findMend_3 : List UInt8 := [185, 0, 191, 2, 0, 192, 0, 113, 29, 182, 1, 105, 153, 0, 39, 42, 27, 182, 1, 118, 153, 0, 20, 42]
abbrev dktX0_findMend_3 : List UInt8 := dkwX0_findMend_3 ++ dktX0_findMend_4
def dkwX0_findMend_2 : List UInt8 := [162, 0, 90, 42, 180, 1, 109, 158, 0, 83, 3, 62, 29, 7, 162, 0, 70, 42, 42, 180, 0, 12, 28]
abbrev dktX0_findMend_2 : List UInt8 := dkwX0_findMend_2 ++ dktX0_findMend_3
def dkwX0_findMend_1 : List UInt8 := [42, 3, 3, 16, 247, 16, 247, 182, 1, 121, 3, 61, 28, 42, 180, 0, 12, 185, 0, 184, 1, 0]
abbrev dktX0_findMend_1 : List UInt8 := dkwX0_findMend_1 ++ dktX0_findMend_2
def dkwX0_findMend_0 : List UInt8 := [42, 182, 1, 76, 42, 19, 1, 44, 181, 1, 109, 42, 3, 181, 1, 112, 42, 27, 182, 1, 118, 153, 0, 13]
abbrev dktX0_findMend_0 : List UInt8 := dkwX0_findMend_0 ++ dktX0_findMend_1
theorem dksX0_findMend_0 : cX0_findMend.data.toList.drop 0 = dktX0_findMend_0 := by decide +kernel
theorem dksX0_findMend_1 : cX0_findMend.data.toList.drop 24 = dktX0_findMend_1 := dk_seg dksX0_findMend_0 24 rfl rfl
theorem dksX0_findMend_2 : cX0_findMend.data.toList.drop 46 = dktX0_findMend_2 := dk_seg dksX0_findMend_1 22 rfl rfl
theorem dksX0_findMend_3 : cX0_findMend.data.toList.drop 69 = dktX0_findMend_3 := dk_seg dksX0_findMend_2 23 rfl rfl
theorem dksX0_findMend_4 : cX0_findMend.data.toList.drop 93 = dktX0_findMend_4 := dk_seg dksX0_findMend_3 24 rfl rfl
theorem dksX0_findMend_5 : cX0_findMend.data.toList.drop 117 = dktX0_findMend_5 := dk_seg dksX0_findMend_4 24 rfl rfl
theorem dX0_findMend_0 : decode cX0_findMend 0 = .ok (.aload_n 0, 1) := dk_42 (dk_at dksX0_findMend_0 0 rfl rfl)
theorem dX0_findMend_1 : decode cX0_findMend 1 = .ok (.invokevirtual 332, 3) := dk_182 1 76 (dk_at dksX0_findMend_0 1 rfl rfl)
theorem dX0_findMend_4 : decode cX0_findMend 4 = .ok (.aload_n 0, 1) := dk_42 (dk_at dksX0_findMend_0 4 rfl rfl)
theorem dX0_findMend_5 : decode cX0_findMend 5 = .ok (.ldc_w 300, 3) := dk_19 1 44 (dk_at dksX0_findMend_0 5 rfl rfl)
theorem dX0_findMend_8 : decode cX0_findMend 8 = .ok (.putfield 365, 3) := dk_181 1 109 (dk_at dksX0_findMend_0 8 rfl rfl)
theorem dX0_findMend_11 : decode cX0_findMend 11 = .ok (.aload_n 0, 1) := dk_42 (dk_at dksX0_findMend_0 11 rfl rfl)
theorem dX0_findMend_12 : decode cX0_findMend 12 = .ok (.iconst 0, 1) := dk_3 (dk_at dksX0_findMend_0 12 rfl rfl)
theorem dX0_findMend_13 : decode cX0_findMend 13 = .ok (.putfield 368, 3) := dk_181 1 112 (dk_at dksX0_findMend_0 13 rfl rfl)
theorem dX0_findMend_16 : decode cX0_findMend 16 = .ok (.aload_n 0, 1) := dk_42 (dk_at dksX0_findMend_0 16 rfl rfl)
theorem dX0_findMend_17 : decode cX0_findMend 17 = .ok (.iload_n 1, 1) := dk_27 (dk_at dksX0_findMend_0 17 rfl rfl)
theorem dX0_findMend_18 : decode cX0_findMend 18 = .ok (.invokevirtual 374, 3) := dk_182 1 118 (dk_at dksX0_findMend_0 18 rfl rfl)
theorem dX0_findMend_21 : decode cX0_findMend 21 = .ok (.ifCond .eq 13, 3) := dk_153 0 13 (dk_at dksX0_findMend_0 21 rfl rfl)
theorem dX0_findMend_24 : decode cX0_findMend 24 = .ok (.aload_n 0, 1) := dk_42 (dk_at dksX0_findMend_1 0 rfl rfl)
theorem dX0_findMend_25 : decode cX0_findMend 25 = .ok (.iconst 0, 1) := dk_3 (dk_at dksX0_findMend_1 1 rfl rfl)
theorem dX0_findMend_26 : decode cX0_findMend 26 = .ok (.iconst 0, 1) := dk_3 (dk_at dksX0_findMend_1 2 rfl rfl)
theorem dX0_findMend_27 : decode cX0_findMend 27 = .ok (.bipush (-9), 2) := dk_16 247 (dk_at dksX0_findMend_1 3 rfl rfl)
theorem dX0_findMend_29 : decode cX0_findMend 29 = .ok (.bipush (-9), 2) := dk_16 247 (dk_at dksX0_findMend_1 5 rfl rfl)
theorem dX0_findMend_31 : decode cX0_findMend 31 = .ok (.invokevirtual 377, 3) := dk_182 1 121 (dk_at dksX0_findMend_1 7 rfl rfl)
theorem dX0_findMend_34 : decode cX0_findMend 34 = .ok (.iconst 0, 1) := dk_3 (dk_at dksX0_findMend_1 10 rfl rfl)
theorem dX0_findMend_35 : decode cX0_findMend 35 = .ok (.istore_n 2, 1) := dk_61 (dk_at dksX0_findMend_1 11 rfl rfl)
theorem dX0_findMend_36 : decode cX0_findMend 36 = .ok (.iload_n 2, 1) := dk_28 (dk_at dksX0_findMend_1 12 rfl rfl)
theorem dX0_findMend_37 : decode cX0_findMend 37 = .ok (.aload_n 0, 1) := dk_42 (dk_at dksX0_findMend_1 13 rfl rfl)
theorem dX0_findMend_38 : decode cX0_findMend 38 = .ok (.getfield 12, 3) := dk_180 0 12 (dk_at dksX0_findMend_1 14 rfl rfl)
theorem dX0_findMend_41 : decode cX0_findMend 41 = .ok (.invokeinterface 184 1, 5) := by decide +kernel
theorem dX0_findMend_46 : decode cX0_findMend 46 = .ok (.if_icmp .ge 90, 3) := dk_162 0 90 (dk_at dksX0_findMend_2 0 rfl rfl)
theorem dX0_findMend_49 : decode cX0_findMend 49 = .ok (.aload_n 0, 1) := dk_42 (dk_at dksX0_findMend_2 3 rfl rfl)
theorem dX0_findMend_50 : decode cX0_findMend 50 = .ok (.getfield 365, 3) := dk_180 1 109 (dk_at dksX0_findMend_2 4 rfl rfl)
theorem dX0_findMend_53 : decode cX0_findMend 53 = .ok (.ifCond .le 83, 3) := dk_158 0 83 (dk_at dksX0_findMend_2 7 rfl rfl)
theorem dX0_findMend_56 : decode cX0_findMend 56 = .ok (.iconst 0, 1) := dk_3 (dk_at dksX0_findMend_2 10 rfl rfl)
theorem dX0_findMend_57 : decode cX0_findMend 57 = .ok (.istore_n 3, 1) := dk_62 (dk_at dksX0_findMend_2 11 rfl rfl)
theorem dX0_findMend_58 : decode cX0_findMend 58 = .ok (.iload_n 3, 1) := dk_29 (dk_at dksX0_findMend_2 12 rfl rfl)
theorem dX0_findMend_59 : decode cX0_findMend 59 = .ok (.iconst 4, 1) := dk_7 (dk_at dksX0_findMend_2 13 rfl rfl)
theorem dX0_findMend_60 : decode cX0_findMend 60 = .ok (.if_icmp .ge 70, 3) := dk_162 0 70 (dk_at dksX0_findMend_2 14 rfl rfl)
theorem dX0_findMend_63 : decode cX0_findMend 63 = .ok (.aload_n 0, 1) := dk_42 (dk_at dksX0_findMend_2 17 rfl rfl)
theorem dX0_findMend_64 : decode cX0_findMend 64 = .ok (.aload_n 0, 1) := dk_42 (dk_at dksX0_findMend_2 18 rfl rfl)
theorem dX0_findMend_65 : decode cX0_findMend 65 = .ok (.getfield 12, 3) := dk_180 0 12 (dk_at dksX0_findMend_2 19 rfl rfl)
theorem dX0_findMend_68 : decode cX0_findMend 68 = .ok (.iload_n 2, 1) := dk_28 (dk_at dksX0_findMend_2 22 rfl rfl)
theorem dX0_findMend_69 : decode cX0_findMend 69 = .ok (.invokeinterface 191 2, 5) := by decide +kernel
theorem dX0_findMend_74 : decode cX0_findMend 74 = .ok (.checkcast 113, 3) := dk_192 0 113 (dk_at dksX0_findMend_3 5 rfl rfl)
theorem dX0_findMend_77 : decode cX0_findMend 77 = .ok (.iload_n 3, 1) := dk_29 (dk_at dksX0_findMend_3 8 rfl rfl)
theorem dX0_findMend_78 : decode cX0_findMend 78 = .ok (.invokevirtual 361, 3) := dk_182 1 105 (dk_at dksX0_findMend_3 9 rfl rfl)
theorem dX0_findMend_81 : decode cX0_findMend 81 = .ok (.ifCond .eq 39, 3) := dk_153 0 39 (dk_at dksX0_findMend_3 12 rfl rfl)
theorem dX0_findMend_84 : decode cX0_findMend 84 = .ok (.aload_n 0, 1) := dk_42 (dk_at dksX0_findMend_3 15 rfl rfl)
theorem dX0_findMend_85 : decode cX0_findMend 85 = .ok (.iload_n 1, 1) := dk_27 (dk_at dksX0_findMend_3 16 rfl rfl)
theorem dX0_findMend_86 : decode cX0_findMend 86 = .ok (.invokevirtual 374, 3) := dk_182 1 118 (dk_at dksX0_findMend_3 17 rfl rfl)
theorem dX0_findMend_89 : decode cX0_findMend 89 = .ok (.ifCond .eq 20, 3) := dk_153 0 20 (dk_at dksX0_findMend_3 20 rfl rfl)
theorem dX0_findMend_92 : decode cX0_findMend 92 = .ok (.aload_n 0, 1) := dk_42 (dk_at dksX0_findMend_3 23 rfl rfl)
theorem dX0_findMend_93 : decode cX0_findMend 93 = .ok (.iload_n 3, 1) := dk_29 (dk_at dksX0_findMend_4 0 rfl rfl)
theorem dX0_findMend_94 : decode cX0_findMend 94 = .ok (.invokestatic 371, 3) := dk_184 1 115 (dk_at dksX0_findMend_4 1 rfl rfl)
theorem dX0_findMend_97 : decode cX0_findMend 97 = .ok (.iconst 1, 1) := dk_4 (dk_at dksX0_findMend_4 4 rfl rfl)
theorem dX0_findMend_98 : decode cX0_findMend 98 = .ok (.bipush 10, 2) := dk_16 10 (dk_at dksX0_findMend_4 5 rfl rfl)
theorem dX0_findMend_100 : decode cX0_findMend 100 = .ok (.iload_n 2, 1) := dk_28 (dk_at dksX0_findMend_4 7 rfl rfl)
theorem dX0_findMend_101 : decode cX0_findMend 101 = .ok (.imul, 1) := dk_104 (dk_at dksX0_findMend_4 8 rfl rfl)
theorem dX0_findMend_102 : decode cX0_findMend 102 = .ok (.iload_n 3, 1) := dk_29 (dk_at dksX0_findMend_4 9 rfl rfl)
theorem dX0_findMend_103 : decode cX0_findMend 103 = .ok (.iadd, 1) := dk_96 (dk_at dksX0_findMend_4 10 rfl rfl)
theorem dX0_findMend_104 : decode cX0_findMend 104 = .ok (.bipush (-9), 2) := dk_16 247 (dk_at dksX0_findMend_4 11 rfl rfl)
theorem dX0_findMend_106 : decode cX0_findMend 106 = .ok (.invokevirtual 377, 3) := dk_182 1 121 (dk_at dksX0_findMend_4 13 rfl rfl)
theorem dX0_findMend_109 : decode cX0_findMend 109 = .ok (.aload_n 0, 1) := dk_42 (dk_at dksX0_findMend_4 16 rfl rfl)
theorem dX0_findMend_110 : decode cX0_findMend 110 = .ok (.bipush 10, 2) := dk_16 10 (dk_at dksX0_findMend_4 17 rfl rfl)
theorem dX0_findMend_112 : decode cX0_findMend 112 = .ok (.iload_n 2, 1) := dk_28 (dk_at dksX0_findMend_4 19 rfl rfl)
theorem dX0_findMend_113 : decode cX0_findMend 113 = .ok (.imul, 1) := dk_104 (dk_at dksX0_findMend_4 20 rfl rfl)
theorem dX0_findMend_114 : decode cX0_findMend 114 = .ok (.iload_n 3, 1) := dk_29 (dk_at dksX0_findMend_4 21 rfl rfl)
theorem dX0_findMend_115 : decode cX0_findMend 115 = .ok (.iadd, 1) := dk_96 (dk_at dksX0_findMend_4 22 rfl rfl)
theorem dX0_findMend_116 : decode cX0_findMend 116 = .ok (.iload_n 1, 1) := dk_27 (dk_at dksX0_findMend_4 23 rfl rfl)
theorem dX0_findMend_117 : decode cX0_findMend 117 = .ok (.invokevirtual 381, 3) := dk_182 1 125 (dk_at dksX0_findMend_5 0 rfl rfl)
theorem dX0_findMend_120 : decode cX0_findMend 120 = .ok (.aload_n 0, 1) := dk_42 (dk_at dksX0_findMend_5 3 rfl rfl)
theorem dX0_findMend_121 : decode cX0_findMend 121 = .ok (.invokevirtual 329, 3) := dk_182 1 73 (dk_at dksX0_findMend_5 4 rfl rfl)
theorem dX0_findMend_124 : decode cX0_findMend 124 = .ok (.iinc 3 1, 3) := dk_132 3 1 (dk_at dksX0_findMend_5 7 rfl rfl)
theorem dX0_findMend_127 : decode cX0_findMend 127 = .ok (.goto (-69), 3) := dk_167 255 187 (dk_at dksX0_findMend_5 10 rfl rfl)
theorem dX0_findMend_130 : decode cX0_findMend 130 = .ok (.iinc 2 1, 3) := dk_132 2 1 (dk_at dksX0_findMend_5 13 rfl rfl)
theorem dX0_findMend_133 : decode cX0_findMend 133 = .ok (.goto (-97), 3) := dk_167 255 159 (dk_at dksX0_findMend_5 16 rfl rfl)
theorem dX0_findMend_136 : decode cX0_findMend 136 = .ok (.return_, 1) := dk_177 (dk_at dksX0_findMend_5 19 rfl rfl)
abbrev cX0_isStraight : ByteArray := prog_1_method_62_code
def yX0_isStraight : MethodName := ⟨RX0, "isStraight", "(I)Z"⟩
def dkwX0_isStraight_1 : List UInt8 := [167, 0, 4, 3, 172]
abbrev dktX0_isStraight_1 : List UInt8 := dkwX0_isStraight_1 ++ []
def dkwX0_isStraight_0 : List UInt8 := [42, 182, 1, 35, 42, 180, 1, 25, 42, 180, 0, 248, 160, 0, 15, 42, 180, 1, 22, 27, 163, 0, 7, 4]
abbrev dktX0_isStraight_0 : List UInt8 := dkwX0_isStraight_0 ++ dktX0_isStraight_1
theorem dksX0_isStraight_0 : cX0_isStraight.data.toList.drop 0 = dktX0_isStraight_0 := by decide +kernel
theorem dksX0_isStraight_1 : cX0_isStraight.data.toList.drop 24 = dktX0_isStraight_1 := dk_seg dksX0_isStraight_0 24 rfl rfl
theorem dX0_isStraight_0 : decode cX0_isStraight 0 = .ok (.aload_n 0, 1) := dk_42 (dk_at dksX0_isStraight_0 0 rfl rfl)
theorem dX0_isStraight_1 : decode cX0_isStraight 1 = .ok (.invokevirtual 291, 3) := dk_182 1 35 (dk_at dksX0_isStraight_0 1 rfl rfl)
theorem dX0_isStraight_4 : decode cX0_isStraight 4 = .ok (.aload_n 0, 1) := dk_42 (dk_at dksX0_isStraight_0 4 rfl rfl)
theorem dX0_isStraight_5 : decode cX0_isStraight 5 = .ok (.getfield 281, 3) := dk_180 1 25 (dk_at dksX0_isStraight_0 5 rfl rfl)
theorem dX0_isStraight_8 : decode cX0_isStraight 8 = .ok (.aload_n 0, 1) := dk_42 (dk_at dksX0_isStraight_0 8 rfl rfl)
theorem dX0_isStraight_9 : decode cX0_isStraight 9 = .ok (.getfield 248, 3) := dk_180 0 248 (dk_at dksX0_isStraight_0 9 rfl rfl)
theorem dX0_isStraight_12 : decode cX0_isStraight 12 = .ok (.if_icmp .ne 15, 3) := dk_160 0 15 (dk_at dksX0_isStraight_0 12 rfl rfl)
theorem dX0_isStraight_15 : decode cX0_isStraight 15 = .ok (.aload_n 0, 1) := dk_42 (dk_at dksX0_isStraight_0 15 rfl rfl)
theorem dX0_isStraight_16 : decode cX0_isStraight 16 = .ok (.getfield 278, 3) := dk_180 1 22 (dk_at dksX0_isStraight_0 16 rfl rfl)
theorem dX0_isStraight_19 : decode cX0_isStraight 19 = .ok (.iload_n 1, 1) := dk_27 (dk_at dksX0_isStraight_0 19 rfl rfl)
theorem dX0_isStraight_20 : decode cX0_isStraight 20 = .ok (.if_icmp .gt 7, 3) := dk_163 0 7 (dk_at dksX0_isStraight_0 20 rfl rfl)
theorem dX0_isStraight_23 : decode cX0_isStraight 23 = .ok (.iconst 1, 1) := dk_4 (dk_at dksX0_isStraight_0 23 rfl rfl)
theorem dX0_isStraight_24 : decode cX0_isStraight 24 = .ok (.goto 4, 3) := dk_167 0 4 (dk_at dksX0_isStraight_1 0 rfl rfl)
theorem dX0_isStraight_27 : decode cX0_isStraight 27 = .ok (.iconst 0, 1) := dk_3 (dk_at dksX0_isStraight_1 3 rfl rfl)
theorem dX0_isStraight_28 : decode cX0_isStraight 28 = .ok (.ireturn, 1) := dk_172 (dk_at dksX0_isStraight_1 4 rfl rfl)
abbrev cX0_offers : ByteArray := prog_1_method_63_code
def yX0_offers : MethodName := ⟨RX0, "offers", "(IIII)V"⟩
def dkwX0_offers_2 : List UInt8 := [21, 4, 79, 177]
abbrev dktX0_offers_2 : List UInt8 := dkwX0_offers_2 ++ []
def dkwX0_offers_1 : List UInt8 := [177, 42, 27, 181, 1, 109, 42, 28, 181, 1, 112, 42, 180, 0, 58, 3, 29, 79, 42, 180, 0, 58, 4]
abbrev dktX0_offers_1 : List UInt8 := dkwX0_offers_1 ++ dktX0_offers_2
def dkwX0_offers_0 : List UInt8 := [27, 42, 180, 1, 109, 163, 0, 19, 27, 42, 180, 1, 109, 160, 0, 12, 28, 42, 180, 1, 112, 161, 0, 4]
abbrev dktX0_offers_0 : List UInt8 := dkwX0_offers_0 ++ dktX0_offers_1
theorem dksX0_offers_0 : cX0_offers.data.toList.drop 0 = dktX0_offers_0 := by decide +kernel
theorem dksX0_offers_1 : cX0_offers.data.toList.drop 24 = dktX0_offers_1 := dk_seg dksX0_offers_0 24 rfl rfl
theorem dksX0_offers_2 : cX0_offers.data.toList.drop 47 = dktX0_offers_2 := dk_seg dksX0_offers_1 23 rfl rfl
theorem dX0_offers_0 : decode cX0_offers 0 = .ok (.iload_n 1, 1) := dk_27 (dk_at dksX0_offers_0 0 rfl rfl)
theorem dX0_offers_1 : decode cX0_offers 1 = .ok (.aload_n 0, 1) := dk_42 (dk_at dksX0_offers_0 1 rfl rfl)
theorem dX0_offers_2 : decode cX0_offers 2 = .ok (.getfield 365, 3) := dk_180 1 109 (dk_at dksX0_offers_0 2 rfl rfl)
theorem dX0_offers_5 : decode cX0_offers 5 = .ok (.if_icmp .gt 19, 3) := dk_163 0 19 (dk_at dksX0_offers_0 5 rfl rfl)
theorem dX0_offers_8 : decode cX0_offers 8 = .ok (.iload_n 1, 1) := dk_27 (dk_at dksX0_offers_0 8 rfl rfl)
theorem dX0_offers_9 : decode cX0_offers 9 = .ok (.aload_n 0, 1) := dk_42 (dk_at dksX0_offers_0 9 rfl rfl)
theorem dX0_offers_10 : decode cX0_offers 10 = .ok (.getfield 365, 3) := dk_180 1 109 (dk_at dksX0_offers_0 10 rfl rfl)
theorem dX0_offers_13 : decode cX0_offers 13 = .ok (.if_icmp .ne 12, 3) := dk_160 0 12 (dk_at dksX0_offers_0 13 rfl rfl)
theorem dX0_offers_16 : decode cX0_offers 16 = .ok (.iload_n 2, 1) := dk_28 (dk_at dksX0_offers_0 16 rfl rfl)
theorem dX0_offers_17 : decode cX0_offers 17 = .ok (.aload_n 0, 1) := dk_42 (dk_at dksX0_offers_0 17 rfl rfl)
theorem dX0_offers_18 : decode cX0_offers 18 = .ok (.getfield 368, 3) := dk_180 1 112 (dk_at dksX0_offers_0 18 rfl rfl)
theorem dX0_offers_21 : decode cX0_offers 21 = .ok (.if_icmp .lt 4, 3) := dk_161 0 4 (dk_at dksX0_offers_0 21 rfl rfl)
theorem dX0_offers_24 : decode cX0_offers 24 = .ok (.return_, 1) := dk_177 (dk_at dksX0_offers_1 0 rfl rfl)
theorem dX0_offers_25 : decode cX0_offers 25 = .ok (.aload_n 0, 1) := dk_42 (dk_at dksX0_offers_1 1 rfl rfl)
theorem dX0_offers_26 : decode cX0_offers 26 = .ok (.iload_n 1, 1) := dk_27 (dk_at dksX0_offers_1 2 rfl rfl)
theorem dX0_offers_27 : decode cX0_offers 27 = .ok (.putfield 365, 3) := dk_181 1 109 (dk_at dksX0_offers_1 3 rfl rfl)
theorem dX0_offers_30 : decode cX0_offers 30 = .ok (.aload_n 0, 1) := dk_42 (dk_at dksX0_offers_1 6 rfl rfl)
theorem dX0_offers_31 : decode cX0_offers 31 = .ok (.iload_n 2, 1) := dk_28 (dk_at dksX0_offers_1 7 rfl rfl)
theorem dX0_offers_32 : decode cX0_offers 32 = .ok (.putfield 368, 3) := dk_181 1 112 (dk_at dksX0_offers_1 8 rfl rfl)
theorem dX0_offers_35 : decode cX0_offers 35 = .ok (.aload_n 0, 1) := dk_42 (dk_at dksX0_offers_1 11 rfl rfl)
theorem dX0_offers_36 : decode cX0_offers 36 = .ok (.getfield 58, 3) := dk_180 0 58 (dk_at dksX0_offers_1 12 rfl rfl)
theorem dX0_offers_39 : decode cX0_offers 39 = .ok (.iconst 0, 1) := dk_3 (dk_at dksX0_offers_1 15 rfl rfl)
theorem dX0_offers_40 : decode cX0_offers 40 = .ok (.iload_n 3, 1) := dk_29 (dk_at dksX0_offers_1 16 rfl rfl)
theorem dX0_offers_41 : decode cX0_offers 41 = .ok (.iastore, 1) := dk_79 (dk_at dksX0_offers_1 17 rfl rfl)
theorem dX0_offers_42 : decode cX0_offers 42 = .ok (.aload_n 0, 1) := dk_42 (dk_at dksX0_offers_1 18 rfl rfl)
theorem dX0_offers_43 : decode cX0_offers 43 = .ok (.getfield 58, 3) := dk_180 0 58 (dk_at dksX0_offers_1 19 rfl rfl)
theorem dX0_offers_46 : decode cX0_offers 46 = .ok (.iconst 1, 1) := dk_4 (dk_at dksX0_offers_1 22 rfl rfl)
theorem dX0_offers_47 : decode cX0_offers 47 = .ok (.iload 4, 2) := dk_21 4 (dk_at dksX0_offers_2 0 rfl rfl)
theorem dX0_offers_49 : decode cX0_offers 49 = .ok (.iastore, 1) := dk_79 (dk_at dksX0_offers_2 2 rfl rfl)
theorem dX0_offers_50 : decode cX0_offers 50 = .ok (.return_, 1) := dk_177 (dk_at dksX0_offers_2 3 rfl rfl)
abbrev cX0_costOf : ByteArray := prog_1_method_59_code
def yX0_costOf : MethodName := ⟨RX0, "costOf", "(I)I"⟩
def dkwX0_costOf_0 : List UInt8 := [26, 154, 0, 7, 5, 167, 0, 13, 26, 6, 160, 0, 7, 7, 167, 0, 4, 4, 172]
abbrev dktX0_costOf_0 : List UInt8 := dkwX0_costOf_0 ++ []
theorem dksX0_costOf_0 : cX0_costOf.data.toList.drop 0 = dktX0_costOf_0 := by decide +kernel
theorem dX0_costOf_0 : decode cX0_costOf 0 = .ok (.iload_n 0, 1) := dk_26 (dk_at dksX0_costOf_0 0 rfl rfl)
theorem dX0_costOf_1 : decode cX0_costOf 1 = .ok (.ifCond .ne 7, 3) := dk_154 0 7 (dk_at dksX0_costOf_0 1 rfl rfl)
theorem dX0_costOf_4 : decode cX0_costOf 4 = .ok (.iconst 2, 1) := dk_5 (dk_at dksX0_costOf_0 4 rfl rfl)
theorem dX0_costOf_5 : decode cX0_costOf 5 = .ok (.goto 13, 3) := dk_167 0 13 (dk_at dksX0_costOf_0 5 rfl rfl)
theorem dX0_costOf_8 : decode cX0_costOf 8 = .ok (.iload_n 0, 1) := dk_26 (dk_at dksX0_costOf_0 8 rfl rfl)
theorem dX0_costOf_9 : decode cX0_costOf 9 = .ok (.iconst 3, 1) := dk_6 (dk_at dksX0_costOf_0 9 rfl rfl)
theorem dX0_costOf_10 : decode cX0_costOf 10 = .ok (.if_icmp .ne 7, 3) := dk_160 0 7 (dk_at dksX0_costOf_0 10 rfl rfl)
theorem dX0_costOf_13 : decode cX0_costOf 13 = .ok (.iconst 4, 1) := dk_7 (dk_at dksX0_costOf_0 13 rfl rfl)
theorem dX0_costOf_14 : decode cX0_costOf 14 = .ok (.goto 4, 3) := dk_167 0 4 (dk_at dksX0_costOf_0 14 rfl rfl)
theorem dX0_costOf_17 : decode cX0_costOf 17 = .ok (.iconst 1, 1) := dk_4 (dk_at dksX0_costOf_0 17 rfl rfl)
theorem dX0_costOf_18 : decode cX0_costOf 18 = .ok (.ireturn, 1) := dk_172 (dk_at dksX0_costOf_0 18 rfl rfl)
abbrev cX0_seconds : ByteArray := prog_1_method_64_code
def yX0_seconds : MethodName := ⟨RX0, "seconds", "(II)V"⟩
def dkwX0_seconds_6 : List UInt8 := [21, 8, 79, 132, 9, 1, 167, 255, 180, 132, 4, 1, 167, 255, 114, 177]
abbrev dktX0_seconds_6 : List UInt8 := dkwX0_seconds_6 ++ []
def dkwX0_seconds_5 : List UInt8 := [25, 5, 180, 0, 201, 3, 21, 6, 79, 25, 5, 180, 0, 201, 4, 21, 7, 79, 25, 5, 180, 0, 201, 5]
abbrev dktX0_seconds_5 : List UInt8 := dkwX0_seconds_5 ++ dktX0_seconds_6
def dkwX0_seconds_4 : List UInt8 := [153, 0, 24, 42, 29, 21, 9, 184, 1, 115, 96, 5, 27, 16, 10, 21, 4, 104, 21, 9, 96, 182, 1, 121]
abbrev dktX0_seconds_4 : List UInt8 := dkwX0_seconds_4 ++ dktX0_seconds_5
def dkwX0_seconds_3 : List UInt8 := [54, 9, 21, 9, 7, 162, 0, 76, 42, 25, 5, 21, 9, 182, 1, 105, 153, 0, 32, 42, 28, 182, 1, 118]
abbrev dktX0_seconds_3 : List UInt8 := dkwX0_seconds_3 ++ dktX0_seconds_4
def dkwX0_seconds_2 : List UInt8 := [3, 46, 54, 6, 25, 5, 180, 0, 201, 4, 46, 54, 7, 25, 5, 180, 0, 201, 5, 46, 54, 8, 3]
abbrev dktX0_seconds_2 : List UInt8 := dkwX0_seconds_2 ++ dktX0_seconds_3
def dkwX0_seconds_1 : List UInt8 := [162, 0, 134, 42, 180, 0, 12, 21, 4, 185, 0, 191, 2, 0, 192, 0, 113, 58, 5, 25, 5, 180, 0, 201]
abbrev dktX0_seconds_1 : List UInt8 := dkwX0_seconds_1 ++ dktX0_seconds_2
def dkwX0_seconds_0 : List UInt8 := [27, 16, 10, 112, 184, 1, 115, 62, 3, 54, 4, 21, 4, 42, 180, 0, 12, 185, 0, 184, 1, 0]
abbrev dktX0_seconds_0 : List UInt8 := dkwX0_seconds_0 ++ dktX0_seconds_1
theorem dksX0_seconds_0 : cX0_seconds.data.toList.drop 0 = dktX0_seconds_0 := by decide +kernel
theorem dksX0_seconds_1 : cX0_seconds.data.toList.drop 22 = dktX0_seconds_1 := dk_seg dksX0_seconds_0 22 rfl rfl
theorem dksX0_seconds_2 : cX0_seconds.data.toList.drop 46 = dktX0_seconds_2 := dk_seg dksX0_seconds_1 24 rfl rfl
theorem dksX0_seconds_3 : cX0_seconds.data.toList.drop 69 = dktX0_seconds_3 := dk_seg dksX0_seconds_2 23 rfl rfl
theorem dksX0_seconds_4 : cX0_seconds.data.toList.drop 93 = dktX0_seconds_4 := dk_seg dksX0_seconds_3 24 rfl rfl
theorem dksX0_seconds_5 : cX0_seconds.data.toList.drop 117 = dktX0_seconds_5 := dk_seg dksX0_seconds_4 24 rfl rfl
theorem dksX0_seconds_6 : cX0_seconds.data.toList.drop 141 = dktX0_seconds_6 := dk_seg dksX0_seconds_5 24 rfl rfl
theorem dX0_seconds_0 : decode cX0_seconds 0 = .ok (.iload_n 1, 1) := dk_27 (dk_at dksX0_seconds_0 0 rfl rfl)
theorem dX0_seconds_1 : decode cX0_seconds 1 = .ok (.bipush 10, 2) := dk_16 10 (dk_at dksX0_seconds_0 1 rfl rfl)
theorem dX0_seconds_3 : decode cX0_seconds 3 = .ok (.irem, 1) := dk_112 (dk_at dksX0_seconds_0 3 rfl rfl)
theorem dX0_seconds_4 : decode cX0_seconds 4 = .ok (.invokestatic 371, 3) := dk_184 1 115 (dk_at dksX0_seconds_0 4 rfl rfl)
theorem dX0_seconds_7 : decode cX0_seconds 7 = .ok (.istore_n 3, 1) := dk_62 (dk_at dksX0_seconds_0 7 rfl rfl)
theorem dX0_seconds_8 : decode cX0_seconds 8 = .ok (.iconst 0, 1) := dk_3 (dk_at dksX0_seconds_0 8 rfl rfl)
theorem dX0_seconds_9 : decode cX0_seconds 9 = .ok (.istore 4, 2) := dk_54 4 (dk_at dksX0_seconds_0 9 rfl rfl)
theorem dX0_seconds_11 : decode cX0_seconds 11 = .ok (.iload 4, 2) := dk_21 4 (dk_at dksX0_seconds_0 11 rfl rfl)
theorem dX0_seconds_13 : decode cX0_seconds 13 = .ok (.aload_n 0, 1) := dk_42 (dk_at dksX0_seconds_0 13 rfl rfl)
theorem dX0_seconds_14 : decode cX0_seconds 14 = .ok (.getfield 12, 3) := dk_180 0 12 (dk_at dksX0_seconds_0 14 rfl rfl)
theorem dX0_seconds_17 : decode cX0_seconds 17 = .ok (.invokeinterface 184 1, 5) := by decide +kernel
theorem dX0_seconds_22 : decode cX0_seconds 22 = .ok (.if_icmp .ge 134, 3) := dk_162 0 134 (dk_at dksX0_seconds_1 0 rfl rfl)
theorem dX0_seconds_25 : decode cX0_seconds 25 = .ok (.aload_n 0, 1) := dk_42 (dk_at dksX0_seconds_1 3 rfl rfl)
theorem dX0_seconds_26 : decode cX0_seconds 26 = .ok (.getfield 12, 3) := dk_180 0 12 (dk_at dksX0_seconds_1 4 rfl rfl)
theorem dX0_seconds_29 : decode cX0_seconds 29 = .ok (.iload 4, 2) := dk_21 4 (dk_at dksX0_seconds_1 7 rfl rfl)
theorem dX0_seconds_31 : decode cX0_seconds 31 = .ok (.invokeinterface 191 2, 5) := by decide +kernel
theorem dX0_seconds_36 : decode cX0_seconds 36 = .ok (.checkcast 113, 3) := dk_192 0 113 (dk_at dksX0_seconds_1 14 rfl rfl)
theorem dX0_seconds_39 : decode cX0_seconds 39 = .ok (.astore 5, 2) := dk_58 5 (dk_at dksX0_seconds_1 17 rfl rfl)
theorem dX0_seconds_41 : decode cX0_seconds 41 = .ok (.aload 5, 2) := dk_25 5 (dk_at dksX0_seconds_1 19 rfl rfl)
theorem dX0_seconds_43 : decode cX0_seconds 43 = .ok (.getfield 201, 3) := dk_180 0 201 (dk_at dksX0_seconds_1 21 rfl rfl)
theorem dX0_seconds_46 : decode cX0_seconds 46 = .ok (.iconst 0, 1) := dk_3 (dk_at dksX0_seconds_2 0 rfl rfl)
theorem dX0_seconds_47 : decode cX0_seconds 47 = .ok (.iaload, 1) := dk_46 (dk_at dksX0_seconds_2 1 rfl rfl)
theorem dX0_seconds_48 : decode cX0_seconds 48 = .ok (.istore 6, 2) := dk_54 6 (dk_at dksX0_seconds_2 2 rfl rfl)
theorem dX0_seconds_50 : decode cX0_seconds 50 = .ok (.aload 5, 2) := dk_25 5 (dk_at dksX0_seconds_2 4 rfl rfl)
theorem dX0_seconds_52 : decode cX0_seconds 52 = .ok (.getfield 201, 3) := dk_180 0 201 (dk_at dksX0_seconds_2 6 rfl rfl)
theorem dX0_seconds_55 : decode cX0_seconds 55 = .ok (.iconst 1, 1) := dk_4 (dk_at dksX0_seconds_2 9 rfl rfl)
theorem dX0_seconds_56 : decode cX0_seconds 56 = .ok (.iaload, 1) := dk_46 (dk_at dksX0_seconds_2 10 rfl rfl)
theorem dX0_seconds_57 : decode cX0_seconds 57 = .ok (.istore 7, 2) := dk_54 7 (dk_at dksX0_seconds_2 11 rfl rfl)
theorem dX0_seconds_59 : decode cX0_seconds 59 = .ok (.aload 5, 2) := dk_25 5 (dk_at dksX0_seconds_2 13 rfl rfl)
theorem dX0_seconds_61 : decode cX0_seconds 61 = .ok (.getfield 201, 3) := dk_180 0 201 (dk_at dksX0_seconds_2 15 rfl rfl)
theorem dX0_seconds_64 : decode cX0_seconds 64 = .ok (.iconst 2, 1) := dk_5 (dk_at dksX0_seconds_2 18 rfl rfl)
theorem dX0_seconds_65 : decode cX0_seconds 65 = .ok (.iaload, 1) := dk_46 (dk_at dksX0_seconds_2 19 rfl rfl)
theorem dX0_seconds_66 : decode cX0_seconds 66 = .ok (.istore 8, 2) := dk_54 8 (dk_at dksX0_seconds_2 20 rfl rfl)
theorem dX0_seconds_68 : decode cX0_seconds 68 = .ok (.iconst 0, 1) := dk_3 (dk_at dksX0_seconds_2 22 rfl rfl)
theorem dX0_seconds_69 : decode cX0_seconds 69 = .ok (.istore 9, 2) := dk_54 9 (dk_at dksX0_seconds_3 0 rfl rfl)
theorem dX0_seconds_71 : decode cX0_seconds 71 = .ok (.iload 9, 2) := dk_21 9 (dk_at dksX0_seconds_3 2 rfl rfl)
theorem dX0_seconds_73 : decode cX0_seconds 73 = .ok (.iconst 4, 1) := dk_7 (dk_at dksX0_seconds_3 4 rfl rfl)
theorem dX0_seconds_74 : decode cX0_seconds 74 = .ok (.if_icmp .ge 76, 3) := dk_162 0 76 (dk_at dksX0_seconds_3 5 rfl rfl)
theorem dX0_seconds_77 : decode cX0_seconds 77 = .ok (.aload_n 0, 1) := dk_42 (dk_at dksX0_seconds_3 8 rfl rfl)
theorem dX0_seconds_78 : decode cX0_seconds 78 = .ok (.aload 5, 2) := dk_25 5 (dk_at dksX0_seconds_3 9 rfl rfl)
theorem dX0_seconds_80 : decode cX0_seconds 80 = .ok (.iload 9, 2) := dk_21 9 (dk_at dksX0_seconds_3 11 rfl rfl)
theorem dX0_seconds_82 : decode cX0_seconds 82 = .ok (.invokevirtual 361, 3) := dk_182 1 105 (dk_at dksX0_seconds_3 13 rfl rfl)
theorem dX0_seconds_85 : decode cX0_seconds 85 = .ok (.ifCond .eq 32, 3) := dk_153 0 32 (dk_at dksX0_seconds_3 16 rfl rfl)
theorem dX0_seconds_88 : decode cX0_seconds 88 = .ok (.aload_n 0, 1) := dk_42 (dk_at dksX0_seconds_3 19 rfl rfl)
theorem dX0_seconds_89 : decode cX0_seconds 89 = .ok (.iload_n 2, 1) := dk_28 (dk_at dksX0_seconds_3 20 rfl rfl)
theorem dX0_seconds_90 : decode cX0_seconds 90 = .ok (.invokevirtual 374, 3) := dk_182 1 118 (dk_at dksX0_seconds_3 21 rfl rfl)
theorem dX0_seconds_93 : decode cX0_seconds 93 = .ok (.ifCond .eq 24, 3) := dk_153 0 24 (dk_at dksX0_seconds_4 0 rfl rfl)
theorem dX0_seconds_96 : decode cX0_seconds 96 = .ok (.aload_n 0, 1) := dk_42 (dk_at dksX0_seconds_4 3 rfl rfl)
theorem dX0_seconds_97 : decode cX0_seconds 97 = .ok (.iload_n 3, 1) := dk_29 (dk_at dksX0_seconds_4 4 rfl rfl)
theorem dX0_seconds_98 : decode cX0_seconds 98 = .ok (.iload 9, 2) := dk_21 9 (dk_at dksX0_seconds_4 5 rfl rfl)
theorem dX0_seconds_100 : decode cX0_seconds 100 = .ok (.invokestatic 371, 3) := dk_184 1 115 (dk_at dksX0_seconds_4 7 rfl rfl)
theorem dX0_seconds_103 : decode cX0_seconds 103 = .ok (.iadd, 1) := dk_96 (dk_at dksX0_seconds_4 10 rfl rfl)
theorem dX0_seconds_104 : decode cX0_seconds 104 = .ok (.iconst 2, 1) := dk_5 (dk_at dksX0_seconds_4 11 rfl rfl)
theorem dX0_seconds_105 : decode cX0_seconds 105 = .ok (.iload_n 1, 1) := dk_27 (dk_at dksX0_seconds_4 12 rfl rfl)
theorem dX0_seconds_106 : decode cX0_seconds 106 = .ok (.bipush 10, 2) := dk_16 10 (dk_at dksX0_seconds_4 13 rfl rfl)
theorem dX0_seconds_108 : decode cX0_seconds 108 = .ok (.iload 4, 2) := dk_21 4 (dk_at dksX0_seconds_4 15 rfl rfl)
theorem dX0_seconds_110 : decode cX0_seconds 110 = .ok (.imul, 1) := dk_104 (dk_at dksX0_seconds_4 17 rfl rfl)
theorem dX0_seconds_111 : decode cX0_seconds 111 = .ok (.iload 9, 2) := dk_21 9 (dk_at dksX0_seconds_4 18 rfl rfl)
theorem dX0_seconds_113 : decode cX0_seconds 113 = .ok (.iadd, 1) := dk_96 (dk_at dksX0_seconds_4 20 rfl rfl)
theorem dX0_seconds_114 : decode cX0_seconds 114 = .ok (.invokevirtual 377, 3) := dk_182 1 121 (dk_at dksX0_seconds_4 21 rfl rfl)
theorem dX0_seconds_117 : decode cX0_seconds 117 = .ok (.aload 5, 2) := dk_25 5 (dk_at dksX0_seconds_5 0 rfl rfl)
theorem dX0_seconds_119 : decode cX0_seconds 119 = .ok (.getfield 201, 3) := dk_180 0 201 (dk_at dksX0_seconds_5 2 rfl rfl)
theorem dX0_seconds_122 : decode cX0_seconds 122 = .ok (.iconst 0, 1) := dk_3 (dk_at dksX0_seconds_5 5 rfl rfl)
theorem dX0_seconds_123 : decode cX0_seconds 123 = .ok (.iload 6, 2) := dk_21 6 (dk_at dksX0_seconds_5 6 rfl rfl)
theorem dX0_seconds_125 : decode cX0_seconds 125 = .ok (.iastore, 1) := dk_79 (dk_at dksX0_seconds_5 8 rfl rfl)
theorem dX0_seconds_126 : decode cX0_seconds 126 = .ok (.aload 5, 2) := dk_25 5 (dk_at dksX0_seconds_5 9 rfl rfl)
theorem dX0_seconds_128 : decode cX0_seconds 128 = .ok (.getfield 201, 3) := dk_180 0 201 (dk_at dksX0_seconds_5 11 rfl rfl)
theorem dX0_seconds_131 : decode cX0_seconds 131 = .ok (.iconst 1, 1) := dk_4 (dk_at dksX0_seconds_5 14 rfl rfl)
theorem dX0_seconds_132 : decode cX0_seconds 132 = .ok (.iload 7, 2) := dk_21 7 (dk_at dksX0_seconds_5 15 rfl rfl)
theorem dX0_seconds_134 : decode cX0_seconds 134 = .ok (.iastore, 1) := dk_79 (dk_at dksX0_seconds_5 17 rfl rfl)
theorem dX0_seconds_135 : decode cX0_seconds 135 = .ok (.aload 5, 2) := dk_25 5 (dk_at dksX0_seconds_5 18 rfl rfl)
theorem dX0_seconds_137 : decode cX0_seconds 137 = .ok (.getfield 201, 3) := dk_180 0 201 (dk_at dksX0_seconds_5 20 rfl rfl)
theorem dX0_seconds_140 : decode cX0_seconds 140 = .ok (.iconst 2, 1) := dk_5 (dk_at dksX0_seconds_5 23 rfl rfl)
theorem dX0_seconds_141 : decode cX0_seconds 141 = .ok (.iload 8, 2) := dk_21 8 (dk_at dksX0_seconds_6 0 rfl rfl)
theorem dX0_seconds_143 : decode cX0_seconds 143 = .ok (.iastore, 1) := dk_79 (dk_at dksX0_seconds_6 2 rfl rfl)
theorem dX0_seconds_144 : decode cX0_seconds 144 = .ok (.iinc 9 1, 3) := dk_132 9 1 (dk_at dksX0_seconds_6 3 rfl rfl)
theorem dX0_seconds_147 : decode cX0_seconds 147 = .ok (.goto (-76), 3) := dk_167 255 180 (dk_at dksX0_seconds_6 6 rfl rfl)
theorem dX0_seconds_150 : decode cX0_seconds 150 = .ok (.iinc 4 1, 3) := dk_132 4 1 (dk_at dksX0_seconds_6 9 rfl rfl)
theorem dX0_seconds_153 : decode cX0_seconds 153 = .ok (.goto (-142), 3) := dk_167 255 114 (dk_at dksX0_seconds_6 12 rfl rfl)
theorem dX0_seconds_156 : decode cX0_seconds 156 = .ok (.return_, 1) := dk_177 (dk_at dksX0_seconds_6 15 rfl rfl)
abbrev cX0_log : ByteArray := prog_1_method_70_code
def yX0_log : MethodName := ⟨RX0, "log", "(IIIII)I"⟩
def dkwX0_log_3 : List UInt8 := [182, 0, 175, 172, 58, 6, 42, 6, 182, 0, 175, 172]
abbrev dktX0_log_3 : List UInt8 := dkwX0_log_3 ++ []
def dkwX0_log_2 : List UInt8 := [182, 1, 150, 172, 58, 6, 42, 5, 182, 0, 175, 172, 58, 6, 42, 4, 182, 0, 175, 172, 58, 6, 42, 7]
abbrev dktX0_log_2 : List UInt8 := dkwX0_log_2 ++ dktX0_log_3
def dkwX0_log_1 : List UInt8 := [42, 42, 180, 0, 70, 27, 50, 180, 0, 155, 28, 184, 0, 161, 29, 21, 4, 184, 0, 165, 21, 5]
abbrev dktX0_log_1 : List UInt8 := dkwX0_log_1 ++ dktX0_log_2
def dkwX0_log_0 : List UInt8 := [42, 3, 181, 0, 80, 27, 184, 0, 148, 154, 0, 5, 2, 172, 28, 184, 0, 152, 154, 0, 6, 16, 254, 172]
abbrev dktX0_log_0 : List UInt8 := dkwX0_log_0 ++ dktX0_log_1
theorem dksX0_log_0 : cX0_log.data.toList.drop 0 = dktX0_log_0 := by decide +kernel
theorem dksX0_log_1 : cX0_log.data.toList.drop 24 = dktX0_log_1 := dk_seg dksX0_log_0 24 rfl rfl
theorem dksX0_log_2 : cX0_log.data.toList.drop 46 = dktX0_log_2 := dk_seg dksX0_log_1 22 rfl rfl
theorem dksX0_log_3 : cX0_log.data.toList.drop 70 = dktX0_log_3 := dk_seg dksX0_log_2 24 rfl rfl
theorem dX0_log_0 : decode cX0_log 0 = .ok (.aload_n 0, 1) := dk_42 (dk_at dksX0_log_0 0 rfl rfl)
theorem dX0_log_1 : decode cX0_log 1 = .ok (.iconst 0, 1) := dk_3 (dk_at dksX0_log_0 1 rfl rfl)
theorem dX0_log_2 : decode cX0_log 2 = .ok (.putfield 80, 3) := dk_181 0 80 (dk_at dksX0_log_0 2 rfl rfl)
theorem dX0_log_5 : decode cX0_log 5 = .ok (.iload_n 1, 1) := dk_27 (dk_at dksX0_log_0 5 rfl rfl)
theorem dX0_log_6 : decode cX0_log 6 = .ok (.invokestatic 148, 3) := dk_184 0 148 (dk_at dksX0_log_0 6 rfl rfl)
theorem dX0_log_9 : decode cX0_log 9 = .ok (.ifCond .ne 5, 3) := dk_154 0 5 (dk_at dksX0_log_0 9 rfl rfl)
theorem dX0_log_12 : decode cX0_log 12 = .ok (.iconst (-1), 1) := dk_2 (dk_at dksX0_log_0 12 rfl rfl)
theorem dX0_log_13 : decode cX0_log 13 = .ok (.ireturn, 1) := dk_172 (dk_at dksX0_log_0 13 rfl rfl)
theorem dX0_log_14 : decode cX0_log 14 = .ok (.iload_n 2, 1) := dk_28 (dk_at dksX0_log_0 14 rfl rfl)
theorem dX0_log_15 : decode cX0_log 15 = .ok (.invokestatic 152, 3) := dk_184 0 152 (dk_at dksX0_log_0 15 rfl rfl)
theorem dX0_log_18 : decode cX0_log 18 = .ok (.ifCond .ne 6, 3) := dk_154 0 6 (dk_at dksX0_log_0 18 rfl rfl)
theorem dX0_log_21 : decode cX0_log 21 = .ok (.bipush (-2), 2) := dk_16 254 (dk_at dksX0_log_0 21 rfl rfl)
theorem dX0_log_23 : decode cX0_log 23 = .ok (.ireturn, 1) := dk_172 (dk_at dksX0_log_0 23 rfl rfl)
theorem dX0_log_24 : decode cX0_log 24 = .ok (.aload_n 0, 1) := dk_42 (dk_at dksX0_log_1 0 rfl rfl)
theorem dX0_log_25 : decode cX0_log 25 = .ok (.aload_n 0, 1) := dk_42 (dk_at dksX0_log_1 1 rfl rfl)
theorem dX0_log_26 : decode cX0_log 26 = .ok (.getfield 70, 3) := dk_180 0 70 (dk_at dksX0_log_1 2 rfl rfl)
theorem dX0_log_29 : decode cX0_log 29 = .ok (.iload_n 1, 1) := dk_27 (dk_at dksX0_log_1 5 rfl rfl)
theorem dX0_log_30 : decode cX0_log 30 = .ok (.aaload, 1) := dk_50 (dk_at dksX0_log_1 6 rfl rfl)
theorem dX0_log_31 : decode cX0_log 31 = .ok (.getfield 155, 3) := dk_180 0 155 (dk_at dksX0_log_1 7 rfl rfl)
theorem dX0_log_34 : decode cX0_log 34 = .ok (.iload_n 2, 1) := dk_28 (dk_at dksX0_log_1 10 rfl rfl)
theorem dX0_log_35 : decode cX0_log 35 = .ok (.invokestatic 161, 3) := dk_184 0 161 (dk_at dksX0_log_1 11 rfl rfl)
theorem dX0_log_38 : decode cX0_log 38 = .ok (.iload_n 3, 1) := dk_29 (dk_at dksX0_log_1 14 rfl rfl)
theorem dX0_log_39 : decode cX0_log 39 = .ok (.iload 4, 2) := dk_21 4 (dk_at dksX0_log_1 15 rfl rfl)
theorem dX0_log_41 : decode cX0_log 41 = .ok (.invokestatic 165, 3) := dk_184 0 165 (dk_at dksX0_log_1 17 rfl rfl)
theorem dX0_log_44 : decode cX0_log 44 = .ok (.iload 5, 2) := dk_21 5 (dk_at dksX0_log_1 20 rfl rfl)
theorem dX0_log_46 : decode cX0_log 46 = .ok (.invokevirtual 406, 3) := dk_182 1 150 (dk_at dksX0_log_2 0 rfl rfl)
theorem dX0_log_49 : decode cX0_log 49 = .ok (.ireturn, 1) := dk_172 (dk_at dksX0_log_2 3 rfl rfl)
theorem dX0_log_50 : decode cX0_log 50 = .ok (.astore 6, 2) := dk_58 6 (dk_at dksX0_log_2 4 rfl rfl)
theorem dX0_log_52 : decode cX0_log 52 = .ok (.aload_n 0, 1) := dk_42 (dk_at dksX0_log_2 6 rfl rfl)
theorem dX0_log_53 : decode cX0_log 53 = .ok (.iconst 2, 1) := dk_5 (dk_at dksX0_log_2 7 rfl rfl)
theorem dX0_log_54 : decode cX0_log 54 = .ok (.invokevirtual 175, 3) := dk_182 0 175 (dk_at dksX0_log_2 8 rfl rfl)
theorem dX0_log_57 : decode cX0_log 57 = .ok (.ireturn, 1) := dk_172 (dk_at dksX0_log_2 11 rfl rfl)
theorem dX0_log_58 : decode cX0_log 58 = .ok (.astore 6, 2) := dk_58 6 (dk_at dksX0_log_2 12 rfl rfl)
theorem dX0_log_60 : decode cX0_log 60 = .ok (.aload_n 0, 1) := dk_42 (dk_at dksX0_log_2 14 rfl rfl)
theorem dX0_log_61 : decode cX0_log 61 = .ok (.iconst 1, 1) := dk_4 (dk_at dksX0_log_2 15 rfl rfl)
theorem dX0_log_62 : decode cX0_log 62 = .ok (.invokevirtual 175, 3) := dk_182 0 175 (dk_at dksX0_log_2 16 rfl rfl)
theorem dX0_log_65 : decode cX0_log 65 = .ok (.ireturn, 1) := dk_172 (dk_at dksX0_log_2 19 rfl rfl)
theorem dX0_log_66 : decode cX0_log 66 = .ok (.astore 6, 2) := dk_58 6 (dk_at dksX0_log_2 20 rfl rfl)
theorem dX0_log_68 : decode cX0_log 68 = .ok (.aload_n 0, 1) := dk_42 (dk_at dksX0_log_2 22 rfl rfl)
theorem dX0_log_69 : decode cX0_log 69 = .ok (.iconst 4, 1) := dk_7 (dk_at dksX0_log_2 23 rfl rfl)
theorem dX0_log_70 : decode cX0_log 70 = .ok (.invokevirtual 175, 3) := dk_182 0 175 (dk_at dksX0_log_3 0 rfl rfl)
theorem dX0_log_73 : decode cX0_log 73 = .ok (.ireturn, 1) := dk_172 (dk_at dksX0_log_3 3 rfl rfl)
theorem dX0_log_74 : decode cX0_log 74 = .ok (.astore 6, 2) := dk_58 6 (dk_at dksX0_log_3 4 rfl rfl)
theorem dX0_log_76 : decode cX0_log 76 = .ok (.aload_n 0, 1) := dk_42 (dk_at dksX0_log_3 6 rfl rfl)
theorem dX0_log_77 : decode cX0_log 77 = .ok (.iconst 3, 1) := dk_6 (dk_at dksX0_log_3 7 rfl rfl)
theorem dX0_log_78 : decode cX0_log 78 = .ok (.invokevirtual 175, 3) := dk_182 0 175 (dk_at dksX0_log_3 8 rfl rfl)
theorem dX0_log_81 : decode cX0_log 81 = .ok (.ireturn, 1) := dk_172 (dk_at dksX0_log_3 11 rfl rfl)
abbrev cX0_logged : ByteArray := prog_1_method_69_code
def yX0_logged : MethodName := ⟨RX0, "logged", "([II)I"⟩
def dkwX0_logged_4 : List UInt8 := [167, 0, 22, 28, 43, 190, 4, 100, 162, 0, 12, 42, 180, 0, 61, 28, 46, 167, 0, 5, 16, 247, 172]
abbrev dktX0_logged_4 : List UInt8 := dkwX0_logged_4 ++ []
def dkwX0_logged_3 : List UInt8 := [19, 1, 44, 181, 1, 136, 42, 43, 3, 3, 3, 182, 1, 142, 28, 156, 0, 10, 42, 180, 1, 136]
abbrev dktX0_logged_3 : List UInt8 := dkwX0_logged_3 ++ dktX0_logged_4
def dkwX0_logged_2 : List UInt8 := [132, 3, 1, 167, 255, 228, 28, 133, 20, 1, 148, 20, 1, 3, 184, 0, 76, 154, 0, 5, 2, 172, 42]
abbrev dktX0_logged_2 : List UInt8 := dkwX0_logged_2 ++ dktX0_logged_3
def dkwX0_logged_1 : List UInt8 := [162, 0, 28, 43, 29, 46, 133, 20, 1, 1, 20, 0, 74, 184, 0, 76, 154, 0, 6, 16, 254, 172]
abbrev dktX0_logged_1 : List UInt8 := dkwX0_logged_1 ++ dktX0_logged_2
def dkwX0_logged_0 : List UInt8 := [43, 190, 133, 20, 0, 210, 20, 1, 146, 184, 0, 76, 154, 0, 6, 16, 254, 172, 3, 62, 29, 43, 190]
abbrev dktX0_logged_0 : List UInt8 := dkwX0_logged_0 ++ dktX0_logged_1
theorem dksX0_logged_0 : cX0_logged.data.toList.drop 0 = dktX0_logged_0 := by decide +kernel
theorem dksX0_logged_1 : cX0_logged.data.toList.drop 23 = dktX0_logged_1 := dk_seg dksX0_logged_0 23 rfl rfl
theorem dksX0_logged_2 : cX0_logged.data.toList.drop 45 = dktX0_logged_2 := dk_seg dksX0_logged_1 22 rfl rfl
theorem dksX0_logged_3 : cX0_logged.data.toList.drop 68 = dktX0_logged_3 := dk_seg dksX0_logged_2 23 rfl rfl
theorem dksX0_logged_4 : cX0_logged.data.toList.drop 90 = dktX0_logged_4 := dk_seg dksX0_logged_3 22 rfl rfl
theorem dX0_logged_0 : decode cX0_logged 0 = .ok (.aload_n 1, 1) := dk_43 (dk_at dksX0_logged_0 0 rfl rfl)
theorem dX0_logged_1 : decode cX0_logged 1 = .ok (.arraylength, 1) := dk_190 (dk_at dksX0_logged_0 1 rfl rfl)
theorem dX0_logged_2 : decode cX0_logged 2 = .ok (.i2l, 1) := dk_133 (dk_at dksX0_logged_0 2 rfl rfl)
theorem dX0_logged_3 : decode cX0_logged 3 = .ok (.ldc2_w 210, 3) := dk_20 0 210 (dk_at dksX0_logged_0 3 rfl rfl)
theorem dX0_logged_6 : decode cX0_logged 6 = .ok (.ldc2_w 402, 3) := dk_20 1 146 (dk_at dksX0_logged_0 6 rfl rfl)
theorem dX0_logged_9 : decode cX0_logged 9 = .ok (.invokestatic 76, 3) := dk_184 0 76 (dk_at dksX0_logged_0 9 rfl rfl)
theorem dX0_logged_12 : decode cX0_logged 12 = .ok (.ifCond .ne 6, 3) := dk_154 0 6 (dk_at dksX0_logged_0 12 rfl rfl)
theorem dX0_logged_15 : decode cX0_logged 15 = .ok (.bipush (-2), 2) := dk_16 254 (dk_at dksX0_logged_0 15 rfl rfl)
theorem dX0_logged_17 : decode cX0_logged 17 = .ok (.ireturn, 1) := dk_172 (dk_at dksX0_logged_0 17 rfl rfl)
theorem dX0_logged_18 : decode cX0_logged 18 = .ok (.iconst 0, 1) := dk_3 (dk_at dksX0_logged_0 18 rfl rfl)
theorem dX0_logged_19 : decode cX0_logged 19 = .ok (.istore_n 3, 1) := dk_62 (dk_at dksX0_logged_0 19 rfl rfl)
theorem dX0_logged_20 : decode cX0_logged 20 = .ok (.iload_n 3, 1) := dk_29 (dk_at dksX0_logged_0 20 rfl rfl)
theorem dX0_logged_21 : decode cX0_logged 21 = .ok (.aload_n 1, 1) := dk_43 (dk_at dksX0_logged_0 21 rfl rfl)
theorem dX0_logged_22 : decode cX0_logged 22 = .ok (.arraylength, 1) := dk_190 (dk_at dksX0_logged_0 22 rfl rfl)
theorem dX0_logged_23 : decode cX0_logged 23 = .ok (.if_icmp .ge 28, 3) := dk_162 0 28 (dk_at dksX0_logged_1 0 rfl rfl)
theorem dX0_logged_26 : decode cX0_logged 26 = .ok (.aload_n 1, 1) := dk_43 (dk_at dksX0_logged_1 3 rfl rfl)
theorem dX0_logged_27 : decode cX0_logged 27 = .ok (.iload_n 3, 1) := dk_29 (dk_at dksX0_logged_1 4 rfl rfl)
theorem dX0_logged_28 : decode cX0_logged 28 = .ok (.iaload, 1) := dk_46 (dk_at dksX0_logged_1 5 rfl rfl)
theorem dX0_logged_29 : decode cX0_logged 29 = .ok (.i2l, 1) := dk_133 (dk_at dksX0_logged_1 6 rfl rfl)
theorem dX0_logged_30 : decode cX0_logged 30 = .ok (.ldc2_w 257, 3) := dk_20 1 1 (dk_at dksX0_logged_1 7 rfl rfl)
theorem dX0_logged_33 : decode cX0_logged 33 = .ok (.ldc2_w 74, 3) := dk_20 0 74 (dk_at dksX0_logged_1 10 rfl rfl)
theorem dX0_logged_36 : decode cX0_logged 36 = .ok (.invokestatic 76, 3) := dk_184 0 76 (dk_at dksX0_logged_1 13 rfl rfl)
theorem dX0_logged_39 : decode cX0_logged 39 = .ok (.ifCond .ne 6, 3) := dk_154 0 6 (dk_at dksX0_logged_1 16 rfl rfl)
theorem dX0_logged_42 : decode cX0_logged 42 = .ok (.bipush (-2), 2) := dk_16 254 (dk_at dksX0_logged_1 19 rfl rfl)
theorem dX0_logged_44 : decode cX0_logged 44 = .ok (.ireturn, 1) := dk_172 (dk_at dksX0_logged_1 21 rfl rfl)
theorem dX0_logged_45 : decode cX0_logged 45 = .ok (.iinc 3 1, 3) := dk_132 3 1 (dk_at dksX0_logged_2 0 rfl rfl)
theorem dX0_logged_48 : decode cX0_logged 48 = .ok (.goto (-28), 3) := dk_167 255 228 (dk_at dksX0_logged_2 3 rfl rfl)
theorem dX0_logged_51 : decode cX0_logged 51 = .ok (.iload_n 2, 1) := dk_28 (dk_at dksX0_logged_2 6 rfl rfl)
theorem dX0_logged_52 : decode cX0_logged 52 = .ok (.i2l, 1) := dk_133 (dk_at dksX0_logged_2 7 rfl rfl)
theorem dX0_logged_53 : decode cX0_logged 53 = .ok (.ldc2_w 404, 3) := dk_20 1 148 (dk_at dksX0_logged_2 8 rfl rfl)
theorem dX0_logged_56 : decode cX0_logged 56 = .ok (.ldc2_w 259, 3) := dk_20 1 3 (dk_at dksX0_logged_2 11 rfl rfl)
theorem dX0_logged_59 : decode cX0_logged 59 = .ok (.invokestatic 76, 3) := dk_184 0 76 (dk_at dksX0_logged_2 14 rfl rfl)
theorem dX0_logged_62 : decode cX0_logged 62 = .ok (.ifCond .ne 5, 3) := dk_154 0 5 (dk_at dksX0_logged_2 17 rfl rfl)
theorem dX0_logged_65 : decode cX0_logged 65 = .ok (.iconst (-1), 1) := dk_2 (dk_at dksX0_logged_2 20 rfl rfl)
theorem dX0_logged_66 : decode cX0_logged 66 = .ok (.ireturn, 1) := dk_172 (dk_at dksX0_logged_2 21 rfl rfl)
theorem dX0_logged_67 : decode cX0_logged 67 = .ok (.aload_n 0, 1) := dk_42 (dk_at dksX0_logged_2 22 rfl rfl)
theorem dX0_logged_68 : decode cX0_logged 68 = .ok (.ldc_w 300, 3) := dk_19 1 44 (dk_at dksX0_logged_3 0 rfl rfl)
theorem dX0_logged_71 : decode cX0_logged 71 = .ok (.putfield 392, 3) := dk_181 1 136 (dk_at dksX0_logged_3 3 rfl rfl)
theorem dX0_logged_74 : decode cX0_logged 74 = .ok (.aload_n 0, 1) := dk_42 (dk_at dksX0_logged_3 6 rfl rfl)
theorem dX0_logged_75 : decode cX0_logged 75 = .ok (.aload_n 1, 1) := dk_43 (dk_at dksX0_logged_3 7 rfl rfl)
theorem dX0_logged_76 : decode cX0_logged 76 = .ok (.iconst 0, 1) := dk_3 (dk_at dksX0_logged_3 8 rfl rfl)
theorem dX0_logged_77 : decode cX0_logged 77 = .ok (.iconst 0, 1) := dk_3 (dk_at dksX0_logged_3 9 rfl rfl)
theorem dX0_logged_78 : decode cX0_logged 78 = .ok (.iconst 0, 1) := dk_3 (dk_at dksX0_logged_3 10 rfl rfl)
theorem dX0_logged_79 : decode cX0_logged 79 = .ok (.invokevirtual 398, 3) := dk_182 1 142 (dk_at dksX0_logged_3 11 rfl rfl)
theorem dX0_logged_82 : decode cX0_logged 82 = .ok (.iload_n 2, 1) := dk_28 (dk_at dksX0_logged_3 14 rfl rfl)
theorem dX0_logged_83 : decode cX0_logged 83 = .ok (.ifCond .ge 10, 3) := dk_156 0 10 (dk_at dksX0_logged_3 15 rfl rfl)
theorem dX0_logged_86 : decode cX0_logged 86 = .ok (.aload_n 0, 1) := dk_42 (dk_at dksX0_logged_3 18 rfl rfl)
theorem dX0_logged_87 : decode cX0_logged 87 = .ok (.getfield 392, 3) := dk_180 1 136 (dk_at dksX0_logged_3 19 rfl rfl)
theorem dX0_logged_90 : decode cX0_logged 90 = .ok (.goto 22, 3) := dk_167 0 22 (dk_at dksX0_logged_4 0 rfl rfl)
theorem dX0_logged_93 : decode cX0_logged 93 = .ok (.iload_n 2, 1) := dk_28 (dk_at dksX0_logged_4 3 rfl rfl)
theorem dX0_logged_94 : decode cX0_logged 94 = .ok (.aload_n 1, 1) := dk_43 (dk_at dksX0_logged_4 4 rfl rfl)
theorem dX0_logged_95 : decode cX0_logged 95 = .ok (.arraylength, 1) := dk_190 (dk_at dksX0_logged_4 5 rfl rfl)
theorem dX0_logged_96 : decode cX0_logged 96 = .ok (.iconst 1, 1) := dk_4 (dk_at dksX0_logged_4 6 rfl rfl)
theorem dX0_logged_97 : decode cX0_logged 97 = .ok (.isub, 1) := dk_100 (dk_at dksX0_logged_4 7 rfl rfl)
theorem dX0_logged_98 : decode cX0_logged 98 = .ok (.if_icmp .ge 12, 3) := dk_162 0 12 (dk_at dksX0_logged_4 8 rfl rfl)
theorem dX0_logged_101 : decode cX0_logged 101 = .ok (.aload_n 0, 1) := dk_42 (dk_at dksX0_logged_4 11 rfl rfl)
theorem dX0_logged_102 : decode cX0_logged 102 = .ok (.getfield 61, 3) := dk_180 0 61 (dk_at dksX0_logged_4 12 rfl rfl)
theorem dX0_logged_105 : decode cX0_logged 105 = .ok (.iload_n 2, 1) := dk_28 (dk_at dksX0_logged_4 15 rfl rfl)
theorem dX0_logged_106 : decode cX0_logged 106 = .ok (.iaload, 1) := dk_46 (dk_at dksX0_logged_4 16 rfl rfl)
theorem dX0_logged_107 : decode cX0_logged 107 = .ok (.goto 5, 3) := dk_167 0 5 (dk_at dksX0_logged_4 17 rfl rfl)
theorem dX0_logged_110 : decode cX0_logged 110 = .ok (.bipush (-9), 2) := dk_16 247 (dk_at dksX0_logged_4 20 rfl rfl)
theorem dX0_logged_112 : decode cX0_logged 112 = .ok (.ireturn, 1) := dk_172 (dk_at dksX0_logged_4 22 rfl rfl)
abbrev cX0_tryCuts : ByteArray := prog_1_method_68_code
def yX0_tryCuts : MethodName := ⟨RX0, "tryCuts", "([IIII)V"⟩
def dkwX0_tryCuts_4 : List UInt8 := [132, 5, 1, 167, 255, 200, 177]
abbrev dktX0_tryCuts_4 : List UInt8 := dkwX0_tryCuts_4 ++ []
def dkwX0_tryCuts_3 : List UInt8 := [42, 43, 28, 4, 21, 5, 120, 128, 29, 4, 96, 21, 4, 43, 28, 21, 5, 184, 1, 139, 96, 182, 1, 142]
abbrev dktX0_tryCuts_3 : List UInt8 := dkwX0_tryCuts_3 ++ dktX0_tryCuts_4
def dkwX0_tryCuts_2 : List UInt8 := [100, 162, 0, 53, 28, 21, 5, 184, 1, 68, 153, 0, 6, 167, 0, 35, 42, 180, 0, 64, 29, 21, 5, 79]
abbrev dktX0_tryCuts_2 : List UInt8 := dkwX0_tryCuts_2 ++ dktX0_tryCuts_3
def dkwX0_tryCuts_1 : List UInt8 := [42, 180, 0, 64, 3, 42, 180, 0, 61, 3, 16, 7, 184, 1, 62, 177, 3, 54, 5, 21, 5, 43, 190, 4]
abbrev dktX0_tryCuts_1 : List UInt8 := dkwX0_tryCuts_1 ++ dktX0_tryCuts_2
def dkwX0_tryCuts_0 : List UInt8 := [21, 4, 42, 180, 1, 136, 161, 0, 4, 177, 29, 43, 190, 4, 100, 160, 0, 25, 42, 21, 4, 181, 1, 136]
abbrev dktX0_tryCuts_0 : List UInt8 := dkwX0_tryCuts_0 ++ dktX0_tryCuts_1
theorem dksX0_tryCuts_0 : cX0_tryCuts.data.toList.drop 0 = dktX0_tryCuts_0 := by decide +kernel
theorem dksX0_tryCuts_1 : cX0_tryCuts.data.toList.drop 24 = dktX0_tryCuts_1 := dk_seg dksX0_tryCuts_0 24 rfl rfl
theorem dksX0_tryCuts_2 : cX0_tryCuts.data.toList.drop 48 = dktX0_tryCuts_2 := dk_seg dksX0_tryCuts_1 24 rfl rfl
theorem dksX0_tryCuts_3 : cX0_tryCuts.data.toList.drop 72 = dktX0_tryCuts_3 := dk_seg dksX0_tryCuts_2 24 rfl rfl
theorem dksX0_tryCuts_4 : cX0_tryCuts.data.toList.drop 96 = dktX0_tryCuts_4 := dk_seg dksX0_tryCuts_3 24 rfl rfl
theorem dX0_tryCuts_0 : decode cX0_tryCuts 0 = .ok (.iload 4, 2) := dk_21 4 (dk_at dksX0_tryCuts_0 0 rfl rfl)
theorem dX0_tryCuts_2 : decode cX0_tryCuts 2 = .ok (.aload_n 0, 1) := dk_42 (dk_at dksX0_tryCuts_0 2 rfl rfl)
theorem dX0_tryCuts_3 : decode cX0_tryCuts 3 = .ok (.getfield 392, 3) := dk_180 1 136 (dk_at dksX0_tryCuts_0 3 rfl rfl)
theorem dX0_tryCuts_6 : decode cX0_tryCuts 6 = .ok (.if_icmp .lt 4, 3) := dk_161 0 4 (dk_at dksX0_tryCuts_0 6 rfl rfl)
theorem dX0_tryCuts_9 : decode cX0_tryCuts 9 = .ok (.return_, 1) := dk_177 (dk_at dksX0_tryCuts_0 9 rfl rfl)
theorem dX0_tryCuts_10 : decode cX0_tryCuts 10 = .ok (.iload_n 3, 1) := dk_29 (dk_at dksX0_tryCuts_0 10 rfl rfl)
theorem dX0_tryCuts_11 : decode cX0_tryCuts 11 = .ok (.aload_n 1, 1) := dk_43 (dk_at dksX0_tryCuts_0 11 rfl rfl)
theorem dX0_tryCuts_12 : decode cX0_tryCuts 12 = .ok (.arraylength, 1) := dk_190 (dk_at dksX0_tryCuts_0 12 rfl rfl)
theorem dX0_tryCuts_13 : decode cX0_tryCuts 13 = .ok (.iconst 1, 1) := dk_4 (dk_at dksX0_tryCuts_0 13 rfl rfl)
theorem dX0_tryCuts_14 : decode cX0_tryCuts 14 = .ok (.isub, 1) := dk_100 (dk_at dksX0_tryCuts_0 14 rfl rfl)
theorem dX0_tryCuts_15 : decode cX0_tryCuts 15 = .ok (.if_icmp .ne 25, 3) := dk_160 0 25 (dk_at dksX0_tryCuts_0 15 rfl rfl)
theorem dX0_tryCuts_18 : decode cX0_tryCuts 18 = .ok (.aload_n 0, 1) := dk_42 (dk_at dksX0_tryCuts_0 18 rfl rfl)
theorem dX0_tryCuts_19 : decode cX0_tryCuts 19 = .ok (.iload 4, 2) := dk_21 4 (dk_at dksX0_tryCuts_0 19 rfl rfl)
theorem dX0_tryCuts_21 : decode cX0_tryCuts 21 = .ok (.putfield 392, 3) := dk_181 1 136 (dk_at dksX0_tryCuts_0 21 rfl rfl)
theorem dX0_tryCuts_24 : decode cX0_tryCuts 24 = .ok (.aload_n 0, 1) := dk_42 (dk_at dksX0_tryCuts_1 0 rfl rfl)
theorem dX0_tryCuts_25 : decode cX0_tryCuts 25 = .ok (.getfield 64, 3) := dk_180 0 64 (dk_at dksX0_tryCuts_1 1 rfl rfl)
theorem dX0_tryCuts_28 : decode cX0_tryCuts 28 = .ok (.iconst 0, 1) := dk_3 (dk_at dksX0_tryCuts_1 4 rfl rfl)
theorem dX0_tryCuts_29 : decode cX0_tryCuts 29 = .ok (.aload_n 0, 1) := dk_42 (dk_at dksX0_tryCuts_1 5 rfl rfl)
theorem dX0_tryCuts_30 : decode cX0_tryCuts 30 = .ok (.getfield 61, 3) := dk_180 0 61 (dk_at dksX0_tryCuts_1 6 rfl rfl)
theorem dX0_tryCuts_33 : decode cX0_tryCuts 33 = .ok (.iconst 0, 1) := dk_3 (dk_at dksX0_tryCuts_1 9 rfl rfl)
theorem dX0_tryCuts_34 : decode cX0_tryCuts 34 = .ok (.bipush 7, 2) := dk_16 7 (dk_at dksX0_tryCuts_1 10 rfl rfl)
theorem dX0_tryCuts_36 : decode cX0_tryCuts 36 = .ok (.invokestatic 318, 3) := dk_184 1 62 (dk_at dksX0_tryCuts_1 12 rfl rfl)
theorem dX0_tryCuts_39 : decode cX0_tryCuts 39 = .ok (.return_, 1) := dk_177 (dk_at dksX0_tryCuts_1 15 rfl rfl)
theorem dX0_tryCuts_40 : decode cX0_tryCuts 40 = .ok (.iconst 0, 1) := dk_3 (dk_at dksX0_tryCuts_1 16 rfl rfl)
theorem dX0_tryCuts_41 : decode cX0_tryCuts 41 = .ok (.istore 5, 2) := dk_54 5 (dk_at dksX0_tryCuts_1 17 rfl rfl)
theorem dX0_tryCuts_43 : decode cX0_tryCuts 43 = .ok (.iload 5, 2) := dk_21 5 (dk_at dksX0_tryCuts_1 19 rfl rfl)
theorem dX0_tryCuts_45 : decode cX0_tryCuts 45 = .ok (.aload_n 1, 1) := dk_43 (dk_at dksX0_tryCuts_1 21 rfl rfl)
theorem dX0_tryCuts_46 : decode cX0_tryCuts 46 = .ok (.arraylength, 1) := dk_190 (dk_at dksX0_tryCuts_1 22 rfl rfl)
theorem dX0_tryCuts_47 : decode cX0_tryCuts 47 = .ok (.iconst 1, 1) := dk_4 (dk_at dksX0_tryCuts_1 23 rfl rfl)
theorem dX0_tryCuts_48 : decode cX0_tryCuts 48 = .ok (.isub, 1) := dk_100 (dk_at dksX0_tryCuts_2 0 rfl rfl)
theorem dX0_tryCuts_49 : decode cX0_tryCuts 49 = .ok (.if_icmp .ge 53, 3) := dk_162 0 53 (dk_at dksX0_tryCuts_2 1 rfl rfl)
theorem dX0_tryCuts_52 : decode cX0_tryCuts 52 = .ok (.iload_n 2, 1) := dk_28 (dk_at dksX0_tryCuts_2 4 rfl rfl)
theorem dX0_tryCuts_53 : decode cX0_tryCuts 53 = .ok (.iload 5, 2) := dk_21 5 (dk_at dksX0_tryCuts_2 5 rfl rfl)
theorem dX0_tryCuts_55 : decode cX0_tryCuts 55 = .ok (.invokestatic 324, 3) := dk_184 1 68 (dk_at dksX0_tryCuts_2 7 rfl rfl)
theorem dX0_tryCuts_58 : decode cX0_tryCuts 58 = .ok (.ifCond .eq 6, 3) := dk_153 0 6 (dk_at dksX0_tryCuts_2 10 rfl rfl)
theorem dX0_tryCuts_61 : decode cX0_tryCuts 61 = .ok (.goto 35, 3) := dk_167 0 35 (dk_at dksX0_tryCuts_2 13 rfl rfl)
theorem dX0_tryCuts_64 : decode cX0_tryCuts 64 = .ok (.aload_n 0, 1) := dk_42 (dk_at dksX0_tryCuts_2 16 rfl rfl)
theorem dX0_tryCuts_65 : decode cX0_tryCuts 65 = .ok (.getfield 64, 3) := dk_180 0 64 (dk_at dksX0_tryCuts_2 17 rfl rfl)
theorem dX0_tryCuts_68 : decode cX0_tryCuts 68 = .ok (.iload_n 3, 1) := dk_29 (dk_at dksX0_tryCuts_2 20 rfl rfl)
theorem dX0_tryCuts_69 : decode cX0_tryCuts 69 = .ok (.iload 5, 2) := dk_21 5 (dk_at dksX0_tryCuts_2 21 rfl rfl)
theorem dX0_tryCuts_71 : decode cX0_tryCuts 71 = .ok (.iastore, 1) := dk_79 (dk_at dksX0_tryCuts_2 23 rfl rfl)
theorem dX0_tryCuts_72 : decode cX0_tryCuts 72 = .ok (.aload_n 0, 1) := dk_42 (dk_at dksX0_tryCuts_3 0 rfl rfl)
theorem dX0_tryCuts_73 : decode cX0_tryCuts 73 = .ok (.aload_n 1, 1) := dk_43 (dk_at dksX0_tryCuts_3 1 rfl rfl)
theorem dX0_tryCuts_74 : decode cX0_tryCuts 74 = .ok (.iload_n 2, 1) := dk_28 (dk_at dksX0_tryCuts_3 2 rfl rfl)
theorem dX0_tryCuts_75 : decode cX0_tryCuts 75 = .ok (.iconst 1, 1) := dk_4 (dk_at dksX0_tryCuts_3 3 rfl rfl)
theorem dX0_tryCuts_76 : decode cX0_tryCuts 76 = .ok (.iload 5, 2) := dk_21 5 (dk_at dksX0_tryCuts_3 4 rfl rfl)
theorem dX0_tryCuts_78 : decode cX0_tryCuts 78 = .ok (.ishl, 1) := dk_120 (dk_at dksX0_tryCuts_3 6 rfl rfl)
theorem dX0_tryCuts_79 : decode cX0_tryCuts 79 = .ok (.ior, 1) := dk_128 (dk_at dksX0_tryCuts_3 7 rfl rfl)
theorem dX0_tryCuts_80 : decode cX0_tryCuts 80 = .ok (.iload_n 3, 1) := dk_29 (dk_at dksX0_tryCuts_3 8 rfl rfl)
theorem dX0_tryCuts_81 : decode cX0_tryCuts 81 = .ok (.iconst 1, 1) := dk_4 (dk_at dksX0_tryCuts_3 9 rfl rfl)
theorem dX0_tryCuts_82 : decode cX0_tryCuts 82 = .ok (.iadd, 1) := dk_96 (dk_at dksX0_tryCuts_3 10 rfl rfl)
theorem dX0_tryCuts_83 : decode cX0_tryCuts 83 = .ok (.iload 4, 2) := dk_21 4 (dk_at dksX0_tryCuts_3 11 rfl rfl)
theorem dX0_tryCuts_85 : decode cX0_tryCuts 85 = .ok (.aload_n 1, 1) := dk_43 (dk_at dksX0_tryCuts_3 13 rfl rfl)
theorem dX0_tryCuts_86 : decode cX0_tryCuts 86 = .ok (.iload_n 2, 1) := dk_28 (dk_at dksX0_tryCuts_3 14 rfl rfl)
theorem dX0_tryCuts_87 : decode cX0_tryCuts 87 = .ok (.iload 5, 2) := dk_21 5 (dk_at dksX0_tryCuts_3 15 rfl rfl)
theorem dX0_tryCuts_89 : decode cX0_tryCuts 89 = .ok (.invokestatic 395, 3) := dk_184 1 139 (dk_at dksX0_tryCuts_3 17 rfl rfl)
theorem dX0_tryCuts_92 : decode cX0_tryCuts 92 = .ok (.iadd, 1) := dk_96 (dk_at dksX0_tryCuts_3 20 rfl rfl)
theorem dX0_tryCuts_93 : decode cX0_tryCuts 93 = .ok (.invokevirtual 398, 3) := dk_182 1 142 (dk_at dksX0_tryCuts_3 21 rfl rfl)
theorem dX0_tryCuts_96 : decode cX0_tryCuts 96 = .ok (.iinc 5 1, 3) := dk_132 5 1 (dk_at dksX0_tryCuts_4 0 rfl rfl)
theorem dX0_tryCuts_99 : decode cX0_tryCuts 99 = .ok (.goto (-56), 3) := dk_167 255 200 (dk_at dksX0_tryCuts_4 3 rfl rfl)
theorem dX0_tryCuts_102 : decode cX0_tryCuts 102 = .ok (.return_, 1) := dk_177 (dk_at dksX0_tryCuts_4 6 rfl rfl)
abbrev cX0_differs : ByteArray := prog_1_method_67_code
def yX0_differs : MethodName := ⟨RX0, "differs", "([III)I"⟩
def dkwX0_differs_4 : List UInt8 := [184, 1, 19, 172]
abbrev dktX0_differs_4 : List UInt8 := dkwX0_differs_4 ++ []
def dkwX0_differs_3 : List UInt8 := [154, 0, 18, 21, 4, 42, 21, 5, 46, 96, 54, 4, 132, 5, 1, 167, 255, 218, 29, 21, 4, 100]
abbrev dktX0_differs_3 : List UInt8 := dkwX0_differs_3 ++ dktX0_differs_4
def dkwX0_differs_2 : List UInt8 := [21, 5, 42, 190, 162, 0, 37, 21, 5, 28, 4, 96, 159, 0, 14, 27, 21, 5, 4, 100, 184, 1, 68]
abbrev dktX0_differs_2 : List UInt8 := dkwX0_differs_2 ++ dktX0_differs_3
def dkwX0_differs_1 : List UInt8 := [184, 1, 68, 154, 0, 16, 29, 42, 21, 5, 46, 96, 62, 132, 5, 255, 167, 255, 226, 28, 4, 96, 54, 5]
abbrev dktX0_differs_1 : List UInt8 := dkwX0_differs_1 ++ dktX0_differs_2
def dkwX0_differs_0 : List UInt8 := [3, 62, 3, 54, 4, 28, 54, 5, 21, 5, 155, 0, 31, 21, 5, 28, 159, 0, 12, 27, 21, 5]
abbrev dktX0_differs_0 : List UInt8 := dkwX0_differs_0 ++ dktX0_differs_1
theorem dksX0_differs_0 : cX0_differs.data.toList.drop 0 = dktX0_differs_0 := by decide +kernel
theorem dksX0_differs_1 : cX0_differs.data.toList.drop 22 = dktX0_differs_1 := dk_seg dksX0_differs_0 22 rfl rfl
theorem dksX0_differs_2 : cX0_differs.data.toList.drop 46 = dktX0_differs_2 := dk_seg dksX0_differs_1 24 rfl rfl
theorem dksX0_differs_3 : cX0_differs.data.toList.drop 69 = dktX0_differs_3 := dk_seg dksX0_differs_2 23 rfl rfl
theorem dksX0_differs_4 : cX0_differs.data.toList.drop 91 = dktX0_differs_4 := dk_seg dksX0_differs_3 22 rfl rfl
theorem dX0_differs_0 : decode cX0_differs 0 = .ok (.iconst 0, 1) := dk_3 (dk_at dksX0_differs_0 0 rfl rfl)
theorem dX0_differs_1 : decode cX0_differs 1 = .ok (.istore_n 3, 1) := dk_62 (dk_at dksX0_differs_0 1 rfl rfl)
theorem dX0_differs_2 : decode cX0_differs 2 = .ok (.iconst 0, 1) := dk_3 (dk_at dksX0_differs_0 2 rfl rfl)
theorem dX0_differs_3 : decode cX0_differs 3 = .ok (.istore 4, 2) := dk_54 4 (dk_at dksX0_differs_0 3 rfl rfl)
theorem dX0_differs_5 : decode cX0_differs 5 = .ok (.iload_n 2, 1) := dk_28 (dk_at dksX0_differs_0 5 rfl rfl)
theorem dX0_differs_6 : decode cX0_differs 6 = .ok (.istore 5, 2) := dk_54 5 (dk_at dksX0_differs_0 6 rfl rfl)
theorem dX0_differs_8 : decode cX0_differs 8 = .ok (.iload 5, 2) := dk_21 5 (dk_at dksX0_differs_0 8 rfl rfl)
theorem dX0_differs_10 : decode cX0_differs 10 = .ok (.ifCond .lt 31, 3) := dk_155 0 31 (dk_at dksX0_differs_0 10 rfl rfl)
theorem dX0_differs_13 : decode cX0_differs 13 = .ok (.iload 5, 2) := dk_21 5 (dk_at dksX0_differs_0 13 rfl rfl)
theorem dX0_differs_15 : decode cX0_differs 15 = .ok (.iload_n 2, 1) := dk_28 (dk_at dksX0_differs_0 15 rfl rfl)
theorem dX0_differs_16 : decode cX0_differs 16 = .ok (.if_icmp .eq 12, 3) := dk_159 0 12 (dk_at dksX0_differs_0 16 rfl rfl)
theorem dX0_differs_19 : decode cX0_differs 19 = .ok (.iload_n 1, 1) := dk_27 (dk_at dksX0_differs_0 19 rfl rfl)
theorem dX0_differs_20 : decode cX0_differs 20 = .ok (.iload 5, 2) := dk_21 5 (dk_at dksX0_differs_0 20 rfl rfl)
theorem dX0_differs_22 : decode cX0_differs 22 = .ok (.invokestatic 324, 3) := dk_184 1 68 (dk_at dksX0_differs_1 0 rfl rfl)
theorem dX0_differs_25 : decode cX0_differs 25 = .ok (.ifCond .ne 16, 3) := dk_154 0 16 (dk_at dksX0_differs_1 3 rfl rfl)
theorem dX0_differs_28 : decode cX0_differs 28 = .ok (.iload_n 3, 1) := dk_29 (dk_at dksX0_differs_1 6 rfl rfl)
theorem dX0_differs_29 : decode cX0_differs 29 = .ok (.aload_n 0, 1) := dk_42 (dk_at dksX0_differs_1 7 rfl rfl)
theorem dX0_differs_30 : decode cX0_differs 30 = .ok (.iload 5, 2) := dk_21 5 (dk_at dksX0_differs_1 8 rfl rfl)
theorem dX0_differs_32 : decode cX0_differs 32 = .ok (.iaload, 1) := dk_46 (dk_at dksX0_differs_1 10 rfl rfl)
theorem dX0_differs_33 : decode cX0_differs 33 = .ok (.iadd, 1) := dk_96 (dk_at dksX0_differs_1 11 rfl rfl)
theorem dX0_differs_34 : decode cX0_differs 34 = .ok (.istore_n 3, 1) := dk_62 (dk_at dksX0_differs_1 12 rfl rfl)
theorem dX0_differs_35 : decode cX0_differs 35 = .ok (.iinc 5 (-1), 3) := dk_132 5 255 (dk_at dksX0_differs_1 13 rfl rfl)
theorem dX0_differs_38 : decode cX0_differs 38 = .ok (.goto (-30), 3) := dk_167 255 226 (dk_at dksX0_differs_1 16 rfl rfl)
theorem dX0_differs_41 : decode cX0_differs 41 = .ok (.iload_n 2, 1) := dk_28 (dk_at dksX0_differs_1 19 rfl rfl)
theorem dX0_differs_42 : decode cX0_differs 42 = .ok (.iconst 1, 1) := dk_4 (dk_at dksX0_differs_1 20 rfl rfl)
theorem dX0_differs_43 : decode cX0_differs 43 = .ok (.iadd, 1) := dk_96 (dk_at dksX0_differs_1 21 rfl rfl)
theorem dX0_differs_44 : decode cX0_differs 44 = .ok (.istore 5, 2) := dk_54 5 (dk_at dksX0_differs_1 22 rfl rfl)
theorem dX0_differs_46 : decode cX0_differs 46 = .ok (.iload 5, 2) := dk_21 5 (dk_at dksX0_differs_2 0 rfl rfl)
theorem dX0_differs_48 : decode cX0_differs 48 = .ok (.aload_n 0, 1) := dk_42 (dk_at dksX0_differs_2 2 rfl rfl)
theorem dX0_differs_49 : decode cX0_differs 49 = .ok (.arraylength, 1) := dk_190 (dk_at dksX0_differs_2 3 rfl rfl)
theorem dX0_differs_50 : decode cX0_differs 50 = .ok (.if_icmp .ge 37, 3) := dk_162 0 37 (dk_at dksX0_differs_2 4 rfl rfl)
theorem dX0_differs_53 : decode cX0_differs 53 = .ok (.iload 5, 2) := dk_21 5 (dk_at dksX0_differs_2 7 rfl rfl)
theorem dX0_differs_55 : decode cX0_differs 55 = .ok (.iload_n 2, 1) := dk_28 (dk_at dksX0_differs_2 9 rfl rfl)
theorem dX0_differs_56 : decode cX0_differs 56 = .ok (.iconst 1, 1) := dk_4 (dk_at dksX0_differs_2 10 rfl rfl)
theorem dX0_differs_57 : decode cX0_differs 57 = .ok (.iadd, 1) := dk_96 (dk_at dksX0_differs_2 11 rfl rfl)
theorem dX0_differs_58 : decode cX0_differs 58 = .ok (.if_icmp .eq 14, 3) := dk_159 0 14 (dk_at dksX0_differs_2 12 rfl rfl)
theorem dX0_differs_61 : decode cX0_differs 61 = .ok (.iload_n 1, 1) := dk_27 (dk_at dksX0_differs_2 15 rfl rfl)
theorem dX0_differs_62 : decode cX0_differs 62 = .ok (.iload 5, 2) := dk_21 5 (dk_at dksX0_differs_2 16 rfl rfl)
theorem dX0_differs_64 : decode cX0_differs 64 = .ok (.iconst 1, 1) := dk_4 (dk_at dksX0_differs_2 18 rfl rfl)
theorem dX0_differs_65 : decode cX0_differs 65 = .ok (.isub, 1) := dk_100 (dk_at dksX0_differs_2 19 rfl rfl)
theorem dX0_differs_66 : decode cX0_differs 66 = .ok (.invokestatic 324, 3) := dk_184 1 68 (dk_at dksX0_differs_2 20 rfl rfl)
theorem dX0_differs_69 : decode cX0_differs 69 = .ok (.ifCond .ne 18, 3) := dk_154 0 18 (dk_at dksX0_differs_3 0 rfl rfl)
theorem dX0_differs_72 : decode cX0_differs 72 = .ok (.iload 4, 2) := dk_21 4 (dk_at dksX0_differs_3 3 rfl rfl)
theorem dX0_differs_74 : decode cX0_differs 74 = .ok (.aload_n 0, 1) := dk_42 (dk_at dksX0_differs_3 5 rfl rfl)
theorem dX0_differs_75 : decode cX0_differs 75 = .ok (.iload 5, 2) := dk_21 5 (dk_at dksX0_differs_3 6 rfl rfl)
theorem dX0_differs_77 : decode cX0_differs 77 = .ok (.iaload, 1) := dk_46 (dk_at dksX0_differs_3 8 rfl rfl)
theorem dX0_differs_78 : decode cX0_differs 78 = .ok (.iadd, 1) := dk_96 (dk_at dksX0_differs_3 9 rfl rfl)
theorem dX0_differs_79 : decode cX0_differs 79 = .ok (.istore 4, 2) := dk_54 4 (dk_at dksX0_differs_3 10 rfl rfl)
theorem dX0_differs_81 : decode cX0_differs 81 = .ok (.iinc 5 1, 3) := dk_132 5 1 (dk_at dksX0_differs_3 12 rfl rfl)
theorem dX0_differs_84 : decode cX0_differs 84 = .ok (.goto (-38), 3) := dk_167 255 218 (dk_at dksX0_differs_3 15 rfl rfl)
theorem dX0_differs_87 : decode cX0_differs 87 = .ok (.iload_n 3, 1) := dk_29 (dk_at dksX0_differs_3 18 rfl rfl)
theorem dX0_differs_88 : decode cX0_differs 88 = .ok (.iload 4, 2) := dk_21 4 (dk_at dksX0_differs_3 19 rfl rfl)
theorem dX0_differs_90 : decode cX0_differs 90 = .ok (.isub, 1) := dk_100 (dk_at dksX0_differs_3 21 rfl rfl)
theorem dX0_differs_91 : decode cX0_differs 91 = .ok (.invokestatic 275, 3) := dk_184 1 19 (dk_at dksX0_differs_4 0 rfl rfl)
theorem dX0_differs_94 : decode cX0_differs 94 = .ok (.ireturn, 1) := dk_172 (dk_at dksX0_differs_4 3 rfl rfl)
abbrev cX0_sheet : ByteArray := prog_1_method_77_code
def yX0_sheet : MethodName := ⟨RX0, "sheet", "(III)I"⟩
def dkwX0_sheet_3 : List UInt8 := [172]
abbrev dktX0_sheet_3 : List UInt8 := dkwX0_sheet_3 ++ []
def dkwX0_sheet_2 : List UInt8 := [160, 0, 9, 29, 188, 9, 167, 0, 6, 29, 188, 10, 181, 0, 155, 4, 172, 58, 4, 42, 7, 182, 0, 175]
abbrev dktX0_sheet_2 : List UInt8 := dkwX0_sheet_2 ++ dktX0_sheet_3
def dkwX0_sheet_1 : List UInt8 := [164, 0, 6, 16, 254, 172, 42, 180, 0, 70, 27, 50, 28, 154, 0, 9, 29, 188, 8, 167, 0, 17, 28, 4]
abbrev dktX0_sheet_1 : List UInt8 := dkwX0_sheet_1 ++ dktX0_sheet_2
def dkwX0_sheet_0 : List UInt8 := [42, 3, 181, 0, 80, 27, 184, 0, 148, 154, 0, 5, 2, 172, 28, 184, 0, 152, 153, 0, 9, 29, 16, 80]
abbrev dktX0_sheet_0 : List UInt8 := dkwX0_sheet_0 ++ dktX0_sheet_1
theorem dksX0_sheet_0 : cX0_sheet.data.toList.drop 0 = dktX0_sheet_0 := by decide +kernel
theorem dksX0_sheet_1 : cX0_sheet.data.toList.drop 24 = dktX0_sheet_1 := dk_seg dksX0_sheet_0 24 rfl rfl
theorem dksX0_sheet_2 : cX0_sheet.data.toList.drop 48 = dktX0_sheet_2 := dk_seg dksX0_sheet_1 24 rfl rfl
theorem dksX0_sheet_3 : cX0_sheet.data.toList.drop 72 = dktX0_sheet_3 := dk_seg dksX0_sheet_2 24 rfl rfl
theorem dX0_sheet_0 : decode cX0_sheet 0 = .ok (.aload_n 0, 1) := dk_42 (dk_at dksX0_sheet_0 0 rfl rfl)
theorem dX0_sheet_1 : decode cX0_sheet 1 = .ok (.iconst 0, 1) := dk_3 (dk_at dksX0_sheet_0 1 rfl rfl)
theorem dX0_sheet_2 : decode cX0_sheet 2 = .ok (.putfield 80, 3) := dk_181 0 80 (dk_at dksX0_sheet_0 2 rfl rfl)
theorem dX0_sheet_5 : decode cX0_sheet 5 = .ok (.iload_n 1, 1) := dk_27 (dk_at dksX0_sheet_0 5 rfl rfl)
theorem dX0_sheet_6 : decode cX0_sheet 6 = .ok (.invokestatic 148, 3) := dk_184 0 148 (dk_at dksX0_sheet_0 6 rfl rfl)
theorem dX0_sheet_9 : decode cX0_sheet 9 = .ok (.ifCond .ne 5, 3) := dk_154 0 5 (dk_at dksX0_sheet_0 9 rfl rfl)
theorem dX0_sheet_12 : decode cX0_sheet 12 = .ok (.iconst (-1), 1) := dk_2 (dk_at dksX0_sheet_0 12 rfl rfl)
theorem dX0_sheet_13 : decode cX0_sheet 13 = .ok (.ireturn, 1) := dk_172 (dk_at dksX0_sheet_0 13 rfl rfl)
theorem dX0_sheet_14 : decode cX0_sheet 14 = .ok (.iload_n 2, 1) := dk_28 (dk_at dksX0_sheet_0 14 rfl rfl)
theorem dX0_sheet_15 : decode cX0_sheet 15 = .ok (.invokestatic 152, 3) := dk_184 0 152 (dk_at dksX0_sheet_0 15 rfl rfl)
theorem dX0_sheet_18 : decode cX0_sheet 18 = .ok (.ifCond .eq 9, 3) := dk_153 0 9 (dk_at dksX0_sheet_0 18 rfl rfl)
theorem dX0_sheet_21 : decode cX0_sheet 21 = .ok (.iload_n 3, 1) := dk_29 (dk_at dksX0_sheet_0 21 rfl rfl)
theorem dX0_sheet_22 : decode cX0_sheet 22 = .ok (.bipush 80, 2) := dk_16 80 (dk_at dksX0_sheet_0 22 rfl rfl)
theorem dX0_sheet_24 : decode cX0_sheet 24 = .ok (.if_icmp .le 6, 3) := dk_164 0 6 (dk_at dksX0_sheet_1 0 rfl rfl)
theorem dX0_sheet_27 : decode cX0_sheet 27 = .ok (.bipush (-2), 2) := dk_16 254 (dk_at dksX0_sheet_1 3 rfl rfl)
theorem dX0_sheet_29 : decode cX0_sheet 29 = .ok (.ireturn, 1) := dk_172 (dk_at dksX0_sheet_1 5 rfl rfl)
theorem dX0_sheet_30 : decode cX0_sheet 30 = .ok (.aload_n 0, 1) := dk_42 (dk_at dksX0_sheet_1 6 rfl rfl)
theorem dX0_sheet_31 : decode cX0_sheet 31 = .ok (.getfield 70, 3) := dk_180 0 70 (dk_at dksX0_sheet_1 7 rfl rfl)
theorem dX0_sheet_34 : decode cX0_sheet 34 = .ok (.iload_n 1, 1) := dk_27 (dk_at dksX0_sheet_1 10 rfl rfl)
theorem dX0_sheet_35 : decode cX0_sheet 35 = .ok (.aaload, 1) := dk_50 (dk_at dksX0_sheet_1 11 rfl rfl)
theorem dX0_sheet_36 : decode cX0_sheet 36 = .ok (.iload_n 2, 1) := dk_28 (dk_at dksX0_sheet_1 12 rfl rfl)
theorem dX0_sheet_37 : decode cX0_sheet 37 = .ok (.ifCond .ne 9, 3) := dk_154 0 9 (dk_at dksX0_sheet_1 13 rfl rfl)
theorem dX0_sheet_40 : decode cX0_sheet 40 = .ok (.iload_n 3, 1) := dk_29 (dk_at dksX0_sheet_1 16 rfl rfl)
theorem dX0_sheet_41 : decode cX0_sheet 41 = .ok (.newarray .byte, 2) := dk_188_8 (dk_at dksX0_sheet_1 17 rfl rfl)
theorem dX0_sheet_43 : decode cX0_sheet 43 = .ok (.goto 17, 3) := dk_167 0 17 (dk_at dksX0_sheet_1 19 rfl rfl)
theorem dX0_sheet_46 : decode cX0_sheet 46 = .ok (.iload_n 2, 1) := dk_28 (dk_at dksX0_sheet_1 22 rfl rfl)
theorem dX0_sheet_47 : decode cX0_sheet 47 = .ok (.iconst 1, 1) := dk_4 (dk_at dksX0_sheet_1 23 rfl rfl)
theorem dX0_sheet_48 : decode cX0_sheet 48 = .ok (.if_icmp .ne 9, 3) := dk_160 0 9 (dk_at dksX0_sheet_2 0 rfl rfl)
theorem dX0_sheet_51 : decode cX0_sheet 51 = .ok (.iload_n 3, 1) := dk_29 (dk_at dksX0_sheet_2 3 rfl rfl)
theorem dX0_sheet_52 : decode cX0_sheet 52 = .ok (.newarray .short, 2) := dk_188_9 (dk_at dksX0_sheet_2 4 rfl rfl)
theorem dX0_sheet_54 : decode cX0_sheet 54 = .ok (.goto 6, 3) := dk_167 0 6 (dk_at dksX0_sheet_2 6 rfl rfl)
theorem dX0_sheet_57 : decode cX0_sheet 57 = .ok (.iload_n 3, 1) := dk_29 (dk_at dksX0_sheet_2 9 rfl rfl)
theorem dX0_sheet_58 : decode cX0_sheet 58 = .ok (.newarray .int, 2) := dk_188_10 (dk_at dksX0_sheet_2 10 rfl rfl)
theorem dX0_sheet_60 : decode cX0_sheet 60 = .ok (.putfield 155, 3) := dk_181 0 155 (dk_at dksX0_sheet_2 12 rfl rfl)
theorem dX0_sheet_63 : decode cX0_sheet 63 = .ok (.iconst 1, 1) := dk_4 (dk_at dksX0_sheet_2 15 rfl rfl)
theorem dX0_sheet_64 : decode cX0_sheet 64 = .ok (.ireturn, 1) := dk_172 (dk_at dksX0_sheet_2 16 rfl rfl)
theorem dX0_sheet_65 : decode cX0_sheet 65 = .ok (.astore 4, 2) := dk_58 4 (dk_at dksX0_sheet_2 17 rfl rfl)
theorem dX0_sheet_67 : decode cX0_sheet 67 = .ok (.aload_n 0, 1) := dk_42 (dk_at dksX0_sheet_2 19 rfl rfl)
theorem dX0_sheet_68 : decode cX0_sheet 68 = .ok (.iconst 4, 1) := dk_7 (dk_at dksX0_sheet_2 20 rfl rfl)
theorem dX0_sheet_69 : decode cX0_sheet 69 = .ok (.invokevirtual 175, 3) := dk_182 0 175 (dk_at dksX0_sheet_2 21 rfl rfl)
theorem dX0_sheet_72 : decode cX0_sheet 72 = .ok (.ireturn, 1) := dk_172 (dk_at dksX0_sheet_3 0 rfl rfl)
abbrev cX0_lose : ByteArray := prog_1_method_78_code
def yX0_lose : MethodName := ⟨RX0, "lose", "(I)I"⟩
def dkwX0_lose_1 : List UInt8 := [167, 0, 4, 4, 61, 42, 180, 0, 70, 27, 50, 1, 181, 0, 155, 28, 172]
abbrev dktX0_lose_1 : List UInt8 := dkwX0_lose_1 ++ []
def dkwX0_lose_0 : List UInt8 := [27, 184, 0, 148, 154, 0, 5, 2, 172, 42, 180, 0, 70, 27, 50, 180, 0, 155, 199, 0, 7, 3]
abbrev dktX0_lose_0 : List UInt8 := dkwX0_lose_0 ++ dktX0_lose_1
theorem dksX0_lose_0 : cX0_lose.data.toList.drop 0 = dktX0_lose_0 := by decide +kernel
theorem dksX0_lose_1 : cX0_lose.data.toList.drop 22 = dktX0_lose_1 := dk_seg dksX0_lose_0 22 rfl rfl
theorem dX0_lose_0 : decode cX0_lose 0 = .ok (.iload_n 1, 1) := dk_27 (dk_at dksX0_lose_0 0 rfl rfl)
theorem dX0_lose_1 : decode cX0_lose 1 = .ok (.invokestatic 148, 3) := dk_184 0 148 (dk_at dksX0_lose_0 1 rfl rfl)
theorem dX0_lose_4 : decode cX0_lose 4 = .ok (.ifCond .ne 5, 3) := dk_154 0 5 (dk_at dksX0_lose_0 4 rfl rfl)
theorem dX0_lose_7 : decode cX0_lose 7 = .ok (.iconst (-1), 1) := dk_2 (dk_at dksX0_lose_0 7 rfl rfl)
theorem dX0_lose_8 : decode cX0_lose 8 = .ok (.ireturn, 1) := dk_172 (dk_at dksX0_lose_0 8 rfl rfl)
theorem dX0_lose_9 : decode cX0_lose 9 = .ok (.aload_n 0, 1) := dk_42 (dk_at dksX0_lose_0 9 rfl rfl)
theorem dX0_lose_10 : decode cX0_lose 10 = .ok (.getfield 70, 3) := dk_180 0 70 (dk_at dksX0_lose_0 10 rfl rfl)
theorem dX0_lose_13 : decode cX0_lose 13 = .ok (.iload_n 1, 1) := dk_27 (dk_at dksX0_lose_0 13 rfl rfl)
theorem dX0_lose_14 : decode cX0_lose 14 = .ok (.aaload, 1) := dk_50 (dk_at dksX0_lose_0 14 rfl rfl)
theorem dX0_lose_15 : decode cX0_lose 15 = .ok (.getfield 155, 3) := dk_180 0 155 (dk_at dksX0_lose_0 15 rfl rfl)
theorem dX0_lose_18 : decode cX0_lose 18 = .ok (.ifnonnull 7, 3) := dk_199 0 7 (dk_at dksX0_lose_0 18 rfl rfl)
theorem dX0_lose_21 : decode cX0_lose 21 = .ok (.iconst 0, 1) := dk_3 (dk_at dksX0_lose_0 21 rfl rfl)
theorem dX0_lose_22 : decode cX0_lose 22 = .ok (.goto 4, 3) := dk_167 0 4 (dk_at dksX0_lose_1 0 rfl rfl)
theorem dX0_lose_25 : decode cX0_lose 25 = .ok (.iconst 1, 1) := dk_4 (dk_at dksX0_lose_1 3 rfl rfl)
theorem dX0_lose_26 : decode cX0_lose 26 = .ok (.istore_n 2, 1) := dk_61 (dk_at dksX0_lose_1 4 rfl rfl)
theorem dX0_lose_27 : decode cX0_lose 27 = .ok (.aload_n 0, 1) := dk_42 (dk_at dksX0_lose_1 5 rfl rfl)
theorem dX0_lose_28 : decode cX0_lose 28 = .ok (.getfield 70, 3) := dk_180 0 70 (dk_at dksX0_lose_1 6 rfl rfl)
theorem dX0_lose_31 : decode cX0_lose 31 = .ok (.iload_n 1, 1) := dk_27 (dk_at dksX0_lose_1 9 rfl rfl)
theorem dX0_lose_32 : decode cX0_lose 32 = .ok (.aaload, 1) := dk_50 (dk_at dksX0_lose_1 10 rfl rfl)
theorem dX0_lose_33 : decode cX0_lose 33 = .ok (.aconst_null, 1) := dk_1 (dk_at dksX0_lose_1 11 rfl rfl)
theorem dX0_lose_34 : decode cX0_lose 34 = .ok (.putfield 155, 3) := dk_181 0 155 (dk_at dksX0_lose_1 12 rfl rfl)
theorem dX0_lose_37 : decode cX0_lose 37 = .ok (.iload_n 2, 1) := dk_28 (dk_at dksX0_lose_1 15 rfl rfl)
theorem dX0_lose_38 : decode cX0_lose 38 = .ok (.ireturn, 1) := dk_172 (dk_at dksX0_lose_1 16 rfl rfl)
abbrev cX0_put : ByteArray := prog_1_method_79_code
def yX0_put : MethodName := ⟨RX0, "put", "(III)I"⟩
def dkwX0_put_4 : List UInt8 := [192, 1, 159, 28, 29, 79, 4, 172, 58, 4, 42, 4, 182, 0, 175, 172, 58, 4, 42, 6, 182, 0, 175, 172]
abbrev dktX0_put_4 : List UInt8 := dkwX0_put_4 ++ []
def dkwX0_put_3 : List UInt8 := [192, 1, 157, 58, 5, 25, 5, 28, 29, 147, 86, 167, 0, 18, 42, 180, 0, 70, 27, 50, 180, 0, 155]
abbrev dktX0_put_3 : List UInt8 := dkwX0_put_3 ++ dktX0_put_4
def dkwX0_put_2 : List UInt8 := [167, 0, 53, 42, 180, 0, 70, 27, 50, 180, 0, 155, 58, 6, 25, 6, 193, 1, 157, 153, 0, 19, 25, 6]
abbrev dktX0_put_2 : List UInt8 := dkwX0_put_2 ++ dktX0_put_3
def dkwX0_put_1 : List UInt8 := [58, 6, 25, 6, 193, 1, 155, 153, 0, 19, 25, 6, 192, 1, 155, 58, 4, 25, 4, 28, 29, 145, 84]
abbrev dktX0_put_1 : List UInt8 := dkwX0_put_1 ++ dktX0_put_2
def dkwX0_put_0 : List UInt8 := [42, 3, 181, 0, 80, 27, 184, 0, 148, 154, 0, 5, 2, 172, 42, 180, 0, 70, 27, 50, 180, 0, 155]
abbrev dktX0_put_0 : List UInt8 := dkwX0_put_0 ++ dktX0_put_1
theorem dksX0_put_0 : cX0_put.data.toList.drop 0 = dktX0_put_0 := by decide +kernel
theorem dksX0_put_1 : cX0_put.data.toList.drop 23 = dktX0_put_1 := dk_seg dksX0_put_0 23 rfl rfl
theorem dksX0_put_2 : cX0_put.data.toList.drop 46 = dktX0_put_2 := dk_seg dksX0_put_1 23 rfl rfl
theorem dksX0_put_3 : cX0_put.data.toList.drop 70 = dktX0_put_3 := dk_seg dksX0_put_2 24 rfl rfl
theorem dksX0_put_4 : cX0_put.data.toList.drop 93 = dktX0_put_4 := dk_seg dksX0_put_3 23 rfl rfl
theorem dX0_put_0 : decode cX0_put 0 = .ok (.aload_n 0, 1) := dk_42 (dk_at dksX0_put_0 0 rfl rfl)
theorem dX0_put_1 : decode cX0_put 1 = .ok (.iconst 0, 1) := dk_3 (dk_at dksX0_put_0 1 rfl rfl)
theorem dX0_put_2 : decode cX0_put 2 = .ok (.putfield 80, 3) := dk_181 0 80 (dk_at dksX0_put_0 2 rfl rfl)
theorem dX0_put_5 : decode cX0_put 5 = .ok (.iload_n 1, 1) := dk_27 (dk_at dksX0_put_0 5 rfl rfl)
theorem dX0_put_6 : decode cX0_put 6 = .ok (.invokestatic 148, 3) := dk_184 0 148 (dk_at dksX0_put_0 6 rfl rfl)
theorem dX0_put_9 : decode cX0_put 9 = .ok (.ifCond .ne 5, 3) := dk_154 0 5 (dk_at dksX0_put_0 9 rfl rfl)
theorem dX0_put_12 : decode cX0_put 12 = .ok (.iconst (-1), 1) := dk_2 (dk_at dksX0_put_0 12 rfl rfl)
theorem dX0_put_13 : decode cX0_put 13 = .ok (.ireturn, 1) := dk_172 (dk_at dksX0_put_0 13 rfl rfl)
theorem dX0_put_14 : decode cX0_put 14 = .ok (.aload_n 0, 1) := dk_42 (dk_at dksX0_put_0 14 rfl rfl)
theorem dX0_put_15 : decode cX0_put 15 = .ok (.getfield 70, 3) := dk_180 0 70 (dk_at dksX0_put_0 15 rfl rfl)
theorem dX0_put_18 : decode cX0_put 18 = .ok (.iload_n 1, 1) := dk_27 (dk_at dksX0_put_0 18 rfl rfl)
theorem dX0_put_19 : decode cX0_put 19 = .ok (.aaload, 1) := dk_50 (dk_at dksX0_put_0 19 rfl rfl)
theorem dX0_put_20 : decode cX0_put 20 = .ok (.getfield 155, 3) := dk_180 0 155 (dk_at dksX0_put_0 20 rfl rfl)
theorem dX0_put_23 : decode cX0_put 23 = .ok (.astore 6, 2) := dk_58 6 (dk_at dksX0_put_1 0 rfl rfl)
theorem dX0_put_25 : decode cX0_put 25 = .ok (.aload 6, 2) := dk_25 6 (dk_at dksX0_put_1 2 rfl rfl)
theorem dX0_put_27 : decode cX0_put 27 = .ok (.instanceof 411, 3) := dk_193 1 155 (dk_at dksX0_put_1 4 rfl rfl)
theorem dX0_put_30 : decode cX0_put 30 = .ok (.ifCond .eq 19, 3) := dk_153 0 19 (dk_at dksX0_put_1 7 rfl rfl)
theorem dX0_put_33 : decode cX0_put 33 = .ok (.aload 6, 2) := dk_25 6 (dk_at dksX0_put_1 10 rfl rfl)
theorem dX0_put_35 : decode cX0_put 35 = .ok (.checkcast 411, 3) := dk_192 1 155 (dk_at dksX0_put_1 12 rfl rfl)
theorem dX0_put_38 : decode cX0_put 38 = .ok (.astore 4, 2) := dk_58 4 (dk_at dksX0_put_1 15 rfl rfl)
theorem dX0_put_40 : decode cX0_put 40 = .ok (.aload 4, 2) := dk_25 4 (dk_at dksX0_put_1 17 rfl rfl)
theorem dX0_put_42 : decode cX0_put 42 = .ok (.iload_n 2, 1) := dk_28 (dk_at dksX0_put_1 19 rfl rfl)
theorem dX0_put_43 : decode cX0_put 43 = .ok (.iload_n 3, 1) := dk_29 (dk_at dksX0_put_1 20 rfl rfl)
theorem dX0_put_44 : decode cX0_put 44 = .ok (.i2b, 1) := dk_145 (dk_at dksX0_put_1 21 rfl rfl)
theorem dX0_put_45 : decode cX0_put 45 = .ok (.bastore, 1) := dk_84 (dk_at dksX0_put_1 22 rfl rfl)
theorem dX0_put_46 : decode cX0_put 46 = .ok (.goto 53, 3) := dk_167 0 53 (dk_at dksX0_put_2 0 rfl rfl)
theorem dX0_put_49 : decode cX0_put 49 = .ok (.aload_n 0, 1) := dk_42 (dk_at dksX0_put_2 3 rfl rfl)
theorem dX0_put_50 : decode cX0_put 50 = .ok (.getfield 70, 3) := dk_180 0 70 (dk_at dksX0_put_2 4 rfl rfl)
theorem dX0_put_53 : decode cX0_put 53 = .ok (.iload_n 1, 1) := dk_27 (dk_at dksX0_put_2 7 rfl rfl)
theorem dX0_put_54 : decode cX0_put 54 = .ok (.aaload, 1) := dk_50 (dk_at dksX0_put_2 8 rfl rfl)
theorem dX0_put_55 : decode cX0_put 55 = .ok (.getfield 155, 3) := dk_180 0 155 (dk_at dksX0_put_2 9 rfl rfl)
theorem dX0_put_58 : decode cX0_put 58 = .ok (.astore 6, 2) := dk_58 6 (dk_at dksX0_put_2 12 rfl rfl)
theorem dX0_put_60 : decode cX0_put 60 = .ok (.aload 6, 2) := dk_25 6 (dk_at dksX0_put_2 14 rfl rfl)
theorem dX0_put_62 : decode cX0_put 62 = .ok (.instanceof 413, 3) := dk_193 1 157 (dk_at dksX0_put_2 16 rfl rfl)
theorem dX0_put_65 : decode cX0_put 65 = .ok (.ifCond .eq 19, 3) := dk_153 0 19 (dk_at dksX0_put_2 19 rfl rfl)
theorem dX0_put_68 : decode cX0_put 68 = .ok (.aload 6, 2) := dk_25 6 (dk_at dksX0_put_2 22 rfl rfl)
theorem dX0_put_70 : decode cX0_put 70 = .ok (.checkcast 413, 3) := dk_192 1 157 (dk_at dksX0_put_3 0 rfl rfl)
theorem dX0_put_73 : decode cX0_put 73 = .ok (.astore 5, 2) := dk_58 5 (dk_at dksX0_put_3 3 rfl rfl)
theorem dX0_put_75 : decode cX0_put 75 = .ok (.aload 5, 2) := dk_25 5 (dk_at dksX0_put_3 5 rfl rfl)
theorem dX0_put_77 : decode cX0_put 77 = .ok (.iload_n 2, 1) := dk_28 (dk_at dksX0_put_3 7 rfl rfl)
theorem dX0_put_78 : decode cX0_put 78 = .ok (.iload_n 3, 1) := dk_29 (dk_at dksX0_put_3 8 rfl rfl)
theorem dX0_put_79 : decode cX0_put 79 = .ok (.i2s, 1) := dk_147 (dk_at dksX0_put_3 9 rfl rfl)
theorem dX0_put_80 : decode cX0_put 80 = .ok (.sastore, 1) := dk_86 (dk_at dksX0_put_3 10 rfl rfl)
theorem dX0_put_81 : decode cX0_put 81 = .ok (.goto 18, 3) := dk_167 0 18 (dk_at dksX0_put_3 11 rfl rfl)
theorem dX0_put_84 : decode cX0_put 84 = .ok (.aload_n 0, 1) := dk_42 (dk_at dksX0_put_3 14 rfl rfl)
theorem dX0_put_85 : decode cX0_put 85 = .ok (.getfield 70, 3) := dk_180 0 70 (dk_at dksX0_put_3 15 rfl rfl)
theorem dX0_put_88 : decode cX0_put 88 = .ok (.iload_n 1, 1) := dk_27 (dk_at dksX0_put_3 18 rfl rfl)
theorem dX0_put_89 : decode cX0_put 89 = .ok (.aaload, 1) := dk_50 (dk_at dksX0_put_3 19 rfl rfl)
theorem dX0_put_90 : decode cX0_put 90 = .ok (.getfield 155, 3) := dk_180 0 155 (dk_at dksX0_put_3 20 rfl rfl)
theorem dX0_put_93 : decode cX0_put 93 = .ok (.checkcast 415, 3) := dk_192 1 159 (dk_at dksX0_put_4 0 rfl rfl)
theorem dX0_put_96 : decode cX0_put 96 = .ok (.iload_n 2, 1) := dk_28 (dk_at dksX0_put_4 3 rfl rfl)
theorem dX0_put_97 : decode cX0_put 97 = .ok (.iload_n 3, 1) := dk_29 (dk_at dksX0_put_4 4 rfl rfl)
theorem dX0_put_98 : decode cX0_put 98 = .ok (.iastore, 1) := dk_79 (dk_at dksX0_put_4 5 rfl rfl)
theorem dX0_put_99 : decode cX0_put 99 = .ok (.iconst 1, 1) := dk_4 (dk_at dksX0_put_4 6 rfl rfl)
theorem dX0_put_100 : decode cX0_put 100 = .ok (.ireturn, 1) := dk_172 (dk_at dksX0_put_4 7 rfl rfl)
theorem dX0_put_101 : decode cX0_put 101 = .ok (.astore 4, 2) := dk_58 4 (dk_at dksX0_put_4 8 rfl rfl)
theorem dX0_put_103 : decode cX0_put 103 = .ok (.aload_n 0, 1) := dk_42 (dk_at dksX0_put_4 10 rfl rfl)
theorem dX0_put_104 : decode cX0_put 104 = .ok (.iconst 1, 1) := dk_4 (dk_at dksX0_put_4 11 rfl rfl)
theorem dX0_put_105 : decode cX0_put 105 = .ok (.invokevirtual 175, 3) := dk_182 0 175 (dk_at dksX0_put_4 12 rfl rfl)
theorem dX0_put_108 : decode cX0_put 108 = .ok (.ireturn, 1) := dk_172 (dk_at dksX0_put_4 15 rfl rfl)
theorem dX0_put_109 : decode cX0_put 109 = .ok (.astore 4, 2) := dk_58 4 (dk_at dksX0_put_4 16 rfl rfl)
theorem dX0_put_111 : decode cX0_put 111 = .ok (.aload_n 0, 1) := dk_42 (dk_at dksX0_put_4 18 rfl rfl)
theorem dX0_put_112 : decode cX0_put 112 = .ok (.iconst 3, 1) := dk_6 (dk_at dksX0_put_4 19 rfl rfl)
theorem dX0_put_113 : decode cX0_put 113 = .ok (.invokevirtual 175, 3) := dk_182 0 175 (dk_at dksX0_put_4 20 rfl rfl)
theorem dX0_put_116 : decode cX0_put 116 = .ok (.ireturn, 1) := dk_172 (dk_at dksX0_put_4 23 rfl rfl)
abbrev cX0_cell : ByteArray := prog_1_method_80_code
def yX0_cell : MethodName := ⟨RX0, "cell", "(III)J"⟩
def dkwX0_cell_2 : List UInt8 := [182, 1, 164, 173, 58, 4, 42, 4, 182, 1, 164, 173, 58, 4, 42, 6, 182, 1, 164, 173]
abbrev dktX0_cell_2 : List UInt8 := dkwX0_cell_2 ++ []
def dkwX0_cell_1 : List UInt8 := [180, 0, 70, 27, 50, 180, 0, 155, 29, 184, 0, 161, 28, 184, 1, 160, 133, 173, 58, 4, 42, 5]
abbrev dktX0_cell_1 : List UInt8 := dkwX0_cell_1 ++ dktX0_cell_2
def dkwX0_cell_0 : List UInt8 := [42, 3, 181, 0, 80, 27, 184, 0, 148, 153, 0, 10, 29, 184, 0, 152, 154, 0, 7, 20, 0, 84, 173, 42]
abbrev dktX0_cell_0 : List UInt8 := dkwX0_cell_0 ++ dktX0_cell_1
theorem dksX0_cell_0 : cX0_cell.data.toList.drop 0 = dktX0_cell_0 := by decide +kernel
theorem dksX0_cell_1 : cX0_cell.data.toList.drop 24 = dktX0_cell_1 := dk_seg dksX0_cell_0 24 rfl rfl
theorem dksX0_cell_2 : cX0_cell.data.toList.drop 46 = dktX0_cell_2 := dk_seg dksX0_cell_1 22 rfl rfl
theorem dX0_cell_0 : decode cX0_cell 0 = .ok (.aload_n 0, 1) := dk_42 (dk_at dksX0_cell_0 0 rfl rfl)
theorem dX0_cell_1 : decode cX0_cell 1 = .ok (.iconst 0, 1) := dk_3 (dk_at dksX0_cell_0 1 rfl rfl)
theorem dX0_cell_2 : decode cX0_cell 2 = .ok (.putfield 80, 3) := dk_181 0 80 (dk_at dksX0_cell_0 2 rfl rfl)
theorem dX0_cell_5 : decode cX0_cell 5 = .ok (.iload_n 1, 1) := dk_27 (dk_at dksX0_cell_0 5 rfl rfl)
theorem dX0_cell_6 : decode cX0_cell 6 = .ok (.invokestatic 148, 3) := dk_184 0 148 (dk_at dksX0_cell_0 6 rfl rfl)
theorem dX0_cell_9 : decode cX0_cell 9 = .ok (.ifCond .eq 10, 3) := dk_153 0 10 (dk_at dksX0_cell_0 9 rfl rfl)
theorem dX0_cell_12 : decode cX0_cell 12 = .ok (.iload_n 3, 1) := dk_29 (dk_at dksX0_cell_0 12 rfl rfl)
theorem dX0_cell_13 : decode cX0_cell 13 = .ok (.invokestatic 152, 3) := dk_184 0 152 (dk_at dksX0_cell_0 13 rfl rfl)
theorem dX0_cell_16 : decode cX0_cell 16 = .ok (.ifCond .ne 7, 3) := dk_154 0 7 (dk_at dksX0_cell_0 16 rfl rfl)
theorem dX0_cell_19 : decode cX0_cell 19 = .ok (.ldc2_w 84, 3) := dk_20 0 84 (dk_at dksX0_cell_0 19 rfl rfl)
theorem dX0_cell_22 : decode cX0_cell 22 = .ok (.lreturn, 1) := dk_173 (dk_at dksX0_cell_0 22 rfl rfl)
theorem dX0_cell_23 : decode cX0_cell 23 = .ok (.aload_n 0, 1) := dk_42 (dk_at dksX0_cell_0 23 rfl rfl)
theorem dX0_cell_24 : decode cX0_cell 24 = .ok (.getfield 70, 3) := dk_180 0 70 (dk_at dksX0_cell_1 0 rfl rfl)
theorem dX0_cell_27 : decode cX0_cell 27 = .ok (.iload_n 1, 1) := dk_27 (dk_at dksX0_cell_1 3 rfl rfl)
theorem dX0_cell_28 : decode cX0_cell 28 = .ok (.aaload, 1) := dk_50 (dk_at dksX0_cell_1 4 rfl rfl)
theorem dX0_cell_29 : decode cX0_cell 29 = .ok (.getfield 155, 3) := dk_180 0 155 (dk_at dksX0_cell_1 5 rfl rfl)
theorem dX0_cell_32 : decode cX0_cell 32 = .ok (.iload_n 3, 1) := dk_29 (dk_at dksX0_cell_1 8 rfl rfl)
theorem dX0_cell_33 : decode cX0_cell 33 = .ok (.invokestatic 161, 3) := dk_184 0 161 (dk_at dksX0_cell_1 9 rfl rfl)
theorem dX0_cell_36 : decode cX0_cell 36 = .ok (.iload_n 2, 1) := dk_28 (dk_at dksX0_cell_1 12 rfl rfl)
theorem dX0_cell_37 : decode cX0_cell 37 = .ok (.invokestatic 416, 3) := dk_184 1 160 (dk_at dksX0_cell_1 13 rfl rfl)
theorem dX0_cell_40 : decode cX0_cell 40 = .ok (.i2l, 1) := dk_133 (dk_at dksX0_cell_1 16 rfl rfl)
theorem dX0_cell_41 : decode cX0_cell 41 = .ok (.lreturn, 1) := dk_173 (dk_at dksX0_cell_1 17 rfl rfl)
theorem dX0_cell_42 : decode cX0_cell 42 = .ok (.astore 4, 2) := dk_58 4 (dk_at dksX0_cell_1 18 rfl rfl)
theorem dX0_cell_44 : decode cX0_cell 44 = .ok (.aload_n 0, 1) := dk_42 (dk_at dksX0_cell_1 20 rfl rfl)
theorem dX0_cell_45 : decode cX0_cell 45 = .ok (.iconst 2, 1) := dk_5 (dk_at dksX0_cell_1 21 rfl rfl)
theorem dX0_cell_46 : decode cX0_cell 46 = .ok (.invokevirtual 420, 3) := dk_182 1 164 (dk_at dksX0_cell_2 0 rfl rfl)
theorem dX0_cell_49 : decode cX0_cell 49 = .ok (.lreturn, 1) := dk_173 (dk_at dksX0_cell_2 3 rfl rfl)
theorem dX0_cell_50 : decode cX0_cell 50 = .ok (.astore 4, 2) := dk_58 4 (dk_at dksX0_cell_2 4 rfl rfl)
theorem dX0_cell_52 : decode cX0_cell 52 = .ok (.aload_n 0, 1) := dk_42 (dk_at dksX0_cell_2 6 rfl rfl)
theorem dX0_cell_53 : decode cX0_cell 53 = .ok (.iconst 1, 1) := dk_4 (dk_at dksX0_cell_2 7 rfl rfl)
theorem dX0_cell_54 : decode cX0_cell 54 = .ok (.invokevirtual 420, 3) := dk_182 1 164 (dk_at dksX0_cell_2 8 rfl rfl)
theorem dX0_cell_57 : decode cX0_cell 57 = .ok (.lreturn, 1) := dk_173 (dk_at dksX0_cell_2 11 rfl rfl)
theorem dX0_cell_58 : decode cX0_cell 58 = .ok (.astore 4, 2) := dk_58 4 (dk_at dksX0_cell_2 12 rfl rfl)
theorem dX0_cell_60 : decode cX0_cell 60 = .ok (.aload_n 0, 1) := dk_42 (dk_at dksX0_cell_2 14 rfl rfl)
theorem dX0_cell_61 : decode cX0_cell 61 = .ok (.iconst 3, 1) := dk_6 (dk_at dksX0_cell_2 15 rfl rfl)
theorem dX0_cell_62 : decode cX0_cell 62 = .ok (.invokevirtual 420, 3) := dk_182 1 164 (dk_at dksX0_cell_2 16 rfl rfl)
theorem dX0_cell_65 : decode cX0_cell 65 = .ok (.lreturn, 1) := dk_173 (dk_at dksX0_cell_2 19 rfl rfl)
abbrev cX0_lost : ByteArray := prog_1_method_6_code
def yX0_lost : MethodName := ⟨RX0, "lost", "(I)J"⟩
def dkwX0_lost_0 : List UInt8 := [42, 27, 181, 0, 80, 20, 0, 84, 173]
abbrev dktX0_lost_0 : List UInt8 := dkwX0_lost_0 ++ []
theorem dksX0_lost_0 : cX0_lost.data.toList.drop 0 = dktX0_lost_0 := by decide +kernel
theorem dX0_lost_0 : decode cX0_lost 0 = .ok (.aload_n 0, 1) := dk_42 (dk_at dksX0_lost_0 0 rfl rfl)
theorem dX0_lost_1 : decode cX0_lost 1 = .ok (.iload_n 1, 1) := dk_27 (dk_at dksX0_lost_0 1 rfl rfl)
theorem dX0_lost_2 : decode cX0_lost 2 = .ok (.putfield 80, 3) := dk_181 0 80 (dk_at dksX0_lost_0 2 rfl rfl)
theorem dX0_lost_5 : decode cX0_lost 5 = .ok (.ldc2_w 84, 3) := dk_20 0 84 (dk_at dksX0_lost_0 5 rfl rfl)
theorem dX0_lost_8 : decode cX0_lost 8 = .ok (.lreturn, 1) := dk_173 (dk_at dksX0_lost_0 8 rfl rfl)
abbrev cX0_copy : ByteArray := prog_1_method_81_code
def yX0_copy : MethodName := ⟨RX0, "copy", "(IIIII)I"⟩
def dkwX0_copy_3 : List UInt8 := [42, 6, 182, 0, 175, 172]
abbrev dktX0_copy_3 : List UInt8 := dkwX0_copy_3 ++ []
def dkwX0_copy_2 : List UInt8 := [184, 1, 62, 21, 5, 172, 58, 6, 42, 4, 182, 0, 175, 172, 58, 6, 42, 5, 182, 0, 175, 172, 58, 6]
abbrev dktX0_copy_2 : List UInt8 := dkwX0_copy_2 ++ dktX0_copy_3
def dkwX0_copy_1 : List UInt8 := [180, 0, 70, 27, 50, 180, 0, 155, 28, 42, 180, 0, 70, 29, 50, 180, 0, 155, 21, 4, 21, 5]
abbrev dktX0_copy_1 : List UInt8 := dkwX0_copy_1 ++ dktX0_copy_2
def dkwX0_copy_0 : List UInt8 := [42, 3, 181, 0, 80, 27, 184, 0, 148, 153, 0, 10, 29, 184, 0, 148, 154, 0, 5, 2, 172, 42]
abbrev dktX0_copy_0 : List UInt8 := dkwX0_copy_0 ++ dktX0_copy_1
theorem dksX0_copy_0 : cX0_copy.data.toList.drop 0 = dktX0_copy_0 := by decide +kernel
theorem dksX0_copy_1 : cX0_copy.data.toList.drop 22 = dktX0_copy_1 := dk_seg dksX0_copy_0 22 rfl rfl
theorem dksX0_copy_2 : cX0_copy.data.toList.drop 44 = dktX0_copy_2 := dk_seg dksX0_copy_1 22 rfl rfl
theorem dksX0_copy_3 : cX0_copy.data.toList.drop 68 = dktX0_copy_3 := dk_seg dksX0_copy_2 24 rfl rfl
theorem dX0_copy_0 : decode cX0_copy 0 = .ok (.aload_n 0, 1) := dk_42 (dk_at dksX0_copy_0 0 rfl rfl)
theorem dX0_copy_1 : decode cX0_copy 1 = .ok (.iconst 0, 1) := dk_3 (dk_at dksX0_copy_0 1 rfl rfl)
theorem dX0_copy_2 : decode cX0_copy 2 = .ok (.putfield 80, 3) := dk_181 0 80 (dk_at dksX0_copy_0 2 rfl rfl)
theorem dX0_copy_5 : decode cX0_copy 5 = .ok (.iload_n 1, 1) := dk_27 (dk_at dksX0_copy_0 5 rfl rfl)
theorem dX0_copy_6 : decode cX0_copy 6 = .ok (.invokestatic 148, 3) := dk_184 0 148 (dk_at dksX0_copy_0 6 rfl rfl)
theorem dX0_copy_9 : decode cX0_copy 9 = .ok (.ifCond .eq 10, 3) := dk_153 0 10 (dk_at dksX0_copy_0 9 rfl rfl)
theorem dX0_copy_12 : decode cX0_copy 12 = .ok (.iload_n 3, 1) := dk_29 (dk_at dksX0_copy_0 12 rfl rfl)
theorem dX0_copy_13 : decode cX0_copy 13 = .ok (.invokestatic 148, 3) := dk_184 0 148 (dk_at dksX0_copy_0 13 rfl rfl)
theorem dX0_copy_16 : decode cX0_copy 16 = .ok (.ifCond .ne 5, 3) := dk_154 0 5 (dk_at dksX0_copy_0 16 rfl rfl)
theorem dX0_copy_19 : decode cX0_copy 19 = .ok (.iconst (-1), 1) := dk_2 (dk_at dksX0_copy_0 19 rfl rfl)
theorem dX0_copy_20 : decode cX0_copy 20 = .ok (.ireturn, 1) := dk_172 (dk_at dksX0_copy_0 20 rfl rfl)
theorem dX0_copy_21 : decode cX0_copy 21 = .ok (.aload_n 0, 1) := dk_42 (dk_at dksX0_copy_0 21 rfl rfl)
theorem dX0_copy_22 : decode cX0_copy 22 = .ok (.getfield 70, 3) := dk_180 0 70 (dk_at dksX0_copy_1 0 rfl rfl)
theorem dX0_copy_25 : decode cX0_copy 25 = .ok (.iload_n 1, 1) := dk_27 (dk_at dksX0_copy_1 3 rfl rfl)
theorem dX0_copy_26 : decode cX0_copy 26 = .ok (.aaload, 1) := dk_50 (dk_at dksX0_copy_1 4 rfl rfl)
theorem dX0_copy_27 : decode cX0_copy 27 = .ok (.getfield 155, 3) := dk_180 0 155 (dk_at dksX0_copy_1 5 rfl rfl)
theorem dX0_copy_30 : decode cX0_copy 30 = .ok (.iload_n 2, 1) := dk_28 (dk_at dksX0_copy_1 8 rfl rfl)
theorem dX0_copy_31 : decode cX0_copy 31 = .ok (.aload_n 0, 1) := dk_42 (dk_at dksX0_copy_1 9 rfl rfl)
theorem dX0_copy_32 : decode cX0_copy 32 = .ok (.getfield 70, 3) := dk_180 0 70 (dk_at dksX0_copy_1 10 rfl rfl)
theorem dX0_copy_35 : decode cX0_copy 35 = .ok (.iload_n 3, 1) := dk_29 (dk_at dksX0_copy_1 13 rfl rfl)
theorem dX0_copy_36 : decode cX0_copy 36 = .ok (.aaload, 1) := dk_50 (dk_at dksX0_copy_1 14 rfl rfl)
theorem dX0_copy_37 : decode cX0_copy 37 = .ok (.getfield 155, 3) := dk_180 0 155 (dk_at dksX0_copy_1 15 rfl rfl)
theorem dX0_copy_40 : decode cX0_copy 40 = .ok (.iload 4, 2) := dk_21 4 (dk_at dksX0_copy_1 18 rfl rfl)
theorem dX0_copy_42 : decode cX0_copy 42 = .ok (.iload 5, 2) := dk_21 5 (dk_at dksX0_copy_1 20 rfl rfl)
theorem dX0_copy_44 : decode cX0_copy 44 = .ok (.invokestatic 318, 3) := dk_184 1 62 (dk_at dksX0_copy_2 0 rfl rfl)
theorem dX0_copy_47 : decode cX0_copy 47 = .ok (.iload 5, 2) := dk_21 5 (dk_at dksX0_copy_2 3 rfl rfl)
theorem dX0_copy_49 : decode cX0_copy 49 = .ok (.ireturn, 1) := dk_172 (dk_at dksX0_copy_2 5 rfl rfl)
theorem dX0_copy_50 : decode cX0_copy 50 = .ok (.astore 6, 2) := dk_58 6 (dk_at dksX0_copy_2 6 rfl rfl)
theorem dX0_copy_52 : decode cX0_copy 52 = .ok (.aload_n 0, 1) := dk_42 (dk_at dksX0_copy_2 8 rfl rfl)
theorem dX0_copy_53 : decode cX0_copy 53 = .ok (.iconst 1, 1) := dk_4 (dk_at dksX0_copy_2 9 rfl rfl)
theorem dX0_copy_54 : decode cX0_copy 54 = .ok (.invokevirtual 175, 3) := dk_182 0 175 (dk_at dksX0_copy_2 10 rfl rfl)
theorem dX0_copy_57 : decode cX0_copy 57 = .ok (.ireturn, 1) := dk_172 (dk_at dksX0_copy_2 13 rfl rfl)
theorem dX0_copy_58 : decode cX0_copy 58 = .ok (.astore 6, 2) := dk_58 6 (dk_at dksX0_copy_2 14 rfl rfl)
theorem dX0_copy_60 : decode cX0_copy 60 = .ok (.aload_n 0, 1) := dk_42 (dk_at dksX0_copy_2 16 rfl rfl)
theorem dX0_copy_61 : decode cX0_copy 61 = .ok (.iconst 2, 1) := dk_5 (dk_at dksX0_copy_2 17 rfl rfl)
theorem dX0_copy_62 : decode cX0_copy 62 = .ok (.invokevirtual 175, 3) := dk_182 0 175 (dk_at dksX0_copy_2 18 rfl rfl)
theorem dX0_copy_65 : decode cX0_copy 65 = .ok (.ireturn, 1) := dk_172 (dk_at dksX0_copy_2 21 rfl rfl)
theorem dX0_copy_66 : decode cX0_copy 66 = .ok (.astore 6, 2) := dk_58 6 (dk_at dksX0_copy_2 22 rfl rfl)
theorem dX0_copy_68 : decode cX0_copy 68 = .ok (.aload_n 0, 1) := dk_42 (dk_at dksX0_copy_3 0 rfl rfl)
theorem dX0_copy_69 : decode cX0_copy 69 = .ok (.iconst 3, 1) := dk_6 (dk_at dksX0_copy_3 1 rfl rfl)
theorem dX0_copy_70 : decode cX0_copy 70 = .ok (.invokevirtual 175, 3) := dk_182 0 175 (dk_at dksX0_copy_3 2 rfl rfl)
theorem dX0_copy_73 : decode cX0_copy 73 = .ok (.ireturn, 1) := dk_172 (dk_at dksX0_copy_3 5 rfl rfl)
abbrev cX0_tell : ByteArray := prog_1_method_83_code
def yX0_tell : MethodName := ⟨RX0, "tell", "(I)I"⟩
def dkwX0_tell_1 : List UInt8 := [167, 0, 4, 2, 172]
abbrev dktX0_tell_1 : List UInt8 := dkwX0_tell_1 ++ []
def dkwX0_tell_0 : List UInt8 := [42, 27, 182, 0, 188, 153, 0, 22, 42, 180, 0, 12, 27, 185, 0, 191, 2, 0, 192, 0, 113, 182, 1, 177]
abbrev dktX0_tell_0 : List UInt8 := dkwX0_tell_0 ++ dktX0_tell_1
theorem dksX0_tell_0 : cX0_tell.data.toList.drop 0 = dktX0_tell_0 := by decide +kernel
theorem dksX0_tell_1 : cX0_tell.data.toList.drop 24 = dktX0_tell_1 := dk_seg dksX0_tell_0 24 rfl rfl
theorem dX0_tell_0 : decode cX0_tell 0 = .ok (.aload_n 0, 1) := dk_42 (dk_at dksX0_tell_0 0 rfl rfl)
theorem dX0_tell_1 : decode cX0_tell 1 = .ok (.iload_n 1, 1) := dk_27 (dk_at dksX0_tell_0 1 rfl rfl)
theorem dX0_tell_2 : decode cX0_tell 2 = .ok (.invokevirtual 188, 3) := dk_182 0 188 (dk_at dksX0_tell_0 2 rfl rfl)
theorem dX0_tell_5 : decode cX0_tell 5 = .ok (.ifCond .eq 22, 3) := dk_153 0 22 (dk_at dksX0_tell_0 5 rfl rfl)
theorem dX0_tell_8 : decode cX0_tell 8 = .ok (.aload_n 0, 1) := dk_42 (dk_at dksX0_tell_0 8 rfl rfl)
theorem dX0_tell_9 : decode cX0_tell 9 = .ok (.getfield 12, 3) := dk_180 0 12 (dk_at dksX0_tell_0 9 rfl rfl)
theorem dX0_tell_12 : decode cX0_tell 12 = .ok (.iload_n 1, 1) := dk_27 (dk_at dksX0_tell_0 12 rfl rfl)
theorem dX0_tell_13 : decode cX0_tell 13 = .ok (.invokeinterface 191 2, 5) := by decide +kernel
theorem dX0_tell_18 : decode cX0_tell 18 = .ok (.checkcast 113, 3) := dk_192 0 113 (dk_at dksX0_tell_0 18 rfl rfl)
theorem dX0_tell_21 : decode cX0_tell 21 = .ok (.invokevirtual 433, 3) := dk_182 1 177 (dk_at dksX0_tell_0 21 rfl rfl)
theorem dX0_tell_24 : decode cX0_tell 24 = .ok (.goto 4, 3) := dk_167 0 4 (dk_at dksX0_tell_1 0 rfl rfl)
theorem dX0_tell_27 : decode cX0_tell 27 = .ok (.iconst (-1), 1) := dk_2 (dk_at dksX0_tell_1 3 rfl rfl)
theorem dX0_tell_28 : decode cX0_tell 28 = .ok (.ireturn, 1) := dk_172 (dk_at dksX0_tell_1 4 rfl rfl)
abbrev cX0_begins : ByteArray := prog_1_method_7_code
def yX0_begins : MethodName := ⟨RX0, "begins", "(I)V"⟩
def dkwX0_begins_0 : List UInt8 := [42, 16, 31, 42, 180, 0, 86, 104, 27, 96, 181, 0, 86, 177]
abbrev dktX0_begins_0 : List UInt8 := dkwX0_begins_0 ++ []
theorem dksX0_begins_0 : cX0_begins.data.toList.drop 0 = dktX0_begins_0 := by decide +kernel
theorem dX0_begins_0 : decode cX0_begins 0 = .ok (.aload_n 0, 1) := dk_42 (dk_at dksX0_begins_0 0 rfl rfl)
theorem dX0_begins_1 : decode cX0_begins 1 = .ok (.bipush 31, 2) := dk_16 31 (dk_at dksX0_begins_0 1 rfl rfl)
theorem dX0_begins_3 : decode cX0_begins 3 = .ok (.aload_n 0, 1) := dk_42 (dk_at dksX0_begins_0 3 rfl rfl)
theorem dX0_begins_4 : decode cX0_begins 4 = .ok (.getfield 86, 3) := dk_180 0 86 (dk_at dksX0_begins_0 4 rfl rfl)
theorem dX0_begins_7 : decode cX0_begins 7 = .ok (.imul, 1) := dk_104 (dk_at dksX0_begins_0 7 rfl rfl)
theorem dX0_begins_8 : decode cX0_begins 8 = .ok (.iload_n 1, 1) := dk_27 (dk_at dksX0_begins_0 8 rfl rfl)
theorem dX0_begins_9 : decode cX0_begins 9 = .ok (.iadd, 1) := dk_96 (dk_at dksX0_begins_0 9 rfl rfl)
theorem dX0_begins_10 : decode cX0_begins 10 = .ok (.putfield 86, 3) := dk_181 0 86 (dk_at dksX0_begins_0 10 rfl rfl)
theorem dX0_begins_13 : decode cX0_begins 13 = .ok (.return_, 1) := dk_177 (dk_at dksX0_begins_0 13 rfl rfl)
abbrev cX0_joint : ByteArray := prog_1_method_85_code
def yX0_joint : MethodName := ⟨RX0, "joint", "(I)I"⟩
def dkwX0_joint_1 : List UInt8 := [167, 0, 4, 2, 172]
abbrev dktX0_joint_1 : List UInt8 := dkwX0_joint_1 ++ []
def dkwX0_joint_0 : List UInt8 := [42, 27, 182, 0, 188, 153, 0, 22, 42, 180, 0, 12, 27, 185, 0, 191, 2, 0, 192, 1, 181, 184, 1, 185]
abbrev dktX0_joint_0 : List UInt8 := dkwX0_joint_0 ++ dktX0_joint_1
theorem dksX0_joint_0 : cX0_joint.data.toList.drop 0 = dktX0_joint_0 := by decide +kernel
theorem dksX0_joint_1 : cX0_joint.data.toList.drop 24 = dktX0_joint_1 := dk_seg dksX0_joint_0 24 rfl rfl
theorem dX0_joint_0 : decode cX0_joint 0 = .ok (.aload_n 0, 1) := dk_42 (dk_at dksX0_joint_0 0 rfl rfl)
theorem dX0_joint_1 : decode cX0_joint 1 = .ok (.iload_n 1, 1) := dk_27 (dk_at dksX0_joint_0 1 rfl rfl)
theorem dX0_joint_2 : decode cX0_joint 2 = .ok (.invokevirtual 188, 3) := dk_182 0 188 (dk_at dksX0_joint_0 2 rfl rfl)
theorem dX0_joint_5 : decode cX0_joint 5 = .ok (.ifCond .eq 22, 3) := dk_153 0 22 (dk_at dksX0_joint_0 5 rfl rfl)
theorem dX0_joint_8 : decode cX0_joint 8 = .ok (.aload_n 0, 1) := dk_42 (dk_at dksX0_joint_0 8 rfl rfl)
theorem dX0_joint_9 : decode cX0_joint 9 = .ok (.getfield 12, 3) := dk_180 0 12 (dk_at dksX0_joint_0 9 rfl rfl)
theorem dX0_joint_12 : decode cX0_joint 12 = .ok (.iload_n 1, 1) := dk_27 (dk_at dksX0_joint_0 12 rfl rfl)
theorem dX0_joint_13 : decode cX0_joint 13 = .ok (.invokeinterface 191 2, 5) := by decide +kernel
theorem dX0_joint_18 : decode cX0_joint 18 = .ok (.checkcast 437, 3) := dk_192 1 181 (dk_at dksX0_joint_0 18 rfl rfl)
theorem dX0_joint_21 : decode cX0_joint 21 = .ok (.invokestatic 441, 3) := dk_184 1 185 (dk_at dksX0_joint_0 21 rfl rfl)
theorem dX0_joint_24 : decode cX0_joint 24 = .ok (.goto 4, 3) := dk_167 0 4 (dk_at dksX0_joint_1 0 rfl rfl)
theorem dX0_joint_27 : decode cX0_joint 27 = .ok (.iconst (-1), 1) := dk_2 (dk_at dksX0_joint_1 3 rfl rfl)
theorem dX0_joint_28 : decode cX0_joint 28 = .ok (.ireturn, 1) := dk_172 (dk_at dksX0_joint_1 4 rfl rfl)
abbrev cX0_jointed : ByteArray := prog_1_method_84_code
def yX0_jointed : MethodName := ⟨RX0, "jointed", "(LSawLine$Jointed;)I"⟩
theorem dX0_jointed_0 : decode cX0_jointed 0 = .ok (.aload_n 0, 1) := by decide +kernel
theorem dX0_jointed_1 : decode cX0_jointed 1 = .ok (.invokeinterface 436 1, 5) := by decide +kernel
theorem dX0_jointed_6 : decode cX0_jointed 6 = .ok (.ireturn, 1) := by decide +kernel
abbrev cX0_as : ByteArray := prog_1_method_87_code
def yX0_as : MethodName := ⟨RX0, "as", "(II)I"⟩
def dkwX0_as_2 : List UInt8 := [182, 0, 195, 28, 161, 0, 7, 4, 167, 0, 4, 3, 172, 78, 42, 5, 182, 0, 175, 172]
abbrev dktX0_as_2 : List UInt8 := dkwX0_as_2 ++ []
def dkwX0_as_1 : List UInt8 := [154, 0, 6, 16, 254, 172, 42, 180, 0, 12, 27, 185, 0, 191, 2, 0, 192, 0, 113, 28, 184, 1, 189]
abbrev dktX0_as_1 : List UInt8 := dkwX0_as_1 ++ dktX0_as_2
def dkwX0_as_0 : List UInt8 := [42, 3, 181, 0, 80, 42, 27, 182, 0, 188, 154, 0, 5, 2, 172, 28, 133, 9, 20, 0, 210, 184, 0, 76]
abbrev dktX0_as_0 : List UInt8 := dkwX0_as_0 ++ dktX0_as_1
theorem dksX0_as_0 : cX0_as.data.toList.drop 0 = dktX0_as_0 := by decide +kernel
theorem dksX0_as_1 : cX0_as.data.toList.drop 24 = dktX0_as_1 := dk_seg dksX0_as_0 24 rfl rfl
theorem dksX0_as_2 : cX0_as.data.toList.drop 47 = dktX0_as_2 := dk_seg dksX0_as_1 23 rfl rfl
theorem dX0_as_0 : decode cX0_as 0 = .ok (.aload_n 0, 1) := dk_42 (dk_at dksX0_as_0 0 rfl rfl)
theorem dX0_as_1 : decode cX0_as 1 = .ok (.iconst 0, 1) := dk_3 (dk_at dksX0_as_0 1 rfl rfl)
theorem dX0_as_2 : decode cX0_as 2 = .ok (.putfield 80, 3) := dk_181 0 80 (dk_at dksX0_as_0 2 rfl rfl)
theorem dX0_as_5 : decode cX0_as 5 = .ok (.aload_n 0, 1) := dk_42 (dk_at dksX0_as_0 5 rfl rfl)
theorem dX0_as_6 : decode cX0_as 6 = .ok (.iload_n 1, 1) := dk_27 (dk_at dksX0_as_0 6 rfl rfl)
theorem dX0_as_7 : decode cX0_as 7 = .ok (.invokevirtual 188, 3) := dk_182 0 188 (dk_at dksX0_as_0 7 rfl rfl)
theorem dX0_as_10 : decode cX0_as 10 = .ok (.ifCond .ne 5, 3) := dk_154 0 5 (dk_at dksX0_as_0 10 rfl rfl)
theorem dX0_as_13 : decode cX0_as 13 = .ok (.iconst (-1), 1) := dk_2 (dk_at dksX0_as_0 13 rfl rfl)
theorem dX0_as_14 : decode cX0_as 14 = .ok (.ireturn, 1) := dk_172 (dk_at dksX0_as_0 14 rfl rfl)
theorem dX0_as_15 : decode cX0_as 15 = .ok (.iload_n 2, 1) := dk_28 (dk_at dksX0_as_0 15 rfl rfl)
theorem dX0_as_16 : decode cX0_as 16 = .ok (.i2l, 1) := dk_133 (dk_at dksX0_as_0 16 rfl rfl)
theorem dX0_as_17 : decode cX0_as 17 = .ok (.lconst 0, 1) := dk_9 (dk_at dksX0_as_0 17 rfl rfl)
theorem dX0_as_18 : decode cX0_as 18 = .ok (.ldc2_w 210, 3) := dk_20 0 210 (dk_at dksX0_as_0 18 rfl rfl)
theorem dX0_as_21 : decode cX0_as 21 = .ok (.invokestatic 76, 3) := dk_184 0 76 (dk_at dksX0_as_0 21 rfl rfl)
theorem dX0_as_24 : decode cX0_as 24 = .ok (.ifCond .ne 6, 3) := dk_154 0 6 (dk_at dksX0_as_1 0 rfl rfl)
theorem dX0_as_27 : decode cX0_as 27 = .ok (.bipush (-2), 2) := dk_16 254 (dk_at dksX0_as_1 3 rfl rfl)
theorem dX0_as_29 : decode cX0_as 29 = .ok (.ireturn, 1) := dk_172 (dk_at dksX0_as_1 5 rfl rfl)
theorem dX0_as_30 : decode cX0_as 30 = .ok (.aload_n 0, 1) := dk_42 (dk_at dksX0_as_1 6 rfl rfl)
theorem dX0_as_31 : decode cX0_as 31 = .ok (.getfield 12, 3) := dk_180 0 12 (dk_at dksX0_as_1 7 rfl rfl)
theorem dX0_as_34 : decode cX0_as 34 = .ok (.iload_n 1, 1) := dk_27 (dk_at dksX0_as_1 10 rfl rfl)
theorem dX0_as_35 : decode cX0_as 35 = .ok (.invokeinterface 191 2, 5) := by decide +kernel
theorem dX0_as_40 : decode cX0_as 40 = .ok (.checkcast 113, 3) := dk_192 0 113 (dk_at dksX0_as_1 16 rfl rfl)
theorem dX0_as_43 : decode cX0_as 43 = .ok (.iload_n 2, 1) := dk_28 (dk_at dksX0_as_1 19 rfl rfl)
theorem dX0_as_44 : decode cX0_as 44 = .ok (.invokestatic 445, 3) := dk_184 1 189 (dk_at dksX0_as_1 20 rfl rfl)
theorem dX0_as_47 : decode cX0_as 47 = .ok (.invokevirtual 195, 3) := dk_182 0 195 (dk_at dksX0_as_2 0 rfl rfl)
theorem dX0_as_50 : decode cX0_as 50 = .ok (.iload_n 2, 1) := dk_28 (dk_at dksX0_as_2 3 rfl rfl)
theorem dX0_as_51 : decode cX0_as 51 = .ok (.if_icmp .lt 7, 3) := dk_161 0 7 (dk_at dksX0_as_2 4 rfl rfl)
theorem dX0_as_54 : decode cX0_as 54 = .ok (.iconst 1, 1) := dk_4 (dk_at dksX0_as_2 7 rfl rfl)
theorem dX0_as_55 : decode cX0_as 55 = .ok (.goto 4, 3) := dk_167 0 4 (dk_at dksX0_as_2 8 rfl rfl)
theorem dX0_as_58 : decode cX0_as 58 = .ok (.iconst 0, 1) := dk_3 (dk_at dksX0_as_2 11 rfl rfl)
theorem dX0_as_59 : decode cX0_as 59 = .ok (.ireturn, 1) := dk_172 (dk_at dksX0_as_2 12 rfl rfl)
theorem dX0_as_60 : decode cX0_as 60 = .ok (.astore_n 3, 1) := dk_78 (dk_at dksX0_as_2 13 rfl rfl)
theorem dX0_as_61 : decode cX0_as 61 = .ok (.aload_n 0, 1) := dk_42 (dk_at dksX0_as_2 14 rfl rfl)
theorem dX0_as_62 : decode cX0_as 62 = .ok (.iconst 2, 1) := dk_5 (dk_at dksX0_as_2 15 rfl rfl)
theorem dX0_as_63 : decode cX0_as 63 = .ok (.invokevirtual 175, 3) := dk_182 0 175 (dk_at dksX0_as_2 16 rfl rfl)
theorem dX0_as_66 : decode cX0_as 66 = .ok (.ireturn, 1) := dk_172 (dk_at dksX0_as_2 19 rfl rfl)
abbrev cX0_of : ByteArray := prog_1_method_86_code
def yX0_of : MethodName := ⟨RX0, "of", "(LSawLine$Tooth;I)LSawLine$Tooth;"⟩
def dkwX0_of_1 : List UInt8 := [176]
abbrev dktX0_of_1 : List UInt8 := dkwX0_of_1 ++ []
def dkwX0_of_0 : List UInt8 := [27, 154, 0, 7, 42, 167, 0, 19, 27, 4, 160, 0, 10, 42, 192, 0, 118, 167, 0, 7, 42, 192, 0, 123]
abbrev dktX0_of_0 : List UInt8 := dkwX0_of_0 ++ dktX0_of_1
theorem dksX0_of_0 : cX0_of.data.toList.drop 0 = dktX0_of_0 := by decide +kernel
theorem dksX0_of_1 : cX0_of.data.toList.drop 24 = dktX0_of_1 := dk_seg dksX0_of_0 24 rfl rfl
theorem dX0_of_0 : decode cX0_of 0 = .ok (.iload_n 1, 1) := dk_27 (dk_at dksX0_of_0 0 rfl rfl)
theorem dX0_of_1 : decode cX0_of 1 = .ok (.ifCond .ne 7, 3) := dk_154 0 7 (dk_at dksX0_of_0 1 rfl rfl)
theorem dX0_of_4 : decode cX0_of 4 = .ok (.aload_n 0, 1) := dk_42 (dk_at dksX0_of_0 4 rfl rfl)
theorem dX0_of_5 : decode cX0_of 5 = .ok (.goto 19, 3) := dk_167 0 19 (dk_at dksX0_of_0 5 rfl rfl)
theorem dX0_of_8 : decode cX0_of 8 = .ok (.iload_n 1, 1) := dk_27 (dk_at dksX0_of_0 8 rfl rfl)
theorem dX0_of_9 : decode cX0_of 9 = .ok (.iconst 1, 1) := dk_4 (dk_at dksX0_of_0 9 rfl rfl)
theorem dX0_of_10 : decode cX0_of 10 = .ok (.if_icmp .ne 10, 3) := dk_160 0 10 (dk_at dksX0_of_0 10 rfl rfl)
theorem dX0_of_13 : decode cX0_of 13 = .ok (.aload_n 0, 1) := dk_42 (dk_at dksX0_of_0 13 rfl rfl)
theorem dX0_of_14 : decode cX0_of 14 = .ok (.checkcast 118, 3) := dk_192 0 118 (dk_at dksX0_of_0 14 rfl rfl)
theorem dX0_of_17 : decode cX0_of 17 = .ok (.goto 7, 3) := dk_167 0 7 (dk_at dksX0_of_0 17 rfl rfl)
theorem dX0_of_20 : decode cX0_of 20 = .ok (.aload_n 0, 1) := dk_42 (dk_at dksX0_of_0 20 rfl rfl)
theorem dX0_of_21 : decode cX0_of 21 = .ok (.checkcast 123, 3) := dk_192 0 123 (dk_at dksX0_of_0 21 rfl rfl)
theorem dX0_of_24 : decode cX0_of 24 = .ok (.areturn, 1) := dk_176 (dk_at dksX0_of_1 0 rfl rfl)
abbrev cX0_trace : ByteArray := prog_1_method_88_code
def yX0_trace : MethodName := ⟨RX0, "trace", "()I"⟩
theorem dX0_trace_0 : decode cX0_trace 0 = .ok (.aload_n 0, 1) := by decide +kernel
theorem dX0_trace_1 : decode cX0_trace 1 = .ok (.getfield 86, 3) := by decide +kernel
theorem dX0_trace_4 : decode cX0_trace 4 = .ok (.ireturn, 1) := by decide +kernel
abbrev cX0_fault : ByteArray := prog_1_method_89_code
def yX0_fault : MethodName := ⟨RX0, "fault", "()I"⟩
theorem dX0_fault_0 : decode cX0_fault 0 = .ok (.aload_n 0, 1) := by decide +kernel
theorem dX0_fault_1 : decode cX0_fault 1 = .ok (.getfield 80, 3) := by decide +kernel
theorem dX0_fault_4 : decode cX0_fault 4 = .ok (.ireturn, 1) := by decide +kernel
abbrev cX0_many : ByteArray := prog_1_method_91_code
def yX0_many : MethodName := ⟨RX0, "many", "(I)I"⟩
def dkwX0_many_3 : List UInt8 := [172, 42, 182, 1, 193, 172, 16, 254, 172]
abbrev dktX0_many_3 : List UInt8 := dkwX0_many_3 ++ []
def dkwX0_many_2 : List UInt8 := [42, 180, 0, 12, 185, 0, 184, 1, 0, 172, 42, 180, 0, 248, 172, 42, 180, 0, 142, 172, 42, 180, 0, 145]
abbrev dktX0_many_2 : List UInt8 := dkwX0_many_2 ++ dktX0_many_3
def dkwX0_many_1 : List UInt8 := [170, 0, 0, 0, 0, 0, 65, 0, 0, 0, 0, 0, 0, 0, 4, 0, 0, 0, 35, 0, 0, 0, 45, 0, 0, 0, 50, 0, 0, 0, 55, 0, 0, 0, 60]
abbrev dktX0_many_1 : List UInt8 := dkwX0_many_1 ++ dktX0_many_2
def dkwX0_many_0 : List UInt8 := [27]
abbrev dktX0_many_0 : List UInt8 := dkwX0_many_0 ++ dktX0_many_1
theorem dksX0_many_0 : cX0_many.data.toList.drop 0 = dktX0_many_0 := by decide +kernel
theorem dksX0_many_1 : cX0_many.data.toList.drop 1 = dktX0_many_1 := dk_seg dksX0_many_0 1 rfl rfl
theorem dksX0_many_2 : cX0_many.data.toList.drop 36 = dktX0_many_2 := dk_seg dksX0_many_1 35 rfl rfl
theorem dksX0_many_3 : cX0_many.data.toList.drop 60 = dktX0_many_3 := dk_seg dksX0_many_2 24 rfl rfl
theorem dX0_many_0 : decode cX0_many 0 = .ok (.iload_n 1, 1) := dk_27 (dk_at dksX0_many_0 0 rfl rfl)
theorem dX0_many_1 : decode cX0_many 1 = .ok (.tableswitch 65 0 4 #[35, 45, 50, 55, 60], 35) := by decide +kernel
theorem dX0_many_36 : decode cX0_many 36 = .ok (.aload_n 0, 1) := dk_42 (dk_at dksX0_many_2 0 rfl rfl)
theorem dX0_many_37 : decode cX0_many 37 = .ok (.getfield 12, 3) := dk_180 0 12 (dk_at dksX0_many_2 1 rfl rfl)
theorem dX0_many_40 : decode cX0_many 40 = .ok (.invokeinterface 184 1, 5) := by decide +kernel
theorem dX0_many_45 : decode cX0_many 45 = .ok (.ireturn, 1) := dk_172 (dk_at dksX0_many_2 9 rfl rfl)
theorem dX0_many_46 : decode cX0_many 46 = .ok (.aload_n 0, 1) := dk_42 (dk_at dksX0_many_2 10 rfl rfl)
theorem dX0_many_47 : decode cX0_many 47 = .ok (.getfield 248, 3) := dk_180 0 248 (dk_at dksX0_many_2 11 rfl rfl)
theorem dX0_many_50 : decode cX0_many 50 = .ok (.ireturn, 1) := dk_172 (dk_at dksX0_many_2 14 rfl rfl)
theorem dX0_many_51 : decode cX0_many 51 = .ok (.aload_n 0, 1) := dk_42 (dk_at dksX0_many_2 15 rfl rfl)
theorem dX0_many_52 : decode cX0_many 52 = .ok (.getfield 142, 3) := dk_180 0 142 (dk_at dksX0_many_2 16 rfl rfl)
theorem dX0_many_55 : decode cX0_many 55 = .ok (.ireturn, 1) := dk_172 (dk_at dksX0_many_2 19 rfl rfl)
theorem dX0_many_56 : decode cX0_many 56 = .ok (.aload_n 0, 1) := dk_42 (dk_at dksX0_many_2 20 rfl rfl)
theorem dX0_many_57 : decode cX0_many 57 = .ok (.getfield 145, 3) := dk_180 0 145 (dk_at dksX0_many_2 21 rfl rfl)
theorem dX0_many_60 : decode cX0_many 60 = .ok (.ireturn, 1) := dk_172 (dk_at dksX0_many_3 0 rfl rfl)
theorem dX0_many_61 : decode cX0_many 61 = .ok (.aload_n 0, 1) := dk_42 (dk_at dksX0_many_3 1 rfl rfl)
theorem dX0_many_62 : decode cX0_many 62 = .ok (.invokevirtual 449, 3) := dk_182 1 193 (dk_at dksX0_many_3 2 rfl rfl)
theorem dX0_many_65 : decode cX0_many 65 = .ok (.ireturn, 1) := dk_172 (dk_at dksX0_many_3 5 rfl rfl)
theorem dX0_many_66 : decode cX0_many 66 = .ok (.bipush (-2), 2) := dk_16 254 (dk_at dksX0_many_3 6 rfl rfl)
theorem dX0_many_68 : decode cX0_many 68 = .ok (.ireturn, 1) := dk_172 (dk_at dksX0_many_3 8 rfl rfl)
abbrev cX0_strokesNow : ByteArray := prog_1_method_90_code
def yX0_strokesNow : MethodName := ⟨RX0, "strokesNow", "()I"⟩
def dkwX0_strokesNow_0 : List UInt8 := [42, 182, 1, 32, 154, 0, 5, 3, 172, 42, 182, 1, 35, 42, 180, 1, 25, 172]
abbrev dktX0_strokesNow_0 : List UInt8 := dkwX0_strokesNow_0 ++ []
theorem dksX0_strokesNow_0 : cX0_strokesNow.data.toList.drop 0 = dktX0_strokesNow_0 := by decide +kernel
theorem dX0_strokesNow_0 : decode cX0_strokesNow 0 = .ok (.aload_n 0, 1) := dk_42 (dk_at dksX0_strokesNow_0 0 rfl rfl)
theorem dX0_strokesNow_1 : decode cX0_strokesNow 1 = .ok (.invokevirtual 288, 3) := dk_182 1 32 (dk_at dksX0_strokesNow_0 1 rfl rfl)
theorem dX0_strokesNow_4 : decode cX0_strokesNow 4 = .ok (.ifCond .ne 5, 3) := dk_154 0 5 (dk_at dksX0_strokesNow_0 4 rfl rfl)
theorem dX0_strokesNow_7 : decode cX0_strokesNow 7 = .ok (.iconst 0, 1) := dk_3 (dk_at dksX0_strokesNow_0 7 rfl rfl)
theorem dX0_strokesNow_8 : decode cX0_strokesNow 8 = .ok (.ireturn, 1) := dk_172 (dk_at dksX0_strokesNow_0 8 rfl rfl)
theorem dX0_strokesNow_9 : decode cX0_strokesNow 9 = .ok (.aload_n 0, 1) := dk_42 (dk_at dksX0_strokesNow_0 9 rfl rfl)
theorem dX0_strokesNow_10 : decode cX0_strokesNow 10 = .ok (.invokevirtual 291, 3) := dk_182 1 35 (dk_at dksX0_strokesNow_0 10 rfl rfl)
theorem dX0_strokesNow_13 : decode cX0_strokesNow 13 = .ok (.aload_n 0, 1) := dk_42 (dk_at dksX0_strokesNow_0 13 rfl rfl)
theorem dX0_strokesNow_14 : decode cX0_strokesNow 14 = .ok (.getfield 281, 3) := dk_180 1 25 (dk_at dksX0_strokesNow_0 14 rfl rfl)
theorem dX0_strokesNow_17 : decode cX0_strokesNow 17 = .ok (.ireturn, 1) := dk_172 (dk_at dksX0_strokesNow_0 17 rfl rfl)
theorem q74 : (Jvm.Cond.initialized "SawLine") ∈ lw_all := lw_g (lw_at lw_m1 1 rfl) rfl
theorem q101 : (Jvm.Cond.instantiable "SawLine" (37 : Nat)) ∈ lw_all := lw_g (lw_at lw_m1 28 rfl) rfl
theorem q103 : (Jvm.Cond.instanceMethod ({ cls := "SawLine", name := "<init>", desc := "()V" } : Jvm.MethodName)) ∈ lw_all := lw_g (lw_at lw_m1 30 rfl) rfl
theorem q104 : (Jvm.Cond.code ({ cls := "SawLine", name := "<init>", desc := "()V" } : Jvm.MethodName) prog_1_method_1_code (1 : Nat) (Option.none : Option Jvm.ClassFile.FieldType)) ∈ lw_all := lw_g (lw_at lw_m1 31 rfl) rfl
theorem q105 : (Jvm.Cond.methodLink "SawLine" (3 : Nat) ({ cls := "java/lang/Object", name := "<init>", desc := "()V" } : Jvm.MethodName)) ∈ lw_all := lw_g (lw_at lw_m1 32 rfl) rfl
theorem q108 : (Jvm.Cond.classLink "SawLine" (9 : Nat) "java/util/ArrayList") ∈ lw_all := lw_g (lw_at lw_m1 35 rfl) rfl
theorem q110 : (Jvm.Cond.methodLink "SawLine" (11 : Nat) ({ cls := "java/util/ArrayList", name := "<init>", desc := "()V" } : Jvm.MethodName)) ∈ lw_all := lw_g (lw_at lw_m1 37 rfl) rfl
theorem q134 : (Jvm.Cond.methodLink "SawLine" (67 : Nat) ({ cls := "SawLine", name := "places", desc := "(I)[LSawLine$Place;" } : Jvm.MethodName)) ∈ lw_all := lw_g (lw_at lw_m1 61 rfl) rfl
theorem q135 : (Jvm.Cond.static ({ cls := "SawLine", name := "places", desc := "(I)[LSawLine$Place;" } : Jvm.MethodName)) ∈ lw_all := lw_g (lw_at lw_m1 62 rfl) rfl
theorem q136 : (Jvm.Cond.code ({ cls := "SawLine", name := "places", desc := "(I)[LSawLine$Place;" } : Jvm.MethodName) prog_1_method_71_code (3 : Nat) (Option.some (Jvm.ClassFile.FieldType.array (Jvm.ClassFile.FieldType.object "SawLine$Place")))) ∈ lw_all := lw_g (lw_at lw_m1 63 rfl) rfl
theorem q137 : (Jvm.Cond.classLink "SawLine" (156 : Nat) "SawLine$Place") ∈ lw_all := lw_g (lw_at lw_m1 64 rfl) rfl
theorem q140 : (Jvm.Cond.methodLinkNest "SawLine" (410 : Nat) ({ cls := "SawLine$Place", name := "<init>", desc := "()V" } : Jvm.MethodName) "SawLine") ∈ lw_tbl := lw_at lw_m1 67 rfl
theorem q144 : (Jvm.Cond.fieldLinkNest "SawLine" (155 : Nat) "SawLine$Place" "has" "Ljava/lang/Object;" "SawLine") ∈ lw_tbl := lw_at lw_m1 71 rfl
theorem q149 : (Jvm.Cond.fieldLink "SawLine" (80 : Nat) "SawLine" "fault" "I") ∈ lw_all := lw_g (lw_at lw_m1 76 rfl) rfl
theorem q150 : (Jvm.Cond.fieldLink "SawLine" (86 : Nat) "SawLine" "trace" "I") ∈ lw_all := lw_g (lw_at lw_m1 77 rfl) rfl
theorem q151 : (Jvm.Cond.fieldLink "SawLine" (12 : Nat) "SawLine" "teeth" "Ljava/util/List;") ∈ lw_all := lw_g (lw_at lw_m1 78 rfl) rfl
theorem q152 : (Jvm.Cond.fieldLink "SawLine" (89 : Nat) "SawLine" "at" "I") ∈ lw_all := lw_g (lw_at lw_m1 79 rfl) rfl
theorem q153 : (Jvm.Cond.fieldLink "SawLine" (98 : Nat) "SawLine" "readMany" "I") ∈ lw_all := lw_g (lw_at lw_m1 80 rfl) rfl
theorem q154 : (Jvm.Cond.fieldLink "SawLine" (18 : Nat) "SawLine" "read" "[I") ∈ lw_all := lw_g (lw_at lw_m1 81 rfl) rfl
theorem q155 : (Jvm.Cond.fieldLink "SawLine" (248 : Nat) "SawLine" "lines" "I") ∈ lw_all := lw_g (lw_at lw_m1 82 rfl) rfl
theorem q156 : (Jvm.Cond.fieldLink "SawLine" (22 : Nat) "SawLine" "hard" "[I") ∈ lw_all := lw_g (lw_at lw_m1 83 rfl) rfl
theorem q157 : (Jvm.Cond.fieldLink "SawLine" (25 : Nat) "SawLine" "grain" "[I") ∈ lw_all := lw_g (lw_at lw_m1 84 rfl) rfl
theorem q158 : (Jvm.Cond.fieldLink "SawLine" (28 : Nat) "SawLine" "closes" "[I") ∈ lw_all := lw_g (lw_at lw_m1 85 rfl) rfl
theorem q159 : (Jvm.Cond.fieldLink "SawLine" (261 : Nat) "SawLine" "lean" "I") ∈ lw_all := lw_g (lw_at lw_m1 86 rfl) rfl
theorem q160 : (Jvm.Cond.fieldLink "SawLine" (264 : Nat) "SawLine" "steers" "I") ∈ lw_all := lw_g (lw_at lw_m1 87 rfl) rfl
theorem q161 : (Jvm.Cond.fieldLink "SawLine" (267 : Nat) "SawLine" "late" "I") ∈ lw_all := lw_g (lw_at lw_m1 88 rfl) rfl
theorem q162 : (Jvm.Cond.fieldLink "SawLine" (272 : Nat) "SawLine" "fence" "I") ∈ lw_all := lw_g (lw_at lw_m1 89 rfl) rfl
theorem q163 : (Jvm.Cond.fieldLink "SawLine" (281 : Nat) "SawLine" "strokes" "I") ∈ lw_all := lw_g (lw_at lw_m1 90 rfl) rfl
theorem q164 : (Jvm.Cond.fieldLink "SawLine" (31 : Nat) "SawLine" "places" "[I") ∈ lw_all := lw_g (lw_at lw_m1 91 rfl) rfl
theorem q165 : (Jvm.Cond.fieldLink "SawLine" (34 : Nat) "SawLine" "headings" "[I") ∈ lw_all := lw_g (lw_at lw_m1 92 rfl) rfl
theorem q166 : (Jvm.Cond.fieldLink "SawLine" (278 : Nat) "SawLine" "mostOff" "I") ∈ lw_all := lw_g (lw_at lw_m1 93 rfl) rfl
theorem q167 : (Jvm.Cond.fieldLink "SawLine" (301 : Nat) "SawLine" "straightestOff" "I") ∈ lw_all := lw_g (lw_at lw_m1 94 rfl) rfl
theorem q168 : (Jvm.Cond.fieldLink "SawLine" (142 : Nat) "SawLine" "flaws" "I") ∈ lw_all := lw_g (lw_at lw_m1 95 rfl) rfl
theorem q169 : (Jvm.Cond.fieldLink "SawLine" (37 : Nat) "SawLine" "flawTooth" "[I") ∈ lw_all := lw_g (lw_at lw_m1 96 rfl) rfl
theorem q170 : (Jvm.Cond.fieldLink "SawLine" (40 : Nat) "SawLine" "flawWhat" "[I") ∈ lw_all := lw_g (lw_at lw_m1 97 rfl) rfl
theorem q171 : (Jvm.Cond.fieldLink "SawLine" (43 : Nat) "SawLine" "flawIs" "[I") ∈ lw_all := lw_g (lw_at lw_m1 98 rfl) rfl
theorem q172 : (Jvm.Cond.fieldLink "SawLine" (145 : Nat) "SawLine" "readings" "I") ∈ lw_all := lw_g (lw_at lw_m1 99 rfl) rfl
theorem q173 : (Jvm.Cond.fieldLink "SawLine" (46 : Nat) "SawLine" "readLine" "[I") ∈ lw_all := lw_g (lw_at lw_m1 100 rfl) rfl
theorem q174 : (Jvm.Cond.fieldLink "SawLine" (49 : Nat) "SawLine" "readPlace" "[I") ∈ lw_all := lw_g (lw_at lw_m1 101 rfl) rfl
theorem q175 : (Jvm.Cond.fieldLink "SawLine" (52 : Nat) "SawLine" "kept" "[I") ∈ lw_all := lw_g (lw_at lw_m1 102 rfl) rfl
theorem q176 : (Jvm.Cond.fieldLink "SawLine" (335 : Nat) "SawLine" "fitting" "I") ∈ lw_all := lw_g (lw_at lw_m1 103 rfl) rfl
theorem q177 : (Jvm.Cond.fieldLink "SawLine" (338 : Nat) "SawLine" "firstFit" "I") ∈ lw_all := lw_g (lw_at lw_m1 104 rfl) rfl
theorem q178 : (Jvm.Cond.fieldLink "SawLine" (55 : Nat) "SawLine" "fitsOf" "[I") ∈ lw_all := lw_g (lw_at lw_m1 105 rfl) rfl
theorem q179 : (Jvm.Cond.fieldLink "SawLine" (365 : Nat) "SawLine" "mendCost" "I") ∈ lw_all := lw_g (lw_at lw_m1 106 rfl) rfl
theorem q180 : (Jvm.Cond.fieldLink "SawLine" (368 : Nat) "SawLine" "mendLong" "I") ∈ lw_all := lw_g (lw_at lw_m1 107 rfl) rfl
theorem q181 : (Jvm.Cond.fieldLink "SawLine" (58 : Nat) "SawLine" "mendRow" "[I") ∈ lw_all := lw_g (lw_at lw_m1 108 rfl) rfl
theorem q182 : (Jvm.Cond.fieldLink "SawLine" (61 : Nat) "SawLine" "logOrder" "[I") ∈ lw_all := lw_g (lw_at lw_m1 109 rfl) rfl
theorem q183 : (Jvm.Cond.fieldLink "SawLine" (64 : Nat) "SawLine" "logTried" "[I") ∈ lw_all := lw_g (lw_at lw_m1 110 rfl) rfl
theorem q184 : (Jvm.Cond.fieldLink "SawLine" (392 : Nat) "SawLine" "logCost" "I") ∈ lw_all := lw_g (lw_at lw_m1 111 rfl) rfl
theorem q185 : (Jvm.Cond.fieldLink "SawLine" (70 : Nat) "SawLine" "sheets" "[LSawLine$Place;") ∈ lw_all := lw_g (lw_at lw_m1 112 rfl) rfl
theorem q186 : (Jvm.Cond.lays "SawLine" "SawLine" "fault" "I") ∈ lw_all := lw_g (lw_at lw_m1 113 rfl) rfl
theorem q187 : (Jvm.Cond.soleField "SawLine" "fault") ∈ lw_all := lw_g (lw_at lw_m1 114 rfl) rfl
theorem q188 : (Jvm.Cond.lays "SawLine" "SawLine" "trace" "I") ∈ lw_all := lw_g (lw_at lw_m1 115 rfl) rfl
theorem q189 : (Jvm.Cond.soleField "SawLine" "trace") ∈ lw_all := lw_g (lw_at lw_m1 116 rfl) rfl
theorem q190 : (Jvm.Cond.laysFinal "SawLine" "SawLine" "teeth" "Ljava/util/List;") ∈ lw_all := lw_g (lw_at lw_m1 117 rfl) rfl
theorem q191 : (Jvm.Cond.soleField "SawLine" "teeth") ∈ lw_all := lw_g (lw_at lw_m1 118 rfl) rfl
theorem q192 : (Jvm.Cond.lays "SawLine" "SawLine" "at" "I") ∈ lw_all := lw_g (lw_at lw_m1 119 rfl) rfl
theorem q193 : (Jvm.Cond.soleField "SawLine" "at") ∈ lw_all := lw_g (lw_at lw_m1 120 rfl) rfl
theorem q194 : (Jvm.Cond.lays "SawLine" "SawLine" "readMany" "I") ∈ lw_all := lw_g (lw_at lw_m1 121 rfl) rfl
theorem q195 : (Jvm.Cond.soleField "SawLine" "readMany") ∈ lw_all := lw_g (lw_at lw_m1 122 rfl) rfl
theorem q196 : (Jvm.Cond.laysFinal "SawLine" "SawLine" "read" "[I") ∈ lw_all := lw_g (lw_at lw_m1 123 rfl) rfl
theorem q197 : (Jvm.Cond.soleField "SawLine" "read") ∈ lw_all := lw_g (lw_at lw_m1 124 rfl) rfl
theorem q198 : (Jvm.Cond.lays "SawLine" "SawLine" "lines" "I") ∈ lw_all := lw_g (lw_at lw_m1 125 rfl) rfl
theorem q199 : (Jvm.Cond.soleField "SawLine" "lines") ∈ lw_all := lw_g (lw_at lw_m1 126 rfl) rfl
theorem q200 : (Jvm.Cond.laysFinal "SawLine" "SawLine" "hard" "[I") ∈ lw_all := lw_g (lw_at lw_m1 127 rfl) rfl
theorem q201 : (Jvm.Cond.soleField "SawLine" "hard") ∈ lw_all := lw_g (lw_at lw_m1 128 rfl) rfl
theorem q202 : (Jvm.Cond.laysFinal "SawLine" "SawLine" "grain" "[I") ∈ lw_all := lw_g (lw_at lw_m1 129 rfl) rfl
theorem q203 : (Jvm.Cond.soleField "SawLine" "grain") ∈ lw_all := lw_g (lw_at lw_m1 130 rfl) rfl
theorem q204 : (Jvm.Cond.laysFinal "SawLine" "SawLine" "closes" "[I") ∈ lw_all := lw_g (lw_at lw_m1 131 rfl) rfl
theorem q205 : (Jvm.Cond.soleField "SawLine" "closes") ∈ lw_all := lw_g (lw_at lw_m1 132 rfl) rfl
theorem q206 : (Jvm.Cond.lays "SawLine" "SawLine" "lean" "I") ∈ lw_all := lw_g (lw_at lw_m1 133 rfl) rfl
theorem q207 : (Jvm.Cond.soleField "SawLine" "lean") ∈ lw_all := lw_g (lw_at lw_m1 134 rfl) rfl
theorem q208 : (Jvm.Cond.lays "SawLine" "SawLine" "steers" "I") ∈ lw_all := lw_g (lw_at lw_m1 135 rfl) rfl
theorem q209 : (Jvm.Cond.soleField "SawLine" "steers") ∈ lw_all := lw_g (lw_at lw_m1 136 rfl) rfl
theorem q210 : (Jvm.Cond.lays "SawLine" "SawLine" "late" "I") ∈ lw_all := lw_g (lw_at lw_m1 137 rfl) rfl
theorem q211 : (Jvm.Cond.soleField "SawLine" "late") ∈ lw_all := lw_g (lw_at lw_m1 138 rfl) rfl
theorem q212 : (Jvm.Cond.lays "SawLine" "SawLine" "fence" "I") ∈ lw_all := lw_g (lw_at lw_m1 139 rfl) rfl
theorem q213 : (Jvm.Cond.soleField "SawLine" "fence") ∈ lw_all := lw_g (lw_at lw_m1 140 rfl) rfl
theorem q214 : (Jvm.Cond.lays "SawLine" "SawLine" "strokes" "I") ∈ lw_all := lw_g (lw_at lw_m1 141 rfl) rfl
theorem q215 : (Jvm.Cond.soleField "SawLine" "strokes") ∈ lw_all := lw_g (lw_at lw_m1 142 rfl) rfl
theorem q216 : (Jvm.Cond.laysFinal "SawLine" "SawLine" "places" "[I") ∈ lw_all := lw_g (lw_at lw_m1 143 rfl) rfl
theorem q217 : (Jvm.Cond.soleField "SawLine" "places") ∈ lw_all := lw_g (lw_at lw_m1 144 rfl) rfl
theorem q218 : (Jvm.Cond.laysFinal "SawLine" "SawLine" "headings" "[I") ∈ lw_all := lw_g (lw_at lw_m1 145 rfl) rfl
theorem q219 : (Jvm.Cond.soleField "SawLine" "headings") ∈ lw_all := lw_g (lw_at lw_m1 146 rfl) rfl
theorem q220 : (Jvm.Cond.lays "SawLine" "SawLine" "mostOff" "I") ∈ lw_all := lw_g (lw_at lw_m1 147 rfl) rfl
theorem q221 : (Jvm.Cond.soleField "SawLine" "mostOff") ∈ lw_all := lw_g (lw_at lw_m1 148 rfl) rfl
theorem q222 : (Jvm.Cond.lays "SawLine" "SawLine" "straightestOff" "I") ∈ lw_all := lw_g (lw_at lw_m1 149 rfl) rfl
theorem q223 : (Jvm.Cond.soleField "SawLine" "straightestOff") ∈ lw_all := lw_g (lw_at lw_m1 150 rfl) rfl
theorem q224 : (Jvm.Cond.lays "SawLine" "SawLine" "flaws" "I") ∈ lw_all := lw_g (lw_at lw_m1 151 rfl) rfl
theorem q225 : (Jvm.Cond.soleField "SawLine" "flaws") ∈ lw_all := lw_g (lw_at lw_m1 152 rfl) rfl
theorem q226 : (Jvm.Cond.laysFinal "SawLine" "SawLine" "flawTooth" "[I") ∈ lw_all := lw_g (lw_at lw_m1 153 rfl) rfl
theorem q227 : (Jvm.Cond.soleField "SawLine" "flawTooth") ∈ lw_all := lw_g (lw_at lw_m1 154 rfl) rfl
theorem q228 : (Jvm.Cond.laysFinal "SawLine" "SawLine" "flawWhat" "[I") ∈ lw_all := lw_g (lw_at lw_m1 155 rfl) rfl
theorem q229 : (Jvm.Cond.soleField "SawLine" "flawWhat") ∈ lw_all := lw_g (lw_at lw_m1 156 rfl) rfl
theorem q230 : (Jvm.Cond.laysFinal "SawLine" "SawLine" "flawIs" "[I") ∈ lw_all := lw_g (lw_at lw_m1 157 rfl) rfl
theorem q231 : (Jvm.Cond.soleField "SawLine" "flawIs") ∈ lw_all := lw_g (lw_at lw_m1 158 rfl) rfl
theorem q232 : (Jvm.Cond.lays "SawLine" "SawLine" "readings" "I") ∈ lw_all := lw_g (lw_at lw_m1 159 rfl) rfl
theorem q233 : (Jvm.Cond.soleField "SawLine" "readings") ∈ lw_all := lw_g (lw_at lw_m1 160 rfl) rfl
theorem q234 : (Jvm.Cond.laysFinal "SawLine" "SawLine" "readLine" "[I") ∈ lw_all := lw_g (lw_at lw_m1 161 rfl) rfl
theorem q235 : (Jvm.Cond.soleField "SawLine" "readLine") ∈ lw_all := lw_g (lw_at lw_m1 162 rfl) rfl
theorem q236 : (Jvm.Cond.laysFinal "SawLine" "SawLine" "readPlace" "[I") ∈ lw_all := lw_g (lw_at lw_m1 163 rfl) rfl
theorem q237 : (Jvm.Cond.soleField "SawLine" "readPlace") ∈ lw_all := lw_g (lw_at lw_m1 164 rfl) rfl
theorem q238 : (Jvm.Cond.laysFinal "SawLine" "SawLine" "kept" "[I") ∈ lw_all := lw_g (lw_at lw_m1 165 rfl) rfl
theorem q239 : (Jvm.Cond.soleField "SawLine" "kept") ∈ lw_all := lw_g (lw_at lw_m1 166 rfl) rfl
theorem q240 : (Jvm.Cond.lays "SawLine" "SawLine" "fitting" "I") ∈ lw_all := lw_g (lw_at lw_m1 167 rfl) rfl
theorem q241 : (Jvm.Cond.soleField "SawLine" "fitting") ∈ lw_all := lw_g (lw_at lw_m1 168 rfl) rfl
theorem q242 : (Jvm.Cond.lays "SawLine" "SawLine" "firstFit" "I") ∈ lw_all := lw_g (lw_at lw_m1 169 rfl) rfl
theorem q243 : (Jvm.Cond.soleField "SawLine" "firstFit") ∈ lw_all := lw_g (lw_at lw_m1 170 rfl) rfl
theorem q244 : (Jvm.Cond.laysFinal "SawLine" "SawLine" "fitsOf" "[I") ∈ lw_all := lw_g (lw_at lw_m1 171 rfl) rfl
theorem q245 : (Jvm.Cond.soleField "SawLine" "fitsOf") ∈ lw_all := lw_g (lw_at lw_m1 172 rfl) rfl
theorem q246 : (Jvm.Cond.lays "SawLine" "SawLine" "mendCost" "I") ∈ lw_all := lw_g (lw_at lw_m1 173 rfl) rfl
theorem q247 : (Jvm.Cond.soleField "SawLine" "mendCost") ∈ lw_all := lw_g (lw_at lw_m1 174 rfl) rfl
theorem q248 : (Jvm.Cond.lays "SawLine" "SawLine" "mendLong" "I") ∈ lw_all := lw_g (lw_at lw_m1 175 rfl) rfl
theorem q249 : (Jvm.Cond.soleField "SawLine" "mendLong") ∈ lw_all := lw_g (lw_at lw_m1 176 rfl) rfl
theorem q250 : (Jvm.Cond.laysFinal "SawLine" "SawLine" "mendRow" "[I") ∈ lw_all := lw_g (lw_at lw_m1 177 rfl) rfl
theorem q251 : (Jvm.Cond.soleField "SawLine" "mendRow") ∈ lw_all := lw_g (lw_at lw_m1 178 rfl) rfl
theorem q252 : (Jvm.Cond.laysFinal "SawLine" "SawLine" "logOrder" "[I") ∈ lw_all := lw_g (lw_at lw_m1 179 rfl) rfl
theorem q253 : (Jvm.Cond.soleField "SawLine" "logOrder") ∈ lw_all := lw_g (lw_at lw_m1 180 rfl) rfl
theorem q254 : (Jvm.Cond.laysFinal "SawLine" "SawLine" "logTried" "[I") ∈ lw_all := lw_g (lw_at lw_m1 181 rfl) rfl
theorem q255 : (Jvm.Cond.soleField "SawLine" "logTried") ∈ lw_all := lw_g (lw_at lw_m1 182 rfl) rfl
theorem q256 : (Jvm.Cond.lays "SawLine" "SawLine" "logCost" "I") ∈ lw_all := lw_g (lw_at lw_m1 183 rfl) rfl
theorem q257 : (Jvm.Cond.soleField "SawLine" "logCost") ∈ lw_all := lw_g (lw_at lw_m1 184 rfl) rfl
theorem q258 : (Jvm.Cond.laysFinal "SawLine" "SawLine" "sheets" "[LSawLine$Place;") ∈ lw_all := lw_g (lw_at lw_m1 185 rfl) rfl
theorem q259 : (Jvm.Cond.soleField "SawLine" "sheets") ∈ lw_all := lw_g (lw_at lw_m1 186 rfl) rfl
theorem q260 : (Jvm.Cond.superclass "SawLine" "java/lang/Object") ∈ lw_all := lw_g (lw_at lw_m1 187 rfl) rfl
theorem q262 : (Jvm.Cond.instanceMethod ({ cls := "SawLine", name := "saw", desc := "(IIII)I" } : Jvm.MethodName)) ∈ lw_all := lw_g (lw_at lw_m1 189 rfl) rfl
theorem q263 : (Jvm.Cond.selects "SawLine" ({ cls := "SawLine", name := "saw", desc := "(IIII)I" } : Jvm.MethodName) ({ cls := "SawLine", name := "saw", desc := "(IIII)I" } : Jvm.MethodName)) ∈ lw_all := lw_g (lw_at lw_m1 190 rfl) rfl
theorem q264 : (Jvm.Cond.codeWith ({ cls := "SawLine", name := "saw", desc := "(IIII)I" } : Jvm.MethodName) prog_1_method_15_code (6 : Nat) (Option.some Jvm.ClassFile.FieldType.int) [((24 : Nat), (47 : Nat), (48 : Nat), (173 : Nat)), ((24 : Nat), (47 : Nat), (56 : Nat), (178 : Nat)), ((24 : Nat), (47 : Nat), (64 : Nat), (180 : Nat)), ((24 : Nat), (47 : Nat), (72 : Nat), (182 : Nat))]) ∈ lw_all := lw_g (lw_at lw_m1 191 rfl) rfl
theorem q265 : (Jvm.Cond.classLink "SawLine" (173 : Nat) "java/lang/ClassCastException") ∈ lw_all := lw_g (lw_at lw_m1 192 rfl) rfl
theorem q351 : (Jvm.Cond.classLink "SawLine" (178 : Nat) "java/lang/NullPointerException") ∈ lw_all := lw_g (lw_at lw_m2 38 rfl) rfl
theorem q376 : (Jvm.Cond.classLink "SawLine" (180 : Nat) "java/lang/NegativeArraySizeException") ∈ lw_all := lw_g (lw_at lw_m2 63 rfl) rfl
theorem q390 : (Jvm.Cond.classLink "SawLine" (182 : Nat) "java/lang/ArrayIndexOutOfBoundsException") ∈ lw_all := lw_g (lw_at lw_m2 77 rfl) rfl
theorem q409 : (Jvm.Cond.methodLink "SawLine" (148 : Nat) ({ cls := "SawLine", name := "isSheet", desc := "(I)Z" } : Jvm.MethodName)) ∈ lw_all := lw_g (lw_at lw_m2 96 rfl) rfl
theorem q410 : (Jvm.Cond.static ({ cls := "SawLine", name := "isSheet", desc := "(I)Z" } : Jvm.MethodName)) ∈ lw_all := lw_g (lw_at lw_m2 97 rfl) rfl
theorem q411 : (Jvm.Cond.code ({ cls := "SawLine", name := "isSheet", desc := "(I)Z" } : Jvm.MethodName) prog_1_method_72_code (1 : Nat) (Option.some Jvm.ClassFile.FieldType.boolean)) ∈ lw_all := lw_g (lw_at lw_m2 98 rfl) rfl
theorem q412 : (Jvm.Cond.constantLong "SawLine" (307 : Nat) (3 : Int64)) ∈ lw_all := lw_g (lw_at lw_m2 99 rfl) rfl
theorem q413 : (Jvm.Cond.methodLink "SawLine" (76 : Nat) ({ cls := "SawLine", name := "isIn", desc := "(JJJ)Z" } : Jvm.MethodName)) ∈ lw_all := lw_g (lw_at lw_m2 100 rfl) rfl
theorem q414 : (Jvm.Cond.static ({ cls := "SawLine", name := "isIn", desc := "(JJJ)Z" } : Jvm.MethodName)) ∈ lw_all := lw_g (lw_at lw_m2 101 rfl) rfl
theorem q415 : (Jvm.Cond.code ({ cls := "SawLine", name := "isIn", desc := "(JJJ)Z" } : Jvm.MethodName) prog_1_method_2_code (6 : Nat) (Option.some Jvm.ClassFile.FieldType.boolean)) ∈ lw_all := lw_g (lw_at lw_m2 102 rfl) rfl
theorem q416 : (Jvm.Cond.methodLink "SawLine" (152 : Nat) ({ cls := "SawLine", name := "isLane", desc := "(I)Z" } : Jvm.MethodName)) ∈ lw_all := lw_g (lw_at lw_m2 103 rfl) rfl
theorem q417 : (Jvm.Cond.static ({ cls := "SawLine", name := "isLane", desc := "(I)Z" } : Jvm.MethodName)) ∈ lw_all := lw_g (lw_at lw_m2 104 rfl) rfl
theorem q418 : (Jvm.Cond.code ({ cls := "SawLine", name := "isLane", desc := "(I)Z" } : Jvm.MethodName) prog_1_method_73_code (1 : Nat) (Option.some Jvm.ClassFile.FieldType.boolean)) ∈ lw_all := lw_g (lw_at lw_m2 105 rfl) rfl
theorem q419 : (Jvm.Cond.constantLong "SawLine" (210 : Nat) (2 : Int64)) ∈ lw_all := lw_g (lw_at lw_m2 106 rfl) rfl
theorem q420 : (Jvm.Cond.methodLink "SawLine" (161 : Nat) ({ cls := "SawLine", name := "asLane", desc := "(Ljava/lang/Object;I)Ljava/lang/Object;" } : Jvm.MethodName)) ∈ lw_all := lw_g (lw_at lw_m2 107 rfl) rfl
theorem q421 : (Jvm.Cond.static ({ cls := "SawLine", name := "asLane", desc := "(Ljava/lang/Object;I)Ljava/lang/Object;" } : Jvm.MethodName)) ∈ lw_all := lw_g (lw_at lw_m2 108 rfl) rfl
theorem q422 : (Jvm.Cond.code ({ cls := "SawLine", name := "asLane", desc := "(Ljava/lang/Object;I)Ljava/lang/Object;" } : Jvm.MethodName) prog_1_method_74_code (2 : Nat) (Option.some (Jvm.ClassFile.FieldType.object "java/lang/Object"))) ∈ lw_all := lw_g (lw_at lw_m2 109 rfl) rfl
theorem q423 : (Jvm.Cond.classLink "SawLine" (411 : Nat) "[B") ∈ lw_all := lw_g (lw_at lw_m2 110 rfl) rfl
theorem q424 : (Jvm.Cond.classLink "SawLine" (413 : Nat) "[S") ∈ lw_all := lw_g (lw_at lw_m2 111 rfl) rfl
theorem q425 : (Jvm.Cond.classLink "SawLine" (415 : Nat) "[I") ∈ lw_all := lw_g (lw_at lw_m2 112 rfl) rfl
theorem q426 : (Jvm.Cond.methodLink "SawLine" (165 : Nat) ({ cls := "SawLine", name := "rowOf", desc := "(Ljava/lang/Object;II)[I" } : Jvm.MethodName)) ∈ lw_all := lw_g (lw_at lw_m2 113 rfl) rfl
theorem q427 : (Jvm.Cond.static ({ cls := "SawLine", name := "rowOf", desc := "(Ljava/lang/Object;II)[I" } : Jvm.MethodName)) ∈ lw_all := lw_g (lw_at lw_m2 114 rfl) rfl
theorem q428 : (Jvm.Cond.code ({ cls := "SawLine", name := "rowOf", desc := "(Ljava/lang/Object;II)[I" } : Jvm.MethodName) prog_1_method_82_code (6 : Nat) (Option.some (Jvm.ClassFile.FieldType.array Jvm.ClassFile.FieldType.int))) ∈ lw_all := lw_g (lw_at lw_m2 115 rfl) rfl
theorem q429 : (Jvm.Cond.methodLink "SawLine" (428 : Nat) ({ cls := "SawLine", name := "lengthOf", desc := "(Ljava/lang/Object;)I" } : Jvm.MethodName)) ∈ lw_all := lw_g (lw_at lw_m2 116 rfl) rfl
theorem q430 : (Jvm.Cond.static ({ cls := "SawLine", name := "lengthOf", desc := "(Ljava/lang/Object;)I" } : Jvm.MethodName)) ∈ lw_all := lw_g (lw_at lw_m2 117 rfl) rfl
theorem q431 : (Jvm.Cond.code ({ cls := "SawLine", name := "lengthOf", desc := "(Ljava/lang/Object;)I" } : Jvm.MethodName) prog_1_method_76_code (2 : Nat) (Option.some Jvm.ClassFile.FieldType.int)) ∈ lw_all := lw_g (lw_at lw_m2 118 rfl) rfl
theorem q432 : (Jvm.Cond.methodLink "SawLine" (226 : Nat) ({ cls := "java/lang/Math", name := "min", desc := "(II)I" } : Jvm.MethodName)) ∈ lw_all := lw_g (lw_at lw_m2 119 rfl) rfl
theorem q435 : (Jvm.Cond.methodLink "SawLine" (432 : Nat) ({ cls := "java/lang/ArrayIndexOutOfBoundsException", name := "<init>", desc := "()V" } : Jvm.MethodName)) ∈ lw_all := lw_g (lw_at lw_m2 122 rfl) rfl
theorem q442 : (Jvm.Cond.methodLink "SawLine" (416 : Nat) ({ cls := "SawLine", name := "cellOf", desc := "(Ljava/lang/Object;I)I" } : Jvm.MethodName)) ∈ lw_all := lw_g (lw_at lw_m2 129 rfl) rfl
theorem q443 : (Jvm.Cond.static ({ cls := "SawLine", name := "cellOf", desc := "(Ljava/lang/Object;I)I" } : Jvm.MethodName)) ∈ lw_all := lw_g (lw_at lw_m2 130 rfl) rfl
theorem q444 : (Jvm.Cond.code ({ cls := "SawLine", name := "cellOf", desc := "(Ljava/lang/Object;I)I" } : Jvm.MethodName) prog_1_method_75_code (3 : Nat) (Option.some Jvm.ClassFile.FieldType.int)) ∈ lw_all := lw_g (lw_at lw_m2 131 rfl) rfl
theorem q445 : (Jvm.Cond.methodLink "SawLine" (169 : Nat) ({ cls := "SawLine", name := "comesSaw", desc := "([I)I" } : Jvm.MethodName)) ∈ lw_all := lw_g (lw_at lw_m2 132 rfl) rfl
theorem q446 : (Jvm.Cond.privateMethod ({ cls := "SawLine", name := "comesSaw", desc := "([I)I" } : Jvm.MethodName)) ∈ lw_tbl := lw_at lw_m2 133 rfl
theorem q447 : (Jvm.Cond.instanceMethod ({ cls := "SawLine", name := "comesSaw", desc := "([I)I" } : Jvm.MethodName)) ∈ lw_all := lw_g (lw_at lw_m2 134 rfl) rfl
theorem q448 : (Jvm.Cond.code ({ cls := "SawLine", name := "comesSaw", desc := "([I)I" } : Jvm.MethodName) prog_1_method_14_code (3 : Nat) (Option.some Jvm.ClassFile.FieldType.int)) ∈ lw_all := lw_g (lw_at lw_m2 135 rfl) rfl
theorem q449 : (Jvm.Cond.methodLink "SawLine" (126 : Nat) ({ cls := "SawLine", name := "readSaw", desc := "([I)Z" } : Jvm.MethodName)) ∈ lw_all := lw_g (lw_at lw_m2 136 rfl) rfl
theorem q450 : (Jvm.Cond.privateMethod ({ cls := "SawLine", name := "readSaw", desc := "([I)Z" } : Jvm.MethodName)) ∈ lw_tbl := lw_at lw_m2 137 rfl
theorem q451 : (Jvm.Cond.instanceMethod ({ cls := "SawLine", name := "readSaw", desc := "([I)Z" } : Jvm.MethodName)) ∈ lw_all := lw_g (lw_at lw_m2 138 rfl) rfl
theorem q452 : (Jvm.Cond.code ({ cls := "SawLine", name := "readSaw", desc := "([I)Z" } : Jvm.MethodName) prog_1_method_12_code (2 : Nat) (Option.some Jvm.ClassFile.FieldType.boolean)) ∈ lw_all := lw_g (lw_at lw_m2 139 rfl) rfl
theorem q453 : (Jvm.Cond.methodLink "SawLine" (109 : Nat) ({ cls := "SawLine", name := "readTooth", desc := "([I)Z" } : Jvm.MethodName)) ∈ lw_all := lw_g (lw_at lw_m2 140 rfl) rfl
theorem q454 : (Jvm.Cond.privateMethod ({ cls := "SawLine", name := "readTooth", desc := "([I)Z" } : Jvm.MethodName)) ∈ lw_tbl := lw_at lw_m2 141 rfl
theorem q455 : (Jvm.Cond.instanceMethod ({ cls := "SawLine", name := "readTooth", desc := "([I)Z" } : Jvm.MethodName)) ∈ lw_all := lw_g (lw_at lw_m2 142 rfl) rfl
theorem q456 : (Jvm.Cond.code ({ cls := "SawLine", name := "readTooth", desc := "([I)Z" } : Jvm.MethodName) prog_1_method_11_code (5 : Nat) (Option.some Jvm.ClassFile.FieldType.boolean)) ∈ lw_all := lw_g (lw_at lw_m2 143 rfl) rfl
theorem q457 : (Jvm.Cond.methodLink "SawLine" (94 : Nat) ({ cls := "SawLine", name := "sideOf", desc := "(I)I" } : Jvm.MethodName)) ∈ lw_all := lw_g (lw_at lw_m2 144 rfl) rfl
theorem q458 : (Jvm.Cond.static ({ cls := "SawLine", name := "sideOf", desc := "(I)I" } : Jvm.MethodName)) ∈ lw_all := lw_g (lw_at lw_m2 145 rfl) rfl
theorem q459 : (Jvm.Cond.code ({ cls := "SawLine", name := "sideOf", desc := "(I)I" } : Jvm.MethodName) prog_1_method_10_code (1 : Nat) (Option.some Jvm.ClassFile.FieldType.int)) ∈ lw_all := lw_g (lw_at lw_m2 146 rfl) rfl
theorem q460 : (Jvm.Cond.methodLink "SawLine" (101 : Nat) ({ cls := "SawLine", name := "digit", desc := "([III)I" } : Jvm.MethodName)) ∈ lw_all := lw_g (lw_at lw_m2 147 rfl) rfl
theorem q461 : (Jvm.Cond.privateMethod ({ cls := "SawLine", name := "digit", desc := "([III)I" } : Jvm.MethodName)) ∈ lw_tbl := lw_at lw_m2 148 rfl
theorem q462 : (Jvm.Cond.instanceMethod ({ cls := "SawLine", name := "digit", desc := "([III)I" } : Jvm.MethodName)) ∈ lw_all := lw_g (lw_at lw_m2 149 rfl) rfl
theorem q463 : (Jvm.Cond.code ({ cls := "SawLine", name := "digit", desc := "([III)I" } : Jvm.MethodName) prog_1_method_9_code (4 : Nat) (Option.some Jvm.ClassFile.FieldType.int)) ∈ lw_all := lw_g (lw_at lw_m2 150 rfl) rfl
theorem q464 : (Jvm.Cond.constantLong "SawLine" (92 : Nat) (48 : Int64)) ∈ lw_all := lw_g (lw_at lw_m2 151 rfl) rfl
theorem q465 : (Jvm.Cond.methodLink "SawLine" (105 : Nat) ({ cls := "SawLine", name := "isSign", desc := "([II)Z" } : Jvm.MethodName)) ∈ lw_all := lw_g (lw_at lw_m2 152 rfl) rfl
theorem q466 : (Jvm.Cond.privateMethod ({ cls := "SawLine", name := "isSign", desc := "([II)Z" } : Jvm.MethodName)) ∈ lw_tbl := lw_at lw_m2 153 rfl
theorem q467 : (Jvm.Cond.instanceMethod ({ cls := "SawLine", name := "isSign", desc := "([II)Z" } : Jvm.MethodName)) ∈ lw_all := lw_g (lw_at lw_m2 154 rfl) rfl
theorem q468 : (Jvm.Cond.code ({ cls := "SawLine", name := "isSign", desc := "([II)Z" } : Jvm.MethodName) prog_1_method_8_code (3 : Nat) (Option.some Jvm.ClassFile.FieldType.boolean)) ∈ lw_all := lw_g (lw_at lw_m2 155 rfl) rfl
theorem q469 : (Jvm.Cond.interfaceEntry "SawLine" (129 : Nat)) ∈ lw_tbl := lw_at lw_m2 156 rfl
theorem q470 : (Jvm.Cond.methodLink "SawLine" (129 : Nat) ({ cls := "java/util/List", name := "clear", desc := "()V" } : Jvm.MethodName)) ∈ lw_all := lw_g (lw_at lw_m2 157 rfl) rfl
theorem q479 : (Jvm.Cond.methodLink "SawLine" (134 : Nat) ({ cls := "SawLine", name := "toothOf", desc := "(I)LSawLine$Tooth;" } : Jvm.MethodName)) ∈ lw_all := lw_g (lw_at lw_m2 166 rfl) rfl
theorem q480 : (Jvm.Cond.privateMethod ({ cls := "SawLine", name := "toothOf", desc := "(I)LSawLine$Tooth;" } : Jvm.MethodName)) ∈ lw_tbl := lw_at lw_m2 167 rfl
theorem q481 : (Jvm.Cond.instanceMethod ({ cls := "SawLine", name := "toothOf", desc := "(I)LSawLine$Tooth;" } : Jvm.MethodName)) ∈ lw_all := lw_g (lw_at lw_m2 168 rfl) rfl
theorem q482 : (Jvm.Cond.code ({ cls := "SawLine", name := "toothOf", desc := "(I)LSawLine$Tooth;" } : Jvm.MethodName) prog_1_method_13_code (6 : Nat) (Option.some (Jvm.ClassFile.FieldType.object "SawLine$Tooth"))) ∈ lw_all := lw_g (lw_at lw_m2 169 rfl) rfl
theorem q483 : (Jvm.Cond.classLink "SawLine" (113 : Nat) "SawLine$Tooth") ∈ lw_all := lw_g (lw_at lw_m2 170 rfl) rfl
theorem q485 : (Jvm.Cond.methodLink "SawLine" (115 : Nat) ({ cls := "SawLine$Tooth", name := "<init>", desc := "(LSawLine;IIII)V" } : Jvm.MethodName)) ∈ lw_all := lw_g (lw_at lw_m2 172 rfl) rfl
theorem q491 : (Jvm.Cond.fieldLinkNest "SawLine" (201 : Nat) "SawLine$Tooth" "is" "[I" "SawLine") ∈ lw_tbl := lw_at lw_m2 178 rfl
theorem q500 : (Jvm.Cond.classLink "SawLine" (118 : Nat) "SawLine$Bent") ∈ lw_all := lw_g (lw_at lw_m2 187 rfl) rfl
theorem q502 : (Jvm.Cond.methodLink "SawLine" (120 : Nat) ({ cls := "SawLine$Bent", name := "<init>", desc := "(LSawLine;IIIII)V" } : Jvm.MethodName)) ∈ lw_all := lw_g (lw_at lw_m2 189 rfl) rfl
theorem q516 : (Jvm.Cond.classLink "SawLine" (123 : Nat) "SawLine$Hooked") ∈ lw_all := lw_g (lw_at lw_m2 203 rfl) rfl
theorem q518 : (Jvm.Cond.methodLink "SawLine" (125 : Nat) ({ cls := "SawLine$Hooked", name := "<init>", desc := "(LSawLine;IIIII)V" } : Jvm.MethodName)) ∈ lw_all := lw_g (lw_at lw_m2 205 rfl) rfl
theorem q531 : (Jvm.Cond.interfaceEntry "SawLine" (138 : Nat)) ∈ lw_tbl := lw_at lw_m2 218 rfl
theorem q532 : (Jvm.Cond.methodLink "SawLine" (138 : Nat) ({ cls := "java/util/List", name := "add", desc := "(Ljava/lang/Object;)Z" } : Jvm.MethodName)) ∈ lw_all := lw_g (lw_at lw_m2 219 rfl) rfl
theorem q568 : (Jvm.Cond.selects "SawLine" ({ cls := "java/lang/Object", name := "getClass", desc := "()Ljava/lang/Class;" } : Jvm.MethodName) ({ cls := "java/lang/Object", name := "getClass", desc := "()Ljava/lang/Class;" } : Jvm.MethodName)) ∈ lw_all := lw_g (lw_at lw_m3 15 rfl) rfl
theorem q593 : (Jvm.Cond.methodLink "SawLine" (175 : Nat) ({ cls := "SawLine", name := "faulty", desc := "(I)I" } : Jvm.MethodName)) ∈ lw_all := lw_g (lw_at lw_m3 40 rfl) rfl
theorem q594 : (Jvm.Cond.privateMethod ({ cls := "SawLine", name := "faulty", desc := "(I)I" } : Jvm.MethodName)) ∈ lw_tbl := lw_at lw_m3 41 rfl
theorem q595 : (Jvm.Cond.instanceMethod ({ cls := "SawLine", name := "faulty", desc := "(I)I" } : Jvm.MethodName)) ∈ lw_all := lw_g (lw_at lw_m3 42 rfl) rfl
theorem q596 : (Jvm.Cond.code ({ cls := "SawLine", name := "faulty", desc := "(I)I" } : Jvm.MethodName) prog_1_method_5_code (2 : Nat) (Option.some Jvm.ClassFile.FieldType.int)) ∈ lw_all := lw_g (lw_at lw_m3 43 rfl) rfl
theorem q598 : (Jvm.Cond.instanceMethod ({ cls := "SawLine", name := "ofTooth", desc := "(II)I" } : Jvm.MethodName)) ∈ lw_all := lw_g (lw_at lw_m3 45 rfl) rfl
theorem q599 : (Jvm.Cond.selects "SawLine" ({ cls := "SawLine", name := "ofTooth", desc := "(II)I" } : Jvm.MethodName) ({ cls := "SawLine", name := "ofTooth", desc := "(II)I" } : Jvm.MethodName)) ∈ lw_all := lw_g (lw_at lw_m3 46 rfl) rfl
theorem q600 : (Jvm.Cond.code ({ cls := "SawLine", name := "ofTooth", desc := "(II)I" } : Jvm.MethodName) prog_1_method_17_code (4 : Nat) (Option.some Jvm.ClassFile.FieldType.int)) ∈ lw_all := lw_g (lw_at lw_m3 47 rfl) rfl
theorem q601 : (Jvm.Cond.methodLink "SawLine" (188 : Nat) ({ cls := "SawLine", name := "isTooth", desc := "(I)Z" } : Jvm.MethodName)) ∈ lw_all := lw_g (lw_at lw_m3 48 rfl) rfl
theorem q602 : (Jvm.Cond.privateMethod ({ cls := "SawLine", name := "isTooth", desc := "(I)Z" } : Jvm.MethodName)) ∈ lw_tbl := lw_at lw_m3 49 rfl
theorem q603 : (Jvm.Cond.instanceMethod ({ cls := "SawLine", name := "isTooth", desc := "(I)Z" } : Jvm.MethodName)) ∈ lw_all := lw_g (lw_at lw_m3 50 rfl) rfl
theorem q604 : (Jvm.Cond.code ({ cls := "SawLine", name := "isTooth", desc := "(I)Z" } : Jvm.MethodName) prog_1_method_16_code (2 : Nat) (Option.some Jvm.ClassFile.FieldType.boolean)) ∈ lw_all := lw_g (lw_at lw_m3 51 rfl) rfl
theorem q605 : (Jvm.Cond.interfaceEntry "SawLine" (184 : Nat)) ∈ lw_tbl := lw_at lw_m3 52 rfl
theorem q606 : (Jvm.Cond.methodLink "SawLine" (184 : Nat) ({ cls := "java/util/List", name := "size", desc := "()I" } : Jvm.MethodName)) ∈ lw_all := lw_g (lw_at lw_m3 53 rfl) rfl
theorem q614 : (Jvm.Cond.interfaceEntry "SawLine" (191 : Nat)) ∈ lw_tbl := lw_at lw_m3 61 rfl
theorem q615 : (Jvm.Cond.methodLink "SawLine" (191 : Nat) ({ cls := "java/util/List", name := "get", desc := "(I)Ljava/lang/Object;" } : Jvm.MethodName)) ∈ lw_all := lw_g (lw_at lw_m3 62 rfl) rfl
theorem q633 : (Jvm.Cond.methodLink "SawLine" (195 : Nat) ({ cls := "SawLine$Tooth", name := "kind", desc := "()I" } : Jvm.MethodName)) ∈ lw_all := lw_g (lw_at lw_m3 80 rfl) rfl
theorem q644 : (Jvm.Cond.methodLink "SawLine" (198 : Nat) ({ cls := "SawLine$Tooth", name := "side", desc := "()I" } : Jvm.MethodName)) ∈ lw_all := lw_g (lw_at lw_m3 91 rfl) rfl
theorem q653 : (Jvm.Cond.methodLink "SawLine" (204 : Nat) ({ cls := "SawLine$Tooth", name := "takes", desc := "()I" } : Jvm.MethodName)) ∈ lw_all := lw_g (lw_at lw_m3 100 rfl) rfl
theorem q665 : (Jvm.Cond.methodLink "SawLine" (207 : Nat) ({ cls := "SawLine$Tooth", name := "pushes", desc := "()I" } : Jvm.MethodName)) ∈ lw_all := lw_g (lw_at lw_m3 112 rfl) rfl
theorem q686 : (Jvm.Cond.instanceMethod ({ cls := "SawLine", name := "set", desc := "(III)I" } : Jvm.MethodName)) ∈ lw_all := lw_g (lw_at lw_m3 133 rfl) rfl
theorem q687 : (Jvm.Cond.selects "SawLine" ({ cls := "SawLine", name := "set", desc := "(III)I" } : Jvm.MethodName) ({ cls := "SawLine", name := "set", desc := "(III)I" } : Jvm.MethodName)) ∈ lw_all := lw_g (lw_at lw_m3 134 rfl) rfl
theorem q688 : (Jvm.Cond.code ({ cls := "SawLine", name := "set", desc := "(III)I" } : Jvm.MethodName) prog_1_method_19_code (5 : Nat) (Option.some Jvm.ClassFile.FieldType.int)) ∈ lw_all := lw_g (lw_at lw_m3 135 rfl) rfl
theorem q689 : (Jvm.Cond.methodLink "SawLine" (215 : Nat) ({ cls := "SawLine", name := "isPart", desc := "(II)Z" } : Jvm.MethodName)) ∈ lw_all := lw_g (lw_at lw_m3 136 rfl) rfl
theorem q690 : (Jvm.Cond.static ({ cls := "SawLine", name := "isPart", desc := "(II)Z" } : Jvm.MethodName)) ∈ lw_all := lw_g (lw_at lw_m3 137 rfl) rfl
theorem q691 : (Jvm.Cond.code ({ cls := "SawLine", name := "isPart", desc := "(II)Z" } : Jvm.MethodName) prog_1_method_18_code (2 : Nat) (Option.some Jvm.ClassFile.FieldType.boolean)) ∈ lw_all := lw_g (lw_at lw_m3 138 rfl) rfl
theorem q692 : (Jvm.Cond.methodLink "SawLine" (212 : Nat) ({ cls := "SawLine", name := "isNine", desc := "(I)Z" } : Jvm.MethodName)) ∈ lw_all := lw_g (lw_at lw_m3 139 rfl) rfl
theorem q693 : (Jvm.Cond.static ({ cls := "SawLine", name := "isNine", desc := "(I)Z" } : Jvm.MethodName)) ∈ lw_all := lw_g (lw_at lw_m3 140 rfl) rfl
theorem q694 : (Jvm.Cond.code ({ cls := "SawLine", name := "isNine", desc := "(I)Z" } : Jvm.MethodName) prog_1_method_3_code (1 : Nat) (Option.some Jvm.ClassFile.FieldType.boolean)) ∈ lw_all := lw_g (lw_at lw_m3 141 rfl) rfl
theorem q695 : (Jvm.Cond.constantLong "SawLine" (74 : Nat) (9 : Int64)) ∈ lw_all := lw_g (lw_at lw_m3 142 rfl) rfl
theorem q697 : (Jvm.Cond.instanceMethod ({ cls := "SawLine", name := "ofSaw", desc := "(I)I" } : Jvm.MethodName)) ∈ lw_all := lw_g (lw_at lw_m3 144 rfl) rfl
theorem q698 : (Jvm.Cond.selects "SawLine" ({ cls := "SawLine", name := "ofSaw", desc := "(I)I" } : Jvm.MethodName) ({ cls := "SawLine", name := "ofSaw", desc := "(I)I" } : Jvm.MethodName)) ∈ lw_all := lw_g (lw_at lw_m3 145 rfl) rfl
theorem q699 : (Jvm.Cond.code ({ cls := "SawLine", name := "ofSaw", desc := "(I)I" } : Jvm.MethodName) prog_1_method_22_code (2 : Nat) (Option.some Jvm.ClassFile.FieldType.int)) ∈ lw_all := lw_g (lw_at lw_m3 146 rfl) rfl
theorem q700 : (Jvm.Cond.interfaceEntry "SawLine" (235 : Nat)) ∈ lw_tbl := lw_at lw_m3 147 rfl
theorem q701 : (Jvm.Cond.methodLink "SawLine" (235 : Nat) ({ cls := "java/util/List", name := "isEmpty", desc := "()Z" } : Jvm.MethodName)) ∈ lw_all := lw_g (lw_at lw_m3 148 rfl) rfl
theorem q709 : (Jvm.Cond.methodLink "SawLine" (238 : Nat) ({ cls := "SawLine", name := "kerf", desc := "()I" } : Jvm.MethodName)) ∈ lw_all := lw_g (lw_at lw_m3 156 rfl) rfl
theorem q710 : (Jvm.Cond.privateMethod ({ cls := "SawLine", name := "kerf", desc := "()I" } : Jvm.MethodName)) ∈ lw_tbl := lw_at lw_m3 157 rfl
theorem q711 : (Jvm.Cond.instanceMethod ({ cls := "SawLine", name := "kerf", desc := "()I" } : Jvm.MethodName)) ∈ lw_all := lw_g (lw_at lw_m3 158 rfl) rfl
theorem q712 : (Jvm.Cond.code ({ cls := "SawLine", name := "kerf", desc := "()I" } : Jvm.MethodName) prog_1_method_21_code (4 : Nat) (Option.some Jvm.ClassFile.FieldType.int)) ∈ lw_all := lw_g (lw_at lw_m3 159 rfl) rfl
theorem q713 : (Jvm.Cond.methodLink "SawLine" (219 : Nat) ({ cls := "SawLine$Tooth", name := "isCutting", desc := "()Z" } : Jvm.MethodName)) ∈ lw_all := lw_g (lw_at lw_m3 160 rfl) rfl
theorem q721 : (Jvm.Cond.methodLink "SawLine" (223 : Nat) ({ cls := "SawLine$Tooth", name := "mark", desc := "()I" } : Jvm.MethodName)) ∈ lw_all := lw_g (lw_at lw_m3 168 rfl) rfl
theorem q722 : (Jvm.Cond.methodLink "SawLine" (232 : Nat) ({ cls := "java/lang/Math", name := "max", desc := "(II)I" } : Jvm.MethodName)) ∈ lw_all := lw_g (lw_at lw_m3 169 rfl) rfl
theorem q723 : (Jvm.Cond.methodLink "SawLine" (241 : Nat) ({ cls := "SawLine", name := "sumOf", desc := "(Z)I" } : Jvm.MethodName)) ∈ lw_all := lw_g (lw_at lw_m3 170 rfl) rfl
theorem q724 : (Jvm.Cond.privateMethod ({ cls := "SawLine", name := "sumOf", desc := "(Z)I" } : Jvm.MethodName)) ∈ lw_tbl := lw_at lw_m3 171 rfl
theorem q725 : (Jvm.Cond.instanceMethod ({ cls := "SawLine", name := "sumOf", desc := "(Z)I" } : Jvm.MethodName)) ∈ lw_all := lw_g (lw_at lw_m3 172 rfl) rfl
theorem q726 : (Jvm.Cond.code ({ cls := "SawLine", name := "sumOf", desc := "(Z)I" } : Jvm.MethodName) prog_1_method_20_code (4 : Nat) (Option.some Jvm.ClassFile.FieldType.int)) ∈ lw_all := lw_g (lw_at lw_m3 173 rfl) rfl
theorem q728 : (Jvm.Cond.instanceMethod ({ cls := "SawLine", name := "board", desc := "(IIII)I" } : Jvm.MethodName)) ∈ lw_all := lw_g (lw_at lw_m3 175 rfl) rfl
theorem q729 : (Jvm.Cond.selects "SawLine" ({ cls := "SawLine", name := "board", desc := "(IIII)I" } : Jvm.MethodName) ({ cls := "SawLine", name := "board", desc := "(IIII)I" } : Jvm.MethodName)) ∈ lw_all := lw_g (lw_at lw_m3 176 rfl) rfl
theorem q730 : (Jvm.Cond.codeWith ({ cls := "SawLine", name := "board", desc := "(IIII)I" } : Jvm.MethodName) prog_1_method_25_code (6 : Nat) (Option.some Jvm.ClassFile.FieldType.int) [((24 : Nat), (47 : Nat), (48 : Nat), (173 : Nat)), ((24 : Nat), (47 : Nat), (56 : Nat), (178 : Nat)), ((24 : Nat), (47 : Nat), (64 : Nat), (180 : Nat)), ((24 : Nat), (47 : Nat), (72 : Nat), (182 : Nat))]) ∈ lw_all := lw_g (lw_at lw_m3 177 rfl) rfl
theorem q731 : (Jvm.Cond.methodLink "SawLine" (251 : Nat) ({ cls := "SawLine", name := "comesBoard", desc := "([I)I" } : Jvm.MethodName)) ∈ lw_all := lw_g (lw_at lw_m3 178 rfl) rfl
theorem q732 : (Jvm.Cond.privateMethod ({ cls := "SawLine", name := "comesBoard", desc := "([I)I" } : Jvm.MethodName)) ∈ lw_tbl := lw_at lw_m3 179 rfl
theorem q733 : (Jvm.Cond.instanceMethod ({ cls := "SawLine", name := "comesBoard", desc := "([I)I" } : Jvm.MethodName)) ∈ lw_all := lw_g (lw_at lw_m3 180 rfl) rfl
theorem q734 : (Jvm.Cond.code ({ cls := "SawLine", name := "comesBoard", desc := "([I)I" } : Jvm.MethodName) prog_1_method_24_code (3 : Nat) (Option.some Jvm.ClassFile.FieldType.int)) ∈ lw_all := lw_g (lw_at lw_m3 181 rfl) rfl
theorem q735 : (Jvm.Cond.methodLink "SawLine" (245 : Nat) ({ cls := "SawLine", name := "readBoard", desc := "([I)Z" } : Jvm.MethodName)) ∈ lw_all := lw_g (lw_at lw_m3 182 rfl) rfl
theorem q736 : (Jvm.Cond.privateMethod ({ cls := "SawLine", name := "readBoard", desc := "([I)Z" } : Jvm.MethodName)) ∈ lw_tbl := lw_at lw_m3 183 rfl
theorem q737 : (Jvm.Cond.instanceMethod ({ cls := "SawLine", name := "readBoard", desc := "([I)Z" } : Jvm.MethodName)) ∈ lw_all := lw_g (lw_at lw_m3 184 rfl) rfl
theorem q738 : (Jvm.Cond.code ({ cls := "SawLine", name := "readBoard", desc := "([I)Z" } : Jvm.MethodName) prog_1_method_23_code (5 : Nat) (Option.some Jvm.ClassFile.FieldType.boolean)) ∈ lw_all := lw_g (lw_at lw_m3 185 rfl) rfl
theorem q740 : (Jvm.Cond.instanceMethod ({ cls := "SawLine", name := "ofLine", desc := "(II)I" } : Jvm.MethodName)) ∈ lw_all := lw_g (lw_at lw_m3 187 rfl) rfl
theorem q741 : (Jvm.Cond.selects "SawLine" ({ cls := "SawLine", name := "ofLine", desc := "(II)I" } : Jvm.MethodName) ({ cls := "SawLine", name := "ofLine", desc := "(II)I" } : Jvm.MethodName)) ∈ lw_all := lw_g (lw_at lw_m3 188 rfl) rfl
theorem q742 : (Jvm.Cond.code ({ cls := "SawLine", name := "ofLine", desc := "(II)I" } : Jvm.MethodName) prog_1_method_27_code (3 : Nat) (Option.some Jvm.ClassFile.FieldType.int)) ∈ lw_all := lw_g (lw_at lw_m3 189 rfl) rfl
theorem q743 : (Jvm.Cond.methodLink "SawLine" (254 : Nat) ({ cls := "SawLine", name := "isLine", desc := "(I)Z" } : Jvm.MethodName)) ∈ lw_all := lw_g (lw_at lw_m3 190 rfl) rfl
theorem q744 : (Jvm.Cond.privateMethod ({ cls := "SawLine", name := "isLine", desc := "(I)Z" } : Jvm.MethodName)) ∈ lw_tbl := lw_at lw_m3 191 rfl
theorem q745 : (Jvm.Cond.instanceMethod ({ cls := "SawLine", name := "isLine", desc := "(I)Z" } : Jvm.MethodName)) ∈ lw_all := lw_g (lw_at lw_m3 192 rfl) rfl
theorem q746 : (Jvm.Cond.code ({ cls := "SawLine", name := "isLine", desc := "(I)Z" } : Jvm.MethodName) prog_1_method_26_code (2 : Nat) (Option.some Jvm.ClassFile.FieldType.boolean)) ∈ lw_all := lw_g (lw_at lw_m3 193 rfl) rfl
theorem q748 : (Jvm.Cond.instanceMethod ({ cls := "SawLine", name := "hand", desc := "(III)I" } : Jvm.MethodName)) ∈ lw_all := lw_g (lw_at lw_m3 195 rfl) rfl
theorem q749 : (Jvm.Cond.selects "SawLine" ({ cls := "SawLine", name := "hand", desc := "(III)I" } : Jvm.MethodName) ({ cls := "SawLine", name := "hand", desc := "(III)I" } : Jvm.MethodName)) ∈ lw_all := lw_g (lw_at lw_m3 196 rfl) rfl
theorem q750 : (Jvm.Cond.code ({ cls := "SawLine", name := "hand", desc := "(III)I" } : Jvm.MethodName) prog_1_method_28_code (4 : Nat) (Option.some Jvm.ClassFile.FieldType.int)) ∈ lw_all := lw_g (lw_at lw_m3 197 rfl) rfl
theorem q751 : (Jvm.Cond.constantLong "SawLine" (257 : Nat) (-9 : Int64)) ∈ lw_all := lw_g (lw_at lw_m3 198 rfl) rfl
theorem q752 : (Jvm.Cond.constantLong "SawLine" (259 : Nat) (5 : Int64)) ∈ lw_all := lw_g (lw_at lw_m3 199 rfl) rfl
theorem q754 : (Jvm.Cond.instanceMethod ({ cls := "SawLine", name := "ofHand", desc := "(I)I" } : Jvm.MethodName)) ∈ lw_all := lw_g (lw_at lw_m3 201 rfl) rfl
theorem q755 : (Jvm.Cond.selects "SawLine" ({ cls := "SawLine", name := "ofHand", desc := "(I)I" } : Jvm.MethodName) ({ cls := "SawLine", name := "ofHand", desc := "(I)I" } : Jvm.MethodName)) ∈ lw_all := lw_g (lw_at lw_m3 202 rfl) rfl
theorem q756 : (Jvm.Cond.code ({ cls := "SawLine", name := "ofHand", desc := "(I)I" } : Jvm.MethodName) prog_1_method_29_code (2 : Nat) (Option.some Jvm.ClassFile.FieldType.int)) ∈ lw_all := lw_g (lw_at lw_m3 203 rfl) rfl
theorem q758 : (Jvm.Cond.instanceMethod ({ cls := "SawLine", name := "fence", desc := "(I)I" } : Jvm.MethodName)) ∈ lw_all := lw_g (lw_at lw_m3 205 rfl) rfl
theorem q759 : (Jvm.Cond.selects "SawLine" ({ cls := "SawLine", name := "fence", desc := "(I)I" } : Jvm.MethodName) ({ cls := "SawLine", name := "fence", desc := "(I)I" } : Jvm.MethodName)) ∈ lw_all := lw_g (lw_at lw_m3 206 rfl) rfl
theorem q760 : (Jvm.Cond.code ({ cls := "SawLine", name := "fence", desc := "(I)I" } : Jvm.MethodName) prog_1_method_30_code (3 : Nat) (Option.some Jvm.ClassFile.FieldType.int)) ∈ lw_all := lw_g (lw_at lw_m3 207 rfl) rfl
theorem q761 : (Jvm.Cond.constantLong "SawLine" (270 : Nat) (99 : Int64)) ∈ lw_all := lw_g (lw_at lw_m3 208 rfl) rfl
theorem q763 : (Jvm.Cond.instanceMethod ({ cls := "SawLine", name := "where", desc := "(I)J" } : Jvm.MethodName)) ∈ lw_all := lw_g (lw_at lw_m3 210 rfl) rfl
theorem q764 : (Jvm.Cond.selects "SawLine" ({ cls := "SawLine", name := "where", desc := "(I)J" } : Jvm.MethodName) ({ cls := "SawLine", name := "where", desc := "(I)J" } : Jvm.MethodName)) ∈ lw_all := lw_g (lw_at lw_m3 211 rfl) rfl
theorem q765 : (Jvm.Cond.code ({ cls := "SawLine", name := "where", desc := "(I)J" } : Jvm.MethodName) prog_1_method_35_code (2 : Nat) (Option.some Jvm.ClassFile.FieldType.long)) ∈ lw_all := lw_g (lw_at lw_m3 212 rfl) rfl
theorem q766 : (Jvm.Cond.methodLink "SawLine" (294 : Nat) ({ cls := "SawLine", name := "isCut", desc := "(I)Z" } : Jvm.MethodName)) ∈ lw_all := lw_g (lw_at lw_m3 213 rfl) rfl
theorem q767 : (Jvm.Cond.privateMethod ({ cls := "SawLine", name := "isCut", desc := "(I)Z" } : Jvm.MethodName)) ∈ lw_tbl := lw_at lw_m3 214 rfl
theorem q768 : (Jvm.Cond.instanceMethod ({ cls := "SawLine", name := "isCut", desc := "(I)Z" } : Jvm.MethodName)) ∈ lw_all := lw_g (lw_at lw_m3 215 rfl) rfl
theorem q769 : (Jvm.Cond.code ({ cls := "SawLine", name := "isCut", desc := "(I)Z" } : Jvm.MethodName) prog_1_method_34_code (2 : Nat) (Option.some Jvm.ClassFile.FieldType.boolean)) ∈ lw_all := lw_g (lw_at lw_m3 216 rfl) rfl
theorem q770 : (Jvm.Cond.methodLink "SawLine" (288 : Nat) ({ cls := "SawLine", name := "isAll", desc := "()Z" } : Jvm.MethodName)) ∈ lw_all := lw_g (lw_at lw_m3 217 rfl) rfl
theorem q771 : (Jvm.Cond.privateMethod ({ cls := "SawLine", name := "isAll", desc := "()Z" } : Jvm.MethodName)) ∈ lw_tbl := lw_at lw_m3 218 rfl
theorem q772 : (Jvm.Cond.instanceMethod ({ cls := "SawLine", name := "isAll", desc := "()Z" } : Jvm.MethodName)) ∈ lw_all := lw_g (lw_at lw_m3 219 rfl) rfl
theorem q773 : (Jvm.Cond.code ({ cls := "SawLine", name := "isAll", desc := "()Z" } : Jvm.MethodName) prog_1_method_31_code (1 : Nat) (Option.some Jvm.ClassFile.FieldType.boolean)) ∈ lw_all := lw_g (lw_at lw_m3 220 rfl) rfl
theorem q774 : (Jvm.Cond.methodLink "SawLine" (291 : Nat) ({ cls := "SawLine", name := "cut", desc := "()V" } : Jvm.MethodName)) ∈ lw_all := lw_g (lw_at lw_m3 221 rfl) rfl
theorem q775 : (Jvm.Cond.privateMethod ({ cls := "SawLine", name := "cut", desc := "()V" } : Jvm.MethodName)) ∈ lw_tbl := lw_at lw_m3 222 rfl
theorem q776 : (Jvm.Cond.instanceMethod ({ cls := "SawLine", name := "cut", desc := "()V" } : Jvm.MethodName)) ∈ lw_all := lw_g (lw_at lw_m3 223 rfl) rfl
theorem q777 : (Jvm.Cond.code ({ cls := "SawLine", name := "cut", desc := "()V" } : Jvm.MethodName) prog_1_method_33_code (3 : Nat) (Option.none : Option Jvm.ClassFile.FieldType)) ∈ lw_all := lw_g (lw_at lw_m3 224 rfl) rfl
theorem q778 : (Jvm.Cond.methodLink "SawLine" (284 : Nat) ({ cls := "SawLine", name := "goLine", desc := "(II)V" } : Jvm.MethodName)) ∈ lw_all := lw_g (lw_at lw_m3 225 rfl) rfl
theorem q779 : (Jvm.Cond.privateMethod ({ cls := "SawLine", name := "goLine", desc := "(II)V" } : Jvm.MethodName)) ∈ lw_tbl := lw_at lw_m3 226 rfl
theorem q780 : (Jvm.Cond.instanceMethod ({ cls := "SawLine", name := "goLine", desc := "(II)V" } : Jvm.MethodName)) ∈ lw_all := lw_g (lw_at lw_m3 227 rfl) rfl
theorem q781 : (Jvm.Cond.code ({ cls := "SawLine", name := "goLine", desc := "(II)V" } : Jvm.MethodName) prog_1_method_32_code (9 : Nat) (Option.none : Option Jvm.ClassFile.FieldType)) ∈ lw_all := lw_g (lw_at lw_m3 228 rfl) rfl
theorem q782 : (Jvm.Cond.methodLink "SawLine" (275 : Nat) ({ cls := "java/lang/Math", name := "abs", desc := "(I)I" } : Jvm.MethodName)) ∈ lw_all := lw_g (lw_at lw_m3 229 rfl) rfl
theorem q785 : (Jvm.Cond.constantLong "SawLine" (84 : Nat) (-9223372036854775808 : Int64)) ∈ lw_all := lw_g (lw_at lw_m3 232 rfl) rfl
theorem q787 : (Jvm.Cond.instanceMethod ({ cls := "SawLine", name := "heading", desc := "(I)J" } : Jvm.MethodName)) ∈ lw_all := lw_g (lw_at lw_m3 234 rfl) rfl
theorem q788 : (Jvm.Cond.selects "SawLine" ({ cls := "SawLine", name := "heading", desc := "(I)J" } : Jvm.MethodName) ({ cls := "SawLine", name := "heading", desc := "(I)J" } : Jvm.MethodName)) ∈ lw_all := lw_g (lw_at lw_m3 235 rfl) rfl
theorem q789 : (Jvm.Cond.code ({ cls := "SawLine", name := "heading", desc := "(I)J" } : Jvm.MethodName) prog_1_method_36_code (2 : Nat) (Option.some Jvm.ClassFile.FieldType.long)) ∈ lw_all := lw_g (lw_at lw_m3 236 rfl) rfl
theorem q791 : (Jvm.Cond.instanceMethod ({ cls := "SawLine", name := "off", desc := "()I" } : Jvm.MethodName)) ∈ lw_all := lw_g (lw_at lw_m3 238 rfl) rfl
theorem q792 : (Jvm.Cond.selects "SawLine" ({ cls := "SawLine", name := "off", desc := "()I" } : Jvm.MethodName) ({ cls := "SawLine", name := "off", desc := "()I" } : Jvm.MethodName)) ∈ lw_all := lw_g (lw_at lw_m3 239 rfl) rfl
theorem q793 : (Jvm.Cond.code ({ cls := "SawLine", name := "off", desc := "()I" } : Jvm.MethodName) prog_1_method_37_code (1 : Nat) (Option.some Jvm.ClassFile.FieldType.int)) ∈ lw_all := lw_g (lw_at lw_m4 0 rfl) rfl
theorem q795 : (Jvm.Cond.instanceMethod ({ cls := "SawLine", name := "pinched", desc := "()I" } : Jvm.MethodName)) ∈ lw_all := lw_g (lw_at lw_m4 2 rfl) rfl
theorem q796 : (Jvm.Cond.selects "SawLine" ({ cls := "SawLine", name := "pinched", desc := "()I" } : Jvm.MethodName) ({ cls := "SawLine", name := "pinched", desc := "()I" } : Jvm.MethodName)) ∈ lw_all := lw_g (lw_at lw_m4 3 rfl) rfl
theorem q797 : (Jvm.Cond.code ({ cls := "SawLine", name := "pinched", desc := "()I" } : Jvm.MethodName) prog_1_method_38_code (1 : Nat) (Option.some Jvm.ClassFile.FieldType.int)) ∈ lw_all := lw_g (lw_at lw_m4 4 rfl) rfl
theorem q799 : (Jvm.Cond.instanceMethod ({ cls := "SawLine", name := "marks", desc := "(I)I" } : Jvm.MethodName)) ∈ lw_all := lw_g (lw_at lw_m4 6 rfl) rfl
theorem q800 : (Jvm.Cond.selects "SawLine" ({ cls := "SawLine", name := "marks", desc := "(I)I" } : Jvm.MethodName) ({ cls := "SawLine", name := "marks", desc := "(I)I" } : Jvm.MethodName)) ∈ lw_all := lw_g (lw_at lw_m4 7 rfl) rfl
theorem q801 : (Jvm.Cond.code ({ cls := "SawLine", name := "marks", desc := "(I)I" } : Jvm.MethodName) prog_1_method_40_code (4 : Nat) (Option.some Jvm.ClassFile.FieldType.int)) ∈ lw_all := lw_g (lw_at lw_m4 8 rfl) rfl
theorem q802 : (Jvm.Cond.methodLink "SawLine" (297 : Nat) ({ cls := "SawLine", name := "isFirst", desc := "(I)Z" } : Jvm.MethodName)) ∈ lw_all := lw_g (lw_at lw_m4 9 rfl) rfl
theorem q803 : (Jvm.Cond.privateMethod ({ cls := "SawLine", name := "isFirst", desc := "(I)Z" } : Jvm.MethodName)) ∈ lw_tbl := lw_at lw_m4 10 rfl
theorem q804 : (Jvm.Cond.instanceMethod ({ cls := "SawLine", name := "isFirst", desc := "(I)Z" } : Jvm.MethodName)) ∈ lw_all := lw_g (lw_at lw_m4 11 rfl) rfl
theorem q805 : (Jvm.Cond.code ({ cls := "SawLine", name := "isFirst", desc := "(I)Z" } : Jvm.MethodName) prog_1_method_39_code (4 : Nat) (Option.some Jvm.ClassFile.FieldType.boolean)) ∈ lw_all := lw_g (lw_at lw_m4 12 rfl) rfl
theorem q807 : (Jvm.Cond.instanceMethod ({ cls := "SawLine", name := "which", desc := "(II)I" } : Jvm.MethodName)) ∈ lw_all := lw_g (lw_at lw_m4 14 rfl) rfl
theorem q808 : (Jvm.Cond.selects "SawLine" ({ cls := "SawLine", name := "which", desc := "(II)I" } : Jvm.MethodName) ({ cls := "SawLine", name := "which", desc := "(II)I" } : Jvm.MethodName)) ∈ lw_all := lw_g (lw_at lw_m4 15 rfl) rfl
theorem q809 : (Jvm.Cond.code ({ cls := "SawLine", name := "which", desc := "(II)I" } : Jvm.MethodName) prog_1_method_41_code (5 : Nat) (Option.some Jvm.ClassFile.FieldType.int)) ∈ lw_all := lw_g (lw_at lw_m4 16 rfl) rfl
theorem q811 : (Jvm.Cond.instanceMethod ({ cls := "SawLine", name := "straightest", desc := "(I)I" } : Jvm.MethodName)) ∈ lw_all := lw_g (lw_at lw_m4 18 rfl) rfl
theorem q812 : (Jvm.Cond.selects "SawLine" ({ cls := "SawLine", name := "straightest", desc := "(I)I" } : Jvm.MethodName) ({ cls := "SawLine", name := "straightest", desc := "(I)I" } : Jvm.MethodName)) ∈ lw_all := lw_g (lw_at lw_m4 19 rfl) rfl
theorem q813 : (Jvm.Cond.code ({ cls := "SawLine", name := "straightest", desc := "(I)I" } : Jvm.MethodName) prog_1_method_45_code (3 : Nat) (Option.some Jvm.ClassFile.FieldType.int)) ∈ lw_all := lw_g (lw_at lw_m4 20 rfl) rfl
theorem q814 : (Jvm.Cond.methodLink "SawLine" (309 : Nat) ({ cls := "SawLine", name := "bestLean", desc := "()I" } : Jvm.MethodName)) ∈ lw_all := lw_g (lw_at lw_m4 21 rfl) rfl
theorem q815 : (Jvm.Cond.privateMethod ({ cls := "SawLine", name := "bestLean", desc := "()I" } : Jvm.MethodName)) ∈ lw_tbl := lw_at lw_m4 22 rfl
theorem q816 : (Jvm.Cond.instanceMethod ({ cls := "SawLine", name := "bestLean", desc := "()I" } : Jvm.MethodName)) ∈ lw_all := lw_g (lw_at lw_m4 23 rfl) rfl
theorem q817 : (Jvm.Cond.code ({ cls := "SawLine", name := "bestLean", desc := "()I" } : Jvm.MethodName) prog_1_method_43_code (4 : Nat) (Option.some Jvm.ClassFile.FieldType.int)) ∈ lw_all := lw_g (lw_at lw_m4 24 rfl) rfl
theorem q818 : (Jvm.Cond.constant "SawLine" (300 : Nat) (1000000 : Int32)) ∈ lw_all := lw_g (lw_at lw_m4 25 rfl) rfl
theorem q819 : (Jvm.Cond.methodLink "SawLine" (304 : Nat) ({ cls := "SawLine", name := "leanAt", desc := "(I)I" } : Jvm.MethodName)) ∈ lw_all := lw_g (lw_at lw_m4 26 rfl) rfl
theorem q820 : (Jvm.Cond.static ({ cls := "SawLine", name := "leanAt", desc := "(I)I" } : Jvm.MethodName)) ∈ lw_all := lw_g (lw_at lw_m4 27 rfl) rfl
theorem q821 : (Jvm.Cond.code ({ cls := "SawLine", name := "leanAt", desc := "(I)I" } : Jvm.MethodName) prog_1_method_42_code (1 : Nat) (Option.some Jvm.ClassFile.FieldType.int)) ∈ lw_all := lw_g (lw_at lw_m4 28 rfl) rfl
theorem q822 : (Jvm.Cond.methodLink "SawLine" (312 : Nat) ({ cls := "SawLine", name := "bestSteers", desc := "()I" } : Jvm.MethodName)) ∈ lw_all := lw_g (lw_at lw_m4 29 rfl) rfl
theorem q823 : (Jvm.Cond.privateMethod ({ cls := "SawLine", name := "bestSteers", desc := "()I" } : Jvm.MethodName)) ∈ lw_tbl := lw_at lw_m4 30 rfl
theorem q824 : (Jvm.Cond.instanceMethod ({ cls := "SawLine", name := "bestSteers", desc := "()I" } : Jvm.MethodName)) ∈ lw_all := lw_g (lw_at lw_m4 31 rfl) rfl
theorem q825 : (Jvm.Cond.code ({ cls := "SawLine", name := "bestSteers", desc := "()I" } : Jvm.MethodName) prog_1_method_44_code (4 : Nat) (Option.some Jvm.ClassFile.FieldType.int)) ∈ lw_all := lw_g (lw_at lw_m4 32 rfl) rfl
theorem q827 : (Jvm.Cond.instanceMethod ({ cls := "SawLine", name := "flaw", desc := "(III)I" } : Jvm.MethodName)) ∈ lw_all := lw_g (lw_at lw_m4 34 rfl) rfl
theorem q828 : (Jvm.Cond.selects "SawLine" ({ cls := "SawLine", name := "flaw", desc := "(III)I" } : Jvm.MethodName) ({ cls := "SawLine", name := "flaw", desc := "(III)I" } : Jvm.MethodName)) ∈ lw_all := lw_g (lw_at lw_m4 35 rfl) rfl
theorem q829 : (Jvm.Cond.code ({ cls := "SawLine", name := "flaw", desc := "(III)I" } : Jvm.MethodName) prog_1_method_46_code (4 : Nat) (Option.some Jvm.ClassFile.FieldType.int)) ∈ lw_all := lw_g (lw_at lw_m4 36 rfl) rfl
theorem q831 : (Jvm.Cond.instanceMethod ({ cls := "SawLine", name := "ofFlaw", desc := "(II)I" } : Jvm.MethodName)) ∈ lw_all := lw_g (lw_at lw_m4 38 rfl) rfl
theorem q832 : (Jvm.Cond.selects "SawLine" ({ cls := "SawLine", name := "ofFlaw", desc := "(II)I" } : Jvm.MethodName) ({ cls := "SawLine", name := "ofFlaw", desc := "(II)I" } : Jvm.MethodName)) ∈ lw_all := lw_g (lw_at lw_m4 39 rfl) rfl
theorem q833 : (Jvm.Cond.code ({ cls := "SawLine", name := "ofFlaw", desc := "(II)I" } : Jvm.MethodName) prog_1_method_48_code (3 : Nat) (Option.some Jvm.ClassFile.FieldType.int)) ∈ lw_all := lw_g (lw_at lw_m4 40 rfl) rfl
theorem q834 : (Jvm.Cond.methodLink "SawLine" (315 : Nat) ({ cls := "SawLine", name := "isFlaw", desc := "(I)Z" } : Jvm.MethodName)) ∈ lw_all := lw_g (lw_at lw_m4 41 rfl) rfl
theorem q835 : (Jvm.Cond.privateMethod ({ cls := "SawLine", name := "isFlaw", desc := "(I)Z" } : Jvm.MethodName)) ∈ lw_tbl := lw_at lw_m4 42 rfl
theorem q836 : (Jvm.Cond.instanceMethod ({ cls := "SawLine", name := "isFlaw", desc := "(I)Z" } : Jvm.MethodName)) ∈ lw_all := lw_g (lw_at lw_m4 43 rfl) rfl
theorem q837 : (Jvm.Cond.code ({ cls := "SawLine", name := "isFlaw", desc := "(I)Z" } : Jvm.MethodName) prog_1_method_47_code (2 : Nat) (Option.some Jvm.ClassFile.FieldType.boolean)) ∈ lw_all := lw_g (lw_at lw_m4 44 rfl) rfl
theorem q839 : (Jvm.Cond.instanceMethod ({ cls := "SawLine", name := "reading", desc := "(II)I" } : Jvm.MethodName)) ∈ lw_all := lw_g (lw_at lw_m4 46 rfl) rfl
theorem q840 : (Jvm.Cond.selects "SawLine" ({ cls := "SawLine", name := "reading", desc := "(II)I" } : Jvm.MethodName) ({ cls := "SawLine", name := "reading", desc := "(II)I" } : Jvm.MethodName)) ∈ lw_all := lw_g (lw_at lw_m4 47 rfl) rfl
theorem q841 : (Jvm.Cond.code ({ cls := "SawLine", name := "reading", desc := "(II)I" } : Jvm.MethodName) prog_1_method_49_code (3 : Nat) (Option.some Jvm.ClassFile.FieldType.int)) ∈ lw_all := lw_g (lw_at lw_m4 48 rfl) rfl
theorem q843 : (Jvm.Cond.instanceMethod ({ cls := "SawLine", name := "back", desc := "(I)I" } : Jvm.MethodName)) ∈ lw_all := lw_g (lw_at lw_m4 50 rfl) rfl
theorem q844 : (Jvm.Cond.selects "SawLine" ({ cls := "SawLine", name := "back", desc := "(I)I" } : Jvm.MethodName) ({ cls := "SawLine", name := "back", desc := "(I)I" } : Jvm.MethodName)) ∈ lw_all := lw_g (lw_at lw_m4 51 rfl) rfl
theorem q845 : (Jvm.Cond.code ({ cls := "SawLine", name := "back", desc := "(I)I" } : Jvm.MethodName) prog_1_method_50_code (2 : Nat) (Option.some Jvm.ClassFile.FieldType.int)) ∈ lw_all := lw_g (lw_at lw_m4 52 rfl) rfl
theorem q847 : (Jvm.Cond.instanceMethod ({ cls := "SawLine", name := "likely", desc := "(I)I" } : Jvm.MethodName)) ∈ lw_all := lw_g (lw_at lw_m4 54 rfl) rfl
theorem q848 : (Jvm.Cond.selects "SawLine" ({ cls := "SawLine", name := "likely", desc := "(I)I" } : Jvm.MethodName) ({ cls := "SawLine", name := "likely", desc := "(I)I" } : Jvm.MethodName)) ∈ lw_all := lw_g (lw_at lw_m4 55 rfl) rfl
theorem q849 : (Jvm.Cond.code ({ cls := "SawLine", name := "likely", desc := "(I)I" } : Jvm.MethodName) prog_1_method_56_code (2 : Nat) (Option.some Jvm.ClassFile.FieldType.int)) ∈ lw_all := lw_g (lw_at lw_m4 56 rfl) rfl
theorem q850 : (Jvm.Cond.methodLink "SawLine" (355 : Nat) ({ cls := "SawLine", name := "findLikely", desc := "()V" } : Jvm.MethodName)) ∈ lw_all := lw_g (lw_at lw_m4 57 rfl) rfl
theorem q851 : (Jvm.Cond.privateMethod ({ cls := "SawLine", name := "findLikely", desc := "()V" } : Jvm.MethodName)) ∈ lw_tbl := lw_at lw_m4 58 rfl
theorem q852 : (Jvm.Cond.instanceMethod ({ cls := "SawLine", name := "findLikely", desc := "()V" } : Jvm.MethodName)) ∈ lw_all := lw_g (lw_at lw_m4 59 rfl) rfl
theorem q853 : (Jvm.Cond.code ({ cls := "SawLine", name := "findLikely", desc := "()V" } : Jvm.MethodName) prog_1_method_55_code (4 : Nat) (Option.none : Option Jvm.ClassFile.FieldType)) ∈ lw_all := lw_g (lw_at lw_m4 60 rfl) rfl
theorem q854 : (Jvm.Cond.methodLink "SawLine" (332 : Nat) ({ cls := "SawLine", name := "keepTeeth", desc := "()V" } : Jvm.MethodName)) ∈ lw_all := lw_g (lw_at lw_m4 61 rfl) rfl
theorem q855 : (Jvm.Cond.privateMethod ({ cls := "SawLine", name := "keepTeeth", desc := "()V" } : Jvm.MethodName)) ∈ lw_tbl := lw_at lw_m4 62 rfl
theorem q856 : (Jvm.Cond.instanceMethod ({ cls := "SawLine", name := "keepTeeth", desc := "()V" } : Jvm.MethodName)) ∈ lw_all := lw_g (lw_at lw_m4 63 rfl) rfl
theorem q857 : (Jvm.Cond.code ({ cls := "SawLine", name := "keepTeeth", desc := "()V" } : Jvm.MethodName) prog_1_method_51_code (2 : Nat) (Option.none : Option Jvm.ClassFile.FieldType)) ∈ lw_all := lw_g (lw_at lw_m4 64 rfl) rfl
theorem q858 : (Jvm.Cond.methodLink "SawLine" (318 : Nat) ({ cls := "java/lang/System", name := "arraycopy", desc := "(Ljava/lang/Object;ILjava/lang/Object;II)V" } : Jvm.MethodName)) ∈ lw_all := lw_g (lw_at lw_m4 65 rfl) rfl
theorem q859 : (Jvm.Cond.methodLink "SawLine" (341 : Nat) ({ cls := "java/util/Arrays", name := "fill", desc := "([II)V" } : Jvm.MethodName)) ∈ lw_all := lw_g (lw_at lw_m4 66 rfl) rfl
theorem q862 : (Jvm.Cond.methodLink "SawLine" (347 : Nat) ({ cls := "java/lang/Integer", name := "bitCount", desc := "(I)I" } : Jvm.MethodName)) ∈ lw_all := lw_g (lw_at lw_m4 69 rfl) rfl
theorem q868 : (Jvm.Cond.methodLink "SawLine" (352 : Nat) ({ cls := "SawLine", name := "fits", desc := "(I)Z" } : Jvm.MethodName)) ∈ lw_all := lw_g (lw_at lw_m4 75 rfl) rfl
theorem q869 : (Jvm.Cond.privateMethod ({ cls := "SawLine", name := "fits", desc := "(I)Z" } : Jvm.MethodName)) ∈ lw_tbl := lw_at lw_m4 76 rfl
theorem q870 : (Jvm.Cond.instanceMethod ({ cls := "SawLine", name := "fits", desc := "(I)Z" } : Jvm.MethodName)) ∈ lw_all := lw_g (lw_at lw_m4 77 rfl) rfl
theorem q871 : (Jvm.Cond.code ({ cls := "SawLine", name := "fits", desc := "(I)Z" } : Jvm.MethodName) prog_1_method_54_code (3 : Nat) (Option.some Jvm.ClassFile.FieldType.boolean)) ∈ lw_all := lw_g (lw_at lw_m4 78 rfl) rfl
theorem q872 : (Jvm.Cond.methodLink "SawLine" (324 : Nat) ({ cls := "SawLine", name := "has", desc := "(II)Z" } : Jvm.MethodName)) ∈ lw_all := lw_g (lw_at lw_m4 79 rfl) rfl
theorem q873 : (Jvm.Cond.static ({ cls := "SawLine", name := "has", desc := "(II)Z" } : Jvm.MethodName)) ∈ lw_all := lw_g (lw_at lw_m4 80 rfl) rfl
theorem q874 : (Jvm.Cond.code ({ cls := "SawLine", name := "has", desc := "(II)Z" } : Jvm.MethodName) prog_1_method_4_code (2 : Nat) (Option.some Jvm.ClassFile.FieldType.boolean)) ∈ lw_all := lw_g (lw_at lw_m4 81 rfl) rfl
theorem q875 : (Jvm.Cond.methodLink "SawLine" (326 : Nat) ({ cls := "SawLine", name := "isRead", desc := "()Z" } : Jvm.MethodName)) ∈ lw_all := lw_g (lw_at lw_m4 82 rfl) rfl
theorem q876 : (Jvm.Cond.privateMethod ({ cls := "SawLine", name := "isRead", desc := "()Z" } : Jvm.MethodName)) ∈ lw_tbl := lw_at lw_m4 83 rfl
theorem q877 : (Jvm.Cond.instanceMethod ({ cls := "SawLine", name := "isRead", desc := "()Z" } : Jvm.MethodName)) ∈ lw_all := lw_g (lw_at lw_m4 84 rfl) rfl
theorem q878 : (Jvm.Cond.code ({ cls := "SawLine", name := "isRead", desc := "()Z" } : Jvm.MethodName) prog_1_method_53_code (3 : Nat) (Option.some Jvm.ClassFile.FieldType.boolean)) ∈ lw_all := lw_g (lw_at lw_m4 85 rfl) rfl
theorem q879 : (Jvm.Cond.methodLink "SawLine" (329 : Nat) ({ cls := "SawLine", name := "bringTeeth", desc := "()V" } : Jvm.MethodName)) ∈ lw_all := lw_g (lw_at lw_m4 86 rfl) rfl
theorem q880 : (Jvm.Cond.privateMethod ({ cls := "SawLine", name := "bringTeeth", desc := "()V" } : Jvm.MethodName)) ∈ lw_tbl := lw_at lw_m4 87 rfl
theorem q881 : (Jvm.Cond.instanceMethod ({ cls := "SawLine", name := "bringTeeth", desc := "()V" } : Jvm.MethodName)) ∈ lw_all := lw_g (lw_at lw_m4 88 rfl) rfl
theorem q882 : (Jvm.Cond.code ({ cls := "SawLine", name := "bringTeeth", desc := "()V" } : Jvm.MethodName) prog_1_method_52_code (2 : Nat) (Option.none : Option Jvm.ClassFile.FieldType)) ∈ lw_all := lw_g (lw_at lw_m4 89 rfl) rfl
theorem q884 : (Jvm.Cond.instanceMethod ({ cls := "SawLine", name := "each", desc := "(I)I" } : Jvm.MethodName)) ∈ lw_all := lw_g (lw_at lw_m4 91 rfl) rfl
theorem q885 : (Jvm.Cond.selects "SawLine" ({ cls := "SawLine", name := "each", desc := "(I)I" } : Jvm.MethodName) ({ cls := "SawLine", name := "each", desc := "(I)I" } : Jvm.MethodName)) ∈ lw_all := lw_g (lw_at lw_m4 92 rfl) rfl
theorem q886 : (Jvm.Cond.code ({ cls := "SawLine", name := "each", desc := "(I)I" } : Jvm.MethodName) prog_1_method_57_code (2 : Nat) (Option.some Jvm.ClassFile.FieldType.int)) ∈ lw_all := lw_g (lw_at lw_m4 93 rfl) rfl
theorem q888 : (Jvm.Cond.instanceMethod ({ cls := "SawLine", name := "act", desc := "(II)I" } : Jvm.MethodName)) ∈ lw_all := lw_g (lw_at lw_m4 95 rfl) rfl
theorem q889 : (Jvm.Cond.selects "SawLine" ({ cls := "SawLine", name := "act", desc := "(II)I" } : Jvm.MethodName) ({ cls := "SawLine", name := "act", desc := "(II)I" } : Jvm.MethodName)) ∈ lw_all := lw_g (lw_at lw_m4 96 rfl) rfl
theorem q890 : (Jvm.Cond.code ({ cls := "SawLine", name := "act", desc := "(II)I" } : Jvm.MethodName) prog_1_method_61_code (3 : Nat) (Option.some Jvm.ClassFile.FieldType.int)) ∈ lw_all := lw_g (lw_at lw_m4 97 rfl) rfl
theorem q891 : (Jvm.Cond.methodLink "SawLine" (358 : Nat) ({ cls := "SawLine", name := "isAct", desc := "(I)Z" } : Jvm.MethodName)) ∈ lw_all := lw_g (lw_at lw_m4 98 rfl) rfl
theorem q892 : (Jvm.Cond.static ({ cls := "SawLine", name := "isAct", desc := "(I)Z" } : Jvm.MethodName)) ∈ lw_all := lw_g (lw_at lw_m4 99 rfl) rfl
theorem q893 : (Jvm.Cond.code ({ cls := "SawLine", name := "isAct", desc := "(I)Z" } : Jvm.MethodName) prog_1_method_60_code (1 : Nat) (Option.some Jvm.ClassFile.FieldType.boolean)) ∈ lw_all := lw_g (lw_at lw_m4 100 rfl) rfl
theorem q894 : (Jvm.Cond.methodLink "SawLine" (361 : Nat) ({ cls := "SawLine", name := "isDone", desc := "(LSawLine$Tooth;I)Z" } : Jvm.MethodName)) ∈ lw_all := lw_g (lw_at lw_m4 101 rfl) rfl
theorem q895 : (Jvm.Cond.privateMethod ({ cls := "SawLine", name := "isDone", desc := "(LSawLine$Tooth;I)Z" } : Jvm.MethodName)) ∈ lw_tbl := lw_at lw_m4 102 rfl
theorem q896 : (Jvm.Cond.instanceMethod ({ cls := "SawLine", name := "isDone", desc := "(LSawLine$Tooth;I)Z" } : Jvm.MethodName)) ∈ lw_all := lw_g (lw_at lw_m4 103 rfl) rfl
theorem q897 : (Jvm.Cond.code ({ cls := "SawLine", name := "isDone", desc := "(LSawLine$Tooth;I)Z" } : Jvm.MethodName) prog_1_method_58_code (5 : Nat) (Option.some Jvm.ClassFile.FieldType.boolean)) ∈ lw_all := lw_g (lw_at lw_m4 104 rfl) rfl
theorem q899 : (Jvm.Cond.instanceMethod ({ cls := "SawLine", name := "mend", desc := "(II)I" } : Jvm.MethodName)) ∈ lw_all := lw_g (lw_at lw_m4 106 rfl) rfl
theorem q900 : (Jvm.Cond.selects "SawLine" ({ cls := "SawLine", name := "mend", desc := "(II)I" } : Jvm.MethodName) ({ cls := "SawLine", name := "mend", desc := "(II)I" } : Jvm.MethodName)) ∈ lw_all := lw_g (lw_at lw_m4 107 rfl) rfl
theorem q901 : (Jvm.Cond.code ({ cls := "SawLine", name := "mend", desc := "(II)I" } : Jvm.MethodName) prog_1_method_66_code (3 : Nat) (Option.some Jvm.ClassFile.FieldType.int)) ∈ lw_all := lw_g (lw_at lw_m4 108 rfl) rfl
theorem q902 : (Jvm.Cond.constantLong "SawLine" (384 : Nat) (9999 : Int64)) ∈ lw_all := lw_g (lw_at lw_m4 109 rfl) rfl
theorem q903 : (Jvm.Cond.constantLong "SawLine" (386 : Nat) (-2 : Int64)) ∈ lw_all := lw_g (lw_at lw_m4 110 rfl) rfl
theorem q904 : (Jvm.Cond.methodLink "SawLine" (388 : Nat) ({ cls := "SawLine", name := "findMend", desc := "(I)V" } : Jvm.MethodName)) ∈ lw_all := lw_g (lw_at lw_m4 111 rfl) rfl
theorem q905 : (Jvm.Cond.privateMethod ({ cls := "SawLine", name := "findMend", desc := "(I)V" } : Jvm.MethodName)) ∈ lw_tbl := lw_at lw_m4 112 rfl
theorem q906 : (Jvm.Cond.instanceMethod ({ cls := "SawLine", name := "findMend", desc := "(I)V" } : Jvm.MethodName)) ∈ lw_all := lw_g (lw_at lw_m4 113 rfl) rfl
theorem q907 : (Jvm.Cond.code ({ cls := "SawLine", name := "findMend", desc := "(I)V" } : Jvm.MethodName) prog_1_method_65_code (4 : Nat) (Option.none : Option Jvm.ClassFile.FieldType)) ∈ lw_all := lw_g (lw_at lw_m4 114 rfl) rfl
theorem q908 : (Jvm.Cond.methodLink "SawLine" (374 : Nat) ({ cls := "SawLine", name := "isStraight", desc := "(I)Z" } : Jvm.MethodName)) ∈ lw_all := lw_g (lw_at lw_m4 115 rfl) rfl
theorem q909 : (Jvm.Cond.privateMethod ({ cls := "SawLine", name := "isStraight", desc := "(I)Z" } : Jvm.MethodName)) ∈ lw_tbl := lw_at lw_m4 116 rfl
theorem q910 : (Jvm.Cond.instanceMethod ({ cls := "SawLine", name := "isStraight", desc := "(I)Z" } : Jvm.MethodName)) ∈ lw_all := lw_g (lw_at lw_m4 117 rfl) rfl
theorem q911 : (Jvm.Cond.code ({ cls := "SawLine", name := "isStraight", desc := "(I)Z" } : Jvm.MethodName) prog_1_method_62_code (2 : Nat) (Option.some Jvm.ClassFile.FieldType.boolean)) ∈ lw_all := lw_g (lw_at lw_m4 118 rfl) rfl
theorem q912 : (Jvm.Cond.methodLink "SawLine" (377 : Nat) ({ cls := "SawLine", name := "offers", desc := "(IIII)V" } : Jvm.MethodName)) ∈ lw_all := lw_g (lw_at lw_m4 119 rfl) rfl
theorem q913 : (Jvm.Cond.privateMethod ({ cls := "SawLine", name := "offers", desc := "(IIII)V" } : Jvm.MethodName)) ∈ lw_tbl := lw_at lw_m4 120 rfl
theorem q914 : (Jvm.Cond.instanceMethod ({ cls := "SawLine", name := "offers", desc := "(IIII)V" } : Jvm.MethodName)) ∈ lw_all := lw_g (lw_at lw_m4 121 rfl) rfl
theorem q915 : (Jvm.Cond.code ({ cls := "SawLine", name := "offers", desc := "(IIII)V" } : Jvm.MethodName) prog_1_method_63_code (5 : Nat) (Option.none : Option Jvm.ClassFile.FieldType)) ∈ lw_all := lw_g (lw_at lw_m4 122 rfl) rfl
theorem q916 : (Jvm.Cond.methodLink "SawLine" (371 : Nat) ({ cls := "SawLine", name := "costOf", desc := "(I)I" } : Jvm.MethodName)) ∈ lw_all := lw_g (lw_at lw_m4 123 rfl) rfl
theorem q917 : (Jvm.Cond.static ({ cls := "SawLine", name := "costOf", desc := "(I)I" } : Jvm.MethodName)) ∈ lw_all := lw_g (lw_at lw_m4 124 rfl) rfl
theorem q918 : (Jvm.Cond.code ({ cls := "SawLine", name := "costOf", desc := "(I)I" } : Jvm.MethodName) prog_1_method_59_code (1 : Nat) (Option.some Jvm.ClassFile.FieldType.int)) ∈ lw_all := lw_g (lw_at lw_m4 125 rfl) rfl
theorem q919 : (Jvm.Cond.methodLink "SawLine" (381 : Nat) ({ cls := "SawLine", name := "seconds", desc := "(II)V" } : Jvm.MethodName)) ∈ lw_all := lw_g (lw_at lw_m4 126 rfl) rfl
theorem q920 : (Jvm.Cond.privateMethod ({ cls := "SawLine", name := "seconds", desc := "(II)V" } : Jvm.MethodName)) ∈ lw_tbl := lw_at lw_m4 127 rfl
theorem q921 : (Jvm.Cond.instanceMethod ({ cls := "SawLine", name := "seconds", desc := "(II)V" } : Jvm.MethodName)) ∈ lw_all := lw_g (lw_at lw_m4 128 rfl) rfl
theorem q922 : (Jvm.Cond.code ({ cls := "SawLine", name := "seconds", desc := "(II)V" } : Jvm.MethodName) prog_1_method_64_code (10 : Nat) (Option.none : Option Jvm.ClassFile.FieldType)) ∈ lw_all := lw_g (lw_at lw_m4 129 rfl) rfl
theorem q924 : (Jvm.Cond.instanceMethod ({ cls := "SawLine", name := "log", desc := "(IIIII)I" } : Jvm.MethodName)) ∈ lw_all := lw_g (lw_at lw_m4 131 rfl) rfl
theorem q925 : (Jvm.Cond.selects "SawLine" ({ cls := "SawLine", name := "log", desc := "(IIIII)I" } : Jvm.MethodName) ({ cls := "SawLine", name := "log", desc := "(IIIII)I" } : Jvm.MethodName)) ∈ lw_all := lw_g (lw_at lw_m4 132 rfl) rfl
theorem q926 : (Jvm.Cond.codeWith ({ cls := "SawLine", name := "log", desc := "(IIIII)I" } : Jvm.MethodName) prog_1_method_70_code (7 : Nat) (Option.some Jvm.ClassFile.FieldType.int) [((24 : Nat), (49 : Nat), (50 : Nat), (173 : Nat)), ((24 : Nat), (49 : Nat), (58 : Nat), (178 : Nat)), ((24 : Nat), (49 : Nat), (66 : Nat), (180 : Nat)), ((24 : Nat), (49 : Nat), (74 : Nat), (182 : Nat))]) ∈ lw_all := lw_g (lw_at lw_m4 133 rfl) rfl
theorem q927 : (Jvm.Cond.methodLink "SawLine" (406 : Nat) ({ cls := "SawLine", name := "logged", desc := "([II)I" } : Jvm.MethodName)) ∈ lw_all := lw_g (lw_at lw_m4 134 rfl) rfl
theorem q928 : (Jvm.Cond.privateMethod ({ cls := "SawLine", name := "logged", desc := "([II)I" } : Jvm.MethodName)) ∈ lw_tbl := lw_at lw_m4 135 rfl
theorem q929 : (Jvm.Cond.instanceMethod ({ cls := "SawLine", name := "logged", desc := "([II)I" } : Jvm.MethodName)) ∈ lw_all := lw_g (lw_at lw_m4 136 rfl) rfl
theorem q930 : (Jvm.Cond.code ({ cls := "SawLine", name := "logged", desc := "([II)I" } : Jvm.MethodName) prog_1_method_69_code (4 : Nat) (Option.some Jvm.ClassFile.FieldType.int)) ∈ lw_all := lw_g (lw_at lw_m4 137 rfl) rfl
theorem q931 : (Jvm.Cond.constantLong "SawLine" (402 : Nat) (7 : Int64)) ∈ lw_all := lw_g (lw_at lw_m4 138 rfl) rfl
theorem q932 : (Jvm.Cond.constantLong "SawLine" (404 : Nat) (-1 : Int64)) ∈ lw_all := lw_g (lw_at lw_m4 139 rfl) rfl
theorem q933 : (Jvm.Cond.methodLink "SawLine" (398 : Nat) ({ cls := "SawLine", name := "tryCuts", desc := "([IIII)V" } : Jvm.MethodName)) ∈ lw_all := lw_g (lw_at lw_m4 140 rfl) rfl
theorem q934 : (Jvm.Cond.privateMethod ({ cls := "SawLine", name := "tryCuts", desc := "([IIII)V" } : Jvm.MethodName)) ∈ lw_tbl := lw_at lw_m4 141 rfl
theorem q935 : (Jvm.Cond.instanceMethod ({ cls := "SawLine", name := "tryCuts", desc := "([IIII)V" } : Jvm.MethodName)) ∈ lw_all := lw_g (lw_at lw_m4 142 rfl) rfl
theorem q936 : (Jvm.Cond.code ({ cls := "SawLine", name := "tryCuts", desc := "([IIII)V" } : Jvm.MethodName) prog_1_method_68_code (6 : Nat) (Option.none : Option Jvm.ClassFile.FieldType)) ∈ lw_all := lw_g (lw_at lw_m4 143 rfl) rfl
theorem q937 : (Jvm.Cond.methodLink "SawLine" (395 : Nat) ({ cls := "SawLine", name := "differs", desc := "([III)I" } : Jvm.MethodName)) ∈ lw_all := lw_g (lw_at lw_m4 144 rfl) rfl
theorem q938 : (Jvm.Cond.static ({ cls := "SawLine", name := "differs", desc := "([III)I" } : Jvm.MethodName)) ∈ lw_all := lw_g (lw_at lw_m4 145 rfl) rfl
theorem q939 : (Jvm.Cond.code ({ cls := "SawLine", name := "differs", desc := "([III)I" } : Jvm.MethodName) prog_1_method_67_code (6 : Nat) (Option.some Jvm.ClassFile.FieldType.int)) ∈ lw_all := lw_g (lw_at lw_m4 146 rfl) rfl
theorem q941 : (Jvm.Cond.instanceMethod ({ cls := "SawLine", name := "sheet", desc := "(III)I" } : Jvm.MethodName)) ∈ lw_all := lw_g (lw_at lw_m4 148 rfl) rfl
theorem q942 : (Jvm.Cond.selects "SawLine" ({ cls := "SawLine", name := "sheet", desc := "(III)I" } : Jvm.MethodName) ({ cls := "SawLine", name := "sheet", desc := "(III)I" } : Jvm.MethodName)) ∈ lw_all := lw_g (lw_at lw_m4 149 rfl) rfl
theorem q943 : (Jvm.Cond.codeWith ({ cls := "SawLine", name := "sheet", desc := "(III)I" } : Jvm.MethodName) prog_1_method_77_code (5 : Nat) (Option.some Jvm.ClassFile.FieldType.int) [((30 : Nat), (64 : Nat), (65 : Nat), (180 : Nat))]) ∈ lw_all := lw_g (lw_at lw_m4 150 rfl) rfl
theorem q946 : (Jvm.Cond.instanceMethod ({ cls := "SawLine", name := "lose", desc := "(I)I" } : Jvm.MethodName)) ∈ lw_all := lw_g (lw_at lw_m4 153 rfl) rfl
theorem q947 : (Jvm.Cond.selects "SawLine" ({ cls := "SawLine", name := "lose", desc := "(I)I" } : Jvm.MethodName) ({ cls := "SawLine", name := "lose", desc := "(I)I" } : Jvm.MethodName)) ∈ lw_all := lw_g (lw_at lw_m4 154 rfl) rfl
theorem q948 : (Jvm.Cond.code ({ cls := "SawLine", name := "lose", desc := "(I)I" } : Jvm.MethodName) prog_1_method_78_code (3 : Nat) (Option.some Jvm.ClassFile.FieldType.int)) ∈ lw_all := lw_g (lw_at lw_m4 155 rfl) rfl
theorem q950 : (Jvm.Cond.instanceMethod ({ cls := "SawLine", name := "put", desc := "(III)I" } : Jvm.MethodName)) ∈ lw_all := lw_g (lw_at lw_m4 157 rfl) rfl
theorem q951 : (Jvm.Cond.selects "SawLine" ({ cls := "SawLine", name := "put", desc := "(III)I" } : Jvm.MethodName) ({ cls := "SawLine", name := "put", desc := "(III)I" } : Jvm.MethodName)) ∈ lw_all := lw_g (lw_at lw_m4 158 rfl) rfl
theorem q952 : (Jvm.Cond.codeWith ({ cls := "SawLine", name := "put", desc := "(III)I" } : Jvm.MethodName) prog_1_method_79_code (7 : Nat) (Option.some Jvm.ClassFile.FieldType.int) [((14 : Nat), (100 : Nat), (101 : Nat), (178 : Nat)), ((14 : Nat), (100 : Nat), (109 : Nat), (182 : Nat))]) ∈ lw_all := lw_g (lw_at lw_m4 159 rfl) rfl
theorem q954 : (Jvm.Cond.instanceMethod ({ cls := "SawLine", name := "cell", desc := "(III)J" } : Jvm.MethodName)) ∈ lw_all := lw_g (lw_at lw_m4 161 rfl) rfl
theorem q955 : (Jvm.Cond.selects "SawLine" ({ cls := "SawLine", name := "cell", desc := "(III)J" } : Jvm.MethodName) ({ cls := "SawLine", name := "cell", desc := "(III)J" } : Jvm.MethodName)) ∈ lw_all := lw_g (lw_at lw_m4 162 rfl) rfl
theorem q956 : (Jvm.Cond.codeWith ({ cls := "SawLine", name := "cell", desc := "(III)J" } : Jvm.MethodName) prog_1_method_80_code (5 : Nat) (Option.some Jvm.ClassFile.FieldType.long) [((23 : Nat), (41 : Nat), (42 : Nat), (173 : Nat)), ((23 : Nat), (41 : Nat), (50 : Nat), (178 : Nat)), ((23 : Nat), (41 : Nat), (58 : Nat), (182 : Nat))]) ∈ lw_all := lw_g (lw_at lw_m4 163 rfl) rfl
theorem q957 : (Jvm.Cond.methodLink "SawLine" (420 : Nat) ({ cls := "SawLine", name := "lost", desc := "(I)J" } : Jvm.MethodName)) ∈ lw_all := lw_g (lw_at lw_m4 164 rfl) rfl
theorem q958 : (Jvm.Cond.privateMethod ({ cls := "SawLine", name := "lost", desc := "(I)J" } : Jvm.MethodName)) ∈ lw_tbl := lw_at lw_m4 165 rfl
theorem q959 : (Jvm.Cond.instanceMethod ({ cls := "SawLine", name := "lost", desc := "(I)J" } : Jvm.MethodName)) ∈ lw_all := lw_g (lw_at lw_m4 166 rfl) rfl
theorem q960 : (Jvm.Cond.code ({ cls := "SawLine", name := "lost", desc := "(I)J" } : Jvm.MethodName) prog_1_method_6_code (2 : Nat) (Option.some Jvm.ClassFile.FieldType.long)) ∈ lw_all := lw_g (lw_at lw_m4 167 rfl) rfl
theorem q962 : (Jvm.Cond.instanceMethod ({ cls := "SawLine", name := "copy", desc := "(IIIII)I" } : Jvm.MethodName)) ∈ lw_all := lw_g (lw_at lw_m4 169 rfl) rfl
theorem q963 : (Jvm.Cond.selects "SawLine" ({ cls := "SawLine", name := "copy", desc := "(IIIII)I" } : Jvm.MethodName) ({ cls := "SawLine", name := "copy", desc := "(IIIII)I" } : Jvm.MethodName)) ∈ lw_all := lw_g (lw_at lw_m4 170 rfl) rfl
theorem q964 : (Jvm.Cond.codeWith ({ cls := "SawLine", name := "copy", desc := "(IIIII)I" } : Jvm.MethodName) prog_1_method_81_code (7 : Nat) (Option.some Jvm.ClassFile.FieldType.int) [((21 : Nat), (49 : Nat), (50 : Nat), (178 : Nat)), ((21 : Nat), (49 : Nat), (58 : Nat), (424 : Nat)), ((21 : Nat), (49 : Nat), (66 : Nat), (426 : Nat))]) ∈ lw_all := lw_g (lw_at lw_m4 171 rfl) rfl
theorem q965 : (Jvm.Cond.classLink "SawLine" (424 : Nat) "java/lang/ArrayStoreException") ∈ lw_all := lw_g (lw_at lw_m4 172 rfl) rfl
theorem q979 : (Jvm.Cond.classLink "SawLine" (426 : Nat) "java/lang/IndexOutOfBoundsException") ∈ lw_all := lw_g (lw_at lw_m4 186 rfl) rfl
theorem q981 : (Jvm.Cond.instanceMethod ({ cls := "SawLine", name := "tell", desc := "(I)I" } : Jvm.MethodName)) ∈ lw_all := lw_g (lw_at lw_m4 188 rfl) rfl
theorem q982 : (Jvm.Cond.selects "SawLine" ({ cls := "SawLine", name := "tell", desc := "(I)I" } : Jvm.MethodName) ({ cls := "SawLine", name := "tell", desc := "(I)I" } : Jvm.MethodName)) ∈ lw_all := lw_g (lw_at lw_m4 189 rfl) rfl
theorem q983 : (Jvm.Cond.code ({ cls := "SawLine", name := "tell", desc := "(I)I" } : Jvm.MethodName) prog_1_method_83_code (2 : Nat) (Option.some Jvm.ClassFile.FieldType.int)) ∈ lw_all := lw_g (lw_at lw_m4 190 rfl) rfl
theorem q984 : (Jvm.Cond.methodLink "SawLine" (433 : Nat) ({ cls := "SawLine$Tooth", name := "tell", desc := "()I" } : Jvm.MethodName)) ∈ lw_all := lw_g (lw_at lw_m4 191 rfl) rfl
theorem q992 : (Jvm.Cond.privateMethod ({ cls := "SawLine", name := "begins", desc := "(I)V" } : Jvm.MethodName)) ∈ lw_tbl := lw_at lw_m4 199 rfl
theorem q993 : (Jvm.Cond.instanceMethod ({ cls := "SawLine", name := "begins", desc := "(I)V" } : Jvm.MethodName)) ∈ lw_all := lw_g (lw_at lw_m4 200 rfl) rfl
theorem q994 : (Jvm.Cond.code ({ cls := "SawLine", name := "begins", desc := "(I)V" } : Jvm.MethodName) prog_1_method_7_code (2 : Nat) (Option.none : Option Jvm.ClassFile.FieldType)) ∈ lw_all := lw_g (lw_at lw_m4 201 rfl) rfl
theorem q1011 : (Jvm.Cond.instanceMethod ({ cls := "SawLine", name := "joint", desc := "(I)I" } : Jvm.MethodName)) ∈ lw_all := lw_g (lw_at lw_m4 218 rfl) rfl
theorem q1012 : (Jvm.Cond.selects "SawLine" ({ cls := "SawLine", name := "joint", desc := "(I)I" } : Jvm.MethodName) ({ cls := "SawLine", name := "joint", desc := "(I)I" } : Jvm.MethodName)) ∈ lw_all := lw_g (lw_at lw_m4 219 rfl) rfl
theorem q1013 : (Jvm.Cond.code ({ cls := "SawLine", name := "joint", desc := "(I)I" } : Jvm.MethodName) prog_1_method_85_code (2 : Nat) (Option.some Jvm.ClassFile.FieldType.int)) ∈ lw_all := lw_g (lw_at lw_m4 220 rfl) rfl
theorem q1014 : (Jvm.Cond.classLink "SawLine" (437 : Nat) "SawLine$Jointed") ∈ lw_all := lw_g (lw_at lw_m4 221 rfl) rfl
theorem q1015 : (Jvm.Cond.methodLink "SawLine" (441 : Nat) ({ cls := "SawLine", name := "jointed", desc := "(LSawLine$Jointed;)I" } : Jvm.MethodName)) ∈ lw_all := lw_g (lw_at lw_m4 222 rfl) rfl
theorem q1016 : (Jvm.Cond.static ({ cls := "SawLine", name := "jointed", desc := "(LSawLine$Jointed;)I" } : Jvm.MethodName)) ∈ lw_all := lw_g (lw_at lw_m4 223 rfl) rfl
theorem q1017 : (Jvm.Cond.code ({ cls := "SawLine", name := "jointed", desc := "(LSawLine$Jointed;)I" } : Jvm.MethodName) prog_1_method_84_code (1 : Nat) (Option.some Jvm.ClassFile.FieldType.int)) ∈ lw_all := lw_g (lw_at lw_m4 224 rfl) rfl
theorem q1018 : (Jvm.Cond.interfaceEntry "SawLine" (436 : Nat)) ∈ lw_tbl := lw_at lw_m4 225 rfl
theorem q1019 : (Jvm.Cond.methodLink "SawLine" (436 : Nat) ({ cls := "SawLine$Jointed", name := "joint", desc := "()I" } : Jvm.MethodName)) ∈ lw_all := lw_g (lw_at lw_m4 226 rfl) rfl
theorem q1049 : (Jvm.Cond.instanceMethod ({ cls := "SawLine", name := "as", desc := "(II)I" } : Jvm.MethodName)) ∈ lw_all := lw_g (lw_at lw_m5 16 rfl) rfl
theorem q1050 : (Jvm.Cond.selects "SawLine" ({ cls := "SawLine", name := "as", desc := "(II)I" } : Jvm.MethodName) ({ cls := "SawLine", name := "as", desc := "(II)I" } : Jvm.MethodName)) ∈ lw_all := lw_g (lw_at lw_m5 17 rfl) rfl
theorem q1051 : (Jvm.Cond.codeWith ({ cls := "SawLine", name := "as", desc := "(II)I" } : Jvm.MethodName) prog_1_method_87_code (4 : Nat) (Option.some Jvm.ClassFile.FieldType.int) [((30 : Nat), (59 : Nat), (60 : Nat), (173 : Nat))]) ∈ lw_all := lw_g (lw_at lw_m5 18 rfl) rfl
theorem q1052 : (Jvm.Cond.methodLink "SawLine" (445 : Nat) ({ cls := "SawLine", name := "of", desc := "(LSawLine$Tooth;I)LSawLine$Tooth;" } : Jvm.MethodName)) ∈ lw_all := lw_g (lw_at lw_m5 19 rfl) rfl
theorem q1053 : (Jvm.Cond.static ({ cls := "SawLine", name := "of", desc := "(LSawLine$Tooth;I)LSawLine$Tooth;" } : Jvm.MethodName)) ∈ lw_all := lw_g (lw_at lw_m5 20 rfl) rfl
theorem q1054 : (Jvm.Cond.code ({ cls := "SawLine", name := "of", desc := "(LSawLine$Tooth;I)LSawLine$Tooth;" } : Jvm.MethodName) prog_1_method_86_code (2 : Nat) (Option.some (Jvm.ClassFile.FieldType.object "SawLine$Tooth"))) ∈ lw_all := lw_g (lw_at lw_m5 21 rfl) rfl
theorem q1056 : (Jvm.Cond.instanceMethod ({ cls := "SawLine", name := "trace", desc := "()I" } : Jvm.MethodName)) ∈ lw_all := lw_g (lw_at lw_m5 23 rfl) rfl
theorem q1057 : (Jvm.Cond.selects "SawLine" ({ cls := "SawLine", name := "trace", desc := "()I" } : Jvm.MethodName) ({ cls := "SawLine", name := "trace", desc := "()I" } : Jvm.MethodName)) ∈ lw_all := lw_g (lw_at lw_m5 24 rfl) rfl
theorem q1058 : (Jvm.Cond.code ({ cls := "SawLine", name := "trace", desc := "()I" } : Jvm.MethodName) prog_1_method_88_code (1 : Nat) (Option.some Jvm.ClassFile.FieldType.int)) ∈ lw_all := lw_g (lw_at lw_m5 25 rfl) rfl
theorem q1060 : (Jvm.Cond.instanceMethod ({ cls := "SawLine", name := "fault", desc := "()I" } : Jvm.MethodName)) ∈ lw_all := lw_g (lw_at lw_m5 27 rfl) rfl
theorem q1061 : (Jvm.Cond.selects "SawLine" ({ cls := "SawLine", name := "fault", desc := "()I" } : Jvm.MethodName) ({ cls := "SawLine", name := "fault", desc := "()I" } : Jvm.MethodName)) ∈ lw_all := lw_g (lw_at lw_m5 28 rfl) rfl
theorem q1062 : (Jvm.Cond.code ({ cls := "SawLine", name := "fault", desc := "()I" } : Jvm.MethodName) prog_1_method_89_code (1 : Nat) (Option.some Jvm.ClassFile.FieldType.int)) ∈ lw_all := lw_g (lw_at lw_m5 29 rfl) rfl
theorem q1064 : (Jvm.Cond.instanceMethod ({ cls := "SawLine", name := "many", desc := "(I)I" } : Jvm.MethodName)) ∈ lw_all := lw_g (lw_at lw_m5 31 rfl) rfl
theorem q1065 : (Jvm.Cond.selects "SawLine" ({ cls := "SawLine", name := "many", desc := "(I)I" } : Jvm.MethodName) ({ cls := "SawLine", name := "many", desc := "(I)I" } : Jvm.MethodName)) ∈ lw_all := lw_g (lw_at lw_m5 32 rfl) rfl
theorem q1066 : (Jvm.Cond.code ({ cls := "SawLine", name := "many", desc := "(I)I" } : Jvm.MethodName) prog_1_method_91_code (2 : Nat) (Option.some Jvm.ClassFile.FieldType.int)) ∈ lw_all := lw_g (lw_at lw_m5 33 rfl) rfl
theorem q1067 : (Jvm.Cond.methodLink "SawLine" (449 : Nat) ({ cls := "SawLine", name := "strokesNow", desc := "()I" } : Jvm.MethodName)) ∈ lw_all := lw_g (lw_at lw_m5 34 rfl) rfl
theorem q1068 : (Jvm.Cond.privateMethod ({ cls := "SawLine", name := "strokesNow", desc := "()I" } : Jvm.MethodName)) ∈ lw_tbl := lw_at lw_m5 35 rfl
theorem q1069 : (Jvm.Cond.instanceMethod ({ cls := "SawLine", name := "strokesNow", desc := "()I" } : Jvm.MethodName)) ∈ lw_all := lw_g (lw_at lw_m5 36 rfl) rfl
theorem q1070 : (Jvm.Cond.code ({ cls := "SawLine", name := "strokesNow", desc := "()I" } : Jvm.MethodName) prog_1_method_90_code (1 : Nat) (Option.some Jvm.ClassFile.FieldType.int)) ∈ lw_all := lw_g (lw_at lw_m5 37 rfl) rfl
theorem q1542 : (Jvm.Cond.castable "SawLine" "java/lang/Object") ∈ lw_tbl := lw_at lw_m7 29 rfl
theorem in_X0 : ∀ w ∈ wsX00, w ∈ lw_all := lw_in wsX00 [186, 188, 190, 192, 194, 196, 198, 200, 202, 204, 206, 208, 210, 212, 214, 216, 218, 220, 222, 224, 226, 228, 230, 232, 234, 236, 238, 240, 242, 244, 246, 248, 250, 252, 254, 256, 258] (by decide +kernel) (by decide +kernel)
