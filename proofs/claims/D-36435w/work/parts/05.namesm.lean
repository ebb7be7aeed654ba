/-! SelectoRouteModel -/
set_option maxRecDepth 100000
def RX2 : String := "SelectoRouteModel"
def TX2 : u_T := fun k => match k with
  | 0 => ("SelectoRouteModel", "song", "[I", true)
  | 1 => ("SelectoRouteModel", "strength", "[I", true)
  | 2 => ("SelectoRouteModel", "from", "[I", true)
  | 3 => ("SelectoRouteModel", "wear", "[I", true)
  | 4 => ("SelectoRouteModel", "place", "[I", true)
  | 5 => ("SelectoRouteModel", "discs", "I", false)
  | 6 => ("SelectoRouteModel", "share", "[I", true)
  | 7 => ("SelectoRouteModel", "taste", "[I", true)
  | 8 => ("SelectoRouteModel", "risk", "[I", true)
  | 9 => ("SelectoRouteModel", "credits", "[I", true)
  | 10 => ("SelectoRouteModel", "cents", "[I", true)
  | 11 => ("SelectoRouteModel", "needle", "[I", true)
  | 12 => ("SelectoRouteModel", "queued", "[I", true)
  | 13 => ("SelectoRouteModel", "queue", "[I", true)
  | 14 => ("SelectoRouteModel", "plays", "[I", true)
  | 15 => ("SelectoRouteModel", "missing", "[I", true)
  | 16 => ("SelectoRouteModel", "landlord", "[I", true)
  | 17 => ("SelectoRouteModel", "jammed", "[Z", true)
  | 18 => ("SelectoRouteModel", "visited", "[Z", true)
  | 19 => ("SelectoRouteModel", "boxes", "I", false)
  | 20 => ("SelectoRouteModel", "slots", "[I", true)
  | 21 => ("SelectoRouteModel", "wheel", "[I", true)
  | 22 => ("SelectoRouteModel", "asked", "[I", true)
  | 23 => ("SelectoRouteModel", "used", "[Z", true)
  | 24 => ("SelectoRouteModel", "taken", "[Z", true)
  | 25 => ("SelectoRouteModel", "z", "I", false)
  | 26 => ("SelectoRouteModel", "week", "I", false)
  | 27 => ("SelectoRouteModel", "minutes", "I", false)
  | 28 => ("SelectoRouteModel", "earned", "I", false)
  | _ => ("SelectoRouteModel", "thrown", "I", false)
def tyX2 : Nat → FieldType := fun k => match k with
  | 0 => .array .int
  | 1 => .array .int
  | 2 => .array .int
  | 3 => .array .int
  | 4 => .array .int
  | 5 => .int
  | 6 => .array .int
  | 7 => .array .int
  | 8 => .array .int
  | 9 => .array .int
  | 10 => .array .int
  | 11 => .array .int
  | 12 => .array .int
  | 13 => .array .int
  | 14 => .array .int
  | 15 => .array .int
  | 16 => .array .int
  | 17 => .array .boolean
  | 18 => .array .boolean
  | 19 => .int
  | 20 => .array .int
  | 21 => .array .int
  | 22 => .array .int
  | 23 => .array .boolean
  | 24 => .array .boolean
  | 25 => .int
  | 26 => .int
  | 27 => .int
  | 28 => .int
  | _ => .int
abbrev wsX20 : List Cond := u_ws RX2 TX2 30
set_option maxRecDepth 100000 in
theorem nmX2 : ∀ a, a < 30 → ∀ b, b < 30 → a ≠ b → (TX2 a).2.1 ≠ (TX2 b).2.1 := by decide +kernel
set_option maxRecDepth 100000 in
theorem tyX2_ok : ∀ k, k < 30 → parseFieldDescriptor (TX2 k).2.2.1 = some (tyX2 k) := by decide +kernel
abbrev cX2_init : ByteArray := prog_9_method_1_code
def yX2_init : MethodName := ⟨RX2, "<init>", "()V"⟩
def dkwX2_init_8 : List UInt8 := [181, 0, 84, 177]
abbrev dktX2_init_8 : List UInt8 := dkwX2_init_8 ++ []
def dkwX2_init_7 : List UInt8 := [188, 4, 181, 0, 74, 42, 16, 10, 188, 4, 181, 0, 77, 42, 4, 181, 0, 80, 42, 17, 2, 88]
abbrev dktX2_init_7 : List UInt8 := dkwX2_init_7 ++ dktX2_init_8
def dkwX2_init_6 : List UInt8 := [181, 0, 65, 42, 16, 40, 188, 10, 181, 0, 68, 42, 17, 1, 144, 188, 10, 181, 0, 71, 42, 16, 30]
abbrev dktX2_init_6 : List UInt8 := dkwX2_init_6 ++ dktX2_init_7
def dkwX2_init_5 : List UInt8 := [188, 10, 181, 0, 55, 42, 7, 188, 4, 181, 0, 58, 42, 7, 188, 4, 181, 0, 62, 42, 16, 40, 188, 10]
abbrev dktX2_init_5 : List UInt8 := dkwX2_init_5 ++ dktX2_init_6
def dkwX2_init_4 : List UInt8 := [42, 16, 32, 188, 10, 181, 0, 46, 42, 7, 188, 10, 181, 0, 49, 42, 7, 188, 10, 181, 0, 52, 42, 7]
abbrev dktX2_init_4 : List UInt8 := dkwX2_init_4 ++ dktX2_init_5
def dkwX2_init_3 : List UInt8 := [181, 0, 34, 42, 7, 188, 10, 181, 0, 37, 42, 7, 188, 10, 181, 0, 40, 42, 7, 188, 10, 181, 0, 43]
abbrev dktX2_init_3 : List UInt8 := dkwX2_init_3 ++ dktX2_init_4
def dkwX2_init_2 : List UInt8 := [188, 10, 181, 0, 25, 42, 7, 188, 10, 181, 0, 28, 42, 7, 188, 10, 181, 0, 31, 42, 7, 188, 10]
abbrev dktX2_init_2 : List UInt8 := dkwX2_init_2 ++ dktX2_init_3
def dkwX2_init_1 : List UInt8 := [188, 10, 181, 0, 16, 42, 16, 30, 188, 10, 181, 0, 19, 42, 16, 30, 188, 10, 181, 0, 22, 42, 7]
abbrev dktX2_init_1 : List UInt8 := dkwX2_init_1 ++ dktX2_init_2
def dkwX2_init_0 : List UInt8 := [42, 183, 0, 1, 42, 16, 30, 188, 10, 181, 0, 7, 42, 16, 30, 188, 10, 181, 0, 13, 42, 16, 30]
abbrev dktX2_init_0 : List UInt8 := dkwX2_init_0 ++ dktX2_init_1
theorem dksX2_init_0 : cX2_init.data.toList.drop 0 = dktX2_init_0 := by decide +kernel
theorem dksX2_init_1 : cX2_init.data.toList.drop 23 = dktX2_init_1 := dk_seg dksX2_init_0 23 rfl rfl
theorem dksX2_init_2 : cX2_init.data.toList.drop 46 = dktX2_init_2 := dk_seg dksX2_init_1 23 rfl rfl
theorem dksX2_init_3 : cX2_init.data.toList.drop 69 = dktX2_init_3 := dk_seg dksX2_init_2 23 rfl rfl
theorem dksX2_init_4 : cX2_init.data.toList.drop 93 = dktX2_init_4 := dk_seg dksX2_init_3 24 rfl rfl
theorem dksX2_init_5 : cX2_init.data.toList.drop 117 = dktX2_init_5 := dk_seg dksX2_init_4 24 rfl rfl
theorem dksX2_init_6 : cX2_init.data.toList.drop 141 = dktX2_init_6 := dk_seg dksX2_init_5 24 rfl rfl
theorem dksX2_init_7 : cX2_init.data.toList.drop 164 = dktX2_init_7 := dk_seg dksX2_init_6 23 rfl rfl
theorem dksX2_init_8 : cX2_init.data.toList.drop 186 = dktX2_init_8 := dk_seg dksX2_init_7 22 rfl rfl
theorem dX2_init_0 : decode cX2_init 0 = .ok (.aload_n 0, 1) := dk_42 (dk_at dksX2_init_0 0 rfl rfl)
theorem dX2_init_1 : decode cX2_init 1 = .ok (.invokespecial 1, 3) := dk_183 0 1 (dk_at dksX2_init_0 1 rfl rfl)
theorem dX2_init_4 : decode cX2_init 4 = .ok (.aload_n 0, 1) := dk_42 (dk_at dksX2_init_0 4 rfl rfl)
theorem dX2_init_5 : decode cX2_init 5 = .ok (.bipush 30, 2) := dk_16 30 (dk_at dksX2_init_0 5 rfl rfl)
theorem dX2_init_7 : decode cX2_init 7 = .ok (.newarray .int, 2) := dk_188_10 (dk_at dksX2_init_0 7 rfl rfl)
theorem dX2_init_9 : decode cX2_init 9 = .ok (.putfield 7, 3) := dk_181 0 7 (dk_at dksX2_init_0 9 rfl rfl)
theorem dX2_init_12 : decode cX2_init 12 = .ok (.aload_n 0, 1) := dk_42 (dk_at dksX2_init_0 12 rfl rfl)
theorem dX2_init_13 : decode cX2_init 13 = .ok (.bipush 30, 2) := dk_16 30 (dk_at dksX2_init_0 13 rfl rfl)
theorem dX2_init_15 : decode cX2_init 15 = .ok (.newarray .int, 2) := dk_188_10 (dk_at dksX2_init_0 15 rfl rfl)
theorem dX2_init_17 : decode cX2_init 17 = .ok (.putfield 13, 3) := dk_181 0 13 (dk_at dksX2_init_0 17 rfl rfl)
theorem dX2_init_20 : decode cX2_init 20 = .ok (.aload_n 0, 1) := dk_42 (dk_at dksX2_init_0 20 rfl rfl)
theorem dX2_init_21 : decode cX2_init 21 = .ok (.bipush 30, 2) := dk_16 30 (dk_at dksX2_init_0 21 rfl rfl)
theorem dX2_init_23 : decode cX2_init 23 = .ok (.newarray .int, 2) := dk_188_10 (dk_at dksX2_init_1 0 rfl rfl)
theorem dX2_init_25 : decode cX2_init 25 = .ok (.putfield 16, 3) := dk_181 0 16 (dk_at dksX2_init_1 2 rfl rfl)
theorem dX2_init_28 : decode cX2_init 28 = .ok (.aload_n 0, 1) := dk_42 (dk_at dksX2_init_1 5 rfl rfl)
theorem dX2_init_29 : decode cX2_init 29 = .ok (.bipush 30, 2) := dk_16 30 (dk_at dksX2_init_1 6 rfl rfl)
theorem dX2_init_31 : decode cX2_init 31 = .ok (.newarray .int, 2) := dk_188_10 (dk_at dksX2_init_1 8 rfl rfl)
theorem dX2_init_33 : decode cX2_init 33 = .ok (.putfield 19, 3) := dk_181 0 19 (dk_at dksX2_init_1 10 rfl rfl)
theorem dX2_init_36 : decode cX2_init 36 = .ok (.aload_n 0, 1) := dk_42 (dk_at dksX2_init_1 13 rfl rfl)
theorem dX2_init_37 : decode cX2_init 37 = .ok (.bipush 30, 2) := dk_16 30 (dk_at dksX2_init_1 14 rfl rfl)
theorem dX2_init_39 : decode cX2_init 39 = .ok (.newarray .int, 2) := dk_188_10 (dk_at dksX2_init_1 16 rfl rfl)
theorem dX2_init_41 : decode cX2_init 41 = .ok (.putfield 22, 3) := dk_181 0 22 (dk_at dksX2_init_1 18 rfl rfl)
theorem dX2_init_44 : decode cX2_init 44 = .ok (.aload_n 0, 1) := dk_42 (dk_at dksX2_init_1 21 rfl rfl)
theorem dX2_init_45 : decode cX2_init 45 = .ok (.iconst 4, 1) := dk_7 (dk_at dksX2_init_1 22 rfl rfl)
theorem dX2_init_46 : decode cX2_init 46 = .ok (.newarray .int, 2) := dk_188_10 (dk_at dksX2_init_2 0 rfl rfl)
theorem dX2_init_48 : decode cX2_init 48 = .ok (.putfield 25, 3) := dk_181 0 25 (dk_at dksX2_init_2 2 rfl rfl)
theorem dX2_init_51 : decode cX2_init 51 = .ok (.aload_n 0, 1) := dk_42 (dk_at dksX2_init_2 5 rfl rfl)
theorem dX2_init_52 : decode cX2_init 52 = .ok (.iconst 4, 1) := dk_7 (dk_at dksX2_init_2 6 rfl rfl)
theorem dX2_init_53 : decode cX2_init 53 = .ok (.newarray .int, 2) := dk_188_10 (dk_at dksX2_init_2 7 rfl rfl)
theorem dX2_init_55 : decode cX2_init 55 = .ok (.putfield 28, 3) := dk_181 0 28 (dk_at dksX2_init_2 9 rfl rfl)
theorem dX2_init_58 : decode cX2_init 58 = .ok (.aload_n 0, 1) := dk_42 (dk_at dksX2_init_2 12 rfl rfl)
theorem dX2_init_59 : decode cX2_init 59 = .ok (.iconst 4, 1) := dk_7 (dk_at dksX2_init_2 13 rfl rfl)
theorem dX2_init_60 : decode cX2_init 60 = .ok (.newarray .int, 2) := dk_188_10 (dk_at dksX2_init_2 14 rfl rfl)
theorem dX2_init_62 : decode cX2_init 62 = .ok (.putfield 31, 3) := dk_181 0 31 (dk_at dksX2_init_2 16 rfl rfl)
theorem dX2_init_65 : decode cX2_init 65 = .ok (.aload_n 0, 1) := dk_42 (dk_at dksX2_init_2 19 rfl rfl)
theorem dX2_init_66 : decode cX2_init 66 = .ok (.iconst 4, 1) := dk_7 (dk_at dksX2_init_2 20 rfl rfl)
theorem dX2_init_67 : decode cX2_init 67 = .ok (.newarray .int, 2) := dk_188_10 (dk_at dksX2_init_2 21 rfl rfl)
theorem dX2_init_69 : decode cX2_init 69 = .ok (.putfield 34, 3) := dk_181 0 34 (dk_at dksX2_init_3 0 rfl rfl)
theorem dX2_init_72 : decode cX2_init 72 = .ok (.aload_n 0, 1) := dk_42 (dk_at dksX2_init_3 3 rfl rfl)
theorem dX2_init_73 : decode cX2_init 73 = .ok (.iconst 4, 1) := dk_7 (dk_at dksX2_init_3 4 rfl rfl)
theorem dX2_init_74 : decode cX2_init 74 = .ok (.newarray .int, 2) := dk_188_10 (dk_at dksX2_init_3 5 rfl rfl)
theorem dX2_init_76 : decode cX2_init 76 = .ok (.putfield 37, 3) := dk_181 0 37 (dk_at dksX2_init_3 7 rfl rfl)
theorem dX2_init_79 : decode cX2_init 79 = .ok (.aload_n 0, 1) := dk_42 (dk_at dksX2_init_3 10 rfl rfl)
theorem dX2_init_80 : decode cX2_init 80 = .ok (.iconst 4, 1) := dk_7 (dk_at dksX2_init_3 11 rfl rfl)
theorem dX2_init_81 : decode cX2_init 81 = .ok (.newarray .int, 2) := dk_188_10 (dk_at dksX2_init_3 12 rfl rfl)
theorem dX2_init_83 : decode cX2_init 83 = .ok (.putfield 40, 3) := dk_181 0 40 (dk_at dksX2_init_3 14 rfl rfl)
theorem dX2_init_86 : decode cX2_init 86 = .ok (.aload_n 0, 1) := dk_42 (dk_at dksX2_init_3 17 rfl rfl)
theorem dX2_init_87 : decode cX2_init 87 = .ok (.iconst 4, 1) := dk_7 (dk_at dksX2_init_3 18 rfl rfl)
theorem dX2_init_88 : decode cX2_init 88 = .ok (.newarray .int, 2) := dk_188_10 (dk_at dksX2_init_3 19 rfl rfl)
theorem dX2_init_90 : decode cX2_init 90 = .ok (.putfield 43, 3) := dk_181 0 43 (dk_at dksX2_init_3 21 rfl rfl)
theorem dX2_init_93 : decode cX2_init 93 = .ok (.aload_n 0, 1) := dk_42 (dk_at dksX2_init_4 0 rfl rfl)
theorem dX2_init_94 : decode cX2_init 94 = .ok (.bipush 32, 2) := dk_16 32 (dk_at dksX2_init_4 1 rfl rfl)
theorem dX2_init_96 : decode cX2_init 96 = .ok (.newarray .int, 2) := dk_188_10 (dk_at dksX2_init_4 3 rfl rfl)
theorem dX2_init_98 : decode cX2_init 98 = .ok (.putfield 46, 3) := dk_181 0 46 (dk_at dksX2_init_4 5 rfl rfl)
theorem dX2_init_101 : decode cX2_init 101 = .ok (.aload_n 0, 1) := dk_42 (dk_at dksX2_init_4 8 rfl rfl)
theorem dX2_init_102 : decode cX2_init 102 = .ok (.iconst 4, 1) := dk_7 (dk_at dksX2_init_4 9 rfl rfl)
theorem dX2_init_103 : decode cX2_init 103 = .ok (.newarray .int, 2) := dk_188_10 (dk_at dksX2_init_4 10 rfl rfl)
theorem dX2_init_105 : decode cX2_init 105 = .ok (.putfield 49, 3) := dk_181 0 49 (dk_at dksX2_init_4 12 rfl rfl)
theorem dX2_init_108 : decode cX2_init 108 = .ok (.aload_n 0, 1) := dk_42 (dk_at dksX2_init_4 15 rfl rfl)
theorem dX2_init_109 : decode cX2_init 109 = .ok (.iconst 4, 1) := dk_7 (dk_at dksX2_init_4 16 rfl rfl)
theorem dX2_init_110 : decode cX2_init 110 = .ok (.newarray .int, 2) := dk_188_10 (dk_at dksX2_init_4 17 rfl rfl)
theorem dX2_init_112 : decode cX2_init 112 = .ok (.putfield 52, 3) := dk_181 0 52 (dk_at dksX2_init_4 19 rfl rfl)
theorem dX2_init_115 : decode cX2_init 115 = .ok (.aload_n 0, 1) := dk_42 (dk_at dksX2_init_4 22 rfl rfl)
theorem dX2_init_116 : decode cX2_init 116 = .ok (.iconst 4, 1) := dk_7 (dk_at dksX2_init_4 23 rfl rfl)
theorem dX2_init_117 : decode cX2_init 117 = .ok (.newarray .int, 2) := dk_188_10 (dk_at dksX2_init_5 0 rfl rfl)
theorem dX2_init_119 : decode cX2_init 119 = .ok (.putfield 55, 3) := dk_181 0 55 (dk_at dksX2_init_5 2 rfl rfl)
theorem dX2_init_122 : decode cX2_init 122 = .ok (.aload_n 0, 1) := dk_42 (dk_at dksX2_init_5 5 rfl rfl)
theorem dX2_init_123 : decode cX2_init 123 = .ok (.iconst 4, 1) := dk_7 (dk_at dksX2_init_5 6 rfl rfl)
theorem dX2_init_124 : decode cX2_init 124 = .ok (.newarray .boolean, 2) := dk_188_4 (dk_at dksX2_init_5 7 rfl rfl)
theorem dX2_init_126 : decode cX2_init 126 = .ok (.putfield 58, 3) := dk_181 0 58 (dk_at dksX2_init_5 9 rfl rfl)
theorem dX2_init_129 : decode cX2_init 129 = .ok (.aload_n 0, 1) := dk_42 (dk_at dksX2_init_5 12 rfl rfl)
theorem dX2_init_130 : decode cX2_init 130 = .ok (.iconst 4, 1) := dk_7 (dk_at dksX2_init_5 13 rfl rfl)
theorem dX2_init_131 : decode cX2_init 131 = .ok (.newarray .boolean, 2) := dk_188_4 (dk_at dksX2_init_5 14 rfl rfl)
theorem dX2_init_133 : decode cX2_init 133 = .ok (.putfield 62, 3) := dk_181 0 62 (dk_at dksX2_init_5 16 rfl rfl)
theorem dX2_init_136 : decode cX2_init 136 = .ok (.aload_n 0, 1) := dk_42 (dk_at dksX2_init_5 19 rfl rfl)
theorem dX2_init_137 : decode cX2_init 137 = .ok (.bipush 40, 2) := dk_16 40 (dk_at dksX2_init_5 20 rfl rfl)
theorem dX2_init_139 : decode cX2_init 139 = .ok (.newarray .int, 2) := dk_188_10 (dk_at dksX2_init_5 22 rfl rfl)
theorem dX2_init_141 : decode cX2_init 141 = .ok (.putfield 65, 3) := dk_181 0 65 (dk_at dksX2_init_6 0 rfl rfl)
theorem dX2_init_144 : decode cX2_init 144 = .ok (.aload_n 0, 1) := dk_42 (dk_at dksX2_init_6 3 rfl rfl)
theorem dX2_init_145 : decode cX2_init 145 = .ok (.bipush 40, 2) := dk_16 40 (dk_at dksX2_init_6 4 rfl rfl)
theorem dX2_init_147 : decode cX2_init 147 = .ok (.newarray .int, 2) := dk_188_10 (dk_at dksX2_init_6 6 rfl rfl)
theorem dX2_init_149 : decode cX2_init 149 = .ok (.putfield 68, 3) := dk_181 0 68 (dk_at dksX2_init_6 8 rfl rfl)
theorem dX2_init_152 : decode cX2_init 152 = .ok (.aload_n 0, 1) := dk_42 (dk_at dksX2_init_6 11 rfl rfl)
theorem dX2_init_153 : decode cX2_init 153 = .ok (.sipush 400, 3) := dk_17 1 144 (dk_at dksX2_init_6 12 rfl rfl)
theorem dX2_init_156 : decode cX2_init 156 = .ok (.newarray .int, 2) := dk_188_10 (dk_at dksX2_init_6 15 rfl rfl)
theorem dX2_init_158 : decode cX2_init 158 = .ok (.putfield 71, 3) := dk_181 0 71 (dk_at dksX2_init_6 17 rfl rfl)
theorem dX2_init_161 : decode cX2_init 161 = .ok (.aload_n 0, 1) := dk_42 (dk_at dksX2_init_6 20 rfl rfl)
theorem dX2_init_162 : decode cX2_init 162 = .ok (.bipush 30, 2) := dk_16 30 (dk_at dksX2_init_6 21 rfl rfl)
theorem dX2_init_164 : decode cX2_init 164 = .ok (.newarray .boolean, 2) := dk_188_4 (dk_at dksX2_init_7 0 rfl rfl)
theorem dX2_init_166 : decode cX2_init 166 = .ok (.putfield 74, 3) := dk_181 0 74 (dk_at dksX2_init_7 2 rfl rfl)
theorem dX2_init_169 : decode cX2_init 169 = .ok (.aload_n 0, 1) := dk_42 (dk_at dksX2_init_7 5 rfl rfl)
theorem dX2_init_170 : decode cX2_init 170 = .ok (.bipush 10, 2) := dk_16 10 (dk_at dksX2_init_7 6 rfl rfl)
theorem dX2_init_172 : decode cX2_init 172 = .ok (.newarray .boolean, 2) := dk_188_4 (dk_at dksX2_init_7 8 rfl rfl)
theorem dX2_init_174 : decode cX2_init 174 = .ok (.putfield 77, 3) := dk_181 0 77 (dk_at dksX2_init_7 10 rfl rfl)
theorem dX2_init_177 : decode cX2_init 177 = .ok (.aload_n 0, 1) := dk_42 (dk_at dksX2_init_7 13 rfl rfl)
theorem dX2_init_178 : decode cX2_init 178 = .ok (.iconst 1, 1) := dk_4 (dk_at dksX2_init_7 14 rfl rfl)
theorem dX2_init_179 : decode cX2_init 179 = .ok (.putfield 80, 3) := dk_181 0 80 (dk_at dksX2_init_7 15 rfl rfl)
theorem dX2_init_182 : decode cX2_init 182 = .ok (.aload_n 0, 1) := dk_42 (dk_at dksX2_init_7 18 rfl rfl)
theorem dX2_init_183 : decode cX2_init 183 = .ok (.sipush 600, 3) := dk_17 2 88 (dk_at dksX2_init_7 19 rfl rfl)
theorem dX2_init_186 : decode cX2_init 186 = .ok (.putfield 84, 3) := dk_181 0 84 (dk_at dksX2_init_8 0 rfl rfl)
theorem dX2_init_189 : decode cX2_init 189 = .ok (.return_, 1) := dk_177 (dk_at dksX2_init_8 3 rfl rfl)
abbrev cX2_thrown : ByteArray := prog_9_method_2_code
def yX2_thrown : MethodName := ⟨RX2, "thrown", "()I"⟩
theorem dX2_thrown_0 : decode cX2_thrown 0 = .ok (.aload_n 0, 1) := by decide +kernel
theorem dX2_thrown_1 : decode cX2_thrown 1 = .ok (.getfield 87, 3) := by decide +kernel
theorem dX2_thrown_4 : decode cX2_thrown 4 = .ok (.ireturn, 1) := by decide +kernel
abbrev cX2_addDisc : ByteArray := prog_9_method_8_code
def yX2_addDisc : MethodName := ⟨RX2, "addDisc", "(III)I"⟩
def dkwX2_addDisc_5 : List UInt8 := [181, 0, 90, 42, 180, 0, 90, 4, 100, 172]
abbrev dktX2_addDisc_5 : List UInt8 := dkwX2_addDisc_5 ++ []
def dkwX2_addDisc_4 : List UInt8 := [180, 0, 90, 29, 79, 42, 180, 0, 22, 42, 180, 0, 90, 2, 79, 42, 89, 180, 0, 90, 4, 96]
abbrev dktX2_addDisc_4 : List UInt8 := dkwX2_addDisc_4 ++ dktX2_addDisc_5
def dkwX2_addDisc_3 : List UInt8 := [180, 0, 7, 42, 180, 0, 90, 27, 79, 42, 180, 0, 13, 42, 180, 0, 90, 28, 79, 42, 180, 0, 16, 42]
abbrev dktX2_addDisc_3 : List UInt8 := dkwX2_addDisc_3 ++ dktX2_addDisc_4
def dkwX2_addDisc_2 : List UInt8 := [180, 0, 90, 16, 30, 162, 0, 7, 4, 167, 0, 4, 3, 5, 182, 0, 104, 153, 0, 5, 3, 172, 42]
abbrev dktX2_addDisc_2 : List UInt8 := dkwX2_addDisc_2 ++ dktX2_addDisc_3
def dkwX2_addDisc_1 : List UInt8 := [16, 99, 184, 0, 93, 153, 0, 7, 4, 167, 0, 4, 3, 4, 182, 0, 104, 154, 0, 25, 42, 42]
abbrev dktX2_addDisc_1 : List UInt8 := dkwX2_addDisc_1 ++ dktX2_addDisc_2
def dkwX2_addDisc_0 : List UInt8 := [42, 27, 3, 16, 99, 184, 0, 93, 153, 0, 27, 28, 4, 16, 50, 184, 0, 93, 153, 0, 17, 29, 3]
abbrev dktX2_addDisc_0 : List UInt8 := dkwX2_addDisc_0 ++ dktX2_addDisc_1
theorem dksX2_addDisc_0 : cX2_addDisc.data.toList.drop 0 = dktX2_addDisc_0 := by decide +kernel
theorem dksX2_addDisc_1 : cX2_addDisc.data.toList.drop 23 = dktX2_addDisc_1 := dk_seg dksX2_addDisc_0 23 rfl rfl
theorem dksX2_addDisc_2 : cX2_addDisc.data.toList.drop 45 = dktX2_addDisc_2 := dk_seg dksX2_addDisc_1 22 rfl rfl
theorem dksX2_addDisc_3 : cX2_addDisc.data.toList.drop 68 = dktX2_addDisc_3 := dk_seg dksX2_addDisc_2 23 rfl rfl
theorem dksX2_addDisc_4 : cX2_addDisc.data.toList.drop 92 = dktX2_addDisc_4 := dk_seg dksX2_addDisc_3 24 rfl rfl
theorem dksX2_addDisc_5 : cX2_addDisc.data.toList.drop 114 = dktX2_addDisc_5 := dk_seg dksX2_addDisc_4 22 rfl rfl
theorem dX2_addDisc_0 : decode cX2_addDisc 0 = .ok (.aload_n 0, 1) := dk_42 (dk_at dksX2_addDisc_0 0 rfl rfl)
theorem dX2_addDisc_1 : decode cX2_addDisc 1 = .ok (.iload_n 1, 1) := dk_27 (dk_at dksX2_addDisc_0 1 rfl rfl)
theorem dX2_addDisc_2 : decode cX2_addDisc 2 = .ok (.iconst 0, 1) := dk_3 (dk_at dksX2_addDisc_0 2 rfl rfl)
theorem dX2_addDisc_3 : decode cX2_addDisc 3 = .ok (.bipush 99, 2) := dk_16 99 (dk_at dksX2_addDisc_0 3 rfl rfl)
theorem dX2_addDisc_5 : decode cX2_addDisc 5 = .ok (.invokestatic 93, 3) := dk_184 0 93 (dk_at dksX2_addDisc_0 5 rfl rfl)
theorem dX2_addDisc_8 : decode cX2_addDisc 8 = .ok (.ifCond .eq 27, 3) := dk_153 0 27 (dk_at dksX2_addDisc_0 8 rfl rfl)
theorem dX2_addDisc_11 : decode cX2_addDisc 11 = .ok (.iload_n 2, 1) := dk_28 (dk_at dksX2_addDisc_0 11 rfl rfl)
theorem dX2_addDisc_12 : decode cX2_addDisc 12 = .ok (.iconst 1, 1) := dk_4 (dk_at dksX2_addDisc_0 12 rfl rfl)
theorem dX2_addDisc_13 : decode cX2_addDisc 13 = .ok (.bipush 50, 2) := dk_16 50 (dk_at dksX2_addDisc_0 13 rfl rfl)
theorem dX2_addDisc_15 : decode cX2_addDisc 15 = .ok (.invokestatic 93, 3) := dk_184 0 93 (dk_at dksX2_addDisc_0 15 rfl rfl)
theorem dX2_addDisc_18 : decode cX2_addDisc 18 = .ok (.ifCond .eq 17, 3) := dk_153 0 17 (dk_at dksX2_addDisc_0 18 rfl rfl)
theorem dX2_addDisc_21 : decode cX2_addDisc 21 = .ok (.iload_n 3, 1) := dk_29 (dk_at dksX2_addDisc_0 21 rfl rfl)
theorem dX2_addDisc_22 : decode cX2_addDisc 22 = .ok (.iconst 0, 1) := dk_3 (dk_at dksX2_addDisc_0 22 rfl rfl)
theorem dX2_addDisc_23 : decode cX2_addDisc 23 = .ok (.bipush 99, 2) := dk_16 99 (dk_at dksX2_addDisc_1 0 rfl rfl)
theorem dX2_addDisc_25 : decode cX2_addDisc 25 = .ok (.invokestatic 93, 3) := dk_184 0 93 (dk_at dksX2_addDisc_1 2 rfl rfl)
theorem dX2_addDisc_28 : decode cX2_addDisc 28 = .ok (.ifCond .eq 7, 3) := dk_153 0 7 (dk_at dksX2_addDisc_1 5 rfl rfl)
theorem dX2_addDisc_31 : decode cX2_addDisc 31 = .ok (.iconst 1, 1) := dk_4 (dk_at dksX2_addDisc_1 8 rfl rfl)
theorem dX2_addDisc_32 : decode cX2_addDisc 32 = .ok (.goto 4, 3) := dk_167 0 4 (dk_at dksX2_addDisc_1 9 rfl rfl)
theorem dX2_addDisc_35 : decode cX2_addDisc 35 = .ok (.iconst 0, 1) := dk_3 (dk_at dksX2_addDisc_1 12 rfl rfl)
theorem dX2_addDisc_36 : decode cX2_addDisc 36 = .ok (.iconst 1, 1) := dk_4 (dk_at dksX2_addDisc_1 13 rfl rfl)
theorem dX2_addDisc_37 : decode cX2_addDisc 37 = .ok (.invokevirtual 104, 3) := dk_182 0 104 (dk_at dksX2_addDisc_1 14 rfl rfl)
theorem dX2_addDisc_40 : decode cX2_addDisc 40 = .ok (.ifCond .ne 25, 3) := dk_154 0 25 (dk_at dksX2_addDisc_1 17 rfl rfl)
theorem dX2_addDisc_43 : decode cX2_addDisc 43 = .ok (.aload_n 0, 1) := dk_42 (dk_at dksX2_addDisc_1 20 rfl rfl)
theorem dX2_addDisc_44 : decode cX2_addDisc 44 = .ok (.aload_n 0, 1) := dk_42 (dk_at dksX2_addDisc_1 21 rfl rfl)
theorem dX2_addDisc_45 : decode cX2_addDisc 45 = .ok (.getfield 90, 3) := dk_180 0 90 (dk_at dksX2_addDisc_2 0 rfl rfl)
theorem dX2_addDisc_48 : decode cX2_addDisc 48 = .ok (.bipush 30, 2) := dk_16 30 (dk_at dksX2_addDisc_2 3 rfl rfl)
theorem dX2_addDisc_50 : decode cX2_addDisc 50 = .ok (.if_icmp .ge 7, 3) := dk_162 0 7 (dk_at dksX2_addDisc_2 5 rfl rfl)
theorem dX2_addDisc_53 : decode cX2_addDisc 53 = .ok (.iconst 1, 1) := dk_4 (dk_at dksX2_addDisc_2 8 rfl rfl)
theorem dX2_addDisc_54 : decode cX2_addDisc 54 = .ok (.goto 4, 3) := dk_167 0 4 (dk_at dksX2_addDisc_2 9 rfl rfl)
theorem dX2_addDisc_57 : decode cX2_addDisc 57 = .ok (.iconst 0, 1) := dk_3 (dk_at dksX2_addDisc_2 12 rfl rfl)
theorem dX2_addDisc_58 : decode cX2_addDisc 58 = .ok (.iconst 2, 1) := dk_5 (dk_at dksX2_addDisc_2 13 rfl rfl)
theorem dX2_addDisc_59 : decode cX2_addDisc 59 = .ok (.invokevirtual 104, 3) := dk_182 0 104 (dk_at dksX2_addDisc_2 14 rfl rfl)
theorem dX2_addDisc_62 : decode cX2_addDisc 62 = .ok (.ifCond .eq 5, 3) := dk_153 0 5 (dk_at dksX2_addDisc_2 17 rfl rfl)
theorem dX2_addDisc_65 : decode cX2_addDisc 65 = .ok (.iconst 0, 1) := dk_3 (dk_at dksX2_addDisc_2 20 rfl rfl)
theorem dX2_addDisc_66 : decode cX2_addDisc 66 = .ok (.ireturn, 1) := dk_172 (dk_at dksX2_addDisc_2 21 rfl rfl)
theorem dX2_addDisc_67 : decode cX2_addDisc 67 = .ok (.aload_n 0, 1) := dk_42 (dk_at dksX2_addDisc_2 22 rfl rfl)
theorem dX2_addDisc_68 : decode cX2_addDisc 68 = .ok (.getfield 7, 3) := dk_180 0 7 (dk_at dksX2_addDisc_3 0 rfl rfl)
theorem dX2_addDisc_71 : decode cX2_addDisc 71 = .ok (.aload_n 0, 1) := dk_42 (dk_at dksX2_addDisc_3 3 rfl rfl)
theorem dX2_addDisc_72 : decode cX2_addDisc 72 = .ok (.getfield 90, 3) := dk_180 0 90 (dk_at dksX2_addDisc_3 4 rfl rfl)
theorem dX2_addDisc_75 : decode cX2_addDisc 75 = .ok (.iload_n 1, 1) := dk_27 (dk_at dksX2_addDisc_3 7 rfl rfl)
theorem dX2_addDisc_76 : decode cX2_addDisc 76 = .ok (.iastore, 1) := dk_79 (dk_at dksX2_addDisc_3 8 rfl rfl)
theorem dX2_addDisc_77 : decode cX2_addDisc 77 = .ok (.aload_n 0, 1) := dk_42 (dk_at dksX2_addDisc_3 9 rfl rfl)
theorem dX2_addDisc_78 : decode cX2_addDisc 78 = .ok (.getfield 13, 3) := dk_180 0 13 (dk_at dksX2_addDisc_3 10 rfl rfl)
theorem dX2_addDisc_81 : decode cX2_addDisc 81 = .ok (.aload_n 0, 1) := dk_42 (dk_at dksX2_addDisc_3 13 rfl rfl)
theorem dX2_addDisc_82 : decode cX2_addDisc 82 = .ok (.getfield 90, 3) := dk_180 0 90 (dk_at dksX2_addDisc_3 14 rfl rfl)
theorem dX2_addDisc_85 : decode cX2_addDisc 85 = .ok (.iload_n 2, 1) := dk_28 (dk_at dksX2_addDisc_3 17 rfl rfl)
theorem dX2_addDisc_86 : decode cX2_addDisc 86 = .ok (.iastore, 1) := dk_79 (dk_at dksX2_addDisc_3 18 rfl rfl)
theorem dX2_addDisc_87 : decode cX2_addDisc 87 = .ok (.aload_n 0, 1) := dk_42 (dk_at dksX2_addDisc_3 19 rfl rfl)
theorem dX2_addDisc_88 : decode cX2_addDisc 88 = .ok (.getfield 16, 3) := dk_180 0 16 (dk_at dksX2_addDisc_3 20 rfl rfl)
theorem dX2_addDisc_91 : decode cX2_addDisc 91 = .ok (.aload_n 0, 1) := dk_42 (dk_at dksX2_addDisc_3 23 rfl rfl)
theorem dX2_addDisc_92 : decode cX2_addDisc 92 = .ok (.getfield 90, 3) := dk_180 0 90 (dk_at dksX2_addDisc_4 0 rfl rfl)
theorem dX2_addDisc_95 : decode cX2_addDisc 95 = .ok (.iload_n 3, 1) := dk_29 (dk_at dksX2_addDisc_4 3 rfl rfl)
theorem dX2_addDisc_96 : decode cX2_addDisc 96 = .ok (.iastore, 1) := dk_79 (dk_at dksX2_addDisc_4 4 rfl rfl)
theorem dX2_addDisc_97 : decode cX2_addDisc 97 = .ok (.aload_n 0, 1) := dk_42 (dk_at dksX2_addDisc_4 5 rfl rfl)
theorem dX2_addDisc_98 : decode cX2_addDisc 98 = .ok (.getfield 22, 3) := dk_180 0 22 (dk_at dksX2_addDisc_4 6 rfl rfl)
theorem dX2_addDisc_101 : decode cX2_addDisc 101 = .ok (.aload_n 0, 1) := dk_42 (dk_at dksX2_addDisc_4 9 rfl rfl)
theorem dX2_addDisc_102 : decode cX2_addDisc 102 = .ok (.getfield 90, 3) := dk_180 0 90 (dk_at dksX2_addDisc_4 10 rfl rfl)
theorem dX2_addDisc_105 : decode cX2_addDisc 105 = .ok (.iconst (-1), 1) := dk_2 (dk_at dksX2_addDisc_4 13 rfl rfl)
theorem dX2_addDisc_106 : decode cX2_addDisc 106 = .ok (.iastore, 1) := dk_79 (dk_at dksX2_addDisc_4 14 rfl rfl)
theorem dX2_addDisc_107 : decode cX2_addDisc 107 = .ok (.aload_n 0, 1) := dk_42 (dk_at dksX2_addDisc_4 15 rfl rfl)
theorem dX2_addDisc_108 : decode cX2_addDisc 108 = .ok (.dup, 1) := dk_89 (dk_at dksX2_addDisc_4 16 rfl rfl)
theorem dX2_addDisc_109 : decode cX2_addDisc 109 = .ok (.getfield 90, 3) := dk_180 0 90 (dk_at dksX2_addDisc_4 17 rfl rfl)
theorem dX2_addDisc_112 : decode cX2_addDisc 112 = .ok (.iconst 1, 1) := dk_4 (dk_at dksX2_addDisc_4 20 rfl rfl)
theorem dX2_addDisc_113 : decode cX2_addDisc 113 = .ok (.iadd, 1) := dk_96 (dk_at dksX2_addDisc_4 21 rfl rfl)
theorem dX2_addDisc_114 : decode cX2_addDisc 114 = .ok (.putfield 90, 3) := dk_181 0 90 (dk_at dksX2_addDisc_5 0 rfl rfl)
theorem dX2_addDisc_117 : decode cX2_addDisc 117 = .ok (.aload_n 0, 1) := dk_42 (dk_at dksX2_addDisc_5 3 rfl rfl)
theorem dX2_addDisc_118 : decode cX2_addDisc 118 = .ok (.getfield 90, 3) := dk_180 0 90 (dk_at dksX2_addDisc_5 4 rfl rfl)
theorem dX2_addDisc_121 : decode cX2_addDisc 121 = .ok (.iconst 1, 1) := dk_4 (dk_at dksX2_addDisc_5 7 rfl rfl)
theorem dX2_addDisc_122 : decode cX2_addDisc 122 = .ok (.isub, 1) := dk_100 (dk_at dksX2_addDisc_5 8 rfl rfl)
theorem dX2_addDisc_123 : decode cX2_addDisc 123 = .ok (.ireturn, 1) := dk_172 (dk_at dksX2_addDisc_5 9 rfl rfl)
abbrev cX2_isIn : ByteArray := prog_9_method_4_code
def yX2_isIn : MethodName := ⟨RX2, "isIn", "(III)Z"⟩
def dkwX2_isIn_0 : List UInt8 := [26, 27, 161, 0, 12, 26, 28, 163, 0, 7, 4, 167, 0, 4, 3, 172]
abbrev dktX2_isIn_0 : List UInt8 := dkwX2_isIn_0 ++ []
theorem dksX2_isIn_0 : cX2_isIn.data.toList.drop 0 = dktX2_isIn_0 := by decide +kernel
theorem dX2_isIn_0 : decode cX2_isIn 0 = .ok (.iload_n 0, 1) := dk_26 (dk_at dksX2_isIn_0 0 rfl rfl)
theorem dX2_isIn_1 : decode cX2_isIn 1 = .ok (.iload_n 1, 1) := dk_27 (dk_at dksX2_isIn_0 1 rfl rfl)
theorem dX2_isIn_2 : decode cX2_isIn 2 = .ok (.if_icmp .lt 12, 3) := dk_161 0 12 (dk_at dksX2_isIn_0 2 rfl rfl)
theorem dX2_isIn_5 : decode cX2_isIn 5 = .ok (.iload_n 0, 1) := dk_26 (dk_at dksX2_isIn_0 5 rfl rfl)
theorem dX2_isIn_6 : decode cX2_isIn 6 = .ok (.iload_n 2, 1) := dk_28 (dk_at dksX2_isIn_0 6 rfl rfl)
theorem dX2_isIn_7 : decode cX2_isIn 7 = .ok (.if_icmp .gt 7, 3) := dk_163 0 7 (dk_at dksX2_isIn_0 7 rfl rfl)
theorem dX2_isIn_10 : decode cX2_isIn 10 = .ok (.iconst 1, 1) := dk_4 (dk_at dksX2_isIn_0 10 rfl rfl)
theorem dX2_isIn_11 : decode cX2_isIn 11 = .ok (.goto 4, 3) := dk_167 0 4 (dk_at dksX2_isIn_0 11 rfl rfl)
theorem dX2_isIn_14 : decode cX2_isIn 14 = .ok (.iconst 0, 1) := dk_3 (dk_at dksX2_isIn_0 14 rfl rfl)
theorem dX2_isIn_15 : decode cX2_isIn 15 = .ok (.ireturn, 1) := dk_172 (dk_at dksX2_isIn_0 15 rfl rfl)
abbrev cX2_no : ByteArray := prog_9_method_3_code
def yX2_no : MethodName := ⟨RX2, "no", "(ZI)Z"⟩
def dkwX2_no_0 : List UInt8 := [42, 27, 153, 0, 7, 3, 167, 0, 4, 28, 181, 0, 87, 27, 154, 0, 7, 4, 167, 0, 4, 3, 172]
abbrev dktX2_no_0 : List UInt8 := dkwX2_no_0 ++ []
theorem dksX2_no_0 : cX2_no.data.toList.drop 0 = dktX2_no_0 := by decide +kernel
theorem dX2_no_0 : decode cX2_no 0 = .ok (.aload_n 0, 1) := dk_42 (dk_at dksX2_no_0 0 rfl rfl)
theorem dX2_no_1 : decode cX2_no 1 = .ok (.iload_n 1, 1) := dk_27 (dk_at dksX2_no_0 1 rfl rfl)
theorem dX2_no_2 : decode cX2_no 2 = .ok (.ifCond .eq 7, 3) := dk_153 0 7 (dk_at dksX2_no_0 2 rfl rfl)
theorem dX2_no_5 : decode cX2_no 5 = .ok (.iconst 0, 1) := dk_3 (dk_at dksX2_no_0 5 rfl rfl)
theorem dX2_no_6 : decode cX2_no 6 = .ok (.goto 4, 3) := dk_167 0 4 (dk_at dksX2_no_0 6 rfl rfl)
theorem dX2_no_9 : decode cX2_no 9 = .ok (.iload_n 2, 1) := dk_28 (dk_at dksX2_no_0 9 rfl rfl)
theorem dX2_no_10 : decode cX2_no 10 = .ok (.putfield 87, 3) := dk_181 0 87 (dk_at dksX2_no_0 10 rfl rfl)
theorem dX2_no_13 : decode cX2_no 13 = .ok (.iload_n 1, 1) := dk_27 (dk_at dksX2_no_0 13 rfl rfl)
theorem dX2_no_14 : decode cX2_no 14 = .ok (.ifCond .ne 7, 3) := dk_154 0 7 (dk_at dksX2_no_0 14 rfl rfl)
theorem dX2_no_17 : decode cX2_no 17 = .ok (.iconst 1, 1) := dk_4 (dk_at dksX2_no_0 17 rfl rfl)
theorem dX2_no_18 : decode cX2_no 18 = .ok (.goto 4, 3) := dk_167 0 4 (dk_at dksX2_no_0 18 rfl rfl)
theorem dX2_no_21 : decode cX2_no 21 = .ok (.iconst 0, 1) := dk_3 (dk_at dksX2_no_0 21 rfl rfl)
theorem dX2_no_22 : decode cX2_no 22 = .ok (.ireturn, 1) := dk_172 (dk_at dksX2_no_0 22 rfl rfl)
abbrev cX2_addBox : ByteArray := prog_9_method_9_code
def yX2_addBox : MethodName := ⟨RX2, "addBox", "(II)I"⟩
def dkwX2_addBox_3 : List UInt8 := [42, 180, 0, 97, 28, 79, 42, 89, 180, 0, 97, 4, 96, 181, 0, 97, 42, 180, 0, 97, 4, 100, 172]
abbrev dktX2_addBox_3 : List UInt8 := dkwX2_addBox_3 ++ []
def dkwX2_addBox_2 : List UInt8 := [3, 5, 182, 0, 104, 153, 0, 5, 3, 172, 42, 180, 0, 25, 42, 180, 0, 97, 27, 79, 42, 180, 0, 28]
abbrev dktX2_addBox_2 : List UInt8 := dkwX2_addBox_2 ++ dktX2_addBox_3
def dkwX2_addBox_1 : List UInt8 := [167, 0, 4, 3, 4, 182, 0, 104, 154, 0, 24, 42, 42, 180, 0, 97, 7, 162, 0, 7, 4, 167, 0, 4]
abbrev dktX2_addBox_1 : List UInt8 := dkwX2_addBox_1 ++ dktX2_addBox_2
def dkwX2_addBox_0 : List UInt8 := [42, 27, 3, 16, 60, 184, 0, 93, 153, 0, 17, 28, 3, 16, 9, 184, 0, 93, 153, 0, 7, 4]
abbrev dktX2_addBox_0 : List UInt8 := dkwX2_addBox_0 ++ dktX2_addBox_1
theorem dksX2_addBox_0 : cX2_addBox.data.toList.drop 0 = dktX2_addBox_0 := by decide +kernel
theorem dksX2_addBox_1 : cX2_addBox.data.toList.drop 22 = dktX2_addBox_1 := dk_seg dksX2_addBox_0 22 rfl rfl
theorem dksX2_addBox_2 : cX2_addBox.data.toList.drop 46 = dktX2_addBox_2 := dk_seg dksX2_addBox_1 24 rfl rfl
theorem dksX2_addBox_3 : cX2_addBox.data.toList.drop 70 = dktX2_addBox_3 := dk_seg dksX2_addBox_2 24 rfl rfl
theorem dX2_addBox_0 : decode cX2_addBox 0 = .ok (.aload_n 0, 1) := dk_42 (dk_at dksX2_addBox_0 0 rfl rfl)
theorem dX2_addBox_1 : decode cX2_addBox 1 = .ok (.iload_n 1, 1) := dk_27 (dk_at dksX2_addBox_0 1 rfl rfl)
theorem dX2_addBox_2 : decode cX2_addBox 2 = .ok (.iconst 0, 1) := dk_3 (dk_at dksX2_addBox_0 2 rfl rfl)
theorem dX2_addBox_3 : decode cX2_addBox 3 = .ok (.bipush 60, 2) := dk_16 60 (dk_at dksX2_addBox_0 3 rfl rfl)
theorem dX2_addBox_5 : decode cX2_addBox 5 = .ok (.invokestatic 93, 3) := dk_184 0 93 (dk_at dksX2_addBox_0 5 rfl rfl)
theorem dX2_addBox_8 : decode cX2_addBox 8 = .ok (.ifCond .eq 17, 3) := dk_153 0 17 (dk_at dksX2_addBox_0 8 rfl rfl)
theorem dX2_addBox_11 : decode cX2_addBox 11 = .ok (.iload_n 2, 1) := dk_28 (dk_at dksX2_addBox_0 11 rfl rfl)
theorem dX2_addBox_12 : decode cX2_addBox 12 = .ok (.iconst 0, 1) := dk_3 (dk_at dksX2_addBox_0 12 rfl rfl)
theorem dX2_addBox_13 : decode cX2_addBox 13 = .ok (.bipush 9, 2) := dk_16 9 (dk_at dksX2_addBox_0 13 rfl rfl)
theorem dX2_addBox_15 : decode cX2_addBox 15 = .ok (.invokestatic 93, 3) := dk_184 0 93 (dk_at dksX2_addBox_0 15 rfl rfl)
theorem dX2_addBox_18 : decode cX2_addBox 18 = .ok (.ifCond .eq 7, 3) := dk_153 0 7 (dk_at dksX2_addBox_0 18 rfl rfl)
theorem dX2_addBox_21 : decode cX2_addBox 21 = .ok (.iconst 1, 1) := dk_4 (dk_at dksX2_addBox_0 21 rfl rfl)
theorem dX2_addBox_22 : decode cX2_addBox 22 = .ok (.goto 4, 3) := dk_167 0 4 (dk_at dksX2_addBox_1 0 rfl rfl)
theorem dX2_addBox_25 : decode cX2_addBox 25 = .ok (.iconst 0, 1) := dk_3 (dk_at dksX2_addBox_1 3 rfl rfl)
theorem dX2_addBox_26 : decode cX2_addBox 26 = .ok (.iconst 1, 1) := dk_4 (dk_at dksX2_addBox_1 4 rfl rfl)
theorem dX2_addBox_27 : decode cX2_addBox 27 = .ok (.invokevirtual 104, 3) := dk_182 0 104 (dk_at dksX2_addBox_1 5 rfl rfl)
theorem dX2_addBox_30 : decode cX2_addBox 30 = .ok (.ifCond .ne 24, 3) := dk_154 0 24 (dk_at dksX2_addBox_1 8 rfl rfl)
theorem dX2_addBox_33 : decode cX2_addBox 33 = .ok (.aload_n 0, 1) := dk_42 (dk_at dksX2_addBox_1 11 rfl rfl)
theorem dX2_addBox_34 : decode cX2_addBox 34 = .ok (.aload_n 0, 1) := dk_42 (dk_at dksX2_addBox_1 12 rfl rfl)
theorem dX2_addBox_35 : decode cX2_addBox 35 = .ok (.getfield 97, 3) := dk_180 0 97 (dk_at dksX2_addBox_1 13 rfl rfl)
theorem dX2_addBox_38 : decode cX2_addBox 38 = .ok (.iconst 4, 1) := dk_7 (dk_at dksX2_addBox_1 16 rfl rfl)
theorem dX2_addBox_39 : decode cX2_addBox 39 = .ok (.if_icmp .ge 7, 3) := dk_162 0 7 (dk_at dksX2_addBox_1 17 rfl rfl)
theorem dX2_addBox_42 : decode cX2_addBox 42 = .ok (.iconst 1, 1) := dk_4 (dk_at dksX2_addBox_1 20 rfl rfl)
theorem dX2_addBox_43 : decode cX2_addBox 43 = .ok (.goto 4, 3) := dk_167 0 4 (dk_at dksX2_addBox_1 21 rfl rfl)
theorem dX2_addBox_46 : decode cX2_addBox 46 = .ok (.iconst 0, 1) := dk_3 (dk_at dksX2_addBox_2 0 rfl rfl)
theorem dX2_addBox_47 : decode cX2_addBox 47 = .ok (.iconst 2, 1) := dk_5 (dk_at dksX2_addBox_2 1 rfl rfl)
theorem dX2_addBox_48 : decode cX2_addBox 48 = .ok (.invokevirtual 104, 3) := dk_182 0 104 (dk_at dksX2_addBox_2 2 rfl rfl)
theorem dX2_addBox_51 : decode cX2_addBox 51 = .ok (.ifCond .eq 5, 3) := dk_153 0 5 (dk_at dksX2_addBox_2 5 rfl rfl)
theorem dX2_addBox_54 : decode cX2_addBox 54 = .ok (.iconst 0, 1) := dk_3 (dk_at dksX2_addBox_2 8 rfl rfl)
theorem dX2_addBox_55 : decode cX2_addBox 55 = .ok (.ireturn, 1) := dk_172 (dk_at dksX2_addBox_2 9 rfl rfl)
theorem dX2_addBox_56 : decode cX2_addBox 56 = .ok (.aload_n 0, 1) := dk_42 (dk_at dksX2_addBox_2 10 rfl rfl)
theorem dX2_addBox_57 : decode cX2_addBox 57 = .ok (.getfield 25, 3) := dk_180 0 25 (dk_at dksX2_addBox_2 11 rfl rfl)
theorem dX2_addBox_60 : decode cX2_addBox 60 = .ok (.aload_n 0, 1) := dk_42 (dk_at dksX2_addBox_2 14 rfl rfl)
theorem dX2_addBox_61 : decode cX2_addBox 61 = .ok (.getfield 97, 3) := dk_180 0 97 (dk_at dksX2_addBox_2 15 rfl rfl)
theorem dX2_addBox_64 : decode cX2_addBox 64 = .ok (.iload_n 1, 1) := dk_27 (dk_at dksX2_addBox_2 18 rfl rfl)
theorem dX2_addBox_65 : decode cX2_addBox 65 = .ok (.iastore, 1) := dk_79 (dk_at dksX2_addBox_2 19 rfl rfl)
theorem dX2_addBox_66 : decode cX2_addBox 66 = .ok (.aload_n 0, 1) := dk_42 (dk_at dksX2_addBox_2 20 rfl rfl)
theorem dX2_addBox_67 : decode cX2_addBox 67 = .ok (.getfield 28, 3) := dk_180 0 28 (dk_at dksX2_addBox_2 21 rfl rfl)
theorem dX2_addBox_70 : decode cX2_addBox 70 = .ok (.aload_n 0, 1) := dk_42 (dk_at dksX2_addBox_3 0 rfl rfl)
theorem dX2_addBox_71 : decode cX2_addBox 71 = .ok (.getfield 97, 3) := dk_180 0 97 (dk_at dksX2_addBox_3 1 rfl rfl)
theorem dX2_addBox_74 : decode cX2_addBox 74 = .ok (.iload_n 2, 1) := dk_28 (dk_at dksX2_addBox_3 4 rfl rfl)
theorem dX2_addBox_75 : decode cX2_addBox 75 = .ok (.iastore, 1) := dk_79 (dk_at dksX2_addBox_3 5 rfl rfl)
theorem dX2_addBox_76 : decode cX2_addBox 76 = .ok (.aload_n 0, 1) := dk_42 (dk_at dksX2_addBox_3 6 rfl rfl)
theorem dX2_addBox_77 : decode cX2_addBox 77 = .ok (.dup, 1) := dk_89 (dk_at dksX2_addBox_3 7 rfl rfl)
theorem dX2_addBox_78 : decode cX2_addBox 78 = .ok (.getfield 97, 3) := dk_180 0 97 (dk_at dksX2_addBox_3 8 rfl rfl)
theorem dX2_addBox_81 : decode cX2_addBox 81 = .ok (.iconst 1, 1) := dk_4 (dk_at dksX2_addBox_3 11 rfl rfl)
theorem dX2_addBox_82 : decode cX2_addBox 82 = .ok (.iadd, 1) := dk_96 (dk_at dksX2_addBox_3 12 rfl rfl)
theorem dX2_addBox_83 : decode cX2_addBox 83 = .ok (.putfield 97, 3) := dk_181 0 97 (dk_at dksX2_addBox_3 13 rfl rfl)
theorem dX2_addBox_86 : decode cX2_addBox 86 = .ok (.aload_n 0, 1) := dk_42 (dk_at dksX2_addBox_3 16 rfl rfl)
theorem dX2_addBox_87 : decode cX2_addBox 87 = .ok (.getfield 97, 3) := dk_180 0 97 (dk_at dksX2_addBox_3 17 rfl rfl)
theorem dX2_addBox_90 : decode cX2_addBox 90 = .ok (.iconst 1, 1) := dk_4 (dk_at dksX2_addBox_3 20 rfl rfl)
theorem dX2_addBox_91 : decode cX2_addBox 91 = .ok (.isub, 1) := dk_100 (dk_at dksX2_addBox_3 21 rfl rfl)
theorem dX2_addBox_92 : decode cX2_addBox 92 = .ok (.ireturn, 1) := dk_172 (dk_at dksX2_addBox_3 22 rfl rfl)
abbrev cX2_setRisk : ByteArray := prog_9_method_10_code
def yX2_setRisk : MethodName := ⟨RX2, "setRisk", "(II)I"⟩
def dkwX2_setRisk_1 : List UInt8 := [182, 0, 104, 153, 0, 5, 3, 172, 42, 180, 0, 31, 27, 46, 62, 42, 180, 0, 31, 27, 28, 79, 29, 172]
abbrev dktX2_setRisk_1 : List UInt8 := dkwX2_setRisk_1 ++ []
def dkwX2_setRisk_0 : List UInt8 := [42, 42, 27, 182, 0, 100, 4, 182, 0, 104, 154, 0, 18, 42, 28, 3, 16, 20, 184, 0, 93, 5]
abbrev dktX2_setRisk_0 : List UInt8 := dkwX2_setRisk_0 ++ dktX2_setRisk_1
theorem dksX2_setRisk_0 : cX2_setRisk.data.toList.drop 0 = dktX2_setRisk_0 := by decide +kernel
theorem dksX2_setRisk_1 : cX2_setRisk.data.toList.drop 22 = dktX2_setRisk_1 := dk_seg dksX2_setRisk_0 22 rfl rfl
theorem dX2_setRisk_0 : decode cX2_setRisk 0 = .ok (.aload_n 0, 1) := dk_42 (dk_at dksX2_setRisk_0 0 rfl rfl)
theorem dX2_setRisk_1 : decode cX2_setRisk 1 = .ok (.aload_n 0, 1) := dk_42 (dk_at dksX2_setRisk_0 1 rfl rfl)
theorem dX2_setRisk_2 : decode cX2_setRisk 2 = .ok (.iload_n 1, 1) := dk_27 (dk_at dksX2_setRisk_0 2 rfl rfl)
theorem dX2_setRisk_3 : decode cX2_setRisk 3 = .ok (.invokevirtual 100, 3) := dk_182 0 100 (dk_at dksX2_setRisk_0 3 rfl rfl)
theorem dX2_setRisk_6 : decode cX2_setRisk 6 = .ok (.iconst 1, 1) := dk_4 (dk_at dksX2_setRisk_0 6 rfl rfl)
theorem dX2_setRisk_7 : decode cX2_setRisk 7 = .ok (.invokevirtual 104, 3) := dk_182 0 104 (dk_at dksX2_setRisk_0 7 rfl rfl)
theorem dX2_setRisk_10 : decode cX2_setRisk 10 = .ok (.ifCond .ne 18, 3) := dk_154 0 18 (dk_at dksX2_setRisk_0 10 rfl rfl)
theorem dX2_setRisk_13 : decode cX2_setRisk 13 = .ok (.aload_n 0, 1) := dk_42 (dk_at dksX2_setRisk_0 13 rfl rfl)
theorem dX2_setRisk_14 : decode cX2_setRisk 14 = .ok (.iload_n 2, 1) := dk_28 (dk_at dksX2_setRisk_0 14 rfl rfl)
theorem dX2_setRisk_15 : decode cX2_setRisk 15 = .ok (.iconst 0, 1) := dk_3 (dk_at dksX2_setRisk_0 15 rfl rfl)
theorem dX2_setRisk_16 : decode cX2_setRisk 16 = .ok (.bipush 20, 2) := dk_16 20 (dk_at dksX2_setRisk_0 16 rfl rfl)
theorem dX2_setRisk_18 : decode cX2_setRisk 18 = .ok (.invokestatic 93, 3) := dk_184 0 93 (dk_at dksX2_setRisk_0 18 rfl rfl)
theorem dX2_setRisk_21 : decode cX2_setRisk 21 = .ok (.iconst 2, 1) := dk_5 (dk_at dksX2_setRisk_0 21 rfl rfl)
theorem dX2_setRisk_22 : decode cX2_setRisk 22 = .ok (.invokevirtual 104, 3) := dk_182 0 104 (dk_at dksX2_setRisk_1 0 rfl rfl)
theorem dX2_setRisk_25 : decode cX2_setRisk 25 = .ok (.ifCond .eq 5, 3) := dk_153 0 5 (dk_at dksX2_setRisk_1 3 rfl rfl)
theorem dX2_setRisk_28 : decode cX2_setRisk 28 = .ok (.iconst 0, 1) := dk_3 (dk_at dksX2_setRisk_1 6 rfl rfl)
theorem dX2_setRisk_29 : decode cX2_setRisk 29 = .ok (.ireturn, 1) := dk_172 (dk_at dksX2_setRisk_1 7 rfl rfl)
theorem dX2_setRisk_30 : decode cX2_setRisk 30 = .ok (.aload_n 0, 1) := dk_42 (dk_at dksX2_setRisk_1 8 rfl rfl)
theorem dX2_setRisk_31 : decode cX2_setRisk 31 = .ok (.getfield 31, 3) := dk_180 0 31 (dk_at dksX2_setRisk_1 9 rfl rfl)
theorem dX2_setRisk_34 : decode cX2_setRisk 34 = .ok (.iload_n 1, 1) := dk_27 (dk_at dksX2_setRisk_1 12 rfl rfl)
theorem dX2_setRisk_35 : decode cX2_setRisk 35 = .ok (.iaload, 1) := dk_46 (dk_at dksX2_setRisk_1 13 rfl rfl)
theorem dX2_setRisk_36 : decode cX2_setRisk 36 = .ok (.istore_n 3, 1) := dk_62 (dk_at dksX2_setRisk_1 14 rfl rfl)
theorem dX2_setRisk_37 : decode cX2_setRisk 37 = .ok (.aload_n 0, 1) := dk_42 (dk_at dksX2_setRisk_1 15 rfl rfl)
theorem dX2_setRisk_38 : decode cX2_setRisk 38 = .ok (.getfield 31, 3) := dk_180 0 31 (dk_at dksX2_setRisk_1 16 rfl rfl)
theorem dX2_setRisk_41 : decode cX2_setRisk 41 = .ok (.iload_n 1, 1) := dk_27 (dk_at dksX2_setRisk_1 19 rfl rfl)
theorem dX2_setRisk_42 : decode cX2_setRisk 42 = .ok (.iload_n 2, 1) := dk_28 (dk_at dksX2_setRisk_1 20 rfl rfl)
theorem dX2_setRisk_43 : decode cX2_setRisk 43 = .ok (.iastore, 1) := dk_79 (dk_at dksX2_setRisk_1 21 rfl rfl)
theorem dX2_setRisk_44 : decode cX2_setRisk 44 = .ok (.iload_n 3, 1) := dk_29 (dk_at dksX2_setRisk_1 22 rfl rfl)
theorem dX2_setRisk_45 : decode cX2_setRisk 45 = .ok (.ireturn, 1) := dk_172 (dk_at dksX2_setRisk_1 23 rfl rfl)
abbrev cX2_isBox : ByteArray := prog_9_method_6_code
def yX2_isBox : MethodName := ⟨RX2, "isBox", "(I)Z"⟩
def dkwX2_isBox_0 : List UInt8 := [27, 3, 42, 180, 0, 97, 4, 100, 184, 0, 93, 172]
abbrev dktX2_isBox_0 : List UInt8 := dkwX2_isBox_0 ++ []
theorem dksX2_isBox_0 : cX2_isBox.data.toList.drop 0 = dktX2_isBox_0 := by decide +kernel
theorem dX2_isBox_0 : decode cX2_isBox 0 = .ok (.iload_n 1, 1) := dk_27 (dk_at dksX2_isBox_0 0 rfl rfl)
theorem dX2_isBox_1 : decode cX2_isBox 1 = .ok (.iconst 0, 1) := dk_3 (dk_at dksX2_isBox_0 1 rfl rfl)
theorem dX2_isBox_2 : decode cX2_isBox 2 = .ok (.aload_n 0, 1) := dk_42 (dk_at dksX2_isBox_0 2 rfl rfl)
theorem dX2_isBox_3 : decode cX2_isBox 3 = .ok (.getfield 97, 3) := dk_180 0 97 (dk_at dksX2_isBox_0 3 rfl rfl)
theorem dX2_isBox_6 : decode cX2_isBox 6 = .ok (.iconst 1, 1) := dk_4 (dk_at dksX2_isBox_0 6 rfl rfl)
theorem dX2_isBox_7 : decode cX2_isBox 7 = .ok (.isub, 1) := dk_100 (dk_at dksX2_isBox_0 7 rfl rfl)
theorem dX2_isBox_8 : decode cX2_isBox 8 = .ok (.invokestatic 93, 3) := dk_184 0 93 (dk_at dksX2_isBox_0 8 rfl rfl)
theorem dX2_isBox_11 : decode cX2_isBox 11 = .ok (.ireturn, 1) := dk_172 (dk_at dksX2_isBox_0 11 rfl rfl)
abbrev cX2_setSeed : ByteArray := prog_9_method_11_code
def yX2_setSeed : MethodName := ⟨RX2, "setSeed", "(I)I"⟩
def dkwX2_setSeed_1 : List UInt8 := [181, 0, 80, 28, 172]
abbrev dktX2_setSeed_1 : List UInt8 := dkwX2_setSeed_1 ++ []
def dkwX2_setSeed_0 : List UInt8 := [42, 27, 4, 18, 108, 184, 0, 93, 4, 182, 0, 104, 153, 0, 5, 3, 172, 42, 180, 0, 80, 61, 42, 27]
abbrev dktX2_setSeed_0 : List UInt8 := dkwX2_setSeed_0 ++ dktX2_setSeed_1
theorem dksX2_setSeed_0 : cX2_setSeed.data.toList.drop 0 = dktX2_setSeed_0 := by decide +kernel
theorem dksX2_setSeed_1 : cX2_setSeed.data.toList.drop 24 = dktX2_setSeed_1 := dk_seg dksX2_setSeed_0 24 rfl rfl
theorem dX2_setSeed_0 : decode cX2_setSeed 0 = .ok (.aload_n 0, 1) := dk_42 (dk_at dksX2_setSeed_0 0 rfl rfl)
theorem dX2_setSeed_1 : decode cX2_setSeed 1 = .ok (.iload_n 1, 1) := dk_27 (dk_at dksX2_setSeed_0 1 rfl rfl)
theorem dX2_setSeed_2 : decode cX2_setSeed 2 = .ok (.iconst 1, 1) := dk_4 (dk_at dksX2_setSeed_0 2 rfl rfl)
theorem dX2_setSeed_3 : decode cX2_setSeed 3 = .ok (.ldc 108, 2) := dk_18 108 (dk_at dksX2_setSeed_0 3 rfl rfl)
theorem dX2_setSeed_5 : decode cX2_setSeed 5 = .ok (.invokestatic 93, 3) := dk_184 0 93 (dk_at dksX2_setSeed_0 5 rfl rfl)
theorem dX2_setSeed_8 : decode cX2_setSeed 8 = .ok (.iconst 1, 1) := dk_4 (dk_at dksX2_setSeed_0 8 rfl rfl)
theorem dX2_setSeed_9 : decode cX2_setSeed 9 = .ok (.invokevirtual 104, 3) := dk_182 0 104 (dk_at dksX2_setSeed_0 9 rfl rfl)
theorem dX2_setSeed_12 : decode cX2_setSeed 12 = .ok (.ifCond .eq 5, 3) := dk_153 0 5 (dk_at dksX2_setSeed_0 12 rfl rfl)
theorem dX2_setSeed_15 : decode cX2_setSeed 15 = .ok (.iconst 0, 1) := dk_3 (dk_at dksX2_setSeed_0 15 rfl rfl)
theorem dX2_setSeed_16 : decode cX2_setSeed 16 = .ok (.ireturn, 1) := dk_172 (dk_at dksX2_setSeed_0 16 rfl rfl)
theorem dX2_setSeed_17 : decode cX2_setSeed 17 = .ok (.aload_n 0, 1) := dk_42 (dk_at dksX2_setSeed_0 17 rfl rfl)
theorem dX2_setSeed_18 : decode cX2_setSeed 18 = .ok (.getfield 80, 3) := dk_180 0 80 (dk_at dksX2_setSeed_0 18 rfl rfl)
theorem dX2_setSeed_21 : decode cX2_setSeed 21 = .ok (.istore_n 2, 1) := dk_61 (dk_at dksX2_setSeed_0 21 rfl rfl)
theorem dX2_setSeed_22 : decode cX2_setSeed 22 = .ok (.aload_n 0, 1) := dk_42 (dk_at dksX2_setSeed_0 22 rfl rfl)
theorem dX2_setSeed_23 : decode cX2_setSeed 23 = .ok (.iload_n 1, 1) := dk_27 (dk_at dksX2_setSeed_0 23 rfl rfl)
theorem dX2_setSeed_24 : decode cX2_setSeed 24 = .ok (.putfield 80, 3) := dk_181 0 80 (dk_at dksX2_setSeed_1 0 rfl rfl)
theorem dX2_setSeed_27 : decode cX2_setSeed 27 = .ok (.iload_n 2, 1) := dk_28 (dk_at dksX2_setSeed_1 3 rfl rfl)
theorem dX2_setSeed_28 : decode cX2_setSeed 28 = .ok (.ireturn, 1) := dk_172 (dk_at dksX2_setSeed_1 4 rfl rfl)
abbrev cX2_insert : ByteArray := prog_9_method_14_code
def yX2_insert : MethodName := ⟨RX2, "insert", "(IC)I"⟩
def dkwX2_insert_7 : List UInt8 := [16, 25, 167, 0, 4, 3, 96, 79, 42, 180, 0, 34, 27, 46, 172]
abbrev dktX2_insert_7 : List UInt8 := dkwX2_insert_7 ++ []
def dkwX2_insert_6 : List UInt8 := [160, 0, 7, 8, 167, 0, 26, 28, 16, 100, 160, 0, 8, 16, 10, 167, 0, 15, 28, 16, 113, 160, 0, 8]
abbrev dktX2_insert_6 : List UInt8 := dkwX2_insert_6 ++ dktX2_insert_7
def dkwX2_insert_5 : List UInt8 := [3, 172, 42, 180, 0, 34, 27, 92, 46, 29, 96, 79, 42, 180, 0, 37, 27, 92, 46, 28, 16, 110]
abbrev dktX2_insert_5 : List UInt8 := dkwX2_insert_5 ++ dktX2_insert_6
def dkwX2_insert_4 : List UInt8 := [180, 0, 34, 27, 46, 29, 96, 16, 99, 163, 0, 7, 4, 167, 0, 4, 3, 7, 182, 0, 104, 153, 0, 5]
abbrev dktX2_insert_4 : List UInt8 := dkwX2_insert_4 ++ dktX2_insert_5
def dkwX2_insert_3 : List UInt8 := [42, 180, 0, 58, 27, 51, 154, 0, 7, 4, 167, 0, 4, 3, 6, 182, 0, 104, 154, 0, 29, 42, 42]
abbrev dktX2_insert_3 : List UInt8 := dkwX2_insert_3 ++ dktX2_insert_4
def dkwX2_insert_2 : List UInt8 := [182, 0, 104, 154, 0, 68, 42, 29, 158, 0, 7, 4, 167, 0, 4, 3, 5, 182, 0, 104, 154, 0, 51, 42]
abbrev dktX2_insert_2 : List UInt8 := dkwX2_insert_2 ++ dktX2_insert_3
def dkwX2_insert_1 : List UInt8 := [159, 0, 9, 28, 16, 115, 160, 0, 8, 16, 6, 167, 0, 4, 3, 62, 42, 42, 27, 182, 0, 100, 4]
abbrev dktX2_insert_1 : List UInt8 := dkwX2_insert_1 ++ dktX2_insert_2
def dkwX2_insert_0 : List UInt8 := [28, 16, 110, 160, 0, 7, 4, 167, 0, 31, 28, 16, 100, 160, 0, 7, 5, 167, 0, 21, 28, 16, 113]
abbrev dktX2_insert_0 : List UInt8 := dkwX2_insert_0 ++ dktX2_insert_1
theorem dksX2_insert_0 : cX2_insert.data.toList.drop 0 = dktX2_insert_0 := by decide +kernel
theorem dksX2_insert_1 : cX2_insert.data.toList.drop 23 = dktX2_insert_1 := dk_seg dksX2_insert_0 23 rfl rfl
theorem dksX2_insert_2 : cX2_insert.data.toList.drop 46 = dktX2_insert_2 := dk_seg dksX2_insert_1 23 rfl rfl
theorem dksX2_insert_3 : cX2_insert.data.toList.drop 70 = dktX2_insert_3 := dk_seg dksX2_insert_2 24 rfl rfl
theorem dksX2_insert_4 : cX2_insert.data.toList.drop 93 = dktX2_insert_4 := dk_seg dksX2_insert_3 23 rfl rfl
theorem dksX2_insert_5 : cX2_insert.data.toList.drop 117 = dktX2_insert_5 := dk_seg dksX2_insert_4 24 rfl rfl
theorem dksX2_insert_6 : cX2_insert.data.toList.drop 139 = dktX2_insert_6 := dk_seg dksX2_insert_5 22 rfl rfl
theorem dksX2_insert_7 : cX2_insert.data.toList.drop 163 = dktX2_insert_7 := dk_seg dksX2_insert_6 24 rfl rfl
theorem dX2_insert_0 : decode cX2_insert 0 = .ok (.iload_n 2, 1) := dk_28 (dk_at dksX2_insert_0 0 rfl rfl)
theorem dX2_insert_1 : decode cX2_insert 1 = .ok (.bipush 110, 2) := dk_16 110 (dk_at dksX2_insert_0 1 rfl rfl)
theorem dX2_insert_3 : decode cX2_insert 3 = .ok (.if_icmp .ne 7, 3) := dk_160 0 7 (dk_at dksX2_insert_0 3 rfl rfl)
theorem dX2_insert_6 : decode cX2_insert 6 = .ok (.iconst 1, 1) := dk_4 (dk_at dksX2_insert_0 6 rfl rfl)
theorem dX2_insert_7 : decode cX2_insert 7 = .ok (.goto 31, 3) := dk_167 0 31 (dk_at dksX2_insert_0 7 rfl rfl)
theorem dX2_insert_10 : decode cX2_insert 10 = .ok (.iload_n 2, 1) := dk_28 (dk_at dksX2_insert_0 10 rfl rfl)
theorem dX2_insert_11 : decode cX2_insert 11 = .ok (.bipush 100, 2) := dk_16 100 (dk_at dksX2_insert_0 11 rfl rfl)
theorem dX2_insert_13 : decode cX2_insert 13 = .ok (.if_icmp .ne 7, 3) := dk_160 0 7 (dk_at dksX2_insert_0 13 rfl rfl)
theorem dX2_insert_16 : decode cX2_insert 16 = .ok (.iconst 2, 1) := dk_5 (dk_at dksX2_insert_0 16 rfl rfl)
theorem dX2_insert_17 : decode cX2_insert 17 = .ok (.goto 21, 3) := dk_167 0 21 (dk_at dksX2_insert_0 17 rfl rfl)
theorem dX2_insert_20 : decode cX2_insert 20 = .ok (.iload_n 2, 1) := dk_28 (dk_at dksX2_insert_0 20 rfl rfl)
theorem dX2_insert_21 : decode cX2_insert 21 = .ok (.bipush 113, 2) := dk_16 113 (dk_at dksX2_insert_0 21 rfl rfl)
theorem dX2_insert_23 : decode cX2_insert 23 = .ok (.if_icmp .eq 9, 3) := dk_159 0 9 (dk_at dksX2_insert_1 0 rfl rfl)
theorem dX2_insert_26 : decode cX2_insert 26 = .ok (.iload_n 2, 1) := dk_28 (dk_at dksX2_insert_1 3 rfl rfl)
theorem dX2_insert_27 : decode cX2_insert 27 = .ok (.bipush 115, 2) := dk_16 115 (dk_at dksX2_insert_1 4 rfl rfl)
theorem dX2_insert_29 : decode cX2_insert 29 = .ok (.if_icmp .ne 8, 3) := dk_160 0 8 (dk_at dksX2_insert_1 6 rfl rfl)
theorem dX2_insert_32 : decode cX2_insert 32 = .ok (.bipush 6, 2) := dk_16 6 (dk_at dksX2_insert_1 9 rfl rfl)
theorem dX2_insert_34 : decode cX2_insert 34 = .ok (.goto 4, 3) := dk_167 0 4 (dk_at dksX2_insert_1 11 rfl rfl)
theorem dX2_insert_37 : decode cX2_insert 37 = .ok (.iconst 0, 1) := dk_3 (dk_at dksX2_insert_1 14 rfl rfl)
theorem dX2_insert_38 : decode cX2_insert 38 = .ok (.istore_n 3, 1) := dk_62 (dk_at dksX2_insert_1 15 rfl rfl)
theorem dX2_insert_39 : decode cX2_insert 39 = .ok (.aload_n 0, 1) := dk_42 (dk_at dksX2_insert_1 16 rfl rfl)
theorem dX2_insert_40 : decode cX2_insert 40 = .ok (.aload_n 0, 1) := dk_42 (dk_at dksX2_insert_1 17 rfl rfl)
theorem dX2_insert_41 : decode cX2_insert 41 = .ok (.iload_n 1, 1) := dk_27 (dk_at dksX2_insert_1 18 rfl rfl)
theorem dX2_insert_42 : decode cX2_insert 42 = .ok (.invokevirtual 100, 3) := dk_182 0 100 (dk_at dksX2_insert_1 19 rfl rfl)
theorem dX2_insert_45 : decode cX2_insert 45 = .ok (.iconst 1, 1) := dk_4 (dk_at dksX2_insert_1 22 rfl rfl)
theorem dX2_insert_46 : decode cX2_insert 46 = .ok (.invokevirtual 104, 3) := dk_182 0 104 (dk_at dksX2_insert_2 0 rfl rfl)
theorem dX2_insert_49 : decode cX2_insert 49 = .ok (.ifCond .ne 68, 3) := dk_154 0 68 (dk_at dksX2_insert_2 3 rfl rfl)
theorem dX2_insert_52 : decode cX2_insert 52 = .ok (.aload_n 0, 1) := dk_42 (dk_at dksX2_insert_2 6 rfl rfl)
theorem dX2_insert_53 : decode cX2_insert 53 = .ok (.iload_n 3, 1) := dk_29 (dk_at dksX2_insert_2 7 rfl rfl)
theorem dX2_insert_54 : decode cX2_insert 54 = .ok (.ifCond .le 7, 3) := dk_158 0 7 (dk_at dksX2_insert_2 8 rfl rfl)
theorem dX2_insert_57 : decode cX2_insert 57 = .ok (.iconst 1, 1) := dk_4 (dk_at dksX2_insert_2 11 rfl rfl)
theorem dX2_insert_58 : decode cX2_insert 58 = .ok (.goto 4, 3) := dk_167 0 4 (dk_at dksX2_insert_2 12 rfl rfl)
theorem dX2_insert_61 : decode cX2_insert 61 = .ok (.iconst 0, 1) := dk_3 (dk_at dksX2_insert_2 15 rfl rfl)
theorem dX2_insert_62 : decode cX2_insert 62 = .ok (.iconst 2, 1) := dk_5 (dk_at dksX2_insert_2 16 rfl rfl)
theorem dX2_insert_63 : decode cX2_insert 63 = .ok (.invokevirtual 104, 3) := dk_182 0 104 (dk_at dksX2_insert_2 17 rfl rfl)
theorem dX2_insert_66 : decode cX2_insert 66 = .ok (.ifCond .ne 51, 3) := dk_154 0 51 (dk_at dksX2_insert_2 20 rfl rfl)
theorem dX2_insert_69 : decode cX2_insert 69 = .ok (.aload_n 0, 1) := dk_42 (dk_at dksX2_insert_2 23 rfl rfl)
theorem dX2_insert_70 : decode cX2_insert 70 = .ok (.aload_n 0, 1) := dk_42 (dk_at dksX2_insert_3 0 rfl rfl)
theorem dX2_insert_71 : decode cX2_insert 71 = .ok (.getfield 58, 3) := dk_180 0 58 (dk_at dksX2_insert_3 1 rfl rfl)
theorem dX2_insert_74 : decode cX2_insert 74 = .ok (.iload_n 1, 1) := dk_27 (dk_at dksX2_insert_3 4 rfl rfl)
theorem dX2_insert_75 : decode cX2_insert 75 = .ok (.baload, 1) := dk_51 (dk_at dksX2_insert_3 5 rfl rfl)
theorem dX2_insert_76 : decode cX2_insert 76 = .ok (.ifCond .ne 7, 3) := dk_154 0 7 (dk_at dksX2_insert_3 6 rfl rfl)
theorem dX2_insert_79 : decode cX2_insert 79 = .ok (.iconst 1, 1) := dk_4 (dk_at dksX2_insert_3 9 rfl rfl)
theorem dX2_insert_80 : decode cX2_insert 80 = .ok (.goto 4, 3) := dk_167 0 4 (dk_at dksX2_insert_3 10 rfl rfl)
theorem dX2_insert_83 : decode cX2_insert 83 = .ok (.iconst 0, 1) := dk_3 (dk_at dksX2_insert_3 13 rfl rfl)
theorem dX2_insert_84 : decode cX2_insert 84 = .ok (.iconst 3, 1) := dk_6 (dk_at dksX2_insert_3 14 rfl rfl)
theorem dX2_insert_85 : decode cX2_insert 85 = .ok (.invokevirtual 104, 3) := dk_182 0 104 (dk_at dksX2_insert_3 15 rfl rfl)
theorem dX2_insert_88 : decode cX2_insert 88 = .ok (.ifCond .ne 29, 3) := dk_154 0 29 (dk_at dksX2_insert_3 18 rfl rfl)
theorem dX2_insert_91 : decode cX2_insert 91 = .ok (.aload_n 0, 1) := dk_42 (dk_at dksX2_insert_3 21 rfl rfl)
theorem dX2_insert_92 : decode cX2_insert 92 = .ok (.aload_n 0, 1) := dk_42 (dk_at dksX2_insert_3 22 rfl rfl)
theorem dX2_insert_93 : decode cX2_insert 93 = .ok (.getfield 34, 3) := dk_180 0 34 (dk_at dksX2_insert_4 0 rfl rfl)
theorem dX2_insert_96 : decode cX2_insert 96 = .ok (.iload_n 1, 1) := dk_27 (dk_at dksX2_insert_4 3 rfl rfl)
theorem dX2_insert_97 : decode cX2_insert 97 = .ok (.iaload, 1) := dk_46 (dk_at dksX2_insert_4 4 rfl rfl)
theorem dX2_insert_98 : decode cX2_insert 98 = .ok (.iload_n 3, 1) := dk_29 (dk_at dksX2_insert_4 5 rfl rfl)
theorem dX2_insert_99 : decode cX2_insert 99 = .ok (.iadd, 1) := dk_96 (dk_at dksX2_insert_4 6 rfl rfl)
theorem dX2_insert_100 : decode cX2_insert 100 = .ok (.bipush 99, 2) := dk_16 99 (dk_at dksX2_insert_4 7 rfl rfl)
theorem dX2_insert_102 : decode cX2_insert 102 = .ok (.if_icmp .gt 7, 3) := dk_163 0 7 (dk_at dksX2_insert_4 9 rfl rfl)
theorem dX2_insert_105 : decode cX2_insert 105 = .ok (.iconst 1, 1) := dk_4 (dk_at dksX2_insert_4 12 rfl rfl)
theorem dX2_insert_106 : decode cX2_insert 106 = .ok (.goto 4, 3) := dk_167 0 4 (dk_at dksX2_insert_4 13 rfl rfl)
theorem dX2_insert_109 : decode cX2_insert 109 = .ok (.iconst 0, 1) := dk_3 (dk_at dksX2_insert_4 16 rfl rfl)
theorem dX2_insert_110 : decode cX2_insert 110 = .ok (.iconst 4, 1) := dk_7 (dk_at dksX2_insert_4 17 rfl rfl)
theorem dX2_insert_111 : decode cX2_insert 111 = .ok (.invokevirtual 104, 3) := dk_182 0 104 (dk_at dksX2_insert_4 18 rfl rfl)
theorem dX2_insert_114 : decode cX2_insert 114 = .ok (.ifCond .eq 5, 3) := dk_153 0 5 (dk_at dksX2_insert_4 21 rfl rfl)
theorem dX2_insert_117 : decode cX2_insert 117 = .ok (.iconst 0, 1) := dk_3 (dk_at dksX2_insert_5 0 rfl rfl)
theorem dX2_insert_118 : decode cX2_insert 118 = .ok (.ireturn, 1) := dk_172 (dk_at dksX2_insert_5 1 rfl rfl)
theorem dX2_insert_119 : decode cX2_insert 119 = .ok (.aload_n 0, 1) := dk_42 (dk_at dksX2_insert_5 2 rfl rfl)
theorem dX2_insert_120 : decode cX2_insert 120 = .ok (.getfield 34, 3) := dk_180 0 34 (dk_at dksX2_insert_5 3 rfl rfl)
theorem dX2_insert_123 : decode cX2_insert 123 = .ok (.iload_n 1, 1) := dk_27 (dk_at dksX2_insert_5 6 rfl rfl)
theorem dX2_insert_124 : decode cX2_insert 124 = .ok (.dup2, 1) := dk_92 (dk_at dksX2_insert_5 7 rfl rfl)
theorem dX2_insert_125 : decode cX2_insert 125 = .ok (.iaload, 1) := dk_46 (dk_at dksX2_insert_5 8 rfl rfl)
theorem dX2_insert_126 : decode cX2_insert 126 = .ok (.iload_n 3, 1) := dk_29 (dk_at dksX2_insert_5 9 rfl rfl)
theorem dX2_insert_127 : decode cX2_insert 127 = .ok (.iadd, 1) := dk_96 (dk_at dksX2_insert_5 10 rfl rfl)
theorem dX2_insert_128 : decode cX2_insert 128 = .ok (.iastore, 1) := dk_79 (dk_at dksX2_insert_5 11 rfl rfl)
theorem dX2_insert_129 : decode cX2_insert 129 = .ok (.aload_n 0, 1) := dk_42 (dk_at dksX2_insert_5 12 rfl rfl)
theorem dX2_insert_130 : decode cX2_insert 130 = .ok (.getfield 37, 3) := dk_180 0 37 (dk_at dksX2_insert_5 13 rfl rfl)
theorem dX2_insert_133 : decode cX2_insert 133 = .ok (.iload_n 1, 1) := dk_27 (dk_at dksX2_insert_5 16 rfl rfl)
theorem dX2_insert_134 : decode cX2_insert 134 = .ok (.dup2, 1) := dk_92 (dk_at dksX2_insert_5 17 rfl rfl)
theorem dX2_insert_135 : decode cX2_insert 135 = .ok (.iaload, 1) := dk_46 (dk_at dksX2_insert_5 18 rfl rfl)
theorem dX2_insert_136 : decode cX2_insert 136 = .ok (.iload_n 2, 1) := dk_28 (dk_at dksX2_insert_5 19 rfl rfl)
theorem dX2_insert_137 : decode cX2_insert 137 = .ok (.bipush 110, 2) := dk_16 110 (dk_at dksX2_insert_5 20 rfl rfl)
theorem dX2_insert_139 : decode cX2_insert 139 = .ok (.if_icmp .ne 7, 3) := dk_160 0 7 (dk_at dksX2_insert_6 0 rfl rfl)
theorem dX2_insert_142 : decode cX2_insert 142 = .ok (.iconst 5, 1) := dk_8 (dk_at dksX2_insert_6 3 rfl rfl)
theorem dX2_insert_143 : decode cX2_insert 143 = .ok (.goto 26, 3) := dk_167 0 26 (dk_at dksX2_insert_6 4 rfl rfl)
theorem dX2_insert_146 : decode cX2_insert 146 = .ok (.iload_n 2, 1) := dk_28 (dk_at dksX2_insert_6 7 rfl rfl)
theorem dX2_insert_147 : decode cX2_insert 147 = .ok (.bipush 100, 2) := dk_16 100 (dk_at dksX2_insert_6 8 rfl rfl)
theorem dX2_insert_149 : decode cX2_insert 149 = .ok (.if_icmp .ne 8, 3) := dk_160 0 8 (dk_at dksX2_insert_6 10 rfl rfl)
theorem dX2_insert_152 : decode cX2_insert 152 = .ok (.bipush 10, 2) := dk_16 10 (dk_at dksX2_insert_6 13 rfl rfl)
theorem dX2_insert_154 : decode cX2_insert 154 = .ok (.goto 15, 3) := dk_167 0 15 (dk_at dksX2_insert_6 15 rfl rfl)
theorem dX2_insert_157 : decode cX2_insert 157 = .ok (.iload_n 2, 1) := dk_28 (dk_at dksX2_insert_6 18 rfl rfl)
theorem dX2_insert_158 : decode cX2_insert 158 = .ok (.bipush 113, 2) := dk_16 113 (dk_at dksX2_insert_6 19 rfl rfl)
theorem dX2_insert_160 : decode cX2_insert 160 = .ok (.if_icmp .ne 8, 3) := dk_160 0 8 (dk_at dksX2_insert_6 21 rfl rfl)
theorem dX2_insert_163 : decode cX2_insert 163 = .ok (.bipush 25, 2) := dk_16 25 (dk_at dksX2_insert_7 0 rfl rfl)
theorem dX2_insert_165 : decode cX2_insert 165 = .ok (.goto 4, 3) := dk_167 0 4 (dk_at dksX2_insert_7 2 rfl rfl)
theorem dX2_insert_168 : decode cX2_insert 168 = .ok (.iconst 0, 1) := dk_3 (dk_at dksX2_insert_7 5 rfl rfl)
theorem dX2_insert_169 : decode cX2_insert 169 = .ok (.iadd, 1) := dk_96 (dk_at dksX2_insert_7 6 rfl rfl)
theorem dX2_insert_170 : decode cX2_insert 170 = .ok (.iastore, 1) := dk_79 (dk_at dksX2_insert_7 7 rfl rfl)
theorem dX2_insert_171 : decode cX2_insert 171 = .ok (.aload_n 0, 1) := dk_42 (dk_at dksX2_insert_7 8 rfl rfl)
theorem dX2_insert_172 : decode cX2_insert 172 = .ok (.getfield 34, 3) := dk_180 0 34 (dk_at dksX2_insert_7 9 rfl rfl)
theorem dX2_insert_175 : decode cX2_insert 175 = .ok (.iload_n 1, 1) := dk_27 (dk_at dksX2_insert_7 12 rfl rfl)
theorem dX2_insert_176 : decode cX2_insert 176 = .ok (.iaload, 1) := dk_46 (dk_at dksX2_insert_7 13 rfl rfl)
theorem dX2_insert_177 : decode cX2_insert 177 = .ok (.ireturn, 1) := dk_172 (dk_at dksX2_insert_7 14 rfl rfl)
abbrev cX2_press : ByteArray := prog_9_method_15_code
def yX2_press : MethodName := ⟨RX2, "press", "(II)I"⟩
def dkwX2_press_5 : List UInt8 := [172]
abbrev dktX2_press_5 : List UInt8 := dkwX2_press_5 ++ []
def dkwX2_press_4 : List UInt8 := [180, 0, 43, 27, 46, 96, 28, 79, 42, 180, 0, 43, 27, 92, 46, 4, 96, 79, 42, 180, 0, 43, 27, 46]
abbrev dktX2_press_4 : List UInt8 := dkwX2_press_4 ++ dktX2_press_5
def dkwX2_press_3 : List UInt8 := [153, 0, 5, 3, 172, 42, 180, 0, 34, 27, 92, 46, 4, 100, 79, 42, 180, 0, 46, 16, 8, 27, 104, 42]
abbrev dktX2_press_3 : List UInt8 := dkwX2_press_3 ++ dktX2_press_4
def dkwX2_press_2 : List UInt8 := [154, 0, 27, 42, 42, 180, 0, 43, 27, 46, 16, 8, 162, 0, 7, 4, 167, 0, 4, 3, 6, 182, 0, 104]
abbrev dktX2_press_2 : List UInt8 := dkwX2_press_2 ++ dktX2_press_3
def dkwX2_press_1 : List UInt8 := [42, 180, 0, 65, 16, 10, 27, 104, 28, 96, 46, 158, 0, 7, 4, 167, 0, 4, 3, 5, 182, 0, 104]
abbrev dktX2_press_1 : List UInt8 := dkwX2_press_1 ++ dktX2_press_2
def dkwX2_press_0 : List UInt8 := [42, 42, 27, 28, 182, 0, 116, 4, 182, 0, 104, 154, 0, 63, 42, 42, 180, 0, 34, 27, 46, 158, 0, 21]
abbrev dktX2_press_0 : List UInt8 := dkwX2_press_0 ++ dktX2_press_1
theorem dksX2_press_0 : cX2_press.data.toList.drop 0 = dktX2_press_0 := by decide +kernel
theorem dksX2_press_1 : cX2_press.data.toList.drop 24 = dktX2_press_1 := dk_seg dksX2_press_0 24 rfl rfl
theorem dksX2_press_2 : cX2_press.data.toList.drop 47 = dktX2_press_2 := dk_seg dksX2_press_1 23 rfl rfl
theorem dksX2_press_3 : cX2_press.data.toList.drop 71 = dktX2_press_3 := dk_seg dksX2_press_2 24 rfl rfl
theorem dksX2_press_4 : cX2_press.data.toList.drop 95 = dktX2_press_4 := dk_seg dksX2_press_3 24 rfl rfl
theorem dksX2_press_5 : cX2_press.data.toList.drop 119 = dktX2_press_5 := dk_seg dksX2_press_4 24 rfl rfl
theorem dX2_press_0 : decode cX2_press 0 = .ok (.aload_n 0, 1) := dk_42 (dk_at dksX2_press_0 0 rfl rfl)
theorem dX2_press_1 : decode cX2_press 1 = .ok (.aload_n 0, 1) := dk_42 (dk_at dksX2_press_0 1 rfl rfl)
theorem dX2_press_2 : decode cX2_press 2 = .ok (.iload_n 1, 1) := dk_27 (dk_at dksX2_press_0 2 rfl rfl)
theorem dX2_press_3 : decode cX2_press 3 = .ok (.iload_n 2, 1) := dk_28 (dk_at dksX2_press_0 3 rfl rfl)
theorem dX2_press_4 : decode cX2_press 4 = .ok (.invokevirtual 116, 3) := dk_182 0 116 (dk_at dksX2_press_0 4 rfl rfl)
theorem dX2_press_7 : decode cX2_press 7 = .ok (.iconst 1, 1) := dk_4 (dk_at dksX2_press_0 7 rfl rfl)
theorem dX2_press_8 : decode cX2_press 8 = .ok (.invokevirtual 104, 3) := dk_182 0 104 (dk_at dksX2_press_0 8 rfl rfl)
theorem dX2_press_11 : decode cX2_press 11 = .ok (.ifCond .ne 63, 3) := dk_154 0 63 (dk_at dksX2_press_0 11 rfl rfl)
theorem dX2_press_14 : decode cX2_press 14 = .ok (.aload_n 0, 1) := dk_42 (dk_at dksX2_press_0 14 rfl rfl)
theorem dX2_press_15 : decode cX2_press 15 = .ok (.aload_n 0, 1) := dk_42 (dk_at dksX2_press_0 15 rfl rfl)
theorem dX2_press_16 : decode cX2_press 16 = .ok (.getfield 34, 3) := dk_180 0 34 (dk_at dksX2_press_0 16 rfl rfl)
theorem dX2_press_19 : decode cX2_press 19 = .ok (.iload_n 1, 1) := dk_27 (dk_at dksX2_press_0 19 rfl rfl)
theorem dX2_press_20 : decode cX2_press 20 = .ok (.iaload, 1) := dk_46 (dk_at dksX2_press_0 20 rfl rfl)
theorem dX2_press_21 : decode cX2_press 21 = .ok (.ifCond .le 21, 3) := dk_158 0 21 (dk_at dksX2_press_0 21 rfl rfl)
theorem dX2_press_24 : decode cX2_press 24 = .ok (.aload_n 0, 1) := dk_42 (dk_at dksX2_press_1 0 rfl rfl)
theorem dX2_press_25 : decode cX2_press 25 = .ok (.getfield 65, 3) := dk_180 0 65 (dk_at dksX2_press_1 1 rfl rfl)
theorem dX2_press_28 : decode cX2_press 28 = .ok (.bipush 10, 2) := dk_16 10 (dk_at dksX2_press_1 4 rfl rfl)
theorem dX2_press_30 : decode cX2_press 30 = .ok (.iload_n 1, 1) := dk_27 (dk_at dksX2_press_1 6 rfl rfl)
theorem dX2_press_31 : decode cX2_press 31 = .ok (.imul, 1) := dk_104 (dk_at dksX2_press_1 7 rfl rfl)
theorem dX2_press_32 : decode cX2_press 32 = .ok (.iload_n 2, 1) := dk_28 (dk_at dksX2_press_1 8 rfl rfl)
theorem dX2_press_33 : decode cX2_press 33 = .ok (.iadd, 1) := dk_96 (dk_at dksX2_press_1 9 rfl rfl)
theorem dX2_press_34 : decode cX2_press 34 = .ok (.iaload, 1) := dk_46 (dk_at dksX2_press_1 10 rfl rfl)
theorem dX2_press_35 : decode cX2_press 35 = .ok (.ifCond .le 7, 3) := dk_158 0 7 (dk_at dksX2_press_1 11 rfl rfl)
theorem dX2_press_38 : decode cX2_press 38 = .ok (.iconst 1, 1) := dk_4 (dk_at dksX2_press_1 14 rfl rfl)
theorem dX2_press_39 : decode cX2_press 39 = .ok (.goto 4, 3) := dk_167 0 4 (dk_at dksX2_press_1 15 rfl rfl)
theorem dX2_press_42 : decode cX2_press 42 = .ok (.iconst 0, 1) := dk_3 (dk_at dksX2_press_1 18 rfl rfl)
theorem dX2_press_43 : decode cX2_press 43 = .ok (.iconst 2, 1) := dk_5 (dk_at dksX2_press_1 19 rfl rfl)
theorem dX2_press_44 : decode cX2_press 44 = .ok (.invokevirtual 104, 3) := dk_182 0 104 (dk_at dksX2_press_1 20 rfl rfl)
theorem dX2_press_47 : decode cX2_press 47 = .ok (.ifCond .ne 27, 3) := dk_154 0 27 (dk_at dksX2_press_2 0 rfl rfl)
theorem dX2_press_50 : decode cX2_press 50 = .ok (.aload_n 0, 1) := dk_42 (dk_at dksX2_press_2 3 rfl rfl)
theorem dX2_press_51 : decode cX2_press 51 = .ok (.aload_n 0, 1) := dk_42 (dk_at dksX2_press_2 4 rfl rfl)
theorem dX2_press_52 : decode cX2_press 52 = .ok (.getfield 43, 3) := dk_180 0 43 (dk_at dksX2_press_2 5 rfl rfl)
theorem dX2_press_55 : decode cX2_press 55 = .ok (.iload_n 1, 1) := dk_27 (dk_at dksX2_press_2 8 rfl rfl)
theorem dX2_press_56 : decode cX2_press 56 = .ok (.iaload, 1) := dk_46 (dk_at dksX2_press_2 9 rfl rfl)
theorem dX2_press_57 : decode cX2_press 57 = .ok (.bipush 8, 2) := dk_16 8 (dk_at dksX2_press_2 10 rfl rfl)
theorem dX2_press_59 : decode cX2_press 59 = .ok (.if_icmp .ge 7, 3) := dk_162 0 7 (dk_at dksX2_press_2 12 rfl rfl)
theorem dX2_press_62 : decode cX2_press 62 = .ok (.iconst 1, 1) := dk_4 (dk_at dksX2_press_2 15 rfl rfl)
theorem dX2_press_63 : decode cX2_press 63 = .ok (.goto 4, 3) := dk_167 0 4 (dk_at dksX2_press_2 16 rfl rfl)
theorem dX2_press_66 : decode cX2_press 66 = .ok (.iconst 0, 1) := dk_3 (dk_at dksX2_press_2 19 rfl rfl)
theorem dX2_press_67 : decode cX2_press 67 = .ok (.iconst 3, 1) := dk_6 (dk_at dksX2_press_2 20 rfl rfl)
theorem dX2_press_68 : decode cX2_press 68 = .ok (.invokevirtual 104, 3) := dk_182 0 104 (dk_at dksX2_press_2 21 rfl rfl)
theorem dX2_press_71 : decode cX2_press 71 = .ok (.ifCond .eq 5, 3) := dk_153 0 5 (dk_at dksX2_press_3 0 rfl rfl)
theorem dX2_press_74 : decode cX2_press 74 = .ok (.iconst 0, 1) := dk_3 (dk_at dksX2_press_3 3 rfl rfl)
theorem dX2_press_75 : decode cX2_press 75 = .ok (.ireturn, 1) := dk_172 (dk_at dksX2_press_3 4 rfl rfl)
theorem dX2_press_76 : decode cX2_press 76 = .ok (.aload_n 0, 1) := dk_42 (dk_at dksX2_press_3 5 rfl rfl)
theorem dX2_press_77 : decode cX2_press 77 = .ok (.getfield 34, 3) := dk_180 0 34 (dk_at dksX2_press_3 6 rfl rfl)
theorem dX2_press_80 : decode cX2_press 80 = .ok (.iload_n 1, 1) := dk_27 (dk_at dksX2_press_3 9 rfl rfl)
theorem dX2_press_81 : decode cX2_press 81 = .ok (.dup2, 1) := dk_92 (dk_at dksX2_press_3 10 rfl rfl)
theorem dX2_press_82 : decode cX2_press 82 = .ok (.iaload, 1) := dk_46 (dk_at dksX2_press_3 11 rfl rfl)
theorem dX2_press_83 : decode cX2_press 83 = .ok (.iconst 1, 1) := dk_4 (dk_at dksX2_press_3 12 rfl rfl)
theorem dX2_press_84 : decode cX2_press 84 = .ok (.isub, 1) := dk_100 (dk_at dksX2_press_3 13 rfl rfl)
theorem dX2_press_85 : decode cX2_press 85 = .ok (.iastore, 1) := dk_79 (dk_at dksX2_press_3 14 rfl rfl)
theorem dX2_press_86 : decode cX2_press 86 = .ok (.aload_n 0, 1) := dk_42 (dk_at dksX2_press_3 15 rfl rfl)
theorem dX2_press_87 : decode cX2_press 87 = .ok (.getfield 46, 3) := dk_180 0 46 (dk_at dksX2_press_3 16 rfl rfl)
theorem dX2_press_90 : decode cX2_press 90 = .ok (.bipush 8, 2) := dk_16 8 (dk_at dksX2_press_3 19 rfl rfl)
theorem dX2_press_92 : decode cX2_press 92 = .ok (.iload_n 1, 1) := dk_27 (dk_at dksX2_press_3 21 rfl rfl)
theorem dX2_press_93 : decode cX2_press 93 = .ok (.imul, 1) := dk_104 (dk_at dksX2_press_3 22 rfl rfl)
theorem dX2_press_94 : decode cX2_press 94 = .ok (.aload_n 0, 1) := dk_42 (dk_at dksX2_press_3 23 rfl rfl)
theorem dX2_press_95 : decode cX2_press 95 = .ok (.getfield 43, 3) := dk_180 0 43 (dk_at dksX2_press_4 0 rfl rfl)
theorem dX2_press_98 : decode cX2_press 98 = .ok (.iload_n 1, 1) := dk_27 (dk_at dksX2_press_4 3 rfl rfl)
theorem dX2_press_99 : decode cX2_press 99 = .ok (.iaload, 1) := dk_46 (dk_at dksX2_press_4 4 rfl rfl)
theorem dX2_press_100 : decode cX2_press 100 = .ok (.iadd, 1) := dk_96 (dk_at dksX2_press_4 5 rfl rfl)
theorem dX2_press_101 : decode cX2_press 101 = .ok (.iload_n 2, 1) := dk_28 (dk_at dksX2_press_4 6 rfl rfl)
theorem dX2_press_102 : decode cX2_press 102 = .ok (.iastore, 1) := dk_79 (dk_at dksX2_press_4 7 rfl rfl)
theorem dX2_press_103 : decode cX2_press 103 = .ok (.aload_n 0, 1) := dk_42 (dk_at dksX2_press_4 8 rfl rfl)
theorem dX2_press_104 : decode cX2_press 104 = .ok (.getfield 43, 3) := dk_180 0 43 (dk_at dksX2_press_4 9 rfl rfl)
theorem dX2_press_107 : decode cX2_press 107 = .ok (.iload_n 1, 1) := dk_27 (dk_at dksX2_press_4 12 rfl rfl)
theorem dX2_press_108 : decode cX2_press 108 = .ok (.dup2, 1) := dk_92 (dk_at dksX2_press_4 13 rfl rfl)
theorem dX2_press_109 : decode cX2_press 109 = .ok (.iaload, 1) := dk_46 (dk_at dksX2_press_4 14 rfl rfl)
theorem dX2_press_110 : decode cX2_press 110 = .ok (.iconst 1, 1) := dk_4 (dk_at dksX2_press_4 15 rfl rfl)
theorem dX2_press_111 : decode cX2_press 111 = .ok (.iadd, 1) := dk_96 (dk_at dksX2_press_4 16 rfl rfl)
theorem dX2_press_112 : decode cX2_press 112 = .ok (.iastore, 1) := dk_79 (dk_at dksX2_press_4 17 rfl rfl)
theorem dX2_press_113 : decode cX2_press 113 = .ok (.aload_n 0, 1) := dk_42 (dk_at dksX2_press_4 18 rfl rfl)
theorem dX2_press_114 : decode cX2_press 114 = .ok (.getfield 43, 3) := dk_180 0 43 (dk_at dksX2_press_4 19 rfl rfl)
theorem dX2_press_117 : decode cX2_press 117 = .ok (.iload_n 1, 1) := dk_27 (dk_at dksX2_press_4 22 rfl rfl)
theorem dX2_press_118 : decode cX2_press 118 = .ok (.iaload, 1) := dk_46 (dk_at dksX2_press_4 23 rfl rfl)
theorem dX2_press_119 : decode cX2_press 119 = .ok (.ireturn, 1) := dk_172 (dk_at dksX2_press_5 0 rfl rfl)
abbrev cX2_isSlot : ByteArray := prog_9_method_7_code
def yX2_isSlot : MethodName := ⟨RX2, "isSlot", "(II)Z"⟩
def dkwX2_isSlot_0 : List UInt8 := [42, 27, 182, 0, 100, 153, 0, 17, 28, 3, 16, 9, 184, 0, 93, 153, 0, 7, 4, 167, 0, 4, 3, 172]
abbrev dktX2_isSlot_0 : List UInt8 := dkwX2_isSlot_0 ++ []
theorem dksX2_isSlot_0 : cX2_isSlot.data.toList.drop 0 = dktX2_isSlot_0 := by decide +kernel
theorem dX2_isSlot_0 : decode cX2_isSlot 0 = .ok (.aload_n 0, 1) := dk_42 (dk_at dksX2_isSlot_0 0 rfl rfl)
theorem dX2_isSlot_1 : decode cX2_isSlot 1 = .ok (.iload_n 1, 1) := dk_27 (dk_at dksX2_isSlot_0 1 rfl rfl)
theorem dX2_isSlot_2 : decode cX2_isSlot 2 = .ok (.invokevirtual 100, 3) := dk_182 0 100 (dk_at dksX2_isSlot_0 2 rfl rfl)
theorem dX2_isSlot_5 : decode cX2_isSlot 5 = .ok (.ifCond .eq 17, 3) := dk_153 0 17 (dk_at dksX2_isSlot_0 5 rfl rfl)
theorem dX2_isSlot_8 : decode cX2_isSlot 8 = .ok (.iload_n 2, 1) := dk_28 (dk_at dksX2_isSlot_0 8 rfl rfl)
theorem dX2_isSlot_9 : decode cX2_isSlot 9 = .ok (.iconst 0, 1) := dk_3 (dk_at dksX2_isSlot_0 9 rfl rfl)
theorem dX2_isSlot_10 : decode cX2_isSlot 10 = .ok (.bipush 9, 2) := dk_16 9 (dk_at dksX2_isSlot_0 10 rfl rfl)
theorem dX2_isSlot_12 : decode cX2_isSlot 12 = .ok (.invokestatic 93, 3) := dk_184 0 93 (dk_at dksX2_isSlot_0 12 rfl rfl)
theorem dX2_isSlot_15 : decode cX2_isSlot 15 = .ok (.ifCond .eq 7, 3) := dk_153 0 7 (dk_at dksX2_isSlot_0 15 rfl rfl)
theorem dX2_isSlot_18 : decode cX2_isSlot 18 = .ok (.iconst 1, 1) := dk_4 (dk_at dksX2_isSlot_0 18 rfl rfl)
theorem dX2_isSlot_19 : decode cX2_isSlot 19 = .ok (.goto 4, 3) := dk_167 0 4 (dk_at dksX2_isSlot_0 19 rfl rfl)
theorem dX2_isSlot_22 : decode cX2_isSlot 22 = .ok (.iconst 0, 1) := dk_3 (dk_at dksX2_isSlot_0 22 rfl rfl)
theorem dX2_isSlot_23 : decode cX2_isSlot 23 = .ok (.ireturn, 1) := dk_172 (dk_at dksX2_isSlot_0 23 rfl rfl)
abbrev cX2_play : ByteArray := prog_9_method_17_code
def yX2_play : MethodName := ⟨RX2, "play", "(I)C"⟩
def dkwX2_play_9 : List UInt8 := [4, 182, 0, 124, 16, 112, 172]
abbrev dktX2_play_9 : List UInt8 := dkwX2_play_9 ++ []
def dkwX2_play_8 : List UInt8 := [46, 4, 100, 46, 16, 60, 161, 0, 16, 42, 180, 0, 34, 27, 92, 46, 4, 96, 79, 16, 98, 172, 42, 28]
abbrev dktX2_play_8 : List UInt8 := dkwX2_play_8 ++ dktX2_play_9
def dkwX2_play_7 : List UInt8 := [132, 3, 1, 167, 255, 219, 42, 180, 0, 65, 28, 46, 153, 0, 21, 42, 180, 0, 19, 42, 180, 0, 65, 28]
abbrev dktX2_play_7 : List UInt8 := dkwX2_play_7 ++ dktX2_play_8
def dkwX2_play_6 : List UInt8 := [180, 0, 46, 16, 8, 27, 104, 29, 96, 42, 180, 0, 46, 16, 8, 27, 104, 29, 96, 4, 96, 46, 79]
abbrev dktX2_play_6 : List UInt8 := dkwX2_play_6 ++ dktX2_play_7
def dkwX2_play_5 : List UInt8 := [61, 42, 180, 0, 43, 27, 92, 46, 4, 100, 79, 3, 62, 29, 42, 180, 0, 43, 27, 46, 162, 0, 33, 42]
abbrev dktX2_play_5 : List UInt8 := dkwX2_play_5 ++ dktX2_play_6
def dkwX2_play_4 : List UInt8 := [42, 180, 0, 58, 27, 4, 84, 16, 106, 172, 16, 10, 27, 104, 42, 180, 0, 46, 16, 8, 27, 104, 46, 96]
abbrev dktX2_play_4 : List UInt8 := dkwX2_play_4 ++ dktX2_play_5
def dkwX2_play_3 : List UInt8 := [20, 0, 122, 113, 136, 181, 0, 80, 42, 180, 0, 80, 16, 100, 112, 42, 180, 0, 31, 27, 46, 162, 0, 13]
abbrev dktX2_play_3 : List UInt8 := dkwX2_play_3 ++ dktX2_play_4
def dkwX2_play_2 : List UInt8 := [167, 0, 4, 3, 6, 182, 0, 104, 153, 0, 6, 16, 45, 172, 42, 42, 180, 0, 80, 133, 20, 0, 120, 105]
abbrev dktX2_play_2 : List UInt8 := dkwX2_play_2 ++ dktX2_play_3
def dkwX2_play_1 : List UInt8 := [167, 0, 4, 3, 5, 182, 0, 104, 154, 0, 25, 42, 42, 180, 0, 43, 27, 46, 158, 0, 7, 4]
abbrev dktX2_play_1 : List UInt8 := dkwX2_play_1 ++ dktX2_play_2
def dkwX2_play_0 : List UInt8 := [42, 42, 27, 182, 0, 100, 4, 182, 0, 104, 154, 0, 47, 42, 42, 180, 0, 58, 27, 51, 154, 0, 7, 4]
abbrev dktX2_play_0 : List UInt8 := dkwX2_play_0 ++ dktX2_play_1
theorem dksX2_play_0 : cX2_play.data.toList.drop 0 = dktX2_play_0 := by decide +kernel
theorem dksX2_play_1 : cX2_play.data.toList.drop 24 = dktX2_play_1 := dk_seg dksX2_play_0 24 rfl rfl
theorem dksX2_play_2 : cX2_play.data.toList.drop 46 = dktX2_play_2 := dk_seg dksX2_play_1 22 rfl rfl
theorem dksX2_play_3 : cX2_play.data.toList.drop 70 = dktX2_play_3 := dk_seg dksX2_play_2 24 rfl rfl
theorem dksX2_play_4 : cX2_play.data.toList.drop 94 = dktX2_play_4 := dk_seg dksX2_play_3 24 rfl rfl
theorem dksX2_play_5 : cX2_play.data.toList.drop 118 = dktX2_play_5 := dk_seg dksX2_play_4 24 rfl rfl
theorem dksX2_play_6 : cX2_play.data.toList.drop 142 = dktX2_play_6 := dk_seg dksX2_play_5 24 rfl rfl
theorem dksX2_play_7 : cX2_play.data.toList.drop 165 = dktX2_play_7 := dk_seg dksX2_play_6 23 rfl rfl
theorem dksX2_play_8 : cX2_play.data.toList.drop 189 = dktX2_play_8 := dk_seg dksX2_play_7 24 rfl rfl
theorem dksX2_play_9 : cX2_play.data.toList.drop 213 = dktX2_play_9 := dk_seg dksX2_play_8 24 rfl rfl
theorem dX2_play_0 : decode cX2_play 0 = .ok (.aload_n 0, 1) := dk_42 (dk_at dksX2_play_0 0 rfl rfl)
theorem dX2_play_1 : decode cX2_play 1 = .ok (.aload_n 0, 1) := dk_42 (dk_at dksX2_play_0 1 rfl rfl)
theorem dX2_play_2 : decode cX2_play 2 = .ok (.iload_n 1, 1) := dk_27 (dk_at dksX2_play_0 2 rfl rfl)
theorem dX2_play_3 : decode cX2_play 3 = .ok (.invokevirtual 100, 3) := dk_182 0 100 (dk_at dksX2_play_0 3 rfl rfl)
theorem dX2_play_6 : decode cX2_play 6 = .ok (.iconst 1, 1) := dk_4 (dk_at dksX2_play_0 6 rfl rfl)
theorem dX2_play_7 : decode cX2_play 7 = .ok (.invokevirtual 104, 3) := dk_182 0 104 (dk_at dksX2_play_0 7 rfl rfl)
theorem dX2_play_10 : decode cX2_play 10 = .ok (.ifCond .ne 47, 3) := dk_154 0 47 (dk_at dksX2_play_0 10 rfl rfl)
theorem dX2_play_13 : decode cX2_play 13 = .ok (.aload_n 0, 1) := dk_42 (dk_at dksX2_play_0 13 rfl rfl)
theorem dX2_play_14 : decode cX2_play 14 = .ok (.aload_n 0, 1) := dk_42 (dk_at dksX2_play_0 14 rfl rfl)
theorem dX2_play_15 : decode cX2_play 15 = .ok (.getfield 58, 3) := dk_180 0 58 (dk_at dksX2_play_0 15 rfl rfl)
theorem dX2_play_18 : decode cX2_play 18 = .ok (.iload_n 1, 1) := dk_27 (dk_at dksX2_play_0 18 rfl rfl)
theorem dX2_play_19 : decode cX2_play 19 = .ok (.baload, 1) := dk_51 (dk_at dksX2_play_0 19 rfl rfl)
theorem dX2_play_20 : decode cX2_play 20 = .ok (.ifCond .ne 7, 3) := dk_154 0 7 (dk_at dksX2_play_0 20 rfl rfl)
theorem dX2_play_23 : decode cX2_play 23 = .ok (.iconst 1, 1) := dk_4 (dk_at dksX2_play_0 23 rfl rfl)
theorem dX2_play_24 : decode cX2_play 24 = .ok (.goto 4, 3) := dk_167 0 4 (dk_at dksX2_play_1 0 rfl rfl)
theorem dX2_play_27 : decode cX2_play 27 = .ok (.iconst 0, 1) := dk_3 (dk_at dksX2_play_1 3 rfl rfl)
theorem dX2_play_28 : decode cX2_play 28 = .ok (.iconst 2, 1) := dk_5 (dk_at dksX2_play_1 4 rfl rfl)
theorem dX2_play_29 : decode cX2_play 29 = .ok (.invokevirtual 104, 3) := dk_182 0 104 (dk_at dksX2_play_1 5 rfl rfl)
theorem dX2_play_32 : decode cX2_play 32 = .ok (.ifCond .ne 25, 3) := dk_154 0 25 (dk_at dksX2_play_1 8 rfl rfl)
theorem dX2_play_35 : decode cX2_play 35 = .ok (.aload_n 0, 1) := dk_42 (dk_at dksX2_play_1 11 rfl rfl)
theorem dX2_play_36 : decode cX2_play 36 = .ok (.aload_n 0, 1) := dk_42 (dk_at dksX2_play_1 12 rfl rfl)
theorem dX2_play_37 : decode cX2_play 37 = .ok (.getfield 43, 3) := dk_180 0 43 (dk_at dksX2_play_1 13 rfl rfl)
theorem dX2_play_40 : decode cX2_play 40 = .ok (.iload_n 1, 1) := dk_27 (dk_at dksX2_play_1 16 rfl rfl)
theorem dX2_play_41 : decode cX2_play 41 = .ok (.iaload, 1) := dk_46 (dk_at dksX2_play_1 17 rfl rfl)
theorem dX2_play_42 : decode cX2_play 42 = .ok (.ifCond .le 7, 3) := dk_158 0 7 (dk_at dksX2_play_1 18 rfl rfl)
theorem dX2_play_45 : decode cX2_play 45 = .ok (.iconst 1, 1) := dk_4 (dk_at dksX2_play_1 21 rfl rfl)
theorem dX2_play_46 : decode cX2_play 46 = .ok (.goto 4, 3) := dk_167 0 4 (dk_at dksX2_play_2 0 rfl rfl)
theorem dX2_play_49 : decode cX2_play 49 = .ok (.iconst 0, 1) := dk_3 (dk_at dksX2_play_2 3 rfl rfl)
theorem dX2_play_50 : decode cX2_play 50 = .ok (.iconst 3, 1) := dk_6 (dk_at dksX2_play_2 4 rfl rfl)
theorem dX2_play_51 : decode cX2_play 51 = .ok (.invokevirtual 104, 3) := dk_182 0 104 (dk_at dksX2_play_2 5 rfl rfl)
theorem dX2_play_54 : decode cX2_play 54 = .ok (.ifCond .eq 6, 3) := dk_153 0 6 (dk_at dksX2_play_2 8 rfl rfl)
theorem dX2_play_57 : decode cX2_play 57 = .ok (.bipush 45, 2) := dk_16 45 (dk_at dksX2_play_2 11 rfl rfl)
theorem dX2_play_59 : decode cX2_play 59 = .ok (.ireturn, 1) := dk_172 (dk_at dksX2_play_2 13 rfl rfl)
theorem dX2_play_60 : decode cX2_play 60 = .ok (.aload_n 0, 1) := dk_42 (dk_at dksX2_play_2 14 rfl rfl)
theorem dX2_play_61 : decode cX2_play 61 = .ok (.aload_n 0, 1) := dk_42 (dk_at dksX2_play_2 15 rfl rfl)
theorem dX2_play_62 : decode cX2_play 62 = .ok (.getfield 80, 3) := dk_180 0 80 (dk_at dksX2_play_2 16 rfl rfl)
theorem dX2_play_65 : decode cX2_play 65 = .ok (.i2l, 1) := dk_133 (dk_at dksX2_play_2 19 rfl rfl)
theorem dX2_play_66 : decode cX2_play 66 = .ok (.ldc2_w 120, 3) := dk_20 0 120 (dk_at dksX2_play_2 20 rfl rfl)
theorem dX2_play_69 : decode cX2_play 69 = .ok (.lmul, 1) := dk_105 (dk_at dksX2_play_2 23 rfl rfl)
theorem dX2_play_70 : decode cX2_play 70 = .ok (.ldc2_w 122, 3) := dk_20 0 122 (dk_at dksX2_play_3 0 rfl rfl)
theorem dX2_play_73 : decode cX2_play 73 = .ok (.lrem, 1) := dk_113 (dk_at dksX2_play_3 3 rfl rfl)
theorem dX2_play_74 : decode cX2_play 74 = .ok (.l2i, 1) := dk_136 (dk_at dksX2_play_3 4 rfl rfl)
theorem dX2_play_75 : decode cX2_play 75 = .ok (.putfield 80, 3) := dk_181 0 80 (dk_at dksX2_play_3 5 rfl rfl)
theorem dX2_play_78 : decode cX2_play 78 = .ok (.aload_n 0, 1) := dk_42 (dk_at dksX2_play_3 8 rfl rfl)
theorem dX2_play_79 : decode cX2_play 79 = .ok (.getfield 80, 3) := dk_180 0 80 (dk_at dksX2_play_3 9 rfl rfl)
theorem dX2_play_82 : decode cX2_play 82 = .ok (.bipush 100, 2) := dk_16 100 (dk_at dksX2_play_3 12 rfl rfl)
theorem dX2_play_84 : decode cX2_play 84 = .ok (.irem, 1) := dk_112 (dk_at dksX2_play_3 14 rfl rfl)
theorem dX2_play_85 : decode cX2_play 85 = .ok (.aload_n 0, 1) := dk_42 (dk_at dksX2_play_3 15 rfl rfl)
theorem dX2_play_86 : decode cX2_play 86 = .ok (.getfield 31, 3) := dk_180 0 31 (dk_at dksX2_play_3 16 rfl rfl)
theorem dX2_play_89 : decode cX2_play 89 = .ok (.iload_n 1, 1) := dk_27 (dk_at dksX2_play_3 19 rfl rfl)
theorem dX2_play_90 : decode cX2_play 90 = .ok (.iaload, 1) := dk_46 (dk_at dksX2_play_3 20 rfl rfl)
theorem dX2_play_91 : decode cX2_play 91 = .ok (.if_icmp .ge 13, 3) := dk_162 0 13 (dk_at dksX2_play_3 21 rfl rfl)
theorem dX2_play_94 : decode cX2_play 94 = .ok (.aload_n 0, 1) := dk_42 (dk_at dksX2_play_4 0 rfl rfl)
theorem dX2_play_95 : decode cX2_play 95 = .ok (.getfield 58, 3) := dk_180 0 58 (dk_at dksX2_play_4 1 rfl rfl)
theorem dX2_play_98 : decode cX2_play 98 = .ok (.iload_n 1, 1) := dk_27 (dk_at dksX2_play_4 4 rfl rfl)
theorem dX2_play_99 : decode cX2_play 99 = .ok (.iconst 1, 1) := dk_4 (dk_at dksX2_play_4 5 rfl rfl)
theorem dX2_play_100 : decode cX2_play 100 = .ok (.bastore, 1) := dk_84 (dk_at dksX2_play_4 6 rfl rfl)
theorem dX2_play_101 : decode cX2_play 101 = .ok (.bipush 106, 2) := dk_16 106 (dk_at dksX2_play_4 7 rfl rfl)
theorem dX2_play_103 : decode cX2_play 103 = .ok (.ireturn, 1) := dk_172 (dk_at dksX2_play_4 9 rfl rfl)
theorem dX2_play_104 : decode cX2_play 104 = .ok (.bipush 10, 2) := dk_16 10 (dk_at dksX2_play_4 10 rfl rfl)
theorem dX2_play_106 : decode cX2_play 106 = .ok (.iload_n 1, 1) := dk_27 (dk_at dksX2_play_4 12 rfl rfl)
theorem dX2_play_107 : decode cX2_play 107 = .ok (.imul, 1) := dk_104 (dk_at dksX2_play_4 13 rfl rfl)
theorem dX2_play_108 : decode cX2_play 108 = .ok (.aload_n 0, 1) := dk_42 (dk_at dksX2_play_4 14 rfl rfl)
theorem dX2_play_109 : decode cX2_play 109 = .ok (.getfield 46, 3) := dk_180 0 46 (dk_at dksX2_play_4 15 rfl rfl)
theorem dX2_play_112 : decode cX2_play 112 = .ok (.bipush 8, 2) := dk_16 8 (dk_at dksX2_play_4 18 rfl rfl)
theorem dX2_play_114 : decode cX2_play 114 = .ok (.iload_n 1, 1) := dk_27 (dk_at dksX2_play_4 20 rfl rfl)
theorem dX2_play_115 : decode cX2_play 115 = .ok (.imul, 1) := dk_104 (dk_at dksX2_play_4 21 rfl rfl)
theorem dX2_play_116 : decode cX2_play 116 = .ok (.iaload, 1) := dk_46 (dk_at dksX2_play_4 22 rfl rfl)
theorem dX2_play_117 : decode cX2_play 117 = .ok (.iadd, 1) := dk_96 (dk_at dksX2_play_4 23 rfl rfl)
theorem dX2_play_118 : decode cX2_play 118 = .ok (.istore_n 2, 1) := dk_61 (dk_at dksX2_play_5 0 rfl rfl)
theorem dX2_play_119 : decode cX2_play 119 = .ok (.aload_n 0, 1) := dk_42 (dk_at dksX2_play_5 1 rfl rfl)
theorem dX2_play_120 : decode cX2_play 120 = .ok (.getfield 43, 3) := dk_180 0 43 (dk_at dksX2_play_5 2 rfl rfl)
theorem dX2_play_123 : decode cX2_play 123 = .ok (.iload_n 1, 1) := dk_27 (dk_at dksX2_play_5 5 rfl rfl)
theorem dX2_play_124 : decode cX2_play 124 = .ok (.dup2, 1) := dk_92 (dk_at dksX2_play_5 6 rfl rfl)
theorem dX2_play_125 : decode cX2_play 125 = .ok (.iaload, 1) := dk_46 (dk_at dksX2_play_5 7 rfl rfl)
theorem dX2_play_126 : decode cX2_play 126 = .ok (.iconst 1, 1) := dk_4 (dk_at dksX2_play_5 8 rfl rfl)
theorem dX2_play_127 : decode cX2_play 127 = .ok (.isub, 1) := dk_100 (dk_at dksX2_play_5 9 rfl rfl)
theorem dX2_play_128 : decode cX2_play 128 = .ok (.iastore, 1) := dk_79 (dk_at dksX2_play_5 10 rfl rfl)
theorem dX2_play_129 : decode cX2_play 129 = .ok (.iconst 0, 1) := dk_3 (dk_at dksX2_play_5 11 rfl rfl)
theorem dX2_play_130 : decode cX2_play 130 = .ok (.istore_n 3, 1) := dk_62 (dk_at dksX2_play_5 12 rfl rfl)
theorem dX2_play_131 : decode cX2_play 131 = .ok (.iload_n 3, 1) := dk_29 (dk_at dksX2_play_5 13 rfl rfl)
theorem dX2_play_132 : decode cX2_play 132 = .ok (.aload_n 0, 1) := dk_42 (dk_at dksX2_play_5 14 rfl rfl)
theorem dX2_play_133 : decode cX2_play 133 = .ok (.getfield 43, 3) := dk_180 0 43 (dk_at dksX2_play_5 15 rfl rfl)
theorem dX2_play_136 : decode cX2_play 136 = .ok (.iload_n 1, 1) := dk_27 (dk_at dksX2_play_5 18 rfl rfl)
theorem dX2_play_137 : decode cX2_play 137 = .ok (.iaload, 1) := dk_46 (dk_at dksX2_play_5 19 rfl rfl)
theorem dX2_play_138 : decode cX2_play 138 = .ok (.if_icmp .ge 33, 3) := dk_162 0 33 (dk_at dksX2_play_5 20 rfl rfl)
theorem dX2_play_141 : decode cX2_play 141 = .ok (.aload_n 0, 1) := dk_42 (dk_at dksX2_play_5 23 rfl rfl)
theorem dX2_play_142 : decode cX2_play 142 = .ok (.getfield 46, 3) := dk_180 0 46 (dk_at dksX2_play_6 0 rfl rfl)
theorem dX2_play_145 : decode cX2_play 145 = .ok (.bipush 8, 2) := dk_16 8 (dk_at dksX2_play_6 3 rfl rfl)
theorem dX2_play_147 : decode cX2_play 147 = .ok (.iload_n 1, 1) := dk_27 (dk_at dksX2_play_6 5 rfl rfl)
theorem dX2_play_148 : decode cX2_play 148 = .ok (.imul, 1) := dk_104 (dk_at dksX2_play_6 6 rfl rfl)
theorem dX2_play_149 : decode cX2_play 149 = .ok (.iload_n 3, 1) := dk_29 (dk_at dksX2_play_6 7 rfl rfl)
theorem dX2_play_150 : decode cX2_play 150 = .ok (.iadd, 1) := dk_96 (dk_at dksX2_play_6 8 rfl rfl)
theorem dX2_play_151 : decode cX2_play 151 = .ok (.aload_n 0, 1) := dk_42 (dk_at dksX2_play_6 9 rfl rfl)
theorem dX2_play_152 : decode cX2_play 152 = .ok (.getfield 46, 3) := dk_180 0 46 (dk_at dksX2_play_6 10 rfl rfl)
theorem dX2_play_155 : decode cX2_play 155 = .ok (.bipush 8, 2) := dk_16 8 (dk_at dksX2_play_6 13 rfl rfl)
theorem dX2_play_157 : decode cX2_play 157 = .ok (.iload_n 1, 1) := dk_27 (dk_at dksX2_play_6 15 rfl rfl)
theorem dX2_play_158 : decode cX2_play 158 = .ok (.imul, 1) := dk_104 (dk_at dksX2_play_6 16 rfl rfl)
theorem dX2_play_159 : decode cX2_play 159 = .ok (.iload_n 3, 1) := dk_29 (dk_at dksX2_play_6 17 rfl rfl)
theorem dX2_play_160 : decode cX2_play 160 = .ok (.iadd, 1) := dk_96 (dk_at dksX2_play_6 18 rfl rfl)
theorem dX2_play_161 : decode cX2_play 161 = .ok (.iconst 1, 1) := dk_4 (dk_at dksX2_play_6 19 rfl rfl)
theorem dX2_play_162 : decode cX2_play 162 = .ok (.iadd, 1) := dk_96 (dk_at dksX2_play_6 20 rfl rfl)
theorem dX2_play_163 : decode cX2_play 163 = .ok (.iaload, 1) := dk_46 (dk_at dksX2_play_6 21 rfl rfl)
theorem dX2_play_164 : decode cX2_play 164 = .ok (.iastore, 1) := dk_79 (dk_at dksX2_play_6 22 rfl rfl)
theorem dX2_play_165 : decode cX2_play 165 = .ok (.iinc 3 1, 3) := dk_132 3 1 (dk_at dksX2_play_7 0 rfl rfl)
theorem dX2_play_168 : decode cX2_play 168 = .ok (.goto (-37), 3) := dk_167 255 219 (dk_at dksX2_play_7 3 rfl rfl)
theorem dX2_play_171 : decode cX2_play 171 = .ok (.aload_n 0, 1) := dk_42 (dk_at dksX2_play_7 6 rfl rfl)
theorem dX2_play_172 : decode cX2_play 172 = .ok (.getfield 65, 3) := dk_180 0 65 (dk_at dksX2_play_7 7 rfl rfl)
theorem dX2_play_175 : decode cX2_play 175 = .ok (.iload_n 2, 1) := dk_28 (dk_at dksX2_play_7 10 rfl rfl)
theorem dX2_play_176 : decode cX2_play 176 = .ok (.iaload, 1) := dk_46 (dk_at dksX2_play_7 11 rfl rfl)
theorem dX2_play_177 : decode cX2_play 177 = .ok (.ifCond .eq 21, 3) := dk_153 0 21 (dk_at dksX2_play_7 12 rfl rfl)
theorem dX2_play_180 : decode cX2_play 180 = .ok (.aload_n 0, 1) := dk_42 (dk_at dksX2_play_7 15 rfl rfl)
theorem dX2_play_181 : decode cX2_play 181 = .ok (.getfield 19, 3) := dk_180 0 19 (dk_at dksX2_play_7 16 rfl rfl)
theorem dX2_play_184 : decode cX2_play 184 = .ok (.aload_n 0, 1) := dk_42 (dk_at dksX2_play_7 19 rfl rfl)
theorem dX2_play_185 : decode cX2_play 185 = .ok (.getfield 65, 3) := dk_180 0 65 (dk_at dksX2_play_7 20 rfl rfl)
theorem dX2_play_188 : decode cX2_play 188 = .ok (.iload_n 2, 1) := dk_28 (dk_at dksX2_play_7 23 rfl rfl)
theorem dX2_play_189 : decode cX2_play 189 = .ok (.iaload, 1) := dk_46 (dk_at dksX2_play_8 0 rfl rfl)
theorem dX2_play_190 : decode cX2_play 190 = .ok (.iconst 1, 1) := dk_4 (dk_at dksX2_play_8 1 rfl rfl)
theorem dX2_play_191 : decode cX2_play 191 = .ok (.isub, 1) := dk_100 (dk_at dksX2_play_8 2 rfl rfl)
theorem dX2_play_192 : decode cX2_play 192 = .ok (.iaload, 1) := dk_46 (dk_at dksX2_play_8 3 rfl rfl)
theorem dX2_play_193 : decode cX2_play 193 = .ok (.bipush 60, 2) := dk_16 60 (dk_at dksX2_play_8 4 rfl rfl)
theorem dX2_play_195 : decode cX2_play 195 = .ok (.if_icmp .lt 16, 3) := dk_161 0 16 (dk_at dksX2_play_8 6 rfl rfl)
theorem dX2_play_198 : decode cX2_play 198 = .ok (.aload_n 0, 1) := dk_42 (dk_at dksX2_play_8 9 rfl rfl)
theorem dX2_play_199 : decode cX2_play 199 = .ok (.getfield 34, 3) := dk_180 0 34 (dk_at dksX2_play_8 10 rfl rfl)
theorem dX2_play_202 : decode cX2_play 202 = .ok (.iload_n 1, 1) := dk_27 (dk_at dksX2_play_8 13 rfl rfl)
theorem dX2_play_203 : decode cX2_play 203 = .ok (.dup2, 1) := dk_92 (dk_at dksX2_play_8 14 rfl rfl)
theorem dX2_play_204 : decode cX2_play 204 = .ok (.iaload, 1) := dk_46 (dk_at dksX2_play_8 15 rfl rfl)
theorem dX2_play_205 : decode cX2_play 205 = .ok (.iconst 1, 1) := dk_4 (dk_at dksX2_play_8 16 rfl rfl)
theorem dX2_play_206 : decode cX2_play 206 = .ok (.iadd, 1) := dk_96 (dk_at dksX2_play_8 17 rfl rfl)
theorem dX2_play_207 : decode cX2_play 207 = .ok (.iastore, 1) := dk_79 (dk_at dksX2_play_8 18 rfl rfl)
theorem dX2_play_208 : decode cX2_play 208 = .ok (.bipush 98, 2) := dk_16 98 (dk_at dksX2_play_8 19 rfl rfl)
theorem dX2_play_210 : decode cX2_play 210 = .ok (.ireturn, 1) := dk_172 (dk_at dksX2_play_8 21 rfl rfl)
theorem dX2_play_211 : decode cX2_play 211 = .ok (.aload_n 0, 1) := dk_42 (dk_at dksX2_play_8 22 rfl rfl)
theorem dX2_play_212 : decode cX2_play 212 = .ok (.iload_n 2, 1) := dk_28 (dk_at dksX2_play_8 23 rfl rfl)
theorem dX2_play_213 : decode cX2_play 213 = .ok (.iconst 1, 1) := dk_4 (dk_at dksX2_play_9 0 rfl rfl)
theorem dX2_play_214 : decode cX2_play 214 = .ok (.invokevirtual 124, 3) := dk_182 0 124 (dk_at dksX2_play_9 1 rfl rfl)
theorem dX2_play_217 : decode cX2_play 217 = .ok (.bipush 112, 2) := dk_16 112 (dk_at dksX2_play_9 4 rfl rfl)
theorem dX2_play_219 : decode cX2_play 219 = .ok (.ireturn, 1) := dk_172 (dk_at dksX2_play_9 6 rfl rfl)
abbrev cX2_wears : ByteArray := prog_9_method_16_code
def yX2_wears : MethodName := ⟨RX2, "wears", "(II)V"⟩
def dkwX2_wears_2 : List UInt8 := [180, 0, 40, 29, 46, 16, 40, 108, 96, 104, 96, 79, 42, 180, 0, 40, 29, 92, 46, 28, 96, 79, 177]
abbrev dktX2_wears_2 : List UInt8 := dkwX2_wears_2 ++ []
def dkwX2_wears_1 : List UInt8 := [79, 42, 180, 0, 49, 29, 92, 46, 28, 96, 79, 42, 180, 0, 19, 21, 4, 92, 46, 28, 4, 42]
abbrev dktX2_wears_1 : List UInt8 := dkwX2_wears_1 ++ dktX2_wears_2
def dkwX2_wears_0 : List UInt8 := [27, 16, 10, 108, 62, 42, 180, 0, 65, 27, 46, 4, 100, 54, 4, 42, 180, 0, 68, 27, 92, 46, 28, 96]
abbrev dktX2_wears_0 : List UInt8 := dkwX2_wears_0 ++ dktX2_wears_1
theorem dksX2_wears_0 : cX2_wears.data.toList.drop 0 = dktX2_wears_0 := by decide +kernel
theorem dksX2_wears_1 : cX2_wears.data.toList.drop 24 = dktX2_wears_1 := dk_seg dksX2_wears_0 24 rfl rfl
theorem dksX2_wears_2 : cX2_wears.data.toList.drop 46 = dktX2_wears_2 := dk_seg dksX2_wears_1 22 rfl rfl
theorem dX2_wears_0 : decode cX2_wears 0 = .ok (.iload_n 1, 1) := dk_27 (dk_at dksX2_wears_0 0 rfl rfl)
theorem dX2_wears_1 : decode cX2_wears 1 = .ok (.bipush 10, 2) := dk_16 10 (dk_at dksX2_wears_0 1 rfl rfl)
theorem dX2_wears_3 : decode cX2_wears 3 = .ok (.idiv, 1) := dk_108 (dk_at dksX2_wears_0 3 rfl rfl)
theorem dX2_wears_4 : decode cX2_wears 4 = .ok (.istore_n 3, 1) := dk_62 (dk_at dksX2_wears_0 4 rfl rfl)
theorem dX2_wears_5 : decode cX2_wears 5 = .ok (.aload_n 0, 1) := dk_42 (dk_at dksX2_wears_0 5 rfl rfl)
theorem dX2_wears_6 : decode cX2_wears 6 = .ok (.getfield 65, 3) := dk_180 0 65 (dk_at dksX2_wears_0 6 rfl rfl)
theorem dX2_wears_9 : decode cX2_wears 9 = .ok (.iload_n 1, 1) := dk_27 (dk_at dksX2_wears_0 9 rfl rfl)
theorem dX2_wears_10 : decode cX2_wears 10 = .ok (.iaload, 1) := dk_46 (dk_at dksX2_wears_0 10 rfl rfl)
theorem dX2_wears_11 : decode cX2_wears 11 = .ok (.iconst 1, 1) := dk_4 (dk_at dksX2_wears_0 11 rfl rfl)
theorem dX2_wears_12 : decode cX2_wears 12 = .ok (.isub, 1) := dk_100 (dk_at dksX2_wears_0 12 rfl rfl)
theorem dX2_wears_13 : decode cX2_wears 13 = .ok (.istore 4, 2) := dk_54 4 (dk_at dksX2_wears_0 13 rfl rfl)
theorem dX2_wears_15 : decode cX2_wears 15 = .ok (.aload_n 0, 1) := dk_42 (dk_at dksX2_wears_0 15 rfl rfl)
theorem dX2_wears_16 : decode cX2_wears 16 = .ok (.getfield 68, 3) := dk_180 0 68 (dk_at dksX2_wears_0 16 rfl rfl)
theorem dX2_wears_19 : decode cX2_wears 19 = .ok (.iload_n 1, 1) := dk_27 (dk_at dksX2_wears_0 19 rfl rfl)
theorem dX2_wears_20 : decode cX2_wears 20 = .ok (.dup2, 1) := dk_92 (dk_at dksX2_wears_0 20 rfl rfl)
theorem dX2_wears_21 : decode cX2_wears 21 = .ok (.iaload, 1) := dk_46 (dk_at dksX2_wears_0 21 rfl rfl)
theorem dX2_wears_22 : decode cX2_wears 22 = .ok (.iload_n 2, 1) := dk_28 (dk_at dksX2_wears_0 22 rfl rfl)
theorem dX2_wears_23 : decode cX2_wears 23 = .ok (.iadd, 1) := dk_96 (dk_at dksX2_wears_0 23 rfl rfl)
theorem dX2_wears_24 : decode cX2_wears 24 = .ok (.iastore, 1) := dk_79 (dk_at dksX2_wears_1 0 rfl rfl)
theorem dX2_wears_25 : decode cX2_wears 25 = .ok (.aload_n 0, 1) := dk_42 (dk_at dksX2_wears_1 1 rfl rfl)
theorem dX2_wears_26 : decode cX2_wears 26 = .ok (.getfield 49, 3) := dk_180 0 49 (dk_at dksX2_wears_1 2 rfl rfl)
theorem dX2_wears_29 : decode cX2_wears 29 = .ok (.iload_n 3, 1) := dk_29 (dk_at dksX2_wears_1 5 rfl rfl)
theorem dX2_wears_30 : decode cX2_wears 30 = .ok (.dup2, 1) := dk_92 (dk_at dksX2_wears_1 6 rfl rfl)
theorem dX2_wears_31 : decode cX2_wears 31 = .ok (.iaload, 1) := dk_46 (dk_at dksX2_wears_1 7 rfl rfl)
theorem dX2_wears_32 : decode cX2_wears 32 = .ok (.iload_n 2, 1) := dk_28 (dk_at dksX2_wears_1 8 rfl rfl)
theorem dX2_wears_33 : decode cX2_wears 33 = .ok (.iadd, 1) := dk_96 (dk_at dksX2_wears_1 9 rfl rfl)
theorem dX2_wears_34 : decode cX2_wears 34 = .ok (.iastore, 1) := dk_79 (dk_at dksX2_wears_1 10 rfl rfl)
theorem dX2_wears_35 : decode cX2_wears 35 = .ok (.aload_n 0, 1) := dk_42 (dk_at dksX2_wears_1 11 rfl rfl)
theorem dX2_wears_36 : decode cX2_wears 36 = .ok (.getfield 19, 3) := dk_180 0 19 (dk_at dksX2_wears_1 12 rfl rfl)
theorem dX2_wears_39 : decode cX2_wears 39 = .ok (.iload 4, 2) := dk_21 4 (dk_at dksX2_wears_1 15 rfl rfl)
theorem dX2_wears_41 : decode cX2_wears 41 = .ok (.dup2, 1) := dk_92 (dk_at dksX2_wears_1 17 rfl rfl)
theorem dX2_wears_42 : decode cX2_wears 42 = .ok (.iaload, 1) := dk_46 (dk_at dksX2_wears_1 18 rfl rfl)
theorem dX2_wears_43 : decode cX2_wears 43 = .ok (.iload_n 2, 1) := dk_28 (dk_at dksX2_wears_1 19 rfl rfl)
theorem dX2_wears_44 : decode cX2_wears 44 = .ok (.iconst 1, 1) := dk_4 (dk_at dksX2_wears_1 20 rfl rfl)
theorem dX2_wears_45 : decode cX2_wears 45 = .ok (.aload_n 0, 1) := dk_42 (dk_at dksX2_wears_1 21 rfl rfl)
theorem dX2_wears_46 : decode cX2_wears 46 = .ok (.getfield 40, 3) := dk_180 0 40 (dk_at dksX2_wears_2 0 rfl rfl)
theorem dX2_wears_49 : decode cX2_wears 49 = .ok (.iload_n 3, 1) := dk_29 (dk_at dksX2_wears_2 3 rfl rfl)
theorem dX2_wears_50 : decode cX2_wears 50 = .ok (.iaload, 1) := dk_46 (dk_at dksX2_wears_2 4 rfl rfl)
theorem dX2_wears_51 : decode cX2_wears 51 = .ok (.bipush 40, 2) := dk_16 40 (dk_at dksX2_wears_2 5 rfl rfl)
theorem dX2_wears_53 : decode cX2_wears 53 = .ok (.idiv, 1) := dk_108 (dk_at dksX2_wears_2 7 rfl rfl)
theorem dX2_wears_54 : decode cX2_wears 54 = .ok (.iadd, 1) := dk_96 (dk_at dksX2_wears_2 8 rfl rfl)
theorem dX2_wears_55 : decode cX2_wears 55 = .ok (.imul, 1) := dk_104 (dk_at dksX2_wears_2 9 rfl rfl)
theorem dX2_wears_56 : decode cX2_wears 56 = .ok (.iadd, 1) := dk_96 (dk_at dksX2_wears_2 10 rfl rfl)
theorem dX2_wears_57 : decode cX2_wears 57 = .ok (.iastore, 1) := dk_79 (dk_at dksX2_wears_2 11 rfl rfl)
theorem dX2_wears_58 : decode cX2_wears 58 = .ok (.aload_n 0, 1) := dk_42 (dk_at dksX2_wears_2 12 rfl rfl)
theorem dX2_wears_59 : decode cX2_wears 59 = .ok (.getfield 40, 3) := dk_180 0 40 (dk_at dksX2_wears_2 13 rfl rfl)
theorem dX2_wears_62 : decode cX2_wears 62 = .ok (.iload_n 3, 1) := dk_29 (dk_at dksX2_wears_2 16 rfl rfl)
theorem dX2_wears_63 : decode cX2_wears 63 = .ok (.dup2, 1) := dk_92 (dk_at dksX2_wears_2 17 rfl rfl)
theorem dX2_wears_64 : decode cX2_wears 64 = .ok (.iaload, 1) := dk_46 (dk_at dksX2_wears_2 18 rfl rfl)
theorem dX2_wears_65 : decode cX2_wears 65 = .ok (.iload_n 2, 1) := dk_28 (dk_at dksX2_wears_2 19 rfl rfl)
theorem dX2_wears_66 : decode cX2_wears 66 = .ok (.iadd, 1) := dk_96 (dk_at dksX2_wears_2 20 rfl rfl)
theorem dX2_wears_67 : decode cX2_wears 67 = .ok (.iastore, 1) := dk_79 (dk_at dksX2_wears_2 21 rfl rfl)
theorem dX2_wears_68 : decode cX2_wears 68 = .ok (.return_, 1) := dk_177 (dk_at dksX2_wears_2 22 rfl rfl)
abbrev cX2_getCredits : ByteArray := prog_9_method_18_code
def yX2_getCredits : MethodName := ⟨RX2, "getCredits", "(I)I"⟩
def dkwX2_getCredits_0 : List UInt8 := [42, 42, 27, 182, 0, 100, 4, 182, 0, 104, 153, 0, 7, 3, 167, 0, 9, 42, 180, 0, 34, 27, 46, 172]
abbrev dktX2_getCredits_0 : List UInt8 := dkwX2_getCredits_0 ++ []
theorem dksX2_getCredits_0 : cX2_getCredits.data.toList.drop 0 = dktX2_getCredits_0 := by decide +kernel
theorem dX2_getCredits_0 : decode cX2_getCredits 0 = .ok (.aload_n 0, 1) := dk_42 (dk_at dksX2_getCredits_0 0 rfl rfl)
theorem dX2_getCredits_1 : decode cX2_getCredits 1 = .ok (.aload_n 0, 1) := dk_42 (dk_at dksX2_getCredits_0 1 rfl rfl)
theorem dX2_getCredits_2 : decode cX2_getCredits 2 = .ok (.iload_n 1, 1) := dk_27 (dk_at dksX2_getCredits_0 2 rfl rfl)
theorem dX2_getCredits_3 : decode cX2_getCredits 3 = .ok (.invokevirtual 100, 3) := dk_182 0 100 (dk_at dksX2_getCredits_0 3 rfl rfl)
theorem dX2_getCredits_6 : decode cX2_getCredits 6 = .ok (.iconst 1, 1) := dk_4 (dk_at dksX2_getCredits_0 6 rfl rfl)
theorem dX2_getCredits_7 : decode cX2_getCredits 7 = .ok (.invokevirtual 104, 3) := dk_182 0 104 (dk_at dksX2_getCredits_0 7 rfl rfl)
theorem dX2_getCredits_10 : decode cX2_getCredits 10 = .ok (.ifCond .eq 7, 3) := dk_153 0 7 (dk_at dksX2_getCredits_0 10 rfl rfl)
theorem dX2_getCredits_13 : decode cX2_getCredits 13 = .ok (.iconst 0, 1) := dk_3 (dk_at dksX2_getCredits_0 13 rfl rfl)
theorem dX2_getCredits_14 : decode cX2_getCredits 14 = .ok (.goto 9, 3) := dk_167 0 9 (dk_at dksX2_getCredits_0 14 rfl rfl)
theorem dX2_getCredits_17 : decode cX2_getCredits 17 = .ok (.aload_n 0, 1) := dk_42 (dk_at dksX2_getCredits_0 17 rfl rfl)
theorem dX2_getCredits_18 : decode cX2_getCredits 18 = .ok (.getfield 34, 3) := dk_180 0 34 (dk_at dksX2_getCredits_0 18 rfl rfl)
theorem dX2_getCredits_21 : decode cX2_getCredits 21 = .ok (.iload_n 1, 1) := dk_27 (dk_at dksX2_getCredits_0 21 rfl rfl)
theorem dX2_getCredits_22 : decode cX2_getCredits 22 = .ok (.iaload, 1) := dk_46 (dk_at dksX2_getCredits_0 22 rfl rfl)
theorem dX2_getCredits_23 : decode cX2_getCredits 23 = .ok (.ireturn, 1) := dk_172 (dk_at dksX2_getCredits_0 23 rfl rfl)
abbrev cX2_getQueued : ByteArray := prog_9_method_19_code
def yX2_getQueued : MethodName := ⟨RX2, "getQueued", "(I)I"⟩
def dkwX2_getQueued_0 : List UInt8 := [42, 42, 27, 182, 0, 100, 4, 182, 0, 104, 153, 0, 7, 3, 167, 0, 9, 42, 180, 0, 43, 27, 46, 172]
abbrev dktX2_getQueued_0 : List UInt8 := dkwX2_getQueued_0 ++ []
theorem dksX2_getQueued_0 : cX2_getQueued.data.toList.drop 0 = dktX2_getQueued_0 := by decide +kernel
theorem dX2_getQueued_0 : decode cX2_getQueued 0 = .ok (.aload_n 0, 1) := dk_42 (dk_at dksX2_getQueued_0 0 rfl rfl)
theorem dX2_getQueued_1 : decode cX2_getQueued 1 = .ok (.aload_n 0, 1) := dk_42 (dk_at dksX2_getQueued_0 1 rfl rfl)
theorem dX2_getQueued_2 : decode cX2_getQueued 2 = .ok (.iload_n 1, 1) := dk_27 (dk_at dksX2_getQueued_0 2 rfl rfl)
theorem dX2_getQueued_3 : decode cX2_getQueued 3 = .ok (.invokevirtual 100, 3) := dk_182 0 100 (dk_at dksX2_getQueued_0 3 rfl rfl)
theorem dX2_getQueued_6 : decode cX2_getQueued 6 = .ok (.iconst 1, 1) := dk_4 (dk_at dksX2_getQueued_0 6 rfl rfl)
theorem dX2_getQueued_7 : decode cX2_getQueued 7 = .ok (.invokevirtual 104, 3) := dk_182 0 104 (dk_at dksX2_getQueued_0 7 rfl rfl)
theorem dX2_getQueued_10 : decode cX2_getQueued 10 = .ok (.ifCond .eq 7, 3) := dk_153 0 7 (dk_at dksX2_getQueued_0 10 rfl rfl)
theorem dX2_getQueued_13 : decode cX2_getQueued 13 = .ok (.iconst 0, 1) := dk_3 (dk_at dksX2_getQueued_0 13 rfl rfl)
theorem dX2_getQueued_14 : decode cX2_getQueued 14 = .ok (.goto 9, 3) := dk_167 0 9 (dk_at dksX2_getQueued_0 14 rfl rfl)
theorem dX2_getQueued_17 : decode cX2_getQueued 17 = .ok (.aload_n 0, 1) := dk_42 (dk_at dksX2_getQueued_0 17 rfl rfl)
theorem dX2_getQueued_18 : decode cX2_getQueued 18 = .ok (.getfield 43, 3) := dk_180 0 43 (dk_at dksX2_getQueued_0 18 rfl rfl)
theorem dX2_getQueued_21 : decode cX2_getQueued 21 = .ok (.iload_n 1, 1) := dk_27 (dk_at dksX2_getQueued_0 21 rfl rfl)
theorem dX2_getQueued_22 : decode cX2_getQueued 22 = .ok (.iaload, 1) := dk_46 (dk_at dksX2_getQueued_0 22 rfl rfl)
theorem dX2_getQueued_23 : decode cX2_getQueued 23 = .ok (.ireturn, 1) := dk_172 (dk_at dksX2_getQueued_0 23 rfl rfl)
abbrev cX2_getCents : ByteArray := prog_9_method_20_code
def yX2_getCents : MethodName := ⟨RX2, "getCents", "(I)I"⟩
def dkwX2_getCents_0 : List UInt8 := [42, 42, 27, 182, 0, 100, 4, 182, 0, 104, 153, 0, 7, 3, 167, 0, 9, 42, 180, 0, 37, 27, 46, 172]
abbrev dktX2_getCents_0 : List UInt8 := dkwX2_getCents_0 ++ []
theorem dksX2_getCents_0 : cX2_getCents.data.toList.drop 0 = dktX2_getCents_0 := by decide +kernel
theorem dX2_getCents_0 : decode cX2_getCents 0 = .ok (.aload_n 0, 1) := dk_42 (dk_at dksX2_getCents_0 0 rfl rfl)
theorem dX2_getCents_1 : decode cX2_getCents 1 = .ok (.aload_n 0, 1) := dk_42 (dk_at dksX2_getCents_0 1 rfl rfl)
theorem dX2_getCents_2 : decode cX2_getCents 2 = .ok (.iload_n 1, 1) := dk_27 (dk_at dksX2_getCents_0 2 rfl rfl)
theorem dX2_getCents_3 : decode cX2_getCents 3 = .ok (.invokevirtual 100, 3) := dk_182 0 100 (dk_at dksX2_getCents_0 3 rfl rfl)
theorem dX2_getCents_6 : decode cX2_getCents 6 = .ok (.iconst 1, 1) := dk_4 (dk_at dksX2_getCents_0 6 rfl rfl)
theorem dX2_getCents_7 : decode cX2_getCents 7 = .ok (.invokevirtual 104, 3) := dk_182 0 104 (dk_at dksX2_getCents_0 7 rfl rfl)
theorem dX2_getCents_10 : decode cX2_getCents 10 = .ok (.ifCond .eq 7, 3) := dk_153 0 7 (dk_at dksX2_getCents_0 10 rfl rfl)
theorem dX2_getCents_13 : decode cX2_getCents 13 = .ok (.iconst 0, 1) := dk_3 (dk_at dksX2_getCents_0 13 rfl rfl)
theorem dX2_getCents_14 : decode cX2_getCents 14 = .ok (.goto 9, 3) := dk_167 0 9 (dk_at dksX2_getCents_0 14 rfl rfl)
theorem dX2_getCents_17 : decode cX2_getCents 17 = .ok (.aload_n 0, 1) := dk_42 (dk_at dksX2_getCents_0 17 rfl rfl)
theorem dX2_getCents_18 : decode cX2_getCents 18 = .ok (.getfield 37, 3) := dk_180 0 37 (dk_at dksX2_getCents_0 18 rfl rfl)
theorem dX2_getCents_21 : decode cX2_getCents 21 = .ok (.iload_n 1, 1) := dk_27 (dk_at dksX2_getCents_0 21 rfl rfl)
theorem dX2_getCents_22 : decode cX2_getCents 22 = .ok (.iaload, 1) := dk_46 (dk_at dksX2_getCents_0 22 rfl rfl)
theorem dX2_getCents_23 : decode cX2_getCents 23 = .ok (.ireturn, 1) := dk_172 (dk_at dksX2_getCents_0 23 rfl rfl)
abbrev cX2_isJammed : ByteArray := prog_9_method_21_code
def yX2_isJammed : MethodName := ⟨RX2, "isJammed", "(I)Z"⟩
def dkwX2_isJammed_1 : List UInt8 := [167, 0, 4, 3, 172]
abbrev dktX2_isJammed_1 : List UInt8 := dkwX2_isJammed_1 ++ []
def dkwX2_isJammed_0 : List UInt8 := [42, 42, 27, 182, 0, 100, 4, 182, 0, 104, 154, 0, 16, 42, 180, 0, 58, 27, 51, 153, 0, 7, 4]
abbrev dktX2_isJammed_0 : List UInt8 := dkwX2_isJammed_0 ++ dktX2_isJammed_1
theorem dksX2_isJammed_0 : cX2_isJammed.data.toList.drop 0 = dktX2_isJammed_0 := by decide +kernel
theorem dksX2_isJammed_1 : cX2_isJammed.data.toList.drop 23 = dktX2_isJammed_1 := dk_seg dksX2_isJammed_0 23 rfl rfl
theorem dX2_isJammed_0 : decode cX2_isJammed 0 = .ok (.aload_n 0, 1) := dk_42 (dk_at dksX2_isJammed_0 0 rfl rfl)
theorem dX2_isJammed_1 : decode cX2_isJammed 1 = .ok (.aload_n 0, 1) := dk_42 (dk_at dksX2_isJammed_0 1 rfl rfl)
theorem dX2_isJammed_2 : decode cX2_isJammed 2 = .ok (.iload_n 1, 1) := dk_27 (dk_at dksX2_isJammed_0 2 rfl rfl)
theorem dX2_isJammed_3 : decode cX2_isJammed 3 = .ok (.invokevirtual 100, 3) := dk_182 0 100 (dk_at dksX2_isJammed_0 3 rfl rfl)
theorem dX2_isJammed_6 : decode cX2_isJammed 6 = .ok (.iconst 1, 1) := dk_4 (dk_at dksX2_isJammed_0 6 rfl rfl)
theorem dX2_isJammed_7 : decode cX2_isJammed 7 = .ok (.invokevirtual 104, 3) := dk_182 0 104 (dk_at dksX2_isJammed_0 7 rfl rfl)
theorem dX2_isJammed_10 : decode cX2_isJammed 10 = .ok (.ifCond .ne 16, 3) := dk_154 0 16 (dk_at dksX2_isJammed_0 10 rfl rfl)
theorem dX2_isJammed_13 : decode cX2_isJammed 13 = .ok (.aload_n 0, 1) := dk_42 (dk_at dksX2_isJammed_0 13 rfl rfl)
theorem dX2_isJammed_14 : decode cX2_isJammed 14 = .ok (.getfield 58, 3) := dk_180 0 58 (dk_at dksX2_isJammed_0 14 rfl rfl)
theorem dX2_isJammed_17 : decode cX2_isJammed 17 = .ok (.iload_n 1, 1) := dk_27 (dk_at dksX2_isJammed_0 17 rfl rfl)
theorem dX2_isJammed_18 : decode cX2_isJammed 18 = .ok (.baload, 1) := dk_51 (dk_at dksX2_isJammed_0 18 rfl rfl)
theorem dX2_isJammed_19 : decode cX2_isJammed 19 = .ok (.ifCond .eq 7, 3) := dk_153 0 7 (dk_at dksX2_isJammed_0 19 rfl rfl)
theorem dX2_isJammed_22 : decode cX2_isJammed 22 = .ok (.iconst 1, 1) := dk_4 (dk_at dksX2_isJammed_0 22 rfl rfl)
theorem dX2_isJammed_23 : decode cX2_isJammed 23 = .ok (.goto 4, 3) := dk_167 0 4 (dk_at dksX2_isJammed_1 0 rfl rfl)
theorem dX2_isJammed_26 : decode cX2_isJammed 26 = .ok (.iconst 0, 1) := dk_3 (dk_at dksX2_isJammed_1 3 rfl rfl)
theorem dX2_isJammed_27 : decode cX2_isJammed 27 = .ok (.ireturn, 1) := dk_172 (dk_at dksX2_isJammed_1 4 rfl rfl)
abbrev cX2_getWheel : ByteArray := prog_9_method_22_code
def yX2_getWheel : MethodName := ⟨RX2, "getWheel", "(II)I"⟩
def dkwX2_getWheel_1 : List UInt8 := [27, 104, 28, 96, 46, 172]
abbrev dktX2_getWheel_1 : List UInt8 := dkwX2_getWheel_1 ++ []
def dkwX2_getWheel_0 : List UInt8 := [42, 42, 27, 28, 182, 0, 116, 4, 182, 0, 104, 153, 0, 7, 3, 167, 0, 14, 42, 180, 0, 68, 16, 10]
abbrev dktX2_getWheel_0 : List UInt8 := dkwX2_getWheel_0 ++ dktX2_getWheel_1
theorem dksX2_getWheel_0 : cX2_getWheel.data.toList.drop 0 = dktX2_getWheel_0 := by decide +kernel
theorem dksX2_getWheel_1 : cX2_getWheel.data.toList.drop 24 = dktX2_getWheel_1 := dk_seg dksX2_getWheel_0 24 rfl rfl
theorem dX2_getWheel_0 : decode cX2_getWheel 0 = .ok (.aload_n 0, 1) := dk_42 (dk_at dksX2_getWheel_0 0 rfl rfl)
theorem dX2_getWheel_1 : decode cX2_getWheel 1 = .ok (.aload_n 0, 1) := dk_42 (dk_at dksX2_getWheel_0 1 rfl rfl)
theorem dX2_getWheel_2 : decode cX2_getWheel 2 = .ok (.iload_n 1, 1) := dk_27 (dk_at dksX2_getWheel_0 2 rfl rfl)
theorem dX2_getWheel_3 : decode cX2_getWheel 3 = .ok (.iload_n 2, 1) := dk_28 (dk_at dksX2_getWheel_0 3 rfl rfl)
theorem dX2_getWheel_4 : decode cX2_getWheel 4 = .ok (.invokevirtual 116, 3) := dk_182 0 116 (dk_at dksX2_getWheel_0 4 rfl rfl)
theorem dX2_getWheel_7 : decode cX2_getWheel 7 = .ok (.iconst 1, 1) := dk_4 (dk_at dksX2_getWheel_0 7 rfl rfl)
theorem dX2_getWheel_8 : decode cX2_getWheel 8 = .ok (.invokevirtual 104, 3) := dk_182 0 104 (dk_at dksX2_getWheel_0 8 rfl rfl)
theorem dX2_getWheel_11 : decode cX2_getWheel 11 = .ok (.ifCond .eq 7, 3) := dk_153 0 7 (dk_at dksX2_getWheel_0 11 rfl rfl)
theorem dX2_getWheel_14 : decode cX2_getWheel 14 = .ok (.iconst 0, 1) := dk_3 (dk_at dksX2_getWheel_0 14 rfl rfl)
theorem dX2_getWheel_15 : decode cX2_getWheel 15 = .ok (.goto 14, 3) := dk_167 0 14 (dk_at dksX2_getWheel_0 15 rfl rfl)
theorem dX2_getWheel_18 : decode cX2_getWheel 18 = .ok (.aload_n 0, 1) := dk_42 (dk_at dksX2_getWheel_0 18 rfl rfl)
theorem dX2_getWheel_19 : decode cX2_getWheel 19 = .ok (.getfield 68, 3) := dk_180 0 68 (dk_at dksX2_getWheel_0 19 rfl rfl)
theorem dX2_getWheel_22 : decode cX2_getWheel 22 = .ok (.bipush 10, 2) := dk_16 10 (dk_at dksX2_getWheel_0 22 rfl rfl)
theorem dX2_getWheel_24 : decode cX2_getWheel 24 = .ok (.iload_n 1, 1) := dk_27 (dk_at dksX2_getWheel_1 0 rfl rfl)
theorem dX2_getWheel_25 : decode cX2_getWheel 25 = .ok (.imul, 1) := dk_104 (dk_at dksX2_getWheel_1 1 rfl rfl)
theorem dX2_getWheel_26 : decode cX2_getWheel 26 = .ok (.iload_n 2, 1) := dk_28 (dk_at dksX2_getWheel_1 2 rfl rfl)
theorem dX2_getWheel_27 : decode cX2_getWheel 27 = .ok (.iadd, 1) := dk_96 (dk_at dksX2_getWheel_1 3 rfl rfl)
theorem dX2_getWheel_28 : decode cX2_getWheel 28 = .ok (.iaload, 1) := dk_46 (dk_at dksX2_getWheel_1 4 rfl rfl)
theorem dX2_getWheel_29 : decode cX2_getWheel 29 = .ok (.ireturn, 1) := dk_172 (dk_at dksX2_getWheel_1 5 rfl rfl)
abbrev cX2_getNeedle : ByteArray := prog_9_method_23_code
def yX2_getNeedle : MethodName := ⟨RX2, "getNeedle", "(I)I"⟩
def dkwX2_getNeedle_0 : List UInt8 := [42, 42, 27, 182, 0, 100, 4, 182, 0, 104, 153, 0, 7, 3, 167, 0, 9, 42, 180, 0, 40, 27, 46, 172]
abbrev dktX2_getNeedle_0 : List UInt8 := dkwX2_getNeedle_0 ++ []
theorem dksX2_getNeedle_0 : cX2_getNeedle.data.toList.drop 0 = dktX2_getNeedle_0 := by decide +kernel
theorem dX2_getNeedle_0 : decode cX2_getNeedle 0 = .ok (.aload_n 0, 1) := dk_42 (dk_at dksX2_getNeedle_0 0 rfl rfl)
theorem dX2_getNeedle_1 : decode cX2_getNeedle 1 = .ok (.aload_n 0, 1) := dk_42 (dk_at dksX2_getNeedle_0 1 rfl rfl)
theorem dX2_getNeedle_2 : decode cX2_getNeedle 2 = .ok (.iload_n 1, 1) := dk_27 (dk_at dksX2_getNeedle_0 2 rfl rfl)
theorem dX2_getNeedle_3 : decode cX2_getNeedle 3 = .ok (.invokevirtual 100, 3) := dk_182 0 100 (dk_at dksX2_getNeedle_0 3 rfl rfl)
theorem dX2_getNeedle_6 : decode cX2_getNeedle 6 = .ok (.iconst 1, 1) := dk_4 (dk_at dksX2_getNeedle_0 6 rfl rfl)
theorem dX2_getNeedle_7 : decode cX2_getNeedle 7 = .ok (.invokevirtual 104, 3) := dk_182 0 104 (dk_at dksX2_getNeedle_0 7 rfl rfl)
theorem dX2_getNeedle_10 : decode cX2_getNeedle 10 = .ok (.ifCond .eq 7, 3) := dk_153 0 7 (dk_at dksX2_getNeedle_0 10 rfl rfl)
theorem dX2_getNeedle_13 : decode cX2_getNeedle 13 = .ok (.iconst 0, 1) := dk_3 (dk_at dksX2_getNeedle_0 13 rfl rfl)
theorem dX2_getNeedle_14 : decode cX2_getNeedle 14 = .ok (.goto 9, 3) := dk_167 0 9 (dk_at dksX2_getNeedle_0 14 rfl rfl)
theorem dX2_getNeedle_17 : decode cX2_getNeedle 17 = .ok (.aload_n 0, 1) := dk_42 (dk_at dksX2_getNeedle_0 17 rfl rfl)
theorem dX2_getNeedle_18 : decode cX2_getNeedle 18 = .ok (.getfield 40, 3) := dk_180 0 40 (dk_at dksX2_getNeedle_0 18 rfl rfl)
theorem dX2_getNeedle_21 : decode cX2_getNeedle 21 = .ok (.iload_n 1, 1) := dk_27 (dk_at dksX2_getNeedle_0 21 rfl rfl)
theorem dX2_getNeedle_22 : decode cX2_getNeedle 22 = .ok (.iaload, 1) := dk_46 (dk_at dksX2_getNeedle_0 22 rfl rfl)
theorem dX2_getNeedle_23 : decode cX2_getNeedle 23 = .ok (.ireturn, 1) := dk_172 (dk_at dksX2_getNeedle_0 23 rfl rfl)
abbrev cX2_getWear : ByteArray := prog_9_method_24_code
def yX2_getWear : MethodName := ⟨RX2, "getWear", "(I)I"⟩
def dkwX2_getWear_0 : List UInt8 := [42, 42, 27, 182, 0, 128, 4, 182, 0, 104, 153, 0, 7, 3, 167, 0, 9, 42, 180, 0, 19, 27, 46, 172]
abbrev dktX2_getWear_0 : List UInt8 := dkwX2_getWear_0 ++ []
theorem dksX2_getWear_0 : cX2_getWear.data.toList.drop 0 = dktX2_getWear_0 := by decide +kernel
theorem dX2_getWear_0 : decode cX2_getWear 0 = .ok (.aload_n 0, 1) := dk_42 (dk_at dksX2_getWear_0 0 rfl rfl)
theorem dX2_getWear_1 : decode cX2_getWear 1 = .ok (.aload_n 0, 1) := dk_42 (dk_at dksX2_getWear_0 1 rfl rfl)
theorem dX2_getWear_2 : decode cX2_getWear 2 = .ok (.iload_n 1, 1) := dk_27 (dk_at dksX2_getWear_0 2 rfl rfl)
theorem dX2_getWear_3 : decode cX2_getWear 3 = .ok (.invokevirtual 128, 3) := dk_182 0 128 (dk_at dksX2_getWear_0 3 rfl rfl)
theorem dX2_getWear_6 : decode cX2_getWear 6 = .ok (.iconst 1, 1) := dk_4 (dk_at dksX2_getWear_0 6 rfl rfl)
theorem dX2_getWear_7 : decode cX2_getWear 7 = .ok (.invokevirtual 104, 3) := dk_182 0 104 (dk_at dksX2_getWear_0 7 rfl rfl)
theorem dX2_getWear_10 : decode cX2_getWear 10 = .ok (.ifCond .eq 7, 3) := dk_153 0 7 (dk_at dksX2_getWear_0 10 rfl rfl)
theorem dX2_getWear_13 : decode cX2_getWear 13 = .ok (.iconst 0, 1) := dk_3 (dk_at dksX2_getWear_0 13 rfl rfl)
theorem dX2_getWear_14 : decode cX2_getWear 14 = .ok (.goto 9, 3) := dk_167 0 9 (dk_at dksX2_getWear_0 14 rfl rfl)
theorem dX2_getWear_17 : decode cX2_getWear 17 = .ok (.aload_n 0, 1) := dk_42 (dk_at dksX2_getWear_0 17 rfl rfl)
theorem dX2_getWear_18 : decode cX2_getWear 18 = .ok (.getfield 19, 3) := dk_180 0 19 (dk_at dksX2_getWear_0 18 rfl rfl)
theorem dX2_getWear_21 : decode cX2_getWear 21 = .ok (.iload_n 1, 1) := dk_27 (dk_at dksX2_getWear_0 21 rfl rfl)
theorem dX2_getWear_22 : decode cX2_getWear 22 = .ok (.iaload, 1) := dk_46 (dk_at dksX2_getWear_0 22 rfl rfl)
theorem dX2_getWear_23 : decode cX2_getWear 23 = .ok (.ireturn, 1) := dk_172 (dk_at dksX2_getWear_0 23 rfl rfl)
abbrev cX2_isDisc : ByteArray := prog_9_method_5_code
def yX2_isDisc : MethodName := ⟨RX2, "isDisc", "(I)Z"⟩
def dkwX2_isDisc_0 : List UInt8 := [27, 3, 42, 180, 0, 90, 4, 100, 184, 0, 93, 172]
abbrev dktX2_isDisc_0 : List UInt8 := dkwX2_isDisc_0 ++ []
theorem dksX2_isDisc_0 : cX2_isDisc.data.toList.drop 0 = dktX2_isDisc_0 := by decide +kernel
theorem dX2_isDisc_0 : decode cX2_isDisc 0 = .ok (.iload_n 1, 1) := dk_27 (dk_at dksX2_isDisc_0 0 rfl rfl)
theorem dX2_isDisc_1 : decode cX2_isDisc 1 = .ok (.iconst 0, 1) := dk_3 (dk_at dksX2_isDisc_0 1 rfl rfl)
theorem dX2_isDisc_2 : decode cX2_isDisc 2 = .ok (.aload_n 0, 1) := dk_42 (dk_at dksX2_isDisc_0 2 rfl rfl)
theorem dX2_isDisc_3 : decode cX2_isDisc 3 = .ok (.getfield 90, 3) := dk_180 0 90 (dk_at dksX2_isDisc_0 3 rfl rfl)
theorem dX2_isDisc_6 : decode cX2_isDisc 6 = .ok (.iconst 1, 1) := dk_4 (dk_at dksX2_isDisc_0 6 rfl rfl)
theorem dX2_isDisc_7 : decode cX2_isDisc 7 = .ok (.isub, 1) := dk_100 (dk_at dksX2_isDisc_0 7 rfl rfl)
theorem dX2_isDisc_8 : decode cX2_isDisc 8 = .ok (.invokestatic 93, 3) := dk_184 0 93 (dk_at dksX2_isDisc_0 8 rfl rfl)
theorem dX2_isDisc_11 : decode cX2_isDisc 11 = .ok (.ireturn, 1) := dk_172 (dk_at dksX2_isDisc_0 11 rfl rfl)
abbrev cX2_getPlace : ByteArray := prog_9_method_25_code
def yX2_getPlace : MethodName := ⟨RX2, "getPlace", "(I)I"⟩
def dkwX2_getPlace_0 : List UInt8 := [42, 42, 27, 182, 0, 128, 4, 182, 0, 104, 153, 0, 7, 3, 167, 0, 9, 42, 180, 0, 22, 27, 46, 172]
abbrev dktX2_getPlace_0 : List UInt8 := dkwX2_getPlace_0 ++ []
theorem dksX2_getPlace_0 : cX2_getPlace.data.toList.drop 0 = dktX2_getPlace_0 := by decide +kernel
theorem dX2_getPlace_0 : decode cX2_getPlace 0 = .ok (.aload_n 0, 1) := dk_42 (dk_at dksX2_getPlace_0 0 rfl rfl)
theorem dX2_getPlace_1 : decode cX2_getPlace 1 = .ok (.aload_n 0, 1) := dk_42 (dk_at dksX2_getPlace_0 1 rfl rfl)
theorem dX2_getPlace_2 : decode cX2_getPlace 2 = .ok (.iload_n 1, 1) := dk_27 (dk_at dksX2_getPlace_0 2 rfl rfl)
theorem dX2_getPlace_3 : decode cX2_getPlace 3 = .ok (.invokevirtual 128, 3) := dk_182 0 128 (dk_at dksX2_getPlace_0 3 rfl rfl)
theorem dX2_getPlace_6 : decode cX2_getPlace 6 = .ok (.iconst 1, 1) := dk_4 (dk_at dksX2_getPlace_0 6 rfl rfl)
theorem dX2_getPlace_7 : decode cX2_getPlace 7 = .ok (.invokevirtual 104, 3) := dk_182 0 104 (dk_at dksX2_getPlace_0 7 rfl rfl)
theorem dX2_getPlace_10 : decode cX2_getPlace 10 = .ok (.ifCond .eq 7, 3) := dk_153 0 7 (dk_at dksX2_getPlace_0 10 rfl rfl)
theorem dX2_getPlace_13 : decode cX2_getPlace 13 = .ok (.iconst 0, 1) := dk_3 (dk_at dksX2_getPlace_0 13 rfl rfl)
theorem dX2_getPlace_14 : decode cX2_getPlace 14 = .ok (.goto 9, 3) := dk_167 0 9 (dk_at dksX2_getPlace_0 14 rfl rfl)
theorem dX2_getPlace_17 : decode cX2_getPlace 17 = .ok (.aload_n 0, 1) := dk_42 (dk_at dksX2_getPlace_0 17 rfl rfl)
theorem dX2_getPlace_18 : decode cX2_getPlace 18 = .ok (.getfield 22, 3) := dk_180 0 22 (dk_at dksX2_getPlace_0 18 rfl rfl)
theorem dX2_getPlace_21 : decode cX2_getPlace 21 = .ok (.iload_n 1, 1) := dk_27 (dk_at dksX2_getPlace_0 21 rfl rfl)
theorem dX2_getPlace_22 : decode cX2_getPlace 22 = .ok (.iaload, 1) := dk_46 (dk_at dksX2_getPlace_0 22 rfl rfl)
theorem dX2_getPlace_23 : decode cX2_getPlace 23 = .ok (.ireturn, 1) := dk_172 (dk_at dksX2_getPlace_0 23 rfl rfl)
abbrev cX2_discAt : ByteArray := prog_9_method_26_code
def yX2_discAt : MethodName := ⟨RX2, "discAt", "(II)I"⟩
def dkwX2_discAt_2 : List UInt8 := [16, 10, 27, 104, 28, 96, 46, 4, 100, 172]
abbrev dktX2_discAt_2 : List UInt8 := dkwX2_discAt_2 ++ []
def dkwX2_discAt_1 : List UInt8 := [96, 46, 158, 0, 7, 4, 167, 0, 4, 3, 5, 182, 0, 104, 153, 0, 5, 3, 172, 42, 180, 0, 65]
abbrev dktX2_discAt_1 : List UInt8 := dkwX2_discAt_1 ++ dktX2_discAt_2
def dkwX2_discAt_0 : List UInt8 := [42, 42, 27, 28, 182, 0, 116, 4, 182, 0, 104, 154, 0, 30, 42, 42, 180, 0, 65, 16, 10, 27, 104, 28]
abbrev dktX2_discAt_0 : List UInt8 := dkwX2_discAt_0 ++ dktX2_discAt_1
theorem dksX2_discAt_0 : cX2_discAt.data.toList.drop 0 = dktX2_discAt_0 := by decide +kernel
theorem dksX2_discAt_1 : cX2_discAt.data.toList.drop 24 = dktX2_discAt_1 := dk_seg dksX2_discAt_0 24 rfl rfl
theorem dksX2_discAt_2 : cX2_discAt.data.toList.drop 47 = dktX2_discAt_2 := dk_seg dksX2_discAt_1 23 rfl rfl
theorem dX2_discAt_0 : decode cX2_discAt 0 = .ok (.aload_n 0, 1) := dk_42 (dk_at dksX2_discAt_0 0 rfl rfl)
theorem dX2_discAt_1 : decode cX2_discAt 1 = .ok (.aload_n 0, 1) := dk_42 (dk_at dksX2_discAt_0 1 rfl rfl)
theorem dX2_discAt_2 : decode cX2_discAt 2 = .ok (.iload_n 1, 1) := dk_27 (dk_at dksX2_discAt_0 2 rfl rfl)
theorem dX2_discAt_3 : decode cX2_discAt 3 = .ok (.iload_n 2, 1) := dk_28 (dk_at dksX2_discAt_0 3 rfl rfl)
theorem dX2_discAt_4 : decode cX2_discAt 4 = .ok (.invokevirtual 116, 3) := dk_182 0 116 (dk_at dksX2_discAt_0 4 rfl rfl)
theorem dX2_discAt_7 : decode cX2_discAt 7 = .ok (.iconst 1, 1) := dk_4 (dk_at dksX2_discAt_0 7 rfl rfl)
theorem dX2_discAt_8 : decode cX2_discAt 8 = .ok (.invokevirtual 104, 3) := dk_182 0 104 (dk_at dksX2_discAt_0 8 rfl rfl)
theorem dX2_discAt_11 : decode cX2_discAt 11 = .ok (.ifCond .ne 30, 3) := dk_154 0 30 (dk_at dksX2_discAt_0 11 rfl rfl)
theorem dX2_discAt_14 : decode cX2_discAt 14 = .ok (.aload_n 0, 1) := dk_42 (dk_at dksX2_discAt_0 14 rfl rfl)
theorem dX2_discAt_15 : decode cX2_discAt 15 = .ok (.aload_n 0, 1) := dk_42 (dk_at dksX2_discAt_0 15 rfl rfl)
theorem dX2_discAt_16 : decode cX2_discAt 16 = .ok (.getfield 65, 3) := dk_180 0 65 (dk_at dksX2_discAt_0 16 rfl rfl)
theorem dX2_discAt_19 : decode cX2_discAt 19 = .ok (.bipush 10, 2) := dk_16 10 (dk_at dksX2_discAt_0 19 rfl rfl)
theorem dX2_discAt_21 : decode cX2_discAt 21 = .ok (.iload_n 1, 1) := dk_27 (dk_at dksX2_discAt_0 21 rfl rfl)
theorem dX2_discAt_22 : decode cX2_discAt 22 = .ok (.imul, 1) := dk_104 (dk_at dksX2_discAt_0 22 rfl rfl)
theorem dX2_discAt_23 : decode cX2_discAt 23 = .ok (.iload_n 2, 1) := dk_28 (dk_at dksX2_discAt_0 23 rfl rfl)
theorem dX2_discAt_24 : decode cX2_discAt 24 = .ok (.iadd, 1) := dk_96 (dk_at dksX2_discAt_1 0 rfl rfl)
theorem dX2_discAt_25 : decode cX2_discAt 25 = .ok (.iaload, 1) := dk_46 (dk_at dksX2_discAt_1 1 rfl rfl)
theorem dX2_discAt_26 : decode cX2_discAt 26 = .ok (.ifCond .le 7, 3) := dk_158 0 7 (dk_at dksX2_discAt_1 2 rfl rfl)
theorem dX2_discAt_29 : decode cX2_discAt 29 = .ok (.iconst 1, 1) := dk_4 (dk_at dksX2_discAt_1 5 rfl rfl)
theorem dX2_discAt_30 : decode cX2_discAt 30 = .ok (.goto 4, 3) := dk_167 0 4 (dk_at dksX2_discAt_1 6 rfl rfl)
theorem dX2_discAt_33 : decode cX2_discAt 33 = .ok (.iconst 0, 1) := dk_3 (dk_at dksX2_discAt_1 9 rfl rfl)
theorem dX2_discAt_34 : decode cX2_discAt 34 = .ok (.iconst 2, 1) := dk_5 (dk_at dksX2_discAt_1 10 rfl rfl)
theorem dX2_discAt_35 : decode cX2_discAt 35 = .ok (.invokevirtual 104, 3) := dk_182 0 104 (dk_at dksX2_discAt_1 11 rfl rfl)
theorem dX2_discAt_38 : decode cX2_discAt 38 = .ok (.ifCond .eq 5, 3) := dk_153 0 5 (dk_at dksX2_discAt_1 14 rfl rfl)
theorem dX2_discAt_41 : decode cX2_discAt 41 = .ok (.iconst 0, 1) := dk_3 (dk_at dksX2_discAt_1 17 rfl rfl)
theorem dX2_discAt_42 : decode cX2_discAt 42 = .ok (.ireturn, 1) := dk_172 (dk_at dksX2_discAt_1 18 rfl rfl)
theorem dX2_discAt_43 : decode cX2_discAt 43 = .ok (.aload_n 0, 1) := dk_42 (dk_at dksX2_discAt_1 19 rfl rfl)
theorem dX2_discAt_44 : decode cX2_discAt 44 = .ok (.getfield 65, 3) := dk_180 0 65 (dk_at dksX2_discAt_1 20 rfl rfl)
theorem dX2_discAt_47 : decode cX2_discAt 47 = .ok (.bipush 10, 2) := dk_16 10 (dk_at dksX2_discAt_2 0 rfl rfl)
theorem dX2_discAt_49 : decode cX2_discAt 49 = .ok (.iload_n 1, 1) := dk_27 (dk_at dksX2_discAt_2 2 rfl rfl)
theorem dX2_discAt_50 : decode cX2_discAt 50 = .ok (.imul, 1) := dk_104 (dk_at dksX2_discAt_2 3 rfl rfl)
theorem dX2_discAt_51 : decode cX2_discAt 51 = .ok (.iload_n 2, 1) := dk_28 (dk_at dksX2_discAt_2 4 rfl rfl)
theorem dX2_discAt_52 : decode cX2_discAt 52 = .ok (.iadd, 1) := dk_96 (dk_at dksX2_discAt_2 5 rfl rfl)
theorem dX2_discAt_53 : decode cX2_discAt 53 = .ok (.iaload, 1) := dk_46 (dk_at dksX2_discAt_2 6 rfl rfl)
theorem dX2_discAt_54 : decode cX2_discAt 54 = .ok (.iconst 1, 1) := dk_4 (dk_at dksX2_discAt_2 7 rfl rfl)
theorem dX2_discAt_55 : decode cX2_discAt 55 = .ok (.isub, 1) := dk_100 (dk_at dksX2_discAt_2 8 rfl rfl)
theorem dX2_discAt_56 : decode cX2_discAt 56 = .ok (.ireturn, 1) := dk_172 (dk_at dksX2_discAt_2 9 rfl rfl)
abbrev cX2_pull : ByteArray := prog_9_method_27_code
def yX2_pull : MethodName := ⟨RX2, "pull", "(I)I"⟩
def dkwX2_pull_1 : List UInt8 := [155, 0, 15, 42, 180, 0, 22, 27, 46, 16, 10, 108, 167, 0, 4, 2, 27, 182, 0, 112, 172]
abbrev dktX2_pull_1 : List UInt8 := dkwX2_pull_1 ++ []
def dkwX2_pull_0 : List UInt8 := [42, 42, 27, 182, 0, 128, 4, 182, 0, 104, 153, 0, 5, 3, 172, 42, 42, 180, 0, 22, 27, 46]
abbrev dktX2_pull_0 : List UInt8 := dkwX2_pull_0 ++ dktX2_pull_1
theorem dksX2_pull_0 : cX2_pull.data.toList.drop 0 = dktX2_pull_0 := by decide +kernel
theorem dksX2_pull_1 : cX2_pull.data.toList.drop 22 = dktX2_pull_1 := dk_seg dksX2_pull_0 22 rfl rfl
theorem dX2_pull_0 : decode cX2_pull 0 = .ok (.aload_n 0, 1) := dk_42 (dk_at dksX2_pull_0 0 rfl rfl)
theorem dX2_pull_1 : decode cX2_pull 1 = .ok (.aload_n 0, 1) := dk_42 (dk_at dksX2_pull_0 1 rfl rfl)
theorem dX2_pull_2 : decode cX2_pull 2 = .ok (.iload_n 1, 1) := dk_27 (dk_at dksX2_pull_0 2 rfl rfl)
theorem dX2_pull_3 : decode cX2_pull 3 = .ok (.invokevirtual 128, 3) := dk_182 0 128 (dk_at dksX2_pull_0 3 rfl rfl)
theorem dX2_pull_6 : decode cX2_pull 6 = .ok (.iconst 1, 1) := dk_4 (dk_at dksX2_pull_0 6 rfl rfl)
theorem dX2_pull_7 : decode cX2_pull 7 = .ok (.invokevirtual 104, 3) := dk_182 0 104 (dk_at dksX2_pull_0 7 rfl rfl)
theorem dX2_pull_10 : decode cX2_pull 10 = .ok (.ifCond .eq 5, 3) := dk_153 0 5 (dk_at dksX2_pull_0 10 rfl rfl)
theorem dX2_pull_13 : decode cX2_pull 13 = .ok (.iconst 0, 1) := dk_3 (dk_at dksX2_pull_0 13 rfl rfl)
theorem dX2_pull_14 : decode cX2_pull 14 = .ok (.ireturn, 1) := dk_172 (dk_at dksX2_pull_0 14 rfl rfl)
theorem dX2_pull_15 : decode cX2_pull 15 = .ok (.aload_n 0, 1) := dk_42 (dk_at dksX2_pull_0 15 rfl rfl)
theorem dX2_pull_16 : decode cX2_pull 16 = .ok (.aload_n 0, 1) := dk_42 (dk_at dksX2_pull_0 16 rfl rfl)
theorem dX2_pull_17 : decode cX2_pull 17 = .ok (.getfield 22, 3) := dk_180 0 22 (dk_at dksX2_pull_0 17 rfl rfl)
theorem dX2_pull_20 : decode cX2_pull 20 = .ok (.iload_n 1, 1) := dk_27 (dk_at dksX2_pull_0 20 rfl rfl)
theorem dX2_pull_21 : decode cX2_pull 21 = .ok (.iaload, 1) := dk_46 (dk_at dksX2_pull_0 21 rfl rfl)
theorem dX2_pull_22 : decode cX2_pull 22 = .ok (.ifCond .lt 15, 3) := dk_155 0 15 (dk_at dksX2_pull_1 0 rfl rfl)
theorem dX2_pull_25 : decode cX2_pull 25 = .ok (.aload_n 0, 1) := dk_42 (dk_at dksX2_pull_1 3 rfl rfl)
theorem dX2_pull_26 : decode cX2_pull 26 = .ok (.getfield 22, 3) := dk_180 0 22 (dk_at dksX2_pull_1 4 rfl rfl)
theorem dX2_pull_29 : decode cX2_pull 29 = .ok (.iload_n 1, 1) := dk_27 (dk_at dksX2_pull_1 7 rfl rfl)
theorem dX2_pull_30 : decode cX2_pull 30 = .ok (.iaload, 1) := dk_46 (dk_at dksX2_pull_1 8 rfl rfl)
theorem dX2_pull_31 : decode cX2_pull 31 = .ok (.bipush 10, 2) := dk_16 10 (dk_at dksX2_pull_1 9 rfl rfl)
theorem dX2_pull_33 : decode cX2_pull 33 = .ok (.idiv, 1) := dk_108 (dk_at dksX2_pull_1 11 rfl rfl)
theorem dX2_pull_34 : decode cX2_pull 34 = .ok (.goto 4, 3) := dk_167 0 4 (dk_at dksX2_pull_1 12 rfl rfl)
theorem dX2_pull_37 : decode cX2_pull 37 = .ok (.iconst (-1), 1) := dk_2 (dk_at dksX2_pull_1 15 rfl rfl)
theorem dX2_pull_38 : decode cX2_pull 38 = .ok (.iload_n 1, 1) := dk_27 (dk_at dksX2_pull_1 16 rfl rfl)
theorem dX2_pull_39 : decode cX2_pull 39 = .ok (.invokevirtual 112, 3) := dk_182 0 112 (dk_at dksX2_pull_1 17 rfl rfl)
theorem dX2_pull_42 : decode cX2_pull 42 = .ok (.ireturn, 1) := dk_172 (dk_at dksX2_pull_1 20 rfl rfl)
abbrev cX2_pullAt : ByteArray := prog_9_method_12_code
def yX2_pullAt : MethodName := ⟨RX2, "pullAt", "(II)I"⟩
def dkwX2_pullAt_5 : List UInt8 := [156, 0, 7, 3, 167, 0, 5, 21, 4, 172]
abbrev dktX2_pullAt_5 : List UInt8 := dkwX2_pullAt_5 ++ []
def dkwX2_pullAt_4 : List UInt8 := [21, 4, 5, 108, 96, 54, 4, 21, 4, 42, 180, 0, 19, 28, 46, 16, 10, 108, 100, 54, 4, 21, 4]
abbrev dktX2_pullAt_4 : List UInt8 := dkwX2_pullAt_4 ++ dktX2_pullAt_5
def dkwX2_pullAt_3 : List UInt8 := [27, 155, 0, 30, 42, 180, 0, 7, 28, 46, 16, 10, 112, 42, 180, 0, 28, 27, 46, 160, 0, 12, 21, 4]
abbrev dktX2_pullAt_3 : List UInt8 := dkwX2_pullAt_3 ++ dktX2_pullAt_4
def dkwX2_pullAt_2 : List UInt8 := [180, 0, 16, 28, 46, 100, 104, 100, 54, 4, 21, 4, 29, 162, 0, 7, 29, 167, 0, 5, 21, 4, 54, 4]
abbrev dktX2_pullAt_2 : List UInt8 := dkwX2_pullAt_2 ++ dktX2_pullAt_3
def dkwX2_pullAt_1 : List UInt8 := [3, 172, 42, 180, 0, 13, 28, 46, 8, 108, 62, 42, 180, 0, 13, 28, 46, 5, 42, 180, 0, 109, 42]
abbrev dktX2_pullAt_1 : List UInt8 := dkwX2_pullAt_1 ++ dktX2_pullAt_2
def dkwX2_pullAt_0 : List UInt8 := [42, 180, 0, 22, 28, 46, 16, 254, 159, 0, 16, 42, 180, 0, 109, 42, 180, 0, 16, 28, 46, 162, 0, 5]
abbrev dktX2_pullAt_0 : List UInt8 := dkwX2_pullAt_0 ++ dktX2_pullAt_1
theorem dksX2_pullAt_0 : cX2_pullAt.data.toList.drop 0 = dktX2_pullAt_0 := by decide +kernel
theorem dksX2_pullAt_1 : cX2_pullAt.data.toList.drop 24 = dktX2_pullAt_1 := dk_seg dksX2_pullAt_0 24 rfl rfl
theorem dksX2_pullAt_2 : cX2_pullAt.data.toList.drop 47 = dktX2_pullAt_2 := dk_seg dksX2_pullAt_1 23 rfl rfl
theorem dksX2_pullAt_3 : cX2_pullAt.data.toList.drop 71 = dktX2_pullAt_3 := dk_seg dksX2_pullAt_2 24 rfl rfl
theorem dksX2_pullAt_4 : cX2_pullAt.data.toList.drop 95 = dktX2_pullAt_4 := dk_seg dksX2_pullAt_3 24 rfl rfl
theorem dksX2_pullAt_5 : cX2_pullAt.data.toList.drop 118 = dktX2_pullAt_5 := dk_seg dksX2_pullAt_4 23 rfl rfl
theorem dX2_pullAt_0 : decode cX2_pullAt 0 = .ok (.aload_n 0, 1) := dk_42 (dk_at dksX2_pullAt_0 0 rfl rfl)
theorem dX2_pullAt_1 : decode cX2_pullAt 1 = .ok (.getfield 22, 3) := dk_180 0 22 (dk_at dksX2_pullAt_0 1 rfl rfl)
theorem dX2_pullAt_4 : decode cX2_pullAt 4 = .ok (.iload_n 2, 1) := dk_28 (dk_at dksX2_pullAt_0 4 rfl rfl)
theorem dX2_pullAt_5 : decode cX2_pullAt 5 = .ok (.iaload, 1) := dk_46 (dk_at dksX2_pullAt_0 5 rfl rfl)
theorem dX2_pullAt_6 : decode cX2_pullAt 6 = .ok (.bipush (-2), 2) := dk_16 254 (dk_at dksX2_pullAt_0 6 rfl rfl)
theorem dX2_pullAt_8 : decode cX2_pullAt 8 = .ok (.if_icmp .eq 16, 3) := dk_159 0 16 (dk_at dksX2_pullAt_0 8 rfl rfl)
theorem dX2_pullAt_11 : decode cX2_pullAt 11 = .ok (.aload_n 0, 1) := dk_42 (dk_at dksX2_pullAt_0 11 rfl rfl)
theorem dX2_pullAt_12 : decode cX2_pullAt 12 = .ok (.getfield 109, 3) := dk_180 0 109 (dk_at dksX2_pullAt_0 12 rfl rfl)
theorem dX2_pullAt_15 : decode cX2_pullAt 15 = .ok (.aload_n 0, 1) := dk_42 (dk_at dksX2_pullAt_0 15 rfl rfl)
theorem dX2_pullAt_16 : decode cX2_pullAt 16 = .ok (.getfield 16, 3) := dk_180 0 16 (dk_at dksX2_pullAt_0 16 rfl rfl)
theorem dX2_pullAt_19 : decode cX2_pullAt 19 = .ok (.iload_n 2, 1) := dk_28 (dk_at dksX2_pullAt_0 19 rfl rfl)
theorem dX2_pullAt_20 : decode cX2_pullAt 20 = .ok (.iaload, 1) := dk_46 (dk_at dksX2_pullAt_0 20 rfl rfl)
theorem dX2_pullAt_21 : decode cX2_pullAt 21 = .ok (.if_icmp .ge 5, 3) := dk_162 0 5 (dk_at dksX2_pullAt_0 21 rfl rfl)
theorem dX2_pullAt_24 : decode cX2_pullAt 24 = .ok (.iconst 0, 1) := dk_3 (dk_at dksX2_pullAt_1 0 rfl rfl)
theorem dX2_pullAt_25 : decode cX2_pullAt 25 = .ok (.ireturn, 1) := dk_172 (dk_at dksX2_pullAt_1 1 rfl rfl)
theorem dX2_pullAt_26 : decode cX2_pullAt 26 = .ok (.aload_n 0, 1) := dk_42 (dk_at dksX2_pullAt_1 2 rfl rfl)
theorem dX2_pullAt_27 : decode cX2_pullAt 27 = .ok (.getfield 13, 3) := dk_180 0 13 (dk_at dksX2_pullAt_1 3 rfl rfl)
theorem dX2_pullAt_30 : decode cX2_pullAt 30 = .ok (.iload_n 2, 1) := dk_28 (dk_at dksX2_pullAt_1 6 rfl rfl)
theorem dX2_pullAt_31 : decode cX2_pullAt 31 = .ok (.iaload, 1) := dk_46 (dk_at dksX2_pullAt_1 7 rfl rfl)
theorem dX2_pullAt_32 : decode cX2_pullAt 32 = .ok (.iconst 5, 1) := dk_8 (dk_at dksX2_pullAt_1 8 rfl rfl)
theorem dX2_pullAt_33 : decode cX2_pullAt 33 = .ok (.idiv, 1) := dk_108 (dk_at dksX2_pullAt_1 9 rfl rfl)
theorem dX2_pullAt_34 : decode cX2_pullAt 34 = .ok (.istore_n 3, 1) := dk_62 (dk_at dksX2_pullAt_1 10 rfl rfl)
theorem dX2_pullAt_35 : decode cX2_pullAt 35 = .ok (.aload_n 0, 1) := dk_42 (dk_at dksX2_pullAt_1 11 rfl rfl)
theorem dX2_pullAt_36 : decode cX2_pullAt 36 = .ok (.getfield 13, 3) := dk_180 0 13 (dk_at dksX2_pullAt_1 12 rfl rfl)
theorem dX2_pullAt_39 : decode cX2_pullAt 39 = .ok (.iload_n 2, 1) := dk_28 (dk_at dksX2_pullAt_1 15 rfl rfl)
theorem dX2_pullAt_40 : decode cX2_pullAt 40 = .ok (.iaload, 1) := dk_46 (dk_at dksX2_pullAt_1 16 rfl rfl)
theorem dX2_pullAt_41 : decode cX2_pullAt 41 = .ok (.iconst 2, 1) := dk_5 (dk_at dksX2_pullAt_1 17 rfl rfl)
theorem dX2_pullAt_42 : decode cX2_pullAt 42 = .ok (.aload_n 0, 1) := dk_42 (dk_at dksX2_pullAt_1 18 rfl rfl)
theorem dX2_pullAt_43 : decode cX2_pullAt 43 = .ok (.getfield 109, 3) := dk_180 0 109 (dk_at dksX2_pullAt_1 19 rfl rfl)
theorem dX2_pullAt_46 : decode cX2_pullAt 46 = .ok (.aload_n 0, 1) := dk_42 (dk_at dksX2_pullAt_1 22 rfl rfl)
theorem dX2_pullAt_47 : decode cX2_pullAt 47 = .ok (.getfield 16, 3) := dk_180 0 16 (dk_at dksX2_pullAt_2 0 rfl rfl)
theorem dX2_pullAt_50 : decode cX2_pullAt 50 = .ok (.iload_n 2, 1) := dk_28 (dk_at dksX2_pullAt_2 3 rfl rfl)
theorem dX2_pullAt_51 : decode cX2_pullAt 51 = .ok (.iaload, 1) := dk_46 (dk_at dksX2_pullAt_2 4 rfl rfl)
theorem dX2_pullAt_52 : decode cX2_pullAt 52 = .ok (.isub, 1) := dk_100 (dk_at dksX2_pullAt_2 5 rfl rfl)
theorem dX2_pullAt_53 : decode cX2_pullAt 53 = .ok (.imul, 1) := dk_104 (dk_at dksX2_pullAt_2 6 rfl rfl)
theorem dX2_pullAt_54 : decode cX2_pullAt 54 = .ok (.isub, 1) := dk_100 (dk_at dksX2_pullAt_2 7 rfl rfl)
theorem dX2_pullAt_55 : decode cX2_pullAt 55 = .ok (.istore 4, 2) := dk_54 4 (dk_at dksX2_pullAt_2 8 rfl rfl)
theorem dX2_pullAt_57 : decode cX2_pullAt 57 = .ok (.iload 4, 2) := dk_21 4 (dk_at dksX2_pullAt_2 10 rfl rfl)
theorem dX2_pullAt_59 : decode cX2_pullAt 59 = .ok (.iload_n 3, 1) := dk_29 (dk_at dksX2_pullAt_2 12 rfl rfl)
theorem dX2_pullAt_60 : decode cX2_pullAt 60 = .ok (.if_icmp .ge 7, 3) := dk_162 0 7 (dk_at dksX2_pullAt_2 13 rfl rfl)
theorem dX2_pullAt_63 : decode cX2_pullAt 63 = .ok (.iload_n 3, 1) := dk_29 (dk_at dksX2_pullAt_2 16 rfl rfl)
theorem dX2_pullAt_64 : decode cX2_pullAt 64 = .ok (.goto 5, 3) := dk_167 0 5 (dk_at dksX2_pullAt_2 17 rfl rfl)
theorem dX2_pullAt_67 : decode cX2_pullAt 67 = .ok (.iload 4, 2) := dk_21 4 (dk_at dksX2_pullAt_2 20 rfl rfl)
theorem dX2_pullAt_69 : decode cX2_pullAt 69 = .ok (.istore 4, 2) := dk_54 4 (dk_at dksX2_pullAt_2 22 rfl rfl)
theorem dX2_pullAt_71 : decode cX2_pullAt 71 = .ok (.iload_n 1, 1) := dk_27 (dk_at dksX2_pullAt_3 0 rfl rfl)
theorem dX2_pullAt_72 : decode cX2_pullAt 72 = .ok (.ifCond .lt 30, 3) := dk_155 0 30 (dk_at dksX2_pullAt_3 1 rfl rfl)
theorem dX2_pullAt_75 : decode cX2_pullAt 75 = .ok (.aload_n 0, 1) := dk_42 (dk_at dksX2_pullAt_3 4 rfl rfl)
theorem dX2_pullAt_76 : decode cX2_pullAt 76 = .ok (.getfield 7, 3) := dk_180 0 7 (dk_at dksX2_pullAt_3 5 rfl rfl)
theorem dX2_pullAt_79 : decode cX2_pullAt 79 = .ok (.iload_n 2, 1) := dk_28 (dk_at dksX2_pullAt_3 8 rfl rfl)
theorem dX2_pullAt_80 : decode cX2_pullAt 80 = .ok (.iaload, 1) := dk_46 (dk_at dksX2_pullAt_3 9 rfl rfl)
theorem dX2_pullAt_81 : decode cX2_pullAt 81 = .ok (.bipush 10, 2) := dk_16 10 (dk_at dksX2_pullAt_3 10 rfl rfl)
theorem dX2_pullAt_83 : decode cX2_pullAt 83 = .ok (.irem, 1) := dk_112 (dk_at dksX2_pullAt_3 12 rfl rfl)
theorem dX2_pullAt_84 : decode cX2_pullAt 84 = .ok (.aload_n 0, 1) := dk_42 (dk_at dksX2_pullAt_3 13 rfl rfl)
theorem dX2_pullAt_85 : decode cX2_pullAt 85 = .ok (.getfield 28, 3) := dk_180 0 28 (dk_at dksX2_pullAt_3 14 rfl rfl)
theorem dX2_pullAt_88 : decode cX2_pullAt 88 = .ok (.iload_n 1, 1) := dk_27 (dk_at dksX2_pullAt_3 17 rfl rfl)
theorem dX2_pullAt_89 : decode cX2_pullAt 89 = .ok (.iaload, 1) := dk_46 (dk_at dksX2_pullAt_3 18 rfl rfl)
theorem dX2_pullAt_90 : decode cX2_pullAt 90 = .ok (.if_icmp .ne 12, 3) := dk_160 0 12 (dk_at dksX2_pullAt_3 19 rfl rfl)
theorem dX2_pullAt_93 : decode cX2_pullAt 93 = .ok (.iload 4, 2) := dk_21 4 (dk_at dksX2_pullAt_3 22 rfl rfl)
theorem dX2_pullAt_95 : decode cX2_pullAt 95 = .ok (.iload 4, 2) := dk_21 4 (dk_at dksX2_pullAt_4 0 rfl rfl)
theorem dX2_pullAt_97 : decode cX2_pullAt 97 = .ok (.iconst 2, 1) := dk_5 (dk_at dksX2_pullAt_4 2 rfl rfl)
theorem dX2_pullAt_98 : decode cX2_pullAt 98 = .ok (.idiv, 1) := dk_108 (dk_at dksX2_pullAt_4 3 rfl rfl)
theorem dX2_pullAt_99 : decode cX2_pullAt 99 = .ok (.iadd, 1) := dk_96 (dk_at dksX2_pullAt_4 4 rfl rfl)
theorem dX2_pullAt_100 : decode cX2_pullAt 100 = .ok (.istore 4, 2) := dk_54 4 (dk_at dksX2_pullAt_4 5 rfl rfl)
theorem dX2_pullAt_102 : decode cX2_pullAt 102 = .ok (.iload 4, 2) := dk_21 4 (dk_at dksX2_pullAt_4 7 rfl rfl)
theorem dX2_pullAt_104 : decode cX2_pullAt 104 = .ok (.aload_n 0, 1) := dk_42 (dk_at dksX2_pullAt_4 9 rfl rfl)
theorem dX2_pullAt_105 : decode cX2_pullAt 105 = .ok (.getfield 19, 3) := dk_180 0 19 (dk_at dksX2_pullAt_4 10 rfl rfl)
theorem dX2_pullAt_108 : decode cX2_pullAt 108 = .ok (.iload_n 2, 1) := dk_28 (dk_at dksX2_pullAt_4 13 rfl rfl)
theorem dX2_pullAt_109 : decode cX2_pullAt 109 = .ok (.iaload, 1) := dk_46 (dk_at dksX2_pullAt_4 14 rfl rfl)
theorem dX2_pullAt_110 : decode cX2_pullAt 110 = .ok (.bipush 10, 2) := dk_16 10 (dk_at dksX2_pullAt_4 15 rfl rfl)
theorem dX2_pullAt_112 : decode cX2_pullAt 112 = .ok (.idiv, 1) := dk_108 (dk_at dksX2_pullAt_4 17 rfl rfl)
theorem dX2_pullAt_113 : decode cX2_pullAt 113 = .ok (.isub, 1) := dk_100 (dk_at dksX2_pullAt_4 18 rfl rfl)
theorem dX2_pullAt_114 : decode cX2_pullAt 114 = .ok (.istore 4, 2) := dk_54 4 (dk_at dksX2_pullAt_4 19 rfl rfl)
theorem dX2_pullAt_116 : decode cX2_pullAt 116 = .ok (.iload 4, 2) := dk_21 4 (dk_at dksX2_pullAt_4 21 rfl rfl)
theorem dX2_pullAt_118 : decode cX2_pullAt 118 = .ok (.ifCond .ge 7, 3) := dk_156 0 7 (dk_at dksX2_pullAt_5 0 rfl rfl)
theorem dX2_pullAt_121 : decode cX2_pullAt 121 = .ok (.iconst 0, 1) := dk_3 (dk_at dksX2_pullAt_5 3 rfl rfl)
theorem dX2_pullAt_122 : decode cX2_pullAt 122 = .ok (.goto 5, 3) := dk_167 0 5 (dk_at dksX2_pullAt_5 4 rfl rfl)
theorem dX2_pullAt_125 : decode cX2_pullAt 125 = .ok (.iload 4, 2) := dk_21 4 (dk_at dksX2_pullAt_5 7 rfl rfl)
theorem dX2_pullAt_127 : decode cX2_pullAt 127 = .ok (.ireturn, 1) := dk_172 (dk_at dksX2_pullAt_5 9 rfl rfl)
abbrev cX2_pullIn : ByteArray := prog_9_method_28_code
def yX2_pullIn : MethodName := ⟨RX2, "pullIn", "(II)I"⟩
def dkwX2_pullIn_1 : List UInt8 := [182, 0, 104, 153, 0, 7, 3, 167, 0, 9, 42, 27, 28, 182, 0, 112, 172]
abbrev dktX2_pullIn_1 : List UInt8 := dkwX2_pullIn_1 ++ []
def dkwX2_pullIn_0 : List UInt8 := [42, 42, 27, 182, 0, 100, 153, 0, 15, 42, 28, 182, 0, 128, 153, 0, 7, 4, 167, 0, 4, 3, 4]
abbrev dktX2_pullIn_0 : List UInt8 := dkwX2_pullIn_0 ++ dktX2_pullIn_1
theorem dksX2_pullIn_0 : cX2_pullIn.data.toList.drop 0 = dktX2_pullIn_0 := by decide +kernel
theorem dksX2_pullIn_1 : cX2_pullIn.data.toList.drop 23 = dktX2_pullIn_1 := dk_seg dksX2_pullIn_0 23 rfl rfl
theorem dX2_pullIn_0 : decode cX2_pullIn 0 = .ok (.aload_n 0, 1) := dk_42 (dk_at dksX2_pullIn_0 0 rfl rfl)
theorem dX2_pullIn_1 : decode cX2_pullIn 1 = .ok (.aload_n 0, 1) := dk_42 (dk_at dksX2_pullIn_0 1 rfl rfl)
theorem dX2_pullIn_2 : decode cX2_pullIn 2 = .ok (.iload_n 1, 1) := dk_27 (dk_at dksX2_pullIn_0 2 rfl rfl)
theorem dX2_pullIn_3 : decode cX2_pullIn 3 = .ok (.invokevirtual 100, 3) := dk_182 0 100 (dk_at dksX2_pullIn_0 3 rfl rfl)
theorem dX2_pullIn_6 : decode cX2_pullIn 6 = .ok (.ifCond .eq 15, 3) := dk_153 0 15 (dk_at dksX2_pullIn_0 6 rfl rfl)
theorem dX2_pullIn_9 : decode cX2_pullIn 9 = .ok (.aload_n 0, 1) := dk_42 (dk_at dksX2_pullIn_0 9 rfl rfl)
theorem dX2_pullIn_10 : decode cX2_pullIn 10 = .ok (.iload_n 2, 1) := dk_28 (dk_at dksX2_pullIn_0 10 rfl rfl)
theorem dX2_pullIn_11 : decode cX2_pullIn 11 = .ok (.invokevirtual 128, 3) := dk_182 0 128 (dk_at dksX2_pullIn_0 11 rfl rfl)
theorem dX2_pullIn_14 : decode cX2_pullIn 14 = .ok (.ifCond .eq 7, 3) := dk_153 0 7 (dk_at dksX2_pullIn_0 14 rfl rfl)
theorem dX2_pullIn_17 : decode cX2_pullIn 17 = .ok (.iconst 1, 1) := dk_4 (dk_at dksX2_pullIn_0 17 rfl rfl)
theorem dX2_pullIn_18 : decode cX2_pullIn 18 = .ok (.goto 4, 3) := dk_167 0 4 (dk_at dksX2_pullIn_0 18 rfl rfl)
theorem dX2_pullIn_21 : decode cX2_pullIn 21 = .ok (.iconst 0, 1) := dk_3 (dk_at dksX2_pullIn_0 21 rfl rfl)
theorem dX2_pullIn_22 : decode cX2_pullIn 22 = .ok (.iconst 1, 1) := dk_4 (dk_at dksX2_pullIn_0 22 rfl rfl)
theorem dX2_pullIn_23 : decode cX2_pullIn 23 = .ok (.invokevirtual 104, 3) := dk_182 0 104 (dk_at dksX2_pullIn_1 0 rfl rfl)
theorem dX2_pullIn_26 : decode cX2_pullIn 26 = .ok (.ifCond .eq 7, 3) := dk_153 0 7 (dk_at dksX2_pullIn_1 3 rfl rfl)
theorem dX2_pullIn_29 : decode cX2_pullIn 29 = .ok (.iconst 0, 1) := dk_3 (dk_at dksX2_pullIn_1 6 rfl rfl)
theorem dX2_pullIn_30 : decode cX2_pullIn 30 = .ok (.goto 9, 3) := dk_167 0 9 (dk_at dksX2_pullIn_1 7 rfl rfl)
theorem dX2_pullIn_33 : decode cX2_pullIn 33 = .ok (.aload_n 0, 1) := dk_42 (dk_at dksX2_pullIn_1 10 rfl rfl)
theorem dX2_pullIn_34 : decode cX2_pullIn 34 = .ok (.iload_n 1, 1) := dk_27 (dk_at dksX2_pullIn_1 11 rfl rfl)
theorem dX2_pullIn_35 : decode cX2_pullIn 35 = .ok (.iload_n 2, 1) := dk_28 (dk_at dksX2_pullIn_1 12 rfl rfl)
theorem dX2_pullIn_36 : decode cX2_pullIn 36 = .ok (.invokevirtual 112, 3) := dk_182 0 112 (dk_at dksX2_pullIn_1 13 rfl rfl)
theorem dX2_pullIn_39 : decode cX2_pullIn 39 = .ok (.ireturn, 1) := dk_172 (dk_at dksX2_pullIn_1 16 rfl rfl)
abbrev cX2_pass : ByteArray := prog_9_method_29_code
def yX2_pass : MethodName := ⟨RX2, "pass", "()I"⟩
def dkwX2_pass_6 : List UInt8 := [60, 27, 7, 162, 0, 16, 42, 180, 0, 62, 27, 3, 84, 132, 1, 1, 167, 255, 241, 42, 180, 0, 109, 172]
abbrev dktX2_pass_6 : List UInt8 := dkwX2_pass_6 ++ []
def dkwX2_pass_5 : List UInt8 := [132, 1, 1, 167, 255, 163, 42, 89, 180, 0, 109, 4, 96, 181, 0, 109, 42, 17, 2, 88, 181, 0, 84, 3]
abbrev dktX2_pass_5 : List UInt8 := dkwX2_pass_5 ++ dktX2_pass_6
def dkwX2_pass_4 : List UInt8 := [108, 62, 42, 180, 0, 37, 27, 16, 10, 108, 92, 46, 8, 29, 104, 96, 79, 42, 27, 29, 182, 0, 124]
abbrev dktX2_pass_4 : List UInt8 := dkwX2_pass_4 ++ dktX2_pass_5
def dkwX2_pass_3 : List UInt8 := [180, 0, 19, 42, 180, 0, 65, 27, 46, 4, 100, 46, 16, 60, 162, 0, 33, 42, 27, 182, 0, 131, 16, 8]
abbrev dktX2_pass_3 : List UInt8 := dkwX2_pass_3 ++ dktX2_pass_4
def dkwX2_pass_2 : List UInt8 := [154, 0, 16, 42, 180, 0, 65, 27, 46, 158, 0, 7, 4, 167, 0, 4, 3, 61, 28, 153, 0, 51, 42]
abbrev dktX2_pass_2 : List UInt8 := dkwX2_pass_2 ++ dktX2_pass_3
def dkwX2_pass_1 : List UInt8 := [3, 60, 27, 16, 10, 42, 180, 0, 97, 104, 162, 0, 88, 42, 180, 0, 58, 27, 16, 10, 108, 51]
abbrev dktX2_pass_1 : List UInt8 := dkwX2_pass_1 ++ dktX2_pass_2
def dkwX2_pass_0 : List UInt8 := [42, 42, 180, 0, 109, 16, 99, 162, 0, 7, 4, 167, 0, 4, 3, 4, 182, 0, 104, 153, 0, 5, 3, 172]
abbrev dktX2_pass_0 : List UInt8 := dkwX2_pass_0 ++ dktX2_pass_1
theorem dksX2_pass_0 : cX2_pass.data.toList.drop 0 = dktX2_pass_0 := by decide +kernel
theorem dksX2_pass_1 : cX2_pass.data.toList.drop 24 = dktX2_pass_1 := dk_seg dksX2_pass_0 24 rfl rfl
theorem dksX2_pass_2 : cX2_pass.data.toList.drop 46 = dktX2_pass_2 := dk_seg dksX2_pass_1 22 rfl rfl
theorem dksX2_pass_3 : cX2_pass.data.toList.drop 69 = dktX2_pass_3 := dk_seg dksX2_pass_2 23 rfl rfl
theorem dksX2_pass_4 : cX2_pass.data.toList.drop 93 = dktX2_pass_4 := dk_seg dksX2_pass_3 24 rfl rfl
theorem dksX2_pass_5 : cX2_pass.data.toList.drop 116 = dktX2_pass_5 := dk_seg dksX2_pass_4 23 rfl rfl
theorem dksX2_pass_6 : cX2_pass.data.toList.drop 140 = dktX2_pass_6 := dk_seg dksX2_pass_5 24 rfl rfl
theorem dX2_pass_0 : decode cX2_pass 0 = .ok (.aload_n 0, 1) := dk_42 (dk_at dksX2_pass_0 0 rfl rfl)
theorem dX2_pass_1 : decode cX2_pass 1 = .ok (.aload_n 0, 1) := dk_42 (dk_at dksX2_pass_0 1 rfl rfl)
theorem dX2_pass_2 : decode cX2_pass 2 = .ok (.getfield 109, 3) := dk_180 0 109 (dk_at dksX2_pass_0 2 rfl rfl)
theorem dX2_pass_5 : decode cX2_pass 5 = .ok (.bipush 99, 2) := dk_16 99 (dk_at dksX2_pass_0 5 rfl rfl)
theorem dX2_pass_7 : decode cX2_pass 7 = .ok (.if_icmp .ge 7, 3) := dk_162 0 7 (dk_at dksX2_pass_0 7 rfl rfl)
theorem dX2_pass_10 : decode cX2_pass 10 = .ok (.iconst 1, 1) := dk_4 (dk_at dksX2_pass_0 10 rfl rfl)
theorem dX2_pass_11 : decode cX2_pass 11 = .ok (.goto 4, 3) := dk_167 0 4 (dk_at dksX2_pass_0 11 rfl rfl)
theorem dX2_pass_14 : decode cX2_pass 14 = .ok (.iconst 0, 1) := dk_3 (dk_at dksX2_pass_0 14 rfl rfl)
theorem dX2_pass_15 : decode cX2_pass 15 = .ok (.iconst 1, 1) := dk_4 (dk_at dksX2_pass_0 15 rfl rfl)
theorem dX2_pass_16 : decode cX2_pass 16 = .ok (.invokevirtual 104, 3) := dk_182 0 104 (dk_at dksX2_pass_0 16 rfl rfl)
theorem dX2_pass_19 : decode cX2_pass 19 = .ok (.ifCond .eq 5, 3) := dk_153 0 5 (dk_at dksX2_pass_0 19 rfl rfl)
theorem dX2_pass_22 : decode cX2_pass 22 = .ok (.iconst 0, 1) := dk_3 (dk_at dksX2_pass_0 22 rfl rfl)
theorem dX2_pass_23 : decode cX2_pass 23 = .ok (.ireturn, 1) := dk_172 (dk_at dksX2_pass_0 23 rfl rfl)
theorem dX2_pass_24 : decode cX2_pass 24 = .ok (.iconst 0, 1) := dk_3 (dk_at dksX2_pass_1 0 rfl rfl)
theorem dX2_pass_25 : decode cX2_pass 25 = .ok (.istore_n 1, 1) := dk_60 (dk_at dksX2_pass_1 1 rfl rfl)
theorem dX2_pass_26 : decode cX2_pass 26 = .ok (.iload_n 1, 1) := dk_27 (dk_at dksX2_pass_1 2 rfl rfl)
theorem dX2_pass_27 : decode cX2_pass 27 = .ok (.bipush 10, 2) := dk_16 10 (dk_at dksX2_pass_1 3 rfl rfl)
theorem dX2_pass_29 : decode cX2_pass 29 = .ok (.aload_n 0, 1) := dk_42 (dk_at dksX2_pass_1 5 rfl rfl)
theorem dX2_pass_30 : decode cX2_pass 30 = .ok (.getfield 97, 3) := dk_180 0 97 (dk_at dksX2_pass_1 6 rfl rfl)
theorem dX2_pass_33 : decode cX2_pass 33 = .ok (.imul, 1) := dk_104 (dk_at dksX2_pass_1 9 rfl rfl)
theorem dX2_pass_34 : decode cX2_pass 34 = .ok (.if_icmp .ge 88, 3) := dk_162 0 88 (dk_at dksX2_pass_1 10 rfl rfl)
theorem dX2_pass_37 : decode cX2_pass 37 = .ok (.aload_n 0, 1) := dk_42 (dk_at dksX2_pass_1 13 rfl rfl)
theorem dX2_pass_38 : decode cX2_pass 38 = .ok (.getfield 58, 3) := dk_180 0 58 (dk_at dksX2_pass_1 14 rfl rfl)
theorem dX2_pass_41 : decode cX2_pass 41 = .ok (.iload_n 1, 1) := dk_27 (dk_at dksX2_pass_1 17 rfl rfl)
theorem dX2_pass_42 : decode cX2_pass 42 = .ok (.bipush 10, 2) := dk_16 10 (dk_at dksX2_pass_1 18 rfl rfl)
theorem dX2_pass_44 : decode cX2_pass 44 = .ok (.idiv, 1) := dk_108 (dk_at dksX2_pass_1 20 rfl rfl)
theorem dX2_pass_45 : decode cX2_pass 45 = .ok (.baload, 1) := dk_51 (dk_at dksX2_pass_1 21 rfl rfl)
theorem dX2_pass_46 : decode cX2_pass 46 = .ok (.ifCond .ne 16, 3) := dk_154 0 16 (dk_at dksX2_pass_2 0 rfl rfl)
theorem dX2_pass_49 : decode cX2_pass 49 = .ok (.aload_n 0, 1) := dk_42 (dk_at dksX2_pass_2 3 rfl rfl)
theorem dX2_pass_50 : decode cX2_pass 50 = .ok (.getfield 65, 3) := dk_180 0 65 (dk_at dksX2_pass_2 4 rfl rfl)
theorem dX2_pass_53 : decode cX2_pass 53 = .ok (.iload_n 1, 1) := dk_27 (dk_at dksX2_pass_2 7 rfl rfl)
theorem dX2_pass_54 : decode cX2_pass 54 = .ok (.iaload, 1) := dk_46 (dk_at dksX2_pass_2 8 rfl rfl)
theorem dX2_pass_55 : decode cX2_pass 55 = .ok (.ifCond .le 7, 3) := dk_158 0 7 (dk_at dksX2_pass_2 9 rfl rfl)
theorem dX2_pass_58 : decode cX2_pass 58 = .ok (.iconst 1, 1) := dk_4 (dk_at dksX2_pass_2 12 rfl rfl)
theorem dX2_pass_59 : decode cX2_pass 59 = .ok (.goto 4, 3) := dk_167 0 4 (dk_at dksX2_pass_2 13 rfl rfl)
theorem dX2_pass_62 : decode cX2_pass 62 = .ok (.iconst 0, 1) := dk_3 (dk_at dksX2_pass_2 16 rfl rfl)
theorem dX2_pass_63 : decode cX2_pass 63 = .ok (.istore_n 2, 1) := dk_61 (dk_at dksX2_pass_2 17 rfl rfl)
theorem dX2_pass_64 : decode cX2_pass 64 = .ok (.iload_n 2, 1) := dk_28 (dk_at dksX2_pass_2 18 rfl rfl)
theorem dX2_pass_65 : decode cX2_pass 65 = .ok (.ifCond .eq 51, 3) := dk_153 0 51 (dk_at dksX2_pass_2 19 rfl rfl)
theorem dX2_pass_68 : decode cX2_pass 68 = .ok (.aload_n 0, 1) := dk_42 (dk_at dksX2_pass_2 22 rfl rfl)
theorem dX2_pass_69 : decode cX2_pass 69 = .ok (.getfield 19, 3) := dk_180 0 19 (dk_at dksX2_pass_3 0 rfl rfl)
theorem dX2_pass_72 : decode cX2_pass 72 = .ok (.aload_n 0, 1) := dk_42 (dk_at dksX2_pass_3 3 rfl rfl)
theorem dX2_pass_73 : decode cX2_pass 73 = .ok (.getfield 65, 3) := dk_180 0 65 (dk_at dksX2_pass_3 4 rfl rfl)
theorem dX2_pass_76 : decode cX2_pass 76 = .ok (.iload_n 1, 1) := dk_27 (dk_at dksX2_pass_3 7 rfl rfl)
theorem dX2_pass_77 : decode cX2_pass 77 = .ok (.iaload, 1) := dk_46 (dk_at dksX2_pass_3 8 rfl rfl)
theorem dX2_pass_78 : decode cX2_pass 78 = .ok (.iconst 1, 1) := dk_4 (dk_at dksX2_pass_3 9 rfl rfl)
theorem dX2_pass_79 : decode cX2_pass 79 = .ok (.isub, 1) := dk_100 (dk_at dksX2_pass_3 10 rfl rfl)
theorem dX2_pass_80 : decode cX2_pass 80 = .ok (.iaload, 1) := dk_46 (dk_at dksX2_pass_3 11 rfl rfl)
theorem dX2_pass_81 : decode cX2_pass 81 = .ok (.bipush 60, 2) := dk_16 60 (dk_at dksX2_pass_3 12 rfl rfl)
theorem dX2_pass_83 : decode cX2_pass 83 = .ok (.if_icmp .ge 33, 3) := dk_162 0 33 (dk_at dksX2_pass_3 14 rfl rfl)
theorem dX2_pass_86 : decode cX2_pass 86 = .ok (.aload_n 0, 1) := dk_42 (dk_at dksX2_pass_3 17 rfl rfl)
theorem dX2_pass_87 : decode cX2_pass 87 = .ok (.iload_n 1, 1) := dk_27 (dk_at dksX2_pass_3 18 rfl rfl)
theorem dX2_pass_88 : decode cX2_pass 88 = .ok (.invokevirtual 131, 3) := dk_182 0 131 (dk_at dksX2_pass_3 19 rfl rfl)
theorem dX2_pass_91 : decode cX2_pass 91 = .ok (.bipush 8, 2) := dk_16 8 (dk_at dksX2_pass_3 22 rfl rfl)
theorem dX2_pass_93 : decode cX2_pass 93 = .ok (.idiv, 1) := dk_108 (dk_at dksX2_pass_4 0 rfl rfl)
theorem dX2_pass_94 : decode cX2_pass 94 = .ok (.istore_n 3, 1) := dk_62 (dk_at dksX2_pass_4 1 rfl rfl)
theorem dX2_pass_95 : decode cX2_pass 95 = .ok (.aload_n 0, 1) := dk_42 (dk_at dksX2_pass_4 2 rfl rfl)
theorem dX2_pass_96 : decode cX2_pass 96 = .ok (.getfield 37, 3) := dk_180 0 37 (dk_at dksX2_pass_4 3 rfl rfl)
theorem dX2_pass_99 : decode cX2_pass 99 = .ok (.iload_n 1, 1) := dk_27 (dk_at dksX2_pass_4 6 rfl rfl)
theorem dX2_pass_100 : decode cX2_pass 100 = .ok (.bipush 10, 2) := dk_16 10 (dk_at dksX2_pass_4 7 rfl rfl)
theorem dX2_pass_102 : decode cX2_pass 102 = .ok (.idiv, 1) := dk_108 (dk_at dksX2_pass_4 9 rfl rfl)
theorem dX2_pass_103 : decode cX2_pass 103 = .ok (.dup2, 1) := dk_92 (dk_at dksX2_pass_4 10 rfl rfl)
theorem dX2_pass_104 : decode cX2_pass 104 = .ok (.iaload, 1) := dk_46 (dk_at dksX2_pass_4 11 rfl rfl)
theorem dX2_pass_105 : decode cX2_pass 105 = .ok (.iconst 5, 1) := dk_8 (dk_at dksX2_pass_4 12 rfl rfl)
theorem dX2_pass_106 : decode cX2_pass 106 = .ok (.iload_n 3, 1) := dk_29 (dk_at dksX2_pass_4 13 rfl rfl)
theorem dX2_pass_107 : decode cX2_pass 107 = .ok (.imul, 1) := dk_104 (dk_at dksX2_pass_4 14 rfl rfl)
theorem dX2_pass_108 : decode cX2_pass 108 = .ok (.iadd, 1) := dk_96 (dk_at dksX2_pass_4 15 rfl rfl)
theorem dX2_pass_109 : decode cX2_pass 109 = .ok (.iastore, 1) := dk_79 (dk_at dksX2_pass_4 16 rfl rfl)
theorem dX2_pass_110 : decode cX2_pass 110 = .ok (.aload_n 0, 1) := dk_42 (dk_at dksX2_pass_4 17 rfl rfl)
theorem dX2_pass_111 : decode cX2_pass 111 = .ok (.iload_n 1, 1) := dk_27 (dk_at dksX2_pass_4 18 rfl rfl)
theorem dX2_pass_112 : decode cX2_pass 112 = .ok (.iload_n 3, 1) := dk_29 (dk_at dksX2_pass_4 19 rfl rfl)
theorem dX2_pass_113 : decode cX2_pass 113 = .ok (.invokevirtual 124, 3) := dk_182 0 124 (dk_at dksX2_pass_4 20 rfl rfl)
theorem dX2_pass_116 : decode cX2_pass 116 = .ok (.iinc 1 1, 3) := dk_132 1 1 (dk_at dksX2_pass_5 0 rfl rfl)
theorem dX2_pass_119 : decode cX2_pass 119 = .ok (.goto (-93), 3) := dk_167 255 163 (dk_at dksX2_pass_5 3 rfl rfl)
theorem dX2_pass_122 : decode cX2_pass 122 = .ok (.aload_n 0, 1) := dk_42 (dk_at dksX2_pass_5 6 rfl rfl)
theorem dX2_pass_123 : decode cX2_pass 123 = .ok (.dup, 1) := dk_89 (dk_at dksX2_pass_5 7 rfl rfl)
theorem dX2_pass_124 : decode cX2_pass 124 = .ok (.getfield 109, 3) := dk_180 0 109 (dk_at dksX2_pass_5 8 rfl rfl)
theorem dX2_pass_127 : decode cX2_pass 127 = .ok (.iconst 1, 1) := dk_4 (dk_at dksX2_pass_5 11 rfl rfl)
theorem dX2_pass_128 : decode cX2_pass 128 = .ok (.iadd, 1) := dk_96 (dk_at dksX2_pass_5 12 rfl rfl)
theorem dX2_pass_129 : decode cX2_pass 129 = .ok (.putfield 109, 3) := dk_181 0 109 (dk_at dksX2_pass_5 13 rfl rfl)
theorem dX2_pass_132 : decode cX2_pass 132 = .ok (.aload_n 0, 1) := dk_42 (dk_at dksX2_pass_5 16 rfl rfl)
theorem dX2_pass_133 : decode cX2_pass 133 = .ok (.sipush 600, 3) := dk_17 2 88 (dk_at dksX2_pass_5 17 rfl rfl)
theorem dX2_pass_136 : decode cX2_pass 136 = .ok (.putfield 84, 3) := dk_181 0 84 (dk_at dksX2_pass_5 20 rfl rfl)
theorem dX2_pass_139 : decode cX2_pass 139 = .ok (.iconst 0, 1) := dk_3 (dk_at dksX2_pass_5 23 rfl rfl)
theorem dX2_pass_140 : decode cX2_pass 140 = .ok (.istore_n 1, 1) := dk_60 (dk_at dksX2_pass_6 0 rfl rfl)
theorem dX2_pass_141 : decode cX2_pass 141 = .ok (.iload_n 1, 1) := dk_27 (dk_at dksX2_pass_6 1 rfl rfl)
theorem dX2_pass_142 : decode cX2_pass 142 = .ok (.iconst 4, 1) := dk_7 (dk_at dksX2_pass_6 2 rfl rfl)
theorem dX2_pass_143 : decode cX2_pass 143 = .ok (.if_icmp .ge 16, 3) := dk_162 0 16 (dk_at dksX2_pass_6 3 rfl rfl)
theorem dX2_pass_146 : decode cX2_pass 146 = .ok (.aload_n 0, 1) := dk_42 (dk_at dksX2_pass_6 6 rfl rfl)
theorem dX2_pass_147 : decode cX2_pass 147 = .ok (.getfield 62, 3) := dk_180 0 62 (dk_at dksX2_pass_6 7 rfl rfl)
theorem dX2_pass_150 : decode cX2_pass 150 = .ok (.iload_n 1, 1) := dk_27 (dk_at dksX2_pass_6 10 rfl rfl)
theorem dX2_pass_151 : decode cX2_pass 151 = .ok (.iconst 0, 1) := dk_3 (dk_at dksX2_pass_6 11 rfl rfl)
theorem dX2_pass_152 : decode cX2_pass 152 = .ok (.bastore, 1) := dk_84 (dk_at dksX2_pass_6 12 rfl rfl)
theorem dX2_pass_153 : decode cX2_pass 153 = .ok (.iinc 1 1, 3) := dk_132 1 1 (dk_at dksX2_pass_6 13 rfl rfl)
theorem dX2_pass_156 : decode cX2_pass 156 = .ok (.goto (-15), 3) := dk_167 255 241 (dk_at dksX2_pass_6 16 rfl rfl)
theorem dX2_pass_159 : decode cX2_pass 159 = .ok (.aload_n 0, 1) := dk_42 (dk_at dksX2_pass_6 19 rfl rfl)
theorem dX2_pass_160 : decode cX2_pass 160 = .ok (.getfield 109, 3) := dk_180 0 109 (dk_at dksX2_pass_6 20 rfl rfl)
theorem dX2_pass_163 : decode cX2_pass 163 = .ok (.ireturn, 1) := dk_172 (dk_at dksX2_pass_6 23 rfl rfl)
abbrev cX2_pullOfSlot : ByteArray := prog_9_method_13_code
def yX2_pullOfSlot : MethodName := ⟨RX2, "pullOfSlot", "(I)I"⟩
def dkwX2_pullOfSlot_1 : List UInt8 := [4, 100, 182, 0, 112, 172]
abbrev dktX2_pullOfSlot_1 : List UInt8 := dkwX2_pullOfSlot_1 ++ []
def dkwX2_pullOfSlot_0 : List UInt8 := [42, 180, 0, 65, 27, 46, 154, 0, 7, 3, 167, 0, 19, 42, 27, 16, 10, 108, 42, 180, 0, 65, 27, 46]
abbrev dktX2_pullOfSlot_0 : List UInt8 := dkwX2_pullOfSlot_0 ++ dktX2_pullOfSlot_1
theorem dksX2_pullOfSlot_0 : cX2_pullOfSlot.data.toList.drop 0 = dktX2_pullOfSlot_0 := by decide +kernel
theorem dksX2_pullOfSlot_1 : cX2_pullOfSlot.data.toList.drop 24 = dktX2_pullOfSlot_1 := dk_seg dksX2_pullOfSlot_0 24 rfl rfl
theorem dX2_pullOfSlot_0 : decode cX2_pullOfSlot 0 = .ok (.aload_n 0, 1) := dk_42 (dk_at dksX2_pullOfSlot_0 0 rfl rfl)
theorem dX2_pullOfSlot_1 : decode cX2_pullOfSlot 1 = .ok (.getfield 65, 3) := dk_180 0 65 (dk_at dksX2_pullOfSlot_0 1 rfl rfl)
theorem dX2_pullOfSlot_4 : decode cX2_pullOfSlot 4 = .ok (.iload_n 1, 1) := dk_27 (dk_at dksX2_pullOfSlot_0 4 rfl rfl)
theorem dX2_pullOfSlot_5 : decode cX2_pullOfSlot 5 = .ok (.iaload, 1) := dk_46 (dk_at dksX2_pullOfSlot_0 5 rfl rfl)
theorem dX2_pullOfSlot_6 : decode cX2_pullOfSlot 6 = .ok (.ifCond .ne 7, 3) := dk_154 0 7 (dk_at dksX2_pullOfSlot_0 6 rfl rfl)
theorem dX2_pullOfSlot_9 : decode cX2_pullOfSlot 9 = .ok (.iconst 0, 1) := dk_3 (dk_at dksX2_pullOfSlot_0 9 rfl rfl)
theorem dX2_pullOfSlot_10 : decode cX2_pullOfSlot 10 = .ok (.goto 19, 3) := dk_167 0 19 (dk_at dksX2_pullOfSlot_0 10 rfl rfl)
theorem dX2_pullOfSlot_13 : decode cX2_pullOfSlot 13 = .ok (.aload_n 0, 1) := dk_42 (dk_at dksX2_pullOfSlot_0 13 rfl rfl)
theorem dX2_pullOfSlot_14 : decode cX2_pullOfSlot 14 = .ok (.iload_n 1, 1) := dk_27 (dk_at dksX2_pullOfSlot_0 14 rfl rfl)
theorem dX2_pullOfSlot_15 : decode cX2_pullOfSlot 15 = .ok (.bipush 10, 2) := dk_16 10 (dk_at dksX2_pullOfSlot_0 15 rfl rfl)
theorem dX2_pullOfSlot_17 : decode cX2_pullOfSlot 17 = .ok (.idiv, 1) := dk_108 (dk_at dksX2_pullOfSlot_0 17 rfl rfl)
theorem dX2_pullOfSlot_18 : decode cX2_pullOfSlot 18 = .ok (.aload_n 0, 1) := dk_42 (dk_at dksX2_pullOfSlot_0 18 rfl rfl)
theorem dX2_pullOfSlot_19 : decode cX2_pullOfSlot 19 = .ok (.getfield 65, 3) := dk_180 0 65 (dk_at dksX2_pullOfSlot_0 19 rfl rfl)
theorem dX2_pullOfSlot_22 : decode cX2_pullOfSlot 22 = .ok (.iload_n 1, 1) := dk_27 (dk_at dksX2_pullOfSlot_0 22 rfl rfl)
theorem dX2_pullOfSlot_23 : decode cX2_pullOfSlot 23 = .ok (.iaload, 1) := dk_46 (dk_at dksX2_pullOfSlot_0 23 rfl rfl)
theorem dX2_pullOfSlot_24 : decode cX2_pullOfSlot 24 = .ok (.iconst 1, 1) := dk_4 (dk_at dksX2_pullOfSlot_1 0 rfl rfl)
theorem dX2_pullOfSlot_25 : decode cX2_pullOfSlot 25 = .ok (.isub, 1) := dk_100 (dk_at dksX2_pullOfSlot_1 1 rfl rfl)
theorem dX2_pullOfSlot_26 : decode cX2_pullOfSlot 26 = .ok (.invokevirtual 112, 3) := dk_182 0 112 (dk_at dksX2_pullOfSlot_1 2 rfl rfl)
theorem dX2_pullOfSlot_29 : decode cX2_pullOfSlot 29 = .ok (.ireturn, 1) := dk_172 (dk_at dksX2_pullOfSlot_1 5 rfl rfl)
abbrev cX2_getWeek : ByteArray := prog_9_method_30_code
def yX2_getWeek : MethodName := ⟨RX2, "getWeek", "()I"⟩
theorem dX2_getWeek_0 : decode cX2_getWeek 0 = .ok (.aload_n 0, 1) := by decide +kernel
theorem dX2_getWeek_1 : decode cX2_getWeek 1 = .ok (.getfield 109, 3) := by decide +kernel
theorem dX2_getWeek_4 : decode cX2_getWeek 4 = .ok (.ireturn, 1) := by decide +kernel
abbrev cX2_getMinutes : ByteArray := prog_9_method_31_code
def yX2_getMinutes : MethodName := ⟨RX2, "getMinutes", "()I"⟩
theorem dX2_getMinutes_0 : decode cX2_getMinutes 0 = .ok (.aload_n 0, 1) := by decide +kernel
theorem dX2_getMinutes_1 : decode cX2_getMinutes 1 = .ok (.getfield 84, 3) := by decide +kernel
theorem dX2_getMinutes_4 : decode cX2_getMinutes 4 = .ok (.ireturn, 1) := by decide +kernel
abbrev cX2_visit : ByteArray := prog_9_method_32_code
def yX2_visit : MethodName := ⟨RX2, "visit", "(I)I"⟩
def dkwX2_visit_6 : List UInt8 := [172]
abbrev dktX2_visit_6 : List UInt8 := dkwX2_visit_6 ++ []
def dkwX2_visit_5 : List UInt8 := [180, 0, 49, 27, 46, 104, 28, 100, 79, 42, 180, 0, 49, 27, 3, 79, 42, 180, 0, 37, 27, 3, 79, 28]
abbrev dktX2_visit_5 : List UInt8 := dkwX2_visit_5 ++ dktX2_visit_6
def dkwX2_visit_4 : List UInt8 := [46, 29, 96, 79, 42, 89, 180, 0, 135, 28, 29, 100, 96, 181, 0, 135, 42, 180, 0, 52, 27, 8, 42]
abbrev dktX2_visit_4 : List UInt8 := dkwX2_visit_4 ++ dktX2_visit_5
def dkwX2_visit_3 : List UInt8 := [180, 0, 37, 27, 46, 61, 28, 42, 180, 0, 25, 27, 46, 104, 16, 100, 108, 62, 42, 180, 0, 55, 27, 92]
abbrev dktX2_visit_3 : List UInt8 := dkwX2_visit_3 ++ dktX2_visit_4
def dkwX2_visit_2 : List UInt8 := [180, 0, 84, 16, 40, 100, 181, 0, 84, 42, 180, 0, 62, 27, 4, 84, 42, 180, 0, 58, 27, 3, 84, 42]
abbrev dktX2_visit_2 : List UInt8 := dkwX2_visit_2 ++ dktX2_visit_3
def dkwX2_visit_1 : List UInt8 := [180, 0, 84, 16, 40, 161, 0, 7, 4, 167, 0, 4, 3, 5, 182, 0, 104, 153, 0, 5, 3, 172, 42, 89]
abbrev dktX2_visit_1 : List UInt8 := dkwX2_visit_1 ++ dktX2_visit_2
def dkwX2_visit_0 : List UInt8 := [42, 42, 27, 182, 0, 100, 4, 182, 0, 104, 154, 0, 34, 42, 42, 180, 0, 62, 27, 51, 154, 0, 16, 42]
abbrev dktX2_visit_0 : List UInt8 := dkwX2_visit_0 ++ dktX2_visit_1
theorem dksX2_visit_0 : cX2_visit.data.toList.drop 0 = dktX2_visit_0 := by decide +kernel
theorem dksX2_visit_1 : cX2_visit.data.toList.drop 24 = dktX2_visit_1 := dk_seg dksX2_visit_0 24 rfl rfl
theorem dksX2_visit_2 : cX2_visit.data.toList.drop 48 = dktX2_visit_2 := dk_seg dksX2_visit_1 24 rfl rfl
theorem dksX2_visit_3 : cX2_visit.data.toList.drop 72 = dktX2_visit_3 := dk_seg dksX2_visit_2 24 rfl rfl
theorem dksX2_visit_4 : cX2_visit.data.toList.drop 96 = dktX2_visit_4 := dk_seg dksX2_visit_3 24 rfl rfl
theorem dksX2_visit_5 : cX2_visit.data.toList.drop 119 = dktX2_visit_5 := dk_seg dksX2_visit_4 23 rfl rfl
theorem dksX2_visit_6 : cX2_visit.data.toList.drop 143 = dktX2_visit_6 := dk_seg dksX2_visit_5 24 rfl rfl
theorem dX2_visit_0 : decode cX2_visit 0 = .ok (.aload_n 0, 1) := dk_42 (dk_at dksX2_visit_0 0 rfl rfl)
theorem dX2_visit_1 : decode cX2_visit 1 = .ok (.aload_n 0, 1) := dk_42 (dk_at dksX2_visit_0 1 rfl rfl)
theorem dX2_visit_2 : decode cX2_visit 2 = .ok (.iload_n 1, 1) := dk_27 (dk_at dksX2_visit_0 2 rfl rfl)
theorem dX2_visit_3 : decode cX2_visit 3 = .ok (.invokevirtual 100, 3) := dk_182 0 100 (dk_at dksX2_visit_0 3 rfl rfl)
theorem dX2_visit_6 : decode cX2_visit 6 = .ok (.iconst 1, 1) := dk_4 (dk_at dksX2_visit_0 6 rfl rfl)
theorem dX2_visit_7 : decode cX2_visit 7 = .ok (.invokevirtual 104, 3) := dk_182 0 104 (dk_at dksX2_visit_0 7 rfl rfl)
theorem dX2_visit_10 : decode cX2_visit 10 = .ok (.ifCond .ne 34, 3) := dk_154 0 34 (dk_at dksX2_visit_0 10 rfl rfl)
theorem dX2_visit_13 : decode cX2_visit 13 = .ok (.aload_n 0, 1) := dk_42 (dk_at dksX2_visit_0 13 rfl rfl)
theorem dX2_visit_14 : decode cX2_visit 14 = .ok (.aload_n 0, 1) := dk_42 (dk_at dksX2_visit_0 14 rfl rfl)
theorem dX2_visit_15 : decode cX2_visit 15 = .ok (.getfield 62, 3) := dk_180 0 62 (dk_at dksX2_visit_0 15 rfl rfl)
theorem dX2_visit_18 : decode cX2_visit 18 = .ok (.iload_n 1, 1) := dk_27 (dk_at dksX2_visit_0 18 rfl rfl)
theorem dX2_visit_19 : decode cX2_visit 19 = .ok (.baload, 1) := dk_51 (dk_at dksX2_visit_0 19 rfl rfl)
theorem dX2_visit_20 : decode cX2_visit 20 = .ok (.ifCond .ne 16, 3) := dk_154 0 16 (dk_at dksX2_visit_0 20 rfl rfl)
theorem dX2_visit_23 : decode cX2_visit 23 = .ok (.aload_n 0, 1) := dk_42 (dk_at dksX2_visit_0 23 rfl rfl)
theorem dX2_visit_24 : decode cX2_visit 24 = .ok (.getfield 84, 3) := dk_180 0 84 (dk_at dksX2_visit_1 0 rfl rfl)
theorem dX2_visit_27 : decode cX2_visit 27 = .ok (.bipush 40, 2) := dk_16 40 (dk_at dksX2_visit_1 3 rfl rfl)
theorem dX2_visit_29 : decode cX2_visit 29 = .ok (.if_icmp .lt 7, 3) := dk_161 0 7 (dk_at dksX2_visit_1 5 rfl rfl)
theorem dX2_visit_32 : decode cX2_visit 32 = .ok (.iconst 1, 1) := dk_4 (dk_at dksX2_visit_1 8 rfl rfl)
theorem dX2_visit_33 : decode cX2_visit 33 = .ok (.goto 4, 3) := dk_167 0 4 (dk_at dksX2_visit_1 9 rfl rfl)
theorem dX2_visit_36 : decode cX2_visit 36 = .ok (.iconst 0, 1) := dk_3 (dk_at dksX2_visit_1 12 rfl rfl)
theorem dX2_visit_37 : decode cX2_visit 37 = .ok (.iconst 2, 1) := dk_5 (dk_at dksX2_visit_1 13 rfl rfl)
theorem dX2_visit_38 : decode cX2_visit 38 = .ok (.invokevirtual 104, 3) := dk_182 0 104 (dk_at dksX2_visit_1 14 rfl rfl)
theorem dX2_visit_41 : decode cX2_visit 41 = .ok (.ifCond .eq 5, 3) := dk_153 0 5 (dk_at dksX2_visit_1 17 rfl rfl)
theorem dX2_visit_44 : decode cX2_visit 44 = .ok (.iconst 0, 1) := dk_3 (dk_at dksX2_visit_1 20 rfl rfl)
theorem dX2_visit_45 : decode cX2_visit 45 = .ok (.ireturn, 1) := dk_172 (dk_at dksX2_visit_1 21 rfl rfl)
theorem dX2_visit_46 : decode cX2_visit 46 = .ok (.aload_n 0, 1) := dk_42 (dk_at dksX2_visit_1 22 rfl rfl)
theorem dX2_visit_47 : decode cX2_visit 47 = .ok (.dup, 1) := dk_89 (dk_at dksX2_visit_1 23 rfl rfl)
theorem dX2_visit_48 : decode cX2_visit 48 = .ok (.getfield 84, 3) := dk_180 0 84 (dk_at dksX2_visit_2 0 rfl rfl)
theorem dX2_visit_51 : decode cX2_visit 51 = .ok (.bipush 40, 2) := dk_16 40 (dk_at dksX2_visit_2 3 rfl rfl)
theorem dX2_visit_53 : decode cX2_visit 53 = .ok (.isub, 1) := dk_100 (dk_at dksX2_visit_2 5 rfl rfl)
theorem dX2_visit_54 : decode cX2_visit 54 = .ok (.putfield 84, 3) := dk_181 0 84 (dk_at dksX2_visit_2 6 rfl rfl)
theorem dX2_visit_57 : decode cX2_visit 57 = .ok (.aload_n 0, 1) := dk_42 (dk_at dksX2_visit_2 9 rfl rfl)
theorem dX2_visit_58 : decode cX2_visit 58 = .ok (.getfield 62, 3) := dk_180 0 62 (dk_at dksX2_visit_2 10 rfl rfl)
theorem dX2_visit_61 : decode cX2_visit 61 = .ok (.iload_n 1, 1) := dk_27 (dk_at dksX2_visit_2 13 rfl rfl)
theorem dX2_visit_62 : decode cX2_visit 62 = .ok (.iconst 1, 1) := dk_4 (dk_at dksX2_visit_2 14 rfl rfl)
theorem dX2_visit_63 : decode cX2_visit 63 = .ok (.bastore, 1) := dk_84 (dk_at dksX2_visit_2 15 rfl rfl)
theorem dX2_visit_64 : decode cX2_visit 64 = .ok (.aload_n 0, 1) := dk_42 (dk_at dksX2_visit_2 16 rfl rfl)
theorem dX2_visit_65 : decode cX2_visit 65 = .ok (.getfield 58, 3) := dk_180 0 58 (dk_at dksX2_visit_2 17 rfl rfl)
theorem dX2_visit_68 : decode cX2_visit 68 = .ok (.iload_n 1, 1) := dk_27 (dk_at dksX2_visit_2 20 rfl rfl)
theorem dX2_visit_69 : decode cX2_visit 69 = .ok (.iconst 0, 1) := dk_3 (dk_at dksX2_visit_2 21 rfl rfl)
theorem dX2_visit_70 : decode cX2_visit 70 = .ok (.bastore, 1) := dk_84 (dk_at dksX2_visit_2 22 rfl rfl)
theorem dX2_visit_71 : decode cX2_visit 71 = .ok (.aload_n 0, 1) := dk_42 (dk_at dksX2_visit_2 23 rfl rfl)
theorem dX2_visit_72 : decode cX2_visit 72 = .ok (.getfield 37, 3) := dk_180 0 37 (dk_at dksX2_visit_3 0 rfl rfl)
theorem dX2_visit_75 : decode cX2_visit 75 = .ok (.iload_n 1, 1) := dk_27 (dk_at dksX2_visit_3 3 rfl rfl)
theorem dX2_visit_76 : decode cX2_visit 76 = .ok (.iaload, 1) := dk_46 (dk_at dksX2_visit_3 4 rfl rfl)
theorem dX2_visit_77 : decode cX2_visit 77 = .ok (.istore_n 2, 1) := dk_61 (dk_at dksX2_visit_3 5 rfl rfl)
theorem dX2_visit_78 : decode cX2_visit 78 = .ok (.iload_n 2, 1) := dk_28 (dk_at dksX2_visit_3 6 rfl rfl)
theorem dX2_visit_79 : decode cX2_visit 79 = .ok (.aload_n 0, 1) := dk_42 (dk_at dksX2_visit_3 7 rfl rfl)
theorem dX2_visit_80 : decode cX2_visit 80 = .ok (.getfield 25, 3) := dk_180 0 25 (dk_at dksX2_visit_3 8 rfl rfl)
theorem dX2_visit_83 : decode cX2_visit 83 = .ok (.iload_n 1, 1) := dk_27 (dk_at dksX2_visit_3 11 rfl rfl)
theorem dX2_visit_84 : decode cX2_visit 84 = .ok (.iaload, 1) := dk_46 (dk_at dksX2_visit_3 12 rfl rfl)
theorem dX2_visit_85 : decode cX2_visit 85 = .ok (.imul, 1) := dk_104 (dk_at dksX2_visit_3 13 rfl rfl)
theorem dX2_visit_86 : decode cX2_visit 86 = .ok (.bipush 100, 2) := dk_16 100 (dk_at dksX2_visit_3 14 rfl rfl)
theorem dX2_visit_88 : decode cX2_visit 88 = .ok (.idiv, 1) := dk_108 (dk_at dksX2_visit_3 16 rfl rfl)
theorem dX2_visit_89 : decode cX2_visit 89 = .ok (.istore_n 3, 1) := dk_62 (dk_at dksX2_visit_3 17 rfl rfl)
theorem dX2_visit_90 : decode cX2_visit 90 = .ok (.aload_n 0, 1) := dk_42 (dk_at dksX2_visit_3 18 rfl rfl)
theorem dX2_visit_91 : decode cX2_visit 91 = .ok (.getfield 55, 3) := dk_180 0 55 (dk_at dksX2_visit_3 19 rfl rfl)
theorem dX2_visit_94 : decode cX2_visit 94 = .ok (.iload_n 1, 1) := dk_27 (dk_at dksX2_visit_3 22 rfl rfl)
theorem dX2_visit_95 : decode cX2_visit 95 = .ok (.dup2, 1) := dk_92 (dk_at dksX2_visit_3 23 rfl rfl)
theorem dX2_visit_96 : decode cX2_visit 96 = .ok (.iaload, 1) := dk_46 (dk_at dksX2_visit_4 0 rfl rfl)
theorem dX2_visit_97 : decode cX2_visit 97 = .ok (.iload_n 3, 1) := dk_29 (dk_at dksX2_visit_4 1 rfl rfl)
theorem dX2_visit_98 : decode cX2_visit 98 = .ok (.iadd, 1) := dk_96 (dk_at dksX2_visit_4 2 rfl rfl)
theorem dX2_visit_99 : decode cX2_visit 99 = .ok (.iastore, 1) := dk_79 (dk_at dksX2_visit_4 3 rfl rfl)
theorem dX2_visit_100 : decode cX2_visit 100 = .ok (.aload_n 0, 1) := dk_42 (dk_at dksX2_visit_4 4 rfl rfl)
theorem dX2_visit_101 : decode cX2_visit 101 = .ok (.dup, 1) := dk_89 (dk_at dksX2_visit_4 5 rfl rfl)
theorem dX2_visit_102 : decode cX2_visit 102 = .ok (.getfield 135, 3) := dk_180 0 135 (dk_at dksX2_visit_4 6 rfl rfl)
theorem dX2_visit_105 : decode cX2_visit 105 = .ok (.iload_n 2, 1) := dk_28 (dk_at dksX2_visit_4 9 rfl rfl)
theorem dX2_visit_106 : decode cX2_visit 106 = .ok (.iload_n 3, 1) := dk_29 (dk_at dksX2_visit_4 10 rfl rfl)
theorem dX2_visit_107 : decode cX2_visit 107 = .ok (.isub, 1) := dk_100 (dk_at dksX2_visit_4 11 rfl rfl)
theorem dX2_visit_108 : decode cX2_visit 108 = .ok (.iadd, 1) := dk_96 (dk_at dksX2_visit_4 12 rfl rfl)
theorem dX2_visit_109 : decode cX2_visit 109 = .ok (.putfield 135, 3) := dk_181 0 135 (dk_at dksX2_visit_4 13 rfl rfl)
theorem dX2_visit_112 : decode cX2_visit 112 = .ok (.aload_n 0, 1) := dk_42 (dk_at dksX2_visit_4 16 rfl rfl)
theorem dX2_visit_113 : decode cX2_visit 113 = .ok (.getfield 52, 3) := dk_180 0 52 (dk_at dksX2_visit_4 17 rfl rfl)
theorem dX2_visit_116 : decode cX2_visit 116 = .ok (.iload_n 1, 1) := dk_27 (dk_at dksX2_visit_4 20 rfl rfl)
theorem dX2_visit_117 : decode cX2_visit 117 = .ok (.iconst 5, 1) := dk_8 (dk_at dksX2_visit_4 21 rfl rfl)
theorem dX2_visit_118 : decode cX2_visit 118 = .ok (.aload_n 0, 1) := dk_42 (dk_at dksX2_visit_4 22 rfl rfl)
theorem dX2_visit_119 : decode cX2_visit 119 = .ok (.getfield 49, 3) := dk_180 0 49 (dk_at dksX2_visit_5 0 rfl rfl)
theorem dX2_visit_122 : decode cX2_visit 122 = .ok (.iload_n 1, 1) := dk_27 (dk_at dksX2_visit_5 3 rfl rfl)
theorem dX2_visit_123 : decode cX2_visit 123 = .ok (.iaload, 1) := dk_46 (dk_at dksX2_visit_5 4 rfl rfl)
theorem dX2_visit_124 : decode cX2_visit 124 = .ok (.imul, 1) := dk_104 (dk_at dksX2_visit_5 5 rfl rfl)
theorem dX2_visit_125 : decode cX2_visit 125 = .ok (.iload_n 2, 1) := dk_28 (dk_at dksX2_visit_5 6 rfl rfl)
theorem dX2_visit_126 : decode cX2_visit 126 = .ok (.isub, 1) := dk_100 (dk_at dksX2_visit_5 7 rfl rfl)
theorem dX2_visit_127 : decode cX2_visit 127 = .ok (.iastore, 1) := dk_79 (dk_at dksX2_visit_5 8 rfl rfl)
theorem dX2_visit_128 : decode cX2_visit 128 = .ok (.aload_n 0, 1) := dk_42 (dk_at dksX2_visit_5 9 rfl rfl)
theorem dX2_visit_129 : decode cX2_visit 129 = .ok (.getfield 49, 3) := dk_180 0 49 (dk_at dksX2_visit_5 10 rfl rfl)
theorem dX2_visit_132 : decode cX2_visit 132 = .ok (.iload_n 1, 1) := dk_27 (dk_at dksX2_visit_5 13 rfl rfl)
theorem dX2_visit_133 : decode cX2_visit 133 = .ok (.iconst 0, 1) := dk_3 (dk_at dksX2_visit_5 14 rfl rfl)
theorem dX2_visit_134 : decode cX2_visit 134 = .ok (.iastore, 1) := dk_79 (dk_at dksX2_visit_5 15 rfl rfl)
theorem dX2_visit_135 : decode cX2_visit 135 = .ok (.aload_n 0, 1) := dk_42 (dk_at dksX2_visit_5 16 rfl rfl)
theorem dX2_visit_136 : decode cX2_visit 136 = .ok (.getfield 37, 3) := dk_180 0 37 (dk_at dksX2_visit_5 17 rfl rfl)
theorem dX2_visit_139 : decode cX2_visit 139 = .ok (.iload_n 1, 1) := dk_27 (dk_at dksX2_visit_5 20 rfl rfl)
theorem dX2_visit_140 : decode cX2_visit 140 = .ok (.iconst 0, 1) := dk_3 (dk_at dksX2_visit_5 21 rfl rfl)
theorem dX2_visit_141 : decode cX2_visit 141 = .ok (.iastore, 1) := dk_79 (dk_at dksX2_visit_5 22 rfl rfl)
theorem dX2_visit_142 : decode cX2_visit 142 = .ok (.iload_n 2, 1) := dk_28 (dk_at dksX2_visit_5 23 rfl rfl)
theorem dX2_visit_143 : decode cX2_visit 143 = .ok (.ireturn, 1) := dk_172 (dk_at dksX2_visit_6 0 rfl rfl)
abbrev cX2_getShort : ByteArray := prog_9_method_33_code
def yX2_getShort : MethodName := ⟨RX2, "getShort", "(I)I"⟩
def dkwX2_getShort_0 : List UInt8 := [42, 42, 27, 182, 0, 100, 4, 182, 0, 104, 153, 0, 7, 3, 167, 0, 9, 42, 180, 0, 52, 27, 46, 172]
abbrev dktX2_getShort_0 : List UInt8 := dkwX2_getShort_0 ++ []
theorem dksX2_getShort_0 : cX2_getShort.data.toList.drop 0 = dktX2_getShort_0 := by decide +kernel
theorem dX2_getShort_0 : decode cX2_getShort 0 = .ok (.aload_n 0, 1) := dk_42 (dk_at dksX2_getShort_0 0 rfl rfl)
theorem dX2_getShort_1 : decode cX2_getShort 1 = .ok (.aload_n 0, 1) := dk_42 (dk_at dksX2_getShort_0 1 rfl rfl)
theorem dX2_getShort_2 : decode cX2_getShort 2 = .ok (.iload_n 1, 1) := dk_27 (dk_at dksX2_getShort_0 2 rfl rfl)
theorem dX2_getShort_3 : decode cX2_getShort 3 = .ok (.invokevirtual 100, 3) := dk_182 0 100 (dk_at dksX2_getShort_0 3 rfl rfl)
theorem dX2_getShort_6 : decode cX2_getShort 6 = .ok (.iconst 1, 1) := dk_4 (dk_at dksX2_getShort_0 6 rfl rfl)
theorem dX2_getShort_7 : decode cX2_getShort 7 = .ok (.invokevirtual 104, 3) := dk_182 0 104 (dk_at dksX2_getShort_0 7 rfl rfl)
theorem dX2_getShort_10 : decode cX2_getShort 10 = .ok (.ifCond .eq 7, 3) := dk_153 0 7 (dk_at dksX2_getShort_0 10 rfl rfl)
theorem dX2_getShort_13 : decode cX2_getShort 13 = .ok (.iconst 0, 1) := dk_3 (dk_at dksX2_getShort_0 13 rfl rfl)
theorem dX2_getShort_14 : decode cX2_getShort 14 = .ok (.goto 9, 3) := dk_167 0 9 (dk_at dksX2_getShort_0 14 rfl rfl)
theorem dX2_getShort_17 : decode cX2_getShort 17 = .ok (.aload_n 0, 1) := dk_42 (dk_at dksX2_getShort_0 17 rfl rfl)
theorem dX2_getShort_18 : decode cX2_getShort 18 = .ok (.getfield 52, 3) := dk_180 0 52 (dk_at dksX2_getShort_0 18 rfl rfl)
theorem dX2_getShort_21 : decode cX2_getShort 21 = .ok (.iload_n 1, 1) := dk_27 (dk_at dksX2_getShort_0 21 rfl rfl)
theorem dX2_getShort_22 : decode cX2_getShort 22 = .ok (.iaload, 1) := dk_46 (dk_at dksX2_getShort_0 22 rfl rfl)
theorem dX2_getShort_23 : decode cX2_getShort 23 = .ok (.ireturn, 1) := dk_172 (dk_at dksX2_getShort_0 23 rfl rfl)
abbrev cX2_getShare : ByteArray := prog_9_method_34_code
def yX2_getShare : MethodName := ⟨RX2, "getShare", "(I)I"⟩
def dkwX2_getShare_0 : List UInt8 := [42, 42, 27, 182, 0, 100, 4, 182, 0, 104, 153, 0, 7, 3, 167, 0, 9, 42, 180, 0, 55, 27, 46, 172]
abbrev dktX2_getShare_0 : List UInt8 := dkwX2_getShare_0 ++ []
theorem dksX2_getShare_0 : cX2_getShare.data.toList.drop 0 = dktX2_getShare_0 := by decide +kernel
theorem dX2_getShare_0 : decode cX2_getShare 0 = .ok (.aload_n 0, 1) := dk_42 (dk_at dksX2_getShare_0 0 rfl rfl)
theorem dX2_getShare_1 : decode cX2_getShare 1 = .ok (.aload_n 0, 1) := dk_42 (dk_at dksX2_getShare_0 1 rfl rfl)
theorem dX2_getShare_2 : decode cX2_getShare 2 = .ok (.iload_n 1, 1) := dk_27 (dk_at dksX2_getShare_0 2 rfl rfl)
theorem dX2_getShare_3 : decode cX2_getShare 3 = .ok (.invokevirtual 100, 3) := dk_182 0 100 (dk_at dksX2_getShare_0 3 rfl rfl)
theorem dX2_getShare_6 : decode cX2_getShare 6 = .ok (.iconst 1, 1) := dk_4 (dk_at dksX2_getShare_0 6 rfl rfl)
theorem dX2_getShare_7 : decode cX2_getShare 7 = .ok (.invokevirtual 104, 3) := dk_182 0 104 (dk_at dksX2_getShare_0 7 rfl rfl)
theorem dX2_getShare_10 : decode cX2_getShare 10 = .ok (.ifCond .eq 7, 3) := dk_153 0 7 (dk_at dksX2_getShare_0 10 rfl rfl)
theorem dX2_getShare_13 : decode cX2_getShare 13 = .ok (.iconst 0, 1) := dk_3 (dk_at dksX2_getShare_0 13 rfl rfl)
theorem dX2_getShare_14 : decode cX2_getShare 14 = .ok (.goto 9, 3) := dk_167 0 9 (dk_at dksX2_getShare_0 14 rfl rfl)
theorem dX2_getShare_17 : decode cX2_getShare 17 = .ok (.aload_n 0, 1) := dk_42 (dk_at dksX2_getShare_0 17 rfl rfl)
theorem dX2_getShare_18 : decode cX2_getShare 18 = .ok (.getfield 55, 3) := dk_180 0 55 (dk_at dksX2_getShare_0 18 rfl rfl)
theorem dX2_getShare_21 : decode cX2_getShare 21 = .ok (.iload_n 1, 1) := dk_27 (dk_at dksX2_getShare_0 21 rfl rfl)
theorem dX2_getShare_22 : decode cX2_getShare 22 = .ok (.iaload, 1) := dk_46 (dk_at dksX2_getShare_0 22 rfl rfl)
theorem dX2_getShare_23 : decode cX2_getShare 23 = .ok (.ireturn, 1) := dk_172 (dk_at dksX2_getShare_0 23 rfl rfl)
abbrev cX2_getEarned : ByteArray := prog_9_method_35_code
def yX2_getEarned : MethodName := ⟨RX2, "getEarned", "()I"⟩
theorem dX2_getEarned_0 : decode cX2_getEarned 0 = .ok (.aload_n 0, 1) := by decide +kernel
theorem dX2_getEarned_1 : decode cX2_getEarned 1 = .ok (.getfield 135, 3) := by decide +kernel
theorem dX2_getEarned_4 : decode cX2_getEarned 4 = .ok (.ireturn, 1) := by decide +kernel
abbrev cX2_change : ByteArray := prog_9_method_37_code
def yX2_change : MethodName := ⟨RX2, "change", "(III)I"⟩
def dkwX2_change_7 : List UInt8 := [16, 100, 27, 104, 42, 180, 0, 7, 29, 46, 96, 3, 79, 21, 5, 172]
abbrev dktX2_change_7 : List UInt8 := dkwX2_change_7 ++ []
def dkwX2_change_6 : List UInt8 := [180, 0, 68, 21, 4, 3, 79, 29, 155, 0, 28, 42, 180, 0, 22, 29, 21, 4, 79, 42, 180, 0, 71]
abbrev dktX2_change_6 : List UInt8 := dkwX2_change_6 ++ dktX2_change_7
def dkwX2_change_5 : List UInt8 := [155, 0, 11, 42, 180, 0, 22, 21, 5, 2, 79, 42, 180, 0, 65, 21, 4, 29, 4, 96, 79, 42]
abbrev dktX2_change_5 : List UInt8 := dkwX2_change_5 ++ dktX2_change_6
def dkwX2_change_4 : List UInt8 := [180, 0, 65, 21, 4, 46, 4, 100, 54, 5, 42, 89, 180, 0, 84, 16, 10, 100, 181, 0, 84, 21, 5]
abbrev dktX2_change_4 : List UInt8 := dkwX2_change_4 ++ dktX2_change_5
def dkwX2_change_3 : List UInt8 := [167, 0, 4, 3, 5, 182, 0, 104, 153, 0, 5, 3, 172, 16, 10, 27, 104, 28, 96, 54, 4, 42]
abbrev dktX2_change_3 : List UInt8 := dkwX2_change_3 ++ dktX2_change_4
def dkwX2_change_2 : List UInt8 := [2, 159, 0, 11, 42, 29, 182, 0, 138, 153, 0, 16, 42, 180, 0, 84, 16, 10, 161, 0, 7, 4]
abbrev dktX2_change_2 : List UInt8 := dkwX2_change_2 ++ dktX2_change_3
def dkwX2_change_1 : List UInt8 := [167, 0, 4, 3, 4, 182, 0, 104, 153, 0, 5, 3, 172, 42, 42, 180, 0, 62, 27, 51, 153, 0, 29, 29]
abbrev dktX2_change_1 : List UInt8 := dkwX2_change_1 ++ dktX2_change_2
def dkwX2_change_0 : List UInt8 := [42, 42, 27, 28, 182, 0, 116, 153, 0, 20, 29, 2, 159, 0, 11, 42, 29, 182, 0, 128, 153, 0, 7, 4]
abbrev dktX2_change_0 : List UInt8 := dkwX2_change_0 ++ dktX2_change_1
theorem dksX2_change_0 : cX2_change.data.toList.drop 0 = dktX2_change_0 := by decide +kernel
theorem dksX2_change_1 : cX2_change.data.toList.drop 24 = dktX2_change_1 := dk_seg dksX2_change_0 24 rfl rfl
theorem dksX2_change_2 : cX2_change.data.toList.drop 48 = dktX2_change_2 := dk_seg dksX2_change_1 24 rfl rfl
theorem dksX2_change_3 : cX2_change.data.toList.drop 70 = dktX2_change_3 := dk_seg dksX2_change_2 22 rfl rfl
theorem dksX2_change_4 : cX2_change.data.toList.drop 92 = dktX2_change_4 := dk_seg dksX2_change_3 22 rfl rfl
theorem dksX2_change_5 : cX2_change.data.toList.drop 115 = dktX2_change_5 := dk_seg dksX2_change_4 23 rfl rfl
theorem dksX2_change_6 : cX2_change.data.toList.drop 137 = dktX2_change_6 := dk_seg dksX2_change_5 22 rfl rfl
theorem dksX2_change_7 : cX2_change.data.toList.drop 160 = dktX2_change_7 := dk_seg dksX2_change_6 23 rfl rfl
theorem dX2_change_0 : decode cX2_change 0 = .ok (.aload_n 0, 1) := dk_42 (dk_at dksX2_change_0 0 rfl rfl)
theorem dX2_change_1 : decode cX2_change 1 = .ok (.aload_n 0, 1) := dk_42 (dk_at dksX2_change_0 1 rfl rfl)
theorem dX2_change_2 : decode cX2_change 2 = .ok (.iload_n 1, 1) := dk_27 (dk_at dksX2_change_0 2 rfl rfl)
theorem dX2_change_3 : decode cX2_change 3 = .ok (.iload_n 2, 1) := dk_28 (dk_at dksX2_change_0 3 rfl rfl)
theorem dX2_change_4 : decode cX2_change 4 = .ok (.invokevirtual 116, 3) := dk_182 0 116 (dk_at dksX2_change_0 4 rfl rfl)
theorem dX2_change_7 : decode cX2_change 7 = .ok (.ifCond .eq 20, 3) := dk_153 0 20 (dk_at dksX2_change_0 7 rfl rfl)
theorem dX2_change_10 : decode cX2_change 10 = .ok (.iload_n 3, 1) := dk_29 (dk_at dksX2_change_0 10 rfl rfl)
theorem dX2_change_11 : decode cX2_change 11 = .ok (.iconst (-1), 1) := dk_2 (dk_at dksX2_change_0 11 rfl rfl)
theorem dX2_change_12 : decode cX2_change 12 = .ok (.if_icmp .eq 11, 3) := dk_159 0 11 (dk_at dksX2_change_0 12 rfl rfl)
theorem dX2_change_15 : decode cX2_change 15 = .ok (.aload_n 0, 1) := dk_42 (dk_at dksX2_change_0 15 rfl rfl)
theorem dX2_change_16 : decode cX2_change 16 = .ok (.iload_n 3, 1) := dk_29 (dk_at dksX2_change_0 16 rfl rfl)
theorem dX2_change_17 : decode cX2_change 17 = .ok (.invokevirtual 128, 3) := dk_182 0 128 (dk_at dksX2_change_0 17 rfl rfl)
theorem dX2_change_20 : decode cX2_change 20 = .ok (.ifCond .eq 7, 3) := dk_153 0 7 (dk_at dksX2_change_0 20 rfl rfl)
theorem dX2_change_23 : decode cX2_change 23 = .ok (.iconst 1, 1) := dk_4 (dk_at dksX2_change_0 23 rfl rfl)
theorem dX2_change_24 : decode cX2_change 24 = .ok (.goto 4, 3) := dk_167 0 4 (dk_at dksX2_change_1 0 rfl rfl)
theorem dX2_change_27 : decode cX2_change 27 = .ok (.iconst 0, 1) := dk_3 (dk_at dksX2_change_1 3 rfl rfl)
theorem dX2_change_28 : decode cX2_change 28 = .ok (.iconst 1, 1) := dk_4 (dk_at dksX2_change_1 4 rfl rfl)
theorem dX2_change_29 : decode cX2_change 29 = .ok (.invokevirtual 104, 3) := dk_182 0 104 (dk_at dksX2_change_1 5 rfl rfl)
theorem dX2_change_32 : decode cX2_change 32 = .ok (.ifCond .eq 5, 3) := dk_153 0 5 (dk_at dksX2_change_1 8 rfl rfl)
theorem dX2_change_35 : decode cX2_change 35 = .ok (.iconst 0, 1) := dk_3 (dk_at dksX2_change_1 11 rfl rfl)
theorem dX2_change_36 : decode cX2_change 36 = .ok (.ireturn, 1) := dk_172 (dk_at dksX2_change_1 12 rfl rfl)
theorem dX2_change_37 : decode cX2_change 37 = .ok (.aload_n 0, 1) := dk_42 (dk_at dksX2_change_1 13 rfl rfl)
theorem dX2_change_38 : decode cX2_change 38 = .ok (.aload_n 0, 1) := dk_42 (dk_at dksX2_change_1 14 rfl rfl)
theorem dX2_change_39 : decode cX2_change 39 = .ok (.getfield 62, 3) := dk_180 0 62 (dk_at dksX2_change_1 15 rfl rfl)
theorem dX2_change_42 : decode cX2_change 42 = .ok (.iload_n 1, 1) := dk_27 (dk_at dksX2_change_1 18 rfl rfl)
theorem dX2_change_43 : decode cX2_change 43 = .ok (.baload, 1) := dk_51 (dk_at dksX2_change_1 19 rfl rfl)
theorem dX2_change_44 : decode cX2_change 44 = .ok (.ifCond .eq 29, 3) := dk_153 0 29 (dk_at dksX2_change_1 20 rfl rfl)
theorem dX2_change_47 : decode cX2_change 47 = .ok (.iload_n 3, 1) := dk_29 (dk_at dksX2_change_1 23 rfl rfl)
theorem dX2_change_48 : decode cX2_change 48 = .ok (.iconst (-1), 1) := dk_2 (dk_at dksX2_change_2 0 rfl rfl)
theorem dX2_change_49 : decode cX2_change 49 = .ok (.if_icmp .eq 11, 3) := dk_159 0 11 (dk_at dksX2_change_2 1 rfl rfl)
theorem dX2_change_52 : decode cX2_change 52 = .ok (.aload_n 0, 1) := dk_42 (dk_at dksX2_change_2 4 rfl rfl)
theorem dX2_change_53 : decode cX2_change 53 = .ok (.iload_n 3, 1) := dk_29 (dk_at dksX2_change_2 5 rfl rfl)
theorem dX2_change_54 : decode cX2_change 54 = .ok (.invokevirtual 138, 3) := dk_182 0 138 (dk_at dksX2_change_2 6 rfl rfl)
theorem dX2_change_57 : decode cX2_change 57 = .ok (.ifCond .eq 16, 3) := dk_153 0 16 (dk_at dksX2_change_2 9 rfl rfl)
theorem dX2_change_60 : decode cX2_change 60 = .ok (.aload_n 0, 1) := dk_42 (dk_at dksX2_change_2 12 rfl rfl)
theorem dX2_change_61 : decode cX2_change 61 = .ok (.getfield 84, 3) := dk_180 0 84 (dk_at dksX2_change_2 13 rfl rfl)
theorem dX2_change_64 : decode cX2_change 64 = .ok (.bipush 10, 2) := dk_16 10 (dk_at dksX2_change_2 16 rfl rfl)
theorem dX2_change_66 : decode cX2_change 66 = .ok (.if_icmp .lt 7, 3) := dk_161 0 7 (dk_at dksX2_change_2 18 rfl rfl)
theorem dX2_change_69 : decode cX2_change 69 = .ok (.iconst 1, 1) := dk_4 (dk_at dksX2_change_2 21 rfl rfl)
theorem dX2_change_70 : decode cX2_change 70 = .ok (.goto 4, 3) := dk_167 0 4 (dk_at dksX2_change_3 0 rfl rfl)
theorem dX2_change_73 : decode cX2_change 73 = .ok (.iconst 0, 1) := dk_3 (dk_at dksX2_change_3 3 rfl rfl)
theorem dX2_change_74 : decode cX2_change 74 = .ok (.iconst 2, 1) := dk_5 (dk_at dksX2_change_3 4 rfl rfl)
theorem dX2_change_75 : decode cX2_change 75 = .ok (.invokevirtual 104, 3) := dk_182 0 104 (dk_at dksX2_change_3 5 rfl rfl)
theorem dX2_change_78 : decode cX2_change 78 = .ok (.ifCond .eq 5, 3) := dk_153 0 5 (dk_at dksX2_change_3 8 rfl rfl)
theorem dX2_change_81 : decode cX2_change 81 = .ok (.iconst 0, 1) := dk_3 (dk_at dksX2_change_3 11 rfl rfl)
theorem dX2_change_82 : decode cX2_change 82 = .ok (.ireturn, 1) := dk_172 (dk_at dksX2_change_3 12 rfl rfl)
theorem dX2_change_83 : decode cX2_change 83 = .ok (.bipush 10, 2) := dk_16 10 (dk_at dksX2_change_3 13 rfl rfl)
theorem dX2_change_85 : decode cX2_change 85 = .ok (.iload_n 1, 1) := dk_27 (dk_at dksX2_change_3 15 rfl rfl)
theorem dX2_change_86 : decode cX2_change 86 = .ok (.imul, 1) := dk_104 (dk_at dksX2_change_3 16 rfl rfl)
theorem dX2_change_87 : decode cX2_change 87 = .ok (.iload_n 2, 1) := dk_28 (dk_at dksX2_change_3 17 rfl rfl)
theorem dX2_change_88 : decode cX2_change 88 = .ok (.iadd, 1) := dk_96 (dk_at dksX2_change_3 18 rfl rfl)
theorem dX2_change_89 : decode cX2_change 89 = .ok (.istore 4, 2) := dk_54 4 (dk_at dksX2_change_3 19 rfl rfl)
theorem dX2_change_91 : decode cX2_change 91 = .ok (.aload_n 0, 1) := dk_42 (dk_at dksX2_change_3 21 rfl rfl)
theorem dX2_change_92 : decode cX2_change 92 = .ok (.getfield 65, 3) := dk_180 0 65 (dk_at dksX2_change_4 0 rfl rfl)
theorem dX2_change_95 : decode cX2_change 95 = .ok (.iload 4, 2) := dk_21 4 (dk_at dksX2_change_4 3 rfl rfl)
theorem dX2_change_97 : decode cX2_change 97 = .ok (.iaload, 1) := dk_46 (dk_at dksX2_change_4 5 rfl rfl)
theorem dX2_change_98 : decode cX2_change 98 = .ok (.iconst 1, 1) := dk_4 (dk_at dksX2_change_4 6 rfl rfl)
theorem dX2_change_99 : decode cX2_change 99 = .ok (.isub, 1) := dk_100 (dk_at dksX2_change_4 7 rfl rfl)
theorem dX2_change_100 : decode cX2_change 100 = .ok (.istore 5, 2) := dk_54 5 (dk_at dksX2_change_4 8 rfl rfl)
theorem dX2_change_102 : decode cX2_change 102 = .ok (.aload_n 0, 1) := dk_42 (dk_at dksX2_change_4 10 rfl rfl)
theorem dX2_change_103 : decode cX2_change 103 = .ok (.dup, 1) := dk_89 (dk_at dksX2_change_4 11 rfl rfl)
theorem dX2_change_104 : decode cX2_change 104 = .ok (.getfield 84, 3) := dk_180 0 84 (dk_at dksX2_change_4 12 rfl rfl)
theorem dX2_change_107 : decode cX2_change 107 = .ok (.bipush 10, 2) := dk_16 10 (dk_at dksX2_change_4 15 rfl rfl)
theorem dX2_change_109 : decode cX2_change 109 = .ok (.isub, 1) := dk_100 (dk_at dksX2_change_4 17 rfl rfl)
theorem dX2_change_110 : decode cX2_change 110 = .ok (.putfield 84, 3) := dk_181 0 84 (dk_at dksX2_change_4 18 rfl rfl)
theorem dX2_change_113 : decode cX2_change 113 = .ok (.iload 5, 2) := dk_21 5 (dk_at dksX2_change_4 21 rfl rfl)
theorem dX2_change_115 : decode cX2_change 115 = .ok (.ifCond .lt 11, 3) := dk_155 0 11 (dk_at dksX2_change_5 0 rfl rfl)
theorem dX2_change_118 : decode cX2_change 118 = .ok (.aload_n 0, 1) := dk_42 (dk_at dksX2_change_5 3 rfl rfl)
theorem dX2_change_119 : decode cX2_change 119 = .ok (.getfield 22, 3) := dk_180 0 22 (dk_at dksX2_change_5 4 rfl rfl)
theorem dX2_change_122 : decode cX2_change 122 = .ok (.iload 5, 2) := dk_21 5 (dk_at dksX2_change_5 7 rfl rfl)
theorem dX2_change_124 : decode cX2_change 124 = .ok (.iconst (-1), 1) := dk_2 (dk_at dksX2_change_5 9 rfl rfl)
theorem dX2_change_125 : decode cX2_change 125 = .ok (.iastore, 1) := dk_79 (dk_at dksX2_change_5 10 rfl rfl)
theorem dX2_change_126 : decode cX2_change 126 = .ok (.aload_n 0, 1) := dk_42 (dk_at dksX2_change_5 11 rfl rfl)
theorem dX2_change_127 : decode cX2_change 127 = .ok (.getfield 65, 3) := dk_180 0 65 (dk_at dksX2_change_5 12 rfl rfl)
theorem dX2_change_130 : decode cX2_change 130 = .ok (.iload 4, 2) := dk_21 4 (dk_at dksX2_change_5 15 rfl rfl)
theorem dX2_change_132 : decode cX2_change 132 = .ok (.iload_n 3, 1) := dk_29 (dk_at dksX2_change_5 17 rfl rfl)
theorem dX2_change_133 : decode cX2_change 133 = .ok (.iconst 1, 1) := dk_4 (dk_at dksX2_change_5 18 rfl rfl)
theorem dX2_change_134 : decode cX2_change 134 = .ok (.iadd, 1) := dk_96 (dk_at dksX2_change_5 19 rfl rfl)
theorem dX2_change_135 : decode cX2_change 135 = .ok (.iastore, 1) := dk_79 (dk_at dksX2_change_5 20 rfl rfl)
theorem dX2_change_136 : decode cX2_change 136 = .ok (.aload_n 0, 1) := dk_42 (dk_at dksX2_change_5 21 rfl rfl)
theorem dX2_change_137 : decode cX2_change 137 = .ok (.getfield 68, 3) := dk_180 0 68 (dk_at dksX2_change_6 0 rfl rfl)
theorem dX2_change_140 : decode cX2_change 140 = .ok (.iload 4, 2) := dk_21 4 (dk_at dksX2_change_6 3 rfl rfl)
theorem dX2_change_142 : decode cX2_change 142 = .ok (.iconst 0, 1) := dk_3 (dk_at dksX2_change_6 5 rfl rfl)
theorem dX2_change_143 : decode cX2_change 143 = .ok (.iastore, 1) := dk_79 (dk_at dksX2_change_6 6 rfl rfl)
theorem dX2_change_144 : decode cX2_change 144 = .ok (.iload_n 3, 1) := dk_29 (dk_at dksX2_change_6 7 rfl rfl)
theorem dX2_change_145 : decode cX2_change 145 = .ok (.ifCond .lt 28, 3) := dk_155 0 28 (dk_at dksX2_change_6 8 rfl rfl)
theorem dX2_change_148 : decode cX2_change 148 = .ok (.aload_n 0, 1) := dk_42 (dk_at dksX2_change_6 11 rfl rfl)
theorem dX2_change_149 : decode cX2_change 149 = .ok (.getfield 22, 3) := dk_180 0 22 (dk_at dksX2_change_6 12 rfl rfl)
theorem dX2_change_152 : decode cX2_change 152 = .ok (.iload_n 3, 1) := dk_29 (dk_at dksX2_change_6 15 rfl rfl)
theorem dX2_change_153 : decode cX2_change 153 = .ok (.iload 4, 2) := dk_21 4 (dk_at dksX2_change_6 16 rfl rfl)
theorem dX2_change_155 : decode cX2_change 155 = .ok (.iastore, 1) := dk_79 (dk_at dksX2_change_6 18 rfl rfl)
theorem dX2_change_156 : decode cX2_change 156 = .ok (.aload_n 0, 1) := dk_42 (dk_at dksX2_change_6 19 rfl rfl)
theorem dX2_change_157 : decode cX2_change 157 = .ok (.getfield 71, 3) := dk_180 0 71 (dk_at dksX2_change_6 20 rfl rfl)
theorem dX2_change_160 : decode cX2_change 160 = .ok (.bipush 100, 2) := dk_16 100 (dk_at dksX2_change_7 0 rfl rfl)
theorem dX2_change_162 : decode cX2_change 162 = .ok (.iload_n 1, 1) := dk_27 (dk_at dksX2_change_7 2 rfl rfl)
theorem dX2_change_163 : decode cX2_change 163 = .ok (.imul, 1) := dk_104 (dk_at dksX2_change_7 3 rfl rfl)
theorem dX2_change_164 : decode cX2_change 164 = .ok (.aload_n 0, 1) := dk_42 (dk_at dksX2_change_7 4 rfl rfl)
theorem dX2_change_165 : decode cX2_change 165 = .ok (.getfield 7, 3) := dk_180 0 7 (dk_at dksX2_change_7 5 rfl rfl)
theorem dX2_change_168 : decode cX2_change 168 = .ok (.iload_n 3, 1) := dk_29 (dk_at dksX2_change_7 8 rfl rfl)
theorem dX2_change_169 : decode cX2_change 169 = .ok (.iaload, 1) := dk_46 (dk_at dksX2_change_7 9 rfl rfl)
theorem dX2_change_170 : decode cX2_change 170 = .ok (.iadd, 1) := dk_96 (dk_at dksX2_change_7 10 rfl rfl)
theorem dX2_change_171 : decode cX2_change 171 = .ok (.iconst 0, 1) := dk_3 (dk_at dksX2_change_7 11 rfl rfl)
theorem dX2_change_172 : decode cX2_change 172 = .ok (.iastore, 1) := dk_79 (dk_at dksX2_change_7 12 rfl rfl)
theorem dX2_change_173 : decode cX2_change 173 = .ok (.iload 5, 2) := dk_21 5 (dk_at dksX2_change_7 13 rfl rfl)
theorem dX2_change_175 : decode cX2_change 175 = .ok (.ireturn, 1) := dk_172 (dk_at dksX2_change_7 15 rfl rfl)
abbrev cX2_isInVan : ByteArray := prog_9_method_36_code
def yX2_isInVan : MethodName := ⟨RX2, "isInVan", "(I)Z"⟩
def dkwX2_isInVan_0 : List UInt8 := [42, 180, 0, 22, 27, 46, 2, 160, 0, 7, 4, 167, 0, 4, 3, 172]
abbrev dktX2_isInVan_0 : List UInt8 := dkwX2_isInVan_0 ++ []
theorem dksX2_isInVan_0 : cX2_isInVan.data.toList.drop 0 = dktX2_isInVan_0 := by decide +kernel
theorem dX2_isInVan_0 : decode cX2_isInVan 0 = .ok (.aload_n 0, 1) := dk_42 (dk_at dksX2_isInVan_0 0 rfl rfl)
theorem dX2_isInVan_1 : decode cX2_isInVan 1 = .ok (.getfield 22, 3) := dk_180 0 22 (dk_at dksX2_isInVan_0 1 rfl rfl)
theorem dX2_isInVan_4 : decode cX2_isInVan 4 = .ok (.iload_n 1, 1) := dk_27 (dk_at dksX2_isInVan_0 4 rfl rfl)
theorem dX2_isInVan_5 : decode cX2_isInVan 5 = .ok (.iaload, 1) := dk_46 (dk_at dksX2_isInVan_0 5 rfl rfl)
theorem dX2_isInVan_6 : decode cX2_isInVan 6 = .ok (.iconst (-1), 1) := dk_2 (dk_at dksX2_isInVan_0 6 rfl rfl)
theorem dX2_isInVan_7 : decode cX2_isInVan 7 = .ok (.if_icmp .ne 7, 3) := dk_160 0 7 (dk_at dksX2_isInVan_0 7 rfl rfl)
theorem dX2_isInVan_10 : decode cX2_isInVan 10 = .ok (.iconst 1, 1) := dk_4 (dk_at dksX2_isInVan_0 10 rfl rfl)
theorem dX2_isInVan_11 : decode cX2_isInVan 11 = .ok (.goto 4, 3) := dk_167 0 4 (dk_at dksX2_isInVan_0 11 rfl rfl)
theorem dX2_isInVan_14 : decode cX2_isInVan 14 = .ok (.iconst 0, 1) := dk_3 (dk_at dksX2_isInVan_0 14 rfl rfl)
theorem dX2_isInVan_15 : decode cX2_isInVan 15 = .ok (.ireturn, 1) := dk_172 (dk_at dksX2_isInVan_0 15 rfl rfl)
abbrev cX2_changeNeedle : ByteArray := prog_9_method_38_code
def yX2_changeNeedle : MethodName := ⟨RX2, "changeNeedle", "(I)I"⟩
def dkwX2_changeNeedle_3 : List UInt8 := [172]
abbrev dktX2_changeNeedle_3 : List UInt8 := dkwX2_changeNeedle_3 ++ []
def dkwX2_changeNeedle_2 : List UInt8 := [180, 0, 40, 27, 46, 61, 42, 89, 180, 0, 84, 8, 100, 181, 0, 84, 42, 180, 0, 40, 27, 3, 79, 28]
abbrev dktX2_changeNeedle_2 : List UInt8 := dkwX2_changeNeedle_2 ++ dktX2_changeNeedle_3
def dkwX2_changeNeedle_1 : List UInt8 := [180, 0, 84, 8, 161, 0, 7, 4, 167, 0, 4, 3, 5, 182, 0, 104, 153, 0, 5, 3, 172, 42]
abbrev dktX2_changeNeedle_1 : List UInt8 := dkwX2_changeNeedle_1 ++ dktX2_changeNeedle_2
def dkwX2_changeNeedle_0 : List UInt8 := [42, 42, 27, 182, 0, 100, 4, 182, 0, 104, 154, 0, 33, 42, 42, 180, 0, 62, 27, 51, 153, 0, 15, 42]
abbrev dktX2_changeNeedle_0 : List UInt8 := dkwX2_changeNeedle_0 ++ dktX2_changeNeedle_1
theorem dksX2_changeNeedle_0 : cX2_changeNeedle.data.toList.drop 0 = dktX2_changeNeedle_0 := by decide +kernel
theorem dksX2_changeNeedle_1 : cX2_changeNeedle.data.toList.drop 24 = dktX2_changeNeedle_1 := dk_seg dksX2_changeNeedle_0 24 rfl rfl
theorem dksX2_changeNeedle_2 : cX2_changeNeedle.data.toList.drop 46 = dktX2_changeNeedle_2 := dk_seg dksX2_changeNeedle_1 22 rfl rfl
theorem dksX2_changeNeedle_3 : cX2_changeNeedle.data.toList.drop 70 = dktX2_changeNeedle_3 := dk_seg dksX2_changeNeedle_2 24 rfl rfl
theorem dX2_changeNeedle_0 : decode cX2_changeNeedle 0 = .ok (.aload_n 0, 1) := dk_42 (dk_at dksX2_changeNeedle_0 0 rfl rfl)
theorem dX2_changeNeedle_1 : decode cX2_changeNeedle 1 = .ok (.aload_n 0, 1) := dk_42 (dk_at dksX2_changeNeedle_0 1 rfl rfl)
theorem dX2_changeNeedle_2 : decode cX2_changeNeedle 2 = .ok (.iload_n 1, 1) := dk_27 (dk_at dksX2_changeNeedle_0 2 rfl rfl)
theorem dX2_changeNeedle_3 : decode cX2_changeNeedle 3 = .ok (.invokevirtual 100, 3) := dk_182 0 100 (dk_at dksX2_changeNeedle_0 3 rfl rfl)
theorem dX2_changeNeedle_6 : decode cX2_changeNeedle 6 = .ok (.iconst 1, 1) := dk_4 (dk_at dksX2_changeNeedle_0 6 rfl rfl)
theorem dX2_changeNeedle_7 : decode cX2_changeNeedle 7 = .ok (.invokevirtual 104, 3) := dk_182 0 104 (dk_at dksX2_changeNeedle_0 7 rfl rfl)
theorem dX2_changeNeedle_10 : decode cX2_changeNeedle 10 = .ok (.ifCond .ne 33, 3) := dk_154 0 33 (dk_at dksX2_changeNeedle_0 10 rfl rfl)
theorem dX2_changeNeedle_13 : decode cX2_changeNeedle 13 = .ok (.aload_n 0, 1) := dk_42 (dk_at dksX2_changeNeedle_0 13 rfl rfl)
theorem dX2_changeNeedle_14 : decode cX2_changeNeedle 14 = .ok (.aload_n 0, 1) := dk_42 (dk_at dksX2_changeNeedle_0 14 rfl rfl)
theorem dX2_changeNeedle_15 : decode cX2_changeNeedle 15 = .ok (.getfield 62, 3) := dk_180 0 62 (dk_at dksX2_changeNeedle_0 15 rfl rfl)
theorem dX2_changeNeedle_18 : decode cX2_changeNeedle 18 = .ok (.iload_n 1, 1) := dk_27 (dk_at dksX2_changeNeedle_0 18 rfl rfl)
theorem dX2_changeNeedle_19 : decode cX2_changeNeedle 19 = .ok (.baload, 1) := dk_51 (dk_at dksX2_changeNeedle_0 19 rfl rfl)
theorem dX2_changeNeedle_20 : decode cX2_changeNeedle 20 = .ok (.ifCond .eq 15, 3) := dk_153 0 15 (dk_at dksX2_changeNeedle_0 20 rfl rfl)
theorem dX2_changeNeedle_23 : decode cX2_changeNeedle 23 = .ok (.aload_n 0, 1) := dk_42 (dk_at dksX2_changeNeedle_0 23 rfl rfl)
theorem dX2_changeNeedle_24 : decode cX2_changeNeedle 24 = .ok (.getfield 84, 3) := dk_180 0 84 (dk_at dksX2_changeNeedle_1 0 rfl rfl)
theorem dX2_changeNeedle_27 : decode cX2_changeNeedle 27 = .ok (.iconst 5, 1) := dk_8 (dk_at dksX2_changeNeedle_1 3 rfl rfl)
theorem dX2_changeNeedle_28 : decode cX2_changeNeedle 28 = .ok (.if_icmp .lt 7, 3) := dk_161 0 7 (dk_at dksX2_changeNeedle_1 4 rfl rfl)
theorem dX2_changeNeedle_31 : decode cX2_changeNeedle 31 = .ok (.iconst 1, 1) := dk_4 (dk_at dksX2_changeNeedle_1 7 rfl rfl)
theorem dX2_changeNeedle_32 : decode cX2_changeNeedle 32 = .ok (.goto 4, 3) := dk_167 0 4 (dk_at dksX2_changeNeedle_1 8 rfl rfl)
theorem dX2_changeNeedle_35 : decode cX2_changeNeedle 35 = .ok (.iconst 0, 1) := dk_3 (dk_at dksX2_changeNeedle_1 11 rfl rfl)
theorem dX2_changeNeedle_36 : decode cX2_changeNeedle 36 = .ok (.iconst 2, 1) := dk_5 (dk_at dksX2_changeNeedle_1 12 rfl rfl)
theorem dX2_changeNeedle_37 : decode cX2_changeNeedle 37 = .ok (.invokevirtual 104, 3) := dk_182 0 104 (dk_at dksX2_changeNeedle_1 13 rfl rfl)
theorem dX2_changeNeedle_40 : decode cX2_changeNeedle 40 = .ok (.ifCond .eq 5, 3) := dk_153 0 5 (dk_at dksX2_changeNeedle_1 16 rfl rfl)
theorem dX2_changeNeedle_43 : decode cX2_changeNeedle 43 = .ok (.iconst 0, 1) := dk_3 (dk_at dksX2_changeNeedle_1 19 rfl rfl)
theorem dX2_changeNeedle_44 : decode cX2_changeNeedle 44 = .ok (.ireturn, 1) := dk_172 (dk_at dksX2_changeNeedle_1 20 rfl rfl)
theorem dX2_changeNeedle_45 : decode cX2_changeNeedle 45 = .ok (.aload_n 0, 1) := dk_42 (dk_at dksX2_changeNeedle_1 21 rfl rfl)
theorem dX2_changeNeedle_46 : decode cX2_changeNeedle 46 = .ok (.getfield 40, 3) := dk_180 0 40 (dk_at dksX2_changeNeedle_2 0 rfl rfl)
theorem dX2_changeNeedle_49 : decode cX2_changeNeedle 49 = .ok (.iload_n 1, 1) := dk_27 (dk_at dksX2_changeNeedle_2 3 rfl rfl)
theorem dX2_changeNeedle_50 : decode cX2_changeNeedle 50 = .ok (.iaload, 1) := dk_46 (dk_at dksX2_changeNeedle_2 4 rfl rfl)
theorem dX2_changeNeedle_51 : decode cX2_changeNeedle 51 = .ok (.istore_n 2, 1) := dk_61 (dk_at dksX2_changeNeedle_2 5 rfl rfl)
theorem dX2_changeNeedle_52 : decode cX2_changeNeedle 52 = .ok (.aload_n 0, 1) := dk_42 (dk_at dksX2_changeNeedle_2 6 rfl rfl)
theorem dX2_changeNeedle_53 : decode cX2_changeNeedle 53 = .ok (.dup, 1) := dk_89 (dk_at dksX2_changeNeedle_2 7 rfl rfl)
theorem dX2_changeNeedle_54 : decode cX2_changeNeedle 54 = .ok (.getfield 84, 3) := dk_180 0 84 (dk_at dksX2_changeNeedle_2 8 rfl rfl)
theorem dX2_changeNeedle_57 : decode cX2_changeNeedle 57 = .ok (.iconst 5, 1) := dk_8 (dk_at dksX2_changeNeedle_2 11 rfl rfl)
theorem dX2_changeNeedle_58 : decode cX2_changeNeedle 58 = .ok (.isub, 1) := dk_100 (dk_at dksX2_changeNeedle_2 12 rfl rfl)
theorem dX2_changeNeedle_59 : decode cX2_changeNeedle 59 = .ok (.putfield 84, 3) := dk_181 0 84 (dk_at dksX2_changeNeedle_2 13 rfl rfl)
theorem dX2_changeNeedle_62 : decode cX2_changeNeedle 62 = .ok (.aload_n 0, 1) := dk_42 (dk_at dksX2_changeNeedle_2 16 rfl rfl)
theorem dX2_changeNeedle_63 : decode cX2_changeNeedle 63 = .ok (.getfield 40, 3) := dk_180 0 40 (dk_at dksX2_changeNeedle_2 17 rfl rfl)
theorem dX2_changeNeedle_66 : decode cX2_changeNeedle 66 = .ok (.iload_n 1, 1) := dk_27 (dk_at dksX2_changeNeedle_2 20 rfl rfl)
theorem dX2_changeNeedle_67 : decode cX2_changeNeedle 67 = .ok (.iconst 0, 1) := dk_3 (dk_at dksX2_changeNeedle_2 21 rfl rfl)
theorem dX2_changeNeedle_68 : decode cX2_changeNeedle 68 = .ok (.iastore, 1) := dk_79 (dk_at dksX2_changeNeedle_2 22 rfl rfl)
theorem dX2_changeNeedle_69 : decode cX2_changeNeedle 69 = .ok (.iload_n 2, 1) := dk_28 (dk_at dksX2_changeNeedle_2 23 rfl rfl)
theorem dX2_changeNeedle_70 : decode cX2_changeNeedle 70 = .ok (.ireturn, 1) := dk_172 (dk_at dksX2_changeNeedle_3 0 rfl rfl)
abbrev cX2_burn : ByteArray := prog_9_method_39_code
def yX2_burn : MethodName := ⟨RX2, "burn", "(I)I"⟩
def dkwX2_burn_1 : List UInt8 := [153, 0, 5, 3, 172, 42, 180, 0, 22, 27, 16, 254, 79, 42, 180, 0, 19, 27, 46, 172]
abbrev dktX2_burn_1 : List UInt8 := dkwX2_burn_1 ++ []
def dkwX2_burn_0 : List UInt8 := [42, 42, 27, 182, 0, 128, 4, 182, 0, 104, 154, 0, 16, 42, 42, 27, 182, 0, 138, 5, 182, 0, 104]
abbrev dktX2_burn_0 : List UInt8 := dkwX2_burn_0 ++ dktX2_burn_1
theorem dksX2_burn_0 : cX2_burn.data.toList.drop 0 = dktX2_burn_0 := by decide +kernel
theorem dksX2_burn_1 : cX2_burn.data.toList.drop 23 = dktX2_burn_1 := dk_seg dksX2_burn_0 23 rfl rfl
theorem dX2_burn_0 : decode cX2_burn 0 = .ok (.aload_n 0, 1) := dk_42 (dk_at dksX2_burn_0 0 rfl rfl)
theorem dX2_burn_1 : decode cX2_burn 1 = .ok (.aload_n 0, 1) := dk_42 (dk_at dksX2_burn_0 1 rfl rfl)
theorem dX2_burn_2 : decode cX2_burn 2 = .ok (.iload_n 1, 1) := dk_27 (dk_at dksX2_burn_0 2 rfl rfl)
theorem dX2_burn_3 : decode cX2_burn 3 = .ok (.invokevirtual 128, 3) := dk_182 0 128 (dk_at dksX2_burn_0 3 rfl rfl)
theorem dX2_burn_6 : decode cX2_burn 6 = .ok (.iconst 1, 1) := dk_4 (dk_at dksX2_burn_0 6 rfl rfl)
theorem dX2_burn_7 : decode cX2_burn 7 = .ok (.invokevirtual 104, 3) := dk_182 0 104 (dk_at dksX2_burn_0 7 rfl rfl)
theorem dX2_burn_10 : decode cX2_burn 10 = .ok (.ifCond .ne 16, 3) := dk_154 0 16 (dk_at dksX2_burn_0 10 rfl rfl)
theorem dX2_burn_13 : decode cX2_burn 13 = .ok (.aload_n 0, 1) := dk_42 (dk_at dksX2_burn_0 13 rfl rfl)
theorem dX2_burn_14 : decode cX2_burn 14 = .ok (.aload_n 0, 1) := dk_42 (dk_at dksX2_burn_0 14 rfl rfl)
theorem dX2_burn_15 : decode cX2_burn 15 = .ok (.iload_n 1, 1) := dk_27 (dk_at dksX2_burn_0 15 rfl rfl)
theorem dX2_burn_16 : decode cX2_burn 16 = .ok (.invokevirtual 138, 3) := dk_182 0 138 (dk_at dksX2_burn_0 16 rfl rfl)
theorem dX2_burn_19 : decode cX2_burn 19 = .ok (.iconst 2, 1) := dk_5 (dk_at dksX2_burn_0 19 rfl rfl)
theorem dX2_burn_20 : decode cX2_burn 20 = .ok (.invokevirtual 104, 3) := dk_182 0 104 (dk_at dksX2_burn_0 20 rfl rfl)
theorem dX2_burn_23 : decode cX2_burn 23 = .ok (.ifCond .eq 5, 3) := dk_153 0 5 (dk_at dksX2_burn_1 0 rfl rfl)
theorem dX2_burn_26 : decode cX2_burn 26 = .ok (.iconst 0, 1) := dk_3 (dk_at dksX2_burn_1 3 rfl rfl)
theorem dX2_burn_27 : decode cX2_burn 27 = .ok (.ireturn, 1) := dk_172 (dk_at dksX2_burn_1 4 rfl rfl)
theorem dX2_burn_28 : decode cX2_burn 28 = .ok (.aload_n 0, 1) := dk_42 (dk_at dksX2_burn_1 5 rfl rfl)
theorem dX2_burn_29 : decode cX2_burn 29 = .ok (.getfield 22, 3) := dk_180 0 22 (dk_at dksX2_burn_1 6 rfl rfl)
theorem dX2_burn_32 : decode cX2_burn 32 = .ok (.iload_n 1, 1) := dk_27 (dk_at dksX2_burn_1 9 rfl rfl)
theorem dX2_burn_33 : decode cX2_burn 33 = .ok (.bipush (-2), 2) := dk_16 254 (dk_at dksX2_burn_1 10 rfl rfl)
theorem dX2_burn_35 : decode cX2_burn 35 = .ok (.iastore, 1) := dk_79 (dk_at dksX2_burn_1 12 rfl rfl)
theorem dX2_burn_36 : decode cX2_burn 36 = .ok (.aload_n 0, 1) := dk_42 (dk_at dksX2_burn_1 13 rfl rfl)
theorem dX2_burn_37 : decode cX2_burn 37 = .ok (.getfield 19, 3) := dk_180 0 19 (dk_at dksX2_burn_1 14 rfl rfl)
theorem dX2_burn_40 : decode cX2_burn 40 = .ok (.iload_n 1, 1) := dk_27 (dk_at dksX2_burn_1 17 rfl rfl)
theorem dX2_burn_41 : decode cX2_burn 41 = .ok (.iaload, 1) := dk_46 (dk_at dksX2_burn_1 18 rfl rfl)
theorem dX2_burn_42 : decode cX2_burn 42 = .ok (.ireturn, 1) := dk_172 (dk_at dksX2_burn_1 19 rfl rfl)
abbrev cX2_ask : ByteArray := prog_9_method_40_code
def yX2_ask : MethodName := ⟨RX2, "ask", "(II)I"⟩
def dkwX2_ask_3 : List UInt8 := [46, 4, 96, 79, 42, 180, 0, 71, 16, 100, 27, 104, 28, 96, 46, 172]
abbrev dktX2_ask_3 : List UInt8 := dkwX2_ask_3 ++ []
def dkwX2_ask_2 : List UInt8 := [167, 0, 4, 3, 6, 182, 0, 104, 153, 0, 5, 3, 172, 42, 180, 0, 71, 16, 100, 27, 104, 28, 96, 92]
abbrev dktX2_ask_2 : List UInt8 := dkwX2_ask_2 ++ dktX2_ask_3
def dkwX2_ask_1 : List UInt8 := [182, 0, 104, 154, 0, 32, 42, 42, 180, 0, 71, 16, 100, 27, 104, 28, 96, 46, 16, 99, 162, 0, 7, 4]
abbrev dktX2_ask_1 : List UInt8 := dkwX2_ask_1 ++ dktX2_ask_2
def dkwX2_ask_0 : List UInt8 := [42, 42, 27, 182, 0, 100, 4, 182, 0, 104, 154, 0, 47, 42, 28, 3, 16, 99, 184, 0, 93, 5]
abbrev dktX2_ask_0 : List UInt8 := dkwX2_ask_0 ++ dktX2_ask_1
theorem dksX2_ask_0 : cX2_ask.data.toList.drop 0 = dktX2_ask_0 := by decide +kernel
theorem dksX2_ask_1 : cX2_ask.data.toList.drop 22 = dktX2_ask_1 := dk_seg dksX2_ask_0 22 rfl rfl
theorem dksX2_ask_2 : cX2_ask.data.toList.drop 46 = dktX2_ask_2 := dk_seg dksX2_ask_1 24 rfl rfl
theorem dksX2_ask_3 : cX2_ask.data.toList.drop 70 = dktX2_ask_3 := dk_seg dksX2_ask_2 24 rfl rfl
theorem dX2_ask_0 : decode cX2_ask 0 = .ok (.aload_n 0, 1) := dk_42 (dk_at dksX2_ask_0 0 rfl rfl)
theorem dX2_ask_1 : decode cX2_ask 1 = .ok (.aload_n 0, 1) := dk_42 (dk_at dksX2_ask_0 1 rfl rfl)
theorem dX2_ask_2 : decode cX2_ask 2 = .ok (.iload_n 1, 1) := dk_27 (dk_at dksX2_ask_0 2 rfl rfl)
theorem dX2_ask_3 : decode cX2_ask 3 = .ok (.invokevirtual 100, 3) := dk_182 0 100 (dk_at dksX2_ask_0 3 rfl rfl)
theorem dX2_ask_6 : decode cX2_ask 6 = .ok (.iconst 1, 1) := dk_4 (dk_at dksX2_ask_0 6 rfl rfl)
theorem dX2_ask_7 : decode cX2_ask 7 = .ok (.invokevirtual 104, 3) := dk_182 0 104 (dk_at dksX2_ask_0 7 rfl rfl)
theorem dX2_ask_10 : decode cX2_ask 10 = .ok (.ifCond .ne 47, 3) := dk_154 0 47 (dk_at dksX2_ask_0 10 rfl rfl)
theorem dX2_ask_13 : decode cX2_ask 13 = .ok (.aload_n 0, 1) := dk_42 (dk_at dksX2_ask_0 13 rfl rfl)
theorem dX2_ask_14 : decode cX2_ask 14 = .ok (.iload_n 2, 1) := dk_28 (dk_at dksX2_ask_0 14 rfl rfl)
theorem dX2_ask_15 : decode cX2_ask 15 = .ok (.iconst 0, 1) := dk_3 (dk_at dksX2_ask_0 15 rfl rfl)
theorem dX2_ask_16 : decode cX2_ask 16 = .ok (.bipush 99, 2) := dk_16 99 (dk_at dksX2_ask_0 16 rfl rfl)
theorem dX2_ask_18 : decode cX2_ask 18 = .ok (.invokestatic 93, 3) := dk_184 0 93 (dk_at dksX2_ask_0 18 rfl rfl)
theorem dX2_ask_21 : decode cX2_ask 21 = .ok (.iconst 2, 1) := dk_5 (dk_at dksX2_ask_0 21 rfl rfl)
theorem dX2_ask_22 : decode cX2_ask 22 = .ok (.invokevirtual 104, 3) := dk_182 0 104 (dk_at dksX2_ask_1 0 rfl rfl)
theorem dX2_ask_25 : decode cX2_ask 25 = .ok (.ifCond .ne 32, 3) := dk_154 0 32 (dk_at dksX2_ask_1 3 rfl rfl)
theorem dX2_ask_28 : decode cX2_ask 28 = .ok (.aload_n 0, 1) := dk_42 (dk_at dksX2_ask_1 6 rfl rfl)
theorem dX2_ask_29 : decode cX2_ask 29 = .ok (.aload_n 0, 1) := dk_42 (dk_at dksX2_ask_1 7 rfl rfl)
theorem dX2_ask_30 : decode cX2_ask 30 = .ok (.getfield 71, 3) := dk_180 0 71 (dk_at dksX2_ask_1 8 rfl rfl)
theorem dX2_ask_33 : decode cX2_ask 33 = .ok (.bipush 100, 2) := dk_16 100 (dk_at dksX2_ask_1 11 rfl rfl)
theorem dX2_ask_35 : decode cX2_ask 35 = .ok (.iload_n 1, 1) := dk_27 (dk_at dksX2_ask_1 13 rfl rfl)
theorem dX2_ask_36 : decode cX2_ask 36 = .ok (.imul, 1) := dk_104 (dk_at dksX2_ask_1 14 rfl rfl)
theorem dX2_ask_37 : decode cX2_ask 37 = .ok (.iload_n 2, 1) := dk_28 (dk_at dksX2_ask_1 15 rfl rfl)
theorem dX2_ask_38 : decode cX2_ask 38 = .ok (.iadd, 1) := dk_96 (dk_at dksX2_ask_1 16 rfl rfl)
theorem dX2_ask_39 : decode cX2_ask 39 = .ok (.iaload, 1) := dk_46 (dk_at dksX2_ask_1 17 rfl rfl)
theorem dX2_ask_40 : decode cX2_ask 40 = .ok (.bipush 99, 2) := dk_16 99 (dk_at dksX2_ask_1 18 rfl rfl)
theorem dX2_ask_42 : decode cX2_ask 42 = .ok (.if_icmp .ge 7, 3) := dk_162 0 7 (dk_at dksX2_ask_1 20 rfl rfl)
theorem dX2_ask_45 : decode cX2_ask 45 = .ok (.iconst 1, 1) := dk_4 (dk_at dksX2_ask_1 23 rfl rfl)
theorem dX2_ask_46 : decode cX2_ask 46 = .ok (.goto 4, 3) := dk_167 0 4 (dk_at dksX2_ask_2 0 rfl rfl)
theorem dX2_ask_49 : decode cX2_ask 49 = .ok (.iconst 0, 1) := dk_3 (dk_at dksX2_ask_2 3 rfl rfl)
theorem dX2_ask_50 : decode cX2_ask 50 = .ok (.iconst 3, 1) := dk_6 (dk_at dksX2_ask_2 4 rfl rfl)
theorem dX2_ask_51 : decode cX2_ask 51 = .ok (.invokevirtual 104, 3) := dk_182 0 104 (dk_at dksX2_ask_2 5 rfl rfl)
theorem dX2_ask_54 : decode cX2_ask 54 = .ok (.ifCond .eq 5, 3) := dk_153 0 5 (dk_at dksX2_ask_2 8 rfl rfl)
theorem dX2_ask_57 : decode cX2_ask 57 = .ok (.iconst 0, 1) := dk_3 (dk_at dksX2_ask_2 11 rfl rfl)
theorem dX2_ask_58 : decode cX2_ask 58 = .ok (.ireturn, 1) := dk_172 (dk_at dksX2_ask_2 12 rfl rfl)
theorem dX2_ask_59 : decode cX2_ask 59 = .ok (.aload_n 0, 1) := dk_42 (dk_at dksX2_ask_2 13 rfl rfl)
theorem dX2_ask_60 : decode cX2_ask 60 = .ok (.getfield 71, 3) := dk_180 0 71 (dk_at dksX2_ask_2 14 rfl rfl)
theorem dX2_ask_63 : decode cX2_ask 63 = .ok (.bipush 100, 2) := dk_16 100 (dk_at dksX2_ask_2 17 rfl rfl)
theorem dX2_ask_65 : decode cX2_ask 65 = .ok (.iload_n 1, 1) := dk_27 (dk_at dksX2_ask_2 19 rfl rfl)
theorem dX2_ask_66 : decode cX2_ask 66 = .ok (.imul, 1) := dk_104 (dk_at dksX2_ask_2 20 rfl rfl)
theorem dX2_ask_67 : decode cX2_ask 67 = .ok (.iload_n 2, 1) := dk_28 (dk_at dksX2_ask_2 21 rfl rfl)
theorem dX2_ask_68 : decode cX2_ask 68 = .ok (.iadd, 1) := dk_96 (dk_at dksX2_ask_2 22 rfl rfl)
theorem dX2_ask_69 : decode cX2_ask 69 = .ok (.dup2, 1) := dk_92 (dk_at dksX2_ask_2 23 rfl rfl)
theorem dX2_ask_70 : decode cX2_ask 70 = .ok (.iaload, 1) := dk_46 (dk_at dksX2_ask_3 0 rfl rfl)
theorem dX2_ask_71 : decode cX2_ask 71 = .ok (.iconst 1, 1) := dk_4 (dk_at dksX2_ask_3 1 rfl rfl)
theorem dX2_ask_72 : decode cX2_ask 72 = .ok (.iadd, 1) := dk_96 (dk_at dksX2_ask_3 2 rfl rfl)
theorem dX2_ask_73 : decode cX2_ask 73 = .ok (.iastore, 1) := dk_79 (dk_at dksX2_ask_3 3 rfl rfl)
theorem dX2_ask_74 : decode cX2_ask 74 = .ok (.aload_n 0, 1) := dk_42 (dk_at dksX2_ask_3 4 rfl rfl)
theorem dX2_ask_75 : decode cX2_ask 75 = .ok (.getfield 71, 3) := dk_180 0 71 (dk_at dksX2_ask_3 5 rfl rfl)
theorem dX2_ask_78 : decode cX2_ask 78 = .ok (.bipush 100, 2) := dk_16 100 (dk_at dksX2_ask_3 8 rfl rfl)
theorem dX2_ask_80 : decode cX2_ask 80 = .ok (.iload_n 1, 1) := dk_27 (dk_at dksX2_ask_3 10 rfl rfl)
theorem dX2_ask_81 : decode cX2_ask 81 = .ok (.imul, 1) := dk_104 (dk_at dksX2_ask_3 11 rfl rfl)
theorem dX2_ask_82 : decode cX2_ask 82 = .ok (.iload_n 2, 1) := dk_28 (dk_at dksX2_ask_3 12 rfl rfl)
theorem dX2_ask_83 : decode cX2_ask 83 = .ok (.iadd, 1) := dk_96 (dk_at dksX2_ask_3 13 rfl rfl)
theorem dX2_ask_84 : decode cX2_ask 84 = .ok (.iaload, 1) := dk_46 (dk_at dksX2_ask_3 14 rfl rfl)
theorem dX2_ask_85 : decode cX2_ask 85 = .ok (.ireturn, 1) := dk_172 (dk_at dksX2_ask_3 15 rfl rfl)
abbrev cX2_mostAsked : ByteArray := prog_9_method_41_code
def yX2_mostAsked : MethodName := ⟨RX2, "mostAsked", "(I)I"⟩
def dkwX2_mostAsked_3 : List UInt8 := [28, 96, 46, 158, 0, 7, 4, 167, 0, 4, 3, 5, 182, 0, 104, 153, 0, 7, 3, 167, 0, 4, 28, 172]
abbrev dktX2_mostAsked_3 : List UInt8 := dkwX2_mostAsked_3 ++ []
def dkwX2_mostAsked_2 : List UInt8 := [161, 0, 7, 29, 167, 0, 4, 28, 61, 132, 3, 255, 167, 255, 218, 42, 42, 180, 0, 71, 16, 100, 27, 104]
abbrev dktX2_mostAsked_2 : List UInt8 := dkwX2_mostAsked_2 ++ dktX2_mostAsked_3
def dkwX2_mostAsked_1 : List UInt8 := [42, 180, 0, 71, 16, 100, 27, 104, 29, 96, 46, 42, 180, 0, 71, 16, 100, 27, 104, 28, 96, 46]
abbrev dktX2_mostAsked_1 : List UInt8 := dkwX2_mostAsked_1 ++ dktX2_mostAsked_2
def dkwX2_mostAsked_0 : List UInt8 := [42, 42, 27, 182, 0, 100, 4, 182, 0, 104, 153, 0, 5, 3, 172, 3, 61, 16, 99, 62, 29, 155, 0, 40]
abbrev dktX2_mostAsked_0 : List UInt8 := dkwX2_mostAsked_0 ++ dktX2_mostAsked_1
theorem dksX2_mostAsked_0 : cX2_mostAsked.data.toList.drop 0 = dktX2_mostAsked_0 := by decide +kernel
theorem dksX2_mostAsked_1 : cX2_mostAsked.data.toList.drop 24 = dktX2_mostAsked_1 := dk_seg dksX2_mostAsked_0 24 rfl rfl
theorem dksX2_mostAsked_2 : cX2_mostAsked.data.toList.drop 46 = dktX2_mostAsked_2 := dk_seg dksX2_mostAsked_1 22 rfl rfl
theorem dksX2_mostAsked_3 : cX2_mostAsked.data.toList.drop 70 = dktX2_mostAsked_3 := dk_seg dksX2_mostAsked_2 24 rfl rfl
theorem dX2_mostAsked_0 : decode cX2_mostAsked 0 = .ok (.aload_n 0, 1) := dk_42 (dk_at dksX2_mostAsked_0 0 rfl rfl)
theorem dX2_mostAsked_1 : decode cX2_mostAsked 1 = .ok (.aload_n 0, 1) := dk_42 (dk_at dksX2_mostAsked_0 1 rfl rfl)
theorem dX2_mostAsked_2 : decode cX2_mostAsked 2 = .ok (.iload_n 1, 1) := dk_27 (dk_at dksX2_mostAsked_0 2 rfl rfl)
theorem dX2_mostAsked_3 : decode cX2_mostAsked 3 = .ok (.invokevirtual 100, 3) := dk_182 0 100 (dk_at dksX2_mostAsked_0 3 rfl rfl)
theorem dX2_mostAsked_6 : decode cX2_mostAsked 6 = .ok (.iconst 1, 1) := dk_4 (dk_at dksX2_mostAsked_0 6 rfl rfl)
theorem dX2_mostAsked_7 : decode cX2_mostAsked 7 = .ok (.invokevirtual 104, 3) := dk_182 0 104 (dk_at dksX2_mostAsked_0 7 rfl rfl)
theorem dX2_mostAsked_10 : decode cX2_mostAsked 10 = .ok (.ifCond .eq 5, 3) := dk_153 0 5 (dk_at dksX2_mostAsked_0 10 rfl rfl)
theorem dX2_mostAsked_13 : decode cX2_mostAsked 13 = .ok (.iconst 0, 1) := dk_3 (dk_at dksX2_mostAsked_0 13 rfl rfl)
theorem dX2_mostAsked_14 : decode cX2_mostAsked 14 = .ok (.ireturn, 1) := dk_172 (dk_at dksX2_mostAsked_0 14 rfl rfl)
theorem dX2_mostAsked_15 : decode cX2_mostAsked 15 = .ok (.iconst 0, 1) := dk_3 (dk_at dksX2_mostAsked_0 15 rfl rfl)
theorem dX2_mostAsked_16 : decode cX2_mostAsked 16 = .ok (.istore_n 2, 1) := dk_61 (dk_at dksX2_mostAsked_0 16 rfl rfl)
theorem dX2_mostAsked_17 : decode cX2_mostAsked 17 = .ok (.bipush 99, 2) := dk_16 99 (dk_at dksX2_mostAsked_0 17 rfl rfl)
theorem dX2_mostAsked_19 : decode cX2_mostAsked 19 = .ok (.istore_n 3, 1) := dk_62 (dk_at dksX2_mostAsked_0 19 rfl rfl)
theorem dX2_mostAsked_20 : decode cX2_mostAsked 20 = .ok (.iload_n 3, 1) := dk_29 (dk_at dksX2_mostAsked_0 20 rfl rfl)
theorem dX2_mostAsked_21 : decode cX2_mostAsked 21 = .ok (.ifCond .lt 40, 3) := dk_155 0 40 (dk_at dksX2_mostAsked_0 21 rfl rfl)
theorem dX2_mostAsked_24 : decode cX2_mostAsked 24 = .ok (.aload_n 0, 1) := dk_42 (dk_at dksX2_mostAsked_1 0 rfl rfl)
theorem dX2_mostAsked_25 : decode cX2_mostAsked 25 = .ok (.getfield 71, 3) := dk_180 0 71 (dk_at dksX2_mostAsked_1 1 rfl rfl)
theorem dX2_mostAsked_28 : decode cX2_mostAsked 28 = .ok (.bipush 100, 2) := dk_16 100 (dk_at dksX2_mostAsked_1 4 rfl rfl)
theorem dX2_mostAsked_30 : decode cX2_mostAsked 30 = .ok (.iload_n 1, 1) := dk_27 (dk_at dksX2_mostAsked_1 6 rfl rfl)
theorem dX2_mostAsked_31 : decode cX2_mostAsked 31 = .ok (.imul, 1) := dk_104 (dk_at dksX2_mostAsked_1 7 rfl rfl)
theorem dX2_mostAsked_32 : decode cX2_mostAsked 32 = .ok (.iload_n 3, 1) := dk_29 (dk_at dksX2_mostAsked_1 8 rfl rfl)
theorem dX2_mostAsked_33 : decode cX2_mostAsked 33 = .ok (.iadd, 1) := dk_96 (dk_at dksX2_mostAsked_1 9 rfl rfl)
theorem dX2_mostAsked_34 : decode cX2_mostAsked 34 = .ok (.iaload, 1) := dk_46 (dk_at dksX2_mostAsked_1 10 rfl rfl)
theorem dX2_mostAsked_35 : decode cX2_mostAsked 35 = .ok (.aload_n 0, 1) := dk_42 (dk_at dksX2_mostAsked_1 11 rfl rfl)
theorem dX2_mostAsked_36 : decode cX2_mostAsked 36 = .ok (.getfield 71, 3) := dk_180 0 71 (dk_at dksX2_mostAsked_1 12 rfl rfl)
theorem dX2_mostAsked_39 : decode cX2_mostAsked 39 = .ok (.bipush 100, 2) := dk_16 100 (dk_at dksX2_mostAsked_1 15 rfl rfl)
theorem dX2_mostAsked_41 : decode cX2_mostAsked 41 = .ok (.iload_n 1, 1) := dk_27 (dk_at dksX2_mostAsked_1 17 rfl rfl)
theorem dX2_mostAsked_42 : decode cX2_mostAsked 42 = .ok (.imul, 1) := dk_104 (dk_at dksX2_mostAsked_1 18 rfl rfl)
theorem dX2_mostAsked_43 : decode cX2_mostAsked 43 = .ok (.iload_n 2, 1) := dk_28 (dk_at dksX2_mostAsked_1 19 rfl rfl)
theorem dX2_mostAsked_44 : decode cX2_mostAsked 44 = .ok (.iadd, 1) := dk_96 (dk_at dksX2_mostAsked_1 20 rfl rfl)
theorem dX2_mostAsked_45 : decode cX2_mostAsked 45 = .ok (.iaload, 1) := dk_46 (dk_at dksX2_mostAsked_1 21 rfl rfl)
theorem dX2_mostAsked_46 : decode cX2_mostAsked 46 = .ok (.if_icmp .lt 7, 3) := dk_161 0 7 (dk_at dksX2_mostAsked_2 0 rfl rfl)
theorem dX2_mostAsked_49 : decode cX2_mostAsked 49 = .ok (.iload_n 3, 1) := dk_29 (dk_at dksX2_mostAsked_2 3 rfl rfl)
theorem dX2_mostAsked_50 : decode cX2_mostAsked 50 = .ok (.goto 4, 3) := dk_167 0 4 (dk_at dksX2_mostAsked_2 4 rfl rfl)
theorem dX2_mostAsked_53 : decode cX2_mostAsked 53 = .ok (.iload_n 2, 1) := dk_28 (dk_at dksX2_mostAsked_2 7 rfl rfl)
theorem dX2_mostAsked_54 : decode cX2_mostAsked 54 = .ok (.istore_n 2, 1) := dk_61 (dk_at dksX2_mostAsked_2 8 rfl rfl)
theorem dX2_mostAsked_55 : decode cX2_mostAsked 55 = .ok (.iinc 3 (-1), 3) := dk_132 3 255 (dk_at dksX2_mostAsked_2 9 rfl rfl)
theorem dX2_mostAsked_58 : decode cX2_mostAsked 58 = .ok (.goto (-38), 3) := dk_167 255 218 (dk_at dksX2_mostAsked_2 12 rfl rfl)
theorem dX2_mostAsked_61 : decode cX2_mostAsked 61 = .ok (.aload_n 0, 1) := dk_42 (dk_at dksX2_mostAsked_2 15 rfl rfl)
theorem dX2_mostAsked_62 : decode cX2_mostAsked 62 = .ok (.aload_n 0, 1) := dk_42 (dk_at dksX2_mostAsked_2 16 rfl rfl)
theorem dX2_mostAsked_63 : decode cX2_mostAsked 63 = .ok (.getfield 71, 3) := dk_180 0 71 (dk_at dksX2_mostAsked_2 17 rfl rfl)
theorem dX2_mostAsked_66 : decode cX2_mostAsked 66 = .ok (.bipush 100, 2) := dk_16 100 (dk_at dksX2_mostAsked_2 20 rfl rfl)
theorem dX2_mostAsked_68 : decode cX2_mostAsked 68 = .ok (.iload_n 1, 1) := dk_27 (dk_at dksX2_mostAsked_2 22 rfl rfl)
theorem dX2_mostAsked_69 : decode cX2_mostAsked 69 = .ok (.imul, 1) := dk_104 (dk_at dksX2_mostAsked_2 23 rfl rfl)
theorem dX2_mostAsked_70 : decode cX2_mostAsked 70 = .ok (.iload_n 2, 1) := dk_28 (dk_at dksX2_mostAsked_3 0 rfl rfl)
theorem dX2_mostAsked_71 : decode cX2_mostAsked 71 = .ok (.iadd, 1) := dk_96 (dk_at dksX2_mostAsked_3 1 rfl rfl)
theorem dX2_mostAsked_72 : decode cX2_mostAsked 72 = .ok (.iaload, 1) := dk_46 (dk_at dksX2_mostAsked_3 2 rfl rfl)
theorem dX2_mostAsked_73 : decode cX2_mostAsked 73 = .ok (.ifCond .le 7, 3) := dk_158 0 7 (dk_at dksX2_mostAsked_3 3 rfl rfl)
theorem dX2_mostAsked_76 : decode cX2_mostAsked 76 = .ok (.iconst 1, 1) := dk_4 (dk_at dksX2_mostAsked_3 6 rfl rfl)
theorem dX2_mostAsked_77 : decode cX2_mostAsked 77 = .ok (.goto 4, 3) := dk_167 0 4 (dk_at dksX2_mostAsked_3 7 rfl rfl)
theorem dX2_mostAsked_80 : decode cX2_mostAsked 80 = .ok (.iconst 0, 1) := dk_3 (dk_at dksX2_mostAsked_3 10 rfl rfl)
theorem dX2_mostAsked_81 : decode cX2_mostAsked 81 = .ok (.iconst 2, 1) := dk_5 (dk_at dksX2_mostAsked_3 11 rfl rfl)
theorem dX2_mostAsked_82 : decode cX2_mostAsked 82 = .ok (.invokevirtual 104, 3) := dk_182 0 104 (dk_at dksX2_mostAsked_3 12 rfl rfl)
theorem dX2_mostAsked_85 : decode cX2_mostAsked 85 = .ok (.ifCond .eq 7, 3) := dk_153 0 7 (dk_at dksX2_mostAsked_3 15 rfl rfl)
theorem dX2_mostAsked_88 : decode cX2_mostAsked 88 = .ok (.iconst 0, 1) := dk_3 (dk_at dksX2_mostAsked_3 18 rfl rfl)
theorem dX2_mostAsked_89 : decode cX2_mostAsked 89 = .ok (.goto 4, 3) := dk_167 0 4 (dk_at dksX2_mostAsked_3 19 rfl rfl)
theorem dX2_mostAsked_92 : decode cX2_mostAsked 92 = .ok (.iload_n 2, 1) := dk_28 (dk_at dksX2_mostAsked_3 22 rfl rfl)
theorem dX2_mostAsked_93 : decode cX2_mostAsked 93 = .ok (.ireturn, 1) := dk_172 (dk_at dksX2_mostAsked_3 23 rfl rfl)
abbrev cX2_least : ByteArray := prog_9_method_42_code
def yX2_least : MethodName := ⟨RX2, "least", "(I)I"⟩
def dkwX2_least_4 : List UInt8 := [155, 0, 7, 4, 167, 0, 4, 3, 5, 182, 0, 104, 153, 0, 7, 3, 167, 0, 4, 28, 172]
abbrev dktX2_least_4 : List UInt8 := dkwX2_least_4 ++ []
def dkwX2_least_3 : List UInt8 := [27, 104, 28, 96, 46, 163, 0, 7, 29, 167, 0, 4, 28, 61, 132, 3, 255, 167, 255, 188, 42, 28]
abbrev dktX2_least_3 : List UInt8 := dkwX2_least_3 ++ dktX2_least_4
def dkwX2_least_2 : List UInt8 := [153, 0, 36, 28, 155, 0, 28, 42, 180, 0, 68, 16, 10, 27, 104, 29, 96, 46, 42, 180, 0, 68, 16, 10]
abbrev dktX2_least_2 : List UInt8 := dkwX2_least_2 ++ dktX2_least_3
def dkwX2_least_1 : List UInt8 := [42, 180, 0, 65, 16, 10, 27, 104, 29, 96, 46, 158, 0, 7, 4, 167, 0, 4, 3, 54, 4, 21, 4]
abbrev dktX2_least_1 : List UInt8 := dkwX2_least_1 ++ dktX2_least_2
def dkwX2_least_0 : List UInt8 := [42, 42, 27, 182, 0, 100, 4, 182, 0, 104, 153, 0, 5, 3, 172, 2, 61, 16, 9, 62, 29, 155, 0, 70]
abbrev dktX2_least_0 : List UInt8 := dkwX2_least_0 ++ dktX2_least_1
theorem dksX2_least_0 : cX2_least.data.toList.drop 0 = dktX2_least_0 := by decide +kernel
theorem dksX2_least_1 : cX2_least.data.toList.drop 24 = dktX2_least_1 := dk_seg dksX2_least_0 24 rfl rfl
theorem dksX2_least_2 : cX2_least.data.toList.drop 47 = dktX2_least_2 := dk_seg dksX2_least_1 23 rfl rfl
theorem dksX2_least_3 : cX2_least.data.toList.drop 71 = dktX2_least_3 := dk_seg dksX2_least_2 24 rfl rfl
theorem dksX2_least_4 : cX2_least.data.toList.drop 93 = dktX2_least_4 := dk_seg dksX2_least_3 22 rfl rfl
theorem dX2_least_0 : decode cX2_least 0 = .ok (.aload_n 0, 1) := dk_42 (dk_at dksX2_least_0 0 rfl rfl)
theorem dX2_least_1 : decode cX2_least 1 = .ok (.aload_n 0, 1) := dk_42 (dk_at dksX2_least_0 1 rfl rfl)
theorem dX2_least_2 : decode cX2_least 2 = .ok (.iload_n 1, 1) := dk_27 (dk_at dksX2_least_0 2 rfl rfl)
theorem dX2_least_3 : decode cX2_least 3 = .ok (.invokevirtual 100, 3) := dk_182 0 100 (dk_at dksX2_least_0 3 rfl rfl)
theorem dX2_least_6 : decode cX2_least 6 = .ok (.iconst 1, 1) := dk_4 (dk_at dksX2_least_0 6 rfl rfl)
theorem dX2_least_7 : decode cX2_least 7 = .ok (.invokevirtual 104, 3) := dk_182 0 104 (dk_at dksX2_least_0 7 rfl rfl)
theorem dX2_least_10 : decode cX2_least 10 = .ok (.ifCond .eq 5, 3) := dk_153 0 5 (dk_at dksX2_least_0 10 rfl rfl)
theorem dX2_least_13 : decode cX2_least 13 = .ok (.iconst 0, 1) := dk_3 (dk_at dksX2_least_0 13 rfl rfl)
theorem dX2_least_14 : decode cX2_least 14 = .ok (.ireturn, 1) := dk_172 (dk_at dksX2_least_0 14 rfl rfl)
theorem dX2_least_15 : decode cX2_least 15 = .ok (.iconst (-1), 1) := dk_2 (dk_at dksX2_least_0 15 rfl rfl)
theorem dX2_least_16 : decode cX2_least 16 = .ok (.istore_n 2, 1) := dk_61 (dk_at dksX2_least_0 16 rfl rfl)
theorem dX2_least_17 : decode cX2_least 17 = .ok (.bipush 9, 2) := dk_16 9 (dk_at dksX2_least_0 17 rfl rfl)
theorem dX2_least_19 : decode cX2_least 19 = .ok (.istore_n 3, 1) := dk_62 (dk_at dksX2_least_0 19 rfl rfl)
theorem dX2_least_20 : decode cX2_least 20 = .ok (.iload_n 3, 1) := dk_29 (dk_at dksX2_least_0 20 rfl rfl)
theorem dX2_least_21 : decode cX2_least 21 = .ok (.ifCond .lt 70, 3) := dk_155 0 70 (dk_at dksX2_least_0 21 rfl rfl)
theorem dX2_least_24 : decode cX2_least 24 = .ok (.aload_n 0, 1) := dk_42 (dk_at dksX2_least_1 0 rfl rfl)
theorem dX2_least_25 : decode cX2_least 25 = .ok (.getfield 65, 3) := dk_180 0 65 (dk_at dksX2_least_1 1 rfl rfl)
theorem dX2_least_28 : decode cX2_least 28 = .ok (.bipush 10, 2) := dk_16 10 (dk_at dksX2_least_1 4 rfl rfl)
theorem dX2_least_30 : decode cX2_least 30 = .ok (.iload_n 1, 1) := dk_27 (dk_at dksX2_least_1 6 rfl rfl)
theorem dX2_least_31 : decode cX2_least 31 = .ok (.imul, 1) := dk_104 (dk_at dksX2_least_1 7 rfl rfl)
theorem dX2_least_32 : decode cX2_least 32 = .ok (.iload_n 3, 1) := dk_29 (dk_at dksX2_least_1 8 rfl rfl)
theorem dX2_least_33 : decode cX2_least 33 = .ok (.iadd, 1) := dk_96 (dk_at dksX2_least_1 9 rfl rfl)
theorem dX2_least_34 : decode cX2_least 34 = .ok (.iaload, 1) := dk_46 (dk_at dksX2_least_1 10 rfl rfl)
theorem dX2_least_35 : decode cX2_least 35 = .ok (.ifCond .le 7, 3) := dk_158 0 7 (dk_at dksX2_least_1 11 rfl rfl)
theorem dX2_least_38 : decode cX2_least 38 = .ok (.iconst 1, 1) := dk_4 (dk_at dksX2_least_1 14 rfl rfl)
theorem dX2_least_39 : decode cX2_least 39 = .ok (.goto 4, 3) := dk_167 0 4 (dk_at dksX2_least_1 15 rfl rfl)
theorem dX2_least_42 : decode cX2_least 42 = .ok (.iconst 0, 1) := dk_3 (dk_at dksX2_least_1 18 rfl rfl)
theorem dX2_least_43 : decode cX2_least 43 = .ok (.istore 4, 2) := dk_54 4 (dk_at dksX2_least_1 19 rfl rfl)
theorem dX2_least_45 : decode cX2_least 45 = .ok (.iload 4, 2) := dk_21 4 (dk_at dksX2_least_1 21 rfl rfl)
theorem dX2_least_47 : decode cX2_least 47 = .ok (.ifCond .eq 36, 3) := dk_153 0 36 (dk_at dksX2_least_2 0 rfl rfl)
theorem dX2_least_50 : decode cX2_least 50 = .ok (.iload_n 2, 1) := dk_28 (dk_at dksX2_least_2 3 rfl rfl)
theorem dX2_least_51 : decode cX2_least 51 = .ok (.ifCond .lt 28, 3) := dk_155 0 28 (dk_at dksX2_least_2 4 rfl rfl)
theorem dX2_least_54 : decode cX2_least 54 = .ok (.aload_n 0, 1) := dk_42 (dk_at dksX2_least_2 7 rfl rfl)
theorem dX2_least_55 : decode cX2_least 55 = .ok (.getfield 68, 3) := dk_180 0 68 (dk_at dksX2_least_2 8 rfl rfl)
theorem dX2_least_58 : decode cX2_least 58 = .ok (.bipush 10, 2) := dk_16 10 (dk_at dksX2_least_2 11 rfl rfl)
theorem dX2_least_60 : decode cX2_least 60 = .ok (.iload_n 1, 1) := dk_27 (dk_at dksX2_least_2 13 rfl rfl)
theorem dX2_least_61 : decode cX2_least 61 = .ok (.imul, 1) := dk_104 (dk_at dksX2_least_2 14 rfl rfl)
theorem dX2_least_62 : decode cX2_least 62 = .ok (.iload_n 3, 1) := dk_29 (dk_at dksX2_least_2 15 rfl rfl)
theorem dX2_least_63 : decode cX2_least 63 = .ok (.iadd, 1) := dk_96 (dk_at dksX2_least_2 16 rfl rfl)
theorem dX2_least_64 : decode cX2_least 64 = .ok (.iaload, 1) := dk_46 (dk_at dksX2_least_2 17 rfl rfl)
theorem dX2_least_65 : decode cX2_least 65 = .ok (.aload_n 0, 1) := dk_42 (dk_at dksX2_least_2 18 rfl rfl)
theorem dX2_least_66 : decode cX2_least 66 = .ok (.getfield 68, 3) := dk_180 0 68 (dk_at dksX2_least_2 19 rfl rfl)
theorem dX2_least_69 : decode cX2_least 69 = .ok (.bipush 10, 2) := dk_16 10 (dk_at dksX2_least_2 22 rfl rfl)
theorem dX2_least_71 : decode cX2_least 71 = .ok (.iload_n 1, 1) := dk_27 (dk_at dksX2_least_3 0 rfl rfl)
theorem dX2_least_72 : decode cX2_least 72 = .ok (.imul, 1) := dk_104 (dk_at dksX2_least_3 1 rfl rfl)
theorem dX2_least_73 : decode cX2_least 73 = .ok (.iload_n 2, 1) := dk_28 (dk_at dksX2_least_3 2 rfl rfl)
theorem dX2_least_74 : decode cX2_least 74 = .ok (.iadd, 1) := dk_96 (dk_at dksX2_least_3 3 rfl rfl)
theorem dX2_least_75 : decode cX2_least 75 = .ok (.iaload, 1) := dk_46 (dk_at dksX2_least_3 4 rfl rfl)
theorem dX2_least_76 : decode cX2_least 76 = .ok (.if_icmp .gt 7, 3) := dk_163 0 7 (dk_at dksX2_least_3 5 rfl rfl)
theorem dX2_least_79 : decode cX2_least 79 = .ok (.iload_n 3, 1) := dk_29 (dk_at dksX2_least_3 8 rfl rfl)
theorem dX2_least_80 : decode cX2_least 80 = .ok (.goto 4, 3) := dk_167 0 4 (dk_at dksX2_least_3 9 rfl rfl)
theorem dX2_least_83 : decode cX2_least 83 = .ok (.iload_n 2, 1) := dk_28 (dk_at dksX2_least_3 12 rfl rfl)
theorem dX2_least_84 : decode cX2_least 84 = .ok (.istore_n 2, 1) := dk_61 (dk_at dksX2_least_3 13 rfl rfl)
theorem dX2_least_85 : decode cX2_least 85 = .ok (.iinc 3 (-1), 3) := dk_132 3 255 (dk_at dksX2_least_3 14 rfl rfl)
theorem dX2_least_88 : decode cX2_least 88 = .ok (.goto (-68), 3) := dk_167 255 188 (dk_at dksX2_least_3 17 rfl rfl)
theorem dX2_least_91 : decode cX2_least 91 = .ok (.aload_n 0, 1) := dk_42 (dk_at dksX2_least_3 20 rfl rfl)
theorem dX2_least_92 : decode cX2_least 92 = .ok (.iload_n 2, 1) := dk_28 (dk_at dksX2_least_3 21 rfl rfl)
theorem dX2_least_93 : decode cX2_least 93 = .ok (.ifCond .lt 7, 3) := dk_155 0 7 (dk_at dksX2_least_4 0 rfl rfl)
theorem dX2_least_96 : decode cX2_least 96 = .ok (.iconst 1, 1) := dk_4 (dk_at dksX2_least_4 3 rfl rfl)
theorem dX2_least_97 : decode cX2_least 97 = .ok (.goto 4, 3) := dk_167 0 4 (dk_at dksX2_least_4 4 rfl rfl)
theorem dX2_least_100 : decode cX2_least 100 = .ok (.iconst 0, 1) := dk_3 (dk_at dksX2_least_4 7 rfl rfl)
theorem dX2_least_101 : decode cX2_least 101 = .ok (.iconst 2, 1) := dk_5 (dk_at dksX2_least_4 8 rfl rfl)
theorem dX2_least_102 : decode cX2_least 102 = .ok (.invokevirtual 104, 3) := dk_182 0 104 (dk_at dksX2_least_4 9 rfl rfl)
theorem dX2_least_105 : decode cX2_least 105 = .ok (.ifCond .eq 7, 3) := dk_153 0 7 (dk_at dksX2_least_4 12 rfl rfl)
theorem dX2_least_108 : decode cX2_least 108 = .ok (.iconst 0, 1) := dk_3 (dk_at dksX2_least_4 15 rfl rfl)
theorem dX2_least_109 : decode cX2_least 109 = .ok (.goto 4, 3) := dk_167 0 4 (dk_at dksX2_least_4 16 rfl rfl)
theorem dX2_least_112 : decode cX2_least 112 = .ok (.iload_n 2, 1) := dk_28 (dk_at dksX2_least_4 19 rfl rfl)
theorem dX2_least_113 : decode cX2_least 113 = .ok (.ireturn, 1) := dk_172 (dk_at dksX2_least_4 20 rfl rfl)
abbrev cX2_worth : ByteArray := prog_9_method_43_code
def yX2_worth : MethodName := ⟨RX2, "worth", "(III)I"⟩
def dkwX2_worth_2 : List UInt8 := [182, 0, 112, 42, 16, 10, 27, 104, 28, 96, 182, 0, 131, 100, 172]
abbrev dktX2_worth_2 : List UInt8 := dkwX2_worth_2 ++ []
def dkwX2_worth_1 : List UInt8 := [182, 0, 104, 154, 0, 16, 42, 42, 29, 182, 0, 138, 5, 182, 0, 104, 153, 0, 5, 3, 172, 42, 27, 29]
abbrev dktX2_worth_1 : List UInt8 := dkwX2_worth_1 ++ dktX2_worth_2
def dkwX2_worth_0 : List UInt8 := [42, 42, 27, 28, 182, 0, 116, 153, 0, 15, 42, 29, 182, 0, 128, 153, 0, 7, 4, 167, 0, 4, 3, 4]
abbrev dktX2_worth_0 : List UInt8 := dkwX2_worth_0 ++ dktX2_worth_1
theorem dksX2_worth_0 : cX2_worth.data.toList.drop 0 = dktX2_worth_0 := by decide +kernel
theorem dksX2_worth_1 : cX2_worth.data.toList.drop 24 = dktX2_worth_1 := dk_seg dksX2_worth_0 24 rfl rfl
theorem dksX2_worth_2 : cX2_worth.data.toList.drop 48 = dktX2_worth_2 := dk_seg dksX2_worth_1 24 rfl rfl
theorem dX2_worth_0 : decode cX2_worth 0 = .ok (.aload_n 0, 1) := dk_42 (dk_at dksX2_worth_0 0 rfl rfl)
theorem dX2_worth_1 : decode cX2_worth 1 = .ok (.aload_n 0, 1) := dk_42 (dk_at dksX2_worth_0 1 rfl rfl)
theorem dX2_worth_2 : decode cX2_worth 2 = .ok (.iload_n 1, 1) := dk_27 (dk_at dksX2_worth_0 2 rfl rfl)
theorem dX2_worth_3 : decode cX2_worth 3 = .ok (.iload_n 2, 1) := dk_28 (dk_at dksX2_worth_0 3 rfl rfl)
theorem dX2_worth_4 : decode cX2_worth 4 = .ok (.invokevirtual 116, 3) := dk_182 0 116 (dk_at dksX2_worth_0 4 rfl rfl)
theorem dX2_worth_7 : decode cX2_worth 7 = .ok (.ifCond .eq 15, 3) := dk_153 0 15 (dk_at dksX2_worth_0 7 rfl rfl)
theorem dX2_worth_10 : decode cX2_worth 10 = .ok (.aload_n 0, 1) := dk_42 (dk_at dksX2_worth_0 10 rfl rfl)
theorem dX2_worth_11 : decode cX2_worth 11 = .ok (.iload_n 3, 1) := dk_29 (dk_at dksX2_worth_0 11 rfl rfl)
theorem dX2_worth_12 : decode cX2_worth 12 = .ok (.invokevirtual 128, 3) := dk_182 0 128 (dk_at dksX2_worth_0 12 rfl rfl)
theorem dX2_worth_15 : decode cX2_worth 15 = .ok (.ifCond .eq 7, 3) := dk_153 0 7 (dk_at dksX2_worth_0 15 rfl rfl)
theorem dX2_worth_18 : decode cX2_worth 18 = .ok (.iconst 1, 1) := dk_4 (dk_at dksX2_worth_0 18 rfl rfl)
theorem dX2_worth_19 : decode cX2_worth 19 = .ok (.goto 4, 3) := dk_167 0 4 (dk_at dksX2_worth_0 19 rfl rfl)
theorem dX2_worth_22 : decode cX2_worth 22 = .ok (.iconst 0, 1) := dk_3 (dk_at dksX2_worth_0 22 rfl rfl)
theorem dX2_worth_23 : decode cX2_worth 23 = .ok (.iconst 1, 1) := dk_4 (dk_at dksX2_worth_0 23 rfl rfl)
theorem dX2_worth_24 : decode cX2_worth 24 = .ok (.invokevirtual 104, 3) := dk_182 0 104 (dk_at dksX2_worth_1 0 rfl rfl)
theorem dX2_worth_27 : decode cX2_worth 27 = .ok (.ifCond .ne 16, 3) := dk_154 0 16 (dk_at dksX2_worth_1 3 rfl rfl)
theorem dX2_worth_30 : decode cX2_worth 30 = .ok (.aload_n 0, 1) := dk_42 (dk_at dksX2_worth_1 6 rfl rfl)
theorem dX2_worth_31 : decode cX2_worth 31 = .ok (.aload_n 0, 1) := dk_42 (dk_at dksX2_worth_1 7 rfl rfl)
theorem dX2_worth_32 : decode cX2_worth 32 = .ok (.iload_n 3, 1) := dk_29 (dk_at dksX2_worth_1 8 rfl rfl)
theorem dX2_worth_33 : decode cX2_worth 33 = .ok (.invokevirtual 138, 3) := dk_182 0 138 (dk_at dksX2_worth_1 9 rfl rfl)
theorem dX2_worth_36 : decode cX2_worth 36 = .ok (.iconst 2, 1) := dk_5 (dk_at dksX2_worth_1 12 rfl rfl)
theorem dX2_worth_37 : decode cX2_worth 37 = .ok (.invokevirtual 104, 3) := dk_182 0 104 (dk_at dksX2_worth_1 13 rfl rfl)
theorem dX2_worth_40 : decode cX2_worth 40 = .ok (.ifCond .eq 5, 3) := dk_153 0 5 (dk_at dksX2_worth_1 16 rfl rfl)
theorem dX2_worth_43 : decode cX2_worth 43 = .ok (.iconst 0, 1) := dk_3 (dk_at dksX2_worth_1 19 rfl rfl)
theorem dX2_worth_44 : decode cX2_worth 44 = .ok (.ireturn, 1) := dk_172 (dk_at dksX2_worth_1 20 rfl rfl)
theorem dX2_worth_45 : decode cX2_worth 45 = .ok (.aload_n 0, 1) := dk_42 (dk_at dksX2_worth_1 21 rfl rfl)
theorem dX2_worth_46 : decode cX2_worth 46 = .ok (.iload_n 1, 1) := dk_27 (dk_at dksX2_worth_1 22 rfl rfl)
theorem dX2_worth_47 : decode cX2_worth 47 = .ok (.iload_n 3, 1) := dk_29 (dk_at dksX2_worth_1 23 rfl rfl)
theorem dX2_worth_48 : decode cX2_worth 48 = .ok (.invokevirtual 112, 3) := dk_182 0 112 (dk_at dksX2_worth_2 0 rfl rfl)
theorem dX2_worth_51 : decode cX2_worth 51 = .ok (.aload_n 0, 1) := dk_42 (dk_at dksX2_worth_2 3 rfl rfl)
theorem dX2_worth_52 : decode cX2_worth 52 = .ok (.bipush 10, 2) := dk_16 10 (dk_at dksX2_worth_2 4 rfl rfl)
theorem dX2_worth_54 : decode cX2_worth 54 = .ok (.iload_n 1, 1) := dk_27 (dk_at dksX2_worth_2 6 rfl rfl)
theorem dX2_worth_55 : decode cX2_worth 55 = .ok (.imul, 1) := dk_104 (dk_at dksX2_worth_2 7 rfl rfl)
theorem dX2_worth_56 : decode cX2_worth 56 = .ok (.iload_n 2, 1) := dk_28 (dk_at dksX2_worth_2 8 rfl rfl)
theorem dX2_worth_57 : decode cX2_worth 57 = .ok (.iadd, 1) := dk_96 (dk_at dksX2_worth_2 9 rfl rfl)
theorem dX2_worth_58 : decode cX2_worth 58 = .ok (.invokevirtual 131, 3) := dk_182 0 131 (dk_at dksX2_worth_2 10 rfl rfl)
theorem dX2_worth_61 : decode cX2_worth 61 = .ok (.isub, 1) := dk_100 (dk_at dksX2_worth_2 13 rfl rfl)
theorem dX2_worth_62 : decode cX2_worth 62 = .ok (.ireturn, 1) := dk_172 (dk_at dksX2_worth_2 14 rfl rfl)
abbrev cX2_bestWorth : ByteArray := prog_9_method_46_code
def yX2_bestWorth : MethodName := ⟨RX2, "bestWorth", "(II)I"⟩
def dkwX2_bestWorth_6 : List UInt8 := [132, 4, 1, 167, 255, 177, 29, 172]
abbrev dktX2_bestWorth_6 : List UInt8 := dkwX2_bestWorth_6 ++ []
def dkwX2_bestWorth_5 : List UInt8 := [21, 7, 167, 0, 4, 3, 96, 62, 42, 180, 0, 74, 21, 5, 4, 84, 42, 180, 0, 77, 21, 6, 4, 84]
abbrev dktX2_bestWorth_5 : List UInt8 := dkwX2_bestWorth_5 ++ dktX2_bestWorth_6
def dkwX2_bestWorth_4 : List UInt8 := [182, 0, 112, 42, 16, 10, 27, 104, 21, 6, 96, 182, 0, 131, 100, 54, 7, 29, 21, 7, 158, 0, 8]
abbrev dktX2_bestWorth_4 : List UInt8 := dkwX2_bestWorth_4 ++ dktX2_bestWorth_5
def dkwX2_bestWorth_3 : List UInt8 := [27, 182, 0, 141, 54, 5, 42, 27, 182, 0, 144, 54, 6, 21, 5, 155, 0, 54, 42, 27, 21, 5]
abbrev dktX2_bestWorth_3 : List UInt8 := dkwX2_bestWorth_3 ++ dktX2_bestWorth_4
def dkwX2_bestWorth_2 : List UInt8 := [29, 16, 10, 112, 3, 84, 132, 3, 1, 167, 255, 230, 3, 62, 3, 54, 4, 21, 4, 28, 162, 0, 79, 42]
abbrev dktX2_bestWorth_2 : List UInt8 := dkwX2_bestWorth_2 ++ dktX2_bestWorth_3
def dkwX2_bestWorth_1 : List UInt8 := [153, 0, 5, 3, 172, 3, 62, 29, 16, 30, 162, 0, 26, 42, 180, 0, 74, 29, 3, 84, 42, 180, 0, 77]
abbrev dktX2_bestWorth_1 : List UInt8 := dkwX2_bestWorth_1 ++ dktX2_bestWorth_2
def dkwX2_bestWorth_0 : List UInt8 := [42, 42, 27, 182, 0, 100, 4, 182, 0, 104, 154, 0, 17, 42, 28, 3, 6, 184, 0, 93, 5, 182, 0, 104]
abbrev dktX2_bestWorth_0 : List UInt8 := dkwX2_bestWorth_0 ++ dktX2_bestWorth_1
theorem dksX2_bestWorth_0 : cX2_bestWorth.data.toList.drop 0 = dktX2_bestWorth_0 := by decide +kernel
theorem dksX2_bestWorth_1 : cX2_bestWorth.data.toList.drop 24 = dktX2_bestWorth_1 := dk_seg dksX2_bestWorth_0 24 rfl rfl
theorem dksX2_bestWorth_2 : cX2_bestWorth.data.toList.drop 48 = dktX2_bestWorth_2 := dk_seg dksX2_bestWorth_1 24 rfl rfl
theorem dksX2_bestWorth_3 : cX2_bestWorth.data.toList.drop 72 = dktX2_bestWorth_3 := dk_seg dksX2_bestWorth_2 24 rfl rfl
theorem dksX2_bestWorth_4 : cX2_bestWorth.data.toList.drop 94 = dktX2_bestWorth_4 := dk_seg dksX2_bestWorth_3 22 rfl rfl
theorem dksX2_bestWorth_5 : cX2_bestWorth.data.toList.drop 117 = dktX2_bestWorth_5 := dk_seg dksX2_bestWorth_4 23 rfl rfl
theorem dksX2_bestWorth_6 : cX2_bestWorth.data.toList.drop 141 = dktX2_bestWorth_6 := dk_seg dksX2_bestWorth_5 24 rfl rfl
theorem dX2_bestWorth_0 : decode cX2_bestWorth 0 = .ok (.aload_n 0, 1) := dk_42 (dk_at dksX2_bestWorth_0 0 rfl rfl)
theorem dX2_bestWorth_1 : decode cX2_bestWorth 1 = .ok (.aload_n 0, 1) := dk_42 (dk_at dksX2_bestWorth_0 1 rfl rfl)
theorem dX2_bestWorth_2 : decode cX2_bestWorth 2 = .ok (.iload_n 1, 1) := dk_27 (dk_at dksX2_bestWorth_0 2 rfl rfl)
theorem dX2_bestWorth_3 : decode cX2_bestWorth 3 = .ok (.invokevirtual 100, 3) := dk_182 0 100 (dk_at dksX2_bestWorth_0 3 rfl rfl)
theorem dX2_bestWorth_6 : decode cX2_bestWorth 6 = .ok (.iconst 1, 1) := dk_4 (dk_at dksX2_bestWorth_0 6 rfl rfl)
theorem dX2_bestWorth_7 : decode cX2_bestWorth 7 = .ok (.invokevirtual 104, 3) := dk_182 0 104 (dk_at dksX2_bestWorth_0 7 rfl rfl)
theorem dX2_bestWorth_10 : decode cX2_bestWorth 10 = .ok (.ifCond .ne 17, 3) := dk_154 0 17 (dk_at dksX2_bestWorth_0 10 rfl rfl)
theorem dX2_bestWorth_13 : decode cX2_bestWorth 13 = .ok (.aload_n 0, 1) := dk_42 (dk_at dksX2_bestWorth_0 13 rfl rfl)
theorem dX2_bestWorth_14 : decode cX2_bestWorth 14 = .ok (.iload_n 2, 1) := dk_28 (dk_at dksX2_bestWorth_0 14 rfl rfl)
theorem dX2_bestWorth_15 : decode cX2_bestWorth 15 = .ok (.iconst 0, 1) := dk_3 (dk_at dksX2_bestWorth_0 15 rfl rfl)
theorem dX2_bestWorth_16 : decode cX2_bestWorth 16 = .ok (.iconst 3, 1) := dk_6 (dk_at dksX2_bestWorth_0 16 rfl rfl)
theorem dX2_bestWorth_17 : decode cX2_bestWorth 17 = .ok (.invokestatic 93, 3) := dk_184 0 93 (dk_at dksX2_bestWorth_0 17 rfl rfl)
theorem dX2_bestWorth_20 : decode cX2_bestWorth 20 = .ok (.iconst 2, 1) := dk_5 (dk_at dksX2_bestWorth_0 20 rfl rfl)
theorem dX2_bestWorth_21 : decode cX2_bestWorth 21 = .ok (.invokevirtual 104, 3) := dk_182 0 104 (dk_at dksX2_bestWorth_0 21 rfl rfl)
theorem dX2_bestWorth_24 : decode cX2_bestWorth 24 = .ok (.ifCond .eq 5, 3) := dk_153 0 5 (dk_at dksX2_bestWorth_1 0 rfl rfl)
theorem dX2_bestWorth_27 : decode cX2_bestWorth 27 = .ok (.iconst 0, 1) := dk_3 (dk_at dksX2_bestWorth_1 3 rfl rfl)
theorem dX2_bestWorth_28 : decode cX2_bestWorth 28 = .ok (.ireturn, 1) := dk_172 (dk_at dksX2_bestWorth_1 4 rfl rfl)
theorem dX2_bestWorth_29 : decode cX2_bestWorth 29 = .ok (.iconst 0, 1) := dk_3 (dk_at dksX2_bestWorth_1 5 rfl rfl)
theorem dX2_bestWorth_30 : decode cX2_bestWorth 30 = .ok (.istore_n 3, 1) := dk_62 (dk_at dksX2_bestWorth_1 6 rfl rfl)
theorem dX2_bestWorth_31 : decode cX2_bestWorth 31 = .ok (.iload_n 3, 1) := dk_29 (dk_at dksX2_bestWorth_1 7 rfl rfl)
theorem dX2_bestWorth_32 : decode cX2_bestWorth 32 = .ok (.bipush 30, 2) := dk_16 30 (dk_at dksX2_bestWorth_1 8 rfl rfl)
theorem dX2_bestWorth_34 : decode cX2_bestWorth 34 = .ok (.if_icmp .ge 26, 3) := dk_162 0 26 (dk_at dksX2_bestWorth_1 10 rfl rfl)
theorem dX2_bestWorth_37 : decode cX2_bestWorth 37 = .ok (.aload_n 0, 1) := dk_42 (dk_at dksX2_bestWorth_1 13 rfl rfl)
theorem dX2_bestWorth_38 : decode cX2_bestWorth 38 = .ok (.getfield 74, 3) := dk_180 0 74 (dk_at dksX2_bestWorth_1 14 rfl rfl)
theorem dX2_bestWorth_41 : decode cX2_bestWorth 41 = .ok (.iload_n 3, 1) := dk_29 (dk_at dksX2_bestWorth_1 17 rfl rfl)
theorem dX2_bestWorth_42 : decode cX2_bestWorth 42 = .ok (.iconst 0, 1) := dk_3 (dk_at dksX2_bestWorth_1 18 rfl rfl)
theorem dX2_bestWorth_43 : decode cX2_bestWorth 43 = .ok (.bastore, 1) := dk_84 (dk_at dksX2_bestWorth_1 19 rfl rfl)
theorem dX2_bestWorth_44 : decode cX2_bestWorth 44 = .ok (.aload_n 0, 1) := dk_42 (dk_at dksX2_bestWorth_1 20 rfl rfl)
theorem dX2_bestWorth_45 : decode cX2_bestWorth 45 = .ok (.getfield 77, 3) := dk_180 0 77 (dk_at dksX2_bestWorth_1 21 rfl rfl)
theorem dX2_bestWorth_48 : decode cX2_bestWorth 48 = .ok (.iload_n 3, 1) := dk_29 (dk_at dksX2_bestWorth_2 0 rfl rfl)
theorem dX2_bestWorth_49 : decode cX2_bestWorth 49 = .ok (.bipush 10, 2) := dk_16 10 (dk_at dksX2_bestWorth_2 1 rfl rfl)
theorem dX2_bestWorth_51 : decode cX2_bestWorth 51 = .ok (.irem, 1) := dk_112 (dk_at dksX2_bestWorth_2 3 rfl rfl)
theorem dX2_bestWorth_52 : decode cX2_bestWorth 52 = .ok (.iconst 0, 1) := dk_3 (dk_at dksX2_bestWorth_2 4 rfl rfl)
theorem dX2_bestWorth_53 : decode cX2_bestWorth 53 = .ok (.bastore, 1) := dk_84 (dk_at dksX2_bestWorth_2 5 rfl rfl)
theorem dX2_bestWorth_54 : decode cX2_bestWorth 54 = .ok (.iinc 3 1, 3) := dk_132 3 1 (dk_at dksX2_bestWorth_2 6 rfl rfl)
theorem dX2_bestWorth_57 : decode cX2_bestWorth 57 = .ok (.goto (-26), 3) := dk_167 255 230 (dk_at dksX2_bestWorth_2 9 rfl rfl)
theorem dX2_bestWorth_60 : decode cX2_bestWorth 60 = .ok (.iconst 0, 1) := dk_3 (dk_at dksX2_bestWorth_2 12 rfl rfl)
theorem dX2_bestWorth_61 : decode cX2_bestWorth 61 = .ok (.istore_n 3, 1) := dk_62 (dk_at dksX2_bestWorth_2 13 rfl rfl)
theorem dX2_bestWorth_62 : decode cX2_bestWorth 62 = .ok (.iconst 0, 1) := dk_3 (dk_at dksX2_bestWorth_2 14 rfl rfl)
theorem dX2_bestWorth_63 : decode cX2_bestWorth 63 = .ok (.istore 4, 2) := dk_54 4 (dk_at dksX2_bestWorth_2 15 rfl rfl)
theorem dX2_bestWorth_65 : decode cX2_bestWorth 65 = .ok (.iload 4, 2) := dk_21 4 (dk_at dksX2_bestWorth_2 17 rfl rfl)
theorem dX2_bestWorth_67 : decode cX2_bestWorth 67 = .ok (.iload_n 2, 1) := dk_28 (dk_at dksX2_bestWorth_2 19 rfl rfl)
theorem dX2_bestWorth_68 : decode cX2_bestWorth 68 = .ok (.if_icmp .ge 79, 3) := dk_162 0 79 (dk_at dksX2_bestWorth_2 20 rfl rfl)
theorem dX2_bestWorth_71 : decode cX2_bestWorth 71 = .ok (.aload_n 0, 1) := dk_42 (dk_at dksX2_bestWorth_2 23 rfl rfl)
theorem dX2_bestWorth_72 : decode cX2_bestWorth 72 = .ok (.iload_n 1, 1) := dk_27 (dk_at dksX2_bestWorth_3 0 rfl rfl)
theorem dX2_bestWorth_73 : decode cX2_bestWorth 73 = .ok (.invokevirtual 141, 3) := dk_182 0 141 (dk_at dksX2_bestWorth_3 1 rfl rfl)
theorem dX2_bestWorth_76 : decode cX2_bestWorth 76 = .ok (.istore 5, 2) := dk_54 5 (dk_at dksX2_bestWorth_3 4 rfl rfl)
theorem dX2_bestWorth_78 : decode cX2_bestWorth 78 = .ok (.aload_n 0, 1) := dk_42 (dk_at dksX2_bestWorth_3 6 rfl rfl)
theorem dX2_bestWorth_79 : decode cX2_bestWorth 79 = .ok (.iload_n 1, 1) := dk_27 (dk_at dksX2_bestWorth_3 7 rfl rfl)
theorem dX2_bestWorth_80 : decode cX2_bestWorth 80 = .ok (.invokevirtual 144, 3) := dk_182 0 144 (dk_at dksX2_bestWorth_3 8 rfl rfl)
theorem dX2_bestWorth_83 : decode cX2_bestWorth 83 = .ok (.istore 6, 2) := dk_54 6 (dk_at dksX2_bestWorth_3 11 rfl rfl)
theorem dX2_bestWorth_85 : decode cX2_bestWorth 85 = .ok (.iload 5, 2) := dk_21 5 (dk_at dksX2_bestWorth_3 13 rfl rfl)
theorem dX2_bestWorth_87 : decode cX2_bestWorth 87 = .ok (.ifCond .lt 54, 3) := dk_155 0 54 (dk_at dksX2_bestWorth_3 15 rfl rfl)
theorem dX2_bestWorth_90 : decode cX2_bestWorth 90 = .ok (.aload_n 0, 1) := dk_42 (dk_at dksX2_bestWorth_3 18 rfl rfl)
theorem dX2_bestWorth_91 : decode cX2_bestWorth 91 = .ok (.iload_n 1, 1) := dk_27 (dk_at dksX2_bestWorth_3 19 rfl rfl)
theorem dX2_bestWorth_92 : decode cX2_bestWorth 92 = .ok (.iload 5, 2) := dk_21 5 (dk_at dksX2_bestWorth_3 20 rfl rfl)
theorem dX2_bestWorth_94 : decode cX2_bestWorth 94 = .ok (.invokevirtual 112, 3) := dk_182 0 112 (dk_at dksX2_bestWorth_4 0 rfl rfl)
theorem dX2_bestWorth_97 : decode cX2_bestWorth 97 = .ok (.aload_n 0, 1) := dk_42 (dk_at dksX2_bestWorth_4 3 rfl rfl)
theorem dX2_bestWorth_98 : decode cX2_bestWorth 98 = .ok (.bipush 10, 2) := dk_16 10 (dk_at dksX2_bestWorth_4 4 rfl rfl)
theorem dX2_bestWorth_100 : decode cX2_bestWorth 100 = .ok (.iload_n 1, 1) := dk_27 (dk_at dksX2_bestWorth_4 6 rfl rfl)
theorem dX2_bestWorth_101 : decode cX2_bestWorth 101 = .ok (.imul, 1) := dk_104 (dk_at dksX2_bestWorth_4 7 rfl rfl)
theorem dX2_bestWorth_102 : decode cX2_bestWorth 102 = .ok (.iload 6, 2) := dk_21 6 (dk_at dksX2_bestWorth_4 8 rfl rfl)
theorem dX2_bestWorth_104 : decode cX2_bestWorth 104 = .ok (.iadd, 1) := dk_96 (dk_at dksX2_bestWorth_4 10 rfl rfl)
theorem dX2_bestWorth_105 : decode cX2_bestWorth 105 = .ok (.invokevirtual 131, 3) := dk_182 0 131 (dk_at dksX2_bestWorth_4 11 rfl rfl)
theorem dX2_bestWorth_108 : decode cX2_bestWorth 108 = .ok (.isub, 1) := dk_100 (dk_at dksX2_bestWorth_4 14 rfl rfl)
theorem dX2_bestWorth_109 : decode cX2_bestWorth 109 = .ok (.istore 7, 2) := dk_54 7 (dk_at dksX2_bestWorth_4 15 rfl rfl)
theorem dX2_bestWorth_111 : decode cX2_bestWorth 111 = .ok (.iload_n 3, 1) := dk_29 (dk_at dksX2_bestWorth_4 17 rfl rfl)
theorem dX2_bestWorth_112 : decode cX2_bestWorth 112 = .ok (.iload 7, 2) := dk_21 7 (dk_at dksX2_bestWorth_4 18 rfl rfl)
theorem dX2_bestWorth_114 : decode cX2_bestWorth 114 = .ok (.ifCond .le 8, 3) := dk_158 0 8 (dk_at dksX2_bestWorth_4 20 rfl rfl)
theorem dX2_bestWorth_117 : decode cX2_bestWorth 117 = .ok (.iload 7, 2) := dk_21 7 (dk_at dksX2_bestWorth_5 0 rfl rfl)
theorem dX2_bestWorth_119 : decode cX2_bestWorth 119 = .ok (.goto 4, 3) := dk_167 0 4 (dk_at dksX2_bestWorth_5 2 rfl rfl)
theorem dX2_bestWorth_122 : decode cX2_bestWorth 122 = .ok (.iconst 0, 1) := dk_3 (dk_at dksX2_bestWorth_5 5 rfl rfl)
theorem dX2_bestWorth_123 : decode cX2_bestWorth 123 = .ok (.iadd, 1) := dk_96 (dk_at dksX2_bestWorth_5 6 rfl rfl)
theorem dX2_bestWorth_124 : decode cX2_bestWorth 124 = .ok (.istore_n 3, 1) := dk_62 (dk_at dksX2_bestWorth_5 7 rfl rfl)
theorem dX2_bestWorth_125 : decode cX2_bestWorth 125 = .ok (.aload_n 0, 1) := dk_42 (dk_at dksX2_bestWorth_5 8 rfl rfl)
theorem dX2_bestWorth_126 : decode cX2_bestWorth 126 = .ok (.getfield 74, 3) := dk_180 0 74 (dk_at dksX2_bestWorth_5 9 rfl rfl)
theorem dX2_bestWorth_129 : decode cX2_bestWorth 129 = .ok (.iload 5, 2) := dk_21 5 (dk_at dksX2_bestWorth_5 12 rfl rfl)
theorem dX2_bestWorth_131 : decode cX2_bestWorth 131 = .ok (.iconst 1, 1) := dk_4 (dk_at dksX2_bestWorth_5 14 rfl rfl)
theorem dX2_bestWorth_132 : decode cX2_bestWorth 132 = .ok (.bastore, 1) := dk_84 (dk_at dksX2_bestWorth_5 15 rfl rfl)
theorem dX2_bestWorth_133 : decode cX2_bestWorth 133 = .ok (.aload_n 0, 1) := dk_42 (dk_at dksX2_bestWorth_5 16 rfl rfl)
theorem dX2_bestWorth_134 : decode cX2_bestWorth 134 = .ok (.getfield 77, 3) := dk_180 0 77 (dk_at dksX2_bestWorth_5 17 rfl rfl)
theorem dX2_bestWorth_137 : decode cX2_bestWorth 137 = .ok (.iload 6, 2) := dk_21 6 (dk_at dksX2_bestWorth_5 20 rfl rfl)
theorem dX2_bestWorth_139 : decode cX2_bestWorth 139 = .ok (.iconst 1, 1) := dk_4 (dk_at dksX2_bestWorth_5 22 rfl rfl)
theorem dX2_bestWorth_140 : decode cX2_bestWorth 140 = .ok (.bastore, 1) := dk_84 (dk_at dksX2_bestWorth_5 23 rfl rfl)
theorem dX2_bestWorth_141 : decode cX2_bestWorth 141 = .ok (.iinc 4 1, 3) := dk_132 4 1 (dk_at dksX2_bestWorth_6 0 rfl rfl)
theorem dX2_bestWorth_144 : decode cX2_bestWorth 144 = .ok (.goto (-79), 3) := dk_167 255 177 (dk_at dksX2_bestWorth_6 3 rfl rfl)
theorem dX2_bestWorth_147 : decode cX2_bestWorth 147 = .ok (.iload_n 3, 1) := dk_29 (dk_at dksX2_bestWorth_6 6 rfl rfl)
theorem dX2_bestWorth_148 : decode cX2_bestWorth 148 = .ok (.ireturn, 1) := dk_172 (dk_at dksX2_bestWorth_6 7 rfl rfl)
abbrev cX2_strongest : ByteArray := prog_9_method_44_code
def yX2_strongest : MethodName := ⟨RX2, "strongest", "(I)I"⟩
def dkwX2_strongest_3 : List UInt8 := [28, 172]
abbrev dktX2_strongest_3 : List UInt8 := dkwX2_strongest_3 ++ []
def dkwX2_strongest_2 : List UInt8 := [182, 0, 112, 42, 27, 28, 182, 0, 112, 164, 0, 7, 29, 167, 0, 4, 28, 61, 132, 3, 1, 167, 255, 191]
abbrev dktX2_strongest_2 : List UInt8 := dkwX2_strongest_2 ++ dktX2_strongest_3
def dkwX2_strongest_1 : List UInt8 := [29, 51, 154, 0, 7, 4, 167, 0, 4, 3, 54, 4, 21, 4, 153, 0, 26, 28, 155, 0, 18, 42, 27, 29]
abbrev dktX2_strongest_1 : List UInt8 := dkwX2_strongest_1 ++ dktX2_strongest_2
def dkwX2_strongest_0 : List UInt8 := [2, 61, 3, 62, 29, 42, 180, 0, 90, 162, 0, 63, 42, 29, 182, 0, 138, 153, 0, 16, 42, 180, 0, 74]
abbrev dktX2_strongest_0 : List UInt8 := dkwX2_strongest_0 ++ dktX2_strongest_1
theorem dksX2_strongest_0 : cX2_strongest.data.toList.drop 0 = dktX2_strongest_0 := by decide +kernel
theorem dksX2_strongest_1 : cX2_strongest.data.toList.drop 24 = dktX2_strongest_1 := dk_seg dksX2_strongest_0 24 rfl rfl
theorem dksX2_strongest_2 : cX2_strongest.data.toList.drop 48 = dktX2_strongest_2 := dk_seg dksX2_strongest_1 24 rfl rfl
theorem dksX2_strongest_3 : cX2_strongest.data.toList.drop 72 = dktX2_strongest_3 := dk_seg dksX2_strongest_2 24 rfl rfl
theorem dX2_strongest_0 : decode cX2_strongest 0 = .ok (.iconst (-1), 1) := dk_2 (dk_at dksX2_strongest_0 0 rfl rfl)
theorem dX2_strongest_1 : decode cX2_strongest 1 = .ok (.istore_n 2, 1) := dk_61 (dk_at dksX2_strongest_0 1 rfl rfl)
theorem dX2_strongest_2 : decode cX2_strongest 2 = .ok (.iconst 0, 1) := dk_3 (dk_at dksX2_strongest_0 2 rfl rfl)
theorem dX2_strongest_3 : decode cX2_strongest 3 = .ok (.istore_n 3, 1) := dk_62 (dk_at dksX2_strongest_0 3 rfl rfl)
theorem dX2_strongest_4 : decode cX2_strongest 4 = .ok (.iload_n 3, 1) := dk_29 (dk_at dksX2_strongest_0 4 rfl rfl)
theorem dX2_strongest_5 : decode cX2_strongest 5 = .ok (.aload_n 0, 1) := dk_42 (dk_at dksX2_strongest_0 5 rfl rfl)
theorem dX2_strongest_6 : decode cX2_strongest 6 = .ok (.getfield 90, 3) := dk_180 0 90 (dk_at dksX2_strongest_0 6 rfl rfl)
theorem dX2_strongest_9 : decode cX2_strongest 9 = .ok (.if_icmp .ge 63, 3) := dk_162 0 63 (dk_at dksX2_strongest_0 9 rfl rfl)
theorem dX2_strongest_12 : decode cX2_strongest 12 = .ok (.aload_n 0, 1) := dk_42 (dk_at dksX2_strongest_0 12 rfl rfl)
theorem dX2_strongest_13 : decode cX2_strongest 13 = .ok (.iload_n 3, 1) := dk_29 (dk_at dksX2_strongest_0 13 rfl rfl)
theorem dX2_strongest_14 : decode cX2_strongest 14 = .ok (.invokevirtual 138, 3) := dk_182 0 138 (dk_at dksX2_strongest_0 14 rfl rfl)
theorem dX2_strongest_17 : decode cX2_strongest 17 = .ok (.ifCond .eq 16, 3) := dk_153 0 16 (dk_at dksX2_strongest_0 17 rfl rfl)
theorem dX2_strongest_20 : decode cX2_strongest 20 = .ok (.aload_n 0, 1) := dk_42 (dk_at dksX2_strongest_0 20 rfl rfl)
theorem dX2_strongest_21 : decode cX2_strongest 21 = .ok (.getfield 74, 3) := dk_180 0 74 (dk_at dksX2_strongest_0 21 rfl rfl)
theorem dX2_strongest_24 : decode cX2_strongest 24 = .ok (.iload_n 3, 1) := dk_29 (dk_at dksX2_strongest_1 0 rfl rfl)
theorem dX2_strongest_25 : decode cX2_strongest 25 = .ok (.baload, 1) := dk_51 (dk_at dksX2_strongest_1 1 rfl rfl)
theorem dX2_strongest_26 : decode cX2_strongest 26 = .ok (.ifCond .ne 7, 3) := dk_154 0 7 (dk_at dksX2_strongest_1 2 rfl rfl)
theorem dX2_strongest_29 : decode cX2_strongest 29 = .ok (.iconst 1, 1) := dk_4 (dk_at dksX2_strongest_1 5 rfl rfl)
theorem dX2_strongest_30 : decode cX2_strongest 30 = .ok (.goto 4, 3) := dk_167 0 4 (dk_at dksX2_strongest_1 6 rfl rfl)
theorem dX2_strongest_33 : decode cX2_strongest 33 = .ok (.iconst 0, 1) := dk_3 (dk_at dksX2_strongest_1 9 rfl rfl)
theorem dX2_strongest_34 : decode cX2_strongest 34 = .ok (.istore 4, 2) := dk_54 4 (dk_at dksX2_strongest_1 10 rfl rfl)
theorem dX2_strongest_36 : decode cX2_strongest 36 = .ok (.iload 4, 2) := dk_21 4 (dk_at dksX2_strongest_1 12 rfl rfl)
theorem dX2_strongest_38 : decode cX2_strongest 38 = .ok (.ifCond .eq 26, 3) := dk_153 0 26 (dk_at dksX2_strongest_1 14 rfl rfl)
theorem dX2_strongest_41 : decode cX2_strongest 41 = .ok (.iload_n 2, 1) := dk_28 (dk_at dksX2_strongest_1 17 rfl rfl)
theorem dX2_strongest_42 : decode cX2_strongest 42 = .ok (.ifCond .lt 18, 3) := dk_155 0 18 (dk_at dksX2_strongest_1 18 rfl rfl)
theorem dX2_strongest_45 : decode cX2_strongest 45 = .ok (.aload_n 0, 1) := dk_42 (dk_at dksX2_strongest_1 21 rfl rfl)
theorem dX2_strongest_46 : decode cX2_strongest 46 = .ok (.iload_n 1, 1) := dk_27 (dk_at dksX2_strongest_1 22 rfl rfl)
theorem dX2_strongest_47 : decode cX2_strongest 47 = .ok (.iload_n 3, 1) := dk_29 (dk_at dksX2_strongest_1 23 rfl rfl)
theorem dX2_strongest_48 : decode cX2_strongest 48 = .ok (.invokevirtual 112, 3) := dk_182 0 112 (dk_at dksX2_strongest_2 0 rfl rfl)
theorem dX2_strongest_51 : decode cX2_strongest 51 = .ok (.aload_n 0, 1) := dk_42 (dk_at dksX2_strongest_2 3 rfl rfl)
theorem dX2_strongest_52 : decode cX2_strongest 52 = .ok (.iload_n 1, 1) := dk_27 (dk_at dksX2_strongest_2 4 rfl rfl)
theorem dX2_strongest_53 : decode cX2_strongest 53 = .ok (.iload_n 2, 1) := dk_28 (dk_at dksX2_strongest_2 5 rfl rfl)
theorem dX2_strongest_54 : decode cX2_strongest 54 = .ok (.invokevirtual 112, 3) := dk_182 0 112 (dk_at dksX2_strongest_2 6 rfl rfl)
theorem dX2_strongest_57 : decode cX2_strongest 57 = .ok (.if_icmp .le 7, 3) := dk_164 0 7 (dk_at dksX2_strongest_2 9 rfl rfl)
theorem dX2_strongest_60 : decode cX2_strongest 60 = .ok (.iload_n 3, 1) := dk_29 (dk_at dksX2_strongest_2 12 rfl rfl)
theorem dX2_strongest_61 : decode cX2_strongest 61 = .ok (.goto 4, 3) := dk_167 0 4 (dk_at dksX2_strongest_2 13 rfl rfl)
theorem dX2_strongest_64 : decode cX2_strongest 64 = .ok (.iload_n 2, 1) := dk_28 (dk_at dksX2_strongest_2 16 rfl rfl)
theorem dX2_strongest_65 : decode cX2_strongest 65 = .ok (.istore_n 2, 1) := dk_61 (dk_at dksX2_strongest_2 17 rfl rfl)
theorem dX2_strongest_66 : decode cX2_strongest 66 = .ok (.iinc 3 1, 3) := dk_132 3 1 (dk_at dksX2_strongest_2 18 rfl rfl)
theorem dX2_strongest_69 : decode cX2_strongest 69 = .ok (.goto (-65), 3) := dk_167 255 191 (dk_at dksX2_strongest_2 21 rfl rfl)
theorem dX2_strongest_72 : decode cX2_strongest 72 = .ok (.iload_n 2, 1) := dk_28 (dk_at dksX2_strongest_3 0 rfl rfl)
theorem dX2_strongest_73 : decode cX2_strongest 73 = .ok (.ireturn, 1) := dk_172 (dk_at dksX2_strongest_3 1 rfl rfl)
abbrev cX2_weakest : ByteArray := prog_9_method_45_code
def yX2_weakest : MethodName := ⟨RX2, "weakest", "(I)I"⟩
def dkwX2_weakest_2 : List UInt8 := [167, 0, 4, 28, 61, 132, 3, 1, 167, 255, 205, 28, 172]
abbrev dktX2_weakest_2 : List UInt8 := dkwX2_weakest_2 ++ []
def dkwX2_weakest_1 : List UInt8 := [16, 10, 27, 104, 29, 96, 182, 0, 131, 42, 16, 10, 27, 104, 28, 96, 182, 0, 131, 162, 0, 7, 29]
abbrev dktX2_weakest_1 : List UInt8 := dkwX2_weakest_1 ++ dktX2_weakest_2
def dkwX2_weakest_0 : List UInt8 := [2, 61, 3, 62, 29, 16, 10, 162, 0, 51, 42, 180, 0, 77, 29, 51, 154, 0, 34, 28, 155, 0, 26, 42]
abbrev dktX2_weakest_0 : List UInt8 := dkwX2_weakest_0 ++ dktX2_weakest_1
theorem dksX2_weakest_0 : cX2_weakest.data.toList.drop 0 = dktX2_weakest_0 := by decide +kernel
theorem dksX2_weakest_1 : cX2_weakest.data.toList.drop 24 = dktX2_weakest_1 := dk_seg dksX2_weakest_0 24 rfl rfl
theorem dksX2_weakest_2 : cX2_weakest.data.toList.drop 47 = dktX2_weakest_2 := dk_seg dksX2_weakest_1 23 rfl rfl
theorem dX2_weakest_0 : decode cX2_weakest 0 = .ok (.iconst (-1), 1) := dk_2 (dk_at dksX2_weakest_0 0 rfl rfl)
theorem dX2_weakest_1 : decode cX2_weakest 1 = .ok (.istore_n 2, 1) := dk_61 (dk_at dksX2_weakest_0 1 rfl rfl)
theorem dX2_weakest_2 : decode cX2_weakest 2 = .ok (.iconst 0, 1) := dk_3 (dk_at dksX2_weakest_0 2 rfl rfl)
theorem dX2_weakest_3 : decode cX2_weakest 3 = .ok (.istore_n 3, 1) := dk_62 (dk_at dksX2_weakest_0 3 rfl rfl)
theorem dX2_weakest_4 : decode cX2_weakest 4 = .ok (.iload_n 3, 1) := dk_29 (dk_at dksX2_weakest_0 4 rfl rfl)
theorem dX2_weakest_5 : decode cX2_weakest 5 = .ok (.bipush 10, 2) := dk_16 10 (dk_at dksX2_weakest_0 5 rfl rfl)
theorem dX2_weakest_7 : decode cX2_weakest 7 = .ok (.if_icmp .ge 51, 3) := dk_162 0 51 (dk_at dksX2_weakest_0 7 rfl rfl)
theorem dX2_weakest_10 : decode cX2_weakest 10 = .ok (.aload_n 0, 1) := dk_42 (dk_at dksX2_weakest_0 10 rfl rfl)
theorem dX2_weakest_11 : decode cX2_weakest 11 = .ok (.getfield 77, 3) := dk_180 0 77 (dk_at dksX2_weakest_0 11 rfl rfl)
theorem dX2_weakest_14 : decode cX2_weakest 14 = .ok (.iload_n 3, 1) := dk_29 (dk_at dksX2_weakest_0 14 rfl rfl)
theorem dX2_weakest_15 : decode cX2_weakest 15 = .ok (.baload, 1) := dk_51 (dk_at dksX2_weakest_0 15 rfl rfl)
theorem dX2_weakest_16 : decode cX2_weakest 16 = .ok (.ifCond .ne 34, 3) := dk_154 0 34 (dk_at dksX2_weakest_0 16 rfl rfl)
theorem dX2_weakest_19 : decode cX2_weakest 19 = .ok (.iload_n 2, 1) := dk_28 (dk_at dksX2_weakest_0 19 rfl rfl)
theorem dX2_weakest_20 : decode cX2_weakest 20 = .ok (.ifCond .lt 26, 3) := dk_155 0 26 (dk_at dksX2_weakest_0 20 rfl rfl)
theorem dX2_weakest_23 : decode cX2_weakest 23 = .ok (.aload_n 0, 1) := dk_42 (dk_at dksX2_weakest_0 23 rfl rfl)
theorem dX2_weakest_24 : decode cX2_weakest 24 = .ok (.bipush 10, 2) := dk_16 10 (dk_at dksX2_weakest_1 0 rfl rfl)
theorem dX2_weakest_26 : decode cX2_weakest 26 = .ok (.iload_n 1, 1) := dk_27 (dk_at dksX2_weakest_1 2 rfl rfl)
theorem dX2_weakest_27 : decode cX2_weakest 27 = .ok (.imul, 1) := dk_104 (dk_at dksX2_weakest_1 3 rfl rfl)
theorem dX2_weakest_28 : decode cX2_weakest 28 = .ok (.iload_n 3, 1) := dk_29 (dk_at dksX2_weakest_1 4 rfl rfl)
theorem dX2_weakest_29 : decode cX2_weakest 29 = .ok (.iadd, 1) := dk_96 (dk_at dksX2_weakest_1 5 rfl rfl)
theorem dX2_weakest_30 : decode cX2_weakest 30 = .ok (.invokevirtual 131, 3) := dk_182 0 131 (dk_at dksX2_weakest_1 6 rfl rfl)
theorem dX2_weakest_33 : decode cX2_weakest 33 = .ok (.aload_n 0, 1) := dk_42 (dk_at dksX2_weakest_1 9 rfl rfl)
theorem dX2_weakest_34 : decode cX2_weakest 34 = .ok (.bipush 10, 2) := dk_16 10 (dk_at dksX2_weakest_1 10 rfl rfl)
theorem dX2_weakest_36 : decode cX2_weakest 36 = .ok (.iload_n 1, 1) := dk_27 (dk_at dksX2_weakest_1 12 rfl rfl)
theorem dX2_weakest_37 : decode cX2_weakest 37 = .ok (.imul, 1) := dk_104 (dk_at dksX2_weakest_1 13 rfl rfl)
theorem dX2_weakest_38 : decode cX2_weakest 38 = .ok (.iload_n 2, 1) := dk_28 (dk_at dksX2_weakest_1 14 rfl rfl)
theorem dX2_weakest_39 : decode cX2_weakest 39 = .ok (.iadd, 1) := dk_96 (dk_at dksX2_weakest_1 15 rfl rfl)
theorem dX2_weakest_40 : decode cX2_weakest 40 = .ok (.invokevirtual 131, 3) := dk_182 0 131 (dk_at dksX2_weakest_1 16 rfl rfl)
theorem dX2_weakest_43 : decode cX2_weakest 43 = .ok (.if_icmp .ge 7, 3) := dk_162 0 7 (dk_at dksX2_weakest_1 19 rfl rfl)
theorem dX2_weakest_46 : decode cX2_weakest 46 = .ok (.iload_n 3, 1) := dk_29 (dk_at dksX2_weakest_1 22 rfl rfl)
theorem dX2_weakest_47 : decode cX2_weakest 47 = .ok (.goto 4, 3) := dk_167 0 4 (dk_at dksX2_weakest_2 0 rfl rfl)
theorem dX2_weakest_50 : decode cX2_weakest 50 = .ok (.iload_n 2, 1) := dk_28 (dk_at dksX2_weakest_2 3 rfl rfl)
theorem dX2_weakest_51 : decode cX2_weakest 51 = .ok (.istore_n 2, 1) := dk_61 (dk_at dksX2_weakest_2 4 rfl rfl)
theorem dX2_weakest_52 : decode cX2_weakest 52 = .ok (.iinc 3 1, 3) := dk_132 3 1 (dk_at dksX2_weakest_2 5 rfl rfl)
theorem dX2_weakest_55 : decode cX2_weakest 55 = .ok (.goto (-51), 3) := dk_167 255 205 (dk_at dksX2_weakest_2 8 rfl rfl)
theorem dX2_weakest_58 : decode cX2_weakest 58 = .ok (.iload_n 2, 1) := dk_28 (dk_at dksX2_weakest_2 11 rfl rfl)
theorem dX2_weakest_59 : decode cX2_weakest 59 = .ok (.ireturn, 1) := dk_172 (dk_at dksX2_weakest_2 12 rfl rfl)
abbrev cX2_wornShare : ByteArray := prog_9_method_47_code
def yX2_wornShare : MethodName := ⟨RX2, "wornShare", "()F"⟩
def dkwX2_wornShare_4 : List UInt8 := [110, 174]
abbrev dktX2_wornShare_4 : List UInt8 := dkwX2_wornShare_4 ++ []
def dkwX2_wornShare_3 : List UInt8 := [27, 158, 0, 7, 4, 167, 0, 4, 3, 4, 182, 0, 104, 153, 0, 7, 11, 167, 0, 8, 28, 134, 27, 134]
abbrev dktX2_wornShare_3 : List UInt8 := dkwX2_wornShare_3 ++ dktX2_wornShare_4
def dkwX2_wornShare_2 : List UInt8 := [180, 0, 19, 29, 46, 16, 60, 161, 0, 7, 4, 167, 0, 4, 3, 96, 61, 132, 3, 1, 167, 255, 196, 42]
abbrev dktX2_wornShare_2 : List UInt8 := dkwX2_wornShare_2 ++ dktX2_wornShare_3
def dkwX2_wornShare_1 : List UInt8 := [159, 0, 7, 4, 167, 0, 4, 3, 96, 60, 28, 42, 180, 0, 22, 29, 46, 16, 254, 159, 0, 18, 42]
abbrev dktX2_wornShare_1 : List UInt8 := dkwX2_wornShare_1 ++ dktX2_wornShare_2
def dkwX2_wornShare_0 : List UInt8 := [3, 60, 3, 61, 3, 62, 29, 42, 180, 0, 90, 162, 0, 58, 27, 42, 180, 0, 22, 29, 46, 16, 254]
abbrev dktX2_wornShare_0 : List UInt8 := dkwX2_wornShare_0 ++ dktX2_wornShare_1
theorem dksX2_wornShare_0 : cX2_wornShare.data.toList.drop 0 = dktX2_wornShare_0 := by decide +kernel
theorem dksX2_wornShare_1 : cX2_wornShare.data.toList.drop 23 = dktX2_wornShare_1 := dk_seg dksX2_wornShare_0 23 rfl rfl
theorem dksX2_wornShare_2 : cX2_wornShare.data.toList.drop 46 = dktX2_wornShare_2 := dk_seg dksX2_wornShare_1 23 rfl rfl
theorem dksX2_wornShare_3 : cX2_wornShare.data.toList.drop 70 = dktX2_wornShare_3 := dk_seg dksX2_wornShare_2 24 rfl rfl
theorem dksX2_wornShare_4 : cX2_wornShare.data.toList.drop 94 = dktX2_wornShare_4 := dk_seg dksX2_wornShare_3 24 rfl rfl
theorem dX2_wornShare_0 : decode cX2_wornShare 0 = .ok (.iconst 0, 1) := dk_3 (dk_at dksX2_wornShare_0 0 rfl rfl)
theorem dX2_wornShare_1 : decode cX2_wornShare 1 = .ok (.istore_n 1, 1) := dk_60 (dk_at dksX2_wornShare_0 1 rfl rfl)
theorem dX2_wornShare_2 : decode cX2_wornShare 2 = .ok (.iconst 0, 1) := dk_3 (dk_at dksX2_wornShare_0 2 rfl rfl)
theorem dX2_wornShare_3 : decode cX2_wornShare 3 = .ok (.istore_n 2, 1) := dk_61 (dk_at dksX2_wornShare_0 3 rfl rfl)
theorem dX2_wornShare_4 : decode cX2_wornShare 4 = .ok (.iconst 0, 1) := dk_3 (dk_at dksX2_wornShare_0 4 rfl rfl)
theorem dX2_wornShare_5 : decode cX2_wornShare 5 = .ok (.istore_n 3, 1) := dk_62 (dk_at dksX2_wornShare_0 5 rfl rfl)
theorem dX2_wornShare_6 : decode cX2_wornShare 6 = .ok (.iload_n 3, 1) := dk_29 (dk_at dksX2_wornShare_0 6 rfl rfl)
theorem dX2_wornShare_7 : decode cX2_wornShare 7 = .ok (.aload_n 0, 1) := dk_42 (dk_at dksX2_wornShare_0 7 rfl rfl)
theorem dX2_wornShare_8 : decode cX2_wornShare 8 = .ok (.getfield 90, 3) := dk_180 0 90 (dk_at dksX2_wornShare_0 8 rfl rfl)
theorem dX2_wornShare_11 : decode cX2_wornShare 11 = .ok (.if_icmp .ge 58, 3) := dk_162 0 58 (dk_at dksX2_wornShare_0 11 rfl rfl)
theorem dX2_wornShare_14 : decode cX2_wornShare 14 = .ok (.iload_n 1, 1) := dk_27 (dk_at dksX2_wornShare_0 14 rfl rfl)
theorem dX2_wornShare_15 : decode cX2_wornShare 15 = .ok (.aload_n 0, 1) := dk_42 (dk_at dksX2_wornShare_0 15 rfl rfl)
theorem dX2_wornShare_16 : decode cX2_wornShare 16 = .ok (.getfield 22, 3) := dk_180 0 22 (dk_at dksX2_wornShare_0 16 rfl rfl)
theorem dX2_wornShare_19 : decode cX2_wornShare 19 = .ok (.iload_n 3, 1) := dk_29 (dk_at dksX2_wornShare_0 19 rfl rfl)
theorem dX2_wornShare_20 : decode cX2_wornShare 20 = .ok (.iaload, 1) := dk_46 (dk_at dksX2_wornShare_0 20 rfl rfl)
theorem dX2_wornShare_21 : decode cX2_wornShare 21 = .ok (.bipush (-2), 2) := dk_16 254 (dk_at dksX2_wornShare_0 21 rfl rfl)
theorem dX2_wornShare_23 : decode cX2_wornShare 23 = .ok (.if_icmp .eq 7, 3) := dk_159 0 7 (dk_at dksX2_wornShare_1 0 rfl rfl)
theorem dX2_wornShare_26 : decode cX2_wornShare 26 = .ok (.iconst 1, 1) := dk_4 (dk_at dksX2_wornShare_1 3 rfl rfl)
theorem dX2_wornShare_27 : decode cX2_wornShare 27 = .ok (.goto 4, 3) := dk_167 0 4 (dk_at dksX2_wornShare_1 4 rfl rfl)
theorem dX2_wornShare_30 : decode cX2_wornShare 30 = .ok (.iconst 0, 1) := dk_3 (dk_at dksX2_wornShare_1 7 rfl rfl)
theorem dX2_wornShare_31 : decode cX2_wornShare 31 = .ok (.iadd, 1) := dk_96 (dk_at dksX2_wornShare_1 8 rfl rfl)
theorem dX2_wornShare_32 : decode cX2_wornShare 32 = .ok (.istore_n 1, 1) := dk_60 (dk_at dksX2_wornShare_1 9 rfl rfl)
theorem dX2_wornShare_33 : decode cX2_wornShare 33 = .ok (.iload_n 2, 1) := dk_28 (dk_at dksX2_wornShare_1 10 rfl rfl)
theorem dX2_wornShare_34 : decode cX2_wornShare 34 = .ok (.aload_n 0, 1) := dk_42 (dk_at dksX2_wornShare_1 11 rfl rfl)
theorem dX2_wornShare_35 : decode cX2_wornShare 35 = .ok (.getfield 22, 3) := dk_180 0 22 (dk_at dksX2_wornShare_1 12 rfl rfl)
theorem dX2_wornShare_38 : decode cX2_wornShare 38 = .ok (.iload_n 3, 1) := dk_29 (dk_at dksX2_wornShare_1 15 rfl rfl)
theorem dX2_wornShare_39 : decode cX2_wornShare 39 = .ok (.iaload, 1) := dk_46 (dk_at dksX2_wornShare_1 16 rfl rfl)
theorem dX2_wornShare_40 : decode cX2_wornShare 40 = .ok (.bipush (-2), 2) := dk_16 254 (dk_at dksX2_wornShare_1 17 rfl rfl)
theorem dX2_wornShare_42 : decode cX2_wornShare 42 = .ok (.if_icmp .eq 18, 3) := dk_159 0 18 (dk_at dksX2_wornShare_1 19 rfl rfl)
theorem dX2_wornShare_45 : decode cX2_wornShare 45 = .ok (.aload_n 0, 1) := dk_42 (dk_at dksX2_wornShare_1 22 rfl rfl)
theorem dX2_wornShare_46 : decode cX2_wornShare 46 = .ok (.getfield 19, 3) := dk_180 0 19 (dk_at dksX2_wornShare_2 0 rfl rfl)
theorem dX2_wornShare_49 : decode cX2_wornShare 49 = .ok (.iload_n 3, 1) := dk_29 (dk_at dksX2_wornShare_2 3 rfl rfl)
theorem dX2_wornShare_50 : decode cX2_wornShare 50 = .ok (.iaload, 1) := dk_46 (dk_at dksX2_wornShare_2 4 rfl rfl)
theorem dX2_wornShare_51 : decode cX2_wornShare 51 = .ok (.bipush 60, 2) := dk_16 60 (dk_at dksX2_wornShare_2 5 rfl rfl)
theorem dX2_wornShare_53 : decode cX2_wornShare 53 = .ok (.if_icmp .lt 7, 3) := dk_161 0 7 (dk_at dksX2_wornShare_2 7 rfl rfl)
theorem dX2_wornShare_56 : decode cX2_wornShare 56 = .ok (.iconst 1, 1) := dk_4 (dk_at dksX2_wornShare_2 10 rfl rfl)
theorem dX2_wornShare_57 : decode cX2_wornShare 57 = .ok (.goto 4, 3) := dk_167 0 4 (dk_at dksX2_wornShare_2 11 rfl rfl)
theorem dX2_wornShare_60 : decode cX2_wornShare 60 = .ok (.iconst 0, 1) := dk_3 (dk_at dksX2_wornShare_2 14 rfl rfl)
theorem dX2_wornShare_61 : decode cX2_wornShare 61 = .ok (.iadd, 1) := dk_96 (dk_at dksX2_wornShare_2 15 rfl rfl)
theorem dX2_wornShare_62 : decode cX2_wornShare 62 = .ok (.istore_n 2, 1) := dk_61 (dk_at dksX2_wornShare_2 16 rfl rfl)
theorem dX2_wornShare_63 : decode cX2_wornShare 63 = .ok (.iinc 3 1, 3) := dk_132 3 1 (dk_at dksX2_wornShare_2 17 rfl rfl)
theorem dX2_wornShare_66 : decode cX2_wornShare 66 = .ok (.goto (-60), 3) := dk_167 255 196 (dk_at dksX2_wornShare_2 20 rfl rfl)
theorem dX2_wornShare_69 : decode cX2_wornShare 69 = .ok (.aload_n 0, 1) := dk_42 (dk_at dksX2_wornShare_2 23 rfl rfl)
theorem dX2_wornShare_70 : decode cX2_wornShare 70 = .ok (.iload_n 1, 1) := dk_27 (dk_at dksX2_wornShare_3 0 rfl rfl)
theorem dX2_wornShare_71 : decode cX2_wornShare 71 = .ok (.ifCond .le 7, 3) := dk_158 0 7 (dk_at dksX2_wornShare_3 1 rfl rfl)
theorem dX2_wornShare_74 : decode cX2_wornShare 74 = .ok (.iconst 1, 1) := dk_4 (dk_at dksX2_wornShare_3 4 rfl rfl)
theorem dX2_wornShare_75 : decode cX2_wornShare 75 = .ok (.goto 4, 3) := dk_167 0 4 (dk_at dksX2_wornShare_3 5 rfl rfl)
theorem dX2_wornShare_78 : decode cX2_wornShare 78 = .ok (.iconst 0, 1) := dk_3 (dk_at dksX2_wornShare_3 8 rfl rfl)
theorem dX2_wornShare_79 : decode cX2_wornShare 79 = .ok (.iconst 1, 1) := dk_4 (dk_at dksX2_wornShare_3 9 rfl rfl)
theorem dX2_wornShare_80 : decode cX2_wornShare 80 = .ok (.invokevirtual 104, 3) := dk_182 0 104 (dk_at dksX2_wornShare_3 10 rfl rfl)
theorem dX2_wornShare_83 : decode cX2_wornShare 83 = .ok (.ifCond .eq 7, 3) := dk_153 0 7 (dk_at dksX2_wornShare_3 13 rfl rfl)
theorem dX2_wornShare_86 : decode cX2_wornShare 86 = .ok (.fconst 0, 1) := dk_11 (dk_at dksX2_wornShare_3 16 rfl rfl)
theorem dX2_wornShare_87 : decode cX2_wornShare 87 = .ok (.goto 8, 3) := dk_167 0 8 (dk_at dksX2_wornShare_3 17 rfl rfl)
theorem dX2_wornShare_90 : decode cX2_wornShare 90 = .ok (.iload_n 2, 1) := dk_28 (dk_at dksX2_wornShare_3 20 rfl rfl)
theorem dX2_wornShare_91 : decode cX2_wornShare 91 = .ok (.i2f, 1) := dk_134 (dk_at dksX2_wornShare_3 21 rfl rfl)
theorem dX2_wornShare_92 : decode cX2_wornShare 92 = .ok (.iload_n 1, 1) := dk_27 (dk_at dksX2_wornShare_3 22 rfl rfl)
theorem dX2_wornShare_93 : decode cX2_wornShare 93 = .ok (.i2f, 1) := dk_134 (dk_at dksX2_wornShare_3 23 rfl rfl)
theorem dX2_wornShare_94 : decode cX2_wornShare 94 = .ok (.fdiv, 1) := dk_110 (dk_at dksX2_wornShare_4 0 rfl rfl)
theorem dX2_wornShare_95 : decode cX2_wornShare 95 = .ok (.freturn, 1) := dk_174 (dk_at dksX2_wornShare_4 1 rfl rfl)
abbrev cX2_meanPull : ByteArray := prog_9_method_48_code
def yX2_meanPull : MethodName := ⟨RX2, "meanPull", "()D"⟩
def dkwX2_meanPull_3 : List UInt8 := [175]
abbrev dktX2_meanPull_3 : List UInt8 := dkwX2_meanPull_3 ++ []
def dkwX2_meanPull_2 : List UInt8 := [158, 0, 7, 4, 167, 0, 4, 3, 4, 182, 0, 104, 153, 0, 7, 14, 167, 0, 8, 28, 135, 27, 135, 111]
abbrev dktX2_meanPull_2 : List UInt8 := dkwX2_meanPull_2 ++ dktX2_meanPull_3
def dkwX2_meanPull_1 : List UInt8 := [167, 0, 4, 3, 96, 60, 28, 42, 29, 182, 0, 131, 96, 61, 132, 3, 1, 167, 255, 222, 42, 27]
abbrev dktX2_meanPull_1 : List UInt8 := dkwX2_meanPull_1 ++ dktX2_meanPull_2
def dkwX2_meanPull_0 : List UInt8 := [3, 60, 3, 61, 3, 62, 29, 16, 40, 162, 0, 34, 27, 42, 180, 0, 65, 29, 46, 158, 0, 7, 4]
abbrev dktX2_meanPull_0 : List UInt8 := dkwX2_meanPull_0 ++ dktX2_meanPull_1
theorem dksX2_meanPull_0 : cX2_meanPull.data.toList.drop 0 = dktX2_meanPull_0 := by decide +kernel
theorem dksX2_meanPull_1 : cX2_meanPull.data.toList.drop 23 = dktX2_meanPull_1 := dk_seg dksX2_meanPull_0 23 rfl rfl
theorem dksX2_meanPull_2 : cX2_meanPull.data.toList.drop 45 = dktX2_meanPull_2 := dk_seg dksX2_meanPull_1 22 rfl rfl
theorem dksX2_meanPull_3 : cX2_meanPull.data.toList.drop 69 = dktX2_meanPull_3 := dk_seg dksX2_meanPull_2 24 rfl rfl
theorem dX2_meanPull_0 : decode cX2_meanPull 0 = .ok (.iconst 0, 1) := dk_3 (dk_at dksX2_meanPull_0 0 rfl rfl)
theorem dX2_meanPull_1 : decode cX2_meanPull 1 = .ok (.istore_n 1, 1) := dk_60 (dk_at dksX2_meanPull_0 1 rfl rfl)
theorem dX2_meanPull_2 : decode cX2_meanPull 2 = .ok (.iconst 0, 1) := dk_3 (dk_at dksX2_meanPull_0 2 rfl rfl)
theorem dX2_meanPull_3 : decode cX2_meanPull 3 = .ok (.istore_n 2, 1) := dk_61 (dk_at dksX2_meanPull_0 3 rfl rfl)
theorem dX2_meanPull_4 : decode cX2_meanPull 4 = .ok (.iconst 0, 1) := dk_3 (dk_at dksX2_meanPull_0 4 rfl rfl)
theorem dX2_meanPull_5 : decode cX2_meanPull 5 = .ok (.istore_n 3, 1) := dk_62 (dk_at dksX2_meanPull_0 5 rfl rfl)
theorem dX2_meanPull_6 : decode cX2_meanPull 6 = .ok (.iload_n 3, 1) := dk_29 (dk_at dksX2_meanPull_0 6 rfl rfl)
theorem dX2_meanPull_7 : decode cX2_meanPull 7 = .ok (.bipush 40, 2) := dk_16 40 (dk_at dksX2_meanPull_0 7 rfl rfl)
theorem dX2_meanPull_9 : decode cX2_meanPull 9 = .ok (.if_icmp .ge 34, 3) := dk_162 0 34 (dk_at dksX2_meanPull_0 9 rfl rfl)
theorem dX2_meanPull_12 : decode cX2_meanPull 12 = .ok (.iload_n 1, 1) := dk_27 (dk_at dksX2_meanPull_0 12 rfl rfl)
theorem dX2_meanPull_13 : decode cX2_meanPull 13 = .ok (.aload_n 0, 1) := dk_42 (dk_at dksX2_meanPull_0 13 rfl rfl)
theorem dX2_meanPull_14 : decode cX2_meanPull 14 = .ok (.getfield 65, 3) := dk_180 0 65 (dk_at dksX2_meanPull_0 14 rfl rfl)
theorem dX2_meanPull_17 : decode cX2_meanPull 17 = .ok (.iload_n 3, 1) := dk_29 (dk_at dksX2_meanPull_0 17 rfl rfl)
theorem dX2_meanPull_18 : decode cX2_meanPull 18 = .ok (.iaload, 1) := dk_46 (dk_at dksX2_meanPull_0 18 rfl rfl)
theorem dX2_meanPull_19 : decode cX2_meanPull 19 = .ok (.ifCond .le 7, 3) := dk_158 0 7 (dk_at dksX2_meanPull_0 19 rfl rfl)
theorem dX2_meanPull_22 : decode cX2_meanPull 22 = .ok (.iconst 1, 1) := dk_4 (dk_at dksX2_meanPull_0 22 rfl rfl)
theorem dX2_meanPull_23 : decode cX2_meanPull 23 = .ok (.goto 4, 3) := dk_167 0 4 (dk_at dksX2_meanPull_1 0 rfl rfl)
theorem dX2_meanPull_26 : decode cX2_meanPull 26 = .ok (.iconst 0, 1) := dk_3 (dk_at dksX2_meanPull_1 3 rfl rfl)
theorem dX2_meanPull_27 : decode cX2_meanPull 27 = .ok (.iadd, 1) := dk_96 (dk_at dksX2_meanPull_1 4 rfl rfl)
theorem dX2_meanPull_28 : decode cX2_meanPull 28 = .ok (.istore_n 1, 1) := dk_60 (dk_at dksX2_meanPull_1 5 rfl rfl)
theorem dX2_meanPull_29 : decode cX2_meanPull 29 = .ok (.iload_n 2, 1) := dk_28 (dk_at dksX2_meanPull_1 6 rfl rfl)
theorem dX2_meanPull_30 : decode cX2_meanPull 30 = .ok (.aload_n 0, 1) := dk_42 (dk_at dksX2_meanPull_1 7 rfl rfl)
theorem dX2_meanPull_31 : decode cX2_meanPull 31 = .ok (.iload_n 3, 1) := dk_29 (dk_at dksX2_meanPull_1 8 rfl rfl)
theorem dX2_meanPull_32 : decode cX2_meanPull 32 = .ok (.invokevirtual 131, 3) := dk_182 0 131 (dk_at dksX2_meanPull_1 9 rfl rfl)
theorem dX2_meanPull_35 : decode cX2_meanPull 35 = .ok (.iadd, 1) := dk_96 (dk_at dksX2_meanPull_1 12 rfl rfl)
theorem dX2_meanPull_36 : decode cX2_meanPull 36 = .ok (.istore_n 2, 1) := dk_61 (dk_at dksX2_meanPull_1 13 rfl rfl)
theorem dX2_meanPull_37 : decode cX2_meanPull 37 = .ok (.iinc 3 1, 3) := dk_132 3 1 (dk_at dksX2_meanPull_1 14 rfl rfl)
theorem dX2_meanPull_40 : decode cX2_meanPull 40 = .ok (.goto (-34), 3) := dk_167 255 222 (dk_at dksX2_meanPull_1 17 rfl rfl)
theorem dX2_meanPull_43 : decode cX2_meanPull 43 = .ok (.aload_n 0, 1) := dk_42 (dk_at dksX2_meanPull_1 20 rfl rfl)
theorem dX2_meanPull_44 : decode cX2_meanPull 44 = .ok (.iload_n 1, 1) := dk_27 (dk_at dksX2_meanPull_1 21 rfl rfl)
theorem dX2_meanPull_45 : decode cX2_meanPull 45 = .ok (.ifCond .le 7, 3) := dk_158 0 7 (dk_at dksX2_meanPull_2 0 rfl rfl)
theorem dX2_meanPull_48 : decode cX2_meanPull 48 = .ok (.iconst 1, 1) := dk_4 (dk_at dksX2_meanPull_2 3 rfl rfl)
theorem dX2_meanPull_49 : decode cX2_meanPull 49 = .ok (.goto 4, 3) := dk_167 0 4 (dk_at dksX2_meanPull_2 4 rfl rfl)
theorem dX2_meanPull_52 : decode cX2_meanPull 52 = .ok (.iconst 0, 1) := dk_3 (dk_at dksX2_meanPull_2 7 rfl rfl)
theorem dX2_meanPull_53 : decode cX2_meanPull 53 = .ok (.iconst 1, 1) := dk_4 (dk_at dksX2_meanPull_2 8 rfl rfl)
theorem dX2_meanPull_54 : decode cX2_meanPull 54 = .ok (.invokevirtual 104, 3) := dk_182 0 104 (dk_at dksX2_meanPull_2 9 rfl rfl)
theorem dX2_meanPull_57 : decode cX2_meanPull 57 = .ok (.ifCond .eq 7, 3) := dk_153 0 7 (dk_at dksX2_meanPull_2 12 rfl rfl)
theorem dX2_meanPull_60 : decode cX2_meanPull 60 = .ok (.dconst 0, 1) := dk_14 (dk_at dksX2_meanPull_2 15 rfl rfl)
theorem dX2_meanPull_61 : decode cX2_meanPull 61 = .ok (.goto 8, 3) := dk_167 0 8 (dk_at dksX2_meanPull_2 16 rfl rfl)
theorem dX2_meanPull_64 : decode cX2_meanPull 64 = .ok (.iload_n 2, 1) := dk_28 (dk_at dksX2_meanPull_2 19 rfl rfl)
theorem dX2_meanPull_65 : decode cX2_meanPull 65 = .ok (.i2d, 1) := dk_135 (dk_at dksX2_meanPull_2 20 rfl rfl)
theorem dX2_meanPull_66 : decode cX2_meanPull 66 = .ok (.iload_n 1, 1) := dk_27 (dk_at dksX2_meanPull_2 21 rfl rfl)
theorem dX2_meanPull_67 : decode cX2_meanPull 67 = .ok (.i2d, 1) := dk_135 (dk_at dksX2_meanPull_2 22 rfl rfl)
theorem dX2_meanPull_68 : decode cX2_meanPull 68 = .ok (.ddiv, 1) := dk_111 (dk_at dksX2_meanPull_2 23 rfl rfl)
theorem dX2_meanPull_69 : decode cX2_meanPull 69 = .ok (.dreturn, 1) := dk_175 (dk_at dksX2_meanPull_3 0 rfl rfl)
abbrev cX2_checksum : ByteArray := prog_9_method_49_code
def yX2_checksum : MethodName := ⟨RX2, "checksum", "()J"⟩
def dkwX2_checksum_4 : List UInt8 := [105, 42, 180, 0, 135, 133, 97, 64, 20, 0, 149, 31, 105, 42, 180, 0, 80, 133, 97, 173]
abbrev dktX2_checksum_4 : List UInt8 := dkwX2_checksum_4 ++ []
def dkwX2_checksum_3 : List UInt8 := [20, 0, 149, 31, 105, 42, 180, 0, 40, 29, 46, 133, 97, 64, 132, 3, 1, 167, 255, 203, 20, 0, 149, 31]
abbrev dktX2_checksum_3 : List UInt8 := dkwX2_checksum_3 ++ dktX2_checksum_4
def dkwX2_checksum_2 : List UInt8 := [105, 42, 180, 0, 37, 29, 46, 133, 97, 64, 20, 0, 149, 31, 105, 42, 180, 0, 34, 29, 46, 133, 97, 64]
abbrev dktX2_checksum_2 : List UInt8 := dkwX2_checksum_2 ++ dktX2_checksum_3
def dkwX2_checksum_1 : List UInt8 := [46, 133, 97, 64, 132, 3, 1, 167, 255, 231, 3, 62, 29, 42, 180, 0, 97, 162, 0, 51, 20, 0, 149, 31]
abbrev dktX2_checksum_1 : List UInt8 := dkwX2_checksum_1 ++ dktX2_checksum_2
def dkwX2_checksum_0 : List UInt8 := [20, 0, 147, 64, 3, 62, 29, 42, 180, 0, 90, 162, 0, 23, 20, 0, 149, 31, 105, 42, 180, 0, 19, 29]
abbrev dktX2_checksum_0 : List UInt8 := dkwX2_checksum_0 ++ dktX2_checksum_1
theorem dksX2_checksum_0 : cX2_checksum.data.toList.drop 0 = dktX2_checksum_0 := by decide +kernel
theorem dksX2_checksum_1 : cX2_checksum.data.toList.drop 24 = dktX2_checksum_1 := dk_seg dksX2_checksum_0 24 rfl rfl
theorem dksX2_checksum_2 : cX2_checksum.data.toList.drop 48 = dktX2_checksum_2 := dk_seg dksX2_checksum_1 24 rfl rfl
theorem dksX2_checksum_3 : cX2_checksum.data.toList.drop 72 = dktX2_checksum_3 := dk_seg dksX2_checksum_2 24 rfl rfl
theorem dksX2_checksum_4 : cX2_checksum.data.toList.drop 96 = dktX2_checksum_4 := dk_seg dksX2_checksum_3 24 rfl rfl
theorem dX2_checksum_0 : decode cX2_checksum 0 = .ok (.ldc2_w 147, 3) := dk_20 0 147 (dk_at dksX2_checksum_0 0 rfl rfl)
theorem dX2_checksum_3 : decode cX2_checksum 3 = .ok (.lstore_n 1, 1) := dk_64 (dk_at dksX2_checksum_0 3 rfl rfl)
theorem dX2_checksum_4 : decode cX2_checksum 4 = .ok (.iconst 0, 1) := dk_3 (dk_at dksX2_checksum_0 4 rfl rfl)
theorem dX2_checksum_5 : decode cX2_checksum 5 = .ok (.istore_n 3, 1) := dk_62 (dk_at dksX2_checksum_0 5 rfl rfl)
theorem dX2_checksum_6 : decode cX2_checksum 6 = .ok (.iload_n 3, 1) := dk_29 (dk_at dksX2_checksum_0 6 rfl rfl)
theorem dX2_checksum_7 : decode cX2_checksum 7 = .ok (.aload_n 0, 1) := dk_42 (dk_at dksX2_checksum_0 7 rfl rfl)
theorem dX2_checksum_8 : decode cX2_checksum 8 = .ok (.getfield 90, 3) := dk_180 0 90 (dk_at dksX2_checksum_0 8 rfl rfl)
theorem dX2_checksum_11 : decode cX2_checksum 11 = .ok (.if_icmp .ge 23, 3) := dk_162 0 23 (dk_at dksX2_checksum_0 11 rfl rfl)
theorem dX2_checksum_14 : decode cX2_checksum 14 = .ok (.ldc2_w 149, 3) := dk_20 0 149 (dk_at dksX2_checksum_0 14 rfl rfl)
theorem dX2_checksum_17 : decode cX2_checksum 17 = .ok (.lload_n 1, 1) := dk_31 (dk_at dksX2_checksum_0 17 rfl rfl)
theorem dX2_checksum_18 : decode cX2_checksum 18 = .ok (.lmul, 1) := dk_105 (dk_at dksX2_checksum_0 18 rfl rfl)
theorem dX2_checksum_19 : decode cX2_checksum 19 = .ok (.aload_n 0, 1) := dk_42 (dk_at dksX2_checksum_0 19 rfl rfl)
theorem dX2_checksum_20 : decode cX2_checksum 20 = .ok (.getfield 19, 3) := dk_180 0 19 (dk_at dksX2_checksum_0 20 rfl rfl)
theorem dX2_checksum_23 : decode cX2_checksum 23 = .ok (.iload_n 3, 1) := dk_29 (dk_at dksX2_checksum_0 23 rfl rfl)
theorem dX2_checksum_24 : decode cX2_checksum 24 = .ok (.iaload, 1) := dk_46 (dk_at dksX2_checksum_1 0 rfl rfl)
theorem dX2_checksum_25 : decode cX2_checksum 25 = .ok (.i2l, 1) := dk_133 (dk_at dksX2_checksum_1 1 rfl rfl)
theorem dX2_checksum_26 : decode cX2_checksum 26 = .ok (.ladd, 1) := dk_97 (dk_at dksX2_checksum_1 2 rfl rfl)
theorem dX2_checksum_27 : decode cX2_checksum 27 = .ok (.lstore_n 1, 1) := dk_64 (dk_at dksX2_checksum_1 3 rfl rfl)
theorem dX2_checksum_28 : decode cX2_checksum 28 = .ok (.iinc 3 1, 3) := dk_132 3 1 (dk_at dksX2_checksum_1 4 rfl rfl)
theorem dX2_checksum_31 : decode cX2_checksum 31 = .ok (.goto (-25), 3) := dk_167 255 231 (dk_at dksX2_checksum_1 7 rfl rfl)
theorem dX2_checksum_34 : decode cX2_checksum 34 = .ok (.iconst 0, 1) := dk_3 (dk_at dksX2_checksum_1 10 rfl rfl)
theorem dX2_checksum_35 : decode cX2_checksum 35 = .ok (.istore_n 3, 1) := dk_62 (dk_at dksX2_checksum_1 11 rfl rfl)
theorem dX2_checksum_36 : decode cX2_checksum 36 = .ok (.iload_n 3, 1) := dk_29 (dk_at dksX2_checksum_1 12 rfl rfl)
theorem dX2_checksum_37 : decode cX2_checksum 37 = .ok (.aload_n 0, 1) := dk_42 (dk_at dksX2_checksum_1 13 rfl rfl)
theorem dX2_checksum_38 : decode cX2_checksum 38 = .ok (.getfield 97, 3) := dk_180 0 97 (dk_at dksX2_checksum_1 14 rfl rfl)
theorem dX2_checksum_41 : decode cX2_checksum 41 = .ok (.if_icmp .ge 51, 3) := dk_162 0 51 (dk_at dksX2_checksum_1 17 rfl rfl)
theorem dX2_checksum_44 : decode cX2_checksum 44 = .ok (.ldc2_w 149, 3) := dk_20 0 149 (dk_at dksX2_checksum_1 20 rfl rfl)
theorem dX2_checksum_47 : decode cX2_checksum 47 = .ok (.lload_n 1, 1) := dk_31 (dk_at dksX2_checksum_1 23 rfl rfl)
theorem dX2_checksum_48 : decode cX2_checksum 48 = .ok (.lmul, 1) := dk_105 (dk_at dksX2_checksum_2 0 rfl rfl)
theorem dX2_checksum_49 : decode cX2_checksum 49 = .ok (.aload_n 0, 1) := dk_42 (dk_at dksX2_checksum_2 1 rfl rfl)
theorem dX2_checksum_50 : decode cX2_checksum 50 = .ok (.getfield 37, 3) := dk_180 0 37 (dk_at dksX2_checksum_2 2 rfl rfl)
theorem dX2_checksum_53 : decode cX2_checksum 53 = .ok (.iload_n 3, 1) := dk_29 (dk_at dksX2_checksum_2 5 rfl rfl)
theorem dX2_checksum_54 : decode cX2_checksum 54 = .ok (.iaload, 1) := dk_46 (dk_at dksX2_checksum_2 6 rfl rfl)
theorem dX2_checksum_55 : decode cX2_checksum 55 = .ok (.i2l, 1) := dk_133 (dk_at dksX2_checksum_2 7 rfl rfl)
theorem dX2_checksum_56 : decode cX2_checksum 56 = .ok (.ladd, 1) := dk_97 (dk_at dksX2_checksum_2 8 rfl rfl)
theorem dX2_checksum_57 : decode cX2_checksum 57 = .ok (.lstore_n 1, 1) := dk_64 (dk_at dksX2_checksum_2 9 rfl rfl)
theorem dX2_checksum_58 : decode cX2_checksum 58 = .ok (.ldc2_w 149, 3) := dk_20 0 149 (dk_at dksX2_checksum_2 10 rfl rfl)
theorem dX2_checksum_61 : decode cX2_checksum 61 = .ok (.lload_n 1, 1) := dk_31 (dk_at dksX2_checksum_2 13 rfl rfl)
theorem dX2_checksum_62 : decode cX2_checksum 62 = .ok (.lmul, 1) := dk_105 (dk_at dksX2_checksum_2 14 rfl rfl)
theorem dX2_checksum_63 : decode cX2_checksum 63 = .ok (.aload_n 0, 1) := dk_42 (dk_at dksX2_checksum_2 15 rfl rfl)
theorem dX2_checksum_64 : decode cX2_checksum 64 = .ok (.getfield 34, 3) := dk_180 0 34 (dk_at dksX2_checksum_2 16 rfl rfl)
theorem dX2_checksum_67 : decode cX2_checksum 67 = .ok (.iload_n 3, 1) := dk_29 (dk_at dksX2_checksum_2 19 rfl rfl)
theorem dX2_checksum_68 : decode cX2_checksum 68 = .ok (.iaload, 1) := dk_46 (dk_at dksX2_checksum_2 20 rfl rfl)
theorem dX2_checksum_69 : decode cX2_checksum 69 = .ok (.i2l, 1) := dk_133 (dk_at dksX2_checksum_2 21 rfl rfl)
theorem dX2_checksum_70 : decode cX2_checksum 70 = .ok (.ladd, 1) := dk_97 (dk_at dksX2_checksum_2 22 rfl rfl)
theorem dX2_checksum_71 : decode cX2_checksum 71 = .ok (.lstore_n 1, 1) := dk_64 (dk_at dksX2_checksum_2 23 rfl rfl)
theorem dX2_checksum_72 : decode cX2_checksum 72 = .ok (.ldc2_w 149, 3) := dk_20 0 149 (dk_at dksX2_checksum_3 0 rfl rfl)
theorem dX2_checksum_75 : decode cX2_checksum 75 = .ok (.lload_n 1, 1) := dk_31 (dk_at dksX2_checksum_3 3 rfl rfl)
theorem dX2_checksum_76 : decode cX2_checksum 76 = .ok (.lmul, 1) := dk_105 (dk_at dksX2_checksum_3 4 rfl rfl)
theorem dX2_checksum_77 : decode cX2_checksum 77 = .ok (.aload_n 0, 1) := dk_42 (dk_at dksX2_checksum_3 5 rfl rfl)
theorem dX2_checksum_78 : decode cX2_checksum 78 = .ok (.getfield 40, 3) := dk_180 0 40 (dk_at dksX2_checksum_3 6 rfl rfl)
theorem dX2_checksum_81 : decode cX2_checksum 81 = .ok (.iload_n 3, 1) := dk_29 (dk_at dksX2_checksum_3 9 rfl rfl)
theorem dX2_checksum_82 : decode cX2_checksum 82 = .ok (.iaload, 1) := dk_46 (dk_at dksX2_checksum_3 10 rfl rfl)
theorem dX2_checksum_83 : decode cX2_checksum 83 = .ok (.i2l, 1) := dk_133 (dk_at dksX2_checksum_3 11 rfl rfl)
theorem dX2_checksum_84 : decode cX2_checksum 84 = .ok (.ladd, 1) := dk_97 (dk_at dksX2_checksum_3 12 rfl rfl)
theorem dX2_checksum_85 : decode cX2_checksum 85 = .ok (.lstore_n 1, 1) := dk_64 (dk_at dksX2_checksum_3 13 rfl rfl)
theorem dX2_checksum_86 : decode cX2_checksum 86 = .ok (.iinc 3 1, 3) := dk_132 3 1 (dk_at dksX2_checksum_3 14 rfl rfl)
theorem dX2_checksum_89 : decode cX2_checksum 89 = .ok (.goto (-53), 3) := dk_167 255 203 (dk_at dksX2_checksum_3 17 rfl rfl)
theorem dX2_checksum_92 : decode cX2_checksum 92 = .ok (.ldc2_w 149, 3) := dk_20 0 149 (dk_at dksX2_checksum_3 20 rfl rfl)
theorem dX2_checksum_95 : decode cX2_checksum 95 = .ok (.lload_n 1, 1) := dk_31 (dk_at dksX2_checksum_3 23 rfl rfl)
theorem dX2_checksum_96 : decode cX2_checksum 96 = .ok (.lmul, 1) := dk_105 (dk_at dksX2_checksum_4 0 rfl rfl)
theorem dX2_checksum_97 : decode cX2_checksum 97 = .ok (.aload_n 0, 1) := dk_42 (dk_at dksX2_checksum_4 1 rfl rfl)
theorem dX2_checksum_98 : decode cX2_checksum 98 = .ok (.getfield 135, 3) := dk_180 0 135 (dk_at dksX2_checksum_4 2 rfl rfl)
theorem dX2_checksum_101 : decode cX2_checksum 101 = .ok (.i2l, 1) := dk_133 (dk_at dksX2_checksum_4 5 rfl rfl)
theorem dX2_checksum_102 : decode cX2_checksum 102 = .ok (.ladd, 1) := dk_97 (dk_at dksX2_checksum_4 6 rfl rfl)
theorem dX2_checksum_103 : decode cX2_checksum 103 = .ok (.lstore_n 1, 1) := dk_64 (dk_at dksX2_checksum_4 7 rfl rfl)
theorem dX2_checksum_104 : decode cX2_checksum 104 = .ok (.ldc2_w 149, 3) := dk_20 0 149 (dk_at dksX2_checksum_4 8 rfl rfl)
theorem dX2_checksum_107 : decode cX2_checksum 107 = .ok (.lload_n 1, 1) := dk_31 (dk_at dksX2_checksum_4 11 rfl rfl)
theorem dX2_checksum_108 : decode cX2_checksum 108 = .ok (.lmul, 1) := dk_105 (dk_at dksX2_checksum_4 12 rfl rfl)
theorem dX2_checksum_109 : decode cX2_checksum 109 = .ok (.aload_n 0, 1) := dk_42 (dk_at dksX2_checksum_4 13 rfl rfl)
theorem dX2_checksum_110 : decode cX2_checksum 110 = .ok (.getfield 80, 3) := dk_180 0 80 (dk_at dksX2_checksum_4 14 rfl rfl)
theorem dX2_checksum_113 : decode cX2_checksum 113 = .ok (.i2l, 1) := dk_133 (dk_at dksX2_checksum_4 17 rfl rfl)
theorem dX2_checksum_114 : decode cX2_checksum 114 = .ok (.ladd, 1) := dk_97 (dk_at dksX2_checksum_4 18 rfl rfl)
theorem dX2_checksum_115 : decode cX2_checksum 115 = .ok (.lreturn, 1) := dk_173 (dk_at dksX2_checksum_4 19 rfl rfl)
abbrev cX2_isSound : ByteArray := prog_9_method_50_code
def yX2_isSound : MethodName := ⟨RX2, "isSound", "()Z"⟩
theorem dX2_isSound_0 : decode cX2_isSound 0 = .ok (.iconst 1, 1) := by decide +kernel
theorem dX2_isSound_1 : decode cX2_isSound 1 = .ok (.ireturn, 1) := by decide +kernel
theorem q28 : (Jvm.Cond.initialized "SelectoRouteModel") ∈ lw_all := lw_g (lw_at lw_m1 5 rfl) rfl
theorem q348 : (Jvm.Cond.selects "SelectoRouteModel" ({ cls := "java/lang/Object", name := "getClass", desc := "()Ljava/lang/Class;" } : Jvm.MethodName) ({ cls := "java/lang/Object", name := "getClass", desc := "()Ljava/lang/Class;" } : Jvm.MethodName)) ∈ lw_all := lw_g (lw_at lw_m2 85 rfl) rfl
theorem q968 : (Jvm.Cond.instantiable "SelectoRouteModel" (30 : Nat)) ∈ lw_all := lw_g (lw_at lw_m4 225 rfl) rfl
theorem q970 : (Jvm.Cond.instanceMethod ({ cls := "SelectoRouteModel", name := "<init>", desc := "()V" } : Jvm.MethodName)) ∈ lw_all := lw_g (lw_at lw_m4 227 rfl) rfl
theorem q971 : (Jvm.Cond.code ({ cls := "SelectoRouteModel", name := "<init>", desc := "()V" } : Jvm.MethodName) prog_9_method_1_code (1 : Nat) (Option.none : Option Jvm.ClassFile.FieldType)) ∈ lw_all := lw_g (lw_at lw_m4 228 rfl) rfl
theorem q972 : (Jvm.Cond.methodLink "SelectoRouteModel" (1 : Nat) ({ cls := "java/lang/Object", name := "<init>", desc := "()V" } : Jvm.MethodName)) ∈ lw_all := lw_g (lw_at lw_m4 229 rfl) rfl
theorem q973 : (Jvm.Cond.fieldLink "SelectoRouteModel" (7 : Nat) "SelectoRouteModel" "song" "[I") ∈ lw_all := lw_g (lw_at lw_m4 230 rfl) rfl
theorem q974 : (Jvm.Cond.fieldLink "SelectoRouteModel" (13 : Nat) "SelectoRouteModel" "strength" "[I") ∈ lw_all := lw_g (lw_at lw_m4 231 rfl) rfl
theorem q975 : (Jvm.Cond.fieldLink "SelectoRouteModel" (16 : Nat) "SelectoRouteModel" "from" "[I") ∈ lw_all := lw_g (lw_at lw_m4 232 rfl) rfl
theorem q976 : (Jvm.Cond.fieldLink "SelectoRouteModel" (19 : Nat) "SelectoRouteModel" "wear" "[I") ∈ lw_all := lw_g (lw_at lw_m4 233 rfl) rfl
theorem q977 : (Jvm.Cond.fieldLink "SelectoRouteModel" (22 : Nat) "SelectoRouteModel" "place" "[I") ∈ lw_all := lw_g (lw_at lw_m4 234 rfl) rfl
theorem q978 : (Jvm.Cond.fieldLink "SelectoRouteModel" (90 : Nat) "SelectoRouteModel" "discs" "I") ∈ lw_all := lw_g (lw_at lw_m4 235 rfl) rfl
theorem q979 : (Jvm.Cond.fieldLink "SelectoRouteModel" (25 : Nat) "SelectoRouteModel" "share" "[I") ∈ lw_all := lw_g (lw_at lw_m4 236 rfl) rfl
theorem q980 : (Jvm.Cond.fieldLink "SelectoRouteModel" (28 : Nat) "SelectoRouteModel" "taste" "[I") ∈ lw_all := lw_g (lw_at lw_m4 237 rfl) rfl
theorem q981 : (Jvm.Cond.fieldLink "SelectoRouteModel" (31 : Nat) "SelectoRouteModel" "risk" "[I") ∈ lw_all := lw_g (lw_at lw_m4 238 rfl) rfl
theorem q982 : (Jvm.Cond.fieldLink "SelectoRouteModel" (34 : Nat) "SelectoRouteModel" "credits" "[I") ∈ lw_all := lw_g (lw_at lw_m4 239 rfl) rfl
theorem q983 : (Jvm.Cond.fieldLink "SelectoRouteModel" (37 : Nat) "SelectoRouteModel" "cents" "[I") ∈ lw_all := lw_g (lw_at lw_m5 0 rfl) rfl
theorem q984 : (Jvm.Cond.fieldLink "SelectoRouteModel" (40 : Nat) "SelectoRouteModel" "needle" "[I") ∈ lw_all := lw_g (lw_at lw_m5 1 rfl) rfl
theorem q985 : (Jvm.Cond.fieldLink "SelectoRouteModel" (43 : Nat) "SelectoRouteModel" "queued" "[I") ∈ lw_all := lw_g (lw_at lw_m5 2 rfl) rfl
theorem q986 : (Jvm.Cond.fieldLink "SelectoRouteModel" (46 : Nat) "SelectoRouteModel" "queue" "[I") ∈ lw_all := lw_g (lw_at lw_m5 3 rfl) rfl
theorem q987 : (Jvm.Cond.fieldLink "SelectoRouteModel" (49 : Nat) "SelectoRouteModel" "plays" "[I") ∈ lw_all := lw_g (lw_at lw_m5 4 rfl) rfl
theorem q988 : (Jvm.Cond.fieldLink "SelectoRouteModel" (52 : Nat) "SelectoRouteModel" "missing" "[I") ∈ lw_all := lw_g (lw_at lw_m5 5 rfl) rfl
theorem q989 : (Jvm.Cond.fieldLink "SelectoRouteModel" (55 : Nat) "SelectoRouteModel" "landlord" "[I") ∈ lw_all := lw_g (lw_at lw_m5 6 rfl) rfl
theorem q990 : (Jvm.Cond.fieldLink "SelectoRouteModel" (58 : Nat) "SelectoRouteModel" "jammed" "[Z") ∈ lw_all := lw_g (lw_at lw_m5 7 rfl) rfl
theorem q991 : (Jvm.Cond.fieldLink "SelectoRouteModel" (62 : Nat) "SelectoRouteModel" "visited" "[Z") ∈ lw_all := lw_g (lw_at lw_m5 8 rfl) rfl
theorem q992 : (Jvm.Cond.fieldLink "SelectoRouteModel" (97 : Nat) "SelectoRouteModel" "boxes" "I") ∈ lw_all := lw_g (lw_at lw_m5 9 rfl) rfl
theorem q993 : (Jvm.Cond.fieldLink "SelectoRouteModel" (65 : Nat) "SelectoRouteModel" "slots" "[I") ∈ lw_all := lw_g (lw_at lw_m5 10 rfl) rfl
theorem q994 : (Jvm.Cond.fieldLink "SelectoRouteModel" (68 : Nat) "SelectoRouteModel" "wheel" "[I") ∈ lw_all := lw_g (lw_at lw_m5 11 rfl) rfl
theorem q995 : (Jvm.Cond.fieldLink "SelectoRouteModel" (71 : Nat) "SelectoRouteModel" "asked" "[I") ∈ lw_all := lw_g (lw_at lw_m5 12 rfl) rfl
theorem q996 : (Jvm.Cond.fieldLink "SelectoRouteModel" (74 : Nat) "SelectoRouteModel" "used" "[Z") ∈ lw_all := lw_g (lw_at lw_m5 13 rfl) rfl
theorem q997 : (Jvm.Cond.fieldLink "SelectoRouteModel" (77 : Nat) "SelectoRouteModel" "taken" "[Z") ∈ lw_all := lw_g (lw_at lw_m5 14 rfl) rfl
theorem q998 : (Jvm.Cond.fieldLink "SelectoRouteModel" (80 : Nat) "SelectoRouteModel" "z" "I") ∈ lw_all := lw_g (lw_at lw_m5 15 rfl) rfl
theorem q999 : (Jvm.Cond.fieldLink "SelectoRouteModel" (109 : Nat) "SelectoRouteModel" "week" "I") ∈ lw_all := lw_g (lw_at lw_m5 16 rfl) rfl
theorem q1000 : (Jvm.Cond.fieldLink "SelectoRouteModel" (84 : Nat) "SelectoRouteModel" "minutes" "I") ∈ lw_all := lw_g (lw_at lw_m5 17 rfl) rfl
theorem q1001 : (Jvm.Cond.fieldLink "SelectoRouteModel" (135 : Nat) "SelectoRouteModel" "earned" "I") ∈ lw_all := lw_g (lw_at lw_m5 18 rfl) rfl
theorem q1002 : (Jvm.Cond.fieldLink "SelectoRouteModel" (87 : Nat) "SelectoRouteModel" "thrown" "I") ∈ lw_all := lw_g (lw_at lw_m5 19 rfl) rfl
theorem q1003 : (Jvm.Cond.laysFinal "SelectoRouteModel" "SelectoRouteModel" "song" "[I") ∈ lw_all := lw_g (lw_at lw_m5 20 rfl) rfl
theorem q1004 : (Jvm.Cond.soleField "SelectoRouteModel" "song") ∈ lw_all := lw_g (lw_at lw_m5 21 rfl) rfl
theorem q1005 : (Jvm.Cond.laysFinal "SelectoRouteModel" "SelectoRouteModel" "strength" "[I") ∈ lw_all := lw_g (lw_at lw_m5 22 rfl) rfl
theorem q1006 : (Jvm.Cond.soleField "SelectoRouteModel" "strength") ∈ lw_all := lw_g (lw_at lw_m5 23 rfl) rfl
theorem q1007 : (Jvm.Cond.laysFinal "SelectoRouteModel" "SelectoRouteModel" "from" "[I") ∈ lw_all := lw_g (lw_at lw_m5 24 rfl) rfl
theorem q1008 : (Jvm.Cond.soleField "SelectoRouteModel" "from") ∈ lw_all := lw_g (lw_at lw_m5 25 rfl) rfl
theorem q1009 : (Jvm.Cond.laysFinal "SelectoRouteModel" "SelectoRouteModel" "wear" "[I") ∈ lw_all := lw_g (lw_at lw_m5 26 rfl) rfl
theorem q1010 : (Jvm.Cond.soleField "SelectoRouteModel" "wear") ∈ lw_all := lw_g (lw_at lw_m5 27 rfl) rfl
theorem q1011 : (Jvm.Cond.laysFinal "SelectoRouteModel" "SelectoRouteModel" "place" "[I") ∈ lw_all := lw_g (lw_at lw_m5 28 rfl) rfl
theorem q1012 : (Jvm.Cond.soleField "SelectoRouteModel" "place") ∈ lw_all := lw_g (lw_at lw_m5 29 rfl) rfl
theorem q1013 : (Jvm.Cond.lays "SelectoRouteModel" "SelectoRouteModel" "discs" "I") ∈ lw_all := lw_g (lw_at lw_m5 30 rfl) rfl
theorem q1014 : (Jvm.Cond.soleField "SelectoRouteModel" "discs") ∈ lw_all := lw_g (lw_at lw_m5 31 rfl) rfl
theorem q1015 : (Jvm.Cond.laysFinal "SelectoRouteModel" "SelectoRouteModel" "share" "[I") ∈ lw_all := lw_g (lw_at lw_m5 32 rfl) rfl
theorem q1016 : (Jvm.Cond.soleField "SelectoRouteModel" "share") ∈ lw_all := lw_g (lw_at lw_m5 33 rfl) rfl
theorem q1017 : (Jvm.Cond.laysFinal "SelectoRouteModel" "SelectoRouteModel" "taste" "[I") ∈ lw_all := lw_g (lw_at lw_m5 34 rfl) rfl
theorem q1018 : (Jvm.Cond.soleField "SelectoRouteModel" "taste") ∈ lw_all := lw_g (lw_at lw_m5 35 rfl) rfl
theorem q1019 : (Jvm.Cond.laysFinal "SelectoRouteModel" "SelectoRouteModel" "risk" "[I") ∈ lw_all := lw_g (lw_at lw_m5 36 rfl) rfl
theorem q1020 : (Jvm.Cond.soleField "SelectoRouteModel" "risk") ∈ lw_all := lw_g (lw_at lw_m5 37 rfl) rfl
theorem q1021 : (Jvm.Cond.laysFinal "SelectoRouteModel" "SelectoRouteModel" "credits" "[I") ∈ lw_all := lw_g (lw_at lw_m5 38 rfl) rfl
theorem q1022 : (Jvm.Cond.soleField "SelectoRouteModel" "credits") ∈ lw_all := lw_g (lw_at lw_m5 39 rfl) rfl
theorem q1023 : (Jvm.Cond.laysFinal "SelectoRouteModel" "SelectoRouteModel" "cents" "[I") ∈ lw_all := lw_g (lw_at lw_m5 40 rfl) rfl
theorem q1024 : (Jvm.Cond.soleField "SelectoRouteModel" "cents") ∈ lw_all := lw_g (lw_at lw_m5 41 rfl) rfl
theorem q1025 : (Jvm.Cond.laysFinal "SelectoRouteModel" "SelectoRouteModel" "needle" "[I") ∈ lw_all := lw_g (lw_at lw_m5 42 rfl) rfl
theorem q1026 : (Jvm.Cond.soleField "SelectoRouteModel" "needle") ∈ lw_all := lw_g (lw_at lw_m5 43 rfl) rfl
theorem q1027 : (Jvm.Cond.laysFinal "SelectoRouteModel" "SelectoRouteModel" "queued" "[I") ∈ lw_all := lw_g (lw_at lw_m5 44 rfl) rfl
theorem q1028 : (Jvm.Cond.soleField "SelectoRouteModel" "queued") ∈ lw_all := lw_g (lw_at lw_m5 45 rfl) rfl
theorem q1029 : (Jvm.Cond.laysFinal "SelectoRouteModel" "SelectoRouteModel" "queue" "[I") ∈ lw_all := lw_g (lw_at lw_m5 46 rfl) rfl
theorem q1030 : (Jvm.Cond.soleField "SelectoRouteModel" "queue") ∈ lw_all := lw_g (lw_at lw_m5 47 rfl) rfl
theorem q1031 : (Jvm.Cond.laysFinal "SelectoRouteModel" "SelectoRouteModel" "plays" "[I") ∈ lw_all := lw_g (lw_at lw_m5 48 rfl) rfl
theorem q1032 : (Jvm.Cond.soleField "SelectoRouteModel" "plays") ∈ lw_all := lw_g (lw_at lw_m5 49 rfl) rfl
theorem q1033 : (Jvm.Cond.laysFinal "SelectoRouteModel" "SelectoRouteModel" "missing" "[I") ∈ lw_all := lw_g (lw_at lw_m5 50 rfl) rfl
theorem q1034 : (Jvm.Cond.soleField "SelectoRouteModel" "missing") ∈ lw_all := lw_g (lw_at lw_m5 51 rfl) rfl
theorem q1035 : (Jvm.Cond.laysFinal "SelectoRouteModel" "SelectoRouteModel" "landlord" "[I") ∈ lw_all := lw_g (lw_at lw_m5 52 rfl) rfl
theorem q1036 : (Jvm.Cond.soleField "SelectoRouteModel" "landlord") ∈ lw_all := lw_g (lw_at lw_m5 53 rfl) rfl
theorem q1037 : (Jvm.Cond.laysFinal "SelectoRouteModel" "SelectoRouteModel" "jammed" "[Z") ∈ lw_all := lw_g (lw_at lw_m5 54 rfl) rfl
theorem q1038 : (Jvm.Cond.soleField "SelectoRouteModel" "jammed") ∈ lw_all := lw_g (lw_at lw_m5 55 rfl) rfl
theorem q1039 : (Jvm.Cond.laysFinal "SelectoRouteModel" "SelectoRouteModel" "visited" "[Z") ∈ lw_all := lw_g (lw_at lw_m5 56 rfl) rfl
theorem q1040 : (Jvm.Cond.soleField "SelectoRouteModel" "visited") ∈ lw_all := lw_g (lw_at lw_m5 57 rfl) rfl
theorem q1041 : (Jvm.Cond.lays "SelectoRouteModel" "SelectoRouteModel" "boxes" "I") ∈ lw_all := lw_g (lw_at lw_m5 58 rfl) rfl
theorem q1042 : (Jvm.Cond.soleField "SelectoRouteModel" "boxes") ∈ lw_all := lw_g (lw_at lw_m5 59 rfl) rfl
theorem q1043 : (Jvm.Cond.laysFinal "SelectoRouteModel" "SelectoRouteModel" "slots" "[I") ∈ lw_all := lw_g (lw_at lw_m5 60 rfl) rfl
theorem q1044 : (Jvm.Cond.soleField "SelectoRouteModel" "slots") ∈ lw_all := lw_g (lw_at lw_m5 61 rfl) rfl
theorem q1045 : (Jvm.Cond.laysFinal "SelectoRouteModel" "SelectoRouteModel" "wheel" "[I") ∈ lw_all := lw_g (lw_at lw_m5 62 rfl) rfl
theorem q1046 : (Jvm.Cond.soleField "SelectoRouteModel" "wheel") ∈ lw_all := lw_g (lw_at lw_m5 63 rfl) rfl
theorem q1047 : (Jvm.Cond.laysFinal "SelectoRouteModel" "SelectoRouteModel" "asked" "[I") ∈ lw_all := lw_g (lw_at lw_m5 64 rfl) rfl
theorem q1048 : (Jvm.Cond.soleField "SelectoRouteModel" "asked") ∈ lw_all := lw_g (lw_at lw_m5 65 rfl) rfl
theorem q1049 : (Jvm.Cond.laysFinal "SelectoRouteModel" "SelectoRouteModel" "used" "[Z") ∈ lw_all := lw_g (lw_at lw_m5 66 rfl) rfl
theorem q1050 : (Jvm.Cond.soleField "SelectoRouteModel" "used") ∈ lw_all := lw_g (lw_at lw_m5 67 rfl) rfl
theorem q1051 : (Jvm.Cond.laysFinal "SelectoRouteModel" "SelectoRouteModel" "taken" "[Z") ∈ lw_all := lw_g (lw_at lw_m5 68 rfl) rfl
theorem q1052 : (Jvm.Cond.soleField "SelectoRouteModel" "taken") ∈ lw_all := lw_g (lw_at lw_m5 69 rfl) rfl
theorem q1053 : (Jvm.Cond.lays "SelectoRouteModel" "SelectoRouteModel" "z" "I") ∈ lw_all := lw_g (lw_at lw_m5 70 rfl) rfl
theorem q1054 : (Jvm.Cond.soleField "SelectoRouteModel" "z") ∈ lw_all := lw_g (lw_at lw_m5 71 rfl) rfl
theorem q1055 : (Jvm.Cond.lays "SelectoRouteModel" "SelectoRouteModel" "week" "I") ∈ lw_all := lw_g (lw_at lw_m5 72 rfl) rfl
theorem q1056 : (Jvm.Cond.soleField "SelectoRouteModel" "week") ∈ lw_all := lw_g (lw_at lw_m5 73 rfl) rfl
theorem q1057 : (Jvm.Cond.lays "SelectoRouteModel" "SelectoRouteModel" "minutes" "I") ∈ lw_all := lw_g (lw_at lw_m5 74 rfl) rfl
theorem q1058 : (Jvm.Cond.soleField "SelectoRouteModel" "minutes") ∈ lw_all := lw_g (lw_at lw_m5 75 rfl) rfl
theorem q1059 : (Jvm.Cond.lays "SelectoRouteModel" "SelectoRouteModel" "earned" "I") ∈ lw_all := lw_g (lw_at lw_m5 76 rfl) rfl
theorem q1060 : (Jvm.Cond.soleField "SelectoRouteModel" "earned") ∈ lw_all := lw_g (lw_at lw_m5 77 rfl) rfl
theorem q1061 : (Jvm.Cond.lays "SelectoRouteModel" "SelectoRouteModel" "thrown" "I") ∈ lw_all := lw_g (lw_at lw_m5 78 rfl) rfl
theorem q1062 : (Jvm.Cond.soleField "SelectoRouteModel" "thrown") ∈ lw_all := lw_g (lw_at lw_m5 79 rfl) rfl
theorem q1063 : (Jvm.Cond.superclass "SelectoRouteModel" "java/lang/Object") ∈ lw_all := lw_g (lw_at lw_m5 80 rfl) rfl
theorem q1065 : (Jvm.Cond.instanceMethod ({ cls := "SelectoRouteModel", name := "thrown", desc := "()I" } : Jvm.MethodName)) ∈ lw_all := lw_g (lw_at lw_m5 82 rfl) rfl
theorem q1066 : (Jvm.Cond.selects "SelectoRouteModel" ({ cls := "SelectoRouteModel", name := "thrown", desc := "()I" } : Jvm.MethodName) ({ cls := "SelectoRouteModel", name := "thrown", desc := "()I" } : Jvm.MethodName)) ∈ lw_all := lw_g (lw_at lw_m5 83 rfl) rfl
theorem q1067 : (Jvm.Cond.code ({ cls := "SelectoRouteModel", name := "thrown", desc := "()I" } : Jvm.MethodName) prog_9_method_2_code (1 : Nat) (Option.some Jvm.ClassFile.FieldType.int)) ∈ lw_all := lw_g (lw_at lw_m5 84 rfl) rfl
theorem q1069 : (Jvm.Cond.instanceMethod ({ cls := "SelectoRouteModel", name := "addDisc", desc := "(III)I" } : Jvm.MethodName)) ∈ lw_all := lw_g (lw_at lw_m5 86 rfl) rfl
theorem q1070 : (Jvm.Cond.selects "SelectoRouteModel" ({ cls := "SelectoRouteModel", name := "addDisc", desc := "(III)I" } : Jvm.MethodName) ({ cls := "SelectoRouteModel", name := "addDisc", desc := "(III)I" } : Jvm.MethodName)) ∈ lw_all := lw_g (lw_at lw_m5 87 rfl) rfl
theorem q1071 : (Jvm.Cond.code ({ cls := "SelectoRouteModel", name := "addDisc", desc := "(III)I" } : Jvm.MethodName) prog_9_method_8_code (4 : Nat) (Option.some Jvm.ClassFile.FieldType.int)) ∈ lw_all := lw_g (lw_at lw_m5 88 rfl) rfl
theorem q1072 : (Jvm.Cond.methodLink "SelectoRouteModel" (93 : Nat) ({ cls := "SelectoRouteModel", name := "isIn", desc := "(III)Z" } : Jvm.MethodName)) ∈ lw_all := lw_g (lw_at lw_m5 89 rfl) rfl
theorem q1073 : (Jvm.Cond.static ({ cls := "SelectoRouteModel", name := "isIn", desc := "(III)Z" } : Jvm.MethodName)) ∈ lw_all := lw_g (lw_at lw_m5 90 rfl) rfl
theorem q1074 : (Jvm.Cond.code ({ cls := "SelectoRouteModel", name := "isIn", desc := "(III)Z" } : Jvm.MethodName) prog_9_method_4_code (3 : Nat) (Option.some Jvm.ClassFile.FieldType.boolean)) ∈ lw_all := lw_g (lw_at lw_m5 91 rfl) rfl
theorem q1075 : (Jvm.Cond.methodLink "SelectoRouteModel" (104 : Nat) ({ cls := "SelectoRouteModel", name := "no", desc := "(ZI)Z" } : Jvm.MethodName)) ∈ lw_all := lw_g (lw_at lw_m5 92 rfl) rfl
theorem q1076 : (Jvm.Cond.privateMethod ({ cls := "SelectoRouteModel", name := "no", desc := "(ZI)Z" } : Jvm.MethodName)) ∈ lw_tbl := lw_at lw_m5 93 rfl
theorem q1077 : (Jvm.Cond.instanceMethod ({ cls := "SelectoRouteModel", name := "no", desc := "(ZI)Z" } : Jvm.MethodName)) ∈ lw_all := lw_g (lw_at lw_m5 94 rfl) rfl
theorem q1078 : (Jvm.Cond.code ({ cls := "SelectoRouteModel", name := "no", desc := "(ZI)Z" } : Jvm.MethodName) prog_9_method_3_code (3 : Nat) (Option.some Jvm.ClassFile.FieldType.boolean)) ∈ lw_all := lw_g (lw_at lw_m5 95 rfl) rfl
theorem q1080 : (Jvm.Cond.instanceMethod ({ cls := "SelectoRouteModel", name := "addBox", desc := "(II)I" } : Jvm.MethodName)) ∈ lw_all := lw_g (lw_at lw_m5 97 rfl) rfl
theorem q1081 : (Jvm.Cond.selects "SelectoRouteModel" ({ cls := "SelectoRouteModel", name := "addBox", desc := "(II)I" } : Jvm.MethodName) ({ cls := "SelectoRouteModel", name := "addBox", desc := "(II)I" } : Jvm.MethodName)) ∈ lw_all := lw_g (lw_at lw_m5 98 rfl) rfl
theorem q1082 : (Jvm.Cond.code ({ cls := "SelectoRouteModel", name := "addBox", desc := "(II)I" } : Jvm.MethodName) prog_9_method_9_code (3 : Nat) (Option.some Jvm.ClassFile.FieldType.int)) ∈ lw_all := lw_g (lw_at lw_m5 99 rfl) rfl
theorem q1084 : (Jvm.Cond.instanceMethod ({ cls := "SelectoRouteModel", name := "setRisk", desc := "(II)I" } : Jvm.MethodName)) ∈ lw_all := lw_g (lw_at lw_m5 101 rfl) rfl
theorem q1085 : (Jvm.Cond.selects "SelectoRouteModel" ({ cls := "SelectoRouteModel", name := "setRisk", desc := "(II)I" } : Jvm.MethodName) ({ cls := "SelectoRouteModel", name := "setRisk", desc := "(II)I" } : Jvm.MethodName)) ∈ lw_all := lw_g (lw_at lw_m5 102 rfl) rfl
theorem q1086 : (Jvm.Cond.code ({ cls := "SelectoRouteModel", name := "setRisk", desc := "(II)I" } : Jvm.MethodName) prog_9_method_10_code (4 : Nat) (Option.some Jvm.ClassFile.FieldType.int)) ∈ lw_all := lw_g (lw_at lw_m5 103 rfl) rfl
theorem q1087 : (Jvm.Cond.methodLink "SelectoRouteModel" (100 : Nat) ({ cls := "SelectoRouteModel", name := "isBox", desc := "(I)Z" } : Jvm.MethodName)) ∈ lw_all := lw_g (lw_at lw_m5 104 rfl) rfl
theorem q1088 : (Jvm.Cond.privateMethod ({ cls := "SelectoRouteModel", name := "isBox", desc := "(I)Z" } : Jvm.MethodName)) ∈ lw_tbl := lw_at lw_m5 105 rfl
theorem q1089 : (Jvm.Cond.instanceMethod ({ cls := "SelectoRouteModel", name := "isBox", desc := "(I)Z" } : Jvm.MethodName)) ∈ lw_all := lw_g (lw_at lw_m5 106 rfl) rfl
theorem q1090 : (Jvm.Cond.code ({ cls := "SelectoRouteModel", name := "isBox", desc := "(I)Z" } : Jvm.MethodName) prog_9_method_6_code (2 : Nat) (Option.some Jvm.ClassFile.FieldType.boolean)) ∈ lw_all := lw_g (lw_at lw_m5 107 rfl) rfl
theorem q1092 : (Jvm.Cond.instanceMethod ({ cls := "SelectoRouteModel", name := "setSeed", desc := "(I)I" } : Jvm.MethodName)) ∈ lw_all := lw_g (lw_at lw_m5 109 rfl) rfl
theorem q1093 : (Jvm.Cond.selects "SelectoRouteModel" ({ cls := "SelectoRouteModel", name := "setSeed", desc := "(I)I" } : Jvm.MethodName) ({ cls := "SelectoRouteModel", name := "setSeed", desc := "(I)I" } : Jvm.MethodName)) ∈ lw_all := lw_g (lw_at lw_m5 110 rfl) rfl
theorem q1094 : (Jvm.Cond.code ({ cls := "SelectoRouteModel", name := "setSeed", desc := "(I)I" } : Jvm.MethodName) prog_9_method_11_code (3 : Nat) (Option.some Jvm.ClassFile.FieldType.int)) ∈ lw_all := lw_g (lw_at lw_m5 111 rfl) rfl
theorem q1095 : (Jvm.Cond.constant "SelectoRouteModel" (108 : Nat) (2147483646 : Int32)) ∈ lw_all := lw_g (lw_at lw_m5 112 rfl) rfl
theorem q1097 : (Jvm.Cond.instanceMethod ({ cls := "SelectoRouteModel", name := "insert", desc := "(IC)I" } : Jvm.MethodName)) ∈ lw_all := lw_g (lw_at lw_m5 114 rfl) rfl
theorem q1098 : (Jvm.Cond.selects "SelectoRouteModel" ({ cls := "SelectoRouteModel", name := "insert", desc := "(IC)I" } : Jvm.MethodName) ({ cls := "SelectoRouteModel", name := "insert", desc := "(IC)I" } : Jvm.MethodName)) ∈ lw_all := lw_g (lw_at lw_m5 115 rfl) rfl
theorem q1099 : (Jvm.Cond.code ({ cls := "SelectoRouteModel", name := "insert", desc := "(IC)I" } : Jvm.MethodName) prog_9_method_14_code (4 : Nat) (Option.some Jvm.ClassFile.FieldType.int)) ∈ lw_all := lw_g (lw_at lw_m5 116 rfl) rfl
theorem q1101 : (Jvm.Cond.instanceMethod ({ cls := "SelectoRouteModel", name := "press", desc := "(II)I" } : Jvm.MethodName)) ∈ lw_all := lw_g (lw_at lw_m5 118 rfl) rfl
theorem q1102 : (Jvm.Cond.selects "SelectoRouteModel" ({ cls := "SelectoRouteModel", name := "press", desc := "(II)I" } : Jvm.MethodName) ({ cls := "SelectoRouteModel", name := "press", desc := "(II)I" } : Jvm.MethodName)) ∈ lw_all := lw_g (lw_at lw_m5 119 rfl) rfl
theorem q1103 : (Jvm.Cond.code ({ cls := "SelectoRouteModel", name := "press", desc := "(II)I" } : Jvm.MethodName) prog_9_method_15_code (3 : Nat) (Option.some Jvm.ClassFile.FieldType.int)) ∈ lw_all := lw_g (lw_at lw_m5 120 rfl) rfl
theorem q1104 : (Jvm.Cond.methodLink "SelectoRouteModel" (116 : Nat) ({ cls := "SelectoRouteModel", name := "isSlot", desc := "(II)Z" } : Jvm.MethodName)) ∈ lw_all := lw_g (lw_at lw_m5 121 rfl) rfl
theorem q1105 : (Jvm.Cond.privateMethod ({ cls := "SelectoRouteModel", name := "isSlot", desc := "(II)Z" } : Jvm.MethodName)) ∈ lw_tbl := lw_at lw_m5 122 rfl
theorem q1106 : (Jvm.Cond.instanceMethod ({ cls := "SelectoRouteModel", name := "isSlot", desc := "(II)Z" } : Jvm.MethodName)) ∈ lw_all := lw_g (lw_at lw_m5 123 rfl) rfl
theorem q1107 : (Jvm.Cond.code ({ cls := "SelectoRouteModel", name := "isSlot", desc := "(II)Z" } : Jvm.MethodName) prog_9_method_7_code (3 : Nat) (Option.some Jvm.ClassFile.FieldType.boolean)) ∈ lw_all := lw_g (lw_at lw_m5 124 rfl) rfl
theorem q1109 : (Jvm.Cond.instanceMethod ({ cls := "SelectoRouteModel", name := "play", desc := "(I)C" } : Jvm.MethodName)) ∈ lw_all := lw_g (lw_at lw_m5 126 rfl) rfl
theorem q1110 : (Jvm.Cond.selects "SelectoRouteModel" ({ cls := "SelectoRouteModel", name := "play", desc := "(I)C" } : Jvm.MethodName) ({ cls := "SelectoRouteModel", name := "play", desc := "(I)C" } : Jvm.MethodName)) ∈ lw_all := lw_g (lw_at lw_m5 127 rfl) rfl
theorem q1111 : (Jvm.Cond.code ({ cls := "SelectoRouteModel", name := "play", desc := "(I)C" } : Jvm.MethodName) prog_9_method_17_code (4 : Nat) (Option.some Jvm.ClassFile.FieldType.char)) ∈ lw_all := lw_g (lw_at lw_m5 128 rfl) rfl
theorem q1112 : (Jvm.Cond.constantLong "SelectoRouteModel" (120 : Nat) (48271 : Int64)) ∈ lw_all := lw_g (lw_at lw_m5 129 rfl) rfl
theorem q1113 : (Jvm.Cond.constantLong "SelectoRouteModel" (122 : Nat) (2147483647 : Int64)) ∈ lw_all := lw_g (lw_at lw_m5 130 rfl) rfl
theorem q1114 : (Jvm.Cond.methodLink "SelectoRouteModel" (124 : Nat) ({ cls := "SelectoRouteModel", name := "wears", desc := "(II)V" } : Jvm.MethodName)) ∈ lw_all := lw_g (lw_at lw_m5 131 rfl) rfl
theorem q1115 : (Jvm.Cond.privateMethod ({ cls := "SelectoRouteModel", name := "wears", desc := "(II)V" } : Jvm.MethodName)) ∈ lw_tbl := lw_at lw_m5 132 rfl
theorem q1116 : (Jvm.Cond.instanceMethod ({ cls := "SelectoRouteModel", name := "wears", desc := "(II)V" } : Jvm.MethodName)) ∈ lw_all := lw_g (lw_at lw_m5 133 rfl) rfl
theorem q1117 : (Jvm.Cond.code ({ cls := "SelectoRouteModel", name := "wears", desc := "(II)V" } : Jvm.MethodName) prog_9_method_16_code (5 : Nat) (Option.none : Option Jvm.ClassFile.FieldType)) ∈ lw_all := lw_g (lw_at lw_m5 134 rfl) rfl
theorem q1119 : (Jvm.Cond.instanceMethod ({ cls := "SelectoRouteModel", name := "getCredits", desc := "(I)I" } : Jvm.MethodName)) ∈ lw_all := lw_g (lw_at lw_m5 136 rfl) rfl
theorem q1120 : (Jvm.Cond.selects "SelectoRouteModel" ({ cls := "SelectoRouteModel", name := "getCredits", desc := "(I)I" } : Jvm.MethodName) ({ cls := "SelectoRouteModel", name := "getCredits", desc := "(I)I" } : Jvm.MethodName)) ∈ lw_all := lw_g (lw_at lw_m5 137 rfl) rfl
theorem q1121 : (Jvm.Cond.code ({ cls := "SelectoRouteModel", name := "getCredits", desc := "(I)I" } : Jvm.MethodName) prog_9_method_18_code (2 : Nat) (Option.some Jvm.ClassFile.FieldType.int)) ∈ lw_all := lw_g (lw_at lw_m5 138 rfl) rfl
theorem q1123 : (Jvm.Cond.instanceMethod ({ cls := "SelectoRouteModel", name := "getQueued", desc := "(I)I" } : Jvm.MethodName)) ∈ lw_all := lw_g (lw_at lw_m5 140 rfl) rfl
theorem q1124 : (Jvm.Cond.selects "SelectoRouteModel" ({ cls := "SelectoRouteModel", name := "getQueued", desc := "(I)I" } : Jvm.MethodName) ({ cls := "SelectoRouteModel", name := "getQueued", desc := "(I)I" } : Jvm.MethodName)) ∈ lw_all := lw_g (lw_at lw_m5 141 rfl) rfl
theorem q1125 : (Jvm.Cond.code ({ cls := "SelectoRouteModel", name := "getQueued", desc := "(I)I" } : Jvm.MethodName) prog_9_method_19_code (2 : Nat) (Option.some Jvm.ClassFile.FieldType.int)) ∈ lw_all := lw_g (lw_at lw_m5 142 rfl) rfl
theorem q1127 : (Jvm.Cond.instanceMethod ({ cls := "SelectoRouteModel", name := "getCents", desc := "(I)I" } : Jvm.MethodName)) ∈ lw_all := lw_g (lw_at lw_m5 144 rfl) rfl
theorem q1128 : (Jvm.Cond.selects "SelectoRouteModel" ({ cls := "SelectoRouteModel", name := "getCents", desc := "(I)I" } : Jvm.MethodName) ({ cls := "SelectoRouteModel", name := "getCents", desc := "(I)I" } : Jvm.MethodName)) ∈ lw_all := lw_g (lw_at lw_m5 145 rfl) rfl
theorem q1129 : (Jvm.Cond.code ({ cls := "SelectoRouteModel", name := "getCents", desc := "(I)I" } : Jvm.MethodName) prog_9_method_20_code (2 : Nat) (Option.some Jvm.ClassFile.FieldType.int)) ∈ lw_all := lw_g (lw_at lw_m5 146 rfl) rfl
theorem q1131 : (Jvm.Cond.instanceMethod ({ cls := "SelectoRouteModel", name := "isJammed", desc := "(I)Z" } : Jvm.MethodName)) ∈ lw_all := lw_g (lw_at lw_m5 148 rfl) rfl
theorem q1132 : (Jvm.Cond.selects "SelectoRouteModel" ({ cls := "SelectoRouteModel", name := "isJammed", desc := "(I)Z" } : Jvm.MethodName) ({ cls := "SelectoRouteModel", name := "isJammed", desc := "(I)Z" } : Jvm.MethodName)) ∈ lw_all := lw_g (lw_at lw_m5 149 rfl) rfl
theorem q1133 : (Jvm.Cond.code ({ cls := "SelectoRouteModel", name := "isJammed", desc := "(I)Z" } : Jvm.MethodName) prog_9_method_21_code (2 : Nat) (Option.some Jvm.ClassFile.FieldType.boolean)) ∈ lw_all := lw_g (lw_at lw_m5 150 rfl) rfl
theorem q1135 : (Jvm.Cond.instanceMethod ({ cls := "SelectoRouteModel", name := "getWheel", desc := "(II)I" } : Jvm.MethodName)) ∈ lw_all := lw_g (lw_at lw_m5 152 rfl) rfl
theorem q1136 : (Jvm.Cond.selects "SelectoRouteModel" ({ cls := "SelectoRouteModel", name := "getWheel", desc := "(II)I" } : Jvm.MethodName) ({ cls := "SelectoRouteModel", name := "getWheel", desc := "(II)I" } : Jvm.MethodName)) ∈ lw_all := lw_g (lw_at lw_m5 153 rfl) rfl
theorem q1137 : (Jvm.Cond.code ({ cls := "SelectoRouteModel", name := "getWheel", desc := "(II)I" } : Jvm.MethodName) prog_9_method_22_code (3 : Nat) (Option.some Jvm.ClassFile.FieldType.int)) ∈ lw_all := lw_g (lw_at lw_m5 154 rfl) rfl
theorem q1139 : (Jvm.Cond.instanceMethod ({ cls := "SelectoRouteModel", name := "getNeedle", desc := "(I)I" } : Jvm.MethodName)) ∈ lw_all := lw_g (lw_at lw_m5 156 rfl) rfl
theorem q1140 : (Jvm.Cond.selects "SelectoRouteModel" ({ cls := "SelectoRouteModel", name := "getNeedle", desc := "(I)I" } : Jvm.MethodName) ({ cls := "SelectoRouteModel", name := "getNeedle", desc := "(I)I" } : Jvm.MethodName)) ∈ lw_all := lw_g (lw_at lw_m5 157 rfl) rfl
theorem q1141 : (Jvm.Cond.code ({ cls := "SelectoRouteModel", name := "getNeedle", desc := "(I)I" } : Jvm.MethodName) prog_9_method_23_code (2 : Nat) (Option.some Jvm.ClassFile.FieldType.int)) ∈ lw_all := lw_g (lw_at lw_m5 158 rfl) rfl
theorem q1143 : (Jvm.Cond.instanceMethod ({ cls := "SelectoRouteModel", name := "getWear", desc := "(I)I" } : Jvm.MethodName)) ∈ lw_all := lw_g (lw_at lw_m5 160 rfl) rfl
theorem q1144 : (Jvm.Cond.selects "SelectoRouteModel" ({ cls := "SelectoRouteModel", name := "getWear", desc := "(I)I" } : Jvm.MethodName) ({ cls := "SelectoRouteModel", name := "getWear", desc := "(I)I" } : Jvm.MethodName)) ∈ lw_all := lw_g (lw_at lw_m5 161 rfl) rfl
theorem q1145 : (Jvm.Cond.code ({ cls := "SelectoRouteModel", name := "getWear", desc := "(I)I" } : Jvm.MethodName) prog_9_method_24_code (2 : Nat) (Option.some Jvm.ClassFile.FieldType.int)) ∈ lw_all := lw_g (lw_at lw_m5 162 rfl) rfl
theorem q1146 : (Jvm.Cond.methodLink "SelectoRouteModel" (128 : Nat) ({ cls := "SelectoRouteModel", name := "isDisc", desc := "(I)Z" } : Jvm.MethodName)) ∈ lw_all := lw_g (lw_at lw_m5 163 rfl) rfl
theorem q1147 : (Jvm.Cond.privateMethod ({ cls := "SelectoRouteModel", name := "isDisc", desc := "(I)Z" } : Jvm.MethodName)) ∈ lw_tbl := lw_at lw_m5 164 rfl
theorem q1148 : (Jvm.Cond.instanceMethod ({ cls := "SelectoRouteModel", name := "isDisc", desc := "(I)Z" } : Jvm.MethodName)) ∈ lw_all := lw_g (lw_at lw_m5 165 rfl) rfl
theorem q1149 : (Jvm.Cond.code ({ cls := "SelectoRouteModel", name := "isDisc", desc := "(I)Z" } : Jvm.MethodName) prog_9_method_5_code (2 : Nat) (Option.some Jvm.ClassFile.FieldType.boolean)) ∈ lw_all := lw_g (lw_at lw_m5 166 rfl) rfl
theorem q1151 : (Jvm.Cond.instanceMethod ({ cls := "SelectoRouteModel", name := "getPlace", desc := "(I)I" } : Jvm.MethodName)) ∈ lw_all := lw_g (lw_at lw_m5 168 rfl) rfl
theorem q1152 : (Jvm.Cond.selects "SelectoRouteModel" ({ cls := "SelectoRouteModel", name := "getPlace", desc := "(I)I" } : Jvm.MethodName) ({ cls := "SelectoRouteModel", name := "getPlace", desc := "(I)I" } : Jvm.MethodName)) ∈ lw_all := lw_g (lw_at lw_m5 169 rfl) rfl
theorem q1153 : (Jvm.Cond.code ({ cls := "SelectoRouteModel", name := "getPlace", desc := "(I)I" } : Jvm.MethodName) prog_9_method_25_code (2 : Nat) (Option.some Jvm.ClassFile.FieldType.int)) ∈ lw_all := lw_g (lw_at lw_m5 170 rfl) rfl
theorem q1155 : (Jvm.Cond.instanceMethod ({ cls := "SelectoRouteModel", name := "discAt", desc := "(II)I" } : Jvm.MethodName)) ∈ lw_all := lw_g (lw_at lw_m5 172 rfl) rfl
theorem q1156 : (Jvm.Cond.selects "SelectoRouteModel" ({ cls := "SelectoRouteModel", name := "discAt", desc := "(II)I" } : Jvm.MethodName) ({ cls := "SelectoRouteModel", name := "discAt", desc := "(II)I" } : Jvm.MethodName)) ∈ lw_all := lw_g (lw_at lw_m5 173 rfl) rfl
theorem q1157 : (Jvm.Cond.code ({ cls := "SelectoRouteModel", name := "discAt", desc := "(II)I" } : Jvm.MethodName) prog_9_method_26_code (3 : Nat) (Option.some Jvm.ClassFile.FieldType.int)) ∈ lw_all := lw_g (lw_at lw_m5 174 rfl) rfl
theorem q1159 : (Jvm.Cond.instanceMethod ({ cls := "SelectoRouteModel", name := "pull", desc := "(I)I" } : Jvm.MethodName)) ∈ lw_all := lw_g (lw_at lw_m5 176 rfl) rfl
theorem q1160 : (Jvm.Cond.selects "SelectoRouteModel" ({ cls := "SelectoRouteModel", name := "pull", desc := "(I)I" } : Jvm.MethodName) ({ cls := "SelectoRouteModel", name := "pull", desc := "(I)I" } : Jvm.MethodName)) ∈ lw_all := lw_g (lw_at lw_m5 177 rfl) rfl
theorem q1161 : (Jvm.Cond.code ({ cls := "SelectoRouteModel", name := "pull", desc := "(I)I" } : Jvm.MethodName) prog_9_method_27_code (2 : Nat) (Option.some Jvm.ClassFile.FieldType.int)) ∈ lw_all := lw_g (lw_at lw_m5 178 rfl) rfl
theorem q1162 : (Jvm.Cond.methodLink "SelectoRouteModel" (112 : Nat) ({ cls := "SelectoRouteModel", name := "pullAt", desc := "(II)I" } : Jvm.MethodName)) ∈ lw_all := lw_g (lw_at lw_m5 179 rfl) rfl
theorem q1163 : (Jvm.Cond.privateMethod ({ cls := "SelectoRouteModel", name := "pullAt", desc := "(II)I" } : Jvm.MethodName)) ∈ lw_tbl := lw_at lw_m5 180 rfl
theorem q1164 : (Jvm.Cond.instanceMethod ({ cls := "SelectoRouteModel", name := "pullAt", desc := "(II)I" } : Jvm.MethodName)) ∈ lw_all := lw_g (lw_at lw_m5 181 rfl) rfl
theorem q1165 : (Jvm.Cond.code ({ cls := "SelectoRouteModel", name := "pullAt", desc := "(II)I" } : Jvm.MethodName) prog_9_method_12_code (5 : Nat) (Option.some Jvm.ClassFile.FieldType.int)) ∈ lw_all := lw_g (lw_at lw_m5 182 rfl) rfl
theorem q1167 : (Jvm.Cond.instanceMethod ({ cls := "SelectoRouteModel", name := "pullIn", desc := "(II)I" } : Jvm.MethodName)) ∈ lw_all := lw_g (lw_at lw_m5 184 rfl) rfl
theorem q1168 : (Jvm.Cond.selects "SelectoRouteModel" ({ cls := "SelectoRouteModel", name := "pullIn", desc := "(II)I" } : Jvm.MethodName) ({ cls := "SelectoRouteModel", name := "pullIn", desc := "(II)I" } : Jvm.MethodName)) ∈ lw_all := lw_g (lw_at lw_m5 185 rfl) rfl
theorem q1169 : (Jvm.Cond.code ({ cls := "SelectoRouteModel", name := "pullIn", desc := "(II)I" } : Jvm.MethodName) prog_9_method_28_code (3 : Nat) (Option.some Jvm.ClassFile.FieldType.int)) ∈ lw_all := lw_g (lw_at lw_m5 186 rfl) rfl
theorem q1171 : (Jvm.Cond.instanceMethod ({ cls := "SelectoRouteModel", name := "pass", desc := "()I" } : Jvm.MethodName)) ∈ lw_all := lw_g (lw_at lw_m5 188 rfl) rfl
theorem q1172 : (Jvm.Cond.selects "SelectoRouteModel" ({ cls := "SelectoRouteModel", name := "pass", desc := "()I" } : Jvm.MethodName) ({ cls := "SelectoRouteModel", name := "pass", desc := "()I" } : Jvm.MethodName)) ∈ lw_all := lw_g (lw_at lw_m5 189 rfl) rfl
theorem q1173 : (Jvm.Cond.code ({ cls := "SelectoRouteModel", name := "pass", desc := "()I" } : Jvm.MethodName) prog_9_method_29_code (4 : Nat) (Option.some Jvm.ClassFile.FieldType.int)) ∈ lw_all := lw_g (lw_at lw_m5 190 rfl) rfl
theorem q1174 : (Jvm.Cond.methodLink "SelectoRouteModel" (131 : Nat) ({ cls := "SelectoRouteModel", name := "pullOfSlot", desc := "(I)I" } : Jvm.MethodName)) ∈ lw_all := lw_g (lw_at lw_m5 191 rfl) rfl
theorem q1175 : (Jvm.Cond.privateMethod ({ cls := "SelectoRouteModel", name := "pullOfSlot", desc := "(I)I" } : Jvm.MethodName)) ∈ lw_tbl := lw_at lw_m5 192 rfl
theorem q1176 : (Jvm.Cond.instanceMethod ({ cls := "SelectoRouteModel", name := "pullOfSlot", desc := "(I)I" } : Jvm.MethodName)) ∈ lw_all := lw_g (lw_at lw_m5 193 rfl) rfl
theorem q1177 : (Jvm.Cond.code ({ cls := "SelectoRouteModel", name := "pullOfSlot", desc := "(I)I" } : Jvm.MethodName) prog_9_method_13_code (2 : Nat) (Option.some Jvm.ClassFile.FieldType.int)) ∈ lw_all := lw_g (lw_at lw_m5 194 rfl) rfl
theorem q1179 : (Jvm.Cond.instanceMethod ({ cls := "SelectoRouteModel", name := "getWeek", desc := "()I" } : Jvm.MethodName)) ∈ lw_all := lw_g (lw_at lw_m5 196 rfl) rfl
theorem q1180 : (Jvm.Cond.selects "SelectoRouteModel" ({ cls := "SelectoRouteModel", name := "getWeek", desc := "()I" } : Jvm.MethodName) ({ cls := "SelectoRouteModel", name := "getWeek", desc := "()I" } : Jvm.MethodName)) ∈ lw_all := lw_g (lw_at lw_m5 197 rfl) rfl
theorem q1181 : (Jvm.Cond.code ({ cls := "SelectoRouteModel", name := "getWeek", desc := "()I" } : Jvm.MethodName) prog_9_method_30_code (1 : Nat) (Option.some Jvm.ClassFile.FieldType.int)) ∈ lw_all := lw_g (lw_at lw_m5 198 rfl) rfl
theorem q1183 : (Jvm.Cond.instanceMethod ({ cls := "SelectoRouteModel", name := "getMinutes", desc := "()I" } : Jvm.MethodName)) ∈ lw_all := lw_g (lw_at lw_m5 200 rfl) rfl
theorem q1184 : (Jvm.Cond.selects "SelectoRouteModel" ({ cls := "SelectoRouteModel", name := "getMinutes", desc := "()I" } : Jvm.MethodName) ({ cls := "SelectoRouteModel", name := "getMinutes", desc := "()I" } : Jvm.MethodName)) ∈ lw_all := lw_g (lw_at lw_m5 201 rfl) rfl
theorem q1185 : (Jvm.Cond.code ({ cls := "SelectoRouteModel", name := "getMinutes", desc := "()I" } : Jvm.MethodName) prog_9_method_31_code (1 : Nat) (Option.some Jvm.ClassFile.FieldType.int)) ∈ lw_all := lw_g (lw_at lw_m5 202 rfl) rfl
theorem q1187 : (Jvm.Cond.instanceMethod ({ cls := "SelectoRouteModel", name := "visit", desc := "(I)I" } : Jvm.MethodName)) ∈ lw_all := lw_g (lw_at lw_m5 204 rfl) rfl
theorem q1188 : (Jvm.Cond.selects "SelectoRouteModel" ({ cls := "SelectoRouteModel", name := "visit", desc := "(I)I" } : Jvm.MethodName) ({ cls := "SelectoRouteModel", name := "visit", desc := "(I)I" } : Jvm.MethodName)) ∈ lw_all := lw_g (lw_at lw_m5 205 rfl) rfl
theorem q1189 : (Jvm.Cond.code ({ cls := "SelectoRouteModel", name := "visit", desc := "(I)I" } : Jvm.MethodName) prog_9_method_32_code (4 : Nat) (Option.some Jvm.ClassFile.FieldType.int)) ∈ lw_all := lw_g (lw_at lw_m5 206 rfl) rfl
theorem q1191 : (Jvm.Cond.instanceMethod ({ cls := "SelectoRouteModel", name := "getShort", desc := "(I)I" } : Jvm.MethodName)) ∈ lw_all := lw_g (lw_at lw_m5 208 rfl) rfl
theorem q1192 : (Jvm.Cond.selects "SelectoRouteModel" ({ cls := "SelectoRouteModel", name := "getShort", desc := "(I)I" } : Jvm.MethodName) ({ cls := "SelectoRouteModel", name := "getShort", desc := "(I)I" } : Jvm.MethodName)) ∈ lw_all := lw_g (lw_at lw_m5 209 rfl) rfl
theorem q1193 : (Jvm.Cond.code ({ cls := "SelectoRouteModel", name := "getShort", desc := "(I)I" } : Jvm.MethodName) prog_9_method_33_code (2 : Nat) (Option.some Jvm.ClassFile.FieldType.int)) ∈ lw_all := lw_g (lw_at lw_m5 210 rfl) rfl
theorem q1195 : (Jvm.Cond.instanceMethod ({ cls := "SelectoRouteModel", name := "getShare", desc := "(I)I" } : Jvm.MethodName)) ∈ lw_all := lw_g (lw_at lw_m5 212 rfl) rfl
theorem q1196 : (Jvm.Cond.selects "SelectoRouteModel" ({ cls := "SelectoRouteModel", name := "getShare", desc := "(I)I" } : Jvm.MethodName) ({ cls := "SelectoRouteModel", name := "getShare", desc := "(I)I" } : Jvm.MethodName)) ∈ lw_all := lw_g (lw_at lw_m5 213 rfl) rfl
theorem q1197 : (Jvm.Cond.code ({ cls := "SelectoRouteModel", name := "getShare", desc := "(I)I" } : Jvm.MethodName) prog_9_method_34_code (2 : Nat) (Option.some Jvm.ClassFile.FieldType.int)) ∈ lw_all := lw_g (lw_at lw_m5 214 rfl) rfl
theorem q1199 : (Jvm.Cond.instanceMethod ({ cls := "SelectoRouteModel", name := "getEarned", desc := "()I" } : Jvm.MethodName)) ∈ lw_all := lw_g (lw_at lw_m5 216 rfl) rfl
theorem q1200 : (Jvm.Cond.selects "SelectoRouteModel" ({ cls := "SelectoRouteModel", name := "getEarned", desc := "()I" } : Jvm.MethodName) ({ cls := "SelectoRouteModel", name := "getEarned", desc := "()I" } : Jvm.MethodName)) ∈ lw_all := lw_g (lw_at lw_m5 217 rfl) rfl
theorem q1201 : (Jvm.Cond.code ({ cls := "SelectoRouteModel", name := "getEarned", desc := "()I" } : Jvm.MethodName) prog_9_method_35_code (1 : Nat) (Option.some Jvm.ClassFile.FieldType.int)) ∈ lw_all := lw_g (lw_at lw_m5 218 rfl) rfl
theorem q1203 : (Jvm.Cond.instanceMethod ({ cls := "SelectoRouteModel", name := "change", desc := "(III)I" } : Jvm.MethodName)) ∈ lw_all := lw_g (lw_at lw_m5 220 rfl) rfl
theorem q1204 : (Jvm.Cond.selects "SelectoRouteModel" ({ cls := "SelectoRouteModel", name := "change", desc := "(III)I" } : Jvm.MethodName) ({ cls := "SelectoRouteModel", name := "change", desc := "(III)I" } : Jvm.MethodName)) ∈ lw_all := lw_g (lw_at lw_m5 221 rfl) rfl
theorem q1205 : (Jvm.Cond.code ({ cls := "SelectoRouteModel", name := "change", desc := "(III)I" } : Jvm.MethodName) prog_9_method_37_code (6 : Nat) (Option.some Jvm.ClassFile.FieldType.int)) ∈ lw_all := lw_g (lw_at lw_m5 222 rfl) rfl
theorem q1206 : (Jvm.Cond.methodLink "SelectoRouteModel" (138 : Nat) ({ cls := "SelectoRouteModel", name := "isInVan", desc := "(I)Z" } : Jvm.MethodName)) ∈ lw_all := lw_g (lw_at lw_m5 223 rfl) rfl
theorem q1207 : (Jvm.Cond.privateMethod ({ cls := "SelectoRouteModel", name := "isInVan", desc := "(I)Z" } : Jvm.MethodName)) ∈ lw_tbl := lw_at lw_m5 224 rfl
theorem q1208 : (Jvm.Cond.instanceMethod ({ cls := "SelectoRouteModel", name := "isInVan", desc := "(I)Z" } : Jvm.MethodName)) ∈ lw_all := lw_g (lw_at lw_m5 225 rfl) rfl
theorem q1209 : (Jvm.Cond.code ({ cls := "SelectoRouteModel", name := "isInVan", desc := "(I)Z" } : Jvm.MethodName) prog_9_method_36_code (2 : Nat) (Option.some Jvm.ClassFile.FieldType.boolean)) ∈ lw_all := lw_g (lw_at lw_m5 226 rfl) rfl
theorem q1211 : (Jvm.Cond.instanceMethod ({ cls := "SelectoRouteModel", name := "changeNeedle", desc := "(I)I" } : Jvm.MethodName)) ∈ lw_all := lw_g (lw_at lw_m5 228 rfl) rfl
theorem q1212 : (Jvm.Cond.selects "SelectoRouteModel" ({ cls := "SelectoRouteModel", name := "changeNeedle", desc := "(I)I" } : Jvm.MethodName) ({ cls := "SelectoRouteModel", name := "changeNeedle", desc := "(I)I" } : Jvm.MethodName)) ∈ lw_all := lw_g (lw_at lw_m5 229 rfl) rfl
theorem q1213 : (Jvm.Cond.code ({ cls := "SelectoRouteModel", name := "changeNeedle", desc := "(I)I" } : Jvm.MethodName) prog_9_method_38_code (3 : Nat) (Option.some Jvm.ClassFile.FieldType.int)) ∈ lw_all := lw_g (lw_at lw_m5 230 rfl) rfl
theorem q1215 : (Jvm.Cond.instanceMethod ({ cls := "SelectoRouteModel", name := "burn", desc := "(I)I" } : Jvm.MethodName)) ∈ lw_all := lw_g (lw_at lw_m5 232 rfl) rfl
theorem q1216 : (Jvm.Cond.selects "SelectoRouteModel" ({ cls := "SelectoRouteModel", name := "burn", desc := "(I)I" } : Jvm.MethodName) ({ cls := "SelectoRouteModel", name := "burn", desc := "(I)I" } : Jvm.MethodName)) ∈ lw_all := lw_g (lw_at lw_m5 233 rfl) rfl
theorem q1217 : (Jvm.Cond.code ({ cls := "SelectoRouteModel", name := "burn", desc := "(I)I" } : Jvm.MethodName) prog_9_method_39_code (2 : Nat) (Option.some Jvm.ClassFile.FieldType.int)) ∈ lw_all := lw_g (lw_at lw_m5 234 rfl) rfl
theorem q1219 : (Jvm.Cond.instanceMethod ({ cls := "SelectoRouteModel", name := "ask", desc := "(II)I" } : Jvm.MethodName)) ∈ lw_all := lw_g (lw_at lw_m5 236 rfl) rfl
theorem q1220 : (Jvm.Cond.selects "SelectoRouteModel" ({ cls := "SelectoRouteModel", name := "ask", desc := "(II)I" } : Jvm.MethodName) ({ cls := "SelectoRouteModel", name := "ask", desc := "(II)I" } : Jvm.MethodName)) ∈ lw_all := lw_g (lw_at lw_m5 237 rfl) rfl
theorem q1221 : (Jvm.Cond.code ({ cls := "SelectoRouteModel", name := "ask", desc := "(II)I" } : Jvm.MethodName) prog_9_method_40_code (3 : Nat) (Option.some Jvm.ClassFile.FieldType.int)) ∈ lw_all := lw_g (lw_at lw_m5 238 rfl) rfl
theorem q1223 : (Jvm.Cond.instanceMethod ({ cls := "SelectoRouteModel", name := "mostAsked", desc := "(I)I" } : Jvm.MethodName)) ∈ lw_all := lw_g (lw_at lw_m6 0 rfl) rfl
theorem q1224 : (Jvm.Cond.selects "SelectoRouteModel" ({ cls := "SelectoRouteModel", name := "mostAsked", desc := "(I)I" } : Jvm.MethodName) ({ cls := "SelectoRouteModel", name := "mostAsked", desc := "(I)I" } : Jvm.MethodName)) ∈ lw_all := lw_g (lw_at lw_m6 1 rfl) rfl
theorem q1225 : (Jvm.Cond.code ({ cls := "SelectoRouteModel", name := "mostAsked", desc := "(I)I" } : Jvm.MethodName) prog_9_method_41_code (4 : Nat) (Option.some Jvm.ClassFile.FieldType.int)) ∈ lw_all := lw_g (lw_at lw_m6 2 rfl) rfl
theorem q1227 : (Jvm.Cond.instanceMethod ({ cls := "SelectoRouteModel", name := "least", desc := "(I)I" } : Jvm.MethodName)) ∈ lw_all := lw_g (lw_at lw_m6 4 rfl) rfl
theorem q1228 : (Jvm.Cond.selects "SelectoRouteModel" ({ cls := "SelectoRouteModel", name := "least", desc := "(I)I" } : Jvm.MethodName) ({ cls := "SelectoRouteModel", name := "least", desc := "(I)I" } : Jvm.MethodName)) ∈ lw_all := lw_g (lw_at lw_m6 5 rfl) rfl
theorem q1229 : (Jvm.Cond.code ({ cls := "SelectoRouteModel", name := "least", desc := "(I)I" } : Jvm.MethodName) prog_9_method_42_code (5 : Nat) (Option.some Jvm.ClassFile.FieldType.int)) ∈ lw_all := lw_g (lw_at lw_m6 6 rfl) rfl
theorem q1231 : (Jvm.Cond.instanceMethod ({ cls := "SelectoRouteModel", name := "worth", desc := "(III)I" } : Jvm.MethodName)) ∈ lw_all := lw_g (lw_at lw_m6 8 rfl) rfl
theorem q1232 : (Jvm.Cond.selects "SelectoRouteModel" ({ cls := "SelectoRouteModel", name := "worth", desc := "(III)I" } : Jvm.MethodName) ({ cls := "SelectoRouteModel", name := "worth", desc := "(III)I" } : Jvm.MethodName)) ∈ lw_all := lw_g (lw_at lw_m6 9 rfl) rfl
theorem q1233 : (Jvm.Cond.code ({ cls := "SelectoRouteModel", name := "worth", desc := "(III)I" } : Jvm.MethodName) prog_9_method_43_code (4 : Nat) (Option.some Jvm.ClassFile.FieldType.int)) ∈ lw_all := lw_g (lw_at lw_m6 10 rfl) rfl
theorem q1235 : (Jvm.Cond.instanceMethod ({ cls := "SelectoRouteModel", name := "bestWorth", desc := "(II)I" } : Jvm.MethodName)) ∈ lw_all := lw_g (lw_at lw_m6 12 rfl) rfl
theorem q1236 : (Jvm.Cond.selects "SelectoRouteModel" ({ cls := "SelectoRouteModel", name := "bestWorth", desc := "(II)I" } : Jvm.MethodName) ({ cls := "SelectoRouteModel", name := "bestWorth", desc := "(II)I" } : Jvm.MethodName)) ∈ lw_all := lw_g (lw_at lw_m6 13 rfl) rfl
theorem q1237 : (Jvm.Cond.code ({ cls := "SelectoRouteModel", name := "bestWorth", desc := "(II)I" } : Jvm.MethodName) prog_9_method_46_code (8 : Nat) (Option.some Jvm.ClassFile.FieldType.int)) ∈ lw_all := lw_g (lw_at lw_m6 14 rfl) rfl
theorem q1238 : (Jvm.Cond.methodLink "SelectoRouteModel" (141 : Nat) ({ cls := "SelectoRouteModel", name := "strongest", desc := "(I)I" } : Jvm.MethodName)) ∈ lw_all := lw_g (lw_at lw_m6 15 rfl) rfl
theorem q1239 : (Jvm.Cond.privateMethod ({ cls := "SelectoRouteModel", name := "strongest", desc := "(I)I" } : Jvm.MethodName)) ∈ lw_tbl := lw_at lw_m6 16 rfl
theorem q1240 : (Jvm.Cond.instanceMethod ({ cls := "SelectoRouteModel", name := "strongest", desc := "(I)I" } : Jvm.MethodName)) ∈ lw_all := lw_g (lw_at lw_m6 17 rfl) rfl
theorem q1241 : (Jvm.Cond.code ({ cls := "SelectoRouteModel", name := "strongest", desc := "(I)I" } : Jvm.MethodName) prog_9_method_44_code (5 : Nat) (Option.some Jvm.ClassFile.FieldType.int)) ∈ lw_all := lw_g (lw_at lw_m6 18 rfl) rfl
theorem q1242 : (Jvm.Cond.methodLink "SelectoRouteModel" (144 : Nat) ({ cls := "SelectoRouteModel", name := "weakest", desc := "(I)I" } : Jvm.MethodName)) ∈ lw_all := lw_g (lw_at lw_m6 19 rfl) rfl
theorem q1243 : (Jvm.Cond.privateMethod ({ cls := "SelectoRouteModel", name := "weakest", desc := "(I)I" } : Jvm.MethodName)) ∈ lw_tbl := lw_at lw_m6 20 rfl
theorem q1244 : (Jvm.Cond.instanceMethod ({ cls := "SelectoRouteModel", name := "weakest", desc := "(I)I" } : Jvm.MethodName)) ∈ lw_all := lw_g (lw_at lw_m6 21 rfl) rfl
theorem q1245 : (Jvm.Cond.code ({ cls := "SelectoRouteModel", name := "weakest", desc := "(I)I" } : Jvm.MethodName) prog_9_method_45_code (4 : Nat) (Option.some Jvm.ClassFile.FieldType.int)) ∈ lw_all := lw_g (lw_at lw_m6 22 rfl) rfl
theorem q1247 : (Jvm.Cond.instanceMethod ({ cls := "SelectoRouteModel", name := "wornShare", desc := "()F" } : Jvm.MethodName)) ∈ lw_all := lw_g (lw_at lw_m6 24 rfl) rfl
theorem q1248 : (Jvm.Cond.selects "SelectoRouteModel" ({ cls := "SelectoRouteModel", name := "wornShare", desc := "()F" } : Jvm.MethodName) ({ cls := "SelectoRouteModel", name := "wornShare", desc := "()F" } : Jvm.MethodName)) ∈ lw_all := lw_g (lw_at lw_m6 25 rfl) rfl
theorem q1249 : (Jvm.Cond.code ({ cls := "SelectoRouteModel", name := "wornShare", desc := "()F" } : Jvm.MethodName) prog_9_method_47_code (4 : Nat) (Option.some Jvm.ClassFile.FieldType.float)) ∈ lw_all := lw_g (lw_at lw_m6 26 rfl) rfl
theorem q1251 : (Jvm.Cond.instanceMethod ({ cls := "SelectoRouteModel", name := "meanPull", desc := "()D" } : Jvm.MethodName)) ∈ lw_all := lw_g (lw_at lw_m6 28 rfl) rfl
theorem q1252 : (Jvm.Cond.selects "SelectoRouteModel" ({ cls := "SelectoRouteModel", name := "meanPull", desc := "()D" } : Jvm.MethodName) ({ cls := "SelectoRouteModel", name := "meanPull", desc := "()D" } : Jvm.MethodName)) ∈ lw_all := lw_g (lw_at lw_m6 29 rfl) rfl
theorem q1253 : (Jvm.Cond.code ({ cls := "SelectoRouteModel", name := "meanPull", desc := "()D" } : Jvm.MethodName) prog_9_method_48_code (4 : Nat) (Option.some Jvm.ClassFile.FieldType.double)) ∈ lw_all := lw_g (lw_at lw_m6 30 rfl) rfl
theorem q1255 : (Jvm.Cond.instanceMethod ({ cls := "SelectoRouteModel", name := "checksum", desc := "()J" } : Jvm.MethodName)) ∈ lw_all := lw_g (lw_at lw_m6 32 rfl) rfl
theorem q1256 : (Jvm.Cond.selects "SelectoRouteModel" ({ cls := "SelectoRouteModel", name := "checksum", desc := "()J" } : Jvm.MethodName) ({ cls := "SelectoRouteModel", name := "checksum", desc := "()J" } : Jvm.MethodName)) ∈ lw_all := lw_g (lw_at lw_m6 33 rfl) rfl
theorem q1257 : (Jvm.Cond.code ({ cls := "SelectoRouteModel", name := "checksum", desc := "()J" } : Jvm.MethodName) prog_9_method_49_code (4 : Nat) (Option.some Jvm.ClassFile.FieldType.long)) ∈ lw_all := lw_g (lw_at lw_m6 34 rfl) rfl
theorem q1258 : (Jvm.Cond.constantLong "SelectoRouteModel" (147 : Nat) (7 : Int64)) ∈ lw_all := lw_g (lw_at lw_m6 35 rfl) rfl
theorem q1259 : (Jvm.Cond.constantLong "SelectoRouteModel" (149 : Nat) (31 : Int64)) ∈ lw_all := lw_g (lw_at lw_m6 36 rfl) rfl
theorem q1261 : (Jvm.Cond.instanceMethod ({ cls := "SelectoRouteModel", name := "isSound", desc := "()Z" } : Jvm.MethodName)) ∈ lw_all := lw_g (lw_at lw_m6 38 rfl) rfl
theorem q1262 : (Jvm.Cond.selects "SelectoRouteModel" ({ cls := "SelectoRouteModel", name := "isSound", desc := "()Z" } : Jvm.MethodName) ({ cls := "SelectoRouteModel", name := "isSound", desc := "()Z" } : Jvm.MethodName)) ∈ lw_all := lw_g (lw_at lw_m6 39 rfl) rfl
theorem q1263 : (Jvm.Cond.code ({ cls := "SelectoRouteModel", name := "isSound", desc := "()Z" } : Jvm.MethodName) prog_9_method_50_code (1 : Nat) (Option.some Jvm.ClassFile.FieldType.boolean)) ∈ lw_all := lw_g (lw_at lw_m6 40 rfl) rfl
theorem q1273 : (Jvm.Cond.castable "SelectoRouteModel" "java/lang/Object") ∈ lw_tbl := lw_at lw_m6 50 rfl
theorem in_X2 : ∀ w ∈ wsX20, w ∈ lw_all := lw_in wsX20 [1003, 1005, 1007, 1009, 1011, 1013, 1015, 1017, 1019, 1021, 1023, 1025, 1027, 1029, 1031, 1033, 1035, 1037, 1039, 1041, 1043, 1045, 1047, 1049, 1051, 1053, 1055, 1057, 1059, 1061] (by decide +kernel) (by decide +kernel)
