/-! SelectoRoute -/
set_option maxRecDepth 100000
def RX1 : String := "SelectoRoute"
def TX1 : u_T := fun k => match k with
  | 0 => ("SelectoRoute", "discs", "Ljava/util/ArrayList;", true)
  | 1 => ("SelectoRoute", "boxes", "Ljava/util/ArrayList;", true)
  | 2 => ("SelectoRoute", "week", "I", false)
  | 3 => ("SelectoRoute", "minutes", "I", false)
  | 4 => ("SelectoRoute", "earned", "I", false)
  | 5 => ("SelectoRoute", "taken", "I", false)
  | _ => ("SelectoRoute", "z", "J", false)
def tyX1 : Nat → FieldType := fun k => match k with
  | 0 => .object "java/util/ArrayList"
  | 1 => .object "java/util/ArrayList"
  | 2 => .int
  | 3 => .int
  | 4 => .int
  | 5 => .int
  | _ => .long
abbrev wsX10 : List Cond := u_ws RX1 TX1 7
theorem nmX1 : ∀ a, a < 7 → ∀ b, b < 7 → a ≠ b → (TX1 a).2.1 ≠ (TX1 b).2.1 := by decide +kernel
theorem tyX1_ok : ∀ k, k < 7 → parseFieldDescriptor (TX1 k).2.2.1 = some (tyX1 k) := by decide +kernel
abbrev cX1_init : ByteArray := prog_1_method_8_code
def yX1_init : MethodName := ⟨RX1, "<init>", "()V"⟩
def dkwX1_init_1 : List UInt8 := [181, 0, 34, 42, 17, 2, 88, 181, 0, 37, 42, 10, 181, 0, 41, 177]
abbrev dktX1_init_1 : List UInt8 := dkwX1_init_1 ++ []
def dkwX1_init_0 : List UInt8 := [42, 183, 0, 22, 42, 187, 0, 25, 89, 183, 0, 27, 181, 0, 28, 42, 187, 0, 25, 89, 183, 0, 27]
abbrev dktX1_init_0 : List UInt8 := dkwX1_init_0 ++ dktX1_init_1
theorem dksX1_init_0 : cX1_init.data.toList.drop 0 = dktX1_init_0 := by decide +kernel
theorem dksX1_init_1 : cX1_init.data.toList.drop 23 = dktX1_init_1 := dk_seg dksX1_init_0 23 rfl rfl
theorem dX1_init_0 : decode cX1_init 0 = .ok (.aload_n 0, 1) := dk_42 (dk_at dksX1_init_0 0 rfl rfl)
theorem dX1_init_1 : decode cX1_init 1 = .ok (.invokespecial 22, 3) := dk_183 0 22 (dk_at dksX1_init_0 1 rfl rfl)
theorem dX1_init_4 : decode cX1_init 4 = .ok (.aload_n 0, 1) := dk_42 (dk_at dksX1_init_0 4 rfl rfl)
theorem dX1_init_5 : decode cX1_init 5 = .ok (.new 25, 3) := dk_187 0 25 (dk_at dksX1_init_0 5 rfl rfl)
theorem dX1_init_8 : decode cX1_init 8 = .ok (.dup, 1) := dk_89 (dk_at dksX1_init_0 8 rfl rfl)
theorem dX1_init_9 : decode cX1_init 9 = .ok (.invokespecial 27, 3) := dk_183 0 27 (dk_at dksX1_init_0 9 rfl rfl)
theorem dX1_init_12 : decode cX1_init 12 = .ok (.putfield 28, 3) := dk_181 0 28 (dk_at dksX1_init_0 12 rfl rfl)
theorem dX1_init_15 : decode cX1_init 15 = .ok (.aload_n 0, 1) := dk_42 (dk_at dksX1_init_0 15 rfl rfl)
theorem dX1_init_16 : decode cX1_init 16 = .ok (.new 25, 3) := dk_187 0 25 (dk_at dksX1_init_0 16 rfl rfl)
theorem dX1_init_19 : decode cX1_init 19 = .ok (.dup, 1) := dk_89 (dk_at dksX1_init_0 19 rfl rfl)
theorem dX1_init_20 : decode cX1_init 20 = .ok (.invokespecial 27, 3) := dk_183 0 27 (dk_at dksX1_init_0 20 rfl rfl)
theorem dX1_init_23 : decode cX1_init 23 = .ok (.putfield 34, 3) := dk_181 0 34 (dk_at dksX1_init_1 0 rfl rfl)
theorem dX1_init_26 : decode cX1_init 26 = .ok (.aload_n 0, 1) := dk_42 (dk_at dksX1_init_1 3 rfl rfl)
theorem dX1_init_27 : decode cX1_init 27 = .ok (.sipush 600, 3) := dk_17 2 88 (dk_at dksX1_init_1 4 rfl rfl)
theorem dX1_init_30 : decode cX1_init 30 = .ok (.putfield 37, 3) := dk_181 0 37 (dk_at dksX1_init_1 7 rfl rfl)
theorem dX1_init_33 : decode cX1_init 33 = .ok (.aload_n 0, 1) := dk_42 (dk_at dksX1_init_1 10 rfl rfl)
theorem dX1_init_34 : decode cX1_init 34 = .ok (.lconst 1, 1) := dk_10 (dk_at dksX1_init_1 11 rfl rfl)
theorem dX1_init_35 : decode cX1_init 35 = .ok (.putfield 41, 3) := dk_181 0 41 (dk_at dksX1_init_1 12 rfl rfl)
theorem dX1_init_38 : decode cX1_init 38 = .ok (.return_, 1) := dk_177 (dk_at dksX1_init_1 15 rfl rfl)
abbrev cX1_getWeek : ByteArray := prog_1_method_32_code
def yX1_getWeek : MethodName := ⟨RX1, "getWeek", "()I"⟩
theorem dX1_getWeek_0 : decode cX1_getWeek 0 = .ok (.aload_n 0, 1) := by decide +kernel
theorem dX1_getWeek_1 : decode cX1_getWeek 1 = .ok (.getfield 172, 3) := by decide +kernel
theorem dX1_getWeek_4 : decode cX1_getWeek 4 = .ok (.ireturn, 1) := by decide +kernel
abbrev cX1_getMinutes : ByteArray := prog_1_method_33_code
def yX1_getMinutes : MethodName := ⟨RX1, "getMinutes", "()I"⟩
theorem dX1_getMinutes_0 : decode cX1_getMinutes 0 = .ok (.aload_n 0, 1) := by decide +kernel
theorem dX1_getMinutes_1 : decode cX1_getMinutes 1 = .ok (.getfield 37, 3) := by decide +kernel
theorem dX1_getMinutes_4 : decode cX1_getMinutes 4 = .ok (.ireturn, 1) := by decide +kernel
abbrev cX1_getEarned : ByteArray := prog_1_method_38_code
def yX1_getEarned : MethodName := ⟨RX1, "getEarned", "()I"⟩
theorem dX1_getEarned_0 : decode cX1_getEarned 0 = .ok (.aload_n 0, 1) := by decide +kernel
theorem dX1_getEarned_1 : decode cX1_getEarned 1 = .ok (.getfield 229, 3) := by decide +kernel
theorem dX1_getEarned_4 : decode cX1_getEarned 4 = .ok (.ireturn, 1) := by decide +kernel
abbrev cX1_checksum : ByteArray := prog_1_method_52_code
def yX1_checksum : MethodName := ⟨RX1, "checksum", "()J"⟩
def dkwX1_checksum_5 : List UInt8 := [167, 255, 201, 20, 1, 11, 20, 1, 11, 31, 105, 42, 180, 0, 229, 133, 97, 105, 42, 180, 0, 41, 97, 173]
abbrev dktX1_checksum_5 : List UInt8 := dkwX1_checksum_5 ++ []
def dkwX1_checksum_4 : List UInt8 := [180, 0, 110, 133, 97, 105, 25, 4, 180, 0, 105, 133, 97, 105, 25, 4, 180, 0, 159, 133, 97, 64]
abbrev dktX1_checksum_4 : List UInt8 := dkwX1_checksum_4 ++ dktX1_checksum_5
def dkwX1_checksum_3 : List UInt8 := [185, 0, 191, 1, 0, 192, 0, 69, 58, 4, 20, 1, 11, 20, 1, 11, 20, 1, 11, 31, 105, 25, 4]
abbrev dktX1_checksum_3 : List UInt8 := dkwX1_checksum_3 ++ dktX1_checksum_4
def dkwX1_checksum_2 : List UInt8 := [167, 255, 223, 42, 180, 0, 34, 182, 0, 182, 78, 45, 185, 0, 186, 1, 0, 153, 0, 52, 45]
abbrev dktX1_checksum_2 : List UInt8 := dkwX1_checksum_2 ++ dktX1_checksum_3
def dkwX1_checksum_1 : List UInt8 := [185, 0, 191, 1, 0, 192, 0, 60, 58, 4, 20, 1, 11, 31, 105, 25, 4, 180, 0, 166, 133, 97, 64]
abbrev dktX1_checksum_1 : List UInt8 := dkwX1_checksum_1 ++ dktX1_checksum_2
def dkwX1_checksum_0 : List UInt8 := [20, 1, 9, 64, 42, 180, 0, 28, 182, 0, 182, 78, 45, 185, 0, 186, 1, 0, 153, 0, 30, 45]
abbrev dktX1_checksum_0 : List UInt8 := dkwX1_checksum_0 ++ dktX1_checksum_1
theorem dksX1_checksum_0 : cX1_checksum.data.toList.drop 0 = dktX1_checksum_0 := by decide +kernel
theorem dksX1_checksum_1 : cX1_checksum.data.toList.drop 22 = dktX1_checksum_1 := dk_seg dksX1_checksum_0 22 rfl rfl
theorem dksX1_checksum_2 : cX1_checksum.data.toList.drop 45 = dktX1_checksum_2 := dk_seg dksX1_checksum_1 23 rfl rfl
theorem dksX1_checksum_3 : cX1_checksum.data.toList.drop 66 = dktX1_checksum_3 := dk_seg dksX1_checksum_2 21 rfl rfl
theorem dksX1_checksum_4 : cX1_checksum.data.toList.drop 89 = dktX1_checksum_4 := dk_seg dksX1_checksum_3 23 rfl rfl
theorem dksX1_checksum_5 : cX1_checksum.data.toList.drop 111 = dktX1_checksum_5 := dk_seg dksX1_checksum_4 22 rfl rfl
theorem dX1_checksum_0 : decode cX1_checksum 0 = .ok (.ldc2_w 265, 3) := dk_20 1 9 (dk_at dksX1_checksum_0 0 rfl rfl)
theorem dX1_checksum_3 : decode cX1_checksum 3 = .ok (.lstore_n 1, 1) := dk_64 (dk_at dksX1_checksum_0 3 rfl rfl)
theorem dX1_checksum_4 : decode cX1_checksum 4 = .ok (.aload_n 0, 1) := dk_42 (dk_at dksX1_checksum_0 4 rfl rfl)
theorem dX1_checksum_5 : decode cX1_checksum 5 = .ok (.getfield 28, 3) := dk_180 0 28 (dk_at dksX1_checksum_0 5 rfl rfl)
theorem dX1_checksum_8 : decode cX1_checksum 8 = .ok (.invokevirtual 182, 3) := dk_182 0 182 (dk_at dksX1_checksum_0 8 rfl rfl)
theorem dX1_checksum_11 : decode cX1_checksum 11 = .ok (.astore_n 3, 1) := dk_78 (dk_at dksX1_checksum_0 11 rfl rfl)
theorem dX1_checksum_12 : decode cX1_checksum 12 = .ok (.aload_n 3, 1) := dk_45 (dk_at dksX1_checksum_0 12 rfl rfl)
theorem dX1_checksum_13 : decode cX1_checksum 13 = .ok (.invokeinterface 186 1, 5) := by decide +kernel
theorem dX1_checksum_18 : decode cX1_checksum 18 = .ok (.ifCond .eq 30, 3) := dk_153 0 30 (dk_at dksX1_checksum_0 18 rfl rfl)
theorem dX1_checksum_21 : decode cX1_checksum 21 = .ok (.aload_n 3, 1) := dk_45 (dk_at dksX1_checksum_0 21 rfl rfl)
theorem dX1_checksum_22 : decode cX1_checksum 22 = .ok (.invokeinterface 191 1, 5) := by decide +kernel
theorem dX1_checksum_27 : decode cX1_checksum 27 = .ok (.checkcast 60, 3) := dk_192 0 60 (dk_at dksX1_checksum_1 5 rfl rfl)
theorem dX1_checksum_30 : decode cX1_checksum 30 = .ok (.astore 4, 2) := dk_58 4 (dk_at dksX1_checksum_1 8 rfl rfl)
theorem dX1_checksum_32 : decode cX1_checksum 32 = .ok (.ldc2_w 267, 3) := dk_20 1 11 (dk_at dksX1_checksum_1 10 rfl rfl)
theorem dX1_checksum_35 : decode cX1_checksum 35 = .ok (.lload_n 1, 1) := dk_31 (dk_at dksX1_checksum_1 13 rfl rfl)
theorem dX1_checksum_36 : decode cX1_checksum 36 = .ok (.lmul, 1) := dk_105 (dk_at dksX1_checksum_1 14 rfl rfl)
theorem dX1_checksum_37 : decode cX1_checksum 37 = .ok (.aload 4, 2) := dk_25 4 (dk_at dksX1_checksum_1 15 rfl rfl)
theorem dX1_checksum_39 : decode cX1_checksum 39 = .ok (.getfield 166, 3) := dk_180 0 166 (dk_at dksX1_checksum_1 17 rfl rfl)
theorem dX1_checksum_42 : decode cX1_checksum 42 = .ok (.i2l, 1) := dk_133 (dk_at dksX1_checksum_1 20 rfl rfl)
theorem dX1_checksum_43 : decode cX1_checksum 43 = .ok (.ladd, 1) := dk_97 (dk_at dksX1_checksum_1 21 rfl rfl)
theorem dX1_checksum_44 : decode cX1_checksum 44 = .ok (.lstore_n 1, 1) := dk_64 (dk_at dksX1_checksum_1 22 rfl rfl)
theorem dX1_checksum_45 : decode cX1_checksum 45 = .ok (.goto (-33), 3) := dk_167 255 223 (dk_at dksX1_checksum_2 0 rfl rfl)
theorem dX1_checksum_48 : decode cX1_checksum 48 = .ok (.aload_n 0, 1) := dk_42 (dk_at dksX1_checksum_2 3 rfl rfl)
theorem dX1_checksum_49 : decode cX1_checksum 49 = .ok (.getfield 34, 3) := dk_180 0 34 (dk_at dksX1_checksum_2 4 rfl rfl)
theorem dX1_checksum_52 : decode cX1_checksum 52 = .ok (.invokevirtual 182, 3) := dk_182 0 182 (dk_at dksX1_checksum_2 7 rfl rfl)
theorem dX1_checksum_55 : decode cX1_checksum 55 = .ok (.astore_n 3, 1) := dk_78 (dk_at dksX1_checksum_2 10 rfl rfl)
theorem dX1_checksum_56 : decode cX1_checksum 56 = .ok (.aload_n 3, 1) := dk_45 (dk_at dksX1_checksum_2 11 rfl rfl)
theorem dX1_checksum_57 : decode cX1_checksum 57 = .ok (.invokeinterface 186 1, 5) := by decide +kernel
theorem dX1_checksum_62 : decode cX1_checksum 62 = .ok (.ifCond .eq 52, 3) := dk_153 0 52 (dk_at dksX1_checksum_2 17 rfl rfl)
theorem dX1_checksum_65 : decode cX1_checksum 65 = .ok (.aload_n 3, 1) := dk_45 (dk_at dksX1_checksum_2 20 rfl rfl)
theorem dX1_checksum_66 : decode cX1_checksum 66 = .ok (.invokeinterface 191 1, 5) := by decide +kernel
theorem dX1_checksum_71 : decode cX1_checksum 71 = .ok (.checkcast 69, 3) := dk_192 0 69 (dk_at dksX1_checksum_3 5 rfl rfl)
theorem dX1_checksum_74 : decode cX1_checksum 74 = .ok (.astore 4, 2) := dk_58 4 (dk_at dksX1_checksum_3 8 rfl rfl)
theorem dX1_checksum_76 : decode cX1_checksum 76 = .ok (.ldc2_w 267, 3) := dk_20 1 11 (dk_at dksX1_checksum_3 10 rfl rfl)
theorem dX1_checksum_79 : decode cX1_checksum 79 = .ok (.ldc2_w 267, 3) := dk_20 1 11 (dk_at dksX1_checksum_3 13 rfl rfl)
theorem dX1_checksum_82 : decode cX1_checksum 82 = .ok (.ldc2_w 267, 3) := dk_20 1 11 (dk_at dksX1_checksum_3 16 rfl rfl)
theorem dX1_checksum_85 : decode cX1_checksum 85 = .ok (.lload_n 1, 1) := dk_31 (dk_at dksX1_checksum_3 19 rfl rfl)
theorem dX1_checksum_86 : decode cX1_checksum 86 = .ok (.lmul, 1) := dk_105 (dk_at dksX1_checksum_3 20 rfl rfl)
theorem dX1_checksum_87 : decode cX1_checksum 87 = .ok (.aload 4, 2) := dk_25 4 (dk_at dksX1_checksum_3 21 rfl rfl)
theorem dX1_checksum_89 : decode cX1_checksum 89 = .ok (.getfield 110, 3) := dk_180 0 110 (dk_at dksX1_checksum_4 0 rfl rfl)
theorem dX1_checksum_92 : decode cX1_checksum 92 = .ok (.i2l, 1) := dk_133 (dk_at dksX1_checksum_4 3 rfl rfl)
theorem dX1_checksum_93 : decode cX1_checksum 93 = .ok (.ladd, 1) := dk_97 (dk_at dksX1_checksum_4 4 rfl rfl)
theorem dX1_checksum_94 : decode cX1_checksum 94 = .ok (.lmul, 1) := dk_105 (dk_at dksX1_checksum_4 5 rfl rfl)
theorem dX1_checksum_95 : decode cX1_checksum 95 = .ok (.aload 4, 2) := dk_25 4 (dk_at dksX1_checksum_4 6 rfl rfl)
theorem dX1_checksum_97 : decode cX1_checksum 97 = .ok (.getfield 105, 3) := dk_180 0 105 (dk_at dksX1_checksum_4 8 rfl rfl)
theorem dX1_checksum_100 : decode cX1_checksum 100 = .ok (.i2l, 1) := dk_133 (dk_at dksX1_checksum_4 11 rfl rfl)
theorem dX1_checksum_101 : decode cX1_checksum 101 = .ok (.ladd, 1) := dk_97 (dk_at dksX1_checksum_4 12 rfl rfl)
theorem dX1_checksum_102 : decode cX1_checksum 102 = .ok (.lmul, 1) := dk_105 (dk_at dksX1_checksum_4 13 rfl rfl)
theorem dX1_checksum_103 : decode cX1_checksum 103 = .ok (.aload 4, 2) := dk_25 4 (dk_at dksX1_checksum_4 14 rfl rfl)
theorem dX1_checksum_105 : decode cX1_checksum 105 = .ok (.getfield 159, 3) := dk_180 0 159 (dk_at dksX1_checksum_4 16 rfl rfl)
theorem dX1_checksum_108 : decode cX1_checksum 108 = .ok (.i2l, 1) := dk_133 (dk_at dksX1_checksum_4 19 rfl rfl)
theorem dX1_checksum_109 : decode cX1_checksum 109 = .ok (.ladd, 1) := dk_97 (dk_at dksX1_checksum_4 20 rfl rfl)
theorem dX1_checksum_110 : decode cX1_checksum 110 = .ok (.lstore_n 1, 1) := dk_64 (dk_at dksX1_checksum_4 21 rfl rfl)
theorem dX1_checksum_111 : decode cX1_checksum 111 = .ok (.goto (-55), 3) := dk_167 255 201 (dk_at dksX1_checksum_5 0 rfl rfl)
theorem dX1_checksum_114 : decode cX1_checksum 114 = .ok (.ldc2_w 267, 3) := dk_20 1 11 (dk_at dksX1_checksum_5 3 rfl rfl)
theorem dX1_checksum_117 : decode cX1_checksum 117 = .ok (.ldc2_w 267, 3) := dk_20 1 11 (dk_at dksX1_checksum_5 6 rfl rfl)
theorem dX1_checksum_120 : decode cX1_checksum 120 = .ok (.lload_n 1, 1) := dk_31 (dk_at dksX1_checksum_5 9 rfl rfl)
theorem dX1_checksum_121 : decode cX1_checksum 121 = .ok (.lmul, 1) := dk_105 (dk_at dksX1_checksum_5 10 rfl rfl)
theorem dX1_checksum_122 : decode cX1_checksum 122 = .ok (.aload_n 0, 1) := dk_42 (dk_at dksX1_checksum_5 11 rfl rfl)
theorem dX1_checksum_123 : decode cX1_checksum 123 = .ok (.getfield 229, 3) := dk_180 0 229 (dk_at dksX1_checksum_5 12 rfl rfl)
theorem dX1_checksum_126 : decode cX1_checksum 126 = .ok (.i2l, 1) := dk_133 (dk_at dksX1_checksum_5 15 rfl rfl)
theorem dX1_checksum_127 : decode cX1_checksum 127 = .ok (.ladd, 1) := dk_97 (dk_at dksX1_checksum_5 16 rfl rfl)
theorem dX1_checksum_128 : decode cX1_checksum 128 = .ok (.lmul, 1) := dk_105 (dk_at dksX1_checksum_5 17 rfl rfl)
theorem dX1_checksum_129 : decode cX1_checksum 129 = .ok (.aload_n 0, 1) := dk_42 (dk_at dksX1_checksum_5 18 rfl rfl)
theorem dX1_checksum_130 : decode cX1_checksum 130 = .ok (.getfield 41, 3) := dk_180 0 41 (dk_at dksX1_checksum_5 19 rfl rfl)
theorem dX1_checksum_133 : decode cX1_checksum 133 = .ok (.ladd, 1) := dk_97 (dk_at dksX1_checksum_5 22 rfl rfl)
theorem dX1_checksum_134 : decode cX1_checksum 134 = .ok (.lreturn, 1) := dk_173 (dk_at dksX1_checksum_5 23 rfl rfl)
abbrev cX1_isSound : ByteArray := prog_1_method_54_code
def yX1_isSound : MethodName := ⟨RX1, "isSound", "()Z"⟩
def dkwX1_isSound_3 : List UInt8 := [180, 0, 232, 160, 0, 7, 4, 167, 0, 4, 3, 172]
abbrev dktX1_isSound_3 : List UInt8 := dkwX1_isSound_3 ++ []
def dkwX1_isSound_2 : List UInt8 := [182, 0, 80, 192, 0, 69, 180, 0, 226, 96, 61, 132, 3, 1, 167, 255, 206, 27, 153, 0, 15, 28, 42]
abbrev dktX1_isSound_2 : List UInt8 := dkwX1_isSound_2 ++ dktX1_isSound_3
def dkwX1_isSound_1 : List UInt8 := [180, 0, 34, 29, 182, 0, 80, 192, 0, 69, 29, 182, 1, 13, 126, 60, 28, 42, 180, 0, 34, 29]
abbrev dktX1_isSound_1 : List UInt8 := dkwX1_isSound_1 ++ dktX1_isSound_2
def dkwX1_isSound_0 : List UInt8 := [4, 60, 42, 180, 0, 229, 61, 3, 62, 29, 42, 180, 0, 34, 182, 0, 53, 162, 0, 45, 27, 42, 42]
abbrev dktX1_isSound_0 : List UInt8 := dkwX1_isSound_0 ++ dktX1_isSound_1
theorem dksX1_isSound_0 : cX1_isSound.data.toList.drop 0 = dktX1_isSound_0 := by decide +kernel
theorem dksX1_isSound_1 : cX1_isSound.data.toList.drop 23 = dktX1_isSound_1 := dk_seg dksX1_isSound_0 23 rfl rfl
theorem dksX1_isSound_2 : cX1_isSound.data.toList.drop 45 = dktX1_isSound_2 := dk_seg dksX1_isSound_1 22 rfl rfl
theorem dksX1_isSound_3 : cX1_isSound.data.toList.drop 68 = dktX1_isSound_3 := dk_seg dksX1_isSound_2 23 rfl rfl
theorem dX1_isSound_0 : decode cX1_isSound 0 = .ok (.iconst 1, 1) := dk_4 (dk_at dksX1_isSound_0 0 rfl rfl)
theorem dX1_isSound_1 : decode cX1_isSound 1 = .ok (.istore_n 1, 1) := dk_60 (dk_at dksX1_isSound_0 1 rfl rfl)
theorem dX1_isSound_2 : decode cX1_isSound 2 = .ok (.aload_n 0, 1) := dk_42 (dk_at dksX1_isSound_0 2 rfl rfl)
theorem dX1_isSound_3 : decode cX1_isSound 3 = .ok (.getfield 229, 3) := dk_180 0 229 (dk_at dksX1_isSound_0 3 rfl rfl)
theorem dX1_isSound_6 : decode cX1_isSound 6 = .ok (.istore_n 2, 1) := dk_61 (dk_at dksX1_isSound_0 6 rfl rfl)
theorem dX1_isSound_7 : decode cX1_isSound 7 = .ok (.iconst 0, 1) := dk_3 (dk_at dksX1_isSound_0 7 rfl rfl)
theorem dX1_isSound_8 : decode cX1_isSound 8 = .ok (.istore_n 3, 1) := dk_62 (dk_at dksX1_isSound_0 8 rfl rfl)
theorem dX1_isSound_9 : decode cX1_isSound 9 = .ok (.iload_n 3, 1) := dk_29 (dk_at dksX1_isSound_0 9 rfl rfl)
theorem dX1_isSound_10 : decode cX1_isSound 10 = .ok (.aload_n 0, 1) := dk_42 (dk_at dksX1_isSound_0 10 rfl rfl)
theorem dX1_isSound_11 : decode cX1_isSound 11 = .ok (.getfield 34, 3) := dk_180 0 34 (dk_at dksX1_isSound_0 11 rfl rfl)
theorem dX1_isSound_14 : decode cX1_isSound 14 = .ok (.invokevirtual 53, 3) := dk_182 0 53 (dk_at dksX1_isSound_0 14 rfl rfl)
theorem dX1_isSound_17 : decode cX1_isSound 17 = .ok (.if_icmp .ge 45, 3) := dk_162 0 45 (dk_at dksX1_isSound_0 17 rfl rfl)
theorem dX1_isSound_20 : decode cX1_isSound 20 = .ok (.iload_n 1, 1) := dk_27 (dk_at dksX1_isSound_0 20 rfl rfl)
theorem dX1_isSound_21 : decode cX1_isSound 21 = .ok (.aload_n 0, 1) := dk_42 (dk_at dksX1_isSound_0 21 rfl rfl)
theorem dX1_isSound_22 : decode cX1_isSound 22 = .ok (.aload_n 0, 1) := dk_42 (dk_at dksX1_isSound_0 22 rfl rfl)
theorem dX1_isSound_23 : decode cX1_isSound 23 = .ok (.getfield 34, 3) := dk_180 0 34 (dk_at dksX1_isSound_1 0 rfl rfl)
theorem dX1_isSound_26 : decode cX1_isSound 26 = .ok (.iload_n 3, 1) := dk_29 (dk_at dksX1_isSound_1 3 rfl rfl)
theorem dX1_isSound_27 : decode cX1_isSound 27 = .ok (.invokevirtual 80, 3) := dk_182 0 80 (dk_at dksX1_isSound_1 4 rfl rfl)
theorem dX1_isSound_30 : decode cX1_isSound 30 = .ok (.checkcast 69, 3) := dk_192 0 69 (dk_at dksX1_isSound_1 7 rfl rfl)
theorem dX1_isSound_33 : decode cX1_isSound 33 = .ok (.iload_n 3, 1) := dk_29 (dk_at dksX1_isSound_1 10 rfl rfl)
theorem dX1_isSound_34 : decode cX1_isSound 34 = .ok (.invokevirtual 269, 3) := dk_182 1 13 (dk_at dksX1_isSound_1 11 rfl rfl)
theorem dX1_isSound_37 : decode cX1_isSound 37 = .ok (.iand, 1) := dk_126 (dk_at dksX1_isSound_1 14 rfl rfl)
theorem dX1_isSound_38 : decode cX1_isSound 38 = .ok (.istore_n 1, 1) := dk_60 (dk_at dksX1_isSound_1 15 rfl rfl)
theorem dX1_isSound_39 : decode cX1_isSound 39 = .ok (.iload_n 2, 1) := dk_28 (dk_at dksX1_isSound_1 16 rfl rfl)
theorem dX1_isSound_40 : decode cX1_isSound 40 = .ok (.aload_n 0, 1) := dk_42 (dk_at dksX1_isSound_1 17 rfl rfl)
theorem dX1_isSound_41 : decode cX1_isSound 41 = .ok (.getfield 34, 3) := dk_180 0 34 (dk_at dksX1_isSound_1 18 rfl rfl)
theorem dX1_isSound_44 : decode cX1_isSound 44 = .ok (.iload_n 3, 1) := dk_29 (dk_at dksX1_isSound_1 21 rfl rfl)
theorem dX1_isSound_45 : decode cX1_isSound 45 = .ok (.invokevirtual 80, 3) := dk_182 0 80 (dk_at dksX1_isSound_2 0 rfl rfl)
theorem dX1_isSound_48 : decode cX1_isSound 48 = .ok (.checkcast 69, 3) := dk_192 0 69 (dk_at dksX1_isSound_2 3 rfl rfl)
theorem dX1_isSound_51 : decode cX1_isSound 51 = .ok (.getfield 226, 3) := dk_180 0 226 (dk_at dksX1_isSound_2 6 rfl rfl)
theorem dX1_isSound_54 : decode cX1_isSound 54 = .ok (.iadd, 1) := dk_96 (dk_at dksX1_isSound_2 9 rfl rfl)
theorem dX1_isSound_55 : decode cX1_isSound 55 = .ok (.istore_n 2, 1) := dk_61 (dk_at dksX1_isSound_2 10 rfl rfl)
theorem dX1_isSound_56 : decode cX1_isSound 56 = .ok (.iinc 3 1, 3) := dk_132 3 1 (dk_at dksX1_isSound_2 11 rfl rfl)
theorem dX1_isSound_59 : decode cX1_isSound 59 = .ok (.goto (-50), 3) := dk_167 255 206 (dk_at dksX1_isSound_2 14 rfl rfl)
theorem dX1_isSound_62 : decode cX1_isSound 62 = .ok (.iload_n 1, 1) := dk_27 (dk_at dksX1_isSound_2 17 rfl rfl)
theorem dX1_isSound_63 : decode cX1_isSound 63 = .ok (.ifCond .eq 15, 3) := dk_153 0 15 (dk_at dksX1_isSound_2 18 rfl rfl)
theorem dX1_isSound_66 : decode cX1_isSound 66 = .ok (.iload_n 2, 1) := dk_28 (dk_at dksX1_isSound_2 21 rfl rfl)
theorem dX1_isSound_67 : decode cX1_isSound 67 = .ok (.aload_n 0, 1) := dk_42 (dk_at dksX1_isSound_2 22 rfl rfl)
theorem dX1_isSound_68 : decode cX1_isSound 68 = .ok (.getfield 232, 3) := dk_180 0 232 (dk_at dksX1_isSound_3 0 rfl rfl)
theorem dX1_isSound_71 : decode cX1_isSound 71 = .ok (.if_icmp .ne 7, 3) := dk_160 0 7 (dk_at dksX1_isSound_3 3 rfl rfl)
theorem dX1_isSound_74 : decode cX1_isSound 74 = .ok (.iconst 1, 1) := dk_4 (dk_at dksX1_isSound_3 6 rfl rfl)
theorem dX1_isSound_75 : decode cX1_isSound 75 = .ok (.goto 4, 3) := dk_167 0 4 (dk_at dksX1_isSound_3 7 rfl rfl)
theorem dX1_isSound_78 : decode cX1_isSound 78 = .ok (.iconst 0, 1) := dk_3 (dk_at dksX1_isSound_3 10 rfl rfl)
theorem dX1_isSound_79 : decode cX1_isSound 79 = .ok (.ireturn, 1) := dk_172 (dk_at dksX1_isSound_3 11 rfl rfl)
abbrev cX1_isBoxSound : ByteArray := prog_1_method_53_code
def yX1_isBoxSound : MethodName := ⟨RX1, "isBoxSound", "(LSelectoRoute$Box;I)Z"⟩
def dkwX1_isBoxSound_7 : List UInt8 := [167, 255, 120, 29, 172]
abbrev dktX1_isBoxSound_7 : List UInt8 := dkwX1_isBoxSound_7 ++ []
def dkwX1_isBoxSound_6 : List UInt8 := [182, 0, 241, 100, 21, 4, 163, 0, 7, 4, 167, 0, 4, 3, 126, 62, 167, 255, 191, 132, 5, 1]
abbrev dktX1_isBoxSound_6 : List UInt8 := dkwX1_isBoxSound_6 ++ dktX1_isBoxSound_7
def dkwX1_isBoxSound_5 : List UInt8 := [180, 0, 169, 2, 160, 0, 29, 25, 7, 42, 180, 0, 172, 43, 180, 0, 175, 182, 0, 178, 42, 43, 21, 5]
abbrev dktX1_isBoxSound_5 : List UInt8 := dkwX1_isBoxSound_5 ++ dktX1_isBoxSound_6
def dkwX1_isBoxSound_4 : List UInt8 := [185, 0, 186, 1, 0, 153, 0, 61, 25, 6, 185, 0, 191, 1, 0, 192, 0, 60, 58, 7, 29, 25, 7]
abbrev dktX1_isBoxSound_4 : List UInt8 := dkwX1_isBoxSound_4 ++ dktX1_isBoxSound_5
def dkwX1_isBoxSound_3 : List UInt8 := [21, 5, 96, 160, 0, 7, 4, 167, 0, 4, 3, 126, 62, 42, 180, 0, 28, 182, 0, 182, 58, 6, 25, 6]
abbrev dktX1_isBoxSound_3 : List UInt8 := dkwX1_isBoxSound_3 ++ dktX1_isBoxSound_4
def dkwX1_isBoxSound_2 : List UInt8 := [42, 180, 0, 28, 43, 180, 0, 117, 21, 5, 46, 182, 0, 80, 192, 0, 60, 180, 0, 169, 16, 10, 28, 104]
abbrev dktX1_isBoxSound_2 : List UInt8 := dkwX1_isBoxSound_2 ++ dktX1_isBoxSound_3
def dkwX1_isBoxSound_1 : List UInt8 := [54, 4, 3, 54, 5, 21, 5, 16, 10, 162, 0, 135, 29, 43, 180, 0, 117, 21, 5, 46, 2, 159, 0, 33]
abbrev dktX1_isBoxSound_1 : List UInt8 := dkwX1_isBoxSound_1 ++ dktX1_isBoxSound_2
def dkwX1_isBoxSound_0 : List UInt8 := [43, 180, 0, 121, 182, 0, 53, 16, 8, 163, 0, 7, 4, 167, 0, 4, 3, 62, 42, 43, 4, 182, 1, 3]
abbrev dktX1_isBoxSound_0 : List UInt8 := dkwX1_isBoxSound_0 ++ dktX1_isBoxSound_1
theorem dksX1_isBoxSound_0 : cX1_isBoxSound.data.toList.drop 0 = dktX1_isBoxSound_0 := by decide +kernel
theorem dksX1_isBoxSound_1 : cX1_isBoxSound.data.toList.drop 24 = dktX1_isBoxSound_1 := dk_seg dksX1_isBoxSound_0 24 rfl rfl
theorem dksX1_isBoxSound_2 : cX1_isBoxSound.data.toList.drop 48 = dktX1_isBoxSound_2 := dk_seg dksX1_isBoxSound_1 24 rfl rfl
theorem dksX1_isBoxSound_3 : cX1_isBoxSound.data.toList.drop 72 = dktX1_isBoxSound_3 := dk_seg dksX1_isBoxSound_2 24 rfl rfl
theorem dksX1_isBoxSound_4 : cX1_isBoxSound.data.toList.drop 96 = dktX1_isBoxSound_4 := dk_seg dksX1_isBoxSound_3 24 rfl rfl
theorem dksX1_isBoxSound_5 : cX1_isBoxSound.data.toList.drop 119 = dktX1_isBoxSound_5 := dk_seg dksX1_isBoxSound_4 23 rfl rfl
theorem dksX1_isBoxSound_6 : cX1_isBoxSound.data.toList.drop 143 = dktX1_isBoxSound_6 := dk_seg dksX1_isBoxSound_5 24 rfl rfl
theorem dksX1_isBoxSound_7 : cX1_isBoxSound.data.toList.drop 165 = dktX1_isBoxSound_7 := dk_seg dksX1_isBoxSound_6 22 rfl rfl
theorem dX1_isBoxSound_0 : decode cX1_isBoxSound 0 = .ok (.aload_n 1, 1) := dk_43 (dk_at dksX1_isBoxSound_0 0 rfl rfl)
theorem dX1_isBoxSound_1 : decode cX1_isBoxSound 1 = .ok (.getfield 121, 3) := dk_180 0 121 (dk_at dksX1_isBoxSound_0 1 rfl rfl)
theorem dX1_isBoxSound_4 : decode cX1_isBoxSound 4 = .ok (.invokevirtual 53, 3) := dk_182 0 53 (dk_at dksX1_isBoxSound_0 4 rfl rfl)
theorem dX1_isBoxSound_7 : decode cX1_isBoxSound 7 = .ok (.bipush 8, 2) := dk_16 8 (dk_at dksX1_isBoxSound_0 7 rfl rfl)
theorem dX1_isBoxSound_9 : decode cX1_isBoxSound 9 = .ok (.if_icmp .gt 7, 3) := dk_163 0 7 (dk_at dksX1_isBoxSound_0 9 rfl rfl)
theorem dX1_isBoxSound_12 : decode cX1_isBoxSound 12 = .ok (.iconst 1, 1) := dk_4 (dk_at dksX1_isBoxSound_0 12 rfl rfl)
theorem dX1_isBoxSound_13 : decode cX1_isBoxSound 13 = .ok (.goto 4, 3) := dk_167 0 4 (dk_at dksX1_isBoxSound_0 13 rfl rfl)
theorem dX1_isBoxSound_16 : decode cX1_isBoxSound 16 = .ok (.iconst 0, 1) := dk_3 (dk_at dksX1_isBoxSound_0 16 rfl rfl)
theorem dX1_isBoxSound_17 : decode cX1_isBoxSound 17 = .ok (.istore_n 3, 1) := dk_62 (dk_at dksX1_isBoxSound_0 17 rfl rfl)
theorem dX1_isBoxSound_18 : decode cX1_isBoxSound 18 = .ok (.aload_n 0, 1) := dk_42 (dk_at dksX1_isBoxSound_0 18 rfl rfl)
theorem dX1_isBoxSound_19 : decode cX1_isBoxSound 19 = .ok (.aload_n 1, 1) := dk_43 (dk_at dksX1_isBoxSound_0 19 rfl rfl)
theorem dX1_isBoxSound_20 : decode cX1_isBoxSound 20 = .ok (.iconst 1, 1) := dk_4 (dk_at dksX1_isBoxSound_0 20 rfl rfl)
theorem dX1_isBoxSound_21 : decode cX1_isBoxSound 21 = .ok (.invokevirtual 259, 3) := dk_182 1 3 (dk_at dksX1_isBoxSound_0 21 rfl rfl)
theorem dX1_isBoxSound_24 : decode cX1_isBoxSound 24 = .ok (.istore 4, 2) := dk_54 4 (dk_at dksX1_isBoxSound_1 0 rfl rfl)
theorem dX1_isBoxSound_26 : decode cX1_isBoxSound 26 = .ok (.iconst 0, 1) := dk_3 (dk_at dksX1_isBoxSound_1 2 rfl rfl)
theorem dX1_isBoxSound_27 : decode cX1_isBoxSound 27 = .ok (.istore 5, 2) := dk_54 5 (dk_at dksX1_isBoxSound_1 3 rfl rfl)
theorem dX1_isBoxSound_29 : decode cX1_isBoxSound 29 = .ok (.iload 5, 2) := dk_21 5 (dk_at dksX1_isBoxSound_1 5 rfl rfl)
theorem dX1_isBoxSound_31 : decode cX1_isBoxSound 31 = .ok (.bipush 10, 2) := dk_16 10 (dk_at dksX1_isBoxSound_1 7 rfl rfl)
theorem dX1_isBoxSound_33 : decode cX1_isBoxSound 33 = .ok (.if_icmp .ge 135, 3) := dk_162 0 135 (dk_at dksX1_isBoxSound_1 9 rfl rfl)
theorem dX1_isBoxSound_36 : decode cX1_isBoxSound 36 = .ok (.iload_n 3, 1) := dk_29 (dk_at dksX1_isBoxSound_1 12 rfl rfl)
theorem dX1_isBoxSound_37 : decode cX1_isBoxSound 37 = .ok (.aload_n 1, 1) := dk_43 (dk_at dksX1_isBoxSound_1 13 rfl rfl)
theorem dX1_isBoxSound_38 : decode cX1_isBoxSound 38 = .ok (.getfield 117, 3) := dk_180 0 117 (dk_at dksX1_isBoxSound_1 14 rfl rfl)
theorem dX1_isBoxSound_41 : decode cX1_isBoxSound 41 = .ok (.iload 5, 2) := dk_21 5 (dk_at dksX1_isBoxSound_1 17 rfl rfl)
theorem dX1_isBoxSound_43 : decode cX1_isBoxSound 43 = .ok (.iaload, 1) := dk_46 (dk_at dksX1_isBoxSound_1 19 rfl rfl)
theorem dX1_isBoxSound_44 : decode cX1_isBoxSound 44 = .ok (.iconst (-1), 1) := dk_2 (dk_at dksX1_isBoxSound_1 20 rfl rfl)
theorem dX1_isBoxSound_45 : decode cX1_isBoxSound 45 = .ok (.if_icmp .eq 33, 3) := dk_159 0 33 (dk_at dksX1_isBoxSound_1 21 rfl rfl)
theorem dX1_isBoxSound_48 : decode cX1_isBoxSound 48 = .ok (.aload_n 0, 1) := dk_42 (dk_at dksX1_isBoxSound_2 0 rfl rfl)
theorem dX1_isBoxSound_49 : decode cX1_isBoxSound 49 = .ok (.getfield 28, 3) := dk_180 0 28 (dk_at dksX1_isBoxSound_2 1 rfl rfl)
theorem dX1_isBoxSound_52 : decode cX1_isBoxSound 52 = .ok (.aload_n 1, 1) := dk_43 (dk_at dksX1_isBoxSound_2 4 rfl rfl)
theorem dX1_isBoxSound_53 : decode cX1_isBoxSound 53 = .ok (.getfield 117, 3) := dk_180 0 117 (dk_at dksX1_isBoxSound_2 5 rfl rfl)
theorem dX1_isBoxSound_56 : decode cX1_isBoxSound 56 = .ok (.iload 5, 2) := dk_21 5 (dk_at dksX1_isBoxSound_2 8 rfl rfl)
theorem dX1_isBoxSound_58 : decode cX1_isBoxSound 58 = .ok (.iaload, 1) := dk_46 (dk_at dksX1_isBoxSound_2 10 rfl rfl)
theorem dX1_isBoxSound_59 : decode cX1_isBoxSound 59 = .ok (.invokevirtual 80, 3) := dk_182 0 80 (dk_at dksX1_isBoxSound_2 11 rfl rfl)
theorem dX1_isBoxSound_62 : decode cX1_isBoxSound 62 = .ok (.checkcast 60, 3) := dk_192 0 60 (dk_at dksX1_isBoxSound_2 14 rfl rfl)
theorem dX1_isBoxSound_65 : decode cX1_isBoxSound 65 = .ok (.getfield 169, 3) := dk_180 0 169 (dk_at dksX1_isBoxSound_2 17 rfl rfl)
theorem dX1_isBoxSound_68 : decode cX1_isBoxSound 68 = .ok (.bipush 10, 2) := dk_16 10 (dk_at dksX1_isBoxSound_2 20 rfl rfl)
theorem dX1_isBoxSound_70 : decode cX1_isBoxSound 70 = .ok (.iload_n 2, 1) := dk_28 (dk_at dksX1_isBoxSound_2 22 rfl rfl)
theorem dX1_isBoxSound_71 : decode cX1_isBoxSound 71 = .ok (.imul, 1) := dk_104 (dk_at dksX1_isBoxSound_2 23 rfl rfl)
theorem dX1_isBoxSound_72 : decode cX1_isBoxSound 72 = .ok (.iload 5, 2) := dk_21 5 (dk_at dksX1_isBoxSound_3 0 rfl rfl)
theorem dX1_isBoxSound_74 : decode cX1_isBoxSound 74 = .ok (.iadd, 1) := dk_96 (dk_at dksX1_isBoxSound_3 2 rfl rfl)
theorem dX1_isBoxSound_75 : decode cX1_isBoxSound 75 = .ok (.if_icmp .ne 7, 3) := dk_160 0 7 (dk_at dksX1_isBoxSound_3 3 rfl rfl)
theorem dX1_isBoxSound_78 : decode cX1_isBoxSound 78 = .ok (.iconst 1, 1) := dk_4 (dk_at dksX1_isBoxSound_3 6 rfl rfl)
theorem dX1_isBoxSound_79 : decode cX1_isBoxSound 79 = .ok (.goto 4, 3) := dk_167 0 4 (dk_at dksX1_isBoxSound_3 7 rfl rfl)
theorem dX1_isBoxSound_82 : decode cX1_isBoxSound 82 = .ok (.iconst 0, 1) := dk_3 (dk_at dksX1_isBoxSound_3 10 rfl rfl)
theorem dX1_isBoxSound_83 : decode cX1_isBoxSound 83 = .ok (.iand, 1) := dk_126 (dk_at dksX1_isBoxSound_3 11 rfl rfl)
theorem dX1_isBoxSound_84 : decode cX1_isBoxSound 84 = .ok (.istore_n 3, 1) := dk_62 (dk_at dksX1_isBoxSound_3 12 rfl rfl)
theorem dX1_isBoxSound_85 : decode cX1_isBoxSound 85 = .ok (.aload_n 0, 1) := dk_42 (dk_at dksX1_isBoxSound_3 13 rfl rfl)
theorem dX1_isBoxSound_86 : decode cX1_isBoxSound 86 = .ok (.getfield 28, 3) := dk_180 0 28 (dk_at dksX1_isBoxSound_3 14 rfl rfl)
theorem dX1_isBoxSound_89 : decode cX1_isBoxSound 89 = .ok (.invokevirtual 182, 3) := dk_182 0 182 (dk_at dksX1_isBoxSound_3 17 rfl rfl)
theorem dX1_isBoxSound_92 : decode cX1_isBoxSound 92 = .ok (.astore 6, 2) := dk_58 6 (dk_at dksX1_isBoxSound_3 20 rfl rfl)
theorem dX1_isBoxSound_94 : decode cX1_isBoxSound 94 = .ok (.aload 6, 2) := dk_25 6 (dk_at dksX1_isBoxSound_3 22 rfl rfl)
theorem dX1_isBoxSound_96 : decode cX1_isBoxSound 96 = .ok (.invokeinterface 186 1, 5) := by decide +kernel
theorem dX1_isBoxSound_101 : decode cX1_isBoxSound 101 = .ok (.ifCond .eq 61, 3) := dk_153 0 61 (dk_at dksX1_isBoxSound_4 5 rfl rfl)
theorem dX1_isBoxSound_104 : decode cX1_isBoxSound 104 = .ok (.aload 6, 2) := dk_25 6 (dk_at dksX1_isBoxSound_4 8 rfl rfl)
theorem dX1_isBoxSound_106 : decode cX1_isBoxSound 106 = .ok (.invokeinterface 191 1, 5) := by decide +kernel
theorem dX1_isBoxSound_111 : decode cX1_isBoxSound 111 = .ok (.checkcast 60, 3) := dk_192 0 60 (dk_at dksX1_isBoxSound_4 15 rfl rfl)
theorem dX1_isBoxSound_114 : decode cX1_isBoxSound 114 = .ok (.astore 7, 2) := dk_58 7 (dk_at dksX1_isBoxSound_4 18 rfl rfl)
theorem dX1_isBoxSound_116 : decode cX1_isBoxSound 116 = .ok (.iload_n 3, 1) := dk_29 (dk_at dksX1_isBoxSound_4 20 rfl rfl)
theorem dX1_isBoxSound_117 : decode cX1_isBoxSound 117 = .ok (.aload 7, 2) := dk_25 7 (dk_at dksX1_isBoxSound_4 21 rfl rfl)
theorem dX1_isBoxSound_119 : decode cX1_isBoxSound 119 = .ok (.getfield 169, 3) := dk_180 0 169 (dk_at dksX1_isBoxSound_5 0 rfl rfl)
theorem dX1_isBoxSound_122 : decode cX1_isBoxSound 122 = .ok (.iconst (-1), 1) := dk_2 (dk_at dksX1_isBoxSound_5 3 rfl rfl)
theorem dX1_isBoxSound_123 : decode cX1_isBoxSound 123 = .ok (.if_icmp .ne 29, 3) := dk_160 0 29 (dk_at dksX1_isBoxSound_5 4 rfl rfl)
theorem dX1_isBoxSound_126 : decode cX1_isBoxSound 126 = .ok (.aload 7, 2) := dk_25 7 (dk_at dksX1_isBoxSound_5 7 rfl rfl)
theorem dX1_isBoxSound_128 : decode cX1_isBoxSound 128 = .ok (.aload_n 0, 1) := dk_42 (dk_at dksX1_isBoxSound_5 9 rfl rfl)
theorem dX1_isBoxSound_129 : decode cX1_isBoxSound 129 = .ok (.getfield 172, 3) := dk_180 0 172 (dk_at dksX1_isBoxSound_5 10 rfl rfl)
theorem dX1_isBoxSound_132 : decode cX1_isBoxSound 132 = .ok (.aload_n 1, 1) := dk_43 (dk_at dksX1_isBoxSound_5 13 rfl rfl)
theorem dX1_isBoxSound_133 : decode cX1_isBoxSound 133 = .ok (.getfield 175, 3) := dk_180 0 175 (dk_at dksX1_isBoxSound_5 14 rfl rfl)
theorem dX1_isBoxSound_136 : decode cX1_isBoxSound 136 = .ok (.invokevirtual 178, 3) := dk_182 0 178 (dk_at dksX1_isBoxSound_5 17 rfl rfl)
theorem dX1_isBoxSound_139 : decode cX1_isBoxSound 139 = .ok (.aload_n 0, 1) := dk_42 (dk_at dksX1_isBoxSound_5 20 rfl rfl)
theorem dX1_isBoxSound_140 : decode cX1_isBoxSound 140 = .ok (.aload_n 1, 1) := dk_43 (dk_at dksX1_isBoxSound_5 21 rfl rfl)
theorem dX1_isBoxSound_141 : decode cX1_isBoxSound 141 = .ok (.iload 5, 2) := dk_21 5 (dk_at dksX1_isBoxSound_5 22 rfl rfl)
theorem dX1_isBoxSound_143 : decode cX1_isBoxSound 143 = .ok (.invokevirtual 241, 3) := dk_182 0 241 (dk_at dksX1_isBoxSound_6 0 rfl rfl)
theorem dX1_isBoxSound_146 : decode cX1_isBoxSound 146 = .ok (.isub, 1) := dk_100 (dk_at dksX1_isBoxSound_6 3 rfl rfl)
theorem dX1_isBoxSound_147 : decode cX1_isBoxSound 147 = .ok (.iload 4, 2) := dk_21 4 (dk_at dksX1_isBoxSound_6 4 rfl rfl)
theorem dX1_isBoxSound_149 : decode cX1_isBoxSound 149 = .ok (.if_icmp .gt 7, 3) := dk_163 0 7 (dk_at dksX1_isBoxSound_6 6 rfl rfl)
theorem dX1_isBoxSound_152 : decode cX1_isBoxSound 152 = .ok (.iconst 1, 1) := dk_4 (dk_at dksX1_isBoxSound_6 9 rfl rfl)
theorem dX1_isBoxSound_153 : decode cX1_isBoxSound 153 = .ok (.goto 4, 3) := dk_167 0 4 (dk_at dksX1_isBoxSound_6 10 rfl rfl)
theorem dX1_isBoxSound_156 : decode cX1_isBoxSound 156 = .ok (.iconst 0, 1) := dk_3 (dk_at dksX1_isBoxSound_6 13 rfl rfl)
theorem dX1_isBoxSound_157 : decode cX1_isBoxSound 157 = .ok (.iand, 1) := dk_126 (dk_at dksX1_isBoxSound_6 14 rfl rfl)
theorem dX1_isBoxSound_158 : decode cX1_isBoxSound 158 = .ok (.istore_n 3, 1) := dk_62 (dk_at dksX1_isBoxSound_6 15 rfl rfl)
theorem dX1_isBoxSound_159 : decode cX1_isBoxSound 159 = .ok (.goto (-65), 3) := dk_167 255 191 (dk_at dksX1_isBoxSound_6 16 rfl rfl)
theorem dX1_isBoxSound_162 : decode cX1_isBoxSound 162 = .ok (.iinc 5 1, 3) := dk_132 5 1 (dk_at dksX1_isBoxSound_6 19 rfl rfl)
theorem dX1_isBoxSound_165 : decode cX1_isBoxSound 165 = .ok (.goto (-136), 3) := dk_167 255 120 (dk_at dksX1_isBoxSound_7 0 rfl rfl)
theorem dX1_isBoxSound_168 : decode cX1_isBoxSound 168 = .ok (.iload_n 3, 1) := dk_29 (dk_at dksX1_isBoxSound_7 3 rfl rfl)
theorem dX1_isBoxSound_169 : decode cX1_isBoxSound 169 = .ok (.ireturn, 1) := dk_172 (dk_at dksX1_isBoxSound_7 4 rfl rfl)
abbrev cX1_bestOf : ByteArray := prog_1_method_48_code
def yX1_bestOf : MethodName := ⟨RX1, "bestOf", "(LSelectoRoute$Box;I)I"⟩
def dkwX1_bestOf_6 : List UInt8 := [184, 0, 250, 45, 3, 184, 0, 250, 100, 184, 0, 254, 96, 54, 5, 132, 6, 1, 167, 255, 218, 21, 5, 172]
abbrev dktX1_bestOf_6 : List UInt8 := dkwX1_bestOf_6 ++ []
def dkwX1_bestOf_5 : List UInt8 := [54, 6, 21, 6, 28, 162, 0, 38, 25, 4, 182, 0, 130, 154, 0, 30, 21, 5, 3, 25, 4, 4]
abbrev dktX1_bestOf_5 : List UInt8 := dkwX1_bestOf_5 ++ dktX1_bestOf_6
def dkwX1_bestOf_4 : List UInt8 := [180, 0, 172, 43, 180, 0, 175, 182, 0, 178, 184, 0, 124, 182, 0, 65, 87, 167, 255, 203, 3, 54, 5, 3]
abbrev dktX1_bestOf_4 : List UInt8 := dkwX1_bestOf_4 ++ dktX1_bestOf_5
def dkwX1_bestOf_3 : List UInt8 := [185, 0, 191, 1, 0, 192, 0, 60, 58, 6, 25, 6, 180, 0, 169, 2, 160, 0, 25, 25, 4, 25, 6, 42]
abbrev dktX1_bestOf_3 : List UInt8 := dkwX1_bestOf_3 ++ dktX1_bestOf_4
def dkwX1_bestOf_2 : List UInt8 := [42, 180, 0, 28, 182, 0, 182, 58, 5, 25, 5, 185, 0, 186, 1, 0, 153, 0, 49, 25, 5]
abbrev dktX1_bestOf_2 : List UInt8 := dkwX1_bestOf_2 ++ dktX1_bestOf_3
def dkwX1_bestOf_1 : List UInt8 := [162, 0, 24, 45, 42, 43, 21, 5, 182, 0, 241, 184, 0, 124, 182, 0, 65, 87, 132, 5, 1, 167, 255, 231]
abbrev dktX1_bestOf_1 : List UInt8 := dkwX1_bestOf_1 ++ dktX1_bestOf_2
def dkwX1_bestOf_0 : List UInt8 := [187, 0, 25, 89, 183, 0, 27, 78, 187, 0, 25, 89, 183, 0, 27, 58, 4, 3, 54, 5, 21, 5, 16, 10]
abbrev dktX1_bestOf_0 : List UInt8 := dkwX1_bestOf_0 ++ dktX1_bestOf_1
theorem dksX1_bestOf_0 : cX1_bestOf.data.toList.drop 0 = dktX1_bestOf_0 := by decide +kernel
theorem dksX1_bestOf_1 : cX1_bestOf.data.toList.drop 24 = dktX1_bestOf_1 := dk_seg dksX1_bestOf_0 24 rfl rfl
theorem dksX1_bestOf_2 : cX1_bestOf.data.toList.drop 48 = dktX1_bestOf_2 := dk_seg dksX1_bestOf_1 24 rfl rfl
theorem dksX1_bestOf_3 : cX1_bestOf.data.toList.drop 69 = dktX1_bestOf_3 := dk_seg dksX1_bestOf_2 21 rfl rfl
theorem dksX1_bestOf_4 : cX1_bestOf.data.toList.drop 93 = dktX1_bestOf_4 := dk_seg dksX1_bestOf_3 24 rfl rfl
theorem dksX1_bestOf_5 : cX1_bestOf.data.toList.drop 117 = dktX1_bestOf_5 := dk_seg dksX1_bestOf_4 24 rfl rfl
theorem dksX1_bestOf_6 : cX1_bestOf.data.toList.drop 139 = dktX1_bestOf_6 := dk_seg dksX1_bestOf_5 22 rfl rfl
theorem dX1_bestOf_0 : decode cX1_bestOf 0 = .ok (.new 25, 3) := dk_187 0 25 (dk_at dksX1_bestOf_0 0 rfl rfl)
theorem dX1_bestOf_3 : decode cX1_bestOf 3 = .ok (.dup, 1) := dk_89 (dk_at dksX1_bestOf_0 3 rfl rfl)
theorem dX1_bestOf_4 : decode cX1_bestOf 4 = .ok (.invokespecial 27, 3) := dk_183 0 27 (dk_at dksX1_bestOf_0 4 rfl rfl)
theorem dX1_bestOf_7 : decode cX1_bestOf 7 = .ok (.astore_n 3, 1) := dk_78 (dk_at dksX1_bestOf_0 7 rfl rfl)
theorem dX1_bestOf_8 : decode cX1_bestOf 8 = .ok (.new 25, 3) := dk_187 0 25 (dk_at dksX1_bestOf_0 8 rfl rfl)
theorem dX1_bestOf_11 : decode cX1_bestOf 11 = .ok (.dup, 1) := dk_89 (dk_at dksX1_bestOf_0 11 rfl rfl)
theorem dX1_bestOf_12 : decode cX1_bestOf 12 = .ok (.invokespecial 27, 3) := dk_183 0 27 (dk_at dksX1_bestOf_0 12 rfl rfl)
theorem dX1_bestOf_15 : decode cX1_bestOf 15 = .ok (.astore 4, 2) := dk_58 4 (dk_at dksX1_bestOf_0 15 rfl rfl)
theorem dX1_bestOf_17 : decode cX1_bestOf 17 = .ok (.iconst 0, 1) := dk_3 (dk_at dksX1_bestOf_0 17 rfl rfl)
theorem dX1_bestOf_18 : decode cX1_bestOf 18 = .ok (.istore 5, 2) := dk_54 5 (dk_at dksX1_bestOf_0 18 rfl rfl)
theorem dX1_bestOf_20 : decode cX1_bestOf 20 = .ok (.iload 5, 2) := dk_21 5 (dk_at dksX1_bestOf_0 20 rfl rfl)
theorem dX1_bestOf_22 : decode cX1_bestOf 22 = .ok (.bipush 10, 2) := dk_16 10 (dk_at dksX1_bestOf_0 22 rfl rfl)
theorem dX1_bestOf_24 : decode cX1_bestOf 24 = .ok (.if_icmp .ge 24, 3) := dk_162 0 24 (dk_at dksX1_bestOf_1 0 rfl rfl)
theorem dX1_bestOf_27 : decode cX1_bestOf 27 = .ok (.aload_n 3, 1) := dk_45 (dk_at dksX1_bestOf_1 3 rfl rfl)
theorem dX1_bestOf_28 : decode cX1_bestOf 28 = .ok (.aload_n 0, 1) := dk_42 (dk_at dksX1_bestOf_1 4 rfl rfl)
theorem dX1_bestOf_29 : decode cX1_bestOf 29 = .ok (.aload_n 1, 1) := dk_43 (dk_at dksX1_bestOf_1 5 rfl rfl)
theorem dX1_bestOf_30 : decode cX1_bestOf 30 = .ok (.iload 5, 2) := dk_21 5 (dk_at dksX1_bestOf_1 6 rfl rfl)
theorem dX1_bestOf_32 : decode cX1_bestOf 32 = .ok (.invokevirtual 241, 3) := dk_182 0 241 (dk_at dksX1_bestOf_1 8 rfl rfl)
theorem dX1_bestOf_35 : decode cX1_bestOf 35 = .ok (.invokestatic 124, 3) := dk_184 0 124 (dk_at dksX1_bestOf_1 11 rfl rfl)
theorem dX1_bestOf_38 : decode cX1_bestOf 38 = .ok (.invokevirtual 65, 3) := dk_182 0 65 (dk_at dksX1_bestOf_1 14 rfl rfl)
theorem dX1_bestOf_41 : decode cX1_bestOf 41 = .ok (.pop, 1) := dk_87 (dk_at dksX1_bestOf_1 17 rfl rfl)
theorem dX1_bestOf_42 : decode cX1_bestOf 42 = .ok (.iinc 5 1, 3) := dk_132 5 1 (dk_at dksX1_bestOf_1 18 rfl rfl)
theorem dX1_bestOf_45 : decode cX1_bestOf 45 = .ok (.goto (-25), 3) := dk_167 255 231 (dk_at dksX1_bestOf_1 21 rfl rfl)
theorem dX1_bestOf_48 : decode cX1_bestOf 48 = .ok (.aload_n 0, 1) := dk_42 (dk_at dksX1_bestOf_2 0 rfl rfl)
theorem dX1_bestOf_49 : decode cX1_bestOf 49 = .ok (.getfield 28, 3) := dk_180 0 28 (dk_at dksX1_bestOf_2 1 rfl rfl)
theorem dX1_bestOf_52 : decode cX1_bestOf 52 = .ok (.invokevirtual 182, 3) := dk_182 0 182 (dk_at dksX1_bestOf_2 4 rfl rfl)
theorem dX1_bestOf_55 : decode cX1_bestOf 55 = .ok (.astore 5, 2) := dk_58 5 (dk_at dksX1_bestOf_2 7 rfl rfl)
theorem dX1_bestOf_57 : decode cX1_bestOf 57 = .ok (.aload 5, 2) := dk_25 5 (dk_at dksX1_bestOf_2 9 rfl rfl)
theorem dX1_bestOf_59 : decode cX1_bestOf 59 = .ok (.invokeinterface 186 1, 5) := by decide +kernel
theorem dX1_bestOf_64 : decode cX1_bestOf 64 = .ok (.ifCond .eq 49, 3) := dk_153 0 49 (dk_at dksX1_bestOf_2 16 rfl rfl)
theorem dX1_bestOf_67 : decode cX1_bestOf 67 = .ok (.aload 5, 2) := dk_25 5 (dk_at dksX1_bestOf_2 19 rfl rfl)
theorem dX1_bestOf_69 : decode cX1_bestOf 69 = .ok (.invokeinterface 191 1, 5) := by decide +kernel
theorem dX1_bestOf_74 : decode cX1_bestOf 74 = .ok (.checkcast 60, 3) := dk_192 0 60 (dk_at dksX1_bestOf_3 5 rfl rfl)
theorem dX1_bestOf_77 : decode cX1_bestOf 77 = .ok (.astore 6, 2) := dk_58 6 (dk_at dksX1_bestOf_3 8 rfl rfl)
theorem dX1_bestOf_79 : decode cX1_bestOf 79 = .ok (.aload 6, 2) := dk_25 6 (dk_at dksX1_bestOf_3 10 rfl rfl)
theorem dX1_bestOf_81 : decode cX1_bestOf 81 = .ok (.getfield 169, 3) := dk_180 0 169 (dk_at dksX1_bestOf_3 12 rfl rfl)
theorem dX1_bestOf_84 : decode cX1_bestOf 84 = .ok (.iconst (-1), 1) := dk_2 (dk_at dksX1_bestOf_3 15 rfl rfl)
theorem dX1_bestOf_85 : decode cX1_bestOf 85 = .ok (.if_icmp .ne 25, 3) := dk_160 0 25 (dk_at dksX1_bestOf_3 16 rfl rfl)
theorem dX1_bestOf_88 : decode cX1_bestOf 88 = .ok (.aload 4, 2) := dk_25 4 (dk_at dksX1_bestOf_3 19 rfl rfl)
theorem dX1_bestOf_90 : decode cX1_bestOf 90 = .ok (.aload 6, 2) := dk_25 6 (dk_at dksX1_bestOf_3 21 rfl rfl)
theorem dX1_bestOf_92 : decode cX1_bestOf 92 = .ok (.aload_n 0, 1) := dk_42 (dk_at dksX1_bestOf_3 23 rfl rfl)
theorem dX1_bestOf_93 : decode cX1_bestOf 93 = .ok (.getfield 172, 3) := dk_180 0 172 (dk_at dksX1_bestOf_4 0 rfl rfl)
theorem dX1_bestOf_96 : decode cX1_bestOf 96 = .ok (.aload_n 1, 1) := dk_43 (dk_at dksX1_bestOf_4 3 rfl rfl)
theorem dX1_bestOf_97 : decode cX1_bestOf 97 = .ok (.getfield 175, 3) := dk_180 0 175 (dk_at dksX1_bestOf_4 4 rfl rfl)
theorem dX1_bestOf_100 : decode cX1_bestOf 100 = .ok (.invokevirtual 178, 3) := dk_182 0 178 (dk_at dksX1_bestOf_4 7 rfl rfl)
theorem dX1_bestOf_103 : decode cX1_bestOf 103 = .ok (.invokestatic 124, 3) := dk_184 0 124 (dk_at dksX1_bestOf_4 10 rfl rfl)
theorem dX1_bestOf_106 : decode cX1_bestOf 106 = .ok (.invokevirtual 65, 3) := dk_182 0 65 (dk_at dksX1_bestOf_4 13 rfl rfl)
theorem dX1_bestOf_109 : decode cX1_bestOf 109 = .ok (.pop, 1) := dk_87 (dk_at dksX1_bestOf_4 16 rfl rfl)
theorem dX1_bestOf_110 : decode cX1_bestOf 110 = .ok (.goto (-53), 3) := dk_167 255 203 (dk_at dksX1_bestOf_4 17 rfl rfl)
theorem dX1_bestOf_113 : decode cX1_bestOf 113 = .ok (.iconst 0, 1) := dk_3 (dk_at dksX1_bestOf_4 20 rfl rfl)
theorem dX1_bestOf_114 : decode cX1_bestOf 114 = .ok (.istore 5, 2) := dk_54 5 (dk_at dksX1_bestOf_4 21 rfl rfl)
theorem dX1_bestOf_116 : decode cX1_bestOf 116 = .ok (.iconst 0, 1) := dk_3 (dk_at dksX1_bestOf_4 23 rfl rfl)
theorem dX1_bestOf_117 : decode cX1_bestOf 117 = .ok (.istore 6, 2) := dk_54 6 (dk_at dksX1_bestOf_5 0 rfl rfl)
theorem dX1_bestOf_119 : decode cX1_bestOf 119 = .ok (.iload 6, 2) := dk_21 6 (dk_at dksX1_bestOf_5 2 rfl rfl)
theorem dX1_bestOf_121 : decode cX1_bestOf 121 = .ok (.iload_n 2, 1) := dk_28 (dk_at dksX1_bestOf_5 4 rfl rfl)
theorem dX1_bestOf_122 : decode cX1_bestOf 122 = .ok (.if_icmp .ge 38, 3) := dk_162 0 38 (dk_at dksX1_bestOf_5 5 rfl rfl)
theorem dX1_bestOf_125 : decode cX1_bestOf 125 = .ok (.aload 4, 2) := dk_25 4 (dk_at dksX1_bestOf_5 8 rfl rfl)
theorem dX1_bestOf_127 : decode cX1_bestOf 127 = .ok (.invokevirtual 130, 3) := dk_182 0 130 (dk_at dksX1_bestOf_5 10 rfl rfl)
theorem dX1_bestOf_130 : decode cX1_bestOf 130 = .ok (.ifCond .ne 30, 3) := dk_154 0 30 (dk_at dksX1_bestOf_5 13 rfl rfl)
theorem dX1_bestOf_133 : decode cX1_bestOf 133 = .ok (.iload 5, 2) := dk_21 5 (dk_at dksX1_bestOf_5 16 rfl rfl)
theorem dX1_bestOf_135 : decode cX1_bestOf 135 = .ok (.iconst 0, 1) := dk_3 (dk_at dksX1_bestOf_5 18 rfl rfl)
theorem dX1_bestOf_136 : decode cX1_bestOf 136 = .ok (.aload 4, 2) := dk_25 4 (dk_at dksX1_bestOf_5 19 rfl rfl)
theorem dX1_bestOf_138 : decode cX1_bestOf 138 = .ok (.iconst 1, 1) := dk_4 (dk_at dksX1_bestOf_5 21 rfl rfl)
theorem dX1_bestOf_139 : decode cX1_bestOf 139 = .ok (.invokestatic 250, 3) := dk_184 0 250 (dk_at dksX1_bestOf_6 0 rfl rfl)
theorem dX1_bestOf_142 : decode cX1_bestOf 142 = .ok (.aload_n 3, 1) := dk_45 (dk_at dksX1_bestOf_6 3 rfl rfl)
theorem dX1_bestOf_143 : decode cX1_bestOf 143 = .ok (.iconst 0, 1) := dk_3 (dk_at dksX1_bestOf_6 4 rfl rfl)
theorem dX1_bestOf_144 : decode cX1_bestOf 144 = .ok (.invokestatic 250, 3) := dk_184 0 250 (dk_at dksX1_bestOf_6 5 rfl rfl)
theorem dX1_bestOf_147 : decode cX1_bestOf 147 = .ok (.isub, 1) := dk_100 (dk_at dksX1_bestOf_6 8 rfl rfl)
theorem dX1_bestOf_148 : decode cX1_bestOf 148 = .ok (.invokestatic 254, 3) := dk_184 0 254 (dk_at dksX1_bestOf_6 9 rfl rfl)
theorem dX1_bestOf_151 : decode cX1_bestOf 151 = .ok (.iadd, 1) := dk_96 (dk_at dksX1_bestOf_6 12 rfl rfl)
theorem dX1_bestOf_152 : decode cX1_bestOf 152 = .ok (.istore 5, 2) := dk_54 5 (dk_at dksX1_bestOf_6 13 rfl rfl)
theorem dX1_bestOf_154 : decode cX1_bestOf 154 = .ok (.iinc 6 1, 3) := dk_132 6 1 (dk_at dksX1_bestOf_6 15 rfl rfl)
theorem dX1_bestOf_157 : decode cX1_bestOf 157 = .ok (.goto (-38), 3) := dk_167 255 218 (dk_at dksX1_bestOf_6 18 rfl rfl)
theorem dX1_bestOf_160 : decode cX1_bestOf 160 = .ok (.iload 5, 2) := dk_21 5 (dk_at dksX1_bestOf_6 21 rfl rfl)
theorem dX1_bestOf_162 : decode cX1_bestOf 162 = .ok (.ireturn, 1) := dk_172 (dk_at dksX1_bestOf_6 23 rfl rfl)
abbrev cX1_pullOf : ByteArray := prog_1_method_45_code
def yX1_pullOf : MethodName := ⟨RX1, "pullOf", "(LSelectoRoute$Box;I)I"⟩
def dkwX1_pullOf_1 : List UInt8 := [182, 0, 80, 192, 0, 60, 42, 180, 0, 172, 43, 180, 0, 175, 182, 0, 178, 172]
abbrev dktX1_pullOf_1 : List UInt8 := dkwX1_pullOf_1 ++ []
def dkwX1_pullOf_0 : List UInt8 := [43, 180, 0, 117, 28, 46, 2, 160, 0, 7, 3, 167, 0, 30, 42, 180, 0, 28, 43, 180, 0, 117, 28, 46]
abbrev dktX1_pullOf_0 : List UInt8 := dkwX1_pullOf_0 ++ dktX1_pullOf_1
theorem dksX1_pullOf_0 : cX1_pullOf.data.toList.drop 0 = dktX1_pullOf_0 := by decide +kernel
theorem dksX1_pullOf_1 : cX1_pullOf.data.toList.drop 24 = dktX1_pullOf_1 := dk_seg dksX1_pullOf_0 24 rfl rfl
theorem dX1_pullOf_0 : decode cX1_pullOf 0 = .ok (.aload_n 1, 1) := dk_43 (dk_at dksX1_pullOf_0 0 rfl rfl)
theorem dX1_pullOf_1 : decode cX1_pullOf 1 = .ok (.getfield 117, 3) := dk_180 0 117 (dk_at dksX1_pullOf_0 1 rfl rfl)
theorem dX1_pullOf_4 : decode cX1_pullOf 4 = .ok (.iload_n 2, 1) := dk_28 (dk_at dksX1_pullOf_0 4 rfl rfl)
theorem dX1_pullOf_5 : decode cX1_pullOf 5 = .ok (.iaload, 1) := dk_46 (dk_at dksX1_pullOf_0 5 rfl rfl)
theorem dX1_pullOf_6 : decode cX1_pullOf 6 = .ok (.iconst (-1), 1) := dk_2 (dk_at dksX1_pullOf_0 6 rfl rfl)
theorem dX1_pullOf_7 : decode cX1_pullOf 7 = .ok (.if_icmp .ne 7, 3) := dk_160 0 7 (dk_at dksX1_pullOf_0 7 rfl rfl)
theorem dX1_pullOf_10 : decode cX1_pullOf 10 = .ok (.iconst 0, 1) := dk_3 (dk_at dksX1_pullOf_0 10 rfl rfl)
theorem dX1_pullOf_11 : decode cX1_pullOf 11 = .ok (.goto 30, 3) := dk_167 0 30 (dk_at dksX1_pullOf_0 11 rfl rfl)
theorem dX1_pullOf_14 : decode cX1_pullOf 14 = .ok (.aload_n 0, 1) := dk_42 (dk_at dksX1_pullOf_0 14 rfl rfl)
theorem dX1_pullOf_15 : decode cX1_pullOf 15 = .ok (.getfield 28, 3) := dk_180 0 28 (dk_at dksX1_pullOf_0 15 rfl rfl)
theorem dX1_pullOf_18 : decode cX1_pullOf 18 = .ok (.aload_n 1, 1) := dk_43 (dk_at dksX1_pullOf_0 18 rfl rfl)
theorem dX1_pullOf_19 : decode cX1_pullOf 19 = .ok (.getfield 117, 3) := dk_180 0 117 (dk_at dksX1_pullOf_0 19 rfl rfl)
theorem dX1_pullOf_22 : decode cX1_pullOf 22 = .ok (.iload_n 2, 1) := dk_28 (dk_at dksX1_pullOf_0 22 rfl rfl)
theorem dX1_pullOf_23 : decode cX1_pullOf 23 = .ok (.iaload, 1) := dk_46 (dk_at dksX1_pullOf_0 23 rfl rfl)
theorem dX1_pullOf_24 : decode cX1_pullOf 24 = .ok (.invokevirtual 80, 3) := dk_182 0 80 (dk_at dksX1_pullOf_1 0 rfl rfl)
theorem dX1_pullOf_27 : decode cX1_pullOf 27 = .ok (.checkcast 60, 3) := dk_192 0 60 (dk_at dksX1_pullOf_1 3 rfl rfl)
theorem dX1_pullOf_30 : decode cX1_pullOf 30 = .ok (.aload_n 0, 1) := dk_42 (dk_at dksX1_pullOf_1 6 rfl rfl)
theorem dX1_pullOf_31 : decode cX1_pullOf 31 = .ok (.getfield 172, 3) := dk_180 0 172 (dk_at dksX1_pullOf_1 7 rfl rfl)
theorem dX1_pullOf_34 : decode cX1_pullOf 34 = .ok (.aload_n 1, 1) := dk_43 (dk_at dksX1_pullOf_1 10 rfl rfl)
theorem dX1_pullOf_35 : decode cX1_pullOf 35 = .ok (.getfield 175, 3) := dk_180 0 175 (dk_at dksX1_pullOf_1 11 rfl rfl)
theorem dX1_pullOf_38 : decode cX1_pullOf 38 = .ok (.invokevirtual 178, 3) := dk_182 0 178 (dk_at dksX1_pullOf_1 14 rfl rfl)
theorem dX1_pullOf_41 : decode cX1_pullOf 41 = .ok (.ireturn, 1) := dk_172 (dk_at dksX1_pullOf_1 17 rfl rfl)
abbrev cX1_out : ByteArray := prog_1_method_47_code
def yX1_out : MethodName := ⟨RX1, "out", "(Ljava/util/List;Z)I"⟩
def dkwX1_out_5 : List UInt8 := [192, 0, 125, 182, 0, 143, 62, 42, 28, 185, 0, 249, 2, 0, 87, 29, 172]
abbrev dktX1_out_5 : List UInt8 := dkwX1_out_5 ++ []
def dkwX1_out_4 : List UInt8 := [21, 4, 153, 0, 7, 29, 167, 0, 4, 28, 61, 132, 3, 1, 167, 255, 155, 42, 28, 185, 0, 248, 2, 0]
abbrev dktX1_out_4 : List UInt8 := dkwX1_out_4 ++ dktX1_out_5
def dkwX1_out_3 : List UInt8 := [42, 28, 185, 0, 248, 2, 0, 192, 0, 125, 182, 0, 143, 162, 0, 7, 4, 167, 0, 4, 3, 54, 4]
abbrev dktX1_out_3 : List UInt8 := dkwX1_out_3 ++ dktX1_out_4
def dkwX1_out_2 : List UInt8 := [164, 0, 7, 4, 167, 0, 41, 3, 167, 0, 37, 42, 29, 185, 0, 248, 2, 0, 192, 0, 125, 182, 0, 143]
abbrev dktX1_out_2 : List UInt8 := dkwX1_out_2 ++ dktX1_out_3
def dkwX1_out_1 : List UInt8 := [185, 0, 248, 2, 0, 192, 0, 125, 182, 0, 143, 42, 28, 185, 0, 248, 2, 0, 192, 0, 125, 182, 0, 143]
abbrev dktX1_out_1 : List UInt8 := dkwX1_out_1 ++ dktX1_out_2
def dkwX1_out_0 : List UInt8 := [3, 61, 3, 62, 29, 42, 185, 0, 245, 1, 0, 162, 0, 97, 27, 153, 0, 40, 42, 29]
abbrev dktX1_out_0 : List UInt8 := dkwX1_out_0 ++ dktX1_out_1
theorem dksX1_out_0 : cX1_out.data.toList.drop 0 = dktX1_out_0 := by decide +kernel
theorem dksX1_out_1 : cX1_out.data.toList.drop 20 = dktX1_out_1 := dk_seg dksX1_out_0 20 rfl rfl
theorem dksX1_out_2 : cX1_out.data.toList.drop 44 = dktX1_out_2 := dk_seg dksX1_out_1 24 rfl rfl
theorem dksX1_out_3 : cX1_out.data.toList.drop 68 = dktX1_out_3 := dk_seg dksX1_out_2 24 rfl rfl
theorem dksX1_out_4 : cX1_out.data.toList.drop 91 = dktX1_out_4 := dk_seg dksX1_out_3 23 rfl rfl
theorem dksX1_out_5 : cX1_out.data.toList.drop 115 = dktX1_out_5 := dk_seg dksX1_out_4 24 rfl rfl
theorem dX1_out_0 : decode cX1_out 0 = .ok (.iconst 0, 1) := dk_3 (dk_at dksX1_out_0 0 rfl rfl)
theorem dX1_out_1 : decode cX1_out 1 = .ok (.istore_n 2, 1) := dk_61 (dk_at dksX1_out_0 1 rfl rfl)
theorem dX1_out_2 : decode cX1_out 2 = .ok (.iconst 0, 1) := dk_3 (dk_at dksX1_out_0 2 rfl rfl)
theorem dX1_out_3 : decode cX1_out 3 = .ok (.istore_n 3, 1) := dk_62 (dk_at dksX1_out_0 3 rfl rfl)
theorem dX1_out_4 : decode cX1_out 4 = .ok (.iload_n 3, 1) := dk_29 (dk_at dksX1_out_0 4 rfl rfl)
theorem dX1_out_5 : decode cX1_out 5 = .ok (.aload_n 0, 1) := dk_42 (dk_at dksX1_out_0 5 rfl rfl)
theorem dX1_out_6 : decode cX1_out 6 = .ok (.invokeinterface 245 1, 5) := by decide +kernel
theorem dX1_out_11 : decode cX1_out 11 = .ok (.if_icmp .ge 97, 3) := dk_162 0 97 (dk_at dksX1_out_0 11 rfl rfl)
theorem dX1_out_14 : decode cX1_out 14 = .ok (.iload_n 1, 1) := dk_27 (dk_at dksX1_out_0 14 rfl rfl)
theorem dX1_out_15 : decode cX1_out 15 = .ok (.ifCond .eq 40, 3) := dk_153 0 40 (dk_at dksX1_out_0 15 rfl rfl)
theorem dX1_out_18 : decode cX1_out 18 = .ok (.aload_n 0, 1) := dk_42 (dk_at dksX1_out_0 18 rfl rfl)
theorem dX1_out_19 : decode cX1_out 19 = .ok (.iload_n 3, 1) := dk_29 (dk_at dksX1_out_0 19 rfl rfl)
theorem dX1_out_20 : decode cX1_out 20 = .ok (.invokeinterface 248 2, 5) := by decide +kernel
theorem dX1_out_25 : decode cX1_out 25 = .ok (.checkcast 125, 3) := dk_192 0 125 (dk_at dksX1_out_1 5 rfl rfl)
theorem dX1_out_28 : decode cX1_out 28 = .ok (.invokevirtual 143, 3) := dk_182 0 143 (dk_at dksX1_out_1 8 rfl rfl)
theorem dX1_out_31 : decode cX1_out 31 = .ok (.aload_n 0, 1) := dk_42 (dk_at dksX1_out_1 11 rfl rfl)
theorem dX1_out_32 : decode cX1_out 32 = .ok (.iload_n 2, 1) := dk_28 (dk_at dksX1_out_1 12 rfl rfl)
theorem dX1_out_33 : decode cX1_out 33 = .ok (.invokeinterface 248 2, 5) := by decide +kernel
theorem dX1_out_38 : decode cX1_out 38 = .ok (.checkcast 125, 3) := dk_192 0 125 (dk_at dksX1_out_1 18 rfl rfl)
theorem dX1_out_41 : decode cX1_out 41 = .ok (.invokevirtual 143, 3) := dk_182 0 143 (dk_at dksX1_out_1 21 rfl rfl)
theorem dX1_out_44 : decode cX1_out 44 = .ok (.if_icmp .le 7, 3) := dk_164 0 7 (dk_at dksX1_out_2 0 rfl rfl)
theorem dX1_out_47 : decode cX1_out 47 = .ok (.iconst 1, 1) := dk_4 (dk_at dksX1_out_2 3 rfl rfl)
theorem dX1_out_48 : decode cX1_out 48 = .ok (.goto 41, 3) := dk_167 0 41 (dk_at dksX1_out_2 4 rfl rfl)
theorem dX1_out_51 : decode cX1_out 51 = .ok (.iconst 0, 1) := dk_3 (dk_at dksX1_out_2 7 rfl rfl)
theorem dX1_out_52 : decode cX1_out 52 = .ok (.goto 37, 3) := dk_167 0 37 (dk_at dksX1_out_2 8 rfl rfl)
theorem dX1_out_55 : decode cX1_out 55 = .ok (.aload_n 0, 1) := dk_42 (dk_at dksX1_out_2 11 rfl rfl)
theorem dX1_out_56 : decode cX1_out 56 = .ok (.iload_n 3, 1) := dk_29 (dk_at dksX1_out_2 12 rfl rfl)
theorem dX1_out_57 : decode cX1_out 57 = .ok (.invokeinterface 248 2, 5) := by decide +kernel
theorem dX1_out_62 : decode cX1_out 62 = .ok (.checkcast 125, 3) := dk_192 0 125 (dk_at dksX1_out_2 18 rfl rfl)
theorem dX1_out_65 : decode cX1_out 65 = .ok (.invokevirtual 143, 3) := dk_182 0 143 (dk_at dksX1_out_2 21 rfl rfl)
theorem dX1_out_68 : decode cX1_out 68 = .ok (.aload_n 0, 1) := dk_42 (dk_at dksX1_out_3 0 rfl rfl)
theorem dX1_out_69 : decode cX1_out 69 = .ok (.iload_n 2, 1) := dk_28 (dk_at dksX1_out_3 1 rfl rfl)
theorem dX1_out_70 : decode cX1_out 70 = .ok (.invokeinterface 248 2, 5) := by decide +kernel
theorem dX1_out_75 : decode cX1_out 75 = .ok (.checkcast 125, 3) := dk_192 0 125 (dk_at dksX1_out_3 7 rfl rfl)
theorem dX1_out_78 : decode cX1_out 78 = .ok (.invokevirtual 143, 3) := dk_182 0 143 (dk_at dksX1_out_3 10 rfl rfl)
theorem dX1_out_81 : decode cX1_out 81 = .ok (.if_icmp .ge 7, 3) := dk_162 0 7 (dk_at dksX1_out_3 13 rfl rfl)
theorem dX1_out_84 : decode cX1_out 84 = .ok (.iconst 1, 1) := dk_4 (dk_at dksX1_out_3 16 rfl rfl)
theorem dX1_out_85 : decode cX1_out 85 = .ok (.goto 4, 3) := dk_167 0 4 (dk_at dksX1_out_3 17 rfl rfl)
theorem dX1_out_88 : decode cX1_out 88 = .ok (.iconst 0, 1) := dk_3 (dk_at dksX1_out_3 20 rfl rfl)
theorem dX1_out_89 : decode cX1_out 89 = .ok (.istore 4, 2) := dk_54 4 (dk_at dksX1_out_3 21 rfl rfl)
theorem dX1_out_91 : decode cX1_out 91 = .ok (.iload 4, 2) := dk_21 4 (dk_at dksX1_out_4 0 rfl rfl)
theorem dX1_out_93 : decode cX1_out 93 = .ok (.ifCond .eq 7, 3) := dk_153 0 7 (dk_at dksX1_out_4 2 rfl rfl)
theorem dX1_out_96 : decode cX1_out 96 = .ok (.iload_n 3, 1) := dk_29 (dk_at dksX1_out_4 5 rfl rfl)
theorem dX1_out_97 : decode cX1_out 97 = .ok (.goto 4, 3) := dk_167 0 4 (dk_at dksX1_out_4 6 rfl rfl)
theorem dX1_out_100 : decode cX1_out 100 = .ok (.iload_n 2, 1) := dk_28 (dk_at dksX1_out_4 9 rfl rfl)
theorem dX1_out_101 : decode cX1_out 101 = .ok (.istore_n 2, 1) := dk_61 (dk_at dksX1_out_4 10 rfl rfl)
theorem dX1_out_102 : decode cX1_out 102 = .ok (.iinc 3 1, 3) := dk_132 3 1 (dk_at dksX1_out_4 11 rfl rfl)
theorem dX1_out_105 : decode cX1_out 105 = .ok (.goto (-101), 3) := dk_167 255 155 (dk_at dksX1_out_4 14 rfl rfl)
theorem dX1_out_108 : decode cX1_out 108 = .ok (.aload_n 0, 1) := dk_42 (dk_at dksX1_out_4 17 rfl rfl)
theorem dX1_out_109 : decode cX1_out 109 = .ok (.iload_n 2, 1) := dk_28 (dk_at dksX1_out_4 18 rfl rfl)
theorem dX1_out_110 : decode cX1_out 110 = .ok (.invokeinterface 248 2, 5) := by decide +kernel
theorem dX1_out_115 : decode cX1_out 115 = .ok (.checkcast 125, 3) := dk_192 0 125 (dk_at dksX1_out_5 0 rfl rfl)
theorem dX1_out_118 : decode cX1_out 118 = .ok (.invokevirtual 143, 3) := dk_182 0 143 (dk_at dksX1_out_5 3 rfl rfl)
theorem dX1_out_121 : decode cX1_out 121 = .ok (.istore_n 3, 1) := dk_62 (dk_at dksX1_out_5 6 rfl rfl)
theorem dX1_out_122 : decode cX1_out 122 = .ok (.aload_n 0, 1) := dk_42 (dk_at dksX1_out_5 7 rfl rfl)
theorem dX1_out_123 : decode cX1_out 123 = .ok (.iload_n 2, 1) := dk_28 (dk_at dksX1_out_5 8 rfl rfl)
theorem dX1_out_124 : decode cX1_out 124 = .ok (.invokeinterface 249 2, 5) := by decide +kernel
theorem dX1_out_129 : decode cX1_out 129 = .ok (.pop, 1) := dk_87 (dk_at dksX1_out_5 14 rfl rfl)
theorem dX1_out_130 : decode cX1_out 130 = .ok (.iload_n 3, 1) := dk_29 (dk_at dksX1_out_5 15 rfl rfl)
theorem dX1_out_131 : decode cX1_out 131 = .ok (.ireturn, 1) := dk_172 (dk_at dksX1_out_5 16 rfl rfl)
abbrev cX1_addDisc : ByteArray := prog_1_method_9_code
def yX1_addDisc : MethodName := ⟨RX1, "addDisc", "(III)I"⟩
def dkwX1_addDisc_3 : List UInt8 := [183, 0, 62, 182, 0, 65, 87, 42, 180, 0, 28, 182, 0, 53, 4, 100, 172]
abbrev dktX1_addDisc_3 : List UInt8 := dkwX1_addDisc_3 ++ []
def dkwX1_addDisc_2 : List UInt8 := [162, 0, 7, 4, 167, 0, 4, 3, 184, 0, 57, 42, 180, 0, 28, 187, 0, 60, 89, 27, 28, 29]
abbrev dktX1_addDisc_2 : List UInt8 := dkwX1_addDisc_2 ++ dktX1_addDisc_3
def dkwX1_addDisc_1 : List UInt8 := [184, 0, 45, 153, 0, 7, 4, 167, 0, 4, 3, 184, 0, 49, 42, 180, 0, 28, 182, 0, 53, 16, 30]
abbrev dktX1_addDisc_1 : List UInt8 := dkwX1_addDisc_1 ++ dktX1_addDisc_2
def dkwX1_addDisc_0 : List UInt8 := [27, 3, 16, 99, 184, 0, 45, 153, 0, 27, 28, 4, 16, 50, 184, 0, 45, 153, 0, 17, 29, 3, 16, 99]
abbrev dktX1_addDisc_0 : List UInt8 := dkwX1_addDisc_0 ++ dktX1_addDisc_1
theorem dksX1_addDisc_0 : cX1_addDisc.data.toList.drop 0 = dktX1_addDisc_0 := by decide +kernel
theorem dksX1_addDisc_1 : cX1_addDisc.data.toList.drop 24 = dktX1_addDisc_1 := dk_seg dksX1_addDisc_0 24 rfl rfl
theorem dksX1_addDisc_2 : cX1_addDisc.data.toList.drop 47 = dktX1_addDisc_2 := dk_seg dksX1_addDisc_1 23 rfl rfl
theorem dksX1_addDisc_3 : cX1_addDisc.data.toList.drop 69 = dktX1_addDisc_3 := dk_seg dksX1_addDisc_2 22 rfl rfl
theorem dX1_addDisc_0 : decode cX1_addDisc 0 = .ok (.iload_n 1, 1) := dk_27 (dk_at dksX1_addDisc_0 0 rfl rfl)
theorem dX1_addDisc_1 : decode cX1_addDisc 1 = .ok (.iconst 0, 1) := dk_3 (dk_at dksX1_addDisc_0 1 rfl rfl)
theorem dX1_addDisc_2 : decode cX1_addDisc 2 = .ok (.bipush 99, 2) := dk_16 99 (dk_at dksX1_addDisc_0 2 rfl rfl)
theorem dX1_addDisc_4 : decode cX1_addDisc 4 = .ok (.invokestatic 45, 3) := dk_184 0 45 (dk_at dksX1_addDisc_0 4 rfl rfl)
theorem dX1_addDisc_7 : decode cX1_addDisc 7 = .ok (.ifCond .eq 27, 3) := dk_153 0 27 (dk_at dksX1_addDisc_0 7 rfl rfl)
theorem dX1_addDisc_10 : decode cX1_addDisc 10 = .ok (.iload_n 2, 1) := dk_28 (dk_at dksX1_addDisc_0 10 rfl rfl)
theorem dX1_addDisc_11 : decode cX1_addDisc 11 = .ok (.iconst 1, 1) := dk_4 (dk_at dksX1_addDisc_0 11 rfl rfl)
theorem dX1_addDisc_12 : decode cX1_addDisc 12 = .ok (.bipush 50, 2) := dk_16 50 (dk_at dksX1_addDisc_0 12 rfl rfl)
theorem dX1_addDisc_14 : decode cX1_addDisc 14 = .ok (.invokestatic 45, 3) := dk_184 0 45 (dk_at dksX1_addDisc_0 14 rfl rfl)
theorem dX1_addDisc_17 : decode cX1_addDisc 17 = .ok (.ifCond .eq 17, 3) := dk_153 0 17 (dk_at dksX1_addDisc_0 17 rfl rfl)
theorem dX1_addDisc_20 : decode cX1_addDisc 20 = .ok (.iload_n 3, 1) := dk_29 (dk_at dksX1_addDisc_0 20 rfl rfl)
theorem dX1_addDisc_21 : decode cX1_addDisc 21 = .ok (.iconst 0, 1) := dk_3 (dk_at dksX1_addDisc_0 21 rfl rfl)
theorem dX1_addDisc_22 : decode cX1_addDisc 22 = .ok (.bipush 99, 2) := dk_16 99 (dk_at dksX1_addDisc_0 22 rfl rfl)
theorem dX1_addDisc_24 : decode cX1_addDisc 24 = .ok (.invokestatic 45, 3) := dk_184 0 45 (dk_at dksX1_addDisc_1 0 rfl rfl)
theorem dX1_addDisc_27 : decode cX1_addDisc 27 = .ok (.ifCond .eq 7, 3) := dk_153 0 7 (dk_at dksX1_addDisc_1 3 rfl rfl)
theorem dX1_addDisc_30 : decode cX1_addDisc 30 = .ok (.iconst 1, 1) := dk_4 (dk_at dksX1_addDisc_1 6 rfl rfl)
theorem dX1_addDisc_31 : decode cX1_addDisc 31 = .ok (.goto 4, 3) := dk_167 0 4 (dk_at dksX1_addDisc_1 7 rfl rfl)
theorem dX1_addDisc_34 : decode cX1_addDisc 34 = .ok (.iconst 0, 1) := dk_3 (dk_at dksX1_addDisc_1 10 rfl rfl)
theorem dX1_addDisc_35 : decode cX1_addDisc 35 = .ok (.invokestatic 49, 3) := dk_184 0 49 (dk_at dksX1_addDisc_1 11 rfl rfl)
theorem dX1_addDisc_38 : decode cX1_addDisc 38 = .ok (.aload_n 0, 1) := dk_42 (dk_at dksX1_addDisc_1 14 rfl rfl)
theorem dX1_addDisc_39 : decode cX1_addDisc 39 = .ok (.getfield 28, 3) := dk_180 0 28 (dk_at dksX1_addDisc_1 15 rfl rfl)
theorem dX1_addDisc_42 : decode cX1_addDisc 42 = .ok (.invokevirtual 53, 3) := dk_182 0 53 (dk_at dksX1_addDisc_1 18 rfl rfl)
theorem dX1_addDisc_45 : decode cX1_addDisc 45 = .ok (.bipush 30, 2) := dk_16 30 (dk_at dksX1_addDisc_1 21 rfl rfl)
theorem dX1_addDisc_47 : decode cX1_addDisc 47 = .ok (.if_icmp .ge 7, 3) := dk_162 0 7 (dk_at dksX1_addDisc_2 0 rfl rfl)
theorem dX1_addDisc_50 : decode cX1_addDisc 50 = .ok (.iconst 1, 1) := dk_4 (dk_at dksX1_addDisc_2 3 rfl rfl)
theorem dX1_addDisc_51 : decode cX1_addDisc 51 = .ok (.goto 4, 3) := dk_167 0 4 (dk_at dksX1_addDisc_2 4 rfl rfl)
theorem dX1_addDisc_54 : decode cX1_addDisc 54 = .ok (.iconst 0, 1) := dk_3 (dk_at dksX1_addDisc_2 7 rfl rfl)
theorem dX1_addDisc_55 : decode cX1_addDisc 55 = .ok (.invokestatic 57, 3) := dk_184 0 57 (dk_at dksX1_addDisc_2 8 rfl rfl)
theorem dX1_addDisc_58 : decode cX1_addDisc 58 = .ok (.aload_n 0, 1) := dk_42 (dk_at dksX1_addDisc_2 11 rfl rfl)
theorem dX1_addDisc_59 : decode cX1_addDisc 59 = .ok (.getfield 28, 3) := dk_180 0 28 (dk_at dksX1_addDisc_2 12 rfl rfl)
theorem dX1_addDisc_62 : decode cX1_addDisc 62 = .ok (.new 60, 3) := dk_187 0 60 (dk_at dksX1_addDisc_2 15 rfl rfl)
theorem dX1_addDisc_65 : decode cX1_addDisc 65 = .ok (.dup, 1) := dk_89 (dk_at dksX1_addDisc_2 18 rfl rfl)
theorem dX1_addDisc_66 : decode cX1_addDisc 66 = .ok (.iload_n 1, 1) := dk_27 (dk_at dksX1_addDisc_2 19 rfl rfl)
theorem dX1_addDisc_67 : decode cX1_addDisc 67 = .ok (.iload_n 2, 1) := dk_28 (dk_at dksX1_addDisc_2 20 rfl rfl)
theorem dX1_addDisc_68 : decode cX1_addDisc 68 = .ok (.iload_n 3, 1) := dk_29 (dk_at dksX1_addDisc_2 21 rfl rfl)
theorem dX1_addDisc_69 : decode cX1_addDisc 69 = .ok (.invokespecial 62, 3) := dk_183 0 62 (dk_at dksX1_addDisc_3 0 rfl rfl)
theorem dX1_addDisc_72 : decode cX1_addDisc 72 = .ok (.invokevirtual 65, 3) := dk_182 0 65 (dk_at dksX1_addDisc_3 3 rfl rfl)
theorem dX1_addDisc_75 : decode cX1_addDisc 75 = .ok (.pop, 1) := dk_87 (dk_at dksX1_addDisc_3 6 rfl rfl)
theorem dX1_addDisc_76 : decode cX1_addDisc 76 = .ok (.aload_n 0, 1) := dk_42 (dk_at dksX1_addDisc_3 7 rfl rfl)
theorem dX1_addDisc_77 : decode cX1_addDisc 77 = .ok (.getfield 28, 3) := dk_180 0 28 (dk_at dksX1_addDisc_3 8 rfl rfl)
theorem dX1_addDisc_80 : decode cX1_addDisc 80 = .ok (.invokevirtual 53, 3) := dk_182 0 53 (dk_at dksX1_addDisc_3 11 rfl rfl)
theorem dX1_addDisc_83 : decode cX1_addDisc 83 = .ok (.iconst 1, 1) := dk_4 (dk_at dksX1_addDisc_3 14 rfl rfl)
theorem dX1_addDisc_84 : decode cX1_addDisc 84 = .ok (.isub, 1) := dk_100 (dk_at dksX1_addDisc_3 15 rfl rfl)
theorem dX1_addDisc_85 : decode cX1_addDisc 85 = .ok (.ireturn, 1) := dk_172 (dk_at dksX1_addDisc_3 16 rfl rfl)
abbrev cX1_isBetween : ByteArray := prog_1_method_1_code
def yX1_isBetween : MethodName := ⟨RX1, "isBetween", "(III)Z"⟩
def dkwX1_isBetween_0 : List UInt8 := [26, 27, 161, 0, 12, 26, 28, 163, 0, 7, 4, 167, 0, 4, 3, 172]
abbrev dktX1_isBetween_0 : List UInt8 := dkwX1_isBetween_0 ++ []
theorem dksX1_isBetween_0 : cX1_isBetween.data.toList.drop 0 = dktX1_isBetween_0 := by decide +kernel
theorem dX1_isBetween_0 : decode cX1_isBetween 0 = .ok (.iload_n 0, 1) := dk_26 (dk_at dksX1_isBetween_0 0 rfl rfl)
theorem dX1_isBetween_1 : decode cX1_isBetween 1 = .ok (.iload_n 1, 1) := dk_27 (dk_at dksX1_isBetween_0 1 rfl rfl)
theorem dX1_isBetween_2 : decode cX1_isBetween 2 = .ok (.if_icmp .lt 12, 3) := dk_161 0 12 (dk_at dksX1_isBetween_0 2 rfl rfl)
theorem dX1_isBetween_5 : decode cX1_isBetween 5 = .ok (.iload_n 0, 1) := dk_26 (dk_at dksX1_isBetween_0 5 rfl rfl)
theorem dX1_isBetween_6 : decode cX1_isBetween 6 = .ok (.iload_n 2, 1) := dk_28 (dk_at dksX1_isBetween_0 6 rfl rfl)
theorem dX1_isBetween_7 : decode cX1_isBetween 7 = .ok (.if_icmp .gt 7, 3) := dk_163 0 7 (dk_at dksX1_isBetween_0 7 rfl rfl)
theorem dX1_isBetween_10 : decode cX1_isBetween 10 = .ok (.iconst 1, 1) := dk_4 (dk_at dksX1_isBetween_0 10 rfl rfl)
theorem dX1_isBetween_11 : decode cX1_isBetween 11 = .ok (.goto 4, 3) := dk_167 0 4 (dk_at dksX1_isBetween_0 11 rfl rfl)
theorem dX1_isBetween_14 : decode cX1_isBetween 14 = .ok (.iconst 0, 1) := dk_3 (dk_at dksX1_isBetween_0 14 rfl rfl)
theorem dX1_isBetween_15 : decode cX1_isBetween 15 = .ok (.ireturn, 1) := dk_172 (dk_at dksX1_isBetween_0 15 rfl rfl)
abbrev cX1_require : ByteArray := prog_1_method_2_code
def yX1_require : MethodName := ⟨RX1, "require", "(Z)V"⟩
def dkwX1_require_0 : List UInt8 := [26, 154, 0, 11, 187, 0, 1, 89, 183, 0, 3, 191, 177]
abbrev dktX1_require_0 : List UInt8 := dkwX1_require_0 ++ []
theorem dksX1_require_0 : cX1_require.data.toList.drop 0 = dktX1_require_0 := by decide +kernel
theorem dX1_require_0 : decode cX1_require 0 = .ok (.iload_n 0, 1) := dk_26 (dk_at dksX1_require_0 0 rfl rfl)
theorem dX1_require_1 : decode cX1_require 1 = .ok (.ifCond .ne 11, 3) := dk_154 0 11 (dk_at dksX1_require_0 1 rfl rfl)
theorem dX1_require_4 : decode cX1_require 4 = .ok (.new 1, 3) := dk_187 0 1 (dk_at dksX1_require_0 4 rfl rfl)
theorem dX1_require_7 : decode cX1_require 7 = .ok (.dup, 1) := dk_89 (dk_at dksX1_require_0 7 rfl rfl)
theorem dX1_require_8 : decode cX1_require 8 = .ok (.invokespecial 3, 3) := dk_183 0 3 (dk_at dksX1_require_0 8 rfl rfl)
theorem dX1_require_11 : decode cX1_require 11 = .ok (.athrow, 1) := dk_191 (dk_at dksX1_require_0 11 rfl rfl)
theorem dX1_require_12 : decode cX1_require 12 = .ok (.return_, 1) := dk_177 (dk_at dksX1_require_0 12 rfl rfl)
abbrev cX1_requireState : ByteArray := prog_1_method_4_code
def yX1_requireState : MethodName := ⟨RX1, "requireState", "(Z)V"⟩
def dkwX1_requireState_0 : List UInt8 := [26, 154, 0, 11, 187, 0, 10, 89, 183, 0, 12, 191, 177]
abbrev dktX1_requireState_0 : List UInt8 := dkwX1_requireState_0 ++ []
theorem dksX1_requireState_0 : cX1_requireState.data.toList.drop 0 = dktX1_requireState_0 := by decide +kernel
theorem dX1_requireState_0 : decode cX1_requireState 0 = .ok (.iload_n 0, 1) := dk_26 (dk_at dksX1_requireState_0 0 rfl rfl)
theorem dX1_requireState_1 : decode cX1_requireState 1 = .ok (.ifCond .ne 11, 3) := dk_154 0 11 (dk_at dksX1_requireState_0 1 rfl rfl)
theorem dX1_requireState_4 : decode cX1_requireState 4 = .ok (.new 10, 3) := dk_187 0 10 (dk_at dksX1_requireState_0 4 rfl rfl)
theorem dX1_requireState_7 : decode cX1_requireState 7 = .ok (.dup, 1) := dk_89 (dk_at dksX1_requireState_0 7 rfl rfl)
theorem dX1_requireState_8 : decode cX1_requireState 8 = .ok (.invokespecial 12, 3) := dk_183 0 12 (dk_at dksX1_requireState_0 8 rfl rfl)
theorem dX1_requireState_11 : decode cX1_requireState 11 = .ok (.athrow, 1) := dk_191 (dk_at dksX1_requireState_0 11 rfl rfl)
theorem dX1_requireState_12 : decode cX1_requireState 12 = .ok (.return_, 1) := dk_177 (dk_at dksX1_requireState_0 12 rfl rfl)
abbrev cX1_addBox : ByteArray := prog_1_method_10_code
def yX1_addBox : MethodName := ⟨RX1, "addBox", "(II)I"⟩
def dkwX1_addBox_3 : List UInt8 := [183, 0, 74, 182, 0, 65, 87, 42, 180, 0, 34, 182, 0, 53, 4, 100, 172]
abbrev dktX1_addBox_3 : List UInt8 := dkwX1_addBox_3 ++ []
def dkwX1_addBox_2 : List UInt8 := [180, 0, 34, 27, 154, 0, 14, 187, 0, 69, 89, 28, 183, 0, 71, 167, 0, 12, 187, 0, 69, 89, 27, 28]
abbrev dktX1_addBox_2 : List UInt8 := dkwX1_addBox_2 ++ dktX1_addBox_3
def dkwX1_addBox_1 : List UInt8 := [3, 184, 0, 49, 42, 180, 0, 34, 182, 0, 53, 7, 162, 0, 7, 4, 167, 0, 4, 3, 184, 0, 57, 42]
abbrev dktX1_addBox_1 : List UInt8 := dkwX1_addBox_1 ++ dktX1_addBox_2
def dkwX1_addBox_0 : List UInt8 := [27, 3, 16, 60, 184, 0, 45, 153, 0, 17, 28, 3, 16, 9, 184, 0, 45, 153, 0, 7, 4, 167, 0, 4]
abbrev dktX1_addBox_0 : List UInt8 := dkwX1_addBox_0 ++ dktX1_addBox_1
theorem dksX1_addBox_0 : cX1_addBox.data.toList.drop 0 = dktX1_addBox_0 := by decide +kernel
theorem dksX1_addBox_1 : cX1_addBox.data.toList.drop 24 = dktX1_addBox_1 := dk_seg dksX1_addBox_0 24 rfl rfl
theorem dksX1_addBox_2 : cX1_addBox.data.toList.drop 48 = dktX1_addBox_2 := dk_seg dksX1_addBox_1 24 rfl rfl
theorem dksX1_addBox_3 : cX1_addBox.data.toList.drop 72 = dktX1_addBox_3 := dk_seg dksX1_addBox_2 24 rfl rfl
theorem dX1_addBox_0 : decode cX1_addBox 0 = .ok (.iload_n 1, 1) := dk_27 (dk_at dksX1_addBox_0 0 rfl rfl)
theorem dX1_addBox_1 : decode cX1_addBox 1 = .ok (.iconst 0, 1) := dk_3 (dk_at dksX1_addBox_0 1 rfl rfl)
theorem dX1_addBox_2 : decode cX1_addBox 2 = .ok (.bipush 60, 2) := dk_16 60 (dk_at dksX1_addBox_0 2 rfl rfl)
theorem dX1_addBox_4 : decode cX1_addBox 4 = .ok (.invokestatic 45, 3) := dk_184 0 45 (dk_at dksX1_addBox_0 4 rfl rfl)
theorem dX1_addBox_7 : decode cX1_addBox 7 = .ok (.ifCond .eq 17, 3) := dk_153 0 17 (dk_at dksX1_addBox_0 7 rfl rfl)
theorem dX1_addBox_10 : decode cX1_addBox 10 = .ok (.iload_n 2, 1) := dk_28 (dk_at dksX1_addBox_0 10 rfl rfl)
theorem dX1_addBox_11 : decode cX1_addBox 11 = .ok (.iconst 0, 1) := dk_3 (dk_at dksX1_addBox_0 11 rfl rfl)
theorem dX1_addBox_12 : decode cX1_addBox 12 = .ok (.bipush 9, 2) := dk_16 9 (dk_at dksX1_addBox_0 12 rfl rfl)
theorem dX1_addBox_14 : decode cX1_addBox 14 = .ok (.invokestatic 45, 3) := dk_184 0 45 (dk_at dksX1_addBox_0 14 rfl rfl)
theorem dX1_addBox_17 : decode cX1_addBox 17 = .ok (.ifCond .eq 7, 3) := dk_153 0 7 (dk_at dksX1_addBox_0 17 rfl rfl)
theorem dX1_addBox_20 : decode cX1_addBox 20 = .ok (.iconst 1, 1) := dk_4 (dk_at dksX1_addBox_0 20 rfl rfl)
theorem dX1_addBox_21 : decode cX1_addBox 21 = .ok (.goto 4, 3) := dk_167 0 4 (dk_at dksX1_addBox_0 21 rfl rfl)
theorem dX1_addBox_24 : decode cX1_addBox 24 = .ok (.iconst 0, 1) := dk_3 (dk_at dksX1_addBox_1 0 rfl rfl)
theorem dX1_addBox_25 : decode cX1_addBox 25 = .ok (.invokestatic 49, 3) := dk_184 0 49 (dk_at dksX1_addBox_1 1 rfl rfl)
theorem dX1_addBox_28 : decode cX1_addBox 28 = .ok (.aload_n 0, 1) := dk_42 (dk_at dksX1_addBox_1 4 rfl rfl)
theorem dX1_addBox_29 : decode cX1_addBox 29 = .ok (.getfield 34, 3) := dk_180 0 34 (dk_at dksX1_addBox_1 5 rfl rfl)
theorem dX1_addBox_32 : decode cX1_addBox 32 = .ok (.invokevirtual 53, 3) := dk_182 0 53 (dk_at dksX1_addBox_1 8 rfl rfl)
theorem dX1_addBox_35 : decode cX1_addBox 35 = .ok (.iconst 4, 1) := dk_7 (dk_at dksX1_addBox_1 11 rfl rfl)
theorem dX1_addBox_36 : decode cX1_addBox 36 = .ok (.if_icmp .ge 7, 3) := dk_162 0 7 (dk_at dksX1_addBox_1 12 rfl rfl)
theorem dX1_addBox_39 : decode cX1_addBox 39 = .ok (.iconst 1, 1) := dk_4 (dk_at dksX1_addBox_1 15 rfl rfl)
theorem dX1_addBox_40 : decode cX1_addBox 40 = .ok (.goto 4, 3) := dk_167 0 4 (dk_at dksX1_addBox_1 16 rfl rfl)
theorem dX1_addBox_43 : decode cX1_addBox 43 = .ok (.iconst 0, 1) := dk_3 (dk_at dksX1_addBox_1 19 rfl rfl)
theorem dX1_addBox_44 : decode cX1_addBox 44 = .ok (.invokestatic 57, 3) := dk_184 0 57 (dk_at dksX1_addBox_1 20 rfl rfl)
theorem dX1_addBox_47 : decode cX1_addBox 47 = .ok (.aload_n 0, 1) := dk_42 (dk_at dksX1_addBox_1 23 rfl rfl)
theorem dX1_addBox_48 : decode cX1_addBox 48 = .ok (.getfield 34, 3) := dk_180 0 34 (dk_at dksX1_addBox_2 0 rfl rfl)
theorem dX1_addBox_51 : decode cX1_addBox 51 = .ok (.iload_n 1, 1) := dk_27 (dk_at dksX1_addBox_2 3 rfl rfl)
theorem dX1_addBox_52 : decode cX1_addBox 52 = .ok (.ifCond .ne 14, 3) := dk_154 0 14 (dk_at dksX1_addBox_2 4 rfl rfl)
theorem dX1_addBox_55 : decode cX1_addBox 55 = .ok (.new 69, 3) := dk_187 0 69 (dk_at dksX1_addBox_2 7 rfl rfl)
theorem dX1_addBox_58 : decode cX1_addBox 58 = .ok (.dup, 1) := dk_89 (dk_at dksX1_addBox_2 10 rfl rfl)
theorem dX1_addBox_59 : decode cX1_addBox 59 = .ok (.iload_n 2, 1) := dk_28 (dk_at dksX1_addBox_2 11 rfl rfl)
theorem dX1_addBox_60 : decode cX1_addBox 60 = .ok (.invokespecial 71, 3) := dk_183 0 71 (dk_at dksX1_addBox_2 12 rfl rfl)
theorem dX1_addBox_63 : decode cX1_addBox 63 = .ok (.goto 12, 3) := dk_167 0 12 (dk_at dksX1_addBox_2 15 rfl rfl)
theorem dX1_addBox_66 : decode cX1_addBox 66 = .ok (.new 69, 3) := dk_187 0 69 (dk_at dksX1_addBox_2 18 rfl rfl)
theorem dX1_addBox_69 : decode cX1_addBox 69 = .ok (.dup, 1) := dk_89 (dk_at dksX1_addBox_2 21 rfl rfl)
theorem dX1_addBox_70 : decode cX1_addBox 70 = .ok (.iload_n 1, 1) := dk_27 (dk_at dksX1_addBox_2 22 rfl rfl)
theorem dX1_addBox_71 : decode cX1_addBox 71 = .ok (.iload_n 2, 1) := dk_28 (dk_at dksX1_addBox_2 23 rfl rfl)
theorem dX1_addBox_72 : decode cX1_addBox 72 = .ok (.invokespecial 74, 3) := dk_183 0 74 (dk_at dksX1_addBox_3 0 rfl rfl)
theorem dX1_addBox_75 : decode cX1_addBox 75 = .ok (.invokevirtual 65, 3) := dk_182 0 65 (dk_at dksX1_addBox_3 3 rfl rfl)
theorem dX1_addBox_78 : decode cX1_addBox 78 = .ok (.pop, 1) := dk_87 (dk_at dksX1_addBox_3 6 rfl rfl)
theorem dX1_addBox_79 : decode cX1_addBox 79 = .ok (.aload_n 0, 1) := dk_42 (dk_at dksX1_addBox_3 7 rfl rfl)
theorem dX1_addBox_80 : decode cX1_addBox 80 = .ok (.getfield 34, 3) := dk_180 0 34 (dk_at dksX1_addBox_3 8 rfl rfl)
theorem dX1_addBox_83 : decode cX1_addBox 83 = .ok (.invokevirtual 53, 3) := dk_182 0 53 (dk_at dksX1_addBox_3 11 rfl rfl)
theorem dX1_addBox_86 : decode cX1_addBox 86 = .ok (.iconst 1, 1) := dk_4 (dk_at dksX1_addBox_3 14 rfl rfl)
theorem dX1_addBox_87 : decode cX1_addBox 87 = .ok (.isub, 1) := dk_100 (dk_at dksX1_addBox_3 15 rfl rfl)
theorem dX1_addBox_88 : decode cX1_addBox 88 = .ok (.ireturn, 1) := dk_172 (dk_at dksX1_addBox_3 16 rfl rfl)
abbrev cX1_setRisk : ByteArray := prog_1_method_14_code
def yX1_setRisk : MethodName := ⟨RX1, "setRisk", "(II)I"⟩
def dkwX1_setRisk_1 : List UInt8 := [181, 0, 88, 21, 4, 172]
abbrev dktX1_setRisk_1 : List UInt8 := dkwX1_setRisk_1 ++ []
def dkwX1_setRisk_0 : List UInt8 := [42, 27, 182, 0, 84, 78, 28, 3, 16, 20, 184, 0, 45, 184, 0, 49, 45, 180, 0, 88, 54, 4, 45, 28]
abbrev dktX1_setRisk_0 : List UInt8 := dkwX1_setRisk_0 ++ dktX1_setRisk_1
theorem dksX1_setRisk_0 : cX1_setRisk.data.toList.drop 0 = dktX1_setRisk_0 := by decide +kernel
theorem dksX1_setRisk_1 : cX1_setRisk.data.toList.drop 24 = dktX1_setRisk_1 := dk_seg dksX1_setRisk_0 24 rfl rfl
theorem dX1_setRisk_0 : decode cX1_setRisk 0 = .ok (.aload_n 0, 1) := dk_42 (dk_at dksX1_setRisk_0 0 rfl rfl)
theorem dX1_setRisk_1 : decode cX1_setRisk 1 = .ok (.iload_n 1, 1) := dk_27 (dk_at dksX1_setRisk_0 1 rfl rfl)
theorem dX1_setRisk_2 : decode cX1_setRisk 2 = .ok (.invokevirtual 84, 3) := dk_182 0 84 (dk_at dksX1_setRisk_0 2 rfl rfl)
theorem dX1_setRisk_5 : decode cX1_setRisk 5 = .ok (.astore_n 3, 1) := dk_78 (dk_at dksX1_setRisk_0 5 rfl rfl)
theorem dX1_setRisk_6 : decode cX1_setRisk 6 = .ok (.iload_n 2, 1) := dk_28 (dk_at dksX1_setRisk_0 6 rfl rfl)
theorem dX1_setRisk_7 : decode cX1_setRisk 7 = .ok (.iconst 0, 1) := dk_3 (dk_at dksX1_setRisk_0 7 rfl rfl)
theorem dX1_setRisk_8 : decode cX1_setRisk 8 = .ok (.bipush 20, 2) := dk_16 20 (dk_at dksX1_setRisk_0 8 rfl rfl)
theorem dX1_setRisk_10 : decode cX1_setRisk 10 = .ok (.invokestatic 45, 3) := dk_184 0 45 (dk_at dksX1_setRisk_0 10 rfl rfl)
theorem dX1_setRisk_13 : decode cX1_setRisk 13 = .ok (.invokestatic 49, 3) := dk_184 0 49 (dk_at dksX1_setRisk_0 13 rfl rfl)
theorem dX1_setRisk_16 : decode cX1_setRisk 16 = .ok (.aload_n 3, 1) := dk_45 (dk_at dksX1_setRisk_0 16 rfl rfl)
theorem dX1_setRisk_17 : decode cX1_setRisk 17 = .ok (.getfield 88, 3) := dk_180 0 88 (dk_at dksX1_setRisk_0 17 rfl rfl)
theorem dX1_setRisk_20 : decode cX1_setRisk 20 = .ok (.istore 4, 2) := dk_54 4 (dk_at dksX1_setRisk_0 20 rfl rfl)
theorem dX1_setRisk_22 : decode cX1_setRisk 22 = .ok (.aload_n 3, 1) := dk_45 (dk_at dksX1_setRisk_0 22 rfl rfl)
theorem dX1_setRisk_23 : decode cX1_setRisk 23 = .ok (.iload_n 2, 1) := dk_28 (dk_at dksX1_setRisk_0 23 rfl rfl)
theorem dX1_setRisk_24 : decode cX1_setRisk 24 = .ok (.putfield 88, 3) := dk_181 0 88 (dk_at dksX1_setRisk_1 0 rfl rfl)
theorem dX1_setRisk_27 : decode cX1_setRisk 27 = .ok (.iload 4, 2) := dk_21 4 (dk_at dksX1_setRisk_1 3 rfl rfl)
theorem dX1_setRisk_29 : decode cX1_setRisk 29 = .ok (.ireturn, 1) := dk_172 (dk_at dksX1_setRisk_1 5 rfl rfl)
abbrev cX1_boxAt : ByteArray := prog_1_method_11_code
def yX1_boxAt : MethodName := ⟨RX1, "boxAt", "(I)LSelectoRoute$Box;"⟩
def dkwX1_boxAt_1 : List UInt8 := [182, 0, 80, 192, 0, 69, 176]
abbrev dktX1_boxAt_1 : List UInt8 := dkwX1_boxAt_1 ++ []
def dkwX1_boxAt_0 : List UInt8 := [27, 3, 42, 180, 0, 34, 182, 0, 53, 4, 100, 184, 0, 45, 184, 0, 77, 42, 180, 0, 34, 27]
abbrev dktX1_boxAt_0 : List UInt8 := dkwX1_boxAt_0 ++ dktX1_boxAt_1
theorem dksX1_boxAt_0 : cX1_boxAt.data.toList.drop 0 = dktX1_boxAt_0 := by decide +kernel
theorem dksX1_boxAt_1 : cX1_boxAt.data.toList.drop 22 = dktX1_boxAt_1 := dk_seg dksX1_boxAt_0 22 rfl rfl
theorem dX1_boxAt_0 : decode cX1_boxAt 0 = .ok (.iload_n 1, 1) := dk_27 (dk_at dksX1_boxAt_0 0 rfl rfl)
theorem dX1_boxAt_1 : decode cX1_boxAt 1 = .ok (.iconst 0, 1) := dk_3 (dk_at dksX1_boxAt_0 1 rfl rfl)
theorem dX1_boxAt_2 : decode cX1_boxAt 2 = .ok (.aload_n 0, 1) := dk_42 (dk_at dksX1_boxAt_0 2 rfl rfl)
theorem dX1_boxAt_3 : decode cX1_boxAt 3 = .ok (.getfield 34, 3) := dk_180 0 34 (dk_at dksX1_boxAt_0 3 rfl rfl)
theorem dX1_boxAt_6 : decode cX1_boxAt 6 = .ok (.invokevirtual 53, 3) := dk_182 0 53 (dk_at dksX1_boxAt_0 6 rfl rfl)
theorem dX1_boxAt_9 : decode cX1_boxAt 9 = .ok (.iconst 1, 1) := dk_4 (dk_at dksX1_boxAt_0 9 rfl rfl)
theorem dX1_boxAt_10 : decode cX1_boxAt 10 = .ok (.isub, 1) := dk_100 (dk_at dksX1_boxAt_0 10 rfl rfl)
theorem dX1_boxAt_11 : decode cX1_boxAt 11 = .ok (.invokestatic 45, 3) := dk_184 0 45 (dk_at dksX1_boxAt_0 11 rfl rfl)
theorem dX1_boxAt_14 : decode cX1_boxAt 14 = .ok (.invokestatic 77, 3) := dk_184 0 77 (dk_at dksX1_boxAt_0 14 rfl rfl)
theorem dX1_boxAt_17 : decode cX1_boxAt 17 = .ok (.aload_n 0, 1) := dk_42 (dk_at dksX1_boxAt_0 17 rfl rfl)
theorem dX1_boxAt_18 : decode cX1_boxAt 18 = .ok (.getfield 34, 3) := dk_180 0 34 (dk_at dksX1_boxAt_0 18 rfl rfl)
theorem dX1_boxAt_21 : decode cX1_boxAt 21 = .ok (.iload_n 1, 1) := dk_27 (dk_at dksX1_boxAt_0 21 rfl rfl)
theorem dX1_boxAt_22 : decode cX1_boxAt 22 = .ok (.invokevirtual 80, 3) := dk_182 0 80 (dk_at dksX1_boxAt_1 0 rfl rfl)
theorem dX1_boxAt_25 : decode cX1_boxAt 25 = .ok (.checkcast 69, 3) := dk_192 0 69 (dk_at dksX1_boxAt_1 3 rfl rfl)
theorem dX1_boxAt_28 : decode cX1_boxAt 28 = .ok (.areturn, 1) := dk_176 (dk_at dksX1_boxAt_1 6 rfl rfl)
abbrev cX1_requireIndex : ByteArray := prog_1_method_3_code
def yX1_requireIndex : MethodName := ⟨RX1, "requireIndex", "(Z)V"⟩
def dkwX1_requireIndex_0 : List UInt8 := [26, 154, 0, 11, 187, 0, 7, 89, 183, 0, 9, 191, 177]
abbrev dktX1_requireIndex_0 : List UInt8 := dkwX1_requireIndex_0 ++ []
theorem dksX1_requireIndex_0 : cX1_requireIndex.data.toList.drop 0 = dktX1_requireIndex_0 := by decide +kernel
theorem dX1_requireIndex_0 : decode cX1_requireIndex 0 = .ok (.iload_n 0, 1) := dk_26 (dk_at dksX1_requireIndex_0 0 rfl rfl)
theorem dX1_requireIndex_1 : decode cX1_requireIndex 1 = .ok (.ifCond .ne 11, 3) := dk_154 0 11 (dk_at dksX1_requireIndex_0 1 rfl rfl)
theorem dX1_requireIndex_4 : decode cX1_requireIndex 4 = .ok (.new 7, 3) := dk_187 0 7 (dk_at dksX1_requireIndex_0 4 rfl rfl)
theorem dX1_requireIndex_7 : decode cX1_requireIndex 7 = .ok (.dup, 1) := dk_89 (dk_at dksX1_requireIndex_0 7 rfl rfl)
theorem dX1_requireIndex_8 : decode cX1_requireIndex 8 = .ok (.invokespecial 9, 3) := dk_183 0 9 (dk_at dksX1_requireIndex_0 8 rfl rfl)
theorem dX1_requireIndex_11 : decode cX1_requireIndex 11 = .ok (.athrow, 1) := dk_191 (dk_at dksX1_requireIndex_0 11 rfl rfl)
theorem dX1_requireIndex_12 : decode cX1_requireIndex 12 = .ok (.return_, 1) := dk_177 (dk_at dksX1_requireIndex_0 12 rfl rfl)
abbrev cX1_setSeed : ByteArray := prog_1_method_15_code
def yX1_setSeed : MethodName := ⟨RX1, "setSeed", "(I)I"⟩
def dkwX1_setSeed_0 : List UInt8 := [27, 4, 18, 91, 184, 0, 45, 184, 0, 49, 42, 180, 0, 41, 136, 61, 42, 27, 133, 181, 0, 41, 28, 172]
abbrev dktX1_setSeed_0 : List UInt8 := dkwX1_setSeed_0 ++ []
theorem dksX1_setSeed_0 : cX1_setSeed.data.toList.drop 0 = dktX1_setSeed_0 := by decide +kernel
theorem dX1_setSeed_0 : decode cX1_setSeed 0 = .ok (.iload_n 1, 1) := dk_27 (dk_at dksX1_setSeed_0 0 rfl rfl)
theorem dX1_setSeed_1 : decode cX1_setSeed 1 = .ok (.iconst 1, 1) := dk_4 (dk_at dksX1_setSeed_0 1 rfl rfl)
theorem dX1_setSeed_2 : decode cX1_setSeed 2 = .ok (.ldc 91, 2) := dk_18 91 (dk_at dksX1_setSeed_0 2 rfl rfl)
theorem dX1_setSeed_4 : decode cX1_setSeed 4 = .ok (.invokestatic 45, 3) := dk_184 0 45 (dk_at dksX1_setSeed_0 4 rfl rfl)
theorem dX1_setSeed_7 : decode cX1_setSeed 7 = .ok (.invokestatic 49, 3) := dk_184 0 49 (dk_at dksX1_setSeed_0 7 rfl rfl)
theorem dX1_setSeed_10 : decode cX1_setSeed 10 = .ok (.aload_n 0, 1) := dk_42 (dk_at dksX1_setSeed_0 10 rfl rfl)
theorem dX1_setSeed_11 : decode cX1_setSeed 11 = .ok (.getfield 41, 3) := dk_180 0 41 (dk_at dksX1_setSeed_0 11 rfl rfl)
theorem dX1_setSeed_14 : decode cX1_setSeed 14 = .ok (.l2i, 1) := dk_136 (dk_at dksX1_setSeed_0 14 rfl rfl)
theorem dX1_setSeed_15 : decode cX1_setSeed 15 = .ok (.istore_n 2, 1) := dk_61 (dk_at dksX1_setSeed_0 15 rfl rfl)
theorem dX1_setSeed_16 : decode cX1_setSeed 16 = .ok (.aload_n 0, 1) := dk_42 (dk_at dksX1_setSeed_0 16 rfl rfl)
theorem dX1_setSeed_17 : decode cX1_setSeed 17 = .ok (.iload_n 1, 1) := dk_27 (dk_at dksX1_setSeed_0 17 rfl rfl)
theorem dX1_setSeed_18 : decode cX1_setSeed 18 = .ok (.i2l, 1) := dk_133 (dk_at dksX1_setSeed_0 18 rfl rfl)
theorem dX1_setSeed_19 : decode cX1_setSeed 19 = .ok (.putfield 41, 3) := dk_181 0 41 (dk_at dksX1_setSeed_0 19 rfl rfl)
theorem dX1_setSeed_22 : decode cX1_setSeed 22 = .ok (.iload_n 2, 1) := dk_28 (dk_at dksX1_setSeed_0 22 rfl rfl)
theorem dX1_setSeed_23 : decode cX1_setSeed 23 = .ok (.ireturn, 1) := dk_172 (dk_at dksX1_setSeed_0 23 rfl rfl)
abbrev cX1_insert : ByteArray := prog_1_method_16_code
def yX1_insert : MethodName := ⟨RX1, "insert", "(IC)I"⟩
def dkwX1_insert_3 : List UInt8 := [180, 0, 113, 96, 181, 0, 110, 45, 180, 0, 105, 172]
abbrev dktX1_insert_3 : List UInt8 := dkwX1_insert_3 ++ []
def dkwX1_insert_2 : List UInt8 := [184, 0, 57, 45, 89, 180, 0, 105, 25, 4, 182, 0, 108, 96, 181, 0, 105, 45, 89, 180, 0, 110, 25, 4]
abbrev dktX1_insert_2 : List UInt8 := dkwX1_insert_2 ++ dktX1_insert_3
def dkwX1_insert_1 : List UInt8 := [184, 0, 102, 45, 180, 0, 105, 25, 4, 182, 0, 108, 96, 16, 99, 163, 0, 7, 4, 167, 0, 4, 3]
abbrev dktX1_insert_1 : List UInt8 := dkwX1_insert_1 ++ dktX1_insert_2
def dkwX1_insert_0 : List UInt8 := [42, 27, 182, 0, 84, 78, 28, 184, 0, 92, 58, 4, 45, 180, 0, 98, 154, 0, 7, 4, 167, 0, 4, 3]
abbrev dktX1_insert_0 : List UInt8 := dkwX1_insert_0 ++ dktX1_insert_1
theorem dksX1_insert_0 : cX1_insert.data.toList.drop 0 = dktX1_insert_0 := by decide +kernel
theorem dksX1_insert_1 : cX1_insert.data.toList.drop 24 = dktX1_insert_1 := dk_seg dksX1_insert_0 24 rfl rfl
theorem dksX1_insert_2 : cX1_insert.data.toList.drop 47 = dktX1_insert_2 := dk_seg dksX1_insert_1 23 rfl rfl
theorem dksX1_insert_3 : cX1_insert.data.toList.drop 71 = dktX1_insert_3 := dk_seg dksX1_insert_2 24 rfl rfl
theorem dX1_insert_0 : decode cX1_insert 0 = .ok (.aload_n 0, 1) := dk_42 (dk_at dksX1_insert_0 0 rfl rfl)
theorem dX1_insert_1 : decode cX1_insert 1 = .ok (.iload_n 1, 1) := dk_27 (dk_at dksX1_insert_0 1 rfl rfl)
theorem dX1_insert_2 : decode cX1_insert 2 = .ok (.invokevirtual 84, 3) := dk_182 0 84 (dk_at dksX1_insert_0 2 rfl rfl)
theorem dX1_insert_5 : decode cX1_insert 5 = .ok (.astore_n 3, 1) := dk_78 (dk_at dksX1_insert_0 5 rfl rfl)
theorem dX1_insert_6 : decode cX1_insert 6 = .ok (.iload_n 2, 1) := dk_28 (dk_at dksX1_insert_0 6 rfl rfl)
theorem dX1_insert_7 : decode cX1_insert 7 = .ok (.invokestatic 92, 3) := dk_184 0 92 (dk_at dksX1_insert_0 7 rfl rfl)
theorem dX1_insert_10 : decode cX1_insert 10 = .ok (.astore 4, 2) := dk_58 4 (dk_at dksX1_insert_0 10 rfl rfl)
theorem dX1_insert_12 : decode cX1_insert 12 = .ok (.aload_n 3, 1) := dk_45 (dk_at dksX1_insert_0 12 rfl rfl)
theorem dX1_insert_13 : decode cX1_insert 13 = .ok (.getfield 98, 3) := dk_180 0 98 (dk_at dksX1_insert_0 13 rfl rfl)
theorem dX1_insert_16 : decode cX1_insert 16 = .ok (.ifCond .ne 7, 3) := dk_154 0 7 (dk_at dksX1_insert_0 16 rfl rfl)
theorem dX1_insert_19 : decode cX1_insert 19 = .ok (.iconst 1, 1) := dk_4 (dk_at dksX1_insert_0 19 rfl rfl)
theorem dX1_insert_20 : decode cX1_insert 20 = .ok (.goto 4, 3) := dk_167 0 4 (dk_at dksX1_insert_0 20 rfl rfl)
theorem dX1_insert_23 : decode cX1_insert 23 = .ok (.iconst 0, 1) := dk_3 (dk_at dksX1_insert_0 23 rfl rfl)
theorem dX1_insert_24 : decode cX1_insert 24 = .ok (.invokestatic 102, 3) := dk_184 0 102 (dk_at dksX1_insert_1 0 rfl rfl)
theorem dX1_insert_27 : decode cX1_insert 27 = .ok (.aload_n 3, 1) := dk_45 (dk_at dksX1_insert_1 3 rfl rfl)
theorem dX1_insert_28 : decode cX1_insert 28 = .ok (.getfield 105, 3) := dk_180 0 105 (dk_at dksX1_insert_1 4 rfl rfl)
theorem dX1_insert_31 : decode cX1_insert 31 = .ok (.aload 4, 2) := dk_25 4 (dk_at dksX1_insert_1 7 rfl rfl)
theorem dX1_insert_33 : decode cX1_insert 33 = .ok (.invokevirtual 108, 3) := dk_182 0 108 (dk_at dksX1_insert_1 9 rfl rfl)
theorem dX1_insert_36 : decode cX1_insert 36 = .ok (.iadd, 1) := dk_96 (dk_at dksX1_insert_1 12 rfl rfl)
theorem dX1_insert_37 : decode cX1_insert 37 = .ok (.bipush 99, 2) := dk_16 99 (dk_at dksX1_insert_1 13 rfl rfl)
theorem dX1_insert_39 : decode cX1_insert 39 = .ok (.if_icmp .gt 7, 3) := dk_163 0 7 (dk_at dksX1_insert_1 15 rfl rfl)
theorem dX1_insert_42 : decode cX1_insert 42 = .ok (.iconst 1, 1) := dk_4 (dk_at dksX1_insert_1 18 rfl rfl)
theorem dX1_insert_43 : decode cX1_insert 43 = .ok (.goto 4, 3) := dk_167 0 4 (dk_at dksX1_insert_1 19 rfl rfl)
theorem dX1_insert_46 : decode cX1_insert 46 = .ok (.iconst 0, 1) := dk_3 (dk_at dksX1_insert_1 22 rfl rfl)
theorem dX1_insert_47 : decode cX1_insert 47 = .ok (.invokestatic 57, 3) := dk_184 0 57 (dk_at dksX1_insert_2 0 rfl rfl)
theorem dX1_insert_50 : decode cX1_insert 50 = .ok (.aload_n 3, 1) := dk_45 (dk_at dksX1_insert_2 3 rfl rfl)
theorem dX1_insert_51 : decode cX1_insert 51 = .ok (.dup, 1) := dk_89 (dk_at dksX1_insert_2 4 rfl rfl)
theorem dX1_insert_52 : decode cX1_insert 52 = .ok (.getfield 105, 3) := dk_180 0 105 (dk_at dksX1_insert_2 5 rfl rfl)
theorem dX1_insert_55 : decode cX1_insert 55 = .ok (.aload 4, 2) := dk_25 4 (dk_at dksX1_insert_2 8 rfl rfl)
theorem dX1_insert_57 : decode cX1_insert 57 = .ok (.invokevirtual 108, 3) := dk_182 0 108 (dk_at dksX1_insert_2 10 rfl rfl)
theorem dX1_insert_60 : decode cX1_insert 60 = .ok (.iadd, 1) := dk_96 (dk_at dksX1_insert_2 13 rfl rfl)
theorem dX1_insert_61 : decode cX1_insert 61 = .ok (.putfield 105, 3) := dk_181 0 105 (dk_at dksX1_insert_2 14 rfl rfl)
theorem dX1_insert_64 : decode cX1_insert 64 = .ok (.aload_n 3, 1) := dk_45 (dk_at dksX1_insert_2 17 rfl rfl)
theorem dX1_insert_65 : decode cX1_insert 65 = .ok (.dup, 1) := dk_89 (dk_at dksX1_insert_2 18 rfl rfl)
theorem dX1_insert_66 : decode cX1_insert 66 = .ok (.getfield 110, 3) := dk_180 0 110 (dk_at dksX1_insert_2 19 rfl rfl)
theorem dX1_insert_69 : decode cX1_insert 69 = .ok (.aload 4, 2) := dk_25 4 (dk_at dksX1_insert_2 22 rfl rfl)
theorem dX1_insert_71 : decode cX1_insert 71 = .ok (.getfield 113, 3) := dk_180 0 113 (dk_at dksX1_insert_3 0 rfl rfl)
theorem dX1_insert_74 : decode cX1_insert 74 = .ok (.iadd, 1) := dk_96 (dk_at dksX1_insert_3 3 rfl rfl)
theorem dX1_insert_75 : decode cX1_insert 75 = .ok (.putfield 110, 3) := dk_181 0 110 (dk_at dksX1_insert_3 4 rfl rfl)
theorem dX1_insert_78 : decode cX1_insert 78 = .ok (.aload_n 3, 1) := dk_45 (dk_at dksX1_insert_3 7 rfl rfl)
theorem dX1_insert_79 : decode cX1_insert 79 = .ok (.getfield 105, 3) := dk_180 0 105 (dk_at dksX1_insert_3 8 rfl rfl)
theorem dX1_insert_82 : decode cX1_insert 82 = .ok (.ireturn, 1) := dk_172 (dk_at dksX1_insert_3 11 rfl rfl)
abbrev cX1_requireSupported : ByteArray := prog_1_method_6_code
def yX1_requireSupported : MethodName := ⟨RX1, "requireSupported", "(Z)V"⟩
def dkwX1_requireSupported_0 : List UInt8 := [26, 154, 0, 11, 187, 0, 16, 89, 183, 0, 18, 191, 177]
abbrev dktX1_requireSupported_0 : List UInt8 := dkwX1_requireSupported_0 ++ []
theorem dksX1_requireSupported_0 : cX1_requireSupported.data.toList.drop 0 = dktX1_requireSupported_0 := by decide +kernel
theorem dX1_requireSupported_0 : decode cX1_requireSupported 0 = .ok (.iload_n 0, 1) := dk_26 (dk_at dksX1_requireSupported_0 0 rfl rfl)
theorem dX1_requireSupported_1 : decode cX1_requireSupported 1 = .ok (.ifCond .ne 11, 3) := dk_154 0 11 (dk_at dksX1_requireSupported_0 1 rfl rfl)
theorem dX1_requireSupported_4 : decode cX1_requireSupported 4 = .ok (.new 16, 3) := dk_187 0 16 (dk_at dksX1_requireSupported_0 4 rfl rfl)
theorem dX1_requireSupported_7 : decode cX1_requireSupported 7 = .ok (.dup, 1) := dk_89 (dk_at dksX1_requireSupported_0 7 rfl rfl)
theorem dX1_requireSupported_8 : decode cX1_requireSupported 8 = .ok (.invokespecial 18, 3) := dk_183 0 18 (dk_at dksX1_requireSupported_0 8 rfl rfl)
theorem dX1_requireSupported_11 : decode cX1_requireSupported 11 = .ok (.athrow, 1) := dk_191 (dk_at dksX1_requireSupported_0 11 rfl rfl)
theorem dX1_requireSupported_12 : decode cX1_requireSupported 12 = .ok (.return_, 1) := dk_177 (dk_at dksX1_requireSupported_0 12 rfl rfl)
abbrev cX1_press : ByteArray := prog_1_method_17_code
def yX1_press : MethodName := ⟨RX1, "press", "(II)I"⟩
def dkwX1_press_3 : List UInt8 := [182, 0, 65, 87, 45, 180, 0, 121, 182, 0, 53, 172]
abbrev dktX1_press_3 : List UInt8 := dkwX1_press_3 ++ []
def dkwX1_press_2 : List UInt8 := [3, 184, 0, 57, 45, 89, 180, 0, 105, 4, 100, 181, 0, 105, 45, 180, 0, 121, 28, 184, 0, 124]
abbrev dktX1_press_2 : List UInt8 := dkwX1_press_2 ++ dktX1_press_3
def dkwX1_press_1 : List UInt8 := [4, 167, 0, 4, 3, 184, 0, 102, 45, 180, 0, 121, 182, 0, 53, 16, 8, 162, 0, 7, 4, 167, 0, 4]
abbrev dktX1_press_1 : List UInt8 := dkwX1_press_1 ++ dktX1_press_2
def dkwX1_press_0 : List UInt8 := [42, 27, 28, 182, 0, 114, 78, 45, 180, 0, 105, 158, 0, 17, 45, 180, 0, 117, 28, 46, 2, 159, 0, 7]
abbrev dktX1_press_0 : List UInt8 := dkwX1_press_0 ++ dktX1_press_1
theorem dksX1_press_0 : cX1_press.data.toList.drop 0 = dktX1_press_0 := by decide +kernel
theorem dksX1_press_1 : cX1_press.data.toList.drop 24 = dktX1_press_1 := dk_seg dksX1_press_0 24 rfl rfl
theorem dksX1_press_2 : cX1_press.data.toList.drop 48 = dktX1_press_2 := dk_seg dksX1_press_1 24 rfl rfl
theorem dksX1_press_3 : cX1_press.data.toList.drop 70 = dktX1_press_3 := dk_seg dksX1_press_2 22 rfl rfl
theorem dX1_press_0 : decode cX1_press 0 = .ok (.aload_n 0, 1) := dk_42 (dk_at dksX1_press_0 0 rfl rfl)
theorem dX1_press_1 : decode cX1_press 1 = .ok (.iload_n 1, 1) := dk_27 (dk_at dksX1_press_0 1 rfl rfl)
theorem dX1_press_2 : decode cX1_press 2 = .ok (.iload_n 2, 1) := dk_28 (dk_at dksX1_press_0 2 rfl rfl)
theorem dX1_press_3 : decode cX1_press 3 = .ok (.invokevirtual 114, 3) := dk_182 0 114 (dk_at dksX1_press_0 3 rfl rfl)
theorem dX1_press_6 : decode cX1_press 6 = .ok (.astore_n 3, 1) := dk_78 (dk_at dksX1_press_0 6 rfl rfl)
theorem dX1_press_7 : decode cX1_press 7 = .ok (.aload_n 3, 1) := dk_45 (dk_at dksX1_press_0 7 rfl rfl)
theorem dX1_press_8 : decode cX1_press 8 = .ok (.getfield 105, 3) := dk_180 0 105 (dk_at dksX1_press_0 8 rfl rfl)
theorem dX1_press_11 : decode cX1_press 11 = .ok (.ifCond .le 17, 3) := dk_158 0 17 (dk_at dksX1_press_0 11 rfl rfl)
theorem dX1_press_14 : decode cX1_press 14 = .ok (.aload_n 3, 1) := dk_45 (dk_at dksX1_press_0 14 rfl rfl)
theorem dX1_press_15 : decode cX1_press 15 = .ok (.getfield 117, 3) := dk_180 0 117 (dk_at dksX1_press_0 15 rfl rfl)
theorem dX1_press_18 : decode cX1_press 18 = .ok (.iload_n 2, 1) := dk_28 (dk_at dksX1_press_0 18 rfl rfl)
theorem dX1_press_19 : decode cX1_press 19 = .ok (.iaload, 1) := dk_46 (dk_at dksX1_press_0 19 rfl rfl)
theorem dX1_press_20 : decode cX1_press 20 = .ok (.iconst (-1), 1) := dk_2 (dk_at dksX1_press_0 20 rfl rfl)
theorem dX1_press_21 : decode cX1_press 21 = .ok (.if_icmp .eq 7, 3) := dk_159 0 7 (dk_at dksX1_press_0 21 rfl rfl)
theorem dX1_press_24 : decode cX1_press 24 = .ok (.iconst 1, 1) := dk_4 (dk_at dksX1_press_1 0 rfl rfl)
theorem dX1_press_25 : decode cX1_press 25 = .ok (.goto 4, 3) := dk_167 0 4 (dk_at dksX1_press_1 1 rfl rfl)
theorem dX1_press_28 : decode cX1_press 28 = .ok (.iconst 0, 1) := dk_3 (dk_at dksX1_press_1 4 rfl rfl)
theorem dX1_press_29 : decode cX1_press 29 = .ok (.invokestatic 102, 3) := dk_184 0 102 (dk_at dksX1_press_1 5 rfl rfl)
theorem dX1_press_32 : decode cX1_press 32 = .ok (.aload_n 3, 1) := dk_45 (dk_at dksX1_press_1 8 rfl rfl)
theorem dX1_press_33 : decode cX1_press 33 = .ok (.getfield 121, 3) := dk_180 0 121 (dk_at dksX1_press_1 9 rfl rfl)
theorem dX1_press_36 : decode cX1_press 36 = .ok (.invokevirtual 53, 3) := dk_182 0 53 (dk_at dksX1_press_1 12 rfl rfl)
theorem dX1_press_39 : decode cX1_press 39 = .ok (.bipush 8, 2) := dk_16 8 (dk_at dksX1_press_1 15 rfl rfl)
theorem dX1_press_41 : decode cX1_press 41 = .ok (.if_icmp .ge 7, 3) := dk_162 0 7 (dk_at dksX1_press_1 17 rfl rfl)
theorem dX1_press_44 : decode cX1_press 44 = .ok (.iconst 1, 1) := dk_4 (dk_at dksX1_press_1 20 rfl rfl)
theorem dX1_press_45 : decode cX1_press 45 = .ok (.goto 4, 3) := dk_167 0 4 (dk_at dksX1_press_1 21 rfl rfl)
theorem dX1_press_48 : decode cX1_press 48 = .ok (.iconst 0, 1) := dk_3 (dk_at dksX1_press_2 0 rfl rfl)
theorem dX1_press_49 : decode cX1_press 49 = .ok (.invokestatic 57, 3) := dk_184 0 57 (dk_at dksX1_press_2 1 rfl rfl)
theorem dX1_press_52 : decode cX1_press 52 = .ok (.aload_n 3, 1) := dk_45 (dk_at dksX1_press_2 4 rfl rfl)
theorem dX1_press_53 : decode cX1_press 53 = .ok (.dup, 1) := dk_89 (dk_at dksX1_press_2 5 rfl rfl)
theorem dX1_press_54 : decode cX1_press 54 = .ok (.getfield 105, 3) := dk_180 0 105 (dk_at dksX1_press_2 6 rfl rfl)
theorem dX1_press_57 : decode cX1_press 57 = .ok (.iconst 1, 1) := dk_4 (dk_at dksX1_press_2 9 rfl rfl)
theorem dX1_press_58 : decode cX1_press 58 = .ok (.isub, 1) := dk_100 (dk_at dksX1_press_2 10 rfl rfl)
theorem dX1_press_59 : decode cX1_press 59 = .ok (.putfield 105, 3) := dk_181 0 105 (dk_at dksX1_press_2 11 rfl rfl)
theorem dX1_press_62 : decode cX1_press 62 = .ok (.aload_n 3, 1) := dk_45 (dk_at dksX1_press_2 14 rfl rfl)
theorem dX1_press_63 : decode cX1_press 63 = .ok (.getfield 121, 3) := dk_180 0 121 (dk_at dksX1_press_2 15 rfl rfl)
theorem dX1_press_66 : decode cX1_press 66 = .ok (.iload_n 2, 1) := dk_28 (dk_at dksX1_press_2 18 rfl rfl)
theorem dX1_press_67 : decode cX1_press 67 = .ok (.invokestatic 124, 3) := dk_184 0 124 (dk_at dksX1_press_2 19 rfl rfl)
theorem dX1_press_70 : decode cX1_press 70 = .ok (.invokevirtual 65, 3) := dk_182 0 65 (dk_at dksX1_press_3 0 rfl rfl)
theorem dX1_press_73 : decode cX1_press 73 = .ok (.pop, 1) := dk_87 (dk_at dksX1_press_3 3 rfl rfl)
theorem dX1_press_74 : decode cX1_press 74 = .ok (.aload_n 3, 1) := dk_45 (dk_at dksX1_press_3 4 rfl rfl)
theorem dX1_press_75 : decode cX1_press 75 = .ok (.getfield 121, 3) := dk_180 0 121 (dk_at dksX1_press_3 5 rfl rfl)
theorem dX1_press_78 : decode cX1_press 78 = .ok (.invokevirtual 53, 3) := dk_182 0 53 (dk_at dksX1_press_3 8 rfl rfl)
theorem dX1_press_81 : decode cX1_press 81 = .ok (.ireturn, 1) := dk_172 (dk_at dksX1_press_3 11 rfl rfl)
abbrev cX1_boxAt_2 : ByteArray := prog_1_method_12_code
def yX1_boxAt_2 : MethodName := ⟨RX1, "boxAt", "(II)LSelectoRoute$Box;"⟩
def dkwX1_boxAt_2_0 : List UInt8 := [42, 27, 182, 0, 84, 78, 28, 3, 16, 9, 184, 0, 45, 184, 0, 77, 45, 176]
abbrev dktX1_boxAt_2_0 : List UInt8 := dkwX1_boxAt_2_0 ++ []
theorem dksX1_boxAt_2_0 : cX1_boxAt_2.data.toList.drop 0 = dktX1_boxAt_2_0 := by decide +kernel
theorem dX1_boxAt_2_0 : decode cX1_boxAt_2 0 = .ok (.aload_n 0, 1) := dk_42 (dk_at dksX1_boxAt_2_0 0 rfl rfl)
theorem dX1_boxAt_2_1 : decode cX1_boxAt_2 1 = .ok (.iload_n 1, 1) := dk_27 (dk_at dksX1_boxAt_2_0 1 rfl rfl)
theorem dX1_boxAt_2_2 : decode cX1_boxAt_2 2 = .ok (.invokevirtual 84, 3) := dk_182 0 84 (dk_at dksX1_boxAt_2_0 2 rfl rfl)
theorem dX1_boxAt_2_5 : decode cX1_boxAt_2 5 = .ok (.astore_n 3, 1) := dk_78 (dk_at dksX1_boxAt_2_0 5 rfl rfl)
theorem dX1_boxAt_2_6 : decode cX1_boxAt_2 6 = .ok (.iload_n 2, 1) := dk_28 (dk_at dksX1_boxAt_2_0 6 rfl rfl)
theorem dX1_boxAt_2_7 : decode cX1_boxAt_2 7 = .ok (.iconst 0, 1) := dk_3 (dk_at dksX1_boxAt_2_0 7 rfl rfl)
theorem dX1_boxAt_2_8 : decode cX1_boxAt_2 8 = .ok (.bipush 9, 2) := dk_16 9 (dk_at dksX1_boxAt_2_0 8 rfl rfl)
theorem dX1_boxAt_2_10 : decode cX1_boxAt_2 10 = .ok (.invokestatic 45, 3) := dk_184 0 45 (dk_at dksX1_boxAt_2_0 10 rfl rfl)
theorem dX1_boxAt_2_13 : decode cX1_boxAt_2 13 = .ok (.invokestatic 77, 3) := dk_184 0 77 (dk_at dksX1_boxAt_2_0 13 rfl rfl)
theorem dX1_boxAt_2_16 : decode cX1_boxAt_2 16 = .ok (.aload_n 3, 1) := dk_45 (dk_at dksX1_boxAt_2_0 16 rfl rfl)
theorem dX1_boxAt_2_17 : decode cX1_boxAt_2 17 = .ok (.areturn, 1) := dk_176 (dk_at dksX1_boxAt_2_0 17 rfl rfl)
abbrev cX1_play : ByteArray := prog_1_method_18_code
def yX1_play : MethodName := ⟨RX1, "play", "(I)C"⟩
def dkwX1_play_7 : List UInt8 := [44, 29, 25, 4, 4, 182, 0, 152, 16, 112, 172]
abbrev dktX1_play_7 : List UInt8 := dkwX1_play_7 ++ []
def dkwX1_play_6 : List UInt8 := [198, 0, 11, 25, 4, 182, 0, 149, 153, 0, 16, 44, 89, 180, 0, 105, 4, 96, 181, 0, 105, 16, 98, 172]
abbrev dktX1_play_6 : List UInt8 := dkwX1_play_6 ++ dktX1_play_7
def dkwX1_play_5 : List UInt8 := [167, 0, 19, 42, 180, 0, 28, 44, 180, 0, 117, 29, 46, 182, 0, 80, 192, 0, 60, 58, 4, 25, 4]
abbrev dktX1_play_5 : List UInt8 := dkwX1_play_5 ++ dktX1_play_6
def dkwX1_play_4 : List UInt8 := [182, 0, 143, 62, 44, 180, 0, 121, 3, 182, 0, 146, 87, 44, 180, 0, 117, 29, 46, 2, 160, 0, 7, 1]
abbrev dktX1_play_4 : List UInt8 := dkwX1_play_4 ++ dktX1_play_5
def dkwX1_play_3 : List UInt8 := [148, 156, 0, 11, 44, 4, 181, 0, 98, 16, 106, 172, 44, 180, 0, 121, 3, 182, 0, 80, 192, 0, 125]
abbrev dktX1_play_3 : List UInt8 := dkwX1_play_3 ++ dktX1_play_4
def dkwX1_play_2 : List UInt8 := [20, 0, 137, 105, 20, 0, 139, 113, 181, 0, 41, 42, 180, 0, 41, 20, 0, 141, 113, 44, 180, 0, 88, 133]
abbrev dktX1_play_2 : List UInt8 := dkwX1_play_2 ++ dktX1_play_3
def dkwX1_play_1 : List UInt8 := [180, 0, 121, 182, 0, 130, 154, 0, 7, 4, 167, 0, 4, 3, 184, 0, 134, 42, 42, 180, 0, 41]
abbrev dktX1_play_1 : List UInt8 := dkwX1_play_1 ++ dktX1_play_2
def dkwX1_play_0 : List UInt8 := [42, 27, 182, 0, 84, 77, 44, 180, 0, 98, 154, 0, 7, 4, 167, 0, 4, 3, 184, 0, 102, 44]
abbrev dktX1_play_0 : List UInt8 := dkwX1_play_0 ++ dktX1_play_1
theorem dksX1_play_0 : cX1_play.data.toList.drop 0 = dktX1_play_0 := by decide +kernel
theorem dksX1_play_1 : cX1_play.data.toList.drop 22 = dktX1_play_1 := dk_seg dksX1_play_0 22 rfl rfl
theorem dksX1_play_2 : cX1_play.data.toList.drop 44 = dktX1_play_2 := dk_seg dksX1_play_1 22 rfl rfl
theorem dksX1_play_3 : cX1_play.data.toList.drop 68 = dktX1_play_3 := dk_seg dksX1_play_2 24 rfl rfl
theorem dksX1_play_4 : cX1_play.data.toList.drop 91 = dktX1_play_4 := dk_seg dksX1_play_3 23 rfl rfl
theorem dksX1_play_5 : cX1_play.data.toList.drop 115 = dktX1_play_5 := dk_seg dksX1_play_4 24 rfl rfl
theorem dksX1_play_6 : cX1_play.data.toList.drop 138 = dktX1_play_6 := dk_seg dksX1_play_5 23 rfl rfl
theorem dksX1_play_7 : cX1_play.data.toList.drop 162 = dktX1_play_7 := dk_seg dksX1_play_6 24 rfl rfl
theorem dX1_play_0 : decode cX1_play 0 = .ok (.aload_n 0, 1) := dk_42 (dk_at dksX1_play_0 0 rfl rfl)
theorem dX1_play_1 : decode cX1_play 1 = .ok (.iload_n 1, 1) := dk_27 (dk_at dksX1_play_0 1 rfl rfl)
theorem dX1_play_2 : decode cX1_play 2 = .ok (.invokevirtual 84, 3) := dk_182 0 84 (dk_at dksX1_play_0 2 rfl rfl)
theorem dX1_play_5 : decode cX1_play 5 = .ok (.astore_n 2, 1) := dk_77 (dk_at dksX1_play_0 5 rfl rfl)
theorem dX1_play_6 : decode cX1_play 6 = .ok (.aload_n 2, 1) := dk_44 (dk_at dksX1_play_0 6 rfl rfl)
theorem dX1_play_7 : decode cX1_play 7 = .ok (.getfield 98, 3) := dk_180 0 98 (dk_at dksX1_play_0 7 rfl rfl)
theorem dX1_play_10 : decode cX1_play 10 = .ok (.ifCond .ne 7, 3) := dk_154 0 7 (dk_at dksX1_play_0 10 rfl rfl)
theorem dX1_play_13 : decode cX1_play 13 = .ok (.iconst 1, 1) := dk_4 (dk_at dksX1_play_0 13 rfl rfl)
theorem dX1_play_14 : decode cX1_play 14 = .ok (.goto 4, 3) := dk_167 0 4 (dk_at dksX1_play_0 14 rfl rfl)
theorem dX1_play_17 : decode cX1_play 17 = .ok (.iconst 0, 1) := dk_3 (dk_at dksX1_play_0 17 rfl rfl)
theorem dX1_play_18 : decode cX1_play 18 = .ok (.invokestatic 102, 3) := dk_184 0 102 (dk_at dksX1_play_0 18 rfl rfl)
theorem dX1_play_21 : decode cX1_play 21 = .ok (.aload_n 2, 1) := dk_44 (dk_at dksX1_play_0 21 rfl rfl)
theorem dX1_play_22 : decode cX1_play 22 = .ok (.getfield 121, 3) := dk_180 0 121 (dk_at dksX1_play_1 0 rfl rfl)
theorem dX1_play_25 : decode cX1_play 25 = .ok (.invokevirtual 130, 3) := dk_182 0 130 (dk_at dksX1_play_1 3 rfl rfl)
theorem dX1_play_28 : decode cX1_play 28 = .ok (.ifCond .ne 7, 3) := dk_154 0 7 (dk_at dksX1_play_1 6 rfl rfl)
theorem dX1_play_31 : decode cX1_play 31 = .ok (.iconst 1, 1) := dk_4 (dk_at dksX1_play_1 9 rfl rfl)
theorem dX1_play_32 : decode cX1_play 32 = .ok (.goto 4, 3) := dk_167 0 4 (dk_at dksX1_play_1 10 rfl rfl)
theorem dX1_play_35 : decode cX1_play 35 = .ok (.iconst 0, 1) := dk_3 (dk_at dksX1_play_1 13 rfl rfl)
theorem dX1_play_36 : decode cX1_play 36 = .ok (.invokestatic 134, 3) := dk_184 0 134 (dk_at dksX1_play_1 14 rfl rfl)
theorem dX1_play_39 : decode cX1_play 39 = .ok (.aload_n 0, 1) := dk_42 (dk_at dksX1_play_1 17 rfl rfl)
theorem dX1_play_40 : decode cX1_play 40 = .ok (.aload_n 0, 1) := dk_42 (dk_at dksX1_play_1 18 rfl rfl)
theorem dX1_play_41 : decode cX1_play 41 = .ok (.getfield 41, 3) := dk_180 0 41 (dk_at dksX1_play_1 19 rfl rfl)
theorem dX1_play_44 : decode cX1_play 44 = .ok (.ldc2_w 137, 3) := dk_20 0 137 (dk_at dksX1_play_2 0 rfl rfl)
theorem dX1_play_47 : decode cX1_play 47 = .ok (.lmul, 1) := dk_105 (dk_at dksX1_play_2 3 rfl rfl)
theorem dX1_play_48 : decode cX1_play 48 = .ok (.ldc2_w 139, 3) := dk_20 0 139 (dk_at dksX1_play_2 4 rfl rfl)
theorem dX1_play_51 : decode cX1_play 51 = .ok (.lrem, 1) := dk_113 (dk_at dksX1_play_2 7 rfl rfl)
theorem dX1_play_52 : decode cX1_play 52 = .ok (.putfield 41, 3) := dk_181 0 41 (dk_at dksX1_play_2 8 rfl rfl)
theorem dX1_play_55 : decode cX1_play 55 = .ok (.aload_n 0, 1) := dk_42 (dk_at dksX1_play_2 11 rfl rfl)
theorem dX1_play_56 : decode cX1_play 56 = .ok (.getfield 41, 3) := dk_180 0 41 (dk_at dksX1_play_2 12 rfl rfl)
theorem dX1_play_59 : decode cX1_play 59 = .ok (.ldc2_w 141, 3) := dk_20 0 141 (dk_at dksX1_play_2 15 rfl rfl)
theorem dX1_play_62 : decode cX1_play 62 = .ok (.lrem, 1) := dk_113 (dk_at dksX1_play_2 18 rfl rfl)
theorem dX1_play_63 : decode cX1_play 63 = .ok (.aload_n 2, 1) := dk_44 (dk_at dksX1_play_2 19 rfl rfl)
theorem dX1_play_64 : decode cX1_play 64 = .ok (.getfield 88, 3) := dk_180 0 88 (dk_at dksX1_play_2 20 rfl rfl)
theorem dX1_play_67 : decode cX1_play 67 = .ok (.i2l, 1) := dk_133 (dk_at dksX1_play_2 23 rfl rfl)
theorem dX1_play_68 : decode cX1_play 68 = .ok (.lcmp, 1) := dk_148 (dk_at dksX1_play_3 0 rfl rfl)
theorem dX1_play_69 : decode cX1_play 69 = .ok (.ifCond .ge 11, 3) := dk_156 0 11 (dk_at dksX1_play_3 1 rfl rfl)
theorem dX1_play_72 : decode cX1_play 72 = .ok (.aload_n 2, 1) := dk_44 (dk_at dksX1_play_3 4 rfl rfl)
theorem dX1_play_73 : decode cX1_play 73 = .ok (.iconst 1, 1) := dk_4 (dk_at dksX1_play_3 5 rfl rfl)
theorem dX1_play_74 : decode cX1_play 74 = .ok (.putfield 98, 3) := dk_181 0 98 (dk_at dksX1_play_3 6 rfl rfl)
theorem dX1_play_77 : decode cX1_play 77 = .ok (.bipush 106, 2) := dk_16 106 (dk_at dksX1_play_3 9 rfl rfl)
theorem dX1_play_79 : decode cX1_play 79 = .ok (.ireturn, 1) := dk_172 (dk_at dksX1_play_3 11 rfl rfl)
theorem dX1_play_80 : decode cX1_play 80 = .ok (.aload_n 2, 1) := dk_44 (dk_at dksX1_play_3 12 rfl rfl)
theorem dX1_play_81 : decode cX1_play 81 = .ok (.getfield 121, 3) := dk_180 0 121 (dk_at dksX1_play_3 13 rfl rfl)
theorem dX1_play_84 : decode cX1_play 84 = .ok (.iconst 0, 1) := dk_3 (dk_at dksX1_play_3 16 rfl rfl)
theorem dX1_play_85 : decode cX1_play 85 = .ok (.invokevirtual 80, 3) := dk_182 0 80 (dk_at dksX1_play_3 17 rfl rfl)
theorem dX1_play_88 : decode cX1_play 88 = .ok (.checkcast 125, 3) := dk_192 0 125 (dk_at dksX1_play_3 20 rfl rfl)
theorem dX1_play_91 : decode cX1_play 91 = .ok (.invokevirtual 143, 3) := dk_182 0 143 (dk_at dksX1_play_4 0 rfl rfl)
theorem dX1_play_94 : decode cX1_play 94 = .ok (.istore_n 3, 1) := dk_62 (dk_at dksX1_play_4 3 rfl rfl)
theorem dX1_play_95 : decode cX1_play 95 = .ok (.aload_n 2, 1) := dk_44 (dk_at dksX1_play_4 4 rfl rfl)
theorem dX1_play_96 : decode cX1_play 96 = .ok (.getfield 121, 3) := dk_180 0 121 (dk_at dksX1_play_4 5 rfl rfl)
theorem dX1_play_99 : decode cX1_play 99 = .ok (.iconst 0, 1) := dk_3 (dk_at dksX1_play_4 8 rfl rfl)
theorem dX1_play_100 : decode cX1_play 100 = .ok (.invokevirtual 146, 3) := dk_182 0 146 (dk_at dksX1_play_4 9 rfl rfl)
theorem dX1_play_103 : decode cX1_play 103 = .ok (.pop, 1) := dk_87 (dk_at dksX1_play_4 12 rfl rfl)
theorem dX1_play_104 : decode cX1_play 104 = .ok (.aload_n 2, 1) := dk_44 (dk_at dksX1_play_4 13 rfl rfl)
theorem dX1_play_105 : decode cX1_play 105 = .ok (.getfield 117, 3) := dk_180 0 117 (dk_at dksX1_play_4 14 rfl rfl)
theorem dX1_play_108 : decode cX1_play 108 = .ok (.iload_n 3, 1) := dk_29 (dk_at dksX1_play_4 17 rfl rfl)
theorem dX1_play_109 : decode cX1_play 109 = .ok (.iaload, 1) := dk_46 (dk_at dksX1_play_4 18 rfl rfl)
theorem dX1_play_110 : decode cX1_play 110 = .ok (.iconst (-1), 1) := dk_2 (dk_at dksX1_play_4 19 rfl rfl)
theorem dX1_play_111 : decode cX1_play 111 = .ok (.if_icmp .ne 7, 3) := dk_160 0 7 (dk_at dksX1_play_4 20 rfl rfl)
theorem dX1_play_114 : decode cX1_play 114 = .ok (.aconst_null, 1) := dk_1 (dk_at dksX1_play_4 23 rfl rfl)
theorem dX1_play_115 : decode cX1_play 115 = .ok (.goto 19, 3) := dk_167 0 19 (dk_at dksX1_play_5 0 rfl rfl)
theorem dX1_play_118 : decode cX1_play 118 = .ok (.aload_n 0, 1) := dk_42 (dk_at dksX1_play_5 3 rfl rfl)
theorem dX1_play_119 : decode cX1_play 119 = .ok (.getfield 28, 3) := dk_180 0 28 (dk_at dksX1_play_5 4 rfl rfl)
theorem dX1_play_122 : decode cX1_play 122 = .ok (.aload_n 2, 1) := dk_44 (dk_at dksX1_play_5 7 rfl rfl)
theorem dX1_play_123 : decode cX1_play 123 = .ok (.getfield 117, 3) := dk_180 0 117 (dk_at dksX1_play_5 8 rfl rfl)
theorem dX1_play_126 : decode cX1_play 126 = .ok (.iload_n 3, 1) := dk_29 (dk_at dksX1_play_5 11 rfl rfl)
theorem dX1_play_127 : decode cX1_play 127 = .ok (.iaload, 1) := dk_46 (dk_at dksX1_play_5 12 rfl rfl)
theorem dX1_play_128 : decode cX1_play 128 = .ok (.invokevirtual 80, 3) := dk_182 0 80 (dk_at dksX1_play_5 13 rfl rfl)
theorem dX1_play_131 : decode cX1_play 131 = .ok (.checkcast 60, 3) := dk_192 0 60 (dk_at dksX1_play_5 16 rfl rfl)
theorem dX1_play_134 : decode cX1_play 134 = .ok (.astore 4, 2) := dk_58 4 (dk_at dksX1_play_5 19 rfl rfl)
theorem dX1_play_136 : decode cX1_play 136 = .ok (.aload 4, 2) := dk_25 4 (dk_at dksX1_play_5 21 rfl rfl)
theorem dX1_play_138 : decode cX1_play 138 = .ok (.ifnull 11, 3) := dk_198 0 11 (dk_at dksX1_play_6 0 rfl rfl)
theorem dX1_play_141 : decode cX1_play 141 = .ok (.aload 4, 2) := dk_25 4 (dk_at dksX1_play_6 3 rfl rfl)
theorem dX1_play_143 : decode cX1_play 143 = .ok (.invokevirtual 149, 3) := dk_182 0 149 (dk_at dksX1_play_6 5 rfl rfl)
theorem dX1_play_146 : decode cX1_play 146 = .ok (.ifCond .eq 16, 3) := dk_153 0 16 (dk_at dksX1_play_6 8 rfl rfl)
theorem dX1_play_149 : decode cX1_play 149 = .ok (.aload_n 2, 1) := dk_44 (dk_at dksX1_play_6 11 rfl rfl)
theorem dX1_play_150 : decode cX1_play 150 = .ok (.dup, 1) := dk_89 (dk_at dksX1_play_6 12 rfl rfl)
theorem dX1_play_151 : decode cX1_play 151 = .ok (.getfield 105, 3) := dk_180 0 105 (dk_at dksX1_play_6 13 rfl rfl)
theorem dX1_play_154 : decode cX1_play 154 = .ok (.iconst 1, 1) := dk_4 (dk_at dksX1_play_6 16 rfl rfl)
theorem dX1_play_155 : decode cX1_play 155 = .ok (.iadd, 1) := dk_96 (dk_at dksX1_play_6 17 rfl rfl)
theorem dX1_play_156 : decode cX1_play 156 = .ok (.putfield 105, 3) := dk_181 0 105 (dk_at dksX1_play_6 18 rfl rfl)
theorem dX1_play_159 : decode cX1_play 159 = .ok (.bipush 98, 2) := dk_16 98 (dk_at dksX1_play_6 21 rfl rfl)
theorem dX1_play_161 : decode cX1_play 161 = .ok (.ireturn, 1) := dk_172 (dk_at dksX1_play_6 23 rfl rfl)
theorem dX1_play_162 : decode cX1_play 162 = .ok (.aload_n 2, 1) := dk_44 (dk_at dksX1_play_7 0 rfl rfl)
theorem dX1_play_163 : decode cX1_play 163 = .ok (.iload_n 3, 1) := dk_29 (dk_at dksX1_play_7 1 rfl rfl)
theorem dX1_play_164 : decode cX1_play 164 = .ok (.aload 4, 2) := dk_25 4 (dk_at dksX1_play_7 2 rfl rfl)
theorem dX1_play_166 : decode cX1_play 166 = .ok (.iconst 1, 1) := dk_4 (dk_at dksX1_play_7 4 rfl rfl)
theorem dX1_play_167 : decode cX1_play 167 = .ok (.invokevirtual 152, 3) := dk_182 0 152 (dk_at dksX1_play_7 5 rfl rfl)
theorem dX1_play_170 : decode cX1_play 170 = .ok (.bipush 112, 2) := dk_16 112 (dk_at dksX1_play_7 8 rfl rfl)
theorem dX1_play_172 : decode cX1_play 172 = .ok (.ireturn, 1) := dk_172 (dk_at dksX1_play_7 10 rfl rfl)
abbrev cX1_requireThere : ByteArray := prog_1_method_5_code
def yX1_requireThere : MethodName := ⟨RX1, "requireThere", "(Z)V"⟩
def dkwX1_requireThere_0 : List UInt8 := [26, 154, 0, 11, 187, 0, 13, 89, 183, 0, 15, 191, 177]
abbrev dktX1_requireThere_0 : List UInt8 := dkwX1_requireThere_0 ++ []
theorem dksX1_requireThere_0 : cX1_requireThere.data.toList.drop 0 = dktX1_requireThere_0 := by decide +kernel
theorem dX1_requireThere_0 : decode cX1_requireThere 0 = .ok (.iload_n 0, 1) := dk_26 (dk_at dksX1_requireThere_0 0 rfl rfl)
theorem dX1_requireThere_1 : decode cX1_requireThere 1 = .ok (.ifCond .ne 11, 3) := dk_154 0 11 (dk_at dksX1_requireThere_0 1 rfl rfl)
theorem dX1_requireThere_4 : decode cX1_requireThere 4 = .ok (.new 13, 3) := dk_187 0 13 (dk_at dksX1_requireThere_0 4 rfl rfl)
theorem dX1_requireThere_7 : decode cX1_requireThere 7 = .ok (.dup, 1) := dk_89 (dk_at dksX1_requireThere_0 7 rfl rfl)
theorem dX1_requireThere_8 : decode cX1_requireThere 8 = .ok (.invokespecial 15, 3) := dk_183 0 15 (dk_at dksX1_requireThere_0 8 rfl rfl)
theorem dX1_requireThere_11 : decode cX1_requireThere 11 = .ok (.athrow, 1) := dk_191 (dk_at dksX1_requireThere_0 11 rfl rfl)
theorem dX1_requireThere_12 : decode cX1_requireThere 12 = .ok (.return_, 1) := dk_177 (dk_at dksX1_requireThere_0 12 rfl rfl)
abbrev cX1_getCredits : ByteArray := prog_1_method_19_code
def yX1_getCredits : MethodName := ⟨RX1, "getCredits", "(I)I"⟩
def dkwX1_getCredits_0 : List UInt8 := [42, 27, 182, 0, 84, 180, 0, 105, 172]
abbrev dktX1_getCredits_0 : List UInt8 := dkwX1_getCredits_0 ++ []
theorem dksX1_getCredits_0 : cX1_getCredits.data.toList.drop 0 = dktX1_getCredits_0 := by decide +kernel
theorem dX1_getCredits_0 : decode cX1_getCredits 0 = .ok (.aload_n 0, 1) := dk_42 (dk_at dksX1_getCredits_0 0 rfl rfl)
theorem dX1_getCredits_1 : decode cX1_getCredits 1 = .ok (.iload_n 1, 1) := dk_27 (dk_at dksX1_getCredits_0 1 rfl rfl)
theorem dX1_getCredits_2 : decode cX1_getCredits 2 = .ok (.invokevirtual 84, 3) := dk_182 0 84 (dk_at dksX1_getCredits_0 2 rfl rfl)
theorem dX1_getCredits_5 : decode cX1_getCredits 5 = .ok (.getfield 105, 3) := dk_180 0 105 (dk_at dksX1_getCredits_0 5 rfl rfl)
theorem dX1_getCredits_8 : decode cX1_getCredits 8 = .ok (.ireturn, 1) := dk_172 (dk_at dksX1_getCredits_0 8 rfl rfl)
abbrev cX1_getQueued : ByteArray := prog_1_method_20_code
def yX1_getQueued : MethodName := ⟨RX1, "getQueued", "(I)I"⟩
def dkwX1_getQueued_0 : List UInt8 := [42, 27, 182, 0, 84, 180, 0, 121, 182, 0, 53, 172]
abbrev dktX1_getQueued_0 : List UInt8 := dkwX1_getQueued_0 ++ []
theorem dksX1_getQueued_0 : cX1_getQueued.data.toList.drop 0 = dktX1_getQueued_0 := by decide +kernel
theorem dX1_getQueued_0 : decode cX1_getQueued 0 = .ok (.aload_n 0, 1) := dk_42 (dk_at dksX1_getQueued_0 0 rfl rfl)
theorem dX1_getQueued_1 : decode cX1_getQueued 1 = .ok (.iload_n 1, 1) := dk_27 (dk_at dksX1_getQueued_0 1 rfl rfl)
theorem dX1_getQueued_2 : decode cX1_getQueued 2 = .ok (.invokevirtual 84, 3) := dk_182 0 84 (dk_at dksX1_getQueued_0 2 rfl rfl)
theorem dX1_getQueued_5 : decode cX1_getQueued 5 = .ok (.getfield 121, 3) := dk_180 0 121 (dk_at dksX1_getQueued_0 5 rfl rfl)
theorem dX1_getQueued_8 : decode cX1_getQueued 8 = .ok (.invokevirtual 53, 3) := dk_182 0 53 (dk_at dksX1_getQueued_0 8 rfl rfl)
theorem dX1_getQueued_11 : decode cX1_getQueued 11 = .ok (.ireturn, 1) := dk_172 (dk_at dksX1_getQueued_0 11 rfl rfl)
abbrev cX1_getCents : ByteArray := prog_1_method_21_code
def yX1_getCents : MethodName := ⟨RX1, "getCents", "(I)I"⟩
def dkwX1_getCents_0 : List UInt8 := [42, 27, 182, 0, 84, 180, 0, 110, 172]
abbrev dktX1_getCents_0 : List UInt8 := dkwX1_getCents_0 ++ []
theorem dksX1_getCents_0 : cX1_getCents.data.toList.drop 0 = dktX1_getCents_0 := by decide +kernel
theorem dX1_getCents_0 : decode cX1_getCents 0 = .ok (.aload_n 0, 1) := dk_42 (dk_at dksX1_getCents_0 0 rfl rfl)
theorem dX1_getCents_1 : decode cX1_getCents 1 = .ok (.iload_n 1, 1) := dk_27 (dk_at dksX1_getCents_0 1 rfl rfl)
theorem dX1_getCents_2 : decode cX1_getCents 2 = .ok (.invokevirtual 84, 3) := dk_182 0 84 (dk_at dksX1_getCents_0 2 rfl rfl)
theorem dX1_getCents_5 : decode cX1_getCents 5 = .ok (.getfield 110, 3) := dk_180 0 110 (dk_at dksX1_getCents_0 5 rfl rfl)
theorem dX1_getCents_8 : decode cX1_getCents 8 = .ok (.ireturn, 1) := dk_172 (dk_at dksX1_getCents_0 8 rfl rfl)
abbrev cX1_isJammed : ByteArray := prog_1_method_22_code
def yX1_isJammed : MethodName := ⟨RX1, "isJammed", "(I)Z"⟩
def dkwX1_isJammed_0 : List UInt8 := [42, 27, 182, 0, 84, 180, 0, 98, 172]
abbrev dktX1_isJammed_0 : List UInt8 := dkwX1_isJammed_0 ++ []
theorem dksX1_isJammed_0 : cX1_isJammed.data.toList.drop 0 = dktX1_isJammed_0 := by decide +kernel
theorem dX1_isJammed_0 : decode cX1_isJammed 0 = .ok (.aload_n 0, 1) := dk_42 (dk_at dksX1_isJammed_0 0 rfl rfl)
theorem dX1_isJammed_1 : decode cX1_isJammed 1 = .ok (.iload_n 1, 1) := dk_27 (dk_at dksX1_isJammed_0 1 rfl rfl)
theorem dX1_isJammed_2 : decode cX1_isJammed 2 = .ok (.invokevirtual 84, 3) := dk_182 0 84 (dk_at dksX1_isJammed_0 2 rfl rfl)
theorem dX1_isJammed_5 : decode cX1_isJammed 5 = .ok (.getfield 98, 3) := dk_180 0 98 (dk_at dksX1_isJammed_0 5 rfl rfl)
theorem dX1_isJammed_8 : decode cX1_isJammed 8 = .ok (.ireturn, 1) := dk_172 (dk_at dksX1_isJammed_0 8 rfl rfl)
abbrev cX1_getWheel : ByteArray := prog_1_method_23_code
def yX1_getWheel : MethodName := ⟨RX1, "getWheel", "(II)I"⟩
def dkwX1_getWheel_0 : List UInt8 := [42, 27, 28, 182, 0, 114, 180, 0, 156, 28, 46, 172]
abbrev dktX1_getWheel_0 : List UInt8 := dkwX1_getWheel_0 ++ []
theorem dksX1_getWheel_0 : cX1_getWheel.data.toList.drop 0 = dktX1_getWheel_0 := by decide +kernel
theorem dX1_getWheel_0 : decode cX1_getWheel 0 = .ok (.aload_n 0, 1) := dk_42 (dk_at dksX1_getWheel_0 0 rfl rfl)
theorem dX1_getWheel_1 : decode cX1_getWheel 1 = .ok (.iload_n 1, 1) := dk_27 (dk_at dksX1_getWheel_0 1 rfl rfl)
theorem dX1_getWheel_2 : decode cX1_getWheel 2 = .ok (.iload_n 2, 1) := dk_28 (dk_at dksX1_getWheel_0 2 rfl rfl)
theorem dX1_getWheel_3 : decode cX1_getWheel 3 = .ok (.invokevirtual 114, 3) := dk_182 0 114 (dk_at dksX1_getWheel_0 3 rfl rfl)
theorem dX1_getWheel_6 : decode cX1_getWheel 6 = .ok (.getfield 156, 3) := dk_180 0 156 (dk_at dksX1_getWheel_0 6 rfl rfl)
theorem dX1_getWheel_9 : decode cX1_getWheel 9 = .ok (.iload_n 2, 1) := dk_28 (dk_at dksX1_getWheel_0 9 rfl rfl)
theorem dX1_getWheel_10 : decode cX1_getWheel 10 = .ok (.iaload, 1) := dk_46 (dk_at dksX1_getWheel_0 10 rfl rfl)
theorem dX1_getWheel_11 : decode cX1_getWheel 11 = .ok (.ireturn, 1) := dk_172 (dk_at dksX1_getWheel_0 11 rfl rfl)
abbrev cX1_getNeedle : ByteArray := prog_1_method_24_code
def yX1_getNeedle : MethodName := ⟨RX1, "getNeedle", "(I)I"⟩
def dkwX1_getNeedle_0 : List UInt8 := [42, 27, 182, 0, 84, 180, 0, 159, 172]
abbrev dktX1_getNeedle_0 : List UInt8 := dkwX1_getNeedle_0 ++ []
theorem dksX1_getNeedle_0 : cX1_getNeedle.data.toList.drop 0 = dktX1_getNeedle_0 := by decide +kernel
theorem dX1_getNeedle_0 : decode cX1_getNeedle 0 = .ok (.aload_n 0, 1) := dk_42 (dk_at dksX1_getNeedle_0 0 rfl rfl)
theorem dX1_getNeedle_1 : decode cX1_getNeedle 1 = .ok (.iload_n 1, 1) := dk_27 (dk_at dksX1_getNeedle_0 1 rfl rfl)
theorem dX1_getNeedle_2 : decode cX1_getNeedle 2 = .ok (.invokevirtual 84, 3) := dk_182 0 84 (dk_at dksX1_getNeedle_0 2 rfl rfl)
theorem dX1_getNeedle_5 : decode cX1_getNeedle 5 = .ok (.getfield 159, 3) := dk_180 0 159 (dk_at dksX1_getNeedle_0 5 rfl rfl)
theorem dX1_getNeedle_8 : decode cX1_getNeedle 8 = .ok (.ireturn, 1) := dk_172 (dk_at dksX1_getNeedle_0 8 rfl rfl)
abbrev cX1_getWear : ByteArray := prog_1_method_25_code
def yX1_getWear : MethodName := ⟨RX1, "getWear", "(I)I"⟩
def dkwX1_getWear_0 : List UInt8 := [42, 27, 182, 0, 162, 180, 0, 166, 172]
abbrev dktX1_getWear_0 : List UInt8 := dkwX1_getWear_0 ++ []
theorem dksX1_getWear_0 : cX1_getWear.data.toList.drop 0 = dktX1_getWear_0 := by decide +kernel
theorem dX1_getWear_0 : decode cX1_getWear 0 = .ok (.aload_n 0, 1) := dk_42 (dk_at dksX1_getWear_0 0 rfl rfl)
theorem dX1_getWear_1 : decode cX1_getWear 1 = .ok (.iload_n 1, 1) := dk_27 (dk_at dksX1_getWear_0 1 rfl rfl)
theorem dX1_getWear_2 : decode cX1_getWear 2 = .ok (.invokevirtual 162, 3) := dk_182 0 162 (dk_at dksX1_getWear_0 2 rfl rfl)
theorem dX1_getWear_5 : decode cX1_getWear 5 = .ok (.getfield 166, 3) := dk_180 0 166 (dk_at dksX1_getWear_0 5 rfl rfl)
theorem dX1_getWear_8 : decode cX1_getWear 8 = .ok (.ireturn, 1) := dk_172 (dk_at dksX1_getWear_0 8 rfl rfl)
abbrev cX1_discAt : ByteArray := prog_1_method_13_code
def yX1_discAt : MethodName := ⟨RX1, "discAt", "(I)LSelectoRoute$Disc;"⟩
def dkwX1_discAt_1 : List UInt8 := [182, 0, 80, 192, 0, 60, 176]
abbrev dktX1_discAt_1 : List UInt8 := dkwX1_discAt_1 ++ []
def dkwX1_discAt_0 : List UInt8 := [27, 3, 42, 180, 0, 28, 182, 0, 53, 4, 100, 184, 0, 45, 184, 0, 77, 42, 180, 0, 28, 27]
abbrev dktX1_discAt_0 : List UInt8 := dkwX1_discAt_0 ++ dktX1_discAt_1
theorem dksX1_discAt_0 : cX1_discAt.data.toList.drop 0 = dktX1_discAt_0 := by decide +kernel
theorem dksX1_discAt_1 : cX1_discAt.data.toList.drop 22 = dktX1_discAt_1 := dk_seg dksX1_discAt_0 22 rfl rfl
theorem dX1_discAt_0 : decode cX1_discAt 0 = .ok (.iload_n 1, 1) := dk_27 (dk_at dksX1_discAt_0 0 rfl rfl)
theorem dX1_discAt_1 : decode cX1_discAt 1 = .ok (.iconst 0, 1) := dk_3 (dk_at dksX1_discAt_0 1 rfl rfl)
theorem dX1_discAt_2 : decode cX1_discAt 2 = .ok (.aload_n 0, 1) := dk_42 (dk_at dksX1_discAt_0 2 rfl rfl)
theorem dX1_discAt_3 : decode cX1_discAt 3 = .ok (.getfield 28, 3) := dk_180 0 28 (dk_at dksX1_discAt_0 3 rfl rfl)
theorem dX1_discAt_6 : decode cX1_discAt 6 = .ok (.invokevirtual 53, 3) := dk_182 0 53 (dk_at dksX1_discAt_0 6 rfl rfl)
theorem dX1_discAt_9 : decode cX1_discAt 9 = .ok (.iconst 1, 1) := dk_4 (dk_at dksX1_discAt_0 9 rfl rfl)
theorem dX1_discAt_10 : decode cX1_discAt 10 = .ok (.isub, 1) := dk_100 (dk_at dksX1_discAt_0 10 rfl rfl)
theorem dX1_discAt_11 : decode cX1_discAt 11 = .ok (.invokestatic 45, 3) := dk_184 0 45 (dk_at dksX1_discAt_0 11 rfl rfl)
theorem dX1_discAt_14 : decode cX1_discAt 14 = .ok (.invokestatic 77, 3) := dk_184 0 77 (dk_at dksX1_discAt_0 14 rfl rfl)
theorem dX1_discAt_17 : decode cX1_discAt 17 = .ok (.aload_n 0, 1) := dk_42 (dk_at dksX1_discAt_0 17 rfl rfl)
theorem dX1_discAt_18 : decode cX1_discAt 18 = .ok (.getfield 28, 3) := dk_180 0 28 (dk_at dksX1_discAt_0 18 rfl rfl)
theorem dX1_discAt_21 : decode cX1_discAt 21 = .ok (.iload_n 1, 1) := dk_27 (dk_at dksX1_discAt_0 21 rfl rfl)
theorem dX1_discAt_22 : decode cX1_discAt 22 = .ok (.invokevirtual 80, 3) := dk_182 0 80 (dk_at dksX1_discAt_1 0 rfl rfl)
theorem dX1_discAt_25 : decode cX1_discAt 25 = .ok (.checkcast 60, 3) := dk_192 0 60 (dk_at dksX1_discAt_1 3 rfl rfl)
theorem dX1_discAt_28 : decode cX1_discAt 28 = .ok (.areturn, 1) := dk_176 (dk_at dksX1_discAt_1 6 rfl rfl)
abbrev cX1_getPlace : ByteArray := prog_1_method_26_code
def yX1_getPlace : MethodName := ⟨RX1, "getPlace", "(I)I"⟩
def dkwX1_getPlace_0 : List UInt8 := [42, 27, 182, 0, 162, 180, 0, 169, 172]
abbrev dktX1_getPlace_0 : List UInt8 := dkwX1_getPlace_0 ++ []
theorem dksX1_getPlace_0 : cX1_getPlace.data.toList.drop 0 = dktX1_getPlace_0 := by decide +kernel
theorem dX1_getPlace_0 : decode cX1_getPlace 0 = .ok (.aload_n 0, 1) := dk_42 (dk_at dksX1_getPlace_0 0 rfl rfl)
theorem dX1_getPlace_1 : decode cX1_getPlace 1 = .ok (.iload_n 1, 1) := dk_27 (dk_at dksX1_getPlace_0 1 rfl rfl)
theorem dX1_getPlace_2 : decode cX1_getPlace 2 = .ok (.invokevirtual 162, 3) := dk_182 0 162 (dk_at dksX1_getPlace_0 2 rfl rfl)
theorem dX1_getPlace_5 : decode cX1_getPlace 5 = .ok (.getfield 169, 3) := dk_180 0 169 (dk_at dksX1_getPlace_0 5 rfl rfl)
theorem dX1_getPlace_8 : decode cX1_getPlace 8 = .ok (.ireturn, 1) := dk_172 (dk_at dksX1_getPlace_0 8 rfl rfl)
abbrev cX1_discAt_2 : ByteArray := prog_1_method_27_code
def yX1_discAt_2 : MethodName := ⟨RX1, "discAt", "(II)I"⟩
def dkwX1_discAt_2_1 : List UInt8 := [184, 0, 134, 45, 180, 0, 117, 28, 46, 172]
abbrev dktX1_discAt_2_1 : List UInt8 := dkwX1_discAt_2_1 ++ []
def dkwX1_discAt_2_0 : List UInt8 := [42, 27, 28, 182, 0, 114, 78, 45, 180, 0, 117, 28, 46, 2, 159, 0, 7, 4, 167, 0, 4, 3]
abbrev dktX1_discAt_2_0 : List UInt8 := dkwX1_discAt_2_0 ++ dktX1_discAt_2_1
theorem dksX1_discAt_2_0 : cX1_discAt_2.data.toList.drop 0 = dktX1_discAt_2_0 := by decide +kernel
theorem dksX1_discAt_2_1 : cX1_discAt_2.data.toList.drop 22 = dktX1_discAt_2_1 := dk_seg dksX1_discAt_2_0 22 rfl rfl
theorem dX1_discAt_2_0 : decode cX1_discAt_2 0 = .ok (.aload_n 0, 1) := dk_42 (dk_at dksX1_discAt_2_0 0 rfl rfl)
theorem dX1_discAt_2_1 : decode cX1_discAt_2 1 = .ok (.iload_n 1, 1) := dk_27 (dk_at dksX1_discAt_2_0 1 rfl rfl)
theorem dX1_discAt_2_2 : decode cX1_discAt_2 2 = .ok (.iload_n 2, 1) := dk_28 (dk_at dksX1_discAt_2_0 2 rfl rfl)
theorem dX1_discAt_2_3 : decode cX1_discAt_2 3 = .ok (.invokevirtual 114, 3) := dk_182 0 114 (dk_at dksX1_discAt_2_0 3 rfl rfl)
theorem dX1_discAt_2_6 : decode cX1_discAt_2 6 = .ok (.astore_n 3, 1) := dk_78 (dk_at dksX1_discAt_2_0 6 rfl rfl)
theorem dX1_discAt_2_7 : decode cX1_discAt_2 7 = .ok (.aload_n 3, 1) := dk_45 (dk_at dksX1_discAt_2_0 7 rfl rfl)
theorem dX1_discAt_2_8 : decode cX1_discAt_2 8 = .ok (.getfield 117, 3) := dk_180 0 117 (dk_at dksX1_discAt_2_0 8 rfl rfl)
theorem dX1_discAt_2_11 : decode cX1_discAt_2 11 = .ok (.iload_n 2, 1) := dk_28 (dk_at dksX1_discAt_2_0 11 rfl rfl)
theorem dX1_discAt_2_12 : decode cX1_discAt_2 12 = .ok (.iaload, 1) := dk_46 (dk_at dksX1_discAt_2_0 12 rfl rfl)
theorem dX1_discAt_2_13 : decode cX1_discAt_2 13 = .ok (.iconst (-1), 1) := dk_2 (dk_at dksX1_discAt_2_0 13 rfl rfl)
theorem dX1_discAt_2_14 : decode cX1_discAt_2 14 = .ok (.if_icmp .eq 7, 3) := dk_159 0 7 (dk_at dksX1_discAt_2_0 14 rfl rfl)
theorem dX1_discAt_2_17 : decode cX1_discAt_2 17 = .ok (.iconst 1, 1) := dk_4 (dk_at dksX1_discAt_2_0 17 rfl rfl)
theorem dX1_discAt_2_18 : decode cX1_discAt_2 18 = .ok (.goto 4, 3) := dk_167 0 4 (dk_at dksX1_discAt_2_0 18 rfl rfl)
theorem dX1_discAt_2_21 : decode cX1_discAt_2 21 = .ok (.iconst 0, 1) := dk_3 (dk_at dksX1_discAt_2_0 21 rfl rfl)
theorem dX1_discAt_2_22 : decode cX1_discAt_2 22 = .ok (.invokestatic 134, 3) := dk_184 0 134 (dk_at dksX1_discAt_2_1 0 rfl rfl)
theorem dX1_discAt_2_25 : decode cX1_discAt_2 25 = .ok (.aload_n 3, 1) := dk_45 (dk_at dksX1_discAt_2_1 3 rfl rfl)
theorem dX1_discAt_2_26 : decode cX1_discAt_2 26 = .ok (.getfield 117, 3) := dk_180 0 117 (dk_at dksX1_discAt_2_1 4 rfl rfl)
theorem dX1_discAt_2_29 : decode cX1_discAt_2 29 = .ok (.iload_n 2, 1) := dk_28 (dk_at dksX1_discAt_2_1 7 rfl rfl)
theorem dX1_discAt_2_30 : decode cX1_discAt_2 30 = .ok (.iaload, 1) := dk_46 (dk_at dksX1_discAt_2_1 8 rfl rfl)
theorem dX1_discAt_2_31 : decode cX1_discAt_2 31 = .ok (.ireturn, 1) := dk_172 (dk_at dksX1_discAt_2_1 9 rfl rfl)
abbrev cX1_pull : ByteArray := prog_1_method_28_code
def yX1_pull : MethodName := ⟨RX1, "pull", "(I)I"⟩
def dkwX1_pull_1 : List UInt8 := [180, 0, 34, 44, 180, 0, 169, 16, 10, 108, 182, 0, 80, 192, 0, 69, 180, 0, 175, 182, 0, 178, 172]
abbrev dktX1_pull_1 : List UInt8 := dkwX1_pull_1 ++ []
def dkwX1_pull_0 : List UInt8 := [42, 27, 182, 0, 162, 77, 44, 42, 180, 0, 172, 44, 180, 0, 169, 156, 0, 7, 2, 167, 0, 23, 42]
abbrev dktX1_pull_0 : List UInt8 := dkwX1_pull_0 ++ dktX1_pull_1
theorem dksX1_pull_0 : cX1_pull.data.toList.drop 0 = dktX1_pull_0 := by decide +kernel
theorem dksX1_pull_1 : cX1_pull.data.toList.drop 23 = dktX1_pull_1 := dk_seg dksX1_pull_0 23 rfl rfl
theorem dX1_pull_0 : decode cX1_pull 0 = .ok (.aload_n 0, 1) := dk_42 (dk_at dksX1_pull_0 0 rfl rfl)
theorem dX1_pull_1 : decode cX1_pull 1 = .ok (.iload_n 1, 1) := dk_27 (dk_at dksX1_pull_0 1 rfl rfl)
theorem dX1_pull_2 : decode cX1_pull 2 = .ok (.invokevirtual 162, 3) := dk_182 0 162 (dk_at dksX1_pull_0 2 rfl rfl)
theorem dX1_pull_5 : decode cX1_pull 5 = .ok (.astore_n 2, 1) := dk_77 (dk_at dksX1_pull_0 5 rfl rfl)
theorem dX1_pull_6 : decode cX1_pull 6 = .ok (.aload_n 2, 1) := dk_44 (dk_at dksX1_pull_0 6 rfl rfl)
theorem dX1_pull_7 : decode cX1_pull 7 = .ok (.aload_n 0, 1) := dk_42 (dk_at dksX1_pull_0 7 rfl rfl)
theorem dX1_pull_8 : decode cX1_pull 8 = .ok (.getfield 172, 3) := dk_180 0 172 (dk_at dksX1_pull_0 8 rfl rfl)
theorem dX1_pull_11 : decode cX1_pull 11 = .ok (.aload_n 2, 1) := dk_44 (dk_at dksX1_pull_0 11 rfl rfl)
theorem dX1_pull_12 : decode cX1_pull 12 = .ok (.getfield 169, 3) := dk_180 0 169 (dk_at dksX1_pull_0 12 rfl rfl)
theorem dX1_pull_15 : decode cX1_pull 15 = .ok (.ifCond .ge 7, 3) := dk_156 0 7 (dk_at dksX1_pull_0 15 rfl rfl)
theorem dX1_pull_18 : decode cX1_pull 18 = .ok (.iconst (-1), 1) := dk_2 (dk_at dksX1_pull_0 18 rfl rfl)
theorem dX1_pull_19 : decode cX1_pull 19 = .ok (.goto 23, 3) := dk_167 0 23 (dk_at dksX1_pull_0 19 rfl rfl)
theorem dX1_pull_22 : decode cX1_pull 22 = .ok (.aload_n 0, 1) := dk_42 (dk_at dksX1_pull_0 22 rfl rfl)
theorem dX1_pull_23 : decode cX1_pull 23 = .ok (.getfield 34, 3) := dk_180 0 34 (dk_at dksX1_pull_1 0 rfl rfl)
theorem dX1_pull_26 : decode cX1_pull 26 = .ok (.aload_n 2, 1) := dk_44 (dk_at dksX1_pull_1 3 rfl rfl)
theorem dX1_pull_27 : decode cX1_pull 27 = .ok (.getfield 169, 3) := dk_180 0 169 (dk_at dksX1_pull_1 4 rfl rfl)
theorem dX1_pull_30 : decode cX1_pull 30 = .ok (.bipush 10, 2) := dk_16 10 (dk_at dksX1_pull_1 7 rfl rfl)
theorem dX1_pull_32 : decode cX1_pull 32 = .ok (.idiv, 1) := dk_108 (dk_at dksX1_pull_1 9 rfl rfl)
theorem dX1_pull_33 : decode cX1_pull 33 = .ok (.invokevirtual 80, 3) := dk_182 0 80 (dk_at dksX1_pull_1 10 rfl rfl)
theorem dX1_pull_36 : decode cX1_pull 36 = .ok (.checkcast 69, 3) := dk_192 0 69 (dk_at dksX1_pull_1 13 rfl rfl)
theorem dX1_pull_39 : decode cX1_pull 39 = .ok (.getfield 175, 3) := dk_180 0 175 (dk_at dksX1_pull_1 16 rfl rfl)
theorem dX1_pull_42 : decode cX1_pull 42 = .ok (.invokevirtual 178, 3) := dk_182 0 178 (dk_at dksX1_pull_1 19 rfl rfl)
theorem dX1_pull_45 : decode cX1_pull 45 = .ok (.ireturn, 1) := dk_172 (dk_at dksX1_pull_1 22 rfl rfl)
abbrev cX1_pullIn : ByteArray := prog_1_method_29_code
def yX1_pullIn : MethodName := ⟨RX1, "pullIn", "(II)I"⟩
def dkwX1_pullIn_0 : List UInt8 := [42, 27, 182, 0, 84, 78, 42, 28, 182, 0, 162, 42, 180, 0, 172, 45, 180, 0, 175, 182, 0, 178, 172]
abbrev dktX1_pullIn_0 : List UInt8 := dkwX1_pullIn_0 ++ []
theorem dksX1_pullIn_0 : cX1_pullIn.data.toList.drop 0 = dktX1_pullIn_0 := by decide +kernel
theorem dX1_pullIn_0 : decode cX1_pullIn 0 = .ok (.aload_n 0, 1) := dk_42 (dk_at dksX1_pullIn_0 0 rfl rfl)
theorem dX1_pullIn_1 : decode cX1_pullIn 1 = .ok (.iload_n 1, 1) := dk_27 (dk_at dksX1_pullIn_0 1 rfl rfl)
theorem dX1_pullIn_2 : decode cX1_pullIn 2 = .ok (.invokevirtual 84, 3) := dk_182 0 84 (dk_at dksX1_pullIn_0 2 rfl rfl)
theorem dX1_pullIn_5 : decode cX1_pullIn 5 = .ok (.astore_n 3, 1) := dk_78 (dk_at dksX1_pullIn_0 5 rfl rfl)
theorem dX1_pullIn_6 : decode cX1_pullIn 6 = .ok (.aload_n 0, 1) := dk_42 (dk_at dksX1_pullIn_0 6 rfl rfl)
theorem dX1_pullIn_7 : decode cX1_pullIn 7 = .ok (.iload_n 2, 1) := dk_28 (dk_at dksX1_pullIn_0 7 rfl rfl)
theorem dX1_pullIn_8 : decode cX1_pullIn 8 = .ok (.invokevirtual 162, 3) := dk_182 0 162 (dk_at dksX1_pullIn_0 8 rfl rfl)
theorem dX1_pullIn_11 : decode cX1_pullIn 11 = .ok (.aload_n 0, 1) := dk_42 (dk_at dksX1_pullIn_0 11 rfl rfl)
theorem dX1_pullIn_12 : decode cX1_pullIn 12 = .ok (.getfield 172, 3) := dk_180 0 172 (dk_at dksX1_pullIn_0 12 rfl rfl)
theorem dX1_pullIn_15 : decode cX1_pullIn 15 = .ok (.aload_n 3, 1) := dk_45 (dk_at dksX1_pullIn_0 15 rfl rfl)
theorem dX1_pullIn_16 : decode cX1_pullIn 16 = .ok (.getfield 175, 3) := dk_180 0 175 (dk_at dksX1_pullIn_0 16 rfl rfl)
theorem dX1_pullIn_19 : decode cX1_pullIn 19 = .ok (.invokevirtual 178, 3) := dk_182 0 178 (dk_at dksX1_pullIn_0 19 rfl rfl)
theorem dX1_pullIn_22 : decode cX1_pullIn 22 = .ok (.ireturn, 1) := dk_172 (dk_at dksX1_pullIn_0 22 rfl rfl)
abbrev cX1_pass : ByteArray := prog_1_method_31_code
def yX1_pass : MethodName := ⟨RX1, "pass", "()I"⟩
def dkwX1_pass_3 : List UInt8 := [181, 0, 172, 42, 17, 2, 88, 181, 0, 37, 42, 180, 0, 172, 172]
abbrev dktX1_pass_3 : List UInt8 := dkwX1_pass_3 ++ []
def dkwX1_pass_2 : List UInt8 := [154, 0, 8, 42, 44, 182, 0, 195, 44, 3, 181, 0, 199, 167, 255, 220, 42, 89, 180, 0, 172, 4, 96]
abbrev dktX1_pass_2 : List UInt8 := dkwX1_pass_2 ++ dktX1_pass_3
def dkwX1_pass_1 : List UInt8 := [76, 43, 185, 0, 186, 1, 0, 153, 0, 33, 43, 185, 0, 191, 1, 0, 192, 0, 69, 77, 44, 180, 0, 98]
abbrev dktX1_pass_1 : List UInt8 := dkwX1_pass_1 ++ dktX1_pass_2
def dkwX1_pass_0 : List UInt8 := [42, 180, 0, 172, 16, 99, 162, 0, 7, 4, 167, 0, 4, 3, 184, 0, 57, 42, 180, 0, 34, 182, 0, 182]
abbrev dktX1_pass_0 : List UInt8 := dkwX1_pass_0 ++ dktX1_pass_1
theorem dksX1_pass_0 : cX1_pass.data.toList.drop 0 = dktX1_pass_0 := by decide +kernel
theorem dksX1_pass_1 : cX1_pass.data.toList.drop 24 = dktX1_pass_1 := dk_seg dksX1_pass_0 24 rfl rfl
theorem dksX1_pass_2 : cX1_pass.data.toList.drop 48 = dktX1_pass_2 := dk_seg dksX1_pass_1 24 rfl rfl
theorem dksX1_pass_3 : cX1_pass.data.toList.drop 71 = dktX1_pass_3 := dk_seg dksX1_pass_2 23 rfl rfl
theorem dX1_pass_0 : decode cX1_pass 0 = .ok (.aload_n 0, 1) := dk_42 (dk_at dksX1_pass_0 0 rfl rfl)
theorem dX1_pass_1 : decode cX1_pass 1 = .ok (.getfield 172, 3) := dk_180 0 172 (dk_at dksX1_pass_0 1 rfl rfl)
theorem dX1_pass_4 : decode cX1_pass 4 = .ok (.bipush 99, 2) := dk_16 99 (dk_at dksX1_pass_0 4 rfl rfl)
theorem dX1_pass_6 : decode cX1_pass 6 = .ok (.if_icmp .ge 7, 3) := dk_162 0 7 (dk_at dksX1_pass_0 6 rfl rfl)
theorem dX1_pass_9 : decode cX1_pass 9 = .ok (.iconst 1, 1) := dk_4 (dk_at dksX1_pass_0 9 rfl rfl)
theorem dX1_pass_10 : decode cX1_pass 10 = .ok (.goto 4, 3) := dk_167 0 4 (dk_at dksX1_pass_0 10 rfl rfl)
theorem dX1_pass_13 : decode cX1_pass 13 = .ok (.iconst 0, 1) := dk_3 (dk_at dksX1_pass_0 13 rfl rfl)
theorem dX1_pass_14 : decode cX1_pass 14 = .ok (.invokestatic 57, 3) := dk_184 0 57 (dk_at dksX1_pass_0 14 rfl rfl)
theorem dX1_pass_17 : decode cX1_pass 17 = .ok (.aload_n 0, 1) := dk_42 (dk_at dksX1_pass_0 17 rfl rfl)
theorem dX1_pass_18 : decode cX1_pass 18 = .ok (.getfield 34, 3) := dk_180 0 34 (dk_at dksX1_pass_0 18 rfl rfl)
theorem dX1_pass_21 : decode cX1_pass 21 = .ok (.invokevirtual 182, 3) := dk_182 0 182 (dk_at dksX1_pass_0 21 rfl rfl)
theorem dX1_pass_24 : decode cX1_pass 24 = .ok (.astore_n 1, 1) := dk_76 (dk_at dksX1_pass_1 0 rfl rfl)
theorem dX1_pass_25 : decode cX1_pass 25 = .ok (.aload_n 1, 1) := dk_43 (dk_at dksX1_pass_1 1 rfl rfl)
theorem dX1_pass_26 : decode cX1_pass 26 = .ok (.invokeinterface 186 1, 5) := by decide +kernel
theorem dX1_pass_31 : decode cX1_pass 31 = .ok (.ifCond .eq 33, 3) := dk_153 0 33 (dk_at dksX1_pass_1 7 rfl rfl)
theorem dX1_pass_34 : decode cX1_pass 34 = .ok (.aload_n 1, 1) := dk_43 (dk_at dksX1_pass_1 10 rfl rfl)
theorem dX1_pass_35 : decode cX1_pass 35 = .ok (.invokeinterface 191 1, 5) := by decide +kernel
theorem dX1_pass_40 : decode cX1_pass 40 = .ok (.checkcast 69, 3) := dk_192 0 69 (dk_at dksX1_pass_1 16 rfl rfl)
theorem dX1_pass_43 : decode cX1_pass 43 = .ok (.astore_n 2, 1) := dk_77 (dk_at dksX1_pass_1 19 rfl rfl)
theorem dX1_pass_44 : decode cX1_pass 44 = .ok (.aload_n 2, 1) := dk_44 (dk_at dksX1_pass_1 20 rfl rfl)
theorem dX1_pass_45 : decode cX1_pass 45 = .ok (.getfield 98, 3) := dk_180 0 98 (dk_at dksX1_pass_1 21 rfl rfl)
theorem dX1_pass_48 : decode cX1_pass 48 = .ok (.ifCond .ne 8, 3) := dk_154 0 8 (dk_at dksX1_pass_2 0 rfl rfl)
theorem dX1_pass_51 : decode cX1_pass 51 = .ok (.aload_n 0, 1) := dk_42 (dk_at dksX1_pass_2 3 rfl rfl)
theorem dX1_pass_52 : decode cX1_pass 52 = .ok (.aload_n 2, 1) := dk_44 (dk_at dksX1_pass_2 4 rfl rfl)
theorem dX1_pass_53 : decode cX1_pass 53 = .ok (.invokevirtual 195, 3) := dk_182 0 195 (dk_at dksX1_pass_2 5 rfl rfl)
theorem dX1_pass_56 : decode cX1_pass 56 = .ok (.aload_n 2, 1) := dk_44 (dk_at dksX1_pass_2 8 rfl rfl)
theorem dX1_pass_57 : decode cX1_pass 57 = .ok (.iconst 0, 1) := dk_3 (dk_at dksX1_pass_2 9 rfl rfl)
theorem dX1_pass_58 : decode cX1_pass 58 = .ok (.putfield 199, 3) := dk_181 0 199 (dk_at dksX1_pass_2 10 rfl rfl)
theorem dX1_pass_61 : decode cX1_pass 61 = .ok (.goto (-36), 3) := dk_167 255 220 (dk_at dksX1_pass_2 13 rfl rfl)
theorem dX1_pass_64 : decode cX1_pass 64 = .ok (.aload_n 0, 1) := dk_42 (dk_at dksX1_pass_2 16 rfl rfl)
theorem dX1_pass_65 : decode cX1_pass 65 = .ok (.dup, 1) := dk_89 (dk_at dksX1_pass_2 17 rfl rfl)
theorem dX1_pass_66 : decode cX1_pass 66 = .ok (.getfield 172, 3) := dk_180 0 172 (dk_at dksX1_pass_2 18 rfl rfl)
theorem dX1_pass_69 : decode cX1_pass 69 = .ok (.iconst 1, 1) := dk_4 (dk_at dksX1_pass_2 21 rfl rfl)
theorem dX1_pass_70 : decode cX1_pass 70 = .ok (.iadd, 1) := dk_96 (dk_at dksX1_pass_2 22 rfl rfl)
theorem dX1_pass_71 : decode cX1_pass 71 = .ok (.putfield 172, 3) := dk_181 0 172 (dk_at dksX1_pass_3 0 rfl rfl)
theorem dX1_pass_74 : decode cX1_pass 74 = .ok (.aload_n 0, 1) := dk_42 (dk_at dksX1_pass_3 3 rfl rfl)
theorem dX1_pass_75 : decode cX1_pass 75 = .ok (.sipush 600, 3) := dk_17 2 88 (dk_at dksX1_pass_3 4 rfl rfl)
theorem dX1_pass_78 : decode cX1_pass 78 = .ok (.putfield 37, 3) := dk_181 0 37 (dk_at dksX1_pass_3 7 rfl rfl)
theorem dX1_pass_81 : decode cX1_pass 81 = .ok (.aload_n 0, 1) := dk_42 (dk_at dksX1_pass_3 10 rfl rfl)
theorem dX1_pass_82 : decode cX1_pass 82 = .ok (.getfield 172, 3) := dk_180 0 172 (dk_at dksX1_pass_3 11 rfl rfl)
theorem dX1_pass_85 : decode cX1_pass 85 = .ok (.ireturn, 1) := dk_172 (dk_at dksX1_pass_3 14 rfl rfl)
abbrev cX1_guests : ByteArray := prog_1_method_30_code
def yX1_guests : MethodName := ⟨RX1, "guests", "(LSelectoRoute$Box;)V"⟩
def dkwX1_guests_4 : List UInt8 := [167, 255, 167, 177]
abbrev dktX1_guests_4 : List UInt8 := dkwX1_guests_4 ++ []
def dkwX1_guests_3 : List UInt8 := [180, 0, 110, 8, 21, 4, 104, 96, 181, 0, 110, 43, 28, 45, 21, 4, 182, 0, 152, 132, 2, 1]
abbrev dktX1_guests_3 : List UInt8 := dkwX1_guests_3 ++ dktX1_guests_4
def dkwX1_guests_2 : List UInt8 := [154, 0, 41, 45, 42, 180, 0, 172, 43, 180, 0, 175, 182, 0, 178, 16, 8, 108, 54, 4, 43, 89]
abbrev dktX1_guests_2 : List UInt8 := dkwX1_guests_2 ++ dktX1_guests_3
def dkwX1_guests_1 : List UInt8 := [180, 0, 28, 43, 180, 0, 117, 28, 46, 182, 0, 80, 192, 0, 60, 78, 45, 198, 0, 48, 45, 182, 0, 149]
abbrev dktX1_guests_1 : List UInt8 := dkwX1_guests_1 ++ dktX1_guests_2
def dkwX1_guests_0 : List UInt8 := [3, 61, 28, 16, 10, 162, 0, 89, 43, 180, 0, 117, 28, 46, 2, 160, 0, 7, 1, 167, 0, 19, 42]
abbrev dktX1_guests_0 : List UInt8 := dkwX1_guests_0 ++ dktX1_guests_1
theorem dksX1_guests_0 : cX1_guests.data.toList.drop 0 = dktX1_guests_0 := by decide +kernel
theorem dksX1_guests_1 : cX1_guests.data.toList.drop 23 = dktX1_guests_1 := dk_seg dksX1_guests_0 23 rfl rfl
theorem dksX1_guests_2 : cX1_guests.data.toList.drop 47 = dktX1_guests_2 := dk_seg dksX1_guests_1 24 rfl rfl
theorem dksX1_guests_3 : cX1_guests.data.toList.drop 69 = dktX1_guests_3 := dk_seg dksX1_guests_2 22 rfl rfl
theorem dksX1_guests_4 : cX1_guests.data.toList.drop 91 = dktX1_guests_4 := dk_seg dksX1_guests_3 22 rfl rfl
theorem dX1_guests_0 : decode cX1_guests 0 = .ok (.iconst 0, 1) := dk_3 (dk_at dksX1_guests_0 0 rfl rfl)
theorem dX1_guests_1 : decode cX1_guests 1 = .ok (.istore_n 2, 1) := dk_61 (dk_at dksX1_guests_0 1 rfl rfl)
theorem dX1_guests_2 : decode cX1_guests 2 = .ok (.iload_n 2, 1) := dk_28 (dk_at dksX1_guests_0 2 rfl rfl)
theorem dX1_guests_3 : decode cX1_guests 3 = .ok (.bipush 10, 2) := dk_16 10 (dk_at dksX1_guests_0 3 rfl rfl)
theorem dX1_guests_5 : decode cX1_guests 5 = .ok (.if_icmp .ge 89, 3) := dk_162 0 89 (dk_at dksX1_guests_0 5 rfl rfl)
theorem dX1_guests_8 : decode cX1_guests 8 = .ok (.aload_n 1, 1) := dk_43 (dk_at dksX1_guests_0 8 rfl rfl)
theorem dX1_guests_9 : decode cX1_guests 9 = .ok (.getfield 117, 3) := dk_180 0 117 (dk_at dksX1_guests_0 9 rfl rfl)
theorem dX1_guests_12 : decode cX1_guests 12 = .ok (.iload_n 2, 1) := dk_28 (dk_at dksX1_guests_0 12 rfl rfl)
theorem dX1_guests_13 : decode cX1_guests 13 = .ok (.iaload, 1) := dk_46 (dk_at dksX1_guests_0 13 rfl rfl)
theorem dX1_guests_14 : decode cX1_guests 14 = .ok (.iconst (-1), 1) := dk_2 (dk_at dksX1_guests_0 14 rfl rfl)
theorem dX1_guests_15 : decode cX1_guests 15 = .ok (.if_icmp .ne 7, 3) := dk_160 0 7 (dk_at dksX1_guests_0 15 rfl rfl)
theorem dX1_guests_18 : decode cX1_guests 18 = .ok (.aconst_null, 1) := dk_1 (dk_at dksX1_guests_0 18 rfl rfl)
theorem dX1_guests_19 : decode cX1_guests 19 = .ok (.goto 19, 3) := dk_167 0 19 (dk_at dksX1_guests_0 19 rfl rfl)
theorem dX1_guests_22 : decode cX1_guests 22 = .ok (.aload_n 0, 1) := dk_42 (dk_at dksX1_guests_0 22 rfl rfl)
theorem dX1_guests_23 : decode cX1_guests 23 = .ok (.getfield 28, 3) := dk_180 0 28 (dk_at dksX1_guests_1 0 rfl rfl)
theorem dX1_guests_26 : decode cX1_guests 26 = .ok (.aload_n 1, 1) := dk_43 (dk_at dksX1_guests_1 3 rfl rfl)
theorem dX1_guests_27 : decode cX1_guests 27 = .ok (.getfield 117, 3) := dk_180 0 117 (dk_at dksX1_guests_1 4 rfl rfl)
theorem dX1_guests_30 : decode cX1_guests 30 = .ok (.iload_n 2, 1) := dk_28 (dk_at dksX1_guests_1 7 rfl rfl)
theorem dX1_guests_31 : decode cX1_guests 31 = .ok (.iaload, 1) := dk_46 (dk_at dksX1_guests_1 8 rfl rfl)
theorem dX1_guests_32 : decode cX1_guests 32 = .ok (.invokevirtual 80, 3) := dk_182 0 80 (dk_at dksX1_guests_1 9 rfl rfl)
theorem dX1_guests_35 : decode cX1_guests 35 = .ok (.checkcast 60, 3) := dk_192 0 60 (dk_at dksX1_guests_1 12 rfl rfl)
theorem dX1_guests_38 : decode cX1_guests 38 = .ok (.astore_n 3, 1) := dk_78 (dk_at dksX1_guests_1 15 rfl rfl)
theorem dX1_guests_39 : decode cX1_guests 39 = .ok (.aload_n 3, 1) := dk_45 (dk_at dksX1_guests_1 16 rfl rfl)
theorem dX1_guests_40 : decode cX1_guests 40 = .ok (.ifnull 48, 3) := dk_198 0 48 (dk_at dksX1_guests_1 17 rfl rfl)
theorem dX1_guests_43 : decode cX1_guests 43 = .ok (.aload_n 3, 1) := dk_45 (dk_at dksX1_guests_1 20 rfl rfl)
theorem dX1_guests_44 : decode cX1_guests 44 = .ok (.invokevirtual 149, 3) := dk_182 0 149 (dk_at dksX1_guests_1 21 rfl rfl)
theorem dX1_guests_47 : decode cX1_guests 47 = .ok (.ifCond .ne 41, 3) := dk_154 0 41 (dk_at dksX1_guests_2 0 rfl rfl)
theorem dX1_guests_50 : decode cX1_guests 50 = .ok (.aload_n 3, 1) := dk_45 (dk_at dksX1_guests_2 3 rfl rfl)
theorem dX1_guests_51 : decode cX1_guests 51 = .ok (.aload_n 0, 1) := dk_42 (dk_at dksX1_guests_2 4 rfl rfl)
theorem dX1_guests_52 : decode cX1_guests 52 = .ok (.getfield 172, 3) := dk_180 0 172 (dk_at dksX1_guests_2 5 rfl rfl)
theorem dX1_guests_55 : decode cX1_guests 55 = .ok (.aload_n 1, 1) := dk_43 (dk_at dksX1_guests_2 8 rfl rfl)
theorem dX1_guests_56 : decode cX1_guests 56 = .ok (.getfield 175, 3) := dk_180 0 175 (dk_at dksX1_guests_2 9 rfl rfl)
theorem dX1_guests_59 : decode cX1_guests 59 = .ok (.invokevirtual 178, 3) := dk_182 0 178 (dk_at dksX1_guests_2 12 rfl rfl)
theorem dX1_guests_62 : decode cX1_guests 62 = .ok (.bipush 8, 2) := dk_16 8 (dk_at dksX1_guests_2 15 rfl rfl)
theorem dX1_guests_64 : decode cX1_guests 64 = .ok (.idiv, 1) := dk_108 (dk_at dksX1_guests_2 17 rfl rfl)
theorem dX1_guests_65 : decode cX1_guests 65 = .ok (.istore 4, 2) := dk_54 4 (dk_at dksX1_guests_2 18 rfl rfl)
theorem dX1_guests_67 : decode cX1_guests 67 = .ok (.aload_n 1, 1) := dk_43 (dk_at dksX1_guests_2 20 rfl rfl)
theorem dX1_guests_68 : decode cX1_guests 68 = .ok (.dup, 1) := dk_89 (dk_at dksX1_guests_2 21 rfl rfl)
theorem dX1_guests_69 : decode cX1_guests 69 = .ok (.getfield 110, 3) := dk_180 0 110 (dk_at dksX1_guests_3 0 rfl rfl)
theorem dX1_guests_72 : decode cX1_guests 72 = .ok (.iconst 5, 1) := dk_8 (dk_at dksX1_guests_3 3 rfl rfl)
theorem dX1_guests_73 : decode cX1_guests 73 = .ok (.iload 4, 2) := dk_21 4 (dk_at dksX1_guests_3 4 rfl rfl)
theorem dX1_guests_75 : decode cX1_guests 75 = .ok (.imul, 1) := dk_104 (dk_at dksX1_guests_3 6 rfl rfl)
theorem dX1_guests_76 : decode cX1_guests 76 = .ok (.iadd, 1) := dk_96 (dk_at dksX1_guests_3 7 rfl rfl)
theorem dX1_guests_77 : decode cX1_guests 77 = .ok (.putfield 110, 3) := dk_181 0 110 (dk_at dksX1_guests_3 8 rfl rfl)
theorem dX1_guests_80 : decode cX1_guests 80 = .ok (.aload_n 1, 1) := dk_43 (dk_at dksX1_guests_3 11 rfl rfl)
theorem dX1_guests_81 : decode cX1_guests 81 = .ok (.iload_n 2, 1) := dk_28 (dk_at dksX1_guests_3 12 rfl rfl)
theorem dX1_guests_82 : decode cX1_guests 82 = .ok (.aload_n 3, 1) := dk_45 (dk_at dksX1_guests_3 13 rfl rfl)
theorem dX1_guests_83 : decode cX1_guests 83 = .ok (.iload 4, 2) := dk_21 4 (dk_at dksX1_guests_3 14 rfl rfl)
theorem dX1_guests_85 : decode cX1_guests 85 = .ok (.invokevirtual 152, 3) := dk_182 0 152 (dk_at dksX1_guests_3 16 rfl rfl)
theorem dX1_guests_88 : decode cX1_guests 88 = .ok (.iinc 2 1, 3) := dk_132 2 1 (dk_at dksX1_guests_3 19 rfl rfl)
theorem dX1_guests_91 : decode cX1_guests 91 = .ok (.goto (-89), 3) := dk_167 255 167 (dk_at dksX1_guests_4 0 rfl rfl)
theorem dX1_guests_94 : decode cX1_guests 94 = .ok (.return_, 1) := dk_177 (dk_at dksX1_guests_4 3 rfl rfl)
abbrev cX1_visit : ByteArray := prog_1_method_35_code
def yX1_visit : MethodName := ⟨RX1, "visit", "(I)I"⟩
def dkwX1_visit_5 : List UInt8 := [3, 181, 0, 98, 44, 4, 181, 0, 199, 29, 172]
abbrev dktX1_visit_5 : List UInt8 := dkwX1_visit_5 ++ []
def dkwX1_visit_4 : List UInt8 := [42, 89, 180, 0, 229, 29, 21, 4, 100, 96, 181, 0, 229, 42, 89, 180, 0, 232, 29, 96, 181, 0, 232, 44]
abbrev dktX1_visit_4 : List UInt8 := dkwX1_visit_4 ++ dktX1_visit_5
def dkwX1_visit_3 : List UInt8 := [181, 0, 223, 44, 3, 181, 0, 221, 44, 3, 181, 0, 110, 44, 89, 180, 0, 226, 21, 4, 96, 181, 0, 226]
abbrev dktX1_visit_3 : List UInt8 := dkwX1_visit_3 ++ dktX1_visit_4
def dkwX1_visit_2 : List UInt8 := [180, 0, 110, 62, 29, 44, 180, 0, 218, 104, 16, 100, 108, 54, 4, 44, 8, 44, 180, 0, 221, 104, 29, 100]
abbrev dktX1_visit_2 : List UInt8 := dkwX1_visit_2 ++ dktX1_visit_3
def dkwX1_visit_1 : List UInt8 := [167, 0, 4, 3, 84, 182, 0, 211, 167, 0, 14, 78, 187, 0, 16, 89, 1, 45, 183, 0, 215, 191, 44]
abbrev dktX1_visit_1 : List UInt8 := dkwX1_visit_1 ++ dktX1_visit_2
def dkwX1_visit_0 : List UInt8 := [42, 27, 182, 0, 84, 77, 42, 16, 40, 4, 188, 4, 89, 3, 44, 180, 0, 199, 154, 0, 7, 4]
abbrev dktX1_visit_0 : List UInt8 := dkwX1_visit_0 ++ dktX1_visit_1
theorem dksX1_visit_0 : cX1_visit.data.toList.drop 0 = dktX1_visit_0 := by decide +kernel
theorem dksX1_visit_1 : cX1_visit.data.toList.drop 22 = dktX1_visit_1 := dk_seg dksX1_visit_0 22 rfl rfl
theorem dksX1_visit_2 : cX1_visit.data.toList.drop 45 = dktX1_visit_2 := dk_seg dksX1_visit_1 23 rfl rfl
theorem dksX1_visit_3 : cX1_visit.data.toList.drop 69 = dktX1_visit_3 := dk_seg dksX1_visit_2 24 rfl rfl
theorem dksX1_visit_4 : cX1_visit.data.toList.drop 93 = dktX1_visit_4 := dk_seg dksX1_visit_3 24 rfl rfl
theorem dksX1_visit_5 : cX1_visit.data.toList.drop 117 = dktX1_visit_5 := dk_seg dksX1_visit_4 24 rfl rfl
theorem dX1_visit_0 : decode cX1_visit 0 = .ok (.aload_n 0, 1) := dk_42 (dk_at dksX1_visit_0 0 rfl rfl)
theorem dX1_visit_1 : decode cX1_visit 1 = .ok (.iload_n 1, 1) := dk_27 (dk_at dksX1_visit_0 1 rfl rfl)
theorem dX1_visit_2 : decode cX1_visit 2 = .ok (.invokevirtual 84, 3) := dk_182 0 84 (dk_at dksX1_visit_0 2 rfl rfl)
theorem dX1_visit_5 : decode cX1_visit 5 = .ok (.astore_n 2, 1) := dk_77 (dk_at dksX1_visit_0 5 rfl rfl)
theorem dX1_visit_6 : decode cX1_visit 6 = .ok (.aload_n 0, 1) := dk_42 (dk_at dksX1_visit_0 6 rfl rfl)
theorem dX1_visit_7 : decode cX1_visit 7 = .ok (.bipush 40, 2) := dk_16 40 (dk_at dksX1_visit_0 7 rfl rfl)
theorem dX1_visit_9 : decode cX1_visit 9 = .ok (.iconst 1, 1) := dk_4 (dk_at dksX1_visit_0 9 rfl rfl)
theorem dX1_visit_10 : decode cX1_visit 10 = .ok (.newarray .boolean, 2) := dk_188_4 (dk_at dksX1_visit_0 10 rfl rfl)
theorem dX1_visit_12 : decode cX1_visit 12 = .ok (.dup, 1) := dk_89 (dk_at dksX1_visit_0 12 rfl rfl)
theorem dX1_visit_13 : decode cX1_visit 13 = .ok (.iconst 0, 1) := dk_3 (dk_at dksX1_visit_0 13 rfl rfl)
theorem dX1_visit_14 : decode cX1_visit 14 = .ok (.aload_n 2, 1) := dk_44 (dk_at dksX1_visit_0 14 rfl rfl)
theorem dX1_visit_15 : decode cX1_visit 15 = .ok (.getfield 199, 3) := dk_180 0 199 (dk_at dksX1_visit_0 15 rfl rfl)
theorem dX1_visit_18 : decode cX1_visit 18 = .ok (.ifCond .ne 7, 3) := dk_154 0 7 (dk_at dksX1_visit_0 18 rfl rfl)
theorem dX1_visit_21 : decode cX1_visit 21 = .ok (.iconst 1, 1) := dk_4 (dk_at dksX1_visit_0 21 rfl rfl)
theorem dX1_visit_22 : decode cX1_visit 22 = .ok (.goto 4, 3) := dk_167 0 4 (dk_at dksX1_visit_1 0 rfl rfl)
theorem dX1_visit_25 : decode cX1_visit 25 = .ok (.iconst 0, 1) := dk_3 (dk_at dksX1_visit_1 3 rfl rfl)
theorem dX1_visit_26 : decode cX1_visit 26 = .ok (.bastore, 1) := dk_84 (dk_at dksX1_visit_1 4 rfl rfl)
theorem dX1_visit_27 : decode cX1_visit 27 = .ok (.invokevirtual 211, 3) := dk_182 0 211 (dk_at dksX1_visit_1 5 rfl rfl)
theorem dX1_visit_30 : decode cX1_visit 30 = .ok (.goto 14, 3) := dk_167 0 14 (dk_at dksX1_visit_1 8 rfl rfl)
theorem dX1_visit_33 : decode cX1_visit 33 = .ok (.astore_n 3, 1) := dk_78 (dk_at dksX1_visit_1 11 rfl rfl)
theorem dX1_visit_34 : decode cX1_visit 34 = .ok (.new 16, 3) := dk_187 0 16 (dk_at dksX1_visit_1 12 rfl rfl)
theorem dX1_visit_37 : decode cX1_visit 37 = .ok (.dup, 1) := dk_89 (dk_at dksX1_visit_1 15 rfl rfl)
theorem dX1_visit_38 : decode cX1_visit 38 = .ok (.aconst_null, 1) := dk_1 (dk_at dksX1_visit_1 16 rfl rfl)
theorem dX1_visit_39 : decode cX1_visit 39 = .ok (.aload_n 3, 1) := dk_45 (dk_at dksX1_visit_1 17 rfl rfl)
theorem dX1_visit_40 : decode cX1_visit 40 = .ok (.invokespecial 215, 3) := dk_183 0 215 (dk_at dksX1_visit_1 18 rfl rfl)
theorem dX1_visit_43 : decode cX1_visit 43 = .ok (.athrow, 1) := dk_191 (dk_at dksX1_visit_1 21 rfl rfl)
theorem dX1_visit_44 : decode cX1_visit 44 = .ok (.aload_n 2, 1) := dk_44 (dk_at dksX1_visit_1 22 rfl rfl)
theorem dX1_visit_45 : decode cX1_visit 45 = .ok (.getfield 110, 3) := dk_180 0 110 (dk_at dksX1_visit_2 0 rfl rfl)
theorem dX1_visit_48 : decode cX1_visit 48 = .ok (.istore_n 3, 1) := dk_62 (dk_at dksX1_visit_2 3 rfl rfl)
theorem dX1_visit_49 : decode cX1_visit 49 = .ok (.iload_n 3, 1) := dk_29 (dk_at dksX1_visit_2 4 rfl rfl)
theorem dX1_visit_50 : decode cX1_visit 50 = .ok (.aload_n 2, 1) := dk_44 (dk_at dksX1_visit_2 5 rfl rfl)
theorem dX1_visit_51 : decode cX1_visit 51 = .ok (.getfield 218, 3) := dk_180 0 218 (dk_at dksX1_visit_2 6 rfl rfl)
theorem dX1_visit_54 : decode cX1_visit 54 = .ok (.imul, 1) := dk_104 (dk_at dksX1_visit_2 9 rfl rfl)
theorem dX1_visit_55 : decode cX1_visit 55 = .ok (.bipush 100, 2) := dk_16 100 (dk_at dksX1_visit_2 10 rfl rfl)
theorem dX1_visit_57 : decode cX1_visit 57 = .ok (.idiv, 1) := dk_108 (dk_at dksX1_visit_2 12 rfl rfl)
theorem dX1_visit_58 : decode cX1_visit 58 = .ok (.istore 4, 2) := dk_54 4 (dk_at dksX1_visit_2 13 rfl rfl)
theorem dX1_visit_60 : decode cX1_visit 60 = .ok (.aload_n 2, 1) := dk_44 (dk_at dksX1_visit_2 15 rfl rfl)
theorem dX1_visit_61 : decode cX1_visit 61 = .ok (.iconst 5, 1) := dk_8 (dk_at dksX1_visit_2 16 rfl rfl)
theorem dX1_visit_62 : decode cX1_visit 62 = .ok (.aload_n 2, 1) := dk_44 (dk_at dksX1_visit_2 17 rfl rfl)
theorem dX1_visit_63 : decode cX1_visit 63 = .ok (.getfield 221, 3) := dk_180 0 221 (dk_at dksX1_visit_2 18 rfl rfl)
theorem dX1_visit_66 : decode cX1_visit 66 = .ok (.imul, 1) := dk_104 (dk_at dksX1_visit_2 21 rfl rfl)
theorem dX1_visit_67 : decode cX1_visit 67 = .ok (.iload_n 3, 1) := dk_29 (dk_at dksX1_visit_2 22 rfl rfl)
theorem dX1_visit_68 : decode cX1_visit 68 = .ok (.isub, 1) := dk_100 (dk_at dksX1_visit_2 23 rfl rfl)
theorem dX1_visit_69 : decode cX1_visit 69 = .ok (.putfield 223, 3) := dk_181 0 223 (dk_at dksX1_visit_3 0 rfl rfl)
theorem dX1_visit_72 : decode cX1_visit 72 = .ok (.aload_n 2, 1) := dk_44 (dk_at dksX1_visit_3 3 rfl rfl)
theorem dX1_visit_73 : decode cX1_visit 73 = .ok (.iconst 0, 1) := dk_3 (dk_at dksX1_visit_3 4 rfl rfl)
theorem dX1_visit_74 : decode cX1_visit 74 = .ok (.putfield 221, 3) := dk_181 0 221 (dk_at dksX1_visit_3 5 rfl rfl)
theorem dX1_visit_77 : decode cX1_visit 77 = .ok (.aload_n 2, 1) := dk_44 (dk_at dksX1_visit_3 8 rfl rfl)
theorem dX1_visit_78 : decode cX1_visit 78 = .ok (.iconst 0, 1) := dk_3 (dk_at dksX1_visit_3 9 rfl rfl)
theorem dX1_visit_79 : decode cX1_visit 79 = .ok (.putfield 110, 3) := dk_181 0 110 (dk_at dksX1_visit_3 10 rfl rfl)
theorem dX1_visit_82 : decode cX1_visit 82 = .ok (.aload_n 2, 1) := dk_44 (dk_at dksX1_visit_3 13 rfl rfl)
theorem dX1_visit_83 : decode cX1_visit 83 = .ok (.dup, 1) := dk_89 (dk_at dksX1_visit_3 14 rfl rfl)
theorem dX1_visit_84 : decode cX1_visit 84 = .ok (.getfield 226, 3) := dk_180 0 226 (dk_at dksX1_visit_3 15 rfl rfl)
theorem dX1_visit_87 : decode cX1_visit 87 = .ok (.iload 4, 2) := dk_21 4 (dk_at dksX1_visit_3 18 rfl rfl)
theorem dX1_visit_89 : decode cX1_visit 89 = .ok (.iadd, 1) := dk_96 (dk_at dksX1_visit_3 20 rfl rfl)
theorem dX1_visit_90 : decode cX1_visit 90 = .ok (.putfield 226, 3) := dk_181 0 226 (dk_at dksX1_visit_3 21 rfl rfl)
theorem dX1_visit_93 : decode cX1_visit 93 = .ok (.aload_n 0, 1) := dk_42 (dk_at dksX1_visit_4 0 rfl rfl)
theorem dX1_visit_94 : decode cX1_visit 94 = .ok (.dup, 1) := dk_89 (dk_at dksX1_visit_4 1 rfl rfl)
theorem dX1_visit_95 : decode cX1_visit 95 = .ok (.getfield 229, 3) := dk_180 0 229 (dk_at dksX1_visit_4 2 rfl rfl)
theorem dX1_visit_98 : decode cX1_visit 98 = .ok (.iload_n 3, 1) := dk_29 (dk_at dksX1_visit_4 5 rfl rfl)
theorem dX1_visit_99 : decode cX1_visit 99 = .ok (.iload 4, 2) := dk_21 4 (dk_at dksX1_visit_4 6 rfl rfl)
theorem dX1_visit_101 : decode cX1_visit 101 = .ok (.isub, 1) := dk_100 (dk_at dksX1_visit_4 8 rfl rfl)
theorem dX1_visit_102 : decode cX1_visit 102 = .ok (.iadd, 1) := dk_96 (dk_at dksX1_visit_4 9 rfl rfl)
theorem dX1_visit_103 : decode cX1_visit 103 = .ok (.putfield 229, 3) := dk_181 0 229 (dk_at dksX1_visit_4 10 rfl rfl)
theorem dX1_visit_106 : decode cX1_visit 106 = .ok (.aload_n 0, 1) := dk_42 (dk_at dksX1_visit_4 13 rfl rfl)
theorem dX1_visit_107 : decode cX1_visit 107 = .ok (.dup, 1) := dk_89 (dk_at dksX1_visit_4 14 rfl rfl)
theorem dX1_visit_108 : decode cX1_visit 108 = .ok (.getfield 232, 3) := dk_180 0 232 (dk_at dksX1_visit_4 15 rfl rfl)
theorem dX1_visit_111 : decode cX1_visit 111 = .ok (.iload_n 3, 1) := dk_29 (dk_at dksX1_visit_4 18 rfl rfl)
theorem dX1_visit_112 : decode cX1_visit 112 = .ok (.iadd, 1) := dk_96 (dk_at dksX1_visit_4 19 rfl rfl)
theorem dX1_visit_113 : decode cX1_visit 113 = .ok (.putfield 232, 3) := dk_181 0 232 (dk_at dksX1_visit_4 20 rfl rfl)
theorem dX1_visit_116 : decode cX1_visit 116 = .ok (.aload_n 2, 1) := dk_44 (dk_at dksX1_visit_4 23 rfl rfl)
theorem dX1_visit_117 : decode cX1_visit 117 = .ok (.iconst 0, 1) := dk_3 (dk_at dksX1_visit_5 0 rfl rfl)
theorem dX1_visit_118 : decode cX1_visit 118 = .ok (.putfield 98, 3) := dk_181 0 98 (dk_at dksX1_visit_5 1 rfl rfl)
theorem dX1_visit_121 : decode cX1_visit 121 = .ok (.aload_n 2, 1) := dk_44 (dk_at dksX1_visit_5 4 rfl rfl)
theorem dX1_visit_122 : decode cX1_visit 122 = .ok (.iconst 1, 1) := dk_4 (dk_at dksX1_visit_5 5 rfl rfl)
theorem dX1_visit_123 : decode cX1_visit 123 = .ok (.putfield 199, 3) := dk_181 0 199 (dk_at dksX1_visit_5 6 rfl rfl)
theorem dX1_visit_126 : decode cX1_visit 126 = .ok (.iload_n 3, 1) := dk_29 (dk_at dksX1_visit_5 9 rfl rfl)
theorem dX1_visit_127 : decode cX1_visit 127 = .ok (.ireturn, 1) := dk_172 (dk_at dksX1_visit_5 10 rfl rfl)
abbrev cX1_works : ByteArray := prog_1_method_34_code
def yX1_works : MethodName := ⟨RX1, "works", "(I[Z)V"⟩
def dkwX1_works_2 : List UInt8 := [164, 0, 13, 187, 0, 202, 89, 18, 209, 183, 0, 206, 191, 42, 89, 180, 0, 37, 27, 100, 181, 0, 37, 177]
abbrev dktX1_works_2 : List UInt8 := dkwX1_works_2 ++ []
def dkwX1_works_1 : List UInt8 := [154, 0, 13, 187, 0, 202, 89, 18, 204, 183, 0, 206, 191, 132, 5, 1, 167, 255, 225, 27, 42, 180, 0, 37]
abbrev dktX1_works_1 : List UInt8 := dkwX1_works_1 ++ dktX1_works_2
def dkwX1_works_0 : List UInt8 := [44, 78, 45, 190, 54, 4, 3, 54, 5, 21, 5, 21, 4, 162, 0, 30, 45, 21, 5, 51, 54, 6, 21, 6]
abbrev dktX1_works_0 : List UInt8 := dkwX1_works_0 ++ dktX1_works_1
theorem dksX1_works_0 : cX1_works.data.toList.drop 0 = dktX1_works_0 := by decide +kernel
theorem dksX1_works_1 : cX1_works.data.toList.drop 24 = dktX1_works_1 := dk_seg dksX1_works_0 24 rfl rfl
theorem dksX1_works_2 : cX1_works.data.toList.drop 48 = dktX1_works_2 := dk_seg dksX1_works_1 24 rfl rfl
theorem dX1_works_0 : decode cX1_works 0 = .ok (.aload_n 2, 1) := dk_44 (dk_at dksX1_works_0 0 rfl rfl)
theorem dX1_works_1 : decode cX1_works 1 = .ok (.astore_n 3, 1) := dk_78 (dk_at dksX1_works_0 1 rfl rfl)
theorem dX1_works_2 : decode cX1_works 2 = .ok (.aload_n 3, 1) := dk_45 (dk_at dksX1_works_0 2 rfl rfl)
theorem dX1_works_3 : decode cX1_works 3 = .ok (.arraylength, 1) := dk_190 (dk_at dksX1_works_0 3 rfl rfl)
theorem dX1_works_4 : decode cX1_works 4 = .ok (.istore 4, 2) := dk_54 4 (dk_at dksX1_works_0 4 rfl rfl)
theorem dX1_works_6 : decode cX1_works 6 = .ok (.iconst 0, 1) := dk_3 (dk_at dksX1_works_0 6 rfl rfl)
theorem dX1_works_7 : decode cX1_works 7 = .ok (.istore 5, 2) := dk_54 5 (dk_at dksX1_works_0 7 rfl rfl)
theorem dX1_works_9 : decode cX1_works 9 = .ok (.iload 5, 2) := dk_21 5 (dk_at dksX1_works_0 9 rfl rfl)
theorem dX1_works_11 : decode cX1_works 11 = .ok (.iload 4, 2) := dk_21 4 (dk_at dksX1_works_0 11 rfl rfl)
theorem dX1_works_13 : decode cX1_works 13 = .ok (.if_icmp .ge 30, 3) := dk_162 0 30 (dk_at dksX1_works_0 13 rfl rfl)
theorem dX1_works_16 : decode cX1_works 16 = .ok (.aload_n 3, 1) := dk_45 (dk_at dksX1_works_0 16 rfl rfl)
theorem dX1_works_17 : decode cX1_works 17 = .ok (.iload 5, 2) := dk_21 5 (dk_at dksX1_works_0 17 rfl rfl)
theorem dX1_works_19 : decode cX1_works 19 = .ok (.baload, 1) := dk_51 (dk_at dksX1_works_0 19 rfl rfl)
theorem dX1_works_20 : decode cX1_works 20 = .ok (.istore 6, 2) := dk_54 6 (dk_at dksX1_works_0 20 rfl rfl)
theorem dX1_works_22 : decode cX1_works 22 = .ok (.iload 6, 2) := dk_21 6 (dk_at dksX1_works_0 22 rfl rfl)
theorem dX1_works_24 : decode cX1_works 24 = .ok (.ifCond .ne 13, 3) := dk_154 0 13 (dk_at dksX1_works_1 0 rfl rfl)
theorem dX1_works_27 : decode cX1_works 27 = .ok (.new 202, 3) := dk_187 0 202 (dk_at dksX1_works_1 3 rfl rfl)
theorem dX1_works_30 : decode cX1_works 30 = .ok (.dup, 1) := dk_89 (dk_at dksX1_works_1 6 rfl rfl)
theorem dX1_works_31 : decode cX1_works 31 = .ok (.ldc 204, 2) := dk_18 204 (dk_at dksX1_works_1 7 rfl rfl)
theorem dX1_works_33 : decode cX1_works 33 = .ok (.invokespecial 206, 3) := dk_183 0 206 (dk_at dksX1_works_1 9 rfl rfl)
theorem dX1_works_36 : decode cX1_works 36 = .ok (.athrow, 1) := dk_191 (dk_at dksX1_works_1 12 rfl rfl)
theorem dX1_works_37 : decode cX1_works 37 = .ok (.iinc 5 1, 3) := dk_132 5 1 (dk_at dksX1_works_1 13 rfl rfl)
theorem dX1_works_40 : decode cX1_works 40 = .ok (.goto (-31), 3) := dk_167 255 225 (dk_at dksX1_works_1 16 rfl rfl)
theorem dX1_works_43 : decode cX1_works 43 = .ok (.iload_n 1, 1) := dk_27 (dk_at dksX1_works_1 19 rfl rfl)
theorem dX1_works_44 : decode cX1_works 44 = .ok (.aload_n 0, 1) := dk_42 (dk_at dksX1_works_1 20 rfl rfl)
theorem dX1_works_45 : decode cX1_works 45 = .ok (.getfield 37, 3) := dk_180 0 37 (dk_at dksX1_works_1 21 rfl rfl)
theorem dX1_works_48 : decode cX1_works 48 = .ok (.if_icmp .le 13, 3) := dk_164 0 13 (dk_at dksX1_works_2 0 rfl rfl)
theorem dX1_works_51 : decode cX1_works 51 = .ok (.new 202, 3) := dk_187 0 202 (dk_at dksX1_works_2 3 rfl rfl)
theorem dX1_works_54 : decode cX1_works 54 = .ok (.dup, 1) := dk_89 (dk_at dksX1_works_2 6 rfl rfl)
theorem dX1_works_55 : decode cX1_works 55 = .ok (.ldc 209, 2) := dk_18 209 (dk_at dksX1_works_2 7 rfl rfl)
theorem dX1_works_57 : decode cX1_works 57 = .ok (.invokespecial 206, 3) := dk_183 0 206 (dk_at dksX1_works_2 9 rfl rfl)
theorem dX1_works_60 : decode cX1_works 60 = .ok (.athrow, 1) := dk_191 (dk_at dksX1_works_2 12 rfl rfl)
theorem dX1_works_61 : decode cX1_works 61 = .ok (.aload_n 0, 1) := dk_42 (dk_at dksX1_works_2 13 rfl rfl)
theorem dX1_works_62 : decode cX1_works 62 = .ok (.dup, 1) := dk_89 (dk_at dksX1_works_2 14 rfl rfl)
theorem dX1_works_63 : decode cX1_works 63 = .ok (.getfield 37, 3) := dk_180 0 37 (dk_at dksX1_works_2 15 rfl rfl)
theorem dX1_works_66 : decode cX1_works 66 = .ok (.iload_n 1, 1) := dk_27 (dk_at dksX1_works_2 18 rfl rfl)
theorem dX1_works_67 : decode cX1_works 67 = .ok (.isub, 1) := dk_100 (dk_at dksX1_works_2 19 rfl rfl)
theorem dX1_works_68 : decode cX1_works 68 = .ok (.putfield 37, 3) := dk_181 0 37 (dk_at dksX1_works_2 20 rfl rfl)
theorem dX1_works_71 : decode cX1_works 71 = .ok (.return_, 1) := dk_177 (dk_at dksX1_works_2 23 rfl rfl)
abbrev cX1_getShort : ByteArray := prog_1_method_36_code
def yX1_getShort : MethodName := ⟨RX1, "getShort", "(I)I"⟩
def dkwX1_getShort_0 : List UInt8 := [42, 27, 182, 0, 84, 180, 0, 223, 172]
abbrev dktX1_getShort_0 : List UInt8 := dkwX1_getShort_0 ++ []
theorem dksX1_getShort_0 : cX1_getShort.data.toList.drop 0 = dktX1_getShort_0 := by decide +kernel
theorem dX1_getShort_0 : decode cX1_getShort 0 = .ok (.aload_n 0, 1) := dk_42 (dk_at dksX1_getShort_0 0 rfl rfl)
theorem dX1_getShort_1 : decode cX1_getShort 1 = .ok (.iload_n 1, 1) := dk_27 (dk_at dksX1_getShort_0 1 rfl rfl)
theorem dX1_getShort_2 : decode cX1_getShort 2 = .ok (.invokevirtual 84, 3) := dk_182 0 84 (dk_at dksX1_getShort_0 2 rfl rfl)
theorem dX1_getShort_5 : decode cX1_getShort 5 = .ok (.getfield 223, 3) := dk_180 0 223 (dk_at dksX1_getShort_0 5 rfl rfl)
theorem dX1_getShort_8 : decode cX1_getShort 8 = .ok (.ireturn, 1) := dk_172 (dk_at dksX1_getShort_0 8 rfl rfl)
abbrev cX1_getShare : ByteArray := prog_1_method_37_code
def yX1_getShare : MethodName := ⟨RX1, "getShare", "(I)I"⟩
def dkwX1_getShare_0 : List UInt8 := [42, 27, 182, 0, 84, 180, 0, 226, 172]
abbrev dktX1_getShare_0 : List UInt8 := dkwX1_getShare_0 ++ []
theorem dksX1_getShare_0 : cX1_getShare.data.toList.drop 0 = dktX1_getShare_0 := by decide +kernel
theorem dX1_getShare_0 : decode cX1_getShare 0 = .ok (.aload_n 0, 1) := dk_42 (dk_at dksX1_getShare_0 0 rfl rfl)
theorem dX1_getShare_1 : decode cX1_getShare 1 = .ok (.iload_n 1, 1) := dk_27 (dk_at dksX1_getShare_0 1 rfl rfl)
theorem dX1_getShare_2 : decode cX1_getShare 2 = .ok (.invokevirtual 84, 3) := dk_182 0 84 (dk_at dksX1_getShare_0 2 rfl rfl)
theorem dX1_getShare_5 : decode cX1_getShare 5 = .ok (.getfield 226, 3) := dk_180 0 226 (dk_at dksX1_getShare_0 5 rfl rfl)
theorem dX1_getShare_8 : decode cX1_getShare 8 = .ok (.ireturn, 1) := dk_172 (dk_at dksX1_getShare_0 8 rfl rfl)
abbrev cX1_change : ByteArray := prog_1_method_39_code
def yX1_change : MethodName := ⟨RX1, "change", "(III)I"⟩
def dkwX1_change_6 : List UInt8 := [25, 4, 180, 0, 235, 25, 5, 180, 0, 238, 3, 79, 21, 6, 172]
abbrev dktX1_change_6 : List UInt8 := dkwX1_change_6 ++ []
def dkwX1_change_5 : List UInt8 := [25, 4, 180, 0, 156, 28, 3, 79, 25, 5, 198, 0, 26, 25, 5, 16, 10, 27, 104, 28, 96, 181, 0, 169]
abbrev dktX1_change_5 : List UInt8 := dkwX1_change_5 ++ dktX1_change_6
def dkwX1_change_4 : List UInt8 := [180, 0, 28, 21, 6, 182, 0, 80, 192, 0, 60, 2, 181, 0, 169, 25, 4, 180, 0, 117, 28, 29, 79]
abbrev dktX1_change_4 : List UInt8 := dkwX1_change_4 ++ dktX1_change_5
def dkwX1_change_3 : List UInt8 := [89, 1, 25, 6, 183, 0, 215, 191, 25, 4, 180, 0, 117, 28, 46, 54, 6, 21, 6, 2, 159, 0, 19, 42]
abbrev dktX1_change_3 : List UInt8 := dkwX1_change_3 ++ dktX1_change_4
def dkwX1_change_2 : List UInt8 := [180, 0, 169, 2, 160, 0, 7, 4, 167, 0, 4, 3, 84, 182, 0, 211, 167, 0, 16, 58, 6, 187, 0, 16]
abbrev dktX1_change_2 : List UInt8 := dkwX1_change_2 ++ dktX1_change_3
def dkwX1_change_1 : List UInt8 := [42, 16, 10, 5, 188, 4, 89, 3, 25, 4, 180, 0, 199, 84, 89, 4, 25, 5, 198, 0, 12, 25, 5]
abbrev dktX1_change_1 : List UInt8 := dkwX1_change_1 ++ dktX1_change_2
def dkwX1_change_0 : List UInt8 := [42, 27, 28, 182, 0, 114, 58, 4, 29, 2, 160, 0, 7, 1, 167, 0, 8, 42, 29, 182, 0, 162, 58, 5]
abbrev dktX1_change_0 : List UInt8 := dkwX1_change_0 ++ dktX1_change_1
theorem dksX1_change_0 : cX1_change.data.toList.drop 0 = dktX1_change_0 := by decide +kernel
theorem dksX1_change_1 : cX1_change.data.toList.drop 24 = dktX1_change_1 := dk_seg dksX1_change_0 24 rfl rfl
theorem dksX1_change_2 : cX1_change.data.toList.drop 47 = dktX1_change_2 := dk_seg dksX1_change_1 23 rfl rfl
theorem dksX1_change_3 : cX1_change.data.toList.drop 71 = dktX1_change_3 := dk_seg dksX1_change_2 24 rfl rfl
theorem dksX1_change_4 : cX1_change.data.toList.drop 95 = dktX1_change_4 := dk_seg dksX1_change_3 24 rfl rfl
theorem dksX1_change_5 : cX1_change.data.toList.drop 118 = dktX1_change_5 := dk_seg dksX1_change_4 23 rfl rfl
theorem dksX1_change_6 : cX1_change.data.toList.drop 142 = dktX1_change_6 := dk_seg dksX1_change_5 24 rfl rfl
theorem dX1_change_0 : decode cX1_change 0 = .ok (.aload_n 0, 1) := dk_42 (dk_at dksX1_change_0 0 rfl rfl)
theorem dX1_change_1 : decode cX1_change 1 = .ok (.iload_n 1, 1) := dk_27 (dk_at dksX1_change_0 1 rfl rfl)
theorem dX1_change_2 : decode cX1_change 2 = .ok (.iload_n 2, 1) := dk_28 (dk_at dksX1_change_0 2 rfl rfl)
theorem dX1_change_3 : decode cX1_change 3 = .ok (.invokevirtual 114, 3) := dk_182 0 114 (dk_at dksX1_change_0 3 rfl rfl)
theorem dX1_change_6 : decode cX1_change 6 = .ok (.astore 4, 2) := dk_58 4 (dk_at dksX1_change_0 6 rfl rfl)
theorem dX1_change_8 : decode cX1_change 8 = .ok (.iload_n 3, 1) := dk_29 (dk_at dksX1_change_0 8 rfl rfl)
theorem dX1_change_9 : decode cX1_change 9 = .ok (.iconst (-1), 1) := dk_2 (dk_at dksX1_change_0 9 rfl rfl)
theorem dX1_change_10 : decode cX1_change 10 = .ok (.if_icmp .ne 7, 3) := dk_160 0 7 (dk_at dksX1_change_0 10 rfl rfl)
theorem dX1_change_13 : decode cX1_change 13 = .ok (.aconst_null, 1) := dk_1 (dk_at dksX1_change_0 13 rfl rfl)
theorem dX1_change_14 : decode cX1_change 14 = .ok (.goto 8, 3) := dk_167 0 8 (dk_at dksX1_change_0 14 rfl rfl)
theorem dX1_change_17 : decode cX1_change 17 = .ok (.aload_n 0, 1) := dk_42 (dk_at dksX1_change_0 17 rfl rfl)
theorem dX1_change_18 : decode cX1_change 18 = .ok (.iload_n 3, 1) := dk_29 (dk_at dksX1_change_0 18 rfl rfl)
theorem dX1_change_19 : decode cX1_change 19 = .ok (.invokevirtual 162, 3) := dk_182 0 162 (dk_at dksX1_change_0 19 rfl rfl)
theorem dX1_change_22 : decode cX1_change 22 = .ok (.astore 5, 2) := dk_58 5 (dk_at dksX1_change_0 22 rfl rfl)
theorem dX1_change_24 : decode cX1_change 24 = .ok (.aload_n 0, 1) := dk_42 (dk_at dksX1_change_1 0 rfl rfl)
theorem dX1_change_25 : decode cX1_change 25 = .ok (.bipush 10, 2) := dk_16 10 (dk_at dksX1_change_1 1 rfl rfl)
theorem dX1_change_27 : decode cX1_change 27 = .ok (.iconst 2, 1) := dk_5 (dk_at dksX1_change_1 3 rfl rfl)
theorem dX1_change_28 : decode cX1_change 28 = .ok (.newarray .boolean, 2) := dk_188_4 (dk_at dksX1_change_1 4 rfl rfl)
theorem dX1_change_30 : decode cX1_change 30 = .ok (.dup, 1) := dk_89 (dk_at dksX1_change_1 6 rfl rfl)
theorem dX1_change_31 : decode cX1_change 31 = .ok (.iconst 0, 1) := dk_3 (dk_at dksX1_change_1 7 rfl rfl)
theorem dX1_change_32 : decode cX1_change 32 = .ok (.aload 4, 2) := dk_25 4 (dk_at dksX1_change_1 8 rfl rfl)
theorem dX1_change_34 : decode cX1_change 34 = .ok (.getfield 199, 3) := dk_180 0 199 (dk_at dksX1_change_1 10 rfl rfl)
theorem dX1_change_37 : decode cX1_change 37 = .ok (.bastore, 1) := dk_84 (dk_at dksX1_change_1 13 rfl rfl)
theorem dX1_change_38 : decode cX1_change 38 = .ok (.dup, 1) := dk_89 (dk_at dksX1_change_1 14 rfl rfl)
theorem dX1_change_39 : decode cX1_change 39 = .ok (.iconst 1, 1) := dk_4 (dk_at dksX1_change_1 15 rfl rfl)
theorem dX1_change_40 : decode cX1_change 40 = .ok (.aload 5, 2) := dk_25 5 (dk_at dksX1_change_1 16 rfl rfl)
theorem dX1_change_42 : decode cX1_change 42 = .ok (.ifnull 12, 3) := dk_198 0 12 (dk_at dksX1_change_1 18 rfl rfl)
theorem dX1_change_45 : decode cX1_change 45 = .ok (.aload 5, 2) := dk_25 5 (dk_at dksX1_change_1 21 rfl rfl)
theorem dX1_change_47 : decode cX1_change 47 = .ok (.getfield 169, 3) := dk_180 0 169 (dk_at dksX1_change_2 0 rfl rfl)
theorem dX1_change_50 : decode cX1_change 50 = .ok (.iconst (-1), 1) := dk_2 (dk_at dksX1_change_2 3 rfl rfl)
theorem dX1_change_51 : decode cX1_change 51 = .ok (.if_icmp .ne 7, 3) := dk_160 0 7 (dk_at dksX1_change_2 4 rfl rfl)
theorem dX1_change_54 : decode cX1_change 54 = .ok (.iconst 1, 1) := dk_4 (dk_at dksX1_change_2 7 rfl rfl)
theorem dX1_change_55 : decode cX1_change 55 = .ok (.goto 4, 3) := dk_167 0 4 (dk_at dksX1_change_2 8 rfl rfl)
theorem dX1_change_58 : decode cX1_change 58 = .ok (.iconst 0, 1) := dk_3 (dk_at dksX1_change_2 11 rfl rfl)
theorem dX1_change_59 : decode cX1_change 59 = .ok (.bastore, 1) := dk_84 (dk_at dksX1_change_2 12 rfl rfl)
theorem dX1_change_60 : decode cX1_change 60 = .ok (.invokevirtual 211, 3) := dk_182 0 211 (dk_at dksX1_change_2 13 rfl rfl)
theorem dX1_change_63 : decode cX1_change 63 = .ok (.goto 16, 3) := dk_167 0 16 (dk_at dksX1_change_2 16 rfl rfl)
theorem dX1_change_66 : decode cX1_change 66 = .ok (.astore 6, 2) := dk_58 6 (dk_at dksX1_change_2 19 rfl rfl)
theorem dX1_change_68 : decode cX1_change 68 = .ok (.new 16, 3) := dk_187 0 16 (dk_at dksX1_change_2 21 rfl rfl)
theorem dX1_change_71 : decode cX1_change 71 = .ok (.dup, 1) := dk_89 (dk_at dksX1_change_3 0 rfl rfl)
theorem dX1_change_72 : decode cX1_change 72 = .ok (.aconst_null, 1) := dk_1 (dk_at dksX1_change_3 1 rfl rfl)
theorem dX1_change_73 : decode cX1_change 73 = .ok (.aload 6, 2) := dk_25 6 (dk_at dksX1_change_3 2 rfl rfl)
theorem dX1_change_75 : decode cX1_change 75 = .ok (.invokespecial 215, 3) := dk_183 0 215 (dk_at dksX1_change_3 4 rfl rfl)
theorem dX1_change_78 : decode cX1_change 78 = .ok (.athrow, 1) := dk_191 (dk_at dksX1_change_3 7 rfl rfl)
theorem dX1_change_79 : decode cX1_change 79 = .ok (.aload 4, 2) := dk_25 4 (dk_at dksX1_change_3 8 rfl rfl)
theorem dX1_change_81 : decode cX1_change 81 = .ok (.getfield 117, 3) := dk_180 0 117 (dk_at dksX1_change_3 10 rfl rfl)
theorem dX1_change_84 : decode cX1_change 84 = .ok (.iload_n 2, 1) := dk_28 (dk_at dksX1_change_3 13 rfl rfl)
theorem dX1_change_85 : decode cX1_change 85 = .ok (.iaload, 1) := dk_46 (dk_at dksX1_change_3 14 rfl rfl)
theorem dX1_change_86 : decode cX1_change 86 = .ok (.istore 6, 2) := dk_54 6 (dk_at dksX1_change_3 15 rfl rfl)
theorem dX1_change_88 : decode cX1_change 88 = .ok (.iload 6, 2) := dk_21 6 (dk_at dksX1_change_3 17 rfl rfl)
theorem dX1_change_90 : decode cX1_change 90 = .ok (.iconst (-1), 1) := dk_2 (dk_at dksX1_change_3 19 rfl rfl)
theorem dX1_change_91 : decode cX1_change 91 = .ok (.if_icmp .eq 19, 3) := dk_159 0 19 (dk_at dksX1_change_3 20 rfl rfl)
theorem dX1_change_94 : decode cX1_change 94 = .ok (.aload_n 0, 1) := dk_42 (dk_at dksX1_change_3 23 rfl rfl)
theorem dX1_change_95 : decode cX1_change 95 = .ok (.getfield 28, 3) := dk_180 0 28 (dk_at dksX1_change_4 0 rfl rfl)
theorem dX1_change_98 : decode cX1_change 98 = .ok (.iload 6, 2) := dk_21 6 (dk_at dksX1_change_4 3 rfl rfl)
theorem dX1_change_100 : decode cX1_change 100 = .ok (.invokevirtual 80, 3) := dk_182 0 80 (dk_at dksX1_change_4 5 rfl rfl)
theorem dX1_change_103 : decode cX1_change 103 = .ok (.checkcast 60, 3) := dk_192 0 60 (dk_at dksX1_change_4 8 rfl rfl)
theorem dX1_change_106 : decode cX1_change 106 = .ok (.iconst (-1), 1) := dk_2 (dk_at dksX1_change_4 11 rfl rfl)
theorem dX1_change_107 : decode cX1_change 107 = .ok (.putfield 169, 3) := dk_181 0 169 (dk_at dksX1_change_4 12 rfl rfl)
theorem dX1_change_110 : decode cX1_change 110 = .ok (.aload 4, 2) := dk_25 4 (dk_at dksX1_change_4 15 rfl rfl)
theorem dX1_change_112 : decode cX1_change 112 = .ok (.getfield 117, 3) := dk_180 0 117 (dk_at dksX1_change_4 17 rfl rfl)
theorem dX1_change_115 : decode cX1_change 115 = .ok (.iload_n 2, 1) := dk_28 (dk_at dksX1_change_4 20 rfl rfl)
theorem dX1_change_116 : decode cX1_change 116 = .ok (.iload_n 3, 1) := dk_29 (dk_at dksX1_change_4 21 rfl rfl)
theorem dX1_change_117 : decode cX1_change 117 = .ok (.iastore, 1) := dk_79 (dk_at dksX1_change_4 22 rfl rfl)
theorem dX1_change_118 : decode cX1_change 118 = .ok (.aload 4, 2) := dk_25 4 (dk_at dksX1_change_5 0 rfl rfl)
theorem dX1_change_120 : decode cX1_change 120 = .ok (.getfield 156, 3) := dk_180 0 156 (dk_at dksX1_change_5 2 rfl rfl)
theorem dX1_change_123 : decode cX1_change 123 = .ok (.iload_n 2, 1) := dk_28 (dk_at dksX1_change_5 5 rfl rfl)
theorem dX1_change_124 : decode cX1_change 124 = .ok (.iconst 0, 1) := dk_3 (dk_at dksX1_change_5 6 rfl rfl)
theorem dX1_change_125 : decode cX1_change 125 = .ok (.iastore, 1) := dk_79 (dk_at dksX1_change_5 7 rfl rfl)
theorem dX1_change_126 : decode cX1_change 126 = .ok (.aload 5, 2) := dk_25 5 (dk_at dksX1_change_5 8 rfl rfl)
theorem dX1_change_128 : decode cX1_change 128 = .ok (.ifnull 26, 3) := dk_198 0 26 (dk_at dksX1_change_5 10 rfl rfl)
theorem dX1_change_131 : decode cX1_change 131 = .ok (.aload 5, 2) := dk_25 5 (dk_at dksX1_change_5 13 rfl rfl)
theorem dX1_change_133 : decode cX1_change 133 = .ok (.bipush 10, 2) := dk_16 10 (dk_at dksX1_change_5 15 rfl rfl)
theorem dX1_change_135 : decode cX1_change 135 = .ok (.iload_n 1, 1) := dk_27 (dk_at dksX1_change_5 17 rfl rfl)
theorem dX1_change_136 : decode cX1_change 136 = .ok (.imul, 1) := dk_104 (dk_at dksX1_change_5 18 rfl rfl)
theorem dX1_change_137 : decode cX1_change 137 = .ok (.iload_n 2, 1) := dk_28 (dk_at dksX1_change_5 19 rfl rfl)
theorem dX1_change_138 : decode cX1_change 138 = .ok (.iadd, 1) := dk_96 (dk_at dksX1_change_5 20 rfl rfl)
theorem dX1_change_139 : decode cX1_change 139 = .ok (.putfield 169, 3) := dk_181 0 169 (dk_at dksX1_change_5 21 rfl rfl)
theorem dX1_change_142 : decode cX1_change 142 = .ok (.aload 4, 2) := dk_25 4 (dk_at dksX1_change_6 0 rfl rfl)
theorem dX1_change_144 : decode cX1_change 144 = .ok (.getfield 235, 3) := dk_180 0 235 (dk_at dksX1_change_6 2 rfl rfl)
theorem dX1_change_147 : decode cX1_change 147 = .ok (.aload 5, 2) := dk_25 5 (dk_at dksX1_change_6 5 rfl rfl)
theorem dX1_change_149 : decode cX1_change 149 = .ok (.getfield 238, 3) := dk_180 0 238 (dk_at dksX1_change_6 7 rfl rfl)
theorem dX1_change_152 : decode cX1_change 152 = .ok (.iconst 0, 1) := dk_3 (dk_at dksX1_change_6 10 rfl rfl)
theorem dX1_change_153 : decode cX1_change 153 = .ok (.iastore, 1) := dk_79 (dk_at dksX1_change_6 11 rfl rfl)
theorem dX1_change_154 : decode cX1_change 154 = .ok (.iload 6, 2) := dk_21 6 (dk_at dksX1_change_6 12 rfl rfl)
theorem dX1_change_156 : decode cX1_change 156 = .ok (.ireturn, 1) := dk_172 (dk_at dksX1_change_6 14 rfl rfl)
abbrev cX1_changeNeedle : ByteArray := prog_1_method_40_code
def yX1_changeNeedle : MethodName := ⟨RX1, "changeNeedle", "(I)I"⟩
def dkwX1_changeNeedle_1 : List UInt8 := [78, 187, 0, 16, 89, 1, 45, 183, 0, 215, 191, 44, 180, 0, 159, 62, 44, 3, 181, 0, 159, 29, 172]
abbrev dktX1_changeNeedle_1 : List UInt8 := dkwX1_changeNeedle_1 ++ []
def dkwX1_changeNeedle_0 : List UInt8 := [42, 27, 182, 0, 84, 77, 42, 8, 4, 188, 4, 89, 3, 44, 180, 0, 199, 84, 182, 0, 211, 167, 0, 14]
abbrev dktX1_changeNeedle_0 : List UInt8 := dkwX1_changeNeedle_0 ++ dktX1_changeNeedle_1
theorem dksX1_changeNeedle_0 : cX1_changeNeedle.data.toList.drop 0 = dktX1_changeNeedle_0 := by decide +kernel
theorem dksX1_changeNeedle_1 : cX1_changeNeedle.data.toList.drop 24 = dktX1_changeNeedle_1 := dk_seg dksX1_changeNeedle_0 24 rfl rfl
theorem dX1_changeNeedle_0 : decode cX1_changeNeedle 0 = .ok (.aload_n 0, 1) := dk_42 (dk_at dksX1_changeNeedle_0 0 rfl rfl)
theorem dX1_changeNeedle_1 : decode cX1_changeNeedle 1 = .ok (.iload_n 1, 1) := dk_27 (dk_at dksX1_changeNeedle_0 1 rfl rfl)
theorem dX1_changeNeedle_2 : decode cX1_changeNeedle 2 = .ok (.invokevirtual 84, 3) := dk_182 0 84 (dk_at dksX1_changeNeedle_0 2 rfl rfl)
theorem dX1_changeNeedle_5 : decode cX1_changeNeedle 5 = .ok (.astore_n 2, 1) := dk_77 (dk_at dksX1_changeNeedle_0 5 rfl rfl)
theorem dX1_changeNeedle_6 : decode cX1_changeNeedle 6 = .ok (.aload_n 0, 1) := dk_42 (dk_at dksX1_changeNeedle_0 6 rfl rfl)
theorem dX1_changeNeedle_7 : decode cX1_changeNeedle 7 = .ok (.iconst 5, 1) := dk_8 (dk_at dksX1_changeNeedle_0 7 rfl rfl)
theorem dX1_changeNeedle_8 : decode cX1_changeNeedle 8 = .ok (.iconst 1, 1) := dk_4 (dk_at dksX1_changeNeedle_0 8 rfl rfl)
theorem dX1_changeNeedle_9 : decode cX1_changeNeedle 9 = .ok (.newarray .boolean, 2) := dk_188_4 (dk_at dksX1_changeNeedle_0 9 rfl rfl)
theorem dX1_changeNeedle_11 : decode cX1_changeNeedle 11 = .ok (.dup, 1) := dk_89 (dk_at dksX1_changeNeedle_0 11 rfl rfl)
theorem dX1_changeNeedle_12 : decode cX1_changeNeedle 12 = .ok (.iconst 0, 1) := dk_3 (dk_at dksX1_changeNeedle_0 12 rfl rfl)
theorem dX1_changeNeedle_13 : decode cX1_changeNeedle 13 = .ok (.aload_n 2, 1) := dk_44 (dk_at dksX1_changeNeedle_0 13 rfl rfl)
theorem dX1_changeNeedle_14 : decode cX1_changeNeedle 14 = .ok (.getfield 199, 3) := dk_180 0 199 (dk_at dksX1_changeNeedle_0 14 rfl rfl)
theorem dX1_changeNeedle_17 : decode cX1_changeNeedle 17 = .ok (.bastore, 1) := dk_84 (dk_at dksX1_changeNeedle_0 17 rfl rfl)
theorem dX1_changeNeedle_18 : decode cX1_changeNeedle 18 = .ok (.invokevirtual 211, 3) := dk_182 0 211 (dk_at dksX1_changeNeedle_0 18 rfl rfl)
theorem dX1_changeNeedle_21 : decode cX1_changeNeedle 21 = .ok (.goto 14, 3) := dk_167 0 14 (dk_at dksX1_changeNeedle_0 21 rfl rfl)
theorem dX1_changeNeedle_24 : decode cX1_changeNeedle 24 = .ok (.astore_n 3, 1) := dk_78 (dk_at dksX1_changeNeedle_1 0 rfl rfl)
theorem dX1_changeNeedle_25 : decode cX1_changeNeedle 25 = .ok (.new 16, 3) := dk_187 0 16 (dk_at dksX1_changeNeedle_1 1 rfl rfl)
theorem dX1_changeNeedle_28 : decode cX1_changeNeedle 28 = .ok (.dup, 1) := dk_89 (dk_at dksX1_changeNeedle_1 4 rfl rfl)
theorem dX1_changeNeedle_29 : decode cX1_changeNeedle 29 = .ok (.aconst_null, 1) := dk_1 (dk_at dksX1_changeNeedle_1 5 rfl rfl)
theorem dX1_changeNeedle_30 : decode cX1_changeNeedle 30 = .ok (.aload_n 3, 1) := dk_45 (dk_at dksX1_changeNeedle_1 6 rfl rfl)
theorem dX1_changeNeedle_31 : decode cX1_changeNeedle 31 = .ok (.invokespecial 215, 3) := dk_183 0 215 (dk_at dksX1_changeNeedle_1 7 rfl rfl)
theorem dX1_changeNeedle_34 : decode cX1_changeNeedle 34 = .ok (.athrow, 1) := dk_191 (dk_at dksX1_changeNeedle_1 10 rfl rfl)
theorem dX1_changeNeedle_35 : decode cX1_changeNeedle 35 = .ok (.aload_n 2, 1) := dk_44 (dk_at dksX1_changeNeedle_1 11 rfl rfl)
theorem dX1_changeNeedle_36 : decode cX1_changeNeedle 36 = .ok (.getfield 159, 3) := dk_180 0 159 (dk_at dksX1_changeNeedle_1 12 rfl rfl)
theorem dX1_changeNeedle_39 : decode cX1_changeNeedle 39 = .ok (.istore_n 3, 1) := dk_62 (dk_at dksX1_changeNeedle_1 15 rfl rfl)
theorem dX1_changeNeedle_40 : decode cX1_changeNeedle 40 = .ok (.aload_n 2, 1) := dk_44 (dk_at dksX1_changeNeedle_1 16 rfl rfl)
theorem dX1_changeNeedle_41 : decode cX1_changeNeedle 41 = .ok (.iconst 0, 1) := dk_3 (dk_at dksX1_changeNeedle_1 17 rfl rfl)
theorem dX1_changeNeedle_42 : decode cX1_changeNeedle 42 = .ok (.putfield 159, 3) := dk_181 0 159 (dk_at dksX1_changeNeedle_1 18 rfl rfl)
theorem dX1_changeNeedle_45 : decode cX1_changeNeedle 45 = .ok (.iload_n 3, 1) := dk_29 (dk_at dksX1_changeNeedle_1 21 rfl rfl)
theorem dX1_changeNeedle_46 : decode cX1_changeNeedle 46 = .ok (.ireturn, 1) := dk_172 (dk_at dksX1_changeNeedle_1 22 rfl rfl)
abbrev cX1_burn : ByteArray := prog_1_method_41_code
def yX1_burn : MethodName := ⟨RX1, "burn", "(I)I"⟩
def dkwX1_burn_1 : List UInt8 := [16, 254, 181, 0, 169, 44, 180, 0, 166, 172]
abbrev dktX1_burn_1 : List UInt8 := dkwX1_burn_1 ++ []
def dkwX1_burn_0 : List UInt8 := [42, 27, 182, 0, 162, 77, 44, 180, 0, 169, 2, 160, 0, 7, 4, 167, 0, 4, 3, 184, 0, 102, 44]
abbrev dktX1_burn_0 : List UInt8 := dkwX1_burn_0 ++ dktX1_burn_1
theorem dksX1_burn_0 : cX1_burn.data.toList.drop 0 = dktX1_burn_0 := by decide +kernel
theorem dksX1_burn_1 : cX1_burn.data.toList.drop 23 = dktX1_burn_1 := dk_seg dksX1_burn_0 23 rfl rfl
theorem dX1_burn_0 : decode cX1_burn 0 = .ok (.aload_n 0, 1) := dk_42 (dk_at dksX1_burn_0 0 rfl rfl)
theorem dX1_burn_1 : decode cX1_burn 1 = .ok (.iload_n 1, 1) := dk_27 (dk_at dksX1_burn_0 1 rfl rfl)
theorem dX1_burn_2 : decode cX1_burn 2 = .ok (.invokevirtual 162, 3) := dk_182 0 162 (dk_at dksX1_burn_0 2 rfl rfl)
theorem dX1_burn_5 : decode cX1_burn 5 = .ok (.astore_n 2, 1) := dk_77 (dk_at dksX1_burn_0 5 rfl rfl)
theorem dX1_burn_6 : decode cX1_burn 6 = .ok (.aload_n 2, 1) := dk_44 (dk_at dksX1_burn_0 6 rfl rfl)
theorem dX1_burn_7 : decode cX1_burn 7 = .ok (.getfield 169, 3) := dk_180 0 169 (dk_at dksX1_burn_0 7 rfl rfl)
theorem dX1_burn_10 : decode cX1_burn 10 = .ok (.iconst (-1), 1) := dk_2 (dk_at dksX1_burn_0 10 rfl rfl)
theorem dX1_burn_11 : decode cX1_burn 11 = .ok (.if_icmp .ne 7, 3) := dk_160 0 7 (dk_at dksX1_burn_0 11 rfl rfl)
theorem dX1_burn_14 : decode cX1_burn 14 = .ok (.iconst 1, 1) := dk_4 (dk_at dksX1_burn_0 14 rfl rfl)
theorem dX1_burn_15 : decode cX1_burn 15 = .ok (.goto 4, 3) := dk_167 0 4 (dk_at dksX1_burn_0 15 rfl rfl)
theorem dX1_burn_18 : decode cX1_burn 18 = .ok (.iconst 0, 1) := dk_3 (dk_at dksX1_burn_0 18 rfl rfl)
theorem dX1_burn_19 : decode cX1_burn 19 = .ok (.invokestatic 102, 3) := dk_184 0 102 (dk_at dksX1_burn_0 19 rfl rfl)
theorem dX1_burn_22 : decode cX1_burn 22 = .ok (.aload_n 2, 1) := dk_44 (dk_at dksX1_burn_0 22 rfl rfl)
theorem dX1_burn_23 : decode cX1_burn 23 = .ok (.bipush (-2), 2) := dk_16 254 (dk_at dksX1_burn_1 0 rfl rfl)
theorem dX1_burn_25 : decode cX1_burn 25 = .ok (.putfield 169, 3) := dk_181 0 169 (dk_at dksX1_burn_1 2 rfl rfl)
theorem dX1_burn_28 : decode cX1_burn 28 = .ok (.aload_n 2, 1) := dk_44 (dk_at dksX1_burn_1 5 rfl rfl)
theorem dX1_burn_29 : decode cX1_burn 29 = .ok (.getfield 166, 3) := dk_180 0 166 (dk_at dksX1_burn_1 6 rfl rfl)
theorem dX1_burn_32 : decode cX1_burn 32 = .ok (.ireturn, 1) := dk_172 (dk_at dksX1_burn_1 9 rfl rfl)
abbrev cX1_ask : ByteArray := prog_1_method_42_code
def yX1_ask : MethodName := ⟨RX1, "ask", "(II)I"⟩
def dkwX1_ask_2 : List UInt8 := [180, 0, 235, 28, 46, 172]
abbrev dktX1_ask_2 : List UInt8 := dkwX1_ask_2 ++ []
def dkwX1_ask_1 : List UInt8 := [162, 0, 7, 4, 167, 0, 4, 3, 184, 0, 57, 45, 180, 0, 235, 28, 92, 46, 4, 96, 79, 45]
abbrev dktX1_ask_1 : List UInt8 := dkwX1_ask_1 ++ dktX1_ask_2
def dkwX1_ask_0 : List UInt8 := [42, 27, 182, 0, 84, 78, 28, 3, 16, 99, 184, 0, 45, 184, 0, 49, 45, 180, 0, 235, 28, 46, 16, 99]
abbrev dktX1_ask_0 : List UInt8 := dkwX1_ask_0 ++ dktX1_ask_1
theorem dksX1_ask_0 : cX1_ask.data.toList.drop 0 = dktX1_ask_0 := by decide +kernel
theorem dksX1_ask_1 : cX1_ask.data.toList.drop 24 = dktX1_ask_1 := dk_seg dksX1_ask_0 24 rfl rfl
theorem dksX1_ask_2 : cX1_ask.data.toList.drop 46 = dktX1_ask_2 := dk_seg dksX1_ask_1 22 rfl rfl
theorem dX1_ask_0 : decode cX1_ask 0 = .ok (.aload_n 0, 1) := dk_42 (dk_at dksX1_ask_0 0 rfl rfl)
theorem dX1_ask_1 : decode cX1_ask 1 = .ok (.iload_n 1, 1) := dk_27 (dk_at dksX1_ask_0 1 rfl rfl)
theorem dX1_ask_2 : decode cX1_ask 2 = .ok (.invokevirtual 84, 3) := dk_182 0 84 (dk_at dksX1_ask_0 2 rfl rfl)
theorem dX1_ask_5 : decode cX1_ask 5 = .ok (.astore_n 3, 1) := dk_78 (dk_at dksX1_ask_0 5 rfl rfl)
theorem dX1_ask_6 : decode cX1_ask 6 = .ok (.iload_n 2, 1) := dk_28 (dk_at dksX1_ask_0 6 rfl rfl)
theorem dX1_ask_7 : decode cX1_ask 7 = .ok (.iconst 0, 1) := dk_3 (dk_at dksX1_ask_0 7 rfl rfl)
theorem dX1_ask_8 : decode cX1_ask 8 = .ok (.bipush 99, 2) := dk_16 99 (dk_at dksX1_ask_0 8 rfl rfl)
theorem dX1_ask_10 : decode cX1_ask 10 = .ok (.invokestatic 45, 3) := dk_184 0 45 (dk_at dksX1_ask_0 10 rfl rfl)
theorem dX1_ask_13 : decode cX1_ask 13 = .ok (.invokestatic 49, 3) := dk_184 0 49 (dk_at dksX1_ask_0 13 rfl rfl)
theorem dX1_ask_16 : decode cX1_ask 16 = .ok (.aload_n 3, 1) := dk_45 (dk_at dksX1_ask_0 16 rfl rfl)
theorem dX1_ask_17 : decode cX1_ask 17 = .ok (.getfield 235, 3) := dk_180 0 235 (dk_at dksX1_ask_0 17 rfl rfl)
theorem dX1_ask_20 : decode cX1_ask 20 = .ok (.iload_n 2, 1) := dk_28 (dk_at dksX1_ask_0 20 rfl rfl)
theorem dX1_ask_21 : decode cX1_ask 21 = .ok (.iaload, 1) := dk_46 (dk_at dksX1_ask_0 21 rfl rfl)
theorem dX1_ask_22 : decode cX1_ask 22 = .ok (.bipush 99, 2) := dk_16 99 (dk_at dksX1_ask_0 22 rfl rfl)
theorem dX1_ask_24 : decode cX1_ask 24 = .ok (.if_icmp .ge 7, 3) := dk_162 0 7 (dk_at dksX1_ask_1 0 rfl rfl)
theorem dX1_ask_27 : decode cX1_ask 27 = .ok (.iconst 1, 1) := dk_4 (dk_at dksX1_ask_1 3 rfl rfl)
theorem dX1_ask_28 : decode cX1_ask 28 = .ok (.goto 4, 3) := dk_167 0 4 (dk_at dksX1_ask_1 4 rfl rfl)
theorem dX1_ask_31 : decode cX1_ask 31 = .ok (.iconst 0, 1) := dk_3 (dk_at dksX1_ask_1 7 rfl rfl)
theorem dX1_ask_32 : decode cX1_ask 32 = .ok (.invokestatic 57, 3) := dk_184 0 57 (dk_at dksX1_ask_1 8 rfl rfl)
theorem dX1_ask_35 : decode cX1_ask 35 = .ok (.aload_n 3, 1) := dk_45 (dk_at dksX1_ask_1 11 rfl rfl)
theorem dX1_ask_36 : decode cX1_ask 36 = .ok (.getfield 235, 3) := dk_180 0 235 (dk_at dksX1_ask_1 12 rfl rfl)
theorem dX1_ask_39 : decode cX1_ask 39 = .ok (.iload_n 2, 1) := dk_28 (dk_at dksX1_ask_1 15 rfl rfl)
theorem dX1_ask_40 : decode cX1_ask 40 = .ok (.dup2, 1) := dk_92 (dk_at dksX1_ask_1 16 rfl rfl)
theorem dX1_ask_41 : decode cX1_ask 41 = .ok (.iaload, 1) := dk_46 (dk_at dksX1_ask_1 17 rfl rfl)
theorem dX1_ask_42 : decode cX1_ask 42 = .ok (.iconst 1, 1) := dk_4 (dk_at dksX1_ask_1 18 rfl rfl)
theorem dX1_ask_43 : decode cX1_ask 43 = .ok (.iadd, 1) := dk_96 (dk_at dksX1_ask_1 19 rfl rfl)
theorem dX1_ask_44 : decode cX1_ask 44 = .ok (.iastore, 1) := dk_79 (dk_at dksX1_ask_1 20 rfl rfl)
theorem dX1_ask_45 : decode cX1_ask 45 = .ok (.aload_n 3, 1) := dk_45 (dk_at dksX1_ask_1 21 rfl rfl)
theorem dX1_ask_46 : decode cX1_ask 46 = .ok (.getfield 235, 3) := dk_180 0 235 (dk_at dksX1_ask_2 0 rfl rfl)
theorem dX1_ask_49 : decode cX1_ask 49 = .ok (.iload_n 2, 1) := dk_28 (dk_at dksX1_ask_2 3 rfl rfl)
theorem dX1_ask_50 : decode cX1_ask 50 = .ok (.iaload, 1) := dk_46 (dk_at dksX1_ask_2 4 rfl rfl)
theorem dX1_ask_51 : decode cX1_ask 51 = .ok (.ireturn, 1) := dk_172 (dk_at dksX1_ask_2 5 rfl rfl)
abbrev cX1_mostAsked : ByteArray := prog_1_method_43_code
def yX1_mostAsked : MethodName := ⟨RX1, "mostAsked", "(I)I"⟩
def dkwX1_mostAsked_2 : List UInt8 := [180, 0, 235, 29, 46, 158, 0, 7, 4, 167, 0, 4, 3, 184, 0, 134, 29, 172]
abbrev dktX1_mostAsked_2 : List UInt8 := dkwX1_mostAsked_2 ++ []
def dkwX1_mostAsked_1 : List UInt8 := [46, 44, 180, 0, 235, 29, 46, 164, 0, 8, 21, 4, 167, 0, 4, 29, 62, 132, 4, 1, 167, 255, 223, 44]
abbrev dktX1_mostAsked_1 : List UInt8 := dkwX1_mostAsked_1 ++ dktX1_mostAsked_2
def dkwX1_mostAsked_0 : List UInt8 := [42, 27, 182, 0, 84, 77, 3, 62, 3, 54, 4, 21, 4, 16, 99, 163, 0, 32, 44, 180, 0, 235, 21, 4]
abbrev dktX1_mostAsked_0 : List UInt8 := dkwX1_mostAsked_0 ++ dktX1_mostAsked_1
theorem dksX1_mostAsked_0 : cX1_mostAsked.data.toList.drop 0 = dktX1_mostAsked_0 := by decide +kernel
theorem dksX1_mostAsked_1 : cX1_mostAsked.data.toList.drop 24 = dktX1_mostAsked_1 := dk_seg dksX1_mostAsked_0 24 rfl rfl
theorem dksX1_mostAsked_2 : cX1_mostAsked.data.toList.drop 48 = dktX1_mostAsked_2 := dk_seg dksX1_mostAsked_1 24 rfl rfl
theorem dX1_mostAsked_0 : decode cX1_mostAsked 0 = .ok (.aload_n 0, 1) := dk_42 (dk_at dksX1_mostAsked_0 0 rfl rfl)
theorem dX1_mostAsked_1 : decode cX1_mostAsked 1 = .ok (.iload_n 1, 1) := dk_27 (dk_at dksX1_mostAsked_0 1 rfl rfl)
theorem dX1_mostAsked_2 : decode cX1_mostAsked 2 = .ok (.invokevirtual 84, 3) := dk_182 0 84 (dk_at dksX1_mostAsked_0 2 rfl rfl)
theorem dX1_mostAsked_5 : decode cX1_mostAsked 5 = .ok (.astore_n 2, 1) := dk_77 (dk_at dksX1_mostAsked_0 5 rfl rfl)
theorem dX1_mostAsked_6 : decode cX1_mostAsked 6 = .ok (.iconst 0, 1) := dk_3 (dk_at dksX1_mostAsked_0 6 rfl rfl)
theorem dX1_mostAsked_7 : decode cX1_mostAsked 7 = .ok (.istore_n 3, 1) := dk_62 (dk_at dksX1_mostAsked_0 7 rfl rfl)
theorem dX1_mostAsked_8 : decode cX1_mostAsked 8 = .ok (.iconst 0, 1) := dk_3 (dk_at dksX1_mostAsked_0 8 rfl rfl)
theorem dX1_mostAsked_9 : decode cX1_mostAsked 9 = .ok (.istore 4, 2) := dk_54 4 (dk_at dksX1_mostAsked_0 9 rfl rfl)
theorem dX1_mostAsked_11 : decode cX1_mostAsked 11 = .ok (.iload 4, 2) := dk_21 4 (dk_at dksX1_mostAsked_0 11 rfl rfl)
theorem dX1_mostAsked_13 : decode cX1_mostAsked 13 = .ok (.bipush 99, 2) := dk_16 99 (dk_at dksX1_mostAsked_0 13 rfl rfl)
theorem dX1_mostAsked_15 : decode cX1_mostAsked 15 = .ok (.if_icmp .gt 32, 3) := dk_163 0 32 (dk_at dksX1_mostAsked_0 15 rfl rfl)
theorem dX1_mostAsked_18 : decode cX1_mostAsked 18 = .ok (.aload_n 2, 1) := dk_44 (dk_at dksX1_mostAsked_0 18 rfl rfl)
theorem dX1_mostAsked_19 : decode cX1_mostAsked 19 = .ok (.getfield 235, 3) := dk_180 0 235 (dk_at dksX1_mostAsked_0 19 rfl rfl)
theorem dX1_mostAsked_22 : decode cX1_mostAsked 22 = .ok (.iload 4, 2) := dk_21 4 (dk_at dksX1_mostAsked_0 22 rfl rfl)
theorem dX1_mostAsked_24 : decode cX1_mostAsked 24 = .ok (.iaload, 1) := dk_46 (dk_at dksX1_mostAsked_1 0 rfl rfl)
theorem dX1_mostAsked_25 : decode cX1_mostAsked 25 = .ok (.aload_n 2, 1) := dk_44 (dk_at dksX1_mostAsked_1 1 rfl rfl)
theorem dX1_mostAsked_26 : decode cX1_mostAsked 26 = .ok (.getfield 235, 3) := dk_180 0 235 (dk_at dksX1_mostAsked_1 2 rfl rfl)
theorem dX1_mostAsked_29 : decode cX1_mostAsked 29 = .ok (.iload_n 3, 1) := dk_29 (dk_at dksX1_mostAsked_1 5 rfl rfl)
theorem dX1_mostAsked_30 : decode cX1_mostAsked 30 = .ok (.iaload, 1) := dk_46 (dk_at dksX1_mostAsked_1 6 rfl rfl)
theorem dX1_mostAsked_31 : decode cX1_mostAsked 31 = .ok (.if_icmp .le 8, 3) := dk_164 0 8 (dk_at dksX1_mostAsked_1 7 rfl rfl)
theorem dX1_mostAsked_34 : decode cX1_mostAsked 34 = .ok (.iload 4, 2) := dk_21 4 (dk_at dksX1_mostAsked_1 10 rfl rfl)
theorem dX1_mostAsked_36 : decode cX1_mostAsked 36 = .ok (.goto 4, 3) := dk_167 0 4 (dk_at dksX1_mostAsked_1 12 rfl rfl)
theorem dX1_mostAsked_39 : decode cX1_mostAsked 39 = .ok (.iload_n 3, 1) := dk_29 (dk_at dksX1_mostAsked_1 15 rfl rfl)
theorem dX1_mostAsked_40 : decode cX1_mostAsked 40 = .ok (.istore_n 3, 1) := dk_62 (dk_at dksX1_mostAsked_1 16 rfl rfl)
theorem dX1_mostAsked_41 : decode cX1_mostAsked 41 = .ok (.iinc 4 1, 3) := dk_132 4 1 (dk_at dksX1_mostAsked_1 17 rfl rfl)
theorem dX1_mostAsked_44 : decode cX1_mostAsked 44 = .ok (.goto (-33), 3) := dk_167 255 223 (dk_at dksX1_mostAsked_1 20 rfl rfl)
theorem dX1_mostAsked_47 : decode cX1_mostAsked 47 = .ok (.aload_n 2, 1) := dk_44 (dk_at dksX1_mostAsked_1 23 rfl rfl)
theorem dX1_mostAsked_48 : decode cX1_mostAsked 48 = .ok (.getfield 235, 3) := dk_180 0 235 (dk_at dksX1_mostAsked_2 0 rfl rfl)
theorem dX1_mostAsked_51 : decode cX1_mostAsked 51 = .ok (.iload_n 3, 1) := dk_29 (dk_at dksX1_mostAsked_2 3 rfl rfl)
theorem dX1_mostAsked_52 : decode cX1_mostAsked 52 = .ok (.iaload, 1) := dk_46 (dk_at dksX1_mostAsked_2 4 rfl rfl)
theorem dX1_mostAsked_53 : decode cX1_mostAsked 53 = .ok (.ifCond .le 7, 3) := dk_158 0 7 (dk_at dksX1_mostAsked_2 5 rfl rfl)
theorem dX1_mostAsked_56 : decode cX1_mostAsked 56 = .ok (.iconst 1, 1) := dk_4 (dk_at dksX1_mostAsked_2 8 rfl rfl)
theorem dX1_mostAsked_57 : decode cX1_mostAsked 57 = .ok (.goto 4, 3) := dk_167 0 4 (dk_at dksX1_mostAsked_2 9 rfl rfl)
theorem dX1_mostAsked_60 : decode cX1_mostAsked 60 = .ok (.iconst 0, 1) := dk_3 (dk_at dksX1_mostAsked_2 12 rfl rfl)
theorem dX1_mostAsked_61 : decode cX1_mostAsked 61 = .ok (.invokestatic 134, 3) := dk_184 0 134 (dk_at dksX1_mostAsked_2 13 rfl rfl)
theorem dX1_mostAsked_64 : decode cX1_mostAsked 64 = .ok (.iload_n 3, 1) := dk_29 (dk_at dksX1_mostAsked_2 16 rfl rfl)
theorem dX1_mostAsked_65 : decode cX1_mostAsked 65 = .ok (.ireturn, 1) := dk_172 (dk_at dksX1_mostAsked_2 17 rfl rfl)
abbrev cX1_least : ByteArray := prog_1_method_44_code
def yX1_least : MethodName := ⟨RX1, "least", "(I)I"⟩
def dkwX1_least_3 : List UInt8 := [132, 4, 1, 167, 255, 195, 29, 2, 159, 0, 7, 4, 167, 0, 4, 3, 184, 0, 134, 29, 172]
abbrev dktX1_least_3 : List UInt8 := dkwX1_least_3 ++ []
def dkwX1_least_2 : List UInt8 := [162, 0, 7, 4, 167, 0, 4, 3, 54, 5, 21, 5, 153, 0, 8, 21, 4, 167, 0, 4, 29, 62]
abbrev dktX1_least_2 : List UInt8 := dkwX1_least_2 ++ dktX1_least_3
def dkwX1_least_1 : List UInt8 := [46, 2, 159, 0, 28, 29, 2, 159, 0, 19, 44, 180, 0, 156, 21, 4, 46, 44, 180, 0, 156, 29, 46]
abbrev dktX1_least_1 : List UInt8 := dkwX1_least_1 ++ dktX1_least_2
def dkwX1_least_0 : List UInt8 := [42, 27, 182, 0, 84, 77, 2, 62, 3, 54, 4, 21, 4, 16, 10, 162, 0, 60, 44, 180, 0, 117, 21, 4]
abbrev dktX1_least_0 : List UInt8 := dkwX1_least_0 ++ dktX1_least_1
theorem dksX1_least_0 : cX1_least.data.toList.drop 0 = dktX1_least_0 := by decide +kernel
theorem dksX1_least_1 : cX1_least.data.toList.drop 24 = dktX1_least_1 := dk_seg dksX1_least_0 24 rfl rfl
theorem dksX1_least_2 : cX1_least.data.toList.drop 47 = dktX1_least_2 := dk_seg dksX1_least_1 23 rfl rfl
theorem dksX1_least_3 : cX1_least.data.toList.drop 69 = dktX1_least_3 := dk_seg dksX1_least_2 22 rfl rfl
theorem dX1_least_0 : decode cX1_least 0 = .ok (.aload_n 0, 1) := dk_42 (dk_at dksX1_least_0 0 rfl rfl)
theorem dX1_least_1 : decode cX1_least 1 = .ok (.iload_n 1, 1) := dk_27 (dk_at dksX1_least_0 1 rfl rfl)
theorem dX1_least_2 : decode cX1_least 2 = .ok (.invokevirtual 84, 3) := dk_182 0 84 (dk_at dksX1_least_0 2 rfl rfl)
theorem dX1_least_5 : decode cX1_least 5 = .ok (.astore_n 2, 1) := dk_77 (dk_at dksX1_least_0 5 rfl rfl)
theorem dX1_least_6 : decode cX1_least 6 = .ok (.iconst (-1), 1) := dk_2 (dk_at dksX1_least_0 6 rfl rfl)
theorem dX1_least_7 : decode cX1_least 7 = .ok (.istore_n 3, 1) := dk_62 (dk_at dksX1_least_0 7 rfl rfl)
theorem dX1_least_8 : decode cX1_least 8 = .ok (.iconst 0, 1) := dk_3 (dk_at dksX1_least_0 8 rfl rfl)
theorem dX1_least_9 : decode cX1_least 9 = .ok (.istore 4, 2) := dk_54 4 (dk_at dksX1_least_0 9 rfl rfl)
theorem dX1_least_11 : decode cX1_least 11 = .ok (.iload 4, 2) := dk_21 4 (dk_at dksX1_least_0 11 rfl rfl)
theorem dX1_least_13 : decode cX1_least 13 = .ok (.bipush 10, 2) := dk_16 10 (dk_at dksX1_least_0 13 rfl rfl)
theorem dX1_least_15 : decode cX1_least 15 = .ok (.if_icmp .ge 60, 3) := dk_162 0 60 (dk_at dksX1_least_0 15 rfl rfl)
theorem dX1_least_18 : decode cX1_least 18 = .ok (.aload_n 2, 1) := dk_44 (dk_at dksX1_least_0 18 rfl rfl)
theorem dX1_least_19 : decode cX1_least 19 = .ok (.getfield 117, 3) := dk_180 0 117 (dk_at dksX1_least_0 19 rfl rfl)
theorem dX1_least_22 : decode cX1_least 22 = .ok (.iload 4, 2) := dk_21 4 (dk_at dksX1_least_0 22 rfl rfl)
theorem dX1_least_24 : decode cX1_least 24 = .ok (.iaload, 1) := dk_46 (dk_at dksX1_least_1 0 rfl rfl)
theorem dX1_least_25 : decode cX1_least 25 = .ok (.iconst (-1), 1) := dk_2 (dk_at dksX1_least_1 1 rfl rfl)
theorem dX1_least_26 : decode cX1_least 26 = .ok (.if_icmp .eq 28, 3) := dk_159 0 28 (dk_at dksX1_least_1 2 rfl rfl)
theorem dX1_least_29 : decode cX1_least 29 = .ok (.iload_n 3, 1) := dk_29 (dk_at dksX1_least_1 5 rfl rfl)
theorem dX1_least_30 : decode cX1_least 30 = .ok (.iconst (-1), 1) := dk_2 (dk_at dksX1_least_1 6 rfl rfl)
theorem dX1_least_31 : decode cX1_least 31 = .ok (.if_icmp .eq 19, 3) := dk_159 0 19 (dk_at dksX1_least_1 7 rfl rfl)
theorem dX1_least_34 : decode cX1_least 34 = .ok (.aload_n 2, 1) := dk_44 (dk_at dksX1_least_1 10 rfl rfl)
theorem dX1_least_35 : decode cX1_least 35 = .ok (.getfield 156, 3) := dk_180 0 156 (dk_at dksX1_least_1 11 rfl rfl)
theorem dX1_least_38 : decode cX1_least 38 = .ok (.iload 4, 2) := dk_21 4 (dk_at dksX1_least_1 14 rfl rfl)
theorem dX1_least_40 : decode cX1_least 40 = .ok (.iaload, 1) := dk_46 (dk_at dksX1_least_1 16 rfl rfl)
theorem dX1_least_41 : decode cX1_least 41 = .ok (.aload_n 2, 1) := dk_44 (dk_at dksX1_least_1 17 rfl rfl)
theorem dX1_least_42 : decode cX1_least 42 = .ok (.getfield 156, 3) := dk_180 0 156 (dk_at dksX1_least_1 18 rfl rfl)
theorem dX1_least_45 : decode cX1_least 45 = .ok (.iload_n 3, 1) := dk_29 (dk_at dksX1_least_1 21 rfl rfl)
theorem dX1_least_46 : decode cX1_least 46 = .ok (.iaload, 1) := dk_46 (dk_at dksX1_least_1 22 rfl rfl)
theorem dX1_least_47 : decode cX1_least 47 = .ok (.if_icmp .ge 7, 3) := dk_162 0 7 (dk_at dksX1_least_2 0 rfl rfl)
theorem dX1_least_50 : decode cX1_least 50 = .ok (.iconst 1, 1) := dk_4 (dk_at dksX1_least_2 3 rfl rfl)
theorem dX1_least_51 : decode cX1_least 51 = .ok (.goto 4, 3) := dk_167 0 4 (dk_at dksX1_least_2 4 rfl rfl)
theorem dX1_least_54 : decode cX1_least 54 = .ok (.iconst 0, 1) := dk_3 (dk_at dksX1_least_2 7 rfl rfl)
theorem dX1_least_55 : decode cX1_least 55 = .ok (.istore 5, 2) := dk_54 5 (dk_at dksX1_least_2 8 rfl rfl)
theorem dX1_least_57 : decode cX1_least 57 = .ok (.iload 5, 2) := dk_21 5 (dk_at dksX1_least_2 10 rfl rfl)
theorem dX1_least_59 : decode cX1_least 59 = .ok (.ifCond .eq 8, 3) := dk_153 0 8 (dk_at dksX1_least_2 12 rfl rfl)
theorem dX1_least_62 : decode cX1_least 62 = .ok (.iload 4, 2) := dk_21 4 (dk_at dksX1_least_2 15 rfl rfl)
theorem dX1_least_64 : decode cX1_least 64 = .ok (.goto 4, 3) := dk_167 0 4 (dk_at dksX1_least_2 17 rfl rfl)
theorem dX1_least_67 : decode cX1_least 67 = .ok (.iload_n 3, 1) := dk_29 (dk_at dksX1_least_2 20 rfl rfl)
theorem dX1_least_68 : decode cX1_least 68 = .ok (.istore_n 3, 1) := dk_62 (dk_at dksX1_least_2 21 rfl rfl)
theorem dX1_least_69 : decode cX1_least 69 = .ok (.iinc 4 1, 3) := dk_132 4 1 (dk_at dksX1_least_3 0 rfl rfl)
theorem dX1_least_72 : decode cX1_least 72 = .ok (.goto (-61), 3) := dk_167 255 195 (dk_at dksX1_least_3 3 rfl rfl)
theorem dX1_least_75 : decode cX1_least 75 = .ok (.iload_n 3, 1) := dk_29 (dk_at dksX1_least_3 6 rfl rfl)
theorem dX1_least_76 : decode cX1_least 76 = .ok (.iconst (-1), 1) := dk_2 (dk_at dksX1_least_3 7 rfl rfl)
theorem dX1_least_77 : decode cX1_least 77 = .ok (.if_icmp .eq 7, 3) := dk_159 0 7 (dk_at dksX1_least_3 8 rfl rfl)
theorem dX1_least_80 : decode cX1_least 80 = .ok (.iconst 1, 1) := dk_4 (dk_at dksX1_least_3 11 rfl rfl)
theorem dX1_least_81 : decode cX1_least 81 = .ok (.goto 4, 3) := dk_167 0 4 (dk_at dksX1_least_3 12 rfl rfl)
theorem dX1_least_84 : decode cX1_least 84 = .ok (.iconst 0, 1) := dk_3 (dk_at dksX1_least_3 15 rfl rfl)
theorem dX1_least_85 : decode cX1_least 85 = .ok (.invokestatic 134, 3) := dk_184 0 134 (dk_at dksX1_least_3 16 rfl rfl)
theorem dX1_least_88 : decode cX1_least 88 = .ok (.iload_n 3, 1) := dk_29 (dk_at dksX1_least_3 19 rfl rfl)
theorem dX1_least_89 : decode cX1_least 89 = .ok (.ireturn, 1) := dk_172 (dk_at dksX1_least_3 20 rfl rfl)
abbrev cX1_worth : ByteArray := prog_1_method_46_code
def yX1_worth : MethodName := ⟨RX1, "worth", "(III)I"⟩
def dkwX1_worth_2 : List UInt8 := [25, 4, 28, 182, 0, 241, 100, 172]
abbrev dktX1_worth_2 : List UInt8 := dkwX1_worth_2 ++ []
def dkwX1_worth_1 : List UInt8 := [4, 167, 0, 4, 3, 184, 0, 102, 25, 5, 42, 180, 0, 172, 25, 4, 180, 0, 175, 182, 0, 178, 42]
abbrev dktX1_worth_1 : List UInt8 := dkwX1_worth_1 ++ dktX1_worth_2
def dkwX1_worth_0 : List UInt8 := [42, 27, 28, 182, 0, 114, 58, 4, 42, 29, 182, 0, 162, 58, 5, 25, 5, 180, 0, 169, 2, 160, 0, 7]
abbrev dktX1_worth_0 : List UInt8 := dkwX1_worth_0 ++ dktX1_worth_1
theorem dksX1_worth_0 : cX1_worth.data.toList.drop 0 = dktX1_worth_0 := by decide +kernel
theorem dksX1_worth_1 : cX1_worth.data.toList.drop 24 = dktX1_worth_1 := dk_seg dksX1_worth_0 24 rfl rfl
theorem dksX1_worth_2 : cX1_worth.data.toList.drop 47 = dktX1_worth_2 := dk_seg dksX1_worth_1 23 rfl rfl
theorem dX1_worth_0 : decode cX1_worth 0 = .ok (.aload_n 0, 1) := dk_42 (dk_at dksX1_worth_0 0 rfl rfl)
theorem dX1_worth_1 : decode cX1_worth 1 = .ok (.iload_n 1, 1) := dk_27 (dk_at dksX1_worth_0 1 rfl rfl)
theorem dX1_worth_2 : decode cX1_worth 2 = .ok (.iload_n 2, 1) := dk_28 (dk_at dksX1_worth_0 2 rfl rfl)
theorem dX1_worth_3 : decode cX1_worth 3 = .ok (.invokevirtual 114, 3) := dk_182 0 114 (dk_at dksX1_worth_0 3 rfl rfl)
theorem dX1_worth_6 : decode cX1_worth 6 = .ok (.astore 4, 2) := dk_58 4 (dk_at dksX1_worth_0 6 rfl rfl)
theorem dX1_worth_8 : decode cX1_worth 8 = .ok (.aload_n 0, 1) := dk_42 (dk_at dksX1_worth_0 8 rfl rfl)
theorem dX1_worth_9 : decode cX1_worth 9 = .ok (.iload_n 3, 1) := dk_29 (dk_at dksX1_worth_0 9 rfl rfl)
theorem dX1_worth_10 : decode cX1_worth 10 = .ok (.invokevirtual 162, 3) := dk_182 0 162 (dk_at dksX1_worth_0 10 rfl rfl)
theorem dX1_worth_13 : decode cX1_worth 13 = .ok (.astore 5, 2) := dk_58 5 (dk_at dksX1_worth_0 13 rfl rfl)
theorem dX1_worth_15 : decode cX1_worth 15 = .ok (.aload 5, 2) := dk_25 5 (dk_at dksX1_worth_0 15 rfl rfl)
theorem dX1_worth_17 : decode cX1_worth 17 = .ok (.getfield 169, 3) := dk_180 0 169 (dk_at dksX1_worth_0 17 rfl rfl)
theorem dX1_worth_20 : decode cX1_worth 20 = .ok (.iconst (-1), 1) := dk_2 (dk_at dksX1_worth_0 20 rfl rfl)
theorem dX1_worth_21 : decode cX1_worth 21 = .ok (.if_icmp .ne 7, 3) := dk_160 0 7 (dk_at dksX1_worth_0 21 rfl rfl)
theorem dX1_worth_24 : decode cX1_worth 24 = .ok (.iconst 1, 1) := dk_4 (dk_at dksX1_worth_1 0 rfl rfl)
theorem dX1_worth_25 : decode cX1_worth 25 = .ok (.goto 4, 3) := dk_167 0 4 (dk_at dksX1_worth_1 1 rfl rfl)
theorem dX1_worth_28 : decode cX1_worth 28 = .ok (.iconst 0, 1) := dk_3 (dk_at dksX1_worth_1 4 rfl rfl)
theorem dX1_worth_29 : decode cX1_worth 29 = .ok (.invokestatic 102, 3) := dk_184 0 102 (dk_at dksX1_worth_1 5 rfl rfl)
theorem dX1_worth_32 : decode cX1_worth 32 = .ok (.aload 5, 2) := dk_25 5 (dk_at dksX1_worth_1 8 rfl rfl)
theorem dX1_worth_34 : decode cX1_worth 34 = .ok (.aload_n 0, 1) := dk_42 (dk_at dksX1_worth_1 10 rfl rfl)
theorem dX1_worth_35 : decode cX1_worth 35 = .ok (.getfield 172, 3) := dk_180 0 172 (dk_at dksX1_worth_1 11 rfl rfl)
theorem dX1_worth_38 : decode cX1_worth 38 = .ok (.aload 4, 2) := dk_25 4 (dk_at dksX1_worth_1 14 rfl rfl)
theorem dX1_worth_40 : decode cX1_worth 40 = .ok (.getfield 175, 3) := dk_180 0 175 (dk_at dksX1_worth_1 16 rfl rfl)
theorem dX1_worth_43 : decode cX1_worth 43 = .ok (.invokevirtual 178, 3) := dk_182 0 178 (dk_at dksX1_worth_1 19 rfl rfl)
theorem dX1_worth_46 : decode cX1_worth 46 = .ok (.aload_n 0, 1) := dk_42 (dk_at dksX1_worth_1 22 rfl rfl)
theorem dX1_worth_47 : decode cX1_worth 47 = .ok (.aload 4, 2) := dk_25 4 (dk_at dksX1_worth_2 0 rfl rfl)
theorem dX1_worth_49 : decode cX1_worth 49 = .ok (.iload_n 2, 1) := dk_28 (dk_at dksX1_worth_2 2 rfl rfl)
theorem dX1_worth_50 : decode cX1_worth 50 = .ok (.invokevirtual 241, 3) := dk_182 0 241 (dk_at dksX1_worth_2 3 rfl rfl)
theorem dX1_worth_53 : decode cX1_worth 53 = .ok (.isub, 1) := dk_100 (dk_at dksX1_worth_2 6 rfl rfl)
theorem dX1_worth_54 : decode cX1_worth 54 = .ok (.ireturn, 1) := dk_172 (dk_at dksX1_worth_2 7 rfl rfl)
abbrev cX1_bestWorth : ByteArray := prog_1_method_49_code
def yX1_bestWorth : MethodName := ⟨RX1, "bestWorth", "(II)I"⟩
def dkwX1_bestWorth_0 : List UInt8 := [42, 27, 182, 0, 84, 78, 28, 3, 6, 184, 0, 45, 184, 0, 49, 42, 45, 28, 182, 1, 3, 172]
abbrev dktX1_bestWorth_0 : List UInt8 := dkwX1_bestWorth_0 ++ []
theorem dksX1_bestWorth_0 : cX1_bestWorth.data.toList.drop 0 = dktX1_bestWorth_0 := by decide +kernel
theorem dX1_bestWorth_0 : decode cX1_bestWorth 0 = .ok (.aload_n 0, 1) := dk_42 (dk_at dksX1_bestWorth_0 0 rfl rfl)
theorem dX1_bestWorth_1 : decode cX1_bestWorth 1 = .ok (.iload_n 1, 1) := dk_27 (dk_at dksX1_bestWorth_0 1 rfl rfl)
theorem dX1_bestWorth_2 : decode cX1_bestWorth 2 = .ok (.invokevirtual 84, 3) := dk_182 0 84 (dk_at dksX1_bestWorth_0 2 rfl rfl)
theorem dX1_bestWorth_5 : decode cX1_bestWorth 5 = .ok (.astore_n 3, 1) := dk_78 (dk_at dksX1_bestWorth_0 5 rfl rfl)
theorem dX1_bestWorth_6 : decode cX1_bestWorth 6 = .ok (.iload_n 2, 1) := dk_28 (dk_at dksX1_bestWorth_0 6 rfl rfl)
theorem dX1_bestWorth_7 : decode cX1_bestWorth 7 = .ok (.iconst 0, 1) := dk_3 (dk_at dksX1_bestWorth_0 7 rfl rfl)
theorem dX1_bestWorth_8 : decode cX1_bestWorth 8 = .ok (.iconst 3, 1) := dk_6 (dk_at dksX1_bestWorth_0 8 rfl rfl)
theorem dX1_bestWorth_9 : decode cX1_bestWorth 9 = .ok (.invokestatic 45, 3) := dk_184 0 45 (dk_at dksX1_bestWorth_0 9 rfl rfl)
theorem dX1_bestWorth_12 : decode cX1_bestWorth 12 = .ok (.invokestatic 49, 3) := dk_184 0 49 (dk_at dksX1_bestWorth_0 12 rfl rfl)
theorem dX1_bestWorth_15 : decode cX1_bestWorth 15 = .ok (.aload_n 0, 1) := dk_42 (dk_at dksX1_bestWorth_0 15 rfl rfl)
theorem dX1_bestWorth_16 : decode cX1_bestWorth 16 = .ok (.aload_n 3, 1) := dk_45 (dk_at dksX1_bestWorth_0 16 rfl rfl)
theorem dX1_bestWorth_17 : decode cX1_bestWorth 17 = .ok (.iload_n 2, 1) := dk_28 (dk_at dksX1_bestWorth_0 17 rfl rfl)
theorem dX1_bestWorth_18 : decode cX1_bestWorth 18 = .ok (.invokevirtual 259, 3) := dk_182 1 3 (dk_at dksX1_bestWorth_0 18 rfl rfl)
theorem dX1_bestWorth_21 : decode cX1_bestWorth 21 = .ok (.ireturn, 1) := dk_172 (dk_at dksX1_bestWorth_0 21 rfl rfl)
abbrev cX1_wornShare : ByteArray := prog_1_method_50_code
def yX1_wornShare : MethodName := ⟨RX1, "wornShare", "()F"⟩
def dkwX1_wornShare_4 : List UInt8 := [184, 1, 6, 27, 134, 28, 134, 110, 174]
abbrev dktX1_wornShare_4 : List UInt8 := dkwX1_wornShare_4 ++ []
def dkwX1_wornShare_3 : List UInt8 := [153, 0, 7, 4, 167, 0, 4, 3, 96, 60, 167, 255, 192, 28, 158, 0, 7, 4, 167, 0, 4, 3]
abbrev dktX1_wornShare_3 : List UInt8 := dkwX1_wornShare_3 ++ dktX1_wornShare_4
def dkwX1_wornShare_2 : List UInt8 := [167, 0, 4, 4, 96, 61, 27, 25, 4, 180, 0, 169, 16, 254, 159, 0, 15, 25, 4, 182, 0, 149]
abbrev dktX1_wornShare_2 : List UInt8 := dkwX1_wornShare_2 ++ dktX1_wornShare_3
def dkwX1_wornShare_1 : List UInt8 := [185, 0, 191, 1, 0, 192, 0, 60, 58, 4, 28, 25, 4, 180, 0, 169, 16, 254, 160, 0, 7, 3]
abbrev dktX1_wornShare_1 : List UInt8 := dkwX1_wornShare_1 ++ dktX1_wornShare_2
def dkwX1_wornShare_0 : List UInt8 := [3, 60, 3, 61, 42, 180, 0, 28, 182, 0, 182, 78, 45, 185, 0, 186, 1, 0, 153, 0, 61, 45]
abbrev dktX1_wornShare_0 : List UInt8 := dkwX1_wornShare_0 ++ dktX1_wornShare_1
theorem dksX1_wornShare_0 : cX1_wornShare.data.toList.drop 0 = dktX1_wornShare_0 := by decide +kernel
theorem dksX1_wornShare_1 : cX1_wornShare.data.toList.drop 22 = dktX1_wornShare_1 := dk_seg dksX1_wornShare_0 22 rfl rfl
theorem dksX1_wornShare_2 : cX1_wornShare.data.toList.drop 44 = dktX1_wornShare_2 := dk_seg dksX1_wornShare_1 22 rfl rfl
theorem dksX1_wornShare_3 : cX1_wornShare.data.toList.drop 66 = dktX1_wornShare_3 := dk_seg dksX1_wornShare_2 22 rfl rfl
theorem dksX1_wornShare_4 : cX1_wornShare.data.toList.drop 88 = dktX1_wornShare_4 := dk_seg dksX1_wornShare_3 22 rfl rfl
theorem dX1_wornShare_0 : decode cX1_wornShare 0 = .ok (.iconst 0, 1) := dk_3 (dk_at dksX1_wornShare_0 0 rfl rfl)
theorem dX1_wornShare_1 : decode cX1_wornShare 1 = .ok (.istore_n 1, 1) := dk_60 (dk_at dksX1_wornShare_0 1 rfl rfl)
theorem dX1_wornShare_2 : decode cX1_wornShare 2 = .ok (.iconst 0, 1) := dk_3 (dk_at dksX1_wornShare_0 2 rfl rfl)
theorem dX1_wornShare_3 : decode cX1_wornShare 3 = .ok (.istore_n 2, 1) := dk_61 (dk_at dksX1_wornShare_0 3 rfl rfl)
theorem dX1_wornShare_4 : decode cX1_wornShare 4 = .ok (.aload_n 0, 1) := dk_42 (dk_at dksX1_wornShare_0 4 rfl rfl)
theorem dX1_wornShare_5 : decode cX1_wornShare 5 = .ok (.getfield 28, 3) := dk_180 0 28 (dk_at dksX1_wornShare_0 5 rfl rfl)
theorem dX1_wornShare_8 : decode cX1_wornShare 8 = .ok (.invokevirtual 182, 3) := dk_182 0 182 (dk_at dksX1_wornShare_0 8 rfl rfl)
theorem dX1_wornShare_11 : decode cX1_wornShare 11 = .ok (.astore_n 3, 1) := dk_78 (dk_at dksX1_wornShare_0 11 rfl rfl)
theorem dX1_wornShare_12 : decode cX1_wornShare 12 = .ok (.aload_n 3, 1) := dk_45 (dk_at dksX1_wornShare_0 12 rfl rfl)
theorem dX1_wornShare_13 : decode cX1_wornShare 13 = .ok (.invokeinterface 186 1, 5) := by decide +kernel
theorem dX1_wornShare_18 : decode cX1_wornShare 18 = .ok (.ifCond .eq 61, 3) := dk_153 0 61 (dk_at dksX1_wornShare_0 18 rfl rfl)
theorem dX1_wornShare_21 : decode cX1_wornShare 21 = .ok (.aload_n 3, 1) := dk_45 (dk_at dksX1_wornShare_0 21 rfl rfl)
theorem dX1_wornShare_22 : decode cX1_wornShare 22 = .ok (.invokeinterface 191 1, 5) := by decide +kernel
theorem dX1_wornShare_27 : decode cX1_wornShare 27 = .ok (.checkcast 60, 3) := dk_192 0 60 (dk_at dksX1_wornShare_1 5 rfl rfl)
theorem dX1_wornShare_30 : decode cX1_wornShare 30 = .ok (.astore 4, 2) := dk_58 4 (dk_at dksX1_wornShare_1 8 rfl rfl)
theorem dX1_wornShare_32 : decode cX1_wornShare 32 = .ok (.iload_n 2, 1) := dk_28 (dk_at dksX1_wornShare_1 10 rfl rfl)
theorem dX1_wornShare_33 : decode cX1_wornShare 33 = .ok (.aload 4, 2) := dk_25 4 (dk_at dksX1_wornShare_1 11 rfl rfl)
theorem dX1_wornShare_35 : decode cX1_wornShare 35 = .ok (.getfield 169, 3) := dk_180 0 169 (dk_at dksX1_wornShare_1 13 rfl rfl)
theorem dX1_wornShare_38 : decode cX1_wornShare 38 = .ok (.bipush (-2), 2) := dk_16 254 (dk_at dksX1_wornShare_1 16 rfl rfl)
theorem dX1_wornShare_40 : decode cX1_wornShare 40 = .ok (.if_icmp .ne 7, 3) := dk_160 0 7 (dk_at dksX1_wornShare_1 18 rfl rfl)
theorem dX1_wornShare_43 : decode cX1_wornShare 43 = .ok (.iconst 0, 1) := dk_3 (dk_at dksX1_wornShare_1 21 rfl rfl)
theorem dX1_wornShare_44 : decode cX1_wornShare 44 = .ok (.goto 4, 3) := dk_167 0 4 (dk_at dksX1_wornShare_2 0 rfl rfl)
theorem dX1_wornShare_47 : decode cX1_wornShare 47 = .ok (.iconst 1, 1) := dk_4 (dk_at dksX1_wornShare_2 3 rfl rfl)
theorem dX1_wornShare_48 : decode cX1_wornShare 48 = .ok (.iadd, 1) := dk_96 (dk_at dksX1_wornShare_2 4 rfl rfl)
theorem dX1_wornShare_49 : decode cX1_wornShare 49 = .ok (.istore_n 2, 1) := dk_61 (dk_at dksX1_wornShare_2 5 rfl rfl)
theorem dX1_wornShare_50 : decode cX1_wornShare 50 = .ok (.iload_n 1, 1) := dk_27 (dk_at dksX1_wornShare_2 6 rfl rfl)
theorem dX1_wornShare_51 : decode cX1_wornShare 51 = .ok (.aload 4, 2) := dk_25 4 (dk_at dksX1_wornShare_2 7 rfl rfl)
theorem dX1_wornShare_53 : decode cX1_wornShare 53 = .ok (.getfield 169, 3) := dk_180 0 169 (dk_at dksX1_wornShare_2 9 rfl rfl)
theorem dX1_wornShare_56 : decode cX1_wornShare 56 = .ok (.bipush (-2), 2) := dk_16 254 (dk_at dksX1_wornShare_2 12 rfl rfl)
theorem dX1_wornShare_58 : decode cX1_wornShare 58 = .ok (.if_icmp .eq 15, 3) := dk_159 0 15 (dk_at dksX1_wornShare_2 14 rfl rfl)
theorem dX1_wornShare_61 : decode cX1_wornShare 61 = .ok (.aload 4, 2) := dk_25 4 (dk_at dksX1_wornShare_2 17 rfl rfl)
theorem dX1_wornShare_63 : decode cX1_wornShare 63 = .ok (.invokevirtual 149, 3) := dk_182 0 149 (dk_at dksX1_wornShare_2 19 rfl rfl)
theorem dX1_wornShare_66 : decode cX1_wornShare 66 = .ok (.ifCond .eq 7, 3) := dk_153 0 7 (dk_at dksX1_wornShare_3 0 rfl rfl)
theorem dX1_wornShare_69 : decode cX1_wornShare 69 = .ok (.iconst 1, 1) := dk_4 (dk_at dksX1_wornShare_3 3 rfl rfl)
theorem dX1_wornShare_70 : decode cX1_wornShare 70 = .ok (.goto 4, 3) := dk_167 0 4 (dk_at dksX1_wornShare_3 4 rfl rfl)
theorem dX1_wornShare_73 : decode cX1_wornShare 73 = .ok (.iconst 0, 1) := dk_3 (dk_at dksX1_wornShare_3 7 rfl rfl)
theorem dX1_wornShare_74 : decode cX1_wornShare 74 = .ok (.iadd, 1) := dk_96 (dk_at dksX1_wornShare_3 8 rfl rfl)
theorem dX1_wornShare_75 : decode cX1_wornShare 75 = .ok (.istore_n 1, 1) := dk_60 (dk_at dksX1_wornShare_3 9 rfl rfl)
theorem dX1_wornShare_76 : decode cX1_wornShare 76 = .ok (.goto (-64), 3) := dk_167 255 192 (dk_at dksX1_wornShare_3 10 rfl rfl)
theorem dX1_wornShare_79 : decode cX1_wornShare 79 = .ok (.iload_n 2, 1) := dk_28 (dk_at dksX1_wornShare_3 13 rfl rfl)
theorem dX1_wornShare_80 : decode cX1_wornShare 80 = .ok (.ifCond .le 7, 3) := dk_158 0 7 (dk_at dksX1_wornShare_3 14 rfl rfl)
theorem dX1_wornShare_83 : decode cX1_wornShare 83 = .ok (.iconst 1, 1) := dk_4 (dk_at dksX1_wornShare_3 17 rfl rfl)
theorem dX1_wornShare_84 : decode cX1_wornShare 84 = .ok (.goto 4, 3) := dk_167 0 4 (dk_at dksX1_wornShare_3 18 rfl rfl)
theorem dX1_wornShare_87 : decode cX1_wornShare 87 = .ok (.iconst 0, 1) := dk_3 (dk_at dksX1_wornShare_3 21 rfl rfl)
theorem dX1_wornShare_88 : decode cX1_wornShare 88 = .ok (.invokestatic 262, 3) := dk_184 1 6 (dk_at dksX1_wornShare_4 0 rfl rfl)
theorem dX1_wornShare_91 : decode cX1_wornShare 91 = .ok (.iload_n 1, 1) := dk_27 (dk_at dksX1_wornShare_4 3 rfl rfl)
theorem dX1_wornShare_92 : decode cX1_wornShare 92 = .ok (.i2f, 1) := dk_134 (dk_at dksX1_wornShare_4 4 rfl rfl)
theorem dX1_wornShare_93 : decode cX1_wornShare 93 = .ok (.iload_n 2, 1) := dk_28 (dk_at dksX1_wornShare_4 5 rfl rfl)
theorem dX1_wornShare_94 : decode cX1_wornShare 94 = .ok (.i2f, 1) := dk_134 (dk_at dksX1_wornShare_4 6 rfl rfl)
theorem dX1_wornShare_95 : decode cX1_wornShare 95 = .ok (.fdiv, 1) := dk_110 (dk_at dksX1_wornShare_4 7 rfl rfl)
theorem dX1_wornShare_96 : decode cX1_wornShare 96 = .ok (.freturn, 1) := dk_174 (dk_at dksX1_wornShare_4 8 rfl rfl)
abbrev cX1_requireSome : ByteArray := prog_1_method_7_code
def yX1_requireSome : MethodName := ⟨RX1, "requireSome", "(Z)V"⟩
def dkwX1_requireSome_0 : List UInt8 := [26, 154, 0, 11, 187, 0, 19, 89, 183, 0, 21, 191, 177]
abbrev dktX1_requireSome_0 : List UInt8 := dkwX1_requireSome_0 ++ []
theorem dksX1_requireSome_0 : cX1_requireSome.data.toList.drop 0 = dktX1_requireSome_0 := by decide +kernel
theorem dX1_requireSome_0 : decode cX1_requireSome 0 = .ok (.iload_n 0, 1) := dk_26 (dk_at dksX1_requireSome_0 0 rfl rfl)
theorem dX1_requireSome_1 : decode cX1_requireSome 1 = .ok (.ifCond .ne 11, 3) := dk_154 0 11 (dk_at dksX1_requireSome_0 1 rfl rfl)
theorem dX1_requireSome_4 : decode cX1_requireSome 4 = .ok (.new 19, 3) := dk_187 0 19 (dk_at dksX1_requireSome_0 4 rfl rfl)
theorem dX1_requireSome_7 : decode cX1_requireSome 7 = .ok (.dup, 1) := dk_89 (dk_at dksX1_requireSome_0 7 rfl rfl)
theorem dX1_requireSome_8 : decode cX1_requireSome 8 = .ok (.invokespecial 21, 3) := dk_183 0 21 (dk_at dksX1_requireSome_0 8 rfl rfl)
theorem dX1_requireSome_11 : decode cX1_requireSome 11 = .ok (.athrow, 1) := dk_191 (dk_at dksX1_requireSome_0 11 rfl rfl)
theorem dX1_requireSome_12 : decode cX1_requireSome 12 = .ok (.return_, 1) := dk_177 (dk_at dksX1_requireSome_0 12 rfl rfl)
abbrev cX1_meanPull : ByteArray := prog_1_method_51_code
def yX1_meanPull : MethodName := ⟨RX1, "meanPull", "()D"⟩
def dkwX1_meanPull_4 : List UInt8 := [27, 135, 28, 135, 111, 175]
abbrev dktX1_meanPull_4 : List UInt8 := dkwX1_meanPull_4 ++ []
def dkwX1_meanPull_3 : List UInt8 := [4, 96, 61, 132, 5, 1, 167, 255, 215, 167, 255, 189, 28, 158, 0, 7, 4, 167, 0, 4, 3, 184, 1, 6]
abbrev dktX1_meanPull_3 : List UInt8 := dkwX1_meanPull_3 ++ dktX1_meanPull_4
def dkwX1_meanPull_2 : List UInt8 := [21, 5, 182, 0, 241, 96, 60, 28, 25, 4, 180, 0, 117, 21, 5, 46, 2, 160, 0, 7, 3, 167, 0, 4]
abbrev dktX1_meanPull_2 : List UInt8 := dkwX1_meanPull_2 ++ dktX1_meanPull_3
def dkwX1_meanPull_1 : List UInt8 := [185, 0, 191, 1, 0, 192, 0, 69, 58, 4, 3, 54, 5, 21, 5, 16, 10, 162, 0, 40, 27, 42, 25, 4]
abbrev dktX1_meanPull_1 : List UInt8 := dkwX1_meanPull_1 ++ dktX1_meanPull_2
def dkwX1_meanPull_0 : List UInt8 := [3, 60, 3, 61, 42, 180, 0, 34, 182, 0, 182, 78, 45, 185, 0, 186, 1, 0, 153, 0, 64, 45]
abbrev dktX1_meanPull_0 : List UInt8 := dkwX1_meanPull_0 ++ dktX1_meanPull_1
theorem dksX1_meanPull_0 : cX1_meanPull.data.toList.drop 0 = dktX1_meanPull_0 := by decide +kernel
theorem dksX1_meanPull_1 : cX1_meanPull.data.toList.drop 22 = dktX1_meanPull_1 := dk_seg dksX1_meanPull_0 22 rfl rfl
theorem dksX1_meanPull_2 : cX1_meanPull.data.toList.drop 46 = dktX1_meanPull_2 := dk_seg dksX1_meanPull_1 24 rfl rfl
theorem dksX1_meanPull_3 : cX1_meanPull.data.toList.drop 70 = dktX1_meanPull_3 := dk_seg dksX1_meanPull_2 24 rfl rfl
theorem dksX1_meanPull_4 : cX1_meanPull.data.toList.drop 94 = dktX1_meanPull_4 := dk_seg dksX1_meanPull_3 24 rfl rfl
theorem dX1_meanPull_0 : decode cX1_meanPull 0 = .ok (.iconst 0, 1) := dk_3 (dk_at dksX1_meanPull_0 0 rfl rfl)
theorem dX1_meanPull_1 : decode cX1_meanPull 1 = .ok (.istore_n 1, 1) := dk_60 (dk_at dksX1_meanPull_0 1 rfl rfl)
theorem dX1_meanPull_2 : decode cX1_meanPull 2 = .ok (.iconst 0, 1) := dk_3 (dk_at dksX1_meanPull_0 2 rfl rfl)
theorem dX1_meanPull_3 : decode cX1_meanPull 3 = .ok (.istore_n 2, 1) := dk_61 (dk_at dksX1_meanPull_0 3 rfl rfl)
theorem dX1_meanPull_4 : decode cX1_meanPull 4 = .ok (.aload_n 0, 1) := dk_42 (dk_at dksX1_meanPull_0 4 rfl rfl)
theorem dX1_meanPull_5 : decode cX1_meanPull 5 = .ok (.getfield 34, 3) := dk_180 0 34 (dk_at dksX1_meanPull_0 5 rfl rfl)
theorem dX1_meanPull_8 : decode cX1_meanPull 8 = .ok (.invokevirtual 182, 3) := dk_182 0 182 (dk_at dksX1_meanPull_0 8 rfl rfl)
theorem dX1_meanPull_11 : decode cX1_meanPull 11 = .ok (.astore_n 3, 1) := dk_78 (dk_at dksX1_meanPull_0 11 rfl rfl)
theorem dX1_meanPull_12 : decode cX1_meanPull 12 = .ok (.aload_n 3, 1) := dk_45 (dk_at dksX1_meanPull_0 12 rfl rfl)
theorem dX1_meanPull_13 : decode cX1_meanPull 13 = .ok (.invokeinterface 186 1, 5) := by decide +kernel
theorem dX1_meanPull_18 : decode cX1_meanPull 18 = .ok (.ifCond .eq 64, 3) := dk_153 0 64 (dk_at dksX1_meanPull_0 18 rfl rfl)
theorem dX1_meanPull_21 : decode cX1_meanPull 21 = .ok (.aload_n 3, 1) := dk_45 (dk_at dksX1_meanPull_0 21 rfl rfl)
theorem dX1_meanPull_22 : decode cX1_meanPull 22 = .ok (.invokeinterface 191 1, 5) := by decide +kernel
theorem dX1_meanPull_27 : decode cX1_meanPull 27 = .ok (.checkcast 69, 3) := dk_192 0 69 (dk_at dksX1_meanPull_1 5 rfl rfl)
theorem dX1_meanPull_30 : decode cX1_meanPull 30 = .ok (.astore 4, 2) := dk_58 4 (dk_at dksX1_meanPull_1 8 rfl rfl)
theorem dX1_meanPull_32 : decode cX1_meanPull 32 = .ok (.iconst 0, 1) := dk_3 (dk_at dksX1_meanPull_1 10 rfl rfl)
theorem dX1_meanPull_33 : decode cX1_meanPull 33 = .ok (.istore 5, 2) := dk_54 5 (dk_at dksX1_meanPull_1 11 rfl rfl)
theorem dX1_meanPull_35 : decode cX1_meanPull 35 = .ok (.iload 5, 2) := dk_21 5 (dk_at dksX1_meanPull_1 13 rfl rfl)
theorem dX1_meanPull_37 : decode cX1_meanPull 37 = .ok (.bipush 10, 2) := dk_16 10 (dk_at dksX1_meanPull_1 15 rfl rfl)
theorem dX1_meanPull_39 : decode cX1_meanPull 39 = .ok (.if_icmp .ge 40, 3) := dk_162 0 40 (dk_at dksX1_meanPull_1 17 rfl rfl)
theorem dX1_meanPull_42 : decode cX1_meanPull 42 = .ok (.iload_n 1, 1) := dk_27 (dk_at dksX1_meanPull_1 20 rfl rfl)
theorem dX1_meanPull_43 : decode cX1_meanPull 43 = .ok (.aload_n 0, 1) := dk_42 (dk_at dksX1_meanPull_1 21 rfl rfl)
theorem dX1_meanPull_44 : decode cX1_meanPull 44 = .ok (.aload 4, 2) := dk_25 4 (dk_at dksX1_meanPull_1 22 rfl rfl)
theorem dX1_meanPull_46 : decode cX1_meanPull 46 = .ok (.iload 5, 2) := dk_21 5 (dk_at dksX1_meanPull_2 0 rfl rfl)
theorem dX1_meanPull_48 : decode cX1_meanPull 48 = .ok (.invokevirtual 241, 3) := dk_182 0 241 (dk_at dksX1_meanPull_2 2 rfl rfl)
theorem dX1_meanPull_51 : decode cX1_meanPull 51 = .ok (.iadd, 1) := dk_96 (dk_at dksX1_meanPull_2 5 rfl rfl)
theorem dX1_meanPull_52 : decode cX1_meanPull 52 = .ok (.istore_n 1, 1) := dk_60 (dk_at dksX1_meanPull_2 6 rfl rfl)
theorem dX1_meanPull_53 : decode cX1_meanPull 53 = .ok (.iload_n 2, 1) := dk_28 (dk_at dksX1_meanPull_2 7 rfl rfl)
theorem dX1_meanPull_54 : decode cX1_meanPull 54 = .ok (.aload 4, 2) := dk_25 4 (dk_at dksX1_meanPull_2 8 rfl rfl)
theorem dX1_meanPull_56 : decode cX1_meanPull 56 = .ok (.getfield 117, 3) := dk_180 0 117 (dk_at dksX1_meanPull_2 10 rfl rfl)
theorem dX1_meanPull_59 : decode cX1_meanPull 59 = .ok (.iload 5, 2) := dk_21 5 (dk_at dksX1_meanPull_2 13 rfl rfl)
theorem dX1_meanPull_61 : decode cX1_meanPull 61 = .ok (.iaload, 1) := dk_46 (dk_at dksX1_meanPull_2 15 rfl rfl)
theorem dX1_meanPull_62 : decode cX1_meanPull 62 = .ok (.iconst (-1), 1) := dk_2 (dk_at dksX1_meanPull_2 16 rfl rfl)
theorem dX1_meanPull_63 : decode cX1_meanPull 63 = .ok (.if_icmp .ne 7, 3) := dk_160 0 7 (dk_at dksX1_meanPull_2 17 rfl rfl)
theorem dX1_meanPull_66 : decode cX1_meanPull 66 = .ok (.iconst 0, 1) := dk_3 (dk_at dksX1_meanPull_2 20 rfl rfl)
theorem dX1_meanPull_67 : decode cX1_meanPull 67 = .ok (.goto 4, 3) := dk_167 0 4 (dk_at dksX1_meanPull_2 21 rfl rfl)
theorem dX1_meanPull_70 : decode cX1_meanPull 70 = .ok (.iconst 1, 1) := dk_4 (dk_at dksX1_meanPull_3 0 rfl rfl)
theorem dX1_meanPull_71 : decode cX1_meanPull 71 = .ok (.iadd, 1) := dk_96 (dk_at dksX1_meanPull_3 1 rfl rfl)
theorem dX1_meanPull_72 : decode cX1_meanPull 72 = .ok (.istore_n 2, 1) := dk_61 (dk_at dksX1_meanPull_3 2 rfl rfl)
theorem dX1_meanPull_73 : decode cX1_meanPull 73 = .ok (.iinc 5 1, 3) := dk_132 5 1 (dk_at dksX1_meanPull_3 3 rfl rfl)
theorem dX1_meanPull_76 : decode cX1_meanPull 76 = .ok (.goto (-41), 3) := dk_167 255 215 (dk_at dksX1_meanPull_3 6 rfl rfl)
theorem dX1_meanPull_79 : decode cX1_meanPull 79 = .ok (.goto (-67), 3) := dk_167 255 189 (dk_at dksX1_meanPull_3 9 rfl rfl)
theorem dX1_meanPull_82 : decode cX1_meanPull 82 = .ok (.iload_n 2, 1) := dk_28 (dk_at dksX1_meanPull_3 12 rfl rfl)
theorem dX1_meanPull_83 : decode cX1_meanPull 83 = .ok (.ifCond .le 7, 3) := dk_158 0 7 (dk_at dksX1_meanPull_3 13 rfl rfl)
theorem dX1_meanPull_86 : decode cX1_meanPull 86 = .ok (.iconst 1, 1) := dk_4 (dk_at dksX1_meanPull_3 16 rfl rfl)
theorem dX1_meanPull_87 : decode cX1_meanPull 87 = .ok (.goto 4, 3) := dk_167 0 4 (dk_at dksX1_meanPull_3 17 rfl rfl)
theorem dX1_meanPull_90 : decode cX1_meanPull 90 = .ok (.iconst 0, 1) := dk_3 (dk_at dksX1_meanPull_3 20 rfl rfl)
theorem dX1_meanPull_91 : decode cX1_meanPull 91 = .ok (.invokestatic 262, 3) := dk_184 1 6 (dk_at dksX1_meanPull_3 21 rfl rfl)
theorem dX1_meanPull_94 : decode cX1_meanPull 94 = .ok (.iload_n 1, 1) := dk_27 (dk_at dksX1_meanPull_4 0 rfl rfl)
theorem dX1_meanPull_95 : decode cX1_meanPull 95 = .ok (.i2d, 1) := dk_135 (dk_at dksX1_meanPull_4 1 rfl rfl)
theorem dX1_meanPull_96 : decode cX1_meanPull 96 = .ok (.iload_n 2, 1) := dk_28 (dk_at dksX1_meanPull_4 2 rfl rfl)
theorem dX1_meanPull_97 : decode cX1_meanPull 97 = .ok (.i2d, 1) := dk_135 (dk_at dksX1_meanPull_4 3 rfl rfl)
theorem dX1_meanPull_98 : decode cX1_meanPull 98 = .ok (.ddiv, 1) := dk_111 (dk_at dksX1_meanPull_4 4 rfl rfl)
theorem dX1_meanPull_99 : decode cX1_meanPull 99 = .ok (.dreturn, 1) := dk_175 (dk_at dksX1_meanPull_4 5 rfl rfl)
theorem q24 : (Jvm.Cond.initialized "SelectoRoute") ∈ lw_all := lw_g (lw_at lw_m1 1 rfl) rfl
theorem q57 : (Jvm.Cond.instantiable "SelectoRoute" (7 : Nat)) ∈ lw_all := lw_g (lw_at lw_m1 34 rfl) rfl
theorem q59 : (Jvm.Cond.instanceMethod ({ cls := "SelectoRoute", name := "<init>", desc := "()V" } : Jvm.MethodName)) ∈ lw_all := lw_g (lw_at lw_m1 36 rfl) rfl
theorem q60 : (Jvm.Cond.code ({ cls := "SelectoRoute", name := "<init>", desc := "()V" } : Jvm.MethodName) prog_1_method_8_code (1 : Nat) (Option.none : Option Jvm.ClassFile.FieldType)) ∈ lw_all := lw_g (lw_at lw_m1 37 rfl) rfl
theorem q61 : (Jvm.Cond.methodLink "SelectoRoute" (22 : Nat) ({ cls := "java/lang/Object", name := "<init>", desc := "()V" } : Jvm.MethodName)) ∈ lw_all := lw_g (lw_at lw_m1 38 rfl) rfl
theorem q64 : (Jvm.Cond.classLink "SelectoRoute" (25 : Nat) "java/util/ArrayList") ∈ lw_all := lw_g (lw_at lw_m1 41 rfl) rfl
theorem q66 : (Jvm.Cond.methodLink "SelectoRoute" (27 : Nat) ({ cls := "java/util/ArrayList", name := "<init>", desc := "()V" } : Jvm.MethodName)) ∈ lw_all := lw_g (lw_at lw_m1 43 rfl) rfl
theorem q93 : (Jvm.Cond.fieldLink "SelectoRoute" (28 : Nat) "SelectoRoute" "discs" "Ljava/util/ArrayList;") ∈ lw_all := lw_g (lw_at lw_m1 70 rfl) rfl
theorem q94 : (Jvm.Cond.fieldLink "SelectoRoute" (34 : Nat) "SelectoRoute" "boxes" "Ljava/util/ArrayList;") ∈ lw_all := lw_g (lw_at lw_m1 71 rfl) rfl
theorem q95 : (Jvm.Cond.fieldLink "SelectoRoute" (172 : Nat) "SelectoRoute" "week" "I") ∈ lw_all := lw_g (lw_at lw_m1 72 rfl) rfl
theorem q96 : (Jvm.Cond.fieldLink "SelectoRoute" (37 : Nat) "SelectoRoute" "minutes" "I") ∈ lw_all := lw_g (lw_at lw_m1 73 rfl) rfl
theorem q97 : (Jvm.Cond.fieldLink "SelectoRoute" (229 : Nat) "SelectoRoute" "earned" "I") ∈ lw_all := lw_g (lw_at lw_m1 74 rfl) rfl
theorem q98 : (Jvm.Cond.fieldLink "SelectoRoute" (232 : Nat) "SelectoRoute" "taken" "I") ∈ lw_all := lw_g (lw_at lw_m1 75 rfl) rfl
theorem q99 : (Jvm.Cond.fieldLink "SelectoRoute" (41 : Nat) "SelectoRoute" "z" "J") ∈ lw_all := lw_g (lw_at lw_m1 76 rfl) rfl
theorem q100 : (Jvm.Cond.laysFinal "SelectoRoute" "SelectoRoute" "discs" "Ljava/util/ArrayList;") ∈ lw_all := lw_g (lw_at lw_m1 77 rfl) rfl
theorem q101 : (Jvm.Cond.soleField "SelectoRoute" "discs") ∈ lw_all := lw_g (lw_at lw_m1 78 rfl) rfl
theorem q102 : (Jvm.Cond.laysFinal "SelectoRoute" "SelectoRoute" "boxes" "Ljava/util/ArrayList;") ∈ lw_all := lw_g (lw_at lw_m1 79 rfl) rfl
theorem q103 : (Jvm.Cond.soleField "SelectoRoute" "boxes") ∈ lw_all := lw_g (lw_at lw_m1 80 rfl) rfl
theorem q104 : (Jvm.Cond.lays "SelectoRoute" "SelectoRoute" "week" "I") ∈ lw_all := lw_g (lw_at lw_m1 81 rfl) rfl
theorem q105 : (Jvm.Cond.soleField "SelectoRoute" "week") ∈ lw_all := lw_g (lw_at lw_m1 82 rfl) rfl
theorem q106 : (Jvm.Cond.lays "SelectoRoute" "SelectoRoute" "minutes" "I") ∈ lw_all := lw_g (lw_at lw_m1 83 rfl) rfl
theorem q107 : (Jvm.Cond.soleField "SelectoRoute" "minutes") ∈ lw_all := lw_g (lw_at lw_m1 84 rfl) rfl
theorem q108 : (Jvm.Cond.lays "SelectoRoute" "SelectoRoute" "earned" "I") ∈ lw_all := lw_g (lw_at lw_m1 85 rfl) rfl
theorem q109 : (Jvm.Cond.soleField "SelectoRoute" "earned") ∈ lw_all := lw_g (lw_at lw_m1 86 rfl) rfl
theorem q110 : (Jvm.Cond.lays "SelectoRoute" "SelectoRoute" "taken" "I") ∈ lw_all := lw_g (lw_at lw_m1 87 rfl) rfl
theorem q111 : (Jvm.Cond.soleField "SelectoRoute" "taken") ∈ lw_all := lw_g (lw_at lw_m1 88 rfl) rfl
theorem q112 : (Jvm.Cond.lays "SelectoRoute" "SelectoRoute" "z" "J") ∈ lw_all := lw_g (lw_at lw_m1 89 rfl) rfl
theorem q113 : (Jvm.Cond.soleField "SelectoRoute" "z") ∈ lw_all := lw_g (lw_at lw_m1 90 rfl) rfl
theorem q114 : (Jvm.Cond.superclass "SelectoRoute" "java/lang/Object") ∈ lw_all := lw_g (lw_at lw_m1 91 rfl) rfl
theorem q116 : (Jvm.Cond.instanceMethod ({ cls := "SelectoRoute", name := "getWeek", desc := "()I" } : Jvm.MethodName)) ∈ lw_all := lw_g (lw_at lw_m1 93 rfl) rfl
theorem q117 : (Jvm.Cond.selects "SelectoRoute" ({ cls := "SelectoRoute", name := "getWeek", desc := "()I" } : Jvm.MethodName) ({ cls := "SelectoRoute", name := "getWeek", desc := "()I" } : Jvm.MethodName)) ∈ lw_all := lw_g (lw_at lw_m1 94 rfl) rfl
theorem q118 : (Jvm.Cond.code ({ cls := "SelectoRoute", name := "getWeek", desc := "()I" } : Jvm.MethodName) prog_1_method_32_code (1 : Nat) (Option.some Jvm.ClassFile.FieldType.int)) ∈ lw_all := lw_g (lw_at lw_m1 95 rfl) rfl
theorem q120 : (Jvm.Cond.instanceMethod ({ cls := "SelectoRoute", name := "getMinutes", desc := "()I" } : Jvm.MethodName)) ∈ lw_all := lw_g (lw_at lw_m1 97 rfl) rfl
theorem q121 : (Jvm.Cond.selects "SelectoRoute" ({ cls := "SelectoRoute", name := "getMinutes", desc := "()I" } : Jvm.MethodName) ({ cls := "SelectoRoute", name := "getMinutes", desc := "()I" } : Jvm.MethodName)) ∈ lw_all := lw_g (lw_at lw_m1 98 rfl) rfl
theorem q122 : (Jvm.Cond.code ({ cls := "SelectoRoute", name := "getMinutes", desc := "()I" } : Jvm.MethodName) prog_1_method_33_code (1 : Nat) (Option.some Jvm.ClassFile.FieldType.int)) ∈ lw_all := lw_g (lw_at lw_m1 99 rfl) rfl
theorem q124 : (Jvm.Cond.instanceMethod ({ cls := "SelectoRoute", name := "getEarned", desc := "()I" } : Jvm.MethodName)) ∈ lw_all := lw_g (lw_at lw_m1 101 rfl) rfl
theorem q125 : (Jvm.Cond.selects "SelectoRoute" ({ cls := "SelectoRoute", name := "getEarned", desc := "()I" } : Jvm.MethodName) ({ cls := "SelectoRoute", name := "getEarned", desc := "()I" } : Jvm.MethodName)) ∈ lw_all := lw_g (lw_at lw_m1 102 rfl) rfl
theorem q126 : (Jvm.Cond.code ({ cls := "SelectoRoute", name := "getEarned", desc := "()I" } : Jvm.MethodName) prog_1_method_38_code (1 : Nat) (Option.some Jvm.ClassFile.FieldType.int)) ∈ lw_all := lw_g (lw_at lw_m1 103 rfl) rfl
theorem q128 : (Jvm.Cond.instanceMethod ({ cls := "SelectoRoute", name := "checksum", desc := "()J" } : Jvm.MethodName)) ∈ lw_all := lw_g (lw_at lw_m1 105 rfl) rfl
theorem q129 : (Jvm.Cond.selects "SelectoRoute" ({ cls := "SelectoRoute", name := "checksum", desc := "()J" } : Jvm.MethodName) ({ cls := "SelectoRoute", name := "checksum", desc := "()J" } : Jvm.MethodName)) ∈ lw_all := lw_g (lw_at lw_m1 106 rfl) rfl
theorem q130 : (Jvm.Cond.code ({ cls := "SelectoRoute", name := "checksum", desc := "()J" } : Jvm.MethodName) prog_1_method_52_code (5 : Nat) (Option.some Jvm.ClassFile.FieldType.long)) ∈ lw_all := lw_g (lw_at lw_m1 107 rfl) rfl
theorem q131 : (Jvm.Cond.constantLong "SelectoRoute" (265 : Nat) (7 : Int64)) ∈ lw_all := lw_g (lw_at lw_m1 108 rfl) rfl
theorem q132 : (Jvm.Cond.methodLink "SelectoRoute" (182 : Nat) ({ cls := "java/util/ArrayList", name := "iterator", desc := "()Ljava/util/Iterator;" } : Jvm.MethodName)) ∈ lw_all := lw_g (lw_at lw_m1 109 rfl) rfl
theorem q155 : (Jvm.Cond.interfaceEntry "SelectoRoute" (186 : Nat)) ∈ lw_tbl := lw_at lw_m1 132 rfl
theorem q156 : (Jvm.Cond.methodLink "SelectoRoute" (186 : Nat) ({ cls := "java/util/Iterator", name := "hasNext", desc := "()Z" } : Jvm.MethodName)) ∈ lw_all := lw_g (lw_at lw_m1 133 rfl) rfl
theorem q165 : (Jvm.Cond.interfaceEntry "SelectoRoute" (191 : Nat)) ∈ lw_tbl := lw_at lw_m1 142 rfl
theorem q166 : (Jvm.Cond.methodLink "SelectoRoute" (191 : Nat) ({ cls := "java/util/Iterator", name := "next", desc := "()Ljava/lang/Object;" } : Jvm.MethodName)) ∈ lw_all := lw_g (lw_at lw_m1 143 rfl) rfl
theorem q247 : (Jvm.Cond.classLink "SelectoRoute" (60 : Nat) "SelectoRoute$Disc") ∈ lw_all := lw_g (lw_at lw_m1 224 rfl) rfl
theorem q248 : (Jvm.Cond.constantLong "SelectoRoute" (267 : Nat) (31 : Int64)) ∈ lw_all := lw_g (lw_at lw_m1 225 rfl) rfl
theorem q249 : (Jvm.Cond.classLink "SelectoRoute" (69 : Nat) "SelectoRoute$Box") ∈ lw_all := lw_g (lw_at lw_m1 226 rfl) rfl
theorem q251 : (Jvm.Cond.instanceMethod ({ cls := "SelectoRoute", name := "isSound", desc := "()Z" } : Jvm.MethodName)) ∈ lw_all := lw_g (lw_at lw_m1 228 rfl) rfl
theorem q252 : (Jvm.Cond.selects "SelectoRoute" ({ cls := "SelectoRoute", name := "isSound", desc := "()Z" } : Jvm.MethodName) ({ cls := "SelectoRoute", name := "isSound", desc := "()Z" } : Jvm.MethodName)) ∈ lw_all := lw_g (lw_at lw_m1 229 rfl) rfl
theorem q253 : (Jvm.Cond.code ({ cls := "SelectoRoute", name := "isSound", desc := "()Z" } : Jvm.MethodName) prog_1_method_54_code (4 : Nat) (Option.some Jvm.ClassFile.FieldType.boolean)) ∈ lw_all := lw_g (lw_at lw_m1 230 rfl) rfl
theorem q254 : (Jvm.Cond.methodLink "SelectoRoute" (53 : Nat) ({ cls := "java/util/ArrayList", name := "size", desc := "()I" } : Jvm.MethodName)) ∈ lw_all := lw_g (lw_at lw_m1 231 rfl) rfl
theorem q258 : (Jvm.Cond.methodLink "SelectoRoute" (80 : Nat) ({ cls := "java/util/ArrayList", name := "get", desc := "(I)Ljava/lang/Object;" } : Jvm.MethodName)) ∈ lw_all := lw_g (lw_at lw_m1 235 rfl) rfl
theorem q272 : (Jvm.Cond.methodLink "SelectoRoute" (269 : Nat) ({ cls := "SelectoRoute", name := "isBoxSound", desc := "(LSelectoRoute$Box;I)Z" } : Jvm.MethodName)) ∈ lw_all := lw_g (lw_at lw_m2 9 rfl) rfl
theorem q273 : (Jvm.Cond.privateMethod ({ cls := "SelectoRoute", name := "isBoxSound", desc := "(LSelectoRoute$Box;I)Z" } : Jvm.MethodName)) ∈ lw_tbl := lw_at lw_m2 10 rfl
theorem q274 : (Jvm.Cond.instanceMethod ({ cls := "SelectoRoute", name := "isBoxSound", desc := "(LSelectoRoute$Box;I)Z" } : Jvm.MethodName)) ∈ lw_all := lw_g (lw_at lw_m2 11 rfl) rfl
theorem q275 : (Jvm.Cond.code ({ cls := "SelectoRoute", name := "isBoxSound", desc := "(LSelectoRoute$Box;I)Z" } : Jvm.MethodName) prog_1_method_53_code (8 : Nat) (Option.some Jvm.ClassFile.FieldType.boolean)) ∈ lw_all := lw_g (lw_at lw_m2 12 rfl) rfl
theorem q276 : (Jvm.Cond.methodLink "SelectoRoute" (259 : Nat) ({ cls := "SelectoRoute", name := "bestOf", desc := "(LSelectoRoute$Box;I)I" } : Jvm.MethodName)) ∈ lw_all := lw_g (lw_at lw_m2 13 rfl) rfl
theorem q277 : (Jvm.Cond.privateMethod ({ cls := "SelectoRoute", name := "bestOf", desc := "(LSelectoRoute$Box;I)I" } : Jvm.MethodName)) ∈ lw_tbl := lw_at lw_m2 14 rfl
theorem q278 : (Jvm.Cond.instanceMethod ({ cls := "SelectoRoute", name := "bestOf", desc := "(LSelectoRoute$Box;I)I" } : Jvm.MethodName)) ∈ lw_all := lw_g (lw_at lw_m2 15 rfl) rfl
theorem q279 : (Jvm.Cond.code ({ cls := "SelectoRoute", name := "bestOf", desc := "(LSelectoRoute$Box;I)I" } : Jvm.MethodName) prog_1_method_48_code (7 : Nat) (Option.some Jvm.ClassFile.FieldType.int)) ∈ lw_all := lw_g (lw_at lw_m2 16 rfl) rfl
theorem q280 : (Jvm.Cond.methodLink "SelectoRoute" (241 : Nat) ({ cls := "SelectoRoute", name := "pullOf", desc := "(LSelectoRoute$Box;I)I" } : Jvm.MethodName)) ∈ lw_all := lw_g (lw_at lw_m2 17 rfl) rfl
theorem q281 : (Jvm.Cond.privateMethod ({ cls := "SelectoRoute", name := "pullOf", desc := "(LSelectoRoute$Box;I)I" } : Jvm.MethodName)) ∈ lw_tbl := lw_at lw_m2 18 rfl
theorem q282 : (Jvm.Cond.instanceMethod ({ cls := "SelectoRoute", name := "pullOf", desc := "(LSelectoRoute$Box;I)I" } : Jvm.MethodName)) ∈ lw_all := lw_g (lw_at lw_m2 19 rfl) rfl
theorem q283 : (Jvm.Cond.code ({ cls := "SelectoRoute", name := "pullOf", desc := "(LSelectoRoute$Box;I)I" } : Jvm.MethodName) prog_1_method_45_code (3 : Nat) (Option.some Jvm.ClassFile.FieldType.int)) ∈ lw_all := lw_g (lw_at lw_m2 20 rfl) rfl
theorem q284 : (Jvm.Cond.methodLink "SelectoRoute" (178 : Nat) ({ cls := "SelectoRoute$Disc", name := "pull", desc := "(II)I" } : Jvm.MethodName)) ∈ lw_all := lw_g (lw_at lw_m2 21 rfl) rfl
theorem q291 : (Jvm.Cond.methodLink "SelectoRoute" (124 : Nat) ({ cls := "java/lang/Integer", name := "valueOf", desc := "(I)Ljava/lang/Integer;" } : Jvm.MethodName)) ∈ lw_all := lw_g (lw_at lw_m2 28 rfl) rfl
theorem q311 : (Jvm.Cond.methodLink "SelectoRoute" (65 : Nat) ({ cls := "java/util/ArrayList", name := "add", desc := "(Ljava/lang/Object;)Z" } : Jvm.MethodName)) ∈ lw_all := lw_g (lw_at lw_m2 48 rfl) rfl
theorem q341 : (Jvm.Cond.selects "SelectoRoute" ({ cls := "java/lang/Object", name := "getClass", desc := "()Ljava/lang/Class;" } : Jvm.MethodName) ({ cls := "java/lang/Object", name := "getClass", desc := "()Ljava/lang/Class;" } : Jvm.MethodName)) ∈ lw_all := lw_g (lw_at lw_m2 78 rfl) rfl
theorem q374 : (Jvm.Cond.methodLink "SelectoRoute" (130 : Nat) ({ cls := "java/util/ArrayList", name := "isEmpty", desc := "()Z" } : Jvm.MethodName)) ∈ lw_all := lw_g (lw_at lw_m2 111 rfl) rfl
theorem q378 : (Jvm.Cond.methodLink "SelectoRoute" (250 : Nat) ({ cls := "SelectoRoute", name := "out", desc := "(Ljava/util/List;Z)I" } : Jvm.MethodName)) ∈ lw_all := lw_g (lw_at lw_m2 115 rfl) rfl
theorem q379 : (Jvm.Cond.static ({ cls := "SelectoRoute", name := "out", desc := "(Ljava/util/List;Z)I" } : Jvm.MethodName)) ∈ lw_all := lw_g (lw_at lw_m2 116 rfl) rfl
theorem q380 : (Jvm.Cond.code ({ cls := "SelectoRoute", name := "out", desc := "(Ljava/util/List;Z)I" } : Jvm.MethodName) prog_1_method_47_code (5 : Nat) (Option.some Jvm.ClassFile.FieldType.int)) ∈ lw_all := lw_g (lw_at lw_m2 117 rfl) rfl
theorem q381 : (Jvm.Cond.interfaceEntry "SelectoRoute" (245 : Nat)) ∈ lw_tbl := lw_at lw_m2 118 rfl
theorem q382 : (Jvm.Cond.methodLink "SelectoRoute" (245 : Nat) ({ cls := "java/util/List", name := "size", desc := "()I" } : Jvm.MethodName)) ∈ lw_all := lw_g (lw_at lw_m2 119 rfl) rfl
theorem q389 : (Jvm.Cond.interfaceEntry "SelectoRoute" (248 : Nat)) ∈ lw_tbl := lw_at lw_m2 126 rfl
theorem q390 : (Jvm.Cond.methodLink "SelectoRoute" (248 : Nat) ({ cls := "java/util/List", name := "get", desc := "(I)Ljava/lang/Object;" } : Jvm.MethodName)) ∈ lw_all := lw_g (lw_at lw_m2 127 rfl) rfl
theorem q396 : (Jvm.Cond.classLink "SelectoRoute" (125 : Nat) "java/lang/Integer") ∈ lw_all := lw_g (lw_at lw_m2 133 rfl) rfl
theorem q397 : (Jvm.Cond.methodLink "SelectoRoute" (143 : Nat) ({ cls := "java/lang/Integer", name := "intValue", desc := "()I" } : Jvm.MethodName)) ∈ lw_all := lw_g (lw_at lw_m2 134 rfl) rfl
theorem q401 : (Jvm.Cond.interfaceEntry "SelectoRoute" (249 : Nat)) ∈ lw_tbl := lw_at lw_m2 138 rfl
theorem q402 : (Jvm.Cond.methodLink "SelectoRoute" (249 : Nat) ({ cls := "java/util/List", name := "remove", desc := "(I)Ljava/lang/Object;" } : Jvm.MethodName)) ∈ lw_all := lw_g (lw_at lw_m2 139 rfl) rfl
theorem q415 : (Jvm.Cond.methodLink "SelectoRoute" (254 : Nat) ({ cls := "java/lang/Math", name := "max", desc := "(II)I" } : Jvm.MethodName)) ∈ lw_all := lw_g (lw_at lw_m2 152 rfl) rfl
theorem q422 : (Jvm.Cond.instanceMethod ({ cls := "SelectoRoute", name := "addDisc", desc := "(III)I" } : Jvm.MethodName)) ∈ lw_all := lw_g (lw_at lw_m2 159 rfl) rfl
theorem q423 : (Jvm.Cond.selects "SelectoRoute" ({ cls := "SelectoRoute", name := "addDisc", desc := "(III)I" } : Jvm.MethodName) ({ cls := "SelectoRoute", name := "addDisc", desc := "(III)I" } : Jvm.MethodName)) ∈ lw_all := lw_g (lw_at lw_m2 160 rfl) rfl
theorem q424 : (Jvm.Cond.code ({ cls := "SelectoRoute", name := "addDisc", desc := "(III)I" } : Jvm.MethodName) prog_1_method_9_code (4 : Nat) (Option.some Jvm.ClassFile.FieldType.int)) ∈ lw_all := lw_g (lw_at lw_m2 161 rfl) rfl
theorem q425 : (Jvm.Cond.methodLink "SelectoRoute" (45 : Nat) ({ cls := "SelectoRoute", name := "isBetween", desc := "(III)Z" } : Jvm.MethodName)) ∈ lw_all := lw_g (lw_at lw_m2 162 rfl) rfl
theorem q426 : (Jvm.Cond.static ({ cls := "SelectoRoute", name := "isBetween", desc := "(III)Z" } : Jvm.MethodName)) ∈ lw_all := lw_g (lw_at lw_m2 163 rfl) rfl
theorem q427 : (Jvm.Cond.code ({ cls := "SelectoRoute", name := "isBetween", desc := "(III)Z" } : Jvm.MethodName) prog_1_method_1_code (3 : Nat) (Option.some Jvm.ClassFile.FieldType.boolean)) ∈ lw_all := lw_g (lw_at lw_m2 164 rfl) rfl
theorem q428 : (Jvm.Cond.methodLink "SelectoRoute" (49 : Nat) ({ cls := "SelectoRoute", name := "require", desc := "(Z)V" } : Jvm.MethodName)) ∈ lw_all := lw_g (lw_at lw_m2 165 rfl) rfl
theorem q429 : (Jvm.Cond.static ({ cls := "SelectoRoute", name := "require", desc := "(Z)V" } : Jvm.MethodName)) ∈ lw_all := lw_g (lw_at lw_m2 166 rfl) rfl
theorem q430 : (Jvm.Cond.code ({ cls := "SelectoRoute", name := "require", desc := "(Z)V" } : Jvm.MethodName) prog_1_method_2_code (1 : Nat) (Option.none : Option Jvm.ClassFile.FieldType)) ∈ lw_all := lw_g (lw_at lw_m2 167 rfl) rfl
theorem q431 : (Jvm.Cond.classLink "SelectoRoute" (1 : Nat) "java/lang/IllegalArgumentException") ∈ lw_all := lw_g (lw_at lw_m2 168 rfl) rfl
theorem q440 : (Jvm.Cond.methodLink "SelectoRoute" (3 : Nat) ({ cls := "java/lang/IllegalArgumentException", name := "<init>", desc := "()V" } : Jvm.MethodName)) ∈ lw_all := lw_g (lw_at lw_m2 177 rfl) rfl
theorem q446 : (Jvm.Cond.methodLink "SelectoRoute" (57 : Nat) ({ cls := "SelectoRoute", name := "requireState", desc := "(Z)V" } : Jvm.MethodName)) ∈ lw_all := lw_g (lw_at lw_m2 183 rfl) rfl
theorem q447 : (Jvm.Cond.static ({ cls := "SelectoRoute", name := "requireState", desc := "(Z)V" } : Jvm.MethodName)) ∈ lw_all := lw_g (lw_at lw_m2 184 rfl) rfl
theorem q448 : (Jvm.Cond.code ({ cls := "SelectoRoute", name := "requireState", desc := "(Z)V" } : Jvm.MethodName) prog_1_method_4_code (1 : Nat) (Option.none : Option Jvm.ClassFile.FieldType)) ∈ lw_all := lw_g (lw_at lw_m2 185 rfl) rfl
theorem q449 : (Jvm.Cond.classLink "SelectoRoute" (10 : Nat) "java/lang/IllegalStateException") ∈ lw_all := lw_g (lw_at lw_m2 186 rfl) rfl
theorem q458 : (Jvm.Cond.methodLink "SelectoRoute" (12 : Nat) ({ cls := "java/lang/IllegalStateException", name := "<init>", desc := "()V" } : Jvm.MethodName)) ∈ lw_all := lw_g (lw_at lw_m2 195 rfl) rfl
theorem q465 : (Jvm.Cond.methodLink "SelectoRoute" (62 : Nat) ({ cls := "SelectoRoute$Disc", name := "<init>", desc := "(III)V" } : Jvm.MethodName)) ∈ lw_all := lw_g (lw_at lw_m2 202 rfl) rfl
theorem q470 : (Jvm.Cond.fieldLinkNest "SelectoRoute" (238 : Nat) "SelectoRoute$Disc" "song" "I" "SelectoRoute") ∈ lw_tbl := lw_at lw_m2 207 rfl
theorem q475 : (Jvm.Cond.fieldLinkNest "SelectoRoute" (166 : Nat) "SelectoRoute$Disc" "wear" "I" "SelectoRoute") ∈ lw_tbl := lw_at lw_m2 212 rfl
theorem q477 : (Jvm.Cond.fieldLinkNest "SelectoRoute" (169 : Nat) "SelectoRoute$Disc" "place" "I" "SelectoRoute") ∈ lw_tbl := lw_at lw_m2 214 rfl
theorem q493 : (Jvm.Cond.instanceMethod ({ cls := "SelectoRoute", name := "addBox", desc := "(II)I" } : Jvm.MethodName)) ∈ lw_all := lw_g (lw_at lw_m2 230 rfl) rfl
theorem q494 : (Jvm.Cond.selects "SelectoRoute" ({ cls := "SelectoRoute", name := "addBox", desc := "(II)I" } : Jvm.MethodName) ({ cls := "SelectoRoute", name := "addBox", desc := "(II)I" } : Jvm.MethodName)) ∈ lw_all := lw_g (lw_at lw_m2 231 rfl) rfl
theorem q495 : (Jvm.Cond.code ({ cls := "SelectoRoute", name := "addBox", desc := "(II)I" } : Jvm.MethodName) prog_1_method_10_code (3 : Nat) (Option.some Jvm.ClassFile.FieldType.int)) ∈ lw_all := lw_g (lw_at lw_m2 232 rfl) rfl
theorem q497 : (Jvm.Cond.methodLink "SelectoRoute" (71 : Nat) ({ cls := "SelectoRoute$Box", name := "<init>", desc := "(I)V" } : Jvm.MethodName)) ∈ lw_all := lw_g (lw_at lw_m2 234 rfl) rfl
theorem q507 : (Jvm.Cond.fieldLinkNest "SelectoRoute" (218 : Nat) "SelectoRoute$Box" "share" "I" "SelectoRoute") ∈ lw_tbl := lw_at lw_m3 4 rfl
theorem q509 : (Jvm.Cond.fieldLinkNest "SelectoRoute" (175 : Nat) "SelectoRoute$Box" "taste" "I" "SelectoRoute") ∈ lw_tbl := lw_at lw_m3 6 rfl
theorem q511 : (Jvm.Cond.fieldLinkNest "SelectoRoute" (117 : Nat) "SelectoRoute$Box" "slots" "[I" "SelectoRoute") ∈ lw_tbl := lw_at lw_m3 8 rfl
theorem q513 : (Jvm.Cond.fieldLinkNest "SelectoRoute" (156 : Nat) "SelectoRoute$Box" "wheels" "[I" "SelectoRoute") ∈ lw_tbl := lw_at lw_m3 10 rfl
theorem q515 : (Jvm.Cond.fieldLinkNest "SelectoRoute" (235 : Nat) "SelectoRoute$Box" "asked" "[I" "SelectoRoute") ∈ lw_tbl := lw_at lw_m3 12 rfl
theorem q517 : (Jvm.Cond.fieldLinkNest "SelectoRoute" (121 : Nat) "SelectoRoute$Box" "queue" "Ljava/util/ArrayList;" "SelectoRoute") ∈ lw_tbl := lw_at lw_m3 14 rfl
theorem q518 : (Jvm.Cond.fieldLinkNest "SelectoRoute" (105 : Nat) "SelectoRoute$Box" "credits" "I" "SelectoRoute") ∈ lw_tbl := lw_at lw_m3 15 rfl
theorem q519 : (Jvm.Cond.fieldLinkNest "SelectoRoute" (110 : Nat) "SelectoRoute$Box" "cents" "I" "SelectoRoute") ∈ lw_tbl := lw_at lw_m3 16 rfl
theorem q521 : (Jvm.Cond.fieldLinkNest "SelectoRoute" (159 : Nat) "SelectoRoute$Box" "needle" "I" "SelectoRoute") ∈ lw_tbl := lw_at lw_m3 18 rfl
theorem q522 : (Jvm.Cond.fieldLinkNest "SelectoRoute" (88 : Nat) "SelectoRoute$Box" "risk" "I" "SelectoRoute") ∈ lw_tbl := lw_at lw_m3 19 rfl
theorem q524 : (Jvm.Cond.fieldLinkNest "SelectoRoute" (221 : Nat) "SelectoRoute$Box" "plays" "I" "SelectoRoute") ∈ lw_tbl := lw_at lw_m3 21 rfl
theorem q525 : (Jvm.Cond.fieldLinkNest "SelectoRoute" (223 : Nat) "SelectoRoute$Box" "missing" "I" "SelectoRoute") ∈ lw_tbl := lw_at lw_m3 22 rfl
theorem q526 : (Jvm.Cond.fieldLinkNest "SelectoRoute" (226 : Nat) "SelectoRoute$Box" "paid" "I" "SelectoRoute") ∈ lw_tbl := lw_at lw_m3 23 rfl
theorem q527 : (Jvm.Cond.fieldLinkNest "SelectoRoute" (98 : Nat) "SelectoRoute$Box" "isJammed" "Z" "SelectoRoute") ∈ lw_tbl := lw_at lw_m3 24 rfl
theorem q528 : (Jvm.Cond.fieldLinkNest "SelectoRoute" (199 : Nat) "SelectoRoute$Box" "isVisited" "Z" "SelectoRoute") ∈ lw_tbl := lw_at lw_m3 25 rfl
theorem q561 : (Jvm.Cond.methodLink "SelectoRoute" (74 : Nat) ({ cls := "SelectoRoute$Box", name := "<init>", desc := "(II)V" } : Jvm.MethodName)) ∈ lw_all := lw_g (lw_at lw_m3 58 rfl) rfl
theorem q599 : (Jvm.Cond.instanceMethod ({ cls := "SelectoRoute", name := "setRisk", desc := "(II)I" } : Jvm.MethodName)) ∈ lw_all := lw_g (lw_at lw_m3 96 rfl) rfl
theorem q600 : (Jvm.Cond.selects "SelectoRoute" ({ cls := "SelectoRoute", name := "setRisk", desc := "(II)I" } : Jvm.MethodName) ({ cls := "SelectoRoute", name := "setRisk", desc := "(II)I" } : Jvm.MethodName)) ∈ lw_all := lw_g (lw_at lw_m3 97 rfl) rfl
theorem q601 : (Jvm.Cond.code ({ cls := "SelectoRoute", name := "setRisk", desc := "(II)I" } : Jvm.MethodName) prog_1_method_14_code (5 : Nat) (Option.some Jvm.ClassFile.FieldType.int)) ∈ lw_all := lw_g (lw_at lw_m3 98 rfl) rfl
theorem q602 : (Jvm.Cond.methodLink "SelectoRoute" (84 : Nat) ({ cls := "SelectoRoute", name := "boxAt", desc := "(I)LSelectoRoute$Box;" } : Jvm.MethodName)) ∈ lw_all := lw_g (lw_at lw_m3 99 rfl) rfl
theorem q603 : (Jvm.Cond.privateMethod ({ cls := "SelectoRoute", name := "boxAt", desc := "(I)LSelectoRoute$Box;" } : Jvm.MethodName)) ∈ lw_tbl := lw_at lw_m3 100 rfl
theorem q604 : (Jvm.Cond.instanceMethod ({ cls := "SelectoRoute", name := "boxAt", desc := "(I)LSelectoRoute$Box;" } : Jvm.MethodName)) ∈ lw_all := lw_g (lw_at lw_m3 101 rfl) rfl
theorem q605 : (Jvm.Cond.code ({ cls := "SelectoRoute", name := "boxAt", desc := "(I)LSelectoRoute$Box;" } : Jvm.MethodName) prog_1_method_11_code (2 : Nat) (Option.some (Jvm.ClassFile.FieldType.object "SelectoRoute$Box"))) ∈ lw_all := lw_g (lw_at lw_m3 102 rfl) rfl
theorem q606 : (Jvm.Cond.methodLink "SelectoRoute" (77 : Nat) ({ cls := "SelectoRoute", name := "requireIndex", desc := "(Z)V" } : Jvm.MethodName)) ∈ lw_all := lw_g (lw_at lw_m3 103 rfl) rfl
theorem q607 : (Jvm.Cond.static ({ cls := "SelectoRoute", name := "requireIndex", desc := "(Z)V" } : Jvm.MethodName)) ∈ lw_all := lw_g (lw_at lw_m3 104 rfl) rfl
theorem q608 : (Jvm.Cond.code ({ cls := "SelectoRoute", name := "requireIndex", desc := "(Z)V" } : Jvm.MethodName) prog_1_method_3_code (1 : Nat) (Option.none : Option Jvm.ClassFile.FieldType)) ∈ lw_all := lw_g (lw_at lw_m3 105 rfl) rfl
theorem q609 : (Jvm.Cond.classLink "SelectoRoute" (7 : Nat) "java/lang/IndexOutOfBoundsException") ∈ lw_all := lw_g (lw_at lw_m3 106 rfl) rfl
theorem q618 : (Jvm.Cond.methodLink "SelectoRoute" (9 : Nat) ({ cls := "java/lang/IndexOutOfBoundsException", name := "<init>", desc := "()V" } : Jvm.MethodName)) ∈ lw_all := lw_g (lw_at lw_m3 115 rfl) rfl
theorem q628 : (Jvm.Cond.instanceMethod ({ cls := "SelectoRoute", name := "setSeed", desc := "(I)I" } : Jvm.MethodName)) ∈ lw_all := lw_g (lw_at lw_m3 125 rfl) rfl
theorem q629 : (Jvm.Cond.selects "SelectoRoute" ({ cls := "SelectoRoute", name := "setSeed", desc := "(I)I" } : Jvm.MethodName) ({ cls := "SelectoRoute", name := "setSeed", desc := "(I)I" } : Jvm.MethodName)) ∈ lw_all := lw_g (lw_at lw_m3 126 rfl) rfl
theorem q630 : (Jvm.Cond.code ({ cls := "SelectoRoute", name := "setSeed", desc := "(I)I" } : Jvm.MethodName) prog_1_method_15_code (3 : Nat) (Option.some Jvm.ClassFile.FieldType.int)) ∈ lw_all := lw_g (lw_at lw_m3 127 rfl) rfl
theorem q631 : (Jvm.Cond.constant "SelectoRoute" (91 : Nat) (2147483646 : Int32)) ∈ lw_all := lw_g (lw_at lw_m3 128 rfl) rfl
theorem q637 : (Jvm.Cond.instanceMethod ({ cls := "SelectoRoute", name := "insert", desc := "(IC)I" } : Jvm.MethodName)) ∈ lw_all := lw_g (lw_at lw_m3 134 rfl) rfl
theorem q638 : (Jvm.Cond.selects "SelectoRoute" ({ cls := "SelectoRoute", name := "insert", desc := "(IC)I" } : Jvm.MethodName) ({ cls := "SelectoRoute", name := "insert", desc := "(IC)I" } : Jvm.MethodName)) ∈ lw_all := lw_g (lw_at lw_m3 135 rfl) rfl
theorem q639 : (Jvm.Cond.code ({ cls := "SelectoRoute", name := "insert", desc := "(IC)I" } : Jvm.MethodName) prog_1_method_16_code (5 : Nat) (Option.some Jvm.ClassFile.FieldType.int)) ∈ lw_all := lw_g (lw_at lw_m3 136 rfl) rfl
theorem q640 : (Jvm.Cond.methodLink "SelectoRoute" (92 : Nat) ({ cls := "SelectoRoute$Coin", name := "of", desc := "(C)LSelectoRoute$Coin;" } : Jvm.MethodName)) ∈ lw_all := lw_g (lw_at lw_m3 137 rfl) rfl
theorem q657 : (Jvm.Cond.methodLink "SelectoRoute" (102 : Nat) ({ cls := "SelectoRoute", name := "requireSupported", desc := "(Z)V" } : Jvm.MethodName)) ∈ lw_all := lw_g (lw_at lw_m3 154 rfl) rfl
theorem q658 : (Jvm.Cond.static ({ cls := "SelectoRoute", name := "requireSupported", desc := "(Z)V" } : Jvm.MethodName)) ∈ lw_all := lw_g (lw_at lw_m3 155 rfl) rfl
theorem q659 : (Jvm.Cond.code ({ cls := "SelectoRoute", name := "requireSupported", desc := "(Z)V" } : Jvm.MethodName) prog_1_method_6_code (1 : Nat) (Option.none : Option Jvm.ClassFile.FieldType)) ∈ lw_all := lw_g (lw_at lw_m3 156 rfl) rfl
theorem q660 : (Jvm.Cond.classLink "SelectoRoute" (16 : Nat) "java/lang/UnsupportedOperationException") ∈ lw_all := lw_g (lw_at lw_m3 157 rfl) rfl
theorem q669 : (Jvm.Cond.methodLink "SelectoRoute" (18 : Nat) ({ cls := "java/lang/UnsupportedOperationException", name := "<init>", desc := "()V" } : Jvm.MethodName)) ∈ lw_all := lw_g (lw_at lw_m3 166 rfl) rfl
theorem q675 : (Jvm.Cond.methodLink "SelectoRoute" (108 : Nat) ({ cls := "SelectoRoute$Coin", name := "credits", desc := "()I" } : Jvm.MethodName)) ∈ lw_all := lw_g (lw_at lw_m3 172 rfl) rfl
theorem q696 : (Jvm.Cond.instanceMethod ({ cls := "SelectoRoute", name := "press", desc := "(II)I" } : Jvm.MethodName)) ∈ lw_all := lw_g (lw_at lw_m3 193 rfl) rfl
theorem q697 : (Jvm.Cond.selects "SelectoRoute" ({ cls := "SelectoRoute", name := "press", desc := "(II)I" } : Jvm.MethodName) ({ cls := "SelectoRoute", name := "press", desc := "(II)I" } : Jvm.MethodName)) ∈ lw_all := lw_g (lw_at lw_m3 194 rfl) rfl
theorem q698 : (Jvm.Cond.code ({ cls := "SelectoRoute", name := "press", desc := "(II)I" } : Jvm.MethodName) prog_1_method_17_code (4 : Nat) (Option.some Jvm.ClassFile.FieldType.int)) ∈ lw_all := lw_g (lw_at lw_m3 195 rfl) rfl
theorem q699 : (Jvm.Cond.methodLink "SelectoRoute" (114 : Nat) ({ cls := "SelectoRoute", name := "boxAt", desc := "(II)LSelectoRoute$Box;" } : Jvm.MethodName)) ∈ lw_all := lw_g (lw_at lw_m3 196 rfl) rfl
theorem q700 : (Jvm.Cond.privateMethod ({ cls := "SelectoRoute", name := "boxAt", desc := "(II)LSelectoRoute$Box;" } : Jvm.MethodName)) ∈ lw_tbl := lw_at lw_m3 197 rfl
theorem q701 : (Jvm.Cond.instanceMethod ({ cls := "SelectoRoute", name := "boxAt", desc := "(II)LSelectoRoute$Box;" } : Jvm.MethodName)) ∈ lw_all := lw_g (lw_at lw_m3 198 rfl) rfl
theorem q702 : (Jvm.Cond.code ({ cls := "SelectoRoute", name := "boxAt", desc := "(II)LSelectoRoute$Box;" } : Jvm.MethodName) prog_1_method_12_code (4 : Nat) (Option.some (Jvm.ClassFile.FieldType.object "SelectoRoute$Box"))) ∈ lw_all := lw_g (lw_at lw_m3 199 rfl) rfl
theorem q708 : (Jvm.Cond.instanceMethod ({ cls := "SelectoRoute", name := "play", desc := "(I)C" } : Jvm.MethodName)) ∈ lw_all := lw_g (lw_at lw_m3 205 rfl) rfl
theorem q709 : (Jvm.Cond.selects "SelectoRoute" ({ cls := "SelectoRoute", name := "play", desc := "(I)C" } : Jvm.MethodName) ({ cls := "SelectoRoute", name := "play", desc := "(I)C" } : Jvm.MethodName)) ∈ lw_all := lw_g (lw_at lw_m3 206 rfl) rfl
theorem q710 : (Jvm.Cond.code ({ cls := "SelectoRoute", name := "play", desc := "(I)C" } : Jvm.MethodName) prog_1_method_18_code (5 : Nat) (Option.some Jvm.ClassFile.FieldType.char)) ∈ lw_all := lw_g (lw_at lw_m3 207 rfl) rfl
theorem q711 : (Jvm.Cond.methodLink "SelectoRoute" (134 : Nat) ({ cls := "SelectoRoute", name := "requireThere", desc := "(Z)V" } : Jvm.MethodName)) ∈ lw_all := lw_g (lw_at lw_m3 208 rfl) rfl
theorem q712 : (Jvm.Cond.static ({ cls := "SelectoRoute", name := "requireThere", desc := "(Z)V" } : Jvm.MethodName)) ∈ lw_all := lw_g (lw_at lw_m3 209 rfl) rfl
theorem q713 : (Jvm.Cond.code ({ cls := "SelectoRoute", name := "requireThere", desc := "(Z)V" } : Jvm.MethodName) prog_1_method_5_code (1 : Nat) (Option.none : Option Jvm.ClassFile.FieldType)) ∈ lw_all := lw_g (lw_at lw_m3 210 rfl) rfl
theorem q714 : (Jvm.Cond.classLink "SelectoRoute" (13 : Nat) "java/util/NoSuchElementException") ∈ lw_all := lw_g (lw_at lw_m3 211 rfl) rfl
theorem q715 : (Jvm.Cond.methodLink "SelectoRoute" (15 : Nat) ({ cls := "java/util/NoSuchElementException", name := "<init>", desc := "()V" } : Jvm.MethodName)) ∈ lw_all := lw_g (lw_at lw_m3 212 rfl) rfl
theorem q716 : (Jvm.Cond.constantLong "SelectoRoute" (137 : Nat) (48271 : Int64)) ∈ lw_all := lw_g (lw_at lw_m3 213 rfl) rfl
theorem q717 : (Jvm.Cond.constantLong "SelectoRoute" (139 : Nat) (2147483647 : Int64)) ∈ lw_all := lw_g (lw_at lw_m3 214 rfl) rfl
theorem q718 : (Jvm.Cond.constantLong "SelectoRoute" (141 : Nat) (100 : Int64)) ∈ lw_all := lw_g (lw_at lw_m3 215 rfl) rfl
theorem q719 : (Jvm.Cond.methodLink "SelectoRoute" (146 : Nat) ({ cls := "java/util/ArrayList", name := "remove", desc := "(I)Ljava/lang/Object;" } : Jvm.MethodName)) ∈ lw_all := lw_g (lw_at lw_m3 216 rfl) rfl
theorem q720 : (Jvm.Cond.methodLink "SelectoRoute" (149 : Nat) ({ cls := "SelectoRoute$Disc", name := "isWornOut", desc := "()Z" } : Jvm.MethodName)) ∈ lw_all := lw_g (lw_at lw_m3 217 rfl) rfl
theorem q724 : (Jvm.Cond.methodLink "SelectoRoute" (152 : Nat) ({ cls := "SelectoRoute$Box", name := "plays", desc := "(ILSelectoRoute$Disc;I)V" } : Jvm.MethodName)) ∈ lw_all := lw_g (lw_at lw_m3 221 rfl) rfl
theorem q732 : (Jvm.Cond.instanceMethod ({ cls := "SelectoRoute", name := "getCredits", desc := "(I)I" } : Jvm.MethodName)) ∈ lw_all := lw_g (lw_at lw_m3 229 rfl) rfl
theorem q733 : (Jvm.Cond.selects "SelectoRoute" ({ cls := "SelectoRoute", name := "getCredits", desc := "(I)I" } : Jvm.MethodName) ({ cls := "SelectoRoute", name := "getCredits", desc := "(I)I" } : Jvm.MethodName)) ∈ lw_all := lw_g (lw_at lw_m3 230 rfl) rfl
theorem q734 : (Jvm.Cond.code ({ cls := "SelectoRoute", name := "getCredits", desc := "(I)I" } : Jvm.MethodName) prog_1_method_19_code (2 : Nat) (Option.some Jvm.ClassFile.FieldType.int)) ∈ lw_all := lw_g (lw_at lw_m3 231 rfl) rfl
theorem q739 : (Jvm.Cond.instanceMethod ({ cls := "SelectoRoute", name := "getQueued", desc := "(I)I" } : Jvm.MethodName)) ∈ lw_all := lw_g (lw_at lw_m3 236 rfl) rfl
theorem q740 : (Jvm.Cond.selects "SelectoRoute" ({ cls := "SelectoRoute", name := "getQueued", desc := "(I)I" } : Jvm.MethodName) ({ cls := "SelectoRoute", name := "getQueued", desc := "(I)I" } : Jvm.MethodName)) ∈ lw_all := lw_g (lw_at lw_m3 237 rfl) rfl
theorem q741 : (Jvm.Cond.code ({ cls := "SelectoRoute", name := "getQueued", desc := "(I)I" } : Jvm.MethodName) prog_1_method_20_code (2 : Nat) (Option.some Jvm.ClassFile.FieldType.int)) ∈ lw_all := lw_g (lw_at lw_m3 238 rfl) rfl
theorem q746 : (Jvm.Cond.instanceMethod ({ cls := "SelectoRoute", name := "getCents", desc := "(I)I" } : Jvm.MethodName)) ∈ lw_all := lw_g (lw_at lw_m4 3 rfl) rfl
theorem q747 : (Jvm.Cond.selects "SelectoRoute" ({ cls := "SelectoRoute", name := "getCents", desc := "(I)I" } : Jvm.MethodName) ({ cls := "SelectoRoute", name := "getCents", desc := "(I)I" } : Jvm.MethodName)) ∈ lw_all := lw_g (lw_at lw_m4 4 rfl) rfl
theorem q748 : (Jvm.Cond.code ({ cls := "SelectoRoute", name := "getCents", desc := "(I)I" } : Jvm.MethodName) prog_1_method_21_code (2 : Nat) (Option.some Jvm.ClassFile.FieldType.int)) ∈ lw_all := lw_g (lw_at lw_m4 5 rfl) rfl
theorem q753 : (Jvm.Cond.instanceMethod ({ cls := "SelectoRoute", name := "isJammed", desc := "(I)Z" } : Jvm.MethodName)) ∈ lw_all := lw_g (lw_at lw_m4 10 rfl) rfl
theorem q754 : (Jvm.Cond.selects "SelectoRoute" ({ cls := "SelectoRoute", name := "isJammed", desc := "(I)Z" } : Jvm.MethodName) ({ cls := "SelectoRoute", name := "isJammed", desc := "(I)Z" } : Jvm.MethodName)) ∈ lw_all := lw_g (lw_at lw_m4 11 rfl) rfl
theorem q755 : (Jvm.Cond.code ({ cls := "SelectoRoute", name := "isJammed", desc := "(I)Z" } : Jvm.MethodName) prog_1_method_22_code (2 : Nat) (Option.some Jvm.ClassFile.FieldType.boolean)) ∈ lw_all := lw_g (lw_at lw_m4 12 rfl) rfl
theorem q760 : (Jvm.Cond.instanceMethod ({ cls := "SelectoRoute", name := "getWheel", desc := "(II)I" } : Jvm.MethodName)) ∈ lw_all := lw_g (lw_at lw_m4 17 rfl) rfl
theorem q761 : (Jvm.Cond.selects "SelectoRoute" ({ cls := "SelectoRoute", name := "getWheel", desc := "(II)I" } : Jvm.MethodName) ({ cls := "SelectoRoute", name := "getWheel", desc := "(II)I" } : Jvm.MethodName)) ∈ lw_all := lw_g (lw_at lw_m4 18 rfl) rfl
theorem q762 : (Jvm.Cond.code ({ cls := "SelectoRoute", name := "getWheel", desc := "(II)I" } : Jvm.MethodName) prog_1_method_23_code (3 : Nat) (Option.some Jvm.ClassFile.FieldType.int)) ∈ lw_all := lw_g (lw_at lw_m4 19 rfl) rfl
theorem q767 : (Jvm.Cond.instanceMethod ({ cls := "SelectoRoute", name := "getNeedle", desc := "(I)I" } : Jvm.MethodName)) ∈ lw_all := lw_g (lw_at lw_m4 24 rfl) rfl
theorem q768 : (Jvm.Cond.selects "SelectoRoute" ({ cls := "SelectoRoute", name := "getNeedle", desc := "(I)I" } : Jvm.MethodName) ({ cls := "SelectoRoute", name := "getNeedle", desc := "(I)I" } : Jvm.MethodName)) ∈ lw_all := lw_g (lw_at lw_m4 25 rfl) rfl
theorem q769 : (Jvm.Cond.code ({ cls := "SelectoRoute", name := "getNeedle", desc := "(I)I" } : Jvm.MethodName) prog_1_method_24_code (2 : Nat) (Option.some Jvm.ClassFile.FieldType.int)) ∈ lw_all := lw_g (lw_at lw_m4 26 rfl) rfl
theorem q774 : (Jvm.Cond.instanceMethod ({ cls := "SelectoRoute", name := "getWear", desc := "(I)I" } : Jvm.MethodName)) ∈ lw_all := lw_g (lw_at lw_m4 31 rfl) rfl
theorem q775 : (Jvm.Cond.selects "SelectoRoute" ({ cls := "SelectoRoute", name := "getWear", desc := "(I)I" } : Jvm.MethodName) ({ cls := "SelectoRoute", name := "getWear", desc := "(I)I" } : Jvm.MethodName)) ∈ lw_all := lw_g (lw_at lw_m4 32 rfl) rfl
theorem q776 : (Jvm.Cond.code ({ cls := "SelectoRoute", name := "getWear", desc := "(I)I" } : Jvm.MethodName) prog_1_method_25_code (2 : Nat) (Option.some Jvm.ClassFile.FieldType.int)) ∈ lw_all := lw_g (lw_at lw_m4 33 rfl) rfl
theorem q777 : (Jvm.Cond.methodLink "SelectoRoute" (162 : Nat) ({ cls := "SelectoRoute", name := "discAt", desc := "(I)LSelectoRoute$Disc;" } : Jvm.MethodName)) ∈ lw_all := lw_g (lw_at lw_m4 34 rfl) rfl
theorem q778 : (Jvm.Cond.privateMethod ({ cls := "SelectoRoute", name := "discAt", desc := "(I)LSelectoRoute$Disc;" } : Jvm.MethodName)) ∈ lw_tbl := lw_at lw_m4 35 rfl
theorem q779 : (Jvm.Cond.instanceMethod ({ cls := "SelectoRoute", name := "discAt", desc := "(I)LSelectoRoute$Disc;" } : Jvm.MethodName)) ∈ lw_all := lw_g (lw_at lw_m4 36 rfl) rfl
theorem q780 : (Jvm.Cond.code ({ cls := "SelectoRoute", name := "discAt", desc := "(I)LSelectoRoute$Disc;" } : Jvm.MethodName) prog_1_method_13_code (2 : Nat) (Option.some (Jvm.ClassFile.FieldType.object "SelectoRoute$Disc"))) ∈ lw_all := lw_g (lw_at lw_m4 37 rfl) rfl
theorem q785 : (Jvm.Cond.instanceMethod ({ cls := "SelectoRoute", name := "getPlace", desc := "(I)I" } : Jvm.MethodName)) ∈ lw_all := lw_g (lw_at lw_m4 42 rfl) rfl
theorem q786 : (Jvm.Cond.selects "SelectoRoute" ({ cls := "SelectoRoute", name := "getPlace", desc := "(I)I" } : Jvm.MethodName) ({ cls := "SelectoRoute", name := "getPlace", desc := "(I)I" } : Jvm.MethodName)) ∈ lw_all := lw_g (lw_at lw_m4 43 rfl) rfl
theorem q787 : (Jvm.Cond.code ({ cls := "SelectoRoute", name := "getPlace", desc := "(I)I" } : Jvm.MethodName) prog_1_method_26_code (2 : Nat) (Option.some Jvm.ClassFile.FieldType.int)) ∈ lw_all := lw_g (lw_at lw_m4 44 rfl) rfl
theorem q792 : (Jvm.Cond.instanceMethod ({ cls := "SelectoRoute", name := "discAt", desc := "(II)I" } : Jvm.MethodName)) ∈ lw_all := lw_g (lw_at lw_m4 49 rfl) rfl
theorem q793 : (Jvm.Cond.selects "SelectoRoute" ({ cls := "SelectoRoute", name := "discAt", desc := "(II)I" } : Jvm.MethodName) ({ cls := "SelectoRoute", name := "discAt", desc := "(II)I" } : Jvm.MethodName)) ∈ lw_all := lw_g (lw_at lw_m4 50 rfl) rfl
theorem q794 : (Jvm.Cond.code ({ cls := "SelectoRoute", name := "discAt", desc := "(II)I" } : Jvm.MethodName) prog_1_method_27_code (4 : Nat) (Option.some Jvm.ClassFile.FieldType.int)) ∈ lw_all := lw_g (lw_at lw_m4 51 rfl) rfl
theorem q799 : (Jvm.Cond.instanceMethod ({ cls := "SelectoRoute", name := "pull", desc := "(I)I" } : Jvm.MethodName)) ∈ lw_all := lw_g (lw_at lw_m4 56 rfl) rfl
theorem q800 : (Jvm.Cond.selects "SelectoRoute" ({ cls := "SelectoRoute", name := "pull", desc := "(I)I" } : Jvm.MethodName) ({ cls := "SelectoRoute", name := "pull", desc := "(I)I" } : Jvm.MethodName)) ∈ lw_all := lw_g (lw_at lw_m4 57 rfl) rfl
theorem q801 : (Jvm.Cond.code ({ cls := "SelectoRoute", name := "pull", desc := "(I)I" } : Jvm.MethodName) prog_1_method_28_code (3 : Nat) (Option.some Jvm.ClassFile.FieldType.int)) ∈ lw_all := lw_g (lw_at lw_m4 58 rfl) rfl
theorem q806 : (Jvm.Cond.instanceMethod ({ cls := "SelectoRoute", name := "pullIn", desc := "(II)I" } : Jvm.MethodName)) ∈ lw_all := lw_g (lw_at lw_m4 63 rfl) rfl
theorem q807 : (Jvm.Cond.selects "SelectoRoute" ({ cls := "SelectoRoute", name := "pullIn", desc := "(II)I" } : Jvm.MethodName) ({ cls := "SelectoRoute", name := "pullIn", desc := "(II)I" } : Jvm.MethodName)) ∈ lw_all := lw_g (lw_at lw_m4 64 rfl) rfl
theorem q808 : (Jvm.Cond.code ({ cls := "SelectoRoute", name := "pullIn", desc := "(II)I" } : Jvm.MethodName) prog_1_method_29_code (4 : Nat) (Option.some Jvm.ClassFile.FieldType.int)) ∈ lw_all := lw_g (lw_at lw_m4 65 rfl) rfl
theorem q813 : (Jvm.Cond.instanceMethod ({ cls := "SelectoRoute", name := "pass", desc := "()I" } : Jvm.MethodName)) ∈ lw_all := lw_g (lw_at lw_m4 70 rfl) rfl
theorem q814 : (Jvm.Cond.selects "SelectoRoute" ({ cls := "SelectoRoute", name := "pass", desc := "()I" } : Jvm.MethodName) ({ cls := "SelectoRoute", name := "pass", desc := "()I" } : Jvm.MethodName)) ∈ lw_all := lw_g (lw_at lw_m4 71 rfl) rfl
theorem q815 : (Jvm.Cond.code ({ cls := "SelectoRoute", name := "pass", desc := "()I" } : Jvm.MethodName) prog_1_method_31_code (3 : Nat) (Option.some Jvm.ClassFile.FieldType.int)) ∈ lw_all := lw_g (lw_at lw_m4 72 rfl) rfl
theorem q816 : (Jvm.Cond.methodLink "SelectoRoute" (195 : Nat) ({ cls := "SelectoRoute", name := "guests", desc := "(LSelectoRoute$Box;)V" } : Jvm.MethodName)) ∈ lw_all := lw_g (lw_at lw_m4 73 rfl) rfl
theorem q817 : (Jvm.Cond.privateMethod ({ cls := "SelectoRoute", name := "guests", desc := "(LSelectoRoute$Box;)V" } : Jvm.MethodName)) ∈ lw_tbl := lw_at lw_m4 74 rfl
theorem q818 : (Jvm.Cond.instanceMethod ({ cls := "SelectoRoute", name := "guests", desc := "(LSelectoRoute$Box;)V" } : Jvm.MethodName)) ∈ lw_all := lw_g (lw_at lw_m4 75 rfl) rfl
theorem q819 : (Jvm.Cond.code ({ cls := "SelectoRoute", name := "guests", desc := "(LSelectoRoute$Box;)V" } : Jvm.MethodName) prog_1_method_30_code (5 : Nat) (Option.none : Option Jvm.ClassFile.FieldType)) ∈ lw_all := lw_g (lw_at lw_m4 76 rfl) rfl
theorem q824 : (Jvm.Cond.instanceMethod ({ cls := "SelectoRoute", name := "visit", desc := "(I)I" } : Jvm.MethodName)) ∈ lw_all := lw_g (lw_at lw_m4 81 rfl) rfl
theorem q825 : (Jvm.Cond.selects "SelectoRoute" ({ cls := "SelectoRoute", name := "visit", desc := "(I)I" } : Jvm.MethodName) ({ cls := "SelectoRoute", name := "visit", desc := "(I)I" } : Jvm.MethodName)) ∈ lw_all := lw_g (lw_at lw_m4 82 rfl) rfl
theorem q826 : (Jvm.Cond.codeWith ({ cls := "SelectoRoute", name := "visit", desc := "(I)I" } : Jvm.MethodName) prog_1_method_35_code (5 : Nat) (Option.some Jvm.ClassFile.FieldType.int) [((6 : Nat), (30 : Nat), (33 : Nat), (202 : Nat))]) ∈ lw_all := lw_g (lw_at lw_m4 83 rfl) rfl
theorem q827 : (Jvm.Cond.classLink "SelectoRoute" (202 : Nat) "SelectoRoute$VanException") ∈ lw_all := lw_g (lw_at lw_m4 84 rfl) rfl
theorem q828 : (Jvm.Cond.methodLink "SelectoRoute" (211 : Nat) ({ cls := "SelectoRoute", name := "works", desc := "(I[Z)V" } : Jvm.MethodName)) ∈ lw_all := lw_g (lw_at lw_m4 85 rfl) rfl
theorem q829 : (Jvm.Cond.privateMethod ({ cls := "SelectoRoute", name := "works", desc := "(I[Z)V" } : Jvm.MethodName)) ∈ lw_tbl := lw_at lw_m4 86 rfl
theorem q830 : (Jvm.Cond.instanceMethod ({ cls := "SelectoRoute", name := "works", desc := "(I[Z)V" } : Jvm.MethodName)) ∈ lw_all := lw_g (lw_at lw_m4 87 rfl) rfl
theorem q831 : (Jvm.Cond.code ({ cls := "SelectoRoute", name := "works", desc := "(I[Z)V" } : Jvm.MethodName) prog_1_method_34_code (7 : Nat) (Option.none : Option Jvm.ClassFile.FieldType)) ∈ lw_all := lw_g (lw_at lw_m4 88 rfl) rfl
theorem q840 : (Jvm.Cond.stringRef "SelectoRoute" (204 : Nat) "not now") ∈ lw_tbl := lw_at lw_m4 97 rfl
theorem q841 : (Jvm.Cond.methodLink "SelectoRoute" (206 : Nat) ({ cls := "SelectoRoute$VanException", name := "<init>", desc := "(Ljava/lang/String;)V" } : Jvm.MethodName)) ∈ lw_all := lw_g (lw_at lw_m4 98 rfl) rfl
theorem q848 : (Jvm.Cond.stringRef "SelectoRoute" (209 : Nat) "not in time") ∈ lw_tbl := lw_at lw_m4 105 rfl
theorem q849 : (Jvm.Cond.methodLink "SelectoRoute" (215 : Nat) ({ cls := "java/lang/UnsupportedOperationException", name := "<init>", desc := "(Ljava/lang/String;Ljava/lang/Throwable;)V" } : Jvm.MethodName)) ∈ lw_all := lw_g (lw_at lw_m4 106 rfl) rfl
theorem q865 : (Jvm.Cond.instanceMethod ({ cls := "SelectoRoute", name := "getShort", desc := "(I)I" } : Jvm.MethodName)) ∈ lw_all := lw_g (lw_at lw_m4 122 rfl) rfl
theorem q866 : (Jvm.Cond.selects "SelectoRoute" ({ cls := "SelectoRoute", name := "getShort", desc := "(I)I" } : Jvm.MethodName) ({ cls := "SelectoRoute", name := "getShort", desc := "(I)I" } : Jvm.MethodName)) ∈ lw_all := lw_g (lw_at lw_m4 123 rfl) rfl
theorem q867 : (Jvm.Cond.code ({ cls := "SelectoRoute", name := "getShort", desc := "(I)I" } : Jvm.MethodName) prog_1_method_36_code (2 : Nat) (Option.some Jvm.ClassFile.FieldType.int)) ∈ lw_all := lw_g (lw_at lw_m4 124 rfl) rfl
theorem q872 : (Jvm.Cond.instanceMethod ({ cls := "SelectoRoute", name := "getShare", desc := "(I)I" } : Jvm.MethodName)) ∈ lw_all := lw_g (lw_at lw_m4 129 rfl) rfl
theorem q873 : (Jvm.Cond.selects "SelectoRoute" ({ cls := "SelectoRoute", name := "getShare", desc := "(I)I" } : Jvm.MethodName) ({ cls := "SelectoRoute", name := "getShare", desc := "(I)I" } : Jvm.MethodName)) ∈ lw_all := lw_g (lw_at lw_m4 130 rfl) rfl
theorem q874 : (Jvm.Cond.code ({ cls := "SelectoRoute", name := "getShare", desc := "(I)I" } : Jvm.MethodName) prog_1_method_37_code (2 : Nat) (Option.some Jvm.ClassFile.FieldType.int)) ∈ lw_all := lw_g (lw_at lw_m4 131 rfl) rfl
theorem q879 : (Jvm.Cond.instanceMethod ({ cls := "SelectoRoute", name := "change", desc := "(III)I" } : Jvm.MethodName)) ∈ lw_all := lw_g (lw_at lw_m4 136 rfl) rfl
theorem q880 : (Jvm.Cond.selects "SelectoRoute" ({ cls := "SelectoRoute", name := "change", desc := "(III)I" } : Jvm.MethodName) ({ cls := "SelectoRoute", name := "change", desc := "(III)I" } : Jvm.MethodName)) ∈ lw_all := lw_g (lw_at lw_m4 137 rfl) rfl
theorem q881 : (Jvm.Cond.codeWith ({ cls := "SelectoRoute", name := "change", desc := "(III)I" } : Jvm.MethodName) prog_1_method_39_code (7 : Nat) (Option.some Jvm.ClassFile.FieldType.int) [((24 : Nat), (63 : Nat), (66 : Nat), (202 : Nat))]) ∈ lw_all := lw_g (lw_at lw_m4 138 rfl) rfl
theorem q886 : (Jvm.Cond.instanceMethod ({ cls := "SelectoRoute", name := "changeNeedle", desc := "(I)I" } : Jvm.MethodName)) ∈ lw_all := lw_g (lw_at lw_m4 143 rfl) rfl
theorem q887 : (Jvm.Cond.selects "SelectoRoute" ({ cls := "SelectoRoute", name := "changeNeedle", desc := "(I)I" } : Jvm.MethodName) ({ cls := "SelectoRoute", name := "changeNeedle", desc := "(I)I" } : Jvm.MethodName)) ∈ lw_all := lw_g (lw_at lw_m4 144 rfl) rfl
theorem q888 : (Jvm.Cond.codeWith ({ cls := "SelectoRoute", name := "changeNeedle", desc := "(I)I" } : Jvm.MethodName) prog_1_method_40_code (4 : Nat) (Option.some Jvm.ClassFile.FieldType.int) [((6 : Nat), (21 : Nat), (24 : Nat), (202 : Nat))]) ∈ lw_all := lw_g (lw_at lw_m4 145 rfl) rfl
theorem q893 : (Jvm.Cond.instanceMethod ({ cls := "SelectoRoute", name := "burn", desc := "(I)I" } : Jvm.MethodName)) ∈ lw_all := lw_g (lw_at lw_m4 150 rfl) rfl
theorem q894 : (Jvm.Cond.selects "SelectoRoute" ({ cls := "SelectoRoute", name := "burn", desc := "(I)I" } : Jvm.MethodName) ({ cls := "SelectoRoute", name := "burn", desc := "(I)I" } : Jvm.MethodName)) ∈ lw_all := lw_g (lw_at lw_m4 151 rfl) rfl
theorem q895 : (Jvm.Cond.code ({ cls := "SelectoRoute", name := "burn", desc := "(I)I" } : Jvm.MethodName) prog_1_method_41_code (3 : Nat) (Option.some Jvm.ClassFile.FieldType.int)) ∈ lw_all := lw_g (lw_at lw_m4 152 rfl) rfl
theorem q900 : (Jvm.Cond.instanceMethod ({ cls := "SelectoRoute", name := "ask", desc := "(II)I" } : Jvm.MethodName)) ∈ lw_all := lw_g (lw_at lw_m4 157 rfl) rfl
theorem q901 : (Jvm.Cond.selects "SelectoRoute" ({ cls := "SelectoRoute", name := "ask", desc := "(II)I" } : Jvm.MethodName) ({ cls := "SelectoRoute", name := "ask", desc := "(II)I" } : Jvm.MethodName)) ∈ lw_all := lw_g (lw_at lw_m4 158 rfl) rfl
theorem q902 : (Jvm.Cond.code ({ cls := "SelectoRoute", name := "ask", desc := "(II)I" } : Jvm.MethodName) prog_1_method_42_code (4 : Nat) (Option.some Jvm.ClassFile.FieldType.int)) ∈ lw_all := lw_g (lw_at lw_m4 159 rfl) rfl
theorem q907 : (Jvm.Cond.instanceMethod ({ cls := "SelectoRoute", name := "mostAsked", desc := "(I)I" } : Jvm.MethodName)) ∈ lw_all := lw_g (lw_at lw_m4 164 rfl) rfl
theorem q908 : (Jvm.Cond.selects "SelectoRoute" ({ cls := "SelectoRoute", name := "mostAsked", desc := "(I)I" } : Jvm.MethodName) ({ cls := "SelectoRoute", name := "mostAsked", desc := "(I)I" } : Jvm.MethodName)) ∈ lw_all := lw_g (lw_at lw_m4 165 rfl) rfl
theorem q909 : (Jvm.Cond.code ({ cls := "SelectoRoute", name := "mostAsked", desc := "(I)I" } : Jvm.MethodName) prog_1_method_43_code (5 : Nat) (Option.some Jvm.ClassFile.FieldType.int)) ∈ lw_all := lw_g (lw_at lw_m4 166 rfl) rfl
theorem q914 : (Jvm.Cond.instanceMethod ({ cls := "SelectoRoute", name := "least", desc := "(I)I" } : Jvm.MethodName)) ∈ lw_all := lw_g (lw_at lw_m4 171 rfl) rfl
theorem q915 : (Jvm.Cond.selects "SelectoRoute" ({ cls := "SelectoRoute", name := "least", desc := "(I)I" } : Jvm.MethodName) ({ cls := "SelectoRoute", name := "least", desc := "(I)I" } : Jvm.MethodName)) ∈ lw_all := lw_g (lw_at lw_m4 172 rfl) rfl
theorem q916 : (Jvm.Cond.code ({ cls := "SelectoRoute", name := "least", desc := "(I)I" } : Jvm.MethodName) prog_1_method_44_code (6 : Nat) (Option.some Jvm.ClassFile.FieldType.int)) ∈ lw_all := lw_g (lw_at lw_m4 173 rfl) rfl
theorem q921 : (Jvm.Cond.instanceMethod ({ cls := "SelectoRoute", name := "worth", desc := "(III)I" } : Jvm.MethodName)) ∈ lw_all := lw_g (lw_at lw_m4 178 rfl) rfl
theorem q922 : (Jvm.Cond.selects "SelectoRoute" ({ cls := "SelectoRoute", name := "worth", desc := "(III)I" } : Jvm.MethodName) ({ cls := "SelectoRoute", name := "worth", desc := "(III)I" } : Jvm.MethodName)) ∈ lw_all := lw_g (lw_at lw_m4 179 rfl) rfl
theorem q923 : (Jvm.Cond.code ({ cls := "SelectoRoute", name := "worth", desc := "(III)I" } : Jvm.MethodName) prog_1_method_46_code (6 : Nat) (Option.some Jvm.ClassFile.FieldType.int)) ∈ lw_all := lw_g (lw_at lw_m4 180 rfl) rfl
theorem q928 : (Jvm.Cond.instanceMethod ({ cls := "SelectoRoute", name := "bestWorth", desc := "(II)I" } : Jvm.MethodName)) ∈ lw_all := lw_g (lw_at lw_m4 185 rfl) rfl
theorem q929 : (Jvm.Cond.selects "SelectoRoute" ({ cls := "SelectoRoute", name := "bestWorth", desc := "(II)I" } : Jvm.MethodName) ({ cls := "SelectoRoute", name := "bestWorth", desc := "(II)I" } : Jvm.MethodName)) ∈ lw_all := lw_g (lw_at lw_m4 186 rfl) rfl
theorem q930 : (Jvm.Cond.code ({ cls := "SelectoRoute", name := "bestWorth", desc := "(II)I" } : Jvm.MethodName) prog_1_method_49_code (4 : Nat) (Option.some Jvm.ClassFile.FieldType.int)) ∈ lw_all := lw_g (lw_at lw_m4 187 rfl) rfl
theorem q949 : (Jvm.Cond.instanceMethod ({ cls := "SelectoRoute", name := "wornShare", desc := "()F" } : Jvm.MethodName)) ∈ lw_all := lw_g (lw_at lw_m4 206 rfl) rfl
theorem q950 : (Jvm.Cond.selects "SelectoRoute" ({ cls := "SelectoRoute", name := "wornShare", desc := "()F" } : Jvm.MethodName) ({ cls := "SelectoRoute", name := "wornShare", desc := "()F" } : Jvm.MethodName)) ∈ lw_all := lw_g (lw_at lw_m4 207 rfl) rfl
theorem q951 : (Jvm.Cond.code ({ cls := "SelectoRoute", name := "wornShare", desc := "()F" } : Jvm.MethodName) prog_1_method_50_code (5 : Nat) (Option.some Jvm.ClassFile.FieldType.float)) ∈ lw_all := lw_g (lw_at lw_m4 208 rfl) rfl
theorem q952 : (Jvm.Cond.methodLink "SelectoRoute" (262 : Nat) ({ cls := "SelectoRoute", name := "requireSome", desc := "(Z)V" } : Jvm.MethodName)) ∈ lw_all := lw_g (lw_at lw_m4 209 rfl) rfl
theorem q953 : (Jvm.Cond.static ({ cls := "SelectoRoute", name := "requireSome", desc := "(Z)V" } : Jvm.MethodName)) ∈ lw_all := lw_g (lw_at lw_m4 210 rfl) rfl
theorem q954 : (Jvm.Cond.code ({ cls := "SelectoRoute", name := "requireSome", desc := "(Z)V" } : Jvm.MethodName) prog_1_method_7_code (1 : Nat) (Option.none : Option Jvm.ClassFile.FieldType)) ∈ lw_all := lw_g (lw_at lw_m4 211 rfl) rfl
theorem q955 : (Jvm.Cond.classLink "SelectoRoute" (19 : Nat) "java/lang/ArithmeticException") ∈ lw_all := lw_g (lw_at lw_m4 212 rfl) rfl
theorem q956 : (Jvm.Cond.methodLink "SelectoRoute" (21 : Nat) ({ cls := "java/lang/ArithmeticException", name := "<init>", desc := "()V" } : Jvm.MethodName)) ∈ lw_all := lw_g (lw_at lw_m4 213 rfl) rfl
theorem q964 : (Jvm.Cond.instanceMethod ({ cls := "SelectoRoute", name := "meanPull", desc := "()D" } : Jvm.MethodName)) ∈ lw_all := lw_g (lw_at lw_m4 221 rfl) rfl
theorem q965 : (Jvm.Cond.selects "SelectoRoute" ({ cls := "SelectoRoute", name := "meanPull", desc := "()D" } : Jvm.MethodName) ({ cls := "SelectoRoute", name := "meanPull", desc := "()D" } : Jvm.MethodName)) ∈ lw_all := lw_g (lw_at lw_m4 222 rfl) rfl
theorem q966 : (Jvm.Cond.code ({ cls := "SelectoRoute", name := "meanPull", desc := "()D" } : Jvm.MethodName) prog_1_method_51_code (6 : Nat) (Option.some Jvm.ClassFile.FieldType.double)) ∈ lw_all := lw_g (lw_at lw_m4 223 rfl) rfl
theorem q1271 : (Jvm.Cond.castable "SelectoRoute" "java/lang/Object") ∈ lw_tbl := lw_at lw_m6 48 rfl
theorem q1304 : (Jvm.Cond.fieldLinkNest "SelectoRoute" (113 : Nat) "SelectoRoute$Coin" "cents" "I" "SelectoRoute") ∈ lw_tbl := lw_at lw_m6 81 rfl
theorem in_X1 : ∀ w ∈ wsX10, w ∈ lw_all := lw_in wsX10 [100, 102, 104, 106, 108, 110, 112] (by decide +kernel) (by decide +kernel)
/-! SelectoRoute$Disc -/
set_option maxRecDepth 100000
def RX3 : String := "SelectoRoute$Disc"
def TX3 : u_T := fun k => match k with
  | 0 => ("SelectoRoute$Disc", "song", "I", true)
  | 1 => ("SelectoRoute$Disc", "strength", "I", true)
  | 2 => ("SelectoRoute$Disc", "week", "I", true)
  | 3 => ("SelectoRoute$Disc", "wear", "I", false)
  | _ => ("SelectoRoute$Disc", "place", "I", false)
def tyX3 : Nat → FieldType := fun k => match k with
  | 0 => .int
  | 1 => .int
  | 2 => .int
  | 3 => .int
  | _ => .int
abbrev wsX30 : List Cond := u_ws RX3 TX3 5
theorem nmX3 : ∀ a, a < 5 → ∀ b, b < 5 → a ≠ b → (TX3 a).2.1 ≠ (TX3 b).2.1 := by decide +kernel
theorem tyX3_ok : ∀ k, k < 5 → parseFieldDescriptor (TX3 k).2.2.1 = some (tyX3 k) := by decide +kernel
abbrev cX3_pull : ByteArray := prog_6_method_2_code
def yX3_pull : MethodName := ⟨RX3, "pull", "(II)I"⟩
def dkwX3_pull_3 : List UInt8 := [108, 100, 184, 0, 24, 172]
abbrev dktX3_pull_3 : List UInt8 := dkwX3_pull_3 ++ []
def dkwX3_pull_2 : List UInt8 := [16, 10, 112, 28, 160, 0, 9, 29, 5, 108, 167, 0, 4, 3, 96, 62, 3, 29, 42, 180, 0, 30, 16, 10]
abbrev dktX3_pull_2 : List UInt8 := dkwX3_pull_2 ++ dktX3_pull_3
def dkwX3_pull_1 : List UInt8 := [108, 42, 180, 0, 18, 5, 27, 42, 180, 0, 21, 100, 104, 100, 184, 0, 24, 62, 29, 42, 180, 0, 15]
abbrev dktX3_pull_1 : List UInt8 := dkwX3_pull_1 ++ dktX3_pull_2
def dkwX3_pull_0 : List UInt8 := [42, 180, 0, 9, 16, 254, 159, 0, 11, 27, 42, 180, 0, 21, 162, 0, 5, 3, 172, 42, 180, 0, 18, 8]
abbrev dktX3_pull_0 : List UInt8 := dkwX3_pull_0 ++ dktX3_pull_1
theorem dksX3_pull_0 : cX3_pull.data.toList.drop 0 = dktX3_pull_0 := by decide +kernel
theorem dksX3_pull_1 : cX3_pull.data.toList.drop 24 = dktX3_pull_1 := dk_seg dksX3_pull_0 24 rfl rfl
theorem dksX3_pull_2 : cX3_pull.data.toList.drop 47 = dktX3_pull_2 := dk_seg dksX3_pull_1 23 rfl rfl
theorem dksX3_pull_3 : cX3_pull.data.toList.drop 71 = dktX3_pull_3 := dk_seg dksX3_pull_2 24 rfl rfl
theorem dX3_pull_0 : decode cX3_pull 0 = .ok (.aload_n 0, 1) := dk_42 (dk_at dksX3_pull_0 0 rfl rfl)
theorem dX3_pull_1 : decode cX3_pull 1 = .ok (.getfield 9, 3) := dk_180 0 9 (dk_at dksX3_pull_0 1 rfl rfl)
theorem dX3_pull_4 : decode cX3_pull 4 = .ok (.bipush (-2), 2) := dk_16 254 (dk_at dksX3_pull_0 4 rfl rfl)
theorem dX3_pull_6 : decode cX3_pull 6 = .ok (.if_icmp .eq 11, 3) := dk_159 0 11 (dk_at dksX3_pull_0 6 rfl rfl)
theorem dX3_pull_9 : decode cX3_pull 9 = .ok (.iload_n 1, 1) := dk_27 (dk_at dksX3_pull_0 9 rfl rfl)
theorem dX3_pull_10 : decode cX3_pull 10 = .ok (.aload_n 0, 1) := dk_42 (dk_at dksX3_pull_0 10 rfl rfl)
theorem dX3_pull_11 : decode cX3_pull 11 = .ok (.getfield 21, 3) := dk_180 0 21 (dk_at dksX3_pull_0 11 rfl rfl)
theorem dX3_pull_14 : decode cX3_pull 14 = .ok (.if_icmp .ge 5, 3) := dk_162 0 5 (dk_at dksX3_pull_0 14 rfl rfl)
theorem dX3_pull_17 : decode cX3_pull 17 = .ok (.iconst 0, 1) := dk_3 (dk_at dksX3_pull_0 17 rfl rfl)
theorem dX3_pull_18 : decode cX3_pull 18 = .ok (.ireturn, 1) := dk_172 (dk_at dksX3_pull_0 18 rfl rfl)
theorem dX3_pull_19 : decode cX3_pull 19 = .ok (.aload_n 0, 1) := dk_42 (dk_at dksX3_pull_0 19 rfl rfl)
theorem dX3_pull_20 : decode cX3_pull 20 = .ok (.getfield 18, 3) := dk_180 0 18 (dk_at dksX3_pull_0 20 rfl rfl)
theorem dX3_pull_23 : decode cX3_pull 23 = .ok (.iconst 5, 1) := dk_8 (dk_at dksX3_pull_0 23 rfl rfl)
theorem dX3_pull_24 : decode cX3_pull 24 = .ok (.idiv, 1) := dk_108 (dk_at dksX3_pull_1 0 rfl rfl)
theorem dX3_pull_25 : decode cX3_pull 25 = .ok (.aload_n 0, 1) := dk_42 (dk_at dksX3_pull_1 1 rfl rfl)
theorem dX3_pull_26 : decode cX3_pull 26 = .ok (.getfield 18, 3) := dk_180 0 18 (dk_at dksX3_pull_1 2 rfl rfl)
theorem dX3_pull_29 : decode cX3_pull 29 = .ok (.iconst 2, 1) := dk_5 (dk_at dksX3_pull_1 5 rfl rfl)
theorem dX3_pull_30 : decode cX3_pull 30 = .ok (.iload_n 1, 1) := dk_27 (dk_at dksX3_pull_1 6 rfl rfl)
theorem dX3_pull_31 : decode cX3_pull 31 = .ok (.aload_n 0, 1) := dk_42 (dk_at dksX3_pull_1 7 rfl rfl)
theorem dX3_pull_32 : decode cX3_pull 32 = .ok (.getfield 21, 3) := dk_180 0 21 (dk_at dksX3_pull_1 8 rfl rfl)
theorem dX3_pull_35 : decode cX3_pull 35 = .ok (.isub, 1) := dk_100 (dk_at dksX3_pull_1 11 rfl rfl)
theorem dX3_pull_36 : decode cX3_pull 36 = .ok (.imul, 1) := dk_104 (dk_at dksX3_pull_1 12 rfl rfl)
theorem dX3_pull_37 : decode cX3_pull 37 = .ok (.isub, 1) := dk_100 (dk_at dksX3_pull_1 13 rfl rfl)
theorem dX3_pull_38 : decode cX3_pull 38 = .ok (.invokestatic 24, 3) := dk_184 0 24 (dk_at dksX3_pull_1 14 rfl rfl)
theorem dX3_pull_41 : decode cX3_pull 41 = .ok (.istore_n 3, 1) := dk_62 (dk_at dksX3_pull_1 17 rfl rfl)
theorem dX3_pull_42 : decode cX3_pull 42 = .ok (.iload_n 3, 1) := dk_29 (dk_at dksX3_pull_1 18 rfl rfl)
theorem dX3_pull_43 : decode cX3_pull 43 = .ok (.aload_n 0, 1) := dk_42 (dk_at dksX3_pull_1 19 rfl rfl)
theorem dX3_pull_44 : decode cX3_pull 44 = .ok (.getfield 15, 3) := dk_180 0 15 (dk_at dksX3_pull_1 20 rfl rfl)
theorem dX3_pull_47 : decode cX3_pull 47 = .ok (.bipush 10, 2) := dk_16 10 (dk_at dksX3_pull_2 0 rfl rfl)
theorem dX3_pull_49 : decode cX3_pull 49 = .ok (.irem, 1) := dk_112 (dk_at dksX3_pull_2 2 rfl rfl)
theorem dX3_pull_50 : decode cX3_pull 50 = .ok (.iload_n 2, 1) := dk_28 (dk_at dksX3_pull_2 3 rfl rfl)
theorem dX3_pull_51 : decode cX3_pull 51 = .ok (.if_icmp .ne 9, 3) := dk_160 0 9 (dk_at dksX3_pull_2 4 rfl rfl)
theorem dX3_pull_54 : decode cX3_pull 54 = .ok (.iload_n 3, 1) := dk_29 (dk_at dksX3_pull_2 7 rfl rfl)
theorem dX3_pull_55 : decode cX3_pull 55 = .ok (.iconst 2, 1) := dk_5 (dk_at dksX3_pull_2 8 rfl rfl)
theorem dX3_pull_56 : decode cX3_pull 56 = .ok (.idiv, 1) := dk_108 (dk_at dksX3_pull_2 9 rfl rfl)
theorem dX3_pull_57 : decode cX3_pull 57 = .ok (.goto 4, 3) := dk_167 0 4 (dk_at dksX3_pull_2 10 rfl rfl)
theorem dX3_pull_60 : decode cX3_pull 60 = .ok (.iconst 0, 1) := dk_3 (dk_at dksX3_pull_2 13 rfl rfl)
theorem dX3_pull_61 : decode cX3_pull 61 = .ok (.iadd, 1) := dk_96 (dk_at dksX3_pull_2 14 rfl rfl)
theorem dX3_pull_62 : decode cX3_pull 62 = .ok (.istore_n 3, 1) := dk_62 (dk_at dksX3_pull_2 15 rfl rfl)
theorem dX3_pull_63 : decode cX3_pull 63 = .ok (.iconst 0, 1) := dk_3 (dk_at dksX3_pull_2 16 rfl rfl)
theorem dX3_pull_64 : decode cX3_pull 64 = .ok (.iload_n 3, 1) := dk_29 (dk_at dksX3_pull_2 17 rfl rfl)
theorem dX3_pull_65 : decode cX3_pull 65 = .ok (.aload_n 0, 1) := dk_42 (dk_at dksX3_pull_2 18 rfl rfl)
theorem dX3_pull_66 : decode cX3_pull 66 = .ok (.getfield 30, 3) := dk_180 0 30 (dk_at dksX3_pull_2 19 rfl rfl)
theorem dX3_pull_69 : decode cX3_pull 69 = .ok (.bipush 10, 2) := dk_16 10 (dk_at dksX3_pull_2 22 rfl rfl)
theorem dX3_pull_71 : decode cX3_pull 71 = .ok (.idiv, 1) := dk_108 (dk_at dksX3_pull_3 0 rfl rfl)
theorem dX3_pull_72 : decode cX3_pull 72 = .ok (.isub, 1) := dk_100 (dk_at dksX3_pull_3 1 rfl rfl)
theorem dX3_pull_73 : decode cX3_pull 73 = .ok (.invokestatic 24, 3) := dk_184 0 24 (dk_at dksX3_pull_3 2 rfl rfl)
theorem dX3_pull_76 : decode cX3_pull 76 = .ok (.ireturn, 1) := dk_172 (dk_at dksX3_pull_3 5 rfl rfl)
abbrev cX3_init : ByteArray := prog_6_method_1_code
def yX3_init : MethodName := ⟨RX3, "<init>", "(III)V"⟩
def dkwX3_init_1 : List UInt8 := [177]
abbrev dktX3_init_1 : List UInt8 := dkwX3_init_1 ++ []
def dkwX3_init_0 : List UInt8 := [42, 183, 0, 3, 42, 2, 181, 0, 9, 42, 27, 181, 0, 15, 42, 28, 181, 0, 18, 42, 29, 181, 0, 21]
abbrev dktX3_init_0 : List UInt8 := dkwX3_init_0 ++ dktX3_init_1
theorem dksX3_init_0 : cX3_init.data.toList.drop 0 = dktX3_init_0 := by decide +kernel
theorem dksX3_init_1 : cX3_init.data.toList.drop 24 = dktX3_init_1 := dk_seg dksX3_init_0 24 rfl rfl
theorem dX3_init_0 : decode cX3_init 0 = .ok (.aload_n 0, 1) := dk_42 (dk_at dksX3_init_0 0 rfl rfl)
theorem dX3_init_1 : decode cX3_init 1 = .ok (.invokespecial 3, 3) := dk_183 0 3 (dk_at dksX3_init_0 1 rfl rfl)
theorem dX3_init_4 : decode cX3_init 4 = .ok (.aload_n 0, 1) := dk_42 (dk_at dksX3_init_0 4 rfl rfl)
theorem dX3_init_5 : decode cX3_init 5 = .ok (.iconst (-1), 1) := dk_2 (dk_at dksX3_init_0 5 rfl rfl)
theorem dX3_init_6 : decode cX3_init 6 = .ok (.putfield 9, 3) := dk_181 0 9 (dk_at dksX3_init_0 6 rfl rfl)
theorem dX3_init_9 : decode cX3_init 9 = .ok (.aload_n 0, 1) := dk_42 (dk_at dksX3_init_0 9 rfl rfl)
theorem dX3_init_10 : decode cX3_init 10 = .ok (.iload_n 1, 1) := dk_27 (dk_at dksX3_init_0 10 rfl rfl)
theorem dX3_init_11 : decode cX3_init 11 = .ok (.putfield 15, 3) := dk_181 0 15 (dk_at dksX3_init_0 11 rfl rfl)
theorem dX3_init_14 : decode cX3_init 14 = .ok (.aload_n 0, 1) := dk_42 (dk_at dksX3_init_0 14 rfl rfl)
theorem dX3_init_15 : decode cX3_init 15 = .ok (.iload_n 2, 1) := dk_28 (dk_at dksX3_init_0 15 rfl rfl)
theorem dX3_init_16 : decode cX3_init 16 = .ok (.putfield 18, 3) := dk_181 0 18 (dk_at dksX3_init_0 16 rfl rfl)
theorem dX3_init_19 : decode cX3_init 19 = .ok (.aload_n 0, 1) := dk_42 (dk_at dksX3_init_0 19 rfl rfl)
theorem dX3_init_20 : decode cX3_init 20 = .ok (.iload_n 3, 1) := dk_29 (dk_at dksX3_init_0 20 rfl rfl)
theorem dX3_init_21 : decode cX3_init 21 = .ok (.putfield 21, 3) := dk_181 0 21 (dk_at dksX3_init_0 21 rfl rfl)
theorem dX3_init_24 : decode cX3_init 24 = .ok (.return_, 1) := dk_177 (dk_at dksX3_init_1 0 rfl rfl)
abbrev cX3_isWornOut : ByteArray := prog_6_method_3_code
def yX3_isWornOut : MethodName := ⟨RX3, "isWornOut", "()Z"⟩
def dkwX3_isWornOut_0 : List UInt8 := [42, 180, 0, 30, 16, 60, 161, 0, 7, 4, 167, 0, 4, 3, 172]
abbrev dktX3_isWornOut_0 : List UInt8 := dkwX3_isWornOut_0 ++ []
theorem dksX3_isWornOut_0 : cX3_isWornOut.data.toList.drop 0 = dktX3_isWornOut_0 := by decide +kernel
theorem dX3_isWornOut_0 : decode cX3_isWornOut 0 = .ok (.aload_n 0, 1) := dk_42 (dk_at dksX3_isWornOut_0 0 rfl rfl)
theorem dX3_isWornOut_1 : decode cX3_isWornOut 1 = .ok (.getfield 30, 3) := dk_180 0 30 (dk_at dksX3_isWornOut_0 1 rfl rfl)
theorem dX3_isWornOut_4 : decode cX3_isWornOut 4 = .ok (.bipush 60, 2) := dk_16 60 (dk_at dksX3_isWornOut_0 4 rfl rfl)
theorem dX3_isWornOut_6 : decode cX3_isWornOut 6 = .ok (.if_icmp .lt 7, 3) := dk_161 0 7 (dk_at dksX3_isWornOut_0 6 rfl rfl)
theorem dX3_isWornOut_9 : decode cX3_isWornOut 9 = .ok (.iconst 1, 1) := dk_4 (dk_at dksX3_isWornOut_0 9 rfl rfl)
theorem dX3_isWornOut_10 : decode cX3_isWornOut 10 = .ok (.goto 4, 3) := dk_167 0 4 (dk_at dksX3_isWornOut_0 10 rfl rfl)
theorem dX3_isWornOut_13 : decode cX3_isWornOut 13 = .ok (.iconst 0, 1) := dk_3 (dk_at dksX3_isWornOut_0 13 rfl rfl)
theorem dX3_isWornOut_14 : decode cX3_isWornOut 14 = .ok (.ireturn, 1) := dk_172 (dk_at dksX3_isWornOut_0 14 rfl rfl)
theorem q34 : (Jvm.Cond.initialized "SelectoRoute$Disc") ∈ lw_all := lw_g (lw_at lw_m1 11 rfl) rfl
theorem q285 : (Jvm.Cond.instanceMethod ({ cls := "SelectoRoute$Disc", name := "pull", desc := "(II)I" } : Jvm.MethodName)) ∈ lw_all := lw_g (lw_at lw_m2 22 rfl) rfl
theorem q286 : (Jvm.Cond.selects "SelectoRoute$Disc" ({ cls := "SelectoRoute$Disc", name := "pull", desc := "(II)I" } : Jvm.MethodName) ({ cls := "SelectoRoute$Disc", name := "pull", desc := "(II)I" } : Jvm.MethodName)) ∈ lw_all := lw_g (lw_at lw_m2 23 rfl) rfl
theorem q287 : (Jvm.Cond.code ({ cls := "SelectoRoute$Disc", name := "pull", desc := "(II)I" } : Jvm.MethodName) prog_6_method_2_code (4 : Nat) (Option.some Jvm.ClassFile.FieldType.int)) ∈ lw_all := lw_g (lw_at lw_m2 24 rfl) rfl
theorem q288 : (Jvm.Cond.methodLink "SelectoRoute$Disc" (24 : Nat) ({ cls := "java/lang/Math", name := "max", desc := "(II)I" } : Jvm.MethodName)) ∈ lw_all := lw_g (lw_at lw_m2 25 rfl) rfl
theorem q346 : (Jvm.Cond.selects "SelectoRoute$Disc" ({ cls := "java/lang/Object", name := "getClass", desc := "()Ljava/lang/Class;" } : Jvm.MethodName) ({ cls := "java/lang/Object", name := "getClass", desc := "()Ljava/lang/Class;" } : Jvm.MethodName)) ∈ lw_all := lw_g (lw_at lw_m2 83 rfl) rfl
theorem q464 : (Jvm.Cond.instantiable "SelectoRoute$Disc" (5 : Nat)) ∈ lw_all := lw_g (lw_at lw_m2 201 rfl) rfl
theorem q466 : (Jvm.Cond.instanceMethod ({ cls := "SelectoRoute$Disc", name := "<init>", desc := "(III)V" } : Jvm.MethodName)) ∈ lw_all := lw_g (lw_at lw_m2 203 rfl) rfl
theorem q467 : (Jvm.Cond.code ({ cls := "SelectoRoute$Disc", name := "<init>", desc := "(III)V" } : Jvm.MethodName) prog_6_method_1_code (4 : Nat) (Option.none : Option Jvm.ClassFile.FieldType)) ∈ lw_all := lw_g (lw_at lw_m2 204 rfl) rfl
theorem q468 : (Jvm.Cond.methodLink "SelectoRoute$Disc" (3 : Nat) ({ cls := "java/lang/Object", name := "<init>", desc := "()V" } : Jvm.MethodName)) ∈ lw_all := lw_g (lw_at lw_m2 205 rfl) rfl
theorem q469 : (Jvm.Cond.fieldLink "SelectoRoute$Disc" (15 : Nat) "SelectoRoute$Disc" "song" "I") ∈ lw_all := lw_g (lw_at lw_m2 206 rfl) rfl
theorem q471 : (Jvm.Cond.fieldLink "SelectoRoute$Disc" (18 : Nat) "SelectoRoute$Disc" "strength" "I") ∈ lw_all := lw_g (lw_at lw_m2 208 rfl) rfl
theorem q472 : (Jvm.Cond.fieldLink "SelectoRoute$Disc" (21 : Nat) "SelectoRoute$Disc" "week" "I") ∈ lw_all := lw_g (lw_at lw_m2 209 rfl) rfl
theorem q473 : (Jvm.Cond.fieldLink "SelectoRoute$Disc" (30 : Nat) "SelectoRoute$Disc" "wear" "I") ∈ lw_all := lw_g (lw_at lw_m2 210 rfl) rfl
theorem q476 : (Jvm.Cond.fieldLink "SelectoRoute$Disc" (9 : Nat) "SelectoRoute$Disc" "place" "I") ∈ lw_all := lw_g (lw_at lw_m2 213 rfl) rfl
theorem q478 : (Jvm.Cond.laysFinal "SelectoRoute$Disc" "SelectoRoute$Disc" "song" "I") ∈ lw_all := lw_g (lw_at lw_m2 215 rfl) rfl
theorem q479 : (Jvm.Cond.soleField "SelectoRoute$Disc" "song") ∈ lw_all := lw_g (lw_at lw_m2 216 rfl) rfl
theorem q480 : (Jvm.Cond.laysFinal "SelectoRoute$Disc" "SelectoRoute$Disc" "strength" "I") ∈ lw_all := lw_g (lw_at lw_m2 217 rfl) rfl
theorem q481 : (Jvm.Cond.soleField "SelectoRoute$Disc" "strength") ∈ lw_all := lw_g (lw_at lw_m2 218 rfl) rfl
theorem q482 : (Jvm.Cond.laysFinal "SelectoRoute$Disc" "SelectoRoute$Disc" "week" "I") ∈ lw_all := lw_g (lw_at lw_m2 219 rfl) rfl
theorem q483 : (Jvm.Cond.soleField "SelectoRoute$Disc" "week") ∈ lw_all := lw_g (lw_at lw_m2 220 rfl) rfl
theorem q484 : (Jvm.Cond.lays "SelectoRoute$Disc" "SelectoRoute$Disc" "wear" "I") ∈ lw_all := lw_g (lw_at lw_m2 221 rfl) rfl
theorem q485 : (Jvm.Cond.soleField "SelectoRoute$Disc" "wear") ∈ lw_all := lw_g (lw_at lw_m2 222 rfl) rfl
theorem q486 : (Jvm.Cond.lays "SelectoRoute$Disc" "SelectoRoute$Disc" "place" "I") ∈ lw_all := lw_g (lw_at lw_m2 223 rfl) rfl
theorem q487 : (Jvm.Cond.soleField "SelectoRoute$Disc" "place") ∈ lw_all := lw_g (lw_at lw_m2 224 rfl) rfl
theorem q488 : (Jvm.Cond.superclass "SelectoRoute$Disc" "java/lang/Object") ∈ lw_all := lw_g (lw_at lw_m2 225 rfl) rfl
theorem q721 : (Jvm.Cond.instanceMethod ({ cls := "SelectoRoute$Disc", name := "isWornOut", desc := "()Z" } : Jvm.MethodName)) ∈ lw_all := lw_g (lw_at lw_m3 218 rfl) rfl
theorem q722 : (Jvm.Cond.selects "SelectoRoute$Disc" ({ cls := "SelectoRoute$Disc", name := "isWornOut", desc := "()Z" } : Jvm.MethodName) ({ cls := "SelectoRoute$Disc", name := "isWornOut", desc := "()Z" } : Jvm.MethodName)) ∈ lw_all := lw_g (lw_at lw_m3 219 rfl) rfl
theorem q723 : (Jvm.Cond.code ({ cls := "SelectoRoute$Disc", name := "isWornOut", desc := "()Z" } : Jvm.MethodName) prog_6_method_3_code (1 : Nat) (Option.some Jvm.ClassFile.FieldType.boolean)) ∈ lw_all := lw_g (lw_at lw_m3 220 rfl) rfl
theorem q1276 : (Jvm.Cond.castable "SelectoRoute$Disc" "java/lang/Object") ∈ lw_tbl := lw_at lw_m6 53 rfl
theorem in_X3 : ∀ w ∈ wsX30, w ∈ lw_all := lw_in wsX30 [478, 480, 482, 484, 486] (by decide +kernel) (by decide +kernel)
/-! SelectoRoute$Box -/
set_option maxRecDepth 100000
def RX4 : String := "SelectoRoute$Box"
def TX4 : u_T := fun k => match k with
  | 0 => ("SelectoRoute$Box", "share", "I", true)
  | 1 => ("SelectoRoute$Box", "taste", "I", true)
  | 2 => ("SelectoRoute$Box", "slots", "[I", true)
  | 3 => ("SelectoRoute$Box", "wheels", "[I", true)
  | 4 => ("SelectoRoute$Box", "asked", "[I", true)
  | 5 => ("SelectoRoute$Box", "queue", "Ljava/util/ArrayList;", true)
  | 6 => ("SelectoRoute$Box", "credits", "I", false)
  | 7 => ("SelectoRoute$Box", "cents", "I", false)
  | 8 => ("SelectoRoute$Box", "needle", "I", false)
  | 9 => ("SelectoRoute$Box", "risk", "I", false)
  | 10 => ("SelectoRoute$Box", "plays", "I", false)
  | 11 => ("SelectoRoute$Box", "missing", "I", false)
  | 12 => ("SelectoRoute$Box", "paid", "I", false)
  | 13 => ("SelectoRoute$Box", "isJammed", "Z", false)
  | _ => ("SelectoRoute$Box", "isVisited", "Z", false)
def tyX4 : Nat → FieldType := fun k => match k with
  | 0 => .int
  | 1 => .int
  | 2 => .array .int
  | 3 => .array .int
  | 4 => .array .int
  | 5 => .object "java/util/ArrayList"
  | 6 => .int
  | 7 => .int
  | 8 => .int
  | 9 => .int
  | 10 => .int
  | 11 => .int
  | 12 => .int
  | 13 => .boolean
  | _ => .boolean
abbrev wsX40 : List Cond := u_ws RX4 TX4 15
set_option maxRecDepth 100000 in
theorem nmX4 : ∀ a, a < 15 → ∀ b, b < 15 → a ≠ b → (TX4 a).2.1 ≠ (TX4 b).2.1 := by decide +kernel
set_option maxRecDepth 100000 in
theorem tyX4_ok : ∀ k, k < 15 → parseFieldDescriptor (TX4 k).2.2.1 = some (tyX4 k) := by decide +kernel
abbrev cX4_init : ByteArray := prog_2_method_1_code
def yX4_init : MethodName := ⟨RX4, "<init>", "(I)V"⟩
def dkwX4_init_0 : List UInt8 := [42, 3, 27, 183, 0, 3, 177]
abbrev dktX4_init_0 : List UInt8 := dkwX4_init_0 ++ []
theorem dksX4_init_0 : cX4_init.data.toList.drop 0 = dktX4_init_0 := by decide +kernel
theorem dX4_init_0 : decode cX4_init 0 = .ok (.aload_n 0, 1) := dk_42 (dk_at dksX4_init_0 0 rfl rfl)
theorem dX4_init_1 : decode cX4_init 1 = .ok (.iconst 0, 1) := dk_3 (dk_at dksX4_init_0 1 rfl rfl)
theorem dX4_init_2 : decode cX4_init 2 = .ok (.iload_n 1, 1) := dk_27 (dk_at dksX4_init_0 2 rfl rfl)
theorem dX4_init_3 : decode cX4_init 3 = .ok (.invokespecial 3, 3) := dk_183 0 3 (dk_at dksX4_init_0 3 rfl rfl)
theorem dX4_init_6 : decode cX4_init 6 = .ok (.return_, 1) := dk_177 (dk_at dksX4_init_0 6 rfl rfl)
abbrev cX4_init_2 : ByteArray := prog_2_method_2_code
def yX4_init_2 : MethodName := ⟨RX4, "<init>", "(II)V"⟩
def dkwX4_init_2_2 : List UInt8 := [42, 180, 0, 14, 29, 2, 79, 132, 3, 1, 167, 255, 240, 42, 27, 181, 0, 31, 42, 28, 181, 0, 35, 177]
abbrev dktX4_init_2_2 : List UInt8 := dkwX4_init_2_2 ++ []
def dkwX4_init_2_1 : List UInt8 := [188, 10, 181, 0, 21, 42, 187, 0, 24, 89, 183, 0, 26, 181, 0, 27, 3, 62, 29, 16, 10, 162, 0, 16]
abbrev dktX4_init_2_1 : List UInt8 := dkwX4_init_2_1 ++ dktX4_init_2_2
def dkwX4_init_2_0 : List UInt8 := [42, 183, 0, 9, 42, 16, 10, 188, 10, 181, 0, 14, 42, 16, 10, 188, 10, 181, 0, 18, 42, 16, 100]
abbrev dktX4_init_2_0 : List UInt8 := dkwX4_init_2_0 ++ dktX4_init_2_1
theorem dksX4_init_2_0 : cX4_init_2.data.toList.drop 0 = dktX4_init_2_0 := by decide +kernel
theorem dksX4_init_2_1 : cX4_init_2.data.toList.drop 23 = dktX4_init_2_1 := dk_seg dksX4_init_2_0 23 rfl rfl
theorem dksX4_init_2_2 : cX4_init_2.data.toList.drop 47 = dktX4_init_2_2 := dk_seg dksX4_init_2_1 24 rfl rfl
theorem dX4_init_2_0 : decode cX4_init_2 0 = .ok (.aload_n 0, 1) := dk_42 (dk_at dksX4_init_2_0 0 rfl rfl)
theorem dX4_init_2_1 : decode cX4_init_2 1 = .ok (.invokespecial 9, 3) := dk_183 0 9 (dk_at dksX4_init_2_0 1 rfl rfl)
theorem dX4_init_2_4 : decode cX4_init_2 4 = .ok (.aload_n 0, 1) := dk_42 (dk_at dksX4_init_2_0 4 rfl rfl)
theorem dX4_init_2_5 : decode cX4_init_2 5 = .ok (.bipush 10, 2) := dk_16 10 (dk_at dksX4_init_2_0 5 rfl rfl)
theorem dX4_init_2_7 : decode cX4_init_2 7 = .ok (.newarray .int, 2) := dk_188_10 (dk_at dksX4_init_2_0 7 rfl rfl)
theorem dX4_init_2_9 : decode cX4_init_2 9 = .ok (.putfield 14, 3) := dk_181 0 14 (dk_at dksX4_init_2_0 9 rfl rfl)
theorem dX4_init_2_12 : decode cX4_init_2 12 = .ok (.aload_n 0, 1) := dk_42 (dk_at dksX4_init_2_0 12 rfl rfl)
theorem dX4_init_2_13 : decode cX4_init_2 13 = .ok (.bipush 10, 2) := dk_16 10 (dk_at dksX4_init_2_0 13 rfl rfl)
theorem dX4_init_2_15 : decode cX4_init_2 15 = .ok (.newarray .int, 2) := dk_188_10 (dk_at dksX4_init_2_0 15 rfl rfl)
theorem dX4_init_2_17 : decode cX4_init_2 17 = .ok (.putfield 18, 3) := dk_181 0 18 (dk_at dksX4_init_2_0 17 rfl rfl)
theorem dX4_init_2_20 : decode cX4_init_2 20 = .ok (.aload_n 0, 1) := dk_42 (dk_at dksX4_init_2_0 20 rfl rfl)
theorem dX4_init_2_21 : decode cX4_init_2 21 = .ok (.bipush 100, 2) := dk_16 100 (dk_at dksX4_init_2_0 21 rfl rfl)
theorem dX4_init_2_23 : decode cX4_init_2 23 = .ok (.newarray .int, 2) := dk_188_10 (dk_at dksX4_init_2_1 0 rfl rfl)
theorem dX4_init_2_25 : decode cX4_init_2 25 = .ok (.putfield 21, 3) := dk_181 0 21 (dk_at dksX4_init_2_1 2 rfl rfl)
theorem dX4_init_2_28 : decode cX4_init_2 28 = .ok (.aload_n 0, 1) := dk_42 (dk_at dksX4_init_2_1 5 rfl rfl)
theorem dX4_init_2_29 : decode cX4_init_2 29 = .ok (.new 24, 3) := dk_187 0 24 (dk_at dksX4_init_2_1 6 rfl rfl)
theorem dX4_init_2_32 : decode cX4_init_2 32 = .ok (.dup, 1) := dk_89 (dk_at dksX4_init_2_1 9 rfl rfl)
theorem dX4_init_2_33 : decode cX4_init_2 33 = .ok (.invokespecial 26, 3) := dk_183 0 26 (dk_at dksX4_init_2_1 10 rfl rfl)
theorem dX4_init_2_36 : decode cX4_init_2 36 = .ok (.putfield 27, 3) := dk_181 0 27 (dk_at dksX4_init_2_1 13 rfl rfl)
theorem dX4_init_2_39 : decode cX4_init_2 39 = .ok (.iconst 0, 1) := dk_3 (dk_at dksX4_init_2_1 16 rfl rfl)
theorem dX4_init_2_40 : decode cX4_init_2 40 = .ok (.istore_n 3, 1) := dk_62 (dk_at dksX4_init_2_1 17 rfl rfl)
theorem dX4_init_2_41 : decode cX4_init_2 41 = .ok (.iload_n 3, 1) := dk_29 (dk_at dksX4_init_2_1 18 rfl rfl)
theorem dX4_init_2_42 : decode cX4_init_2 42 = .ok (.bipush 10, 2) := dk_16 10 (dk_at dksX4_init_2_1 19 rfl rfl)
theorem dX4_init_2_44 : decode cX4_init_2 44 = .ok (.if_icmp .ge 16, 3) := dk_162 0 16 (dk_at dksX4_init_2_1 21 rfl rfl)
theorem dX4_init_2_47 : decode cX4_init_2 47 = .ok (.aload_n 0, 1) := dk_42 (dk_at dksX4_init_2_2 0 rfl rfl)
theorem dX4_init_2_48 : decode cX4_init_2 48 = .ok (.getfield 14, 3) := dk_180 0 14 (dk_at dksX4_init_2_2 1 rfl rfl)
theorem dX4_init_2_51 : decode cX4_init_2 51 = .ok (.iload_n 3, 1) := dk_29 (dk_at dksX4_init_2_2 4 rfl rfl)
theorem dX4_init_2_52 : decode cX4_init_2 52 = .ok (.iconst (-1), 1) := dk_2 (dk_at dksX4_init_2_2 5 rfl rfl)
theorem dX4_init_2_53 : decode cX4_init_2 53 = .ok (.iastore, 1) := dk_79 (dk_at dksX4_init_2_2 6 rfl rfl)
theorem dX4_init_2_54 : decode cX4_init_2 54 = .ok (.iinc 3 1, 3) := dk_132 3 1 (dk_at dksX4_init_2_2 7 rfl rfl)
theorem dX4_init_2_57 : decode cX4_init_2 57 = .ok (.goto (-16), 3) := dk_167 255 240 (dk_at dksX4_init_2_2 10 rfl rfl)
theorem dX4_init_2_60 : decode cX4_init_2 60 = .ok (.aload_n 0, 1) := dk_42 (dk_at dksX4_init_2_2 13 rfl rfl)
theorem dX4_init_2_61 : decode cX4_init_2 61 = .ok (.iload_n 1, 1) := dk_27 (dk_at dksX4_init_2_2 14 rfl rfl)
theorem dX4_init_2_62 : decode cX4_init_2 62 = .ok (.putfield 31, 3) := dk_181 0 31 (dk_at dksX4_init_2_2 15 rfl rfl)
theorem dX4_init_2_65 : decode cX4_init_2 65 = .ok (.aload_n 0, 1) := dk_42 (dk_at dksX4_init_2_2 18 rfl rfl)
theorem dX4_init_2_66 : decode cX4_init_2 66 = .ok (.iload_n 2, 1) := dk_28 (dk_at dksX4_init_2_2 19 rfl rfl)
theorem dX4_init_2_67 : decode cX4_init_2 67 = .ok (.putfield 35, 3) := dk_181 0 35 (dk_at dksX4_init_2_2 20 rfl rfl)
theorem dX4_init_2_70 : decode cX4_init_2 70 = .ok (.return_, 1) := dk_177 (dk_at dksX4_init_2_2 23 rfl rfl)
abbrev cX4_plays : ByteArray := prog_2_method_3_code
def yX4_plays : MethodName := ⟨RX4, "plays", "(ILSelectoRoute$Disc;I)V"⟩
def dkwX4_plays_2 : List UInt8 := [96, 181, 0, 46, 177]
abbrev dktX4_plays_2 : List UInt8 := dkwX4_plays_2 ++ []
def dkwX4_plays_1 : List UInt8 := [180, 0, 41, 29, 4, 42, 180, 0, 46, 16, 40, 108, 96, 104, 96, 181, 0, 41, 42, 89, 180, 0, 46, 29]
abbrev dktX4_plays_1 : List UInt8 := dkwX4_plays_1 ++ dktX4_plays_2
def dkwX4_plays_0 : List UInt8 := [42, 180, 0, 18, 27, 92, 46, 29, 96, 79, 42, 89, 180, 0, 38, 29, 96, 181, 0, 38, 44, 89]
abbrev dktX4_plays_0 : List UInt8 := dkwX4_plays_0 ++ dktX4_plays_1
theorem dksX4_plays_0 : cX4_plays.data.toList.drop 0 = dktX4_plays_0 := by decide +kernel
theorem dksX4_plays_1 : cX4_plays.data.toList.drop 22 = dktX4_plays_1 := dk_seg dksX4_plays_0 22 rfl rfl
theorem dksX4_plays_2 : cX4_plays.data.toList.drop 46 = dktX4_plays_2 := dk_seg dksX4_plays_1 24 rfl rfl
theorem dX4_plays_0 : decode cX4_plays 0 = .ok (.aload_n 0, 1) := dk_42 (dk_at dksX4_plays_0 0 rfl rfl)
theorem dX4_plays_1 : decode cX4_plays 1 = .ok (.getfield 18, 3) := dk_180 0 18 (dk_at dksX4_plays_0 1 rfl rfl)
theorem dX4_plays_4 : decode cX4_plays 4 = .ok (.iload_n 1, 1) := dk_27 (dk_at dksX4_plays_0 4 rfl rfl)
theorem dX4_plays_5 : decode cX4_plays 5 = .ok (.dup2, 1) := dk_92 (dk_at dksX4_plays_0 5 rfl rfl)
theorem dX4_plays_6 : decode cX4_plays 6 = .ok (.iaload, 1) := dk_46 (dk_at dksX4_plays_0 6 rfl rfl)
theorem dX4_plays_7 : decode cX4_plays 7 = .ok (.iload_n 3, 1) := dk_29 (dk_at dksX4_plays_0 7 rfl rfl)
theorem dX4_plays_8 : decode cX4_plays 8 = .ok (.iadd, 1) := dk_96 (dk_at dksX4_plays_0 8 rfl rfl)
theorem dX4_plays_9 : decode cX4_plays 9 = .ok (.iastore, 1) := dk_79 (dk_at dksX4_plays_0 9 rfl rfl)
theorem dX4_plays_10 : decode cX4_plays 10 = .ok (.aload_n 0, 1) := dk_42 (dk_at dksX4_plays_0 10 rfl rfl)
theorem dX4_plays_11 : decode cX4_plays 11 = .ok (.dup, 1) := dk_89 (dk_at dksX4_plays_0 11 rfl rfl)
theorem dX4_plays_12 : decode cX4_plays 12 = .ok (.getfield 38, 3) := dk_180 0 38 (dk_at dksX4_plays_0 12 rfl rfl)
theorem dX4_plays_15 : decode cX4_plays 15 = .ok (.iload_n 3, 1) := dk_29 (dk_at dksX4_plays_0 15 rfl rfl)
theorem dX4_plays_16 : decode cX4_plays 16 = .ok (.iadd, 1) := dk_96 (dk_at dksX4_plays_0 16 rfl rfl)
theorem dX4_plays_17 : decode cX4_plays 17 = .ok (.putfield 38, 3) := dk_181 0 38 (dk_at dksX4_plays_0 17 rfl rfl)
theorem dX4_plays_20 : decode cX4_plays 20 = .ok (.aload_n 2, 1) := dk_44 (dk_at dksX4_plays_0 20 rfl rfl)
theorem dX4_plays_21 : decode cX4_plays 21 = .ok (.dup, 1) := dk_89 (dk_at dksX4_plays_0 21 rfl rfl)
theorem dX4_plays_22 : decode cX4_plays 22 = .ok (.getfield 41, 3) := dk_180 0 41 (dk_at dksX4_plays_1 0 rfl rfl)
theorem dX4_plays_25 : decode cX4_plays 25 = .ok (.iload_n 3, 1) := dk_29 (dk_at dksX4_plays_1 3 rfl rfl)
theorem dX4_plays_26 : decode cX4_plays 26 = .ok (.iconst 1, 1) := dk_4 (dk_at dksX4_plays_1 4 rfl rfl)
theorem dX4_plays_27 : decode cX4_plays 27 = .ok (.aload_n 0, 1) := dk_42 (dk_at dksX4_plays_1 5 rfl rfl)
theorem dX4_plays_28 : decode cX4_plays 28 = .ok (.getfield 46, 3) := dk_180 0 46 (dk_at dksX4_plays_1 6 rfl rfl)
theorem dX4_plays_31 : decode cX4_plays 31 = .ok (.bipush 40, 2) := dk_16 40 (dk_at dksX4_plays_1 9 rfl rfl)
theorem dX4_plays_33 : decode cX4_plays 33 = .ok (.idiv, 1) := dk_108 (dk_at dksX4_plays_1 11 rfl rfl)
theorem dX4_plays_34 : decode cX4_plays 34 = .ok (.iadd, 1) := dk_96 (dk_at dksX4_plays_1 12 rfl rfl)
theorem dX4_plays_35 : decode cX4_plays 35 = .ok (.imul, 1) := dk_104 (dk_at dksX4_plays_1 13 rfl rfl)
theorem dX4_plays_36 : decode cX4_plays 36 = .ok (.iadd, 1) := dk_96 (dk_at dksX4_plays_1 14 rfl rfl)
theorem dX4_plays_37 : decode cX4_plays 37 = .ok (.putfield 41, 3) := dk_181 0 41 (dk_at dksX4_plays_1 15 rfl rfl)
theorem dX4_plays_40 : decode cX4_plays 40 = .ok (.aload_n 0, 1) := dk_42 (dk_at dksX4_plays_1 18 rfl rfl)
theorem dX4_plays_41 : decode cX4_plays 41 = .ok (.dup, 1) := dk_89 (dk_at dksX4_plays_1 19 rfl rfl)
theorem dX4_plays_42 : decode cX4_plays 42 = .ok (.getfield 46, 3) := dk_180 0 46 (dk_at dksX4_plays_1 20 rfl rfl)
theorem dX4_plays_45 : decode cX4_plays 45 = .ok (.iload_n 3, 1) := dk_29 (dk_at dksX4_plays_1 23 rfl rfl)
theorem dX4_plays_46 : decode cX4_plays 46 = .ok (.iadd, 1) := dk_96 (dk_at dksX4_plays_2 0 rfl rfl)
theorem dX4_plays_47 : decode cX4_plays 47 = .ok (.putfield 46, 3) := dk_181 0 46 (dk_at dksX4_plays_2 1 rfl rfl)
theorem dX4_plays_50 : decode cX4_plays 50 = .ok (.return_, 1) := dk_177 (dk_at dksX4_plays_2 4 rfl rfl)
theorem q39 : (Jvm.Cond.initialized "SelectoRoute$Box") ∈ lw_all := lw_g (lw_at lw_m1 16 rfl) rfl
theorem q342 : (Jvm.Cond.selects "SelectoRoute$Box" ({ cls := "java/lang/Object", name := "getClass", desc := "()Ljava/lang/Class;" } : Jvm.MethodName) ({ cls := "java/lang/Object", name := "getClass", desc := "()Ljava/lang/Class;" } : Jvm.MethodName)) ∈ lw_all := lw_g (lw_at lw_m2 79 rfl) rfl
theorem q474 : (Jvm.Cond.fieldLinkNest "SelectoRoute$Box" (41 : Nat) "SelectoRoute$Disc" "wear" "I" "SelectoRoute") ∈ lw_tbl := lw_at lw_m2 211 rfl
theorem q496 : (Jvm.Cond.instantiable "SelectoRoute$Box" (15 : Nat)) ∈ lw_all := lw_g (lw_at lw_m2 233 rfl) rfl
theorem q498 : (Jvm.Cond.instanceMethod ({ cls := "SelectoRoute$Box", name := "<init>", desc := "(I)V" } : Jvm.MethodName)) ∈ lw_all := lw_g (lw_at lw_m2 235 rfl) rfl
theorem q499 : (Jvm.Cond.code ({ cls := "SelectoRoute$Box", name := "<init>", desc := "(I)V" } : Jvm.MethodName) prog_2_method_1_code (2 : Nat) (Option.none : Option Jvm.ClassFile.FieldType)) ∈ lw_all := lw_g (lw_at lw_m2 236 rfl) rfl
theorem q500 : (Jvm.Cond.methodLink "SelectoRoute$Box" (3 : Nat) ({ cls := "SelectoRoute$Box", name := "<init>", desc := "(II)V" } : Jvm.MethodName)) ∈ lw_all := lw_g (lw_at lw_m2 237 rfl) rfl
theorem q501 : (Jvm.Cond.instanceMethod ({ cls := "SelectoRoute$Box", name := "<init>", desc := "(II)V" } : Jvm.MethodName)) ∈ lw_all := lw_g (lw_at lw_m2 238 rfl) rfl
theorem q502 : (Jvm.Cond.code ({ cls := "SelectoRoute$Box", name := "<init>", desc := "(II)V" } : Jvm.MethodName) prog_2_method_2_code (4 : Nat) (Option.none : Option Jvm.ClassFile.FieldType)) ∈ lw_all := lw_g (lw_at lw_m2 239 rfl) rfl
theorem q503 : (Jvm.Cond.methodLink "SelectoRoute$Box" (9 : Nat) ({ cls := "java/lang/Object", name := "<init>", desc := "()V" } : Jvm.MethodName)) ∈ lw_all := lw_g (lw_at lw_m3 0 rfl) rfl
theorem q504 : (Jvm.Cond.classLink "SelectoRoute$Box" (24 : Nat) "java/util/ArrayList") ∈ lw_all := lw_g (lw_at lw_m3 1 rfl) rfl
theorem q505 : (Jvm.Cond.methodLink "SelectoRoute$Box" (26 : Nat) ({ cls := "java/util/ArrayList", name := "<init>", desc := "()V" } : Jvm.MethodName)) ∈ lw_all := lw_g (lw_at lw_m3 2 rfl) rfl
theorem q506 : (Jvm.Cond.fieldLink "SelectoRoute$Box" (31 : Nat) "SelectoRoute$Box" "share" "I") ∈ lw_all := lw_g (lw_at lw_m3 3 rfl) rfl
theorem q508 : (Jvm.Cond.fieldLink "SelectoRoute$Box" (35 : Nat) "SelectoRoute$Box" "taste" "I") ∈ lw_all := lw_g (lw_at lw_m3 5 rfl) rfl
theorem q510 : (Jvm.Cond.fieldLink "SelectoRoute$Box" (14 : Nat) "SelectoRoute$Box" "slots" "[I") ∈ lw_all := lw_g (lw_at lw_m3 7 rfl) rfl
theorem q512 : (Jvm.Cond.fieldLink "SelectoRoute$Box" (18 : Nat) "SelectoRoute$Box" "wheels" "[I") ∈ lw_all := lw_g (lw_at lw_m3 9 rfl) rfl
theorem q514 : (Jvm.Cond.fieldLink "SelectoRoute$Box" (21 : Nat) "SelectoRoute$Box" "asked" "[I") ∈ lw_all := lw_g (lw_at lw_m3 11 rfl) rfl
theorem q516 : (Jvm.Cond.fieldLink "SelectoRoute$Box" (27 : Nat) "SelectoRoute$Box" "queue" "Ljava/util/ArrayList;") ∈ lw_all := lw_g (lw_at lw_m3 13 rfl) rfl
theorem q520 : (Jvm.Cond.fieldLink "SelectoRoute$Box" (46 : Nat) "SelectoRoute$Box" "needle" "I") ∈ lw_all := lw_g (lw_at lw_m3 17 rfl) rfl
theorem q523 : (Jvm.Cond.fieldLink "SelectoRoute$Box" (38 : Nat) "SelectoRoute$Box" "plays" "I") ∈ lw_all := lw_g (lw_at lw_m3 20 rfl) rfl
theorem q529 : (Jvm.Cond.laysFinal "SelectoRoute$Box" "SelectoRoute$Box" "share" "I") ∈ lw_all := lw_g (lw_at lw_m3 26 rfl) rfl
theorem q530 : (Jvm.Cond.soleField "SelectoRoute$Box" "share") ∈ lw_all := lw_g (lw_at lw_m3 27 rfl) rfl
theorem q531 : (Jvm.Cond.laysFinal "SelectoRoute$Box" "SelectoRoute$Box" "taste" "I") ∈ lw_all := lw_g (lw_at lw_m3 28 rfl) rfl
theorem q532 : (Jvm.Cond.soleField "SelectoRoute$Box" "taste") ∈ lw_all := lw_g (lw_at lw_m3 29 rfl) rfl
theorem q533 : (Jvm.Cond.laysFinal "SelectoRoute$Box" "SelectoRoute$Box" "slots" "[I") ∈ lw_all := lw_g (lw_at lw_m3 30 rfl) rfl
theorem q534 : (Jvm.Cond.soleField "SelectoRoute$Box" "slots") ∈ lw_all := lw_g (lw_at lw_m3 31 rfl) rfl
theorem q535 : (Jvm.Cond.laysFinal "SelectoRoute$Box" "SelectoRoute$Box" "wheels" "[I") ∈ lw_all := lw_g (lw_at lw_m3 32 rfl) rfl
theorem q536 : (Jvm.Cond.soleField "SelectoRoute$Box" "wheels") ∈ lw_all := lw_g (lw_at lw_m3 33 rfl) rfl
theorem q537 : (Jvm.Cond.laysFinal "SelectoRoute$Box" "SelectoRoute$Box" "asked" "[I") ∈ lw_all := lw_g (lw_at lw_m3 34 rfl) rfl
theorem q538 : (Jvm.Cond.soleField "SelectoRoute$Box" "asked") ∈ lw_all := lw_g (lw_at lw_m3 35 rfl) rfl
theorem q539 : (Jvm.Cond.laysFinal "SelectoRoute$Box" "SelectoRoute$Box" "queue" "Ljava/util/ArrayList;") ∈ lw_all := lw_g (lw_at lw_m3 36 rfl) rfl
theorem q540 : (Jvm.Cond.soleField "SelectoRoute$Box" "queue") ∈ lw_all := lw_g (lw_at lw_m3 37 rfl) rfl
theorem q541 : (Jvm.Cond.lays "SelectoRoute$Box" "SelectoRoute$Box" "credits" "I") ∈ lw_all := lw_g (lw_at lw_m3 38 rfl) rfl
theorem q542 : (Jvm.Cond.soleField "SelectoRoute$Box" "credits") ∈ lw_all := lw_g (lw_at lw_m3 39 rfl) rfl
theorem q543 : (Jvm.Cond.lays "SelectoRoute$Box" "SelectoRoute$Box" "cents" "I") ∈ lw_all := lw_g (lw_at lw_m3 40 rfl) rfl
theorem q544 : (Jvm.Cond.soleField "SelectoRoute$Box" "cents") ∈ lw_all := lw_g (lw_at lw_m3 41 rfl) rfl
theorem q545 : (Jvm.Cond.lays "SelectoRoute$Box" "SelectoRoute$Box" "needle" "I") ∈ lw_all := lw_g (lw_at lw_m3 42 rfl) rfl
theorem q546 : (Jvm.Cond.soleField "SelectoRoute$Box" "needle") ∈ lw_all := lw_g (lw_at lw_m3 43 rfl) rfl
theorem q547 : (Jvm.Cond.lays "SelectoRoute$Box" "SelectoRoute$Box" "risk" "I") ∈ lw_all := lw_g (lw_at lw_m3 44 rfl) rfl
theorem q548 : (Jvm.Cond.soleField "SelectoRoute$Box" "risk") ∈ lw_all := lw_g (lw_at lw_m3 45 rfl) rfl
theorem q549 : (Jvm.Cond.lays "SelectoRoute$Box" "SelectoRoute$Box" "plays" "I") ∈ lw_all := lw_g (lw_at lw_m3 46 rfl) rfl
theorem q550 : (Jvm.Cond.soleField "SelectoRoute$Box" "plays") ∈ lw_all := lw_g (lw_at lw_m3 47 rfl) rfl
theorem q551 : (Jvm.Cond.lays "SelectoRoute$Box" "SelectoRoute$Box" "missing" "I") ∈ lw_all := lw_g (lw_at lw_m3 48 rfl) rfl
theorem q552 : (Jvm.Cond.soleField "SelectoRoute$Box" "missing") ∈ lw_all := lw_g (lw_at lw_m3 49 rfl) rfl
theorem q553 : (Jvm.Cond.lays "SelectoRoute$Box" "SelectoRoute$Box" "paid" "I") ∈ lw_all := lw_g (lw_at lw_m3 50 rfl) rfl
theorem q554 : (Jvm.Cond.soleField "SelectoRoute$Box" "paid") ∈ lw_all := lw_g (lw_at lw_m3 51 rfl) rfl
theorem q555 : (Jvm.Cond.lays "SelectoRoute$Box" "SelectoRoute$Box" "isJammed" "Z") ∈ lw_all := lw_g (lw_at lw_m3 52 rfl) rfl
theorem q556 : (Jvm.Cond.soleField "SelectoRoute$Box" "isJammed") ∈ lw_all := lw_g (lw_at lw_m3 53 rfl) rfl
theorem q557 : (Jvm.Cond.lays "SelectoRoute$Box" "SelectoRoute$Box" "isVisited" "Z") ∈ lw_all := lw_g (lw_at lw_m3 54 rfl) rfl
theorem q558 : (Jvm.Cond.soleField "SelectoRoute$Box" "isVisited") ∈ lw_all := lw_g (lw_at lw_m3 55 rfl) rfl
theorem q559 : (Jvm.Cond.superclass "SelectoRoute$Box" "java/lang/Object") ∈ lw_all := lw_g (lw_at lw_m3 56 rfl) rfl
theorem q725 : (Jvm.Cond.instanceMethod ({ cls := "SelectoRoute$Box", name := "plays", desc := "(ILSelectoRoute$Disc;I)V" } : Jvm.MethodName)) ∈ lw_all := lw_g (lw_at lw_m3 222 rfl) rfl
theorem q726 : (Jvm.Cond.selects "SelectoRoute$Box" ({ cls := "SelectoRoute$Box", name := "plays", desc := "(ILSelectoRoute$Disc;I)V" } : Jvm.MethodName) ({ cls := "SelectoRoute$Box", name := "plays", desc := "(ILSelectoRoute$Disc;I)V" } : Jvm.MethodName)) ∈ lw_all := lw_g (lw_at lw_m3 223 rfl) rfl
theorem q727 : (Jvm.Cond.code ({ cls := "SelectoRoute$Box", name := "plays", desc := "(ILSelectoRoute$Disc;I)V" } : Jvm.MethodName) prog_2_method_3_code (4 : Nat) (Option.none : Option Jvm.ClassFile.FieldType)) ∈ lw_all := lw_g (lw_at lw_m3 224 rfl) rfl
theorem q1277 : (Jvm.Cond.castable "SelectoRoute$Box" "java/lang/Object") ∈ lw_tbl := lw_at lw_m6 54 rfl
theorem in_X4 : ∀ w ∈ wsX40, w ∈ lw_all := lw_in wsX40 [529, 531, 533, 535, 537, 539, 541, 543, 545, 547, 549, 551, 553, 555, 557] (by decide +kernel) (by decide +kernel)
/-! SelectoRoute$Coin -/
set_option maxRecDepth 100000
def RX5 : String := "SelectoRoute$Coin"
abbrev cX5_of : ByteArray := prog_3_method_5_code
def yX5_of : MethodName := ⟨RX5, "of", "(C)LSelectoRoute$Coin;"⟩
def dkwX5_of_2 : List UInt8 := [198, 0, 7, 4, 167, 0, 4, 3, 184, 0, 47, 43, 176]
abbrev dktX5_of_2 : List UInt8 := dkwX5_of_2 ++ []
def dkwX5_of_1 : List UInt8 := [25, 5, 180, 0, 35, 26, 160, 0, 8, 25, 5, 167, 0, 4, 43, 76, 132, 4, 1, 167, 255, 225, 43]
abbrev dktX5_of_1 : List UInt8 := dkwX5_of_1 ++ dktX5_of_2
def dkwX5_of_0 : List UInt8 := [1, 76, 184, 0, 43, 77, 44, 190, 62, 3, 54, 4, 21, 4, 29, 162, 0, 31, 44, 21, 4, 50, 58, 5]
abbrev dktX5_of_0 : List UInt8 := dkwX5_of_0 ++ dktX5_of_1
theorem dksX5_of_0 : cX5_of.data.toList.drop 0 = dktX5_of_0 := by decide +kernel
theorem dksX5_of_1 : cX5_of.data.toList.drop 24 = dktX5_of_1 := dk_seg dksX5_of_0 24 rfl rfl
theorem dksX5_of_2 : cX5_of.data.toList.drop 47 = dktX5_of_2 := dk_seg dksX5_of_1 23 rfl rfl
theorem dX5_of_0 : decode cX5_of 0 = .ok (.aconst_null, 1) := dk_1 (dk_at dksX5_of_0 0 rfl rfl)
theorem dX5_of_1 : decode cX5_of 1 = .ok (.astore_n 1, 1) := dk_76 (dk_at dksX5_of_0 1 rfl rfl)
theorem dX5_of_2 : decode cX5_of 2 = .ok (.invokestatic 43, 3) := dk_184 0 43 (dk_at dksX5_of_0 2 rfl rfl)
theorem dX5_of_5 : decode cX5_of 5 = .ok (.astore_n 2, 1) := dk_77 (dk_at dksX5_of_0 5 rfl rfl)
theorem dX5_of_6 : decode cX5_of 6 = .ok (.aload_n 2, 1) := dk_44 (dk_at dksX5_of_0 6 rfl rfl)
theorem dX5_of_7 : decode cX5_of 7 = .ok (.arraylength, 1) := dk_190 (dk_at dksX5_of_0 7 rfl rfl)
theorem dX5_of_8 : decode cX5_of 8 = .ok (.istore_n 3, 1) := dk_62 (dk_at dksX5_of_0 8 rfl rfl)
theorem dX5_of_9 : decode cX5_of 9 = .ok (.iconst 0, 1) := dk_3 (dk_at dksX5_of_0 9 rfl rfl)
theorem dX5_of_10 : decode cX5_of 10 = .ok (.istore 4, 2) := dk_54 4 (dk_at dksX5_of_0 10 rfl rfl)
theorem dX5_of_12 : decode cX5_of 12 = .ok (.iload 4, 2) := dk_21 4 (dk_at dksX5_of_0 12 rfl rfl)
theorem dX5_of_14 : decode cX5_of 14 = .ok (.iload_n 3, 1) := dk_29 (dk_at dksX5_of_0 14 rfl rfl)
theorem dX5_of_15 : decode cX5_of 15 = .ok (.if_icmp .ge 31, 3) := dk_162 0 31 (dk_at dksX5_of_0 15 rfl rfl)
theorem dX5_of_18 : decode cX5_of 18 = .ok (.aload_n 2, 1) := dk_44 (dk_at dksX5_of_0 18 rfl rfl)
theorem dX5_of_19 : decode cX5_of 19 = .ok (.iload 4, 2) := dk_21 4 (dk_at dksX5_of_0 19 rfl rfl)
theorem dX5_of_21 : decode cX5_of 21 = .ok (.aaload, 1) := dk_50 (dk_at dksX5_of_0 21 rfl rfl)
theorem dX5_of_22 : decode cX5_of 22 = .ok (.astore 5, 2) := dk_58 5 (dk_at dksX5_of_0 22 rfl rfl)
theorem dX5_of_24 : decode cX5_of 24 = .ok (.aload 5, 2) := dk_25 5 (dk_at dksX5_of_1 0 rfl rfl)
theorem dX5_of_26 : decode cX5_of 26 = .ok (.getfield 35, 3) := dk_180 0 35 (dk_at dksX5_of_1 2 rfl rfl)
theorem dX5_of_29 : decode cX5_of 29 = .ok (.iload_n 0, 1) := dk_26 (dk_at dksX5_of_1 5 rfl rfl)
theorem dX5_of_30 : decode cX5_of 30 = .ok (.if_icmp .ne 8, 3) := dk_160 0 8 (dk_at dksX5_of_1 6 rfl rfl)
theorem dX5_of_33 : decode cX5_of 33 = .ok (.aload 5, 2) := dk_25 5 (dk_at dksX5_of_1 9 rfl rfl)
theorem dX5_of_35 : decode cX5_of 35 = .ok (.goto 4, 3) := dk_167 0 4 (dk_at dksX5_of_1 11 rfl rfl)
theorem dX5_of_38 : decode cX5_of 38 = .ok (.aload_n 1, 1) := dk_43 (dk_at dksX5_of_1 14 rfl rfl)
theorem dX5_of_39 : decode cX5_of 39 = .ok (.astore_n 1, 1) := dk_76 (dk_at dksX5_of_1 15 rfl rfl)
theorem dX5_of_40 : decode cX5_of 40 = .ok (.iinc 4 1, 3) := dk_132 4 1 (dk_at dksX5_of_1 16 rfl rfl)
theorem dX5_of_43 : decode cX5_of 43 = .ok (.goto (-31), 3) := dk_167 255 225 (dk_at dksX5_of_1 19 rfl rfl)
theorem dX5_of_46 : decode cX5_of 46 = .ok (.aload_n 1, 1) := dk_43 (dk_at dksX5_of_1 22 rfl rfl)
theorem dX5_of_47 : decode cX5_of 47 = .ok (.ifnull 7, 3) := dk_198 0 7 (dk_at dksX5_of_2 0 rfl rfl)
theorem dX5_of_50 : decode cX5_of 50 = .ok (.iconst 1, 1) := dk_4 (dk_at dksX5_of_2 3 rfl rfl)
theorem dX5_of_51 : decode cX5_of 51 = .ok (.goto 4, 3) := dk_167 0 4 (dk_at dksX5_of_2 4 rfl rfl)
theorem dX5_of_54 : decode cX5_of 54 = .ok (.iconst 0, 1) := dk_3 (dk_at dksX5_of_2 7 rfl rfl)
theorem dX5_of_55 : decode cX5_of 55 = .ok (.invokestatic 47, 3) := dk_184 0 47 (dk_at dksX5_of_2 8 rfl rfl)
theorem dX5_of_58 : decode cX5_of 58 = .ok (.aload_n 1, 1) := dk_43 (dk_at dksX5_of_2 11 rfl rfl)
theorem dX5_of_59 : decode cX5_of 59 = .ok (.areturn, 1) := dk_176 (dk_at dksX5_of_2 12 rfl rfl)
abbrev cX5_values : ByteArray := prog_3_method_1_code
def yX5_values : MethodName := ⟨RX5, "values", "()[LSelectoRoute$Coin;"⟩
def dkwX5_values_0 : List UInt8 := [178, 0, 16, 182, 0, 20, 192, 0, 21, 176]
abbrev dktX5_values_0 : List UInt8 := dkwX5_values_0 ++ []
theorem dksX5_values_0 : cX5_values.data.toList.drop 0 = dktX5_values_0 := by decide +kernel
theorem dX5_values_0 : decode cX5_values 0 = .ok (.getstatic 16, 3) := dk_178 0 16 (dk_at dksX5_values_0 0 rfl rfl)
theorem dX5_values_3 : decode cX5_values 3 = .ok (.invokevirtual 20, 3) := dk_182 0 20 (dk_at dksX5_values_0 3 rfl rfl)
theorem dX5_values_6 : decode cX5_values 6 = .ok (.checkcast 21, 3) := dk_192 0 21 (dk_at dksX5_values_0 6 rfl rfl)
theorem dX5_values_9 : decode cX5_values 9 = .ok (.areturn, 1) := dk_176 (dk_at dksX5_values_0 9 rfl rfl)
abbrev cX5_credits : ByteArray := prog_3_method_4_code
def yX5_credits : MethodName := ⟨RX5, "credits", "()I"⟩
def dkwX5_credits_0 : List UInt8 := [42, 180, 0, 39, 8, 108, 172]
abbrev dktX5_credits_0 : List UInt8 := dkwX5_credits_0 ++ []
theorem dksX5_credits_0 : cX5_credits.data.toList.drop 0 = dktX5_credits_0 := by decide +kernel
theorem dX5_credits_0 : decode cX5_credits 0 = .ok (.aload_n 0, 1) := dk_42 (dk_at dksX5_credits_0 0 rfl rfl)
theorem dX5_credits_1 : decode cX5_credits 1 = .ok (.getfield 39, 3) := dk_180 0 39 (dk_at dksX5_credits_0 1 rfl rfl)
theorem dX5_credits_4 : decode cX5_credits 4 = .ok (.iconst 5, 1) := dk_8 (dk_at dksX5_credits_0 4 rfl rfl)
theorem dX5_credits_5 : decode cX5_credits 5 = .ok (.idiv, 1) := dk_108 (dk_at dksX5_credits_0 5 rfl rfl)
theorem dX5_credits_6 : decode cX5_credits 6 = .ok (.ireturn, 1) := dk_172 (dk_at dksX5_credits_0 6 rfl rfl)
theorem q46 : (Jvm.Cond.initialized "SelectoRoute$Coin") ∈ lw_all := lw_g (lw_at lw_m1 23 rfl) rfl
theorem q343 : (Jvm.Cond.selects "SelectoRoute$Coin" ({ cls := "java/lang/Object", name := "getClass", desc := "()Ljava/lang/Class;" } : Jvm.MethodName) ({ cls := "java/lang/Object", name := "getClass", desc := "()Ljava/lang/Class;" } : Jvm.MethodName)) ∈ lw_all := lw_g (lw_at lw_m2 80 rfl) rfl
theorem q641 : (Jvm.Cond.static ({ cls := "SelectoRoute$Coin", name := "of", desc := "(C)LSelectoRoute$Coin;" } : Jvm.MethodName)) ∈ lw_all := lw_g (lw_at lw_m3 138 rfl) rfl
theorem q642 : (Jvm.Cond.code ({ cls := "SelectoRoute$Coin", name := "of", desc := "(C)LSelectoRoute$Coin;" } : Jvm.MethodName) prog_3_method_5_code (6 : Nat) (Option.some (Jvm.ClassFile.FieldType.object "SelectoRoute$Coin"))) ∈ lw_all := lw_g (lw_at lw_m3 139 rfl) rfl
theorem q643 : (Jvm.Cond.methodLink "SelectoRoute$Coin" (43 : Nat) ({ cls := "SelectoRoute$Coin", name := "values", desc := "()[LSelectoRoute$Coin;" } : Jvm.MethodName)) ∈ lw_all := lw_g (lw_at lw_m3 140 rfl) rfl
theorem q644 : (Jvm.Cond.static ({ cls := "SelectoRoute$Coin", name := "values", desc := "()[LSelectoRoute$Coin;" } : Jvm.MethodName)) ∈ lw_all := lw_g (lw_at lw_m3 141 rfl) rfl
theorem q645 : (Jvm.Cond.code ({ cls := "SelectoRoute$Coin", name := "values", desc := "()[LSelectoRoute$Coin;" } : Jvm.MethodName) prog_3_method_1_code (0 : Nat) (Option.some (Jvm.ClassFile.FieldType.array (Jvm.ClassFile.FieldType.object "SelectoRoute$Coin")))) ∈ lw_all := lw_g (lw_at lw_m3 142 rfl) rfl
theorem q646 : (Jvm.Cond.fieldLink "SelectoRoute$Coin" (16 : Nat) "SelectoRoute$Coin" "$VALUES" "[LSelectoRoute$Coin;") ∈ lw_all := lw_g (lw_at lw_m3 143 rfl) rfl
theorem q647 : (Jvm.Cond.laysStatic "SelectoRoute$Coin" "$VALUES" "[LSelectoRoute$Coin;") ∈ lw_tbl := lw_at lw_m3 144 rfl
theorem q648 : (Jvm.Cond.methodLink "SelectoRoute$Coin" (20 : Nat) ({ cls := "[LSelectoRoute$Coin;", name := "clone", desc := "()Ljava/lang/Object;" } : Jvm.MethodName)) ∈ lw_all := lw_g (lw_at lw_m3 145 rfl) rfl
theorem q655 : (Jvm.Cond.classLink "SelectoRoute$Coin" (21 : Nat) "[LSelectoRoute$Coin;") ∈ lw_all := lw_g (lw_at lw_m3 152 rfl) rfl
theorem q656 : (Jvm.Cond.methodLinkNest "SelectoRoute$Coin" (47 : Nat) ({ cls := "SelectoRoute", name := "require", desc := "(Z)V" } : Jvm.MethodName) "SelectoRoute") ∈ lw_tbl := lw_at lw_m3 153 rfl
theorem q676 : (Jvm.Cond.instanceMethod ({ cls := "SelectoRoute$Coin", name := "credits", desc := "()I" } : Jvm.MethodName)) ∈ lw_all := lw_g (lw_at lw_m3 173 rfl) rfl
theorem q677 : (Jvm.Cond.selects "SelectoRoute$Coin" ({ cls := "SelectoRoute$Coin", name := "credits", desc := "()I" } : Jvm.MethodName) ({ cls := "SelectoRoute$Coin", name := "credits", desc := "()I" } : Jvm.MethodName)) ∈ lw_all := lw_g (lw_at lw_m3 174 rfl) rfl
theorem q678 : (Jvm.Cond.sameMethod "SelectoRoute$Coin" "SelectoRoute$Coin" "credits" "()I") ∈ lw_all := lw_g (lw_at lw_m3 175 rfl) rfl
theorem q684 : (Jvm.Cond.code ({ cls := "SelectoRoute$Coin", name := "credits", desc := "()I" } : Jvm.MethodName) prog_3_method_4_code (1 : Nat) (Option.some Jvm.ClassFile.FieldType.int)) ∈ lw_all := lw_g (lw_at lw_m3 181 rfl) rfl
theorem q690 : (Jvm.Cond.laysStatic "SelectoRoute$Coin" "QUARTER" "LSelectoRoute$Coin;") ∈ lw_tbl := lw_at lw_m3 187 rfl
theorem q1270 : (Jvm.Cond.castable "SelectoRoute$Coin" "java/lang/Object") ∈ lw_tbl := lw_at lw_m6 47 rfl
theorem q1302 : (Jvm.Cond.fieldLink "SelectoRoute$Coin" (35 : Nat) "SelectoRoute$Coin" "letter" "C") ∈ lw_all := lw_g (lw_at lw_m6 79 rfl) rfl
theorem q1303 : (Jvm.Cond.fieldLink "SelectoRoute$Coin" (39 : Nat) "SelectoRoute$Coin" "cents" "I") ∈ lw_all := lw_g (lw_at lw_m6 80 rfl) rfl
theorem q1305 : (Jvm.Cond.laysStatic "SelectoRoute$Coin" "NICKEL" "LSelectoRoute$Coin;") ∈ lw_tbl := lw_at lw_m6 82 rfl
theorem q1306 : (Jvm.Cond.laysStatic "SelectoRoute$Coin" "DIME" "LSelectoRoute$Coin;") ∈ lw_tbl := lw_at lw_m6 83 rfl
theorem q1307 : (Jvm.Cond.laysStatic "SelectoRoute$Coin" "SLUG" "LSelectoRoute$Coin;") ∈ lw_tbl := lw_at lw_m6 84 rfl
/-! SelectoRoute$Coin$2 -/
set_option maxRecDepth 100000
def RX6 : String := "SelectoRoute$Coin$2"
abbrev cX6_credits : ByteArray := prog_5_method_2_code
def yX6_credits : MethodName := ⟨RX6, "credits", "()I"⟩
theorem dX6_credits_0 : decode cX6_credits 0 = .ok (.getstatic 7, 3) := by decide +kernel
theorem dX6_credits_3 : decode cX6_credits 3 = .ok (.invokevirtual 13, 3) := by decide +kernel
theorem dX6_credits_6 : decode cX6_credits 6 = .ok (.ireturn, 1) := by decide +kernel
theorem q48 : (Jvm.Cond.initialized "SelectoRoute$Coin$2") ∈ lw_all := lw_g (lw_at lw_m1 25 rfl) rfl
theorem q345 : (Jvm.Cond.selects "SelectoRoute$Coin$2" ({ cls := "java/lang/Object", name := "getClass", desc := "()Ljava/lang/Class;" } : Jvm.MethodName) ({ cls := "java/lang/Object", name := "getClass", desc := "()Ljava/lang/Class;" } : Jvm.MethodName)) ∈ lw_all := lw_g (lw_at lw_m2 82 rfl) rfl
theorem q685 : (Jvm.Cond.selects "SelectoRoute$Coin$2" ({ cls := "SelectoRoute$Coin", name := "credits", desc := "()I" } : Jvm.MethodName) ({ cls := "SelectoRoute$Coin$2", name := "credits", desc := "()I" } : Jvm.MethodName)) ∈ lw_all := lw_g (lw_at lw_m3 182 rfl) rfl
theorem q686 : (Jvm.Cond.instanceMethod ({ cls := "SelectoRoute$Coin$2", name := "credits", desc := "()I" } : Jvm.MethodName)) ∈ lw_all := lw_g (lw_at lw_m3 183 rfl) rfl
theorem q687 : (Jvm.Cond.code ({ cls := "SelectoRoute$Coin$2", name := "credits", desc := "()I" } : Jvm.MethodName) prog_5_method_2_code (1 : Nat) (Option.some Jvm.ClassFile.FieldType.int)) ∈ lw_all := lw_g (lw_at lw_m3 184 rfl) rfl
theorem q688 : (Jvm.Cond.fieldLink "SelectoRoute$Coin$2" (7 : Nat) "SelectoRoute$Coin$2" "QUARTER" "LSelectoRoute$Coin;") ∈ lw_all := lw_g (lw_at lw_m3 185 rfl) rfl
theorem q689 : (Jvm.Cond.sameField "SelectoRoute$Coin$2" "SelectoRoute$Coin" "QUARTER" "LSelectoRoute$Coin;") ∈ lw_all := lw_g (lw_at lw_m3 186 rfl) rfl
theorem q691 : (Jvm.Cond.methodLink "SelectoRoute$Coin$2" (13 : Nat) ({ cls := "SelectoRoute$Coin", name := "credits", desc := "()I" } : Jvm.MethodName)) ∈ lw_all := lw_g (lw_at lw_m3 188 rfl) rfl
theorem q1281 : (Jvm.Cond.castable "SelectoRoute$Coin$2" "java/lang/Object") ∈ lw_tbl := lw_at lw_m6 58 rfl
theorem q1291 : (Jvm.Cond.castable "SelectoRoute$Coin$2" "SelectoRoute$Coin") ∈ lw_tbl := lw_at lw_m6 68 rfl
/-! SelectoRoute$Coin$1 -/
set_option maxRecDepth 100000
def RX8 : String := "SelectoRoute$Coin$1"
abbrev cX8_credits : ByteArray := prog_4_method_2_code
def yX8_credits : MethodName := ⟨RX8, "credits", "()I"⟩
def dkwX8_credits_0 : List UInt8 := [42, 183, 0, 7, 4, 96, 172]
abbrev dktX8_credits_0 : List UInt8 := dkwX8_credits_0 ++ []
theorem dksX8_credits_0 : cX8_credits.data.toList.drop 0 = dktX8_credits_0 := by decide +kernel
theorem dX8_credits_0 : decode cX8_credits 0 = .ok (.aload_n 0, 1) := dk_42 (dk_at dksX8_credits_0 0 rfl rfl)
theorem dX8_credits_1 : decode cX8_credits 1 = .ok (.invokespecial 7, 3) := dk_183 0 7 (dk_at dksX8_credits_0 1 rfl rfl)
theorem dX8_credits_4 : decode cX8_credits 4 = .ok (.iconst 1, 1) := dk_4 (dk_at dksX8_credits_0 4 rfl rfl)
theorem dX8_credits_5 : decode cX8_credits 5 = .ok (.iadd, 1) := dk_96 (dk_at dksX8_credits_0 5 rfl rfl)
theorem dX8_credits_6 : decode cX8_credits 6 = .ok (.ireturn, 1) := dk_172 (dk_at dksX8_credits_0 6 rfl rfl)
theorem q344 : (Jvm.Cond.selects "SelectoRoute$Coin$1" ({ cls := "java/lang/Object", name := "getClass", desc := "()Ljava/lang/Class;" } : Jvm.MethodName) ({ cls := "java/lang/Object", name := "getClass", desc := "()Ljava/lang/Class;" } : Jvm.MethodName)) ∈ lw_all := lw_g (lw_at lw_m2 81 rfl) rfl
theorem q679 : (Jvm.Cond.selects "SelectoRoute$Coin$1" ({ cls := "SelectoRoute$Coin", name := "credits", desc := "()I" } : Jvm.MethodName) ({ cls := "SelectoRoute$Coin$1", name := "credits", desc := "()I" } : Jvm.MethodName)) ∈ lw_all := lw_g (lw_at lw_m3 176 rfl) rfl
theorem q680 : (Jvm.Cond.instanceMethod ({ cls := "SelectoRoute$Coin$1", name := "credits", desc := "()I" } : Jvm.MethodName)) ∈ lw_all := lw_g (lw_at lw_m3 177 rfl) rfl
theorem q681 : (Jvm.Cond.code ({ cls := "SelectoRoute$Coin$1", name := "credits", desc := "()I" } : Jvm.MethodName) prog_4_method_2_code (1 : Nat) (Option.some Jvm.ClassFile.FieldType.int)) ∈ lw_all := lw_g (lw_at lw_m3 178 rfl) rfl
theorem q682 : (Jvm.Cond.methodLink "SelectoRoute$Coin$1" (7 : Nat) ({ cls := "SelectoRoute$Coin", name := "credits", desc := "()I" } : Jvm.MethodName)) ∈ lw_all := lw_g (lw_at lw_m3 179 rfl) rfl
theorem q683 : (Jvm.Cond.superclass "SelectoRoute$Coin$1" "SelectoRoute$Coin") ∈ lw_all := lw_g (lw_at lw_m3 180 rfl) rfl
theorem q1280 : (Jvm.Cond.castable "SelectoRoute$Coin$1" "java/lang/Object") ∈ lw_tbl := lw_at lw_m6 57 rfl
theorem q1290 : (Jvm.Cond.castable "SelectoRoute$Coin$1" "SelectoRoute$Coin") ∈ lw_tbl := lw_at lw_m6 67 rfl
