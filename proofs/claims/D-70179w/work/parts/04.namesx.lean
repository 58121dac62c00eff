/-! LimbMeasures -/
set_option maxRecDepth 100000
def RX0 : String := "LimbMeasures"
def TX0 : u_T := fun k => match k with
  | 0 => ("LimbMeasures", "port", "LLimbMeasures$Port;", false)
  | 1 => ("LimbMeasures", "now", "LLimbMeasures$State;", true)
  | 2 => ("LimbMeasures", "undone", "[LLimbMeasures$State;", true)
  | 3 => ("LimbMeasures", "known", "I", false)
  | 4 => ("LimbMeasures", "gotTimes", "[I", true)
  | 5 => ("LimbMeasures", "gotMuch", "[I", true)
  | 6 => ("LimbMeasures", "gots", "I", false)
  | 7 => ("LimbMeasures", "bookOf", "[I", true)
  | 8 => ("LimbMeasures", "bookMuch", "[I", true)
  | 9 => ("LimbMeasures", "written", "I", false)
  | 10 => ("LimbMeasures", "text", "[B", true)
  | 11 => ("LimbMeasures", "size", "I", false)
  | 12 => ("LimbMeasures", "fault", "I", false)
  | 13 => ("LimbMeasures", "put", "[I", true)
  | 14 => ("LimbMeasures", "bestPut", "[I", true)
  | 15 => ("LimbMeasures", "bestTimes", "I", false)
  | 16 => ("LimbMeasures", "bestLimbs", "I", false)
  | 17 => ("LimbMeasures", "ring", "[I", true)
  | 18 => ("LimbMeasures", "ringMany", "I", false)
  | 19 => ("LimbMeasures", "heirs", "[I", true)
  | 20 => ("LimbMeasures", "bestHeirs", "[I", true)
  | 21 => ("LimbMeasures", "bestApart", "I", false)
  | _ => ("LimbMeasures", "images", "[LLimbMeasures$State;", true)
def tyX0 : Nat → FieldType := fun k => match k with
  | 0 => .object "LimbMeasures$Port"
  | 1 => .object "LimbMeasures$State"
  | 2 => .array (.object "LimbMeasures$State")
  | 3 => .int
  | 4 => .array .int
  | 5 => .array .int
  | 6 => .int
  | 7 => .array .int
  | 8 => .array .int
  | 9 => .int
  | 10 => .array .byte
  | 11 => .int
  | 12 => .int
  | 13 => .array .int
  | 14 => .array .int
  | 15 => .int
  | 16 => .int
  | 17 => .array .int
  | 18 => .int
  | 19 => .array .int
  | 20 => .array .int
  | 21 => .int
  | _ => .array (.object "LimbMeasures$State")
abbrev wsX00 : List Cond := u_ws RX0 TX0 23
set_option maxRecDepth 100000 in
theorem nmX0 : ∀ a, a < 23 → ∀ b, b < 23 → a ≠ b → (TX0 a).2.1 ≠ (TX0 b).2.1 := by decide +kernel
set_option maxRecDepth 100000 in
theorem tyX0_ok : ∀ k, k < 23 → parseFieldDescriptor (TX0 k).2.2.1 = some (tyX0 k) := by decide +kernel
abbrev cX0_init : ByteArray := prog_1_method_3_code
def yX0_init : MethodName := ⟨RX0, "<init>", "()V"⟩
def dkwX0_init_8 : List UInt8 := [83, 132, 1, 1, 167, 255, 233, 177]
abbrev dktX0_init_8 : List UInt8 := dkwX0_init_8 ++ []
def dkwX0_init_7 : List UInt8 := [167, 255, 230, 3, 60, 27, 16, 20, 162, 0, 23, 42, 180, 0, 25, 27, 187, 0, 16, 89, 42, 183, 0, 18]
abbrev dktX0_init_7 : List UInt8 := dkwX0_init_7 ++ dktX0_init_8
def dkwX0_init_6 : List UInt8 := [180, 0, 65, 190, 162, 0, 23, 42, 180, 0, 65, 27, 187, 0, 16, 89, 42, 183, 0, 18, 83, 132, 1, 1]
abbrev dktX0_init_6 : List UInt8 := dkwX0_init_6 ++ dktX0_init_7
def dkwX0_init_5 : List UInt8 := [188, 10, 181, 0, 62, 42, 5, 189, 0, 16, 181, 0, 65, 42, 180, 0, 21, 182, 0, 68, 3, 60, 27, 42]
abbrev dktX0_init_5 : List UInt8 := dkwX0_init_5 ++ dktX0_init_6
def dkwX0_init_4 : List UInt8 := [188, 10, 181, 0, 53, 42, 7, 188, 10, 181, 0, 56, 42, 16, 6, 188, 10, 181, 0, 59, 42, 16, 6]
abbrev dktX0_init_4 : List UInt8 := dkwX0_init_4 ++ dktX0_init_5
def dkwX0_init_3 : List UInt8 := [17, 0, 250, 188, 8, 181, 0, 42, 42, 2, 181, 0, 46, 42, 16, 6, 188, 10, 181, 0, 50, 42, 16, 6]
abbrev dktX0_init_3 : List UInt8 := dkwX0_init_3 ++ dktX0_init_4
def dkwX0_init_2 : List UInt8 := [188, 10, 181, 0, 33, 42, 16, 15, 188, 10, 181, 0, 36, 42, 16, 15, 188, 10, 181, 0, 39, 42]
abbrev dktX0_init_2 : List UInt8 := dkwX0_init_2 ++ dktX0_init_3
def dkwX0_init_1 : List UInt8 := [181, 0, 21, 42, 16, 20, 189, 0, 16, 181, 0, 25, 42, 16, 8, 188, 10, 181, 0, 29, 42, 16, 8]
abbrev dktX0_init_1 : List UInt8 := dkwX0_init_1 ++ dktX0_init_2
def dkwX0_init_0 : List UInt8 := [42, 183, 0, 1, 42, 187, 0, 7, 89, 183, 0, 9, 181, 0, 10, 42, 187, 0, 16, 89, 42, 183, 0, 18]
abbrev dktX0_init_0 : List UInt8 := dkwX0_init_0 ++ dktX0_init_1
theorem dksX0_init_0 : cX0_init.data.toList.drop 0 = dktX0_init_0 := by decide +kernel
theorem dksX0_init_1 : cX0_init.data.toList.drop 24 = dktX0_init_1 := dk_seg dksX0_init_0 24 rfl rfl
theorem dksX0_init_2 : cX0_init.data.toList.drop 47 = dktX0_init_2 := dk_seg dksX0_init_1 23 rfl rfl
theorem dksX0_init_3 : cX0_init.data.toList.drop 69 = dktX0_init_3 := dk_seg dksX0_init_2 22 rfl rfl
theorem dksX0_init_4 : cX0_init.data.toList.drop 93 = dktX0_init_4 := dk_seg dksX0_init_3 24 rfl rfl
theorem dksX0_init_5 : cX0_init.data.toList.drop 116 = dktX0_init_5 := dk_seg dksX0_init_4 23 rfl rfl
theorem dksX0_init_6 : cX0_init.data.toList.drop 140 = dktX0_init_6 := dk_seg dksX0_init_5 24 rfl rfl
theorem dksX0_init_7 : cX0_init.data.toList.drop 164 = dktX0_init_7 := dk_seg dksX0_init_6 24 rfl rfl
theorem dksX0_init_8 : cX0_init.data.toList.drop 188 = dktX0_init_8 := dk_seg dksX0_init_7 24 rfl rfl
theorem dX0_init_0 : decode cX0_init 0 = .ok (.aload_n 0, 1) := dk_42 (dk_at dksX0_init_0 0 rfl rfl)
theorem dX0_init_1 : decode cX0_init 1 = .ok (.invokespecial 1, 3) := dk_183 0 1 (dk_at dksX0_init_0 1 rfl rfl)
theorem dX0_init_4 : decode cX0_init 4 = .ok (.aload_n 0, 1) := dk_42 (dk_at dksX0_init_0 4 rfl rfl)
theorem dX0_init_5 : decode cX0_init 5 = .ok (.new 7, 3) := dk_187 0 7 (dk_at dksX0_init_0 5 rfl rfl)
theorem dX0_init_8 : decode cX0_init 8 = .ok (.dup, 1) := dk_89 (dk_at dksX0_init_0 8 rfl rfl)
theorem dX0_init_9 : decode cX0_init 9 = .ok (.invokespecial 9, 3) := dk_183 0 9 (dk_at dksX0_init_0 9 rfl rfl)
theorem dX0_init_12 : decode cX0_init 12 = .ok (.putfield 10, 3) := dk_181 0 10 (dk_at dksX0_init_0 12 rfl rfl)
theorem dX0_init_15 : decode cX0_init 15 = .ok (.aload_n 0, 1) := dk_42 (dk_at dksX0_init_0 15 rfl rfl)
theorem dX0_init_16 : decode cX0_init 16 = .ok (.new 16, 3) := dk_187 0 16 (dk_at dksX0_init_0 16 rfl rfl)
theorem dX0_init_19 : decode cX0_init 19 = .ok (.dup, 1) := dk_89 (dk_at dksX0_init_0 19 rfl rfl)
theorem dX0_init_20 : decode cX0_init 20 = .ok (.aload_n 0, 1) := dk_42 (dk_at dksX0_init_0 20 rfl rfl)
theorem dX0_init_21 : decode cX0_init 21 = .ok (.invokespecial 18, 3) := dk_183 0 18 (dk_at dksX0_init_0 21 rfl rfl)
theorem dX0_init_24 : decode cX0_init 24 = .ok (.putfield 21, 3) := dk_181 0 21 (dk_at dksX0_init_1 0 rfl rfl)
theorem dX0_init_27 : decode cX0_init 27 = .ok (.aload_n 0, 1) := dk_42 (dk_at dksX0_init_1 3 rfl rfl)
theorem dX0_init_28 : decode cX0_init 28 = .ok (.bipush 20, 2) := dk_16 20 (dk_at dksX0_init_1 4 rfl rfl)
theorem dX0_init_30 : decode cX0_init 30 = .ok (.anewarray 16, 3) := dk_189 0 16 (dk_at dksX0_init_1 6 rfl rfl)
theorem dX0_init_33 : decode cX0_init 33 = .ok (.putfield 25, 3) := dk_181 0 25 (dk_at dksX0_init_1 9 rfl rfl)
theorem dX0_init_36 : decode cX0_init 36 = .ok (.aload_n 0, 1) := dk_42 (dk_at dksX0_init_1 12 rfl rfl)
theorem dX0_init_37 : decode cX0_init 37 = .ok (.bipush 8, 2) := dk_16 8 (dk_at dksX0_init_1 13 rfl rfl)
theorem dX0_init_39 : decode cX0_init 39 = .ok (.newarray .int, 2) := dk_188_10 (dk_at dksX0_init_1 15 rfl rfl)
theorem dX0_init_41 : decode cX0_init 41 = .ok (.putfield 29, 3) := dk_181 0 29 (dk_at dksX0_init_1 17 rfl rfl)
theorem dX0_init_44 : decode cX0_init 44 = .ok (.aload_n 0, 1) := dk_42 (dk_at dksX0_init_1 20 rfl rfl)
theorem dX0_init_45 : decode cX0_init 45 = .ok (.bipush 8, 2) := dk_16 8 (dk_at dksX0_init_1 21 rfl rfl)
theorem dX0_init_47 : decode cX0_init 47 = .ok (.newarray .int, 2) := dk_188_10 (dk_at dksX0_init_2 0 rfl rfl)
theorem dX0_init_49 : decode cX0_init 49 = .ok (.putfield 33, 3) := dk_181 0 33 (dk_at dksX0_init_2 2 rfl rfl)
theorem dX0_init_52 : decode cX0_init 52 = .ok (.aload_n 0, 1) := dk_42 (dk_at dksX0_init_2 5 rfl rfl)
theorem dX0_init_53 : decode cX0_init 53 = .ok (.bipush 15, 2) := dk_16 15 (dk_at dksX0_init_2 6 rfl rfl)
theorem dX0_init_55 : decode cX0_init 55 = .ok (.newarray .int, 2) := dk_188_10 (dk_at dksX0_init_2 8 rfl rfl)
theorem dX0_init_57 : decode cX0_init 57 = .ok (.putfield 36, 3) := dk_181 0 36 (dk_at dksX0_init_2 10 rfl rfl)
theorem dX0_init_60 : decode cX0_init 60 = .ok (.aload_n 0, 1) := dk_42 (dk_at dksX0_init_2 13 rfl rfl)
theorem dX0_init_61 : decode cX0_init 61 = .ok (.bipush 15, 2) := dk_16 15 (dk_at dksX0_init_2 14 rfl rfl)
theorem dX0_init_63 : decode cX0_init 63 = .ok (.newarray .int, 2) := dk_188_10 (dk_at dksX0_init_2 16 rfl rfl)
theorem dX0_init_65 : decode cX0_init 65 = .ok (.putfield 39, 3) := dk_181 0 39 (dk_at dksX0_init_2 18 rfl rfl)
theorem dX0_init_68 : decode cX0_init 68 = .ok (.aload_n 0, 1) := dk_42 (dk_at dksX0_init_2 21 rfl rfl)
theorem dX0_init_69 : decode cX0_init 69 = .ok (.sipush 250, 3) := dk_17 0 250 (dk_at dksX0_init_3 0 rfl rfl)
theorem dX0_init_72 : decode cX0_init 72 = .ok (.newarray .byte, 2) := dk_188_8 (dk_at dksX0_init_3 3 rfl rfl)
theorem dX0_init_74 : decode cX0_init 74 = .ok (.putfield 42, 3) := dk_181 0 42 (dk_at dksX0_init_3 5 rfl rfl)
theorem dX0_init_77 : decode cX0_init 77 = .ok (.aload_n 0, 1) := dk_42 (dk_at dksX0_init_3 8 rfl rfl)
theorem dX0_init_78 : decode cX0_init 78 = .ok (.iconst (-1), 1) := dk_2 (dk_at dksX0_init_3 9 rfl rfl)
theorem dX0_init_79 : decode cX0_init 79 = .ok (.putfield 46, 3) := dk_181 0 46 (dk_at dksX0_init_3 10 rfl rfl)
theorem dX0_init_82 : decode cX0_init 82 = .ok (.aload_n 0, 1) := dk_42 (dk_at dksX0_init_3 13 rfl rfl)
theorem dX0_init_83 : decode cX0_init 83 = .ok (.bipush 6, 2) := dk_16 6 (dk_at dksX0_init_3 14 rfl rfl)
theorem dX0_init_85 : decode cX0_init 85 = .ok (.newarray .int, 2) := dk_188_10 (dk_at dksX0_init_3 16 rfl rfl)
theorem dX0_init_87 : decode cX0_init 87 = .ok (.putfield 50, 3) := dk_181 0 50 (dk_at dksX0_init_3 18 rfl rfl)
theorem dX0_init_90 : decode cX0_init 90 = .ok (.aload_n 0, 1) := dk_42 (dk_at dksX0_init_3 21 rfl rfl)
theorem dX0_init_91 : decode cX0_init 91 = .ok (.bipush 6, 2) := dk_16 6 (dk_at dksX0_init_3 22 rfl rfl)
theorem dX0_init_93 : decode cX0_init 93 = .ok (.newarray .int, 2) := dk_188_10 (dk_at dksX0_init_4 0 rfl rfl)
theorem dX0_init_95 : decode cX0_init 95 = .ok (.putfield 53, 3) := dk_181 0 53 (dk_at dksX0_init_4 2 rfl rfl)
theorem dX0_init_98 : decode cX0_init 98 = .ok (.aload_n 0, 1) := dk_42 (dk_at dksX0_init_4 5 rfl rfl)
theorem dX0_init_99 : decode cX0_init 99 = .ok (.iconst 4, 1) := dk_7 (dk_at dksX0_init_4 6 rfl rfl)
theorem dX0_init_100 : decode cX0_init 100 = .ok (.newarray .int, 2) := dk_188_10 (dk_at dksX0_init_4 7 rfl rfl)
theorem dX0_init_102 : decode cX0_init 102 = .ok (.putfield 56, 3) := dk_181 0 56 (dk_at dksX0_init_4 9 rfl rfl)
theorem dX0_init_105 : decode cX0_init 105 = .ok (.aload_n 0, 1) := dk_42 (dk_at dksX0_init_4 12 rfl rfl)
theorem dX0_init_106 : decode cX0_init 106 = .ok (.bipush 6, 2) := dk_16 6 (dk_at dksX0_init_4 13 rfl rfl)
theorem dX0_init_108 : decode cX0_init 108 = .ok (.newarray .int, 2) := dk_188_10 (dk_at dksX0_init_4 15 rfl rfl)
theorem dX0_init_110 : decode cX0_init 110 = .ok (.putfield 59, 3) := dk_181 0 59 (dk_at dksX0_init_4 17 rfl rfl)
theorem dX0_init_113 : decode cX0_init 113 = .ok (.aload_n 0, 1) := dk_42 (dk_at dksX0_init_4 20 rfl rfl)
theorem dX0_init_114 : decode cX0_init 114 = .ok (.bipush 6, 2) := dk_16 6 (dk_at dksX0_init_4 21 rfl rfl)
theorem dX0_init_116 : decode cX0_init 116 = .ok (.newarray .int, 2) := dk_188_10 (dk_at dksX0_init_5 0 rfl rfl)
theorem dX0_init_118 : decode cX0_init 118 = .ok (.putfield 62, 3) := dk_181 0 62 (dk_at dksX0_init_5 2 rfl rfl)
theorem dX0_init_121 : decode cX0_init 121 = .ok (.aload_n 0, 1) := dk_42 (dk_at dksX0_init_5 5 rfl rfl)
theorem dX0_init_122 : decode cX0_init 122 = .ok (.iconst 2, 1) := dk_5 (dk_at dksX0_init_5 6 rfl rfl)
theorem dX0_init_123 : decode cX0_init 123 = .ok (.anewarray 16, 3) := dk_189 0 16 (dk_at dksX0_init_5 7 rfl rfl)
theorem dX0_init_126 : decode cX0_init 126 = .ok (.putfield 65, 3) := dk_181 0 65 (dk_at dksX0_init_5 10 rfl rfl)
theorem dX0_init_129 : decode cX0_init 129 = .ok (.aload_n 0, 1) := dk_42 (dk_at dksX0_init_5 13 rfl rfl)
theorem dX0_init_130 : decode cX0_init 130 = .ok (.getfield 21, 3) := dk_180 0 21 (dk_at dksX0_init_5 14 rfl rfl)
theorem dX0_init_133 : decode cX0_init 133 = .ok (.invokevirtual 68, 3) := dk_182 0 68 (dk_at dksX0_init_5 17 rfl rfl)
theorem dX0_init_136 : decode cX0_init 136 = .ok (.iconst 0, 1) := dk_3 (dk_at dksX0_init_5 20 rfl rfl)
theorem dX0_init_137 : decode cX0_init 137 = .ok (.istore_n 1, 1) := dk_60 (dk_at dksX0_init_5 21 rfl rfl)
theorem dX0_init_138 : decode cX0_init 138 = .ok (.iload_n 1, 1) := dk_27 (dk_at dksX0_init_5 22 rfl rfl)
theorem dX0_init_139 : decode cX0_init 139 = .ok (.aload_n 0, 1) := dk_42 (dk_at dksX0_init_5 23 rfl rfl)
theorem dX0_init_140 : decode cX0_init 140 = .ok (.getfield 65, 3) := dk_180 0 65 (dk_at dksX0_init_6 0 rfl rfl)
theorem dX0_init_143 : decode cX0_init 143 = .ok (.arraylength, 1) := dk_190 (dk_at dksX0_init_6 3 rfl rfl)
theorem dX0_init_144 : decode cX0_init 144 = .ok (.if_icmp .ge 23, 3) := dk_162 0 23 (dk_at dksX0_init_6 4 rfl rfl)
theorem dX0_init_147 : decode cX0_init 147 = .ok (.aload_n 0, 1) := dk_42 (dk_at dksX0_init_6 7 rfl rfl)
theorem dX0_init_148 : decode cX0_init 148 = .ok (.getfield 65, 3) := dk_180 0 65 (dk_at dksX0_init_6 8 rfl rfl)
theorem dX0_init_151 : decode cX0_init 151 = .ok (.iload_n 1, 1) := dk_27 (dk_at dksX0_init_6 11 rfl rfl)
theorem dX0_init_152 : decode cX0_init 152 = .ok (.new 16, 3) := dk_187 0 16 (dk_at dksX0_init_6 12 rfl rfl)
theorem dX0_init_155 : decode cX0_init 155 = .ok (.dup, 1) := dk_89 (dk_at dksX0_init_6 15 rfl rfl)
theorem dX0_init_156 : decode cX0_init 156 = .ok (.aload_n 0, 1) := dk_42 (dk_at dksX0_init_6 16 rfl rfl)
theorem dX0_init_157 : decode cX0_init 157 = .ok (.invokespecial 18, 3) := dk_183 0 18 (dk_at dksX0_init_6 17 rfl rfl)
theorem dX0_init_160 : decode cX0_init 160 = .ok (.aastore, 1) := dk_83 (dk_at dksX0_init_6 20 rfl rfl)
theorem dX0_init_161 : decode cX0_init 161 = .ok (.iinc 1 1, 3) := dk_132 1 1 (dk_at dksX0_init_6 21 rfl rfl)
theorem dX0_init_164 : decode cX0_init 164 = .ok (.goto (-26), 3) := dk_167 255 230 (dk_at dksX0_init_7 0 rfl rfl)
theorem dX0_init_167 : decode cX0_init 167 = .ok (.iconst 0, 1) := dk_3 (dk_at dksX0_init_7 3 rfl rfl)
theorem dX0_init_168 : decode cX0_init 168 = .ok (.istore_n 1, 1) := dk_60 (dk_at dksX0_init_7 4 rfl rfl)
theorem dX0_init_169 : decode cX0_init 169 = .ok (.iload_n 1, 1) := dk_27 (dk_at dksX0_init_7 5 rfl rfl)
theorem dX0_init_170 : decode cX0_init 170 = .ok (.bipush 20, 2) := dk_16 20 (dk_at dksX0_init_7 6 rfl rfl)
theorem dX0_init_172 : decode cX0_init 172 = .ok (.if_icmp .ge 23, 3) := dk_162 0 23 (dk_at dksX0_init_7 8 rfl rfl)
theorem dX0_init_175 : decode cX0_init 175 = .ok (.aload_n 0, 1) := dk_42 (dk_at dksX0_init_7 11 rfl rfl)
theorem dX0_init_176 : decode cX0_init 176 = .ok (.getfield 25, 3) := dk_180 0 25 (dk_at dksX0_init_7 12 rfl rfl)
theorem dX0_init_179 : decode cX0_init 179 = .ok (.iload_n 1, 1) := dk_27 (dk_at dksX0_init_7 15 rfl rfl)
theorem dX0_init_180 : decode cX0_init 180 = .ok (.new 16, 3) := dk_187 0 16 (dk_at dksX0_init_7 16 rfl rfl)
theorem dX0_init_183 : decode cX0_init 183 = .ok (.dup, 1) := dk_89 (dk_at dksX0_init_7 19 rfl rfl)
theorem dX0_init_184 : decode cX0_init 184 = .ok (.aload_n 0, 1) := dk_42 (dk_at dksX0_init_7 20 rfl rfl)
theorem dX0_init_185 : decode cX0_init 185 = .ok (.invokespecial 18, 3) := dk_183 0 18 (dk_at dksX0_init_7 21 rfl rfl)
theorem dX0_init_188 : decode cX0_init 188 = .ok (.aastore, 1) := dk_83 (dk_at dksX0_init_8 0 rfl rfl)
theorem dX0_init_189 : decode cX0_init 189 = .ok (.iinc 1 1, 3) := dk_132 1 1 (dk_at dksX0_init_8 1 rfl rfl)
theorem dX0_init_192 : decode cX0_init 192 = .ok (.goto (-23), 3) := dk_167 255 233 (dk_at dksX0_init_8 4 rfl rfl)
theorem dX0_init_195 : decode cX0_init 195 = .ok (.return_, 1) := dk_177 (dk_at dksX0_init_8 7 rfl rfl)
abbrev cX0_feed : ByteArray := prog_1_method_4_code
def yX0_feed : MethodName := ⟨RX0, "feed", "(I)I"⟩
def dkwX0_feed_2 : List UInt8 := [42, 180, 0, 76, 172]
abbrev dktX0_feed_2 : List UInt8 := dkwX0_feed_2 ++ []
def dkwX0_feed_1 : List UInt8 := [18, 79, 172, 42, 180, 0, 42, 42, 180, 0, 76, 27, 145, 84, 42, 89, 180, 0, 76, 4, 96, 181, 0, 76]
abbrev dktX0_feed_1 : List UInt8 := dkwX0_feed_1 ++ dktX0_feed_2
def dkwX0_feed_0 : List UInt8 := [27, 3, 17, 0, 255, 184, 0, 71, 154, 0, 6, 18, 75, 172, 42, 180, 0, 76, 17, 0, 250, 160, 0, 6]
abbrev dktX0_feed_0 : List UInt8 := dkwX0_feed_0 ++ dktX0_feed_1
theorem dksX0_feed_0 : cX0_feed.data.toList.drop 0 = dktX0_feed_0 := by decide +kernel
theorem dksX0_feed_1 : cX0_feed.data.toList.drop 24 = dktX0_feed_1 := dk_seg dksX0_feed_0 24 rfl rfl
theorem dksX0_feed_2 : cX0_feed.data.toList.drop 48 = dktX0_feed_2 := dk_seg dksX0_feed_1 24 rfl rfl
theorem dX0_feed_0 : decode cX0_feed 0 = .ok (.iload_n 1, 1) := dk_27 (dk_at dksX0_feed_0 0 rfl rfl)
theorem dX0_feed_1 : decode cX0_feed 1 = .ok (.iconst 0, 1) := dk_3 (dk_at dksX0_feed_0 1 rfl rfl)
theorem dX0_feed_2 : decode cX0_feed 2 = .ok (.sipush 255, 3) := dk_17 0 255 (dk_at dksX0_feed_0 2 rfl rfl)
theorem dX0_feed_5 : decode cX0_feed 5 = .ok (.invokestatic 71, 3) := dk_184 0 71 (dk_at dksX0_feed_0 5 rfl rfl)
theorem dX0_feed_8 : decode cX0_feed 8 = .ok (.ifCond .ne 6, 3) := dk_154 0 6 (dk_at dksX0_feed_0 8 rfl rfl)
theorem dX0_feed_11 : decode cX0_feed 11 = .ok (.ldc 75, 2) := dk_18 75 (dk_at dksX0_feed_0 11 rfl rfl)
theorem dX0_feed_13 : decode cX0_feed 13 = .ok (.ireturn, 1) := dk_172 (dk_at dksX0_feed_0 13 rfl rfl)
theorem dX0_feed_14 : decode cX0_feed 14 = .ok (.aload_n 0, 1) := dk_42 (dk_at dksX0_feed_0 14 rfl rfl)
theorem dX0_feed_15 : decode cX0_feed 15 = .ok (.getfield 76, 3) := dk_180 0 76 (dk_at dksX0_feed_0 15 rfl rfl)
theorem dX0_feed_18 : decode cX0_feed 18 = .ok (.sipush 250, 3) := dk_17 0 250 (dk_at dksX0_feed_0 18 rfl rfl)
theorem dX0_feed_21 : decode cX0_feed 21 = .ok (.if_icmp .ne 6, 3) := dk_160 0 6 (dk_at dksX0_feed_0 21 rfl rfl)
theorem dX0_feed_24 : decode cX0_feed 24 = .ok (.ldc 79, 2) := dk_18 79 (dk_at dksX0_feed_1 0 rfl rfl)
theorem dX0_feed_26 : decode cX0_feed 26 = .ok (.ireturn, 1) := dk_172 (dk_at dksX0_feed_1 2 rfl rfl)
theorem dX0_feed_27 : decode cX0_feed 27 = .ok (.aload_n 0, 1) := dk_42 (dk_at dksX0_feed_1 3 rfl rfl)
theorem dX0_feed_28 : decode cX0_feed 28 = .ok (.getfield 42, 3) := dk_180 0 42 (dk_at dksX0_feed_1 4 rfl rfl)
theorem dX0_feed_31 : decode cX0_feed 31 = .ok (.aload_n 0, 1) := dk_42 (dk_at dksX0_feed_1 7 rfl rfl)
theorem dX0_feed_32 : decode cX0_feed 32 = .ok (.getfield 76, 3) := dk_180 0 76 (dk_at dksX0_feed_1 8 rfl rfl)
theorem dX0_feed_35 : decode cX0_feed 35 = .ok (.iload_n 1, 1) := dk_27 (dk_at dksX0_feed_1 11 rfl rfl)
theorem dX0_feed_36 : decode cX0_feed 36 = .ok (.i2b, 1) := dk_145 (dk_at dksX0_feed_1 12 rfl rfl)
theorem dX0_feed_37 : decode cX0_feed 37 = .ok (.bastore, 1) := dk_84 (dk_at dksX0_feed_1 13 rfl rfl)
theorem dX0_feed_38 : decode cX0_feed 38 = .ok (.aload_n 0, 1) := dk_42 (dk_at dksX0_feed_1 14 rfl rfl)
theorem dX0_feed_39 : decode cX0_feed 39 = .ok (.dup, 1) := dk_89 (dk_at dksX0_feed_1 15 rfl rfl)
theorem dX0_feed_40 : decode cX0_feed 40 = .ok (.getfield 76, 3) := dk_180 0 76 (dk_at dksX0_feed_1 16 rfl rfl)
theorem dX0_feed_43 : decode cX0_feed 43 = .ok (.iconst 1, 1) := dk_4 (dk_at dksX0_feed_1 19 rfl rfl)
theorem dX0_feed_44 : decode cX0_feed 44 = .ok (.iadd, 1) := dk_96 (dk_at dksX0_feed_1 20 rfl rfl)
theorem dX0_feed_45 : decode cX0_feed 45 = .ok (.putfield 76, 3) := dk_181 0 76 (dk_at dksX0_feed_1 21 rfl rfl)
theorem dX0_feed_48 : decode cX0_feed 48 = .ok (.aload_n 0, 1) := dk_42 (dk_at dksX0_feed_2 0 rfl rfl)
theorem dX0_feed_49 : decode cX0_feed 49 = .ok (.getfield 76, 3) := dk_180 0 76 (dk_at dksX0_feed_2 1 rfl rfl)
theorem dX0_feed_52 : decode cX0_feed 52 = .ok (.ireturn, 1) := dk_172 (dk_at dksX0_feed_2 4 rfl rfl)
abbrev cX0_isIn : ByteArray := prog_1_method_1_code
def yX0_isIn : MethodName := ⟨RX0, "isIn", "(III)Z"⟩
def dkwX0_isIn_0 : List UInt8 := [26, 27, 161, 0, 12, 26, 28, 163, 0, 7, 4, 167, 0, 4, 3, 172]
abbrev dktX0_isIn_0 : List UInt8 := dkwX0_isIn_0 ++ []
theorem dksX0_isIn_0 : cX0_isIn.data.toList.drop 0 = dktX0_isIn_0 := by decide +kernel
theorem dX0_isIn_0 : decode cX0_isIn 0 = .ok (.iload_n 0, 1) := dk_26 (dk_at dksX0_isIn_0 0 rfl rfl)
theorem dX0_isIn_1 : decode cX0_isIn 1 = .ok (.iload_n 1, 1) := dk_27 (dk_at dksX0_isIn_0 1 rfl rfl)
theorem dX0_isIn_2 : decode cX0_isIn 2 = .ok (.if_icmp .lt 12, 3) := dk_161 0 12 (dk_at dksX0_isIn_0 2 rfl rfl)
theorem dX0_isIn_5 : decode cX0_isIn 5 = .ok (.iload_n 0, 1) := dk_26 (dk_at dksX0_isIn_0 5 rfl rfl)
theorem dX0_isIn_6 : decode cX0_isIn 6 = .ok (.iload_n 2, 1) := dk_28 (dk_at dksX0_isIn_0 6 rfl rfl)
theorem dX0_isIn_7 : decode cX0_isIn 7 = .ok (.if_icmp .gt 7, 3) := dk_163 0 7 (dk_at dksX0_isIn_0 7 rfl rfl)
theorem dX0_isIn_10 : decode cX0_isIn 10 = .ok (.iconst 1, 1) := dk_4 (dk_at dksX0_isIn_0 10 rfl rfl)
theorem dX0_isIn_11 : decode cX0_isIn 11 = .ok (.goto 4, 3) := dk_167 0 4 (dk_at dksX0_isIn_0 11 rfl rfl)
theorem dX0_isIn_14 : decode cX0_isIn 14 = .ok (.iconst 0, 1) := dk_3 (dk_at dksX0_isIn_0 14 rfl rfl)
theorem dX0_isIn_15 : decode cX0_isIn 15 = .ok (.ireturn, 1) := dk_172 (dk_at dksX0_isIn_0 15 rfl rfl)
abbrev cX0_port : ByteArray := prog_1_method_5_code
def yX0_port : MethodName := ⟨RX0, "port", "()I"⟩
def dkwX0_port_4 : List UInt8 := [3, 181, 0, 106, 42, 180, 0, 65, 4, 50, 3, 181, 0, 106, 42, 180, 0, 10, 180, 0, 110, 172]
abbrev dktX0_port_4 : List UInt8 := dkwX0_port_4 ++ []
def dkwX0_port_3 : List UInt8 := [182, 0, 68, 42, 3, 181, 0, 97, 42, 3, 181, 0, 100, 42, 3, 181, 0, 103, 42, 180, 0, 65, 3, 50]
abbrev dktX0_port_3 : List UInt8 := dkwX0_port_3 ++ dktX0_port_4
def dkwX0_port_2 : List UInt8 := [180, 0, 94, 100, 61, 42, 3, 181, 0, 76, 28, 172, 78, 42, 3, 181, 0, 76, 45, 191, 42, 180, 0, 21]
abbrev dktX0_port_2 : List UInt8 := dkwX0_port_2 ++ dktX0_port_3
def dkwX0_port_1 : List UInt8 := [181, 0, 10, 42, 3, 181, 0, 76, 167, 0, 35, 76, 42, 43, 180, 0, 91, 181, 0, 46, 16, 246, 43]
abbrev dktX0_port_1 : List UInt8 := dkwX0_port_1 ++ dktX0_port_2
def dkwX0_port_0 : List UInt8 := [42, 2, 181, 0, 46, 42, 187, 0, 80, 89, 42, 180, 0, 42, 42, 180, 0, 76, 183, 0, 82, 182, 0, 85]
abbrev dktX0_port_0 : List UInt8 := dkwX0_port_0 ++ dktX0_port_1
theorem dksX0_port_0 : cX0_port.data.toList.drop 0 = dktX0_port_0 := by decide +kernel
theorem dksX0_port_1 : cX0_port.data.toList.drop 24 = dktX0_port_1 := dk_seg dksX0_port_0 24 rfl rfl
theorem dksX0_port_2 : cX0_port.data.toList.drop 47 = dktX0_port_2 := dk_seg dksX0_port_1 23 rfl rfl
theorem dksX0_port_3 : cX0_port.data.toList.drop 71 = dktX0_port_3 := dk_seg dksX0_port_2 24 rfl rfl
theorem dksX0_port_4 : cX0_port.data.toList.drop 95 = dktX0_port_4 := dk_seg dksX0_port_3 24 rfl rfl
theorem dX0_port_0 : decode cX0_port 0 = .ok (.aload_n 0, 1) := dk_42 (dk_at dksX0_port_0 0 rfl rfl)
theorem dX0_port_1 : decode cX0_port 1 = .ok (.iconst (-1), 1) := dk_2 (dk_at dksX0_port_0 1 rfl rfl)
theorem dX0_port_2 : decode cX0_port 2 = .ok (.putfield 46, 3) := dk_181 0 46 (dk_at dksX0_port_0 2 rfl rfl)
theorem dX0_port_5 : decode cX0_port 5 = .ok (.aload_n 0, 1) := dk_42 (dk_at dksX0_port_0 5 rfl rfl)
theorem dX0_port_6 : decode cX0_port 6 = .ok (.new 80, 3) := dk_187 0 80 (dk_at dksX0_port_0 6 rfl rfl)
theorem dX0_port_9 : decode cX0_port 9 = .ok (.dup, 1) := dk_89 (dk_at dksX0_port_0 9 rfl rfl)
theorem dX0_port_10 : decode cX0_port 10 = .ok (.aload_n 0, 1) := dk_42 (dk_at dksX0_port_0 10 rfl rfl)
theorem dX0_port_11 : decode cX0_port 11 = .ok (.getfield 42, 3) := dk_180 0 42 (dk_at dksX0_port_0 11 rfl rfl)
theorem dX0_port_14 : decode cX0_port 14 = .ok (.aload_n 0, 1) := dk_42 (dk_at dksX0_port_0 14 rfl rfl)
theorem dX0_port_15 : decode cX0_port 15 = .ok (.getfield 76, 3) := dk_180 0 76 (dk_at dksX0_port_0 15 rfl rfl)
theorem dX0_port_18 : decode cX0_port 18 = .ok (.invokespecial 82, 3) := dk_183 0 82 (dk_at dksX0_port_0 18 rfl rfl)
theorem dX0_port_21 : decode cX0_port 21 = .ok (.invokevirtual 85, 3) := dk_182 0 85 (dk_at dksX0_port_0 21 rfl rfl)
theorem dX0_port_24 : decode cX0_port 24 = .ok (.putfield 10, 3) := dk_181 0 10 (dk_at dksX0_port_1 0 rfl rfl)
theorem dX0_port_27 : decode cX0_port 27 = .ok (.aload_n 0, 1) := dk_42 (dk_at dksX0_port_1 3 rfl rfl)
theorem dX0_port_28 : decode cX0_port 28 = .ok (.iconst 0, 1) := dk_3 (dk_at dksX0_port_1 4 rfl rfl)
theorem dX0_port_29 : decode cX0_port 29 = .ok (.putfield 76, 3) := dk_181 0 76 (dk_at dksX0_port_1 5 rfl rfl)
theorem dX0_port_32 : decode cX0_port 32 = .ok (.goto 35, 3) := dk_167 0 35 (dk_at dksX0_port_1 8 rfl rfl)
theorem dX0_port_35 : decode cX0_port 35 = .ok (.astore_n 1, 1) := dk_76 (dk_at dksX0_port_1 11 rfl rfl)
theorem dX0_port_36 : decode cX0_port 36 = .ok (.aload_n 0, 1) := dk_42 (dk_at dksX0_port_1 12 rfl rfl)
theorem dX0_port_37 : decode cX0_port 37 = .ok (.aload_n 1, 1) := dk_43 (dk_at dksX0_port_1 13 rfl rfl)
theorem dX0_port_38 : decode cX0_port 38 = .ok (.getfield 91, 3) := dk_180 0 91 (dk_at dksX0_port_1 14 rfl rfl)
theorem dX0_port_41 : decode cX0_port 41 = .ok (.putfield 46, 3) := dk_181 0 46 (dk_at dksX0_port_1 17 rfl rfl)
theorem dX0_port_44 : decode cX0_port 44 = .ok (.bipush (-10), 2) := dk_16 246 (dk_at dksX0_port_1 20 rfl rfl)
theorem dX0_port_46 : decode cX0_port 46 = .ok (.aload_n 1, 1) := dk_43 (dk_at dksX0_port_1 22 rfl rfl)
theorem dX0_port_47 : decode cX0_port 47 = .ok (.getfield 94, 3) := dk_180 0 94 (dk_at dksX0_port_2 0 rfl rfl)
theorem dX0_port_50 : decode cX0_port 50 = .ok (.isub, 1) := dk_100 (dk_at dksX0_port_2 3 rfl rfl)
theorem dX0_port_51 : decode cX0_port 51 = .ok (.istore_n 2, 1) := dk_61 (dk_at dksX0_port_2 4 rfl rfl)
theorem dX0_port_52 : decode cX0_port 52 = .ok (.aload_n 0, 1) := dk_42 (dk_at dksX0_port_2 5 rfl rfl)
theorem dX0_port_53 : decode cX0_port 53 = .ok (.iconst 0, 1) := dk_3 (dk_at dksX0_port_2 6 rfl rfl)
theorem dX0_port_54 : decode cX0_port 54 = .ok (.putfield 76, 3) := dk_181 0 76 (dk_at dksX0_port_2 7 rfl rfl)
theorem dX0_port_57 : decode cX0_port 57 = .ok (.iload_n 2, 1) := dk_28 (dk_at dksX0_port_2 10 rfl rfl)
theorem dX0_port_58 : decode cX0_port 58 = .ok (.ireturn, 1) := dk_172 (dk_at dksX0_port_2 11 rfl rfl)
theorem dX0_port_59 : decode cX0_port 59 = .ok (.astore_n 3, 1) := dk_78 (dk_at dksX0_port_2 12 rfl rfl)
theorem dX0_port_60 : decode cX0_port 60 = .ok (.aload_n 0, 1) := dk_42 (dk_at dksX0_port_2 13 rfl rfl)
theorem dX0_port_61 : decode cX0_port 61 = .ok (.iconst 0, 1) := dk_3 (dk_at dksX0_port_2 14 rfl rfl)
theorem dX0_port_62 : decode cX0_port 62 = .ok (.putfield 76, 3) := dk_181 0 76 (dk_at dksX0_port_2 15 rfl rfl)
theorem dX0_port_65 : decode cX0_port 65 = .ok (.aload_n 3, 1) := dk_45 (dk_at dksX0_port_2 18 rfl rfl)
theorem dX0_port_66 : decode cX0_port 66 = .ok (.athrow, 1) := dk_191 (dk_at dksX0_port_2 19 rfl rfl)
theorem dX0_port_67 : decode cX0_port 67 = .ok (.aload_n 0, 1) := dk_42 (dk_at dksX0_port_2 20 rfl rfl)
theorem dX0_port_68 : decode cX0_port 68 = .ok (.getfield 21, 3) := dk_180 0 21 (dk_at dksX0_port_2 21 rfl rfl)
theorem dX0_port_71 : decode cX0_port 71 = .ok (.invokevirtual 68, 3) := dk_182 0 68 (dk_at dksX0_port_3 0 rfl rfl)
theorem dX0_port_74 : decode cX0_port 74 = .ok (.aload_n 0, 1) := dk_42 (dk_at dksX0_port_3 3 rfl rfl)
theorem dX0_port_75 : decode cX0_port 75 = .ok (.iconst 0, 1) := dk_3 (dk_at dksX0_port_3 4 rfl rfl)
theorem dX0_port_76 : decode cX0_port 76 = .ok (.putfield 97, 3) := dk_181 0 97 (dk_at dksX0_port_3 5 rfl rfl)
theorem dX0_port_79 : decode cX0_port 79 = .ok (.aload_n 0, 1) := dk_42 (dk_at dksX0_port_3 8 rfl rfl)
theorem dX0_port_80 : decode cX0_port 80 = .ok (.iconst 0, 1) := dk_3 (dk_at dksX0_port_3 9 rfl rfl)
theorem dX0_port_81 : decode cX0_port 81 = .ok (.putfield 100, 3) := dk_181 0 100 (dk_at dksX0_port_3 10 rfl rfl)
theorem dX0_port_84 : decode cX0_port 84 = .ok (.aload_n 0, 1) := dk_42 (dk_at dksX0_port_3 13 rfl rfl)
theorem dX0_port_85 : decode cX0_port 85 = .ok (.iconst 0, 1) := dk_3 (dk_at dksX0_port_3 14 rfl rfl)
theorem dX0_port_86 : decode cX0_port 86 = .ok (.putfield 103, 3) := dk_181 0 103 (dk_at dksX0_port_3 15 rfl rfl)
theorem dX0_port_89 : decode cX0_port 89 = .ok (.aload_n 0, 1) := dk_42 (dk_at dksX0_port_3 18 rfl rfl)
theorem dX0_port_90 : decode cX0_port 90 = .ok (.getfield 65, 3) := dk_180 0 65 (dk_at dksX0_port_3 19 rfl rfl)
theorem dX0_port_93 : decode cX0_port 93 = .ok (.iconst 0, 1) := dk_3 (dk_at dksX0_port_3 22 rfl rfl)
theorem dX0_port_94 : decode cX0_port 94 = .ok (.aaload, 1) := dk_50 (dk_at dksX0_port_3 23 rfl rfl)
theorem dX0_port_95 : decode cX0_port 95 = .ok (.iconst 0, 1) := dk_3 (dk_at dksX0_port_4 0 rfl rfl)
theorem dX0_port_96 : decode cX0_port 96 = .ok (.putfield 106, 3) := dk_181 0 106 (dk_at dksX0_port_4 1 rfl rfl)
theorem dX0_port_99 : decode cX0_port 99 = .ok (.aload_n 0, 1) := dk_42 (dk_at dksX0_port_4 4 rfl rfl)
theorem dX0_port_100 : decode cX0_port 100 = .ok (.getfield 65, 3) := dk_180 0 65 (dk_at dksX0_port_4 5 rfl rfl)
theorem dX0_port_103 : decode cX0_port 103 = .ok (.iconst 1, 1) := dk_4 (dk_at dksX0_port_4 8 rfl rfl)
theorem dX0_port_104 : decode cX0_port 104 = .ok (.aaload, 1) := dk_50 (dk_at dksX0_port_4 9 rfl rfl)
theorem dX0_port_105 : decode cX0_port 105 = .ok (.iconst 0, 1) := dk_3 (dk_at dksX0_port_4 10 rfl rfl)
theorem dX0_port_106 : decode cX0_port 106 = .ok (.putfield 106, 3) := dk_181 0 106 (dk_at dksX0_port_4 11 rfl rfl)
theorem dX0_port_109 : decode cX0_port 109 = .ok (.aload_n 0, 1) := dk_42 (dk_at dksX0_port_4 14 rfl rfl)
theorem dX0_port_110 : decode cX0_port 110 = .ok (.getfield 10, 3) := dk_180 0 10 (dk_at dksX0_port_4 15 rfl rfl)
theorem dX0_port_113 : decode cX0_port 113 = .ok (.getfield 110, 3) := dk_180 0 110 (dk_at dksX0_port_4 18 rfl rfl)
theorem dX0_port_116 : decode cX0_port 116 = .ok (.ireturn, 1) := dk_172 (dk_at dksX0_port_4 21 rfl rfl)
abbrev cX0_fault : ByteArray := prog_1_method_6_code
def yX0_fault : MethodName := ⟨RX0, "fault", "()I"⟩
theorem dX0_fault_0 : decode cX0_fault 0 = .ok (.aload_n 0, 1) := by decide +kernel
theorem dX0_fault_1 : decode cX0_fault 1 = .ok (.getfield 46, 3) := by decide +kernel
theorem dX0_fault_4 : decode cX0_fault 4 = .ok (.ireturn, 1) := by decide +kernel
abbrev cX0_told : ByteArray := prog_1_method_10_code
def yX0_told : MethodName := ⟨RX0, "told", "(I)I"⟩
def dkwX0_told_5 : List UInt8 := [172, 42, 180, 0, 103, 172, 42, 180, 0, 97, 172, 18, 75, 172]
abbrev dktX0_told_5 : List UInt8 := dkwX0_told_5 ++ []
def dkwX0_told_4 : List UInt8 := [182, 0, 128, 172, 42, 180, 0, 21, 180, 0, 132, 172, 42, 180, 0, 21, 180, 0, 135, 172, 42, 180, 0, 100]
abbrev dktX0_told_4 : List UInt8 := dkwX0_told_4 ++ dktX0_told_5
def dkwX0_told_3 : List UInt8 := [42, 180, 0, 76, 172, 42, 180, 0, 21, 180, 0, 122, 172, 42, 180, 0, 21, 180, 0, 125, 172, 42]
abbrev dktX0_told_3 : List UInt8 := dkwX0_told_3 ++ dktX0_told_4
def dkwX0_told_2 : List UInt8 := [42, 180, 0, 10, 180, 0, 110, 172, 42, 180, 0, 10, 180, 0, 113, 172, 42, 180, 0, 10, 180, 0, 119, 172]
abbrev dktX0_told_2 : List UInt8 := dkwX0_told_2 ++ dktX0_told_3
def dkwX0_told_1 : List UInt8 := [170, 0, 0, 0, 0, 0, 144, 0, 0, 0, 0, 0, 0, 0, 11, 0, 0, 0, 63, 0, 0, 0, 71, 0, 0, 0, 79, 0, 0, 0, 87, 0, 0, 0, 92, 0, 0, 0, 100, 0, 0, 0, 108, 0, 0, 0, 113, 0, 0, 0, 121, 0, 0, 0, 129, 0, 0, 0, 134, 0, 0, 0, 139]
abbrev dktX0_told_1 : List UInt8 := dkwX0_told_1 ++ dktX0_told_2
def dkwX0_told_0 : List UInt8 := [27]
abbrev dktX0_told_0 : List UInt8 := dkwX0_told_0 ++ dktX0_told_1
theorem dksX0_told_0 : cX0_told.data.toList.drop 0 = dktX0_told_0 := by decide +kernel
theorem dksX0_told_1 : cX0_told.data.toList.drop 1 = dktX0_told_1 := dk_seg dksX0_told_0 1 rfl rfl
theorem dksX0_told_2 : cX0_told.data.toList.drop 64 = dktX0_told_2 := dk_seg dksX0_told_1 63 rfl rfl
theorem dksX0_told_3 : cX0_told.data.toList.drop 88 = dktX0_told_3 := dk_seg dksX0_told_2 24 rfl rfl
theorem dksX0_told_4 : cX0_told.data.toList.drop 110 = dktX0_told_4 := dk_seg dksX0_told_3 22 rfl rfl
theorem dksX0_told_5 : cX0_told.data.toList.drop 134 = dktX0_told_5 := dk_seg dksX0_told_4 24 rfl rfl
theorem dX0_told_0 : decode cX0_told 0 = .ok (.iload_n 1, 1) := dk_27 (dk_at dksX0_told_0 0 rfl rfl)
theorem dX0_told_1 : decode cX0_told 1 = .ok (.tableswitch 144 0 11 #[63, 71, 79, 87, 92, 100, 108, 113, 121, 129, 134, 139], 63) := by decide +kernel
theorem dX0_told_64 : decode cX0_told 64 = .ok (.aload_n 0, 1) := dk_42 (dk_at dksX0_told_2 0 rfl rfl)
theorem dX0_told_65 : decode cX0_told 65 = .ok (.getfield 10, 3) := dk_180 0 10 (dk_at dksX0_told_2 1 rfl rfl)
theorem dX0_told_68 : decode cX0_told 68 = .ok (.getfield 110, 3) := dk_180 0 110 (dk_at dksX0_told_2 4 rfl rfl)
theorem dX0_told_71 : decode cX0_told 71 = .ok (.ireturn, 1) := dk_172 (dk_at dksX0_told_2 7 rfl rfl)
theorem dX0_told_72 : decode cX0_told 72 = .ok (.aload_n 0, 1) := dk_42 (dk_at dksX0_told_2 8 rfl rfl)
theorem dX0_told_73 : decode cX0_told 73 = .ok (.getfield 10, 3) := dk_180 0 10 (dk_at dksX0_told_2 9 rfl rfl)
theorem dX0_told_76 : decode cX0_told 76 = .ok (.getfield 113, 3) := dk_180 0 113 (dk_at dksX0_told_2 12 rfl rfl)
theorem dX0_told_79 : decode cX0_told 79 = .ok (.ireturn, 1) := dk_172 (dk_at dksX0_told_2 15 rfl rfl)
theorem dX0_told_80 : decode cX0_told 80 = .ok (.aload_n 0, 1) := dk_42 (dk_at dksX0_told_2 16 rfl rfl)
theorem dX0_told_81 : decode cX0_told 81 = .ok (.getfield 10, 3) := dk_180 0 10 (dk_at dksX0_told_2 17 rfl rfl)
theorem dX0_told_84 : decode cX0_told 84 = .ok (.getfield 119, 3) := dk_180 0 119 (dk_at dksX0_told_2 20 rfl rfl)
theorem dX0_told_87 : decode cX0_told 87 = .ok (.ireturn, 1) := dk_172 (dk_at dksX0_told_2 23 rfl rfl)
theorem dX0_told_88 : decode cX0_told 88 = .ok (.aload_n 0, 1) := dk_42 (dk_at dksX0_told_3 0 rfl rfl)
theorem dX0_told_89 : decode cX0_told 89 = .ok (.getfield 76, 3) := dk_180 0 76 (dk_at dksX0_told_3 1 rfl rfl)
theorem dX0_told_92 : decode cX0_told 92 = .ok (.ireturn, 1) := dk_172 (dk_at dksX0_told_3 4 rfl rfl)
theorem dX0_told_93 : decode cX0_told 93 = .ok (.aload_n 0, 1) := dk_42 (dk_at dksX0_told_3 5 rfl rfl)
theorem dX0_told_94 : decode cX0_told 94 = .ok (.getfield 21, 3) := dk_180 0 21 (dk_at dksX0_told_3 6 rfl rfl)
theorem dX0_told_97 : decode cX0_told 97 = .ok (.getfield 122, 3) := dk_180 0 122 (dk_at dksX0_told_3 9 rfl rfl)
theorem dX0_told_100 : decode cX0_told 100 = .ok (.ireturn, 1) := dk_172 (dk_at dksX0_told_3 12 rfl rfl)
theorem dX0_told_101 : decode cX0_told 101 = .ok (.aload_n 0, 1) := dk_42 (dk_at dksX0_told_3 13 rfl rfl)
theorem dX0_told_102 : decode cX0_told 102 = .ok (.getfield 21, 3) := dk_180 0 21 (dk_at dksX0_told_3 14 rfl rfl)
theorem dX0_told_105 : decode cX0_told 105 = .ok (.getfield 125, 3) := dk_180 0 125 (dk_at dksX0_told_3 17 rfl rfl)
theorem dX0_told_108 : decode cX0_told 108 = .ok (.ireturn, 1) := dk_172 (dk_at dksX0_told_3 20 rfl rfl)
theorem dX0_told_109 : decode cX0_told 109 = .ok (.aload_n 0, 1) := dk_42 (dk_at dksX0_told_3 21 rfl rfl)
theorem dX0_told_110 : decode cX0_told 110 = .ok (.invokevirtual 128, 3) := dk_182 0 128 (dk_at dksX0_told_4 0 rfl rfl)
theorem dX0_told_113 : decode cX0_told 113 = .ok (.ireturn, 1) := dk_172 (dk_at dksX0_told_4 3 rfl rfl)
theorem dX0_told_114 : decode cX0_told 114 = .ok (.aload_n 0, 1) := dk_42 (dk_at dksX0_told_4 4 rfl rfl)
theorem dX0_told_115 : decode cX0_told 115 = .ok (.getfield 21, 3) := dk_180 0 21 (dk_at dksX0_told_4 5 rfl rfl)
theorem dX0_told_118 : decode cX0_told 118 = .ok (.getfield 132, 3) := dk_180 0 132 (dk_at dksX0_told_4 8 rfl rfl)
theorem dX0_told_121 : decode cX0_told 121 = .ok (.ireturn, 1) := dk_172 (dk_at dksX0_told_4 11 rfl rfl)
theorem dX0_told_122 : decode cX0_told 122 = .ok (.aload_n 0, 1) := dk_42 (dk_at dksX0_told_4 12 rfl rfl)
theorem dX0_told_123 : decode cX0_told 123 = .ok (.getfield 21, 3) := dk_180 0 21 (dk_at dksX0_told_4 13 rfl rfl)
theorem dX0_told_126 : decode cX0_told 126 = .ok (.getfield 135, 3) := dk_180 0 135 (dk_at dksX0_told_4 16 rfl rfl)
theorem dX0_told_129 : decode cX0_told 129 = .ok (.ireturn, 1) := dk_172 (dk_at dksX0_told_4 19 rfl rfl)
theorem dX0_told_130 : decode cX0_told 130 = .ok (.aload_n 0, 1) := dk_42 (dk_at dksX0_told_4 20 rfl rfl)
theorem dX0_told_131 : decode cX0_told 131 = .ok (.getfield 100, 3) := dk_180 0 100 (dk_at dksX0_told_4 21 rfl rfl)
theorem dX0_told_134 : decode cX0_told 134 = .ok (.ireturn, 1) := dk_172 (dk_at dksX0_told_5 0 rfl rfl)
theorem dX0_told_135 : decode cX0_told 135 = .ok (.aload_n 0, 1) := dk_42 (dk_at dksX0_told_5 1 rfl rfl)
theorem dX0_told_136 : decode cX0_told 136 = .ok (.getfield 103, 3) := dk_180 0 103 (dk_at dksX0_told_5 2 rfl rfl)
theorem dX0_told_139 : decode cX0_told 139 = .ok (.ireturn, 1) := dk_172 (dk_at dksX0_told_5 5 rfl rfl)
theorem dX0_told_140 : decode cX0_told 140 = .ok (.aload_n 0, 1) := dk_42 (dk_at dksX0_told_5 6 rfl rfl)
theorem dX0_told_141 : decode cX0_told 141 = .ok (.getfield 97, 3) := dk_180 0 97 (dk_at dksX0_told_5 7 rfl rfl)
theorem dX0_told_144 : decode cX0_told 144 = .ok (.ireturn, 1) := dk_172 (dk_at dksX0_told_5 10 rfl rfl)
theorem dX0_told_145 : decode cX0_told 145 = .ok (.ldc 75, 2) := dk_18 75 (dk_at dksX0_told_5 11 rfl rfl)
theorem dX0_told_147 : decode cX0_told 147 = .ok (.ireturn, 1) := dk_172 (dk_at dksX0_told_5 13 rfl rfl)
abbrev cX0_copies : ByteArray := prog_1_method_9_code
def yX0_copies : MethodName := ⟨RX0, "copies", "()I"⟩
def dkwX0_copies_1 : List UInt8 := [46, 2, 159, 0, 9, 4, 28, 120, 167, 0, 4, 3, 128, 60, 132, 2, 1, 167, 255, 219, 27, 172]
abbrev dktX0_copies_1 : List UInt8 := dkwX0_copies_1 ++ []
def dkwX0_copies_0 : List UInt8 := [3, 60, 3, 61, 28, 42, 180, 0, 10, 180, 0, 110, 162, 0, 32, 27, 42, 180, 0, 21, 180, 0, 116, 28]
abbrev dktX0_copies_0 : List UInt8 := dkwX0_copies_0 ++ dktX0_copies_1
theorem dksX0_copies_0 : cX0_copies.data.toList.drop 0 = dktX0_copies_0 := by decide +kernel
theorem dksX0_copies_1 : cX0_copies.data.toList.drop 24 = dktX0_copies_1 := dk_seg dksX0_copies_0 24 rfl rfl
theorem dX0_copies_0 : decode cX0_copies 0 = .ok (.iconst 0, 1) := dk_3 (dk_at dksX0_copies_0 0 rfl rfl)
theorem dX0_copies_1 : decode cX0_copies 1 = .ok (.istore_n 1, 1) := dk_60 (dk_at dksX0_copies_0 1 rfl rfl)
theorem dX0_copies_2 : decode cX0_copies 2 = .ok (.iconst 0, 1) := dk_3 (dk_at dksX0_copies_0 2 rfl rfl)
theorem dX0_copies_3 : decode cX0_copies 3 = .ok (.istore_n 2, 1) := dk_61 (dk_at dksX0_copies_0 3 rfl rfl)
theorem dX0_copies_4 : decode cX0_copies 4 = .ok (.iload_n 2, 1) := dk_28 (dk_at dksX0_copies_0 4 rfl rfl)
theorem dX0_copies_5 : decode cX0_copies 5 = .ok (.aload_n 0, 1) := dk_42 (dk_at dksX0_copies_0 5 rfl rfl)
theorem dX0_copies_6 : decode cX0_copies 6 = .ok (.getfield 10, 3) := dk_180 0 10 (dk_at dksX0_copies_0 6 rfl rfl)
theorem dX0_copies_9 : decode cX0_copies 9 = .ok (.getfield 110, 3) := dk_180 0 110 (dk_at dksX0_copies_0 9 rfl rfl)
theorem dX0_copies_12 : decode cX0_copies 12 = .ok (.if_icmp .ge 32, 3) := dk_162 0 32 (dk_at dksX0_copies_0 12 rfl rfl)
theorem dX0_copies_15 : decode cX0_copies 15 = .ok (.iload_n 1, 1) := dk_27 (dk_at dksX0_copies_0 15 rfl rfl)
theorem dX0_copies_16 : decode cX0_copies 16 = .ok (.aload_n 0, 1) := dk_42 (dk_at dksX0_copies_0 16 rfl rfl)
theorem dX0_copies_17 : decode cX0_copies 17 = .ok (.getfield 21, 3) := dk_180 0 21 (dk_at dksX0_copies_0 17 rfl rfl)
theorem dX0_copies_20 : decode cX0_copies 20 = .ok (.getfield 116, 3) := dk_180 0 116 (dk_at dksX0_copies_0 20 rfl rfl)
theorem dX0_copies_23 : decode cX0_copies 23 = .ok (.iload_n 2, 1) := dk_28 (dk_at dksX0_copies_0 23 rfl rfl)
theorem dX0_copies_24 : decode cX0_copies 24 = .ok (.iaload, 1) := dk_46 (dk_at dksX0_copies_1 0 rfl rfl)
theorem dX0_copies_25 : decode cX0_copies 25 = .ok (.iconst (-1), 1) := dk_2 (dk_at dksX0_copies_1 1 rfl rfl)
theorem dX0_copies_26 : decode cX0_copies 26 = .ok (.if_icmp .eq 9, 3) := dk_159 0 9 (dk_at dksX0_copies_1 2 rfl rfl)
theorem dX0_copies_29 : decode cX0_copies 29 = .ok (.iconst 1, 1) := dk_4 (dk_at dksX0_copies_1 5 rfl rfl)
theorem dX0_copies_30 : decode cX0_copies 30 = .ok (.iload_n 2, 1) := dk_28 (dk_at dksX0_copies_1 6 rfl rfl)
theorem dX0_copies_31 : decode cX0_copies 31 = .ok (.ishl, 1) := dk_120 (dk_at dksX0_copies_1 7 rfl rfl)
theorem dX0_copies_32 : decode cX0_copies 32 = .ok (.goto 4, 3) := dk_167 0 4 (dk_at dksX0_copies_1 8 rfl rfl)
theorem dX0_copies_35 : decode cX0_copies 35 = .ok (.iconst 0, 1) := dk_3 (dk_at dksX0_copies_1 11 rfl rfl)
theorem dX0_copies_36 : decode cX0_copies 36 = .ok (.ior, 1) := dk_128 (dk_at dksX0_copies_1 12 rfl rfl)
theorem dX0_copies_37 : decode cX0_copies 37 = .ok (.istore_n 1, 1) := dk_60 (dk_at dksX0_copies_1 13 rfl rfl)
theorem dX0_copies_38 : decode cX0_copies 38 = .ok (.iinc 2 1, 3) := dk_132 2 1 (dk_at dksX0_copies_1 14 rfl rfl)
theorem dX0_copies_41 : decode cX0_copies 41 = .ok (.goto (-37), 3) := dk_167 255 219 (dk_at dksX0_copies_1 17 rfl rfl)
theorem dX0_copies_44 : decode cX0_copies 44 = .ok (.iload_n 1, 1) := dk_27 (dk_at dksX0_copies_1 20 rfl rfl)
theorem dX0_copies_45 : decode cX0_copies 45 = .ok (.ireturn, 1) := dk_172 (dk_at dksX0_copies_1 21 rfl rfl)
abbrev cX0_limb : ByteArray := prog_1_method_11_code
def yX0_limb : MethodName := ⟨RX0, "limb", "(II)I"⟩
def dkwX0_limb_5 : List UInt8 := [27, 122, 4, 126, 172, 42, 180, 0, 21, 180, 0, 116, 27, 46, 172, 18, 75, 172]
abbrev dktX0_limb_5 : List UInt8 := dkwX0_limb_5 ++ []
def dkwX0_limb_4 : List UInt8 := [182, 0, 156, 172, 42, 180, 0, 10, 180, 0, 143, 27, 50, 180, 0, 160, 172, 42, 180, 0, 21, 180, 0, 125]
abbrev dktX0_limb_4 : List UInt8 := dkwX0_limb_4 ++ dktX0_limb_5
def dkwX0_limb_3 : List UInt8 := [42, 180, 0, 21, 180, 0, 153, 27, 46, 172, 42, 180, 0, 21, 27, 42, 180, 0, 21, 180, 0, 122]
abbrev dktX0_limb_3 : List UInt8 := dkwX0_limb_3 ++ dktX0_limb_4
def dkwX0_limb_2 : List UInt8 := [170, 0, 0, 0, 0, 0, 96, 0, 0, 0, 0, 0, 0, 0, 4, 0, 0, 0, 35, 0, 0, 0, 45, 0, 0, 0, 61, 0, 0, 0, 74, 0, 0, 0, 86]
abbrev dktX0_limb_2 : List UInt8 := dkwX0_limb_2 ++ dktX0_limb_3
def dkwX0_limb_1 : List UInt8 := [180, 0, 10, 180, 0, 143, 27, 50, 28, 8, 100, 182, 0, 147, 16, 9, 96, 172, 28]
abbrev dktX0_limb_1 : List UInt8 := dkwX0_limb_1 ++ dktX0_limb_2
def dkwX0_limb_0 : List UInt8 := [42, 27, 182, 0, 138, 154, 0, 6, 18, 142, 172, 28, 8, 16, 8, 184, 0, 71, 153, 0, 22, 42]
abbrev dktX0_limb_0 : List UInt8 := dkwX0_limb_0 ++ dktX0_limb_1
theorem dksX0_limb_0 : cX0_limb.data.toList.drop 0 = dktX0_limb_0 := by decide +kernel
theorem dksX0_limb_1 : cX0_limb.data.toList.drop 22 = dktX0_limb_1 := dk_seg dksX0_limb_0 22 rfl rfl
theorem dksX0_limb_2 : cX0_limb.data.toList.drop 41 = dktX0_limb_2 := dk_seg dksX0_limb_1 19 rfl rfl
theorem dksX0_limb_3 : cX0_limb.data.toList.drop 76 = dktX0_limb_3 := dk_seg dksX0_limb_2 35 rfl rfl
theorem dksX0_limb_4 : cX0_limb.data.toList.drop 98 = dktX0_limb_4 := dk_seg dksX0_limb_3 22 rfl rfl
theorem dksX0_limb_5 : cX0_limb.data.toList.drop 122 = dktX0_limb_5 := dk_seg dksX0_limb_4 24 rfl rfl
theorem dX0_limb_0 : decode cX0_limb 0 = .ok (.aload_n 0, 1) := dk_42 (dk_at dksX0_limb_0 0 rfl rfl)
theorem dX0_limb_1 : decode cX0_limb 1 = .ok (.iload_n 1, 1) := dk_27 (dk_at dksX0_limb_0 1 rfl rfl)
theorem dX0_limb_2 : decode cX0_limb 2 = .ok (.invokevirtual 138, 3) := dk_182 0 138 (dk_at dksX0_limb_0 2 rfl rfl)
theorem dX0_limb_5 : decode cX0_limb 5 = .ok (.ifCond .ne 6, 3) := dk_154 0 6 (dk_at dksX0_limb_0 5 rfl rfl)
theorem dX0_limb_8 : decode cX0_limb 8 = .ok (.ldc 142, 2) := dk_18 142 (dk_at dksX0_limb_0 8 rfl rfl)
theorem dX0_limb_10 : decode cX0_limb 10 = .ok (.ireturn, 1) := dk_172 (dk_at dksX0_limb_0 10 rfl rfl)
theorem dX0_limb_11 : decode cX0_limb 11 = .ok (.iload_n 2, 1) := dk_28 (dk_at dksX0_limb_0 11 rfl rfl)
theorem dX0_limb_12 : decode cX0_limb 12 = .ok (.iconst 5, 1) := dk_8 (dk_at dksX0_limb_0 12 rfl rfl)
theorem dX0_limb_13 : decode cX0_limb 13 = .ok (.bipush 8, 2) := dk_16 8 (dk_at dksX0_limb_0 13 rfl rfl)
theorem dX0_limb_15 : decode cX0_limb 15 = .ok (.invokestatic 71, 3) := dk_184 0 71 (dk_at dksX0_limb_0 15 rfl rfl)
theorem dX0_limb_18 : decode cX0_limb 18 = .ok (.ifCond .eq 22, 3) := dk_153 0 22 (dk_at dksX0_limb_0 18 rfl rfl)
theorem dX0_limb_21 : decode cX0_limb 21 = .ok (.aload_n 0, 1) := dk_42 (dk_at dksX0_limb_0 21 rfl rfl)
theorem dX0_limb_22 : decode cX0_limb 22 = .ok (.getfield 10, 3) := dk_180 0 10 (dk_at dksX0_limb_1 0 rfl rfl)
theorem dX0_limb_25 : decode cX0_limb 25 = .ok (.getfield 143, 3) := dk_180 0 143 (dk_at dksX0_limb_1 3 rfl rfl)
theorem dX0_limb_28 : decode cX0_limb 28 = .ok (.iload_n 1, 1) := dk_27 (dk_at dksX0_limb_1 6 rfl rfl)
theorem dX0_limb_29 : decode cX0_limb 29 = .ok (.aaload, 1) := dk_50 (dk_at dksX0_limb_1 7 rfl rfl)
theorem dX0_limb_30 : decode cX0_limb 30 = .ok (.iload_n 2, 1) := dk_28 (dk_at dksX0_limb_1 8 rfl rfl)
theorem dX0_limb_31 : decode cX0_limb 31 = .ok (.iconst 5, 1) := dk_8 (dk_at dksX0_limb_1 9 rfl rfl)
theorem dX0_limb_32 : decode cX0_limb 32 = .ok (.isub, 1) := dk_100 (dk_at dksX0_limb_1 10 rfl rfl)
theorem dX0_limb_33 : decode cX0_limb 33 = .ok (.invokevirtual 147, 3) := dk_182 0 147 (dk_at dksX0_limb_1 11 rfl rfl)
theorem dX0_limb_36 : decode cX0_limb 36 = .ok (.bipush 9, 2) := dk_16 9 (dk_at dksX0_limb_1 14 rfl rfl)
theorem dX0_limb_38 : decode cX0_limb 38 = .ok (.iadd, 1) := dk_96 (dk_at dksX0_limb_1 16 rfl rfl)
theorem dX0_limb_39 : decode cX0_limb 39 = .ok (.ireturn, 1) := dk_172 (dk_at dksX0_limb_1 17 rfl rfl)
theorem dX0_limb_40 : decode cX0_limb 40 = .ok (.iload_n 2, 1) := dk_28 (dk_at dksX0_limb_1 18 rfl rfl)
theorem dX0_limb_41 : decode cX0_limb 41 = .ok (.tableswitch 96 0 4 #[35, 45, 61, 74, 86], 35) := by decide +kernel
theorem dX0_limb_76 : decode cX0_limb 76 = .ok (.aload_n 0, 1) := dk_42 (dk_at dksX0_limb_3 0 rfl rfl)
theorem dX0_limb_77 : decode cX0_limb 77 = .ok (.getfield 21, 3) := dk_180 0 21 (dk_at dksX0_limb_3 1 rfl rfl)
theorem dX0_limb_80 : decode cX0_limb 80 = .ok (.getfield 153, 3) := dk_180 0 153 (dk_at dksX0_limb_3 4 rfl rfl)
theorem dX0_limb_83 : decode cX0_limb 83 = .ok (.iload_n 1, 1) := dk_27 (dk_at dksX0_limb_3 7 rfl rfl)
theorem dX0_limb_84 : decode cX0_limb 84 = .ok (.iaload, 1) := dk_46 (dk_at dksX0_limb_3 8 rfl rfl)
theorem dX0_limb_85 : decode cX0_limb 85 = .ok (.ireturn, 1) := dk_172 (dk_at dksX0_limb_3 9 rfl rfl)
theorem dX0_limb_86 : decode cX0_limb 86 = .ok (.aload_n 0, 1) := dk_42 (dk_at dksX0_limb_3 10 rfl rfl)
theorem dX0_limb_87 : decode cX0_limb 87 = .ok (.getfield 21, 3) := dk_180 0 21 (dk_at dksX0_limb_3 11 rfl rfl)
theorem dX0_limb_90 : decode cX0_limb 90 = .ok (.iload_n 1, 1) := dk_27 (dk_at dksX0_limb_3 14 rfl rfl)
theorem dX0_limb_91 : decode cX0_limb 91 = .ok (.aload_n 0, 1) := dk_42 (dk_at dksX0_limb_3 15 rfl rfl)
theorem dX0_limb_92 : decode cX0_limb 92 = .ok (.getfield 21, 3) := dk_180 0 21 (dk_at dksX0_limb_3 16 rfl rfl)
theorem dX0_limb_95 : decode cX0_limb 95 = .ok (.getfield 122, 3) := dk_180 0 122 (dk_at dksX0_limb_3 19 rfl rfl)
theorem dX0_limb_98 : decode cX0_limb 98 = .ok (.invokevirtual 156, 3) := dk_182 0 156 (dk_at dksX0_limb_4 0 rfl rfl)
theorem dX0_limb_101 : decode cX0_limb 101 = .ok (.ireturn, 1) := dk_172 (dk_at dksX0_limb_4 3 rfl rfl)
theorem dX0_limb_102 : decode cX0_limb 102 = .ok (.aload_n 0, 1) := dk_42 (dk_at dksX0_limb_4 4 rfl rfl)
theorem dX0_limb_103 : decode cX0_limb 103 = .ok (.getfield 10, 3) := dk_180 0 10 (dk_at dksX0_limb_4 5 rfl rfl)
theorem dX0_limb_106 : decode cX0_limb 106 = .ok (.getfield 143, 3) := dk_180 0 143 (dk_at dksX0_limb_4 8 rfl rfl)
theorem dX0_limb_109 : decode cX0_limb 109 = .ok (.iload_n 1, 1) := dk_27 (dk_at dksX0_limb_4 11 rfl rfl)
theorem dX0_limb_110 : decode cX0_limb 110 = .ok (.aaload, 1) := dk_50 (dk_at dksX0_limb_4 12 rfl rfl)
theorem dX0_limb_111 : decode cX0_limb 111 = .ok (.getfield 160, 3) := dk_180 0 160 (dk_at dksX0_limb_4 13 rfl rfl)
theorem dX0_limb_114 : decode cX0_limb 114 = .ok (.ireturn, 1) := dk_172 (dk_at dksX0_limb_4 16 rfl rfl)
theorem dX0_limb_115 : decode cX0_limb 115 = .ok (.aload_n 0, 1) := dk_42 (dk_at dksX0_limb_4 17 rfl rfl)
theorem dX0_limb_116 : decode cX0_limb 116 = .ok (.getfield 21, 3) := dk_180 0 21 (dk_at dksX0_limb_4 18 rfl rfl)
theorem dX0_limb_119 : decode cX0_limb 119 = .ok (.getfield 125, 3) := dk_180 0 125 (dk_at dksX0_limb_4 21 rfl rfl)
theorem dX0_limb_122 : decode cX0_limb 122 = .ok (.iload_n 1, 1) := dk_27 (dk_at dksX0_limb_5 0 rfl rfl)
theorem dX0_limb_123 : decode cX0_limb 123 = .ok (.ishr, 1) := dk_122 (dk_at dksX0_limb_5 1 rfl rfl)
theorem dX0_limb_124 : decode cX0_limb 124 = .ok (.iconst 1, 1) := dk_4 (dk_at dksX0_limb_5 2 rfl rfl)
theorem dX0_limb_125 : decode cX0_limb 125 = .ok (.iand, 1) := dk_126 (dk_at dksX0_limb_5 3 rfl rfl)
theorem dX0_limb_126 : decode cX0_limb 126 = .ok (.ireturn, 1) := dk_172 (dk_at dksX0_limb_5 4 rfl rfl)
theorem dX0_limb_127 : decode cX0_limb 127 = .ok (.aload_n 0, 1) := dk_42 (dk_at dksX0_limb_5 5 rfl rfl)
theorem dX0_limb_128 : decode cX0_limb 128 = .ok (.getfield 21, 3) := dk_180 0 21 (dk_at dksX0_limb_5 6 rfl rfl)
theorem dX0_limb_131 : decode cX0_limb 131 = .ok (.getfield 116, 3) := dk_180 0 116 (dk_at dksX0_limb_5 9 rfl rfl)
theorem dX0_limb_134 : decode cX0_limb 134 = .ok (.iload_n 1, 1) := dk_27 (dk_at dksX0_limb_5 12 rfl rfl)
theorem dX0_limb_135 : decode cX0_limb 135 = .ok (.iaload, 1) := dk_46 (dk_at dksX0_limb_5 13 rfl rfl)
theorem dX0_limb_136 : decode cX0_limb 136 = .ok (.ireturn, 1) := dk_172 (dk_at dksX0_limb_5 14 rfl rfl)
theorem dX0_limb_137 : decode cX0_limb 137 = .ok (.ldc 75, 2) := dk_18 75 (dk_at dksX0_limb_5 15 rfl rfl)
theorem dX0_limb_139 : decode cX0_limb 139 = .ok (.ireturn, 1) := dk_172 (dk_at dksX0_limb_5 17 rfl rfl)
abbrev cX0_isLimb : ByteArray := prog_1_method_7_code
def yX0_isLimb : MethodName := ⟨RX0, "isLimb", "(I)Z"⟩
def dkwX0_isLimb_0 : List UInt8 := [27, 3, 42, 180, 0, 10, 180, 0, 110, 4, 100, 184, 0, 71, 172]
abbrev dktX0_isLimb_0 : List UInt8 := dkwX0_isLimb_0 ++ []
theorem dksX0_isLimb_0 : cX0_isLimb.data.toList.drop 0 = dktX0_isLimb_0 := by decide +kernel
theorem dX0_isLimb_0 : decode cX0_isLimb 0 = .ok (.iload_n 1, 1) := dk_27 (dk_at dksX0_isLimb_0 0 rfl rfl)
theorem dX0_isLimb_1 : decode cX0_isLimb 1 = .ok (.iconst 0, 1) := dk_3 (dk_at dksX0_isLimb_0 1 rfl rfl)
theorem dX0_isLimb_2 : decode cX0_isLimb 2 = .ok (.aload_n 0, 1) := dk_42 (dk_at dksX0_isLimb_0 2 rfl rfl)
theorem dX0_isLimb_3 : decode cX0_isLimb 3 = .ok (.getfield 10, 3) := dk_180 0 10 (dk_at dksX0_isLimb_0 3 rfl rfl)
theorem dX0_isLimb_6 : decode cX0_isLimb 6 = .ok (.getfield 110, 3) := dk_180 0 110 (dk_at dksX0_isLimb_0 6 rfl rfl)
theorem dX0_isLimb_9 : decode cX0_isLimb 9 = .ok (.iconst 1, 1) := dk_4 (dk_at dksX0_isLimb_0 9 rfl rfl)
theorem dX0_isLimb_10 : decode cX0_isLimb 10 = .ok (.isub, 1) := dk_100 (dk_at dksX0_isLimb_0 10 rfl rfl)
theorem dX0_isLimb_11 : decode cX0_isLimb 11 = .ok (.invokestatic 71, 3) := dk_184 0 71 (dk_at dksX0_isLimb_0 11 rfl rfl)
theorem dX0_isLimb_14 : decode cX0_isLimb 14 = .ok (.ireturn, 1) := dk_172 (dk_at dksX0_isLimb_0 14 rfl rfl)
abbrev cX0_has : ByteArray := prog_1_method_2_code
def yX0_has : MethodName := ⟨RX0, "has", "(II)Z"⟩
def dkwX0_has_0 : List UInt8 := [26, 27, 122, 4, 126, 4, 160, 0, 7, 4, 167, 0, 4, 3, 172]
abbrev dktX0_has_0 : List UInt8 := dkwX0_has_0 ++ []
theorem dksX0_has_0 : cX0_has.data.toList.drop 0 = dktX0_has_0 := by decide +kernel
theorem dX0_has_0 : decode cX0_has 0 = .ok (.iload_n 0, 1) := dk_26 (dk_at dksX0_has_0 0 rfl rfl)
theorem dX0_has_1 : decode cX0_has 1 = .ok (.iload_n 1, 1) := dk_27 (dk_at dksX0_has_0 1 rfl rfl)
theorem dX0_has_2 : decode cX0_has 2 = .ok (.ishr, 1) := dk_122 (dk_at dksX0_has_0 2 rfl rfl)
theorem dX0_has_3 : decode cX0_has 3 = .ok (.iconst 1, 1) := dk_4 (dk_at dksX0_has_0 3 rfl rfl)
theorem dX0_has_4 : decode cX0_has 4 = .ok (.iand, 1) := dk_126 (dk_at dksX0_has_0 4 rfl rfl)
theorem dX0_has_5 : decode cX0_has 5 = .ok (.iconst 1, 1) := dk_4 (dk_at dksX0_has_0 5 rfl rfl)
theorem dX0_has_6 : decode cX0_has 6 = .ok (.if_icmp .ne 7, 3) := dk_160 0 7 (dk_at dksX0_has_0 6 rfl rfl)
theorem dX0_has_9 : decode cX0_has 9 = .ok (.iconst 1, 1) := dk_4 (dk_at dksX0_has_0 9 rfl rfl)
theorem dX0_has_10 : decode cX0_has 10 = .ok (.goto 4, 3) := dk_167 0 4 (dk_at dksX0_has_0 10 rfl rfl)
theorem dX0_has_13 : decode cX0_has 13 = .ok (.iconst 0, 1) := dk_3 (dk_at dksX0_has_0 13 rfl rfl)
theorem dX0_has_14 : decode cX0_has 14 = .ok (.ireturn, 1) := dk_172 (dk_at dksX0_has_0 14 rfl rfl)
abbrev cX0_contract : ByteArray := prog_1_method_12_code
def yX0_contract : MethodName := ⟨RX0, "contract", "(II)I"⟩
def dkwX0_contract_3 : List UInt8 := [180, 0, 172, 27, 46, 172, 42, 180, 0, 21, 180, 0, 175, 27, 46, 172, 18, 75, 172]
abbrev dktX0_contract_3 : List UInt8 := dkwX0_contract_3 ++ []
def dkwX0_contract_2 : List UInt8 := [42, 180, 0, 10, 180, 0, 166, 27, 46, 172, 42, 180, 0, 10, 180, 0, 169, 27, 46, 172, 42, 180, 0, 10]
abbrev dktX0_contract_2 : List UInt8 := dkwX0_contract_2 ++ dktX0_contract_3
def dkwX0_contract_1 : List UInt8 := [170, 0, 0, 0, 0, 0, 0, 72, 0, 0, 0, 0, 0, 0, 0, 3, 0, 0, 0, 32, 0, 0, 0, 42, 0, 0, 0, 52, 0, 0, 0, 62]
abbrev dktX0_contract_1 : List UInt8 := dkwX0_contract_1 ++ dktX0_contract_2
def dkwX0_contract_0 : List UInt8 := [42, 27, 182, 0, 163, 154, 0, 6, 18, 142, 172, 28]
abbrev dktX0_contract_0 : List UInt8 := dkwX0_contract_0 ++ dktX0_contract_1
theorem dksX0_contract_0 : cX0_contract.data.toList.drop 0 = dktX0_contract_0 := by decide +kernel
theorem dksX0_contract_1 : cX0_contract.data.toList.drop 12 = dktX0_contract_1 := dk_seg dksX0_contract_0 12 rfl rfl
theorem dksX0_contract_2 : cX0_contract.data.toList.drop 44 = dktX0_contract_2 := dk_seg dksX0_contract_1 32 rfl rfl
theorem dksX0_contract_3 : cX0_contract.data.toList.drop 68 = dktX0_contract_3 := dk_seg dksX0_contract_2 24 rfl rfl
theorem dX0_contract_0 : decode cX0_contract 0 = .ok (.aload_n 0, 1) := dk_42 (dk_at dksX0_contract_0 0 rfl rfl)
theorem dX0_contract_1 : decode cX0_contract 1 = .ok (.iload_n 1, 1) := dk_27 (dk_at dksX0_contract_0 1 rfl rfl)
theorem dX0_contract_2 : decode cX0_contract 2 = .ok (.invokevirtual 163, 3) := dk_182 0 163 (dk_at dksX0_contract_0 2 rfl rfl)
theorem dX0_contract_5 : decode cX0_contract 5 = .ok (.ifCond .ne 6, 3) := dk_154 0 6 (dk_at dksX0_contract_0 5 rfl rfl)
theorem dX0_contract_8 : decode cX0_contract 8 = .ok (.ldc 142, 2) := dk_18 142 (dk_at dksX0_contract_0 8 rfl rfl)
theorem dX0_contract_10 : decode cX0_contract 10 = .ok (.ireturn, 1) := dk_172 (dk_at dksX0_contract_0 10 rfl rfl)
theorem dX0_contract_11 : decode cX0_contract 11 = .ok (.iload_n 2, 1) := dk_28 (dk_at dksX0_contract_0 11 rfl rfl)
theorem dX0_contract_12 : decode cX0_contract 12 = .ok (.tableswitch 72 0 3 #[32, 42, 52, 62], 32) := by decide +kernel
theorem dX0_contract_44 : decode cX0_contract 44 = .ok (.aload_n 0, 1) := dk_42 (dk_at dksX0_contract_2 0 rfl rfl)
theorem dX0_contract_45 : decode cX0_contract 45 = .ok (.getfield 10, 3) := dk_180 0 10 (dk_at dksX0_contract_2 1 rfl rfl)
theorem dX0_contract_48 : decode cX0_contract 48 = .ok (.getfield 166, 3) := dk_180 0 166 (dk_at dksX0_contract_2 4 rfl rfl)
theorem dX0_contract_51 : decode cX0_contract 51 = .ok (.iload_n 1, 1) := dk_27 (dk_at dksX0_contract_2 7 rfl rfl)
theorem dX0_contract_52 : decode cX0_contract 52 = .ok (.iaload, 1) := dk_46 (dk_at dksX0_contract_2 8 rfl rfl)
theorem dX0_contract_53 : decode cX0_contract 53 = .ok (.ireturn, 1) := dk_172 (dk_at dksX0_contract_2 9 rfl rfl)
theorem dX0_contract_54 : decode cX0_contract 54 = .ok (.aload_n 0, 1) := dk_42 (dk_at dksX0_contract_2 10 rfl rfl)
theorem dX0_contract_55 : decode cX0_contract 55 = .ok (.getfield 10, 3) := dk_180 0 10 (dk_at dksX0_contract_2 11 rfl rfl)
theorem dX0_contract_58 : decode cX0_contract 58 = .ok (.getfield 169, 3) := dk_180 0 169 (dk_at dksX0_contract_2 14 rfl rfl)
theorem dX0_contract_61 : decode cX0_contract 61 = .ok (.iload_n 1, 1) := dk_27 (dk_at dksX0_contract_2 17 rfl rfl)
theorem dX0_contract_62 : decode cX0_contract 62 = .ok (.iaload, 1) := dk_46 (dk_at dksX0_contract_2 18 rfl rfl)
theorem dX0_contract_63 : decode cX0_contract 63 = .ok (.ireturn, 1) := dk_172 (dk_at dksX0_contract_2 19 rfl rfl)
theorem dX0_contract_64 : decode cX0_contract 64 = .ok (.aload_n 0, 1) := dk_42 (dk_at dksX0_contract_2 20 rfl rfl)
theorem dX0_contract_65 : decode cX0_contract 65 = .ok (.getfield 10, 3) := dk_180 0 10 (dk_at dksX0_contract_2 21 rfl rfl)
theorem dX0_contract_68 : decode cX0_contract 68 = .ok (.getfield 172, 3) := dk_180 0 172 (dk_at dksX0_contract_3 0 rfl rfl)
theorem dX0_contract_71 : decode cX0_contract 71 = .ok (.iload_n 1, 1) := dk_27 (dk_at dksX0_contract_3 3 rfl rfl)
theorem dX0_contract_72 : decode cX0_contract 72 = .ok (.iaload, 1) := dk_46 (dk_at dksX0_contract_3 4 rfl rfl)
theorem dX0_contract_73 : decode cX0_contract 73 = .ok (.ireturn, 1) := dk_172 (dk_at dksX0_contract_3 5 rfl rfl)
theorem dX0_contract_74 : decode cX0_contract 74 = .ok (.aload_n 0, 1) := dk_42 (dk_at dksX0_contract_3 6 rfl rfl)
theorem dX0_contract_75 : decode cX0_contract 75 = .ok (.getfield 21, 3) := dk_180 0 21 (dk_at dksX0_contract_3 7 rfl rfl)
theorem dX0_contract_78 : decode cX0_contract 78 = .ok (.getfield 175, 3) := dk_180 0 175 (dk_at dksX0_contract_3 10 rfl rfl)
theorem dX0_contract_81 : decode cX0_contract 81 = .ok (.iload_n 1, 1) := dk_27 (dk_at dksX0_contract_3 13 rfl rfl)
theorem dX0_contract_82 : decode cX0_contract 82 = .ok (.iaload, 1) := dk_46 (dk_at dksX0_contract_3 14 rfl rfl)
theorem dX0_contract_83 : decode cX0_contract 83 = .ok (.ireturn, 1) := dk_172 (dk_at dksX0_contract_3 15 rfl rfl)
theorem dX0_contract_84 : decode cX0_contract 84 = .ok (.ldc 75, 2) := dk_18 75 (dk_at dksX0_contract_3 16 rfl rfl)
theorem dX0_contract_86 : decode cX0_contract 86 = .ok (.ireturn, 1) := dk_172 (dk_at dksX0_contract_3 18 rfl rfl)
abbrev cX0_isContract : ByteArray := prog_1_method_8_code
def yX0_isContract : MethodName := ⟨RX0, "isContract", "(I)Z"⟩
def dkwX0_isContract_0 : List UInt8 := [27, 3, 42, 180, 0, 10, 180, 0, 113, 4, 100, 184, 0, 71, 172]
abbrev dktX0_isContract_0 : List UInt8 := dkwX0_isContract_0 ++ []
theorem dksX0_isContract_0 : cX0_isContract.data.toList.drop 0 = dktX0_isContract_0 := by decide +kernel
theorem dX0_isContract_0 : decode cX0_isContract 0 = .ok (.iload_n 1, 1) := dk_27 (dk_at dksX0_isContract_0 0 rfl rfl)
theorem dX0_isContract_1 : decode cX0_isContract 1 = .ok (.iconst 0, 1) := dk_3 (dk_at dksX0_isContract_0 1 rfl rfl)
theorem dX0_isContract_2 : decode cX0_isContract 2 = .ok (.aload_n 0, 1) := dk_42 (dk_at dksX0_isContract_0 2 rfl rfl)
theorem dX0_isContract_3 : decode cX0_isContract 3 = .ok (.getfield 10, 3) := dk_180 0 10 (dk_at dksX0_isContract_0 3 rfl rfl)
theorem dX0_isContract_6 : decode cX0_isContract 6 = .ok (.getfield 113, 3) := dk_180 0 113 (dk_at dksX0_isContract_0 6 rfl rfl)
theorem dX0_isContract_9 : decode cX0_isContract 9 = .ok (.iconst 1, 1) := dk_4 (dk_at dksX0_isContract_0 9 rfl rfl)
theorem dX0_isContract_10 : decode cX0_isContract 10 = .ok (.isub, 1) := dk_100 (dk_at dksX0_isContract_0 10 rfl rfl)
theorem dX0_isContract_11 : decode cX0_isContract 11 = .ok (.invokestatic 71, 3) := dk_184 0 71 (dk_at dksX0_isContract_0 11 rfl rfl)
theorem dX0_isContract_14 : decode cX0_isContract 14 = .ok (.ireturn, 1) := dk_172 (dk_at dksX0_isContract_0 14 rfl rfl)
abbrev cX0_rate : ByteArray := prog_1_method_13_code
def yX0_rate : MethodName := ⟨RX0, "rate", "(II)I"⟩
def dkwX0_rate_3 : List UInt8 := [180, 0, 184, 27, 46, 172, 42, 180, 0, 10, 180, 0, 187, 27, 46, 172, 18, 75, 172]
abbrev dktX0_rate_3 : List UInt8 := dkwX0_rate_3 ++ []
def dkwX0_rate_2 : List UInt8 := [42, 180, 0, 10, 180, 0, 178, 27, 46, 172, 42, 180, 0, 10, 180, 0, 181, 27, 46, 172, 42, 180, 0, 10]
abbrev dktX0_rate_2 : List UInt8 := dkwX0_rate_2 ++ dktX0_rate_3
def dkwX0_rate_1 : List UInt8 := [170, 0, 0, 0, 0, 0, 71, 0, 0, 0, 0, 0, 0, 0, 3, 0, 0, 0, 31, 0, 0, 0, 41, 0, 0, 0, 51, 0, 0, 0, 61]
abbrev dktX0_rate_1 : List UInt8 := dkwX0_rate_1 ++ dktX0_rate_2
def dkwX0_rate_0 : List UInt8 := [27, 3, 42, 180, 0, 10, 180, 0, 119, 4, 100, 184, 0, 71, 154, 0, 6, 18, 142, 172, 28]
abbrev dktX0_rate_0 : List UInt8 := dkwX0_rate_0 ++ dktX0_rate_1
theorem dksX0_rate_0 : cX0_rate.data.toList.drop 0 = dktX0_rate_0 := by decide +kernel
theorem dksX0_rate_1 : cX0_rate.data.toList.drop 21 = dktX0_rate_1 := dk_seg dksX0_rate_0 21 rfl rfl
theorem dksX0_rate_2 : cX0_rate.data.toList.drop 52 = dktX0_rate_2 := dk_seg dksX0_rate_1 31 rfl rfl
theorem dksX0_rate_3 : cX0_rate.data.toList.drop 76 = dktX0_rate_3 := dk_seg dksX0_rate_2 24 rfl rfl
theorem dX0_rate_0 : decode cX0_rate 0 = .ok (.iload_n 1, 1) := dk_27 (dk_at dksX0_rate_0 0 rfl rfl)
theorem dX0_rate_1 : decode cX0_rate 1 = .ok (.iconst 0, 1) := dk_3 (dk_at dksX0_rate_0 1 rfl rfl)
theorem dX0_rate_2 : decode cX0_rate 2 = .ok (.aload_n 0, 1) := dk_42 (dk_at dksX0_rate_0 2 rfl rfl)
theorem dX0_rate_3 : decode cX0_rate 3 = .ok (.getfield 10, 3) := dk_180 0 10 (dk_at dksX0_rate_0 3 rfl rfl)
theorem dX0_rate_6 : decode cX0_rate 6 = .ok (.getfield 119, 3) := dk_180 0 119 (dk_at dksX0_rate_0 6 rfl rfl)
theorem dX0_rate_9 : decode cX0_rate 9 = .ok (.iconst 1, 1) := dk_4 (dk_at dksX0_rate_0 9 rfl rfl)
theorem dX0_rate_10 : decode cX0_rate 10 = .ok (.isub, 1) := dk_100 (dk_at dksX0_rate_0 10 rfl rfl)
theorem dX0_rate_11 : decode cX0_rate 11 = .ok (.invokestatic 71, 3) := dk_184 0 71 (dk_at dksX0_rate_0 11 rfl rfl)
theorem dX0_rate_14 : decode cX0_rate 14 = .ok (.ifCond .ne 6, 3) := dk_154 0 6 (dk_at dksX0_rate_0 14 rfl rfl)
theorem dX0_rate_17 : decode cX0_rate 17 = .ok (.ldc 142, 2) := dk_18 142 (dk_at dksX0_rate_0 17 rfl rfl)
theorem dX0_rate_19 : decode cX0_rate 19 = .ok (.ireturn, 1) := dk_172 (dk_at dksX0_rate_0 19 rfl rfl)
theorem dX0_rate_20 : decode cX0_rate 20 = .ok (.iload_n 2, 1) := dk_28 (dk_at dksX0_rate_0 20 rfl rfl)
theorem dX0_rate_21 : decode cX0_rate 21 = .ok (.tableswitch 71 0 3 #[31, 41, 51, 61], 31) := by decide +kernel
theorem dX0_rate_52 : decode cX0_rate 52 = .ok (.aload_n 0, 1) := dk_42 (dk_at dksX0_rate_2 0 rfl rfl)
theorem dX0_rate_53 : decode cX0_rate 53 = .ok (.getfield 10, 3) := dk_180 0 10 (dk_at dksX0_rate_2 1 rfl rfl)
theorem dX0_rate_56 : decode cX0_rate 56 = .ok (.getfield 178, 3) := dk_180 0 178 (dk_at dksX0_rate_2 4 rfl rfl)
theorem dX0_rate_59 : decode cX0_rate 59 = .ok (.iload_n 1, 1) := dk_27 (dk_at dksX0_rate_2 7 rfl rfl)
theorem dX0_rate_60 : decode cX0_rate 60 = .ok (.iaload, 1) := dk_46 (dk_at dksX0_rate_2 8 rfl rfl)
theorem dX0_rate_61 : decode cX0_rate 61 = .ok (.ireturn, 1) := dk_172 (dk_at dksX0_rate_2 9 rfl rfl)
theorem dX0_rate_62 : decode cX0_rate 62 = .ok (.aload_n 0, 1) := dk_42 (dk_at dksX0_rate_2 10 rfl rfl)
theorem dX0_rate_63 : decode cX0_rate 63 = .ok (.getfield 10, 3) := dk_180 0 10 (dk_at dksX0_rate_2 11 rfl rfl)
theorem dX0_rate_66 : decode cX0_rate 66 = .ok (.getfield 181, 3) := dk_180 0 181 (dk_at dksX0_rate_2 14 rfl rfl)
theorem dX0_rate_69 : decode cX0_rate 69 = .ok (.iload_n 1, 1) := dk_27 (dk_at dksX0_rate_2 17 rfl rfl)
theorem dX0_rate_70 : decode cX0_rate 70 = .ok (.iaload, 1) := dk_46 (dk_at dksX0_rate_2 18 rfl rfl)
theorem dX0_rate_71 : decode cX0_rate 71 = .ok (.ireturn, 1) := dk_172 (dk_at dksX0_rate_2 19 rfl rfl)
theorem dX0_rate_72 : decode cX0_rate 72 = .ok (.aload_n 0, 1) := dk_42 (dk_at dksX0_rate_2 20 rfl rfl)
theorem dX0_rate_73 : decode cX0_rate 73 = .ok (.getfield 10, 3) := dk_180 0 10 (dk_at dksX0_rate_2 21 rfl rfl)
theorem dX0_rate_76 : decode cX0_rate 76 = .ok (.getfield 184, 3) := dk_180 0 184 (dk_at dksX0_rate_3 0 rfl rfl)
theorem dX0_rate_79 : decode cX0_rate 79 = .ok (.iload_n 1, 1) := dk_27 (dk_at dksX0_rate_3 3 rfl rfl)
theorem dX0_rate_80 : decode cX0_rate 80 = .ok (.iaload, 1) := dk_46 (dk_at dksX0_rate_3 4 rfl rfl)
theorem dX0_rate_81 : decode cX0_rate 81 = .ok (.ireturn, 1) := dk_172 (dk_at dksX0_rate_3 5 rfl rfl)
theorem dX0_rate_82 : decode cX0_rate 82 = .ok (.aload_n 0, 1) := dk_42 (dk_at dksX0_rate_3 6 rfl rfl)
theorem dX0_rate_83 : decode cX0_rate 83 = .ok (.getfield 10, 3) := dk_180 0 10 (dk_at dksX0_rate_3 7 rfl rfl)
theorem dX0_rate_86 : decode cX0_rate 86 = .ok (.getfield 187, 3) := dk_180 0 187 (dk_at dksX0_rate_3 10 rfl rfl)
theorem dX0_rate_89 : decode cX0_rate 89 = .ok (.iload_n 1, 1) := dk_27 (dk_at dksX0_rate_3 13 rfl rfl)
theorem dX0_rate_90 : decode cX0_rate 90 = .ok (.iaload, 1) := dk_46 (dk_at dksX0_rate_3 14 rfl rfl)
theorem dX0_rate_91 : decode cX0_rate 91 = .ok (.ireturn, 1) := dk_172 (dk_at dksX0_rate_3 15 rfl rfl)
theorem dX0_rate_92 : decode cX0_rate 92 = .ok (.ldc 75, 2) := dk_18 75 (dk_at dksX0_rate_3 16 rfl rfl)
theorem dX0_rate_94 : decode cX0_rate 94 = .ok (.ireturn, 1) := dk_172 (dk_at dksX0_rate_3 18 rfl rfl)
abbrev cX0_season : ByteArray := prog_1_method_16_code
def yX0_season : MethodName := ⟨RX0, "season", "(I)I"⟩
def dkwX0_season_1 : List UInt8 := [162, 0, 16, 42, 180, 0, 21, 182, 0, 201, 132, 2, 1, 167, 255, 241, 42, 180, 0, 21, 180, 0, 122, 172]
abbrev dktX0_season_1 : List UInt8 := dkwX0_season_1 ++ []
def dkwX0_season_0 : List UInt8 := [42, 27, 182, 0, 195, 156, 0, 9, 42, 27, 182, 0, 195, 172, 42, 182, 0, 198, 3, 61, 28, 27]
abbrev dktX0_season_0 : List UInt8 := dkwX0_season_0 ++ dktX0_season_1
theorem dksX0_season_0 : cX0_season.data.toList.drop 0 = dktX0_season_0 := by decide +kernel
theorem dksX0_season_1 : cX0_season.data.toList.drop 22 = dktX0_season_1 := dk_seg dksX0_season_0 22 rfl rfl
theorem dX0_season_0 : decode cX0_season 0 = .ok (.aload_n 0, 1) := dk_42 (dk_at dksX0_season_0 0 rfl rfl)
theorem dX0_season_1 : decode cX0_season 1 = .ok (.iload_n 1, 1) := dk_27 (dk_at dksX0_season_0 1 rfl rfl)
theorem dX0_season_2 : decode cX0_season 2 = .ok (.invokevirtual 195, 3) := dk_182 0 195 (dk_at dksX0_season_0 2 rfl rfl)
theorem dX0_season_5 : decode cX0_season 5 = .ok (.ifCond .ge 9, 3) := dk_156 0 9 (dk_at dksX0_season_0 5 rfl rfl)
theorem dX0_season_8 : decode cX0_season 8 = .ok (.aload_n 0, 1) := dk_42 (dk_at dksX0_season_0 8 rfl rfl)
theorem dX0_season_9 : decode cX0_season 9 = .ok (.iload_n 1, 1) := dk_27 (dk_at dksX0_season_0 9 rfl rfl)
theorem dX0_season_10 : decode cX0_season 10 = .ok (.invokevirtual 195, 3) := dk_182 0 195 (dk_at dksX0_season_0 10 rfl rfl)
theorem dX0_season_13 : decode cX0_season 13 = .ok (.ireturn, 1) := dk_172 (dk_at dksX0_season_0 13 rfl rfl)
theorem dX0_season_14 : decode cX0_season 14 = .ok (.aload_n 0, 1) := dk_42 (dk_at dksX0_season_0 14 rfl rfl)
theorem dX0_season_15 : decode cX0_season 15 = .ok (.invokevirtual 198, 3) := dk_182 0 198 (dk_at dksX0_season_0 15 rfl rfl)
theorem dX0_season_18 : decode cX0_season 18 = .ok (.iconst 0, 1) := dk_3 (dk_at dksX0_season_0 18 rfl rfl)
theorem dX0_season_19 : decode cX0_season 19 = .ok (.istore_n 2, 1) := dk_61 (dk_at dksX0_season_0 19 rfl rfl)
theorem dX0_season_20 : decode cX0_season 20 = .ok (.iload_n 2, 1) := dk_28 (dk_at dksX0_season_0 20 rfl rfl)
theorem dX0_season_21 : decode cX0_season 21 = .ok (.iload_n 1, 1) := dk_27 (dk_at dksX0_season_0 21 rfl rfl)
theorem dX0_season_22 : decode cX0_season 22 = .ok (.if_icmp .ge 16, 3) := dk_162 0 16 (dk_at dksX0_season_1 0 rfl rfl)
theorem dX0_season_25 : decode cX0_season 25 = .ok (.aload_n 0, 1) := dk_42 (dk_at dksX0_season_1 3 rfl rfl)
theorem dX0_season_26 : decode cX0_season 26 = .ok (.getfield 21, 3) := dk_180 0 21 (dk_at dksX0_season_1 4 rfl rfl)
theorem dX0_season_29 : decode cX0_season 29 = .ok (.invokevirtual 201, 3) := dk_182 0 201 (dk_at dksX0_season_1 7 rfl rfl)
theorem dX0_season_32 : decode cX0_season 32 = .ok (.iinc 2 1, 3) := dk_132 2 1 (dk_at dksX0_season_1 10 rfl rfl)
theorem dX0_season_35 : decode cX0_season 35 = .ok (.goto (-15), 3) := dk_167 255 241 (dk_at dksX0_season_1 13 rfl rfl)
theorem dX0_season_38 : decode cX0_season 38 = .ok (.aload_n 0, 1) := dk_42 (dk_at dksX0_season_1 16 rfl rfl)
theorem dX0_season_39 : decode cX0_season 39 = .ok (.getfield 21, 3) := dk_180 0 21 (dk_at dksX0_season_1 17 rfl rfl)
theorem dX0_season_42 : decode cX0_season 42 = .ok (.getfield 122, 3) := dk_180 0 122 (dk_at dksX0_season_1 20 rfl rfl)
theorem dX0_season_45 : decode cX0_season 45 = .ok (.ireturn, 1) := dk_172 (dk_at dksX0_season_1 23 rfl rfl)
abbrev cX0_refusedSeasons : ByteArray := prog_1_method_15_code
def yX0_refusedSeasons : MethodName := ⟨RX0, "refusedSeasons", "(I)I"⟩
def dkwX0_refusedSeasons_2 : List UInt8 := [167, 0, 4, 3, 172]
abbrev dktX0_refusedSeasons_2 : List UInt8 := dkwX0_refusedSeasons_2 ++ []
def dkwX0_refusedSeasons_1 : List UInt8 := [154, 0, 8, 18, 194, 167, 0, 22, 42, 180, 0, 21, 180, 0, 122, 17, 35, 40, 164, 0, 8, 18, 79]
abbrev dktX0_refusedSeasons_1 : List UInt8 := dkwX0_refusedSeasons_1 ++ dktX0_refusedSeasons_2
def dkwX0_refusedSeasons_0 : List UInt8 := [27, 4, 16, 40, 184, 0, 71, 154, 0, 8, 18, 75, 167, 0, 37, 42, 180, 0, 10, 180, 0, 110]
abbrev dktX0_refusedSeasons_0 : List UInt8 := dkwX0_refusedSeasons_0 ++ dktX0_refusedSeasons_1
theorem dksX0_refusedSeasons_0 : cX0_refusedSeasons.data.toList.drop 0 = dktX0_refusedSeasons_0 := by decide +kernel
theorem dksX0_refusedSeasons_1 : cX0_refusedSeasons.data.toList.drop 22 = dktX0_refusedSeasons_1 := dk_seg dksX0_refusedSeasons_0 22 rfl rfl
theorem dksX0_refusedSeasons_2 : cX0_refusedSeasons.data.toList.drop 45 = dktX0_refusedSeasons_2 := dk_seg dksX0_refusedSeasons_1 23 rfl rfl
theorem dX0_refusedSeasons_0 : decode cX0_refusedSeasons 0 = .ok (.iload_n 1, 1) := dk_27 (dk_at dksX0_refusedSeasons_0 0 rfl rfl)
theorem dX0_refusedSeasons_1 : decode cX0_refusedSeasons 1 = .ok (.iconst 1, 1) := dk_4 (dk_at dksX0_refusedSeasons_0 1 rfl rfl)
theorem dX0_refusedSeasons_2 : decode cX0_refusedSeasons 2 = .ok (.bipush 40, 2) := dk_16 40 (dk_at dksX0_refusedSeasons_0 2 rfl rfl)
theorem dX0_refusedSeasons_4 : decode cX0_refusedSeasons 4 = .ok (.invokestatic 71, 3) := dk_184 0 71 (dk_at dksX0_refusedSeasons_0 4 rfl rfl)
theorem dX0_refusedSeasons_7 : decode cX0_refusedSeasons 7 = .ok (.ifCond .ne 8, 3) := dk_154 0 8 (dk_at dksX0_refusedSeasons_0 7 rfl rfl)
theorem dX0_refusedSeasons_10 : decode cX0_refusedSeasons 10 = .ok (.ldc 75, 2) := dk_18 75 (dk_at dksX0_refusedSeasons_0 10 rfl rfl)
theorem dX0_refusedSeasons_12 : decode cX0_refusedSeasons 12 = .ok (.goto 37, 3) := dk_167 0 37 (dk_at dksX0_refusedSeasons_0 12 rfl rfl)
theorem dX0_refusedSeasons_15 : decode cX0_refusedSeasons 15 = .ok (.aload_n 0, 1) := dk_42 (dk_at dksX0_refusedSeasons_0 15 rfl rfl)
theorem dX0_refusedSeasons_16 : decode cX0_refusedSeasons 16 = .ok (.getfield 10, 3) := dk_180 0 10 (dk_at dksX0_refusedSeasons_0 16 rfl rfl)
theorem dX0_refusedSeasons_19 : decode cX0_refusedSeasons 19 = .ok (.getfield 110, 3) := dk_180 0 110 (dk_at dksX0_refusedSeasons_0 19 rfl rfl)
theorem dX0_refusedSeasons_22 : decode cX0_refusedSeasons 22 = .ok (.ifCond .ne 8, 3) := dk_154 0 8 (dk_at dksX0_refusedSeasons_1 0 rfl rfl)
theorem dX0_refusedSeasons_25 : decode cX0_refusedSeasons 25 = .ok (.ldc 194, 2) := dk_18 194 (dk_at dksX0_refusedSeasons_1 3 rfl rfl)
theorem dX0_refusedSeasons_27 : decode cX0_refusedSeasons 27 = .ok (.goto 22, 3) := dk_167 0 22 (dk_at dksX0_refusedSeasons_1 5 rfl rfl)
theorem dX0_refusedSeasons_30 : decode cX0_refusedSeasons 30 = .ok (.aload_n 0, 1) := dk_42 (dk_at dksX0_refusedSeasons_1 8 rfl rfl)
theorem dX0_refusedSeasons_31 : decode cX0_refusedSeasons 31 = .ok (.getfield 21, 3) := dk_180 0 21 (dk_at dksX0_refusedSeasons_1 9 rfl rfl)
theorem dX0_refusedSeasons_34 : decode cX0_refusedSeasons 34 = .ok (.getfield 122, 3) := dk_180 0 122 (dk_at dksX0_refusedSeasons_1 12 rfl rfl)
theorem dX0_refusedSeasons_37 : decode cX0_refusedSeasons 37 = .ok (.sipush 9000, 3) := dk_17 35 40 (dk_at dksX0_refusedSeasons_1 15 rfl rfl)
theorem dX0_refusedSeasons_40 : decode cX0_refusedSeasons 40 = .ok (.if_icmp .le 8, 3) := dk_164 0 8 (dk_at dksX0_refusedSeasons_1 18 rfl rfl)
theorem dX0_refusedSeasons_43 : decode cX0_refusedSeasons 43 = .ok (.ldc 79, 2) := dk_18 79 (dk_at dksX0_refusedSeasons_1 21 rfl rfl)
theorem dX0_refusedSeasons_45 : decode cX0_refusedSeasons 45 = .ok (.goto 4, 3) := dk_167 0 4 (dk_at dksX0_refusedSeasons_2 0 rfl rfl)
theorem dX0_refusedSeasons_48 : decode cX0_refusedSeasons 48 = .ok (.iconst 0, 1) := dk_3 (dk_at dksX0_refusedSeasons_2 3 rfl rfl)
theorem dX0_refusedSeasons_49 : decode cX0_refusedSeasons 49 = .ok (.ireturn, 1) := dk_172 (dk_at dksX0_refusedSeasons_2 4 rfl rfl)
abbrev cX0_remember : ByteArray := prog_1_method_14_code
def yX0_remember : MethodName := ⟨RX0, "remember", "()V"⟩
def dkwX0_remember_3 : List UInt8 := [4, 96, 181, 0, 97, 177]
abbrev dktX0_remember_3 : List UInt8 := dkwX0_remember_3 ++ []
def dkwX0_remember_2 : List UInt8 := [181, 0, 97, 42, 180, 0, 25, 42, 180, 0, 97, 50, 42, 180, 0, 21, 182, 0, 190, 42, 89, 180, 0, 97]
abbrev dktX0_remember_2 : List UInt8 := dkwX0_remember_2 ++ dktX0_remember_3
def dkwX0_remember_1 : List UInt8 := [50, 42, 180, 0, 25, 27, 50, 182, 0, 190, 132, 1, 1, 167, 255, 230, 42, 89, 180, 0, 97, 4, 100]
abbrev dktX0_remember_1 : List UInt8 := dkwX0_remember_1 ++ dktX0_remember_2
def dkwX0_remember_0 : List UInt8 := [42, 180, 0, 97, 16, 20, 160, 0, 44, 4, 60, 27, 16, 20, 162, 0, 26, 42, 180, 0, 25, 27, 4, 100]
abbrev dktX0_remember_0 : List UInt8 := dkwX0_remember_0 ++ dktX0_remember_1
theorem dksX0_remember_0 : cX0_remember.data.toList.drop 0 = dktX0_remember_0 := by decide +kernel
theorem dksX0_remember_1 : cX0_remember.data.toList.drop 24 = dktX0_remember_1 := dk_seg dksX0_remember_0 24 rfl rfl
theorem dksX0_remember_2 : cX0_remember.data.toList.drop 47 = dktX0_remember_2 := dk_seg dksX0_remember_1 23 rfl rfl
theorem dksX0_remember_3 : cX0_remember.data.toList.drop 71 = dktX0_remember_3 := dk_seg dksX0_remember_2 24 rfl rfl
theorem dX0_remember_0 : decode cX0_remember 0 = .ok (.aload_n 0, 1) := dk_42 (dk_at dksX0_remember_0 0 rfl rfl)
theorem dX0_remember_1 : decode cX0_remember 1 = .ok (.getfield 97, 3) := dk_180 0 97 (dk_at dksX0_remember_0 1 rfl rfl)
theorem dX0_remember_4 : decode cX0_remember 4 = .ok (.bipush 20, 2) := dk_16 20 (dk_at dksX0_remember_0 4 rfl rfl)
theorem dX0_remember_6 : decode cX0_remember 6 = .ok (.if_icmp .ne 44, 3) := dk_160 0 44 (dk_at dksX0_remember_0 6 rfl rfl)
theorem dX0_remember_9 : decode cX0_remember 9 = .ok (.iconst 1, 1) := dk_4 (dk_at dksX0_remember_0 9 rfl rfl)
theorem dX0_remember_10 : decode cX0_remember 10 = .ok (.istore_n 1, 1) := dk_60 (dk_at dksX0_remember_0 10 rfl rfl)
theorem dX0_remember_11 : decode cX0_remember 11 = .ok (.iload_n 1, 1) := dk_27 (dk_at dksX0_remember_0 11 rfl rfl)
theorem dX0_remember_12 : decode cX0_remember 12 = .ok (.bipush 20, 2) := dk_16 20 (dk_at dksX0_remember_0 12 rfl rfl)
theorem dX0_remember_14 : decode cX0_remember 14 = .ok (.if_icmp .ge 26, 3) := dk_162 0 26 (dk_at dksX0_remember_0 14 rfl rfl)
theorem dX0_remember_17 : decode cX0_remember 17 = .ok (.aload_n 0, 1) := dk_42 (dk_at dksX0_remember_0 17 rfl rfl)
theorem dX0_remember_18 : decode cX0_remember 18 = .ok (.getfield 25, 3) := dk_180 0 25 (dk_at dksX0_remember_0 18 rfl rfl)
theorem dX0_remember_21 : decode cX0_remember 21 = .ok (.iload_n 1, 1) := dk_27 (dk_at dksX0_remember_0 21 rfl rfl)
theorem dX0_remember_22 : decode cX0_remember 22 = .ok (.iconst 1, 1) := dk_4 (dk_at dksX0_remember_0 22 rfl rfl)
theorem dX0_remember_23 : decode cX0_remember 23 = .ok (.isub, 1) := dk_100 (dk_at dksX0_remember_0 23 rfl rfl)
theorem dX0_remember_24 : decode cX0_remember 24 = .ok (.aaload, 1) := dk_50 (dk_at dksX0_remember_1 0 rfl rfl)
theorem dX0_remember_25 : decode cX0_remember 25 = .ok (.aload_n 0, 1) := dk_42 (dk_at dksX0_remember_1 1 rfl rfl)
theorem dX0_remember_26 : decode cX0_remember 26 = .ok (.getfield 25, 3) := dk_180 0 25 (dk_at dksX0_remember_1 2 rfl rfl)
theorem dX0_remember_29 : decode cX0_remember 29 = .ok (.iload_n 1, 1) := dk_27 (dk_at dksX0_remember_1 5 rfl rfl)
theorem dX0_remember_30 : decode cX0_remember 30 = .ok (.aaload, 1) := dk_50 (dk_at dksX0_remember_1 6 rfl rfl)
theorem dX0_remember_31 : decode cX0_remember 31 = .ok (.invokevirtual 190, 3) := dk_182 0 190 (dk_at dksX0_remember_1 7 rfl rfl)
theorem dX0_remember_34 : decode cX0_remember 34 = .ok (.iinc 1 1, 3) := dk_132 1 1 (dk_at dksX0_remember_1 10 rfl rfl)
theorem dX0_remember_37 : decode cX0_remember 37 = .ok (.goto (-26), 3) := dk_167 255 230 (dk_at dksX0_remember_1 13 rfl rfl)
theorem dX0_remember_40 : decode cX0_remember 40 = .ok (.aload_n 0, 1) := dk_42 (dk_at dksX0_remember_1 16 rfl rfl)
theorem dX0_remember_41 : decode cX0_remember 41 = .ok (.dup, 1) := dk_89 (dk_at dksX0_remember_1 17 rfl rfl)
theorem dX0_remember_42 : decode cX0_remember 42 = .ok (.getfield 97, 3) := dk_180 0 97 (dk_at dksX0_remember_1 18 rfl rfl)
theorem dX0_remember_45 : decode cX0_remember 45 = .ok (.iconst 1, 1) := dk_4 (dk_at dksX0_remember_1 21 rfl rfl)
theorem dX0_remember_46 : decode cX0_remember 46 = .ok (.isub, 1) := dk_100 (dk_at dksX0_remember_1 22 rfl rfl)
theorem dX0_remember_47 : decode cX0_remember 47 = .ok (.putfield 97, 3) := dk_181 0 97 (dk_at dksX0_remember_2 0 rfl rfl)
theorem dX0_remember_50 : decode cX0_remember 50 = .ok (.aload_n 0, 1) := dk_42 (dk_at dksX0_remember_2 3 rfl rfl)
theorem dX0_remember_51 : decode cX0_remember 51 = .ok (.getfield 25, 3) := dk_180 0 25 (dk_at dksX0_remember_2 4 rfl rfl)
theorem dX0_remember_54 : decode cX0_remember 54 = .ok (.aload_n 0, 1) := dk_42 (dk_at dksX0_remember_2 7 rfl rfl)
theorem dX0_remember_55 : decode cX0_remember 55 = .ok (.getfield 97, 3) := dk_180 0 97 (dk_at dksX0_remember_2 8 rfl rfl)
theorem dX0_remember_58 : decode cX0_remember 58 = .ok (.aaload, 1) := dk_50 (dk_at dksX0_remember_2 11 rfl rfl)
theorem dX0_remember_59 : decode cX0_remember 59 = .ok (.aload_n 0, 1) := dk_42 (dk_at dksX0_remember_2 12 rfl rfl)
theorem dX0_remember_60 : decode cX0_remember 60 = .ok (.getfield 21, 3) := dk_180 0 21 (dk_at dksX0_remember_2 13 rfl rfl)
theorem dX0_remember_63 : decode cX0_remember 63 = .ok (.invokevirtual 190, 3) := dk_182 0 190 (dk_at dksX0_remember_2 16 rfl rfl)
theorem dX0_remember_66 : decode cX0_remember 66 = .ok (.aload_n 0, 1) := dk_42 (dk_at dksX0_remember_2 19 rfl rfl)
theorem dX0_remember_67 : decode cX0_remember 67 = .ok (.dup, 1) := dk_89 (dk_at dksX0_remember_2 20 rfl rfl)
theorem dX0_remember_68 : decode cX0_remember 68 = .ok (.getfield 97, 3) := dk_180 0 97 (dk_at dksX0_remember_2 21 rfl rfl)
theorem dX0_remember_71 : decode cX0_remember 71 = .ok (.iconst 1, 1) := dk_4 (dk_at dksX0_remember_3 0 rfl rfl)
theorem dX0_remember_72 : decode cX0_remember 72 = .ok (.iadd, 1) := dk_96 (dk_at dksX0_remember_3 1 rfl rfl)
theorem dX0_remember_73 : decode cX0_remember 73 = .ok (.putfield 97, 3) := dk_181 0 97 (dk_at dksX0_remember_3 2 rfl rfl)
theorem dX0_remember_76 : decode cX0_remember 76 = .ok (.return_, 1) := dk_177 (dk_at dksX0_remember_3 5 rfl rfl)
abbrev cX0_gout : ByteArray := prog_1_method_17_code
def yX0_gout : MethodName := ⟨RX0, "gout", "(II)I"⟩
def dkwX0_gout_2 : List UInt8 := [180, 0, 21, 27, 28, 182, 0, 208, 42, 180, 0, 21, 180, 0, 153, 27, 46, 172]
abbrev dktX0_gout_2 : List UInt8 := dkwX0_gout_2 ++ []
def dkwX0_gout_1 : List UInt8 := [42, 180, 0, 21, 180, 0, 125, 27, 184, 0, 204, 154, 0, 6, 18, 194, 172, 42, 182, 0, 198, 42]
abbrev dktX0_gout_1 : List UInt8 := dkwX0_gout_1 ++ dktX0_gout_2
def dkwX0_gout_0 : List UInt8 := [42, 27, 182, 0, 138, 154, 0, 6, 18, 142, 172, 28, 4, 16, 20, 184, 0, 71, 154, 0, 6, 18, 75, 172]
abbrev dktX0_gout_0 : List UInt8 := dkwX0_gout_0 ++ dktX0_gout_1
theorem dksX0_gout_0 : cX0_gout.data.toList.drop 0 = dktX0_gout_0 := by decide +kernel
theorem dksX0_gout_1 : cX0_gout.data.toList.drop 24 = dktX0_gout_1 := dk_seg dksX0_gout_0 24 rfl rfl
theorem dksX0_gout_2 : cX0_gout.data.toList.drop 46 = dktX0_gout_2 := dk_seg dksX0_gout_1 22 rfl rfl
theorem dX0_gout_0 : decode cX0_gout 0 = .ok (.aload_n 0, 1) := dk_42 (dk_at dksX0_gout_0 0 rfl rfl)
theorem dX0_gout_1 : decode cX0_gout 1 = .ok (.iload_n 1, 1) := dk_27 (dk_at dksX0_gout_0 1 rfl rfl)
theorem dX0_gout_2 : decode cX0_gout 2 = .ok (.invokevirtual 138, 3) := dk_182 0 138 (dk_at dksX0_gout_0 2 rfl rfl)
theorem dX0_gout_5 : decode cX0_gout 5 = .ok (.ifCond .ne 6, 3) := dk_154 0 6 (dk_at dksX0_gout_0 5 rfl rfl)
theorem dX0_gout_8 : decode cX0_gout 8 = .ok (.ldc 142, 2) := dk_18 142 (dk_at dksX0_gout_0 8 rfl rfl)
theorem dX0_gout_10 : decode cX0_gout 10 = .ok (.ireturn, 1) := dk_172 (dk_at dksX0_gout_0 10 rfl rfl)
theorem dX0_gout_11 : decode cX0_gout 11 = .ok (.iload_n 2, 1) := dk_28 (dk_at dksX0_gout_0 11 rfl rfl)
theorem dX0_gout_12 : decode cX0_gout 12 = .ok (.iconst 1, 1) := dk_4 (dk_at dksX0_gout_0 12 rfl rfl)
theorem dX0_gout_13 : decode cX0_gout 13 = .ok (.bipush 20, 2) := dk_16 20 (dk_at dksX0_gout_0 13 rfl rfl)
theorem dX0_gout_15 : decode cX0_gout 15 = .ok (.invokestatic 71, 3) := dk_184 0 71 (dk_at dksX0_gout_0 15 rfl rfl)
theorem dX0_gout_18 : decode cX0_gout 18 = .ok (.ifCond .ne 6, 3) := dk_154 0 6 (dk_at dksX0_gout_0 18 rfl rfl)
theorem dX0_gout_21 : decode cX0_gout 21 = .ok (.ldc 75, 2) := dk_18 75 (dk_at dksX0_gout_0 21 rfl rfl)
theorem dX0_gout_23 : decode cX0_gout 23 = .ok (.ireturn, 1) := dk_172 (dk_at dksX0_gout_0 23 rfl rfl)
theorem dX0_gout_24 : decode cX0_gout 24 = .ok (.aload_n 0, 1) := dk_42 (dk_at dksX0_gout_1 0 rfl rfl)
theorem dX0_gout_25 : decode cX0_gout 25 = .ok (.getfield 21, 3) := dk_180 0 21 (dk_at dksX0_gout_1 1 rfl rfl)
theorem dX0_gout_28 : decode cX0_gout 28 = .ok (.getfield 125, 3) := dk_180 0 125 (dk_at dksX0_gout_1 4 rfl rfl)
theorem dX0_gout_31 : decode cX0_gout 31 = .ok (.iload_n 1, 1) := dk_27 (dk_at dksX0_gout_1 7 rfl rfl)
theorem dX0_gout_32 : decode cX0_gout 32 = .ok (.invokestatic 204, 3) := dk_184 0 204 (dk_at dksX0_gout_1 8 rfl rfl)
theorem dX0_gout_35 : decode cX0_gout 35 = .ok (.ifCond .ne 6, 3) := dk_154 0 6 (dk_at dksX0_gout_1 11 rfl rfl)
theorem dX0_gout_38 : decode cX0_gout 38 = .ok (.ldc 194, 2) := dk_18 194 (dk_at dksX0_gout_1 14 rfl rfl)
theorem dX0_gout_40 : decode cX0_gout 40 = .ok (.ireturn, 1) := dk_172 (dk_at dksX0_gout_1 16 rfl rfl)
theorem dX0_gout_41 : decode cX0_gout 41 = .ok (.aload_n 0, 1) := dk_42 (dk_at dksX0_gout_1 17 rfl rfl)
theorem dX0_gout_42 : decode cX0_gout 42 = .ok (.invokevirtual 198, 3) := dk_182 0 198 (dk_at dksX0_gout_1 18 rfl rfl)
theorem dX0_gout_45 : decode cX0_gout 45 = .ok (.aload_n 0, 1) := dk_42 (dk_at dksX0_gout_1 21 rfl rfl)
theorem dX0_gout_46 : decode cX0_gout 46 = .ok (.getfield 21, 3) := dk_180 0 21 (dk_at dksX0_gout_2 0 rfl rfl)
theorem dX0_gout_49 : decode cX0_gout 49 = .ok (.iload_n 1, 1) := dk_27 (dk_at dksX0_gout_2 3 rfl rfl)
theorem dX0_gout_50 : decode cX0_gout 50 = .ok (.iload_n 2, 1) := dk_28 (dk_at dksX0_gout_2 4 rfl rfl)
theorem dX0_gout_51 : decode cX0_gout 51 = .ok (.invokevirtual 208, 3) := dk_182 0 208 (dk_at dksX0_gout_2 5 rfl rfl)
theorem dX0_gout_54 : decode cX0_gout 54 = .ok (.aload_n 0, 1) := dk_42 (dk_at dksX0_gout_2 8 rfl rfl)
theorem dX0_gout_55 : decode cX0_gout 55 = .ok (.getfield 21, 3) := dk_180 0 21 (dk_at dksX0_gout_2 9 rfl rfl)
theorem dX0_gout_58 : decode cX0_gout 58 = .ok (.getfield 153, 3) := dk_180 0 153 (dk_at dksX0_gout_2 12 rfl rfl)
theorem dX0_gout_61 : decode cX0_gout 61 = .ok (.iload_n 1, 1) := dk_27 (dk_at dksX0_gout_2 15 rfl rfl)
theorem dX0_gout_62 : decode cX0_gout 62 = .ok (.iaload, 1) := dk_46 (dk_at dksX0_gout_2 16 rfl rfl)
theorem dX0_gout_63 : decode cX0_gout 63 = .ok (.ireturn, 1) := dk_172 (dk_at dksX0_gout_2 17 rfl rfl)
abbrev cX0_stub : ByteArray := prog_1_method_18_code
def yX0_stub : MethodName := ⟨RX0, "stub", "(I)I"⟩
def dkwX0_stub_2 : List UInt8 := [180, 0, 153, 27, 46, 172]
abbrev dktX0_stub_2 : List UInt8 := dkwX0_stub_2 ++ []
def dkwX0_stub_1 : List UInt8 := [154, 0, 6, 18, 194, 172, 42, 182, 0, 198, 42, 180, 0, 21, 27, 182, 0, 212, 42, 180, 0, 21]
abbrev dktX0_stub_1 : List UInt8 := dkwX0_stub_1 ++ dktX0_stub_2
def dkwX0_stub_0 : List UInt8 := [42, 27, 182, 0, 138, 154, 0, 6, 18, 142, 172, 42, 180, 0, 21, 180, 0, 125, 27, 184, 0, 204]
abbrev dktX0_stub_0 : List UInt8 := dkwX0_stub_0 ++ dktX0_stub_1
theorem dksX0_stub_0 : cX0_stub.data.toList.drop 0 = dktX0_stub_0 := by decide +kernel
theorem dksX0_stub_1 : cX0_stub.data.toList.drop 22 = dktX0_stub_1 := dk_seg dksX0_stub_0 22 rfl rfl
theorem dksX0_stub_2 : cX0_stub.data.toList.drop 44 = dktX0_stub_2 := dk_seg dksX0_stub_1 22 rfl rfl
theorem dX0_stub_0 : decode cX0_stub 0 = .ok (.aload_n 0, 1) := dk_42 (dk_at dksX0_stub_0 0 rfl rfl)
theorem dX0_stub_1 : decode cX0_stub 1 = .ok (.iload_n 1, 1) := dk_27 (dk_at dksX0_stub_0 1 rfl rfl)
theorem dX0_stub_2 : decode cX0_stub 2 = .ok (.invokevirtual 138, 3) := dk_182 0 138 (dk_at dksX0_stub_0 2 rfl rfl)
theorem dX0_stub_5 : decode cX0_stub 5 = .ok (.ifCond .ne 6, 3) := dk_154 0 6 (dk_at dksX0_stub_0 5 rfl rfl)
theorem dX0_stub_8 : decode cX0_stub 8 = .ok (.ldc 142, 2) := dk_18 142 (dk_at dksX0_stub_0 8 rfl rfl)
theorem dX0_stub_10 : decode cX0_stub 10 = .ok (.ireturn, 1) := dk_172 (dk_at dksX0_stub_0 10 rfl rfl)
theorem dX0_stub_11 : decode cX0_stub 11 = .ok (.aload_n 0, 1) := dk_42 (dk_at dksX0_stub_0 11 rfl rfl)
theorem dX0_stub_12 : decode cX0_stub 12 = .ok (.getfield 21, 3) := dk_180 0 21 (dk_at dksX0_stub_0 12 rfl rfl)
theorem dX0_stub_15 : decode cX0_stub 15 = .ok (.getfield 125, 3) := dk_180 0 125 (dk_at dksX0_stub_0 15 rfl rfl)
theorem dX0_stub_18 : decode cX0_stub 18 = .ok (.iload_n 1, 1) := dk_27 (dk_at dksX0_stub_0 18 rfl rfl)
theorem dX0_stub_19 : decode cX0_stub 19 = .ok (.invokestatic 204, 3) := dk_184 0 204 (dk_at dksX0_stub_0 19 rfl rfl)
theorem dX0_stub_22 : decode cX0_stub 22 = .ok (.ifCond .ne 6, 3) := dk_154 0 6 (dk_at dksX0_stub_1 0 rfl rfl)
theorem dX0_stub_25 : decode cX0_stub 25 = .ok (.ldc 194, 2) := dk_18 194 (dk_at dksX0_stub_1 3 rfl rfl)
theorem dX0_stub_27 : decode cX0_stub 27 = .ok (.ireturn, 1) := dk_172 (dk_at dksX0_stub_1 5 rfl rfl)
theorem dX0_stub_28 : decode cX0_stub 28 = .ok (.aload_n 0, 1) := dk_42 (dk_at dksX0_stub_1 6 rfl rfl)
theorem dX0_stub_29 : decode cX0_stub 29 = .ok (.invokevirtual 198, 3) := dk_182 0 198 (dk_at dksX0_stub_1 7 rfl rfl)
theorem dX0_stub_32 : decode cX0_stub 32 = .ok (.aload_n 0, 1) := dk_42 (dk_at dksX0_stub_1 10 rfl rfl)
theorem dX0_stub_33 : decode cX0_stub 33 = .ok (.getfield 21, 3) := dk_180 0 21 (dk_at dksX0_stub_1 11 rfl rfl)
theorem dX0_stub_36 : decode cX0_stub 36 = .ok (.iload_n 1, 1) := dk_27 (dk_at dksX0_stub_1 14 rfl rfl)
theorem dX0_stub_37 : decode cX0_stub 37 = .ok (.invokevirtual 212, 3) := dk_182 0 212 (dk_at dksX0_stub_1 15 rfl rfl)
theorem dX0_stub_40 : decode cX0_stub 40 = .ok (.aload_n 0, 1) := dk_42 (dk_at dksX0_stub_1 18 rfl rfl)
theorem dX0_stub_41 : decode cX0_stub 41 = .ok (.getfield 21, 3) := dk_180 0 21 (dk_at dksX0_stub_1 19 rfl rfl)
theorem dX0_stub_44 : decode cX0_stub 44 = .ok (.getfield 153, 3) := dk_180 0 153 (dk_at dksX0_stub_2 0 rfl rfl)
theorem dX0_stub_47 : decode cX0_stub 47 = .ok (.iload_n 1, 1) := dk_27 (dk_at dksX0_stub_2 3 rfl rfl)
theorem dX0_stub_48 : decode cX0_stub 48 = .ok (.iaload, 1) := dk_46 (dk_at dksX0_stub_2 4 rfl rfl)
theorem dX0_stub_49 : decode cX0_stub 49 = .ok (.ireturn, 1) := dk_172 (dk_at dksX0_stub_2 5 rfl rfl)
abbrev cX0_dies : ByteArray := prog_1_method_19_code
def yX0_dies : MethodName := ⟨RX0, "dies", "(I)I"⟩
def dkwX0_dies_2 : List UInt8 := [181, 0, 125, 42, 180, 0, 21, 27, 42, 180, 0, 21, 180, 0, 122, 182, 0, 156, 172]
abbrev dktX0_dies_2 : List UInt8 := dkwX0_dies_2 ++ []
def dkwX0_dies_1 : List UInt8 := [154, 0, 6, 18, 194, 172, 42, 182, 0, 198, 42, 180, 0, 21, 89, 180, 0, 125, 4, 27, 120, 2, 130, 126]
abbrev dktX0_dies_1 : List UInt8 := dkwX0_dies_1 ++ dktX0_dies_2
def dkwX0_dies_0 : List UInt8 := [42, 27, 182, 0, 138, 154, 0, 6, 18, 142, 172, 42, 180, 0, 21, 180, 0, 125, 27, 184, 0, 204]
abbrev dktX0_dies_0 : List UInt8 := dkwX0_dies_0 ++ dktX0_dies_1
theorem dksX0_dies_0 : cX0_dies.data.toList.drop 0 = dktX0_dies_0 := by decide +kernel
theorem dksX0_dies_1 : cX0_dies.data.toList.drop 22 = dktX0_dies_1 := dk_seg dksX0_dies_0 22 rfl rfl
theorem dksX0_dies_2 : cX0_dies.data.toList.drop 46 = dktX0_dies_2 := dk_seg dksX0_dies_1 24 rfl rfl
theorem dX0_dies_0 : decode cX0_dies 0 = .ok (.aload_n 0, 1) := dk_42 (dk_at dksX0_dies_0 0 rfl rfl)
theorem dX0_dies_1 : decode cX0_dies 1 = .ok (.iload_n 1, 1) := dk_27 (dk_at dksX0_dies_0 1 rfl rfl)
theorem dX0_dies_2 : decode cX0_dies 2 = .ok (.invokevirtual 138, 3) := dk_182 0 138 (dk_at dksX0_dies_0 2 rfl rfl)
theorem dX0_dies_5 : decode cX0_dies 5 = .ok (.ifCond .ne 6, 3) := dk_154 0 6 (dk_at dksX0_dies_0 5 rfl rfl)
theorem dX0_dies_8 : decode cX0_dies 8 = .ok (.ldc 142, 2) := dk_18 142 (dk_at dksX0_dies_0 8 rfl rfl)
theorem dX0_dies_10 : decode cX0_dies 10 = .ok (.ireturn, 1) := dk_172 (dk_at dksX0_dies_0 10 rfl rfl)
theorem dX0_dies_11 : decode cX0_dies 11 = .ok (.aload_n 0, 1) := dk_42 (dk_at dksX0_dies_0 11 rfl rfl)
theorem dX0_dies_12 : decode cX0_dies 12 = .ok (.getfield 21, 3) := dk_180 0 21 (dk_at dksX0_dies_0 12 rfl rfl)
theorem dX0_dies_15 : decode cX0_dies 15 = .ok (.getfield 125, 3) := dk_180 0 125 (dk_at dksX0_dies_0 15 rfl rfl)
theorem dX0_dies_18 : decode cX0_dies 18 = .ok (.iload_n 1, 1) := dk_27 (dk_at dksX0_dies_0 18 rfl rfl)
theorem dX0_dies_19 : decode cX0_dies 19 = .ok (.invokestatic 204, 3) := dk_184 0 204 (dk_at dksX0_dies_0 19 rfl rfl)
theorem dX0_dies_22 : decode cX0_dies 22 = .ok (.ifCond .ne 6, 3) := dk_154 0 6 (dk_at dksX0_dies_1 0 rfl rfl)
theorem dX0_dies_25 : decode cX0_dies 25 = .ok (.ldc 194, 2) := dk_18 194 (dk_at dksX0_dies_1 3 rfl rfl)
theorem dX0_dies_27 : decode cX0_dies 27 = .ok (.ireturn, 1) := dk_172 (dk_at dksX0_dies_1 5 rfl rfl)
theorem dX0_dies_28 : decode cX0_dies 28 = .ok (.aload_n 0, 1) := dk_42 (dk_at dksX0_dies_1 6 rfl rfl)
theorem dX0_dies_29 : decode cX0_dies 29 = .ok (.invokevirtual 198, 3) := dk_182 0 198 (dk_at dksX0_dies_1 7 rfl rfl)
theorem dX0_dies_32 : decode cX0_dies 32 = .ok (.aload_n 0, 1) := dk_42 (dk_at dksX0_dies_1 10 rfl rfl)
theorem dX0_dies_33 : decode cX0_dies 33 = .ok (.getfield 21, 3) := dk_180 0 21 (dk_at dksX0_dies_1 11 rfl rfl)
theorem dX0_dies_36 : decode cX0_dies 36 = .ok (.dup, 1) := dk_89 (dk_at dksX0_dies_1 14 rfl rfl)
theorem dX0_dies_37 : decode cX0_dies 37 = .ok (.getfield 125, 3) := dk_180 0 125 (dk_at dksX0_dies_1 15 rfl rfl)
theorem dX0_dies_40 : decode cX0_dies 40 = .ok (.iconst 1, 1) := dk_4 (dk_at dksX0_dies_1 18 rfl rfl)
theorem dX0_dies_41 : decode cX0_dies 41 = .ok (.iload_n 1, 1) := dk_27 (dk_at dksX0_dies_1 19 rfl rfl)
theorem dX0_dies_42 : decode cX0_dies 42 = .ok (.ishl, 1) := dk_120 (dk_at dksX0_dies_1 20 rfl rfl)
theorem dX0_dies_43 : decode cX0_dies 43 = .ok (.iconst (-1), 1) := dk_2 (dk_at dksX0_dies_1 21 rfl rfl)
theorem dX0_dies_44 : decode cX0_dies 44 = .ok (.ixor, 1) := dk_130 (dk_at dksX0_dies_1 22 rfl rfl)
theorem dX0_dies_45 : decode cX0_dies 45 = .ok (.iand, 1) := dk_126 (dk_at dksX0_dies_1 23 rfl rfl)
theorem dX0_dies_46 : decode cX0_dies 46 = .ok (.putfield 125, 3) := dk_181 0 125 (dk_at dksX0_dies_2 0 rfl rfl)
theorem dX0_dies_49 : decode cX0_dies 49 = .ok (.aload_n 0, 1) := dk_42 (dk_at dksX0_dies_2 3 rfl rfl)
theorem dX0_dies_50 : decode cX0_dies 50 = .ok (.getfield 21, 3) := dk_180 0 21 (dk_at dksX0_dies_2 4 rfl rfl)
theorem dX0_dies_53 : decode cX0_dies 53 = .ok (.iload_n 1, 1) := dk_27 (dk_at dksX0_dies_2 7 rfl rfl)
theorem dX0_dies_54 : decode cX0_dies 54 = .ok (.aload_n 0, 1) := dk_42 (dk_at dksX0_dies_2 8 rfl rfl)
theorem dX0_dies_55 : decode cX0_dies 55 = .ok (.getfield 21, 3) := dk_180 0 21 (dk_at dksX0_dies_2 9 rfl rfl)
theorem dX0_dies_58 : decode cX0_dies 58 = .ok (.getfield 122, 3) := dk_180 0 122 (dk_at dksX0_dies_2 12 rfl rfl)
theorem dX0_dies_61 : decode cX0_dies 61 = .ok (.invokevirtual 156, 3) := dk_182 0 156 (dk_at dksX0_dies_2 15 rfl rfl)
theorem dX0_dies_64 : decode cX0_dies 64 = .ok (.ireturn, 1) := dk_172 (dk_at dksX0_dies_2 18 rfl rfl)
abbrev cX0_copy : ByteArray := prog_1_method_20_code
def yX0_copy : MethodName := ⟨RX0, "copy", "(I)I"⟩
def dkwX0_copy_2 : List UInt8 := [180, 0, 21, 180, 0, 122, 182, 0, 216, 79, 42, 180, 0, 21, 180, 0, 116, 27, 46, 172]
abbrev dktX0_copy_2 : List UInt8 := dkwX0_copy_2 ++ []
def dkwX0_copy_1 : List UInt8 := [154, 0, 6, 18, 194, 172, 42, 182, 0, 198, 42, 180, 0, 21, 180, 0, 116, 27, 42, 180, 0, 21, 27, 42]
abbrev dktX0_copy_1 : List UInt8 := dkwX0_copy_1 ++ dktX0_copy_2
def dkwX0_copy_0 : List UInt8 := [42, 27, 182, 0, 138, 154, 0, 6, 18, 142, 172, 42, 180, 0, 21, 180, 0, 125, 27, 184, 0, 204]
abbrev dktX0_copy_0 : List UInt8 := dkwX0_copy_0 ++ dktX0_copy_1
theorem dksX0_copy_0 : cX0_copy.data.toList.drop 0 = dktX0_copy_0 := by decide +kernel
theorem dksX0_copy_1 : cX0_copy.data.toList.drop 22 = dktX0_copy_1 := dk_seg dksX0_copy_0 22 rfl rfl
theorem dksX0_copy_2 : cX0_copy.data.toList.drop 46 = dktX0_copy_2 := dk_seg dksX0_copy_1 24 rfl rfl
theorem dX0_copy_0 : decode cX0_copy 0 = .ok (.aload_n 0, 1) := dk_42 (dk_at dksX0_copy_0 0 rfl rfl)
theorem dX0_copy_1 : decode cX0_copy 1 = .ok (.iload_n 1, 1) := dk_27 (dk_at dksX0_copy_0 1 rfl rfl)
theorem dX0_copy_2 : decode cX0_copy 2 = .ok (.invokevirtual 138, 3) := dk_182 0 138 (dk_at dksX0_copy_0 2 rfl rfl)
theorem dX0_copy_5 : decode cX0_copy 5 = .ok (.ifCond .ne 6, 3) := dk_154 0 6 (dk_at dksX0_copy_0 5 rfl rfl)
theorem dX0_copy_8 : decode cX0_copy 8 = .ok (.ldc 142, 2) := dk_18 142 (dk_at dksX0_copy_0 8 rfl rfl)
theorem dX0_copy_10 : decode cX0_copy 10 = .ok (.ireturn, 1) := dk_172 (dk_at dksX0_copy_0 10 rfl rfl)
theorem dX0_copy_11 : decode cX0_copy 11 = .ok (.aload_n 0, 1) := dk_42 (dk_at dksX0_copy_0 11 rfl rfl)
theorem dX0_copy_12 : decode cX0_copy 12 = .ok (.getfield 21, 3) := dk_180 0 21 (dk_at dksX0_copy_0 12 rfl rfl)
theorem dX0_copy_15 : decode cX0_copy 15 = .ok (.getfield 125, 3) := dk_180 0 125 (dk_at dksX0_copy_0 15 rfl rfl)
theorem dX0_copy_18 : decode cX0_copy 18 = .ok (.iload_n 1, 1) := dk_27 (dk_at dksX0_copy_0 18 rfl rfl)
theorem dX0_copy_19 : decode cX0_copy 19 = .ok (.invokestatic 204, 3) := dk_184 0 204 (dk_at dksX0_copy_0 19 rfl rfl)
theorem dX0_copy_22 : decode cX0_copy 22 = .ok (.ifCond .ne 6, 3) := dk_154 0 6 (dk_at dksX0_copy_1 0 rfl rfl)
theorem dX0_copy_25 : decode cX0_copy 25 = .ok (.ldc 194, 2) := dk_18 194 (dk_at dksX0_copy_1 3 rfl rfl)
theorem dX0_copy_27 : decode cX0_copy 27 = .ok (.ireturn, 1) := dk_172 (dk_at dksX0_copy_1 5 rfl rfl)
theorem dX0_copy_28 : decode cX0_copy 28 = .ok (.aload_n 0, 1) := dk_42 (dk_at dksX0_copy_1 6 rfl rfl)
theorem dX0_copy_29 : decode cX0_copy 29 = .ok (.invokevirtual 198, 3) := dk_182 0 198 (dk_at dksX0_copy_1 7 rfl rfl)
theorem dX0_copy_32 : decode cX0_copy 32 = .ok (.aload_n 0, 1) := dk_42 (dk_at dksX0_copy_1 10 rfl rfl)
theorem dX0_copy_33 : decode cX0_copy 33 = .ok (.getfield 21, 3) := dk_180 0 21 (dk_at dksX0_copy_1 11 rfl rfl)
theorem dX0_copy_36 : decode cX0_copy 36 = .ok (.getfield 116, 3) := dk_180 0 116 (dk_at dksX0_copy_1 14 rfl rfl)
theorem dX0_copy_39 : decode cX0_copy 39 = .ok (.iload_n 1, 1) := dk_27 (dk_at dksX0_copy_1 17 rfl rfl)
theorem dX0_copy_40 : decode cX0_copy 40 = .ok (.aload_n 0, 1) := dk_42 (dk_at dksX0_copy_1 18 rfl rfl)
theorem dX0_copy_41 : decode cX0_copy 41 = .ok (.getfield 21, 3) := dk_180 0 21 (dk_at dksX0_copy_1 19 rfl rfl)
theorem dX0_copy_44 : decode cX0_copy 44 = .ok (.iload_n 1, 1) := dk_27 (dk_at dksX0_copy_1 22 rfl rfl)
theorem dX0_copy_45 : decode cX0_copy 45 = .ok (.aload_n 0, 1) := dk_42 (dk_at dksX0_copy_1 23 rfl rfl)
theorem dX0_copy_46 : decode cX0_copy 46 = .ok (.getfield 21, 3) := dk_180 0 21 (dk_at dksX0_copy_2 0 rfl rfl)
theorem dX0_copy_49 : decode cX0_copy 49 = .ok (.getfield 122, 3) := dk_180 0 122 (dk_at dksX0_copy_2 3 rfl rfl)
theorem dX0_copy_52 : decode cX0_copy 52 = .ok (.invokevirtual 216, 3) := dk_182 0 216 (dk_at dksX0_copy_2 6 rfl rfl)
theorem dX0_copy_55 : decode cX0_copy 55 = .ok (.iastore, 1) := dk_79 (dk_at dksX0_copy_2 9 rfl rfl)
theorem dX0_copy_56 : decode cX0_copy 56 = .ok (.aload_n 0, 1) := dk_42 (dk_at dksX0_copy_2 10 rfl rfl)
theorem dX0_copy_57 : decode cX0_copy 57 = .ok (.getfield 21, 3) := dk_180 0 21 (dk_at dksX0_copy_2 11 rfl rfl)
theorem dX0_copy_60 : decode cX0_copy 60 = .ok (.getfield 116, 3) := dk_180 0 116 (dk_at dksX0_copy_2 14 rfl rfl)
theorem dX0_copy_63 : decode cX0_copy 63 = .ok (.iload_n 1, 1) := dk_27 (dk_at dksX0_copy_2 17 rfl rfl)
theorem dX0_copy_64 : decode cX0_copy 64 = .ok (.iaload, 1) := dk_46 (dk_at dksX0_copy_2 18 rfl rfl)
theorem dX0_copy_65 : decode cX0_copy 65 = .ok (.ireturn, 1) := dk_172 (dk_at dksX0_copy_2 19 rfl rfl)
abbrev cX0_drift : ByteArray := prog_1_method_21_code
def yX0_drift : MethodName := ⟨RX0, "drift", "(I)I"⟩
def dkwX0_drift_1 : List UInt8 := [162, 0, 16, 42, 180, 0, 21, 182, 0, 219, 132, 2, 1, 167, 255, 241, 42, 180, 0, 21, 180, 0, 122, 172]
abbrev dktX0_drift_1 : List UInt8 := dkwX0_drift_1 ++ []
def dkwX0_drift_0 : List UInt8 := [42, 27, 182, 0, 195, 156, 0, 9, 42, 27, 182, 0, 195, 172, 42, 182, 0, 198, 3, 61, 28, 27]
abbrev dktX0_drift_0 : List UInt8 := dkwX0_drift_0 ++ dktX0_drift_1
theorem dksX0_drift_0 : cX0_drift.data.toList.drop 0 = dktX0_drift_0 := by decide +kernel
theorem dksX0_drift_1 : cX0_drift.data.toList.drop 22 = dktX0_drift_1 := dk_seg dksX0_drift_0 22 rfl rfl
theorem dX0_drift_0 : decode cX0_drift 0 = .ok (.aload_n 0, 1) := dk_42 (dk_at dksX0_drift_0 0 rfl rfl)
theorem dX0_drift_1 : decode cX0_drift 1 = .ok (.iload_n 1, 1) := dk_27 (dk_at dksX0_drift_0 1 rfl rfl)
theorem dX0_drift_2 : decode cX0_drift 2 = .ok (.invokevirtual 195, 3) := dk_182 0 195 (dk_at dksX0_drift_0 2 rfl rfl)
theorem dX0_drift_5 : decode cX0_drift 5 = .ok (.ifCond .ge 9, 3) := dk_156 0 9 (dk_at dksX0_drift_0 5 rfl rfl)
theorem dX0_drift_8 : decode cX0_drift 8 = .ok (.aload_n 0, 1) := dk_42 (dk_at dksX0_drift_0 8 rfl rfl)
theorem dX0_drift_9 : decode cX0_drift 9 = .ok (.iload_n 1, 1) := dk_27 (dk_at dksX0_drift_0 9 rfl rfl)
theorem dX0_drift_10 : decode cX0_drift 10 = .ok (.invokevirtual 195, 3) := dk_182 0 195 (dk_at dksX0_drift_0 10 rfl rfl)
theorem dX0_drift_13 : decode cX0_drift 13 = .ok (.ireturn, 1) := dk_172 (dk_at dksX0_drift_0 13 rfl rfl)
theorem dX0_drift_14 : decode cX0_drift 14 = .ok (.aload_n 0, 1) := dk_42 (dk_at dksX0_drift_0 14 rfl rfl)
theorem dX0_drift_15 : decode cX0_drift 15 = .ok (.invokevirtual 198, 3) := dk_182 0 198 (dk_at dksX0_drift_0 15 rfl rfl)
theorem dX0_drift_18 : decode cX0_drift 18 = .ok (.iconst 0, 1) := dk_3 (dk_at dksX0_drift_0 18 rfl rfl)
theorem dX0_drift_19 : decode cX0_drift 19 = .ok (.istore_n 2, 1) := dk_61 (dk_at dksX0_drift_0 19 rfl rfl)
theorem dX0_drift_20 : decode cX0_drift 20 = .ok (.iload_n 2, 1) := dk_28 (dk_at dksX0_drift_0 20 rfl rfl)
theorem dX0_drift_21 : decode cX0_drift 21 = .ok (.iload_n 1, 1) := dk_27 (dk_at dksX0_drift_0 21 rfl rfl)
theorem dX0_drift_22 : decode cX0_drift 22 = .ok (.if_icmp .ge 16, 3) := dk_162 0 16 (dk_at dksX0_drift_1 0 rfl rfl)
theorem dX0_drift_25 : decode cX0_drift 25 = .ok (.aload_n 0, 1) := dk_42 (dk_at dksX0_drift_1 3 rfl rfl)
theorem dX0_drift_26 : decode cX0_drift 26 = .ok (.getfield 21, 3) := dk_180 0 21 (dk_at dksX0_drift_1 4 rfl rfl)
theorem dX0_drift_29 : decode cX0_drift 29 = .ok (.invokevirtual 219, 3) := dk_182 0 219 (dk_at dksX0_drift_1 7 rfl rfl)
theorem dX0_drift_32 : decode cX0_drift 32 = .ok (.iinc 2 1, 3) := dk_132 2 1 (dk_at dksX0_drift_1 10 rfl rfl)
theorem dX0_drift_35 : decode cX0_drift 35 = .ok (.goto (-15), 3) := dk_167 255 241 (dk_at dksX0_drift_1 13 rfl rfl)
theorem dX0_drift_38 : decode cX0_drift 38 = .ok (.aload_n 0, 1) := dk_42 (dk_at dksX0_drift_1 16 rfl rfl)
theorem dX0_drift_39 : decode cX0_drift 39 = .ok (.getfield 21, 3) := dk_180 0 21 (dk_at dksX0_drift_1 17 rfl rfl)
theorem dX0_drift_42 : decode cX0_drift 42 = .ok (.getfield 122, 3) := dk_180 0 122 (dk_at dksX0_drift_1 20 rfl rfl)
theorem dX0_drift_45 : decode cX0_drift 45 = .ok (.ireturn, 1) := dk_172 (dk_at dksX0_drift_1 23 rfl rfl)
abbrev cX0_undo : ByteArray := prog_1_method_22_code
def yX0_undo : MethodName := ⟨RX0, "undo", "()I"⟩
def dkwX0_undo_2 : List UInt8 := [27, 181, 0, 222, 42, 180, 0, 97, 172]
abbrev dktX0_undo_2 : List UInt8 := dkwX0_undo_2 ++ []
def dkwX0_undo_1 : List UInt8 := [180, 0, 222, 60, 42, 180, 0, 21, 42, 180, 0, 25, 42, 180, 0, 97, 50, 182, 0, 190, 42, 180, 0, 21]
abbrev dktX0_undo_1 : List UInt8 := dkwX0_undo_1 ++ dktX0_undo_2
def dkwX0_undo_0 : List UInt8 := [42, 180, 0, 97, 154, 0, 6, 18, 194, 172, 42, 89, 180, 0, 97, 4, 100, 181, 0, 97, 42, 180, 0, 21]
abbrev dktX0_undo_0 : List UInt8 := dkwX0_undo_0 ++ dktX0_undo_1
theorem dksX0_undo_0 : cX0_undo.data.toList.drop 0 = dktX0_undo_0 := by decide +kernel
theorem dksX0_undo_1 : cX0_undo.data.toList.drop 24 = dktX0_undo_1 := dk_seg dksX0_undo_0 24 rfl rfl
theorem dksX0_undo_2 : cX0_undo.data.toList.drop 48 = dktX0_undo_2 := dk_seg dksX0_undo_1 24 rfl rfl
theorem dX0_undo_0 : decode cX0_undo 0 = .ok (.aload_n 0, 1) := dk_42 (dk_at dksX0_undo_0 0 rfl rfl)
theorem dX0_undo_1 : decode cX0_undo 1 = .ok (.getfield 97, 3) := dk_180 0 97 (dk_at dksX0_undo_0 1 rfl rfl)
theorem dX0_undo_4 : decode cX0_undo 4 = .ok (.ifCond .ne 6, 3) := dk_154 0 6 (dk_at dksX0_undo_0 4 rfl rfl)
theorem dX0_undo_7 : decode cX0_undo 7 = .ok (.ldc 194, 2) := dk_18 194 (dk_at dksX0_undo_0 7 rfl rfl)
theorem dX0_undo_9 : decode cX0_undo 9 = .ok (.ireturn, 1) := dk_172 (dk_at dksX0_undo_0 9 rfl rfl)
theorem dX0_undo_10 : decode cX0_undo 10 = .ok (.aload_n 0, 1) := dk_42 (dk_at dksX0_undo_0 10 rfl rfl)
theorem dX0_undo_11 : decode cX0_undo 11 = .ok (.dup, 1) := dk_89 (dk_at dksX0_undo_0 11 rfl rfl)
theorem dX0_undo_12 : decode cX0_undo 12 = .ok (.getfield 97, 3) := dk_180 0 97 (dk_at dksX0_undo_0 12 rfl rfl)
theorem dX0_undo_15 : decode cX0_undo 15 = .ok (.iconst 1, 1) := dk_4 (dk_at dksX0_undo_0 15 rfl rfl)
theorem dX0_undo_16 : decode cX0_undo 16 = .ok (.isub, 1) := dk_100 (dk_at dksX0_undo_0 16 rfl rfl)
theorem dX0_undo_17 : decode cX0_undo 17 = .ok (.putfield 97, 3) := dk_181 0 97 (dk_at dksX0_undo_0 17 rfl rfl)
theorem dX0_undo_20 : decode cX0_undo 20 = .ok (.aload_n 0, 1) := dk_42 (dk_at dksX0_undo_0 20 rfl rfl)
theorem dX0_undo_21 : decode cX0_undo 21 = .ok (.getfield 21, 3) := dk_180 0 21 (dk_at dksX0_undo_0 21 rfl rfl)
theorem dX0_undo_24 : decode cX0_undo 24 = .ok (.getfield 222, 3) := dk_180 0 222 (dk_at dksX0_undo_1 0 rfl rfl)
theorem dX0_undo_27 : decode cX0_undo 27 = .ok (.istore_n 1, 1) := dk_60 (dk_at dksX0_undo_1 3 rfl rfl)
theorem dX0_undo_28 : decode cX0_undo 28 = .ok (.aload_n 0, 1) := dk_42 (dk_at dksX0_undo_1 4 rfl rfl)
theorem dX0_undo_29 : decode cX0_undo 29 = .ok (.getfield 21, 3) := dk_180 0 21 (dk_at dksX0_undo_1 5 rfl rfl)
theorem dX0_undo_32 : decode cX0_undo 32 = .ok (.aload_n 0, 1) := dk_42 (dk_at dksX0_undo_1 8 rfl rfl)
theorem dX0_undo_33 : decode cX0_undo 33 = .ok (.getfield 25, 3) := dk_180 0 25 (dk_at dksX0_undo_1 9 rfl rfl)
theorem dX0_undo_36 : decode cX0_undo 36 = .ok (.aload_n 0, 1) := dk_42 (dk_at dksX0_undo_1 12 rfl rfl)
theorem dX0_undo_37 : decode cX0_undo 37 = .ok (.getfield 97, 3) := dk_180 0 97 (dk_at dksX0_undo_1 13 rfl rfl)
theorem dX0_undo_40 : decode cX0_undo 40 = .ok (.aaload, 1) := dk_50 (dk_at dksX0_undo_1 16 rfl rfl)
theorem dX0_undo_41 : decode cX0_undo 41 = .ok (.invokevirtual 190, 3) := dk_182 0 190 (dk_at dksX0_undo_1 17 rfl rfl)
theorem dX0_undo_44 : decode cX0_undo 44 = .ok (.aload_n 0, 1) := dk_42 (dk_at dksX0_undo_1 20 rfl rfl)
theorem dX0_undo_45 : decode cX0_undo 45 = .ok (.getfield 21, 3) := dk_180 0 21 (dk_at dksX0_undo_1 21 rfl rfl)
theorem dX0_undo_48 : decode cX0_undo 48 = .ok (.iload_n 1, 1) := dk_27 (dk_at dksX0_undo_2 0 rfl rfl)
theorem dX0_undo_49 : decode cX0_undo 49 = .ok (.putfield 222, 3) := dk_181 0 222 (dk_at dksX0_undo_2 1 rfl rfl)
theorem dX0_undo_52 : decode cX0_undo 52 = .ok (.aload_n 0, 1) := dk_42 (dk_at dksX0_undo_2 4 rfl rfl)
theorem dX0_undo_53 : decode cX0_undo 53 = .ok (.getfield 97, 3) := dk_180 0 97 (dk_at dksX0_undo_2 5 rfl rfl)
theorem dX0_undo_56 : decode cX0_undo 56 = .ok (.ireturn, 1) := dk_172 (dk_at dksX0_undo_2 8 rfl rfl)
abbrev cX0_firstNought : ByteArray := prog_1_method_23_code
def yX0_firstNought : MethodName := ⟨RX0, "firstNought", "()I"⟩
def dkwX0_firstNought_4 : List UInt8 := [162, 0, 7, 28, 167, 0, 4, 27, 60, 132, 2, 1, 167, 255, 153, 27, 172]
abbrev dktX0_firstNought_4 : List UInt8 := dkwX0_firstNought_4 ++ []
def dkwX0_firstNought_3 : List UInt8 := [27, 2, 159, 0, 24, 42, 180, 0, 10, 180, 0, 166, 28, 46, 42, 180, 0, 10, 180, 0, 166, 27, 46]
abbrev dktX0_firstNought_3 : List UInt8 := dkwX0_firstNought_3 ++ dktX0_firstNought_4
def dkwX0_firstNought_2 : List UInt8 := [180, 0, 10, 180, 0, 166, 28, 46, 182, 0, 156, 154, 0, 7, 4, 167, 0, 4, 3, 62, 29, 153, 0, 33]
abbrev dktX0_firstNought_2 : List UInt8 := dkwX0_firstNought_2 ++ dktX0_firstNought_3
def dkwX0_firstNought_1 : List UInt8 := [42, 180, 0, 21, 180, 0, 122, 161, 0, 35, 42, 180, 0, 21, 42, 180, 0, 10, 180, 0, 169, 28, 46, 42]
abbrev dktX0_firstNought_1 : List UInt8 := dkwX0_firstNought_1 ++ dktX0_firstNought_2
def dkwX0_firstNought_0 : List UInt8 := [2, 60, 3, 61, 28, 42, 180, 0, 10, 180, 0, 113, 162, 0, 98, 42, 180, 0, 10, 180, 0, 166, 28, 46]
abbrev dktX0_firstNought_0 : List UInt8 := dkwX0_firstNought_0 ++ dktX0_firstNought_1
theorem dksX0_firstNought_0 : cX0_firstNought.data.toList.drop 0 = dktX0_firstNought_0 := by decide +kernel
theorem dksX0_firstNought_1 : cX0_firstNought.data.toList.drop 24 = dktX0_firstNought_1 := dk_seg dksX0_firstNought_0 24 rfl rfl
theorem dksX0_firstNought_2 : cX0_firstNought.data.toList.drop 48 = dktX0_firstNought_2 := dk_seg dksX0_firstNought_1 24 rfl rfl
theorem dksX0_firstNought_3 : cX0_firstNought.data.toList.drop 72 = dktX0_firstNought_3 := dk_seg dksX0_firstNought_2 24 rfl rfl
theorem dksX0_firstNought_4 : cX0_firstNought.data.toList.drop 95 = dktX0_firstNought_4 := dk_seg dksX0_firstNought_3 23 rfl rfl
theorem dX0_firstNought_0 : decode cX0_firstNought 0 = .ok (.iconst (-1), 1) := dk_2 (dk_at dksX0_firstNought_0 0 rfl rfl)
theorem dX0_firstNought_1 : decode cX0_firstNought 1 = .ok (.istore_n 1, 1) := dk_60 (dk_at dksX0_firstNought_0 1 rfl rfl)
theorem dX0_firstNought_2 : decode cX0_firstNought 2 = .ok (.iconst 0, 1) := dk_3 (dk_at dksX0_firstNought_0 2 rfl rfl)
theorem dX0_firstNought_3 : decode cX0_firstNought 3 = .ok (.istore_n 2, 1) := dk_61 (dk_at dksX0_firstNought_0 3 rfl rfl)
theorem dX0_firstNought_4 : decode cX0_firstNought 4 = .ok (.iload_n 2, 1) := dk_28 (dk_at dksX0_firstNought_0 4 rfl rfl)
theorem dX0_firstNought_5 : decode cX0_firstNought 5 = .ok (.aload_n 0, 1) := dk_42 (dk_at dksX0_firstNought_0 5 rfl rfl)
theorem dX0_firstNought_6 : decode cX0_firstNought 6 = .ok (.getfield 10, 3) := dk_180 0 10 (dk_at dksX0_firstNought_0 6 rfl rfl)
theorem dX0_firstNought_9 : decode cX0_firstNought 9 = .ok (.getfield 113, 3) := dk_180 0 113 (dk_at dksX0_firstNought_0 9 rfl rfl)
theorem dX0_firstNought_12 : decode cX0_firstNought 12 = .ok (.if_icmp .ge 98, 3) := dk_162 0 98 (dk_at dksX0_firstNought_0 12 rfl rfl)
theorem dX0_firstNought_15 : decode cX0_firstNought 15 = .ok (.aload_n 0, 1) := dk_42 (dk_at dksX0_firstNought_0 15 rfl rfl)
theorem dX0_firstNought_16 : decode cX0_firstNought 16 = .ok (.getfield 10, 3) := dk_180 0 10 (dk_at dksX0_firstNought_0 16 rfl rfl)
theorem dX0_firstNought_19 : decode cX0_firstNought 19 = .ok (.getfield 166, 3) := dk_180 0 166 (dk_at dksX0_firstNought_0 19 rfl rfl)
theorem dX0_firstNought_22 : decode cX0_firstNought 22 = .ok (.iload_n 2, 1) := dk_28 (dk_at dksX0_firstNought_0 22 rfl rfl)
theorem dX0_firstNought_23 : decode cX0_firstNought 23 = .ok (.iaload, 1) := dk_46 (dk_at dksX0_firstNought_0 23 rfl rfl)
theorem dX0_firstNought_24 : decode cX0_firstNought 24 = .ok (.aload_n 0, 1) := dk_42 (dk_at dksX0_firstNought_1 0 rfl rfl)
theorem dX0_firstNought_25 : decode cX0_firstNought 25 = .ok (.getfield 21, 3) := dk_180 0 21 (dk_at dksX0_firstNought_1 1 rfl rfl)
theorem dX0_firstNought_28 : decode cX0_firstNought 28 = .ok (.getfield 122, 3) := dk_180 0 122 (dk_at dksX0_firstNought_1 4 rfl rfl)
theorem dX0_firstNought_31 : decode cX0_firstNought 31 = .ok (.if_icmp .lt 35, 3) := dk_161 0 35 (dk_at dksX0_firstNought_1 7 rfl rfl)
theorem dX0_firstNought_34 : decode cX0_firstNought 34 = .ok (.aload_n 0, 1) := dk_42 (dk_at dksX0_firstNought_1 10 rfl rfl)
theorem dX0_firstNought_35 : decode cX0_firstNought 35 = .ok (.getfield 21, 3) := dk_180 0 21 (dk_at dksX0_firstNought_1 11 rfl rfl)
theorem dX0_firstNought_38 : decode cX0_firstNought 38 = .ok (.aload_n 0, 1) := dk_42 (dk_at dksX0_firstNought_1 14 rfl rfl)
theorem dX0_firstNought_39 : decode cX0_firstNought 39 = .ok (.getfield 10, 3) := dk_180 0 10 (dk_at dksX0_firstNought_1 15 rfl rfl)
theorem dX0_firstNought_42 : decode cX0_firstNought 42 = .ok (.getfield 169, 3) := dk_180 0 169 (dk_at dksX0_firstNought_1 18 rfl rfl)
theorem dX0_firstNought_45 : decode cX0_firstNought 45 = .ok (.iload_n 2, 1) := dk_28 (dk_at dksX0_firstNought_1 21 rfl rfl)
theorem dX0_firstNought_46 : decode cX0_firstNought 46 = .ok (.iaload, 1) := dk_46 (dk_at dksX0_firstNought_1 22 rfl rfl)
theorem dX0_firstNought_47 : decode cX0_firstNought 47 = .ok (.aload_n 0, 1) := dk_42 (dk_at dksX0_firstNought_1 23 rfl rfl)
theorem dX0_firstNought_48 : decode cX0_firstNought 48 = .ok (.getfield 10, 3) := dk_180 0 10 (dk_at dksX0_firstNought_2 0 rfl rfl)
theorem dX0_firstNought_51 : decode cX0_firstNought 51 = .ok (.getfield 166, 3) := dk_180 0 166 (dk_at dksX0_firstNought_2 3 rfl rfl)
theorem dX0_firstNought_54 : decode cX0_firstNought 54 = .ok (.iload_n 2, 1) := dk_28 (dk_at dksX0_firstNought_2 6 rfl rfl)
theorem dX0_firstNought_55 : decode cX0_firstNought 55 = .ok (.iaload, 1) := dk_46 (dk_at dksX0_firstNought_2 7 rfl rfl)
theorem dX0_firstNought_56 : decode cX0_firstNought 56 = .ok (.invokevirtual 156, 3) := dk_182 0 156 (dk_at dksX0_firstNought_2 8 rfl rfl)
theorem dX0_firstNought_59 : decode cX0_firstNought 59 = .ok (.ifCond .ne 7, 3) := dk_154 0 7 (dk_at dksX0_firstNought_2 11 rfl rfl)
theorem dX0_firstNought_62 : decode cX0_firstNought 62 = .ok (.iconst 1, 1) := dk_4 (dk_at dksX0_firstNought_2 14 rfl rfl)
theorem dX0_firstNought_63 : decode cX0_firstNought 63 = .ok (.goto 4, 3) := dk_167 0 4 (dk_at dksX0_firstNought_2 15 rfl rfl)
theorem dX0_firstNought_66 : decode cX0_firstNought 66 = .ok (.iconst 0, 1) := dk_3 (dk_at dksX0_firstNought_2 18 rfl rfl)
theorem dX0_firstNought_67 : decode cX0_firstNought 67 = .ok (.istore_n 3, 1) := dk_62 (dk_at dksX0_firstNought_2 19 rfl rfl)
theorem dX0_firstNought_68 : decode cX0_firstNought 68 = .ok (.iload_n 3, 1) := dk_29 (dk_at dksX0_firstNought_2 20 rfl rfl)
theorem dX0_firstNought_69 : decode cX0_firstNought 69 = .ok (.ifCond .eq 33, 3) := dk_153 0 33 (dk_at dksX0_firstNought_2 21 rfl rfl)
theorem dX0_firstNought_72 : decode cX0_firstNought 72 = .ok (.iload_n 1, 1) := dk_27 (dk_at dksX0_firstNought_3 0 rfl rfl)
theorem dX0_firstNought_73 : decode cX0_firstNought 73 = .ok (.iconst (-1), 1) := dk_2 (dk_at dksX0_firstNought_3 1 rfl rfl)
theorem dX0_firstNought_74 : decode cX0_firstNought 74 = .ok (.if_icmp .eq 24, 3) := dk_159 0 24 (dk_at dksX0_firstNought_3 2 rfl rfl)
theorem dX0_firstNought_77 : decode cX0_firstNought 77 = .ok (.aload_n 0, 1) := dk_42 (dk_at dksX0_firstNought_3 5 rfl rfl)
theorem dX0_firstNought_78 : decode cX0_firstNought 78 = .ok (.getfield 10, 3) := dk_180 0 10 (dk_at dksX0_firstNought_3 6 rfl rfl)
theorem dX0_firstNought_81 : decode cX0_firstNought 81 = .ok (.getfield 166, 3) := dk_180 0 166 (dk_at dksX0_firstNought_3 9 rfl rfl)
theorem dX0_firstNought_84 : decode cX0_firstNought 84 = .ok (.iload_n 2, 1) := dk_28 (dk_at dksX0_firstNought_3 12 rfl rfl)
theorem dX0_firstNought_85 : decode cX0_firstNought 85 = .ok (.iaload, 1) := dk_46 (dk_at dksX0_firstNought_3 13 rfl rfl)
theorem dX0_firstNought_86 : decode cX0_firstNought 86 = .ok (.aload_n 0, 1) := dk_42 (dk_at dksX0_firstNought_3 14 rfl rfl)
theorem dX0_firstNought_87 : decode cX0_firstNought 87 = .ok (.getfield 10, 3) := dk_180 0 10 (dk_at dksX0_firstNought_3 15 rfl rfl)
theorem dX0_firstNought_90 : decode cX0_firstNought 90 = .ok (.getfield 166, 3) := dk_180 0 166 (dk_at dksX0_firstNought_3 18 rfl rfl)
theorem dX0_firstNought_93 : decode cX0_firstNought 93 = .ok (.iload_n 1, 1) := dk_27 (dk_at dksX0_firstNought_3 21 rfl rfl)
theorem dX0_firstNought_94 : decode cX0_firstNought 94 = .ok (.iaload, 1) := dk_46 (dk_at dksX0_firstNought_3 22 rfl rfl)
theorem dX0_firstNought_95 : decode cX0_firstNought 95 = .ok (.if_icmp .ge 7, 3) := dk_162 0 7 (dk_at dksX0_firstNought_4 0 rfl rfl)
theorem dX0_firstNought_98 : decode cX0_firstNought 98 = .ok (.iload_n 2, 1) := dk_28 (dk_at dksX0_firstNought_4 3 rfl rfl)
theorem dX0_firstNought_99 : decode cX0_firstNought 99 = .ok (.goto 4, 3) := dk_167 0 4 (dk_at dksX0_firstNought_4 4 rfl rfl)
theorem dX0_firstNought_102 : decode cX0_firstNought 102 = .ok (.iload_n 1, 1) := dk_27 (dk_at dksX0_firstNought_4 7 rfl rfl)
theorem dX0_firstNought_103 : decode cX0_firstNought 103 = .ok (.istore_n 1, 1) := dk_60 (dk_at dksX0_firstNought_4 8 rfl rfl)
theorem dX0_firstNought_104 : decode cX0_firstNought 104 = .ok (.iinc 2 1, 3) := dk_132 2 1 (dk_at dksX0_firstNought_4 9 rfl rfl)
theorem dX0_firstNought_107 : decode cX0_firstNought 107 = .ok (.goto (-103), 3) := dk_167 255 153 (dk_at dksX0_firstNought_4 12 rfl rfl)
theorem dX0_firstNought_110 : decode cX0_firstNought 110 = .ok (.iload_n 1, 1) := dk_27 (dk_at dksX0_firstNought_4 15 rfl rfl)
theorem dX0_firstNought_111 : decode cX0_firstNought 111 = .ok (.ireturn, 1) := dk_172 (dk_at dksX0_firstNought_4 16 rfl rfl)
abbrev cX0_means : ByteArray := prog_1_method_24_code
def yX0_means : MethodName := ⟨RX0, "means", "(II)I"⟩
def dkwX0_means_2 : List UInt8 := [182, 0, 156, 104, 167, 0, 5, 18, 75, 172]
abbrev dktX0_means_2 : List UInt8 := dkwX0_means_2 ++ []
def dkwX0_means_1 : List UInt8 := [180, 0, 10, 180, 0, 172, 27, 46, 42, 180, 0, 21, 42, 180, 0, 10, 180, 0, 169, 27, 46, 28]
abbrev dktX0_means_1 : List UInt8 := dkwX0_means_1 ++ dktX0_means_2
def dkwX0_means_0 : List UInt8 := [42, 27, 182, 0, 163, 154, 0, 6, 18, 142, 172, 28, 3, 16, 99, 184, 0, 71, 153, 0, 33, 42]
abbrev dktX0_means_0 : List UInt8 := dkwX0_means_0 ++ dktX0_means_1
theorem dksX0_means_0 : cX0_means.data.toList.drop 0 = dktX0_means_0 := by decide +kernel
theorem dksX0_means_1 : cX0_means.data.toList.drop 22 = dktX0_means_1 := dk_seg dksX0_means_0 22 rfl rfl
theorem dksX0_means_2 : cX0_means.data.toList.drop 44 = dktX0_means_2 := dk_seg dksX0_means_1 22 rfl rfl
theorem dX0_means_0 : decode cX0_means 0 = .ok (.aload_n 0, 1) := dk_42 (dk_at dksX0_means_0 0 rfl rfl)
theorem dX0_means_1 : decode cX0_means 1 = .ok (.iload_n 1, 1) := dk_27 (dk_at dksX0_means_0 1 rfl rfl)
theorem dX0_means_2 : decode cX0_means 2 = .ok (.invokevirtual 163, 3) := dk_182 0 163 (dk_at dksX0_means_0 2 rfl rfl)
theorem dX0_means_5 : decode cX0_means 5 = .ok (.ifCond .ne 6, 3) := dk_154 0 6 (dk_at dksX0_means_0 5 rfl rfl)
theorem dX0_means_8 : decode cX0_means 8 = .ok (.ldc 142, 2) := dk_18 142 (dk_at dksX0_means_0 8 rfl rfl)
theorem dX0_means_10 : decode cX0_means 10 = .ok (.ireturn, 1) := dk_172 (dk_at dksX0_means_0 10 rfl rfl)
theorem dX0_means_11 : decode cX0_means 11 = .ok (.iload_n 2, 1) := dk_28 (dk_at dksX0_means_0 11 rfl rfl)
theorem dX0_means_12 : decode cX0_means 12 = .ok (.iconst 0, 1) := dk_3 (dk_at dksX0_means_0 12 rfl rfl)
theorem dX0_means_13 : decode cX0_means 13 = .ok (.bipush 99, 2) := dk_16 99 (dk_at dksX0_means_0 13 rfl rfl)
theorem dX0_means_15 : decode cX0_means 15 = .ok (.invokestatic 71, 3) := dk_184 0 71 (dk_at dksX0_means_0 15 rfl rfl)
theorem dX0_means_18 : decode cX0_means 18 = .ok (.ifCond .eq 33, 3) := dk_153 0 33 (dk_at dksX0_means_0 18 rfl rfl)
theorem dX0_means_21 : decode cX0_means 21 = .ok (.aload_n 0, 1) := dk_42 (dk_at dksX0_means_0 21 rfl rfl)
theorem dX0_means_22 : decode cX0_means 22 = .ok (.getfield 10, 3) := dk_180 0 10 (dk_at dksX0_means_1 0 rfl rfl)
theorem dX0_means_25 : decode cX0_means 25 = .ok (.getfield 172, 3) := dk_180 0 172 (dk_at dksX0_means_1 3 rfl rfl)
theorem dX0_means_28 : decode cX0_means 28 = .ok (.iload_n 1, 1) := dk_27 (dk_at dksX0_means_1 6 rfl rfl)
theorem dX0_means_29 : decode cX0_means 29 = .ok (.iaload, 1) := dk_46 (dk_at dksX0_means_1 7 rfl rfl)
theorem dX0_means_30 : decode cX0_means 30 = .ok (.aload_n 0, 1) := dk_42 (dk_at dksX0_means_1 8 rfl rfl)
theorem dX0_means_31 : decode cX0_means 31 = .ok (.getfield 21, 3) := dk_180 0 21 (dk_at dksX0_means_1 9 rfl rfl)
theorem dX0_means_34 : decode cX0_means 34 = .ok (.aload_n 0, 1) := dk_42 (dk_at dksX0_means_1 12 rfl rfl)
theorem dX0_means_35 : decode cX0_means 35 = .ok (.getfield 10, 3) := dk_180 0 10 (dk_at dksX0_means_1 13 rfl rfl)
theorem dX0_means_38 : decode cX0_means 38 = .ok (.getfield 169, 3) := dk_180 0 169 (dk_at dksX0_means_1 16 rfl rfl)
theorem dX0_means_41 : decode cX0_means 41 = .ok (.iload_n 1, 1) := dk_27 (dk_at dksX0_means_1 19 rfl rfl)
theorem dX0_means_42 : decode cX0_means 42 = .ok (.iaload, 1) := dk_46 (dk_at dksX0_means_1 20 rfl rfl)
theorem dX0_means_43 : decode cX0_means 43 = .ok (.iload_n 2, 1) := dk_28 (dk_at dksX0_means_1 21 rfl rfl)
theorem dX0_means_44 : decode cX0_means 44 = .ok (.invokevirtual 156, 3) := dk_182 0 156 (dk_at dksX0_means_2 0 rfl rfl)
theorem dX0_means_47 : decode cX0_means 47 = .ok (.imul, 1) := dk_104 (dk_at dksX0_means_2 3 rfl rfl)
theorem dX0_means_48 : decode cX0_means 48 = .ok (.goto 5, 3) := dk_167 0 5 (dk_at dksX0_means_2 4 rfl rfl)
theorem dX0_means_51 : decode cX0_means 51 = .ok (.ldc 75, 2) := dk_18 75 (dk_at dksX0_means_2 7 rfl rfl)
theorem dX0_means_53 : decode cX0_means 53 = .ok (.ireturn, 1) := dk_172 (dk_at dksX0_means_2 9 rfl rfl)
abbrev cX0_basket : ByteArray := prog_1_method_27_code
def yX0_basket : MethodName := ⟨RX0, "basket", "(I)I"⟩
def dkwX0_basket_3 : List UInt8 := [180, 0, 53, 27, 46, 172]
abbrev dktX0_basket_3 : List UInt8 := dkwX0_basket_3 ++ []
def dkwX0_basket_2 : List UInt8 := [18, 251, 160, 0, 7, 2, 167, 0, 21, 27, 2, 160, 0, 10, 42, 180, 0, 229, 167, 0, 9, 42]
abbrev dktX0_basket_2 : List UInt8 := dkwX0_basket_2 ++ dktX0_basket_3
def dkwX0_basket_1 : List UInt8 := [42, 18, 251, 181, 0, 229, 42, 18, 251, 181, 0, 232, 42, 3, 3, 3, 182, 0, 241, 42, 180, 0, 229]
abbrev dktX0_basket_1 : List UInt8 := dkwX0_basket_1 ++ dktX0_basket_2
def dkwX0_basket_0 : List UInt8 := [27, 2, 159, 0, 14, 42, 27, 182, 0, 138, 154, 0, 6, 18, 142, 172, 42, 180, 0, 50, 3, 184, 0, 245]
abbrev dktX0_basket_0 : List UInt8 := dkwX0_basket_0 ++ dktX0_basket_1
theorem dksX0_basket_0 : cX0_basket.data.toList.drop 0 = dktX0_basket_0 := by decide +kernel
theorem dksX0_basket_1 : cX0_basket.data.toList.drop 24 = dktX0_basket_1 := dk_seg dksX0_basket_0 24 rfl rfl
theorem dksX0_basket_2 : cX0_basket.data.toList.drop 47 = dktX0_basket_2 := dk_seg dksX0_basket_1 23 rfl rfl
theorem dksX0_basket_3 : cX0_basket.data.toList.drop 69 = dktX0_basket_3 := dk_seg dksX0_basket_2 22 rfl rfl
theorem dX0_basket_0 : decode cX0_basket 0 = .ok (.iload_n 1, 1) := dk_27 (dk_at dksX0_basket_0 0 rfl rfl)
theorem dX0_basket_1 : decode cX0_basket 1 = .ok (.iconst (-1), 1) := dk_2 (dk_at dksX0_basket_0 1 rfl rfl)
theorem dX0_basket_2 : decode cX0_basket 2 = .ok (.if_icmp .eq 14, 3) := dk_159 0 14 (dk_at dksX0_basket_0 2 rfl rfl)
theorem dX0_basket_5 : decode cX0_basket 5 = .ok (.aload_n 0, 1) := dk_42 (dk_at dksX0_basket_0 5 rfl rfl)
theorem dX0_basket_6 : decode cX0_basket 6 = .ok (.iload_n 1, 1) := dk_27 (dk_at dksX0_basket_0 6 rfl rfl)
theorem dX0_basket_7 : decode cX0_basket 7 = .ok (.invokevirtual 138, 3) := dk_182 0 138 (dk_at dksX0_basket_0 7 rfl rfl)
theorem dX0_basket_10 : decode cX0_basket 10 = .ok (.ifCond .ne 6, 3) := dk_154 0 6 (dk_at dksX0_basket_0 10 rfl rfl)
theorem dX0_basket_13 : decode cX0_basket 13 = .ok (.ldc 142, 2) := dk_18 142 (dk_at dksX0_basket_0 13 rfl rfl)
theorem dX0_basket_15 : decode cX0_basket 15 = .ok (.ireturn, 1) := dk_172 (dk_at dksX0_basket_0 15 rfl rfl)
theorem dX0_basket_16 : decode cX0_basket 16 = .ok (.aload_n 0, 1) := dk_42 (dk_at dksX0_basket_0 16 rfl rfl)
theorem dX0_basket_17 : decode cX0_basket 17 = .ok (.getfield 50, 3) := dk_180 0 50 (dk_at dksX0_basket_0 17 rfl rfl)
theorem dX0_basket_20 : decode cX0_basket 20 = .ok (.iconst 0, 1) := dk_3 (dk_at dksX0_basket_0 20 rfl rfl)
theorem dX0_basket_21 : decode cX0_basket 21 = .ok (.invokestatic 245, 3) := dk_184 0 245 (dk_at dksX0_basket_0 21 rfl rfl)
theorem dX0_basket_24 : decode cX0_basket 24 = .ok (.aload_n 0, 1) := dk_42 (dk_at dksX0_basket_1 0 rfl rfl)
theorem dX0_basket_25 : decode cX0_basket 25 = .ok (.ldc 251, 2) := dk_18 251 (dk_at dksX0_basket_1 1 rfl rfl)
theorem dX0_basket_27 : decode cX0_basket 27 = .ok (.putfield 229, 3) := dk_181 0 229 (dk_at dksX0_basket_1 3 rfl rfl)
theorem dX0_basket_30 : decode cX0_basket 30 = .ok (.aload_n 0, 1) := dk_42 (dk_at dksX0_basket_1 6 rfl rfl)
theorem dX0_basket_31 : decode cX0_basket 31 = .ok (.ldc 251, 2) := dk_18 251 (dk_at dksX0_basket_1 7 rfl rfl)
theorem dX0_basket_33 : decode cX0_basket 33 = .ok (.putfield 232, 3) := dk_181 0 232 (dk_at dksX0_basket_1 9 rfl rfl)
theorem dX0_basket_36 : decode cX0_basket 36 = .ok (.aload_n 0, 1) := dk_42 (dk_at dksX0_basket_1 12 rfl rfl)
theorem dX0_basket_37 : decode cX0_basket 37 = .ok (.iconst 0, 1) := dk_3 (dk_at dksX0_basket_1 13 rfl rfl)
theorem dX0_basket_38 : decode cX0_basket 38 = .ok (.iconst 0, 1) := dk_3 (dk_at dksX0_basket_1 14 rfl rfl)
theorem dX0_basket_39 : decode cX0_basket 39 = .ok (.iconst 0, 1) := dk_3 (dk_at dksX0_basket_1 15 rfl rfl)
theorem dX0_basket_40 : decode cX0_basket 40 = .ok (.invokevirtual 241, 3) := dk_182 0 241 (dk_at dksX0_basket_1 16 rfl rfl)
theorem dX0_basket_43 : decode cX0_basket 43 = .ok (.aload_n 0, 1) := dk_42 (dk_at dksX0_basket_1 19 rfl rfl)
theorem dX0_basket_44 : decode cX0_basket 44 = .ok (.getfield 229, 3) := dk_180 0 229 (dk_at dksX0_basket_1 20 rfl rfl)
theorem dX0_basket_47 : decode cX0_basket 47 = .ok (.ldc 251, 2) := dk_18 251 (dk_at dksX0_basket_2 0 rfl rfl)
theorem dX0_basket_49 : decode cX0_basket 49 = .ok (.if_icmp .ne 7, 3) := dk_160 0 7 (dk_at dksX0_basket_2 2 rfl rfl)
theorem dX0_basket_52 : decode cX0_basket 52 = .ok (.iconst (-1), 1) := dk_2 (dk_at dksX0_basket_2 5 rfl rfl)
theorem dX0_basket_53 : decode cX0_basket 53 = .ok (.goto 21, 3) := dk_167 0 21 (dk_at dksX0_basket_2 6 rfl rfl)
theorem dX0_basket_56 : decode cX0_basket 56 = .ok (.iload_n 1, 1) := dk_27 (dk_at dksX0_basket_2 9 rfl rfl)
theorem dX0_basket_57 : decode cX0_basket 57 = .ok (.iconst (-1), 1) := dk_2 (dk_at dksX0_basket_2 10 rfl rfl)
theorem dX0_basket_58 : decode cX0_basket 58 = .ok (.if_icmp .ne 10, 3) := dk_160 0 10 (dk_at dksX0_basket_2 11 rfl rfl)
theorem dX0_basket_61 : decode cX0_basket 61 = .ok (.aload_n 0, 1) := dk_42 (dk_at dksX0_basket_2 14 rfl rfl)
theorem dX0_basket_62 : decode cX0_basket 62 = .ok (.getfield 229, 3) := dk_180 0 229 (dk_at dksX0_basket_2 15 rfl rfl)
theorem dX0_basket_65 : decode cX0_basket 65 = .ok (.goto 9, 3) := dk_167 0 9 (dk_at dksX0_basket_2 18 rfl rfl)
theorem dX0_basket_68 : decode cX0_basket 68 = .ok (.aload_n 0, 1) := dk_42 (dk_at dksX0_basket_2 21 rfl rfl)
theorem dX0_basket_69 : decode cX0_basket 69 = .ok (.getfield 53, 3) := dk_180 0 53 (dk_at dksX0_basket_3 0 rfl rfl)
theorem dX0_basket_72 : decode cX0_basket 72 = .ok (.iload_n 1, 1) := dk_27 (dk_at dksX0_basket_3 3 rfl rfl)
theorem dX0_basket_73 : decode cX0_basket 73 = .ok (.iaload, 1) := dk_46 (dk_at dksX0_basket_3 4 rfl rfl)
theorem dX0_basket_74 : decode cX0_basket 74 = .ok (.ireturn, 1) := dk_172 (dk_at dksX0_basket_3 5 rfl rfl)
abbrev cX0_basketFrom : ByteArray := prog_1_method_26_code
def yX0_basketFrom : MethodName := ⟨RX0, "basketFrom", "(III)V"⟩
def dkwX0_basketFrom_7 : List UInt8 := [21, 4, 3, 79, 132, 4, 1, 167, 255, 148, 177]
abbrev dktX0_basketFrom_7 : List UInt8 := dkwX0_basketFrom_7 ++ []
def dkwX0_basketFrom_6 : List UInt8 := [21, 4, 4, 96, 28, 4, 96, 29, 21, 6, 96, 182, 0, 241, 132, 6, 1, 167, 255, 218, 42, 180, 0, 50]
abbrev dktX0_basketFrom_6 : List UInt8 := dkwX0_basketFrom_6 ++ dktX0_basketFrom_7
def dkwX0_basketFrom_5 : List UInt8 := [4, 54, 6, 21, 6, 7, 163, 0, 38, 21, 5, 153, 0, 33, 42, 180, 0, 50, 21, 4, 21, 6, 79, 42]
abbrev dktX0_basketFrom_5 : List UInt8 := dkwX0_basketFrom_5 ++ dktX0_basketFrom_6
def dkwX0_basketFrom_4 : List UInt8 := [153, 0, 21, 42, 180, 0, 21, 180, 0, 116, 21, 4, 46, 2, 160, 0, 7, 4, 167, 0, 4, 3, 54, 5]
abbrev dktX0_basketFrom_4 : List UInt8 := dkwX0_basketFrom_4 ++ dktX0_basketFrom_5
def dkwX0_basketFrom_3 : List UInt8 := [180, 0, 110, 162, 0, 102, 28, 6, 162, 0, 97, 42, 180, 0, 21, 180, 0, 125, 21, 4, 184, 0, 204]
abbrev dktX0_basketFrom_3 : List UInt8 := dkwX0_basketFrom_3 ++ dktX0_basketFrom_4
def dkwX0_basketFrom_2 : List UInt8 := [180, 0, 50, 3, 42, 180, 0, 53, 3, 16, 6, 184, 0, 235, 27, 54, 4, 21, 4, 42, 180, 0, 10]
abbrev dktX0_basketFrom_2 : List UInt8 := dkwX0_basketFrom_2 ++ dktX0_basketFrom_3
def dkwX0_basketFrom_1 : List UInt8 := [160, 0, 36, 28, 42, 180, 0, 232, 162, 0, 28, 42, 29, 181, 0, 229, 42, 28, 181, 0, 232, 42]
abbrev dktX0_basketFrom_1 : List UInt8 := dkwX0_basketFrom_1 ++ dktX0_basketFrom_2
def dkwX0_basketFrom_0 : List UInt8 := [28, 158, 0, 59, 42, 182, 0, 225, 153, 0, 52, 29, 42, 180, 0, 229, 161, 0, 19, 29, 42, 180, 0, 229]
abbrev dktX0_basketFrom_0 : List UInt8 := dkwX0_basketFrom_0 ++ dktX0_basketFrom_1
theorem dksX0_basketFrom_0 : cX0_basketFrom.data.toList.drop 0 = dktX0_basketFrom_0 := by decide +kernel
theorem dksX0_basketFrom_1 : cX0_basketFrom.data.toList.drop 24 = dktX0_basketFrom_1 := dk_seg dksX0_basketFrom_0 24 rfl rfl
theorem dksX0_basketFrom_2 : cX0_basketFrom.data.toList.drop 46 = dktX0_basketFrom_2 := dk_seg dksX0_basketFrom_1 22 rfl rfl
theorem dksX0_basketFrom_3 : cX0_basketFrom.data.toList.drop 69 = dktX0_basketFrom_3 := dk_seg dksX0_basketFrom_2 23 rfl rfl
theorem dksX0_basketFrom_4 : cX0_basketFrom.data.toList.drop 92 = dktX0_basketFrom_4 := dk_seg dksX0_basketFrom_3 23 rfl rfl
theorem dksX0_basketFrom_5 : cX0_basketFrom.data.toList.drop 116 = dktX0_basketFrom_5 := dk_seg dksX0_basketFrom_4 24 rfl rfl
theorem dksX0_basketFrom_6 : cX0_basketFrom.data.toList.drop 140 = dktX0_basketFrom_6 := dk_seg dksX0_basketFrom_5 24 rfl rfl
theorem dksX0_basketFrom_7 : cX0_basketFrom.data.toList.drop 164 = dktX0_basketFrom_7 := dk_seg dksX0_basketFrom_6 24 rfl rfl
theorem dX0_basketFrom_0 : decode cX0_basketFrom 0 = .ok (.iload_n 2, 1) := dk_28 (dk_at dksX0_basketFrom_0 0 rfl rfl)
theorem dX0_basketFrom_1 : decode cX0_basketFrom 1 = .ok (.ifCond .le 59, 3) := dk_158 0 59 (dk_at dksX0_basketFrom_0 1 rfl rfl)
theorem dX0_basketFrom_4 : decode cX0_basketFrom 4 = .ok (.aload_n 0, 1) := dk_42 (dk_at dksX0_basketFrom_0 4 rfl rfl)
theorem dX0_basketFrom_5 : decode cX0_basketFrom 5 = .ok (.invokevirtual 225, 3) := dk_182 0 225 (dk_at dksX0_basketFrom_0 5 rfl rfl)
theorem dX0_basketFrom_8 : decode cX0_basketFrom 8 = .ok (.ifCond .eq 52, 3) := dk_153 0 52 (dk_at dksX0_basketFrom_0 8 rfl rfl)
theorem dX0_basketFrom_11 : decode cX0_basketFrom 11 = .ok (.iload_n 3, 1) := dk_29 (dk_at dksX0_basketFrom_0 11 rfl rfl)
theorem dX0_basketFrom_12 : decode cX0_basketFrom 12 = .ok (.aload_n 0, 1) := dk_42 (dk_at dksX0_basketFrom_0 12 rfl rfl)
theorem dX0_basketFrom_13 : decode cX0_basketFrom 13 = .ok (.getfield 229, 3) := dk_180 0 229 (dk_at dksX0_basketFrom_0 13 rfl rfl)
theorem dX0_basketFrom_16 : decode cX0_basketFrom 16 = .ok (.if_icmp .lt 19, 3) := dk_161 0 19 (dk_at dksX0_basketFrom_0 16 rfl rfl)
theorem dX0_basketFrom_19 : decode cX0_basketFrom 19 = .ok (.iload_n 3, 1) := dk_29 (dk_at dksX0_basketFrom_0 19 rfl rfl)
theorem dX0_basketFrom_20 : decode cX0_basketFrom 20 = .ok (.aload_n 0, 1) := dk_42 (dk_at dksX0_basketFrom_0 20 rfl rfl)
theorem dX0_basketFrom_21 : decode cX0_basketFrom 21 = .ok (.getfield 229, 3) := dk_180 0 229 (dk_at dksX0_basketFrom_0 21 rfl rfl)
theorem dX0_basketFrom_24 : decode cX0_basketFrom 24 = .ok (.if_icmp .ne 36, 3) := dk_160 0 36 (dk_at dksX0_basketFrom_1 0 rfl rfl)
theorem dX0_basketFrom_27 : decode cX0_basketFrom 27 = .ok (.iload_n 2, 1) := dk_28 (dk_at dksX0_basketFrom_1 3 rfl rfl)
theorem dX0_basketFrom_28 : decode cX0_basketFrom 28 = .ok (.aload_n 0, 1) := dk_42 (dk_at dksX0_basketFrom_1 4 rfl rfl)
theorem dX0_basketFrom_29 : decode cX0_basketFrom 29 = .ok (.getfield 232, 3) := dk_180 0 232 (dk_at dksX0_basketFrom_1 5 rfl rfl)
theorem dX0_basketFrom_32 : decode cX0_basketFrom 32 = .ok (.if_icmp .ge 28, 3) := dk_162 0 28 (dk_at dksX0_basketFrom_1 8 rfl rfl)
theorem dX0_basketFrom_35 : decode cX0_basketFrom 35 = .ok (.aload_n 0, 1) := dk_42 (dk_at dksX0_basketFrom_1 11 rfl rfl)
theorem dX0_basketFrom_36 : decode cX0_basketFrom 36 = .ok (.iload_n 3, 1) := dk_29 (dk_at dksX0_basketFrom_1 12 rfl rfl)
theorem dX0_basketFrom_37 : decode cX0_basketFrom 37 = .ok (.putfield 229, 3) := dk_181 0 229 (dk_at dksX0_basketFrom_1 13 rfl rfl)
theorem dX0_basketFrom_40 : decode cX0_basketFrom 40 = .ok (.aload_n 0, 1) := dk_42 (dk_at dksX0_basketFrom_1 16 rfl rfl)
theorem dX0_basketFrom_41 : decode cX0_basketFrom 41 = .ok (.iload_n 2, 1) := dk_28 (dk_at dksX0_basketFrom_1 17 rfl rfl)
theorem dX0_basketFrom_42 : decode cX0_basketFrom 42 = .ok (.putfield 232, 3) := dk_181 0 232 (dk_at dksX0_basketFrom_1 18 rfl rfl)
theorem dX0_basketFrom_45 : decode cX0_basketFrom 45 = .ok (.aload_n 0, 1) := dk_42 (dk_at dksX0_basketFrom_1 21 rfl rfl)
theorem dX0_basketFrom_46 : decode cX0_basketFrom 46 = .ok (.getfield 50, 3) := dk_180 0 50 (dk_at dksX0_basketFrom_2 0 rfl rfl)
theorem dX0_basketFrom_49 : decode cX0_basketFrom 49 = .ok (.iconst 0, 1) := dk_3 (dk_at dksX0_basketFrom_2 3 rfl rfl)
theorem dX0_basketFrom_50 : decode cX0_basketFrom 50 = .ok (.aload_n 0, 1) := dk_42 (dk_at dksX0_basketFrom_2 4 rfl rfl)
theorem dX0_basketFrom_51 : decode cX0_basketFrom 51 = .ok (.getfield 53, 3) := dk_180 0 53 (dk_at dksX0_basketFrom_2 5 rfl rfl)
theorem dX0_basketFrom_54 : decode cX0_basketFrom 54 = .ok (.iconst 0, 1) := dk_3 (dk_at dksX0_basketFrom_2 8 rfl rfl)
theorem dX0_basketFrom_55 : decode cX0_basketFrom 55 = .ok (.bipush 6, 2) := dk_16 6 (dk_at dksX0_basketFrom_2 9 rfl rfl)
theorem dX0_basketFrom_57 : decode cX0_basketFrom 57 = .ok (.invokestatic 235, 3) := dk_184 0 235 (dk_at dksX0_basketFrom_2 11 rfl rfl)
theorem dX0_basketFrom_60 : decode cX0_basketFrom 60 = .ok (.iload_n 1, 1) := dk_27 (dk_at dksX0_basketFrom_2 14 rfl rfl)
theorem dX0_basketFrom_61 : decode cX0_basketFrom 61 = .ok (.istore 4, 2) := dk_54 4 (dk_at dksX0_basketFrom_2 15 rfl rfl)
theorem dX0_basketFrom_63 : decode cX0_basketFrom 63 = .ok (.iload 4, 2) := dk_21 4 (dk_at dksX0_basketFrom_2 17 rfl rfl)
theorem dX0_basketFrom_65 : decode cX0_basketFrom 65 = .ok (.aload_n 0, 1) := dk_42 (dk_at dksX0_basketFrom_2 19 rfl rfl)
theorem dX0_basketFrom_66 : decode cX0_basketFrom 66 = .ok (.getfield 10, 3) := dk_180 0 10 (dk_at dksX0_basketFrom_2 20 rfl rfl)
theorem dX0_basketFrom_69 : decode cX0_basketFrom 69 = .ok (.getfield 110, 3) := dk_180 0 110 (dk_at dksX0_basketFrom_3 0 rfl rfl)
theorem dX0_basketFrom_72 : decode cX0_basketFrom 72 = .ok (.if_icmp .ge 102, 3) := dk_162 0 102 (dk_at dksX0_basketFrom_3 3 rfl rfl)
theorem dX0_basketFrom_75 : decode cX0_basketFrom 75 = .ok (.iload_n 2, 1) := dk_28 (dk_at dksX0_basketFrom_3 6 rfl rfl)
theorem dX0_basketFrom_76 : decode cX0_basketFrom 76 = .ok (.iconst 3, 1) := dk_6 (dk_at dksX0_basketFrom_3 7 rfl rfl)
theorem dX0_basketFrom_77 : decode cX0_basketFrom 77 = .ok (.if_icmp .ge 97, 3) := dk_162 0 97 (dk_at dksX0_basketFrom_3 8 rfl rfl)
theorem dX0_basketFrom_80 : decode cX0_basketFrom 80 = .ok (.aload_n 0, 1) := dk_42 (dk_at dksX0_basketFrom_3 11 rfl rfl)
theorem dX0_basketFrom_81 : decode cX0_basketFrom 81 = .ok (.getfield 21, 3) := dk_180 0 21 (dk_at dksX0_basketFrom_3 12 rfl rfl)
theorem dX0_basketFrom_84 : decode cX0_basketFrom 84 = .ok (.getfield 125, 3) := dk_180 0 125 (dk_at dksX0_basketFrom_3 15 rfl rfl)
theorem dX0_basketFrom_87 : decode cX0_basketFrom 87 = .ok (.iload 4, 2) := dk_21 4 (dk_at dksX0_basketFrom_3 18 rfl rfl)
theorem dX0_basketFrom_89 : decode cX0_basketFrom 89 = .ok (.invokestatic 204, 3) := dk_184 0 204 (dk_at dksX0_basketFrom_3 20 rfl rfl)
theorem dX0_basketFrom_92 : decode cX0_basketFrom 92 = .ok (.ifCond .eq 21, 3) := dk_153 0 21 (dk_at dksX0_basketFrom_4 0 rfl rfl)
theorem dX0_basketFrom_95 : decode cX0_basketFrom 95 = .ok (.aload_n 0, 1) := dk_42 (dk_at dksX0_basketFrom_4 3 rfl rfl)
theorem dX0_basketFrom_96 : decode cX0_basketFrom 96 = .ok (.getfield 21, 3) := dk_180 0 21 (dk_at dksX0_basketFrom_4 4 rfl rfl)
theorem dX0_basketFrom_99 : decode cX0_basketFrom 99 = .ok (.getfield 116, 3) := dk_180 0 116 (dk_at dksX0_basketFrom_4 7 rfl rfl)
theorem dX0_basketFrom_102 : decode cX0_basketFrom 102 = .ok (.iload 4, 2) := dk_21 4 (dk_at dksX0_basketFrom_4 10 rfl rfl)
theorem dX0_basketFrom_104 : decode cX0_basketFrom 104 = .ok (.iaload, 1) := dk_46 (dk_at dksX0_basketFrom_4 12 rfl rfl)
theorem dX0_basketFrom_105 : decode cX0_basketFrom 105 = .ok (.iconst (-1), 1) := dk_2 (dk_at dksX0_basketFrom_4 13 rfl rfl)
theorem dX0_basketFrom_106 : decode cX0_basketFrom 106 = .ok (.if_icmp .ne 7, 3) := dk_160 0 7 (dk_at dksX0_basketFrom_4 14 rfl rfl)
theorem dX0_basketFrom_109 : decode cX0_basketFrom 109 = .ok (.iconst 1, 1) := dk_4 (dk_at dksX0_basketFrom_4 17 rfl rfl)
theorem dX0_basketFrom_110 : decode cX0_basketFrom 110 = .ok (.goto 4, 3) := dk_167 0 4 (dk_at dksX0_basketFrom_4 18 rfl rfl)
theorem dX0_basketFrom_113 : decode cX0_basketFrom 113 = .ok (.iconst 0, 1) := dk_3 (dk_at dksX0_basketFrom_4 21 rfl rfl)
theorem dX0_basketFrom_114 : decode cX0_basketFrom 114 = .ok (.istore 5, 2) := dk_54 5 (dk_at dksX0_basketFrom_4 22 rfl rfl)
theorem dX0_basketFrom_116 : decode cX0_basketFrom 116 = .ok (.iconst 1, 1) := dk_4 (dk_at dksX0_basketFrom_5 0 rfl rfl)
theorem dX0_basketFrom_117 : decode cX0_basketFrom 117 = .ok (.istore 6, 2) := dk_54 6 (dk_at dksX0_basketFrom_5 1 rfl rfl)
theorem dX0_basketFrom_119 : decode cX0_basketFrom 119 = .ok (.iload 6, 2) := dk_21 6 (dk_at dksX0_basketFrom_5 3 rfl rfl)
theorem dX0_basketFrom_121 : decode cX0_basketFrom 121 = .ok (.iconst 4, 1) := dk_7 (dk_at dksX0_basketFrom_5 5 rfl rfl)
theorem dX0_basketFrom_122 : decode cX0_basketFrom 122 = .ok (.if_icmp .gt 38, 3) := dk_163 0 38 (dk_at dksX0_basketFrom_5 6 rfl rfl)
theorem dX0_basketFrom_125 : decode cX0_basketFrom 125 = .ok (.iload 5, 2) := dk_21 5 (dk_at dksX0_basketFrom_5 9 rfl rfl)
theorem dX0_basketFrom_127 : decode cX0_basketFrom 127 = .ok (.ifCond .eq 33, 3) := dk_153 0 33 (dk_at dksX0_basketFrom_5 11 rfl rfl)
theorem dX0_basketFrom_130 : decode cX0_basketFrom 130 = .ok (.aload_n 0, 1) := dk_42 (dk_at dksX0_basketFrom_5 14 rfl rfl)
theorem dX0_basketFrom_131 : decode cX0_basketFrom 131 = .ok (.getfield 50, 3) := dk_180 0 50 (dk_at dksX0_basketFrom_5 15 rfl rfl)
theorem dX0_basketFrom_134 : decode cX0_basketFrom 134 = .ok (.iload 4, 2) := dk_21 4 (dk_at dksX0_basketFrom_5 18 rfl rfl)
theorem dX0_basketFrom_136 : decode cX0_basketFrom 136 = .ok (.iload 6, 2) := dk_21 6 (dk_at dksX0_basketFrom_5 20 rfl rfl)
theorem dX0_basketFrom_138 : decode cX0_basketFrom 138 = .ok (.iastore, 1) := dk_79 (dk_at dksX0_basketFrom_5 22 rfl rfl)
theorem dX0_basketFrom_139 : decode cX0_basketFrom 139 = .ok (.aload_n 0, 1) := dk_42 (dk_at dksX0_basketFrom_5 23 rfl rfl)
theorem dX0_basketFrom_140 : decode cX0_basketFrom 140 = .ok (.iload 4, 2) := dk_21 4 (dk_at dksX0_basketFrom_6 0 rfl rfl)
theorem dX0_basketFrom_142 : decode cX0_basketFrom 142 = .ok (.iconst 1, 1) := dk_4 (dk_at dksX0_basketFrom_6 2 rfl rfl)
theorem dX0_basketFrom_143 : decode cX0_basketFrom 143 = .ok (.iadd, 1) := dk_96 (dk_at dksX0_basketFrom_6 3 rfl rfl)
theorem dX0_basketFrom_144 : decode cX0_basketFrom 144 = .ok (.iload_n 2, 1) := dk_28 (dk_at dksX0_basketFrom_6 4 rfl rfl)
theorem dX0_basketFrom_145 : decode cX0_basketFrom 145 = .ok (.iconst 1, 1) := dk_4 (dk_at dksX0_basketFrom_6 5 rfl rfl)
theorem dX0_basketFrom_146 : decode cX0_basketFrom 146 = .ok (.iadd, 1) := dk_96 (dk_at dksX0_basketFrom_6 6 rfl rfl)
theorem dX0_basketFrom_147 : decode cX0_basketFrom 147 = .ok (.iload_n 3, 1) := dk_29 (dk_at dksX0_basketFrom_6 7 rfl rfl)
theorem dX0_basketFrom_148 : decode cX0_basketFrom 148 = .ok (.iload 6, 2) := dk_21 6 (dk_at dksX0_basketFrom_6 8 rfl rfl)
theorem dX0_basketFrom_150 : decode cX0_basketFrom 150 = .ok (.iadd, 1) := dk_96 (dk_at dksX0_basketFrom_6 10 rfl rfl)
theorem dX0_basketFrom_151 : decode cX0_basketFrom 151 = .ok (.invokevirtual 241, 3) := dk_182 0 241 (dk_at dksX0_basketFrom_6 11 rfl rfl)
theorem dX0_basketFrom_154 : decode cX0_basketFrom 154 = .ok (.iinc 6 1, 3) := dk_132 6 1 (dk_at dksX0_basketFrom_6 14 rfl rfl)
theorem dX0_basketFrom_157 : decode cX0_basketFrom 157 = .ok (.goto (-38), 3) := dk_167 255 218 (dk_at dksX0_basketFrom_6 17 rfl rfl)
theorem dX0_basketFrom_160 : decode cX0_basketFrom 160 = .ok (.aload_n 0, 1) := dk_42 (dk_at dksX0_basketFrom_6 20 rfl rfl)
theorem dX0_basketFrom_161 : decode cX0_basketFrom 161 = .ok (.getfield 50, 3) := dk_180 0 50 (dk_at dksX0_basketFrom_6 21 rfl rfl)
theorem dX0_basketFrom_164 : decode cX0_basketFrom 164 = .ok (.iload 4, 2) := dk_21 4 (dk_at dksX0_basketFrom_7 0 rfl rfl)
theorem dX0_basketFrom_166 : decode cX0_basketFrom 166 = .ok (.iconst 0, 1) := dk_3 (dk_at dksX0_basketFrom_7 2 rfl rfl)
theorem dX0_basketFrom_167 : decode cX0_basketFrom 167 = .ok (.iastore, 1) := dk_79 (dk_at dksX0_basketFrom_7 3 rfl rfl)
theorem dX0_basketFrom_168 : decode cX0_basketFrom 168 = .ok (.iinc 4 1, 3) := dk_132 4 1 (dk_at dksX0_basketFrom_7 4 rfl rfl)
theorem dX0_basketFrom_171 : decode cX0_basketFrom 171 = .ok (.goto (-108), 3) := dk_167 255 148 (dk_at dksX0_basketFrom_7 7 rfl rfl)
theorem dX0_basketFrom_174 : decode cX0_basketFrom 174 = .ok (.return_, 1) := dk_177 (dk_at dksX0_basketFrom_7 10 rfl rfl)
abbrev cX0_isSafe : ByteArray := prog_1_method_25_code
def yX0_isSafe : MethodName := ⟨RX0, "isSafe", "()Z"⟩
def dkwX0_isSafe_4 : List UInt8 := [167, 0, 4, 3, 60, 132, 3, 1, 167, 255, 160, 27, 172]
abbrev dktX0_isSafe_4 : List UInt8 := dkwX0_isSafe_4 ++ []
def dkwX0_isSafe_3 : List UInt8 := [132, 5, 1, 167, 255, 204, 29, 154, 0, 8, 21, 4, 167, 0, 4, 28, 61, 21, 4, 28, 160, 0, 7, 4]
abbrev dktX0_isSafe_3 : List UInt8 := dkwX0_isSafe_3 ++ dktX0_isSafe_4
def dkwX0_isSafe_2 : List UInt8 := [180, 0, 50, 21, 5, 46, 42, 180, 0, 21, 21, 5, 29, 182, 0, 216, 104, 167, 0, 4, 3, 96, 54, 4]
abbrev dktX0_isSafe_2 : List UInt8 := dkwX0_isSafe_2 ++ dktX0_isSafe_3
def dkwX0_isSafe_1 : List UInt8 := [180, 0, 10, 180, 0, 110, 162, 0, 46, 21, 4, 42, 180, 0, 50, 21, 5, 46, 158, 0, 24, 42]
abbrev dktX0_isSafe_1 : List UInt8 := dkwX0_isSafe_1 ++ dktX0_isSafe_2
def dkwX0_isSafe_0 : List UInt8 := [4, 60, 3, 61, 3, 62, 29, 7, 162, 0, 97, 27, 153, 0, 93, 3, 54, 4, 3, 54, 5, 21, 5, 42]
abbrev dktX0_isSafe_0 : List UInt8 := dkwX0_isSafe_0 ++ dktX0_isSafe_1
theorem dksX0_isSafe_0 : cX0_isSafe.data.toList.drop 0 = dktX0_isSafe_0 := by decide +kernel
theorem dksX0_isSafe_1 : cX0_isSafe.data.toList.drop 24 = dktX0_isSafe_1 := dk_seg dksX0_isSafe_0 24 rfl rfl
theorem dksX0_isSafe_2 : cX0_isSafe.data.toList.drop 46 = dktX0_isSafe_2 := dk_seg dksX0_isSafe_1 22 rfl rfl
theorem dksX0_isSafe_3 : cX0_isSafe.data.toList.drop 70 = dktX0_isSafe_3 := dk_seg dksX0_isSafe_2 24 rfl rfl
theorem dksX0_isSafe_4 : cX0_isSafe.data.toList.drop 94 = dktX0_isSafe_4 := dk_seg dksX0_isSafe_3 24 rfl rfl
theorem dX0_isSafe_0 : decode cX0_isSafe 0 = .ok (.iconst 1, 1) := dk_4 (dk_at dksX0_isSafe_0 0 rfl rfl)
theorem dX0_isSafe_1 : decode cX0_isSafe 1 = .ok (.istore_n 1, 1) := dk_60 (dk_at dksX0_isSafe_0 1 rfl rfl)
theorem dX0_isSafe_2 : decode cX0_isSafe 2 = .ok (.iconst 0, 1) := dk_3 (dk_at dksX0_isSafe_0 2 rfl rfl)
theorem dX0_isSafe_3 : decode cX0_isSafe 3 = .ok (.istore_n 2, 1) := dk_61 (dk_at dksX0_isSafe_0 3 rfl rfl)
theorem dX0_isSafe_4 : decode cX0_isSafe 4 = .ok (.iconst 0, 1) := dk_3 (dk_at dksX0_isSafe_0 4 rfl rfl)
theorem dX0_isSafe_5 : decode cX0_isSafe 5 = .ok (.istore_n 3, 1) := dk_62 (dk_at dksX0_isSafe_0 5 rfl rfl)
theorem dX0_isSafe_6 : decode cX0_isSafe 6 = .ok (.iload_n 3, 1) := dk_29 (dk_at dksX0_isSafe_0 6 rfl rfl)
theorem dX0_isSafe_7 : decode cX0_isSafe 7 = .ok (.iconst 4, 1) := dk_7 (dk_at dksX0_isSafe_0 7 rfl rfl)
theorem dX0_isSafe_8 : decode cX0_isSafe 8 = .ok (.if_icmp .ge 97, 3) := dk_162 0 97 (dk_at dksX0_isSafe_0 8 rfl rfl)
theorem dX0_isSafe_11 : decode cX0_isSafe 11 = .ok (.iload_n 1, 1) := dk_27 (dk_at dksX0_isSafe_0 11 rfl rfl)
theorem dX0_isSafe_12 : decode cX0_isSafe 12 = .ok (.ifCond .eq 93, 3) := dk_153 0 93 (dk_at dksX0_isSafe_0 12 rfl rfl)
theorem dX0_isSafe_15 : decode cX0_isSafe 15 = .ok (.iconst 0, 1) := dk_3 (dk_at dksX0_isSafe_0 15 rfl rfl)
theorem dX0_isSafe_16 : decode cX0_isSafe 16 = .ok (.istore 4, 2) := dk_54 4 (dk_at dksX0_isSafe_0 16 rfl rfl)
theorem dX0_isSafe_18 : decode cX0_isSafe 18 = .ok (.iconst 0, 1) := dk_3 (dk_at dksX0_isSafe_0 18 rfl rfl)
theorem dX0_isSafe_19 : decode cX0_isSafe 19 = .ok (.istore 5, 2) := dk_54 5 (dk_at dksX0_isSafe_0 19 rfl rfl)
theorem dX0_isSafe_21 : decode cX0_isSafe 21 = .ok (.iload 5, 2) := dk_21 5 (dk_at dksX0_isSafe_0 21 rfl rfl)
theorem dX0_isSafe_23 : decode cX0_isSafe 23 = .ok (.aload_n 0, 1) := dk_42 (dk_at dksX0_isSafe_0 23 rfl rfl)
theorem dX0_isSafe_24 : decode cX0_isSafe 24 = .ok (.getfield 10, 3) := dk_180 0 10 (dk_at dksX0_isSafe_1 0 rfl rfl)
theorem dX0_isSafe_27 : decode cX0_isSafe 27 = .ok (.getfield 110, 3) := dk_180 0 110 (dk_at dksX0_isSafe_1 3 rfl rfl)
theorem dX0_isSafe_30 : decode cX0_isSafe 30 = .ok (.if_icmp .ge 46, 3) := dk_162 0 46 (dk_at dksX0_isSafe_1 6 rfl rfl)
theorem dX0_isSafe_33 : decode cX0_isSafe 33 = .ok (.iload 4, 2) := dk_21 4 (dk_at dksX0_isSafe_1 9 rfl rfl)
theorem dX0_isSafe_35 : decode cX0_isSafe 35 = .ok (.aload_n 0, 1) := dk_42 (dk_at dksX0_isSafe_1 11 rfl rfl)
theorem dX0_isSafe_36 : decode cX0_isSafe 36 = .ok (.getfield 50, 3) := dk_180 0 50 (dk_at dksX0_isSafe_1 12 rfl rfl)
theorem dX0_isSafe_39 : decode cX0_isSafe 39 = .ok (.iload 5, 2) := dk_21 5 (dk_at dksX0_isSafe_1 15 rfl rfl)
theorem dX0_isSafe_41 : decode cX0_isSafe 41 = .ok (.iaload, 1) := dk_46 (dk_at dksX0_isSafe_1 17 rfl rfl)
theorem dX0_isSafe_42 : decode cX0_isSafe 42 = .ok (.ifCond .le 24, 3) := dk_158 0 24 (dk_at dksX0_isSafe_1 18 rfl rfl)
theorem dX0_isSafe_45 : decode cX0_isSafe 45 = .ok (.aload_n 0, 1) := dk_42 (dk_at dksX0_isSafe_1 21 rfl rfl)
theorem dX0_isSafe_46 : decode cX0_isSafe 46 = .ok (.getfield 50, 3) := dk_180 0 50 (dk_at dksX0_isSafe_2 0 rfl rfl)
theorem dX0_isSafe_49 : decode cX0_isSafe 49 = .ok (.iload 5, 2) := dk_21 5 (dk_at dksX0_isSafe_2 3 rfl rfl)
theorem dX0_isSafe_51 : decode cX0_isSafe 51 = .ok (.iaload, 1) := dk_46 (dk_at dksX0_isSafe_2 5 rfl rfl)
theorem dX0_isSafe_52 : decode cX0_isSafe 52 = .ok (.aload_n 0, 1) := dk_42 (dk_at dksX0_isSafe_2 6 rfl rfl)
theorem dX0_isSafe_53 : decode cX0_isSafe 53 = .ok (.getfield 21, 3) := dk_180 0 21 (dk_at dksX0_isSafe_2 7 rfl rfl)
theorem dX0_isSafe_56 : decode cX0_isSafe 56 = .ok (.iload 5, 2) := dk_21 5 (dk_at dksX0_isSafe_2 10 rfl rfl)
theorem dX0_isSafe_58 : decode cX0_isSafe 58 = .ok (.iload_n 3, 1) := dk_29 (dk_at dksX0_isSafe_2 12 rfl rfl)
theorem dX0_isSafe_59 : decode cX0_isSafe 59 = .ok (.invokevirtual 216, 3) := dk_182 0 216 (dk_at dksX0_isSafe_2 13 rfl rfl)
theorem dX0_isSafe_62 : decode cX0_isSafe 62 = .ok (.imul, 1) := dk_104 (dk_at dksX0_isSafe_2 16 rfl rfl)
theorem dX0_isSafe_63 : decode cX0_isSafe 63 = .ok (.goto 4, 3) := dk_167 0 4 (dk_at dksX0_isSafe_2 17 rfl rfl)
theorem dX0_isSafe_66 : decode cX0_isSafe 66 = .ok (.iconst 0, 1) := dk_3 (dk_at dksX0_isSafe_2 20 rfl rfl)
theorem dX0_isSafe_67 : decode cX0_isSafe 67 = .ok (.iadd, 1) := dk_96 (dk_at dksX0_isSafe_2 21 rfl rfl)
theorem dX0_isSafe_68 : decode cX0_isSafe 68 = .ok (.istore 4, 2) := dk_54 4 (dk_at dksX0_isSafe_2 22 rfl rfl)
theorem dX0_isSafe_70 : decode cX0_isSafe 70 = .ok (.iinc 5 1, 3) := dk_132 5 1 (dk_at dksX0_isSafe_3 0 rfl rfl)
theorem dX0_isSafe_73 : decode cX0_isSafe 73 = .ok (.goto (-52), 3) := dk_167 255 204 (dk_at dksX0_isSafe_3 3 rfl rfl)
theorem dX0_isSafe_76 : decode cX0_isSafe 76 = .ok (.iload_n 3, 1) := dk_29 (dk_at dksX0_isSafe_3 6 rfl rfl)
theorem dX0_isSafe_77 : decode cX0_isSafe 77 = .ok (.ifCond .ne 8, 3) := dk_154 0 8 (dk_at dksX0_isSafe_3 7 rfl rfl)
theorem dX0_isSafe_80 : decode cX0_isSafe 80 = .ok (.iload 4, 2) := dk_21 4 (dk_at dksX0_isSafe_3 10 rfl rfl)
theorem dX0_isSafe_82 : decode cX0_isSafe 82 = .ok (.goto 4, 3) := dk_167 0 4 (dk_at dksX0_isSafe_3 12 rfl rfl)
theorem dX0_isSafe_85 : decode cX0_isSafe 85 = .ok (.iload_n 2, 1) := dk_28 (dk_at dksX0_isSafe_3 15 rfl rfl)
theorem dX0_isSafe_86 : decode cX0_isSafe 86 = .ok (.istore_n 2, 1) := dk_61 (dk_at dksX0_isSafe_3 16 rfl rfl)
theorem dX0_isSafe_87 : decode cX0_isSafe 87 = .ok (.iload 4, 2) := dk_21 4 (dk_at dksX0_isSafe_3 17 rfl rfl)
theorem dX0_isSafe_89 : decode cX0_isSafe 89 = .ok (.iload_n 2, 1) := dk_28 (dk_at dksX0_isSafe_3 19 rfl rfl)
theorem dX0_isSafe_90 : decode cX0_isSafe 90 = .ok (.if_icmp .ne 7, 3) := dk_160 0 7 (dk_at dksX0_isSafe_3 20 rfl rfl)
theorem dX0_isSafe_93 : decode cX0_isSafe 93 = .ok (.iconst 1, 1) := dk_4 (dk_at dksX0_isSafe_3 23 rfl rfl)
theorem dX0_isSafe_94 : decode cX0_isSafe 94 = .ok (.goto 4, 3) := dk_167 0 4 (dk_at dksX0_isSafe_4 0 rfl rfl)
theorem dX0_isSafe_97 : decode cX0_isSafe 97 = .ok (.iconst 0, 1) := dk_3 (dk_at dksX0_isSafe_4 3 rfl rfl)
theorem dX0_isSafe_98 : decode cX0_isSafe 98 = .ok (.istore_n 1, 1) := dk_60 (dk_at dksX0_isSafe_4 4 rfl rfl)
theorem dX0_isSafe_99 : decode cX0_isSafe 99 = .ok (.iinc 3 1, 3) := dk_132 3 1 (dk_at dksX0_isSafe_4 5 rfl rfl)
theorem dX0_isSafe_102 : decode cX0_isSafe 102 = .ok (.goto (-96), 3) := dk_167 255 160 (dk_at dksX0_isSafe_4 8 rfl rfl)
theorem dX0_isSafe_105 : decode cX0_isSafe 105 = .ok (.iload_n 1, 1) := dk_27 (dk_at dksX0_isSafe_4 11 rfl rfl)
theorem dX0_isSafe_106 : decode cX0_isSafe 106 = .ok (.ireturn, 1) := dk_172 (dk_at dksX0_isSafe_4 12 rfl rfl)
abbrev cX0_ring : ByteArray := prog_1_method_30_code
def yX0_ring : MethodName := ⟨RX0, "ring", "(I)I"⟩
def dkwX0_ring_1 : List UInt8 := [180, 1, 5, 4, 100, 184, 0, 71, 153, 0, 12, 42, 180, 0, 56, 27, 46, 167, 0, 4, 2, 172]
abbrev dktX0_ring_1 : List UInt8 := dkwX0_ring_1 ++ []
def dkwX0_ring_0 : List UInt8 := [42, 182, 1, 8, 154, 0, 5, 2, 172, 27, 2, 160, 0, 10, 42, 180, 1, 5, 167, 0, 27, 27, 3, 42]
abbrev dktX0_ring_0 : List UInt8 := dkwX0_ring_0 ++ dktX0_ring_1
theorem dksX0_ring_0 : cX0_ring.data.toList.drop 0 = dktX0_ring_0 := by decide +kernel
theorem dksX0_ring_1 : cX0_ring.data.toList.drop 24 = dktX0_ring_1 := dk_seg dksX0_ring_0 24 rfl rfl
theorem dX0_ring_0 : decode cX0_ring 0 = .ok (.aload_n 0, 1) := dk_42 (dk_at dksX0_ring_0 0 rfl rfl)
theorem dX0_ring_1 : decode cX0_ring 1 = .ok (.invokevirtual 264, 3) := dk_182 1 8 (dk_at dksX0_ring_0 1 rfl rfl)
theorem dX0_ring_4 : decode cX0_ring 4 = .ok (.ifCond .ne 5, 3) := dk_154 0 5 (dk_at dksX0_ring_0 4 rfl rfl)
theorem dX0_ring_7 : decode cX0_ring 7 = .ok (.iconst (-1), 1) := dk_2 (dk_at dksX0_ring_0 7 rfl rfl)
theorem dX0_ring_8 : decode cX0_ring 8 = .ok (.ireturn, 1) := dk_172 (dk_at dksX0_ring_0 8 rfl rfl)
theorem dX0_ring_9 : decode cX0_ring 9 = .ok (.iload_n 1, 1) := dk_27 (dk_at dksX0_ring_0 9 rfl rfl)
theorem dX0_ring_10 : decode cX0_ring 10 = .ok (.iconst (-1), 1) := dk_2 (dk_at dksX0_ring_0 10 rfl rfl)
theorem dX0_ring_11 : decode cX0_ring 11 = .ok (.if_icmp .ne 10, 3) := dk_160 0 10 (dk_at dksX0_ring_0 11 rfl rfl)
theorem dX0_ring_14 : decode cX0_ring 14 = .ok (.aload_n 0, 1) := dk_42 (dk_at dksX0_ring_0 14 rfl rfl)
theorem dX0_ring_15 : decode cX0_ring 15 = .ok (.getfield 261, 3) := dk_180 1 5 (dk_at dksX0_ring_0 15 rfl rfl)
theorem dX0_ring_18 : decode cX0_ring 18 = .ok (.goto 27, 3) := dk_167 0 27 (dk_at dksX0_ring_0 18 rfl rfl)
theorem dX0_ring_21 : decode cX0_ring 21 = .ok (.iload_n 1, 1) := dk_27 (dk_at dksX0_ring_0 21 rfl rfl)
theorem dX0_ring_22 : decode cX0_ring 22 = .ok (.iconst 0, 1) := dk_3 (dk_at dksX0_ring_0 22 rfl rfl)
theorem dX0_ring_23 : decode cX0_ring 23 = .ok (.aload_n 0, 1) := dk_42 (dk_at dksX0_ring_0 23 rfl rfl)
theorem dX0_ring_24 : decode cX0_ring 24 = .ok (.getfield 261, 3) := dk_180 1 5 (dk_at dksX0_ring_1 0 rfl rfl)
theorem dX0_ring_27 : decode cX0_ring 27 = .ok (.iconst 1, 1) := dk_4 (dk_at dksX0_ring_1 3 rfl rfl)
theorem dX0_ring_28 : decode cX0_ring 28 = .ok (.isub, 1) := dk_100 (dk_at dksX0_ring_1 4 rfl rfl)
theorem dX0_ring_29 : decode cX0_ring 29 = .ok (.invokestatic 71, 3) := dk_184 0 71 (dk_at dksX0_ring_1 5 rfl rfl)
theorem dX0_ring_32 : decode cX0_ring 32 = .ok (.ifCond .eq 12, 3) := dk_153 0 12 (dk_at dksX0_ring_1 8 rfl rfl)
theorem dX0_ring_35 : decode cX0_ring 35 = .ok (.aload_n 0, 1) := dk_42 (dk_at dksX0_ring_1 11 rfl rfl)
theorem dX0_ring_36 : decode cX0_ring 36 = .ok (.getfield 56, 3) := dk_180 0 56 (dk_at dksX0_ring_1 12 rfl rfl)
theorem dX0_ring_39 : decode cX0_ring 39 = .ok (.iload_n 1, 1) := dk_27 (dk_at dksX0_ring_1 15 rfl rfl)
theorem dX0_ring_40 : decode cX0_ring 40 = .ok (.iaload, 1) := dk_46 (dk_at dksX0_ring_1 16 rfl rfl)
theorem dX0_ring_41 : decode cX0_ring 41 = .ok (.goto 4, 3) := dk_167 0 4 (dk_at dksX0_ring_1 17 rfl rfl)
theorem dX0_ring_44 : decode cX0_ring 44 = .ok (.iconst (-1), 1) := dk_2 (dk_at dksX0_ring_1 20 rfl rfl)
theorem dX0_ring_45 : decode cX0_ring 45 = .ok (.ireturn, 1) := dk_172 (dk_at dksX0_ring_1 21 rfl rfl)
abbrev cX0_findRing : ByteArray := prog_1_method_29_code
def yX0_findRing : MethodName := ⟨RX0, "findRing", "()Z"⟩
def dkwX0_findRing_1 : List UInt8 := [182, 1, 1, 153, 0, 5, 4, 172, 42, 89, 180, 1, 5, 4, 96, 181, 1, 5, 167, 255, 221, 3, 172]
abbrev dktX0_findRing_1 : List UInt8 := dkwX0_findRing_1 ++ []
def dkwX0_findRing_0 : List UInt8 := [42, 5, 181, 1, 5, 42, 180, 1, 5, 7, 163, 0, 33, 42, 3, 42, 180, 1, 5, 3, 4, 4]
abbrev dktX0_findRing_0 : List UInt8 := dkwX0_findRing_0 ++ dktX0_findRing_1
theorem dksX0_findRing_0 : cX0_findRing.data.toList.drop 0 = dktX0_findRing_0 := by decide +kernel
theorem dksX0_findRing_1 : cX0_findRing.data.toList.drop 22 = dktX0_findRing_1 := dk_seg dksX0_findRing_0 22 rfl rfl
theorem dX0_findRing_0 : decode cX0_findRing 0 = .ok (.aload_n 0, 1) := dk_42 (dk_at dksX0_findRing_0 0 rfl rfl)
theorem dX0_findRing_1 : decode cX0_findRing 1 = .ok (.iconst 2, 1) := dk_5 (dk_at dksX0_findRing_0 1 rfl rfl)
theorem dX0_findRing_2 : decode cX0_findRing 2 = .ok (.putfield 261, 3) := dk_181 1 5 (dk_at dksX0_findRing_0 2 rfl rfl)
theorem dX0_findRing_5 : decode cX0_findRing 5 = .ok (.aload_n 0, 1) := dk_42 (dk_at dksX0_findRing_0 5 rfl rfl)
theorem dX0_findRing_6 : decode cX0_findRing 6 = .ok (.getfield 261, 3) := dk_180 1 5 (dk_at dksX0_findRing_0 6 rfl rfl)
theorem dX0_findRing_9 : decode cX0_findRing 9 = .ok (.iconst 4, 1) := dk_7 (dk_at dksX0_findRing_0 9 rfl rfl)
theorem dX0_findRing_10 : decode cX0_findRing 10 = .ok (.if_icmp .gt 33, 3) := dk_163 0 33 (dk_at dksX0_findRing_0 10 rfl rfl)
theorem dX0_findRing_13 : decode cX0_findRing 13 = .ok (.aload_n 0, 1) := dk_42 (dk_at dksX0_findRing_0 13 rfl rfl)
theorem dX0_findRing_14 : decode cX0_findRing 14 = .ok (.iconst 0, 1) := dk_3 (dk_at dksX0_findRing_0 14 rfl rfl)
theorem dX0_findRing_15 : decode cX0_findRing 15 = .ok (.aload_n 0, 1) := dk_42 (dk_at dksX0_findRing_0 15 rfl rfl)
theorem dX0_findRing_16 : decode cX0_findRing 16 = .ok (.getfield 261, 3) := dk_180 1 5 (dk_at dksX0_findRing_0 16 rfl rfl)
theorem dX0_findRing_19 : decode cX0_findRing 19 = .ok (.iconst 0, 1) := dk_3 (dk_at dksX0_findRing_0 19 rfl rfl)
theorem dX0_findRing_20 : decode cX0_findRing 20 = .ok (.iconst 1, 1) := dk_4 (dk_at dksX0_findRing_0 20 rfl rfl)
theorem dX0_findRing_21 : decode cX0_findRing 21 = .ok (.iconst 1, 1) := dk_4 (dk_at dksX0_findRing_0 21 rfl rfl)
theorem dX0_findRing_22 : decode cX0_findRing 22 = .ok (.invokevirtual 257, 3) := dk_182 1 1 (dk_at dksX0_findRing_1 0 rfl rfl)
theorem dX0_findRing_25 : decode cX0_findRing 25 = .ok (.ifCond .eq 5, 3) := dk_153 0 5 (dk_at dksX0_findRing_1 3 rfl rfl)
theorem dX0_findRing_28 : decode cX0_findRing 28 = .ok (.iconst 1, 1) := dk_4 (dk_at dksX0_findRing_1 6 rfl rfl)
theorem dX0_findRing_29 : decode cX0_findRing 29 = .ok (.ireturn, 1) := dk_172 (dk_at dksX0_findRing_1 7 rfl rfl)
theorem dX0_findRing_30 : decode cX0_findRing 30 = .ok (.aload_n 0, 1) := dk_42 (dk_at dksX0_findRing_1 8 rfl rfl)
theorem dX0_findRing_31 : decode cX0_findRing 31 = .ok (.dup, 1) := dk_89 (dk_at dksX0_findRing_1 9 rfl rfl)
theorem dX0_findRing_32 : decode cX0_findRing 32 = .ok (.getfield 261, 3) := dk_180 1 5 (dk_at dksX0_findRing_1 10 rfl rfl)
theorem dX0_findRing_35 : decode cX0_findRing 35 = .ok (.iconst 1, 1) := dk_4 (dk_at dksX0_findRing_1 13 rfl rfl)
theorem dX0_findRing_36 : decode cX0_findRing 36 = .ok (.iadd, 1) := dk_96 (dk_at dksX0_findRing_1 14 rfl rfl)
theorem dX0_findRing_37 : decode cX0_findRing 37 = .ok (.putfield 261, 3) := dk_181 1 5 (dk_at dksX0_findRing_1 15 rfl rfl)
theorem dX0_findRing_40 : decode cX0_findRing 40 = .ok (.goto (-35), 3) := dk_167 255 221 (dk_at dksX0_findRing_1 18 rfl rfl)
theorem dX0_findRing_43 : decode cX0_findRing 43 = .ok (.iconst 0, 1) := dk_3 (dk_at dksX0_findRing_1 21 rfl rfl)
theorem dX0_findRing_44 : decode cX0_findRing 44 = .ok (.ireturn, 1) := dk_172 (dk_at dksX0_findRing_1 22 rfl rfl)
abbrev cX0_ringFrom : ByteArray := prog_1_method_28_code
def yX0_ringFrom : MethodName := ⟨RX0, "ringFrom", "(IIIII)Z"⟩
def dkwX0_ringFrom_8 : List UInt8 := [153, 0, 5, 4, 172, 132, 6, 1, 167, 255, 114, 3, 172]
abbrev dktX0_ringFrom_8 : List UInt8 := dkwX0_ringFrom_8 ++ []
def dkwX0_ringFrom_7 : List UInt8 := [180, 0, 184, 21, 6, 46, 104, 21, 5, 42, 180, 0, 10, 180, 0, 187, 21, 6, 46, 104, 182, 1, 1]
abbrev dktX0_ringFrom_7 : List UInt8 := dkwX0_ringFrom_7 ++ dktX0_ringFrom_8
def dkwX0_ringFrom_6 : List UInt8 := [27, 4, 96, 28, 29, 4, 42, 180, 0, 10, 180, 0, 178, 21, 6, 46, 120, 128, 21, 4, 42, 180, 0, 10]
abbrev dktX0_ringFrom_6 : List UInt8 := dkwX0_ringFrom_6 ++ dktX0_ringFrom_7
def dkwX0_ringFrom_5 : List UInt8 := [154, 0, 7, 4, 167, 0, 4, 3, 54, 7, 21, 7, 153, 0, 64, 42, 180, 0, 56, 27, 21, 6, 79, 42]
abbrev dktX0_ringFrom_5 : List UInt8 := dkwX0_ringFrom_5 ++ dktX0_ringFrom_6
def dkwX0_ringFrom_4 : List UInt8 := [100, 184, 0, 252, 46, 46, 160, 0, 24, 29, 42, 180, 0, 10, 180, 0, 178, 21, 6, 46, 184, 0, 204]
abbrev dktX0_ringFrom_4 : List UInt8 := dkwX0_ringFrom_4 ++ dktX0_ringFrom_5
def dkwX0_ringFrom_3 : List UInt8 := [42, 180, 0, 10, 180, 0, 178, 21, 6, 46, 42, 180, 0, 10, 180, 0, 181, 42, 180, 0, 56, 3, 27, 4]
abbrev dktX0_ringFrom_3 : List UInt8 := dkwX0_ringFrom_3 ++ dktX0_ringFrom_4
def dkwX0_ringFrom_2 : List UInt8 := [167, 0, 4, 3, 172, 3, 54, 6, 21, 6, 42, 180, 0, 10, 180, 0, 119, 162, 0, 136, 27, 153, 0, 36]
abbrev dktX0_ringFrom_2 : List UInt8 := dkwX0_ringFrom_2 ++ dktX0_ringFrom_3
def dkwX0_ringFrom_1 : List UInt8 := [180, 0, 10, 180, 0, 178, 42, 180, 0, 56, 3, 46, 46, 160, 0, 14, 21, 5, 21, 4, 164, 0, 7, 4]
abbrev dktX0_ringFrom_1 : List UInt8 := dkwX0_ringFrom_1 ++ dktX0_ringFrom_2
def dkwX0_ringFrom_0 : List UInt8 := [27, 28, 160, 0, 49, 42, 180, 0, 10, 180, 0, 181, 42, 180, 0, 56, 28, 4, 100, 46, 46, 42]
abbrev dktX0_ringFrom_0 : List UInt8 := dkwX0_ringFrom_0 ++ dktX0_ringFrom_1
theorem dksX0_ringFrom_0 : cX0_ringFrom.data.toList.drop 0 = dktX0_ringFrom_0 := by decide +kernel
theorem dksX0_ringFrom_1 : cX0_ringFrom.data.toList.drop 22 = dktX0_ringFrom_1 := dk_seg dksX0_ringFrom_0 22 rfl rfl
theorem dksX0_ringFrom_2 : cX0_ringFrom.data.toList.drop 46 = dktX0_ringFrom_2 := dk_seg dksX0_ringFrom_1 24 rfl rfl
theorem dksX0_ringFrom_3 : cX0_ringFrom.data.toList.drop 70 = dktX0_ringFrom_3 := dk_seg dksX0_ringFrom_2 24 rfl rfl
theorem dksX0_ringFrom_4 : cX0_ringFrom.data.toList.drop 94 = dktX0_ringFrom_4 := dk_seg dksX0_ringFrom_3 24 rfl rfl
theorem dksX0_ringFrom_5 : cX0_ringFrom.data.toList.drop 117 = dktX0_ringFrom_5 := dk_seg dksX0_ringFrom_4 23 rfl rfl
theorem dksX0_ringFrom_6 : cX0_ringFrom.data.toList.drop 141 = dktX0_ringFrom_6 := dk_seg dksX0_ringFrom_5 24 rfl rfl
theorem dksX0_ringFrom_7 : cX0_ringFrom.data.toList.drop 165 = dktX0_ringFrom_7 := dk_seg dksX0_ringFrom_6 24 rfl rfl
theorem dksX0_ringFrom_8 : cX0_ringFrom.data.toList.drop 188 = dktX0_ringFrom_8 := dk_seg dksX0_ringFrom_7 23 rfl rfl
theorem dX0_ringFrom_0 : decode cX0_ringFrom 0 = .ok (.iload_n 1, 1) := dk_27 (dk_at dksX0_ringFrom_0 0 rfl rfl)
theorem dX0_ringFrom_1 : decode cX0_ringFrom 1 = .ok (.iload_n 2, 1) := dk_28 (dk_at dksX0_ringFrom_0 1 rfl rfl)
theorem dX0_ringFrom_2 : decode cX0_ringFrom 2 = .ok (.if_icmp .ne 49, 3) := dk_160 0 49 (dk_at dksX0_ringFrom_0 2 rfl rfl)
theorem dX0_ringFrom_5 : decode cX0_ringFrom 5 = .ok (.aload_n 0, 1) := dk_42 (dk_at dksX0_ringFrom_0 5 rfl rfl)
theorem dX0_ringFrom_6 : decode cX0_ringFrom 6 = .ok (.getfield 10, 3) := dk_180 0 10 (dk_at dksX0_ringFrom_0 6 rfl rfl)
theorem dX0_ringFrom_9 : decode cX0_ringFrom 9 = .ok (.getfield 181, 3) := dk_180 0 181 (dk_at dksX0_ringFrom_0 9 rfl rfl)
theorem dX0_ringFrom_12 : decode cX0_ringFrom 12 = .ok (.aload_n 0, 1) := dk_42 (dk_at dksX0_ringFrom_0 12 rfl rfl)
theorem dX0_ringFrom_13 : decode cX0_ringFrom 13 = .ok (.getfield 56, 3) := dk_180 0 56 (dk_at dksX0_ringFrom_0 13 rfl rfl)
theorem dX0_ringFrom_16 : decode cX0_ringFrom 16 = .ok (.iload_n 2, 1) := dk_28 (dk_at dksX0_ringFrom_0 16 rfl rfl)
theorem dX0_ringFrom_17 : decode cX0_ringFrom 17 = .ok (.iconst 1, 1) := dk_4 (dk_at dksX0_ringFrom_0 17 rfl rfl)
theorem dX0_ringFrom_18 : decode cX0_ringFrom 18 = .ok (.isub, 1) := dk_100 (dk_at dksX0_ringFrom_0 18 rfl rfl)
theorem dX0_ringFrom_19 : decode cX0_ringFrom 19 = .ok (.iaload, 1) := dk_46 (dk_at dksX0_ringFrom_0 19 rfl rfl)
theorem dX0_ringFrom_20 : decode cX0_ringFrom 20 = .ok (.iaload, 1) := dk_46 (dk_at dksX0_ringFrom_0 20 rfl rfl)
theorem dX0_ringFrom_21 : decode cX0_ringFrom 21 = .ok (.aload_n 0, 1) := dk_42 (dk_at dksX0_ringFrom_0 21 rfl rfl)
theorem dX0_ringFrom_22 : decode cX0_ringFrom 22 = .ok (.getfield 10, 3) := dk_180 0 10 (dk_at dksX0_ringFrom_1 0 rfl rfl)
theorem dX0_ringFrom_25 : decode cX0_ringFrom 25 = .ok (.getfield 178, 3) := dk_180 0 178 (dk_at dksX0_ringFrom_1 3 rfl rfl)
theorem dX0_ringFrom_28 : decode cX0_ringFrom 28 = .ok (.aload_n 0, 1) := dk_42 (dk_at dksX0_ringFrom_1 6 rfl rfl)
theorem dX0_ringFrom_29 : decode cX0_ringFrom 29 = .ok (.getfield 56, 3) := dk_180 0 56 (dk_at dksX0_ringFrom_1 7 rfl rfl)
theorem dX0_ringFrom_32 : decode cX0_ringFrom 32 = .ok (.iconst 0, 1) := dk_3 (dk_at dksX0_ringFrom_1 10 rfl rfl)
theorem dX0_ringFrom_33 : decode cX0_ringFrom 33 = .ok (.iaload, 1) := dk_46 (dk_at dksX0_ringFrom_1 11 rfl rfl)
theorem dX0_ringFrom_34 : decode cX0_ringFrom 34 = .ok (.iaload, 1) := dk_46 (dk_at dksX0_ringFrom_1 12 rfl rfl)
theorem dX0_ringFrom_35 : decode cX0_ringFrom 35 = .ok (.if_icmp .ne 14, 3) := dk_160 0 14 (dk_at dksX0_ringFrom_1 13 rfl rfl)
theorem dX0_ringFrom_38 : decode cX0_ringFrom 38 = .ok (.iload 5, 2) := dk_21 5 (dk_at dksX0_ringFrom_1 16 rfl rfl)
theorem dX0_ringFrom_40 : decode cX0_ringFrom 40 = .ok (.iload 4, 2) := dk_21 4 (dk_at dksX0_ringFrom_1 18 rfl rfl)
theorem dX0_ringFrom_42 : decode cX0_ringFrom 42 = .ok (.if_icmp .le 7, 3) := dk_164 0 7 (dk_at dksX0_ringFrom_1 20 rfl rfl)
theorem dX0_ringFrom_45 : decode cX0_ringFrom 45 = .ok (.iconst 1, 1) := dk_4 (dk_at dksX0_ringFrom_1 23 rfl rfl)
theorem dX0_ringFrom_46 : decode cX0_ringFrom 46 = .ok (.goto 4, 3) := dk_167 0 4 (dk_at dksX0_ringFrom_2 0 rfl rfl)
theorem dX0_ringFrom_49 : decode cX0_ringFrom 49 = .ok (.iconst 0, 1) := dk_3 (dk_at dksX0_ringFrom_2 3 rfl rfl)
theorem dX0_ringFrom_50 : decode cX0_ringFrom 50 = .ok (.ireturn, 1) := dk_172 (dk_at dksX0_ringFrom_2 4 rfl rfl)
theorem dX0_ringFrom_51 : decode cX0_ringFrom 51 = .ok (.iconst 0, 1) := dk_3 (dk_at dksX0_ringFrom_2 5 rfl rfl)
theorem dX0_ringFrom_52 : decode cX0_ringFrom 52 = .ok (.istore 6, 2) := dk_54 6 (dk_at dksX0_ringFrom_2 6 rfl rfl)
theorem dX0_ringFrom_54 : decode cX0_ringFrom 54 = .ok (.iload 6, 2) := dk_21 6 (dk_at dksX0_ringFrom_2 8 rfl rfl)
theorem dX0_ringFrom_56 : decode cX0_ringFrom 56 = .ok (.aload_n 0, 1) := dk_42 (dk_at dksX0_ringFrom_2 10 rfl rfl)
theorem dX0_ringFrom_57 : decode cX0_ringFrom 57 = .ok (.getfield 10, 3) := dk_180 0 10 (dk_at dksX0_ringFrom_2 11 rfl rfl)
theorem dX0_ringFrom_60 : decode cX0_ringFrom 60 = .ok (.getfield 119, 3) := dk_180 0 119 (dk_at dksX0_ringFrom_2 14 rfl rfl)
theorem dX0_ringFrom_63 : decode cX0_ringFrom 63 = .ok (.if_icmp .ge 136, 3) := dk_162 0 136 (dk_at dksX0_ringFrom_2 17 rfl rfl)
theorem dX0_ringFrom_66 : decode cX0_ringFrom 66 = .ok (.iload_n 1, 1) := dk_27 (dk_at dksX0_ringFrom_2 20 rfl rfl)
theorem dX0_ringFrom_67 : decode cX0_ringFrom 67 = .ok (.ifCond .eq 36, 3) := dk_153 0 36 (dk_at dksX0_ringFrom_2 21 rfl rfl)
theorem dX0_ringFrom_70 : decode cX0_ringFrom 70 = .ok (.aload_n 0, 1) := dk_42 (dk_at dksX0_ringFrom_3 0 rfl rfl)
theorem dX0_ringFrom_71 : decode cX0_ringFrom 71 = .ok (.getfield 10, 3) := dk_180 0 10 (dk_at dksX0_ringFrom_3 1 rfl rfl)
theorem dX0_ringFrom_74 : decode cX0_ringFrom 74 = .ok (.getfield 178, 3) := dk_180 0 178 (dk_at dksX0_ringFrom_3 4 rfl rfl)
theorem dX0_ringFrom_77 : decode cX0_ringFrom 77 = .ok (.iload 6, 2) := dk_21 6 (dk_at dksX0_ringFrom_3 7 rfl rfl)
theorem dX0_ringFrom_79 : decode cX0_ringFrom 79 = .ok (.iaload, 1) := dk_46 (dk_at dksX0_ringFrom_3 9 rfl rfl)
theorem dX0_ringFrom_80 : decode cX0_ringFrom 80 = .ok (.aload_n 0, 1) := dk_42 (dk_at dksX0_ringFrom_3 10 rfl rfl)
theorem dX0_ringFrom_81 : decode cX0_ringFrom 81 = .ok (.getfield 10, 3) := dk_180 0 10 (dk_at dksX0_ringFrom_3 11 rfl rfl)
theorem dX0_ringFrom_84 : decode cX0_ringFrom 84 = .ok (.getfield 181, 3) := dk_180 0 181 (dk_at dksX0_ringFrom_3 14 rfl rfl)
theorem dX0_ringFrom_87 : decode cX0_ringFrom 87 = .ok (.aload_n 0, 1) := dk_42 (dk_at dksX0_ringFrom_3 17 rfl rfl)
theorem dX0_ringFrom_88 : decode cX0_ringFrom 88 = .ok (.getfield 56, 3) := dk_180 0 56 (dk_at dksX0_ringFrom_3 18 rfl rfl)
theorem dX0_ringFrom_91 : decode cX0_ringFrom 91 = .ok (.iconst 0, 1) := dk_3 (dk_at dksX0_ringFrom_3 21 rfl rfl)
theorem dX0_ringFrom_92 : decode cX0_ringFrom 92 = .ok (.iload_n 1, 1) := dk_27 (dk_at dksX0_ringFrom_3 22 rfl rfl)
theorem dX0_ringFrom_93 : decode cX0_ringFrom 93 = .ok (.iconst 1, 1) := dk_4 (dk_at dksX0_ringFrom_3 23 rfl rfl)
theorem dX0_ringFrom_94 : decode cX0_ringFrom 94 = .ok (.isub, 1) := dk_100 (dk_at dksX0_ringFrom_4 0 rfl rfl)
theorem dX0_ringFrom_95 : decode cX0_ringFrom 95 = .ok (.invokestatic 252, 3) := dk_184 0 252 (dk_at dksX0_ringFrom_4 1 rfl rfl)
theorem dX0_ringFrom_98 : decode cX0_ringFrom 98 = .ok (.iaload, 1) := dk_46 (dk_at dksX0_ringFrom_4 4 rfl rfl)
theorem dX0_ringFrom_99 : decode cX0_ringFrom 99 = .ok (.iaload, 1) := dk_46 (dk_at dksX0_ringFrom_4 5 rfl rfl)
theorem dX0_ringFrom_100 : decode cX0_ringFrom 100 = .ok (.if_icmp .ne 24, 3) := dk_160 0 24 (dk_at dksX0_ringFrom_4 6 rfl rfl)
theorem dX0_ringFrom_103 : decode cX0_ringFrom 103 = .ok (.iload_n 3, 1) := dk_29 (dk_at dksX0_ringFrom_4 9 rfl rfl)
theorem dX0_ringFrom_104 : decode cX0_ringFrom 104 = .ok (.aload_n 0, 1) := dk_42 (dk_at dksX0_ringFrom_4 10 rfl rfl)
theorem dX0_ringFrom_105 : decode cX0_ringFrom 105 = .ok (.getfield 10, 3) := dk_180 0 10 (dk_at dksX0_ringFrom_4 11 rfl rfl)
theorem dX0_ringFrom_108 : decode cX0_ringFrom 108 = .ok (.getfield 178, 3) := dk_180 0 178 (dk_at dksX0_ringFrom_4 14 rfl rfl)
theorem dX0_ringFrom_111 : decode cX0_ringFrom 111 = .ok (.iload 6, 2) := dk_21 6 (dk_at dksX0_ringFrom_4 17 rfl rfl)
theorem dX0_ringFrom_113 : decode cX0_ringFrom 113 = .ok (.iaload, 1) := dk_46 (dk_at dksX0_ringFrom_4 19 rfl rfl)
theorem dX0_ringFrom_114 : decode cX0_ringFrom 114 = .ok (.invokestatic 204, 3) := dk_184 0 204 (dk_at dksX0_ringFrom_4 20 rfl rfl)
theorem dX0_ringFrom_117 : decode cX0_ringFrom 117 = .ok (.ifCond .ne 7, 3) := dk_154 0 7 (dk_at dksX0_ringFrom_5 0 rfl rfl)
theorem dX0_ringFrom_120 : decode cX0_ringFrom 120 = .ok (.iconst 1, 1) := dk_4 (dk_at dksX0_ringFrom_5 3 rfl rfl)
theorem dX0_ringFrom_121 : decode cX0_ringFrom 121 = .ok (.goto 4, 3) := dk_167 0 4 (dk_at dksX0_ringFrom_5 4 rfl rfl)
theorem dX0_ringFrom_124 : decode cX0_ringFrom 124 = .ok (.iconst 0, 1) := dk_3 (dk_at dksX0_ringFrom_5 7 rfl rfl)
theorem dX0_ringFrom_125 : decode cX0_ringFrom 125 = .ok (.istore 7, 2) := dk_54 7 (dk_at dksX0_ringFrom_5 8 rfl rfl)
theorem dX0_ringFrom_127 : decode cX0_ringFrom 127 = .ok (.iload 7, 2) := dk_21 7 (dk_at dksX0_ringFrom_5 10 rfl rfl)
theorem dX0_ringFrom_129 : decode cX0_ringFrom 129 = .ok (.ifCond .eq 64, 3) := dk_153 0 64 (dk_at dksX0_ringFrom_5 12 rfl rfl)
theorem dX0_ringFrom_132 : decode cX0_ringFrom 132 = .ok (.aload_n 0, 1) := dk_42 (dk_at dksX0_ringFrom_5 15 rfl rfl)
theorem dX0_ringFrom_133 : decode cX0_ringFrom 133 = .ok (.getfield 56, 3) := dk_180 0 56 (dk_at dksX0_ringFrom_5 16 rfl rfl)
theorem dX0_ringFrom_136 : decode cX0_ringFrom 136 = .ok (.iload_n 1, 1) := dk_27 (dk_at dksX0_ringFrom_5 19 rfl rfl)
theorem dX0_ringFrom_137 : decode cX0_ringFrom 137 = .ok (.iload 6, 2) := dk_21 6 (dk_at dksX0_ringFrom_5 20 rfl rfl)
theorem dX0_ringFrom_139 : decode cX0_ringFrom 139 = .ok (.iastore, 1) := dk_79 (dk_at dksX0_ringFrom_5 22 rfl rfl)
theorem dX0_ringFrom_140 : decode cX0_ringFrom 140 = .ok (.aload_n 0, 1) := dk_42 (dk_at dksX0_ringFrom_5 23 rfl rfl)
theorem dX0_ringFrom_141 : decode cX0_ringFrom 141 = .ok (.iload_n 1, 1) := dk_27 (dk_at dksX0_ringFrom_6 0 rfl rfl)
theorem dX0_ringFrom_142 : decode cX0_ringFrom 142 = .ok (.iconst 1, 1) := dk_4 (dk_at dksX0_ringFrom_6 1 rfl rfl)
theorem dX0_ringFrom_143 : decode cX0_ringFrom 143 = .ok (.iadd, 1) := dk_96 (dk_at dksX0_ringFrom_6 2 rfl rfl)
theorem dX0_ringFrom_144 : decode cX0_ringFrom 144 = .ok (.iload_n 2, 1) := dk_28 (dk_at dksX0_ringFrom_6 3 rfl rfl)
theorem dX0_ringFrom_145 : decode cX0_ringFrom 145 = .ok (.iload_n 3, 1) := dk_29 (dk_at dksX0_ringFrom_6 4 rfl rfl)
theorem dX0_ringFrom_146 : decode cX0_ringFrom 146 = .ok (.iconst 1, 1) := dk_4 (dk_at dksX0_ringFrom_6 5 rfl rfl)
theorem dX0_ringFrom_147 : decode cX0_ringFrom 147 = .ok (.aload_n 0, 1) := dk_42 (dk_at dksX0_ringFrom_6 6 rfl rfl)
theorem dX0_ringFrom_148 : decode cX0_ringFrom 148 = .ok (.getfield 10, 3) := dk_180 0 10 (dk_at dksX0_ringFrom_6 7 rfl rfl)
theorem dX0_ringFrom_151 : decode cX0_ringFrom 151 = .ok (.getfield 178, 3) := dk_180 0 178 (dk_at dksX0_ringFrom_6 10 rfl rfl)
theorem dX0_ringFrom_154 : decode cX0_ringFrom 154 = .ok (.iload 6, 2) := dk_21 6 (dk_at dksX0_ringFrom_6 13 rfl rfl)
theorem dX0_ringFrom_156 : decode cX0_ringFrom 156 = .ok (.iaload, 1) := dk_46 (dk_at dksX0_ringFrom_6 15 rfl rfl)
theorem dX0_ringFrom_157 : decode cX0_ringFrom 157 = .ok (.ishl, 1) := dk_120 (dk_at dksX0_ringFrom_6 16 rfl rfl)
theorem dX0_ringFrom_158 : decode cX0_ringFrom 158 = .ok (.ior, 1) := dk_128 (dk_at dksX0_ringFrom_6 17 rfl rfl)
theorem dX0_ringFrom_159 : decode cX0_ringFrom 159 = .ok (.iload 4, 2) := dk_21 4 (dk_at dksX0_ringFrom_6 18 rfl rfl)
theorem dX0_ringFrom_161 : decode cX0_ringFrom 161 = .ok (.aload_n 0, 1) := dk_42 (dk_at dksX0_ringFrom_6 20 rfl rfl)
theorem dX0_ringFrom_162 : decode cX0_ringFrom 162 = .ok (.getfield 10, 3) := dk_180 0 10 (dk_at dksX0_ringFrom_6 21 rfl rfl)
theorem dX0_ringFrom_165 : decode cX0_ringFrom 165 = .ok (.getfield 184, 3) := dk_180 0 184 (dk_at dksX0_ringFrom_7 0 rfl rfl)
theorem dX0_ringFrom_168 : decode cX0_ringFrom 168 = .ok (.iload 6, 2) := dk_21 6 (dk_at dksX0_ringFrom_7 3 rfl rfl)
theorem dX0_ringFrom_170 : decode cX0_ringFrom 170 = .ok (.iaload, 1) := dk_46 (dk_at dksX0_ringFrom_7 5 rfl rfl)
theorem dX0_ringFrom_171 : decode cX0_ringFrom 171 = .ok (.imul, 1) := dk_104 (dk_at dksX0_ringFrom_7 6 rfl rfl)
theorem dX0_ringFrom_172 : decode cX0_ringFrom 172 = .ok (.iload 5, 2) := dk_21 5 (dk_at dksX0_ringFrom_7 7 rfl rfl)
theorem dX0_ringFrom_174 : decode cX0_ringFrom 174 = .ok (.aload_n 0, 1) := dk_42 (dk_at dksX0_ringFrom_7 9 rfl rfl)
theorem dX0_ringFrom_175 : decode cX0_ringFrom 175 = .ok (.getfield 10, 3) := dk_180 0 10 (dk_at dksX0_ringFrom_7 10 rfl rfl)
theorem dX0_ringFrom_178 : decode cX0_ringFrom 178 = .ok (.getfield 187, 3) := dk_180 0 187 (dk_at dksX0_ringFrom_7 13 rfl rfl)
theorem dX0_ringFrom_181 : decode cX0_ringFrom 181 = .ok (.iload 6, 2) := dk_21 6 (dk_at dksX0_ringFrom_7 16 rfl rfl)
theorem dX0_ringFrom_183 : decode cX0_ringFrom 183 = .ok (.iaload, 1) := dk_46 (dk_at dksX0_ringFrom_7 18 rfl rfl)
theorem dX0_ringFrom_184 : decode cX0_ringFrom 184 = .ok (.imul, 1) := dk_104 (dk_at dksX0_ringFrom_7 19 rfl rfl)
theorem dX0_ringFrom_185 : decode cX0_ringFrom 185 = .ok (.invokevirtual 257, 3) := dk_182 1 1 (dk_at dksX0_ringFrom_7 20 rfl rfl)
theorem dX0_ringFrom_188 : decode cX0_ringFrom 188 = .ok (.ifCond .eq 5, 3) := dk_153 0 5 (dk_at dksX0_ringFrom_8 0 rfl rfl)
theorem dX0_ringFrom_191 : decode cX0_ringFrom 191 = .ok (.iconst 1, 1) := dk_4 (dk_at dksX0_ringFrom_8 3 rfl rfl)
theorem dX0_ringFrom_192 : decode cX0_ringFrom 192 = .ok (.ireturn, 1) := dk_172 (dk_at dksX0_ringFrom_8 4 rfl rfl)
theorem dX0_ringFrom_193 : decode cX0_ringFrom 193 = .ok (.iinc 6 1, 3) := dk_132 6 1 (dk_at dksX0_ringFrom_8 5 rfl rfl)
theorem dX0_ringFrom_196 : decode cX0_ringFrom 196 = .ok (.goto (-142), 3) := dk_167 255 114 (dk_at dksX0_ringFrom_8 8 rfl rfl)
theorem dX0_ringFrom_199 : decode cX0_ringFrom 199 = .ok (.iconst 0, 1) := dk_3 (dk_at dksX0_ringFrom_8 11 rfl rfl)
theorem dX0_ringFrom_200 : decode cX0_ringFrom 200 = .ok (.ireturn, 1) := dk_172 (dk_at dksX0_ringFrom_8 12 rfl rfl)
abbrev cX0_mended : ByteArray := prog_1_method_31_code
def yX0_mended : MethodName := ⟨RX0, "mended", "()I"⟩
def dkwX0_mended_6 : List UInt8 := [167, 0, 4, 27, 60, 132, 3, 1, 167, 255, 114, 27, 172]
abbrev dktX0_mended_6 : List UInt8 := dkwX0_mended_6 ++ []
def dkwX0_mended_5 : List UInt8 := [163, 0, 27, 27, 2, 159, 0, 13, 42, 180, 0, 56, 29, 46, 27, 162, 0, 12, 42, 180, 0, 56, 29, 46]
abbrev dktX0_mended_5 : List UInt8 := dkwX0_mended_5 ++ dktX0_mended_6
def dkwX0_mended_4 : List UInt8 := [180, 0, 187, 42, 180, 0, 56, 21, 6, 46, 46, 104, 54, 5, 132, 6, 1, 167, 255, 174, 21, 5, 21, 4]
abbrev dktX0_mended_4 : List UInt8 := dkwX0_mended_4 ++ dktX0_mended_5
def dkwX0_mended_3 : List UInt8 := [180, 0, 187, 42, 180, 0, 56, 21, 6, 46, 46, 4, 100, 184, 0, 252, 167, 0, 18, 42, 180, 0, 10]
abbrev dktX0_mended_3 : List UInt8 := dkwX0_mended_3 ++ dktX0_mended_4
def dkwX0_mended_2 : List UInt8 := [42, 180, 0, 56, 21, 6, 46, 46, 104, 54, 4, 21, 5, 29, 21, 6, 160, 0, 27, 4, 42, 180, 0, 10]
abbrev dktX0_mended_2 : List UInt8 := dkwX0_mended_2 ++ dktX0_mended_3
def dkwX0_mended_1 : List UInt8 := [4, 54, 5, 3, 54, 6, 21, 6, 42, 180, 1, 5, 162, 0, 79, 21, 4, 42, 180, 0, 10, 180, 0, 184]
abbrev dktX0_mended_1 : List UInt8 := dkwX0_mended_1 ++ dktX0_mended_2
def dkwX0_mended_0 : List UInt8 := [2, 60, 42, 182, 1, 8, 61, 3, 62, 28, 153, 0, 144, 29, 42, 180, 1, 5, 162, 0, 136, 4, 54, 4]
abbrev dktX0_mended_0 : List UInt8 := dkwX0_mended_0 ++ dktX0_mended_1
theorem dksX0_mended_0 : cX0_mended.data.toList.drop 0 = dktX0_mended_0 := by decide +kernel
theorem dksX0_mended_1 : cX0_mended.data.toList.drop 24 = dktX0_mended_1 := dk_seg dksX0_mended_0 24 rfl rfl
theorem dksX0_mended_2 : cX0_mended.data.toList.drop 48 = dktX0_mended_2 := dk_seg dksX0_mended_1 24 rfl rfl
theorem dksX0_mended_3 : cX0_mended.data.toList.drop 72 = dktX0_mended_3 := dk_seg dksX0_mended_2 24 rfl rfl
theorem dksX0_mended_4 : cX0_mended.data.toList.drop 95 = dktX0_mended_4 := dk_seg dksX0_mended_3 23 rfl rfl
theorem dksX0_mended_5 : cX0_mended.data.toList.drop 119 = dktX0_mended_5 := dk_seg dksX0_mended_4 24 rfl rfl
theorem dksX0_mended_6 : cX0_mended.data.toList.drop 143 = dktX0_mended_6 := dk_seg dksX0_mended_5 24 rfl rfl
theorem dX0_mended_0 : decode cX0_mended 0 = .ok (.iconst (-1), 1) := dk_2 (dk_at dksX0_mended_0 0 rfl rfl)
theorem dX0_mended_1 : decode cX0_mended 1 = .ok (.istore_n 1, 1) := dk_60 (dk_at dksX0_mended_0 1 rfl rfl)
theorem dX0_mended_2 : decode cX0_mended 2 = .ok (.aload_n 0, 1) := dk_42 (dk_at dksX0_mended_0 2 rfl rfl)
theorem dX0_mended_3 : decode cX0_mended 3 = .ok (.invokevirtual 264, 3) := dk_182 1 8 (dk_at dksX0_mended_0 3 rfl rfl)
theorem dX0_mended_6 : decode cX0_mended 6 = .ok (.istore_n 2, 1) := dk_61 (dk_at dksX0_mended_0 6 rfl rfl)
theorem dX0_mended_7 : decode cX0_mended 7 = .ok (.iconst 0, 1) := dk_3 (dk_at dksX0_mended_0 7 rfl rfl)
theorem dX0_mended_8 : decode cX0_mended 8 = .ok (.istore_n 3, 1) := dk_62 (dk_at dksX0_mended_0 8 rfl rfl)
theorem dX0_mended_9 : decode cX0_mended 9 = .ok (.iload_n 2, 1) := dk_28 (dk_at dksX0_mended_0 9 rfl rfl)
theorem dX0_mended_10 : decode cX0_mended 10 = .ok (.ifCond .eq 144, 3) := dk_153 0 144 (dk_at dksX0_mended_0 10 rfl rfl)
theorem dX0_mended_13 : decode cX0_mended 13 = .ok (.iload_n 3, 1) := dk_29 (dk_at dksX0_mended_0 13 rfl rfl)
theorem dX0_mended_14 : decode cX0_mended 14 = .ok (.aload_n 0, 1) := dk_42 (dk_at dksX0_mended_0 14 rfl rfl)
theorem dX0_mended_15 : decode cX0_mended 15 = .ok (.getfield 261, 3) := dk_180 1 5 (dk_at dksX0_mended_0 15 rfl rfl)
theorem dX0_mended_18 : decode cX0_mended 18 = .ok (.if_icmp .ge 136, 3) := dk_162 0 136 (dk_at dksX0_mended_0 18 rfl rfl)
theorem dX0_mended_21 : decode cX0_mended 21 = .ok (.iconst 1, 1) := dk_4 (dk_at dksX0_mended_0 21 rfl rfl)
theorem dX0_mended_22 : decode cX0_mended 22 = .ok (.istore 4, 2) := dk_54 4 (dk_at dksX0_mended_0 22 rfl rfl)
theorem dX0_mended_24 : decode cX0_mended 24 = .ok (.iconst 1, 1) := dk_4 (dk_at dksX0_mended_1 0 rfl rfl)
theorem dX0_mended_25 : decode cX0_mended 25 = .ok (.istore 5, 2) := dk_54 5 (dk_at dksX0_mended_1 1 rfl rfl)
theorem dX0_mended_27 : decode cX0_mended 27 = .ok (.iconst 0, 1) := dk_3 (dk_at dksX0_mended_1 3 rfl rfl)
theorem dX0_mended_28 : decode cX0_mended 28 = .ok (.istore 6, 2) := dk_54 6 (dk_at dksX0_mended_1 4 rfl rfl)
theorem dX0_mended_30 : decode cX0_mended 30 = .ok (.iload 6, 2) := dk_21 6 (dk_at dksX0_mended_1 6 rfl rfl)
theorem dX0_mended_32 : decode cX0_mended 32 = .ok (.aload_n 0, 1) := dk_42 (dk_at dksX0_mended_1 8 rfl rfl)
theorem dX0_mended_33 : decode cX0_mended 33 = .ok (.getfield 261, 3) := dk_180 1 5 (dk_at dksX0_mended_1 9 rfl rfl)
theorem dX0_mended_36 : decode cX0_mended 36 = .ok (.if_icmp .ge 79, 3) := dk_162 0 79 (dk_at dksX0_mended_1 12 rfl rfl)
theorem dX0_mended_39 : decode cX0_mended 39 = .ok (.iload 4, 2) := dk_21 4 (dk_at dksX0_mended_1 15 rfl rfl)
theorem dX0_mended_41 : decode cX0_mended 41 = .ok (.aload_n 0, 1) := dk_42 (dk_at dksX0_mended_1 17 rfl rfl)
theorem dX0_mended_42 : decode cX0_mended 42 = .ok (.getfield 10, 3) := dk_180 0 10 (dk_at dksX0_mended_1 18 rfl rfl)
theorem dX0_mended_45 : decode cX0_mended 45 = .ok (.getfield 184, 3) := dk_180 0 184 (dk_at dksX0_mended_1 21 rfl rfl)
theorem dX0_mended_48 : decode cX0_mended 48 = .ok (.aload_n 0, 1) := dk_42 (dk_at dksX0_mended_2 0 rfl rfl)
theorem dX0_mended_49 : decode cX0_mended 49 = .ok (.getfield 56, 3) := dk_180 0 56 (dk_at dksX0_mended_2 1 rfl rfl)
theorem dX0_mended_52 : decode cX0_mended 52 = .ok (.iload 6, 2) := dk_21 6 (dk_at dksX0_mended_2 4 rfl rfl)
theorem dX0_mended_54 : decode cX0_mended 54 = .ok (.iaload, 1) := dk_46 (dk_at dksX0_mended_2 6 rfl rfl)
theorem dX0_mended_55 : decode cX0_mended 55 = .ok (.iaload, 1) := dk_46 (dk_at dksX0_mended_2 7 rfl rfl)
theorem dX0_mended_56 : decode cX0_mended 56 = .ok (.imul, 1) := dk_104 (dk_at dksX0_mended_2 8 rfl rfl)
theorem dX0_mended_57 : decode cX0_mended 57 = .ok (.istore 4, 2) := dk_54 4 (dk_at dksX0_mended_2 9 rfl rfl)
theorem dX0_mended_59 : decode cX0_mended 59 = .ok (.iload 5, 2) := dk_21 5 (dk_at dksX0_mended_2 11 rfl rfl)
theorem dX0_mended_61 : decode cX0_mended 61 = .ok (.iload_n 3, 1) := dk_29 (dk_at dksX0_mended_2 13 rfl rfl)
theorem dX0_mended_62 : decode cX0_mended 62 = .ok (.iload 6, 2) := dk_21 6 (dk_at dksX0_mended_2 14 rfl rfl)
theorem dX0_mended_64 : decode cX0_mended 64 = .ok (.if_icmp .ne 27, 3) := dk_160 0 27 (dk_at dksX0_mended_2 16 rfl rfl)
theorem dX0_mended_67 : decode cX0_mended 67 = .ok (.iconst 1, 1) := dk_4 (dk_at dksX0_mended_2 19 rfl rfl)
theorem dX0_mended_68 : decode cX0_mended 68 = .ok (.aload_n 0, 1) := dk_42 (dk_at dksX0_mended_2 20 rfl rfl)
theorem dX0_mended_69 : decode cX0_mended 69 = .ok (.getfield 10, 3) := dk_180 0 10 (dk_at dksX0_mended_2 21 rfl rfl)
theorem dX0_mended_72 : decode cX0_mended 72 = .ok (.getfield 187, 3) := dk_180 0 187 (dk_at dksX0_mended_3 0 rfl rfl)
theorem dX0_mended_75 : decode cX0_mended 75 = .ok (.aload_n 0, 1) := dk_42 (dk_at dksX0_mended_3 3 rfl rfl)
theorem dX0_mended_76 : decode cX0_mended 76 = .ok (.getfield 56, 3) := dk_180 0 56 (dk_at dksX0_mended_3 4 rfl rfl)
theorem dX0_mended_79 : decode cX0_mended 79 = .ok (.iload 6, 2) := dk_21 6 (dk_at dksX0_mended_3 7 rfl rfl)
theorem dX0_mended_81 : decode cX0_mended 81 = .ok (.iaload, 1) := dk_46 (dk_at dksX0_mended_3 9 rfl rfl)
theorem dX0_mended_82 : decode cX0_mended 82 = .ok (.iaload, 1) := dk_46 (dk_at dksX0_mended_3 10 rfl rfl)
theorem dX0_mended_83 : decode cX0_mended 83 = .ok (.iconst 1, 1) := dk_4 (dk_at dksX0_mended_3 11 rfl rfl)
theorem dX0_mended_84 : decode cX0_mended 84 = .ok (.isub, 1) := dk_100 (dk_at dksX0_mended_3 12 rfl rfl)
theorem dX0_mended_85 : decode cX0_mended 85 = .ok (.invokestatic 252, 3) := dk_184 0 252 (dk_at dksX0_mended_3 13 rfl rfl)
theorem dX0_mended_88 : decode cX0_mended 88 = .ok (.goto 18, 3) := dk_167 0 18 (dk_at dksX0_mended_3 16 rfl rfl)
theorem dX0_mended_91 : decode cX0_mended 91 = .ok (.aload_n 0, 1) := dk_42 (dk_at dksX0_mended_3 19 rfl rfl)
theorem dX0_mended_92 : decode cX0_mended 92 = .ok (.getfield 10, 3) := dk_180 0 10 (dk_at dksX0_mended_3 20 rfl rfl)
theorem dX0_mended_95 : decode cX0_mended 95 = .ok (.getfield 187, 3) := dk_180 0 187 (dk_at dksX0_mended_4 0 rfl rfl)
theorem dX0_mended_98 : decode cX0_mended 98 = .ok (.aload_n 0, 1) := dk_42 (dk_at dksX0_mended_4 3 rfl rfl)
theorem dX0_mended_99 : decode cX0_mended 99 = .ok (.getfield 56, 3) := dk_180 0 56 (dk_at dksX0_mended_4 4 rfl rfl)
theorem dX0_mended_102 : decode cX0_mended 102 = .ok (.iload 6, 2) := dk_21 6 (dk_at dksX0_mended_4 7 rfl rfl)
theorem dX0_mended_104 : decode cX0_mended 104 = .ok (.iaload, 1) := dk_46 (dk_at dksX0_mended_4 9 rfl rfl)
theorem dX0_mended_105 : decode cX0_mended 105 = .ok (.iaload, 1) := dk_46 (dk_at dksX0_mended_4 10 rfl rfl)
theorem dX0_mended_106 : decode cX0_mended 106 = .ok (.imul, 1) := dk_104 (dk_at dksX0_mended_4 11 rfl rfl)
theorem dX0_mended_107 : decode cX0_mended 107 = .ok (.istore 5, 2) := dk_54 5 (dk_at dksX0_mended_4 12 rfl rfl)
theorem dX0_mended_109 : decode cX0_mended 109 = .ok (.iinc 6 1, 3) := dk_132 6 1 (dk_at dksX0_mended_4 14 rfl rfl)
theorem dX0_mended_112 : decode cX0_mended 112 = .ok (.goto (-82), 3) := dk_167 255 174 (dk_at dksX0_mended_4 17 rfl rfl)
theorem dX0_mended_115 : decode cX0_mended 115 = .ok (.iload 5, 2) := dk_21 5 (dk_at dksX0_mended_4 20 rfl rfl)
theorem dX0_mended_117 : decode cX0_mended 117 = .ok (.iload 4, 2) := dk_21 4 (dk_at dksX0_mended_4 22 rfl rfl)
theorem dX0_mended_119 : decode cX0_mended 119 = .ok (.if_icmp .gt 27, 3) := dk_163 0 27 (dk_at dksX0_mended_5 0 rfl rfl)
theorem dX0_mended_122 : decode cX0_mended 122 = .ok (.iload_n 1, 1) := dk_27 (dk_at dksX0_mended_5 3 rfl rfl)
theorem dX0_mended_123 : decode cX0_mended 123 = .ok (.iconst (-1), 1) := dk_2 (dk_at dksX0_mended_5 4 rfl rfl)
theorem dX0_mended_124 : decode cX0_mended 124 = .ok (.if_icmp .eq 13, 3) := dk_159 0 13 (dk_at dksX0_mended_5 5 rfl rfl)
theorem dX0_mended_127 : decode cX0_mended 127 = .ok (.aload_n 0, 1) := dk_42 (dk_at dksX0_mended_5 8 rfl rfl)
theorem dX0_mended_128 : decode cX0_mended 128 = .ok (.getfield 56, 3) := dk_180 0 56 (dk_at dksX0_mended_5 9 rfl rfl)
theorem dX0_mended_131 : decode cX0_mended 131 = .ok (.iload_n 3, 1) := dk_29 (dk_at dksX0_mended_5 12 rfl rfl)
theorem dX0_mended_132 : decode cX0_mended 132 = .ok (.iaload, 1) := dk_46 (dk_at dksX0_mended_5 13 rfl rfl)
theorem dX0_mended_133 : decode cX0_mended 133 = .ok (.iload_n 1, 1) := dk_27 (dk_at dksX0_mended_5 14 rfl rfl)
theorem dX0_mended_134 : decode cX0_mended 134 = .ok (.if_icmp .ge 12, 3) := dk_162 0 12 (dk_at dksX0_mended_5 15 rfl rfl)
theorem dX0_mended_137 : decode cX0_mended 137 = .ok (.aload_n 0, 1) := dk_42 (dk_at dksX0_mended_5 18 rfl rfl)
theorem dX0_mended_138 : decode cX0_mended 138 = .ok (.getfield 56, 3) := dk_180 0 56 (dk_at dksX0_mended_5 19 rfl rfl)
theorem dX0_mended_141 : decode cX0_mended 141 = .ok (.iload_n 3, 1) := dk_29 (dk_at dksX0_mended_5 22 rfl rfl)
theorem dX0_mended_142 : decode cX0_mended 142 = .ok (.iaload, 1) := dk_46 (dk_at dksX0_mended_5 23 rfl rfl)
theorem dX0_mended_143 : decode cX0_mended 143 = .ok (.goto 4, 3) := dk_167 0 4 (dk_at dksX0_mended_6 0 rfl rfl)
theorem dX0_mended_146 : decode cX0_mended 146 = .ok (.iload_n 1, 1) := dk_27 (dk_at dksX0_mended_6 3 rfl rfl)
theorem dX0_mended_147 : decode cX0_mended 147 = .ok (.istore_n 1, 1) := dk_60 (dk_at dksX0_mended_6 4 rfl rfl)
theorem dX0_mended_148 : decode cX0_mended 148 = .ok (.iinc 3 1, 3) := dk_132 3 1 (dk_at dksX0_mended_6 5 rfl rfl)
theorem dX0_mended_151 : decode cX0_mended 151 = .ok (.goto (-142), 3) := dk_167 255 114 (dk_at dksX0_mended_6 8 rfl rfl)
theorem dX0_mended_154 : decode cX0_mended 154 = .ok (.iload_n 1, 1) := dk_27 (dk_at dksX0_mended_6 11 rfl rfl)
theorem dX0_mended_155 : decode cX0_mended 155 = .ok (.ireturn, 1) := dk_172 (dk_at dksX0_mended_6 12 rfl rfl)
abbrev cX0_heirs : ByteArray := prog_1_method_33_code
def yX0_heirs : MethodName := ⟨RX0, "heirs", "(I)I"⟩
def dkwX0_heirs_2 : List UInt8 := [160, 0, 10, 42, 180, 1, 11, 167, 0, 9, 42, 180, 0, 62, 27, 46, 172]
abbrev dktX0_heirs_2 : List UInt8 := dkwX0_heirs_2 ++ []
def dkwX0_heirs_1 : List UInt8 := [184, 1, 20, 5, 162, 0, 5, 2, 172, 42, 18, 251, 181, 1, 11, 42, 3, 3, 3, 182, 1, 14, 27, 2]
abbrev dktX0_heirs_1 : List UInt8 := dkwX0_heirs_1 ++ dktX0_heirs_2
def dkwX0_heirs_0 : List UInt8 := [27, 2, 159, 0, 14, 42, 27, 182, 0, 138, 154, 0, 6, 18, 142, 172, 42, 180, 0, 21, 180, 0, 125]
abbrev dktX0_heirs_0 : List UInt8 := dkwX0_heirs_0 ++ dktX0_heirs_1
theorem dksX0_heirs_0 : cX0_heirs.data.toList.drop 0 = dktX0_heirs_0 := by decide +kernel
theorem dksX0_heirs_1 : cX0_heirs.data.toList.drop 23 = dktX0_heirs_1 := dk_seg dksX0_heirs_0 23 rfl rfl
theorem dksX0_heirs_2 : cX0_heirs.data.toList.drop 47 = dktX0_heirs_2 := dk_seg dksX0_heirs_1 24 rfl rfl
theorem dX0_heirs_0 : decode cX0_heirs 0 = .ok (.iload_n 1, 1) := dk_27 (dk_at dksX0_heirs_0 0 rfl rfl)
theorem dX0_heirs_1 : decode cX0_heirs 1 = .ok (.iconst (-1), 1) := dk_2 (dk_at dksX0_heirs_0 1 rfl rfl)
theorem dX0_heirs_2 : decode cX0_heirs 2 = .ok (.if_icmp .eq 14, 3) := dk_159 0 14 (dk_at dksX0_heirs_0 2 rfl rfl)
theorem dX0_heirs_5 : decode cX0_heirs 5 = .ok (.aload_n 0, 1) := dk_42 (dk_at dksX0_heirs_0 5 rfl rfl)
theorem dX0_heirs_6 : decode cX0_heirs 6 = .ok (.iload_n 1, 1) := dk_27 (dk_at dksX0_heirs_0 6 rfl rfl)
theorem dX0_heirs_7 : decode cX0_heirs 7 = .ok (.invokevirtual 138, 3) := dk_182 0 138 (dk_at dksX0_heirs_0 7 rfl rfl)
theorem dX0_heirs_10 : decode cX0_heirs 10 = .ok (.ifCond .ne 6, 3) := dk_154 0 6 (dk_at dksX0_heirs_0 10 rfl rfl)
theorem dX0_heirs_13 : decode cX0_heirs 13 = .ok (.ldc 142, 2) := dk_18 142 (dk_at dksX0_heirs_0 13 rfl rfl)
theorem dX0_heirs_15 : decode cX0_heirs 15 = .ok (.ireturn, 1) := dk_172 (dk_at dksX0_heirs_0 15 rfl rfl)
theorem dX0_heirs_16 : decode cX0_heirs 16 = .ok (.aload_n 0, 1) := dk_42 (dk_at dksX0_heirs_0 16 rfl rfl)
theorem dX0_heirs_17 : decode cX0_heirs 17 = .ok (.getfield 21, 3) := dk_180 0 21 (dk_at dksX0_heirs_0 17 rfl rfl)
theorem dX0_heirs_20 : decode cX0_heirs 20 = .ok (.getfield 125, 3) := dk_180 0 125 (dk_at dksX0_heirs_0 20 rfl rfl)
theorem dX0_heirs_23 : decode cX0_heirs 23 = .ok (.invokestatic 276, 3) := dk_184 1 20 (dk_at dksX0_heirs_1 0 rfl rfl)
theorem dX0_heirs_26 : decode cX0_heirs 26 = .ok (.iconst 2, 1) := dk_5 (dk_at dksX0_heirs_1 3 rfl rfl)
theorem dX0_heirs_27 : decode cX0_heirs 27 = .ok (.if_icmp .ge 5, 3) := dk_162 0 5 (dk_at dksX0_heirs_1 4 rfl rfl)
theorem dX0_heirs_30 : decode cX0_heirs 30 = .ok (.iconst (-1), 1) := dk_2 (dk_at dksX0_heirs_1 7 rfl rfl)
theorem dX0_heirs_31 : decode cX0_heirs 31 = .ok (.ireturn, 1) := dk_172 (dk_at dksX0_heirs_1 8 rfl rfl)
theorem dX0_heirs_32 : decode cX0_heirs 32 = .ok (.aload_n 0, 1) := dk_42 (dk_at dksX0_heirs_1 9 rfl rfl)
theorem dX0_heirs_33 : decode cX0_heirs 33 = .ok (.ldc 251, 2) := dk_18 251 (dk_at dksX0_heirs_1 10 rfl rfl)
theorem dX0_heirs_35 : decode cX0_heirs 35 = .ok (.putfield 267, 3) := dk_181 1 11 (dk_at dksX0_heirs_1 12 rfl rfl)
theorem dX0_heirs_38 : decode cX0_heirs 38 = .ok (.aload_n 0, 1) := dk_42 (dk_at dksX0_heirs_1 15 rfl rfl)
theorem dX0_heirs_39 : decode cX0_heirs 39 = .ok (.iconst 0, 1) := dk_3 (dk_at dksX0_heirs_1 16 rfl rfl)
theorem dX0_heirs_40 : decode cX0_heirs 40 = .ok (.iconst 0, 1) := dk_3 (dk_at dksX0_heirs_1 17 rfl rfl)
theorem dX0_heirs_41 : decode cX0_heirs 41 = .ok (.iconst 0, 1) := dk_3 (dk_at dksX0_heirs_1 18 rfl rfl)
theorem dX0_heirs_42 : decode cX0_heirs 42 = .ok (.invokevirtual 270, 3) := dk_182 1 14 (dk_at dksX0_heirs_1 19 rfl rfl)
theorem dX0_heirs_45 : decode cX0_heirs 45 = .ok (.iload_n 1, 1) := dk_27 (dk_at dksX0_heirs_1 22 rfl rfl)
theorem dX0_heirs_46 : decode cX0_heirs 46 = .ok (.iconst (-1), 1) := dk_2 (dk_at dksX0_heirs_1 23 rfl rfl)
theorem dX0_heirs_47 : decode cX0_heirs 47 = .ok (.if_icmp .ne 10, 3) := dk_160 0 10 (dk_at dksX0_heirs_2 0 rfl rfl)
theorem dX0_heirs_50 : decode cX0_heirs 50 = .ok (.aload_n 0, 1) := dk_42 (dk_at dksX0_heirs_2 3 rfl rfl)
theorem dX0_heirs_51 : decode cX0_heirs 51 = .ok (.getfield 267, 3) := dk_180 1 11 (dk_at dksX0_heirs_2 4 rfl rfl)
theorem dX0_heirs_54 : decode cX0_heirs 54 = .ok (.goto 9, 3) := dk_167 0 9 (dk_at dksX0_heirs_2 7 rfl rfl)
theorem dX0_heirs_57 : decode cX0_heirs 57 = .ok (.aload_n 0, 1) := dk_42 (dk_at dksX0_heirs_2 10 rfl rfl)
theorem dX0_heirs_58 : decode cX0_heirs 58 = .ok (.getfield 62, 3) := dk_180 0 62 (dk_at dksX0_heirs_2 11 rfl rfl)
theorem dX0_heirs_61 : decode cX0_heirs 61 = .ok (.iload_n 1, 1) := dk_27 (dk_at dksX0_heirs_2 14 rfl rfl)
theorem dX0_heirs_62 : decode cX0_heirs 62 = .ok (.iaload, 1) := dk_46 (dk_at dksX0_heirs_2 15 rfl rfl)
theorem dX0_heirs_63 : decode cX0_heirs 63 = .ok (.ireturn, 1) := dk_172 (dk_at dksX0_heirs_2 16 rfl rfl)
abbrev cX0_heirFrom : ByteArray := prog_1_method_32_code
def yX0_heirFrom : MethodName := ⟨RX0, "heirFrom", "(III)V"⟩
def dkwX0_heirFrom_7 : List UInt8 := [132, 4, 1, 167, 255, 170, 177]
abbrev dktX0_heirFrom_7 : List UInt8 := dkwX0_heirFrom_7 ++ []
def dkwX0_heirFrom_6 : List UInt8 := [180, 0, 153, 27, 46, 42, 180, 0, 21, 180, 0, 153, 21, 4, 46, 100, 184, 1, 17, 96, 182, 1, 14]
abbrev dktX0_heirFrom_6 : List UInt8 := dkwX0_heirFrom_6 ++ dktX0_heirFrom_7
def dkwX0_heirFrom_5 : List UInt8 := [180, 0, 59, 27, 21, 4, 79, 42, 27, 4, 96, 28, 4, 21, 4, 120, 128, 29, 42, 180, 0, 21]
abbrev dktX0_heirFrom_5 : List UInt8 := dkwX0_heirFrom_5 ++ dktX0_heirFrom_6
def dkwX0_heirFrom_4 : List UInt8 := [159, 0, 68, 42, 180, 0, 21, 180, 0, 125, 28, 2, 130, 126, 21, 4, 184, 0, 204, 153, 0, 49, 42]
abbrev dktX0_heirFrom_4 : List UInt8 := dkwX0_heirFrom_4 ++ dktX0_heirFrom_5
def dkwX0_heirFrom_3 : List UInt8 := [182, 1, 14, 177, 3, 54, 4, 21, 4, 42, 180, 0, 10, 180, 0, 110, 162, 0, 80, 21, 4, 27]
abbrev dktX0_heirFrom_3 : List UInt8 := dkwX0_heirFrom_3 ++ dktX0_heirFrom_4
def dkwX0_heirFrom_2 : List UInt8 := [2, 79, 42, 180, 0, 21, 180, 0, 125, 27, 184, 0, 204, 154, 0, 13, 42, 27, 4, 96, 28, 29]
abbrev dktX0_heirFrom_2 : List UInt8 := dkwX0_heirFrom_2 ++ dktX0_heirFrom_3
def dkwX0_heirFrom_1 : List UInt8 := [181, 1, 11, 42, 180, 0, 59, 3, 42, 180, 0, 62, 3, 16, 6, 184, 0, 235, 177, 42, 180, 0, 59, 27]
abbrev dktX0_heirFrom_1 : List UInt8 := dkwX0_heirFrom_1 ++ dktX0_heirFrom_2
def dkwX0_heirFrom_0 : List UInt8 := [29, 42, 180, 1, 11, 161, 0, 4, 177, 27, 42, 180, 0, 10, 180, 0, 110, 160, 0, 24, 42, 29]
abbrev dktX0_heirFrom_0 : List UInt8 := dkwX0_heirFrom_0 ++ dktX0_heirFrom_1
theorem dksX0_heirFrom_0 : cX0_heirFrom.data.toList.drop 0 = dktX0_heirFrom_0 := by decide +kernel
theorem dksX0_heirFrom_1 : cX0_heirFrom.data.toList.drop 22 = dktX0_heirFrom_1 := dk_seg dksX0_heirFrom_0 22 rfl rfl
theorem dksX0_heirFrom_2 : cX0_heirFrom.data.toList.drop 46 = dktX0_heirFrom_2 := dk_seg dksX0_heirFrom_1 24 rfl rfl
theorem dksX0_heirFrom_3 : cX0_heirFrom.data.toList.drop 68 = dktX0_heirFrom_3 := dk_seg dksX0_heirFrom_2 22 rfl rfl
theorem dksX0_heirFrom_4 : cX0_heirFrom.data.toList.drop 90 = dktX0_heirFrom_4 := dk_seg dksX0_heirFrom_3 22 rfl rfl
theorem dksX0_heirFrom_5 : cX0_heirFrom.data.toList.drop 113 = dktX0_heirFrom_5 := dk_seg dksX0_heirFrom_4 23 rfl rfl
theorem dksX0_heirFrom_6 : cX0_heirFrom.data.toList.drop 135 = dktX0_heirFrom_6 := dk_seg dksX0_heirFrom_5 22 rfl rfl
theorem dksX0_heirFrom_7 : cX0_heirFrom.data.toList.drop 158 = dktX0_heirFrom_7 := dk_seg dksX0_heirFrom_6 23 rfl rfl
theorem dX0_heirFrom_0 : decode cX0_heirFrom 0 = .ok (.iload_n 3, 1) := dk_29 (dk_at dksX0_heirFrom_0 0 rfl rfl)
theorem dX0_heirFrom_1 : decode cX0_heirFrom 1 = .ok (.aload_n 0, 1) := dk_42 (dk_at dksX0_heirFrom_0 1 rfl rfl)
theorem dX0_heirFrom_2 : decode cX0_heirFrom 2 = .ok (.getfield 267, 3) := dk_180 1 11 (dk_at dksX0_heirFrom_0 2 rfl rfl)
theorem dX0_heirFrom_5 : decode cX0_heirFrom 5 = .ok (.if_icmp .lt 4, 3) := dk_161 0 4 (dk_at dksX0_heirFrom_0 5 rfl rfl)
theorem dX0_heirFrom_8 : decode cX0_heirFrom 8 = .ok (.return_, 1) := dk_177 (dk_at dksX0_heirFrom_0 8 rfl rfl)
theorem dX0_heirFrom_9 : decode cX0_heirFrom 9 = .ok (.iload_n 1, 1) := dk_27 (dk_at dksX0_heirFrom_0 9 rfl rfl)
theorem dX0_heirFrom_10 : decode cX0_heirFrom 10 = .ok (.aload_n 0, 1) := dk_42 (dk_at dksX0_heirFrom_0 10 rfl rfl)
theorem dX0_heirFrom_11 : decode cX0_heirFrom 11 = .ok (.getfield 10, 3) := dk_180 0 10 (dk_at dksX0_heirFrom_0 11 rfl rfl)
theorem dX0_heirFrom_14 : decode cX0_heirFrom 14 = .ok (.getfield 110, 3) := dk_180 0 110 (dk_at dksX0_heirFrom_0 14 rfl rfl)
theorem dX0_heirFrom_17 : decode cX0_heirFrom 17 = .ok (.if_icmp .ne 24, 3) := dk_160 0 24 (dk_at dksX0_heirFrom_0 17 rfl rfl)
theorem dX0_heirFrom_20 : decode cX0_heirFrom 20 = .ok (.aload_n 0, 1) := dk_42 (dk_at dksX0_heirFrom_0 20 rfl rfl)
theorem dX0_heirFrom_21 : decode cX0_heirFrom 21 = .ok (.iload_n 3, 1) := dk_29 (dk_at dksX0_heirFrom_0 21 rfl rfl)
theorem dX0_heirFrom_22 : decode cX0_heirFrom 22 = .ok (.putfield 267, 3) := dk_181 1 11 (dk_at dksX0_heirFrom_1 0 rfl rfl)
theorem dX0_heirFrom_25 : decode cX0_heirFrom 25 = .ok (.aload_n 0, 1) := dk_42 (dk_at dksX0_heirFrom_1 3 rfl rfl)
theorem dX0_heirFrom_26 : decode cX0_heirFrom 26 = .ok (.getfield 59, 3) := dk_180 0 59 (dk_at dksX0_heirFrom_1 4 rfl rfl)
theorem dX0_heirFrom_29 : decode cX0_heirFrom 29 = .ok (.iconst 0, 1) := dk_3 (dk_at dksX0_heirFrom_1 7 rfl rfl)
theorem dX0_heirFrom_30 : decode cX0_heirFrom 30 = .ok (.aload_n 0, 1) := dk_42 (dk_at dksX0_heirFrom_1 8 rfl rfl)
theorem dX0_heirFrom_31 : decode cX0_heirFrom 31 = .ok (.getfield 62, 3) := dk_180 0 62 (dk_at dksX0_heirFrom_1 9 rfl rfl)
theorem dX0_heirFrom_34 : decode cX0_heirFrom 34 = .ok (.iconst 0, 1) := dk_3 (dk_at dksX0_heirFrom_1 12 rfl rfl)
theorem dX0_heirFrom_35 : decode cX0_heirFrom 35 = .ok (.bipush 6, 2) := dk_16 6 (dk_at dksX0_heirFrom_1 13 rfl rfl)
theorem dX0_heirFrom_37 : decode cX0_heirFrom 37 = .ok (.invokestatic 235, 3) := dk_184 0 235 (dk_at dksX0_heirFrom_1 15 rfl rfl)
theorem dX0_heirFrom_40 : decode cX0_heirFrom 40 = .ok (.return_, 1) := dk_177 (dk_at dksX0_heirFrom_1 18 rfl rfl)
theorem dX0_heirFrom_41 : decode cX0_heirFrom 41 = .ok (.aload_n 0, 1) := dk_42 (dk_at dksX0_heirFrom_1 19 rfl rfl)
theorem dX0_heirFrom_42 : decode cX0_heirFrom 42 = .ok (.getfield 59, 3) := dk_180 0 59 (dk_at dksX0_heirFrom_1 20 rfl rfl)
theorem dX0_heirFrom_45 : decode cX0_heirFrom 45 = .ok (.iload_n 1, 1) := dk_27 (dk_at dksX0_heirFrom_1 23 rfl rfl)
theorem dX0_heirFrom_46 : decode cX0_heirFrom 46 = .ok (.iconst (-1), 1) := dk_2 (dk_at dksX0_heirFrom_2 0 rfl rfl)
theorem dX0_heirFrom_47 : decode cX0_heirFrom 47 = .ok (.iastore, 1) := dk_79 (dk_at dksX0_heirFrom_2 1 rfl rfl)
theorem dX0_heirFrom_48 : decode cX0_heirFrom 48 = .ok (.aload_n 0, 1) := dk_42 (dk_at dksX0_heirFrom_2 2 rfl rfl)
theorem dX0_heirFrom_49 : decode cX0_heirFrom 49 = .ok (.getfield 21, 3) := dk_180 0 21 (dk_at dksX0_heirFrom_2 3 rfl rfl)
theorem dX0_heirFrom_52 : decode cX0_heirFrom 52 = .ok (.getfield 125, 3) := dk_180 0 125 (dk_at dksX0_heirFrom_2 6 rfl rfl)
theorem dX0_heirFrom_55 : decode cX0_heirFrom 55 = .ok (.iload_n 1, 1) := dk_27 (dk_at dksX0_heirFrom_2 9 rfl rfl)
theorem dX0_heirFrom_56 : decode cX0_heirFrom 56 = .ok (.invokestatic 204, 3) := dk_184 0 204 (dk_at dksX0_heirFrom_2 10 rfl rfl)
theorem dX0_heirFrom_59 : decode cX0_heirFrom 59 = .ok (.ifCond .ne 13, 3) := dk_154 0 13 (dk_at dksX0_heirFrom_2 13 rfl rfl)
theorem dX0_heirFrom_62 : decode cX0_heirFrom 62 = .ok (.aload_n 0, 1) := dk_42 (dk_at dksX0_heirFrom_2 16 rfl rfl)
theorem dX0_heirFrom_63 : decode cX0_heirFrom 63 = .ok (.iload_n 1, 1) := dk_27 (dk_at dksX0_heirFrom_2 17 rfl rfl)
theorem dX0_heirFrom_64 : decode cX0_heirFrom 64 = .ok (.iconst 1, 1) := dk_4 (dk_at dksX0_heirFrom_2 18 rfl rfl)
theorem dX0_heirFrom_65 : decode cX0_heirFrom 65 = .ok (.iadd, 1) := dk_96 (dk_at dksX0_heirFrom_2 19 rfl rfl)
theorem dX0_heirFrom_66 : decode cX0_heirFrom 66 = .ok (.iload_n 2, 1) := dk_28 (dk_at dksX0_heirFrom_2 20 rfl rfl)
theorem dX0_heirFrom_67 : decode cX0_heirFrom 67 = .ok (.iload_n 3, 1) := dk_29 (dk_at dksX0_heirFrom_2 21 rfl rfl)
theorem dX0_heirFrom_68 : decode cX0_heirFrom 68 = .ok (.invokevirtual 270, 3) := dk_182 1 14 (dk_at dksX0_heirFrom_3 0 rfl rfl)
theorem dX0_heirFrom_71 : decode cX0_heirFrom 71 = .ok (.return_, 1) := dk_177 (dk_at dksX0_heirFrom_3 3 rfl rfl)
theorem dX0_heirFrom_72 : decode cX0_heirFrom 72 = .ok (.iconst 0, 1) := dk_3 (dk_at dksX0_heirFrom_3 4 rfl rfl)
theorem dX0_heirFrom_73 : decode cX0_heirFrom 73 = .ok (.istore 4, 2) := dk_54 4 (dk_at dksX0_heirFrom_3 5 rfl rfl)
theorem dX0_heirFrom_75 : decode cX0_heirFrom 75 = .ok (.iload 4, 2) := dk_21 4 (dk_at dksX0_heirFrom_3 7 rfl rfl)
theorem dX0_heirFrom_77 : decode cX0_heirFrom 77 = .ok (.aload_n 0, 1) := dk_42 (dk_at dksX0_heirFrom_3 9 rfl rfl)
theorem dX0_heirFrom_78 : decode cX0_heirFrom 78 = .ok (.getfield 10, 3) := dk_180 0 10 (dk_at dksX0_heirFrom_3 10 rfl rfl)
theorem dX0_heirFrom_81 : decode cX0_heirFrom 81 = .ok (.getfield 110, 3) := dk_180 0 110 (dk_at dksX0_heirFrom_3 13 rfl rfl)
theorem dX0_heirFrom_84 : decode cX0_heirFrom 84 = .ok (.if_icmp .ge 80, 3) := dk_162 0 80 (dk_at dksX0_heirFrom_3 16 rfl rfl)
theorem dX0_heirFrom_87 : decode cX0_heirFrom 87 = .ok (.iload 4, 2) := dk_21 4 (dk_at dksX0_heirFrom_3 19 rfl rfl)
theorem dX0_heirFrom_89 : decode cX0_heirFrom 89 = .ok (.iload_n 1, 1) := dk_27 (dk_at dksX0_heirFrom_3 21 rfl rfl)
theorem dX0_heirFrom_90 : decode cX0_heirFrom 90 = .ok (.if_icmp .eq 68, 3) := dk_159 0 68 (dk_at dksX0_heirFrom_4 0 rfl rfl)
theorem dX0_heirFrom_93 : decode cX0_heirFrom 93 = .ok (.aload_n 0, 1) := dk_42 (dk_at dksX0_heirFrom_4 3 rfl rfl)
theorem dX0_heirFrom_94 : decode cX0_heirFrom 94 = .ok (.getfield 21, 3) := dk_180 0 21 (dk_at dksX0_heirFrom_4 4 rfl rfl)
theorem dX0_heirFrom_97 : decode cX0_heirFrom 97 = .ok (.getfield 125, 3) := dk_180 0 125 (dk_at dksX0_heirFrom_4 7 rfl rfl)
theorem dX0_heirFrom_100 : decode cX0_heirFrom 100 = .ok (.iload_n 2, 1) := dk_28 (dk_at dksX0_heirFrom_4 10 rfl rfl)
theorem dX0_heirFrom_101 : decode cX0_heirFrom 101 = .ok (.iconst (-1), 1) := dk_2 (dk_at dksX0_heirFrom_4 11 rfl rfl)
theorem dX0_heirFrom_102 : decode cX0_heirFrom 102 = .ok (.ixor, 1) := dk_130 (dk_at dksX0_heirFrom_4 12 rfl rfl)
theorem dX0_heirFrom_103 : decode cX0_heirFrom 103 = .ok (.iand, 1) := dk_126 (dk_at dksX0_heirFrom_4 13 rfl rfl)
theorem dX0_heirFrom_104 : decode cX0_heirFrom 104 = .ok (.iload 4, 2) := dk_21 4 (dk_at dksX0_heirFrom_4 14 rfl rfl)
theorem dX0_heirFrom_106 : decode cX0_heirFrom 106 = .ok (.invokestatic 204, 3) := dk_184 0 204 (dk_at dksX0_heirFrom_4 16 rfl rfl)
theorem dX0_heirFrom_109 : decode cX0_heirFrom 109 = .ok (.ifCond .eq 49, 3) := dk_153 0 49 (dk_at dksX0_heirFrom_4 19 rfl rfl)
theorem dX0_heirFrom_112 : decode cX0_heirFrom 112 = .ok (.aload_n 0, 1) := dk_42 (dk_at dksX0_heirFrom_4 22 rfl rfl)
theorem dX0_heirFrom_113 : decode cX0_heirFrom 113 = .ok (.getfield 59, 3) := dk_180 0 59 (dk_at dksX0_heirFrom_5 0 rfl rfl)
theorem dX0_heirFrom_116 : decode cX0_heirFrom 116 = .ok (.iload_n 1, 1) := dk_27 (dk_at dksX0_heirFrom_5 3 rfl rfl)
theorem dX0_heirFrom_117 : decode cX0_heirFrom 117 = .ok (.iload 4, 2) := dk_21 4 (dk_at dksX0_heirFrom_5 4 rfl rfl)
theorem dX0_heirFrom_119 : decode cX0_heirFrom 119 = .ok (.iastore, 1) := dk_79 (dk_at dksX0_heirFrom_5 6 rfl rfl)
theorem dX0_heirFrom_120 : decode cX0_heirFrom 120 = .ok (.aload_n 0, 1) := dk_42 (dk_at dksX0_heirFrom_5 7 rfl rfl)
theorem dX0_heirFrom_121 : decode cX0_heirFrom 121 = .ok (.iload_n 1, 1) := dk_27 (dk_at dksX0_heirFrom_5 8 rfl rfl)
theorem dX0_heirFrom_122 : decode cX0_heirFrom 122 = .ok (.iconst 1, 1) := dk_4 (dk_at dksX0_heirFrom_5 9 rfl rfl)
theorem dX0_heirFrom_123 : decode cX0_heirFrom 123 = .ok (.iadd, 1) := dk_96 (dk_at dksX0_heirFrom_5 10 rfl rfl)
theorem dX0_heirFrom_124 : decode cX0_heirFrom 124 = .ok (.iload_n 2, 1) := dk_28 (dk_at dksX0_heirFrom_5 11 rfl rfl)
theorem dX0_heirFrom_125 : decode cX0_heirFrom 125 = .ok (.iconst 1, 1) := dk_4 (dk_at dksX0_heirFrom_5 12 rfl rfl)
theorem dX0_heirFrom_126 : decode cX0_heirFrom 126 = .ok (.iload 4, 2) := dk_21 4 (dk_at dksX0_heirFrom_5 13 rfl rfl)
theorem dX0_heirFrom_128 : decode cX0_heirFrom 128 = .ok (.ishl, 1) := dk_120 (dk_at dksX0_heirFrom_5 15 rfl rfl)
theorem dX0_heirFrom_129 : decode cX0_heirFrom 129 = .ok (.ior, 1) := dk_128 (dk_at dksX0_heirFrom_5 16 rfl rfl)
theorem dX0_heirFrom_130 : decode cX0_heirFrom 130 = .ok (.iload_n 3, 1) := dk_29 (dk_at dksX0_heirFrom_5 17 rfl rfl)
theorem dX0_heirFrom_131 : decode cX0_heirFrom 131 = .ok (.aload_n 0, 1) := dk_42 (dk_at dksX0_heirFrom_5 18 rfl rfl)
theorem dX0_heirFrom_132 : decode cX0_heirFrom 132 = .ok (.getfield 21, 3) := dk_180 0 21 (dk_at dksX0_heirFrom_5 19 rfl rfl)
theorem dX0_heirFrom_135 : decode cX0_heirFrom 135 = .ok (.getfield 153, 3) := dk_180 0 153 (dk_at dksX0_heirFrom_6 0 rfl rfl)
theorem dX0_heirFrom_138 : decode cX0_heirFrom 138 = .ok (.iload_n 1, 1) := dk_27 (dk_at dksX0_heirFrom_6 3 rfl rfl)
theorem dX0_heirFrom_139 : decode cX0_heirFrom 139 = .ok (.iaload, 1) := dk_46 (dk_at dksX0_heirFrom_6 4 rfl rfl)
theorem dX0_heirFrom_140 : decode cX0_heirFrom 140 = .ok (.aload_n 0, 1) := dk_42 (dk_at dksX0_heirFrom_6 5 rfl rfl)
theorem dX0_heirFrom_141 : decode cX0_heirFrom 141 = .ok (.getfield 21, 3) := dk_180 0 21 (dk_at dksX0_heirFrom_6 6 rfl rfl)
theorem dX0_heirFrom_144 : decode cX0_heirFrom 144 = .ok (.getfield 153, 3) := dk_180 0 153 (dk_at dksX0_heirFrom_6 9 rfl rfl)
theorem dX0_heirFrom_147 : decode cX0_heirFrom 147 = .ok (.iload 4, 2) := dk_21 4 (dk_at dksX0_heirFrom_6 12 rfl rfl)
theorem dX0_heirFrom_149 : decode cX0_heirFrom 149 = .ok (.iaload, 1) := dk_46 (dk_at dksX0_heirFrom_6 14 rfl rfl)
theorem dX0_heirFrom_150 : decode cX0_heirFrom 150 = .ok (.isub, 1) := dk_100 (dk_at dksX0_heirFrom_6 15 rfl rfl)
theorem dX0_heirFrom_151 : decode cX0_heirFrom 151 = .ok (.invokestatic 273, 3) := dk_184 1 17 (dk_at dksX0_heirFrom_6 16 rfl rfl)
theorem dX0_heirFrom_154 : decode cX0_heirFrom 154 = .ok (.iadd, 1) := dk_96 (dk_at dksX0_heirFrom_6 19 rfl rfl)
theorem dX0_heirFrom_155 : decode cX0_heirFrom 155 = .ok (.invokevirtual 270, 3) := dk_182 1 14 (dk_at dksX0_heirFrom_6 20 rfl rfl)
theorem dX0_heirFrom_158 : decode cX0_heirFrom 158 = .ok (.iinc 4 1, 3) := dk_132 4 1 (dk_at dksX0_heirFrom_7 0 rfl rfl)
theorem dX0_heirFrom_161 : decode cX0_heirFrom 161 = .ok (.goto (-86), 3) := dk_167 255 170 (dk_at dksX0_heirFrom_7 3 rfl rfl)
theorem dX0_heirFrom_164 : decode cX0_heirFrom 164 = .ok (.return_, 1) := dk_177 (dk_at dksX0_heirFrom_7 6 rfl rfl)
abbrev cX0_reach : ByteArray := prog_1_method_34_code
def yX0_reach : MethodName := ⟨RX0, "reach", "(II)I"⟩
def dkwX0_reach_3 : List UInt8 := [132, 5, 1, 167, 255, 215, 28, 154, 0, 7, 29, 167, 0, 5, 21, 4, 172]
abbrev dktX0_reach_3 : List UInt8 := dkwX0_reach_3 ++ []
def dkwX0_reach_2 : List UInt8 := [182, 0, 156, 184, 1, 25, 62, 21, 4, 42, 180, 0, 21, 27, 21, 5, 182, 0, 156, 184, 0, 252, 54, 4]
abbrev dktX0_reach_2 : List UInt8 := dkwX0_reach_2 ++ dktX0_reach_3
def dkwX0_reach_1 : List UInt8 := [18, 251, 62, 3, 54, 4, 3, 54, 5, 21, 5, 7, 162, 0, 41, 29, 42, 180, 0, 21, 27, 21, 5]
abbrev dktX0_reach_1 : List UInt8 := dkwX0_reach_1 ++ dktX0_reach_2
def dkwX0_reach_0 : List UInt8 := [42, 27, 182, 0, 138, 154, 0, 6, 18, 142, 172, 28, 3, 4, 184, 0, 71, 154, 0, 6, 18, 75, 172]
abbrev dktX0_reach_0 : List UInt8 := dkwX0_reach_0 ++ dktX0_reach_1
theorem dksX0_reach_0 : cX0_reach.data.toList.drop 0 = dktX0_reach_0 := by decide +kernel
theorem dksX0_reach_1 : cX0_reach.data.toList.drop 23 = dktX0_reach_1 := dk_seg dksX0_reach_0 23 rfl rfl
theorem dksX0_reach_2 : cX0_reach.data.toList.drop 46 = dktX0_reach_2 := dk_seg dksX0_reach_1 23 rfl rfl
theorem dksX0_reach_3 : cX0_reach.data.toList.drop 70 = dktX0_reach_3 := dk_seg dksX0_reach_2 24 rfl rfl
theorem dX0_reach_0 : decode cX0_reach 0 = .ok (.aload_n 0, 1) := dk_42 (dk_at dksX0_reach_0 0 rfl rfl)
theorem dX0_reach_1 : decode cX0_reach 1 = .ok (.iload_n 1, 1) := dk_27 (dk_at dksX0_reach_0 1 rfl rfl)
theorem dX0_reach_2 : decode cX0_reach 2 = .ok (.invokevirtual 138, 3) := dk_182 0 138 (dk_at dksX0_reach_0 2 rfl rfl)
theorem dX0_reach_5 : decode cX0_reach 5 = .ok (.ifCond .ne 6, 3) := dk_154 0 6 (dk_at dksX0_reach_0 5 rfl rfl)
theorem dX0_reach_8 : decode cX0_reach 8 = .ok (.ldc 142, 2) := dk_18 142 (dk_at dksX0_reach_0 8 rfl rfl)
theorem dX0_reach_10 : decode cX0_reach 10 = .ok (.ireturn, 1) := dk_172 (dk_at dksX0_reach_0 10 rfl rfl)
theorem dX0_reach_11 : decode cX0_reach 11 = .ok (.iload_n 2, 1) := dk_28 (dk_at dksX0_reach_0 11 rfl rfl)
theorem dX0_reach_12 : decode cX0_reach 12 = .ok (.iconst 0, 1) := dk_3 (dk_at dksX0_reach_0 12 rfl rfl)
theorem dX0_reach_13 : decode cX0_reach 13 = .ok (.iconst 1, 1) := dk_4 (dk_at dksX0_reach_0 13 rfl rfl)
theorem dX0_reach_14 : decode cX0_reach 14 = .ok (.invokestatic 71, 3) := dk_184 0 71 (dk_at dksX0_reach_0 14 rfl rfl)
theorem dX0_reach_17 : decode cX0_reach 17 = .ok (.ifCond .ne 6, 3) := dk_154 0 6 (dk_at dksX0_reach_0 17 rfl rfl)
theorem dX0_reach_20 : decode cX0_reach 20 = .ok (.ldc 75, 2) := dk_18 75 (dk_at dksX0_reach_0 20 rfl rfl)
theorem dX0_reach_22 : decode cX0_reach 22 = .ok (.ireturn, 1) := dk_172 (dk_at dksX0_reach_0 22 rfl rfl)
theorem dX0_reach_23 : decode cX0_reach 23 = .ok (.ldc 251, 2) := dk_18 251 (dk_at dksX0_reach_1 0 rfl rfl)
theorem dX0_reach_25 : decode cX0_reach 25 = .ok (.istore_n 3, 1) := dk_62 (dk_at dksX0_reach_1 2 rfl rfl)
theorem dX0_reach_26 : decode cX0_reach 26 = .ok (.iconst 0, 1) := dk_3 (dk_at dksX0_reach_1 3 rfl rfl)
theorem dX0_reach_27 : decode cX0_reach 27 = .ok (.istore 4, 2) := dk_54 4 (dk_at dksX0_reach_1 4 rfl rfl)
theorem dX0_reach_29 : decode cX0_reach 29 = .ok (.iconst 0, 1) := dk_3 (dk_at dksX0_reach_1 6 rfl rfl)
theorem dX0_reach_30 : decode cX0_reach 30 = .ok (.istore 5, 2) := dk_54 5 (dk_at dksX0_reach_1 7 rfl rfl)
theorem dX0_reach_32 : decode cX0_reach 32 = .ok (.iload 5, 2) := dk_21 5 (dk_at dksX0_reach_1 9 rfl rfl)
theorem dX0_reach_34 : decode cX0_reach 34 = .ok (.iconst 4, 1) := dk_7 (dk_at dksX0_reach_1 11 rfl rfl)
theorem dX0_reach_35 : decode cX0_reach 35 = .ok (.if_icmp .ge 41, 3) := dk_162 0 41 (dk_at dksX0_reach_1 12 rfl rfl)
theorem dX0_reach_38 : decode cX0_reach 38 = .ok (.iload_n 3, 1) := dk_29 (dk_at dksX0_reach_1 15 rfl rfl)
theorem dX0_reach_39 : decode cX0_reach 39 = .ok (.aload_n 0, 1) := dk_42 (dk_at dksX0_reach_1 16 rfl rfl)
theorem dX0_reach_40 : decode cX0_reach 40 = .ok (.getfield 21, 3) := dk_180 0 21 (dk_at dksX0_reach_1 17 rfl rfl)
theorem dX0_reach_43 : decode cX0_reach 43 = .ok (.iload_n 1, 1) := dk_27 (dk_at dksX0_reach_1 20 rfl rfl)
theorem dX0_reach_44 : decode cX0_reach 44 = .ok (.iload 5, 2) := dk_21 5 (dk_at dksX0_reach_1 21 rfl rfl)
theorem dX0_reach_46 : decode cX0_reach 46 = .ok (.invokevirtual 156, 3) := dk_182 0 156 (dk_at dksX0_reach_2 0 rfl rfl)
theorem dX0_reach_49 : decode cX0_reach 49 = .ok (.invokestatic 281, 3) := dk_184 1 25 (dk_at dksX0_reach_2 3 rfl rfl)
theorem dX0_reach_52 : decode cX0_reach 52 = .ok (.istore_n 3, 1) := dk_62 (dk_at dksX0_reach_2 6 rfl rfl)
theorem dX0_reach_53 : decode cX0_reach 53 = .ok (.iload 4, 2) := dk_21 4 (dk_at dksX0_reach_2 7 rfl rfl)
theorem dX0_reach_55 : decode cX0_reach 55 = .ok (.aload_n 0, 1) := dk_42 (dk_at dksX0_reach_2 9 rfl rfl)
theorem dX0_reach_56 : decode cX0_reach 56 = .ok (.getfield 21, 3) := dk_180 0 21 (dk_at dksX0_reach_2 10 rfl rfl)
theorem dX0_reach_59 : decode cX0_reach 59 = .ok (.iload_n 1, 1) := dk_27 (dk_at dksX0_reach_2 13 rfl rfl)
theorem dX0_reach_60 : decode cX0_reach 60 = .ok (.iload 5, 2) := dk_21 5 (dk_at dksX0_reach_2 14 rfl rfl)
theorem dX0_reach_62 : decode cX0_reach 62 = .ok (.invokevirtual 156, 3) := dk_182 0 156 (dk_at dksX0_reach_2 16 rfl rfl)
theorem dX0_reach_65 : decode cX0_reach 65 = .ok (.invokestatic 252, 3) := dk_184 0 252 (dk_at dksX0_reach_2 19 rfl rfl)
theorem dX0_reach_68 : decode cX0_reach 68 = .ok (.istore 4, 2) := dk_54 4 (dk_at dksX0_reach_2 22 rfl rfl)
theorem dX0_reach_70 : decode cX0_reach 70 = .ok (.iinc 5 1, 3) := dk_132 5 1 (dk_at dksX0_reach_3 0 rfl rfl)
theorem dX0_reach_73 : decode cX0_reach 73 = .ok (.goto (-41), 3) := dk_167 255 215 (dk_at dksX0_reach_3 3 rfl rfl)
theorem dX0_reach_76 : decode cX0_reach 76 = .ok (.iload_n 2, 1) := dk_28 (dk_at dksX0_reach_3 6 rfl rfl)
theorem dX0_reach_77 : decode cX0_reach 77 = .ok (.ifCond .ne 7, 3) := dk_154 0 7 (dk_at dksX0_reach_3 7 rfl rfl)
theorem dX0_reach_80 : decode cX0_reach 80 = .ok (.iload_n 3, 1) := dk_29 (dk_at dksX0_reach_3 10 rfl rfl)
theorem dX0_reach_81 : decode cX0_reach 81 = .ok (.goto 5, 3) := dk_167 0 5 (dk_at dksX0_reach_3 11 rfl rfl)
theorem dX0_reach_84 : decode cX0_reach 84 = .ok (.iload 4, 2) := dk_21 4 (dk_at dksX0_reach_3 14 rfl rfl)
theorem dX0_reach_86 : decode cX0_reach 86 = .ok (.ireturn, 1) := dk_172 (dk_at dksX0_reach_3 16 rfl rfl)
abbrev cX0_bestCopy : ByteArray := prog_1_method_35_code
def yX0_bestCopy : MethodName := ⟨RX0, "bestCopy", "(II)I"⟩
def dkwX0_bestCopy_6 : List UInt8 := [21, 4, 172]
abbrev dktX0_bestCopy_6 : List UInt8 := dkwX0_bestCopy_6 ++ []
def dkwX0_bestCopy_5 : List UInt8 := [184, 1, 25, 54, 4, 132, 5, 1, 167, 255, 163, 29, 2, 159, 0, 7, 28, 154, 0, 7, 29, 167, 0, 5]
abbrev dktX0_bestCopy_5 : List UInt8 := dkwX0_bestCopy_5 ++ dktX0_bestCopy_6
def dkwX0_bestCopy_4 : List UInt8 := [132, 7, 1, 167, 255, 218, 21, 6, 21, 4, 162, 0, 8, 21, 5, 167, 0, 4, 29, 62, 21, 4, 21, 6]
abbrev dktX0_bestCopy_4 : List UInt8 := dkwX0_bestCopy_4 ++ dktX0_bestCopy_5
def dkwX0_bestCopy_3 : List UInt8 := [27, 21, 5, 182, 0, 216, 42, 180, 0, 21, 27, 21, 7, 182, 0, 216, 100, 184, 1, 17, 96, 54, 6]
abbrev dktX0_bestCopy_3 : List UInt8 := dkwX0_bestCopy_3 ++ dktX0_bestCopy_4
def dkwX0_bestCopy_2 : List UInt8 := [184, 0, 204, 153, 0, 79, 3, 54, 6, 3, 54, 7, 21, 7, 7, 162, 0, 38, 21, 6, 42, 180, 0, 21]
abbrev dktX0_bestCopy_2 : List UInt8 := dkwX0_bestCopy_2 ++ dktX0_bestCopy_3
def dkwX0_bestCopy_1 : List UInt8 := [62, 18, 251, 54, 4, 3, 54, 5, 21, 5, 7, 162, 0, 93, 42, 180, 0, 21, 180, 0, 125, 27]
abbrev dktX0_bestCopy_1 : List UInt8 := dkwX0_bestCopy_1 ++ dktX0_bestCopy_2
def dkwX0_bestCopy_0 : List UInt8 := [42, 27, 182, 0, 138, 154, 0, 6, 18, 142, 172, 28, 3, 4, 184, 0, 71, 154, 0, 6, 18, 75, 172, 2]
abbrev dktX0_bestCopy_0 : List UInt8 := dkwX0_bestCopy_0 ++ dktX0_bestCopy_1
theorem dksX0_bestCopy_0 : cX0_bestCopy.data.toList.drop 0 = dktX0_bestCopy_0 := by decide +kernel
theorem dksX0_bestCopy_1 : cX0_bestCopy.data.toList.drop 24 = dktX0_bestCopy_1 := dk_seg dksX0_bestCopy_0 24 rfl rfl
theorem dksX0_bestCopy_2 : cX0_bestCopy.data.toList.drop 46 = dktX0_bestCopy_2 := dk_seg dksX0_bestCopy_1 22 rfl rfl
theorem dksX0_bestCopy_3 : cX0_bestCopy.data.toList.drop 70 = dktX0_bestCopy_3 := dk_seg dksX0_bestCopy_2 24 rfl rfl
theorem dksX0_bestCopy_4 : cX0_bestCopy.data.toList.drop 93 = dktX0_bestCopy_4 := dk_seg dksX0_bestCopy_3 23 rfl rfl
theorem dksX0_bestCopy_5 : cX0_bestCopy.data.toList.drop 117 = dktX0_bestCopy_5 := dk_seg dksX0_bestCopy_4 24 rfl rfl
theorem dksX0_bestCopy_6 : cX0_bestCopy.data.toList.drop 141 = dktX0_bestCopy_6 := dk_seg dksX0_bestCopy_5 24 rfl rfl
theorem dX0_bestCopy_0 : decode cX0_bestCopy 0 = .ok (.aload_n 0, 1) := dk_42 (dk_at dksX0_bestCopy_0 0 rfl rfl)
theorem dX0_bestCopy_1 : decode cX0_bestCopy 1 = .ok (.iload_n 1, 1) := dk_27 (dk_at dksX0_bestCopy_0 1 rfl rfl)
theorem dX0_bestCopy_2 : decode cX0_bestCopy 2 = .ok (.invokevirtual 138, 3) := dk_182 0 138 (dk_at dksX0_bestCopy_0 2 rfl rfl)
theorem dX0_bestCopy_5 : decode cX0_bestCopy 5 = .ok (.ifCond .ne 6, 3) := dk_154 0 6 (dk_at dksX0_bestCopy_0 5 rfl rfl)
theorem dX0_bestCopy_8 : decode cX0_bestCopy 8 = .ok (.ldc 142, 2) := dk_18 142 (dk_at dksX0_bestCopy_0 8 rfl rfl)
theorem dX0_bestCopy_10 : decode cX0_bestCopy 10 = .ok (.ireturn, 1) := dk_172 (dk_at dksX0_bestCopy_0 10 rfl rfl)
theorem dX0_bestCopy_11 : decode cX0_bestCopy 11 = .ok (.iload_n 2, 1) := dk_28 (dk_at dksX0_bestCopy_0 11 rfl rfl)
theorem dX0_bestCopy_12 : decode cX0_bestCopy 12 = .ok (.iconst 0, 1) := dk_3 (dk_at dksX0_bestCopy_0 12 rfl rfl)
theorem dX0_bestCopy_13 : decode cX0_bestCopy 13 = .ok (.iconst 1, 1) := dk_4 (dk_at dksX0_bestCopy_0 13 rfl rfl)
theorem dX0_bestCopy_14 : decode cX0_bestCopy 14 = .ok (.invokestatic 71, 3) := dk_184 0 71 (dk_at dksX0_bestCopy_0 14 rfl rfl)
theorem dX0_bestCopy_17 : decode cX0_bestCopy 17 = .ok (.ifCond .ne 6, 3) := dk_154 0 6 (dk_at dksX0_bestCopy_0 17 rfl rfl)
theorem dX0_bestCopy_20 : decode cX0_bestCopy 20 = .ok (.ldc 75, 2) := dk_18 75 (dk_at dksX0_bestCopy_0 20 rfl rfl)
theorem dX0_bestCopy_22 : decode cX0_bestCopy 22 = .ok (.ireturn, 1) := dk_172 (dk_at dksX0_bestCopy_0 22 rfl rfl)
theorem dX0_bestCopy_23 : decode cX0_bestCopy 23 = .ok (.iconst (-1), 1) := dk_2 (dk_at dksX0_bestCopy_0 23 rfl rfl)
theorem dX0_bestCopy_24 : decode cX0_bestCopy 24 = .ok (.istore_n 3, 1) := dk_62 (dk_at dksX0_bestCopy_1 0 rfl rfl)
theorem dX0_bestCopy_25 : decode cX0_bestCopy 25 = .ok (.ldc 251, 2) := dk_18 251 (dk_at dksX0_bestCopy_1 1 rfl rfl)
theorem dX0_bestCopy_27 : decode cX0_bestCopy 27 = .ok (.istore 4, 2) := dk_54 4 (dk_at dksX0_bestCopy_1 3 rfl rfl)
theorem dX0_bestCopy_29 : decode cX0_bestCopy 29 = .ok (.iconst 0, 1) := dk_3 (dk_at dksX0_bestCopy_1 5 rfl rfl)
theorem dX0_bestCopy_30 : decode cX0_bestCopy 30 = .ok (.istore 5, 2) := dk_54 5 (dk_at dksX0_bestCopy_1 6 rfl rfl)
theorem dX0_bestCopy_32 : decode cX0_bestCopy 32 = .ok (.iload 5, 2) := dk_21 5 (dk_at dksX0_bestCopy_1 8 rfl rfl)
theorem dX0_bestCopy_34 : decode cX0_bestCopy 34 = .ok (.iconst 4, 1) := dk_7 (dk_at dksX0_bestCopy_1 10 rfl rfl)
theorem dX0_bestCopy_35 : decode cX0_bestCopy 35 = .ok (.if_icmp .ge 93, 3) := dk_162 0 93 (dk_at dksX0_bestCopy_1 11 rfl rfl)
theorem dX0_bestCopy_38 : decode cX0_bestCopy 38 = .ok (.aload_n 0, 1) := dk_42 (dk_at dksX0_bestCopy_1 14 rfl rfl)
theorem dX0_bestCopy_39 : decode cX0_bestCopy 39 = .ok (.getfield 21, 3) := dk_180 0 21 (dk_at dksX0_bestCopy_1 15 rfl rfl)
theorem dX0_bestCopy_42 : decode cX0_bestCopy 42 = .ok (.getfield 125, 3) := dk_180 0 125 (dk_at dksX0_bestCopy_1 18 rfl rfl)
theorem dX0_bestCopy_45 : decode cX0_bestCopy 45 = .ok (.iload_n 1, 1) := dk_27 (dk_at dksX0_bestCopy_1 21 rfl rfl)
theorem dX0_bestCopy_46 : decode cX0_bestCopy 46 = .ok (.invokestatic 204, 3) := dk_184 0 204 (dk_at dksX0_bestCopy_2 0 rfl rfl)
theorem dX0_bestCopy_49 : decode cX0_bestCopy 49 = .ok (.ifCond .eq 79, 3) := dk_153 0 79 (dk_at dksX0_bestCopy_2 3 rfl rfl)
theorem dX0_bestCopy_52 : decode cX0_bestCopy 52 = .ok (.iconst 0, 1) := dk_3 (dk_at dksX0_bestCopy_2 6 rfl rfl)
theorem dX0_bestCopy_53 : decode cX0_bestCopy 53 = .ok (.istore 6, 2) := dk_54 6 (dk_at dksX0_bestCopy_2 7 rfl rfl)
theorem dX0_bestCopy_55 : decode cX0_bestCopy 55 = .ok (.iconst 0, 1) := dk_3 (dk_at dksX0_bestCopy_2 9 rfl rfl)
theorem dX0_bestCopy_56 : decode cX0_bestCopy 56 = .ok (.istore 7, 2) := dk_54 7 (dk_at dksX0_bestCopy_2 10 rfl rfl)
theorem dX0_bestCopy_58 : decode cX0_bestCopy 58 = .ok (.iload 7, 2) := dk_21 7 (dk_at dksX0_bestCopy_2 12 rfl rfl)
theorem dX0_bestCopy_60 : decode cX0_bestCopy 60 = .ok (.iconst 4, 1) := dk_7 (dk_at dksX0_bestCopy_2 14 rfl rfl)
theorem dX0_bestCopy_61 : decode cX0_bestCopy 61 = .ok (.if_icmp .ge 38, 3) := dk_162 0 38 (dk_at dksX0_bestCopy_2 15 rfl rfl)
theorem dX0_bestCopy_64 : decode cX0_bestCopy 64 = .ok (.iload 6, 2) := dk_21 6 (dk_at dksX0_bestCopy_2 18 rfl rfl)
theorem dX0_bestCopy_66 : decode cX0_bestCopy 66 = .ok (.aload_n 0, 1) := dk_42 (dk_at dksX0_bestCopy_2 20 rfl rfl)
theorem dX0_bestCopy_67 : decode cX0_bestCopy 67 = .ok (.getfield 21, 3) := dk_180 0 21 (dk_at dksX0_bestCopy_2 21 rfl rfl)
theorem dX0_bestCopy_70 : decode cX0_bestCopy 70 = .ok (.iload_n 1, 1) := dk_27 (dk_at dksX0_bestCopy_3 0 rfl rfl)
theorem dX0_bestCopy_71 : decode cX0_bestCopy 71 = .ok (.iload 5, 2) := dk_21 5 (dk_at dksX0_bestCopy_3 1 rfl rfl)
theorem dX0_bestCopy_73 : decode cX0_bestCopy 73 = .ok (.invokevirtual 216, 3) := dk_182 0 216 (dk_at dksX0_bestCopy_3 3 rfl rfl)
theorem dX0_bestCopy_76 : decode cX0_bestCopy 76 = .ok (.aload_n 0, 1) := dk_42 (dk_at dksX0_bestCopy_3 6 rfl rfl)
theorem dX0_bestCopy_77 : decode cX0_bestCopy 77 = .ok (.getfield 21, 3) := dk_180 0 21 (dk_at dksX0_bestCopy_3 7 rfl rfl)
theorem dX0_bestCopy_80 : decode cX0_bestCopy 80 = .ok (.iload_n 1, 1) := dk_27 (dk_at dksX0_bestCopy_3 10 rfl rfl)
theorem dX0_bestCopy_81 : decode cX0_bestCopy 81 = .ok (.iload 7, 2) := dk_21 7 (dk_at dksX0_bestCopy_3 11 rfl rfl)
theorem dX0_bestCopy_83 : decode cX0_bestCopy 83 = .ok (.invokevirtual 216, 3) := dk_182 0 216 (dk_at dksX0_bestCopy_3 13 rfl rfl)
theorem dX0_bestCopy_86 : decode cX0_bestCopy 86 = .ok (.isub, 1) := dk_100 (dk_at dksX0_bestCopy_3 16 rfl rfl)
theorem dX0_bestCopy_87 : decode cX0_bestCopy 87 = .ok (.invokestatic 273, 3) := dk_184 1 17 (dk_at dksX0_bestCopy_3 17 rfl rfl)
theorem dX0_bestCopy_90 : decode cX0_bestCopy 90 = .ok (.iadd, 1) := dk_96 (dk_at dksX0_bestCopy_3 20 rfl rfl)
theorem dX0_bestCopy_91 : decode cX0_bestCopy 91 = .ok (.istore 6, 2) := dk_54 6 (dk_at dksX0_bestCopy_3 21 rfl rfl)
theorem dX0_bestCopy_93 : decode cX0_bestCopy 93 = .ok (.iinc 7 1, 3) := dk_132 7 1 (dk_at dksX0_bestCopy_4 0 rfl rfl)
theorem dX0_bestCopy_96 : decode cX0_bestCopy 96 = .ok (.goto (-38), 3) := dk_167 255 218 (dk_at dksX0_bestCopy_4 3 rfl rfl)
theorem dX0_bestCopy_99 : decode cX0_bestCopy 99 = .ok (.iload 6, 2) := dk_21 6 (dk_at dksX0_bestCopy_4 6 rfl rfl)
theorem dX0_bestCopy_101 : decode cX0_bestCopy 101 = .ok (.iload 4, 2) := dk_21 4 (dk_at dksX0_bestCopy_4 8 rfl rfl)
theorem dX0_bestCopy_103 : decode cX0_bestCopy 103 = .ok (.if_icmp .ge 8, 3) := dk_162 0 8 (dk_at dksX0_bestCopy_4 10 rfl rfl)
theorem dX0_bestCopy_106 : decode cX0_bestCopy 106 = .ok (.iload 5, 2) := dk_21 5 (dk_at dksX0_bestCopy_4 13 rfl rfl)
theorem dX0_bestCopy_108 : decode cX0_bestCopy 108 = .ok (.goto 4, 3) := dk_167 0 4 (dk_at dksX0_bestCopy_4 15 rfl rfl)
theorem dX0_bestCopy_111 : decode cX0_bestCopy 111 = .ok (.iload_n 3, 1) := dk_29 (dk_at dksX0_bestCopy_4 18 rfl rfl)
theorem dX0_bestCopy_112 : decode cX0_bestCopy 112 = .ok (.istore_n 3, 1) := dk_62 (dk_at dksX0_bestCopy_4 19 rfl rfl)
theorem dX0_bestCopy_113 : decode cX0_bestCopy 113 = .ok (.iload 4, 2) := dk_21 4 (dk_at dksX0_bestCopy_4 20 rfl rfl)
theorem dX0_bestCopy_115 : decode cX0_bestCopy 115 = .ok (.iload 6, 2) := dk_21 6 (dk_at dksX0_bestCopy_4 22 rfl rfl)
theorem dX0_bestCopy_117 : decode cX0_bestCopy 117 = .ok (.invokestatic 281, 3) := dk_184 1 25 (dk_at dksX0_bestCopy_5 0 rfl rfl)
theorem dX0_bestCopy_120 : decode cX0_bestCopy 120 = .ok (.istore 4, 2) := dk_54 4 (dk_at dksX0_bestCopy_5 3 rfl rfl)
theorem dX0_bestCopy_122 : decode cX0_bestCopy 122 = .ok (.iinc 5 1, 3) := dk_132 5 1 (dk_at dksX0_bestCopy_5 5 rfl rfl)
theorem dX0_bestCopy_125 : decode cX0_bestCopy 125 = .ok (.goto (-93), 3) := dk_167 255 163 (dk_at dksX0_bestCopy_5 8 rfl rfl)
theorem dX0_bestCopy_128 : decode cX0_bestCopy 128 = .ok (.iload_n 3, 1) := dk_29 (dk_at dksX0_bestCopy_5 11 rfl rfl)
theorem dX0_bestCopy_129 : decode cX0_bestCopy 129 = .ok (.iconst (-1), 1) := dk_2 (dk_at dksX0_bestCopy_5 12 rfl rfl)
theorem dX0_bestCopy_130 : decode cX0_bestCopy 130 = .ok (.if_icmp .eq 7, 3) := dk_159 0 7 (dk_at dksX0_bestCopy_5 13 rfl rfl)
theorem dX0_bestCopy_133 : decode cX0_bestCopy 133 = .ok (.iload_n 2, 1) := dk_28 (dk_at dksX0_bestCopy_5 16 rfl rfl)
theorem dX0_bestCopy_134 : decode cX0_bestCopy 134 = .ok (.ifCond .ne 7, 3) := dk_154 0 7 (dk_at dksX0_bestCopy_5 17 rfl rfl)
theorem dX0_bestCopy_137 : decode cX0_bestCopy 137 = .ok (.iload_n 3, 1) := dk_29 (dk_at dksX0_bestCopy_5 20 rfl rfl)
theorem dX0_bestCopy_138 : decode cX0_bestCopy 138 = .ok (.goto 5, 3) := dk_167 0 5 (dk_at dksX0_bestCopy_5 21 rfl rfl)
theorem dX0_bestCopy_141 : decode cX0_bestCopy 141 = .ok (.iload 4, 2) := dk_21 4 (dk_at dksX0_bestCopy_6 0 rfl rfl)
theorem dX0_bestCopy_143 : decode cX0_bestCopy 143 = .ok (.ireturn, 1) := dk_172 (dk_at dksX0_bestCopy_6 2 rfl rfl)
abbrev cX0_nearest : ByteArray := prog_1_method_36_code
def yX0_nearest : MethodName := ⟨RX0, "nearest", "(I)I"⟩
def dkwX0_nearest_3 : List UInt8 := [21, 5, 184, 1, 25, 62, 132, 4, 1, 167, 255, 198, 28, 172]
abbrev dktX0_nearest_3 : List UInt8 := dkwX0_nearest_3 ++ []
def dkwX0_nearest_2 : List UInt8 := [182, 0, 156, 27, 100, 184, 1, 17, 54, 5, 21, 5, 29, 162, 0, 8, 21, 4, 167, 0, 4, 28, 61, 29]
abbrev dktX0_nearest_2 : List UInt8 := dkwX0_nearest_2 ++ dktX0_nearest_3
def dkwX0_nearest_1 : List UInt8 := [42, 180, 0, 10, 180, 0, 110, 162, 0, 52, 42, 180, 0, 21, 21, 4, 42, 180, 0, 21, 180, 0, 122]
abbrev dktX0_nearest_1 : List UInt8 := dkwX0_nearest_1 ++ dktX0_nearest_2
def dkwX0_nearest_0 : List UInt8 := [27, 3, 17, 3, 231, 184, 0, 71, 154, 0, 6, 18, 75, 172, 2, 61, 18, 251, 62, 3, 54, 4, 21, 4]
abbrev dktX0_nearest_0 : List UInt8 := dkwX0_nearest_0 ++ dktX0_nearest_1
theorem dksX0_nearest_0 : cX0_nearest.data.toList.drop 0 = dktX0_nearest_0 := by decide +kernel
theorem dksX0_nearest_1 : cX0_nearest.data.toList.drop 24 = dktX0_nearest_1 := dk_seg dksX0_nearest_0 24 rfl rfl
theorem dksX0_nearest_2 : cX0_nearest.data.toList.drop 47 = dktX0_nearest_2 := dk_seg dksX0_nearest_1 23 rfl rfl
theorem dksX0_nearest_3 : cX0_nearest.data.toList.drop 71 = dktX0_nearest_3 := dk_seg dksX0_nearest_2 24 rfl rfl
theorem dX0_nearest_0 : decode cX0_nearest 0 = .ok (.iload_n 1, 1) := dk_27 (dk_at dksX0_nearest_0 0 rfl rfl)
theorem dX0_nearest_1 : decode cX0_nearest 1 = .ok (.iconst 0, 1) := dk_3 (dk_at dksX0_nearest_0 1 rfl rfl)
theorem dX0_nearest_2 : decode cX0_nearest 2 = .ok (.sipush 999, 3) := dk_17 3 231 (dk_at dksX0_nearest_0 2 rfl rfl)
theorem dX0_nearest_5 : decode cX0_nearest 5 = .ok (.invokestatic 71, 3) := dk_184 0 71 (dk_at dksX0_nearest_0 5 rfl rfl)
theorem dX0_nearest_8 : decode cX0_nearest 8 = .ok (.ifCond .ne 6, 3) := dk_154 0 6 (dk_at dksX0_nearest_0 8 rfl rfl)
theorem dX0_nearest_11 : decode cX0_nearest 11 = .ok (.ldc 75, 2) := dk_18 75 (dk_at dksX0_nearest_0 11 rfl rfl)
theorem dX0_nearest_13 : decode cX0_nearest 13 = .ok (.ireturn, 1) := dk_172 (dk_at dksX0_nearest_0 13 rfl rfl)
theorem dX0_nearest_14 : decode cX0_nearest 14 = .ok (.iconst (-1), 1) := dk_2 (dk_at dksX0_nearest_0 14 rfl rfl)
theorem dX0_nearest_15 : decode cX0_nearest 15 = .ok (.istore_n 2, 1) := dk_61 (dk_at dksX0_nearest_0 15 rfl rfl)
theorem dX0_nearest_16 : decode cX0_nearest 16 = .ok (.ldc 251, 2) := dk_18 251 (dk_at dksX0_nearest_0 16 rfl rfl)
theorem dX0_nearest_18 : decode cX0_nearest 18 = .ok (.istore_n 3, 1) := dk_62 (dk_at dksX0_nearest_0 18 rfl rfl)
theorem dX0_nearest_19 : decode cX0_nearest 19 = .ok (.iconst 0, 1) := dk_3 (dk_at dksX0_nearest_0 19 rfl rfl)
theorem dX0_nearest_20 : decode cX0_nearest 20 = .ok (.istore 4, 2) := dk_54 4 (dk_at dksX0_nearest_0 20 rfl rfl)
theorem dX0_nearest_22 : decode cX0_nearest 22 = .ok (.iload 4, 2) := dk_21 4 (dk_at dksX0_nearest_0 22 rfl rfl)
theorem dX0_nearest_24 : decode cX0_nearest 24 = .ok (.aload_n 0, 1) := dk_42 (dk_at dksX0_nearest_1 0 rfl rfl)
theorem dX0_nearest_25 : decode cX0_nearest 25 = .ok (.getfield 10, 3) := dk_180 0 10 (dk_at dksX0_nearest_1 1 rfl rfl)
theorem dX0_nearest_28 : decode cX0_nearest 28 = .ok (.getfield 110, 3) := dk_180 0 110 (dk_at dksX0_nearest_1 4 rfl rfl)
theorem dX0_nearest_31 : decode cX0_nearest 31 = .ok (.if_icmp .ge 52, 3) := dk_162 0 52 (dk_at dksX0_nearest_1 7 rfl rfl)
theorem dX0_nearest_34 : decode cX0_nearest 34 = .ok (.aload_n 0, 1) := dk_42 (dk_at dksX0_nearest_1 10 rfl rfl)
theorem dX0_nearest_35 : decode cX0_nearest 35 = .ok (.getfield 21, 3) := dk_180 0 21 (dk_at dksX0_nearest_1 11 rfl rfl)
theorem dX0_nearest_38 : decode cX0_nearest 38 = .ok (.iload 4, 2) := dk_21 4 (dk_at dksX0_nearest_1 14 rfl rfl)
theorem dX0_nearest_40 : decode cX0_nearest 40 = .ok (.aload_n 0, 1) := dk_42 (dk_at dksX0_nearest_1 16 rfl rfl)
theorem dX0_nearest_41 : decode cX0_nearest 41 = .ok (.getfield 21, 3) := dk_180 0 21 (dk_at dksX0_nearest_1 17 rfl rfl)
theorem dX0_nearest_44 : decode cX0_nearest 44 = .ok (.getfield 122, 3) := dk_180 0 122 (dk_at dksX0_nearest_1 20 rfl rfl)
theorem dX0_nearest_47 : decode cX0_nearest 47 = .ok (.invokevirtual 156, 3) := dk_182 0 156 (dk_at dksX0_nearest_2 0 rfl rfl)
theorem dX0_nearest_50 : decode cX0_nearest 50 = .ok (.iload_n 1, 1) := dk_27 (dk_at dksX0_nearest_2 3 rfl rfl)
theorem dX0_nearest_51 : decode cX0_nearest 51 = .ok (.isub, 1) := dk_100 (dk_at dksX0_nearest_2 4 rfl rfl)
theorem dX0_nearest_52 : decode cX0_nearest 52 = .ok (.invokestatic 273, 3) := dk_184 1 17 (dk_at dksX0_nearest_2 5 rfl rfl)
theorem dX0_nearest_55 : decode cX0_nearest 55 = .ok (.istore 5, 2) := dk_54 5 (dk_at dksX0_nearest_2 8 rfl rfl)
theorem dX0_nearest_57 : decode cX0_nearest 57 = .ok (.iload 5, 2) := dk_21 5 (dk_at dksX0_nearest_2 10 rfl rfl)
theorem dX0_nearest_59 : decode cX0_nearest 59 = .ok (.iload_n 3, 1) := dk_29 (dk_at dksX0_nearest_2 12 rfl rfl)
theorem dX0_nearest_60 : decode cX0_nearest 60 = .ok (.if_icmp .ge 8, 3) := dk_162 0 8 (dk_at dksX0_nearest_2 13 rfl rfl)
theorem dX0_nearest_63 : decode cX0_nearest 63 = .ok (.iload 4, 2) := dk_21 4 (dk_at dksX0_nearest_2 16 rfl rfl)
theorem dX0_nearest_65 : decode cX0_nearest 65 = .ok (.goto 4, 3) := dk_167 0 4 (dk_at dksX0_nearest_2 18 rfl rfl)
theorem dX0_nearest_68 : decode cX0_nearest 68 = .ok (.iload_n 2, 1) := dk_28 (dk_at dksX0_nearest_2 21 rfl rfl)
theorem dX0_nearest_69 : decode cX0_nearest 69 = .ok (.istore_n 2, 1) := dk_61 (dk_at dksX0_nearest_2 22 rfl rfl)
theorem dX0_nearest_70 : decode cX0_nearest 70 = .ok (.iload_n 3, 1) := dk_29 (dk_at dksX0_nearest_2 23 rfl rfl)
theorem dX0_nearest_71 : decode cX0_nearest 71 = .ok (.iload 5, 2) := dk_21 5 (dk_at dksX0_nearest_3 0 rfl rfl)
theorem dX0_nearest_73 : decode cX0_nearest 73 = .ok (.invokestatic 281, 3) := dk_184 1 25 (dk_at dksX0_nearest_3 2 rfl rfl)
theorem dX0_nearest_76 : decode cX0_nearest 76 = .ok (.istore_n 3, 1) := dk_62 (dk_at dksX0_nearest_3 5 rfl rfl)
theorem dX0_nearest_77 : decode cX0_nearest 77 = .ok (.iinc 4 1, 3) := dk_132 4 1 (dk_at dksX0_nearest_3 6 rfl rfl)
theorem dX0_nearest_80 : decode cX0_nearest 80 = .ok (.goto (-58), 3) := dk_167 255 198 (dk_at dksX0_nearest_3 9 rfl rfl)
theorem dX0_nearest_83 : decode cX0_nearest 83 = .ok (.iload_n 2, 1) := dk_28 (dk_at dksX0_nearest_3 12 rfl rfl)
theorem dX0_nearest_84 : decode cX0_nearest 84 = .ok (.ireturn, 1) := dk_172 (dk_at dksX0_nearest_3 13 rfl rfl)
abbrev cX0_odds : ByteArray := prog_1_method_37_code
def yX0_odds : MethodName := ⟨RX0, "odds", "(III)I"⟩
def dkwX0_odds_3 : List UInt8 := [20, 1, 30, 109, 55, 5, 132, 7, 1, 167, 255, 232, 22, 5, 136, 172]
abbrev dktX0_odds_3 : List UInt8 := dkwX0_odds_3 ++ []
def dkwX0_odds_2 : List UInt8 := [20, 1, 28, 55, 5, 3, 54, 7, 21, 7, 28, 162, 0, 24, 22, 5, 16, 100, 21, 4, 100, 133, 105]
abbrev dktX0_odds_2 : List UInt8 := dkwX0_odds_2 ++ dktX0_odds_3
def dkwX0_odds_1 : List UInt8 := [16, 100, 184, 0, 71, 154, 0, 6, 18, 75, 172, 16, 100, 29, 5, 27, 104, 96, 184, 1, 25, 54, 4]
abbrev dktX0_odds_1 : List UInt8 := dkwX0_odds_1 ++ dktX0_odds_2
def dkwX0_odds_0 : List UInt8 := [42, 27, 182, 0, 138, 154, 0, 6, 18, 142, 172, 28, 3, 16, 60, 184, 0, 71, 153, 0, 13, 29, 3]
abbrev dktX0_odds_0 : List UInt8 := dkwX0_odds_0 ++ dktX0_odds_1
theorem dksX0_odds_0 : cX0_odds.data.toList.drop 0 = dktX0_odds_0 := by decide +kernel
theorem dksX0_odds_1 : cX0_odds.data.toList.drop 23 = dktX0_odds_1 := dk_seg dksX0_odds_0 23 rfl rfl
theorem dksX0_odds_2 : cX0_odds.data.toList.drop 46 = dktX0_odds_2 := dk_seg dksX0_odds_1 23 rfl rfl
theorem dksX0_odds_3 : cX0_odds.data.toList.drop 69 = dktX0_odds_3 := dk_seg dksX0_odds_2 23 rfl rfl
theorem dX0_odds_0 : decode cX0_odds 0 = .ok (.aload_n 0, 1) := dk_42 (dk_at dksX0_odds_0 0 rfl rfl)
theorem dX0_odds_1 : decode cX0_odds 1 = .ok (.iload_n 1, 1) := dk_27 (dk_at dksX0_odds_0 1 rfl rfl)
theorem dX0_odds_2 : decode cX0_odds 2 = .ok (.invokevirtual 138, 3) := dk_182 0 138 (dk_at dksX0_odds_0 2 rfl rfl)
theorem dX0_odds_5 : decode cX0_odds 5 = .ok (.ifCond .ne 6, 3) := dk_154 0 6 (dk_at dksX0_odds_0 5 rfl rfl)
theorem dX0_odds_8 : decode cX0_odds 8 = .ok (.ldc 142, 2) := dk_18 142 (dk_at dksX0_odds_0 8 rfl rfl)
theorem dX0_odds_10 : decode cX0_odds 10 = .ok (.ireturn, 1) := dk_172 (dk_at dksX0_odds_0 10 rfl rfl)
theorem dX0_odds_11 : decode cX0_odds 11 = .ok (.iload_n 2, 1) := dk_28 (dk_at dksX0_odds_0 11 rfl rfl)
theorem dX0_odds_12 : decode cX0_odds 12 = .ok (.iconst 0, 1) := dk_3 (dk_at dksX0_odds_0 12 rfl rfl)
theorem dX0_odds_13 : decode cX0_odds 13 = .ok (.bipush 60, 2) := dk_16 60 (dk_at dksX0_odds_0 13 rfl rfl)
theorem dX0_odds_15 : decode cX0_odds 15 = .ok (.invokestatic 71, 3) := dk_184 0 71 (dk_at dksX0_odds_0 15 rfl rfl)
theorem dX0_odds_18 : decode cX0_odds 18 = .ok (.ifCond .eq 13, 3) := dk_153 0 13 (dk_at dksX0_odds_0 18 rfl rfl)
theorem dX0_odds_21 : decode cX0_odds 21 = .ok (.iload_n 3, 1) := dk_29 (dk_at dksX0_odds_0 21 rfl rfl)
theorem dX0_odds_22 : decode cX0_odds 22 = .ok (.iconst 0, 1) := dk_3 (dk_at dksX0_odds_0 22 rfl rfl)
theorem dX0_odds_23 : decode cX0_odds 23 = .ok (.bipush 100, 2) := dk_16 100 (dk_at dksX0_odds_1 0 rfl rfl)
theorem dX0_odds_25 : decode cX0_odds 25 = .ok (.invokestatic 71, 3) := dk_184 0 71 (dk_at dksX0_odds_1 2 rfl rfl)
theorem dX0_odds_28 : decode cX0_odds 28 = .ok (.ifCond .ne 6, 3) := dk_154 0 6 (dk_at dksX0_odds_1 5 rfl rfl)
theorem dX0_odds_31 : decode cX0_odds 31 = .ok (.ldc 75, 2) := dk_18 75 (dk_at dksX0_odds_1 8 rfl rfl)
theorem dX0_odds_33 : decode cX0_odds 33 = .ok (.ireturn, 1) := dk_172 (dk_at dksX0_odds_1 10 rfl rfl)
theorem dX0_odds_34 : decode cX0_odds 34 = .ok (.bipush 100, 2) := dk_16 100 (dk_at dksX0_odds_1 11 rfl rfl)
theorem dX0_odds_36 : decode cX0_odds 36 = .ok (.iload_n 3, 1) := dk_29 (dk_at dksX0_odds_1 13 rfl rfl)
theorem dX0_odds_37 : decode cX0_odds 37 = .ok (.iconst 2, 1) := dk_5 (dk_at dksX0_odds_1 14 rfl rfl)
theorem dX0_odds_38 : decode cX0_odds 38 = .ok (.iload_n 1, 1) := dk_27 (dk_at dksX0_odds_1 15 rfl rfl)
theorem dX0_odds_39 : decode cX0_odds 39 = .ok (.imul, 1) := dk_104 (dk_at dksX0_odds_1 16 rfl rfl)
theorem dX0_odds_40 : decode cX0_odds 40 = .ok (.iadd, 1) := dk_96 (dk_at dksX0_odds_1 17 rfl rfl)
theorem dX0_odds_41 : decode cX0_odds 41 = .ok (.invokestatic 281, 3) := dk_184 1 25 (dk_at dksX0_odds_1 18 rfl rfl)
theorem dX0_odds_44 : decode cX0_odds 44 = .ok (.istore 4, 2) := dk_54 4 (dk_at dksX0_odds_1 21 rfl rfl)
theorem dX0_odds_46 : decode cX0_odds 46 = .ok (.ldc2_w 284, 3) := dk_20 1 28 (dk_at dksX0_odds_2 0 rfl rfl)
theorem dX0_odds_49 : decode cX0_odds 49 = .ok (.lstore 5, 2) := dk_55 5 (dk_at dksX0_odds_2 3 rfl rfl)
theorem dX0_odds_51 : decode cX0_odds 51 = .ok (.iconst 0, 1) := dk_3 (dk_at dksX0_odds_2 5 rfl rfl)
theorem dX0_odds_52 : decode cX0_odds 52 = .ok (.istore 7, 2) := dk_54 7 (dk_at dksX0_odds_2 6 rfl rfl)
theorem dX0_odds_54 : decode cX0_odds 54 = .ok (.iload 7, 2) := dk_21 7 (dk_at dksX0_odds_2 8 rfl rfl)
theorem dX0_odds_56 : decode cX0_odds 56 = .ok (.iload_n 2, 1) := dk_28 (dk_at dksX0_odds_2 10 rfl rfl)
theorem dX0_odds_57 : decode cX0_odds 57 = .ok (.if_icmp .ge 24, 3) := dk_162 0 24 (dk_at dksX0_odds_2 11 rfl rfl)
theorem dX0_odds_60 : decode cX0_odds 60 = .ok (.lload 5, 2) := dk_22 5 (dk_at dksX0_odds_2 14 rfl rfl)
theorem dX0_odds_62 : decode cX0_odds 62 = .ok (.bipush 100, 2) := dk_16 100 (dk_at dksX0_odds_2 16 rfl rfl)
theorem dX0_odds_64 : decode cX0_odds 64 = .ok (.iload 4, 2) := dk_21 4 (dk_at dksX0_odds_2 18 rfl rfl)
theorem dX0_odds_66 : decode cX0_odds 66 = .ok (.isub, 1) := dk_100 (dk_at dksX0_odds_2 20 rfl rfl)
theorem dX0_odds_67 : decode cX0_odds 67 = .ok (.i2l, 1) := dk_133 (dk_at dksX0_odds_2 21 rfl rfl)
theorem dX0_odds_68 : decode cX0_odds 68 = .ok (.lmul, 1) := dk_105 (dk_at dksX0_odds_2 22 rfl rfl)
theorem dX0_odds_69 : decode cX0_odds 69 = .ok (.ldc2_w 286, 3) := dk_20 1 30 (dk_at dksX0_odds_3 0 rfl rfl)
theorem dX0_odds_72 : decode cX0_odds 72 = .ok (.ldiv, 1) := dk_109 (dk_at dksX0_odds_3 3 rfl rfl)
theorem dX0_odds_73 : decode cX0_odds 73 = .ok (.lstore 5, 2) := dk_55 5 (dk_at dksX0_odds_3 4 rfl rfl)
theorem dX0_odds_75 : decode cX0_odds 75 = .ok (.iinc 7 1, 3) := dk_132 7 1 (dk_at dksX0_odds_3 6 rfl rfl)
theorem dX0_odds_78 : decode cX0_odds 78 = .ok (.goto (-24), 3) := dk_167 255 232 (dk_at dksX0_odds_3 9 rfl rfl)
theorem dX0_odds_81 : decode cX0_odds 81 = .ok (.lload 5, 2) := dk_22 5 (dk_at dksX0_odds_3 12 rfl rfl)
theorem dX0_odds_83 : decode cX0_odds 83 = .ok (.l2i, 1) := dk_136 (dk_at dksX0_odds_3 14 rfl rfl)
theorem dX0_odds_84 : decode cX0_odds 84 = .ok (.ireturn, 1) := dk_172 (dk_at dksX0_odds_3 15 rfl rfl)
abbrev cX0_got : ByteArray := prog_1_method_38_code
def yX0_got : MethodName := ⟨RX0, "got", "(II)I"⟩
def dkwX0_got_2 : List UInt8 := [180, 0, 33, 42, 180, 0, 100, 28, 79, 42, 89, 180, 0, 100, 4, 96, 181, 0, 100, 42, 180, 0, 100, 172]
abbrev dktX0_got_2 : List UInt8 := dkwX0_got_2 ++ []
def dkwX0_got_1 : List UInt8 := [42, 180, 0, 100, 16, 8, 160, 0, 6, 18, 79, 172, 42, 180, 0, 29, 42, 180, 0, 100, 27, 79, 42]
abbrev dktX0_got_1 : List UInt8 := dkwX0_got_1 ++ dktX0_got_2
def dkwX0_got_0 : List UInt8 := [27, 4, 16, 50, 184, 0, 71, 153, 0, 14, 28, 3, 17, 39, 15, 184, 0, 71, 154, 0, 6, 18, 75, 172]
abbrev dktX0_got_0 : List UInt8 := dkwX0_got_0 ++ dktX0_got_1
theorem dksX0_got_0 : cX0_got.data.toList.drop 0 = dktX0_got_0 := by decide +kernel
theorem dksX0_got_1 : cX0_got.data.toList.drop 24 = dktX0_got_1 := dk_seg dksX0_got_0 24 rfl rfl
theorem dksX0_got_2 : cX0_got.data.toList.drop 47 = dktX0_got_2 := dk_seg dksX0_got_1 23 rfl rfl
theorem dX0_got_0 : decode cX0_got 0 = .ok (.iload_n 1, 1) := dk_27 (dk_at dksX0_got_0 0 rfl rfl)
theorem dX0_got_1 : decode cX0_got 1 = .ok (.iconst 1, 1) := dk_4 (dk_at dksX0_got_0 1 rfl rfl)
theorem dX0_got_2 : decode cX0_got 2 = .ok (.bipush 50, 2) := dk_16 50 (dk_at dksX0_got_0 2 rfl rfl)
theorem dX0_got_4 : decode cX0_got 4 = .ok (.invokestatic 71, 3) := dk_184 0 71 (dk_at dksX0_got_0 4 rfl rfl)
theorem dX0_got_7 : decode cX0_got 7 = .ok (.ifCond .eq 14, 3) := dk_153 0 14 (dk_at dksX0_got_0 7 rfl rfl)
theorem dX0_got_10 : decode cX0_got 10 = .ok (.iload_n 2, 1) := dk_28 (dk_at dksX0_got_0 10 rfl rfl)
theorem dX0_got_11 : decode cX0_got 11 = .ok (.iconst 0, 1) := dk_3 (dk_at dksX0_got_0 11 rfl rfl)
theorem dX0_got_12 : decode cX0_got 12 = .ok (.sipush 9999, 3) := dk_17 39 15 (dk_at dksX0_got_0 12 rfl rfl)
theorem dX0_got_15 : decode cX0_got 15 = .ok (.invokestatic 71, 3) := dk_184 0 71 (dk_at dksX0_got_0 15 rfl rfl)
theorem dX0_got_18 : decode cX0_got 18 = .ok (.ifCond .ne 6, 3) := dk_154 0 6 (dk_at dksX0_got_0 18 rfl rfl)
theorem dX0_got_21 : decode cX0_got 21 = .ok (.ldc 75, 2) := dk_18 75 (dk_at dksX0_got_0 21 rfl rfl)
theorem dX0_got_23 : decode cX0_got 23 = .ok (.ireturn, 1) := dk_172 (dk_at dksX0_got_0 23 rfl rfl)
theorem dX0_got_24 : decode cX0_got 24 = .ok (.aload_n 0, 1) := dk_42 (dk_at dksX0_got_1 0 rfl rfl)
theorem dX0_got_25 : decode cX0_got 25 = .ok (.getfield 100, 3) := dk_180 0 100 (dk_at dksX0_got_1 1 rfl rfl)
theorem dX0_got_28 : decode cX0_got 28 = .ok (.bipush 8, 2) := dk_16 8 (dk_at dksX0_got_1 4 rfl rfl)
theorem dX0_got_30 : decode cX0_got 30 = .ok (.if_icmp .ne 6, 3) := dk_160 0 6 (dk_at dksX0_got_1 6 rfl rfl)
theorem dX0_got_33 : decode cX0_got 33 = .ok (.ldc 79, 2) := dk_18 79 (dk_at dksX0_got_1 9 rfl rfl)
theorem dX0_got_35 : decode cX0_got 35 = .ok (.ireturn, 1) := dk_172 (dk_at dksX0_got_1 11 rfl rfl)
theorem dX0_got_36 : decode cX0_got 36 = .ok (.aload_n 0, 1) := dk_42 (dk_at dksX0_got_1 12 rfl rfl)
theorem dX0_got_37 : decode cX0_got 37 = .ok (.getfield 29, 3) := dk_180 0 29 (dk_at dksX0_got_1 13 rfl rfl)
theorem dX0_got_40 : decode cX0_got 40 = .ok (.aload_n 0, 1) := dk_42 (dk_at dksX0_got_1 16 rfl rfl)
theorem dX0_got_41 : decode cX0_got 41 = .ok (.getfield 100, 3) := dk_180 0 100 (dk_at dksX0_got_1 17 rfl rfl)
theorem dX0_got_44 : decode cX0_got 44 = .ok (.iload_n 1, 1) := dk_27 (dk_at dksX0_got_1 20 rfl rfl)
theorem dX0_got_45 : decode cX0_got 45 = .ok (.iastore, 1) := dk_79 (dk_at dksX0_got_1 21 rfl rfl)
theorem dX0_got_46 : decode cX0_got 46 = .ok (.aload_n 0, 1) := dk_42 (dk_at dksX0_got_1 22 rfl rfl)
theorem dX0_got_47 : decode cX0_got 47 = .ok (.getfield 33, 3) := dk_180 0 33 (dk_at dksX0_got_2 0 rfl rfl)
theorem dX0_got_50 : decode cX0_got 50 = .ok (.aload_n 0, 1) := dk_42 (dk_at dksX0_got_2 3 rfl rfl)
theorem dX0_got_51 : decode cX0_got 51 = .ok (.getfield 100, 3) := dk_180 0 100 (dk_at dksX0_got_2 4 rfl rfl)
theorem dX0_got_54 : decode cX0_got 54 = .ok (.iload_n 2, 1) := dk_28 (dk_at dksX0_got_2 7 rfl rfl)
theorem dX0_got_55 : decode cX0_got 55 = .ok (.iastore, 1) := dk_79 (dk_at dksX0_got_2 8 rfl rfl)
theorem dX0_got_56 : decode cX0_got 56 = .ok (.aload_n 0, 1) := dk_42 (dk_at dksX0_got_2 9 rfl rfl)
theorem dX0_got_57 : decode cX0_got 57 = .ok (.dup, 1) := dk_89 (dk_at dksX0_got_2 10 rfl rfl)
theorem dX0_got_58 : decode cX0_got 58 = .ok (.getfield 100, 3) := dk_180 0 100 (dk_at dksX0_got_2 11 rfl rfl)
theorem dX0_got_61 : decode cX0_got 61 = .ok (.iconst 1, 1) := dk_4 (dk_at dksX0_got_2 14 rfl rfl)
theorem dX0_got_62 : decode cX0_got 62 = .ok (.iadd, 1) := dk_96 (dk_at dksX0_got_2 15 rfl rfl)
theorem dX0_got_63 : decode cX0_got 63 = .ok (.putfield 100, 3) := dk_181 0 100 (dk_at dksX0_got_2 16 rfl rfl)
theorem dX0_got_66 : decode cX0_got 66 = .ok (.aload_n 0, 1) := dk_42 (dk_at dksX0_got_2 19 rfl rfl)
theorem dX0_got_67 : decode cX0_got 67 = .ok (.getfield 100, 3) := dk_180 0 100 (dk_at dksX0_got_2 20 rfl rfl)
theorem dX0_got_70 : decode cX0_got 70 = .ok (.ireturn, 1) := dk_172 (dk_at dksX0_got_2 23 rfl rfl)
abbrev cX0_used : ByteArray := prog_1_method_39_code
def yX0_used : MethodName := ⟨RX0, "used", "()I"⟩
def dkwX0_used_4 : List UInt8 := [132, 2, 1, 167, 255, 165, 27, 172]
abbrev dktX0_used_4 : List UInt8 := dkwX0_used_4 ++ []
def dkwX0_used_3 : List UInt8 := [3, 62, 132, 4, 1, 167, 255, 201, 27, 29, 153, 0, 9, 4, 28, 120, 167, 0, 4, 3, 128, 60]
abbrev dktX0_used_3 : List UInt8 := dkwX0_used_3 ++ dktX0_used_4
def dkwX0_used_2 : List UInt8 := [180, 0, 21, 180, 0, 122, 182, 0, 156, 104, 42, 180, 0, 33, 21, 4, 46, 160, 0, 7, 4, 167, 0, 4]
abbrev dktX0_used_2 : List UInt8 := dkwX0_used_2 ++ dktX0_used_3
def dkwX0_used_1 : List UInt8 := [180, 0, 100, 162, 0, 52, 29, 153, 0, 48, 42, 180, 0, 29, 21, 4, 46, 42, 180, 0, 21, 28, 42]
abbrev dktX0_used_1 : List UInt8 := dkwX0_used_1 ++ dktX0_used_2
def dkwX0_used_0 : List UInt8 := [3, 60, 3, 61, 28, 42, 180, 0, 10, 180, 0, 110, 162, 0, 86, 4, 62, 3, 54, 4, 21, 4, 42]
abbrev dktX0_used_0 : List UInt8 := dkwX0_used_0 ++ dktX0_used_1
theorem dksX0_used_0 : cX0_used.data.toList.drop 0 = dktX0_used_0 := by decide +kernel
theorem dksX0_used_1 : cX0_used.data.toList.drop 23 = dktX0_used_1 := dk_seg dksX0_used_0 23 rfl rfl
theorem dksX0_used_2 : cX0_used.data.toList.drop 46 = dktX0_used_2 := dk_seg dksX0_used_1 23 rfl rfl
theorem dksX0_used_3 : cX0_used.data.toList.drop 70 = dktX0_used_3 := dk_seg dksX0_used_2 24 rfl rfl
theorem dksX0_used_4 : cX0_used.data.toList.drop 92 = dktX0_used_4 := dk_seg dksX0_used_3 22 rfl rfl
theorem dX0_used_0 : decode cX0_used 0 = .ok (.iconst 0, 1) := dk_3 (dk_at dksX0_used_0 0 rfl rfl)
theorem dX0_used_1 : decode cX0_used 1 = .ok (.istore_n 1, 1) := dk_60 (dk_at dksX0_used_0 1 rfl rfl)
theorem dX0_used_2 : decode cX0_used 2 = .ok (.iconst 0, 1) := dk_3 (dk_at dksX0_used_0 2 rfl rfl)
theorem dX0_used_3 : decode cX0_used 3 = .ok (.istore_n 2, 1) := dk_61 (dk_at dksX0_used_0 3 rfl rfl)
theorem dX0_used_4 : decode cX0_used 4 = .ok (.iload_n 2, 1) := dk_28 (dk_at dksX0_used_0 4 rfl rfl)
theorem dX0_used_5 : decode cX0_used 5 = .ok (.aload_n 0, 1) := dk_42 (dk_at dksX0_used_0 5 rfl rfl)
theorem dX0_used_6 : decode cX0_used 6 = .ok (.getfield 10, 3) := dk_180 0 10 (dk_at dksX0_used_0 6 rfl rfl)
theorem dX0_used_9 : decode cX0_used 9 = .ok (.getfield 110, 3) := dk_180 0 110 (dk_at dksX0_used_0 9 rfl rfl)
theorem dX0_used_12 : decode cX0_used 12 = .ok (.if_icmp .ge 86, 3) := dk_162 0 86 (dk_at dksX0_used_0 12 rfl rfl)
theorem dX0_used_15 : decode cX0_used 15 = .ok (.iconst 1, 1) := dk_4 (dk_at dksX0_used_0 15 rfl rfl)
theorem dX0_used_16 : decode cX0_used 16 = .ok (.istore_n 3, 1) := dk_62 (dk_at dksX0_used_0 16 rfl rfl)
theorem dX0_used_17 : decode cX0_used 17 = .ok (.iconst 0, 1) := dk_3 (dk_at dksX0_used_0 17 rfl rfl)
theorem dX0_used_18 : decode cX0_used 18 = .ok (.istore 4, 2) := dk_54 4 (dk_at dksX0_used_0 18 rfl rfl)
theorem dX0_used_20 : decode cX0_used 20 = .ok (.iload 4, 2) := dk_21 4 (dk_at dksX0_used_0 20 rfl rfl)
theorem dX0_used_22 : decode cX0_used 22 = .ok (.aload_n 0, 1) := dk_42 (dk_at dksX0_used_0 22 rfl rfl)
theorem dX0_used_23 : decode cX0_used 23 = .ok (.getfield 100, 3) := dk_180 0 100 (dk_at dksX0_used_1 0 rfl rfl)
theorem dX0_used_26 : decode cX0_used 26 = .ok (.if_icmp .ge 52, 3) := dk_162 0 52 (dk_at dksX0_used_1 3 rfl rfl)
theorem dX0_used_29 : decode cX0_used 29 = .ok (.iload_n 3, 1) := dk_29 (dk_at dksX0_used_1 6 rfl rfl)
theorem dX0_used_30 : decode cX0_used 30 = .ok (.ifCond .eq 48, 3) := dk_153 0 48 (dk_at dksX0_used_1 7 rfl rfl)
theorem dX0_used_33 : decode cX0_used 33 = .ok (.aload_n 0, 1) := dk_42 (dk_at dksX0_used_1 10 rfl rfl)
theorem dX0_used_34 : decode cX0_used 34 = .ok (.getfield 29, 3) := dk_180 0 29 (dk_at dksX0_used_1 11 rfl rfl)
theorem dX0_used_37 : decode cX0_used 37 = .ok (.iload 4, 2) := dk_21 4 (dk_at dksX0_used_1 14 rfl rfl)
theorem dX0_used_39 : decode cX0_used 39 = .ok (.iaload, 1) := dk_46 (dk_at dksX0_used_1 16 rfl rfl)
theorem dX0_used_40 : decode cX0_used 40 = .ok (.aload_n 0, 1) := dk_42 (dk_at dksX0_used_1 17 rfl rfl)
theorem dX0_used_41 : decode cX0_used 41 = .ok (.getfield 21, 3) := dk_180 0 21 (dk_at dksX0_used_1 18 rfl rfl)
theorem dX0_used_44 : decode cX0_used 44 = .ok (.iload_n 2, 1) := dk_28 (dk_at dksX0_used_1 21 rfl rfl)
theorem dX0_used_45 : decode cX0_used 45 = .ok (.aload_n 0, 1) := dk_42 (dk_at dksX0_used_1 22 rfl rfl)
theorem dX0_used_46 : decode cX0_used 46 = .ok (.getfield 21, 3) := dk_180 0 21 (dk_at dksX0_used_2 0 rfl rfl)
theorem dX0_used_49 : decode cX0_used 49 = .ok (.getfield 122, 3) := dk_180 0 122 (dk_at dksX0_used_2 3 rfl rfl)
theorem dX0_used_52 : decode cX0_used 52 = .ok (.invokevirtual 156, 3) := dk_182 0 156 (dk_at dksX0_used_2 6 rfl rfl)
theorem dX0_used_55 : decode cX0_used 55 = .ok (.imul, 1) := dk_104 (dk_at dksX0_used_2 9 rfl rfl)
theorem dX0_used_56 : decode cX0_used 56 = .ok (.aload_n 0, 1) := dk_42 (dk_at dksX0_used_2 10 rfl rfl)
theorem dX0_used_57 : decode cX0_used 57 = .ok (.getfield 33, 3) := dk_180 0 33 (dk_at dksX0_used_2 11 rfl rfl)
theorem dX0_used_60 : decode cX0_used 60 = .ok (.iload 4, 2) := dk_21 4 (dk_at dksX0_used_2 14 rfl rfl)
theorem dX0_used_62 : decode cX0_used 62 = .ok (.iaload, 1) := dk_46 (dk_at dksX0_used_2 16 rfl rfl)
theorem dX0_used_63 : decode cX0_used 63 = .ok (.if_icmp .ne 7, 3) := dk_160 0 7 (dk_at dksX0_used_2 17 rfl rfl)
theorem dX0_used_66 : decode cX0_used 66 = .ok (.iconst 1, 1) := dk_4 (dk_at dksX0_used_2 20 rfl rfl)
theorem dX0_used_67 : decode cX0_used 67 = .ok (.goto 4, 3) := dk_167 0 4 (dk_at dksX0_used_2 21 rfl rfl)
theorem dX0_used_70 : decode cX0_used 70 = .ok (.iconst 0, 1) := dk_3 (dk_at dksX0_used_3 0 rfl rfl)
theorem dX0_used_71 : decode cX0_used 71 = .ok (.istore_n 3, 1) := dk_62 (dk_at dksX0_used_3 1 rfl rfl)
theorem dX0_used_72 : decode cX0_used 72 = .ok (.iinc 4 1, 3) := dk_132 4 1 (dk_at dksX0_used_3 2 rfl rfl)
theorem dX0_used_75 : decode cX0_used 75 = .ok (.goto (-55), 3) := dk_167 255 201 (dk_at dksX0_used_3 5 rfl rfl)
theorem dX0_used_78 : decode cX0_used 78 = .ok (.iload_n 1, 1) := dk_27 (dk_at dksX0_used_3 8 rfl rfl)
theorem dX0_used_79 : decode cX0_used 79 = .ok (.iload_n 3, 1) := dk_29 (dk_at dksX0_used_3 9 rfl rfl)
theorem dX0_used_80 : decode cX0_used 80 = .ok (.ifCond .eq 9, 3) := dk_153 0 9 (dk_at dksX0_used_3 10 rfl rfl)
theorem dX0_used_83 : decode cX0_used 83 = .ok (.iconst 1, 1) := dk_4 (dk_at dksX0_used_3 13 rfl rfl)
theorem dX0_used_84 : decode cX0_used 84 = .ok (.iload_n 2, 1) := dk_28 (dk_at dksX0_used_3 14 rfl rfl)
theorem dX0_used_85 : decode cX0_used 85 = .ok (.ishl, 1) := dk_120 (dk_at dksX0_used_3 15 rfl rfl)
theorem dX0_used_86 : decode cX0_used 86 = .ok (.goto 4, 3) := dk_167 0 4 (dk_at dksX0_used_3 16 rfl rfl)
theorem dX0_used_89 : decode cX0_used 89 = .ok (.iconst 0, 1) := dk_3 (dk_at dksX0_used_3 19 rfl rfl)
theorem dX0_used_90 : decode cX0_used 90 = .ok (.ior, 1) := dk_128 (dk_at dksX0_used_3 20 rfl rfl)
theorem dX0_used_91 : decode cX0_used 91 = .ok (.istore_n 1, 1) := dk_60 (dk_at dksX0_used_3 21 rfl rfl)
theorem dX0_used_92 : decode cX0_used 92 = .ok (.iinc 2 1, 3) := dk_132 2 1 (dk_at dksX0_used_4 0 rfl rfl)
theorem dX0_used_95 : decode cX0_used 95 = .ok (.goto (-91), 3) := dk_167 255 165 (dk_at dksX0_used_4 3 rfl rfl)
theorem dX0_used_98 : decode cX0_used 98 = .ok (.iload_n 1, 1) := dk_27 (dk_at dksX0_used_4 6 rfl rfl)
theorem dX0_used_99 : decode cX0_used 99 = .ok (.ireturn, 1) := dk_172 (dk_at dksX0_used_4 7 rfl rfl)
abbrev cX0_bale : ByteArray := prog_1_method_41_code
def yX0_bale : MethodName := ⟨RX0, "bale", "()I"⟩
def dkwX0_bale_1 : List UInt8 := [180, 0, 21, 180, 0, 122, 28, 96, 182, 1, 35, 153, 0, 5, 28, 172, 132, 2, 1, 167, 255, 221, 2, 172]
abbrev dktX0_bale_1 : List UInt8 := dkwX0_bale_1 ++ []
def dkwX0_bale_0 : List UInt8 := [42, 182, 1, 32, 60, 3, 61, 28, 7, 162, 0, 36, 27, 184, 1, 20, 4, 164, 0, 28, 42, 27, 42]
abbrev dktX0_bale_0 : List UInt8 := dkwX0_bale_0 ++ dktX0_bale_1
theorem dksX0_bale_0 : cX0_bale.data.toList.drop 0 = dktX0_bale_0 := by decide +kernel
theorem dksX0_bale_1 : cX0_bale.data.toList.drop 23 = dktX0_bale_1 := dk_seg dksX0_bale_0 23 rfl rfl
theorem dX0_bale_0 : decode cX0_bale 0 = .ok (.aload_n 0, 1) := dk_42 (dk_at dksX0_bale_0 0 rfl rfl)
theorem dX0_bale_1 : decode cX0_bale 1 = .ok (.invokevirtual 288, 3) := dk_182 1 32 (dk_at dksX0_bale_0 1 rfl rfl)
theorem dX0_bale_4 : decode cX0_bale 4 = .ok (.istore_n 1, 1) := dk_60 (dk_at dksX0_bale_0 4 rfl rfl)
theorem dX0_bale_5 : decode cX0_bale 5 = .ok (.iconst 0, 1) := dk_3 (dk_at dksX0_bale_0 5 rfl rfl)
theorem dX0_bale_6 : decode cX0_bale 6 = .ok (.istore_n 2, 1) := dk_61 (dk_at dksX0_bale_0 6 rfl rfl)
theorem dX0_bale_7 : decode cX0_bale 7 = .ok (.iload_n 2, 1) := dk_28 (dk_at dksX0_bale_0 7 rfl rfl)
theorem dX0_bale_8 : decode cX0_bale 8 = .ok (.iconst 4, 1) := dk_7 (dk_at dksX0_bale_0 8 rfl rfl)
theorem dX0_bale_9 : decode cX0_bale 9 = .ok (.if_icmp .ge 36, 3) := dk_162 0 36 (dk_at dksX0_bale_0 9 rfl rfl)
theorem dX0_bale_12 : decode cX0_bale 12 = .ok (.iload_n 1, 1) := dk_27 (dk_at dksX0_bale_0 12 rfl rfl)
theorem dX0_bale_13 : decode cX0_bale 13 = .ok (.invokestatic 276, 3) := dk_184 1 20 (dk_at dksX0_bale_0 13 rfl rfl)
theorem dX0_bale_16 : decode cX0_bale 16 = .ok (.iconst 1, 1) := dk_4 (dk_at dksX0_bale_0 16 rfl rfl)
theorem dX0_bale_17 : decode cX0_bale 17 = .ok (.if_icmp .le 28, 3) := dk_164 0 28 (dk_at dksX0_bale_0 17 rfl rfl)
theorem dX0_bale_20 : decode cX0_bale 20 = .ok (.aload_n 0, 1) := dk_42 (dk_at dksX0_bale_0 20 rfl rfl)
theorem dX0_bale_21 : decode cX0_bale 21 = .ok (.iload_n 1, 1) := dk_27 (dk_at dksX0_bale_0 21 rfl rfl)
theorem dX0_bale_22 : decode cX0_bale 22 = .ok (.aload_n 0, 1) := dk_42 (dk_at dksX0_bale_0 22 rfl rfl)
theorem dX0_bale_23 : decode cX0_bale 23 = .ok (.getfield 21, 3) := dk_180 0 21 (dk_at dksX0_bale_1 0 rfl rfl)
theorem dX0_bale_26 : decode cX0_bale 26 = .ok (.getfield 122, 3) := dk_180 0 122 (dk_at dksX0_bale_1 3 rfl rfl)
theorem dX0_bale_29 : decode cX0_bale 29 = .ok (.iload_n 2, 1) := dk_28 (dk_at dksX0_bale_1 6 rfl rfl)
theorem dX0_bale_30 : decode cX0_bale 30 = .ok (.iadd, 1) := dk_96 (dk_at dksX0_bale_1 7 rfl rfl)
theorem dX0_bale_31 : decode cX0_bale 31 = .ok (.invokevirtual 291, 3) := dk_182 1 35 (dk_at dksX0_bale_1 8 rfl rfl)
theorem dX0_bale_34 : decode cX0_bale 34 = .ok (.ifCond .eq 5, 3) := dk_153 0 5 (dk_at dksX0_bale_1 11 rfl rfl)
theorem dX0_bale_37 : decode cX0_bale 37 = .ok (.iload_n 2, 1) := dk_28 (dk_at dksX0_bale_1 14 rfl rfl)
theorem dX0_bale_38 : decode cX0_bale 38 = .ok (.ireturn, 1) := dk_172 (dk_at dksX0_bale_1 15 rfl rfl)
theorem dX0_bale_39 : decode cX0_bale 39 = .ok (.iinc 2 1, 3) := dk_132 2 1 (dk_at dksX0_bale_1 16 rfl rfl)
theorem dX0_bale_42 : decode cX0_bale 42 = .ok (.goto (-35), 3) := dk_167 255 221 (dk_at dksX0_bale_1 19 rfl rfl)
theorem dX0_bale_45 : decode cX0_bale 45 = .ok (.iconst (-1), 1) := dk_2 (dk_at dksX0_bale_1 22 rfl rfl)
theorem dX0_bale_46 : decode cX0_bale 46 = .ok (.ireturn, 1) := dk_172 (dk_at dksX0_bale_1 23 rfl rfl)
abbrev cX0_areUnlike : ByteArray := prog_1_method_40_code
def yX0_areUnlike : MethodName := ⟨RX0, "areUnlike", "(II)Z"⟩
def dkwX0_areUnlike_4 : List UInt8 := [132, 4, 1, 167, 255, 166, 29, 172]
abbrev dktX0_areUnlike_4 : List UInt8 := dkwX0_areUnlike_4 ++ []
def dkwX0_areUnlike_3 : List UInt8 := [180, 0, 21, 21, 5, 28, 182, 0, 156, 159, 0, 7, 4, 167, 0, 4, 3, 62, 132, 5, 1, 167, 255, 190]
abbrev dktX0_areUnlike_3 : List UInt8 := dkwX0_areUnlike_3 ++ dktX0_areUnlike_4
def dkwX0_areUnlike_2 : List UInt8 := [153, 0, 35, 27, 21, 5, 184, 0, 204, 153, 0, 26, 42, 180, 0, 21, 21, 4, 28, 182, 0, 156, 42]
abbrev dktX0_areUnlike_2 : List UInt8 := dkwX0_areUnlike_2 ++ dktX0_areUnlike_3
def dkwX0_areUnlike_1 : List UInt8 := [21, 5, 42, 180, 0, 10, 180, 0, 110, 162, 0, 60, 29, 153, 0, 56, 27, 21, 4, 184, 0, 204]
abbrev dktX0_areUnlike_1 : List UInt8 := dkwX0_areUnlike_1 ++ dktX0_areUnlike_2
def dkwX0_areUnlike_0 : List UInt8 := [4, 62, 3, 54, 4, 21, 4, 42, 180, 0, 10, 180, 0, 110, 162, 0, 84, 21, 4, 4, 96, 54, 5]
abbrev dktX0_areUnlike_0 : List UInt8 := dkwX0_areUnlike_0 ++ dktX0_areUnlike_1
theorem dksX0_areUnlike_0 : cX0_areUnlike.data.toList.drop 0 = dktX0_areUnlike_0 := by decide +kernel
theorem dksX0_areUnlike_1 : cX0_areUnlike.data.toList.drop 23 = dktX0_areUnlike_1 := dk_seg dksX0_areUnlike_0 23 rfl rfl
theorem dksX0_areUnlike_2 : cX0_areUnlike.data.toList.drop 45 = dktX0_areUnlike_2 := dk_seg dksX0_areUnlike_1 22 rfl rfl
theorem dksX0_areUnlike_3 : cX0_areUnlike.data.toList.drop 68 = dktX0_areUnlike_3 := dk_seg dksX0_areUnlike_2 23 rfl rfl
theorem dksX0_areUnlike_4 : cX0_areUnlike.data.toList.drop 92 = dktX0_areUnlike_4 := dk_seg dksX0_areUnlike_3 24 rfl rfl
theorem dX0_areUnlike_0 : decode cX0_areUnlike 0 = .ok (.iconst 1, 1) := dk_4 (dk_at dksX0_areUnlike_0 0 rfl rfl)
theorem dX0_areUnlike_1 : decode cX0_areUnlike 1 = .ok (.istore_n 3, 1) := dk_62 (dk_at dksX0_areUnlike_0 1 rfl rfl)
theorem dX0_areUnlike_2 : decode cX0_areUnlike 2 = .ok (.iconst 0, 1) := dk_3 (dk_at dksX0_areUnlike_0 2 rfl rfl)
theorem dX0_areUnlike_3 : decode cX0_areUnlike 3 = .ok (.istore 4, 2) := dk_54 4 (dk_at dksX0_areUnlike_0 3 rfl rfl)
theorem dX0_areUnlike_5 : decode cX0_areUnlike 5 = .ok (.iload 4, 2) := dk_21 4 (dk_at dksX0_areUnlike_0 5 rfl rfl)
theorem dX0_areUnlike_7 : decode cX0_areUnlike 7 = .ok (.aload_n 0, 1) := dk_42 (dk_at dksX0_areUnlike_0 7 rfl rfl)
theorem dX0_areUnlike_8 : decode cX0_areUnlike 8 = .ok (.getfield 10, 3) := dk_180 0 10 (dk_at dksX0_areUnlike_0 8 rfl rfl)
theorem dX0_areUnlike_11 : decode cX0_areUnlike 11 = .ok (.getfield 110, 3) := dk_180 0 110 (dk_at dksX0_areUnlike_0 11 rfl rfl)
theorem dX0_areUnlike_14 : decode cX0_areUnlike 14 = .ok (.if_icmp .ge 84, 3) := dk_162 0 84 (dk_at dksX0_areUnlike_0 14 rfl rfl)
theorem dX0_areUnlike_17 : decode cX0_areUnlike 17 = .ok (.iload 4, 2) := dk_21 4 (dk_at dksX0_areUnlike_0 17 rfl rfl)
theorem dX0_areUnlike_19 : decode cX0_areUnlike 19 = .ok (.iconst 1, 1) := dk_4 (dk_at dksX0_areUnlike_0 19 rfl rfl)
theorem dX0_areUnlike_20 : decode cX0_areUnlike 20 = .ok (.iadd, 1) := dk_96 (dk_at dksX0_areUnlike_0 20 rfl rfl)
theorem dX0_areUnlike_21 : decode cX0_areUnlike 21 = .ok (.istore 5, 2) := dk_54 5 (dk_at dksX0_areUnlike_0 21 rfl rfl)
theorem dX0_areUnlike_23 : decode cX0_areUnlike 23 = .ok (.iload 5, 2) := dk_21 5 (dk_at dksX0_areUnlike_1 0 rfl rfl)
theorem dX0_areUnlike_25 : decode cX0_areUnlike 25 = .ok (.aload_n 0, 1) := dk_42 (dk_at dksX0_areUnlike_1 2 rfl rfl)
theorem dX0_areUnlike_26 : decode cX0_areUnlike 26 = .ok (.getfield 10, 3) := dk_180 0 10 (dk_at dksX0_areUnlike_1 3 rfl rfl)
theorem dX0_areUnlike_29 : decode cX0_areUnlike 29 = .ok (.getfield 110, 3) := dk_180 0 110 (dk_at dksX0_areUnlike_1 6 rfl rfl)
theorem dX0_areUnlike_32 : decode cX0_areUnlike 32 = .ok (.if_icmp .ge 60, 3) := dk_162 0 60 (dk_at dksX0_areUnlike_1 9 rfl rfl)
theorem dX0_areUnlike_35 : decode cX0_areUnlike 35 = .ok (.iload_n 3, 1) := dk_29 (dk_at dksX0_areUnlike_1 12 rfl rfl)
theorem dX0_areUnlike_36 : decode cX0_areUnlike 36 = .ok (.ifCond .eq 56, 3) := dk_153 0 56 (dk_at dksX0_areUnlike_1 13 rfl rfl)
theorem dX0_areUnlike_39 : decode cX0_areUnlike 39 = .ok (.iload_n 1, 1) := dk_27 (dk_at dksX0_areUnlike_1 16 rfl rfl)
theorem dX0_areUnlike_40 : decode cX0_areUnlike 40 = .ok (.iload 4, 2) := dk_21 4 (dk_at dksX0_areUnlike_1 17 rfl rfl)
theorem dX0_areUnlike_42 : decode cX0_areUnlike 42 = .ok (.invokestatic 204, 3) := dk_184 0 204 (dk_at dksX0_areUnlike_1 19 rfl rfl)
theorem dX0_areUnlike_45 : decode cX0_areUnlike 45 = .ok (.ifCond .eq 35, 3) := dk_153 0 35 (dk_at dksX0_areUnlike_2 0 rfl rfl)
theorem dX0_areUnlike_48 : decode cX0_areUnlike 48 = .ok (.iload_n 1, 1) := dk_27 (dk_at dksX0_areUnlike_2 3 rfl rfl)
theorem dX0_areUnlike_49 : decode cX0_areUnlike 49 = .ok (.iload 5, 2) := dk_21 5 (dk_at dksX0_areUnlike_2 4 rfl rfl)
theorem dX0_areUnlike_51 : decode cX0_areUnlike 51 = .ok (.invokestatic 204, 3) := dk_184 0 204 (dk_at dksX0_areUnlike_2 6 rfl rfl)
theorem dX0_areUnlike_54 : decode cX0_areUnlike 54 = .ok (.ifCond .eq 26, 3) := dk_153 0 26 (dk_at dksX0_areUnlike_2 9 rfl rfl)
theorem dX0_areUnlike_57 : decode cX0_areUnlike 57 = .ok (.aload_n 0, 1) := dk_42 (dk_at dksX0_areUnlike_2 12 rfl rfl)
theorem dX0_areUnlike_58 : decode cX0_areUnlike 58 = .ok (.getfield 21, 3) := dk_180 0 21 (dk_at dksX0_areUnlike_2 13 rfl rfl)
theorem dX0_areUnlike_61 : decode cX0_areUnlike 61 = .ok (.iload 4, 2) := dk_21 4 (dk_at dksX0_areUnlike_2 16 rfl rfl)
theorem dX0_areUnlike_63 : decode cX0_areUnlike 63 = .ok (.iload_n 2, 1) := dk_28 (dk_at dksX0_areUnlike_2 18 rfl rfl)
theorem dX0_areUnlike_64 : decode cX0_areUnlike 64 = .ok (.invokevirtual 156, 3) := dk_182 0 156 (dk_at dksX0_areUnlike_2 19 rfl rfl)
theorem dX0_areUnlike_67 : decode cX0_areUnlike 67 = .ok (.aload_n 0, 1) := dk_42 (dk_at dksX0_areUnlike_2 22 rfl rfl)
theorem dX0_areUnlike_68 : decode cX0_areUnlike 68 = .ok (.getfield 21, 3) := dk_180 0 21 (dk_at dksX0_areUnlike_3 0 rfl rfl)
theorem dX0_areUnlike_71 : decode cX0_areUnlike 71 = .ok (.iload 5, 2) := dk_21 5 (dk_at dksX0_areUnlike_3 3 rfl rfl)
theorem dX0_areUnlike_73 : decode cX0_areUnlike 73 = .ok (.iload_n 2, 1) := dk_28 (dk_at dksX0_areUnlike_3 5 rfl rfl)
theorem dX0_areUnlike_74 : decode cX0_areUnlike 74 = .ok (.invokevirtual 156, 3) := dk_182 0 156 (dk_at dksX0_areUnlike_3 6 rfl rfl)
theorem dX0_areUnlike_77 : decode cX0_areUnlike 77 = .ok (.if_icmp .eq 7, 3) := dk_159 0 7 (dk_at dksX0_areUnlike_3 9 rfl rfl)
theorem dX0_areUnlike_80 : decode cX0_areUnlike 80 = .ok (.iconst 1, 1) := dk_4 (dk_at dksX0_areUnlike_3 12 rfl rfl)
theorem dX0_areUnlike_81 : decode cX0_areUnlike 81 = .ok (.goto 4, 3) := dk_167 0 4 (dk_at dksX0_areUnlike_3 13 rfl rfl)
theorem dX0_areUnlike_84 : decode cX0_areUnlike 84 = .ok (.iconst 0, 1) := dk_3 (dk_at dksX0_areUnlike_3 16 rfl rfl)
theorem dX0_areUnlike_85 : decode cX0_areUnlike 85 = .ok (.istore_n 3, 1) := dk_62 (dk_at dksX0_areUnlike_3 17 rfl rfl)
theorem dX0_areUnlike_86 : decode cX0_areUnlike 86 = .ok (.iinc 5 1, 3) := dk_132 5 1 (dk_at dksX0_areUnlike_3 18 rfl rfl)
theorem dX0_areUnlike_89 : decode cX0_areUnlike 89 = .ok (.goto (-66), 3) := dk_167 255 190 (dk_at dksX0_areUnlike_3 21 rfl rfl)
theorem dX0_areUnlike_92 : decode cX0_areUnlike 92 = .ok (.iinc 4 1, 3) := dk_132 4 1 (dk_at dksX0_areUnlike_4 0 rfl rfl)
theorem dX0_areUnlike_95 : decode cX0_areUnlike 95 = .ok (.goto (-90), 3) := dk_167 255 166 (dk_at dksX0_areUnlike_4 3 rfl rfl)
theorem dX0_areUnlike_98 : decode cX0_areUnlike 98 = .ok (.iload_n 3, 1) := dk_29 (dk_at dksX0_areUnlike_4 6 rfl rfl)
theorem dX0_areUnlike_99 : decode cX0_areUnlike 99 = .ok (.ireturn, 1) := dk_172 (dk_at dksX0_areUnlike_4 7 rfl rfl)
abbrev cX0_write : ByteArray := prog_1_method_42_code
def yX0_write : MethodName := ⟨RX0, "write", "(II)I"⟩
def dkwX0_write_2 : List UInt8 := [180, 0, 39, 42, 180, 0, 103, 28, 79, 42, 89, 180, 0, 103, 4, 96, 181, 0, 103, 42, 180, 0, 103, 172]
abbrev dktX0_write_2 : List UInt8 := dkwX0_write_2 ++ []
def dkwX0_write_1 : List UInt8 := [172, 42, 180, 0, 103, 16, 15, 160, 0, 6, 18, 79, 172, 42, 180, 0, 36, 42, 180, 0, 103, 27, 79, 42]
abbrev dktX0_write_1 : List UInt8 := dkwX0_write_1 ++ dktX0_write_2
def dkwX0_write_0 : List UInt8 := [42, 27, 182, 0, 138, 154, 0, 6, 18, 142, 172, 28, 3, 17, 3, 231, 184, 0, 71, 154, 0, 6, 18, 75]
abbrev dktX0_write_0 : List UInt8 := dkwX0_write_0 ++ dktX0_write_1
theorem dksX0_write_0 : cX0_write.data.toList.drop 0 = dktX0_write_0 := by decide +kernel
theorem dksX0_write_1 : cX0_write.data.toList.drop 24 = dktX0_write_1 := dk_seg dksX0_write_0 24 rfl rfl
theorem dksX0_write_2 : cX0_write.data.toList.drop 48 = dktX0_write_2 := dk_seg dksX0_write_1 24 rfl rfl
theorem dX0_write_0 : decode cX0_write 0 = .ok (.aload_n 0, 1) := dk_42 (dk_at dksX0_write_0 0 rfl rfl)
theorem dX0_write_1 : decode cX0_write 1 = .ok (.iload_n 1, 1) := dk_27 (dk_at dksX0_write_0 1 rfl rfl)
theorem dX0_write_2 : decode cX0_write 2 = .ok (.invokevirtual 138, 3) := dk_182 0 138 (dk_at dksX0_write_0 2 rfl rfl)
theorem dX0_write_5 : decode cX0_write 5 = .ok (.ifCond .ne 6, 3) := dk_154 0 6 (dk_at dksX0_write_0 5 rfl rfl)
theorem dX0_write_8 : decode cX0_write 8 = .ok (.ldc 142, 2) := dk_18 142 (dk_at dksX0_write_0 8 rfl rfl)
theorem dX0_write_10 : decode cX0_write 10 = .ok (.ireturn, 1) := dk_172 (dk_at dksX0_write_0 10 rfl rfl)
theorem dX0_write_11 : decode cX0_write 11 = .ok (.iload_n 2, 1) := dk_28 (dk_at dksX0_write_0 11 rfl rfl)
theorem dX0_write_12 : decode cX0_write 12 = .ok (.iconst 0, 1) := dk_3 (dk_at dksX0_write_0 12 rfl rfl)
theorem dX0_write_13 : decode cX0_write 13 = .ok (.sipush 999, 3) := dk_17 3 231 (dk_at dksX0_write_0 13 rfl rfl)
theorem dX0_write_16 : decode cX0_write 16 = .ok (.invokestatic 71, 3) := dk_184 0 71 (dk_at dksX0_write_0 16 rfl rfl)
theorem dX0_write_19 : decode cX0_write 19 = .ok (.ifCond .ne 6, 3) := dk_154 0 6 (dk_at dksX0_write_0 19 rfl rfl)
theorem dX0_write_22 : decode cX0_write 22 = .ok (.ldc 75, 2) := dk_18 75 (dk_at dksX0_write_0 22 rfl rfl)
theorem dX0_write_24 : decode cX0_write 24 = .ok (.ireturn, 1) := dk_172 (dk_at dksX0_write_1 0 rfl rfl)
theorem dX0_write_25 : decode cX0_write 25 = .ok (.aload_n 0, 1) := dk_42 (dk_at dksX0_write_1 1 rfl rfl)
theorem dX0_write_26 : decode cX0_write 26 = .ok (.getfield 103, 3) := dk_180 0 103 (dk_at dksX0_write_1 2 rfl rfl)
theorem dX0_write_29 : decode cX0_write 29 = .ok (.bipush 15, 2) := dk_16 15 (dk_at dksX0_write_1 5 rfl rfl)
theorem dX0_write_31 : decode cX0_write 31 = .ok (.if_icmp .ne 6, 3) := dk_160 0 6 (dk_at dksX0_write_1 7 rfl rfl)
theorem dX0_write_34 : decode cX0_write 34 = .ok (.ldc 79, 2) := dk_18 79 (dk_at dksX0_write_1 10 rfl rfl)
theorem dX0_write_36 : decode cX0_write 36 = .ok (.ireturn, 1) := dk_172 (dk_at dksX0_write_1 12 rfl rfl)
theorem dX0_write_37 : decode cX0_write 37 = .ok (.aload_n 0, 1) := dk_42 (dk_at dksX0_write_1 13 rfl rfl)
theorem dX0_write_38 : decode cX0_write 38 = .ok (.getfield 36, 3) := dk_180 0 36 (dk_at dksX0_write_1 14 rfl rfl)
theorem dX0_write_41 : decode cX0_write 41 = .ok (.aload_n 0, 1) := dk_42 (dk_at dksX0_write_1 17 rfl rfl)
theorem dX0_write_42 : decode cX0_write 42 = .ok (.getfield 103, 3) := dk_180 0 103 (dk_at dksX0_write_1 18 rfl rfl)
theorem dX0_write_45 : decode cX0_write 45 = .ok (.iload_n 1, 1) := dk_27 (dk_at dksX0_write_1 21 rfl rfl)
theorem dX0_write_46 : decode cX0_write 46 = .ok (.iastore, 1) := dk_79 (dk_at dksX0_write_1 22 rfl rfl)
theorem dX0_write_47 : decode cX0_write 47 = .ok (.aload_n 0, 1) := dk_42 (dk_at dksX0_write_1 23 rfl rfl)
theorem dX0_write_48 : decode cX0_write 48 = .ok (.getfield 39, 3) := dk_180 0 39 (dk_at dksX0_write_2 0 rfl rfl)
theorem dX0_write_51 : decode cX0_write 51 = .ok (.aload_n 0, 1) := dk_42 (dk_at dksX0_write_2 3 rfl rfl)
theorem dX0_write_52 : decode cX0_write 52 = .ok (.getfield 103, 3) := dk_180 0 103 (dk_at dksX0_write_2 4 rfl rfl)
theorem dX0_write_55 : decode cX0_write 55 = .ok (.iload_n 2, 1) := dk_28 (dk_at dksX0_write_2 7 rfl rfl)
theorem dX0_write_56 : decode cX0_write 56 = .ok (.iastore, 1) := dk_79 (dk_at dksX0_write_2 8 rfl rfl)
theorem dX0_write_57 : decode cX0_write 57 = .ok (.aload_n 0, 1) := dk_42 (dk_at dksX0_write_2 9 rfl rfl)
theorem dX0_write_58 : decode cX0_write 58 = .ok (.dup, 1) := dk_89 (dk_at dksX0_write_2 10 rfl rfl)
theorem dX0_write_59 : decode cX0_write 59 = .ok (.getfield 103, 3) := dk_180 0 103 (dk_at dksX0_write_2 11 rfl rfl)
theorem dX0_write_62 : decode cX0_write 62 = .ok (.iconst 1, 1) := dk_4 (dk_at dksX0_write_2 14 rfl rfl)
theorem dX0_write_63 : decode cX0_write 63 = .ok (.iadd, 1) := dk_96 (dk_at dksX0_write_2 15 rfl rfl)
theorem dX0_write_64 : decode cX0_write 64 = .ok (.putfield 103, 3) := dk_181 0 103 (dk_at dksX0_write_2 16 rfl rfl)
theorem dX0_write_67 : decode cX0_write 67 = .ok (.aload_n 0, 1) := dk_42 (dk_at dksX0_write_2 19 rfl rfl)
theorem dX0_write_68 : decode cX0_write 68 = .ok (.getfield 103, 3) := dk_180 0 103 (dk_at dksX0_write_2 20 rfl rfl)
theorem dX0_write_71 : decode cX0_write 71 = .ok (.ireturn, 1) := dk_172 (dk_at dksX0_write_2 23 rfl rfl)
abbrev cX0_tear : ByteArray := prog_1_method_43_code
def yX0_tear : MethodName := ⟨RX0, "tear", "()I"⟩
def dkwX0_tear_0 : List UInt8 := [42, 180, 0, 100, 42, 180, 0, 103, 96, 60, 42, 3, 181, 0, 100, 42, 3, 181, 0, 103, 27, 172]
abbrev dktX0_tear_0 : List UInt8 := dkwX0_tear_0 ++ []
theorem dksX0_tear_0 : cX0_tear.data.toList.drop 0 = dktX0_tear_0 := by decide +kernel
theorem dX0_tear_0 : decode cX0_tear 0 = .ok (.aload_n 0, 1) := dk_42 (dk_at dksX0_tear_0 0 rfl rfl)
theorem dX0_tear_1 : decode cX0_tear 1 = .ok (.getfield 100, 3) := dk_180 0 100 (dk_at dksX0_tear_0 1 rfl rfl)
theorem dX0_tear_4 : decode cX0_tear 4 = .ok (.aload_n 0, 1) := dk_42 (dk_at dksX0_tear_0 4 rfl rfl)
theorem dX0_tear_5 : decode cX0_tear 5 = .ok (.getfield 103, 3) := dk_180 0 103 (dk_at dksX0_tear_0 5 rfl rfl)
theorem dX0_tear_8 : decode cX0_tear 8 = .ok (.iadd, 1) := dk_96 (dk_at dksX0_tear_0 8 rfl rfl)
theorem dX0_tear_9 : decode cX0_tear 9 = .ok (.istore_n 1, 1) := dk_60 (dk_at dksX0_tear_0 9 rfl rfl)
theorem dX0_tear_10 : decode cX0_tear 10 = .ok (.aload_n 0, 1) := dk_42 (dk_at dksX0_tear_0 10 rfl rfl)
theorem dX0_tear_11 : decode cX0_tear 11 = .ok (.iconst 0, 1) := dk_3 (dk_at dksX0_tear_0 11 rfl rfl)
theorem dX0_tear_12 : decode cX0_tear 12 = .ok (.putfield 100, 3) := dk_181 0 100 (dk_at dksX0_tear_0 12 rfl rfl)
theorem dX0_tear_15 : decode cX0_tear 15 = .ok (.aload_n 0, 1) := dk_42 (dk_at dksX0_tear_0 15 rfl rfl)
theorem dX0_tear_16 : decode cX0_tear 16 = .ok (.iconst 0, 1) := dk_3 (dk_at dksX0_tear_0 16 rfl rfl)
theorem dX0_tear_17 : decode cX0_tear 17 = .ok (.putfield 103, 3) := dk_181 0 103 (dk_at dksX0_tear_0 17 rfl rfl)
theorem dX0_tear_20 : decode cX0_tear 20 = .ok (.iload_n 1, 1) := dk_27 (dk_at dksX0_tear_0 20 rfl rfl)
theorem dX0_tear_21 : decode cX0_tear 21 = .ok (.ireturn, 1) := dk_172 (dk_at dksX0_tear_0 21 rfl rfl)
abbrev cX0_judge : ByteArray := prog_1_method_44_code
def yX0_judge : MethodName := ⟨RX0, "judge", "()I"⟩
def dkwX0_judge_2 : List UInt8 := [172]
abbrev dktX0_judge_2 : List UInt8 := dkwX0_judge_2 ++ []
def dkwX0_judge_1 : List UInt8 := [180, 0, 122, 182, 0, 156, 42, 180, 0, 39, 27, 46, 159, 0, 5, 27, 172, 132, 1, 1, 167, 255, 214, 2]
abbrev dktX0_judge_1 : List UInt8 := dkwX0_judge_1 ++ dktX0_judge_2
def dkwX0_judge_0 : List UInt8 := [3, 60, 27, 42, 180, 0, 103, 162, 0, 40, 42, 180, 0, 21, 42, 180, 0, 36, 27, 46, 42, 180, 0, 21]
abbrev dktX0_judge_0 : List UInt8 := dkwX0_judge_0 ++ dktX0_judge_1
theorem dksX0_judge_0 : cX0_judge.data.toList.drop 0 = dktX0_judge_0 := by decide +kernel
theorem dksX0_judge_1 : cX0_judge.data.toList.drop 24 = dktX0_judge_1 := dk_seg dksX0_judge_0 24 rfl rfl
theorem dksX0_judge_2 : cX0_judge.data.toList.drop 48 = dktX0_judge_2 := dk_seg dksX0_judge_1 24 rfl rfl
theorem dX0_judge_0 : decode cX0_judge 0 = .ok (.iconst 0, 1) := dk_3 (dk_at dksX0_judge_0 0 rfl rfl)
theorem dX0_judge_1 : decode cX0_judge 1 = .ok (.istore_n 1, 1) := dk_60 (dk_at dksX0_judge_0 1 rfl rfl)
theorem dX0_judge_2 : decode cX0_judge 2 = .ok (.iload_n 1, 1) := dk_27 (dk_at dksX0_judge_0 2 rfl rfl)
theorem dX0_judge_3 : decode cX0_judge 3 = .ok (.aload_n 0, 1) := dk_42 (dk_at dksX0_judge_0 3 rfl rfl)
theorem dX0_judge_4 : decode cX0_judge 4 = .ok (.getfield 103, 3) := dk_180 0 103 (dk_at dksX0_judge_0 4 rfl rfl)
theorem dX0_judge_7 : decode cX0_judge 7 = .ok (.if_icmp .ge 40, 3) := dk_162 0 40 (dk_at dksX0_judge_0 7 rfl rfl)
theorem dX0_judge_10 : decode cX0_judge 10 = .ok (.aload_n 0, 1) := dk_42 (dk_at dksX0_judge_0 10 rfl rfl)
theorem dX0_judge_11 : decode cX0_judge 11 = .ok (.getfield 21, 3) := dk_180 0 21 (dk_at dksX0_judge_0 11 rfl rfl)
theorem dX0_judge_14 : decode cX0_judge 14 = .ok (.aload_n 0, 1) := dk_42 (dk_at dksX0_judge_0 14 rfl rfl)
theorem dX0_judge_15 : decode cX0_judge 15 = .ok (.getfield 36, 3) := dk_180 0 36 (dk_at dksX0_judge_0 15 rfl rfl)
theorem dX0_judge_18 : decode cX0_judge 18 = .ok (.iload_n 1, 1) := dk_27 (dk_at dksX0_judge_0 18 rfl rfl)
theorem dX0_judge_19 : decode cX0_judge 19 = .ok (.iaload, 1) := dk_46 (dk_at dksX0_judge_0 19 rfl rfl)
theorem dX0_judge_20 : decode cX0_judge 20 = .ok (.aload_n 0, 1) := dk_42 (dk_at dksX0_judge_0 20 rfl rfl)
theorem dX0_judge_21 : decode cX0_judge 21 = .ok (.getfield 21, 3) := dk_180 0 21 (dk_at dksX0_judge_0 21 rfl rfl)
theorem dX0_judge_24 : decode cX0_judge 24 = .ok (.getfield 122, 3) := dk_180 0 122 (dk_at dksX0_judge_1 0 rfl rfl)
theorem dX0_judge_27 : decode cX0_judge 27 = .ok (.invokevirtual 156, 3) := dk_182 0 156 (dk_at dksX0_judge_1 3 rfl rfl)
theorem dX0_judge_30 : decode cX0_judge 30 = .ok (.aload_n 0, 1) := dk_42 (dk_at dksX0_judge_1 6 rfl rfl)
theorem dX0_judge_31 : decode cX0_judge 31 = .ok (.getfield 39, 3) := dk_180 0 39 (dk_at dksX0_judge_1 7 rfl rfl)
theorem dX0_judge_34 : decode cX0_judge 34 = .ok (.iload_n 1, 1) := dk_27 (dk_at dksX0_judge_1 10 rfl rfl)
theorem dX0_judge_35 : decode cX0_judge 35 = .ok (.iaload, 1) := dk_46 (dk_at dksX0_judge_1 11 rfl rfl)
theorem dX0_judge_36 : decode cX0_judge 36 = .ok (.if_icmp .eq 5, 3) := dk_159 0 5 (dk_at dksX0_judge_1 12 rfl rfl)
theorem dX0_judge_39 : decode cX0_judge 39 = .ok (.iload_n 1, 1) := dk_27 (dk_at dksX0_judge_1 15 rfl rfl)
theorem dX0_judge_40 : decode cX0_judge 40 = .ok (.ireturn, 1) := dk_172 (dk_at dksX0_judge_1 16 rfl rfl)
theorem dX0_judge_41 : decode cX0_judge 41 = .ok (.iinc 1 1, 3) := dk_132 1 1 (dk_at dksX0_judge_1 17 rfl rfl)
theorem dX0_judge_44 : decode cX0_judge 44 = .ok (.goto (-42), 3) := dk_167 255 214 (dk_at dksX0_judge_1 20 rfl rfl)
theorem dX0_judge_47 : decode cX0_judge 47 = .ok (.iconst (-1), 1) := dk_2 (dk_at dksX0_judge_1 23 rfl rfl)
theorem dX0_judge_48 : decode cX0_judge 48 = .ok (.ireturn, 1) := dk_172 (dk_at dksX0_judge_2 0 rfl rfl)
abbrev cX0_seed : ByteArray := prog_1_method_45_code
def yX0_seed : MethodName := ⟨RX0, "seed", "(I)I"⟩
def dkwX0_seed_1 : List UInt8 := [172]
abbrev dktX0_seed_1 : List UInt8 := dkwX0_seed_1 ++ []
def dkwX0_seed_0 : List UInt8 := [27, 156, 0, 6, 18, 75, 172, 42, 180, 0, 21, 180, 0, 222, 61, 42, 180, 0, 21, 27, 181, 0, 222, 28]
abbrev dktX0_seed_0 : List UInt8 := dkwX0_seed_0 ++ dktX0_seed_1
theorem dksX0_seed_0 : cX0_seed.data.toList.drop 0 = dktX0_seed_0 := by decide +kernel
theorem dksX0_seed_1 : cX0_seed.data.toList.drop 24 = dktX0_seed_1 := dk_seg dksX0_seed_0 24 rfl rfl
theorem dX0_seed_0 : decode cX0_seed 0 = .ok (.iload_n 1, 1) := dk_27 (dk_at dksX0_seed_0 0 rfl rfl)
theorem dX0_seed_1 : decode cX0_seed 1 = .ok (.ifCond .ge 6, 3) := dk_156 0 6 (dk_at dksX0_seed_0 1 rfl rfl)
theorem dX0_seed_4 : decode cX0_seed 4 = .ok (.ldc 75, 2) := dk_18 75 (dk_at dksX0_seed_0 4 rfl rfl)
theorem dX0_seed_6 : decode cX0_seed 6 = .ok (.ireturn, 1) := dk_172 (dk_at dksX0_seed_0 6 rfl rfl)
theorem dX0_seed_7 : decode cX0_seed 7 = .ok (.aload_n 0, 1) := dk_42 (dk_at dksX0_seed_0 7 rfl rfl)
theorem dX0_seed_8 : decode cX0_seed 8 = .ok (.getfield 21, 3) := dk_180 0 21 (dk_at dksX0_seed_0 8 rfl rfl)
theorem dX0_seed_11 : decode cX0_seed 11 = .ok (.getfield 222, 3) := dk_180 0 222 (dk_at dksX0_seed_0 11 rfl rfl)
theorem dX0_seed_14 : decode cX0_seed 14 = .ok (.istore_n 2, 1) := dk_61 (dk_at dksX0_seed_0 14 rfl rfl)
theorem dX0_seed_15 : decode cX0_seed 15 = .ok (.aload_n 0, 1) := dk_42 (dk_at dksX0_seed_0 15 rfl rfl)
theorem dX0_seed_16 : decode cX0_seed 16 = .ok (.getfield 21, 3) := dk_180 0 21 (dk_at dksX0_seed_0 16 rfl rfl)
theorem dX0_seed_19 : decode cX0_seed 19 = .ok (.iload_n 1, 1) := dk_27 (dk_at dksX0_seed_0 19 rfl rfl)
theorem dX0_seed_20 : decode cX0_seed 20 = .ok (.putfield 222, 3) := dk_181 0 222 (dk_at dksX0_seed_0 20 rfl rfl)
theorem dX0_seed_23 : decode cX0_seed 23 = .ok (.iload_n 2, 1) := dk_28 (dk_at dksX0_seed_0 23 rfl rfl)
theorem dX0_seed_24 : decode cX0_seed 24 = .ok (.ireturn, 1) := dk_172 (dk_at dksX0_seed_1 0 rfl rfl)
abbrev cX0_keep : ByteArray := prog_1_method_46_code
def yX0_keep : MethodName := ⟨RX0, "keep", "(I)I"⟩
def dkwX0_keep_1 : List UInt8 := [182, 0, 190, 42, 180, 0, 65, 27, 50, 4, 181, 0, 106, 42, 3, 181, 0, 97, 4, 172]
abbrev dktX0_keep_1 : List UInt8 := dkwX0_keep_1 ++ []
def dkwX0_keep_0 : List UInt8 := [27, 3, 4, 184, 0, 71, 154, 0, 6, 18, 142, 172, 42, 180, 0, 65, 27, 50, 42, 180, 0, 21]
abbrev dktX0_keep_0 : List UInt8 := dkwX0_keep_0 ++ dktX0_keep_1
theorem dksX0_keep_0 : cX0_keep.data.toList.drop 0 = dktX0_keep_0 := by decide +kernel
theorem dksX0_keep_1 : cX0_keep.data.toList.drop 22 = dktX0_keep_1 := dk_seg dksX0_keep_0 22 rfl rfl
theorem dX0_keep_0 : decode cX0_keep 0 = .ok (.iload_n 1, 1) := dk_27 (dk_at dksX0_keep_0 0 rfl rfl)
theorem dX0_keep_1 : decode cX0_keep 1 = .ok (.iconst 0, 1) := dk_3 (dk_at dksX0_keep_0 1 rfl rfl)
theorem dX0_keep_2 : decode cX0_keep 2 = .ok (.iconst 1, 1) := dk_4 (dk_at dksX0_keep_0 2 rfl rfl)
theorem dX0_keep_3 : decode cX0_keep 3 = .ok (.invokestatic 71, 3) := dk_184 0 71 (dk_at dksX0_keep_0 3 rfl rfl)
theorem dX0_keep_6 : decode cX0_keep 6 = .ok (.ifCond .ne 6, 3) := dk_154 0 6 (dk_at dksX0_keep_0 6 rfl rfl)
theorem dX0_keep_9 : decode cX0_keep 9 = .ok (.ldc 142, 2) := dk_18 142 (dk_at dksX0_keep_0 9 rfl rfl)
theorem dX0_keep_11 : decode cX0_keep 11 = .ok (.ireturn, 1) := dk_172 (dk_at dksX0_keep_0 11 rfl rfl)
theorem dX0_keep_12 : decode cX0_keep 12 = .ok (.aload_n 0, 1) := dk_42 (dk_at dksX0_keep_0 12 rfl rfl)
theorem dX0_keep_13 : decode cX0_keep 13 = .ok (.getfield 65, 3) := dk_180 0 65 (dk_at dksX0_keep_0 13 rfl rfl)
theorem dX0_keep_16 : decode cX0_keep 16 = .ok (.iload_n 1, 1) := dk_27 (dk_at dksX0_keep_0 16 rfl rfl)
theorem dX0_keep_17 : decode cX0_keep 17 = .ok (.aaload, 1) := dk_50 (dk_at dksX0_keep_0 17 rfl rfl)
theorem dX0_keep_18 : decode cX0_keep 18 = .ok (.aload_n 0, 1) := dk_42 (dk_at dksX0_keep_0 18 rfl rfl)
theorem dX0_keep_19 : decode cX0_keep 19 = .ok (.getfield 21, 3) := dk_180 0 21 (dk_at dksX0_keep_0 19 rfl rfl)
theorem dX0_keep_22 : decode cX0_keep 22 = .ok (.invokevirtual 190, 3) := dk_182 0 190 (dk_at dksX0_keep_1 0 rfl rfl)
theorem dX0_keep_25 : decode cX0_keep 25 = .ok (.aload_n 0, 1) := dk_42 (dk_at dksX0_keep_1 3 rfl rfl)
theorem dX0_keep_26 : decode cX0_keep 26 = .ok (.getfield 65, 3) := dk_180 0 65 (dk_at dksX0_keep_1 4 rfl rfl)
theorem dX0_keep_29 : decode cX0_keep 29 = .ok (.iload_n 1, 1) := dk_27 (dk_at dksX0_keep_1 7 rfl rfl)
theorem dX0_keep_30 : decode cX0_keep 30 = .ok (.aaload, 1) := dk_50 (dk_at dksX0_keep_1 8 rfl rfl)
theorem dX0_keep_31 : decode cX0_keep 31 = .ok (.iconst 1, 1) := dk_4 (dk_at dksX0_keep_1 9 rfl rfl)
theorem dX0_keep_32 : decode cX0_keep 32 = .ok (.putfield 106, 3) := dk_181 0 106 (dk_at dksX0_keep_1 10 rfl rfl)
theorem dX0_keep_35 : decode cX0_keep 35 = .ok (.aload_n 0, 1) := dk_42 (dk_at dksX0_keep_1 13 rfl rfl)
theorem dX0_keep_36 : decode cX0_keep 36 = .ok (.iconst 0, 1) := dk_3 (dk_at dksX0_keep_1 14 rfl rfl)
theorem dX0_keep_37 : decode cX0_keep 37 = .ok (.putfield 97, 3) := dk_181 0 97 (dk_at dksX0_keep_1 15 rfl rfl)
theorem dX0_keep_40 : decode cX0_keep 40 = .ok (.iconst 1, 1) := dk_4 (dk_at dksX0_keep_1 18 rfl rfl)
theorem dX0_keep_41 : decode cX0_keep 41 = .ok (.ireturn, 1) := dk_172 (dk_at dksX0_keep_1 19 rfl rfl)
abbrev cX0_goBack : ByteArray := prog_1_method_47_code
def yX0_goBack : MethodName := ⟨RX0, "goBack", "(I)I"⟩
def dkwX0_goBack_1 : List UInt8 := [18, 194, 172, 42, 180, 0, 21, 42, 180, 0, 65, 27, 50, 182, 0, 190, 42, 3, 181, 0, 97, 4, 172]
abbrev dktX0_goBack_1 : List UInt8 := dkwX0_goBack_1 ++ []
def dkwX0_goBack_0 : List UInt8 := [27, 3, 4, 184, 0, 71, 154, 0, 6, 18, 142, 172, 42, 180, 0, 65, 27, 50, 180, 0, 106, 154, 0, 6]
abbrev dktX0_goBack_0 : List UInt8 := dkwX0_goBack_0 ++ dktX0_goBack_1
theorem dksX0_goBack_0 : cX0_goBack.data.toList.drop 0 = dktX0_goBack_0 := by decide +kernel
theorem dksX0_goBack_1 : cX0_goBack.data.toList.drop 24 = dktX0_goBack_1 := dk_seg dksX0_goBack_0 24 rfl rfl
theorem dX0_goBack_0 : decode cX0_goBack 0 = .ok (.iload_n 1, 1) := dk_27 (dk_at dksX0_goBack_0 0 rfl rfl)
theorem dX0_goBack_1 : decode cX0_goBack 1 = .ok (.iconst 0, 1) := dk_3 (dk_at dksX0_goBack_0 1 rfl rfl)
theorem dX0_goBack_2 : decode cX0_goBack 2 = .ok (.iconst 1, 1) := dk_4 (dk_at dksX0_goBack_0 2 rfl rfl)
theorem dX0_goBack_3 : decode cX0_goBack 3 = .ok (.invokestatic 71, 3) := dk_184 0 71 (dk_at dksX0_goBack_0 3 rfl rfl)
theorem dX0_goBack_6 : decode cX0_goBack 6 = .ok (.ifCond .ne 6, 3) := dk_154 0 6 (dk_at dksX0_goBack_0 6 rfl rfl)
theorem dX0_goBack_9 : decode cX0_goBack 9 = .ok (.ldc 142, 2) := dk_18 142 (dk_at dksX0_goBack_0 9 rfl rfl)
theorem dX0_goBack_11 : decode cX0_goBack 11 = .ok (.ireturn, 1) := dk_172 (dk_at dksX0_goBack_0 11 rfl rfl)
theorem dX0_goBack_12 : decode cX0_goBack 12 = .ok (.aload_n 0, 1) := dk_42 (dk_at dksX0_goBack_0 12 rfl rfl)
theorem dX0_goBack_13 : decode cX0_goBack 13 = .ok (.getfield 65, 3) := dk_180 0 65 (dk_at dksX0_goBack_0 13 rfl rfl)
theorem dX0_goBack_16 : decode cX0_goBack 16 = .ok (.iload_n 1, 1) := dk_27 (dk_at dksX0_goBack_0 16 rfl rfl)
theorem dX0_goBack_17 : decode cX0_goBack 17 = .ok (.aaload, 1) := dk_50 (dk_at dksX0_goBack_0 17 rfl rfl)
theorem dX0_goBack_18 : decode cX0_goBack 18 = .ok (.getfield 106, 3) := dk_180 0 106 (dk_at dksX0_goBack_0 18 rfl rfl)
theorem dX0_goBack_21 : decode cX0_goBack 21 = .ok (.ifCond .ne 6, 3) := dk_154 0 6 (dk_at dksX0_goBack_0 21 rfl rfl)
theorem dX0_goBack_24 : decode cX0_goBack 24 = .ok (.ldc 194, 2) := dk_18 194 (dk_at dksX0_goBack_1 0 rfl rfl)
theorem dX0_goBack_26 : decode cX0_goBack 26 = .ok (.ireturn, 1) := dk_172 (dk_at dksX0_goBack_1 2 rfl rfl)
theorem dX0_goBack_27 : decode cX0_goBack 27 = .ok (.aload_n 0, 1) := dk_42 (dk_at dksX0_goBack_1 3 rfl rfl)
theorem dX0_goBack_28 : decode cX0_goBack 28 = .ok (.getfield 21, 3) := dk_180 0 21 (dk_at dksX0_goBack_1 4 rfl rfl)
theorem dX0_goBack_31 : decode cX0_goBack 31 = .ok (.aload_n 0, 1) := dk_42 (dk_at dksX0_goBack_1 7 rfl rfl)
theorem dX0_goBack_32 : decode cX0_goBack 32 = .ok (.getfield 65, 3) := dk_180 0 65 (dk_at dksX0_goBack_1 8 rfl rfl)
theorem dX0_goBack_35 : decode cX0_goBack 35 = .ok (.iload_n 1, 1) := dk_27 (dk_at dksX0_goBack_1 11 rfl rfl)
theorem dX0_goBack_36 : decode cX0_goBack 36 = .ok (.aaload, 1) := dk_50 (dk_at dksX0_goBack_1 12 rfl rfl)
theorem dX0_goBack_37 : decode cX0_goBack 37 = .ok (.invokevirtual 190, 3) := dk_182 0 190 (dk_at dksX0_goBack_1 13 rfl rfl)
theorem dX0_goBack_40 : decode cX0_goBack 40 = .ok (.aload_n 0, 1) := dk_42 (dk_at dksX0_goBack_1 16 rfl rfl)
theorem dX0_goBack_41 : decode cX0_goBack 41 = .ok (.iconst 0, 1) := dk_3 (dk_at dksX0_goBack_1 17 rfl rfl)
theorem dX0_goBack_42 : decode cX0_goBack 42 = .ok (.putfield 97, 3) := dk_181 0 97 (dk_at dksX0_goBack_1 18 rfl rfl)
theorem dX0_goBack_45 : decode cX0_goBack 45 = .ok (.iconst 1, 1) := dk_4 (dk_at dksX0_goBack_1 21 rfl rfl)
theorem dX0_goBack_46 : decode cX0_goBack 46 = .ok (.ireturn, 1) := dk_172 (dk_at dksX0_goBack_1 22 rfl rfl)
theorem q51 : (Jvm.Cond.initialized "LimbMeasures") ∈ lw_all := lw_g (lw_at lw_m1 1 rfl) rfl
theorem q65 : (Jvm.Cond.instantiable "LimbMeasures" (23 : Nat)) ∈ lw_all := lw_g (lw_at lw_m1 15 rfl) rfl
theorem q67 : (Jvm.Cond.instanceMethod ({ cls := "LimbMeasures", name := "<init>", desc := "()V" } : Jvm.MethodName)) ∈ lw_all := lw_g (lw_at lw_m1 17 rfl) rfl
theorem q68 : (Jvm.Cond.code ({ cls := "LimbMeasures", name := "<init>", desc := "()V" } : Jvm.MethodName) prog_1_method_3_code (2 : Nat) (Option.none : Option Jvm.ClassFile.FieldType)) ∈ lw_all := lw_g (lw_at lw_m1 18 rfl) rfl
theorem q69 : (Jvm.Cond.methodLink "LimbMeasures" (1 : Nat) ({ cls := "java/lang/Object", name := "<init>", desc := "()V" } : Jvm.MethodName)) ∈ lw_all := lw_g (lw_at lw_m1 19 rfl) rfl
theorem q72 : (Jvm.Cond.classLink "LimbMeasures" (7 : Nat) "LimbMeasures$Port") ∈ lw_all := lw_g (lw_at lw_m1 22 rfl) rfl
theorem q74 : (Jvm.Cond.methodLinkNest "LimbMeasures" (9 : Nat) ({ cls := "LimbMeasures$Port", name := "<init>", desc := "()V" } : Jvm.MethodName) "LimbMeasures") ∈ lw_tbl := lw_at lw_m1 24 rfl
theorem q83 : (Jvm.Cond.fieldLinkNest "LimbMeasures" (143 : Nat) "LimbMeasures$Port" "limbs" "[LLimbMeasures$Limb;" "LimbMeasures") ∈ lw_tbl := lw_at lw_m1 33 rfl
theorem q86 : (Jvm.Cond.fieldLinkNest "LimbMeasures" (110 : Nat) "LimbMeasures$Port" "many" "I" "LimbMeasures") ∈ lw_tbl := lw_at lw_m1 36 rfl
theorem q90 : (Jvm.Cond.fieldLinkNest "LimbMeasures" (166 : Nat) "LimbMeasures$Port" "due" "[I" "LimbMeasures") ∈ lw_tbl := lw_at lw_m1 40 rfl
theorem q94 : (Jvm.Cond.fieldLinkNest "LimbMeasures" (169 : Nat) "LimbMeasures$Port" "owed" "[I" "LimbMeasures") ∈ lw_tbl := lw_at lw_m1 44 rfl
theorem q98 : (Jvm.Cond.fieldLinkNest "LimbMeasures" (172 : Nat) "LimbMeasures$Port" "times" "[I" "LimbMeasures") ∈ lw_tbl := lw_at lw_m1 48 rfl
theorem q101 : (Jvm.Cond.fieldLinkNest "LimbMeasures" (113 : Nat) "LimbMeasures$Port" "contracts" "I" "LimbMeasures") ∈ lw_tbl := lw_at lw_m1 51 rfl
theorem q104 : (Jvm.Cond.fieldLinkNest "LimbMeasures" (178 : Nat) "LimbMeasures$Port" "from" "[I" "LimbMeasures") ∈ lw_tbl := lw_at lw_m1 54 rfl
theorem q107 : (Jvm.Cond.fieldLinkNest "LimbMeasures" (181 : Nat) "LimbMeasures$Port" "to" "[I" "LimbMeasures") ∈ lw_tbl := lw_at lw_m1 57 rfl
theorem q110 : (Jvm.Cond.fieldLinkNest "LimbMeasures" (184 : Nat) "LimbMeasures$Port" "gives" "[I" "LimbMeasures") ∈ lw_tbl := lw_at lw_m1 60 rfl
theorem q113 : (Jvm.Cond.fieldLinkNest "LimbMeasures" (187 : Nat) "LimbMeasures$Port" "gets" "[I" "LimbMeasures") ∈ lw_tbl := lw_at lw_m1 63 rfl
theorem q115 : (Jvm.Cond.fieldLinkNest "LimbMeasures" (119 : Nat) "LimbMeasures$Port" "rates" "I" "LimbMeasures") ∈ lw_tbl := lw_at lw_m1 65 rfl
theorem q140 : (Jvm.Cond.classLink "LimbMeasures" (16 : Nat) "LimbMeasures$State") ∈ lw_all := lw_g (lw_at lw_m1 90 rfl) rfl
theorem q142 : (Jvm.Cond.methodLinkNest "LimbMeasures" (18 : Nat) ({ cls := "LimbMeasures$State", name := "<init>", desc := "(LLimbMeasures;)V" } : Jvm.MethodName) "LimbMeasures") ∈ lw_tbl := lw_at lw_m1 92 rfl
theorem q147 : (Jvm.Cond.fieldLinkNest "LimbMeasures" (153 : Nat) "LimbMeasures$State" "length" "[I" "LimbMeasures") ∈ lw_tbl := lw_at lw_m1 97 rfl
theorem q149 : (Jvm.Cond.fieldLinkNest "LimbMeasures" (116 : Nat) "LimbMeasures$State" "copy" "[I" "LimbMeasures") ∈ lw_tbl := lw_at lw_m1 99 rfl
theorem q151 : (Jvm.Cond.fieldLinkNest "LimbMeasures" (175 : Nat) "LimbMeasures$State" "paid" "[I" "LimbMeasures") ∈ lw_tbl := lw_at lw_m1 101 rfl
theorem q153 : (Jvm.Cond.fieldLinkNest "LimbMeasures" (125 : Nat) "LimbMeasures$State" "alive" "I" "LimbMeasures") ∈ lw_tbl := lw_at lw_m1 103 rfl
theorem q155 : (Jvm.Cond.fieldLinkNest "LimbMeasures" (135 : Nat) "LimbMeasures$State" "noughts" "I" "LimbMeasures") ∈ lw_tbl := lw_at lw_m1 105 rfl
theorem q157 : (Jvm.Cond.fieldLinkNest "LimbMeasures" (122 : Nat) "LimbMeasures$State" "seasons" "I" "LimbMeasures") ∈ lw_tbl := lw_at lw_m1 107 rfl
theorem q159 : (Jvm.Cond.fieldLinkNest "LimbMeasures" (132 : Nat) "LimbMeasures$State" "total" "I" "LimbMeasures") ∈ lw_tbl := lw_at lw_m1 109 rfl
theorem q161 : (Jvm.Cond.fieldLinkNest "LimbMeasures" (222 : Nat) "LimbMeasures$State" "seed" "I" "LimbMeasures") ∈ lw_tbl := lw_at lw_m1 111 rfl
theorem q162 : (Jvm.Cond.fieldLinkNest "LimbMeasures" (106 : Nat) "LimbMeasures$State" "isKept" "Z" "LimbMeasures") ∈ lw_tbl := lw_at lw_m1 112 rfl
theorem q186 : (Jvm.Cond.methodLink "LimbMeasures" (68 : Nat) ({ cls := "LimbMeasures$State", name := "begin", desc := "()V" } : Jvm.MethodName)) ∈ lw_all := lw_g (lw_at lw_m1 136 rfl) rfl
theorem q194 : (Jvm.Cond.fieldLink "LimbMeasures" (10 : Nat) "LimbMeasures" "port" "LLimbMeasures$Port;") ∈ lw_all := lw_g (lw_at lw_m1 144 rfl) rfl
theorem q195 : (Jvm.Cond.fieldLink "LimbMeasures" (21 : Nat) "LimbMeasures" "now" "LLimbMeasures$State;") ∈ lw_all := lw_g (lw_at lw_m1 145 rfl) rfl
theorem q196 : (Jvm.Cond.fieldLink "LimbMeasures" (25 : Nat) "LimbMeasures" "undone" "[LLimbMeasures$State;") ∈ lw_all := lw_g (lw_at lw_m1 146 rfl) rfl
theorem q197 : (Jvm.Cond.fieldLink "LimbMeasures" (97 : Nat) "LimbMeasures" "known" "I") ∈ lw_all := lw_g (lw_at lw_m1 147 rfl) rfl
theorem q198 : (Jvm.Cond.fieldLink "LimbMeasures" (29 : Nat) "LimbMeasures" "gotTimes" "[I") ∈ lw_all := lw_g (lw_at lw_m1 148 rfl) rfl
theorem q199 : (Jvm.Cond.fieldLink "LimbMeasures" (33 : Nat) "LimbMeasures" "gotMuch" "[I") ∈ lw_all := lw_g (lw_at lw_m1 149 rfl) rfl
theorem q200 : (Jvm.Cond.fieldLink "LimbMeasures" (100 : Nat) "LimbMeasures" "gots" "I") ∈ lw_all := lw_g (lw_at lw_m1 150 rfl) rfl
theorem q201 : (Jvm.Cond.fieldLink "LimbMeasures" (36 : Nat) "LimbMeasures" "bookOf" "[I") ∈ lw_all := lw_g (lw_at lw_m1 151 rfl) rfl
theorem q202 : (Jvm.Cond.fieldLink "LimbMeasures" (39 : Nat) "LimbMeasures" "bookMuch" "[I") ∈ lw_all := lw_g (lw_at lw_m1 152 rfl) rfl
theorem q203 : (Jvm.Cond.fieldLink "LimbMeasures" (103 : Nat) "LimbMeasures" "written" "I") ∈ lw_all := lw_g (lw_at lw_m1 153 rfl) rfl
theorem q204 : (Jvm.Cond.fieldLink "LimbMeasures" (42 : Nat) "LimbMeasures" "text" "[B") ∈ lw_all := lw_g (lw_at lw_m1 154 rfl) rfl
theorem q205 : (Jvm.Cond.fieldLink "LimbMeasures" (76 : Nat) "LimbMeasures" "size" "I") ∈ lw_all := lw_g (lw_at lw_m1 155 rfl) rfl
theorem q206 : (Jvm.Cond.fieldLink "LimbMeasures" (46 : Nat) "LimbMeasures" "fault" "I") ∈ lw_all := lw_g (lw_at lw_m1 156 rfl) rfl
theorem q207 : (Jvm.Cond.fieldLink "LimbMeasures" (50 : Nat) "LimbMeasures" "put" "[I") ∈ lw_all := lw_g (lw_at lw_m1 157 rfl) rfl
theorem q208 : (Jvm.Cond.fieldLink "LimbMeasures" (53 : Nat) "LimbMeasures" "bestPut" "[I") ∈ lw_all := lw_g (lw_at lw_m1 158 rfl) rfl
theorem q209 : (Jvm.Cond.fieldLink "LimbMeasures" (229 : Nat) "LimbMeasures" "bestTimes" "I") ∈ lw_all := lw_g (lw_at lw_m1 159 rfl) rfl
theorem q210 : (Jvm.Cond.fieldLink "LimbMeasures" (232 : Nat) "LimbMeasures" "bestLimbs" "I") ∈ lw_all := lw_g (lw_at lw_m1 160 rfl) rfl
theorem q211 : (Jvm.Cond.fieldLink "LimbMeasures" (56 : Nat) "LimbMeasures" "ring" "[I") ∈ lw_all := lw_g (lw_at lw_m1 161 rfl) rfl
theorem q212 : (Jvm.Cond.fieldLink "LimbMeasures" (261 : Nat) "LimbMeasures" "ringMany" "I") ∈ lw_all := lw_g (lw_at lw_m1 162 rfl) rfl
theorem q213 : (Jvm.Cond.fieldLink "LimbMeasures" (59 : Nat) "LimbMeasures" "heirs" "[I") ∈ lw_all := lw_g (lw_at lw_m1 163 rfl) rfl
theorem q214 : (Jvm.Cond.fieldLink "LimbMeasures" (62 : Nat) "LimbMeasures" "bestHeirs" "[I") ∈ lw_all := lw_g (lw_at lw_m1 164 rfl) rfl
theorem q215 : (Jvm.Cond.fieldLink "LimbMeasures" (267 : Nat) "LimbMeasures" "bestApart" "I") ∈ lw_all := lw_g (lw_at lw_m1 165 rfl) rfl
theorem q216 : (Jvm.Cond.fieldLink "LimbMeasures" (65 : Nat) "LimbMeasures" "images" "[LLimbMeasures$State;") ∈ lw_all := lw_g (lw_at lw_m1 166 rfl) rfl
theorem q217 : (Jvm.Cond.lays "LimbMeasures" "LimbMeasures" "port" "LLimbMeasures$Port;") ∈ lw_all := lw_g (lw_at lw_m1 167 rfl) rfl
theorem q218 : (Jvm.Cond.soleField "LimbMeasures" "port") ∈ lw_all := lw_g (lw_at lw_m1 168 rfl) rfl
theorem q219 : (Jvm.Cond.laysFinal "LimbMeasures" "LimbMeasures" "now" "LLimbMeasures$State;") ∈ lw_all := lw_g (lw_at lw_m1 169 rfl) rfl
theorem q220 : (Jvm.Cond.soleField "LimbMeasures" "now") ∈ lw_all := lw_g (lw_at lw_m1 170 rfl) rfl
theorem q221 : (Jvm.Cond.laysFinal "LimbMeasures" "LimbMeasures" "undone" "[LLimbMeasures$State;") ∈ lw_all := lw_g (lw_at lw_m1 171 rfl) rfl
theorem q222 : (Jvm.Cond.soleField "LimbMeasures" "undone") ∈ lw_all := lw_g (lw_at lw_m1 172 rfl) rfl
theorem q223 : (Jvm.Cond.lays "LimbMeasures" "LimbMeasures" "known" "I") ∈ lw_all := lw_g (lw_at lw_m1 173 rfl) rfl
theorem q224 : (Jvm.Cond.soleField "LimbMeasures" "known") ∈ lw_all := lw_g (lw_at lw_m1 174 rfl) rfl
theorem q225 : (Jvm.Cond.laysFinal "LimbMeasures" "LimbMeasures" "gotTimes" "[I") ∈ lw_all := lw_g (lw_at lw_m1 175 rfl) rfl
theorem q226 : (Jvm.Cond.soleField "LimbMeasures" "gotTimes") ∈ lw_all := lw_g (lw_at lw_m1 176 rfl) rfl
theorem q227 : (Jvm.Cond.laysFinal "LimbMeasures" "LimbMeasures" "gotMuch" "[I") ∈ lw_all := lw_g (lw_at lw_m1 177 rfl) rfl
theorem q228 : (Jvm.Cond.soleField "LimbMeasures" "gotMuch") ∈ lw_all := lw_g (lw_at lw_m1 178 rfl) rfl
theorem q229 : (Jvm.Cond.lays "LimbMeasures" "LimbMeasures" "gots" "I") ∈ lw_all := lw_g (lw_at lw_m1 179 rfl) rfl
theorem q230 : (Jvm.Cond.soleField "LimbMeasures" "gots") ∈ lw_all := lw_g (lw_at lw_m1 180 rfl) rfl
theorem q231 : (Jvm.Cond.laysFinal "LimbMeasures" "LimbMeasures" "bookOf" "[I") ∈ lw_all := lw_g (lw_at lw_m1 181 rfl) rfl
theorem q232 : (Jvm.Cond.soleField "LimbMeasures" "bookOf") ∈ lw_all := lw_g (lw_at lw_m1 182 rfl) rfl
theorem q233 : (Jvm.Cond.laysFinal "LimbMeasures" "LimbMeasures" "bookMuch" "[I") ∈ lw_all := lw_g (lw_at lw_m1 183 rfl) rfl
theorem q234 : (Jvm.Cond.soleField "LimbMeasures" "bookMuch") ∈ lw_all := lw_g (lw_at lw_m1 184 rfl) rfl
theorem q235 : (Jvm.Cond.lays "LimbMeasures" "LimbMeasures" "written" "I") ∈ lw_all := lw_g (lw_at lw_m1 185 rfl) rfl
theorem q236 : (Jvm.Cond.soleField "LimbMeasures" "written") ∈ lw_all := lw_g (lw_at lw_m1 186 rfl) rfl
theorem q237 : (Jvm.Cond.laysFinal "LimbMeasures" "LimbMeasures" "text" "[B") ∈ lw_all := lw_g (lw_at lw_m1 187 rfl) rfl
theorem q238 : (Jvm.Cond.soleField "LimbMeasures" "text") ∈ lw_all := lw_g (lw_at lw_m1 188 rfl) rfl
theorem q239 : (Jvm.Cond.lays "LimbMeasures" "LimbMeasures" "size" "I") ∈ lw_all := lw_g (lw_at lw_m1 189 rfl) rfl
theorem q240 : (Jvm.Cond.soleField "LimbMeasures" "size") ∈ lw_all := lw_g (lw_at lw_m1 190 rfl) rfl
theorem q241 : (Jvm.Cond.lays "LimbMeasures" "LimbMeasures" "fault" "I") ∈ lw_all := lw_g (lw_at lw_m1 191 rfl) rfl
theorem q242 : (Jvm.Cond.soleField "LimbMeasures" "fault") ∈ lw_all := lw_g (lw_at lw_m1 192 rfl) rfl
theorem q243 : (Jvm.Cond.laysFinal "LimbMeasures" "LimbMeasures" "put" "[I") ∈ lw_all := lw_g (lw_at lw_m1 193 rfl) rfl
theorem q244 : (Jvm.Cond.soleField "LimbMeasures" "put") ∈ lw_all := lw_g (lw_at lw_m1 194 rfl) rfl
theorem q245 : (Jvm.Cond.laysFinal "LimbMeasures" "LimbMeasures" "bestPut" "[I") ∈ lw_all := lw_g (lw_at lw_m1 195 rfl) rfl
theorem q246 : (Jvm.Cond.soleField "LimbMeasures" "bestPut") ∈ lw_all := lw_g (lw_at lw_m1 196 rfl) rfl
theorem q247 : (Jvm.Cond.lays "LimbMeasures" "LimbMeasures" "bestTimes" "I") ∈ lw_all := lw_g (lw_at lw_m1 197 rfl) rfl
theorem q248 : (Jvm.Cond.soleField "LimbMeasures" "bestTimes") ∈ lw_all := lw_g (lw_at lw_m1 198 rfl) rfl
theorem q249 : (Jvm.Cond.lays "LimbMeasures" "LimbMeasures" "bestLimbs" "I") ∈ lw_all := lw_g (lw_at lw_m1 199 rfl) rfl
theorem q250 : (Jvm.Cond.soleField "LimbMeasures" "bestLimbs") ∈ lw_all := lw_g (lw_at lw_m1 200 rfl) rfl
theorem q251 : (Jvm.Cond.laysFinal "LimbMeasures" "LimbMeasures" "ring" "[I") ∈ lw_all := lw_g (lw_at lw_m1 201 rfl) rfl
theorem q252 : (Jvm.Cond.soleField "LimbMeasures" "ring") ∈ lw_all := lw_g (lw_at lw_m1 202 rfl) rfl
theorem q253 : (Jvm.Cond.lays "LimbMeasures" "LimbMeasures" "ringMany" "I") ∈ lw_all := lw_g (lw_at lw_m1 203 rfl) rfl
theorem q254 : (Jvm.Cond.soleField "LimbMeasures" "ringMany") ∈ lw_all := lw_g (lw_at lw_m1 204 rfl) rfl
theorem q255 : (Jvm.Cond.laysFinal "LimbMeasures" "LimbMeasures" "heirs" "[I") ∈ lw_all := lw_g (lw_at lw_m1 205 rfl) rfl
theorem q256 : (Jvm.Cond.soleField "LimbMeasures" "heirs") ∈ lw_all := lw_g (lw_at lw_m1 206 rfl) rfl
theorem q257 : (Jvm.Cond.laysFinal "LimbMeasures" "LimbMeasures" "bestHeirs" "[I") ∈ lw_all := lw_g (lw_at lw_m1 207 rfl) rfl
theorem q258 : (Jvm.Cond.soleField "LimbMeasures" "bestHeirs") ∈ lw_all := lw_g (lw_at lw_m1 208 rfl) rfl
theorem q259 : (Jvm.Cond.lays "LimbMeasures" "LimbMeasures" "bestApart" "I") ∈ lw_all := lw_g (lw_at lw_m1 209 rfl) rfl
theorem q260 : (Jvm.Cond.soleField "LimbMeasures" "bestApart") ∈ lw_all := lw_g (lw_at lw_m1 210 rfl) rfl
theorem q261 : (Jvm.Cond.laysFinal "LimbMeasures" "LimbMeasures" "images" "[LLimbMeasures$State;") ∈ lw_all := lw_g (lw_at lw_m1 211 rfl) rfl
theorem q262 : (Jvm.Cond.soleField "LimbMeasures" "images") ∈ lw_all := lw_g (lw_at lw_m1 212 rfl) rfl
theorem q263 : (Jvm.Cond.superclass "LimbMeasures" "java/lang/Object") ∈ lw_all := lw_g (lw_at lw_m1 213 rfl) rfl
theorem q266 : (Jvm.Cond.instanceMethod ({ cls := "LimbMeasures", name := "feed", desc := "(I)I" } : Jvm.MethodName)) ∈ lw_all := lw_g (lw_at lw_m1 216 rfl) rfl
theorem q267 : (Jvm.Cond.selects "LimbMeasures" ({ cls := "LimbMeasures", name := "feed", desc := "(I)I" } : Jvm.MethodName) ({ cls := "LimbMeasures", name := "feed", desc := "(I)I" } : Jvm.MethodName)) ∈ lw_all := lw_g (lw_at lw_m1 217 rfl) rfl
theorem q268 : (Jvm.Cond.code ({ cls := "LimbMeasures", name := "feed", desc := "(I)I" } : Jvm.MethodName) prog_1_method_4_code (2 : Nat) (Option.some Jvm.ClassFile.FieldType.int)) ∈ lw_all := lw_g (lw_at lw_m1 218 rfl) rfl
theorem q269 : (Jvm.Cond.methodLink "LimbMeasures" (71 : Nat) ({ cls := "LimbMeasures", name := "isIn", desc := "(III)Z" } : Jvm.MethodName)) ∈ lw_all := lw_g (lw_at lw_m1 219 rfl) rfl
theorem q270 : (Jvm.Cond.static ({ cls := "LimbMeasures", name := "isIn", desc := "(III)Z" } : Jvm.MethodName)) ∈ lw_all := lw_g (lw_at lw_m1 220 rfl) rfl
theorem q271 : (Jvm.Cond.code ({ cls := "LimbMeasures", name := "isIn", desc := "(III)Z" } : Jvm.MethodName) prog_1_method_1_code (3 : Nat) (Option.some Jvm.ClassFile.FieldType.boolean)) ∈ lw_all := lw_g (lw_at lw_m1 221 rfl) rfl
theorem q272 : (Jvm.Cond.constant "LimbMeasures" (75 : Nat) (-1000000002 : Int32)) ∈ lw_all := lw_g (lw_at lw_m1 222 rfl) rfl
theorem q273 : (Jvm.Cond.constant "LimbMeasures" (79 : Nat) (-1000000004 : Int32)) ∈ lw_all := lw_g (lw_at lw_m1 223 rfl) rfl
theorem q275 : (Jvm.Cond.instanceMethod ({ cls := "LimbMeasures", name := "port", desc := "()I" } : Jvm.MethodName)) ∈ lw_all := lw_g (lw_at lw_m1 225 rfl) rfl
theorem q276 : (Jvm.Cond.selects "LimbMeasures" ({ cls := "LimbMeasures", name := "port", desc := "()I" } : Jvm.MethodName) ({ cls := "LimbMeasures", name := "port", desc := "()I" } : Jvm.MethodName)) ∈ lw_all := lw_g (lw_at lw_m1 226 rfl) rfl
theorem q277 : (Jvm.Cond.codeWith ({ cls := "LimbMeasures", name := "port", desc := "()I" } : Jvm.MethodName) prog_1_method_5_code (4 : Nat) (Option.some Jvm.ClassFile.FieldType.int) [((5 : Nat), (27 : Nat), (35 : Nat), (89 : Nat)), ((5 : Nat), (27 : Nat), (59 : Nat), (0 : Nat)), ((35 : Nat), (52 : Nat), (59 : Nat), (0 : Nat))]) ∈ lw_all := lw_g (lw_at lw_m1 227 rfl) rfl
theorem q278 : (Jvm.Cond.classLink "LimbMeasures" (89 : Nat) "LimbMeasures$Fault") ∈ lw_all := lw_g (lw_at lw_m1 228 rfl) rfl
theorem q279 : (Jvm.Cond.classLink "LimbMeasures" (80 : Nat) "LimbMeasures$Reader") ∈ lw_all := lw_g (lw_at lw_m1 229 rfl) rfl
theorem q281 : (Jvm.Cond.methodLink "LimbMeasures" (82 : Nat) ({ cls := "LimbMeasures$Reader", name := "<init>", desc := "([BI)V" } : Jvm.MethodName)) ∈ lw_all := lw_g (lw_at lw_m1 231 rfl) rfl
theorem q303 : (Jvm.Cond.methodLink "LimbMeasures" (85 : Nat) ({ cls := "LimbMeasures$Reader", name := "all", desc := "()LLimbMeasures$Port;" } : Jvm.MethodName)) ∈ lw_all := lw_g (lw_at lw_m2 13 rfl) rfl
theorem q365 : (Jvm.Cond.fieldLinkNest "LimbMeasures" (94 : Nat) "LimbMeasures$Fault" "number" "I" "LimbMeasures") ∈ lw_tbl := lw_at lw_m2 75 rfl
theorem q367 : (Jvm.Cond.fieldLinkNest "LimbMeasures" (91 : Nat) "LimbMeasures$Fault" "place" "I" "LimbMeasures") ∈ lw_tbl := lw_at lw_m2 77 rfl
theorem q410 : (Jvm.Cond.fieldLinkNest "LimbMeasures" (160 : Nat) "LimbMeasures$Limb" "heir" "I" "LimbMeasures") ∈ lw_tbl := lw_at lw_m2 120 rfl
theorem q431 : (Jvm.Cond.instanceMethod ({ cls := "LimbMeasures", name := "fault", desc := "()I" } : Jvm.MethodName)) ∈ lw_all := lw_g (lw_at lw_m2 141 rfl) rfl
theorem q432 : (Jvm.Cond.selects "LimbMeasures" ({ cls := "LimbMeasures", name := "fault", desc := "()I" } : Jvm.MethodName) ({ cls := "LimbMeasures", name := "fault", desc := "()I" } : Jvm.MethodName)) ∈ lw_all := lw_g (lw_at lw_m2 142 rfl) rfl
theorem q433 : (Jvm.Cond.code ({ cls := "LimbMeasures", name := "fault", desc := "()I" } : Jvm.MethodName) prog_1_method_6_code (1 : Nat) (Option.some Jvm.ClassFile.FieldType.int)) ∈ lw_all := lw_g (lw_at lw_m2 143 rfl) rfl
theorem q435 : (Jvm.Cond.instanceMethod ({ cls := "LimbMeasures", name := "told", desc := "(I)I" } : Jvm.MethodName)) ∈ lw_all := lw_g (lw_at lw_m2 145 rfl) rfl
theorem q436 : (Jvm.Cond.selects "LimbMeasures" ({ cls := "LimbMeasures", name := "told", desc := "(I)I" } : Jvm.MethodName) ({ cls := "LimbMeasures", name := "told", desc := "(I)I" } : Jvm.MethodName)) ∈ lw_all := lw_g (lw_at lw_m2 146 rfl) rfl
theorem q437 : (Jvm.Cond.code ({ cls := "LimbMeasures", name := "told", desc := "(I)I" } : Jvm.MethodName) prog_1_method_10_code (2 : Nat) (Option.some Jvm.ClassFile.FieldType.int)) ∈ lw_all := lw_g (lw_at lw_m2 147 rfl) rfl
theorem q438 : (Jvm.Cond.methodLink "LimbMeasures" (128 : Nat) ({ cls := "LimbMeasures", name := "copies", desc := "()I" } : Jvm.MethodName)) ∈ lw_all := lw_g (lw_at lw_m2 148 rfl) rfl
theorem q439 : (Jvm.Cond.privateMethod ({ cls := "LimbMeasures", name := "copies", desc := "()I" } : Jvm.MethodName)) ∈ lw_tbl := lw_at lw_m2 149 rfl
theorem q440 : (Jvm.Cond.instanceMethod ({ cls := "LimbMeasures", name := "copies", desc := "()I" } : Jvm.MethodName)) ∈ lw_all := lw_g (lw_at lw_m2 150 rfl) rfl
theorem q441 : (Jvm.Cond.code ({ cls := "LimbMeasures", name := "copies", desc := "()I" } : Jvm.MethodName) prog_1_method_9_code (3 : Nat) (Option.some Jvm.ClassFile.FieldType.int)) ∈ lw_all := lw_g (lw_at lw_m2 151 rfl) rfl
theorem q443 : (Jvm.Cond.instanceMethod ({ cls := "LimbMeasures", name := "limb", desc := "(II)I" } : Jvm.MethodName)) ∈ lw_all := lw_g (lw_at lw_m2 153 rfl) rfl
theorem q444 : (Jvm.Cond.selects "LimbMeasures" ({ cls := "LimbMeasures", name := "limb", desc := "(II)I" } : Jvm.MethodName) ({ cls := "LimbMeasures", name := "limb", desc := "(II)I" } : Jvm.MethodName)) ∈ lw_all := lw_g (lw_at lw_m2 154 rfl) rfl
theorem q445 : (Jvm.Cond.code ({ cls := "LimbMeasures", name := "limb", desc := "(II)I" } : Jvm.MethodName) prog_1_method_11_code (3 : Nat) (Option.some Jvm.ClassFile.FieldType.int)) ∈ lw_all := lw_g (lw_at lw_m2 155 rfl) rfl
theorem q446 : (Jvm.Cond.methodLink "LimbMeasures" (138 : Nat) ({ cls := "LimbMeasures", name := "isLimb", desc := "(I)Z" } : Jvm.MethodName)) ∈ lw_all := lw_g (lw_at lw_m2 156 rfl) rfl
theorem q447 : (Jvm.Cond.privateMethod ({ cls := "LimbMeasures", name := "isLimb", desc := "(I)Z" } : Jvm.MethodName)) ∈ lw_tbl := lw_at lw_m2 157 rfl
theorem q448 : (Jvm.Cond.instanceMethod ({ cls := "LimbMeasures", name := "isLimb", desc := "(I)Z" } : Jvm.MethodName)) ∈ lw_all := lw_g (lw_at lw_m2 158 rfl) rfl
theorem q449 : (Jvm.Cond.code ({ cls := "LimbMeasures", name := "isLimb", desc := "(I)Z" } : Jvm.MethodName) prog_1_method_7_code (2 : Nat) (Option.some Jvm.ClassFile.FieldType.boolean)) ∈ lw_all := lw_g (lw_at lw_m2 159 rfl) rfl
theorem q450 : (Jvm.Cond.constant "LimbMeasures" (142 : Nat) (-1000000001 : Int32)) ∈ lw_all := lw_g (lw_at lw_m2 160 rfl) rfl
theorem q451 : (Jvm.Cond.methodLink "LimbMeasures" (147 : Nat) ({ cls := "LimbMeasures$Limb", name := "adds", desc := "(I)I" } : Jvm.MethodName)) ∈ lw_all := lw_g (lw_at lw_m2 161 rfl) rfl
theorem q455 : (Jvm.Cond.methodLink "LimbMeasures" (156 : Nat) ({ cls := "LimbMeasures$State", name := "measure", desc := "(II)I" } : Jvm.MethodName)) ∈ lw_all := lw_g (lw_at lw_m2 165 rfl) rfl
theorem q460 : (Jvm.Cond.static ({ cls := "LimbMeasures", name := "has", desc := "(II)Z" } : Jvm.MethodName)) ∈ lw_all := lw_g (lw_at lw_m2 170 rfl) rfl
theorem q461 : (Jvm.Cond.code ({ cls := "LimbMeasures", name := "has", desc := "(II)Z" } : Jvm.MethodName) prog_1_method_2_code (2 : Nat) (Option.some Jvm.ClassFile.FieldType.boolean)) ∈ lw_all := lw_g (lw_at lw_m2 171 rfl) rfl
theorem q471 : (Jvm.Cond.instanceMethod ({ cls := "LimbMeasures", name := "contract", desc := "(II)I" } : Jvm.MethodName)) ∈ lw_all := lw_g (lw_at lw_m2 181 rfl) rfl
theorem q472 : (Jvm.Cond.selects "LimbMeasures" ({ cls := "LimbMeasures", name := "contract", desc := "(II)I" } : Jvm.MethodName) ({ cls := "LimbMeasures", name := "contract", desc := "(II)I" } : Jvm.MethodName)) ∈ lw_all := lw_g (lw_at lw_m2 182 rfl) rfl
theorem q473 : (Jvm.Cond.code ({ cls := "LimbMeasures", name := "contract", desc := "(II)I" } : Jvm.MethodName) prog_1_method_12_code (3 : Nat) (Option.some Jvm.ClassFile.FieldType.int)) ∈ lw_all := lw_g (lw_at lw_m2 183 rfl) rfl
theorem q474 : (Jvm.Cond.methodLink "LimbMeasures" (163 : Nat) ({ cls := "LimbMeasures", name := "isContract", desc := "(I)Z" } : Jvm.MethodName)) ∈ lw_all := lw_g (lw_at lw_m2 184 rfl) rfl
theorem q475 : (Jvm.Cond.privateMethod ({ cls := "LimbMeasures", name := "isContract", desc := "(I)Z" } : Jvm.MethodName)) ∈ lw_tbl := lw_at lw_m2 185 rfl
theorem q476 : (Jvm.Cond.instanceMethod ({ cls := "LimbMeasures", name := "isContract", desc := "(I)Z" } : Jvm.MethodName)) ∈ lw_all := lw_g (lw_at lw_m2 186 rfl) rfl
theorem q477 : (Jvm.Cond.code ({ cls := "LimbMeasures", name := "isContract", desc := "(I)Z" } : Jvm.MethodName) prog_1_method_8_code (2 : Nat) (Option.some Jvm.ClassFile.FieldType.boolean)) ∈ lw_all := lw_g (lw_at lw_m2 187 rfl) rfl
theorem q479 : (Jvm.Cond.instanceMethod ({ cls := "LimbMeasures", name := "rate", desc := "(II)I" } : Jvm.MethodName)) ∈ lw_all := lw_g (lw_at lw_m2 189 rfl) rfl
theorem q480 : (Jvm.Cond.selects "LimbMeasures" ({ cls := "LimbMeasures", name := "rate", desc := "(II)I" } : Jvm.MethodName) ({ cls := "LimbMeasures", name := "rate", desc := "(II)I" } : Jvm.MethodName)) ∈ lw_all := lw_g (lw_at lw_m2 190 rfl) rfl
theorem q481 : (Jvm.Cond.code ({ cls := "LimbMeasures", name := "rate", desc := "(II)I" } : Jvm.MethodName) prog_1_method_13_code (3 : Nat) (Option.some Jvm.ClassFile.FieldType.int)) ∈ lw_all := lw_g (lw_at lw_m2 191 rfl) rfl
theorem q483 : (Jvm.Cond.instanceMethod ({ cls := "LimbMeasures", name := "season", desc := "(I)I" } : Jvm.MethodName)) ∈ lw_all := lw_g (lw_at lw_m2 193 rfl) rfl
theorem q484 : (Jvm.Cond.selects "LimbMeasures" ({ cls := "LimbMeasures", name := "season", desc := "(I)I" } : Jvm.MethodName) ({ cls := "LimbMeasures", name := "season", desc := "(I)I" } : Jvm.MethodName)) ∈ lw_all := lw_g (lw_at lw_m2 194 rfl) rfl
theorem q485 : (Jvm.Cond.code ({ cls := "LimbMeasures", name := "season", desc := "(I)I" } : Jvm.MethodName) prog_1_method_16_code (3 : Nat) (Option.some Jvm.ClassFile.FieldType.int)) ∈ lw_all := lw_g (lw_at lw_m2 195 rfl) rfl
theorem q486 : (Jvm.Cond.methodLink "LimbMeasures" (195 : Nat) ({ cls := "LimbMeasures", name := "refusedSeasons", desc := "(I)I" } : Jvm.MethodName)) ∈ lw_all := lw_g (lw_at lw_m2 196 rfl) rfl
theorem q487 : (Jvm.Cond.privateMethod ({ cls := "LimbMeasures", name := "refusedSeasons", desc := "(I)I" } : Jvm.MethodName)) ∈ lw_tbl := lw_at lw_m2 197 rfl
theorem q488 : (Jvm.Cond.instanceMethod ({ cls := "LimbMeasures", name := "refusedSeasons", desc := "(I)I" } : Jvm.MethodName)) ∈ lw_all := lw_g (lw_at lw_m2 198 rfl) rfl
theorem q489 : (Jvm.Cond.code ({ cls := "LimbMeasures", name := "refusedSeasons", desc := "(I)I" } : Jvm.MethodName) prog_1_method_15_code (2 : Nat) (Option.some Jvm.ClassFile.FieldType.int)) ∈ lw_all := lw_g (lw_at lw_m2 199 rfl) rfl
theorem q490 : (Jvm.Cond.constant "LimbMeasures" (194 : Nat) (-1000000003 : Int32)) ∈ lw_all := lw_g (lw_at lw_m2 200 rfl) rfl
theorem q491 : (Jvm.Cond.methodLink "LimbMeasures" (198 : Nat) ({ cls := "LimbMeasures", name := "remember", desc := "()V" } : Jvm.MethodName)) ∈ lw_all := lw_g (lw_at lw_m2 201 rfl) rfl
theorem q492 : (Jvm.Cond.privateMethod ({ cls := "LimbMeasures", name := "remember", desc := "()V" } : Jvm.MethodName)) ∈ lw_tbl := lw_at lw_m2 202 rfl
theorem q493 : (Jvm.Cond.instanceMethod ({ cls := "LimbMeasures", name := "remember", desc := "()V" } : Jvm.MethodName)) ∈ lw_all := lw_g (lw_at lw_m2 203 rfl) rfl
theorem q494 : (Jvm.Cond.code ({ cls := "LimbMeasures", name := "remember", desc := "()V" } : Jvm.MethodName) prog_1_method_14_code (2 : Nat) (Option.none : Option Jvm.ClassFile.FieldType)) ∈ lw_all := lw_g (lw_at lw_m2 204 rfl) rfl
theorem q495 : (Jvm.Cond.methodLink "LimbMeasures" (190 : Nat) ({ cls := "LimbMeasures$State", name := "set", desc := "(LLimbMeasures$State;)V" } : Jvm.MethodName)) ∈ lw_all := lw_g (lw_at lw_m2 205 rfl) rfl
theorem q502 : (Jvm.Cond.methodLink "LimbMeasures" (201 : Nat) ({ cls := "LimbMeasures$State", name := "season", desc := "()V" } : Jvm.MethodName)) ∈ lw_all := lw_g (lw_at lw_m2 212 rfl) rfl
theorem q508 : (Jvm.Cond.instanceMethod ({ cls := "LimbMeasures", name := "gout", desc := "(II)I" } : Jvm.MethodName)) ∈ lw_all := lw_g (lw_at lw_m2 218 rfl) rfl
theorem q509 : (Jvm.Cond.selects "LimbMeasures" ({ cls := "LimbMeasures", name := "gout", desc := "(II)I" } : Jvm.MethodName) ({ cls := "LimbMeasures", name := "gout", desc := "(II)I" } : Jvm.MethodName)) ∈ lw_all := lw_g (lw_at lw_m2 219 rfl) rfl
theorem q510 : (Jvm.Cond.code ({ cls := "LimbMeasures", name := "gout", desc := "(II)I" } : Jvm.MethodName) prog_1_method_17_code (3 : Nat) (Option.some Jvm.ClassFile.FieldType.int)) ∈ lw_all := lw_g (lw_at lw_m2 220 rfl) rfl
theorem q511 : (Jvm.Cond.methodLink "LimbMeasures" (204 : Nat) ({ cls := "LimbMeasures", name := "has", desc := "(II)Z" } : Jvm.MethodName)) ∈ lw_all := lw_g (lw_at lw_m2 221 rfl) rfl
theorem q512 : (Jvm.Cond.methodLink "LimbMeasures" (208 : Nat) ({ cls := "LimbMeasures$State", name := "gout", desc := "(II)V" } : Jvm.MethodName)) ∈ lw_all := lw_g (lw_at lw_m2 222 rfl) rfl
theorem q518 : (Jvm.Cond.instanceMethod ({ cls := "LimbMeasures", name := "stub", desc := "(I)I" } : Jvm.MethodName)) ∈ lw_all := lw_g (lw_at lw_m2 228 rfl) rfl
theorem q519 : (Jvm.Cond.selects "LimbMeasures" ({ cls := "LimbMeasures", name := "stub", desc := "(I)I" } : Jvm.MethodName) ({ cls := "LimbMeasures", name := "stub", desc := "(I)I" } : Jvm.MethodName)) ∈ lw_all := lw_g (lw_at lw_m2 229 rfl) rfl
theorem q520 : (Jvm.Cond.code ({ cls := "LimbMeasures", name := "stub", desc := "(I)I" } : Jvm.MethodName) prog_1_method_18_code (2 : Nat) (Option.some Jvm.ClassFile.FieldType.int)) ∈ lw_all := lw_g (lw_at lw_m2 230 rfl) rfl
theorem q521 : (Jvm.Cond.methodLink "LimbMeasures" (212 : Nat) ({ cls := "LimbMeasures$State", name := "stub", desc := "(I)V" } : Jvm.MethodName)) ∈ lw_all := lw_g (lw_at lw_m2 231 rfl) rfl
theorem q526 : (Jvm.Cond.instanceMethod ({ cls := "LimbMeasures", name := "dies", desc := "(I)I" } : Jvm.MethodName)) ∈ lw_all := lw_g (lw_at lw_m2 236 rfl) rfl
theorem q527 : (Jvm.Cond.selects "LimbMeasures" ({ cls := "LimbMeasures", name := "dies", desc := "(I)I" } : Jvm.MethodName) ({ cls := "LimbMeasures", name := "dies", desc := "(I)I" } : Jvm.MethodName)) ∈ lw_all := lw_g (lw_at lw_m2 237 rfl) rfl
theorem q528 : (Jvm.Cond.code ({ cls := "LimbMeasures", name := "dies", desc := "(I)I" } : Jvm.MethodName) prog_1_method_19_code (2 : Nat) (Option.some Jvm.ClassFile.FieldType.int)) ∈ lw_all := lw_g (lw_at lw_m2 238 rfl) rfl
theorem q530 : (Jvm.Cond.instanceMethod ({ cls := "LimbMeasures", name := "copy", desc := "(I)I" } : Jvm.MethodName)) ∈ lw_all := lw_g (lw_at lw_m3 0 rfl) rfl
theorem q531 : (Jvm.Cond.selects "LimbMeasures" ({ cls := "LimbMeasures", name := "copy", desc := "(I)I" } : Jvm.MethodName) ({ cls := "LimbMeasures", name := "copy", desc := "(I)I" } : Jvm.MethodName)) ∈ lw_all := lw_g (lw_at lw_m3 1 rfl) rfl
theorem q532 : (Jvm.Cond.code ({ cls := "LimbMeasures", name := "copy", desc := "(I)I" } : Jvm.MethodName) prog_1_method_20_code (2 : Nat) (Option.some Jvm.ClassFile.FieldType.int)) ∈ lw_all := lw_g (lw_at lw_m3 2 rfl) rfl
theorem q533 : (Jvm.Cond.methodLink "LimbMeasures" (216 : Nat) ({ cls := "LimbMeasures$State", name := "own", desc := "(II)I" } : Jvm.MethodName)) ∈ lw_all := lw_g (lw_at lw_m3 3 rfl) rfl
theorem q535 : (Jvm.Cond.instanceMethod ({ cls := "LimbMeasures", name := "drift", desc := "(I)I" } : Jvm.MethodName)) ∈ lw_all := lw_g (lw_at lw_m3 5 rfl) rfl
theorem q536 : (Jvm.Cond.selects "LimbMeasures" ({ cls := "LimbMeasures", name := "drift", desc := "(I)I" } : Jvm.MethodName) ({ cls := "LimbMeasures", name := "drift", desc := "(I)I" } : Jvm.MethodName)) ∈ lw_all := lw_g (lw_at lw_m3 6 rfl) rfl
theorem q537 : (Jvm.Cond.code ({ cls := "LimbMeasures", name := "drift", desc := "(I)I" } : Jvm.MethodName) prog_1_method_21_code (3 : Nat) (Option.some Jvm.ClassFile.FieldType.int)) ∈ lw_all := lw_g (lw_at lw_m3 7 rfl) rfl
theorem q538 : (Jvm.Cond.methodLink "LimbMeasures" (219 : Nat) ({ cls := "LimbMeasures$State", name := "byDraws", desc := "()V" } : Jvm.MethodName)) ∈ lw_all := lw_g (lw_at lw_m3 8 rfl) rfl
theorem q554 : (Jvm.Cond.instanceMethod ({ cls := "LimbMeasures", name := "undo", desc := "()I" } : Jvm.MethodName)) ∈ lw_all := lw_g (lw_at lw_m3 24 rfl) rfl
theorem q555 : (Jvm.Cond.selects "LimbMeasures" ({ cls := "LimbMeasures", name := "undo", desc := "()I" } : Jvm.MethodName) ({ cls := "LimbMeasures", name := "undo", desc := "()I" } : Jvm.MethodName)) ∈ lw_all := lw_g (lw_at lw_m3 25 rfl) rfl
theorem q556 : (Jvm.Cond.code ({ cls := "LimbMeasures", name := "undo", desc := "()I" } : Jvm.MethodName) prog_1_method_22_code (2 : Nat) (Option.some Jvm.ClassFile.FieldType.int)) ∈ lw_all := lw_g (lw_at lw_m3 26 rfl) rfl
theorem q558 : (Jvm.Cond.instanceMethod ({ cls := "LimbMeasures", name := "firstNought", desc := "()I" } : Jvm.MethodName)) ∈ lw_all := lw_g (lw_at lw_m3 28 rfl) rfl
theorem q559 : (Jvm.Cond.selects "LimbMeasures" ({ cls := "LimbMeasures", name := "firstNought", desc := "()I" } : Jvm.MethodName) ({ cls := "LimbMeasures", name := "firstNought", desc := "()I" } : Jvm.MethodName)) ∈ lw_all := lw_g (lw_at lw_m3 29 rfl) rfl
theorem q560 : (Jvm.Cond.code ({ cls := "LimbMeasures", name := "firstNought", desc := "()I" } : Jvm.MethodName) prog_1_method_23_code (4 : Nat) (Option.some Jvm.ClassFile.FieldType.int)) ∈ lw_all := lw_g (lw_at lw_m3 30 rfl) rfl
theorem q562 : (Jvm.Cond.instanceMethod ({ cls := "LimbMeasures", name := "means", desc := "(II)I" } : Jvm.MethodName)) ∈ lw_all := lw_g (lw_at lw_m3 32 rfl) rfl
theorem q563 : (Jvm.Cond.selects "LimbMeasures" ({ cls := "LimbMeasures", name := "means", desc := "(II)I" } : Jvm.MethodName) ({ cls := "LimbMeasures", name := "means", desc := "(II)I" } : Jvm.MethodName)) ∈ lw_all := lw_g (lw_at lw_m3 33 rfl) rfl
theorem q564 : (Jvm.Cond.code ({ cls := "LimbMeasures", name := "means", desc := "(II)I" } : Jvm.MethodName) prog_1_method_24_code (3 : Nat) (Option.some Jvm.ClassFile.FieldType.int)) ∈ lw_all := lw_g (lw_at lw_m3 34 rfl) rfl
theorem q566 : (Jvm.Cond.instanceMethod ({ cls := "LimbMeasures", name := "basket", desc := "(I)I" } : Jvm.MethodName)) ∈ lw_all := lw_g (lw_at lw_m3 36 rfl) rfl
theorem q567 : (Jvm.Cond.selects "LimbMeasures" ({ cls := "LimbMeasures", name := "basket", desc := "(I)I" } : Jvm.MethodName) ({ cls := "LimbMeasures", name := "basket", desc := "(I)I" } : Jvm.MethodName)) ∈ lw_all := lw_g (lw_at lw_m3 37 rfl) rfl
theorem q568 : (Jvm.Cond.code ({ cls := "LimbMeasures", name := "basket", desc := "(I)I" } : Jvm.MethodName) prog_1_method_27_code (2 : Nat) (Option.some Jvm.ClassFile.FieldType.int)) ∈ lw_all := lw_g (lw_at lw_m3 38 rfl) rfl
theorem q569 : (Jvm.Cond.methodLink "LimbMeasures" (245 : Nat) ({ cls := "java/util/Arrays", name := "fill", desc := "([II)V" } : Jvm.MethodName)) ∈ lw_all := lw_g (lw_at lw_m3 39 rfl) rfl
theorem q570 : (Jvm.Cond.constant "LimbMeasures" (251 : Nat) (99999999 : Int32)) ∈ lw_all := lw_g (lw_at lw_m3 40 rfl) rfl
theorem q571 : (Jvm.Cond.methodLink "LimbMeasures" (241 : Nat) ({ cls := "LimbMeasures", name := "basketFrom", desc := "(III)V" } : Jvm.MethodName)) ∈ lw_all := lw_g (lw_at lw_m3 41 rfl) rfl
theorem q572 : (Jvm.Cond.privateMethod ({ cls := "LimbMeasures", name := "basketFrom", desc := "(III)V" } : Jvm.MethodName)) ∈ lw_tbl := lw_at lw_m3 42 rfl
theorem q573 : (Jvm.Cond.instanceMethod ({ cls := "LimbMeasures", name := "basketFrom", desc := "(III)V" } : Jvm.MethodName)) ∈ lw_all := lw_g (lw_at lw_m3 43 rfl) rfl
theorem q574 : (Jvm.Cond.code ({ cls := "LimbMeasures", name := "basketFrom", desc := "(III)V" } : Jvm.MethodName) prog_1_method_26_code (7 : Nat) (Option.none : Option Jvm.ClassFile.FieldType)) ∈ lw_all := lw_g (lw_at lw_m3 44 rfl) rfl
theorem q575 : (Jvm.Cond.methodLink "LimbMeasures" (225 : Nat) ({ cls := "LimbMeasures", name := "isSafe", desc := "()Z" } : Jvm.MethodName)) ∈ lw_all := lw_g (lw_at lw_m3 45 rfl) rfl
theorem q576 : (Jvm.Cond.privateMethod ({ cls := "LimbMeasures", name := "isSafe", desc := "()Z" } : Jvm.MethodName)) ∈ lw_tbl := lw_at lw_m3 46 rfl
theorem q577 : (Jvm.Cond.instanceMethod ({ cls := "LimbMeasures", name := "isSafe", desc := "()Z" } : Jvm.MethodName)) ∈ lw_all := lw_g (lw_at lw_m3 47 rfl) rfl
theorem q578 : (Jvm.Cond.code ({ cls := "LimbMeasures", name := "isSafe", desc := "()Z" } : Jvm.MethodName) prog_1_method_25_code (6 : Nat) (Option.some Jvm.ClassFile.FieldType.boolean)) ∈ lw_all := lw_g (lw_at lw_m3 48 rfl) rfl
theorem q579 : (Jvm.Cond.methodLink "LimbMeasures" (235 : Nat) ({ cls := "java/lang/System", name := "arraycopy", desc := "(Ljava/lang/Object;ILjava/lang/Object;II)V" } : Jvm.MethodName)) ∈ lw_all := lw_g (lw_at lw_m3 49 rfl) rfl
theorem q581 : (Jvm.Cond.instanceMethod ({ cls := "LimbMeasures", name := "ring", desc := "(I)I" } : Jvm.MethodName)) ∈ lw_all := lw_g (lw_at lw_m3 51 rfl) rfl
theorem q582 : (Jvm.Cond.selects "LimbMeasures" ({ cls := "LimbMeasures", name := "ring", desc := "(I)I" } : Jvm.MethodName) ({ cls := "LimbMeasures", name := "ring", desc := "(I)I" } : Jvm.MethodName)) ∈ lw_all := lw_g (lw_at lw_m3 52 rfl) rfl
theorem q583 : (Jvm.Cond.code ({ cls := "LimbMeasures", name := "ring", desc := "(I)I" } : Jvm.MethodName) prog_1_method_30_code (2 : Nat) (Option.some Jvm.ClassFile.FieldType.int)) ∈ lw_all := lw_g (lw_at lw_m3 53 rfl) rfl
theorem q584 : (Jvm.Cond.methodLink "LimbMeasures" (264 : Nat) ({ cls := "LimbMeasures", name := "findRing", desc := "()Z" } : Jvm.MethodName)) ∈ lw_all := lw_g (lw_at lw_m3 54 rfl) rfl
theorem q585 : (Jvm.Cond.privateMethod ({ cls := "LimbMeasures", name := "findRing", desc := "()Z" } : Jvm.MethodName)) ∈ lw_tbl := lw_at lw_m3 55 rfl
theorem q586 : (Jvm.Cond.instanceMethod ({ cls := "LimbMeasures", name := "findRing", desc := "()Z" } : Jvm.MethodName)) ∈ lw_all := lw_g (lw_at lw_m3 56 rfl) rfl
theorem q587 : (Jvm.Cond.code ({ cls := "LimbMeasures", name := "findRing", desc := "()Z" } : Jvm.MethodName) prog_1_method_29_code (1 : Nat) (Option.some Jvm.ClassFile.FieldType.boolean)) ∈ lw_all := lw_g (lw_at lw_m3 57 rfl) rfl
theorem q588 : (Jvm.Cond.methodLink "LimbMeasures" (257 : Nat) ({ cls := "LimbMeasures", name := "ringFrom", desc := "(IIIII)Z" } : Jvm.MethodName)) ∈ lw_all := lw_g (lw_at lw_m3 58 rfl) rfl
theorem q589 : (Jvm.Cond.privateMethod ({ cls := "LimbMeasures", name := "ringFrom", desc := "(IIIII)Z" } : Jvm.MethodName)) ∈ lw_tbl := lw_at lw_m3 59 rfl
theorem q590 : (Jvm.Cond.instanceMethod ({ cls := "LimbMeasures", name := "ringFrom", desc := "(IIIII)Z" } : Jvm.MethodName)) ∈ lw_all := lw_g (lw_at lw_m3 60 rfl) rfl
theorem q591 : (Jvm.Cond.code ({ cls := "LimbMeasures", name := "ringFrom", desc := "(IIIII)Z" } : Jvm.MethodName) prog_1_method_28_code (8 : Nat) (Option.some Jvm.ClassFile.FieldType.boolean)) ∈ lw_all := lw_g (lw_at lw_m3 61 rfl) rfl
theorem q592 : (Jvm.Cond.methodLink "LimbMeasures" (252 : Nat) ({ cls := "java/lang/Math", name := "max", desc := "(II)I" } : Jvm.MethodName)) ∈ lw_all := lw_g (lw_at lw_m3 62 rfl) rfl
theorem q594 : (Jvm.Cond.instanceMethod ({ cls := "LimbMeasures", name := "mended", desc := "()I" } : Jvm.MethodName)) ∈ lw_all := lw_g (lw_at lw_m3 64 rfl) rfl
theorem q595 : (Jvm.Cond.selects "LimbMeasures" ({ cls := "LimbMeasures", name := "mended", desc := "()I" } : Jvm.MethodName) ({ cls := "LimbMeasures", name := "mended", desc := "()I" } : Jvm.MethodName)) ∈ lw_all := lw_g (lw_at lw_m3 65 rfl) rfl
theorem q596 : (Jvm.Cond.code ({ cls := "LimbMeasures", name := "mended", desc := "()I" } : Jvm.MethodName) prog_1_method_31_code (7 : Nat) (Option.some Jvm.ClassFile.FieldType.int)) ∈ lw_all := lw_g (lw_at lw_m3 66 rfl) rfl
theorem q598 : (Jvm.Cond.instanceMethod ({ cls := "LimbMeasures", name := "heirs", desc := "(I)I" } : Jvm.MethodName)) ∈ lw_all := lw_g (lw_at lw_m3 68 rfl) rfl
theorem q599 : (Jvm.Cond.selects "LimbMeasures" ({ cls := "LimbMeasures", name := "heirs", desc := "(I)I" } : Jvm.MethodName) ({ cls := "LimbMeasures", name := "heirs", desc := "(I)I" } : Jvm.MethodName)) ∈ lw_all := lw_g (lw_at lw_m3 69 rfl) rfl
theorem q600 : (Jvm.Cond.code ({ cls := "LimbMeasures", name := "heirs", desc := "(I)I" } : Jvm.MethodName) prog_1_method_33_code (2 : Nat) (Option.some Jvm.ClassFile.FieldType.int)) ∈ lw_all := lw_g (lw_at lw_m3 70 rfl) rfl
theorem q601 : (Jvm.Cond.methodLink "LimbMeasures" (276 : Nat) ({ cls := "java/lang/Integer", name := "bitCount", desc := "(I)I" } : Jvm.MethodName)) ∈ lw_all := lw_g (lw_at lw_m3 71 rfl) rfl
theorem q607 : (Jvm.Cond.methodLink "LimbMeasures" (270 : Nat) ({ cls := "LimbMeasures", name := "heirFrom", desc := "(III)V" } : Jvm.MethodName)) ∈ lw_all := lw_g (lw_at lw_m3 77 rfl) rfl
theorem q608 : (Jvm.Cond.privateMethod ({ cls := "LimbMeasures", name := "heirFrom", desc := "(III)V" } : Jvm.MethodName)) ∈ lw_tbl := lw_at lw_m3 78 rfl
theorem q609 : (Jvm.Cond.instanceMethod ({ cls := "LimbMeasures", name := "heirFrom", desc := "(III)V" } : Jvm.MethodName)) ∈ lw_all := lw_g (lw_at lw_m3 79 rfl) rfl
theorem q610 : (Jvm.Cond.code ({ cls := "LimbMeasures", name := "heirFrom", desc := "(III)V" } : Jvm.MethodName) prog_1_method_32_code (5 : Nat) (Option.none : Option Jvm.ClassFile.FieldType)) ∈ lw_all := lw_g (lw_at lw_m3 80 rfl) rfl
theorem q611 : (Jvm.Cond.methodLink "LimbMeasures" (273 : Nat) ({ cls := "java/lang/Math", name := "abs", desc := "(I)I" } : Jvm.MethodName)) ∈ lw_all := lw_g (lw_at lw_m3 81 rfl) rfl
theorem q615 : (Jvm.Cond.instanceMethod ({ cls := "LimbMeasures", name := "reach", desc := "(II)I" } : Jvm.MethodName)) ∈ lw_all := lw_g (lw_at lw_m3 85 rfl) rfl
theorem q616 : (Jvm.Cond.selects "LimbMeasures" ({ cls := "LimbMeasures", name := "reach", desc := "(II)I" } : Jvm.MethodName) ({ cls := "LimbMeasures", name := "reach", desc := "(II)I" } : Jvm.MethodName)) ∈ lw_all := lw_g (lw_at lw_m3 86 rfl) rfl
theorem q617 : (Jvm.Cond.code ({ cls := "LimbMeasures", name := "reach", desc := "(II)I" } : Jvm.MethodName) prog_1_method_34_code (6 : Nat) (Option.some Jvm.ClassFile.FieldType.int)) ∈ lw_all := lw_g (lw_at lw_m3 87 rfl) rfl
theorem q618 : (Jvm.Cond.methodLink "LimbMeasures" (281 : Nat) ({ cls := "java/lang/Math", name := "min", desc := "(II)I" } : Jvm.MethodName)) ∈ lw_all := lw_g (lw_at lw_m3 88 rfl) rfl
theorem q620 : (Jvm.Cond.instanceMethod ({ cls := "LimbMeasures", name := "bestCopy", desc := "(II)I" } : Jvm.MethodName)) ∈ lw_all := lw_g (lw_at lw_m3 90 rfl) rfl
theorem q621 : (Jvm.Cond.selects "LimbMeasures" ({ cls := "LimbMeasures", name := "bestCopy", desc := "(II)I" } : Jvm.MethodName) ({ cls := "LimbMeasures", name := "bestCopy", desc := "(II)I" } : Jvm.MethodName)) ∈ lw_all := lw_g (lw_at lw_m3 91 rfl) rfl
theorem q622 : (Jvm.Cond.code ({ cls := "LimbMeasures", name := "bestCopy", desc := "(II)I" } : Jvm.MethodName) prog_1_method_35_code (8 : Nat) (Option.some Jvm.ClassFile.FieldType.int)) ∈ lw_all := lw_g (lw_at lw_m3 92 rfl) rfl
theorem q624 : (Jvm.Cond.instanceMethod ({ cls := "LimbMeasures", name := "nearest", desc := "(I)I" } : Jvm.MethodName)) ∈ lw_all := lw_g (lw_at lw_m3 94 rfl) rfl
theorem q625 : (Jvm.Cond.selects "LimbMeasures" ({ cls := "LimbMeasures", name := "nearest", desc := "(I)I" } : Jvm.MethodName) ({ cls := "LimbMeasures", name := "nearest", desc := "(I)I" } : Jvm.MethodName)) ∈ lw_all := lw_g (lw_at lw_m3 95 rfl) rfl
theorem q626 : (Jvm.Cond.code ({ cls := "LimbMeasures", name := "nearest", desc := "(I)I" } : Jvm.MethodName) prog_1_method_36_code (6 : Nat) (Option.some Jvm.ClassFile.FieldType.int)) ∈ lw_all := lw_g (lw_at lw_m3 96 rfl) rfl
theorem q628 : (Jvm.Cond.instanceMethod ({ cls := "LimbMeasures", name := "odds", desc := "(III)I" } : Jvm.MethodName)) ∈ lw_all := lw_g (lw_at lw_m3 98 rfl) rfl
theorem q629 : (Jvm.Cond.selects "LimbMeasures" ({ cls := "LimbMeasures", name := "odds", desc := "(III)I" } : Jvm.MethodName) ({ cls := "LimbMeasures", name := "odds", desc := "(III)I" } : Jvm.MethodName)) ∈ lw_all := lw_g (lw_at lw_m3 99 rfl) rfl
theorem q630 : (Jvm.Cond.code ({ cls := "LimbMeasures", name := "odds", desc := "(III)I" } : Jvm.MethodName) prog_1_method_37_code (8 : Nat) (Option.some Jvm.ClassFile.FieldType.int)) ∈ lw_all := lw_g (lw_at lw_m3 100 rfl) rfl
theorem q631 : (Jvm.Cond.constantLong "LimbMeasures" (284 : Nat) (1000000000 : Int64)) ∈ lw_all := lw_g (lw_at lw_m3 101 rfl) rfl
theorem q632 : (Jvm.Cond.constantLong "LimbMeasures" (286 : Nat) (100 : Int64)) ∈ lw_all := lw_g (lw_at lw_m3 102 rfl) rfl
theorem q634 : (Jvm.Cond.instanceMethod ({ cls := "LimbMeasures", name := "got", desc := "(II)I" } : Jvm.MethodName)) ∈ lw_all := lw_g (lw_at lw_m3 104 rfl) rfl
theorem q635 : (Jvm.Cond.selects "LimbMeasures" ({ cls := "LimbMeasures", name := "got", desc := "(II)I" } : Jvm.MethodName) ({ cls := "LimbMeasures", name := "got", desc := "(II)I" } : Jvm.MethodName)) ∈ lw_all := lw_g (lw_at lw_m3 105 rfl) rfl
theorem q636 : (Jvm.Cond.code ({ cls := "LimbMeasures", name := "got", desc := "(II)I" } : Jvm.MethodName) prog_1_method_38_code (3 : Nat) (Option.some Jvm.ClassFile.FieldType.int)) ∈ lw_all := lw_g (lw_at lw_m3 106 rfl) rfl
theorem q638 : (Jvm.Cond.instanceMethod ({ cls := "LimbMeasures", name := "used", desc := "()I" } : Jvm.MethodName)) ∈ lw_all := lw_g (lw_at lw_m3 108 rfl) rfl
theorem q639 : (Jvm.Cond.selects "LimbMeasures" ({ cls := "LimbMeasures", name := "used", desc := "()I" } : Jvm.MethodName) ({ cls := "LimbMeasures", name := "used", desc := "()I" } : Jvm.MethodName)) ∈ lw_all := lw_g (lw_at lw_m3 109 rfl) rfl
theorem q640 : (Jvm.Cond.code ({ cls := "LimbMeasures", name := "used", desc := "()I" } : Jvm.MethodName) prog_1_method_39_code (5 : Nat) (Option.some Jvm.ClassFile.FieldType.int)) ∈ lw_all := lw_g (lw_at lw_m3 110 rfl) rfl
theorem q642 : (Jvm.Cond.instanceMethod ({ cls := "LimbMeasures", name := "bale", desc := "()I" } : Jvm.MethodName)) ∈ lw_all := lw_g (lw_at lw_m3 112 rfl) rfl
theorem q643 : (Jvm.Cond.selects "LimbMeasures" ({ cls := "LimbMeasures", name := "bale", desc := "()I" } : Jvm.MethodName) ({ cls := "LimbMeasures", name := "bale", desc := "()I" } : Jvm.MethodName)) ∈ lw_all := lw_g (lw_at lw_m3 113 rfl) rfl
theorem q644 : (Jvm.Cond.code ({ cls := "LimbMeasures", name := "bale", desc := "()I" } : Jvm.MethodName) prog_1_method_41_code (3 : Nat) (Option.some Jvm.ClassFile.FieldType.int)) ∈ lw_all := lw_g (lw_at lw_m3 114 rfl) rfl
theorem q645 : (Jvm.Cond.methodLink "LimbMeasures" (288 : Nat) ({ cls := "LimbMeasures", name := "used", desc := "()I" } : Jvm.MethodName)) ∈ lw_all := lw_g (lw_at lw_m3 115 rfl) rfl
theorem q646 : (Jvm.Cond.methodLink "LimbMeasures" (291 : Nat) ({ cls := "LimbMeasures", name := "areUnlike", desc := "(II)Z" } : Jvm.MethodName)) ∈ lw_all := lw_g (lw_at lw_m3 116 rfl) rfl
theorem q647 : (Jvm.Cond.privateMethod ({ cls := "LimbMeasures", name := "areUnlike", desc := "(II)Z" } : Jvm.MethodName)) ∈ lw_tbl := lw_at lw_m3 117 rfl
theorem q648 : (Jvm.Cond.instanceMethod ({ cls := "LimbMeasures", name := "areUnlike", desc := "(II)Z" } : Jvm.MethodName)) ∈ lw_all := lw_g (lw_at lw_m3 118 rfl) rfl
theorem q649 : (Jvm.Cond.code ({ cls := "LimbMeasures", name := "areUnlike", desc := "(II)Z" } : Jvm.MethodName) prog_1_method_40_code (6 : Nat) (Option.some Jvm.ClassFile.FieldType.boolean)) ∈ lw_all := lw_g (lw_at lw_m3 119 rfl) rfl
theorem q651 : (Jvm.Cond.instanceMethod ({ cls := "LimbMeasures", name := "write", desc := "(II)I" } : Jvm.MethodName)) ∈ lw_all := lw_g (lw_at lw_m3 121 rfl) rfl
theorem q652 : (Jvm.Cond.selects "LimbMeasures" ({ cls := "LimbMeasures", name := "write", desc := "(II)I" } : Jvm.MethodName) ({ cls := "LimbMeasures", name := "write", desc := "(II)I" } : Jvm.MethodName)) ∈ lw_all := lw_g (lw_at lw_m3 122 rfl) rfl
theorem q653 : (Jvm.Cond.code ({ cls := "LimbMeasures", name := "write", desc := "(II)I" } : Jvm.MethodName) prog_1_method_42_code (3 : Nat) (Option.some Jvm.ClassFile.FieldType.int)) ∈ lw_all := lw_g (lw_at lw_m3 123 rfl) rfl
theorem q655 : (Jvm.Cond.instanceMethod ({ cls := "LimbMeasures", name := "tear", desc := "()I" } : Jvm.MethodName)) ∈ lw_all := lw_g (lw_at lw_m3 125 rfl) rfl
theorem q656 : (Jvm.Cond.selects "LimbMeasures" ({ cls := "LimbMeasures", name := "tear", desc := "()I" } : Jvm.MethodName) ({ cls := "LimbMeasures", name := "tear", desc := "()I" } : Jvm.MethodName)) ∈ lw_all := lw_g (lw_at lw_m3 126 rfl) rfl
theorem q657 : (Jvm.Cond.code ({ cls := "LimbMeasures", name := "tear", desc := "()I" } : Jvm.MethodName) prog_1_method_43_code (2 : Nat) (Option.some Jvm.ClassFile.FieldType.int)) ∈ lw_all := lw_g (lw_at lw_m3 127 rfl) rfl
theorem q659 : (Jvm.Cond.instanceMethod ({ cls := "LimbMeasures", name := "judge", desc := "()I" } : Jvm.MethodName)) ∈ lw_all := lw_g (lw_at lw_m3 129 rfl) rfl
theorem q660 : (Jvm.Cond.selects "LimbMeasures" ({ cls := "LimbMeasures", name := "judge", desc := "()I" } : Jvm.MethodName) ({ cls := "LimbMeasures", name := "judge", desc := "()I" } : Jvm.MethodName)) ∈ lw_all := lw_g (lw_at lw_m3 130 rfl) rfl
theorem q661 : (Jvm.Cond.code ({ cls := "LimbMeasures", name := "judge", desc := "()I" } : Jvm.MethodName) prog_1_method_44_code (2 : Nat) (Option.some Jvm.ClassFile.FieldType.int)) ∈ lw_all := lw_g (lw_at lw_m3 131 rfl) rfl
theorem q663 : (Jvm.Cond.instanceMethod ({ cls := "LimbMeasures", name := "seed", desc := "(I)I" } : Jvm.MethodName)) ∈ lw_all := lw_g (lw_at lw_m3 133 rfl) rfl
theorem q664 : (Jvm.Cond.selects "LimbMeasures" ({ cls := "LimbMeasures", name := "seed", desc := "(I)I" } : Jvm.MethodName) ({ cls := "LimbMeasures", name := "seed", desc := "(I)I" } : Jvm.MethodName)) ∈ lw_all := lw_g (lw_at lw_m3 134 rfl) rfl
theorem q665 : (Jvm.Cond.code ({ cls := "LimbMeasures", name := "seed", desc := "(I)I" } : Jvm.MethodName) prog_1_method_45_code (3 : Nat) (Option.some Jvm.ClassFile.FieldType.int)) ∈ lw_all := lw_g (lw_at lw_m3 135 rfl) rfl
theorem q667 : (Jvm.Cond.instanceMethod ({ cls := "LimbMeasures", name := "keep", desc := "(I)I" } : Jvm.MethodName)) ∈ lw_all := lw_g (lw_at lw_m3 137 rfl) rfl
theorem q668 : (Jvm.Cond.selects "LimbMeasures" ({ cls := "LimbMeasures", name := "keep", desc := "(I)I" } : Jvm.MethodName) ({ cls := "LimbMeasures", name := "keep", desc := "(I)I" } : Jvm.MethodName)) ∈ lw_all := lw_g (lw_at lw_m3 138 rfl) rfl
theorem q669 : (Jvm.Cond.code ({ cls := "LimbMeasures", name := "keep", desc := "(I)I" } : Jvm.MethodName) prog_1_method_46_code (2 : Nat) (Option.some Jvm.ClassFile.FieldType.int)) ∈ lw_all := lw_g (lw_at lw_m3 139 rfl) rfl
theorem q671 : (Jvm.Cond.instanceMethod ({ cls := "LimbMeasures", name := "goBack", desc := "(I)I" } : Jvm.MethodName)) ∈ lw_all := lw_g (lw_at lw_m3 141 rfl) rfl
theorem q672 : (Jvm.Cond.selects "LimbMeasures" ({ cls := "LimbMeasures", name := "goBack", desc := "(I)I" } : Jvm.MethodName) ({ cls := "LimbMeasures", name := "goBack", desc := "(I)I" } : Jvm.MethodName)) ∈ lw_all := lw_g (lw_at lw_m3 142 rfl) rfl
theorem q673 : (Jvm.Cond.code ({ cls := "LimbMeasures", name := "goBack", desc := "(I)I" } : Jvm.MethodName) prog_1_method_47_code (2 : Nat) (Option.some Jvm.ClassFile.FieldType.int)) ∈ lw_all := lw_g (lw_at lw_m3 143 rfl) rfl
theorem in_X0 : ∀ w ∈ wsX00, w ∈ lw_all := lw_in wsX00 [217, 219, 221, 223, 225, 227, 229, 231, 233, 235, 237, 239, 241, 243, 245, 247, 249, 251, 253, 255, 257, 259, 261] (by decide +kernel) (by decide +kernel)
