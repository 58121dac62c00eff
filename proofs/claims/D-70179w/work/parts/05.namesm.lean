/-! LimbMeasuresModel -/
set_option maxRecDepth 100000
def RX3 : String := "LimbMeasuresModel"
def TX3 : u_T := fun k => match k with
  | 0 => ("LimbMeasuresModel", "limbs", "I", false)
  | 1 => ("LimbMeasuresModel", "adds", "[I", true)
  | 2 => ("LimbMeasuresModel", "heir", "[I", true)
  | 3 => ("LimbMeasuresModel", "contracts", "I", false)
  | 4 => ("LimbMeasuresModel", "contractAt", "[I", true)
  | 5 => ("LimbMeasuresModel", "contractLimb", "[I", true)
  | 6 => ("LimbMeasuresModel", "contractMany", "[I", true)
  | 7 => ("LimbMeasuresModel", "rates", "I", false)
  | 8 => ("LimbMeasuresModel", "rateFrom", "[I", true)
  | 9 => ("LimbMeasuresModel", "rateTo", "[I", true)
  | 10 => ("LimbMeasuresModel", "rateU", "[I", true)
  | 11 => ("LimbMeasuresModel", "rateV", "[I", true)
  | 12 => ("LimbMeasuresModel", "now", "[I", true)
  | 13 => ("LimbMeasuresModel", "seed", "I", false)
  | 14 => ("LimbMeasuresModel", "text", "[I", true)
  | 15 => ("LimbMeasuresModel", "texted", "I", false)
  | 16 => ("LimbMeasuresModel", "faultPlace", "I", false)
  | 17 => ("LimbMeasuresModel", "at0", "I", false)
  | 18 => ("LimbMeasuresModel", "number", "I", false)
  | 19 => ("LimbMeasuresModel", "numberAt", "I", false)
  | 20 => ("LimbMeasuresModel", "readLimbs", "I", false)
  | 21 => ("LimbMeasuresModel", "readLength", "[I", true)
  | 22 => ("LimbMeasuresModel", "readAdds", "[I", true)
  | 23 => ("LimbMeasuresModel", "readHeir", "[I", true)
  | 24 => ("LimbMeasuresModel", "readContracts", "I", false)
  | 25 => ("LimbMeasuresModel", "readAt", "[I", true)
  | 26 => ("LimbMeasuresModel", "readLimb", "[I", true)
  | 27 => ("LimbMeasuresModel", "readMany", "[I", true)
  | 28 => ("LimbMeasuresModel", "readRates", "I", false)
  | 29 => ("LimbMeasuresModel", "readFrom", "[I", true)
  | 30 => ("LimbMeasuresModel", "readTo", "[I", true)
  | 31 => ("LimbMeasuresModel", "readU", "[I", true)
  | 32 => ("LimbMeasuresModel", "readV", "[I", true)
  | 33 => ("LimbMeasuresModel", "undos", "I", false)
  | 34 => ("LimbMeasuresModel", "past", "[I", true)
  | 35 => ("LimbMeasuresModel", "bestBasket", "I", false)
  | 36 => ("LimbMeasuresModel", "ringLong", "I", false)
  | 37 => ("LimbMeasuresModel", "gots", "I", false)
  | 38 => ("LimbMeasuresModel", "gotMany", "[I", true)
  | 39 => ("LimbMeasuresModel", "gotMuch", "[I", true)
  | 40 => ("LimbMeasuresModel", "booked", "I", false)
  | 41 => ("LimbMeasuresModel", "bookLimb", "[I", true)
  | 42 => ("LimbMeasuresModel", "bookMeasure", "[I", true)
  | 43 => ("LimbMeasuresModel", "images", "[I", true)
  | _ => ("LimbMeasuresModel", "isKept", "[Z", true)
def tyX3 : Nat → FieldType := fun k => match k with
  | 0 => .int
  | 1 => .array .int
  | 2 => .array .int
  | 3 => .int
  | 4 => .array .int
  | 5 => .array .int
  | 6 => .array .int
  | 7 => .int
  | 8 => .array .int
  | 9 => .array .int
  | 10 => .array .int
  | 11 => .array .int
  | 12 => .array .int
  | 13 => .int
  | 14 => .array .int
  | 15 => .int
  | 16 => .int
  | 17 => .int
  | 18 => .int
  | 19 => .int
  | 20 => .int
  | 21 => .array .int
  | 22 => .array .int
  | 23 => .array .int
  | 24 => .int
  | 25 => .array .int
  | 26 => .array .int
  | 27 => .array .int
  | 28 => .int
  | 29 => .array .int
  | 30 => .array .int
  | 31 => .array .int
  | 32 => .array .int
  | 33 => .int
  | 34 => .array .int
  | 35 => .int
  | 36 => .int
  | 37 => .int
  | 38 => .array .int
  | 39 => .array .int
  | 40 => .int
  | 41 => .array .int
  | 42 => .array .int
  | 43 => .array .int
  | _ => .array .boolean
abbrev wsX30 : List Cond := u_ws RX3 TX3 45
set_option maxRecDepth 100000 in
theorem nmX3 : ∀ a, a < 45 → ∀ b, b < 45 → a ≠ b → (TX3 a).2.1 ≠ (TX3 b).2.1 := by decide +kernel
set_option maxRecDepth 100000 in
theorem tyX3_ok : ∀ k, k < 45 → parseFieldDescriptor (TX3 k).2.2.1 = some (tyX3 k) := by decide +kernel
abbrev cX3_init : ByteArray := prog_9_method_1_code
def yX3_init : MethodName := ⟨RX3, "<init>", "()V"⟩
def dkwX3_init_10 : List UInt8 := [181, 0, 99, 177]
abbrev dktX3_init_10 : List UInt8 := dkwX3_init_10 ++ []
def dkwX3_init_9 : List UInt8 := [188, 10, 181, 0, 89, 42, 16, 46, 188, 10, 181, 0, 92, 42, 5, 188, 4, 181, 0, 95, 42, 3]
abbrev dktX3_init_9 : List UInt8 := dkwX3_init_9 ++ dktX3_init_10
def dkwX3_init_8 : List UInt8 := [188, 10, 181, 0, 80, 42, 16, 8, 188, 10, 181, 0, 83, 42, 16, 15, 188, 10, 181, 0, 86, 42, 16, 15]
abbrev dktX3_init_8 : List UInt8 := dkwX3_init_8 ++ dktX3_init_9
def dkwX3_init_7 : List UInt8 := [181, 0, 71, 42, 16, 8, 188, 10, 181, 0, 74, 42, 17, 1, 184, 188, 10, 181, 0, 77, 42, 16, 8]
abbrev dktX3_init_7 : List UInt8 := dkwX3_init_7 ++ dktX3_init_8
def dkwX3_init_6 : List UInt8 := [181, 0, 62, 42, 16, 8, 188, 10, 181, 0, 65, 42, 16, 8, 188, 10, 181, 0, 68, 42, 16, 8, 188, 10]
abbrev dktX3_init_6 : List UInt8 := dkwX3_init_6 ++ dktX3_init_7
def dkwX3_init_5 : List UInt8 := [181, 0, 53, 42, 16, 6, 188, 10, 181, 0, 56, 42, 16, 6, 188, 10, 181, 0, 59, 42, 16, 6, 188, 10]
abbrev dktX3_init_5 : List UInt8 := dkwX3_init_5 ++ dktX3_init_6
def dkwX3_init_4 : List UInt8 := [181, 0, 43, 42, 16, 6, 188, 10, 181, 0, 47, 42, 16, 24, 188, 10, 181, 0, 50, 42, 16, 6, 188, 10]
abbrev dktX3_init_4 : List UInt8 := dkwX3_init_4 ++ dktX3_init_5
def dkwX3_init_3 : List UInt8 := [188, 10, 181, 0, 34, 42, 16, 22, 188, 10, 181, 0, 37, 42, 17, 0, 250, 188, 10, 181, 0, 40, 42, 2]
abbrev dktX3_init_3 : List UInt8 := dkwX3_init_3 ++ dktX3_init_4
def dkwX3_init_2 : List UInt8 := [188, 10, 181, 0, 25, 42, 16, 8, 188, 10, 181, 0, 28, 42, 16, 8, 188, 10, 181, 0, 31, 42, 16, 8]
abbrev dktX3_init_2 : List UInt8 := dkwX3_init_2 ++ dktX3_init_3
def dkwX3_init_1 : List UInt8 := [188, 10, 181, 0, 16, 42, 16, 6, 188, 10, 181, 0, 19, 42, 16, 6, 188, 10, 181, 0, 22, 42, 16, 8]
abbrev dktX3_init_1 : List UInt8 := dkwX3_init_1 ++ dktX3_init_2
def dkwX3_init_0 : List UInt8 := [42, 183, 0, 1, 42, 16, 24, 188, 10, 181, 0, 7, 42, 16, 6, 188, 10, 181, 0, 13, 42, 16, 6]
abbrev dktX3_init_0 : List UInt8 := dkwX3_init_0 ++ dktX3_init_1
theorem dksX3_init_0 : cX3_init.data.toList.drop 0 = dktX3_init_0 := by decide +kernel
theorem dksX3_init_1 : cX3_init.data.toList.drop 23 = dktX3_init_1 := dk_seg dksX3_init_0 23 rfl rfl
theorem dksX3_init_2 : cX3_init.data.toList.drop 47 = dktX3_init_2 := dk_seg dksX3_init_1 24 rfl rfl
theorem dksX3_init_3 : cX3_init.data.toList.drop 71 = dktX3_init_3 := dk_seg dksX3_init_2 24 rfl rfl
theorem dksX3_init_4 : cX3_init.data.toList.drop 95 = dktX3_init_4 := dk_seg dksX3_init_3 24 rfl rfl
theorem dksX3_init_5 : cX3_init.data.toList.drop 119 = dktX3_init_5 := dk_seg dksX3_init_4 24 rfl rfl
theorem dksX3_init_6 : cX3_init.data.toList.drop 143 = dktX3_init_6 := dk_seg dksX3_init_5 24 rfl rfl
theorem dksX3_init_7 : cX3_init.data.toList.drop 167 = dktX3_init_7 := dk_seg dksX3_init_6 24 rfl rfl
theorem dksX3_init_8 : cX3_init.data.toList.drop 190 = dktX3_init_8 := dk_seg dksX3_init_7 23 rfl rfl
theorem dksX3_init_9 : cX3_init.data.toList.drop 214 = dktX3_init_9 := dk_seg dksX3_init_8 24 rfl rfl
theorem dksX3_init_10 : cX3_init.data.toList.drop 236 = dktX3_init_10 := dk_seg dksX3_init_9 22 rfl rfl
theorem dX3_init_0 : decode cX3_init 0 = .ok (.aload_n 0, 1) := dk_42 (dk_at dksX3_init_0 0 rfl rfl)
theorem dX3_init_1 : decode cX3_init 1 = .ok (.invokespecial 1, 3) := dk_183 0 1 (dk_at dksX3_init_0 1 rfl rfl)
theorem dX3_init_4 : decode cX3_init 4 = .ok (.aload_n 0, 1) := dk_42 (dk_at dksX3_init_0 4 rfl rfl)
theorem dX3_init_5 : decode cX3_init 5 = .ok (.bipush 24, 2) := dk_16 24 (dk_at dksX3_init_0 5 rfl rfl)
theorem dX3_init_7 : decode cX3_init 7 = .ok (.newarray .int, 2) := dk_188_10 (dk_at dksX3_init_0 7 rfl rfl)
theorem dX3_init_9 : decode cX3_init 9 = .ok (.putfield 7, 3) := dk_181 0 7 (dk_at dksX3_init_0 9 rfl rfl)
theorem dX3_init_12 : decode cX3_init 12 = .ok (.aload_n 0, 1) := dk_42 (dk_at dksX3_init_0 12 rfl rfl)
theorem dX3_init_13 : decode cX3_init 13 = .ok (.bipush 6, 2) := dk_16 6 (dk_at dksX3_init_0 13 rfl rfl)
theorem dX3_init_15 : decode cX3_init 15 = .ok (.newarray .int, 2) := dk_188_10 (dk_at dksX3_init_0 15 rfl rfl)
theorem dX3_init_17 : decode cX3_init 17 = .ok (.putfield 13, 3) := dk_181 0 13 (dk_at dksX3_init_0 17 rfl rfl)
theorem dX3_init_20 : decode cX3_init 20 = .ok (.aload_n 0, 1) := dk_42 (dk_at dksX3_init_0 20 rfl rfl)
theorem dX3_init_21 : decode cX3_init 21 = .ok (.bipush 6, 2) := dk_16 6 (dk_at dksX3_init_0 21 rfl rfl)
theorem dX3_init_23 : decode cX3_init 23 = .ok (.newarray .int, 2) := dk_188_10 (dk_at dksX3_init_1 0 rfl rfl)
theorem dX3_init_25 : decode cX3_init 25 = .ok (.putfield 16, 3) := dk_181 0 16 (dk_at dksX3_init_1 2 rfl rfl)
theorem dX3_init_28 : decode cX3_init 28 = .ok (.aload_n 0, 1) := dk_42 (dk_at dksX3_init_1 5 rfl rfl)
theorem dX3_init_29 : decode cX3_init 29 = .ok (.bipush 6, 2) := dk_16 6 (dk_at dksX3_init_1 6 rfl rfl)
theorem dX3_init_31 : decode cX3_init 31 = .ok (.newarray .int, 2) := dk_188_10 (dk_at dksX3_init_1 8 rfl rfl)
theorem dX3_init_33 : decode cX3_init 33 = .ok (.putfield 19, 3) := dk_181 0 19 (dk_at dksX3_init_1 10 rfl rfl)
theorem dX3_init_36 : decode cX3_init 36 = .ok (.aload_n 0, 1) := dk_42 (dk_at dksX3_init_1 13 rfl rfl)
theorem dX3_init_37 : decode cX3_init 37 = .ok (.bipush 6, 2) := dk_16 6 (dk_at dksX3_init_1 14 rfl rfl)
theorem dX3_init_39 : decode cX3_init 39 = .ok (.newarray .int, 2) := dk_188_10 (dk_at dksX3_init_1 16 rfl rfl)
theorem dX3_init_41 : decode cX3_init 41 = .ok (.putfield 22, 3) := dk_181 0 22 (dk_at dksX3_init_1 18 rfl rfl)
theorem dX3_init_44 : decode cX3_init 44 = .ok (.aload_n 0, 1) := dk_42 (dk_at dksX3_init_1 21 rfl rfl)
theorem dX3_init_45 : decode cX3_init 45 = .ok (.bipush 8, 2) := dk_16 8 (dk_at dksX3_init_1 22 rfl rfl)
theorem dX3_init_47 : decode cX3_init 47 = .ok (.newarray .int, 2) := dk_188_10 (dk_at dksX3_init_2 0 rfl rfl)
theorem dX3_init_49 : decode cX3_init 49 = .ok (.putfield 25, 3) := dk_181 0 25 (dk_at dksX3_init_2 2 rfl rfl)
theorem dX3_init_52 : decode cX3_init 52 = .ok (.aload_n 0, 1) := dk_42 (dk_at dksX3_init_2 5 rfl rfl)
theorem dX3_init_53 : decode cX3_init 53 = .ok (.bipush 8, 2) := dk_16 8 (dk_at dksX3_init_2 6 rfl rfl)
theorem dX3_init_55 : decode cX3_init 55 = .ok (.newarray .int, 2) := dk_188_10 (dk_at dksX3_init_2 8 rfl rfl)
theorem dX3_init_57 : decode cX3_init 57 = .ok (.putfield 28, 3) := dk_181 0 28 (dk_at dksX3_init_2 10 rfl rfl)
theorem dX3_init_60 : decode cX3_init 60 = .ok (.aload_n 0, 1) := dk_42 (dk_at dksX3_init_2 13 rfl rfl)
theorem dX3_init_61 : decode cX3_init 61 = .ok (.bipush 8, 2) := dk_16 8 (dk_at dksX3_init_2 14 rfl rfl)
theorem dX3_init_63 : decode cX3_init 63 = .ok (.newarray .int, 2) := dk_188_10 (dk_at dksX3_init_2 16 rfl rfl)
theorem dX3_init_65 : decode cX3_init 65 = .ok (.putfield 31, 3) := dk_181 0 31 (dk_at dksX3_init_2 18 rfl rfl)
theorem dX3_init_68 : decode cX3_init 68 = .ok (.aload_n 0, 1) := dk_42 (dk_at dksX3_init_2 21 rfl rfl)
theorem dX3_init_69 : decode cX3_init 69 = .ok (.bipush 8, 2) := dk_16 8 (dk_at dksX3_init_2 22 rfl rfl)
theorem dX3_init_71 : decode cX3_init 71 = .ok (.newarray .int, 2) := dk_188_10 (dk_at dksX3_init_3 0 rfl rfl)
theorem dX3_init_73 : decode cX3_init 73 = .ok (.putfield 34, 3) := dk_181 0 34 (dk_at dksX3_init_3 2 rfl rfl)
theorem dX3_init_76 : decode cX3_init 76 = .ok (.aload_n 0, 1) := dk_42 (dk_at dksX3_init_3 5 rfl rfl)
theorem dX3_init_77 : decode cX3_init 77 = .ok (.bipush 22, 2) := dk_16 22 (dk_at dksX3_init_3 6 rfl rfl)
theorem dX3_init_79 : decode cX3_init 79 = .ok (.newarray .int, 2) := dk_188_10 (dk_at dksX3_init_3 8 rfl rfl)
theorem dX3_init_81 : decode cX3_init 81 = .ok (.putfield 37, 3) := dk_181 0 37 (dk_at dksX3_init_3 10 rfl rfl)
theorem dX3_init_84 : decode cX3_init 84 = .ok (.aload_n 0, 1) := dk_42 (dk_at dksX3_init_3 13 rfl rfl)
theorem dX3_init_85 : decode cX3_init 85 = .ok (.sipush 250, 3) := dk_17 0 250 (dk_at dksX3_init_3 14 rfl rfl)
theorem dX3_init_88 : decode cX3_init 88 = .ok (.newarray .int, 2) := dk_188_10 (dk_at dksX3_init_3 17 rfl rfl)
theorem dX3_init_90 : decode cX3_init 90 = .ok (.putfield 40, 3) := dk_181 0 40 (dk_at dksX3_init_3 19 rfl rfl)
theorem dX3_init_93 : decode cX3_init 93 = .ok (.aload_n 0, 1) := dk_42 (dk_at dksX3_init_3 22 rfl rfl)
theorem dX3_init_94 : decode cX3_init 94 = .ok (.iconst (-1), 1) := dk_2 (dk_at dksX3_init_3 23 rfl rfl)
theorem dX3_init_95 : decode cX3_init 95 = .ok (.putfield 43, 3) := dk_181 0 43 (dk_at dksX3_init_4 0 rfl rfl)
theorem dX3_init_98 : decode cX3_init 98 = .ok (.aload_n 0, 1) := dk_42 (dk_at dksX3_init_4 3 rfl rfl)
theorem dX3_init_99 : decode cX3_init 99 = .ok (.bipush 6, 2) := dk_16 6 (dk_at dksX3_init_4 4 rfl rfl)
theorem dX3_init_101 : decode cX3_init 101 = .ok (.newarray .int, 2) := dk_188_10 (dk_at dksX3_init_4 6 rfl rfl)
theorem dX3_init_103 : decode cX3_init 103 = .ok (.putfield 47, 3) := dk_181 0 47 (dk_at dksX3_init_4 8 rfl rfl)
theorem dX3_init_106 : decode cX3_init 106 = .ok (.aload_n 0, 1) := dk_42 (dk_at dksX3_init_4 11 rfl rfl)
theorem dX3_init_107 : decode cX3_init 107 = .ok (.bipush 24, 2) := dk_16 24 (dk_at dksX3_init_4 12 rfl rfl)
theorem dX3_init_109 : decode cX3_init 109 = .ok (.newarray .int, 2) := dk_188_10 (dk_at dksX3_init_4 14 rfl rfl)
theorem dX3_init_111 : decode cX3_init 111 = .ok (.putfield 50, 3) := dk_181 0 50 (dk_at dksX3_init_4 16 rfl rfl)
theorem dX3_init_114 : decode cX3_init 114 = .ok (.aload_n 0, 1) := dk_42 (dk_at dksX3_init_4 19 rfl rfl)
theorem dX3_init_115 : decode cX3_init 115 = .ok (.bipush 6, 2) := dk_16 6 (dk_at dksX3_init_4 20 rfl rfl)
theorem dX3_init_117 : decode cX3_init 117 = .ok (.newarray .int, 2) := dk_188_10 (dk_at dksX3_init_4 22 rfl rfl)
theorem dX3_init_119 : decode cX3_init 119 = .ok (.putfield 53, 3) := dk_181 0 53 (dk_at dksX3_init_5 0 rfl rfl)
theorem dX3_init_122 : decode cX3_init 122 = .ok (.aload_n 0, 1) := dk_42 (dk_at dksX3_init_5 3 rfl rfl)
theorem dX3_init_123 : decode cX3_init 123 = .ok (.bipush 6, 2) := dk_16 6 (dk_at dksX3_init_5 4 rfl rfl)
theorem dX3_init_125 : decode cX3_init 125 = .ok (.newarray .int, 2) := dk_188_10 (dk_at dksX3_init_5 6 rfl rfl)
theorem dX3_init_127 : decode cX3_init 127 = .ok (.putfield 56, 3) := dk_181 0 56 (dk_at dksX3_init_5 8 rfl rfl)
theorem dX3_init_130 : decode cX3_init 130 = .ok (.aload_n 0, 1) := dk_42 (dk_at dksX3_init_5 11 rfl rfl)
theorem dX3_init_131 : decode cX3_init 131 = .ok (.bipush 6, 2) := dk_16 6 (dk_at dksX3_init_5 12 rfl rfl)
theorem dX3_init_133 : decode cX3_init 133 = .ok (.newarray .int, 2) := dk_188_10 (dk_at dksX3_init_5 14 rfl rfl)
theorem dX3_init_135 : decode cX3_init 135 = .ok (.putfield 59, 3) := dk_181 0 59 (dk_at dksX3_init_5 16 rfl rfl)
theorem dX3_init_138 : decode cX3_init 138 = .ok (.aload_n 0, 1) := dk_42 (dk_at dksX3_init_5 19 rfl rfl)
theorem dX3_init_139 : decode cX3_init 139 = .ok (.bipush 6, 2) := dk_16 6 (dk_at dksX3_init_5 20 rfl rfl)
theorem dX3_init_141 : decode cX3_init 141 = .ok (.newarray .int, 2) := dk_188_10 (dk_at dksX3_init_5 22 rfl rfl)
theorem dX3_init_143 : decode cX3_init 143 = .ok (.putfield 62, 3) := dk_181 0 62 (dk_at dksX3_init_6 0 rfl rfl)
theorem dX3_init_146 : decode cX3_init 146 = .ok (.aload_n 0, 1) := dk_42 (dk_at dksX3_init_6 3 rfl rfl)
theorem dX3_init_147 : decode cX3_init 147 = .ok (.bipush 8, 2) := dk_16 8 (dk_at dksX3_init_6 4 rfl rfl)
theorem dX3_init_149 : decode cX3_init 149 = .ok (.newarray .int, 2) := dk_188_10 (dk_at dksX3_init_6 6 rfl rfl)
theorem dX3_init_151 : decode cX3_init 151 = .ok (.putfield 65, 3) := dk_181 0 65 (dk_at dksX3_init_6 8 rfl rfl)
theorem dX3_init_154 : decode cX3_init 154 = .ok (.aload_n 0, 1) := dk_42 (dk_at dksX3_init_6 11 rfl rfl)
theorem dX3_init_155 : decode cX3_init 155 = .ok (.bipush 8, 2) := dk_16 8 (dk_at dksX3_init_6 12 rfl rfl)
theorem dX3_init_157 : decode cX3_init 157 = .ok (.newarray .int, 2) := dk_188_10 (dk_at dksX3_init_6 14 rfl rfl)
theorem dX3_init_159 : decode cX3_init 159 = .ok (.putfield 68, 3) := dk_181 0 68 (dk_at dksX3_init_6 16 rfl rfl)
theorem dX3_init_162 : decode cX3_init 162 = .ok (.aload_n 0, 1) := dk_42 (dk_at dksX3_init_6 19 rfl rfl)
theorem dX3_init_163 : decode cX3_init 163 = .ok (.bipush 8, 2) := dk_16 8 (dk_at dksX3_init_6 20 rfl rfl)
theorem dX3_init_165 : decode cX3_init 165 = .ok (.newarray .int, 2) := dk_188_10 (dk_at dksX3_init_6 22 rfl rfl)
theorem dX3_init_167 : decode cX3_init 167 = .ok (.putfield 71, 3) := dk_181 0 71 (dk_at dksX3_init_7 0 rfl rfl)
theorem dX3_init_170 : decode cX3_init 170 = .ok (.aload_n 0, 1) := dk_42 (dk_at dksX3_init_7 3 rfl rfl)
theorem dX3_init_171 : decode cX3_init 171 = .ok (.bipush 8, 2) := dk_16 8 (dk_at dksX3_init_7 4 rfl rfl)
theorem dX3_init_173 : decode cX3_init 173 = .ok (.newarray .int, 2) := dk_188_10 (dk_at dksX3_init_7 6 rfl rfl)
theorem dX3_init_175 : decode cX3_init 175 = .ok (.putfield 74, 3) := dk_181 0 74 (dk_at dksX3_init_7 8 rfl rfl)
theorem dX3_init_178 : decode cX3_init 178 = .ok (.aload_n 0, 1) := dk_42 (dk_at dksX3_init_7 11 rfl rfl)
theorem dX3_init_179 : decode cX3_init 179 = .ok (.sipush 440, 3) := dk_17 1 184 (dk_at dksX3_init_7 12 rfl rfl)
theorem dX3_init_182 : decode cX3_init 182 = .ok (.newarray .int, 2) := dk_188_10 (dk_at dksX3_init_7 15 rfl rfl)
theorem dX3_init_184 : decode cX3_init 184 = .ok (.putfield 77, 3) := dk_181 0 77 (dk_at dksX3_init_7 17 rfl rfl)
theorem dX3_init_187 : decode cX3_init 187 = .ok (.aload_n 0, 1) := dk_42 (dk_at dksX3_init_7 20 rfl rfl)
theorem dX3_init_188 : decode cX3_init 188 = .ok (.bipush 8, 2) := dk_16 8 (dk_at dksX3_init_7 21 rfl rfl)
theorem dX3_init_190 : decode cX3_init 190 = .ok (.newarray .int, 2) := dk_188_10 (dk_at dksX3_init_8 0 rfl rfl)
theorem dX3_init_192 : decode cX3_init 192 = .ok (.putfield 80, 3) := dk_181 0 80 (dk_at dksX3_init_8 2 rfl rfl)
theorem dX3_init_195 : decode cX3_init 195 = .ok (.aload_n 0, 1) := dk_42 (dk_at dksX3_init_8 5 rfl rfl)
theorem dX3_init_196 : decode cX3_init 196 = .ok (.bipush 8, 2) := dk_16 8 (dk_at dksX3_init_8 6 rfl rfl)
theorem dX3_init_198 : decode cX3_init 198 = .ok (.newarray .int, 2) := dk_188_10 (dk_at dksX3_init_8 8 rfl rfl)
theorem dX3_init_200 : decode cX3_init 200 = .ok (.putfield 83, 3) := dk_181 0 83 (dk_at dksX3_init_8 10 rfl rfl)
theorem dX3_init_203 : decode cX3_init 203 = .ok (.aload_n 0, 1) := dk_42 (dk_at dksX3_init_8 13 rfl rfl)
theorem dX3_init_204 : decode cX3_init 204 = .ok (.bipush 15, 2) := dk_16 15 (dk_at dksX3_init_8 14 rfl rfl)
theorem dX3_init_206 : decode cX3_init 206 = .ok (.newarray .int, 2) := dk_188_10 (dk_at dksX3_init_8 16 rfl rfl)
theorem dX3_init_208 : decode cX3_init 208 = .ok (.putfield 86, 3) := dk_181 0 86 (dk_at dksX3_init_8 18 rfl rfl)
theorem dX3_init_211 : decode cX3_init 211 = .ok (.aload_n 0, 1) := dk_42 (dk_at dksX3_init_8 21 rfl rfl)
theorem dX3_init_212 : decode cX3_init 212 = .ok (.bipush 15, 2) := dk_16 15 (dk_at dksX3_init_8 22 rfl rfl)
theorem dX3_init_214 : decode cX3_init 214 = .ok (.newarray .int, 2) := dk_188_10 (dk_at dksX3_init_9 0 rfl rfl)
theorem dX3_init_216 : decode cX3_init 216 = .ok (.putfield 89, 3) := dk_181 0 89 (dk_at dksX3_init_9 2 rfl rfl)
theorem dX3_init_219 : decode cX3_init 219 = .ok (.aload_n 0, 1) := dk_42 (dk_at dksX3_init_9 5 rfl rfl)
theorem dX3_init_220 : decode cX3_init 220 = .ok (.bipush 46, 2) := dk_16 46 (dk_at dksX3_init_9 6 rfl rfl)
theorem dX3_init_222 : decode cX3_init 222 = .ok (.newarray .int, 2) := dk_188_10 (dk_at dksX3_init_9 8 rfl rfl)
theorem dX3_init_224 : decode cX3_init 224 = .ok (.putfield 92, 3) := dk_181 0 92 (dk_at dksX3_init_9 10 rfl rfl)
theorem dX3_init_227 : decode cX3_init 227 = .ok (.aload_n 0, 1) := dk_42 (dk_at dksX3_init_9 13 rfl rfl)
theorem dX3_init_228 : decode cX3_init 228 = .ok (.iconst 2, 1) := dk_5 (dk_at dksX3_init_9 14 rfl rfl)
theorem dX3_init_229 : decode cX3_init 229 = .ok (.newarray .boolean, 2) := dk_188_4 (dk_at dksX3_init_9 15 rfl rfl)
theorem dX3_init_231 : decode cX3_init 231 = .ok (.putfield 95, 3) := dk_181 0 95 (dk_at dksX3_init_9 17 rfl rfl)
theorem dX3_init_234 : decode cX3_init 234 = .ok (.aload_n 0, 1) := dk_42 (dk_at dksX3_init_9 20 rfl rfl)
theorem dX3_init_235 : decode cX3_init 235 = .ok (.iconst 0, 1) := dk_3 (dk_at dksX3_init_9 21 rfl rfl)
theorem dX3_init_236 : decode cX3_init 236 = .ok (.putfield 99, 3) := dk_181 0 99 (dk_at dksX3_init_10 0 rfl rfl)
theorem dX3_init_239 : decode cX3_init 239 = .ok (.return_, 1) := dk_177 (dk_at dksX3_init_10 3 rfl rfl)
abbrev cX3_feed : ByteArray := prog_9_method_9_code
def yX3_feed : MethodName := ⟨RX3, "feed", "(I)I"⟩
def dkwX3_feed_2 : List UInt8 := [181, 0, 113, 42, 180, 0, 113, 172]
abbrev dktX3_feed_2 : List UInt8 := dkwX3_feed_2 ++ []
def dkwX3_feed_1 : List UInt8 := [160, 0, 6, 18, 116, 172, 42, 180, 0, 40, 42, 180, 0, 113, 27, 79, 42, 89, 180, 0, 113, 4, 96]
abbrev dktX3_feed_1 : List UInt8 := dkwX3_feed_1 ++ dktX3_feed_2
def dkwX3_feed_0 : List UInt8 := [27, 133, 9, 20, 0, 110, 184, 0, 102, 154, 0, 6, 18, 112, 172, 42, 180, 0, 113, 17, 0, 250]
abbrev dktX3_feed_0 : List UInt8 := dkwX3_feed_0 ++ dktX3_feed_1
theorem dksX3_feed_0 : cX3_feed.data.toList.drop 0 = dktX3_feed_0 := by decide +kernel
theorem dksX3_feed_1 : cX3_feed.data.toList.drop 22 = dktX3_feed_1 := dk_seg dksX3_feed_0 22 rfl rfl
theorem dksX3_feed_2 : cX3_feed.data.toList.drop 45 = dktX3_feed_2 := dk_seg dksX3_feed_1 23 rfl rfl
theorem dX3_feed_0 : decode cX3_feed 0 = .ok (.iload_n 1, 1) := dk_27 (dk_at dksX3_feed_0 0 rfl rfl)
theorem dX3_feed_1 : decode cX3_feed 1 = .ok (.i2l, 1) := dk_133 (dk_at dksX3_feed_0 1 rfl rfl)
theorem dX3_feed_2 : decode cX3_feed 2 = .ok (.lconst 0, 1) := dk_9 (dk_at dksX3_feed_0 2 rfl rfl)
theorem dX3_feed_3 : decode cX3_feed 3 = .ok (.ldc2_w 110, 3) := dk_20 0 110 (dk_at dksX3_feed_0 3 rfl rfl)
theorem dX3_feed_6 : decode cX3_feed 6 = .ok (.invokestatic 102, 3) := dk_184 0 102 (dk_at dksX3_feed_0 6 rfl rfl)
theorem dX3_feed_9 : decode cX3_feed 9 = .ok (.ifCond .ne 6, 3) := dk_154 0 6 (dk_at dksX3_feed_0 9 rfl rfl)
theorem dX3_feed_12 : decode cX3_feed 12 = .ok (.ldc 112, 2) := dk_18 112 (dk_at dksX3_feed_0 12 rfl rfl)
theorem dX3_feed_14 : decode cX3_feed 14 = .ok (.ireturn, 1) := dk_172 (dk_at dksX3_feed_0 14 rfl rfl)
theorem dX3_feed_15 : decode cX3_feed 15 = .ok (.aload_n 0, 1) := dk_42 (dk_at dksX3_feed_0 15 rfl rfl)
theorem dX3_feed_16 : decode cX3_feed 16 = .ok (.getfield 113, 3) := dk_180 0 113 (dk_at dksX3_feed_0 16 rfl rfl)
theorem dX3_feed_19 : decode cX3_feed 19 = .ok (.sipush 250, 3) := dk_17 0 250 (dk_at dksX3_feed_0 19 rfl rfl)
theorem dX3_feed_22 : decode cX3_feed 22 = .ok (.if_icmp .ne 6, 3) := dk_160 0 6 (dk_at dksX3_feed_1 0 rfl rfl)
theorem dX3_feed_25 : decode cX3_feed 25 = .ok (.ldc 116, 2) := dk_18 116 (dk_at dksX3_feed_1 3 rfl rfl)
theorem dX3_feed_27 : decode cX3_feed 27 = .ok (.ireturn, 1) := dk_172 (dk_at dksX3_feed_1 5 rfl rfl)
theorem dX3_feed_28 : decode cX3_feed 28 = .ok (.aload_n 0, 1) := dk_42 (dk_at dksX3_feed_1 6 rfl rfl)
theorem dX3_feed_29 : decode cX3_feed 29 = .ok (.getfield 40, 3) := dk_180 0 40 (dk_at dksX3_feed_1 7 rfl rfl)
theorem dX3_feed_32 : decode cX3_feed 32 = .ok (.aload_n 0, 1) := dk_42 (dk_at dksX3_feed_1 10 rfl rfl)
theorem dX3_feed_33 : decode cX3_feed 33 = .ok (.getfield 113, 3) := dk_180 0 113 (dk_at dksX3_feed_1 11 rfl rfl)
theorem dX3_feed_36 : decode cX3_feed 36 = .ok (.iload_n 1, 1) := dk_27 (dk_at dksX3_feed_1 14 rfl rfl)
theorem dX3_feed_37 : decode cX3_feed 37 = .ok (.iastore, 1) := dk_79 (dk_at dksX3_feed_1 15 rfl rfl)
theorem dX3_feed_38 : decode cX3_feed 38 = .ok (.aload_n 0, 1) := dk_42 (dk_at dksX3_feed_1 16 rfl rfl)
theorem dX3_feed_39 : decode cX3_feed 39 = .ok (.dup, 1) := dk_89 (dk_at dksX3_feed_1 17 rfl rfl)
theorem dX3_feed_40 : decode cX3_feed 40 = .ok (.getfield 113, 3) := dk_180 0 113 (dk_at dksX3_feed_1 18 rfl rfl)
theorem dX3_feed_43 : decode cX3_feed 43 = .ok (.iconst 1, 1) := dk_4 (dk_at dksX3_feed_1 21 rfl rfl)
theorem dX3_feed_44 : decode cX3_feed 44 = .ok (.iadd, 1) := dk_96 (dk_at dksX3_feed_1 22 rfl rfl)
theorem dX3_feed_45 : decode cX3_feed 45 = .ok (.putfield 113, 3) := dk_181 0 113 (dk_at dksX3_feed_2 0 rfl rfl)
theorem dX3_feed_48 : decode cX3_feed 48 = .ok (.aload_n 0, 1) := dk_42 (dk_at dksX3_feed_2 3 rfl rfl)
theorem dX3_feed_49 : decode cX3_feed 49 = .ok (.getfield 113, 3) := dk_180 0 113 (dk_at dksX3_feed_2 4 rfl rfl)
theorem dX3_feed_52 : decode cX3_feed 52 = .ok (.ireturn, 1) := dk_172 (dk_at dksX3_feed_2 7 rfl rfl)
abbrev cX3_in : ByteArray := prog_9_method_3_code
def yX3_in : MethodName := ⟨RX3, "in", "(JJJ)Z"⟩
def dkwX3_in_0 : List UInt8 := [30, 32, 148, 155, 0, 14, 30, 22, 4, 148, 157, 0, 7, 4, 167, 0, 4, 3, 172]
abbrev dktX3_in_0 : List UInt8 := dkwX3_in_0 ++ []
theorem dksX3_in_0 : cX3_in.data.toList.drop 0 = dktX3_in_0 := by decide +kernel
theorem dX3_in_0 : decode cX3_in 0 = .ok (.lload_n 0, 1) := dk_30 (dk_at dksX3_in_0 0 rfl rfl)
theorem dX3_in_1 : decode cX3_in 1 = .ok (.lload_n 2, 1) := dk_32 (dk_at dksX3_in_0 1 rfl rfl)
theorem dX3_in_2 : decode cX3_in 2 = .ok (.lcmp, 1) := dk_148 (dk_at dksX3_in_0 2 rfl rfl)
theorem dX3_in_3 : decode cX3_in 3 = .ok (.ifCond .lt 14, 3) := dk_155 0 14 (dk_at dksX3_in_0 3 rfl rfl)
theorem dX3_in_6 : decode cX3_in 6 = .ok (.lload_n 0, 1) := dk_30 (dk_at dksX3_in_0 6 rfl rfl)
theorem dX3_in_7 : decode cX3_in 7 = .ok (.lload 4, 2) := dk_22 4 (dk_at dksX3_in_0 7 rfl rfl)
theorem dX3_in_9 : decode cX3_in 9 = .ok (.lcmp, 1) := dk_148 (dk_at dksX3_in_0 9 rfl rfl)
theorem dX3_in_10 : decode cX3_in 10 = .ok (.ifCond .gt 7, 3) := dk_157 0 7 (dk_at dksX3_in_0 10 rfl rfl)
theorem dX3_in_13 : decode cX3_in 13 = .ok (.iconst 1, 1) := dk_4 (dk_at dksX3_in_0 13 rfl rfl)
theorem dX3_in_14 : decode cX3_in 14 = .ok (.goto 4, 3) := dk_167 0 4 (dk_at dksX3_in_0 14 rfl rfl)
theorem dX3_in_17 : decode cX3_in 17 = .ok (.iconst 0, 1) := dk_3 (dk_at dksX3_in_0 17 rfl rfl)
theorem dX3_in_18 : decode cX3_in 18 = .ok (.ireturn, 1) := dk_172 (dk_at dksX3_in_0 18 rfl rfl)
abbrev cX3_port : ByteArray := prog_9_method_20_code
def yX3_port : MethodName := ⟨RX3, "port", "()I"⟩
def dkwX3_port_4 : List UInt8 := [180, 0, 99, 172]
abbrev dktX3_port_4 : List UInt8 := dkwX3_port_4 ++ []
def dkwX3_port_3 : List UInt8 := [3, 181, 0, 181, 42, 3, 181, 0, 184, 42, 180, 0, 95, 3, 3, 84, 42, 180, 0, 95, 4, 3, 84, 42]
abbrev dktX3_port_3 : List UInt8 := dkwX3_port_3 ++ dktX3_port_4
def dkwX3_port_2 : List UInt8 := [42, 3, 181, 0, 113, 27, 158, 0, 8, 16, 246, 27, 100, 172, 42, 182, 0, 175, 42, 3, 181, 0, 178, 42]
abbrev dktX3_port_2 : List UInt8 := dkwX3_port_2 ++ dktX3_port_3
def dkwX3_port_1 : List UInt8 := [181, 0, 151, 3, 60, 27, 154, 0, 18, 42, 182, 0, 120, 155, 0, 11, 42, 182, 0, 172, 60, 167, 255, 240]
abbrev dktX3_port_1 : List UInt8 := dkwX3_port_1 ++ dktX3_port_2
def dkwX3_port_0 : List UInt8 := [42, 2, 181, 0, 43, 42, 3, 181, 0, 117, 42, 3, 181, 0, 141, 42, 3, 181, 0, 148, 42, 3]
abbrev dktX3_port_0 : List UInt8 := dkwX3_port_0 ++ dktX3_port_1
theorem dksX3_port_0 : cX3_port.data.toList.drop 0 = dktX3_port_0 := by decide +kernel
theorem dksX3_port_1 : cX3_port.data.toList.drop 22 = dktX3_port_1 := dk_seg dksX3_port_0 22 rfl rfl
theorem dksX3_port_2 : cX3_port.data.toList.drop 46 = dktX3_port_2 := dk_seg dksX3_port_1 24 rfl rfl
theorem dksX3_port_3 : cX3_port.data.toList.drop 70 = dktX3_port_3 := dk_seg dksX3_port_2 24 rfl rfl
theorem dksX3_port_4 : cX3_port.data.toList.drop 94 = dktX3_port_4 := dk_seg dksX3_port_3 24 rfl rfl
theorem dX3_port_0 : decode cX3_port 0 = .ok (.aload_n 0, 1) := dk_42 (dk_at dksX3_port_0 0 rfl rfl)
theorem dX3_port_1 : decode cX3_port 1 = .ok (.iconst (-1), 1) := dk_2 (dk_at dksX3_port_0 1 rfl rfl)
theorem dX3_port_2 : decode cX3_port 2 = .ok (.putfield 43, 3) := dk_181 0 43 (dk_at dksX3_port_0 2 rfl rfl)
theorem dX3_port_5 : decode cX3_port 5 = .ok (.aload_n 0, 1) := dk_42 (dk_at dksX3_port_0 5 rfl rfl)
theorem dX3_port_6 : decode cX3_port 6 = .ok (.iconst 0, 1) := dk_3 (dk_at dksX3_port_0 6 rfl rfl)
theorem dX3_port_7 : decode cX3_port 7 = .ok (.putfield 117, 3) := dk_181 0 117 (dk_at dksX3_port_0 7 rfl rfl)
theorem dX3_port_10 : decode cX3_port 10 = .ok (.aload_n 0, 1) := dk_42 (dk_at dksX3_port_0 10 rfl rfl)
theorem dX3_port_11 : decode cX3_port 11 = .ok (.iconst 0, 1) := dk_3 (dk_at dksX3_port_0 11 rfl rfl)
theorem dX3_port_12 : decode cX3_port 12 = .ok (.putfield 141, 3) := dk_181 0 141 (dk_at dksX3_port_0 12 rfl rfl)
theorem dX3_port_15 : decode cX3_port 15 = .ok (.aload_n 0, 1) := dk_42 (dk_at dksX3_port_0 15 rfl rfl)
theorem dX3_port_16 : decode cX3_port 16 = .ok (.iconst 0, 1) := dk_3 (dk_at dksX3_port_0 16 rfl rfl)
theorem dX3_port_17 : decode cX3_port 17 = .ok (.putfield 148, 3) := dk_181 0 148 (dk_at dksX3_port_0 17 rfl rfl)
theorem dX3_port_20 : decode cX3_port 20 = .ok (.aload_n 0, 1) := dk_42 (dk_at dksX3_port_0 20 rfl rfl)
theorem dX3_port_21 : decode cX3_port 21 = .ok (.iconst 0, 1) := dk_3 (dk_at dksX3_port_0 21 rfl rfl)
theorem dX3_port_22 : decode cX3_port 22 = .ok (.putfield 151, 3) := dk_181 0 151 (dk_at dksX3_port_1 0 rfl rfl)
theorem dX3_port_25 : decode cX3_port 25 = .ok (.iconst 0, 1) := dk_3 (dk_at dksX3_port_1 3 rfl rfl)
theorem dX3_port_26 : decode cX3_port 26 = .ok (.istore_n 1, 1) := dk_60 (dk_at dksX3_port_1 4 rfl rfl)
theorem dX3_port_27 : decode cX3_port 27 = .ok (.iload_n 1, 1) := dk_27 (dk_at dksX3_port_1 5 rfl rfl)
theorem dX3_port_28 : decode cX3_port 28 = .ok (.ifCond .ne 18, 3) := dk_154 0 18 (dk_at dksX3_port_1 6 rfl rfl)
theorem dX3_port_31 : decode cX3_port 31 = .ok (.aload_n 0, 1) := dk_42 (dk_at dksX3_port_1 9 rfl rfl)
theorem dX3_port_32 : decode cX3_port 32 = .ok (.invokevirtual 120, 3) := dk_182 0 120 (dk_at dksX3_port_1 10 rfl rfl)
theorem dX3_port_35 : decode cX3_port 35 = .ok (.ifCond .lt 11, 3) := dk_155 0 11 (dk_at dksX3_port_1 13 rfl rfl)
theorem dX3_port_38 : decode cX3_port 38 = .ok (.aload_n 0, 1) := dk_42 (dk_at dksX3_port_1 16 rfl rfl)
theorem dX3_port_39 : decode cX3_port 39 = .ok (.invokevirtual 172, 3) := dk_182 0 172 (dk_at dksX3_port_1 17 rfl rfl)
theorem dX3_port_42 : decode cX3_port 42 = .ok (.istore_n 1, 1) := dk_60 (dk_at dksX3_port_1 20 rfl rfl)
theorem dX3_port_43 : decode cX3_port 43 = .ok (.goto (-16), 3) := dk_167 255 240 (dk_at dksX3_port_1 21 rfl rfl)
theorem dX3_port_46 : decode cX3_port 46 = .ok (.aload_n 0, 1) := dk_42 (dk_at dksX3_port_2 0 rfl rfl)
theorem dX3_port_47 : decode cX3_port 47 = .ok (.iconst 0, 1) := dk_3 (dk_at dksX3_port_2 1 rfl rfl)
theorem dX3_port_48 : decode cX3_port 48 = .ok (.putfield 113, 3) := dk_181 0 113 (dk_at dksX3_port_2 2 rfl rfl)
theorem dX3_port_51 : decode cX3_port 51 = .ok (.iload_n 1, 1) := dk_27 (dk_at dksX3_port_2 5 rfl rfl)
theorem dX3_port_52 : decode cX3_port 52 = .ok (.ifCond .le 8, 3) := dk_158 0 8 (dk_at dksX3_port_2 6 rfl rfl)
theorem dX3_port_55 : decode cX3_port 55 = .ok (.bipush (-10), 2) := dk_16 246 (dk_at dksX3_port_2 9 rfl rfl)
theorem dX3_port_57 : decode cX3_port 57 = .ok (.iload_n 1, 1) := dk_27 (dk_at dksX3_port_2 11 rfl rfl)
theorem dX3_port_58 : decode cX3_port 58 = .ok (.isub, 1) := dk_100 (dk_at dksX3_port_2 12 rfl rfl)
theorem dX3_port_59 : decode cX3_port 59 = .ok (.ireturn, 1) := dk_172 (dk_at dksX3_port_2 13 rfl rfl)
theorem dX3_port_60 : decode cX3_port 60 = .ok (.aload_n 0, 1) := dk_42 (dk_at dksX3_port_2 14 rfl rfl)
theorem dX3_port_61 : decode cX3_port 61 = .ok (.invokevirtual 175, 3) := dk_182 0 175 (dk_at dksX3_port_2 15 rfl rfl)
theorem dX3_port_64 : decode cX3_port 64 = .ok (.aload_n 0, 1) := dk_42 (dk_at dksX3_port_2 18 rfl rfl)
theorem dX3_port_65 : decode cX3_port 65 = .ok (.iconst 0, 1) := dk_3 (dk_at dksX3_port_2 19 rfl rfl)
theorem dX3_port_66 : decode cX3_port 66 = .ok (.putfield 178, 3) := dk_181 0 178 (dk_at dksX3_port_2 20 rfl rfl)
theorem dX3_port_69 : decode cX3_port 69 = .ok (.aload_n 0, 1) := dk_42 (dk_at dksX3_port_2 23 rfl rfl)
theorem dX3_port_70 : decode cX3_port 70 = .ok (.iconst 0, 1) := dk_3 (dk_at dksX3_port_3 0 rfl rfl)
theorem dX3_port_71 : decode cX3_port 71 = .ok (.putfield 181, 3) := dk_181 0 181 (dk_at dksX3_port_3 1 rfl rfl)
theorem dX3_port_74 : decode cX3_port 74 = .ok (.aload_n 0, 1) := dk_42 (dk_at dksX3_port_3 4 rfl rfl)
theorem dX3_port_75 : decode cX3_port 75 = .ok (.iconst 0, 1) := dk_3 (dk_at dksX3_port_3 5 rfl rfl)
theorem dX3_port_76 : decode cX3_port 76 = .ok (.putfield 184, 3) := dk_181 0 184 (dk_at dksX3_port_3 6 rfl rfl)
theorem dX3_port_79 : decode cX3_port 79 = .ok (.aload_n 0, 1) := dk_42 (dk_at dksX3_port_3 9 rfl rfl)
theorem dX3_port_80 : decode cX3_port 80 = .ok (.getfield 95, 3) := dk_180 0 95 (dk_at dksX3_port_3 10 rfl rfl)
theorem dX3_port_83 : decode cX3_port 83 = .ok (.iconst 0, 1) := dk_3 (dk_at dksX3_port_3 13 rfl rfl)
theorem dX3_port_84 : decode cX3_port 84 = .ok (.iconst 0, 1) := dk_3 (dk_at dksX3_port_3 14 rfl rfl)
theorem dX3_port_85 : decode cX3_port 85 = .ok (.bastore, 1) := dk_84 (dk_at dksX3_port_3 15 rfl rfl)
theorem dX3_port_86 : decode cX3_port 86 = .ok (.aload_n 0, 1) := dk_42 (dk_at dksX3_port_3 16 rfl rfl)
theorem dX3_port_87 : decode cX3_port 87 = .ok (.getfield 95, 3) := dk_180 0 95 (dk_at dksX3_port_3 17 rfl rfl)
theorem dX3_port_90 : decode cX3_port 90 = .ok (.iconst 1, 1) := dk_4 (dk_at dksX3_port_3 20 rfl rfl)
theorem dX3_port_91 : decode cX3_port 91 = .ok (.iconst 0, 1) := dk_3 (dk_at dksX3_port_3 21 rfl rfl)
theorem dX3_port_92 : decode cX3_port 92 = .ok (.bastore, 1) := dk_84 (dk_at dksX3_port_3 22 rfl rfl)
theorem dX3_port_93 : decode cX3_port 93 = .ok (.aload_n 0, 1) := dk_42 (dk_at dksX3_port_3 23 rfl rfl)
theorem dX3_port_94 : decode cX3_port 94 = .ok (.getfield 99, 3) := dk_180 0 99 (dk_at dksX3_port_4 0 rfl rfl)
theorem dX3_port_97 : decode cX3_port 97 = .ok (.ireturn, 1) := dk_172 (dk_at dksX3_port_4 3 rfl rfl)
abbrev cX3_here : ByteArray := prog_9_method_10_code
def yX3_here : MethodName := ⟨RX3, "here", "()I"⟩
def dkwX3_here_2 : List UInt8 := [162, 0, 15, 42, 180, 0, 40, 42, 180, 0, 117, 46, 167, 0, 4, 2, 172]
abbrev dktX3_here_2 : List UInt8 := dkwX3_here_2 ++ []
def dkwX3_here_1 : List UInt8 := [160, 0, 16, 42, 89, 180, 0, 117, 4, 96, 181, 0, 117, 167, 255, 221, 42, 180, 0, 117, 42, 180, 0, 113]
abbrev dktX3_here_1 : List UInt8 := dkwX3_here_1 ++ dktX3_here_2
def dkwX3_here_0 : List UInt8 := [42, 180, 0, 117, 42, 180, 0, 113, 162, 0, 30, 42, 180, 0, 40, 42, 180, 0, 117, 46, 16, 32]
abbrev dktX3_here_0 : List UInt8 := dkwX3_here_0 ++ dktX3_here_1
theorem dksX3_here_0 : cX3_here.data.toList.drop 0 = dktX3_here_0 := by decide +kernel
theorem dksX3_here_1 : cX3_here.data.toList.drop 22 = dktX3_here_1 := dk_seg dksX3_here_0 22 rfl rfl
theorem dksX3_here_2 : cX3_here.data.toList.drop 46 = dktX3_here_2 := dk_seg dksX3_here_1 24 rfl rfl
theorem dX3_here_0 : decode cX3_here 0 = .ok (.aload_n 0, 1) := dk_42 (dk_at dksX3_here_0 0 rfl rfl)
theorem dX3_here_1 : decode cX3_here 1 = .ok (.getfield 117, 3) := dk_180 0 117 (dk_at dksX3_here_0 1 rfl rfl)
theorem dX3_here_4 : decode cX3_here 4 = .ok (.aload_n 0, 1) := dk_42 (dk_at dksX3_here_0 4 rfl rfl)
theorem dX3_here_5 : decode cX3_here 5 = .ok (.getfield 113, 3) := dk_180 0 113 (dk_at dksX3_here_0 5 rfl rfl)
theorem dX3_here_8 : decode cX3_here 8 = .ok (.if_icmp .ge 30, 3) := dk_162 0 30 (dk_at dksX3_here_0 8 rfl rfl)
theorem dX3_here_11 : decode cX3_here 11 = .ok (.aload_n 0, 1) := dk_42 (dk_at dksX3_here_0 11 rfl rfl)
theorem dX3_here_12 : decode cX3_here 12 = .ok (.getfield 40, 3) := dk_180 0 40 (dk_at dksX3_here_0 12 rfl rfl)
theorem dX3_here_15 : decode cX3_here 15 = .ok (.aload_n 0, 1) := dk_42 (dk_at dksX3_here_0 15 rfl rfl)
theorem dX3_here_16 : decode cX3_here 16 = .ok (.getfield 117, 3) := dk_180 0 117 (dk_at dksX3_here_0 16 rfl rfl)
theorem dX3_here_19 : decode cX3_here 19 = .ok (.iaload, 1) := dk_46 (dk_at dksX3_here_0 19 rfl rfl)
theorem dX3_here_20 : decode cX3_here 20 = .ok (.bipush 32, 2) := dk_16 32 (dk_at dksX3_here_0 20 rfl rfl)
theorem dX3_here_22 : decode cX3_here 22 = .ok (.if_icmp .ne 16, 3) := dk_160 0 16 (dk_at dksX3_here_1 0 rfl rfl)
theorem dX3_here_25 : decode cX3_here 25 = .ok (.aload_n 0, 1) := dk_42 (dk_at dksX3_here_1 3 rfl rfl)
theorem dX3_here_26 : decode cX3_here 26 = .ok (.dup, 1) := dk_89 (dk_at dksX3_here_1 4 rfl rfl)
theorem dX3_here_27 : decode cX3_here 27 = .ok (.getfield 117, 3) := dk_180 0 117 (dk_at dksX3_here_1 5 rfl rfl)
theorem dX3_here_30 : decode cX3_here 30 = .ok (.iconst 1, 1) := dk_4 (dk_at dksX3_here_1 8 rfl rfl)
theorem dX3_here_31 : decode cX3_here 31 = .ok (.iadd, 1) := dk_96 (dk_at dksX3_here_1 9 rfl rfl)
theorem dX3_here_32 : decode cX3_here 32 = .ok (.putfield 117, 3) := dk_181 0 117 (dk_at dksX3_here_1 10 rfl rfl)
theorem dX3_here_35 : decode cX3_here 35 = .ok (.goto (-35), 3) := dk_167 255 221 (dk_at dksX3_here_1 13 rfl rfl)
theorem dX3_here_38 : decode cX3_here 38 = .ok (.aload_n 0, 1) := dk_42 (dk_at dksX3_here_1 16 rfl rfl)
theorem dX3_here_39 : decode cX3_here 39 = .ok (.getfield 117, 3) := dk_180 0 117 (dk_at dksX3_here_1 17 rfl rfl)
theorem dX3_here_42 : decode cX3_here 42 = .ok (.aload_n 0, 1) := dk_42 (dk_at dksX3_here_1 20 rfl rfl)
theorem dX3_here_43 : decode cX3_here 43 = .ok (.getfield 113, 3) := dk_180 0 113 (dk_at dksX3_here_1 21 rfl rfl)
theorem dX3_here_46 : decode cX3_here 46 = .ok (.if_icmp .ge 15, 3) := dk_162 0 15 (dk_at dksX3_here_2 0 rfl rfl)
theorem dX3_here_49 : decode cX3_here 49 = .ok (.aload_n 0, 1) := dk_42 (dk_at dksX3_here_2 3 rfl rfl)
theorem dX3_here_50 : decode cX3_here 50 = .ok (.getfield 40, 3) := dk_180 0 40 (dk_at dksX3_here_2 4 rfl rfl)
theorem dX3_here_53 : decode cX3_here 53 = .ok (.aload_n 0, 1) := dk_42 (dk_at dksX3_here_2 7 rfl rfl)
theorem dX3_here_54 : decode cX3_here 54 = .ok (.getfield 117, 3) := dk_180 0 117 (dk_at dksX3_here_2 8 rfl rfl)
theorem dX3_here_57 : decode cX3_here 57 = .ok (.iaload, 1) := dk_46 (dk_at dksX3_here_2 11 rfl rfl)
theorem dX3_here_58 : decode cX3_here 58 = .ok (.goto 4, 3) := dk_167 0 4 (dk_at dksX3_here_2 12 rfl rfl)
theorem dX3_here_61 : decode cX3_here 61 = .ok (.iconst (-1), 1) := dk_2 (dk_at dksX3_here_2 15 rfl rfl)
theorem dX3_here_62 : decode cX3_here 62 = .ok (.ireturn, 1) := dk_172 (dk_at dksX3_here_2 16 rfl rfl)
abbrev cX3_takeClause : ByteArray := prog_9_method_18_code
def yX3_takeClause : MethodName := ⟨RX3, "takeClause", "()I"⟩
def dkwX3_takeClause_10 : List UInt8 := [96, 181, 0, 117, 21, 4, 172]
abbrev dktX3_takeClause_10 : List UInt8 := dkwX3_takeClause_10 ++ []
def dkwX3_takeClause_9 : List UInt8 := [182, 0, 120, 16, 59, 159, 0, 13, 42, 4, 42, 180, 0, 117, 182, 0, 128, 172, 42, 89, 180, 0, 117, 4]
abbrev dktX3_takeClause_9 : List UInt8 := dkwX3_takeClause_9 ++ dktX3_takeClause_10
def dkwX3_takeClause_8 : List UInt8 := [160, 0, 10, 42, 182, 0, 160, 167, 0, 7, 42, 182, 0, 163, 54, 4, 21, 4, 154, 0, 22, 42]
abbrev dktX3_takeClause_8 : List UInt8 := dkwX3_takeClause_8 ++ dktX3_takeClause_9
def dkwX3_takeClause_7 : List UInt8 := [154, 0, 10, 42, 182, 0, 154, 167, 0, 31, 28, 4, 160, 0, 10, 42, 182, 0, 157, 167, 0, 19, 28, 5]
abbrev dktX3_takeClause_7 : List UInt8 := dkwX3_takeClause_7 ++ dktX3_takeClause_8
def dkwX3_takeClause_6 : List UInt8 := [153, 0, 13, 42, 6, 42, 180, 0, 117, 182, 0, 128, 172, 42, 89, 180, 0, 117, 4, 96, 181, 0, 117, 28]
abbrev dktX3_takeClause_6 : List UInt8 := dkwX3_takeClause_6 ++ dktX3_takeClause_7
def dkwX3_takeClause_5 : List UInt8 := [167, 0, 22, 28, 5, 160, 0, 16, 42, 180, 0, 151, 16, 8, 160, 0, 7, 4, 167, 0, 4, 3, 62, 29]
abbrev dktX3_takeClause_5 : List UInt8 := dkwX3_takeClause_5 ++ dktX3_takeClause_6
def dkwX3_takeClause_4 : List UInt8 := [167, 0, 44, 28, 4, 160, 0, 20, 42, 180, 0, 148, 16, 6, 160, 0, 7, 4, 167, 0, 26, 3]
abbrev dktX3_takeClause_4 : List UInt8 := dkwX3_takeClause_4 ++ dktX3_takeClause_5
def dkwX3_takeClause_3 : List UInt8 := [182, 0, 128, 172, 28, 154, 0, 20, 42, 180, 0, 141, 16, 6, 160, 0, 7, 4, 167, 0, 48, 3]
abbrev dktX3_takeClause_3 : List UInt8 := dkwX3_takeClause_3 ++ dktX3_takeClause_4
def dkwX3_takeClause_2 : List UInt8 := [61, 28, 155, 0, 14, 28, 158, 0, 20, 42, 180, 0, 141, 154, 0, 13, 42, 4, 42, 180, 0, 117]
abbrev dktX3_takeClause_2 : List UInt8 := dkwX3_takeClause_2 ++ dktX3_takeClause_3
def dkwX3_takeClause_1 : List UInt8 := [167, 0, 24, 27, 16, 114, 160, 0, 7, 5, 167, 0, 14, 27, 16, 104, 160, 0, 7, 6, 167, 0, 4, 2]
abbrev dktX3_takeClause_1 : List UInt8 := dkwX3_takeClause_1 ++ dktX3_takeClause_2
def dkwX3_takeClause_0 : List UInt8 := [42, 182, 0, 120, 60, 27, 16, 108, 160, 0, 7, 3, 167, 0, 34, 27, 16, 99, 160, 0, 7, 4]
abbrev dktX3_takeClause_0 : List UInt8 := dkwX3_takeClause_0 ++ dktX3_takeClause_1
theorem dksX3_takeClause_0 : cX3_takeClause.data.toList.drop 0 = dktX3_takeClause_0 := by decide +kernel
theorem dksX3_takeClause_1 : cX3_takeClause.data.toList.drop 22 = dktX3_takeClause_1 := dk_seg dksX3_takeClause_0 22 rfl rfl
theorem dksX3_takeClause_2 : cX3_takeClause.data.toList.drop 46 = dktX3_takeClause_2 := dk_seg dksX3_takeClause_1 24 rfl rfl
theorem dksX3_takeClause_3 : cX3_takeClause.data.toList.drop 68 = dktX3_takeClause_3 := dk_seg dksX3_takeClause_2 22 rfl rfl
theorem dksX3_takeClause_4 : cX3_takeClause.data.toList.drop 90 = dktX3_takeClause_4 := dk_seg dksX3_takeClause_3 22 rfl rfl
theorem dksX3_takeClause_5 : cX3_takeClause.data.toList.drop 112 = dktX3_takeClause_5 := dk_seg dksX3_takeClause_4 22 rfl rfl
theorem dksX3_takeClause_6 : cX3_takeClause.data.toList.drop 136 = dktX3_takeClause_6 := dk_seg dksX3_takeClause_5 24 rfl rfl
theorem dksX3_takeClause_7 : cX3_takeClause.data.toList.drop 160 = dktX3_takeClause_7 := dk_seg dksX3_takeClause_6 24 rfl rfl
theorem dksX3_takeClause_8 : cX3_takeClause.data.toList.drop 184 = dktX3_takeClause_8 := dk_seg dksX3_takeClause_7 24 rfl rfl
theorem dksX3_takeClause_9 : cX3_takeClause.data.toList.drop 206 = dktX3_takeClause_9 := dk_seg dksX3_takeClause_8 22 rfl rfl
theorem dksX3_takeClause_10 : cX3_takeClause.data.toList.drop 230 = dktX3_takeClause_10 := dk_seg dksX3_takeClause_9 24 rfl rfl
theorem dX3_takeClause_0 : decode cX3_takeClause 0 = .ok (.aload_n 0, 1) := dk_42 (dk_at dksX3_takeClause_0 0 rfl rfl)
theorem dX3_takeClause_1 : decode cX3_takeClause 1 = .ok (.invokevirtual 120, 3) := dk_182 0 120 (dk_at dksX3_takeClause_0 1 rfl rfl)
theorem dX3_takeClause_4 : decode cX3_takeClause 4 = .ok (.istore_n 1, 1) := dk_60 (dk_at dksX3_takeClause_0 4 rfl rfl)
theorem dX3_takeClause_5 : decode cX3_takeClause 5 = .ok (.iload_n 1, 1) := dk_27 (dk_at dksX3_takeClause_0 5 rfl rfl)
theorem dX3_takeClause_6 : decode cX3_takeClause 6 = .ok (.bipush 108, 2) := dk_16 108 (dk_at dksX3_takeClause_0 6 rfl rfl)
theorem dX3_takeClause_8 : decode cX3_takeClause 8 = .ok (.if_icmp .ne 7, 3) := dk_160 0 7 (dk_at dksX3_takeClause_0 8 rfl rfl)
theorem dX3_takeClause_11 : decode cX3_takeClause 11 = .ok (.iconst 0, 1) := dk_3 (dk_at dksX3_takeClause_0 11 rfl rfl)
theorem dX3_takeClause_12 : decode cX3_takeClause 12 = .ok (.goto 34, 3) := dk_167 0 34 (dk_at dksX3_takeClause_0 12 rfl rfl)
theorem dX3_takeClause_15 : decode cX3_takeClause 15 = .ok (.iload_n 1, 1) := dk_27 (dk_at dksX3_takeClause_0 15 rfl rfl)
theorem dX3_takeClause_16 : decode cX3_takeClause 16 = .ok (.bipush 99, 2) := dk_16 99 (dk_at dksX3_takeClause_0 16 rfl rfl)
theorem dX3_takeClause_18 : decode cX3_takeClause 18 = .ok (.if_icmp .ne 7, 3) := dk_160 0 7 (dk_at dksX3_takeClause_0 18 rfl rfl)
theorem dX3_takeClause_21 : decode cX3_takeClause 21 = .ok (.iconst 1, 1) := dk_4 (dk_at dksX3_takeClause_0 21 rfl rfl)
theorem dX3_takeClause_22 : decode cX3_takeClause 22 = .ok (.goto 24, 3) := dk_167 0 24 (dk_at dksX3_takeClause_1 0 rfl rfl)
theorem dX3_takeClause_25 : decode cX3_takeClause 25 = .ok (.iload_n 1, 1) := dk_27 (dk_at dksX3_takeClause_1 3 rfl rfl)
theorem dX3_takeClause_26 : decode cX3_takeClause 26 = .ok (.bipush 114, 2) := dk_16 114 (dk_at dksX3_takeClause_1 4 rfl rfl)
theorem dX3_takeClause_28 : decode cX3_takeClause 28 = .ok (.if_icmp .ne 7, 3) := dk_160 0 7 (dk_at dksX3_takeClause_1 6 rfl rfl)
theorem dX3_takeClause_31 : decode cX3_takeClause 31 = .ok (.iconst 2, 1) := dk_5 (dk_at dksX3_takeClause_1 9 rfl rfl)
theorem dX3_takeClause_32 : decode cX3_takeClause 32 = .ok (.goto 14, 3) := dk_167 0 14 (dk_at dksX3_takeClause_1 10 rfl rfl)
theorem dX3_takeClause_35 : decode cX3_takeClause 35 = .ok (.iload_n 1, 1) := dk_27 (dk_at dksX3_takeClause_1 13 rfl rfl)
theorem dX3_takeClause_36 : decode cX3_takeClause 36 = .ok (.bipush 104, 2) := dk_16 104 (dk_at dksX3_takeClause_1 14 rfl rfl)
theorem dX3_takeClause_38 : decode cX3_takeClause 38 = .ok (.if_icmp .ne 7, 3) := dk_160 0 7 (dk_at dksX3_takeClause_1 16 rfl rfl)
theorem dX3_takeClause_41 : decode cX3_takeClause 41 = .ok (.iconst 3, 1) := dk_6 (dk_at dksX3_takeClause_1 19 rfl rfl)
theorem dX3_takeClause_42 : decode cX3_takeClause 42 = .ok (.goto 4, 3) := dk_167 0 4 (dk_at dksX3_takeClause_1 20 rfl rfl)
theorem dX3_takeClause_45 : decode cX3_takeClause 45 = .ok (.iconst (-1), 1) := dk_2 (dk_at dksX3_takeClause_1 23 rfl rfl)
theorem dX3_takeClause_46 : decode cX3_takeClause 46 = .ok (.istore_n 2, 1) := dk_61 (dk_at dksX3_takeClause_2 0 rfl rfl)
theorem dX3_takeClause_47 : decode cX3_takeClause 47 = .ok (.iload_n 2, 1) := dk_28 (dk_at dksX3_takeClause_2 1 rfl rfl)
theorem dX3_takeClause_48 : decode cX3_takeClause 48 = .ok (.ifCond .lt 14, 3) := dk_155 0 14 (dk_at dksX3_takeClause_2 2 rfl rfl)
theorem dX3_takeClause_51 : decode cX3_takeClause 51 = .ok (.iload_n 2, 1) := dk_28 (dk_at dksX3_takeClause_2 5 rfl rfl)
theorem dX3_takeClause_52 : decode cX3_takeClause 52 = .ok (.ifCond .le 20, 3) := dk_158 0 20 (dk_at dksX3_takeClause_2 6 rfl rfl)
theorem dX3_takeClause_55 : decode cX3_takeClause 55 = .ok (.aload_n 0, 1) := dk_42 (dk_at dksX3_takeClause_2 9 rfl rfl)
theorem dX3_takeClause_56 : decode cX3_takeClause 56 = .ok (.getfield 141, 3) := dk_180 0 141 (dk_at dksX3_takeClause_2 10 rfl rfl)
theorem dX3_takeClause_59 : decode cX3_takeClause 59 = .ok (.ifCond .ne 13, 3) := dk_154 0 13 (dk_at dksX3_takeClause_2 13 rfl rfl)
theorem dX3_takeClause_62 : decode cX3_takeClause 62 = .ok (.aload_n 0, 1) := dk_42 (dk_at dksX3_takeClause_2 16 rfl rfl)
theorem dX3_takeClause_63 : decode cX3_takeClause 63 = .ok (.iconst 1, 1) := dk_4 (dk_at dksX3_takeClause_2 17 rfl rfl)
theorem dX3_takeClause_64 : decode cX3_takeClause 64 = .ok (.aload_n 0, 1) := dk_42 (dk_at dksX3_takeClause_2 18 rfl rfl)
theorem dX3_takeClause_65 : decode cX3_takeClause 65 = .ok (.getfield 117, 3) := dk_180 0 117 (dk_at dksX3_takeClause_2 19 rfl rfl)
theorem dX3_takeClause_68 : decode cX3_takeClause 68 = .ok (.invokevirtual 128, 3) := dk_182 0 128 (dk_at dksX3_takeClause_3 0 rfl rfl)
theorem dX3_takeClause_71 : decode cX3_takeClause 71 = .ok (.ireturn, 1) := dk_172 (dk_at dksX3_takeClause_3 3 rfl rfl)
theorem dX3_takeClause_72 : decode cX3_takeClause 72 = .ok (.iload_n 2, 1) := dk_28 (dk_at dksX3_takeClause_3 4 rfl rfl)
theorem dX3_takeClause_73 : decode cX3_takeClause 73 = .ok (.ifCond .ne 20, 3) := dk_154 0 20 (dk_at dksX3_takeClause_3 5 rfl rfl)
theorem dX3_takeClause_76 : decode cX3_takeClause 76 = .ok (.aload_n 0, 1) := dk_42 (dk_at dksX3_takeClause_3 8 rfl rfl)
theorem dX3_takeClause_77 : decode cX3_takeClause 77 = .ok (.getfield 141, 3) := dk_180 0 141 (dk_at dksX3_takeClause_3 9 rfl rfl)
theorem dX3_takeClause_80 : decode cX3_takeClause 80 = .ok (.bipush 6, 2) := dk_16 6 (dk_at dksX3_takeClause_3 12 rfl rfl)
theorem dX3_takeClause_82 : decode cX3_takeClause 82 = .ok (.if_icmp .ne 7, 3) := dk_160 0 7 (dk_at dksX3_takeClause_3 14 rfl rfl)
theorem dX3_takeClause_85 : decode cX3_takeClause 85 = .ok (.iconst 1, 1) := dk_4 (dk_at dksX3_takeClause_3 17 rfl rfl)
theorem dX3_takeClause_86 : decode cX3_takeClause 86 = .ok (.goto 48, 3) := dk_167 0 48 (dk_at dksX3_takeClause_3 18 rfl rfl)
theorem dX3_takeClause_89 : decode cX3_takeClause 89 = .ok (.iconst 0, 1) := dk_3 (dk_at dksX3_takeClause_3 21 rfl rfl)
theorem dX3_takeClause_90 : decode cX3_takeClause 90 = .ok (.goto 44, 3) := dk_167 0 44 (dk_at dksX3_takeClause_4 0 rfl rfl)
theorem dX3_takeClause_93 : decode cX3_takeClause 93 = .ok (.iload_n 2, 1) := dk_28 (dk_at dksX3_takeClause_4 3 rfl rfl)
theorem dX3_takeClause_94 : decode cX3_takeClause 94 = .ok (.iconst 1, 1) := dk_4 (dk_at dksX3_takeClause_4 4 rfl rfl)
theorem dX3_takeClause_95 : decode cX3_takeClause 95 = .ok (.if_icmp .ne 20, 3) := dk_160 0 20 (dk_at dksX3_takeClause_4 5 rfl rfl)
theorem dX3_takeClause_98 : decode cX3_takeClause 98 = .ok (.aload_n 0, 1) := dk_42 (dk_at dksX3_takeClause_4 8 rfl rfl)
theorem dX3_takeClause_99 : decode cX3_takeClause 99 = .ok (.getfield 148, 3) := dk_180 0 148 (dk_at dksX3_takeClause_4 9 rfl rfl)
theorem dX3_takeClause_102 : decode cX3_takeClause 102 = .ok (.bipush 6, 2) := dk_16 6 (dk_at dksX3_takeClause_4 12 rfl rfl)
theorem dX3_takeClause_104 : decode cX3_takeClause 104 = .ok (.if_icmp .ne 7, 3) := dk_160 0 7 (dk_at dksX3_takeClause_4 14 rfl rfl)
theorem dX3_takeClause_107 : decode cX3_takeClause 107 = .ok (.iconst 1, 1) := dk_4 (dk_at dksX3_takeClause_4 17 rfl rfl)
theorem dX3_takeClause_108 : decode cX3_takeClause 108 = .ok (.goto 26, 3) := dk_167 0 26 (dk_at dksX3_takeClause_4 18 rfl rfl)
theorem dX3_takeClause_111 : decode cX3_takeClause 111 = .ok (.iconst 0, 1) := dk_3 (dk_at dksX3_takeClause_4 21 rfl rfl)
theorem dX3_takeClause_112 : decode cX3_takeClause 112 = .ok (.goto 22, 3) := dk_167 0 22 (dk_at dksX3_takeClause_5 0 rfl rfl)
theorem dX3_takeClause_115 : decode cX3_takeClause 115 = .ok (.iload_n 2, 1) := dk_28 (dk_at dksX3_takeClause_5 3 rfl rfl)
theorem dX3_takeClause_116 : decode cX3_takeClause 116 = .ok (.iconst 2, 1) := dk_5 (dk_at dksX3_takeClause_5 4 rfl rfl)
theorem dX3_takeClause_117 : decode cX3_takeClause 117 = .ok (.if_icmp .ne 16, 3) := dk_160 0 16 (dk_at dksX3_takeClause_5 5 rfl rfl)
theorem dX3_takeClause_120 : decode cX3_takeClause 120 = .ok (.aload_n 0, 1) := dk_42 (dk_at dksX3_takeClause_5 8 rfl rfl)
theorem dX3_takeClause_121 : decode cX3_takeClause 121 = .ok (.getfield 151, 3) := dk_180 0 151 (dk_at dksX3_takeClause_5 9 rfl rfl)
theorem dX3_takeClause_124 : decode cX3_takeClause 124 = .ok (.bipush 8, 2) := dk_16 8 (dk_at dksX3_takeClause_5 12 rfl rfl)
theorem dX3_takeClause_126 : decode cX3_takeClause 126 = .ok (.if_icmp .ne 7, 3) := dk_160 0 7 (dk_at dksX3_takeClause_5 14 rfl rfl)
theorem dX3_takeClause_129 : decode cX3_takeClause 129 = .ok (.iconst 1, 1) := dk_4 (dk_at dksX3_takeClause_5 17 rfl rfl)
theorem dX3_takeClause_130 : decode cX3_takeClause 130 = .ok (.goto 4, 3) := dk_167 0 4 (dk_at dksX3_takeClause_5 18 rfl rfl)
theorem dX3_takeClause_133 : decode cX3_takeClause 133 = .ok (.iconst 0, 1) := dk_3 (dk_at dksX3_takeClause_5 21 rfl rfl)
theorem dX3_takeClause_134 : decode cX3_takeClause 134 = .ok (.istore_n 3, 1) := dk_62 (dk_at dksX3_takeClause_5 22 rfl rfl)
theorem dX3_takeClause_135 : decode cX3_takeClause 135 = .ok (.iload_n 3, 1) := dk_29 (dk_at dksX3_takeClause_5 23 rfl rfl)
theorem dX3_takeClause_136 : decode cX3_takeClause 136 = .ok (.ifCond .eq 13, 3) := dk_153 0 13 (dk_at dksX3_takeClause_6 0 rfl rfl)
theorem dX3_takeClause_139 : decode cX3_takeClause 139 = .ok (.aload_n 0, 1) := dk_42 (dk_at dksX3_takeClause_6 3 rfl rfl)
theorem dX3_takeClause_140 : decode cX3_takeClause 140 = .ok (.iconst 3, 1) := dk_6 (dk_at dksX3_takeClause_6 4 rfl rfl)
theorem dX3_takeClause_141 : decode cX3_takeClause 141 = .ok (.aload_n 0, 1) := dk_42 (dk_at dksX3_takeClause_6 5 rfl rfl)
theorem dX3_takeClause_142 : decode cX3_takeClause 142 = .ok (.getfield 117, 3) := dk_180 0 117 (dk_at dksX3_takeClause_6 6 rfl rfl)
theorem dX3_takeClause_145 : decode cX3_takeClause 145 = .ok (.invokevirtual 128, 3) := dk_182 0 128 (dk_at dksX3_takeClause_6 9 rfl rfl)
theorem dX3_takeClause_148 : decode cX3_takeClause 148 = .ok (.ireturn, 1) := dk_172 (dk_at dksX3_takeClause_6 12 rfl rfl)
theorem dX3_takeClause_149 : decode cX3_takeClause 149 = .ok (.aload_n 0, 1) := dk_42 (dk_at dksX3_takeClause_6 13 rfl rfl)
theorem dX3_takeClause_150 : decode cX3_takeClause 150 = .ok (.dup, 1) := dk_89 (dk_at dksX3_takeClause_6 14 rfl rfl)
theorem dX3_takeClause_151 : decode cX3_takeClause 151 = .ok (.getfield 117, 3) := dk_180 0 117 (dk_at dksX3_takeClause_6 15 rfl rfl)
theorem dX3_takeClause_154 : decode cX3_takeClause 154 = .ok (.iconst 1, 1) := dk_4 (dk_at dksX3_takeClause_6 18 rfl rfl)
theorem dX3_takeClause_155 : decode cX3_takeClause 155 = .ok (.iadd, 1) := dk_96 (dk_at dksX3_takeClause_6 19 rfl rfl)
theorem dX3_takeClause_156 : decode cX3_takeClause 156 = .ok (.putfield 117, 3) := dk_181 0 117 (dk_at dksX3_takeClause_6 20 rfl rfl)
theorem dX3_takeClause_159 : decode cX3_takeClause 159 = .ok (.iload_n 2, 1) := dk_28 (dk_at dksX3_takeClause_6 23 rfl rfl)
theorem dX3_takeClause_160 : decode cX3_takeClause 160 = .ok (.ifCond .ne 10, 3) := dk_154 0 10 (dk_at dksX3_takeClause_7 0 rfl rfl)
theorem dX3_takeClause_163 : decode cX3_takeClause 163 = .ok (.aload_n 0, 1) := dk_42 (dk_at dksX3_takeClause_7 3 rfl rfl)
theorem dX3_takeClause_164 : decode cX3_takeClause 164 = .ok (.invokevirtual 154, 3) := dk_182 0 154 (dk_at dksX3_takeClause_7 4 rfl rfl)
theorem dX3_takeClause_167 : decode cX3_takeClause 167 = .ok (.goto 31, 3) := dk_167 0 31 (dk_at dksX3_takeClause_7 7 rfl rfl)
theorem dX3_takeClause_170 : decode cX3_takeClause 170 = .ok (.iload_n 2, 1) := dk_28 (dk_at dksX3_takeClause_7 10 rfl rfl)
theorem dX3_takeClause_171 : decode cX3_takeClause 171 = .ok (.iconst 1, 1) := dk_4 (dk_at dksX3_takeClause_7 11 rfl rfl)
theorem dX3_takeClause_172 : decode cX3_takeClause 172 = .ok (.if_icmp .ne 10, 3) := dk_160 0 10 (dk_at dksX3_takeClause_7 12 rfl rfl)
theorem dX3_takeClause_175 : decode cX3_takeClause 175 = .ok (.aload_n 0, 1) := dk_42 (dk_at dksX3_takeClause_7 15 rfl rfl)
theorem dX3_takeClause_176 : decode cX3_takeClause 176 = .ok (.invokevirtual 157, 3) := dk_182 0 157 (dk_at dksX3_takeClause_7 16 rfl rfl)
theorem dX3_takeClause_179 : decode cX3_takeClause 179 = .ok (.goto 19, 3) := dk_167 0 19 (dk_at dksX3_takeClause_7 19 rfl rfl)
theorem dX3_takeClause_182 : decode cX3_takeClause 182 = .ok (.iload_n 2, 1) := dk_28 (dk_at dksX3_takeClause_7 22 rfl rfl)
theorem dX3_takeClause_183 : decode cX3_takeClause 183 = .ok (.iconst 2, 1) := dk_5 (dk_at dksX3_takeClause_7 23 rfl rfl)
theorem dX3_takeClause_184 : decode cX3_takeClause 184 = .ok (.if_icmp .ne 10, 3) := dk_160 0 10 (dk_at dksX3_takeClause_8 0 rfl rfl)
theorem dX3_takeClause_187 : decode cX3_takeClause 187 = .ok (.aload_n 0, 1) := dk_42 (dk_at dksX3_takeClause_8 3 rfl rfl)
theorem dX3_takeClause_188 : decode cX3_takeClause 188 = .ok (.invokevirtual 160, 3) := dk_182 0 160 (dk_at dksX3_takeClause_8 4 rfl rfl)
theorem dX3_takeClause_191 : decode cX3_takeClause 191 = .ok (.goto 7, 3) := dk_167 0 7 (dk_at dksX3_takeClause_8 7 rfl rfl)
theorem dX3_takeClause_194 : decode cX3_takeClause 194 = .ok (.aload_n 0, 1) := dk_42 (dk_at dksX3_takeClause_8 10 rfl rfl)
theorem dX3_takeClause_195 : decode cX3_takeClause 195 = .ok (.invokevirtual 163, 3) := dk_182 0 163 (dk_at dksX3_takeClause_8 11 rfl rfl)
theorem dX3_takeClause_198 : decode cX3_takeClause 198 = .ok (.istore 4, 2) := dk_54 4 (dk_at dksX3_takeClause_8 14 rfl rfl)
theorem dX3_takeClause_200 : decode cX3_takeClause 200 = .ok (.iload 4, 2) := dk_21 4 (dk_at dksX3_takeClause_8 16 rfl rfl)
theorem dX3_takeClause_202 : decode cX3_takeClause 202 = .ok (.ifCond .ne 22, 3) := dk_154 0 22 (dk_at dksX3_takeClause_8 18 rfl rfl)
theorem dX3_takeClause_205 : decode cX3_takeClause 205 = .ok (.aload_n 0, 1) := dk_42 (dk_at dksX3_takeClause_8 21 rfl rfl)
theorem dX3_takeClause_206 : decode cX3_takeClause 206 = .ok (.invokevirtual 120, 3) := dk_182 0 120 (dk_at dksX3_takeClause_9 0 rfl rfl)
theorem dX3_takeClause_209 : decode cX3_takeClause 209 = .ok (.bipush 59, 2) := dk_16 59 (dk_at dksX3_takeClause_9 3 rfl rfl)
theorem dX3_takeClause_211 : decode cX3_takeClause 211 = .ok (.if_icmp .eq 13, 3) := dk_159 0 13 (dk_at dksX3_takeClause_9 5 rfl rfl)
theorem dX3_takeClause_214 : decode cX3_takeClause 214 = .ok (.aload_n 0, 1) := dk_42 (dk_at dksX3_takeClause_9 8 rfl rfl)
theorem dX3_takeClause_215 : decode cX3_takeClause 215 = .ok (.iconst 1, 1) := dk_4 (dk_at dksX3_takeClause_9 9 rfl rfl)
theorem dX3_takeClause_216 : decode cX3_takeClause 216 = .ok (.aload_n 0, 1) := dk_42 (dk_at dksX3_takeClause_9 10 rfl rfl)
theorem dX3_takeClause_217 : decode cX3_takeClause 217 = .ok (.getfield 117, 3) := dk_180 0 117 (dk_at dksX3_takeClause_9 11 rfl rfl)
theorem dX3_takeClause_220 : decode cX3_takeClause 220 = .ok (.invokevirtual 128, 3) := dk_182 0 128 (dk_at dksX3_takeClause_9 14 rfl rfl)
theorem dX3_takeClause_223 : decode cX3_takeClause 223 = .ok (.ireturn, 1) := dk_172 (dk_at dksX3_takeClause_9 17 rfl rfl)
theorem dX3_takeClause_224 : decode cX3_takeClause 224 = .ok (.aload_n 0, 1) := dk_42 (dk_at dksX3_takeClause_9 18 rfl rfl)
theorem dX3_takeClause_225 : decode cX3_takeClause 225 = .ok (.dup, 1) := dk_89 (dk_at dksX3_takeClause_9 19 rfl rfl)
theorem dX3_takeClause_226 : decode cX3_takeClause 226 = .ok (.getfield 117, 3) := dk_180 0 117 (dk_at dksX3_takeClause_9 20 rfl rfl)
theorem dX3_takeClause_229 : decode cX3_takeClause 229 = .ok (.iconst 1, 1) := dk_4 (dk_at dksX3_takeClause_9 23 rfl rfl)
theorem dX3_takeClause_230 : decode cX3_takeClause 230 = .ok (.iadd, 1) := dk_96 (dk_at dksX3_takeClause_10 0 rfl rfl)
theorem dX3_takeClause_231 : decode cX3_takeClause 231 = .ok (.putfield 117, 3) := dk_181 0 117 (dk_at dksX3_takeClause_10 1 rfl rfl)
theorem dX3_takeClause_234 : decode cX3_takeClause 234 = .ok (.iload 4, 2) := dk_21 4 (dk_at dksX3_takeClause_10 4 rfl rfl)
theorem dX3_takeClause_236 : decode cX3_takeClause 236 = .ok (.ireturn, 1) := dk_172 (dk_at dksX3_takeClause_10 6 rfl rfl)
abbrev cX3_fails : ByteArray := prog_9_method_11_code
def yX3_fails : MethodName := ⟨RX3, "fails", "(II)I"⟩
def dkwX3_fails_0 : List UInt8 := [42, 28, 181, 0, 43, 27, 172]
abbrev dktX3_fails_0 : List UInt8 := dkwX3_fails_0 ++ []
theorem dksX3_fails_0 : cX3_fails.data.toList.drop 0 = dktX3_fails_0 := by decide +kernel
theorem dX3_fails_0 : decode cX3_fails 0 = .ok (.aload_n 0, 1) := dk_42 (dk_at dksX3_fails_0 0 rfl rfl)
theorem dX3_fails_1 : decode cX3_fails 1 = .ok (.iload_n 2, 1) := dk_28 (dk_at dksX3_fails_0 1 rfl rfl)
theorem dX3_fails_2 : decode cX3_fails 2 = .ok (.putfield 43, 3) := dk_181 0 43 (dk_at dksX3_fails_0 2 rfl rfl)
theorem dX3_fails_5 : decode cX3_fails 5 = .ok (.iload_n 1, 1) := dk_27 (dk_at dksX3_fails_0 5 rfl rfl)
theorem dX3_fails_6 : decode cX3_fails 6 = .ok (.ireturn, 1) := dk_172 (dk_at dksX3_fails_0 6 rfl rfl)
abbrev cX3_takeLimb : ByteArray := prog_9_method_14_code
def yX3_takeLimb : MethodName := ⟨RX3, "takeLimb", "()I"⟩
def dkwX3_takeLimb_2 : List UInt8 := [42, 180, 0, 50, 7, 27, 104, 29, 96, 3, 16, 18, 182, 0, 144, 61, 132, 3, 1, 167, 255, 227, 28, 172]
abbrev dktX3_takeLimb_2 : List UInt8 := dkwX3_takeLimb_2 ++ []
def dkwX3_takeLimb_1 : List UInt8 := [180, 0, 47, 27, 16, 20, 16, 99, 182, 0, 144, 61, 3, 62, 29, 7, 162, 0, 30, 28, 154, 0, 26, 42]
abbrev dktX3_takeLimb_1 : List UInt8 := dkwX3_takeLimb_1 ++ dktX3_takeLimb_2
def dkwX3_takeLimb_0 : List UInt8 := [42, 180, 0, 141, 60, 42, 89, 180, 0, 141, 4, 96, 181, 0, 141, 42, 180, 0, 53, 27, 2, 79, 42, 42]
abbrev dktX3_takeLimb_0 : List UInt8 := dkwX3_takeLimb_0 ++ dktX3_takeLimb_1
theorem dksX3_takeLimb_0 : cX3_takeLimb.data.toList.drop 0 = dktX3_takeLimb_0 := by decide +kernel
theorem dksX3_takeLimb_1 : cX3_takeLimb.data.toList.drop 24 = dktX3_takeLimb_1 := dk_seg dksX3_takeLimb_0 24 rfl rfl
theorem dksX3_takeLimb_2 : cX3_takeLimb.data.toList.drop 48 = dktX3_takeLimb_2 := dk_seg dksX3_takeLimb_1 24 rfl rfl
theorem dX3_takeLimb_0 : decode cX3_takeLimb 0 = .ok (.aload_n 0, 1) := dk_42 (dk_at dksX3_takeLimb_0 0 rfl rfl)
theorem dX3_takeLimb_1 : decode cX3_takeLimb 1 = .ok (.getfield 141, 3) := dk_180 0 141 (dk_at dksX3_takeLimb_0 1 rfl rfl)
theorem dX3_takeLimb_4 : decode cX3_takeLimb 4 = .ok (.istore_n 1, 1) := dk_60 (dk_at dksX3_takeLimb_0 4 rfl rfl)
theorem dX3_takeLimb_5 : decode cX3_takeLimb 5 = .ok (.aload_n 0, 1) := dk_42 (dk_at dksX3_takeLimb_0 5 rfl rfl)
theorem dX3_takeLimb_6 : decode cX3_takeLimb 6 = .ok (.dup, 1) := dk_89 (dk_at dksX3_takeLimb_0 6 rfl rfl)
theorem dX3_takeLimb_7 : decode cX3_takeLimb 7 = .ok (.getfield 141, 3) := dk_180 0 141 (dk_at dksX3_takeLimb_0 7 rfl rfl)
theorem dX3_takeLimb_10 : decode cX3_takeLimb 10 = .ok (.iconst 1, 1) := dk_4 (dk_at dksX3_takeLimb_0 10 rfl rfl)
theorem dX3_takeLimb_11 : decode cX3_takeLimb 11 = .ok (.iadd, 1) := dk_96 (dk_at dksX3_takeLimb_0 11 rfl rfl)
theorem dX3_takeLimb_12 : decode cX3_takeLimb 12 = .ok (.putfield 141, 3) := dk_181 0 141 (dk_at dksX3_takeLimb_0 12 rfl rfl)
theorem dX3_takeLimb_15 : decode cX3_takeLimb 15 = .ok (.aload_n 0, 1) := dk_42 (dk_at dksX3_takeLimb_0 15 rfl rfl)
theorem dX3_takeLimb_16 : decode cX3_takeLimb 16 = .ok (.getfield 53, 3) := dk_180 0 53 (dk_at dksX3_takeLimb_0 16 rfl rfl)
theorem dX3_takeLimb_19 : decode cX3_takeLimb 19 = .ok (.iload_n 1, 1) := dk_27 (dk_at dksX3_takeLimb_0 19 rfl rfl)
theorem dX3_takeLimb_20 : decode cX3_takeLimb 20 = .ok (.iconst (-1), 1) := dk_2 (dk_at dksX3_takeLimb_0 20 rfl rfl)
theorem dX3_takeLimb_21 : decode cX3_takeLimb 21 = .ok (.iastore, 1) := dk_79 (dk_at dksX3_takeLimb_0 21 rfl rfl)
theorem dX3_takeLimb_22 : decode cX3_takeLimb 22 = .ok (.aload_n 0, 1) := dk_42 (dk_at dksX3_takeLimb_0 22 rfl rfl)
theorem dX3_takeLimb_23 : decode cX3_takeLimb 23 = .ok (.aload_n 0, 1) := dk_42 (dk_at dksX3_takeLimb_0 23 rfl rfl)
theorem dX3_takeLimb_24 : decode cX3_takeLimb 24 = .ok (.getfield 47, 3) := dk_180 0 47 (dk_at dksX3_takeLimb_1 0 rfl rfl)
theorem dX3_takeLimb_27 : decode cX3_takeLimb 27 = .ok (.iload_n 1, 1) := dk_27 (dk_at dksX3_takeLimb_1 3 rfl rfl)
theorem dX3_takeLimb_28 : decode cX3_takeLimb 28 = .ok (.bipush 20, 2) := dk_16 20 (dk_at dksX3_takeLimb_1 4 rfl rfl)
theorem dX3_takeLimb_30 : decode cX3_takeLimb 30 = .ok (.bipush 99, 2) := dk_16 99 (dk_at dksX3_takeLimb_1 6 rfl rfl)
theorem dX3_takeLimb_32 : decode cX3_takeLimb 32 = .ok (.invokevirtual 144, 3) := dk_182 0 144 (dk_at dksX3_takeLimb_1 8 rfl rfl)
theorem dX3_takeLimb_35 : decode cX3_takeLimb 35 = .ok (.istore_n 2, 1) := dk_61 (dk_at dksX3_takeLimb_1 11 rfl rfl)
theorem dX3_takeLimb_36 : decode cX3_takeLimb 36 = .ok (.iconst 0, 1) := dk_3 (dk_at dksX3_takeLimb_1 12 rfl rfl)
theorem dX3_takeLimb_37 : decode cX3_takeLimb 37 = .ok (.istore_n 3, 1) := dk_62 (dk_at dksX3_takeLimb_1 13 rfl rfl)
theorem dX3_takeLimb_38 : decode cX3_takeLimb 38 = .ok (.iload_n 3, 1) := dk_29 (dk_at dksX3_takeLimb_1 14 rfl rfl)
theorem dX3_takeLimb_39 : decode cX3_takeLimb 39 = .ok (.iconst 4, 1) := dk_7 (dk_at dksX3_takeLimb_1 15 rfl rfl)
theorem dX3_takeLimb_40 : decode cX3_takeLimb 40 = .ok (.if_icmp .ge 30, 3) := dk_162 0 30 (dk_at dksX3_takeLimb_1 16 rfl rfl)
theorem dX3_takeLimb_43 : decode cX3_takeLimb 43 = .ok (.iload_n 2, 1) := dk_28 (dk_at dksX3_takeLimb_1 19 rfl rfl)
theorem dX3_takeLimb_44 : decode cX3_takeLimb 44 = .ok (.ifCond .ne 26, 3) := dk_154 0 26 (dk_at dksX3_takeLimb_1 20 rfl rfl)
theorem dX3_takeLimb_47 : decode cX3_takeLimb 47 = .ok (.aload_n 0, 1) := dk_42 (dk_at dksX3_takeLimb_1 23 rfl rfl)
theorem dX3_takeLimb_48 : decode cX3_takeLimb 48 = .ok (.aload_n 0, 1) := dk_42 (dk_at dksX3_takeLimb_2 0 rfl rfl)
theorem dX3_takeLimb_49 : decode cX3_takeLimb 49 = .ok (.getfield 50, 3) := dk_180 0 50 (dk_at dksX3_takeLimb_2 1 rfl rfl)
theorem dX3_takeLimb_52 : decode cX3_takeLimb 52 = .ok (.iconst 4, 1) := dk_7 (dk_at dksX3_takeLimb_2 4 rfl rfl)
theorem dX3_takeLimb_53 : decode cX3_takeLimb 53 = .ok (.iload_n 1, 1) := dk_27 (dk_at dksX3_takeLimb_2 5 rfl rfl)
theorem dX3_takeLimb_54 : decode cX3_takeLimb 54 = .ok (.imul, 1) := dk_104 (dk_at dksX3_takeLimb_2 6 rfl rfl)
theorem dX3_takeLimb_55 : decode cX3_takeLimb 55 = .ok (.iload_n 3, 1) := dk_29 (dk_at dksX3_takeLimb_2 7 rfl rfl)
theorem dX3_takeLimb_56 : decode cX3_takeLimb 56 = .ok (.iadd, 1) := dk_96 (dk_at dksX3_takeLimb_2 8 rfl rfl)
theorem dX3_takeLimb_57 : decode cX3_takeLimb 57 = .ok (.iconst 0, 1) := dk_3 (dk_at dksX3_takeLimb_2 9 rfl rfl)
theorem dX3_takeLimb_58 : decode cX3_takeLimb 58 = .ok (.bipush 18, 2) := dk_16 18 (dk_at dksX3_takeLimb_2 10 rfl rfl)
theorem dX3_takeLimb_60 : decode cX3_takeLimb 60 = .ok (.invokevirtual 144, 3) := dk_182 0 144 (dk_at dksX3_takeLimb_2 12 rfl rfl)
theorem dX3_takeLimb_63 : decode cX3_takeLimb 63 = .ok (.istore_n 2, 1) := dk_61 (dk_at dksX3_takeLimb_2 15 rfl rfl)
theorem dX3_takeLimb_64 : decode cX3_takeLimb 64 = .ok (.iinc 3 1, 3) := dk_132 3 1 (dk_at dksX3_takeLimb_2 16 rfl rfl)
theorem dX3_takeLimb_67 : decode cX3_takeLimb 67 = .ok (.goto (-29), 3) := dk_167 255 227 (dk_at dksX3_takeLimb_2 19 rfl rfl)
theorem dX3_takeLimb_70 : decode cX3_takeLimb 70 = .ok (.iload_n 2, 1) := dk_28 (dk_at dksX3_takeLimb_2 22 rfl rfl)
theorem dX3_takeLimb_71 : decode cX3_takeLimb 71 = .ok (.ireturn, 1) := dk_172 (dk_at dksX3_takeLimb_2 23 rfl rfl)
abbrev cX3_into : ByteArray := prog_9_method_13_code
def yX3_into : MethodName := ⟨RX3, "into", "([IIII)I"⟩
def dkwX3_into_0 : List UInt8 := [42, 29, 21, 4, 182, 0, 138, 54, 5, 43, 28, 42, 180, 0, 135, 79, 21, 5, 172]
abbrev dktX3_into_0 : List UInt8 := dkwX3_into_0 ++ []
theorem dksX3_into_0 : cX3_into.data.toList.drop 0 = dktX3_into_0 := by decide +kernel
theorem dX3_into_0 : decode cX3_into 0 = .ok (.aload_n 0, 1) := dk_42 (dk_at dksX3_into_0 0 rfl rfl)
theorem dX3_into_1 : decode cX3_into 1 = .ok (.iload_n 3, 1) := dk_29 (dk_at dksX3_into_0 1 rfl rfl)
theorem dX3_into_2 : decode cX3_into 2 = .ok (.iload 4, 2) := dk_21 4 (dk_at dksX3_into_0 2 rfl rfl)
theorem dX3_into_4 : decode cX3_into 4 = .ok (.invokevirtual 138, 3) := dk_182 0 138 (dk_at dksX3_into_0 4 rfl rfl)
theorem dX3_into_7 : decode cX3_into 7 = .ok (.istore 5, 2) := dk_54 5 (dk_at dksX3_into_0 7 rfl rfl)
theorem dX3_into_9 : decode cX3_into 9 = .ok (.aload_n 1, 1) := dk_43 (dk_at dksX3_into_0 9 rfl rfl)
theorem dX3_into_10 : decode cX3_into 10 = .ok (.iload_n 2, 1) := dk_28 (dk_at dksX3_into_0 10 rfl rfl)
theorem dX3_into_11 : decode cX3_into 11 = .ok (.aload_n 0, 1) := dk_42 (dk_at dksX3_into_0 11 rfl rfl)
theorem dX3_into_12 : decode cX3_into 12 = .ok (.getfield 135, 3) := dk_180 0 135 (dk_at dksX3_into_0 12 rfl rfl)
theorem dX3_into_15 : decode cX3_into 15 = .ok (.iastore, 1) := dk_79 (dk_at dksX3_into_0 15 rfl rfl)
theorem dX3_into_16 : decode cX3_into 16 = .ok (.iload 5, 2) := dk_21 5 (dk_at dksX3_into_0 16 rfl rfl)
theorem dX3_into_18 : decode cX3_into 18 = .ok (.ireturn, 1) := dk_172 (dk_at dksX3_into_0 18 rfl rfl)
abbrev cX3_takeNumber : ByteArray := prog_9_method_12_code
def yX3_takeNumber : MethodName := ⟨RX3, "takeNumber", "(II)I"⟩
def dkwX3_takeNumber_7 : List UInt8 := [182, 0, 128, 167, 0, 4, 3, 172]
abbrev dktX3_takeNumber_7 : List UInt8 := dkwX3_takeNumber_7 ++ []
def dkwX3_takeNumber_6 : List UInt8 := [163, 0, 18, 42, 180, 0, 135, 133, 27, 133, 28, 133, 184, 0, 102, 154, 0, 15, 42, 5, 42, 180, 0, 132]
abbrev dktX3_takeNumber_6 : List UInt8 := dkwX3_takeNumber_6 ++ dktX3_takeNumber_7
def dkwX3_takeNumber_5 : List UInt8 := [89, 180, 0, 117, 4, 96, 181, 0, 117, 167, 255, 172, 42, 180, 0, 117, 42, 180, 0, 132, 100, 6]
abbrev dktX3_takeNumber_5 : List UInt8 := dkwX3_takeNumber_5 ++ dktX3_takeNumber_6
def dkwX3_takeNumber_4 : List UInt8 := [16, 10, 42, 180, 0, 135, 104, 42, 180, 0, 40, 42, 180, 0, 117, 46, 96, 16, 48, 100, 181, 0, 135, 42]
abbrev dktX3_takeNumber_4 : List UInt8 := dkwX3_takeNumber_4 ++ dktX3_takeNumber_5
def dkwX3_takeNumber_3 : List UInt8 := [184, 0, 102, 153, 0, 57, 42, 42, 180, 0, 135, 17, 39, 16, 164, 0, 10, 42, 180, 0, 135, 167, 0, 23]
abbrev dktX3_takeNumber_3 : List UInt8 := dkwX3_takeNumber_3 ++ dktX3_takeNumber_4
def dkwX3_takeNumber_2 : List UInt8 := [42, 180, 0, 113, 162, 0, 79, 42, 180, 0, 40, 42, 180, 0, 117, 46, 133, 20, 0, 124, 20, 0, 126]
abbrev dktX3_takeNumber_2 : List UInt8 := dkwX3_takeNumber_2 ++ dktX3_takeNumber_3
def dkwX3_takeNumber_1 : List UInt8 := [180, 0, 117, 182, 0, 128, 172, 42, 42, 180, 0, 117, 181, 0, 132, 42, 3, 181, 0, 135, 42, 180, 0, 117]
abbrev dktX3_takeNumber_1 : List UInt8 := dkwX3_takeNumber_1 ++ dktX3_takeNumber_2
def dkwX3_takeNumber_0 : List UInt8 := [42, 182, 0, 120, 62, 29, 133, 20, 0, 124, 20, 0, 126, 184, 0, 102, 154, 0, 13, 42, 4, 42]
abbrev dktX3_takeNumber_0 : List UInt8 := dkwX3_takeNumber_0 ++ dktX3_takeNumber_1
theorem dksX3_takeNumber_0 : cX3_takeNumber.data.toList.drop 0 = dktX3_takeNumber_0 := by decide +kernel
theorem dksX3_takeNumber_1 : cX3_takeNumber.data.toList.drop 22 = dktX3_takeNumber_1 := dk_seg dksX3_takeNumber_0 22 rfl rfl
theorem dksX3_takeNumber_2 : cX3_takeNumber.data.toList.drop 46 = dktX3_takeNumber_2 := dk_seg dksX3_takeNumber_1 24 rfl rfl
theorem dksX3_takeNumber_3 : cX3_takeNumber.data.toList.drop 69 = dktX3_takeNumber_3 := dk_seg dksX3_takeNumber_2 23 rfl rfl
theorem dksX3_takeNumber_4 : cX3_takeNumber.data.toList.drop 93 = dktX3_takeNumber_4 := dk_seg dksX3_takeNumber_3 24 rfl rfl
theorem dksX3_takeNumber_5 : cX3_takeNumber.data.toList.drop 117 = dktX3_takeNumber_5 := dk_seg dksX3_takeNumber_4 24 rfl rfl
theorem dksX3_takeNumber_6 : cX3_takeNumber.data.toList.drop 139 = dktX3_takeNumber_6 := dk_seg dksX3_takeNumber_5 22 rfl rfl
theorem dksX3_takeNumber_7 : cX3_takeNumber.data.toList.drop 163 = dktX3_takeNumber_7 := dk_seg dksX3_takeNumber_6 24 rfl rfl
theorem dX3_takeNumber_0 : decode cX3_takeNumber 0 = .ok (.aload_n 0, 1) := dk_42 (dk_at dksX3_takeNumber_0 0 rfl rfl)
theorem dX3_takeNumber_1 : decode cX3_takeNumber 1 = .ok (.invokevirtual 120, 3) := dk_182 0 120 (dk_at dksX3_takeNumber_0 1 rfl rfl)
theorem dX3_takeNumber_4 : decode cX3_takeNumber 4 = .ok (.istore_n 3, 1) := dk_62 (dk_at dksX3_takeNumber_0 4 rfl rfl)
theorem dX3_takeNumber_5 : decode cX3_takeNumber 5 = .ok (.iload_n 3, 1) := dk_29 (dk_at dksX3_takeNumber_0 5 rfl rfl)
theorem dX3_takeNumber_6 : decode cX3_takeNumber 6 = .ok (.i2l, 1) := dk_133 (dk_at dksX3_takeNumber_0 6 rfl rfl)
theorem dX3_takeNumber_7 : decode cX3_takeNumber 7 = .ok (.ldc2_w 124, 3) := dk_20 0 124 (dk_at dksX3_takeNumber_0 7 rfl rfl)
theorem dX3_takeNumber_10 : decode cX3_takeNumber 10 = .ok (.ldc2_w 126, 3) := dk_20 0 126 (dk_at dksX3_takeNumber_0 10 rfl rfl)
theorem dX3_takeNumber_13 : decode cX3_takeNumber 13 = .ok (.invokestatic 102, 3) := dk_184 0 102 (dk_at dksX3_takeNumber_0 13 rfl rfl)
theorem dX3_takeNumber_16 : decode cX3_takeNumber 16 = .ok (.ifCond .ne 13, 3) := dk_154 0 13 (dk_at dksX3_takeNumber_0 16 rfl rfl)
theorem dX3_takeNumber_19 : decode cX3_takeNumber 19 = .ok (.aload_n 0, 1) := dk_42 (dk_at dksX3_takeNumber_0 19 rfl rfl)
theorem dX3_takeNumber_20 : decode cX3_takeNumber 20 = .ok (.iconst 1, 1) := dk_4 (dk_at dksX3_takeNumber_0 20 rfl rfl)
theorem dX3_takeNumber_21 : decode cX3_takeNumber 21 = .ok (.aload_n 0, 1) := dk_42 (dk_at dksX3_takeNumber_0 21 rfl rfl)
theorem dX3_takeNumber_22 : decode cX3_takeNumber 22 = .ok (.getfield 117, 3) := dk_180 0 117 (dk_at dksX3_takeNumber_1 0 rfl rfl)
theorem dX3_takeNumber_25 : decode cX3_takeNumber 25 = .ok (.invokevirtual 128, 3) := dk_182 0 128 (dk_at dksX3_takeNumber_1 3 rfl rfl)
theorem dX3_takeNumber_28 : decode cX3_takeNumber 28 = .ok (.ireturn, 1) := dk_172 (dk_at dksX3_takeNumber_1 6 rfl rfl)
theorem dX3_takeNumber_29 : decode cX3_takeNumber 29 = .ok (.aload_n 0, 1) := dk_42 (dk_at dksX3_takeNumber_1 7 rfl rfl)
theorem dX3_takeNumber_30 : decode cX3_takeNumber 30 = .ok (.aload_n 0, 1) := dk_42 (dk_at dksX3_takeNumber_1 8 rfl rfl)
theorem dX3_takeNumber_31 : decode cX3_takeNumber 31 = .ok (.getfield 117, 3) := dk_180 0 117 (dk_at dksX3_takeNumber_1 9 rfl rfl)
theorem dX3_takeNumber_34 : decode cX3_takeNumber 34 = .ok (.putfield 132, 3) := dk_181 0 132 (dk_at dksX3_takeNumber_1 12 rfl rfl)
theorem dX3_takeNumber_37 : decode cX3_takeNumber 37 = .ok (.aload_n 0, 1) := dk_42 (dk_at dksX3_takeNumber_1 15 rfl rfl)
theorem dX3_takeNumber_38 : decode cX3_takeNumber 38 = .ok (.iconst 0, 1) := dk_3 (dk_at dksX3_takeNumber_1 16 rfl rfl)
theorem dX3_takeNumber_39 : decode cX3_takeNumber 39 = .ok (.putfield 135, 3) := dk_181 0 135 (dk_at dksX3_takeNumber_1 17 rfl rfl)
theorem dX3_takeNumber_42 : decode cX3_takeNumber 42 = .ok (.aload_n 0, 1) := dk_42 (dk_at dksX3_takeNumber_1 20 rfl rfl)
theorem dX3_takeNumber_43 : decode cX3_takeNumber 43 = .ok (.getfield 117, 3) := dk_180 0 117 (dk_at dksX3_takeNumber_1 21 rfl rfl)
theorem dX3_takeNumber_46 : decode cX3_takeNumber 46 = .ok (.aload_n 0, 1) := dk_42 (dk_at dksX3_takeNumber_2 0 rfl rfl)
theorem dX3_takeNumber_47 : decode cX3_takeNumber 47 = .ok (.getfield 113, 3) := dk_180 0 113 (dk_at dksX3_takeNumber_2 1 rfl rfl)
theorem dX3_takeNumber_50 : decode cX3_takeNumber 50 = .ok (.if_icmp .ge 79, 3) := dk_162 0 79 (dk_at dksX3_takeNumber_2 4 rfl rfl)
theorem dX3_takeNumber_53 : decode cX3_takeNumber 53 = .ok (.aload_n 0, 1) := dk_42 (dk_at dksX3_takeNumber_2 7 rfl rfl)
theorem dX3_takeNumber_54 : decode cX3_takeNumber 54 = .ok (.getfield 40, 3) := dk_180 0 40 (dk_at dksX3_takeNumber_2 8 rfl rfl)
theorem dX3_takeNumber_57 : decode cX3_takeNumber 57 = .ok (.aload_n 0, 1) := dk_42 (dk_at dksX3_takeNumber_2 11 rfl rfl)
theorem dX3_takeNumber_58 : decode cX3_takeNumber 58 = .ok (.getfield 117, 3) := dk_180 0 117 (dk_at dksX3_takeNumber_2 12 rfl rfl)
theorem dX3_takeNumber_61 : decode cX3_takeNumber 61 = .ok (.iaload, 1) := dk_46 (dk_at dksX3_takeNumber_2 15 rfl rfl)
theorem dX3_takeNumber_62 : decode cX3_takeNumber 62 = .ok (.i2l, 1) := dk_133 (dk_at dksX3_takeNumber_2 16 rfl rfl)
theorem dX3_takeNumber_63 : decode cX3_takeNumber 63 = .ok (.ldc2_w 124, 3) := dk_20 0 124 (dk_at dksX3_takeNumber_2 17 rfl rfl)
theorem dX3_takeNumber_66 : decode cX3_takeNumber 66 = .ok (.ldc2_w 126, 3) := dk_20 0 126 (dk_at dksX3_takeNumber_2 20 rfl rfl)
theorem dX3_takeNumber_69 : decode cX3_takeNumber 69 = .ok (.invokestatic 102, 3) := dk_184 0 102 (dk_at dksX3_takeNumber_3 0 rfl rfl)
theorem dX3_takeNumber_72 : decode cX3_takeNumber 72 = .ok (.ifCond .eq 57, 3) := dk_153 0 57 (dk_at dksX3_takeNumber_3 3 rfl rfl)
theorem dX3_takeNumber_75 : decode cX3_takeNumber 75 = .ok (.aload_n 0, 1) := dk_42 (dk_at dksX3_takeNumber_3 6 rfl rfl)
theorem dX3_takeNumber_76 : decode cX3_takeNumber 76 = .ok (.aload_n 0, 1) := dk_42 (dk_at dksX3_takeNumber_3 7 rfl rfl)
theorem dX3_takeNumber_77 : decode cX3_takeNumber 77 = .ok (.getfield 135, 3) := dk_180 0 135 (dk_at dksX3_takeNumber_3 8 rfl rfl)
theorem dX3_takeNumber_80 : decode cX3_takeNumber 80 = .ok (.sipush 10000, 3) := dk_17 39 16 (dk_at dksX3_takeNumber_3 11 rfl rfl)
theorem dX3_takeNumber_83 : decode cX3_takeNumber 83 = .ok (.if_icmp .le 10, 3) := dk_164 0 10 (dk_at dksX3_takeNumber_3 14 rfl rfl)
theorem dX3_takeNumber_86 : decode cX3_takeNumber 86 = .ok (.aload_n 0, 1) := dk_42 (dk_at dksX3_takeNumber_3 17 rfl rfl)
theorem dX3_takeNumber_87 : decode cX3_takeNumber 87 = .ok (.getfield 135, 3) := dk_180 0 135 (dk_at dksX3_takeNumber_3 18 rfl rfl)
theorem dX3_takeNumber_90 : decode cX3_takeNumber 90 = .ok (.goto 23, 3) := dk_167 0 23 (dk_at dksX3_takeNumber_3 21 rfl rfl)
theorem dX3_takeNumber_93 : decode cX3_takeNumber 93 = .ok (.bipush 10, 2) := dk_16 10 (dk_at dksX3_takeNumber_4 0 rfl rfl)
theorem dX3_takeNumber_95 : decode cX3_takeNumber 95 = .ok (.aload_n 0, 1) := dk_42 (dk_at dksX3_takeNumber_4 2 rfl rfl)
theorem dX3_takeNumber_96 : decode cX3_takeNumber 96 = .ok (.getfield 135, 3) := dk_180 0 135 (dk_at dksX3_takeNumber_4 3 rfl rfl)
theorem dX3_takeNumber_99 : decode cX3_takeNumber 99 = .ok (.imul, 1) := dk_104 (dk_at dksX3_takeNumber_4 6 rfl rfl)
theorem dX3_takeNumber_100 : decode cX3_takeNumber 100 = .ok (.aload_n 0, 1) := dk_42 (dk_at dksX3_takeNumber_4 7 rfl rfl)
theorem dX3_takeNumber_101 : decode cX3_takeNumber 101 = .ok (.getfield 40, 3) := dk_180 0 40 (dk_at dksX3_takeNumber_4 8 rfl rfl)
theorem dX3_takeNumber_104 : decode cX3_takeNumber 104 = .ok (.aload_n 0, 1) := dk_42 (dk_at dksX3_takeNumber_4 11 rfl rfl)
theorem dX3_takeNumber_105 : decode cX3_takeNumber 105 = .ok (.getfield 117, 3) := dk_180 0 117 (dk_at dksX3_takeNumber_4 12 rfl rfl)
theorem dX3_takeNumber_108 : decode cX3_takeNumber 108 = .ok (.iaload, 1) := dk_46 (dk_at dksX3_takeNumber_4 15 rfl rfl)
theorem dX3_takeNumber_109 : decode cX3_takeNumber 109 = .ok (.iadd, 1) := dk_96 (dk_at dksX3_takeNumber_4 16 rfl rfl)
theorem dX3_takeNumber_110 : decode cX3_takeNumber 110 = .ok (.bipush 48, 2) := dk_16 48 (dk_at dksX3_takeNumber_4 17 rfl rfl)
theorem dX3_takeNumber_112 : decode cX3_takeNumber 112 = .ok (.isub, 1) := dk_100 (dk_at dksX3_takeNumber_4 19 rfl rfl)
theorem dX3_takeNumber_113 : decode cX3_takeNumber 113 = .ok (.putfield 135, 3) := dk_181 0 135 (dk_at dksX3_takeNumber_4 20 rfl rfl)
theorem dX3_takeNumber_116 : decode cX3_takeNumber 116 = .ok (.aload_n 0, 1) := dk_42 (dk_at dksX3_takeNumber_4 23 rfl rfl)
theorem dX3_takeNumber_117 : decode cX3_takeNumber 117 = .ok (.dup, 1) := dk_89 (dk_at dksX3_takeNumber_5 0 rfl rfl)
theorem dX3_takeNumber_118 : decode cX3_takeNumber 118 = .ok (.getfield 117, 3) := dk_180 0 117 (dk_at dksX3_takeNumber_5 1 rfl rfl)
theorem dX3_takeNumber_121 : decode cX3_takeNumber 121 = .ok (.iconst 1, 1) := dk_4 (dk_at dksX3_takeNumber_5 4 rfl rfl)
theorem dX3_takeNumber_122 : decode cX3_takeNumber 122 = .ok (.iadd, 1) := dk_96 (dk_at dksX3_takeNumber_5 5 rfl rfl)
theorem dX3_takeNumber_123 : decode cX3_takeNumber 123 = .ok (.putfield 117, 3) := dk_181 0 117 (dk_at dksX3_takeNumber_5 6 rfl rfl)
theorem dX3_takeNumber_126 : decode cX3_takeNumber 126 = .ok (.goto (-84), 3) := dk_167 255 172 (dk_at dksX3_takeNumber_5 9 rfl rfl)
theorem dX3_takeNumber_129 : decode cX3_takeNumber 129 = .ok (.aload_n 0, 1) := dk_42 (dk_at dksX3_takeNumber_5 12 rfl rfl)
theorem dX3_takeNumber_130 : decode cX3_takeNumber 130 = .ok (.getfield 117, 3) := dk_180 0 117 (dk_at dksX3_takeNumber_5 13 rfl rfl)
theorem dX3_takeNumber_133 : decode cX3_takeNumber 133 = .ok (.aload_n 0, 1) := dk_42 (dk_at dksX3_takeNumber_5 16 rfl rfl)
theorem dX3_takeNumber_134 : decode cX3_takeNumber 134 = .ok (.getfield 132, 3) := dk_180 0 132 (dk_at dksX3_takeNumber_5 17 rfl rfl)
theorem dX3_takeNumber_137 : decode cX3_takeNumber 137 = .ok (.isub, 1) := dk_100 (dk_at dksX3_takeNumber_5 20 rfl rfl)
theorem dX3_takeNumber_138 : decode cX3_takeNumber 138 = .ok (.iconst 3, 1) := dk_6 (dk_at dksX3_takeNumber_5 21 rfl rfl)
theorem dX3_takeNumber_139 : decode cX3_takeNumber 139 = .ok (.if_icmp .gt 18, 3) := dk_163 0 18 (dk_at dksX3_takeNumber_6 0 rfl rfl)
theorem dX3_takeNumber_142 : decode cX3_takeNumber 142 = .ok (.aload_n 0, 1) := dk_42 (dk_at dksX3_takeNumber_6 3 rfl rfl)
theorem dX3_takeNumber_143 : decode cX3_takeNumber 143 = .ok (.getfield 135, 3) := dk_180 0 135 (dk_at dksX3_takeNumber_6 4 rfl rfl)
theorem dX3_takeNumber_146 : decode cX3_takeNumber 146 = .ok (.i2l, 1) := dk_133 (dk_at dksX3_takeNumber_6 7 rfl rfl)
theorem dX3_takeNumber_147 : decode cX3_takeNumber 147 = .ok (.iload_n 1, 1) := dk_27 (dk_at dksX3_takeNumber_6 8 rfl rfl)
theorem dX3_takeNumber_148 : decode cX3_takeNumber 148 = .ok (.i2l, 1) := dk_133 (dk_at dksX3_takeNumber_6 9 rfl rfl)
theorem dX3_takeNumber_149 : decode cX3_takeNumber 149 = .ok (.iload_n 2, 1) := dk_28 (dk_at dksX3_takeNumber_6 10 rfl rfl)
theorem dX3_takeNumber_150 : decode cX3_takeNumber 150 = .ok (.i2l, 1) := dk_133 (dk_at dksX3_takeNumber_6 11 rfl rfl)
theorem dX3_takeNumber_151 : decode cX3_takeNumber 151 = .ok (.invokestatic 102, 3) := dk_184 0 102 (dk_at dksX3_takeNumber_6 12 rfl rfl)
theorem dX3_takeNumber_154 : decode cX3_takeNumber 154 = .ok (.ifCond .ne 15, 3) := dk_154 0 15 (dk_at dksX3_takeNumber_6 15 rfl rfl)
theorem dX3_takeNumber_157 : decode cX3_takeNumber 157 = .ok (.aload_n 0, 1) := dk_42 (dk_at dksX3_takeNumber_6 18 rfl rfl)
theorem dX3_takeNumber_158 : decode cX3_takeNumber 158 = .ok (.iconst 2, 1) := dk_5 (dk_at dksX3_takeNumber_6 19 rfl rfl)
theorem dX3_takeNumber_159 : decode cX3_takeNumber 159 = .ok (.aload_n 0, 1) := dk_42 (dk_at dksX3_takeNumber_6 20 rfl rfl)
theorem dX3_takeNumber_160 : decode cX3_takeNumber 160 = .ok (.getfield 132, 3) := dk_180 0 132 (dk_at dksX3_takeNumber_6 21 rfl rfl)
theorem dX3_takeNumber_163 : decode cX3_takeNumber 163 = .ok (.invokevirtual 128, 3) := dk_182 0 128 (dk_at dksX3_takeNumber_7 0 rfl rfl)
theorem dX3_takeNumber_166 : decode cX3_takeNumber 166 = .ok (.goto 4, 3) := dk_167 0 4 (dk_at dksX3_takeNumber_7 3 rfl rfl)
theorem dX3_takeNumber_169 : decode cX3_takeNumber 169 = .ok (.iconst 0, 1) := dk_3 (dk_at dksX3_takeNumber_7 6 rfl rfl)
theorem dX3_takeNumber_170 : decode cX3_takeNumber 170 = .ok (.ireturn, 1) := dk_172 (dk_at dksX3_takeNumber_7 7 rfl rfl)
abbrev cX3_takeContract : ByteArray := prog_9_method_15_code
def yX3_takeContract : MethodName := ⟨RX3, "takeContract", "()I"⟩
def dkwX3_takeContract_3 : List UInt8 := [182, 0, 144, 172]
abbrev dktX3_takeContract_3 : List UInt8 := dkwX3_takeContract_3 ++ []
def dkwX3_takeContract_2 : List UInt8 := [100, 182, 0, 144, 61, 28, 158, 0, 7, 28, 167, 0, 15, 42, 42, 180, 0, 62, 27, 4, 16, 50]
abbrev dktX3_takeContract_2 : List UInt8 := dkwX3_takeContract_2 ++ dktX3_takeContract_3
def dkwX3_takeContract_1 : List UInt8 := [182, 0, 144, 61, 28, 158, 0, 7, 28, 167, 0, 19, 42, 42, 180, 0, 59, 27, 3, 42, 180, 0, 141, 4]
abbrev dktX3_takeContract_1 : List UInt8 := dkwX3_takeContract_1 ++ dktX3_takeContract_2
def dkwX3_takeContract_0 : List UInt8 := [42, 180, 0, 148, 60, 42, 89, 180, 0, 148, 4, 96, 181, 0, 148, 42, 42, 180, 0, 56, 27, 3, 16, 99]
abbrev dktX3_takeContract_0 : List UInt8 := dkwX3_takeContract_0 ++ dktX3_takeContract_1
theorem dksX3_takeContract_0 : cX3_takeContract.data.toList.drop 0 = dktX3_takeContract_0 := by decide +kernel
theorem dksX3_takeContract_1 : cX3_takeContract.data.toList.drop 24 = dktX3_takeContract_1 := dk_seg dksX3_takeContract_0 24 rfl rfl
theorem dksX3_takeContract_2 : cX3_takeContract.data.toList.drop 48 = dktX3_takeContract_2 := dk_seg dksX3_takeContract_1 24 rfl rfl
theorem dksX3_takeContract_3 : cX3_takeContract.data.toList.drop 70 = dktX3_takeContract_3 := dk_seg dksX3_takeContract_2 22 rfl rfl
theorem dX3_takeContract_0 : decode cX3_takeContract 0 = .ok (.aload_n 0, 1) := dk_42 (dk_at dksX3_takeContract_0 0 rfl rfl)
theorem dX3_takeContract_1 : decode cX3_takeContract 1 = .ok (.getfield 148, 3) := dk_180 0 148 (dk_at dksX3_takeContract_0 1 rfl rfl)
theorem dX3_takeContract_4 : decode cX3_takeContract 4 = .ok (.istore_n 1, 1) := dk_60 (dk_at dksX3_takeContract_0 4 rfl rfl)
theorem dX3_takeContract_5 : decode cX3_takeContract 5 = .ok (.aload_n 0, 1) := dk_42 (dk_at dksX3_takeContract_0 5 rfl rfl)
theorem dX3_takeContract_6 : decode cX3_takeContract 6 = .ok (.dup, 1) := dk_89 (dk_at dksX3_takeContract_0 6 rfl rfl)
theorem dX3_takeContract_7 : decode cX3_takeContract 7 = .ok (.getfield 148, 3) := dk_180 0 148 (dk_at dksX3_takeContract_0 7 rfl rfl)
theorem dX3_takeContract_10 : decode cX3_takeContract 10 = .ok (.iconst 1, 1) := dk_4 (dk_at dksX3_takeContract_0 10 rfl rfl)
theorem dX3_takeContract_11 : decode cX3_takeContract 11 = .ok (.iadd, 1) := dk_96 (dk_at dksX3_takeContract_0 11 rfl rfl)
theorem dX3_takeContract_12 : decode cX3_takeContract 12 = .ok (.putfield 148, 3) := dk_181 0 148 (dk_at dksX3_takeContract_0 12 rfl rfl)
theorem dX3_takeContract_15 : decode cX3_takeContract 15 = .ok (.aload_n 0, 1) := dk_42 (dk_at dksX3_takeContract_0 15 rfl rfl)
theorem dX3_takeContract_16 : decode cX3_takeContract 16 = .ok (.aload_n 0, 1) := dk_42 (dk_at dksX3_takeContract_0 16 rfl rfl)
theorem dX3_takeContract_17 : decode cX3_takeContract 17 = .ok (.getfield 56, 3) := dk_180 0 56 (dk_at dksX3_takeContract_0 17 rfl rfl)
theorem dX3_takeContract_20 : decode cX3_takeContract 20 = .ok (.iload_n 1, 1) := dk_27 (dk_at dksX3_takeContract_0 20 rfl rfl)
theorem dX3_takeContract_21 : decode cX3_takeContract 21 = .ok (.iconst 0, 1) := dk_3 (dk_at dksX3_takeContract_0 21 rfl rfl)
theorem dX3_takeContract_22 : decode cX3_takeContract 22 = .ok (.bipush 99, 2) := dk_16 99 (dk_at dksX3_takeContract_0 22 rfl rfl)
theorem dX3_takeContract_24 : decode cX3_takeContract 24 = .ok (.invokevirtual 144, 3) := dk_182 0 144 (dk_at dksX3_takeContract_1 0 rfl rfl)
theorem dX3_takeContract_27 : decode cX3_takeContract 27 = .ok (.istore_n 2, 1) := dk_61 (dk_at dksX3_takeContract_1 3 rfl rfl)
theorem dX3_takeContract_28 : decode cX3_takeContract 28 = .ok (.iload_n 2, 1) := dk_28 (dk_at dksX3_takeContract_1 4 rfl rfl)
theorem dX3_takeContract_29 : decode cX3_takeContract 29 = .ok (.ifCond .le 7, 3) := dk_158 0 7 (dk_at dksX3_takeContract_1 5 rfl rfl)
theorem dX3_takeContract_32 : decode cX3_takeContract 32 = .ok (.iload_n 2, 1) := dk_28 (dk_at dksX3_takeContract_1 8 rfl rfl)
theorem dX3_takeContract_33 : decode cX3_takeContract 33 = .ok (.goto 19, 3) := dk_167 0 19 (dk_at dksX3_takeContract_1 9 rfl rfl)
theorem dX3_takeContract_36 : decode cX3_takeContract 36 = .ok (.aload_n 0, 1) := dk_42 (dk_at dksX3_takeContract_1 12 rfl rfl)
theorem dX3_takeContract_37 : decode cX3_takeContract 37 = .ok (.aload_n 0, 1) := dk_42 (dk_at dksX3_takeContract_1 13 rfl rfl)
theorem dX3_takeContract_38 : decode cX3_takeContract 38 = .ok (.getfield 59, 3) := dk_180 0 59 (dk_at dksX3_takeContract_1 14 rfl rfl)
theorem dX3_takeContract_41 : decode cX3_takeContract 41 = .ok (.iload_n 1, 1) := dk_27 (dk_at dksX3_takeContract_1 17 rfl rfl)
theorem dX3_takeContract_42 : decode cX3_takeContract 42 = .ok (.iconst 0, 1) := dk_3 (dk_at dksX3_takeContract_1 18 rfl rfl)
theorem dX3_takeContract_43 : decode cX3_takeContract 43 = .ok (.aload_n 0, 1) := dk_42 (dk_at dksX3_takeContract_1 19 rfl rfl)
theorem dX3_takeContract_44 : decode cX3_takeContract 44 = .ok (.getfield 141, 3) := dk_180 0 141 (dk_at dksX3_takeContract_1 20 rfl rfl)
theorem dX3_takeContract_47 : decode cX3_takeContract 47 = .ok (.iconst 1, 1) := dk_4 (dk_at dksX3_takeContract_1 23 rfl rfl)
theorem dX3_takeContract_48 : decode cX3_takeContract 48 = .ok (.isub, 1) := dk_100 (dk_at dksX3_takeContract_2 0 rfl rfl)
theorem dX3_takeContract_49 : decode cX3_takeContract 49 = .ok (.invokevirtual 144, 3) := dk_182 0 144 (dk_at dksX3_takeContract_2 1 rfl rfl)
theorem dX3_takeContract_52 : decode cX3_takeContract 52 = .ok (.istore_n 2, 1) := dk_61 (dk_at dksX3_takeContract_2 4 rfl rfl)
theorem dX3_takeContract_53 : decode cX3_takeContract 53 = .ok (.iload_n 2, 1) := dk_28 (dk_at dksX3_takeContract_2 5 rfl rfl)
theorem dX3_takeContract_54 : decode cX3_takeContract 54 = .ok (.ifCond .le 7, 3) := dk_158 0 7 (dk_at dksX3_takeContract_2 6 rfl rfl)
theorem dX3_takeContract_57 : decode cX3_takeContract 57 = .ok (.iload_n 2, 1) := dk_28 (dk_at dksX3_takeContract_2 9 rfl rfl)
theorem dX3_takeContract_58 : decode cX3_takeContract 58 = .ok (.goto 15, 3) := dk_167 0 15 (dk_at dksX3_takeContract_2 10 rfl rfl)
theorem dX3_takeContract_61 : decode cX3_takeContract 61 = .ok (.aload_n 0, 1) := dk_42 (dk_at dksX3_takeContract_2 13 rfl rfl)
theorem dX3_takeContract_62 : decode cX3_takeContract 62 = .ok (.aload_n 0, 1) := dk_42 (dk_at dksX3_takeContract_2 14 rfl rfl)
theorem dX3_takeContract_63 : decode cX3_takeContract 63 = .ok (.getfield 62, 3) := dk_180 0 62 (dk_at dksX3_takeContract_2 15 rfl rfl)
theorem dX3_takeContract_66 : decode cX3_takeContract 66 = .ok (.iload_n 1, 1) := dk_27 (dk_at dksX3_takeContract_2 18 rfl rfl)
theorem dX3_takeContract_67 : decode cX3_takeContract 67 = .ok (.iconst 1, 1) := dk_4 (dk_at dksX3_takeContract_2 19 rfl rfl)
theorem dX3_takeContract_68 : decode cX3_takeContract 68 = .ok (.bipush 50, 2) := dk_16 50 (dk_at dksX3_takeContract_2 20 rfl rfl)
theorem dX3_takeContract_70 : decode cX3_takeContract 70 = .ok (.invokevirtual 144, 3) := dk_182 0 144 (dk_at dksX3_takeContract_3 0 rfl rfl)
theorem dX3_takeContract_73 : decode cX3_takeContract 73 = .ok (.ireturn, 1) := dk_172 (dk_at dksX3_takeContract_3 3 rfl rfl)
abbrev cX3_takeRate : ByteArray := prog_9_method_16_code
def yX3_takeRate : MethodName := ⟨RX3, "takeRate", "()I"⟩
def dkwX3_takeRate_5 : List UInt8 := [180, 0, 74, 27, 4, 16, 20, 182, 0, 144, 172]
abbrev dktX3_takeRate_5 : List UInt8 := dkwX3_takeRate_5 ++ []
def dkwX3_takeRate_4 : List UInt8 := [42, 180, 0, 71, 27, 4, 16, 20, 182, 0, 144, 61, 28, 158, 0, 7, 28, 167, 0, 15, 42, 42]
abbrev dktX3_takeRate_4 : List UInt8 := dkwX3_takeRate_4 ++ dktX3_takeRate_5
def dkwX3_takeRate_3 : List UInt8 := [27, 46, 160, 0, 13, 42, 7, 42, 180, 0, 132, 182, 0, 128, 172, 28, 158, 0, 7, 28, 167, 0, 15, 42]
abbrev dktX3_takeRate_3 : List UInt8 := dkwX3_takeRate_3 ++ dktX3_takeRate_4
def dkwX3_takeRate_2 : List UInt8 := [42, 180, 0, 141, 4, 100, 182, 0, 144, 61, 28, 154, 0, 28, 42, 180, 0, 65, 27, 46, 42, 180, 0, 68]
abbrev dktX3_takeRate_2 : List UInt8 := dkwX3_takeRate_2 ++ dktX3_takeRate_3
def dkwX3_takeRate_1 : List UInt8 := [180, 0, 141, 4, 100, 182, 0, 144, 61, 28, 158, 0, 7, 28, 167, 0, 19, 42, 42, 180, 0, 68, 27, 3]
abbrev dktX3_takeRate_1 : List UInt8 := dkwX3_takeRate_1 ++ dktX3_takeRate_2
def dkwX3_takeRate_0 : List UInt8 := [42, 180, 0, 151, 60, 42, 89, 180, 0, 151, 4, 96, 181, 0, 151, 42, 42, 180, 0, 65, 27, 3, 42]
abbrev dktX3_takeRate_0 : List UInt8 := dkwX3_takeRate_0 ++ dktX3_takeRate_1
theorem dksX3_takeRate_0 : cX3_takeRate.data.toList.drop 0 = dktX3_takeRate_0 := by decide +kernel
theorem dksX3_takeRate_1 : cX3_takeRate.data.toList.drop 23 = dktX3_takeRate_1 := dk_seg dksX3_takeRate_0 23 rfl rfl
theorem dksX3_takeRate_2 : cX3_takeRate.data.toList.drop 47 = dktX3_takeRate_2 := dk_seg dksX3_takeRate_1 24 rfl rfl
theorem dksX3_takeRate_3 : cX3_takeRate.data.toList.drop 71 = dktX3_takeRate_3 := dk_seg dksX3_takeRate_2 24 rfl rfl
theorem dksX3_takeRate_4 : cX3_takeRate.data.toList.drop 95 = dktX3_takeRate_4 := dk_seg dksX3_takeRate_3 24 rfl rfl
theorem dksX3_takeRate_5 : cX3_takeRate.data.toList.drop 117 = dktX3_takeRate_5 := dk_seg dksX3_takeRate_4 22 rfl rfl
theorem dX3_takeRate_0 : decode cX3_takeRate 0 = .ok (.aload_n 0, 1) := dk_42 (dk_at dksX3_takeRate_0 0 rfl rfl)
theorem dX3_takeRate_1 : decode cX3_takeRate 1 = .ok (.getfield 151, 3) := dk_180 0 151 (dk_at dksX3_takeRate_0 1 rfl rfl)
theorem dX3_takeRate_4 : decode cX3_takeRate 4 = .ok (.istore_n 1, 1) := dk_60 (dk_at dksX3_takeRate_0 4 rfl rfl)
theorem dX3_takeRate_5 : decode cX3_takeRate 5 = .ok (.aload_n 0, 1) := dk_42 (dk_at dksX3_takeRate_0 5 rfl rfl)
theorem dX3_takeRate_6 : decode cX3_takeRate 6 = .ok (.dup, 1) := dk_89 (dk_at dksX3_takeRate_0 6 rfl rfl)
theorem dX3_takeRate_7 : decode cX3_takeRate 7 = .ok (.getfield 151, 3) := dk_180 0 151 (dk_at dksX3_takeRate_0 7 rfl rfl)
theorem dX3_takeRate_10 : decode cX3_takeRate 10 = .ok (.iconst 1, 1) := dk_4 (dk_at dksX3_takeRate_0 10 rfl rfl)
theorem dX3_takeRate_11 : decode cX3_takeRate 11 = .ok (.iadd, 1) := dk_96 (dk_at dksX3_takeRate_0 11 rfl rfl)
theorem dX3_takeRate_12 : decode cX3_takeRate 12 = .ok (.putfield 151, 3) := dk_181 0 151 (dk_at dksX3_takeRate_0 12 rfl rfl)
theorem dX3_takeRate_15 : decode cX3_takeRate 15 = .ok (.aload_n 0, 1) := dk_42 (dk_at dksX3_takeRate_0 15 rfl rfl)
theorem dX3_takeRate_16 : decode cX3_takeRate 16 = .ok (.aload_n 0, 1) := dk_42 (dk_at dksX3_takeRate_0 16 rfl rfl)
theorem dX3_takeRate_17 : decode cX3_takeRate 17 = .ok (.getfield 65, 3) := dk_180 0 65 (dk_at dksX3_takeRate_0 17 rfl rfl)
theorem dX3_takeRate_20 : decode cX3_takeRate 20 = .ok (.iload_n 1, 1) := dk_27 (dk_at dksX3_takeRate_0 20 rfl rfl)
theorem dX3_takeRate_21 : decode cX3_takeRate 21 = .ok (.iconst 0, 1) := dk_3 (dk_at dksX3_takeRate_0 21 rfl rfl)
theorem dX3_takeRate_22 : decode cX3_takeRate 22 = .ok (.aload_n 0, 1) := dk_42 (dk_at dksX3_takeRate_0 22 rfl rfl)
theorem dX3_takeRate_23 : decode cX3_takeRate 23 = .ok (.getfield 141, 3) := dk_180 0 141 (dk_at dksX3_takeRate_1 0 rfl rfl)
theorem dX3_takeRate_26 : decode cX3_takeRate 26 = .ok (.iconst 1, 1) := dk_4 (dk_at dksX3_takeRate_1 3 rfl rfl)
theorem dX3_takeRate_27 : decode cX3_takeRate 27 = .ok (.isub, 1) := dk_100 (dk_at dksX3_takeRate_1 4 rfl rfl)
theorem dX3_takeRate_28 : decode cX3_takeRate 28 = .ok (.invokevirtual 144, 3) := dk_182 0 144 (dk_at dksX3_takeRate_1 5 rfl rfl)
theorem dX3_takeRate_31 : decode cX3_takeRate 31 = .ok (.istore_n 2, 1) := dk_61 (dk_at dksX3_takeRate_1 8 rfl rfl)
theorem dX3_takeRate_32 : decode cX3_takeRate 32 = .ok (.iload_n 2, 1) := dk_28 (dk_at dksX3_takeRate_1 9 rfl rfl)
theorem dX3_takeRate_33 : decode cX3_takeRate 33 = .ok (.ifCond .le 7, 3) := dk_158 0 7 (dk_at dksX3_takeRate_1 10 rfl rfl)
theorem dX3_takeRate_36 : decode cX3_takeRate 36 = .ok (.iload_n 2, 1) := dk_28 (dk_at dksX3_takeRate_1 13 rfl rfl)
theorem dX3_takeRate_37 : decode cX3_takeRate 37 = .ok (.goto 19, 3) := dk_167 0 19 (dk_at dksX3_takeRate_1 14 rfl rfl)
theorem dX3_takeRate_40 : decode cX3_takeRate 40 = .ok (.aload_n 0, 1) := dk_42 (dk_at dksX3_takeRate_1 17 rfl rfl)
theorem dX3_takeRate_41 : decode cX3_takeRate 41 = .ok (.aload_n 0, 1) := dk_42 (dk_at dksX3_takeRate_1 18 rfl rfl)
theorem dX3_takeRate_42 : decode cX3_takeRate 42 = .ok (.getfield 68, 3) := dk_180 0 68 (dk_at dksX3_takeRate_1 19 rfl rfl)
theorem dX3_takeRate_45 : decode cX3_takeRate 45 = .ok (.iload_n 1, 1) := dk_27 (dk_at dksX3_takeRate_1 22 rfl rfl)
theorem dX3_takeRate_46 : decode cX3_takeRate 46 = .ok (.iconst 0, 1) := dk_3 (dk_at dksX3_takeRate_1 23 rfl rfl)
theorem dX3_takeRate_47 : decode cX3_takeRate 47 = .ok (.aload_n 0, 1) := dk_42 (dk_at dksX3_takeRate_2 0 rfl rfl)
theorem dX3_takeRate_48 : decode cX3_takeRate 48 = .ok (.getfield 141, 3) := dk_180 0 141 (dk_at dksX3_takeRate_2 1 rfl rfl)
theorem dX3_takeRate_51 : decode cX3_takeRate 51 = .ok (.iconst 1, 1) := dk_4 (dk_at dksX3_takeRate_2 4 rfl rfl)
theorem dX3_takeRate_52 : decode cX3_takeRate 52 = .ok (.isub, 1) := dk_100 (dk_at dksX3_takeRate_2 5 rfl rfl)
theorem dX3_takeRate_53 : decode cX3_takeRate 53 = .ok (.invokevirtual 144, 3) := dk_182 0 144 (dk_at dksX3_takeRate_2 6 rfl rfl)
theorem dX3_takeRate_56 : decode cX3_takeRate 56 = .ok (.istore_n 2, 1) := dk_61 (dk_at dksX3_takeRate_2 9 rfl rfl)
theorem dX3_takeRate_57 : decode cX3_takeRate 57 = .ok (.iload_n 2, 1) := dk_28 (dk_at dksX3_takeRate_2 10 rfl rfl)
theorem dX3_takeRate_58 : decode cX3_takeRate 58 = .ok (.ifCond .ne 28, 3) := dk_154 0 28 (dk_at dksX3_takeRate_2 11 rfl rfl)
theorem dX3_takeRate_61 : decode cX3_takeRate 61 = .ok (.aload_n 0, 1) := dk_42 (dk_at dksX3_takeRate_2 14 rfl rfl)
theorem dX3_takeRate_62 : decode cX3_takeRate 62 = .ok (.getfield 65, 3) := dk_180 0 65 (dk_at dksX3_takeRate_2 15 rfl rfl)
theorem dX3_takeRate_65 : decode cX3_takeRate 65 = .ok (.iload_n 1, 1) := dk_27 (dk_at dksX3_takeRate_2 18 rfl rfl)
theorem dX3_takeRate_66 : decode cX3_takeRate 66 = .ok (.iaload, 1) := dk_46 (dk_at dksX3_takeRate_2 19 rfl rfl)
theorem dX3_takeRate_67 : decode cX3_takeRate 67 = .ok (.aload_n 0, 1) := dk_42 (dk_at dksX3_takeRate_2 20 rfl rfl)
theorem dX3_takeRate_68 : decode cX3_takeRate 68 = .ok (.getfield 68, 3) := dk_180 0 68 (dk_at dksX3_takeRate_2 21 rfl rfl)
theorem dX3_takeRate_71 : decode cX3_takeRate 71 = .ok (.iload_n 1, 1) := dk_27 (dk_at dksX3_takeRate_3 0 rfl rfl)
theorem dX3_takeRate_72 : decode cX3_takeRate 72 = .ok (.iaload, 1) := dk_46 (dk_at dksX3_takeRate_3 1 rfl rfl)
theorem dX3_takeRate_73 : decode cX3_takeRate 73 = .ok (.if_icmp .ne 13, 3) := dk_160 0 13 (dk_at dksX3_takeRate_3 2 rfl rfl)
theorem dX3_takeRate_76 : decode cX3_takeRate 76 = .ok (.aload_n 0, 1) := dk_42 (dk_at dksX3_takeRate_3 5 rfl rfl)
theorem dX3_takeRate_77 : decode cX3_takeRate 77 = .ok (.iconst 4, 1) := dk_7 (dk_at dksX3_takeRate_3 6 rfl rfl)
theorem dX3_takeRate_78 : decode cX3_takeRate 78 = .ok (.aload_n 0, 1) := dk_42 (dk_at dksX3_takeRate_3 7 rfl rfl)
theorem dX3_takeRate_79 : decode cX3_takeRate 79 = .ok (.getfield 132, 3) := dk_180 0 132 (dk_at dksX3_takeRate_3 8 rfl rfl)
theorem dX3_takeRate_82 : decode cX3_takeRate 82 = .ok (.invokevirtual 128, 3) := dk_182 0 128 (dk_at dksX3_takeRate_3 11 rfl rfl)
theorem dX3_takeRate_85 : decode cX3_takeRate 85 = .ok (.ireturn, 1) := dk_172 (dk_at dksX3_takeRate_3 14 rfl rfl)
theorem dX3_takeRate_86 : decode cX3_takeRate 86 = .ok (.iload_n 2, 1) := dk_28 (dk_at dksX3_takeRate_3 15 rfl rfl)
theorem dX3_takeRate_87 : decode cX3_takeRate 87 = .ok (.ifCond .le 7, 3) := dk_158 0 7 (dk_at dksX3_takeRate_3 16 rfl rfl)
theorem dX3_takeRate_90 : decode cX3_takeRate 90 = .ok (.iload_n 2, 1) := dk_28 (dk_at dksX3_takeRate_3 19 rfl rfl)
theorem dX3_takeRate_91 : decode cX3_takeRate 91 = .ok (.goto 15, 3) := dk_167 0 15 (dk_at dksX3_takeRate_3 20 rfl rfl)
theorem dX3_takeRate_94 : decode cX3_takeRate 94 = .ok (.aload_n 0, 1) := dk_42 (dk_at dksX3_takeRate_3 23 rfl rfl)
theorem dX3_takeRate_95 : decode cX3_takeRate 95 = .ok (.aload_n 0, 1) := dk_42 (dk_at dksX3_takeRate_4 0 rfl rfl)
theorem dX3_takeRate_96 : decode cX3_takeRate 96 = .ok (.getfield 71, 3) := dk_180 0 71 (dk_at dksX3_takeRate_4 1 rfl rfl)
theorem dX3_takeRate_99 : decode cX3_takeRate 99 = .ok (.iload_n 1, 1) := dk_27 (dk_at dksX3_takeRate_4 4 rfl rfl)
theorem dX3_takeRate_100 : decode cX3_takeRate 100 = .ok (.iconst 1, 1) := dk_4 (dk_at dksX3_takeRate_4 5 rfl rfl)
theorem dX3_takeRate_101 : decode cX3_takeRate 101 = .ok (.bipush 20, 2) := dk_16 20 (dk_at dksX3_takeRate_4 6 rfl rfl)
theorem dX3_takeRate_103 : decode cX3_takeRate 103 = .ok (.invokevirtual 144, 3) := dk_182 0 144 (dk_at dksX3_takeRate_4 8 rfl rfl)
theorem dX3_takeRate_106 : decode cX3_takeRate 106 = .ok (.istore_n 2, 1) := dk_61 (dk_at dksX3_takeRate_4 11 rfl rfl)
theorem dX3_takeRate_107 : decode cX3_takeRate 107 = .ok (.iload_n 2, 1) := dk_28 (dk_at dksX3_takeRate_4 12 rfl rfl)
theorem dX3_takeRate_108 : decode cX3_takeRate 108 = .ok (.ifCond .le 7, 3) := dk_158 0 7 (dk_at dksX3_takeRate_4 13 rfl rfl)
theorem dX3_takeRate_111 : decode cX3_takeRate 111 = .ok (.iload_n 2, 1) := dk_28 (dk_at dksX3_takeRate_4 16 rfl rfl)
theorem dX3_takeRate_112 : decode cX3_takeRate 112 = .ok (.goto 15, 3) := dk_167 0 15 (dk_at dksX3_takeRate_4 17 rfl rfl)
theorem dX3_takeRate_115 : decode cX3_takeRate 115 = .ok (.aload_n 0, 1) := dk_42 (dk_at dksX3_takeRate_4 20 rfl rfl)
theorem dX3_takeRate_116 : decode cX3_takeRate 116 = .ok (.aload_n 0, 1) := dk_42 (dk_at dksX3_takeRate_4 21 rfl rfl)
theorem dX3_takeRate_117 : decode cX3_takeRate 117 = .ok (.getfield 74, 3) := dk_180 0 74 (dk_at dksX3_takeRate_5 0 rfl rfl)
theorem dX3_takeRate_120 : decode cX3_takeRate 120 = .ok (.iload_n 1, 1) := dk_27 (dk_at dksX3_takeRate_5 3 rfl rfl)
theorem dX3_takeRate_121 : decode cX3_takeRate 121 = .ok (.iconst 1, 1) := dk_4 (dk_at dksX3_takeRate_5 4 rfl rfl)
theorem dX3_takeRate_122 : decode cX3_takeRate 122 = .ok (.bipush 20, 2) := dk_16 20 (dk_at dksX3_takeRate_5 5 rfl rfl)
theorem dX3_takeRate_124 : decode cX3_takeRate 124 = .ok (.invokevirtual 144, 3) := dk_182 0 144 (dk_at dksX3_takeRate_5 7 rfl rfl)
theorem dX3_takeRate_127 : decode cX3_takeRate 127 = .ok (.ireturn, 1) := dk_172 (dk_at dksX3_takeRate_5 10 rfl rfl)
abbrev cX3_takeHeir : ByteArray := prog_9_method_17_code
def yX3_takeHeir : MethodName := ⟨RX3, "takeHeir", "()I"⟩
def dkwX3_takeHeir_4 : List UInt8 := [180, 0, 135, 79, 27, 172]
abbrev dktX3_takeHeir_4 : List UInt8 := dkwX3_takeHeir_4 ++ []
def dkwX3_takeHeir_3 : List UInt8 := [160, 0, 13, 42, 7, 42, 180, 0, 132, 182, 0, 128, 172, 27, 154, 0, 13, 42, 180, 0, 53, 28, 42]
abbrev dktX3_takeHeir_3 : List UInt8 := dkwX3_takeHeir_3 ++ dktX3_takeHeir_4
def dkwX3_takeHeir_2 : List UInt8 := [167, 0, 14, 42, 3, 42, 180, 0, 141, 4, 100, 182, 0, 138, 60, 27, 154, 0, 21, 42, 180, 0, 135, 28]
abbrev dktX3_takeHeir_2 : List UInt8 := dkwX3_takeHeir_2 ++ dktX3_takeHeir_3
def dkwX3_takeHeir_1 : List UInt8 := [180, 0, 53, 28, 46, 155, 0, 13, 42, 7, 42, 180, 0, 132, 182, 0, 128, 172, 27, 158, 0, 7, 27]
abbrev dktX3_takeHeir_1 : List UInt8 := dkwX3_takeHeir_1 ++ dktX3_takeHeir_2
def dkwX3_takeHeir_0 : List UInt8 := [42, 3, 42, 180, 0, 141, 4, 100, 182, 0, 138, 60, 42, 180, 0, 135, 61, 27, 154, 0, 22, 42]
abbrev dktX3_takeHeir_0 : List UInt8 := dkwX3_takeHeir_0 ++ dktX3_takeHeir_1
theorem dksX3_takeHeir_0 : cX3_takeHeir.data.toList.drop 0 = dktX3_takeHeir_0 := by decide +kernel
theorem dksX3_takeHeir_1 : cX3_takeHeir.data.toList.drop 22 = dktX3_takeHeir_1 := dk_seg dksX3_takeHeir_0 22 rfl rfl
theorem dksX3_takeHeir_2 : cX3_takeHeir.data.toList.drop 45 = dktX3_takeHeir_2 := dk_seg dksX3_takeHeir_1 23 rfl rfl
theorem dksX3_takeHeir_3 : cX3_takeHeir.data.toList.drop 69 = dktX3_takeHeir_3 := dk_seg dksX3_takeHeir_2 24 rfl rfl
theorem dksX3_takeHeir_4 : cX3_takeHeir.data.toList.drop 92 = dktX3_takeHeir_4 := dk_seg dksX3_takeHeir_3 23 rfl rfl
theorem dX3_takeHeir_0 : decode cX3_takeHeir 0 = .ok (.aload_n 0, 1) := dk_42 (dk_at dksX3_takeHeir_0 0 rfl rfl)
theorem dX3_takeHeir_1 : decode cX3_takeHeir 1 = .ok (.iconst 0, 1) := dk_3 (dk_at dksX3_takeHeir_0 1 rfl rfl)
theorem dX3_takeHeir_2 : decode cX3_takeHeir 2 = .ok (.aload_n 0, 1) := dk_42 (dk_at dksX3_takeHeir_0 2 rfl rfl)
theorem dX3_takeHeir_3 : decode cX3_takeHeir 3 = .ok (.getfield 141, 3) := dk_180 0 141 (dk_at dksX3_takeHeir_0 3 rfl rfl)
theorem dX3_takeHeir_6 : decode cX3_takeHeir 6 = .ok (.iconst 1, 1) := dk_4 (dk_at dksX3_takeHeir_0 6 rfl rfl)
theorem dX3_takeHeir_7 : decode cX3_takeHeir 7 = .ok (.isub, 1) := dk_100 (dk_at dksX3_takeHeir_0 7 rfl rfl)
theorem dX3_takeHeir_8 : decode cX3_takeHeir 8 = .ok (.invokevirtual 138, 3) := dk_182 0 138 (dk_at dksX3_takeHeir_0 8 rfl rfl)
theorem dX3_takeHeir_11 : decode cX3_takeHeir 11 = .ok (.istore_n 1, 1) := dk_60 (dk_at dksX3_takeHeir_0 11 rfl rfl)
theorem dX3_takeHeir_12 : decode cX3_takeHeir 12 = .ok (.aload_n 0, 1) := dk_42 (dk_at dksX3_takeHeir_0 12 rfl rfl)
theorem dX3_takeHeir_13 : decode cX3_takeHeir 13 = .ok (.getfield 135, 3) := dk_180 0 135 (dk_at dksX3_takeHeir_0 13 rfl rfl)
theorem dX3_takeHeir_16 : decode cX3_takeHeir 16 = .ok (.istore_n 2, 1) := dk_61 (dk_at dksX3_takeHeir_0 16 rfl rfl)
theorem dX3_takeHeir_17 : decode cX3_takeHeir 17 = .ok (.iload_n 1, 1) := dk_27 (dk_at dksX3_takeHeir_0 17 rfl rfl)
theorem dX3_takeHeir_18 : decode cX3_takeHeir 18 = .ok (.ifCond .ne 22, 3) := dk_154 0 22 (dk_at dksX3_takeHeir_0 18 rfl rfl)
theorem dX3_takeHeir_21 : decode cX3_takeHeir 21 = .ok (.aload_n 0, 1) := dk_42 (dk_at dksX3_takeHeir_0 21 rfl rfl)
theorem dX3_takeHeir_22 : decode cX3_takeHeir 22 = .ok (.getfield 53, 3) := dk_180 0 53 (dk_at dksX3_takeHeir_1 0 rfl rfl)
theorem dX3_takeHeir_25 : decode cX3_takeHeir 25 = .ok (.iload_n 2, 1) := dk_28 (dk_at dksX3_takeHeir_1 3 rfl rfl)
theorem dX3_takeHeir_26 : decode cX3_takeHeir 26 = .ok (.iaload, 1) := dk_46 (dk_at dksX3_takeHeir_1 4 rfl rfl)
theorem dX3_takeHeir_27 : decode cX3_takeHeir 27 = .ok (.ifCond .lt 13, 3) := dk_155 0 13 (dk_at dksX3_takeHeir_1 5 rfl rfl)
theorem dX3_takeHeir_30 : decode cX3_takeHeir 30 = .ok (.aload_n 0, 1) := dk_42 (dk_at dksX3_takeHeir_1 8 rfl rfl)
theorem dX3_takeHeir_31 : decode cX3_takeHeir 31 = .ok (.iconst 4, 1) := dk_7 (dk_at dksX3_takeHeir_1 9 rfl rfl)
theorem dX3_takeHeir_32 : decode cX3_takeHeir 32 = .ok (.aload_n 0, 1) := dk_42 (dk_at dksX3_takeHeir_1 10 rfl rfl)
theorem dX3_takeHeir_33 : decode cX3_takeHeir 33 = .ok (.getfield 132, 3) := dk_180 0 132 (dk_at dksX3_takeHeir_1 11 rfl rfl)
theorem dX3_takeHeir_36 : decode cX3_takeHeir 36 = .ok (.invokevirtual 128, 3) := dk_182 0 128 (dk_at dksX3_takeHeir_1 14 rfl rfl)
theorem dX3_takeHeir_39 : decode cX3_takeHeir 39 = .ok (.ireturn, 1) := dk_172 (dk_at dksX3_takeHeir_1 17 rfl rfl)
theorem dX3_takeHeir_40 : decode cX3_takeHeir 40 = .ok (.iload_n 1, 1) := dk_27 (dk_at dksX3_takeHeir_1 18 rfl rfl)
theorem dX3_takeHeir_41 : decode cX3_takeHeir 41 = .ok (.ifCond .le 7, 3) := dk_158 0 7 (dk_at dksX3_takeHeir_1 19 rfl rfl)
theorem dX3_takeHeir_44 : decode cX3_takeHeir 44 = .ok (.iload_n 1, 1) := dk_27 (dk_at dksX3_takeHeir_1 22 rfl rfl)
theorem dX3_takeHeir_45 : decode cX3_takeHeir 45 = .ok (.goto 14, 3) := dk_167 0 14 (dk_at dksX3_takeHeir_2 0 rfl rfl)
theorem dX3_takeHeir_48 : decode cX3_takeHeir 48 = .ok (.aload_n 0, 1) := dk_42 (dk_at dksX3_takeHeir_2 3 rfl rfl)
theorem dX3_takeHeir_49 : decode cX3_takeHeir 49 = .ok (.iconst 0, 1) := dk_3 (dk_at dksX3_takeHeir_2 4 rfl rfl)
theorem dX3_takeHeir_50 : decode cX3_takeHeir 50 = .ok (.aload_n 0, 1) := dk_42 (dk_at dksX3_takeHeir_2 5 rfl rfl)
theorem dX3_takeHeir_51 : decode cX3_takeHeir 51 = .ok (.getfield 141, 3) := dk_180 0 141 (dk_at dksX3_takeHeir_2 6 rfl rfl)
theorem dX3_takeHeir_54 : decode cX3_takeHeir 54 = .ok (.iconst 1, 1) := dk_4 (dk_at dksX3_takeHeir_2 9 rfl rfl)
theorem dX3_takeHeir_55 : decode cX3_takeHeir 55 = .ok (.isub, 1) := dk_100 (dk_at dksX3_takeHeir_2 10 rfl rfl)
theorem dX3_takeHeir_56 : decode cX3_takeHeir 56 = .ok (.invokevirtual 138, 3) := dk_182 0 138 (dk_at dksX3_takeHeir_2 11 rfl rfl)
theorem dX3_takeHeir_59 : decode cX3_takeHeir 59 = .ok (.istore_n 1, 1) := dk_60 (dk_at dksX3_takeHeir_2 14 rfl rfl)
theorem dX3_takeHeir_60 : decode cX3_takeHeir 60 = .ok (.iload_n 1, 1) := dk_27 (dk_at dksX3_takeHeir_2 15 rfl rfl)
theorem dX3_takeHeir_61 : decode cX3_takeHeir 61 = .ok (.ifCond .ne 21, 3) := dk_154 0 21 (dk_at dksX3_takeHeir_2 16 rfl rfl)
theorem dX3_takeHeir_64 : decode cX3_takeHeir 64 = .ok (.aload_n 0, 1) := dk_42 (dk_at dksX3_takeHeir_2 19 rfl rfl)
theorem dX3_takeHeir_65 : decode cX3_takeHeir 65 = .ok (.getfield 135, 3) := dk_180 0 135 (dk_at dksX3_takeHeir_2 20 rfl rfl)
theorem dX3_takeHeir_68 : decode cX3_takeHeir 68 = .ok (.iload_n 2, 1) := dk_28 (dk_at dksX3_takeHeir_2 23 rfl rfl)
theorem dX3_takeHeir_69 : decode cX3_takeHeir 69 = .ok (.if_icmp .ne 13, 3) := dk_160 0 13 (dk_at dksX3_takeHeir_3 0 rfl rfl)
theorem dX3_takeHeir_72 : decode cX3_takeHeir 72 = .ok (.aload_n 0, 1) := dk_42 (dk_at dksX3_takeHeir_3 3 rfl rfl)
theorem dX3_takeHeir_73 : decode cX3_takeHeir 73 = .ok (.iconst 4, 1) := dk_7 (dk_at dksX3_takeHeir_3 4 rfl rfl)
theorem dX3_takeHeir_74 : decode cX3_takeHeir 74 = .ok (.aload_n 0, 1) := dk_42 (dk_at dksX3_takeHeir_3 5 rfl rfl)
theorem dX3_takeHeir_75 : decode cX3_takeHeir 75 = .ok (.getfield 132, 3) := dk_180 0 132 (dk_at dksX3_takeHeir_3 6 rfl rfl)
theorem dX3_takeHeir_78 : decode cX3_takeHeir 78 = .ok (.invokevirtual 128, 3) := dk_182 0 128 (dk_at dksX3_takeHeir_3 9 rfl rfl)
theorem dX3_takeHeir_81 : decode cX3_takeHeir 81 = .ok (.ireturn, 1) := dk_172 (dk_at dksX3_takeHeir_3 12 rfl rfl)
theorem dX3_takeHeir_82 : decode cX3_takeHeir 82 = .ok (.iload_n 1, 1) := dk_27 (dk_at dksX3_takeHeir_3 13 rfl rfl)
theorem dX3_takeHeir_83 : decode cX3_takeHeir 83 = .ok (.ifCond .ne 13, 3) := dk_154 0 13 (dk_at dksX3_takeHeir_3 14 rfl rfl)
theorem dX3_takeHeir_86 : decode cX3_takeHeir 86 = .ok (.aload_n 0, 1) := dk_42 (dk_at dksX3_takeHeir_3 17 rfl rfl)
theorem dX3_takeHeir_87 : decode cX3_takeHeir 87 = .ok (.getfield 53, 3) := dk_180 0 53 (dk_at dksX3_takeHeir_3 18 rfl rfl)
theorem dX3_takeHeir_90 : decode cX3_takeHeir 90 = .ok (.iload_n 2, 1) := dk_28 (dk_at dksX3_takeHeir_3 21 rfl rfl)
theorem dX3_takeHeir_91 : decode cX3_takeHeir 91 = .ok (.aload_n 0, 1) := dk_42 (dk_at dksX3_takeHeir_3 22 rfl rfl)
theorem dX3_takeHeir_92 : decode cX3_takeHeir 92 = .ok (.getfield 135, 3) := dk_180 0 135 (dk_at dksX3_takeHeir_4 0 rfl rfl)
theorem dX3_takeHeir_95 : decode cX3_takeHeir 95 = .ok (.iastore, 1) := dk_79 (dk_at dksX3_takeHeir_4 3 rfl rfl)
theorem dX3_takeHeir_96 : decode cX3_takeHeir 96 = .ok (.iload_n 1, 1) := dk_27 (dk_at dksX3_takeHeir_4 4 rfl rfl)
theorem dX3_takeHeir_97 : decode cX3_takeHeir 97 = .ok (.ireturn, 1) := dk_172 (dk_at dksX3_takeHeir_4 5 rfl rfl)
abbrev cX3_takeRead : ByteArray := prog_9_method_19_code
def yX3_takeRead : MethodName := ⟨RX3, "takeRead", "()V"⟩
def dkwX3_takeRead_13 : List UInt8 := [177]
abbrev dktX3_takeRead_13 : List UInt8 := dkwX3_takeRead_13 ++ []
def dkwX3_takeRead_12 : List UInt8 := [180, 0, 71, 27, 46, 79, 42, 180, 0, 34, 27, 42, 180, 0, 74, 27, 46, 79, 132, 1, 1, 167, 255, 197]
abbrev dktX3_takeRead_12 : List UInt8 := dkwX3_takeRead_12 ++ dktX3_takeRead_13
def dkwX3_takeRead_11 : List UInt8 := [180, 0, 65, 27, 46, 79, 42, 180, 0, 28, 27, 42, 180, 0, 68, 27, 46, 79, 42, 180, 0, 31, 27, 42]
abbrev dktX3_takeRead_11 : List UInt8 := dkwX3_takeRead_11 ++ dktX3_takeRead_12
def dkwX3_takeRead_10 : List UInt8 := [46, 79, 132, 1, 1, 167, 255, 209, 3, 60, 27, 42, 180, 0, 169, 162, 0, 57, 42, 180, 0, 25, 27, 42]
abbrev dktX3_takeRead_10 : List UInt8 := dkwX3_takeRead_10 ++ dktX3_takeRead_11
def dkwX3_takeRead_9 : List UInt8 := [46, 79, 42, 180, 0, 19, 27, 42, 180, 0, 59, 27, 46, 79, 42, 180, 0, 22, 27, 42, 180, 0, 62, 27]
abbrev dktX3_takeRead_9 : List UInt8 := dkwX3_takeRead_9 ++ dktX3_takeRead_10
def dkwX3_takeRead_8 : List UInt8 := [16, 21, 3, 79, 3, 60, 27, 42, 180, 0, 166, 162, 0, 45, 42, 180, 0, 16, 27, 42, 180, 0, 56, 27]
abbrev dktX3_takeRead_8 : List UInt8 := dkwX3_takeRead_8 ++ dktX3_takeRead_9
def dkwX3_takeRead_7 : List UInt8 := [4, 100, 79, 42, 180, 0, 37, 16, 19, 3, 79, 42, 180, 0, 37, 16, 20, 3, 79, 42, 180, 0, 37]
abbrev dktX3_takeRead_7 : List UInt8 := dkwX3_takeRead_7 ++ dktX3_takeRead_8
def dkwX3_takeRead_6 : List UInt8 := [27, 46, 16, 9, 100, 79, 132, 1, 1, 167, 255, 228, 42, 180, 0, 37, 16, 18, 4, 42, 180, 0, 99, 120]
abbrev dktX3_takeRead_6 : List UInt8 := dkwX3_takeRead_6 ++ dktX3_takeRead_7
def dkwX3_takeRead_5 : List UInt8 := [167, 255, 213, 3, 60, 27, 7, 42, 180, 0, 99, 104, 162, 0, 24, 42, 180, 0, 7, 27, 42, 180, 0, 50]
abbrev dktX3_takeRead_5 : List UInt8 := dkwX3_takeRead_5 ++ dktX3_takeRead_6
def dkwX3_takeRead_4 : List UInt8 := [42, 180, 0, 53, 27, 46, 167, 0, 4, 2, 79, 42, 180, 0, 37, 16, 12, 27, 96, 2, 79, 132, 1, 1]
abbrev dktX3_takeRead_4 : List UInt8 := dkwX3_takeRead_4 ++ dktX3_takeRead_5
def dkwX3_takeRead_3 : List UInt8 := [167, 255, 213, 3, 60, 27, 16, 6, 162, 0, 43, 42, 180, 0, 13, 27, 27, 42, 180, 0, 99, 162, 0, 12]
abbrev dktX3_takeRead_3 : List UInt8 := dkwX3_takeRead_3 ++ dktX3_takeRead_4
def dkwX3_takeRead_2 : List UInt8 := [180, 0, 47, 27, 46, 167, 0, 14, 27, 16, 6, 162, 0, 7, 3, 167, 0, 4, 2, 79, 132, 1, 1]
abbrev dktX3_takeRead_2 : List UInt8 := dkwX3_takeRead_2 ++ dktX3_takeRead_3
def dkwX3_takeRead_1 : List UInt8 := [3, 60, 27, 16, 12, 162, 0, 43, 42, 180, 0, 37, 27, 27, 42, 180, 0, 99, 162, 0, 12, 42]
abbrev dktX3_takeRead_1 : List UInt8 := dkwX3_takeRead_1 ++ dktX3_takeRead_2
def dkwX3_takeRead_0 : List UInt8 := [42, 42, 180, 0, 141, 181, 0, 99, 42, 42, 180, 0, 148, 181, 0, 166, 42, 42, 180, 0, 151, 181, 0, 169]
abbrev dktX3_takeRead_0 : List UInt8 := dkwX3_takeRead_0 ++ dktX3_takeRead_1
theorem dksX3_takeRead_0 : cX3_takeRead.data.toList.drop 0 = dktX3_takeRead_0 := by decide +kernel
theorem dksX3_takeRead_1 : cX3_takeRead.data.toList.drop 24 = dktX3_takeRead_1 := dk_seg dksX3_takeRead_0 24 rfl rfl
theorem dksX3_takeRead_2 : cX3_takeRead.data.toList.drop 46 = dktX3_takeRead_2 := dk_seg dksX3_takeRead_1 22 rfl rfl
theorem dksX3_takeRead_3 : cX3_takeRead.data.toList.drop 69 = dktX3_takeRead_3 := dk_seg dksX3_takeRead_2 23 rfl rfl
theorem dksX3_takeRead_4 : cX3_takeRead.data.toList.drop 93 = dktX3_takeRead_4 := dk_seg dksX3_takeRead_3 24 rfl rfl
theorem dksX3_takeRead_5 : cX3_takeRead.data.toList.drop 117 = dktX3_takeRead_5 := dk_seg dksX3_takeRead_4 24 rfl rfl
theorem dksX3_takeRead_6 : cX3_takeRead.data.toList.drop 141 = dktX3_takeRead_6 := dk_seg dksX3_takeRead_5 24 rfl rfl
theorem dksX3_takeRead_7 : cX3_takeRead.data.toList.drop 165 = dktX3_takeRead_7 := dk_seg dksX3_takeRead_6 24 rfl rfl
theorem dksX3_takeRead_8 : cX3_takeRead.data.toList.drop 188 = dktX3_takeRead_8 := dk_seg dksX3_takeRead_7 23 rfl rfl
theorem dksX3_takeRead_9 : cX3_takeRead.data.toList.drop 212 = dktX3_takeRead_9 := dk_seg dksX3_takeRead_8 24 rfl rfl
theorem dksX3_takeRead_10 : cX3_takeRead.data.toList.drop 236 = dktX3_takeRead_10 := dk_seg dksX3_takeRead_9 24 rfl rfl
theorem dksX3_takeRead_11 : cX3_takeRead.data.toList.drop 260 = dktX3_takeRead_11 := dk_seg dksX3_takeRead_10 24 rfl rfl
theorem dksX3_takeRead_12 : cX3_takeRead.data.toList.drop 284 = dktX3_takeRead_12 := dk_seg dksX3_takeRead_11 24 rfl rfl
theorem dksX3_takeRead_13 : cX3_takeRead.data.toList.drop 308 = dktX3_takeRead_13 := dk_seg dksX3_takeRead_12 24 rfl rfl
theorem dX3_takeRead_0 : decode cX3_takeRead 0 = .ok (.aload_n 0, 1) := dk_42 (dk_at dksX3_takeRead_0 0 rfl rfl)
theorem dX3_takeRead_1 : decode cX3_takeRead 1 = .ok (.aload_n 0, 1) := dk_42 (dk_at dksX3_takeRead_0 1 rfl rfl)
theorem dX3_takeRead_2 : decode cX3_takeRead 2 = .ok (.getfield 141, 3) := dk_180 0 141 (dk_at dksX3_takeRead_0 2 rfl rfl)
theorem dX3_takeRead_5 : decode cX3_takeRead 5 = .ok (.putfield 99, 3) := dk_181 0 99 (dk_at dksX3_takeRead_0 5 rfl rfl)
theorem dX3_takeRead_8 : decode cX3_takeRead 8 = .ok (.aload_n 0, 1) := dk_42 (dk_at dksX3_takeRead_0 8 rfl rfl)
theorem dX3_takeRead_9 : decode cX3_takeRead 9 = .ok (.aload_n 0, 1) := dk_42 (dk_at dksX3_takeRead_0 9 rfl rfl)
theorem dX3_takeRead_10 : decode cX3_takeRead 10 = .ok (.getfield 148, 3) := dk_180 0 148 (dk_at dksX3_takeRead_0 10 rfl rfl)
theorem dX3_takeRead_13 : decode cX3_takeRead 13 = .ok (.putfield 166, 3) := dk_181 0 166 (dk_at dksX3_takeRead_0 13 rfl rfl)
theorem dX3_takeRead_16 : decode cX3_takeRead 16 = .ok (.aload_n 0, 1) := dk_42 (dk_at dksX3_takeRead_0 16 rfl rfl)
theorem dX3_takeRead_17 : decode cX3_takeRead 17 = .ok (.aload_n 0, 1) := dk_42 (dk_at dksX3_takeRead_0 17 rfl rfl)
theorem dX3_takeRead_18 : decode cX3_takeRead 18 = .ok (.getfield 151, 3) := dk_180 0 151 (dk_at dksX3_takeRead_0 18 rfl rfl)
theorem dX3_takeRead_21 : decode cX3_takeRead 21 = .ok (.putfield 169, 3) := dk_181 0 169 (dk_at dksX3_takeRead_0 21 rfl rfl)
theorem dX3_takeRead_24 : decode cX3_takeRead 24 = .ok (.iconst 0, 1) := dk_3 (dk_at dksX3_takeRead_1 0 rfl rfl)
theorem dX3_takeRead_25 : decode cX3_takeRead 25 = .ok (.istore_n 1, 1) := dk_60 (dk_at dksX3_takeRead_1 1 rfl rfl)
theorem dX3_takeRead_26 : decode cX3_takeRead 26 = .ok (.iload_n 1, 1) := dk_27 (dk_at dksX3_takeRead_1 2 rfl rfl)
theorem dX3_takeRead_27 : decode cX3_takeRead 27 = .ok (.bipush 12, 2) := dk_16 12 (dk_at dksX3_takeRead_1 3 rfl rfl)
theorem dX3_takeRead_29 : decode cX3_takeRead 29 = .ok (.if_icmp .ge 43, 3) := dk_162 0 43 (dk_at dksX3_takeRead_1 5 rfl rfl)
theorem dX3_takeRead_32 : decode cX3_takeRead 32 = .ok (.aload_n 0, 1) := dk_42 (dk_at dksX3_takeRead_1 8 rfl rfl)
theorem dX3_takeRead_33 : decode cX3_takeRead 33 = .ok (.getfield 37, 3) := dk_180 0 37 (dk_at dksX3_takeRead_1 9 rfl rfl)
theorem dX3_takeRead_36 : decode cX3_takeRead 36 = .ok (.iload_n 1, 1) := dk_27 (dk_at dksX3_takeRead_1 12 rfl rfl)
theorem dX3_takeRead_37 : decode cX3_takeRead 37 = .ok (.iload_n 1, 1) := dk_27 (dk_at dksX3_takeRead_1 13 rfl rfl)
theorem dX3_takeRead_38 : decode cX3_takeRead 38 = .ok (.aload_n 0, 1) := dk_42 (dk_at dksX3_takeRead_1 14 rfl rfl)
theorem dX3_takeRead_39 : decode cX3_takeRead 39 = .ok (.getfield 99, 3) := dk_180 0 99 (dk_at dksX3_takeRead_1 15 rfl rfl)
theorem dX3_takeRead_42 : decode cX3_takeRead 42 = .ok (.if_icmp .ge 12, 3) := dk_162 0 12 (dk_at dksX3_takeRead_1 18 rfl rfl)
theorem dX3_takeRead_45 : decode cX3_takeRead 45 = .ok (.aload_n 0, 1) := dk_42 (dk_at dksX3_takeRead_1 21 rfl rfl)
theorem dX3_takeRead_46 : decode cX3_takeRead 46 = .ok (.getfield 47, 3) := dk_180 0 47 (dk_at dksX3_takeRead_2 0 rfl rfl)
theorem dX3_takeRead_49 : decode cX3_takeRead 49 = .ok (.iload_n 1, 1) := dk_27 (dk_at dksX3_takeRead_2 3 rfl rfl)
theorem dX3_takeRead_50 : decode cX3_takeRead 50 = .ok (.iaload, 1) := dk_46 (dk_at dksX3_takeRead_2 4 rfl rfl)
theorem dX3_takeRead_51 : decode cX3_takeRead 51 = .ok (.goto 14, 3) := dk_167 0 14 (dk_at dksX3_takeRead_2 5 rfl rfl)
theorem dX3_takeRead_54 : decode cX3_takeRead 54 = .ok (.iload_n 1, 1) := dk_27 (dk_at dksX3_takeRead_2 8 rfl rfl)
theorem dX3_takeRead_55 : decode cX3_takeRead 55 = .ok (.bipush 6, 2) := dk_16 6 (dk_at dksX3_takeRead_2 9 rfl rfl)
theorem dX3_takeRead_57 : decode cX3_takeRead 57 = .ok (.if_icmp .ge 7, 3) := dk_162 0 7 (dk_at dksX3_takeRead_2 11 rfl rfl)
theorem dX3_takeRead_60 : decode cX3_takeRead 60 = .ok (.iconst 0, 1) := dk_3 (dk_at dksX3_takeRead_2 14 rfl rfl)
theorem dX3_takeRead_61 : decode cX3_takeRead 61 = .ok (.goto 4, 3) := dk_167 0 4 (dk_at dksX3_takeRead_2 15 rfl rfl)
theorem dX3_takeRead_64 : decode cX3_takeRead 64 = .ok (.iconst (-1), 1) := dk_2 (dk_at dksX3_takeRead_2 18 rfl rfl)
theorem dX3_takeRead_65 : decode cX3_takeRead 65 = .ok (.iastore, 1) := dk_79 (dk_at dksX3_takeRead_2 19 rfl rfl)
theorem dX3_takeRead_66 : decode cX3_takeRead 66 = .ok (.iinc 1 1, 3) := dk_132 1 1 (dk_at dksX3_takeRead_2 20 rfl rfl)
theorem dX3_takeRead_69 : decode cX3_takeRead 69 = .ok (.goto (-43), 3) := dk_167 255 213 (dk_at dksX3_takeRead_3 0 rfl rfl)
theorem dX3_takeRead_72 : decode cX3_takeRead 72 = .ok (.iconst 0, 1) := dk_3 (dk_at dksX3_takeRead_3 3 rfl rfl)
theorem dX3_takeRead_73 : decode cX3_takeRead 73 = .ok (.istore_n 1, 1) := dk_60 (dk_at dksX3_takeRead_3 4 rfl rfl)
theorem dX3_takeRead_74 : decode cX3_takeRead 74 = .ok (.iload_n 1, 1) := dk_27 (dk_at dksX3_takeRead_3 5 rfl rfl)
theorem dX3_takeRead_75 : decode cX3_takeRead 75 = .ok (.bipush 6, 2) := dk_16 6 (dk_at dksX3_takeRead_3 6 rfl rfl)
theorem dX3_takeRead_77 : decode cX3_takeRead 77 = .ok (.if_icmp .ge 43, 3) := dk_162 0 43 (dk_at dksX3_takeRead_3 8 rfl rfl)
theorem dX3_takeRead_80 : decode cX3_takeRead 80 = .ok (.aload_n 0, 1) := dk_42 (dk_at dksX3_takeRead_3 11 rfl rfl)
theorem dX3_takeRead_81 : decode cX3_takeRead 81 = .ok (.getfield 13, 3) := dk_180 0 13 (dk_at dksX3_takeRead_3 12 rfl rfl)
theorem dX3_takeRead_84 : decode cX3_takeRead 84 = .ok (.iload_n 1, 1) := dk_27 (dk_at dksX3_takeRead_3 15 rfl rfl)
theorem dX3_takeRead_85 : decode cX3_takeRead 85 = .ok (.iload_n 1, 1) := dk_27 (dk_at dksX3_takeRead_3 16 rfl rfl)
theorem dX3_takeRead_86 : decode cX3_takeRead 86 = .ok (.aload_n 0, 1) := dk_42 (dk_at dksX3_takeRead_3 17 rfl rfl)
theorem dX3_takeRead_87 : decode cX3_takeRead 87 = .ok (.getfield 99, 3) := dk_180 0 99 (dk_at dksX3_takeRead_3 18 rfl rfl)
theorem dX3_takeRead_90 : decode cX3_takeRead 90 = .ok (.if_icmp .ge 12, 3) := dk_162 0 12 (dk_at dksX3_takeRead_3 21 rfl rfl)
theorem dX3_takeRead_93 : decode cX3_takeRead 93 = .ok (.aload_n 0, 1) := dk_42 (dk_at dksX3_takeRead_4 0 rfl rfl)
theorem dX3_takeRead_94 : decode cX3_takeRead 94 = .ok (.getfield 53, 3) := dk_180 0 53 (dk_at dksX3_takeRead_4 1 rfl rfl)
theorem dX3_takeRead_97 : decode cX3_takeRead 97 = .ok (.iload_n 1, 1) := dk_27 (dk_at dksX3_takeRead_4 4 rfl rfl)
theorem dX3_takeRead_98 : decode cX3_takeRead 98 = .ok (.iaload, 1) := dk_46 (dk_at dksX3_takeRead_4 5 rfl rfl)
theorem dX3_takeRead_99 : decode cX3_takeRead 99 = .ok (.goto 4, 3) := dk_167 0 4 (dk_at dksX3_takeRead_4 6 rfl rfl)
theorem dX3_takeRead_102 : decode cX3_takeRead 102 = .ok (.iconst (-1), 1) := dk_2 (dk_at dksX3_takeRead_4 9 rfl rfl)
theorem dX3_takeRead_103 : decode cX3_takeRead 103 = .ok (.iastore, 1) := dk_79 (dk_at dksX3_takeRead_4 10 rfl rfl)
theorem dX3_takeRead_104 : decode cX3_takeRead 104 = .ok (.aload_n 0, 1) := dk_42 (dk_at dksX3_takeRead_4 11 rfl rfl)
theorem dX3_takeRead_105 : decode cX3_takeRead 105 = .ok (.getfield 37, 3) := dk_180 0 37 (dk_at dksX3_takeRead_4 12 rfl rfl)
theorem dX3_takeRead_108 : decode cX3_takeRead 108 = .ok (.bipush 12, 2) := dk_16 12 (dk_at dksX3_takeRead_4 15 rfl rfl)
theorem dX3_takeRead_110 : decode cX3_takeRead 110 = .ok (.iload_n 1, 1) := dk_27 (dk_at dksX3_takeRead_4 17 rfl rfl)
theorem dX3_takeRead_111 : decode cX3_takeRead 111 = .ok (.iadd, 1) := dk_96 (dk_at dksX3_takeRead_4 18 rfl rfl)
theorem dX3_takeRead_112 : decode cX3_takeRead 112 = .ok (.iconst (-1), 1) := dk_2 (dk_at dksX3_takeRead_4 19 rfl rfl)
theorem dX3_takeRead_113 : decode cX3_takeRead 113 = .ok (.iastore, 1) := dk_79 (dk_at dksX3_takeRead_4 20 rfl rfl)
theorem dX3_takeRead_114 : decode cX3_takeRead 114 = .ok (.iinc 1 1, 3) := dk_132 1 1 (dk_at dksX3_takeRead_4 21 rfl rfl)
theorem dX3_takeRead_117 : decode cX3_takeRead 117 = .ok (.goto (-43), 3) := dk_167 255 213 (dk_at dksX3_takeRead_5 0 rfl rfl)
theorem dX3_takeRead_120 : decode cX3_takeRead 120 = .ok (.iconst 0, 1) := dk_3 (dk_at dksX3_takeRead_5 3 rfl rfl)
theorem dX3_takeRead_121 : decode cX3_takeRead 121 = .ok (.istore_n 1, 1) := dk_60 (dk_at dksX3_takeRead_5 4 rfl rfl)
theorem dX3_takeRead_122 : decode cX3_takeRead 122 = .ok (.iload_n 1, 1) := dk_27 (dk_at dksX3_takeRead_5 5 rfl rfl)
theorem dX3_takeRead_123 : decode cX3_takeRead 123 = .ok (.iconst 4, 1) := dk_7 (dk_at dksX3_takeRead_5 6 rfl rfl)
theorem dX3_takeRead_124 : decode cX3_takeRead 124 = .ok (.aload_n 0, 1) := dk_42 (dk_at dksX3_takeRead_5 7 rfl rfl)
theorem dX3_takeRead_125 : decode cX3_takeRead 125 = .ok (.getfield 99, 3) := dk_180 0 99 (dk_at dksX3_takeRead_5 8 rfl rfl)
theorem dX3_takeRead_128 : decode cX3_takeRead 128 = .ok (.imul, 1) := dk_104 (dk_at dksX3_takeRead_5 11 rfl rfl)
theorem dX3_takeRead_129 : decode cX3_takeRead 129 = .ok (.if_icmp .ge 24, 3) := dk_162 0 24 (dk_at dksX3_takeRead_5 12 rfl rfl)
theorem dX3_takeRead_132 : decode cX3_takeRead 132 = .ok (.aload_n 0, 1) := dk_42 (dk_at dksX3_takeRead_5 15 rfl rfl)
theorem dX3_takeRead_133 : decode cX3_takeRead 133 = .ok (.getfield 7, 3) := dk_180 0 7 (dk_at dksX3_takeRead_5 16 rfl rfl)
theorem dX3_takeRead_136 : decode cX3_takeRead 136 = .ok (.iload_n 1, 1) := dk_27 (dk_at dksX3_takeRead_5 19 rfl rfl)
theorem dX3_takeRead_137 : decode cX3_takeRead 137 = .ok (.aload_n 0, 1) := dk_42 (dk_at dksX3_takeRead_5 20 rfl rfl)
theorem dX3_takeRead_138 : decode cX3_takeRead 138 = .ok (.getfield 50, 3) := dk_180 0 50 (dk_at dksX3_takeRead_5 21 rfl rfl)
theorem dX3_takeRead_141 : decode cX3_takeRead 141 = .ok (.iload_n 1, 1) := dk_27 (dk_at dksX3_takeRead_6 0 rfl rfl)
theorem dX3_takeRead_142 : decode cX3_takeRead 142 = .ok (.iaload, 1) := dk_46 (dk_at dksX3_takeRead_6 1 rfl rfl)
theorem dX3_takeRead_143 : decode cX3_takeRead 143 = .ok (.bipush 9, 2) := dk_16 9 (dk_at dksX3_takeRead_6 2 rfl rfl)
theorem dX3_takeRead_145 : decode cX3_takeRead 145 = .ok (.isub, 1) := dk_100 (dk_at dksX3_takeRead_6 4 rfl rfl)
theorem dX3_takeRead_146 : decode cX3_takeRead 146 = .ok (.iastore, 1) := dk_79 (dk_at dksX3_takeRead_6 5 rfl rfl)
theorem dX3_takeRead_147 : decode cX3_takeRead 147 = .ok (.iinc 1 1, 3) := dk_132 1 1 (dk_at dksX3_takeRead_6 6 rfl rfl)
theorem dX3_takeRead_150 : decode cX3_takeRead 150 = .ok (.goto (-28), 3) := dk_167 255 228 (dk_at dksX3_takeRead_6 9 rfl rfl)
theorem dX3_takeRead_153 : decode cX3_takeRead 153 = .ok (.aload_n 0, 1) := dk_42 (dk_at dksX3_takeRead_6 12 rfl rfl)
theorem dX3_takeRead_154 : decode cX3_takeRead 154 = .ok (.getfield 37, 3) := dk_180 0 37 (dk_at dksX3_takeRead_6 13 rfl rfl)
theorem dX3_takeRead_157 : decode cX3_takeRead 157 = .ok (.bipush 18, 2) := dk_16 18 (dk_at dksX3_takeRead_6 16 rfl rfl)
theorem dX3_takeRead_159 : decode cX3_takeRead 159 = .ok (.iconst 1, 1) := dk_4 (dk_at dksX3_takeRead_6 18 rfl rfl)
theorem dX3_takeRead_160 : decode cX3_takeRead 160 = .ok (.aload_n 0, 1) := dk_42 (dk_at dksX3_takeRead_6 19 rfl rfl)
theorem dX3_takeRead_161 : decode cX3_takeRead 161 = .ok (.getfield 99, 3) := dk_180 0 99 (dk_at dksX3_takeRead_6 20 rfl rfl)
theorem dX3_takeRead_164 : decode cX3_takeRead 164 = .ok (.ishl, 1) := dk_120 (dk_at dksX3_takeRead_6 23 rfl rfl)
theorem dX3_takeRead_165 : decode cX3_takeRead 165 = .ok (.iconst 1, 1) := dk_4 (dk_at dksX3_takeRead_7 0 rfl rfl)
theorem dX3_takeRead_166 : decode cX3_takeRead 166 = .ok (.isub, 1) := dk_100 (dk_at dksX3_takeRead_7 1 rfl rfl)
theorem dX3_takeRead_167 : decode cX3_takeRead 167 = .ok (.iastore, 1) := dk_79 (dk_at dksX3_takeRead_7 2 rfl rfl)
theorem dX3_takeRead_168 : decode cX3_takeRead 168 = .ok (.aload_n 0, 1) := dk_42 (dk_at dksX3_takeRead_7 3 rfl rfl)
theorem dX3_takeRead_169 : decode cX3_takeRead 169 = .ok (.getfield 37, 3) := dk_180 0 37 (dk_at dksX3_takeRead_7 4 rfl rfl)
theorem dX3_takeRead_172 : decode cX3_takeRead 172 = .ok (.bipush 19, 2) := dk_16 19 (dk_at dksX3_takeRead_7 7 rfl rfl)
theorem dX3_takeRead_174 : decode cX3_takeRead 174 = .ok (.iconst 0, 1) := dk_3 (dk_at dksX3_takeRead_7 9 rfl rfl)
theorem dX3_takeRead_175 : decode cX3_takeRead 175 = .ok (.iastore, 1) := dk_79 (dk_at dksX3_takeRead_7 10 rfl rfl)
theorem dX3_takeRead_176 : decode cX3_takeRead 176 = .ok (.aload_n 0, 1) := dk_42 (dk_at dksX3_takeRead_7 11 rfl rfl)
theorem dX3_takeRead_177 : decode cX3_takeRead 177 = .ok (.getfield 37, 3) := dk_180 0 37 (dk_at dksX3_takeRead_7 12 rfl rfl)
theorem dX3_takeRead_180 : decode cX3_takeRead 180 = .ok (.bipush 20, 2) := dk_16 20 (dk_at dksX3_takeRead_7 15 rfl rfl)
theorem dX3_takeRead_182 : decode cX3_takeRead 182 = .ok (.iconst 0, 1) := dk_3 (dk_at dksX3_takeRead_7 17 rfl rfl)
theorem dX3_takeRead_183 : decode cX3_takeRead 183 = .ok (.iastore, 1) := dk_79 (dk_at dksX3_takeRead_7 18 rfl rfl)
theorem dX3_takeRead_184 : decode cX3_takeRead 184 = .ok (.aload_n 0, 1) := dk_42 (dk_at dksX3_takeRead_7 19 rfl rfl)
theorem dX3_takeRead_185 : decode cX3_takeRead 185 = .ok (.getfield 37, 3) := dk_180 0 37 (dk_at dksX3_takeRead_7 20 rfl rfl)
theorem dX3_takeRead_188 : decode cX3_takeRead 188 = .ok (.bipush 21, 2) := dk_16 21 (dk_at dksX3_takeRead_8 0 rfl rfl)
theorem dX3_takeRead_190 : decode cX3_takeRead 190 = .ok (.iconst 0, 1) := dk_3 (dk_at dksX3_takeRead_8 2 rfl rfl)
theorem dX3_takeRead_191 : decode cX3_takeRead 191 = .ok (.iastore, 1) := dk_79 (dk_at dksX3_takeRead_8 3 rfl rfl)
theorem dX3_takeRead_192 : decode cX3_takeRead 192 = .ok (.iconst 0, 1) := dk_3 (dk_at dksX3_takeRead_8 4 rfl rfl)
theorem dX3_takeRead_193 : decode cX3_takeRead 193 = .ok (.istore_n 1, 1) := dk_60 (dk_at dksX3_takeRead_8 5 rfl rfl)
theorem dX3_takeRead_194 : decode cX3_takeRead 194 = .ok (.iload_n 1, 1) := dk_27 (dk_at dksX3_takeRead_8 6 rfl rfl)
theorem dX3_takeRead_195 : decode cX3_takeRead 195 = .ok (.aload_n 0, 1) := dk_42 (dk_at dksX3_takeRead_8 7 rfl rfl)
theorem dX3_takeRead_196 : decode cX3_takeRead 196 = .ok (.getfield 166, 3) := dk_180 0 166 (dk_at dksX3_takeRead_8 8 rfl rfl)
theorem dX3_takeRead_199 : decode cX3_takeRead 199 = .ok (.if_icmp .ge 45, 3) := dk_162 0 45 (dk_at dksX3_takeRead_8 11 rfl rfl)
theorem dX3_takeRead_202 : decode cX3_takeRead 202 = .ok (.aload_n 0, 1) := dk_42 (dk_at dksX3_takeRead_8 14 rfl rfl)
theorem dX3_takeRead_203 : decode cX3_takeRead 203 = .ok (.getfield 16, 3) := dk_180 0 16 (dk_at dksX3_takeRead_8 15 rfl rfl)
theorem dX3_takeRead_206 : decode cX3_takeRead 206 = .ok (.iload_n 1, 1) := dk_27 (dk_at dksX3_takeRead_8 18 rfl rfl)
theorem dX3_takeRead_207 : decode cX3_takeRead 207 = .ok (.aload_n 0, 1) := dk_42 (dk_at dksX3_takeRead_8 19 rfl rfl)
theorem dX3_takeRead_208 : decode cX3_takeRead 208 = .ok (.getfield 56, 3) := dk_180 0 56 (dk_at dksX3_takeRead_8 20 rfl rfl)
theorem dX3_takeRead_211 : decode cX3_takeRead 211 = .ok (.iload_n 1, 1) := dk_27 (dk_at dksX3_takeRead_8 23 rfl rfl)
theorem dX3_takeRead_212 : decode cX3_takeRead 212 = .ok (.iaload, 1) := dk_46 (dk_at dksX3_takeRead_9 0 rfl rfl)
theorem dX3_takeRead_213 : decode cX3_takeRead 213 = .ok (.iastore, 1) := dk_79 (dk_at dksX3_takeRead_9 1 rfl rfl)
theorem dX3_takeRead_214 : decode cX3_takeRead 214 = .ok (.aload_n 0, 1) := dk_42 (dk_at dksX3_takeRead_9 2 rfl rfl)
theorem dX3_takeRead_215 : decode cX3_takeRead 215 = .ok (.getfield 19, 3) := dk_180 0 19 (dk_at dksX3_takeRead_9 3 rfl rfl)
theorem dX3_takeRead_218 : decode cX3_takeRead 218 = .ok (.iload_n 1, 1) := dk_27 (dk_at dksX3_takeRead_9 6 rfl rfl)
theorem dX3_takeRead_219 : decode cX3_takeRead 219 = .ok (.aload_n 0, 1) := dk_42 (dk_at dksX3_takeRead_9 7 rfl rfl)
theorem dX3_takeRead_220 : decode cX3_takeRead 220 = .ok (.getfield 59, 3) := dk_180 0 59 (dk_at dksX3_takeRead_9 8 rfl rfl)
theorem dX3_takeRead_223 : decode cX3_takeRead 223 = .ok (.iload_n 1, 1) := dk_27 (dk_at dksX3_takeRead_9 11 rfl rfl)
theorem dX3_takeRead_224 : decode cX3_takeRead 224 = .ok (.iaload, 1) := dk_46 (dk_at dksX3_takeRead_9 12 rfl rfl)
theorem dX3_takeRead_225 : decode cX3_takeRead 225 = .ok (.iastore, 1) := dk_79 (dk_at dksX3_takeRead_9 13 rfl rfl)
theorem dX3_takeRead_226 : decode cX3_takeRead 226 = .ok (.aload_n 0, 1) := dk_42 (dk_at dksX3_takeRead_9 14 rfl rfl)
theorem dX3_takeRead_227 : decode cX3_takeRead 227 = .ok (.getfield 22, 3) := dk_180 0 22 (dk_at dksX3_takeRead_9 15 rfl rfl)
theorem dX3_takeRead_230 : decode cX3_takeRead 230 = .ok (.iload_n 1, 1) := dk_27 (dk_at dksX3_takeRead_9 18 rfl rfl)
theorem dX3_takeRead_231 : decode cX3_takeRead 231 = .ok (.aload_n 0, 1) := dk_42 (dk_at dksX3_takeRead_9 19 rfl rfl)
theorem dX3_takeRead_232 : decode cX3_takeRead 232 = .ok (.getfield 62, 3) := dk_180 0 62 (dk_at dksX3_takeRead_9 20 rfl rfl)
theorem dX3_takeRead_235 : decode cX3_takeRead 235 = .ok (.iload_n 1, 1) := dk_27 (dk_at dksX3_takeRead_9 23 rfl rfl)
theorem dX3_takeRead_236 : decode cX3_takeRead 236 = .ok (.iaload, 1) := dk_46 (dk_at dksX3_takeRead_10 0 rfl rfl)
theorem dX3_takeRead_237 : decode cX3_takeRead 237 = .ok (.iastore, 1) := dk_79 (dk_at dksX3_takeRead_10 1 rfl rfl)
theorem dX3_takeRead_238 : decode cX3_takeRead 238 = .ok (.iinc 1 1, 3) := dk_132 1 1 (dk_at dksX3_takeRead_10 2 rfl rfl)
theorem dX3_takeRead_241 : decode cX3_takeRead 241 = .ok (.goto (-47), 3) := dk_167 255 209 (dk_at dksX3_takeRead_10 5 rfl rfl)
theorem dX3_takeRead_244 : decode cX3_takeRead 244 = .ok (.iconst 0, 1) := dk_3 (dk_at dksX3_takeRead_10 8 rfl rfl)
theorem dX3_takeRead_245 : decode cX3_takeRead 245 = .ok (.istore_n 1, 1) := dk_60 (dk_at dksX3_takeRead_10 9 rfl rfl)
theorem dX3_takeRead_246 : decode cX3_takeRead 246 = .ok (.iload_n 1, 1) := dk_27 (dk_at dksX3_takeRead_10 10 rfl rfl)
theorem dX3_takeRead_247 : decode cX3_takeRead 247 = .ok (.aload_n 0, 1) := dk_42 (dk_at dksX3_takeRead_10 11 rfl rfl)
theorem dX3_takeRead_248 : decode cX3_takeRead 248 = .ok (.getfield 169, 3) := dk_180 0 169 (dk_at dksX3_takeRead_10 12 rfl rfl)
theorem dX3_takeRead_251 : decode cX3_takeRead 251 = .ok (.if_icmp .ge 57, 3) := dk_162 0 57 (dk_at dksX3_takeRead_10 15 rfl rfl)
theorem dX3_takeRead_254 : decode cX3_takeRead 254 = .ok (.aload_n 0, 1) := dk_42 (dk_at dksX3_takeRead_10 18 rfl rfl)
theorem dX3_takeRead_255 : decode cX3_takeRead 255 = .ok (.getfield 25, 3) := dk_180 0 25 (dk_at dksX3_takeRead_10 19 rfl rfl)
theorem dX3_takeRead_258 : decode cX3_takeRead 258 = .ok (.iload_n 1, 1) := dk_27 (dk_at dksX3_takeRead_10 22 rfl rfl)
theorem dX3_takeRead_259 : decode cX3_takeRead 259 = .ok (.aload_n 0, 1) := dk_42 (dk_at dksX3_takeRead_10 23 rfl rfl)
theorem dX3_takeRead_260 : decode cX3_takeRead 260 = .ok (.getfield 65, 3) := dk_180 0 65 (dk_at dksX3_takeRead_11 0 rfl rfl)
theorem dX3_takeRead_263 : decode cX3_takeRead 263 = .ok (.iload_n 1, 1) := dk_27 (dk_at dksX3_takeRead_11 3 rfl rfl)
theorem dX3_takeRead_264 : decode cX3_takeRead 264 = .ok (.iaload, 1) := dk_46 (dk_at dksX3_takeRead_11 4 rfl rfl)
theorem dX3_takeRead_265 : decode cX3_takeRead 265 = .ok (.iastore, 1) := dk_79 (dk_at dksX3_takeRead_11 5 rfl rfl)
theorem dX3_takeRead_266 : decode cX3_takeRead 266 = .ok (.aload_n 0, 1) := dk_42 (dk_at dksX3_takeRead_11 6 rfl rfl)
theorem dX3_takeRead_267 : decode cX3_takeRead 267 = .ok (.getfield 28, 3) := dk_180 0 28 (dk_at dksX3_takeRead_11 7 rfl rfl)
theorem dX3_takeRead_270 : decode cX3_takeRead 270 = .ok (.iload_n 1, 1) := dk_27 (dk_at dksX3_takeRead_11 10 rfl rfl)
theorem dX3_takeRead_271 : decode cX3_takeRead 271 = .ok (.aload_n 0, 1) := dk_42 (dk_at dksX3_takeRead_11 11 rfl rfl)
theorem dX3_takeRead_272 : decode cX3_takeRead 272 = .ok (.getfield 68, 3) := dk_180 0 68 (dk_at dksX3_takeRead_11 12 rfl rfl)
theorem dX3_takeRead_275 : decode cX3_takeRead 275 = .ok (.iload_n 1, 1) := dk_27 (dk_at dksX3_takeRead_11 15 rfl rfl)
theorem dX3_takeRead_276 : decode cX3_takeRead 276 = .ok (.iaload, 1) := dk_46 (dk_at dksX3_takeRead_11 16 rfl rfl)
theorem dX3_takeRead_277 : decode cX3_takeRead 277 = .ok (.iastore, 1) := dk_79 (dk_at dksX3_takeRead_11 17 rfl rfl)
theorem dX3_takeRead_278 : decode cX3_takeRead 278 = .ok (.aload_n 0, 1) := dk_42 (dk_at dksX3_takeRead_11 18 rfl rfl)
theorem dX3_takeRead_279 : decode cX3_takeRead 279 = .ok (.getfield 31, 3) := dk_180 0 31 (dk_at dksX3_takeRead_11 19 rfl rfl)
theorem dX3_takeRead_282 : decode cX3_takeRead 282 = .ok (.iload_n 1, 1) := dk_27 (dk_at dksX3_takeRead_11 22 rfl rfl)
theorem dX3_takeRead_283 : decode cX3_takeRead 283 = .ok (.aload_n 0, 1) := dk_42 (dk_at dksX3_takeRead_11 23 rfl rfl)
theorem dX3_takeRead_284 : decode cX3_takeRead 284 = .ok (.getfield 71, 3) := dk_180 0 71 (dk_at dksX3_takeRead_12 0 rfl rfl)
theorem dX3_takeRead_287 : decode cX3_takeRead 287 = .ok (.iload_n 1, 1) := dk_27 (dk_at dksX3_takeRead_12 3 rfl rfl)
theorem dX3_takeRead_288 : decode cX3_takeRead 288 = .ok (.iaload, 1) := dk_46 (dk_at dksX3_takeRead_12 4 rfl rfl)
theorem dX3_takeRead_289 : decode cX3_takeRead 289 = .ok (.iastore, 1) := dk_79 (dk_at dksX3_takeRead_12 5 rfl rfl)
theorem dX3_takeRead_290 : decode cX3_takeRead 290 = .ok (.aload_n 0, 1) := dk_42 (dk_at dksX3_takeRead_12 6 rfl rfl)
theorem dX3_takeRead_291 : decode cX3_takeRead 291 = .ok (.getfield 34, 3) := dk_180 0 34 (dk_at dksX3_takeRead_12 7 rfl rfl)
theorem dX3_takeRead_294 : decode cX3_takeRead 294 = .ok (.iload_n 1, 1) := dk_27 (dk_at dksX3_takeRead_12 10 rfl rfl)
theorem dX3_takeRead_295 : decode cX3_takeRead 295 = .ok (.aload_n 0, 1) := dk_42 (dk_at dksX3_takeRead_12 11 rfl rfl)
theorem dX3_takeRead_296 : decode cX3_takeRead 296 = .ok (.getfield 74, 3) := dk_180 0 74 (dk_at dksX3_takeRead_12 12 rfl rfl)
theorem dX3_takeRead_299 : decode cX3_takeRead 299 = .ok (.iload_n 1, 1) := dk_27 (dk_at dksX3_takeRead_12 15 rfl rfl)
theorem dX3_takeRead_300 : decode cX3_takeRead 300 = .ok (.iaload, 1) := dk_46 (dk_at dksX3_takeRead_12 16 rfl rfl)
theorem dX3_takeRead_301 : decode cX3_takeRead 301 = .ok (.iastore, 1) := dk_79 (dk_at dksX3_takeRead_12 17 rfl rfl)
theorem dX3_takeRead_302 : decode cX3_takeRead 302 = .ok (.iinc 1 1, 3) := dk_132 1 1 (dk_at dksX3_takeRead_12 18 rfl rfl)
theorem dX3_takeRead_305 : decode cX3_takeRead 305 = .ok (.goto (-59), 3) := dk_167 255 197 (dk_at dksX3_takeRead_12 21 rfl rfl)
theorem dX3_takeRead_308 : decode cX3_takeRead 308 = .ok (.return_, 1) := dk_177 (dk_at dksX3_takeRead_13 0 rfl rfl)
abbrev cX3_fault : ByteArray := prog_9_method_21_code
def yX3_fault : MethodName := ⟨RX3, "fault", "()I"⟩
theorem dX3_fault_0 : decode cX3_fault 0 = .ok (.aload_n 0, 1) := by decide +kernel
theorem dX3_fault_1 : decode cX3_fault 1 = .ok (.getfield 43, 3) := by decide +kernel
theorem dX3_fault_4 : decode cX3_fault 4 = .ok (.ireturn, 1) := by decide +kernel
abbrev cX3_told : ByteArray := prog_9_method_23_code
def yX3_told : MethodName := ⟨RX3, "told", "(I)I"⟩
def dkwX3_told_5 : List UInt8 := [18, 112, 172]
abbrev dktX3_told_5 : List UInt8 := dkwX3_told_5 ++ []
def dkwX3_told_4 : List UInt8 := [172, 42, 180, 0, 37, 16, 21, 46, 172, 42, 180, 0, 178, 172, 42, 180, 0, 181, 172, 42, 180, 0, 184, 172]
abbrev dktX3_told_4 : List UInt8 := dkwX3_told_4 ++ dktX3_told_5
def dkwX3_told_3 : List UInt8 := [16, 19, 46, 172, 42, 180, 0, 37, 16, 18, 46, 172, 42, 182, 0, 187, 172, 42, 180, 0, 37, 16, 20, 46]
abbrev dktX3_told_3 : List UInt8 := dkwX3_told_3 ++ dktX3_told_4
def dkwX3_told_2 : List UInt8 := [42, 180, 0, 99, 172, 42, 180, 0, 166, 172, 42, 180, 0, 169, 172, 42, 180, 0, 113, 172, 42, 180, 0, 37]
abbrev dktX3_told_2 : List UInt8 := dkwX3_told_2 ++ dktX3_told_3
def dkwX3_told_1 : List UInt8 := [170, 0, 0, 0, 0, 0, 135, 0, 0, 0, 0, 0, 0, 0, 11, 0, 0, 0, 63, 0, 0, 0, 68, 0, 0, 0, 73, 0, 0, 0, 78, 0, 0, 0, 83, 0, 0, 0, 91, 0, 0, 0, 99, 0, 0, 0, 104, 0, 0, 0, 112, 0, 0, 0, 120, 0, 0, 0, 125, 0, 0, 0, 130]
abbrev dktX3_told_1 : List UInt8 := dkwX3_told_1 ++ dktX3_told_2
def dkwX3_told_0 : List UInt8 := [27]
abbrev dktX3_told_0 : List UInt8 := dkwX3_told_0 ++ dktX3_told_1
theorem dksX3_told_0 : cX3_told.data.toList.drop 0 = dktX3_told_0 := by decide +kernel
theorem dksX3_told_1 : cX3_told.data.toList.drop 1 = dktX3_told_1 := dk_seg dksX3_told_0 1 rfl rfl
theorem dksX3_told_2 : cX3_told.data.toList.drop 64 = dktX3_told_2 := dk_seg dksX3_told_1 63 rfl rfl
theorem dksX3_told_3 : cX3_told.data.toList.drop 88 = dktX3_told_3 := dk_seg dksX3_told_2 24 rfl rfl
theorem dksX3_told_4 : cX3_told.data.toList.drop 112 = dktX3_told_4 := dk_seg dksX3_told_3 24 rfl rfl
theorem dksX3_told_5 : cX3_told.data.toList.drop 136 = dktX3_told_5 := dk_seg dksX3_told_4 24 rfl rfl
theorem dX3_told_0 : decode cX3_told 0 = .ok (.iload_n 1, 1) := dk_27 (dk_at dksX3_told_0 0 rfl rfl)
theorem dX3_told_1 : decode cX3_told 1 = .ok (.tableswitch 135 0 11 #[63, 68, 73, 78, 83, 91, 99, 104, 112, 120, 125, 130], 63) := by decide +kernel
theorem dX3_told_64 : decode cX3_told 64 = .ok (.aload_n 0, 1) := dk_42 (dk_at dksX3_told_2 0 rfl rfl)
theorem dX3_told_65 : decode cX3_told 65 = .ok (.getfield 99, 3) := dk_180 0 99 (dk_at dksX3_told_2 1 rfl rfl)
theorem dX3_told_68 : decode cX3_told 68 = .ok (.ireturn, 1) := dk_172 (dk_at dksX3_told_2 4 rfl rfl)
theorem dX3_told_69 : decode cX3_told 69 = .ok (.aload_n 0, 1) := dk_42 (dk_at dksX3_told_2 5 rfl rfl)
theorem dX3_told_70 : decode cX3_told 70 = .ok (.getfield 166, 3) := dk_180 0 166 (dk_at dksX3_told_2 6 rfl rfl)
theorem dX3_told_73 : decode cX3_told 73 = .ok (.ireturn, 1) := dk_172 (dk_at dksX3_told_2 9 rfl rfl)
theorem dX3_told_74 : decode cX3_told 74 = .ok (.aload_n 0, 1) := dk_42 (dk_at dksX3_told_2 10 rfl rfl)
theorem dX3_told_75 : decode cX3_told 75 = .ok (.getfield 169, 3) := dk_180 0 169 (dk_at dksX3_told_2 11 rfl rfl)
theorem dX3_told_78 : decode cX3_told 78 = .ok (.ireturn, 1) := dk_172 (dk_at dksX3_told_2 14 rfl rfl)
theorem dX3_told_79 : decode cX3_told 79 = .ok (.aload_n 0, 1) := dk_42 (dk_at dksX3_told_2 15 rfl rfl)
theorem dX3_told_80 : decode cX3_told 80 = .ok (.getfield 113, 3) := dk_180 0 113 (dk_at dksX3_told_2 16 rfl rfl)
theorem dX3_told_83 : decode cX3_told 83 = .ok (.ireturn, 1) := dk_172 (dk_at dksX3_told_2 19 rfl rfl)
theorem dX3_told_84 : decode cX3_told 84 = .ok (.aload_n 0, 1) := dk_42 (dk_at dksX3_told_2 20 rfl rfl)
theorem dX3_told_85 : decode cX3_told 85 = .ok (.getfield 37, 3) := dk_180 0 37 (dk_at dksX3_told_2 21 rfl rfl)
theorem dX3_told_88 : decode cX3_told 88 = .ok (.bipush 19, 2) := dk_16 19 (dk_at dksX3_told_3 0 rfl rfl)
theorem dX3_told_90 : decode cX3_told 90 = .ok (.iaload, 1) := dk_46 (dk_at dksX3_told_3 2 rfl rfl)
theorem dX3_told_91 : decode cX3_told 91 = .ok (.ireturn, 1) := dk_172 (dk_at dksX3_told_3 3 rfl rfl)
theorem dX3_told_92 : decode cX3_told 92 = .ok (.aload_n 0, 1) := dk_42 (dk_at dksX3_told_3 4 rfl rfl)
theorem dX3_told_93 : decode cX3_told 93 = .ok (.getfield 37, 3) := dk_180 0 37 (dk_at dksX3_told_3 5 rfl rfl)
theorem dX3_told_96 : decode cX3_told 96 = .ok (.bipush 18, 2) := dk_16 18 (dk_at dksX3_told_3 8 rfl rfl)
theorem dX3_told_98 : decode cX3_told 98 = .ok (.iaload, 1) := dk_46 (dk_at dksX3_told_3 10 rfl rfl)
theorem dX3_told_99 : decode cX3_told 99 = .ok (.ireturn, 1) := dk_172 (dk_at dksX3_told_3 11 rfl rfl)
theorem dX3_told_100 : decode cX3_told 100 = .ok (.aload_n 0, 1) := dk_42 (dk_at dksX3_told_3 12 rfl rfl)
theorem dX3_told_101 : decode cX3_told 101 = .ok (.invokevirtual 187, 3) := dk_182 0 187 (dk_at dksX3_told_3 13 rfl rfl)
theorem dX3_told_104 : decode cX3_told 104 = .ok (.ireturn, 1) := dk_172 (dk_at dksX3_told_3 16 rfl rfl)
theorem dX3_told_105 : decode cX3_told 105 = .ok (.aload_n 0, 1) := dk_42 (dk_at dksX3_told_3 17 rfl rfl)
theorem dX3_told_106 : decode cX3_told 106 = .ok (.getfield 37, 3) := dk_180 0 37 (dk_at dksX3_told_3 18 rfl rfl)
theorem dX3_told_109 : decode cX3_told 109 = .ok (.bipush 20, 2) := dk_16 20 (dk_at dksX3_told_3 21 rfl rfl)
theorem dX3_told_111 : decode cX3_told 111 = .ok (.iaload, 1) := dk_46 (dk_at dksX3_told_3 23 rfl rfl)
theorem dX3_told_112 : decode cX3_told 112 = .ok (.ireturn, 1) := dk_172 (dk_at dksX3_told_4 0 rfl rfl)
theorem dX3_told_113 : decode cX3_told 113 = .ok (.aload_n 0, 1) := dk_42 (dk_at dksX3_told_4 1 rfl rfl)
theorem dX3_told_114 : decode cX3_told 114 = .ok (.getfield 37, 3) := dk_180 0 37 (dk_at dksX3_told_4 2 rfl rfl)
theorem dX3_told_117 : decode cX3_told 117 = .ok (.bipush 21, 2) := dk_16 21 (dk_at dksX3_told_4 5 rfl rfl)
theorem dX3_told_119 : decode cX3_told 119 = .ok (.iaload, 1) := dk_46 (dk_at dksX3_told_4 7 rfl rfl)
theorem dX3_told_120 : decode cX3_told 120 = .ok (.ireturn, 1) := dk_172 (dk_at dksX3_told_4 8 rfl rfl)
theorem dX3_told_121 : decode cX3_told 121 = .ok (.aload_n 0, 1) := dk_42 (dk_at dksX3_told_4 9 rfl rfl)
theorem dX3_told_122 : decode cX3_told 122 = .ok (.getfield 178, 3) := dk_180 0 178 (dk_at dksX3_told_4 10 rfl rfl)
theorem dX3_told_125 : decode cX3_told 125 = .ok (.ireturn, 1) := dk_172 (dk_at dksX3_told_4 13 rfl rfl)
theorem dX3_told_126 : decode cX3_told 126 = .ok (.aload_n 0, 1) := dk_42 (dk_at dksX3_told_4 14 rfl rfl)
theorem dX3_told_127 : decode cX3_told 127 = .ok (.getfield 181, 3) := dk_180 0 181 (dk_at dksX3_told_4 15 rfl rfl)
theorem dX3_told_130 : decode cX3_told 130 = .ok (.ireturn, 1) := dk_172 (dk_at dksX3_told_4 18 rfl rfl)
theorem dX3_told_131 : decode cX3_told 131 = .ok (.aload_n 0, 1) := dk_42 (dk_at dksX3_told_4 19 rfl rfl)
theorem dX3_told_132 : decode cX3_told 132 = .ok (.getfield 184, 3) := dk_180 0 184 (dk_at dksX3_told_4 20 rfl rfl)
theorem dX3_told_135 : decode cX3_told 135 = .ok (.ireturn, 1) := dk_172 (dk_at dksX3_told_4 23 rfl rfl)
theorem dX3_told_136 : decode cX3_told 136 = .ok (.ldc 112, 2) := dk_18 112 (dk_at dksX3_told_5 0 rfl rfl)
theorem dX3_told_138 : decode cX3_told 138 = .ok (.ireturn, 1) := dk_172 (dk_at dksX3_told_5 2 rfl rfl)
abbrev cX3_copied : ByteArray := prog_9_method_22_code
def yX3_copied : MethodName := ⟨RX3, "copied", "()I"⟩
def dkwX3_copied_1 : List UInt8 := [155, 0, 9, 4, 28, 120, 167, 0, 4, 3, 128, 60, 132, 2, 1, 167, 255, 223, 27, 172]
abbrev dktX3_copied_1 : List UInt8 := dkwX3_copied_1 ++ []
def dkwX3_copied_0 : List UInt8 := [3, 60, 3, 61, 28, 42, 180, 0, 99, 162, 0, 31, 27, 42, 180, 0, 37, 16, 6, 28, 96, 46]
abbrev dktX3_copied_0 : List UInt8 := dkwX3_copied_0 ++ dktX3_copied_1
theorem dksX3_copied_0 : cX3_copied.data.toList.drop 0 = dktX3_copied_0 := by decide +kernel
theorem dksX3_copied_1 : cX3_copied.data.toList.drop 22 = dktX3_copied_1 := dk_seg dksX3_copied_0 22 rfl rfl
theorem dX3_copied_0 : decode cX3_copied 0 = .ok (.iconst 0, 1) := dk_3 (dk_at dksX3_copied_0 0 rfl rfl)
theorem dX3_copied_1 : decode cX3_copied 1 = .ok (.istore_n 1, 1) := dk_60 (dk_at dksX3_copied_0 1 rfl rfl)
theorem dX3_copied_2 : decode cX3_copied 2 = .ok (.iconst 0, 1) := dk_3 (dk_at dksX3_copied_0 2 rfl rfl)
theorem dX3_copied_3 : decode cX3_copied 3 = .ok (.istore_n 2, 1) := dk_61 (dk_at dksX3_copied_0 3 rfl rfl)
theorem dX3_copied_4 : decode cX3_copied 4 = .ok (.iload_n 2, 1) := dk_28 (dk_at dksX3_copied_0 4 rfl rfl)
theorem dX3_copied_5 : decode cX3_copied 5 = .ok (.aload_n 0, 1) := dk_42 (dk_at dksX3_copied_0 5 rfl rfl)
theorem dX3_copied_6 : decode cX3_copied 6 = .ok (.getfield 99, 3) := dk_180 0 99 (dk_at dksX3_copied_0 6 rfl rfl)
theorem dX3_copied_9 : decode cX3_copied 9 = .ok (.if_icmp .ge 31, 3) := dk_162 0 31 (dk_at dksX3_copied_0 9 rfl rfl)
theorem dX3_copied_12 : decode cX3_copied 12 = .ok (.iload_n 1, 1) := dk_27 (dk_at dksX3_copied_0 12 rfl rfl)
theorem dX3_copied_13 : decode cX3_copied 13 = .ok (.aload_n 0, 1) := dk_42 (dk_at dksX3_copied_0 13 rfl rfl)
theorem dX3_copied_14 : decode cX3_copied 14 = .ok (.getfield 37, 3) := dk_180 0 37 (dk_at dksX3_copied_0 14 rfl rfl)
theorem dX3_copied_17 : decode cX3_copied 17 = .ok (.bipush 6, 2) := dk_16 6 (dk_at dksX3_copied_0 17 rfl rfl)
theorem dX3_copied_19 : decode cX3_copied 19 = .ok (.iload_n 2, 1) := dk_28 (dk_at dksX3_copied_0 19 rfl rfl)
theorem dX3_copied_20 : decode cX3_copied 20 = .ok (.iadd, 1) := dk_96 (dk_at dksX3_copied_0 20 rfl rfl)
theorem dX3_copied_21 : decode cX3_copied 21 = .ok (.iaload, 1) := dk_46 (dk_at dksX3_copied_0 21 rfl rfl)
theorem dX3_copied_22 : decode cX3_copied 22 = .ok (.ifCond .lt 9, 3) := dk_155 0 9 (dk_at dksX3_copied_1 0 rfl rfl)
theorem dX3_copied_25 : decode cX3_copied 25 = .ok (.iconst 1, 1) := dk_4 (dk_at dksX3_copied_1 3 rfl rfl)
theorem dX3_copied_26 : decode cX3_copied 26 = .ok (.iload_n 2, 1) := dk_28 (dk_at dksX3_copied_1 4 rfl rfl)
theorem dX3_copied_27 : decode cX3_copied 27 = .ok (.ishl, 1) := dk_120 (dk_at dksX3_copied_1 5 rfl rfl)
theorem dX3_copied_28 : decode cX3_copied 28 = .ok (.goto 4, 3) := dk_167 0 4 (dk_at dksX3_copied_1 6 rfl rfl)
theorem dX3_copied_31 : decode cX3_copied 31 = .ok (.iconst 0, 1) := dk_3 (dk_at dksX3_copied_1 9 rfl rfl)
theorem dX3_copied_32 : decode cX3_copied 32 = .ok (.ior, 1) := dk_128 (dk_at dksX3_copied_1 10 rfl rfl)
theorem dX3_copied_33 : decode cX3_copied 33 = .ok (.istore_n 1, 1) := dk_60 (dk_at dksX3_copied_1 11 rfl rfl)
theorem dX3_copied_34 : decode cX3_copied 34 = .ok (.iinc 2 1, 3) := dk_132 2 1 (dk_at dksX3_copied_1 12 rfl rfl)
theorem dX3_copied_37 : decode cX3_copied 37 = .ok (.goto (-33), 3) := dk_167 255 223 (dk_at dksX3_copied_1 15 rfl rfl)
theorem dX3_copied_40 : decode cX3_copied 40 = .ok (.iload_n 1, 1) := dk_27 (dk_at dksX3_copied_1 18 rfl rfl)
theorem dX3_copied_41 : decode cX3_copied 41 = .ok (.ireturn, 1) := dk_172 (dk_at dksX3_copied_1 19 rfl rfl)
abbrev cX3_limb : ByteArray := prog_9_method_27_code
def yX3_limb : MethodName := ⟨RX3, "limb", "(II)I"⟩
def dkwX3_limb_5 : List UInt8 := [16, 9, 96, 167, 0, 5, 18, 112, 172]
abbrev dktX3_limb_5 : List UInt8 := dkwX3_limb_5 ++ []
def dkwX3_limb_4 : List UInt8 := [20, 0, 208, 20, 0, 210, 184, 0, 102, 153, 0, 21, 42, 180, 0, 7, 7, 27, 104, 28, 96, 8, 100, 46]
abbrev dktX3_limb_4 : List UInt8 := dkwX3_limb_4 ++ dktX3_limb_5
def dkwX3_limb_3 : List UInt8 := [182, 0, 190, 153, 0, 7, 4, 167, 0, 4, 3, 172, 42, 180, 0, 37, 16, 6, 27, 96, 46, 172, 28, 133]
abbrev dktX3_limb_3 : List UInt8 := dkwX3_limb_3 ++ dktX3_limb_4
def dkwX3_limb_2 : List UInt8 := [42, 180, 0, 37, 27, 46, 172, 42, 27, 182, 0, 204, 172, 42, 180, 0, 13, 27, 46, 172, 42, 27]
abbrev dktX3_limb_2 : List UInt8 := dkwX3_limb_2 ++ dktX3_limb_3
def dkwX3_limb_1 : List UInt8 := [170, 0, 0, 0, 0, 0, 0, 80, 0, 0, 0, 0, 0, 0, 0, 4, 0, 0, 0, 36, 0, 0, 0, 43, 0, 0, 0, 49, 0, 0, 0, 56, 0, 0, 0, 70]
abbrev dktX3_limb_1 : List UInt8 := dkwX3_limb_1 ++ dktX3_limb_2
def dkwX3_limb_0 : List UInt8 := [42, 27, 182, 0, 200, 154, 0, 6, 18, 203, 172, 28]
abbrev dktX3_limb_0 : List UInt8 := dkwX3_limb_0 ++ dktX3_limb_1
theorem dksX3_limb_0 : cX3_limb.data.toList.drop 0 = dktX3_limb_0 := by decide +kernel
theorem dksX3_limb_1 : cX3_limb.data.toList.drop 12 = dktX3_limb_1 := dk_seg dksX3_limb_0 12 rfl rfl
theorem dksX3_limb_2 : cX3_limb.data.toList.drop 48 = dktX3_limb_2 := dk_seg dksX3_limb_1 36 rfl rfl
theorem dksX3_limb_3 : cX3_limb.data.toList.drop 70 = dktX3_limb_3 := dk_seg dksX3_limb_2 22 rfl rfl
theorem dksX3_limb_4 : cX3_limb.data.toList.drop 94 = dktX3_limb_4 := dk_seg dksX3_limb_3 24 rfl rfl
theorem dksX3_limb_5 : cX3_limb.data.toList.drop 118 = dktX3_limb_5 := dk_seg dksX3_limb_4 24 rfl rfl
theorem dX3_limb_0 : decode cX3_limb 0 = .ok (.aload_n 0, 1) := dk_42 (dk_at dksX3_limb_0 0 rfl rfl)
theorem dX3_limb_1 : decode cX3_limb 1 = .ok (.iload_n 1, 1) := dk_27 (dk_at dksX3_limb_0 1 rfl rfl)
theorem dX3_limb_2 : decode cX3_limb 2 = .ok (.invokevirtual 200, 3) := dk_182 0 200 (dk_at dksX3_limb_0 2 rfl rfl)
theorem dX3_limb_5 : decode cX3_limb 5 = .ok (.ifCond .ne 6, 3) := dk_154 0 6 (dk_at dksX3_limb_0 5 rfl rfl)
theorem dX3_limb_8 : decode cX3_limb 8 = .ok (.ldc 203, 2) := dk_18 203 (dk_at dksX3_limb_0 8 rfl rfl)
theorem dX3_limb_10 : decode cX3_limb 10 = .ok (.ireturn, 1) := dk_172 (dk_at dksX3_limb_0 10 rfl rfl)
theorem dX3_limb_11 : decode cX3_limb 11 = .ok (.iload_n 2, 1) := dk_28 (dk_at dksX3_limb_0 11 rfl rfl)
theorem dX3_limb_12 : decode cX3_limb 12 = .ok (.tableswitch 80 0 4 #[36, 43, 49, 56, 70], 36) := by decide +kernel
theorem dX3_limb_48 : decode cX3_limb 48 = .ok (.aload_n 0, 1) := dk_42 (dk_at dksX3_limb_2 0 rfl rfl)
theorem dX3_limb_49 : decode cX3_limb 49 = .ok (.getfield 37, 3) := dk_180 0 37 (dk_at dksX3_limb_2 1 rfl rfl)
theorem dX3_limb_52 : decode cX3_limb 52 = .ok (.iload_n 1, 1) := dk_27 (dk_at dksX3_limb_2 4 rfl rfl)
theorem dX3_limb_53 : decode cX3_limb 53 = .ok (.iaload, 1) := dk_46 (dk_at dksX3_limb_2 5 rfl rfl)
theorem dX3_limb_54 : decode cX3_limb 54 = .ok (.ireturn, 1) := dk_172 (dk_at dksX3_limb_2 6 rfl rfl)
theorem dX3_limb_55 : decode cX3_limb 55 = .ok (.aload_n 0, 1) := dk_42 (dk_at dksX3_limb_2 7 rfl rfl)
theorem dX3_limb_56 : decode cX3_limb 56 = .ok (.iload_n 1, 1) := dk_27 (dk_at dksX3_limb_2 8 rfl rfl)
theorem dX3_limb_57 : decode cX3_limb 57 = .ok (.invokevirtual 204, 3) := dk_182 0 204 (dk_at dksX3_limb_2 9 rfl rfl)
theorem dX3_limb_60 : decode cX3_limb 60 = .ok (.ireturn, 1) := dk_172 (dk_at dksX3_limb_2 12 rfl rfl)
theorem dX3_limb_61 : decode cX3_limb 61 = .ok (.aload_n 0, 1) := dk_42 (dk_at dksX3_limb_2 13 rfl rfl)
theorem dX3_limb_62 : decode cX3_limb 62 = .ok (.getfield 13, 3) := dk_180 0 13 (dk_at dksX3_limb_2 14 rfl rfl)
theorem dX3_limb_65 : decode cX3_limb 65 = .ok (.iload_n 1, 1) := dk_27 (dk_at dksX3_limb_2 17 rfl rfl)
theorem dX3_limb_66 : decode cX3_limb 66 = .ok (.iaload, 1) := dk_46 (dk_at dksX3_limb_2 18 rfl rfl)
theorem dX3_limb_67 : decode cX3_limb 67 = .ok (.ireturn, 1) := dk_172 (dk_at dksX3_limb_2 19 rfl rfl)
theorem dX3_limb_68 : decode cX3_limb 68 = .ok (.aload_n 0, 1) := dk_42 (dk_at dksX3_limb_2 20 rfl rfl)
theorem dX3_limb_69 : decode cX3_limb 69 = .ok (.iload_n 1, 1) := dk_27 (dk_at dksX3_limb_2 21 rfl rfl)
theorem dX3_limb_70 : decode cX3_limb 70 = .ok (.invokevirtual 190, 3) := dk_182 0 190 (dk_at dksX3_limb_3 0 rfl rfl)
theorem dX3_limb_73 : decode cX3_limb 73 = .ok (.ifCond .eq 7, 3) := dk_153 0 7 (dk_at dksX3_limb_3 3 rfl rfl)
theorem dX3_limb_76 : decode cX3_limb 76 = .ok (.iconst 1, 1) := dk_4 (dk_at dksX3_limb_3 6 rfl rfl)
theorem dX3_limb_77 : decode cX3_limb 77 = .ok (.goto 4, 3) := dk_167 0 4 (dk_at dksX3_limb_3 7 rfl rfl)
theorem dX3_limb_80 : decode cX3_limb 80 = .ok (.iconst 0, 1) := dk_3 (dk_at dksX3_limb_3 10 rfl rfl)
theorem dX3_limb_81 : decode cX3_limb 81 = .ok (.ireturn, 1) := dk_172 (dk_at dksX3_limb_3 11 rfl rfl)
theorem dX3_limb_82 : decode cX3_limb 82 = .ok (.aload_n 0, 1) := dk_42 (dk_at dksX3_limb_3 12 rfl rfl)
theorem dX3_limb_83 : decode cX3_limb 83 = .ok (.getfield 37, 3) := dk_180 0 37 (dk_at dksX3_limb_3 13 rfl rfl)
theorem dX3_limb_86 : decode cX3_limb 86 = .ok (.bipush 6, 2) := dk_16 6 (dk_at dksX3_limb_3 16 rfl rfl)
theorem dX3_limb_88 : decode cX3_limb 88 = .ok (.iload_n 1, 1) := dk_27 (dk_at dksX3_limb_3 18 rfl rfl)
theorem dX3_limb_89 : decode cX3_limb 89 = .ok (.iadd, 1) := dk_96 (dk_at dksX3_limb_3 19 rfl rfl)
theorem dX3_limb_90 : decode cX3_limb 90 = .ok (.iaload, 1) := dk_46 (dk_at dksX3_limb_3 20 rfl rfl)
theorem dX3_limb_91 : decode cX3_limb 91 = .ok (.ireturn, 1) := dk_172 (dk_at dksX3_limb_3 21 rfl rfl)
theorem dX3_limb_92 : decode cX3_limb 92 = .ok (.iload_n 2, 1) := dk_28 (dk_at dksX3_limb_3 22 rfl rfl)
theorem dX3_limb_93 : decode cX3_limb 93 = .ok (.i2l, 1) := dk_133 (dk_at dksX3_limb_3 23 rfl rfl)
theorem dX3_limb_94 : decode cX3_limb 94 = .ok (.ldc2_w 208, 3) := dk_20 0 208 (dk_at dksX3_limb_4 0 rfl rfl)
theorem dX3_limb_97 : decode cX3_limb 97 = .ok (.ldc2_w 210, 3) := dk_20 0 210 (dk_at dksX3_limb_4 3 rfl rfl)
theorem dX3_limb_100 : decode cX3_limb 100 = .ok (.invokestatic 102, 3) := dk_184 0 102 (dk_at dksX3_limb_4 6 rfl rfl)
theorem dX3_limb_103 : decode cX3_limb 103 = .ok (.ifCond .eq 21, 3) := dk_153 0 21 (dk_at dksX3_limb_4 9 rfl rfl)
theorem dX3_limb_106 : decode cX3_limb 106 = .ok (.aload_n 0, 1) := dk_42 (dk_at dksX3_limb_4 12 rfl rfl)
theorem dX3_limb_107 : decode cX3_limb 107 = .ok (.getfield 7, 3) := dk_180 0 7 (dk_at dksX3_limb_4 13 rfl rfl)
theorem dX3_limb_110 : decode cX3_limb 110 = .ok (.iconst 4, 1) := dk_7 (dk_at dksX3_limb_4 16 rfl rfl)
theorem dX3_limb_111 : decode cX3_limb 111 = .ok (.iload_n 1, 1) := dk_27 (dk_at dksX3_limb_4 17 rfl rfl)
theorem dX3_limb_112 : decode cX3_limb 112 = .ok (.imul, 1) := dk_104 (dk_at dksX3_limb_4 18 rfl rfl)
theorem dX3_limb_113 : decode cX3_limb 113 = .ok (.iload_n 2, 1) := dk_28 (dk_at dksX3_limb_4 19 rfl rfl)
theorem dX3_limb_114 : decode cX3_limb 114 = .ok (.iadd, 1) := dk_96 (dk_at dksX3_limb_4 20 rfl rfl)
theorem dX3_limb_115 : decode cX3_limb 115 = .ok (.iconst 5, 1) := dk_8 (dk_at dksX3_limb_4 21 rfl rfl)
theorem dX3_limb_116 : decode cX3_limb 116 = .ok (.isub, 1) := dk_100 (dk_at dksX3_limb_4 22 rfl rfl)
theorem dX3_limb_117 : decode cX3_limb 117 = .ok (.iaload, 1) := dk_46 (dk_at dksX3_limb_4 23 rfl rfl)
theorem dX3_limb_118 : decode cX3_limb 118 = .ok (.bipush 9, 2) := dk_16 9 (dk_at dksX3_limb_5 0 rfl rfl)
theorem dX3_limb_120 : decode cX3_limb 120 = .ok (.iadd, 1) := dk_96 (dk_at dksX3_limb_5 2 rfl rfl)
theorem dX3_limb_121 : decode cX3_limb 121 = .ok (.goto 5, 3) := dk_167 0 5 (dk_at dksX3_limb_5 3 rfl rfl)
theorem dX3_limb_124 : decode cX3_limb 124 = .ok (.ldc 112, 2) := dk_18 112 (dk_at dksX3_limb_5 6 rfl rfl)
theorem dX3_limb_126 : decode cX3_limb 126 = .ok (.ireturn, 1) := dk_172 (dk_at dksX3_limb_5 8 rfl rfl)
abbrev cX3_isLimb : ByteArray := prog_9_method_7_code
def yX3_isLimb : MethodName := ⟨RX3, "isLimb", "(I)Z"⟩
def dkwX3_isLimb_0 : List UInt8 := [27, 133, 9, 42, 180, 0, 99, 4, 100, 133, 184, 0, 102, 172]
abbrev dktX3_isLimb_0 : List UInt8 := dkwX3_isLimb_0 ++ []
theorem dksX3_isLimb_0 : cX3_isLimb.data.toList.drop 0 = dktX3_isLimb_0 := by decide +kernel
theorem dX3_isLimb_0 : decode cX3_isLimb 0 = .ok (.iload_n 1, 1) := dk_27 (dk_at dksX3_isLimb_0 0 rfl rfl)
theorem dX3_isLimb_1 : decode cX3_isLimb 1 = .ok (.i2l, 1) := dk_133 (dk_at dksX3_isLimb_0 1 rfl rfl)
theorem dX3_isLimb_2 : decode cX3_isLimb 2 = .ok (.lconst 0, 1) := dk_9 (dk_at dksX3_isLimb_0 2 rfl rfl)
theorem dX3_isLimb_3 : decode cX3_isLimb 3 = .ok (.aload_n 0, 1) := dk_42 (dk_at dksX3_isLimb_0 3 rfl rfl)
theorem dX3_isLimb_4 : decode cX3_isLimb 4 = .ok (.getfield 99, 3) := dk_180 0 99 (dk_at dksX3_isLimb_0 4 rfl rfl)
theorem dX3_isLimb_7 : decode cX3_isLimb 7 = .ok (.iconst 1, 1) := dk_4 (dk_at dksX3_isLimb_0 7 rfl rfl)
theorem dX3_isLimb_8 : decode cX3_isLimb 8 = .ok (.isub, 1) := dk_100 (dk_at dksX3_isLimb_0 8 rfl rfl)
theorem dX3_isLimb_9 : decode cX3_isLimb 9 = .ok (.i2l, 1) := dk_133 (dk_at dksX3_isLimb_0 9 rfl rfl)
theorem dX3_isLimb_10 : decode cX3_isLimb 10 = .ok (.invokestatic 102, 3) := dk_184 0 102 (dk_at dksX3_isLimb_0 10 rfl rfl)
theorem dX3_isLimb_13 : decode cX3_isLimb 13 = .ok (.ireturn, 1) := dk_172 (dk_at dksX3_isLimb_0 13 rfl rfl)
abbrev cX3_measureNow : ByteArray := prog_9_method_26_code
def yX3_measureNow : MethodName := ⟨RX3, "measureNow", "(I)I"⟩
def dkwX3_measureNow_0 : List UInt8 := [42, 27, 42, 180, 0, 37, 16, 19, 46, 182, 0, 197, 172]
abbrev dktX3_measureNow_0 : List UInt8 := dkwX3_measureNow_0 ++ []
theorem dksX3_measureNow_0 : cX3_measureNow.data.toList.drop 0 = dktX3_measureNow_0 := by decide +kernel
theorem dX3_measureNow_0 : decode cX3_measureNow 0 = .ok (.aload_n 0, 1) := dk_42 (dk_at dksX3_measureNow_0 0 rfl rfl)
theorem dX3_measureNow_1 : decode cX3_measureNow 1 = .ok (.iload_n 1, 1) := dk_27 (dk_at dksX3_measureNow_0 1 rfl rfl)
theorem dX3_measureNow_2 : decode cX3_measureNow 2 = .ok (.aload_n 0, 1) := dk_42 (dk_at dksX3_measureNow_0 2 rfl rfl)
theorem dX3_measureNow_3 : decode cX3_measureNow 3 = .ok (.getfield 37, 3) := dk_180 0 37 (dk_at dksX3_measureNow_0 3 rfl rfl)
theorem dX3_measureNow_6 : decode cX3_measureNow 6 = .ok (.bipush 19, 2) := dk_16 19 (dk_at dksX3_measureNow_0 6 rfl rfl)
theorem dX3_measureNow_8 : decode cX3_measureNow 8 = .ok (.iaload, 1) := dk_46 (dk_at dksX3_measureNow_0 8 rfl rfl)
theorem dX3_measureNow_9 : decode cX3_measureNow 9 = .ok (.invokevirtual 197, 3) := dk_182 0 197 (dk_at dksX3_measureNow_0 9 rfl rfl)
theorem dX3_measureNow_12 : decode cX3_measureNow 12 = .ok (.ireturn, 1) := dk_172 (dk_at dksX3_measureNow_0 12 rfl rfl)
abbrev cX3_measure : ByteArray := prog_9_method_25_code
def yX3_measure : MethodName := ⟨RX3, "measure", "(II)I"⟩
def dkwX3_measure_2 : List UInt8 := [28, 182, 0, 194, 172, 42, 180, 0, 13, 29, 46, 62, 132, 4, 1, 167, 255, 198, 3, 172]
abbrev dktX3_measure_2 : List UInt8 := dkwX3_measure_2 ++ []
def dkwX3_measure_1 : List UInt8 := [46, 155, 0, 13, 42, 180, 0, 37, 16, 6, 29, 96, 46, 172, 42, 29, 182, 0, 190, 153, 0, 10, 42, 29]
abbrev dktX3_measure_1 : List UInt8 := dkwX3_measure_1 ++ dktX3_measure_2
def dkwX3_measure_0 : List UInt8 := [27, 62, 3, 54, 4, 21, 4, 16, 6, 163, 0, 57, 29, 155, 0, 53, 42, 180, 0, 37, 16, 6, 29, 96]
abbrev dktX3_measure_0 : List UInt8 := dkwX3_measure_0 ++ dktX3_measure_1
theorem dksX3_measure_0 : cX3_measure.data.toList.drop 0 = dktX3_measure_0 := by decide +kernel
theorem dksX3_measure_1 : cX3_measure.data.toList.drop 24 = dktX3_measure_1 := dk_seg dksX3_measure_0 24 rfl rfl
theorem dksX3_measure_2 : cX3_measure.data.toList.drop 48 = dktX3_measure_2 := dk_seg dksX3_measure_1 24 rfl rfl
theorem dX3_measure_0 : decode cX3_measure 0 = .ok (.iload_n 1, 1) := dk_27 (dk_at dksX3_measure_0 0 rfl rfl)
theorem dX3_measure_1 : decode cX3_measure 1 = .ok (.istore_n 3, 1) := dk_62 (dk_at dksX3_measure_0 1 rfl rfl)
theorem dX3_measure_2 : decode cX3_measure 2 = .ok (.iconst 0, 1) := dk_3 (dk_at dksX3_measure_0 2 rfl rfl)
theorem dX3_measure_3 : decode cX3_measure 3 = .ok (.istore 4, 2) := dk_54 4 (dk_at dksX3_measure_0 3 rfl rfl)
theorem dX3_measure_5 : decode cX3_measure 5 = .ok (.iload 4, 2) := dk_21 4 (dk_at dksX3_measure_0 5 rfl rfl)
theorem dX3_measure_7 : decode cX3_measure 7 = .ok (.bipush 6, 2) := dk_16 6 (dk_at dksX3_measure_0 7 rfl rfl)
theorem dX3_measure_9 : decode cX3_measure 9 = .ok (.if_icmp .gt 57, 3) := dk_163 0 57 (dk_at dksX3_measure_0 9 rfl rfl)
theorem dX3_measure_12 : decode cX3_measure 12 = .ok (.iload_n 3, 1) := dk_29 (dk_at dksX3_measure_0 12 rfl rfl)
theorem dX3_measure_13 : decode cX3_measure 13 = .ok (.ifCond .lt 53, 3) := dk_155 0 53 (dk_at dksX3_measure_0 13 rfl rfl)
theorem dX3_measure_16 : decode cX3_measure 16 = .ok (.aload_n 0, 1) := dk_42 (dk_at dksX3_measure_0 16 rfl rfl)
theorem dX3_measure_17 : decode cX3_measure 17 = .ok (.getfield 37, 3) := dk_180 0 37 (dk_at dksX3_measure_0 17 rfl rfl)
theorem dX3_measure_20 : decode cX3_measure 20 = .ok (.bipush 6, 2) := dk_16 6 (dk_at dksX3_measure_0 20 rfl rfl)
theorem dX3_measure_22 : decode cX3_measure 22 = .ok (.iload_n 3, 1) := dk_29 (dk_at dksX3_measure_0 22 rfl rfl)
theorem dX3_measure_23 : decode cX3_measure 23 = .ok (.iadd, 1) := dk_96 (dk_at dksX3_measure_0 23 rfl rfl)
theorem dX3_measure_24 : decode cX3_measure 24 = .ok (.iaload, 1) := dk_46 (dk_at dksX3_measure_1 0 rfl rfl)
theorem dX3_measure_25 : decode cX3_measure 25 = .ok (.ifCond .lt 13, 3) := dk_155 0 13 (dk_at dksX3_measure_1 1 rfl rfl)
theorem dX3_measure_28 : decode cX3_measure 28 = .ok (.aload_n 0, 1) := dk_42 (dk_at dksX3_measure_1 4 rfl rfl)
theorem dX3_measure_29 : decode cX3_measure 29 = .ok (.getfield 37, 3) := dk_180 0 37 (dk_at dksX3_measure_1 5 rfl rfl)
theorem dX3_measure_32 : decode cX3_measure 32 = .ok (.bipush 6, 2) := dk_16 6 (dk_at dksX3_measure_1 8 rfl rfl)
theorem dX3_measure_34 : decode cX3_measure 34 = .ok (.iload_n 3, 1) := dk_29 (dk_at dksX3_measure_1 10 rfl rfl)
theorem dX3_measure_35 : decode cX3_measure 35 = .ok (.iadd, 1) := dk_96 (dk_at dksX3_measure_1 11 rfl rfl)
theorem dX3_measure_36 : decode cX3_measure 36 = .ok (.iaload, 1) := dk_46 (dk_at dksX3_measure_1 12 rfl rfl)
theorem dX3_measure_37 : decode cX3_measure 37 = .ok (.ireturn, 1) := dk_172 (dk_at dksX3_measure_1 13 rfl rfl)
theorem dX3_measure_38 : decode cX3_measure 38 = .ok (.aload_n 0, 1) := dk_42 (dk_at dksX3_measure_1 14 rfl rfl)
theorem dX3_measure_39 : decode cX3_measure 39 = .ok (.iload_n 3, 1) := dk_29 (dk_at dksX3_measure_1 15 rfl rfl)
theorem dX3_measure_40 : decode cX3_measure 40 = .ok (.invokevirtual 190, 3) := dk_182 0 190 (dk_at dksX3_measure_1 16 rfl rfl)
theorem dX3_measure_43 : decode cX3_measure 43 = .ok (.ifCond .eq 10, 3) := dk_153 0 10 (dk_at dksX3_measure_1 19 rfl rfl)
theorem dX3_measure_46 : decode cX3_measure 46 = .ok (.aload_n 0, 1) := dk_42 (dk_at dksX3_measure_1 22 rfl rfl)
theorem dX3_measure_47 : decode cX3_measure 47 = .ok (.iload_n 3, 1) := dk_29 (dk_at dksX3_measure_1 23 rfl rfl)
theorem dX3_measure_48 : decode cX3_measure 48 = .ok (.iload_n 2, 1) := dk_28 (dk_at dksX3_measure_2 0 rfl rfl)
theorem dX3_measure_49 : decode cX3_measure 49 = .ok (.invokevirtual 194, 3) := dk_182 0 194 (dk_at dksX3_measure_2 1 rfl rfl)
theorem dX3_measure_52 : decode cX3_measure 52 = .ok (.ireturn, 1) := dk_172 (dk_at dksX3_measure_2 4 rfl rfl)
theorem dX3_measure_53 : decode cX3_measure 53 = .ok (.aload_n 0, 1) := dk_42 (dk_at dksX3_measure_2 5 rfl rfl)
theorem dX3_measure_54 : decode cX3_measure 54 = .ok (.getfield 13, 3) := dk_180 0 13 (dk_at dksX3_measure_2 6 rfl rfl)
theorem dX3_measure_57 : decode cX3_measure 57 = .ok (.iload_n 3, 1) := dk_29 (dk_at dksX3_measure_2 9 rfl rfl)
theorem dX3_measure_58 : decode cX3_measure 58 = .ok (.iaload, 1) := dk_46 (dk_at dksX3_measure_2 10 rfl rfl)
theorem dX3_measure_59 : decode cX3_measure 59 = .ok (.istore_n 3, 1) := dk_62 (dk_at dksX3_measure_2 11 rfl rfl)
theorem dX3_measure_60 : decode cX3_measure 60 = .ok (.iinc 4 1, 3) := dk_132 4 1 (dk_at dksX3_measure_2 12 rfl rfl)
theorem dX3_measure_63 : decode cX3_measure 63 = .ok (.goto (-58), 3) := dk_167 255 198 (dk_at dksX3_measure_2 15 rfl rfl)
theorem dX3_measure_66 : decode cX3_measure 66 = .ok (.iconst 0, 1) := dk_3 (dk_at dksX3_measure_2 18 rfl rfl)
theorem dX3_measure_67 : decode cX3_measure 67 = .ok (.ireturn, 1) := dk_172 (dk_at dksX3_measure_2 19 rfl rfl)
abbrev cX3_lives : ByteArray := prog_9_method_8_code
def yX3_lives : MethodName := ⟨RX3, "lives", "(I)Z"⟩
def dkwX3_lives_0 : List UInt8 := [42, 180, 0, 37, 16, 18, 46, 27, 184, 0, 106, 172]
abbrev dktX3_lives_0 : List UInt8 := dkwX3_lives_0 ++ []
theorem dksX3_lives_0 : cX3_lives.data.toList.drop 0 = dktX3_lives_0 := by decide +kernel
theorem dX3_lives_0 : decode cX3_lives 0 = .ok (.aload_n 0, 1) := dk_42 (dk_at dksX3_lives_0 0 rfl rfl)
theorem dX3_lives_1 : decode cX3_lives 1 = .ok (.getfield 37, 3) := dk_180 0 37 (dk_at dksX3_lives_0 1 rfl rfl)
theorem dX3_lives_4 : decode cX3_lives 4 = .ok (.bipush 18, 2) := dk_16 18 (dk_at dksX3_lives_0 4 rfl rfl)
theorem dX3_lives_6 : decode cX3_lives 6 = .ok (.iaload, 1) := dk_46 (dk_at dksX3_lives_0 6 rfl rfl)
theorem dX3_lives_7 : decode cX3_lives 7 = .ok (.iload_n 1, 1) := dk_27 (dk_at dksX3_lives_0 7 rfl rfl)
theorem dX3_lives_8 : decode cX3_lives 8 = .ok (.invokestatic 106, 3) := dk_184 0 106 (dk_at dksX3_lives_0 8 rfl rfl)
theorem dX3_lives_11 : decode cX3_lives 11 = .ok (.ireturn, 1) := dk_172 (dk_at dksX3_lives_0 11 rfl rfl)
abbrev cX3_has : ByteArray := prog_9_method_4_code
def yX3_has : MethodName := ⟨RX3, "has", "(II)Z"⟩
def dkwX3_has_0 : List UInt8 := [26, 27, 122, 4, 126, 4, 160, 0, 7, 4, 167, 0, 4, 3, 172]
abbrev dktX3_has_0 : List UInt8 := dkwX3_has_0 ++ []
theorem dksX3_has_0 : cX3_has.data.toList.drop 0 = dktX3_has_0 := by decide +kernel
theorem dX3_has_0 : decode cX3_has 0 = .ok (.iload_n 0, 1) := dk_26 (dk_at dksX3_has_0 0 rfl rfl)
theorem dX3_has_1 : decode cX3_has 1 = .ok (.iload_n 1, 1) := dk_27 (dk_at dksX3_has_0 1 rfl rfl)
theorem dX3_has_2 : decode cX3_has 2 = .ok (.ishr, 1) := dk_122 (dk_at dksX3_has_0 2 rfl rfl)
theorem dX3_has_3 : decode cX3_has 3 = .ok (.iconst 1, 1) := dk_4 (dk_at dksX3_has_0 3 rfl rfl)
theorem dX3_has_4 : decode cX3_has 4 = .ok (.iand, 1) := dk_126 (dk_at dksX3_has_0 4 rfl rfl)
theorem dX3_has_5 : decode cX3_has 5 = .ok (.iconst 1, 1) := dk_4 (dk_at dksX3_has_0 5 rfl rfl)
theorem dX3_has_6 : decode cX3_has 6 = .ok (.if_icmp .ne 7, 3) := dk_160 0 7 (dk_at dksX3_has_0 6 rfl rfl)
theorem dX3_has_9 : decode cX3_has 9 = .ok (.iconst 1, 1) := dk_4 (dk_at dksX3_has_0 9 rfl rfl)
theorem dX3_has_10 : decode cX3_has 10 = .ok (.goto 4, 3) := dk_167 0 4 (dk_at dksX3_has_0 10 rfl rfl)
theorem dX3_has_13 : decode cX3_has 13 = .ok (.iconst 0, 1) := dk_3 (dk_at dksX3_has_0 13 rfl rfl)
theorem dX3_has_14 : decode cX3_has 14 = .ok (.ireturn, 1) := dk_172 (dk_at dksX3_has_0 14 rfl rfl)
abbrev cX3_grown : ByteArray := prog_9_method_24_code
def yX3_grown : MethodName := ⟨RX3, "grown", "(II)I"⟩
def dkwX3_grown_1 : List UInt8 := [29, 167, 0, 4, 3, 172]
abbrev dktX3_grown_1 : List UInt8 := dkwX3_grown_1 ++ []
def dkwX3_grown_0 : List UInt8 := [42, 180, 0, 37, 27, 46, 42, 180, 0, 7, 7, 27, 104, 28, 7, 112, 96, 46, 96, 62, 29, 158, 0, 7]
abbrev dktX3_grown_0 : List UInt8 := dkwX3_grown_0 ++ dktX3_grown_1
theorem dksX3_grown_0 : cX3_grown.data.toList.drop 0 = dktX3_grown_0 := by decide +kernel
theorem dksX3_grown_1 : cX3_grown.data.toList.drop 24 = dktX3_grown_1 := dk_seg dksX3_grown_0 24 rfl rfl
theorem dX3_grown_0 : decode cX3_grown 0 = .ok (.aload_n 0, 1) := dk_42 (dk_at dksX3_grown_0 0 rfl rfl)
theorem dX3_grown_1 : decode cX3_grown 1 = .ok (.getfield 37, 3) := dk_180 0 37 (dk_at dksX3_grown_0 1 rfl rfl)
theorem dX3_grown_4 : decode cX3_grown 4 = .ok (.iload_n 1, 1) := dk_27 (dk_at dksX3_grown_0 4 rfl rfl)
theorem dX3_grown_5 : decode cX3_grown 5 = .ok (.iaload, 1) := dk_46 (dk_at dksX3_grown_0 5 rfl rfl)
theorem dX3_grown_6 : decode cX3_grown 6 = .ok (.aload_n 0, 1) := dk_42 (dk_at dksX3_grown_0 6 rfl rfl)
theorem dX3_grown_7 : decode cX3_grown 7 = .ok (.getfield 7, 3) := dk_180 0 7 (dk_at dksX3_grown_0 7 rfl rfl)
theorem dX3_grown_10 : decode cX3_grown 10 = .ok (.iconst 4, 1) := dk_7 (dk_at dksX3_grown_0 10 rfl rfl)
theorem dX3_grown_11 : decode cX3_grown 11 = .ok (.iload_n 1, 1) := dk_27 (dk_at dksX3_grown_0 11 rfl rfl)
theorem dX3_grown_12 : decode cX3_grown 12 = .ok (.imul, 1) := dk_104 (dk_at dksX3_grown_0 12 rfl rfl)
theorem dX3_grown_13 : decode cX3_grown 13 = .ok (.iload_n 2, 1) := dk_28 (dk_at dksX3_grown_0 13 rfl rfl)
theorem dX3_grown_14 : decode cX3_grown 14 = .ok (.iconst 4, 1) := dk_7 (dk_at dksX3_grown_0 14 rfl rfl)
theorem dX3_grown_15 : decode cX3_grown 15 = .ok (.irem, 1) := dk_112 (dk_at dksX3_grown_0 15 rfl rfl)
theorem dX3_grown_16 : decode cX3_grown 16 = .ok (.iadd, 1) := dk_96 (dk_at dksX3_grown_0 16 rfl rfl)
theorem dX3_grown_17 : decode cX3_grown 17 = .ok (.iaload, 1) := dk_46 (dk_at dksX3_grown_0 17 rfl rfl)
theorem dX3_grown_18 : decode cX3_grown 18 = .ok (.iadd, 1) := dk_96 (dk_at dksX3_grown_0 18 rfl rfl)
theorem dX3_grown_19 : decode cX3_grown 19 = .ok (.istore_n 3, 1) := dk_62 (dk_at dksX3_grown_0 19 rfl rfl)
theorem dX3_grown_20 : decode cX3_grown 20 = .ok (.iload_n 3, 1) := dk_29 (dk_at dksX3_grown_0 20 rfl rfl)
theorem dX3_grown_21 : decode cX3_grown 21 = .ok (.ifCond .le 7, 3) := dk_158 0 7 (dk_at dksX3_grown_0 21 rfl rfl)
theorem dX3_grown_24 : decode cX3_grown 24 = .ok (.iload_n 3, 1) := dk_29 (dk_at dksX3_grown_1 0 rfl rfl)
theorem dX3_grown_25 : decode cX3_grown 25 = .ok (.goto 4, 3) := dk_167 0 4 (dk_at dksX3_grown_1 1 rfl rfl)
theorem dX3_grown_28 : decode cX3_grown 28 = .ok (.iconst 0, 1) := dk_3 (dk_at dksX3_grown_1 4 rfl rfl)
theorem dX3_grown_29 : decode cX3_grown 29 = .ok (.ireturn, 1) := dk_172 (dk_at dksX3_grown_1 5 rfl rfl)
abbrev cX3_contract : ByteArray := prog_9_method_28_code
def yX3_contract : MethodName := ⟨RX3, "contract", "(II)I"⟩
def dkwX3_contract_3 : List UInt8 := [180, 0, 37, 16, 12, 27, 96, 46, 172, 18, 112, 172]
abbrev dktX3_contract_3 : List UInt8 := dkwX3_contract_3 ++ []
def dkwX3_contract_2 : List UInt8 := [42, 180, 0, 16, 27, 46, 172, 42, 180, 0, 19, 27, 46, 172, 42, 180, 0, 22, 27, 46, 172, 42]
abbrev dktX3_contract_2 : List UInt8 := dkwX3_contract_2 ++ dktX3_contract_3
def dkwX3_contract_1 : List UInt8 := [170, 0, 0, 0, 0, 0, 0, 63, 0, 0, 0, 0, 0, 0, 0, 3, 0, 0, 0, 32, 0, 0, 0, 39, 0, 0, 0, 46, 0, 0, 0, 53]
abbrev dktX3_contract_1 : List UInt8 := dkwX3_contract_1 ++ dktX3_contract_2
def dkwX3_contract_0 : List UInt8 := [27, 133, 9, 42, 180, 0, 166, 4, 100, 133, 184, 0, 102, 154, 0, 6, 18, 203, 172, 28]
abbrev dktX3_contract_0 : List UInt8 := dkwX3_contract_0 ++ dktX3_contract_1
theorem dksX3_contract_0 : cX3_contract.data.toList.drop 0 = dktX3_contract_0 := by decide +kernel
theorem dksX3_contract_1 : cX3_contract.data.toList.drop 20 = dktX3_contract_1 := dk_seg dksX3_contract_0 20 rfl rfl
theorem dksX3_contract_2 : cX3_contract.data.toList.drop 52 = dktX3_contract_2 := dk_seg dksX3_contract_1 32 rfl rfl
theorem dksX3_contract_3 : cX3_contract.data.toList.drop 74 = dktX3_contract_3 := dk_seg dksX3_contract_2 22 rfl rfl
theorem dX3_contract_0 : decode cX3_contract 0 = .ok (.iload_n 1, 1) := dk_27 (dk_at dksX3_contract_0 0 rfl rfl)
theorem dX3_contract_1 : decode cX3_contract 1 = .ok (.i2l, 1) := dk_133 (dk_at dksX3_contract_0 1 rfl rfl)
theorem dX3_contract_2 : decode cX3_contract 2 = .ok (.lconst 0, 1) := dk_9 (dk_at dksX3_contract_0 2 rfl rfl)
theorem dX3_contract_3 : decode cX3_contract 3 = .ok (.aload_n 0, 1) := dk_42 (dk_at dksX3_contract_0 3 rfl rfl)
theorem dX3_contract_4 : decode cX3_contract 4 = .ok (.getfield 166, 3) := dk_180 0 166 (dk_at dksX3_contract_0 4 rfl rfl)
theorem dX3_contract_7 : decode cX3_contract 7 = .ok (.iconst 1, 1) := dk_4 (dk_at dksX3_contract_0 7 rfl rfl)
theorem dX3_contract_8 : decode cX3_contract 8 = .ok (.isub, 1) := dk_100 (dk_at dksX3_contract_0 8 rfl rfl)
theorem dX3_contract_9 : decode cX3_contract 9 = .ok (.i2l, 1) := dk_133 (dk_at dksX3_contract_0 9 rfl rfl)
theorem dX3_contract_10 : decode cX3_contract 10 = .ok (.invokestatic 102, 3) := dk_184 0 102 (dk_at dksX3_contract_0 10 rfl rfl)
theorem dX3_contract_13 : decode cX3_contract 13 = .ok (.ifCond .ne 6, 3) := dk_154 0 6 (dk_at dksX3_contract_0 13 rfl rfl)
theorem dX3_contract_16 : decode cX3_contract 16 = .ok (.ldc 203, 2) := dk_18 203 (dk_at dksX3_contract_0 16 rfl rfl)
theorem dX3_contract_18 : decode cX3_contract 18 = .ok (.ireturn, 1) := dk_172 (dk_at dksX3_contract_0 18 rfl rfl)
theorem dX3_contract_19 : decode cX3_contract 19 = .ok (.iload_n 2, 1) := dk_28 (dk_at dksX3_contract_0 19 rfl rfl)
theorem dX3_contract_20 : decode cX3_contract 20 = .ok (.tableswitch 63 0 3 #[32, 39, 46, 53], 32) := by decide +kernel
theorem dX3_contract_52 : decode cX3_contract 52 = .ok (.aload_n 0, 1) := dk_42 (dk_at dksX3_contract_2 0 rfl rfl)
theorem dX3_contract_53 : decode cX3_contract 53 = .ok (.getfield 16, 3) := dk_180 0 16 (dk_at dksX3_contract_2 1 rfl rfl)
theorem dX3_contract_56 : decode cX3_contract 56 = .ok (.iload_n 1, 1) := dk_27 (dk_at dksX3_contract_2 4 rfl rfl)
theorem dX3_contract_57 : decode cX3_contract 57 = .ok (.iaload, 1) := dk_46 (dk_at dksX3_contract_2 5 rfl rfl)
theorem dX3_contract_58 : decode cX3_contract 58 = .ok (.ireturn, 1) := dk_172 (dk_at dksX3_contract_2 6 rfl rfl)
theorem dX3_contract_59 : decode cX3_contract 59 = .ok (.aload_n 0, 1) := dk_42 (dk_at dksX3_contract_2 7 rfl rfl)
theorem dX3_contract_60 : decode cX3_contract 60 = .ok (.getfield 19, 3) := dk_180 0 19 (dk_at dksX3_contract_2 8 rfl rfl)
theorem dX3_contract_63 : decode cX3_contract 63 = .ok (.iload_n 1, 1) := dk_27 (dk_at dksX3_contract_2 11 rfl rfl)
theorem dX3_contract_64 : decode cX3_contract 64 = .ok (.iaload, 1) := dk_46 (dk_at dksX3_contract_2 12 rfl rfl)
theorem dX3_contract_65 : decode cX3_contract 65 = .ok (.ireturn, 1) := dk_172 (dk_at dksX3_contract_2 13 rfl rfl)
theorem dX3_contract_66 : decode cX3_contract 66 = .ok (.aload_n 0, 1) := dk_42 (dk_at dksX3_contract_2 14 rfl rfl)
theorem dX3_contract_67 : decode cX3_contract 67 = .ok (.getfield 22, 3) := dk_180 0 22 (dk_at dksX3_contract_2 15 rfl rfl)
theorem dX3_contract_70 : decode cX3_contract 70 = .ok (.iload_n 1, 1) := dk_27 (dk_at dksX3_contract_2 18 rfl rfl)
theorem dX3_contract_71 : decode cX3_contract 71 = .ok (.iaload, 1) := dk_46 (dk_at dksX3_contract_2 19 rfl rfl)
theorem dX3_contract_72 : decode cX3_contract 72 = .ok (.ireturn, 1) := dk_172 (dk_at dksX3_contract_2 20 rfl rfl)
theorem dX3_contract_73 : decode cX3_contract 73 = .ok (.aload_n 0, 1) := dk_42 (dk_at dksX3_contract_2 21 rfl rfl)
theorem dX3_contract_74 : decode cX3_contract 74 = .ok (.getfield 37, 3) := dk_180 0 37 (dk_at dksX3_contract_3 0 rfl rfl)
theorem dX3_contract_77 : decode cX3_contract 77 = .ok (.bipush 12, 2) := dk_16 12 (dk_at dksX3_contract_3 3 rfl rfl)
theorem dX3_contract_79 : decode cX3_contract 79 = .ok (.iload_n 1, 1) := dk_27 (dk_at dksX3_contract_3 5 rfl rfl)
theorem dX3_contract_80 : decode cX3_contract 80 = .ok (.iadd, 1) := dk_96 (dk_at dksX3_contract_3 6 rfl rfl)
theorem dX3_contract_81 : decode cX3_contract 81 = .ok (.iaload, 1) := dk_46 (dk_at dksX3_contract_3 7 rfl rfl)
theorem dX3_contract_82 : decode cX3_contract 82 = .ok (.ireturn, 1) := dk_172 (dk_at dksX3_contract_3 8 rfl rfl)
theorem dX3_contract_83 : decode cX3_contract 83 = .ok (.ldc 112, 2) := dk_18 112 (dk_at dksX3_contract_3 9 rfl rfl)
theorem dX3_contract_85 : decode cX3_contract 85 = .ok (.ireturn, 1) := dk_172 (dk_at dksX3_contract_3 11 rfl rfl)
abbrev cX3_rate : ByteArray := prog_9_method_29_code
def yX3_rate : MethodName := ⟨RX3, "rate", "(II)I"⟩
def dkwX3_rate_3 : List UInt8 := [180, 0, 34, 27, 46, 172, 18, 112, 172]
abbrev dktX3_rate_3 : List UInt8 := dkwX3_rate_3 ++ []
def dkwX3_rate_2 : List UInt8 := [42, 180, 0, 25, 27, 46, 172, 42, 180, 0, 28, 27, 46, 172, 42, 180, 0, 31, 27, 46, 172, 42]
abbrev dktX3_rate_2 : List UInt8 := dkwX3_rate_2 ++ dktX3_rate_3
def dkwX3_rate_1 : List UInt8 := [170, 0, 0, 0, 0, 0, 0, 60, 0, 0, 0, 0, 0, 0, 0, 3, 0, 0, 0, 32, 0, 0, 0, 39, 0, 0, 0, 46, 0, 0, 0, 53]
abbrev dktX3_rate_1 : List UInt8 := dkwX3_rate_1 ++ dktX3_rate_2
def dkwX3_rate_0 : List UInt8 := [27, 133, 9, 42, 180, 0, 169, 4, 100, 133, 184, 0, 102, 154, 0, 6, 18, 203, 172, 28]
abbrev dktX3_rate_0 : List UInt8 := dkwX3_rate_0 ++ dktX3_rate_1
theorem dksX3_rate_0 : cX3_rate.data.toList.drop 0 = dktX3_rate_0 := by decide +kernel
theorem dksX3_rate_1 : cX3_rate.data.toList.drop 20 = dktX3_rate_1 := dk_seg dksX3_rate_0 20 rfl rfl
theorem dksX3_rate_2 : cX3_rate.data.toList.drop 52 = dktX3_rate_2 := dk_seg dksX3_rate_1 32 rfl rfl
theorem dksX3_rate_3 : cX3_rate.data.toList.drop 74 = dktX3_rate_3 := dk_seg dksX3_rate_2 22 rfl rfl
theorem dX3_rate_0 : decode cX3_rate 0 = .ok (.iload_n 1, 1) := dk_27 (dk_at dksX3_rate_0 0 rfl rfl)
theorem dX3_rate_1 : decode cX3_rate 1 = .ok (.i2l, 1) := dk_133 (dk_at dksX3_rate_0 1 rfl rfl)
theorem dX3_rate_2 : decode cX3_rate 2 = .ok (.lconst 0, 1) := dk_9 (dk_at dksX3_rate_0 2 rfl rfl)
theorem dX3_rate_3 : decode cX3_rate 3 = .ok (.aload_n 0, 1) := dk_42 (dk_at dksX3_rate_0 3 rfl rfl)
theorem dX3_rate_4 : decode cX3_rate 4 = .ok (.getfield 169, 3) := dk_180 0 169 (dk_at dksX3_rate_0 4 rfl rfl)
theorem dX3_rate_7 : decode cX3_rate 7 = .ok (.iconst 1, 1) := dk_4 (dk_at dksX3_rate_0 7 rfl rfl)
theorem dX3_rate_8 : decode cX3_rate 8 = .ok (.isub, 1) := dk_100 (dk_at dksX3_rate_0 8 rfl rfl)
theorem dX3_rate_9 : decode cX3_rate 9 = .ok (.i2l, 1) := dk_133 (dk_at dksX3_rate_0 9 rfl rfl)
theorem dX3_rate_10 : decode cX3_rate 10 = .ok (.invokestatic 102, 3) := dk_184 0 102 (dk_at dksX3_rate_0 10 rfl rfl)
theorem dX3_rate_13 : decode cX3_rate 13 = .ok (.ifCond .ne 6, 3) := dk_154 0 6 (dk_at dksX3_rate_0 13 rfl rfl)
theorem dX3_rate_16 : decode cX3_rate 16 = .ok (.ldc 203, 2) := dk_18 203 (dk_at dksX3_rate_0 16 rfl rfl)
theorem dX3_rate_18 : decode cX3_rate 18 = .ok (.ireturn, 1) := dk_172 (dk_at dksX3_rate_0 18 rfl rfl)
theorem dX3_rate_19 : decode cX3_rate 19 = .ok (.iload_n 2, 1) := dk_28 (dk_at dksX3_rate_0 19 rfl rfl)
theorem dX3_rate_20 : decode cX3_rate 20 = .ok (.tableswitch 60 0 3 #[32, 39, 46, 53], 32) := by decide +kernel
theorem dX3_rate_52 : decode cX3_rate 52 = .ok (.aload_n 0, 1) := dk_42 (dk_at dksX3_rate_2 0 rfl rfl)
theorem dX3_rate_53 : decode cX3_rate 53 = .ok (.getfield 25, 3) := dk_180 0 25 (dk_at dksX3_rate_2 1 rfl rfl)
theorem dX3_rate_56 : decode cX3_rate 56 = .ok (.iload_n 1, 1) := dk_27 (dk_at dksX3_rate_2 4 rfl rfl)
theorem dX3_rate_57 : decode cX3_rate 57 = .ok (.iaload, 1) := dk_46 (dk_at dksX3_rate_2 5 rfl rfl)
theorem dX3_rate_58 : decode cX3_rate 58 = .ok (.ireturn, 1) := dk_172 (dk_at dksX3_rate_2 6 rfl rfl)
theorem dX3_rate_59 : decode cX3_rate 59 = .ok (.aload_n 0, 1) := dk_42 (dk_at dksX3_rate_2 7 rfl rfl)
theorem dX3_rate_60 : decode cX3_rate 60 = .ok (.getfield 28, 3) := dk_180 0 28 (dk_at dksX3_rate_2 8 rfl rfl)
theorem dX3_rate_63 : decode cX3_rate 63 = .ok (.iload_n 1, 1) := dk_27 (dk_at dksX3_rate_2 11 rfl rfl)
theorem dX3_rate_64 : decode cX3_rate 64 = .ok (.iaload, 1) := dk_46 (dk_at dksX3_rate_2 12 rfl rfl)
theorem dX3_rate_65 : decode cX3_rate 65 = .ok (.ireturn, 1) := dk_172 (dk_at dksX3_rate_2 13 rfl rfl)
theorem dX3_rate_66 : decode cX3_rate 66 = .ok (.aload_n 0, 1) := dk_42 (dk_at dksX3_rate_2 14 rfl rfl)
theorem dX3_rate_67 : decode cX3_rate 67 = .ok (.getfield 31, 3) := dk_180 0 31 (dk_at dksX3_rate_2 15 rfl rfl)
theorem dX3_rate_70 : decode cX3_rate 70 = .ok (.iload_n 1, 1) := dk_27 (dk_at dksX3_rate_2 18 rfl rfl)
theorem dX3_rate_71 : decode cX3_rate 71 = .ok (.iaload, 1) := dk_46 (dk_at dksX3_rate_2 19 rfl rfl)
theorem dX3_rate_72 : decode cX3_rate 72 = .ok (.ireturn, 1) := dk_172 (dk_at dksX3_rate_2 20 rfl rfl)
theorem dX3_rate_73 : decode cX3_rate 73 = .ok (.aload_n 0, 1) := dk_42 (dk_at dksX3_rate_2 21 rfl rfl)
theorem dX3_rate_74 : decode cX3_rate 74 = .ok (.getfield 34, 3) := dk_180 0 34 (dk_at dksX3_rate_3 0 rfl rfl)
theorem dX3_rate_77 : decode cX3_rate 77 = .ok (.iload_n 1, 1) := dk_27 (dk_at dksX3_rate_3 3 rfl rfl)
theorem dX3_rate_78 : decode cX3_rate 78 = .ok (.iaload, 1) := dk_46 (dk_at dksX3_rate_3 4 rfl rfl)
theorem dX3_rate_79 : decode cX3_rate 79 = .ok (.ireturn, 1) := dk_172 (dk_at dksX3_rate_3 5 rfl rfl)
theorem dX3_rate_80 : decode cX3_rate 80 = .ok (.ldc 112, 2) := dk_18 112 (dk_at dksX3_rate_3 6 rfl rfl)
theorem dX3_rate_82 : decode cX3_rate 82 = .ok (.ireturn, 1) := dk_172 (dk_at dksX3_rate_3 8 rfl rfl)
abbrev cX3_season : ByteArray := prog_9_method_33_code
def yX3_season : MethodName := ⟨RX3, "season", "(I)I"⟩
def dkwX3_season_1 : List UInt8 := [182, 0, 221, 132, 3, 1, 167, 255, 244, 42, 180, 0, 37, 16, 19, 46, 172]
abbrev dktX3_season_1 : List UInt8 := dkwX3_season_1 ++ []
def dkwX3_season_0 : List UInt8 := [42, 27, 182, 0, 215, 61, 28, 153, 0, 5, 28, 172, 42, 182, 0, 218, 3, 62, 29, 27, 162, 0, 13, 42]
abbrev dktX3_season_0 : List UInt8 := dkwX3_season_0 ++ dktX3_season_1
theorem dksX3_season_0 : cX3_season.data.toList.drop 0 = dktX3_season_0 := by decide +kernel
theorem dksX3_season_1 : cX3_season.data.toList.drop 24 = dktX3_season_1 := dk_seg dksX3_season_0 24 rfl rfl
theorem dX3_season_0 : decode cX3_season 0 = .ok (.aload_n 0, 1) := dk_42 (dk_at dksX3_season_0 0 rfl rfl)
theorem dX3_season_1 : decode cX3_season 1 = .ok (.iload_n 1, 1) := dk_27 (dk_at dksX3_season_0 1 rfl rfl)
theorem dX3_season_2 : decode cX3_season 2 = .ok (.invokevirtual 215, 3) := dk_182 0 215 (dk_at dksX3_season_0 2 rfl rfl)
theorem dX3_season_5 : decode cX3_season 5 = .ok (.istore_n 2, 1) := dk_61 (dk_at dksX3_season_0 5 rfl rfl)
theorem dX3_season_6 : decode cX3_season 6 = .ok (.iload_n 2, 1) := dk_28 (dk_at dksX3_season_0 6 rfl rfl)
theorem dX3_season_7 : decode cX3_season 7 = .ok (.ifCond .eq 5, 3) := dk_153 0 5 (dk_at dksX3_season_0 7 rfl rfl)
theorem dX3_season_10 : decode cX3_season 10 = .ok (.iload_n 2, 1) := dk_28 (dk_at dksX3_season_0 10 rfl rfl)
theorem dX3_season_11 : decode cX3_season 11 = .ok (.ireturn, 1) := dk_172 (dk_at dksX3_season_0 11 rfl rfl)
theorem dX3_season_12 : decode cX3_season 12 = .ok (.aload_n 0, 1) := dk_42 (dk_at dksX3_season_0 12 rfl rfl)
theorem dX3_season_13 : decode cX3_season 13 = .ok (.invokevirtual 218, 3) := dk_182 0 218 (dk_at dksX3_season_0 13 rfl rfl)
theorem dX3_season_16 : decode cX3_season 16 = .ok (.iconst 0, 1) := dk_3 (dk_at dksX3_season_0 16 rfl rfl)
theorem dX3_season_17 : decode cX3_season 17 = .ok (.istore_n 3, 1) := dk_62 (dk_at dksX3_season_0 17 rfl rfl)
theorem dX3_season_18 : decode cX3_season 18 = .ok (.iload_n 3, 1) := dk_29 (dk_at dksX3_season_0 18 rfl rfl)
theorem dX3_season_19 : decode cX3_season 19 = .ok (.iload_n 1, 1) := dk_27 (dk_at dksX3_season_0 19 rfl rfl)
theorem dX3_season_20 : decode cX3_season 20 = .ok (.if_icmp .ge 13, 3) := dk_162 0 13 (dk_at dksX3_season_0 20 rfl rfl)
theorem dX3_season_23 : decode cX3_season 23 = .ok (.aload_n 0, 1) := dk_42 (dk_at dksX3_season_0 23 rfl rfl)
theorem dX3_season_24 : decode cX3_season 24 = .ok (.invokevirtual 221, 3) := dk_182 0 221 (dk_at dksX3_season_1 0 rfl rfl)
theorem dX3_season_27 : decode cX3_season 27 = .ok (.iinc 3 1, 3) := dk_132 3 1 (dk_at dksX3_season_1 3 rfl rfl)
theorem dX3_season_30 : decode cX3_season 30 = .ok (.goto (-12), 3) := dk_167 255 244 (dk_at dksX3_season_1 6 rfl rfl)
theorem dX3_season_33 : decode cX3_season 33 = .ok (.aload_n 0, 1) := dk_42 (dk_at dksX3_season_1 9 rfl rfl)
theorem dX3_season_34 : decode cX3_season 34 = .ok (.getfield 37, 3) := dk_180 0 37 (dk_at dksX3_season_1 10 rfl rfl)
theorem dX3_season_37 : decode cX3_season 37 = .ok (.bipush 19, 2) := dk_16 19 (dk_at dksX3_season_1 13 rfl rfl)
theorem dX3_season_39 : decode cX3_season 39 = .ok (.iaload, 1) := dk_46 (dk_at dksX3_season_1 15 rfl rfl)
theorem dX3_season_40 : decode cX3_season 40 = .ok (.ireturn, 1) := dk_172 (dk_at dksX3_season_1 16 rfl rfl)
abbrev cX3_seasonsRefused : ByteArray := prog_9_method_32_code
def yX3_seasonsRefused : MethodName := ⟨RX3, "seasonsRefused", "(I)I"⟩
def dkwX3_seasonsRefused_1 : List UInt8 := [167, 0, 22, 42, 180, 0, 37, 16, 19, 46, 17, 35, 40, 164, 0, 8, 18, 116, 167, 0, 4, 3, 172]
abbrev dktX3_seasonsRefused_1 : List UInt8 := dkwX3_seasonsRefused_1 ++ []
def dkwX3_seasonsRefused_0 : List UInt8 := [27, 133, 10, 20, 0, 212, 184, 0, 102, 154, 0, 6, 18, 112, 172, 42, 180, 0, 99, 154, 0, 8, 18, 214]
abbrev dktX3_seasonsRefused_0 : List UInt8 := dkwX3_seasonsRefused_0 ++ dktX3_seasonsRefused_1
theorem dksX3_seasonsRefused_0 : cX3_seasonsRefused.data.toList.drop 0 = dktX3_seasonsRefused_0 := by decide +kernel
theorem dksX3_seasonsRefused_1 : cX3_seasonsRefused.data.toList.drop 24 = dktX3_seasonsRefused_1 := dk_seg dksX3_seasonsRefused_0 24 rfl rfl
theorem dX3_seasonsRefused_0 : decode cX3_seasonsRefused 0 = .ok (.iload_n 1, 1) := dk_27 (dk_at dksX3_seasonsRefused_0 0 rfl rfl)
theorem dX3_seasonsRefused_1 : decode cX3_seasonsRefused 1 = .ok (.i2l, 1) := dk_133 (dk_at dksX3_seasonsRefused_0 1 rfl rfl)
theorem dX3_seasonsRefused_2 : decode cX3_seasonsRefused 2 = .ok (.lconst 1, 1) := dk_10 (dk_at dksX3_seasonsRefused_0 2 rfl rfl)
theorem dX3_seasonsRefused_3 : decode cX3_seasonsRefused 3 = .ok (.ldc2_w 212, 3) := dk_20 0 212 (dk_at dksX3_seasonsRefused_0 3 rfl rfl)
theorem dX3_seasonsRefused_6 : decode cX3_seasonsRefused 6 = .ok (.invokestatic 102, 3) := dk_184 0 102 (dk_at dksX3_seasonsRefused_0 6 rfl rfl)
theorem dX3_seasonsRefused_9 : decode cX3_seasonsRefused 9 = .ok (.ifCond .ne 6, 3) := dk_154 0 6 (dk_at dksX3_seasonsRefused_0 9 rfl rfl)
theorem dX3_seasonsRefused_12 : decode cX3_seasonsRefused 12 = .ok (.ldc 112, 2) := dk_18 112 (dk_at dksX3_seasonsRefused_0 12 rfl rfl)
theorem dX3_seasonsRefused_14 : decode cX3_seasonsRefused 14 = .ok (.ireturn, 1) := dk_172 (dk_at dksX3_seasonsRefused_0 14 rfl rfl)
theorem dX3_seasonsRefused_15 : decode cX3_seasonsRefused 15 = .ok (.aload_n 0, 1) := dk_42 (dk_at dksX3_seasonsRefused_0 15 rfl rfl)
theorem dX3_seasonsRefused_16 : decode cX3_seasonsRefused 16 = .ok (.getfield 99, 3) := dk_180 0 99 (dk_at dksX3_seasonsRefused_0 16 rfl rfl)
theorem dX3_seasonsRefused_19 : decode cX3_seasonsRefused 19 = .ok (.ifCond .ne 8, 3) := dk_154 0 8 (dk_at dksX3_seasonsRefused_0 19 rfl rfl)
theorem dX3_seasonsRefused_22 : decode cX3_seasonsRefused 22 = .ok (.ldc 214, 2) := dk_18 214 (dk_at dksX3_seasonsRefused_0 22 rfl rfl)
theorem dX3_seasonsRefused_24 : decode cX3_seasonsRefused 24 = .ok (.goto 22, 3) := dk_167 0 22 (dk_at dksX3_seasonsRefused_1 0 rfl rfl)
theorem dX3_seasonsRefused_27 : decode cX3_seasonsRefused 27 = .ok (.aload_n 0, 1) := dk_42 (dk_at dksX3_seasonsRefused_1 3 rfl rfl)
theorem dX3_seasonsRefused_28 : decode cX3_seasonsRefused 28 = .ok (.getfield 37, 3) := dk_180 0 37 (dk_at dksX3_seasonsRefused_1 4 rfl rfl)
theorem dX3_seasonsRefused_31 : decode cX3_seasonsRefused 31 = .ok (.bipush 19, 2) := dk_16 19 (dk_at dksX3_seasonsRefused_1 7 rfl rfl)
theorem dX3_seasonsRefused_33 : decode cX3_seasonsRefused 33 = .ok (.iaload, 1) := dk_46 (dk_at dksX3_seasonsRefused_1 9 rfl rfl)
theorem dX3_seasonsRefused_34 : decode cX3_seasonsRefused 34 = .ok (.sipush 9000, 3) := dk_17 35 40 (dk_at dksX3_seasonsRefused_1 10 rfl rfl)
theorem dX3_seasonsRefused_37 : decode cX3_seasonsRefused 37 = .ok (.if_icmp .le 8, 3) := dk_164 0 8 (dk_at dksX3_seasonsRefused_1 13 rfl rfl)
theorem dX3_seasonsRefused_40 : decode cX3_seasonsRefused 40 = .ok (.ldc 116, 2) := dk_18 116 (dk_at dksX3_seasonsRefused_1 16 rfl rfl)
theorem dX3_seasonsRefused_42 : decode cX3_seasonsRefused 42 = .ok (.goto 4, 3) := dk_167 0 4 (dk_at dksX3_seasonsRefused_1 18 rfl rfl)
theorem dX3_seasonsRefused_45 : decode cX3_seasonsRefused 45 = .ok (.iconst 0, 1) := dk_3 (dk_at dksX3_seasonsRefused_1 21 rfl rfl)
theorem dX3_seasonsRefused_46 : decode cX3_seasonsRefused 46 = .ok (.ireturn, 1) := dk_172 (dk_at dksX3_seasonsRefused_1 22 rfl rfl)
abbrev cX3_remember : ByteArray := prog_9_method_30_code
def yX3_remember : MethodName := ⟨RX3, "remember", "()V"⟩
def dkwX3_remember_3 : List UInt8 := [42, 180, 0, 37, 27, 46, 79, 132, 1, 1, 167, 255, 227, 42, 89, 180, 0, 184, 4, 96, 181, 0, 184, 177]
abbrev dktX3_remember_3 : List UInt8 := dkwX3_remember_3 ++ []
def dkwX3_remember_2 : List UInt8 := [181, 0, 184, 3, 60, 27, 16, 22, 162, 0, 29, 42, 180, 0, 77, 16, 22, 42, 180, 0, 184, 104, 27, 96]
abbrev dktX3_remember_2 : List UInt8 := dkwX3_remember_2 ++ dktX3_remember_3
def dkwX3_remember_1 : List UInt8 := [16, 22, 100, 42, 180, 0, 77, 27, 46, 79, 132, 1, 1, 167, 255, 231, 42, 89, 180, 0, 184, 4, 100]
abbrev dktX3_remember_1 : List UInt8 := dkwX3_remember_1 ++ dktX3_remember_2
def dkwX3_remember_0 : List UInt8 := [42, 180, 0, 184, 16, 20, 160, 0, 44, 16, 22, 60, 27, 17, 1, 184, 162, 0, 24, 42, 180, 0, 77, 27]
abbrev dktX3_remember_0 : List UInt8 := dkwX3_remember_0 ++ dktX3_remember_1
theorem dksX3_remember_0 : cX3_remember.data.toList.drop 0 = dktX3_remember_0 := by decide +kernel
theorem dksX3_remember_1 : cX3_remember.data.toList.drop 24 = dktX3_remember_1 := dk_seg dksX3_remember_0 24 rfl rfl
theorem dksX3_remember_2 : cX3_remember.data.toList.drop 47 = dktX3_remember_2 := dk_seg dksX3_remember_1 23 rfl rfl
theorem dksX3_remember_3 : cX3_remember.data.toList.drop 71 = dktX3_remember_3 := dk_seg dksX3_remember_2 24 rfl rfl
theorem dX3_remember_0 : decode cX3_remember 0 = .ok (.aload_n 0, 1) := dk_42 (dk_at dksX3_remember_0 0 rfl rfl)
theorem dX3_remember_1 : decode cX3_remember 1 = .ok (.getfield 184, 3) := dk_180 0 184 (dk_at dksX3_remember_0 1 rfl rfl)
theorem dX3_remember_4 : decode cX3_remember 4 = .ok (.bipush 20, 2) := dk_16 20 (dk_at dksX3_remember_0 4 rfl rfl)
theorem dX3_remember_6 : decode cX3_remember 6 = .ok (.if_icmp .ne 44, 3) := dk_160 0 44 (dk_at dksX3_remember_0 6 rfl rfl)
theorem dX3_remember_9 : decode cX3_remember 9 = .ok (.bipush 22, 2) := dk_16 22 (dk_at dksX3_remember_0 9 rfl rfl)
theorem dX3_remember_11 : decode cX3_remember 11 = .ok (.istore_n 1, 1) := dk_60 (dk_at dksX3_remember_0 11 rfl rfl)
theorem dX3_remember_12 : decode cX3_remember 12 = .ok (.iload_n 1, 1) := dk_27 (dk_at dksX3_remember_0 12 rfl rfl)
theorem dX3_remember_13 : decode cX3_remember 13 = .ok (.sipush 440, 3) := dk_17 1 184 (dk_at dksX3_remember_0 13 rfl rfl)
theorem dX3_remember_16 : decode cX3_remember 16 = .ok (.if_icmp .ge 24, 3) := dk_162 0 24 (dk_at dksX3_remember_0 16 rfl rfl)
theorem dX3_remember_19 : decode cX3_remember 19 = .ok (.aload_n 0, 1) := dk_42 (dk_at dksX3_remember_0 19 rfl rfl)
theorem dX3_remember_20 : decode cX3_remember 20 = .ok (.getfield 77, 3) := dk_180 0 77 (dk_at dksX3_remember_0 20 rfl rfl)
theorem dX3_remember_23 : decode cX3_remember 23 = .ok (.iload_n 1, 1) := dk_27 (dk_at dksX3_remember_0 23 rfl rfl)
theorem dX3_remember_24 : decode cX3_remember 24 = .ok (.bipush 22, 2) := dk_16 22 (dk_at dksX3_remember_1 0 rfl rfl)
theorem dX3_remember_26 : decode cX3_remember 26 = .ok (.isub, 1) := dk_100 (dk_at dksX3_remember_1 2 rfl rfl)
theorem dX3_remember_27 : decode cX3_remember 27 = .ok (.aload_n 0, 1) := dk_42 (dk_at dksX3_remember_1 3 rfl rfl)
theorem dX3_remember_28 : decode cX3_remember 28 = .ok (.getfield 77, 3) := dk_180 0 77 (dk_at dksX3_remember_1 4 rfl rfl)
theorem dX3_remember_31 : decode cX3_remember 31 = .ok (.iload_n 1, 1) := dk_27 (dk_at dksX3_remember_1 7 rfl rfl)
theorem dX3_remember_32 : decode cX3_remember 32 = .ok (.iaload, 1) := dk_46 (dk_at dksX3_remember_1 8 rfl rfl)
theorem dX3_remember_33 : decode cX3_remember 33 = .ok (.iastore, 1) := dk_79 (dk_at dksX3_remember_1 9 rfl rfl)
theorem dX3_remember_34 : decode cX3_remember 34 = .ok (.iinc 1 1, 3) := dk_132 1 1 (dk_at dksX3_remember_1 10 rfl rfl)
theorem dX3_remember_37 : decode cX3_remember 37 = .ok (.goto (-25), 3) := dk_167 255 231 (dk_at dksX3_remember_1 13 rfl rfl)
theorem dX3_remember_40 : decode cX3_remember 40 = .ok (.aload_n 0, 1) := dk_42 (dk_at dksX3_remember_1 16 rfl rfl)
theorem dX3_remember_41 : decode cX3_remember 41 = .ok (.dup, 1) := dk_89 (dk_at dksX3_remember_1 17 rfl rfl)
theorem dX3_remember_42 : decode cX3_remember 42 = .ok (.getfield 184, 3) := dk_180 0 184 (dk_at dksX3_remember_1 18 rfl rfl)
theorem dX3_remember_45 : decode cX3_remember 45 = .ok (.iconst 1, 1) := dk_4 (dk_at dksX3_remember_1 21 rfl rfl)
theorem dX3_remember_46 : decode cX3_remember 46 = .ok (.isub, 1) := dk_100 (dk_at dksX3_remember_1 22 rfl rfl)
theorem dX3_remember_47 : decode cX3_remember 47 = .ok (.putfield 184, 3) := dk_181 0 184 (dk_at dksX3_remember_2 0 rfl rfl)
theorem dX3_remember_50 : decode cX3_remember 50 = .ok (.iconst 0, 1) := dk_3 (dk_at dksX3_remember_2 3 rfl rfl)
theorem dX3_remember_51 : decode cX3_remember 51 = .ok (.istore_n 1, 1) := dk_60 (dk_at dksX3_remember_2 4 rfl rfl)
theorem dX3_remember_52 : decode cX3_remember 52 = .ok (.iload_n 1, 1) := dk_27 (dk_at dksX3_remember_2 5 rfl rfl)
theorem dX3_remember_53 : decode cX3_remember 53 = .ok (.bipush 22, 2) := dk_16 22 (dk_at dksX3_remember_2 6 rfl rfl)
theorem dX3_remember_55 : decode cX3_remember 55 = .ok (.if_icmp .ge 29, 3) := dk_162 0 29 (dk_at dksX3_remember_2 8 rfl rfl)
theorem dX3_remember_58 : decode cX3_remember 58 = .ok (.aload_n 0, 1) := dk_42 (dk_at dksX3_remember_2 11 rfl rfl)
theorem dX3_remember_59 : decode cX3_remember 59 = .ok (.getfield 77, 3) := dk_180 0 77 (dk_at dksX3_remember_2 12 rfl rfl)
theorem dX3_remember_62 : decode cX3_remember 62 = .ok (.bipush 22, 2) := dk_16 22 (dk_at dksX3_remember_2 15 rfl rfl)
theorem dX3_remember_64 : decode cX3_remember 64 = .ok (.aload_n 0, 1) := dk_42 (dk_at dksX3_remember_2 17 rfl rfl)
theorem dX3_remember_65 : decode cX3_remember 65 = .ok (.getfield 184, 3) := dk_180 0 184 (dk_at dksX3_remember_2 18 rfl rfl)
theorem dX3_remember_68 : decode cX3_remember 68 = .ok (.imul, 1) := dk_104 (dk_at dksX3_remember_2 21 rfl rfl)
theorem dX3_remember_69 : decode cX3_remember 69 = .ok (.iload_n 1, 1) := dk_27 (dk_at dksX3_remember_2 22 rfl rfl)
theorem dX3_remember_70 : decode cX3_remember 70 = .ok (.iadd, 1) := dk_96 (dk_at dksX3_remember_2 23 rfl rfl)
theorem dX3_remember_71 : decode cX3_remember 71 = .ok (.aload_n 0, 1) := dk_42 (dk_at dksX3_remember_3 0 rfl rfl)
theorem dX3_remember_72 : decode cX3_remember 72 = .ok (.getfield 37, 3) := dk_180 0 37 (dk_at dksX3_remember_3 1 rfl rfl)
theorem dX3_remember_75 : decode cX3_remember 75 = .ok (.iload_n 1, 1) := dk_27 (dk_at dksX3_remember_3 4 rfl rfl)
theorem dX3_remember_76 : decode cX3_remember 76 = .ok (.iaload, 1) := dk_46 (dk_at dksX3_remember_3 5 rfl rfl)
theorem dX3_remember_77 : decode cX3_remember 77 = .ok (.iastore, 1) := dk_79 (dk_at dksX3_remember_3 6 rfl rfl)
theorem dX3_remember_78 : decode cX3_remember 78 = .ok (.iinc 1 1, 3) := dk_132 1 1 (dk_at dksX3_remember_3 7 rfl rfl)
theorem dX3_remember_81 : decode cX3_remember 81 = .ok (.goto (-29), 3) := dk_167 255 227 (dk_at dksX3_remember_3 10 rfl rfl)
theorem dX3_remember_84 : decode cX3_remember 84 = .ok (.aload_n 0, 1) := dk_42 (dk_at dksX3_remember_3 13 rfl rfl)
theorem dX3_remember_85 : decode cX3_remember 85 = .ok (.dup, 1) := dk_89 (dk_at dksX3_remember_3 14 rfl rfl)
theorem dX3_remember_86 : decode cX3_remember 86 = .ok (.getfield 184, 3) := dk_180 0 184 (dk_at dksX3_remember_3 15 rfl rfl)
theorem dX3_remember_89 : decode cX3_remember 89 = .ok (.iconst 1, 1) := dk_4 (dk_at dksX3_remember_3 18 rfl rfl)
theorem dX3_remember_90 : decode cX3_remember 90 = .ok (.iadd, 1) := dk_96 (dk_at dksX3_remember_3 19 rfl rfl)
theorem dX3_remember_91 : decode cX3_remember 91 = .ok (.putfield 184, 3) := dk_181 0 184 (dk_at dksX3_remember_3 20 rfl rfl)
theorem dX3_remember_94 : decode cX3_remember 94 = .ok (.return_, 1) := dk_177 (dk_at dksX3_remember_3 23 rfl rfl)
abbrev cX3_pass : ByteArray := prog_9_method_31_code
def yX3_pass : MethodName := ⟨RX3, "pass", "()V"⟩
def dkwX3_pass_4 : List UInt8 := [180, 0, 37, 16, 19, 92, 46, 4, 96, 79, 177]
abbrev dktX3_pass_4 : List UInt8 := dkwX3_pass_4 ++ []
def dkwX3_pass_3 : List UInt8 := [16, 21, 92, 46, 28, 154, 0, 9, 4, 27, 120, 167, 0, 4, 3, 128, 79, 132, 1, 1, 167, 255, 169, 42]
abbrev dktX3_pass_3 : List UInt8 := dkwX3_pass_3 ++ dktX3_pass_4
def dkwX3_pass_2 : List UInt8 := [180, 0, 37, 16, 12, 27, 96, 28, 79, 42, 180, 0, 37, 16, 20, 92, 46, 28, 96, 79, 42, 180, 0, 37]
abbrev dktX3_pass_2 : List UInt8 := dkwX3_pass_2 ++ dktX3_pass_3
def dkwX3_pass_1 : List UInt8 := [160, 0, 63, 42, 180, 0, 22, 27, 46, 42, 42, 180, 0, 19, 27, 46, 182, 0, 204, 104, 61, 42]
abbrev dktX3_pass_1 : List UInt8 := dkwX3_pass_1 ++ dktX3_pass_2
def dkwX3_pass_0 : List UInt8 := [3, 60, 27, 42, 180, 0, 166, 162, 0, 85, 42, 180, 0, 16, 27, 46, 42, 180, 0, 37, 16, 19, 46]
abbrev dktX3_pass_0 : List UInt8 := dkwX3_pass_0 ++ dktX3_pass_1
theorem dksX3_pass_0 : cX3_pass.data.toList.drop 0 = dktX3_pass_0 := by decide +kernel
theorem dksX3_pass_1 : cX3_pass.data.toList.drop 23 = dktX3_pass_1 := dk_seg dksX3_pass_0 23 rfl rfl
theorem dksX3_pass_2 : cX3_pass.data.toList.drop 45 = dktX3_pass_2 := dk_seg dksX3_pass_1 22 rfl rfl
theorem dksX3_pass_3 : cX3_pass.data.toList.drop 69 = dktX3_pass_3 := dk_seg dksX3_pass_2 24 rfl rfl
theorem dksX3_pass_4 : cX3_pass.data.toList.drop 93 = dktX3_pass_4 := dk_seg dksX3_pass_3 24 rfl rfl
theorem dX3_pass_0 : decode cX3_pass 0 = .ok (.iconst 0, 1) := dk_3 (dk_at dksX3_pass_0 0 rfl rfl)
theorem dX3_pass_1 : decode cX3_pass 1 = .ok (.istore_n 1, 1) := dk_60 (dk_at dksX3_pass_0 1 rfl rfl)
theorem dX3_pass_2 : decode cX3_pass 2 = .ok (.iload_n 1, 1) := dk_27 (dk_at dksX3_pass_0 2 rfl rfl)
theorem dX3_pass_3 : decode cX3_pass 3 = .ok (.aload_n 0, 1) := dk_42 (dk_at dksX3_pass_0 3 rfl rfl)
theorem dX3_pass_4 : decode cX3_pass 4 = .ok (.getfield 166, 3) := dk_180 0 166 (dk_at dksX3_pass_0 4 rfl rfl)
theorem dX3_pass_7 : decode cX3_pass 7 = .ok (.if_icmp .ge 85, 3) := dk_162 0 85 (dk_at dksX3_pass_0 7 rfl rfl)
theorem dX3_pass_10 : decode cX3_pass 10 = .ok (.aload_n 0, 1) := dk_42 (dk_at dksX3_pass_0 10 rfl rfl)
theorem dX3_pass_11 : decode cX3_pass 11 = .ok (.getfield 16, 3) := dk_180 0 16 (dk_at dksX3_pass_0 11 rfl rfl)
theorem dX3_pass_14 : decode cX3_pass 14 = .ok (.iload_n 1, 1) := dk_27 (dk_at dksX3_pass_0 14 rfl rfl)
theorem dX3_pass_15 : decode cX3_pass 15 = .ok (.iaload, 1) := dk_46 (dk_at dksX3_pass_0 15 rfl rfl)
theorem dX3_pass_16 : decode cX3_pass 16 = .ok (.aload_n 0, 1) := dk_42 (dk_at dksX3_pass_0 16 rfl rfl)
theorem dX3_pass_17 : decode cX3_pass 17 = .ok (.getfield 37, 3) := dk_180 0 37 (dk_at dksX3_pass_0 17 rfl rfl)
theorem dX3_pass_20 : decode cX3_pass 20 = .ok (.bipush 19, 2) := dk_16 19 (dk_at dksX3_pass_0 20 rfl rfl)
theorem dX3_pass_22 : decode cX3_pass 22 = .ok (.iaload, 1) := dk_46 (dk_at dksX3_pass_0 22 rfl rfl)
theorem dX3_pass_23 : decode cX3_pass 23 = .ok (.if_icmp .ne 63, 3) := dk_160 0 63 (dk_at dksX3_pass_1 0 rfl rfl)
theorem dX3_pass_26 : decode cX3_pass 26 = .ok (.aload_n 0, 1) := dk_42 (dk_at dksX3_pass_1 3 rfl rfl)
theorem dX3_pass_27 : decode cX3_pass 27 = .ok (.getfield 22, 3) := dk_180 0 22 (dk_at dksX3_pass_1 4 rfl rfl)
theorem dX3_pass_30 : decode cX3_pass 30 = .ok (.iload_n 1, 1) := dk_27 (dk_at dksX3_pass_1 7 rfl rfl)
theorem dX3_pass_31 : decode cX3_pass 31 = .ok (.iaload, 1) := dk_46 (dk_at dksX3_pass_1 8 rfl rfl)
theorem dX3_pass_32 : decode cX3_pass 32 = .ok (.aload_n 0, 1) := dk_42 (dk_at dksX3_pass_1 9 rfl rfl)
theorem dX3_pass_33 : decode cX3_pass 33 = .ok (.aload_n 0, 1) := dk_42 (dk_at dksX3_pass_1 10 rfl rfl)
theorem dX3_pass_34 : decode cX3_pass 34 = .ok (.getfield 19, 3) := dk_180 0 19 (dk_at dksX3_pass_1 11 rfl rfl)
theorem dX3_pass_37 : decode cX3_pass 37 = .ok (.iload_n 1, 1) := dk_27 (dk_at dksX3_pass_1 14 rfl rfl)
theorem dX3_pass_38 : decode cX3_pass 38 = .ok (.iaload, 1) := dk_46 (dk_at dksX3_pass_1 15 rfl rfl)
theorem dX3_pass_39 : decode cX3_pass 39 = .ok (.invokevirtual 204, 3) := dk_182 0 204 (dk_at dksX3_pass_1 16 rfl rfl)
theorem dX3_pass_42 : decode cX3_pass 42 = .ok (.imul, 1) := dk_104 (dk_at dksX3_pass_1 19 rfl rfl)
theorem dX3_pass_43 : decode cX3_pass 43 = .ok (.istore_n 2, 1) := dk_61 (dk_at dksX3_pass_1 20 rfl rfl)
theorem dX3_pass_44 : decode cX3_pass 44 = .ok (.aload_n 0, 1) := dk_42 (dk_at dksX3_pass_1 21 rfl rfl)
theorem dX3_pass_45 : decode cX3_pass 45 = .ok (.getfield 37, 3) := dk_180 0 37 (dk_at dksX3_pass_2 0 rfl rfl)
theorem dX3_pass_48 : decode cX3_pass 48 = .ok (.bipush 12, 2) := dk_16 12 (dk_at dksX3_pass_2 3 rfl rfl)
theorem dX3_pass_50 : decode cX3_pass 50 = .ok (.iload_n 1, 1) := dk_27 (dk_at dksX3_pass_2 5 rfl rfl)
theorem dX3_pass_51 : decode cX3_pass 51 = .ok (.iadd, 1) := dk_96 (dk_at dksX3_pass_2 6 rfl rfl)
theorem dX3_pass_52 : decode cX3_pass 52 = .ok (.iload_n 2, 1) := dk_28 (dk_at dksX3_pass_2 7 rfl rfl)
theorem dX3_pass_53 : decode cX3_pass 53 = .ok (.iastore, 1) := dk_79 (dk_at dksX3_pass_2 8 rfl rfl)
theorem dX3_pass_54 : decode cX3_pass 54 = .ok (.aload_n 0, 1) := dk_42 (dk_at dksX3_pass_2 9 rfl rfl)
theorem dX3_pass_55 : decode cX3_pass 55 = .ok (.getfield 37, 3) := dk_180 0 37 (dk_at dksX3_pass_2 10 rfl rfl)
theorem dX3_pass_58 : decode cX3_pass 58 = .ok (.bipush 20, 2) := dk_16 20 (dk_at dksX3_pass_2 13 rfl rfl)
theorem dX3_pass_60 : decode cX3_pass 60 = .ok (.dup2, 1) := dk_92 (dk_at dksX3_pass_2 15 rfl rfl)
theorem dX3_pass_61 : decode cX3_pass 61 = .ok (.iaload, 1) := dk_46 (dk_at dksX3_pass_2 16 rfl rfl)
theorem dX3_pass_62 : decode cX3_pass 62 = .ok (.iload_n 2, 1) := dk_28 (dk_at dksX3_pass_2 17 rfl rfl)
theorem dX3_pass_63 : decode cX3_pass 63 = .ok (.iadd, 1) := dk_96 (dk_at dksX3_pass_2 18 rfl rfl)
theorem dX3_pass_64 : decode cX3_pass 64 = .ok (.iastore, 1) := dk_79 (dk_at dksX3_pass_2 19 rfl rfl)
theorem dX3_pass_65 : decode cX3_pass 65 = .ok (.aload_n 0, 1) := dk_42 (dk_at dksX3_pass_2 20 rfl rfl)
theorem dX3_pass_66 : decode cX3_pass 66 = .ok (.getfield 37, 3) := dk_180 0 37 (dk_at dksX3_pass_2 21 rfl rfl)
theorem dX3_pass_69 : decode cX3_pass 69 = .ok (.bipush 21, 2) := dk_16 21 (dk_at dksX3_pass_3 0 rfl rfl)
theorem dX3_pass_71 : decode cX3_pass 71 = .ok (.dup2, 1) := dk_92 (dk_at dksX3_pass_3 2 rfl rfl)
theorem dX3_pass_72 : decode cX3_pass 72 = .ok (.iaload, 1) := dk_46 (dk_at dksX3_pass_3 3 rfl rfl)
theorem dX3_pass_73 : decode cX3_pass 73 = .ok (.iload_n 2, 1) := dk_28 (dk_at dksX3_pass_3 4 rfl rfl)
theorem dX3_pass_74 : decode cX3_pass 74 = .ok (.ifCond .ne 9, 3) := dk_154 0 9 (dk_at dksX3_pass_3 5 rfl rfl)
theorem dX3_pass_77 : decode cX3_pass 77 = .ok (.iconst 1, 1) := dk_4 (dk_at dksX3_pass_3 8 rfl rfl)
theorem dX3_pass_78 : decode cX3_pass 78 = .ok (.iload_n 1, 1) := dk_27 (dk_at dksX3_pass_3 9 rfl rfl)
theorem dX3_pass_79 : decode cX3_pass 79 = .ok (.ishl, 1) := dk_120 (dk_at dksX3_pass_3 10 rfl rfl)
theorem dX3_pass_80 : decode cX3_pass 80 = .ok (.goto 4, 3) := dk_167 0 4 (dk_at dksX3_pass_3 11 rfl rfl)
theorem dX3_pass_83 : decode cX3_pass 83 = .ok (.iconst 0, 1) := dk_3 (dk_at dksX3_pass_3 14 rfl rfl)
theorem dX3_pass_84 : decode cX3_pass 84 = .ok (.ior, 1) := dk_128 (dk_at dksX3_pass_3 15 rfl rfl)
theorem dX3_pass_85 : decode cX3_pass 85 = .ok (.iastore, 1) := dk_79 (dk_at dksX3_pass_3 16 rfl rfl)
theorem dX3_pass_86 : decode cX3_pass 86 = .ok (.iinc 1 1, 3) := dk_132 1 1 (dk_at dksX3_pass_3 17 rfl rfl)
theorem dX3_pass_89 : decode cX3_pass 89 = .ok (.goto (-87), 3) := dk_167 255 169 (dk_at dksX3_pass_3 20 rfl rfl)
theorem dX3_pass_92 : decode cX3_pass 92 = .ok (.aload_n 0, 1) := dk_42 (dk_at dksX3_pass_3 23 rfl rfl)
theorem dX3_pass_93 : decode cX3_pass 93 = .ok (.getfield 37, 3) := dk_180 0 37 (dk_at dksX3_pass_4 0 rfl rfl)
theorem dX3_pass_96 : decode cX3_pass 96 = .ok (.bipush 19, 2) := dk_16 19 (dk_at dksX3_pass_4 3 rfl rfl)
theorem dX3_pass_98 : decode cX3_pass 98 = .ok (.dup2, 1) := dk_92 (dk_at dksX3_pass_4 5 rfl rfl)
theorem dX3_pass_99 : decode cX3_pass 99 = .ok (.iaload, 1) := dk_46 (dk_at dksX3_pass_4 6 rfl rfl)
theorem dX3_pass_100 : decode cX3_pass 100 = .ok (.iconst 1, 1) := dk_4 (dk_at dksX3_pass_4 7 rfl rfl)
theorem dX3_pass_101 : decode cX3_pass 101 = .ok (.iadd, 1) := dk_96 (dk_at dksX3_pass_4 8 rfl rfl)
theorem dX3_pass_102 : decode cX3_pass 102 = .ok (.iastore, 1) := dk_79 (dk_at dksX3_pass_4 9 rfl rfl)
theorem dX3_pass_103 : decode cX3_pass 103 = .ok (.return_, 1) := dk_177 (dk_at dksX3_pass_4 10 rfl rfl)
abbrev cX3_gout : ByteArray := prog_9_method_36_code
def yX3_gout : MethodName := ⟨RX3, "gout", "(II)I"⟩
def dkwX3_gout_2 : List UInt8 := [42, 180, 0, 37, 27, 46, 172]
abbrev dktX3_gout_2 : List UInt8 := dkwX3_gout_2 ++ []
def dkwX3_gout_1 : List UInt8 := [18, 112, 172, 42, 27, 182, 0, 190, 154, 0, 6, 18, 214, 172, 42, 182, 0, 218, 42, 27, 28, 182, 0, 226]
abbrev dktX3_gout_1 : List UInt8 := dkwX3_gout_1 ++ dktX3_gout_2
def dkwX3_gout_0 : List UInt8 := [42, 27, 182, 0, 200, 154, 0, 6, 18, 203, 172, 28, 133, 10, 20, 0, 224, 184, 0, 102, 154, 0, 6]
abbrev dktX3_gout_0 : List UInt8 := dkwX3_gout_0 ++ dktX3_gout_1
theorem dksX3_gout_0 : cX3_gout.data.toList.drop 0 = dktX3_gout_0 := by decide +kernel
theorem dksX3_gout_1 : cX3_gout.data.toList.drop 23 = dktX3_gout_1 := dk_seg dksX3_gout_0 23 rfl rfl
theorem dksX3_gout_2 : cX3_gout.data.toList.drop 47 = dktX3_gout_2 := dk_seg dksX3_gout_1 24 rfl rfl
theorem dX3_gout_0 : decode cX3_gout 0 = .ok (.aload_n 0, 1) := dk_42 (dk_at dksX3_gout_0 0 rfl rfl)
theorem dX3_gout_1 : decode cX3_gout 1 = .ok (.iload_n 1, 1) := dk_27 (dk_at dksX3_gout_0 1 rfl rfl)
theorem dX3_gout_2 : decode cX3_gout 2 = .ok (.invokevirtual 200, 3) := dk_182 0 200 (dk_at dksX3_gout_0 2 rfl rfl)
theorem dX3_gout_5 : decode cX3_gout 5 = .ok (.ifCond .ne 6, 3) := dk_154 0 6 (dk_at dksX3_gout_0 5 rfl rfl)
theorem dX3_gout_8 : decode cX3_gout 8 = .ok (.ldc 203, 2) := dk_18 203 (dk_at dksX3_gout_0 8 rfl rfl)
theorem dX3_gout_10 : decode cX3_gout 10 = .ok (.ireturn, 1) := dk_172 (dk_at dksX3_gout_0 10 rfl rfl)
theorem dX3_gout_11 : decode cX3_gout 11 = .ok (.iload_n 2, 1) := dk_28 (dk_at dksX3_gout_0 11 rfl rfl)
theorem dX3_gout_12 : decode cX3_gout 12 = .ok (.i2l, 1) := dk_133 (dk_at dksX3_gout_0 12 rfl rfl)
theorem dX3_gout_13 : decode cX3_gout 13 = .ok (.lconst 1, 1) := dk_10 (dk_at dksX3_gout_0 13 rfl rfl)
theorem dX3_gout_14 : decode cX3_gout 14 = .ok (.ldc2_w 224, 3) := dk_20 0 224 (dk_at dksX3_gout_0 14 rfl rfl)
theorem dX3_gout_17 : decode cX3_gout 17 = .ok (.invokestatic 102, 3) := dk_184 0 102 (dk_at dksX3_gout_0 17 rfl rfl)
theorem dX3_gout_20 : decode cX3_gout 20 = .ok (.ifCond .ne 6, 3) := dk_154 0 6 (dk_at dksX3_gout_0 20 rfl rfl)
theorem dX3_gout_23 : decode cX3_gout 23 = .ok (.ldc 112, 2) := dk_18 112 (dk_at dksX3_gout_1 0 rfl rfl)
theorem dX3_gout_25 : decode cX3_gout 25 = .ok (.ireturn, 1) := dk_172 (dk_at dksX3_gout_1 2 rfl rfl)
theorem dX3_gout_26 : decode cX3_gout 26 = .ok (.aload_n 0, 1) := dk_42 (dk_at dksX3_gout_1 3 rfl rfl)
theorem dX3_gout_27 : decode cX3_gout 27 = .ok (.iload_n 1, 1) := dk_27 (dk_at dksX3_gout_1 4 rfl rfl)
theorem dX3_gout_28 : decode cX3_gout 28 = .ok (.invokevirtual 190, 3) := dk_182 0 190 (dk_at dksX3_gout_1 5 rfl rfl)
theorem dX3_gout_31 : decode cX3_gout 31 = .ok (.ifCond .ne 6, 3) := dk_154 0 6 (dk_at dksX3_gout_1 8 rfl rfl)
theorem dX3_gout_34 : decode cX3_gout 34 = .ok (.ldc 214, 2) := dk_18 214 (dk_at dksX3_gout_1 11 rfl rfl)
theorem dX3_gout_36 : decode cX3_gout 36 = .ok (.ireturn, 1) := dk_172 (dk_at dksX3_gout_1 13 rfl rfl)
theorem dX3_gout_37 : decode cX3_gout 37 = .ok (.aload_n 0, 1) := dk_42 (dk_at dksX3_gout_1 14 rfl rfl)
theorem dX3_gout_38 : decode cX3_gout 38 = .ok (.invokevirtual 218, 3) := dk_182 0 218 (dk_at dksX3_gout_1 15 rfl rfl)
theorem dX3_gout_41 : decode cX3_gout 41 = .ok (.aload_n 0, 1) := dk_42 (dk_at dksX3_gout_1 18 rfl rfl)
theorem dX3_gout_42 : decode cX3_gout 42 = .ok (.iload_n 1, 1) := dk_27 (dk_at dksX3_gout_1 19 rfl rfl)
theorem dX3_gout_43 : decode cX3_gout 43 = .ok (.iload_n 2, 1) := dk_28 (dk_at dksX3_gout_1 20 rfl rfl)
theorem dX3_gout_44 : decode cX3_gout 44 = .ok (.invokevirtual 226, 3) := dk_182 0 226 (dk_at dksX3_gout_1 21 rfl rfl)
theorem dX3_gout_47 : decode cX3_gout 47 = .ok (.aload_n 0, 1) := dk_42 (dk_at dksX3_gout_2 0 rfl rfl)
theorem dX3_gout_48 : decode cX3_gout 48 = .ok (.getfield 37, 3) := dk_180 0 37 (dk_at dksX3_gout_2 1 rfl rfl)
theorem dX3_gout_51 : decode cX3_gout 51 = .ok (.iload_n 1, 1) := dk_27 (dk_at dksX3_gout_2 4 rfl rfl)
theorem dX3_gout_52 : decode cX3_gout 52 = .ok (.iaload, 1) := dk_46 (dk_at dksX3_gout_2 5 rfl rfl)
theorem dX3_gout_53 : decode cX3_gout 53 = .ok (.ireturn, 1) := dk_172 (dk_at dksX3_gout_2 6 rfl rfl)
abbrev cX3_swell : ByteArray := prog_9_method_34_code
def yX3_swell : MethodName := ⟨RX3, "swell", "(II)V"⟩
def dkwX3_swell_1 : List UInt8 := [46, 28, 96, 167, 0, 6, 17, 0, 140, 79, 177]
abbrev dktX3_swell_1 : List UInt8 := dkwX3_swell_1 ++ []
def dkwX3_swell_0 : List UInt8 := [42, 180, 0, 37, 27, 42, 180, 0, 37, 27, 46, 28, 96, 17, 0, 140, 162, 0, 14, 42, 180, 0, 37, 27]
abbrev dktX3_swell_0 : List UInt8 := dkwX3_swell_0 ++ dktX3_swell_1
theorem dksX3_swell_0 : cX3_swell.data.toList.drop 0 = dktX3_swell_0 := by decide +kernel
theorem dksX3_swell_1 : cX3_swell.data.toList.drop 24 = dktX3_swell_1 := dk_seg dksX3_swell_0 24 rfl rfl
theorem dX3_swell_0 : decode cX3_swell 0 = .ok (.aload_n 0, 1) := dk_42 (dk_at dksX3_swell_0 0 rfl rfl)
theorem dX3_swell_1 : decode cX3_swell 1 = .ok (.getfield 37, 3) := dk_180 0 37 (dk_at dksX3_swell_0 1 rfl rfl)
theorem dX3_swell_4 : decode cX3_swell 4 = .ok (.iload_n 1, 1) := dk_27 (dk_at dksX3_swell_0 4 rfl rfl)
theorem dX3_swell_5 : decode cX3_swell 5 = .ok (.aload_n 0, 1) := dk_42 (dk_at dksX3_swell_0 5 rfl rfl)
theorem dX3_swell_6 : decode cX3_swell 6 = .ok (.getfield 37, 3) := dk_180 0 37 (dk_at dksX3_swell_0 6 rfl rfl)
theorem dX3_swell_9 : decode cX3_swell 9 = .ok (.iload_n 1, 1) := dk_27 (dk_at dksX3_swell_0 9 rfl rfl)
theorem dX3_swell_10 : decode cX3_swell 10 = .ok (.iaload, 1) := dk_46 (dk_at dksX3_swell_0 10 rfl rfl)
theorem dX3_swell_11 : decode cX3_swell 11 = .ok (.iload_n 2, 1) := dk_28 (dk_at dksX3_swell_0 11 rfl rfl)
theorem dX3_swell_12 : decode cX3_swell 12 = .ok (.iadd, 1) := dk_96 (dk_at dksX3_swell_0 12 rfl rfl)
theorem dX3_swell_13 : decode cX3_swell 13 = .ok (.sipush 140, 3) := dk_17 0 140 (dk_at dksX3_swell_0 13 rfl rfl)
theorem dX3_swell_16 : decode cX3_swell 16 = .ok (.if_icmp .ge 14, 3) := dk_162 0 14 (dk_at dksX3_swell_0 16 rfl rfl)
theorem dX3_swell_19 : decode cX3_swell 19 = .ok (.aload_n 0, 1) := dk_42 (dk_at dksX3_swell_0 19 rfl rfl)
theorem dX3_swell_20 : decode cX3_swell 20 = .ok (.getfield 37, 3) := dk_180 0 37 (dk_at dksX3_swell_0 20 rfl rfl)
theorem dX3_swell_23 : decode cX3_swell 23 = .ok (.iload_n 1, 1) := dk_27 (dk_at dksX3_swell_0 23 rfl rfl)
theorem dX3_swell_24 : decode cX3_swell 24 = .ok (.iaload, 1) := dk_46 (dk_at dksX3_swell_1 0 rfl rfl)
theorem dX3_swell_25 : decode cX3_swell 25 = .ok (.iload_n 2, 1) := dk_28 (dk_at dksX3_swell_1 1 rfl rfl)
theorem dX3_swell_26 : decode cX3_swell 26 = .ok (.iadd, 1) := dk_96 (dk_at dksX3_swell_1 2 rfl rfl)
theorem dX3_swell_27 : decode cX3_swell 27 = .ok (.goto 6, 3) := dk_167 0 6 (dk_at dksX3_swell_1 3 rfl rfl)
theorem dX3_swell_30 : decode cX3_swell 30 = .ok (.sipush 140, 3) := dk_17 0 140 (dk_at dksX3_swell_1 6 rfl rfl)
theorem dX3_swell_33 : decode cX3_swell 33 = .ok (.iastore, 1) := dk_79 (dk_at dksX3_swell_1 9 rfl rfl)
theorem dX3_swell_34 : decode cX3_swell 34 = .ok (.return_, 1) := dk_177 (dk_at dksX3_swell_1 10 rfl rfl)
abbrev cX3_stub : ByteArray := prog_9_method_37_code
def yX3_stub : MethodName := ⟨RX3, "stub", "(I)I"⟩
def dkwX3_stub_1 : List UInt8 := [182, 0, 218, 42, 27, 182, 0, 230, 42, 180, 0, 37, 27, 46, 172]
abbrev dktX3_stub_1 : List UInt8 := dkwX3_stub_1 ++ []
def dkwX3_stub_0 : List UInt8 := [42, 27, 182, 0, 200, 154, 0, 6, 18, 203, 172, 42, 27, 182, 0, 190, 154, 0, 6, 18, 214, 172, 42]
abbrev dktX3_stub_0 : List UInt8 := dkwX3_stub_0 ++ dktX3_stub_1
theorem dksX3_stub_0 : cX3_stub.data.toList.drop 0 = dktX3_stub_0 := by decide +kernel
theorem dksX3_stub_1 : cX3_stub.data.toList.drop 23 = dktX3_stub_1 := dk_seg dksX3_stub_0 23 rfl rfl
theorem dX3_stub_0 : decode cX3_stub 0 = .ok (.aload_n 0, 1) := dk_42 (dk_at dksX3_stub_0 0 rfl rfl)
theorem dX3_stub_1 : decode cX3_stub 1 = .ok (.iload_n 1, 1) := dk_27 (dk_at dksX3_stub_0 1 rfl rfl)
theorem dX3_stub_2 : decode cX3_stub 2 = .ok (.invokevirtual 200, 3) := dk_182 0 200 (dk_at dksX3_stub_0 2 rfl rfl)
theorem dX3_stub_5 : decode cX3_stub 5 = .ok (.ifCond .ne 6, 3) := dk_154 0 6 (dk_at dksX3_stub_0 5 rfl rfl)
theorem dX3_stub_8 : decode cX3_stub 8 = .ok (.ldc 203, 2) := dk_18 203 (dk_at dksX3_stub_0 8 rfl rfl)
theorem dX3_stub_10 : decode cX3_stub 10 = .ok (.ireturn, 1) := dk_172 (dk_at dksX3_stub_0 10 rfl rfl)
theorem dX3_stub_11 : decode cX3_stub 11 = .ok (.aload_n 0, 1) := dk_42 (dk_at dksX3_stub_0 11 rfl rfl)
theorem dX3_stub_12 : decode cX3_stub 12 = .ok (.iload_n 1, 1) := dk_27 (dk_at dksX3_stub_0 12 rfl rfl)
theorem dX3_stub_13 : decode cX3_stub 13 = .ok (.invokevirtual 190, 3) := dk_182 0 190 (dk_at dksX3_stub_0 13 rfl rfl)
theorem dX3_stub_16 : decode cX3_stub 16 = .ok (.ifCond .ne 6, 3) := dk_154 0 6 (dk_at dksX3_stub_0 16 rfl rfl)
theorem dX3_stub_19 : decode cX3_stub 19 = .ok (.ldc 214, 2) := dk_18 214 (dk_at dksX3_stub_0 19 rfl rfl)
theorem dX3_stub_21 : decode cX3_stub 21 = .ok (.ireturn, 1) := dk_172 (dk_at dksX3_stub_0 21 rfl rfl)
theorem dX3_stub_22 : decode cX3_stub 22 = .ok (.aload_n 0, 1) := dk_42 (dk_at dksX3_stub_0 22 rfl rfl)
theorem dX3_stub_23 : decode cX3_stub 23 = .ok (.invokevirtual 218, 3) := dk_182 0 218 (dk_at dksX3_stub_1 0 rfl rfl)
theorem dX3_stub_26 : decode cX3_stub 26 = .ok (.aload_n 0, 1) := dk_42 (dk_at dksX3_stub_1 3 rfl rfl)
theorem dX3_stub_27 : decode cX3_stub 27 = .ok (.iload_n 1, 1) := dk_27 (dk_at dksX3_stub_1 4 rfl rfl)
theorem dX3_stub_28 : decode cX3_stub 28 = .ok (.invokevirtual 230, 3) := dk_182 0 230 (dk_at dksX3_stub_1 5 rfl rfl)
theorem dX3_stub_31 : decode cX3_stub 31 = .ok (.aload_n 0, 1) := dk_42 (dk_at dksX3_stub_1 8 rfl rfl)
theorem dX3_stub_32 : decode cX3_stub 32 = .ok (.getfield 37, 3) := dk_180 0 37 (dk_at dksX3_stub_1 9 rfl rfl)
theorem dX3_stub_35 : decode cX3_stub 35 = .ok (.iload_n 1, 1) := dk_27 (dk_at dksX3_stub_1 12 rfl rfl)
theorem dX3_stub_36 : decode cX3_stub 36 = .ok (.iaload, 1) := dk_46 (dk_at dksX3_stub_1 13 rfl rfl)
theorem dX3_stub_37 : decode cX3_stub 37 = .ok (.ireturn, 1) := dk_172 (dk_at dksX3_stub_1 14 rfl rfl)
abbrev cX3_shrink : ByteArray := prog_9_method_35_code
def yX3_shrink : MethodName := ⟨RX3, "shrink", "(I)V"⟩
def dkwX3_shrink_1 : List UInt8 := [167, 0, 4, 4, 79, 177]
abbrev dktX3_shrink_1 : List UInt8 := dkwX3_shrink_1 ++ []
def dkwX3_shrink_0 : List UInt8 := [42, 180, 0, 37, 27, 42, 180, 0, 37, 27, 46, 7, 164, 0, 14, 42, 180, 0, 37, 27, 46, 6, 100]
abbrev dktX3_shrink_0 : List UInt8 := dkwX3_shrink_0 ++ dktX3_shrink_1
theorem dksX3_shrink_0 : cX3_shrink.data.toList.drop 0 = dktX3_shrink_0 := by decide +kernel
theorem dksX3_shrink_1 : cX3_shrink.data.toList.drop 23 = dktX3_shrink_1 := dk_seg dksX3_shrink_0 23 rfl rfl
theorem dX3_shrink_0 : decode cX3_shrink 0 = .ok (.aload_n 0, 1) := dk_42 (dk_at dksX3_shrink_0 0 rfl rfl)
theorem dX3_shrink_1 : decode cX3_shrink 1 = .ok (.getfield 37, 3) := dk_180 0 37 (dk_at dksX3_shrink_0 1 rfl rfl)
theorem dX3_shrink_4 : decode cX3_shrink 4 = .ok (.iload_n 1, 1) := dk_27 (dk_at dksX3_shrink_0 4 rfl rfl)
theorem dX3_shrink_5 : decode cX3_shrink 5 = .ok (.aload_n 0, 1) := dk_42 (dk_at dksX3_shrink_0 5 rfl rfl)
theorem dX3_shrink_6 : decode cX3_shrink 6 = .ok (.getfield 37, 3) := dk_180 0 37 (dk_at dksX3_shrink_0 6 rfl rfl)
theorem dX3_shrink_9 : decode cX3_shrink 9 = .ok (.iload_n 1, 1) := dk_27 (dk_at dksX3_shrink_0 9 rfl rfl)
theorem dX3_shrink_10 : decode cX3_shrink 10 = .ok (.iaload, 1) := dk_46 (dk_at dksX3_shrink_0 10 rfl rfl)
theorem dX3_shrink_11 : decode cX3_shrink 11 = .ok (.iconst 4, 1) := dk_7 (dk_at dksX3_shrink_0 11 rfl rfl)
theorem dX3_shrink_12 : decode cX3_shrink 12 = .ok (.if_icmp .le 14, 3) := dk_164 0 14 (dk_at dksX3_shrink_0 12 rfl rfl)
theorem dX3_shrink_15 : decode cX3_shrink 15 = .ok (.aload_n 0, 1) := dk_42 (dk_at dksX3_shrink_0 15 rfl rfl)
theorem dX3_shrink_16 : decode cX3_shrink 16 = .ok (.getfield 37, 3) := dk_180 0 37 (dk_at dksX3_shrink_0 16 rfl rfl)
theorem dX3_shrink_19 : decode cX3_shrink 19 = .ok (.iload_n 1, 1) := dk_27 (dk_at dksX3_shrink_0 19 rfl rfl)
theorem dX3_shrink_20 : decode cX3_shrink 20 = .ok (.iaload, 1) := dk_46 (dk_at dksX3_shrink_0 20 rfl rfl)
theorem dX3_shrink_21 : decode cX3_shrink 21 = .ok (.iconst 3, 1) := dk_6 (dk_at dksX3_shrink_0 21 rfl rfl)
theorem dX3_shrink_22 : decode cX3_shrink 22 = .ok (.isub, 1) := dk_100 (dk_at dksX3_shrink_0 22 rfl rfl)
theorem dX3_shrink_23 : decode cX3_shrink 23 = .ok (.goto 4, 3) := dk_167 0 4 (dk_at dksX3_shrink_1 0 rfl rfl)
theorem dX3_shrink_26 : decode cX3_shrink 26 = .ok (.iconst 1, 1) := dk_4 (dk_at dksX3_shrink_1 3 rfl rfl)
theorem dX3_shrink_27 : decode cX3_shrink 27 = .ok (.iastore, 1) := dk_79 (dk_at dksX3_shrink_1 4 rfl rfl)
theorem dX3_shrink_28 : decode cX3_shrink 28 = .ok (.return_, 1) := dk_177 (dk_at dksX3_shrink_1 5 rfl rfl)
abbrev cX3_dies : ByteArray := prog_9_method_38_code
def yX3_dies : MethodName := ⟨RX3, "dies", "(I)I"⟩
def dkwX3_dies_1 : List UInt8 := [182, 0, 218, 42, 180, 0, 37, 16, 18, 92, 46, 4, 27, 120, 2, 130, 126, 79, 42, 27, 182, 0, 204, 172]
abbrev dktX3_dies_1 : List UInt8 := dkwX3_dies_1 ++ []
def dkwX3_dies_0 : List UInt8 := [42, 27, 182, 0, 200, 154, 0, 6, 18, 203, 172, 42, 27, 182, 0, 190, 154, 0, 6, 18, 214, 172, 42]
abbrev dktX3_dies_0 : List UInt8 := dkwX3_dies_0 ++ dktX3_dies_1
theorem dksX3_dies_0 : cX3_dies.data.toList.drop 0 = dktX3_dies_0 := by decide +kernel
theorem dksX3_dies_1 : cX3_dies.data.toList.drop 23 = dktX3_dies_1 := dk_seg dksX3_dies_0 23 rfl rfl
theorem dX3_dies_0 : decode cX3_dies 0 = .ok (.aload_n 0, 1) := dk_42 (dk_at dksX3_dies_0 0 rfl rfl)
theorem dX3_dies_1 : decode cX3_dies 1 = .ok (.iload_n 1, 1) := dk_27 (dk_at dksX3_dies_0 1 rfl rfl)
theorem dX3_dies_2 : decode cX3_dies 2 = .ok (.invokevirtual 200, 3) := dk_182 0 200 (dk_at dksX3_dies_0 2 rfl rfl)
theorem dX3_dies_5 : decode cX3_dies 5 = .ok (.ifCond .ne 6, 3) := dk_154 0 6 (dk_at dksX3_dies_0 5 rfl rfl)
theorem dX3_dies_8 : decode cX3_dies 8 = .ok (.ldc 203, 2) := dk_18 203 (dk_at dksX3_dies_0 8 rfl rfl)
theorem dX3_dies_10 : decode cX3_dies 10 = .ok (.ireturn, 1) := dk_172 (dk_at dksX3_dies_0 10 rfl rfl)
theorem dX3_dies_11 : decode cX3_dies 11 = .ok (.aload_n 0, 1) := dk_42 (dk_at dksX3_dies_0 11 rfl rfl)
theorem dX3_dies_12 : decode cX3_dies 12 = .ok (.iload_n 1, 1) := dk_27 (dk_at dksX3_dies_0 12 rfl rfl)
theorem dX3_dies_13 : decode cX3_dies 13 = .ok (.invokevirtual 190, 3) := dk_182 0 190 (dk_at dksX3_dies_0 13 rfl rfl)
theorem dX3_dies_16 : decode cX3_dies 16 = .ok (.ifCond .ne 6, 3) := dk_154 0 6 (dk_at dksX3_dies_0 16 rfl rfl)
theorem dX3_dies_19 : decode cX3_dies 19 = .ok (.ldc 214, 2) := dk_18 214 (dk_at dksX3_dies_0 19 rfl rfl)
theorem dX3_dies_21 : decode cX3_dies 21 = .ok (.ireturn, 1) := dk_172 (dk_at dksX3_dies_0 21 rfl rfl)
theorem dX3_dies_22 : decode cX3_dies 22 = .ok (.aload_n 0, 1) := dk_42 (dk_at dksX3_dies_0 22 rfl rfl)
theorem dX3_dies_23 : decode cX3_dies 23 = .ok (.invokevirtual 218, 3) := dk_182 0 218 (dk_at dksX3_dies_1 0 rfl rfl)
theorem dX3_dies_26 : decode cX3_dies 26 = .ok (.aload_n 0, 1) := dk_42 (dk_at dksX3_dies_1 3 rfl rfl)
theorem dX3_dies_27 : decode cX3_dies 27 = .ok (.getfield 37, 3) := dk_180 0 37 (dk_at dksX3_dies_1 4 rfl rfl)
theorem dX3_dies_30 : decode cX3_dies 30 = .ok (.bipush 18, 2) := dk_16 18 (dk_at dksX3_dies_1 7 rfl rfl)
theorem dX3_dies_32 : decode cX3_dies 32 = .ok (.dup2, 1) := dk_92 (dk_at dksX3_dies_1 9 rfl rfl)
theorem dX3_dies_33 : decode cX3_dies 33 = .ok (.iaload, 1) := dk_46 (dk_at dksX3_dies_1 10 rfl rfl)
theorem dX3_dies_34 : decode cX3_dies 34 = .ok (.iconst 1, 1) := dk_4 (dk_at dksX3_dies_1 11 rfl rfl)
theorem dX3_dies_35 : decode cX3_dies 35 = .ok (.iload_n 1, 1) := dk_27 (dk_at dksX3_dies_1 12 rfl rfl)
theorem dX3_dies_36 : decode cX3_dies 36 = .ok (.ishl, 1) := dk_120 (dk_at dksX3_dies_1 13 rfl rfl)
theorem dX3_dies_37 : decode cX3_dies 37 = .ok (.iconst (-1), 1) := dk_2 (dk_at dksX3_dies_1 14 rfl rfl)
theorem dX3_dies_38 : decode cX3_dies 38 = .ok (.ixor, 1) := dk_130 (dk_at dksX3_dies_1 15 rfl rfl)
theorem dX3_dies_39 : decode cX3_dies 39 = .ok (.iand, 1) := dk_126 (dk_at dksX3_dies_1 16 rfl rfl)
theorem dX3_dies_40 : decode cX3_dies 40 = .ok (.iastore, 1) := dk_79 (dk_at dksX3_dies_1 17 rfl rfl)
theorem dX3_dies_41 : decode cX3_dies 41 = .ok (.aload_n 0, 1) := dk_42 (dk_at dksX3_dies_1 18 rfl rfl)
theorem dX3_dies_42 : decode cX3_dies 42 = .ok (.iload_n 1, 1) := dk_27 (dk_at dksX3_dies_1 19 rfl rfl)
theorem dX3_dies_43 : decode cX3_dies 43 = .ok (.invokevirtual 204, 3) := dk_182 0 204 (dk_at dksX3_dies_1 20 rfl rfl)
theorem dX3_dies_46 : decode cX3_dies 46 = .ok (.ireturn, 1) := dk_172 (dk_at dksX3_dies_1 23 rfl rfl)
abbrev cX3_copy : ByteArray := prog_9_method_39_code
def yX3_copy : MethodName := ⟨RX3, "copy", "(I)I"⟩
def dkwX3_copy_2 : List UInt8 := [42, 180, 0, 37, 16, 6, 27, 96, 46, 172]
abbrev dktX3_copy_2 : List UInt8 := dkwX3_copy_2 ++ []
def dkwX3_copy_1 : List UInt8 := [182, 0, 218, 42, 180, 0, 37, 16, 6, 27, 96, 42, 27, 42, 180, 0, 37, 16, 19, 46, 182, 0, 194, 79]
abbrev dktX3_copy_1 : List UInt8 := dkwX3_copy_1 ++ dktX3_copy_2
def dkwX3_copy_0 : List UInt8 := [42, 27, 182, 0, 200, 154, 0, 6, 18, 203, 172, 42, 27, 182, 0, 190, 154, 0, 6, 18, 214, 172, 42]
abbrev dktX3_copy_0 : List UInt8 := dkwX3_copy_0 ++ dktX3_copy_1
theorem dksX3_copy_0 : cX3_copy.data.toList.drop 0 = dktX3_copy_0 := by decide +kernel
theorem dksX3_copy_1 : cX3_copy.data.toList.drop 23 = dktX3_copy_1 := dk_seg dksX3_copy_0 23 rfl rfl
theorem dksX3_copy_2 : cX3_copy.data.toList.drop 47 = dktX3_copy_2 := dk_seg dksX3_copy_1 24 rfl rfl
theorem dX3_copy_0 : decode cX3_copy 0 = .ok (.aload_n 0, 1) := dk_42 (dk_at dksX3_copy_0 0 rfl rfl)
theorem dX3_copy_1 : decode cX3_copy 1 = .ok (.iload_n 1, 1) := dk_27 (dk_at dksX3_copy_0 1 rfl rfl)
theorem dX3_copy_2 : decode cX3_copy 2 = .ok (.invokevirtual 200, 3) := dk_182 0 200 (dk_at dksX3_copy_0 2 rfl rfl)
theorem dX3_copy_5 : decode cX3_copy 5 = .ok (.ifCond .ne 6, 3) := dk_154 0 6 (dk_at dksX3_copy_0 5 rfl rfl)
theorem dX3_copy_8 : decode cX3_copy 8 = .ok (.ldc 203, 2) := dk_18 203 (dk_at dksX3_copy_0 8 rfl rfl)
theorem dX3_copy_10 : decode cX3_copy 10 = .ok (.ireturn, 1) := dk_172 (dk_at dksX3_copy_0 10 rfl rfl)
theorem dX3_copy_11 : decode cX3_copy 11 = .ok (.aload_n 0, 1) := dk_42 (dk_at dksX3_copy_0 11 rfl rfl)
theorem dX3_copy_12 : decode cX3_copy 12 = .ok (.iload_n 1, 1) := dk_27 (dk_at dksX3_copy_0 12 rfl rfl)
theorem dX3_copy_13 : decode cX3_copy 13 = .ok (.invokevirtual 190, 3) := dk_182 0 190 (dk_at dksX3_copy_0 13 rfl rfl)
theorem dX3_copy_16 : decode cX3_copy 16 = .ok (.ifCond .ne 6, 3) := dk_154 0 6 (dk_at dksX3_copy_0 16 rfl rfl)
theorem dX3_copy_19 : decode cX3_copy 19 = .ok (.ldc 214, 2) := dk_18 214 (dk_at dksX3_copy_0 19 rfl rfl)
theorem dX3_copy_21 : decode cX3_copy 21 = .ok (.ireturn, 1) := dk_172 (dk_at dksX3_copy_0 21 rfl rfl)
theorem dX3_copy_22 : decode cX3_copy 22 = .ok (.aload_n 0, 1) := dk_42 (dk_at dksX3_copy_0 22 rfl rfl)
theorem dX3_copy_23 : decode cX3_copy 23 = .ok (.invokevirtual 218, 3) := dk_182 0 218 (dk_at dksX3_copy_1 0 rfl rfl)
theorem dX3_copy_26 : decode cX3_copy 26 = .ok (.aload_n 0, 1) := dk_42 (dk_at dksX3_copy_1 3 rfl rfl)
theorem dX3_copy_27 : decode cX3_copy 27 = .ok (.getfield 37, 3) := dk_180 0 37 (dk_at dksX3_copy_1 4 rfl rfl)
theorem dX3_copy_30 : decode cX3_copy 30 = .ok (.bipush 6, 2) := dk_16 6 (dk_at dksX3_copy_1 7 rfl rfl)
theorem dX3_copy_32 : decode cX3_copy 32 = .ok (.iload_n 1, 1) := dk_27 (dk_at dksX3_copy_1 9 rfl rfl)
theorem dX3_copy_33 : decode cX3_copy 33 = .ok (.iadd, 1) := dk_96 (dk_at dksX3_copy_1 10 rfl rfl)
theorem dX3_copy_34 : decode cX3_copy 34 = .ok (.aload_n 0, 1) := dk_42 (dk_at dksX3_copy_1 11 rfl rfl)
theorem dX3_copy_35 : decode cX3_copy 35 = .ok (.iload_n 1, 1) := dk_27 (dk_at dksX3_copy_1 12 rfl rfl)
theorem dX3_copy_36 : decode cX3_copy 36 = .ok (.aload_n 0, 1) := dk_42 (dk_at dksX3_copy_1 13 rfl rfl)
theorem dX3_copy_37 : decode cX3_copy 37 = .ok (.getfield 37, 3) := dk_180 0 37 (dk_at dksX3_copy_1 14 rfl rfl)
theorem dX3_copy_40 : decode cX3_copy 40 = .ok (.bipush 19, 2) := dk_16 19 (dk_at dksX3_copy_1 17 rfl rfl)
theorem dX3_copy_42 : decode cX3_copy 42 = .ok (.iaload, 1) := dk_46 (dk_at dksX3_copy_1 19 rfl rfl)
theorem dX3_copy_43 : decode cX3_copy 43 = .ok (.invokevirtual 194, 3) := dk_182 0 194 (dk_at dksX3_copy_1 20 rfl rfl)
theorem dX3_copy_46 : decode cX3_copy 46 = .ok (.iastore, 1) := dk_79 (dk_at dksX3_copy_1 23 rfl rfl)
theorem dX3_copy_47 : decode cX3_copy 47 = .ok (.aload_n 0, 1) := dk_42 (dk_at dksX3_copy_2 0 rfl rfl)
theorem dX3_copy_48 : decode cX3_copy 48 = .ok (.getfield 37, 3) := dk_180 0 37 (dk_at dksX3_copy_2 1 rfl rfl)
theorem dX3_copy_51 : decode cX3_copy 51 = .ok (.bipush 6, 2) := dk_16 6 (dk_at dksX3_copy_2 4 rfl rfl)
theorem dX3_copy_53 : decode cX3_copy 53 = .ok (.iload_n 1, 1) := dk_27 (dk_at dksX3_copy_2 6 rfl rfl)
theorem dX3_copy_54 : decode cX3_copy 54 = .ok (.iadd, 1) := dk_96 (dk_at dksX3_copy_2 7 rfl rfl)
theorem dX3_copy_55 : decode cX3_copy 55 = .ok (.iaload, 1) := dk_46 (dk_at dksX3_copy_2 8 rfl rfl)
theorem dX3_copy_56 : decode cX3_copy 56 = .ok (.ireturn, 1) := dk_172 (dk_at dksX3_copy_2 9 rfl rfl)
abbrev cX3_drift : ByteArray := prog_9_method_42_code
def yX3_drift : MethodName := ⟨RX3, "drift", "(I)I"⟩
def dkwX3_drift_1 : List UInt8 := [182, 0, 247, 42, 182, 0, 221, 132, 3, 1, 167, 255, 240, 42, 180, 0, 37, 16, 19, 46, 172]
abbrev dktX3_drift_1 : List UInt8 := dkwX3_drift_1 ++ []
def dkwX3_drift_0 : List UInt8 := [42, 27, 182, 0, 215, 61, 28, 153, 0, 5, 28, 172, 42, 182, 0, 218, 3, 62, 29, 27, 162, 0, 17, 42]
abbrev dktX3_drift_0 : List UInt8 := dkwX3_drift_0 ++ dktX3_drift_1
theorem dksX3_drift_0 : cX3_drift.data.toList.drop 0 = dktX3_drift_0 := by decide +kernel
theorem dksX3_drift_1 : cX3_drift.data.toList.drop 24 = dktX3_drift_1 := dk_seg dksX3_drift_0 24 rfl rfl
theorem dX3_drift_0 : decode cX3_drift 0 = .ok (.aload_n 0, 1) := dk_42 (dk_at dksX3_drift_0 0 rfl rfl)
theorem dX3_drift_1 : decode cX3_drift 1 = .ok (.iload_n 1, 1) := dk_27 (dk_at dksX3_drift_0 1 rfl rfl)
theorem dX3_drift_2 : decode cX3_drift 2 = .ok (.invokevirtual 215, 3) := dk_182 0 215 (dk_at dksX3_drift_0 2 rfl rfl)
theorem dX3_drift_5 : decode cX3_drift 5 = .ok (.istore_n 2, 1) := dk_61 (dk_at dksX3_drift_0 5 rfl rfl)
theorem dX3_drift_6 : decode cX3_drift 6 = .ok (.iload_n 2, 1) := dk_28 (dk_at dksX3_drift_0 6 rfl rfl)
theorem dX3_drift_7 : decode cX3_drift 7 = .ok (.ifCond .eq 5, 3) := dk_153 0 5 (dk_at dksX3_drift_0 7 rfl rfl)
theorem dX3_drift_10 : decode cX3_drift 10 = .ok (.iload_n 2, 1) := dk_28 (dk_at dksX3_drift_0 10 rfl rfl)
theorem dX3_drift_11 : decode cX3_drift 11 = .ok (.ireturn, 1) := dk_172 (dk_at dksX3_drift_0 11 rfl rfl)
theorem dX3_drift_12 : decode cX3_drift 12 = .ok (.aload_n 0, 1) := dk_42 (dk_at dksX3_drift_0 12 rfl rfl)
theorem dX3_drift_13 : decode cX3_drift 13 = .ok (.invokevirtual 218, 3) := dk_182 0 218 (dk_at dksX3_drift_0 13 rfl rfl)
theorem dX3_drift_16 : decode cX3_drift 16 = .ok (.iconst 0, 1) := dk_3 (dk_at dksX3_drift_0 16 rfl rfl)
theorem dX3_drift_17 : decode cX3_drift 17 = .ok (.istore_n 3, 1) := dk_62 (dk_at dksX3_drift_0 17 rfl rfl)
theorem dX3_drift_18 : decode cX3_drift 18 = .ok (.iload_n 3, 1) := dk_29 (dk_at dksX3_drift_0 18 rfl rfl)
theorem dX3_drift_19 : decode cX3_drift 19 = .ok (.iload_n 1, 1) := dk_27 (dk_at dksX3_drift_0 19 rfl rfl)
theorem dX3_drift_20 : decode cX3_drift 20 = .ok (.if_icmp .ge 17, 3) := dk_162 0 17 (dk_at dksX3_drift_0 20 rfl rfl)
theorem dX3_drift_23 : decode cX3_drift 23 = .ok (.aload_n 0, 1) := dk_42 (dk_at dksX3_drift_0 23 rfl rfl)
theorem dX3_drift_24 : decode cX3_drift 24 = .ok (.invokevirtual 247, 3) := dk_182 0 247 (dk_at dksX3_drift_1 0 rfl rfl)
theorem dX3_drift_27 : decode cX3_drift 27 = .ok (.aload_n 0, 1) := dk_42 (dk_at dksX3_drift_1 3 rfl rfl)
theorem dX3_drift_28 : decode cX3_drift 28 = .ok (.invokevirtual 221, 3) := dk_182 0 221 (dk_at dksX3_drift_1 4 rfl rfl)
theorem dX3_drift_31 : decode cX3_drift 31 = .ok (.iinc 3 1, 3) := dk_132 3 1 (dk_at dksX3_drift_1 7 rfl rfl)
theorem dX3_drift_34 : decode cX3_drift 34 = .ok (.goto (-16), 3) := dk_167 255 240 (dk_at dksX3_drift_1 10 rfl rfl)
theorem dX3_drift_37 : decode cX3_drift 37 = .ok (.aload_n 0, 1) := dk_42 (dk_at dksX3_drift_1 13 rfl rfl)
theorem dX3_drift_38 : decode cX3_drift 38 = .ok (.getfield 37, 3) := dk_180 0 37 (dk_at dksX3_drift_1 14 rfl rfl)
theorem dX3_drift_41 : decode cX3_drift 41 = .ok (.bipush 19, 2) := dk_16 19 (dk_at dksX3_drift_1 17 rfl rfl)
theorem dX3_drift_43 : decode cX3_drift 43 = .ok (.iaload, 1) := dk_46 (dk_at dksX3_drift_1 19 rfl rfl)
theorem dX3_drift_44 : decode cX3_drift 44 = .ok (.ireturn, 1) := dk_172 (dk_at dksX3_drift_1 20 rfl rfl)
abbrev cX3_drawn : ByteArray := prog_9_method_41_code
def yX3_drawn : MethodName := ⟨RX3, "drawn", "()V"⟩
def dkwX3_drawn_3 : List UInt8 := [182, 0, 230, 177]
abbrev dktX3_drawn_3 : List UInt8 := dkwX3_drawn_3 ++ []
def dkwX3_drawn_2 : List UInt8 := [27, 154, 0, 12, 42, 28, 29, 182, 0, 226, 167, 0, 16, 42, 28, 182, 0, 190, 153, 0, 8, 42, 28]
abbrev dktX3_drawn_2 : List UInt8 := dkwX3_drawn_2 ++ dktX3_drawn_3
def dkwX3_drawn_1 : List UInt8 := [154, 0, 14, 42, 16, 20, 182, 0, 244, 4, 96, 167, 0, 4, 3, 62, 42, 28, 182, 0, 190, 153, 0, 16]
abbrev dktX3_drawn_1 : List UInt8 := dkwX3_drawn_1 ++ dktX3_drawn_2
def dkwX3_drawn_0 : List UInt8 := [42, 16, 6, 182, 0, 244, 60, 27, 4, 164, 0, 4, 177, 42, 42, 180, 0, 99, 182, 0, 244, 61, 27]
abbrev dktX3_drawn_0 : List UInt8 := dkwX3_drawn_0 ++ dktX3_drawn_1
theorem dksX3_drawn_0 : cX3_drawn.data.toList.drop 0 = dktX3_drawn_0 := by decide +kernel
theorem dksX3_drawn_1 : cX3_drawn.data.toList.drop 23 = dktX3_drawn_1 := dk_seg dksX3_drawn_0 23 rfl rfl
theorem dksX3_drawn_2 : cX3_drawn.data.toList.drop 47 = dktX3_drawn_2 := dk_seg dksX3_drawn_1 24 rfl rfl
theorem dksX3_drawn_3 : cX3_drawn.data.toList.drop 70 = dktX3_drawn_3 := dk_seg dksX3_drawn_2 23 rfl rfl
theorem dX3_drawn_0 : decode cX3_drawn 0 = .ok (.aload_n 0, 1) := dk_42 (dk_at dksX3_drawn_0 0 rfl rfl)
theorem dX3_drawn_1 : decode cX3_drawn 1 = .ok (.bipush 6, 2) := dk_16 6 (dk_at dksX3_drawn_0 1 rfl rfl)
theorem dX3_drawn_3 : decode cX3_drawn 3 = .ok (.invokevirtual 244, 3) := dk_182 0 244 (dk_at dksX3_drawn_0 3 rfl rfl)
theorem dX3_drawn_6 : decode cX3_drawn 6 = .ok (.istore_n 1, 1) := dk_60 (dk_at dksX3_drawn_0 6 rfl rfl)
theorem dX3_drawn_7 : decode cX3_drawn 7 = .ok (.iload_n 1, 1) := dk_27 (dk_at dksX3_drawn_0 7 rfl rfl)
theorem dX3_drawn_8 : decode cX3_drawn 8 = .ok (.iconst 1, 1) := dk_4 (dk_at dksX3_drawn_0 8 rfl rfl)
theorem dX3_drawn_9 : decode cX3_drawn 9 = .ok (.if_icmp .le 4, 3) := dk_164 0 4 (dk_at dksX3_drawn_0 9 rfl rfl)
theorem dX3_drawn_12 : decode cX3_drawn 12 = .ok (.return_, 1) := dk_177 (dk_at dksX3_drawn_0 12 rfl rfl)
theorem dX3_drawn_13 : decode cX3_drawn 13 = .ok (.aload_n 0, 1) := dk_42 (dk_at dksX3_drawn_0 13 rfl rfl)
theorem dX3_drawn_14 : decode cX3_drawn 14 = .ok (.aload_n 0, 1) := dk_42 (dk_at dksX3_drawn_0 14 rfl rfl)
theorem dX3_drawn_15 : decode cX3_drawn 15 = .ok (.getfield 99, 3) := dk_180 0 99 (dk_at dksX3_drawn_0 15 rfl rfl)
theorem dX3_drawn_18 : decode cX3_drawn 18 = .ok (.invokevirtual 244, 3) := dk_182 0 244 (dk_at dksX3_drawn_0 18 rfl rfl)
theorem dX3_drawn_21 : decode cX3_drawn 21 = .ok (.istore_n 2, 1) := dk_61 (dk_at dksX3_drawn_0 21 rfl rfl)
theorem dX3_drawn_22 : decode cX3_drawn 22 = .ok (.iload_n 1, 1) := dk_27 (dk_at dksX3_drawn_0 22 rfl rfl)
theorem dX3_drawn_23 : decode cX3_drawn 23 = .ok (.ifCond .ne 14, 3) := dk_154 0 14 (dk_at dksX3_drawn_1 0 rfl rfl)
theorem dX3_drawn_26 : decode cX3_drawn 26 = .ok (.aload_n 0, 1) := dk_42 (dk_at dksX3_drawn_1 3 rfl rfl)
theorem dX3_drawn_27 : decode cX3_drawn 27 = .ok (.bipush 20, 2) := dk_16 20 (dk_at dksX3_drawn_1 4 rfl rfl)
theorem dX3_drawn_29 : decode cX3_drawn 29 = .ok (.invokevirtual 244, 3) := dk_182 0 244 (dk_at dksX3_drawn_1 6 rfl rfl)
theorem dX3_drawn_32 : decode cX3_drawn 32 = .ok (.iconst 1, 1) := dk_4 (dk_at dksX3_drawn_1 9 rfl rfl)
theorem dX3_drawn_33 : decode cX3_drawn 33 = .ok (.iadd, 1) := dk_96 (dk_at dksX3_drawn_1 10 rfl rfl)
theorem dX3_drawn_34 : decode cX3_drawn 34 = .ok (.goto 4, 3) := dk_167 0 4 (dk_at dksX3_drawn_1 11 rfl rfl)
theorem dX3_drawn_37 : decode cX3_drawn 37 = .ok (.iconst 0, 1) := dk_3 (dk_at dksX3_drawn_1 14 rfl rfl)
theorem dX3_drawn_38 : decode cX3_drawn 38 = .ok (.istore_n 3, 1) := dk_62 (dk_at dksX3_drawn_1 15 rfl rfl)
theorem dX3_drawn_39 : decode cX3_drawn 39 = .ok (.aload_n 0, 1) := dk_42 (dk_at dksX3_drawn_1 16 rfl rfl)
theorem dX3_drawn_40 : decode cX3_drawn 40 = .ok (.iload_n 2, 1) := dk_28 (dk_at dksX3_drawn_1 17 rfl rfl)
theorem dX3_drawn_41 : decode cX3_drawn 41 = .ok (.invokevirtual 190, 3) := dk_182 0 190 (dk_at dksX3_drawn_1 18 rfl rfl)
theorem dX3_drawn_44 : decode cX3_drawn 44 = .ok (.ifCond .eq 16, 3) := dk_153 0 16 (dk_at dksX3_drawn_1 21 rfl rfl)
theorem dX3_drawn_47 : decode cX3_drawn 47 = .ok (.iload_n 1, 1) := dk_27 (dk_at dksX3_drawn_2 0 rfl rfl)
theorem dX3_drawn_48 : decode cX3_drawn 48 = .ok (.ifCond .ne 12, 3) := dk_154 0 12 (dk_at dksX3_drawn_2 1 rfl rfl)
theorem dX3_drawn_51 : decode cX3_drawn 51 = .ok (.aload_n 0, 1) := dk_42 (dk_at dksX3_drawn_2 4 rfl rfl)
theorem dX3_drawn_52 : decode cX3_drawn 52 = .ok (.iload_n 2, 1) := dk_28 (dk_at dksX3_drawn_2 5 rfl rfl)
theorem dX3_drawn_53 : decode cX3_drawn 53 = .ok (.iload_n 3, 1) := dk_29 (dk_at dksX3_drawn_2 6 rfl rfl)
theorem dX3_drawn_54 : decode cX3_drawn 54 = .ok (.invokevirtual 226, 3) := dk_182 0 226 (dk_at dksX3_drawn_2 7 rfl rfl)
theorem dX3_drawn_57 : decode cX3_drawn 57 = .ok (.goto 16, 3) := dk_167 0 16 (dk_at dksX3_drawn_2 10 rfl rfl)
theorem dX3_drawn_60 : decode cX3_drawn 60 = .ok (.aload_n 0, 1) := dk_42 (dk_at dksX3_drawn_2 13 rfl rfl)
theorem dX3_drawn_61 : decode cX3_drawn 61 = .ok (.iload_n 2, 1) := dk_28 (dk_at dksX3_drawn_2 14 rfl rfl)
theorem dX3_drawn_62 : decode cX3_drawn 62 = .ok (.invokevirtual 190, 3) := dk_182 0 190 (dk_at dksX3_drawn_2 15 rfl rfl)
theorem dX3_drawn_65 : decode cX3_drawn 65 = .ok (.ifCond .eq 8, 3) := dk_153 0 8 (dk_at dksX3_drawn_2 18 rfl rfl)
theorem dX3_drawn_68 : decode cX3_drawn 68 = .ok (.aload_n 0, 1) := dk_42 (dk_at dksX3_drawn_2 21 rfl rfl)
theorem dX3_drawn_69 : decode cX3_drawn 69 = .ok (.iload_n 2, 1) := dk_28 (dk_at dksX3_drawn_2 22 rfl rfl)
theorem dX3_drawn_70 : decode cX3_drawn 70 = .ok (.invokevirtual 230, 3) := dk_182 0 230 (dk_at dksX3_drawn_3 0 rfl rfl)
theorem dX3_drawn_73 : decode cX3_drawn 73 = .ok (.return_, 1) := dk_177 (dk_at dksX3_drawn_3 3 rfl rfl)
abbrev cX3_draw : ByteArray := prog_9_method_40_code
def yX3_draw : MethodName := ⟨RX3, "draw", "(I)I"⟩
def dkwX3_draw_1 : List UInt8 := [180, 0, 234, 18, 243, 108, 27, 112, 172]
abbrev dktX3_draw_1 : List UInt8 := dkwX3_draw_1 ++ []
def dkwX3_draw_0 : List UInt8 := [42, 42, 180, 0, 234, 133, 20, 0, 237, 105, 20, 0, 239, 97, 20, 0, 241, 113, 136, 181, 0, 234, 42]
abbrev dktX3_draw_0 : List UInt8 := dkwX3_draw_0 ++ dktX3_draw_1
theorem dksX3_draw_0 : cX3_draw.data.toList.drop 0 = dktX3_draw_0 := by decide +kernel
theorem dksX3_draw_1 : cX3_draw.data.toList.drop 23 = dktX3_draw_1 := dk_seg dksX3_draw_0 23 rfl rfl
theorem dX3_draw_0 : decode cX3_draw 0 = .ok (.aload_n 0, 1) := dk_42 (dk_at dksX3_draw_0 0 rfl rfl)
theorem dX3_draw_1 : decode cX3_draw 1 = .ok (.aload_n 0, 1) := dk_42 (dk_at dksX3_draw_0 1 rfl rfl)
theorem dX3_draw_2 : decode cX3_draw 2 = .ok (.getfield 234, 3) := dk_180 0 234 (dk_at dksX3_draw_0 2 rfl rfl)
theorem dX3_draw_5 : decode cX3_draw 5 = .ok (.i2l, 1) := dk_133 (dk_at dksX3_draw_0 5 rfl rfl)
theorem dX3_draw_6 : decode cX3_draw 6 = .ok (.ldc2_w 237, 3) := dk_20 0 237 (dk_at dksX3_draw_0 6 rfl rfl)
theorem dX3_draw_9 : decode cX3_draw 9 = .ok (.lmul, 1) := dk_105 (dk_at dksX3_draw_0 9 rfl rfl)
theorem dX3_draw_10 : decode cX3_draw 10 = .ok (.ldc2_w 239, 3) := dk_20 0 239 (dk_at dksX3_draw_0 10 rfl rfl)
theorem dX3_draw_13 : decode cX3_draw 13 = .ok (.ladd, 1) := dk_97 (dk_at dksX3_draw_0 13 rfl rfl)
theorem dX3_draw_14 : decode cX3_draw 14 = .ok (.ldc2_w 241, 3) := dk_20 0 241 (dk_at dksX3_draw_0 14 rfl rfl)
theorem dX3_draw_17 : decode cX3_draw 17 = .ok (.lrem, 1) := dk_113 (dk_at dksX3_draw_0 17 rfl rfl)
theorem dX3_draw_18 : decode cX3_draw 18 = .ok (.l2i, 1) := dk_136 (dk_at dksX3_draw_0 18 rfl rfl)
theorem dX3_draw_19 : decode cX3_draw 19 = .ok (.putfield 234, 3) := dk_181 0 234 (dk_at dksX3_draw_0 19 rfl rfl)
theorem dX3_draw_22 : decode cX3_draw 22 = .ok (.aload_n 0, 1) := dk_42 (dk_at dksX3_draw_0 22 rfl rfl)
theorem dX3_draw_23 : decode cX3_draw 23 = .ok (.getfield 234, 3) := dk_180 0 234 (dk_at dksX3_draw_1 0 rfl rfl)
theorem dX3_draw_26 : decode cX3_draw 26 = .ok (.ldc 243, 2) := dk_18 243 (dk_at dksX3_draw_1 3 rfl rfl)
theorem dX3_draw_28 : decode cX3_draw 28 = .ok (.idiv, 1) := dk_108 (dk_at dksX3_draw_1 5 rfl rfl)
theorem dX3_draw_29 : decode cX3_draw 29 = .ok (.iload_n 1, 1) := dk_27 (dk_at dksX3_draw_1 6 rfl rfl)
theorem dX3_draw_30 : decode cX3_draw 30 = .ok (.irem, 1) := dk_112 (dk_at dksX3_draw_1 7 rfl rfl)
theorem dX3_draw_31 : decode cX3_draw 31 = .ok (.ireturn, 1) := dk_172 (dk_at dksX3_draw_1 8 rfl rfl)
abbrev cX3_undo : ByteArray := prog_9_method_43_code
def yX3_undo : MethodName := ⟨RX3, "undo", "()I"⟩
def dkwX3_undo_2 : List UInt8 := [79, 132, 1, 1, 167, 255, 227, 42, 180, 0, 184, 172]
abbrev dktX3_undo_2 : List UInt8 := dkwX3_undo_2 ++ []
def dkwX3_undo_1 : List UInt8 := [16, 22, 162, 0, 29, 42, 180, 0, 37, 27, 42, 180, 0, 77, 16, 22, 42, 180, 0, 184, 104, 27, 96, 46]
abbrev dktX3_undo_1 : List UInt8 := dkwX3_undo_1 ++ dktX3_undo_2
def dkwX3_undo_0 : List UInt8 := [42, 180, 0, 184, 154, 0, 6, 18, 214, 172, 42, 89, 180, 0, 184, 4, 100, 181, 0, 184, 3, 60, 27]
abbrev dktX3_undo_0 : List UInt8 := dkwX3_undo_0 ++ dktX3_undo_1
theorem dksX3_undo_0 : cX3_undo.data.toList.drop 0 = dktX3_undo_0 := by decide +kernel
theorem dksX3_undo_1 : cX3_undo.data.toList.drop 23 = dktX3_undo_1 := dk_seg dksX3_undo_0 23 rfl rfl
theorem dksX3_undo_2 : cX3_undo.data.toList.drop 47 = dktX3_undo_2 := dk_seg dksX3_undo_1 24 rfl rfl
theorem dX3_undo_0 : decode cX3_undo 0 = .ok (.aload_n 0, 1) := dk_42 (dk_at dksX3_undo_0 0 rfl rfl)
theorem dX3_undo_1 : decode cX3_undo 1 = .ok (.getfield 184, 3) := dk_180 0 184 (dk_at dksX3_undo_0 1 rfl rfl)
theorem dX3_undo_4 : decode cX3_undo 4 = .ok (.ifCond .ne 6, 3) := dk_154 0 6 (dk_at dksX3_undo_0 4 rfl rfl)
theorem dX3_undo_7 : decode cX3_undo 7 = .ok (.ldc 214, 2) := dk_18 214 (dk_at dksX3_undo_0 7 rfl rfl)
theorem dX3_undo_9 : decode cX3_undo 9 = .ok (.ireturn, 1) := dk_172 (dk_at dksX3_undo_0 9 rfl rfl)
theorem dX3_undo_10 : decode cX3_undo 10 = .ok (.aload_n 0, 1) := dk_42 (dk_at dksX3_undo_0 10 rfl rfl)
theorem dX3_undo_11 : decode cX3_undo 11 = .ok (.dup, 1) := dk_89 (dk_at dksX3_undo_0 11 rfl rfl)
theorem dX3_undo_12 : decode cX3_undo 12 = .ok (.getfield 184, 3) := dk_180 0 184 (dk_at dksX3_undo_0 12 rfl rfl)
theorem dX3_undo_15 : decode cX3_undo 15 = .ok (.iconst 1, 1) := dk_4 (dk_at dksX3_undo_0 15 rfl rfl)
theorem dX3_undo_16 : decode cX3_undo 16 = .ok (.isub, 1) := dk_100 (dk_at dksX3_undo_0 16 rfl rfl)
theorem dX3_undo_17 : decode cX3_undo 17 = .ok (.putfield 184, 3) := dk_181 0 184 (dk_at dksX3_undo_0 17 rfl rfl)
theorem dX3_undo_20 : decode cX3_undo 20 = .ok (.iconst 0, 1) := dk_3 (dk_at dksX3_undo_0 20 rfl rfl)
theorem dX3_undo_21 : decode cX3_undo 21 = .ok (.istore_n 1, 1) := dk_60 (dk_at dksX3_undo_0 21 rfl rfl)
theorem dX3_undo_22 : decode cX3_undo 22 = .ok (.iload_n 1, 1) := dk_27 (dk_at dksX3_undo_0 22 rfl rfl)
theorem dX3_undo_23 : decode cX3_undo 23 = .ok (.bipush 22, 2) := dk_16 22 (dk_at dksX3_undo_1 0 rfl rfl)
theorem dX3_undo_25 : decode cX3_undo 25 = .ok (.if_icmp .ge 29, 3) := dk_162 0 29 (dk_at dksX3_undo_1 2 rfl rfl)
theorem dX3_undo_28 : decode cX3_undo 28 = .ok (.aload_n 0, 1) := dk_42 (dk_at dksX3_undo_1 5 rfl rfl)
theorem dX3_undo_29 : decode cX3_undo 29 = .ok (.getfield 37, 3) := dk_180 0 37 (dk_at dksX3_undo_1 6 rfl rfl)
theorem dX3_undo_32 : decode cX3_undo 32 = .ok (.iload_n 1, 1) := dk_27 (dk_at dksX3_undo_1 9 rfl rfl)
theorem dX3_undo_33 : decode cX3_undo 33 = .ok (.aload_n 0, 1) := dk_42 (dk_at dksX3_undo_1 10 rfl rfl)
theorem dX3_undo_34 : decode cX3_undo 34 = .ok (.getfield 77, 3) := dk_180 0 77 (dk_at dksX3_undo_1 11 rfl rfl)
theorem dX3_undo_37 : decode cX3_undo 37 = .ok (.bipush 22, 2) := dk_16 22 (dk_at dksX3_undo_1 14 rfl rfl)
theorem dX3_undo_39 : decode cX3_undo 39 = .ok (.aload_n 0, 1) := dk_42 (dk_at dksX3_undo_1 16 rfl rfl)
theorem dX3_undo_40 : decode cX3_undo 40 = .ok (.getfield 184, 3) := dk_180 0 184 (dk_at dksX3_undo_1 17 rfl rfl)
theorem dX3_undo_43 : decode cX3_undo 43 = .ok (.imul, 1) := dk_104 (dk_at dksX3_undo_1 20 rfl rfl)
theorem dX3_undo_44 : decode cX3_undo 44 = .ok (.iload_n 1, 1) := dk_27 (dk_at dksX3_undo_1 21 rfl rfl)
theorem dX3_undo_45 : decode cX3_undo 45 = .ok (.iadd, 1) := dk_96 (dk_at dksX3_undo_1 22 rfl rfl)
theorem dX3_undo_46 : decode cX3_undo 46 = .ok (.iaload, 1) := dk_46 (dk_at dksX3_undo_1 23 rfl rfl)
theorem dX3_undo_47 : decode cX3_undo 47 = .ok (.iastore, 1) := dk_79 (dk_at dksX3_undo_2 0 rfl rfl)
theorem dX3_undo_48 : decode cX3_undo 48 = .ok (.iinc 1 1, 3) := dk_132 1 1 (dk_at dksX3_undo_2 1 rfl rfl)
theorem dX3_undo_51 : decode cX3_undo 51 = .ok (.goto (-29), 3) := dk_167 255 227 (dk_at dksX3_undo_2 4 rfl rfl)
theorem dX3_undo_54 : decode cX3_undo 54 = .ok (.aload_n 0, 1) := dk_42 (dk_at dksX3_undo_2 7 rfl rfl)
theorem dX3_undo_55 : decode cX3_undo 55 = .ok (.getfield 184, 3) := dk_180 0 184 (dk_at dksX3_undo_2 8 rfl rfl)
theorem dX3_undo_58 : decode cX3_undo 58 = .ok (.ireturn, 1) := dk_172 (dk_at dksX3_undo_2 11 rfl rfl)
abbrev cX3_firstNought : ByteArray := prog_9_method_44_code
def yX3_firstNought : MethodName := ⟨RX3, "firstNought", "()I"⟩
def dkwX3_firstNought_3 : List UInt8 := [46, 162, 0, 7, 28, 167, 0, 4, 27, 60, 132, 2, 1, 167, 255, 175, 27, 172]
abbrev dktX3_firstNought_3 : List UInt8 := dkwX3_firstNought_3 ++ []
def dkwX3_firstNought_2 : List UInt8 := [167, 0, 4, 3, 62, 29, 153, 0, 26, 27, 155, 0, 18, 42, 180, 0, 16, 28, 46, 42, 180, 0, 16, 27]
abbrev dktX3_firstNought_2 : List UInt8 := dkwX3_firstNought_2 ++ dktX3_firstNought_3
def dkwX3_firstNought_1 : List UInt8 := [46, 161, 0, 26, 42, 42, 180, 0, 19, 28, 46, 42, 180, 0, 16, 28, 46, 182, 0, 197, 154, 0, 7, 4]
abbrev dktX3_firstNought_1 : List UInt8 := dkwX3_firstNought_1 ++ dktX3_firstNought_2
def dkwX3_firstNought_0 : List UInt8 := [2, 60, 3, 61, 28, 42, 180, 0, 166, 162, 0, 79, 42, 180, 0, 16, 28, 46, 42, 180, 0, 37, 16, 19]
abbrev dktX3_firstNought_0 : List UInt8 := dkwX3_firstNought_0 ++ dktX3_firstNought_1
theorem dksX3_firstNought_0 : cX3_firstNought.data.toList.drop 0 = dktX3_firstNought_0 := by decide +kernel
theorem dksX3_firstNought_1 : cX3_firstNought.data.toList.drop 24 = dktX3_firstNought_1 := dk_seg dksX3_firstNought_0 24 rfl rfl
theorem dksX3_firstNought_2 : cX3_firstNought.data.toList.drop 48 = dktX3_firstNought_2 := dk_seg dksX3_firstNought_1 24 rfl rfl
theorem dksX3_firstNought_3 : cX3_firstNought.data.toList.drop 72 = dktX3_firstNought_3 := dk_seg dksX3_firstNought_2 24 rfl rfl
theorem dX3_firstNought_0 : decode cX3_firstNought 0 = .ok (.iconst (-1), 1) := dk_2 (dk_at dksX3_firstNought_0 0 rfl rfl)
theorem dX3_firstNought_1 : decode cX3_firstNought 1 = .ok (.istore_n 1, 1) := dk_60 (dk_at dksX3_firstNought_0 1 rfl rfl)
theorem dX3_firstNought_2 : decode cX3_firstNought 2 = .ok (.iconst 0, 1) := dk_3 (dk_at dksX3_firstNought_0 2 rfl rfl)
theorem dX3_firstNought_3 : decode cX3_firstNought 3 = .ok (.istore_n 2, 1) := dk_61 (dk_at dksX3_firstNought_0 3 rfl rfl)
theorem dX3_firstNought_4 : decode cX3_firstNought 4 = .ok (.iload_n 2, 1) := dk_28 (dk_at dksX3_firstNought_0 4 rfl rfl)
theorem dX3_firstNought_5 : decode cX3_firstNought 5 = .ok (.aload_n 0, 1) := dk_42 (dk_at dksX3_firstNought_0 5 rfl rfl)
theorem dX3_firstNought_6 : decode cX3_firstNought 6 = .ok (.getfield 166, 3) := dk_180 0 166 (dk_at dksX3_firstNought_0 6 rfl rfl)
theorem dX3_firstNought_9 : decode cX3_firstNought 9 = .ok (.if_icmp .ge 79, 3) := dk_162 0 79 (dk_at dksX3_firstNought_0 9 rfl rfl)
theorem dX3_firstNought_12 : decode cX3_firstNought 12 = .ok (.aload_n 0, 1) := dk_42 (dk_at dksX3_firstNought_0 12 rfl rfl)
theorem dX3_firstNought_13 : decode cX3_firstNought 13 = .ok (.getfield 16, 3) := dk_180 0 16 (dk_at dksX3_firstNought_0 13 rfl rfl)
theorem dX3_firstNought_16 : decode cX3_firstNought 16 = .ok (.iload_n 2, 1) := dk_28 (dk_at dksX3_firstNought_0 16 rfl rfl)
theorem dX3_firstNought_17 : decode cX3_firstNought 17 = .ok (.iaload, 1) := dk_46 (dk_at dksX3_firstNought_0 17 rfl rfl)
theorem dX3_firstNought_18 : decode cX3_firstNought 18 = .ok (.aload_n 0, 1) := dk_42 (dk_at dksX3_firstNought_0 18 rfl rfl)
theorem dX3_firstNought_19 : decode cX3_firstNought 19 = .ok (.getfield 37, 3) := dk_180 0 37 (dk_at dksX3_firstNought_0 19 rfl rfl)
theorem dX3_firstNought_22 : decode cX3_firstNought 22 = .ok (.bipush 19, 2) := dk_16 19 (dk_at dksX3_firstNought_0 22 rfl rfl)
theorem dX3_firstNought_24 : decode cX3_firstNought 24 = .ok (.iaload, 1) := dk_46 (dk_at dksX3_firstNought_1 0 rfl rfl)
theorem dX3_firstNought_25 : decode cX3_firstNought 25 = .ok (.if_icmp .lt 26, 3) := dk_161 0 26 (dk_at dksX3_firstNought_1 1 rfl rfl)
theorem dX3_firstNought_28 : decode cX3_firstNought 28 = .ok (.aload_n 0, 1) := dk_42 (dk_at dksX3_firstNought_1 4 rfl rfl)
theorem dX3_firstNought_29 : decode cX3_firstNought 29 = .ok (.aload_n 0, 1) := dk_42 (dk_at dksX3_firstNought_1 5 rfl rfl)
theorem dX3_firstNought_30 : decode cX3_firstNought 30 = .ok (.getfield 19, 3) := dk_180 0 19 (dk_at dksX3_firstNought_1 6 rfl rfl)
theorem dX3_firstNought_33 : decode cX3_firstNought 33 = .ok (.iload_n 2, 1) := dk_28 (dk_at dksX3_firstNought_1 9 rfl rfl)
theorem dX3_firstNought_34 : decode cX3_firstNought 34 = .ok (.iaload, 1) := dk_46 (dk_at dksX3_firstNought_1 10 rfl rfl)
theorem dX3_firstNought_35 : decode cX3_firstNought 35 = .ok (.aload_n 0, 1) := dk_42 (dk_at dksX3_firstNought_1 11 rfl rfl)
theorem dX3_firstNought_36 : decode cX3_firstNought 36 = .ok (.getfield 16, 3) := dk_180 0 16 (dk_at dksX3_firstNought_1 12 rfl rfl)
theorem dX3_firstNought_39 : decode cX3_firstNought 39 = .ok (.iload_n 2, 1) := dk_28 (dk_at dksX3_firstNought_1 15 rfl rfl)
theorem dX3_firstNought_40 : decode cX3_firstNought 40 = .ok (.iaload, 1) := dk_46 (dk_at dksX3_firstNought_1 16 rfl rfl)
theorem dX3_firstNought_41 : decode cX3_firstNought 41 = .ok (.invokevirtual 197, 3) := dk_182 0 197 (dk_at dksX3_firstNought_1 17 rfl rfl)
theorem dX3_firstNought_44 : decode cX3_firstNought 44 = .ok (.ifCond .ne 7, 3) := dk_154 0 7 (dk_at dksX3_firstNought_1 20 rfl rfl)
theorem dX3_firstNought_47 : decode cX3_firstNought 47 = .ok (.iconst 1, 1) := dk_4 (dk_at dksX3_firstNought_1 23 rfl rfl)
theorem dX3_firstNought_48 : decode cX3_firstNought 48 = .ok (.goto 4, 3) := dk_167 0 4 (dk_at dksX3_firstNought_2 0 rfl rfl)
theorem dX3_firstNought_51 : decode cX3_firstNought 51 = .ok (.iconst 0, 1) := dk_3 (dk_at dksX3_firstNought_2 3 rfl rfl)
theorem dX3_firstNought_52 : decode cX3_firstNought 52 = .ok (.istore_n 3, 1) := dk_62 (dk_at dksX3_firstNought_2 4 rfl rfl)
theorem dX3_firstNought_53 : decode cX3_firstNought 53 = .ok (.iload_n 3, 1) := dk_29 (dk_at dksX3_firstNought_2 5 rfl rfl)
theorem dX3_firstNought_54 : decode cX3_firstNought 54 = .ok (.ifCond .eq 26, 3) := dk_153 0 26 (dk_at dksX3_firstNought_2 6 rfl rfl)
theorem dX3_firstNought_57 : decode cX3_firstNought 57 = .ok (.iload_n 1, 1) := dk_27 (dk_at dksX3_firstNought_2 9 rfl rfl)
theorem dX3_firstNought_58 : decode cX3_firstNought 58 = .ok (.ifCond .lt 18, 3) := dk_155 0 18 (dk_at dksX3_firstNought_2 10 rfl rfl)
theorem dX3_firstNought_61 : decode cX3_firstNought 61 = .ok (.aload_n 0, 1) := dk_42 (dk_at dksX3_firstNought_2 13 rfl rfl)
theorem dX3_firstNought_62 : decode cX3_firstNought 62 = .ok (.getfield 16, 3) := dk_180 0 16 (dk_at dksX3_firstNought_2 14 rfl rfl)
theorem dX3_firstNought_65 : decode cX3_firstNought 65 = .ok (.iload_n 2, 1) := dk_28 (dk_at dksX3_firstNought_2 17 rfl rfl)
theorem dX3_firstNought_66 : decode cX3_firstNought 66 = .ok (.iaload, 1) := dk_46 (dk_at dksX3_firstNought_2 18 rfl rfl)
theorem dX3_firstNought_67 : decode cX3_firstNought 67 = .ok (.aload_n 0, 1) := dk_42 (dk_at dksX3_firstNought_2 19 rfl rfl)
theorem dX3_firstNought_68 : decode cX3_firstNought 68 = .ok (.getfield 16, 3) := dk_180 0 16 (dk_at dksX3_firstNought_2 20 rfl rfl)
theorem dX3_firstNought_71 : decode cX3_firstNought 71 = .ok (.iload_n 1, 1) := dk_27 (dk_at dksX3_firstNought_2 23 rfl rfl)
theorem dX3_firstNought_72 : decode cX3_firstNought 72 = .ok (.iaload, 1) := dk_46 (dk_at dksX3_firstNought_3 0 rfl rfl)
theorem dX3_firstNought_73 : decode cX3_firstNought 73 = .ok (.if_icmp .ge 7, 3) := dk_162 0 7 (dk_at dksX3_firstNought_3 1 rfl rfl)
theorem dX3_firstNought_76 : decode cX3_firstNought 76 = .ok (.iload_n 2, 1) := dk_28 (dk_at dksX3_firstNought_3 4 rfl rfl)
theorem dX3_firstNought_77 : decode cX3_firstNought 77 = .ok (.goto 4, 3) := dk_167 0 4 (dk_at dksX3_firstNought_3 5 rfl rfl)
theorem dX3_firstNought_80 : decode cX3_firstNought 80 = .ok (.iload_n 1, 1) := dk_27 (dk_at dksX3_firstNought_3 8 rfl rfl)
theorem dX3_firstNought_81 : decode cX3_firstNought 81 = .ok (.istore_n 1, 1) := dk_60 (dk_at dksX3_firstNought_3 9 rfl rfl)
theorem dX3_firstNought_82 : decode cX3_firstNought 82 = .ok (.iinc 2 1, 3) := dk_132 2 1 (dk_at dksX3_firstNought_3 10 rfl rfl)
theorem dX3_firstNought_85 : decode cX3_firstNought 85 = .ok (.goto (-81), 3) := dk_167 255 175 (dk_at dksX3_firstNought_3 13 rfl rfl)
theorem dX3_firstNought_88 : decode cX3_firstNought 88 = .ok (.iload_n 1, 1) := dk_27 (dk_at dksX3_firstNought_3 16 rfl rfl)
theorem dX3_firstNought_89 : decode cX3_firstNought 89 = .ok (.ireturn, 1) := dk_172 (dk_at dksX3_firstNought_3 17 rfl rfl)
abbrev cX3_means : ByteArray := prog_9_method_45_code
def yX3_means : MethodName := ⟨RX3, "means", "(II)I"⟩
def dkwX3_means_2 : List UInt8 := [182, 0, 197, 104, 167, 0, 5, 18, 112, 172]
abbrev dktX3_means_2 : List UInt8 := dkwX3_means_2 ++ []
def dkwX3_means_1 : List UInt8 := [20, 0, 250, 184, 0, 102, 153, 0, 24, 42, 180, 0, 22, 27, 46, 42, 42, 180, 0, 19, 27, 46, 28]
abbrev dktX3_means_1 : List UInt8 := dkwX3_means_1 ++ dktX3_means_2
def dkwX3_means_0 : List UInt8 := [27, 133, 9, 42, 180, 0, 166, 4, 100, 133, 184, 0, 102, 154, 0, 6, 18, 203, 172, 28, 133, 9]
abbrev dktX3_means_0 : List UInt8 := dkwX3_means_0 ++ dktX3_means_1
theorem dksX3_means_0 : cX3_means.data.toList.drop 0 = dktX3_means_0 := by decide +kernel
theorem dksX3_means_1 : cX3_means.data.toList.drop 22 = dktX3_means_1 := dk_seg dksX3_means_0 22 rfl rfl
theorem dksX3_means_2 : cX3_means.data.toList.drop 45 = dktX3_means_2 := dk_seg dksX3_means_1 23 rfl rfl
theorem dX3_means_0 : decode cX3_means 0 = .ok (.iload_n 1, 1) := dk_27 (dk_at dksX3_means_0 0 rfl rfl)
theorem dX3_means_1 : decode cX3_means 1 = .ok (.i2l, 1) := dk_133 (dk_at dksX3_means_0 1 rfl rfl)
theorem dX3_means_2 : decode cX3_means 2 = .ok (.lconst 0, 1) := dk_9 (dk_at dksX3_means_0 2 rfl rfl)
theorem dX3_means_3 : decode cX3_means 3 = .ok (.aload_n 0, 1) := dk_42 (dk_at dksX3_means_0 3 rfl rfl)
theorem dX3_means_4 : decode cX3_means 4 = .ok (.getfield 166, 3) := dk_180 0 166 (dk_at dksX3_means_0 4 rfl rfl)
theorem dX3_means_7 : decode cX3_means 7 = .ok (.iconst 1, 1) := dk_4 (dk_at dksX3_means_0 7 rfl rfl)
theorem dX3_means_8 : decode cX3_means 8 = .ok (.isub, 1) := dk_100 (dk_at dksX3_means_0 8 rfl rfl)
theorem dX3_means_9 : decode cX3_means 9 = .ok (.i2l, 1) := dk_133 (dk_at dksX3_means_0 9 rfl rfl)
theorem dX3_means_10 : decode cX3_means 10 = .ok (.invokestatic 102, 3) := dk_184 0 102 (dk_at dksX3_means_0 10 rfl rfl)
theorem dX3_means_13 : decode cX3_means 13 = .ok (.ifCond .ne 6, 3) := dk_154 0 6 (dk_at dksX3_means_0 13 rfl rfl)
theorem dX3_means_16 : decode cX3_means 16 = .ok (.ldc 203, 2) := dk_18 203 (dk_at dksX3_means_0 16 rfl rfl)
theorem dX3_means_18 : decode cX3_means 18 = .ok (.ireturn, 1) := dk_172 (dk_at dksX3_means_0 18 rfl rfl)
theorem dX3_means_19 : decode cX3_means 19 = .ok (.iload_n 2, 1) := dk_28 (dk_at dksX3_means_0 19 rfl rfl)
theorem dX3_means_20 : decode cX3_means 20 = .ok (.i2l, 1) := dk_133 (dk_at dksX3_means_0 20 rfl rfl)
theorem dX3_means_21 : decode cX3_means 21 = .ok (.lconst 0, 1) := dk_9 (dk_at dksX3_means_0 21 rfl rfl)
theorem dX3_means_22 : decode cX3_means 22 = .ok (.ldc2_w 250, 3) := dk_20 0 250 (dk_at dksX3_means_1 0 rfl rfl)
theorem dX3_means_25 : decode cX3_means 25 = .ok (.invokestatic 102, 3) := dk_184 0 102 (dk_at dksX3_means_1 3 rfl rfl)
theorem dX3_means_28 : decode cX3_means 28 = .ok (.ifCond .eq 24, 3) := dk_153 0 24 (dk_at dksX3_means_1 6 rfl rfl)
theorem dX3_means_31 : decode cX3_means 31 = .ok (.aload_n 0, 1) := dk_42 (dk_at dksX3_means_1 9 rfl rfl)
theorem dX3_means_32 : decode cX3_means 32 = .ok (.getfield 22, 3) := dk_180 0 22 (dk_at dksX3_means_1 10 rfl rfl)
theorem dX3_means_35 : decode cX3_means 35 = .ok (.iload_n 1, 1) := dk_27 (dk_at dksX3_means_1 13 rfl rfl)
theorem dX3_means_36 : decode cX3_means 36 = .ok (.iaload, 1) := dk_46 (dk_at dksX3_means_1 14 rfl rfl)
theorem dX3_means_37 : decode cX3_means 37 = .ok (.aload_n 0, 1) := dk_42 (dk_at dksX3_means_1 15 rfl rfl)
theorem dX3_means_38 : decode cX3_means 38 = .ok (.aload_n 0, 1) := dk_42 (dk_at dksX3_means_1 16 rfl rfl)
theorem dX3_means_39 : decode cX3_means 39 = .ok (.getfield 19, 3) := dk_180 0 19 (dk_at dksX3_means_1 17 rfl rfl)
theorem dX3_means_42 : decode cX3_means 42 = .ok (.iload_n 1, 1) := dk_27 (dk_at dksX3_means_1 20 rfl rfl)
theorem dX3_means_43 : decode cX3_means 43 = .ok (.iaload, 1) := dk_46 (dk_at dksX3_means_1 21 rfl rfl)
theorem dX3_means_44 : decode cX3_means 44 = .ok (.iload_n 2, 1) := dk_28 (dk_at dksX3_means_1 22 rfl rfl)
theorem dX3_means_45 : decode cX3_means 45 = .ok (.invokevirtual 197, 3) := dk_182 0 197 (dk_at dksX3_means_2 0 rfl rfl)
theorem dX3_means_48 : decode cX3_means 48 = .ok (.imul, 1) := dk_104 (dk_at dksX3_means_2 3 rfl rfl)
theorem dX3_means_49 : decode cX3_means 49 = .ok (.goto 5, 3) := dk_167 0 5 (dk_at dksX3_means_2 4 rfl rfl)
theorem dX3_means_52 : decode cX3_means 52 = .ok (.ldc 112, 2) := dk_18 112 (dk_at dksX3_means_2 7 rfl rfl)
theorem dX3_means_54 : decode cX3_means 54 = .ok (.ireturn, 1) := dk_172 (dk_at dksX3_means_2 9 rfl rfl)
abbrev cX3_basket : ByteArray := prog_9_method_54_code
def yX3_basket : MethodName := ⟨RX3, "basket", "(I)I"⟩
def dkwX3_basket_2 : List UInt8 := [180, 1, 10, 27, 184, 0, 252, 172]
abbrev dktX3_basket_2 : List UInt8 := dkwX3_basket_2 ++ []
def dkwX3_basket_1 : List UInt8 := [156, 0, 7, 2, 167, 0, 26, 27, 2, 160, 0, 13, 42, 180, 1, 10, 184, 1, 16, 167, 0, 11, 42]
abbrev dktX3_basket_1 : List UInt8 := dkwX3_basket_1 ++ dktX3_basket_2
def dkwX3_basket_0 : List UInt8 := [27, 2, 159, 0, 14, 42, 27, 182, 0, 200, 154, 0, 6, 18, 203, 172, 42, 182, 1, 22, 42, 180, 1, 10]
abbrev dktX3_basket_0 : List UInt8 := dkwX3_basket_0 ++ dktX3_basket_1
theorem dksX3_basket_0 : cX3_basket.data.toList.drop 0 = dktX3_basket_0 := by decide +kernel
theorem dksX3_basket_1 : cX3_basket.data.toList.drop 24 = dktX3_basket_1 := dk_seg dksX3_basket_0 24 rfl rfl
theorem dksX3_basket_2 : cX3_basket.data.toList.drop 47 = dktX3_basket_2 := dk_seg dksX3_basket_1 23 rfl rfl
theorem dX3_basket_0 : decode cX3_basket 0 = .ok (.iload_n 1, 1) := dk_27 (dk_at dksX3_basket_0 0 rfl rfl)
theorem dX3_basket_1 : decode cX3_basket 1 = .ok (.iconst (-1), 1) := dk_2 (dk_at dksX3_basket_0 1 rfl rfl)
theorem dX3_basket_2 : decode cX3_basket 2 = .ok (.if_icmp .eq 14, 3) := dk_159 0 14 (dk_at dksX3_basket_0 2 rfl rfl)
theorem dX3_basket_5 : decode cX3_basket 5 = .ok (.aload_n 0, 1) := dk_42 (dk_at dksX3_basket_0 5 rfl rfl)
theorem dX3_basket_6 : decode cX3_basket 6 = .ok (.iload_n 1, 1) := dk_27 (dk_at dksX3_basket_0 6 rfl rfl)
theorem dX3_basket_7 : decode cX3_basket 7 = .ok (.invokevirtual 200, 3) := dk_182 0 200 (dk_at dksX3_basket_0 7 rfl rfl)
theorem dX3_basket_10 : decode cX3_basket 10 = .ok (.ifCond .ne 6, 3) := dk_154 0 6 (dk_at dksX3_basket_0 10 rfl rfl)
theorem dX3_basket_13 : decode cX3_basket 13 = .ok (.ldc 203, 2) := dk_18 203 (dk_at dksX3_basket_0 13 rfl rfl)
theorem dX3_basket_15 : decode cX3_basket 15 = .ok (.ireturn, 1) := dk_172 (dk_at dksX3_basket_0 15 rfl rfl)
theorem dX3_basket_16 : decode cX3_basket 16 = .ok (.aload_n 0, 1) := dk_42 (dk_at dksX3_basket_0 16 rfl rfl)
theorem dX3_basket_17 : decode cX3_basket 17 = .ok (.invokevirtual 278, 3) := dk_182 1 22 (dk_at dksX3_basket_0 17 rfl rfl)
theorem dX3_basket_20 : decode cX3_basket 20 = .ok (.aload_n 0, 1) := dk_42 (dk_at dksX3_basket_0 20 rfl rfl)
theorem dX3_basket_21 : decode cX3_basket 21 = .ok (.getfield 266, 3) := dk_180 1 10 (dk_at dksX3_basket_0 21 rfl rfl)
theorem dX3_basket_24 : decode cX3_basket 24 = .ok (.ifCond .ge 7, 3) := dk_156 0 7 (dk_at dksX3_basket_1 0 rfl rfl)
theorem dX3_basket_27 : decode cX3_basket 27 = .ok (.iconst (-1), 1) := dk_2 (dk_at dksX3_basket_1 3 rfl rfl)
theorem dX3_basket_28 : decode cX3_basket 28 = .ok (.goto 26, 3) := dk_167 0 26 (dk_at dksX3_basket_1 4 rfl rfl)
theorem dX3_basket_31 : decode cX3_basket 31 = .ok (.iload_n 1, 1) := dk_27 (dk_at dksX3_basket_1 7 rfl rfl)
theorem dX3_basket_32 : decode cX3_basket 32 = .ok (.iconst (-1), 1) := dk_2 (dk_at dksX3_basket_1 8 rfl rfl)
theorem dX3_basket_33 : decode cX3_basket 33 = .ok (.if_icmp .ne 13, 3) := dk_160 0 13 (dk_at dksX3_basket_1 9 rfl rfl)
theorem dX3_basket_36 : decode cX3_basket 36 = .ok (.aload_n 0, 1) := dk_42 (dk_at dksX3_basket_1 12 rfl rfl)
theorem dX3_basket_37 : decode cX3_basket 37 = .ok (.getfield 266, 3) := dk_180 1 10 (dk_at dksX3_basket_1 13 rfl rfl)
theorem dX3_basket_40 : decode cX3_basket 40 = .ok (.invokestatic 272, 3) := dk_184 1 16 (dk_at dksX3_basket_1 16 rfl rfl)
theorem dX3_basket_43 : decode cX3_basket 43 = .ok (.goto 11, 3) := dk_167 0 11 (dk_at dksX3_basket_1 19 rfl rfl)
theorem dX3_basket_46 : decode cX3_basket 46 = .ok (.aload_n 0, 1) := dk_42 (dk_at dksX3_basket_1 22 rfl rfl)
theorem dX3_basket_47 : decode cX3_basket 47 = .ok (.getfield 266, 3) := dk_180 1 10 (dk_at dksX3_basket_2 0 rfl rfl)
theorem dX3_basket_50 : decode cX3_basket 50 = .ok (.iload_n 1, 1) := dk_27 (dk_at dksX3_basket_2 3 rfl rfl)
theorem dX3_basket_51 : decode cX3_basket 51 = .ok (.invokestatic 252, 3) := dk_184 0 252 (dk_at dksX3_basket_2 4 rfl rfl)
theorem dX3_basket_54 : decode cX3_basket 54 = .ok (.ireturn, 1) := dk_172 (dk_at dksX3_basket_2 7 rfl rfl)
abbrev cX3_findBasket : ByteArray := prog_9_method_53_code
def yX3_findBasket : MethodName := ⟨RX3, "findBasket", "()V"⟩
def dkwX3_findBasket_4 : List UInt8 := [180, 1, 10, 181, 1, 10, 132, 1, 1, 167, 255, 162, 177]
abbrev dktX3_findBasket_4 : List UInt8 := dkwX3_findBasket_4 ++ []
def dkwX3_findBasket_3 : List UInt8 := [155, 0, 18, 28, 154, 0, 18, 27, 42, 180, 1, 10, 184, 1, 19, 153, 0, 7, 27, 167, 0, 7, 42]
abbrev dktX3_findBasket_3 : List UInt8 := dkwX3_findBasket_3 ++ dktX3_findBasket_4
def dkwX3_findBasket_2 : List UInt8 := [154, 0, 18, 27, 184, 1, 5, 42, 180, 1, 10, 184, 1, 5, 100, 167, 0, 4, 28, 61, 42, 28]
abbrev dktX3_findBasket_2 : List UInt8 := dkwX3_findBasket_2 ++ dktX3_findBasket_3
def dkwX3_findBasket_1 : List UInt8 := [180, 1, 10, 156, 0, 7, 2, 167, 0, 15, 27, 184, 1, 16, 42, 180, 1, 10, 184, 1, 16, 100, 61, 28]
abbrev dktX3_findBasket_1 : List UInt8 := dkwX3_findBasket_1 ++ dktX3_findBasket_2
def dkwX3_findBasket_0 : List UInt8 := [42, 2, 181, 1, 10, 4, 60, 27, 17, 61, 9, 162, 0, 93, 42, 27, 182, 1, 13, 153, 0, 79, 42]
abbrev dktX3_findBasket_0 : List UInt8 := dkwX3_findBasket_0 ++ dktX3_findBasket_1
theorem dksX3_findBasket_0 : cX3_findBasket.data.toList.drop 0 = dktX3_findBasket_0 := by decide +kernel
theorem dksX3_findBasket_1 : cX3_findBasket.data.toList.drop 23 = dktX3_findBasket_1 := dk_seg dksX3_findBasket_0 23 rfl rfl
theorem dksX3_findBasket_2 : cX3_findBasket.data.toList.drop 47 = dktX3_findBasket_2 := dk_seg dksX3_findBasket_1 24 rfl rfl
theorem dksX3_findBasket_3 : cX3_findBasket.data.toList.drop 69 = dktX3_findBasket_3 := dk_seg dksX3_findBasket_2 22 rfl rfl
theorem dksX3_findBasket_4 : cX3_findBasket.data.toList.drop 92 = dktX3_findBasket_4 := dk_seg dksX3_findBasket_3 23 rfl rfl
theorem dX3_findBasket_0 : decode cX3_findBasket 0 = .ok (.aload_n 0, 1) := dk_42 (dk_at dksX3_findBasket_0 0 rfl rfl)
theorem dX3_findBasket_1 : decode cX3_findBasket 1 = .ok (.iconst (-1), 1) := dk_2 (dk_at dksX3_findBasket_0 1 rfl rfl)
theorem dX3_findBasket_2 : decode cX3_findBasket 2 = .ok (.putfield 266, 3) := dk_181 1 10 (dk_at dksX3_findBasket_0 2 rfl rfl)
theorem dX3_findBasket_5 : decode cX3_findBasket 5 = .ok (.iconst 1, 1) := dk_4 (dk_at dksX3_findBasket_0 5 rfl rfl)
theorem dX3_findBasket_6 : decode cX3_findBasket 6 = .ok (.istore_n 1, 1) := dk_60 (dk_at dksX3_findBasket_0 6 rfl rfl)
theorem dX3_findBasket_7 : decode cX3_findBasket 7 = .ok (.iload_n 1, 1) := dk_27 (dk_at dksX3_findBasket_0 7 rfl rfl)
theorem dX3_findBasket_8 : decode cX3_findBasket 8 = .ok (.sipush 15625, 3) := dk_17 61 9 (dk_at dksX3_findBasket_0 8 rfl rfl)
theorem dX3_findBasket_11 : decode cX3_findBasket 11 = .ok (.if_icmp .ge 93, 3) := dk_162 0 93 (dk_at dksX3_findBasket_0 11 rfl rfl)
theorem dX3_findBasket_14 : decode cX3_findBasket 14 = .ok (.aload_n 0, 1) := dk_42 (dk_at dksX3_findBasket_0 14 rfl rfl)
theorem dX3_findBasket_15 : decode cX3_findBasket 15 = .ok (.iload_n 1, 1) := dk_27 (dk_at dksX3_findBasket_0 15 rfl rfl)
theorem dX3_findBasket_16 : decode cX3_findBasket 16 = .ok (.invokevirtual 269, 3) := dk_182 1 13 (dk_at dksX3_findBasket_0 16 rfl rfl)
theorem dX3_findBasket_19 : decode cX3_findBasket 19 = .ok (.ifCond .eq 79, 3) := dk_153 0 79 (dk_at dksX3_findBasket_0 19 rfl rfl)
theorem dX3_findBasket_22 : decode cX3_findBasket 22 = .ok (.aload_n 0, 1) := dk_42 (dk_at dksX3_findBasket_0 22 rfl rfl)
theorem dX3_findBasket_23 : decode cX3_findBasket 23 = .ok (.getfield 266, 3) := dk_180 1 10 (dk_at dksX3_findBasket_1 0 rfl rfl)
theorem dX3_findBasket_26 : decode cX3_findBasket 26 = .ok (.ifCond .ge 7, 3) := dk_156 0 7 (dk_at dksX3_findBasket_1 3 rfl rfl)
theorem dX3_findBasket_29 : decode cX3_findBasket 29 = .ok (.iconst (-1), 1) := dk_2 (dk_at dksX3_findBasket_1 6 rfl rfl)
theorem dX3_findBasket_30 : decode cX3_findBasket 30 = .ok (.goto 15, 3) := dk_167 0 15 (dk_at dksX3_findBasket_1 7 rfl rfl)
theorem dX3_findBasket_33 : decode cX3_findBasket 33 = .ok (.iload_n 1, 1) := dk_27 (dk_at dksX3_findBasket_1 10 rfl rfl)
theorem dX3_findBasket_34 : decode cX3_findBasket 34 = .ok (.invokestatic 272, 3) := dk_184 1 16 (dk_at dksX3_findBasket_1 11 rfl rfl)
theorem dX3_findBasket_37 : decode cX3_findBasket 37 = .ok (.aload_n 0, 1) := dk_42 (dk_at dksX3_findBasket_1 14 rfl rfl)
theorem dX3_findBasket_38 : decode cX3_findBasket 38 = .ok (.getfield 266, 3) := dk_180 1 10 (dk_at dksX3_findBasket_1 15 rfl rfl)
theorem dX3_findBasket_41 : decode cX3_findBasket 41 = .ok (.invokestatic 272, 3) := dk_184 1 16 (dk_at dksX3_findBasket_1 18 rfl rfl)
theorem dX3_findBasket_44 : decode cX3_findBasket 44 = .ok (.isub, 1) := dk_100 (dk_at dksX3_findBasket_1 21 rfl rfl)
theorem dX3_findBasket_45 : decode cX3_findBasket 45 = .ok (.istore_n 2, 1) := dk_61 (dk_at dksX3_findBasket_1 22 rfl rfl)
theorem dX3_findBasket_46 : decode cX3_findBasket 46 = .ok (.iload_n 2, 1) := dk_28 (dk_at dksX3_findBasket_1 23 rfl rfl)
theorem dX3_findBasket_47 : decode cX3_findBasket 47 = .ok (.ifCond .ne 18, 3) := dk_154 0 18 (dk_at dksX3_findBasket_2 0 rfl rfl)
theorem dX3_findBasket_50 : decode cX3_findBasket 50 = .ok (.iload_n 1, 1) := dk_27 (dk_at dksX3_findBasket_2 3 rfl rfl)
theorem dX3_findBasket_51 : decode cX3_findBasket 51 = .ok (.invokestatic 261, 3) := dk_184 1 5 (dk_at dksX3_findBasket_2 4 rfl rfl)
theorem dX3_findBasket_54 : decode cX3_findBasket 54 = .ok (.aload_n 0, 1) := dk_42 (dk_at dksX3_findBasket_2 7 rfl rfl)
theorem dX3_findBasket_55 : decode cX3_findBasket 55 = .ok (.getfield 266, 3) := dk_180 1 10 (dk_at dksX3_findBasket_2 8 rfl rfl)
theorem dX3_findBasket_58 : decode cX3_findBasket 58 = .ok (.invokestatic 261, 3) := dk_184 1 5 (dk_at dksX3_findBasket_2 11 rfl rfl)
theorem dX3_findBasket_61 : decode cX3_findBasket 61 = .ok (.isub, 1) := dk_100 (dk_at dksX3_findBasket_2 14 rfl rfl)
theorem dX3_findBasket_62 : decode cX3_findBasket 62 = .ok (.goto 4, 3) := dk_167 0 4 (dk_at dksX3_findBasket_2 15 rfl rfl)
theorem dX3_findBasket_65 : decode cX3_findBasket 65 = .ok (.iload_n 2, 1) := dk_28 (dk_at dksX3_findBasket_2 18 rfl rfl)
theorem dX3_findBasket_66 : decode cX3_findBasket 66 = .ok (.istore_n 2, 1) := dk_61 (dk_at dksX3_findBasket_2 19 rfl rfl)
theorem dX3_findBasket_67 : decode cX3_findBasket 67 = .ok (.aload_n 0, 1) := dk_42 (dk_at dksX3_findBasket_2 20 rfl rfl)
theorem dX3_findBasket_68 : decode cX3_findBasket 68 = .ok (.iload_n 2, 1) := dk_28 (dk_at dksX3_findBasket_2 21 rfl rfl)
theorem dX3_findBasket_69 : decode cX3_findBasket 69 = .ok (.ifCond .lt 18, 3) := dk_155 0 18 (dk_at dksX3_findBasket_3 0 rfl rfl)
theorem dX3_findBasket_72 : decode cX3_findBasket 72 = .ok (.iload_n 2, 1) := dk_28 (dk_at dksX3_findBasket_3 3 rfl rfl)
theorem dX3_findBasket_73 : decode cX3_findBasket 73 = .ok (.ifCond .ne 18, 3) := dk_154 0 18 (dk_at dksX3_findBasket_3 4 rfl rfl)
theorem dX3_findBasket_76 : decode cX3_findBasket 76 = .ok (.iload_n 1, 1) := dk_27 (dk_at dksX3_findBasket_3 7 rfl rfl)
theorem dX3_findBasket_77 : decode cX3_findBasket 77 = .ok (.aload_n 0, 1) := dk_42 (dk_at dksX3_findBasket_3 8 rfl rfl)
theorem dX3_findBasket_78 : decode cX3_findBasket 78 = .ok (.getfield 266, 3) := dk_180 1 10 (dk_at dksX3_findBasket_3 9 rfl rfl)
theorem dX3_findBasket_81 : decode cX3_findBasket 81 = .ok (.invokestatic 275, 3) := dk_184 1 19 (dk_at dksX3_findBasket_3 12 rfl rfl)
theorem dX3_findBasket_84 : decode cX3_findBasket 84 = .ok (.ifCond .eq 7, 3) := dk_153 0 7 (dk_at dksX3_findBasket_3 15 rfl rfl)
theorem dX3_findBasket_87 : decode cX3_findBasket 87 = .ok (.iload_n 1, 1) := dk_27 (dk_at dksX3_findBasket_3 18 rfl rfl)
theorem dX3_findBasket_88 : decode cX3_findBasket 88 = .ok (.goto 7, 3) := dk_167 0 7 (dk_at dksX3_findBasket_3 19 rfl rfl)
theorem dX3_findBasket_91 : decode cX3_findBasket 91 = .ok (.aload_n 0, 1) := dk_42 (dk_at dksX3_findBasket_3 22 rfl rfl)
theorem dX3_findBasket_92 : decode cX3_findBasket 92 = .ok (.getfield 266, 3) := dk_180 1 10 (dk_at dksX3_findBasket_4 0 rfl rfl)
theorem dX3_findBasket_95 : decode cX3_findBasket 95 = .ok (.putfield 266, 3) := dk_181 1 10 (dk_at dksX3_findBasket_4 3 rfl rfl)
theorem dX3_findBasket_98 : decode cX3_findBasket 98 = .ok (.iinc 1 1, 3) := dk_132 1 1 (dk_at dksX3_findBasket_4 6 rfl rfl)
theorem dX3_findBasket_101 : decode cX3_findBasket 101 = .ok (.goto (-94), 3) := dk_167 255 162 (dk_at dksX3_findBasket_4 9 rfl rfl)
theorem dX3_findBasket_104 : decode cX3_findBasket 104 = .ok (.return_, 1) := dk_177 (dk_at dksX3_findBasket_4 12 rfl rfl)
abbrev cX3_isBasket : ByteArray := prog_9_method_51_code
def yX3_isBasket : MethodName := ⟨RX3, "isBasket", "(I)Z"⟩
def dkwX3_isBasket_3 : List UInt8 := [160, 0, 17, 28, 42, 27, 6, 182, 1, 2, 160, 0, 7, 4, 167, 0, 4, 3, 172]
abbrev dktX3_isBasket_3 : List UInt8 := dkwX3_isBasket_3 ++ []
def dkwX3_isBasket_2 : List UInt8 := [184, 0, 102, 153, 0, 37, 28, 42, 27, 4, 182, 1, 2, 160, 0, 27, 28, 42, 27, 5, 182, 1, 2]
abbrev dktX3_isBasket_2 : List UInt8 := dkwX3_isBasket_2 ++ dktX3_isBasket_3
def dkwX3_isBasket_1 : List UInt8 := [3, 172, 132, 2, 1, 167, 255, 229, 42, 27, 3, 182, 1, 2, 61, 27, 184, 1, 5, 133, 10, 20, 1, 8]
abbrev dktX3_isBasket_1 : List UInt8 := dkwX3_isBasket_1 ++ dktX3_isBasket_2
def dkwX3_isBasket_0 : List UInt8 := [3, 61, 28, 16, 6, 162, 0, 27, 27, 28, 184, 0, 252, 158, 0, 13, 42, 28, 182, 0, 255, 154, 0, 5]
abbrev dktX3_isBasket_0 : List UInt8 := dkwX3_isBasket_0 ++ dktX3_isBasket_1
theorem dksX3_isBasket_0 : cX3_isBasket.data.toList.drop 0 = dktX3_isBasket_0 := by decide +kernel
theorem dksX3_isBasket_1 : cX3_isBasket.data.toList.drop 24 = dktX3_isBasket_1 := dk_seg dksX3_isBasket_0 24 rfl rfl
theorem dksX3_isBasket_2 : cX3_isBasket.data.toList.drop 48 = dktX3_isBasket_2 := dk_seg dksX3_isBasket_1 24 rfl rfl
theorem dksX3_isBasket_3 : cX3_isBasket.data.toList.drop 71 = dktX3_isBasket_3 := dk_seg dksX3_isBasket_2 23 rfl rfl
theorem dX3_isBasket_0 : decode cX3_isBasket 0 = .ok (.iconst 0, 1) := dk_3 (dk_at dksX3_isBasket_0 0 rfl rfl)
theorem dX3_isBasket_1 : decode cX3_isBasket 1 = .ok (.istore_n 2, 1) := dk_61 (dk_at dksX3_isBasket_0 1 rfl rfl)
theorem dX3_isBasket_2 : decode cX3_isBasket 2 = .ok (.iload_n 2, 1) := dk_28 (dk_at dksX3_isBasket_0 2 rfl rfl)
theorem dX3_isBasket_3 : decode cX3_isBasket 3 = .ok (.bipush 6, 2) := dk_16 6 (dk_at dksX3_isBasket_0 3 rfl rfl)
theorem dX3_isBasket_5 : decode cX3_isBasket 5 = .ok (.if_icmp .ge 27, 3) := dk_162 0 27 (dk_at dksX3_isBasket_0 5 rfl rfl)
theorem dX3_isBasket_8 : decode cX3_isBasket 8 = .ok (.iload_n 1, 1) := dk_27 (dk_at dksX3_isBasket_0 8 rfl rfl)
theorem dX3_isBasket_9 : decode cX3_isBasket 9 = .ok (.iload_n 2, 1) := dk_28 (dk_at dksX3_isBasket_0 9 rfl rfl)
theorem dX3_isBasket_10 : decode cX3_isBasket 10 = .ok (.invokestatic 252, 3) := dk_184 0 252 (dk_at dksX3_isBasket_0 10 rfl rfl)
theorem dX3_isBasket_13 : decode cX3_isBasket 13 = .ok (.ifCond .le 13, 3) := dk_158 0 13 (dk_at dksX3_isBasket_0 13 rfl rfl)
theorem dX3_isBasket_16 : decode cX3_isBasket 16 = .ok (.aload_n 0, 1) := dk_42 (dk_at dksX3_isBasket_0 16 rfl rfl)
theorem dX3_isBasket_17 : decode cX3_isBasket 17 = .ok (.iload_n 2, 1) := dk_28 (dk_at dksX3_isBasket_0 17 rfl rfl)
theorem dX3_isBasket_18 : decode cX3_isBasket 18 = .ok (.invokevirtual 255, 3) := dk_182 0 255 (dk_at dksX3_isBasket_0 18 rfl rfl)
theorem dX3_isBasket_21 : decode cX3_isBasket 21 = .ok (.ifCond .ne 5, 3) := dk_154 0 5 (dk_at dksX3_isBasket_0 21 rfl rfl)
theorem dX3_isBasket_24 : decode cX3_isBasket 24 = .ok (.iconst 0, 1) := dk_3 (dk_at dksX3_isBasket_1 0 rfl rfl)
theorem dX3_isBasket_25 : decode cX3_isBasket 25 = .ok (.ireturn, 1) := dk_172 (dk_at dksX3_isBasket_1 1 rfl rfl)
theorem dX3_isBasket_26 : decode cX3_isBasket 26 = .ok (.iinc 2 1, 3) := dk_132 2 1 (dk_at dksX3_isBasket_1 2 rfl rfl)
theorem dX3_isBasket_29 : decode cX3_isBasket 29 = .ok (.goto (-27), 3) := dk_167 255 229 (dk_at dksX3_isBasket_1 5 rfl rfl)
theorem dX3_isBasket_32 : decode cX3_isBasket 32 = .ok (.aload_n 0, 1) := dk_42 (dk_at dksX3_isBasket_1 8 rfl rfl)
theorem dX3_isBasket_33 : decode cX3_isBasket 33 = .ok (.iload_n 1, 1) := dk_27 (dk_at dksX3_isBasket_1 9 rfl rfl)
theorem dX3_isBasket_34 : decode cX3_isBasket 34 = .ok (.iconst 0, 1) := dk_3 (dk_at dksX3_isBasket_1 10 rfl rfl)
theorem dX3_isBasket_35 : decode cX3_isBasket 35 = .ok (.invokevirtual 258, 3) := dk_182 1 2 (dk_at dksX3_isBasket_1 11 rfl rfl)
theorem dX3_isBasket_38 : decode cX3_isBasket 38 = .ok (.istore_n 2, 1) := dk_61 (dk_at dksX3_isBasket_1 14 rfl rfl)
theorem dX3_isBasket_39 : decode cX3_isBasket 39 = .ok (.iload_n 1, 1) := dk_27 (dk_at dksX3_isBasket_1 15 rfl rfl)
theorem dX3_isBasket_40 : decode cX3_isBasket 40 = .ok (.invokestatic 261, 3) := dk_184 1 5 (dk_at dksX3_isBasket_1 16 rfl rfl)
theorem dX3_isBasket_43 : decode cX3_isBasket 43 = .ok (.i2l, 1) := dk_133 (dk_at dksX3_isBasket_1 19 rfl rfl)
theorem dX3_isBasket_44 : decode cX3_isBasket 44 = .ok (.lconst 1, 1) := dk_10 (dk_at dksX3_isBasket_1 20 rfl rfl)
theorem dX3_isBasket_45 : decode cX3_isBasket 45 = .ok (.ldc2_w 264, 3) := dk_20 1 8 (dk_at dksX3_isBasket_1 21 rfl rfl)
theorem dX3_isBasket_48 : decode cX3_isBasket 48 = .ok (.invokestatic 102, 3) := dk_184 0 102 (dk_at dksX3_isBasket_2 0 rfl rfl)
theorem dX3_isBasket_51 : decode cX3_isBasket 51 = .ok (.ifCond .eq 37, 3) := dk_153 0 37 (dk_at dksX3_isBasket_2 3 rfl rfl)
theorem dX3_isBasket_54 : decode cX3_isBasket 54 = .ok (.iload_n 2, 1) := dk_28 (dk_at dksX3_isBasket_2 6 rfl rfl)
theorem dX3_isBasket_55 : decode cX3_isBasket 55 = .ok (.aload_n 0, 1) := dk_42 (dk_at dksX3_isBasket_2 7 rfl rfl)
theorem dX3_isBasket_56 : decode cX3_isBasket 56 = .ok (.iload_n 1, 1) := dk_27 (dk_at dksX3_isBasket_2 8 rfl rfl)
theorem dX3_isBasket_57 : decode cX3_isBasket 57 = .ok (.iconst 1, 1) := dk_4 (dk_at dksX3_isBasket_2 9 rfl rfl)
theorem dX3_isBasket_58 : decode cX3_isBasket 58 = .ok (.invokevirtual 258, 3) := dk_182 1 2 (dk_at dksX3_isBasket_2 10 rfl rfl)
theorem dX3_isBasket_61 : decode cX3_isBasket 61 = .ok (.if_icmp .ne 27, 3) := dk_160 0 27 (dk_at dksX3_isBasket_2 13 rfl rfl)
theorem dX3_isBasket_64 : decode cX3_isBasket 64 = .ok (.iload_n 2, 1) := dk_28 (dk_at dksX3_isBasket_2 16 rfl rfl)
theorem dX3_isBasket_65 : decode cX3_isBasket 65 = .ok (.aload_n 0, 1) := dk_42 (dk_at dksX3_isBasket_2 17 rfl rfl)
theorem dX3_isBasket_66 : decode cX3_isBasket 66 = .ok (.iload_n 1, 1) := dk_27 (dk_at dksX3_isBasket_2 18 rfl rfl)
theorem dX3_isBasket_67 : decode cX3_isBasket 67 = .ok (.iconst 2, 1) := dk_5 (dk_at dksX3_isBasket_2 19 rfl rfl)
theorem dX3_isBasket_68 : decode cX3_isBasket 68 = .ok (.invokevirtual 258, 3) := dk_182 1 2 (dk_at dksX3_isBasket_2 20 rfl rfl)
theorem dX3_isBasket_71 : decode cX3_isBasket 71 = .ok (.if_icmp .ne 17, 3) := dk_160 0 17 (dk_at dksX3_isBasket_3 0 rfl rfl)
theorem dX3_isBasket_74 : decode cX3_isBasket 74 = .ok (.iload_n 2, 1) := dk_28 (dk_at dksX3_isBasket_3 3 rfl rfl)
theorem dX3_isBasket_75 : decode cX3_isBasket 75 = .ok (.aload_n 0, 1) := dk_42 (dk_at dksX3_isBasket_3 4 rfl rfl)
theorem dX3_isBasket_76 : decode cX3_isBasket 76 = .ok (.iload_n 1, 1) := dk_27 (dk_at dksX3_isBasket_3 5 rfl rfl)
theorem dX3_isBasket_77 : decode cX3_isBasket 77 = .ok (.iconst 3, 1) := dk_6 (dk_at dksX3_isBasket_3 6 rfl rfl)
theorem dX3_isBasket_78 : decode cX3_isBasket 78 = .ok (.invokevirtual 258, 3) := dk_182 1 2 (dk_at dksX3_isBasket_3 7 rfl rfl)
theorem dX3_isBasket_81 : decode cX3_isBasket 81 = .ok (.if_icmp .ne 7, 3) := dk_160 0 7 (dk_at dksX3_isBasket_3 10 rfl rfl)
theorem dX3_isBasket_84 : decode cX3_isBasket 84 = .ok (.iconst 1, 1) := dk_4 (dk_at dksX3_isBasket_3 13 rfl rfl)
theorem dX3_isBasket_85 : decode cX3_isBasket 85 = .ok (.goto 4, 3) := dk_167 0 4 (dk_at dksX3_isBasket_3 14 rfl rfl)
theorem dX3_isBasket_88 : decode cX3_isBasket 88 = .ok (.iconst 0, 1) := dk_3 (dk_at dksX3_isBasket_3 17 rfl rfl)
theorem dX3_isBasket_89 : decode cX3_isBasket 89 = .ok (.ireturn, 1) := dk_172 (dk_at dksX3_isBasket_3 18 rfl rfl)
abbrev cX3_times : ByteArray := prog_9_method_46_code
def yX3_times : MethodName := ⟨RX3, "times", "(II)I"⟩
def dkwX3_times_0 : List UInt8 := [26, 61, 8, 62, 29, 27, 164, 0, 13, 28, 8, 108, 61, 132, 3, 255, 167, 255, 244, 28, 8, 112, 172]
abbrev dktX3_times_0 : List UInt8 := dkwX3_times_0 ++ []
theorem dksX3_times_0 : cX3_times.data.toList.drop 0 = dktX3_times_0 := by decide +kernel
theorem dX3_times_0 : decode cX3_times 0 = .ok (.iload_n 0, 1) := dk_26 (dk_at dksX3_times_0 0 rfl rfl)
theorem dX3_times_1 : decode cX3_times 1 = .ok (.istore_n 2, 1) := dk_61 (dk_at dksX3_times_0 1 rfl rfl)
theorem dX3_times_2 : decode cX3_times 2 = .ok (.iconst 5, 1) := dk_8 (dk_at dksX3_times_0 2 rfl rfl)
theorem dX3_times_3 : decode cX3_times 3 = .ok (.istore_n 3, 1) := dk_62 (dk_at dksX3_times_0 3 rfl rfl)
theorem dX3_times_4 : decode cX3_times 4 = .ok (.iload_n 3, 1) := dk_29 (dk_at dksX3_times_0 4 rfl rfl)
theorem dX3_times_5 : decode cX3_times 5 = .ok (.iload_n 1, 1) := dk_27 (dk_at dksX3_times_0 5 rfl rfl)
theorem dX3_times_6 : decode cX3_times 6 = .ok (.if_icmp .le 13, 3) := dk_164 0 13 (dk_at dksX3_times_0 6 rfl rfl)
theorem dX3_times_9 : decode cX3_times 9 = .ok (.iload_n 2, 1) := dk_28 (dk_at dksX3_times_0 9 rfl rfl)
theorem dX3_times_10 : decode cX3_times 10 = .ok (.iconst 5, 1) := dk_8 (dk_at dksX3_times_0 10 rfl rfl)
theorem dX3_times_11 : decode cX3_times 11 = .ok (.idiv, 1) := dk_108 (dk_at dksX3_times_0 11 rfl rfl)
theorem dX3_times_12 : decode cX3_times 12 = .ok (.istore_n 2, 1) := dk_61 (dk_at dksX3_times_0 12 rfl rfl)
theorem dX3_times_13 : decode cX3_times 13 = .ok (.iinc 3 (-1), 3) := dk_132 3 255 (dk_at dksX3_times_0 13 rfl rfl)
theorem dX3_times_16 : decode cX3_times 16 = .ok (.goto (-12), 3) := dk_167 255 244 (dk_at dksX3_times_0 16 rfl rfl)
theorem dX3_times_19 : decode cX3_times 19 = .ok (.iload_n 2, 1) := dk_28 (dk_at dksX3_times_0 19 rfl rfl)
theorem dX3_times_20 : decode cX3_times 20 = .ok (.iconst 5, 1) := dk_8 (dk_at dksX3_times_0 20 rfl rfl)
theorem dX3_times_21 : decode cX3_times 21 = .ok (.irem, 1) := dk_112 (dk_at dksX3_times_0 21 rfl rfl)
theorem dX3_times_22 : decode cX3_times 22 = .ok (.ireturn, 1) := dk_172 (dk_at dksX3_times_0 22 rfl rfl)
abbrev cX3_isFree : ByteArray := prog_9_method_47_code
def yX3_isFree : MethodName := ⟨RX3, "isFree", "(I)Z"⟩
def dkwX3_isFree_1 : List UInt8 := [46, 156, 0, 7, 4, 167, 0, 4, 3, 172]
abbrev dktX3_isFree_1 : List UInt8 := dkwX3_isFree_1 ++ []
def dkwX3_isFree_0 : List UInt8 := [42, 27, 182, 0, 200, 153, 0, 27, 42, 27, 182, 0, 190, 153, 0, 19, 42, 180, 0, 37, 16, 6, 27, 96]
abbrev dktX3_isFree_0 : List UInt8 := dkwX3_isFree_0 ++ dktX3_isFree_1
theorem dksX3_isFree_0 : cX3_isFree.data.toList.drop 0 = dktX3_isFree_0 := by decide +kernel
theorem dksX3_isFree_1 : cX3_isFree.data.toList.drop 24 = dktX3_isFree_1 := dk_seg dksX3_isFree_0 24 rfl rfl
theorem dX3_isFree_0 : decode cX3_isFree 0 = .ok (.aload_n 0, 1) := dk_42 (dk_at dksX3_isFree_0 0 rfl rfl)
theorem dX3_isFree_1 : decode cX3_isFree 1 = .ok (.iload_n 1, 1) := dk_27 (dk_at dksX3_isFree_0 1 rfl rfl)
theorem dX3_isFree_2 : decode cX3_isFree 2 = .ok (.invokevirtual 200, 3) := dk_182 0 200 (dk_at dksX3_isFree_0 2 rfl rfl)
theorem dX3_isFree_5 : decode cX3_isFree 5 = .ok (.ifCond .eq 27, 3) := dk_153 0 27 (dk_at dksX3_isFree_0 5 rfl rfl)
theorem dX3_isFree_8 : decode cX3_isFree 8 = .ok (.aload_n 0, 1) := dk_42 (dk_at dksX3_isFree_0 8 rfl rfl)
theorem dX3_isFree_9 : decode cX3_isFree 9 = .ok (.iload_n 1, 1) := dk_27 (dk_at dksX3_isFree_0 9 rfl rfl)
theorem dX3_isFree_10 : decode cX3_isFree 10 = .ok (.invokevirtual 190, 3) := dk_182 0 190 (dk_at dksX3_isFree_0 10 rfl rfl)
theorem dX3_isFree_13 : decode cX3_isFree 13 = .ok (.ifCond .eq 19, 3) := dk_153 0 19 (dk_at dksX3_isFree_0 13 rfl rfl)
theorem dX3_isFree_16 : decode cX3_isFree 16 = .ok (.aload_n 0, 1) := dk_42 (dk_at dksX3_isFree_0 16 rfl rfl)
theorem dX3_isFree_17 : decode cX3_isFree 17 = .ok (.getfield 37, 3) := dk_180 0 37 (dk_at dksX3_isFree_0 17 rfl rfl)
theorem dX3_isFree_20 : decode cX3_isFree 20 = .ok (.bipush 6, 2) := dk_16 6 (dk_at dksX3_isFree_0 20 rfl rfl)
theorem dX3_isFree_22 : decode cX3_isFree 22 = .ok (.iload_n 1, 1) := dk_27 (dk_at dksX3_isFree_0 22 rfl rfl)
theorem dX3_isFree_23 : decode cX3_isFree 23 = .ok (.iadd, 1) := dk_96 (dk_at dksX3_isFree_0 23 rfl rfl)
theorem dX3_isFree_24 : decode cX3_isFree 24 = .ok (.iaload, 1) := dk_46 (dk_at dksX3_isFree_1 0 rfl rfl)
theorem dX3_isFree_25 : decode cX3_isFree 25 = .ok (.ifCond .ge 7, 3) := dk_156 0 7 (dk_at dksX3_isFree_1 1 rfl rfl)
theorem dX3_isFree_28 : decode cX3_isFree 28 = .ok (.iconst 1, 1) := dk_4 (dk_at dksX3_isFree_1 4 rfl rfl)
theorem dX3_isFree_29 : decode cX3_isFree 29 = .ok (.goto 4, 3) := dk_167 0 4 (dk_at dksX3_isFree_1 5 rfl rfl)
theorem dX3_isFree_32 : decode cX3_isFree 32 = .ok (.iconst 0, 1) := dk_3 (dk_at dksX3_isFree_1 8 rfl rfl)
theorem dX3_isFree_33 : decode cX3_isFree 33 = .ok (.ireturn, 1) := dk_172 (dk_at dksX3_isFree_1 9 rfl rfl)
abbrev cX3_basketAt : ByteArray := prog_9_method_48_code
def yX3_basketAt : MethodName := ⟨RX3, "basketAt", "(II)I"⟩
def dkwX3_basketAt_1 : List UInt8 := [28, 182, 0, 194, 104, 96, 62, 132, 4, 1, 167, 255, 227, 29, 172]
abbrev dktX3_basketAt_1 : List UInt8 := dkwX3_basketAt_1 ++ []
def dkwX3_basketAt_0 : List UInt8 := [3, 62, 3, 54, 4, 21, 4, 42, 180, 0, 99, 162, 0, 26, 29, 27, 21, 4, 184, 0, 252, 42, 21, 4]
abbrev dktX3_basketAt_0 : List UInt8 := dkwX3_basketAt_0 ++ dktX3_basketAt_1
theorem dksX3_basketAt_0 : cX3_basketAt.data.toList.drop 0 = dktX3_basketAt_0 := by decide +kernel
theorem dksX3_basketAt_1 : cX3_basketAt.data.toList.drop 24 = dktX3_basketAt_1 := dk_seg dksX3_basketAt_0 24 rfl rfl
theorem dX3_basketAt_0 : decode cX3_basketAt 0 = .ok (.iconst 0, 1) := dk_3 (dk_at dksX3_basketAt_0 0 rfl rfl)
theorem dX3_basketAt_1 : decode cX3_basketAt 1 = .ok (.istore_n 3, 1) := dk_62 (dk_at dksX3_basketAt_0 1 rfl rfl)
theorem dX3_basketAt_2 : decode cX3_basketAt 2 = .ok (.iconst 0, 1) := dk_3 (dk_at dksX3_basketAt_0 2 rfl rfl)
theorem dX3_basketAt_3 : decode cX3_basketAt 3 = .ok (.istore 4, 2) := dk_54 4 (dk_at dksX3_basketAt_0 3 rfl rfl)
theorem dX3_basketAt_5 : decode cX3_basketAt 5 = .ok (.iload 4, 2) := dk_21 4 (dk_at dksX3_basketAt_0 5 rfl rfl)
theorem dX3_basketAt_7 : decode cX3_basketAt 7 = .ok (.aload_n 0, 1) := dk_42 (dk_at dksX3_basketAt_0 7 rfl rfl)
theorem dX3_basketAt_8 : decode cX3_basketAt 8 = .ok (.getfield 99, 3) := dk_180 0 99 (dk_at dksX3_basketAt_0 8 rfl rfl)
theorem dX3_basketAt_11 : decode cX3_basketAt 11 = .ok (.if_icmp .ge 26, 3) := dk_162 0 26 (dk_at dksX3_basketAt_0 11 rfl rfl)
theorem dX3_basketAt_14 : decode cX3_basketAt 14 = .ok (.iload_n 3, 1) := dk_29 (dk_at dksX3_basketAt_0 14 rfl rfl)
theorem dX3_basketAt_15 : decode cX3_basketAt 15 = .ok (.iload_n 1, 1) := dk_27 (dk_at dksX3_basketAt_0 15 rfl rfl)
theorem dX3_basketAt_16 : decode cX3_basketAt 16 = .ok (.iload 4, 2) := dk_21 4 (dk_at dksX3_basketAt_0 16 rfl rfl)
theorem dX3_basketAt_18 : decode cX3_basketAt 18 = .ok (.invokestatic 252, 3) := dk_184 0 252 (dk_at dksX3_basketAt_0 18 rfl rfl)
theorem dX3_basketAt_21 : decode cX3_basketAt 21 = .ok (.aload_n 0, 1) := dk_42 (dk_at dksX3_basketAt_0 21 rfl rfl)
theorem dX3_basketAt_22 : decode cX3_basketAt 22 = .ok (.iload 4, 2) := dk_21 4 (dk_at dksX3_basketAt_0 22 rfl rfl)
theorem dX3_basketAt_24 : decode cX3_basketAt 24 = .ok (.iload_n 2, 1) := dk_28 (dk_at dksX3_basketAt_1 0 rfl rfl)
theorem dX3_basketAt_25 : decode cX3_basketAt 25 = .ok (.invokevirtual 194, 3) := dk_182 0 194 (dk_at dksX3_basketAt_1 1 rfl rfl)
theorem dX3_basketAt_28 : decode cX3_basketAt 28 = .ok (.imul, 1) := dk_104 (dk_at dksX3_basketAt_1 4 rfl rfl)
theorem dX3_basketAt_29 : decode cX3_basketAt 29 = .ok (.iadd, 1) := dk_96 (dk_at dksX3_basketAt_1 5 rfl rfl)
theorem dX3_basketAt_30 : decode cX3_basketAt 30 = .ok (.istore_n 3, 1) := dk_62 (dk_at dksX3_basketAt_1 6 rfl rfl)
theorem dX3_basketAt_31 : decode cX3_basketAt 31 = .ok (.iinc 4 1, 3) := dk_132 4 1 (dk_at dksX3_basketAt_1 7 rfl rfl)
theorem dX3_basketAt_34 : decode cX3_basketAt 34 = .ok (.goto (-29), 3) := dk_167 255 227 (dk_at dksX3_basketAt_1 10 rfl rfl)
theorem dX3_basketAt_37 : decode cX3_basketAt 37 = .ok (.iload_n 3, 1) := dk_29 (dk_at dksX3_basketAt_1 13 rfl rfl)
theorem dX3_basketAt_38 : decode cX3_basketAt 38 = .ok (.ireturn, 1) := dk_172 (dk_at dksX3_basketAt_1 14 rfl rfl)
abbrev cX3_limbsOf : ByteArray := prog_9_method_50_code
def yX3_limbsOf : MethodName := ⟨RX3, "limbsOf", "(I)I"⟩
def dkwX3_limbsOf_1 : List UInt8 := [96, 60, 132, 2, 1, 167, 255, 231, 27, 172]
abbrev dktX3_limbsOf_1 : List UInt8 := dkwX3_limbsOf_1 ++ []
def dkwX3_limbsOf_0 : List UInt8 := [3, 60, 3, 61, 28, 16, 6, 162, 0, 25, 27, 26, 28, 184, 0, 252, 158, 0, 7, 4, 167, 0, 4, 3]
abbrev dktX3_limbsOf_0 : List UInt8 := dkwX3_limbsOf_0 ++ dktX3_limbsOf_1
theorem dksX3_limbsOf_0 : cX3_limbsOf.data.toList.drop 0 = dktX3_limbsOf_0 := by decide +kernel
theorem dksX3_limbsOf_1 : cX3_limbsOf.data.toList.drop 24 = dktX3_limbsOf_1 := dk_seg dksX3_limbsOf_0 24 rfl rfl
theorem dX3_limbsOf_0 : decode cX3_limbsOf 0 = .ok (.iconst 0, 1) := dk_3 (dk_at dksX3_limbsOf_0 0 rfl rfl)
theorem dX3_limbsOf_1 : decode cX3_limbsOf 1 = .ok (.istore_n 1, 1) := dk_60 (dk_at dksX3_limbsOf_0 1 rfl rfl)
theorem dX3_limbsOf_2 : decode cX3_limbsOf 2 = .ok (.iconst 0, 1) := dk_3 (dk_at dksX3_limbsOf_0 2 rfl rfl)
theorem dX3_limbsOf_3 : decode cX3_limbsOf 3 = .ok (.istore_n 2, 1) := dk_61 (dk_at dksX3_limbsOf_0 3 rfl rfl)
theorem dX3_limbsOf_4 : decode cX3_limbsOf 4 = .ok (.iload_n 2, 1) := dk_28 (dk_at dksX3_limbsOf_0 4 rfl rfl)
theorem dX3_limbsOf_5 : decode cX3_limbsOf 5 = .ok (.bipush 6, 2) := dk_16 6 (dk_at dksX3_limbsOf_0 5 rfl rfl)
theorem dX3_limbsOf_7 : decode cX3_limbsOf 7 = .ok (.if_icmp .ge 25, 3) := dk_162 0 25 (dk_at dksX3_limbsOf_0 7 rfl rfl)
theorem dX3_limbsOf_10 : decode cX3_limbsOf 10 = .ok (.iload_n 1, 1) := dk_27 (dk_at dksX3_limbsOf_0 10 rfl rfl)
theorem dX3_limbsOf_11 : decode cX3_limbsOf 11 = .ok (.iload_n 0, 1) := dk_26 (dk_at dksX3_limbsOf_0 11 rfl rfl)
theorem dX3_limbsOf_12 : decode cX3_limbsOf 12 = .ok (.iload_n 2, 1) := dk_28 (dk_at dksX3_limbsOf_0 12 rfl rfl)
theorem dX3_limbsOf_13 : decode cX3_limbsOf 13 = .ok (.invokestatic 252, 3) := dk_184 0 252 (dk_at dksX3_limbsOf_0 13 rfl rfl)
theorem dX3_limbsOf_16 : decode cX3_limbsOf 16 = .ok (.ifCond .le 7, 3) := dk_158 0 7 (dk_at dksX3_limbsOf_0 16 rfl rfl)
theorem dX3_limbsOf_19 : decode cX3_limbsOf 19 = .ok (.iconst 1, 1) := dk_4 (dk_at dksX3_limbsOf_0 19 rfl rfl)
theorem dX3_limbsOf_20 : decode cX3_limbsOf 20 = .ok (.goto 4, 3) := dk_167 0 4 (dk_at dksX3_limbsOf_0 20 rfl rfl)
theorem dX3_limbsOf_23 : decode cX3_limbsOf 23 = .ok (.iconst 0, 1) := dk_3 (dk_at dksX3_limbsOf_0 23 rfl rfl)
theorem dX3_limbsOf_24 : decode cX3_limbsOf 24 = .ok (.iadd, 1) := dk_96 (dk_at dksX3_limbsOf_1 0 rfl rfl)
theorem dX3_limbsOf_25 : decode cX3_limbsOf 25 = .ok (.istore_n 1, 1) := dk_60 (dk_at dksX3_limbsOf_1 1 rfl rfl)
theorem dX3_limbsOf_26 : decode cX3_limbsOf 26 = .ok (.iinc 2 1, 3) := dk_132 2 1 (dk_at dksX3_limbsOf_1 2 rfl rfl)
theorem dX3_limbsOf_29 : decode cX3_limbsOf 29 = .ok (.goto (-25), 3) := dk_167 255 231 (dk_at dksX3_limbsOf_1 5 rfl rfl)
theorem dX3_limbsOf_32 : decode cX3_limbsOf 32 = .ok (.iload_n 1, 1) := dk_27 (dk_at dksX3_limbsOf_1 8 rfl rfl)
theorem dX3_limbsOf_33 : decode cX3_limbsOf 33 = .ok (.ireturn, 1) := dk_172 (dk_at dksX3_limbsOf_1 9 rfl rfl)
abbrev cX3_timesOf : ByteArray := prog_9_method_49_code
def yX3_timesOf : MethodName := ⟨RX3, "timesOf", "(I)I"⟩
def dkwX3_timesOf_1 : List UInt8 := [27, 172]
abbrev dktX3_timesOf_1 : List UInt8 := dkwX3_timesOf_1 ++ []
def dkwX3_timesOf_0 : List UInt8 := [3, 60, 3, 61, 28, 16, 6, 162, 0, 17, 27, 26, 28, 184, 0, 252, 96, 60, 132, 2, 1, 167, 255, 239]
abbrev dktX3_timesOf_0 : List UInt8 := dkwX3_timesOf_0 ++ dktX3_timesOf_1
theorem dksX3_timesOf_0 : cX3_timesOf.data.toList.drop 0 = dktX3_timesOf_0 := by decide +kernel
theorem dksX3_timesOf_1 : cX3_timesOf.data.toList.drop 24 = dktX3_timesOf_1 := dk_seg dksX3_timesOf_0 24 rfl rfl
theorem dX3_timesOf_0 : decode cX3_timesOf 0 = .ok (.iconst 0, 1) := dk_3 (dk_at dksX3_timesOf_0 0 rfl rfl)
theorem dX3_timesOf_1 : decode cX3_timesOf 1 = .ok (.istore_n 1, 1) := dk_60 (dk_at dksX3_timesOf_0 1 rfl rfl)
theorem dX3_timesOf_2 : decode cX3_timesOf 2 = .ok (.iconst 0, 1) := dk_3 (dk_at dksX3_timesOf_0 2 rfl rfl)
theorem dX3_timesOf_3 : decode cX3_timesOf 3 = .ok (.istore_n 2, 1) := dk_61 (dk_at dksX3_timesOf_0 3 rfl rfl)
theorem dX3_timesOf_4 : decode cX3_timesOf 4 = .ok (.iload_n 2, 1) := dk_28 (dk_at dksX3_timesOf_0 4 rfl rfl)
theorem dX3_timesOf_5 : decode cX3_timesOf 5 = .ok (.bipush 6, 2) := dk_16 6 (dk_at dksX3_timesOf_0 5 rfl rfl)
theorem dX3_timesOf_7 : decode cX3_timesOf 7 = .ok (.if_icmp .ge 17, 3) := dk_162 0 17 (dk_at dksX3_timesOf_0 7 rfl rfl)
theorem dX3_timesOf_10 : decode cX3_timesOf 10 = .ok (.iload_n 1, 1) := dk_27 (dk_at dksX3_timesOf_0 10 rfl rfl)
theorem dX3_timesOf_11 : decode cX3_timesOf 11 = .ok (.iload_n 0, 1) := dk_26 (dk_at dksX3_timesOf_0 11 rfl rfl)
theorem dX3_timesOf_12 : decode cX3_timesOf 12 = .ok (.iload_n 2, 1) := dk_28 (dk_at dksX3_timesOf_0 12 rfl rfl)
theorem dX3_timesOf_13 : decode cX3_timesOf 13 = .ok (.invokestatic 252, 3) := dk_184 0 252 (dk_at dksX3_timesOf_0 13 rfl rfl)
theorem dX3_timesOf_16 : decode cX3_timesOf 16 = .ok (.iadd, 1) := dk_96 (dk_at dksX3_timesOf_0 16 rfl rfl)
theorem dX3_timesOf_17 : decode cX3_timesOf 17 = .ok (.istore_n 1, 1) := dk_60 (dk_at dksX3_timesOf_0 17 rfl rfl)
theorem dX3_timesOf_18 : decode cX3_timesOf 18 = .ok (.iinc 2 1, 3) := dk_132 2 1 (dk_at dksX3_timesOf_0 18 rfl rfl)
theorem dX3_timesOf_21 : decode cX3_timesOf 21 = .ok (.goto (-17), 3) := dk_167 255 239 (dk_at dksX3_timesOf_0 21 rfl rfl)
theorem dX3_timesOf_24 : decode cX3_timesOf 24 = .ok (.iload_n 1, 1) := dk_27 (dk_at dksX3_timesOf_1 0 rfl rfl)
theorem dX3_timesOf_25 : decode cX3_timesOf 25 = .ok (.ireturn, 1) := dk_172 (dk_at dksX3_timesOf_1 1 rfl rfl)
abbrev cX3_isAhead : ByteArray := prog_9_method_52_code
def yX3_isAhead : MethodName := ⟨RX3, "isAhead", "(II)Z"⟩
def dkwX3_isAhead_2 : List UInt8 := [132, 2, 1, 167, 255, 207, 3, 172]
abbrev dktX3_isAhead_2 : List UInt8 := dkwX3_isAhead_2 ++ []
def dkwX3_isAhead_1 : List UInt8 := [159, 0, 24, 29, 158, 0, 18, 21, 4, 153, 0, 9, 29, 21, 4, 162, 0, 7, 4, 167, 0, 4, 3, 172]
abbrev dktX3_isAhead_1 : List UInt8 := dkwX3_isAhead_1 ++ dktX3_isAhead_2
def dkwX3_isAhead_0 : List UInt8 := [3, 61, 28, 16, 6, 162, 0, 49, 26, 28, 184, 0, 252, 62, 27, 28, 184, 0, 252, 54, 4, 29, 21, 4]
abbrev dktX3_isAhead_0 : List UInt8 := dkwX3_isAhead_0 ++ dktX3_isAhead_1
theorem dksX3_isAhead_0 : cX3_isAhead.data.toList.drop 0 = dktX3_isAhead_0 := by decide +kernel
theorem dksX3_isAhead_1 : cX3_isAhead.data.toList.drop 24 = dktX3_isAhead_1 := dk_seg dksX3_isAhead_0 24 rfl rfl
theorem dksX3_isAhead_2 : cX3_isAhead.data.toList.drop 48 = dktX3_isAhead_2 := dk_seg dksX3_isAhead_1 24 rfl rfl
theorem dX3_isAhead_0 : decode cX3_isAhead 0 = .ok (.iconst 0, 1) := dk_3 (dk_at dksX3_isAhead_0 0 rfl rfl)
theorem dX3_isAhead_1 : decode cX3_isAhead 1 = .ok (.istore_n 2, 1) := dk_61 (dk_at dksX3_isAhead_0 1 rfl rfl)
theorem dX3_isAhead_2 : decode cX3_isAhead 2 = .ok (.iload_n 2, 1) := dk_28 (dk_at dksX3_isAhead_0 2 rfl rfl)
theorem dX3_isAhead_3 : decode cX3_isAhead 3 = .ok (.bipush 6, 2) := dk_16 6 (dk_at dksX3_isAhead_0 3 rfl rfl)
theorem dX3_isAhead_5 : decode cX3_isAhead 5 = .ok (.if_icmp .ge 49, 3) := dk_162 0 49 (dk_at dksX3_isAhead_0 5 rfl rfl)
theorem dX3_isAhead_8 : decode cX3_isAhead 8 = .ok (.iload_n 0, 1) := dk_26 (dk_at dksX3_isAhead_0 8 rfl rfl)
theorem dX3_isAhead_9 : decode cX3_isAhead 9 = .ok (.iload_n 2, 1) := dk_28 (dk_at dksX3_isAhead_0 9 rfl rfl)
theorem dX3_isAhead_10 : decode cX3_isAhead 10 = .ok (.invokestatic 252, 3) := dk_184 0 252 (dk_at dksX3_isAhead_0 10 rfl rfl)
theorem dX3_isAhead_13 : decode cX3_isAhead 13 = .ok (.istore_n 3, 1) := dk_62 (dk_at dksX3_isAhead_0 13 rfl rfl)
theorem dX3_isAhead_14 : decode cX3_isAhead 14 = .ok (.iload_n 1, 1) := dk_27 (dk_at dksX3_isAhead_0 14 rfl rfl)
theorem dX3_isAhead_15 : decode cX3_isAhead 15 = .ok (.iload_n 2, 1) := dk_28 (dk_at dksX3_isAhead_0 15 rfl rfl)
theorem dX3_isAhead_16 : decode cX3_isAhead 16 = .ok (.invokestatic 252, 3) := dk_184 0 252 (dk_at dksX3_isAhead_0 16 rfl rfl)
theorem dX3_isAhead_19 : decode cX3_isAhead 19 = .ok (.istore 4, 2) := dk_54 4 (dk_at dksX3_isAhead_0 19 rfl rfl)
theorem dX3_isAhead_21 : decode cX3_isAhead 21 = .ok (.iload_n 3, 1) := dk_29 (dk_at dksX3_isAhead_0 21 rfl rfl)
theorem dX3_isAhead_22 : decode cX3_isAhead 22 = .ok (.iload 4, 2) := dk_21 4 (dk_at dksX3_isAhead_0 22 rfl rfl)
theorem dX3_isAhead_24 : decode cX3_isAhead 24 = .ok (.if_icmp .eq 24, 3) := dk_159 0 24 (dk_at dksX3_isAhead_1 0 rfl rfl)
theorem dX3_isAhead_27 : decode cX3_isAhead 27 = .ok (.iload_n 3, 1) := dk_29 (dk_at dksX3_isAhead_1 3 rfl rfl)
theorem dX3_isAhead_28 : decode cX3_isAhead 28 = .ok (.ifCond .le 18, 3) := dk_158 0 18 (dk_at dksX3_isAhead_1 4 rfl rfl)
theorem dX3_isAhead_31 : decode cX3_isAhead 31 = .ok (.iload 4, 2) := dk_21 4 (dk_at dksX3_isAhead_1 7 rfl rfl)
theorem dX3_isAhead_33 : decode cX3_isAhead 33 = .ok (.ifCond .eq 9, 3) := dk_153 0 9 (dk_at dksX3_isAhead_1 9 rfl rfl)
theorem dX3_isAhead_36 : decode cX3_isAhead 36 = .ok (.iload_n 3, 1) := dk_29 (dk_at dksX3_isAhead_1 12 rfl rfl)
theorem dX3_isAhead_37 : decode cX3_isAhead 37 = .ok (.iload 4, 2) := dk_21 4 (dk_at dksX3_isAhead_1 13 rfl rfl)
theorem dX3_isAhead_39 : decode cX3_isAhead 39 = .ok (.if_icmp .ge 7, 3) := dk_162 0 7 (dk_at dksX3_isAhead_1 15 rfl rfl)
theorem dX3_isAhead_42 : decode cX3_isAhead 42 = .ok (.iconst 1, 1) := dk_4 (dk_at dksX3_isAhead_1 18 rfl rfl)
theorem dX3_isAhead_43 : decode cX3_isAhead 43 = .ok (.goto 4, 3) := dk_167 0 4 (dk_at dksX3_isAhead_1 19 rfl rfl)
theorem dX3_isAhead_46 : decode cX3_isAhead 46 = .ok (.iconst 0, 1) := dk_3 (dk_at dksX3_isAhead_1 22 rfl rfl)
theorem dX3_isAhead_47 : decode cX3_isAhead 47 = .ok (.ireturn, 1) := dk_172 (dk_at dksX3_isAhead_1 23 rfl rfl)
theorem dX3_isAhead_48 : decode cX3_isAhead 48 = .ok (.iinc 2 1, 3) := dk_132 2 1 (dk_at dksX3_isAhead_2 0 rfl rfl)
theorem dX3_isAhead_51 : decode cX3_isAhead 51 = .ok (.goto (-49), 3) := dk_167 255 207 (dk_at dksX3_isAhead_2 3 rfl rfl)
theorem dX3_isAhead_54 : decode cX3_isAhead 54 = .ok (.iconst 0, 1) := dk_3 (dk_at dksX3_isAhead_2 6 rfl rfl)
theorem dX3_isAhead_55 : decode cX3_isAhead 55 = .ok (.ireturn, 1) := dk_172 (dk_at dksX3_isAhead_2 7 rfl rfl)
abbrev cX3_ring : ByteArray := prog_9_method_59_code
def yX3_ring : MethodName := ⟨RX3, "ring", "(I)I"⟩
def dkwX3_ring_2 : List UInt8 := [180, 1, 29, 27, 184, 1, 25, 167, 0, 4, 2, 172]
abbrev dktX3_ring_2 : List UInt8 := dkwX3_ring_2 ++ []
def dkwX3_ring_1 : List UInt8 := [180, 1, 29, 172, 27, 133, 9, 42, 180, 1, 29, 4, 100, 133, 184, 0, 102, 153, 0, 15, 28, 42]
abbrev dktX3_ring_1 : List UInt8 := dkwX3_ring_1 ++ dktX3_ring_2
def dkwX3_ring_0 : List UInt8 := [42, 182, 1, 39, 61, 28, 155, 0, 8, 27, 2, 160, 0, 16, 28, 156, 0, 7, 2, 167, 0, 7, 42]
abbrev dktX3_ring_0 : List UInt8 := dkwX3_ring_0 ++ dktX3_ring_1
theorem dksX3_ring_0 : cX3_ring.data.toList.drop 0 = dktX3_ring_0 := by decide +kernel
theorem dksX3_ring_1 : cX3_ring.data.toList.drop 23 = dktX3_ring_1 := dk_seg dksX3_ring_0 23 rfl rfl
theorem dksX3_ring_2 : cX3_ring.data.toList.drop 45 = dktX3_ring_2 := dk_seg dksX3_ring_1 22 rfl rfl
theorem dX3_ring_0 : decode cX3_ring 0 = .ok (.aload_n 0, 1) := dk_42 (dk_at dksX3_ring_0 0 rfl rfl)
theorem dX3_ring_1 : decode cX3_ring 1 = .ok (.invokevirtual 295, 3) := dk_182 1 39 (dk_at dksX3_ring_0 1 rfl rfl)
theorem dX3_ring_4 : decode cX3_ring 4 = .ok (.istore_n 2, 1) := dk_61 (dk_at dksX3_ring_0 4 rfl rfl)
theorem dX3_ring_5 : decode cX3_ring 5 = .ok (.iload_n 2, 1) := dk_28 (dk_at dksX3_ring_0 5 rfl rfl)
theorem dX3_ring_6 : decode cX3_ring 6 = .ok (.ifCond .lt 8, 3) := dk_155 0 8 (dk_at dksX3_ring_0 6 rfl rfl)
theorem dX3_ring_9 : decode cX3_ring 9 = .ok (.iload_n 1, 1) := dk_27 (dk_at dksX3_ring_0 9 rfl rfl)
theorem dX3_ring_10 : decode cX3_ring 10 = .ok (.iconst (-1), 1) := dk_2 (dk_at dksX3_ring_0 10 rfl rfl)
theorem dX3_ring_11 : decode cX3_ring 11 = .ok (.if_icmp .ne 16, 3) := dk_160 0 16 (dk_at dksX3_ring_0 11 rfl rfl)
theorem dX3_ring_14 : decode cX3_ring 14 = .ok (.iload_n 2, 1) := dk_28 (dk_at dksX3_ring_0 14 rfl rfl)
theorem dX3_ring_15 : decode cX3_ring 15 = .ok (.ifCond .ge 7, 3) := dk_156 0 7 (dk_at dksX3_ring_0 15 rfl rfl)
theorem dX3_ring_18 : decode cX3_ring 18 = .ok (.iconst (-1), 1) := dk_2 (dk_at dksX3_ring_0 18 rfl rfl)
theorem dX3_ring_19 : decode cX3_ring 19 = .ok (.goto 7, 3) := dk_167 0 7 (dk_at dksX3_ring_0 19 rfl rfl)
theorem dX3_ring_22 : decode cX3_ring 22 = .ok (.aload_n 0, 1) := dk_42 (dk_at dksX3_ring_0 22 rfl rfl)
theorem dX3_ring_23 : decode cX3_ring 23 = .ok (.getfield 285, 3) := dk_180 1 29 (dk_at dksX3_ring_1 0 rfl rfl)
theorem dX3_ring_26 : decode cX3_ring 26 = .ok (.ireturn, 1) := dk_172 (dk_at dksX3_ring_1 3 rfl rfl)
theorem dX3_ring_27 : decode cX3_ring 27 = .ok (.iload_n 1, 1) := dk_27 (dk_at dksX3_ring_1 4 rfl rfl)
theorem dX3_ring_28 : decode cX3_ring 28 = .ok (.i2l, 1) := dk_133 (dk_at dksX3_ring_1 5 rfl rfl)
theorem dX3_ring_29 : decode cX3_ring 29 = .ok (.lconst 0, 1) := dk_9 (dk_at dksX3_ring_1 6 rfl rfl)
theorem dX3_ring_30 : decode cX3_ring 30 = .ok (.aload_n 0, 1) := dk_42 (dk_at dksX3_ring_1 7 rfl rfl)
theorem dX3_ring_31 : decode cX3_ring 31 = .ok (.getfield 285, 3) := dk_180 1 29 (dk_at dksX3_ring_1 8 rfl rfl)
theorem dX3_ring_34 : decode cX3_ring 34 = .ok (.iconst 1, 1) := dk_4 (dk_at dksX3_ring_1 11 rfl rfl)
theorem dX3_ring_35 : decode cX3_ring 35 = .ok (.isub, 1) := dk_100 (dk_at dksX3_ring_1 12 rfl rfl)
theorem dX3_ring_36 : decode cX3_ring 36 = .ok (.i2l, 1) := dk_133 (dk_at dksX3_ring_1 13 rfl rfl)
theorem dX3_ring_37 : decode cX3_ring 37 = .ok (.invokestatic 102, 3) := dk_184 0 102 (dk_at dksX3_ring_1 14 rfl rfl)
theorem dX3_ring_40 : decode cX3_ring 40 = .ok (.ifCond .eq 15, 3) := dk_153 0 15 (dk_at dksX3_ring_1 17 rfl rfl)
theorem dX3_ring_43 : decode cX3_ring 43 = .ok (.iload_n 2, 1) := dk_28 (dk_at dksX3_ring_1 20 rfl rfl)
theorem dX3_ring_44 : decode cX3_ring 44 = .ok (.aload_n 0, 1) := dk_42 (dk_at dksX3_ring_1 21 rfl rfl)
theorem dX3_ring_45 : decode cX3_ring 45 = .ok (.getfield 285, 3) := dk_180 1 29 (dk_at dksX3_ring_2 0 rfl rfl)
theorem dX3_ring_48 : decode cX3_ring 48 = .ok (.iload_n 1, 1) := dk_27 (dk_at dksX3_ring_2 3 rfl rfl)
theorem dX3_ring_49 : decode cX3_ring 49 = .ok (.invokestatic 281, 3) := dk_184 1 25 (dk_at dksX3_ring_2 4 rfl rfl)
theorem dX3_ring_52 : decode cX3_ring 52 = .ok (.goto 4, 3) := dk_167 0 4 (dk_at dksX3_ring_2 7 rfl rfl)
theorem dX3_ring_55 : decode cX3_ring 55 = .ok (.iconst (-1), 1) := dk_2 (dk_at dksX3_ring_2 10 rfl rfl)
theorem dX3_ring_56 : decode cX3_ring 56 = .ok (.ireturn, 1) := dk_172 (dk_at dksX3_ring_2 11 rfl rfl)
abbrev cX3_findRing : ByteArray := prog_9_method_58_code
def yX3_findRing : MethodName := ⟨RX3, "findRing", "()I"⟩
def dkwX3_findRing_2 : List UInt8 := [167, 255, 223, 132, 1, 1, 167, 255, 205, 2, 172]
abbrev dktX3_findRing_2 : List UInt8 := dkwX3_findRing_2 ++ []
def dkwX3_findRing_1 : List UInt8 := [28, 27, 182, 1, 32, 153, 0, 15, 42, 28, 27, 2, 182, 1, 35, 153, 0, 5, 28, 172, 132, 2, 1]
abbrev dktX3_findRing_1 : List UInt8 := dkwX3_findRing_1 ++ dktX3_findRing_2
def dkwX3_findRing_0 : List UInt8 := [5, 60, 27, 8, 162, 0, 52, 42, 27, 181, 1, 29, 3, 61, 28, 4, 6, 27, 104, 120, 162, 0, 30, 42]
abbrev dktX3_findRing_0 : List UInt8 := dkwX3_findRing_0 ++ dktX3_findRing_1
theorem dksX3_findRing_0 : cX3_findRing.data.toList.drop 0 = dktX3_findRing_0 := by decide +kernel
theorem dksX3_findRing_1 : cX3_findRing.data.toList.drop 24 = dktX3_findRing_1 := dk_seg dksX3_findRing_0 24 rfl rfl
theorem dksX3_findRing_2 : cX3_findRing.data.toList.drop 47 = dktX3_findRing_2 := dk_seg dksX3_findRing_1 23 rfl rfl
theorem dX3_findRing_0 : decode cX3_findRing 0 = .ok (.iconst 2, 1) := dk_5 (dk_at dksX3_findRing_0 0 rfl rfl)
theorem dX3_findRing_1 : decode cX3_findRing 1 = .ok (.istore_n 1, 1) := dk_60 (dk_at dksX3_findRing_0 1 rfl rfl)
theorem dX3_findRing_2 : decode cX3_findRing 2 = .ok (.iload_n 1, 1) := dk_27 (dk_at dksX3_findRing_0 2 rfl rfl)
theorem dX3_findRing_3 : decode cX3_findRing 3 = .ok (.iconst 5, 1) := dk_8 (dk_at dksX3_findRing_0 3 rfl rfl)
theorem dX3_findRing_4 : decode cX3_findRing 4 = .ok (.if_icmp .ge 52, 3) := dk_162 0 52 (dk_at dksX3_findRing_0 4 rfl rfl)
theorem dX3_findRing_7 : decode cX3_findRing 7 = .ok (.aload_n 0, 1) := dk_42 (dk_at dksX3_findRing_0 7 rfl rfl)
theorem dX3_findRing_8 : decode cX3_findRing 8 = .ok (.iload_n 1, 1) := dk_27 (dk_at dksX3_findRing_0 8 rfl rfl)
theorem dX3_findRing_9 : decode cX3_findRing 9 = .ok (.putfield 285, 3) := dk_181 1 29 (dk_at dksX3_findRing_0 9 rfl rfl)
theorem dX3_findRing_12 : decode cX3_findRing 12 = .ok (.iconst 0, 1) := dk_3 (dk_at dksX3_findRing_0 12 rfl rfl)
theorem dX3_findRing_13 : decode cX3_findRing 13 = .ok (.istore_n 2, 1) := dk_61 (dk_at dksX3_findRing_0 13 rfl rfl)
theorem dX3_findRing_14 : decode cX3_findRing 14 = .ok (.iload_n 2, 1) := dk_28 (dk_at dksX3_findRing_0 14 rfl rfl)
theorem dX3_findRing_15 : decode cX3_findRing 15 = .ok (.iconst 1, 1) := dk_4 (dk_at dksX3_findRing_0 15 rfl rfl)
theorem dX3_findRing_16 : decode cX3_findRing 16 = .ok (.iconst 3, 1) := dk_6 (dk_at dksX3_findRing_0 16 rfl rfl)
theorem dX3_findRing_17 : decode cX3_findRing 17 = .ok (.iload_n 1, 1) := dk_27 (dk_at dksX3_findRing_0 17 rfl rfl)
theorem dX3_findRing_18 : decode cX3_findRing 18 = .ok (.imul, 1) := dk_104 (dk_at dksX3_findRing_0 18 rfl rfl)
theorem dX3_findRing_19 : decode cX3_findRing 19 = .ok (.ishl, 1) := dk_120 (dk_at dksX3_findRing_0 19 rfl rfl)
theorem dX3_findRing_20 : decode cX3_findRing 20 = .ok (.if_icmp .ge 30, 3) := dk_162 0 30 (dk_at dksX3_findRing_0 20 rfl rfl)
theorem dX3_findRing_23 : decode cX3_findRing 23 = .ok (.aload_n 0, 1) := dk_42 (dk_at dksX3_findRing_0 23 rfl rfl)
theorem dX3_findRing_24 : decode cX3_findRing 24 = .ok (.iload_n 2, 1) := dk_28 (dk_at dksX3_findRing_1 0 rfl rfl)
theorem dX3_findRing_25 : decode cX3_findRing 25 = .ok (.iload_n 1, 1) := dk_27 (dk_at dksX3_findRing_1 1 rfl rfl)
theorem dX3_findRing_26 : decode cX3_findRing 26 = .ok (.invokevirtual 288, 3) := dk_182 1 32 (dk_at dksX3_findRing_1 2 rfl rfl)
theorem dX3_findRing_29 : decode cX3_findRing 29 = .ok (.ifCond .eq 15, 3) := dk_153 0 15 (dk_at dksX3_findRing_1 5 rfl rfl)
theorem dX3_findRing_32 : decode cX3_findRing 32 = .ok (.aload_n 0, 1) := dk_42 (dk_at dksX3_findRing_1 8 rfl rfl)
theorem dX3_findRing_33 : decode cX3_findRing 33 = .ok (.iload_n 2, 1) := dk_28 (dk_at dksX3_findRing_1 9 rfl rfl)
theorem dX3_findRing_34 : decode cX3_findRing 34 = .ok (.iload_n 1, 1) := dk_27 (dk_at dksX3_findRing_1 10 rfl rfl)
theorem dX3_findRing_35 : decode cX3_findRing 35 = .ok (.iconst (-1), 1) := dk_2 (dk_at dksX3_findRing_1 11 rfl rfl)
theorem dX3_findRing_36 : decode cX3_findRing 36 = .ok (.invokevirtual 291, 3) := dk_182 1 35 (dk_at dksX3_findRing_1 12 rfl rfl)
theorem dX3_findRing_39 : decode cX3_findRing 39 = .ok (.ifCond .eq 5, 3) := dk_153 0 5 (dk_at dksX3_findRing_1 15 rfl rfl)
theorem dX3_findRing_42 : decode cX3_findRing 42 = .ok (.iload_n 2, 1) := dk_28 (dk_at dksX3_findRing_1 18 rfl rfl)
theorem dX3_findRing_43 : decode cX3_findRing 43 = .ok (.ireturn, 1) := dk_172 (dk_at dksX3_findRing_1 19 rfl rfl)
theorem dX3_findRing_44 : decode cX3_findRing 44 = .ok (.iinc 2 1, 3) := dk_132 2 1 (dk_at dksX3_findRing_1 20 rfl rfl)
theorem dX3_findRing_47 : decode cX3_findRing 47 = .ok (.goto (-33), 3) := dk_167 255 223 (dk_at dksX3_findRing_2 0 rfl rfl)
theorem dX3_findRing_50 : decode cX3_findRing 50 = .ok (.iinc 1 1, 3) := dk_132 1 1 (dk_at dksX3_findRing_2 3 rfl rfl)
theorem dX3_findRing_53 : decode cX3_findRing 53 = .ok (.goto (-51), 3) := dk_167 255 205 (dk_at dksX3_findRing_2 6 rfl rfl)
theorem dX3_findRing_56 : decode cX3_findRing 56 = .ok (.iconst (-1), 1) := dk_2 (dk_at dksX3_findRing_2 9 rfl rfl)
theorem dX3_findRing_57 : decode cX3_findRing 57 = .ok (.ireturn, 1) := dk_172 (dk_at dksX3_findRing_2 10 rfl rfl)
abbrev cX3_isRow : ByteArray := prog_9_method_56_code
def yX3_isRow : MethodName := ⟨RX3, "isRow", "(II)Z"⟩
def dkwX3_isRow_4 : List UInt8 := [128, 62, 132, 4, 1, 167, 255, 162, 4, 172]
abbrev dktX3_isRow_4 : List UInt8 := dkwX3_isRow_4 ++ []
def dkwX3_isRow_3 : List UInt8 := [180, 0, 25, 21, 5, 46, 184, 0, 106, 153, 0, 5, 3, 172, 29, 4, 42, 180, 0, 25, 21, 5, 46, 120]
abbrev dktX3_isRow_3 : List UInt8 := dkwX3_isRow_3 ++ dktX3_isRow_4
def dkwX3_isRow_2 : List UInt8 := [162, 0, 34, 42, 180, 0, 28, 21, 5, 46, 42, 180, 0, 25, 21, 6, 46, 160, 0, 17, 29, 42]
abbrev dktX3_isRow_2 : List UInt8 := dkwX3_isRow_2 ++ dktX3_isRow_3
def dkwX3_isRow_1 : List UInt8 := [4, 96, 28, 112, 184, 1, 25, 54, 6, 21, 5, 42, 180, 0, 169, 162, 0, 43, 21, 6, 42, 180, 0, 169]
abbrev dktX3_isRow_1 : List UInt8 := dkwX3_isRow_1 ++ dktX3_isRow_2
def dkwX3_isRow_0 : List UInt8 := [3, 62, 3, 54, 4, 21, 4, 28, 162, 0, 94, 27, 28, 21, 4, 184, 1, 25, 54, 5, 27, 28, 21, 4]
abbrev dktX3_isRow_0 : List UInt8 := dkwX3_isRow_0 ++ dktX3_isRow_1
theorem dksX3_isRow_0 : cX3_isRow.data.toList.drop 0 = dktX3_isRow_0 := by decide +kernel
theorem dksX3_isRow_1 : cX3_isRow.data.toList.drop 24 = dktX3_isRow_1 := dk_seg dksX3_isRow_0 24 rfl rfl
theorem dksX3_isRow_2 : cX3_isRow.data.toList.drop 48 = dktX3_isRow_2 := dk_seg dksX3_isRow_1 24 rfl rfl
theorem dksX3_isRow_3 : cX3_isRow.data.toList.drop 70 = dktX3_isRow_3 := dk_seg dksX3_isRow_2 22 rfl rfl
theorem dksX3_isRow_4 : cX3_isRow.data.toList.drop 94 = dktX3_isRow_4 := dk_seg dksX3_isRow_3 24 rfl rfl
theorem dX3_isRow_0 : decode cX3_isRow 0 = .ok (.iconst 0, 1) := dk_3 (dk_at dksX3_isRow_0 0 rfl rfl)
theorem dX3_isRow_1 : decode cX3_isRow 1 = .ok (.istore_n 3, 1) := dk_62 (dk_at dksX3_isRow_0 1 rfl rfl)
theorem dX3_isRow_2 : decode cX3_isRow 2 = .ok (.iconst 0, 1) := dk_3 (dk_at dksX3_isRow_0 2 rfl rfl)
theorem dX3_isRow_3 : decode cX3_isRow 3 = .ok (.istore 4, 2) := dk_54 4 (dk_at dksX3_isRow_0 3 rfl rfl)
theorem dX3_isRow_5 : decode cX3_isRow 5 = .ok (.iload 4, 2) := dk_21 4 (dk_at dksX3_isRow_0 5 rfl rfl)
theorem dX3_isRow_7 : decode cX3_isRow 7 = .ok (.iload_n 2, 1) := dk_28 (dk_at dksX3_isRow_0 7 rfl rfl)
theorem dX3_isRow_8 : decode cX3_isRow 8 = .ok (.if_icmp .ge 94, 3) := dk_162 0 94 (dk_at dksX3_isRow_0 8 rfl rfl)
theorem dX3_isRow_11 : decode cX3_isRow 11 = .ok (.iload_n 1, 1) := dk_27 (dk_at dksX3_isRow_0 11 rfl rfl)
theorem dX3_isRow_12 : decode cX3_isRow 12 = .ok (.iload_n 2, 1) := dk_28 (dk_at dksX3_isRow_0 12 rfl rfl)
theorem dX3_isRow_13 : decode cX3_isRow 13 = .ok (.iload 4, 2) := dk_21 4 (dk_at dksX3_isRow_0 13 rfl rfl)
theorem dX3_isRow_15 : decode cX3_isRow 15 = .ok (.invokestatic 281, 3) := dk_184 1 25 (dk_at dksX3_isRow_0 15 rfl rfl)
theorem dX3_isRow_18 : decode cX3_isRow 18 = .ok (.istore 5, 2) := dk_54 5 (dk_at dksX3_isRow_0 18 rfl rfl)
theorem dX3_isRow_20 : decode cX3_isRow 20 = .ok (.iload_n 1, 1) := dk_27 (dk_at dksX3_isRow_0 20 rfl rfl)
theorem dX3_isRow_21 : decode cX3_isRow 21 = .ok (.iload_n 2, 1) := dk_28 (dk_at dksX3_isRow_0 21 rfl rfl)
theorem dX3_isRow_22 : decode cX3_isRow 22 = .ok (.iload 4, 2) := dk_21 4 (dk_at dksX3_isRow_0 22 rfl rfl)
theorem dX3_isRow_24 : decode cX3_isRow 24 = .ok (.iconst 1, 1) := dk_4 (dk_at dksX3_isRow_1 0 rfl rfl)
theorem dX3_isRow_25 : decode cX3_isRow 25 = .ok (.iadd, 1) := dk_96 (dk_at dksX3_isRow_1 1 rfl rfl)
theorem dX3_isRow_26 : decode cX3_isRow 26 = .ok (.iload_n 2, 1) := dk_28 (dk_at dksX3_isRow_1 2 rfl rfl)
theorem dX3_isRow_27 : decode cX3_isRow 27 = .ok (.irem, 1) := dk_112 (dk_at dksX3_isRow_1 3 rfl rfl)
theorem dX3_isRow_28 : decode cX3_isRow 28 = .ok (.invokestatic 281, 3) := dk_184 1 25 (dk_at dksX3_isRow_1 4 rfl rfl)
theorem dX3_isRow_31 : decode cX3_isRow 31 = .ok (.istore 6, 2) := dk_54 6 (dk_at dksX3_isRow_1 7 rfl rfl)
theorem dX3_isRow_33 : decode cX3_isRow 33 = .ok (.iload 5, 2) := dk_21 5 (dk_at dksX3_isRow_1 9 rfl rfl)
theorem dX3_isRow_35 : decode cX3_isRow 35 = .ok (.aload_n 0, 1) := dk_42 (dk_at dksX3_isRow_1 11 rfl rfl)
theorem dX3_isRow_36 : decode cX3_isRow 36 = .ok (.getfield 169, 3) := dk_180 0 169 (dk_at dksX3_isRow_1 12 rfl rfl)
theorem dX3_isRow_39 : decode cX3_isRow 39 = .ok (.if_icmp .ge 43, 3) := dk_162 0 43 (dk_at dksX3_isRow_1 15 rfl rfl)
theorem dX3_isRow_42 : decode cX3_isRow 42 = .ok (.iload 6, 2) := dk_21 6 (dk_at dksX3_isRow_1 18 rfl rfl)
theorem dX3_isRow_44 : decode cX3_isRow 44 = .ok (.aload_n 0, 1) := dk_42 (dk_at dksX3_isRow_1 20 rfl rfl)
theorem dX3_isRow_45 : decode cX3_isRow 45 = .ok (.getfield 169, 3) := dk_180 0 169 (dk_at dksX3_isRow_1 21 rfl rfl)
theorem dX3_isRow_48 : decode cX3_isRow 48 = .ok (.if_icmp .ge 34, 3) := dk_162 0 34 (dk_at dksX3_isRow_2 0 rfl rfl)
theorem dX3_isRow_51 : decode cX3_isRow 51 = .ok (.aload_n 0, 1) := dk_42 (dk_at dksX3_isRow_2 3 rfl rfl)
theorem dX3_isRow_52 : decode cX3_isRow 52 = .ok (.getfield 28, 3) := dk_180 0 28 (dk_at dksX3_isRow_2 4 rfl rfl)
theorem dX3_isRow_55 : decode cX3_isRow 55 = .ok (.iload 5, 2) := dk_21 5 (dk_at dksX3_isRow_2 7 rfl rfl)
theorem dX3_isRow_57 : decode cX3_isRow 57 = .ok (.iaload, 1) := dk_46 (dk_at dksX3_isRow_2 9 rfl rfl)
theorem dX3_isRow_58 : decode cX3_isRow 58 = .ok (.aload_n 0, 1) := dk_42 (dk_at dksX3_isRow_2 10 rfl rfl)
theorem dX3_isRow_59 : decode cX3_isRow 59 = .ok (.getfield 25, 3) := dk_180 0 25 (dk_at dksX3_isRow_2 11 rfl rfl)
theorem dX3_isRow_62 : decode cX3_isRow 62 = .ok (.iload 6, 2) := dk_21 6 (dk_at dksX3_isRow_2 14 rfl rfl)
theorem dX3_isRow_64 : decode cX3_isRow 64 = .ok (.iaload, 1) := dk_46 (dk_at dksX3_isRow_2 16 rfl rfl)
theorem dX3_isRow_65 : decode cX3_isRow 65 = .ok (.if_icmp .ne 17, 3) := dk_160 0 17 (dk_at dksX3_isRow_2 17 rfl rfl)
theorem dX3_isRow_68 : decode cX3_isRow 68 = .ok (.iload_n 3, 1) := dk_29 (dk_at dksX3_isRow_2 20 rfl rfl)
theorem dX3_isRow_69 : decode cX3_isRow 69 = .ok (.aload_n 0, 1) := dk_42 (dk_at dksX3_isRow_2 21 rfl rfl)
theorem dX3_isRow_70 : decode cX3_isRow 70 = .ok (.getfield 25, 3) := dk_180 0 25 (dk_at dksX3_isRow_3 0 rfl rfl)
theorem dX3_isRow_73 : decode cX3_isRow 73 = .ok (.iload 5, 2) := dk_21 5 (dk_at dksX3_isRow_3 3 rfl rfl)
theorem dX3_isRow_75 : decode cX3_isRow 75 = .ok (.iaload, 1) := dk_46 (dk_at dksX3_isRow_3 5 rfl rfl)
theorem dX3_isRow_76 : decode cX3_isRow 76 = .ok (.invokestatic 106, 3) := dk_184 0 106 (dk_at dksX3_isRow_3 6 rfl rfl)
theorem dX3_isRow_79 : decode cX3_isRow 79 = .ok (.ifCond .eq 5, 3) := dk_153 0 5 (dk_at dksX3_isRow_3 9 rfl rfl)
theorem dX3_isRow_82 : decode cX3_isRow 82 = .ok (.iconst 0, 1) := dk_3 (dk_at dksX3_isRow_3 12 rfl rfl)
theorem dX3_isRow_83 : decode cX3_isRow 83 = .ok (.ireturn, 1) := dk_172 (dk_at dksX3_isRow_3 13 rfl rfl)
theorem dX3_isRow_84 : decode cX3_isRow 84 = .ok (.iload_n 3, 1) := dk_29 (dk_at dksX3_isRow_3 14 rfl rfl)
theorem dX3_isRow_85 : decode cX3_isRow 85 = .ok (.iconst 1, 1) := dk_4 (dk_at dksX3_isRow_3 15 rfl rfl)
theorem dX3_isRow_86 : decode cX3_isRow 86 = .ok (.aload_n 0, 1) := dk_42 (dk_at dksX3_isRow_3 16 rfl rfl)
theorem dX3_isRow_87 : decode cX3_isRow 87 = .ok (.getfield 25, 3) := dk_180 0 25 (dk_at dksX3_isRow_3 17 rfl rfl)
theorem dX3_isRow_90 : decode cX3_isRow 90 = .ok (.iload 5, 2) := dk_21 5 (dk_at dksX3_isRow_3 20 rfl rfl)
theorem dX3_isRow_92 : decode cX3_isRow 92 = .ok (.iaload, 1) := dk_46 (dk_at dksX3_isRow_3 22 rfl rfl)
theorem dX3_isRow_93 : decode cX3_isRow 93 = .ok (.ishl, 1) := dk_120 (dk_at dksX3_isRow_3 23 rfl rfl)
theorem dX3_isRow_94 : decode cX3_isRow 94 = .ok (.ior, 1) := dk_128 (dk_at dksX3_isRow_4 0 rfl rfl)
theorem dX3_isRow_95 : decode cX3_isRow 95 = .ok (.istore_n 3, 1) := dk_62 (dk_at dksX3_isRow_4 1 rfl rfl)
theorem dX3_isRow_96 : decode cX3_isRow 96 = .ok (.iinc 4 1, 3) := dk_132 4 1 (dk_at dksX3_isRow_4 2 rfl rfl)
theorem dX3_isRow_99 : decode cX3_isRow 99 = .ok (.goto (-94), 3) := dk_167 255 162 (dk_at dksX3_isRow_4 5 rfl rfl)
theorem dX3_isRow_102 : decode cX3_isRow 102 = .ok (.iconst 1, 1) := dk_4 (dk_at dksX3_isRow_4 8 rfl rfl)
theorem dX3_isRow_103 : decode cX3_isRow 103 = .ok (.ireturn, 1) := dk_172 (dk_at dksX3_isRow_4 9 rfl rfl)
abbrev cX3_figure : ByteArray := prog_9_method_55_code
def yX3_figure : MethodName := ⟨RX3, "figure", "(III)I"⟩
def dkwX3_figure_0 : List UInt8 := [26, 6, 27, 4, 100, 28, 100, 104, 122, 16, 7, 126, 172]
abbrev dktX3_figure_0 : List UInt8 := dkwX3_figure_0 ++ []
theorem dksX3_figure_0 : cX3_figure.data.toList.drop 0 = dktX3_figure_0 := by decide +kernel
theorem dX3_figure_0 : decode cX3_figure 0 = .ok (.iload_n 0, 1) := dk_26 (dk_at dksX3_figure_0 0 rfl rfl)
theorem dX3_figure_1 : decode cX3_figure 1 = .ok (.iconst 3, 1) := dk_6 (dk_at dksX3_figure_0 1 rfl rfl)
theorem dX3_figure_2 : decode cX3_figure 2 = .ok (.iload_n 1, 1) := dk_27 (dk_at dksX3_figure_0 2 rfl rfl)
theorem dX3_figure_3 : decode cX3_figure 3 = .ok (.iconst 1, 1) := dk_4 (dk_at dksX3_figure_0 3 rfl rfl)
theorem dX3_figure_4 : decode cX3_figure 4 = .ok (.isub, 1) := dk_100 (dk_at dksX3_figure_0 4 rfl rfl)
theorem dX3_figure_5 : decode cX3_figure 5 = .ok (.iload_n 2, 1) := dk_28 (dk_at dksX3_figure_0 5 rfl rfl)
theorem dX3_figure_6 : decode cX3_figure 6 = .ok (.isub, 1) := dk_100 (dk_at dksX3_figure_0 6 rfl rfl)
theorem dX3_figure_7 : decode cX3_figure 7 = .ok (.imul, 1) := dk_104 (dk_at dksX3_figure_0 7 rfl rfl)
theorem dX3_figure_8 : decode cX3_figure 8 = .ok (.ishr, 1) := dk_122 (dk_at dksX3_figure_0 8 rfl rfl)
theorem dX3_figure_9 : decode cX3_figure 9 = .ok (.bipush 7, 2) := dk_16 7 (dk_at dksX3_figure_0 9 rfl rfl)
theorem dX3_figure_11 : decode cX3_figure 11 = .ok (.iand, 1) := dk_126 (dk_at dksX3_figure_0 11 rfl rfl)
theorem dX3_figure_12 : decode cX3_figure 12 = .ok (.ireturn, 1) := dk_172 (dk_at dksX3_figure_0 12 rfl rfl)
abbrev cX3_gains : ByteArray := prog_9_method_57_code
def yX3_gains : MethodName := ⟨RX3, "gains", "(III)Z"⟩
def dkwX3_gains_4 : List UInt8 := [4, 167, 0, 4, 3, 172]
abbrev dktX3_gains_4 : List UInt8 := dkwX3_gains_4 ++ []
def dkwX3_gains_3 : List UInt8 := [180, 0, 34, 21, 9, 46, 133, 105, 55, 6, 132, 8, 1, 167, 255, 182, 22, 6, 22, 4, 148, 158, 0, 7]
abbrev dktX3_gains_3 : List UInt8 := dkwX3_gains_3 ++ dktX3_gains_4
def dkwX3_gains_2 : List UInt8 := [180, 0, 34, 21, 9, 46, 4, 164, 0, 16, 42, 180, 0, 34, 21, 9, 46, 4, 100, 133, 167, 0, 11, 42]
abbrev dktX3_gains_2 : List UInt8 := dkwX3_gains_2 ++ dktX3_gains_3
def dkwX3_gains_1 : List UInt8 := [22, 4, 42, 180, 0, 31, 21, 9, 46, 133, 105, 55, 4, 22, 6, 21, 9, 29, 160, 0, 27, 42]
abbrev dktX3_gains_1 : List UInt8 := dkwX3_gains_1 ++ dktX3_gains_2
def dkwX3_gains_0 : List UInt8 := [10, 55, 4, 10, 55, 6, 3, 54, 8, 21, 8, 28, 162, 0, 74, 27, 28, 21, 8, 184, 1, 25, 54, 9]
abbrev dktX3_gains_0 : List UInt8 := dkwX3_gains_0 ++ dktX3_gains_1
theorem dksX3_gains_0 : cX3_gains.data.toList.drop 0 = dktX3_gains_0 := by decide +kernel
theorem dksX3_gains_1 : cX3_gains.data.toList.drop 24 = dktX3_gains_1 := dk_seg dksX3_gains_0 24 rfl rfl
theorem dksX3_gains_2 : cX3_gains.data.toList.drop 46 = dktX3_gains_2 := dk_seg dksX3_gains_1 22 rfl rfl
theorem dksX3_gains_3 : cX3_gains.data.toList.drop 70 = dktX3_gains_3 := dk_seg dksX3_gains_2 24 rfl rfl
theorem dksX3_gains_4 : cX3_gains.data.toList.drop 94 = dktX3_gains_4 := dk_seg dksX3_gains_3 24 rfl rfl
theorem dX3_gains_0 : decode cX3_gains 0 = .ok (.lconst 1, 1) := dk_10 (dk_at dksX3_gains_0 0 rfl rfl)
theorem dX3_gains_1 : decode cX3_gains 1 = .ok (.lstore 4, 2) := dk_55 4 (dk_at dksX3_gains_0 1 rfl rfl)
theorem dX3_gains_3 : decode cX3_gains 3 = .ok (.lconst 1, 1) := dk_10 (dk_at dksX3_gains_0 3 rfl rfl)
theorem dX3_gains_4 : decode cX3_gains 4 = .ok (.lstore 6, 2) := dk_55 6 (dk_at dksX3_gains_0 4 rfl rfl)
theorem dX3_gains_6 : decode cX3_gains 6 = .ok (.iconst 0, 1) := dk_3 (dk_at dksX3_gains_0 6 rfl rfl)
theorem dX3_gains_7 : decode cX3_gains 7 = .ok (.istore 8, 2) := dk_54 8 (dk_at dksX3_gains_0 7 rfl rfl)
theorem dX3_gains_9 : decode cX3_gains 9 = .ok (.iload 8, 2) := dk_21 8 (dk_at dksX3_gains_0 9 rfl rfl)
theorem dX3_gains_11 : decode cX3_gains 11 = .ok (.iload_n 2, 1) := dk_28 (dk_at dksX3_gains_0 11 rfl rfl)
theorem dX3_gains_12 : decode cX3_gains 12 = .ok (.if_icmp .ge 74, 3) := dk_162 0 74 (dk_at dksX3_gains_0 12 rfl rfl)
theorem dX3_gains_15 : decode cX3_gains 15 = .ok (.iload_n 1, 1) := dk_27 (dk_at dksX3_gains_0 15 rfl rfl)
theorem dX3_gains_16 : decode cX3_gains 16 = .ok (.iload_n 2, 1) := dk_28 (dk_at dksX3_gains_0 16 rfl rfl)
theorem dX3_gains_17 : decode cX3_gains 17 = .ok (.iload 8, 2) := dk_21 8 (dk_at dksX3_gains_0 17 rfl rfl)
theorem dX3_gains_19 : decode cX3_gains 19 = .ok (.invokestatic 281, 3) := dk_184 1 25 (dk_at dksX3_gains_0 19 rfl rfl)
theorem dX3_gains_22 : decode cX3_gains 22 = .ok (.istore 9, 2) := dk_54 9 (dk_at dksX3_gains_0 22 rfl rfl)
theorem dX3_gains_24 : decode cX3_gains 24 = .ok (.lload 4, 2) := dk_22 4 (dk_at dksX3_gains_1 0 rfl rfl)
theorem dX3_gains_26 : decode cX3_gains 26 = .ok (.aload_n 0, 1) := dk_42 (dk_at dksX3_gains_1 2 rfl rfl)
theorem dX3_gains_27 : decode cX3_gains 27 = .ok (.getfield 31, 3) := dk_180 0 31 (dk_at dksX3_gains_1 3 rfl rfl)
theorem dX3_gains_30 : decode cX3_gains 30 = .ok (.iload 9, 2) := dk_21 9 (dk_at dksX3_gains_1 6 rfl rfl)
theorem dX3_gains_32 : decode cX3_gains 32 = .ok (.iaload, 1) := dk_46 (dk_at dksX3_gains_1 8 rfl rfl)
theorem dX3_gains_33 : decode cX3_gains 33 = .ok (.i2l, 1) := dk_133 (dk_at dksX3_gains_1 9 rfl rfl)
theorem dX3_gains_34 : decode cX3_gains 34 = .ok (.lmul, 1) := dk_105 (dk_at dksX3_gains_1 10 rfl rfl)
theorem dX3_gains_35 : decode cX3_gains 35 = .ok (.lstore 4, 2) := dk_55 4 (dk_at dksX3_gains_1 11 rfl rfl)
theorem dX3_gains_37 : decode cX3_gains 37 = .ok (.lload 6, 2) := dk_22 6 (dk_at dksX3_gains_1 13 rfl rfl)
theorem dX3_gains_39 : decode cX3_gains 39 = .ok (.iload 9, 2) := dk_21 9 (dk_at dksX3_gains_1 15 rfl rfl)
theorem dX3_gains_41 : decode cX3_gains 41 = .ok (.iload_n 3, 1) := dk_29 (dk_at dksX3_gains_1 17 rfl rfl)
theorem dX3_gains_42 : decode cX3_gains 42 = .ok (.if_icmp .ne 27, 3) := dk_160 0 27 (dk_at dksX3_gains_1 18 rfl rfl)
theorem dX3_gains_45 : decode cX3_gains 45 = .ok (.aload_n 0, 1) := dk_42 (dk_at dksX3_gains_1 21 rfl rfl)
theorem dX3_gains_46 : decode cX3_gains 46 = .ok (.getfield 34, 3) := dk_180 0 34 (dk_at dksX3_gains_2 0 rfl rfl)
theorem dX3_gains_49 : decode cX3_gains 49 = .ok (.iload 9, 2) := dk_21 9 (dk_at dksX3_gains_2 3 rfl rfl)
theorem dX3_gains_51 : decode cX3_gains 51 = .ok (.iaload, 1) := dk_46 (dk_at dksX3_gains_2 5 rfl rfl)
theorem dX3_gains_52 : decode cX3_gains 52 = .ok (.iconst 1, 1) := dk_4 (dk_at dksX3_gains_2 6 rfl rfl)
theorem dX3_gains_53 : decode cX3_gains 53 = .ok (.if_icmp .le 16, 3) := dk_164 0 16 (dk_at dksX3_gains_2 7 rfl rfl)
theorem dX3_gains_56 : decode cX3_gains 56 = .ok (.aload_n 0, 1) := dk_42 (dk_at dksX3_gains_2 10 rfl rfl)
theorem dX3_gains_57 : decode cX3_gains 57 = .ok (.getfield 34, 3) := dk_180 0 34 (dk_at dksX3_gains_2 11 rfl rfl)
theorem dX3_gains_60 : decode cX3_gains 60 = .ok (.iload 9, 2) := dk_21 9 (dk_at dksX3_gains_2 14 rfl rfl)
theorem dX3_gains_62 : decode cX3_gains 62 = .ok (.iaload, 1) := dk_46 (dk_at dksX3_gains_2 16 rfl rfl)
theorem dX3_gains_63 : decode cX3_gains 63 = .ok (.iconst 1, 1) := dk_4 (dk_at dksX3_gains_2 17 rfl rfl)
theorem dX3_gains_64 : decode cX3_gains 64 = .ok (.isub, 1) := dk_100 (dk_at dksX3_gains_2 18 rfl rfl)
theorem dX3_gains_65 : decode cX3_gains 65 = .ok (.i2l, 1) := dk_133 (dk_at dksX3_gains_2 19 rfl rfl)
theorem dX3_gains_66 : decode cX3_gains 66 = .ok (.goto 11, 3) := dk_167 0 11 (dk_at dksX3_gains_2 20 rfl rfl)
theorem dX3_gains_69 : decode cX3_gains 69 = .ok (.aload_n 0, 1) := dk_42 (dk_at dksX3_gains_2 23 rfl rfl)
theorem dX3_gains_70 : decode cX3_gains 70 = .ok (.getfield 34, 3) := dk_180 0 34 (dk_at dksX3_gains_3 0 rfl rfl)
theorem dX3_gains_73 : decode cX3_gains 73 = .ok (.iload 9, 2) := dk_21 9 (dk_at dksX3_gains_3 3 rfl rfl)
theorem dX3_gains_75 : decode cX3_gains 75 = .ok (.iaload, 1) := dk_46 (dk_at dksX3_gains_3 5 rfl rfl)
theorem dX3_gains_76 : decode cX3_gains 76 = .ok (.i2l, 1) := dk_133 (dk_at dksX3_gains_3 6 rfl rfl)
theorem dX3_gains_77 : decode cX3_gains 77 = .ok (.lmul, 1) := dk_105 (dk_at dksX3_gains_3 7 rfl rfl)
theorem dX3_gains_78 : decode cX3_gains 78 = .ok (.lstore 6, 2) := dk_55 6 (dk_at dksX3_gains_3 8 rfl rfl)
theorem dX3_gains_80 : decode cX3_gains 80 = .ok (.iinc 8 1, 3) := dk_132 8 1 (dk_at dksX3_gains_3 10 rfl rfl)
theorem dX3_gains_83 : decode cX3_gains 83 = .ok (.goto (-74), 3) := dk_167 255 182 (dk_at dksX3_gains_3 13 rfl rfl)
theorem dX3_gains_86 : decode cX3_gains 86 = .ok (.lload 6, 2) := dk_22 6 (dk_at dksX3_gains_3 16 rfl rfl)
theorem dX3_gains_88 : decode cX3_gains 88 = .ok (.lload 4, 2) := dk_22 4 (dk_at dksX3_gains_3 18 rfl rfl)
theorem dX3_gains_90 : decode cX3_gains 90 = .ok (.lcmp, 1) := dk_148 (dk_at dksX3_gains_3 20 rfl rfl)
theorem dX3_gains_91 : decode cX3_gains 91 = .ok (.ifCond .le 7, 3) := dk_158 0 7 (dk_at dksX3_gains_3 21 rfl rfl)
theorem dX3_gains_94 : decode cX3_gains 94 = .ok (.iconst 1, 1) := dk_4 (dk_at dksX3_gains_4 0 rfl rfl)
theorem dX3_gains_95 : decode cX3_gains 95 = .ok (.goto 4, 3) := dk_167 0 4 (dk_at dksX3_gains_4 1 rfl rfl)
theorem dX3_gains_98 : decode cX3_gains 98 = .ok (.iconst 0, 1) := dk_3 (dk_at dksX3_gains_4 4 rfl rfl)
theorem dX3_gains_99 : decode cX3_gains 99 = .ok (.ireturn, 1) := dk_172 (dk_at dksX3_gains_4 5 rfl rfl)
abbrev cX3_mended : ByteArray := prog_9_method_60_code
def yX3_mended : MethodName := ⟨RX3, "mended", "()I"⟩
def dkwX3_mended_2 : List UInt8 := [155, 0, 9, 21, 4, 28, 162, 0, 8, 21, 4, 167, 0, 4, 28, 61, 132, 3, 1, 167, 255, 199, 28, 172]
abbrev dktX3_mended_2 : List UInt8 := dkwX3_mended_2 ++ []
def dkwX3_mended_1 : List UInt8 := [180, 1, 29, 29, 184, 1, 25, 54, 4, 42, 27, 42, 180, 1, 29, 21, 4, 182, 1, 35, 154, 0, 18, 28]
abbrev dktX3_mended_1 : List UInt8 := dkwX3_mended_1 ++ dktX3_mended_2
def dkwX3_mended_0 : List UInt8 := [42, 182, 1, 39, 60, 2, 61, 3, 62, 29, 42, 180, 1, 29, 162, 0, 55, 27, 155, 0, 51, 27, 42]
abbrev dktX3_mended_0 : List UInt8 := dkwX3_mended_0 ++ dktX3_mended_1
theorem dksX3_mended_0 : cX3_mended.data.toList.drop 0 = dktX3_mended_0 := by decide +kernel
theorem dksX3_mended_1 : cX3_mended.data.toList.drop 23 = dktX3_mended_1 := dk_seg dksX3_mended_0 23 rfl rfl
theorem dksX3_mended_2 : cX3_mended.data.toList.drop 47 = dktX3_mended_2 := dk_seg dksX3_mended_1 24 rfl rfl
theorem dX3_mended_0 : decode cX3_mended 0 = .ok (.aload_n 0, 1) := dk_42 (dk_at dksX3_mended_0 0 rfl rfl)
theorem dX3_mended_1 : decode cX3_mended 1 = .ok (.invokevirtual 295, 3) := dk_182 1 39 (dk_at dksX3_mended_0 1 rfl rfl)
theorem dX3_mended_4 : decode cX3_mended 4 = .ok (.istore_n 1, 1) := dk_60 (dk_at dksX3_mended_0 4 rfl rfl)
theorem dX3_mended_5 : decode cX3_mended 5 = .ok (.iconst (-1), 1) := dk_2 (dk_at dksX3_mended_0 5 rfl rfl)
theorem dX3_mended_6 : decode cX3_mended 6 = .ok (.istore_n 2, 1) := dk_61 (dk_at dksX3_mended_0 6 rfl rfl)
theorem dX3_mended_7 : decode cX3_mended 7 = .ok (.iconst 0, 1) := dk_3 (dk_at dksX3_mended_0 7 rfl rfl)
theorem dX3_mended_8 : decode cX3_mended 8 = .ok (.istore_n 3, 1) := dk_62 (dk_at dksX3_mended_0 8 rfl rfl)
theorem dX3_mended_9 : decode cX3_mended 9 = .ok (.iload_n 3, 1) := dk_29 (dk_at dksX3_mended_0 9 rfl rfl)
theorem dX3_mended_10 : decode cX3_mended 10 = .ok (.aload_n 0, 1) := dk_42 (dk_at dksX3_mended_0 10 rfl rfl)
theorem dX3_mended_11 : decode cX3_mended 11 = .ok (.getfield 285, 3) := dk_180 1 29 (dk_at dksX3_mended_0 11 rfl rfl)
theorem dX3_mended_14 : decode cX3_mended 14 = .ok (.if_icmp .ge 55, 3) := dk_162 0 55 (dk_at dksX3_mended_0 14 rfl rfl)
theorem dX3_mended_17 : decode cX3_mended 17 = .ok (.iload_n 1, 1) := dk_27 (dk_at dksX3_mended_0 17 rfl rfl)
theorem dX3_mended_18 : decode cX3_mended 18 = .ok (.ifCond .lt 51, 3) := dk_155 0 51 (dk_at dksX3_mended_0 18 rfl rfl)
theorem dX3_mended_21 : decode cX3_mended 21 = .ok (.iload_n 1, 1) := dk_27 (dk_at dksX3_mended_0 21 rfl rfl)
theorem dX3_mended_22 : decode cX3_mended 22 = .ok (.aload_n 0, 1) := dk_42 (dk_at dksX3_mended_0 22 rfl rfl)
theorem dX3_mended_23 : decode cX3_mended 23 = .ok (.getfield 285, 3) := dk_180 1 29 (dk_at dksX3_mended_1 0 rfl rfl)
theorem dX3_mended_26 : decode cX3_mended 26 = .ok (.iload_n 3, 1) := dk_29 (dk_at dksX3_mended_1 3 rfl rfl)
theorem dX3_mended_27 : decode cX3_mended 27 = .ok (.invokestatic 281, 3) := dk_184 1 25 (dk_at dksX3_mended_1 4 rfl rfl)
theorem dX3_mended_30 : decode cX3_mended 30 = .ok (.istore 4, 2) := dk_54 4 (dk_at dksX3_mended_1 7 rfl rfl)
theorem dX3_mended_32 : decode cX3_mended 32 = .ok (.aload_n 0, 1) := dk_42 (dk_at dksX3_mended_1 9 rfl rfl)
theorem dX3_mended_33 : decode cX3_mended 33 = .ok (.iload_n 1, 1) := dk_27 (dk_at dksX3_mended_1 10 rfl rfl)
theorem dX3_mended_34 : decode cX3_mended 34 = .ok (.aload_n 0, 1) := dk_42 (dk_at dksX3_mended_1 11 rfl rfl)
theorem dX3_mended_35 : decode cX3_mended 35 = .ok (.getfield 285, 3) := dk_180 1 29 (dk_at dksX3_mended_1 12 rfl rfl)
theorem dX3_mended_38 : decode cX3_mended 38 = .ok (.iload 4, 2) := dk_21 4 (dk_at dksX3_mended_1 15 rfl rfl)
theorem dX3_mended_40 : decode cX3_mended 40 = .ok (.invokevirtual 291, 3) := dk_182 1 35 (dk_at dksX3_mended_1 17 rfl rfl)
theorem dX3_mended_43 : decode cX3_mended 43 = .ok (.ifCond .ne 18, 3) := dk_154 0 18 (dk_at dksX3_mended_1 20 rfl rfl)
theorem dX3_mended_46 : decode cX3_mended 46 = .ok (.iload_n 2, 1) := dk_28 (dk_at dksX3_mended_1 23 rfl rfl)
theorem dX3_mended_47 : decode cX3_mended 47 = .ok (.ifCond .lt 9, 3) := dk_155 0 9 (dk_at dksX3_mended_2 0 rfl rfl)
theorem dX3_mended_50 : decode cX3_mended 50 = .ok (.iload 4, 2) := dk_21 4 (dk_at dksX3_mended_2 3 rfl rfl)
theorem dX3_mended_52 : decode cX3_mended 52 = .ok (.iload_n 2, 1) := dk_28 (dk_at dksX3_mended_2 5 rfl rfl)
theorem dX3_mended_53 : decode cX3_mended 53 = .ok (.if_icmp .ge 8, 3) := dk_162 0 8 (dk_at dksX3_mended_2 6 rfl rfl)
theorem dX3_mended_56 : decode cX3_mended 56 = .ok (.iload 4, 2) := dk_21 4 (dk_at dksX3_mended_2 9 rfl rfl)
theorem dX3_mended_58 : decode cX3_mended 58 = .ok (.goto 4, 3) := dk_167 0 4 (dk_at dksX3_mended_2 11 rfl rfl)
theorem dX3_mended_61 : decode cX3_mended 61 = .ok (.iload_n 2, 1) := dk_28 (dk_at dksX3_mended_2 14 rfl rfl)
theorem dX3_mended_62 : decode cX3_mended 62 = .ok (.istore_n 2, 1) := dk_61 (dk_at dksX3_mended_2 15 rfl rfl)
theorem dX3_mended_63 : decode cX3_mended 63 = .ok (.iinc 3 1, 3) := dk_132 3 1 (dk_at dksX3_mended_2 16 rfl rfl)
theorem dX3_mended_66 : decode cX3_mended 66 = .ok (.goto (-57), 3) := dk_167 255 199 (dk_at dksX3_mended_2 19 rfl rfl)
theorem dX3_mended_69 : decode cX3_mended 69 = .ok (.iload_n 2, 1) := dk_28 (dk_at dksX3_mended_2 22 rfl rfl)
theorem dX3_mended_70 : decode cX3_mended 70 = .ok (.ireturn, 1) := dk_172 (dk_at dksX3_mended_2 23 rfl rfl)
abbrev cX3_heirs : ByteArray := prog_9_method_63_code
def yX3_heirs : MethodName := ⟨RX3, "heirs", "(I)I"⟩
def dkwX3_heirs_5 : List UInt8 := [167, 255, 195, 27, 2, 160, 0, 7, 29, 167, 0, 8, 28, 27, 184, 1, 42, 172]
abbrev dktX3_heirs_5 : List UInt8 := dkwX3_heirs_5 ++ []
def dkwX3_heirs_4 : List UInt8 := [21, 4, 167, 0, 4, 28, 61, 21, 6, 153, 0, 8, 21, 5, 167, 0, 4, 29, 62, 132, 4, 1]
abbrev dktX3_heirs_4 : List UInt8 := dkwX3_heirs_4 ++ dktX3_heirs_5
def dkwX3_heirs_3 : List UInt8 := [21, 5, 155, 0, 13, 21, 5, 29, 162, 0, 7, 4, 167, 0, 4, 3, 54, 6, 21, 6, 153, 0, 8]
abbrev dktX3_heirs_3 : List UInt8 := dkwX3_heirs_3 ++ dktX3_heirs_4
def dkwX3_heirs_2 : List UInt8 := [19, 1, 51, 62, 3, 54, 4, 21, 4, 19, 1, 52, 162, 0, 59, 42, 21, 4, 182, 1, 53, 54, 5]
abbrev dktX3_heirs_2 : List UInt8 := dkwX3_heirs_2 ++ dktX3_heirs_3
def dkwX3_heirs_1 : List UInt8 := [184, 1, 48, 5, 161, 0, 16, 27, 2, 159, 0, 13, 42, 27, 182, 0, 190, 154, 0, 5, 2, 172, 2, 61]
abbrev dktX3_heirs_1 : List UInt8 := dkwX3_heirs_1 ++ dktX3_heirs_2
def dkwX3_heirs_0 : List UInt8 := [27, 2, 159, 0, 14, 42, 27, 182, 0, 200, 154, 0, 6, 18, 203, 172, 42, 180, 0, 37, 16, 18, 46]
abbrev dktX3_heirs_0 : List UInt8 := dkwX3_heirs_0 ++ dktX3_heirs_1
theorem dksX3_heirs_0 : cX3_heirs.data.toList.drop 0 = dktX3_heirs_0 := by decide +kernel
theorem dksX3_heirs_1 : cX3_heirs.data.toList.drop 23 = dktX3_heirs_1 := dk_seg dksX3_heirs_0 23 rfl rfl
theorem dksX3_heirs_2 : cX3_heirs.data.toList.drop 47 = dktX3_heirs_2 := dk_seg dksX3_heirs_1 24 rfl rfl
theorem dksX3_heirs_3 : cX3_heirs.data.toList.drop 70 = dktX3_heirs_3 := dk_seg dksX3_heirs_2 23 rfl rfl
theorem dksX3_heirs_4 : cX3_heirs.data.toList.drop 93 = dktX3_heirs_4 := dk_seg dksX3_heirs_3 23 rfl rfl
theorem dksX3_heirs_5 : cX3_heirs.data.toList.drop 115 = dktX3_heirs_5 := dk_seg dksX3_heirs_4 22 rfl rfl
theorem dX3_heirs_0 : decode cX3_heirs 0 = .ok (.iload_n 1, 1) := dk_27 (dk_at dksX3_heirs_0 0 rfl rfl)
theorem dX3_heirs_1 : decode cX3_heirs 1 = .ok (.iconst (-1), 1) := dk_2 (dk_at dksX3_heirs_0 1 rfl rfl)
theorem dX3_heirs_2 : decode cX3_heirs 2 = .ok (.if_icmp .eq 14, 3) := dk_159 0 14 (dk_at dksX3_heirs_0 2 rfl rfl)
theorem dX3_heirs_5 : decode cX3_heirs 5 = .ok (.aload_n 0, 1) := dk_42 (dk_at dksX3_heirs_0 5 rfl rfl)
theorem dX3_heirs_6 : decode cX3_heirs 6 = .ok (.iload_n 1, 1) := dk_27 (dk_at dksX3_heirs_0 6 rfl rfl)
theorem dX3_heirs_7 : decode cX3_heirs 7 = .ok (.invokevirtual 200, 3) := dk_182 0 200 (dk_at dksX3_heirs_0 7 rfl rfl)
theorem dX3_heirs_10 : decode cX3_heirs 10 = .ok (.ifCond .ne 6, 3) := dk_154 0 6 (dk_at dksX3_heirs_0 10 rfl rfl)
theorem dX3_heirs_13 : decode cX3_heirs 13 = .ok (.ldc 203, 2) := dk_18 203 (dk_at dksX3_heirs_0 13 rfl rfl)
theorem dX3_heirs_15 : decode cX3_heirs 15 = .ok (.ireturn, 1) := dk_172 (dk_at dksX3_heirs_0 15 rfl rfl)
theorem dX3_heirs_16 : decode cX3_heirs 16 = .ok (.aload_n 0, 1) := dk_42 (dk_at dksX3_heirs_0 16 rfl rfl)
theorem dX3_heirs_17 : decode cX3_heirs 17 = .ok (.getfield 37, 3) := dk_180 0 37 (dk_at dksX3_heirs_0 17 rfl rfl)
theorem dX3_heirs_20 : decode cX3_heirs 20 = .ok (.bipush 18, 2) := dk_16 18 (dk_at dksX3_heirs_0 20 rfl rfl)
theorem dX3_heirs_22 : decode cX3_heirs 22 = .ok (.iaload, 1) := dk_46 (dk_at dksX3_heirs_0 22 rfl rfl)
theorem dX3_heirs_23 : decode cX3_heirs 23 = .ok (.invokestatic 304, 3) := dk_184 1 48 (dk_at dksX3_heirs_1 0 rfl rfl)
theorem dX3_heirs_26 : decode cX3_heirs 26 = .ok (.iconst 2, 1) := dk_5 (dk_at dksX3_heirs_1 3 rfl rfl)
theorem dX3_heirs_27 : decode cX3_heirs 27 = .ok (.if_icmp .lt 16, 3) := dk_161 0 16 (dk_at dksX3_heirs_1 4 rfl rfl)
theorem dX3_heirs_30 : decode cX3_heirs 30 = .ok (.iload_n 1, 1) := dk_27 (dk_at dksX3_heirs_1 7 rfl rfl)
theorem dX3_heirs_31 : decode cX3_heirs 31 = .ok (.iconst (-1), 1) := dk_2 (dk_at dksX3_heirs_1 8 rfl rfl)
theorem dX3_heirs_32 : decode cX3_heirs 32 = .ok (.if_icmp .eq 13, 3) := dk_159 0 13 (dk_at dksX3_heirs_1 9 rfl rfl)
theorem dX3_heirs_35 : decode cX3_heirs 35 = .ok (.aload_n 0, 1) := dk_42 (dk_at dksX3_heirs_1 12 rfl rfl)
theorem dX3_heirs_36 : decode cX3_heirs 36 = .ok (.iload_n 1, 1) := dk_27 (dk_at dksX3_heirs_1 13 rfl rfl)
theorem dX3_heirs_37 : decode cX3_heirs 37 = .ok (.invokevirtual 190, 3) := dk_182 0 190 (dk_at dksX3_heirs_1 14 rfl rfl)
theorem dX3_heirs_40 : decode cX3_heirs 40 = .ok (.ifCond .ne 5, 3) := dk_154 0 5 (dk_at dksX3_heirs_1 17 rfl rfl)
theorem dX3_heirs_43 : decode cX3_heirs 43 = .ok (.iconst (-1), 1) := dk_2 (dk_at dksX3_heirs_1 20 rfl rfl)
theorem dX3_heirs_44 : decode cX3_heirs 44 = .ok (.ireturn, 1) := dk_172 (dk_at dksX3_heirs_1 21 rfl rfl)
theorem dX3_heirs_45 : decode cX3_heirs 45 = .ok (.iconst (-1), 1) := dk_2 (dk_at dksX3_heirs_1 22 rfl rfl)
theorem dX3_heirs_46 : decode cX3_heirs 46 = .ok (.istore_n 2, 1) := dk_61 (dk_at dksX3_heirs_1 23 rfl rfl)
theorem dX3_heirs_47 : decode cX3_heirs 47 = .ok (.ldc_w 307, 3) := dk_19 1 51 (dk_at dksX3_heirs_2 0 rfl rfl)
theorem dX3_heirs_50 : decode cX3_heirs 50 = .ok (.istore_n 3, 1) := dk_62 (dk_at dksX3_heirs_2 3 rfl rfl)
theorem dX3_heirs_51 : decode cX3_heirs 51 = .ok (.iconst 0, 1) := dk_3 (dk_at dksX3_heirs_2 4 rfl rfl)
theorem dX3_heirs_52 : decode cX3_heirs 52 = .ok (.istore 4, 2) := dk_54 4 (dk_at dksX3_heirs_2 5 rfl rfl)
theorem dX3_heirs_54 : decode cX3_heirs 54 = .ok (.iload 4, 2) := dk_21 4 (dk_at dksX3_heirs_2 7 rfl rfl)
theorem dX3_heirs_56 : decode cX3_heirs 56 = .ok (.ldc_w 308, 3) := dk_19 1 52 (dk_at dksX3_heirs_2 9 rfl rfl)
theorem dX3_heirs_59 : decode cX3_heirs 59 = .ok (.if_icmp .ge 59, 3) := dk_162 0 59 (dk_at dksX3_heirs_2 12 rfl rfl)
theorem dX3_heirs_62 : decode cX3_heirs 62 = .ok (.aload_n 0, 1) := dk_42 (dk_at dksX3_heirs_2 15 rfl rfl)
theorem dX3_heirs_63 : decode cX3_heirs 63 = .ok (.iload 4, 2) := dk_21 4 (dk_at dksX3_heirs_2 16 rfl rfl)
theorem dX3_heirs_65 : decode cX3_heirs 65 = .ok (.invokevirtual 309, 3) := dk_182 1 53 (dk_at dksX3_heirs_2 18 rfl rfl)
theorem dX3_heirs_68 : decode cX3_heirs 68 = .ok (.istore 5, 2) := dk_54 5 (dk_at dksX3_heirs_2 21 rfl rfl)
theorem dX3_heirs_70 : decode cX3_heirs 70 = .ok (.iload 5, 2) := dk_21 5 (dk_at dksX3_heirs_3 0 rfl rfl)
theorem dX3_heirs_72 : decode cX3_heirs 72 = .ok (.ifCond .lt 13, 3) := dk_155 0 13 (dk_at dksX3_heirs_3 2 rfl rfl)
theorem dX3_heirs_75 : decode cX3_heirs 75 = .ok (.iload 5, 2) := dk_21 5 (dk_at dksX3_heirs_3 5 rfl rfl)
theorem dX3_heirs_77 : decode cX3_heirs 77 = .ok (.iload_n 3, 1) := dk_29 (dk_at dksX3_heirs_3 7 rfl rfl)
theorem dX3_heirs_78 : decode cX3_heirs 78 = .ok (.if_icmp .ge 7, 3) := dk_162 0 7 (dk_at dksX3_heirs_3 8 rfl rfl)
theorem dX3_heirs_81 : decode cX3_heirs 81 = .ok (.iconst 1, 1) := dk_4 (dk_at dksX3_heirs_3 11 rfl rfl)
theorem dX3_heirs_82 : decode cX3_heirs 82 = .ok (.goto 4, 3) := dk_167 0 4 (dk_at dksX3_heirs_3 12 rfl rfl)
theorem dX3_heirs_85 : decode cX3_heirs 85 = .ok (.iconst 0, 1) := dk_3 (dk_at dksX3_heirs_3 15 rfl rfl)
theorem dX3_heirs_86 : decode cX3_heirs 86 = .ok (.istore 6, 2) := dk_54 6 (dk_at dksX3_heirs_3 16 rfl rfl)
theorem dX3_heirs_88 : decode cX3_heirs 88 = .ok (.iload 6, 2) := dk_21 6 (dk_at dksX3_heirs_3 18 rfl rfl)
theorem dX3_heirs_90 : decode cX3_heirs 90 = .ok (.ifCond .eq 8, 3) := dk_153 0 8 (dk_at dksX3_heirs_3 20 rfl rfl)
theorem dX3_heirs_93 : decode cX3_heirs 93 = .ok (.iload 4, 2) := dk_21 4 (dk_at dksX3_heirs_4 0 rfl rfl)
theorem dX3_heirs_95 : decode cX3_heirs 95 = .ok (.goto 4, 3) := dk_167 0 4 (dk_at dksX3_heirs_4 2 rfl rfl)
theorem dX3_heirs_98 : decode cX3_heirs 98 = .ok (.iload_n 2, 1) := dk_28 (dk_at dksX3_heirs_4 5 rfl rfl)
theorem dX3_heirs_99 : decode cX3_heirs 99 = .ok (.istore_n 2, 1) := dk_61 (dk_at dksX3_heirs_4 6 rfl rfl)
theorem dX3_heirs_100 : decode cX3_heirs 100 = .ok (.iload 6, 2) := dk_21 6 (dk_at dksX3_heirs_4 7 rfl rfl)
theorem dX3_heirs_102 : decode cX3_heirs 102 = .ok (.ifCond .eq 8, 3) := dk_153 0 8 (dk_at dksX3_heirs_4 9 rfl rfl)
theorem dX3_heirs_105 : decode cX3_heirs 105 = .ok (.iload 5, 2) := dk_21 5 (dk_at dksX3_heirs_4 12 rfl rfl)
theorem dX3_heirs_107 : decode cX3_heirs 107 = .ok (.goto 4, 3) := dk_167 0 4 (dk_at dksX3_heirs_4 14 rfl rfl)
theorem dX3_heirs_110 : decode cX3_heirs 110 = .ok (.iload_n 3, 1) := dk_29 (dk_at dksX3_heirs_4 17 rfl rfl)
theorem dX3_heirs_111 : decode cX3_heirs 111 = .ok (.istore_n 3, 1) := dk_62 (dk_at dksX3_heirs_4 18 rfl rfl)
theorem dX3_heirs_112 : decode cX3_heirs 112 = .ok (.iinc 4 1, 3) := dk_132 4 1 (dk_at dksX3_heirs_4 19 rfl rfl)
theorem dX3_heirs_115 : decode cX3_heirs 115 = .ok (.goto (-61), 3) := dk_167 255 195 (dk_at dksX3_heirs_5 0 rfl rfl)
theorem dX3_heirs_118 : decode cX3_heirs 118 = .ok (.iload_n 1, 1) := dk_27 (dk_at dksX3_heirs_5 3 rfl rfl)
theorem dX3_heirs_119 : decode cX3_heirs 119 = .ok (.iconst (-1), 1) := dk_2 (dk_at dksX3_heirs_5 4 rfl rfl)
theorem dX3_heirs_120 : decode cX3_heirs 120 = .ok (.if_icmp .ne 7, 3) := dk_160 0 7 (dk_at dksX3_heirs_5 5 rfl rfl)
theorem dX3_heirs_123 : decode cX3_heirs 123 = .ok (.iload_n 3, 1) := dk_29 (dk_at dksX3_heirs_5 8 rfl rfl)
theorem dX3_heirs_124 : decode cX3_heirs 124 = .ok (.goto 8, 3) := dk_167 0 8 (dk_at dksX3_heirs_5 9 rfl rfl)
theorem dX3_heirs_127 : decode cX3_heirs 127 = .ok (.iload_n 2, 1) := dk_28 (dk_at dksX3_heirs_5 12 rfl rfl)
theorem dX3_heirs_128 : decode cX3_heirs 128 = .ok (.iload_n 1, 1) := dk_27 (dk_at dksX3_heirs_5 13 rfl rfl)
theorem dX3_heirs_129 : decode cX3_heirs 129 = .ok (.invokestatic 298, 3) := dk_184 1 42 (dk_at dksX3_heirs_5 14 rfl rfl)
theorem dX3_heirs_132 : decode cX3_heirs 132 = .ok (.ireturn, 1) := dk_172 (dk_at dksX3_heirs_5 17 rfl rfl)
abbrev cX3_bits : ByteArray := prog_9_method_5_code
def yX3_bits : MethodName := ⟨RX3, "bits", "(I)I"⟩
def dkwX3_bits_1 : List UInt8 := [27, 172]
abbrev dktX3_bits_1 : List UInt8 := dkwX3_bits_1 ++ []
def dkwX3_bits_0 : List UInt8 := [3, 60, 3, 61, 28, 16, 6, 162, 0, 17, 27, 26, 28, 122, 4, 126, 96, 60, 132, 2, 1, 167, 255, 239]
abbrev dktX3_bits_0 : List UInt8 := dkwX3_bits_0 ++ dktX3_bits_1
theorem dksX3_bits_0 : cX3_bits.data.toList.drop 0 = dktX3_bits_0 := by decide +kernel
theorem dksX3_bits_1 : cX3_bits.data.toList.drop 24 = dktX3_bits_1 := dk_seg dksX3_bits_0 24 rfl rfl
theorem dX3_bits_0 : decode cX3_bits 0 = .ok (.iconst 0, 1) := dk_3 (dk_at dksX3_bits_0 0 rfl rfl)
theorem dX3_bits_1 : decode cX3_bits 1 = .ok (.istore_n 1, 1) := dk_60 (dk_at dksX3_bits_0 1 rfl rfl)
theorem dX3_bits_2 : decode cX3_bits 2 = .ok (.iconst 0, 1) := dk_3 (dk_at dksX3_bits_0 2 rfl rfl)
theorem dX3_bits_3 : decode cX3_bits 3 = .ok (.istore_n 2, 1) := dk_61 (dk_at dksX3_bits_0 3 rfl rfl)
theorem dX3_bits_4 : decode cX3_bits 4 = .ok (.iload_n 2, 1) := dk_28 (dk_at dksX3_bits_0 4 rfl rfl)
theorem dX3_bits_5 : decode cX3_bits 5 = .ok (.bipush 6, 2) := dk_16 6 (dk_at dksX3_bits_0 5 rfl rfl)
theorem dX3_bits_7 : decode cX3_bits 7 = .ok (.if_icmp .ge 17, 3) := dk_162 0 17 (dk_at dksX3_bits_0 7 rfl rfl)
theorem dX3_bits_10 : decode cX3_bits 10 = .ok (.iload_n 1, 1) := dk_27 (dk_at dksX3_bits_0 10 rfl rfl)
theorem dX3_bits_11 : decode cX3_bits 11 = .ok (.iload_n 0, 1) := dk_26 (dk_at dksX3_bits_0 11 rfl rfl)
theorem dX3_bits_12 : decode cX3_bits 12 = .ok (.iload_n 2, 1) := dk_28 (dk_at dksX3_bits_0 12 rfl rfl)
theorem dX3_bits_13 : decode cX3_bits 13 = .ok (.ishr, 1) := dk_122 (dk_at dksX3_bits_0 13 rfl rfl)
theorem dX3_bits_14 : decode cX3_bits 14 = .ok (.iconst 1, 1) := dk_4 (dk_at dksX3_bits_0 14 rfl rfl)
theorem dX3_bits_15 : decode cX3_bits 15 = .ok (.iand, 1) := dk_126 (dk_at dksX3_bits_0 15 rfl rfl)
theorem dX3_bits_16 : decode cX3_bits 16 = .ok (.iadd, 1) := dk_96 (dk_at dksX3_bits_0 16 rfl rfl)
theorem dX3_bits_17 : decode cX3_bits 17 = .ok (.istore_n 1, 1) := dk_60 (dk_at dksX3_bits_0 17 rfl rfl)
theorem dX3_bits_18 : decode cX3_bits 18 = .ok (.iinc 2 1, 3) := dk_132 2 1 (dk_at dksX3_bits_0 18 rfl rfl)
theorem dX3_bits_21 : decode cX3_bits 21 = .ok (.goto (-17), 3) := dk_167 255 239 (dk_at dksX3_bits_0 21 rfl rfl)
theorem dX3_bits_24 : decode cX3_bits 24 = .ok (.iload_n 1, 1) := dk_27 (dk_at dksX3_bits_1 0 rfl rfl)
theorem dX3_bits_25 : decode cX3_bits 25 = .ok (.ireturn, 1) := dk_172 (dk_at dksX3_bits_1 1 rfl rfl)
abbrev cX3_apartBy : ByteArray := prog_9_method_62_code
def yX3_apartBy : MethodName := ⟨RX3, "apartBy", "(I)I"⟩
def dkwX3_apartBy_4 : List UInt8 := [132, 4, 1, 167, 255, 168, 28, 172]
abbrev dktX3_apartBy_4 : List UInt8 := dkwX3_apartBy_4 ++ []
def dkwX3_apartBy_3 : List UInt8 := [128, 62, 28, 42, 180, 0, 37, 21, 4, 46, 42, 180, 0, 37, 21, 5, 46, 184, 1, 45, 96, 61]
abbrev dktX3_apartBy_3 : List UInt8 := dkwX3_apartBy_3 ++ dktX3_apartBy_4
def dkwX3_apartBy_2 : List UInt8 := [21, 5, 182, 0, 190, 153, 0, 12, 29, 21, 5, 184, 0, 106, 153, 0, 5, 2, 172, 29, 4, 21, 5, 120]
abbrev dktX3_apartBy_2 : List UInt8 := dkwX3_apartBy_2 ++ dktX3_apartBy_3
def dkwX3_apartBy_1 : List UInt8 := [21, 4, 182, 0, 190, 154, 0, 10, 21, 5, 158, 0, 59, 2, 172, 21, 5, 21, 4, 159, 0, 21, 42]
abbrev dktX3_apartBy_1 : List UInt8 := dkwX3_apartBy_1 ++ dktX3_apartBy_2
def dkwX3_apartBy_0 : List UInt8 := [3, 61, 3, 62, 3, 54, 4, 21, 4, 16, 6, 162, 0, 87, 27, 21, 4, 184, 1, 42, 54, 5, 42]
abbrev dktX3_apartBy_0 : List UInt8 := dkwX3_apartBy_0 ++ dktX3_apartBy_1
theorem dksX3_apartBy_0 : cX3_apartBy.data.toList.drop 0 = dktX3_apartBy_0 := by decide +kernel
theorem dksX3_apartBy_1 : cX3_apartBy.data.toList.drop 23 = dktX3_apartBy_1 := dk_seg dksX3_apartBy_0 23 rfl rfl
theorem dksX3_apartBy_2 : cX3_apartBy.data.toList.drop 46 = dktX3_apartBy_2 := dk_seg dksX3_apartBy_1 23 rfl rfl
theorem dksX3_apartBy_3 : cX3_apartBy.data.toList.drop 70 = dktX3_apartBy_3 := dk_seg dksX3_apartBy_2 24 rfl rfl
theorem dksX3_apartBy_4 : cX3_apartBy.data.toList.drop 92 = dktX3_apartBy_4 := dk_seg dksX3_apartBy_3 22 rfl rfl
theorem dX3_apartBy_0 : decode cX3_apartBy 0 = .ok (.iconst 0, 1) := dk_3 (dk_at dksX3_apartBy_0 0 rfl rfl)
theorem dX3_apartBy_1 : decode cX3_apartBy 1 = .ok (.istore_n 2, 1) := dk_61 (dk_at dksX3_apartBy_0 1 rfl rfl)
theorem dX3_apartBy_2 : decode cX3_apartBy 2 = .ok (.iconst 0, 1) := dk_3 (dk_at dksX3_apartBy_0 2 rfl rfl)
theorem dX3_apartBy_3 : decode cX3_apartBy 3 = .ok (.istore_n 3, 1) := dk_62 (dk_at dksX3_apartBy_0 3 rfl rfl)
theorem dX3_apartBy_4 : decode cX3_apartBy 4 = .ok (.iconst 0, 1) := dk_3 (dk_at dksX3_apartBy_0 4 rfl rfl)
theorem dX3_apartBy_5 : decode cX3_apartBy 5 = .ok (.istore 4, 2) := dk_54 4 (dk_at dksX3_apartBy_0 5 rfl rfl)
theorem dX3_apartBy_7 : decode cX3_apartBy 7 = .ok (.iload 4, 2) := dk_21 4 (dk_at dksX3_apartBy_0 7 rfl rfl)
theorem dX3_apartBy_9 : decode cX3_apartBy 9 = .ok (.bipush 6, 2) := dk_16 6 (dk_at dksX3_apartBy_0 9 rfl rfl)
theorem dX3_apartBy_11 : decode cX3_apartBy 11 = .ok (.if_icmp .ge 87, 3) := dk_162 0 87 (dk_at dksX3_apartBy_0 11 rfl rfl)
theorem dX3_apartBy_14 : decode cX3_apartBy 14 = .ok (.iload_n 1, 1) := dk_27 (dk_at dksX3_apartBy_0 14 rfl rfl)
theorem dX3_apartBy_15 : decode cX3_apartBy 15 = .ok (.iload 4, 2) := dk_21 4 (dk_at dksX3_apartBy_0 15 rfl rfl)
theorem dX3_apartBy_17 : decode cX3_apartBy 17 = .ok (.invokestatic 298, 3) := dk_184 1 42 (dk_at dksX3_apartBy_0 17 rfl rfl)
theorem dX3_apartBy_20 : decode cX3_apartBy 20 = .ok (.istore 5, 2) := dk_54 5 (dk_at dksX3_apartBy_0 20 rfl rfl)
theorem dX3_apartBy_22 : decode cX3_apartBy 22 = .ok (.aload_n 0, 1) := dk_42 (dk_at dksX3_apartBy_0 22 rfl rfl)
theorem dX3_apartBy_23 : decode cX3_apartBy 23 = .ok (.iload 4, 2) := dk_21 4 (dk_at dksX3_apartBy_1 0 rfl rfl)
theorem dX3_apartBy_25 : decode cX3_apartBy 25 = .ok (.invokevirtual 190, 3) := dk_182 0 190 (dk_at dksX3_apartBy_1 2 rfl rfl)
theorem dX3_apartBy_28 : decode cX3_apartBy 28 = .ok (.ifCond .ne 10, 3) := dk_154 0 10 (dk_at dksX3_apartBy_1 5 rfl rfl)
theorem dX3_apartBy_31 : decode cX3_apartBy 31 = .ok (.iload 5, 2) := dk_21 5 (dk_at dksX3_apartBy_1 8 rfl rfl)
theorem dX3_apartBy_33 : decode cX3_apartBy 33 = .ok (.ifCond .le 59, 3) := dk_158 0 59 (dk_at dksX3_apartBy_1 10 rfl rfl)
theorem dX3_apartBy_36 : decode cX3_apartBy 36 = .ok (.iconst (-1), 1) := dk_2 (dk_at dksX3_apartBy_1 13 rfl rfl)
theorem dX3_apartBy_37 : decode cX3_apartBy 37 = .ok (.ireturn, 1) := dk_172 (dk_at dksX3_apartBy_1 14 rfl rfl)
theorem dX3_apartBy_38 : decode cX3_apartBy 38 = .ok (.iload 5, 2) := dk_21 5 (dk_at dksX3_apartBy_1 15 rfl rfl)
theorem dX3_apartBy_40 : decode cX3_apartBy 40 = .ok (.iload 4, 2) := dk_21 4 (dk_at dksX3_apartBy_1 17 rfl rfl)
theorem dX3_apartBy_42 : decode cX3_apartBy 42 = .ok (.if_icmp .eq 21, 3) := dk_159 0 21 (dk_at dksX3_apartBy_1 19 rfl rfl)
theorem dX3_apartBy_45 : decode cX3_apartBy 45 = .ok (.aload_n 0, 1) := dk_42 (dk_at dksX3_apartBy_1 22 rfl rfl)
theorem dX3_apartBy_46 : decode cX3_apartBy 46 = .ok (.iload 5, 2) := dk_21 5 (dk_at dksX3_apartBy_2 0 rfl rfl)
theorem dX3_apartBy_48 : decode cX3_apartBy 48 = .ok (.invokevirtual 190, 3) := dk_182 0 190 (dk_at dksX3_apartBy_2 2 rfl rfl)
theorem dX3_apartBy_51 : decode cX3_apartBy 51 = .ok (.ifCond .eq 12, 3) := dk_153 0 12 (dk_at dksX3_apartBy_2 5 rfl rfl)
theorem dX3_apartBy_54 : decode cX3_apartBy 54 = .ok (.iload_n 3, 1) := dk_29 (dk_at dksX3_apartBy_2 8 rfl rfl)
theorem dX3_apartBy_55 : decode cX3_apartBy 55 = .ok (.iload 5, 2) := dk_21 5 (dk_at dksX3_apartBy_2 9 rfl rfl)
theorem dX3_apartBy_57 : decode cX3_apartBy 57 = .ok (.invokestatic 106, 3) := dk_184 0 106 (dk_at dksX3_apartBy_2 11 rfl rfl)
theorem dX3_apartBy_60 : decode cX3_apartBy 60 = .ok (.ifCond .eq 5, 3) := dk_153 0 5 (dk_at dksX3_apartBy_2 14 rfl rfl)
theorem dX3_apartBy_63 : decode cX3_apartBy 63 = .ok (.iconst (-1), 1) := dk_2 (dk_at dksX3_apartBy_2 17 rfl rfl)
theorem dX3_apartBy_64 : decode cX3_apartBy 64 = .ok (.ireturn, 1) := dk_172 (dk_at dksX3_apartBy_2 18 rfl rfl)
theorem dX3_apartBy_65 : decode cX3_apartBy 65 = .ok (.iload_n 3, 1) := dk_29 (dk_at dksX3_apartBy_2 19 rfl rfl)
theorem dX3_apartBy_66 : decode cX3_apartBy 66 = .ok (.iconst 1, 1) := dk_4 (dk_at dksX3_apartBy_2 20 rfl rfl)
theorem dX3_apartBy_67 : decode cX3_apartBy 67 = .ok (.iload 5, 2) := dk_21 5 (dk_at dksX3_apartBy_2 21 rfl rfl)
theorem dX3_apartBy_69 : decode cX3_apartBy 69 = .ok (.ishl, 1) := dk_120 (dk_at dksX3_apartBy_2 23 rfl rfl)
theorem dX3_apartBy_70 : decode cX3_apartBy 70 = .ok (.ior, 1) := dk_128 (dk_at dksX3_apartBy_3 0 rfl rfl)
theorem dX3_apartBy_71 : decode cX3_apartBy 71 = .ok (.istore_n 3, 1) := dk_62 (dk_at dksX3_apartBy_3 1 rfl rfl)
theorem dX3_apartBy_72 : decode cX3_apartBy 72 = .ok (.iload_n 2, 1) := dk_28 (dk_at dksX3_apartBy_3 2 rfl rfl)
theorem dX3_apartBy_73 : decode cX3_apartBy 73 = .ok (.aload_n 0, 1) := dk_42 (dk_at dksX3_apartBy_3 3 rfl rfl)
theorem dX3_apartBy_74 : decode cX3_apartBy 74 = .ok (.getfield 37, 3) := dk_180 0 37 (dk_at dksX3_apartBy_3 4 rfl rfl)
theorem dX3_apartBy_77 : decode cX3_apartBy 77 = .ok (.iload 4, 2) := dk_21 4 (dk_at dksX3_apartBy_3 7 rfl rfl)
theorem dX3_apartBy_79 : decode cX3_apartBy 79 = .ok (.iaload, 1) := dk_46 (dk_at dksX3_apartBy_3 9 rfl rfl)
theorem dX3_apartBy_80 : decode cX3_apartBy 80 = .ok (.aload_n 0, 1) := dk_42 (dk_at dksX3_apartBy_3 10 rfl rfl)
theorem dX3_apartBy_81 : decode cX3_apartBy 81 = .ok (.getfield 37, 3) := dk_180 0 37 (dk_at dksX3_apartBy_3 11 rfl rfl)
theorem dX3_apartBy_84 : decode cX3_apartBy 84 = .ok (.iload 5, 2) := dk_21 5 (dk_at dksX3_apartBy_3 14 rfl rfl)
theorem dX3_apartBy_86 : decode cX3_apartBy 86 = .ok (.iaload, 1) := dk_46 (dk_at dksX3_apartBy_3 16 rfl rfl)
theorem dX3_apartBy_87 : decode cX3_apartBy 87 = .ok (.invokestatic 301, 3) := dk_184 1 45 (dk_at dksX3_apartBy_3 17 rfl rfl)
theorem dX3_apartBy_90 : decode cX3_apartBy 90 = .ok (.iadd, 1) := dk_96 (dk_at dksX3_apartBy_3 20 rfl rfl)
theorem dX3_apartBy_91 : decode cX3_apartBy 91 = .ok (.istore_n 2, 1) := dk_61 (dk_at dksX3_apartBy_3 21 rfl rfl)
theorem dX3_apartBy_92 : decode cX3_apartBy 92 = .ok (.iinc 4 1, 3) := dk_132 4 1 (dk_at dksX3_apartBy_4 0 rfl rfl)
theorem dX3_apartBy_95 : decode cX3_apartBy 95 = .ok (.goto (-88), 3) := dk_167 255 168 (dk_at dksX3_apartBy_4 3 rfl rfl)
theorem dX3_apartBy_98 : decode cX3_apartBy 98 = .ok (.iload_n 2, 1) := dk_28 (dk_at dksX3_apartBy_4 6 rfl rfl)
theorem dX3_apartBy_99 : decode cX3_apartBy 99 = .ok (.ireturn, 1) := dk_172 (dk_at dksX3_apartBy_4 7 rfl rfl)
abbrev cX3_heirOf : ByteArray := prog_9_method_61_code
def yX3_heirOf : MethodName := ⟨RX3, "heirOf", "(II)I"⟩
def dkwX3_heirOf_1 : List UInt8 := [172]
abbrev dktX3_heirOf_1 : List UInt8 := dkwX3_heirOf_1 ++ []
def dkwX3_heirOf_0 : List UInt8 := [26, 61, 8, 62, 29, 27, 164, 0, 14, 28, 16, 6, 108, 61, 132, 3, 255, 167, 255, 243, 28, 16, 6, 112]
abbrev dktX3_heirOf_0 : List UInt8 := dkwX3_heirOf_0 ++ dktX3_heirOf_1
theorem dksX3_heirOf_0 : cX3_heirOf.data.toList.drop 0 = dktX3_heirOf_0 := by decide +kernel
theorem dksX3_heirOf_1 : cX3_heirOf.data.toList.drop 24 = dktX3_heirOf_1 := dk_seg dksX3_heirOf_0 24 rfl rfl
theorem dX3_heirOf_0 : decode cX3_heirOf 0 = .ok (.iload_n 0, 1) := dk_26 (dk_at dksX3_heirOf_0 0 rfl rfl)
theorem dX3_heirOf_1 : decode cX3_heirOf 1 = .ok (.istore_n 2, 1) := dk_61 (dk_at dksX3_heirOf_0 1 rfl rfl)
theorem dX3_heirOf_2 : decode cX3_heirOf 2 = .ok (.iconst 5, 1) := dk_8 (dk_at dksX3_heirOf_0 2 rfl rfl)
theorem dX3_heirOf_3 : decode cX3_heirOf 3 = .ok (.istore_n 3, 1) := dk_62 (dk_at dksX3_heirOf_0 3 rfl rfl)
theorem dX3_heirOf_4 : decode cX3_heirOf 4 = .ok (.iload_n 3, 1) := dk_29 (dk_at dksX3_heirOf_0 4 rfl rfl)
theorem dX3_heirOf_5 : decode cX3_heirOf 5 = .ok (.iload_n 1, 1) := dk_27 (dk_at dksX3_heirOf_0 5 rfl rfl)
theorem dX3_heirOf_6 : decode cX3_heirOf 6 = .ok (.if_icmp .le 14, 3) := dk_164 0 14 (dk_at dksX3_heirOf_0 6 rfl rfl)
theorem dX3_heirOf_9 : decode cX3_heirOf 9 = .ok (.iload_n 2, 1) := dk_28 (dk_at dksX3_heirOf_0 9 rfl rfl)
theorem dX3_heirOf_10 : decode cX3_heirOf 10 = .ok (.bipush 6, 2) := dk_16 6 (dk_at dksX3_heirOf_0 10 rfl rfl)
theorem dX3_heirOf_12 : decode cX3_heirOf 12 = .ok (.idiv, 1) := dk_108 (dk_at dksX3_heirOf_0 12 rfl rfl)
theorem dX3_heirOf_13 : decode cX3_heirOf 13 = .ok (.istore_n 2, 1) := dk_61 (dk_at dksX3_heirOf_0 13 rfl rfl)
theorem dX3_heirOf_14 : decode cX3_heirOf 14 = .ok (.iinc 3 (-1), 3) := dk_132 3 255 (dk_at dksX3_heirOf_0 14 rfl rfl)
theorem dX3_heirOf_17 : decode cX3_heirOf 17 = .ok (.goto (-13), 3) := dk_167 255 243 (dk_at dksX3_heirOf_0 17 rfl rfl)
theorem dX3_heirOf_20 : decode cX3_heirOf 20 = .ok (.iload_n 2, 1) := dk_28 (dk_at dksX3_heirOf_0 20 rfl rfl)
theorem dX3_heirOf_21 : decode cX3_heirOf 21 = .ok (.bipush 6, 2) := dk_16 6 (dk_at dksX3_heirOf_0 21 rfl rfl)
theorem dX3_heirOf_23 : decode cX3_heirOf 23 = .ok (.irem, 1) := dk_112 (dk_at dksX3_heirOf_0 23 rfl rfl)
theorem dX3_heirOf_24 : decode cX3_heirOf 24 = .ok (.ireturn, 1) := dk_172 (dk_at dksX3_heirOf_1 0 rfl rfl)
abbrev cX3_apart : ByteArray := prog_9_method_6_code
def yX3_apart : MethodName := ⟨RX3, "apart", "(II)I"⟩
def dkwX3_apart_0 : List UInt8 := [26, 27, 164, 0, 9, 26, 27, 100, 167, 0, 6, 27, 26, 100, 172]
abbrev dktX3_apart_0 : List UInt8 := dkwX3_apart_0 ++ []
theorem dksX3_apart_0 : cX3_apart.data.toList.drop 0 = dktX3_apart_0 := by decide +kernel
theorem dX3_apart_0 : decode cX3_apart 0 = .ok (.iload_n 0, 1) := dk_26 (dk_at dksX3_apart_0 0 rfl rfl)
theorem dX3_apart_1 : decode cX3_apart 1 = .ok (.iload_n 1, 1) := dk_27 (dk_at dksX3_apart_0 1 rfl rfl)
theorem dX3_apart_2 : decode cX3_apart 2 = .ok (.if_icmp .le 9, 3) := dk_164 0 9 (dk_at dksX3_apart_0 2 rfl rfl)
theorem dX3_apart_5 : decode cX3_apart 5 = .ok (.iload_n 0, 1) := dk_26 (dk_at dksX3_apart_0 5 rfl rfl)
theorem dX3_apart_6 : decode cX3_apart 6 = .ok (.iload_n 1, 1) := dk_27 (dk_at dksX3_apart_0 6 rfl rfl)
theorem dX3_apart_7 : decode cX3_apart 7 = .ok (.isub, 1) := dk_100 (dk_at dksX3_apart_0 7 rfl rfl)
theorem dX3_apart_8 : decode cX3_apart 8 = .ok (.goto 6, 3) := dk_167 0 6 (dk_at dksX3_apart_0 8 rfl rfl)
theorem dX3_apart_11 : decode cX3_apart 11 = .ok (.iload_n 1, 1) := dk_27 (dk_at dksX3_apart_0 11 rfl rfl)
theorem dX3_apart_12 : decode cX3_apart 12 = .ok (.iload_n 0, 1) := dk_26 (dk_at dksX3_apart_0 12 rfl rfl)
theorem dX3_apart_13 : decode cX3_apart 13 = .ok (.isub, 1) := dk_100 (dk_at dksX3_apart_0 13 rfl rfl)
theorem dX3_apart_14 : decode cX3_apart 14 = .ok (.ireturn, 1) := dk_172 (dk_at dksX3_apart_0 14 rfl rfl)
abbrev cX3_reach : ByteArray := prog_9_method_64_code
def yX3_reach : MethodName := ⟨RX3, "reach", "(II)I"⟩
def dkwX3_reach_4 : List UInt8 := [167, 0, 5, 21, 4, 172]
abbrev dktX3_reach_4 : List UInt8 := dkwX3_reach_4 ++ []
def dkwX3_reach_3 : List UInt8 := [164, 0, 8, 21, 6, 167, 0, 5, 21, 4, 54, 4, 132, 5, 1, 167, 255, 209, 28, 154, 0, 7, 29]
abbrev dktX3_reach_3 : List UInt8 := dkwX3_reach_3 ++ dktX3_reach_4
def dkwX3_reach_2 : List UInt8 := [182, 0, 197, 54, 6, 21, 6, 29, 162, 0, 8, 21, 6, 167, 0, 4, 29, 62, 21, 6, 21, 4]
abbrev dktX3_reach_2 : List UInt8 := dkwX3_reach_2 ++ dktX3_reach_3
def dkwX3_reach_1 : List UInt8 := [42, 27, 3, 182, 0, 197, 62, 29, 54, 4, 4, 54, 5, 21, 5, 7, 162, 0, 47, 42, 27, 21, 5]
abbrev dktX3_reach_1 : List UInt8 := dkwX3_reach_1 ++ dktX3_reach_2
def dkwX3_reach_0 : List UInt8 := [42, 27, 182, 0, 200, 154, 0, 6, 18, 203, 172, 28, 133, 9, 10, 184, 0, 102, 154, 0, 6, 18, 112, 172]
abbrev dktX3_reach_0 : List UInt8 := dkwX3_reach_0 ++ dktX3_reach_1
theorem dksX3_reach_0 : cX3_reach.data.toList.drop 0 = dktX3_reach_0 := by decide +kernel
theorem dksX3_reach_1 : cX3_reach.data.toList.drop 24 = dktX3_reach_1 := dk_seg dksX3_reach_0 24 rfl rfl
theorem dksX3_reach_2 : cX3_reach.data.toList.drop 47 = dktX3_reach_2 := dk_seg dksX3_reach_1 23 rfl rfl
theorem dksX3_reach_3 : cX3_reach.data.toList.drop 69 = dktX3_reach_3 := dk_seg dksX3_reach_2 22 rfl rfl
theorem dksX3_reach_4 : cX3_reach.data.toList.drop 92 = dktX3_reach_4 := dk_seg dksX3_reach_3 23 rfl rfl
theorem dX3_reach_0 : decode cX3_reach 0 = .ok (.aload_n 0, 1) := dk_42 (dk_at dksX3_reach_0 0 rfl rfl)
theorem dX3_reach_1 : decode cX3_reach 1 = .ok (.iload_n 1, 1) := dk_27 (dk_at dksX3_reach_0 1 rfl rfl)
theorem dX3_reach_2 : decode cX3_reach 2 = .ok (.invokevirtual 200, 3) := dk_182 0 200 (dk_at dksX3_reach_0 2 rfl rfl)
theorem dX3_reach_5 : decode cX3_reach 5 = .ok (.ifCond .ne 6, 3) := dk_154 0 6 (dk_at dksX3_reach_0 5 rfl rfl)
theorem dX3_reach_8 : decode cX3_reach 8 = .ok (.ldc 203, 2) := dk_18 203 (dk_at dksX3_reach_0 8 rfl rfl)
theorem dX3_reach_10 : decode cX3_reach 10 = .ok (.ireturn, 1) := dk_172 (dk_at dksX3_reach_0 10 rfl rfl)
theorem dX3_reach_11 : decode cX3_reach 11 = .ok (.iload_n 2, 1) := dk_28 (dk_at dksX3_reach_0 11 rfl rfl)
theorem dX3_reach_12 : decode cX3_reach 12 = .ok (.i2l, 1) := dk_133 (dk_at dksX3_reach_0 12 rfl rfl)
theorem dX3_reach_13 : decode cX3_reach 13 = .ok (.lconst 0, 1) := dk_9 (dk_at dksX3_reach_0 13 rfl rfl)
theorem dX3_reach_14 : decode cX3_reach 14 = .ok (.lconst 1, 1) := dk_10 (dk_at dksX3_reach_0 14 rfl rfl)
theorem dX3_reach_15 : decode cX3_reach 15 = .ok (.invokestatic 102, 3) := dk_184 0 102 (dk_at dksX3_reach_0 15 rfl rfl)
theorem dX3_reach_18 : decode cX3_reach 18 = .ok (.ifCond .ne 6, 3) := dk_154 0 6 (dk_at dksX3_reach_0 18 rfl rfl)
theorem dX3_reach_21 : decode cX3_reach 21 = .ok (.ldc 112, 2) := dk_18 112 (dk_at dksX3_reach_0 21 rfl rfl)
theorem dX3_reach_23 : decode cX3_reach 23 = .ok (.ireturn, 1) := dk_172 (dk_at dksX3_reach_0 23 rfl rfl)
theorem dX3_reach_24 : decode cX3_reach 24 = .ok (.aload_n 0, 1) := dk_42 (dk_at dksX3_reach_1 0 rfl rfl)
theorem dX3_reach_25 : decode cX3_reach 25 = .ok (.iload_n 1, 1) := dk_27 (dk_at dksX3_reach_1 1 rfl rfl)
theorem dX3_reach_26 : decode cX3_reach 26 = .ok (.iconst 0, 1) := dk_3 (dk_at dksX3_reach_1 2 rfl rfl)
theorem dX3_reach_27 : decode cX3_reach 27 = .ok (.invokevirtual 197, 3) := dk_182 0 197 (dk_at dksX3_reach_1 3 rfl rfl)
theorem dX3_reach_30 : decode cX3_reach 30 = .ok (.istore_n 3, 1) := dk_62 (dk_at dksX3_reach_1 6 rfl rfl)
theorem dX3_reach_31 : decode cX3_reach 31 = .ok (.iload_n 3, 1) := dk_29 (dk_at dksX3_reach_1 7 rfl rfl)
theorem dX3_reach_32 : decode cX3_reach 32 = .ok (.istore 4, 2) := dk_54 4 (dk_at dksX3_reach_1 8 rfl rfl)
theorem dX3_reach_34 : decode cX3_reach 34 = .ok (.iconst 1, 1) := dk_4 (dk_at dksX3_reach_1 10 rfl rfl)
theorem dX3_reach_35 : decode cX3_reach 35 = .ok (.istore 5, 2) := dk_54 5 (dk_at dksX3_reach_1 11 rfl rfl)
theorem dX3_reach_37 : decode cX3_reach 37 = .ok (.iload 5, 2) := dk_21 5 (dk_at dksX3_reach_1 13 rfl rfl)
theorem dX3_reach_39 : decode cX3_reach 39 = .ok (.iconst 4, 1) := dk_7 (dk_at dksX3_reach_1 15 rfl rfl)
theorem dX3_reach_40 : decode cX3_reach 40 = .ok (.if_icmp .ge 47, 3) := dk_162 0 47 (dk_at dksX3_reach_1 16 rfl rfl)
theorem dX3_reach_43 : decode cX3_reach 43 = .ok (.aload_n 0, 1) := dk_42 (dk_at dksX3_reach_1 19 rfl rfl)
theorem dX3_reach_44 : decode cX3_reach 44 = .ok (.iload_n 1, 1) := dk_27 (dk_at dksX3_reach_1 20 rfl rfl)
theorem dX3_reach_45 : decode cX3_reach 45 = .ok (.iload 5, 2) := dk_21 5 (dk_at dksX3_reach_1 21 rfl rfl)
theorem dX3_reach_47 : decode cX3_reach 47 = .ok (.invokevirtual 197, 3) := dk_182 0 197 (dk_at dksX3_reach_2 0 rfl rfl)
theorem dX3_reach_50 : decode cX3_reach 50 = .ok (.istore 6, 2) := dk_54 6 (dk_at dksX3_reach_2 3 rfl rfl)
theorem dX3_reach_52 : decode cX3_reach 52 = .ok (.iload 6, 2) := dk_21 6 (dk_at dksX3_reach_2 5 rfl rfl)
theorem dX3_reach_54 : decode cX3_reach 54 = .ok (.iload_n 3, 1) := dk_29 (dk_at dksX3_reach_2 7 rfl rfl)
theorem dX3_reach_55 : decode cX3_reach 55 = .ok (.if_icmp .ge 8, 3) := dk_162 0 8 (dk_at dksX3_reach_2 8 rfl rfl)
theorem dX3_reach_58 : decode cX3_reach 58 = .ok (.iload 6, 2) := dk_21 6 (dk_at dksX3_reach_2 11 rfl rfl)
theorem dX3_reach_60 : decode cX3_reach 60 = .ok (.goto 4, 3) := dk_167 0 4 (dk_at dksX3_reach_2 13 rfl rfl)
theorem dX3_reach_63 : decode cX3_reach 63 = .ok (.iload_n 3, 1) := dk_29 (dk_at dksX3_reach_2 16 rfl rfl)
theorem dX3_reach_64 : decode cX3_reach 64 = .ok (.istore_n 3, 1) := dk_62 (dk_at dksX3_reach_2 17 rfl rfl)
theorem dX3_reach_65 : decode cX3_reach 65 = .ok (.iload 6, 2) := dk_21 6 (dk_at dksX3_reach_2 18 rfl rfl)
theorem dX3_reach_67 : decode cX3_reach 67 = .ok (.iload 4, 2) := dk_21 4 (dk_at dksX3_reach_2 20 rfl rfl)
theorem dX3_reach_69 : decode cX3_reach 69 = .ok (.if_icmp .le 8, 3) := dk_164 0 8 (dk_at dksX3_reach_3 0 rfl rfl)
theorem dX3_reach_72 : decode cX3_reach 72 = .ok (.iload 6, 2) := dk_21 6 (dk_at dksX3_reach_3 3 rfl rfl)
theorem dX3_reach_74 : decode cX3_reach 74 = .ok (.goto 5, 3) := dk_167 0 5 (dk_at dksX3_reach_3 5 rfl rfl)
theorem dX3_reach_77 : decode cX3_reach 77 = .ok (.iload 4, 2) := dk_21 4 (dk_at dksX3_reach_3 8 rfl rfl)
theorem dX3_reach_79 : decode cX3_reach 79 = .ok (.istore 4, 2) := dk_54 4 (dk_at dksX3_reach_3 10 rfl rfl)
theorem dX3_reach_81 : decode cX3_reach 81 = .ok (.iinc 5 1, 3) := dk_132 5 1 (dk_at dksX3_reach_3 12 rfl rfl)
theorem dX3_reach_84 : decode cX3_reach 84 = .ok (.goto (-47), 3) := dk_167 255 209 (dk_at dksX3_reach_3 15 rfl rfl)
theorem dX3_reach_87 : decode cX3_reach 87 = .ok (.iload_n 2, 1) := dk_28 (dk_at dksX3_reach_3 18 rfl rfl)
theorem dX3_reach_88 : decode cX3_reach 88 = .ok (.ifCond .ne 7, 3) := dk_154 0 7 (dk_at dksX3_reach_3 19 rfl rfl)
theorem dX3_reach_91 : decode cX3_reach 91 = .ok (.iload_n 3, 1) := dk_29 (dk_at dksX3_reach_3 22 rfl rfl)
theorem dX3_reach_92 : decode cX3_reach 92 = .ok (.goto 5, 3) := dk_167 0 5 (dk_at dksX3_reach_4 0 rfl rfl)
theorem dX3_reach_95 : decode cX3_reach 95 = .ok (.iload 4, 2) := dk_21 4 (dk_at dksX3_reach_4 3 rfl rfl)
theorem dX3_reach_97 : decode cX3_reach 97 = .ok (.ireturn, 1) := dk_172 (dk_at dksX3_reach_4 5 rfl rfl)
abbrev cX3_bestCopy : ByteArray := prog_9_method_65_code
def yX3_bestCopy : MethodName := ⟨RX3, "bestCopy", "(II)I"⟩
def dkwX3_bestCopy_5 : List UInt8 := [167, 0, 5, 21, 4, 54, 4, 132, 5, 1, 167, 255, 160, 28, 154, 0, 7, 29, 167, 0, 5, 21, 4, 172]
abbrev dktX3_bestCopy_5 : List UInt8 := dkwX3_bestCopy_5 ++ []
def dkwX3_bestCopy_4 : List UInt8 := [162, 0, 8, 21, 5, 167, 0, 4, 29, 62, 21, 4, 155, 0, 10, 21, 6, 21, 4, 162, 0, 8, 21, 6]
abbrev dktX3_bestCopy_4 : List UInt8 := dkwX3_bestCopy_4 ++ dktX3_bestCopy_5
def dkwX3_bestCopy_3 : List UInt8 := [182, 0, 194, 184, 1, 45, 96, 54, 6, 132, 7, 1, 167, 255, 225, 29, 155, 0, 10, 21, 6, 21, 4]
abbrev dktX3_bestCopy_3 : List UInt8 := dkwX3_bestCopy_3 ++ dktX3_bestCopy_4
def dkwX3_bestCopy_2 : List UInt8 := [54, 6, 3, 54, 7, 21, 7, 7, 162, 0, 31, 21, 6, 42, 27, 21, 7, 182, 0, 194, 42, 27, 21, 5]
abbrev dktX3_bestCopy_2 : List UInt8 := dkwX3_bestCopy_2 ++ dktX3_bestCopy_3
def dkwX3_bestCopy_1 : List UInt8 := [2, 62, 2, 54, 4, 3, 54, 5, 21, 5, 7, 162, 0, 96, 42, 27, 182, 0, 190, 153, 0, 88, 3]
abbrev dktX3_bestCopy_1 : List UInt8 := dkwX3_bestCopy_1 ++ dktX3_bestCopy_2
def dkwX3_bestCopy_0 : List UInt8 := [42, 27, 182, 0, 200, 154, 0, 6, 18, 203, 172, 28, 133, 9, 10, 184, 0, 102, 154, 0, 6, 18, 112, 172]
abbrev dktX3_bestCopy_0 : List UInt8 := dkwX3_bestCopy_0 ++ dktX3_bestCopy_1
theorem dksX3_bestCopy_0 : cX3_bestCopy.data.toList.drop 0 = dktX3_bestCopy_0 := by decide +kernel
theorem dksX3_bestCopy_1 : cX3_bestCopy.data.toList.drop 24 = dktX3_bestCopy_1 := dk_seg dksX3_bestCopy_0 24 rfl rfl
theorem dksX3_bestCopy_2 : cX3_bestCopy.data.toList.drop 47 = dktX3_bestCopy_2 := dk_seg dksX3_bestCopy_1 23 rfl rfl
theorem dksX3_bestCopy_3 : cX3_bestCopy.data.toList.drop 71 = dktX3_bestCopy_3 := dk_seg dksX3_bestCopy_2 24 rfl rfl
theorem dksX3_bestCopy_4 : cX3_bestCopy.data.toList.drop 94 = dktX3_bestCopy_4 := dk_seg dksX3_bestCopy_3 23 rfl rfl
theorem dksX3_bestCopy_5 : cX3_bestCopy.data.toList.drop 118 = dktX3_bestCopy_5 := dk_seg dksX3_bestCopy_4 24 rfl rfl
theorem dX3_bestCopy_0 : decode cX3_bestCopy 0 = .ok (.aload_n 0, 1) := dk_42 (dk_at dksX3_bestCopy_0 0 rfl rfl)
theorem dX3_bestCopy_1 : decode cX3_bestCopy 1 = .ok (.iload_n 1, 1) := dk_27 (dk_at dksX3_bestCopy_0 1 rfl rfl)
theorem dX3_bestCopy_2 : decode cX3_bestCopy 2 = .ok (.invokevirtual 200, 3) := dk_182 0 200 (dk_at dksX3_bestCopy_0 2 rfl rfl)
theorem dX3_bestCopy_5 : decode cX3_bestCopy 5 = .ok (.ifCond .ne 6, 3) := dk_154 0 6 (dk_at dksX3_bestCopy_0 5 rfl rfl)
theorem dX3_bestCopy_8 : decode cX3_bestCopy 8 = .ok (.ldc 203, 2) := dk_18 203 (dk_at dksX3_bestCopy_0 8 rfl rfl)
theorem dX3_bestCopy_10 : decode cX3_bestCopy 10 = .ok (.ireturn, 1) := dk_172 (dk_at dksX3_bestCopy_0 10 rfl rfl)
theorem dX3_bestCopy_11 : decode cX3_bestCopy 11 = .ok (.iload_n 2, 1) := dk_28 (dk_at dksX3_bestCopy_0 11 rfl rfl)
theorem dX3_bestCopy_12 : decode cX3_bestCopy 12 = .ok (.i2l, 1) := dk_133 (dk_at dksX3_bestCopy_0 12 rfl rfl)
theorem dX3_bestCopy_13 : decode cX3_bestCopy 13 = .ok (.lconst 0, 1) := dk_9 (dk_at dksX3_bestCopy_0 13 rfl rfl)
theorem dX3_bestCopy_14 : decode cX3_bestCopy 14 = .ok (.lconst 1, 1) := dk_10 (dk_at dksX3_bestCopy_0 14 rfl rfl)
theorem dX3_bestCopy_15 : decode cX3_bestCopy 15 = .ok (.invokestatic 102, 3) := dk_184 0 102 (dk_at dksX3_bestCopy_0 15 rfl rfl)
theorem dX3_bestCopy_18 : decode cX3_bestCopy 18 = .ok (.ifCond .ne 6, 3) := dk_154 0 6 (dk_at dksX3_bestCopy_0 18 rfl rfl)
theorem dX3_bestCopy_21 : decode cX3_bestCopy 21 = .ok (.ldc 112, 2) := dk_18 112 (dk_at dksX3_bestCopy_0 21 rfl rfl)
theorem dX3_bestCopy_23 : decode cX3_bestCopy 23 = .ok (.ireturn, 1) := dk_172 (dk_at dksX3_bestCopy_0 23 rfl rfl)
theorem dX3_bestCopy_24 : decode cX3_bestCopy 24 = .ok (.iconst (-1), 1) := dk_2 (dk_at dksX3_bestCopy_1 0 rfl rfl)
theorem dX3_bestCopy_25 : decode cX3_bestCopy 25 = .ok (.istore_n 3, 1) := dk_62 (dk_at dksX3_bestCopy_1 1 rfl rfl)
theorem dX3_bestCopy_26 : decode cX3_bestCopy 26 = .ok (.iconst (-1), 1) := dk_2 (dk_at dksX3_bestCopy_1 2 rfl rfl)
theorem dX3_bestCopy_27 : decode cX3_bestCopy 27 = .ok (.istore 4, 2) := dk_54 4 (dk_at dksX3_bestCopy_1 3 rfl rfl)
theorem dX3_bestCopy_29 : decode cX3_bestCopy 29 = .ok (.iconst 0, 1) := dk_3 (dk_at dksX3_bestCopy_1 5 rfl rfl)
theorem dX3_bestCopy_30 : decode cX3_bestCopy 30 = .ok (.istore 5, 2) := dk_54 5 (dk_at dksX3_bestCopy_1 6 rfl rfl)
theorem dX3_bestCopy_32 : decode cX3_bestCopy 32 = .ok (.iload 5, 2) := dk_21 5 (dk_at dksX3_bestCopy_1 8 rfl rfl)
theorem dX3_bestCopy_34 : decode cX3_bestCopy 34 = .ok (.iconst 4, 1) := dk_7 (dk_at dksX3_bestCopy_1 10 rfl rfl)
theorem dX3_bestCopy_35 : decode cX3_bestCopy 35 = .ok (.if_icmp .ge 96, 3) := dk_162 0 96 (dk_at dksX3_bestCopy_1 11 rfl rfl)
theorem dX3_bestCopy_38 : decode cX3_bestCopy 38 = .ok (.aload_n 0, 1) := dk_42 (dk_at dksX3_bestCopy_1 14 rfl rfl)
theorem dX3_bestCopy_39 : decode cX3_bestCopy 39 = .ok (.iload_n 1, 1) := dk_27 (dk_at dksX3_bestCopy_1 15 rfl rfl)
theorem dX3_bestCopy_40 : decode cX3_bestCopy 40 = .ok (.invokevirtual 190, 3) := dk_182 0 190 (dk_at dksX3_bestCopy_1 16 rfl rfl)
theorem dX3_bestCopy_43 : decode cX3_bestCopy 43 = .ok (.ifCond .eq 88, 3) := dk_153 0 88 (dk_at dksX3_bestCopy_1 19 rfl rfl)
theorem dX3_bestCopy_46 : decode cX3_bestCopy 46 = .ok (.iconst 0, 1) := dk_3 (dk_at dksX3_bestCopy_1 22 rfl rfl)
theorem dX3_bestCopy_47 : decode cX3_bestCopy 47 = .ok (.istore 6, 2) := dk_54 6 (dk_at dksX3_bestCopy_2 0 rfl rfl)
theorem dX3_bestCopy_49 : decode cX3_bestCopy 49 = .ok (.iconst 0, 1) := dk_3 (dk_at dksX3_bestCopy_2 2 rfl rfl)
theorem dX3_bestCopy_50 : decode cX3_bestCopy 50 = .ok (.istore 7, 2) := dk_54 7 (dk_at dksX3_bestCopy_2 3 rfl rfl)
theorem dX3_bestCopy_52 : decode cX3_bestCopy 52 = .ok (.iload 7, 2) := dk_21 7 (dk_at dksX3_bestCopy_2 5 rfl rfl)
theorem dX3_bestCopy_54 : decode cX3_bestCopy 54 = .ok (.iconst 4, 1) := dk_7 (dk_at dksX3_bestCopy_2 7 rfl rfl)
theorem dX3_bestCopy_55 : decode cX3_bestCopy 55 = .ok (.if_icmp .ge 31, 3) := dk_162 0 31 (dk_at dksX3_bestCopy_2 8 rfl rfl)
theorem dX3_bestCopy_58 : decode cX3_bestCopy 58 = .ok (.iload 6, 2) := dk_21 6 (dk_at dksX3_bestCopy_2 11 rfl rfl)
theorem dX3_bestCopy_60 : decode cX3_bestCopy 60 = .ok (.aload_n 0, 1) := dk_42 (dk_at dksX3_bestCopy_2 13 rfl rfl)
theorem dX3_bestCopy_61 : decode cX3_bestCopy 61 = .ok (.iload_n 1, 1) := dk_27 (dk_at dksX3_bestCopy_2 14 rfl rfl)
theorem dX3_bestCopy_62 : decode cX3_bestCopy 62 = .ok (.iload 7, 2) := dk_21 7 (dk_at dksX3_bestCopy_2 15 rfl rfl)
theorem dX3_bestCopy_64 : decode cX3_bestCopy 64 = .ok (.invokevirtual 194, 3) := dk_182 0 194 (dk_at dksX3_bestCopy_2 17 rfl rfl)
theorem dX3_bestCopy_67 : decode cX3_bestCopy 67 = .ok (.aload_n 0, 1) := dk_42 (dk_at dksX3_bestCopy_2 20 rfl rfl)
theorem dX3_bestCopy_68 : decode cX3_bestCopy 68 = .ok (.iload_n 1, 1) := dk_27 (dk_at dksX3_bestCopy_2 21 rfl rfl)
theorem dX3_bestCopy_69 : decode cX3_bestCopy 69 = .ok (.iload 5, 2) := dk_21 5 (dk_at dksX3_bestCopy_2 22 rfl rfl)
theorem dX3_bestCopy_71 : decode cX3_bestCopy 71 = .ok (.invokevirtual 194, 3) := dk_182 0 194 (dk_at dksX3_bestCopy_3 0 rfl rfl)
theorem dX3_bestCopy_74 : decode cX3_bestCopy 74 = .ok (.invokestatic 301, 3) := dk_184 1 45 (dk_at dksX3_bestCopy_3 3 rfl rfl)
theorem dX3_bestCopy_77 : decode cX3_bestCopy 77 = .ok (.iadd, 1) := dk_96 (dk_at dksX3_bestCopy_3 6 rfl rfl)
theorem dX3_bestCopy_78 : decode cX3_bestCopy 78 = .ok (.istore 6, 2) := dk_54 6 (dk_at dksX3_bestCopy_3 7 rfl rfl)
theorem dX3_bestCopy_80 : decode cX3_bestCopy 80 = .ok (.iinc 7 1, 3) := dk_132 7 1 (dk_at dksX3_bestCopy_3 9 rfl rfl)
theorem dX3_bestCopy_83 : decode cX3_bestCopy 83 = .ok (.goto (-31), 3) := dk_167 255 225 (dk_at dksX3_bestCopy_3 12 rfl rfl)
theorem dX3_bestCopy_86 : decode cX3_bestCopy 86 = .ok (.iload_n 3, 1) := dk_29 (dk_at dksX3_bestCopy_3 15 rfl rfl)
theorem dX3_bestCopy_87 : decode cX3_bestCopy 87 = .ok (.ifCond .lt 10, 3) := dk_155 0 10 (dk_at dksX3_bestCopy_3 16 rfl rfl)
theorem dX3_bestCopy_90 : decode cX3_bestCopy 90 = .ok (.iload 6, 2) := dk_21 6 (dk_at dksX3_bestCopy_3 19 rfl rfl)
theorem dX3_bestCopy_92 : decode cX3_bestCopy 92 = .ok (.iload 4, 2) := dk_21 4 (dk_at dksX3_bestCopy_3 21 rfl rfl)
theorem dX3_bestCopy_94 : decode cX3_bestCopy 94 = .ok (.if_icmp .ge 8, 3) := dk_162 0 8 (dk_at dksX3_bestCopy_4 0 rfl rfl)
theorem dX3_bestCopy_97 : decode cX3_bestCopy 97 = .ok (.iload 5, 2) := dk_21 5 (dk_at dksX3_bestCopy_4 3 rfl rfl)
theorem dX3_bestCopy_99 : decode cX3_bestCopy 99 = .ok (.goto 4, 3) := dk_167 0 4 (dk_at dksX3_bestCopy_4 5 rfl rfl)
theorem dX3_bestCopy_102 : decode cX3_bestCopy 102 = .ok (.iload_n 3, 1) := dk_29 (dk_at dksX3_bestCopy_4 8 rfl rfl)
theorem dX3_bestCopy_103 : decode cX3_bestCopy 103 = .ok (.istore_n 3, 1) := dk_62 (dk_at dksX3_bestCopy_4 9 rfl rfl)
theorem dX3_bestCopy_104 : decode cX3_bestCopy 104 = .ok (.iload 4, 2) := dk_21 4 (dk_at dksX3_bestCopy_4 10 rfl rfl)
theorem dX3_bestCopy_106 : decode cX3_bestCopy 106 = .ok (.ifCond .lt 10, 3) := dk_155 0 10 (dk_at dksX3_bestCopy_4 12 rfl rfl)
theorem dX3_bestCopy_109 : decode cX3_bestCopy 109 = .ok (.iload 6, 2) := dk_21 6 (dk_at dksX3_bestCopy_4 15 rfl rfl)
theorem dX3_bestCopy_111 : decode cX3_bestCopy 111 = .ok (.iload 4, 2) := dk_21 4 (dk_at dksX3_bestCopy_4 17 rfl rfl)
theorem dX3_bestCopy_113 : decode cX3_bestCopy 113 = .ok (.if_icmp .ge 8, 3) := dk_162 0 8 (dk_at dksX3_bestCopy_4 19 rfl rfl)
theorem dX3_bestCopy_116 : decode cX3_bestCopy 116 = .ok (.iload 6, 2) := dk_21 6 (dk_at dksX3_bestCopy_4 22 rfl rfl)
theorem dX3_bestCopy_118 : decode cX3_bestCopy 118 = .ok (.goto 5, 3) := dk_167 0 5 (dk_at dksX3_bestCopy_5 0 rfl rfl)
theorem dX3_bestCopy_121 : decode cX3_bestCopy 121 = .ok (.iload 4, 2) := dk_21 4 (dk_at dksX3_bestCopy_5 3 rfl rfl)
theorem dX3_bestCopy_123 : decode cX3_bestCopy 123 = .ok (.istore 4, 2) := dk_54 4 (dk_at dksX3_bestCopy_5 5 rfl rfl)
theorem dX3_bestCopy_125 : decode cX3_bestCopy 125 = .ok (.iinc 5 1, 3) := dk_132 5 1 (dk_at dksX3_bestCopy_5 7 rfl rfl)
theorem dX3_bestCopy_128 : decode cX3_bestCopy 128 = .ok (.goto (-96), 3) := dk_167 255 160 (dk_at dksX3_bestCopy_5 10 rfl rfl)
theorem dX3_bestCopy_131 : decode cX3_bestCopy 131 = .ok (.iload_n 2, 1) := dk_28 (dk_at dksX3_bestCopy_5 13 rfl rfl)
theorem dX3_bestCopy_132 : decode cX3_bestCopy 132 = .ok (.ifCond .ne 7, 3) := dk_154 0 7 (dk_at dksX3_bestCopy_5 14 rfl rfl)
theorem dX3_bestCopy_135 : decode cX3_bestCopy 135 = .ok (.iload_n 3, 1) := dk_29 (dk_at dksX3_bestCopy_5 17 rfl rfl)
theorem dX3_bestCopy_136 : decode cX3_bestCopy 136 = .ok (.goto 5, 3) := dk_167 0 5 (dk_at dksX3_bestCopy_5 18 rfl rfl)
theorem dX3_bestCopy_139 : decode cX3_bestCopy 139 = .ok (.iload 4, 2) := dk_21 4 (dk_at dksX3_bestCopy_5 21 rfl rfl)
theorem dX3_bestCopy_141 : decode cX3_bestCopy 141 = .ok (.ireturn, 1) := dk_172 (dk_at dksX3_bestCopy_5 23 rfl rfl)
abbrev cX3_nearest : ByteArray := prog_9_method_66_code
def yX3_nearest : MethodName := ⟨RX3, "nearest", "(I)I"⟩
def dkwX3_nearest_2 : List UInt8 := [184, 1, 45, 162, 0, 7, 29, 167, 0, 4, 28, 61, 132, 3, 1, 167, 255, 214, 28, 172]
abbrev dktX3_nearest_2 : List UInt8 := dkwX3_nearest_2 ++ []
def dkwX3_nearest_1 : List UInt8 := [162, 0, 40, 28, 155, 0, 24, 42, 29, 182, 0, 204, 27, 184, 1, 45, 42, 28, 182, 0, 204, 27]
abbrev dktX3_nearest_1 : List UInt8 := dkwX3_nearest_1 ++ dktX3_nearest_2
def dkwX3_nearest_0 : List UInt8 := [27, 133, 9, 20, 1, 56, 184, 0, 102, 154, 0, 6, 18, 112, 172, 2, 61, 3, 62, 29, 42, 180, 0, 99]
abbrev dktX3_nearest_0 : List UInt8 := dkwX3_nearest_0 ++ dktX3_nearest_1
theorem dksX3_nearest_0 : cX3_nearest.data.toList.drop 0 = dktX3_nearest_0 := by decide +kernel
theorem dksX3_nearest_1 : cX3_nearest.data.toList.drop 24 = dktX3_nearest_1 := dk_seg dksX3_nearest_0 24 rfl rfl
theorem dksX3_nearest_2 : cX3_nearest.data.toList.drop 46 = dktX3_nearest_2 := dk_seg dksX3_nearest_1 22 rfl rfl
theorem dX3_nearest_0 : decode cX3_nearest 0 = .ok (.iload_n 1, 1) := dk_27 (dk_at dksX3_nearest_0 0 rfl rfl)
theorem dX3_nearest_1 : decode cX3_nearest 1 = .ok (.i2l, 1) := dk_133 (dk_at dksX3_nearest_0 1 rfl rfl)
theorem dX3_nearest_2 : decode cX3_nearest 2 = .ok (.lconst 0, 1) := dk_9 (dk_at dksX3_nearest_0 2 rfl rfl)
theorem dX3_nearest_3 : decode cX3_nearest 3 = .ok (.ldc2_w 312, 3) := dk_20 1 56 (dk_at dksX3_nearest_0 3 rfl rfl)
theorem dX3_nearest_6 : decode cX3_nearest 6 = .ok (.invokestatic 102, 3) := dk_184 0 102 (dk_at dksX3_nearest_0 6 rfl rfl)
theorem dX3_nearest_9 : decode cX3_nearest 9 = .ok (.ifCond .ne 6, 3) := dk_154 0 6 (dk_at dksX3_nearest_0 9 rfl rfl)
theorem dX3_nearest_12 : decode cX3_nearest 12 = .ok (.ldc 112, 2) := dk_18 112 (dk_at dksX3_nearest_0 12 rfl rfl)
theorem dX3_nearest_14 : decode cX3_nearest 14 = .ok (.ireturn, 1) := dk_172 (dk_at dksX3_nearest_0 14 rfl rfl)
theorem dX3_nearest_15 : decode cX3_nearest 15 = .ok (.iconst (-1), 1) := dk_2 (dk_at dksX3_nearest_0 15 rfl rfl)
theorem dX3_nearest_16 : decode cX3_nearest 16 = .ok (.istore_n 2, 1) := dk_61 (dk_at dksX3_nearest_0 16 rfl rfl)
theorem dX3_nearest_17 : decode cX3_nearest 17 = .ok (.iconst 0, 1) := dk_3 (dk_at dksX3_nearest_0 17 rfl rfl)
theorem dX3_nearest_18 : decode cX3_nearest 18 = .ok (.istore_n 3, 1) := dk_62 (dk_at dksX3_nearest_0 18 rfl rfl)
theorem dX3_nearest_19 : decode cX3_nearest 19 = .ok (.iload_n 3, 1) := dk_29 (dk_at dksX3_nearest_0 19 rfl rfl)
theorem dX3_nearest_20 : decode cX3_nearest 20 = .ok (.aload_n 0, 1) := dk_42 (dk_at dksX3_nearest_0 20 rfl rfl)
theorem dX3_nearest_21 : decode cX3_nearest 21 = .ok (.getfield 99, 3) := dk_180 0 99 (dk_at dksX3_nearest_0 21 rfl rfl)
theorem dX3_nearest_24 : decode cX3_nearest 24 = .ok (.if_icmp .ge 40, 3) := dk_162 0 40 (dk_at dksX3_nearest_1 0 rfl rfl)
theorem dX3_nearest_27 : decode cX3_nearest 27 = .ok (.iload_n 2, 1) := dk_28 (dk_at dksX3_nearest_1 3 rfl rfl)
theorem dX3_nearest_28 : decode cX3_nearest 28 = .ok (.ifCond .lt 24, 3) := dk_155 0 24 (dk_at dksX3_nearest_1 4 rfl rfl)
theorem dX3_nearest_31 : decode cX3_nearest 31 = .ok (.aload_n 0, 1) := dk_42 (dk_at dksX3_nearest_1 7 rfl rfl)
theorem dX3_nearest_32 : decode cX3_nearest 32 = .ok (.iload_n 3, 1) := dk_29 (dk_at dksX3_nearest_1 8 rfl rfl)
theorem dX3_nearest_33 : decode cX3_nearest 33 = .ok (.invokevirtual 204, 3) := dk_182 0 204 (dk_at dksX3_nearest_1 9 rfl rfl)
theorem dX3_nearest_36 : decode cX3_nearest 36 = .ok (.iload_n 1, 1) := dk_27 (dk_at dksX3_nearest_1 12 rfl rfl)
theorem dX3_nearest_37 : decode cX3_nearest 37 = .ok (.invokestatic 301, 3) := dk_184 1 45 (dk_at dksX3_nearest_1 13 rfl rfl)
theorem dX3_nearest_40 : decode cX3_nearest 40 = .ok (.aload_n 0, 1) := dk_42 (dk_at dksX3_nearest_1 16 rfl rfl)
theorem dX3_nearest_41 : decode cX3_nearest 41 = .ok (.iload_n 2, 1) := dk_28 (dk_at dksX3_nearest_1 17 rfl rfl)
theorem dX3_nearest_42 : decode cX3_nearest 42 = .ok (.invokevirtual 204, 3) := dk_182 0 204 (dk_at dksX3_nearest_1 18 rfl rfl)
theorem dX3_nearest_45 : decode cX3_nearest 45 = .ok (.iload_n 1, 1) := dk_27 (dk_at dksX3_nearest_1 21 rfl rfl)
theorem dX3_nearest_46 : decode cX3_nearest 46 = .ok (.invokestatic 301, 3) := dk_184 1 45 (dk_at dksX3_nearest_2 0 rfl rfl)
theorem dX3_nearest_49 : decode cX3_nearest 49 = .ok (.if_icmp .ge 7, 3) := dk_162 0 7 (dk_at dksX3_nearest_2 3 rfl rfl)
theorem dX3_nearest_52 : decode cX3_nearest 52 = .ok (.iload_n 3, 1) := dk_29 (dk_at dksX3_nearest_2 6 rfl rfl)
theorem dX3_nearest_53 : decode cX3_nearest 53 = .ok (.goto 4, 3) := dk_167 0 4 (dk_at dksX3_nearest_2 7 rfl rfl)
theorem dX3_nearest_56 : decode cX3_nearest 56 = .ok (.iload_n 2, 1) := dk_28 (dk_at dksX3_nearest_2 10 rfl rfl)
theorem dX3_nearest_57 : decode cX3_nearest 57 = .ok (.istore_n 2, 1) := dk_61 (dk_at dksX3_nearest_2 11 rfl rfl)
theorem dX3_nearest_58 : decode cX3_nearest 58 = .ok (.iinc 3 1, 3) := dk_132 3 1 (dk_at dksX3_nearest_2 12 rfl rfl)
theorem dX3_nearest_61 : decode cX3_nearest 61 = .ok (.goto (-42), 3) := dk_167 255 214 (dk_at dksX3_nearest_2 15 rfl rfl)
theorem dX3_nearest_64 : decode cX3_nearest 64 = .ok (.iload_n 2, 1) := dk_28 (dk_at dksX3_nearest_2 18 rfl rfl)
theorem dX3_nearest_65 : decode cX3_nearest 65 = .ok (.ireturn, 1) := dk_172 (dk_at dksX3_nearest_2 19 rfl rfl)
abbrev cX3_odds : ByteArray := prog_9_method_67_code
def yX3_odds : MethodName := ⟨RX3, "odds", "(III)I"⟩
def dkwX3_odds_4 : List UInt8 := [22, 5, 136, 172]
abbrev dktX3_odds_4 : List UInt8 := dkwX3_odds_4 ++ []
def dkwX3_odds_3 : List UInt8 := [162, 0, 24, 22, 5, 16, 100, 21, 4, 100, 133, 105, 20, 1, 60, 109, 55, 5, 132, 7, 1, 167, 255, 232]
abbrev dktX3_odds_3 : List UInt8 := dkwX3_odds_3 ++ dktX3_odds_4
def dkwX3_odds_2 : List UInt8 := [29, 5, 27, 104, 96, 167, 0, 5, 16, 100, 54, 4, 20, 1, 62, 55, 5, 3, 54, 7, 21, 7, 28]
abbrev dktX3_odds_2 : List UInt8 := dkwX3_odds_2 ++ dktX3_odds_3
def dkwX3_odds_1 : List UInt8 := [133, 9, 20, 1, 60, 184, 0, 102, 154, 0, 6, 18, 112, 172, 29, 5, 27, 104, 96, 16, 100, 162, 0, 11]
abbrev dktX3_odds_1 : List UInt8 := dkwX3_odds_1 ++ dktX3_odds_2
def dkwX3_odds_0 : List UInt8 := [42, 27, 182, 0, 200, 154, 0, 6, 18, 203, 172, 28, 133, 9, 20, 1, 58, 184, 0, 102, 153, 0, 15, 29]
abbrev dktX3_odds_0 : List UInt8 := dkwX3_odds_0 ++ dktX3_odds_1
theorem dksX3_odds_0 : cX3_odds.data.toList.drop 0 = dktX3_odds_0 := by decide +kernel
theorem dksX3_odds_1 : cX3_odds.data.toList.drop 24 = dktX3_odds_1 := dk_seg dksX3_odds_0 24 rfl rfl
theorem dksX3_odds_2 : cX3_odds.data.toList.drop 48 = dktX3_odds_2 := dk_seg dksX3_odds_1 24 rfl rfl
theorem dksX3_odds_3 : cX3_odds.data.toList.drop 71 = dktX3_odds_3 := dk_seg dksX3_odds_2 23 rfl rfl
theorem dksX3_odds_4 : cX3_odds.data.toList.drop 95 = dktX3_odds_4 := dk_seg dksX3_odds_3 24 rfl rfl
theorem dX3_odds_0 : decode cX3_odds 0 = .ok (.aload_n 0, 1) := dk_42 (dk_at dksX3_odds_0 0 rfl rfl)
theorem dX3_odds_1 : decode cX3_odds 1 = .ok (.iload_n 1, 1) := dk_27 (dk_at dksX3_odds_0 1 rfl rfl)
theorem dX3_odds_2 : decode cX3_odds 2 = .ok (.invokevirtual 200, 3) := dk_182 0 200 (dk_at dksX3_odds_0 2 rfl rfl)
theorem dX3_odds_5 : decode cX3_odds 5 = .ok (.ifCond .ne 6, 3) := dk_154 0 6 (dk_at dksX3_odds_0 5 rfl rfl)
theorem dX3_odds_8 : decode cX3_odds 8 = .ok (.ldc 203, 2) := dk_18 203 (dk_at dksX3_odds_0 8 rfl rfl)
theorem dX3_odds_10 : decode cX3_odds 10 = .ok (.ireturn, 1) := dk_172 (dk_at dksX3_odds_0 10 rfl rfl)
theorem dX3_odds_11 : decode cX3_odds 11 = .ok (.iload_n 2, 1) := dk_28 (dk_at dksX3_odds_0 11 rfl rfl)
theorem dX3_odds_12 : decode cX3_odds 12 = .ok (.i2l, 1) := dk_133 (dk_at dksX3_odds_0 12 rfl rfl)
theorem dX3_odds_13 : decode cX3_odds 13 = .ok (.lconst 0, 1) := dk_9 (dk_at dksX3_odds_0 13 rfl rfl)
theorem dX3_odds_14 : decode cX3_odds 14 = .ok (.ldc2_w 314, 3) := dk_20 1 58 (dk_at dksX3_odds_0 14 rfl rfl)
theorem dX3_odds_17 : decode cX3_odds 17 = .ok (.invokestatic 102, 3) := dk_184 0 102 (dk_at dksX3_odds_0 17 rfl rfl)
theorem dX3_odds_20 : decode cX3_odds 20 = .ok (.ifCond .eq 15, 3) := dk_153 0 15 (dk_at dksX3_odds_0 20 rfl rfl)
theorem dX3_odds_23 : decode cX3_odds 23 = .ok (.iload_n 3, 1) := dk_29 (dk_at dksX3_odds_0 23 rfl rfl)
theorem dX3_odds_24 : decode cX3_odds 24 = .ok (.i2l, 1) := dk_133 (dk_at dksX3_odds_1 0 rfl rfl)
theorem dX3_odds_25 : decode cX3_odds 25 = .ok (.lconst 0, 1) := dk_9 (dk_at dksX3_odds_1 1 rfl rfl)
theorem dX3_odds_26 : decode cX3_odds 26 = .ok (.ldc2_w 316, 3) := dk_20 1 60 (dk_at dksX3_odds_1 2 rfl rfl)
theorem dX3_odds_29 : decode cX3_odds 29 = .ok (.invokestatic 102, 3) := dk_184 0 102 (dk_at dksX3_odds_1 5 rfl rfl)
theorem dX3_odds_32 : decode cX3_odds 32 = .ok (.ifCond .ne 6, 3) := dk_154 0 6 (dk_at dksX3_odds_1 8 rfl rfl)
theorem dX3_odds_35 : decode cX3_odds 35 = .ok (.ldc 112, 2) := dk_18 112 (dk_at dksX3_odds_1 11 rfl rfl)
theorem dX3_odds_37 : decode cX3_odds 37 = .ok (.ireturn, 1) := dk_172 (dk_at dksX3_odds_1 13 rfl rfl)
theorem dX3_odds_38 : decode cX3_odds 38 = .ok (.iload_n 3, 1) := dk_29 (dk_at dksX3_odds_1 14 rfl rfl)
theorem dX3_odds_39 : decode cX3_odds 39 = .ok (.iconst 2, 1) := dk_5 (dk_at dksX3_odds_1 15 rfl rfl)
theorem dX3_odds_40 : decode cX3_odds 40 = .ok (.iload_n 1, 1) := dk_27 (dk_at dksX3_odds_1 16 rfl rfl)
theorem dX3_odds_41 : decode cX3_odds 41 = .ok (.imul, 1) := dk_104 (dk_at dksX3_odds_1 17 rfl rfl)
theorem dX3_odds_42 : decode cX3_odds 42 = .ok (.iadd, 1) := dk_96 (dk_at dksX3_odds_1 18 rfl rfl)
theorem dX3_odds_43 : decode cX3_odds 43 = .ok (.bipush 100, 2) := dk_16 100 (dk_at dksX3_odds_1 19 rfl rfl)
theorem dX3_odds_45 : decode cX3_odds 45 = .ok (.if_icmp .ge 11, 3) := dk_162 0 11 (dk_at dksX3_odds_1 21 rfl rfl)
theorem dX3_odds_48 : decode cX3_odds 48 = .ok (.iload_n 3, 1) := dk_29 (dk_at dksX3_odds_2 0 rfl rfl)
theorem dX3_odds_49 : decode cX3_odds 49 = .ok (.iconst 2, 1) := dk_5 (dk_at dksX3_odds_2 1 rfl rfl)
theorem dX3_odds_50 : decode cX3_odds 50 = .ok (.iload_n 1, 1) := dk_27 (dk_at dksX3_odds_2 2 rfl rfl)
theorem dX3_odds_51 : decode cX3_odds 51 = .ok (.imul, 1) := dk_104 (dk_at dksX3_odds_2 3 rfl rfl)
theorem dX3_odds_52 : decode cX3_odds 52 = .ok (.iadd, 1) := dk_96 (dk_at dksX3_odds_2 4 rfl rfl)
theorem dX3_odds_53 : decode cX3_odds 53 = .ok (.goto 5, 3) := dk_167 0 5 (dk_at dksX3_odds_2 5 rfl rfl)
theorem dX3_odds_56 : decode cX3_odds 56 = .ok (.bipush 100, 2) := dk_16 100 (dk_at dksX3_odds_2 8 rfl rfl)
theorem dX3_odds_58 : decode cX3_odds 58 = .ok (.istore 4, 2) := dk_54 4 (dk_at dksX3_odds_2 10 rfl rfl)
theorem dX3_odds_60 : decode cX3_odds 60 = .ok (.ldc2_w 318, 3) := dk_20 1 62 (dk_at dksX3_odds_2 12 rfl rfl)
theorem dX3_odds_63 : decode cX3_odds 63 = .ok (.lstore 5, 2) := dk_55 5 (dk_at dksX3_odds_2 15 rfl rfl)
theorem dX3_odds_65 : decode cX3_odds 65 = .ok (.iconst 0, 1) := dk_3 (dk_at dksX3_odds_2 17 rfl rfl)
theorem dX3_odds_66 : decode cX3_odds 66 = .ok (.istore 7, 2) := dk_54 7 (dk_at dksX3_odds_2 18 rfl rfl)
theorem dX3_odds_68 : decode cX3_odds 68 = .ok (.iload 7, 2) := dk_21 7 (dk_at dksX3_odds_2 20 rfl rfl)
theorem dX3_odds_70 : decode cX3_odds 70 = .ok (.iload_n 2, 1) := dk_28 (dk_at dksX3_odds_2 22 rfl rfl)
theorem dX3_odds_71 : decode cX3_odds 71 = .ok (.if_icmp .ge 24, 3) := dk_162 0 24 (dk_at dksX3_odds_3 0 rfl rfl)
theorem dX3_odds_74 : decode cX3_odds 74 = .ok (.lload 5, 2) := dk_22 5 (dk_at dksX3_odds_3 3 rfl rfl)
theorem dX3_odds_76 : decode cX3_odds 76 = .ok (.bipush 100, 2) := dk_16 100 (dk_at dksX3_odds_3 5 rfl rfl)
theorem dX3_odds_78 : decode cX3_odds 78 = .ok (.iload 4, 2) := dk_21 4 (dk_at dksX3_odds_3 7 rfl rfl)
theorem dX3_odds_80 : decode cX3_odds 80 = .ok (.isub, 1) := dk_100 (dk_at dksX3_odds_3 9 rfl rfl)
theorem dX3_odds_81 : decode cX3_odds 81 = .ok (.i2l, 1) := dk_133 (dk_at dksX3_odds_3 10 rfl rfl)
theorem dX3_odds_82 : decode cX3_odds 82 = .ok (.lmul, 1) := dk_105 (dk_at dksX3_odds_3 11 rfl rfl)
theorem dX3_odds_83 : decode cX3_odds 83 = .ok (.ldc2_w 316, 3) := dk_20 1 60 (dk_at dksX3_odds_3 12 rfl rfl)
theorem dX3_odds_86 : decode cX3_odds 86 = .ok (.ldiv, 1) := dk_109 (dk_at dksX3_odds_3 15 rfl rfl)
theorem dX3_odds_87 : decode cX3_odds 87 = .ok (.lstore 5, 2) := dk_55 5 (dk_at dksX3_odds_3 16 rfl rfl)
theorem dX3_odds_89 : decode cX3_odds 89 = .ok (.iinc 7 1, 3) := dk_132 7 1 (dk_at dksX3_odds_3 18 rfl rfl)
theorem dX3_odds_92 : decode cX3_odds 92 = .ok (.goto (-24), 3) := dk_167 255 232 (dk_at dksX3_odds_3 21 rfl rfl)
theorem dX3_odds_95 : decode cX3_odds 95 = .ok (.lload 5, 2) := dk_22 5 (dk_at dksX3_odds_4 0 rfl rfl)
theorem dX3_odds_97 : decode cX3_odds 97 = .ok (.l2i, 1) := dk_136 (dk_at dksX3_odds_4 2 rfl rfl)
theorem dX3_odds_98 : decode cX3_odds 98 = .ok (.ireturn, 1) := dk_172 (dk_at dksX3_odds_4 3 rfl rfl)
abbrev cX3_got : ByteArray := prog_9_method_68_code
def yX3_got : MethodName := ⟨RX3, "got", "(II)I"⟩
def dkwX3_got_3 : List UInt8 := [180, 0, 178, 172]
abbrev dktX3_got_3 : List UInt8 := dkwX3_got_3 ++ []
def dkwX3_got_2 : List UInt8 := [79, 42, 180, 0, 83, 42, 180, 0, 178, 28, 79, 42, 89, 180, 0, 178, 4, 96, 181, 0, 178, 42]
abbrev dktX3_got_2 : List UInt8 := dkwX3_got_2 ++ dktX3_got_3
def dkwX3_got_1 : List UInt8 := [18, 112, 172, 42, 180, 0, 178, 16, 8, 160, 0, 6, 18, 116, 172, 42, 180, 0, 80, 42, 180, 0, 178, 27]
abbrev dktX3_got_1 : List UInt8 := dkwX3_got_1 ++ dktX3_got_2
def dkwX3_got_0 : List UInt8 := [27, 133, 10, 20, 1, 64, 184, 0, 102, 153, 0, 15, 28, 133, 9, 20, 1, 66, 184, 0, 102, 154, 0, 6]
abbrev dktX3_got_0 : List UInt8 := dkwX3_got_0 ++ dktX3_got_1
theorem dksX3_got_0 : cX3_got.data.toList.drop 0 = dktX3_got_0 := by decide +kernel
theorem dksX3_got_1 : cX3_got.data.toList.drop 24 = dktX3_got_1 := dk_seg dksX3_got_0 24 rfl rfl
theorem dksX3_got_2 : cX3_got.data.toList.drop 48 = dktX3_got_2 := dk_seg dksX3_got_1 24 rfl rfl
theorem dksX3_got_3 : cX3_got.data.toList.drop 70 = dktX3_got_3 := dk_seg dksX3_got_2 22 rfl rfl
theorem dX3_got_0 : decode cX3_got 0 = .ok (.iload_n 1, 1) := dk_27 (dk_at dksX3_got_0 0 rfl rfl)
theorem dX3_got_1 : decode cX3_got 1 = .ok (.i2l, 1) := dk_133 (dk_at dksX3_got_0 1 rfl rfl)
theorem dX3_got_2 : decode cX3_got 2 = .ok (.lconst 1, 1) := dk_10 (dk_at dksX3_got_0 2 rfl rfl)
theorem dX3_got_3 : decode cX3_got 3 = .ok (.ldc2_w 320, 3) := dk_20 1 64 (dk_at dksX3_got_0 3 rfl rfl)
theorem dX3_got_6 : decode cX3_got 6 = .ok (.invokestatic 102, 3) := dk_184 0 102 (dk_at dksX3_got_0 6 rfl rfl)
theorem dX3_got_9 : decode cX3_got 9 = .ok (.ifCond .eq 15, 3) := dk_153 0 15 (dk_at dksX3_got_0 9 rfl rfl)
theorem dX3_got_12 : decode cX3_got 12 = .ok (.iload_n 2, 1) := dk_28 (dk_at dksX3_got_0 12 rfl rfl)
theorem dX3_got_13 : decode cX3_got 13 = .ok (.i2l, 1) := dk_133 (dk_at dksX3_got_0 13 rfl rfl)
theorem dX3_got_14 : decode cX3_got 14 = .ok (.lconst 0, 1) := dk_9 (dk_at dksX3_got_0 14 rfl rfl)
theorem dX3_got_15 : decode cX3_got 15 = .ok (.ldc2_w 322, 3) := dk_20 1 66 (dk_at dksX3_got_0 15 rfl rfl)
theorem dX3_got_18 : decode cX3_got 18 = .ok (.invokestatic 102, 3) := dk_184 0 102 (dk_at dksX3_got_0 18 rfl rfl)
theorem dX3_got_21 : decode cX3_got 21 = .ok (.ifCond .ne 6, 3) := dk_154 0 6 (dk_at dksX3_got_0 21 rfl rfl)
theorem dX3_got_24 : decode cX3_got 24 = .ok (.ldc 112, 2) := dk_18 112 (dk_at dksX3_got_1 0 rfl rfl)
theorem dX3_got_26 : decode cX3_got 26 = .ok (.ireturn, 1) := dk_172 (dk_at dksX3_got_1 2 rfl rfl)
theorem dX3_got_27 : decode cX3_got 27 = .ok (.aload_n 0, 1) := dk_42 (dk_at dksX3_got_1 3 rfl rfl)
theorem dX3_got_28 : decode cX3_got 28 = .ok (.getfield 178, 3) := dk_180 0 178 (dk_at dksX3_got_1 4 rfl rfl)
theorem dX3_got_31 : decode cX3_got 31 = .ok (.bipush 8, 2) := dk_16 8 (dk_at dksX3_got_1 7 rfl rfl)
theorem dX3_got_33 : decode cX3_got 33 = .ok (.if_icmp .ne 6, 3) := dk_160 0 6 (dk_at dksX3_got_1 9 rfl rfl)
theorem dX3_got_36 : decode cX3_got 36 = .ok (.ldc 116, 2) := dk_18 116 (dk_at dksX3_got_1 12 rfl rfl)
theorem dX3_got_38 : decode cX3_got 38 = .ok (.ireturn, 1) := dk_172 (dk_at dksX3_got_1 14 rfl rfl)
theorem dX3_got_39 : decode cX3_got 39 = .ok (.aload_n 0, 1) := dk_42 (dk_at dksX3_got_1 15 rfl rfl)
theorem dX3_got_40 : decode cX3_got 40 = .ok (.getfield 80, 3) := dk_180 0 80 (dk_at dksX3_got_1 16 rfl rfl)
theorem dX3_got_43 : decode cX3_got 43 = .ok (.aload_n 0, 1) := dk_42 (dk_at dksX3_got_1 19 rfl rfl)
theorem dX3_got_44 : decode cX3_got 44 = .ok (.getfield 178, 3) := dk_180 0 178 (dk_at dksX3_got_1 20 rfl rfl)
theorem dX3_got_47 : decode cX3_got 47 = .ok (.iload_n 1, 1) := dk_27 (dk_at dksX3_got_1 23 rfl rfl)
theorem dX3_got_48 : decode cX3_got 48 = .ok (.iastore, 1) := dk_79 (dk_at dksX3_got_2 0 rfl rfl)
theorem dX3_got_49 : decode cX3_got 49 = .ok (.aload_n 0, 1) := dk_42 (dk_at dksX3_got_2 1 rfl rfl)
theorem dX3_got_50 : decode cX3_got 50 = .ok (.getfield 83, 3) := dk_180 0 83 (dk_at dksX3_got_2 2 rfl rfl)
theorem dX3_got_53 : decode cX3_got 53 = .ok (.aload_n 0, 1) := dk_42 (dk_at dksX3_got_2 5 rfl rfl)
theorem dX3_got_54 : decode cX3_got 54 = .ok (.getfield 178, 3) := dk_180 0 178 (dk_at dksX3_got_2 6 rfl rfl)
theorem dX3_got_57 : decode cX3_got 57 = .ok (.iload_n 2, 1) := dk_28 (dk_at dksX3_got_2 9 rfl rfl)
theorem dX3_got_58 : decode cX3_got 58 = .ok (.iastore, 1) := dk_79 (dk_at dksX3_got_2 10 rfl rfl)
theorem dX3_got_59 : decode cX3_got 59 = .ok (.aload_n 0, 1) := dk_42 (dk_at dksX3_got_2 11 rfl rfl)
theorem dX3_got_60 : decode cX3_got 60 = .ok (.dup, 1) := dk_89 (dk_at dksX3_got_2 12 rfl rfl)
theorem dX3_got_61 : decode cX3_got 61 = .ok (.getfield 178, 3) := dk_180 0 178 (dk_at dksX3_got_2 13 rfl rfl)
theorem dX3_got_64 : decode cX3_got 64 = .ok (.iconst 1, 1) := dk_4 (dk_at dksX3_got_2 16 rfl rfl)
theorem dX3_got_65 : decode cX3_got 65 = .ok (.iadd, 1) := dk_96 (dk_at dksX3_got_2 17 rfl rfl)
theorem dX3_got_66 : decode cX3_got 66 = .ok (.putfield 178, 3) := dk_181 0 178 (dk_at dksX3_got_2 18 rfl rfl)
theorem dX3_got_69 : decode cX3_got 69 = .ok (.aload_n 0, 1) := dk_42 (dk_at dksX3_got_2 21 rfl rfl)
theorem dX3_got_70 : decode cX3_got 70 = .ok (.getfield 178, 3) := dk_180 0 178 (dk_at dksX3_got_3 0 rfl rfl)
theorem dX3_got_73 : decode cX3_got 73 = .ok (.ireturn, 1) := dk_172 (dk_at dksX3_got_3 3 rfl rfl)
abbrev cX3_used : ByteArray := prog_9_method_69_code
def yX3_used : MethodName := ⟨RX3, "used", "()I"⟩
def dkwX3_used_3 : List UInt8 := [28, 120, 167, 0, 4, 3, 128, 60, 132, 2, 1, 167, 255, 178, 27, 172]
abbrev dktX3_used_3 : List UInt8 := dkwX3_used_3 ++ []
def dkwX3_used_2 : List UInt8 := [21, 4, 46, 160, 0, 7, 4, 167, 0, 4, 3, 62, 132, 4, 1, 167, 255, 211, 27, 29, 153, 0, 9, 4]
abbrev dktX3_used_2 : List UInt8 := dkwX3_used_2 ++ dktX3_used_3
def dkwX3_used_1 : List UInt8 := [162, 0, 42, 29, 153, 0, 30, 42, 180, 0, 80, 21, 4, 46, 42, 28, 182, 0, 204, 104, 42, 180, 0, 83]
abbrev dktX3_used_1 : List UInt8 := dkwX3_used_1 ++ dktX3_used_2
def dkwX3_used_0 : List UInt8 := [3, 60, 3, 61, 28, 42, 180, 0, 99, 162, 0, 76, 4, 62, 3, 54, 4, 21, 4, 42, 180, 0, 178]
abbrev dktX3_used_0 : List UInt8 := dkwX3_used_0 ++ dktX3_used_1
theorem dksX3_used_0 : cX3_used.data.toList.drop 0 = dktX3_used_0 := by decide +kernel
theorem dksX3_used_1 : cX3_used.data.toList.drop 23 = dktX3_used_1 := dk_seg dksX3_used_0 23 rfl rfl
theorem dksX3_used_2 : cX3_used.data.toList.drop 47 = dktX3_used_2 := dk_seg dksX3_used_1 24 rfl rfl
theorem dksX3_used_3 : cX3_used.data.toList.drop 71 = dktX3_used_3 := dk_seg dksX3_used_2 24 rfl rfl
theorem dX3_used_0 : decode cX3_used 0 = .ok (.iconst 0, 1) := dk_3 (dk_at dksX3_used_0 0 rfl rfl)
theorem dX3_used_1 : decode cX3_used 1 = .ok (.istore_n 1, 1) := dk_60 (dk_at dksX3_used_0 1 rfl rfl)
theorem dX3_used_2 : decode cX3_used 2 = .ok (.iconst 0, 1) := dk_3 (dk_at dksX3_used_0 2 rfl rfl)
theorem dX3_used_3 : decode cX3_used 3 = .ok (.istore_n 2, 1) := dk_61 (dk_at dksX3_used_0 3 rfl rfl)
theorem dX3_used_4 : decode cX3_used 4 = .ok (.iload_n 2, 1) := dk_28 (dk_at dksX3_used_0 4 rfl rfl)
theorem dX3_used_5 : decode cX3_used 5 = .ok (.aload_n 0, 1) := dk_42 (dk_at dksX3_used_0 5 rfl rfl)
theorem dX3_used_6 : decode cX3_used 6 = .ok (.getfield 99, 3) := dk_180 0 99 (dk_at dksX3_used_0 6 rfl rfl)
theorem dX3_used_9 : decode cX3_used 9 = .ok (.if_icmp .ge 76, 3) := dk_162 0 76 (dk_at dksX3_used_0 9 rfl rfl)
theorem dX3_used_12 : decode cX3_used 12 = .ok (.iconst 1, 1) := dk_4 (dk_at dksX3_used_0 12 rfl rfl)
theorem dX3_used_13 : decode cX3_used 13 = .ok (.istore_n 3, 1) := dk_62 (dk_at dksX3_used_0 13 rfl rfl)
theorem dX3_used_14 : decode cX3_used 14 = .ok (.iconst 0, 1) := dk_3 (dk_at dksX3_used_0 14 rfl rfl)
theorem dX3_used_15 : decode cX3_used 15 = .ok (.istore 4, 2) := dk_54 4 (dk_at dksX3_used_0 15 rfl rfl)
theorem dX3_used_17 : decode cX3_used 17 = .ok (.iload 4, 2) := dk_21 4 (dk_at dksX3_used_0 17 rfl rfl)
theorem dX3_used_19 : decode cX3_used 19 = .ok (.aload_n 0, 1) := dk_42 (dk_at dksX3_used_0 19 rfl rfl)
theorem dX3_used_20 : decode cX3_used 20 = .ok (.getfield 178, 3) := dk_180 0 178 (dk_at dksX3_used_0 20 rfl rfl)
theorem dX3_used_23 : decode cX3_used 23 = .ok (.if_icmp .ge 42, 3) := dk_162 0 42 (dk_at dksX3_used_1 0 rfl rfl)
theorem dX3_used_26 : decode cX3_used 26 = .ok (.iload_n 3, 1) := dk_29 (dk_at dksX3_used_1 3 rfl rfl)
theorem dX3_used_27 : decode cX3_used 27 = .ok (.ifCond .eq 30, 3) := dk_153 0 30 (dk_at dksX3_used_1 4 rfl rfl)
theorem dX3_used_30 : decode cX3_used 30 = .ok (.aload_n 0, 1) := dk_42 (dk_at dksX3_used_1 7 rfl rfl)
theorem dX3_used_31 : decode cX3_used 31 = .ok (.getfield 80, 3) := dk_180 0 80 (dk_at dksX3_used_1 8 rfl rfl)
theorem dX3_used_34 : decode cX3_used 34 = .ok (.iload 4, 2) := dk_21 4 (dk_at dksX3_used_1 11 rfl rfl)
theorem dX3_used_36 : decode cX3_used 36 = .ok (.iaload, 1) := dk_46 (dk_at dksX3_used_1 13 rfl rfl)
theorem dX3_used_37 : decode cX3_used 37 = .ok (.aload_n 0, 1) := dk_42 (dk_at dksX3_used_1 14 rfl rfl)
theorem dX3_used_38 : decode cX3_used 38 = .ok (.iload_n 2, 1) := dk_28 (dk_at dksX3_used_1 15 rfl rfl)
theorem dX3_used_39 : decode cX3_used 39 = .ok (.invokevirtual 204, 3) := dk_182 0 204 (dk_at dksX3_used_1 16 rfl rfl)
theorem dX3_used_42 : decode cX3_used 42 = .ok (.imul, 1) := dk_104 (dk_at dksX3_used_1 19 rfl rfl)
theorem dX3_used_43 : decode cX3_used 43 = .ok (.aload_n 0, 1) := dk_42 (dk_at dksX3_used_1 20 rfl rfl)
theorem dX3_used_44 : decode cX3_used 44 = .ok (.getfield 83, 3) := dk_180 0 83 (dk_at dksX3_used_1 21 rfl rfl)
theorem dX3_used_47 : decode cX3_used 47 = .ok (.iload 4, 2) := dk_21 4 (dk_at dksX3_used_2 0 rfl rfl)
theorem dX3_used_49 : decode cX3_used 49 = .ok (.iaload, 1) := dk_46 (dk_at dksX3_used_2 2 rfl rfl)
theorem dX3_used_50 : decode cX3_used 50 = .ok (.if_icmp .ne 7, 3) := dk_160 0 7 (dk_at dksX3_used_2 3 rfl rfl)
theorem dX3_used_53 : decode cX3_used 53 = .ok (.iconst 1, 1) := dk_4 (dk_at dksX3_used_2 6 rfl rfl)
theorem dX3_used_54 : decode cX3_used 54 = .ok (.goto 4, 3) := dk_167 0 4 (dk_at dksX3_used_2 7 rfl rfl)
theorem dX3_used_57 : decode cX3_used 57 = .ok (.iconst 0, 1) := dk_3 (dk_at dksX3_used_2 10 rfl rfl)
theorem dX3_used_58 : decode cX3_used 58 = .ok (.istore_n 3, 1) := dk_62 (dk_at dksX3_used_2 11 rfl rfl)
theorem dX3_used_59 : decode cX3_used 59 = .ok (.iinc 4 1, 3) := dk_132 4 1 (dk_at dksX3_used_2 12 rfl rfl)
theorem dX3_used_62 : decode cX3_used 62 = .ok (.goto (-45), 3) := dk_167 255 211 (dk_at dksX3_used_2 15 rfl rfl)
theorem dX3_used_65 : decode cX3_used 65 = .ok (.iload_n 1, 1) := dk_27 (dk_at dksX3_used_2 18 rfl rfl)
theorem dX3_used_66 : decode cX3_used 66 = .ok (.iload_n 3, 1) := dk_29 (dk_at dksX3_used_2 19 rfl rfl)
theorem dX3_used_67 : decode cX3_used 67 = .ok (.ifCond .eq 9, 3) := dk_153 0 9 (dk_at dksX3_used_2 20 rfl rfl)
theorem dX3_used_70 : decode cX3_used 70 = .ok (.iconst 1, 1) := dk_4 (dk_at dksX3_used_2 23 rfl rfl)
theorem dX3_used_71 : decode cX3_used 71 = .ok (.iload_n 2, 1) := dk_28 (dk_at dksX3_used_3 0 rfl rfl)
theorem dX3_used_72 : decode cX3_used 72 = .ok (.ishl, 1) := dk_120 (dk_at dksX3_used_3 1 rfl rfl)
theorem dX3_used_73 : decode cX3_used 73 = .ok (.goto 4, 3) := dk_167 0 4 (dk_at dksX3_used_3 2 rfl rfl)
theorem dX3_used_76 : decode cX3_used 76 = .ok (.iconst 0, 1) := dk_3 (dk_at dksX3_used_3 5 rfl rfl)
theorem dX3_used_77 : decode cX3_used 77 = .ok (.ior, 1) := dk_128 (dk_at dksX3_used_3 6 rfl rfl)
theorem dX3_used_78 : decode cX3_used 78 = .ok (.istore_n 1, 1) := dk_60 (dk_at dksX3_used_3 7 rfl rfl)
theorem dX3_used_79 : decode cX3_used 79 = .ok (.iinc 2 1, 3) := dk_132 2 1 (dk_at dksX3_used_3 8 rfl rfl)
theorem dX3_used_82 : decode cX3_used 82 = .ok (.goto (-78), 3) := dk_167 255 178 (dk_at dksX3_used_3 11 rfl rfl)
theorem dX3_used_85 : decode cX3_used 85 = .ok (.iload_n 1, 1) := dk_27 (dk_at dksX3_used_3 14 rfl rfl)
theorem dX3_used_86 : decode cX3_used 86 = .ok (.ireturn, 1) := dk_172 (dk_at dksX3_used_3 15 rfl rfl)
abbrev cX3_bale : ByteArray := prog_9_method_70_code
def yX3_bale : MethodName := ⟨RX3, "bale", "()I"⟩
def dkwX3_bale_6 : List UInt8 := [2, 172]
abbrev dktX3_bale_6 : List UInt8 := dkwX3_bale_6 ++ []
def dkwX3_bale_5 : List UInt8 := [132, 5, 1, 167, 255, 173, 132, 4, 1, 167, 255, 155, 29, 153, 0, 5, 28, 172, 132, 2, 1, 167, 255, 133]
abbrev dktX3_bale_5 : List UInt8 := dkwX3_bale_5 ++ dktX3_bale_6
def dkwX3_bale_4 : List UInt8 := [42, 21, 5, 42, 180, 0, 37, 16, 19, 46, 28, 96, 182, 0, 197, 159, 0, 7, 4, 167, 0, 4, 3, 62]
abbrev dktX3_bale_4 : List UInt8 := dkwX3_bale_4 ++ dktX3_bale_5
def dkwX3_bale_3 : List UInt8 := [29, 153, 0, 45, 21, 6, 153, 0, 36, 42, 21, 4, 42, 180, 0, 37, 16, 19, 46, 28, 96, 182, 0, 197]
abbrev dktX3_bale_3 : List UInt8 := dkwX3_bale_3 ++ dktX3_bale_4
def dkwX3_bale_2 : List UInt8 := [21, 4, 184, 0, 106, 153, 0, 16, 27, 21, 5, 184, 0, 106, 153, 0, 7, 4, 167, 0, 4, 3, 54, 6]
abbrev dktX3_bale_2 : List UInt8 := dkwX3_bale_2 ++ dktX3_bale_3
def dkwX3_bale_1 : List UInt8 := [3, 54, 4, 21, 4, 42, 180, 0, 99, 162, 0, 98, 3, 54, 5, 21, 5, 21, 4, 162, 0, 82, 27]
abbrev dktX3_bale_1 : List UInt8 := dkwX3_bale_1 ++ dktX3_bale_2
def dkwX3_bale_0 : List UInt8 := [42, 182, 1, 68, 60, 27, 184, 1, 48, 5, 162, 0, 5, 2, 172, 3, 61, 28, 7, 162, 0, 124, 4, 62]
abbrev dktX3_bale_0 : List UInt8 := dkwX3_bale_0 ++ dktX3_bale_1
theorem dksX3_bale_0 : cX3_bale.data.toList.drop 0 = dktX3_bale_0 := by decide +kernel
theorem dksX3_bale_1 : cX3_bale.data.toList.drop 24 = dktX3_bale_1 := dk_seg dksX3_bale_0 24 rfl rfl
theorem dksX3_bale_2 : cX3_bale.data.toList.drop 47 = dktX3_bale_2 := dk_seg dksX3_bale_1 23 rfl rfl
theorem dksX3_bale_3 : cX3_bale.data.toList.drop 71 = dktX3_bale_3 := dk_seg dksX3_bale_2 24 rfl rfl
theorem dksX3_bale_4 : cX3_bale.data.toList.drop 95 = dktX3_bale_4 := dk_seg dksX3_bale_3 24 rfl rfl
theorem dksX3_bale_5 : cX3_bale.data.toList.drop 119 = dktX3_bale_5 := dk_seg dksX3_bale_4 24 rfl rfl
theorem dksX3_bale_6 : cX3_bale.data.toList.drop 143 = dktX3_bale_6 := dk_seg dksX3_bale_5 24 rfl rfl
theorem dX3_bale_0 : decode cX3_bale 0 = .ok (.aload_n 0, 1) := dk_42 (dk_at dksX3_bale_0 0 rfl rfl)
theorem dX3_bale_1 : decode cX3_bale 1 = .ok (.invokevirtual 324, 3) := dk_182 1 68 (dk_at dksX3_bale_0 1 rfl rfl)
theorem dX3_bale_4 : decode cX3_bale 4 = .ok (.istore_n 1, 1) := dk_60 (dk_at dksX3_bale_0 4 rfl rfl)
theorem dX3_bale_5 : decode cX3_bale 5 = .ok (.iload_n 1, 1) := dk_27 (dk_at dksX3_bale_0 5 rfl rfl)
theorem dX3_bale_6 : decode cX3_bale 6 = .ok (.invokestatic 304, 3) := dk_184 1 48 (dk_at dksX3_bale_0 6 rfl rfl)
theorem dX3_bale_9 : decode cX3_bale 9 = .ok (.iconst 2, 1) := dk_5 (dk_at dksX3_bale_0 9 rfl rfl)
theorem dX3_bale_10 : decode cX3_bale 10 = .ok (.if_icmp .ge 5, 3) := dk_162 0 5 (dk_at dksX3_bale_0 10 rfl rfl)
theorem dX3_bale_13 : decode cX3_bale 13 = .ok (.iconst (-1), 1) := dk_2 (dk_at dksX3_bale_0 13 rfl rfl)
theorem dX3_bale_14 : decode cX3_bale 14 = .ok (.ireturn, 1) := dk_172 (dk_at dksX3_bale_0 14 rfl rfl)
theorem dX3_bale_15 : decode cX3_bale 15 = .ok (.iconst 0, 1) := dk_3 (dk_at dksX3_bale_0 15 rfl rfl)
theorem dX3_bale_16 : decode cX3_bale 16 = .ok (.istore_n 2, 1) := dk_61 (dk_at dksX3_bale_0 16 rfl rfl)
theorem dX3_bale_17 : decode cX3_bale 17 = .ok (.iload_n 2, 1) := dk_28 (dk_at dksX3_bale_0 17 rfl rfl)
theorem dX3_bale_18 : decode cX3_bale 18 = .ok (.iconst 4, 1) := dk_7 (dk_at dksX3_bale_0 18 rfl rfl)
theorem dX3_bale_19 : decode cX3_bale 19 = .ok (.if_icmp .ge 124, 3) := dk_162 0 124 (dk_at dksX3_bale_0 19 rfl rfl)
theorem dX3_bale_22 : decode cX3_bale 22 = .ok (.iconst 1, 1) := dk_4 (dk_at dksX3_bale_0 22 rfl rfl)
theorem dX3_bale_23 : decode cX3_bale 23 = .ok (.istore_n 3, 1) := dk_62 (dk_at dksX3_bale_0 23 rfl rfl)
theorem dX3_bale_24 : decode cX3_bale 24 = .ok (.iconst 0, 1) := dk_3 (dk_at dksX3_bale_1 0 rfl rfl)
theorem dX3_bale_25 : decode cX3_bale 25 = .ok (.istore 4, 2) := dk_54 4 (dk_at dksX3_bale_1 1 rfl rfl)
theorem dX3_bale_27 : decode cX3_bale 27 = .ok (.iload 4, 2) := dk_21 4 (dk_at dksX3_bale_1 3 rfl rfl)
theorem dX3_bale_29 : decode cX3_bale 29 = .ok (.aload_n 0, 1) := dk_42 (dk_at dksX3_bale_1 5 rfl rfl)
theorem dX3_bale_30 : decode cX3_bale 30 = .ok (.getfield 99, 3) := dk_180 0 99 (dk_at dksX3_bale_1 6 rfl rfl)
theorem dX3_bale_33 : decode cX3_bale 33 = .ok (.if_icmp .ge 98, 3) := dk_162 0 98 (dk_at dksX3_bale_1 9 rfl rfl)
theorem dX3_bale_36 : decode cX3_bale 36 = .ok (.iconst 0, 1) := dk_3 (dk_at dksX3_bale_1 12 rfl rfl)
theorem dX3_bale_37 : decode cX3_bale 37 = .ok (.istore 5, 2) := dk_54 5 (dk_at dksX3_bale_1 13 rfl rfl)
theorem dX3_bale_39 : decode cX3_bale 39 = .ok (.iload 5, 2) := dk_21 5 (dk_at dksX3_bale_1 15 rfl rfl)
theorem dX3_bale_41 : decode cX3_bale 41 = .ok (.iload 4, 2) := dk_21 4 (dk_at dksX3_bale_1 17 rfl rfl)
theorem dX3_bale_43 : decode cX3_bale 43 = .ok (.if_icmp .ge 82, 3) := dk_162 0 82 (dk_at dksX3_bale_1 19 rfl rfl)
theorem dX3_bale_46 : decode cX3_bale 46 = .ok (.iload_n 1, 1) := dk_27 (dk_at dksX3_bale_1 22 rfl rfl)
theorem dX3_bale_47 : decode cX3_bale 47 = .ok (.iload 4, 2) := dk_21 4 (dk_at dksX3_bale_2 0 rfl rfl)
theorem dX3_bale_49 : decode cX3_bale 49 = .ok (.invokestatic 106, 3) := dk_184 0 106 (dk_at dksX3_bale_2 2 rfl rfl)
theorem dX3_bale_52 : decode cX3_bale 52 = .ok (.ifCond .eq 16, 3) := dk_153 0 16 (dk_at dksX3_bale_2 5 rfl rfl)
theorem dX3_bale_55 : decode cX3_bale 55 = .ok (.iload_n 1, 1) := dk_27 (dk_at dksX3_bale_2 8 rfl rfl)
theorem dX3_bale_56 : decode cX3_bale 56 = .ok (.iload 5, 2) := dk_21 5 (dk_at dksX3_bale_2 9 rfl rfl)
theorem dX3_bale_58 : decode cX3_bale 58 = .ok (.invokestatic 106, 3) := dk_184 0 106 (dk_at dksX3_bale_2 11 rfl rfl)
theorem dX3_bale_61 : decode cX3_bale 61 = .ok (.ifCond .eq 7, 3) := dk_153 0 7 (dk_at dksX3_bale_2 14 rfl rfl)
theorem dX3_bale_64 : decode cX3_bale 64 = .ok (.iconst 1, 1) := dk_4 (dk_at dksX3_bale_2 17 rfl rfl)
theorem dX3_bale_65 : decode cX3_bale 65 = .ok (.goto 4, 3) := dk_167 0 4 (dk_at dksX3_bale_2 18 rfl rfl)
theorem dX3_bale_68 : decode cX3_bale 68 = .ok (.iconst 0, 1) := dk_3 (dk_at dksX3_bale_2 21 rfl rfl)
theorem dX3_bale_69 : decode cX3_bale 69 = .ok (.istore 6, 2) := dk_54 6 (dk_at dksX3_bale_2 22 rfl rfl)
theorem dX3_bale_71 : decode cX3_bale 71 = .ok (.iload_n 3, 1) := dk_29 (dk_at dksX3_bale_3 0 rfl rfl)
theorem dX3_bale_72 : decode cX3_bale 72 = .ok (.ifCond .eq 45, 3) := dk_153 0 45 (dk_at dksX3_bale_3 1 rfl rfl)
theorem dX3_bale_75 : decode cX3_bale 75 = .ok (.iload 6, 2) := dk_21 6 (dk_at dksX3_bale_3 4 rfl rfl)
theorem dX3_bale_77 : decode cX3_bale 77 = .ok (.ifCond .eq 36, 3) := dk_153 0 36 (dk_at dksX3_bale_3 6 rfl rfl)
theorem dX3_bale_80 : decode cX3_bale 80 = .ok (.aload_n 0, 1) := dk_42 (dk_at dksX3_bale_3 9 rfl rfl)
theorem dX3_bale_81 : decode cX3_bale 81 = .ok (.iload 4, 2) := dk_21 4 (dk_at dksX3_bale_3 10 rfl rfl)
theorem dX3_bale_83 : decode cX3_bale 83 = .ok (.aload_n 0, 1) := dk_42 (dk_at dksX3_bale_3 12 rfl rfl)
theorem dX3_bale_84 : decode cX3_bale 84 = .ok (.getfield 37, 3) := dk_180 0 37 (dk_at dksX3_bale_3 13 rfl rfl)
theorem dX3_bale_87 : decode cX3_bale 87 = .ok (.bipush 19, 2) := dk_16 19 (dk_at dksX3_bale_3 16 rfl rfl)
theorem dX3_bale_89 : decode cX3_bale 89 = .ok (.iaload, 1) := dk_46 (dk_at dksX3_bale_3 18 rfl rfl)
theorem dX3_bale_90 : decode cX3_bale 90 = .ok (.iload_n 2, 1) := dk_28 (dk_at dksX3_bale_3 19 rfl rfl)
theorem dX3_bale_91 : decode cX3_bale 91 = .ok (.iadd, 1) := dk_96 (dk_at dksX3_bale_3 20 rfl rfl)
theorem dX3_bale_92 : decode cX3_bale 92 = .ok (.invokevirtual 197, 3) := dk_182 0 197 (dk_at dksX3_bale_3 21 rfl rfl)
theorem dX3_bale_95 : decode cX3_bale 95 = .ok (.aload_n 0, 1) := dk_42 (dk_at dksX3_bale_4 0 rfl rfl)
theorem dX3_bale_96 : decode cX3_bale 96 = .ok (.iload 5, 2) := dk_21 5 (dk_at dksX3_bale_4 1 rfl rfl)
theorem dX3_bale_98 : decode cX3_bale 98 = .ok (.aload_n 0, 1) := dk_42 (dk_at dksX3_bale_4 3 rfl rfl)
theorem dX3_bale_99 : decode cX3_bale 99 = .ok (.getfield 37, 3) := dk_180 0 37 (dk_at dksX3_bale_4 4 rfl rfl)
theorem dX3_bale_102 : decode cX3_bale 102 = .ok (.bipush 19, 2) := dk_16 19 (dk_at dksX3_bale_4 7 rfl rfl)
theorem dX3_bale_104 : decode cX3_bale 104 = .ok (.iaload, 1) := dk_46 (dk_at dksX3_bale_4 9 rfl rfl)
theorem dX3_bale_105 : decode cX3_bale 105 = .ok (.iload_n 2, 1) := dk_28 (dk_at dksX3_bale_4 10 rfl rfl)
theorem dX3_bale_106 : decode cX3_bale 106 = .ok (.iadd, 1) := dk_96 (dk_at dksX3_bale_4 11 rfl rfl)
theorem dX3_bale_107 : decode cX3_bale 107 = .ok (.invokevirtual 197, 3) := dk_182 0 197 (dk_at dksX3_bale_4 12 rfl rfl)
theorem dX3_bale_110 : decode cX3_bale 110 = .ok (.if_icmp .eq 7, 3) := dk_159 0 7 (dk_at dksX3_bale_4 15 rfl rfl)
theorem dX3_bale_113 : decode cX3_bale 113 = .ok (.iconst 1, 1) := dk_4 (dk_at dksX3_bale_4 18 rfl rfl)
theorem dX3_bale_114 : decode cX3_bale 114 = .ok (.goto 4, 3) := dk_167 0 4 (dk_at dksX3_bale_4 19 rfl rfl)
theorem dX3_bale_117 : decode cX3_bale 117 = .ok (.iconst 0, 1) := dk_3 (dk_at dksX3_bale_4 22 rfl rfl)
theorem dX3_bale_118 : decode cX3_bale 118 = .ok (.istore_n 3, 1) := dk_62 (dk_at dksX3_bale_4 23 rfl rfl)
theorem dX3_bale_119 : decode cX3_bale 119 = .ok (.iinc 5 1, 3) := dk_132 5 1 (dk_at dksX3_bale_5 0 rfl rfl)
theorem dX3_bale_122 : decode cX3_bale 122 = .ok (.goto (-83), 3) := dk_167 255 173 (dk_at dksX3_bale_5 3 rfl rfl)
theorem dX3_bale_125 : decode cX3_bale 125 = .ok (.iinc 4 1, 3) := dk_132 4 1 (dk_at dksX3_bale_5 6 rfl rfl)
theorem dX3_bale_128 : decode cX3_bale 128 = .ok (.goto (-101), 3) := dk_167 255 155 (dk_at dksX3_bale_5 9 rfl rfl)
theorem dX3_bale_131 : decode cX3_bale 131 = .ok (.iload_n 3, 1) := dk_29 (dk_at dksX3_bale_5 12 rfl rfl)
theorem dX3_bale_132 : decode cX3_bale 132 = .ok (.ifCond .eq 5, 3) := dk_153 0 5 (dk_at dksX3_bale_5 13 rfl rfl)
theorem dX3_bale_135 : decode cX3_bale 135 = .ok (.iload_n 2, 1) := dk_28 (dk_at dksX3_bale_5 16 rfl rfl)
theorem dX3_bale_136 : decode cX3_bale 136 = .ok (.ireturn, 1) := dk_172 (dk_at dksX3_bale_5 17 rfl rfl)
theorem dX3_bale_137 : decode cX3_bale 137 = .ok (.iinc 2 1, 3) := dk_132 2 1 (dk_at dksX3_bale_5 18 rfl rfl)
theorem dX3_bale_140 : decode cX3_bale 140 = .ok (.goto (-123), 3) := dk_167 255 133 (dk_at dksX3_bale_5 21 rfl rfl)
theorem dX3_bale_143 : decode cX3_bale 143 = .ok (.iconst (-1), 1) := dk_2 (dk_at dksX3_bale_6 0 rfl rfl)
theorem dX3_bale_144 : decode cX3_bale 144 = .ok (.ireturn, 1) := dk_172 (dk_at dksX3_bale_6 1 rfl rfl)
abbrev cX3_write : ByteArray := prog_9_method_71_code
def yX3_write : MethodName := ⟨RX3, "write", "(II)I"⟩
def dkwX3_write_3 : List UInt8 := [180, 0, 181, 172]
abbrev dktX3_write_3 : List UInt8 := dkwX3_write_3 ++ []
def dkwX3_write_2 : List UInt8 := [79, 42, 180, 0, 89, 42, 180, 0, 181, 28, 79, 42, 89, 180, 0, 181, 4, 96, 181, 0, 181, 42]
abbrev dktX3_write_2 : List UInt8 := dkwX3_write_2 ++ dktX3_write_3
def dkwX3_write_1 : List UInt8 := [18, 112, 172, 42, 180, 0, 181, 16, 15, 160, 0, 6, 18, 116, 172, 42, 180, 0, 86, 42, 180, 0, 181, 27]
abbrev dktX3_write_1 : List UInt8 := dkwX3_write_1 ++ dktX3_write_2
def dkwX3_write_0 : List UInt8 := [42, 27, 182, 0, 200, 154, 0, 6, 18, 203, 172, 28, 133, 9, 20, 1, 56, 184, 0, 102, 154, 0, 6]
abbrev dktX3_write_0 : List UInt8 := dkwX3_write_0 ++ dktX3_write_1
theorem dksX3_write_0 : cX3_write.data.toList.drop 0 = dktX3_write_0 := by decide +kernel
theorem dksX3_write_1 : cX3_write.data.toList.drop 23 = dktX3_write_1 := dk_seg dksX3_write_0 23 rfl rfl
theorem dksX3_write_2 : cX3_write.data.toList.drop 47 = dktX3_write_2 := dk_seg dksX3_write_1 24 rfl rfl
theorem dksX3_write_3 : cX3_write.data.toList.drop 69 = dktX3_write_3 := dk_seg dksX3_write_2 22 rfl rfl
theorem dX3_write_0 : decode cX3_write 0 = .ok (.aload_n 0, 1) := dk_42 (dk_at dksX3_write_0 0 rfl rfl)
theorem dX3_write_1 : decode cX3_write 1 = .ok (.iload_n 1, 1) := dk_27 (dk_at dksX3_write_0 1 rfl rfl)
theorem dX3_write_2 : decode cX3_write 2 = .ok (.invokevirtual 200, 3) := dk_182 0 200 (dk_at dksX3_write_0 2 rfl rfl)
theorem dX3_write_5 : decode cX3_write 5 = .ok (.ifCond .ne 6, 3) := dk_154 0 6 (dk_at dksX3_write_0 5 rfl rfl)
theorem dX3_write_8 : decode cX3_write 8 = .ok (.ldc 203, 2) := dk_18 203 (dk_at dksX3_write_0 8 rfl rfl)
theorem dX3_write_10 : decode cX3_write 10 = .ok (.ireturn, 1) := dk_172 (dk_at dksX3_write_0 10 rfl rfl)
theorem dX3_write_11 : decode cX3_write 11 = .ok (.iload_n 2, 1) := dk_28 (dk_at dksX3_write_0 11 rfl rfl)
theorem dX3_write_12 : decode cX3_write 12 = .ok (.i2l, 1) := dk_133 (dk_at dksX3_write_0 12 rfl rfl)
theorem dX3_write_13 : decode cX3_write 13 = .ok (.lconst 0, 1) := dk_9 (dk_at dksX3_write_0 13 rfl rfl)
theorem dX3_write_14 : decode cX3_write 14 = .ok (.ldc2_w 312, 3) := dk_20 1 56 (dk_at dksX3_write_0 14 rfl rfl)
theorem dX3_write_17 : decode cX3_write 17 = .ok (.invokestatic 102, 3) := dk_184 0 102 (dk_at dksX3_write_0 17 rfl rfl)
theorem dX3_write_20 : decode cX3_write 20 = .ok (.ifCond .ne 6, 3) := dk_154 0 6 (dk_at dksX3_write_0 20 rfl rfl)
theorem dX3_write_23 : decode cX3_write 23 = .ok (.ldc 112, 2) := dk_18 112 (dk_at dksX3_write_1 0 rfl rfl)
theorem dX3_write_25 : decode cX3_write 25 = .ok (.ireturn, 1) := dk_172 (dk_at dksX3_write_1 2 rfl rfl)
theorem dX3_write_26 : decode cX3_write 26 = .ok (.aload_n 0, 1) := dk_42 (dk_at dksX3_write_1 3 rfl rfl)
theorem dX3_write_27 : decode cX3_write 27 = .ok (.getfield 181, 3) := dk_180 0 181 (dk_at dksX3_write_1 4 rfl rfl)
theorem dX3_write_30 : decode cX3_write 30 = .ok (.bipush 15, 2) := dk_16 15 (dk_at dksX3_write_1 7 rfl rfl)
theorem dX3_write_32 : decode cX3_write 32 = .ok (.if_icmp .ne 6, 3) := dk_160 0 6 (dk_at dksX3_write_1 9 rfl rfl)
theorem dX3_write_35 : decode cX3_write 35 = .ok (.ldc 116, 2) := dk_18 116 (dk_at dksX3_write_1 12 rfl rfl)
theorem dX3_write_37 : decode cX3_write 37 = .ok (.ireturn, 1) := dk_172 (dk_at dksX3_write_1 14 rfl rfl)
theorem dX3_write_38 : decode cX3_write 38 = .ok (.aload_n 0, 1) := dk_42 (dk_at dksX3_write_1 15 rfl rfl)
theorem dX3_write_39 : decode cX3_write 39 = .ok (.getfield 86, 3) := dk_180 0 86 (dk_at dksX3_write_1 16 rfl rfl)
theorem dX3_write_42 : decode cX3_write 42 = .ok (.aload_n 0, 1) := dk_42 (dk_at dksX3_write_1 19 rfl rfl)
theorem dX3_write_43 : decode cX3_write 43 = .ok (.getfield 181, 3) := dk_180 0 181 (dk_at dksX3_write_1 20 rfl rfl)
theorem dX3_write_46 : decode cX3_write 46 = .ok (.iload_n 1, 1) := dk_27 (dk_at dksX3_write_1 23 rfl rfl)
theorem dX3_write_47 : decode cX3_write 47 = .ok (.iastore, 1) := dk_79 (dk_at dksX3_write_2 0 rfl rfl)
theorem dX3_write_48 : decode cX3_write 48 = .ok (.aload_n 0, 1) := dk_42 (dk_at dksX3_write_2 1 rfl rfl)
theorem dX3_write_49 : decode cX3_write 49 = .ok (.getfield 89, 3) := dk_180 0 89 (dk_at dksX3_write_2 2 rfl rfl)
theorem dX3_write_52 : decode cX3_write 52 = .ok (.aload_n 0, 1) := dk_42 (dk_at dksX3_write_2 5 rfl rfl)
theorem dX3_write_53 : decode cX3_write 53 = .ok (.getfield 181, 3) := dk_180 0 181 (dk_at dksX3_write_2 6 rfl rfl)
theorem dX3_write_56 : decode cX3_write 56 = .ok (.iload_n 2, 1) := dk_28 (dk_at dksX3_write_2 9 rfl rfl)
theorem dX3_write_57 : decode cX3_write 57 = .ok (.iastore, 1) := dk_79 (dk_at dksX3_write_2 10 rfl rfl)
theorem dX3_write_58 : decode cX3_write 58 = .ok (.aload_n 0, 1) := dk_42 (dk_at dksX3_write_2 11 rfl rfl)
theorem dX3_write_59 : decode cX3_write 59 = .ok (.dup, 1) := dk_89 (dk_at dksX3_write_2 12 rfl rfl)
theorem dX3_write_60 : decode cX3_write 60 = .ok (.getfield 181, 3) := dk_180 0 181 (dk_at dksX3_write_2 13 rfl rfl)
theorem dX3_write_63 : decode cX3_write 63 = .ok (.iconst 1, 1) := dk_4 (dk_at dksX3_write_2 16 rfl rfl)
theorem dX3_write_64 : decode cX3_write 64 = .ok (.iadd, 1) := dk_96 (dk_at dksX3_write_2 17 rfl rfl)
theorem dX3_write_65 : decode cX3_write 65 = .ok (.putfield 181, 3) := dk_181 0 181 (dk_at dksX3_write_2 18 rfl rfl)
theorem dX3_write_68 : decode cX3_write 68 = .ok (.aload_n 0, 1) := dk_42 (dk_at dksX3_write_2 21 rfl rfl)
theorem dX3_write_69 : decode cX3_write 69 = .ok (.getfield 181, 3) := dk_180 0 181 (dk_at dksX3_write_3 0 rfl rfl)
theorem dX3_write_72 : decode cX3_write 72 = .ok (.ireturn, 1) := dk_172 (dk_at dksX3_write_3 3 rfl rfl)
abbrev cX3_tear : ByteArray := prog_9_method_72_code
def yX3_tear : MethodName := ⟨RX3, "tear", "()I"⟩
def dkwX3_tear_0 : List UInt8 := [42, 180, 0, 178, 42, 180, 0, 181, 96, 60, 42, 3, 181, 0, 178, 42, 3, 181, 0, 181, 27, 172]
abbrev dktX3_tear_0 : List UInt8 := dkwX3_tear_0 ++ []
theorem dksX3_tear_0 : cX3_tear.data.toList.drop 0 = dktX3_tear_0 := by decide +kernel
theorem dX3_tear_0 : decode cX3_tear 0 = .ok (.aload_n 0, 1) := dk_42 (dk_at dksX3_tear_0 0 rfl rfl)
theorem dX3_tear_1 : decode cX3_tear 1 = .ok (.getfield 178, 3) := dk_180 0 178 (dk_at dksX3_tear_0 1 rfl rfl)
theorem dX3_tear_4 : decode cX3_tear 4 = .ok (.aload_n 0, 1) := dk_42 (dk_at dksX3_tear_0 4 rfl rfl)
theorem dX3_tear_5 : decode cX3_tear 5 = .ok (.getfield 181, 3) := dk_180 0 181 (dk_at dksX3_tear_0 5 rfl rfl)
theorem dX3_tear_8 : decode cX3_tear 8 = .ok (.iadd, 1) := dk_96 (dk_at dksX3_tear_0 8 rfl rfl)
theorem dX3_tear_9 : decode cX3_tear 9 = .ok (.istore_n 1, 1) := dk_60 (dk_at dksX3_tear_0 9 rfl rfl)
theorem dX3_tear_10 : decode cX3_tear 10 = .ok (.aload_n 0, 1) := dk_42 (dk_at dksX3_tear_0 10 rfl rfl)
theorem dX3_tear_11 : decode cX3_tear 11 = .ok (.iconst 0, 1) := dk_3 (dk_at dksX3_tear_0 11 rfl rfl)
theorem dX3_tear_12 : decode cX3_tear 12 = .ok (.putfield 178, 3) := dk_181 0 178 (dk_at dksX3_tear_0 12 rfl rfl)
theorem dX3_tear_15 : decode cX3_tear 15 = .ok (.aload_n 0, 1) := dk_42 (dk_at dksX3_tear_0 15 rfl rfl)
theorem dX3_tear_16 : decode cX3_tear 16 = .ok (.iconst 0, 1) := dk_3 (dk_at dksX3_tear_0 16 rfl rfl)
theorem dX3_tear_17 : decode cX3_tear 17 = .ok (.putfield 181, 3) := dk_181 0 181 (dk_at dksX3_tear_0 17 rfl rfl)
theorem dX3_tear_20 : decode cX3_tear 20 = .ok (.iload_n 1, 1) := dk_27 (dk_at dksX3_tear_0 20 rfl rfl)
theorem dX3_tear_21 : decode cX3_tear 21 = .ok (.ireturn, 1) := dk_172 (dk_at dksX3_tear_0 21 rfl rfl)
abbrev cX3_judge : ByteArray := prog_9_method_73_code
def yX3_judge : MethodName := ⟨RX3, "judge", "()I"⟩
def dkwX3_judge_1 : List UInt8 := [27, 46, 159, 0, 5, 27, 172, 132, 1, 1, 167, 255, 224, 2, 172]
abbrev dktX3_judge_1 : List UInt8 := dkwX3_judge_1 ++ []
def dkwX3_judge_0 : List UInt8 := [3, 60, 27, 42, 180, 0, 181, 162, 0, 30, 42, 42, 180, 0, 86, 27, 46, 182, 0, 204, 42, 180, 0, 89]
abbrev dktX3_judge_0 : List UInt8 := dkwX3_judge_0 ++ dktX3_judge_1
theorem dksX3_judge_0 : cX3_judge.data.toList.drop 0 = dktX3_judge_0 := by decide +kernel
theorem dksX3_judge_1 : cX3_judge.data.toList.drop 24 = dktX3_judge_1 := dk_seg dksX3_judge_0 24 rfl rfl
theorem dX3_judge_0 : decode cX3_judge 0 = .ok (.iconst 0, 1) := dk_3 (dk_at dksX3_judge_0 0 rfl rfl)
theorem dX3_judge_1 : decode cX3_judge 1 = .ok (.istore_n 1, 1) := dk_60 (dk_at dksX3_judge_0 1 rfl rfl)
theorem dX3_judge_2 : decode cX3_judge 2 = .ok (.iload_n 1, 1) := dk_27 (dk_at dksX3_judge_0 2 rfl rfl)
theorem dX3_judge_3 : decode cX3_judge 3 = .ok (.aload_n 0, 1) := dk_42 (dk_at dksX3_judge_0 3 rfl rfl)
theorem dX3_judge_4 : decode cX3_judge 4 = .ok (.getfield 181, 3) := dk_180 0 181 (dk_at dksX3_judge_0 4 rfl rfl)
theorem dX3_judge_7 : decode cX3_judge 7 = .ok (.if_icmp .ge 30, 3) := dk_162 0 30 (dk_at dksX3_judge_0 7 rfl rfl)
theorem dX3_judge_10 : decode cX3_judge 10 = .ok (.aload_n 0, 1) := dk_42 (dk_at dksX3_judge_0 10 rfl rfl)
theorem dX3_judge_11 : decode cX3_judge 11 = .ok (.aload_n 0, 1) := dk_42 (dk_at dksX3_judge_0 11 rfl rfl)
theorem dX3_judge_12 : decode cX3_judge 12 = .ok (.getfield 86, 3) := dk_180 0 86 (dk_at dksX3_judge_0 12 rfl rfl)
theorem dX3_judge_15 : decode cX3_judge 15 = .ok (.iload_n 1, 1) := dk_27 (dk_at dksX3_judge_0 15 rfl rfl)
theorem dX3_judge_16 : decode cX3_judge 16 = .ok (.iaload, 1) := dk_46 (dk_at dksX3_judge_0 16 rfl rfl)
theorem dX3_judge_17 : decode cX3_judge 17 = .ok (.invokevirtual 204, 3) := dk_182 0 204 (dk_at dksX3_judge_0 17 rfl rfl)
theorem dX3_judge_20 : decode cX3_judge 20 = .ok (.aload_n 0, 1) := dk_42 (dk_at dksX3_judge_0 20 rfl rfl)
theorem dX3_judge_21 : decode cX3_judge 21 = .ok (.getfield 89, 3) := dk_180 0 89 (dk_at dksX3_judge_0 21 rfl rfl)
theorem dX3_judge_24 : decode cX3_judge 24 = .ok (.iload_n 1, 1) := dk_27 (dk_at dksX3_judge_1 0 rfl rfl)
theorem dX3_judge_25 : decode cX3_judge 25 = .ok (.iaload, 1) := dk_46 (dk_at dksX3_judge_1 1 rfl rfl)
theorem dX3_judge_26 : decode cX3_judge 26 = .ok (.if_icmp .eq 5, 3) := dk_159 0 5 (dk_at dksX3_judge_1 2 rfl rfl)
theorem dX3_judge_29 : decode cX3_judge 29 = .ok (.iload_n 1, 1) := dk_27 (dk_at dksX3_judge_1 5 rfl rfl)
theorem dX3_judge_30 : decode cX3_judge 30 = .ok (.ireturn, 1) := dk_172 (dk_at dksX3_judge_1 6 rfl rfl)
theorem dX3_judge_31 : decode cX3_judge 31 = .ok (.iinc 1 1, 3) := dk_132 1 1 (dk_at dksX3_judge_1 7 rfl rfl)
theorem dX3_judge_34 : decode cX3_judge 34 = .ok (.goto (-32), 3) := dk_167 255 224 (dk_at dksX3_judge_1 10 rfl rfl)
theorem dX3_judge_37 : decode cX3_judge 37 = .ok (.iconst (-1), 1) := dk_2 (dk_at dksX3_judge_1 13 rfl rfl)
theorem dX3_judge_38 : decode cX3_judge 38 = .ok (.ireturn, 1) := dk_172 (dk_at dksX3_judge_1 14 rfl rfl)
abbrev cX3_seed : ByteArray := prog_9_method_74_code
def yX3_seed : MethodName := ⟨RX3, "seed", "(I)I"⟩
def dkwX3_seed_0 : List UInt8 := [27, 156, 0, 6, 18, 112, 172, 42, 180, 0, 234, 61, 42, 27, 181, 0, 234, 28, 172]
abbrev dktX3_seed_0 : List UInt8 := dkwX3_seed_0 ++ []
theorem dksX3_seed_0 : cX3_seed.data.toList.drop 0 = dktX3_seed_0 := by decide +kernel
theorem dX3_seed_0 : decode cX3_seed 0 = .ok (.iload_n 1, 1) := dk_27 (dk_at dksX3_seed_0 0 rfl rfl)
theorem dX3_seed_1 : decode cX3_seed 1 = .ok (.ifCond .ge 6, 3) := dk_156 0 6 (dk_at dksX3_seed_0 1 rfl rfl)
theorem dX3_seed_4 : decode cX3_seed 4 = .ok (.ldc 112, 2) := dk_18 112 (dk_at dksX3_seed_0 4 rfl rfl)
theorem dX3_seed_6 : decode cX3_seed 6 = .ok (.ireturn, 1) := dk_172 (dk_at dksX3_seed_0 6 rfl rfl)
theorem dX3_seed_7 : decode cX3_seed 7 = .ok (.aload_n 0, 1) := dk_42 (dk_at dksX3_seed_0 7 rfl rfl)
theorem dX3_seed_8 : decode cX3_seed 8 = .ok (.getfield 234, 3) := dk_180 0 234 (dk_at dksX3_seed_0 8 rfl rfl)
theorem dX3_seed_11 : decode cX3_seed 11 = .ok (.istore_n 2, 1) := dk_61 (dk_at dksX3_seed_0 11 rfl rfl)
theorem dX3_seed_12 : decode cX3_seed 12 = .ok (.aload_n 0, 1) := dk_42 (dk_at dksX3_seed_0 12 rfl rfl)
theorem dX3_seed_13 : decode cX3_seed 13 = .ok (.iload_n 1, 1) := dk_27 (dk_at dksX3_seed_0 13 rfl rfl)
theorem dX3_seed_14 : decode cX3_seed 14 = .ok (.putfield 234, 3) := dk_181 0 234 (dk_at dksX3_seed_0 14 rfl rfl)
theorem dX3_seed_17 : decode cX3_seed 17 = .ok (.iload_n 2, 1) := dk_28 (dk_at dksX3_seed_0 17 rfl rfl)
theorem dX3_seed_18 : decode cX3_seed 18 = .ok (.ireturn, 1) := dk_172 (dk_at dksX3_seed_0 18 rfl rfl)
abbrev cX3_keep : ByteArray := prog_9_method_75_code
def yX3_keep : MethodName := ⟨RX3, "keep", "(I)I"⟩
def dkwX3_keep_3 : List UInt8 := [181, 0, 184, 4, 172]
abbrev dktX3_keep_3 : List UInt8 := dkwX3_keep_3 ++ []
def dkwX3_keep_2 : List UInt8 := [180, 0, 92, 16, 23, 27, 104, 16, 22, 96, 42, 180, 0, 234, 79, 42, 180, 0, 95, 27, 4, 84, 42, 3]
abbrev dktX3_keep_2 : List UInt8 := dkwX3_keep_2 ++ dktX3_keep_3
def dkwX3_keep_1 : List UInt8 := [180, 0, 92, 16, 23, 27, 104, 28, 96, 42, 180, 0, 37, 28, 46, 79, 132, 2, 1, 167, 255, 230, 42]
abbrev dktX3_keep_1 : List UInt8 := dkwX3_keep_1 ++ dktX3_keep_2
def dkwX3_keep_0 : List UInt8 := [27, 133, 9, 10, 184, 0, 102, 154, 0, 6, 18, 203, 172, 3, 61, 28, 16, 22, 162, 0, 26, 42]
abbrev dktX3_keep_0 : List UInt8 := dkwX3_keep_0 ++ dktX3_keep_1
theorem dksX3_keep_0 : cX3_keep.data.toList.drop 0 = dktX3_keep_0 := by decide +kernel
theorem dksX3_keep_1 : cX3_keep.data.toList.drop 22 = dktX3_keep_1 := dk_seg dksX3_keep_0 22 rfl rfl
theorem dksX3_keep_2 : cX3_keep.data.toList.drop 45 = dktX3_keep_2 := dk_seg dksX3_keep_1 23 rfl rfl
theorem dksX3_keep_3 : cX3_keep.data.toList.drop 69 = dktX3_keep_3 := dk_seg dksX3_keep_2 24 rfl rfl
theorem dX3_keep_0 : decode cX3_keep 0 = .ok (.iload_n 1, 1) := dk_27 (dk_at dksX3_keep_0 0 rfl rfl)
theorem dX3_keep_1 : decode cX3_keep 1 = .ok (.i2l, 1) := dk_133 (dk_at dksX3_keep_0 1 rfl rfl)
theorem dX3_keep_2 : decode cX3_keep 2 = .ok (.lconst 0, 1) := dk_9 (dk_at dksX3_keep_0 2 rfl rfl)
theorem dX3_keep_3 : decode cX3_keep 3 = .ok (.lconst 1, 1) := dk_10 (dk_at dksX3_keep_0 3 rfl rfl)
theorem dX3_keep_4 : decode cX3_keep 4 = .ok (.invokestatic 102, 3) := dk_184 0 102 (dk_at dksX3_keep_0 4 rfl rfl)
theorem dX3_keep_7 : decode cX3_keep 7 = .ok (.ifCond .ne 6, 3) := dk_154 0 6 (dk_at dksX3_keep_0 7 rfl rfl)
theorem dX3_keep_10 : decode cX3_keep 10 = .ok (.ldc 203, 2) := dk_18 203 (dk_at dksX3_keep_0 10 rfl rfl)
theorem dX3_keep_12 : decode cX3_keep 12 = .ok (.ireturn, 1) := dk_172 (dk_at dksX3_keep_0 12 rfl rfl)
theorem dX3_keep_13 : decode cX3_keep 13 = .ok (.iconst 0, 1) := dk_3 (dk_at dksX3_keep_0 13 rfl rfl)
theorem dX3_keep_14 : decode cX3_keep 14 = .ok (.istore_n 2, 1) := dk_61 (dk_at dksX3_keep_0 14 rfl rfl)
theorem dX3_keep_15 : decode cX3_keep 15 = .ok (.iload_n 2, 1) := dk_28 (dk_at dksX3_keep_0 15 rfl rfl)
theorem dX3_keep_16 : decode cX3_keep 16 = .ok (.bipush 22, 2) := dk_16 22 (dk_at dksX3_keep_0 16 rfl rfl)
theorem dX3_keep_18 : decode cX3_keep 18 = .ok (.if_icmp .ge 26, 3) := dk_162 0 26 (dk_at dksX3_keep_0 18 rfl rfl)
theorem dX3_keep_21 : decode cX3_keep 21 = .ok (.aload_n 0, 1) := dk_42 (dk_at dksX3_keep_0 21 rfl rfl)
theorem dX3_keep_22 : decode cX3_keep 22 = .ok (.getfield 92, 3) := dk_180 0 92 (dk_at dksX3_keep_1 0 rfl rfl)
theorem dX3_keep_25 : decode cX3_keep 25 = .ok (.bipush 23, 2) := dk_16 23 (dk_at dksX3_keep_1 3 rfl rfl)
theorem dX3_keep_27 : decode cX3_keep 27 = .ok (.iload_n 1, 1) := dk_27 (dk_at dksX3_keep_1 5 rfl rfl)
theorem dX3_keep_28 : decode cX3_keep 28 = .ok (.imul, 1) := dk_104 (dk_at dksX3_keep_1 6 rfl rfl)
theorem dX3_keep_29 : decode cX3_keep 29 = .ok (.iload_n 2, 1) := dk_28 (dk_at dksX3_keep_1 7 rfl rfl)
theorem dX3_keep_30 : decode cX3_keep 30 = .ok (.iadd, 1) := dk_96 (dk_at dksX3_keep_1 8 rfl rfl)
theorem dX3_keep_31 : decode cX3_keep 31 = .ok (.aload_n 0, 1) := dk_42 (dk_at dksX3_keep_1 9 rfl rfl)
theorem dX3_keep_32 : decode cX3_keep 32 = .ok (.getfield 37, 3) := dk_180 0 37 (dk_at dksX3_keep_1 10 rfl rfl)
theorem dX3_keep_35 : decode cX3_keep 35 = .ok (.iload_n 2, 1) := dk_28 (dk_at dksX3_keep_1 13 rfl rfl)
theorem dX3_keep_36 : decode cX3_keep 36 = .ok (.iaload, 1) := dk_46 (dk_at dksX3_keep_1 14 rfl rfl)
theorem dX3_keep_37 : decode cX3_keep 37 = .ok (.iastore, 1) := dk_79 (dk_at dksX3_keep_1 15 rfl rfl)
theorem dX3_keep_38 : decode cX3_keep 38 = .ok (.iinc 2 1, 3) := dk_132 2 1 (dk_at dksX3_keep_1 16 rfl rfl)
theorem dX3_keep_41 : decode cX3_keep 41 = .ok (.goto (-26), 3) := dk_167 255 230 (dk_at dksX3_keep_1 19 rfl rfl)
theorem dX3_keep_44 : decode cX3_keep 44 = .ok (.aload_n 0, 1) := dk_42 (dk_at dksX3_keep_1 22 rfl rfl)
theorem dX3_keep_45 : decode cX3_keep 45 = .ok (.getfield 92, 3) := dk_180 0 92 (dk_at dksX3_keep_2 0 rfl rfl)
theorem dX3_keep_48 : decode cX3_keep 48 = .ok (.bipush 23, 2) := dk_16 23 (dk_at dksX3_keep_2 3 rfl rfl)
theorem dX3_keep_50 : decode cX3_keep 50 = .ok (.iload_n 1, 1) := dk_27 (dk_at dksX3_keep_2 5 rfl rfl)
theorem dX3_keep_51 : decode cX3_keep 51 = .ok (.imul, 1) := dk_104 (dk_at dksX3_keep_2 6 rfl rfl)
theorem dX3_keep_52 : decode cX3_keep 52 = .ok (.bipush 22, 2) := dk_16 22 (dk_at dksX3_keep_2 7 rfl rfl)
theorem dX3_keep_54 : decode cX3_keep 54 = .ok (.iadd, 1) := dk_96 (dk_at dksX3_keep_2 9 rfl rfl)
theorem dX3_keep_55 : decode cX3_keep 55 = .ok (.aload_n 0, 1) := dk_42 (dk_at dksX3_keep_2 10 rfl rfl)
theorem dX3_keep_56 : decode cX3_keep 56 = .ok (.getfield 234, 3) := dk_180 0 234 (dk_at dksX3_keep_2 11 rfl rfl)
theorem dX3_keep_59 : decode cX3_keep 59 = .ok (.iastore, 1) := dk_79 (dk_at dksX3_keep_2 14 rfl rfl)
theorem dX3_keep_60 : decode cX3_keep 60 = .ok (.aload_n 0, 1) := dk_42 (dk_at dksX3_keep_2 15 rfl rfl)
theorem dX3_keep_61 : decode cX3_keep 61 = .ok (.getfield 95, 3) := dk_180 0 95 (dk_at dksX3_keep_2 16 rfl rfl)
theorem dX3_keep_64 : decode cX3_keep 64 = .ok (.iload_n 1, 1) := dk_27 (dk_at dksX3_keep_2 19 rfl rfl)
theorem dX3_keep_65 : decode cX3_keep 65 = .ok (.iconst 1, 1) := dk_4 (dk_at dksX3_keep_2 20 rfl rfl)
theorem dX3_keep_66 : decode cX3_keep 66 = .ok (.bastore, 1) := dk_84 (dk_at dksX3_keep_2 21 rfl rfl)
theorem dX3_keep_67 : decode cX3_keep 67 = .ok (.aload_n 0, 1) := dk_42 (dk_at dksX3_keep_2 22 rfl rfl)
theorem dX3_keep_68 : decode cX3_keep 68 = .ok (.iconst 0, 1) := dk_3 (dk_at dksX3_keep_2 23 rfl rfl)
theorem dX3_keep_69 : decode cX3_keep 69 = .ok (.putfield 184, 3) := dk_181 0 184 (dk_at dksX3_keep_3 0 rfl rfl)
theorem dX3_keep_72 : decode cX3_keep 72 = .ok (.iconst 1, 1) := dk_4 (dk_at dksX3_keep_3 3 rfl rfl)
theorem dX3_keep_73 : decode cX3_keep 73 = .ok (.ireturn, 1) := dk_172 (dk_at dksX3_keep_3 4 rfl rfl)
abbrev cX3_goBack : ByteArray := prog_9_method_76_code
def yX3_goBack : MethodName := ⟨RX3, "goBack", "(I)I"⟩
def dkwX3_goBack_3 : List UInt8 := [42, 3, 181, 0, 184, 4, 172]
abbrev dktX3_goBack_3 : List UInt8 := dkwX3_goBack_3 ++ []
def dkwX3_goBack_2 : List UInt8 := [46, 79, 132, 2, 1, 167, 255, 230, 42, 42, 180, 0, 92, 16, 23, 27, 104, 16, 22, 96, 46, 181, 0, 234]
abbrev dktX3_goBack_2 : List UInt8 := dkwX3_goBack_2 ++ dktX3_goBack_3
def dkwX3_goBack_1 : List UInt8 := [172, 3, 61, 28, 16, 22, 162, 0, 26, 42, 180, 0, 37, 28, 42, 180, 0, 92, 16, 23, 27, 104, 28, 96]
abbrev dktX3_goBack_1 : List UInt8 := dkwX3_goBack_1 ++ dktX3_goBack_2
def dkwX3_goBack_0 : List UInt8 := [27, 133, 9, 10, 184, 0, 102, 154, 0, 6, 18, 203, 172, 42, 180, 0, 95, 27, 51, 154, 0, 6, 18, 214]
abbrev dktX3_goBack_0 : List UInt8 := dkwX3_goBack_0 ++ dktX3_goBack_1
theorem dksX3_goBack_0 : cX3_goBack.data.toList.drop 0 = dktX3_goBack_0 := by decide +kernel
theorem dksX3_goBack_1 : cX3_goBack.data.toList.drop 24 = dktX3_goBack_1 := dk_seg dksX3_goBack_0 24 rfl rfl
theorem dksX3_goBack_2 : cX3_goBack.data.toList.drop 48 = dktX3_goBack_2 := dk_seg dksX3_goBack_1 24 rfl rfl
theorem dksX3_goBack_3 : cX3_goBack.data.toList.drop 72 = dktX3_goBack_3 := dk_seg dksX3_goBack_2 24 rfl rfl
theorem dX3_goBack_0 : decode cX3_goBack 0 = .ok (.iload_n 1, 1) := dk_27 (dk_at dksX3_goBack_0 0 rfl rfl)
theorem dX3_goBack_1 : decode cX3_goBack 1 = .ok (.i2l, 1) := dk_133 (dk_at dksX3_goBack_0 1 rfl rfl)
theorem dX3_goBack_2 : decode cX3_goBack 2 = .ok (.lconst 0, 1) := dk_9 (dk_at dksX3_goBack_0 2 rfl rfl)
theorem dX3_goBack_3 : decode cX3_goBack 3 = .ok (.lconst 1, 1) := dk_10 (dk_at dksX3_goBack_0 3 rfl rfl)
theorem dX3_goBack_4 : decode cX3_goBack 4 = .ok (.invokestatic 102, 3) := dk_184 0 102 (dk_at dksX3_goBack_0 4 rfl rfl)
theorem dX3_goBack_7 : decode cX3_goBack 7 = .ok (.ifCond .ne 6, 3) := dk_154 0 6 (dk_at dksX3_goBack_0 7 rfl rfl)
theorem dX3_goBack_10 : decode cX3_goBack 10 = .ok (.ldc 203, 2) := dk_18 203 (dk_at dksX3_goBack_0 10 rfl rfl)
theorem dX3_goBack_12 : decode cX3_goBack 12 = .ok (.ireturn, 1) := dk_172 (dk_at dksX3_goBack_0 12 rfl rfl)
theorem dX3_goBack_13 : decode cX3_goBack 13 = .ok (.aload_n 0, 1) := dk_42 (dk_at dksX3_goBack_0 13 rfl rfl)
theorem dX3_goBack_14 : decode cX3_goBack 14 = .ok (.getfield 95, 3) := dk_180 0 95 (dk_at dksX3_goBack_0 14 rfl rfl)
theorem dX3_goBack_17 : decode cX3_goBack 17 = .ok (.iload_n 1, 1) := dk_27 (dk_at dksX3_goBack_0 17 rfl rfl)
theorem dX3_goBack_18 : decode cX3_goBack 18 = .ok (.baload, 1) := dk_51 (dk_at dksX3_goBack_0 18 rfl rfl)
theorem dX3_goBack_19 : decode cX3_goBack 19 = .ok (.ifCond .ne 6, 3) := dk_154 0 6 (dk_at dksX3_goBack_0 19 rfl rfl)
theorem dX3_goBack_22 : decode cX3_goBack 22 = .ok (.ldc 214, 2) := dk_18 214 (dk_at dksX3_goBack_0 22 rfl rfl)
theorem dX3_goBack_24 : decode cX3_goBack 24 = .ok (.ireturn, 1) := dk_172 (dk_at dksX3_goBack_1 0 rfl rfl)
theorem dX3_goBack_25 : decode cX3_goBack 25 = .ok (.iconst 0, 1) := dk_3 (dk_at dksX3_goBack_1 1 rfl rfl)
theorem dX3_goBack_26 : decode cX3_goBack 26 = .ok (.istore_n 2, 1) := dk_61 (dk_at dksX3_goBack_1 2 rfl rfl)
theorem dX3_goBack_27 : decode cX3_goBack 27 = .ok (.iload_n 2, 1) := dk_28 (dk_at dksX3_goBack_1 3 rfl rfl)
theorem dX3_goBack_28 : decode cX3_goBack 28 = .ok (.bipush 22, 2) := dk_16 22 (dk_at dksX3_goBack_1 4 rfl rfl)
theorem dX3_goBack_30 : decode cX3_goBack 30 = .ok (.if_icmp .ge 26, 3) := dk_162 0 26 (dk_at dksX3_goBack_1 6 rfl rfl)
theorem dX3_goBack_33 : decode cX3_goBack 33 = .ok (.aload_n 0, 1) := dk_42 (dk_at dksX3_goBack_1 9 rfl rfl)
theorem dX3_goBack_34 : decode cX3_goBack 34 = .ok (.getfield 37, 3) := dk_180 0 37 (dk_at dksX3_goBack_1 10 rfl rfl)
theorem dX3_goBack_37 : decode cX3_goBack 37 = .ok (.iload_n 2, 1) := dk_28 (dk_at dksX3_goBack_1 13 rfl rfl)
theorem dX3_goBack_38 : decode cX3_goBack 38 = .ok (.aload_n 0, 1) := dk_42 (dk_at dksX3_goBack_1 14 rfl rfl)
theorem dX3_goBack_39 : decode cX3_goBack 39 = .ok (.getfield 92, 3) := dk_180 0 92 (dk_at dksX3_goBack_1 15 rfl rfl)
theorem dX3_goBack_42 : decode cX3_goBack 42 = .ok (.bipush 23, 2) := dk_16 23 (dk_at dksX3_goBack_1 18 rfl rfl)
theorem dX3_goBack_44 : decode cX3_goBack 44 = .ok (.iload_n 1, 1) := dk_27 (dk_at dksX3_goBack_1 20 rfl rfl)
theorem dX3_goBack_45 : decode cX3_goBack 45 = .ok (.imul, 1) := dk_104 (dk_at dksX3_goBack_1 21 rfl rfl)
theorem dX3_goBack_46 : decode cX3_goBack 46 = .ok (.iload_n 2, 1) := dk_28 (dk_at dksX3_goBack_1 22 rfl rfl)
theorem dX3_goBack_47 : decode cX3_goBack 47 = .ok (.iadd, 1) := dk_96 (dk_at dksX3_goBack_1 23 rfl rfl)
theorem dX3_goBack_48 : decode cX3_goBack 48 = .ok (.iaload, 1) := dk_46 (dk_at dksX3_goBack_2 0 rfl rfl)
theorem dX3_goBack_49 : decode cX3_goBack 49 = .ok (.iastore, 1) := dk_79 (dk_at dksX3_goBack_2 1 rfl rfl)
theorem dX3_goBack_50 : decode cX3_goBack 50 = .ok (.iinc 2 1, 3) := dk_132 2 1 (dk_at dksX3_goBack_2 2 rfl rfl)
theorem dX3_goBack_53 : decode cX3_goBack 53 = .ok (.goto (-26), 3) := dk_167 255 230 (dk_at dksX3_goBack_2 5 rfl rfl)
theorem dX3_goBack_56 : decode cX3_goBack 56 = .ok (.aload_n 0, 1) := dk_42 (dk_at dksX3_goBack_2 8 rfl rfl)
theorem dX3_goBack_57 : decode cX3_goBack 57 = .ok (.aload_n 0, 1) := dk_42 (dk_at dksX3_goBack_2 9 rfl rfl)
theorem dX3_goBack_58 : decode cX3_goBack 58 = .ok (.getfield 92, 3) := dk_180 0 92 (dk_at dksX3_goBack_2 10 rfl rfl)
theorem dX3_goBack_61 : decode cX3_goBack 61 = .ok (.bipush 23, 2) := dk_16 23 (dk_at dksX3_goBack_2 13 rfl rfl)
theorem dX3_goBack_63 : decode cX3_goBack 63 = .ok (.iload_n 1, 1) := dk_27 (dk_at dksX3_goBack_2 15 rfl rfl)
theorem dX3_goBack_64 : decode cX3_goBack 64 = .ok (.imul, 1) := dk_104 (dk_at dksX3_goBack_2 16 rfl rfl)
theorem dX3_goBack_65 : decode cX3_goBack 65 = .ok (.bipush 22, 2) := dk_16 22 (dk_at dksX3_goBack_2 17 rfl rfl)
theorem dX3_goBack_67 : decode cX3_goBack 67 = .ok (.iadd, 1) := dk_96 (dk_at dksX3_goBack_2 19 rfl rfl)
theorem dX3_goBack_68 : decode cX3_goBack 68 = .ok (.iaload, 1) := dk_46 (dk_at dksX3_goBack_2 20 rfl rfl)
theorem dX3_goBack_69 : decode cX3_goBack 69 = .ok (.putfield 234, 3) := dk_181 0 234 (dk_at dksX3_goBack_2 21 rfl rfl)
theorem dX3_goBack_72 : decode cX3_goBack 72 = .ok (.aload_n 0, 1) := dk_42 (dk_at dksX3_goBack_3 0 rfl rfl)
theorem dX3_goBack_73 : decode cX3_goBack 73 = .ok (.iconst 0, 1) := dk_3 (dk_at dksX3_goBack_3 1 rfl rfl)
theorem dX3_goBack_74 : decode cX3_goBack 74 = .ok (.putfield 184, 3) := dk_181 0 184 (dk_at dksX3_goBack_3 2 rfl rfl)
theorem dX3_goBack_77 : decode cX3_goBack 77 = .ok (.iconst 1, 1) := dk_4 (dk_at dksX3_goBack_3 5 rfl rfl)
theorem dX3_goBack_78 : decode cX3_goBack 78 = .ok (.ireturn, 1) := dk_172 (dk_at dksX3_goBack_3 6 rfl rfl)
theorem q55 : (Jvm.Cond.initialized "LimbMeasuresModel") ∈ lw_all := lw_g (lw_at lw_m1 5 rfl) rfl
theorem q675 : (Jvm.Cond.instantiable "LimbMeasuresModel" (45 : Nat)) ∈ lw_all := lw_g (lw_at lw_m3 145 rfl) rfl
theorem q677 : (Jvm.Cond.instanceMethod ({ cls := "LimbMeasuresModel", name := "<init>", desc := "()V" } : Jvm.MethodName)) ∈ lw_all := lw_g (lw_at lw_m3 147 rfl) rfl
theorem q678 : (Jvm.Cond.code ({ cls := "LimbMeasuresModel", name := "<init>", desc := "()V" } : Jvm.MethodName) prog_9_method_1_code (1 : Nat) (Option.none : Option Jvm.ClassFile.FieldType)) ∈ lw_all := lw_g (lw_at lw_m3 148 rfl) rfl
theorem q679 : (Jvm.Cond.methodLink "LimbMeasuresModel" (1 : Nat) ({ cls := "java/lang/Object", name := "<init>", desc := "()V" } : Jvm.MethodName)) ∈ lw_all := lw_g (lw_at lw_m3 149 rfl) rfl
theorem q680 : (Jvm.Cond.fieldLink "LimbMeasuresModel" (99 : Nat) "LimbMeasuresModel" "limbs" "I") ∈ lw_all := lw_g (lw_at lw_m3 150 rfl) rfl
theorem q681 : (Jvm.Cond.fieldLink "LimbMeasuresModel" (7 : Nat) "LimbMeasuresModel" "adds" "[I") ∈ lw_all := lw_g (lw_at lw_m3 151 rfl) rfl
theorem q682 : (Jvm.Cond.fieldLink "LimbMeasuresModel" (13 : Nat) "LimbMeasuresModel" "heir" "[I") ∈ lw_all := lw_g (lw_at lw_m3 152 rfl) rfl
theorem q683 : (Jvm.Cond.fieldLink "LimbMeasuresModel" (166 : Nat) "LimbMeasuresModel" "contracts" "I") ∈ lw_all := lw_g (lw_at lw_m3 153 rfl) rfl
theorem q684 : (Jvm.Cond.fieldLink "LimbMeasuresModel" (16 : Nat) "LimbMeasuresModel" "contractAt" "[I") ∈ lw_all := lw_g (lw_at lw_m3 154 rfl) rfl
theorem q685 : (Jvm.Cond.fieldLink "LimbMeasuresModel" (19 : Nat) "LimbMeasuresModel" "contractLimb" "[I") ∈ lw_all := lw_g (lw_at lw_m3 155 rfl) rfl
theorem q686 : (Jvm.Cond.fieldLink "LimbMeasuresModel" (22 : Nat) "LimbMeasuresModel" "contractMany" "[I") ∈ lw_all := lw_g (lw_at lw_m3 156 rfl) rfl
theorem q687 : (Jvm.Cond.fieldLink "LimbMeasuresModel" (169 : Nat) "LimbMeasuresModel" "rates" "I") ∈ lw_all := lw_g (lw_at lw_m3 157 rfl) rfl
theorem q688 : (Jvm.Cond.fieldLink "LimbMeasuresModel" (25 : Nat) "LimbMeasuresModel" "rateFrom" "[I") ∈ lw_all := lw_g (lw_at lw_m3 158 rfl) rfl
theorem q689 : (Jvm.Cond.fieldLink "LimbMeasuresModel" (28 : Nat) "LimbMeasuresModel" "rateTo" "[I") ∈ lw_all := lw_g (lw_at lw_m3 159 rfl) rfl
theorem q690 : (Jvm.Cond.fieldLink "LimbMeasuresModel" (31 : Nat) "LimbMeasuresModel" "rateU" "[I") ∈ lw_all := lw_g (lw_at lw_m3 160 rfl) rfl
theorem q691 : (Jvm.Cond.fieldLink "LimbMeasuresModel" (34 : Nat) "LimbMeasuresModel" "rateV" "[I") ∈ lw_all := lw_g (lw_at lw_m3 161 rfl) rfl
theorem q692 : (Jvm.Cond.fieldLink "LimbMeasuresModel" (37 : Nat) "LimbMeasuresModel" "now" "[I") ∈ lw_all := lw_g (lw_at lw_m3 162 rfl) rfl
theorem q693 : (Jvm.Cond.fieldLink "LimbMeasuresModel" (234 : Nat) "LimbMeasuresModel" "seed" "I") ∈ lw_all := lw_g (lw_at lw_m3 163 rfl) rfl
theorem q694 : (Jvm.Cond.fieldLink "LimbMeasuresModel" (40 : Nat) "LimbMeasuresModel" "text" "[I") ∈ lw_all := lw_g (lw_at lw_m3 164 rfl) rfl
theorem q695 : (Jvm.Cond.fieldLink "LimbMeasuresModel" (113 : Nat) "LimbMeasuresModel" "texted" "I") ∈ lw_all := lw_g (lw_at lw_m3 165 rfl) rfl
theorem q696 : (Jvm.Cond.fieldLink "LimbMeasuresModel" (43 : Nat) "LimbMeasuresModel" "faultPlace" "I") ∈ lw_all := lw_g (lw_at lw_m3 166 rfl) rfl
theorem q697 : (Jvm.Cond.fieldLink "LimbMeasuresModel" (117 : Nat) "LimbMeasuresModel" "at0" "I") ∈ lw_all := lw_g (lw_at lw_m3 167 rfl) rfl
theorem q698 : (Jvm.Cond.fieldLink "LimbMeasuresModel" (135 : Nat) "LimbMeasuresModel" "number" "I") ∈ lw_all := lw_g (lw_at lw_m3 168 rfl) rfl
theorem q699 : (Jvm.Cond.fieldLink "LimbMeasuresModel" (132 : Nat) "LimbMeasuresModel" "numberAt" "I") ∈ lw_all := lw_g (lw_at lw_m3 169 rfl) rfl
theorem q700 : (Jvm.Cond.fieldLink "LimbMeasuresModel" (141 : Nat) "LimbMeasuresModel" "readLimbs" "I") ∈ lw_all := lw_g (lw_at lw_m3 170 rfl) rfl
theorem q701 : (Jvm.Cond.fieldLink "LimbMeasuresModel" (47 : Nat) "LimbMeasuresModel" "readLength" "[I") ∈ lw_all := lw_g (lw_at lw_m3 171 rfl) rfl
theorem q702 : (Jvm.Cond.fieldLink "LimbMeasuresModel" (50 : Nat) "LimbMeasuresModel" "readAdds" "[I") ∈ lw_all := lw_g (lw_at lw_m3 172 rfl) rfl
theorem q703 : (Jvm.Cond.fieldLink "LimbMeasuresModel" (53 : Nat) "LimbMeasuresModel" "readHeir" "[I") ∈ lw_all := lw_g (lw_at lw_m3 173 rfl) rfl
theorem q704 : (Jvm.Cond.fieldLink "LimbMeasuresModel" (148 : Nat) "LimbMeasuresModel" "readContracts" "I") ∈ lw_all := lw_g (lw_at lw_m3 174 rfl) rfl
theorem q705 : (Jvm.Cond.fieldLink "LimbMeasuresModel" (56 : Nat) "LimbMeasuresModel" "readAt" "[I") ∈ lw_all := lw_g (lw_at lw_m3 175 rfl) rfl
theorem q706 : (Jvm.Cond.fieldLink "LimbMeasuresModel" (59 : Nat) "LimbMeasuresModel" "readLimb" "[I") ∈ lw_all := lw_g (lw_at lw_m3 176 rfl) rfl
theorem q707 : (Jvm.Cond.fieldLink "LimbMeasuresModel" (62 : Nat) "LimbMeasuresModel" "readMany" "[I") ∈ lw_all := lw_g (lw_at lw_m3 177 rfl) rfl
theorem q708 : (Jvm.Cond.fieldLink "LimbMeasuresModel" (151 : Nat) "LimbMeasuresModel" "readRates" "I") ∈ lw_all := lw_g (lw_at lw_m3 178 rfl) rfl
theorem q709 : (Jvm.Cond.fieldLink "LimbMeasuresModel" (65 : Nat) "LimbMeasuresModel" "readFrom" "[I") ∈ lw_all := lw_g (lw_at lw_m3 179 rfl) rfl
theorem q710 : (Jvm.Cond.fieldLink "LimbMeasuresModel" (68 : Nat) "LimbMeasuresModel" "readTo" "[I") ∈ lw_all := lw_g (lw_at lw_m3 180 rfl) rfl
theorem q711 : (Jvm.Cond.fieldLink "LimbMeasuresModel" (71 : Nat) "LimbMeasuresModel" "readU" "[I") ∈ lw_all := lw_g (lw_at lw_m3 181 rfl) rfl
theorem q712 : (Jvm.Cond.fieldLink "LimbMeasuresModel" (74 : Nat) "LimbMeasuresModel" "readV" "[I") ∈ lw_all := lw_g (lw_at lw_m3 182 rfl) rfl
theorem q713 : (Jvm.Cond.fieldLink "LimbMeasuresModel" (184 : Nat) "LimbMeasuresModel" "undos" "I") ∈ lw_all := lw_g (lw_at lw_m3 183 rfl) rfl
theorem q714 : (Jvm.Cond.fieldLink "LimbMeasuresModel" (77 : Nat) "LimbMeasuresModel" "past" "[I") ∈ lw_all := lw_g (lw_at lw_m3 184 rfl) rfl
theorem q715 : (Jvm.Cond.fieldLink "LimbMeasuresModel" (266 : Nat) "LimbMeasuresModel" "bestBasket" "I") ∈ lw_all := lw_g (lw_at lw_m3 185 rfl) rfl
theorem q716 : (Jvm.Cond.fieldLink "LimbMeasuresModel" (285 : Nat) "LimbMeasuresModel" "ringLong" "I") ∈ lw_all := lw_g (lw_at lw_m3 186 rfl) rfl
theorem q717 : (Jvm.Cond.fieldLink "LimbMeasuresModel" (178 : Nat) "LimbMeasuresModel" "gots" "I") ∈ lw_all := lw_g (lw_at lw_m3 187 rfl) rfl
theorem q718 : (Jvm.Cond.fieldLink "LimbMeasuresModel" (80 : Nat) "LimbMeasuresModel" "gotMany" "[I") ∈ lw_all := lw_g (lw_at lw_m3 188 rfl) rfl
theorem q719 : (Jvm.Cond.fieldLink "LimbMeasuresModel" (83 : Nat) "LimbMeasuresModel" "gotMuch" "[I") ∈ lw_all := lw_g (lw_at lw_m3 189 rfl) rfl
theorem q720 : (Jvm.Cond.fieldLink "LimbMeasuresModel" (181 : Nat) "LimbMeasuresModel" "booked" "I") ∈ lw_all := lw_g (lw_at lw_m3 190 rfl) rfl
theorem q721 : (Jvm.Cond.fieldLink "LimbMeasuresModel" (86 : Nat) "LimbMeasuresModel" "bookLimb" "[I") ∈ lw_all := lw_g (lw_at lw_m3 191 rfl) rfl
theorem q722 : (Jvm.Cond.fieldLink "LimbMeasuresModel" (89 : Nat) "LimbMeasuresModel" "bookMeasure" "[I") ∈ lw_all := lw_g (lw_at lw_m3 192 rfl) rfl
theorem q723 : (Jvm.Cond.fieldLink "LimbMeasuresModel" (92 : Nat) "LimbMeasuresModel" "images" "[I") ∈ lw_all := lw_g (lw_at lw_m3 193 rfl) rfl
theorem q724 : (Jvm.Cond.fieldLink "LimbMeasuresModel" (95 : Nat) "LimbMeasuresModel" "isKept" "[Z") ∈ lw_all := lw_g (lw_at lw_m3 194 rfl) rfl
theorem q725 : (Jvm.Cond.lays "LimbMeasuresModel" "LimbMeasuresModel" "limbs" "I") ∈ lw_all := lw_g (lw_at lw_m3 195 rfl) rfl
theorem q726 : (Jvm.Cond.soleField "LimbMeasuresModel" "limbs") ∈ lw_all := lw_g (lw_at lw_m3 196 rfl) rfl
theorem q727 : (Jvm.Cond.laysFinal "LimbMeasuresModel" "LimbMeasuresModel" "adds" "[I") ∈ lw_all := lw_g (lw_at lw_m3 197 rfl) rfl
theorem q728 : (Jvm.Cond.soleField "LimbMeasuresModel" "adds") ∈ lw_all := lw_g (lw_at lw_m3 198 rfl) rfl
theorem q729 : (Jvm.Cond.laysFinal "LimbMeasuresModel" "LimbMeasuresModel" "heir" "[I") ∈ lw_all := lw_g (lw_at lw_m3 199 rfl) rfl
theorem q730 : (Jvm.Cond.soleField "LimbMeasuresModel" "heir") ∈ lw_all := lw_g (lw_at lw_m3 200 rfl) rfl
theorem q731 : (Jvm.Cond.lays "LimbMeasuresModel" "LimbMeasuresModel" "contracts" "I") ∈ lw_all := lw_g (lw_at lw_m3 201 rfl) rfl
theorem q732 : (Jvm.Cond.soleField "LimbMeasuresModel" "contracts") ∈ lw_all := lw_g (lw_at lw_m3 202 rfl) rfl
theorem q733 : (Jvm.Cond.laysFinal "LimbMeasuresModel" "LimbMeasuresModel" "contractAt" "[I") ∈ lw_all := lw_g (lw_at lw_m3 203 rfl) rfl
theorem q734 : (Jvm.Cond.soleField "LimbMeasuresModel" "contractAt") ∈ lw_all := lw_g (lw_at lw_m3 204 rfl) rfl
theorem q735 : (Jvm.Cond.laysFinal "LimbMeasuresModel" "LimbMeasuresModel" "contractLimb" "[I") ∈ lw_all := lw_g (lw_at lw_m3 205 rfl) rfl
theorem q736 : (Jvm.Cond.soleField "LimbMeasuresModel" "contractLimb") ∈ lw_all := lw_g (lw_at lw_m3 206 rfl) rfl
theorem q737 : (Jvm.Cond.laysFinal "LimbMeasuresModel" "LimbMeasuresModel" "contractMany" "[I") ∈ lw_all := lw_g (lw_at lw_m3 207 rfl) rfl
theorem q738 : (Jvm.Cond.soleField "LimbMeasuresModel" "contractMany") ∈ lw_all := lw_g (lw_at lw_m3 208 rfl) rfl
theorem q739 : (Jvm.Cond.lays "LimbMeasuresModel" "LimbMeasuresModel" "rates" "I") ∈ lw_all := lw_g (lw_at lw_m3 209 rfl) rfl
theorem q740 : (Jvm.Cond.soleField "LimbMeasuresModel" "rates") ∈ lw_all := lw_g (lw_at lw_m3 210 rfl) rfl
theorem q741 : (Jvm.Cond.laysFinal "LimbMeasuresModel" "LimbMeasuresModel" "rateFrom" "[I") ∈ lw_all := lw_g (lw_at lw_m3 211 rfl) rfl
theorem q742 : (Jvm.Cond.soleField "LimbMeasuresModel" "rateFrom") ∈ lw_all := lw_g (lw_at lw_m3 212 rfl) rfl
theorem q743 : (Jvm.Cond.laysFinal "LimbMeasuresModel" "LimbMeasuresModel" "rateTo" "[I") ∈ lw_all := lw_g (lw_at lw_m3 213 rfl) rfl
theorem q744 : (Jvm.Cond.soleField "LimbMeasuresModel" "rateTo") ∈ lw_all := lw_g (lw_at lw_m3 214 rfl) rfl
theorem q745 : (Jvm.Cond.laysFinal "LimbMeasuresModel" "LimbMeasuresModel" "rateU" "[I") ∈ lw_all := lw_g (lw_at lw_m3 215 rfl) rfl
theorem q746 : (Jvm.Cond.soleField "LimbMeasuresModel" "rateU") ∈ lw_all := lw_g (lw_at lw_m3 216 rfl) rfl
theorem q747 : (Jvm.Cond.laysFinal "LimbMeasuresModel" "LimbMeasuresModel" "rateV" "[I") ∈ lw_all := lw_g (lw_at lw_m3 217 rfl) rfl
theorem q748 : (Jvm.Cond.soleField "LimbMeasuresModel" "rateV") ∈ lw_all := lw_g (lw_at lw_m3 218 rfl) rfl
theorem q749 : (Jvm.Cond.laysFinal "LimbMeasuresModel" "LimbMeasuresModel" "now" "[I") ∈ lw_all := lw_g (lw_at lw_m3 219 rfl) rfl
theorem q750 : (Jvm.Cond.soleField "LimbMeasuresModel" "now") ∈ lw_all := lw_g (lw_at lw_m3 220 rfl) rfl
theorem q751 : (Jvm.Cond.lays "LimbMeasuresModel" "LimbMeasuresModel" "seed" "I") ∈ lw_all := lw_g (lw_at lw_m3 221 rfl) rfl
theorem q752 : (Jvm.Cond.soleField "LimbMeasuresModel" "seed") ∈ lw_all := lw_g (lw_at lw_m3 222 rfl) rfl
theorem q753 : (Jvm.Cond.laysFinal "LimbMeasuresModel" "LimbMeasuresModel" "text" "[I") ∈ lw_all := lw_g (lw_at lw_m3 223 rfl) rfl
theorem q754 : (Jvm.Cond.soleField "LimbMeasuresModel" "text") ∈ lw_all := lw_g (lw_at lw_m3 224 rfl) rfl
theorem q755 : (Jvm.Cond.lays "LimbMeasuresModel" "LimbMeasuresModel" "texted" "I") ∈ lw_all := lw_g (lw_at lw_m3 225 rfl) rfl
theorem q756 : (Jvm.Cond.soleField "LimbMeasuresModel" "texted") ∈ lw_all := lw_g (lw_at lw_m3 226 rfl) rfl
theorem q757 : (Jvm.Cond.lays "LimbMeasuresModel" "LimbMeasuresModel" "faultPlace" "I") ∈ lw_all := lw_g (lw_at lw_m3 227 rfl) rfl
theorem q758 : (Jvm.Cond.soleField "LimbMeasuresModel" "faultPlace") ∈ lw_all := lw_g (lw_at lw_m3 228 rfl) rfl
theorem q759 : (Jvm.Cond.lays "LimbMeasuresModel" "LimbMeasuresModel" "at0" "I") ∈ lw_all := lw_g (lw_at lw_m3 229 rfl) rfl
theorem q760 : (Jvm.Cond.soleField "LimbMeasuresModel" "at0") ∈ lw_all := lw_g (lw_at lw_m3 230 rfl) rfl
theorem q761 : (Jvm.Cond.lays "LimbMeasuresModel" "LimbMeasuresModel" "number" "I") ∈ lw_all := lw_g (lw_at lw_m3 231 rfl) rfl
theorem q762 : (Jvm.Cond.soleField "LimbMeasuresModel" "number") ∈ lw_all := lw_g (lw_at lw_m3 232 rfl) rfl
theorem q763 : (Jvm.Cond.lays "LimbMeasuresModel" "LimbMeasuresModel" "numberAt" "I") ∈ lw_all := lw_g (lw_at lw_m3 233 rfl) rfl
theorem q764 : (Jvm.Cond.soleField "LimbMeasuresModel" "numberAt") ∈ lw_all := lw_g (lw_at lw_m3 234 rfl) rfl
theorem q765 : (Jvm.Cond.lays "LimbMeasuresModel" "LimbMeasuresModel" "readLimbs" "I") ∈ lw_all := lw_g (lw_at lw_m3 235 rfl) rfl
theorem q766 : (Jvm.Cond.soleField "LimbMeasuresModel" "readLimbs") ∈ lw_all := lw_g (lw_at lw_m3 236 rfl) rfl
theorem q767 : (Jvm.Cond.laysFinal "LimbMeasuresModel" "LimbMeasuresModel" "readLength" "[I") ∈ lw_all := lw_g (lw_at lw_m3 237 rfl) rfl
theorem q768 : (Jvm.Cond.soleField "LimbMeasuresModel" "readLength") ∈ lw_all := lw_g (lw_at lw_m3 238 rfl) rfl
theorem q769 : (Jvm.Cond.laysFinal "LimbMeasuresModel" "LimbMeasuresModel" "readAdds" "[I") ∈ lw_all := lw_g (lw_at lw_m3 239 rfl) rfl
theorem q770 : (Jvm.Cond.soleField "LimbMeasuresModel" "readAdds") ∈ lw_all := lw_g (lw_at lw_m4 0 rfl) rfl
theorem q771 : (Jvm.Cond.laysFinal "LimbMeasuresModel" "LimbMeasuresModel" "readHeir" "[I") ∈ lw_all := lw_g (lw_at lw_m4 1 rfl) rfl
theorem q772 : (Jvm.Cond.soleField "LimbMeasuresModel" "readHeir") ∈ lw_all := lw_g (lw_at lw_m4 2 rfl) rfl
theorem q773 : (Jvm.Cond.lays "LimbMeasuresModel" "LimbMeasuresModel" "readContracts" "I") ∈ lw_all := lw_g (lw_at lw_m4 3 rfl) rfl
theorem q774 : (Jvm.Cond.soleField "LimbMeasuresModel" "readContracts") ∈ lw_all := lw_g (lw_at lw_m4 4 rfl) rfl
theorem q775 : (Jvm.Cond.laysFinal "LimbMeasuresModel" "LimbMeasuresModel" "readAt" "[I") ∈ lw_all := lw_g (lw_at lw_m4 5 rfl) rfl
theorem q776 : (Jvm.Cond.soleField "LimbMeasuresModel" "readAt") ∈ lw_all := lw_g (lw_at lw_m4 6 rfl) rfl
theorem q777 : (Jvm.Cond.laysFinal "LimbMeasuresModel" "LimbMeasuresModel" "readLimb" "[I") ∈ lw_all := lw_g (lw_at lw_m4 7 rfl) rfl
theorem q778 : (Jvm.Cond.soleField "LimbMeasuresModel" "readLimb") ∈ lw_all := lw_g (lw_at lw_m4 8 rfl) rfl
theorem q779 : (Jvm.Cond.laysFinal "LimbMeasuresModel" "LimbMeasuresModel" "readMany" "[I") ∈ lw_all := lw_g (lw_at lw_m4 9 rfl) rfl
theorem q780 : (Jvm.Cond.soleField "LimbMeasuresModel" "readMany") ∈ lw_all := lw_g (lw_at lw_m4 10 rfl) rfl
theorem q781 : (Jvm.Cond.lays "LimbMeasuresModel" "LimbMeasuresModel" "readRates" "I") ∈ lw_all := lw_g (lw_at lw_m4 11 rfl) rfl
theorem q782 : (Jvm.Cond.soleField "LimbMeasuresModel" "readRates") ∈ lw_all := lw_g (lw_at lw_m4 12 rfl) rfl
theorem q783 : (Jvm.Cond.laysFinal "LimbMeasuresModel" "LimbMeasuresModel" "readFrom" "[I") ∈ lw_all := lw_g (lw_at lw_m4 13 rfl) rfl
theorem q784 : (Jvm.Cond.soleField "LimbMeasuresModel" "readFrom") ∈ lw_all := lw_g (lw_at lw_m4 14 rfl) rfl
theorem q785 : (Jvm.Cond.laysFinal "LimbMeasuresModel" "LimbMeasuresModel" "readTo" "[I") ∈ lw_all := lw_g (lw_at lw_m4 15 rfl) rfl
theorem q786 : (Jvm.Cond.soleField "LimbMeasuresModel" "readTo") ∈ lw_all := lw_g (lw_at lw_m4 16 rfl) rfl
theorem q787 : (Jvm.Cond.laysFinal "LimbMeasuresModel" "LimbMeasuresModel" "readU" "[I") ∈ lw_all := lw_g (lw_at lw_m4 17 rfl) rfl
theorem q788 : (Jvm.Cond.soleField "LimbMeasuresModel" "readU") ∈ lw_all := lw_g (lw_at lw_m4 18 rfl) rfl
theorem q789 : (Jvm.Cond.laysFinal "LimbMeasuresModel" "LimbMeasuresModel" "readV" "[I") ∈ lw_all := lw_g (lw_at lw_m4 19 rfl) rfl
theorem q790 : (Jvm.Cond.soleField "LimbMeasuresModel" "readV") ∈ lw_all := lw_g (lw_at lw_m4 20 rfl) rfl
theorem q791 : (Jvm.Cond.lays "LimbMeasuresModel" "LimbMeasuresModel" "undos" "I") ∈ lw_all := lw_g (lw_at lw_m4 21 rfl) rfl
theorem q792 : (Jvm.Cond.soleField "LimbMeasuresModel" "undos") ∈ lw_all := lw_g (lw_at lw_m4 22 rfl) rfl
theorem q793 : (Jvm.Cond.laysFinal "LimbMeasuresModel" "LimbMeasuresModel" "past" "[I") ∈ lw_all := lw_g (lw_at lw_m4 23 rfl) rfl
theorem q794 : (Jvm.Cond.soleField "LimbMeasuresModel" "past") ∈ lw_all := lw_g (lw_at lw_m4 24 rfl) rfl
theorem q795 : (Jvm.Cond.lays "LimbMeasuresModel" "LimbMeasuresModel" "bestBasket" "I") ∈ lw_all := lw_g (lw_at lw_m4 25 rfl) rfl
theorem q796 : (Jvm.Cond.soleField "LimbMeasuresModel" "bestBasket") ∈ lw_all := lw_g (lw_at lw_m4 26 rfl) rfl
theorem q797 : (Jvm.Cond.lays "LimbMeasuresModel" "LimbMeasuresModel" "ringLong" "I") ∈ lw_all := lw_g (lw_at lw_m4 27 rfl) rfl
theorem q798 : (Jvm.Cond.soleField "LimbMeasuresModel" "ringLong") ∈ lw_all := lw_g (lw_at lw_m4 28 rfl) rfl
theorem q799 : (Jvm.Cond.lays "LimbMeasuresModel" "LimbMeasuresModel" "gots" "I") ∈ lw_all := lw_g (lw_at lw_m4 29 rfl) rfl
theorem q800 : (Jvm.Cond.soleField "LimbMeasuresModel" "gots") ∈ lw_all := lw_g (lw_at lw_m4 30 rfl) rfl
theorem q801 : (Jvm.Cond.laysFinal "LimbMeasuresModel" "LimbMeasuresModel" "gotMany" "[I") ∈ lw_all := lw_g (lw_at lw_m4 31 rfl) rfl
theorem q802 : (Jvm.Cond.soleField "LimbMeasuresModel" "gotMany") ∈ lw_all := lw_g (lw_at lw_m4 32 rfl) rfl
theorem q803 : (Jvm.Cond.laysFinal "LimbMeasuresModel" "LimbMeasuresModel" "gotMuch" "[I") ∈ lw_all := lw_g (lw_at lw_m4 33 rfl) rfl
theorem q804 : (Jvm.Cond.soleField "LimbMeasuresModel" "gotMuch") ∈ lw_all := lw_g (lw_at lw_m4 34 rfl) rfl
theorem q805 : (Jvm.Cond.lays "LimbMeasuresModel" "LimbMeasuresModel" "booked" "I") ∈ lw_all := lw_g (lw_at lw_m4 35 rfl) rfl
theorem q806 : (Jvm.Cond.soleField "LimbMeasuresModel" "booked") ∈ lw_all := lw_g (lw_at lw_m4 36 rfl) rfl
theorem q807 : (Jvm.Cond.laysFinal "LimbMeasuresModel" "LimbMeasuresModel" "bookLimb" "[I") ∈ lw_all := lw_g (lw_at lw_m4 37 rfl) rfl
theorem q808 : (Jvm.Cond.soleField "LimbMeasuresModel" "bookLimb") ∈ lw_all := lw_g (lw_at lw_m4 38 rfl) rfl
theorem q809 : (Jvm.Cond.laysFinal "LimbMeasuresModel" "LimbMeasuresModel" "bookMeasure" "[I") ∈ lw_all := lw_g (lw_at lw_m4 39 rfl) rfl
theorem q810 : (Jvm.Cond.soleField "LimbMeasuresModel" "bookMeasure") ∈ lw_all := lw_g (lw_at lw_m4 40 rfl) rfl
theorem q811 : (Jvm.Cond.laysFinal "LimbMeasuresModel" "LimbMeasuresModel" "images" "[I") ∈ lw_all := lw_g (lw_at lw_m4 41 rfl) rfl
theorem q812 : (Jvm.Cond.soleField "LimbMeasuresModel" "images") ∈ lw_all := lw_g (lw_at lw_m4 42 rfl) rfl
theorem q813 : (Jvm.Cond.laysFinal "LimbMeasuresModel" "LimbMeasuresModel" "isKept" "[Z") ∈ lw_all := lw_g (lw_at lw_m4 43 rfl) rfl
theorem q814 : (Jvm.Cond.soleField "LimbMeasuresModel" "isKept") ∈ lw_all := lw_g (lw_at lw_m4 44 rfl) rfl
theorem q815 : (Jvm.Cond.superclass "LimbMeasuresModel" "java/lang/Object") ∈ lw_all := lw_g (lw_at lw_m4 45 rfl) rfl
theorem q818 : (Jvm.Cond.instanceMethod ({ cls := "LimbMeasuresModel", name := "feed", desc := "(I)I" } : Jvm.MethodName)) ∈ lw_all := lw_g (lw_at lw_m4 48 rfl) rfl
theorem q819 : (Jvm.Cond.selects "LimbMeasuresModel" ({ cls := "LimbMeasuresModel", name := "feed", desc := "(I)I" } : Jvm.MethodName) ({ cls := "LimbMeasuresModel", name := "feed", desc := "(I)I" } : Jvm.MethodName)) ∈ lw_all := lw_g (lw_at lw_m4 49 rfl) rfl
theorem q820 : (Jvm.Cond.code ({ cls := "LimbMeasuresModel", name := "feed", desc := "(I)I" } : Jvm.MethodName) prog_9_method_9_code (2 : Nat) (Option.some Jvm.ClassFile.FieldType.int)) ∈ lw_all := lw_g (lw_at lw_m4 50 rfl) rfl
theorem q821 : (Jvm.Cond.constantLong "LimbMeasuresModel" (110 : Nat) (255 : Int64)) ∈ lw_all := lw_g (lw_at lw_m4 51 rfl) rfl
theorem q822 : (Jvm.Cond.methodLink "LimbMeasuresModel" (102 : Nat) ({ cls := "LimbMeasuresModel", name := "in", desc := "(JJJ)Z" } : Jvm.MethodName)) ∈ lw_all := lw_g (lw_at lw_m4 52 rfl) rfl
theorem q823 : (Jvm.Cond.static ({ cls := "LimbMeasuresModel", name := "in", desc := "(JJJ)Z" } : Jvm.MethodName)) ∈ lw_all := lw_g (lw_at lw_m4 53 rfl) rfl
theorem q824 : (Jvm.Cond.code ({ cls := "LimbMeasuresModel", name := "in", desc := "(JJJ)Z" } : Jvm.MethodName) prog_9_method_3_code (6 : Nat) (Option.some Jvm.ClassFile.FieldType.boolean)) ∈ lw_all := lw_g (lw_at lw_m4 54 rfl) rfl
theorem q825 : (Jvm.Cond.constant "LimbMeasuresModel" (112 : Nat) (-1000000002 : Int32)) ∈ lw_all := lw_g (lw_at lw_m4 55 rfl) rfl
theorem q826 : (Jvm.Cond.constant "LimbMeasuresModel" (116 : Nat) (-1000000004 : Int32)) ∈ lw_all := lw_g (lw_at lw_m4 56 rfl) rfl
theorem q828 : (Jvm.Cond.instanceMethod ({ cls := "LimbMeasuresModel", name := "port", desc := "()I" } : Jvm.MethodName)) ∈ lw_all := lw_g (lw_at lw_m4 58 rfl) rfl
theorem q829 : (Jvm.Cond.selects "LimbMeasuresModel" ({ cls := "LimbMeasuresModel", name := "port", desc := "()I" } : Jvm.MethodName) ({ cls := "LimbMeasuresModel", name := "port", desc := "()I" } : Jvm.MethodName)) ∈ lw_all := lw_g (lw_at lw_m4 59 rfl) rfl
theorem q830 : (Jvm.Cond.code ({ cls := "LimbMeasuresModel", name := "port", desc := "()I" } : Jvm.MethodName) prog_9_method_20_code (2 : Nat) (Option.some Jvm.ClassFile.FieldType.int)) ∈ lw_all := lw_g (lw_at lw_m4 60 rfl) rfl
theorem q831 : (Jvm.Cond.methodLink "LimbMeasuresModel" (120 : Nat) ({ cls := "LimbMeasuresModel", name := "here", desc := "()I" } : Jvm.MethodName)) ∈ lw_all := lw_g (lw_at lw_m4 61 rfl) rfl
theorem q832 : (Jvm.Cond.privateMethod ({ cls := "LimbMeasuresModel", name := "here", desc := "()I" } : Jvm.MethodName)) ∈ lw_tbl := lw_at lw_m4 62 rfl
theorem q833 : (Jvm.Cond.instanceMethod ({ cls := "LimbMeasuresModel", name := "here", desc := "()I" } : Jvm.MethodName)) ∈ lw_all := lw_g (lw_at lw_m4 63 rfl) rfl
theorem q834 : (Jvm.Cond.code ({ cls := "LimbMeasuresModel", name := "here", desc := "()I" } : Jvm.MethodName) prog_9_method_10_code (1 : Nat) (Option.some Jvm.ClassFile.FieldType.int)) ∈ lw_all := lw_g (lw_at lw_m4 64 rfl) rfl
theorem q835 : (Jvm.Cond.methodLink "LimbMeasuresModel" (172 : Nat) ({ cls := "LimbMeasuresModel", name := "takeClause", desc := "()I" } : Jvm.MethodName)) ∈ lw_all := lw_g (lw_at lw_m4 65 rfl) rfl
theorem q836 : (Jvm.Cond.privateMethod ({ cls := "LimbMeasuresModel", name := "takeClause", desc := "()I" } : Jvm.MethodName)) ∈ lw_tbl := lw_at lw_m4 66 rfl
theorem q837 : (Jvm.Cond.instanceMethod ({ cls := "LimbMeasuresModel", name := "takeClause", desc := "()I" } : Jvm.MethodName)) ∈ lw_all := lw_g (lw_at lw_m4 67 rfl) rfl
theorem q838 : (Jvm.Cond.code ({ cls := "LimbMeasuresModel", name := "takeClause", desc := "()I" } : Jvm.MethodName) prog_9_method_18_code (5 : Nat) (Option.some Jvm.ClassFile.FieldType.int)) ∈ lw_all := lw_g (lw_at lw_m4 68 rfl) rfl
theorem q839 : (Jvm.Cond.methodLink "LimbMeasuresModel" (128 : Nat) ({ cls := "LimbMeasuresModel", name := "fails", desc := "(II)I" } : Jvm.MethodName)) ∈ lw_all := lw_g (lw_at lw_m4 69 rfl) rfl
theorem q840 : (Jvm.Cond.privateMethod ({ cls := "LimbMeasuresModel", name := "fails", desc := "(II)I" } : Jvm.MethodName)) ∈ lw_tbl := lw_at lw_m4 70 rfl
theorem q841 : (Jvm.Cond.instanceMethod ({ cls := "LimbMeasuresModel", name := "fails", desc := "(II)I" } : Jvm.MethodName)) ∈ lw_all := lw_g (lw_at lw_m4 71 rfl) rfl
theorem q842 : (Jvm.Cond.code ({ cls := "LimbMeasuresModel", name := "fails", desc := "(II)I" } : Jvm.MethodName) prog_9_method_11_code (3 : Nat) (Option.some Jvm.ClassFile.FieldType.int)) ∈ lw_all := lw_g (lw_at lw_m4 72 rfl) rfl
theorem q843 : (Jvm.Cond.methodLink "LimbMeasuresModel" (154 : Nat) ({ cls := "LimbMeasuresModel", name := "takeLimb", desc := "()I" } : Jvm.MethodName)) ∈ lw_all := lw_g (lw_at lw_m4 73 rfl) rfl
theorem q844 : (Jvm.Cond.privateMethod ({ cls := "LimbMeasuresModel", name := "takeLimb", desc := "()I" } : Jvm.MethodName)) ∈ lw_tbl := lw_at lw_m4 74 rfl
theorem q845 : (Jvm.Cond.instanceMethod ({ cls := "LimbMeasuresModel", name := "takeLimb", desc := "()I" } : Jvm.MethodName)) ∈ lw_all := lw_g (lw_at lw_m4 75 rfl) rfl
theorem q846 : (Jvm.Cond.code ({ cls := "LimbMeasuresModel", name := "takeLimb", desc := "()I" } : Jvm.MethodName) prog_9_method_14_code (4 : Nat) (Option.some Jvm.ClassFile.FieldType.int)) ∈ lw_all := lw_g (lw_at lw_m4 76 rfl) rfl
theorem q847 : (Jvm.Cond.methodLink "LimbMeasuresModel" (144 : Nat) ({ cls := "LimbMeasuresModel", name := "into", desc := "([IIII)I" } : Jvm.MethodName)) ∈ lw_all := lw_g (lw_at lw_m4 77 rfl) rfl
theorem q848 : (Jvm.Cond.privateMethod ({ cls := "LimbMeasuresModel", name := "into", desc := "([IIII)I" } : Jvm.MethodName)) ∈ lw_tbl := lw_at lw_m4 78 rfl
theorem q849 : (Jvm.Cond.instanceMethod ({ cls := "LimbMeasuresModel", name := "into", desc := "([IIII)I" } : Jvm.MethodName)) ∈ lw_all := lw_g (lw_at lw_m4 79 rfl) rfl
theorem q850 : (Jvm.Cond.code ({ cls := "LimbMeasuresModel", name := "into", desc := "([IIII)I" } : Jvm.MethodName) prog_9_method_13_code (6 : Nat) (Option.some Jvm.ClassFile.FieldType.int)) ∈ lw_all := lw_g (lw_at lw_m4 80 rfl) rfl
theorem q851 : (Jvm.Cond.methodLink "LimbMeasuresModel" (138 : Nat) ({ cls := "LimbMeasuresModel", name := "takeNumber", desc := "(II)I" } : Jvm.MethodName)) ∈ lw_all := lw_g (lw_at lw_m4 81 rfl) rfl
theorem q852 : (Jvm.Cond.privateMethod ({ cls := "LimbMeasuresModel", name := "takeNumber", desc := "(II)I" } : Jvm.MethodName)) ∈ lw_tbl := lw_at lw_m4 82 rfl
theorem q853 : (Jvm.Cond.instanceMethod ({ cls := "LimbMeasuresModel", name := "takeNumber", desc := "(II)I" } : Jvm.MethodName)) ∈ lw_all := lw_g (lw_at lw_m4 83 rfl) rfl
theorem q854 : (Jvm.Cond.code ({ cls := "LimbMeasuresModel", name := "takeNumber", desc := "(II)I" } : Jvm.MethodName) prog_9_method_12_code (4 : Nat) (Option.some Jvm.ClassFile.FieldType.int)) ∈ lw_all := lw_g (lw_at lw_m4 84 rfl) rfl
theorem q855 : (Jvm.Cond.constantLong "LimbMeasuresModel" (124 : Nat) (48 : Int64)) ∈ lw_all := lw_g (lw_at lw_m4 85 rfl) rfl
theorem q856 : (Jvm.Cond.constantLong "LimbMeasuresModel" (126 : Nat) (57 : Int64)) ∈ lw_all := lw_g (lw_at lw_m4 86 rfl) rfl
theorem q857 : (Jvm.Cond.methodLink "LimbMeasuresModel" (157 : Nat) ({ cls := "LimbMeasuresModel", name := "takeContract", desc := "()I" } : Jvm.MethodName)) ∈ lw_all := lw_g (lw_at lw_m4 87 rfl) rfl
theorem q858 : (Jvm.Cond.privateMethod ({ cls := "LimbMeasuresModel", name := "takeContract", desc := "()I" } : Jvm.MethodName)) ∈ lw_tbl := lw_at lw_m4 88 rfl
theorem q859 : (Jvm.Cond.instanceMethod ({ cls := "LimbMeasuresModel", name := "takeContract", desc := "()I" } : Jvm.MethodName)) ∈ lw_all := lw_g (lw_at lw_m4 89 rfl) rfl
theorem q860 : (Jvm.Cond.code ({ cls := "LimbMeasuresModel", name := "takeContract", desc := "()I" } : Jvm.MethodName) prog_9_method_15_code (3 : Nat) (Option.some Jvm.ClassFile.FieldType.int)) ∈ lw_all := lw_g (lw_at lw_m4 90 rfl) rfl
theorem q861 : (Jvm.Cond.methodLink "LimbMeasuresModel" (160 : Nat) ({ cls := "LimbMeasuresModel", name := "takeRate", desc := "()I" } : Jvm.MethodName)) ∈ lw_all := lw_g (lw_at lw_m4 91 rfl) rfl
theorem q862 : (Jvm.Cond.privateMethod ({ cls := "LimbMeasuresModel", name := "takeRate", desc := "()I" } : Jvm.MethodName)) ∈ lw_tbl := lw_at lw_m4 92 rfl
theorem q863 : (Jvm.Cond.instanceMethod ({ cls := "LimbMeasuresModel", name := "takeRate", desc := "()I" } : Jvm.MethodName)) ∈ lw_all := lw_g (lw_at lw_m4 93 rfl) rfl
theorem q864 : (Jvm.Cond.code ({ cls := "LimbMeasuresModel", name := "takeRate", desc := "()I" } : Jvm.MethodName) prog_9_method_16_code (3 : Nat) (Option.some Jvm.ClassFile.FieldType.int)) ∈ lw_all := lw_g (lw_at lw_m4 94 rfl) rfl
theorem q865 : (Jvm.Cond.methodLink "LimbMeasuresModel" (163 : Nat) ({ cls := "LimbMeasuresModel", name := "takeHeir", desc := "()I" } : Jvm.MethodName)) ∈ lw_all := lw_g (lw_at lw_m4 95 rfl) rfl
theorem q866 : (Jvm.Cond.privateMethod ({ cls := "LimbMeasuresModel", name := "takeHeir", desc := "()I" } : Jvm.MethodName)) ∈ lw_tbl := lw_at lw_m4 96 rfl
theorem q867 : (Jvm.Cond.instanceMethod ({ cls := "LimbMeasuresModel", name := "takeHeir", desc := "()I" } : Jvm.MethodName)) ∈ lw_all := lw_g (lw_at lw_m4 97 rfl) rfl
theorem q868 : (Jvm.Cond.code ({ cls := "LimbMeasuresModel", name := "takeHeir", desc := "()I" } : Jvm.MethodName) prog_9_method_17_code (3 : Nat) (Option.some Jvm.ClassFile.FieldType.int)) ∈ lw_all := lw_g (lw_at lw_m4 98 rfl) rfl
theorem q869 : (Jvm.Cond.methodLink "LimbMeasuresModel" (175 : Nat) ({ cls := "LimbMeasuresModel", name := "takeRead", desc := "()V" } : Jvm.MethodName)) ∈ lw_all := lw_g (lw_at lw_m4 99 rfl) rfl
theorem q870 : (Jvm.Cond.privateMethod ({ cls := "LimbMeasuresModel", name := "takeRead", desc := "()V" } : Jvm.MethodName)) ∈ lw_tbl := lw_at lw_m4 100 rfl
theorem q871 : (Jvm.Cond.instanceMethod ({ cls := "LimbMeasuresModel", name := "takeRead", desc := "()V" } : Jvm.MethodName)) ∈ lw_all := lw_g (lw_at lw_m4 101 rfl) rfl
theorem q872 : (Jvm.Cond.code ({ cls := "LimbMeasuresModel", name := "takeRead", desc := "()V" } : Jvm.MethodName) prog_9_method_19_code (2 : Nat) (Option.none : Option Jvm.ClassFile.FieldType)) ∈ lw_all := lw_g (lw_at lw_m4 102 rfl) rfl
theorem q874 : (Jvm.Cond.instanceMethod ({ cls := "LimbMeasuresModel", name := "fault", desc := "()I" } : Jvm.MethodName)) ∈ lw_all := lw_g (lw_at lw_m4 104 rfl) rfl
theorem q875 : (Jvm.Cond.selects "LimbMeasuresModel" ({ cls := "LimbMeasuresModel", name := "fault", desc := "()I" } : Jvm.MethodName) ({ cls := "LimbMeasuresModel", name := "fault", desc := "()I" } : Jvm.MethodName)) ∈ lw_all := lw_g (lw_at lw_m4 105 rfl) rfl
theorem q876 : (Jvm.Cond.code ({ cls := "LimbMeasuresModel", name := "fault", desc := "()I" } : Jvm.MethodName) prog_9_method_21_code (1 : Nat) (Option.some Jvm.ClassFile.FieldType.int)) ∈ lw_all := lw_g (lw_at lw_m4 106 rfl) rfl
theorem q878 : (Jvm.Cond.instanceMethod ({ cls := "LimbMeasuresModel", name := "told", desc := "(I)I" } : Jvm.MethodName)) ∈ lw_all := lw_g (lw_at lw_m4 108 rfl) rfl
theorem q879 : (Jvm.Cond.selects "LimbMeasuresModel" ({ cls := "LimbMeasuresModel", name := "told", desc := "(I)I" } : Jvm.MethodName) ({ cls := "LimbMeasuresModel", name := "told", desc := "(I)I" } : Jvm.MethodName)) ∈ lw_all := lw_g (lw_at lw_m4 109 rfl) rfl
theorem q880 : (Jvm.Cond.code ({ cls := "LimbMeasuresModel", name := "told", desc := "(I)I" } : Jvm.MethodName) prog_9_method_23_code (2 : Nat) (Option.some Jvm.ClassFile.FieldType.int)) ∈ lw_all := lw_g (lw_at lw_m4 110 rfl) rfl
theorem q881 : (Jvm.Cond.methodLink "LimbMeasuresModel" (187 : Nat) ({ cls := "LimbMeasuresModel", name := "copied", desc := "()I" } : Jvm.MethodName)) ∈ lw_all := lw_g (lw_at lw_m4 111 rfl) rfl
theorem q882 : (Jvm.Cond.privateMethod ({ cls := "LimbMeasuresModel", name := "copied", desc := "()I" } : Jvm.MethodName)) ∈ lw_tbl := lw_at lw_m4 112 rfl
theorem q883 : (Jvm.Cond.instanceMethod ({ cls := "LimbMeasuresModel", name := "copied", desc := "()I" } : Jvm.MethodName)) ∈ lw_all := lw_g (lw_at lw_m4 113 rfl) rfl
theorem q884 : (Jvm.Cond.code ({ cls := "LimbMeasuresModel", name := "copied", desc := "()I" } : Jvm.MethodName) prog_9_method_22_code (3 : Nat) (Option.some Jvm.ClassFile.FieldType.int)) ∈ lw_all := lw_g (lw_at lw_m4 114 rfl) rfl
theorem q886 : (Jvm.Cond.instanceMethod ({ cls := "LimbMeasuresModel", name := "limb", desc := "(II)I" } : Jvm.MethodName)) ∈ lw_all := lw_g (lw_at lw_m4 116 rfl) rfl
theorem q887 : (Jvm.Cond.selects "LimbMeasuresModel" ({ cls := "LimbMeasuresModel", name := "limb", desc := "(II)I" } : Jvm.MethodName) ({ cls := "LimbMeasuresModel", name := "limb", desc := "(II)I" } : Jvm.MethodName)) ∈ lw_all := lw_g (lw_at lw_m4 117 rfl) rfl
theorem q888 : (Jvm.Cond.code ({ cls := "LimbMeasuresModel", name := "limb", desc := "(II)I" } : Jvm.MethodName) prog_9_method_27_code (3 : Nat) (Option.some Jvm.ClassFile.FieldType.int)) ∈ lw_all := lw_g (lw_at lw_m4 118 rfl) rfl
theorem q889 : (Jvm.Cond.methodLink "LimbMeasuresModel" (200 : Nat) ({ cls := "LimbMeasuresModel", name := "isLimb", desc := "(I)Z" } : Jvm.MethodName)) ∈ lw_all := lw_g (lw_at lw_m4 119 rfl) rfl
theorem q890 : (Jvm.Cond.privateMethod ({ cls := "LimbMeasuresModel", name := "isLimb", desc := "(I)Z" } : Jvm.MethodName)) ∈ lw_tbl := lw_at lw_m4 120 rfl
theorem q891 : (Jvm.Cond.instanceMethod ({ cls := "LimbMeasuresModel", name := "isLimb", desc := "(I)Z" } : Jvm.MethodName)) ∈ lw_all := lw_g (lw_at lw_m4 121 rfl) rfl
theorem q892 : (Jvm.Cond.code ({ cls := "LimbMeasuresModel", name := "isLimb", desc := "(I)Z" } : Jvm.MethodName) prog_9_method_7_code (2 : Nat) (Option.some Jvm.ClassFile.FieldType.boolean)) ∈ lw_all := lw_g (lw_at lw_m4 122 rfl) rfl
theorem q893 : (Jvm.Cond.constant "LimbMeasuresModel" (203 : Nat) (-1000000001 : Int32)) ∈ lw_all := lw_g (lw_at lw_m4 123 rfl) rfl
theorem q894 : (Jvm.Cond.methodLink "LimbMeasuresModel" (204 : Nat) ({ cls := "LimbMeasuresModel", name := "measureNow", desc := "(I)I" } : Jvm.MethodName)) ∈ lw_all := lw_g (lw_at lw_m4 124 rfl) rfl
theorem q895 : (Jvm.Cond.privateMethod ({ cls := "LimbMeasuresModel", name := "measureNow", desc := "(I)I" } : Jvm.MethodName)) ∈ lw_tbl := lw_at lw_m4 125 rfl
theorem q896 : (Jvm.Cond.instanceMethod ({ cls := "LimbMeasuresModel", name := "measureNow", desc := "(I)I" } : Jvm.MethodName)) ∈ lw_all := lw_g (lw_at lw_m4 126 rfl) rfl
theorem q897 : (Jvm.Cond.code ({ cls := "LimbMeasuresModel", name := "measureNow", desc := "(I)I" } : Jvm.MethodName) prog_9_method_26_code (2 : Nat) (Option.some Jvm.ClassFile.FieldType.int)) ∈ lw_all := lw_g (lw_at lw_m4 127 rfl) rfl
theorem q898 : (Jvm.Cond.methodLink "LimbMeasuresModel" (197 : Nat) ({ cls := "LimbMeasuresModel", name := "measure", desc := "(II)I" } : Jvm.MethodName)) ∈ lw_all := lw_g (lw_at lw_m4 128 rfl) rfl
theorem q899 : (Jvm.Cond.privateMethod ({ cls := "LimbMeasuresModel", name := "measure", desc := "(II)I" } : Jvm.MethodName)) ∈ lw_tbl := lw_at lw_m4 129 rfl
theorem q900 : (Jvm.Cond.instanceMethod ({ cls := "LimbMeasuresModel", name := "measure", desc := "(II)I" } : Jvm.MethodName)) ∈ lw_all := lw_g (lw_at lw_m4 130 rfl) rfl
theorem q901 : (Jvm.Cond.code ({ cls := "LimbMeasuresModel", name := "measure", desc := "(II)I" } : Jvm.MethodName) prog_9_method_25_code (5 : Nat) (Option.some Jvm.ClassFile.FieldType.int)) ∈ lw_all := lw_g (lw_at lw_m4 131 rfl) rfl
theorem q902 : (Jvm.Cond.methodLink "LimbMeasuresModel" (190 : Nat) ({ cls := "LimbMeasuresModel", name := "lives", desc := "(I)Z" } : Jvm.MethodName)) ∈ lw_all := lw_g (lw_at lw_m4 132 rfl) rfl
theorem q903 : (Jvm.Cond.privateMethod ({ cls := "LimbMeasuresModel", name := "lives", desc := "(I)Z" } : Jvm.MethodName)) ∈ lw_tbl := lw_at lw_m4 133 rfl
theorem q904 : (Jvm.Cond.instanceMethod ({ cls := "LimbMeasuresModel", name := "lives", desc := "(I)Z" } : Jvm.MethodName)) ∈ lw_all := lw_g (lw_at lw_m4 134 rfl) rfl
theorem q905 : (Jvm.Cond.code ({ cls := "LimbMeasuresModel", name := "lives", desc := "(I)Z" } : Jvm.MethodName) prog_9_method_8_code (2 : Nat) (Option.some Jvm.ClassFile.FieldType.boolean)) ∈ lw_all := lw_g (lw_at lw_m4 135 rfl) rfl
theorem q906 : (Jvm.Cond.methodLink "LimbMeasuresModel" (106 : Nat) ({ cls := "LimbMeasuresModel", name := "has", desc := "(II)Z" } : Jvm.MethodName)) ∈ lw_all := lw_g (lw_at lw_m4 136 rfl) rfl
theorem q907 : (Jvm.Cond.static ({ cls := "LimbMeasuresModel", name := "has", desc := "(II)Z" } : Jvm.MethodName)) ∈ lw_all := lw_g (lw_at lw_m4 137 rfl) rfl
theorem q908 : (Jvm.Cond.code ({ cls := "LimbMeasuresModel", name := "has", desc := "(II)Z" } : Jvm.MethodName) prog_9_method_4_code (2 : Nat) (Option.some Jvm.ClassFile.FieldType.boolean)) ∈ lw_all := lw_g (lw_at lw_m4 138 rfl) rfl
theorem q909 : (Jvm.Cond.methodLink "LimbMeasuresModel" (194 : Nat) ({ cls := "LimbMeasuresModel", name := "grown", desc := "(II)I" } : Jvm.MethodName)) ∈ lw_all := lw_g (lw_at lw_m4 139 rfl) rfl
theorem q910 : (Jvm.Cond.privateMethod ({ cls := "LimbMeasuresModel", name := "grown", desc := "(II)I" } : Jvm.MethodName)) ∈ lw_tbl := lw_at lw_m4 140 rfl
theorem q911 : (Jvm.Cond.instanceMethod ({ cls := "LimbMeasuresModel", name := "grown", desc := "(II)I" } : Jvm.MethodName)) ∈ lw_all := lw_g (lw_at lw_m4 141 rfl) rfl
theorem q912 : (Jvm.Cond.code ({ cls := "LimbMeasuresModel", name := "grown", desc := "(II)I" } : Jvm.MethodName) prog_9_method_24_code (4 : Nat) (Option.some Jvm.ClassFile.FieldType.int)) ∈ lw_all := lw_g (lw_at lw_m4 142 rfl) rfl
theorem q913 : (Jvm.Cond.constantLong "LimbMeasuresModel" (208 : Nat) (5 : Int64)) ∈ lw_all := lw_g (lw_at lw_m4 143 rfl) rfl
theorem q914 : (Jvm.Cond.constantLong "LimbMeasuresModel" (210 : Nat) (8 : Int64)) ∈ lw_all := lw_g (lw_at lw_m4 144 rfl) rfl
theorem q916 : (Jvm.Cond.instanceMethod ({ cls := "LimbMeasuresModel", name := "contract", desc := "(II)I" } : Jvm.MethodName)) ∈ lw_all := lw_g (lw_at lw_m4 146 rfl) rfl
theorem q917 : (Jvm.Cond.selects "LimbMeasuresModel" ({ cls := "LimbMeasuresModel", name := "contract", desc := "(II)I" } : Jvm.MethodName) ({ cls := "LimbMeasuresModel", name := "contract", desc := "(II)I" } : Jvm.MethodName)) ∈ lw_all := lw_g (lw_at lw_m4 147 rfl) rfl
theorem q918 : (Jvm.Cond.code ({ cls := "LimbMeasuresModel", name := "contract", desc := "(II)I" } : Jvm.MethodName) prog_9_method_28_code (3 : Nat) (Option.some Jvm.ClassFile.FieldType.int)) ∈ lw_all := lw_g (lw_at lw_m4 148 rfl) rfl
theorem q920 : (Jvm.Cond.instanceMethod ({ cls := "LimbMeasuresModel", name := "rate", desc := "(II)I" } : Jvm.MethodName)) ∈ lw_all := lw_g (lw_at lw_m4 150 rfl) rfl
theorem q921 : (Jvm.Cond.selects "LimbMeasuresModel" ({ cls := "LimbMeasuresModel", name := "rate", desc := "(II)I" } : Jvm.MethodName) ({ cls := "LimbMeasuresModel", name := "rate", desc := "(II)I" } : Jvm.MethodName)) ∈ lw_all := lw_g (lw_at lw_m4 151 rfl) rfl
theorem q922 : (Jvm.Cond.code ({ cls := "LimbMeasuresModel", name := "rate", desc := "(II)I" } : Jvm.MethodName) prog_9_method_29_code (3 : Nat) (Option.some Jvm.ClassFile.FieldType.int)) ∈ lw_all := lw_g (lw_at lw_m4 152 rfl) rfl
theorem q924 : (Jvm.Cond.instanceMethod ({ cls := "LimbMeasuresModel", name := "season", desc := "(I)I" } : Jvm.MethodName)) ∈ lw_all := lw_g (lw_at lw_m4 154 rfl) rfl
theorem q925 : (Jvm.Cond.selects "LimbMeasuresModel" ({ cls := "LimbMeasuresModel", name := "season", desc := "(I)I" } : Jvm.MethodName) ({ cls := "LimbMeasuresModel", name := "season", desc := "(I)I" } : Jvm.MethodName)) ∈ lw_all := lw_g (lw_at lw_m4 155 rfl) rfl
theorem q926 : (Jvm.Cond.code ({ cls := "LimbMeasuresModel", name := "season", desc := "(I)I" } : Jvm.MethodName) prog_9_method_33_code (4 : Nat) (Option.some Jvm.ClassFile.FieldType.int)) ∈ lw_all := lw_g (lw_at lw_m4 156 rfl) rfl
theorem q927 : (Jvm.Cond.methodLink "LimbMeasuresModel" (215 : Nat) ({ cls := "LimbMeasuresModel", name := "seasonsRefused", desc := "(I)I" } : Jvm.MethodName)) ∈ lw_all := lw_g (lw_at lw_m4 157 rfl) rfl
theorem q928 : (Jvm.Cond.privateMethod ({ cls := "LimbMeasuresModel", name := "seasonsRefused", desc := "(I)I" } : Jvm.MethodName)) ∈ lw_tbl := lw_at lw_m4 158 rfl
theorem q929 : (Jvm.Cond.instanceMethod ({ cls := "LimbMeasuresModel", name := "seasonsRefused", desc := "(I)I" } : Jvm.MethodName)) ∈ lw_all := lw_g (lw_at lw_m4 159 rfl) rfl
theorem q930 : (Jvm.Cond.code ({ cls := "LimbMeasuresModel", name := "seasonsRefused", desc := "(I)I" } : Jvm.MethodName) prog_9_method_32_code (2 : Nat) (Option.some Jvm.ClassFile.FieldType.int)) ∈ lw_all := lw_g (lw_at lw_m4 160 rfl) rfl
theorem q931 : (Jvm.Cond.constantLong "LimbMeasuresModel" (212 : Nat) (40 : Int64)) ∈ lw_all := lw_g (lw_at lw_m4 161 rfl) rfl
theorem q932 : (Jvm.Cond.constant "LimbMeasuresModel" (214 : Nat) (-1000000003 : Int32)) ∈ lw_all := lw_g (lw_at lw_m4 162 rfl) rfl
theorem q933 : (Jvm.Cond.methodLink "LimbMeasuresModel" (218 : Nat) ({ cls := "LimbMeasuresModel", name := "remember", desc := "()V" } : Jvm.MethodName)) ∈ lw_all := lw_g (lw_at lw_m4 163 rfl) rfl
theorem q934 : (Jvm.Cond.privateMethod ({ cls := "LimbMeasuresModel", name := "remember", desc := "()V" } : Jvm.MethodName)) ∈ lw_tbl := lw_at lw_m4 164 rfl
theorem q935 : (Jvm.Cond.instanceMethod ({ cls := "LimbMeasuresModel", name := "remember", desc := "()V" } : Jvm.MethodName)) ∈ lw_all := lw_g (lw_at lw_m4 165 rfl) rfl
theorem q936 : (Jvm.Cond.code ({ cls := "LimbMeasuresModel", name := "remember", desc := "()V" } : Jvm.MethodName) prog_9_method_30_code (2 : Nat) (Option.none : Option Jvm.ClassFile.FieldType)) ∈ lw_all := lw_g (lw_at lw_m4 166 rfl) rfl
theorem q937 : (Jvm.Cond.methodLink "LimbMeasuresModel" (221 : Nat) ({ cls := "LimbMeasuresModel", name := "pass", desc := "()V" } : Jvm.MethodName)) ∈ lw_all := lw_g (lw_at lw_m4 167 rfl) rfl
theorem q938 : (Jvm.Cond.privateMethod ({ cls := "LimbMeasuresModel", name := "pass", desc := "()V" } : Jvm.MethodName)) ∈ lw_tbl := lw_at lw_m4 168 rfl
theorem q939 : (Jvm.Cond.instanceMethod ({ cls := "LimbMeasuresModel", name := "pass", desc := "()V" } : Jvm.MethodName)) ∈ lw_all := lw_g (lw_at lw_m4 169 rfl) rfl
theorem q940 : (Jvm.Cond.code ({ cls := "LimbMeasuresModel", name := "pass", desc := "()V" } : Jvm.MethodName) prog_9_method_31_code (3 : Nat) (Option.none : Option Jvm.ClassFile.FieldType)) ∈ lw_all := lw_g (lw_at lw_m4 170 rfl) rfl
theorem q942 : (Jvm.Cond.instanceMethod ({ cls := "LimbMeasuresModel", name := "gout", desc := "(II)I" } : Jvm.MethodName)) ∈ lw_all := lw_g (lw_at lw_m4 172 rfl) rfl
theorem q943 : (Jvm.Cond.selects "LimbMeasuresModel" ({ cls := "LimbMeasuresModel", name := "gout", desc := "(II)I" } : Jvm.MethodName) ({ cls := "LimbMeasuresModel", name := "gout", desc := "(II)I" } : Jvm.MethodName)) ∈ lw_all := lw_g (lw_at lw_m4 173 rfl) rfl
theorem q944 : (Jvm.Cond.code ({ cls := "LimbMeasuresModel", name := "gout", desc := "(II)I" } : Jvm.MethodName) prog_9_method_36_code (3 : Nat) (Option.some Jvm.ClassFile.FieldType.int)) ∈ lw_all := lw_g (lw_at lw_m4 174 rfl) rfl
theorem q945 : (Jvm.Cond.constantLong "LimbMeasuresModel" (224 : Nat) (20 : Int64)) ∈ lw_all := lw_g (lw_at lw_m4 175 rfl) rfl
theorem q946 : (Jvm.Cond.methodLink "LimbMeasuresModel" (226 : Nat) ({ cls := "LimbMeasuresModel", name := "swell", desc := "(II)V" } : Jvm.MethodName)) ∈ lw_all := lw_g (lw_at lw_m4 176 rfl) rfl
theorem q947 : (Jvm.Cond.privateMethod ({ cls := "LimbMeasuresModel", name := "swell", desc := "(II)V" } : Jvm.MethodName)) ∈ lw_tbl := lw_at lw_m4 177 rfl
theorem q948 : (Jvm.Cond.instanceMethod ({ cls := "LimbMeasuresModel", name := "swell", desc := "(II)V" } : Jvm.MethodName)) ∈ lw_all := lw_g (lw_at lw_m4 178 rfl) rfl
theorem q949 : (Jvm.Cond.code ({ cls := "LimbMeasuresModel", name := "swell", desc := "(II)V" } : Jvm.MethodName) prog_9_method_34_code (3 : Nat) (Option.none : Option Jvm.ClassFile.FieldType)) ∈ lw_all := lw_g (lw_at lw_m4 179 rfl) rfl
theorem q951 : (Jvm.Cond.instanceMethod ({ cls := "LimbMeasuresModel", name := "stub", desc := "(I)I" } : Jvm.MethodName)) ∈ lw_all := lw_g (lw_at lw_m4 181 rfl) rfl
theorem q952 : (Jvm.Cond.selects "LimbMeasuresModel" ({ cls := "LimbMeasuresModel", name := "stub", desc := "(I)I" } : Jvm.MethodName) ({ cls := "LimbMeasuresModel", name := "stub", desc := "(I)I" } : Jvm.MethodName)) ∈ lw_all := lw_g (lw_at lw_m4 182 rfl) rfl
theorem q953 : (Jvm.Cond.code ({ cls := "LimbMeasuresModel", name := "stub", desc := "(I)I" } : Jvm.MethodName) prog_9_method_37_code (2 : Nat) (Option.some Jvm.ClassFile.FieldType.int)) ∈ lw_all := lw_g (lw_at lw_m4 183 rfl) rfl
theorem q954 : (Jvm.Cond.methodLink "LimbMeasuresModel" (230 : Nat) ({ cls := "LimbMeasuresModel", name := "shrink", desc := "(I)V" } : Jvm.MethodName)) ∈ lw_all := lw_g (lw_at lw_m4 184 rfl) rfl
theorem q955 : (Jvm.Cond.privateMethod ({ cls := "LimbMeasuresModel", name := "shrink", desc := "(I)V" } : Jvm.MethodName)) ∈ lw_tbl := lw_at lw_m4 185 rfl
theorem q956 : (Jvm.Cond.instanceMethod ({ cls := "LimbMeasuresModel", name := "shrink", desc := "(I)V" } : Jvm.MethodName)) ∈ lw_all := lw_g (lw_at lw_m4 186 rfl) rfl
theorem q957 : (Jvm.Cond.code ({ cls := "LimbMeasuresModel", name := "shrink", desc := "(I)V" } : Jvm.MethodName) prog_9_method_35_code (2 : Nat) (Option.none : Option Jvm.ClassFile.FieldType)) ∈ lw_all := lw_g (lw_at lw_m4 187 rfl) rfl
theorem q959 : (Jvm.Cond.instanceMethod ({ cls := "LimbMeasuresModel", name := "dies", desc := "(I)I" } : Jvm.MethodName)) ∈ lw_all := lw_g (lw_at lw_m4 189 rfl) rfl
theorem q960 : (Jvm.Cond.selects "LimbMeasuresModel" ({ cls := "LimbMeasuresModel", name := "dies", desc := "(I)I" } : Jvm.MethodName) ({ cls := "LimbMeasuresModel", name := "dies", desc := "(I)I" } : Jvm.MethodName)) ∈ lw_all := lw_g (lw_at lw_m4 190 rfl) rfl
theorem q961 : (Jvm.Cond.code ({ cls := "LimbMeasuresModel", name := "dies", desc := "(I)I" } : Jvm.MethodName) prog_9_method_38_code (2 : Nat) (Option.some Jvm.ClassFile.FieldType.int)) ∈ lw_all := lw_g (lw_at lw_m4 191 rfl) rfl
theorem q963 : (Jvm.Cond.instanceMethod ({ cls := "LimbMeasuresModel", name := "copy", desc := "(I)I" } : Jvm.MethodName)) ∈ lw_all := lw_g (lw_at lw_m4 193 rfl) rfl
theorem q964 : (Jvm.Cond.selects "LimbMeasuresModel" ({ cls := "LimbMeasuresModel", name := "copy", desc := "(I)I" } : Jvm.MethodName) ({ cls := "LimbMeasuresModel", name := "copy", desc := "(I)I" } : Jvm.MethodName)) ∈ lw_all := lw_g (lw_at lw_m4 194 rfl) rfl
theorem q965 : (Jvm.Cond.code ({ cls := "LimbMeasuresModel", name := "copy", desc := "(I)I" } : Jvm.MethodName) prog_9_method_39_code (2 : Nat) (Option.some Jvm.ClassFile.FieldType.int)) ∈ lw_all := lw_g (lw_at lw_m4 195 rfl) rfl
theorem q967 : (Jvm.Cond.instanceMethod ({ cls := "LimbMeasuresModel", name := "drift", desc := "(I)I" } : Jvm.MethodName)) ∈ lw_all := lw_g (lw_at lw_m4 197 rfl) rfl
theorem q968 : (Jvm.Cond.selects "LimbMeasuresModel" ({ cls := "LimbMeasuresModel", name := "drift", desc := "(I)I" } : Jvm.MethodName) ({ cls := "LimbMeasuresModel", name := "drift", desc := "(I)I" } : Jvm.MethodName)) ∈ lw_all := lw_g (lw_at lw_m4 198 rfl) rfl
theorem q969 : (Jvm.Cond.code ({ cls := "LimbMeasuresModel", name := "drift", desc := "(I)I" } : Jvm.MethodName) prog_9_method_42_code (4 : Nat) (Option.some Jvm.ClassFile.FieldType.int)) ∈ lw_all := lw_g (lw_at lw_m4 199 rfl) rfl
theorem q970 : (Jvm.Cond.methodLink "LimbMeasuresModel" (247 : Nat) ({ cls := "LimbMeasuresModel", name := "drawn", desc := "()V" } : Jvm.MethodName)) ∈ lw_all := lw_g (lw_at lw_m4 200 rfl) rfl
theorem q971 : (Jvm.Cond.privateMethod ({ cls := "LimbMeasuresModel", name := "drawn", desc := "()V" } : Jvm.MethodName)) ∈ lw_tbl := lw_at lw_m4 201 rfl
theorem q972 : (Jvm.Cond.instanceMethod ({ cls := "LimbMeasuresModel", name := "drawn", desc := "()V" } : Jvm.MethodName)) ∈ lw_all := lw_g (lw_at lw_m4 202 rfl) rfl
theorem q973 : (Jvm.Cond.code ({ cls := "LimbMeasuresModel", name := "drawn", desc := "()V" } : Jvm.MethodName) prog_9_method_41_code (4 : Nat) (Option.none : Option Jvm.ClassFile.FieldType)) ∈ lw_all := lw_g (lw_at lw_m4 203 rfl) rfl
theorem q974 : (Jvm.Cond.methodLink "LimbMeasuresModel" (244 : Nat) ({ cls := "LimbMeasuresModel", name := "draw", desc := "(I)I" } : Jvm.MethodName)) ∈ lw_all := lw_g (lw_at lw_m4 204 rfl) rfl
theorem q975 : (Jvm.Cond.privateMethod ({ cls := "LimbMeasuresModel", name := "draw", desc := "(I)I" } : Jvm.MethodName)) ∈ lw_tbl := lw_at lw_m4 205 rfl
theorem q976 : (Jvm.Cond.instanceMethod ({ cls := "LimbMeasuresModel", name := "draw", desc := "(I)I" } : Jvm.MethodName)) ∈ lw_all := lw_g (lw_at lw_m4 206 rfl) rfl
theorem q977 : (Jvm.Cond.code ({ cls := "LimbMeasuresModel", name := "draw", desc := "(I)I" } : Jvm.MethodName) prog_9_method_40_code (2 : Nat) (Option.some Jvm.ClassFile.FieldType.int)) ∈ lw_all := lw_g (lw_at lw_m4 207 rfl) rfl
theorem q978 : (Jvm.Cond.constantLong "LimbMeasuresModel" (237 : Nat) (1103515245 : Int64)) ∈ lw_all := lw_g (lw_at lw_m4 208 rfl) rfl
theorem q979 : (Jvm.Cond.constantLong "LimbMeasuresModel" (239 : Nat) (12345 : Int64)) ∈ lw_all := lw_g (lw_at lw_m4 209 rfl) rfl
theorem q980 : (Jvm.Cond.constantLong "LimbMeasuresModel" (241 : Nat) (2147483648 : Int64)) ∈ lw_all := lw_g (lw_at lw_m4 210 rfl) rfl
theorem q981 : (Jvm.Cond.constant "LimbMeasuresModel" (243 : Nat) (65536 : Int32)) ∈ lw_all := lw_g (lw_at lw_m4 211 rfl) rfl
theorem q983 : (Jvm.Cond.instanceMethod ({ cls := "LimbMeasuresModel", name := "undo", desc := "()I" } : Jvm.MethodName)) ∈ lw_all := lw_g (lw_at lw_m4 213 rfl) rfl
theorem q984 : (Jvm.Cond.selects "LimbMeasuresModel" ({ cls := "LimbMeasuresModel", name := "undo", desc := "()I" } : Jvm.MethodName) ({ cls := "LimbMeasuresModel", name := "undo", desc := "()I" } : Jvm.MethodName)) ∈ lw_all := lw_g (lw_at lw_m4 214 rfl) rfl
theorem q985 : (Jvm.Cond.code ({ cls := "LimbMeasuresModel", name := "undo", desc := "()I" } : Jvm.MethodName) prog_9_method_43_code (2 : Nat) (Option.some Jvm.ClassFile.FieldType.int)) ∈ lw_all := lw_g (lw_at lw_m4 215 rfl) rfl
theorem q987 : (Jvm.Cond.instanceMethod ({ cls := "LimbMeasuresModel", name := "firstNought", desc := "()I" } : Jvm.MethodName)) ∈ lw_all := lw_g (lw_at lw_m4 217 rfl) rfl
theorem q988 : (Jvm.Cond.selects "LimbMeasuresModel" ({ cls := "LimbMeasuresModel", name := "firstNought", desc := "()I" } : Jvm.MethodName) ({ cls := "LimbMeasuresModel", name := "firstNought", desc := "()I" } : Jvm.MethodName)) ∈ lw_all := lw_g (lw_at lw_m4 218 rfl) rfl
theorem q989 : (Jvm.Cond.code ({ cls := "LimbMeasuresModel", name := "firstNought", desc := "()I" } : Jvm.MethodName) prog_9_method_44_code (4 : Nat) (Option.some Jvm.ClassFile.FieldType.int)) ∈ lw_all := lw_g (lw_at lw_m4 219 rfl) rfl
theorem q991 : (Jvm.Cond.instanceMethod ({ cls := "LimbMeasuresModel", name := "means", desc := "(II)I" } : Jvm.MethodName)) ∈ lw_all := lw_g (lw_at lw_m4 221 rfl) rfl
theorem q992 : (Jvm.Cond.selects "LimbMeasuresModel" ({ cls := "LimbMeasuresModel", name := "means", desc := "(II)I" } : Jvm.MethodName) ({ cls := "LimbMeasuresModel", name := "means", desc := "(II)I" } : Jvm.MethodName)) ∈ lw_all := lw_g (lw_at lw_m4 222 rfl) rfl
theorem q993 : (Jvm.Cond.code ({ cls := "LimbMeasuresModel", name := "means", desc := "(II)I" } : Jvm.MethodName) prog_9_method_45_code (3 : Nat) (Option.some Jvm.ClassFile.FieldType.int)) ∈ lw_all := lw_g (lw_at lw_m4 223 rfl) rfl
theorem q994 : (Jvm.Cond.constantLong "LimbMeasuresModel" (250 : Nat) (99 : Int64)) ∈ lw_all := lw_g (lw_at lw_m4 224 rfl) rfl
theorem q996 : (Jvm.Cond.instanceMethod ({ cls := "LimbMeasuresModel", name := "basket", desc := "(I)I" } : Jvm.MethodName)) ∈ lw_all := lw_g (lw_at lw_m4 226 rfl) rfl
theorem q997 : (Jvm.Cond.selects "LimbMeasuresModel" ({ cls := "LimbMeasuresModel", name := "basket", desc := "(I)I" } : Jvm.MethodName) ({ cls := "LimbMeasuresModel", name := "basket", desc := "(I)I" } : Jvm.MethodName)) ∈ lw_all := lw_g (lw_at lw_m4 227 rfl) rfl
theorem q998 : (Jvm.Cond.code ({ cls := "LimbMeasuresModel", name := "basket", desc := "(I)I" } : Jvm.MethodName) prog_9_method_54_code (2 : Nat) (Option.some Jvm.ClassFile.FieldType.int)) ∈ lw_all := lw_g (lw_at lw_m4 228 rfl) rfl
theorem q999 : (Jvm.Cond.methodLink "LimbMeasuresModel" (278 : Nat) ({ cls := "LimbMeasuresModel", name := "findBasket", desc := "()V" } : Jvm.MethodName)) ∈ lw_all := lw_g (lw_at lw_m4 229 rfl) rfl
theorem q1000 : (Jvm.Cond.privateMethod ({ cls := "LimbMeasuresModel", name := "findBasket", desc := "()V" } : Jvm.MethodName)) ∈ lw_tbl := lw_at lw_m4 230 rfl
theorem q1001 : (Jvm.Cond.instanceMethod ({ cls := "LimbMeasuresModel", name := "findBasket", desc := "()V" } : Jvm.MethodName)) ∈ lw_all := lw_g (lw_at lw_m4 231 rfl) rfl
theorem q1002 : (Jvm.Cond.code ({ cls := "LimbMeasuresModel", name := "findBasket", desc := "()V" } : Jvm.MethodName) prog_9_method_53_code (3 : Nat) (Option.none : Option Jvm.ClassFile.FieldType)) ∈ lw_all := lw_g (lw_at lw_m4 232 rfl) rfl
theorem q1003 : (Jvm.Cond.methodLink "LimbMeasuresModel" (269 : Nat) ({ cls := "LimbMeasuresModel", name := "isBasket", desc := "(I)Z" } : Jvm.MethodName)) ∈ lw_all := lw_g (lw_at lw_m4 233 rfl) rfl
theorem q1004 : (Jvm.Cond.privateMethod ({ cls := "LimbMeasuresModel", name := "isBasket", desc := "(I)Z" } : Jvm.MethodName)) ∈ lw_tbl := lw_at lw_m4 234 rfl
theorem q1005 : (Jvm.Cond.instanceMethod ({ cls := "LimbMeasuresModel", name := "isBasket", desc := "(I)Z" } : Jvm.MethodName)) ∈ lw_all := lw_g (lw_at lw_m4 235 rfl) rfl
theorem q1006 : (Jvm.Cond.code ({ cls := "LimbMeasuresModel", name := "isBasket", desc := "(I)Z" } : Jvm.MethodName) prog_9_method_51_code (3 : Nat) (Option.some Jvm.ClassFile.FieldType.boolean)) ∈ lw_all := lw_g (lw_at lw_m4 236 rfl) rfl
theorem q1007 : (Jvm.Cond.methodLink "LimbMeasuresModel" (252 : Nat) ({ cls := "LimbMeasuresModel", name := "times", desc := "(II)I" } : Jvm.MethodName)) ∈ lw_all := lw_g (lw_at lw_m4 237 rfl) rfl
theorem q1008 : (Jvm.Cond.static ({ cls := "LimbMeasuresModel", name := "times", desc := "(II)I" } : Jvm.MethodName)) ∈ lw_all := lw_g (lw_at lw_m4 238 rfl) rfl
theorem q1009 : (Jvm.Cond.code ({ cls := "LimbMeasuresModel", name := "times", desc := "(II)I" } : Jvm.MethodName) prog_9_method_46_code (4 : Nat) (Option.some Jvm.ClassFile.FieldType.int)) ∈ lw_all := lw_g (lw_at lw_m4 239 rfl) rfl
theorem q1010 : (Jvm.Cond.methodLink "LimbMeasuresModel" (255 : Nat) ({ cls := "LimbMeasuresModel", name := "isFree", desc := "(I)Z" } : Jvm.MethodName)) ∈ lw_all := lw_g (lw_at lw_m5 0 rfl) rfl
theorem q1011 : (Jvm.Cond.privateMethod ({ cls := "LimbMeasuresModel", name := "isFree", desc := "(I)Z" } : Jvm.MethodName)) ∈ lw_tbl := lw_at lw_m5 1 rfl
theorem q1012 : (Jvm.Cond.instanceMethod ({ cls := "LimbMeasuresModel", name := "isFree", desc := "(I)Z" } : Jvm.MethodName)) ∈ lw_all := lw_g (lw_at lw_m5 2 rfl) rfl
theorem q1013 : (Jvm.Cond.code ({ cls := "LimbMeasuresModel", name := "isFree", desc := "(I)Z" } : Jvm.MethodName) prog_9_method_47_code (2 : Nat) (Option.some Jvm.ClassFile.FieldType.boolean)) ∈ lw_all := lw_g (lw_at lw_m5 3 rfl) rfl
theorem q1014 : (Jvm.Cond.methodLink "LimbMeasuresModel" (258 : Nat) ({ cls := "LimbMeasuresModel", name := "basketAt", desc := "(II)I" } : Jvm.MethodName)) ∈ lw_all := lw_g (lw_at lw_m5 4 rfl) rfl
theorem q1015 : (Jvm.Cond.privateMethod ({ cls := "LimbMeasuresModel", name := "basketAt", desc := "(II)I" } : Jvm.MethodName)) ∈ lw_tbl := lw_at lw_m5 5 rfl
theorem q1016 : (Jvm.Cond.instanceMethod ({ cls := "LimbMeasuresModel", name := "basketAt", desc := "(II)I" } : Jvm.MethodName)) ∈ lw_all := lw_g (lw_at lw_m5 6 rfl) rfl
theorem q1017 : (Jvm.Cond.code ({ cls := "LimbMeasuresModel", name := "basketAt", desc := "(II)I" } : Jvm.MethodName) prog_9_method_48_code (5 : Nat) (Option.some Jvm.ClassFile.FieldType.int)) ∈ lw_all := lw_g (lw_at lw_m5 7 rfl) rfl
theorem q1018 : (Jvm.Cond.methodLink "LimbMeasuresModel" (261 : Nat) ({ cls := "LimbMeasuresModel", name := "limbsOf", desc := "(I)I" } : Jvm.MethodName)) ∈ lw_all := lw_g (lw_at lw_m5 8 rfl) rfl
theorem q1019 : (Jvm.Cond.static ({ cls := "LimbMeasuresModel", name := "limbsOf", desc := "(I)I" } : Jvm.MethodName)) ∈ lw_all := lw_g (lw_at lw_m5 9 rfl) rfl
theorem q1020 : (Jvm.Cond.code ({ cls := "LimbMeasuresModel", name := "limbsOf", desc := "(I)I" } : Jvm.MethodName) prog_9_method_50_code (3 : Nat) (Option.some Jvm.ClassFile.FieldType.int)) ∈ lw_all := lw_g (lw_at lw_m5 10 rfl) rfl
theorem q1021 : (Jvm.Cond.constantLong "LimbMeasuresModel" (264 : Nat) (3 : Int64)) ∈ lw_all := lw_g (lw_at lw_m5 11 rfl) rfl
theorem q1022 : (Jvm.Cond.methodLink "LimbMeasuresModel" (272 : Nat) ({ cls := "LimbMeasuresModel", name := "timesOf", desc := "(I)I" } : Jvm.MethodName)) ∈ lw_all := lw_g (lw_at lw_m5 12 rfl) rfl
theorem q1023 : (Jvm.Cond.static ({ cls := "LimbMeasuresModel", name := "timesOf", desc := "(I)I" } : Jvm.MethodName)) ∈ lw_all := lw_g (lw_at lw_m5 13 rfl) rfl
theorem q1024 : (Jvm.Cond.code ({ cls := "LimbMeasuresModel", name := "timesOf", desc := "(I)I" } : Jvm.MethodName) prog_9_method_49_code (3 : Nat) (Option.some Jvm.ClassFile.FieldType.int)) ∈ lw_all := lw_g (lw_at lw_m5 14 rfl) rfl
theorem q1025 : (Jvm.Cond.methodLink "LimbMeasuresModel" (275 : Nat) ({ cls := "LimbMeasuresModel", name := "isAhead", desc := "(II)Z" } : Jvm.MethodName)) ∈ lw_all := lw_g (lw_at lw_m5 15 rfl) rfl
theorem q1026 : (Jvm.Cond.static ({ cls := "LimbMeasuresModel", name := "isAhead", desc := "(II)Z" } : Jvm.MethodName)) ∈ lw_all := lw_g (lw_at lw_m5 16 rfl) rfl
theorem q1027 : (Jvm.Cond.code ({ cls := "LimbMeasuresModel", name := "isAhead", desc := "(II)Z" } : Jvm.MethodName) prog_9_method_52_code (5 : Nat) (Option.some Jvm.ClassFile.FieldType.boolean)) ∈ lw_all := lw_g (lw_at lw_m5 17 rfl) rfl
theorem q1029 : (Jvm.Cond.instanceMethod ({ cls := "LimbMeasuresModel", name := "ring", desc := "(I)I" } : Jvm.MethodName)) ∈ lw_all := lw_g (lw_at lw_m5 19 rfl) rfl
theorem q1030 : (Jvm.Cond.selects "LimbMeasuresModel" ({ cls := "LimbMeasuresModel", name := "ring", desc := "(I)I" } : Jvm.MethodName) ({ cls := "LimbMeasuresModel", name := "ring", desc := "(I)I" } : Jvm.MethodName)) ∈ lw_all := lw_g (lw_at lw_m5 20 rfl) rfl
theorem q1031 : (Jvm.Cond.code ({ cls := "LimbMeasuresModel", name := "ring", desc := "(I)I" } : Jvm.MethodName) prog_9_method_59_code (3 : Nat) (Option.some Jvm.ClassFile.FieldType.int)) ∈ lw_all := lw_g (lw_at lw_m5 21 rfl) rfl
theorem q1032 : (Jvm.Cond.methodLink "LimbMeasuresModel" (295 : Nat) ({ cls := "LimbMeasuresModel", name := "findRing", desc := "()I" } : Jvm.MethodName)) ∈ lw_all := lw_g (lw_at lw_m5 22 rfl) rfl
theorem q1033 : (Jvm.Cond.privateMethod ({ cls := "LimbMeasuresModel", name := "findRing", desc := "()I" } : Jvm.MethodName)) ∈ lw_tbl := lw_at lw_m5 23 rfl
theorem q1034 : (Jvm.Cond.instanceMethod ({ cls := "LimbMeasuresModel", name := "findRing", desc := "()I" } : Jvm.MethodName)) ∈ lw_all := lw_g (lw_at lw_m5 24 rfl) rfl
theorem q1035 : (Jvm.Cond.code ({ cls := "LimbMeasuresModel", name := "findRing", desc := "()I" } : Jvm.MethodName) prog_9_method_58_code (3 : Nat) (Option.some Jvm.ClassFile.FieldType.int)) ∈ lw_all := lw_g (lw_at lw_m5 25 rfl) rfl
theorem q1036 : (Jvm.Cond.methodLink "LimbMeasuresModel" (288 : Nat) ({ cls := "LimbMeasuresModel", name := "isRow", desc := "(II)Z" } : Jvm.MethodName)) ∈ lw_all := lw_g (lw_at lw_m5 26 rfl) rfl
theorem q1037 : (Jvm.Cond.privateMethod ({ cls := "LimbMeasuresModel", name := "isRow", desc := "(II)Z" } : Jvm.MethodName)) ∈ lw_tbl := lw_at lw_m5 27 rfl
theorem q1038 : (Jvm.Cond.instanceMethod ({ cls := "LimbMeasuresModel", name := "isRow", desc := "(II)Z" } : Jvm.MethodName)) ∈ lw_all := lw_g (lw_at lw_m5 28 rfl) rfl
theorem q1039 : (Jvm.Cond.code ({ cls := "LimbMeasuresModel", name := "isRow", desc := "(II)Z" } : Jvm.MethodName) prog_9_method_56_code (7 : Nat) (Option.some Jvm.ClassFile.FieldType.boolean)) ∈ lw_all := lw_g (lw_at lw_m5 29 rfl) rfl
theorem q1040 : (Jvm.Cond.methodLink "LimbMeasuresModel" (281 : Nat) ({ cls := "LimbMeasuresModel", name := "figure", desc := "(III)I" } : Jvm.MethodName)) ∈ lw_all := lw_g (lw_at lw_m5 30 rfl) rfl
theorem q1041 : (Jvm.Cond.static ({ cls := "LimbMeasuresModel", name := "figure", desc := "(III)I" } : Jvm.MethodName)) ∈ lw_all := lw_g (lw_at lw_m5 31 rfl) rfl
theorem q1042 : (Jvm.Cond.code ({ cls := "LimbMeasuresModel", name := "figure", desc := "(III)I" } : Jvm.MethodName) prog_9_method_55_code (3 : Nat) (Option.some Jvm.ClassFile.FieldType.int)) ∈ lw_all := lw_g (lw_at lw_m5 32 rfl) rfl
theorem q1043 : (Jvm.Cond.methodLink "LimbMeasuresModel" (291 : Nat) ({ cls := "LimbMeasuresModel", name := "gains", desc := "(III)Z" } : Jvm.MethodName)) ∈ lw_all := lw_g (lw_at lw_m5 33 rfl) rfl
theorem q1044 : (Jvm.Cond.privateMethod ({ cls := "LimbMeasuresModel", name := "gains", desc := "(III)Z" } : Jvm.MethodName)) ∈ lw_tbl := lw_at lw_m5 34 rfl
theorem q1045 : (Jvm.Cond.instanceMethod ({ cls := "LimbMeasuresModel", name := "gains", desc := "(III)Z" } : Jvm.MethodName)) ∈ lw_all := lw_g (lw_at lw_m5 35 rfl) rfl
theorem q1046 : (Jvm.Cond.code ({ cls := "LimbMeasuresModel", name := "gains", desc := "(III)Z" } : Jvm.MethodName) prog_9_method_57_code (10 : Nat) (Option.some Jvm.ClassFile.FieldType.boolean)) ∈ lw_all := lw_g (lw_at lw_m5 36 rfl) rfl
theorem q1048 : (Jvm.Cond.instanceMethod ({ cls := "LimbMeasuresModel", name := "mended", desc := "()I" } : Jvm.MethodName)) ∈ lw_all := lw_g (lw_at lw_m5 38 rfl) rfl
theorem q1049 : (Jvm.Cond.selects "LimbMeasuresModel" ({ cls := "LimbMeasuresModel", name := "mended", desc := "()I" } : Jvm.MethodName) ({ cls := "LimbMeasuresModel", name := "mended", desc := "()I" } : Jvm.MethodName)) ∈ lw_all := lw_g (lw_at lw_m5 39 rfl) rfl
theorem q1050 : (Jvm.Cond.code ({ cls := "LimbMeasuresModel", name := "mended", desc := "()I" } : Jvm.MethodName) prog_9_method_60_code (5 : Nat) (Option.some Jvm.ClassFile.FieldType.int)) ∈ lw_all := lw_g (lw_at lw_m5 40 rfl) rfl
theorem q1052 : (Jvm.Cond.instanceMethod ({ cls := "LimbMeasuresModel", name := "heirs", desc := "(I)I" } : Jvm.MethodName)) ∈ lw_all := lw_g (lw_at lw_m5 42 rfl) rfl
theorem q1053 : (Jvm.Cond.selects "LimbMeasuresModel" ({ cls := "LimbMeasuresModel", name := "heirs", desc := "(I)I" } : Jvm.MethodName) ({ cls := "LimbMeasuresModel", name := "heirs", desc := "(I)I" } : Jvm.MethodName)) ∈ lw_all := lw_g (lw_at lw_m5 43 rfl) rfl
theorem q1054 : (Jvm.Cond.code ({ cls := "LimbMeasuresModel", name := "heirs", desc := "(I)I" } : Jvm.MethodName) prog_9_method_63_code (7 : Nat) (Option.some Jvm.ClassFile.FieldType.int)) ∈ lw_all := lw_g (lw_at lw_m5 44 rfl) rfl
theorem q1055 : (Jvm.Cond.methodLink "LimbMeasuresModel" (304 : Nat) ({ cls := "LimbMeasuresModel", name := "bits", desc := "(I)I" } : Jvm.MethodName)) ∈ lw_all := lw_g (lw_at lw_m5 45 rfl) rfl
theorem q1056 : (Jvm.Cond.static ({ cls := "LimbMeasuresModel", name := "bits", desc := "(I)I" } : Jvm.MethodName)) ∈ lw_all := lw_g (lw_at lw_m5 46 rfl) rfl
theorem q1057 : (Jvm.Cond.code ({ cls := "LimbMeasuresModel", name := "bits", desc := "(I)I" } : Jvm.MethodName) prog_9_method_5_code (3 : Nat) (Option.some Jvm.ClassFile.FieldType.int)) ∈ lw_all := lw_g (lw_at lw_m5 47 rfl) rfl
theorem q1058 : (Jvm.Cond.constant "LimbMeasuresModel" (307 : Nat) (1000000 : Int32)) ∈ lw_all := lw_g (lw_at lw_m5 48 rfl) rfl
theorem q1059 : (Jvm.Cond.constant "LimbMeasuresModel" (308 : Nat) (46656 : Int32)) ∈ lw_all := lw_g (lw_at lw_m5 49 rfl) rfl
theorem q1060 : (Jvm.Cond.methodLink "LimbMeasuresModel" (309 : Nat) ({ cls := "LimbMeasuresModel", name := "apartBy", desc := "(I)I" } : Jvm.MethodName)) ∈ lw_all := lw_g (lw_at lw_m5 50 rfl) rfl
theorem q1061 : (Jvm.Cond.privateMethod ({ cls := "LimbMeasuresModel", name := "apartBy", desc := "(I)I" } : Jvm.MethodName)) ∈ lw_tbl := lw_at lw_m5 51 rfl
theorem q1062 : (Jvm.Cond.instanceMethod ({ cls := "LimbMeasuresModel", name := "apartBy", desc := "(I)I" } : Jvm.MethodName)) ∈ lw_all := lw_g (lw_at lw_m5 52 rfl) rfl
theorem q1063 : (Jvm.Cond.code ({ cls := "LimbMeasuresModel", name := "apartBy", desc := "(I)I" } : Jvm.MethodName) prog_9_method_62_code (6 : Nat) (Option.some Jvm.ClassFile.FieldType.int)) ∈ lw_all := lw_g (lw_at lw_m5 53 rfl) rfl
theorem q1064 : (Jvm.Cond.methodLink "LimbMeasuresModel" (298 : Nat) ({ cls := "LimbMeasuresModel", name := "heirOf", desc := "(II)I" } : Jvm.MethodName)) ∈ lw_all := lw_g (lw_at lw_m5 54 rfl) rfl
theorem q1065 : (Jvm.Cond.static ({ cls := "LimbMeasuresModel", name := "heirOf", desc := "(II)I" } : Jvm.MethodName)) ∈ lw_all := lw_g (lw_at lw_m5 55 rfl) rfl
theorem q1066 : (Jvm.Cond.code ({ cls := "LimbMeasuresModel", name := "heirOf", desc := "(II)I" } : Jvm.MethodName) prog_9_method_61_code (4 : Nat) (Option.some Jvm.ClassFile.FieldType.int)) ∈ lw_all := lw_g (lw_at lw_m5 56 rfl) rfl
theorem q1067 : (Jvm.Cond.methodLink "LimbMeasuresModel" (301 : Nat) ({ cls := "LimbMeasuresModel", name := "apart", desc := "(II)I" } : Jvm.MethodName)) ∈ lw_all := lw_g (lw_at lw_m5 57 rfl) rfl
theorem q1068 : (Jvm.Cond.static ({ cls := "LimbMeasuresModel", name := "apart", desc := "(II)I" } : Jvm.MethodName)) ∈ lw_all := lw_g (lw_at lw_m5 58 rfl) rfl
theorem q1069 : (Jvm.Cond.code ({ cls := "LimbMeasuresModel", name := "apart", desc := "(II)I" } : Jvm.MethodName) prog_9_method_6_code (2 : Nat) (Option.some Jvm.ClassFile.FieldType.int)) ∈ lw_all := lw_g (lw_at lw_m5 59 rfl) rfl
theorem q1071 : (Jvm.Cond.instanceMethod ({ cls := "LimbMeasuresModel", name := "reach", desc := "(II)I" } : Jvm.MethodName)) ∈ lw_all := lw_g (lw_at lw_m5 61 rfl) rfl
theorem q1072 : (Jvm.Cond.selects "LimbMeasuresModel" ({ cls := "LimbMeasuresModel", name := "reach", desc := "(II)I" } : Jvm.MethodName) ({ cls := "LimbMeasuresModel", name := "reach", desc := "(II)I" } : Jvm.MethodName)) ∈ lw_all := lw_g (lw_at lw_m5 62 rfl) rfl
theorem q1073 : (Jvm.Cond.code ({ cls := "LimbMeasuresModel", name := "reach", desc := "(II)I" } : Jvm.MethodName) prog_9_method_64_code (7 : Nat) (Option.some Jvm.ClassFile.FieldType.int)) ∈ lw_all := lw_g (lw_at lw_m5 63 rfl) rfl
theorem q1075 : (Jvm.Cond.instanceMethod ({ cls := "LimbMeasuresModel", name := "bestCopy", desc := "(II)I" } : Jvm.MethodName)) ∈ lw_all := lw_g (lw_at lw_m5 65 rfl) rfl
theorem q1076 : (Jvm.Cond.selects "LimbMeasuresModel" ({ cls := "LimbMeasuresModel", name := "bestCopy", desc := "(II)I" } : Jvm.MethodName) ({ cls := "LimbMeasuresModel", name := "bestCopy", desc := "(II)I" } : Jvm.MethodName)) ∈ lw_all := lw_g (lw_at lw_m5 66 rfl) rfl
theorem q1077 : (Jvm.Cond.code ({ cls := "LimbMeasuresModel", name := "bestCopy", desc := "(II)I" } : Jvm.MethodName) prog_9_method_65_code (8 : Nat) (Option.some Jvm.ClassFile.FieldType.int)) ∈ lw_all := lw_g (lw_at lw_m5 67 rfl) rfl
theorem q1079 : (Jvm.Cond.instanceMethod ({ cls := "LimbMeasuresModel", name := "nearest", desc := "(I)I" } : Jvm.MethodName)) ∈ lw_all := lw_g (lw_at lw_m5 69 rfl) rfl
theorem q1080 : (Jvm.Cond.selects "LimbMeasuresModel" ({ cls := "LimbMeasuresModel", name := "nearest", desc := "(I)I" } : Jvm.MethodName) ({ cls := "LimbMeasuresModel", name := "nearest", desc := "(I)I" } : Jvm.MethodName)) ∈ lw_all := lw_g (lw_at lw_m5 70 rfl) rfl
theorem q1081 : (Jvm.Cond.code ({ cls := "LimbMeasuresModel", name := "nearest", desc := "(I)I" } : Jvm.MethodName) prog_9_method_66_code (4 : Nat) (Option.some Jvm.ClassFile.FieldType.int)) ∈ lw_all := lw_g (lw_at lw_m5 71 rfl) rfl
theorem q1082 : (Jvm.Cond.constantLong "LimbMeasuresModel" (312 : Nat) (999 : Int64)) ∈ lw_all := lw_g (lw_at lw_m5 72 rfl) rfl
theorem q1084 : (Jvm.Cond.instanceMethod ({ cls := "LimbMeasuresModel", name := "odds", desc := "(III)I" } : Jvm.MethodName)) ∈ lw_all := lw_g (lw_at lw_m5 74 rfl) rfl
theorem q1085 : (Jvm.Cond.selects "LimbMeasuresModel" ({ cls := "LimbMeasuresModel", name := "odds", desc := "(III)I" } : Jvm.MethodName) ({ cls := "LimbMeasuresModel", name := "odds", desc := "(III)I" } : Jvm.MethodName)) ∈ lw_all := lw_g (lw_at lw_m5 75 rfl) rfl
theorem q1086 : (Jvm.Cond.code ({ cls := "LimbMeasuresModel", name := "odds", desc := "(III)I" } : Jvm.MethodName) prog_9_method_67_code (8 : Nat) (Option.some Jvm.ClassFile.FieldType.int)) ∈ lw_all := lw_g (lw_at lw_m5 76 rfl) rfl
theorem q1087 : (Jvm.Cond.constantLong "LimbMeasuresModel" (314 : Nat) (60 : Int64)) ∈ lw_all := lw_g (lw_at lw_m5 77 rfl) rfl
theorem q1088 : (Jvm.Cond.constantLong "LimbMeasuresModel" (316 : Nat) (100 : Int64)) ∈ lw_all := lw_g (lw_at lw_m5 78 rfl) rfl
theorem q1089 : (Jvm.Cond.constantLong "LimbMeasuresModel" (318 : Nat) (1000000000 : Int64)) ∈ lw_all := lw_g (lw_at lw_m5 79 rfl) rfl
theorem q1091 : (Jvm.Cond.instanceMethod ({ cls := "LimbMeasuresModel", name := "got", desc := "(II)I" } : Jvm.MethodName)) ∈ lw_all := lw_g (lw_at lw_m5 81 rfl) rfl
theorem q1092 : (Jvm.Cond.selects "LimbMeasuresModel" ({ cls := "LimbMeasuresModel", name := "got", desc := "(II)I" } : Jvm.MethodName) ({ cls := "LimbMeasuresModel", name := "got", desc := "(II)I" } : Jvm.MethodName)) ∈ lw_all := lw_g (lw_at lw_m5 82 rfl) rfl
theorem q1093 : (Jvm.Cond.code ({ cls := "LimbMeasuresModel", name := "got", desc := "(II)I" } : Jvm.MethodName) prog_9_method_68_code (3 : Nat) (Option.some Jvm.ClassFile.FieldType.int)) ∈ lw_all := lw_g (lw_at lw_m5 83 rfl) rfl
theorem q1094 : (Jvm.Cond.constantLong "LimbMeasuresModel" (320 : Nat) (50 : Int64)) ∈ lw_all := lw_g (lw_at lw_m5 84 rfl) rfl
theorem q1095 : (Jvm.Cond.constantLong "LimbMeasuresModel" (322 : Nat) (9999 : Int64)) ∈ lw_all := lw_g (lw_at lw_m5 85 rfl) rfl
theorem q1097 : (Jvm.Cond.instanceMethod ({ cls := "LimbMeasuresModel", name := "used", desc := "()I" } : Jvm.MethodName)) ∈ lw_all := lw_g (lw_at lw_m5 87 rfl) rfl
theorem q1098 : (Jvm.Cond.selects "LimbMeasuresModel" ({ cls := "LimbMeasuresModel", name := "used", desc := "()I" } : Jvm.MethodName) ({ cls := "LimbMeasuresModel", name := "used", desc := "()I" } : Jvm.MethodName)) ∈ lw_all := lw_g (lw_at lw_m5 88 rfl) rfl
theorem q1099 : (Jvm.Cond.code ({ cls := "LimbMeasuresModel", name := "used", desc := "()I" } : Jvm.MethodName) prog_9_method_69_code (5 : Nat) (Option.some Jvm.ClassFile.FieldType.int)) ∈ lw_all := lw_g (lw_at lw_m5 89 rfl) rfl
theorem q1101 : (Jvm.Cond.instanceMethod ({ cls := "LimbMeasuresModel", name := "bale", desc := "()I" } : Jvm.MethodName)) ∈ lw_all := lw_g (lw_at lw_m5 91 rfl) rfl
theorem q1102 : (Jvm.Cond.selects "LimbMeasuresModel" ({ cls := "LimbMeasuresModel", name := "bale", desc := "()I" } : Jvm.MethodName) ({ cls := "LimbMeasuresModel", name := "bale", desc := "()I" } : Jvm.MethodName)) ∈ lw_all := lw_g (lw_at lw_m5 92 rfl) rfl
theorem q1103 : (Jvm.Cond.code ({ cls := "LimbMeasuresModel", name := "bale", desc := "()I" } : Jvm.MethodName) prog_9_method_70_code (7 : Nat) (Option.some Jvm.ClassFile.FieldType.int)) ∈ lw_all := lw_g (lw_at lw_m5 93 rfl) rfl
theorem q1104 : (Jvm.Cond.methodLink "LimbMeasuresModel" (324 : Nat) ({ cls := "LimbMeasuresModel", name := "used", desc := "()I" } : Jvm.MethodName)) ∈ lw_all := lw_g (lw_at lw_m5 94 rfl) rfl
theorem q1106 : (Jvm.Cond.instanceMethod ({ cls := "LimbMeasuresModel", name := "write", desc := "(II)I" } : Jvm.MethodName)) ∈ lw_all := lw_g (lw_at lw_m5 96 rfl) rfl
theorem q1107 : (Jvm.Cond.selects "LimbMeasuresModel" ({ cls := "LimbMeasuresModel", name := "write", desc := "(II)I" } : Jvm.MethodName) ({ cls := "LimbMeasuresModel", name := "write", desc := "(II)I" } : Jvm.MethodName)) ∈ lw_all := lw_g (lw_at lw_m5 97 rfl) rfl
theorem q1108 : (Jvm.Cond.code ({ cls := "LimbMeasuresModel", name := "write", desc := "(II)I" } : Jvm.MethodName) prog_9_method_71_code (3 : Nat) (Option.some Jvm.ClassFile.FieldType.int)) ∈ lw_all := lw_g (lw_at lw_m5 98 rfl) rfl
theorem q1110 : (Jvm.Cond.instanceMethod ({ cls := "LimbMeasuresModel", name := "tear", desc := "()I" } : Jvm.MethodName)) ∈ lw_all := lw_g (lw_at lw_m5 100 rfl) rfl
theorem q1111 : (Jvm.Cond.selects "LimbMeasuresModel" ({ cls := "LimbMeasuresModel", name := "tear", desc := "()I" } : Jvm.MethodName) ({ cls := "LimbMeasuresModel", name := "tear", desc := "()I" } : Jvm.MethodName)) ∈ lw_all := lw_g (lw_at lw_m5 101 rfl) rfl
theorem q1112 : (Jvm.Cond.code ({ cls := "LimbMeasuresModel", name := "tear", desc := "()I" } : Jvm.MethodName) prog_9_method_72_code (2 : Nat) (Option.some Jvm.ClassFile.FieldType.int)) ∈ lw_all := lw_g (lw_at lw_m5 102 rfl) rfl
theorem q1114 : (Jvm.Cond.instanceMethod ({ cls := "LimbMeasuresModel", name := "judge", desc := "()I" } : Jvm.MethodName)) ∈ lw_all := lw_g (lw_at lw_m5 104 rfl) rfl
theorem q1115 : (Jvm.Cond.selects "LimbMeasuresModel" ({ cls := "LimbMeasuresModel", name := "judge", desc := "()I" } : Jvm.MethodName) ({ cls := "LimbMeasuresModel", name := "judge", desc := "()I" } : Jvm.MethodName)) ∈ lw_all := lw_g (lw_at lw_m5 105 rfl) rfl
theorem q1116 : (Jvm.Cond.code ({ cls := "LimbMeasuresModel", name := "judge", desc := "()I" } : Jvm.MethodName) prog_9_method_73_code (2 : Nat) (Option.some Jvm.ClassFile.FieldType.int)) ∈ lw_all := lw_g (lw_at lw_m5 106 rfl) rfl
theorem q1118 : (Jvm.Cond.instanceMethod ({ cls := "LimbMeasuresModel", name := "seed", desc := "(I)I" } : Jvm.MethodName)) ∈ lw_all := lw_g (lw_at lw_m5 108 rfl) rfl
theorem q1119 : (Jvm.Cond.selects "LimbMeasuresModel" ({ cls := "LimbMeasuresModel", name := "seed", desc := "(I)I" } : Jvm.MethodName) ({ cls := "LimbMeasuresModel", name := "seed", desc := "(I)I" } : Jvm.MethodName)) ∈ lw_all := lw_g (lw_at lw_m5 109 rfl) rfl
theorem q1120 : (Jvm.Cond.code ({ cls := "LimbMeasuresModel", name := "seed", desc := "(I)I" } : Jvm.MethodName) prog_9_method_74_code (3 : Nat) (Option.some Jvm.ClassFile.FieldType.int)) ∈ lw_all := lw_g (lw_at lw_m5 110 rfl) rfl
theorem q1122 : (Jvm.Cond.instanceMethod ({ cls := "LimbMeasuresModel", name := "keep", desc := "(I)I" } : Jvm.MethodName)) ∈ lw_all := lw_g (lw_at lw_m5 112 rfl) rfl
theorem q1123 : (Jvm.Cond.selects "LimbMeasuresModel" ({ cls := "LimbMeasuresModel", name := "keep", desc := "(I)I" } : Jvm.MethodName) ({ cls := "LimbMeasuresModel", name := "keep", desc := "(I)I" } : Jvm.MethodName)) ∈ lw_all := lw_g (lw_at lw_m5 113 rfl) rfl
theorem q1124 : (Jvm.Cond.code ({ cls := "LimbMeasuresModel", name := "keep", desc := "(I)I" } : Jvm.MethodName) prog_9_method_75_code (3 : Nat) (Option.some Jvm.ClassFile.FieldType.int)) ∈ lw_all := lw_g (lw_at lw_m5 114 rfl) rfl
theorem q1126 : (Jvm.Cond.instanceMethod ({ cls := "LimbMeasuresModel", name := "goBack", desc := "(I)I" } : Jvm.MethodName)) ∈ lw_all := lw_g (lw_at lw_m5 116 rfl) rfl
theorem q1127 : (Jvm.Cond.selects "LimbMeasuresModel" ({ cls := "LimbMeasuresModel", name := "goBack", desc := "(I)I" } : Jvm.MethodName) ({ cls := "LimbMeasuresModel", name := "goBack", desc := "(I)I" } : Jvm.MethodName)) ∈ lw_all := lw_g (lw_at lw_m5 117 rfl) rfl
theorem q1128 : (Jvm.Cond.code ({ cls := "LimbMeasuresModel", name := "goBack", desc := "(I)I" } : Jvm.MethodName) prog_9_method_76_code (3 : Nat) (Option.some Jvm.ClassFile.FieldType.int)) ∈ lw_all := lw_g (lw_at lw_m5 118 rfl) rfl
theorem in_X3 : ∀ w ∈ wsX30, w ∈ lw_all := lw_in wsX30 [725, 727, 729, 731, 733, 735, 737, 739, 741, 743, 745, 747, 749, 751, 753, 755, 757, 759, 761, 763, 765, 767, 769, 771, 773, 775, 777, 779, 781, 783, 785, 787, 789, 791, 793, 795, 797, 799, 801, 803, 805, 807, 809, 811, 813] (by decide +kernel) (by decide +kernel)
