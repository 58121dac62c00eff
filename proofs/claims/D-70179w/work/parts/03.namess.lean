/-! LimbMeasures$Port -/
set_option maxRecDepth 100000
def RX1 : String := "LimbMeasures$Port"
def TX1 : u_T := fun k => match k with
  | 0 => ("LimbMeasures$Port", "limbs", "[LLimbMeasures$Limb;", true)
  | 1 => ("LimbMeasures$Port", "many", "I", false)
  | 2 => ("LimbMeasures$Port", "due", "[I", true)
  | 3 => ("LimbMeasures$Port", "owed", "[I", true)
  | 4 => ("LimbMeasures$Port", "times", "[I", true)
  | 5 => ("LimbMeasures$Port", "contracts", "I", false)
  | 6 => ("LimbMeasures$Port", "from", "[I", true)
  | 7 => ("LimbMeasures$Port", "to", "[I", true)
  | 8 => ("LimbMeasures$Port", "gives", "[I", true)
  | 9 => ("LimbMeasures$Port", "gets", "[I", true)
  | _ => ("LimbMeasures$Port", "rates", "I", false)
def tyX1 : Nat → FieldType := fun k => match k with
  | 0 => .array (.object "LimbMeasures$Limb")
  | 1 => .int
  | 2 => .array .int
  | 3 => .array .int
  | 4 => .array .int
  | 5 => .int
  | 6 => .array .int
  | 7 => .array .int
  | 8 => .array .int
  | 9 => .array .int
  | _ => .int
abbrev wsX10 : List Cond := u_ws RX1 TX1 11
theorem nmX1 : ∀ a, a < 11 → ∀ b, b < 11 → a ≠ b → (TX1 a).2.1 ≠ (TX1 b).2.1 := by decide +kernel
theorem tyX1_ok : ∀ k, k < 11 → parseFieldDescriptor (TX1 k).2.2.1 = some (tyX1 k) := by decide +kernel
abbrev cX1_init : ByteArray := prog_5_method_1_code
def yX1_init : MethodName := ⟨RX1, "<init>", "()V"⟩
def dkwX1_init_2 : List UInt8 := [188, 10, 181, 0, 30, 42, 16, 8, 188, 10, 181, 0, 33, 42, 16, 8, 188, 10, 181, 0, 36, 177]
abbrev dktX1_init_2 : List UInt8 := dkwX1_init_2 ++ []
def dkwX1_init_1 : List UInt8 := [188, 10, 181, 0, 21, 42, 16, 6, 188, 10, 181, 0, 24, 42, 16, 8, 188, 10, 181, 0, 27, 42, 16, 8]
abbrev dktX1_init_1 : List UInt8 := dkwX1_init_1 ++ dktX1_init_2
def dkwX1_init_0 : List UInt8 := [42, 183, 0, 3, 42, 16, 6, 189, 0, 9, 181, 0, 11, 42, 16, 6, 188, 10, 181, 0, 17, 42, 16, 6]
abbrev dktX1_init_0 : List UInt8 := dkwX1_init_0 ++ dktX1_init_1
theorem dksX1_init_0 : cX1_init.data.toList.drop 0 = dktX1_init_0 := by decide +kernel
theorem dksX1_init_1 : cX1_init.data.toList.drop 24 = dktX1_init_1 := dk_seg dksX1_init_0 24 rfl rfl
theorem dksX1_init_2 : cX1_init.data.toList.drop 48 = dktX1_init_2 := dk_seg dksX1_init_1 24 rfl rfl
theorem dX1_init_0 : decode cX1_init 0 = .ok (.aload_n 0, 1) := dk_42 (dk_at dksX1_init_0 0 rfl rfl)
theorem dX1_init_1 : decode cX1_init 1 = .ok (.invokespecial 3, 3) := dk_183 0 3 (dk_at dksX1_init_0 1 rfl rfl)
theorem dX1_init_4 : decode cX1_init 4 = .ok (.aload_n 0, 1) := dk_42 (dk_at dksX1_init_0 4 rfl rfl)
theorem dX1_init_5 : decode cX1_init 5 = .ok (.bipush 6, 2) := dk_16 6 (dk_at dksX1_init_0 5 rfl rfl)
theorem dX1_init_7 : decode cX1_init 7 = .ok (.anewarray 9, 3) := dk_189 0 9 (dk_at dksX1_init_0 7 rfl rfl)
theorem dX1_init_10 : decode cX1_init 10 = .ok (.putfield 11, 3) := dk_181 0 11 (dk_at dksX1_init_0 10 rfl rfl)
theorem dX1_init_13 : decode cX1_init 13 = .ok (.aload_n 0, 1) := dk_42 (dk_at dksX1_init_0 13 rfl rfl)
theorem dX1_init_14 : decode cX1_init 14 = .ok (.bipush 6, 2) := dk_16 6 (dk_at dksX1_init_0 14 rfl rfl)
theorem dX1_init_16 : decode cX1_init 16 = .ok (.newarray .int, 2) := dk_188_10 (dk_at dksX1_init_0 16 rfl rfl)
theorem dX1_init_18 : decode cX1_init 18 = .ok (.putfield 17, 3) := dk_181 0 17 (dk_at dksX1_init_0 18 rfl rfl)
theorem dX1_init_21 : decode cX1_init 21 = .ok (.aload_n 0, 1) := dk_42 (dk_at dksX1_init_0 21 rfl rfl)
theorem dX1_init_22 : decode cX1_init 22 = .ok (.bipush 6, 2) := dk_16 6 (dk_at dksX1_init_0 22 rfl rfl)
theorem dX1_init_24 : decode cX1_init 24 = .ok (.newarray .int, 2) := dk_188_10 (dk_at dksX1_init_1 0 rfl rfl)
theorem dX1_init_26 : decode cX1_init 26 = .ok (.putfield 21, 3) := dk_181 0 21 (dk_at dksX1_init_1 2 rfl rfl)
theorem dX1_init_29 : decode cX1_init 29 = .ok (.aload_n 0, 1) := dk_42 (dk_at dksX1_init_1 5 rfl rfl)
theorem dX1_init_30 : decode cX1_init 30 = .ok (.bipush 6, 2) := dk_16 6 (dk_at dksX1_init_1 6 rfl rfl)
theorem dX1_init_32 : decode cX1_init 32 = .ok (.newarray .int, 2) := dk_188_10 (dk_at dksX1_init_1 8 rfl rfl)
theorem dX1_init_34 : decode cX1_init 34 = .ok (.putfield 24, 3) := dk_181 0 24 (dk_at dksX1_init_1 10 rfl rfl)
theorem dX1_init_37 : decode cX1_init 37 = .ok (.aload_n 0, 1) := dk_42 (dk_at dksX1_init_1 13 rfl rfl)
theorem dX1_init_38 : decode cX1_init 38 = .ok (.bipush 8, 2) := dk_16 8 (dk_at dksX1_init_1 14 rfl rfl)
theorem dX1_init_40 : decode cX1_init 40 = .ok (.newarray .int, 2) := dk_188_10 (dk_at dksX1_init_1 16 rfl rfl)
theorem dX1_init_42 : decode cX1_init 42 = .ok (.putfield 27, 3) := dk_181 0 27 (dk_at dksX1_init_1 18 rfl rfl)
theorem dX1_init_45 : decode cX1_init 45 = .ok (.aload_n 0, 1) := dk_42 (dk_at dksX1_init_1 21 rfl rfl)
theorem dX1_init_46 : decode cX1_init 46 = .ok (.bipush 8, 2) := dk_16 8 (dk_at dksX1_init_1 22 rfl rfl)
theorem dX1_init_48 : decode cX1_init 48 = .ok (.newarray .int, 2) := dk_188_10 (dk_at dksX1_init_2 0 rfl rfl)
theorem dX1_init_50 : decode cX1_init 50 = .ok (.putfield 30, 3) := dk_181 0 30 (dk_at dksX1_init_2 2 rfl rfl)
theorem dX1_init_53 : decode cX1_init 53 = .ok (.aload_n 0, 1) := dk_42 (dk_at dksX1_init_2 5 rfl rfl)
theorem dX1_init_54 : decode cX1_init 54 = .ok (.bipush 8, 2) := dk_16 8 (dk_at dksX1_init_2 6 rfl rfl)
theorem dX1_init_56 : decode cX1_init 56 = .ok (.newarray .int, 2) := dk_188_10 (dk_at dksX1_init_2 8 rfl rfl)
theorem dX1_init_58 : decode cX1_init 58 = .ok (.putfield 33, 3) := dk_181 0 33 (dk_at dksX1_init_2 10 rfl rfl)
theorem dX1_init_61 : decode cX1_init 61 = .ok (.aload_n 0, 1) := dk_42 (dk_at dksX1_init_2 13 rfl rfl)
theorem dX1_init_62 : decode cX1_init 62 = .ok (.bipush 8, 2) := dk_16 8 (dk_at dksX1_init_2 14 rfl rfl)
theorem dX1_init_64 : decode cX1_init 64 = .ok (.newarray .int, 2) := dk_188_10 (dk_at dksX1_init_2 16 rfl rfl)
theorem dX1_init_66 : decode cX1_init 66 = .ok (.putfield 36, 3) := dk_181 0 36 (dk_at dksX1_init_2 18 rfl rfl)
theorem dX1_init_69 : decode cX1_init 69 = .ok (.return_, 1) := dk_177 (dk_at dksX1_init_2 21 rfl rfl)
theorem q52 : (Jvm.Cond.initialized "LimbMeasures$Port") ∈ lw_all := lw_g (lw_at lw_m1 2 rfl) rfl
theorem q73 : (Jvm.Cond.instantiable "LimbMeasures$Port" (11 : Nat)) ∈ lw_all := lw_g (lw_at lw_m1 23 rfl) rfl
theorem q75 : (Jvm.Cond.instanceMethod ({ cls := "LimbMeasures$Port", name := "<init>", desc := "()V" } : Jvm.MethodName)) ∈ lw_all := lw_g (lw_at lw_m1 25 rfl) rfl
theorem q76 : (Jvm.Cond.code ({ cls := "LimbMeasures$Port", name := "<init>", desc := "()V" } : Jvm.MethodName) prog_5_method_1_code (1 : Nat) (Option.none : Option Jvm.ClassFile.FieldType)) ∈ lw_all := lw_g (lw_at lw_m1 26 rfl) rfl
theorem q77 : (Jvm.Cond.methodLink "LimbMeasures$Port" (3 : Nat) ({ cls := "java/lang/Object", name := "<init>", desc := "()V" } : Jvm.MethodName)) ∈ lw_all := lw_g (lw_at lw_m1 27 rfl) rfl
theorem q78 : (Jvm.Cond.classLink "LimbMeasures$Port" (9 : Nat) "LimbMeasures$Limb") ∈ lw_all := lw_g (lw_at lw_m1 28 rfl) rfl
theorem q80 : (Jvm.Cond.fieldLink "LimbMeasures$Port" (11 : Nat) "LimbMeasures$Port" "limbs" "[LLimbMeasures$Limb;") ∈ lw_all := lw_g (lw_at lw_m1 30 rfl) rfl
theorem q87 : (Jvm.Cond.fieldLink "LimbMeasures$Port" (17 : Nat) "LimbMeasures$Port" "due" "[I") ∈ lw_all := lw_g (lw_at lw_m1 37 rfl) rfl
theorem q91 : (Jvm.Cond.fieldLink "LimbMeasures$Port" (21 : Nat) "LimbMeasures$Port" "owed" "[I") ∈ lw_all := lw_g (lw_at lw_m1 41 rfl) rfl
theorem q95 : (Jvm.Cond.fieldLink "LimbMeasures$Port" (24 : Nat) "LimbMeasures$Port" "times" "[I") ∈ lw_all := lw_g (lw_at lw_m1 45 rfl) rfl
theorem q102 : (Jvm.Cond.fieldLink "LimbMeasures$Port" (27 : Nat) "LimbMeasures$Port" "from" "[I") ∈ lw_all := lw_g (lw_at lw_m1 52 rfl) rfl
theorem q105 : (Jvm.Cond.fieldLink "LimbMeasures$Port" (30 : Nat) "LimbMeasures$Port" "to" "[I") ∈ lw_all := lw_g (lw_at lw_m1 55 rfl) rfl
theorem q108 : (Jvm.Cond.fieldLink "LimbMeasures$Port" (33 : Nat) "LimbMeasures$Port" "gives" "[I") ∈ lw_all := lw_g (lw_at lw_m1 58 rfl) rfl
theorem q111 : (Jvm.Cond.fieldLink "LimbMeasures$Port" (36 : Nat) "LimbMeasures$Port" "gets" "[I") ∈ lw_all := lw_g (lw_at lw_m1 61 rfl) rfl
theorem q116 : (Jvm.Cond.laysFinal "LimbMeasures$Port" "LimbMeasures$Port" "limbs" "[LLimbMeasures$Limb;") ∈ lw_all := lw_g (lw_at lw_m1 66 rfl) rfl
theorem q117 : (Jvm.Cond.soleField "LimbMeasures$Port" "limbs") ∈ lw_all := lw_g (lw_at lw_m1 67 rfl) rfl
theorem q118 : (Jvm.Cond.lays "LimbMeasures$Port" "LimbMeasures$Port" "many" "I") ∈ lw_all := lw_g (lw_at lw_m1 68 rfl) rfl
theorem q119 : (Jvm.Cond.soleField "LimbMeasures$Port" "many") ∈ lw_all := lw_g (lw_at lw_m1 69 rfl) rfl
theorem q120 : (Jvm.Cond.laysFinal "LimbMeasures$Port" "LimbMeasures$Port" "due" "[I") ∈ lw_all := lw_g (lw_at lw_m1 70 rfl) rfl
theorem q121 : (Jvm.Cond.soleField "LimbMeasures$Port" "due") ∈ lw_all := lw_g (lw_at lw_m1 71 rfl) rfl
theorem q122 : (Jvm.Cond.laysFinal "LimbMeasures$Port" "LimbMeasures$Port" "owed" "[I") ∈ lw_all := lw_g (lw_at lw_m1 72 rfl) rfl
theorem q123 : (Jvm.Cond.soleField "LimbMeasures$Port" "owed") ∈ lw_all := lw_g (lw_at lw_m1 73 rfl) rfl
theorem q124 : (Jvm.Cond.laysFinal "LimbMeasures$Port" "LimbMeasures$Port" "times" "[I") ∈ lw_all := lw_g (lw_at lw_m1 74 rfl) rfl
theorem q125 : (Jvm.Cond.soleField "LimbMeasures$Port" "times") ∈ lw_all := lw_g (lw_at lw_m1 75 rfl) rfl
theorem q126 : (Jvm.Cond.lays "LimbMeasures$Port" "LimbMeasures$Port" "contracts" "I") ∈ lw_all := lw_g (lw_at lw_m1 76 rfl) rfl
theorem q127 : (Jvm.Cond.soleField "LimbMeasures$Port" "contracts") ∈ lw_all := lw_g (lw_at lw_m1 77 rfl) rfl
theorem q128 : (Jvm.Cond.laysFinal "LimbMeasures$Port" "LimbMeasures$Port" "from" "[I") ∈ lw_all := lw_g (lw_at lw_m1 78 rfl) rfl
theorem q129 : (Jvm.Cond.soleField "LimbMeasures$Port" "from") ∈ lw_all := lw_g (lw_at lw_m1 79 rfl) rfl
theorem q130 : (Jvm.Cond.laysFinal "LimbMeasures$Port" "LimbMeasures$Port" "to" "[I") ∈ lw_all := lw_g (lw_at lw_m1 80 rfl) rfl
theorem q131 : (Jvm.Cond.soleField "LimbMeasures$Port" "to") ∈ lw_all := lw_g (lw_at lw_m1 81 rfl) rfl
theorem q132 : (Jvm.Cond.laysFinal "LimbMeasures$Port" "LimbMeasures$Port" "gives" "[I") ∈ lw_all := lw_g (lw_at lw_m1 82 rfl) rfl
theorem q133 : (Jvm.Cond.soleField "LimbMeasures$Port" "gives") ∈ lw_all := lw_g (lw_at lw_m1 83 rfl) rfl
theorem q134 : (Jvm.Cond.laysFinal "LimbMeasures$Port" "LimbMeasures$Port" "gets" "[I") ∈ lw_all := lw_g (lw_at lw_m1 84 rfl) rfl
theorem q135 : (Jvm.Cond.soleField "LimbMeasures$Port" "gets") ∈ lw_all := lw_g (lw_at lw_m1 85 rfl) rfl
theorem q136 : (Jvm.Cond.lays "LimbMeasures$Port" "LimbMeasures$Port" "rates" "I") ∈ lw_all := lw_g (lw_at lw_m1 86 rfl) rfl
theorem q137 : (Jvm.Cond.soleField "LimbMeasures$Port" "rates") ∈ lw_all := lw_g (lw_at lw_m1 87 rfl) rfl
theorem q138 : (Jvm.Cond.superclass "LimbMeasures$Port" "java/lang/Object") ∈ lw_all := lw_g (lw_at lw_m1 88 rfl) rfl
theorem in_X1 : ∀ w ∈ wsX10, w ∈ lw_all := lw_in wsX10 [116, 118, 120, 122, 124, 126, 128, 130, 132, 134, 136] (by decide +kernel) (by decide +kernel)
/-! LimbMeasures$State -/
set_option maxRecDepth 100000
def RX2 : String := "LimbMeasures$State"
def TX2 : u_T := fun k => match k with
  | 0 => ("LimbMeasures$State", "length", "[I", true)
  | 1 => ("LimbMeasures$State", "copy", "[I", true)
  | 2 => ("LimbMeasures$State", "paid", "[I", true)
  | 3 => ("LimbMeasures$State", "alive", "I", false)
  | 4 => ("LimbMeasures$State", "noughts", "I", false)
  | 5 => ("LimbMeasures$State", "seasons", "I", false)
  | 6 => ("LimbMeasures$State", "total", "I", false)
  | 7 => ("LimbMeasures$State", "seed", "I", false)
  | 8 => ("LimbMeasures$State", "isKept", "Z", false)
  | _ => ("LimbMeasures$State", "this$0", "LLimbMeasures;", true)
def tyX2 : Nat → FieldType := fun k => match k with
  | 0 => .array .int
  | 1 => .array .int
  | 2 => .array .int
  | 3 => .int
  | 4 => .int
  | 5 => .int
  | 6 => .int
  | 7 => .int
  | 8 => .boolean
  | _ => .object "LimbMeasures"
abbrev wsX20 : List Cond := u_ws RX2 TX2 10
theorem nmX2 : ∀ a, a < 10 → ∀ b, b < 10 → a ≠ b → (TX2 a).2.1 ≠ (TX2 b).2.1 := by decide +kernel
theorem tyX2_ok : ∀ k, k < 10 → parseFieldDescriptor (TX2 k).2.2.1 = some (tyX2 k) := by decide +kernel
abbrev cX2_init : ByteArray := prog_7_method_1_code
def yX2_init : MethodName := ⟨RX2, "<init>", "(LLimbMeasures;)V"⟩
def dkwX2_init_1 : List UInt8 := [181, 0, 19, 42, 16, 6, 188, 10, 181, 0, 22, 177]
abbrev dktX2_init_1 : List UInt8 := dkwX2_init_1 ++ []
def dkwX2_init_0 : List UInt8 := [42, 43, 181, 0, 3, 42, 183, 0, 9, 42, 16, 6, 188, 10, 181, 0, 15, 42, 16, 6, 188, 10]
abbrev dktX2_init_0 : List UInt8 := dkwX2_init_0 ++ dktX2_init_1
theorem dksX2_init_0 : cX2_init.data.toList.drop 0 = dktX2_init_0 := by decide +kernel
theorem dksX2_init_1 : cX2_init.data.toList.drop 22 = dktX2_init_1 := dk_seg dksX2_init_0 22 rfl rfl
theorem dX2_init_0 : decode cX2_init 0 = .ok (.aload_n 0, 1) := dk_42 (dk_at dksX2_init_0 0 rfl rfl)
theorem dX2_init_1 : decode cX2_init 1 = .ok (.aload_n 1, 1) := dk_43 (dk_at dksX2_init_0 1 rfl rfl)
theorem dX2_init_2 : decode cX2_init 2 = .ok (.putfield 3, 3) := dk_181 0 3 (dk_at dksX2_init_0 2 rfl rfl)
theorem dX2_init_5 : decode cX2_init 5 = .ok (.aload_n 0, 1) := dk_42 (dk_at dksX2_init_0 5 rfl rfl)
theorem dX2_init_6 : decode cX2_init 6 = .ok (.invokespecial 9, 3) := dk_183 0 9 (dk_at dksX2_init_0 6 rfl rfl)
theorem dX2_init_9 : decode cX2_init 9 = .ok (.aload_n 0, 1) := dk_42 (dk_at dksX2_init_0 9 rfl rfl)
theorem dX2_init_10 : decode cX2_init 10 = .ok (.bipush 6, 2) := dk_16 6 (dk_at dksX2_init_0 10 rfl rfl)
theorem dX2_init_12 : decode cX2_init 12 = .ok (.newarray .int, 2) := dk_188_10 (dk_at dksX2_init_0 12 rfl rfl)
theorem dX2_init_14 : decode cX2_init 14 = .ok (.putfield 15, 3) := dk_181 0 15 (dk_at dksX2_init_0 14 rfl rfl)
theorem dX2_init_17 : decode cX2_init 17 = .ok (.aload_n 0, 1) := dk_42 (dk_at dksX2_init_0 17 rfl rfl)
theorem dX2_init_18 : decode cX2_init 18 = .ok (.bipush 6, 2) := dk_16 6 (dk_at dksX2_init_0 18 rfl rfl)
theorem dX2_init_20 : decode cX2_init 20 = .ok (.newarray .int, 2) := dk_188_10 (dk_at dksX2_init_0 20 rfl rfl)
theorem dX2_init_22 : decode cX2_init 22 = .ok (.putfield 19, 3) := dk_181 0 19 (dk_at dksX2_init_1 0 rfl rfl)
theorem dX2_init_25 : decode cX2_init 25 = .ok (.aload_n 0, 1) := dk_42 (dk_at dksX2_init_1 3 rfl rfl)
theorem dX2_init_26 : decode cX2_init 26 = .ok (.bipush 6, 2) := dk_16 6 (dk_at dksX2_init_1 4 rfl rfl)
theorem dX2_init_28 : decode cX2_init 28 = .ok (.newarray .int, 2) := dk_188_10 (dk_at dksX2_init_1 6 rfl rfl)
theorem dX2_init_30 : decode cX2_init 30 = .ok (.putfield 22, 3) := dk_181 0 22 (dk_at dksX2_init_1 8 rfl rfl)
theorem dX2_init_33 : decode cX2_init 33 = .ok (.return_, 1) := dk_177 (dk_at dksX2_init_1 11 rfl rfl)
abbrev cX2_begin : ByteArray := prog_7_method_2_code
def yX2_begin : MethodName := ⟨RX2, "begin", "()V"⟩
def dkwX2_begin_4 : List UInt8 := [181, 0, 55, 42, 3, 181, 0, 58, 177]
abbrev dktX2_begin_4 : List UInt8 := dkwX2_begin_4 ++ []
def dkwX2_begin_3 : List UInt8 := [42, 180, 0, 3, 180, 0, 25, 180, 0, 29, 120, 4, 100, 181, 0, 49, 42, 3, 181, 0, 52, 42, 3]
abbrev dktX2_begin_3 : List UInt8 := dkwX2_begin_3 ++ dktX2_begin_4
def dkwX2_begin_2 : List UInt8 := [132, 1, 1, 167, 255, 208, 42, 180, 0, 19, 2, 184, 0, 43, 42, 180, 0, 22, 2, 184, 0, 43, 42, 4]
abbrev dktX2_begin_2 : List UInt8 := dkwX2_begin_2 ++ dktX2_begin_3
def dkwX2_begin_1 : List UInt8 := [162, 0, 21, 42, 180, 0, 3, 180, 0, 25, 180, 0, 35, 27, 50, 180, 0, 39, 167, 0, 4, 3, 79]
abbrev dktX2_begin_1 : List UInt8 := dkwX2_begin_1 ++ dktX2_begin_2
def dkwX2_begin_0 : List UInt8 := [3, 60, 27, 16, 6, 162, 0, 48, 42, 180, 0, 15, 27, 27, 42, 180, 0, 3, 180, 0, 25, 180, 0, 29]
abbrev dktX2_begin_0 : List UInt8 := dkwX2_begin_0 ++ dktX2_begin_1
theorem dksX2_begin_0 : cX2_begin.data.toList.drop 0 = dktX2_begin_0 := by decide +kernel
theorem dksX2_begin_1 : cX2_begin.data.toList.drop 24 = dktX2_begin_1 := dk_seg dksX2_begin_0 24 rfl rfl
theorem dksX2_begin_2 : cX2_begin.data.toList.drop 47 = dktX2_begin_2 := dk_seg dksX2_begin_1 23 rfl rfl
theorem dksX2_begin_3 : cX2_begin.data.toList.drop 71 = dktX2_begin_3 := dk_seg dksX2_begin_2 24 rfl rfl
theorem dksX2_begin_4 : cX2_begin.data.toList.drop 94 = dktX2_begin_4 := dk_seg dksX2_begin_3 23 rfl rfl
theorem dX2_begin_0 : decode cX2_begin 0 = .ok (.iconst 0, 1) := dk_3 (dk_at dksX2_begin_0 0 rfl rfl)
theorem dX2_begin_1 : decode cX2_begin 1 = .ok (.istore_n 1, 1) := dk_60 (dk_at dksX2_begin_0 1 rfl rfl)
theorem dX2_begin_2 : decode cX2_begin 2 = .ok (.iload_n 1, 1) := dk_27 (dk_at dksX2_begin_0 2 rfl rfl)
theorem dX2_begin_3 : decode cX2_begin 3 = .ok (.bipush 6, 2) := dk_16 6 (dk_at dksX2_begin_0 3 rfl rfl)
theorem dX2_begin_5 : decode cX2_begin 5 = .ok (.if_icmp .ge 48, 3) := dk_162 0 48 (dk_at dksX2_begin_0 5 rfl rfl)
theorem dX2_begin_8 : decode cX2_begin 8 = .ok (.aload_n 0, 1) := dk_42 (dk_at dksX2_begin_0 8 rfl rfl)
theorem dX2_begin_9 : decode cX2_begin 9 = .ok (.getfield 15, 3) := dk_180 0 15 (dk_at dksX2_begin_0 9 rfl rfl)
theorem dX2_begin_12 : decode cX2_begin 12 = .ok (.iload_n 1, 1) := dk_27 (dk_at dksX2_begin_0 12 rfl rfl)
theorem dX2_begin_13 : decode cX2_begin 13 = .ok (.iload_n 1, 1) := dk_27 (dk_at dksX2_begin_0 13 rfl rfl)
theorem dX2_begin_14 : decode cX2_begin 14 = .ok (.aload_n 0, 1) := dk_42 (dk_at dksX2_begin_0 14 rfl rfl)
theorem dX2_begin_15 : decode cX2_begin 15 = .ok (.getfield 3, 3) := dk_180 0 3 (dk_at dksX2_begin_0 15 rfl rfl)
theorem dX2_begin_18 : decode cX2_begin 18 = .ok (.getfield 25, 3) := dk_180 0 25 (dk_at dksX2_begin_0 18 rfl rfl)
theorem dX2_begin_21 : decode cX2_begin 21 = .ok (.getfield 29, 3) := dk_180 0 29 (dk_at dksX2_begin_0 21 rfl rfl)
theorem dX2_begin_24 : decode cX2_begin 24 = .ok (.if_icmp .ge 21, 3) := dk_162 0 21 (dk_at dksX2_begin_1 0 rfl rfl)
theorem dX2_begin_27 : decode cX2_begin 27 = .ok (.aload_n 0, 1) := dk_42 (dk_at dksX2_begin_1 3 rfl rfl)
theorem dX2_begin_28 : decode cX2_begin 28 = .ok (.getfield 3, 3) := dk_180 0 3 (dk_at dksX2_begin_1 4 rfl rfl)
theorem dX2_begin_31 : decode cX2_begin 31 = .ok (.getfield 25, 3) := dk_180 0 25 (dk_at dksX2_begin_1 7 rfl rfl)
theorem dX2_begin_34 : decode cX2_begin 34 = .ok (.getfield 35, 3) := dk_180 0 35 (dk_at dksX2_begin_1 10 rfl rfl)
theorem dX2_begin_37 : decode cX2_begin 37 = .ok (.iload_n 1, 1) := dk_27 (dk_at dksX2_begin_1 13 rfl rfl)
theorem dX2_begin_38 : decode cX2_begin 38 = .ok (.aaload, 1) := dk_50 (dk_at dksX2_begin_1 14 rfl rfl)
theorem dX2_begin_39 : decode cX2_begin 39 = .ok (.getfield 39, 3) := dk_180 0 39 (dk_at dksX2_begin_1 15 rfl rfl)
theorem dX2_begin_42 : decode cX2_begin 42 = .ok (.goto 4, 3) := dk_167 0 4 (dk_at dksX2_begin_1 18 rfl rfl)
theorem dX2_begin_45 : decode cX2_begin 45 = .ok (.iconst 0, 1) := dk_3 (dk_at dksX2_begin_1 21 rfl rfl)
theorem dX2_begin_46 : decode cX2_begin 46 = .ok (.iastore, 1) := dk_79 (dk_at dksX2_begin_1 22 rfl rfl)
theorem dX2_begin_47 : decode cX2_begin 47 = .ok (.iinc 1 1, 3) := dk_132 1 1 (dk_at dksX2_begin_2 0 rfl rfl)
theorem dX2_begin_50 : decode cX2_begin 50 = .ok (.goto (-48), 3) := dk_167 255 208 (dk_at dksX2_begin_2 3 rfl rfl)
theorem dX2_begin_53 : decode cX2_begin 53 = .ok (.aload_n 0, 1) := dk_42 (dk_at dksX2_begin_2 6 rfl rfl)
theorem dX2_begin_54 : decode cX2_begin 54 = .ok (.getfield 19, 3) := dk_180 0 19 (dk_at dksX2_begin_2 7 rfl rfl)
theorem dX2_begin_57 : decode cX2_begin 57 = .ok (.iconst (-1), 1) := dk_2 (dk_at dksX2_begin_2 10 rfl rfl)
theorem dX2_begin_58 : decode cX2_begin 58 = .ok (.invokestatic 43, 3) := dk_184 0 43 (dk_at dksX2_begin_2 11 rfl rfl)
theorem dX2_begin_61 : decode cX2_begin 61 = .ok (.aload_n 0, 1) := dk_42 (dk_at dksX2_begin_2 14 rfl rfl)
theorem dX2_begin_62 : decode cX2_begin 62 = .ok (.getfield 22, 3) := dk_180 0 22 (dk_at dksX2_begin_2 15 rfl rfl)
theorem dX2_begin_65 : decode cX2_begin 65 = .ok (.iconst (-1), 1) := dk_2 (dk_at dksX2_begin_2 18 rfl rfl)
theorem dX2_begin_66 : decode cX2_begin 66 = .ok (.invokestatic 43, 3) := dk_184 0 43 (dk_at dksX2_begin_2 19 rfl rfl)
theorem dX2_begin_69 : decode cX2_begin 69 = .ok (.aload_n 0, 1) := dk_42 (dk_at dksX2_begin_2 22 rfl rfl)
theorem dX2_begin_70 : decode cX2_begin 70 = .ok (.iconst 1, 1) := dk_4 (dk_at dksX2_begin_2 23 rfl rfl)
theorem dX2_begin_71 : decode cX2_begin 71 = .ok (.aload_n 0, 1) := dk_42 (dk_at dksX2_begin_3 0 rfl rfl)
theorem dX2_begin_72 : decode cX2_begin 72 = .ok (.getfield 3, 3) := dk_180 0 3 (dk_at dksX2_begin_3 1 rfl rfl)
theorem dX2_begin_75 : decode cX2_begin 75 = .ok (.getfield 25, 3) := dk_180 0 25 (dk_at dksX2_begin_3 4 rfl rfl)
theorem dX2_begin_78 : decode cX2_begin 78 = .ok (.getfield 29, 3) := dk_180 0 29 (dk_at dksX2_begin_3 7 rfl rfl)
theorem dX2_begin_81 : decode cX2_begin 81 = .ok (.ishl, 1) := dk_120 (dk_at dksX2_begin_3 10 rfl rfl)
theorem dX2_begin_82 : decode cX2_begin 82 = .ok (.iconst 1, 1) := dk_4 (dk_at dksX2_begin_3 11 rfl rfl)
theorem dX2_begin_83 : decode cX2_begin 83 = .ok (.isub, 1) := dk_100 (dk_at dksX2_begin_3 12 rfl rfl)
theorem dX2_begin_84 : decode cX2_begin 84 = .ok (.putfield 49, 3) := dk_181 0 49 (dk_at dksX2_begin_3 13 rfl rfl)
theorem dX2_begin_87 : decode cX2_begin 87 = .ok (.aload_n 0, 1) := dk_42 (dk_at dksX2_begin_3 16 rfl rfl)
theorem dX2_begin_88 : decode cX2_begin 88 = .ok (.iconst 0, 1) := dk_3 (dk_at dksX2_begin_3 17 rfl rfl)
theorem dX2_begin_89 : decode cX2_begin 89 = .ok (.putfield 52, 3) := dk_181 0 52 (dk_at dksX2_begin_3 18 rfl rfl)
theorem dX2_begin_92 : decode cX2_begin 92 = .ok (.aload_n 0, 1) := dk_42 (dk_at dksX2_begin_3 21 rfl rfl)
theorem dX2_begin_93 : decode cX2_begin 93 = .ok (.iconst 0, 1) := dk_3 (dk_at dksX2_begin_3 22 rfl rfl)
theorem dX2_begin_94 : decode cX2_begin 94 = .ok (.putfield 55, 3) := dk_181 0 55 (dk_at dksX2_begin_4 0 rfl rfl)
theorem dX2_begin_97 : decode cX2_begin 97 = .ok (.aload_n 0, 1) := dk_42 (dk_at dksX2_begin_4 3 rfl rfl)
theorem dX2_begin_98 : decode cX2_begin 98 = .ok (.iconst 0, 1) := dk_3 (dk_at dksX2_begin_4 4 rfl rfl)
theorem dX2_begin_99 : decode cX2_begin 99 = .ok (.putfield 58, 3) := dk_181 0 58 (dk_at dksX2_begin_4 5 rfl rfl)
theorem dX2_begin_102 : decode cX2_begin 102 = .ok (.return_, 1) := dk_177 (dk_at dksX2_begin_4 8 rfl rfl)
abbrev cX2_measure : ByteArray := prog_7_method_6_code
def yX2_measure : MethodName := ⟨RX2, "measure", "(II)I"⟩
def dkwX2_measure_3 : List UInt8 := [167, 255, 190, 3, 172]
abbrev dktX2_measure_3 : List UInt8 := dkwX2_measure_3 ++ []
def dkwX2_measure_2 : List UInt8 := [182, 0, 91, 172, 42, 180, 0, 3, 180, 0, 25, 180, 0, 35, 29, 50, 180, 0, 94, 62, 132, 4, 1]
abbrev dktX2_measure_2 : List UInt8 := dkwX2_measure_2 ++ dktX2_measure_3
def dkwX2_measure_1 : List UInt8 := [159, 0, 10, 42, 180, 0, 19, 29, 46, 172, 42, 180, 0, 49, 29, 184, 0, 87, 153, 0, 10, 42, 29, 28]
abbrev dktX2_measure_1 : List UInt8 := dkwX2_measure_1 ++ dktX2_measure_2
def dkwX2_measure_0 : List UInt8 := [27, 62, 3, 54, 4, 21, 4, 16, 6, 163, 0, 65, 29, 2, 159, 0, 60, 42, 180, 0, 19, 29, 46, 2]
abbrev dktX2_measure_0 : List UInt8 := dkwX2_measure_0 ++ dktX2_measure_1
theorem dksX2_measure_0 : cX2_measure.data.toList.drop 0 = dktX2_measure_0 := by decide +kernel
theorem dksX2_measure_1 : cX2_measure.data.toList.drop 24 = dktX2_measure_1 := dk_seg dksX2_measure_0 24 rfl rfl
theorem dksX2_measure_2 : cX2_measure.data.toList.drop 48 = dktX2_measure_2 := dk_seg dksX2_measure_1 24 rfl rfl
theorem dksX2_measure_3 : cX2_measure.data.toList.drop 71 = dktX2_measure_3 := dk_seg dksX2_measure_2 23 rfl rfl
theorem dX2_measure_0 : decode cX2_measure 0 = .ok (.iload_n 1, 1) := dk_27 (dk_at dksX2_measure_0 0 rfl rfl)
theorem dX2_measure_1 : decode cX2_measure 1 = .ok (.istore_n 3, 1) := dk_62 (dk_at dksX2_measure_0 1 rfl rfl)
theorem dX2_measure_2 : decode cX2_measure 2 = .ok (.iconst 0, 1) := dk_3 (dk_at dksX2_measure_0 2 rfl rfl)
theorem dX2_measure_3 : decode cX2_measure 3 = .ok (.istore 4, 2) := dk_54 4 (dk_at dksX2_measure_0 3 rfl rfl)
theorem dX2_measure_5 : decode cX2_measure 5 = .ok (.iload 4, 2) := dk_21 4 (dk_at dksX2_measure_0 5 rfl rfl)
theorem dX2_measure_7 : decode cX2_measure 7 = .ok (.bipush 6, 2) := dk_16 6 (dk_at dksX2_measure_0 7 rfl rfl)
theorem dX2_measure_9 : decode cX2_measure 9 = .ok (.if_icmp .gt 65, 3) := dk_163 0 65 (dk_at dksX2_measure_0 9 rfl rfl)
theorem dX2_measure_12 : decode cX2_measure 12 = .ok (.iload_n 3, 1) := dk_29 (dk_at dksX2_measure_0 12 rfl rfl)
theorem dX2_measure_13 : decode cX2_measure 13 = .ok (.iconst (-1), 1) := dk_2 (dk_at dksX2_measure_0 13 rfl rfl)
theorem dX2_measure_14 : decode cX2_measure 14 = .ok (.if_icmp .eq 60, 3) := dk_159 0 60 (dk_at dksX2_measure_0 14 rfl rfl)
theorem dX2_measure_17 : decode cX2_measure 17 = .ok (.aload_n 0, 1) := dk_42 (dk_at dksX2_measure_0 17 rfl rfl)
theorem dX2_measure_18 : decode cX2_measure 18 = .ok (.getfield 19, 3) := dk_180 0 19 (dk_at dksX2_measure_0 18 rfl rfl)
theorem dX2_measure_21 : decode cX2_measure 21 = .ok (.iload_n 3, 1) := dk_29 (dk_at dksX2_measure_0 21 rfl rfl)
theorem dX2_measure_22 : decode cX2_measure 22 = .ok (.iaload, 1) := dk_46 (dk_at dksX2_measure_0 22 rfl rfl)
theorem dX2_measure_23 : decode cX2_measure 23 = .ok (.iconst (-1), 1) := dk_2 (dk_at dksX2_measure_0 23 rfl rfl)
theorem dX2_measure_24 : decode cX2_measure 24 = .ok (.if_icmp .eq 10, 3) := dk_159 0 10 (dk_at dksX2_measure_1 0 rfl rfl)
theorem dX2_measure_27 : decode cX2_measure 27 = .ok (.aload_n 0, 1) := dk_42 (dk_at dksX2_measure_1 3 rfl rfl)
theorem dX2_measure_28 : decode cX2_measure 28 = .ok (.getfield 19, 3) := dk_180 0 19 (dk_at dksX2_measure_1 4 rfl rfl)
theorem dX2_measure_31 : decode cX2_measure 31 = .ok (.iload_n 3, 1) := dk_29 (dk_at dksX2_measure_1 7 rfl rfl)
theorem dX2_measure_32 : decode cX2_measure 32 = .ok (.iaload, 1) := dk_46 (dk_at dksX2_measure_1 8 rfl rfl)
theorem dX2_measure_33 : decode cX2_measure 33 = .ok (.ireturn, 1) := dk_172 (dk_at dksX2_measure_1 9 rfl rfl)
theorem dX2_measure_34 : decode cX2_measure 34 = .ok (.aload_n 0, 1) := dk_42 (dk_at dksX2_measure_1 10 rfl rfl)
theorem dX2_measure_35 : decode cX2_measure 35 = .ok (.getfield 49, 3) := dk_180 0 49 (dk_at dksX2_measure_1 11 rfl rfl)
theorem dX2_measure_38 : decode cX2_measure 38 = .ok (.iload_n 3, 1) := dk_29 (dk_at dksX2_measure_1 14 rfl rfl)
theorem dX2_measure_39 : decode cX2_measure 39 = .ok (.invokestatic 87, 3) := dk_184 0 87 (dk_at dksX2_measure_1 15 rfl rfl)
theorem dX2_measure_42 : decode cX2_measure 42 = .ok (.ifCond .eq 10, 3) := dk_153 0 10 (dk_at dksX2_measure_1 18 rfl rfl)
theorem dX2_measure_45 : decode cX2_measure 45 = .ok (.aload_n 0, 1) := dk_42 (dk_at dksX2_measure_1 21 rfl rfl)
theorem dX2_measure_46 : decode cX2_measure 46 = .ok (.iload_n 3, 1) := dk_29 (dk_at dksX2_measure_1 22 rfl rfl)
theorem dX2_measure_47 : decode cX2_measure 47 = .ok (.iload_n 2, 1) := dk_28 (dk_at dksX2_measure_1 23 rfl rfl)
theorem dX2_measure_48 : decode cX2_measure 48 = .ok (.invokevirtual 91, 3) := dk_182 0 91 (dk_at dksX2_measure_2 0 rfl rfl)
theorem dX2_measure_51 : decode cX2_measure 51 = .ok (.ireturn, 1) := dk_172 (dk_at dksX2_measure_2 3 rfl rfl)
theorem dX2_measure_52 : decode cX2_measure 52 = .ok (.aload_n 0, 1) := dk_42 (dk_at dksX2_measure_2 4 rfl rfl)
theorem dX2_measure_53 : decode cX2_measure 53 = .ok (.getfield 3, 3) := dk_180 0 3 (dk_at dksX2_measure_2 5 rfl rfl)
theorem dX2_measure_56 : decode cX2_measure 56 = .ok (.getfield 25, 3) := dk_180 0 25 (dk_at dksX2_measure_2 8 rfl rfl)
theorem dX2_measure_59 : decode cX2_measure 59 = .ok (.getfield 35, 3) := dk_180 0 35 (dk_at dksX2_measure_2 11 rfl rfl)
theorem dX2_measure_62 : decode cX2_measure 62 = .ok (.iload_n 3, 1) := dk_29 (dk_at dksX2_measure_2 14 rfl rfl)
theorem dX2_measure_63 : decode cX2_measure 63 = .ok (.aaload, 1) := dk_50 (dk_at dksX2_measure_2 15 rfl rfl)
theorem dX2_measure_64 : decode cX2_measure 64 = .ok (.getfield 94, 3) := dk_180 0 94 (dk_at dksX2_measure_2 16 rfl rfl)
theorem dX2_measure_67 : decode cX2_measure 67 = .ok (.istore_n 3, 1) := dk_62 (dk_at dksX2_measure_2 19 rfl rfl)
theorem dX2_measure_68 : decode cX2_measure 68 = .ok (.iinc 4 1, 3) := dk_132 4 1 (dk_at dksX2_measure_2 20 rfl rfl)
theorem dX2_measure_71 : decode cX2_measure 71 = .ok (.goto (-66), 3) := dk_167 255 190 (dk_at dksX2_measure_3 0 rfl rfl)
theorem dX2_measure_74 : decode cX2_measure 74 = .ok (.iconst 0, 1) := dk_3 (dk_at dksX2_measure_3 3 rfl rfl)
theorem dX2_measure_75 : decode cX2_measure 75 = .ok (.ireturn, 1) := dk_172 (dk_at dksX2_measure_3 4 rfl rfl)
abbrev cX2_own : ByteArray := prog_7_method_5_code
def yX2_own : MethodName := ⟨RX2, "own", "(II)I"⟩
def dkwX2_own_1 : List UInt8 := [184, 0, 81, 172]
abbrev dktX2_own_1 : List UInt8 := dkwX2_own_1 ++ []
def dkwX2_own_0 : List UInt8 := [3, 42, 180, 0, 15, 27, 46, 42, 180, 0, 3, 180, 0, 25, 180, 0, 35, 27, 50, 28, 182, 0, 77, 96]
abbrev dktX2_own_0 : List UInt8 := dkwX2_own_0 ++ dktX2_own_1
theorem dksX2_own_0 : cX2_own.data.toList.drop 0 = dktX2_own_0 := by decide +kernel
theorem dksX2_own_1 : cX2_own.data.toList.drop 24 = dktX2_own_1 := dk_seg dksX2_own_0 24 rfl rfl
theorem dX2_own_0 : decode cX2_own 0 = .ok (.iconst 0, 1) := dk_3 (dk_at dksX2_own_0 0 rfl rfl)
theorem dX2_own_1 : decode cX2_own 1 = .ok (.aload_n 0, 1) := dk_42 (dk_at dksX2_own_0 1 rfl rfl)
theorem dX2_own_2 : decode cX2_own 2 = .ok (.getfield 15, 3) := dk_180 0 15 (dk_at dksX2_own_0 2 rfl rfl)
theorem dX2_own_5 : decode cX2_own 5 = .ok (.iload_n 1, 1) := dk_27 (dk_at dksX2_own_0 5 rfl rfl)
theorem dX2_own_6 : decode cX2_own 6 = .ok (.iaload, 1) := dk_46 (dk_at dksX2_own_0 6 rfl rfl)
theorem dX2_own_7 : decode cX2_own 7 = .ok (.aload_n 0, 1) := dk_42 (dk_at dksX2_own_0 7 rfl rfl)
theorem dX2_own_8 : decode cX2_own 8 = .ok (.getfield 3, 3) := dk_180 0 3 (dk_at dksX2_own_0 8 rfl rfl)
theorem dX2_own_11 : decode cX2_own 11 = .ok (.getfield 25, 3) := dk_180 0 25 (dk_at dksX2_own_0 11 rfl rfl)
theorem dX2_own_14 : decode cX2_own 14 = .ok (.getfield 35, 3) := dk_180 0 35 (dk_at dksX2_own_0 14 rfl rfl)
theorem dX2_own_17 : decode cX2_own 17 = .ok (.iload_n 1, 1) := dk_27 (dk_at dksX2_own_0 17 rfl rfl)
theorem dX2_own_18 : decode cX2_own 18 = .ok (.aaload, 1) := dk_50 (dk_at dksX2_own_0 18 rfl rfl)
theorem dX2_own_19 : decode cX2_own 19 = .ok (.iload_n 2, 1) := dk_28 (dk_at dksX2_own_0 19 rfl rfl)
theorem dX2_own_20 : decode cX2_own 20 = .ok (.invokevirtual 77, 3) := dk_182 0 77 (dk_at dksX2_own_0 20 rfl rfl)
theorem dX2_own_23 : decode cX2_own 23 = .ok (.iadd, 1) := dk_96 (dk_at dksX2_own_0 23 rfl rfl)
theorem dX2_own_24 : decode cX2_own 24 = .ok (.invokestatic 81, 3) := dk_184 0 81 (dk_at dksX2_own_1 0 rfl rfl)
theorem dX2_own_27 : decode cX2_own 27 = .ok (.ireturn, 1) := dk_172 (dk_at dksX2_own_1 3 rfl rfl)
abbrev cX2_set : ByteArray := prog_7_method_3_code
def yX2_set : MethodName := ⟨RX2, "set", "(LLimbMeasures$State;)V"⟩
def dkwX2_set_3 : List UInt8 := [180, 0, 58, 181, 0, 58, 42, 43, 180, 0, 67, 181, 0, 67, 177]
abbrev dktX2_set_3 : List UInt8 := dkwX2_set_3 ++ []
def dkwX2_set_2 : List UInt8 := [180, 0, 49, 181, 0, 49, 42, 43, 180, 0, 52, 181, 0, 52, 42, 43, 180, 0, 55, 181, 0, 55, 42, 43]
abbrev dktX2_set_2 : List UInt8 := dkwX2_set_2 ++ dktX2_set_3
def dkwX2_set_1 : List UInt8 := [3, 16, 6, 184, 0, 61, 43, 180, 0, 22, 3, 42, 180, 0, 22, 3, 16, 6, 184, 0, 61, 42, 43]
abbrev dktX2_set_1 : List UInt8 := dkwX2_set_1 ++ dktX2_set_2
def dkwX2_set_0 : List UInt8 := [43, 180, 0, 15, 3, 42, 180, 0, 15, 3, 16, 6, 184, 0, 61, 43, 180, 0, 19, 3, 42, 180, 0, 19]
abbrev dktX2_set_0 : List UInt8 := dkwX2_set_0 ++ dktX2_set_1
theorem dksX2_set_0 : cX2_set.data.toList.drop 0 = dktX2_set_0 := by decide +kernel
theorem dksX2_set_1 : cX2_set.data.toList.drop 24 = dktX2_set_1 := dk_seg dksX2_set_0 24 rfl rfl
theorem dksX2_set_2 : cX2_set.data.toList.drop 47 = dktX2_set_2 := dk_seg dksX2_set_1 23 rfl rfl
theorem dksX2_set_3 : cX2_set.data.toList.drop 71 = dktX2_set_3 := dk_seg dksX2_set_2 24 rfl rfl
theorem dX2_set_0 : decode cX2_set 0 = .ok (.aload_n 1, 1) := dk_43 (dk_at dksX2_set_0 0 rfl rfl)
theorem dX2_set_1 : decode cX2_set 1 = .ok (.getfield 15, 3) := dk_180 0 15 (dk_at dksX2_set_0 1 rfl rfl)
theorem dX2_set_4 : decode cX2_set 4 = .ok (.iconst 0, 1) := dk_3 (dk_at dksX2_set_0 4 rfl rfl)
theorem dX2_set_5 : decode cX2_set 5 = .ok (.aload_n 0, 1) := dk_42 (dk_at dksX2_set_0 5 rfl rfl)
theorem dX2_set_6 : decode cX2_set 6 = .ok (.getfield 15, 3) := dk_180 0 15 (dk_at dksX2_set_0 6 rfl rfl)
theorem dX2_set_9 : decode cX2_set 9 = .ok (.iconst 0, 1) := dk_3 (dk_at dksX2_set_0 9 rfl rfl)
theorem dX2_set_10 : decode cX2_set 10 = .ok (.bipush 6, 2) := dk_16 6 (dk_at dksX2_set_0 10 rfl rfl)
theorem dX2_set_12 : decode cX2_set 12 = .ok (.invokestatic 61, 3) := dk_184 0 61 (dk_at dksX2_set_0 12 rfl rfl)
theorem dX2_set_15 : decode cX2_set 15 = .ok (.aload_n 1, 1) := dk_43 (dk_at dksX2_set_0 15 rfl rfl)
theorem dX2_set_16 : decode cX2_set 16 = .ok (.getfield 19, 3) := dk_180 0 19 (dk_at dksX2_set_0 16 rfl rfl)
theorem dX2_set_19 : decode cX2_set 19 = .ok (.iconst 0, 1) := dk_3 (dk_at dksX2_set_0 19 rfl rfl)
theorem dX2_set_20 : decode cX2_set 20 = .ok (.aload_n 0, 1) := dk_42 (dk_at dksX2_set_0 20 rfl rfl)
theorem dX2_set_21 : decode cX2_set 21 = .ok (.getfield 19, 3) := dk_180 0 19 (dk_at dksX2_set_0 21 rfl rfl)
theorem dX2_set_24 : decode cX2_set 24 = .ok (.iconst 0, 1) := dk_3 (dk_at dksX2_set_1 0 rfl rfl)
theorem dX2_set_25 : decode cX2_set 25 = .ok (.bipush 6, 2) := dk_16 6 (dk_at dksX2_set_1 1 rfl rfl)
theorem dX2_set_27 : decode cX2_set 27 = .ok (.invokestatic 61, 3) := dk_184 0 61 (dk_at dksX2_set_1 3 rfl rfl)
theorem dX2_set_30 : decode cX2_set 30 = .ok (.aload_n 1, 1) := dk_43 (dk_at dksX2_set_1 6 rfl rfl)
theorem dX2_set_31 : decode cX2_set 31 = .ok (.getfield 22, 3) := dk_180 0 22 (dk_at dksX2_set_1 7 rfl rfl)
theorem dX2_set_34 : decode cX2_set 34 = .ok (.iconst 0, 1) := dk_3 (dk_at dksX2_set_1 10 rfl rfl)
theorem dX2_set_35 : decode cX2_set 35 = .ok (.aload_n 0, 1) := dk_42 (dk_at dksX2_set_1 11 rfl rfl)
theorem dX2_set_36 : decode cX2_set 36 = .ok (.getfield 22, 3) := dk_180 0 22 (dk_at dksX2_set_1 12 rfl rfl)
theorem dX2_set_39 : decode cX2_set 39 = .ok (.iconst 0, 1) := dk_3 (dk_at dksX2_set_1 15 rfl rfl)
theorem dX2_set_40 : decode cX2_set 40 = .ok (.bipush 6, 2) := dk_16 6 (dk_at dksX2_set_1 16 rfl rfl)
theorem dX2_set_42 : decode cX2_set 42 = .ok (.invokestatic 61, 3) := dk_184 0 61 (dk_at dksX2_set_1 18 rfl rfl)
theorem dX2_set_45 : decode cX2_set 45 = .ok (.aload_n 0, 1) := dk_42 (dk_at dksX2_set_1 21 rfl rfl)
theorem dX2_set_46 : decode cX2_set 46 = .ok (.aload_n 1, 1) := dk_43 (dk_at dksX2_set_1 22 rfl rfl)
theorem dX2_set_47 : decode cX2_set 47 = .ok (.getfield 49, 3) := dk_180 0 49 (dk_at dksX2_set_2 0 rfl rfl)
theorem dX2_set_50 : decode cX2_set 50 = .ok (.putfield 49, 3) := dk_181 0 49 (dk_at dksX2_set_2 3 rfl rfl)
theorem dX2_set_53 : decode cX2_set 53 = .ok (.aload_n 0, 1) := dk_42 (dk_at dksX2_set_2 6 rfl rfl)
theorem dX2_set_54 : decode cX2_set 54 = .ok (.aload_n 1, 1) := dk_43 (dk_at dksX2_set_2 7 rfl rfl)
theorem dX2_set_55 : decode cX2_set 55 = .ok (.getfield 52, 3) := dk_180 0 52 (dk_at dksX2_set_2 8 rfl rfl)
theorem dX2_set_58 : decode cX2_set 58 = .ok (.putfield 52, 3) := dk_181 0 52 (dk_at dksX2_set_2 11 rfl rfl)
theorem dX2_set_61 : decode cX2_set 61 = .ok (.aload_n 0, 1) := dk_42 (dk_at dksX2_set_2 14 rfl rfl)
theorem dX2_set_62 : decode cX2_set 62 = .ok (.aload_n 1, 1) := dk_43 (dk_at dksX2_set_2 15 rfl rfl)
theorem dX2_set_63 : decode cX2_set 63 = .ok (.getfield 55, 3) := dk_180 0 55 (dk_at dksX2_set_2 16 rfl rfl)
theorem dX2_set_66 : decode cX2_set 66 = .ok (.putfield 55, 3) := dk_181 0 55 (dk_at dksX2_set_2 19 rfl rfl)
theorem dX2_set_69 : decode cX2_set 69 = .ok (.aload_n 0, 1) := dk_42 (dk_at dksX2_set_2 22 rfl rfl)
theorem dX2_set_70 : decode cX2_set 70 = .ok (.aload_n 1, 1) := dk_43 (dk_at dksX2_set_2 23 rfl rfl)
theorem dX2_set_71 : decode cX2_set 71 = .ok (.getfield 58, 3) := dk_180 0 58 (dk_at dksX2_set_3 0 rfl rfl)
theorem dX2_set_74 : decode cX2_set 74 = .ok (.putfield 58, 3) := dk_181 0 58 (dk_at dksX2_set_3 3 rfl rfl)
theorem dX2_set_77 : decode cX2_set 77 = .ok (.aload_n 0, 1) := dk_42 (dk_at dksX2_set_3 6 rfl rfl)
theorem dX2_set_78 : decode cX2_set 78 = .ok (.aload_n 1, 1) := dk_43 (dk_at dksX2_set_3 7 rfl rfl)
theorem dX2_set_79 : decode cX2_set 79 = .ok (.getfield 67, 3) := dk_180 0 67 (dk_at dksX2_set_3 8 rfl rfl)
theorem dX2_set_82 : decode cX2_set 82 = .ok (.putfield 67, 3) := dk_181 0 67 (dk_at dksX2_set_3 11 rfl rfl)
theorem dX2_set_85 : decode cX2_set 85 = .ok (.return_, 1) := dk_177 (dk_at dksX2_set_3 14 rfl rfl)
abbrev cX2_season : ByteArray := prog_7_method_7_code
def yX2_season : MethodName := ⟨RX2, "season", "()V"⟩
def dkwX2_season_5 : List UInt8 := [132, 1, 1, 167, 255, 141, 42, 89, 180, 0, 55, 4, 96, 181, 0, 55, 177]
abbrev dktX2_season_5 : List UInt8 := dkwX2_season_5 ++ []
def dkwX2_season_4 : List UInt8 := [180, 0, 52, 42, 180, 0, 22, 27, 46, 154, 0, 9, 4, 27, 120, 167, 0, 4, 3, 128, 181, 0, 52]
abbrev dktX2_season_4 : List UInt8 := dkwX2_season_4 ++ dktX2_season_5
def dkwX2_season_3 : List UInt8 := [182, 0, 109, 104, 79, 42, 89, 180, 0, 58, 42, 180, 0, 22, 27, 46, 96, 181, 0, 58, 42, 89]
abbrev dktX2_season_3 : List UInt8 := dkwX2_season_3 ++ dktX2_season_4
def dkwX2_season_2 : List UInt8 := [180, 0, 103, 27, 46, 42, 42, 180, 0, 3, 180, 0, 25, 180, 0, 106, 27, 46, 42, 180, 0, 55]
abbrev dktX2_season_2 : List UInt8 := dkwX2_season_2 ++ dktX2_season_3
def dkwX2_season_1 : List UInt8 := [180, 0, 100, 27, 46, 42, 180, 0, 55, 160, 0, 82, 42, 180, 0, 22, 27, 42, 180, 0, 3, 180, 0, 25]
abbrev dktX2_season_1 : List UInt8 := dkwX2_season_1 ++ dktX2_season_2
def dkwX2_season_0 : List UInt8 := [3, 60, 27, 42, 180, 0, 3, 180, 0, 25, 180, 0, 97, 162, 0, 107, 42, 180, 0, 3, 180, 0, 25]
abbrev dktX2_season_0 : List UInt8 := dkwX2_season_0 ++ dktX2_season_1
theorem dksX2_season_0 : cX2_season.data.toList.drop 0 = dktX2_season_0 := by decide +kernel
theorem dksX2_season_1 : cX2_season.data.toList.drop 23 = dktX2_season_1 := dk_seg dksX2_season_0 23 rfl rfl
theorem dksX2_season_2 : cX2_season.data.toList.drop 47 = dktX2_season_2 := dk_seg dksX2_season_1 24 rfl rfl
theorem dksX2_season_3 : cX2_season.data.toList.drop 69 = dktX2_season_3 := dk_seg dksX2_season_2 22 rfl rfl
theorem dksX2_season_4 : cX2_season.data.toList.drop 91 = dktX2_season_4 := dk_seg dksX2_season_3 22 rfl rfl
theorem dksX2_season_5 : cX2_season.data.toList.drop 114 = dktX2_season_5 := dk_seg dksX2_season_4 23 rfl rfl
theorem dX2_season_0 : decode cX2_season 0 = .ok (.iconst 0, 1) := dk_3 (dk_at dksX2_season_0 0 rfl rfl)
theorem dX2_season_1 : decode cX2_season 1 = .ok (.istore_n 1, 1) := dk_60 (dk_at dksX2_season_0 1 rfl rfl)
theorem dX2_season_2 : decode cX2_season 2 = .ok (.iload_n 1, 1) := dk_27 (dk_at dksX2_season_0 2 rfl rfl)
theorem dX2_season_3 : decode cX2_season 3 = .ok (.aload_n 0, 1) := dk_42 (dk_at dksX2_season_0 3 rfl rfl)
theorem dX2_season_4 : decode cX2_season 4 = .ok (.getfield 3, 3) := dk_180 0 3 (dk_at dksX2_season_0 4 rfl rfl)
theorem dX2_season_7 : decode cX2_season 7 = .ok (.getfield 25, 3) := dk_180 0 25 (dk_at dksX2_season_0 7 rfl rfl)
theorem dX2_season_10 : decode cX2_season 10 = .ok (.getfield 97, 3) := dk_180 0 97 (dk_at dksX2_season_0 10 rfl rfl)
theorem dX2_season_13 : decode cX2_season 13 = .ok (.if_icmp .ge 107, 3) := dk_162 0 107 (dk_at dksX2_season_0 13 rfl rfl)
theorem dX2_season_16 : decode cX2_season 16 = .ok (.aload_n 0, 1) := dk_42 (dk_at dksX2_season_0 16 rfl rfl)
theorem dX2_season_17 : decode cX2_season 17 = .ok (.getfield 3, 3) := dk_180 0 3 (dk_at dksX2_season_0 17 rfl rfl)
theorem dX2_season_20 : decode cX2_season 20 = .ok (.getfield 25, 3) := dk_180 0 25 (dk_at dksX2_season_0 20 rfl rfl)
theorem dX2_season_23 : decode cX2_season 23 = .ok (.getfield 100, 3) := dk_180 0 100 (dk_at dksX2_season_1 0 rfl rfl)
theorem dX2_season_26 : decode cX2_season 26 = .ok (.iload_n 1, 1) := dk_27 (dk_at dksX2_season_1 3 rfl rfl)
theorem dX2_season_27 : decode cX2_season 27 = .ok (.iaload, 1) := dk_46 (dk_at dksX2_season_1 4 rfl rfl)
theorem dX2_season_28 : decode cX2_season 28 = .ok (.aload_n 0, 1) := dk_42 (dk_at dksX2_season_1 5 rfl rfl)
theorem dX2_season_29 : decode cX2_season 29 = .ok (.getfield 55, 3) := dk_180 0 55 (dk_at dksX2_season_1 6 rfl rfl)
theorem dX2_season_32 : decode cX2_season 32 = .ok (.if_icmp .ne 82, 3) := dk_160 0 82 (dk_at dksX2_season_1 9 rfl rfl)
theorem dX2_season_35 : decode cX2_season 35 = .ok (.aload_n 0, 1) := dk_42 (dk_at dksX2_season_1 12 rfl rfl)
theorem dX2_season_36 : decode cX2_season 36 = .ok (.getfield 22, 3) := dk_180 0 22 (dk_at dksX2_season_1 13 rfl rfl)
theorem dX2_season_39 : decode cX2_season 39 = .ok (.iload_n 1, 1) := dk_27 (dk_at dksX2_season_1 16 rfl rfl)
theorem dX2_season_40 : decode cX2_season 40 = .ok (.aload_n 0, 1) := dk_42 (dk_at dksX2_season_1 17 rfl rfl)
theorem dX2_season_41 : decode cX2_season 41 = .ok (.getfield 3, 3) := dk_180 0 3 (dk_at dksX2_season_1 18 rfl rfl)
theorem dX2_season_44 : decode cX2_season 44 = .ok (.getfield 25, 3) := dk_180 0 25 (dk_at dksX2_season_1 21 rfl rfl)
theorem dX2_season_47 : decode cX2_season 47 = .ok (.getfield 103, 3) := dk_180 0 103 (dk_at dksX2_season_2 0 rfl rfl)
theorem dX2_season_50 : decode cX2_season 50 = .ok (.iload_n 1, 1) := dk_27 (dk_at dksX2_season_2 3 rfl rfl)
theorem dX2_season_51 : decode cX2_season 51 = .ok (.iaload, 1) := dk_46 (dk_at dksX2_season_2 4 rfl rfl)
theorem dX2_season_52 : decode cX2_season 52 = .ok (.aload_n 0, 1) := dk_42 (dk_at dksX2_season_2 5 rfl rfl)
theorem dX2_season_53 : decode cX2_season 53 = .ok (.aload_n 0, 1) := dk_42 (dk_at dksX2_season_2 6 rfl rfl)
theorem dX2_season_54 : decode cX2_season 54 = .ok (.getfield 3, 3) := dk_180 0 3 (dk_at dksX2_season_2 7 rfl rfl)
theorem dX2_season_57 : decode cX2_season 57 = .ok (.getfield 25, 3) := dk_180 0 25 (dk_at dksX2_season_2 10 rfl rfl)
theorem dX2_season_60 : decode cX2_season 60 = .ok (.getfield 106, 3) := dk_180 0 106 (dk_at dksX2_season_2 13 rfl rfl)
theorem dX2_season_63 : decode cX2_season 63 = .ok (.iload_n 1, 1) := dk_27 (dk_at dksX2_season_2 16 rfl rfl)
theorem dX2_season_64 : decode cX2_season 64 = .ok (.iaload, 1) := dk_46 (dk_at dksX2_season_2 17 rfl rfl)
theorem dX2_season_65 : decode cX2_season 65 = .ok (.aload_n 0, 1) := dk_42 (dk_at dksX2_season_2 18 rfl rfl)
theorem dX2_season_66 : decode cX2_season 66 = .ok (.getfield 55, 3) := dk_180 0 55 (dk_at dksX2_season_2 19 rfl rfl)
theorem dX2_season_69 : decode cX2_season 69 = .ok (.invokevirtual 109, 3) := dk_182 0 109 (dk_at dksX2_season_3 0 rfl rfl)
theorem dX2_season_72 : decode cX2_season 72 = .ok (.imul, 1) := dk_104 (dk_at dksX2_season_3 3 rfl rfl)
theorem dX2_season_73 : decode cX2_season 73 = .ok (.iastore, 1) := dk_79 (dk_at dksX2_season_3 4 rfl rfl)
theorem dX2_season_74 : decode cX2_season 74 = .ok (.aload_n 0, 1) := dk_42 (dk_at dksX2_season_3 5 rfl rfl)
theorem dX2_season_75 : decode cX2_season 75 = .ok (.dup, 1) := dk_89 (dk_at dksX2_season_3 6 rfl rfl)
theorem dX2_season_76 : decode cX2_season 76 = .ok (.getfield 58, 3) := dk_180 0 58 (dk_at dksX2_season_3 7 rfl rfl)
theorem dX2_season_79 : decode cX2_season 79 = .ok (.aload_n 0, 1) := dk_42 (dk_at dksX2_season_3 10 rfl rfl)
theorem dX2_season_80 : decode cX2_season 80 = .ok (.getfield 22, 3) := dk_180 0 22 (dk_at dksX2_season_3 11 rfl rfl)
theorem dX2_season_83 : decode cX2_season 83 = .ok (.iload_n 1, 1) := dk_27 (dk_at dksX2_season_3 14 rfl rfl)
theorem dX2_season_84 : decode cX2_season 84 = .ok (.iaload, 1) := dk_46 (dk_at dksX2_season_3 15 rfl rfl)
theorem dX2_season_85 : decode cX2_season 85 = .ok (.iadd, 1) := dk_96 (dk_at dksX2_season_3 16 rfl rfl)
theorem dX2_season_86 : decode cX2_season 86 = .ok (.putfield 58, 3) := dk_181 0 58 (dk_at dksX2_season_3 17 rfl rfl)
theorem dX2_season_89 : decode cX2_season 89 = .ok (.aload_n 0, 1) := dk_42 (dk_at dksX2_season_3 20 rfl rfl)
theorem dX2_season_90 : decode cX2_season 90 = .ok (.dup, 1) := dk_89 (dk_at dksX2_season_3 21 rfl rfl)
theorem dX2_season_91 : decode cX2_season 91 = .ok (.getfield 52, 3) := dk_180 0 52 (dk_at dksX2_season_4 0 rfl rfl)
theorem dX2_season_94 : decode cX2_season 94 = .ok (.aload_n 0, 1) := dk_42 (dk_at dksX2_season_4 3 rfl rfl)
theorem dX2_season_95 : decode cX2_season 95 = .ok (.getfield 22, 3) := dk_180 0 22 (dk_at dksX2_season_4 4 rfl rfl)
theorem dX2_season_98 : decode cX2_season 98 = .ok (.iload_n 1, 1) := dk_27 (dk_at dksX2_season_4 7 rfl rfl)
theorem dX2_season_99 : decode cX2_season 99 = .ok (.iaload, 1) := dk_46 (dk_at dksX2_season_4 8 rfl rfl)
theorem dX2_season_100 : decode cX2_season 100 = .ok (.ifCond .ne 9, 3) := dk_154 0 9 (dk_at dksX2_season_4 9 rfl rfl)
theorem dX2_season_103 : decode cX2_season 103 = .ok (.iconst 1, 1) := dk_4 (dk_at dksX2_season_4 12 rfl rfl)
theorem dX2_season_104 : decode cX2_season 104 = .ok (.iload_n 1, 1) := dk_27 (dk_at dksX2_season_4 13 rfl rfl)
theorem dX2_season_105 : decode cX2_season 105 = .ok (.ishl, 1) := dk_120 (dk_at dksX2_season_4 14 rfl rfl)
theorem dX2_season_106 : decode cX2_season 106 = .ok (.goto 4, 3) := dk_167 0 4 (dk_at dksX2_season_4 15 rfl rfl)
theorem dX2_season_109 : decode cX2_season 109 = .ok (.iconst 0, 1) := dk_3 (dk_at dksX2_season_4 18 rfl rfl)
theorem dX2_season_110 : decode cX2_season 110 = .ok (.ior, 1) := dk_128 (dk_at dksX2_season_4 19 rfl rfl)
theorem dX2_season_111 : decode cX2_season 111 = .ok (.putfield 52, 3) := dk_181 0 52 (dk_at dksX2_season_4 20 rfl rfl)
theorem dX2_season_114 : decode cX2_season 114 = .ok (.iinc 1 1, 3) := dk_132 1 1 (dk_at dksX2_season_5 0 rfl rfl)
theorem dX2_season_117 : decode cX2_season 117 = .ok (.goto (-115), 3) := dk_167 255 141 (dk_at dksX2_season_5 3 rfl rfl)
theorem dX2_season_120 : decode cX2_season 120 = .ok (.aload_n 0, 1) := dk_42 (dk_at dksX2_season_5 6 rfl rfl)
theorem dX2_season_121 : decode cX2_season 121 = .ok (.dup, 1) := dk_89 (dk_at dksX2_season_5 7 rfl rfl)
theorem dX2_season_122 : decode cX2_season 122 = .ok (.getfield 55, 3) := dk_180 0 55 (dk_at dksX2_season_5 8 rfl rfl)
theorem dX2_season_125 : decode cX2_season 125 = .ok (.iconst 1, 1) := dk_4 (dk_at dksX2_season_5 11 rfl rfl)
theorem dX2_season_126 : decode cX2_season 126 = .ok (.iadd, 1) := dk_96 (dk_at dksX2_season_5 12 rfl rfl)
theorem dX2_season_127 : decode cX2_season 127 = .ok (.putfield 55, 3) := dk_181 0 55 (dk_at dksX2_season_5 13 rfl rfl)
theorem dX2_season_130 : decode cX2_season 130 = .ok (.return_, 1) := dk_177 (dk_at dksX2_season_5 16 rfl rfl)
abbrev cX2_gout : ByteArray := prog_7_method_8_code
def yX2_gout : MethodName := ⟨RX2, "gout", "(II)V"⟩
def dkwX2_gout_0 : List UInt8 := [42, 180, 0, 15, 27, 17, 0, 140, 42, 180, 0, 15, 27, 46, 28, 96, 184, 0, 112, 79, 177]
abbrev dktX2_gout_0 : List UInt8 := dkwX2_gout_0 ++ []
theorem dksX2_gout_0 : cX2_gout.data.toList.drop 0 = dktX2_gout_0 := by decide +kernel
theorem dX2_gout_0 : decode cX2_gout 0 = .ok (.aload_n 0, 1) := dk_42 (dk_at dksX2_gout_0 0 rfl rfl)
theorem dX2_gout_1 : decode cX2_gout 1 = .ok (.getfield 15, 3) := dk_180 0 15 (dk_at dksX2_gout_0 1 rfl rfl)
theorem dX2_gout_4 : decode cX2_gout 4 = .ok (.iload_n 1, 1) := dk_27 (dk_at dksX2_gout_0 4 rfl rfl)
theorem dX2_gout_5 : decode cX2_gout 5 = .ok (.sipush 140, 3) := dk_17 0 140 (dk_at dksX2_gout_0 5 rfl rfl)
theorem dX2_gout_8 : decode cX2_gout 8 = .ok (.aload_n 0, 1) := dk_42 (dk_at dksX2_gout_0 8 rfl rfl)
theorem dX2_gout_9 : decode cX2_gout 9 = .ok (.getfield 15, 3) := dk_180 0 15 (dk_at dksX2_gout_0 9 rfl rfl)
theorem dX2_gout_12 : decode cX2_gout 12 = .ok (.iload_n 1, 1) := dk_27 (dk_at dksX2_gout_0 12 rfl rfl)
theorem dX2_gout_13 : decode cX2_gout 13 = .ok (.iaload, 1) := dk_46 (dk_at dksX2_gout_0 13 rfl rfl)
theorem dX2_gout_14 : decode cX2_gout 14 = .ok (.iload_n 2, 1) := dk_28 (dk_at dksX2_gout_0 14 rfl rfl)
theorem dX2_gout_15 : decode cX2_gout 15 = .ok (.iadd, 1) := dk_96 (dk_at dksX2_gout_0 15 rfl rfl)
theorem dX2_gout_16 : decode cX2_gout 16 = .ok (.invokestatic 112, 3) := dk_184 0 112 (dk_at dksX2_gout_0 16 rfl rfl)
theorem dX2_gout_19 : decode cX2_gout 19 = .ok (.iastore, 1) := dk_79 (dk_at dksX2_gout_0 19 rfl rfl)
theorem dX2_gout_20 : decode cX2_gout 20 = .ok (.return_, 1) := dk_177 (dk_at dksX2_gout_0 20 rfl rfl)
abbrev cX2_stub : ByteArray := prog_7_method_9_code
def yX2_stub : MethodName := ⟨RX2, "stub", "(I)V"⟩
def dkwX2_stub_0 : List UInt8 := [42, 180, 0, 15, 27, 4, 42, 180, 0, 15, 27, 46, 6, 100, 184, 0, 81, 79, 177]
abbrev dktX2_stub_0 : List UInt8 := dkwX2_stub_0 ++ []
theorem dksX2_stub_0 : cX2_stub.data.toList.drop 0 = dktX2_stub_0 := by decide +kernel
theorem dX2_stub_0 : decode cX2_stub 0 = .ok (.aload_n 0, 1) := dk_42 (dk_at dksX2_stub_0 0 rfl rfl)
theorem dX2_stub_1 : decode cX2_stub 1 = .ok (.getfield 15, 3) := dk_180 0 15 (dk_at dksX2_stub_0 1 rfl rfl)
theorem dX2_stub_4 : decode cX2_stub 4 = .ok (.iload_n 1, 1) := dk_27 (dk_at dksX2_stub_0 4 rfl rfl)
theorem dX2_stub_5 : decode cX2_stub 5 = .ok (.iconst 1, 1) := dk_4 (dk_at dksX2_stub_0 5 rfl rfl)
theorem dX2_stub_6 : decode cX2_stub 6 = .ok (.aload_n 0, 1) := dk_42 (dk_at dksX2_stub_0 6 rfl rfl)
theorem dX2_stub_7 : decode cX2_stub 7 = .ok (.getfield 15, 3) := dk_180 0 15 (dk_at dksX2_stub_0 7 rfl rfl)
theorem dX2_stub_10 : decode cX2_stub 10 = .ok (.iload_n 1, 1) := dk_27 (dk_at dksX2_stub_0 10 rfl rfl)
theorem dX2_stub_11 : decode cX2_stub 11 = .ok (.iaload, 1) := dk_46 (dk_at dksX2_stub_0 11 rfl rfl)
theorem dX2_stub_12 : decode cX2_stub 12 = .ok (.iconst 3, 1) := dk_6 (dk_at dksX2_stub_0 12 rfl rfl)
theorem dX2_stub_13 : decode cX2_stub 13 = .ok (.isub, 1) := dk_100 (dk_at dksX2_stub_0 13 rfl rfl)
theorem dX2_stub_14 : decode cX2_stub 14 = .ok (.invokestatic 81, 3) := dk_184 0 81 (dk_at dksX2_stub_0 14 rfl rfl)
theorem dX2_stub_17 : decode cX2_stub 17 = .ok (.iastore, 1) := dk_79 (dk_at dksX2_stub_0 17 rfl rfl)
theorem dX2_stub_18 : decode cX2_stub 18 = .ok (.return_, 1) := dk_177 (dk_at dksX2_stub_0 18 rfl rfl)
abbrev cX2_byDraws : ByteArray := prog_7_method_10_code
def yX2_byDraws : MethodName := ⟨RX2, "byDraws", "()V"⟩
def dkwX2_byDraws_4 : List UInt8 := [42, 182, 0, 126, 177]
abbrev dktX2_byDraws_4 : List UInt8 := dkwX2_byDraws_4 ++ []
def dkwX2_byDraws_3 : List UInt8 := [167, 0, 24, 27, 4, 160, 0, 19, 42, 180, 0, 49, 28, 184, 0, 87, 153, 0, 8, 42, 28, 182, 0, 122]
abbrev dktX2_byDraws_3 : List UInt8 := dkwX2_byDraws_3 ++ dktX2_byDraws_4
def dkwX2_byDraws_2 : List UInt8 := [62, 27, 154, 0, 23, 42, 180, 0, 49, 28, 184, 0, 87, 153, 0, 12, 42, 28, 29, 182, 0, 118]
abbrev dktX2_byDraws_2 : List UInt8 := dkwX2_byDraws_2 ++ dktX2_byDraws_3
def dkwX2_byDraws_1 : List UInt8 := [182, 0, 115, 167, 0, 4, 3, 61, 27, 154, 0, 14, 42, 16, 20, 182, 0, 115, 4, 96, 167, 0, 4, 3]
abbrev dktX2_byDraws_1 : List UInt8 := dkwX2_byDraws_1 ++ dktX2_byDraws_2
def dkwX2_byDraws_0 : List UInt8 := [42, 16, 6, 182, 0, 115, 60, 27, 5, 162, 0, 20, 42, 42, 180, 0, 3, 180, 0, 25, 180, 0, 29]
abbrev dktX2_byDraws_0 : List UInt8 := dkwX2_byDraws_0 ++ dktX2_byDraws_1
theorem dksX2_byDraws_0 : cX2_byDraws.data.toList.drop 0 = dktX2_byDraws_0 := by decide +kernel
theorem dksX2_byDraws_1 : cX2_byDraws.data.toList.drop 23 = dktX2_byDraws_1 := dk_seg dksX2_byDraws_0 23 rfl rfl
theorem dksX2_byDraws_2 : cX2_byDraws.data.toList.drop 47 = dktX2_byDraws_2 := dk_seg dksX2_byDraws_1 24 rfl rfl
theorem dksX2_byDraws_3 : cX2_byDraws.data.toList.drop 69 = dktX2_byDraws_3 := dk_seg dksX2_byDraws_2 22 rfl rfl
theorem dksX2_byDraws_4 : cX2_byDraws.data.toList.drop 93 = dktX2_byDraws_4 := dk_seg dksX2_byDraws_3 24 rfl rfl
theorem dX2_byDraws_0 : decode cX2_byDraws 0 = .ok (.aload_n 0, 1) := dk_42 (dk_at dksX2_byDraws_0 0 rfl rfl)
theorem dX2_byDraws_1 : decode cX2_byDraws 1 = .ok (.bipush 6, 2) := dk_16 6 (dk_at dksX2_byDraws_0 1 rfl rfl)
theorem dX2_byDraws_3 : decode cX2_byDraws 3 = .ok (.invokevirtual 115, 3) := dk_182 0 115 (dk_at dksX2_byDraws_0 3 rfl rfl)
theorem dX2_byDraws_6 : decode cX2_byDraws 6 = .ok (.istore_n 1, 1) := dk_60 (dk_at dksX2_byDraws_0 6 rfl rfl)
theorem dX2_byDraws_7 : decode cX2_byDraws 7 = .ok (.iload_n 1, 1) := dk_27 (dk_at dksX2_byDraws_0 7 rfl rfl)
theorem dX2_byDraws_8 : decode cX2_byDraws 8 = .ok (.iconst 2, 1) := dk_5 (dk_at dksX2_byDraws_0 8 rfl rfl)
theorem dX2_byDraws_9 : decode cX2_byDraws 9 = .ok (.if_icmp .ge 20, 3) := dk_162 0 20 (dk_at dksX2_byDraws_0 9 rfl rfl)
theorem dX2_byDraws_12 : decode cX2_byDraws 12 = .ok (.aload_n 0, 1) := dk_42 (dk_at dksX2_byDraws_0 12 rfl rfl)
theorem dX2_byDraws_13 : decode cX2_byDraws 13 = .ok (.aload_n 0, 1) := dk_42 (dk_at dksX2_byDraws_0 13 rfl rfl)
theorem dX2_byDraws_14 : decode cX2_byDraws 14 = .ok (.getfield 3, 3) := dk_180 0 3 (dk_at dksX2_byDraws_0 14 rfl rfl)
theorem dX2_byDraws_17 : decode cX2_byDraws 17 = .ok (.getfield 25, 3) := dk_180 0 25 (dk_at dksX2_byDraws_0 17 rfl rfl)
theorem dX2_byDraws_20 : decode cX2_byDraws 20 = .ok (.getfield 29, 3) := dk_180 0 29 (dk_at dksX2_byDraws_0 20 rfl rfl)
theorem dX2_byDraws_23 : decode cX2_byDraws 23 = .ok (.invokevirtual 115, 3) := dk_182 0 115 (dk_at dksX2_byDraws_1 0 rfl rfl)
theorem dX2_byDraws_26 : decode cX2_byDraws 26 = .ok (.goto 4, 3) := dk_167 0 4 (dk_at dksX2_byDraws_1 3 rfl rfl)
theorem dX2_byDraws_29 : decode cX2_byDraws 29 = .ok (.iconst 0, 1) := dk_3 (dk_at dksX2_byDraws_1 6 rfl rfl)
theorem dX2_byDraws_30 : decode cX2_byDraws 30 = .ok (.istore_n 2, 1) := dk_61 (dk_at dksX2_byDraws_1 7 rfl rfl)
theorem dX2_byDraws_31 : decode cX2_byDraws 31 = .ok (.iload_n 1, 1) := dk_27 (dk_at dksX2_byDraws_1 8 rfl rfl)
theorem dX2_byDraws_32 : decode cX2_byDraws 32 = .ok (.ifCond .ne 14, 3) := dk_154 0 14 (dk_at dksX2_byDraws_1 9 rfl rfl)
theorem dX2_byDraws_35 : decode cX2_byDraws 35 = .ok (.aload_n 0, 1) := dk_42 (dk_at dksX2_byDraws_1 12 rfl rfl)
theorem dX2_byDraws_36 : decode cX2_byDraws 36 = .ok (.bipush 20, 2) := dk_16 20 (dk_at dksX2_byDraws_1 13 rfl rfl)
theorem dX2_byDraws_38 : decode cX2_byDraws 38 = .ok (.invokevirtual 115, 3) := dk_182 0 115 (dk_at dksX2_byDraws_1 15 rfl rfl)
theorem dX2_byDraws_41 : decode cX2_byDraws 41 = .ok (.iconst 1, 1) := dk_4 (dk_at dksX2_byDraws_1 18 rfl rfl)
theorem dX2_byDraws_42 : decode cX2_byDraws 42 = .ok (.iadd, 1) := dk_96 (dk_at dksX2_byDraws_1 19 rfl rfl)
theorem dX2_byDraws_43 : decode cX2_byDraws 43 = .ok (.goto 4, 3) := dk_167 0 4 (dk_at dksX2_byDraws_1 20 rfl rfl)
theorem dX2_byDraws_46 : decode cX2_byDraws 46 = .ok (.iconst 0, 1) := dk_3 (dk_at dksX2_byDraws_1 23 rfl rfl)
theorem dX2_byDraws_47 : decode cX2_byDraws 47 = .ok (.istore_n 3, 1) := dk_62 (dk_at dksX2_byDraws_2 0 rfl rfl)
theorem dX2_byDraws_48 : decode cX2_byDraws 48 = .ok (.iload_n 1, 1) := dk_27 (dk_at dksX2_byDraws_2 1 rfl rfl)
theorem dX2_byDraws_49 : decode cX2_byDraws 49 = .ok (.ifCond .ne 23, 3) := dk_154 0 23 (dk_at dksX2_byDraws_2 2 rfl rfl)
theorem dX2_byDraws_52 : decode cX2_byDraws 52 = .ok (.aload_n 0, 1) := dk_42 (dk_at dksX2_byDraws_2 5 rfl rfl)
theorem dX2_byDraws_53 : decode cX2_byDraws 53 = .ok (.getfield 49, 3) := dk_180 0 49 (dk_at dksX2_byDraws_2 6 rfl rfl)
theorem dX2_byDraws_56 : decode cX2_byDraws 56 = .ok (.iload_n 2, 1) := dk_28 (dk_at dksX2_byDraws_2 9 rfl rfl)
theorem dX2_byDraws_57 : decode cX2_byDraws 57 = .ok (.invokestatic 87, 3) := dk_184 0 87 (dk_at dksX2_byDraws_2 10 rfl rfl)
theorem dX2_byDraws_60 : decode cX2_byDraws 60 = .ok (.ifCond .eq 12, 3) := dk_153 0 12 (dk_at dksX2_byDraws_2 13 rfl rfl)
theorem dX2_byDraws_63 : decode cX2_byDraws 63 = .ok (.aload_n 0, 1) := dk_42 (dk_at dksX2_byDraws_2 16 rfl rfl)
theorem dX2_byDraws_64 : decode cX2_byDraws 64 = .ok (.iload_n 2, 1) := dk_28 (dk_at dksX2_byDraws_2 17 rfl rfl)
theorem dX2_byDraws_65 : decode cX2_byDraws 65 = .ok (.iload_n 3, 1) := dk_29 (dk_at dksX2_byDraws_2 18 rfl rfl)
theorem dX2_byDraws_66 : decode cX2_byDraws 66 = .ok (.invokevirtual 118, 3) := dk_182 0 118 (dk_at dksX2_byDraws_2 19 rfl rfl)
theorem dX2_byDraws_69 : decode cX2_byDraws 69 = .ok (.goto 24, 3) := dk_167 0 24 (dk_at dksX2_byDraws_3 0 rfl rfl)
theorem dX2_byDraws_72 : decode cX2_byDraws 72 = .ok (.iload_n 1, 1) := dk_27 (dk_at dksX2_byDraws_3 3 rfl rfl)
theorem dX2_byDraws_73 : decode cX2_byDraws 73 = .ok (.iconst 1, 1) := dk_4 (dk_at dksX2_byDraws_3 4 rfl rfl)
theorem dX2_byDraws_74 : decode cX2_byDraws 74 = .ok (.if_icmp .ne 19, 3) := dk_160 0 19 (dk_at dksX2_byDraws_3 5 rfl rfl)
theorem dX2_byDraws_77 : decode cX2_byDraws 77 = .ok (.aload_n 0, 1) := dk_42 (dk_at dksX2_byDraws_3 8 rfl rfl)
theorem dX2_byDraws_78 : decode cX2_byDraws 78 = .ok (.getfield 49, 3) := dk_180 0 49 (dk_at dksX2_byDraws_3 9 rfl rfl)
theorem dX2_byDraws_81 : decode cX2_byDraws 81 = .ok (.iload_n 2, 1) := dk_28 (dk_at dksX2_byDraws_3 12 rfl rfl)
theorem dX2_byDraws_82 : decode cX2_byDraws 82 = .ok (.invokestatic 87, 3) := dk_184 0 87 (dk_at dksX2_byDraws_3 13 rfl rfl)
theorem dX2_byDraws_85 : decode cX2_byDraws 85 = .ok (.ifCond .eq 8, 3) := dk_153 0 8 (dk_at dksX2_byDraws_3 16 rfl rfl)
theorem dX2_byDraws_88 : decode cX2_byDraws 88 = .ok (.aload_n 0, 1) := dk_42 (dk_at dksX2_byDraws_3 19 rfl rfl)
theorem dX2_byDraws_89 : decode cX2_byDraws 89 = .ok (.iload_n 2, 1) := dk_28 (dk_at dksX2_byDraws_3 20 rfl rfl)
theorem dX2_byDraws_90 : decode cX2_byDraws 90 = .ok (.invokevirtual 122, 3) := dk_182 0 122 (dk_at dksX2_byDraws_3 21 rfl rfl)
theorem dX2_byDraws_93 : decode cX2_byDraws 93 = .ok (.aload_n 0, 1) := dk_42 (dk_at dksX2_byDraws_4 0 rfl rfl)
theorem dX2_byDraws_94 : decode cX2_byDraws 94 = .ok (.invokevirtual 126, 3) := dk_182 0 126 (dk_at dksX2_byDraws_4 1 rfl rfl)
theorem dX2_byDraws_97 : decode cX2_byDraws 97 = .ok (.return_, 1) := dk_177 (dk_at dksX2_byDraws_4 4 rfl rfl)
abbrev cX2_draw : ByteArray := prog_7_method_4_code
def yX2_draw : MethodName := ⟨RX2, "draw", "(I)I"⟩
def dkwX2_draw_1 : List UInt8 := [180, 0, 67, 18, 76, 108, 27, 112, 172]
abbrev dktX2_draw_1 : List UInt8 := dkwX2_draw_1 ++ []
def dkwX2_draw_0 : List UInt8 := [42, 42, 180, 0, 67, 133, 20, 0, 70, 105, 20, 0, 72, 97, 20, 0, 74, 113, 136, 181, 0, 67, 42]
abbrev dktX2_draw_0 : List UInt8 := dkwX2_draw_0 ++ dktX2_draw_1
theorem dksX2_draw_0 : cX2_draw.data.toList.drop 0 = dktX2_draw_0 := by decide +kernel
theorem dksX2_draw_1 : cX2_draw.data.toList.drop 23 = dktX2_draw_1 := dk_seg dksX2_draw_0 23 rfl rfl
theorem dX2_draw_0 : decode cX2_draw 0 = .ok (.aload_n 0, 1) := dk_42 (dk_at dksX2_draw_0 0 rfl rfl)
theorem dX2_draw_1 : decode cX2_draw 1 = .ok (.aload_n 0, 1) := dk_42 (dk_at dksX2_draw_0 1 rfl rfl)
theorem dX2_draw_2 : decode cX2_draw 2 = .ok (.getfield 67, 3) := dk_180 0 67 (dk_at dksX2_draw_0 2 rfl rfl)
theorem dX2_draw_5 : decode cX2_draw 5 = .ok (.i2l, 1) := dk_133 (dk_at dksX2_draw_0 5 rfl rfl)
theorem dX2_draw_6 : decode cX2_draw 6 = .ok (.ldc2_w 70, 3) := dk_20 0 70 (dk_at dksX2_draw_0 6 rfl rfl)
theorem dX2_draw_9 : decode cX2_draw 9 = .ok (.lmul, 1) := dk_105 (dk_at dksX2_draw_0 9 rfl rfl)
theorem dX2_draw_10 : decode cX2_draw 10 = .ok (.ldc2_w 72, 3) := dk_20 0 72 (dk_at dksX2_draw_0 10 rfl rfl)
theorem dX2_draw_13 : decode cX2_draw 13 = .ok (.ladd, 1) := dk_97 (dk_at dksX2_draw_0 13 rfl rfl)
theorem dX2_draw_14 : decode cX2_draw 14 = .ok (.ldc2_w 74, 3) := dk_20 0 74 (dk_at dksX2_draw_0 14 rfl rfl)
theorem dX2_draw_17 : decode cX2_draw 17 = .ok (.lrem, 1) := dk_113 (dk_at dksX2_draw_0 17 rfl rfl)
theorem dX2_draw_18 : decode cX2_draw 18 = .ok (.l2i, 1) := dk_136 (dk_at dksX2_draw_0 18 rfl rfl)
theorem dX2_draw_19 : decode cX2_draw 19 = .ok (.putfield 67, 3) := dk_181 0 67 (dk_at dksX2_draw_0 19 rfl rfl)
theorem dX2_draw_22 : decode cX2_draw 22 = .ok (.aload_n 0, 1) := dk_42 (dk_at dksX2_draw_0 22 rfl rfl)
theorem dX2_draw_23 : decode cX2_draw 23 = .ok (.getfield 67, 3) := dk_180 0 67 (dk_at dksX2_draw_1 0 rfl rfl)
theorem dX2_draw_26 : decode cX2_draw 26 = .ok (.ldc 76, 2) := dk_18 76 (dk_at dksX2_draw_1 3 rfl rfl)
theorem dX2_draw_28 : decode cX2_draw 28 = .ok (.idiv, 1) := dk_108 (dk_at dksX2_draw_1 5 rfl rfl)
theorem dX2_draw_29 : decode cX2_draw 29 = .ok (.iload_n 1, 1) := dk_27 (dk_at dksX2_draw_1 6 rfl rfl)
theorem dX2_draw_30 : decode cX2_draw 30 = .ok (.irem, 1) := dk_112 (dk_at dksX2_draw_1 7 rfl rfl)
theorem dX2_draw_31 : decode cX2_draw 31 = .ok (.ireturn, 1) := dk_172 (dk_at dksX2_draw_1 8 rfl rfl)
theorem q53 : (Jvm.Cond.initialized "LimbMeasures$State") ∈ lw_all := lw_g (lw_at lw_m1 3 rfl) rfl
theorem q81 : (Jvm.Cond.fieldLinkNest "LimbMeasures$State" (35 : Nat) "LimbMeasures$Port" "limbs" "[LLimbMeasures$Limb;" "LimbMeasures") ∈ lw_tbl := lw_at lw_m1 31 rfl
theorem q84 : (Jvm.Cond.fieldLinkNest "LimbMeasures$State" (29 : Nat) "LimbMeasures$Port" "many" "I" "LimbMeasures") ∈ lw_tbl := lw_at lw_m1 34 rfl
theorem q89 : (Jvm.Cond.fieldLinkNest "LimbMeasures$State" (100 : Nat) "LimbMeasures$Port" "due" "[I" "LimbMeasures") ∈ lw_tbl := lw_at lw_m1 39 rfl
theorem q93 : (Jvm.Cond.fieldLinkNest "LimbMeasures$State" (106 : Nat) "LimbMeasures$Port" "owed" "[I" "LimbMeasures") ∈ lw_tbl := lw_at lw_m1 43 rfl
theorem q97 : (Jvm.Cond.fieldLinkNest "LimbMeasures$State" (103 : Nat) "LimbMeasures$Port" "times" "[I" "LimbMeasures") ∈ lw_tbl := lw_at lw_m1 47 rfl
theorem q100 : (Jvm.Cond.fieldLinkNest "LimbMeasures$State" (97 : Nat) "LimbMeasures$Port" "contracts" "I" "LimbMeasures") ∈ lw_tbl := lw_at lw_m1 50 rfl
theorem q141 : (Jvm.Cond.instantiable "LimbMeasures$State" (10 : Nat)) ∈ lw_all := lw_g (lw_at lw_m1 91 rfl) rfl
theorem q143 : (Jvm.Cond.instanceMethod ({ cls := "LimbMeasures$State", name := "<init>", desc := "(LLimbMeasures;)V" } : Jvm.MethodName)) ∈ lw_all := lw_g (lw_at lw_m1 93 rfl) rfl
theorem q144 : (Jvm.Cond.code ({ cls := "LimbMeasures$State", name := "<init>", desc := "(LLimbMeasures;)V" } : Jvm.MethodName) prog_7_method_1_code (2 : Nat) (Option.none : Option Jvm.ClassFile.FieldType)) ∈ lw_all := lw_g (lw_at lw_m1 94 rfl) rfl
theorem q145 : (Jvm.Cond.methodLink "LimbMeasures$State" (9 : Nat) ({ cls := "java/lang/Object", name := "<init>", desc := "()V" } : Jvm.MethodName)) ∈ lw_all := lw_g (lw_at lw_m1 95 rfl) rfl
theorem q146 : (Jvm.Cond.fieldLink "LimbMeasures$State" (15 : Nat) "LimbMeasures$State" "length" "[I") ∈ lw_all := lw_g (lw_at lw_m1 96 rfl) rfl
theorem q148 : (Jvm.Cond.fieldLink "LimbMeasures$State" (19 : Nat) "LimbMeasures$State" "copy" "[I") ∈ lw_all := lw_g (lw_at lw_m1 98 rfl) rfl
theorem q150 : (Jvm.Cond.fieldLink "LimbMeasures$State" (22 : Nat) "LimbMeasures$State" "paid" "[I") ∈ lw_all := lw_g (lw_at lw_m1 100 rfl) rfl
theorem q152 : (Jvm.Cond.fieldLink "LimbMeasures$State" (49 : Nat) "LimbMeasures$State" "alive" "I") ∈ lw_all := lw_g (lw_at lw_m1 102 rfl) rfl
theorem q154 : (Jvm.Cond.fieldLink "LimbMeasures$State" (52 : Nat) "LimbMeasures$State" "noughts" "I") ∈ lw_all := lw_g (lw_at lw_m1 104 rfl) rfl
theorem q156 : (Jvm.Cond.fieldLink "LimbMeasures$State" (55 : Nat) "LimbMeasures$State" "seasons" "I") ∈ lw_all := lw_g (lw_at lw_m1 106 rfl) rfl
theorem q158 : (Jvm.Cond.fieldLink "LimbMeasures$State" (58 : Nat) "LimbMeasures$State" "total" "I") ∈ lw_all := lw_g (lw_at lw_m1 108 rfl) rfl
theorem q160 : (Jvm.Cond.fieldLink "LimbMeasures$State" (67 : Nat) "LimbMeasures$State" "seed" "I") ∈ lw_all := lw_g (lw_at lw_m1 110 rfl) rfl
theorem q163 : (Jvm.Cond.fieldLink "LimbMeasures$State" (3 : Nat) "LimbMeasures$State" "this$0" "LLimbMeasures;") ∈ lw_all := lw_g (lw_at lw_m1 113 rfl) rfl
theorem q164 : (Jvm.Cond.laysFinal "LimbMeasures$State" "LimbMeasures$State" "length" "[I") ∈ lw_all := lw_g (lw_at lw_m1 114 rfl) rfl
theorem q165 : (Jvm.Cond.soleField "LimbMeasures$State" "length") ∈ lw_all := lw_g (lw_at lw_m1 115 rfl) rfl
theorem q166 : (Jvm.Cond.laysFinal "LimbMeasures$State" "LimbMeasures$State" "copy" "[I") ∈ lw_all := lw_g (lw_at lw_m1 116 rfl) rfl
theorem q167 : (Jvm.Cond.soleField "LimbMeasures$State" "copy") ∈ lw_all := lw_g (lw_at lw_m1 117 rfl) rfl
theorem q168 : (Jvm.Cond.laysFinal "LimbMeasures$State" "LimbMeasures$State" "paid" "[I") ∈ lw_all := lw_g (lw_at lw_m1 118 rfl) rfl
theorem q169 : (Jvm.Cond.soleField "LimbMeasures$State" "paid") ∈ lw_all := lw_g (lw_at lw_m1 119 rfl) rfl
theorem q170 : (Jvm.Cond.lays "LimbMeasures$State" "LimbMeasures$State" "alive" "I") ∈ lw_all := lw_g (lw_at lw_m1 120 rfl) rfl
theorem q171 : (Jvm.Cond.soleField "LimbMeasures$State" "alive") ∈ lw_all := lw_g (lw_at lw_m1 121 rfl) rfl
theorem q172 : (Jvm.Cond.lays "LimbMeasures$State" "LimbMeasures$State" "noughts" "I") ∈ lw_all := lw_g (lw_at lw_m1 122 rfl) rfl
theorem q173 : (Jvm.Cond.soleField "LimbMeasures$State" "noughts") ∈ lw_all := lw_g (lw_at lw_m1 123 rfl) rfl
theorem q174 : (Jvm.Cond.lays "LimbMeasures$State" "LimbMeasures$State" "seasons" "I") ∈ lw_all := lw_g (lw_at lw_m1 124 rfl) rfl
theorem q175 : (Jvm.Cond.soleField "LimbMeasures$State" "seasons") ∈ lw_all := lw_g (lw_at lw_m1 125 rfl) rfl
theorem q176 : (Jvm.Cond.lays "LimbMeasures$State" "LimbMeasures$State" "total" "I") ∈ lw_all := lw_g (lw_at lw_m1 126 rfl) rfl
theorem q177 : (Jvm.Cond.soleField "LimbMeasures$State" "total") ∈ lw_all := lw_g (lw_at lw_m1 127 rfl) rfl
theorem q178 : (Jvm.Cond.lays "LimbMeasures$State" "LimbMeasures$State" "seed" "I") ∈ lw_all := lw_g (lw_at lw_m1 128 rfl) rfl
theorem q179 : (Jvm.Cond.soleField "LimbMeasures$State" "seed") ∈ lw_all := lw_g (lw_at lw_m1 129 rfl) rfl
theorem q180 : (Jvm.Cond.lays "LimbMeasures$State" "LimbMeasures$State" "isKept" "Z") ∈ lw_all := lw_g (lw_at lw_m1 130 rfl) rfl
theorem q181 : (Jvm.Cond.soleField "LimbMeasures$State" "isKept") ∈ lw_all := lw_g (lw_at lw_m1 131 rfl) rfl
theorem q182 : (Jvm.Cond.laysFinal "LimbMeasures$State" "LimbMeasures$State" "this$0" "LLimbMeasures;") ∈ lw_all := lw_g (lw_at lw_m1 132 rfl) rfl
theorem q183 : (Jvm.Cond.soleField "LimbMeasures$State" "this$0") ∈ lw_all := lw_g (lw_at lw_m1 133 rfl) rfl
theorem q184 : (Jvm.Cond.superclass "LimbMeasures$State" "java/lang/Object") ∈ lw_all := lw_g (lw_at lw_m1 134 rfl) rfl
theorem q187 : (Jvm.Cond.instanceMethod ({ cls := "LimbMeasures$State", name := "begin", desc := "()V" } : Jvm.MethodName)) ∈ lw_all := lw_g (lw_at lw_m1 137 rfl) rfl
theorem q188 : (Jvm.Cond.selects "LimbMeasures$State" ({ cls := "LimbMeasures$State", name := "begin", desc := "()V" } : Jvm.MethodName) ({ cls := "LimbMeasures$State", name := "begin", desc := "()V" } : Jvm.MethodName)) ∈ lw_all := lw_g (lw_at lw_m1 138 rfl) rfl
theorem q189 : (Jvm.Cond.code ({ cls := "LimbMeasures$State", name := "begin", desc := "()V" } : Jvm.MethodName) prog_7_method_2_code (2 : Nat) (Option.none : Option Jvm.ClassFile.FieldType)) ∈ lw_all := lw_g (lw_at lw_m1 139 rfl) rfl
theorem q190 : (Jvm.Cond.methodLink "LimbMeasures$State" (43 : Nat) ({ cls := "java/util/Arrays", name := "fill", desc := "([II)V" } : Jvm.MethodName)) ∈ lw_all := lw_g (lw_at lw_m1 140 rfl) rfl
theorem q193 : (Jvm.Cond.fieldLinkNest "LimbMeasures$State" (25 : Nat) "LimbMeasures" "port" "LLimbMeasures$Port;" "LimbMeasures") ∈ lw_tbl := lw_at lw_m1 143 rfl
theorem q404 : (Jvm.Cond.fieldLinkNest "LimbMeasures$State" (39 : Nat) "LimbMeasures$Limb" "length" "I" "LimbMeasures") ∈ lw_tbl := lw_at lw_m2 114 rfl
theorem q408 : (Jvm.Cond.fieldLinkNest "LimbMeasures$State" (94 : Nat) "LimbMeasures$Limb" "heir" "I" "LimbMeasures") ∈ lw_tbl := lw_at lw_m2 118 rfl
theorem q456 : (Jvm.Cond.instanceMethod ({ cls := "LimbMeasures$State", name := "measure", desc := "(II)I" } : Jvm.MethodName)) ∈ lw_all := lw_g (lw_at lw_m2 166 rfl) rfl
theorem q457 : (Jvm.Cond.selects "LimbMeasures$State" ({ cls := "LimbMeasures$State", name := "measure", desc := "(II)I" } : Jvm.MethodName) ({ cls := "LimbMeasures$State", name := "measure", desc := "(II)I" } : Jvm.MethodName)) ∈ lw_all := lw_g (lw_at lw_m2 167 rfl) rfl
theorem q458 : (Jvm.Cond.code ({ cls := "LimbMeasures$State", name := "measure", desc := "(II)I" } : Jvm.MethodName) prog_7_method_6_code (5 : Nat) (Option.some Jvm.ClassFile.FieldType.int)) ∈ lw_all := lw_g (lw_at lw_m2 168 rfl) rfl
theorem q459 : (Jvm.Cond.methodLinkNest "LimbMeasures$State" (87 : Nat) ({ cls := "LimbMeasures", name := "has", desc := "(II)Z" } : Jvm.MethodName) "LimbMeasures") ∈ lw_tbl := lw_at lw_m2 169 rfl
theorem q462 : (Jvm.Cond.methodLink "LimbMeasures$State" (91 : Nat) ({ cls := "LimbMeasures$State", name := "own", desc := "(II)I" } : Jvm.MethodName)) ∈ lw_all := lw_g (lw_at lw_m2 172 rfl) rfl
theorem q463 : (Jvm.Cond.instanceMethod ({ cls := "LimbMeasures$State", name := "own", desc := "(II)I" } : Jvm.MethodName)) ∈ lw_all := lw_g (lw_at lw_m2 173 rfl) rfl
theorem q464 : (Jvm.Cond.selects "LimbMeasures$State" ({ cls := "LimbMeasures$State", name := "own", desc := "(II)I" } : Jvm.MethodName) ({ cls := "LimbMeasures$State", name := "own", desc := "(II)I" } : Jvm.MethodName)) ∈ lw_all := lw_g (lw_at lw_m2 174 rfl) rfl
theorem q465 : (Jvm.Cond.code ({ cls := "LimbMeasures$State", name := "own", desc := "(II)I" } : Jvm.MethodName) prog_7_method_5_code (3 : Nat) (Option.some Jvm.ClassFile.FieldType.int)) ∈ lw_all := lw_g (lw_at lw_m2 175 rfl) rfl
theorem q466 : (Jvm.Cond.methodLink "LimbMeasures$State" (77 : Nat) ({ cls := "LimbMeasures$Limb", name := "adds", desc := "(I)I" } : Jvm.MethodName)) ∈ lw_all := lw_g (lw_at lw_m2 176 rfl) rfl
theorem q467 : (Jvm.Cond.methodLink "LimbMeasures$State" (81 : Nat) ({ cls := "java/lang/Math", name := "max", desc := "(II)I" } : Jvm.MethodName)) ∈ lw_all := lw_g (lw_at lw_m2 177 rfl) rfl
theorem q496 : (Jvm.Cond.instanceMethod ({ cls := "LimbMeasures$State", name := "set", desc := "(LLimbMeasures$State;)V" } : Jvm.MethodName)) ∈ lw_all := lw_g (lw_at lw_m2 206 rfl) rfl
theorem q497 : (Jvm.Cond.selects "LimbMeasures$State" ({ cls := "LimbMeasures$State", name := "set", desc := "(LLimbMeasures$State;)V" } : Jvm.MethodName) ({ cls := "LimbMeasures$State", name := "set", desc := "(LLimbMeasures$State;)V" } : Jvm.MethodName)) ∈ lw_all := lw_g (lw_at lw_m2 207 rfl) rfl
theorem q498 : (Jvm.Cond.code ({ cls := "LimbMeasures$State", name := "set", desc := "(LLimbMeasures$State;)V" } : Jvm.MethodName) prog_7_method_3_code (2 : Nat) (Option.none : Option Jvm.ClassFile.FieldType)) ∈ lw_all := lw_g (lw_at lw_m2 208 rfl) rfl
theorem q499 : (Jvm.Cond.methodLink "LimbMeasures$State" (61 : Nat) ({ cls := "java/lang/System", name := "arraycopy", desc := "(Ljava/lang/Object;ILjava/lang/Object;II)V" } : Jvm.MethodName)) ∈ lw_all := lw_g (lw_at lw_m2 209 rfl) rfl
theorem q503 : (Jvm.Cond.instanceMethod ({ cls := "LimbMeasures$State", name := "season", desc := "()V" } : Jvm.MethodName)) ∈ lw_all := lw_g (lw_at lw_m2 213 rfl) rfl
theorem q504 : (Jvm.Cond.selects "LimbMeasures$State" ({ cls := "LimbMeasures$State", name := "season", desc := "()V" } : Jvm.MethodName) ({ cls := "LimbMeasures$State", name := "season", desc := "()V" } : Jvm.MethodName)) ∈ lw_all := lw_g (lw_at lw_m2 214 rfl) rfl
theorem q505 : (Jvm.Cond.code ({ cls := "LimbMeasures$State", name := "season", desc := "()V" } : Jvm.MethodName) prog_7_method_7_code (2 : Nat) (Option.none : Option Jvm.ClassFile.FieldType)) ∈ lw_all := lw_g (lw_at lw_m2 215 rfl) rfl
theorem q506 : (Jvm.Cond.methodLink "LimbMeasures$State" (109 : Nat) ({ cls := "LimbMeasures$State", name := "measure", desc := "(II)I" } : Jvm.MethodName)) ∈ lw_all := lw_g (lw_at lw_m2 216 rfl) rfl
theorem q513 : (Jvm.Cond.instanceMethod ({ cls := "LimbMeasures$State", name := "gout", desc := "(II)V" } : Jvm.MethodName)) ∈ lw_all := lw_g (lw_at lw_m2 223 rfl) rfl
theorem q514 : (Jvm.Cond.selects "LimbMeasures$State" ({ cls := "LimbMeasures$State", name := "gout", desc := "(II)V" } : Jvm.MethodName) ({ cls := "LimbMeasures$State", name := "gout", desc := "(II)V" } : Jvm.MethodName)) ∈ lw_all := lw_g (lw_at lw_m2 224 rfl) rfl
theorem q515 : (Jvm.Cond.code ({ cls := "LimbMeasures$State", name := "gout", desc := "(II)V" } : Jvm.MethodName) prog_7_method_8_code (3 : Nat) (Option.none : Option Jvm.ClassFile.FieldType)) ∈ lw_all := lw_g (lw_at lw_m2 225 rfl) rfl
theorem q516 : (Jvm.Cond.methodLink "LimbMeasures$State" (112 : Nat) ({ cls := "java/lang/Math", name := "min", desc := "(II)I" } : Jvm.MethodName)) ∈ lw_all := lw_g (lw_at lw_m2 226 rfl) rfl
theorem q522 : (Jvm.Cond.instanceMethod ({ cls := "LimbMeasures$State", name := "stub", desc := "(I)V" } : Jvm.MethodName)) ∈ lw_all := lw_g (lw_at lw_m2 232 rfl) rfl
theorem q523 : (Jvm.Cond.selects "LimbMeasures$State" ({ cls := "LimbMeasures$State", name := "stub", desc := "(I)V" } : Jvm.MethodName) ({ cls := "LimbMeasures$State", name := "stub", desc := "(I)V" } : Jvm.MethodName)) ∈ lw_all := lw_g (lw_at lw_m2 233 rfl) rfl
theorem q524 : (Jvm.Cond.code ({ cls := "LimbMeasures$State", name := "stub", desc := "(I)V" } : Jvm.MethodName) prog_7_method_9_code (2 : Nat) (Option.none : Option Jvm.ClassFile.FieldType)) ∈ lw_all := lw_g (lw_at lw_m2 234 rfl) rfl
theorem q539 : (Jvm.Cond.instanceMethod ({ cls := "LimbMeasures$State", name := "byDraws", desc := "()V" } : Jvm.MethodName)) ∈ lw_all := lw_g (lw_at lw_m3 9 rfl) rfl
theorem q540 : (Jvm.Cond.selects "LimbMeasures$State" ({ cls := "LimbMeasures$State", name := "byDraws", desc := "()V" } : Jvm.MethodName) ({ cls := "LimbMeasures$State", name := "byDraws", desc := "()V" } : Jvm.MethodName)) ∈ lw_all := lw_g (lw_at lw_m3 10 rfl) rfl
theorem q541 : (Jvm.Cond.code ({ cls := "LimbMeasures$State", name := "byDraws", desc := "()V" } : Jvm.MethodName) prog_7_method_10_code (4 : Nat) (Option.none : Option Jvm.ClassFile.FieldType)) ∈ lw_all := lw_g (lw_at lw_m3 11 rfl) rfl
theorem q542 : (Jvm.Cond.methodLink "LimbMeasures$State" (115 : Nat) ({ cls := "LimbMeasures$State", name := "draw", desc := "(I)I" } : Jvm.MethodName)) ∈ lw_all := lw_g (lw_at lw_m3 12 rfl) rfl
theorem q543 : (Jvm.Cond.instanceMethod ({ cls := "LimbMeasures$State", name := "draw", desc := "(I)I" } : Jvm.MethodName)) ∈ lw_all := lw_g (lw_at lw_m3 13 rfl) rfl
theorem q544 : (Jvm.Cond.selects "LimbMeasures$State" ({ cls := "LimbMeasures$State", name := "draw", desc := "(I)I" } : Jvm.MethodName) ({ cls := "LimbMeasures$State", name := "draw", desc := "(I)I" } : Jvm.MethodName)) ∈ lw_all := lw_g (lw_at lw_m3 14 rfl) rfl
theorem q545 : (Jvm.Cond.code ({ cls := "LimbMeasures$State", name := "draw", desc := "(I)I" } : Jvm.MethodName) prog_7_method_4_code (2 : Nat) (Option.some Jvm.ClassFile.FieldType.int)) ∈ lw_all := lw_g (lw_at lw_m3 15 rfl) rfl
theorem q546 : (Jvm.Cond.constantLong "LimbMeasures$State" (70 : Nat) (1103515245 : Int64)) ∈ lw_all := lw_g (lw_at lw_m3 16 rfl) rfl
theorem q547 : (Jvm.Cond.constantLong "LimbMeasures$State" (72 : Nat) (12345 : Int64)) ∈ lw_all := lw_g (lw_at lw_m3 17 rfl) rfl
theorem q548 : (Jvm.Cond.constantLong "LimbMeasures$State" (74 : Nat) (2147483648 : Int64)) ∈ lw_all := lw_g (lw_at lw_m3 18 rfl) rfl
theorem q549 : (Jvm.Cond.constant "LimbMeasures$State" (76 : Nat) (65536 : Int32)) ∈ lw_all := lw_g (lw_at lw_m3 19 rfl) rfl
theorem q550 : (Jvm.Cond.methodLink "LimbMeasures$State" (118 : Nat) ({ cls := "LimbMeasures$State", name := "gout", desc := "(II)V" } : Jvm.MethodName)) ∈ lw_all := lw_g (lw_at lw_m3 20 rfl) rfl
theorem q551 : (Jvm.Cond.methodLink "LimbMeasures$State" (122 : Nat) ({ cls := "LimbMeasures$State", name := "stub", desc := "(I)V" } : Jvm.MethodName)) ∈ lw_all := lw_g (lw_at lw_m3 21 rfl) rfl
theorem q552 : (Jvm.Cond.methodLink "LimbMeasures$State" (126 : Nat) ({ cls := "LimbMeasures$State", name := "season", desc := "()V" } : Jvm.MethodName)) ∈ lw_all := lw_g (lw_at lw_m3 22 rfl) rfl
theorem in_X2 : ∀ w ∈ wsX20, w ∈ lw_all := lw_in wsX20 [164, 166, 168, 170, 172, 174, 176, 178, 180, 182] (by decide +kernel) (by decide +kernel)
/-! LimbMeasures$Reader -/
set_option maxRecDepth 100000
def RX4 : String := "LimbMeasures$Reader"
def TX4 : u_T := fun k => match k with
  | 0 => ("LimbMeasures$Reader", "text", "[B", true)
  | 1 => ("LimbMeasures$Reader", "size", "I", true)
  | 2 => ("LimbMeasures$Reader", "port", "LLimbMeasures$Port;", true)
  | 3 => ("LimbMeasures$Reader", "at", "I", false)
  | _ => ("LimbMeasures$Reader", "from", "I", false)
def tyX4 : Nat → FieldType := fun k => match k with
  | 0 => .array .byte
  | 1 => .int
  | 2 => .object "LimbMeasures$Port"
  | 3 => .int
  | _ => .int
abbrev wsX40 : List Cond := u_ws RX4 TX4 5
theorem nmX4 : ∀ a, a < 5 → ∀ b, b < 5 → a ≠ b → (TX4 a).2.1 ≠ (TX4 b).2.1 := by decide +kernel
theorem tyX4_ok : ∀ k, k < 5 → parseFieldDescriptor (TX4 k).2.2.1 = some (tyX4 k) := by decide +kernel
abbrev cX4_init : ByteArray := prog_6_method_1_code
def yX4_init : MethodName := ⟨RX4, "<init>", "([BI)V"⟩
def dkwX4_init_1 : List UInt8 := [181, 0, 22, 177]
abbrev dktX4_init_1 : List UInt8 := dkwX4_init_1 ++ []
def dkwX4_init_0 : List UInt8 := [42, 183, 0, 3, 42, 187, 0, 9, 89, 183, 0, 11, 181, 0, 12, 42, 43, 181, 0, 18, 42, 28]
abbrev dktX4_init_0 : List UInt8 := dkwX4_init_0 ++ dktX4_init_1
theorem dksX4_init_0 : cX4_init.data.toList.drop 0 = dktX4_init_0 := by decide +kernel
theorem dksX4_init_1 : cX4_init.data.toList.drop 22 = dktX4_init_1 := dk_seg dksX4_init_0 22 rfl rfl
theorem dX4_init_0 : decode cX4_init 0 = .ok (.aload_n 0, 1) := dk_42 (dk_at dksX4_init_0 0 rfl rfl)
theorem dX4_init_1 : decode cX4_init 1 = .ok (.invokespecial 3, 3) := dk_183 0 3 (dk_at dksX4_init_0 1 rfl rfl)
theorem dX4_init_4 : decode cX4_init 4 = .ok (.aload_n 0, 1) := dk_42 (dk_at dksX4_init_0 4 rfl rfl)
theorem dX4_init_5 : decode cX4_init 5 = .ok (.new 9, 3) := dk_187 0 9 (dk_at dksX4_init_0 5 rfl rfl)
theorem dX4_init_8 : decode cX4_init 8 = .ok (.dup, 1) := dk_89 (dk_at dksX4_init_0 8 rfl rfl)
theorem dX4_init_9 : decode cX4_init 9 = .ok (.invokespecial 11, 3) := dk_183 0 11 (dk_at dksX4_init_0 9 rfl rfl)
theorem dX4_init_12 : decode cX4_init 12 = .ok (.putfield 12, 3) := dk_181 0 12 (dk_at dksX4_init_0 12 rfl rfl)
theorem dX4_init_15 : decode cX4_init 15 = .ok (.aload_n 0, 1) := dk_42 (dk_at dksX4_init_0 15 rfl rfl)
theorem dX4_init_16 : decode cX4_init 16 = .ok (.aload_n 1, 1) := dk_43 (dk_at dksX4_init_0 16 rfl rfl)
theorem dX4_init_17 : decode cX4_init 17 = .ok (.putfield 18, 3) := dk_181 0 18 (dk_at dksX4_init_0 17 rfl rfl)
theorem dX4_init_20 : decode cX4_init 20 = .ok (.aload_n 0, 1) := dk_42 (dk_at dksX4_init_0 20 rfl rfl)
theorem dX4_init_21 : decode cX4_init 21 = .ok (.iload_n 2, 1) := dk_28 (dk_at dksX4_init_0 21 rfl rfl)
theorem dX4_init_22 : decode cX4_init 22 = .ok (.putfield 22, 3) := dk_181 0 22 (dk_at dksX4_init_1 0 rfl rfl)
theorem dX4_init_25 : decode cX4_init 25 = .ok (.return_, 1) := dk_177 (dk_at dksX4_init_1 3 rfl rfl)
abbrev cX4_all : ByteArray := prog_6_method_10_code
def yX4_all : MethodName := ⟨RX4, "all", "()LLimbMeasures$Port;"⟩
def dkwX4_all_3 : List UInt8 := [180, 0, 12, 176]
abbrev dktX4_all_3 : List UInt8 := dkwX4_all_3 ++ []
def dkwX4_all_2 : List UInt8 := [4, 42, 180, 0, 26, 184, 0, 42, 42, 89, 180, 0, 26, 4, 96, 181, 0, 26, 167, 255, 190, 42]
abbrev dktX4_all_2 : List UInt8 := dkwX4_all_2 ++ dktX4_all_3
def dkwX4_all_1 : List UInt8 := [96, 181, 0, 26, 42, 27, 28, 182, 0, 114, 42, 182, 0, 34, 16, 59, 160, 0, 7, 4, 167, 0, 4, 3]
abbrev dktX4_all_1 : List UInt8 := dkwX4_all_1 ++ dktX4_all_2
def dkwX4_all_0 : List UInt8 := [42, 182, 0, 34, 2, 159, 0, 64, 42, 182, 0, 34, 60, 42, 180, 0, 26, 61, 42, 89, 180, 0, 26, 4]
abbrev dktX4_all_0 : List UInt8 := dkwX4_all_0 ++ dktX4_all_1
theorem dksX4_all_0 : cX4_all.data.toList.drop 0 = dktX4_all_0 := by decide +kernel
theorem dksX4_all_1 : cX4_all.data.toList.drop 24 = dktX4_all_1 := dk_seg dksX4_all_0 24 rfl rfl
theorem dksX4_all_2 : cX4_all.data.toList.drop 48 = dktX4_all_2 := dk_seg dksX4_all_1 24 rfl rfl
theorem dksX4_all_3 : cX4_all.data.toList.drop 70 = dktX4_all_3 := dk_seg dksX4_all_2 22 rfl rfl
theorem dX4_all_0 : decode cX4_all 0 = .ok (.aload_n 0, 1) := dk_42 (dk_at dksX4_all_0 0 rfl rfl)
theorem dX4_all_1 : decode cX4_all 1 = .ok (.invokevirtual 34, 3) := dk_182 0 34 (dk_at dksX4_all_0 1 rfl rfl)
theorem dX4_all_4 : decode cX4_all 4 = .ok (.iconst (-1), 1) := dk_2 (dk_at dksX4_all_0 4 rfl rfl)
theorem dX4_all_5 : decode cX4_all 5 = .ok (.if_icmp .eq 64, 3) := dk_159 0 64 (dk_at dksX4_all_0 5 rfl rfl)
theorem dX4_all_8 : decode cX4_all 8 = .ok (.aload_n 0, 1) := dk_42 (dk_at dksX4_all_0 8 rfl rfl)
theorem dX4_all_9 : decode cX4_all 9 = .ok (.invokevirtual 34, 3) := dk_182 0 34 (dk_at dksX4_all_0 9 rfl rfl)
theorem dX4_all_12 : decode cX4_all 12 = .ok (.istore_n 1, 1) := dk_60 (dk_at dksX4_all_0 12 rfl rfl)
theorem dX4_all_13 : decode cX4_all 13 = .ok (.aload_n 0, 1) := dk_42 (dk_at dksX4_all_0 13 rfl rfl)
theorem dX4_all_14 : decode cX4_all 14 = .ok (.getfield 26, 3) := dk_180 0 26 (dk_at dksX4_all_0 14 rfl rfl)
theorem dX4_all_17 : decode cX4_all 17 = .ok (.istore_n 2, 1) := dk_61 (dk_at dksX4_all_0 17 rfl rfl)
theorem dX4_all_18 : decode cX4_all 18 = .ok (.aload_n 0, 1) := dk_42 (dk_at dksX4_all_0 18 rfl rfl)
theorem dX4_all_19 : decode cX4_all 19 = .ok (.dup, 1) := dk_89 (dk_at dksX4_all_0 19 rfl rfl)
theorem dX4_all_20 : decode cX4_all 20 = .ok (.getfield 26, 3) := dk_180 0 26 (dk_at dksX4_all_0 20 rfl rfl)
theorem dX4_all_23 : decode cX4_all 23 = .ok (.iconst 1, 1) := dk_4 (dk_at dksX4_all_0 23 rfl rfl)
theorem dX4_all_24 : decode cX4_all 24 = .ok (.iadd, 1) := dk_96 (dk_at dksX4_all_1 0 rfl rfl)
theorem dX4_all_25 : decode cX4_all 25 = .ok (.putfield 26, 3) := dk_181 0 26 (dk_at dksX4_all_1 1 rfl rfl)
theorem dX4_all_28 : decode cX4_all 28 = .ok (.aload_n 0, 1) := dk_42 (dk_at dksX4_all_1 4 rfl rfl)
theorem dX4_all_29 : decode cX4_all 29 = .ok (.iload_n 1, 1) := dk_27 (dk_at dksX4_all_1 5 rfl rfl)
theorem dX4_all_30 : decode cX4_all 30 = .ok (.iload_n 2, 1) := dk_28 (dk_at dksX4_all_1 6 rfl rfl)
theorem dX4_all_31 : decode cX4_all 31 = .ok (.invokevirtual 114, 3) := dk_182 0 114 (dk_at dksX4_all_1 7 rfl rfl)
theorem dX4_all_34 : decode cX4_all 34 = .ok (.aload_n 0, 1) := dk_42 (dk_at dksX4_all_1 10 rfl rfl)
theorem dX4_all_35 : decode cX4_all 35 = .ok (.invokevirtual 34, 3) := dk_182 0 34 (dk_at dksX4_all_1 11 rfl rfl)
theorem dX4_all_38 : decode cX4_all 38 = .ok (.bipush 59, 2) := dk_16 59 (dk_at dksX4_all_1 14 rfl rfl)
theorem dX4_all_40 : decode cX4_all 40 = .ok (.if_icmp .ne 7, 3) := dk_160 0 7 (dk_at dksX4_all_1 16 rfl rfl)
theorem dX4_all_43 : decode cX4_all 43 = .ok (.iconst 1, 1) := dk_4 (dk_at dksX4_all_1 19 rfl rfl)
theorem dX4_all_44 : decode cX4_all 44 = .ok (.goto 4, 3) := dk_167 0 4 (dk_at dksX4_all_1 20 rfl rfl)
theorem dX4_all_47 : decode cX4_all 47 = .ok (.iconst 0, 1) := dk_3 (dk_at dksX4_all_1 23 rfl rfl)
theorem dX4_all_48 : decode cX4_all 48 = .ok (.iconst 1, 1) := dk_4 (dk_at dksX4_all_2 0 rfl rfl)
theorem dX4_all_49 : decode cX4_all 49 = .ok (.aload_n 0, 1) := dk_42 (dk_at dksX4_all_2 1 rfl rfl)
theorem dX4_all_50 : decode cX4_all 50 = .ok (.getfield 26, 3) := dk_180 0 26 (dk_at dksX4_all_2 2 rfl rfl)
theorem dX4_all_53 : decode cX4_all 53 = .ok (.invokestatic 42, 3) := dk_184 0 42 (dk_at dksX4_all_2 5 rfl rfl)
theorem dX4_all_56 : decode cX4_all 56 = .ok (.aload_n 0, 1) := dk_42 (dk_at dksX4_all_2 8 rfl rfl)
theorem dX4_all_57 : decode cX4_all 57 = .ok (.dup, 1) := dk_89 (dk_at dksX4_all_2 9 rfl rfl)
theorem dX4_all_58 : decode cX4_all 58 = .ok (.getfield 26, 3) := dk_180 0 26 (dk_at dksX4_all_2 10 rfl rfl)
theorem dX4_all_61 : decode cX4_all 61 = .ok (.iconst 1, 1) := dk_4 (dk_at dksX4_all_2 13 rfl rfl)
theorem dX4_all_62 : decode cX4_all 62 = .ok (.iadd, 1) := dk_96 (dk_at dksX4_all_2 14 rfl rfl)
theorem dX4_all_63 : decode cX4_all 63 = .ok (.putfield 26, 3) := dk_181 0 26 (dk_at dksX4_all_2 15 rfl rfl)
theorem dX4_all_66 : decode cX4_all 66 = .ok (.goto (-66), 3) := dk_167 255 190 (dk_at dksX4_all_2 18 rfl rfl)
theorem dX4_all_69 : decode cX4_all 69 = .ok (.aload_n 0, 1) := dk_42 (dk_at dksX4_all_2 21 rfl rfl)
theorem dX4_all_70 : decode cX4_all 70 = .ok (.getfield 12, 3) := dk_180 0 12 (dk_at dksX4_all_3 0 rfl rfl)
theorem dX4_all_73 : decode cX4_all 73 = .ok (.areturn, 1) := dk_176 (dk_at dksX4_all_3 3 rfl rfl)
abbrev cX4_here : ByteArray := prog_6_method_2_code
def yX4_here : MethodName := ⟨RX4, "here", "()I"⟩
def dkwX4_here_2 : List UInt8 := [162, 0, 19, 42, 180, 0, 18, 42, 180, 0, 26, 51, 17, 0, 255, 126, 167, 0, 4, 2, 172]
abbrev dktX4_here_2 : List UInt8 := dkwX4_here_2 ++ []
def dkwX4_here_1 : List UInt8 := [160, 0, 16, 42, 89, 180, 0, 26, 4, 96, 181, 0, 26, 167, 255, 221, 42, 180, 0, 26, 42, 180, 0, 22]
abbrev dktX4_here_1 : List UInt8 := dkwX4_here_1 ++ dktX4_here_2
def dkwX4_here_0 : List UInt8 := [42, 180, 0, 26, 42, 180, 0, 22, 162, 0, 30, 42, 180, 0, 18, 42, 180, 0, 26, 51, 16, 32]
abbrev dktX4_here_0 : List UInt8 := dkwX4_here_0 ++ dktX4_here_1
theorem dksX4_here_0 : cX4_here.data.toList.drop 0 = dktX4_here_0 := by decide +kernel
theorem dksX4_here_1 : cX4_here.data.toList.drop 22 = dktX4_here_1 := dk_seg dksX4_here_0 22 rfl rfl
theorem dksX4_here_2 : cX4_here.data.toList.drop 46 = dktX4_here_2 := dk_seg dksX4_here_1 24 rfl rfl
theorem dX4_here_0 : decode cX4_here 0 = .ok (.aload_n 0, 1) := dk_42 (dk_at dksX4_here_0 0 rfl rfl)
theorem dX4_here_1 : decode cX4_here 1 = .ok (.getfield 26, 3) := dk_180 0 26 (dk_at dksX4_here_0 1 rfl rfl)
theorem dX4_here_4 : decode cX4_here 4 = .ok (.aload_n 0, 1) := dk_42 (dk_at dksX4_here_0 4 rfl rfl)
theorem dX4_here_5 : decode cX4_here 5 = .ok (.getfield 22, 3) := dk_180 0 22 (dk_at dksX4_here_0 5 rfl rfl)
theorem dX4_here_8 : decode cX4_here 8 = .ok (.if_icmp .ge 30, 3) := dk_162 0 30 (dk_at dksX4_here_0 8 rfl rfl)
theorem dX4_here_11 : decode cX4_here 11 = .ok (.aload_n 0, 1) := dk_42 (dk_at dksX4_here_0 11 rfl rfl)
theorem dX4_here_12 : decode cX4_here 12 = .ok (.getfield 18, 3) := dk_180 0 18 (dk_at dksX4_here_0 12 rfl rfl)
theorem dX4_here_15 : decode cX4_here 15 = .ok (.aload_n 0, 1) := dk_42 (dk_at dksX4_here_0 15 rfl rfl)
theorem dX4_here_16 : decode cX4_here 16 = .ok (.getfield 26, 3) := dk_180 0 26 (dk_at dksX4_here_0 16 rfl rfl)
theorem dX4_here_19 : decode cX4_here 19 = .ok (.baload, 1) := dk_51 (dk_at dksX4_here_0 19 rfl rfl)
theorem dX4_here_20 : decode cX4_here 20 = .ok (.bipush 32, 2) := dk_16 32 (dk_at dksX4_here_0 20 rfl rfl)
theorem dX4_here_22 : decode cX4_here 22 = .ok (.if_icmp .ne 16, 3) := dk_160 0 16 (dk_at dksX4_here_1 0 rfl rfl)
theorem dX4_here_25 : decode cX4_here 25 = .ok (.aload_n 0, 1) := dk_42 (dk_at dksX4_here_1 3 rfl rfl)
theorem dX4_here_26 : decode cX4_here 26 = .ok (.dup, 1) := dk_89 (dk_at dksX4_here_1 4 rfl rfl)
theorem dX4_here_27 : decode cX4_here 27 = .ok (.getfield 26, 3) := dk_180 0 26 (dk_at dksX4_here_1 5 rfl rfl)
theorem dX4_here_30 : decode cX4_here 30 = .ok (.iconst 1, 1) := dk_4 (dk_at dksX4_here_1 8 rfl rfl)
theorem dX4_here_31 : decode cX4_here 31 = .ok (.iadd, 1) := dk_96 (dk_at dksX4_here_1 9 rfl rfl)
theorem dX4_here_32 : decode cX4_here 32 = .ok (.putfield 26, 3) := dk_181 0 26 (dk_at dksX4_here_1 10 rfl rfl)
theorem dX4_here_35 : decode cX4_here 35 = .ok (.goto (-35), 3) := dk_167 255 221 (dk_at dksX4_here_1 13 rfl rfl)
theorem dX4_here_38 : decode cX4_here 38 = .ok (.aload_n 0, 1) := dk_42 (dk_at dksX4_here_1 16 rfl rfl)
theorem dX4_here_39 : decode cX4_here 39 = .ok (.getfield 26, 3) := dk_180 0 26 (dk_at dksX4_here_1 17 rfl rfl)
theorem dX4_here_42 : decode cX4_here 42 = .ok (.aload_n 0, 1) := dk_42 (dk_at dksX4_here_1 20 rfl rfl)
theorem dX4_here_43 : decode cX4_here 43 = .ok (.getfield 22, 3) := dk_180 0 22 (dk_at dksX4_here_1 21 rfl rfl)
theorem dX4_here_46 : decode cX4_here 46 = .ok (.if_icmp .ge 19, 3) := dk_162 0 19 (dk_at dksX4_here_2 0 rfl rfl)
theorem dX4_here_49 : decode cX4_here 49 = .ok (.aload_n 0, 1) := dk_42 (dk_at dksX4_here_2 3 rfl rfl)
theorem dX4_here_50 : decode cX4_here 50 = .ok (.getfield 18, 3) := dk_180 0 18 (dk_at dksX4_here_2 4 rfl rfl)
theorem dX4_here_53 : decode cX4_here 53 = .ok (.aload_n 0, 1) := dk_42 (dk_at dksX4_here_2 7 rfl rfl)
theorem dX4_here_54 : decode cX4_here 54 = .ok (.getfield 26, 3) := dk_180 0 26 (dk_at dksX4_here_2 8 rfl rfl)
theorem dX4_here_57 : decode cX4_here 57 = .ok (.baload, 1) := dk_51 (dk_at dksX4_here_2 11 rfl rfl)
theorem dX4_here_58 : decode cX4_here 58 = .ok (.sipush 255, 3) := dk_17 0 255 (dk_at dksX4_here_2 12 rfl rfl)
theorem dX4_here_61 : decode cX4_here 61 = .ok (.iand, 1) := dk_126 (dk_at dksX4_here_2 15 rfl rfl)
theorem dX4_here_62 : decode cX4_here 62 = .ok (.goto 4, 3) := dk_167 0 4 (dk_at dksX4_here_2 16 rfl rfl)
theorem dX4_here_65 : decode cX4_here 65 = .ok (.iconst (-1), 1) := dk_2 (dk_at dksX4_here_2 19 rfl rfl)
theorem dX4_here_66 : decode cX4_here 66 = .ok (.ireturn, 1) := dk_172 (dk_at dksX4_here_2 20 rfl rfl)
abbrev cX4_clause : ByteArray := prog_6_method_9_code
def yX4_clause : MethodName := ⟨RX4, "clause", "(II)V"⟩
def dkwX4_clause_4 : List UInt8 := [42, 182, 0, 112, 167, 0, 13, 187, 0, 29, 89, 4, 28, 183, 0, 31, 191, 177]
abbrev dktX4_clause_4 : List UInt8 := dkwX4_clause_4 ++ []
def dkwX4_clause_3 : List UInt8 := [42, 28, 182, 0, 103, 167, 0, 36, 42, 28, 182, 0, 106, 167, 0, 28, 42, 28, 182, 0, 109, 167, 0, 20]
abbrev dktX4_clause_3 : List UInt8 := dkwX4_clause_3 ++ dktX4_clause_4
def dkwX4_clause_2 : List UInt8 := [171, 0, 0, 0, 72, 0, 0, 0, 4, 0, 0, 0, 99, 0, 0, 0, 49, 0, 0, 0, 104, 0, 0, 0, 65, 0, 0, 0, 108, 0, 0, 0, 41, 0, 0, 0, 114, 0, 0, 0, 57]
abbrev dktX4_clause_2 : List UInt8 := dkwX4_clause_2 ++ dktX4_clause_3
def dkwX4_clause_1 : List UInt8 := [184, 0, 42, 27]
abbrev dktX4_clause_1 : List UInt8 := dkwX4_clause_1 ++ dktX4_clause_2
def dkwX4_clause_0 : List UInt8 := [27, 16, 108, 159, 0, 13, 42, 180, 0, 12, 180, 0, 55, 158, 0, 7, 4, 167, 0, 4, 3, 4, 28]
abbrev dktX4_clause_0 : List UInt8 := dkwX4_clause_0 ++ dktX4_clause_1
theorem dksX4_clause_0 : cX4_clause.data.toList.drop 0 = dktX4_clause_0 := by decide +kernel
theorem dksX4_clause_1 : cX4_clause.data.toList.drop 23 = dktX4_clause_1 := dk_seg dksX4_clause_0 23 rfl rfl
theorem dksX4_clause_2 : cX4_clause.data.toList.drop 27 = dktX4_clause_2 := dk_seg dksX4_clause_1 4 rfl rfl
theorem dksX4_clause_3 : cX4_clause.data.toList.drop 68 = dktX4_clause_3 := dk_seg dksX4_clause_2 41 rfl rfl
theorem dksX4_clause_4 : cX4_clause.data.toList.drop 92 = dktX4_clause_4 := dk_seg dksX4_clause_3 24 rfl rfl
theorem dX4_clause_0 : decode cX4_clause 0 = .ok (.iload_n 1, 1) := dk_27 (dk_at dksX4_clause_0 0 rfl rfl)
theorem dX4_clause_1 : decode cX4_clause 1 = .ok (.bipush 108, 2) := dk_16 108 (dk_at dksX4_clause_0 1 rfl rfl)
theorem dX4_clause_3 : decode cX4_clause 3 = .ok (.if_icmp .eq 13, 3) := dk_159 0 13 (dk_at dksX4_clause_0 3 rfl rfl)
theorem dX4_clause_6 : decode cX4_clause 6 = .ok (.aload_n 0, 1) := dk_42 (dk_at dksX4_clause_0 6 rfl rfl)
theorem dX4_clause_7 : decode cX4_clause 7 = .ok (.getfield 12, 3) := dk_180 0 12 (dk_at dksX4_clause_0 7 rfl rfl)
theorem dX4_clause_10 : decode cX4_clause 10 = .ok (.getfield 55, 3) := dk_180 0 55 (dk_at dksX4_clause_0 10 rfl rfl)
theorem dX4_clause_13 : decode cX4_clause 13 = .ok (.ifCond .le 7, 3) := dk_158 0 7 (dk_at dksX4_clause_0 13 rfl rfl)
theorem dX4_clause_16 : decode cX4_clause 16 = .ok (.iconst 1, 1) := dk_4 (dk_at dksX4_clause_0 16 rfl rfl)
theorem dX4_clause_17 : decode cX4_clause 17 = .ok (.goto 4, 3) := dk_167 0 4 (dk_at dksX4_clause_0 17 rfl rfl)
theorem dX4_clause_20 : decode cX4_clause 20 = .ok (.iconst 0, 1) := dk_3 (dk_at dksX4_clause_0 20 rfl rfl)
theorem dX4_clause_21 : decode cX4_clause 21 = .ok (.iconst 1, 1) := dk_4 (dk_at dksX4_clause_0 21 rfl rfl)
theorem dX4_clause_22 : decode cX4_clause 22 = .ok (.iload_n 2, 1) := dk_28 (dk_at dksX4_clause_0 22 rfl rfl)
theorem dX4_clause_23 : decode cX4_clause 23 = .ok (.invokestatic 42, 3) := dk_184 0 42 (dk_at dksX4_clause_1 0 rfl rfl)
theorem dX4_clause_26 : decode cX4_clause 26 = .ok (.iload_n 1, 1) := dk_27 (dk_at dksX4_clause_1 3 rfl rfl)
theorem dX4_clause_27 : decode cX4_clause 27 = .ok (.lookupswitch 72 #[(99, 49), (104, 65), (108, 41), (114, 57)], 41) := by decide +kernel
theorem dX4_clause_68 : decode cX4_clause 68 = .ok (.aload_n 0, 1) := dk_42 (dk_at dksX4_clause_3 0 rfl rfl)
theorem dX4_clause_69 : decode cX4_clause 69 = .ok (.iload_n 2, 1) := dk_28 (dk_at dksX4_clause_3 1 rfl rfl)
theorem dX4_clause_70 : decode cX4_clause 70 = .ok (.invokevirtual 103, 3) := dk_182 0 103 (dk_at dksX4_clause_3 2 rfl rfl)
theorem dX4_clause_73 : decode cX4_clause 73 = .ok (.goto 36, 3) := dk_167 0 36 (dk_at dksX4_clause_3 5 rfl rfl)
theorem dX4_clause_76 : decode cX4_clause 76 = .ok (.aload_n 0, 1) := dk_42 (dk_at dksX4_clause_3 8 rfl rfl)
theorem dX4_clause_77 : decode cX4_clause 77 = .ok (.iload_n 2, 1) := dk_28 (dk_at dksX4_clause_3 9 rfl rfl)
theorem dX4_clause_78 : decode cX4_clause 78 = .ok (.invokevirtual 106, 3) := dk_182 0 106 (dk_at dksX4_clause_3 10 rfl rfl)
theorem dX4_clause_81 : decode cX4_clause 81 = .ok (.goto 28, 3) := dk_167 0 28 (dk_at dksX4_clause_3 13 rfl rfl)
theorem dX4_clause_84 : decode cX4_clause 84 = .ok (.aload_n 0, 1) := dk_42 (dk_at dksX4_clause_3 16 rfl rfl)
theorem dX4_clause_85 : decode cX4_clause 85 = .ok (.iload_n 2, 1) := dk_28 (dk_at dksX4_clause_3 17 rfl rfl)
theorem dX4_clause_86 : decode cX4_clause 86 = .ok (.invokevirtual 109, 3) := dk_182 0 109 (dk_at dksX4_clause_3 18 rfl rfl)
theorem dX4_clause_89 : decode cX4_clause 89 = .ok (.goto 20, 3) := dk_167 0 20 (dk_at dksX4_clause_3 21 rfl rfl)
theorem dX4_clause_92 : decode cX4_clause 92 = .ok (.aload_n 0, 1) := dk_42 (dk_at dksX4_clause_4 0 rfl rfl)
theorem dX4_clause_93 : decode cX4_clause 93 = .ok (.invokevirtual 112, 3) := dk_182 0 112 (dk_at dksX4_clause_4 1 rfl rfl)
theorem dX4_clause_96 : decode cX4_clause 96 = .ok (.goto 13, 3) := dk_167 0 13 (dk_at dksX4_clause_4 4 rfl rfl)
theorem dX4_clause_99 : decode cX4_clause 99 = .ok (.new 29, 3) := dk_187 0 29 (dk_at dksX4_clause_4 7 rfl rfl)
theorem dX4_clause_102 : decode cX4_clause 102 = .ok (.dup, 1) := dk_89 (dk_at dksX4_clause_4 10 rfl rfl)
theorem dX4_clause_103 : decode cX4_clause 103 = .ok (.iconst 1, 1) := dk_4 (dk_at dksX4_clause_4 11 rfl rfl)
theorem dX4_clause_104 : decode cX4_clause 104 = .ok (.iload_n 2, 1) := dk_28 (dk_at dksX4_clause_4 12 rfl rfl)
theorem dX4_clause_105 : decode cX4_clause 105 = .ok (.invokespecial 31, 3) := dk_183 0 31 (dk_at dksX4_clause_4 13 rfl rfl)
theorem dX4_clause_108 : decode cX4_clause 108 = .ok (.athrow, 1) := dk_191 (dk_at dksX4_clause_4 16 rfl rfl)
theorem dX4_clause_109 : decode cX4_clause 109 = .ok (.return_, 1) := dk_177 (dk_at dksX4_clause_4 17 rfl rfl)
abbrev cX4_want : ByteArray := prog_6_method_3_code
def yX4_want : MethodName := ⟨RX4, "want", "(ZII)V"⟩
def dkwX4_want_0 : List UInt8 := [26, 154, 0, 13, 187, 0, 29, 89, 27, 28, 183, 0, 31, 191, 177]
abbrev dktX4_want_0 : List UInt8 := dkwX4_want_0 ++ []
theorem dksX4_want_0 : cX4_want.data.toList.drop 0 = dktX4_want_0 := by decide +kernel
theorem dX4_want_0 : decode cX4_want 0 = .ok (.iload_n 0, 1) := dk_26 (dk_at dksX4_want_0 0 rfl rfl)
theorem dX4_want_1 : decode cX4_want 1 = .ok (.ifCond .ne 13, 3) := dk_154 0 13 (dk_at dksX4_want_0 1 rfl rfl)
theorem dX4_want_4 : decode cX4_want 4 = .ok (.new 29, 3) := dk_187 0 29 (dk_at dksX4_want_0 4 rfl rfl)
theorem dX4_want_7 : decode cX4_want 7 = .ok (.dup, 1) := dk_89 (dk_at dksX4_want_0 7 rfl rfl)
theorem dX4_want_8 : decode cX4_want 8 = .ok (.iload_n 1, 1) := dk_27 (dk_at dksX4_want_0 8 rfl rfl)
theorem dX4_want_9 : decode cX4_want 9 = .ok (.iload_n 2, 1) := dk_28 (dk_at dksX4_want_0 9 rfl rfl)
theorem dX4_want_10 : decode cX4_want 10 = .ok (.invokespecial 31, 3) := dk_183 0 31 (dk_at dksX4_want_0 10 rfl rfl)
theorem dX4_want_13 : decode cX4_want 13 = .ok (.athrow, 1) := dk_191 (dk_at dksX4_want_0 13 rfl rfl)
theorem dX4_want_14 : decode cX4_want 14 = .ok (.return_, 1) := dk_177 (dk_at dksX4_want_0 14 rfl rfl)
abbrev cX4_limb : ByteArray := prog_6_method_5_code
def yX4_limb : MethodName := ⟨RX4, "limb", "(I)V"⟩
def dkwX4_limb_4 : List UInt8 := [96, 181, 0, 55, 177]
abbrev dktX4_limb_4 : List UInt8 := dkwX4_limb_4 ++ []
def dkwX4_limb_3 : List UInt8 := [180, 0, 12, 180, 0, 70, 42, 180, 0, 12, 180, 0, 55, 44, 83, 42, 180, 0, 12, 89, 180, 0, 55, 4]
abbrev dktX4_limb_3 : List UInt8 := dkwX4_limb_3 ++ dktX4_limb_4
def dkwX4_limb_2 : List UInt8 := [180, 0, 66, 29, 42, 3, 16, 18, 182, 0, 60, 16, 9, 100, 79, 132, 3, 1, 167, 255, 232, 42]
abbrev dktX4_limb_2 : List UInt8 := dkwX4_limb_2 ++ dktX4_limb_3
def dkwX4_limb_1 : List UInt8 := [187, 0, 58, 89, 42, 16, 20, 16, 99, 182, 0, 60, 183, 0, 63, 77, 3, 62, 29, 7, 162, 0, 25, 44]
abbrev dktX4_limb_1 : List UInt8 := dkwX4_limb_1 ++ dktX4_limb_2
def dkwX4_limb_0 : List UInt8 := [42, 180, 0, 12, 180, 0, 55, 16, 6, 162, 0, 7, 4, 167, 0, 4, 3, 6, 27, 184, 0, 42]
abbrev dktX4_limb_0 : List UInt8 := dkwX4_limb_0 ++ dktX4_limb_1
theorem dksX4_limb_0 : cX4_limb.data.toList.drop 0 = dktX4_limb_0 := by decide +kernel
theorem dksX4_limb_1 : cX4_limb.data.toList.drop 22 = dktX4_limb_1 := dk_seg dksX4_limb_0 22 rfl rfl
theorem dksX4_limb_2 : cX4_limb.data.toList.drop 46 = dktX4_limb_2 := dk_seg dksX4_limb_1 24 rfl rfl
theorem dksX4_limb_3 : cX4_limb.data.toList.drop 68 = dktX4_limb_3 := dk_seg dksX4_limb_2 22 rfl rfl
theorem dksX4_limb_4 : cX4_limb.data.toList.drop 92 = dktX4_limb_4 := dk_seg dksX4_limb_3 24 rfl rfl
theorem dX4_limb_0 : decode cX4_limb 0 = .ok (.aload_n 0, 1) := dk_42 (dk_at dksX4_limb_0 0 rfl rfl)
theorem dX4_limb_1 : decode cX4_limb 1 = .ok (.getfield 12, 3) := dk_180 0 12 (dk_at dksX4_limb_0 1 rfl rfl)
theorem dX4_limb_4 : decode cX4_limb 4 = .ok (.getfield 55, 3) := dk_180 0 55 (dk_at dksX4_limb_0 4 rfl rfl)
theorem dX4_limb_7 : decode cX4_limb 7 = .ok (.bipush 6, 2) := dk_16 6 (dk_at dksX4_limb_0 7 rfl rfl)
theorem dX4_limb_9 : decode cX4_limb 9 = .ok (.if_icmp .ge 7, 3) := dk_162 0 7 (dk_at dksX4_limb_0 9 rfl rfl)
theorem dX4_limb_12 : decode cX4_limb 12 = .ok (.iconst 1, 1) := dk_4 (dk_at dksX4_limb_0 12 rfl rfl)
theorem dX4_limb_13 : decode cX4_limb 13 = .ok (.goto 4, 3) := dk_167 0 4 (dk_at dksX4_limb_0 13 rfl rfl)
theorem dX4_limb_16 : decode cX4_limb 16 = .ok (.iconst 0, 1) := dk_3 (dk_at dksX4_limb_0 16 rfl rfl)
theorem dX4_limb_17 : decode cX4_limb 17 = .ok (.iconst 3, 1) := dk_6 (dk_at dksX4_limb_0 17 rfl rfl)
theorem dX4_limb_18 : decode cX4_limb 18 = .ok (.iload_n 1, 1) := dk_27 (dk_at dksX4_limb_0 18 rfl rfl)
theorem dX4_limb_19 : decode cX4_limb 19 = .ok (.invokestatic 42, 3) := dk_184 0 42 (dk_at dksX4_limb_0 19 rfl rfl)
theorem dX4_limb_22 : decode cX4_limb 22 = .ok (.new 58, 3) := dk_187 0 58 (dk_at dksX4_limb_1 0 rfl rfl)
theorem dX4_limb_25 : decode cX4_limb 25 = .ok (.dup, 1) := dk_89 (dk_at dksX4_limb_1 3 rfl rfl)
theorem dX4_limb_26 : decode cX4_limb 26 = .ok (.aload_n 0, 1) := dk_42 (dk_at dksX4_limb_1 4 rfl rfl)
theorem dX4_limb_27 : decode cX4_limb 27 = .ok (.bipush 20, 2) := dk_16 20 (dk_at dksX4_limb_1 5 rfl rfl)
theorem dX4_limb_29 : decode cX4_limb 29 = .ok (.bipush 99, 2) := dk_16 99 (dk_at dksX4_limb_1 7 rfl rfl)
theorem dX4_limb_31 : decode cX4_limb 31 = .ok (.invokevirtual 60, 3) := dk_182 0 60 (dk_at dksX4_limb_1 9 rfl rfl)
theorem dX4_limb_34 : decode cX4_limb 34 = .ok (.invokespecial 63, 3) := dk_183 0 63 (dk_at dksX4_limb_1 12 rfl rfl)
theorem dX4_limb_37 : decode cX4_limb 37 = .ok (.astore_n 2, 1) := dk_77 (dk_at dksX4_limb_1 15 rfl rfl)
theorem dX4_limb_38 : decode cX4_limb 38 = .ok (.iconst 0, 1) := dk_3 (dk_at dksX4_limb_1 16 rfl rfl)
theorem dX4_limb_39 : decode cX4_limb 39 = .ok (.istore_n 3, 1) := dk_62 (dk_at dksX4_limb_1 17 rfl rfl)
theorem dX4_limb_40 : decode cX4_limb 40 = .ok (.iload_n 3, 1) := dk_29 (dk_at dksX4_limb_1 18 rfl rfl)
theorem dX4_limb_41 : decode cX4_limb 41 = .ok (.iconst 4, 1) := dk_7 (dk_at dksX4_limb_1 19 rfl rfl)
theorem dX4_limb_42 : decode cX4_limb 42 = .ok (.if_icmp .ge 25, 3) := dk_162 0 25 (dk_at dksX4_limb_1 20 rfl rfl)
theorem dX4_limb_45 : decode cX4_limb 45 = .ok (.aload_n 2, 1) := dk_44 (dk_at dksX4_limb_1 23 rfl rfl)
theorem dX4_limb_46 : decode cX4_limb 46 = .ok (.getfield 66, 3) := dk_180 0 66 (dk_at dksX4_limb_2 0 rfl rfl)
theorem dX4_limb_49 : decode cX4_limb 49 = .ok (.iload_n 3, 1) := dk_29 (dk_at dksX4_limb_2 3 rfl rfl)
theorem dX4_limb_50 : decode cX4_limb 50 = .ok (.aload_n 0, 1) := dk_42 (dk_at dksX4_limb_2 4 rfl rfl)
theorem dX4_limb_51 : decode cX4_limb 51 = .ok (.iconst 0, 1) := dk_3 (dk_at dksX4_limb_2 5 rfl rfl)
theorem dX4_limb_52 : decode cX4_limb 52 = .ok (.bipush 18, 2) := dk_16 18 (dk_at dksX4_limb_2 6 rfl rfl)
theorem dX4_limb_54 : decode cX4_limb 54 = .ok (.invokevirtual 60, 3) := dk_182 0 60 (dk_at dksX4_limb_2 8 rfl rfl)
theorem dX4_limb_57 : decode cX4_limb 57 = .ok (.bipush 9, 2) := dk_16 9 (dk_at dksX4_limb_2 11 rfl rfl)
theorem dX4_limb_59 : decode cX4_limb 59 = .ok (.isub, 1) := dk_100 (dk_at dksX4_limb_2 13 rfl rfl)
theorem dX4_limb_60 : decode cX4_limb 60 = .ok (.iastore, 1) := dk_79 (dk_at dksX4_limb_2 14 rfl rfl)
theorem dX4_limb_61 : decode cX4_limb 61 = .ok (.iinc 3 1, 3) := dk_132 3 1 (dk_at dksX4_limb_2 15 rfl rfl)
theorem dX4_limb_64 : decode cX4_limb 64 = .ok (.goto (-24), 3) := dk_167 255 232 (dk_at dksX4_limb_2 18 rfl rfl)
theorem dX4_limb_67 : decode cX4_limb 67 = .ok (.aload_n 0, 1) := dk_42 (dk_at dksX4_limb_2 21 rfl rfl)
theorem dX4_limb_68 : decode cX4_limb 68 = .ok (.getfield 12, 3) := dk_180 0 12 (dk_at dksX4_limb_3 0 rfl rfl)
theorem dX4_limb_71 : decode cX4_limb 71 = .ok (.getfield 70, 3) := dk_180 0 70 (dk_at dksX4_limb_3 3 rfl rfl)
theorem dX4_limb_74 : decode cX4_limb 74 = .ok (.aload_n 0, 1) := dk_42 (dk_at dksX4_limb_3 6 rfl rfl)
theorem dX4_limb_75 : decode cX4_limb 75 = .ok (.getfield 12, 3) := dk_180 0 12 (dk_at dksX4_limb_3 7 rfl rfl)
theorem dX4_limb_78 : decode cX4_limb 78 = .ok (.getfield 55, 3) := dk_180 0 55 (dk_at dksX4_limb_3 10 rfl rfl)
theorem dX4_limb_81 : decode cX4_limb 81 = .ok (.aload_n 2, 1) := dk_44 (dk_at dksX4_limb_3 13 rfl rfl)
theorem dX4_limb_82 : decode cX4_limb 82 = .ok (.aastore, 1) := dk_83 (dk_at dksX4_limb_3 14 rfl rfl)
theorem dX4_limb_83 : decode cX4_limb 83 = .ok (.aload_n 0, 1) := dk_42 (dk_at dksX4_limb_3 15 rfl rfl)
theorem dX4_limb_84 : decode cX4_limb 84 = .ok (.getfield 12, 3) := dk_180 0 12 (dk_at dksX4_limb_3 16 rfl rfl)
theorem dX4_limb_87 : decode cX4_limb 87 = .ok (.dup, 1) := dk_89 (dk_at dksX4_limb_3 19 rfl rfl)
theorem dX4_limb_88 : decode cX4_limb 88 = .ok (.getfield 55, 3) := dk_180 0 55 (dk_at dksX4_limb_3 20 rfl rfl)
theorem dX4_limb_91 : decode cX4_limb 91 = .ok (.iconst 1, 1) := dk_4 (dk_at dksX4_limb_3 23 rfl rfl)
theorem dX4_limb_92 : decode cX4_limb 92 = .ok (.iadd, 1) := dk_96 (dk_at dksX4_limb_4 0 rfl rfl)
theorem dX4_limb_93 : decode cX4_limb 93 = .ok (.putfield 55, 3) := dk_181 0 55 (dk_at dksX4_limb_4 1 rfl rfl)
theorem dX4_limb_96 : decode cX4_limb 96 = .ok (.return_, 1) := dk_177 (dk_at dksX4_limb_4 4 rfl rfl)
abbrev cX4_number : ByteArray := prog_6_method_4_code
def yX4_number : MethodName := ⟨RX4, "number", "(II)I"⟩
def dkwX4_number_5 : List UInt8 := [153, 0, 7, 4, 167, 0, 4, 3, 5, 42, 180, 0, 46, 184, 0, 42, 29, 172]
abbrev dktX4_number_5 : List UInt8 := dkwX4_number_5 ++ []
def dkwX4_number_4 : List UInt8 := [167, 255, 192, 42, 180, 0, 26, 42, 180, 0, 46, 6, 96, 163, 0, 16, 29, 27, 28, 184, 0, 38]
abbrev dktX4_number_4 : List UInt8 := dkwX4_number_4 ++ dktX4_number_5
def dkwX4_number_3 : List UInt8 := [180, 0, 26, 51, 96, 16, 48, 100, 184, 0, 49, 62, 42, 89, 180, 0, 26, 4, 96, 181, 0, 26]
abbrev dktX4_number_3 : List UInt8 := dkwX4_number_3 ++ dktX4_number_4
def dkwX4_number_2 : List UInt8 := [51, 16, 48, 16, 57, 184, 0, 38, 153, 0, 40, 17, 39, 15, 16, 10, 29, 104, 42, 180, 0, 18, 42]
abbrev dktX4_number_2 : List UInt8 := dkwX4_number_2 ++ dktX4_number_3
def dkwX4_number_1 : List UInt8 := [181, 0, 46, 3, 62, 42, 180, 0, 26, 42, 180, 0, 22, 162, 0, 59, 42, 180, 0, 18, 42, 180, 0, 26]
abbrev dktX4_number_1 : List UInt8 := dkwX4_number_1 ++ dktX4_number_2
def dkwX4_number_0 : List UInt8 := [42, 182, 0, 34, 16, 48, 16, 57, 184, 0, 38, 4, 42, 180, 0, 26, 184, 0, 42, 42, 42, 180, 0, 26]
abbrev dktX4_number_0 : List UInt8 := dkwX4_number_0 ++ dktX4_number_1
theorem dksX4_number_0 : cX4_number.data.toList.drop 0 = dktX4_number_0 := by decide +kernel
theorem dksX4_number_1 : cX4_number.data.toList.drop 24 = dktX4_number_1 := dk_seg dksX4_number_0 24 rfl rfl
theorem dksX4_number_2 : cX4_number.data.toList.drop 48 = dktX4_number_2 := dk_seg dksX4_number_1 24 rfl rfl
theorem dksX4_number_3 : cX4_number.data.toList.drop 71 = dktX4_number_3 := dk_seg dksX4_number_2 23 rfl rfl
theorem dksX4_number_4 : cX4_number.data.toList.drop 93 = dktX4_number_4 := dk_seg dksX4_number_3 22 rfl rfl
theorem dksX4_number_5 : cX4_number.data.toList.drop 115 = dktX4_number_5 := dk_seg dksX4_number_4 22 rfl rfl
theorem dX4_number_0 : decode cX4_number 0 = .ok (.aload_n 0, 1) := dk_42 (dk_at dksX4_number_0 0 rfl rfl)
theorem dX4_number_1 : decode cX4_number 1 = .ok (.invokevirtual 34, 3) := dk_182 0 34 (dk_at dksX4_number_0 1 rfl rfl)
theorem dX4_number_4 : decode cX4_number 4 = .ok (.bipush 48, 2) := dk_16 48 (dk_at dksX4_number_0 4 rfl rfl)
theorem dX4_number_6 : decode cX4_number 6 = .ok (.bipush 57, 2) := dk_16 57 (dk_at dksX4_number_0 6 rfl rfl)
theorem dX4_number_8 : decode cX4_number 8 = .ok (.invokestatic 38, 3) := dk_184 0 38 (dk_at dksX4_number_0 8 rfl rfl)
theorem dX4_number_11 : decode cX4_number 11 = .ok (.iconst 1, 1) := dk_4 (dk_at dksX4_number_0 11 rfl rfl)
theorem dX4_number_12 : decode cX4_number 12 = .ok (.aload_n 0, 1) := dk_42 (dk_at dksX4_number_0 12 rfl rfl)
theorem dX4_number_13 : decode cX4_number 13 = .ok (.getfield 26, 3) := dk_180 0 26 (dk_at dksX4_number_0 13 rfl rfl)
theorem dX4_number_16 : decode cX4_number 16 = .ok (.invokestatic 42, 3) := dk_184 0 42 (dk_at dksX4_number_0 16 rfl rfl)
theorem dX4_number_19 : decode cX4_number 19 = .ok (.aload_n 0, 1) := dk_42 (dk_at dksX4_number_0 19 rfl rfl)
theorem dX4_number_20 : decode cX4_number 20 = .ok (.aload_n 0, 1) := dk_42 (dk_at dksX4_number_0 20 rfl rfl)
theorem dX4_number_21 : decode cX4_number 21 = .ok (.getfield 26, 3) := dk_180 0 26 (dk_at dksX4_number_0 21 rfl rfl)
theorem dX4_number_24 : decode cX4_number 24 = .ok (.putfield 46, 3) := dk_181 0 46 (dk_at dksX4_number_1 0 rfl rfl)
theorem dX4_number_27 : decode cX4_number 27 = .ok (.iconst 0, 1) := dk_3 (dk_at dksX4_number_1 3 rfl rfl)
theorem dX4_number_28 : decode cX4_number 28 = .ok (.istore_n 3, 1) := dk_62 (dk_at dksX4_number_1 4 rfl rfl)
theorem dX4_number_29 : decode cX4_number 29 = .ok (.aload_n 0, 1) := dk_42 (dk_at dksX4_number_1 5 rfl rfl)
theorem dX4_number_30 : decode cX4_number 30 = .ok (.getfield 26, 3) := dk_180 0 26 (dk_at dksX4_number_1 6 rfl rfl)
theorem dX4_number_33 : decode cX4_number 33 = .ok (.aload_n 0, 1) := dk_42 (dk_at dksX4_number_1 9 rfl rfl)
theorem dX4_number_34 : decode cX4_number 34 = .ok (.getfield 22, 3) := dk_180 0 22 (dk_at dksX4_number_1 10 rfl rfl)
theorem dX4_number_37 : decode cX4_number 37 = .ok (.if_icmp .ge 59, 3) := dk_162 0 59 (dk_at dksX4_number_1 13 rfl rfl)
theorem dX4_number_40 : decode cX4_number 40 = .ok (.aload_n 0, 1) := dk_42 (dk_at dksX4_number_1 16 rfl rfl)
theorem dX4_number_41 : decode cX4_number 41 = .ok (.getfield 18, 3) := dk_180 0 18 (dk_at dksX4_number_1 17 rfl rfl)
theorem dX4_number_44 : decode cX4_number 44 = .ok (.aload_n 0, 1) := dk_42 (dk_at dksX4_number_1 20 rfl rfl)
theorem dX4_number_45 : decode cX4_number 45 = .ok (.getfield 26, 3) := dk_180 0 26 (dk_at dksX4_number_1 21 rfl rfl)
theorem dX4_number_48 : decode cX4_number 48 = .ok (.baload, 1) := dk_51 (dk_at dksX4_number_2 0 rfl rfl)
theorem dX4_number_49 : decode cX4_number 49 = .ok (.bipush 48, 2) := dk_16 48 (dk_at dksX4_number_2 1 rfl rfl)
theorem dX4_number_51 : decode cX4_number 51 = .ok (.bipush 57, 2) := dk_16 57 (dk_at dksX4_number_2 3 rfl rfl)
theorem dX4_number_53 : decode cX4_number 53 = .ok (.invokestatic 38, 3) := dk_184 0 38 (dk_at dksX4_number_2 5 rfl rfl)
theorem dX4_number_56 : decode cX4_number 56 = .ok (.ifCond .eq 40, 3) := dk_153 0 40 (dk_at dksX4_number_2 8 rfl rfl)
theorem dX4_number_59 : decode cX4_number 59 = .ok (.sipush 9999, 3) := dk_17 39 15 (dk_at dksX4_number_2 11 rfl rfl)
theorem dX4_number_62 : decode cX4_number 62 = .ok (.bipush 10, 2) := dk_16 10 (dk_at dksX4_number_2 14 rfl rfl)
theorem dX4_number_64 : decode cX4_number 64 = .ok (.iload_n 3, 1) := dk_29 (dk_at dksX4_number_2 16 rfl rfl)
theorem dX4_number_65 : decode cX4_number 65 = .ok (.imul, 1) := dk_104 (dk_at dksX4_number_2 17 rfl rfl)
theorem dX4_number_66 : decode cX4_number 66 = .ok (.aload_n 0, 1) := dk_42 (dk_at dksX4_number_2 18 rfl rfl)
theorem dX4_number_67 : decode cX4_number 67 = .ok (.getfield 18, 3) := dk_180 0 18 (dk_at dksX4_number_2 19 rfl rfl)
theorem dX4_number_70 : decode cX4_number 70 = .ok (.aload_n 0, 1) := dk_42 (dk_at dksX4_number_2 22 rfl rfl)
theorem dX4_number_71 : decode cX4_number 71 = .ok (.getfield 26, 3) := dk_180 0 26 (dk_at dksX4_number_3 0 rfl rfl)
theorem dX4_number_74 : decode cX4_number 74 = .ok (.baload, 1) := dk_51 (dk_at dksX4_number_3 3 rfl rfl)
theorem dX4_number_75 : decode cX4_number 75 = .ok (.iadd, 1) := dk_96 (dk_at dksX4_number_3 4 rfl rfl)
theorem dX4_number_76 : decode cX4_number 76 = .ok (.bipush 48, 2) := dk_16 48 (dk_at dksX4_number_3 5 rfl rfl)
theorem dX4_number_78 : decode cX4_number 78 = .ok (.isub, 1) := dk_100 (dk_at dksX4_number_3 7 rfl rfl)
theorem dX4_number_79 : decode cX4_number 79 = .ok (.invokestatic 49, 3) := dk_184 0 49 (dk_at dksX4_number_3 8 rfl rfl)
theorem dX4_number_82 : decode cX4_number 82 = .ok (.istore_n 3, 1) := dk_62 (dk_at dksX4_number_3 11 rfl rfl)
theorem dX4_number_83 : decode cX4_number 83 = .ok (.aload_n 0, 1) := dk_42 (dk_at dksX4_number_3 12 rfl rfl)
theorem dX4_number_84 : decode cX4_number 84 = .ok (.dup, 1) := dk_89 (dk_at dksX4_number_3 13 rfl rfl)
theorem dX4_number_85 : decode cX4_number 85 = .ok (.getfield 26, 3) := dk_180 0 26 (dk_at dksX4_number_3 14 rfl rfl)
theorem dX4_number_88 : decode cX4_number 88 = .ok (.iconst 1, 1) := dk_4 (dk_at dksX4_number_3 17 rfl rfl)
theorem dX4_number_89 : decode cX4_number 89 = .ok (.iadd, 1) := dk_96 (dk_at dksX4_number_3 18 rfl rfl)
theorem dX4_number_90 : decode cX4_number 90 = .ok (.putfield 26, 3) := dk_181 0 26 (dk_at dksX4_number_3 19 rfl rfl)
theorem dX4_number_93 : decode cX4_number 93 = .ok (.goto (-64), 3) := dk_167 255 192 (dk_at dksX4_number_4 0 rfl rfl)
theorem dX4_number_96 : decode cX4_number 96 = .ok (.aload_n 0, 1) := dk_42 (dk_at dksX4_number_4 3 rfl rfl)
theorem dX4_number_97 : decode cX4_number 97 = .ok (.getfield 26, 3) := dk_180 0 26 (dk_at dksX4_number_4 4 rfl rfl)
theorem dX4_number_100 : decode cX4_number 100 = .ok (.aload_n 0, 1) := dk_42 (dk_at dksX4_number_4 7 rfl rfl)
theorem dX4_number_101 : decode cX4_number 101 = .ok (.getfield 46, 3) := dk_180 0 46 (dk_at dksX4_number_4 8 rfl rfl)
theorem dX4_number_104 : decode cX4_number 104 = .ok (.iconst 3, 1) := dk_6 (dk_at dksX4_number_4 11 rfl rfl)
theorem dX4_number_105 : decode cX4_number 105 = .ok (.iadd, 1) := dk_96 (dk_at dksX4_number_4 12 rfl rfl)
theorem dX4_number_106 : decode cX4_number 106 = .ok (.if_icmp .gt 16, 3) := dk_163 0 16 (dk_at dksX4_number_4 13 rfl rfl)
theorem dX4_number_109 : decode cX4_number 109 = .ok (.iload_n 3, 1) := dk_29 (dk_at dksX4_number_4 16 rfl rfl)
theorem dX4_number_110 : decode cX4_number 110 = .ok (.iload_n 1, 1) := dk_27 (dk_at dksX4_number_4 17 rfl rfl)
theorem dX4_number_111 : decode cX4_number 111 = .ok (.iload_n 2, 1) := dk_28 (dk_at dksX4_number_4 18 rfl rfl)
theorem dX4_number_112 : decode cX4_number 112 = .ok (.invokestatic 38, 3) := dk_184 0 38 (dk_at dksX4_number_4 19 rfl rfl)
theorem dX4_number_115 : decode cX4_number 115 = .ok (.ifCond .eq 7, 3) := dk_153 0 7 (dk_at dksX4_number_5 0 rfl rfl)
theorem dX4_number_118 : decode cX4_number 118 = .ok (.iconst 1, 1) := dk_4 (dk_at dksX4_number_5 3 rfl rfl)
theorem dX4_number_119 : decode cX4_number 119 = .ok (.goto 4, 3) := dk_167 0 4 (dk_at dksX4_number_5 4 rfl rfl)
theorem dX4_number_122 : decode cX4_number 122 = .ok (.iconst 0, 1) := dk_3 (dk_at dksX4_number_5 7 rfl rfl)
theorem dX4_number_123 : decode cX4_number 123 = .ok (.iconst 2, 1) := dk_5 (dk_at dksX4_number_5 8 rfl rfl)
theorem dX4_number_124 : decode cX4_number 124 = .ok (.aload_n 0, 1) := dk_42 (dk_at dksX4_number_5 9 rfl rfl)
theorem dX4_number_125 : decode cX4_number 125 = .ok (.getfield 46, 3) := dk_180 0 46 (dk_at dksX4_number_5 10 rfl rfl)
theorem dX4_number_128 : decode cX4_number 128 = .ok (.invokestatic 42, 3) := dk_184 0 42 (dk_at dksX4_number_5 13 rfl rfl)
theorem dX4_number_131 : decode cX4_number 131 = .ok (.iload_n 3, 1) := dk_29 (dk_at dksX4_number_5 16 rfl rfl)
theorem dX4_number_132 : decode cX4_number 132 = .ok (.ireturn, 1) := dk_172 (dk_at dksX4_number_5 17 rfl rfl)
abbrev cX4_contract : ByteArray := prog_6_method_6_code
def yX4_contract : MethodName := ⟨RX4, "contract", "(I)V"⟩
def dkwX4_contract_3 : List UInt8 := [4, 16, 50, 182, 0, 60, 79, 42, 180, 0, 12, 89, 180, 0, 74, 4, 96, 181, 0, 74, 177]
abbrev dktX4_contract_3 : List UInt8 := dkwX4_contract_3 ++ []
def dkwX4_contract_2 : List UInt8 := [42, 3, 42, 180, 0, 12, 180, 0, 55, 4, 100, 182, 0, 60, 79, 42, 180, 0, 12, 180, 0, 83, 28, 42]
abbrev dktX4_contract_2 : List UInt8 := dkwX4_contract_2 ++ dktX4_contract_3
def dkwX4_contract_1 : List UInt8 := [42, 180, 0, 12, 180, 0, 77, 28, 42, 3, 16, 99, 182, 0, 60, 79, 42, 180, 0, 12, 180, 0, 80, 28]
abbrev dktX4_contract_1 : List UInt8 := dkwX4_contract_1 ++ dktX4_contract_2
def dkwX4_contract_0 : List UInt8 := [42, 180, 0, 12, 180, 0, 74, 61, 28, 16, 6, 162, 0, 7, 4, 167, 0, 4, 3, 6, 27, 184, 0, 42]
abbrev dktX4_contract_0 : List UInt8 := dkwX4_contract_0 ++ dktX4_contract_1
theorem dksX4_contract_0 : cX4_contract.data.toList.drop 0 = dktX4_contract_0 := by decide +kernel
theorem dksX4_contract_1 : cX4_contract.data.toList.drop 24 = dktX4_contract_1 := dk_seg dksX4_contract_0 24 rfl rfl
theorem dksX4_contract_2 : cX4_contract.data.toList.drop 48 = dktX4_contract_2 := dk_seg dksX4_contract_1 24 rfl rfl
theorem dksX4_contract_3 : cX4_contract.data.toList.drop 72 = dktX4_contract_3 := dk_seg dksX4_contract_2 24 rfl rfl
theorem dX4_contract_0 : decode cX4_contract 0 = .ok (.aload_n 0, 1) := dk_42 (dk_at dksX4_contract_0 0 rfl rfl)
theorem dX4_contract_1 : decode cX4_contract 1 = .ok (.getfield 12, 3) := dk_180 0 12 (dk_at dksX4_contract_0 1 rfl rfl)
theorem dX4_contract_4 : decode cX4_contract 4 = .ok (.getfield 74, 3) := dk_180 0 74 (dk_at dksX4_contract_0 4 rfl rfl)
theorem dX4_contract_7 : decode cX4_contract 7 = .ok (.istore_n 2, 1) := dk_61 (dk_at dksX4_contract_0 7 rfl rfl)
theorem dX4_contract_8 : decode cX4_contract 8 = .ok (.iload_n 2, 1) := dk_28 (dk_at dksX4_contract_0 8 rfl rfl)
theorem dX4_contract_9 : decode cX4_contract 9 = .ok (.bipush 6, 2) := dk_16 6 (dk_at dksX4_contract_0 9 rfl rfl)
theorem dX4_contract_11 : decode cX4_contract 11 = .ok (.if_icmp .ge 7, 3) := dk_162 0 7 (dk_at dksX4_contract_0 11 rfl rfl)
theorem dX4_contract_14 : decode cX4_contract 14 = .ok (.iconst 1, 1) := dk_4 (dk_at dksX4_contract_0 14 rfl rfl)
theorem dX4_contract_15 : decode cX4_contract 15 = .ok (.goto 4, 3) := dk_167 0 4 (dk_at dksX4_contract_0 15 rfl rfl)
theorem dX4_contract_18 : decode cX4_contract 18 = .ok (.iconst 0, 1) := dk_3 (dk_at dksX4_contract_0 18 rfl rfl)
theorem dX4_contract_19 : decode cX4_contract 19 = .ok (.iconst 3, 1) := dk_6 (dk_at dksX4_contract_0 19 rfl rfl)
theorem dX4_contract_20 : decode cX4_contract 20 = .ok (.iload_n 1, 1) := dk_27 (dk_at dksX4_contract_0 20 rfl rfl)
theorem dX4_contract_21 : decode cX4_contract 21 = .ok (.invokestatic 42, 3) := dk_184 0 42 (dk_at dksX4_contract_0 21 rfl rfl)
theorem dX4_contract_24 : decode cX4_contract 24 = .ok (.aload_n 0, 1) := dk_42 (dk_at dksX4_contract_1 0 rfl rfl)
theorem dX4_contract_25 : decode cX4_contract 25 = .ok (.getfield 12, 3) := dk_180 0 12 (dk_at dksX4_contract_1 1 rfl rfl)
theorem dX4_contract_28 : decode cX4_contract 28 = .ok (.getfield 77, 3) := dk_180 0 77 (dk_at dksX4_contract_1 4 rfl rfl)
theorem dX4_contract_31 : decode cX4_contract 31 = .ok (.iload_n 2, 1) := dk_28 (dk_at dksX4_contract_1 7 rfl rfl)
theorem dX4_contract_32 : decode cX4_contract 32 = .ok (.aload_n 0, 1) := dk_42 (dk_at dksX4_contract_1 8 rfl rfl)
theorem dX4_contract_33 : decode cX4_contract 33 = .ok (.iconst 0, 1) := dk_3 (dk_at dksX4_contract_1 9 rfl rfl)
theorem dX4_contract_34 : decode cX4_contract 34 = .ok (.bipush 99, 2) := dk_16 99 (dk_at dksX4_contract_1 10 rfl rfl)
theorem dX4_contract_36 : decode cX4_contract 36 = .ok (.invokevirtual 60, 3) := dk_182 0 60 (dk_at dksX4_contract_1 12 rfl rfl)
theorem dX4_contract_39 : decode cX4_contract 39 = .ok (.iastore, 1) := dk_79 (dk_at dksX4_contract_1 15 rfl rfl)
theorem dX4_contract_40 : decode cX4_contract 40 = .ok (.aload_n 0, 1) := dk_42 (dk_at dksX4_contract_1 16 rfl rfl)
theorem dX4_contract_41 : decode cX4_contract 41 = .ok (.getfield 12, 3) := dk_180 0 12 (dk_at dksX4_contract_1 17 rfl rfl)
theorem dX4_contract_44 : decode cX4_contract 44 = .ok (.getfield 80, 3) := dk_180 0 80 (dk_at dksX4_contract_1 20 rfl rfl)
theorem dX4_contract_47 : decode cX4_contract 47 = .ok (.iload_n 2, 1) := dk_28 (dk_at dksX4_contract_1 23 rfl rfl)
theorem dX4_contract_48 : decode cX4_contract 48 = .ok (.aload_n 0, 1) := dk_42 (dk_at dksX4_contract_2 0 rfl rfl)
theorem dX4_contract_49 : decode cX4_contract 49 = .ok (.iconst 0, 1) := dk_3 (dk_at dksX4_contract_2 1 rfl rfl)
theorem dX4_contract_50 : decode cX4_contract 50 = .ok (.aload_n 0, 1) := dk_42 (dk_at dksX4_contract_2 2 rfl rfl)
theorem dX4_contract_51 : decode cX4_contract 51 = .ok (.getfield 12, 3) := dk_180 0 12 (dk_at dksX4_contract_2 3 rfl rfl)
theorem dX4_contract_54 : decode cX4_contract 54 = .ok (.getfield 55, 3) := dk_180 0 55 (dk_at dksX4_contract_2 6 rfl rfl)
theorem dX4_contract_57 : decode cX4_contract 57 = .ok (.iconst 1, 1) := dk_4 (dk_at dksX4_contract_2 9 rfl rfl)
theorem dX4_contract_58 : decode cX4_contract 58 = .ok (.isub, 1) := dk_100 (dk_at dksX4_contract_2 10 rfl rfl)
theorem dX4_contract_59 : decode cX4_contract 59 = .ok (.invokevirtual 60, 3) := dk_182 0 60 (dk_at dksX4_contract_2 11 rfl rfl)
theorem dX4_contract_62 : decode cX4_contract 62 = .ok (.iastore, 1) := dk_79 (dk_at dksX4_contract_2 14 rfl rfl)
theorem dX4_contract_63 : decode cX4_contract 63 = .ok (.aload_n 0, 1) := dk_42 (dk_at dksX4_contract_2 15 rfl rfl)
theorem dX4_contract_64 : decode cX4_contract 64 = .ok (.getfield 12, 3) := dk_180 0 12 (dk_at dksX4_contract_2 16 rfl rfl)
theorem dX4_contract_67 : decode cX4_contract 67 = .ok (.getfield 83, 3) := dk_180 0 83 (dk_at dksX4_contract_2 19 rfl rfl)
theorem dX4_contract_70 : decode cX4_contract 70 = .ok (.iload_n 2, 1) := dk_28 (dk_at dksX4_contract_2 22 rfl rfl)
theorem dX4_contract_71 : decode cX4_contract 71 = .ok (.aload_n 0, 1) := dk_42 (dk_at dksX4_contract_2 23 rfl rfl)
theorem dX4_contract_72 : decode cX4_contract 72 = .ok (.iconst 1, 1) := dk_4 (dk_at dksX4_contract_3 0 rfl rfl)
theorem dX4_contract_73 : decode cX4_contract 73 = .ok (.bipush 50, 2) := dk_16 50 (dk_at dksX4_contract_3 1 rfl rfl)
theorem dX4_contract_75 : decode cX4_contract 75 = .ok (.invokevirtual 60, 3) := dk_182 0 60 (dk_at dksX4_contract_3 3 rfl rfl)
theorem dX4_contract_78 : decode cX4_contract 78 = .ok (.iastore, 1) := dk_79 (dk_at dksX4_contract_3 6 rfl rfl)
theorem dX4_contract_79 : decode cX4_contract 79 = .ok (.aload_n 0, 1) := dk_42 (dk_at dksX4_contract_3 7 rfl rfl)
theorem dX4_contract_80 : decode cX4_contract 80 = .ok (.getfield 12, 3) := dk_180 0 12 (dk_at dksX4_contract_3 8 rfl rfl)
theorem dX4_contract_83 : decode cX4_contract 83 = .ok (.dup, 1) := dk_89 (dk_at dksX4_contract_3 11 rfl rfl)
theorem dX4_contract_84 : decode cX4_contract 84 = .ok (.getfield 74, 3) := dk_180 0 74 (dk_at dksX4_contract_3 12 rfl rfl)
theorem dX4_contract_87 : decode cX4_contract 87 = .ok (.iconst 1, 1) := dk_4 (dk_at dksX4_contract_3 15 rfl rfl)
theorem dX4_contract_88 : decode cX4_contract 88 = .ok (.iadd, 1) := dk_96 (dk_at dksX4_contract_3 16 rfl rfl)
theorem dX4_contract_89 : decode cX4_contract 89 = .ok (.putfield 74, 3) := dk_181 0 74 (dk_at dksX4_contract_3 17 rfl rfl)
theorem dX4_contract_92 : decode cX4_contract 92 = .ok (.return_, 1) := dk_177 (dk_at dksX4_contract_3 20 rfl rfl)
abbrev cX4_rate : ByteArray := prog_6_method_7_code
def yX4_rate : MethodName := ⟨RX4, "rate", "(I)V"⟩
def dkwX4_rate_5 : List UInt8 := [42, 4, 16, 20, 182, 0, 60, 79, 42, 180, 0, 12, 89, 180, 0, 86, 4, 96, 181, 0, 86, 177]
abbrev dktX4_rate_5 : List UInt8 := dkwX4_rate_5 ++ []
def dkwX4_rate_4 : List UInt8 := [42, 180, 0, 12, 180, 0, 94, 28, 42, 4, 16, 20, 182, 0, 60, 79, 42, 180, 0, 12, 180, 0, 97, 28]
abbrev dktX4_rate_4 : List UInt8 := dkwX4_rate_4 ++ dktX4_rate_5
def dkwX4_rate_3 : List UInt8 := [184, 0, 42, 42, 180, 0, 12, 180, 0, 89, 28, 29, 79, 42, 180, 0, 12, 180, 0, 91, 28, 21, 4, 79]
abbrev dktX4_rate_3 : List UInt8 := dkwX4_rate_3 ++ dktX4_rate_4
def dkwX4_rate_2 : List UInt8 := [4, 100, 182, 0, 60, 54, 4, 29, 21, 4, 159, 0, 7, 4, 167, 0, 4, 3, 7, 42, 180, 0, 46]
abbrev dktX4_rate_2 : List UInt8 := dkwX4_rate_2 ++ dktX4_rate_3
def dkwX4_rate_1 : List UInt8 := [42, 3, 42, 180, 0, 12, 180, 0, 55, 4, 100, 182, 0, 60, 62, 42, 3, 42, 180, 0, 12, 180, 0, 55]
abbrev dktX4_rate_1 : List UInt8 := dkwX4_rate_1 ++ dktX4_rate_2
def dkwX4_rate_0 : List UInt8 := [42, 180, 0, 12, 180, 0, 86, 61, 28, 16, 8, 162, 0, 7, 4, 167, 0, 4, 3, 6, 27, 184, 0, 42]
abbrev dktX4_rate_0 : List UInt8 := dkwX4_rate_0 ++ dktX4_rate_1
theorem dksX4_rate_0 : cX4_rate.data.toList.drop 0 = dktX4_rate_0 := by decide +kernel
theorem dksX4_rate_1 : cX4_rate.data.toList.drop 24 = dktX4_rate_1 := dk_seg dksX4_rate_0 24 rfl rfl
theorem dksX4_rate_2 : cX4_rate.data.toList.drop 48 = dktX4_rate_2 := dk_seg dksX4_rate_1 24 rfl rfl
theorem dksX4_rate_3 : cX4_rate.data.toList.drop 71 = dktX4_rate_3 := dk_seg dksX4_rate_2 23 rfl rfl
theorem dksX4_rate_4 : cX4_rate.data.toList.drop 95 = dktX4_rate_4 := dk_seg dksX4_rate_3 24 rfl rfl
theorem dksX4_rate_5 : cX4_rate.data.toList.drop 119 = dktX4_rate_5 := dk_seg dksX4_rate_4 24 rfl rfl
theorem dX4_rate_0 : decode cX4_rate 0 = .ok (.aload_n 0, 1) := dk_42 (dk_at dksX4_rate_0 0 rfl rfl)
theorem dX4_rate_1 : decode cX4_rate 1 = .ok (.getfield 12, 3) := dk_180 0 12 (dk_at dksX4_rate_0 1 rfl rfl)
theorem dX4_rate_4 : decode cX4_rate 4 = .ok (.getfield 86, 3) := dk_180 0 86 (dk_at dksX4_rate_0 4 rfl rfl)
theorem dX4_rate_7 : decode cX4_rate 7 = .ok (.istore_n 2, 1) := dk_61 (dk_at dksX4_rate_0 7 rfl rfl)
theorem dX4_rate_8 : decode cX4_rate 8 = .ok (.iload_n 2, 1) := dk_28 (dk_at dksX4_rate_0 8 rfl rfl)
theorem dX4_rate_9 : decode cX4_rate 9 = .ok (.bipush 8, 2) := dk_16 8 (dk_at dksX4_rate_0 9 rfl rfl)
theorem dX4_rate_11 : decode cX4_rate 11 = .ok (.if_icmp .ge 7, 3) := dk_162 0 7 (dk_at dksX4_rate_0 11 rfl rfl)
theorem dX4_rate_14 : decode cX4_rate 14 = .ok (.iconst 1, 1) := dk_4 (dk_at dksX4_rate_0 14 rfl rfl)
theorem dX4_rate_15 : decode cX4_rate 15 = .ok (.goto 4, 3) := dk_167 0 4 (dk_at dksX4_rate_0 15 rfl rfl)
theorem dX4_rate_18 : decode cX4_rate 18 = .ok (.iconst 0, 1) := dk_3 (dk_at dksX4_rate_0 18 rfl rfl)
theorem dX4_rate_19 : decode cX4_rate 19 = .ok (.iconst 3, 1) := dk_6 (dk_at dksX4_rate_0 19 rfl rfl)
theorem dX4_rate_20 : decode cX4_rate 20 = .ok (.iload_n 1, 1) := dk_27 (dk_at dksX4_rate_0 20 rfl rfl)
theorem dX4_rate_21 : decode cX4_rate 21 = .ok (.invokestatic 42, 3) := dk_184 0 42 (dk_at dksX4_rate_0 21 rfl rfl)
theorem dX4_rate_24 : decode cX4_rate 24 = .ok (.aload_n 0, 1) := dk_42 (dk_at dksX4_rate_1 0 rfl rfl)
theorem dX4_rate_25 : decode cX4_rate 25 = .ok (.iconst 0, 1) := dk_3 (dk_at dksX4_rate_1 1 rfl rfl)
theorem dX4_rate_26 : decode cX4_rate 26 = .ok (.aload_n 0, 1) := dk_42 (dk_at dksX4_rate_1 2 rfl rfl)
theorem dX4_rate_27 : decode cX4_rate 27 = .ok (.getfield 12, 3) := dk_180 0 12 (dk_at dksX4_rate_1 3 rfl rfl)
theorem dX4_rate_30 : decode cX4_rate 30 = .ok (.getfield 55, 3) := dk_180 0 55 (dk_at dksX4_rate_1 6 rfl rfl)
theorem dX4_rate_33 : decode cX4_rate 33 = .ok (.iconst 1, 1) := dk_4 (dk_at dksX4_rate_1 9 rfl rfl)
theorem dX4_rate_34 : decode cX4_rate 34 = .ok (.isub, 1) := dk_100 (dk_at dksX4_rate_1 10 rfl rfl)
theorem dX4_rate_35 : decode cX4_rate 35 = .ok (.invokevirtual 60, 3) := dk_182 0 60 (dk_at dksX4_rate_1 11 rfl rfl)
theorem dX4_rate_38 : decode cX4_rate 38 = .ok (.istore_n 3, 1) := dk_62 (dk_at dksX4_rate_1 14 rfl rfl)
theorem dX4_rate_39 : decode cX4_rate 39 = .ok (.aload_n 0, 1) := dk_42 (dk_at dksX4_rate_1 15 rfl rfl)
theorem dX4_rate_40 : decode cX4_rate 40 = .ok (.iconst 0, 1) := dk_3 (dk_at dksX4_rate_1 16 rfl rfl)
theorem dX4_rate_41 : decode cX4_rate 41 = .ok (.aload_n 0, 1) := dk_42 (dk_at dksX4_rate_1 17 rfl rfl)
theorem dX4_rate_42 : decode cX4_rate 42 = .ok (.getfield 12, 3) := dk_180 0 12 (dk_at dksX4_rate_1 18 rfl rfl)
theorem dX4_rate_45 : decode cX4_rate 45 = .ok (.getfield 55, 3) := dk_180 0 55 (dk_at dksX4_rate_1 21 rfl rfl)
theorem dX4_rate_48 : decode cX4_rate 48 = .ok (.iconst 1, 1) := dk_4 (dk_at dksX4_rate_2 0 rfl rfl)
theorem dX4_rate_49 : decode cX4_rate 49 = .ok (.isub, 1) := dk_100 (dk_at dksX4_rate_2 1 rfl rfl)
theorem dX4_rate_50 : decode cX4_rate 50 = .ok (.invokevirtual 60, 3) := dk_182 0 60 (dk_at dksX4_rate_2 2 rfl rfl)
theorem dX4_rate_53 : decode cX4_rate 53 = .ok (.istore 4, 2) := dk_54 4 (dk_at dksX4_rate_2 5 rfl rfl)
theorem dX4_rate_55 : decode cX4_rate 55 = .ok (.iload_n 3, 1) := dk_29 (dk_at dksX4_rate_2 7 rfl rfl)
theorem dX4_rate_56 : decode cX4_rate 56 = .ok (.iload 4, 2) := dk_21 4 (dk_at dksX4_rate_2 8 rfl rfl)
theorem dX4_rate_58 : decode cX4_rate 58 = .ok (.if_icmp .eq 7, 3) := dk_159 0 7 (dk_at dksX4_rate_2 10 rfl rfl)
theorem dX4_rate_61 : decode cX4_rate 61 = .ok (.iconst 1, 1) := dk_4 (dk_at dksX4_rate_2 13 rfl rfl)
theorem dX4_rate_62 : decode cX4_rate 62 = .ok (.goto 4, 3) := dk_167 0 4 (dk_at dksX4_rate_2 14 rfl rfl)
theorem dX4_rate_65 : decode cX4_rate 65 = .ok (.iconst 0, 1) := dk_3 (dk_at dksX4_rate_2 17 rfl rfl)
theorem dX4_rate_66 : decode cX4_rate 66 = .ok (.iconst 4, 1) := dk_7 (dk_at dksX4_rate_2 18 rfl rfl)
theorem dX4_rate_67 : decode cX4_rate 67 = .ok (.aload_n 0, 1) := dk_42 (dk_at dksX4_rate_2 19 rfl rfl)
theorem dX4_rate_68 : decode cX4_rate 68 = .ok (.getfield 46, 3) := dk_180 0 46 (dk_at dksX4_rate_2 20 rfl rfl)
theorem dX4_rate_71 : decode cX4_rate 71 = .ok (.invokestatic 42, 3) := dk_184 0 42 (dk_at dksX4_rate_3 0 rfl rfl)
theorem dX4_rate_74 : decode cX4_rate 74 = .ok (.aload_n 0, 1) := dk_42 (dk_at dksX4_rate_3 3 rfl rfl)
theorem dX4_rate_75 : decode cX4_rate 75 = .ok (.getfield 12, 3) := dk_180 0 12 (dk_at dksX4_rate_3 4 rfl rfl)
theorem dX4_rate_78 : decode cX4_rate 78 = .ok (.getfield 89, 3) := dk_180 0 89 (dk_at dksX4_rate_3 7 rfl rfl)
theorem dX4_rate_81 : decode cX4_rate 81 = .ok (.iload_n 2, 1) := dk_28 (dk_at dksX4_rate_3 10 rfl rfl)
theorem dX4_rate_82 : decode cX4_rate 82 = .ok (.iload_n 3, 1) := dk_29 (dk_at dksX4_rate_3 11 rfl rfl)
theorem dX4_rate_83 : decode cX4_rate 83 = .ok (.iastore, 1) := dk_79 (dk_at dksX4_rate_3 12 rfl rfl)
theorem dX4_rate_84 : decode cX4_rate 84 = .ok (.aload_n 0, 1) := dk_42 (dk_at dksX4_rate_3 13 rfl rfl)
theorem dX4_rate_85 : decode cX4_rate 85 = .ok (.getfield 12, 3) := dk_180 0 12 (dk_at dksX4_rate_3 14 rfl rfl)
theorem dX4_rate_88 : decode cX4_rate 88 = .ok (.getfield 91, 3) := dk_180 0 91 (dk_at dksX4_rate_3 17 rfl rfl)
theorem dX4_rate_91 : decode cX4_rate 91 = .ok (.iload_n 2, 1) := dk_28 (dk_at dksX4_rate_3 20 rfl rfl)
theorem dX4_rate_92 : decode cX4_rate 92 = .ok (.iload 4, 2) := dk_21 4 (dk_at dksX4_rate_3 21 rfl rfl)
theorem dX4_rate_94 : decode cX4_rate 94 = .ok (.iastore, 1) := dk_79 (dk_at dksX4_rate_3 23 rfl rfl)
theorem dX4_rate_95 : decode cX4_rate 95 = .ok (.aload_n 0, 1) := dk_42 (dk_at dksX4_rate_4 0 rfl rfl)
theorem dX4_rate_96 : decode cX4_rate 96 = .ok (.getfield 12, 3) := dk_180 0 12 (dk_at dksX4_rate_4 1 rfl rfl)
theorem dX4_rate_99 : decode cX4_rate 99 = .ok (.getfield 94, 3) := dk_180 0 94 (dk_at dksX4_rate_4 4 rfl rfl)
theorem dX4_rate_102 : decode cX4_rate 102 = .ok (.iload_n 2, 1) := dk_28 (dk_at dksX4_rate_4 7 rfl rfl)
theorem dX4_rate_103 : decode cX4_rate 103 = .ok (.aload_n 0, 1) := dk_42 (dk_at dksX4_rate_4 8 rfl rfl)
theorem dX4_rate_104 : decode cX4_rate 104 = .ok (.iconst 1, 1) := dk_4 (dk_at dksX4_rate_4 9 rfl rfl)
theorem dX4_rate_105 : decode cX4_rate 105 = .ok (.bipush 20, 2) := dk_16 20 (dk_at dksX4_rate_4 10 rfl rfl)
theorem dX4_rate_107 : decode cX4_rate 107 = .ok (.invokevirtual 60, 3) := dk_182 0 60 (dk_at dksX4_rate_4 12 rfl rfl)
theorem dX4_rate_110 : decode cX4_rate 110 = .ok (.iastore, 1) := dk_79 (dk_at dksX4_rate_4 15 rfl rfl)
theorem dX4_rate_111 : decode cX4_rate 111 = .ok (.aload_n 0, 1) := dk_42 (dk_at dksX4_rate_4 16 rfl rfl)
theorem dX4_rate_112 : decode cX4_rate 112 = .ok (.getfield 12, 3) := dk_180 0 12 (dk_at dksX4_rate_4 17 rfl rfl)
theorem dX4_rate_115 : decode cX4_rate 115 = .ok (.getfield 97, 3) := dk_180 0 97 (dk_at dksX4_rate_4 20 rfl rfl)
theorem dX4_rate_118 : decode cX4_rate 118 = .ok (.iload_n 2, 1) := dk_28 (dk_at dksX4_rate_4 23 rfl rfl)
theorem dX4_rate_119 : decode cX4_rate 119 = .ok (.aload_n 0, 1) := dk_42 (dk_at dksX4_rate_5 0 rfl rfl)
theorem dX4_rate_120 : decode cX4_rate 120 = .ok (.iconst 1, 1) := dk_4 (dk_at dksX4_rate_5 1 rfl rfl)
theorem dX4_rate_121 : decode cX4_rate 121 = .ok (.bipush 20, 2) := dk_16 20 (dk_at dksX4_rate_5 2 rfl rfl)
theorem dX4_rate_123 : decode cX4_rate 123 = .ok (.invokevirtual 60, 3) := dk_182 0 60 (dk_at dksX4_rate_5 4 rfl rfl)
theorem dX4_rate_126 : decode cX4_rate 126 = .ok (.iastore, 1) := dk_79 (dk_at dksX4_rate_5 7 rfl rfl)
theorem dX4_rate_127 : decode cX4_rate 127 = .ok (.aload_n 0, 1) := dk_42 (dk_at dksX4_rate_5 8 rfl rfl)
theorem dX4_rate_128 : decode cX4_rate 128 = .ok (.getfield 12, 3) := dk_180 0 12 (dk_at dksX4_rate_5 9 rfl rfl)
theorem dX4_rate_131 : decode cX4_rate 131 = .ok (.dup, 1) := dk_89 (dk_at dksX4_rate_5 12 rfl rfl)
theorem dX4_rate_132 : decode cX4_rate 132 = .ok (.getfield 86, 3) := dk_180 0 86 (dk_at dksX4_rate_5 13 rfl rfl)
theorem dX4_rate_135 : decode cX4_rate 135 = .ok (.iconst 1, 1) := dk_4 (dk_at dksX4_rate_5 16 rfl rfl)
theorem dX4_rate_136 : decode cX4_rate 136 = .ok (.iadd, 1) := dk_96 (dk_at dksX4_rate_5 17 rfl rfl)
theorem dX4_rate_137 : decode cX4_rate 137 = .ok (.putfield 86, 3) := dk_181 0 86 (dk_at dksX4_rate_5 18 rfl rfl)
theorem dX4_rate_140 : decode cX4_rate 140 = .ok (.return_, 1) := dk_177 (dk_at dksX4_rate_5 21 rfl rfl)
abbrev cX4_heir : ByteArray := prog_6_method_8_code
def yX4_heir : MethodName := ⟨RX4, "heir", "()V"⟩
def dkwX4_heir_3 : List UInt8 := [180, 0, 46, 184, 0, 42, 42, 180, 0, 12, 180, 0, 70, 27, 50, 28, 181, 0, 100, 177]
abbrev dktX4_heir_3 : List UInt8 := dkwX4_heir_3 ++ []
def dkwX4_heir_2 : List UInt8 := [180, 0, 12, 180, 0, 55, 4, 100, 182, 0, 60, 61, 27, 28, 159, 0, 7, 4, 167, 0, 4, 3, 7, 42]
abbrev dktX4_heir_2 : List UInt8 := dkwX4_heir_2 ++ dktX4_heir_3
def dkwX4_heir_1 : List UInt8 := [180, 0, 100, 2, 160, 0, 7, 4, 167, 0, 4, 3, 7, 42, 180, 0, 46, 184, 0, 42, 42, 3, 42]
abbrev dktX4_heir_1 : List UInt8 := dkwX4_heir_1 ++ dktX4_heir_2
def dkwX4_heir_0 : List UInt8 := [42, 3, 42, 180, 0, 12, 180, 0, 55, 4, 100, 182, 0, 60, 60, 42, 180, 0, 12, 180, 0, 70, 27, 50]
abbrev dktX4_heir_0 : List UInt8 := dkwX4_heir_0 ++ dktX4_heir_1
theorem dksX4_heir_0 : cX4_heir.data.toList.drop 0 = dktX4_heir_0 := by decide +kernel
theorem dksX4_heir_1 : cX4_heir.data.toList.drop 24 = dktX4_heir_1 := dk_seg dksX4_heir_0 24 rfl rfl
theorem dksX4_heir_2 : cX4_heir.data.toList.drop 47 = dktX4_heir_2 := dk_seg dksX4_heir_1 23 rfl rfl
theorem dksX4_heir_3 : cX4_heir.data.toList.drop 71 = dktX4_heir_3 := dk_seg dksX4_heir_2 24 rfl rfl
theorem dX4_heir_0 : decode cX4_heir 0 = .ok (.aload_n 0, 1) := dk_42 (dk_at dksX4_heir_0 0 rfl rfl)
theorem dX4_heir_1 : decode cX4_heir 1 = .ok (.iconst 0, 1) := dk_3 (dk_at dksX4_heir_0 1 rfl rfl)
theorem dX4_heir_2 : decode cX4_heir 2 = .ok (.aload_n 0, 1) := dk_42 (dk_at dksX4_heir_0 2 rfl rfl)
theorem dX4_heir_3 : decode cX4_heir 3 = .ok (.getfield 12, 3) := dk_180 0 12 (dk_at dksX4_heir_0 3 rfl rfl)
theorem dX4_heir_6 : decode cX4_heir 6 = .ok (.getfield 55, 3) := dk_180 0 55 (dk_at dksX4_heir_0 6 rfl rfl)
theorem dX4_heir_9 : decode cX4_heir 9 = .ok (.iconst 1, 1) := dk_4 (dk_at dksX4_heir_0 9 rfl rfl)
theorem dX4_heir_10 : decode cX4_heir 10 = .ok (.isub, 1) := dk_100 (dk_at dksX4_heir_0 10 rfl rfl)
theorem dX4_heir_11 : decode cX4_heir 11 = .ok (.invokevirtual 60, 3) := dk_182 0 60 (dk_at dksX4_heir_0 11 rfl rfl)
theorem dX4_heir_14 : decode cX4_heir 14 = .ok (.istore_n 1, 1) := dk_60 (dk_at dksX4_heir_0 14 rfl rfl)
theorem dX4_heir_15 : decode cX4_heir 15 = .ok (.aload_n 0, 1) := dk_42 (dk_at dksX4_heir_0 15 rfl rfl)
theorem dX4_heir_16 : decode cX4_heir 16 = .ok (.getfield 12, 3) := dk_180 0 12 (dk_at dksX4_heir_0 16 rfl rfl)
theorem dX4_heir_19 : decode cX4_heir 19 = .ok (.getfield 70, 3) := dk_180 0 70 (dk_at dksX4_heir_0 19 rfl rfl)
theorem dX4_heir_22 : decode cX4_heir 22 = .ok (.iload_n 1, 1) := dk_27 (dk_at dksX4_heir_0 22 rfl rfl)
theorem dX4_heir_23 : decode cX4_heir 23 = .ok (.aaload, 1) := dk_50 (dk_at dksX4_heir_0 23 rfl rfl)
theorem dX4_heir_24 : decode cX4_heir 24 = .ok (.getfield 100, 3) := dk_180 0 100 (dk_at dksX4_heir_1 0 rfl rfl)
theorem dX4_heir_27 : decode cX4_heir 27 = .ok (.iconst (-1), 1) := dk_2 (dk_at dksX4_heir_1 3 rfl rfl)
theorem dX4_heir_28 : decode cX4_heir 28 = .ok (.if_icmp .ne 7, 3) := dk_160 0 7 (dk_at dksX4_heir_1 4 rfl rfl)
theorem dX4_heir_31 : decode cX4_heir 31 = .ok (.iconst 1, 1) := dk_4 (dk_at dksX4_heir_1 7 rfl rfl)
theorem dX4_heir_32 : decode cX4_heir 32 = .ok (.goto 4, 3) := dk_167 0 4 (dk_at dksX4_heir_1 8 rfl rfl)
theorem dX4_heir_35 : decode cX4_heir 35 = .ok (.iconst 0, 1) := dk_3 (dk_at dksX4_heir_1 11 rfl rfl)
theorem dX4_heir_36 : decode cX4_heir 36 = .ok (.iconst 4, 1) := dk_7 (dk_at dksX4_heir_1 12 rfl rfl)
theorem dX4_heir_37 : decode cX4_heir 37 = .ok (.aload_n 0, 1) := dk_42 (dk_at dksX4_heir_1 13 rfl rfl)
theorem dX4_heir_38 : decode cX4_heir 38 = .ok (.getfield 46, 3) := dk_180 0 46 (dk_at dksX4_heir_1 14 rfl rfl)
theorem dX4_heir_41 : decode cX4_heir 41 = .ok (.invokestatic 42, 3) := dk_184 0 42 (dk_at dksX4_heir_1 17 rfl rfl)
theorem dX4_heir_44 : decode cX4_heir 44 = .ok (.aload_n 0, 1) := dk_42 (dk_at dksX4_heir_1 20 rfl rfl)
theorem dX4_heir_45 : decode cX4_heir 45 = .ok (.iconst 0, 1) := dk_3 (dk_at dksX4_heir_1 21 rfl rfl)
theorem dX4_heir_46 : decode cX4_heir 46 = .ok (.aload_n 0, 1) := dk_42 (dk_at dksX4_heir_1 22 rfl rfl)
theorem dX4_heir_47 : decode cX4_heir 47 = .ok (.getfield 12, 3) := dk_180 0 12 (dk_at dksX4_heir_2 0 rfl rfl)
theorem dX4_heir_50 : decode cX4_heir 50 = .ok (.getfield 55, 3) := dk_180 0 55 (dk_at dksX4_heir_2 3 rfl rfl)
theorem dX4_heir_53 : decode cX4_heir 53 = .ok (.iconst 1, 1) := dk_4 (dk_at dksX4_heir_2 6 rfl rfl)
theorem dX4_heir_54 : decode cX4_heir 54 = .ok (.isub, 1) := dk_100 (dk_at dksX4_heir_2 7 rfl rfl)
theorem dX4_heir_55 : decode cX4_heir 55 = .ok (.invokevirtual 60, 3) := dk_182 0 60 (dk_at dksX4_heir_2 8 rfl rfl)
theorem dX4_heir_58 : decode cX4_heir 58 = .ok (.istore_n 2, 1) := dk_61 (dk_at dksX4_heir_2 11 rfl rfl)
theorem dX4_heir_59 : decode cX4_heir 59 = .ok (.iload_n 1, 1) := dk_27 (dk_at dksX4_heir_2 12 rfl rfl)
theorem dX4_heir_60 : decode cX4_heir 60 = .ok (.iload_n 2, 1) := dk_28 (dk_at dksX4_heir_2 13 rfl rfl)
theorem dX4_heir_61 : decode cX4_heir 61 = .ok (.if_icmp .eq 7, 3) := dk_159 0 7 (dk_at dksX4_heir_2 14 rfl rfl)
theorem dX4_heir_64 : decode cX4_heir 64 = .ok (.iconst 1, 1) := dk_4 (dk_at dksX4_heir_2 17 rfl rfl)
theorem dX4_heir_65 : decode cX4_heir 65 = .ok (.goto 4, 3) := dk_167 0 4 (dk_at dksX4_heir_2 18 rfl rfl)
theorem dX4_heir_68 : decode cX4_heir 68 = .ok (.iconst 0, 1) := dk_3 (dk_at dksX4_heir_2 21 rfl rfl)
theorem dX4_heir_69 : decode cX4_heir 69 = .ok (.iconst 4, 1) := dk_7 (dk_at dksX4_heir_2 22 rfl rfl)
theorem dX4_heir_70 : decode cX4_heir 70 = .ok (.aload_n 0, 1) := dk_42 (dk_at dksX4_heir_2 23 rfl rfl)
theorem dX4_heir_71 : decode cX4_heir 71 = .ok (.getfield 46, 3) := dk_180 0 46 (dk_at dksX4_heir_3 0 rfl rfl)
theorem dX4_heir_74 : decode cX4_heir 74 = .ok (.invokestatic 42, 3) := dk_184 0 42 (dk_at dksX4_heir_3 3 rfl rfl)
theorem dX4_heir_77 : decode cX4_heir 77 = .ok (.aload_n 0, 1) := dk_42 (dk_at dksX4_heir_3 6 rfl rfl)
theorem dX4_heir_78 : decode cX4_heir 78 = .ok (.getfield 12, 3) := dk_180 0 12 (dk_at dksX4_heir_3 7 rfl rfl)
theorem dX4_heir_81 : decode cX4_heir 81 = .ok (.getfield 70, 3) := dk_180 0 70 (dk_at dksX4_heir_3 10 rfl rfl)
theorem dX4_heir_84 : decode cX4_heir 84 = .ok (.iload_n 1, 1) := dk_27 (dk_at dksX4_heir_3 13 rfl rfl)
theorem dX4_heir_85 : decode cX4_heir 85 = .ok (.aaload, 1) := dk_50 (dk_at dksX4_heir_3 14 rfl rfl)
theorem dX4_heir_86 : decode cX4_heir 86 = .ok (.iload_n 2, 1) := dk_28 (dk_at dksX4_heir_3 15 rfl rfl)
theorem dX4_heir_87 : decode cX4_heir 87 = .ok (.putfield 100, 3) := dk_181 0 100 (dk_at dksX4_heir_3 16 rfl rfl)
theorem dX4_heir_90 : decode cX4_heir 90 = .ok (.return_, 1) := dk_177 (dk_at dksX4_heir_3 19 rfl rfl)
theorem q56 : (Jvm.Cond.initialized "LimbMeasures$Reader") ∈ lw_all := lw_g (lw_at lw_m1 6 rfl) rfl
theorem q82 : (Jvm.Cond.fieldLinkNest "LimbMeasures$Reader" (70 : Nat) "LimbMeasures$Port" "limbs" "[LLimbMeasures$Limb;" "LimbMeasures") ∈ lw_tbl := lw_at lw_m1 32 rfl
theorem q85 : (Jvm.Cond.fieldLinkNest "LimbMeasures$Reader" (55 : Nat) "LimbMeasures$Port" "many" "I" "LimbMeasures") ∈ lw_tbl := lw_at lw_m1 35 rfl
theorem q88 : (Jvm.Cond.fieldLinkNest "LimbMeasures$Reader" (77 : Nat) "LimbMeasures$Port" "due" "[I" "LimbMeasures") ∈ lw_tbl := lw_at lw_m1 38 rfl
theorem q92 : (Jvm.Cond.fieldLinkNest "LimbMeasures$Reader" (80 : Nat) "LimbMeasures$Port" "owed" "[I" "LimbMeasures") ∈ lw_tbl := lw_at lw_m1 42 rfl
theorem q96 : (Jvm.Cond.fieldLinkNest "LimbMeasures$Reader" (83 : Nat) "LimbMeasures$Port" "times" "[I" "LimbMeasures") ∈ lw_tbl := lw_at lw_m1 46 rfl
theorem q99 : (Jvm.Cond.fieldLinkNest "LimbMeasures$Reader" (74 : Nat) "LimbMeasures$Port" "contracts" "I" "LimbMeasures") ∈ lw_tbl := lw_at lw_m1 49 rfl
theorem q103 : (Jvm.Cond.fieldLinkNest "LimbMeasures$Reader" (89 : Nat) "LimbMeasures$Port" "from" "[I" "LimbMeasures") ∈ lw_tbl := lw_at lw_m1 53 rfl
theorem q106 : (Jvm.Cond.fieldLinkNest "LimbMeasures$Reader" (91 : Nat) "LimbMeasures$Port" "to" "[I" "LimbMeasures") ∈ lw_tbl := lw_at lw_m1 56 rfl
theorem q109 : (Jvm.Cond.fieldLinkNest "LimbMeasures$Reader" (94 : Nat) "LimbMeasures$Port" "gives" "[I" "LimbMeasures") ∈ lw_tbl := lw_at lw_m1 59 rfl
theorem q112 : (Jvm.Cond.fieldLinkNest "LimbMeasures$Reader" (97 : Nat) "LimbMeasures$Port" "gets" "[I" "LimbMeasures") ∈ lw_tbl := lw_at lw_m1 62 rfl
theorem q114 : (Jvm.Cond.fieldLinkNest "LimbMeasures$Reader" (86 : Nat) "LimbMeasures$Port" "rates" "I" "LimbMeasures") ∈ lw_tbl := lw_at lw_m1 64 rfl
theorem q280 : (Jvm.Cond.instantiable "LimbMeasures$Reader" (5 : Nat)) ∈ lw_all := lw_g (lw_at lw_m1 230 rfl) rfl
theorem q282 : (Jvm.Cond.instanceMethod ({ cls := "LimbMeasures$Reader", name := "<init>", desc := "([BI)V" } : Jvm.MethodName)) ∈ lw_all := lw_g (lw_at lw_m1 232 rfl) rfl
theorem q283 : (Jvm.Cond.code ({ cls := "LimbMeasures$Reader", name := "<init>", desc := "([BI)V" } : Jvm.MethodName) prog_6_method_1_code (3 : Nat) (Option.none : Option Jvm.ClassFile.FieldType)) ∈ lw_all := lw_g (lw_at lw_m1 233 rfl) rfl
theorem q284 : (Jvm.Cond.methodLink "LimbMeasures$Reader" (3 : Nat) ({ cls := "java/lang/Object", name := "<init>", desc := "()V" } : Jvm.MethodName)) ∈ lw_all := lw_g (lw_at lw_m1 234 rfl) rfl
theorem q285 : (Jvm.Cond.classLink "LimbMeasures$Reader" (9 : Nat) "LimbMeasures$Port") ∈ lw_all := lw_g (lw_at lw_m1 235 rfl) rfl
theorem q286 : (Jvm.Cond.methodLinkNest "LimbMeasures$Reader" (11 : Nat) ({ cls := "LimbMeasures$Port", name := "<init>", desc := "()V" } : Jvm.MethodName) "LimbMeasures") ∈ lw_tbl := lw_at lw_m1 236 rfl
theorem q287 : (Jvm.Cond.fieldLink "LimbMeasures$Reader" (18 : Nat) "LimbMeasures$Reader" "text" "[B") ∈ lw_all := lw_g (lw_at lw_m1 237 rfl) rfl
theorem q288 : (Jvm.Cond.fieldLink "LimbMeasures$Reader" (22 : Nat) "LimbMeasures$Reader" "size" "I") ∈ lw_all := lw_g (lw_at lw_m1 238 rfl) rfl
theorem q289 : (Jvm.Cond.fieldLink "LimbMeasures$Reader" (12 : Nat) "LimbMeasures$Reader" "port" "LLimbMeasures$Port;") ∈ lw_all := lw_g (lw_at lw_m1 239 rfl) rfl
theorem q290 : (Jvm.Cond.fieldLink "LimbMeasures$Reader" (26 : Nat) "LimbMeasures$Reader" "at" "I") ∈ lw_all := lw_g (lw_at lw_m2 0 rfl) rfl
theorem q291 : (Jvm.Cond.fieldLink "LimbMeasures$Reader" (46 : Nat) "LimbMeasures$Reader" "from" "I") ∈ lw_all := lw_g (lw_at lw_m2 1 rfl) rfl
theorem q292 : (Jvm.Cond.laysFinal "LimbMeasures$Reader" "LimbMeasures$Reader" "text" "[B") ∈ lw_all := lw_g (lw_at lw_m2 2 rfl) rfl
theorem q293 : (Jvm.Cond.soleField "LimbMeasures$Reader" "text") ∈ lw_all := lw_g (lw_at lw_m2 3 rfl) rfl
theorem q294 : (Jvm.Cond.laysFinal "LimbMeasures$Reader" "LimbMeasures$Reader" "size" "I") ∈ lw_all := lw_g (lw_at lw_m2 4 rfl) rfl
theorem q295 : (Jvm.Cond.soleField "LimbMeasures$Reader" "size") ∈ lw_all := lw_g (lw_at lw_m2 5 rfl) rfl
theorem q296 : (Jvm.Cond.laysFinal "LimbMeasures$Reader" "LimbMeasures$Reader" "port" "LLimbMeasures$Port;") ∈ lw_all := lw_g (lw_at lw_m2 6 rfl) rfl
theorem q297 : (Jvm.Cond.soleField "LimbMeasures$Reader" "port") ∈ lw_all := lw_g (lw_at lw_m2 7 rfl) rfl
theorem q298 : (Jvm.Cond.lays "LimbMeasures$Reader" "LimbMeasures$Reader" "at" "I") ∈ lw_all := lw_g (lw_at lw_m2 8 rfl) rfl
theorem q299 : (Jvm.Cond.soleField "LimbMeasures$Reader" "at") ∈ lw_all := lw_g (lw_at lw_m2 9 rfl) rfl
theorem q300 : (Jvm.Cond.lays "LimbMeasures$Reader" "LimbMeasures$Reader" "from" "I") ∈ lw_all := lw_g (lw_at lw_m2 10 rfl) rfl
theorem q301 : (Jvm.Cond.soleField "LimbMeasures$Reader" "from") ∈ lw_all := lw_g (lw_at lw_m2 11 rfl) rfl
theorem q302 : (Jvm.Cond.superclass "LimbMeasures$Reader" "java/lang/Object") ∈ lw_all := lw_g (lw_at lw_m2 12 rfl) rfl
theorem q304 : (Jvm.Cond.instanceMethod ({ cls := "LimbMeasures$Reader", name := "all", desc := "()LLimbMeasures$Port;" } : Jvm.MethodName)) ∈ lw_all := lw_g (lw_at lw_m2 14 rfl) rfl
theorem q305 : (Jvm.Cond.selects "LimbMeasures$Reader" ({ cls := "LimbMeasures$Reader", name := "all", desc := "()LLimbMeasures$Port;" } : Jvm.MethodName) ({ cls := "LimbMeasures$Reader", name := "all", desc := "()LLimbMeasures$Port;" } : Jvm.MethodName)) ∈ lw_all := lw_g (lw_at lw_m2 15 rfl) rfl
theorem q306 : (Jvm.Cond.code ({ cls := "LimbMeasures$Reader", name := "all", desc := "()LLimbMeasures$Port;" } : Jvm.MethodName) prog_6_method_10_code (3 : Nat) (Option.some (Jvm.ClassFile.FieldType.object "LimbMeasures$Port"))) ∈ lw_all := lw_g (lw_at lw_m2 16 rfl) rfl
theorem q307 : (Jvm.Cond.methodLink "LimbMeasures$Reader" (34 : Nat) ({ cls := "LimbMeasures$Reader", name := "here", desc := "()I" } : Jvm.MethodName)) ∈ lw_all := lw_g (lw_at lw_m2 17 rfl) rfl
theorem q308 : (Jvm.Cond.privateMethod ({ cls := "LimbMeasures$Reader", name := "here", desc := "()I" } : Jvm.MethodName)) ∈ lw_tbl := lw_at lw_m2 18 rfl
theorem q309 : (Jvm.Cond.instanceMethod ({ cls := "LimbMeasures$Reader", name := "here", desc := "()I" } : Jvm.MethodName)) ∈ lw_all := lw_g (lw_at lw_m2 19 rfl) rfl
theorem q310 : (Jvm.Cond.code ({ cls := "LimbMeasures$Reader", name := "here", desc := "()I" } : Jvm.MethodName) prog_6_method_2_code (1 : Nat) (Option.some Jvm.ClassFile.FieldType.int)) ∈ lw_all := lw_g (lw_at lw_m2 20 rfl) rfl
theorem q311 : (Jvm.Cond.methodLink "LimbMeasures$Reader" (114 : Nat) ({ cls := "LimbMeasures$Reader", name := "clause", desc := "(II)V" } : Jvm.MethodName)) ∈ lw_all := lw_g (lw_at lw_m2 21 rfl) rfl
theorem q312 : (Jvm.Cond.privateMethod ({ cls := "LimbMeasures$Reader", name := "clause", desc := "(II)V" } : Jvm.MethodName)) ∈ lw_tbl := lw_at lw_m2 22 rfl
theorem q313 : (Jvm.Cond.instanceMethod ({ cls := "LimbMeasures$Reader", name := "clause", desc := "(II)V" } : Jvm.MethodName)) ∈ lw_all := lw_g (lw_at lw_m2 23 rfl) rfl
theorem q314 : (Jvm.Cond.code ({ cls := "LimbMeasures$Reader", name := "clause", desc := "(II)V" } : Jvm.MethodName) prog_6_method_9_code (3 : Nat) (Option.none : Option Jvm.ClassFile.FieldType)) ∈ lw_all := lw_g (lw_at lw_m2 24 rfl) rfl
theorem q315 : (Jvm.Cond.methodLink "LimbMeasures$Reader" (42 : Nat) ({ cls := "LimbMeasures$Reader", name := "want", desc := "(ZII)V" } : Jvm.MethodName)) ∈ lw_all := lw_g (lw_at lw_m2 25 rfl) rfl
theorem q316 : (Jvm.Cond.static ({ cls := "LimbMeasures$Reader", name := "want", desc := "(ZII)V" } : Jvm.MethodName)) ∈ lw_all := lw_g (lw_at lw_m2 26 rfl) rfl
theorem q317 : (Jvm.Cond.code ({ cls := "LimbMeasures$Reader", name := "want", desc := "(ZII)V" } : Jvm.MethodName) prog_6_method_3_code (3 : Nat) (Option.none : Option Jvm.ClassFile.FieldType)) ∈ lw_all := lw_g (lw_at lw_m2 27 rfl) rfl
theorem q318 : (Jvm.Cond.classLink "LimbMeasures$Reader" (29 : Nat) "LimbMeasures$Fault") ∈ lw_all := lw_g (lw_at lw_m2 28 rfl) rfl
theorem q355 : (Jvm.Cond.methodLink "LimbMeasures$Reader" (31 : Nat) ({ cls := "LimbMeasures$Fault", name := "<init>", desc := "(II)V" } : Jvm.MethodName)) ∈ lw_all := lw_g (lw_at lw_m2 65 rfl) rfl
theorem q385 : (Jvm.Cond.methodLink "LimbMeasures$Reader" (103 : Nat) ({ cls := "LimbMeasures$Reader", name := "limb", desc := "(I)V" } : Jvm.MethodName)) ∈ lw_all := lw_g (lw_at lw_m2 95 rfl) rfl
theorem q386 : (Jvm.Cond.privateMethod ({ cls := "LimbMeasures$Reader", name := "limb", desc := "(I)V" } : Jvm.MethodName)) ∈ lw_tbl := lw_at lw_m2 96 rfl
theorem q387 : (Jvm.Cond.instanceMethod ({ cls := "LimbMeasures$Reader", name := "limb", desc := "(I)V" } : Jvm.MethodName)) ∈ lw_all := lw_g (lw_at lw_m2 97 rfl) rfl
theorem q388 : (Jvm.Cond.code ({ cls := "LimbMeasures$Reader", name := "limb", desc := "(I)V" } : Jvm.MethodName) prog_6_method_5_code (4 : Nat) (Option.none : Option Jvm.ClassFile.FieldType)) ∈ lw_all := lw_g (lw_at lw_m2 98 rfl) rfl
theorem q389 : (Jvm.Cond.classLink "LimbMeasures$Reader" (58 : Nat) "LimbMeasures$Limb") ∈ lw_all := lw_g (lw_at lw_m2 99 rfl) rfl
theorem q391 : (Jvm.Cond.methodLink "LimbMeasures$Reader" (60 : Nat) ({ cls := "LimbMeasures$Reader", name := "number", desc := "(II)I" } : Jvm.MethodName)) ∈ lw_all := lw_g (lw_at lw_m2 101 rfl) rfl
theorem q392 : (Jvm.Cond.privateMethod ({ cls := "LimbMeasures$Reader", name := "number", desc := "(II)I" } : Jvm.MethodName)) ∈ lw_tbl := lw_at lw_m2 102 rfl
theorem q393 : (Jvm.Cond.instanceMethod ({ cls := "LimbMeasures$Reader", name := "number", desc := "(II)I" } : Jvm.MethodName)) ∈ lw_all := lw_g (lw_at lw_m2 103 rfl) rfl
theorem q394 : (Jvm.Cond.code ({ cls := "LimbMeasures$Reader", name := "number", desc := "(II)I" } : Jvm.MethodName) prog_6_method_4_code (4 : Nat) (Option.some Jvm.ClassFile.FieldType.int)) ∈ lw_all := lw_g (lw_at lw_m2 104 rfl) rfl
theorem q395 : (Jvm.Cond.methodLinkNest "LimbMeasures$Reader" (38 : Nat) ({ cls := "LimbMeasures", name := "isIn", desc := "(III)Z" } : Jvm.MethodName) "LimbMeasures") ∈ lw_tbl := lw_at lw_m2 105 rfl
theorem q396 : (Jvm.Cond.methodLink "LimbMeasures$Reader" (49 : Nat) ({ cls := "java/lang/Math", name := "min", desc := "(II)I" } : Jvm.MethodName)) ∈ lw_all := lw_g (lw_at lw_m2 106 rfl) rfl
theorem q399 : (Jvm.Cond.methodLink "LimbMeasures$Reader" (63 : Nat) ({ cls := "LimbMeasures$Limb", name := "<init>", desc := "(I)V" } : Jvm.MethodName)) ∈ lw_all := lw_g (lw_at lw_m2 109 rfl) rfl
theorem q406 : (Jvm.Cond.fieldLinkNest "LimbMeasures$Reader" (66 : Nat) "LimbMeasures$Limb" "by" "[I" "LimbMeasures") ∈ lw_tbl := lw_at lw_m2 116 rfl
theorem q409 : (Jvm.Cond.fieldLinkNest "LimbMeasures$Reader" (100 : Nat) "LimbMeasures$Limb" "heir" "I" "LimbMeasures") ∈ lw_tbl := lw_at lw_m2 119 rfl
theorem q418 : (Jvm.Cond.methodLink "LimbMeasures$Reader" (106 : Nat) ({ cls := "LimbMeasures$Reader", name := "contract", desc := "(I)V" } : Jvm.MethodName)) ∈ lw_all := lw_g (lw_at lw_m2 128 rfl) rfl
theorem q419 : (Jvm.Cond.privateMethod ({ cls := "LimbMeasures$Reader", name := "contract", desc := "(I)V" } : Jvm.MethodName)) ∈ lw_tbl := lw_at lw_m2 129 rfl
theorem q420 : (Jvm.Cond.instanceMethod ({ cls := "LimbMeasures$Reader", name := "contract", desc := "(I)V" } : Jvm.MethodName)) ∈ lw_all := lw_g (lw_at lw_m2 130 rfl) rfl
theorem q421 : (Jvm.Cond.code ({ cls := "LimbMeasures$Reader", name := "contract", desc := "(I)V" } : Jvm.MethodName) prog_6_method_6_code (3 : Nat) (Option.none : Option Jvm.ClassFile.FieldType)) ∈ lw_all := lw_g (lw_at lw_m2 131 rfl) rfl
theorem q422 : (Jvm.Cond.methodLink "LimbMeasures$Reader" (109 : Nat) ({ cls := "LimbMeasures$Reader", name := "rate", desc := "(I)V" } : Jvm.MethodName)) ∈ lw_all := lw_g (lw_at lw_m2 132 rfl) rfl
theorem q423 : (Jvm.Cond.privateMethod ({ cls := "LimbMeasures$Reader", name := "rate", desc := "(I)V" } : Jvm.MethodName)) ∈ lw_tbl := lw_at lw_m2 133 rfl
theorem q424 : (Jvm.Cond.instanceMethod ({ cls := "LimbMeasures$Reader", name := "rate", desc := "(I)V" } : Jvm.MethodName)) ∈ lw_all := lw_g (lw_at lw_m2 134 rfl) rfl
theorem q425 : (Jvm.Cond.code ({ cls := "LimbMeasures$Reader", name := "rate", desc := "(I)V" } : Jvm.MethodName) prog_6_method_7_code (5 : Nat) (Option.none : Option Jvm.ClassFile.FieldType)) ∈ lw_all := lw_g (lw_at lw_m2 135 rfl) rfl
theorem q426 : (Jvm.Cond.methodLink "LimbMeasures$Reader" (112 : Nat) ({ cls := "LimbMeasures$Reader", name := "heir", desc := "()V" } : Jvm.MethodName)) ∈ lw_all := lw_g (lw_at lw_m2 136 rfl) rfl
theorem q427 : (Jvm.Cond.privateMethod ({ cls := "LimbMeasures$Reader", name := "heir", desc := "()V" } : Jvm.MethodName)) ∈ lw_tbl := lw_at lw_m2 137 rfl
theorem q428 : (Jvm.Cond.instanceMethod ({ cls := "LimbMeasures$Reader", name := "heir", desc := "()V" } : Jvm.MethodName)) ∈ lw_all := lw_g (lw_at lw_m2 138 rfl) rfl
theorem q429 : (Jvm.Cond.code ({ cls := "LimbMeasures$Reader", name := "heir", desc := "()V" } : Jvm.MethodName) prog_6_method_8_code (3 : Nat) (Option.none : Option Jvm.ClassFile.FieldType)) ∈ lw_all := lw_g (lw_at lw_m2 139 rfl) rfl
theorem in_X4 : ∀ w ∈ wsX40, w ∈ lw_all := lw_in wsX40 [292, 294, 296, 298, 300] (by decide +kernel) (by decide +kernel)
/-! LimbMeasures$Fault -/
set_option maxRecDepth 100000
def RX5 : String := "LimbMeasures$Fault"
def TX5 : u_T := fun k => match k with
  | 0 => ("java/lang/Throwable", "cause", "Ljava/lang/Throwable;", false)
  | 1 => ("java/lang/Throwable", "stackTrace", "[Ljava/lang/StackTraceElement;", false)
  | 2 => ("java/lang/Throwable", "suppressedExceptions", "Ljava/util/List;", false)
  | 3 => ("java/lang/Throwable", "detailMessage", "Ljava/lang/String;", false)
  | 4 => ("java/lang/Throwable", "backtrace", "Ljava/lang/Object;", false)
  | 5 => ("java/lang/Throwable", "depth", "I", false)
  | 6 => ("LimbMeasures$Fault", "number", "I", true)
  | _ => ("LimbMeasures$Fault", "place", "I", true)
def tyX5 : Nat → FieldType := fun k => match k with
  | 0 => .object "java/lang/Throwable"
  | 1 => .array (.object "java/lang/StackTraceElement")
  | 2 => .object "java/util/List"
  | 3 => .object "java/lang/String"
  | 4 => .object "java/lang/Object"
  | 5 => .int
  | 6 => .int
  | _ => .int
abbrev wsX50 : List Cond := u_ws RX5 TX5 8
theorem nmX5 : ∀ a, a < 8 → ∀ b, b < 8 → a ≠ b → (TX5 a).2.1 ≠ (TX5 b).2.1 := by decide +kernel
theorem tyX5_ok : ∀ k, k < 8 → parseFieldDescriptor (TX5 k).2.2.1 = some (tyX5 k) := by decide +kernel
abbrev cX5_init : ByteArray := prog_3_method_1_code
def yX5_init : MethodName := ⟨RX5, "<init>", "(II)V"⟩
def dkwX5_init_0 : List UInt8 := [42, 1, 1, 3, 3, 183, 0, 1, 42, 27, 181, 0, 7, 42, 28, 181, 0, 13, 177]
abbrev dktX5_init_0 : List UInt8 := dkwX5_init_0 ++ []
theorem dksX5_init_0 : cX5_init.data.toList.drop 0 = dktX5_init_0 := by decide +kernel
theorem dX5_init_0 : decode cX5_init 0 = .ok (.aload_n 0, 1) := dk_42 (dk_at dksX5_init_0 0 rfl rfl)
theorem dX5_init_1 : decode cX5_init 1 = .ok (.aconst_null, 1) := dk_1 (dk_at dksX5_init_0 1 rfl rfl)
theorem dX5_init_2 : decode cX5_init 2 = .ok (.aconst_null, 1) := dk_1 (dk_at dksX5_init_0 2 rfl rfl)
theorem dX5_init_3 : decode cX5_init 3 = .ok (.iconst 0, 1) := dk_3 (dk_at dksX5_init_0 3 rfl rfl)
theorem dX5_init_4 : decode cX5_init 4 = .ok (.iconst 0, 1) := dk_3 (dk_at dksX5_init_0 4 rfl rfl)
theorem dX5_init_5 : decode cX5_init 5 = .ok (.invokespecial 1, 3) := dk_183 0 1 (dk_at dksX5_init_0 5 rfl rfl)
theorem dX5_init_8 : decode cX5_init 8 = .ok (.aload_n 0, 1) := dk_42 (dk_at dksX5_init_0 8 rfl rfl)
theorem dX5_init_9 : decode cX5_init 9 = .ok (.iload_n 1, 1) := dk_27 (dk_at dksX5_init_0 9 rfl rfl)
theorem dX5_init_10 : decode cX5_init 10 = .ok (.putfield 7, 3) := dk_181 0 7 (dk_at dksX5_init_0 10 rfl rfl)
theorem dX5_init_13 : decode cX5_init 13 = .ok (.aload_n 0, 1) := dk_42 (dk_at dksX5_init_0 13 rfl rfl)
theorem dX5_init_14 : decode cX5_init 14 = .ok (.iload_n 2, 1) := dk_28 (dk_at dksX5_init_0 14 rfl rfl)
theorem dX5_init_15 : decode cX5_init 15 = .ok (.putfield 13, 3) := dk_181 0 13 (dk_at dksX5_init_0 15 rfl rfl)
theorem dX5_init_18 : decode cX5_init 18 = .ok (.return_, 1) := dk_177 (dk_at dksX5_init_0 18 rfl rfl)
theorem q59 : (Jvm.Cond.initialized "LimbMeasures$Fault") ∈ lw_all := lw_g (lw_at lw_m1 9 rfl) rfl
theorem q319 : (Jvm.Cond.instantiable "LimbMeasures$Fault" (8 : Nat)) ∈ lw_all := lw_g (lw_at lw_m2 29 rfl) rfl
theorem q320 : (Jvm.Cond.castable "LimbMeasures$Fault" "LimbMeasures$Fault") ∈ lw_tbl := lw_at lw_m2 30 rfl
theorem q325 : (Jvm.Cond.selects "LimbMeasures$Fault" ({ cls := "java/lang/Throwable", name := "fillInStackTrace", desc := "(I)Ljava/lang/Throwable;" } : Jvm.MethodName) ({ cls := "java/lang/Throwable", name := "fillInStackTrace", desc := "(I)Ljava/lang/Throwable;" } : Jvm.MethodName)) ∈ lw_all := lw_g (lw_at lw_m2 35 rfl) rfl
theorem q326 : (Jvm.Cond.selects "LimbMeasures$Fault" ({ cls := "java/lang/Throwable", name := "fillInStackTrace", desc := "()Ljava/lang/Throwable;" } : Jvm.MethodName) ({ cls := "java/lang/Throwable", name := "fillInStackTrace", desc := "()Ljava/lang/Throwable;" } : Jvm.MethodName)) ∈ lw_all := lw_g (lw_at lw_m2 36 rfl) rfl
theorem q327 : (Jvm.Cond.lays "LimbMeasures$Fault" "java/lang/Throwable" "cause" "Ljava/lang/Throwable;") ∈ lw_all := lw_g (lw_at lw_m2 37 rfl) rfl
theorem q329 : (Jvm.Cond.lays "LimbMeasures$Fault" "java/lang/Throwable" "stackTrace" "[Ljava/lang/StackTraceElement;") ∈ lw_all := lw_g (lw_at lw_m2 39 rfl) rfl
theorem q331 : (Jvm.Cond.lays "LimbMeasures$Fault" "java/lang/Throwable" "suppressedExceptions" "Ljava/util/List;") ∈ lw_all := lw_g (lw_at lw_m2 41 rfl) rfl
theorem q333 : (Jvm.Cond.lays "LimbMeasures$Fault" "java/lang/Throwable" "detailMessage" "Ljava/lang/String;") ∈ lw_all := lw_g (lw_at lw_m2 43 rfl) rfl
theorem q335 : (Jvm.Cond.lays "LimbMeasures$Fault" "java/lang/Throwable" "backtrace" "Ljava/lang/Object;") ∈ lw_all := lw_g (lw_at lw_m2 45 rfl) rfl
theorem q356 : (Jvm.Cond.instanceMethod ({ cls := "LimbMeasures$Fault", name := "<init>", desc := "(II)V" } : Jvm.MethodName)) ∈ lw_all := lw_g (lw_at lw_m2 66 rfl) rfl
theorem q357 : (Jvm.Cond.code ({ cls := "LimbMeasures$Fault", name := "<init>", desc := "(II)V" } : Jvm.MethodName) prog_3_method_1_code (3 : Nat) (Option.none : Option Jvm.ClassFile.FieldType)) ∈ lw_all := lw_g (lw_at lw_m2 67 rfl) rfl
theorem q358 : (Jvm.Cond.methodLink "LimbMeasures$Fault" (1 : Nat) ({ cls := "java/lang/Exception", name := "<init>", desc := "(Ljava/lang/String;Ljava/lang/Throwable;ZZ)V" } : Jvm.MethodName)) ∈ lw_all := lw_g (lw_at lw_m2 68 rfl) rfl
theorem q364 : (Jvm.Cond.fieldLink "LimbMeasures$Fault" (7 : Nat) "LimbMeasures$Fault" "number" "I") ∈ lw_all := lw_g (lw_at lw_m2 74 rfl) rfl
theorem q366 : (Jvm.Cond.fieldLink "LimbMeasures$Fault" (13 : Nat) "LimbMeasures$Fault" "place" "I") ∈ lw_all := lw_g (lw_at lw_m2 76 rfl) rfl
theorem q373 : (Jvm.Cond.laysFinal "LimbMeasures$Fault" "LimbMeasures$Fault" "number" "I") ∈ lw_all := lw_g (lw_at lw_m2 83 rfl) rfl
theorem q374 : (Jvm.Cond.soleField "LimbMeasures$Fault" "number") ∈ lw_all := lw_g (lw_at lw_m2 84 rfl) rfl
theorem q375 : (Jvm.Cond.laysFinal "LimbMeasures$Fault" "LimbMeasures$Fault" "place" "I") ∈ lw_all := lw_g (lw_at lw_m2 85 rfl) rfl
theorem q376 : (Jvm.Cond.soleField "LimbMeasures$Fault" "place") ∈ lw_all := lw_g (lw_at lw_m2 86 rfl) rfl
theorem q381 : (Jvm.Cond.lays "LimbMeasures$Fault" "java/lang/Throwable" "depth" "I") ∈ lw_all := lw_g (lw_at lw_m2 91 rfl) rfl
theorem q384 : (Jvm.Cond.superclass "LimbMeasures$Fault" "java/lang/Exception") ∈ lw_all := lw_g (lw_at lw_m2 94 rfl) rfl
theorem in_X5 : ∀ w ∈ wsX50, w ∈ lw_all := lw_in wsX50 [327, 329, 331, 333, 335, 381, 373, 375] (by decide +kernel) (by decide +kernel)
/-! LimbMeasures$Limb -/
set_option maxRecDepth 100000
def RX6 : String := "LimbMeasures$Limb"
def TX6 : u_T := fun k => match k with
  | 0 => ("LimbMeasures$Limb", "length", "I", true)
  | 1 => ("LimbMeasures$Limb", "by", "[I", true)
  | _ => ("LimbMeasures$Limb", "heir", "I", false)
def tyX6 : Nat → FieldType := fun k => match k with
  | 0 => .int
  | 1 => .array .int
  | _ => .int
abbrev wsX60 : List Cond := u_ws RX6 TX6 3
theorem nmX6 : ∀ a, a < 3 → ∀ b, b < 3 → a ≠ b → (TX6 a).2.1 ≠ (TX6 b).2.1 := by decide +kernel
theorem tyX6_ok : ∀ k, k < 3 → parseFieldDescriptor (TX6 k).2.2.1 = some (tyX6 k) := by decide +kernel
abbrev cX6_init : ByteArray := prog_4_method_1_code
def yX6_init : MethodName := ⟨RX6, "<init>", "(I)V"⟩
def dkwX6_init_0 : List UInt8 := [42, 183, 0, 3, 42, 7, 188, 10, 181, 0, 9, 42, 2, 181, 0, 15, 42, 27, 181, 0, 19, 177]
abbrev dktX6_init_0 : List UInt8 := dkwX6_init_0 ++ []
theorem dksX6_init_0 : cX6_init.data.toList.drop 0 = dktX6_init_0 := by decide +kernel
theorem dX6_init_0 : decode cX6_init 0 = .ok (.aload_n 0, 1) := dk_42 (dk_at dksX6_init_0 0 rfl rfl)
theorem dX6_init_1 : decode cX6_init 1 = .ok (.invokespecial 3, 3) := dk_183 0 3 (dk_at dksX6_init_0 1 rfl rfl)
theorem dX6_init_4 : decode cX6_init 4 = .ok (.aload_n 0, 1) := dk_42 (dk_at dksX6_init_0 4 rfl rfl)
theorem dX6_init_5 : decode cX6_init 5 = .ok (.iconst 4, 1) := dk_7 (dk_at dksX6_init_0 5 rfl rfl)
theorem dX6_init_6 : decode cX6_init 6 = .ok (.newarray .int, 2) := dk_188_10 (dk_at dksX6_init_0 6 rfl rfl)
theorem dX6_init_8 : decode cX6_init 8 = .ok (.putfield 9, 3) := dk_181 0 9 (dk_at dksX6_init_0 8 rfl rfl)
theorem dX6_init_11 : decode cX6_init 11 = .ok (.aload_n 0, 1) := dk_42 (dk_at dksX6_init_0 11 rfl rfl)
theorem dX6_init_12 : decode cX6_init 12 = .ok (.iconst (-1), 1) := dk_2 (dk_at dksX6_init_0 12 rfl rfl)
theorem dX6_init_13 : decode cX6_init 13 = .ok (.putfield 15, 3) := dk_181 0 15 (dk_at dksX6_init_0 13 rfl rfl)
theorem dX6_init_16 : decode cX6_init 16 = .ok (.aload_n 0, 1) := dk_42 (dk_at dksX6_init_0 16 rfl rfl)
theorem dX6_init_17 : decode cX6_init 17 = .ok (.iload_n 1, 1) := dk_27 (dk_at dksX6_init_0 17 rfl rfl)
theorem dX6_init_18 : decode cX6_init 18 = .ok (.putfield 19, 3) := dk_181 0 19 (dk_at dksX6_init_0 18 rfl rfl)
theorem dX6_init_21 : decode cX6_init 21 = .ok (.return_, 1) := dk_177 (dk_at dksX6_init_0 21 rfl rfl)
abbrev cX6_adds : ByteArray := prog_4_method_2_code
def yX6_adds : MethodName := ⟨RX6, "adds", "(I)I"⟩
def dkwX6_adds_0 : List UInt8 := [42, 180, 0, 9, 27, 7, 112, 46, 172]
abbrev dktX6_adds_0 : List UInt8 := dkwX6_adds_0 ++ []
theorem dksX6_adds_0 : cX6_adds.data.toList.drop 0 = dktX6_adds_0 := by decide +kernel
theorem dX6_adds_0 : decode cX6_adds 0 = .ok (.aload_n 0, 1) := dk_42 (dk_at dksX6_adds_0 0 rfl rfl)
theorem dX6_adds_1 : decode cX6_adds 1 = .ok (.getfield 9, 3) := dk_180 0 9 (dk_at dksX6_adds_0 1 rfl rfl)
theorem dX6_adds_4 : decode cX6_adds 4 = .ok (.iload_n 1, 1) := dk_27 (dk_at dksX6_adds_0 4 rfl rfl)
theorem dX6_adds_5 : decode cX6_adds 5 = .ok (.iconst 4, 1) := dk_7 (dk_at dksX6_adds_0 5 rfl rfl)
theorem dX6_adds_6 : decode cX6_adds 6 = .ok (.irem, 1) := dk_112 (dk_at dksX6_adds_0 6 rfl rfl)
theorem dX6_adds_7 : decode cX6_adds 7 = .ok (.iaload, 1) := dk_46 (dk_at dksX6_adds_0 7 rfl rfl)
theorem dX6_adds_8 : decode cX6_adds 8 = .ok (.ireturn, 1) := dk_172 (dk_at dksX6_adds_0 8 rfl rfl)
theorem q60 : (Jvm.Cond.initialized "LimbMeasures$Limb") ∈ lw_all := lw_g (lw_at lw_m1 10 rfl) rfl
theorem q390 : (Jvm.Cond.instantiable "LimbMeasures$Limb" (3 : Nat)) ∈ lw_all := lw_g (lw_at lw_m2 100 rfl) rfl
theorem q400 : (Jvm.Cond.instanceMethod ({ cls := "LimbMeasures$Limb", name := "<init>", desc := "(I)V" } : Jvm.MethodName)) ∈ lw_all := lw_g (lw_at lw_m2 110 rfl) rfl
theorem q401 : (Jvm.Cond.code ({ cls := "LimbMeasures$Limb", name := "<init>", desc := "(I)V" } : Jvm.MethodName) prog_4_method_1_code (2 : Nat) (Option.none : Option Jvm.ClassFile.FieldType)) ∈ lw_all := lw_g (lw_at lw_m2 111 rfl) rfl
theorem q402 : (Jvm.Cond.methodLink "LimbMeasures$Limb" (3 : Nat) ({ cls := "java/lang/Object", name := "<init>", desc := "()V" } : Jvm.MethodName)) ∈ lw_all := lw_g (lw_at lw_m2 112 rfl) rfl
theorem q403 : (Jvm.Cond.fieldLink "LimbMeasures$Limb" (19 : Nat) "LimbMeasures$Limb" "length" "I") ∈ lw_all := lw_g (lw_at lw_m2 113 rfl) rfl
theorem q405 : (Jvm.Cond.fieldLink "LimbMeasures$Limb" (9 : Nat) "LimbMeasures$Limb" "by" "[I") ∈ lw_all := lw_g (lw_at lw_m2 115 rfl) rfl
theorem q407 : (Jvm.Cond.fieldLink "LimbMeasures$Limb" (15 : Nat) "LimbMeasures$Limb" "heir" "I") ∈ lw_all := lw_g (lw_at lw_m2 117 rfl) rfl
theorem q411 : (Jvm.Cond.laysFinal "LimbMeasures$Limb" "LimbMeasures$Limb" "length" "I") ∈ lw_all := lw_g (lw_at lw_m2 121 rfl) rfl
theorem q412 : (Jvm.Cond.soleField "LimbMeasures$Limb" "length") ∈ lw_all := lw_g (lw_at lw_m2 122 rfl) rfl
theorem q413 : (Jvm.Cond.laysFinal "LimbMeasures$Limb" "LimbMeasures$Limb" "by" "[I") ∈ lw_all := lw_g (lw_at lw_m2 123 rfl) rfl
theorem q414 : (Jvm.Cond.soleField "LimbMeasures$Limb" "by") ∈ lw_all := lw_g (lw_at lw_m2 124 rfl) rfl
theorem q415 : (Jvm.Cond.lays "LimbMeasures$Limb" "LimbMeasures$Limb" "heir" "I") ∈ lw_all := lw_g (lw_at lw_m2 125 rfl) rfl
theorem q416 : (Jvm.Cond.soleField "LimbMeasures$Limb" "heir") ∈ lw_all := lw_g (lw_at lw_m2 126 rfl) rfl
theorem q417 : (Jvm.Cond.superclass "LimbMeasures$Limb" "java/lang/Object") ∈ lw_all := lw_g (lw_at lw_m2 127 rfl) rfl
theorem q452 : (Jvm.Cond.instanceMethod ({ cls := "LimbMeasures$Limb", name := "adds", desc := "(I)I" } : Jvm.MethodName)) ∈ lw_all := lw_g (lw_at lw_m2 162 rfl) rfl
theorem q453 : (Jvm.Cond.selects "LimbMeasures$Limb" ({ cls := "LimbMeasures$Limb", name := "adds", desc := "(I)I" } : Jvm.MethodName) ({ cls := "LimbMeasures$Limb", name := "adds", desc := "(I)I" } : Jvm.MethodName)) ∈ lw_all := lw_g (lw_at lw_m2 163 rfl) rfl
theorem q454 : (Jvm.Cond.code ({ cls := "LimbMeasures$Limb", name := "adds", desc := "(I)I" } : Jvm.MethodName) prog_4_method_2_code (2 : Nat) (Option.some Jvm.ClassFile.FieldType.int)) ∈ lw_all := lw_g (lw_at lw_m2 164 rfl) rfl
theorem in_X6 : ∀ w ∈ wsX60, w ∈ lw_all := lw_in wsX60 [411, 413, 415] (by decide +kernel) (by decide +kernel)
