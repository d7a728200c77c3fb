/-! NamedPricesModel -/
set_option maxRecDepth 100000
def RX5 : String := "NamedPricesModel"
def TX5 : u_T := fun k => match k with
  | 0 => ("NamedPricesModel", "s", "[I", true)
  | 1 => ("NamedPricesModel", "kept", "[I", true)
  | 2 => ("NamedPricesModel", "put", "[I", true)
  | 3 => ("NamedPricesModel", "images", "I", false)
  | 4 => ("NamedPricesModel", "errors", "[I", true)
  | 5 => ("NamedPricesModel", "at", "I", false)
  | 6 => ("NamedPricesModel", "open", "I", false)
  | 7 => ("NamedPricesModel", "steps", "I", false)
  | 8 => ("NamedPricesModel", "use", "I", false)
  | 9 => ("NamedPricesModel", "step", "[I", true)
  | 10 => ("NamedPricesModel", "named", "[I", true)
  | 11 => ("NamedPricesModel", "pile", "[I", true)
  | 12 => ("NamedPricesModel", "trace", "[I", true)
  | 13 => ("NamedPricesModel", "traced", "I", false)
  | 14 => ("NamedPricesModel", "speaks", "I", false)
  | 15 => ("NamedPricesModel", "isParted", "Z", false)
  | 16 => ("NamedPricesModel", "bits", "[I", true)
  | 17 => ("NamedPricesModel", "sizes", "[I", true)
  | 18 => ("NamedPricesModel", "number", "[I", true)
  | _ => ("NamedPricesModel", "aside", "[I", true)
def tyX5 : Nat → FieldType := fun k => match k with
  | 0 => .array .int
  | 1 => .array .int
  | 2 => .array .int
  | 3 => .int
  | 4 => .array .int
  | 5 => .int
  | 6 => .int
  | 7 => .int
  | 8 => .int
  | 9 => .array .int
  | 10 => .array .int
  | 11 => .array .int
  | 12 => .array .int
  | 13 => .int
  | 14 => .int
  | 15 => .boolean
  | 16 => .array .int
  | 17 => .array .int
  | 18 => .array .int
  | _ => .array .int
abbrev wsX50 : List Cond := u_ws RX5 TX5 20
set_option maxRecDepth 100000 in
theorem nmX5 : ∀ a, a < 20 → ∀ b, b < 20 → a ≠ b → (TX5 a).2.1 ≠ (TX5 b).2.1 := by decide +kernel
set_option maxRecDepth 100000 in
theorem tyX5_ok : ∀ k, k < 20 → parseFieldDescriptor (TX5 k).2.2.1 = some (tyX5 k) := by decide +kernel
abbrev cX5_init : ByteArray := prog_20_method_1_code
def yX5_init : MethodName := ⟨RX5, "<init>", "()V"⟩
def dkwX5_init_6 : List UInt8 := [180, 0, 7, 16, 14, 16, 20, 79, 177]
abbrev dktX5_init_6 : List UInt8 := dkwX5_init_6 ++ []
def dkwX5_init_5 : List UInt8 := [16, 10, 8, 79, 42, 180, 0, 7, 16, 11, 16, 10, 79, 42, 180, 0, 7, 16, 13, 4, 79, 42]
abbrev dktX5_init_5 : List UInt8 := dkwX5_init_5 ++ dktX5_init_6
def dkwX5_init_4 : List UInt8 := [181, 0, 40, 42, 16, 24, 188, 10, 181, 0, 43, 42, 180, 0, 7, 16, 8, 4, 79, 42, 180, 0, 7]
abbrev dktX5_init_4 : List UInt8 := dkwX5_init_4 ++ dktX5_init_5
def dkwX5_init_3 : List UInt8 := [181, 0, 31, 42, 7, 188, 10, 181, 0, 34, 42, 7, 188, 10, 181, 0, 37, 42, 16, 96, 188, 10]
abbrev dktX5_init_3 : List UInt8 := dkwX5_init_3 ++ dktX5_init_4
def dkwX5_init_2 : List UInt8 := [42, 17, 0, 128, 188, 10, 181, 0, 25, 42, 16, 64, 188, 10, 181, 0, 28, 42, 16, 30, 188, 10]
abbrev dktX5_init_2 : List UInt8 := dkwX5_init_2 ++ dktX5_init_3
def dkwX5_init_1 : List UInt8 := [17, 2, 4, 188, 10, 181, 0, 16, 42, 16, 7, 188, 10, 181, 0, 19, 42, 16, 124, 188, 10, 181, 0, 22]
abbrev dktX5_init_1 : List UInt8 := dkwX5_init_1 ++ dktX5_init_2
def dkwX5_init_0 : List UInt8 := [42, 183, 0, 1, 42, 17, 2, 4, 188, 10, 181, 0, 7, 42, 17, 2, 4, 188, 10, 181, 0, 13, 42]
abbrev dktX5_init_0 : List UInt8 := dkwX5_init_0 ++ dktX5_init_1
theorem dksX5_init_0 : cX5_init.data.toList.drop 0 = dktX5_init_0 := by decide +kernel
theorem dksX5_init_1 : cX5_init.data.toList.drop 23 = dktX5_init_1 := dk_seg dksX5_init_0 23 rfl rfl
theorem dksX5_init_2 : cX5_init.data.toList.drop 47 = dktX5_init_2 := dk_seg dksX5_init_1 24 rfl rfl
theorem dksX5_init_3 : cX5_init.data.toList.drop 69 = dktX5_init_3 := dk_seg dksX5_init_2 22 rfl rfl
theorem dksX5_init_4 : cX5_init.data.toList.drop 91 = dktX5_init_4 := dk_seg dksX5_init_3 22 rfl rfl
theorem dksX5_init_5 : cX5_init.data.toList.drop 114 = dktX5_init_5 := dk_seg dksX5_init_4 23 rfl rfl
theorem dksX5_init_6 : cX5_init.data.toList.drop 136 = dktX5_init_6 := dk_seg dksX5_init_5 22 rfl rfl
theorem dX5_init_0 : decode cX5_init 0 = .ok (.aload_n 0, 1) := dk_42 (dk_at dksX5_init_0 0 rfl rfl)
theorem dX5_init_1 : decode cX5_init 1 = .ok (.invokespecial 1, 3) := dk_183 0 1 (dk_at dksX5_init_0 1 rfl rfl)
theorem dX5_init_4 : decode cX5_init 4 = .ok (.aload_n 0, 1) := dk_42 (dk_at dksX5_init_0 4 rfl rfl)
theorem dX5_init_5 : decode cX5_init 5 = .ok (.sipush 516, 3) := dk_17 2 4 (dk_at dksX5_init_0 5 rfl rfl)
theorem dX5_init_8 : decode cX5_init 8 = .ok (.newarray .int, 2) := dk_188_10 (dk_at dksX5_init_0 8 rfl rfl)
theorem dX5_init_10 : decode cX5_init 10 = .ok (.putfield 7, 3) := dk_181 0 7 (dk_at dksX5_init_0 10 rfl rfl)
theorem dX5_init_13 : decode cX5_init 13 = .ok (.aload_n 0, 1) := dk_42 (dk_at dksX5_init_0 13 rfl rfl)
theorem dX5_init_14 : decode cX5_init 14 = .ok (.sipush 516, 3) := dk_17 2 4 (dk_at dksX5_init_0 14 rfl rfl)
theorem dX5_init_17 : decode cX5_init 17 = .ok (.newarray .int, 2) := dk_188_10 (dk_at dksX5_init_0 17 rfl rfl)
theorem dX5_init_19 : decode cX5_init 19 = .ok (.putfield 13, 3) := dk_181 0 13 (dk_at dksX5_init_0 19 rfl rfl)
theorem dX5_init_22 : decode cX5_init 22 = .ok (.aload_n 0, 1) := dk_42 (dk_at dksX5_init_0 22 rfl rfl)
theorem dX5_init_23 : decode cX5_init 23 = .ok (.sipush 516, 3) := dk_17 2 4 (dk_at dksX5_init_1 0 rfl rfl)
theorem dX5_init_26 : decode cX5_init 26 = .ok (.newarray .int, 2) := dk_188_10 (dk_at dksX5_init_1 3 rfl rfl)
theorem dX5_init_28 : decode cX5_init 28 = .ok (.putfield 16, 3) := dk_181 0 16 (dk_at dksX5_init_1 5 rfl rfl)
theorem dX5_init_31 : decode cX5_init 31 = .ok (.aload_n 0, 1) := dk_42 (dk_at dksX5_init_1 8 rfl rfl)
theorem dX5_init_32 : decode cX5_init 32 = .ok (.bipush 7, 2) := dk_16 7 (dk_at dksX5_init_1 9 rfl rfl)
theorem dX5_init_34 : decode cX5_init 34 = .ok (.newarray .int, 2) := dk_188_10 (dk_at dksX5_init_1 11 rfl rfl)
theorem dX5_init_36 : decode cX5_init 36 = .ok (.putfield 19, 3) := dk_181 0 19 (dk_at dksX5_init_1 13 rfl rfl)
theorem dX5_init_39 : decode cX5_init 39 = .ok (.aload_n 0, 1) := dk_42 (dk_at dksX5_init_1 16 rfl rfl)
theorem dX5_init_40 : decode cX5_init 40 = .ok (.bipush 124, 2) := dk_16 124 (dk_at dksX5_init_1 17 rfl rfl)
theorem dX5_init_42 : decode cX5_init 42 = .ok (.newarray .int, 2) := dk_188_10 (dk_at dksX5_init_1 19 rfl rfl)
theorem dX5_init_44 : decode cX5_init 44 = .ok (.putfield 22, 3) := dk_181 0 22 (dk_at dksX5_init_1 21 rfl rfl)
theorem dX5_init_47 : decode cX5_init 47 = .ok (.aload_n 0, 1) := dk_42 (dk_at dksX5_init_2 0 rfl rfl)
theorem dX5_init_48 : decode cX5_init 48 = .ok (.sipush 128, 3) := dk_17 0 128 (dk_at dksX5_init_2 1 rfl rfl)
theorem dX5_init_51 : decode cX5_init 51 = .ok (.newarray .int, 2) := dk_188_10 (dk_at dksX5_init_2 4 rfl rfl)
theorem dX5_init_53 : decode cX5_init 53 = .ok (.putfield 25, 3) := dk_181 0 25 (dk_at dksX5_init_2 6 rfl rfl)
theorem dX5_init_56 : decode cX5_init 56 = .ok (.aload_n 0, 1) := dk_42 (dk_at dksX5_init_2 9 rfl rfl)
theorem dX5_init_57 : decode cX5_init 57 = .ok (.bipush 64, 2) := dk_16 64 (dk_at dksX5_init_2 10 rfl rfl)
theorem dX5_init_59 : decode cX5_init 59 = .ok (.newarray .int, 2) := dk_188_10 (dk_at dksX5_init_2 12 rfl rfl)
theorem dX5_init_61 : decode cX5_init 61 = .ok (.putfield 28, 3) := dk_181 0 28 (dk_at dksX5_init_2 14 rfl rfl)
theorem dX5_init_64 : decode cX5_init 64 = .ok (.aload_n 0, 1) := dk_42 (dk_at dksX5_init_2 17 rfl rfl)
theorem dX5_init_65 : decode cX5_init 65 = .ok (.bipush 30, 2) := dk_16 30 (dk_at dksX5_init_2 18 rfl rfl)
theorem dX5_init_67 : decode cX5_init 67 = .ok (.newarray .int, 2) := dk_188_10 (dk_at dksX5_init_2 20 rfl rfl)
theorem dX5_init_69 : decode cX5_init 69 = .ok (.putfield 31, 3) := dk_181 0 31 (dk_at dksX5_init_3 0 rfl rfl)
theorem dX5_init_72 : decode cX5_init 72 = .ok (.aload_n 0, 1) := dk_42 (dk_at dksX5_init_3 3 rfl rfl)
theorem dX5_init_73 : decode cX5_init 73 = .ok (.iconst 4, 1) := dk_7 (dk_at dksX5_init_3 4 rfl rfl)
theorem dX5_init_74 : decode cX5_init 74 = .ok (.newarray .int, 2) := dk_188_10 (dk_at dksX5_init_3 5 rfl rfl)
theorem dX5_init_76 : decode cX5_init 76 = .ok (.putfield 34, 3) := dk_181 0 34 (dk_at dksX5_init_3 7 rfl rfl)
theorem dX5_init_79 : decode cX5_init 79 = .ok (.aload_n 0, 1) := dk_42 (dk_at dksX5_init_3 10 rfl rfl)
theorem dX5_init_80 : decode cX5_init 80 = .ok (.iconst 4, 1) := dk_7 (dk_at dksX5_init_3 11 rfl rfl)
theorem dX5_init_81 : decode cX5_init 81 = .ok (.newarray .int, 2) := dk_188_10 (dk_at dksX5_init_3 12 rfl rfl)
theorem dX5_init_83 : decode cX5_init 83 = .ok (.putfield 37, 3) := dk_181 0 37 (dk_at dksX5_init_3 14 rfl rfl)
theorem dX5_init_86 : decode cX5_init 86 = .ok (.aload_n 0, 1) := dk_42 (dk_at dksX5_init_3 17 rfl rfl)
theorem dX5_init_87 : decode cX5_init 87 = .ok (.bipush 96, 2) := dk_16 96 (dk_at dksX5_init_3 18 rfl rfl)
theorem dX5_init_89 : decode cX5_init 89 = .ok (.newarray .int, 2) := dk_188_10 (dk_at dksX5_init_3 20 rfl rfl)
theorem dX5_init_91 : decode cX5_init 91 = .ok (.putfield 40, 3) := dk_181 0 40 (dk_at dksX5_init_4 0 rfl rfl)
theorem dX5_init_94 : decode cX5_init 94 = .ok (.aload_n 0, 1) := dk_42 (dk_at dksX5_init_4 3 rfl rfl)
theorem dX5_init_95 : decode cX5_init 95 = .ok (.bipush 24, 2) := dk_16 24 (dk_at dksX5_init_4 4 rfl rfl)
theorem dX5_init_97 : decode cX5_init 97 = .ok (.newarray .int, 2) := dk_188_10 (dk_at dksX5_init_4 6 rfl rfl)
theorem dX5_init_99 : decode cX5_init 99 = .ok (.putfield 43, 3) := dk_181 0 43 (dk_at dksX5_init_4 8 rfl rfl)
theorem dX5_init_102 : decode cX5_init 102 = .ok (.aload_n 0, 1) := dk_42 (dk_at dksX5_init_4 11 rfl rfl)
theorem dX5_init_103 : decode cX5_init 103 = .ok (.getfield 7, 3) := dk_180 0 7 (dk_at dksX5_init_4 12 rfl rfl)
theorem dX5_init_106 : decode cX5_init 106 = .ok (.bipush 8, 2) := dk_16 8 (dk_at dksX5_init_4 15 rfl rfl)
theorem dX5_init_108 : decode cX5_init 108 = .ok (.iconst 1, 1) := dk_4 (dk_at dksX5_init_4 17 rfl rfl)
theorem dX5_init_109 : decode cX5_init 109 = .ok (.iastore, 1) := dk_79 (dk_at dksX5_init_4 18 rfl rfl)
theorem dX5_init_110 : decode cX5_init 110 = .ok (.aload_n 0, 1) := dk_42 (dk_at dksX5_init_4 19 rfl rfl)
theorem dX5_init_111 : decode cX5_init 111 = .ok (.getfield 7, 3) := dk_180 0 7 (dk_at dksX5_init_4 20 rfl rfl)
theorem dX5_init_114 : decode cX5_init 114 = .ok (.bipush 10, 2) := dk_16 10 (dk_at dksX5_init_5 0 rfl rfl)
theorem dX5_init_116 : decode cX5_init 116 = .ok (.iconst 5, 1) := dk_8 (dk_at dksX5_init_5 2 rfl rfl)
theorem dX5_init_117 : decode cX5_init 117 = .ok (.iastore, 1) := dk_79 (dk_at dksX5_init_5 3 rfl rfl)
theorem dX5_init_118 : decode cX5_init 118 = .ok (.aload_n 0, 1) := dk_42 (dk_at dksX5_init_5 4 rfl rfl)
theorem dX5_init_119 : decode cX5_init 119 = .ok (.getfield 7, 3) := dk_180 0 7 (dk_at dksX5_init_5 5 rfl rfl)
theorem dX5_init_122 : decode cX5_init 122 = .ok (.bipush 11, 2) := dk_16 11 (dk_at dksX5_init_5 8 rfl rfl)
theorem dX5_init_124 : decode cX5_init 124 = .ok (.bipush 10, 2) := dk_16 10 (dk_at dksX5_init_5 10 rfl rfl)
theorem dX5_init_126 : decode cX5_init 126 = .ok (.iastore, 1) := dk_79 (dk_at dksX5_init_5 12 rfl rfl)
theorem dX5_init_127 : decode cX5_init 127 = .ok (.aload_n 0, 1) := dk_42 (dk_at dksX5_init_5 13 rfl rfl)
theorem dX5_init_128 : decode cX5_init 128 = .ok (.getfield 7, 3) := dk_180 0 7 (dk_at dksX5_init_5 14 rfl rfl)
theorem dX5_init_131 : decode cX5_init 131 = .ok (.bipush 13, 2) := dk_16 13 (dk_at dksX5_init_5 17 rfl rfl)
theorem dX5_init_133 : decode cX5_init 133 = .ok (.iconst 1, 1) := dk_4 (dk_at dksX5_init_5 19 rfl rfl)
theorem dX5_init_134 : decode cX5_init 134 = .ok (.iastore, 1) := dk_79 (dk_at dksX5_init_5 20 rfl rfl)
theorem dX5_init_135 : decode cX5_init 135 = .ok (.aload_n 0, 1) := dk_42 (dk_at dksX5_init_5 21 rfl rfl)
theorem dX5_init_136 : decode cX5_init 136 = .ok (.getfield 7, 3) := dk_180 0 7 (dk_at dksX5_init_6 0 rfl rfl)
theorem dX5_init_139 : decode cX5_init 139 = .ok (.bipush 14, 2) := dk_16 14 (dk_at dksX5_init_6 3 rfl rfl)
theorem dX5_init_141 : decode cX5_init 141 = .ok (.bipush 20, 2) := dk_16 20 (dk_at dksX5_init_6 5 rfl rfl)
theorem dX5_init_143 : decode cX5_init 143 = .ok (.iastore, 1) := dk_79 (dk_at dksX5_init_6 7 rfl rfl)
theorem dX5_init_144 : decode cX5_init 144 = .ok (.return_, 1) := dk_177 (dk_at dksX5_init_6 8 rfl rfl)
abbrev cX5_person : ByteArray := prog_20_method_13_code
def yX5_person : MethodName := ⟨RX5, "person", "(III)I"⟩
def dkwX5_person_5 : List UInt8 := [79, 42, 180, 0, 7, 3, 46, 4, 100, 172]
abbrev dktX5_person_5 : List UInt8 := dkwX5_person_5 ++ []
def dkwX5_person_4 : List UInt8 := [108, 79, 42, 180, 0, 7, 21, 4, 6, 96, 29, 16, 10, 112, 79, 42, 180, 0, 7, 3, 92, 46, 4, 96]
abbrev dktX5_person_4 : List UInt8 := dkwX5_person_4 ++ dktX5_person_5
def dkwX5_person_3 : List UInt8 := [96, 27, 79, 42, 180, 0, 7, 21, 4, 4, 96, 28, 79, 42, 180, 0, 7, 21, 4, 5, 96, 29, 16, 10]
abbrev dktX5_person_3 : List UInt8 := dkwX5_person_3 ++ dktX5_person_4
def dkwX5_person_2 : List UInt8 := [182, 0, 60, 172, 16, 20, 7, 42, 180, 0, 7, 3, 46, 104, 96, 54, 4, 42, 180, 0, 7, 21, 4, 3]
abbrev dktX5_person_2 : List UInt8 := dkwX5_person_2 ++ dktX5_person_3
def dkwX5_person_1 : List UInt8 := [154, 0, 9, 42, 4, 182, 0, 60, 172, 42, 180, 0, 7, 3, 46, 16, 6, 160, 0, 9, 42, 7]
abbrev dktX5_person_1 : List UInt8 := dkwX5_person_1 ++ dktX5_person_2
def dkwX5_person_0 : List UInt8 := [27, 3, 16, 6, 184, 0, 47, 153, 0, 20, 28, 3, 18, 55, 184, 0, 47, 153, 0, 10, 29, 184, 0, 56]
abbrev dktX5_person_0 : List UInt8 := dkwX5_person_0 ++ dktX5_person_1
theorem dksX5_person_0 : cX5_person.data.toList.drop 0 = dktX5_person_0 := by decide +kernel
theorem dksX5_person_1 : cX5_person.data.toList.drop 24 = dktX5_person_1 := dk_seg dksX5_person_0 24 rfl rfl
theorem dksX5_person_2 : cX5_person.data.toList.drop 46 = dktX5_person_2 := dk_seg dksX5_person_1 22 rfl rfl
theorem dksX5_person_3 : cX5_person.data.toList.drop 70 = dktX5_person_3 := dk_seg dksX5_person_2 24 rfl rfl
theorem dksX5_person_4 : cX5_person.data.toList.drop 94 = dktX5_person_4 := dk_seg dksX5_person_3 24 rfl rfl
theorem dksX5_person_5 : cX5_person.data.toList.drop 118 = dktX5_person_5 := dk_seg dksX5_person_4 24 rfl rfl
theorem dX5_person_0 : decode cX5_person 0 = .ok (.iload_n 1, 1) := dk_27 (dk_at dksX5_person_0 0 rfl rfl)
theorem dX5_person_1 : decode cX5_person 1 = .ok (.iconst 0, 1) := dk_3 (dk_at dksX5_person_0 1 rfl rfl)
theorem dX5_person_2 : decode cX5_person 2 = .ok (.bipush 6, 2) := dk_16 6 (dk_at dksX5_person_0 2 rfl rfl)
theorem dX5_person_4 : decode cX5_person 4 = .ok (.invokestatic 47, 3) := dk_184 0 47 (dk_at dksX5_person_0 4 rfl rfl)
theorem dX5_person_7 : decode cX5_person 7 = .ok (.ifCond .eq 20, 3) := dk_153 0 20 (dk_at dksX5_person_0 7 rfl rfl)
theorem dX5_person_10 : decode cX5_person 10 = .ok (.iload_n 2, 1) := dk_28 (dk_at dksX5_person_0 10 rfl rfl)
theorem dX5_person_11 : decode cX5_person 11 = .ok (.iconst 0, 1) := dk_3 (dk_at dksX5_person_0 11 rfl rfl)
theorem dX5_person_12 : decode cX5_person 12 = .ok (.ldc 55, 2) := dk_18 55 (dk_at dksX5_person_0 12 rfl rfl)
theorem dX5_person_14 : decode cX5_person 14 = .ok (.invokestatic 47, 3) := dk_184 0 47 (dk_at dksX5_person_0 14 rfl rfl)
theorem dX5_person_17 : decode cX5_person 17 = .ok (.ifCond .eq 10, 3) := dk_153 0 10 (dk_at dksX5_person_0 17 rfl rfl)
theorem dX5_person_20 : decode cX5_person 20 = .ok (.iload_n 3, 1) := dk_29 (dk_at dksX5_person_0 20 rfl rfl)
theorem dX5_person_21 : decode cX5_person 21 = .ok (.invokestatic 56, 3) := dk_184 0 56 (dk_at dksX5_person_0 21 rfl rfl)
theorem dX5_person_24 : decode cX5_person 24 = .ok (.ifCond .ne 9, 3) := dk_154 0 9 (dk_at dksX5_person_1 0 rfl rfl)
theorem dX5_person_27 : decode cX5_person 27 = .ok (.aload_n 0, 1) := dk_42 (dk_at dksX5_person_1 3 rfl rfl)
theorem dX5_person_28 : decode cX5_person 28 = .ok (.iconst 1, 1) := dk_4 (dk_at dksX5_person_1 4 rfl rfl)
theorem dX5_person_29 : decode cX5_person 29 = .ok (.invokevirtual 60, 3) := dk_182 0 60 (dk_at dksX5_person_1 5 rfl rfl)
theorem dX5_person_32 : decode cX5_person 32 = .ok (.ireturn, 1) := dk_172 (dk_at dksX5_person_1 8 rfl rfl)
theorem dX5_person_33 : decode cX5_person 33 = .ok (.aload_n 0, 1) := dk_42 (dk_at dksX5_person_1 9 rfl rfl)
theorem dX5_person_34 : decode cX5_person 34 = .ok (.getfield 7, 3) := dk_180 0 7 (dk_at dksX5_person_1 10 rfl rfl)
theorem dX5_person_37 : decode cX5_person 37 = .ok (.iconst 0, 1) := dk_3 (dk_at dksX5_person_1 13 rfl rfl)
theorem dX5_person_38 : decode cX5_person 38 = .ok (.iaload, 1) := dk_46 (dk_at dksX5_person_1 14 rfl rfl)
theorem dX5_person_39 : decode cX5_person 39 = .ok (.bipush 6, 2) := dk_16 6 (dk_at dksX5_person_1 15 rfl rfl)
theorem dX5_person_41 : decode cX5_person 41 = .ok (.if_icmp .ne 9, 3) := dk_160 0 9 (dk_at dksX5_person_1 17 rfl rfl)
theorem dX5_person_44 : decode cX5_person 44 = .ok (.aload_n 0, 1) := dk_42 (dk_at dksX5_person_1 20 rfl rfl)
theorem dX5_person_45 : decode cX5_person 45 = .ok (.iconst 4, 1) := dk_7 (dk_at dksX5_person_1 21 rfl rfl)
theorem dX5_person_46 : decode cX5_person 46 = .ok (.invokevirtual 60, 3) := dk_182 0 60 (dk_at dksX5_person_2 0 rfl rfl)
theorem dX5_person_49 : decode cX5_person 49 = .ok (.ireturn, 1) := dk_172 (dk_at dksX5_person_2 3 rfl rfl)
theorem dX5_person_50 : decode cX5_person 50 = .ok (.bipush 20, 2) := dk_16 20 (dk_at dksX5_person_2 4 rfl rfl)
theorem dX5_person_52 : decode cX5_person 52 = .ok (.iconst 4, 1) := dk_7 (dk_at dksX5_person_2 6 rfl rfl)
theorem dX5_person_53 : decode cX5_person 53 = .ok (.aload_n 0, 1) := dk_42 (dk_at dksX5_person_2 7 rfl rfl)
theorem dX5_person_54 : decode cX5_person 54 = .ok (.getfield 7, 3) := dk_180 0 7 (dk_at dksX5_person_2 8 rfl rfl)
theorem dX5_person_57 : decode cX5_person 57 = .ok (.iconst 0, 1) := dk_3 (dk_at dksX5_person_2 11 rfl rfl)
theorem dX5_person_58 : decode cX5_person 58 = .ok (.iaload, 1) := dk_46 (dk_at dksX5_person_2 12 rfl rfl)
theorem dX5_person_59 : decode cX5_person 59 = .ok (.imul, 1) := dk_104 (dk_at dksX5_person_2 13 rfl rfl)
theorem dX5_person_60 : decode cX5_person 60 = .ok (.iadd, 1) := dk_96 (dk_at dksX5_person_2 14 rfl rfl)
theorem dX5_person_61 : decode cX5_person 61 = .ok (.istore 4, 2) := dk_54 4 (dk_at dksX5_person_2 15 rfl rfl)
theorem dX5_person_63 : decode cX5_person 63 = .ok (.aload_n 0, 1) := dk_42 (dk_at dksX5_person_2 17 rfl rfl)
theorem dX5_person_64 : decode cX5_person 64 = .ok (.getfield 7, 3) := dk_180 0 7 (dk_at dksX5_person_2 18 rfl rfl)
theorem dX5_person_67 : decode cX5_person 67 = .ok (.iload 4, 2) := dk_21 4 (dk_at dksX5_person_2 21 rfl rfl)
theorem dX5_person_69 : decode cX5_person 69 = .ok (.iconst 0, 1) := dk_3 (dk_at dksX5_person_2 23 rfl rfl)
theorem dX5_person_70 : decode cX5_person 70 = .ok (.iadd, 1) := dk_96 (dk_at dksX5_person_3 0 rfl rfl)
theorem dX5_person_71 : decode cX5_person 71 = .ok (.iload_n 1, 1) := dk_27 (dk_at dksX5_person_3 1 rfl rfl)
theorem dX5_person_72 : decode cX5_person 72 = .ok (.iastore, 1) := dk_79 (dk_at dksX5_person_3 2 rfl rfl)
theorem dX5_person_73 : decode cX5_person 73 = .ok (.aload_n 0, 1) := dk_42 (dk_at dksX5_person_3 3 rfl rfl)
theorem dX5_person_74 : decode cX5_person 74 = .ok (.getfield 7, 3) := dk_180 0 7 (dk_at dksX5_person_3 4 rfl rfl)
theorem dX5_person_77 : decode cX5_person 77 = .ok (.iload 4, 2) := dk_21 4 (dk_at dksX5_person_3 7 rfl rfl)
theorem dX5_person_79 : decode cX5_person 79 = .ok (.iconst 1, 1) := dk_4 (dk_at dksX5_person_3 9 rfl rfl)
theorem dX5_person_80 : decode cX5_person 80 = .ok (.iadd, 1) := dk_96 (dk_at dksX5_person_3 10 rfl rfl)
theorem dX5_person_81 : decode cX5_person 81 = .ok (.iload_n 2, 1) := dk_28 (dk_at dksX5_person_3 11 rfl rfl)
theorem dX5_person_82 : decode cX5_person 82 = .ok (.iastore, 1) := dk_79 (dk_at dksX5_person_3 12 rfl rfl)
theorem dX5_person_83 : decode cX5_person 83 = .ok (.aload_n 0, 1) := dk_42 (dk_at dksX5_person_3 13 rfl rfl)
theorem dX5_person_84 : decode cX5_person 84 = .ok (.getfield 7, 3) := dk_180 0 7 (dk_at dksX5_person_3 14 rfl rfl)
theorem dX5_person_87 : decode cX5_person 87 = .ok (.iload 4, 2) := dk_21 4 (dk_at dksX5_person_3 17 rfl rfl)
theorem dX5_person_89 : decode cX5_person 89 = .ok (.iconst 2, 1) := dk_5 (dk_at dksX5_person_3 19 rfl rfl)
theorem dX5_person_90 : decode cX5_person 90 = .ok (.iadd, 1) := dk_96 (dk_at dksX5_person_3 20 rfl rfl)
theorem dX5_person_91 : decode cX5_person 91 = .ok (.iload_n 3, 1) := dk_29 (dk_at dksX5_person_3 21 rfl rfl)
theorem dX5_person_92 : decode cX5_person 92 = .ok (.bipush 10, 2) := dk_16 10 (dk_at dksX5_person_3 22 rfl rfl)
theorem dX5_person_94 : decode cX5_person 94 = .ok (.idiv, 1) := dk_108 (dk_at dksX5_person_4 0 rfl rfl)
theorem dX5_person_95 : decode cX5_person 95 = .ok (.iastore, 1) := dk_79 (dk_at dksX5_person_4 1 rfl rfl)
theorem dX5_person_96 : decode cX5_person 96 = .ok (.aload_n 0, 1) := dk_42 (dk_at dksX5_person_4 2 rfl rfl)
theorem dX5_person_97 : decode cX5_person 97 = .ok (.getfield 7, 3) := dk_180 0 7 (dk_at dksX5_person_4 3 rfl rfl)
theorem dX5_person_100 : decode cX5_person 100 = .ok (.iload 4, 2) := dk_21 4 (dk_at dksX5_person_4 6 rfl rfl)
theorem dX5_person_102 : decode cX5_person 102 = .ok (.iconst 3, 1) := dk_6 (dk_at dksX5_person_4 8 rfl rfl)
theorem dX5_person_103 : decode cX5_person 103 = .ok (.iadd, 1) := dk_96 (dk_at dksX5_person_4 9 rfl rfl)
theorem dX5_person_104 : decode cX5_person 104 = .ok (.iload_n 3, 1) := dk_29 (dk_at dksX5_person_4 10 rfl rfl)
theorem dX5_person_105 : decode cX5_person 105 = .ok (.bipush 10, 2) := dk_16 10 (dk_at dksX5_person_4 11 rfl rfl)
theorem dX5_person_107 : decode cX5_person 107 = .ok (.irem, 1) := dk_112 (dk_at dksX5_person_4 13 rfl rfl)
theorem dX5_person_108 : decode cX5_person 108 = .ok (.iastore, 1) := dk_79 (dk_at dksX5_person_4 14 rfl rfl)
theorem dX5_person_109 : decode cX5_person 109 = .ok (.aload_n 0, 1) := dk_42 (dk_at dksX5_person_4 15 rfl rfl)
theorem dX5_person_110 : decode cX5_person 110 = .ok (.getfield 7, 3) := dk_180 0 7 (dk_at dksX5_person_4 16 rfl rfl)
theorem dX5_person_113 : decode cX5_person 113 = .ok (.iconst 0, 1) := dk_3 (dk_at dksX5_person_4 19 rfl rfl)
theorem dX5_person_114 : decode cX5_person 114 = .ok (.dup2, 1) := dk_92 (dk_at dksX5_person_4 20 rfl rfl)
theorem dX5_person_115 : decode cX5_person 115 = .ok (.iaload, 1) := dk_46 (dk_at dksX5_person_4 21 rfl rfl)
theorem dX5_person_116 : decode cX5_person 116 = .ok (.iconst 1, 1) := dk_4 (dk_at dksX5_person_4 22 rfl rfl)
theorem dX5_person_117 : decode cX5_person 117 = .ok (.iadd, 1) := dk_96 (dk_at dksX5_person_4 23 rfl rfl)
theorem dX5_person_118 : decode cX5_person 118 = .ok (.iastore, 1) := dk_79 (dk_at dksX5_person_5 0 rfl rfl)
theorem dX5_person_119 : decode cX5_person 119 = .ok (.aload_n 0, 1) := dk_42 (dk_at dksX5_person_5 1 rfl rfl)
theorem dX5_person_120 : decode cX5_person 120 = .ok (.getfield 7, 3) := dk_180 0 7 (dk_at dksX5_person_5 2 rfl rfl)
theorem dX5_person_123 : decode cX5_person 123 = .ok (.iconst 0, 1) := dk_3 (dk_at dksX5_person_5 5 rfl rfl)
theorem dX5_person_124 : decode cX5_person 124 = .ok (.iaload, 1) := dk_46 (dk_at dksX5_person_5 6 rfl rfl)
theorem dX5_person_125 : decode cX5_person 125 = .ok (.iconst 1, 1) := dk_4 (dk_at dksX5_person_5 7 rfl rfl)
theorem dX5_person_126 : decode cX5_person 126 = .ok (.isub, 1) := dk_100 (dk_at dksX5_person_5 8 rfl rfl)
theorem dX5_person_127 : decode cX5_person 127 = .ok (.ireturn, 1) := dk_172 (dk_at dksX5_person_5 9 rfl rfl)
abbrev cX5_in : ByteArray := prog_20_method_3_code
def yX5_in : MethodName := ⟨RX5, "in", "(III)Z"⟩
def dkwX5_in_0 : List UInt8 := [26, 27, 161, 0, 12, 26, 28, 163, 0, 7, 4, 167, 0, 4, 3, 172]
abbrev dktX5_in_0 : List UInt8 := dkwX5_in_0 ++ []
theorem dksX5_in_0 : cX5_in.data.toList.drop 0 = dktX5_in_0 := by decide +kernel
theorem dX5_in_0 : decode cX5_in 0 = .ok (.iload_n 0, 1) := dk_26 (dk_at dksX5_in_0 0 rfl rfl)
theorem dX5_in_1 : decode cX5_in 1 = .ok (.iload_n 1, 1) := dk_27 (dk_at dksX5_in_0 1 rfl rfl)
theorem dX5_in_2 : decode cX5_in 2 = .ok (.if_icmp .lt 12, 3) := dk_161 0 12 (dk_at dksX5_in_0 2 rfl rfl)
theorem dX5_in_5 : decode cX5_in 5 = .ok (.iload_n 0, 1) := dk_26 (dk_at dksX5_in_0 5 rfl rfl)
theorem dX5_in_6 : decode cX5_in 6 = .ok (.iload_n 2, 1) := dk_28 (dk_at dksX5_in_0 6 rfl rfl)
theorem dX5_in_7 : decode cX5_in 7 = .ok (.if_icmp .gt 7, 3) := dk_163 0 7 (dk_at dksX5_in_0 7 rfl rfl)
theorem dX5_in_10 : decode cX5_in 10 = .ok (.iconst 1, 1) := dk_4 (dk_at dksX5_in_0 10 rfl rfl)
theorem dX5_in_11 : decode cX5_in 11 = .ok (.goto 4, 3) := dk_167 0 4 (dk_at dksX5_in_0 11 rfl rfl)
theorem dX5_in_14 : decode cX5_in 14 = .ok (.iconst 0, 1) := dk_3 (dk_at dksX5_in_0 14 rfl rfl)
theorem dX5_in_15 : decode cX5_in 15 = .ok (.ireturn, 1) := dk_172 (dk_at dksX5_in_0 15 rfl rfl)
abbrev cX5_isPart : ByteArray := prog_20_method_12_code
def yX5_isPart : MethodName := ⟨RX5, "isPart", "(I)Z"⟩
def dkwX5_isPart_1 : List UInt8 := [167, 0, 4, 3, 172]
abbrev dktX5_isPart_1 : List UInt8 := dkwX5_isPart_1 ++ []
def dkwX5_isPart_0 : List UInt8 := [26, 155, 0, 25, 26, 16, 10, 112, 158, 0, 18, 26, 16, 10, 108, 26, 16, 10, 112, 163, 0, 7, 4]
abbrev dktX5_isPart_0 : List UInt8 := dkwX5_isPart_0 ++ dktX5_isPart_1
theorem dksX5_isPart_0 : cX5_isPart.data.toList.drop 0 = dktX5_isPart_0 := by decide +kernel
theorem dksX5_isPart_1 : cX5_isPart.data.toList.drop 23 = dktX5_isPart_1 := dk_seg dksX5_isPart_0 23 rfl rfl
theorem dX5_isPart_0 : decode cX5_isPart 0 = .ok (.iload_n 0, 1) := dk_26 (dk_at dksX5_isPart_0 0 rfl rfl)
theorem dX5_isPart_1 : decode cX5_isPart 1 = .ok (.ifCond .lt 25, 3) := dk_155 0 25 (dk_at dksX5_isPart_0 1 rfl rfl)
theorem dX5_isPart_4 : decode cX5_isPart 4 = .ok (.iload_n 0, 1) := dk_26 (dk_at dksX5_isPart_0 4 rfl rfl)
theorem dX5_isPart_5 : decode cX5_isPart 5 = .ok (.bipush 10, 2) := dk_16 10 (dk_at dksX5_isPart_0 5 rfl rfl)
theorem dX5_isPart_7 : decode cX5_isPart 7 = .ok (.irem, 1) := dk_112 (dk_at dksX5_isPart_0 7 rfl rfl)
theorem dX5_isPart_8 : decode cX5_isPart 8 = .ok (.ifCond .le 18, 3) := dk_158 0 18 (dk_at dksX5_isPart_0 8 rfl rfl)
theorem dX5_isPart_11 : decode cX5_isPart 11 = .ok (.iload_n 0, 1) := dk_26 (dk_at dksX5_isPart_0 11 rfl rfl)
theorem dX5_isPart_12 : decode cX5_isPart 12 = .ok (.bipush 10, 2) := dk_16 10 (dk_at dksX5_isPart_0 12 rfl rfl)
theorem dX5_isPart_14 : decode cX5_isPart 14 = .ok (.idiv, 1) := dk_108 (dk_at dksX5_isPart_0 14 rfl rfl)
theorem dX5_isPart_15 : decode cX5_isPart 15 = .ok (.iload_n 0, 1) := dk_26 (dk_at dksX5_isPart_0 15 rfl rfl)
theorem dX5_isPart_16 : decode cX5_isPart 16 = .ok (.bipush 10, 2) := dk_16 10 (dk_at dksX5_isPart_0 16 rfl rfl)
theorem dX5_isPart_18 : decode cX5_isPart 18 = .ok (.irem, 1) := dk_112 (dk_at dksX5_isPart_0 18 rfl rfl)
theorem dX5_isPart_19 : decode cX5_isPart 19 = .ok (.if_icmp .gt 7, 3) := dk_163 0 7 (dk_at dksX5_isPart_0 19 rfl rfl)
theorem dX5_isPart_22 : decode cX5_isPart 22 = .ok (.iconst 1, 1) := dk_4 (dk_at dksX5_isPart_0 22 rfl rfl)
theorem dX5_isPart_23 : decode cX5_isPart 23 = .ok (.goto 4, 3) := dk_167 0 4 (dk_at dksX5_isPart_1 0 rfl rfl)
theorem dX5_isPart_26 : decode cX5_isPart 26 = .ok (.iconst 0, 1) := dk_3 (dk_at dksX5_isPart_1 3 rfl rfl)
theorem dX5_isPart_27 : decode cX5_isPart 27 = .ok (.ireturn, 1) := dk_172 (dk_at dksX5_isPart_1 4 rfl rfl)
abbrev cX5_error : ByteArray := prog_20_method_2_code
def yX5_error : MethodName := ⟨RX5, "error", "(I)I"⟩
def dkwX5_error_0 : List UInt8 := [42, 180, 0, 19, 27, 92, 46, 4, 96, 79, 18, 46, 27, 100, 172]
abbrev dktX5_error_0 : List UInt8 := dkwX5_error_0 ++ []
theorem dksX5_error_0 : cX5_error.data.toList.drop 0 = dktX5_error_0 := by decide +kernel
theorem dX5_error_0 : decode cX5_error 0 = .ok (.aload_n 0, 1) := dk_42 (dk_at dksX5_error_0 0 rfl rfl)
theorem dX5_error_1 : decode cX5_error 1 = .ok (.getfield 19, 3) := dk_180 0 19 (dk_at dksX5_error_0 1 rfl rfl)
theorem dX5_error_4 : decode cX5_error 4 = .ok (.iload_n 1, 1) := dk_27 (dk_at dksX5_error_0 4 rfl rfl)
theorem dX5_error_5 : decode cX5_error 5 = .ok (.dup2, 1) := dk_92 (dk_at dksX5_error_0 5 rfl rfl)
theorem dX5_error_6 : decode cX5_error 6 = .ok (.iaload, 1) := dk_46 (dk_at dksX5_error_0 6 rfl rfl)
theorem dX5_error_7 : decode cX5_error 7 = .ok (.iconst 1, 1) := dk_4 (dk_at dksX5_error_0 7 rfl rfl)
theorem dX5_error_8 : decode cX5_error 8 = .ok (.iadd, 1) := dk_96 (dk_at dksX5_error_0 8 rfl rfl)
theorem dX5_error_9 : decode cX5_error 9 = .ok (.iastore, 1) := dk_79 (dk_at dksX5_error_0 9 rfl rfl)
theorem dX5_error_10 : decode cX5_error 10 = .ok (.ldc 46, 2) := dk_18 46 (dk_at dksX5_error_0 10 rfl rfl)
theorem dX5_error_12 : decode cX5_error 12 = .ok (.iload_n 1, 1) := dk_27 (dk_at dksX5_error_0 12 rfl rfl)
theorem dX5_error_13 : decode cX5_error 13 = .ok (.isub, 1) := dk_100 (dk_at dksX5_error_0 13 rfl rfl)
theorem dX5_error_14 : decode cX5_error 14 = .ok (.ireturn, 1) := dk_172 (dk_at dksX5_error_0 14 rfl rfl)
abbrev cX5_personIs : ByteArray := prog_20_method_18_code
def yX5_personIs : MethodName := ⟨RX5, "personIs", "(II)I"⟩
def dkwX5_personIs_4 : List UInt8 := [27, 6, 182, 0, 79, 96, 172, 42, 27, 182, 0, 82, 172, 42, 27, 28, 182, 0, 85, 172]
abbrev dktX5_personIs_4 : List UInt8 := dkwX5_personIs_4 ++ []
def dkwX5_personIs_3 : List UInt8 := [42, 27, 3, 182, 0, 79, 172, 42, 27, 4, 182, 0, 79, 172, 16, 10, 42, 27, 5, 182, 0, 79, 104, 42]
abbrev dktX5_personIs_3 : List UInt8 := dkwX5_personIs_3 ++ dktX5_personIs_4
def dkwX5_personIs_2 : List UInt8 := [170, 0, 0, 0, 0, 0, 76, 0, 0, 0, 0, 0, 0, 0, 5, 0, 0, 0, 39, 0, 0, 0, 46, 0, 0, 0, 53, 0, 0, 0, 76, 0, 0, 0, 76, 0, 0, 0, 70]
abbrev dktX5_personIs_2 : List UInt8 := dkwX5_personIs_2 ++ dktX5_personIs_3
def dkwX5_personIs_1 : List UInt8 := [28]
abbrev dktX5_personIs_1 : List UInt8 := dkwX5_personIs_1 ++ dktX5_personIs_2
def dkwX5_personIs_0 : List UInt8 := [42, 27, 182, 0, 76, 153, 0, 13, 28, 3, 16, 6, 184, 0, 47, 154, 0, 9, 42, 4, 182, 0, 60, 172]
abbrev dktX5_personIs_0 : List UInt8 := dkwX5_personIs_0 ++ dktX5_personIs_1
theorem dksX5_personIs_0 : cX5_personIs.data.toList.drop 0 = dktX5_personIs_0 := by decide +kernel
theorem dksX5_personIs_1 : cX5_personIs.data.toList.drop 24 = dktX5_personIs_1 := dk_seg dksX5_personIs_0 24 rfl rfl
theorem dksX5_personIs_2 : cX5_personIs.data.toList.drop 25 = dktX5_personIs_2 := dk_seg dksX5_personIs_1 1 rfl rfl
theorem dksX5_personIs_3 : cX5_personIs.data.toList.drop 64 = dktX5_personIs_3 := dk_seg dksX5_personIs_2 39 rfl rfl
theorem dksX5_personIs_4 : cX5_personIs.data.toList.drop 88 = dktX5_personIs_4 := dk_seg dksX5_personIs_3 24 rfl rfl
theorem dX5_personIs_0 : decode cX5_personIs 0 = .ok (.aload_n 0, 1) := dk_42 (dk_at dksX5_personIs_0 0 rfl rfl)
theorem dX5_personIs_1 : decode cX5_personIs 1 = .ok (.iload_n 1, 1) := dk_27 (dk_at dksX5_personIs_0 1 rfl rfl)
theorem dX5_personIs_2 : decode cX5_personIs 2 = .ok (.invokevirtual 76, 3) := dk_182 0 76 (dk_at dksX5_personIs_0 2 rfl rfl)
theorem dX5_personIs_5 : decode cX5_personIs 5 = .ok (.ifCond .eq 13, 3) := dk_153 0 13 (dk_at dksX5_personIs_0 5 rfl rfl)
theorem dX5_personIs_8 : decode cX5_personIs 8 = .ok (.iload_n 2, 1) := dk_28 (dk_at dksX5_personIs_0 8 rfl rfl)
theorem dX5_personIs_9 : decode cX5_personIs 9 = .ok (.iconst 0, 1) := dk_3 (dk_at dksX5_personIs_0 9 rfl rfl)
theorem dX5_personIs_10 : decode cX5_personIs 10 = .ok (.bipush 6, 2) := dk_16 6 (dk_at dksX5_personIs_0 10 rfl rfl)
theorem dX5_personIs_12 : decode cX5_personIs 12 = .ok (.invokestatic 47, 3) := dk_184 0 47 (dk_at dksX5_personIs_0 12 rfl rfl)
theorem dX5_personIs_15 : decode cX5_personIs 15 = .ok (.ifCond .ne 9, 3) := dk_154 0 9 (dk_at dksX5_personIs_0 15 rfl rfl)
theorem dX5_personIs_18 : decode cX5_personIs 18 = .ok (.aload_n 0, 1) := dk_42 (dk_at dksX5_personIs_0 18 rfl rfl)
theorem dX5_personIs_19 : decode cX5_personIs 19 = .ok (.iconst 1, 1) := dk_4 (dk_at dksX5_personIs_0 19 rfl rfl)
theorem dX5_personIs_20 : decode cX5_personIs 20 = .ok (.invokevirtual 60, 3) := dk_182 0 60 (dk_at dksX5_personIs_0 20 rfl rfl)
theorem dX5_personIs_23 : decode cX5_personIs 23 = .ok (.ireturn, 1) := dk_172 (dk_at dksX5_personIs_0 23 rfl rfl)
theorem dX5_personIs_24 : decode cX5_personIs 24 = .ok (.iload_n 2, 1) := dk_28 (dk_at dksX5_personIs_1 0 rfl rfl)
theorem dX5_personIs_25 : decode cX5_personIs 25 = .ok (.tableswitch 76 0 5 #[39, 46, 53, 76, 76, 70], 39) := by decide +kernel
theorem dX5_personIs_64 : decode cX5_personIs 64 = .ok (.aload_n 0, 1) := dk_42 (dk_at dksX5_personIs_3 0 rfl rfl)
theorem dX5_personIs_65 : decode cX5_personIs 65 = .ok (.iload_n 1, 1) := dk_27 (dk_at dksX5_personIs_3 1 rfl rfl)
theorem dX5_personIs_66 : decode cX5_personIs 66 = .ok (.iconst 0, 1) := dk_3 (dk_at dksX5_personIs_3 2 rfl rfl)
theorem dX5_personIs_67 : decode cX5_personIs 67 = .ok (.invokevirtual 79, 3) := dk_182 0 79 (dk_at dksX5_personIs_3 3 rfl rfl)
theorem dX5_personIs_70 : decode cX5_personIs 70 = .ok (.ireturn, 1) := dk_172 (dk_at dksX5_personIs_3 6 rfl rfl)
theorem dX5_personIs_71 : decode cX5_personIs 71 = .ok (.aload_n 0, 1) := dk_42 (dk_at dksX5_personIs_3 7 rfl rfl)
theorem dX5_personIs_72 : decode cX5_personIs 72 = .ok (.iload_n 1, 1) := dk_27 (dk_at dksX5_personIs_3 8 rfl rfl)
theorem dX5_personIs_73 : decode cX5_personIs 73 = .ok (.iconst 1, 1) := dk_4 (dk_at dksX5_personIs_3 9 rfl rfl)
theorem dX5_personIs_74 : decode cX5_personIs 74 = .ok (.invokevirtual 79, 3) := dk_182 0 79 (dk_at dksX5_personIs_3 10 rfl rfl)
theorem dX5_personIs_77 : decode cX5_personIs 77 = .ok (.ireturn, 1) := dk_172 (dk_at dksX5_personIs_3 13 rfl rfl)
theorem dX5_personIs_78 : decode cX5_personIs 78 = .ok (.bipush 10, 2) := dk_16 10 (dk_at dksX5_personIs_3 14 rfl rfl)
theorem dX5_personIs_80 : decode cX5_personIs 80 = .ok (.aload_n 0, 1) := dk_42 (dk_at dksX5_personIs_3 16 rfl rfl)
theorem dX5_personIs_81 : decode cX5_personIs 81 = .ok (.iload_n 1, 1) := dk_27 (dk_at dksX5_personIs_3 17 rfl rfl)
theorem dX5_personIs_82 : decode cX5_personIs 82 = .ok (.iconst 2, 1) := dk_5 (dk_at dksX5_personIs_3 18 rfl rfl)
theorem dX5_personIs_83 : decode cX5_personIs 83 = .ok (.invokevirtual 79, 3) := dk_182 0 79 (dk_at dksX5_personIs_3 19 rfl rfl)
theorem dX5_personIs_86 : decode cX5_personIs 86 = .ok (.imul, 1) := dk_104 (dk_at dksX5_personIs_3 22 rfl rfl)
theorem dX5_personIs_87 : decode cX5_personIs 87 = .ok (.aload_n 0, 1) := dk_42 (dk_at dksX5_personIs_3 23 rfl rfl)
theorem dX5_personIs_88 : decode cX5_personIs 88 = .ok (.iload_n 1, 1) := dk_27 (dk_at dksX5_personIs_4 0 rfl rfl)
theorem dX5_personIs_89 : decode cX5_personIs 89 = .ok (.iconst 3, 1) := dk_6 (dk_at dksX5_personIs_4 1 rfl rfl)
theorem dX5_personIs_90 : decode cX5_personIs 90 = .ok (.invokevirtual 79, 3) := dk_182 0 79 (dk_at dksX5_personIs_4 2 rfl rfl)
theorem dX5_personIs_93 : decode cX5_personIs 93 = .ok (.iadd, 1) := dk_96 (dk_at dksX5_personIs_4 5 rfl rfl)
theorem dX5_personIs_94 : decode cX5_personIs 94 = .ok (.ireturn, 1) := dk_172 (dk_at dksX5_personIs_4 6 rfl rfl)
theorem dX5_personIs_95 : decode cX5_personIs 95 = .ok (.aload_n 0, 1) := dk_42 (dk_at dksX5_personIs_4 7 rfl rfl)
theorem dX5_personIs_96 : decode cX5_personIs 96 = .ok (.iload_n 1, 1) := dk_27 (dk_at dksX5_personIs_4 8 rfl rfl)
theorem dX5_personIs_97 : decode cX5_personIs 97 = .ok (.invokevirtual 82, 3) := dk_182 0 82 (dk_at dksX5_personIs_4 9 rfl rfl)
theorem dX5_personIs_100 : decode cX5_personIs 100 = .ok (.ireturn, 1) := dk_172 (dk_at dksX5_personIs_4 12 rfl rfl)
theorem dX5_personIs_101 : decode cX5_personIs 101 = .ok (.aload_n 0, 1) := dk_42 (dk_at dksX5_personIs_4 13 rfl rfl)
theorem dX5_personIs_102 : decode cX5_personIs 102 = .ok (.iload_n 1, 1) := dk_27 (dk_at dksX5_personIs_4 14 rfl rfl)
theorem dX5_personIs_103 : decode cX5_personIs 103 = .ok (.iload_n 2, 1) := dk_28 (dk_at dksX5_personIs_4 15 rfl rfl)
theorem dX5_personIs_104 : decode cX5_personIs 104 = .ok (.invokevirtual 85, 3) := dk_182 0 85 (dk_at dksX5_personIs_4 16 rfl rfl)
theorem dX5_personIs_107 : decode cX5_personIs 107 = .ok (.ireturn, 1) := dk_172 (dk_at dksX5_personIs_4 19 rfl rfl)
abbrev cX5_isPerson : ByteArray := prog_20_method_6_code
def yX5_isPerson : MethodName := ⟨RX5, "isPerson", "(I)Z"⟩
def dkwX5_isPerson_0 : List UInt8 := [27, 3, 42, 180, 0, 7, 3, 46, 4, 100, 184, 0, 47, 172]
abbrev dktX5_isPerson_0 : List UInt8 := dkwX5_isPerson_0 ++ []
theorem dksX5_isPerson_0 : cX5_isPerson.data.toList.drop 0 = dktX5_isPerson_0 := by decide +kernel
theorem dX5_isPerson_0 : decode cX5_isPerson 0 = .ok (.iload_n 1, 1) := dk_27 (dk_at dksX5_isPerson_0 0 rfl rfl)
theorem dX5_isPerson_1 : decode cX5_isPerson 1 = .ok (.iconst 0, 1) := dk_3 (dk_at dksX5_isPerson_0 1 rfl rfl)
theorem dX5_isPerson_2 : decode cX5_isPerson 2 = .ok (.aload_n 0, 1) := dk_42 (dk_at dksX5_isPerson_0 2 rfl rfl)
theorem dX5_isPerson_3 : decode cX5_isPerson 3 = .ok (.getfield 7, 3) := dk_180 0 7 (dk_at dksX5_isPerson_0 3 rfl rfl)
theorem dX5_isPerson_6 : decode cX5_isPerson 6 = .ok (.iconst 0, 1) := dk_3 (dk_at dksX5_isPerson_0 6 rfl rfl)
theorem dX5_isPerson_7 : decode cX5_isPerson 7 = .ok (.iaload, 1) := dk_46 (dk_at dksX5_isPerson_0 7 rfl rfl)
theorem dX5_isPerson_8 : decode cX5_isPerson 8 = .ok (.iconst 1, 1) := dk_4 (dk_at dksX5_isPerson_0 8 rfl rfl)
theorem dX5_isPerson_9 : decode cX5_isPerson 9 = .ok (.isub, 1) := dk_100 (dk_at dksX5_isPerson_0 9 rfl rfl)
theorem dX5_isPerson_10 : decode cX5_isPerson 10 = .ok (.invokestatic 47, 3) := dk_184 0 47 (dk_at dksX5_isPerson_0 10 rfl rfl)
theorem dX5_isPerson_13 : decode cX5_isPerson 13 = .ok (.ireturn, 1) := dk_172 (dk_at dksX5_isPerson_0 13 rfl rfl)
abbrev cX5_who : ByteArray := prog_20_method_8_code
def yX5_who : MethodName := ⟨RX5, "who", "(II)I"⟩
def dkwX5_who_0 : List UInt8 := [42, 180, 0, 7, 16, 20, 7, 27, 104, 96, 28, 96, 46, 172]
abbrev dktX5_who_0 : List UInt8 := dkwX5_who_0 ++ []
theorem dksX5_who_0 : cX5_who.data.toList.drop 0 = dktX5_who_0 := by decide +kernel
theorem dX5_who_0 : decode cX5_who 0 = .ok (.aload_n 0, 1) := dk_42 (dk_at dksX5_who_0 0 rfl rfl)
theorem dX5_who_1 : decode cX5_who 1 = .ok (.getfield 7, 3) := dk_180 0 7 (dk_at dksX5_who_0 1 rfl rfl)
theorem dX5_who_4 : decode cX5_who 4 = .ok (.bipush 20, 2) := dk_16 20 (dk_at dksX5_who_0 4 rfl rfl)
theorem dX5_who_6 : decode cX5_who 6 = .ok (.iconst 4, 1) := dk_7 (dk_at dksX5_who_0 6 rfl rfl)
theorem dX5_who_7 : decode cX5_who 7 = .ok (.iload_n 1, 1) := dk_27 (dk_at dksX5_who_0 7 rfl rfl)
theorem dX5_who_8 : decode cX5_who 8 = .ok (.imul, 1) := dk_104 (dk_at dksX5_who_0 8 rfl rfl)
theorem dX5_who_9 : decode cX5_who 9 = .ok (.iadd, 1) := dk_96 (dk_at dksX5_who_0 9 rfl rfl)
theorem dX5_who_10 : decode cX5_who 10 = .ok (.iload_n 2, 1) := dk_28 (dk_at dksX5_who_0 10 rfl rfl)
theorem dX5_who_11 : decode cX5_who 11 = .ok (.iadd, 1) := dk_96 (dk_at dksX5_who_0 11 rfl rfl)
theorem dX5_who_12 : decode cX5_who 12 = .ok (.iaload, 1) := dk_46 (dk_at dksX5_who_0 12 rfl rfl)
theorem dX5_who_13 : decode cX5_who 13 = .ok (.ireturn, 1) := dk_172 (dk_at dksX5_who_0 13 rfl rfl)
abbrev cX5_lacks : ByteArray := prog_20_method_16_code
def yX5_lacks : MethodName := ⟨RX5, "lacks", "(I)I"⟩
def dkwX5_lacks_2 : List UInt8 := [172]
abbrev dktX5_lacks_2 : List UInt8 := dkwX5_lacks_2 ++ []
def dkwX5_lacks_1 : List UInt8 := [29, 4, 182, 0, 70, 159, 0, 9, 4, 29, 120, 167, 0, 4, 3, 128, 61, 132, 3, 1, 167, 255, 216, 28]
abbrev dktX5_lacks_1 : List UInt8 := dkwX5_lacks_1 ++ dktX5_lacks_2
def dkwX5_lacks_0 : List UInt8 := [3, 61, 3, 62, 29, 42, 180, 0, 7, 5, 46, 162, 0, 36, 28, 42, 27, 29, 3, 182, 0, 70, 42, 27]
abbrev dktX5_lacks_0 : List UInt8 := dkwX5_lacks_0 ++ dktX5_lacks_1
theorem dksX5_lacks_0 : cX5_lacks.data.toList.drop 0 = dktX5_lacks_0 := by decide +kernel
theorem dksX5_lacks_1 : cX5_lacks.data.toList.drop 24 = dktX5_lacks_1 := dk_seg dksX5_lacks_0 24 rfl rfl
theorem dksX5_lacks_2 : cX5_lacks.data.toList.drop 48 = dktX5_lacks_2 := dk_seg dksX5_lacks_1 24 rfl rfl
theorem dX5_lacks_0 : decode cX5_lacks 0 = .ok (.iconst 0, 1) := dk_3 (dk_at dksX5_lacks_0 0 rfl rfl)
theorem dX5_lacks_1 : decode cX5_lacks 1 = .ok (.istore_n 2, 1) := dk_61 (dk_at dksX5_lacks_0 1 rfl rfl)
theorem dX5_lacks_2 : decode cX5_lacks 2 = .ok (.iconst 0, 1) := dk_3 (dk_at dksX5_lacks_0 2 rfl rfl)
theorem dX5_lacks_3 : decode cX5_lacks 3 = .ok (.istore_n 3, 1) := dk_62 (dk_at dksX5_lacks_0 3 rfl rfl)
theorem dX5_lacks_4 : decode cX5_lacks 4 = .ok (.iload_n 3, 1) := dk_29 (dk_at dksX5_lacks_0 4 rfl rfl)
theorem dX5_lacks_5 : decode cX5_lacks 5 = .ok (.aload_n 0, 1) := dk_42 (dk_at dksX5_lacks_0 5 rfl rfl)
theorem dX5_lacks_6 : decode cX5_lacks 6 = .ok (.getfield 7, 3) := dk_180 0 7 (dk_at dksX5_lacks_0 6 rfl rfl)
theorem dX5_lacks_9 : decode cX5_lacks 9 = .ok (.iconst 2, 1) := dk_5 (dk_at dksX5_lacks_0 9 rfl rfl)
theorem dX5_lacks_10 : decode cX5_lacks 10 = .ok (.iaload, 1) := dk_46 (dk_at dksX5_lacks_0 10 rfl rfl)
theorem dX5_lacks_11 : decode cX5_lacks 11 = .ok (.if_icmp .ge 36, 3) := dk_162 0 36 (dk_at dksX5_lacks_0 11 rfl rfl)
theorem dX5_lacks_14 : decode cX5_lacks 14 = .ok (.iload_n 2, 1) := dk_28 (dk_at dksX5_lacks_0 14 rfl rfl)
theorem dX5_lacks_15 : decode cX5_lacks 15 = .ok (.aload_n 0, 1) := dk_42 (dk_at dksX5_lacks_0 15 rfl rfl)
theorem dX5_lacks_16 : decode cX5_lacks 16 = .ok (.iload_n 1, 1) := dk_27 (dk_at dksX5_lacks_0 16 rfl rfl)
theorem dX5_lacks_17 : decode cX5_lacks 17 = .ok (.iload_n 3, 1) := dk_29 (dk_at dksX5_lacks_0 17 rfl rfl)
theorem dX5_lacks_18 : decode cX5_lacks 18 = .ok (.iconst 0, 1) := dk_3 (dk_at dksX5_lacks_0 18 rfl rfl)
theorem dX5_lacks_19 : decode cX5_lacks 19 = .ok (.invokevirtual 70, 3) := dk_182 0 70 (dk_at dksX5_lacks_0 19 rfl rfl)
theorem dX5_lacks_22 : decode cX5_lacks 22 = .ok (.aload_n 0, 1) := dk_42 (dk_at dksX5_lacks_0 22 rfl rfl)
theorem dX5_lacks_23 : decode cX5_lacks 23 = .ok (.iload_n 1, 1) := dk_27 (dk_at dksX5_lacks_0 23 rfl rfl)
theorem dX5_lacks_24 : decode cX5_lacks 24 = .ok (.iload_n 3, 1) := dk_29 (dk_at dksX5_lacks_1 0 rfl rfl)
theorem dX5_lacks_25 : decode cX5_lacks 25 = .ok (.iconst 1, 1) := dk_4 (dk_at dksX5_lacks_1 1 rfl rfl)
theorem dX5_lacks_26 : decode cX5_lacks 26 = .ok (.invokevirtual 70, 3) := dk_182 0 70 (dk_at dksX5_lacks_1 2 rfl rfl)
theorem dX5_lacks_29 : decode cX5_lacks 29 = .ok (.if_icmp .eq 9, 3) := dk_159 0 9 (dk_at dksX5_lacks_1 5 rfl rfl)
theorem dX5_lacks_32 : decode cX5_lacks 32 = .ok (.iconst 1, 1) := dk_4 (dk_at dksX5_lacks_1 8 rfl rfl)
theorem dX5_lacks_33 : decode cX5_lacks 33 = .ok (.iload_n 3, 1) := dk_29 (dk_at dksX5_lacks_1 9 rfl rfl)
theorem dX5_lacks_34 : decode cX5_lacks 34 = .ok (.ishl, 1) := dk_120 (dk_at dksX5_lacks_1 10 rfl rfl)
theorem dX5_lacks_35 : decode cX5_lacks 35 = .ok (.goto 4, 3) := dk_167 0 4 (dk_at dksX5_lacks_1 11 rfl rfl)
theorem dX5_lacks_38 : decode cX5_lacks 38 = .ok (.iconst 0, 1) := dk_3 (dk_at dksX5_lacks_1 14 rfl rfl)
theorem dX5_lacks_39 : decode cX5_lacks 39 = .ok (.ior, 1) := dk_128 (dk_at dksX5_lacks_1 15 rfl rfl)
theorem dX5_lacks_40 : decode cX5_lacks 40 = .ok (.istore_n 2, 1) := dk_61 (dk_at dksX5_lacks_1 16 rfl rfl)
theorem dX5_lacks_41 : decode cX5_lacks 41 = .ok (.iinc 3 1, 3) := dk_132 3 1 (dk_at dksX5_lacks_1 17 rfl rfl)
theorem dX5_lacks_44 : decode cX5_lacks 44 = .ok (.goto (-40), 3) := dk_167 255 216 (dk_at dksX5_lacks_1 20 rfl rfl)
theorem dX5_lacks_47 : decode cX5_lacks 47 = .ok (.iload_n 2, 1) := dk_28 (dk_at dksX5_lacks_1 23 rfl rfl)
theorem dX5_lacks_48 : decode cX5_lacks 48 = .ok (.ireturn, 1) := dk_172 (dk_at dksX5_lacks_2 0 rfl rfl)
abbrev cX5_hasOne : ByteArray := prog_20_method_15_code
def yX5_hasOne : MethodName := ⟨RX5, "hasOne", "(III)Z"⟩
def dkwX5_hasOne_0 : List UInt8 := [42, 42, 28, 29, 182, 0, 64, 182, 0, 67, 27, 160, 0, 7, 4, 167, 0, 4, 3, 172]
abbrev dktX5_hasOne_0 : List UInt8 := dkwX5_hasOne_0 ++ []
theorem dksX5_hasOne_0 : cX5_hasOne.data.toList.drop 0 = dktX5_hasOne_0 := by decide +kernel
theorem dX5_hasOne_0 : decode cX5_hasOne 0 = .ok (.aload_n 0, 1) := dk_42 (dk_at dksX5_hasOne_0 0 rfl rfl)
theorem dX5_hasOne_1 : decode cX5_hasOne 1 = .ok (.aload_n 0, 1) := dk_42 (dk_at dksX5_hasOne_0 1 rfl rfl)
theorem dX5_hasOne_2 : decode cX5_hasOne 2 = .ok (.iload_n 2, 1) := dk_28 (dk_at dksX5_hasOne_0 2 rfl rfl)
theorem dX5_hasOne_3 : decode cX5_hasOne 3 = .ok (.iload_n 3, 1) := dk_29 (dk_at dksX5_hasOne_0 3 rfl rfl)
theorem dX5_hasOne_4 : decode cX5_hasOne 4 = .ok (.invokevirtual 64, 3) := dk_182 0 64 (dk_at dksX5_hasOne_0 4 rfl rfl)
theorem dX5_hasOne_7 : decode cX5_hasOne 7 = .ok (.invokevirtual 67, 3) := dk_182 0 67 (dk_at dksX5_hasOne_0 7 rfl rfl)
theorem dX5_hasOne_10 : decode cX5_hasOne 10 = .ok (.iload_n 1, 1) := dk_27 (dk_at dksX5_hasOne_0 10 rfl rfl)
theorem dX5_hasOne_11 : decode cX5_hasOne 11 = .ok (.if_icmp .ne 7, 3) := dk_160 0 7 (dk_at dksX5_hasOne_0 11 rfl rfl)
theorem dX5_hasOne_14 : decode cX5_hasOne 14 = .ok (.iconst 1, 1) := dk_4 (dk_at dksX5_hasOne_0 14 rfl rfl)
theorem dX5_hasOne_15 : decode cX5_hasOne 15 = .ok (.goto 4, 3) := dk_167 0 4 (dk_at dksX5_hasOne_0 15 rfl rfl)
theorem dX5_hasOne_18 : decode cX5_hasOne 18 = .ok (.iconst 0, 1) := dk_3 (dk_at dksX5_hasOne_0 18 rfl rfl)
theorem dX5_hasOne_19 : decode cX5_hasOne 19 = .ok (.ireturn, 1) := dk_172 (dk_at dksX5_hasOne_0 19 rfl rfl)
abbrev cX5_pairIts : ByteArray := prog_20_method_14_code
def yX5_pairIts : MethodName := ⟨RX5, "pairIts", "(II)I"⟩
def dkwX5_pairIts_0 : List UInt8 := [42, 180, 0, 7, 16, 92, 6, 27, 104, 96, 28, 96, 46, 172]
abbrev dktX5_pairIts_0 : List UInt8 := dkwX5_pairIts_0 ++ []
theorem dksX5_pairIts_0 : cX5_pairIts.data.toList.drop 0 = dktX5_pairIts_0 := by decide +kernel
theorem dX5_pairIts_0 : decode cX5_pairIts 0 = .ok (.aload_n 0, 1) := dk_42 (dk_at dksX5_pairIts_0 0 rfl rfl)
theorem dX5_pairIts_1 : decode cX5_pairIts 1 = .ok (.getfield 7, 3) := dk_180 0 7 (dk_at dksX5_pairIts_0 1 rfl rfl)
theorem dX5_pairIts_4 : decode cX5_pairIts 4 = .ok (.bipush 92, 2) := dk_16 92 (dk_at dksX5_pairIts_0 4 rfl rfl)
theorem dX5_pairIts_6 : decode cX5_pairIts 6 = .ok (.iconst 3, 1) := dk_6 (dk_at dksX5_pairIts_0 6 rfl rfl)
theorem dX5_pairIts_7 : decode cX5_pairIts 7 = .ok (.iload_n 1, 1) := dk_27 (dk_at dksX5_pairIts_0 7 rfl rfl)
theorem dX5_pairIts_8 : decode cX5_pairIts 8 = .ok (.imul, 1) := dk_104 (dk_at dksX5_pairIts_0 8 rfl rfl)
theorem dX5_pairIts_9 : decode cX5_pairIts 9 = .ok (.iadd, 1) := dk_96 (dk_at dksX5_pairIts_0 9 rfl rfl)
theorem dX5_pairIts_10 : decode cX5_pairIts 10 = .ok (.iload_n 2, 1) := dk_28 (dk_at dksX5_pairIts_0 10 rfl rfl)
theorem dX5_pairIts_11 : decode cX5_pairIts 11 = .ok (.iadd, 1) := dk_96 (dk_at dksX5_pairIts_0 11 rfl rfl)
theorem dX5_pairIts_12 : decode cX5_pairIts 12 = .ok (.iaload, 1) := dk_46 (dk_at dksX5_pairIts_0 12 rfl rfl)
theorem dX5_pairIts_13 : decode cX5_pairIts 13 = .ok (.ireturn, 1) := dk_172 (dk_at dksX5_pairIts_0 13 rfl rfl)
abbrev cX5_owner : ByteArray := prog_20_method_10_code
def yX5_owner : MethodName := ⟨RX5, "owner", "(I)I"⟩
def dkwX5_owner_0 : List UInt8 := [42, 27, 3, 182, 0, 51, 172]
abbrev dktX5_owner_0 : List UInt8 := dkwX5_owner_0 ++ []
theorem dksX5_owner_0 : cX5_owner.data.toList.drop 0 = dktX5_owner_0 := by decide +kernel
theorem dX5_owner_0 : decode cX5_owner 0 = .ok (.aload_n 0, 1) := dk_42 (dk_at dksX5_owner_0 0 rfl rfl)
theorem dX5_owner_1 : decode cX5_owner 1 = .ok (.iload_n 1, 1) := dk_27 (dk_at dksX5_owner_0 1 rfl rfl)
theorem dX5_owner_2 : decode cX5_owner 2 = .ok (.iconst 0, 1) := dk_3 (dk_at dksX5_owner_0 2 rfl rfl)
theorem dX5_owner_3 : decode cX5_owner 3 = .ok (.invokevirtual 51, 3) := dk_182 0 51 (dk_at dksX5_owner_0 3 rfl rfl)
theorem dX5_owner_6 : decode cX5_owner 6 = .ok (.ireturn, 1) := dk_172 (dk_at dksX5_owner_0 6 rfl rfl)
abbrev cX5_its : ByteArray := prog_20_method_9_code
def yX5_its : MethodName := ⟨RX5, "its", "(II)I"⟩
def dkwX5_its_0 : List UInt8 := [42, 180, 0, 7, 16, 44, 7, 27, 104, 96, 28, 96, 46, 172]
abbrev dktX5_its_0 : List UInt8 := dkwX5_its_0 ++ []
theorem dksX5_its_0 : cX5_its.data.toList.drop 0 = dktX5_its_0 := by decide +kernel
theorem dX5_its_0 : decode cX5_its 0 = .ok (.aload_n 0, 1) := dk_42 (dk_at dksX5_its_0 0 rfl rfl)
theorem dX5_its_1 : decode cX5_its 1 = .ok (.getfield 7, 3) := dk_180 0 7 (dk_at dksX5_its_0 1 rfl rfl)
theorem dX5_its_4 : decode cX5_its 4 = .ok (.bipush 44, 2) := dk_16 44 (dk_at dksX5_its_0 4 rfl rfl)
theorem dX5_its_6 : decode cX5_its 6 = .ok (.iconst 4, 1) := dk_7 (dk_at dksX5_its_0 6 rfl rfl)
theorem dX5_its_7 : decode cX5_its 7 = .ok (.iload_n 1, 1) := dk_27 (dk_at dksX5_its_0 7 rfl rfl)
theorem dX5_its_8 : decode cX5_its 8 = .ok (.imul, 1) := dk_104 (dk_at dksX5_its_0 8 rfl rfl)
theorem dX5_its_9 : decode cX5_its 9 = .ok (.iadd, 1) := dk_96 (dk_at dksX5_its_0 9 rfl rfl)
theorem dX5_its_10 : decode cX5_its 10 = .ok (.iload_n 2, 1) := dk_28 (dk_at dksX5_its_0 10 rfl rfl)
theorem dX5_its_11 : decode cX5_its 11 = .ok (.iadd, 1) := dk_96 (dk_at dksX5_its_0 11 rfl rfl)
theorem dX5_its_12 : decode cX5_its 12 = .ok (.iaload, 1) := dk_46 (dk_at dksX5_its_0 12 rfl rfl)
theorem dX5_its_13 : decode cX5_its 13 = .ok (.ireturn, 1) := dk_172 (dk_at dksX5_its_0 13 rfl rfl)
abbrev cX5_owns : ByteArray := prog_20_method_17_code
def yX5_owns : MethodName := ⟨RX5, "owns", "(II)I"⟩
def dkwX5_owns_2 : List UInt8 := [6, 182, 0, 51, 167, 0, 10, 42, 27, 21, 4, 182, 0, 73, 96, 62, 132, 4, 1, 167, 255, 194, 29, 172]
abbrev dktX5_owns_2 : List UInt8 := dkwX5_owns_2 ++ []
def dkwX5_owns_1 : List UInt8 := [159, 0, 7, 3, 167, 0, 34, 28, 6, 160, 0, 7, 4, 167, 0, 25, 28, 7, 160, 0, 13, 42, 21, 4]
abbrev dktX5_owns_1 : List UInt8 := dkwX5_owns_1 ++ dktX5_owns_2
def dkwX5_owns_0 : List UInt8 := [3, 62, 3, 54, 4, 21, 4, 42, 180, 0, 7, 4, 46, 162, 0, 57, 29, 42, 21, 4, 182, 0, 67, 27]
abbrev dktX5_owns_0 : List UInt8 := dkwX5_owns_0 ++ dktX5_owns_1
theorem dksX5_owns_0 : cX5_owns.data.toList.drop 0 = dktX5_owns_0 := by decide +kernel
theorem dksX5_owns_1 : cX5_owns.data.toList.drop 24 = dktX5_owns_1 := dk_seg dksX5_owns_0 24 rfl rfl
theorem dksX5_owns_2 : cX5_owns.data.toList.drop 48 = dktX5_owns_2 := dk_seg dksX5_owns_1 24 rfl rfl
theorem dX5_owns_0 : decode cX5_owns 0 = .ok (.iconst 0, 1) := dk_3 (dk_at dksX5_owns_0 0 rfl rfl)
theorem dX5_owns_1 : decode cX5_owns 1 = .ok (.istore_n 3, 1) := dk_62 (dk_at dksX5_owns_0 1 rfl rfl)
theorem dX5_owns_2 : decode cX5_owns 2 = .ok (.iconst 0, 1) := dk_3 (dk_at dksX5_owns_0 2 rfl rfl)
theorem dX5_owns_3 : decode cX5_owns 3 = .ok (.istore 4, 2) := dk_54 4 (dk_at dksX5_owns_0 3 rfl rfl)
theorem dX5_owns_5 : decode cX5_owns 5 = .ok (.iload 4, 2) := dk_21 4 (dk_at dksX5_owns_0 5 rfl rfl)
theorem dX5_owns_7 : decode cX5_owns 7 = .ok (.aload_n 0, 1) := dk_42 (dk_at dksX5_owns_0 7 rfl rfl)
theorem dX5_owns_8 : decode cX5_owns 8 = .ok (.getfield 7, 3) := dk_180 0 7 (dk_at dksX5_owns_0 8 rfl rfl)
theorem dX5_owns_11 : decode cX5_owns 11 = .ok (.iconst 1, 1) := dk_4 (dk_at dksX5_owns_0 11 rfl rfl)
theorem dX5_owns_12 : decode cX5_owns 12 = .ok (.iaload, 1) := dk_46 (dk_at dksX5_owns_0 12 rfl rfl)
theorem dX5_owns_13 : decode cX5_owns 13 = .ok (.if_icmp .ge 57, 3) := dk_162 0 57 (dk_at dksX5_owns_0 13 rfl rfl)
theorem dX5_owns_16 : decode cX5_owns 16 = .ok (.iload_n 3, 1) := dk_29 (dk_at dksX5_owns_0 16 rfl rfl)
theorem dX5_owns_17 : decode cX5_owns 17 = .ok (.aload_n 0, 1) := dk_42 (dk_at dksX5_owns_0 17 rfl rfl)
theorem dX5_owns_18 : decode cX5_owns 18 = .ok (.iload 4, 2) := dk_21 4 (dk_at dksX5_owns_0 18 rfl rfl)
theorem dX5_owns_20 : decode cX5_owns 20 = .ok (.invokevirtual 67, 3) := dk_182 0 67 (dk_at dksX5_owns_0 20 rfl rfl)
theorem dX5_owns_23 : decode cX5_owns 23 = .ok (.iload_n 1, 1) := dk_27 (dk_at dksX5_owns_0 23 rfl rfl)
theorem dX5_owns_24 : decode cX5_owns 24 = .ok (.if_icmp .eq 7, 3) := dk_159 0 7 (dk_at dksX5_owns_1 0 rfl rfl)
theorem dX5_owns_27 : decode cX5_owns 27 = .ok (.iconst 0, 1) := dk_3 (dk_at dksX5_owns_1 3 rfl rfl)
theorem dX5_owns_28 : decode cX5_owns 28 = .ok (.goto 34, 3) := dk_167 0 34 (dk_at dksX5_owns_1 4 rfl rfl)
theorem dX5_owns_31 : decode cX5_owns 31 = .ok (.iload_n 2, 1) := dk_28 (dk_at dksX5_owns_1 7 rfl rfl)
theorem dX5_owns_32 : decode cX5_owns 32 = .ok (.iconst 3, 1) := dk_6 (dk_at dksX5_owns_1 8 rfl rfl)
theorem dX5_owns_33 : decode cX5_owns 33 = .ok (.if_icmp .ne 7, 3) := dk_160 0 7 (dk_at dksX5_owns_1 9 rfl rfl)
theorem dX5_owns_36 : decode cX5_owns 36 = .ok (.iconst 1, 1) := dk_4 (dk_at dksX5_owns_1 12 rfl rfl)
theorem dX5_owns_37 : decode cX5_owns 37 = .ok (.goto 25, 3) := dk_167 0 25 (dk_at dksX5_owns_1 13 rfl rfl)
theorem dX5_owns_40 : decode cX5_owns 40 = .ok (.iload_n 2, 1) := dk_28 (dk_at dksX5_owns_1 16 rfl rfl)
theorem dX5_owns_41 : decode cX5_owns 41 = .ok (.iconst 4, 1) := dk_7 (dk_at dksX5_owns_1 17 rfl rfl)
theorem dX5_owns_42 : decode cX5_owns 42 = .ok (.if_icmp .ne 13, 3) := dk_160 0 13 (dk_at dksX5_owns_1 18 rfl rfl)
theorem dX5_owns_45 : decode cX5_owns 45 = .ok (.aload_n 0, 1) := dk_42 (dk_at dksX5_owns_1 21 rfl rfl)
theorem dX5_owns_46 : decode cX5_owns 46 = .ok (.iload 4, 2) := dk_21 4 (dk_at dksX5_owns_1 22 rfl rfl)
theorem dX5_owns_48 : decode cX5_owns 48 = .ok (.iconst 3, 1) := dk_6 (dk_at dksX5_owns_2 0 rfl rfl)
theorem dX5_owns_49 : decode cX5_owns 49 = .ok (.invokevirtual 51, 3) := dk_182 0 51 (dk_at dksX5_owns_2 1 rfl rfl)
theorem dX5_owns_52 : decode cX5_owns 52 = .ok (.goto 10, 3) := dk_167 0 10 (dk_at dksX5_owns_2 4 rfl rfl)
theorem dX5_owns_55 : decode cX5_owns 55 = .ok (.aload_n 0, 1) := dk_42 (dk_at dksX5_owns_2 7 rfl rfl)
theorem dX5_owns_56 : decode cX5_owns 56 = .ok (.iload_n 1, 1) := dk_27 (dk_at dksX5_owns_2 8 rfl rfl)
theorem dX5_owns_57 : decode cX5_owns 57 = .ok (.iload 4, 2) := dk_21 4 (dk_at dksX5_owns_2 9 rfl rfl)
theorem dX5_owns_59 : decode cX5_owns 59 = .ok (.invokevirtual 73, 3) := dk_182 0 73 (dk_at dksX5_owns_2 11 rfl rfl)
theorem dX5_owns_62 : decode cX5_owns 62 = .ok (.iadd, 1) := dk_96 (dk_at dksX5_owns_2 14 rfl rfl)
theorem dX5_owns_63 : decode cX5_owns 63 = .ok (.istore_n 3, 1) := dk_62 (dk_at dksX5_owns_2 15 rfl rfl)
theorem dX5_owns_64 : decode cX5_owns 64 = .ok (.iinc 4 1, 3) := dk_132 4 1 (dk_at dksX5_owns_2 16 rfl rfl)
theorem dX5_owns_67 : decode cX5_owns 67 = .ok (.goto (-62), 3) := dk_167 255 194 (dk_at dksX5_owns_2 19 rfl rfl)
theorem dX5_owns_70 : decode cX5_owns 70 = .ok (.iload_n 3, 1) := dk_29 (dk_at dksX5_owns_2 22 rfl rfl)
theorem dX5_owns_71 : decode cX5_owns 71 = .ok (.ireturn, 1) := dk_172 (dk_at dksX5_owns_2 23 rfl rfl)
abbrev cX5_valueTo : ByteArray := prog_20_method_11_code
def yX5_valueTo : MethodName := ⟨RX5, "valueTo", "(II)I"⟩
def dkwX5_valueTo_1 : List UInt8 := [172]
abbrev dktX5_valueTo_1 : List UInt8 := dkwX5_valueTo_1 ++ []
def dkwX5_valueTo_0 : List UInt8 := [42, 180, 0, 7, 16, 110, 16, 12, 27, 104, 96, 28, 96, 46, 42, 28, 5, 182, 0, 51, 104, 16, 100, 108]
abbrev dktX5_valueTo_0 : List UInt8 := dkwX5_valueTo_0 ++ dktX5_valueTo_1
theorem dksX5_valueTo_0 : cX5_valueTo.data.toList.drop 0 = dktX5_valueTo_0 := by decide +kernel
theorem dksX5_valueTo_1 : cX5_valueTo.data.toList.drop 24 = dktX5_valueTo_1 := dk_seg dksX5_valueTo_0 24 rfl rfl
theorem dX5_valueTo_0 : decode cX5_valueTo 0 = .ok (.aload_n 0, 1) := dk_42 (dk_at dksX5_valueTo_0 0 rfl rfl)
theorem dX5_valueTo_1 : decode cX5_valueTo 1 = .ok (.getfield 7, 3) := dk_180 0 7 (dk_at dksX5_valueTo_0 1 rfl rfl)
theorem dX5_valueTo_4 : decode cX5_valueTo 4 = .ok (.bipush 110, 2) := dk_16 110 (dk_at dksX5_valueTo_0 4 rfl rfl)
theorem dX5_valueTo_6 : decode cX5_valueTo 6 = .ok (.bipush 12, 2) := dk_16 12 (dk_at dksX5_valueTo_0 6 rfl rfl)
theorem dX5_valueTo_8 : decode cX5_valueTo 8 = .ok (.iload_n 1, 1) := dk_27 (dk_at dksX5_valueTo_0 8 rfl rfl)
theorem dX5_valueTo_9 : decode cX5_valueTo 9 = .ok (.imul, 1) := dk_104 (dk_at dksX5_valueTo_0 9 rfl rfl)
theorem dX5_valueTo_10 : decode cX5_valueTo 10 = .ok (.iadd, 1) := dk_96 (dk_at dksX5_valueTo_0 10 rfl rfl)
theorem dX5_valueTo_11 : decode cX5_valueTo 11 = .ok (.iload_n 2, 1) := dk_28 (dk_at dksX5_valueTo_0 11 rfl rfl)
theorem dX5_valueTo_12 : decode cX5_valueTo 12 = .ok (.iadd, 1) := dk_96 (dk_at dksX5_valueTo_0 12 rfl rfl)
theorem dX5_valueTo_13 : decode cX5_valueTo 13 = .ok (.iaload, 1) := dk_46 (dk_at dksX5_valueTo_0 13 rfl rfl)
theorem dX5_valueTo_14 : decode cX5_valueTo 14 = .ok (.aload_n 0, 1) := dk_42 (dk_at dksX5_valueTo_0 14 rfl rfl)
theorem dX5_valueTo_15 : decode cX5_valueTo 15 = .ok (.iload_n 2, 1) := dk_28 (dk_at dksX5_valueTo_0 15 rfl rfl)
theorem dX5_valueTo_16 : decode cX5_valueTo 16 = .ok (.iconst 2, 1) := dk_5 (dk_at dksX5_valueTo_0 16 rfl rfl)
theorem dX5_valueTo_17 : decode cX5_valueTo 17 = .ok (.invokevirtual 51, 3) := dk_182 0 51 (dk_at dksX5_valueTo_0 17 rfl rfl)
theorem dX5_valueTo_20 : decode cX5_valueTo 20 = .ok (.imul, 1) := dk_104 (dk_at dksX5_valueTo_0 20 rfl rfl)
theorem dX5_valueTo_21 : decode cX5_valueTo 21 = .ok (.bipush 100, 2) := dk_16 100 (dk_at dksX5_valueTo_0 21 rfl rfl)
theorem dX5_valueTo_23 : decode cX5_valueTo 23 = .ok (.idiv, 1) := dk_108 (dk_at dksX5_valueTo_0 23 rfl rfl)
theorem dX5_valueTo_24 : decode cX5_valueTo 24 = .ok (.ireturn, 1) := dk_172 (dk_at dksX5_valueTo_1 0 rfl rfl)
abbrev cX5_as : ByteArray := prog_20_method_20_code
def yX5_as : MethodName := ⟨RX5, "as", "(II)I"⟩
def dkwX5_as_2 : List UInt8 := [182, 0, 60, 172]
abbrev dktX5_as_2 : List UInt8 := dkwX5_as_2 ++ []
def dkwX5_as_1 : List UInt8 := [42, 27, 3, 182, 0, 79, 28, 184, 0, 88, 153, 0, 12, 42, 27, 4, 182, 0, 79, 167, 0, 8, 42, 8]
abbrev dktX5_as_1 : List UInt8 := dkwX5_as_1 ++ dktX5_as_2
def dkwX5_as_0 : List UInt8 := [42, 27, 182, 0, 76, 153, 0, 13, 28, 3, 16, 6, 184, 0, 47, 154, 0, 9, 42, 4, 182, 0, 60, 172]
abbrev dktX5_as_0 : List UInt8 := dkwX5_as_0 ++ dktX5_as_1
theorem dksX5_as_0 : cX5_as.data.toList.drop 0 = dktX5_as_0 := by decide +kernel
theorem dksX5_as_1 : cX5_as.data.toList.drop 24 = dktX5_as_1 := dk_seg dksX5_as_0 24 rfl rfl
theorem dksX5_as_2 : cX5_as.data.toList.drop 48 = dktX5_as_2 := dk_seg dksX5_as_1 24 rfl rfl
theorem dX5_as_0 : decode cX5_as 0 = .ok (.aload_n 0, 1) := dk_42 (dk_at dksX5_as_0 0 rfl rfl)
theorem dX5_as_1 : decode cX5_as 1 = .ok (.iload_n 1, 1) := dk_27 (dk_at dksX5_as_0 1 rfl rfl)
theorem dX5_as_2 : decode cX5_as 2 = .ok (.invokevirtual 76, 3) := dk_182 0 76 (dk_at dksX5_as_0 2 rfl rfl)
theorem dX5_as_5 : decode cX5_as 5 = .ok (.ifCond .eq 13, 3) := dk_153 0 13 (dk_at dksX5_as_0 5 rfl rfl)
theorem dX5_as_8 : decode cX5_as 8 = .ok (.iload_n 2, 1) := dk_28 (dk_at dksX5_as_0 8 rfl rfl)
theorem dX5_as_9 : decode cX5_as 9 = .ok (.iconst 0, 1) := dk_3 (dk_at dksX5_as_0 9 rfl rfl)
theorem dX5_as_10 : decode cX5_as 10 = .ok (.bipush 6, 2) := dk_16 6 (dk_at dksX5_as_0 10 rfl rfl)
theorem dX5_as_12 : decode cX5_as 12 = .ok (.invokestatic 47, 3) := dk_184 0 47 (dk_at dksX5_as_0 12 rfl rfl)
theorem dX5_as_15 : decode cX5_as 15 = .ok (.ifCond .ne 9, 3) := dk_154 0 9 (dk_at dksX5_as_0 15 rfl rfl)
theorem dX5_as_18 : decode cX5_as 18 = .ok (.aload_n 0, 1) := dk_42 (dk_at dksX5_as_0 18 rfl rfl)
theorem dX5_as_19 : decode cX5_as 19 = .ok (.iconst 1, 1) := dk_4 (dk_at dksX5_as_0 19 rfl rfl)
theorem dX5_as_20 : decode cX5_as 20 = .ok (.invokevirtual 60, 3) := dk_182 0 60 (dk_at dksX5_as_0 20 rfl rfl)
theorem dX5_as_23 : decode cX5_as 23 = .ok (.ireturn, 1) := dk_172 (dk_at dksX5_as_0 23 rfl rfl)
theorem dX5_as_24 : decode cX5_as 24 = .ok (.aload_n 0, 1) := dk_42 (dk_at dksX5_as_1 0 rfl rfl)
theorem dX5_as_25 : decode cX5_as 25 = .ok (.iload_n 1, 1) := dk_27 (dk_at dksX5_as_1 1 rfl rfl)
theorem dX5_as_26 : decode cX5_as 26 = .ok (.iconst 0, 1) := dk_3 (dk_at dksX5_as_1 2 rfl rfl)
theorem dX5_as_27 : decode cX5_as 27 = .ok (.invokevirtual 79, 3) := dk_182 0 79 (dk_at dksX5_as_1 3 rfl rfl)
theorem dX5_as_30 : decode cX5_as 30 = .ok (.iload_n 2, 1) := dk_28 (dk_at dksX5_as_1 6 rfl rfl)
theorem dX5_as_31 : decode cX5_as 31 = .ok (.invokestatic 88, 3) := dk_184 0 88 (dk_at dksX5_as_1 7 rfl rfl)
theorem dX5_as_34 : decode cX5_as 34 = .ok (.ifCond .eq 12, 3) := dk_153 0 12 (dk_at dksX5_as_1 10 rfl rfl)
theorem dX5_as_37 : decode cX5_as 37 = .ok (.aload_n 0, 1) := dk_42 (dk_at dksX5_as_1 13 rfl rfl)
theorem dX5_as_38 : decode cX5_as 38 = .ok (.iload_n 1, 1) := dk_27 (dk_at dksX5_as_1 14 rfl rfl)
theorem dX5_as_39 : decode cX5_as 39 = .ok (.iconst 1, 1) := dk_4 (dk_at dksX5_as_1 15 rfl rfl)
theorem dX5_as_40 : decode cX5_as 40 = .ok (.invokevirtual 79, 3) := dk_182 0 79 (dk_at dksX5_as_1 16 rfl rfl)
theorem dX5_as_43 : decode cX5_as 43 = .ok (.goto 8, 3) := dk_167 0 8 (dk_at dksX5_as_1 19 rfl rfl)
theorem dX5_as_46 : decode cX5_as 46 = .ok (.aload_n 0, 1) := dk_42 (dk_at dksX5_as_1 22 rfl rfl)
theorem dX5_as_47 : decode cX5_as 47 = .ok (.iconst 5, 1) := dk_8 (dk_at dksX5_as_1 23 rfl rfl)
theorem dX5_as_48 : decode cX5_as 48 = .ok (.invokevirtual 60, 3) := dk_182 0 60 (dk_at dksX5_as_2 0 rfl rfl)
theorem dX5_as_51 : decode cX5_as 51 = .ok (.ireturn, 1) := dk_172 (dk_at dksX5_as_2 3 rfl rfl)
abbrev cX5_isUnder : ByteArray := prog_20_method_19_code
def yX5_isUnder : MethodName := ⟨RX5, "isUnder", "(II)Z"⟩
def dkwX5_isUnder_1 : List UInt8 := [26, 16, 6, 160, 0, 7, 4, 167, 0, 4, 3, 172]
abbrev dktX5_isUnder_1 : List UInt8 := dkwX5_isUnder_1 ++ []
def dkwX5_isUnder_0 : List UInt8 := [27, 153, 0, 29, 26, 27, 159, 0, 24, 27, 4, 160, 0, 23, 26, 5, 159, 0, 14, 26, 6, 159, 0, 9]
abbrev dktX5_isUnder_0 : List UInt8 := dkwX5_isUnder_0 ++ dktX5_isUnder_1
theorem dksX5_isUnder_0 : cX5_isUnder.data.toList.drop 0 = dktX5_isUnder_0 := by decide +kernel
theorem dksX5_isUnder_1 : cX5_isUnder.data.toList.drop 24 = dktX5_isUnder_1 := dk_seg dksX5_isUnder_0 24 rfl rfl
theorem dX5_isUnder_0 : decode cX5_isUnder 0 = .ok (.iload_n 1, 1) := dk_27 (dk_at dksX5_isUnder_0 0 rfl rfl)
theorem dX5_isUnder_1 : decode cX5_isUnder 1 = .ok (.ifCond .eq 29, 3) := dk_153 0 29 (dk_at dksX5_isUnder_0 1 rfl rfl)
theorem dX5_isUnder_4 : decode cX5_isUnder 4 = .ok (.iload_n 0, 1) := dk_26 (dk_at dksX5_isUnder_0 4 rfl rfl)
theorem dX5_isUnder_5 : decode cX5_isUnder 5 = .ok (.iload_n 1, 1) := dk_27 (dk_at dksX5_isUnder_0 5 rfl rfl)
theorem dX5_isUnder_6 : decode cX5_isUnder 6 = .ok (.if_icmp .eq 24, 3) := dk_159 0 24 (dk_at dksX5_isUnder_0 6 rfl rfl)
theorem dX5_isUnder_9 : decode cX5_isUnder 9 = .ok (.iload_n 1, 1) := dk_27 (dk_at dksX5_isUnder_0 9 rfl rfl)
theorem dX5_isUnder_10 : decode cX5_isUnder 10 = .ok (.iconst 1, 1) := dk_4 (dk_at dksX5_isUnder_0 10 rfl rfl)
theorem dX5_isUnder_11 : decode cX5_isUnder 11 = .ok (.if_icmp .ne 23, 3) := dk_160 0 23 (dk_at dksX5_isUnder_0 11 rfl rfl)
theorem dX5_isUnder_14 : decode cX5_isUnder 14 = .ok (.iload_n 0, 1) := dk_26 (dk_at dksX5_isUnder_0 14 rfl rfl)
theorem dX5_isUnder_15 : decode cX5_isUnder 15 = .ok (.iconst 2, 1) := dk_5 (dk_at dksX5_isUnder_0 15 rfl rfl)
theorem dX5_isUnder_16 : decode cX5_isUnder 16 = .ok (.if_icmp .eq 14, 3) := dk_159 0 14 (dk_at dksX5_isUnder_0 16 rfl rfl)
theorem dX5_isUnder_19 : decode cX5_isUnder 19 = .ok (.iload_n 0, 1) := dk_26 (dk_at dksX5_isUnder_0 19 rfl rfl)
theorem dX5_isUnder_20 : decode cX5_isUnder 20 = .ok (.iconst 3, 1) := dk_6 (dk_at dksX5_isUnder_0 20 rfl rfl)
theorem dX5_isUnder_21 : decode cX5_isUnder 21 = .ok (.if_icmp .eq 9, 3) := dk_159 0 9 (dk_at dksX5_isUnder_0 21 rfl rfl)
theorem dX5_isUnder_24 : decode cX5_isUnder 24 = .ok (.iload_n 0, 1) := dk_26 (dk_at dksX5_isUnder_1 0 rfl rfl)
theorem dX5_isUnder_25 : decode cX5_isUnder 25 = .ok (.bipush 6, 2) := dk_16 6 (dk_at dksX5_isUnder_1 1 rfl rfl)
theorem dX5_isUnder_27 : decode cX5_isUnder 27 = .ok (.if_icmp .ne 7, 3) := dk_160 0 7 (dk_at dksX5_isUnder_1 3 rfl rfl)
theorem dX5_isUnder_30 : decode cX5_isUnder 30 = .ok (.iconst 1, 1) := dk_4 (dk_at dksX5_isUnder_1 6 rfl rfl)
theorem dX5_isUnder_31 : decode cX5_isUnder 31 = .ok (.goto 4, 3) := dk_167 0 4 (dk_at dksX5_isUnder_1 7 rfl rfl)
theorem dX5_isUnder_34 : decode cX5_isUnder 34 = .ok (.iconst 0, 1) := dk_3 (dk_at dksX5_isUnder_1 10 rfl rfl)
theorem dX5_isUnder_35 : decode cX5_isUnder 35 = .ok (.ireturn, 1) := dk_172 (dk_at dksX5_isUnder_1 11 rfl rfl)
abbrev cX5_become : ByteArray := prog_20_method_21_code
def yX5_become : MethodName := ⟨RX5, "become", "(II)I"⟩
def dkwX5_become_1 : List UInt8 := [42, 27, 3, 182, 0, 79, 62, 42, 180, 0, 7, 16, 20, 7, 27, 104, 96, 3, 96, 28, 79, 29, 172]
abbrev dktX5_become_1 : List UInt8 := dkwX5_become_1 ++ []
def dkwX5_become_0 : List UInt8 := [42, 27, 182, 0, 76, 153, 0, 13, 28, 3, 16, 6, 184, 0, 47, 154, 0, 9, 42, 4, 182, 0, 60, 172]
abbrev dktX5_become_0 : List UInt8 := dkwX5_become_0 ++ dktX5_become_1
theorem dksX5_become_0 : cX5_become.data.toList.drop 0 = dktX5_become_0 := by decide +kernel
theorem dksX5_become_1 : cX5_become.data.toList.drop 24 = dktX5_become_1 := dk_seg dksX5_become_0 24 rfl rfl
theorem dX5_become_0 : decode cX5_become 0 = .ok (.aload_n 0, 1) := dk_42 (dk_at dksX5_become_0 0 rfl rfl)
theorem dX5_become_1 : decode cX5_become 1 = .ok (.iload_n 1, 1) := dk_27 (dk_at dksX5_become_0 1 rfl rfl)
theorem dX5_become_2 : decode cX5_become 2 = .ok (.invokevirtual 76, 3) := dk_182 0 76 (dk_at dksX5_become_0 2 rfl rfl)
theorem dX5_become_5 : decode cX5_become 5 = .ok (.ifCond .eq 13, 3) := dk_153 0 13 (dk_at dksX5_become_0 5 rfl rfl)
theorem dX5_become_8 : decode cX5_become 8 = .ok (.iload_n 2, 1) := dk_28 (dk_at dksX5_become_0 8 rfl rfl)
theorem dX5_become_9 : decode cX5_become 9 = .ok (.iconst 0, 1) := dk_3 (dk_at dksX5_become_0 9 rfl rfl)
theorem dX5_become_10 : decode cX5_become 10 = .ok (.bipush 6, 2) := dk_16 6 (dk_at dksX5_become_0 10 rfl rfl)
theorem dX5_become_12 : decode cX5_become 12 = .ok (.invokestatic 47, 3) := dk_184 0 47 (dk_at dksX5_become_0 12 rfl rfl)
theorem dX5_become_15 : decode cX5_become 15 = .ok (.ifCond .ne 9, 3) := dk_154 0 9 (dk_at dksX5_become_0 15 rfl rfl)
theorem dX5_become_18 : decode cX5_become 18 = .ok (.aload_n 0, 1) := dk_42 (dk_at dksX5_become_0 18 rfl rfl)
theorem dX5_become_19 : decode cX5_become 19 = .ok (.iconst 1, 1) := dk_4 (dk_at dksX5_become_0 19 rfl rfl)
theorem dX5_become_20 : decode cX5_become 20 = .ok (.invokevirtual 60, 3) := dk_182 0 60 (dk_at dksX5_become_0 20 rfl rfl)
theorem dX5_become_23 : decode cX5_become 23 = .ok (.ireturn, 1) := dk_172 (dk_at dksX5_become_0 23 rfl rfl)
theorem dX5_become_24 : decode cX5_become 24 = .ok (.aload_n 0, 1) := dk_42 (dk_at dksX5_become_1 0 rfl rfl)
theorem dX5_become_25 : decode cX5_become 25 = .ok (.iload_n 1, 1) := dk_27 (dk_at dksX5_become_1 1 rfl rfl)
theorem dX5_become_26 : decode cX5_become 26 = .ok (.iconst 0, 1) := dk_3 (dk_at dksX5_become_1 2 rfl rfl)
theorem dX5_become_27 : decode cX5_become 27 = .ok (.invokevirtual 79, 3) := dk_182 0 79 (dk_at dksX5_become_1 3 rfl rfl)
theorem dX5_become_30 : decode cX5_become 30 = .ok (.istore_n 3, 1) := dk_62 (dk_at dksX5_become_1 6 rfl rfl)
theorem dX5_become_31 : decode cX5_become 31 = .ok (.aload_n 0, 1) := dk_42 (dk_at dksX5_become_1 7 rfl rfl)
theorem dX5_become_32 : decode cX5_become 32 = .ok (.getfield 7, 3) := dk_180 0 7 (dk_at dksX5_become_1 8 rfl rfl)
theorem dX5_become_35 : decode cX5_become 35 = .ok (.bipush 20, 2) := dk_16 20 (dk_at dksX5_become_1 11 rfl rfl)
theorem dX5_become_37 : decode cX5_become 37 = .ok (.iconst 4, 1) := dk_7 (dk_at dksX5_become_1 13 rfl rfl)
theorem dX5_become_38 : decode cX5_become 38 = .ok (.iload_n 1, 1) := dk_27 (dk_at dksX5_become_1 14 rfl rfl)
theorem dX5_become_39 : decode cX5_become 39 = .ok (.imul, 1) := dk_104 (dk_at dksX5_become_1 15 rfl rfl)
theorem dX5_become_40 : decode cX5_become 40 = .ok (.iadd, 1) := dk_96 (dk_at dksX5_become_1 16 rfl rfl)
theorem dX5_become_41 : decode cX5_become 41 = .ok (.iconst 0, 1) := dk_3 (dk_at dksX5_become_1 17 rfl rfl)
theorem dX5_become_42 : decode cX5_become 42 = .ok (.iadd, 1) := dk_96 (dk_at dksX5_become_1 18 rfl rfl)
theorem dX5_become_43 : decode cX5_become 43 = .ok (.iload_n 2, 1) := dk_28 (dk_at dksX5_become_1 19 rfl rfl)
theorem dX5_become_44 : decode cX5_become 44 = .ok (.iastore, 1) := dk_79 (dk_at dksX5_become_1 20 rfl rfl)
theorem dX5_become_45 : decode cX5_become 45 = .ok (.iload_n 3, 1) := dk_29 (dk_at dksX5_become_1 21 rfl rfl)
theorem dX5_become_46 : decode cX5_become 46 = .ok (.ireturn, 1) := dk_172 (dk_at dksX5_become_1 22 rfl rfl)
abbrev cX5_purse : ByteArray := prog_20_method_22_code
def yX5_purse : MethodName := ⟨RX5, "purse", "(II)I"⟩
def dkwX5_purse_1 : List UInt8 := [42, 27, 4, 182, 0, 79, 62, 42, 180, 0, 7, 16, 20, 7, 27, 104, 96, 4, 96, 28, 79, 29, 172]
abbrev dktX5_purse_1 : List UInt8 := dkwX5_purse_1 ++ []
def dkwX5_purse_0 : List UInt8 := [42, 27, 182, 0, 76, 153, 0, 13, 28, 3, 18, 55, 184, 0, 47, 154, 0, 9, 42, 4, 182, 0, 60, 172]
abbrev dktX5_purse_0 : List UInt8 := dkwX5_purse_0 ++ dktX5_purse_1
theorem dksX5_purse_0 : cX5_purse.data.toList.drop 0 = dktX5_purse_0 := by decide +kernel
theorem dksX5_purse_1 : cX5_purse.data.toList.drop 24 = dktX5_purse_1 := dk_seg dksX5_purse_0 24 rfl rfl
theorem dX5_purse_0 : decode cX5_purse 0 = .ok (.aload_n 0, 1) := dk_42 (dk_at dksX5_purse_0 0 rfl rfl)
theorem dX5_purse_1 : decode cX5_purse 1 = .ok (.iload_n 1, 1) := dk_27 (dk_at dksX5_purse_0 1 rfl rfl)
theorem dX5_purse_2 : decode cX5_purse 2 = .ok (.invokevirtual 76, 3) := dk_182 0 76 (dk_at dksX5_purse_0 2 rfl rfl)
theorem dX5_purse_5 : decode cX5_purse 5 = .ok (.ifCond .eq 13, 3) := dk_153 0 13 (dk_at dksX5_purse_0 5 rfl rfl)
theorem dX5_purse_8 : decode cX5_purse 8 = .ok (.iload_n 2, 1) := dk_28 (dk_at dksX5_purse_0 8 rfl rfl)
theorem dX5_purse_9 : decode cX5_purse 9 = .ok (.iconst 0, 1) := dk_3 (dk_at dksX5_purse_0 9 rfl rfl)
theorem dX5_purse_10 : decode cX5_purse 10 = .ok (.ldc 55, 2) := dk_18 55 (dk_at dksX5_purse_0 10 rfl rfl)
theorem dX5_purse_12 : decode cX5_purse 12 = .ok (.invokestatic 47, 3) := dk_184 0 47 (dk_at dksX5_purse_0 12 rfl rfl)
theorem dX5_purse_15 : decode cX5_purse 15 = .ok (.ifCond .ne 9, 3) := dk_154 0 9 (dk_at dksX5_purse_0 15 rfl rfl)
theorem dX5_purse_18 : decode cX5_purse 18 = .ok (.aload_n 0, 1) := dk_42 (dk_at dksX5_purse_0 18 rfl rfl)
theorem dX5_purse_19 : decode cX5_purse 19 = .ok (.iconst 1, 1) := dk_4 (dk_at dksX5_purse_0 19 rfl rfl)
theorem dX5_purse_20 : decode cX5_purse 20 = .ok (.invokevirtual 60, 3) := dk_182 0 60 (dk_at dksX5_purse_0 20 rfl rfl)
theorem dX5_purse_23 : decode cX5_purse 23 = .ok (.ireturn, 1) := dk_172 (dk_at dksX5_purse_0 23 rfl rfl)
theorem dX5_purse_24 : decode cX5_purse 24 = .ok (.aload_n 0, 1) := dk_42 (dk_at dksX5_purse_1 0 rfl rfl)
theorem dX5_purse_25 : decode cX5_purse 25 = .ok (.iload_n 1, 1) := dk_27 (dk_at dksX5_purse_1 1 rfl rfl)
theorem dX5_purse_26 : decode cX5_purse 26 = .ok (.iconst 1, 1) := dk_4 (dk_at dksX5_purse_1 2 rfl rfl)
theorem dX5_purse_27 : decode cX5_purse 27 = .ok (.invokevirtual 79, 3) := dk_182 0 79 (dk_at dksX5_purse_1 3 rfl rfl)
theorem dX5_purse_30 : decode cX5_purse 30 = .ok (.istore_n 3, 1) := dk_62 (dk_at dksX5_purse_1 6 rfl rfl)
theorem dX5_purse_31 : decode cX5_purse 31 = .ok (.aload_n 0, 1) := dk_42 (dk_at dksX5_purse_1 7 rfl rfl)
theorem dX5_purse_32 : decode cX5_purse 32 = .ok (.getfield 7, 3) := dk_180 0 7 (dk_at dksX5_purse_1 8 rfl rfl)
theorem dX5_purse_35 : decode cX5_purse 35 = .ok (.bipush 20, 2) := dk_16 20 (dk_at dksX5_purse_1 11 rfl rfl)
theorem dX5_purse_37 : decode cX5_purse 37 = .ok (.iconst 4, 1) := dk_7 (dk_at dksX5_purse_1 13 rfl rfl)
theorem dX5_purse_38 : decode cX5_purse 38 = .ok (.iload_n 1, 1) := dk_27 (dk_at dksX5_purse_1 14 rfl rfl)
theorem dX5_purse_39 : decode cX5_purse 39 = .ok (.imul, 1) := dk_104 (dk_at dksX5_purse_1 15 rfl rfl)
theorem dX5_purse_40 : decode cX5_purse 40 = .ok (.iadd, 1) := dk_96 (dk_at dksX5_purse_1 16 rfl rfl)
theorem dX5_purse_41 : decode cX5_purse 41 = .ok (.iconst 1, 1) := dk_4 (dk_at dksX5_purse_1 17 rfl rfl)
theorem dX5_purse_42 : decode cX5_purse 42 = .ok (.iadd, 1) := dk_96 (dk_at dksX5_purse_1 18 rfl rfl)
theorem dX5_purse_43 : decode cX5_purse 43 = .ok (.iload_n 2, 1) := dk_28 (dk_at dksX5_purse_1 19 rfl rfl)
theorem dX5_purse_44 : decode cX5_purse 44 = .ok (.iastore, 1) := dk_79 (dk_at dksX5_purse_1 20 rfl rfl)
theorem dX5_purse_45 : decode cX5_purse 45 = .ok (.iload_n 3, 1) := dk_29 (dk_at dksX5_purse_1 21 rfl rfl)
theorem dX5_purse_46 : decode cX5_purse 46 = .ok (.ireturn, 1) := dk_172 (dk_at dksX5_purse_1 22 rfl rfl)
abbrev cX5_thing : ByteArray := prog_20_method_23_code
def yX5_thing : MethodName := ⟨RX5, "thing", "(II)I"⟩
def dkwX5_thing_4 : List UInt8 := [180, 0, 7, 4, 92, 46, 4, 96, 79, 42, 180, 0, 7, 4, 46, 4, 100, 172]
abbrev dktX5_thing_4 : List UInt8 := dkwX5_thing_4 ++ []
def dkwX5_thing_3 : List UInt8 := [28, 79, 42, 180, 0, 7, 29, 5, 96, 16, 100, 79, 42, 180, 0, 7, 29, 6, 96, 3, 79, 42]
abbrev dktX5_thing_3 : List UInt8 := dkwX5_thing_3 ++ dktX5_thing_4
def dkwX5_thing_2 : List UInt8 := [180, 0, 7, 4, 46, 104, 96, 62, 42, 180, 0, 7, 29, 3, 96, 27, 79, 42, 180, 0, 7, 29, 4, 96]
abbrev dktX5_thing_2 : List UInt8 := dkwX5_thing_2 ++ dktX5_thing_3
def dkwX5_thing_1 : List UInt8 := [172, 42, 180, 0, 7, 4, 46, 16, 12, 160, 0, 9, 42, 7, 182, 0, 60, 172, 16, 44, 7, 42]
abbrev dktX5_thing_1 : List UInt8 := dkwX5_thing_1 ++ dktX5_thing_2
def dkwX5_thing_0 : List UInt8 := [42, 27, 182, 0, 76, 153, 0, 14, 28, 3, 17, 39, 15, 184, 0, 47, 154, 0, 9, 42, 4, 182, 0, 60]
abbrev dktX5_thing_0 : List UInt8 := dkwX5_thing_0 ++ dktX5_thing_1
theorem dksX5_thing_0 : cX5_thing.data.toList.drop 0 = dktX5_thing_0 := by decide +kernel
theorem dksX5_thing_1 : cX5_thing.data.toList.drop 24 = dktX5_thing_1 := dk_seg dksX5_thing_0 24 rfl rfl
theorem dksX5_thing_2 : cX5_thing.data.toList.drop 46 = dktX5_thing_2 := dk_seg dksX5_thing_1 22 rfl rfl
theorem dksX5_thing_3 : cX5_thing.data.toList.drop 70 = dktX5_thing_3 := dk_seg dksX5_thing_2 24 rfl rfl
theorem dksX5_thing_4 : cX5_thing.data.toList.drop 92 = dktX5_thing_4 := dk_seg dksX5_thing_3 22 rfl rfl
theorem dX5_thing_0 : decode cX5_thing 0 = .ok (.aload_n 0, 1) := dk_42 (dk_at dksX5_thing_0 0 rfl rfl)
theorem dX5_thing_1 : decode cX5_thing 1 = .ok (.iload_n 1, 1) := dk_27 (dk_at dksX5_thing_0 1 rfl rfl)
theorem dX5_thing_2 : decode cX5_thing 2 = .ok (.invokevirtual 76, 3) := dk_182 0 76 (dk_at dksX5_thing_0 2 rfl rfl)
theorem dX5_thing_5 : decode cX5_thing 5 = .ok (.ifCond .eq 14, 3) := dk_153 0 14 (dk_at dksX5_thing_0 5 rfl rfl)
theorem dX5_thing_8 : decode cX5_thing 8 = .ok (.iload_n 2, 1) := dk_28 (dk_at dksX5_thing_0 8 rfl rfl)
theorem dX5_thing_9 : decode cX5_thing 9 = .ok (.iconst 0, 1) := dk_3 (dk_at dksX5_thing_0 9 rfl rfl)
theorem dX5_thing_10 : decode cX5_thing 10 = .ok (.sipush 9999, 3) := dk_17 39 15 (dk_at dksX5_thing_0 10 rfl rfl)
theorem dX5_thing_13 : decode cX5_thing 13 = .ok (.invokestatic 47, 3) := dk_184 0 47 (dk_at dksX5_thing_0 13 rfl rfl)
theorem dX5_thing_16 : decode cX5_thing 16 = .ok (.ifCond .ne 9, 3) := dk_154 0 9 (dk_at dksX5_thing_0 16 rfl rfl)
theorem dX5_thing_19 : decode cX5_thing 19 = .ok (.aload_n 0, 1) := dk_42 (dk_at dksX5_thing_0 19 rfl rfl)
theorem dX5_thing_20 : decode cX5_thing 20 = .ok (.iconst 1, 1) := dk_4 (dk_at dksX5_thing_0 20 rfl rfl)
theorem dX5_thing_21 : decode cX5_thing 21 = .ok (.invokevirtual 60, 3) := dk_182 0 60 (dk_at dksX5_thing_0 21 rfl rfl)
theorem dX5_thing_24 : decode cX5_thing 24 = .ok (.ireturn, 1) := dk_172 (dk_at dksX5_thing_1 0 rfl rfl)
theorem dX5_thing_25 : decode cX5_thing 25 = .ok (.aload_n 0, 1) := dk_42 (dk_at dksX5_thing_1 1 rfl rfl)
theorem dX5_thing_26 : decode cX5_thing 26 = .ok (.getfield 7, 3) := dk_180 0 7 (dk_at dksX5_thing_1 2 rfl rfl)
theorem dX5_thing_29 : decode cX5_thing 29 = .ok (.iconst 1, 1) := dk_4 (dk_at dksX5_thing_1 5 rfl rfl)
theorem dX5_thing_30 : decode cX5_thing 30 = .ok (.iaload, 1) := dk_46 (dk_at dksX5_thing_1 6 rfl rfl)
theorem dX5_thing_31 : decode cX5_thing 31 = .ok (.bipush 12, 2) := dk_16 12 (dk_at dksX5_thing_1 7 rfl rfl)
theorem dX5_thing_33 : decode cX5_thing 33 = .ok (.if_icmp .ne 9, 3) := dk_160 0 9 (dk_at dksX5_thing_1 9 rfl rfl)
theorem dX5_thing_36 : decode cX5_thing 36 = .ok (.aload_n 0, 1) := dk_42 (dk_at dksX5_thing_1 12 rfl rfl)
theorem dX5_thing_37 : decode cX5_thing 37 = .ok (.iconst 4, 1) := dk_7 (dk_at dksX5_thing_1 13 rfl rfl)
theorem dX5_thing_38 : decode cX5_thing 38 = .ok (.invokevirtual 60, 3) := dk_182 0 60 (dk_at dksX5_thing_1 14 rfl rfl)
theorem dX5_thing_41 : decode cX5_thing 41 = .ok (.ireturn, 1) := dk_172 (dk_at dksX5_thing_1 17 rfl rfl)
theorem dX5_thing_42 : decode cX5_thing 42 = .ok (.bipush 44, 2) := dk_16 44 (dk_at dksX5_thing_1 18 rfl rfl)
theorem dX5_thing_44 : decode cX5_thing 44 = .ok (.iconst 4, 1) := dk_7 (dk_at dksX5_thing_1 20 rfl rfl)
theorem dX5_thing_45 : decode cX5_thing 45 = .ok (.aload_n 0, 1) := dk_42 (dk_at dksX5_thing_1 21 rfl rfl)
theorem dX5_thing_46 : decode cX5_thing 46 = .ok (.getfield 7, 3) := dk_180 0 7 (dk_at dksX5_thing_2 0 rfl rfl)
theorem dX5_thing_49 : decode cX5_thing 49 = .ok (.iconst 1, 1) := dk_4 (dk_at dksX5_thing_2 3 rfl rfl)
theorem dX5_thing_50 : decode cX5_thing 50 = .ok (.iaload, 1) := dk_46 (dk_at dksX5_thing_2 4 rfl rfl)
theorem dX5_thing_51 : decode cX5_thing 51 = .ok (.imul, 1) := dk_104 (dk_at dksX5_thing_2 5 rfl rfl)
theorem dX5_thing_52 : decode cX5_thing 52 = .ok (.iadd, 1) := dk_96 (dk_at dksX5_thing_2 6 rfl rfl)
theorem dX5_thing_53 : decode cX5_thing 53 = .ok (.istore_n 3, 1) := dk_62 (dk_at dksX5_thing_2 7 rfl rfl)
theorem dX5_thing_54 : decode cX5_thing 54 = .ok (.aload_n 0, 1) := dk_42 (dk_at dksX5_thing_2 8 rfl rfl)
theorem dX5_thing_55 : decode cX5_thing 55 = .ok (.getfield 7, 3) := dk_180 0 7 (dk_at dksX5_thing_2 9 rfl rfl)
theorem dX5_thing_58 : decode cX5_thing 58 = .ok (.iload_n 3, 1) := dk_29 (dk_at dksX5_thing_2 12 rfl rfl)
theorem dX5_thing_59 : decode cX5_thing 59 = .ok (.iconst 0, 1) := dk_3 (dk_at dksX5_thing_2 13 rfl rfl)
theorem dX5_thing_60 : decode cX5_thing 60 = .ok (.iadd, 1) := dk_96 (dk_at dksX5_thing_2 14 rfl rfl)
theorem dX5_thing_61 : decode cX5_thing 61 = .ok (.iload_n 1, 1) := dk_27 (dk_at dksX5_thing_2 15 rfl rfl)
theorem dX5_thing_62 : decode cX5_thing 62 = .ok (.iastore, 1) := dk_79 (dk_at dksX5_thing_2 16 rfl rfl)
theorem dX5_thing_63 : decode cX5_thing 63 = .ok (.aload_n 0, 1) := dk_42 (dk_at dksX5_thing_2 17 rfl rfl)
theorem dX5_thing_64 : decode cX5_thing 64 = .ok (.getfield 7, 3) := dk_180 0 7 (dk_at dksX5_thing_2 18 rfl rfl)
theorem dX5_thing_67 : decode cX5_thing 67 = .ok (.iload_n 3, 1) := dk_29 (dk_at dksX5_thing_2 21 rfl rfl)
theorem dX5_thing_68 : decode cX5_thing 68 = .ok (.iconst 1, 1) := dk_4 (dk_at dksX5_thing_2 22 rfl rfl)
theorem dX5_thing_69 : decode cX5_thing 69 = .ok (.iadd, 1) := dk_96 (dk_at dksX5_thing_2 23 rfl rfl)
theorem dX5_thing_70 : decode cX5_thing 70 = .ok (.iload_n 2, 1) := dk_28 (dk_at dksX5_thing_3 0 rfl rfl)
theorem dX5_thing_71 : decode cX5_thing 71 = .ok (.iastore, 1) := dk_79 (dk_at dksX5_thing_3 1 rfl rfl)
theorem dX5_thing_72 : decode cX5_thing 72 = .ok (.aload_n 0, 1) := dk_42 (dk_at dksX5_thing_3 2 rfl rfl)
theorem dX5_thing_73 : decode cX5_thing 73 = .ok (.getfield 7, 3) := dk_180 0 7 (dk_at dksX5_thing_3 3 rfl rfl)
theorem dX5_thing_76 : decode cX5_thing 76 = .ok (.iload_n 3, 1) := dk_29 (dk_at dksX5_thing_3 6 rfl rfl)
theorem dX5_thing_77 : decode cX5_thing 77 = .ok (.iconst 2, 1) := dk_5 (dk_at dksX5_thing_3 7 rfl rfl)
theorem dX5_thing_78 : decode cX5_thing 78 = .ok (.iadd, 1) := dk_96 (dk_at dksX5_thing_3 8 rfl rfl)
theorem dX5_thing_79 : decode cX5_thing 79 = .ok (.bipush 100, 2) := dk_16 100 (dk_at dksX5_thing_3 9 rfl rfl)
theorem dX5_thing_81 : decode cX5_thing 81 = .ok (.iastore, 1) := dk_79 (dk_at dksX5_thing_3 11 rfl rfl)
theorem dX5_thing_82 : decode cX5_thing 82 = .ok (.aload_n 0, 1) := dk_42 (dk_at dksX5_thing_3 12 rfl rfl)
theorem dX5_thing_83 : decode cX5_thing 83 = .ok (.getfield 7, 3) := dk_180 0 7 (dk_at dksX5_thing_3 13 rfl rfl)
theorem dX5_thing_86 : decode cX5_thing 86 = .ok (.iload_n 3, 1) := dk_29 (dk_at dksX5_thing_3 16 rfl rfl)
theorem dX5_thing_87 : decode cX5_thing 87 = .ok (.iconst 3, 1) := dk_6 (dk_at dksX5_thing_3 17 rfl rfl)
theorem dX5_thing_88 : decode cX5_thing 88 = .ok (.iadd, 1) := dk_96 (dk_at dksX5_thing_3 18 rfl rfl)
theorem dX5_thing_89 : decode cX5_thing 89 = .ok (.iconst 0, 1) := dk_3 (dk_at dksX5_thing_3 19 rfl rfl)
theorem dX5_thing_90 : decode cX5_thing 90 = .ok (.iastore, 1) := dk_79 (dk_at dksX5_thing_3 20 rfl rfl)
theorem dX5_thing_91 : decode cX5_thing 91 = .ok (.aload_n 0, 1) := dk_42 (dk_at dksX5_thing_3 21 rfl rfl)
theorem dX5_thing_92 : decode cX5_thing 92 = .ok (.getfield 7, 3) := dk_180 0 7 (dk_at dksX5_thing_4 0 rfl rfl)
theorem dX5_thing_95 : decode cX5_thing 95 = .ok (.iconst 1, 1) := dk_4 (dk_at dksX5_thing_4 3 rfl rfl)
theorem dX5_thing_96 : decode cX5_thing 96 = .ok (.dup2, 1) := dk_92 (dk_at dksX5_thing_4 4 rfl rfl)
theorem dX5_thing_97 : decode cX5_thing 97 = .ok (.iaload, 1) := dk_46 (dk_at dksX5_thing_4 5 rfl rfl)
theorem dX5_thing_98 : decode cX5_thing 98 = .ok (.iconst 1, 1) := dk_4 (dk_at dksX5_thing_4 6 rfl rfl)
theorem dX5_thing_99 : decode cX5_thing 99 = .ok (.iadd, 1) := dk_96 (dk_at dksX5_thing_4 7 rfl rfl)
theorem dX5_thing_100 : decode cX5_thing 100 = .ok (.iastore, 1) := dk_79 (dk_at dksX5_thing_4 8 rfl rfl)
theorem dX5_thing_101 : decode cX5_thing 101 = .ok (.aload_n 0, 1) := dk_42 (dk_at dksX5_thing_4 9 rfl rfl)
theorem dX5_thing_102 : decode cX5_thing 102 = .ok (.getfield 7, 3) := dk_180 0 7 (dk_at dksX5_thing_4 10 rfl rfl)
theorem dX5_thing_105 : decode cX5_thing 105 = .ok (.iconst 1, 1) := dk_4 (dk_at dksX5_thing_4 13 rfl rfl)
theorem dX5_thing_106 : decode cX5_thing 106 = .ok (.iaload, 1) := dk_46 (dk_at dksX5_thing_4 14 rfl rfl)
theorem dX5_thing_107 : decode cX5_thing 107 = .ok (.iconst 1, 1) := dk_4 (dk_at dksX5_thing_4 15 rfl rfl)
theorem dX5_thing_108 : decode cX5_thing 108 = .ok (.isub, 1) := dk_100 (dk_at dksX5_thing_4 16 rfl rfl)
theorem dX5_thing_109 : decode cX5_thing 109 = .ok (.ireturn, 1) := dk_172 (dk_at dksX5_thing_4 17 rfl rfl)
abbrev cX5_thingIs : ByteArray := prog_20_method_25_code
def yX5_thingIs : MethodName := ⟨RX5, "thingIs", "(II)I"⟩
def dkwX5_thingIs_2 : List UInt8 := [27, 182, 0, 73, 167, 0, 8, 42, 27, 182, 0, 95, 172]
abbrev dktX5_thingIs_2 : List UInt8 := dkwX5_thingIs_2 ++ []
def dkwX5_thingIs_1 : List UInt8 := [7, 162, 0, 12, 42, 27, 28, 182, 0, 51, 167, 0, 26, 28, 7, 160, 0, 16, 42, 42, 27, 182, 0, 67]
abbrev dktX5_thingIs_1 : List UInt8 := dkwX5_thingIs_1 ++ dktX5_thingIs_2
def dkwX5_thingIs_0 : List UInt8 := [42, 27, 182, 0, 92, 153, 0, 12, 28, 3, 8, 184, 0, 47, 154, 0, 9, 42, 4, 182, 0, 60, 172, 28]
abbrev dktX5_thingIs_0 : List UInt8 := dkwX5_thingIs_0 ++ dktX5_thingIs_1
theorem dksX5_thingIs_0 : cX5_thingIs.data.toList.drop 0 = dktX5_thingIs_0 := by decide +kernel
theorem dksX5_thingIs_1 : cX5_thingIs.data.toList.drop 24 = dktX5_thingIs_1 := dk_seg dksX5_thingIs_0 24 rfl rfl
theorem dksX5_thingIs_2 : cX5_thingIs.data.toList.drop 48 = dktX5_thingIs_2 := dk_seg dksX5_thingIs_1 24 rfl rfl
theorem dX5_thingIs_0 : decode cX5_thingIs 0 = .ok (.aload_n 0, 1) := dk_42 (dk_at dksX5_thingIs_0 0 rfl rfl)
theorem dX5_thingIs_1 : decode cX5_thingIs 1 = .ok (.iload_n 1, 1) := dk_27 (dk_at dksX5_thingIs_0 1 rfl rfl)
theorem dX5_thingIs_2 : decode cX5_thingIs 2 = .ok (.invokevirtual 92, 3) := dk_182 0 92 (dk_at dksX5_thingIs_0 2 rfl rfl)
theorem dX5_thingIs_5 : decode cX5_thingIs 5 = .ok (.ifCond .eq 12, 3) := dk_153 0 12 (dk_at dksX5_thingIs_0 5 rfl rfl)
theorem dX5_thingIs_8 : decode cX5_thingIs 8 = .ok (.iload_n 2, 1) := dk_28 (dk_at dksX5_thingIs_0 8 rfl rfl)
theorem dX5_thingIs_9 : decode cX5_thingIs 9 = .ok (.iconst 0, 1) := dk_3 (dk_at dksX5_thingIs_0 9 rfl rfl)
theorem dX5_thingIs_10 : decode cX5_thingIs 10 = .ok (.iconst 5, 1) := dk_8 (dk_at dksX5_thingIs_0 10 rfl rfl)
theorem dX5_thingIs_11 : decode cX5_thingIs 11 = .ok (.invokestatic 47, 3) := dk_184 0 47 (dk_at dksX5_thingIs_0 11 rfl rfl)
theorem dX5_thingIs_14 : decode cX5_thingIs 14 = .ok (.ifCond .ne 9, 3) := dk_154 0 9 (dk_at dksX5_thingIs_0 14 rfl rfl)
theorem dX5_thingIs_17 : decode cX5_thingIs 17 = .ok (.aload_n 0, 1) := dk_42 (dk_at dksX5_thingIs_0 17 rfl rfl)
theorem dX5_thingIs_18 : decode cX5_thingIs 18 = .ok (.iconst 1, 1) := dk_4 (dk_at dksX5_thingIs_0 18 rfl rfl)
theorem dX5_thingIs_19 : decode cX5_thingIs 19 = .ok (.invokevirtual 60, 3) := dk_182 0 60 (dk_at dksX5_thingIs_0 19 rfl rfl)
theorem dX5_thingIs_22 : decode cX5_thingIs 22 = .ok (.ireturn, 1) := dk_172 (dk_at dksX5_thingIs_0 22 rfl rfl)
theorem dX5_thingIs_23 : decode cX5_thingIs 23 = .ok (.iload_n 2, 1) := dk_28 (dk_at dksX5_thingIs_0 23 rfl rfl)
theorem dX5_thingIs_24 : decode cX5_thingIs 24 = .ok (.iconst 4, 1) := dk_7 (dk_at dksX5_thingIs_1 0 rfl rfl)
theorem dX5_thingIs_25 : decode cX5_thingIs 25 = .ok (.if_icmp .ge 12, 3) := dk_162 0 12 (dk_at dksX5_thingIs_1 1 rfl rfl)
theorem dX5_thingIs_28 : decode cX5_thingIs 28 = .ok (.aload_n 0, 1) := dk_42 (dk_at dksX5_thingIs_1 4 rfl rfl)
theorem dX5_thingIs_29 : decode cX5_thingIs 29 = .ok (.iload_n 1, 1) := dk_27 (dk_at dksX5_thingIs_1 5 rfl rfl)
theorem dX5_thingIs_30 : decode cX5_thingIs 30 = .ok (.iload_n 2, 1) := dk_28 (dk_at dksX5_thingIs_1 6 rfl rfl)
theorem dX5_thingIs_31 : decode cX5_thingIs 31 = .ok (.invokevirtual 51, 3) := dk_182 0 51 (dk_at dksX5_thingIs_1 7 rfl rfl)
theorem dX5_thingIs_34 : decode cX5_thingIs 34 = .ok (.goto 26, 3) := dk_167 0 26 (dk_at dksX5_thingIs_1 10 rfl rfl)
theorem dX5_thingIs_37 : decode cX5_thingIs 37 = .ok (.iload_n 2, 1) := dk_28 (dk_at dksX5_thingIs_1 13 rfl rfl)
theorem dX5_thingIs_38 : decode cX5_thingIs 38 = .ok (.iconst 4, 1) := dk_7 (dk_at dksX5_thingIs_1 14 rfl rfl)
theorem dX5_thingIs_39 : decode cX5_thingIs 39 = .ok (.if_icmp .ne 16, 3) := dk_160 0 16 (dk_at dksX5_thingIs_1 15 rfl rfl)
theorem dX5_thingIs_42 : decode cX5_thingIs 42 = .ok (.aload_n 0, 1) := dk_42 (dk_at dksX5_thingIs_1 18 rfl rfl)
theorem dX5_thingIs_43 : decode cX5_thingIs 43 = .ok (.aload_n 0, 1) := dk_42 (dk_at dksX5_thingIs_1 19 rfl rfl)
theorem dX5_thingIs_44 : decode cX5_thingIs 44 = .ok (.iload_n 1, 1) := dk_27 (dk_at dksX5_thingIs_1 20 rfl rfl)
theorem dX5_thingIs_45 : decode cX5_thingIs 45 = .ok (.invokevirtual 67, 3) := dk_182 0 67 (dk_at dksX5_thingIs_1 21 rfl rfl)
theorem dX5_thingIs_48 : decode cX5_thingIs 48 = .ok (.iload_n 1, 1) := dk_27 (dk_at dksX5_thingIs_2 0 rfl rfl)
theorem dX5_thingIs_49 : decode cX5_thingIs 49 = .ok (.invokevirtual 73, 3) := dk_182 0 73 (dk_at dksX5_thingIs_2 1 rfl rfl)
theorem dX5_thingIs_52 : decode cX5_thingIs 52 = .ok (.goto 8, 3) := dk_167 0 8 (dk_at dksX5_thingIs_2 4 rfl rfl)
theorem dX5_thingIs_55 : decode cX5_thingIs 55 = .ok (.aload_n 0, 1) := dk_42 (dk_at dksX5_thingIs_2 7 rfl rfl)
theorem dX5_thingIs_56 : decode cX5_thingIs 56 = .ok (.iload_n 1, 1) := dk_27 (dk_at dksX5_thingIs_2 8 rfl rfl)
theorem dX5_thingIs_57 : decode cX5_thingIs 57 = .ok (.invokevirtual 95, 3) := dk_182 0 95 (dk_at dksX5_thingIs_2 9 rfl rfl)
theorem dX5_thingIs_60 : decode cX5_thingIs 60 = .ok (.ireturn, 1) := dk_172 (dk_at dksX5_thingIs_2 12 rfl rfl)
abbrev cX5_isThing : ByteArray := prog_20_method_7_code
def yX5_isThing : MethodName := ⟨RX5, "isThing", "(I)Z"⟩
def dkwX5_isThing_0 : List UInt8 := [27, 3, 42, 180, 0, 7, 4, 46, 4, 100, 184, 0, 47, 172]
abbrev dktX5_isThing_0 : List UInt8 := dkwX5_isThing_0 ++ []
theorem dksX5_isThing_0 : cX5_isThing.data.toList.drop 0 = dktX5_isThing_0 := by decide +kernel
theorem dX5_isThing_0 : decode cX5_isThing 0 = .ok (.iload_n 1, 1) := dk_27 (dk_at dksX5_isThing_0 0 rfl rfl)
theorem dX5_isThing_1 : decode cX5_isThing 1 = .ok (.iconst 0, 1) := dk_3 (dk_at dksX5_isThing_0 1 rfl rfl)
theorem dX5_isThing_2 : decode cX5_isThing 2 = .ok (.aload_n 0, 1) := dk_42 (dk_at dksX5_isThing_0 2 rfl rfl)
theorem dX5_isThing_3 : decode cX5_isThing 3 = .ok (.getfield 7, 3) := dk_180 0 7 (dk_at dksX5_isThing_0 3 rfl rfl)
theorem dX5_isThing_6 : decode cX5_isThing 6 = .ok (.iconst 1, 1) := dk_4 (dk_at dksX5_isThing_0 6 rfl rfl)
theorem dX5_isThing_7 : decode cX5_isThing 7 = .ok (.iaload, 1) := dk_46 (dk_at dksX5_isThing_0 7 rfl rfl)
theorem dX5_isThing_8 : decode cX5_isThing 8 = .ok (.iconst 1, 1) := dk_4 (dk_at dksX5_isThing_0 8 rfl rfl)
theorem dX5_isThing_9 : decode cX5_isThing 9 = .ok (.isub, 1) := dk_100 (dk_at dksX5_isThing_0 9 rfl rfl)
theorem dX5_isThing_10 : decode cX5_isThing 10 = .ok (.invokestatic 47, 3) := dk_184 0 47 (dk_at dksX5_isThing_0 10 rfl rfl)
theorem dX5_isThing_13 : decode cX5_isThing 13 = .ok (.ireturn, 1) := dk_172 (dk_at dksX5_isThing_0 13 rfl rfl)
abbrev cX5_fondest : ByteArray := prog_20_method_24_code
def yX5_fondest : MethodName := ⟨RX5, "fondest", "(I)I"⟩
def dkwX5_fondest_1 : List UInt8 := [182, 0, 73, 164, 0, 7, 29, 167, 0, 4, 28, 61, 132, 3, 1, 167, 255, 222, 28, 172]
abbrev dktX5_fondest_1 : List UInt8 := dkwX5_fondest_1 ++ []
def dkwX5_fondest_0 : List UInt8 := [3, 61, 4, 62, 29, 42, 180, 0, 7, 3, 46, 162, 0, 30, 42, 29, 27, 182, 0, 73, 42, 28, 27]
abbrev dktX5_fondest_0 : List UInt8 := dkwX5_fondest_0 ++ dktX5_fondest_1
theorem dksX5_fondest_0 : cX5_fondest.data.toList.drop 0 = dktX5_fondest_0 := by decide +kernel
theorem dksX5_fondest_1 : cX5_fondest.data.toList.drop 23 = dktX5_fondest_1 := dk_seg dksX5_fondest_0 23 rfl rfl
theorem dX5_fondest_0 : decode cX5_fondest 0 = .ok (.iconst 0, 1) := dk_3 (dk_at dksX5_fondest_0 0 rfl rfl)
theorem dX5_fondest_1 : decode cX5_fondest 1 = .ok (.istore_n 2, 1) := dk_61 (dk_at dksX5_fondest_0 1 rfl rfl)
theorem dX5_fondest_2 : decode cX5_fondest 2 = .ok (.iconst 1, 1) := dk_4 (dk_at dksX5_fondest_0 2 rfl rfl)
theorem dX5_fondest_3 : decode cX5_fondest 3 = .ok (.istore_n 3, 1) := dk_62 (dk_at dksX5_fondest_0 3 rfl rfl)
theorem dX5_fondest_4 : decode cX5_fondest 4 = .ok (.iload_n 3, 1) := dk_29 (dk_at dksX5_fondest_0 4 rfl rfl)
theorem dX5_fondest_5 : decode cX5_fondest 5 = .ok (.aload_n 0, 1) := dk_42 (dk_at dksX5_fondest_0 5 rfl rfl)
theorem dX5_fondest_6 : decode cX5_fondest 6 = .ok (.getfield 7, 3) := dk_180 0 7 (dk_at dksX5_fondest_0 6 rfl rfl)
theorem dX5_fondest_9 : decode cX5_fondest 9 = .ok (.iconst 0, 1) := dk_3 (dk_at dksX5_fondest_0 9 rfl rfl)
theorem dX5_fondest_10 : decode cX5_fondest 10 = .ok (.iaload, 1) := dk_46 (dk_at dksX5_fondest_0 10 rfl rfl)
theorem dX5_fondest_11 : decode cX5_fondest 11 = .ok (.if_icmp .ge 30, 3) := dk_162 0 30 (dk_at dksX5_fondest_0 11 rfl rfl)
theorem dX5_fondest_14 : decode cX5_fondest 14 = .ok (.aload_n 0, 1) := dk_42 (dk_at dksX5_fondest_0 14 rfl rfl)
theorem dX5_fondest_15 : decode cX5_fondest 15 = .ok (.iload_n 3, 1) := dk_29 (dk_at dksX5_fondest_0 15 rfl rfl)
theorem dX5_fondest_16 : decode cX5_fondest 16 = .ok (.iload_n 1, 1) := dk_27 (dk_at dksX5_fondest_0 16 rfl rfl)
theorem dX5_fondest_17 : decode cX5_fondest 17 = .ok (.invokevirtual 73, 3) := dk_182 0 73 (dk_at dksX5_fondest_0 17 rfl rfl)
theorem dX5_fondest_20 : decode cX5_fondest 20 = .ok (.aload_n 0, 1) := dk_42 (dk_at dksX5_fondest_0 20 rfl rfl)
theorem dX5_fondest_21 : decode cX5_fondest 21 = .ok (.iload_n 2, 1) := dk_28 (dk_at dksX5_fondest_0 21 rfl rfl)
theorem dX5_fondest_22 : decode cX5_fondest 22 = .ok (.iload_n 1, 1) := dk_27 (dk_at dksX5_fondest_0 22 rfl rfl)
theorem dX5_fondest_23 : decode cX5_fondest 23 = .ok (.invokevirtual 73, 3) := dk_182 0 73 (dk_at dksX5_fondest_1 0 rfl rfl)
theorem dX5_fondest_26 : decode cX5_fondest 26 = .ok (.if_icmp .le 7, 3) := dk_164 0 7 (dk_at dksX5_fondest_1 3 rfl rfl)
theorem dX5_fondest_29 : decode cX5_fondest 29 = .ok (.iload_n 3, 1) := dk_29 (dk_at dksX5_fondest_1 6 rfl rfl)
theorem dX5_fondest_30 : decode cX5_fondest 30 = .ok (.goto 4, 3) := dk_167 0 4 (dk_at dksX5_fondest_1 7 rfl rfl)
theorem dX5_fondest_33 : decode cX5_fondest 33 = .ok (.iload_n 2, 1) := dk_28 (dk_at dksX5_fondest_1 10 rfl rfl)
theorem dX5_fondest_34 : decode cX5_fondest 34 = .ok (.istore_n 2, 1) := dk_61 (dk_at dksX5_fondest_1 11 rfl rfl)
theorem dX5_fondest_35 : decode cX5_fondest 35 = .ok (.iinc 3 1, 3) := dk_132 3 1 (dk_at dksX5_fondest_1 12 rfl rfl)
theorem dX5_fondest_38 : decode cX5_fondest 38 = .ok (.goto (-34), 3) := dk_167 255 222 (dk_at dksX5_fondest_1 15 rfl rfl)
theorem dX5_fondest_41 : decode cX5_fondest 41 = .ok (.iload_n 2, 1) := dk_28 (dk_at dksX5_fondest_1 18 rfl rfl)
theorem dX5_fondest_42 : decode cX5_fondest 42 = .ok (.ireturn, 1) := dk_172 (dk_at dksX5_fondest_1 19 rfl rfl)
abbrev cX5_worth : ByteArray := prog_20_method_26_code
def yX5_worth : MethodName := ⟨RX5, "worth", "(III)I"⟩
def dkwX5_worth_2 : List UInt8 := [21, 4, 46, 54, 5, 42, 180, 0, 7, 21, 4, 29, 79, 21, 5, 172]
abbrev dktX5_worth_2 : List UInt8 := dkwX5_worth_2 ++ []
def dkwX5_worth_1 : List UInt8 := [154, 0, 9, 42, 4, 182, 0, 60, 172, 16, 110, 16, 12, 27, 104, 96, 28, 96, 54, 4, 42, 180, 0, 7]
abbrev dktX5_worth_1 : List UInt8 := dkwX5_worth_1 ++ dktX5_worth_2
def dkwX5_worth_0 : List UInt8 := [42, 27, 182, 0, 76, 153, 0, 22, 42, 28, 182, 0, 92, 153, 0, 14, 29, 3, 17, 39, 15, 184, 0, 47]
abbrev dktX5_worth_0 : List UInt8 := dkwX5_worth_0 ++ dktX5_worth_1
theorem dksX5_worth_0 : cX5_worth.data.toList.drop 0 = dktX5_worth_0 := by decide +kernel
theorem dksX5_worth_1 : cX5_worth.data.toList.drop 24 = dktX5_worth_1 := dk_seg dksX5_worth_0 24 rfl rfl
theorem dksX5_worth_2 : cX5_worth.data.toList.drop 48 = dktX5_worth_2 := dk_seg dksX5_worth_1 24 rfl rfl
theorem dX5_worth_0 : decode cX5_worth 0 = .ok (.aload_n 0, 1) := dk_42 (dk_at dksX5_worth_0 0 rfl rfl)
theorem dX5_worth_1 : decode cX5_worth 1 = .ok (.iload_n 1, 1) := dk_27 (dk_at dksX5_worth_0 1 rfl rfl)
theorem dX5_worth_2 : decode cX5_worth 2 = .ok (.invokevirtual 76, 3) := dk_182 0 76 (dk_at dksX5_worth_0 2 rfl rfl)
theorem dX5_worth_5 : decode cX5_worth 5 = .ok (.ifCond .eq 22, 3) := dk_153 0 22 (dk_at dksX5_worth_0 5 rfl rfl)
theorem dX5_worth_8 : decode cX5_worth 8 = .ok (.aload_n 0, 1) := dk_42 (dk_at dksX5_worth_0 8 rfl rfl)
theorem dX5_worth_9 : decode cX5_worth 9 = .ok (.iload_n 2, 1) := dk_28 (dk_at dksX5_worth_0 9 rfl rfl)
theorem dX5_worth_10 : decode cX5_worth 10 = .ok (.invokevirtual 92, 3) := dk_182 0 92 (dk_at dksX5_worth_0 10 rfl rfl)
theorem dX5_worth_13 : decode cX5_worth 13 = .ok (.ifCond .eq 14, 3) := dk_153 0 14 (dk_at dksX5_worth_0 13 rfl rfl)
theorem dX5_worth_16 : decode cX5_worth 16 = .ok (.iload_n 3, 1) := dk_29 (dk_at dksX5_worth_0 16 rfl rfl)
theorem dX5_worth_17 : decode cX5_worth 17 = .ok (.iconst 0, 1) := dk_3 (dk_at dksX5_worth_0 17 rfl rfl)
theorem dX5_worth_18 : decode cX5_worth 18 = .ok (.sipush 9999, 3) := dk_17 39 15 (dk_at dksX5_worth_0 18 rfl rfl)
theorem dX5_worth_21 : decode cX5_worth 21 = .ok (.invokestatic 47, 3) := dk_184 0 47 (dk_at dksX5_worth_0 21 rfl rfl)
theorem dX5_worth_24 : decode cX5_worth 24 = .ok (.ifCond .ne 9, 3) := dk_154 0 9 (dk_at dksX5_worth_1 0 rfl rfl)
theorem dX5_worth_27 : decode cX5_worth 27 = .ok (.aload_n 0, 1) := dk_42 (dk_at dksX5_worth_1 3 rfl rfl)
theorem dX5_worth_28 : decode cX5_worth 28 = .ok (.iconst 1, 1) := dk_4 (dk_at dksX5_worth_1 4 rfl rfl)
theorem dX5_worth_29 : decode cX5_worth 29 = .ok (.invokevirtual 60, 3) := dk_182 0 60 (dk_at dksX5_worth_1 5 rfl rfl)
theorem dX5_worth_32 : decode cX5_worth 32 = .ok (.ireturn, 1) := dk_172 (dk_at dksX5_worth_1 8 rfl rfl)
theorem dX5_worth_33 : decode cX5_worth 33 = .ok (.bipush 110, 2) := dk_16 110 (dk_at dksX5_worth_1 9 rfl rfl)
theorem dX5_worth_35 : decode cX5_worth 35 = .ok (.bipush 12, 2) := dk_16 12 (dk_at dksX5_worth_1 11 rfl rfl)
theorem dX5_worth_37 : decode cX5_worth 37 = .ok (.iload_n 1, 1) := dk_27 (dk_at dksX5_worth_1 13 rfl rfl)
theorem dX5_worth_38 : decode cX5_worth 38 = .ok (.imul, 1) := dk_104 (dk_at dksX5_worth_1 14 rfl rfl)
theorem dX5_worth_39 : decode cX5_worth 39 = .ok (.iadd, 1) := dk_96 (dk_at dksX5_worth_1 15 rfl rfl)
theorem dX5_worth_40 : decode cX5_worth 40 = .ok (.iload_n 2, 1) := dk_28 (dk_at dksX5_worth_1 16 rfl rfl)
theorem dX5_worth_41 : decode cX5_worth 41 = .ok (.iadd, 1) := dk_96 (dk_at dksX5_worth_1 17 rfl rfl)
theorem dX5_worth_42 : decode cX5_worth 42 = .ok (.istore 4, 2) := dk_54 4 (dk_at dksX5_worth_1 18 rfl rfl)
theorem dX5_worth_44 : decode cX5_worth 44 = .ok (.aload_n 0, 1) := dk_42 (dk_at dksX5_worth_1 20 rfl rfl)
theorem dX5_worth_45 : decode cX5_worth 45 = .ok (.getfield 7, 3) := dk_180 0 7 (dk_at dksX5_worth_1 21 rfl rfl)
theorem dX5_worth_48 : decode cX5_worth 48 = .ok (.iload 4, 2) := dk_21 4 (dk_at dksX5_worth_2 0 rfl rfl)
theorem dX5_worth_50 : decode cX5_worth 50 = .ok (.iaload, 1) := dk_46 (dk_at dksX5_worth_2 2 rfl rfl)
theorem dX5_worth_51 : decode cX5_worth 51 = .ok (.istore 5, 2) := dk_54 5 (dk_at dksX5_worth_2 3 rfl rfl)
theorem dX5_worth_53 : decode cX5_worth 53 = .ok (.aload_n 0, 1) := dk_42 (dk_at dksX5_worth_2 5 rfl rfl)
theorem dX5_worth_54 : decode cX5_worth 54 = .ok (.getfield 7, 3) := dk_180 0 7 (dk_at dksX5_worth_2 6 rfl rfl)
theorem dX5_worth_57 : decode cX5_worth 57 = .ok (.iload 4, 2) := dk_21 4 (dk_at dksX5_worth_2 9 rfl rfl)
theorem dX5_worth_59 : decode cX5_worth 59 = .ok (.iload_n 3, 1) := dk_29 (dk_at dksX5_worth_2 11 rfl rfl)
theorem dX5_worth_60 : decode cX5_worth 60 = .ok (.iastore, 1) := dk_79 (dk_at dksX5_worth_2 12 rfl rfl)
theorem dX5_worth_61 : decode cX5_worth 61 = .ok (.iload 5, 2) := dk_21 5 (dk_at dksX5_worth_2 13 rfl rfl)
theorem dX5_worth_63 : decode cX5_worth 63 = .ok (.ireturn, 1) := dk_172 (dk_at dksX5_worth_2 15 rfl rfl)
abbrev cX5_price : ByteArray := prog_20_method_27_code
def yX5_price : MethodName := ⟨RX5, "price", "(II)I"⟩
def dkwX5_price_1 : List UInt8 := [172, 42, 27, 4, 182, 0, 51, 62, 42, 180, 0, 7, 16, 44, 7, 27, 104, 96, 4, 96, 28, 79, 29, 172]
abbrev dktX5_price_1 : List UInt8 := dkwX5_price_1 ++ []
def dkwX5_price_0 : List UInt8 := [42, 27, 182, 0, 92, 153, 0, 14, 28, 3, 17, 39, 15, 184, 0, 47, 154, 0, 9, 42, 4, 182, 0, 60]
abbrev dktX5_price_0 : List UInt8 := dkwX5_price_0 ++ dktX5_price_1
theorem dksX5_price_0 : cX5_price.data.toList.drop 0 = dktX5_price_0 := by decide +kernel
theorem dksX5_price_1 : cX5_price.data.toList.drop 24 = dktX5_price_1 := dk_seg dksX5_price_0 24 rfl rfl
theorem dX5_price_0 : decode cX5_price 0 = .ok (.aload_n 0, 1) := dk_42 (dk_at dksX5_price_0 0 rfl rfl)
theorem dX5_price_1 : decode cX5_price 1 = .ok (.iload_n 1, 1) := dk_27 (dk_at dksX5_price_0 1 rfl rfl)
theorem dX5_price_2 : decode cX5_price 2 = .ok (.invokevirtual 92, 3) := dk_182 0 92 (dk_at dksX5_price_0 2 rfl rfl)
theorem dX5_price_5 : decode cX5_price 5 = .ok (.ifCond .eq 14, 3) := dk_153 0 14 (dk_at dksX5_price_0 5 rfl rfl)
theorem dX5_price_8 : decode cX5_price 8 = .ok (.iload_n 2, 1) := dk_28 (dk_at dksX5_price_0 8 rfl rfl)
theorem dX5_price_9 : decode cX5_price 9 = .ok (.iconst 0, 1) := dk_3 (dk_at dksX5_price_0 9 rfl rfl)
theorem dX5_price_10 : decode cX5_price 10 = .ok (.sipush 9999, 3) := dk_17 39 15 (dk_at dksX5_price_0 10 rfl rfl)
theorem dX5_price_13 : decode cX5_price 13 = .ok (.invokestatic 47, 3) := dk_184 0 47 (dk_at dksX5_price_0 13 rfl rfl)
theorem dX5_price_16 : decode cX5_price 16 = .ok (.ifCond .ne 9, 3) := dk_154 0 9 (dk_at dksX5_price_0 16 rfl rfl)
theorem dX5_price_19 : decode cX5_price 19 = .ok (.aload_n 0, 1) := dk_42 (dk_at dksX5_price_0 19 rfl rfl)
theorem dX5_price_20 : decode cX5_price 20 = .ok (.iconst 1, 1) := dk_4 (dk_at dksX5_price_0 20 rfl rfl)
theorem dX5_price_21 : decode cX5_price 21 = .ok (.invokevirtual 60, 3) := dk_182 0 60 (dk_at dksX5_price_0 21 rfl rfl)
theorem dX5_price_24 : decode cX5_price 24 = .ok (.ireturn, 1) := dk_172 (dk_at dksX5_price_1 0 rfl rfl)
theorem dX5_price_25 : decode cX5_price 25 = .ok (.aload_n 0, 1) := dk_42 (dk_at dksX5_price_1 1 rfl rfl)
theorem dX5_price_26 : decode cX5_price 26 = .ok (.iload_n 1, 1) := dk_27 (dk_at dksX5_price_1 2 rfl rfl)
theorem dX5_price_27 : decode cX5_price 27 = .ok (.iconst 1, 1) := dk_4 (dk_at dksX5_price_1 3 rfl rfl)
theorem dX5_price_28 : decode cX5_price 28 = .ok (.invokevirtual 51, 3) := dk_182 0 51 (dk_at dksX5_price_1 4 rfl rfl)
theorem dX5_price_31 : decode cX5_price 31 = .ok (.istore_n 3, 1) := dk_62 (dk_at dksX5_price_1 7 rfl rfl)
theorem dX5_price_32 : decode cX5_price 32 = .ok (.aload_n 0, 1) := dk_42 (dk_at dksX5_price_1 8 rfl rfl)
theorem dX5_price_33 : decode cX5_price 33 = .ok (.getfield 7, 3) := dk_180 0 7 (dk_at dksX5_price_1 9 rfl rfl)
theorem dX5_price_36 : decode cX5_price 36 = .ok (.bipush 44, 2) := dk_16 44 (dk_at dksX5_price_1 12 rfl rfl)
theorem dX5_price_38 : decode cX5_price 38 = .ok (.iconst 4, 1) := dk_7 (dk_at dksX5_price_1 14 rfl rfl)
theorem dX5_price_39 : decode cX5_price 39 = .ok (.iload_n 1, 1) := dk_27 (dk_at dksX5_price_1 15 rfl rfl)
theorem dX5_price_40 : decode cX5_price 40 = .ok (.imul, 1) := dk_104 (dk_at dksX5_price_1 16 rfl rfl)
theorem dX5_price_41 : decode cX5_price 41 = .ok (.iadd, 1) := dk_96 (dk_at dksX5_price_1 17 rfl rfl)
theorem dX5_price_42 : decode cX5_price 42 = .ok (.iconst 1, 1) := dk_4 (dk_at dksX5_price_1 18 rfl rfl)
theorem dX5_price_43 : decode cX5_price 43 = .ok (.iadd, 1) := dk_96 (dk_at dksX5_price_1 19 rfl rfl)
theorem dX5_price_44 : decode cX5_price 44 = .ok (.iload_n 2, 1) := dk_28 (dk_at dksX5_price_1 20 rfl rfl)
theorem dX5_price_45 : decode cX5_price 45 = .ok (.iastore, 1) := dk_79 (dk_at dksX5_price_1 21 rfl rfl)
theorem dX5_price_46 : decode cX5_price 46 = .ok (.iload_n 3, 1) := dk_29 (dk_at dksX5_price_1 22 rfl rfl)
theorem dX5_price_47 : decode cX5_price 47 = .ok (.ireturn, 1) := dk_172 (dk_at dksX5_price_1 23 rfl rfl)
abbrev cX5_keep : ByteArray := prog_20_method_28_code
def yX5_keep : MethodName := ⟨RX5, "keep", "(II)I"⟩
def dkwX5_keep_3 : List UInt8 := [16, 44, 7, 27, 104, 96, 6, 96, 28, 79, 29, 172]
abbrev dktX5_keep_3 : List UInt8 := dkwX5_keep_3 ++ []
def dkwX5_keep_2 : List UInt8 := [182, 0, 85, 42, 180, 0, 7, 16, 13, 46, 161, 0, 9, 42, 6, 182, 0, 60, 172, 42, 180, 0, 7]
abbrev dktX5_keep_2 : List UInt8 := dkwX5_keep_2 ++ dktX5_keep_3
def dkwX5_keep_1 : List UInt8 := [27, 6, 182, 0, 51, 62, 28, 4, 160, 0, 33, 29, 154, 0, 29, 42, 42, 27, 182, 0, 67, 7]
abbrev dktX5_keep_1 : List UInt8 := dkwX5_keep_1 ++ dktX5_keep_2
def dkwX5_keep_0 : List UInt8 := [42, 27, 182, 0, 92, 153, 0, 12, 28, 3, 4, 184, 0, 47, 154, 0, 9, 42, 4, 182, 0, 60, 172, 42]
abbrev dktX5_keep_0 : List UInt8 := dkwX5_keep_0 ++ dktX5_keep_1
theorem dksX5_keep_0 : cX5_keep.data.toList.drop 0 = dktX5_keep_0 := by decide +kernel
theorem dksX5_keep_1 : cX5_keep.data.toList.drop 24 = dktX5_keep_1 := dk_seg dksX5_keep_0 24 rfl rfl
theorem dksX5_keep_2 : cX5_keep.data.toList.drop 46 = dktX5_keep_2 := dk_seg dksX5_keep_1 22 rfl rfl
theorem dksX5_keep_3 : cX5_keep.data.toList.drop 69 = dktX5_keep_3 := dk_seg dksX5_keep_2 23 rfl rfl
theorem dX5_keep_0 : decode cX5_keep 0 = .ok (.aload_n 0, 1) := dk_42 (dk_at dksX5_keep_0 0 rfl rfl)
theorem dX5_keep_1 : decode cX5_keep 1 = .ok (.iload_n 1, 1) := dk_27 (dk_at dksX5_keep_0 1 rfl rfl)
theorem dX5_keep_2 : decode cX5_keep 2 = .ok (.invokevirtual 92, 3) := dk_182 0 92 (dk_at dksX5_keep_0 2 rfl rfl)
theorem dX5_keep_5 : decode cX5_keep 5 = .ok (.ifCond .eq 12, 3) := dk_153 0 12 (dk_at dksX5_keep_0 5 rfl rfl)
theorem dX5_keep_8 : decode cX5_keep 8 = .ok (.iload_n 2, 1) := dk_28 (dk_at dksX5_keep_0 8 rfl rfl)
theorem dX5_keep_9 : decode cX5_keep 9 = .ok (.iconst 0, 1) := dk_3 (dk_at dksX5_keep_0 9 rfl rfl)
theorem dX5_keep_10 : decode cX5_keep 10 = .ok (.iconst 1, 1) := dk_4 (dk_at dksX5_keep_0 10 rfl rfl)
theorem dX5_keep_11 : decode cX5_keep 11 = .ok (.invokestatic 47, 3) := dk_184 0 47 (dk_at dksX5_keep_0 11 rfl rfl)
theorem dX5_keep_14 : decode cX5_keep 14 = .ok (.ifCond .ne 9, 3) := dk_154 0 9 (dk_at dksX5_keep_0 14 rfl rfl)
theorem dX5_keep_17 : decode cX5_keep 17 = .ok (.aload_n 0, 1) := dk_42 (dk_at dksX5_keep_0 17 rfl rfl)
theorem dX5_keep_18 : decode cX5_keep 18 = .ok (.iconst 1, 1) := dk_4 (dk_at dksX5_keep_0 18 rfl rfl)
theorem dX5_keep_19 : decode cX5_keep 19 = .ok (.invokevirtual 60, 3) := dk_182 0 60 (dk_at dksX5_keep_0 19 rfl rfl)
theorem dX5_keep_22 : decode cX5_keep 22 = .ok (.ireturn, 1) := dk_172 (dk_at dksX5_keep_0 22 rfl rfl)
theorem dX5_keep_23 : decode cX5_keep 23 = .ok (.aload_n 0, 1) := dk_42 (dk_at dksX5_keep_0 23 rfl rfl)
theorem dX5_keep_24 : decode cX5_keep 24 = .ok (.iload_n 1, 1) := dk_27 (dk_at dksX5_keep_1 0 rfl rfl)
theorem dX5_keep_25 : decode cX5_keep 25 = .ok (.iconst 3, 1) := dk_6 (dk_at dksX5_keep_1 1 rfl rfl)
theorem dX5_keep_26 : decode cX5_keep 26 = .ok (.invokevirtual 51, 3) := dk_182 0 51 (dk_at dksX5_keep_1 2 rfl rfl)
theorem dX5_keep_29 : decode cX5_keep 29 = .ok (.istore_n 3, 1) := dk_62 (dk_at dksX5_keep_1 5 rfl rfl)
theorem dX5_keep_30 : decode cX5_keep 30 = .ok (.iload_n 2, 1) := dk_28 (dk_at dksX5_keep_1 6 rfl rfl)
theorem dX5_keep_31 : decode cX5_keep 31 = .ok (.iconst 1, 1) := dk_4 (dk_at dksX5_keep_1 7 rfl rfl)
theorem dX5_keep_32 : decode cX5_keep 32 = .ok (.if_icmp .ne 33, 3) := dk_160 0 33 (dk_at dksX5_keep_1 8 rfl rfl)
theorem dX5_keep_35 : decode cX5_keep 35 = .ok (.iload_n 3, 1) := dk_29 (dk_at dksX5_keep_1 11 rfl rfl)
theorem dX5_keep_36 : decode cX5_keep 36 = .ok (.ifCond .ne 29, 3) := dk_154 0 29 (dk_at dksX5_keep_1 12 rfl rfl)
theorem dX5_keep_39 : decode cX5_keep 39 = .ok (.aload_n 0, 1) := dk_42 (dk_at dksX5_keep_1 15 rfl rfl)
theorem dX5_keep_40 : decode cX5_keep 40 = .ok (.aload_n 0, 1) := dk_42 (dk_at dksX5_keep_1 16 rfl rfl)
theorem dX5_keep_41 : decode cX5_keep 41 = .ok (.iload_n 1, 1) := dk_27 (dk_at dksX5_keep_1 17 rfl rfl)
theorem dX5_keep_42 : decode cX5_keep 42 = .ok (.invokevirtual 67, 3) := dk_182 0 67 (dk_at dksX5_keep_1 18 rfl rfl)
theorem dX5_keep_45 : decode cX5_keep 45 = .ok (.iconst 4, 1) := dk_7 (dk_at dksX5_keep_1 21 rfl rfl)
theorem dX5_keep_46 : decode cX5_keep 46 = .ok (.invokevirtual 85, 3) := dk_182 0 85 (dk_at dksX5_keep_2 0 rfl rfl)
theorem dX5_keep_49 : decode cX5_keep 49 = .ok (.aload_n 0, 1) := dk_42 (dk_at dksX5_keep_2 3 rfl rfl)
theorem dX5_keep_50 : decode cX5_keep 50 = .ok (.getfield 7, 3) := dk_180 0 7 (dk_at dksX5_keep_2 4 rfl rfl)
theorem dX5_keep_53 : decode cX5_keep 53 = .ok (.bipush 13, 2) := dk_16 13 (dk_at dksX5_keep_2 7 rfl rfl)
theorem dX5_keep_55 : decode cX5_keep 55 = .ok (.iaload, 1) := dk_46 (dk_at dksX5_keep_2 9 rfl rfl)
theorem dX5_keep_56 : decode cX5_keep 56 = .ok (.if_icmp .lt 9, 3) := dk_161 0 9 (dk_at dksX5_keep_2 10 rfl rfl)
theorem dX5_keep_59 : decode cX5_keep 59 = .ok (.aload_n 0, 1) := dk_42 (dk_at dksX5_keep_2 13 rfl rfl)
theorem dX5_keep_60 : decode cX5_keep 60 = .ok (.iconst 3, 1) := dk_6 (dk_at dksX5_keep_2 14 rfl rfl)
theorem dX5_keep_61 : decode cX5_keep 61 = .ok (.invokevirtual 60, 3) := dk_182 0 60 (dk_at dksX5_keep_2 15 rfl rfl)
theorem dX5_keep_64 : decode cX5_keep 64 = .ok (.ireturn, 1) := dk_172 (dk_at dksX5_keep_2 18 rfl rfl)
theorem dX5_keep_65 : decode cX5_keep 65 = .ok (.aload_n 0, 1) := dk_42 (dk_at dksX5_keep_2 19 rfl rfl)
theorem dX5_keep_66 : decode cX5_keep 66 = .ok (.getfield 7, 3) := dk_180 0 7 (dk_at dksX5_keep_2 20 rfl rfl)
theorem dX5_keep_69 : decode cX5_keep 69 = .ok (.bipush 44, 2) := dk_16 44 (dk_at dksX5_keep_3 0 rfl rfl)
theorem dX5_keep_71 : decode cX5_keep 71 = .ok (.iconst 4, 1) := dk_7 (dk_at dksX5_keep_3 2 rfl rfl)
theorem dX5_keep_72 : decode cX5_keep 72 = .ok (.iload_n 1, 1) := dk_27 (dk_at dksX5_keep_3 3 rfl rfl)
theorem dX5_keep_73 : decode cX5_keep 73 = .ok (.imul, 1) := dk_104 (dk_at dksX5_keep_3 4 rfl rfl)
theorem dX5_keep_74 : decode cX5_keep 74 = .ok (.iadd, 1) := dk_96 (dk_at dksX5_keep_3 5 rfl rfl)
theorem dX5_keep_75 : decode cX5_keep 75 = .ok (.iconst 3, 1) := dk_6 (dk_at dksX5_keep_3 6 rfl rfl)
theorem dX5_keep_76 : decode cX5_keep 76 = .ok (.iadd, 1) := dk_96 (dk_at dksX5_keep_3 7 rfl rfl)
theorem dX5_keep_77 : decode cX5_keep 77 = .ok (.iload_n 2, 1) := dk_28 (dk_at dksX5_keep_3 8 rfl rfl)
theorem dX5_keep_78 : decode cX5_keep 78 = .ok (.iastore, 1) := dk_79 (dk_at dksX5_keep_3 9 rfl rfl)
theorem dX5_keep_79 : decode cX5_keep 79 = .ok (.iload_n 3, 1) := dk_29 (dk_at dksX5_keep_3 10 rfl rfl)
theorem dX5_keep_80 : decode cX5_keep 80 = .ok (.ireturn, 1) := dk_172 (dk_at dksX5_keep_3 11 rfl rfl)
abbrev cX5_pair : ByteArray := prog_20_method_29_code
def yX5_pair : MethodName := ⟨RX5, "pair", "(III)I"⟩
def dkwX5_pair_4 : List UInt8 := [96, 29, 79, 42, 180, 0, 7, 5, 92, 46, 4, 96, 79, 42, 180, 0, 7, 5, 46, 4, 100, 172]
abbrev dktX5_pair_4 : List UInt8 := dkwX5_pair_4 ++ []
def dkwX5_pair_3 : List UInt8 := [180, 0, 7, 21, 4, 27, 79, 42, 180, 0, 7, 21, 4, 4, 96, 28, 79, 42, 180, 0, 7, 21, 4, 5]
abbrev dktX5_pair_3 : List UInt8 := dkwX5_pair_3 ++ dktX5_pair_4
def dkwX5_pair_2 : List UInt8 := [160, 0, 9, 42, 7, 182, 0, 60, 172, 16, 92, 6, 42, 180, 0, 7, 5, 46, 104, 96, 54, 4, 42]
abbrev dktX5_pair_2 : List UInt8 := dkwX5_pair_2 ++ dktX5_pair_3
def dkwX5_pair_1 : List UInt8 := [17, 39, 15, 184, 0, 47, 154, 0, 9, 42, 4, 182, 0, 60, 172, 42, 180, 0, 7, 5, 46, 16, 6]
abbrev dktX5_pair_1 : List UInt8 := dkwX5_pair_1 ++ dktX5_pair_2
def dkwX5_pair_0 : List UInt8 := [42, 27, 182, 0, 92, 153, 0, 27, 42, 28, 182, 0, 92, 153, 0, 19, 27, 28, 159, 0, 14, 29, 3]
abbrev dktX5_pair_0 : List UInt8 := dkwX5_pair_0 ++ dktX5_pair_1
theorem dksX5_pair_0 : cX5_pair.data.toList.drop 0 = dktX5_pair_0 := by decide +kernel
theorem dksX5_pair_1 : cX5_pair.data.toList.drop 23 = dktX5_pair_1 := dk_seg dksX5_pair_0 23 rfl rfl
theorem dksX5_pair_2 : cX5_pair.data.toList.drop 46 = dktX5_pair_2 := dk_seg dksX5_pair_1 23 rfl rfl
theorem dksX5_pair_3 : cX5_pair.data.toList.drop 69 = dktX5_pair_3 := dk_seg dksX5_pair_2 23 rfl rfl
theorem dksX5_pair_4 : cX5_pair.data.toList.drop 93 = dktX5_pair_4 := dk_seg dksX5_pair_3 24 rfl rfl
theorem dX5_pair_0 : decode cX5_pair 0 = .ok (.aload_n 0, 1) := dk_42 (dk_at dksX5_pair_0 0 rfl rfl)
theorem dX5_pair_1 : decode cX5_pair 1 = .ok (.iload_n 1, 1) := dk_27 (dk_at dksX5_pair_0 1 rfl rfl)
theorem dX5_pair_2 : decode cX5_pair 2 = .ok (.invokevirtual 92, 3) := dk_182 0 92 (dk_at dksX5_pair_0 2 rfl rfl)
theorem dX5_pair_5 : decode cX5_pair 5 = .ok (.ifCond .eq 27, 3) := dk_153 0 27 (dk_at dksX5_pair_0 5 rfl rfl)
theorem dX5_pair_8 : decode cX5_pair 8 = .ok (.aload_n 0, 1) := dk_42 (dk_at dksX5_pair_0 8 rfl rfl)
theorem dX5_pair_9 : decode cX5_pair 9 = .ok (.iload_n 2, 1) := dk_28 (dk_at dksX5_pair_0 9 rfl rfl)
theorem dX5_pair_10 : decode cX5_pair 10 = .ok (.invokevirtual 92, 3) := dk_182 0 92 (dk_at dksX5_pair_0 10 rfl rfl)
theorem dX5_pair_13 : decode cX5_pair 13 = .ok (.ifCond .eq 19, 3) := dk_153 0 19 (dk_at dksX5_pair_0 13 rfl rfl)
theorem dX5_pair_16 : decode cX5_pair 16 = .ok (.iload_n 1, 1) := dk_27 (dk_at dksX5_pair_0 16 rfl rfl)
theorem dX5_pair_17 : decode cX5_pair 17 = .ok (.iload_n 2, 1) := dk_28 (dk_at dksX5_pair_0 17 rfl rfl)
theorem dX5_pair_18 : decode cX5_pair 18 = .ok (.if_icmp .eq 14, 3) := dk_159 0 14 (dk_at dksX5_pair_0 18 rfl rfl)
theorem dX5_pair_21 : decode cX5_pair 21 = .ok (.iload_n 3, 1) := dk_29 (dk_at dksX5_pair_0 21 rfl rfl)
theorem dX5_pair_22 : decode cX5_pair 22 = .ok (.iconst 0, 1) := dk_3 (dk_at dksX5_pair_0 22 rfl rfl)
theorem dX5_pair_23 : decode cX5_pair 23 = .ok (.sipush 9999, 3) := dk_17 39 15 (dk_at dksX5_pair_1 0 rfl rfl)
theorem dX5_pair_26 : decode cX5_pair 26 = .ok (.invokestatic 47, 3) := dk_184 0 47 (dk_at dksX5_pair_1 3 rfl rfl)
theorem dX5_pair_29 : decode cX5_pair 29 = .ok (.ifCond .ne 9, 3) := dk_154 0 9 (dk_at dksX5_pair_1 6 rfl rfl)
theorem dX5_pair_32 : decode cX5_pair 32 = .ok (.aload_n 0, 1) := dk_42 (dk_at dksX5_pair_1 9 rfl rfl)
theorem dX5_pair_33 : decode cX5_pair 33 = .ok (.iconst 1, 1) := dk_4 (dk_at dksX5_pair_1 10 rfl rfl)
theorem dX5_pair_34 : decode cX5_pair 34 = .ok (.invokevirtual 60, 3) := dk_182 0 60 (dk_at dksX5_pair_1 11 rfl rfl)
theorem dX5_pair_37 : decode cX5_pair 37 = .ok (.ireturn, 1) := dk_172 (dk_at dksX5_pair_1 14 rfl rfl)
theorem dX5_pair_38 : decode cX5_pair 38 = .ok (.aload_n 0, 1) := dk_42 (dk_at dksX5_pair_1 15 rfl rfl)
theorem dX5_pair_39 : decode cX5_pair 39 = .ok (.getfield 7, 3) := dk_180 0 7 (dk_at dksX5_pair_1 16 rfl rfl)
theorem dX5_pair_42 : decode cX5_pair 42 = .ok (.iconst 2, 1) := dk_5 (dk_at dksX5_pair_1 19 rfl rfl)
theorem dX5_pair_43 : decode cX5_pair 43 = .ok (.iaload, 1) := dk_46 (dk_at dksX5_pair_1 20 rfl rfl)
theorem dX5_pair_44 : decode cX5_pair 44 = .ok (.bipush 6, 2) := dk_16 6 (dk_at dksX5_pair_1 21 rfl rfl)
theorem dX5_pair_46 : decode cX5_pair 46 = .ok (.if_icmp .ne 9, 3) := dk_160 0 9 (dk_at dksX5_pair_2 0 rfl rfl)
theorem dX5_pair_49 : decode cX5_pair 49 = .ok (.aload_n 0, 1) := dk_42 (dk_at dksX5_pair_2 3 rfl rfl)
theorem dX5_pair_50 : decode cX5_pair 50 = .ok (.iconst 4, 1) := dk_7 (dk_at dksX5_pair_2 4 rfl rfl)
theorem dX5_pair_51 : decode cX5_pair 51 = .ok (.invokevirtual 60, 3) := dk_182 0 60 (dk_at dksX5_pair_2 5 rfl rfl)
theorem dX5_pair_54 : decode cX5_pair 54 = .ok (.ireturn, 1) := dk_172 (dk_at dksX5_pair_2 8 rfl rfl)
theorem dX5_pair_55 : decode cX5_pair 55 = .ok (.bipush 92, 2) := dk_16 92 (dk_at dksX5_pair_2 9 rfl rfl)
theorem dX5_pair_57 : decode cX5_pair 57 = .ok (.iconst 3, 1) := dk_6 (dk_at dksX5_pair_2 11 rfl rfl)
theorem dX5_pair_58 : decode cX5_pair 58 = .ok (.aload_n 0, 1) := dk_42 (dk_at dksX5_pair_2 12 rfl rfl)
theorem dX5_pair_59 : decode cX5_pair 59 = .ok (.getfield 7, 3) := dk_180 0 7 (dk_at dksX5_pair_2 13 rfl rfl)
theorem dX5_pair_62 : decode cX5_pair 62 = .ok (.iconst 2, 1) := dk_5 (dk_at dksX5_pair_2 16 rfl rfl)
theorem dX5_pair_63 : decode cX5_pair 63 = .ok (.iaload, 1) := dk_46 (dk_at dksX5_pair_2 17 rfl rfl)
theorem dX5_pair_64 : decode cX5_pair 64 = .ok (.imul, 1) := dk_104 (dk_at dksX5_pair_2 18 rfl rfl)
theorem dX5_pair_65 : decode cX5_pair 65 = .ok (.iadd, 1) := dk_96 (dk_at dksX5_pair_2 19 rfl rfl)
theorem dX5_pair_66 : decode cX5_pair 66 = .ok (.istore 4, 2) := dk_54 4 (dk_at dksX5_pair_2 20 rfl rfl)
theorem dX5_pair_68 : decode cX5_pair 68 = .ok (.aload_n 0, 1) := dk_42 (dk_at dksX5_pair_2 22 rfl rfl)
theorem dX5_pair_69 : decode cX5_pair 69 = .ok (.getfield 7, 3) := dk_180 0 7 (dk_at dksX5_pair_3 0 rfl rfl)
theorem dX5_pair_72 : decode cX5_pair 72 = .ok (.iload 4, 2) := dk_21 4 (dk_at dksX5_pair_3 3 rfl rfl)
theorem dX5_pair_74 : decode cX5_pair 74 = .ok (.iload_n 1, 1) := dk_27 (dk_at dksX5_pair_3 5 rfl rfl)
theorem dX5_pair_75 : decode cX5_pair 75 = .ok (.iastore, 1) := dk_79 (dk_at dksX5_pair_3 6 rfl rfl)
theorem dX5_pair_76 : decode cX5_pair 76 = .ok (.aload_n 0, 1) := dk_42 (dk_at dksX5_pair_3 7 rfl rfl)
theorem dX5_pair_77 : decode cX5_pair 77 = .ok (.getfield 7, 3) := dk_180 0 7 (dk_at dksX5_pair_3 8 rfl rfl)
theorem dX5_pair_80 : decode cX5_pair 80 = .ok (.iload 4, 2) := dk_21 4 (dk_at dksX5_pair_3 11 rfl rfl)
theorem dX5_pair_82 : decode cX5_pair 82 = .ok (.iconst 1, 1) := dk_4 (dk_at dksX5_pair_3 13 rfl rfl)
theorem dX5_pair_83 : decode cX5_pair 83 = .ok (.iadd, 1) := dk_96 (dk_at dksX5_pair_3 14 rfl rfl)
theorem dX5_pair_84 : decode cX5_pair 84 = .ok (.iload_n 2, 1) := dk_28 (dk_at dksX5_pair_3 15 rfl rfl)
theorem dX5_pair_85 : decode cX5_pair 85 = .ok (.iastore, 1) := dk_79 (dk_at dksX5_pair_3 16 rfl rfl)
theorem dX5_pair_86 : decode cX5_pair 86 = .ok (.aload_n 0, 1) := dk_42 (dk_at dksX5_pair_3 17 rfl rfl)
theorem dX5_pair_87 : decode cX5_pair 87 = .ok (.getfield 7, 3) := dk_180 0 7 (dk_at dksX5_pair_3 18 rfl rfl)
theorem dX5_pair_90 : decode cX5_pair 90 = .ok (.iload 4, 2) := dk_21 4 (dk_at dksX5_pair_3 21 rfl rfl)
theorem dX5_pair_92 : decode cX5_pair 92 = .ok (.iconst 2, 1) := dk_5 (dk_at dksX5_pair_3 23 rfl rfl)
theorem dX5_pair_93 : decode cX5_pair 93 = .ok (.iadd, 1) := dk_96 (dk_at dksX5_pair_4 0 rfl rfl)
theorem dX5_pair_94 : decode cX5_pair 94 = .ok (.iload_n 3, 1) := dk_29 (dk_at dksX5_pair_4 1 rfl rfl)
theorem dX5_pair_95 : decode cX5_pair 95 = .ok (.iastore, 1) := dk_79 (dk_at dksX5_pair_4 2 rfl rfl)
theorem dX5_pair_96 : decode cX5_pair 96 = .ok (.aload_n 0, 1) := dk_42 (dk_at dksX5_pair_4 3 rfl rfl)
theorem dX5_pair_97 : decode cX5_pair 97 = .ok (.getfield 7, 3) := dk_180 0 7 (dk_at dksX5_pair_4 4 rfl rfl)
theorem dX5_pair_100 : decode cX5_pair 100 = .ok (.iconst 2, 1) := dk_5 (dk_at dksX5_pair_4 7 rfl rfl)
theorem dX5_pair_101 : decode cX5_pair 101 = .ok (.dup2, 1) := dk_92 (dk_at dksX5_pair_4 8 rfl rfl)
theorem dX5_pair_102 : decode cX5_pair 102 = .ok (.iaload, 1) := dk_46 (dk_at dksX5_pair_4 9 rfl rfl)
theorem dX5_pair_103 : decode cX5_pair 103 = .ok (.iconst 1, 1) := dk_4 (dk_at dksX5_pair_4 10 rfl rfl)
theorem dX5_pair_104 : decode cX5_pair 104 = .ok (.iadd, 1) := dk_96 (dk_at dksX5_pair_4 11 rfl rfl)
theorem dX5_pair_105 : decode cX5_pair 105 = .ok (.iastore, 1) := dk_79 (dk_at dksX5_pair_4 12 rfl rfl)
theorem dX5_pair_106 : decode cX5_pair 106 = .ok (.aload_n 0, 1) := dk_42 (dk_at dksX5_pair_4 13 rfl rfl)
theorem dX5_pair_107 : decode cX5_pair 107 = .ok (.getfield 7, 3) := dk_180 0 7 (dk_at dksX5_pair_4 14 rfl rfl)
theorem dX5_pair_110 : decode cX5_pair 110 = .ok (.iconst 2, 1) := dk_5 (dk_at dksX5_pair_4 17 rfl rfl)
theorem dX5_pair_111 : decode cX5_pair 111 = .ok (.iaload, 1) := dk_46 (dk_at dksX5_pair_4 18 rfl rfl)
theorem dX5_pair_112 : decode cX5_pair 112 = .ok (.iconst 1, 1) := dk_4 (dk_at dksX5_pair_4 19 rfl rfl)
theorem dX5_pair_113 : decode cX5_pair 113 = .ok (.isub, 1) := dk_100 (dk_at dksX5_pair_4 20 rfl rfl)
theorem dX5_pair_114 : decode cX5_pair 114 = .ok (.ireturn, 1) := dk_172 (dk_at dksX5_pair_4 21 rfl rfl)
abbrev cX5_pairIs : ByteArray := prog_20_method_31_code
def yX5_pairIs : MethodName := ⟨RX5, "pairIs", "(II)I"⟩
def dkwX5_pairIs_2 : List UInt8 := [27, 182, 0, 98, 172]
abbrev dktX5_pairIs_2 : List UInt8 := dkwX5_pairIs_2 ++ []
def dkwX5_pairIs_1 : List UInt8 := [154, 0, 9, 42, 4, 182, 0, 60, 172, 28, 6, 162, 0, 12, 42, 27, 28, 182, 0, 64, 167, 0, 8, 42]
abbrev dktX5_pairIs_1 : List UInt8 := dkwX5_pairIs_1 ++ dktX5_pairIs_2
def dkwX5_pairIs_0 : List UInt8 := [27, 3, 42, 180, 0, 7, 5, 46, 4, 100, 184, 0, 47, 153, 0, 12, 28, 3, 6, 184, 0, 47]
abbrev dktX5_pairIs_0 : List UInt8 := dkwX5_pairIs_0 ++ dktX5_pairIs_1
theorem dksX5_pairIs_0 : cX5_pairIs.data.toList.drop 0 = dktX5_pairIs_0 := by decide +kernel
theorem dksX5_pairIs_1 : cX5_pairIs.data.toList.drop 22 = dktX5_pairIs_1 := dk_seg dksX5_pairIs_0 22 rfl rfl
theorem dksX5_pairIs_2 : cX5_pairIs.data.toList.drop 46 = dktX5_pairIs_2 := dk_seg dksX5_pairIs_1 24 rfl rfl
theorem dX5_pairIs_0 : decode cX5_pairIs 0 = .ok (.iload_n 1, 1) := dk_27 (dk_at dksX5_pairIs_0 0 rfl rfl)
theorem dX5_pairIs_1 : decode cX5_pairIs 1 = .ok (.iconst 0, 1) := dk_3 (dk_at dksX5_pairIs_0 1 rfl rfl)
theorem dX5_pairIs_2 : decode cX5_pairIs 2 = .ok (.aload_n 0, 1) := dk_42 (dk_at dksX5_pairIs_0 2 rfl rfl)
theorem dX5_pairIs_3 : decode cX5_pairIs 3 = .ok (.getfield 7, 3) := dk_180 0 7 (dk_at dksX5_pairIs_0 3 rfl rfl)
theorem dX5_pairIs_6 : decode cX5_pairIs 6 = .ok (.iconst 2, 1) := dk_5 (dk_at dksX5_pairIs_0 6 rfl rfl)
theorem dX5_pairIs_7 : decode cX5_pairIs 7 = .ok (.iaload, 1) := dk_46 (dk_at dksX5_pairIs_0 7 rfl rfl)
theorem dX5_pairIs_8 : decode cX5_pairIs 8 = .ok (.iconst 1, 1) := dk_4 (dk_at dksX5_pairIs_0 8 rfl rfl)
theorem dX5_pairIs_9 : decode cX5_pairIs 9 = .ok (.isub, 1) := dk_100 (dk_at dksX5_pairIs_0 9 rfl rfl)
theorem dX5_pairIs_10 : decode cX5_pairIs 10 = .ok (.invokestatic 47, 3) := dk_184 0 47 (dk_at dksX5_pairIs_0 10 rfl rfl)
theorem dX5_pairIs_13 : decode cX5_pairIs 13 = .ok (.ifCond .eq 12, 3) := dk_153 0 12 (dk_at dksX5_pairIs_0 13 rfl rfl)
theorem dX5_pairIs_16 : decode cX5_pairIs 16 = .ok (.iload_n 2, 1) := dk_28 (dk_at dksX5_pairIs_0 16 rfl rfl)
theorem dX5_pairIs_17 : decode cX5_pairIs 17 = .ok (.iconst 0, 1) := dk_3 (dk_at dksX5_pairIs_0 17 rfl rfl)
theorem dX5_pairIs_18 : decode cX5_pairIs 18 = .ok (.iconst 3, 1) := dk_6 (dk_at dksX5_pairIs_0 18 rfl rfl)
theorem dX5_pairIs_19 : decode cX5_pairIs 19 = .ok (.invokestatic 47, 3) := dk_184 0 47 (dk_at dksX5_pairIs_0 19 rfl rfl)
theorem dX5_pairIs_22 : decode cX5_pairIs 22 = .ok (.ifCond .ne 9, 3) := dk_154 0 9 (dk_at dksX5_pairIs_1 0 rfl rfl)
theorem dX5_pairIs_25 : decode cX5_pairIs 25 = .ok (.aload_n 0, 1) := dk_42 (dk_at dksX5_pairIs_1 3 rfl rfl)
theorem dX5_pairIs_26 : decode cX5_pairIs 26 = .ok (.iconst 1, 1) := dk_4 (dk_at dksX5_pairIs_1 4 rfl rfl)
theorem dX5_pairIs_27 : decode cX5_pairIs 27 = .ok (.invokevirtual 60, 3) := dk_182 0 60 (dk_at dksX5_pairIs_1 5 rfl rfl)
theorem dX5_pairIs_30 : decode cX5_pairIs 30 = .ok (.ireturn, 1) := dk_172 (dk_at dksX5_pairIs_1 8 rfl rfl)
theorem dX5_pairIs_31 : decode cX5_pairIs 31 = .ok (.iload_n 2, 1) := dk_28 (dk_at dksX5_pairIs_1 9 rfl rfl)
theorem dX5_pairIs_32 : decode cX5_pairIs 32 = .ok (.iconst 3, 1) := dk_6 (dk_at dksX5_pairIs_1 10 rfl rfl)
theorem dX5_pairIs_33 : decode cX5_pairIs 33 = .ok (.if_icmp .ge 12, 3) := dk_162 0 12 (dk_at dksX5_pairIs_1 11 rfl rfl)
theorem dX5_pairIs_36 : decode cX5_pairIs 36 = .ok (.aload_n 0, 1) := dk_42 (dk_at dksX5_pairIs_1 14 rfl rfl)
theorem dX5_pairIs_37 : decode cX5_pairIs 37 = .ok (.iload_n 1, 1) := dk_27 (dk_at dksX5_pairIs_1 15 rfl rfl)
theorem dX5_pairIs_38 : decode cX5_pairIs 38 = .ok (.iload_n 2, 1) := dk_28 (dk_at dksX5_pairIs_1 16 rfl rfl)
theorem dX5_pairIs_39 : decode cX5_pairIs 39 = .ok (.invokevirtual 64, 3) := dk_182 0 64 (dk_at dksX5_pairIs_1 17 rfl rfl)
theorem dX5_pairIs_42 : decode cX5_pairIs 42 = .ok (.goto 8, 3) := dk_167 0 8 (dk_at dksX5_pairIs_1 20 rfl rfl)
theorem dX5_pairIs_45 : decode cX5_pairIs 45 = .ok (.aload_n 0, 1) := dk_42 (dk_at dksX5_pairIs_1 23 rfl rfl)
theorem dX5_pairIs_46 : decode cX5_pairIs 46 = .ok (.iload_n 1, 1) := dk_27 (dk_at dksX5_pairIs_2 0 rfl rfl)
theorem dX5_pairIs_47 : decode cX5_pairIs 47 = .ok (.invokevirtual 98, 3) := dk_182 0 98 (dk_at dksX5_pairIs_2 1 rfl rfl)
theorem dX5_pairIs_50 : decode cX5_pairIs 50 = .ok (.ireturn, 1) := dk_172 (dk_at dksX5_pairIs_2 4 rfl rfl)
abbrev cX5_hasBonus : ByteArray := prog_20_method_30_code
def yX5_hasBonus : MethodName := ⟨RX5, "hasBonus", "(I)I"⟩
def dkwX5_hasBonus_3 : List UInt8 := [2, 172]
abbrev dktX5_hasBonus_3 : List UInt8 := dkwX5_hasBonus_3 ++ []
def dkwX5_hasBonus_2 : List UInt8 := [153, 0, 24, 42, 28, 182, 0, 67, 42, 29, 182, 0, 67, 160, 0, 11, 42, 28, 182, 0, 67, 167, 0, 4]
abbrev dktX5_hasBonus_2 : List UInt8 := dkwX5_hasBonus_2 ++ dktX5_hasBonus_3
def dkwX5_hasBonus_1 : List UInt8 := [161, 0, 18, 42, 29, 5, 182, 0, 51, 16, 50, 161, 0, 7, 4, 167, 0, 4, 3, 54, 4, 21, 4]
abbrev dktX5_hasBonus_1 : List UInt8 := dkwX5_hasBonus_1 ++ dktX5_hasBonus_2
def dkwX5_hasBonus_0 : List UInt8 := [42, 27, 3, 182, 0, 64, 61, 42, 27, 4, 182, 0, 64, 62, 42, 28, 5, 182, 0, 51, 16, 50]
abbrev dktX5_hasBonus_0 : List UInt8 := dkwX5_hasBonus_0 ++ dktX5_hasBonus_1
theorem dksX5_hasBonus_0 : cX5_hasBonus.data.toList.drop 0 = dktX5_hasBonus_0 := by decide +kernel
theorem dksX5_hasBonus_1 : cX5_hasBonus.data.toList.drop 22 = dktX5_hasBonus_1 := dk_seg dksX5_hasBonus_0 22 rfl rfl
theorem dksX5_hasBonus_2 : cX5_hasBonus.data.toList.drop 45 = dktX5_hasBonus_2 := dk_seg dksX5_hasBonus_1 23 rfl rfl
theorem dksX5_hasBonus_3 : cX5_hasBonus.data.toList.drop 69 = dktX5_hasBonus_3 := dk_seg dksX5_hasBonus_2 24 rfl rfl
theorem dX5_hasBonus_0 : decode cX5_hasBonus 0 = .ok (.aload_n 0, 1) := dk_42 (dk_at dksX5_hasBonus_0 0 rfl rfl)
theorem dX5_hasBonus_1 : decode cX5_hasBonus 1 = .ok (.iload_n 1, 1) := dk_27 (dk_at dksX5_hasBonus_0 1 rfl rfl)
theorem dX5_hasBonus_2 : decode cX5_hasBonus 2 = .ok (.iconst 0, 1) := dk_3 (dk_at dksX5_hasBonus_0 2 rfl rfl)
theorem dX5_hasBonus_3 : decode cX5_hasBonus 3 = .ok (.invokevirtual 64, 3) := dk_182 0 64 (dk_at dksX5_hasBonus_0 3 rfl rfl)
theorem dX5_hasBonus_6 : decode cX5_hasBonus 6 = .ok (.istore_n 2, 1) := dk_61 (dk_at dksX5_hasBonus_0 6 rfl rfl)
theorem dX5_hasBonus_7 : decode cX5_hasBonus 7 = .ok (.aload_n 0, 1) := dk_42 (dk_at dksX5_hasBonus_0 7 rfl rfl)
theorem dX5_hasBonus_8 : decode cX5_hasBonus 8 = .ok (.iload_n 1, 1) := dk_27 (dk_at dksX5_hasBonus_0 8 rfl rfl)
theorem dX5_hasBonus_9 : decode cX5_hasBonus 9 = .ok (.iconst 1, 1) := dk_4 (dk_at dksX5_hasBonus_0 9 rfl rfl)
theorem dX5_hasBonus_10 : decode cX5_hasBonus 10 = .ok (.invokevirtual 64, 3) := dk_182 0 64 (dk_at dksX5_hasBonus_0 10 rfl rfl)
theorem dX5_hasBonus_13 : decode cX5_hasBonus 13 = .ok (.istore_n 3, 1) := dk_62 (dk_at dksX5_hasBonus_0 13 rfl rfl)
theorem dX5_hasBonus_14 : decode cX5_hasBonus 14 = .ok (.aload_n 0, 1) := dk_42 (dk_at dksX5_hasBonus_0 14 rfl rfl)
theorem dX5_hasBonus_15 : decode cX5_hasBonus 15 = .ok (.iload_n 2, 1) := dk_28 (dk_at dksX5_hasBonus_0 15 rfl rfl)
theorem dX5_hasBonus_16 : decode cX5_hasBonus 16 = .ok (.iconst 2, 1) := dk_5 (dk_at dksX5_hasBonus_0 16 rfl rfl)
theorem dX5_hasBonus_17 : decode cX5_hasBonus 17 = .ok (.invokevirtual 51, 3) := dk_182 0 51 (dk_at dksX5_hasBonus_0 17 rfl rfl)
theorem dX5_hasBonus_20 : decode cX5_hasBonus 20 = .ok (.bipush 50, 2) := dk_16 50 (dk_at dksX5_hasBonus_0 20 rfl rfl)
theorem dX5_hasBonus_22 : decode cX5_hasBonus 22 = .ok (.if_icmp .lt 18, 3) := dk_161 0 18 (dk_at dksX5_hasBonus_1 0 rfl rfl)
theorem dX5_hasBonus_25 : decode cX5_hasBonus 25 = .ok (.aload_n 0, 1) := dk_42 (dk_at dksX5_hasBonus_1 3 rfl rfl)
theorem dX5_hasBonus_26 : decode cX5_hasBonus 26 = .ok (.iload_n 3, 1) := dk_29 (dk_at dksX5_hasBonus_1 4 rfl rfl)
theorem dX5_hasBonus_27 : decode cX5_hasBonus 27 = .ok (.iconst 2, 1) := dk_5 (dk_at dksX5_hasBonus_1 5 rfl rfl)
theorem dX5_hasBonus_28 : decode cX5_hasBonus 28 = .ok (.invokevirtual 51, 3) := dk_182 0 51 (dk_at dksX5_hasBonus_1 6 rfl rfl)
theorem dX5_hasBonus_31 : decode cX5_hasBonus 31 = .ok (.bipush 50, 2) := dk_16 50 (dk_at dksX5_hasBonus_1 9 rfl rfl)
theorem dX5_hasBonus_33 : decode cX5_hasBonus 33 = .ok (.if_icmp .lt 7, 3) := dk_161 0 7 (dk_at dksX5_hasBonus_1 11 rfl rfl)
theorem dX5_hasBonus_36 : decode cX5_hasBonus 36 = .ok (.iconst 1, 1) := dk_4 (dk_at dksX5_hasBonus_1 14 rfl rfl)
theorem dX5_hasBonus_37 : decode cX5_hasBonus 37 = .ok (.goto 4, 3) := dk_167 0 4 (dk_at dksX5_hasBonus_1 15 rfl rfl)
theorem dX5_hasBonus_40 : decode cX5_hasBonus 40 = .ok (.iconst 0, 1) := dk_3 (dk_at dksX5_hasBonus_1 18 rfl rfl)
theorem dX5_hasBonus_41 : decode cX5_hasBonus 41 = .ok (.istore 4, 2) := dk_54 4 (dk_at dksX5_hasBonus_1 19 rfl rfl)
theorem dX5_hasBonus_43 : decode cX5_hasBonus 43 = .ok (.iload 4, 2) := dk_21 4 (dk_at dksX5_hasBonus_1 21 rfl rfl)
theorem dX5_hasBonus_45 : decode cX5_hasBonus 45 = .ok (.ifCond .eq 24, 3) := dk_153 0 24 (dk_at dksX5_hasBonus_2 0 rfl rfl)
theorem dX5_hasBonus_48 : decode cX5_hasBonus 48 = .ok (.aload_n 0, 1) := dk_42 (dk_at dksX5_hasBonus_2 3 rfl rfl)
theorem dX5_hasBonus_49 : decode cX5_hasBonus 49 = .ok (.iload_n 2, 1) := dk_28 (dk_at dksX5_hasBonus_2 4 rfl rfl)
theorem dX5_hasBonus_50 : decode cX5_hasBonus 50 = .ok (.invokevirtual 67, 3) := dk_182 0 67 (dk_at dksX5_hasBonus_2 5 rfl rfl)
theorem dX5_hasBonus_53 : decode cX5_hasBonus 53 = .ok (.aload_n 0, 1) := dk_42 (dk_at dksX5_hasBonus_2 8 rfl rfl)
theorem dX5_hasBonus_54 : decode cX5_hasBonus 54 = .ok (.iload_n 3, 1) := dk_29 (dk_at dksX5_hasBonus_2 9 rfl rfl)
theorem dX5_hasBonus_55 : decode cX5_hasBonus 55 = .ok (.invokevirtual 67, 3) := dk_182 0 67 (dk_at dksX5_hasBonus_2 10 rfl rfl)
theorem dX5_hasBonus_58 : decode cX5_hasBonus 58 = .ok (.if_icmp .ne 11, 3) := dk_160 0 11 (dk_at dksX5_hasBonus_2 13 rfl rfl)
theorem dX5_hasBonus_61 : decode cX5_hasBonus 61 = .ok (.aload_n 0, 1) := dk_42 (dk_at dksX5_hasBonus_2 16 rfl rfl)
theorem dX5_hasBonus_62 : decode cX5_hasBonus 62 = .ok (.iload_n 2, 1) := dk_28 (dk_at dksX5_hasBonus_2 17 rfl rfl)
theorem dX5_hasBonus_63 : decode cX5_hasBonus 63 = .ok (.invokevirtual 67, 3) := dk_182 0 67 (dk_at dksX5_hasBonus_2 18 rfl rfl)
theorem dX5_hasBonus_66 : decode cX5_hasBonus 66 = .ok (.goto 4, 3) := dk_167 0 4 (dk_at dksX5_hasBonus_2 21 rfl rfl)
theorem dX5_hasBonus_69 : decode cX5_hasBonus 69 = .ok (.iconst (-1), 1) := dk_2 (dk_at dksX5_hasBonus_3 0 rfl rfl)
theorem dX5_hasBonus_70 : decode cX5_hasBonus 70 = .ok (.ireturn, 1) := dk_172 (dk_at dksX5_hasBonus_3 1 rfl rfl)
abbrev cX5_rule : ByteArray := prog_20_method_33_code
def yX5_rule : MethodName := ⟨RX5, "rule", "(II)I"⟩
def dkwX5_rule_2 : List UInt8 := [29, 172]
abbrev dktX5_rule_2 : List UInt8 := dkwX5_rule_2 ++ []
def dkwX5_rule_1 : List UInt8 := [182, 0, 60, 172, 42, 180, 0, 7, 16, 10, 27, 96, 46, 62, 42, 180, 0, 7, 16, 10, 27, 96, 28, 79]
abbrev dktX5_rule_1 : List UInt8 := dkwX5_rule_1 ++ dktX5_rule_2
def dkwX5_rule_0 : List UInt8 := [27, 3, 7, 184, 0, 47, 153, 0, 15, 28, 3, 27, 184, 0, 101, 184, 0, 47, 154, 0, 9, 42, 4]
abbrev dktX5_rule_0 : List UInt8 := dkwX5_rule_0 ++ dktX5_rule_1
theorem dksX5_rule_0 : cX5_rule.data.toList.drop 0 = dktX5_rule_0 := by decide +kernel
theorem dksX5_rule_1 : cX5_rule.data.toList.drop 23 = dktX5_rule_1 := dk_seg dksX5_rule_0 23 rfl rfl
theorem dksX5_rule_2 : cX5_rule.data.toList.drop 47 = dktX5_rule_2 := dk_seg dksX5_rule_1 24 rfl rfl
theorem dX5_rule_0 : decode cX5_rule 0 = .ok (.iload_n 1, 1) := dk_27 (dk_at dksX5_rule_0 0 rfl rfl)
theorem dX5_rule_1 : decode cX5_rule 1 = .ok (.iconst 0, 1) := dk_3 (dk_at dksX5_rule_0 1 rfl rfl)
theorem dX5_rule_2 : decode cX5_rule 2 = .ok (.iconst 4, 1) := dk_7 (dk_at dksX5_rule_0 2 rfl rfl)
theorem dX5_rule_3 : decode cX5_rule 3 = .ok (.invokestatic 47, 3) := dk_184 0 47 (dk_at dksX5_rule_0 3 rfl rfl)
theorem dX5_rule_6 : decode cX5_rule 6 = .ok (.ifCond .eq 15, 3) := dk_153 0 15 (dk_at dksX5_rule_0 6 rfl rfl)
theorem dX5_rule_9 : decode cX5_rule 9 = .ok (.iload_n 2, 1) := dk_28 (dk_at dksX5_rule_0 9 rfl rfl)
theorem dX5_rule_10 : decode cX5_rule 10 = .ok (.iconst 0, 1) := dk_3 (dk_at dksX5_rule_0 10 rfl rfl)
theorem dX5_rule_11 : decode cX5_rule 11 = .ok (.iload_n 1, 1) := dk_27 (dk_at dksX5_rule_0 11 rfl rfl)
theorem dX5_rule_12 : decode cX5_rule 12 = .ok (.invokestatic 101, 3) := dk_184 0 101 (dk_at dksX5_rule_0 12 rfl rfl)
theorem dX5_rule_15 : decode cX5_rule 15 = .ok (.invokestatic 47, 3) := dk_184 0 47 (dk_at dksX5_rule_0 15 rfl rfl)
theorem dX5_rule_18 : decode cX5_rule 18 = .ok (.ifCond .ne 9, 3) := dk_154 0 9 (dk_at dksX5_rule_0 18 rfl rfl)
theorem dX5_rule_21 : decode cX5_rule 21 = .ok (.aload_n 0, 1) := dk_42 (dk_at dksX5_rule_0 21 rfl rfl)
theorem dX5_rule_22 : decode cX5_rule 22 = .ok (.iconst 1, 1) := dk_4 (dk_at dksX5_rule_0 22 rfl rfl)
theorem dX5_rule_23 : decode cX5_rule 23 = .ok (.invokevirtual 60, 3) := dk_182 0 60 (dk_at dksX5_rule_1 0 rfl rfl)
theorem dX5_rule_26 : decode cX5_rule 26 = .ok (.ireturn, 1) := dk_172 (dk_at dksX5_rule_1 3 rfl rfl)
theorem dX5_rule_27 : decode cX5_rule 27 = .ok (.aload_n 0, 1) := dk_42 (dk_at dksX5_rule_1 4 rfl rfl)
theorem dX5_rule_28 : decode cX5_rule 28 = .ok (.getfield 7, 3) := dk_180 0 7 (dk_at dksX5_rule_1 5 rfl rfl)
theorem dX5_rule_31 : decode cX5_rule 31 = .ok (.bipush 10, 2) := dk_16 10 (dk_at dksX5_rule_1 8 rfl rfl)
theorem dX5_rule_33 : decode cX5_rule 33 = .ok (.iload_n 1, 1) := dk_27 (dk_at dksX5_rule_1 10 rfl rfl)
theorem dX5_rule_34 : decode cX5_rule 34 = .ok (.iadd, 1) := dk_96 (dk_at dksX5_rule_1 11 rfl rfl)
theorem dX5_rule_35 : decode cX5_rule 35 = .ok (.iaload, 1) := dk_46 (dk_at dksX5_rule_1 12 rfl rfl)
theorem dX5_rule_36 : decode cX5_rule 36 = .ok (.istore_n 3, 1) := dk_62 (dk_at dksX5_rule_1 13 rfl rfl)
theorem dX5_rule_37 : decode cX5_rule 37 = .ok (.aload_n 0, 1) := dk_42 (dk_at dksX5_rule_1 14 rfl rfl)
theorem dX5_rule_38 : decode cX5_rule 38 = .ok (.getfield 7, 3) := dk_180 0 7 (dk_at dksX5_rule_1 15 rfl rfl)
theorem dX5_rule_41 : decode cX5_rule 41 = .ok (.bipush 10, 2) := dk_16 10 (dk_at dksX5_rule_1 18 rfl rfl)
theorem dX5_rule_43 : decode cX5_rule 43 = .ok (.iload_n 1, 1) := dk_27 (dk_at dksX5_rule_1 20 rfl rfl)
theorem dX5_rule_44 : decode cX5_rule 44 = .ok (.iadd, 1) := dk_96 (dk_at dksX5_rule_1 21 rfl rfl)
theorem dX5_rule_45 : decode cX5_rule 45 = .ok (.iload_n 2, 1) := dk_28 (dk_at dksX5_rule_1 22 rfl rfl)
theorem dX5_rule_46 : decode cX5_rule 46 = .ok (.iastore, 1) := dk_79 (dk_at dksX5_rule_1 23 rfl rfl)
theorem dX5_rule_47 : decode cX5_rule 47 = .ok (.iload_n 3, 1) := dk_29 (dk_at dksX5_rule_2 0 rfl rfl)
theorem dX5_rule_48 : decode cX5_rule 48 = .ok (.ireturn, 1) := dk_172 (dk_at dksX5_rule_2 1 rfl rfl)
abbrev cX5_mostOf : ByteArray := prog_20_method_32_code
def yX5_mostOf : MethodName := ⟨RX5, "mostOf", "(I)I"⟩
def dkwX5_mostOf_1 : List UInt8 := [17, 3, 231, 167, 0, 5, 16, 99, 172]
abbrev dktX5_mostOf_1 : List UInt8 := dkwX5_mostOf_1 ++ []
def dkwX5_mostOf_0 : List UInt8 := [26, 5, 160, 0, 7, 5, 167, 0, 26, 26, 6, 160, 0, 8, 16, 9, 167, 0, 16, 26, 7, 160, 0, 9]
abbrev dktX5_mostOf_0 : List UInt8 := dkwX5_mostOf_0 ++ dktX5_mostOf_1
theorem dksX5_mostOf_0 : cX5_mostOf.data.toList.drop 0 = dktX5_mostOf_0 := by decide +kernel
theorem dksX5_mostOf_1 : cX5_mostOf.data.toList.drop 24 = dktX5_mostOf_1 := dk_seg dksX5_mostOf_0 24 rfl rfl
theorem dX5_mostOf_0 : decode cX5_mostOf 0 = .ok (.iload_n 0, 1) := dk_26 (dk_at dksX5_mostOf_0 0 rfl rfl)
theorem dX5_mostOf_1 : decode cX5_mostOf 1 = .ok (.iconst 2, 1) := dk_5 (dk_at dksX5_mostOf_0 1 rfl rfl)
theorem dX5_mostOf_2 : decode cX5_mostOf 2 = .ok (.if_icmp .ne 7, 3) := dk_160 0 7 (dk_at dksX5_mostOf_0 2 rfl rfl)
theorem dX5_mostOf_5 : decode cX5_mostOf 5 = .ok (.iconst 2, 1) := dk_5 (dk_at dksX5_mostOf_0 5 rfl rfl)
theorem dX5_mostOf_6 : decode cX5_mostOf 6 = .ok (.goto 26, 3) := dk_167 0 26 (dk_at dksX5_mostOf_0 6 rfl rfl)
theorem dX5_mostOf_9 : decode cX5_mostOf 9 = .ok (.iload_n 0, 1) := dk_26 (dk_at dksX5_mostOf_0 9 rfl rfl)
theorem dX5_mostOf_10 : decode cX5_mostOf 10 = .ok (.iconst 3, 1) := dk_6 (dk_at dksX5_mostOf_0 10 rfl rfl)
theorem dX5_mostOf_11 : decode cX5_mostOf 11 = .ok (.if_icmp .ne 8, 3) := dk_160 0 8 (dk_at dksX5_mostOf_0 11 rfl rfl)
theorem dX5_mostOf_14 : decode cX5_mostOf 14 = .ok (.bipush 9, 2) := dk_16 9 (dk_at dksX5_mostOf_0 14 rfl rfl)
theorem dX5_mostOf_16 : decode cX5_mostOf 16 = .ok (.goto 16, 3) := dk_167 0 16 (dk_at dksX5_mostOf_0 16 rfl rfl)
theorem dX5_mostOf_19 : decode cX5_mostOf 19 = .ok (.iload_n 0, 1) := dk_26 (dk_at dksX5_mostOf_0 19 rfl rfl)
theorem dX5_mostOf_20 : decode cX5_mostOf 20 = .ok (.iconst 4, 1) := dk_7 (dk_at dksX5_mostOf_0 20 rfl rfl)
theorem dX5_mostOf_21 : decode cX5_mostOf 21 = .ok (.if_icmp .ne 9, 3) := dk_160 0 9 (dk_at dksX5_mostOf_0 21 rfl rfl)
theorem dX5_mostOf_24 : decode cX5_mostOf 24 = .ok (.sipush 999, 3) := dk_17 3 231 (dk_at dksX5_mostOf_1 0 rfl rfl)
theorem dX5_mostOf_27 : decode cX5_mostOf 27 = .ok (.goto 5, 3) := dk_167 0 5 (dk_at dksX5_mostOf_1 3 rfl rfl)
theorem dX5_mostOf_30 : decode cX5_mostOf 30 = .ok (.bipush 99, 2) := dk_16 99 (dk_at dksX5_mostOf_1 6 rfl rfl)
theorem dX5_mostOf_32 : decode cX5_mostOf 32 = .ok (.ireturn, 1) := dk_172 (dk_at dksX5_mostOf_1 8 rfl rfl)
abbrev cX5_feed : ByteArray := prog_20_method_34_code
def yX5_feed : MethodName := ⟨RX5, "feed", "(JI)I"⟩
def dkwX5_feed_4 : List UInt8 := [16, 6, 46, 172]
abbrev dktX5_feed_4 : List UInt8 := dkwX5_feed_4 ++ []
def dkwX5_feed_3 : List UInt8 := [127, 136, 79, 42, 180, 0, 7, 16, 6, 92, 46, 4, 96, 79, 132, 4, 1, 167, 255, 208, 42, 180, 0, 7]
abbrev dktX5_feed_3 : List UInt8 := dkwX5_feed_3 ++ dktX5_feed_4
def dkwX5_feed_2 : List UInt8 := [180, 0, 7, 17, 1, 176, 42, 180, 0, 7, 16, 6, 46, 96, 31, 16, 8, 21, 4, 104, 123, 20, 0, 104]
abbrev dktX5_feed_2 : List UInt8 := dkwX5_feed_2 ++ dktX5_feed_3
def dkwX5_feed_1 : List UInt8 := [96, 16, 60, 164, 0, 9, 42, 7, 182, 0, 60, 172, 3, 54, 4, 21, 4, 29, 162, 0, 48, 42]
abbrev dktX5_feed_1 : List UInt8 := dkwX5_feed_1 ++ dktX5_feed_2
def dkwX5_feed_0 : List UInt8 := [29, 4, 16, 8, 184, 0, 47, 154, 0, 9, 42, 4, 182, 0, 60, 172, 42, 180, 0, 7, 16, 6, 46, 29]
abbrev dktX5_feed_0 : List UInt8 := dkwX5_feed_0 ++ dktX5_feed_1
theorem dksX5_feed_0 : cX5_feed.data.toList.drop 0 = dktX5_feed_0 := by decide +kernel
theorem dksX5_feed_1 : cX5_feed.data.toList.drop 24 = dktX5_feed_1 := dk_seg dksX5_feed_0 24 rfl rfl
theorem dksX5_feed_2 : cX5_feed.data.toList.drop 46 = dktX5_feed_2 := dk_seg dksX5_feed_1 22 rfl rfl
theorem dksX5_feed_3 : cX5_feed.data.toList.drop 70 = dktX5_feed_3 := dk_seg dksX5_feed_2 24 rfl rfl
theorem dksX5_feed_4 : cX5_feed.data.toList.drop 94 = dktX5_feed_4 := dk_seg dksX5_feed_3 24 rfl rfl
theorem dX5_feed_0 : decode cX5_feed 0 = .ok (.iload_n 3, 1) := dk_29 (dk_at dksX5_feed_0 0 rfl rfl)
theorem dX5_feed_1 : decode cX5_feed 1 = .ok (.iconst 1, 1) := dk_4 (dk_at dksX5_feed_0 1 rfl rfl)
theorem dX5_feed_2 : decode cX5_feed 2 = .ok (.bipush 8, 2) := dk_16 8 (dk_at dksX5_feed_0 2 rfl rfl)
theorem dX5_feed_4 : decode cX5_feed 4 = .ok (.invokestatic 47, 3) := dk_184 0 47 (dk_at dksX5_feed_0 4 rfl rfl)
theorem dX5_feed_7 : decode cX5_feed 7 = .ok (.ifCond .ne 9, 3) := dk_154 0 9 (dk_at dksX5_feed_0 7 rfl rfl)
theorem dX5_feed_10 : decode cX5_feed 10 = .ok (.aload_n 0, 1) := dk_42 (dk_at dksX5_feed_0 10 rfl rfl)
theorem dX5_feed_11 : decode cX5_feed 11 = .ok (.iconst 1, 1) := dk_4 (dk_at dksX5_feed_0 11 rfl rfl)
theorem dX5_feed_12 : decode cX5_feed 12 = .ok (.invokevirtual 60, 3) := dk_182 0 60 (dk_at dksX5_feed_0 12 rfl rfl)
theorem dX5_feed_15 : decode cX5_feed 15 = .ok (.ireturn, 1) := dk_172 (dk_at dksX5_feed_0 15 rfl rfl)
theorem dX5_feed_16 : decode cX5_feed 16 = .ok (.aload_n 0, 1) := dk_42 (dk_at dksX5_feed_0 16 rfl rfl)
theorem dX5_feed_17 : decode cX5_feed 17 = .ok (.getfield 7, 3) := dk_180 0 7 (dk_at dksX5_feed_0 17 rfl rfl)
theorem dX5_feed_20 : decode cX5_feed 20 = .ok (.bipush 6, 2) := dk_16 6 (dk_at dksX5_feed_0 20 rfl rfl)
theorem dX5_feed_22 : decode cX5_feed 22 = .ok (.iaload, 1) := dk_46 (dk_at dksX5_feed_0 22 rfl rfl)
theorem dX5_feed_23 : decode cX5_feed 23 = .ok (.iload_n 3, 1) := dk_29 (dk_at dksX5_feed_0 23 rfl rfl)
theorem dX5_feed_24 : decode cX5_feed 24 = .ok (.iadd, 1) := dk_96 (dk_at dksX5_feed_1 0 rfl rfl)
theorem dX5_feed_25 : decode cX5_feed 25 = .ok (.bipush 60, 2) := dk_16 60 (dk_at dksX5_feed_1 1 rfl rfl)
theorem dX5_feed_27 : decode cX5_feed 27 = .ok (.if_icmp .le 9, 3) := dk_164 0 9 (dk_at dksX5_feed_1 3 rfl rfl)
theorem dX5_feed_30 : decode cX5_feed 30 = .ok (.aload_n 0, 1) := dk_42 (dk_at dksX5_feed_1 6 rfl rfl)
theorem dX5_feed_31 : decode cX5_feed 31 = .ok (.iconst 4, 1) := dk_7 (dk_at dksX5_feed_1 7 rfl rfl)
theorem dX5_feed_32 : decode cX5_feed 32 = .ok (.invokevirtual 60, 3) := dk_182 0 60 (dk_at dksX5_feed_1 8 rfl rfl)
theorem dX5_feed_35 : decode cX5_feed 35 = .ok (.ireturn, 1) := dk_172 (dk_at dksX5_feed_1 11 rfl rfl)
theorem dX5_feed_36 : decode cX5_feed 36 = .ok (.iconst 0, 1) := dk_3 (dk_at dksX5_feed_1 12 rfl rfl)
theorem dX5_feed_37 : decode cX5_feed 37 = .ok (.istore 4, 2) := dk_54 4 (dk_at dksX5_feed_1 13 rfl rfl)
theorem dX5_feed_39 : decode cX5_feed 39 = .ok (.iload 4, 2) := dk_21 4 (dk_at dksX5_feed_1 15 rfl rfl)
theorem dX5_feed_41 : decode cX5_feed 41 = .ok (.iload_n 3, 1) := dk_29 (dk_at dksX5_feed_1 17 rfl rfl)
theorem dX5_feed_42 : decode cX5_feed 42 = .ok (.if_icmp .ge 48, 3) := dk_162 0 48 (dk_at dksX5_feed_1 18 rfl rfl)
theorem dX5_feed_45 : decode cX5_feed 45 = .ok (.aload_n 0, 1) := dk_42 (dk_at dksX5_feed_1 21 rfl rfl)
theorem dX5_feed_46 : decode cX5_feed 46 = .ok (.getfield 7, 3) := dk_180 0 7 (dk_at dksX5_feed_2 0 rfl rfl)
theorem dX5_feed_49 : decode cX5_feed 49 = .ok (.sipush 432, 3) := dk_17 1 176 (dk_at dksX5_feed_2 3 rfl rfl)
theorem dX5_feed_52 : decode cX5_feed 52 = .ok (.aload_n 0, 1) := dk_42 (dk_at dksX5_feed_2 6 rfl rfl)
theorem dX5_feed_53 : decode cX5_feed 53 = .ok (.getfield 7, 3) := dk_180 0 7 (dk_at dksX5_feed_2 7 rfl rfl)
theorem dX5_feed_56 : decode cX5_feed 56 = .ok (.bipush 6, 2) := dk_16 6 (dk_at dksX5_feed_2 10 rfl rfl)
theorem dX5_feed_58 : decode cX5_feed 58 = .ok (.iaload, 1) := dk_46 (dk_at dksX5_feed_2 12 rfl rfl)
theorem dX5_feed_59 : decode cX5_feed 59 = .ok (.iadd, 1) := dk_96 (dk_at dksX5_feed_2 13 rfl rfl)
theorem dX5_feed_60 : decode cX5_feed 60 = .ok (.lload_n 1, 1) := dk_31 (dk_at dksX5_feed_2 14 rfl rfl)
theorem dX5_feed_61 : decode cX5_feed 61 = .ok (.bipush 8, 2) := dk_16 8 (dk_at dksX5_feed_2 15 rfl rfl)
theorem dX5_feed_63 : decode cX5_feed 63 = .ok (.iload 4, 2) := dk_21 4 (dk_at dksX5_feed_2 17 rfl rfl)
theorem dX5_feed_65 : decode cX5_feed 65 = .ok (.imul, 1) := dk_104 (dk_at dksX5_feed_2 19 rfl rfl)
theorem dX5_feed_66 : decode cX5_feed 66 = .ok (.lshr, 1) := dk_123 (dk_at dksX5_feed_2 20 rfl rfl)
theorem dX5_feed_67 : decode cX5_feed 67 = .ok (.ldc2_w 104, 3) := dk_20 0 104 (dk_at dksX5_feed_2 21 rfl rfl)
theorem dX5_feed_70 : decode cX5_feed 70 = .ok (.land, 1) := dk_127 (dk_at dksX5_feed_3 0 rfl rfl)
theorem dX5_feed_71 : decode cX5_feed 71 = .ok (.l2i, 1) := dk_136 (dk_at dksX5_feed_3 1 rfl rfl)
theorem dX5_feed_72 : decode cX5_feed 72 = .ok (.iastore, 1) := dk_79 (dk_at dksX5_feed_3 2 rfl rfl)
theorem dX5_feed_73 : decode cX5_feed 73 = .ok (.aload_n 0, 1) := dk_42 (dk_at dksX5_feed_3 3 rfl rfl)
theorem dX5_feed_74 : decode cX5_feed 74 = .ok (.getfield 7, 3) := dk_180 0 7 (dk_at dksX5_feed_3 4 rfl rfl)
theorem dX5_feed_77 : decode cX5_feed 77 = .ok (.bipush 6, 2) := dk_16 6 (dk_at dksX5_feed_3 7 rfl rfl)
theorem dX5_feed_79 : decode cX5_feed 79 = .ok (.dup2, 1) := dk_92 (dk_at dksX5_feed_3 9 rfl rfl)
theorem dX5_feed_80 : decode cX5_feed 80 = .ok (.iaload, 1) := dk_46 (dk_at dksX5_feed_3 10 rfl rfl)
theorem dX5_feed_81 : decode cX5_feed 81 = .ok (.iconst 1, 1) := dk_4 (dk_at dksX5_feed_3 11 rfl rfl)
theorem dX5_feed_82 : decode cX5_feed 82 = .ok (.iadd, 1) := dk_96 (dk_at dksX5_feed_3 12 rfl rfl)
theorem dX5_feed_83 : decode cX5_feed 83 = .ok (.iastore, 1) := dk_79 (dk_at dksX5_feed_3 13 rfl rfl)
theorem dX5_feed_84 : decode cX5_feed 84 = .ok (.iinc 4 1, 3) := dk_132 4 1 (dk_at dksX5_feed_3 14 rfl rfl)
theorem dX5_feed_87 : decode cX5_feed 87 = .ok (.goto (-48), 3) := dk_167 255 208 (dk_at dksX5_feed_3 17 rfl rfl)
theorem dX5_feed_90 : decode cX5_feed 90 = .ok (.aload_n 0, 1) := dk_42 (dk_at dksX5_feed_3 20 rfl rfl)
theorem dX5_feed_91 : decode cX5_feed 91 = .ok (.getfield 7, 3) := dk_180 0 7 (dk_at dksX5_feed_3 21 rfl rfl)
theorem dX5_feed_94 : decode cX5_feed 94 = .ok (.bipush 6, 2) := dk_16 6 (dk_at dksX5_feed_4 0 rfl rfl)
theorem dX5_feed_96 : decode cX5_feed 96 = .ok (.iaload, 1) := dk_46 (dk_at dksX5_feed_4 2 rfl rfl)
theorem dX5_feed_97 : decode cX5_feed 97 = .ok (.ireturn, 1) := dk_172 (dk_at dksX5_feed_4 3 rfl rfl)
abbrev cX5_text : ByteArray := prog_20_method_46_code
def yX5_text : MethodName := ⟨RX5, "text", "(I)I"⟩
def dkwX5_text_6 : List UInt8 := [172]
abbrev dktX5_text_6 : List UInt8 := dkwX5_text_6 ++ []
def dkwX5_text_5 : List UInt8 := [180, 0, 7, 29, 4, 96, 21, 4, 96, 42, 180, 0, 22, 21, 4, 46, 79, 132, 4, 1, 167, 255, 224, 4]
abbrev dktX5_text_5 : List UInt8 := dkwX5_text_5 ++ dktX5_text_6
def dkwX5_text_4 : List UInt8 := [180, 0, 7, 29, 42, 180, 0, 113, 79, 3, 54, 4, 21, 4, 5, 42, 180, 0, 113, 104, 162, 0, 27, 42]
abbrev dktX5_text_4 : List UInt8 := dkwX5_text_4 ++ dktX5_text_5
def dkwX5_text_3 : List UInt8 := [28, 154, 0, 11, 16, 246, 42, 180, 0, 106, 100, 172, 17, 0, 182, 16, 125, 27, 104, 96, 62, 42]
abbrev dktX5_text_3 : List UInt8 := dkwX5_text_3 ++ dktX5_text_4
def dkwX5_text_2 : List UInt8 := [42, 180, 0, 7, 16, 6, 46, 160, 0, 7, 4, 167, 0, 4, 3, 61, 42, 180, 0, 7, 16, 6, 3, 79]
abbrev dktX5_text_2 : List UInt8 := dkwX5_text_2 ++ dktX5_text_3
def dkwX5_text_1 : List UInt8 := [181, 0, 106, 42, 3, 181, 0, 140, 42, 3, 181, 0, 113, 42, 182, 0, 149, 153, 0, 21, 42, 180, 0, 106]
abbrev dktX5_text_1 : List UInt8 := dkwX5_text_1 ++ dktX5_text_2
def dkwX5_text_0 : List UInt8 := [27, 3, 4, 184, 0, 47, 154, 0, 9, 42, 4, 182, 0, 60, 172, 42, 27, 181, 0, 110, 42, 3]
abbrev dktX5_text_0 : List UInt8 := dkwX5_text_0 ++ dktX5_text_1
theorem dksX5_text_0 : cX5_text.data.toList.drop 0 = dktX5_text_0 := by decide +kernel
theorem dksX5_text_1 : cX5_text.data.toList.drop 22 = dktX5_text_1 := dk_seg dksX5_text_0 22 rfl rfl
theorem dksX5_text_2 : cX5_text.data.toList.drop 46 = dktX5_text_2 := dk_seg dksX5_text_1 24 rfl rfl
theorem dksX5_text_3 : cX5_text.data.toList.drop 70 = dktX5_text_3 := dk_seg dksX5_text_2 24 rfl rfl
theorem dksX5_text_4 : cX5_text.data.toList.drop 92 = dktX5_text_4 := dk_seg dksX5_text_3 22 rfl rfl
theorem dksX5_text_5 : cX5_text.data.toList.drop 116 = dktX5_text_5 := dk_seg dksX5_text_4 24 rfl rfl
theorem dksX5_text_6 : cX5_text.data.toList.drop 140 = dktX5_text_6 := dk_seg dksX5_text_5 24 rfl rfl
theorem dX5_text_0 : decode cX5_text 0 = .ok (.iload_n 1, 1) := dk_27 (dk_at dksX5_text_0 0 rfl rfl)
theorem dX5_text_1 : decode cX5_text 1 = .ok (.iconst 0, 1) := dk_3 (dk_at dksX5_text_0 1 rfl rfl)
theorem dX5_text_2 : decode cX5_text 2 = .ok (.iconst 1, 1) := dk_4 (dk_at dksX5_text_0 2 rfl rfl)
theorem dX5_text_3 : decode cX5_text 3 = .ok (.invokestatic 47, 3) := dk_184 0 47 (dk_at dksX5_text_0 3 rfl rfl)
theorem dX5_text_6 : decode cX5_text 6 = .ok (.ifCond .ne 9, 3) := dk_154 0 9 (dk_at dksX5_text_0 6 rfl rfl)
theorem dX5_text_9 : decode cX5_text 9 = .ok (.aload_n 0, 1) := dk_42 (dk_at dksX5_text_0 9 rfl rfl)
theorem dX5_text_10 : decode cX5_text 10 = .ok (.iconst 1, 1) := dk_4 (dk_at dksX5_text_0 10 rfl rfl)
theorem dX5_text_11 : decode cX5_text 11 = .ok (.invokevirtual 60, 3) := dk_182 0 60 (dk_at dksX5_text_0 11 rfl rfl)
theorem dX5_text_14 : decode cX5_text 14 = .ok (.ireturn, 1) := dk_172 (dk_at dksX5_text_0 14 rfl rfl)
theorem dX5_text_15 : decode cX5_text 15 = .ok (.aload_n 0, 1) := dk_42 (dk_at dksX5_text_0 15 rfl rfl)
theorem dX5_text_16 : decode cX5_text 16 = .ok (.iload_n 1, 1) := dk_27 (dk_at dksX5_text_0 16 rfl rfl)
theorem dX5_text_17 : decode cX5_text 17 = .ok (.putfield 110, 3) := dk_181 0 110 (dk_at dksX5_text_0 17 rfl rfl)
theorem dX5_text_20 : decode cX5_text 20 = .ok (.aload_n 0, 1) := dk_42 (dk_at dksX5_text_0 20 rfl rfl)
theorem dX5_text_21 : decode cX5_text 21 = .ok (.iconst 0, 1) := dk_3 (dk_at dksX5_text_0 21 rfl rfl)
theorem dX5_text_22 : decode cX5_text 22 = .ok (.putfield 106, 3) := dk_181 0 106 (dk_at dksX5_text_1 0 rfl rfl)
theorem dX5_text_25 : decode cX5_text 25 = .ok (.aload_n 0, 1) := dk_42 (dk_at dksX5_text_1 3 rfl rfl)
theorem dX5_text_26 : decode cX5_text 26 = .ok (.iconst 0, 1) := dk_3 (dk_at dksX5_text_1 4 rfl rfl)
theorem dX5_text_27 : decode cX5_text 27 = .ok (.putfield 140, 3) := dk_181 0 140 (dk_at dksX5_text_1 5 rfl rfl)
theorem dX5_text_30 : decode cX5_text 30 = .ok (.aload_n 0, 1) := dk_42 (dk_at dksX5_text_1 8 rfl rfl)
theorem dX5_text_31 : decode cX5_text 31 = .ok (.iconst 0, 1) := dk_3 (dk_at dksX5_text_1 9 rfl rfl)
theorem dX5_text_32 : decode cX5_text 32 = .ok (.putfield 113, 3) := dk_181 0 113 (dk_at dksX5_text_1 10 rfl rfl)
theorem dX5_text_35 : decode cX5_text 35 = .ok (.aload_n 0, 1) := dk_42 (dk_at dksX5_text_1 13 rfl rfl)
theorem dX5_text_36 : decode cX5_text 36 = .ok (.invokevirtual 149, 3) := dk_182 0 149 (dk_at dksX5_text_1 14 rfl rfl)
theorem dX5_text_39 : decode cX5_text 39 = .ok (.ifCond .eq 21, 3) := dk_153 0 21 (dk_at dksX5_text_1 17 rfl rfl)
theorem dX5_text_42 : decode cX5_text 42 = .ok (.aload_n 0, 1) := dk_42 (dk_at dksX5_text_1 20 rfl rfl)
theorem dX5_text_43 : decode cX5_text 43 = .ok (.getfield 106, 3) := dk_180 0 106 (dk_at dksX5_text_1 21 rfl rfl)
theorem dX5_text_46 : decode cX5_text 46 = .ok (.aload_n 0, 1) := dk_42 (dk_at dksX5_text_2 0 rfl rfl)
theorem dX5_text_47 : decode cX5_text 47 = .ok (.getfield 7, 3) := dk_180 0 7 (dk_at dksX5_text_2 1 rfl rfl)
theorem dX5_text_50 : decode cX5_text 50 = .ok (.bipush 6, 2) := dk_16 6 (dk_at dksX5_text_2 4 rfl rfl)
theorem dX5_text_52 : decode cX5_text 52 = .ok (.iaload, 1) := dk_46 (dk_at dksX5_text_2 6 rfl rfl)
theorem dX5_text_53 : decode cX5_text 53 = .ok (.if_icmp .ne 7, 3) := dk_160 0 7 (dk_at dksX5_text_2 7 rfl rfl)
theorem dX5_text_56 : decode cX5_text 56 = .ok (.iconst 1, 1) := dk_4 (dk_at dksX5_text_2 10 rfl rfl)
theorem dX5_text_57 : decode cX5_text 57 = .ok (.goto 4, 3) := dk_167 0 4 (dk_at dksX5_text_2 11 rfl rfl)
theorem dX5_text_60 : decode cX5_text 60 = .ok (.iconst 0, 1) := dk_3 (dk_at dksX5_text_2 14 rfl rfl)
theorem dX5_text_61 : decode cX5_text 61 = .ok (.istore_n 2, 1) := dk_61 (dk_at dksX5_text_2 15 rfl rfl)
theorem dX5_text_62 : decode cX5_text 62 = .ok (.aload_n 0, 1) := dk_42 (dk_at dksX5_text_2 16 rfl rfl)
theorem dX5_text_63 : decode cX5_text 63 = .ok (.getfield 7, 3) := dk_180 0 7 (dk_at dksX5_text_2 17 rfl rfl)
theorem dX5_text_66 : decode cX5_text 66 = .ok (.bipush 6, 2) := dk_16 6 (dk_at dksX5_text_2 20 rfl rfl)
theorem dX5_text_68 : decode cX5_text 68 = .ok (.iconst 0, 1) := dk_3 (dk_at dksX5_text_2 22 rfl rfl)
theorem dX5_text_69 : decode cX5_text 69 = .ok (.iastore, 1) := dk_79 (dk_at dksX5_text_2 23 rfl rfl)
theorem dX5_text_70 : decode cX5_text 70 = .ok (.iload_n 2, 1) := dk_28 (dk_at dksX5_text_3 0 rfl rfl)
theorem dX5_text_71 : decode cX5_text 71 = .ok (.ifCond .ne 11, 3) := dk_154 0 11 (dk_at dksX5_text_3 1 rfl rfl)
theorem dX5_text_74 : decode cX5_text 74 = .ok (.bipush (-10), 2) := dk_16 246 (dk_at dksX5_text_3 4 rfl rfl)
theorem dX5_text_76 : decode cX5_text 76 = .ok (.aload_n 0, 1) := dk_42 (dk_at dksX5_text_3 6 rfl rfl)
theorem dX5_text_77 : decode cX5_text 77 = .ok (.getfield 106, 3) := dk_180 0 106 (dk_at dksX5_text_3 7 rfl rfl)
theorem dX5_text_80 : decode cX5_text 80 = .ok (.isub, 1) := dk_100 (dk_at dksX5_text_3 10 rfl rfl)
theorem dX5_text_81 : decode cX5_text 81 = .ok (.ireturn, 1) := dk_172 (dk_at dksX5_text_3 11 rfl rfl)
theorem dX5_text_82 : decode cX5_text 82 = .ok (.sipush 182, 3) := dk_17 0 182 (dk_at dksX5_text_3 12 rfl rfl)
theorem dX5_text_85 : decode cX5_text 85 = .ok (.bipush 125, 2) := dk_16 125 (dk_at dksX5_text_3 15 rfl rfl)
theorem dX5_text_87 : decode cX5_text 87 = .ok (.iload_n 1, 1) := dk_27 (dk_at dksX5_text_3 17 rfl rfl)
theorem dX5_text_88 : decode cX5_text 88 = .ok (.imul, 1) := dk_104 (dk_at dksX5_text_3 18 rfl rfl)
theorem dX5_text_89 : decode cX5_text 89 = .ok (.iadd, 1) := dk_96 (dk_at dksX5_text_3 19 rfl rfl)
theorem dX5_text_90 : decode cX5_text 90 = .ok (.istore_n 3, 1) := dk_62 (dk_at dksX5_text_3 20 rfl rfl)
theorem dX5_text_91 : decode cX5_text 91 = .ok (.aload_n 0, 1) := dk_42 (dk_at dksX5_text_3 21 rfl rfl)
theorem dX5_text_92 : decode cX5_text 92 = .ok (.getfield 7, 3) := dk_180 0 7 (dk_at dksX5_text_4 0 rfl rfl)
theorem dX5_text_95 : decode cX5_text 95 = .ok (.iload_n 3, 1) := dk_29 (dk_at dksX5_text_4 3 rfl rfl)
theorem dX5_text_96 : decode cX5_text 96 = .ok (.aload_n 0, 1) := dk_42 (dk_at dksX5_text_4 4 rfl rfl)
theorem dX5_text_97 : decode cX5_text 97 = .ok (.getfield 113, 3) := dk_180 0 113 (dk_at dksX5_text_4 5 rfl rfl)
theorem dX5_text_100 : decode cX5_text 100 = .ok (.iastore, 1) := dk_79 (dk_at dksX5_text_4 8 rfl rfl)
theorem dX5_text_101 : decode cX5_text 101 = .ok (.iconst 0, 1) := dk_3 (dk_at dksX5_text_4 9 rfl rfl)
theorem dX5_text_102 : decode cX5_text 102 = .ok (.istore 4, 2) := dk_54 4 (dk_at dksX5_text_4 10 rfl rfl)
theorem dX5_text_104 : decode cX5_text 104 = .ok (.iload 4, 2) := dk_21 4 (dk_at dksX5_text_4 12 rfl rfl)
theorem dX5_text_106 : decode cX5_text 106 = .ok (.iconst 2, 1) := dk_5 (dk_at dksX5_text_4 14 rfl rfl)
theorem dX5_text_107 : decode cX5_text 107 = .ok (.aload_n 0, 1) := dk_42 (dk_at dksX5_text_4 15 rfl rfl)
theorem dX5_text_108 : decode cX5_text 108 = .ok (.getfield 113, 3) := dk_180 0 113 (dk_at dksX5_text_4 16 rfl rfl)
theorem dX5_text_111 : decode cX5_text 111 = .ok (.imul, 1) := dk_104 (dk_at dksX5_text_4 19 rfl rfl)
theorem dX5_text_112 : decode cX5_text 112 = .ok (.if_icmp .ge 27, 3) := dk_162 0 27 (dk_at dksX5_text_4 20 rfl rfl)
theorem dX5_text_115 : decode cX5_text 115 = .ok (.aload_n 0, 1) := dk_42 (dk_at dksX5_text_4 23 rfl rfl)
theorem dX5_text_116 : decode cX5_text 116 = .ok (.getfield 7, 3) := dk_180 0 7 (dk_at dksX5_text_5 0 rfl rfl)
theorem dX5_text_119 : decode cX5_text 119 = .ok (.iload_n 3, 1) := dk_29 (dk_at dksX5_text_5 3 rfl rfl)
theorem dX5_text_120 : decode cX5_text 120 = .ok (.iconst 1, 1) := dk_4 (dk_at dksX5_text_5 4 rfl rfl)
theorem dX5_text_121 : decode cX5_text 121 = .ok (.iadd, 1) := dk_96 (dk_at dksX5_text_5 5 rfl rfl)
theorem dX5_text_122 : decode cX5_text 122 = .ok (.iload 4, 2) := dk_21 4 (dk_at dksX5_text_5 6 rfl rfl)
theorem dX5_text_124 : decode cX5_text 124 = .ok (.iadd, 1) := dk_96 (dk_at dksX5_text_5 8 rfl rfl)
theorem dX5_text_125 : decode cX5_text 125 = .ok (.aload_n 0, 1) := dk_42 (dk_at dksX5_text_5 9 rfl rfl)
theorem dX5_text_126 : decode cX5_text 126 = .ok (.getfield 22, 3) := dk_180 0 22 (dk_at dksX5_text_5 10 rfl rfl)
theorem dX5_text_129 : decode cX5_text 129 = .ok (.iload 4, 2) := dk_21 4 (dk_at dksX5_text_5 13 rfl rfl)
theorem dX5_text_131 : decode cX5_text 131 = .ok (.iaload, 1) := dk_46 (dk_at dksX5_text_5 15 rfl rfl)
theorem dX5_text_132 : decode cX5_text 132 = .ok (.iastore, 1) := dk_79 (dk_at dksX5_text_5 16 rfl rfl)
theorem dX5_text_133 : decode cX5_text 133 = .ok (.iinc 4 1, 3) := dk_132 4 1 (dk_at dksX5_text_5 17 rfl rfl)
theorem dX5_text_136 : decode cX5_text 136 = .ok (.goto (-32), 3) := dk_167 255 224 (dk_at dksX5_text_5 20 rfl rfl)
theorem dX5_text_139 : decode cX5_text 139 = .ok (.iconst 1, 1) := dk_4 (dk_at dksX5_text_5 23 rfl rfl)
theorem dX5_text_140 : decode cX5_text 140 = .ok (.ireturn, 1) := dk_172 (dk_at dksX5_text_6 0 rfl rfl)
abbrev cX5_whole : ByteArray := prog_20_method_38_code
def yX5_whole : MethodName := ⟨RX5, "whole", "()Z"⟩
def dkwX5_whole_2 : List UInt8 := [172]
abbrev dktX5_whole_2 : List UInt8 := dkwX5_whole_2 ++ []
def dkwX5_whole_1 : List UInt8 := [96, 181, 0, 106, 42, 182, 0, 116, 154, 0, 5, 3, 172, 42, 6, 16, 124, 182, 0, 124, 167, 255, 221, 4]
abbrev dktX5_whole_1 : List UInt8 := dkwX5_whole_1 ++ dktX5_whole_2
def dkwX5_whole_0 : List UInt8 := [42, 182, 0, 116, 154, 0, 5, 3, 172, 42, 182, 0, 120, 16, 124, 160, 0, 32, 42, 89, 180, 0, 106, 4]
abbrev dktX5_whole_0 : List UInt8 := dkwX5_whole_0 ++ dktX5_whole_1
theorem dksX5_whole_0 : cX5_whole.data.toList.drop 0 = dktX5_whole_0 := by decide +kernel
theorem dksX5_whole_1 : cX5_whole.data.toList.drop 24 = dktX5_whole_1 := dk_seg dksX5_whole_0 24 rfl rfl
theorem dksX5_whole_2 : cX5_whole.data.toList.drop 48 = dktX5_whole_2 := dk_seg dksX5_whole_1 24 rfl rfl
theorem dX5_whole_0 : decode cX5_whole 0 = .ok (.aload_n 0, 1) := dk_42 (dk_at dksX5_whole_0 0 rfl rfl)
theorem dX5_whole_1 : decode cX5_whole 1 = .ok (.invokevirtual 116, 3) := dk_182 0 116 (dk_at dksX5_whole_0 1 rfl rfl)
theorem dX5_whole_4 : decode cX5_whole 4 = .ok (.ifCond .ne 5, 3) := dk_154 0 5 (dk_at dksX5_whole_0 4 rfl rfl)
theorem dX5_whole_7 : decode cX5_whole 7 = .ok (.iconst 0, 1) := dk_3 (dk_at dksX5_whole_0 7 rfl rfl)
theorem dX5_whole_8 : decode cX5_whole 8 = .ok (.ireturn, 1) := dk_172 (dk_at dksX5_whole_0 8 rfl rfl)
theorem dX5_whole_9 : decode cX5_whole 9 = .ok (.aload_n 0, 1) := dk_42 (dk_at dksX5_whole_0 9 rfl rfl)
theorem dX5_whole_10 : decode cX5_whole 10 = .ok (.invokevirtual 120, 3) := dk_182 0 120 (dk_at dksX5_whole_0 10 rfl rfl)
theorem dX5_whole_13 : decode cX5_whole 13 = .ok (.bipush 124, 2) := dk_16 124 (dk_at dksX5_whole_0 13 rfl rfl)
theorem dX5_whole_15 : decode cX5_whole 15 = .ok (.if_icmp .ne 32, 3) := dk_160 0 32 (dk_at dksX5_whole_0 15 rfl rfl)
theorem dX5_whole_18 : decode cX5_whole 18 = .ok (.aload_n 0, 1) := dk_42 (dk_at dksX5_whole_0 18 rfl rfl)
theorem dX5_whole_19 : decode cX5_whole 19 = .ok (.dup, 1) := dk_89 (dk_at dksX5_whole_0 19 rfl rfl)
theorem dX5_whole_20 : decode cX5_whole 20 = .ok (.getfield 106, 3) := dk_180 0 106 (dk_at dksX5_whole_0 20 rfl rfl)
theorem dX5_whole_23 : decode cX5_whole 23 = .ok (.iconst 1, 1) := dk_4 (dk_at dksX5_whole_0 23 rfl rfl)
theorem dX5_whole_24 : decode cX5_whole 24 = .ok (.iadd, 1) := dk_96 (dk_at dksX5_whole_1 0 rfl rfl)
theorem dX5_whole_25 : decode cX5_whole 25 = .ok (.putfield 106, 3) := dk_181 0 106 (dk_at dksX5_whole_1 1 rfl rfl)
theorem dX5_whole_28 : decode cX5_whole 28 = .ok (.aload_n 0, 1) := dk_42 (dk_at dksX5_whole_1 4 rfl rfl)
theorem dX5_whole_29 : decode cX5_whole 29 = .ok (.invokevirtual 116, 3) := dk_182 0 116 (dk_at dksX5_whole_1 5 rfl rfl)
theorem dX5_whole_32 : decode cX5_whole 32 = .ok (.ifCond .ne 5, 3) := dk_154 0 5 (dk_at dksX5_whole_1 8 rfl rfl)
theorem dX5_whole_35 : decode cX5_whole 35 = .ok (.iconst 0, 1) := dk_3 (dk_at dksX5_whole_1 11 rfl rfl)
theorem dX5_whole_36 : decode cX5_whole 36 = .ok (.ireturn, 1) := dk_172 (dk_at dksX5_whole_1 12 rfl rfl)
theorem dX5_whole_37 : decode cX5_whole 37 = .ok (.aload_n 0, 1) := dk_42 (dk_at dksX5_whole_1 13 rfl rfl)
theorem dX5_whole_38 : decode cX5_whole 38 = .ok (.iconst 3, 1) := dk_6 (dk_at dksX5_whole_1 14 rfl rfl)
theorem dX5_whole_39 : decode cX5_whole 39 = .ok (.bipush 124, 2) := dk_16 124 (dk_at dksX5_whole_1 15 rfl rfl)
theorem dX5_whole_41 : decode cX5_whole 41 = .ok (.invokevirtual 124, 3) := dk_182 0 124 (dk_at dksX5_whole_1 17 rfl rfl)
theorem dX5_whole_44 : decode cX5_whole 44 = .ok (.goto (-35), 3) := dk_167 255 221 (dk_at dksX5_whole_1 20 rfl rfl)
theorem dX5_whole_47 : decode cX5_whole 47 = .ok (.iconst 1, 1) := dk_4 (dk_at dksX5_whole_1 23 rfl rfl)
theorem dX5_whole_48 : decode cX5_whole 48 = .ok (.ireturn, 1) := dk_172 (dk_at dksX5_whole_2 0 rfl rfl)
abbrev cX5_both : ByteArray := prog_20_method_39_code
def yX5_both : MethodName := ⟨RX5, "both", "()Z"⟩
def dkwX5_both_2 : List UInt8 := [172]
abbrev dktX5_both_2 : List UInt8 := dkwX5_both_2 ++ []
def dkwX5_both_1 : List UInt8 := [96, 181, 0, 106, 42, 182, 0, 128, 154, 0, 5, 3, 172, 42, 6, 16, 38, 182, 0, 124, 167, 255, 221, 4]
abbrev dktX5_both_1 : List UInt8 := dkwX5_both_1 ++ dktX5_both_2
def dkwX5_both_0 : List UInt8 := [42, 182, 0, 128, 154, 0, 5, 3, 172, 42, 182, 0, 120, 16, 38, 160, 0, 32, 42, 89, 180, 0, 106, 4]
abbrev dktX5_both_0 : List UInt8 := dkwX5_both_0 ++ dktX5_both_1
theorem dksX5_both_0 : cX5_both.data.toList.drop 0 = dktX5_both_0 := by decide +kernel
theorem dksX5_both_1 : cX5_both.data.toList.drop 24 = dktX5_both_1 := dk_seg dksX5_both_0 24 rfl rfl
theorem dksX5_both_2 : cX5_both.data.toList.drop 48 = dktX5_both_2 := dk_seg dksX5_both_1 24 rfl rfl
theorem dX5_both_0 : decode cX5_both 0 = .ok (.aload_n 0, 1) := dk_42 (dk_at dksX5_both_0 0 rfl rfl)
theorem dX5_both_1 : decode cX5_both 1 = .ok (.invokevirtual 128, 3) := dk_182 0 128 (dk_at dksX5_both_0 1 rfl rfl)
theorem dX5_both_4 : decode cX5_both 4 = .ok (.ifCond .ne 5, 3) := dk_154 0 5 (dk_at dksX5_both_0 4 rfl rfl)
theorem dX5_both_7 : decode cX5_both 7 = .ok (.iconst 0, 1) := dk_3 (dk_at dksX5_both_0 7 rfl rfl)
theorem dX5_both_8 : decode cX5_both 8 = .ok (.ireturn, 1) := dk_172 (dk_at dksX5_both_0 8 rfl rfl)
theorem dX5_both_9 : decode cX5_both 9 = .ok (.aload_n 0, 1) := dk_42 (dk_at dksX5_both_0 9 rfl rfl)
theorem dX5_both_10 : decode cX5_both 10 = .ok (.invokevirtual 120, 3) := dk_182 0 120 (dk_at dksX5_both_0 10 rfl rfl)
theorem dX5_both_13 : decode cX5_both 13 = .ok (.bipush 38, 2) := dk_16 38 (dk_at dksX5_both_0 13 rfl rfl)
theorem dX5_both_15 : decode cX5_both 15 = .ok (.if_icmp .ne 32, 3) := dk_160 0 32 (dk_at dksX5_both_0 15 rfl rfl)
theorem dX5_both_18 : decode cX5_both 18 = .ok (.aload_n 0, 1) := dk_42 (dk_at dksX5_both_0 18 rfl rfl)
theorem dX5_both_19 : decode cX5_both 19 = .ok (.dup, 1) := dk_89 (dk_at dksX5_both_0 19 rfl rfl)
theorem dX5_both_20 : decode cX5_both 20 = .ok (.getfield 106, 3) := dk_180 0 106 (dk_at dksX5_both_0 20 rfl rfl)
theorem dX5_both_23 : decode cX5_both 23 = .ok (.iconst 1, 1) := dk_4 (dk_at dksX5_both_0 23 rfl rfl)
theorem dX5_both_24 : decode cX5_both 24 = .ok (.iadd, 1) := dk_96 (dk_at dksX5_both_1 0 rfl rfl)
theorem dX5_both_25 : decode cX5_both 25 = .ok (.putfield 106, 3) := dk_181 0 106 (dk_at dksX5_both_1 1 rfl rfl)
theorem dX5_both_28 : decode cX5_both 28 = .ok (.aload_n 0, 1) := dk_42 (dk_at dksX5_both_1 4 rfl rfl)
theorem dX5_both_29 : decode cX5_both 29 = .ok (.invokevirtual 128, 3) := dk_182 0 128 (dk_at dksX5_both_1 5 rfl rfl)
theorem dX5_both_32 : decode cX5_both 32 = .ok (.ifCond .ne 5, 3) := dk_154 0 5 (dk_at dksX5_both_1 8 rfl rfl)
theorem dX5_both_35 : decode cX5_both 35 = .ok (.iconst 0, 1) := dk_3 (dk_at dksX5_both_1 11 rfl rfl)
theorem dX5_both_36 : decode cX5_both 36 = .ok (.ireturn, 1) := dk_172 (dk_at dksX5_both_1 12 rfl rfl)
theorem dX5_both_37 : decode cX5_both 37 = .ok (.aload_n 0, 1) := dk_42 (dk_at dksX5_both_1 13 rfl rfl)
theorem dX5_both_38 : decode cX5_both 38 = .ok (.iconst 3, 1) := dk_6 (dk_at dksX5_both_1 14 rfl rfl)
theorem dX5_both_39 : decode cX5_both 39 = .ok (.bipush 38, 2) := dk_16 38 (dk_at dksX5_both_1 15 rfl rfl)
theorem dX5_both_41 : decode cX5_both 41 = .ok (.invokevirtual 124, 3) := dk_182 0 124 (dk_at dksX5_both_1 17 rfl rfl)
theorem dX5_both_44 : decode cX5_both 44 = .ok (.goto (-35), 3) := dk_167 255 221 (dk_at dksX5_both_1 20 rfl rfl)
theorem dX5_both_47 : decode cX5_both 47 = .ok (.iconst 1, 1) := dk_4 (dk_at dksX5_both_1 23 rfl rfl)
theorem dX5_both_48 : decode cX5_both 48 = .ok (.ireturn, 1) := dk_172 (dk_at dksX5_both_2 0 rfl rfl)
abbrev cX5_compared : ByteArray := prog_20_method_40_code
def yX5_compared : MethodName := ⟨RX5, "compared", "()Z"⟩
def dkwX5_compared_2 : List UInt8 := [182, 0, 131, 154, 0, 5, 3, 172, 42, 6, 27, 182, 0, 124, 4, 172]
abbrev dktX5_compared_2 : List UInt8 := dkwX5_compared_2 ++ []
def dkwX5_compared_1 : List UInt8 := [159, 0, 11, 27, 16, 62, 159, 0, 5, 4, 172, 42, 89, 180, 0, 106, 4, 96, 181, 0, 106, 42]
abbrev dktX5_compared_1 : List UInt8 := dkwX5_compared_1 ++ dktX5_compared_2
def dkwX5_compared_0 : List UInt8 := [42, 182, 0, 131, 154, 0, 5, 3, 172, 42, 182, 0, 120, 60, 27, 16, 60, 159, 0, 17, 27, 16, 61]
abbrev dktX5_compared_0 : List UInt8 := dkwX5_compared_0 ++ dktX5_compared_1
theorem dksX5_compared_0 : cX5_compared.data.toList.drop 0 = dktX5_compared_0 := by decide +kernel
theorem dksX5_compared_1 : cX5_compared.data.toList.drop 23 = dktX5_compared_1 := dk_seg dksX5_compared_0 23 rfl rfl
theorem dksX5_compared_2 : cX5_compared.data.toList.drop 45 = dktX5_compared_2 := dk_seg dksX5_compared_1 22 rfl rfl
theorem dX5_compared_0 : decode cX5_compared 0 = .ok (.aload_n 0, 1) := dk_42 (dk_at dksX5_compared_0 0 rfl rfl)
theorem dX5_compared_1 : decode cX5_compared 1 = .ok (.invokevirtual 131, 3) := dk_182 0 131 (dk_at dksX5_compared_0 1 rfl rfl)
theorem dX5_compared_4 : decode cX5_compared 4 = .ok (.ifCond .ne 5, 3) := dk_154 0 5 (dk_at dksX5_compared_0 4 rfl rfl)
theorem dX5_compared_7 : decode cX5_compared 7 = .ok (.iconst 0, 1) := dk_3 (dk_at dksX5_compared_0 7 rfl rfl)
theorem dX5_compared_8 : decode cX5_compared 8 = .ok (.ireturn, 1) := dk_172 (dk_at dksX5_compared_0 8 rfl rfl)
theorem dX5_compared_9 : decode cX5_compared 9 = .ok (.aload_n 0, 1) := dk_42 (dk_at dksX5_compared_0 9 rfl rfl)
theorem dX5_compared_10 : decode cX5_compared 10 = .ok (.invokevirtual 120, 3) := dk_182 0 120 (dk_at dksX5_compared_0 10 rfl rfl)
theorem dX5_compared_13 : decode cX5_compared 13 = .ok (.istore_n 1, 1) := dk_60 (dk_at dksX5_compared_0 13 rfl rfl)
theorem dX5_compared_14 : decode cX5_compared 14 = .ok (.iload_n 1, 1) := dk_27 (dk_at dksX5_compared_0 14 rfl rfl)
theorem dX5_compared_15 : decode cX5_compared 15 = .ok (.bipush 60, 2) := dk_16 60 (dk_at dksX5_compared_0 15 rfl rfl)
theorem dX5_compared_17 : decode cX5_compared 17 = .ok (.if_icmp .eq 17, 3) := dk_159 0 17 (dk_at dksX5_compared_0 17 rfl rfl)
theorem dX5_compared_20 : decode cX5_compared 20 = .ok (.iload_n 1, 1) := dk_27 (dk_at dksX5_compared_0 20 rfl rfl)
theorem dX5_compared_21 : decode cX5_compared 21 = .ok (.bipush 61, 2) := dk_16 61 (dk_at dksX5_compared_0 21 rfl rfl)
theorem dX5_compared_23 : decode cX5_compared 23 = .ok (.if_icmp .eq 11, 3) := dk_159 0 11 (dk_at dksX5_compared_1 0 rfl rfl)
theorem dX5_compared_26 : decode cX5_compared 26 = .ok (.iload_n 1, 1) := dk_27 (dk_at dksX5_compared_1 3 rfl rfl)
theorem dX5_compared_27 : decode cX5_compared 27 = .ok (.bipush 62, 2) := dk_16 62 (dk_at dksX5_compared_1 4 rfl rfl)
theorem dX5_compared_29 : decode cX5_compared 29 = .ok (.if_icmp .eq 5, 3) := dk_159 0 5 (dk_at dksX5_compared_1 6 rfl rfl)
theorem dX5_compared_32 : decode cX5_compared 32 = .ok (.iconst 1, 1) := dk_4 (dk_at dksX5_compared_1 9 rfl rfl)
theorem dX5_compared_33 : decode cX5_compared 33 = .ok (.ireturn, 1) := dk_172 (dk_at dksX5_compared_1 10 rfl rfl)
theorem dX5_compared_34 : decode cX5_compared 34 = .ok (.aload_n 0, 1) := dk_42 (dk_at dksX5_compared_1 11 rfl rfl)
theorem dX5_compared_35 : decode cX5_compared 35 = .ok (.dup, 1) := dk_89 (dk_at dksX5_compared_1 12 rfl rfl)
theorem dX5_compared_36 : decode cX5_compared 36 = .ok (.getfield 106, 3) := dk_180 0 106 (dk_at dksX5_compared_1 13 rfl rfl)
theorem dX5_compared_39 : decode cX5_compared 39 = .ok (.iconst 1, 1) := dk_4 (dk_at dksX5_compared_1 16 rfl rfl)
theorem dX5_compared_40 : decode cX5_compared 40 = .ok (.iadd, 1) := dk_96 (dk_at dksX5_compared_1 17 rfl rfl)
theorem dX5_compared_41 : decode cX5_compared 41 = .ok (.putfield 106, 3) := dk_181 0 106 (dk_at dksX5_compared_1 18 rfl rfl)
theorem dX5_compared_44 : decode cX5_compared 44 = .ok (.aload_n 0, 1) := dk_42 (dk_at dksX5_compared_1 21 rfl rfl)
theorem dX5_compared_45 : decode cX5_compared 45 = .ok (.invokevirtual 131, 3) := dk_182 0 131 (dk_at dksX5_compared_2 0 rfl rfl)
theorem dX5_compared_48 : decode cX5_compared 48 = .ok (.ifCond .ne 5, 3) := dk_154 0 5 (dk_at dksX5_compared_2 3 rfl rfl)
theorem dX5_compared_51 : decode cX5_compared 51 = .ok (.iconst 0, 1) := dk_3 (dk_at dksX5_compared_2 6 rfl rfl)
theorem dX5_compared_52 : decode cX5_compared 52 = .ok (.ireturn, 1) := dk_172 (dk_at dksX5_compared_2 7 rfl rfl)
theorem dX5_compared_53 : decode cX5_compared 53 = .ok (.aload_n 0, 1) := dk_42 (dk_at dksX5_compared_2 8 rfl rfl)
theorem dX5_compared_54 : decode cX5_compared 54 = .ok (.iconst 3, 1) := dk_6 (dk_at dksX5_compared_2 9 rfl rfl)
theorem dX5_compared_55 : decode cX5_compared 55 = .ok (.iload_n 1, 1) := dk_27 (dk_at dksX5_compared_2 10 rfl rfl)
theorem dX5_compared_56 : decode cX5_compared 56 = .ok (.invokevirtual 124, 3) := dk_182 0 124 (dk_at dksX5_compared_2 11 rfl rfl)
theorem dX5_compared_59 : decode cX5_compared 59 = .ok (.iconst 1, 1) := dk_4 (dk_at dksX5_compared_2 14 rfl rfl)
theorem dX5_compared_60 : decode cX5_compared 60 = .ok (.ireturn, 1) := dk_172 (dk_at dksX5_compared_2 15 rfl rfl)
abbrev cX5_sum : ByteArray := prog_20_method_41_code
def yX5_sum : MethodName := ⟨RX5, "sum", "()Z"⟩
def dkwX5_sum_2 : List UInt8 := [154, 0, 5, 3, 172, 42, 6, 27, 182, 0, 124, 167, 255, 208, 4, 172]
abbrev dktX5_sum_2 : List UInt8 := dkwX5_sum_2 ++ []
def dkwX5_sum_1 : List UInt8 := [160, 0, 36, 42, 182, 0, 120, 60, 42, 89, 180, 0, 106, 4, 96, 181, 0, 106, 42, 182, 0, 134]
abbrev dktX5_sum_1 : List UInt8 := dkwX5_sum_1 ++ dktX5_sum_2
def dkwX5_sum_0 : List UInt8 := [42, 182, 0, 134, 154, 0, 5, 3, 172, 42, 182, 0, 120, 16, 43, 159, 0, 12, 42, 182, 0, 120, 16, 45]
abbrev dktX5_sum_0 : List UInt8 := dkwX5_sum_0 ++ dktX5_sum_1
theorem dksX5_sum_0 : cX5_sum.data.toList.drop 0 = dktX5_sum_0 := by decide +kernel
theorem dksX5_sum_1 : cX5_sum.data.toList.drop 24 = dktX5_sum_1 := dk_seg dksX5_sum_0 24 rfl rfl
theorem dksX5_sum_2 : cX5_sum.data.toList.drop 46 = dktX5_sum_2 := dk_seg dksX5_sum_1 22 rfl rfl
theorem dX5_sum_0 : decode cX5_sum 0 = .ok (.aload_n 0, 1) := dk_42 (dk_at dksX5_sum_0 0 rfl rfl)
theorem dX5_sum_1 : decode cX5_sum 1 = .ok (.invokevirtual 134, 3) := dk_182 0 134 (dk_at dksX5_sum_0 1 rfl rfl)
theorem dX5_sum_4 : decode cX5_sum 4 = .ok (.ifCond .ne 5, 3) := dk_154 0 5 (dk_at dksX5_sum_0 4 rfl rfl)
theorem dX5_sum_7 : decode cX5_sum 7 = .ok (.iconst 0, 1) := dk_3 (dk_at dksX5_sum_0 7 rfl rfl)
theorem dX5_sum_8 : decode cX5_sum 8 = .ok (.ireturn, 1) := dk_172 (dk_at dksX5_sum_0 8 rfl rfl)
theorem dX5_sum_9 : decode cX5_sum 9 = .ok (.aload_n 0, 1) := dk_42 (dk_at dksX5_sum_0 9 rfl rfl)
theorem dX5_sum_10 : decode cX5_sum 10 = .ok (.invokevirtual 120, 3) := dk_182 0 120 (dk_at dksX5_sum_0 10 rfl rfl)
theorem dX5_sum_13 : decode cX5_sum 13 = .ok (.bipush 43, 2) := dk_16 43 (dk_at dksX5_sum_0 13 rfl rfl)
theorem dX5_sum_15 : decode cX5_sum 15 = .ok (.if_icmp .eq 12, 3) := dk_159 0 12 (dk_at dksX5_sum_0 15 rfl rfl)
theorem dX5_sum_18 : decode cX5_sum 18 = .ok (.aload_n 0, 1) := dk_42 (dk_at dksX5_sum_0 18 rfl rfl)
theorem dX5_sum_19 : decode cX5_sum 19 = .ok (.invokevirtual 120, 3) := dk_182 0 120 (dk_at dksX5_sum_0 19 rfl rfl)
theorem dX5_sum_22 : decode cX5_sum 22 = .ok (.bipush 45, 2) := dk_16 45 (dk_at dksX5_sum_0 22 rfl rfl)
theorem dX5_sum_24 : decode cX5_sum 24 = .ok (.if_icmp .ne 36, 3) := dk_160 0 36 (dk_at dksX5_sum_1 0 rfl rfl)
theorem dX5_sum_27 : decode cX5_sum 27 = .ok (.aload_n 0, 1) := dk_42 (dk_at dksX5_sum_1 3 rfl rfl)
theorem dX5_sum_28 : decode cX5_sum 28 = .ok (.invokevirtual 120, 3) := dk_182 0 120 (dk_at dksX5_sum_1 4 rfl rfl)
theorem dX5_sum_31 : decode cX5_sum 31 = .ok (.istore_n 1, 1) := dk_60 (dk_at dksX5_sum_1 7 rfl rfl)
theorem dX5_sum_32 : decode cX5_sum 32 = .ok (.aload_n 0, 1) := dk_42 (dk_at dksX5_sum_1 8 rfl rfl)
theorem dX5_sum_33 : decode cX5_sum 33 = .ok (.dup, 1) := dk_89 (dk_at dksX5_sum_1 9 rfl rfl)
theorem dX5_sum_34 : decode cX5_sum 34 = .ok (.getfield 106, 3) := dk_180 0 106 (dk_at dksX5_sum_1 10 rfl rfl)
theorem dX5_sum_37 : decode cX5_sum 37 = .ok (.iconst 1, 1) := dk_4 (dk_at dksX5_sum_1 13 rfl rfl)
theorem dX5_sum_38 : decode cX5_sum 38 = .ok (.iadd, 1) := dk_96 (dk_at dksX5_sum_1 14 rfl rfl)
theorem dX5_sum_39 : decode cX5_sum 39 = .ok (.putfield 106, 3) := dk_181 0 106 (dk_at dksX5_sum_1 15 rfl rfl)
theorem dX5_sum_42 : decode cX5_sum 42 = .ok (.aload_n 0, 1) := dk_42 (dk_at dksX5_sum_1 18 rfl rfl)
theorem dX5_sum_43 : decode cX5_sum 43 = .ok (.invokevirtual 134, 3) := dk_182 0 134 (dk_at dksX5_sum_1 19 rfl rfl)
theorem dX5_sum_46 : decode cX5_sum 46 = .ok (.ifCond .ne 5, 3) := dk_154 0 5 (dk_at dksX5_sum_2 0 rfl rfl)
theorem dX5_sum_49 : decode cX5_sum 49 = .ok (.iconst 0, 1) := dk_3 (dk_at dksX5_sum_2 3 rfl rfl)
theorem dX5_sum_50 : decode cX5_sum 50 = .ok (.ireturn, 1) := dk_172 (dk_at dksX5_sum_2 4 rfl rfl)
theorem dX5_sum_51 : decode cX5_sum 51 = .ok (.aload_n 0, 1) := dk_42 (dk_at dksX5_sum_2 5 rfl rfl)
theorem dX5_sum_52 : decode cX5_sum 52 = .ok (.iconst 3, 1) := dk_6 (dk_at dksX5_sum_2 6 rfl rfl)
theorem dX5_sum_53 : decode cX5_sum 53 = .ok (.iload_n 1, 1) := dk_27 (dk_at dksX5_sum_2 7 rfl rfl)
theorem dX5_sum_54 : decode cX5_sum 54 = .ok (.invokevirtual 124, 3) := dk_182 0 124 (dk_at dksX5_sum_2 8 rfl rfl)
theorem dX5_sum_57 : decode cX5_sum 57 = .ok (.goto (-48), 3) := dk_167 255 208 (dk_at dksX5_sum_2 11 rfl rfl)
theorem dX5_sum_60 : decode cX5_sum 60 = .ok (.iconst 1, 1) := dk_4 (dk_at dksX5_sum_2 14 rfl rfl)
theorem dX5_sum_61 : decode cX5_sum 61 = .ok (.ireturn, 1) := dk_172 (dk_at dksX5_sum_2 15 rfl rfl)
abbrev cX5_product : ByteArray := prog_20_method_42_code
def yX5_product : MethodName := ⟨RX5, "product", "()Z"⟩
def dkwX5_product_2 : List UInt8 := [181, 0, 106, 42, 182, 0, 137, 154, 0, 5, 3, 172, 42, 6, 27, 182, 0, 124, 167, 255, 199, 4, 172]
abbrev dktX5_product_2 : List UInt8 := dkwX5_product_2 ++ []
def dkwX5_product_1 : List UInt8 := [159, 0, 12, 42, 182, 0, 120, 16, 37, 160, 0, 36, 42, 182, 0, 120, 60, 42, 89, 180, 0, 106, 4, 96]
abbrev dktX5_product_1 : List UInt8 := dkwX5_product_1 ++ dktX5_product_2
def dkwX5_product_0 : List UInt8 := [42, 182, 0, 137, 154, 0, 5, 3, 172, 42, 182, 0, 120, 16, 42, 159, 0, 21, 42, 182, 0, 120, 16, 47]
abbrev dktX5_product_0 : List UInt8 := dkwX5_product_0 ++ dktX5_product_1
theorem dksX5_product_0 : cX5_product.data.toList.drop 0 = dktX5_product_0 := by decide +kernel
theorem dksX5_product_1 : cX5_product.data.toList.drop 24 = dktX5_product_1 := dk_seg dksX5_product_0 24 rfl rfl
theorem dksX5_product_2 : cX5_product.data.toList.drop 48 = dktX5_product_2 := dk_seg dksX5_product_1 24 rfl rfl
theorem dX5_product_0 : decode cX5_product 0 = .ok (.aload_n 0, 1) := dk_42 (dk_at dksX5_product_0 0 rfl rfl)
theorem dX5_product_1 : decode cX5_product 1 = .ok (.invokevirtual 137, 3) := dk_182 0 137 (dk_at dksX5_product_0 1 rfl rfl)
theorem dX5_product_4 : decode cX5_product 4 = .ok (.ifCond .ne 5, 3) := dk_154 0 5 (dk_at dksX5_product_0 4 rfl rfl)
theorem dX5_product_7 : decode cX5_product 7 = .ok (.iconst 0, 1) := dk_3 (dk_at dksX5_product_0 7 rfl rfl)
theorem dX5_product_8 : decode cX5_product 8 = .ok (.ireturn, 1) := dk_172 (dk_at dksX5_product_0 8 rfl rfl)
theorem dX5_product_9 : decode cX5_product 9 = .ok (.aload_n 0, 1) := dk_42 (dk_at dksX5_product_0 9 rfl rfl)
theorem dX5_product_10 : decode cX5_product 10 = .ok (.invokevirtual 120, 3) := dk_182 0 120 (dk_at dksX5_product_0 10 rfl rfl)
theorem dX5_product_13 : decode cX5_product 13 = .ok (.bipush 42, 2) := dk_16 42 (dk_at dksX5_product_0 13 rfl rfl)
theorem dX5_product_15 : decode cX5_product 15 = .ok (.if_icmp .eq 21, 3) := dk_159 0 21 (dk_at dksX5_product_0 15 rfl rfl)
theorem dX5_product_18 : decode cX5_product 18 = .ok (.aload_n 0, 1) := dk_42 (dk_at dksX5_product_0 18 rfl rfl)
theorem dX5_product_19 : decode cX5_product 19 = .ok (.invokevirtual 120, 3) := dk_182 0 120 (dk_at dksX5_product_0 19 rfl rfl)
theorem dX5_product_22 : decode cX5_product 22 = .ok (.bipush 47, 2) := dk_16 47 (dk_at dksX5_product_0 22 rfl rfl)
theorem dX5_product_24 : decode cX5_product 24 = .ok (.if_icmp .eq 12, 3) := dk_159 0 12 (dk_at dksX5_product_1 0 rfl rfl)
theorem dX5_product_27 : decode cX5_product 27 = .ok (.aload_n 0, 1) := dk_42 (dk_at dksX5_product_1 3 rfl rfl)
theorem dX5_product_28 : decode cX5_product 28 = .ok (.invokevirtual 120, 3) := dk_182 0 120 (dk_at dksX5_product_1 4 rfl rfl)
theorem dX5_product_31 : decode cX5_product 31 = .ok (.bipush 37, 2) := dk_16 37 (dk_at dksX5_product_1 7 rfl rfl)
theorem dX5_product_33 : decode cX5_product 33 = .ok (.if_icmp .ne 36, 3) := dk_160 0 36 (dk_at dksX5_product_1 9 rfl rfl)
theorem dX5_product_36 : decode cX5_product 36 = .ok (.aload_n 0, 1) := dk_42 (dk_at dksX5_product_1 12 rfl rfl)
theorem dX5_product_37 : decode cX5_product 37 = .ok (.invokevirtual 120, 3) := dk_182 0 120 (dk_at dksX5_product_1 13 rfl rfl)
theorem dX5_product_40 : decode cX5_product 40 = .ok (.istore_n 1, 1) := dk_60 (dk_at dksX5_product_1 16 rfl rfl)
theorem dX5_product_41 : decode cX5_product 41 = .ok (.aload_n 0, 1) := dk_42 (dk_at dksX5_product_1 17 rfl rfl)
theorem dX5_product_42 : decode cX5_product 42 = .ok (.dup, 1) := dk_89 (dk_at dksX5_product_1 18 rfl rfl)
theorem dX5_product_43 : decode cX5_product 43 = .ok (.getfield 106, 3) := dk_180 0 106 (dk_at dksX5_product_1 19 rfl rfl)
theorem dX5_product_46 : decode cX5_product 46 = .ok (.iconst 1, 1) := dk_4 (dk_at dksX5_product_1 22 rfl rfl)
theorem dX5_product_47 : decode cX5_product 47 = .ok (.iadd, 1) := dk_96 (dk_at dksX5_product_1 23 rfl rfl)
theorem dX5_product_48 : decode cX5_product 48 = .ok (.putfield 106, 3) := dk_181 0 106 (dk_at dksX5_product_2 0 rfl rfl)
theorem dX5_product_51 : decode cX5_product 51 = .ok (.aload_n 0, 1) := dk_42 (dk_at dksX5_product_2 3 rfl rfl)
theorem dX5_product_52 : decode cX5_product 52 = .ok (.invokevirtual 137, 3) := dk_182 0 137 (dk_at dksX5_product_2 4 rfl rfl)
theorem dX5_product_55 : decode cX5_product 55 = .ok (.ifCond .ne 5, 3) := dk_154 0 5 (dk_at dksX5_product_2 7 rfl rfl)
theorem dX5_product_58 : decode cX5_product 58 = .ok (.iconst 0, 1) := dk_3 (dk_at dksX5_product_2 10 rfl rfl)
theorem dX5_product_59 : decode cX5_product 59 = .ok (.ireturn, 1) := dk_172 (dk_at dksX5_product_2 11 rfl rfl)
theorem dX5_product_60 : decode cX5_product 60 = .ok (.aload_n 0, 1) := dk_42 (dk_at dksX5_product_2 12 rfl rfl)
theorem dX5_product_61 : decode cX5_product 61 = .ok (.iconst 3, 1) := dk_6 (dk_at dksX5_product_2 13 rfl rfl)
theorem dX5_product_62 : decode cX5_product 62 = .ok (.iload_n 1, 1) := dk_27 (dk_at dksX5_product_2 14 rfl rfl)
theorem dX5_product_63 : decode cX5_product 63 = .ok (.invokevirtual 124, 3) := dk_182 0 124 (dk_at dksX5_product_2 15 rfl rfl)
theorem dX5_product_66 : decode cX5_product 66 = .ok (.goto (-57), 3) := dk_167 255 199 (dk_at dksX5_product_2 18 rfl rfl)
theorem dX5_product_69 : decode cX5_product 69 = .ok (.iconst 1, 1) := dk_4 (dk_at dksX5_product_2 21 rfl rfl)
theorem dX5_product_70 : decode cX5_product 70 = .ok (.ireturn, 1) := dk_172 (dk_at dksX5_product_2 22 rfl rfl)
abbrev cX5_one : ByteArray := prog_20_method_44_code
def yX5_one : MethodName := ⟨RX5, "one", "()Z"⟩
def dkwX5_one_8 : List UInt8 := [180, 0, 140, 4, 100, 181, 0, 140, 4, 172]
abbrev dktX5_one_8 : List UInt8 := dkwX5_one_8 ++ []
def dkwX5_one_7 : List UInt8 := [182, 0, 120, 16, 41, 159, 0, 5, 3, 172, 42, 89, 180, 0, 106, 4, 96, 181, 0, 106, 42, 89]
abbrev dktX5_one_7 : List UInt8 := dkwX5_one_7 ++ dktX5_one_8
def dkwX5_one_6 : List UInt8 := [4, 172, 27, 16, 40, 160, 0, 26, 42, 182, 0, 146, 153, 0, 19, 42, 182, 0, 149, 153, 0, 12, 42]
abbrev dktX5_one_6 : List UInt8 := dkwX5_one_6 ++ dktX5_one_7
def dkwX5_one_5 : List UInt8 := [182, 0, 137, 154, 0, 5, 3, 172, 42, 89, 180, 0, 140, 4, 100, 181, 0, 140, 42, 5, 3, 182, 0, 124]
abbrev dktX5_one_5 : List UInt8 := dkwX5_one_5 ++ dktX5_one_6
def dkwX5_one_4 : List UInt8 := [42, 3, 28, 182, 0, 124, 4, 172, 27, 16, 33, 160, 0, 37, 42, 182, 0, 146, 153, 0, 10, 42]
abbrev dktX5_one_4 : List UInt8 := dkwX5_one_4 ++ dktX5_one_5
def dkwX5_one_3 : List UInt8 := [182, 0, 120, 96, 16, 48, 100, 61, 42, 89, 180, 0, 106, 4, 96, 181, 0, 106, 132, 3, 1, 167, 255, 211]
abbrev dktX5_one_3 : List UInt8 := dkwX5_one_3 ++ dktX5_one_4
def dkwX5_one_2 : List UInt8 := [162, 0, 46, 42, 182, 0, 120, 16, 48, 16, 57, 184, 0, 47, 153, 0, 32, 16, 10, 28, 104, 42]
abbrev dktX5_one_2 : List UInt8 := dkwX5_one_2 ++ dktX5_one_3
def dkwX5_one_1 : List UInt8 := [4, 27, 182, 0, 124, 4, 172, 27, 16, 48, 16, 57, 184, 0, 47, 153, 0, 63, 3, 61, 3, 62, 29, 7]
abbrev dktX5_one_1 : List UInt8 := dkwX5_one_1 ++ dktX5_one_2
def dkwX5_one_0 : List UInt8 := [42, 182, 0, 120, 60, 42, 27, 182, 0, 143, 153, 0, 21, 42, 89, 180, 0, 106, 4, 96, 181, 0, 106, 42]
abbrev dktX5_one_0 : List UInt8 := dkwX5_one_0 ++ dktX5_one_1
theorem dksX5_one_0 : cX5_one.data.toList.drop 0 = dktX5_one_0 := by decide +kernel
theorem dksX5_one_1 : cX5_one.data.toList.drop 24 = dktX5_one_1 := dk_seg dksX5_one_0 24 rfl rfl
theorem dksX5_one_2 : cX5_one.data.toList.drop 48 = dktX5_one_2 := dk_seg dksX5_one_1 24 rfl rfl
theorem dksX5_one_3 : cX5_one.data.toList.drop 70 = dktX5_one_3 := dk_seg dksX5_one_2 22 rfl rfl
theorem dksX5_one_4 : cX5_one.data.toList.drop 94 = dktX5_one_4 := dk_seg dksX5_one_3 24 rfl rfl
theorem dksX5_one_5 : cX5_one.data.toList.drop 116 = dktX5_one_5 := dk_seg dksX5_one_4 22 rfl rfl
theorem dksX5_one_6 : cX5_one.data.toList.drop 140 = dktX5_one_6 := dk_seg dksX5_one_5 24 rfl rfl
theorem dksX5_one_7 : cX5_one.data.toList.drop 163 = dktX5_one_7 := dk_seg dksX5_one_6 23 rfl rfl
theorem dksX5_one_8 : cX5_one.data.toList.drop 185 = dktX5_one_8 := dk_seg dksX5_one_7 22 rfl rfl
theorem dX5_one_0 : decode cX5_one 0 = .ok (.aload_n 0, 1) := dk_42 (dk_at dksX5_one_0 0 rfl rfl)
theorem dX5_one_1 : decode cX5_one 1 = .ok (.invokevirtual 120, 3) := dk_182 0 120 (dk_at dksX5_one_0 1 rfl rfl)
theorem dX5_one_4 : decode cX5_one 4 = .ok (.istore_n 1, 1) := dk_60 (dk_at dksX5_one_0 4 rfl rfl)
theorem dX5_one_5 : decode cX5_one 5 = .ok (.aload_n 0, 1) := dk_42 (dk_at dksX5_one_0 5 rfl rfl)
theorem dX5_one_6 : decode cX5_one 6 = .ok (.iload_n 1, 1) := dk_27 (dk_at dksX5_one_0 6 rfl rfl)
theorem dX5_one_7 : decode cX5_one 7 = .ok (.invokevirtual 143, 3) := dk_182 0 143 (dk_at dksX5_one_0 7 rfl rfl)
theorem dX5_one_10 : decode cX5_one 10 = .ok (.ifCond .eq 21, 3) := dk_153 0 21 (dk_at dksX5_one_0 10 rfl rfl)
theorem dX5_one_13 : decode cX5_one 13 = .ok (.aload_n 0, 1) := dk_42 (dk_at dksX5_one_0 13 rfl rfl)
theorem dX5_one_14 : decode cX5_one 14 = .ok (.dup, 1) := dk_89 (dk_at dksX5_one_0 14 rfl rfl)
theorem dX5_one_15 : decode cX5_one 15 = .ok (.getfield 106, 3) := dk_180 0 106 (dk_at dksX5_one_0 15 rfl rfl)
theorem dX5_one_18 : decode cX5_one 18 = .ok (.iconst 1, 1) := dk_4 (dk_at dksX5_one_0 18 rfl rfl)
theorem dX5_one_19 : decode cX5_one 19 = .ok (.iadd, 1) := dk_96 (dk_at dksX5_one_0 19 rfl rfl)
theorem dX5_one_20 : decode cX5_one 20 = .ok (.putfield 106, 3) := dk_181 0 106 (dk_at dksX5_one_0 20 rfl rfl)
theorem dX5_one_23 : decode cX5_one 23 = .ok (.aload_n 0, 1) := dk_42 (dk_at dksX5_one_0 23 rfl rfl)
theorem dX5_one_24 : decode cX5_one 24 = .ok (.iconst 1, 1) := dk_4 (dk_at dksX5_one_1 0 rfl rfl)
theorem dX5_one_25 : decode cX5_one 25 = .ok (.iload_n 1, 1) := dk_27 (dk_at dksX5_one_1 1 rfl rfl)
theorem dX5_one_26 : decode cX5_one 26 = .ok (.invokevirtual 124, 3) := dk_182 0 124 (dk_at dksX5_one_1 2 rfl rfl)
theorem dX5_one_29 : decode cX5_one 29 = .ok (.iconst 1, 1) := dk_4 (dk_at dksX5_one_1 5 rfl rfl)
theorem dX5_one_30 : decode cX5_one 30 = .ok (.ireturn, 1) := dk_172 (dk_at dksX5_one_1 6 rfl rfl)
theorem dX5_one_31 : decode cX5_one 31 = .ok (.iload_n 1, 1) := dk_27 (dk_at dksX5_one_1 7 rfl rfl)
theorem dX5_one_32 : decode cX5_one 32 = .ok (.bipush 48, 2) := dk_16 48 (dk_at dksX5_one_1 8 rfl rfl)
theorem dX5_one_34 : decode cX5_one 34 = .ok (.bipush 57, 2) := dk_16 57 (dk_at dksX5_one_1 10 rfl rfl)
theorem dX5_one_36 : decode cX5_one 36 = .ok (.invokestatic 47, 3) := dk_184 0 47 (dk_at dksX5_one_1 12 rfl rfl)
theorem dX5_one_39 : decode cX5_one 39 = .ok (.ifCond .eq 63, 3) := dk_153 0 63 (dk_at dksX5_one_1 15 rfl rfl)
theorem dX5_one_42 : decode cX5_one 42 = .ok (.iconst 0, 1) := dk_3 (dk_at dksX5_one_1 18 rfl rfl)
theorem dX5_one_43 : decode cX5_one 43 = .ok (.istore_n 2, 1) := dk_61 (dk_at dksX5_one_1 19 rfl rfl)
theorem dX5_one_44 : decode cX5_one 44 = .ok (.iconst 0, 1) := dk_3 (dk_at dksX5_one_1 20 rfl rfl)
theorem dX5_one_45 : decode cX5_one 45 = .ok (.istore_n 3, 1) := dk_62 (dk_at dksX5_one_1 21 rfl rfl)
theorem dX5_one_46 : decode cX5_one 46 = .ok (.iload_n 3, 1) := dk_29 (dk_at dksX5_one_1 22 rfl rfl)
theorem dX5_one_47 : decode cX5_one 47 = .ok (.iconst 4, 1) := dk_7 (dk_at dksX5_one_1 23 rfl rfl)
theorem dX5_one_48 : decode cX5_one 48 = .ok (.if_icmp .ge 46, 3) := dk_162 0 46 (dk_at dksX5_one_2 0 rfl rfl)
theorem dX5_one_51 : decode cX5_one 51 = .ok (.aload_n 0, 1) := dk_42 (dk_at dksX5_one_2 3 rfl rfl)
theorem dX5_one_52 : decode cX5_one 52 = .ok (.invokevirtual 120, 3) := dk_182 0 120 (dk_at dksX5_one_2 4 rfl rfl)
theorem dX5_one_55 : decode cX5_one 55 = .ok (.bipush 48, 2) := dk_16 48 (dk_at dksX5_one_2 7 rfl rfl)
theorem dX5_one_57 : decode cX5_one 57 = .ok (.bipush 57, 2) := dk_16 57 (dk_at dksX5_one_2 9 rfl rfl)
theorem dX5_one_59 : decode cX5_one 59 = .ok (.invokestatic 47, 3) := dk_184 0 47 (dk_at dksX5_one_2 11 rfl rfl)
theorem dX5_one_62 : decode cX5_one 62 = .ok (.ifCond .eq 32, 3) := dk_153 0 32 (dk_at dksX5_one_2 14 rfl rfl)
theorem dX5_one_65 : decode cX5_one 65 = .ok (.bipush 10, 2) := dk_16 10 (dk_at dksX5_one_2 17 rfl rfl)
theorem dX5_one_67 : decode cX5_one 67 = .ok (.iload_n 2, 1) := dk_28 (dk_at dksX5_one_2 19 rfl rfl)
theorem dX5_one_68 : decode cX5_one 68 = .ok (.imul, 1) := dk_104 (dk_at dksX5_one_2 20 rfl rfl)
theorem dX5_one_69 : decode cX5_one 69 = .ok (.aload_n 0, 1) := dk_42 (dk_at dksX5_one_2 21 rfl rfl)
theorem dX5_one_70 : decode cX5_one 70 = .ok (.invokevirtual 120, 3) := dk_182 0 120 (dk_at dksX5_one_3 0 rfl rfl)
theorem dX5_one_73 : decode cX5_one 73 = .ok (.iadd, 1) := dk_96 (dk_at dksX5_one_3 3 rfl rfl)
theorem dX5_one_74 : decode cX5_one 74 = .ok (.bipush 48, 2) := dk_16 48 (dk_at dksX5_one_3 4 rfl rfl)
theorem dX5_one_76 : decode cX5_one 76 = .ok (.isub, 1) := dk_100 (dk_at dksX5_one_3 6 rfl rfl)
theorem dX5_one_77 : decode cX5_one 77 = .ok (.istore_n 2, 1) := dk_61 (dk_at dksX5_one_3 7 rfl rfl)
theorem dX5_one_78 : decode cX5_one 78 = .ok (.aload_n 0, 1) := dk_42 (dk_at dksX5_one_3 8 rfl rfl)
theorem dX5_one_79 : decode cX5_one 79 = .ok (.dup, 1) := dk_89 (dk_at dksX5_one_3 9 rfl rfl)
theorem dX5_one_80 : decode cX5_one 80 = .ok (.getfield 106, 3) := dk_180 0 106 (dk_at dksX5_one_3 10 rfl rfl)
theorem dX5_one_83 : decode cX5_one 83 = .ok (.iconst 1, 1) := dk_4 (dk_at dksX5_one_3 13 rfl rfl)
theorem dX5_one_84 : decode cX5_one 84 = .ok (.iadd, 1) := dk_96 (dk_at dksX5_one_3 14 rfl rfl)
theorem dX5_one_85 : decode cX5_one 85 = .ok (.putfield 106, 3) := dk_181 0 106 (dk_at dksX5_one_3 15 rfl rfl)
theorem dX5_one_88 : decode cX5_one 88 = .ok (.iinc 3 1, 3) := dk_132 3 1 (dk_at dksX5_one_3 18 rfl rfl)
theorem dX5_one_91 : decode cX5_one 91 = .ok (.goto (-45), 3) := dk_167 255 211 (dk_at dksX5_one_3 21 rfl rfl)
theorem dX5_one_94 : decode cX5_one 94 = .ok (.aload_n 0, 1) := dk_42 (dk_at dksX5_one_4 0 rfl rfl)
theorem dX5_one_95 : decode cX5_one 95 = .ok (.iconst 0, 1) := dk_3 (dk_at dksX5_one_4 1 rfl rfl)
theorem dX5_one_96 : decode cX5_one 96 = .ok (.iload_n 2, 1) := dk_28 (dk_at dksX5_one_4 2 rfl rfl)
theorem dX5_one_97 : decode cX5_one 97 = .ok (.invokevirtual 124, 3) := dk_182 0 124 (dk_at dksX5_one_4 3 rfl rfl)
theorem dX5_one_100 : decode cX5_one 100 = .ok (.iconst 1, 1) := dk_4 (dk_at dksX5_one_4 6 rfl rfl)
theorem dX5_one_101 : decode cX5_one 101 = .ok (.ireturn, 1) := dk_172 (dk_at dksX5_one_4 7 rfl rfl)
theorem dX5_one_102 : decode cX5_one 102 = .ok (.iload_n 1, 1) := dk_27 (dk_at dksX5_one_4 8 rfl rfl)
theorem dX5_one_103 : decode cX5_one 103 = .ok (.bipush 33, 2) := dk_16 33 (dk_at dksX5_one_4 9 rfl rfl)
theorem dX5_one_105 : decode cX5_one 105 = .ok (.if_icmp .ne 37, 3) := dk_160 0 37 (dk_at dksX5_one_4 11 rfl rfl)
theorem dX5_one_108 : decode cX5_one 108 = .ok (.aload_n 0, 1) := dk_42 (dk_at dksX5_one_4 14 rfl rfl)
theorem dX5_one_109 : decode cX5_one 109 = .ok (.invokevirtual 146, 3) := dk_182 0 146 (dk_at dksX5_one_4 15 rfl rfl)
theorem dX5_one_112 : decode cX5_one 112 = .ok (.ifCond .eq 10, 3) := dk_153 0 10 (dk_at dksX5_one_4 18 rfl rfl)
theorem dX5_one_115 : decode cX5_one 115 = .ok (.aload_n 0, 1) := dk_42 (dk_at dksX5_one_4 21 rfl rfl)
theorem dX5_one_116 : decode cX5_one 116 = .ok (.invokevirtual 137, 3) := dk_182 0 137 (dk_at dksX5_one_5 0 rfl rfl)
theorem dX5_one_119 : decode cX5_one 119 = .ok (.ifCond .ne 5, 3) := dk_154 0 5 (dk_at dksX5_one_5 3 rfl rfl)
theorem dX5_one_122 : decode cX5_one 122 = .ok (.iconst 0, 1) := dk_3 (dk_at dksX5_one_5 6 rfl rfl)
theorem dX5_one_123 : decode cX5_one 123 = .ok (.ireturn, 1) := dk_172 (dk_at dksX5_one_5 7 rfl rfl)
theorem dX5_one_124 : decode cX5_one 124 = .ok (.aload_n 0, 1) := dk_42 (dk_at dksX5_one_5 8 rfl rfl)
theorem dX5_one_125 : decode cX5_one 125 = .ok (.dup, 1) := dk_89 (dk_at dksX5_one_5 9 rfl rfl)
theorem dX5_one_126 : decode cX5_one 126 = .ok (.getfield 140, 3) := dk_180 0 140 (dk_at dksX5_one_5 10 rfl rfl)
theorem dX5_one_129 : decode cX5_one 129 = .ok (.iconst 1, 1) := dk_4 (dk_at dksX5_one_5 13 rfl rfl)
theorem dX5_one_130 : decode cX5_one 130 = .ok (.isub, 1) := dk_100 (dk_at dksX5_one_5 14 rfl rfl)
theorem dX5_one_131 : decode cX5_one 131 = .ok (.putfield 140, 3) := dk_181 0 140 (dk_at dksX5_one_5 15 rfl rfl)
theorem dX5_one_134 : decode cX5_one 134 = .ok (.aload_n 0, 1) := dk_42 (dk_at dksX5_one_5 18 rfl rfl)
theorem dX5_one_135 : decode cX5_one 135 = .ok (.iconst 2, 1) := dk_5 (dk_at dksX5_one_5 19 rfl rfl)
theorem dX5_one_136 : decode cX5_one 136 = .ok (.iconst 0, 1) := dk_3 (dk_at dksX5_one_5 20 rfl rfl)
theorem dX5_one_137 : decode cX5_one 137 = .ok (.invokevirtual 124, 3) := dk_182 0 124 (dk_at dksX5_one_5 21 rfl rfl)
theorem dX5_one_140 : decode cX5_one 140 = .ok (.iconst 1, 1) := dk_4 (dk_at dksX5_one_6 0 rfl rfl)
theorem dX5_one_141 : decode cX5_one 141 = .ok (.ireturn, 1) := dk_172 (dk_at dksX5_one_6 1 rfl rfl)
theorem dX5_one_142 : decode cX5_one 142 = .ok (.iload_n 1, 1) := dk_27 (dk_at dksX5_one_6 2 rfl rfl)
theorem dX5_one_143 : decode cX5_one 143 = .ok (.bipush 40, 2) := dk_16 40 (dk_at dksX5_one_6 3 rfl rfl)
theorem dX5_one_145 : decode cX5_one 145 = .ok (.if_icmp .ne 26, 3) := dk_160 0 26 (dk_at dksX5_one_6 5 rfl rfl)
theorem dX5_one_148 : decode cX5_one 148 = .ok (.aload_n 0, 1) := dk_42 (dk_at dksX5_one_6 8 rfl rfl)
theorem dX5_one_149 : decode cX5_one 149 = .ok (.invokevirtual 146, 3) := dk_182 0 146 (dk_at dksX5_one_6 9 rfl rfl)
theorem dX5_one_152 : decode cX5_one 152 = .ok (.ifCond .eq 19, 3) := dk_153 0 19 (dk_at dksX5_one_6 12 rfl rfl)
theorem dX5_one_155 : decode cX5_one 155 = .ok (.aload_n 0, 1) := dk_42 (dk_at dksX5_one_6 15 rfl rfl)
theorem dX5_one_156 : decode cX5_one 156 = .ok (.invokevirtual 149, 3) := dk_182 0 149 (dk_at dksX5_one_6 16 rfl rfl)
theorem dX5_one_159 : decode cX5_one 159 = .ok (.ifCond .eq 12, 3) := dk_153 0 12 (dk_at dksX5_one_6 19 rfl rfl)
theorem dX5_one_162 : decode cX5_one 162 = .ok (.aload_n 0, 1) := dk_42 (dk_at dksX5_one_6 22 rfl rfl)
theorem dX5_one_163 : decode cX5_one 163 = .ok (.invokevirtual 120, 3) := dk_182 0 120 (dk_at dksX5_one_7 0 rfl rfl)
theorem dX5_one_166 : decode cX5_one 166 = .ok (.bipush 41, 2) := dk_16 41 (dk_at dksX5_one_7 3 rfl rfl)
theorem dX5_one_168 : decode cX5_one 168 = .ok (.if_icmp .eq 5, 3) := dk_159 0 5 (dk_at dksX5_one_7 5 rfl rfl)
theorem dX5_one_171 : decode cX5_one 171 = .ok (.iconst 0, 1) := dk_3 (dk_at dksX5_one_7 8 rfl rfl)
theorem dX5_one_172 : decode cX5_one 172 = .ok (.ireturn, 1) := dk_172 (dk_at dksX5_one_7 9 rfl rfl)
theorem dX5_one_173 : decode cX5_one 173 = .ok (.aload_n 0, 1) := dk_42 (dk_at dksX5_one_7 10 rfl rfl)
theorem dX5_one_174 : decode cX5_one 174 = .ok (.dup, 1) := dk_89 (dk_at dksX5_one_7 11 rfl rfl)
theorem dX5_one_175 : decode cX5_one 175 = .ok (.getfield 106, 3) := dk_180 0 106 (dk_at dksX5_one_7 12 rfl rfl)
theorem dX5_one_178 : decode cX5_one 178 = .ok (.iconst 1, 1) := dk_4 (dk_at dksX5_one_7 15 rfl rfl)
theorem dX5_one_179 : decode cX5_one 179 = .ok (.iadd, 1) := dk_96 (dk_at dksX5_one_7 16 rfl rfl)
theorem dX5_one_180 : decode cX5_one 180 = .ok (.putfield 106, 3) := dk_181 0 106 (dk_at dksX5_one_7 17 rfl rfl)
theorem dX5_one_183 : decode cX5_one 183 = .ok (.aload_n 0, 1) := dk_42 (dk_at dksX5_one_7 20 rfl rfl)
theorem dX5_one_184 : decode cX5_one 184 = .ok (.dup, 1) := dk_89 (dk_at dksX5_one_7 21 rfl rfl)
theorem dX5_one_185 : decode cX5_one 185 = .ok (.getfield 140, 3) := dk_180 0 140 (dk_at dksX5_one_8 0 rfl rfl)
theorem dX5_one_188 : decode cX5_one 188 = .ok (.iconst 1, 1) := dk_4 (dk_at dksX5_one_8 3 rfl rfl)
theorem dX5_one_189 : decode cX5_one 189 = .ok (.isub, 1) := dk_100 (dk_at dksX5_one_8 4 rfl rfl)
theorem dX5_one_190 : decode cX5_one 190 = .ok (.putfield 140, 3) := dk_181 0 140 (dk_at dksX5_one_8 5 rfl rfl)
theorem dX5_one_193 : decode cX5_one 193 = .ok (.iconst 1, 1) := dk_4 (dk_at dksX5_one_8 8 rfl rfl)
theorem dX5_one_194 : decode cX5_one 194 = .ok (.ireturn, 1) := dk_172 (dk_at dksX5_one_8 9 rfl rfl)
abbrev cX5_look : ByteArray := prog_20_method_35_code
def yX5_look : MethodName := ⟨RX5, "look", "()I"⟩
def dkwX5_look_1 : List UInt8 := [180, 0, 106, 96, 46, 167, 0, 4, 2, 172]
abbrev dktX5_look_1 : List UInt8 := dkwX5_look_1 ++ []
def dkwX5_look_0 : List UInt8 := [42, 180, 0, 106, 42, 180, 0, 7, 16, 6, 46, 162, 0, 19, 42, 180, 0, 7, 17, 1, 176, 42]
abbrev dktX5_look_0 : List UInt8 := dkwX5_look_0 ++ dktX5_look_1
theorem dksX5_look_0 : cX5_look.data.toList.drop 0 = dktX5_look_0 := by decide +kernel
theorem dksX5_look_1 : cX5_look.data.toList.drop 22 = dktX5_look_1 := dk_seg dksX5_look_0 22 rfl rfl
theorem dX5_look_0 : decode cX5_look 0 = .ok (.aload_n 0, 1) := dk_42 (dk_at dksX5_look_0 0 rfl rfl)
theorem dX5_look_1 : decode cX5_look 1 = .ok (.getfield 106, 3) := dk_180 0 106 (dk_at dksX5_look_0 1 rfl rfl)
theorem dX5_look_4 : decode cX5_look 4 = .ok (.aload_n 0, 1) := dk_42 (dk_at dksX5_look_0 4 rfl rfl)
theorem dX5_look_5 : decode cX5_look 5 = .ok (.getfield 7, 3) := dk_180 0 7 (dk_at dksX5_look_0 5 rfl rfl)
theorem dX5_look_8 : decode cX5_look 8 = .ok (.bipush 6, 2) := dk_16 6 (dk_at dksX5_look_0 8 rfl rfl)
theorem dX5_look_10 : decode cX5_look 10 = .ok (.iaload, 1) := dk_46 (dk_at dksX5_look_0 10 rfl rfl)
theorem dX5_look_11 : decode cX5_look 11 = .ok (.if_icmp .ge 19, 3) := dk_162 0 19 (dk_at dksX5_look_0 11 rfl rfl)
theorem dX5_look_14 : decode cX5_look 14 = .ok (.aload_n 0, 1) := dk_42 (dk_at dksX5_look_0 14 rfl rfl)
theorem dX5_look_15 : decode cX5_look 15 = .ok (.getfield 7, 3) := dk_180 0 7 (dk_at dksX5_look_0 15 rfl rfl)
theorem dX5_look_18 : decode cX5_look 18 = .ok (.sipush 432, 3) := dk_17 1 176 (dk_at dksX5_look_0 18 rfl rfl)
theorem dX5_look_21 : decode cX5_look 21 = .ok (.aload_n 0, 1) := dk_42 (dk_at dksX5_look_0 21 rfl rfl)
theorem dX5_look_22 : decode cX5_look 22 = .ok (.getfield 106, 3) := dk_180 0 106 (dk_at dksX5_look_1 0 rfl rfl)
theorem dX5_look_25 : decode cX5_look 25 = .ok (.iadd, 1) := dk_96 (dk_at dksX5_look_1 3 rfl rfl)
theorem dX5_look_26 : decode cX5_look 26 = .ok (.iaload, 1) := dk_46 (dk_at dksX5_look_1 4 rfl rfl)
theorem dX5_look_27 : decode cX5_look 27 = .ok (.goto 4, 3) := dk_167 0 4 (dk_at dksX5_look_1 5 rfl rfl)
theorem dX5_look_30 : decode cX5_look 30 = .ok (.iconst (-1), 1) := dk_2 (dk_at dksX5_look_1 8 rfl rfl)
theorem dX5_look_31 : decode cX5_look 31 = .ok (.ireturn, 1) := dk_172 (dk_at dksX5_look_1 9 rfl rfl)
abbrev cX5_isName : ByteArray := prog_20_method_36_code
def yX5_isName : MethodName := ⟨RX5, "isName", "(I)Z"⟩
def dkwX5_isName_2 : List UInt8 := [16, 115, 159, 0, 15, 27, 16, 99, 159, 0, 9, 27, 16, 117, 160, 0, 7, 4, 167, 0, 4, 3, 172]
abbrev dktX5_isName_2 : List UInt8 := dkwX5_isName_2 ++ []
def dkwX5_isName_1 : List UInt8 := [159, 0, 15, 27, 16, 112, 159, 0, 9, 27, 16, 121, 160, 0, 7, 4, 167, 0, 30, 3, 167, 0, 26, 27]
abbrev dktX5_isName_1 : List UInt8 := dkwX5_isName_1 ++ dktX5_isName_2
def dkwX5_isName_0 : List UInt8 := [27, 16, 118, 159, 0, 9, 27, 16, 114, 160, 0, 5, 4, 172, 42, 180, 0, 110, 154, 0, 29, 27, 16, 109]
abbrev dktX5_isName_0 : List UInt8 := dkwX5_isName_0 ++ dktX5_isName_1
theorem dksX5_isName_0 : cX5_isName.data.toList.drop 0 = dktX5_isName_0 := by decide +kernel
theorem dksX5_isName_1 : cX5_isName.data.toList.drop 24 = dktX5_isName_1 := dk_seg dksX5_isName_0 24 rfl rfl
theorem dksX5_isName_2 : cX5_isName.data.toList.drop 48 = dktX5_isName_2 := dk_seg dksX5_isName_1 24 rfl rfl
theorem dX5_isName_0 : decode cX5_isName 0 = .ok (.iload_n 1, 1) := dk_27 (dk_at dksX5_isName_0 0 rfl rfl)
theorem dX5_isName_1 : decode cX5_isName 1 = .ok (.bipush 118, 2) := dk_16 118 (dk_at dksX5_isName_0 1 rfl rfl)
theorem dX5_isName_3 : decode cX5_isName 3 = .ok (.if_icmp .eq 9, 3) := dk_159 0 9 (dk_at dksX5_isName_0 3 rfl rfl)
theorem dX5_isName_6 : decode cX5_isName 6 = .ok (.iload_n 1, 1) := dk_27 (dk_at dksX5_isName_0 6 rfl rfl)
theorem dX5_isName_7 : decode cX5_isName 7 = .ok (.bipush 114, 2) := dk_16 114 (dk_at dksX5_isName_0 7 rfl rfl)
theorem dX5_isName_9 : decode cX5_isName 9 = .ok (.if_icmp .ne 5, 3) := dk_160 0 5 (dk_at dksX5_isName_0 9 rfl rfl)
theorem dX5_isName_12 : decode cX5_isName 12 = .ok (.iconst 1, 1) := dk_4 (dk_at dksX5_isName_0 12 rfl rfl)
theorem dX5_isName_13 : decode cX5_isName 13 = .ok (.ireturn, 1) := dk_172 (dk_at dksX5_isName_0 13 rfl rfl)
theorem dX5_isName_14 : decode cX5_isName 14 = .ok (.aload_n 0, 1) := dk_42 (dk_at dksX5_isName_0 14 rfl rfl)
theorem dX5_isName_15 : decode cX5_isName 15 = .ok (.getfield 110, 3) := dk_180 0 110 (dk_at dksX5_isName_0 15 rfl rfl)
theorem dX5_isName_18 : decode cX5_isName 18 = .ok (.ifCond .ne 29, 3) := dk_154 0 29 (dk_at dksX5_isName_0 18 rfl rfl)
theorem dX5_isName_21 : decode cX5_isName 21 = .ok (.iload_n 1, 1) := dk_27 (dk_at dksX5_isName_0 21 rfl rfl)
theorem dX5_isName_22 : decode cX5_isName 22 = .ok (.bipush 109, 2) := dk_16 109 (dk_at dksX5_isName_0 22 rfl rfl)
theorem dX5_isName_24 : decode cX5_isName 24 = .ok (.if_icmp .eq 15, 3) := dk_159 0 15 (dk_at dksX5_isName_1 0 rfl rfl)
theorem dX5_isName_27 : decode cX5_isName 27 = .ok (.iload_n 1, 1) := dk_27 (dk_at dksX5_isName_1 3 rfl rfl)
theorem dX5_isName_28 : decode cX5_isName 28 = .ok (.bipush 112, 2) := dk_16 112 (dk_at dksX5_isName_1 4 rfl rfl)
theorem dX5_isName_30 : decode cX5_isName 30 = .ok (.if_icmp .eq 9, 3) := dk_159 0 9 (dk_at dksX5_isName_1 6 rfl rfl)
theorem dX5_isName_33 : decode cX5_isName 33 = .ok (.iload_n 1, 1) := dk_27 (dk_at dksX5_isName_1 9 rfl rfl)
theorem dX5_isName_34 : decode cX5_isName 34 = .ok (.bipush 121, 2) := dk_16 121 (dk_at dksX5_isName_1 10 rfl rfl)
theorem dX5_isName_36 : decode cX5_isName 36 = .ok (.if_icmp .ne 7, 3) := dk_160 0 7 (dk_at dksX5_isName_1 12 rfl rfl)
theorem dX5_isName_39 : decode cX5_isName 39 = .ok (.iconst 1, 1) := dk_4 (dk_at dksX5_isName_1 15 rfl rfl)
theorem dX5_isName_40 : decode cX5_isName 40 = .ok (.goto 30, 3) := dk_167 0 30 (dk_at dksX5_isName_1 16 rfl rfl)
theorem dX5_isName_43 : decode cX5_isName 43 = .ok (.iconst 0, 1) := dk_3 (dk_at dksX5_isName_1 19 rfl rfl)
theorem dX5_isName_44 : decode cX5_isName 44 = .ok (.goto 26, 3) := dk_167 0 26 (dk_at dksX5_isName_1 20 rfl rfl)
theorem dX5_isName_47 : decode cX5_isName 47 = .ok (.iload_n 1, 1) := dk_27 (dk_at dksX5_isName_1 23 rfl rfl)
theorem dX5_isName_48 : decode cX5_isName 48 = .ok (.bipush 115, 2) := dk_16 115 (dk_at dksX5_isName_2 0 rfl rfl)
theorem dX5_isName_50 : decode cX5_isName 50 = .ok (.if_icmp .eq 15, 3) := dk_159 0 15 (dk_at dksX5_isName_2 2 rfl rfl)
theorem dX5_isName_53 : decode cX5_isName 53 = .ok (.iload_n 1, 1) := dk_27 (dk_at dksX5_isName_2 5 rfl rfl)
theorem dX5_isName_54 : decode cX5_isName 54 = .ok (.bipush 99, 2) := dk_16 99 (dk_at dksX5_isName_2 6 rfl rfl)
theorem dX5_isName_56 : decode cX5_isName 56 = .ok (.if_icmp .eq 9, 3) := dk_159 0 9 (dk_at dksX5_isName_2 8 rfl rfl)
theorem dX5_isName_59 : decode cX5_isName 59 = .ok (.iload_n 1, 1) := dk_27 (dk_at dksX5_isName_2 11 rfl rfl)
theorem dX5_isName_60 : decode cX5_isName 60 = .ok (.bipush 117, 2) := dk_16 117 (dk_at dksX5_isName_2 12 rfl rfl)
theorem dX5_isName_62 : decode cX5_isName 62 = .ok (.if_icmp .ne 7, 3) := dk_160 0 7 (dk_at dksX5_isName_2 14 rfl rfl)
theorem dX5_isName_65 : decode cX5_isName 65 = .ok (.iconst 1, 1) := dk_4 (dk_at dksX5_isName_2 17 rfl rfl)
theorem dX5_isName_66 : decode cX5_isName 66 = .ok (.goto 4, 3) := dk_167 0 4 (dk_at dksX5_isName_2 18 rfl rfl)
theorem dX5_isName_69 : decode cX5_isName 69 = .ok (.iconst 0, 1) := dk_3 (dk_at dksX5_isName_2 21 rfl rfl)
theorem dX5_isName_70 : decode cX5_isName 70 = .ok (.ireturn, 1) := dk_172 (dk_at dksX5_isName_2 22 rfl rfl)
abbrev cX5_lays : ByteArray := prog_20_method_37_code
def yX5_lays : MethodName := ⟨RX5, "lays", "(II)V"⟩
def dkwX5_lays_1 : List UInt8 := [28, 79, 42, 89, 180, 0, 113, 4, 96, 181, 0, 113, 177]
abbrev dktX5_lays_1 : List UInt8 := dkwX5_lays_1 ++ []
def dkwX5_lays_0 : List UInt8 := [42, 180, 0, 22, 5, 42, 180, 0, 113, 104, 27, 79, 42, 180, 0, 22, 5, 42, 180, 0, 113, 104, 4, 96]
abbrev dktX5_lays_0 : List UInt8 := dkwX5_lays_0 ++ dktX5_lays_1
theorem dksX5_lays_0 : cX5_lays.data.toList.drop 0 = dktX5_lays_0 := by decide +kernel
theorem dksX5_lays_1 : cX5_lays.data.toList.drop 24 = dktX5_lays_1 := dk_seg dksX5_lays_0 24 rfl rfl
theorem dX5_lays_0 : decode cX5_lays 0 = .ok (.aload_n 0, 1) := dk_42 (dk_at dksX5_lays_0 0 rfl rfl)
theorem dX5_lays_1 : decode cX5_lays 1 = .ok (.getfield 22, 3) := dk_180 0 22 (dk_at dksX5_lays_0 1 rfl rfl)
theorem dX5_lays_4 : decode cX5_lays 4 = .ok (.iconst 2, 1) := dk_5 (dk_at dksX5_lays_0 4 rfl rfl)
theorem dX5_lays_5 : decode cX5_lays 5 = .ok (.aload_n 0, 1) := dk_42 (dk_at dksX5_lays_0 5 rfl rfl)
theorem dX5_lays_6 : decode cX5_lays 6 = .ok (.getfield 113, 3) := dk_180 0 113 (dk_at dksX5_lays_0 6 rfl rfl)
theorem dX5_lays_9 : decode cX5_lays 9 = .ok (.imul, 1) := dk_104 (dk_at dksX5_lays_0 9 rfl rfl)
theorem dX5_lays_10 : decode cX5_lays 10 = .ok (.iload_n 1, 1) := dk_27 (dk_at dksX5_lays_0 10 rfl rfl)
theorem dX5_lays_11 : decode cX5_lays 11 = .ok (.iastore, 1) := dk_79 (dk_at dksX5_lays_0 11 rfl rfl)
theorem dX5_lays_12 : decode cX5_lays 12 = .ok (.aload_n 0, 1) := dk_42 (dk_at dksX5_lays_0 12 rfl rfl)
theorem dX5_lays_13 : decode cX5_lays 13 = .ok (.getfield 22, 3) := dk_180 0 22 (dk_at dksX5_lays_0 13 rfl rfl)
theorem dX5_lays_16 : decode cX5_lays 16 = .ok (.iconst 2, 1) := dk_5 (dk_at dksX5_lays_0 16 rfl rfl)
theorem dX5_lays_17 : decode cX5_lays 17 = .ok (.aload_n 0, 1) := dk_42 (dk_at dksX5_lays_0 17 rfl rfl)
theorem dX5_lays_18 : decode cX5_lays 18 = .ok (.getfield 113, 3) := dk_180 0 113 (dk_at dksX5_lays_0 18 rfl rfl)
theorem dX5_lays_21 : decode cX5_lays 21 = .ok (.imul, 1) := dk_104 (dk_at dksX5_lays_0 21 rfl rfl)
theorem dX5_lays_22 : decode cX5_lays 22 = .ok (.iconst 1, 1) := dk_4 (dk_at dksX5_lays_0 22 rfl rfl)
theorem dX5_lays_23 : decode cX5_lays 23 = .ok (.iadd, 1) := dk_96 (dk_at dksX5_lays_0 23 rfl rfl)
theorem dX5_lays_24 : decode cX5_lays 24 = .ok (.iload_n 2, 1) := dk_28 (dk_at dksX5_lays_1 0 rfl rfl)
theorem dX5_lays_25 : decode cX5_lays 25 = .ok (.iastore, 1) := dk_79 (dk_at dksX5_lays_1 1 rfl rfl)
theorem dX5_lays_26 : decode cX5_lays 26 = .ok (.aload_n 0, 1) := dk_42 (dk_at dksX5_lays_1 2 rfl rfl)
theorem dX5_lays_27 : decode cX5_lays 27 = .ok (.dup, 1) := dk_89 (dk_at dksX5_lays_1 3 rfl rfl)
theorem dX5_lays_28 : decode cX5_lays 28 = .ok (.getfield 113, 3) := dk_180 0 113 (dk_at dksX5_lays_1 4 rfl rfl)
theorem dX5_lays_31 : decode cX5_lays 31 = .ok (.iconst 1, 1) := dk_4 (dk_at dksX5_lays_1 7 rfl rfl)
theorem dX5_lays_32 : decode cX5_lays 32 = .ok (.iadd, 1) := dk_96 (dk_at dksX5_lays_1 8 rfl rfl)
theorem dX5_lays_33 : decode cX5_lays 33 = .ok (.putfield 113, 3) := dk_181 0 113 (dk_at dksX5_lays_1 9 rfl rfl)
theorem dX5_lays_36 : decode cX5_lays 36 = .ok (.return_, 1) := dk_177 (dk_at dksX5_lays_1 12 rfl rfl)
abbrev cX5_opens : ByteArray := prog_20_method_43_code
def yX5_opens : MethodName := ⟨RX5, "opens", "()Z"⟩
def dkwX5_opens_1 : List UInt8 := [180, 0, 106, 4, 96, 181, 0, 106, 4, 172]
abbrev dktX5_opens_1 : List UInt8 := dkwX5_opens_1 ++ []
def dkwX5_opens_0 : List UInt8 := [42, 180, 0, 140, 8, 160, 0, 5, 3, 172, 42, 89, 180, 0, 140, 4, 96, 181, 0, 140, 42, 89]
abbrev dktX5_opens_0 : List UInt8 := dkwX5_opens_0 ++ dktX5_opens_1
theorem dksX5_opens_0 : cX5_opens.data.toList.drop 0 = dktX5_opens_0 := by decide +kernel
theorem dksX5_opens_1 : cX5_opens.data.toList.drop 22 = dktX5_opens_1 := dk_seg dksX5_opens_0 22 rfl rfl
theorem dX5_opens_0 : decode cX5_opens 0 = .ok (.aload_n 0, 1) := dk_42 (dk_at dksX5_opens_0 0 rfl rfl)
theorem dX5_opens_1 : decode cX5_opens 1 = .ok (.getfield 140, 3) := dk_180 0 140 (dk_at dksX5_opens_0 1 rfl rfl)
theorem dX5_opens_4 : decode cX5_opens 4 = .ok (.iconst 5, 1) := dk_8 (dk_at dksX5_opens_0 4 rfl rfl)
theorem dX5_opens_5 : decode cX5_opens 5 = .ok (.if_icmp .ne 5, 3) := dk_160 0 5 (dk_at dksX5_opens_0 5 rfl rfl)
theorem dX5_opens_8 : decode cX5_opens 8 = .ok (.iconst 0, 1) := dk_3 (dk_at dksX5_opens_0 8 rfl rfl)
theorem dX5_opens_9 : decode cX5_opens 9 = .ok (.ireturn, 1) := dk_172 (dk_at dksX5_opens_0 9 rfl rfl)
theorem dX5_opens_10 : decode cX5_opens 10 = .ok (.aload_n 0, 1) := dk_42 (dk_at dksX5_opens_0 10 rfl rfl)
theorem dX5_opens_11 : decode cX5_opens 11 = .ok (.dup, 1) := dk_89 (dk_at dksX5_opens_0 11 rfl rfl)
theorem dX5_opens_12 : decode cX5_opens 12 = .ok (.getfield 140, 3) := dk_180 0 140 (dk_at dksX5_opens_0 12 rfl rfl)
theorem dX5_opens_15 : decode cX5_opens 15 = .ok (.iconst 1, 1) := dk_4 (dk_at dksX5_opens_0 15 rfl rfl)
theorem dX5_opens_16 : decode cX5_opens 16 = .ok (.iadd, 1) := dk_96 (dk_at dksX5_opens_0 16 rfl rfl)
theorem dX5_opens_17 : decode cX5_opens 17 = .ok (.putfield 140, 3) := dk_181 0 140 (dk_at dksX5_opens_0 17 rfl rfl)
theorem dX5_opens_20 : decode cX5_opens 20 = .ok (.aload_n 0, 1) := dk_42 (dk_at dksX5_opens_0 20 rfl rfl)
theorem dX5_opens_21 : decode cX5_opens 21 = .ok (.dup, 1) := dk_89 (dk_at dksX5_opens_0 21 rfl rfl)
theorem dX5_opens_22 : decode cX5_opens 22 = .ok (.getfield 106, 3) := dk_180 0 106 (dk_at dksX5_opens_1 0 rfl rfl)
theorem dX5_opens_25 : decode cX5_opens 25 = .ok (.iconst 1, 1) := dk_4 (dk_at dksX5_opens_1 3 rfl rfl)
theorem dX5_opens_26 : decode cX5_opens 26 = .ok (.iadd, 1) := dk_96 (dk_at dksX5_opens_1 4 rfl rfl)
theorem dX5_opens_27 : decode cX5_opens 27 = .ok (.putfield 106, 3) := dk_181 0 106 (dk_at dksX5_opens_1 5 rfl rfl)
theorem dX5_opens_30 : decode cX5_opens 30 = .ok (.iconst 1, 1) := dk_4 (dk_at dksX5_opens_1 8 rfl rfl)
theorem dX5_opens_31 : decode cX5_opens 31 = .ok (.ireturn, 1) := dk_172 (dk_at dksX5_opens_1 9 rfl rfl)
abbrev cX5_untell : ByteArray := prog_20_method_47_code
def yX5_untell : MethodName := ⟨RX5, "untell", "(I)I"⟩
def dkwX5_untell_1 : List UInt8 := [167, 0, 4, 3, 61, 42, 180, 0, 7, 17, 0, 182, 16, 125, 27, 104, 96, 3, 79, 28, 172]
abbrev dktX5_untell_1 : List UInt8 := dkwX5_untell_1 ++ []
def dkwX5_untell_0 : List UInt8 := [27, 3, 4, 184, 0, 47, 154, 0, 9, 42, 4, 182, 0, 60, 172, 42, 27, 182, 0, 152, 153, 0, 7, 4]
abbrev dktX5_untell_0 : List UInt8 := dkwX5_untell_0 ++ dktX5_untell_1
theorem dksX5_untell_0 : cX5_untell.data.toList.drop 0 = dktX5_untell_0 := by decide +kernel
theorem dksX5_untell_1 : cX5_untell.data.toList.drop 24 = dktX5_untell_1 := dk_seg dksX5_untell_0 24 rfl rfl
theorem dX5_untell_0 : decode cX5_untell 0 = .ok (.iload_n 1, 1) := dk_27 (dk_at dksX5_untell_0 0 rfl rfl)
theorem dX5_untell_1 : decode cX5_untell 1 = .ok (.iconst 0, 1) := dk_3 (dk_at dksX5_untell_0 1 rfl rfl)
theorem dX5_untell_2 : decode cX5_untell 2 = .ok (.iconst 1, 1) := dk_4 (dk_at dksX5_untell_0 2 rfl rfl)
theorem dX5_untell_3 : decode cX5_untell 3 = .ok (.invokestatic 47, 3) := dk_184 0 47 (dk_at dksX5_untell_0 3 rfl rfl)
theorem dX5_untell_6 : decode cX5_untell 6 = .ok (.ifCond .ne 9, 3) := dk_154 0 9 (dk_at dksX5_untell_0 6 rfl rfl)
theorem dX5_untell_9 : decode cX5_untell 9 = .ok (.aload_n 0, 1) := dk_42 (dk_at dksX5_untell_0 9 rfl rfl)
theorem dX5_untell_10 : decode cX5_untell 10 = .ok (.iconst 1, 1) := dk_4 (dk_at dksX5_untell_0 10 rfl rfl)
theorem dX5_untell_11 : decode cX5_untell 11 = .ok (.invokevirtual 60, 3) := dk_182 0 60 (dk_at dksX5_untell_0 11 rfl rfl)
theorem dX5_untell_14 : decode cX5_untell 14 = .ok (.ireturn, 1) := dk_172 (dk_at dksX5_untell_0 14 rfl rfl)
theorem dX5_untell_15 : decode cX5_untell 15 = .ok (.aload_n 0, 1) := dk_42 (dk_at dksX5_untell_0 15 rfl rfl)
theorem dX5_untell_16 : decode cX5_untell 16 = .ok (.iload_n 1, 1) := dk_27 (dk_at dksX5_untell_0 16 rfl rfl)
theorem dX5_untell_17 : decode cX5_untell 17 = .ok (.invokevirtual 152, 3) := dk_182 0 152 (dk_at dksX5_untell_0 17 rfl rfl)
theorem dX5_untell_20 : decode cX5_untell 20 = .ok (.ifCond .eq 7, 3) := dk_153 0 7 (dk_at dksX5_untell_0 20 rfl rfl)
theorem dX5_untell_23 : decode cX5_untell 23 = .ok (.iconst 1, 1) := dk_4 (dk_at dksX5_untell_0 23 rfl rfl)
theorem dX5_untell_24 : decode cX5_untell 24 = .ok (.goto 4, 3) := dk_167 0 4 (dk_at dksX5_untell_1 0 rfl rfl)
theorem dX5_untell_27 : decode cX5_untell 27 = .ok (.iconst 0, 1) := dk_3 (dk_at dksX5_untell_1 3 rfl rfl)
theorem dX5_untell_28 : decode cX5_untell 28 = .ok (.istore_n 2, 1) := dk_61 (dk_at dksX5_untell_1 4 rfl rfl)
theorem dX5_untell_29 : decode cX5_untell 29 = .ok (.aload_n 0, 1) := dk_42 (dk_at dksX5_untell_1 5 rfl rfl)
theorem dX5_untell_30 : decode cX5_untell 30 = .ok (.getfield 7, 3) := dk_180 0 7 (dk_at dksX5_untell_1 6 rfl rfl)
theorem dX5_untell_33 : decode cX5_untell 33 = .ok (.sipush 182, 3) := dk_17 0 182 (dk_at dksX5_untell_1 9 rfl rfl)
theorem dX5_untell_36 : decode cX5_untell 36 = .ok (.bipush 125, 2) := dk_16 125 (dk_at dksX5_untell_1 12 rfl rfl)
theorem dX5_untell_38 : decode cX5_untell 38 = .ok (.iload_n 1, 1) := dk_27 (dk_at dksX5_untell_1 14 rfl rfl)
theorem dX5_untell_39 : decode cX5_untell 39 = .ok (.imul, 1) := dk_104 (dk_at dksX5_untell_1 15 rfl rfl)
theorem dX5_untell_40 : decode cX5_untell 40 = .ok (.iadd, 1) := dk_96 (dk_at dksX5_untell_1 16 rfl rfl)
theorem dX5_untell_41 : decode cX5_untell 41 = .ok (.iconst 0, 1) := dk_3 (dk_at dksX5_untell_1 17 rfl rfl)
theorem dX5_untell_42 : decode cX5_untell 42 = .ok (.iastore, 1) := dk_79 (dk_at dksX5_untell_1 18 rfl rfl)
theorem dX5_untell_43 : decode cX5_untell 43 = .ok (.iload_n 2, 1) := dk_28 (dk_at dksX5_untell_1 19 rfl rfl)
theorem dX5_untell_44 : decode cX5_untell 44 = .ok (.ireturn, 1) := dk_172 (dk_at dksX5_untell_1 20 rfl rfl)
abbrev cX5_hasText : ByteArray := prog_20_method_45_code
def yX5_hasText : MethodName := ⟨RX5, "hasText", "(I)Z"⟩
def dkwX5_hasText_0 : List UInt8 := [42, 180, 0, 7, 17, 0, 182, 16, 125, 27, 104, 96, 46, 158, 0, 7, 4, 167, 0, 4, 3, 172]
abbrev dktX5_hasText_0 : List UInt8 := dkwX5_hasText_0 ++ []
theorem dksX5_hasText_0 : cX5_hasText.data.toList.drop 0 = dktX5_hasText_0 := by decide +kernel
theorem dX5_hasText_0 : decode cX5_hasText 0 = .ok (.aload_n 0, 1) := dk_42 (dk_at dksX5_hasText_0 0 rfl rfl)
theorem dX5_hasText_1 : decode cX5_hasText 1 = .ok (.getfield 7, 3) := dk_180 0 7 (dk_at dksX5_hasText_0 1 rfl rfl)
theorem dX5_hasText_4 : decode cX5_hasText 4 = .ok (.sipush 182, 3) := dk_17 0 182 (dk_at dksX5_hasText_0 4 rfl rfl)
theorem dX5_hasText_7 : decode cX5_hasText 7 = .ok (.bipush 125, 2) := dk_16 125 (dk_at dksX5_hasText_0 7 rfl rfl)
theorem dX5_hasText_9 : decode cX5_hasText 9 = .ok (.iload_n 1, 1) := dk_27 (dk_at dksX5_hasText_0 9 rfl rfl)
theorem dX5_hasText_10 : decode cX5_hasText 10 = .ok (.imul, 1) := dk_104 (dk_at dksX5_hasText_0 10 rfl rfl)
theorem dX5_hasText_11 : decode cX5_hasText 11 = .ok (.iadd, 1) := dk_96 (dk_at dksX5_hasText_0 11 rfl rfl)
theorem dX5_hasText_12 : decode cX5_hasText 12 = .ok (.iaload, 1) := dk_46 (dk_at dksX5_hasText_0 12 rfl rfl)
theorem dX5_hasText_13 : decode cX5_hasText 13 = .ok (.ifCond .le 7, 3) := dk_158 0 7 (dk_at dksX5_hasText_0 13 rfl rfl)
theorem dX5_hasText_16 : decode cX5_hasText 16 = .ok (.iconst 1, 1) := dk_4 (dk_at dksX5_hasText_0 16 rfl rfl)
theorem dX5_hasText_17 : decode cX5_hasText 17 = .ok (.goto 4, 3) := dk_167 0 4 (dk_at dksX5_hasText_0 17 rfl rfl)
theorem dX5_hasText_20 : decode cX5_hasText 20 = .ok (.iconst 0, 1) := dk_3 (dk_at dksX5_hasText_0 20 rfl rfl)
theorem dX5_hasText_21 : decode cX5_hasText 21 = .ok (.ireturn, 1) := dk_172 (dk_at dksX5_hasText_0 21 rfl rfl)
abbrev cX5_named : ByteArray := prog_20_method_53_code
def yX5_named : MethodName := ⟨RX5, "named", "(I)I"⟩
def dkwX5_named_0 : List UInt8 := [42, 27, 182, 0, 92, 153, 0, 11, 42, 27, 182, 0, 174, 167, 0, 8, 42, 4, 182, 0, 60, 172]
abbrev dktX5_named_0 : List UInt8 := dkwX5_named_0 ++ []
theorem dksX5_named_0 : cX5_named.data.toList.drop 0 = dktX5_named_0 := by decide +kernel
theorem dX5_named_0 : decode cX5_named 0 = .ok (.aload_n 0, 1) := dk_42 (dk_at dksX5_named_0 0 rfl rfl)
theorem dX5_named_1 : decode cX5_named 1 = .ok (.iload_n 1, 1) := dk_27 (dk_at dksX5_named_0 1 rfl rfl)
theorem dX5_named_2 : decode cX5_named 2 = .ok (.invokevirtual 92, 3) := dk_182 0 92 (dk_at dksX5_named_0 2 rfl rfl)
theorem dX5_named_5 : decode cX5_named 5 = .ok (.ifCond .eq 11, 3) := dk_153 0 11 (dk_at dksX5_named_0 5 rfl rfl)
theorem dX5_named_8 : decode cX5_named 8 = .ok (.aload_n 0, 1) := dk_42 (dk_at dksX5_named_0 8 rfl rfl)
theorem dX5_named_9 : decode cX5_named 9 = .ok (.iload_n 1, 1) := dk_27 (dk_at dksX5_named_0 9 rfl rfl)
theorem dX5_named_10 : decode cX5_named 10 = .ok (.invokevirtual 174, 3) := dk_182 0 174 (dk_at dksX5_named_0 10 rfl rfl)
theorem dX5_named_13 : decode cX5_named 13 = .ok (.goto 8, 3) := dk_167 0 8 (dk_at dksX5_named_0 13 rfl rfl)
theorem dX5_named_16 : decode cX5_named 16 = .ok (.aload_n 0, 1) := dk_42 (dk_at dksX5_named_0 16 rfl rfl)
theorem dX5_named_17 : decode cX5_named 17 = .ok (.iconst 1, 1) := dk_4 (dk_at dksX5_named_0 17 rfl rfl)
theorem dX5_named_18 : decode cX5_named 18 = .ok (.invokevirtual 60, 3) := dk_182 0 60 (dk_at dksX5_named_0 18 rfl rfl)
theorem dX5_named_21 : decode cX5_named 21 = .ok (.ireturn, 1) := dk_172 (dk_at dksX5_named_0 21 rfl rfl)
abbrev cX5_names : ByteArray := prog_20_method_52_code
def yX5_names : MethodName := ⟨RX5, "names", "(I)I"⟩
def dkwX5_names_0 : List UInt8 := [42, 27, 182, 0, 168, 3, 17, 39, 15, 184, 0, 171, 172]
abbrev dktX5_names_0 : List UInt8 := dkwX5_names_0 ++ []
theorem dksX5_names_0 : cX5_names.data.toList.drop 0 = dktX5_names_0 := by decide +kernel
theorem dX5_names_0 : decode cX5_names 0 = .ok (.aload_n 0, 1) := dk_42 (dk_at dksX5_names_0 0 rfl rfl)
theorem dX5_names_1 : decode cX5_names 1 = .ok (.iload_n 1, 1) := dk_27 (dk_at dksX5_names_0 1 rfl rfl)
theorem dX5_names_2 : decode cX5_names 2 = .ok (.invokevirtual 168, 3) := dk_182 0 168 (dk_at dksX5_names_0 2 rfl rfl)
theorem dX5_names_5 : decode cX5_names 5 = .ok (.iconst 0, 1) := dk_3 (dk_at dksX5_names_0 5 rfl rfl)
theorem dX5_names_6 : decode cX5_names 6 = .ok (.sipush 9999, 3) := dk_17 39 15 (dk_at dksX5_names_0 6 rfl rfl)
theorem dX5_names_9 : decode cX5_names 9 = .ok (.invokestatic 171, 3) := dk_184 0 171 (dk_at dksX5_names_0 9 rfl rfl)
theorem dX5_names_12 : decode cX5_names 12 = .ok (.ireturn, 1) := dk_172 (dk_at dksX5_names_0 12 rfl rfl)
abbrev cX5_namedBy : ByteArray := prog_20_method_51_code
def yX5_namedBy : MethodName := ⟨RX5, "namedBy", "(I)I"⟩
def dkwX5_namedBy_6 : List UInt8 := [27, 182, 0, 165, 172, 42, 27, 4, 182, 0, 51, 172]
abbrev dktX5_namedBy_6 : List UInt8 := dkwX5_namedBy_6 ++ []
def dkwX5_namedBy_5 : List UInt8 := [16, 10, 46, 79, 42, 180, 0, 25, 16, 121, 42, 180, 0, 7, 6, 46, 79, 42, 3, 182, 0, 162, 172, 42]
abbrev dktX5_namedBy_5 : List UInt8 := dkwX5_namedBy_5 ++ dktX5_namedBy_6
def dkwX5_namedBy_4 : List UInt8 := [79, 42, 180, 0, 25, 16, 112, 42, 27, 4, 182, 0, 51, 79, 42, 180, 0, 25, 16, 114, 42, 180, 0, 7]
abbrev dktX5_namedBy_4 : List UInt8 := dkwX5_namedBy_4 ++ dktX5_namedBy_5
def dkwX5_namedBy_3 : List UInt8 := [154, 0, 5, 29, 172, 42, 180, 0, 25, 16, 118, 29, 79, 42, 180, 0, 25, 16, 109, 42, 27, 182, 0, 159]
abbrev dktX5_namedBy_3 : List UInt8 := dkwX5_namedBy_3 ++ dktX5_namedBy_4
def dkwX5_namedBy_2 : List UInt8 := [29, 172, 5, 29, 104, 172, 29, 5, 108, 172, 42, 27, 182, 0, 159, 4, 100, 172, 42, 3, 182, 0, 152]
abbrev dktX5_namedBy_2 : List UInt8 := dkwX5_namedBy_2 ++ dktX5_namedBy_3
def dkwX5_namedBy_1 : List UInt8 := [170, 0, 0, 0, 137, 0, 0, 0, 1, 0, 0, 0, 6, 0, 0, 0, 37, 0, 0, 0, 39, 0, 0, 0, 43, 0, 0, 0, 47, 0, 0, 0, 55, 0, 0, 0, 131]
abbrev dktX5_namedBy_1 : List UInt8 := dkwX5_namedBy_1 ++ dktX5_namedBy_2
def dkwX5_namedBy_0 : List UInt8 := [42, 27, 182, 0, 67, 61, 42, 28, 27, 182, 0, 73, 62, 42, 28, 3, 182, 0, 79]
abbrev dktX5_namedBy_0 : List UInt8 := dkwX5_namedBy_0 ++ dktX5_namedBy_1
theorem dksX5_namedBy_0 : cX5_namedBy.data.toList.drop 0 = dktX5_namedBy_0 := by decide +kernel
theorem dksX5_namedBy_1 : cX5_namedBy.data.toList.drop 19 = dktX5_namedBy_1 := dk_seg dksX5_namedBy_0 19 rfl rfl
theorem dksX5_namedBy_2 : cX5_namedBy.data.toList.drop 56 = dktX5_namedBy_2 := dk_seg dksX5_namedBy_1 37 rfl rfl
theorem dksX5_namedBy_3 : cX5_namedBy.data.toList.drop 79 = dktX5_namedBy_3 := dk_seg dksX5_namedBy_2 23 rfl rfl
theorem dksX5_namedBy_4 : cX5_namedBy.data.toList.drop 103 = dktX5_namedBy_4 := dk_seg dksX5_namedBy_3 24 rfl rfl
theorem dksX5_namedBy_5 : cX5_namedBy.data.toList.drop 127 = dktX5_namedBy_5 := dk_seg dksX5_namedBy_4 24 rfl rfl
theorem dksX5_namedBy_6 : cX5_namedBy.data.toList.drop 151 = dktX5_namedBy_6 := dk_seg dksX5_namedBy_5 24 rfl rfl
theorem dX5_namedBy_0 : decode cX5_namedBy 0 = .ok (.aload_n 0, 1) := dk_42 (dk_at dksX5_namedBy_0 0 rfl rfl)
theorem dX5_namedBy_1 : decode cX5_namedBy 1 = .ok (.iload_n 1, 1) := dk_27 (dk_at dksX5_namedBy_0 1 rfl rfl)
theorem dX5_namedBy_2 : decode cX5_namedBy 2 = .ok (.invokevirtual 67, 3) := dk_182 0 67 (dk_at dksX5_namedBy_0 2 rfl rfl)
theorem dX5_namedBy_5 : decode cX5_namedBy 5 = .ok (.istore_n 2, 1) := dk_61 (dk_at dksX5_namedBy_0 5 rfl rfl)
theorem dX5_namedBy_6 : decode cX5_namedBy 6 = .ok (.aload_n 0, 1) := dk_42 (dk_at dksX5_namedBy_0 6 rfl rfl)
theorem dX5_namedBy_7 : decode cX5_namedBy 7 = .ok (.iload_n 2, 1) := dk_28 (dk_at dksX5_namedBy_0 7 rfl rfl)
theorem dX5_namedBy_8 : decode cX5_namedBy 8 = .ok (.iload_n 1, 1) := dk_27 (dk_at dksX5_namedBy_0 8 rfl rfl)
theorem dX5_namedBy_9 : decode cX5_namedBy 9 = .ok (.invokevirtual 73, 3) := dk_182 0 73 (dk_at dksX5_namedBy_0 9 rfl rfl)
theorem dX5_namedBy_12 : decode cX5_namedBy 12 = .ok (.istore_n 3, 1) := dk_62 (dk_at dksX5_namedBy_0 12 rfl rfl)
theorem dX5_namedBy_13 : decode cX5_namedBy 13 = .ok (.aload_n 0, 1) := dk_42 (dk_at dksX5_namedBy_0 13 rfl rfl)
theorem dX5_namedBy_14 : decode cX5_namedBy 14 = .ok (.iload_n 2, 1) := dk_28 (dk_at dksX5_namedBy_0 14 rfl rfl)
theorem dX5_namedBy_15 : decode cX5_namedBy 15 = .ok (.iconst 0, 1) := dk_3 (dk_at dksX5_namedBy_0 15 rfl rfl)
theorem dX5_namedBy_16 : decode cX5_namedBy 16 = .ok (.invokevirtual 79, 3) := dk_182 0 79 (dk_at dksX5_namedBy_0 16 rfl rfl)
theorem dX5_namedBy_19 : decode cX5_namedBy 19 = .ok (.tableswitch 137 1 6 #[37, 39, 43, 47, 55, 131], 37) := by decide +kernel
theorem dX5_namedBy_56 : decode cX5_namedBy 56 = .ok (.iload_n 3, 1) := dk_29 (dk_at dksX5_namedBy_2 0 rfl rfl)
theorem dX5_namedBy_57 : decode cX5_namedBy 57 = .ok (.ireturn, 1) := dk_172 (dk_at dksX5_namedBy_2 1 rfl rfl)
theorem dX5_namedBy_58 : decode cX5_namedBy 58 = .ok (.iconst 2, 1) := dk_5 (dk_at dksX5_namedBy_2 2 rfl rfl)
theorem dX5_namedBy_59 : decode cX5_namedBy 59 = .ok (.iload_n 3, 1) := dk_29 (dk_at dksX5_namedBy_2 3 rfl rfl)
theorem dX5_namedBy_60 : decode cX5_namedBy 60 = .ok (.imul, 1) := dk_104 (dk_at dksX5_namedBy_2 4 rfl rfl)
theorem dX5_namedBy_61 : decode cX5_namedBy 61 = .ok (.ireturn, 1) := dk_172 (dk_at dksX5_namedBy_2 5 rfl rfl)
theorem dX5_namedBy_62 : decode cX5_namedBy 62 = .ok (.iload_n 3, 1) := dk_29 (dk_at dksX5_namedBy_2 6 rfl rfl)
theorem dX5_namedBy_63 : decode cX5_namedBy 63 = .ok (.iconst 2, 1) := dk_5 (dk_at dksX5_namedBy_2 7 rfl rfl)
theorem dX5_namedBy_64 : decode cX5_namedBy 64 = .ok (.idiv, 1) := dk_108 (dk_at dksX5_namedBy_2 8 rfl rfl)
theorem dX5_namedBy_65 : decode cX5_namedBy 65 = .ok (.ireturn, 1) := dk_172 (dk_at dksX5_namedBy_2 9 rfl rfl)
theorem dX5_namedBy_66 : decode cX5_namedBy 66 = .ok (.aload_n 0, 1) := dk_42 (dk_at dksX5_namedBy_2 10 rfl rfl)
theorem dX5_namedBy_67 : decode cX5_namedBy 67 = .ok (.iload_n 1, 1) := dk_27 (dk_at dksX5_namedBy_2 11 rfl rfl)
theorem dX5_namedBy_68 : decode cX5_namedBy 68 = .ok (.invokevirtual 159, 3) := dk_182 0 159 (dk_at dksX5_namedBy_2 12 rfl rfl)
theorem dX5_namedBy_71 : decode cX5_namedBy 71 = .ok (.iconst 1, 1) := dk_4 (dk_at dksX5_namedBy_2 15 rfl rfl)
theorem dX5_namedBy_72 : decode cX5_namedBy 72 = .ok (.isub, 1) := dk_100 (dk_at dksX5_namedBy_2 16 rfl rfl)
theorem dX5_namedBy_73 : decode cX5_namedBy 73 = .ok (.ireturn, 1) := dk_172 (dk_at dksX5_namedBy_2 17 rfl rfl)
theorem dX5_namedBy_74 : decode cX5_namedBy 74 = .ok (.aload_n 0, 1) := dk_42 (dk_at dksX5_namedBy_2 18 rfl rfl)
theorem dX5_namedBy_75 : decode cX5_namedBy 75 = .ok (.iconst 0, 1) := dk_3 (dk_at dksX5_namedBy_2 19 rfl rfl)
theorem dX5_namedBy_76 : decode cX5_namedBy 76 = .ok (.invokevirtual 152, 3) := dk_182 0 152 (dk_at dksX5_namedBy_2 20 rfl rfl)
theorem dX5_namedBy_79 : decode cX5_namedBy 79 = .ok (.ifCond .ne 5, 3) := dk_154 0 5 (dk_at dksX5_namedBy_3 0 rfl rfl)
theorem dX5_namedBy_82 : decode cX5_namedBy 82 = .ok (.iload_n 3, 1) := dk_29 (dk_at dksX5_namedBy_3 3 rfl rfl)
theorem dX5_namedBy_83 : decode cX5_namedBy 83 = .ok (.ireturn, 1) := dk_172 (dk_at dksX5_namedBy_3 4 rfl rfl)
theorem dX5_namedBy_84 : decode cX5_namedBy 84 = .ok (.aload_n 0, 1) := dk_42 (dk_at dksX5_namedBy_3 5 rfl rfl)
theorem dX5_namedBy_85 : decode cX5_namedBy 85 = .ok (.getfield 25, 3) := dk_180 0 25 (dk_at dksX5_namedBy_3 6 rfl rfl)
theorem dX5_namedBy_88 : decode cX5_namedBy 88 = .ok (.bipush 118, 2) := dk_16 118 (dk_at dksX5_namedBy_3 9 rfl rfl)
theorem dX5_namedBy_90 : decode cX5_namedBy 90 = .ok (.iload_n 3, 1) := dk_29 (dk_at dksX5_namedBy_3 11 rfl rfl)
theorem dX5_namedBy_91 : decode cX5_namedBy 91 = .ok (.iastore, 1) := dk_79 (dk_at dksX5_namedBy_3 12 rfl rfl)
theorem dX5_namedBy_92 : decode cX5_namedBy 92 = .ok (.aload_n 0, 1) := dk_42 (dk_at dksX5_namedBy_3 13 rfl rfl)
theorem dX5_namedBy_93 : decode cX5_namedBy 93 = .ok (.getfield 25, 3) := dk_180 0 25 (dk_at dksX5_namedBy_3 14 rfl rfl)
theorem dX5_namedBy_96 : decode cX5_namedBy 96 = .ok (.bipush 109, 2) := dk_16 109 (dk_at dksX5_namedBy_3 17 rfl rfl)
theorem dX5_namedBy_98 : decode cX5_namedBy 98 = .ok (.aload_n 0, 1) := dk_42 (dk_at dksX5_namedBy_3 19 rfl rfl)
theorem dX5_namedBy_99 : decode cX5_namedBy 99 = .ok (.iload_n 1, 1) := dk_27 (dk_at dksX5_namedBy_3 20 rfl rfl)
theorem dX5_namedBy_100 : decode cX5_namedBy 100 = .ok (.invokevirtual 159, 3) := dk_182 0 159 (dk_at dksX5_namedBy_3 21 rfl rfl)
theorem dX5_namedBy_103 : decode cX5_namedBy 103 = .ok (.iastore, 1) := dk_79 (dk_at dksX5_namedBy_4 0 rfl rfl)
theorem dX5_namedBy_104 : decode cX5_namedBy 104 = .ok (.aload_n 0, 1) := dk_42 (dk_at dksX5_namedBy_4 1 rfl rfl)
theorem dX5_namedBy_105 : decode cX5_namedBy 105 = .ok (.getfield 25, 3) := dk_180 0 25 (dk_at dksX5_namedBy_4 2 rfl rfl)
theorem dX5_namedBy_108 : decode cX5_namedBy 108 = .ok (.bipush 112, 2) := dk_16 112 (dk_at dksX5_namedBy_4 5 rfl rfl)
theorem dX5_namedBy_110 : decode cX5_namedBy 110 = .ok (.aload_n 0, 1) := dk_42 (dk_at dksX5_namedBy_4 7 rfl rfl)
theorem dX5_namedBy_111 : decode cX5_namedBy 111 = .ok (.iload_n 1, 1) := dk_27 (dk_at dksX5_namedBy_4 8 rfl rfl)
theorem dX5_namedBy_112 : decode cX5_namedBy 112 = .ok (.iconst 1, 1) := dk_4 (dk_at dksX5_namedBy_4 9 rfl rfl)
theorem dX5_namedBy_113 : decode cX5_namedBy 113 = .ok (.invokevirtual 51, 3) := dk_182 0 51 (dk_at dksX5_namedBy_4 10 rfl rfl)
theorem dX5_namedBy_116 : decode cX5_namedBy 116 = .ok (.iastore, 1) := dk_79 (dk_at dksX5_namedBy_4 13 rfl rfl)
theorem dX5_namedBy_117 : decode cX5_namedBy 117 = .ok (.aload_n 0, 1) := dk_42 (dk_at dksX5_namedBy_4 14 rfl rfl)
theorem dX5_namedBy_118 : decode cX5_namedBy 118 = .ok (.getfield 25, 3) := dk_180 0 25 (dk_at dksX5_namedBy_4 15 rfl rfl)
theorem dX5_namedBy_121 : decode cX5_namedBy 121 = .ok (.bipush 114, 2) := dk_16 114 (dk_at dksX5_namedBy_4 18 rfl rfl)
theorem dX5_namedBy_123 : decode cX5_namedBy 123 = .ok (.aload_n 0, 1) := dk_42 (dk_at dksX5_namedBy_4 20 rfl rfl)
theorem dX5_namedBy_124 : decode cX5_namedBy 124 = .ok (.getfield 7, 3) := dk_180 0 7 (dk_at dksX5_namedBy_4 21 rfl rfl)
theorem dX5_namedBy_127 : decode cX5_namedBy 127 = .ok (.bipush 10, 2) := dk_16 10 (dk_at dksX5_namedBy_5 0 rfl rfl)
theorem dX5_namedBy_129 : decode cX5_namedBy 129 = .ok (.iaload, 1) := dk_46 (dk_at dksX5_namedBy_5 2 rfl rfl)
theorem dX5_namedBy_130 : decode cX5_namedBy 130 = .ok (.iastore, 1) := dk_79 (dk_at dksX5_namedBy_5 3 rfl rfl)
theorem dX5_namedBy_131 : decode cX5_namedBy 131 = .ok (.aload_n 0, 1) := dk_42 (dk_at dksX5_namedBy_5 4 rfl rfl)
theorem dX5_namedBy_132 : decode cX5_namedBy 132 = .ok (.getfield 25, 3) := dk_180 0 25 (dk_at dksX5_namedBy_5 5 rfl rfl)
theorem dX5_namedBy_135 : decode cX5_namedBy 135 = .ok (.bipush 121, 2) := dk_16 121 (dk_at dksX5_namedBy_5 8 rfl rfl)
theorem dX5_namedBy_137 : decode cX5_namedBy 137 = .ok (.aload_n 0, 1) := dk_42 (dk_at dksX5_namedBy_5 10 rfl rfl)
theorem dX5_namedBy_138 : decode cX5_namedBy 138 = .ok (.getfield 7, 3) := dk_180 0 7 (dk_at dksX5_namedBy_5 11 rfl rfl)
theorem dX5_namedBy_141 : decode cX5_namedBy 141 = .ok (.iconst 3, 1) := dk_6 (dk_at dksX5_namedBy_5 14 rfl rfl)
theorem dX5_namedBy_142 : decode cX5_namedBy 142 = .ok (.iaload, 1) := dk_46 (dk_at dksX5_namedBy_5 15 rfl rfl)
theorem dX5_namedBy_143 : decode cX5_namedBy 143 = .ok (.iastore, 1) := dk_79 (dk_at dksX5_namedBy_5 16 rfl rfl)
theorem dX5_namedBy_144 : decode cX5_namedBy 144 = .ok (.aload_n 0, 1) := dk_42 (dk_at dksX5_namedBy_5 17 rfl rfl)
theorem dX5_namedBy_145 : decode cX5_namedBy 145 = .ok (.iconst 0, 1) := dk_3 (dk_at dksX5_namedBy_5 18 rfl rfl)
theorem dX5_namedBy_146 : decode cX5_namedBy 146 = .ok (.invokevirtual 162, 3) := dk_182 0 162 (dk_at dksX5_namedBy_5 19 rfl rfl)
theorem dX5_namedBy_149 : decode cX5_namedBy 149 = .ok (.ireturn, 1) := dk_172 (dk_at dksX5_namedBy_5 22 rfl rfl)
theorem dX5_namedBy_150 : decode cX5_namedBy 150 = .ok (.aload_n 0, 1) := dk_42 (dk_at dksX5_namedBy_5 23 rfl rfl)
theorem dX5_namedBy_151 : decode cX5_namedBy 151 = .ok (.iload_n 1, 1) := dk_27 (dk_at dksX5_namedBy_6 0 rfl rfl)
theorem dX5_namedBy_152 : decode cX5_namedBy 152 = .ok (.invokevirtual 165, 3) := dk_182 0 165 (dk_at dksX5_namedBy_6 1 rfl rfl)
theorem dX5_namedBy_155 : decode cX5_namedBy 155 = .ok (.ireturn, 1) := dk_172 (dk_at dksX5_namedBy_6 4 rfl rfl)
theorem dX5_namedBy_156 : decode cX5_namedBy 156 = .ok (.aload_n 0, 1) := dk_42 (dk_at dksX5_namedBy_6 5 rfl rfl)
theorem dX5_namedBy_157 : decode cX5_namedBy 157 = .ok (.iload_n 1, 1) := dk_27 (dk_at dksX5_namedBy_6 6 rfl rfl)
theorem dX5_namedBy_158 : decode cX5_namedBy 158 = .ok (.iconst 1, 1) := dk_4 (dk_at dksX5_namedBy_6 7 rfl rfl)
theorem dX5_namedBy_159 : decode cX5_namedBy 159 = .ok (.invokevirtual 51, 3) := dk_182 0 51 (dk_at dksX5_namedBy_6 8 rfl rfl)
theorem dX5_namedBy_162 : decode cX5_namedBy 162 = .ok (.ireturn, 1) := dk_172 (dk_at dksX5_namedBy_6 11 rfl rfl)
abbrev cX5_greatestElse : ByteArray := prog_20_method_50_code
def yX5_greatestElse : MethodName := ⟨RX5, "greatestElse", "(I)I"⟩
def dkwX5_greatestElse_2 : List UInt8 := [167, 255, 213, 28, 172]
abbrev dktX5_greatestElse_2 : List UInt8 := dkwX5_greatestElse_2 ++ []
def dkwX5_greatestElse_1 : List UInt8 := [27, 182, 0, 67, 159, 0, 14, 21, 4, 28, 164, 0, 8, 21, 4, 167, 0, 4, 28, 61, 132, 3, 1]
abbrev dktX5_greatestElse_1 : List UInt8 := dkwX5_greatestElse_1 ++ dktX5_greatestElse_2
def dkwX5_greatestElse_0 : List UInt8 := [3, 61, 3, 62, 29, 42, 180, 0, 7, 3, 46, 162, 0, 39, 42, 29, 27, 182, 0, 73, 54, 4, 29, 42]
abbrev dktX5_greatestElse_0 : List UInt8 := dkwX5_greatestElse_0 ++ dktX5_greatestElse_1
theorem dksX5_greatestElse_0 : cX5_greatestElse.data.toList.drop 0 = dktX5_greatestElse_0 := by decide +kernel
theorem dksX5_greatestElse_1 : cX5_greatestElse.data.toList.drop 24 = dktX5_greatestElse_1 := dk_seg dksX5_greatestElse_0 24 rfl rfl
theorem dksX5_greatestElse_2 : cX5_greatestElse.data.toList.drop 47 = dktX5_greatestElse_2 := dk_seg dksX5_greatestElse_1 23 rfl rfl
theorem dX5_greatestElse_0 : decode cX5_greatestElse 0 = .ok (.iconst 0, 1) := dk_3 (dk_at dksX5_greatestElse_0 0 rfl rfl)
theorem dX5_greatestElse_1 : decode cX5_greatestElse 1 = .ok (.istore_n 2, 1) := dk_61 (dk_at dksX5_greatestElse_0 1 rfl rfl)
theorem dX5_greatestElse_2 : decode cX5_greatestElse 2 = .ok (.iconst 0, 1) := dk_3 (dk_at dksX5_greatestElse_0 2 rfl rfl)
theorem dX5_greatestElse_3 : decode cX5_greatestElse 3 = .ok (.istore_n 3, 1) := dk_62 (dk_at dksX5_greatestElse_0 3 rfl rfl)
theorem dX5_greatestElse_4 : decode cX5_greatestElse 4 = .ok (.iload_n 3, 1) := dk_29 (dk_at dksX5_greatestElse_0 4 rfl rfl)
theorem dX5_greatestElse_5 : decode cX5_greatestElse 5 = .ok (.aload_n 0, 1) := dk_42 (dk_at dksX5_greatestElse_0 5 rfl rfl)
theorem dX5_greatestElse_6 : decode cX5_greatestElse 6 = .ok (.getfield 7, 3) := dk_180 0 7 (dk_at dksX5_greatestElse_0 6 rfl rfl)
theorem dX5_greatestElse_9 : decode cX5_greatestElse 9 = .ok (.iconst 0, 1) := dk_3 (dk_at dksX5_greatestElse_0 9 rfl rfl)
theorem dX5_greatestElse_10 : decode cX5_greatestElse 10 = .ok (.iaload, 1) := dk_46 (dk_at dksX5_greatestElse_0 10 rfl rfl)
theorem dX5_greatestElse_11 : decode cX5_greatestElse 11 = .ok (.if_icmp .ge 39, 3) := dk_162 0 39 (dk_at dksX5_greatestElse_0 11 rfl rfl)
theorem dX5_greatestElse_14 : decode cX5_greatestElse 14 = .ok (.aload_n 0, 1) := dk_42 (dk_at dksX5_greatestElse_0 14 rfl rfl)
theorem dX5_greatestElse_15 : decode cX5_greatestElse 15 = .ok (.iload_n 3, 1) := dk_29 (dk_at dksX5_greatestElse_0 15 rfl rfl)
theorem dX5_greatestElse_16 : decode cX5_greatestElse 16 = .ok (.iload_n 1, 1) := dk_27 (dk_at dksX5_greatestElse_0 16 rfl rfl)
theorem dX5_greatestElse_17 : decode cX5_greatestElse 17 = .ok (.invokevirtual 73, 3) := dk_182 0 73 (dk_at dksX5_greatestElse_0 17 rfl rfl)
theorem dX5_greatestElse_20 : decode cX5_greatestElse 20 = .ok (.istore 4, 2) := dk_54 4 (dk_at dksX5_greatestElse_0 20 rfl rfl)
theorem dX5_greatestElse_22 : decode cX5_greatestElse 22 = .ok (.iload_n 3, 1) := dk_29 (dk_at dksX5_greatestElse_0 22 rfl rfl)
theorem dX5_greatestElse_23 : decode cX5_greatestElse 23 = .ok (.aload_n 0, 1) := dk_42 (dk_at dksX5_greatestElse_0 23 rfl rfl)
theorem dX5_greatestElse_24 : decode cX5_greatestElse 24 = .ok (.iload_n 1, 1) := dk_27 (dk_at dksX5_greatestElse_1 0 rfl rfl)
theorem dX5_greatestElse_25 : decode cX5_greatestElse 25 = .ok (.invokevirtual 67, 3) := dk_182 0 67 (dk_at dksX5_greatestElse_1 1 rfl rfl)
theorem dX5_greatestElse_28 : decode cX5_greatestElse 28 = .ok (.if_icmp .eq 14, 3) := dk_159 0 14 (dk_at dksX5_greatestElse_1 4 rfl rfl)
theorem dX5_greatestElse_31 : decode cX5_greatestElse 31 = .ok (.iload 4, 2) := dk_21 4 (dk_at dksX5_greatestElse_1 7 rfl rfl)
theorem dX5_greatestElse_33 : decode cX5_greatestElse 33 = .ok (.iload_n 2, 1) := dk_28 (dk_at dksX5_greatestElse_1 9 rfl rfl)
theorem dX5_greatestElse_34 : decode cX5_greatestElse 34 = .ok (.if_icmp .le 8, 3) := dk_164 0 8 (dk_at dksX5_greatestElse_1 10 rfl rfl)
theorem dX5_greatestElse_37 : decode cX5_greatestElse 37 = .ok (.iload 4, 2) := dk_21 4 (dk_at dksX5_greatestElse_1 13 rfl rfl)
theorem dX5_greatestElse_39 : decode cX5_greatestElse 39 = .ok (.goto 4, 3) := dk_167 0 4 (dk_at dksX5_greatestElse_1 15 rfl rfl)
theorem dX5_greatestElse_42 : decode cX5_greatestElse 42 = .ok (.iload_n 2, 1) := dk_28 (dk_at dksX5_greatestElse_1 18 rfl rfl)
theorem dX5_greatestElse_43 : decode cX5_greatestElse 43 = .ok (.istore_n 2, 1) := dk_61 (dk_at dksX5_greatestElse_1 19 rfl rfl)
theorem dX5_greatestElse_44 : decode cX5_greatestElse 44 = .ok (.iinc 3 1, 3) := dk_132 3 1 (dk_at dksX5_greatestElse_1 20 rfl rfl)
theorem dX5_greatestElse_47 : decode cX5_greatestElse 47 = .ok (.goto (-43), 3) := dk_167 255 213 (dk_at dksX5_greatestElse_2 0 rfl rfl)
theorem dX5_greatestElse_50 : decode cX5_greatestElse 50 = .ok (.iload_n 2, 1) := dk_28 (dk_at dksX5_greatestElse_2 3 rfl rfl)
theorem dX5_greatestElse_51 : decode cX5_greatestElse 51 = .ok (.ireturn, 1) := dk_172 (dk_at dksX5_greatestElse_2 4 rfl rfl)
abbrev cX5_worked : ByteArray := prog_20_method_49_code
def yX5_worked : MethodName := ⟨RX5, "worked", "(I)I"⟩
def dkwX5_worked_7 : List UInt8 := [42, 180, 0, 28, 3, 46, 172]
abbrev dktX5_worked_7 : List UInt8 := dkwX5_worked_7 ++ []
def dkwX5_worked_6 : List UInt8 := [42, 180, 0, 28, 29, 4, 100, 46, 42, 180, 0, 28, 29, 46, 184, 0, 155, 79, 132, 4, 1, 167, 255, 109]
abbrev dktX5_worked_6 : List UInt8 := dkwX5_worked_6 ++ dktX5_worked_7
def dkwX5_worked_5 : List UInt8 := [154, 0, 7, 4, 167, 0, 4, 3, 79, 167, 0, 33, 132, 3, 255, 42, 180, 0, 28, 29, 4, 100, 21, 6]
abbrev dktX5_worked_5 : List UInt8 := dkwX5_worked_5 ++ dktX5_worked_6
def dkwX5_worked_4 : List UInt8 := [167, 0, 66, 21, 5, 5, 160, 0, 30, 42, 180, 0, 28, 29, 4, 100, 42, 180, 0, 28, 29, 4, 100, 46]
abbrev dktX5_worked_4 : List UInt8 := dkwX5_worked_4 ++ dktX5_worked_5
def dkwX5_worked_3 : List UInt8 := [29, 21, 5, 154, 0, 8, 21, 6, 167, 0, 10, 42, 180, 0, 25, 21, 6, 46, 79, 132, 3, 1]
abbrev dktX5_worked_3 : List UInt8 := dkwX5_worked_3 ++ dktX5_worked_4
def dkwX5_worked_2 : List UInt8 := [96, 5, 21, 4, 104, 96, 46, 54, 6, 21, 5, 153, 0, 9, 21, 5, 4, 160, 0, 32, 42, 180, 0, 28]
abbrev dktX5_worked_2 : List UInt8 := dkwX5_worked_2 ++ dktX5_worked_3
def dkwX5_worked_1 : List UInt8 := [162, 0, 142, 42, 180, 0, 7, 28, 4, 96, 5, 21, 4, 104, 96, 46, 54, 5, 42, 180, 0, 7, 28, 5]
abbrev dktX5_worked_1 : List UInt8 := dkwX5_worked_1 ++ dktX5_worked_2
def dkwX5_worked_0 : List UInt8 := [17, 0, 182, 16, 125, 27, 104, 96, 61, 3, 62, 3, 54, 4, 21, 4, 42, 180, 0, 7, 28, 46]
abbrev dktX5_worked_0 : List UInt8 := dkwX5_worked_0 ++ dktX5_worked_1
theorem dksX5_worked_0 : cX5_worked.data.toList.drop 0 = dktX5_worked_0 := by decide +kernel
theorem dksX5_worked_1 : cX5_worked.data.toList.drop 22 = dktX5_worked_1 := dk_seg dksX5_worked_0 22 rfl rfl
theorem dksX5_worked_2 : cX5_worked.data.toList.drop 46 = dktX5_worked_2 := dk_seg dksX5_worked_1 24 rfl rfl
theorem dksX5_worked_3 : cX5_worked.data.toList.drop 70 = dktX5_worked_3 := dk_seg dksX5_worked_2 24 rfl rfl
theorem dksX5_worked_4 : cX5_worked.data.toList.drop 92 = dktX5_worked_4 := dk_seg dksX5_worked_3 22 rfl rfl
theorem dksX5_worked_5 : cX5_worked.data.toList.drop 116 = dktX5_worked_5 := dk_seg dksX5_worked_4 24 rfl rfl
theorem dksX5_worked_6 : cX5_worked.data.toList.drop 140 = dktX5_worked_6 := dk_seg dksX5_worked_5 24 rfl rfl
theorem dksX5_worked_7 : cX5_worked.data.toList.drop 164 = dktX5_worked_7 := dk_seg dksX5_worked_6 24 rfl rfl
theorem dX5_worked_0 : decode cX5_worked 0 = .ok (.sipush 182, 3) := dk_17 0 182 (dk_at dksX5_worked_0 0 rfl rfl)
theorem dX5_worked_3 : decode cX5_worked 3 = .ok (.bipush 125, 2) := dk_16 125 (dk_at dksX5_worked_0 3 rfl rfl)
theorem dX5_worked_5 : decode cX5_worked 5 = .ok (.iload_n 1, 1) := dk_27 (dk_at dksX5_worked_0 5 rfl rfl)
theorem dX5_worked_6 : decode cX5_worked 6 = .ok (.imul, 1) := dk_104 (dk_at dksX5_worked_0 6 rfl rfl)
theorem dX5_worked_7 : decode cX5_worked 7 = .ok (.iadd, 1) := dk_96 (dk_at dksX5_worked_0 7 rfl rfl)
theorem dX5_worked_8 : decode cX5_worked 8 = .ok (.istore_n 2, 1) := dk_61 (dk_at dksX5_worked_0 8 rfl rfl)
theorem dX5_worked_9 : decode cX5_worked 9 = .ok (.iconst 0, 1) := dk_3 (dk_at dksX5_worked_0 9 rfl rfl)
theorem dX5_worked_10 : decode cX5_worked 10 = .ok (.istore_n 3, 1) := dk_62 (dk_at dksX5_worked_0 10 rfl rfl)
theorem dX5_worked_11 : decode cX5_worked 11 = .ok (.iconst 0, 1) := dk_3 (dk_at dksX5_worked_0 11 rfl rfl)
theorem dX5_worked_12 : decode cX5_worked 12 = .ok (.istore 4, 2) := dk_54 4 (dk_at dksX5_worked_0 12 rfl rfl)
theorem dX5_worked_14 : decode cX5_worked 14 = .ok (.iload 4, 2) := dk_21 4 (dk_at dksX5_worked_0 14 rfl rfl)
theorem dX5_worked_16 : decode cX5_worked 16 = .ok (.aload_n 0, 1) := dk_42 (dk_at dksX5_worked_0 16 rfl rfl)
theorem dX5_worked_17 : decode cX5_worked 17 = .ok (.getfield 7, 3) := dk_180 0 7 (dk_at dksX5_worked_0 17 rfl rfl)
theorem dX5_worked_20 : decode cX5_worked 20 = .ok (.iload_n 2, 1) := dk_28 (dk_at dksX5_worked_0 20 rfl rfl)
theorem dX5_worked_21 : decode cX5_worked 21 = .ok (.iaload, 1) := dk_46 (dk_at dksX5_worked_0 21 rfl rfl)
theorem dX5_worked_22 : decode cX5_worked 22 = .ok (.if_icmp .ge 142, 3) := dk_162 0 142 (dk_at dksX5_worked_1 0 rfl rfl)
theorem dX5_worked_25 : decode cX5_worked 25 = .ok (.aload_n 0, 1) := dk_42 (dk_at dksX5_worked_1 3 rfl rfl)
theorem dX5_worked_26 : decode cX5_worked 26 = .ok (.getfield 7, 3) := dk_180 0 7 (dk_at dksX5_worked_1 4 rfl rfl)
theorem dX5_worked_29 : decode cX5_worked 29 = .ok (.iload_n 2, 1) := dk_28 (dk_at dksX5_worked_1 7 rfl rfl)
theorem dX5_worked_30 : decode cX5_worked 30 = .ok (.iconst 1, 1) := dk_4 (dk_at dksX5_worked_1 8 rfl rfl)
theorem dX5_worked_31 : decode cX5_worked 31 = .ok (.iadd, 1) := dk_96 (dk_at dksX5_worked_1 9 rfl rfl)
theorem dX5_worked_32 : decode cX5_worked 32 = .ok (.iconst 2, 1) := dk_5 (dk_at dksX5_worked_1 10 rfl rfl)
theorem dX5_worked_33 : decode cX5_worked 33 = .ok (.iload 4, 2) := dk_21 4 (dk_at dksX5_worked_1 11 rfl rfl)
theorem dX5_worked_35 : decode cX5_worked 35 = .ok (.imul, 1) := dk_104 (dk_at dksX5_worked_1 13 rfl rfl)
theorem dX5_worked_36 : decode cX5_worked 36 = .ok (.iadd, 1) := dk_96 (dk_at dksX5_worked_1 14 rfl rfl)
theorem dX5_worked_37 : decode cX5_worked 37 = .ok (.iaload, 1) := dk_46 (dk_at dksX5_worked_1 15 rfl rfl)
theorem dX5_worked_38 : decode cX5_worked 38 = .ok (.istore 5, 2) := dk_54 5 (dk_at dksX5_worked_1 16 rfl rfl)
theorem dX5_worked_40 : decode cX5_worked 40 = .ok (.aload_n 0, 1) := dk_42 (dk_at dksX5_worked_1 18 rfl rfl)
theorem dX5_worked_41 : decode cX5_worked 41 = .ok (.getfield 7, 3) := dk_180 0 7 (dk_at dksX5_worked_1 19 rfl rfl)
theorem dX5_worked_44 : decode cX5_worked 44 = .ok (.iload_n 2, 1) := dk_28 (dk_at dksX5_worked_1 22 rfl rfl)
theorem dX5_worked_45 : decode cX5_worked 45 = .ok (.iconst 2, 1) := dk_5 (dk_at dksX5_worked_1 23 rfl rfl)
theorem dX5_worked_46 : decode cX5_worked 46 = .ok (.iadd, 1) := dk_96 (dk_at dksX5_worked_2 0 rfl rfl)
theorem dX5_worked_47 : decode cX5_worked 47 = .ok (.iconst 2, 1) := dk_5 (dk_at dksX5_worked_2 1 rfl rfl)
theorem dX5_worked_48 : decode cX5_worked 48 = .ok (.iload 4, 2) := dk_21 4 (dk_at dksX5_worked_2 2 rfl rfl)
theorem dX5_worked_50 : decode cX5_worked 50 = .ok (.imul, 1) := dk_104 (dk_at dksX5_worked_2 4 rfl rfl)
theorem dX5_worked_51 : decode cX5_worked 51 = .ok (.iadd, 1) := dk_96 (dk_at dksX5_worked_2 5 rfl rfl)
theorem dX5_worked_52 : decode cX5_worked 52 = .ok (.iaload, 1) := dk_46 (dk_at dksX5_worked_2 6 rfl rfl)
theorem dX5_worked_53 : decode cX5_worked 53 = .ok (.istore 6, 2) := dk_54 6 (dk_at dksX5_worked_2 7 rfl rfl)
theorem dX5_worked_55 : decode cX5_worked 55 = .ok (.iload 5, 2) := dk_21 5 (dk_at dksX5_worked_2 9 rfl rfl)
theorem dX5_worked_57 : decode cX5_worked 57 = .ok (.ifCond .eq 9, 3) := dk_153 0 9 (dk_at dksX5_worked_2 11 rfl rfl)
theorem dX5_worked_60 : decode cX5_worked 60 = .ok (.iload 5, 2) := dk_21 5 (dk_at dksX5_worked_2 14 rfl rfl)
theorem dX5_worked_62 : decode cX5_worked 62 = .ok (.iconst 1, 1) := dk_4 (dk_at dksX5_worked_2 16 rfl rfl)
theorem dX5_worked_63 : decode cX5_worked 63 = .ok (.if_icmp .ne 32, 3) := dk_160 0 32 (dk_at dksX5_worked_2 17 rfl rfl)
theorem dX5_worked_66 : decode cX5_worked 66 = .ok (.aload_n 0, 1) := dk_42 (dk_at dksX5_worked_2 20 rfl rfl)
theorem dX5_worked_67 : decode cX5_worked 67 = .ok (.getfield 28, 3) := dk_180 0 28 (dk_at dksX5_worked_2 21 rfl rfl)
theorem dX5_worked_70 : decode cX5_worked 70 = .ok (.iload_n 3, 1) := dk_29 (dk_at dksX5_worked_3 0 rfl rfl)
theorem dX5_worked_71 : decode cX5_worked 71 = .ok (.iload 5, 2) := dk_21 5 (dk_at dksX5_worked_3 1 rfl rfl)
theorem dX5_worked_73 : decode cX5_worked 73 = .ok (.ifCond .ne 8, 3) := dk_154 0 8 (dk_at dksX5_worked_3 3 rfl rfl)
theorem dX5_worked_76 : decode cX5_worked 76 = .ok (.iload 6, 2) := dk_21 6 (dk_at dksX5_worked_3 6 rfl rfl)
theorem dX5_worked_78 : decode cX5_worked 78 = .ok (.goto 10, 3) := dk_167 0 10 (dk_at dksX5_worked_3 8 rfl rfl)
theorem dX5_worked_81 : decode cX5_worked 81 = .ok (.aload_n 0, 1) := dk_42 (dk_at dksX5_worked_3 11 rfl rfl)
theorem dX5_worked_82 : decode cX5_worked 82 = .ok (.getfield 25, 3) := dk_180 0 25 (dk_at dksX5_worked_3 12 rfl rfl)
theorem dX5_worked_85 : decode cX5_worked 85 = .ok (.iload 6, 2) := dk_21 6 (dk_at dksX5_worked_3 15 rfl rfl)
theorem dX5_worked_87 : decode cX5_worked 87 = .ok (.iaload, 1) := dk_46 (dk_at dksX5_worked_3 17 rfl rfl)
theorem dX5_worked_88 : decode cX5_worked 88 = .ok (.iastore, 1) := dk_79 (dk_at dksX5_worked_3 18 rfl rfl)
theorem dX5_worked_89 : decode cX5_worked 89 = .ok (.iinc 3 1, 3) := dk_132 3 1 (dk_at dksX5_worked_3 19 rfl rfl)
theorem dX5_worked_92 : decode cX5_worked 92 = .ok (.goto 66, 3) := dk_167 0 66 (dk_at dksX5_worked_4 0 rfl rfl)
theorem dX5_worked_95 : decode cX5_worked 95 = .ok (.iload 5, 2) := dk_21 5 (dk_at dksX5_worked_4 3 rfl rfl)
theorem dX5_worked_97 : decode cX5_worked 97 = .ok (.iconst 2, 1) := dk_5 (dk_at dksX5_worked_4 5 rfl rfl)
theorem dX5_worked_98 : decode cX5_worked 98 = .ok (.if_icmp .ne 30, 3) := dk_160 0 30 (dk_at dksX5_worked_4 6 rfl rfl)
theorem dX5_worked_101 : decode cX5_worked 101 = .ok (.aload_n 0, 1) := dk_42 (dk_at dksX5_worked_4 9 rfl rfl)
theorem dX5_worked_102 : decode cX5_worked 102 = .ok (.getfield 28, 3) := dk_180 0 28 (dk_at dksX5_worked_4 10 rfl rfl)
theorem dX5_worked_105 : decode cX5_worked 105 = .ok (.iload_n 3, 1) := dk_29 (dk_at dksX5_worked_4 13 rfl rfl)
theorem dX5_worked_106 : decode cX5_worked 106 = .ok (.iconst 1, 1) := dk_4 (dk_at dksX5_worked_4 14 rfl rfl)
theorem dX5_worked_107 : decode cX5_worked 107 = .ok (.isub, 1) := dk_100 (dk_at dksX5_worked_4 15 rfl rfl)
theorem dX5_worked_108 : decode cX5_worked 108 = .ok (.aload_n 0, 1) := dk_42 (dk_at dksX5_worked_4 16 rfl rfl)
theorem dX5_worked_109 : decode cX5_worked 109 = .ok (.getfield 28, 3) := dk_180 0 28 (dk_at dksX5_worked_4 17 rfl rfl)
theorem dX5_worked_112 : decode cX5_worked 112 = .ok (.iload_n 3, 1) := dk_29 (dk_at dksX5_worked_4 20 rfl rfl)
theorem dX5_worked_113 : decode cX5_worked 113 = .ok (.iconst 1, 1) := dk_4 (dk_at dksX5_worked_4 21 rfl rfl)
theorem dX5_worked_114 : decode cX5_worked 114 = .ok (.isub, 1) := dk_100 (dk_at dksX5_worked_4 22 rfl rfl)
theorem dX5_worked_115 : decode cX5_worked 115 = .ok (.iaload, 1) := dk_46 (dk_at dksX5_worked_4 23 rfl rfl)
theorem dX5_worked_116 : decode cX5_worked 116 = .ok (.ifCond .ne 7, 3) := dk_154 0 7 (dk_at dksX5_worked_5 0 rfl rfl)
theorem dX5_worked_119 : decode cX5_worked 119 = .ok (.iconst 1, 1) := dk_4 (dk_at dksX5_worked_5 3 rfl rfl)
theorem dX5_worked_120 : decode cX5_worked 120 = .ok (.goto 4, 3) := dk_167 0 4 (dk_at dksX5_worked_5 4 rfl rfl)
theorem dX5_worked_123 : decode cX5_worked 123 = .ok (.iconst 0, 1) := dk_3 (dk_at dksX5_worked_5 7 rfl rfl)
theorem dX5_worked_124 : decode cX5_worked 124 = .ok (.iastore, 1) := dk_79 (dk_at dksX5_worked_5 8 rfl rfl)
theorem dX5_worked_125 : decode cX5_worked 125 = .ok (.goto 33, 3) := dk_167 0 33 (dk_at dksX5_worked_5 9 rfl rfl)
theorem dX5_worked_128 : decode cX5_worked 128 = .ok (.iinc 3 (-1), 3) := dk_132 3 255 (dk_at dksX5_worked_5 12 rfl rfl)
theorem dX5_worked_131 : decode cX5_worked 131 = .ok (.aload_n 0, 1) := dk_42 (dk_at dksX5_worked_5 15 rfl rfl)
theorem dX5_worked_132 : decode cX5_worked 132 = .ok (.getfield 28, 3) := dk_180 0 28 (dk_at dksX5_worked_5 16 rfl rfl)
theorem dX5_worked_135 : decode cX5_worked 135 = .ok (.iload_n 3, 1) := dk_29 (dk_at dksX5_worked_5 19 rfl rfl)
theorem dX5_worked_136 : decode cX5_worked 136 = .ok (.iconst 1, 1) := dk_4 (dk_at dksX5_worked_5 20 rfl rfl)
theorem dX5_worked_137 : decode cX5_worked 137 = .ok (.isub, 1) := dk_100 (dk_at dksX5_worked_5 21 rfl rfl)
theorem dX5_worked_138 : decode cX5_worked 138 = .ok (.iload 6, 2) := dk_21 6 (dk_at dksX5_worked_5 22 rfl rfl)
theorem dX5_worked_140 : decode cX5_worked 140 = .ok (.aload_n 0, 1) := dk_42 (dk_at dksX5_worked_6 0 rfl rfl)
theorem dX5_worked_141 : decode cX5_worked 141 = .ok (.getfield 28, 3) := dk_180 0 28 (dk_at dksX5_worked_6 1 rfl rfl)
theorem dX5_worked_144 : decode cX5_worked 144 = .ok (.iload_n 3, 1) := dk_29 (dk_at dksX5_worked_6 4 rfl rfl)
theorem dX5_worked_145 : decode cX5_worked 145 = .ok (.iconst 1, 1) := dk_4 (dk_at dksX5_worked_6 5 rfl rfl)
theorem dX5_worked_146 : decode cX5_worked 146 = .ok (.isub, 1) := dk_100 (dk_at dksX5_worked_6 6 rfl rfl)
theorem dX5_worked_147 : decode cX5_worked 147 = .ok (.iaload, 1) := dk_46 (dk_at dksX5_worked_6 7 rfl rfl)
theorem dX5_worked_148 : decode cX5_worked 148 = .ok (.aload_n 0, 1) := dk_42 (dk_at dksX5_worked_6 8 rfl rfl)
theorem dX5_worked_149 : decode cX5_worked 149 = .ok (.getfield 28, 3) := dk_180 0 28 (dk_at dksX5_worked_6 9 rfl rfl)
theorem dX5_worked_152 : decode cX5_worked 152 = .ok (.iload_n 3, 1) := dk_29 (dk_at dksX5_worked_6 12 rfl rfl)
theorem dX5_worked_153 : decode cX5_worked 153 = .ok (.iaload, 1) := dk_46 (dk_at dksX5_worked_6 13 rfl rfl)
theorem dX5_worked_154 : decode cX5_worked 154 = .ok (.invokestatic 155, 3) := dk_184 0 155 (dk_at dksX5_worked_6 14 rfl rfl)
theorem dX5_worked_157 : decode cX5_worked 157 = .ok (.iastore, 1) := dk_79 (dk_at dksX5_worked_6 17 rfl rfl)
theorem dX5_worked_158 : decode cX5_worked 158 = .ok (.iinc 4 1, 3) := dk_132 4 1 (dk_at dksX5_worked_6 18 rfl rfl)
theorem dX5_worked_161 : decode cX5_worked 161 = .ok (.goto (-147), 3) := dk_167 255 109 (dk_at dksX5_worked_6 21 rfl rfl)
theorem dX5_worked_164 : decode cX5_worked 164 = .ok (.aload_n 0, 1) := dk_42 (dk_at dksX5_worked_7 0 rfl rfl)
theorem dX5_worked_165 : decode cX5_worked 165 = .ok (.getfield 28, 3) := dk_180 0 28 (dk_at dksX5_worked_7 1 rfl rfl)
theorem dX5_worked_168 : decode cX5_worked 168 = .ok (.iconst 0, 1) := dk_3 (dk_at dksX5_worked_7 4 rfl rfl)
theorem dX5_worked_169 : decode cX5_worked 169 = .ok (.iaload, 1) := dk_46 (dk_at dksX5_worked_7 5 rfl rfl)
theorem dX5_worked_170 : decode cX5_worked 170 = .ok (.ireturn, 1) := dk_172 (dk_at dksX5_worked_7 6 rfl rfl)
abbrev cX5_joined : ByteArray := prog_20_method_48_code
def yX5_joined : MethodName := ⟨RX5, "joined", "(III)I"⟩
def dkwX5_joined_6 : List UInt8 := [4, 167, 0, 4, 3, 172, 27, 154, 0, 7, 28, 153, 0, 7, 4, 167, 0, 4, 3, 172]
abbrev dktX5_joined_6 : List UInt8 := dkwX5_joined_6 ++ []
def dkwX5_joined_5 : List UInt8 := [167, 0, 4, 3, 172, 27, 28, 160, 0, 7, 4, 167, 0, 4, 3, 172, 27, 153, 0, 11, 28, 153, 0, 7]
abbrev dktX5_joined_5 : List UInt8 := dkwX5_joined_5 ++ dktX5_joined_6
def dkwX5_joined_4 : List UInt8 := [167, 0, 6, 27, 28, 112, 172, 27, 28, 162, 0, 7, 4, 167, 0, 4, 3, 172, 27, 28, 164, 0, 7, 4]
abbrev dktX5_joined_4 : List UInt8 := dkwX5_joined_4 ++ dktX5_joined_5
def dkwX5_joined_3 : List UInt8 := [160, 0, 8, 27, 116, 167, 0, 6, 27, 28, 108, 172, 28, 153, 0, 8, 28, 2, 160, 0, 7, 3]
abbrev dktX5_joined_3 : List UInt8 := dkwX5_joined_3 ++ dktX5_joined_4
def dkwX5_joined_2 : List UInt8 := [27, 28, 96, 172, 27, 28, 100, 172, 27, 28, 104, 172, 28, 154, 0, 7, 3, 167, 0, 16, 28, 2]
abbrev dktX5_joined_2 : List UInt8 := dkwX5_joined_2 ++ dktX5_joined_3
def dkwX5_joined_1 : List UInt8 := [170, 0, 0, 0, 0, 0, 217, 0, 0, 0, 37, 0, 0, 0, 62, 0, 0, 0, 153, 0, 0, 0, 203, 0, 0, 0, 217, 0, 0, 0, 217, 0, 0, 0, 217, 0, 0, 0, 127, 0, 0, 0, 119, 0, 0, 0, 217, 0, 0, 0, 123, 0, 0, 0, 217, 0, 0, 0, 131, 0, 0, 0, 217, 0, 0, 0, 217, 0, 0, 0, 217, 0, 0, 0, 217, 0, 0, 0, 217, 0, 0, 0, 217, 0, 0, 0, 217, 0, 0, 0, 217, 0, 0, 0, 217, 0, 0, 0, 217, 0, 0, 0, 217, 0, 0, 0, 217, 0, 0, 0, 170, 0, 0, 0, 192, 0, 0, 0, 181]
abbrev dktX5_joined_1 : List UInt8 := dkwX5_joined_1 ++ dktX5_joined_2
def dkwX5_joined_0 : List UInt8 := [26]
abbrev dktX5_joined_0 : List UInt8 := dkwX5_joined_0 ++ dktX5_joined_1
theorem dksX5_joined_0 : cX5_joined.data.toList.drop 0 = dktX5_joined_0 := by decide +kernel
theorem dksX5_joined_1 : cX5_joined.data.toList.drop 1 = dktX5_joined_1 := dk_seg dksX5_joined_0 1 rfl rfl
theorem dksX5_joined_2 : cX5_joined.data.toList.drop 120 = dktX5_joined_2 := dk_seg dksX5_joined_1 119 rfl rfl
theorem dksX5_joined_3 : cX5_joined.data.toList.drop 142 = dktX5_joined_3 := dk_seg dksX5_joined_2 22 rfl rfl
theorem dksX5_joined_4 : cX5_joined.data.toList.drop 164 = dktX5_joined_4 := dk_seg dksX5_joined_3 22 rfl rfl
theorem dksX5_joined_5 : cX5_joined.data.toList.drop 188 = dktX5_joined_5 := dk_seg dksX5_joined_4 24 rfl rfl
theorem dksX5_joined_6 : cX5_joined.data.toList.drop 212 = dktX5_joined_6 := dk_seg dksX5_joined_5 24 rfl rfl
theorem dX5_joined_0 : decode cX5_joined 0 = .ok (.iload_n 0, 1) := dk_26 (dk_at dksX5_joined_0 0 rfl rfl)
theorem dX5_joined_1 : decode cX5_joined 1 = .ok (.tableswitch 217 37 62 #[153, 203, 217, 217, 217, 127, 119, 217, 123, 217, 131, 217, 217, 217, 217, 217, 217, 217, 217, 217, 217, 217, 217, 170, 192, 181], 119) := by decide +kernel
theorem dX5_joined_120 : decode cX5_joined 120 = .ok (.iload_n 1, 1) := dk_27 (dk_at dksX5_joined_2 0 rfl rfl)
theorem dX5_joined_121 : decode cX5_joined 121 = .ok (.iload_n 2, 1) := dk_28 (dk_at dksX5_joined_2 1 rfl rfl)
theorem dX5_joined_122 : decode cX5_joined 122 = .ok (.iadd, 1) := dk_96 (dk_at dksX5_joined_2 2 rfl rfl)
theorem dX5_joined_123 : decode cX5_joined 123 = .ok (.ireturn, 1) := dk_172 (dk_at dksX5_joined_2 3 rfl rfl)
theorem dX5_joined_124 : decode cX5_joined 124 = .ok (.iload_n 1, 1) := dk_27 (dk_at dksX5_joined_2 4 rfl rfl)
theorem dX5_joined_125 : decode cX5_joined 125 = .ok (.iload_n 2, 1) := dk_28 (dk_at dksX5_joined_2 5 rfl rfl)
theorem dX5_joined_126 : decode cX5_joined 126 = .ok (.isub, 1) := dk_100 (dk_at dksX5_joined_2 6 rfl rfl)
theorem dX5_joined_127 : decode cX5_joined 127 = .ok (.ireturn, 1) := dk_172 (dk_at dksX5_joined_2 7 rfl rfl)
theorem dX5_joined_128 : decode cX5_joined 128 = .ok (.iload_n 1, 1) := dk_27 (dk_at dksX5_joined_2 8 rfl rfl)
theorem dX5_joined_129 : decode cX5_joined 129 = .ok (.iload_n 2, 1) := dk_28 (dk_at dksX5_joined_2 9 rfl rfl)
theorem dX5_joined_130 : decode cX5_joined 130 = .ok (.imul, 1) := dk_104 (dk_at dksX5_joined_2 10 rfl rfl)
theorem dX5_joined_131 : decode cX5_joined 131 = .ok (.ireturn, 1) := dk_172 (dk_at dksX5_joined_2 11 rfl rfl)
theorem dX5_joined_132 : decode cX5_joined 132 = .ok (.iload_n 2, 1) := dk_28 (dk_at dksX5_joined_2 12 rfl rfl)
theorem dX5_joined_133 : decode cX5_joined 133 = .ok (.ifCond .ne 7, 3) := dk_154 0 7 (dk_at dksX5_joined_2 13 rfl rfl)
theorem dX5_joined_136 : decode cX5_joined 136 = .ok (.iconst 0, 1) := dk_3 (dk_at dksX5_joined_2 16 rfl rfl)
theorem dX5_joined_137 : decode cX5_joined 137 = .ok (.goto 16, 3) := dk_167 0 16 (dk_at dksX5_joined_2 17 rfl rfl)
theorem dX5_joined_140 : decode cX5_joined 140 = .ok (.iload_n 2, 1) := dk_28 (dk_at dksX5_joined_2 20 rfl rfl)
theorem dX5_joined_141 : decode cX5_joined 141 = .ok (.iconst (-1), 1) := dk_2 (dk_at dksX5_joined_2 21 rfl rfl)
theorem dX5_joined_142 : decode cX5_joined 142 = .ok (.if_icmp .ne 8, 3) := dk_160 0 8 (dk_at dksX5_joined_3 0 rfl rfl)
theorem dX5_joined_145 : decode cX5_joined 145 = .ok (.iload_n 1, 1) := dk_27 (dk_at dksX5_joined_3 3 rfl rfl)
theorem dX5_joined_146 : decode cX5_joined 146 = .ok (.ineg, 1) := dk_116 (dk_at dksX5_joined_3 4 rfl rfl)
theorem dX5_joined_147 : decode cX5_joined 147 = .ok (.goto 6, 3) := dk_167 0 6 (dk_at dksX5_joined_3 5 rfl rfl)
theorem dX5_joined_150 : decode cX5_joined 150 = .ok (.iload_n 1, 1) := dk_27 (dk_at dksX5_joined_3 8 rfl rfl)
theorem dX5_joined_151 : decode cX5_joined 151 = .ok (.iload_n 2, 1) := dk_28 (dk_at dksX5_joined_3 9 rfl rfl)
theorem dX5_joined_152 : decode cX5_joined 152 = .ok (.idiv, 1) := dk_108 (dk_at dksX5_joined_3 10 rfl rfl)
theorem dX5_joined_153 : decode cX5_joined 153 = .ok (.ireturn, 1) := dk_172 (dk_at dksX5_joined_3 11 rfl rfl)
theorem dX5_joined_154 : decode cX5_joined 154 = .ok (.iload_n 2, 1) := dk_28 (dk_at dksX5_joined_3 12 rfl rfl)
theorem dX5_joined_155 : decode cX5_joined 155 = .ok (.ifCond .eq 8, 3) := dk_153 0 8 (dk_at dksX5_joined_3 13 rfl rfl)
theorem dX5_joined_158 : decode cX5_joined 158 = .ok (.iload_n 2, 1) := dk_28 (dk_at dksX5_joined_3 16 rfl rfl)
theorem dX5_joined_159 : decode cX5_joined 159 = .ok (.iconst (-1), 1) := dk_2 (dk_at dksX5_joined_3 17 rfl rfl)
theorem dX5_joined_160 : decode cX5_joined 160 = .ok (.if_icmp .ne 7, 3) := dk_160 0 7 (dk_at dksX5_joined_3 18 rfl rfl)
theorem dX5_joined_163 : decode cX5_joined 163 = .ok (.iconst 0, 1) := dk_3 (dk_at dksX5_joined_3 21 rfl rfl)
theorem dX5_joined_164 : decode cX5_joined 164 = .ok (.goto 6, 3) := dk_167 0 6 (dk_at dksX5_joined_4 0 rfl rfl)
theorem dX5_joined_167 : decode cX5_joined 167 = .ok (.iload_n 1, 1) := dk_27 (dk_at dksX5_joined_4 3 rfl rfl)
theorem dX5_joined_168 : decode cX5_joined 168 = .ok (.iload_n 2, 1) := dk_28 (dk_at dksX5_joined_4 4 rfl rfl)
theorem dX5_joined_169 : decode cX5_joined 169 = .ok (.irem, 1) := dk_112 (dk_at dksX5_joined_4 5 rfl rfl)
theorem dX5_joined_170 : decode cX5_joined 170 = .ok (.ireturn, 1) := dk_172 (dk_at dksX5_joined_4 6 rfl rfl)
theorem dX5_joined_171 : decode cX5_joined 171 = .ok (.iload_n 1, 1) := dk_27 (dk_at dksX5_joined_4 7 rfl rfl)
theorem dX5_joined_172 : decode cX5_joined 172 = .ok (.iload_n 2, 1) := dk_28 (dk_at dksX5_joined_4 8 rfl rfl)
theorem dX5_joined_173 : decode cX5_joined 173 = .ok (.if_icmp .ge 7, 3) := dk_162 0 7 (dk_at dksX5_joined_4 9 rfl rfl)
theorem dX5_joined_176 : decode cX5_joined 176 = .ok (.iconst 1, 1) := dk_4 (dk_at dksX5_joined_4 12 rfl rfl)
theorem dX5_joined_177 : decode cX5_joined 177 = .ok (.goto 4, 3) := dk_167 0 4 (dk_at dksX5_joined_4 13 rfl rfl)
theorem dX5_joined_180 : decode cX5_joined 180 = .ok (.iconst 0, 1) := dk_3 (dk_at dksX5_joined_4 16 rfl rfl)
theorem dX5_joined_181 : decode cX5_joined 181 = .ok (.ireturn, 1) := dk_172 (dk_at dksX5_joined_4 17 rfl rfl)
theorem dX5_joined_182 : decode cX5_joined 182 = .ok (.iload_n 1, 1) := dk_27 (dk_at dksX5_joined_4 18 rfl rfl)
theorem dX5_joined_183 : decode cX5_joined 183 = .ok (.iload_n 2, 1) := dk_28 (dk_at dksX5_joined_4 19 rfl rfl)
theorem dX5_joined_184 : decode cX5_joined 184 = .ok (.if_icmp .le 7, 3) := dk_164 0 7 (dk_at dksX5_joined_4 20 rfl rfl)
theorem dX5_joined_187 : decode cX5_joined 187 = .ok (.iconst 1, 1) := dk_4 (dk_at dksX5_joined_4 23 rfl rfl)
theorem dX5_joined_188 : decode cX5_joined 188 = .ok (.goto 4, 3) := dk_167 0 4 (dk_at dksX5_joined_5 0 rfl rfl)
theorem dX5_joined_191 : decode cX5_joined 191 = .ok (.iconst 0, 1) := dk_3 (dk_at dksX5_joined_5 3 rfl rfl)
theorem dX5_joined_192 : decode cX5_joined 192 = .ok (.ireturn, 1) := dk_172 (dk_at dksX5_joined_5 4 rfl rfl)
theorem dX5_joined_193 : decode cX5_joined 193 = .ok (.iload_n 1, 1) := dk_27 (dk_at dksX5_joined_5 5 rfl rfl)
theorem dX5_joined_194 : decode cX5_joined 194 = .ok (.iload_n 2, 1) := dk_28 (dk_at dksX5_joined_5 6 rfl rfl)
theorem dX5_joined_195 : decode cX5_joined 195 = .ok (.if_icmp .ne 7, 3) := dk_160 0 7 (dk_at dksX5_joined_5 7 rfl rfl)
theorem dX5_joined_198 : decode cX5_joined 198 = .ok (.iconst 1, 1) := dk_4 (dk_at dksX5_joined_5 10 rfl rfl)
theorem dX5_joined_199 : decode cX5_joined 199 = .ok (.goto 4, 3) := dk_167 0 4 (dk_at dksX5_joined_5 11 rfl rfl)
theorem dX5_joined_202 : decode cX5_joined 202 = .ok (.iconst 0, 1) := dk_3 (dk_at dksX5_joined_5 14 rfl rfl)
theorem dX5_joined_203 : decode cX5_joined 203 = .ok (.ireturn, 1) := dk_172 (dk_at dksX5_joined_5 15 rfl rfl)
theorem dX5_joined_204 : decode cX5_joined 204 = .ok (.iload_n 1, 1) := dk_27 (dk_at dksX5_joined_5 16 rfl rfl)
theorem dX5_joined_205 : decode cX5_joined 205 = .ok (.ifCond .eq 11, 3) := dk_153 0 11 (dk_at dksX5_joined_5 17 rfl rfl)
theorem dX5_joined_208 : decode cX5_joined 208 = .ok (.iload_n 2, 1) := dk_28 (dk_at dksX5_joined_5 20 rfl rfl)
theorem dX5_joined_209 : decode cX5_joined 209 = .ok (.ifCond .eq 7, 3) := dk_153 0 7 (dk_at dksX5_joined_5 21 rfl rfl)
theorem dX5_joined_212 : decode cX5_joined 212 = .ok (.iconst 1, 1) := dk_4 (dk_at dksX5_joined_6 0 rfl rfl)
theorem dX5_joined_213 : decode cX5_joined 213 = .ok (.goto 4, 3) := dk_167 0 4 (dk_at dksX5_joined_6 1 rfl rfl)
theorem dX5_joined_216 : decode cX5_joined 216 = .ok (.iconst 0, 1) := dk_3 (dk_at dksX5_joined_6 4 rfl rfl)
theorem dX5_joined_217 : decode cX5_joined 217 = .ok (.ireturn, 1) := dk_172 (dk_at dksX5_joined_6 5 rfl rfl)
theorem dX5_joined_218 : decode cX5_joined 218 = .ok (.iload_n 1, 1) := dk_27 (dk_at dksX5_joined_6 6 rfl rfl)
theorem dX5_joined_219 : decode cX5_joined 219 = .ok (.ifCond .ne 7, 3) := dk_154 0 7 (dk_at dksX5_joined_6 7 rfl rfl)
theorem dX5_joined_222 : decode cX5_joined 222 = .ok (.iload_n 2, 1) := dk_28 (dk_at dksX5_joined_6 10 rfl rfl)
theorem dX5_joined_223 : decode cX5_joined 223 = .ok (.ifCond .eq 7, 3) := dk_153 0 7 (dk_at dksX5_joined_6 11 rfl rfl)
theorem dX5_joined_226 : decode cX5_joined 226 = .ok (.iconst 1, 1) := dk_4 (dk_at dksX5_joined_6 14 rfl rfl)
theorem dX5_joined_227 : decode cX5_joined 227 = .ok (.goto 4, 3) := dk_167 0 4 (dk_at dksX5_joined_6 15 rfl rfl)
theorem dX5_joined_230 : decode cX5_joined 230 = .ok (.iconst 0, 1) := dk_3 (dk_at dksX5_joined_6 18 rfl rfl)
theorem dX5_joined_231 : decode cX5_joined 231 = .ok (.ireturn, 1) := dk_172 (dk_at dksX5_joined_6 19 rfl rfl)
abbrev cX5_bestOf : ByteArray := prog_20_method_75_code
def yX5_bestOf : MethodName := ⟨RX5, "bestOf", "(I)I"⟩
def dkwX5_bestOf_0 : List UInt8 := [42, 27, 42, 180, 0, 7, 16, 10, 46, 182, 0, 232, 172]
abbrev dktX5_bestOf_0 : List UInt8 := dkwX5_bestOf_0 ++ []
theorem dksX5_bestOf_0 : cX5_bestOf.data.toList.drop 0 = dktX5_bestOf_0 := by decide +kernel
theorem dX5_bestOf_0 : decode cX5_bestOf 0 = .ok (.aload_n 0, 1) := dk_42 (dk_at dksX5_bestOf_0 0 rfl rfl)
theorem dX5_bestOf_1 : decode cX5_bestOf 1 = .ok (.iload_n 1, 1) := dk_27 (dk_at dksX5_bestOf_0 1 rfl rfl)
theorem dX5_bestOf_2 : decode cX5_bestOf 2 = .ok (.aload_n 0, 1) := dk_42 (dk_at dksX5_bestOf_0 2 rfl rfl)
theorem dX5_bestOf_3 : decode cX5_bestOf 3 = .ok (.getfield 7, 3) := dk_180 0 7 (dk_at dksX5_bestOf_0 3 rfl rfl)
theorem dX5_bestOf_6 : decode cX5_bestOf 6 = .ok (.bipush 10, 2) := dk_16 10 (dk_at dksX5_bestOf_0 6 rfl rfl)
theorem dX5_bestOf_8 : decode cX5_bestOf 8 = .ok (.iaload, 1) := dk_46 (dk_at dksX5_bestOf_0 8 rfl rfl)
theorem dX5_bestOf_9 : decode cX5_bestOf 9 = .ok (.invokevirtual 232, 3) := dk_182 0 232 (dk_at dksX5_bestOf_0 9 rfl rfl)
theorem dX5_bestOf_12 : decode cX5_bestOf 12 = .ok (.ireturn, 1) := dk_172 (dk_at dksX5_bestOf_0 12 rfl rfl)
abbrev cX5_bestWith : ByteArray := prog_20_method_74_code
def yX5_bestWith : MethodName := ⟨RX5, "bestWith", "(II)I"⟩
def dkwX5_bestWith_3 : List UInt8 := [167, 255, 200, 29, 172]
abbrev dktX5_bestWith_3 : List UInt8 := dkwX5_bestWith_3 ++ []
def dkwX5_bestWith_2 : List UInt8 := [182, 0, 228, 62, 42, 27, 29, 42, 21, 4, 27, 182, 0, 73, 4, 100, 28, 182, 0, 228, 62, 132, 4, 1]
abbrev dktX5_bestWith_2 : List UInt8 := dkwX5_bestWith_2 ++ dktX5_bestWith_3
def dkwX5_bestWith_1 : List UInt8 := [162, 0, 51, 21, 4, 42, 27, 182, 0, 67, 159, 0, 35, 42, 27, 29, 42, 21, 4, 27, 182, 0, 73, 28]
abbrev dktX5_bestWith_1 : List UInt8 := dkwX5_bestWith_1 ++ dktX5_bestWith_2
def dkwX5_bestWith_0 : List UInt8 := [42, 27, 3, 17, 39, 15, 28, 182, 0, 228, 62, 3, 54, 4, 21, 4, 42, 180, 0, 7, 3, 46]
abbrev dktX5_bestWith_0 : List UInt8 := dkwX5_bestWith_0 ++ dktX5_bestWith_1
theorem dksX5_bestWith_0 : cX5_bestWith.data.toList.drop 0 = dktX5_bestWith_0 := by decide +kernel
theorem dksX5_bestWith_1 : cX5_bestWith.data.toList.drop 22 = dktX5_bestWith_1 := dk_seg dksX5_bestWith_0 22 rfl rfl
theorem dksX5_bestWith_2 : cX5_bestWith.data.toList.drop 46 = dktX5_bestWith_2 := dk_seg dksX5_bestWith_1 24 rfl rfl
theorem dksX5_bestWith_3 : cX5_bestWith.data.toList.drop 70 = dktX5_bestWith_3 := dk_seg dksX5_bestWith_2 24 rfl rfl
theorem dX5_bestWith_0 : decode cX5_bestWith 0 = .ok (.aload_n 0, 1) := dk_42 (dk_at dksX5_bestWith_0 0 rfl rfl)
theorem dX5_bestWith_1 : decode cX5_bestWith 1 = .ok (.iload_n 1, 1) := dk_27 (dk_at dksX5_bestWith_0 1 rfl rfl)
theorem dX5_bestWith_2 : decode cX5_bestWith 2 = .ok (.iconst 0, 1) := dk_3 (dk_at dksX5_bestWith_0 2 rfl rfl)
theorem dX5_bestWith_3 : decode cX5_bestWith 3 = .ok (.sipush 9999, 3) := dk_17 39 15 (dk_at dksX5_bestWith_0 3 rfl rfl)
theorem dX5_bestWith_6 : decode cX5_bestWith 6 = .ok (.iload_n 2, 1) := dk_28 (dk_at dksX5_bestWith_0 6 rfl rfl)
theorem dX5_bestWith_7 : decode cX5_bestWith 7 = .ok (.invokevirtual 228, 3) := dk_182 0 228 (dk_at dksX5_bestWith_0 7 rfl rfl)
theorem dX5_bestWith_10 : decode cX5_bestWith 10 = .ok (.istore_n 3, 1) := dk_62 (dk_at dksX5_bestWith_0 10 rfl rfl)
theorem dX5_bestWith_11 : decode cX5_bestWith 11 = .ok (.iconst 0, 1) := dk_3 (dk_at dksX5_bestWith_0 11 rfl rfl)
theorem dX5_bestWith_12 : decode cX5_bestWith 12 = .ok (.istore 4, 2) := dk_54 4 (dk_at dksX5_bestWith_0 12 rfl rfl)
theorem dX5_bestWith_14 : decode cX5_bestWith 14 = .ok (.iload 4, 2) := dk_21 4 (dk_at dksX5_bestWith_0 14 rfl rfl)
theorem dX5_bestWith_16 : decode cX5_bestWith 16 = .ok (.aload_n 0, 1) := dk_42 (dk_at dksX5_bestWith_0 16 rfl rfl)
theorem dX5_bestWith_17 : decode cX5_bestWith 17 = .ok (.getfield 7, 3) := dk_180 0 7 (dk_at dksX5_bestWith_0 17 rfl rfl)
theorem dX5_bestWith_20 : decode cX5_bestWith 20 = .ok (.iconst 0, 1) := dk_3 (dk_at dksX5_bestWith_0 20 rfl rfl)
theorem dX5_bestWith_21 : decode cX5_bestWith 21 = .ok (.iaload, 1) := dk_46 (dk_at dksX5_bestWith_0 21 rfl rfl)
theorem dX5_bestWith_22 : decode cX5_bestWith 22 = .ok (.if_icmp .ge 51, 3) := dk_162 0 51 (dk_at dksX5_bestWith_1 0 rfl rfl)
theorem dX5_bestWith_25 : decode cX5_bestWith 25 = .ok (.iload 4, 2) := dk_21 4 (dk_at dksX5_bestWith_1 3 rfl rfl)
theorem dX5_bestWith_27 : decode cX5_bestWith 27 = .ok (.aload_n 0, 1) := dk_42 (dk_at dksX5_bestWith_1 5 rfl rfl)
theorem dX5_bestWith_28 : decode cX5_bestWith 28 = .ok (.iload_n 1, 1) := dk_27 (dk_at dksX5_bestWith_1 6 rfl rfl)
theorem dX5_bestWith_29 : decode cX5_bestWith 29 = .ok (.invokevirtual 67, 3) := dk_182 0 67 (dk_at dksX5_bestWith_1 7 rfl rfl)
theorem dX5_bestWith_32 : decode cX5_bestWith 32 = .ok (.if_icmp .eq 35, 3) := dk_159 0 35 (dk_at dksX5_bestWith_1 10 rfl rfl)
theorem dX5_bestWith_35 : decode cX5_bestWith 35 = .ok (.aload_n 0, 1) := dk_42 (dk_at dksX5_bestWith_1 13 rfl rfl)
theorem dX5_bestWith_36 : decode cX5_bestWith 36 = .ok (.iload_n 1, 1) := dk_27 (dk_at dksX5_bestWith_1 14 rfl rfl)
theorem dX5_bestWith_37 : decode cX5_bestWith 37 = .ok (.iload_n 3, 1) := dk_29 (dk_at dksX5_bestWith_1 15 rfl rfl)
theorem dX5_bestWith_38 : decode cX5_bestWith 38 = .ok (.aload_n 0, 1) := dk_42 (dk_at dksX5_bestWith_1 16 rfl rfl)
theorem dX5_bestWith_39 : decode cX5_bestWith 39 = .ok (.iload 4, 2) := dk_21 4 (dk_at dksX5_bestWith_1 17 rfl rfl)
theorem dX5_bestWith_41 : decode cX5_bestWith 41 = .ok (.iload_n 1, 1) := dk_27 (dk_at dksX5_bestWith_1 19 rfl rfl)
theorem dX5_bestWith_42 : decode cX5_bestWith 42 = .ok (.invokevirtual 73, 3) := dk_182 0 73 (dk_at dksX5_bestWith_1 20 rfl rfl)
theorem dX5_bestWith_45 : decode cX5_bestWith 45 = .ok (.iload_n 2, 1) := dk_28 (dk_at dksX5_bestWith_1 23 rfl rfl)
theorem dX5_bestWith_46 : decode cX5_bestWith 46 = .ok (.invokevirtual 228, 3) := dk_182 0 228 (dk_at dksX5_bestWith_2 0 rfl rfl)
theorem dX5_bestWith_49 : decode cX5_bestWith 49 = .ok (.istore_n 3, 1) := dk_62 (dk_at dksX5_bestWith_2 3 rfl rfl)
theorem dX5_bestWith_50 : decode cX5_bestWith 50 = .ok (.aload_n 0, 1) := dk_42 (dk_at dksX5_bestWith_2 4 rfl rfl)
theorem dX5_bestWith_51 : decode cX5_bestWith 51 = .ok (.iload_n 1, 1) := dk_27 (dk_at dksX5_bestWith_2 5 rfl rfl)
theorem dX5_bestWith_52 : decode cX5_bestWith 52 = .ok (.iload_n 3, 1) := dk_29 (dk_at dksX5_bestWith_2 6 rfl rfl)
theorem dX5_bestWith_53 : decode cX5_bestWith 53 = .ok (.aload_n 0, 1) := dk_42 (dk_at dksX5_bestWith_2 7 rfl rfl)
theorem dX5_bestWith_54 : decode cX5_bestWith 54 = .ok (.iload 4, 2) := dk_21 4 (dk_at dksX5_bestWith_2 8 rfl rfl)
theorem dX5_bestWith_56 : decode cX5_bestWith 56 = .ok (.iload_n 1, 1) := dk_27 (dk_at dksX5_bestWith_2 10 rfl rfl)
theorem dX5_bestWith_57 : decode cX5_bestWith 57 = .ok (.invokevirtual 73, 3) := dk_182 0 73 (dk_at dksX5_bestWith_2 11 rfl rfl)
theorem dX5_bestWith_60 : decode cX5_bestWith 60 = .ok (.iconst 1, 1) := dk_4 (dk_at dksX5_bestWith_2 14 rfl rfl)
theorem dX5_bestWith_61 : decode cX5_bestWith 61 = .ok (.isub, 1) := dk_100 (dk_at dksX5_bestWith_2 15 rfl rfl)
theorem dX5_bestWith_62 : decode cX5_bestWith 62 = .ok (.iload_n 2, 1) := dk_28 (dk_at dksX5_bestWith_2 16 rfl rfl)
theorem dX5_bestWith_63 : decode cX5_bestWith 63 = .ok (.invokevirtual 228, 3) := dk_182 0 228 (dk_at dksX5_bestWith_2 17 rfl rfl)
theorem dX5_bestWith_66 : decode cX5_bestWith 66 = .ok (.istore_n 3, 1) := dk_62 (dk_at dksX5_bestWith_2 20 rfl rfl)
theorem dX5_bestWith_67 : decode cX5_bestWith 67 = .ok (.iinc 4 1, 3) := dk_132 4 1 (dk_at dksX5_bestWith_2 21 rfl rfl)
theorem dX5_bestWith_70 : decode cX5_bestWith 70 = .ok (.goto (-56), 3) := dk_167 255 200 (dk_at dksX5_bestWith_3 0 rfl rfl)
theorem dX5_bestWith_73 : decode cX5_bestWith 73 = .ok (.iload_n 3, 1) := dk_29 (dk_at dksX5_bestWith_3 3 rfl rfl)
theorem dX5_bestWith_74 : decode cX5_bestWith 74 = .ok (.ireturn, 1) := dk_172 (dk_at dksX5_bestWith_3 4 rfl rfl)
abbrev cX5_better : ByteArray := prog_20_method_73_code
def yX5_better : MethodName := ⟨RX5, "better", "(IIII)I"⟩
def dkwX5_better_2 : List UInt8 := [154, 0, 12, 29, 28, 162, 0, 7, 29, 167, 0, 4, 28, 172]
abbrev dktX5_better_2 : List UInt8 := dkwX5_better_2 ++ []
def dkwX5_better_1 : List UInt8 := [27, 28, 21, 4, 182, 0, 224, 55, 7, 22, 5, 22, 7, 148, 157, 0, 16, 22, 5, 22, 7, 148]
abbrev dktX5_better_1 : List UInt8 := dkwX5_better_1 ++ dktX5_better_2
def dkwX5_better_0 : List UInt8 := [29, 3, 17, 39, 15, 184, 0, 47, 154, 0, 5, 28, 172, 42, 27, 29, 21, 4, 182, 0, 224, 55, 5, 42]
abbrev dktX5_better_0 : List UInt8 := dkwX5_better_0 ++ dktX5_better_1
theorem dksX5_better_0 : cX5_better.data.toList.drop 0 = dktX5_better_0 := by decide +kernel
theorem dksX5_better_1 : cX5_better.data.toList.drop 24 = dktX5_better_1 := dk_seg dksX5_better_0 24 rfl rfl
theorem dksX5_better_2 : cX5_better.data.toList.drop 46 = dktX5_better_2 := dk_seg dksX5_better_1 22 rfl rfl
theorem dX5_better_0 : decode cX5_better 0 = .ok (.iload_n 3, 1) := dk_29 (dk_at dksX5_better_0 0 rfl rfl)
theorem dX5_better_1 : decode cX5_better 1 = .ok (.iconst 0, 1) := dk_3 (dk_at dksX5_better_0 1 rfl rfl)
theorem dX5_better_2 : decode cX5_better 2 = .ok (.sipush 9999, 3) := dk_17 39 15 (dk_at dksX5_better_0 2 rfl rfl)
theorem dX5_better_5 : decode cX5_better 5 = .ok (.invokestatic 47, 3) := dk_184 0 47 (dk_at dksX5_better_0 5 rfl rfl)
theorem dX5_better_8 : decode cX5_better 8 = .ok (.ifCond .ne 5, 3) := dk_154 0 5 (dk_at dksX5_better_0 8 rfl rfl)
theorem dX5_better_11 : decode cX5_better 11 = .ok (.iload_n 2, 1) := dk_28 (dk_at dksX5_better_0 11 rfl rfl)
theorem dX5_better_12 : decode cX5_better 12 = .ok (.ireturn, 1) := dk_172 (dk_at dksX5_better_0 12 rfl rfl)
theorem dX5_better_13 : decode cX5_better 13 = .ok (.aload_n 0, 1) := dk_42 (dk_at dksX5_better_0 13 rfl rfl)
theorem dX5_better_14 : decode cX5_better 14 = .ok (.iload_n 1, 1) := dk_27 (dk_at dksX5_better_0 14 rfl rfl)
theorem dX5_better_15 : decode cX5_better 15 = .ok (.iload_n 3, 1) := dk_29 (dk_at dksX5_better_0 15 rfl rfl)
theorem dX5_better_16 : decode cX5_better 16 = .ok (.iload 4, 2) := dk_21 4 (dk_at dksX5_better_0 16 rfl rfl)
theorem dX5_better_18 : decode cX5_better 18 = .ok (.invokevirtual 224, 3) := dk_182 0 224 (dk_at dksX5_better_0 18 rfl rfl)
theorem dX5_better_21 : decode cX5_better 21 = .ok (.lstore 5, 2) := dk_55 5 (dk_at dksX5_better_0 21 rfl rfl)
theorem dX5_better_23 : decode cX5_better 23 = .ok (.aload_n 0, 1) := dk_42 (dk_at dksX5_better_0 23 rfl rfl)
theorem dX5_better_24 : decode cX5_better 24 = .ok (.iload_n 1, 1) := dk_27 (dk_at dksX5_better_1 0 rfl rfl)
theorem dX5_better_25 : decode cX5_better 25 = .ok (.iload_n 2, 1) := dk_28 (dk_at dksX5_better_1 1 rfl rfl)
theorem dX5_better_26 : decode cX5_better 26 = .ok (.iload 4, 2) := dk_21 4 (dk_at dksX5_better_1 2 rfl rfl)
theorem dX5_better_28 : decode cX5_better 28 = .ok (.invokevirtual 224, 3) := dk_182 0 224 (dk_at dksX5_better_1 4 rfl rfl)
theorem dX5_better_31 : decode cX5_better 31 = .ok (.lstore 7, 2) := dk_55 7 (dk_at dksX5_better_1 7 rfl rfl)
theorem dX5_better_33 : decode cX5_better 33 = .ok (.lload 5, 2) := dk_22 5 (dk_at dksX5_better_1 9 rfl rfl)
theorem dX5_better_35 : decode cX5_better 35 = .ok (.lload 7, 2) := dk_22 7 (dk_at dksX5_better_1 11 rfl rfl)
theorem dX5_better_37 : decode cX5_better 37 = .ok (.lcmp, 1) := dk_148 (dk_at dksX5_better_1 13 rfl rfl)
theorem dX5_better_38 : decode cX5_better 38 = .ok (.ifCond .gt 16, 3) := dk_157 0 16 (dk_at dksX5_better_1 14 rfl rfl)
theorem dX5_better_41 : decode cX5_better 41 = .ok (.lload 5, 2) := dk_22 5 (dk_at dksX5_better_1 17 rfl rfl)
theorem dX5_better_43 : decode cX5_better 43 = .ok (.lload 7, 2) := dk_22 7 (dk_at dksX5_better_1 19 rfl rfl)
theorem dX5_better_45 : decode cX5_better 45 = .ok (.lcmp, 1) := dk_148 (dk_at dksX5_better_1 21 rfl rfl)
theorem dX5_better_46 : decode cX5_better 46 = .ok (.ifCond .ne 12, 3) := dk_154 0 12 (dk_at dksX5_better_2 0 rfl rfl)
theorem dX5_better_49 : decode cX5_better 49 = .ok (.iload_n 3, 1) := dk_29 (dk_at dksX5_better_2 3 rfl rfl)
theorem dX5_better_50 : decode cX5_better 50 = .ok (.iload_n 2, 1) := dk_28 (dk_at dksX5_better_2 4 rfl rfl)
theorem dX5_better_51 : decode cX5_better 51 = .ok (.if_icmp .ge 7, 3) := dk_162 0 7 (dk_at dksX5_better_2 5 rfl rfl)
theorem dX5_better_54 : decode cX5_better 54 = .ok (.iload_n 3, 1) := dk_29 (dk_at dksX5_better_2 8 rfl rfl)
theorem dX5_better_55 : decode cX5_better 55 = .ok (.goto 4, 3) := dk_167 0 4 (dk_at dksX5_better_2 9 rfl rfl)
theorem dX5_better_58 : decode cX5_better 58 = .ok (.iload_n 2, 1) := dk_28 (dk_at dksX5_better_2 12 rfl rfl)
theorem dX5_better_59 : decode cX5_better 59 = .ok (.ireturn, 1) := dk_172 (dk_at dksX5_better_2 13 rfl rfl)
abbrev cX5_gainOf : ByteArray := prog_20_method_68_code
def yX5_gainOf : MethodName := ⟨RX5, "gainOf", "(III)J"⟩
def dkwX5_gainOf_2 : List UInt8 := [29, 28, 104, 133, 22, 4, 105, 101, 173]
abbrev dktX5_gainOf_2 : List UInt8 := dkwX5_gainOf_2 ++ []
def dkwX5_gainOf_1 : List UInt8 := [182, 0, 73, 133, 55, 8, 20, 0, 215, 22, 4, 22, 6, 101, 28, 133, 105, 22, 6, 22, 8, 105, 97, 105]
abbrev dktX5_gainOf_1 : List UInt8 := dkwX5_gainOf_1 ++ dktX5_gainOf_2
def dkwX5_gainOf_0 : List UInt8 := [42, 27, 182, 0, 207, 55, 4, 42, 27, 28, 182, 0, 211, 55, 6, 42, 42, 27, 182, 0, 67, 27]
abbrev dktX5_gainOf_0 : List UInt8 := dkwX5_gainOf_0 ++ dktX5_gainOf_1
theorem dksX5_gainOf_0 : cX5_gainOf.data.toList.drop 0 = dktX5_gainOf_0 := by decide +kernel
theorem dksX5_gainOf_1 : cX5_gainOf.data.toList.drop 22 = dktX5_gainOf_1 := dk_seg dksX5_gainOf_0 22 rfl rfl
theorem dksX5_gainOf_2 : cX5_gainOf.data.toList.drop 46 = dktX5_gainOf_2 := dk_seg dksX5_gainOf_1 24 rfl rfl
theorem dX5_gainOf_0 : decode cX5_gainOf 0 = .ok (.aload_n 0, 1) := dk_42 (dk_at dksX5_gainOf_0 0 rfl rfl)
theorem dX5_gainOf_1 : decode cX5_gainOf 1 = .ok (.iload_n 1, 1) := dk_27 (dk_at dksX5_gainOf_0 1 rfl rfl)
theorem dX5_gainOf_2 : decode cX5_gainOf 2 = .ok (.invokevirtual 207, 3) := dk_182 0 207 (dk_at dksX5_gainOf_0 2 rfl rfl)
theorem dX5_gainOf_5 : decode cX5_gainOf 5 = .ok (.lstore 4, 2) := dk_55 4 (dk_at dksX5_gainOf_0 5 rfl rfl)
theorem dX5_gainOf_7 : decode cX5_gainOf 7 = .ok (.aload_n 0, 1) := dk_42 (dk_at dksX5_gainOf_0 7 rfl rfl)
theorem dX5_gainOf_8 : decode cX5_gainOf 8 = .ok (.iload_n 1, 1) := dk_27 (dk_at dksX5_gainOf_0 8 rfl rfl)
theorem dX5_gainOf_9 : decode cX5_gainOf 9 = .ok (.iload_n 2, 1) := dk_28 (dk_at dksX5_gainOf_0 9 rfl rfl)
theorem dX5_gainOf_10 : decode cX5_gainOf 10 = .ok (.invokevirtual 211, 3) := dk_182 0 211 (dk_at dksX5_gainOf_0 10 rfl rfl)
theorem dX5_gainOf_13 : decode cX5_gainOf 13 = .ok (.lstore 6, 2) := dk_55 6 (dk_at dksX5_gainOf_0 13 rfl rfl)
theorem dX5_gainOf_15 : decode cX5_gainOf 15 = .ok (.aload_n 0, 1) := dk_42 (dk_at dksX5_gainOf_0 15 rfl rfl)
theorem dX5_gainOf_16 : decode cX5_gainOf 16 = .ok (.aload_n 0, 1) := dk_42 (dk_at dksX5_gainOf_0 16 rfl rfl)
theorem dX5_gainOf_17 : decode cX5_gainOf 17 = .ok (.iload_n 1, 1) := dk_27 (dk_at dksX5_gainOf_0 17 rfl rfl)
theorem dX5_gainOf_18 : decode cX5_gainOf 18 = .ok (.invokevirtual 67, 3) := dk_182 0 67 (dk_at dksX5_gainOf_0 18 rfl rfl)
theorem dX5_gainOf_21 : decode cX5_gainOf 21 = .ok (.iload_n 1, 1) := dk_27 (dk_at dksX5_gainOf_0 21 rfl rfl)
theorem dX5_gainOf_22 : decode cX5_gainOf 22 = .ok (.invokevirtual 73, 3) := dk_182 0 73 (dk_at dksX5_gainOf_1 0 rfl rfl)
theorem dX5_gainOf_25 : decode cX5_gainOf 25 = .ok (.i2l, 1) := dk_133 (dk_at dksX5_gainOf_1 3 rfl rfl)
theorem dX5_gainOf_26 : decode cX5_gainOf 26 = .ok (.lstore 8, 2) := dk_55 8 (dk_at dksX5_gainOf_1 4 rfl rfl)
theorem dX5_gainOf_28 : decode cX5_gainOf 28 = .ok (.ldc2_w 215, 3) := dk_20 0 215 (dk_at dksX5_gainOf_1 6 rfl rfl)
theorem dX5_gainOf_31 : decode cX5_gainOf 31 = .ok (.lload 4, 2) := dk_22 4 (dk_at dksX5_gainOf_1 9 rfl rfl)
theorem dX5_gainOf_33 : decode cX5_gainOf 33 = .ok (.lload 6, 2) := dk_22 6 (dk_at dksX5_gainOf_1 11 rfl rfl)
theorem dX5_gainOf_35 : decode cX5_gainOf 35 = .ok (.lsub, 1) := dk_101 (dk_at dksX5_gainOf_1 13 rfl rfl)
theorem dX5_gainOf_36 : decode cX5_gainOf 36 = .ok (.iload_n 2, 1) := dk_28 (dk_at dksX5_gainOf_1 14 rfl rfl)
theorem dX5_gainOf_37 : decode cX5_gainOf 37 = .ok (.i2l, 1) := dk_133 (dk_at dksX5_gainOf_1 15 rfl rfl)
theorem dX5_gainOf_38 : decode cX5_gainOf 38 = .ok (.lmul, 1) := dk_105 (dk_at dksX5_gainOf_1 16 rfl rfl)
theorem dX5_gainOf_39 : decode cX5_gainOf 39 = .ok (.lload 6, 2) := dk_22 6 (dk_at dksX5_gainOf_1 17 rfl rfl)
theorem dX5_gainOf_41 : decode cX5_gainOf 41 = .ok (.lload 8, 2) := dk_22 8 (dk_at dksX5_gainOf_1 19 rfl rfl)
theorem dX5_gainOf_43 : decode cX5_gainOf 43 = .ok (.lmul, 1) := dk_105 (dk_at dksX5_gainOf_1 21 rfl rfl)
theorem dX5_gainOf_44 : decode cX5_gainOf 44 = .ok (.ladd, 1) := dk_97 (dk_at dksX5_gainOf_1 22 rfl rfl)
theorem dX5_gainOf_45 : decode cX5_gainOf 45 = .ok (.lmul, 1) := dk_105 (dk_at dksX5_gainOf_1 23 rfl rfl)
theorem dX5_gainOf_46 : decode cX5_gainOf 46 = .ok (.iload_n 3, 1) := dk_29 (dk_at dksX5_gainOf_2 0 rfl rfl)
theorem dX5_gainOf_47 : decode cX5_gainOf 47 = .ok (.iload_n 2, 1) := dk_28 (dk_at dksX5_gainOf_2 1 rfl rfl)
theorem dX5_gainOf_48 : decode cX5_gainOf 48 = .ok (.imul, 1) := dk_104 (dk_at dksX5_gainOf_2 2 rfl rfl)
theorem dX5_gainOf_49 : decode cX5_gainOf 49 = .ok (.i2l, 1) := dk_133 (dk_at dksX5_gainOf_2 3 rfl rfl)
theorem dX5_gainOf_50 : decode cX5_gainOf 50 = .ok (.lload 4, 2) := dk_22 4 (dk_at dksX5_gainOf_2 4 rfl rfl)
theorem dX5_gainOf_52 : decode cX5_gainOf 52 = .ok (.lmul, 1) := dk_105 (dk_at dksX5_gainOf_2 6 rfl rfl)
theorem dX5_gainOf_53 : decode cX5_gainOf 53 = .ok (.lsub, 1) := dk_101 (dk_at dksX5_gainOf_2 7 rfl rfl)
theorem dX5_gainOf_54 : decode cX5_gainOf 54 = .ok (.lreturn, 1) := dk_173 (dk_at dksX5_gainOf_2 8 rfl rfl)
abbrev cX5_allBelow : ByteArray := prog_20_method_66_code
def yX5_allBelow : MethodName := ⟨RX5, "allBelow", "(I)J"⟩
def dkwX5_allBelow_2 : List UInt8 := [173]
abbrev dktX5_allBelow_2 : List UInt8 := dkwX5_allBelow_2 ++ []
def dkwX5_allBelow_1 : List UInt8 := [160, 0, 7, 10, 167, 0, 11, 42, 21, 4, 6, 182, 0, 79, 133, 105, 65, 132, 4, 1, 167, 255, 217, 32]
abbrev dktX5_allBelow_1 : List UInt8 := dkwX5_allBelow_1 ++ dktX5_allBelow_2
def dkwX5_allBelow_0 : List UInt8 := [10, 65, 3, 54, 4, 21, 4, 42, 180, 0, 7, 3, 46, 162, 0, 34, 32, 21, 4, 42, 27, 182, 0, 67]
abbrev dktX5_allBelow_0 : List UInt8 := dkwX5_allBelow_0 ++ dktX5_allBelow_1
theorem dksX5_allBelow_0 : cX5_allBelow.data.toList.drop 0 = dktX5_allBelow_0 := by decide +kernel
theorem dksX5_allBelow_1 : cX5_allBelow.data.toList.drop 24 = dktX5_allBelow_1 := dk_seg dksX5_allBelow_0 24 rfl rfl
theorem dksX5_allBelow_2 : cX5_allBelow.data.toList.drop 48 = dktX5_allBelow_2 := dk_seg dksX5_allBelow_1 24 rfl rfl
theorem dX5_allBelow_0 : decode cX5_allBelow 0 = .ok (.lconst 1, 1) := dk_10 (dk_at dksX5_allBelow_0 0 rfl rfl)
theorem dX5_allBelow_1 : decode cX5_allBelow 1 = .ok (.lstore_n 2, 1) := dk_65 (dk_at dksX5_allBelow_0 1 rfl rfl)
theorem dX5_allBelow_2 : decode cX5_allBelow 2 = .ok (.iconst 0, 1) := dk_3 (dk_at dksX5_allBelow_0 2 rfl rfl)
theorem dX5_allBelow_3 : decode cX5_allBelow 3 = .ok (.istore 4, 2) := dk_54 4 (dk_at dksX5_allBelow_0 3 rfl rfl)
theorem dX5_allBelow_5 : decode cX5_allBelow 5 = .ok (.iload 4, 2) := dk_21 4 (dk_at dksX5_allBelow_0 5 rfl rfl)
theorem dX5_allBelow_7 : decode cX5_allBelow 7 = .ok (.aload_n 0, 1) := dk_42 (dk_at dksX5_allBelow_0 7 rfl rfl)
theorem dX5_allBelow_8 : decode cX5_allBelow 8 = .ok (.getfield 7, 3) := dk_180 0 7 (dk_at dksX5_allBelow_0 8 rfl rfl)
theorem dX5_allBelow_11 : decode cX5_allBelow 11 = .ok (.iconst 0, 1) := dk_3 (dk_at dksX5_allBelow_0 11 rfl rfl)
theorem dX5_allBelow_12 : decode cX5_allBelow 12 = .ok (.iaload, 1) := dk_46 (dk_at dksX5_allBelow_0 12 rfl rfl)
theorem dX5_allBelow_13 : decode cX5_allBelow 13 = .ok (.if_icmp .ge 34, 3) := dk_162 0 34 (dk_at dksX5_allBelow_0 13 rfl rfl)
theorem dX5_allBelow_16 : decode cX5_allBelow 16 = .ok (.lload_n 2, 1) := dk_32 (dk_at dksX5_allBelow_0 16 rfl rfl)
theorem dX5_allBelow_17 : decode cX5_allBelow 17 = .ok (.iload 4, 2) := dk_21 4 (dk_at dksX5_allBelow_0 17 rfl rfl)
theorem dX5_allBelow_19 : decode cX5_allBelow 19 = .ok (.aload_n 0, 1) := dk_42 (dk_at dksX5_allBelow_0 19 rfl rfl)
theorem dX5_allBelow_20 : decode cX5_allBelow 20 = .ok (.iload_n 1, 1) := dk_27 (dk_at dksX5_allBelow_0 20 rfl rfl)
theorem dX5_allBelow_21 : decode cX5_allBelow 21 = .ok (.invokevirtual 67, 3) := dk_182 0 67 (dk_at dksX5_allBelow_0 21 rfl rfl)
theorem dX5_allBelow_24 : decode cX5_allBelow 24 = .ok (.if_icmp .ne 7, 3) := dk_160 0 7 (dk_at dksX5_allBelow_1 0 rfl rfl)
theorem dX5_allBelow_27 : decode cX5_allBelow 27 = .ok (.lconst 1, 1) := dk_10 (dk_at dksX5_allBelow_1 3 rfl rfl)
theorem dX5_allBelow_28 : decode cX5_allBelow 28 = .ok (.goto 11, 3) := dk_167 0 11 (dk_at dksX5_allBelow_1 4 rfl rfl)
theorem dX5_allBelow_31 : decode cX5_allBelow 31 = .ok (.aload_n 0, 1) := dk_42 (dk_at dksX5_allBelow_1 7 rfl rfl)
theorem dX5_allBelow_32 : decode cX5_allBelow 32 = .ok (.iload 4, 2) := dk_21 4 (dk_at dksX5_allBelow_1 8 rfl rfl)
theorem dX5_allBelow_34 : decode cX5_allBelow 34 = .ok (.iconst 3, 1) := dk_6 (dk_at dksX5_allBelow_1 10 rfl rfl)
theorem dX5_allBelow_35 : decode cX5_allBelow 35 = .ok (.invokevirtual 79, 3) := dk_182 0 79 (dk_at dksX5_allBelow_1 11 rfl rfl)
theorem dX5_allBelow_38 : decode cX5_allBelow 38 = .ok (.i2l, 1) := dk_133 (dk_at dksX5_allBelow_1 14 rfl rfl)
theorem dX5_allBelow_39 : decode cX5_allBelow 39 = .ok (.lmul, 1) := dk_105 (dk_at dksX5_allBelow_1 15 rfl rfl)
theorem dX5_allBelow_40 : decode cX5_allBelow 40 = .ok (.lstore_n 2, 1) := dk_65 (dk_at dksX5_allBelow_1 16 rfl rfl)
theorem dX5_allBelow_41 : decode cX5_allBelow 41 = .ok (.iinc 4 1, 3) := dk_132 4 1 (dk_at dksX5_allBelow_1 17 rfl rfl)
theorem dX5_allBelow_44 : decode cX5_allBelow 44 = .ok (.goto (-39), 3) := dk_167 255 217 (dk_at dksX5_allBelow_1 20 rfl rfl)
theorem dX5_allBelow_47 : decode cX5_allBelow 47 = .ok (.lload_n 2, 1) := dk_32 (dk_at dksX5_allBelow_1 23 rfl rfl)
theorem dX5_allBelow_48 : decode cX5_allBelow 48 = .ok (.lreturn, 1) := dk_173 (dk_at dksX5_allBelow_2 0 rfl rfl)
abbrev cX5_nobody : ByteArray := prog_20_method_67_code
def yX5_nobody : MethodName := ⟨RX5, "nobody", "(II)J"⟩
def dkwX5_nobody_3 : List UInt8 := [167, 0, 11, 42, 21, 5, 6, 182, 0, 79, 133, 105, 66, 132, 5, 1, 167, 255, 175, 33, 173]
abbrev dktX5_nobody_3 : List UInt8 := dkwX5_nobody_3 ++ []
def dkwX5_nobody_2 : List UInt8 := [167, 0, 35, 21, 6, 153, 0, 22, 42, 21, 5, 6, 182, 0, 79, 42, 21, 5, 5, 182, 0, 79, 100, 133]
abbrev dktX5_nobody_2 : List UInt8 := dkwX5_nobody_2 ++ dktX5_nobody_3
def dkwX5_nobody_1 : List UInt8 := [164, 0, 7, 4, 167, 0, 4, 3, 54, 6, 33, 21, 5, 42, 27, 182, 0, 67, 160, 0, 7, 10]
abbrev dktX5_nobody_1 : List UInt8 := dkwX5_nobody_1 ++ dktX5_nobody_2
def dkwX5_nobody_0 : List UInt8 := [10, 66, 3, 54, 5, 21, 5, 42, 180, 0, 7, 3, 46, 162, 0, 76, 42, 21, 5, 27, 182, 0, 73, 28]
abbrev dktX5_nobody_0 : List UInt8 := dkwX5_nobody_0 ++ dktX5_nobody_1
theorem dksX5_nobody_0 : cX5_nobody.data.toList.drop 0 = dktX5_nobody_0 := by decide +kernel
theorem dksX5_nobody_1 : cX5_nobody.data.toList.drop 24 = dktX5_nobody_1 := dk_seg dksX5_nobody_0 24 rfl rfl
theorem dksX5_nobody_2 : cX5_nobody.data.toList.drop 46 = dktX5_nobody_2 := dk_seg dksX5_nobody_1 22 rfl rfl
theorem dksX5_nobody_3 : cX5_nobody.data.toList.drop 70 = dktX5_nobody_3 := dk_seg dksX5_nobody_2 24 rfl rfl
theorem dX5_nobody_0 : decode cX5_nobody 0 = .ok (.lconst 1, 1) := dk_10 (dk_at dksX5_nobody_0 0 rfl rfl)
theorem dX5_nobody_1 : decode cX5_nobody 1 = .ok (.lstore_n 3, 1) := dk_66 (dk_at dksX5_nobody_0 1 rfl rfl)
theorem dX5_nobody_2 : decode cX5_nobody 2 = .ok (.iconst 0, 1) := dk_3 (dk_at dksX5_nobody_0 2 rfl rfl)
theorem dX5_nobody_3 : decode cX5_nobody 3 = .ok (.istore 5, 2) := dk_54 5 (dk_at dksX5_nobody_0 3 rfl rfl)
theorem dX5_nobody_5 : decode cX5_nobody 5 = .ok (.iload 5, 2) := dk_21 5 (dk_at dksX5_nobody_0 5 rfl rfl)
theorem dX5_nobody_7 : decode cX5_nobody 7 = .ok (.aload_n 0, 1) := dk_42 (dk_at dksX5_nobody_0 7 rfl rfl)
theorem dX5_nobody_8 : decode cX5_nobody 8 = .ok (.getfield 7, 3) := dk_180 0 7 (dk_at dksX5_nobody_0 8 rfl rfl)
theorem dX5_nobody_11 : decode cX5_nobody 11 = .ok (.iconst 0, 1) := dk_3 (dk_at dksX5_nobody_0 11 rfl rfl)
theorem dX5_nobody_12 : decode cX5_nobody 12 = .ok (.iaload, 1) := dk_46 (dk_at dksX5_nobody_0 12 rfl rfl)
theorem dX5_nobody_13 : decode cX5_nobody 13 = .ok (.if_icmp .ge 76, 3) := dk_162 0 76 (dk_at dksX5_nobody_0 13 rfl rfl)
theorem dX5_nobody_16 : decode cX5_nobody 16 = .ok (.aload_n 0, 1) := dk_42 (dk_at dksX5_nobody_0 16 rfl rfl)
theorem dX5_nobody_17 : decode cX5_nobody 17 = .ok (.iload 5, 2) := dk_21 5 (dk_at dksX5_nobody_0 17 rfl rfl)
theorem dX5_nobody_19 : decode cX5_nobody 19 = .ok (.iload_n 1, 1) := dk_27 (dk_at dksX5_nobody_0 19 rfl rfl)
theorem dX5_nobody_20 : decode cX5_nobody 20 = .ok (.invokevirtual 73, 3) := dk_182 0 73 (dk_at dksX5_nobody_0 20 rfl rfl)
theorem dX5_nobody_23 : decode cX5_nobody 23 = .ok (.iload_n 2, 1) := dk_28 (dk_at dksX5_nobody_0 23 rfl rfl)
theorem dX5_nobody_24 : decode cX5_nobody 24 = .ok (.if_icmp .le 7, 3) := dk_164 0 7 (dk_at dksX5_nobody_1 0 rfl rfl)
theorem dX5_nobody_27 : decode cX5_nobody 27 = .ok (.iconst 1, 1) := dk_4 (dk_at dksX5_nobody_1 3 rfl rfl)
theorem dX5_nobody_28 : decode cX5_nobody 28 = .ok (.goto 4, 3) := dk_167 0 4 (dk_at dksX5_nobody_1 4 rfl rfl)
theorem dX5_nobody_31 : decode cX5_nobody 31 = .ok (.iconst 0, 1) := dk_3 (dk_at dksX5_nobody_1 7 rfl rfl)
theorem dX5_nobody_32 : decode cX5_nobody 32 = .ok (.istore 6, 2) := dk_54 6 (dk_at dksX5_nobody_1 8 rfl rfl)
theorem dX5_nobody_34 : decode cX5_nobody 34 = .ok (.lload_n 3, 1) := dk_33 (dk_at dksX5_nobody_1 10 rfl rfl)
theorem dX5_nobody_35 : decode cX5_nobody 35 = .ok (.iload 5, 2) := dk_21 5 (dk_at dksX5_nobody_1 11 rfl rfl)
theorem dX5_nobody_37 : decode cX5_nobody 37 = .ok (.aload_n 0, 1) := dk_42 (dk_at dksX5_nobody_1 13 rfl rfl)
theorem dX5_nobody_38 : decode cX5_nobody 38 = .ok (.iload_n 1, 1) := dk_27 (dk_at dksX5_nobody_1 14 rfl rfl)
theorem dX5_nobody_39 : decode cX5_nobody 39 = .ok (.invokevirtual 67, 3) := dk_182 0 67 (dk_at dksX5_nobody_1 15 rfl rfl)
theorem dX5_nobody_42 : decode cX5_nobody 42 = .ok (.if_icmp .ne 7, 3) := dk_160 0 7 (dk_at dksX5_nobody_1 18 rfl rfl)
theorem dX5_nobody_45 : decode cX5_nobody 45 = .ok (.lconst 1, 1) := dk_10 (dk_at dksX5_nobody_1 21 rfl rfl)
theorem dX5_nobody_46 : decode cX5_nobody 46 = .ok (.goto 35, 3) := dk_167 0 35 (dk_at dksX5_nobody_2 0 rfl rfl)
theorem dX5_nobody_49 : decode cX5_nobody 49 = .ok (.iload 6, 2) := dk_21 6 (dk_at dksX5_nobody_2 3 rfl rfl)
theorem dX5_nobody_51 : decode cX5_nobody 51 = .ok (.ifCond .eq 22, 3) := dk_153 0 22 (dk_at dksX5_nobody_2 5 rfl rfl)
theorem dX5_nobody_54 : decode cX5_nobody 54 = .ok (.aload_n 0, 1) := dk_42 (dk_at dksX5_nobody_2 8 rfl rfl)
theorem dX5_nobody_55 : decode cX5_nobody 55 = .ok (.iload 5, 2) := dk_21 5 (dk_at dksX5_nobody_2 9 rfl rfl)
theorem dX5_nobody_57 : decode cX5_nobody 57 = .ok (.iconst 3, 1) := dk_6 (dk_at dksX5_nobody_2 11 rfl rfl)
theorem dX5_nobody_58 : decode cX5_nobody 58 = .ok (.invokevirtual 79, 3) := dk_182 0 79 (dk_at dksX5_nobody_2 12 rfl rfl)
theorem dX5_nobody_61 : decode cX5_nobody 61 = .ok (.aload_n 0, 1) := dk_42 (dk_at dksX5_nobody_2 15 rfl rfl)
theorem dX5_nobody_62 : decode cX5_nobody 62 = .ok (.iload 5, 2) := dk_21 5 (dk_at dksX5_nobody_2 16 rfl rfl)
theorem dX5_nobody_64 : decode cX5_nobody 64 = .ok (.iconst 2, 1) := dk_5 (dk_at dksX5_nobody_2 18 rfl rfl)
theorem dX5_nobody_65 : decode cX5_nobody 65 = .ok (.invokevirtual 79, 3) := dk_182 0 79 (dk_at dksX5_nobody_2 19 rfl rfl)
theorem dX5_nobody_68 : decode cX5_nobody 68 = .ok (.isub, 1) := dk_100 (dk_at dksX5_nobody_2 22 rfl rfl)
theorem dX5_nobody_69 : decode cX5_nobody 69 = .ok (.i2l, 1) := dk_133 (dk_at dksX5_nobody_2 23 rfl rfl)
theorem dX5_nobody_70 : decode cX5_nobody 70 = .ok (.goto 11, 3) := dk_167 0 11 (dk_at dksX5_nobody_3 0 rfl rfl)
theorem dX5_nobody_73 : decode cX5_nobody 73 = .ok (.aload_n 0, 1) := dk_42 (dk_at dksX5_nobody_3 3 rfl rfl)
theorem dX5_nobody_74 : decode cX5_nobody 74 = .ok (.iload 5, 2) := dk_21 5 (dk_at dksX5_nobody_3 4 rfl rfl)
theorem dX5_nobody_76 : decode cX5_nobody 76 = .ok (.iconst 3, 1) := dk_6 (dk_at dksX5_nobody_3 6 rfl rfl)
theorem dX5_nobody_77 : decode cX5_nobody 77 = .ok (.invokevirtual 79, 3) := dk_182 0 79 (dk_at dksX5_nobody_3 7 rfl rfl)
theorem dX5_nobody_80 : decode cX5_nobody 80 = .ok (.i2l, 1) := dk_133 (dk_at dksX5_nobody_3 10 rfl rfl)
theorem dX5_nobody_81 : decode cX5_nobody 81 = .ok (.lmul, 1) := dk_105 (dk_at dksX5_nobody_3 11 rfl rfl)
theorem dX5_nobody_82 : decode cX5_nobody 82 = .ok (.lstore_n 3, 1) := dk_66 (dk_at dksX5_nobody_3 12 rfl rfl)
theorem dX5_nobody_83 : decode cX5_nobody 83 = .ok (.iinc 5 1, 3) := dk_132 5 1 (dk_at dksX5_nobody_3 13 rfl rfl)
theorem dX5_nobody_86 : decode cX5_nobody 86 = .ok (.goto (-81), 3) := dk_167 255 175 (dk_at dksX5_nobody_3 16 rfl rfl)
theorem dX5_nobody_89 : decode cX5_nobody 89 = .ok (.lload_n 3, 1) := dk_33 (dk_at dksX5_nobody_3 19 rfl rfl)
theorem dX5_nobody_90 : decode cX5_nobody 90 = .ok (.lreturn, 1) := dk_173 (dk_at dksX5_nobody_3 20 rfl rfl)
abbrev cX5_held : ByteArray := prog_20_method_4_code
def yX5_held : MethodName := ⟨RX5, "held", "(III)I"⟩
def dkwX5_held_0 : List UInt8 := [26, 27, 162, 0, 7, 27, 167, 0, 13, 26, 28, 164, 0, 7, 28, 167, 0, 4, 26, 172]
abbrev dktX5_held_0 : List UInt8 := dkwX5_held_0 ++ []
theorem dksX5_held_0 : cX5_held.data.toList.drop 0 = dktX5_held_0 := by decide +kernel
theorem dX5_held_0 : decode cX5_held 0 = .ok (.iload_n 0, 1) := dk_26 (dk_at dksX5_held_0 0 rfl rfl)
theorem dX5_held_1 : decode cX5_held 1 = .ok (.iload_n 1, 1) := dk_27 (dk_at dksX5_held_0 1 rfl rfl)
theorem dX5_held_2 : decode cX5_held 2 = .ok (.if_icmp .ge 7, 3) := dk_162 0 7 (dk_at dksX5_held_0 2 rfl rfl)
theorem dX5_held_5 : decode cX5_held 5 = .ok (.iload_n 1, 1) := dk_27 (dk_at dksX5_held_0 5 rfl rfl)
theorem dX5_held_6 : decode cX5_held 6 = .ok (.goto 13, 3) := dk_167 0 13 (dk_at dksX5_held_0 6 rfl rfl)
theorem dX5_held_9 : decode cX5_held 9 = .ok (.iload_n 0, 1) := dk_26 (dk_at dksX5_held_0 9 rfl rfl)
theorem dX5_held_10 : decode cX5_held 10 = .ok (.iload_n 2, 1) := dk_28 (dk_at dksX5_held_0 10 rfl rfl)
theorem dX5_held_11 : decode cX5_held 11 = .ok (.if_icmp .le 7, 3) := dk_164 0 7 (dk_at dksX5_held_0 11 rfl rfl)
theorem dX5_held_14 : decode cX5_held 14 = .ok (.iload_n 2, 1) := dk_28 (dk_at dksX5_held_0 14 rfl rfl)
theorem dX5_held_15 : decode cX5_held 15 = .ok (.goto 4, 3) := dk_167 0 4 (dk_at dksX5_held_0 15 rfl rfl)
theorem dX5_held_18 : decode cX5_held 18 = .ok (.iload_n 0, 1) := dk_26 (dk_at dksX5_held_0 18 rfl rfl)
theorem dX5_held_19 : decode cX5_held 19 = .ok (.ireturn, 1) := dk_172 (dk_at dksX5_held_0 19 rfl rfl)
abbrev cX5_mended : ByteArray := prog_20_method_55_code
def yX5_mended : MethodName := ⟨RX5, "mended", "(I)I"⟩
def dkwX5_mended_1 : List UInt8 := [4, 167, 0, 4, 3, 172]
abbrev dktX5_mended_1 : List UInt8 := dkwX5_mended_1 ++ []
def dkwX5_mended_0 : List UInt8 := [42, 27, 182, 0, 92, 154, 0, 11, 42, 4, 182, 0, 60, 167, 0, 16, 42, 27, 182, 0, 177, 153, 0, 7]
abbrev dktX5_mended_0 : List UInt8 := dkwX5_mended_0 ++ dktX5_mended_1
theorem dksX5_mended_0 : cX5_mended.data.toList.drop 0 = dktX5_mended_0 := by decide +kernel
theorem dksX5_mended_1 : cX5_mended.data.toList.drop 24 = dktX5_mended_1 := dk_seg dksX5_mended_0 24 rfl rfl
theorem dX5_mended_0 : decode cX5_mended 0 = .ok (.aload_n 0, 1) := dk_42 (dk_at dksX5_mended_0 0 rfl rfl)
theorem dX5_mended_1 : decode cX5_mended 1 = .ok (.iload_n 1, 1) := dk_27 (dk_at dksX5_mended_0 1 rfl rfl)
theorem dX5_mended_2 : decode cX5_mended 2 = .ok (.invokevirtual 92, 3) := dk_182 0 92 (dk_at dksX5_mended_0 2 rfl rfl)
theorem dX5_mended_5 : decode cX5_mended 5 = .ok (.ifCond .ne 11, 3) := dk_154 0 11 (dk_at dksX5_mended_0 5 rfl rfl)
theorem dX5_mended_8 : decode cX5_mended 8 = .ok (.aload_n 0, 1) := dk_42 (dk_at dksX5_mended_0 8 rfl rfl)
theorem dX5_mended_9 : decode cX5_mended 9 = .ok (.iconst 1, 1) := dk_4 (dk_at dksX5_mended_0 9 rfl rfl)
theorem dX5_mended_10 : decode cX5_mended 10 = .ok (.invokevirtual 60, 3) := dk_182 0 60 (dk_at dksX5_mended_0 10 rfl rfl)
theorem dX5_mended_13 : decode cX5_mended 13 = .ok (.goto 16, 3) := dk_167 0 16 (dk_at dksX5_mended_0 13 rfl rfl)
theorem dX5_mended_16 : decode cX5_mended 16 = .ok (.aload_n 0, 1) := dk_42 (dk_at dksX5_mended_0 16 rfl rfl)
theorem dX5_mended_17 : decode cX5_mended 17 = .ok (.iload_n 1, 1) := dk_27 (dk_at dksX5_mended_0 17 rfl rfl)
theorem dX5_mended_18 : decode cX5_mended 18 = .ok (.invokevirtual 177, 3) := dk_182 0 177 (dk_at dksX5_mended_0 18 rfl rfl)
theorem dX5_mended_21 : decode cX5_mended 21 = .ok (.ifCond .eq 7, 3) := dk_153 0 7 (dk_at dksX5_mended_0 21 rfl rfl)
theorem dX5_mended_24 : decode cX5_mended 24 = .ok (.iconst 1, 1) := dk_4 (dk_at dksX5_mended_1 0 rfl rfl)
theorem dX5_mended_25 : decode cX5_mended 25 = .ok (.goto 4, 3) := dk_167 0 4 (dk_at dksX5_mended_1 1 rfl rfl)
theorem dX5_mended_28 : decode cX5_mended 28 = .ok (.iconst 0, 1) := dk_3 (dk_at dksX5_mended_1 4 rfl rfl)
theorem dX5_mended_29 : decode cX5_mended 29 = .ok (.ireturn, 1) := dk_172 (dk_at dksX5_mended_1 5 rfl rfl)
abbrev cX5_isMended : ByteArray := prog_20_method_54_code
def yX5_isMended : MethodName := ⟨RX5, "isMended", "(I)Z"⟩
def dkwX5_isMended_5 : List UInt8 := [42, 180, 0, 7, 16, 10, 46, 79, 42, 4, 182, 0, 162, 153, 0, 7, 4, 167, 0, 4, 3, 172]
abbrev dktX5_isMended_5 : List UInt8 := dkwX5_isMended_5 ++ []
def dkwX5_isMended_4 : List UInt8 := [16, 99, 21, 4, 79, 42, 180, 0, 25, 16, 117, 42, 28, 4, 182, 0, 79, 79, 42, 180, 0, 25, 16, 114]
abbrev dktX5_isMended_4 : List UInt8 := dkwX5_isMended_4 ++ dktX5_isMended_5
def dkwX5_isMended_3 : List UInt8 := [180, 0, 25, 16, 118, 29, 79, 42, 180, 0, 25, 16, 115, 42, 27, 5, 182, 0, 51, 79, 42, 180, 0, 25]
abbrev dktX5_isMended_3 : List UInt8 := dkwX5_isMended_3 ++ dktX5_isMended_4
def dkwX5_isMended_2 : List UInt8 := [182, 0, 152, 154, 0, 18, 29, 16, 10, 108, 21, 4, 161, 0, 7, 4, 167, 0, 4, 3, 172, 42]
abbrev dktX5_isMended_2 : List UInt8 := dkwX5_isMended_2 ++ dktX5_isMended_3
def dkwX5_isMended_1 : List UInt8 := [5, 182, 0, 51, 16, 100, 159, 0, 14, 42, 28, 4, 182, 0, 79, 21, 4, 162, 0, 5, 3, 172, 42, 4]
abbrev dktX5_isMended_1 : List UInt8 := dkwX5_isMended_1 ++ dktX5_isMended_2
def dkwX5_isMended_0 : List UInt8 := [42, 27, 182, 0, 67, 61, 42, 28, 27, 182, 0, 73, 62, 42, 180, 0, 7, 16, 14, 46, 54, 4, 42, 27]
abbrev dktX5_isMended_0 : List UInt8 := dkwX5_isMended_0 ++ dktX5_isMended_1
theorem dksX5_isMended_0 : cX5_isMended.data.toList.drop 0 = dktX5_isMended_0 := by decide +kernel
theorem dksX5_isMended_1 : cX5_isMended.data.toList.drop 24 = dktX5_isMended_1 := dk_seg dksX5_isMended_0 24 rfl rfl
theorem dksX5_isMended_2 : cX5_isMended.data.toList.drop 48 = dktX5_isMended_2 := dk_seg dksX5_isMended_1 24 rfl rfl
theorem dksX5_isMended_3 : cX5_isMended.data.toList.drop 70 = dktX5_isMended_3 := dk_seg dksX5_isMended_2 22 rfl rfl
theorem dksX5_isMended_4 : cX5_isMended.data.toList.drop 94 = dktX5_isMended_4 := dk_seg dksX5_isMended_3 24 rfl rfl
theorem dksX5_isMended_5 : cX5_isMended.data.toList.drop 118 = dktX5_isMended_5 := dk_seg dksX5_isMended_4 24 rfl rfl
theorem dX5_isMended_0 : decode cX5_isMended 0 = .ok (.aload_n 0, 1) := dk_42 (dk_at dksX5_isMended_0 0 rfl rfl)
theorem dX5_isMended_1 : decode cX5_isMended 1 = .ok (.iload_n 1, 1) := dk_27 (dk_at dksX5_isMended_0 1 rfl rfl)
theorem dX5_isMended_2 : decode cX5_isMended 2 = .ok (.invokevirtual 67, 3) := dk_182 0 67 (dk_at dksX5_isMended_0 2 rfl rfl)
theorem dX5_isMended_5 : decode cX5_isMended 5 = .ok (.istore_n 2, 1) := dk_61 (dk_at dksX5_isMended_0 5 rfl rfl)
theorem dX5_isMended_6 : decode cX5_isMended 6 = .ok (.aload_n 0, 1) := dk_42 (dk_at dksX5_isMended_0 6 rfl rfl)
theorem dX5_isMended_7 : decode cX5_isMended 7 = .ok (.iload_n 2, 1) := dk_28 (dk_at dksX5_isMended_0 7 rfl rfl)
theorem dX5_isMended_8 : decode cX5_isMended 8 = .ok (.iload_n 1, 1) := dk_27 (dk_at dksX5_isMended_0 8 rfl rfl)
theorem dX5_isMended_9 : decode cX5_isMended 9 = .ok (.invokevirtual 73, 3) := dk_182 0 73 (dk_at dksX5_isMended_0 9 rfl rfl)
theorem dX5_isMended_12 : decode cX5_isMended 12 = .ok (.istore_n 3, 1) := dk_62 (dk_at dksX5_isMended_0 12 rfl rfl)
theorem dX5_isMended_13 : decode cX5_isMended 13 = .ok (.aload_n 0, 1) := dk_42 (dk_at dksX5_isMended_0 13 rfl rfl)
theorem dX5_isMended_14 : decode cX5_isMended 14 = .ok (.getfield 7, 3) := dk_180 0 7 (dk_at dksX5_isMended_0 14 rfl rfl)
theorem dX5_isMended_17 : decode cX5_isMended 17 = .ok (.bipush 14, 2) := dk_16 14 (dk_at dksX5_isMended_0 17 rfl rfl)
theorem dX5_isMended_19 : decode cX5_isMended 19 = .ok (.iaload, 1) := dk_46 (dk_at dksX5_isMended_0 19 rfl rfl)
theorem dX5_isMended_20 : decode cX5_isMended 20 = .ok (.istore 4, 2) := dk_54 4 (dk_at dksX5_isMended_0 20 rfl rfl)
theorem dX5_isMended_22 : decode cX5_isMended 22 = .ok (.aload_n 0, 1) := dk_42 (dk_at dksX5_isMended_0 22 rfl rfl)
theorem dX5_isMended_23 : decode cX5_isMended 23 = .ok (.iload_n 1, 1) := dk_27 (dk_at dksX5_isMended_0 23 rfl rfl)
theorem dX5_isMended_24 : decode cX5_isMended 24 = .ok (.iconst 2, 1) := dk_5 (dk_at dksX5_isMended_1 0 rfl rfl)
theorem dX5_isMended_25 : decode cX5_isMended 25 = .ok (.invokevirtual 51, 3) := dk_182 0 51 (dk_at dksX5_isMended_1 1 rfl rfl)
theorem dX5_isMended_28 : decode cX5_isMended 28 = .ok (.bipush 100, 2) := dk_16 100 (dk_at dksX5_isMended_1 4 rfl rfl)
theorem dX5_isMended_30 : decode cX5_isMended 30 = .ok (.if_icmp .eq 14, 3) := dk_159 0 14 (dk_at dksX5_isMended_1 6 rfl rfl)
theorem dX5_isMended_33 : decode cX5_isMended 33 = .ok (.aload_n 0, 1) := dk_42 (dk_at dksX5_isMended_1 9 rfl rfl)
theorem dX5_isMended_34 : decode cX5_isMended 34 = .ok (.iload_n 2, 1) := dk_28 (dk_at dksX5_isMended_1 10 rfl rfl)
theorem dX5_isMended_35 : decode cX5_isMended 35 = .ok (.iconst 1, 1) := dk_4 (dk_at dksX5_isMended_1 11 rfl rfl)
theorem dX5_isMended_36 : decode cX5_isMended 36 = .ok (.invokevirtual 79, 3) := dk_182 0 79 (dk_at dksX5_isMended_1 12 rfl rfl)
theorem dX5_isMended_39 : decode cX5_isMended 39 = .ok (.iload 4, 2) := dk_21 4 (dk_at dksX5_isMended_1 15 rfl rfl)
theorem dX5_isMended_41 : decode cX5_isMended 41 = .ok (.if_icmp .ge 5, 3) := dk_162 0 5 (dk_at dksX5_isMended_1 17 rfl rfl)
theorem dX5_isMended_44 : decode cX5_isMended 44 = .ok (.iconst 0, 1) := dk_3 (dk_at dksX5_isMended_1 20 rfl rfl)
theorem dX5_isMended_45 : decode cX5_isMended 45 = .ok (.ireturn, 1) := dk_172 (dk_at dksX5_isMended_1 21 rfl rfl)
theorem dX5_isMended_46 : decode cX5_isMended 46 = .ok (.aload_n 0, 1) := dk_42 (dk_at dksX5_isMended_1 22 rfl rfl)
theorem dX5_isMended_47 : decode cX5_isMended 47 = .ok (.iconst 1, 1) := dk_4 (dk_at dksX5_isMended_1 23 rfl rfl)
theorem dX5_isMended_48 : decode cX5_isMended 48 = .ok (.invokevirtual 152, 3) := dk_182 0 152 (dk_at dksX5_isMended_2 0 rfl rfl)
theorem dX5_isMended_51 : decode cX5_isMended 51 = .ok (.ifCond .ne 18, 3) := dk_154 0 18 (dk_at dksX5_isMended_2 3 rfl rfl)
theorem dX5_isMended_54 : decode cX5_isMended 54 = .ok (.iload_n 3, 1) := dk_29 (dk_at dksX5_isMended_2 6 rfl rfl)
theorem dX5_isMended_55 : decode cX5_isMended 55 = .ok (.bipush 10, 2) := dk_16 10 (dk_at dksX5_isMended_2 7 rfl rfl)
theorem dX5_isMended_57 : decode cX5_isMended 57 = .ok (.idiv, 1) := dk_108 (dk_at dksX5_isMended_2 9 rfl rfl)
theorem dX5_isMended_58 : decode cX5_isMended 58 = .ok (.iload 4, 2) := dk_21 4 (dk_at dksX5_isMended_2 10 rfl rfl)
theorem dX5_isMended_60 : decode cX5_isMended 60 = .ok (.if_icmp .lt 7, 3) := dk_161 0 7 (dk_at dksX5_isMended_2 12 rfl rfl)
theorem dX5_isMended_63 : decode cX5_isMended 63 = .ok (.iconst 1, 1) := dk_4 (dk_at dksX5_isMended_2 15 rfl rfl)
theorem dX5_isMended_64 : decode cX5_isMended 64 = .ok (.goto 4, 3) := dk_167 0 4 (dk_at dksX5_isMended_2 16 rfl rfl)
theorem dX5_isMended_67 : decode cX5_isMended 67 = .ok (.iconst 0, 1) := dk_3 (dk_at dksX5_isMended_2 19 rfl rfl)
theorem dX5_isMended_68 : decode cX5_isMended 68 = .ok (.ireturn, 1) := dk_172 (dk_at dksX5_isMended_2 20 rfl rfl)
theorem dX5_isMended_69 : decode cX5_isMended 69 = .ok (.aload_n 0, 1) := dk_42 (dk_at dksX5_isMended_2 21 rfl rfl)
theorem dX5_isMended_70 : decode cX5_isMended 70 = .ok (.getfield 25, 3) := dk_180 0 25 (dk_at dksX5_isMended_3 0 rfl rfl)
theorem dX5_isMended_73 : decode cX5_isMended 73 = .ok (.bipush 118, 2) := dk_16 118 (dk_at dksX5_isMended_3 3 rfl rfl)
theorem dX5_isMended_75 : decode cX5_isMended 75 = .ok (.iload_n 3, 1) := dk_29 (dk_at dksX5_isMended_3 5 rfl rfl)
theorem dX5_isMended_76 : decode cX5_isMended 76 = .ok (.iastore, 1) := dk_79 (dk_at dksX5_isMended_3 6 rfl rfl)
theorem dX5_isMended_77 : decode cX5_isMended 77 = .ok (.aload_n 0, 1) := dk_42 (dk_at dksX5_isMended_3 7 rfl rfl)
theorem dX5_isMended_78 : decode cX5_isMended 78 = .ok (.getfield 25, 3) := dk_180 0 25 (dk_at dksX5_isMended_3 8 rfl rfl)
theorem dX5_isMended_81 : decode cX5_isMended 81 = .ok (.bipush 115, 2) := dk_16 115 (dk_at dksX5_isMended_3 11 rfl rfl)
theorem dX5_isMended_83 : decode cX5_isMended 83 = .ok (.aload_n 0, 1) := dk_42 (dk_at dksX5_isMended_3 13 rfl rfl)
theorem dX5_isMended_84 : decode cX5_isMended 84 = .ok (.iload_n 1, 1) := dk_27 (dk_at dksX5_isMended_3 14 rfl rfl)
theorem dX5_isMended_85 : decode cX5_isMended 85 = .ok (.iconst 2, 1) := dk_5 (dk_at dksX5_isMended_3 15 rfl rfl)
theorem dX5_isMended_86 : decode cX5_isMended 86 = .ok (.invokevirtual 51, 3) := dk_182 0 51 (dk_at dksX5_isMended_3 16 rfl rfl)
theorem dX5_isMended_89 : decode cX5_isMended 89 = .ok (.iastore, 1) := dk_79 (dk_at dksX5_isMended_3 19 rfl rfl)
theorem dX5_isMended_90 : decode cX5_isMended 90 = .ok (.aload_n 0, 1) := dk_42 (dk_at dksX5_isMended_3 20 rfl rfl)
theorem dX5_isMended_91 : decode cX5_isMended 91 = .ok (.getfield 25, 3) := dk_180 0 25 (dk_at dksX5_isMended_3 21 rfl rfl)
theorem dX5_isMended_94 : decode cX5_isMended 94 = .ok (.bipush 99, 2) := dk_16 99 (dk_at dksX5_isMended_4 0 rfl rfl)
theorem dX5_isMended_96 : decode cX5_isMended 96 = .ok (.iload 4, 2) := dk_21 4 (dk_at dksX5_isMended_4 2 rfl rfl)
theorem dX5_isMended_98 : decode cX5_isMended 98 = .ok (.iastore, 1) := dk_79 (dk_at dksX5_isMended_4 4 rfl rfl)
theorem dX5_isMended_99 : decode cX5_isMended 99 = .ok (.aload_n 0, 1) := dk_42 (dk_at dksX5_isMended_4 5 rfl rfl)
theorem dX5_isMended_100 : decode cX5_isMended 100 = .ok (.getfield 25, 3) := dk_180 0 25 (dk_at dksX5_isMended_4 6 rfl rfl)
theorem dX5_isMended_103 : decode cX5_isMended 103 = .ok (.bipush 117, 2) := dk_16 117 (dk_at dksX5_isMended_4 9 rfl rfl)
theorem dX5_isMended_105 : decode cX5_isMended 105 = .ok (.aload_n 0, 1) := dk_42 (dk_at dksX5_isMended_4 11 rfl rfl)
theorem dX5_isMended_106 : decode cX5_isMended 106 = .ok (.iload_n 2, 1) := dk_28 (dk_at dksX5_isMended_4 12 rfl rfl)
theorem dX5_isMended_107 : decode cX5_isMended 107 = .ok (.iconst 1, 1) := dk_4 (dk_at dksX5_isMended_4 13 rfl rfl)
theorem dX5_isMended_108 : decode cX5_isMended 108 = .ok (.invokevirtual 79, 3) := dk_182 0 79 (dk_at dksX5_isMended_4 14 rfl rfl)
theorem dX5_isMended_111 : decode cX5_isMended 111 = .ok (.iastore, 1) := dk_79 (dk_at dksX5_isMended_4 17 rfl rfl)
theorem dX5_isMended_112 : decode cX5_isMended 112 = .ok (.aload_n 0, 1) := dk_42 (dk_at dksX5_isMended_4 18 rfl rfl)
theorem dX5_isMended_113 : decode cX5_isMended 113 = .ok (.getfield 25, 3) := dk_180 0 25 (dk_at dksX5_isMended_4 19 rfl rfl)
theorem dX5_isMended_116 : decode cX5_isMended 116 = .ok (.bipush 114, 2) := dk_16 114 (dk_at dksX5_isMended_4 22 rfl rfl)
theorem dX5_isMended_118 : decode cX5_isMended 118 = .ok (.aload_n 0, 1) := dk_42 (dk_at dksX5_isMended_5 0 rfl rfl)
theorem dX5_isMended_119 : decode cX5_isMended 119 = .ok (.getfield 7, 3) := dk_180 0 7 (dk_at dksX5_isMended_5 1 rfl rfl)
theorem dX5_isMended_122 : decode cX5_isMended 122 = .ok (.bipush 10, 2) := dk_16 10 (dk_at dksX5_isMended_5 4 rfl rfl)
theorem dX5_isMended_124 : decode cX5_isMended 124 = .ok (.iaload, 1) := dk_46 (dk_at dksX5_isMended_5 6 rfl rfl)
theorem dX5_isMended_125 : decode cX5_isMended 125 = .ok (.iastore, 1) := dk_79 (dk_at dksX5_isMended_5 7 rfl rfl)
theorem dX5_isMended_126 : decode cX5_isMended 126 = .ok (.aload_n 0, 1) := dk_42 (dk_at dksX5_isMended_5 8 rfl rfl)
theorem dX5_isMended_127 : decode cX5_isMended 127 = .ok (.iconst 1, 1) := dk_4 (dk_at dksX5_isMended_5 9 rfl rfl)
theorem dX5_isMended_128 : decode cX5_isMended 128 = .ok (.invokevirtual 162, 3) := dk_182 0 162 (dk_at dksX5_isMended_5 10 rfl rfl)
theorem dX5_isMended_131 : decode cX5_isMended 131 = .ok (.ifCond .eq 7, 3) := dk_153 0 7 (dk_at dksX5_isMended_5 13 rfl rfl)
theorem dX5_isMended_134 : decode cX5_isMended 134 = .ok (.iconst 1, 1) := dk_4 (dk_at dksX5_isMended_5 16 rfl rfl)
theorem dX5_isMended_135 : decode cX5_isMended 135 = .ok (.goto 4, 3) := dk_167 0 4 (dk_at dksX5_isMended_5 17 rfl rfl)
theorem dX5_isMended_138 : decode cX5_isMended 138 = .ok (.iconst 0, 1) := dk_3 (dk_at dksX5_isMended_5 20 rfl rfl)
theorem dX5_isMended_139 : decode cX5_isMended 139 = .ok (.ireturn, 1) := dk_172 (dk_at dksX5_isMended_5 21 rfl rfl)
abbrev cX5_years : ByteArray := prog_20_method_64_code
def yX5_years : MethodName := ⟨RX5, "years", "(I)I"⟩
def dkwX5_years_1 : List UInt8 := [17, 39, 15, 164, 0, 9, 42, 6, 182, 0, 60, 172, 42, 27, 182, 0, 204, 42, 180, 0, 7, 7, 46, 172]
abbrev dktX5_years_1 : List UInt8 := dkwX5_years_1 ++ []
def dkwX5_years_0 : List UInt8 := [27, 4, 16, 40, 184, 0, 47, 154, 0, 9, 42, 4, 182, 0, 60, 172, 42, 180, 0, 7, 6, 46, 27, 96]
abbrev dktX5_years_0 : List UInt8 := dkwX5_years_0 ++ dktX5_years_1
theorem dksX5_years_0 : cX5_years.data.toList.drop 0 = dktX5_years_0 := by decide +kernel
theorem dksX5_years_1 : cX5_years.data.toList.drop 24 = dktX5_years_1 := dk_seg dksX5_years_0 24 rfl rfl
theorem dX5_years_0 : decode cX5_years 0 = .ok (.iload_n 1, 1) := dk_27 (dk_at dksX5_years_0 0 rfl rfl)
theorem dX5_years_1 : decode cX5_years 1 = .ok (.iconst 1, 1) := dk_4 (dk_at dksX5_years_0 1 rfl rfl)
theorem dX5_years_2 : decode cX5_years 2 = .ok (.bipush 40, 2) := dk_16 40 (dk_at dksX5_years_0 2 rfl rfl)
theorem dX5_years_4 : decode cX5_years 4 = .ok (.invokestatic 47, 3) := dk_184 0 47 (dk_at dksX5_years_0 4 rfl rfl)
theorem dX5_years_7 : decode cX5_years 7 = .ok (.ifCond .ne 9, 3) := dk_154 0 9 (dk_at dksX5_years_0 7 rfl rfl)
theorem dX5_years_10 : decode cX5_years 10 = .ok (.aload_n 0, 1) := dk_42 (dk_at dksX5_years_0 10 rfl rfl)
theorem dX5_years_11 : decode cX5_years 11 = .ok (.iconst 1, 1) := dk_4 (dk_at dksX5_years_0 11 rfl rfl)
theorem dX5_years_12 : decode cX5_years 12 = .ok (.invokevirtual 60, 3) := dk_182 0 60 (dk_at dksX5_years_0 12 rfl rfl)
theorem dX5_years_15 : decode cX5_years 15 = .ok (.ireturn, 1) := dk_172 (dk_at dksX5_years_0 15 rfl rfl)
theorem dX5_years_16 : decode cX5_years 16 = .ok (.aload_n 0, 1) := dk_42 (dk_at dksX5_years_0 16 rfl rfl)
theorem dX5_years_17 : decode cX5_years 17 = .ok (.getfield 7, 3) := dk_180 0 7 (dk_at dksX5_years_0 17 rfl rfl)
theorem dX5_years_20 : decode cX5_years 20 = .ok (.iconst 3, 1) := dk_6 (dk_at dksX5_years_0 20 rfl rfl)
theorem dX5_years_21 : decode cX5_years 21 = .ok (.iaload, 1) := dk_46 (dk_at dksX5_years_0 21 rfl rfl)
theorem dX5_years_22 : decode cX5_years 22 = .ok (.iload_n 1, 1) := dk_27 (dk_at dksX5_years_0 22 rfl rfl)
theorem dX5_years_23 : decode cX5_years 23 = .ok (.iadd, 1) := dk_96 (dk_at dksX5_years_0 23 rfl rfl)
theorem dX5_years_24 : decode cX5_years 24 = .ok (.sipush 9999, 3) := dk_17 39 15 (dk_at dksX5_years_1 0 rfl rfl)
theorem dX5_years_27 : decode cX5_years 27 = .ok (.if_icmp .le 9, 3) := dk_164 0 9 (dk_at dksX5_years_1 3 rfl rfl)
theorem dX5_years_30 : decode cX5_years 30 = .ok (.aload_n 0, 1) := dk_42 (dk_at dksX5_years_1 6 rfl rfl)
theorem dX5_years_31 : decode cX5_years 31 = .ok (.iconst 3, 1) := dk_6 (dk_at dksX5_years_1 7 rfl rfl)
theorem dX5_years_32 : decode cX5_years 32 = .ok (.invokevirtual 60, 3) := dk_182 0 60 (dk_at dksX5_years_1 8 rfl rfl)
theorem dX5_years_35 : decode cX5_years 35 = .ok (.ireturn, 1) := dk_172 (dk_at dksX5_years_1 11 rfl rfl)
theorem dX5_years_36 : decode cX5_years 36 = .ok (.aload_n 0, 1) := dk_42 (dk_at dksX5_years_1 12 rfl rfl)
theorem dX5_years_37 : decode cX5_years 37 = .ok (.iload_n 1, 1) := dk_27 (dk_at dksX5_years_1 13 rfl rfl)
theorem dX5_years_38 : decode cX5_years 38 = .ok (.invokevirtual 204, 3) := dk_182 0 204 (dk_at dksX5_years_1 14 rfl rfl)
theorem dX5_years_41 : decode cX5_years 41 = .ok (.aload_n 0, 1) := dk_42 (dk_at dksX5_years_1 17 rfl rfl)
theorem dX5_years_42 : decode cX5_years 42 = .ok (.getfield 7, 3) := dk_180 0 7 (dk_at dksX5_years_1 18 rfl rfl)
theorem dX5_years_45 : decode cX5_years 45 = .ok (.iconst 4, 1) := dk_7 (dk_at dksX5_years_1 21 rfl rfl)
theorem dX5_years_46 : decode cX5_years 46 = .ok (.iaload, 1) := dk_46 (dk_at dksX5_years_1 22 rfl rfl)
theorem dX5_years_47 : decode cX5_years 47 = .ok (.ireturn, 1) := dk_172 (dk_at dksX5_years_1 23 rfl rfl)
abbrev cX5_go : ByteArray := prog_20_method_63_code
def yX5_go : MethodName := ⟨RX5, "go", "(I)V"⟩
def dkwX5_go_0 : List UInt8 := [3, 61, 28, 27, 162, 0, 13, 42, 182, 0, 201, 132, 2, 1, 167, 255, 244, 177]
abbrev dktX5_go_0 : List UInt8 := dkwX5_go_0 ++ []
theorem dksX5_go_0 : cX5_go.data.toList.drop 0 = dktX5_go_0 := by decide +kernel
theorem dX5_go_0 : decode cX5_go 0 = .ok (.iconst 0, 1) := dk_3 (dk_at dksX5_go_0 0 rfl rfl)
theorem dX5_go_1 : decode cX5_go 1 = .ok (.istore_n 2, 1) := dk_61 (dk_at dksX5_go_0 1 rfl rfl)
theorem dX5_go_2 : decode cX5_go 2 = .ok (.iload_n 2, 1) := dk_28 (dk_at dksX5_go_0 2 rfl rfl)
theorem dX5_go_3 : decode cX5_go 3 = .ok (.iload_n 1, 1) := dk_27 (dk_at dksX5_go_0 3 rfl rfl)
theorem dX5_go_4 : decode cX5_go 4 = .ok (.if_icmp .ge 13, 3) := dk_162 0 13 (dk_at dksX5_go_0 4 rfl rfl)
theorem dX5_go_7 : decode cX5_go 7 = .ok (.aload_n 0, 1) := dk_42 (dk_at dksX5_go_0 7 rfl rfl)
theorem dX5_go_8 : decode cX5_go 8 = .ok (.invokevirtual 201, 3) := dk_182 0 201 (dk_at dksX5_go_0 8 rfl rfl)
theorem dX5_go_11 : decode cX5_go 11 = .ok (.iinc 2 1, 3) := dk_132 2 1 (dk_at dksX5_go_0 11 rfl rfl)
theorem dX5_go_14 : decode cX5_go 14 = .ok (.goto (-12), 3) := dk_167 255 244 (dk_at dksX5_go_0 14 rfl rfl)
theorem dX5_go_17 : decode cX5_go 17 = .ok (.return_, 1) := dk_177 (dk_at dksX5_go_0 17 rfl rfl)
abbrev cX5_year : ByteArray := prog_20_method_62_code
def yX5_year : MethodName := ⟨RX5, "year", "()V"⟩
def dkwX5_year_5 : List UInt8 := [180, 0, 7, 6, 92, 46, 4, 96, 79, 177]
abbrev dktX5_year_5 : List UInt8 := dkwX5_year_5 ++ []
def dkwX5_year_4 : List UInt8 := [180, 0, 7, 4, 46, 162, 0, 14, 42, 27, 182, 0, 195, 132, 1, 1, 167, 255, 238, 42, 182, 0, 198, 42]
abbrev dktX5_year_4 : List UInt8 := dkwX5_year_4 ++ dktX5_year_5
def dkwX5_year_3 : List UInt8 := [27, 6, 182, 0, 51, 154, 0, 8, 42, 27, 182, 0, 192, 132, 1, 1, 167, 255, 229, 3, 60, 27, 42]
abbrev dktX5_year_3 : List UInt8 := dkwX5_year_3 ++ dktX5_year_4
def dkwX5_year_2 : List UInt8 := [42, 27, 182, 0, 188, 132, 1, 1, 167, 255, 238, 3, 60, 27, 42, 180, 0, 7, 4, 46, 162, 0, 23, 42]
abbrev dktX5_year_2 : List UInt8 := dkwX5_year_2 ++ dktX5_year_3
def dkwX5_year_1 : List UInt8 := [42, 27, 182, 0, 174, 79, 132, 1, 1, 167, 255, 225, 3, 60, 27, 42, 180, 0, 7, 4, 46, 162, 0, 14]
abbrev dktX5_year_1 : List UInt8 := dkwX5_year_1 ++ dktX5_year_2
def dkwX5_year_0 : List UInt8 := [3, 60, 27, 42, 180, 0, 7, 4, 46, 162, 0, 27, 42, 180, 0, 7, 16, 44, 7, 27, 104, 96, 4, 96]
abbrev dktX5_year_0 : List UInt8 := dkwX5_year_0 ++ dktX5_year_1
theorem dksX5_year_0 : cX5_year.data.toList.drop 0 = dktX5_year_0 := by decide +kernel
theorem dksX5_year_1 : cX5_year.data.toList.drop 24 = dktX5_year_1 := dk_seg dksX5_year_0 24 rfl rfl
theorem dksX5_year_2 : cX5_year.data.toList.drop 48 = dktX5_year_2 := dk_seg dksX5_year_1 24 rfl rfl
theorem dksX5_year_3 : cX5_year.data.toList.drop 72 = dktX5_year_3 := dk_seg dksX5_year_2 24 rfl rfl
theorem dksX5_year_4 : cX5_year.data.toList.drop 95 = dktX5_year_4 := dk_seg dksX5_year_3 23 rfl rfl
theorem dksX5_year_5 : cX5_year.data.toList.drop 119 = dktX5_year_5 := dk_seg dksX5_year_4 24 rfl rfl
theorem dX5_year_0 : decode cX5_year 0 = .ok (.iconst 0, 1) := dk_3 (dk_at dksX5_year_0 0 rfl rfl)
theorem dX5_year_1 : decode cX5_year 1 = .ok (.istore_n 1, 1) := dk_60 (dk_at dksX5_year_0 1 rfl rfl)
theorem dX5_year_2 : decode cX5_year 2 = .ok (.iload_n 1, 1) := dk_27 (dk_at dksX5_year_0 2 rfl rfl)
theorem dX5_year_3 : decode cX5_year 3 = .ok (.aload_n 0, 1) := dk_42 (dk_at dksX5_year_0 3 rfl rfl)
theorem dX5_year_4 : decode cX5_year 4 = .ok (.getfield 7, 3) := dk_180 0 7 (dk_at dksX5_year_0 4 rfl rfl)
theorem dX5_year_7 : decode cX5_year 7 = .ok (.iconst 1, 1) := dk_4 (dk_at dksX5_year_0 7 rfl rfl)
theorem dX5_year_8 : decode cX5_year 8 = .ok (.iaload, 1) := dk_46 (dk_at dksX5_year_0 8 rfl rfl)
theorem dX5_year_9 : decode cX5_year 9 = .ok (.if_icmp .ge 27, 3) := dk_162 0 27 (dk_at dksX5_year_0 9 rfl rfl)
theorem dX5_year_12 : decode cX5_year 12 = .ok (.aload_n 0, 1) := dk_42 (dk_at dksX5_year_0 12 rfl rfl)
theorem dX5_year_13 : decode cX5_year 13 = .ok (.getfield 7, 3) := dk_180 0 7 (dk_at dksX5_year_0 13 rfl rfl)
theorem dX5_year_16 : decode cX5_year 16 = .ok (.bipush 44, 2) := dk_16 44 (dk_at dksX5_year_0 16 rfl rfl)
theorem dX5_year_18 : decode cX5_year 18 = .ok (.iconst 4, 1) := dk_7 (dk_at dksX5_year_0 18 rfl rfl)
theorem dX5_year_19 : decode cX5_year 19 = .ok (.iload_n 1, 1) := dk_27 (dk_at dksX5_year_0 19 rfl rfl)
theorem dX5_year_20 : decode cX5_year 20 = .ok (.imul, 1) := dk_104 (dk_at dksX5_year_0 20 rfl rfl)
theorem dX5_year_21 : decode cX5_year 21 = .ok (.iadd, 1) := dk_96 (dk_at dksX5_year_0 21 rfl rfl)
theorem dX5_year_22 : decode cX5_year 22 = .ok (.iconst 1, 1) := dk_4 (dk_at dksX5_year_0 22 rfl rfl)
theorem dX5_year_23 : decode cX5_year 23 = .ok (.iadd, 1) := dk_96 (dk_at dksX5_year_0 23 rfl rfl)
theorem dX5_year_24 : decode cX5_year 24 = .ok (.aload_n 0, 1) := dk_42 (dk_at dksX5_year_1 0 rfl rfl)
theorem dX5_year_25 : decode cX5_year 25 = .ok (.iload_n 1, 1) := dk_27 (dk_at dksX5_year_1 1 rfl rfl)
theorem dX5_year_26 : decode cX5_year 26 = .ok (.invokevirtual 174, 3) := dk_182 0 174 (dk_at dksX5_year_1 2 rfl rfl)
theorem dX5_year_29 : decode cX5_year 29 = .ok (.iastore, 1) := dk_79 (dk_at dksX5_year_1 5 rfl rfl)
theorem dX5_year_30 : decode cX5_year 30 = .ok (.iinc 1 1, 3) := dk_132 1 1 (dk_at dksX5_year_1 6 rfl rfl)
theorem dX5_year_33 : decode cX5_year 33 = .ok (.goto (-31), 3) := dk_167 255 225 (dk_at dksX5_year_1 9 rfl rfl)
theorem dX5_year_36 : decode cX5_year 36 = .ok (.iconst 0, 1) := dk_3 (dk_at dksX5_year_1 12 rfl rfl)
theorem dX5_year_37 : decode cX5_year 37 = .ok (.istore_n 1, 1) := dk_60 (dk_at dksX5_year_1 13 rfl rfl)
theorem dX5_year_38 : decode cX5_year 38 = .ok (.iload_n 1, 1) := dk_27 (dk_at dksX5_year_1 14 rfl rfl)
theorem dX5_year_39 : decode cX5_year 39 = .ok (.aload_n 0, 1) := dk_42 (dk_at dksX5_year_1 15 rfl rfl)
theorem dX5_year_40 : decode cX5_year 40 = .ok (.getfield 7, 3) := dk_180 0 7 (dk_at dksX5_year_1 16 rfl rfl)
theorem dX5_year_43 : decode cX5_year 43 = .ok (.iconst 1, 1) := dk_4 (dk_at dksX5_year_1 19 rfl rfl)
theorem dX5_year_44 : decode cX5_year 44 = .ok (.iaload, 1) := dk_46 (dk_at dksX5_year_1 20 rfl rfl)
theorem dX5_year_45 : decode cX5_year 45 = .ok (.if_icmp .ge 14, 3) := dk_162 0 14 (dk_at dksX5_year_1 21 rfl rfl)
theorem dX5_year_48 : decode cX5_year 48 = .ok (.aload_n 0, 1) := dk_42 (dk_at dksX5_year_2 0 rfl rfl)
theorem dX5_year_49 : decode cX5_year 49 = .ok (.iload_n 1, 1) := dk_27 (dk_at dksX5_year_2 1 rfl rfl)
theorem dX5_year_50 : decode cX5_year 50 = .ok (.invokevirtual 188, 3) := dk_182 0 188 (dk_at dksX5_year_2 2 rfl rfl)
theorem dX5_year_53 : decode cX5_year 53 = .ok (.iinc 1 1, 3) := dk_132 1 1 (dk_at dksX5_year_2 5 rfl rfl)
theorem dX5_year_56 : decode cX5_year 56 = .ok (.goto (-18), 3) := dk_167 255 238 (dk_at dksX5_year_2 8 rfl rfl)
theorem dX5_year_59 : decode cX5_year 59 = .ok (.iconst 0, 1) := dk_3 (dk_at dksX5_year_2 11 rfl rfl)
theorem dX5_year_60 : decode cX5_year 60 = .ok (.istore_n 1, 1) := dk_60 (dk_at dksX5_year_2 12 rfl rfl)
theorem dX5_year_61 : decode cX5_year 61 = .ok (.iload_n 1, 1) := dk_27 (dk_at dksX5_year_2 13 rfl rfl)
theorem dX5_year_62 : decode cX5_year 62 = .ok (.aload_n 0, 1) := dk_42 (dk_at dksX5_year_2 14 rfl rfl)
theorem dX5_year_63 : decode cX5_year 63 = .ok (.getfield 7, 3) := dk_180 0 7 (dk_at dksX5_year_2 15 rfl rfl)
theorem dX5_year_66 : decode cX5_year 66 = .ok (.iconst 1, 1) := dk_4 (dk_at dksX5_year_2 18 rfl rfl)
theorem dX5_year_67 : decode cX5_year 67 = .ok (.iaload, 1) := dk_46 (dk_at dksX5_year_2 19 rfl rfl)
theorem dX5_year_68 : decode cX5_year 68 = .ok (.if_icmp .ge 23, 3) := dk_162 0 23 (dk_at dksX5_year_2 20 rfl rfl)
theorem dX5_year_71 : decode cX5_year 71 = .ok (.aload_n 0, 1) := dk_42 (dk_at dksX5_year_2 23 rfl rfl)
theorem dX5_year_72 : decode cX5_year 72 = .ok (.iload_n 1, 1) := dk_27 (dk_at dksX5_year_3 0 rfl rfl)
theorem dX5_year_73 : decode cX5_year 73 = .ok (.iconst 3, 1) := dk_6 (dk_at dksX5_year_3 1 rfl rfl)
theorem dX5_year_74 : decode cX5_year 74 = .ok (.invokevirtual 51, 3) := dk_182 0 51 (dk_at dksX5_year_3 2 rfl rfl)
theorem dX5_year_77 : decode cX5_year 77 = .ok (.ifCond .ne 8, 3) := dk_154 0 8 (dk_at dksX5_year_3 5 rfl rfl)
theorem dX5_year_80 : decode cX5_year 80 = .ok (.aload_n 0, 1) := dk_42 (dk_at dksX5_year_3 8 rfl rfl)
theorem dX5_year_81 : decode cX5_year 81 = .ok (.iload_n 1, 1) := dk_27 (dk_at dksX5_year_3 9 rfl rfl)
theorem dX5_year_82 : decode cX5_year 82 = .ok (.invokevirtual 192, 3) := dk_182 0 192 (dk_at dksX5_year_3 10 rfl rfl)
theorem dX5_year_85 : decode cX5_year 85 = .ok (.iinc 1 1, 3) := dk_132 1 1 (dk_at dksX5_year_3 13 rfl rfl)
theorem dX5_year_88 : decode cX5_year 88 = .ok (.goto (-27), 3) := dk_167 255 229 (dk_at dksX5_year_3 16 rfl rfl)
theorem dX5_year_91 : decode cX5_year 91 = .ok (.iconst 0, 1) := dk_3 (dk_at dksX5_year_3 19 rfl rfl)
theorem dX5_year_92 : decode cX5_year 92 = .ok (.istore_n 1, 1) := dk_60 (dk_at dksX5_year_3 20 rfl rfl)
theorem dX5_year_93 : decode cX5_year 93 = .ok (.iload_n 1, 1) := dk_27 (dk_at dksX5_year_3 21 rfl rfl)
theorem dX5_year_94 : decode cX5_year 94 = .ok (.aload_n 0, 1) := dk_42 (dk_at dksX5_year_3 22 rfl rfl)
theorem dX5_year_95 : decode cX5_year 95 = .ok (.getfield 7, 3) := dk_180 0 7 (dk_at dksX5_year_4 0 rfl rfl)
theorem dX5_year_98 : decode cX5_year 98 = .ok (.iconst 1, 1) := dk_4 (dk_at dksX5_year_4 3 rfl rfl)
theorem dX5_year_99 : decode cX5_year 99 = .ok (.iaload, 1) := dk_46 (dk_at dksX5_year_4 4 rfl rfl)
theorem dX5_year_100 : decode cX5_year 100 = .ok (.if_icmp .ge 14, 3) := dk_162 0 14 (dk_at dksX5_year_4 5 rfl rfl)
theorem dX5_year_103 : decode cX5_year 103 = .ok (.aload_n 0, 1) := dk_42 (dk_at dksX5_year_4 8 rfl rfl)
theorem dX5_year_104 : decode cX5_year 104 = .ok (.iload_n 1, 1) := dk_27 (dk_at dksX5_year_4 9 rfl rfl)
theorem dX5_year_105 : decode cX5_year 105 = .ok (.invokevirtual 195, 3) := dk_182 0 195 (dk_at dksX5_year_4 10 rfl rfl)
theorem dX5_year_108 : decode cX5_year 108 = .ok (.iinc 1 1, 3) := dk_132 1 1 (dk_at dksX5_year_4 13 rfl rfl)
theorem dX5_year_111 : decode cX5_year 111 = .ok (.goto (-18), 3) := dk_167 255 238 (dk_at dksX5_year_4 16 rfl rfl)
theorem dX5_year_114 : decode cX5_year 114 = .ok (.aload_n 0, 1) := dk_42 (dk_at dksX5_year_4 19 rfl rfl)
theorem dX5_year_115 : decode cX5_year 115 = .ok (.invokevirtual 198, 3) := dk_182 0 198 (dk_at dksX5_year_4 20 rfl rfl)
theorem dX5_year_118 : decode cX5_year 118 = .ok (.aload_n 0, 1) := dk_42 (dk_at dksX5_year_4 23 rfl rfl)
theorem dX5_year_119 : decode cX5_year 119 = .ok (.getfield 7, 3) := dk_180 0 7 (dk_at dksX5_year_5 0 rfl rfl)
theorem dX5_year_122 : decode cX5_year 122 = .ok (.iconst 3, 1) := dk_6 (dk_at dksX5_year_5 3 rfl rfl)
theorem dX5_year_123 : decode cX5_year 123 = .ok (.dup2, 1) := dk_92 (dk_at dksX5_year_5 4 rfl rfl)
theorem dX5_year_124 : decode cX5_year 124 = .ok (.iaload, 1) := dk_46 (dk_at dksX5_year_5 5 rfl rfl)
theorem dX5_year_125 : decode cX5_year 125 = .ok (.iconst 1, 1) := dk_4 (dk_at dksX5_year_5 6 rfl rfl)
theorem dX5_year_126 : decode cX5_year 126 = .ok (.iadd, 1) := dk_96 (dk_at dksX5_year_5 7 rfl rfl)
theorem dX5_year_127 : decode cX5_year 127 = .ok (.iastore, 1) := dk_79 (dk_at dksX5_year_5 8 rfl rfl)
theorem dX5_year_128 : decode cX5_year 128 = .ok (.return_, 1) := dk_177 (dk_at dksX5_year_5 9 rfl rfl)
abbrev cX5_pays : ByteArray := prog_20_method_58_code
def yX5_pays : MethodName := ⟨RX5, "pays", "(I)V"⟩
def dkwX5_pays_4 : List UInt8 := [21, 4, 96, 79, 177]
abbrev dktX5_pays_4 : List UInt8 := dkwX5_pays_4 ++ []
def dkwX5_pays_3 : List UInt8 := [18, 181, 42, 180, 0, 7, 8, 46, 100, 164, 0, 8, 18, 181, 167, 0, 12, 42, 180, 0, 7, 8, 46]
abbrev dktX5_pays_3 : List UInt8 := dkwX5_pays_3 ++ dktX5_pays_4
def dkwX5_pays_2 : List UInt8 := [180, 0, 7, 16, 20, 7, 28, 104, 96, 4, 96, 92, 46, 21, 4, 100, 79, 42, 180, 0, 7, 8, 21, 4]
abbrev dktX5_pays_2 : List UInt8 := dkwX5_pays_2 ++ dktX5_pays_3
def dkwX5_pays_1 : List UInt8 := [29, 42, 28, 4, 182, 0, 79, 162, 0, 7, 29, 167, 0, 9, 42, 28, 4, 182, 0, 79, 54, 4, 42]
abbrev dktX5_pays_1 : List UInt8 := dkwX5_pays_1 ++ dktX5_pays_2
def dkwX5_pays_0 : List UInt8 := [42, 27, 182, 0, 67, 61, 42, 180, 0, 7, 16, 10, 46, 42, 27, 4, 182, 0, 51, 104, 16, 100, 108, 62]
abbrev dktX5_pays_0 : List UInt8 := dkwX5_pays_0 ++ dktX5_pays_1
theorem dksX5_pays_0 : cX5_pays.data.toList.drop 0 = dktX5_pays_0 := by decide +kernel
theorem dksX5_pays_1 : cX5_pays.data.toList.drop 24 = dktX5_pays_1 := dk_seg dksX5_pays_0 24 rfl rfl
theorem dksX5_pays_2 : cX5_pays.data.toList.drop 47 = dktX5_pays_2 := dk_seg dksX5_pays_1 23 rfl rfl
theorem dksX5_pays_3 : cX5_pays.data.toList.drop 71 = dktX5_pays_3 := dk_seg dksX5_pays_2 24 rfl rfl
theorem dksX5_pays_4 : cX5_pays.data.toList.drop 94 = dktX5_pays_4 := dk_seg dksX5_pays_3 23 rfl rfl
theorem dX5_pays_0 : decode cX5_pays 0 = .ok (.aload_n 0, 1) := dk_42 (dk_at dksX5_pays_0 0 rfl rfl)
theorem dX5_pays_1 : decode cX5_pays 1 = .ok (.iload_n 1, 1) := dk_27 (dk_at dksX5_pays_0 1 rfl rfl)
theorem dX5_pays_2 : decode cX5_pays 2 = .ok (.invokevirtual 67, 3) := dk_182 0 67 (dk_at dksX5_pays_0 2 rfl rfl)
theorem dX5_pays_5 : decode cX5_pays 5 = .ok (.istore_n 2, 1) := dk_61 (dk_at dksX5_pays_0 5 rfl rfl)
theorem dX5_pays_6 : decode cX5_pays 6 = .ok (.aload_n 0, 1) := dk_42 (dk_at dksX5_pays_0 6 rfl rfl)
theorem dX5_pays_7 : decode cX5_pays 7 = .ok (.getfield 7, 3) := dk_180 0 7 (dk_at dksX5_pays_0 7 rfl rfl)
theorem dX5_pays_10 : decode cX5_pays 10 = .ok (.bipush 10, 2) := dk_16 10 (dk_at dksX5_pays_0 10 rfl rfl)
theorem dX5_pays_12 : decode cX5_pays 12 = .ok (.iaload, 1) := dk_46 (dk_at dksX5_pays_0 12 rfl rfl)
theorem dX5_pays_13 : decode cX5_pays 13 = .ok (.aload_n 0, 1) := dk_42 (dk_at dksX5_pays_0 13 rfl rfl)
theorem dX5_pays_14 : decode cX5_pays 14 = .ok (.iload_n 1, 1) := dk_27 (dk_at dksX5_pays_0 14 rfl rfl)
theorem dX5_pays_15 : decode cX5_pays 15 = .ok (.iconst 1, 1) := dk_4 (dk_at dksX5_pays_0 15 rfl rfl)
theorem dX5_pays_16 : decode cX5_pays 16 = .ok (.invokevirtual 51, 3) := dk_182 0 51 (dk_at dksX5_pays_0 16 rfl rfl)
theorem dX5_pays_19 : decode cX5_pays 19 = .ok (.imul, 1) := dk_104 (dk_at dksX5_pays_0 19 rfl rfl)
theorem dX5_pays_20 : decode cX5_pays 20 = .ok (.bipush 100, 2) := dk_16 100 (dk_at dksX5_pays_0 20 rfl rfl)
theorem dX5_pays_22 : decode cX5_pays 22 = .ok (.idiv, 1) := dk_108 (dk_at dksX5_pays_0 22 rfl rfl)
theorem dX5_pays_23 : decode cX5_pays 23 = .ok (.istore_n 3, 1) := dk_62 (dk_at dksX5_pays_0 23 rfl rfl)
theorem dX5_pays_24 : decode cX5_pays 24 = .ok (.iload_n 3, 1) := dk_29 (dk_at dksX5_pays_1 0 rfl rfl)
theorem dX5_pays_25 : decode cX5_pays 25 = .ok (.aload_n 0, 1) := dk_42 (dk_at dksX5_pays_1 1 rfl rfl)
theorem dX5_pays_26 : decode cX5_pays 26 = .ok (.iload_n 2, 1) := dk_28 (dk_at dksX5_pays_1 2 rfl rfl)
theorem dX5_pays_27 : decode cX5_pays 27 = .ok (.iconst 1, 1) := dk_4 (dk_at dksX5_pays_1 3 rfl rfl)
theorem dX5_pays_28 : decode cX5_pays 28 = .ok (.invokevirtual 79, 3) := dk_182 0 79 (dk_at dksX5_pays_1 4 rfl rfl)
theorem dX5_pays_31 : decode cX5_pays 31 = .ok (.if_icmp .ge 7, 3) := dk_162 0 7 (dk_at dksX5_pays_1 7 rfl rfl)
theorem dX5_pays_34 : decode cX5_pays 34 = .ok (.iload_n 3, 1) := dk_29 (dk_at dksX5_pays_1 10 rfl rfl)
theorem dX5_pays_35 : decode cX5_pays 35 = .ok (.goto 9, 3) := dk_167 0 9 (dk_at dksX5_pays_1 11 rfl rfl)
theorem dX5_pays_38 : decode cX5_pays 38 = .ok (.aload_n 0, 1) := dk_42 (dk_at dksX5_pays_1 14 rfl rfl)
theorem dX5_pays_39 : decode cX5_pays 39 = .ok (.iload_n 2, 1) := dk_28 (dk_at dksX5_pays_1 15 rfl rfl)
theorem dX5_pays_40 : decode cX5_pays 40 = .ok (.iconst 1, 1) := dk_4 (dk_at dksX5_pays_1 16 rfl rfl)
theorem dX5_pays_41 : decode cX5_pays 41 = .ok (.invokevirtual 79, 3) := dk_182 0 79 (dk_at dksX5_pays_1 17 rfl rfl)
theorem dX5_pays_44 : decode cX5_pays 44 = .ok (.istore 4, 2) := dk_54 4 (dk_at dksX5_pays_1 20 rfl rfl)
theorem dX5_pays_46 : decode cX5_pays 46 = .ok (.aload_n 0, 1) := dk_42 (dk_at dksX5_pays_1 22 rfl rfl)
theorem dX5_pays_47 : decode cX5_pays 47 = .ok (.getfield 7, 3) := dk_180 0 7 (dk_at dksX5_pays_2 0 rfl rfl)
theorem dX5_pays_50 : decode cX5_pays 50 = .ok (.bipush 20, 2) := dk_16 20 (dk_at dksX5_pays_2 3 rfl rfl)
theorem dX5_pays_52 : decode cX5_pays 52 = .ok (.iconst 4, 1) := dk_7 (dk_at dksX5_pays_2 5 rfl rfl)
theorem dX5_pays_53 : decode cX5_pays 53 = .ok (.iload_n 2, 1) := dk_28 (dk_at dksX5_pays_2 6 rfl rfl)
theorem dX5_pays_54 : decode cX5_pays 54 = .ok (.imul, 1) := dk_104 (dk_at dksX5_pays_2 7 rfl rfl)
theorem dX5_pays_55 : decode cX5_pays 55 = .ok (.iadd, 1) := dk_96 (dk_at dksX5_pays_2 8 rfl rfl)
theorem dX5_pays_56 : decode cX5_pays 56 = .ok (.iconst 1, 1) := dk_4 (dk_at dksX5_pays_2 9 rfl rfl)
theorem dX5_pays_57 : decode cX5_pays 57 = .ok (.iadd, 1) := dk_96 (dk_at dksX5_pays_2 10 rfl rfl)
theorem dX5_pays_58 : decode cX5_pays 58 = .ok (.dup2, 1) := dk_92 (dk_at dksX5_pays_2 11 rfl rfl)
theorem dX5_pays_59 : decode cX5_pays 59 = .ok (.iaload, 1) := dk_46 (dk_at dksX5_pays_2 12 rfl rfl)
theorem dX5_pays_60 : decode cX5_pays 60 = .ok (.iload 4, 2) := dk_21 4 (dk_at dksX5_pays_2 13 rfl rfl)
theorem dX5_pays_62 : decode cX5_pays 62 = .ok (.isub, 1) := dk_100 (dk_at dksX5_pays_2 15 rfl rfl)
theorem dX5_pays_63 : decode cX5_pays 63 = .ok (.iastore, 1) := dk_79 (dk_at dksX5_pays_2 16 rfl rfl)
theorem dX5_pays_64 : decode cX5_pays 64 = .ok (.aload_n 0, 1) := dk_42 (dk_at dksX5_pays_2 17 rfl rfl)
theorem dX5_pays_65 : decode cX5_pays 65 = .ok (.getfield 7, 3) := dk_180 0 7 (dk_at dksX5_pays_2 18 rfl rfl)
theorem dX5_pays_68 : decode cX5_pays 68 = .ok (.iconst 5, 1) := dk_8 (dk_at dksX5_pays_2 21 rfl rfl)
theorem dX5_pays_69 : decode cX5_pays 69 = .ok (.iload 4, 2) := dk_21 4 (dk_at dksX5_pays_2 22 rfl rfl)
theorem dX5_pays_71 : decode cX5_pays 71 = .ok (.ldc 181, 2) := dk_18 181 (dk_at dksX5_pays_3 0 rfl rfl)
theorem dX5_pays_73 : decode cX5_pays 73 = .ok (.aload_n 0, 1) := dk_42 (dk_at dksX5_pays_3 2 rfl rfl)
theorem dX5_pays_74 : decode cX5_pays 74 = .ok (.getfield 7, 3) := dk_180 0 7 (dk_at dksX5_pays_3 3 rfl rfl)
theorem dX5_pays_77 : decode cX5_pays 77 = .ok (.iconst 5, 1) := dk_8 (dk_at dksX5_pays_3 6 rfl rfl)
theorem dX5_pays_78 : decode cX5_pays 78 = .ok (.iaload, 1) := dk_46 (dk_at dksX5_pays_3 7 rfl rfl)
theorem dX5_pays_79 : decode cX5_pays 79 = .ok (.isub, 1) := dk_100 (dk_at dksX5_pays_3 8 rfl rfl)
theorem dX5_pays_80 : decode cX5_pays 80 = .ok (.if_icmp .le 8, 3) := dk_164 0 8 (dk_at dksX5_pays_3 9 rfl rfl)
theorem dX5_pays_83 : decode cX5_pays 83 = .ok (.ldc 181, 2) := dk_18 181 (dk_at dksX5_pays_3 12 rfl rfl)
theorem dX5_pays_85 : decode cX5_pays 85 = .ok (.goto 12, 3) := dk_167 0 12 (dk_at dksX5_pays_3 14 rfl rfl)
theorem dX5_pays_88 : decode cX5_pays 88 = .ok (.aload_n 0, 1) := dk_42 (dk_at dksX5_pays_3 17 rfl rfl)
theorem dX5_pays_89 : decode cX5_pays 89 = .ok (.getfield 7, 3) := dk_180 0 7 (dk_at dksX5_pays_3 18 rfl rfl)
theorem dX5_pays_92 : decode cX5_pays 92 = .ok (.iconst 5, 1) := dk_8 (dk_at dksX5_pays_3 21 rfl rfl)
theorem dX5_pays_93 : decode cX5_pays 93 = .ok (.iaload, 1) := dk_46 (dk_at dksX5_pays_3 22 rfl rfl)
theorem dX5_pays_94 : decode cX5_pays 94 = .ok (.iload 4, 2) := dk_21 4 (dk_at dksX5_pays_4 0 rfl rfl)
theorem dX5_pays_96 : decode cX5_pays 96 = .ok (.iadd, 1) := dk_96 (dk_at dksX5_pays_4 2 rfl rfl)
theorem dX5_pays_97 : decode cX5_pays 97 = .ok (.iastore, 1) := dk_79 (dk_at dksX5_pays_4 3 rfl rfl)
theorem dX5_pays_98 : decode cX5_pays 98 = .ok (.return_, 1) := dk_177 (dk_at dksX5_pays_4 4 rfl rfl)
abbrev cX5_isAsked : ByteArray := prog_20_method_59_code
def yX5_isAsked : MethodName := ⟨RX5, "isAsked", "(I)V"⟩
def dkwX5_isAsked_7 : List UInt8 := [21, 5, 79, 177, 132, 4, 1, 167, 255, 99, 177]
abbrev dktX5_isAsked_7 : List UInt8 := dkwX5_isAsked_7 ++ []
def dkwX5_isAsked_6 : List UInt8 := [54, 5, 42, 180, 0, 7, 16, 44, 7, 27, 104, 96, 5, 96, 21, 5, 156, 0, 7, 3, 167, 0, 5]
abbrev dktX5_isAsked_6 : List UInt8 := dkwX5_isAsked_6 ++ dktX5_isAsked_7
def dkwX5_isAsked_5 : List UInt8 := [180, 0, 7, 7, 92, 46, 4, 96, 79, 42, 27, 5, 182, 0, 51, 42, 180, 0, 7, 16, 11, 46, 100]
abbrev dktX5_isAsked_5 : List UInt8 := dkwX5_isAsked_5 ++ dktX5_isAsked_6
def dkwX5_isAsked_4 : List UInt8 := [100, 79, 42, 28, 29, 182, 0, 185, 42, 180, 0, 7, 16, 44, 7, 27, 104, 96, 3, 96, 21, 4, 79, 42]
abbrev dktX5_isAsked_4 : List UInt8 := dkwX5_isAsked_4 ++ dktX5_isAsked_5
def dkwX5_isAsked_3 : List UInt8 := [4, 182, 0, 79, 29, 161, 0, 93, 42, 180, 0, 7, 16, 20, 7, 21, 4, 104, 96, 4, 96, 92, 46, 29]
abbrev dktX5_isAsked_3 : List UInt8 := dkwX5_isAsked_3 ++ dktX5_isAsked_4
def dkwX5_isAsked_2 : List UInt8 := [5, 182, 0, 79, 161, 0, 6, 167, 0, 115, 42, 21, 4, 27, 182, 0, 73, 29, 164, 0, 104, 42, 21, 4]
abbrev dktX5_isAsked_2 : List UInt8 := dkwX5_isAsked_2 ++ dktX5_isAsked_3
def dkwX5_isAsked_1 : List UInt8 := [162, 0, 152, 21, 4, 28, 159, 0, 140, 42, 182, 0, 182, 42, 21, 4, 6, 182, 0, 79, 112, 42, 21, 4]
abbrev dktX5_isAsked_1 : List UInt8 := dkwX5_isAsked_1 ++ dktX5_isAsked_2
def dkwX5_isAsked_0 : List UInt8 := [42, 27, 182, 0, 67, 61, 42, 27, 4, 182, 0, 51, 62, 3, 54, 4, 21, 4, 42, 180, 0, 7, 3, 46]
abbrev dktX5_isAsked_0 : List UInt8 := dkwX5_isAsked_0 ++ dktX5_isAsked_1
theorem dksX5_isAsked_0 : cX5_isAsked.data.toList.drop 0 = dktX5_isAsked_0 := by decide +kernel
theorem dksX5_isAsked_1 : cX5_isAsked.data.toList.drop 24 = dktX5_isAsked_1 := dk_seg dksX5_isAsked_0 24 rfl rfl
theorem dksX5_isAsked_2 : cX5_isAsked.data.toList.drop 48 = dktX5_isAsked_2 := dk_seg dksX5_isAsked_1 24 rfl rfl
theorem dksX5_isAsked_3 : cX5_isAsked.data.toList.drop 72 = dktX5_isAsked_3 := dk_seg dksX5_isAsked_2 24 rfl rfl
theorem dksX5_isAsked_4 : cX5_isAsked.data.toList.drop 96 = dktX5_isAsked_4 := dk_seg dksX5_isAsked_3 24 rfl rfl
theorem dksX5_isAsked_5 : cX5_isAsked.data.toList.drop 120 = dktX5_isAsked_5 := dk_seg dksX5_isAsked_4 24 rfl rfl
theorem dksX5_isAsked_6 : cX5_isAsked.data.toList.drop 143 = dktX5_isAsked_6 := dk_seg dksX5_isAsked_5 23 rfl rfl
theorem dksX5_isAsked_7 : cX5_isAsked.data.toList.drop 166 = dktX5_isAsked_7 := dk_seg dksX5_isAsked_6 23 rfl rfl
theorem dX5_isAsked_0 : decode cX5_isAsked 0 = .ok (.aload_n 0, 1) := dk_42 (dk_at dksX5_isAsked_0 0 rfl rfl)
theorem dX5_isAsked_1 : decode cX5_isAsked 1 = .ok (.iload_n 1, 1) := dk_27 (dk_at dksX5_isAsked_0 1 rfl rfl)
theorem dX5_isAsked_2 : decode cX5_isAsked 2 = .ok (.invokevirtual 67, 3) := dk_182 0 67 (dk_at dksX5_isAsked_0 2 rfl rfl)
theorem dX5_isAsked_5 : decode cX5_isAsked 5 = .ok (.istore_n 2, 1) := dk_61 (dk_at dksX5_isAsked_0 5 rfl rfl)
theorem dX5_isAsked_6 : decode cX5_isAsked 6 = .ok (.aload_n 0, 1) := dk_42 (dk_at dksX5_isAsked_0 6 rfl rfl)
theorem dX5_isAsked_7 : decode cX5_isAsked 7 = .ok (.iload_n 1, 1) := dk_27 (dk_at dksX5_isAsked_0 7 rfl rfl)
theorem dX5_isAsked_8 : decode cX5_isAsked 8 = .ok (.iconst 1, 1) := dk_4 (dk_at dksX5_isAsked_0 8 rfl rfl)
theorem dX5_isAsked_9 : decode cX5_isAsked 9 = .ok (.invokevirtual 51, 3) := dk_182 0 51 (dk_at dksX5_isAsked_0 9 rfl rfl)
theorem dX5_isAsked_12 : decode cX5_isAsked 12 = .ok (.istore_n 3, 1) := dk_62 (dk_at dksX5_isAsked_0 12 rfl rfl)
theorem dX5_isAsked_13 : decode cX5_isAsked 13 = .ok (.iconst 0, 1) := dk_3 (dk_at dksX5_isAsked_0 13 rfl rfl)
theorem dX5_isAsked_14 : decode cX5_isAsked 14 = .ok (.istore 4, 2) := dk_54 4 (dk_at dksX5_isAsked_0 14 rfl rfl)
theorem dX5_isAsked_16 : decode cX5_isAsked 16 = .ok (.iload 4, 2) := dk_21 4 (dk_at dksX5_isAsked_0 16 rfl rfl)
theorem dX5_isAsked_18 : decode cX5_isAsked 18 = .ok (.aload_n 0, 1) := dk_42 (dk_at dksX5_isAsked_0 18 rfl rfl)
theorem dX5_isAsked_19 : decode cX5_isAsked 19 = .ok (.getfield 7, 3) := dk_180 0 7 (dk_at dksX5_isAsked_0 19 rfl rfl)
theorem dX5_isAsked_22 : decode cX5_isAsked 22 = .ok (.iconst 0, 1) := dk_3 (dk_at dksX5_isAsked_0 22 rfl rfl)
theorem dX5_isAsked_23 : decode cX5_isAsked 23 = .ok (.iaload, 1) := dk_46 (dk_at dksX5_isAsked_0 23 rfl rfl)
theorem dX5_isAsked_24 : decode cX5_isAsked 24 = .ok (.if_icmp .ge 152, 3) := dk_162 0 152 (dk_at dksX5_isAsked_1 0 rfl rfl)
theorem dX5_isAsked_27 : decode cX5_isAsked 27 = .ok (.iload 4, 2) := dk_21 4 (dk_at dksX5_isAsked_1 3 rfl rfl)
theorem dX5_isAsked_29 : decode cX5_isAsked 29 = .ok (.iload_n 2, 1) := dk_28 (dk_at dksX5_isAsked_1 5 rfl rfl)
theorem dX5_isAsked_30 : decode cX5_isAsked 30 = .ok (.if_icmp .eq 140, 3) := dk_159 0 140 (dk_at dksX5_isAsked_1 6 rfl rfl)
theorem dX5_isAsked_33 : decode cX5_isAsked 33 = .ok (.aload_n 0, 1) := dk_42 (dk_at dksX5_isAsked_1 9 rfl rfl)
theorem dX5_isAsked_34 : decode cX5_isAsked 34 = .ok (.invokevirtual 182, 3) := dk_182 0 182 (dk_at dksX5_isAsked_1 10 rfl rfl)
theorem dX5_isAsked_37 : decode cX5_isAsked 37 = .ok (.aload_n 0, 1) := dk_42 (dk_at dksX5_isAsked_1 13 rfl rfl)
theorem dX5_isAsked_38 : decode cX5_isAsked 38 = .ok (.iload 4, 2) := dk_21 4 (dk_at dksX5_isAsked_1 14 rfl rfl)
theorem dX5_isAsked_40 : decode cX5_isAsked 40 = .ok (.iconst 3, 1) := dk_6 (dk_at dksX5_isAsked_1 16 rfl rfl)
theorem dX5_isAsked_41 : decode cX5_isAsked 41 = .ok (.invokevirtual 79, 3) := dk_182 0 79 (dk_at dksX5_isAsked_1 17 rfl rfl)
theorem dX5_isAsked_44 : decode cX5_isAsked 44 = .ok (.irem, 1) := dk_112 (dk_at dksX5_isAsked_1 20 rfl rfl)
theorem dX5_isAsked_45 : decode cX5_isAsked 45 = .ok (.aload_n 0, 1) := dk_42 (dk_at dksX5_isAsked_1 21 rfl rfl)
theorem dX5_isAsked_46 : decode cX5_isAsked 46 = .ok (.iload 4, 2) := dk_21 4 (dk_at dksX5_isAsked_1 22 rfl rfl)
theorem dX5_isAsked_48 : decode cX5_isAsked 48 = .ok (.iconst 2, 1) := dk_5 (dk_at dksX5_isAsked_2 0 rfl rfl)
theorem dX5_isAsked_49 : decode cX5_isAsked 49 = .ok (.invokevirtual 79, 3) := dk_182 0 79 (dk_at dksX5_isAsked_2 1 rfl rfl)
theorem dX5_isAsked_52 : decode cX5_isAsked 52 = .ok (.if_icmp .lt 6, 3) := dk_161 0 6 (dk_at dksX5_isAsked_2 4 rfl rfl)
theorem dX5_isAsked_55 : decode cX5_isAsked 55 = .ok (.goto 115, 3) := dk_167 0 115 (dk_at dksX5_isAsked_2 7 rfl rfl)
theorem dX5_isAsked_58 : decode cX5_isAsked 58 = .ok (.aload_n 0, 1) := dk_42 (dk_at dksX5_isAsked_2 10 rfl rfl)
theorem dX5_isAsked_59 : decode cX5_isAsked 59 = .ok (.iload 4, 2) := dk_21 4 (dk_at dksX5_isAsked_2 11 rfl rfl)
theorem dX5_isAsked_61 : decode cX5_isAsked 61 = .ok (.iload_n 1, 1) := dk_27 (dk_at dksX5_isAsked_2 13 rfl rfl)
theorem dX5_isAsked_62 : decode cX5_isAsked 62 = .ok (.invokevirtual 73, 3) := dk_182 0 73 (dk_at dksX5_isAsked_2 14 rfl rfl)
theorem dX5_isAsked_65 : decode cX5_isAsked 65 = .ok (.iload_n 3, 1) := dk_29 (dk_at dksX5_isAsked_2 17 rfl rfl)
theorem dX5_isAsked_66 : decode cX5_isAsked 66 = .ok (.if_icmp .le 104, 3) := dk_164 0 104 (dk_at dksX5_isAsked_2 18 rfl rfl)
theorem dX5_isAsked_69 : decode cX5_isAsked 69 = .ok (.aload_n 0, 1) := dk_42 (dk_at dksX5_isAsked_2 21 rfl rfl)
theorem dX5_isAsked_70 : decode cX5_isAsked 70 = .ok (.iload 4, 2) := dk_21 4 (dk_at dksX5_isAsked_2 22 rfl rfl)
theorem dX5_isAsked_72 : decode cX5_isAsked 72 = .ok (.iconst 1, 1) := dk_4 (dk_at dksX5_isAsked_3 0 rfl rfl)
theorem dX5_isAsked_73 : decode cX5_isAsked 73 = .ok (.invokevirtual 79, 3) := dk_182 0 79 (dk_at dksX5_isAsked_3 1 rfl rfl)
theorem dX5_isAsked_76 : decode cX5_isAsked 76 = .ok (.iload_n 3, 1) := dk_29 (dk_at dksX5_isAsked_3 4 rfl rfl)
theorem dX5_isAsked_77 : decode cX5_isAsked 77 = .ok (.if_icmp .lt 93, 3) := dk_161 0 93 (dk_at dksX5_isAsked_3 5 rfl rfl)
theorem dX5_isAsked_80 : decode cX5_isAsked 80 = .ok (.aload_n 0, 1) := dk_42 (dk_at dksX5_isAsked_3 8 rfl rfl)
theorem dX5_isAsked_81 : decode cX5_isAsked 81 = .ok (.getfield 7, 3) := dk_180 0 7 (dk_at dksX5_isAsked_3 9 rfl rfl)
theorem dX5_isAsked_84 : decode cX5_isAsked 84 = .ok (.bipush 20, 2) := dk_16 20 (dk_at dksX5_isAsked_3 12 rfl rfl)
theorem dX5_isAsked_86 : decode cX5_isAsked 86 = .ok (.iconst 4, 1) := dk_7 (dk_at dksX5_isAsked_3 14 rfl rfl)
theorem dX5_isAsked_87 : decode cX5_isAsked 87 = .ok (.iload 4, 2) := dk_21 4 (dk_at dksX5_isAsked_3 15 rfl rfl)
theorem dX5_isAsked_89 : decode cX5_isAsked 89 = .ok (.imul, 1) := dk_104 (dk_at dksX5_isAsked_3 17 rfl rfl)
theorem dX5_isAsked_90 : decode cX5_isAsked 90 = .ok (.iadd, 1) := dk_96 (dk_at dksX5_isAsked_3 18 rfl rfl)
theorem dX5_isAsked_91 : decode cX5_isAsked 91 = .ok (.iconst 1, 1) := dk_4 (dk_at dksX5_isAsked_3 19 rfl rfl)
theorem dX5_isAsked_92 : decode cX5_isAsked 92 = .ok (.iadd, 1) := dk_96 (dk_at dksX5_isAsked_3 20 rfl rfl)
theorem dX5_isAsked_93 : decode cX5_isAsked 93 = .ok (.dup2, 1) := dk_92 (dk_at dksX5_isAsked_3 21 rfl rfl)
theorem dX5_isAsked_94 : decode cX5_isAsked 94 = .ok (.iaload, 1) := dk_46 (dk_at dksX5_isAsked_3 22 rfl rfl)
theorem dX5_isAsked_95 : decode cX5_isAsked 95 = .ok (.iload_n 3, 1) := dk_29 (dk_at dksX5_isAsked_3 23 rfl rfl)
theorem dX5_isAsked_96 : decode cX5_isAsked 96 = .ok (.isub, 1) := dk_100 (dk_at dksX5_isAsked_4 0 rfl rfl)
theorem dX5_isAsked_97 : decode cX5_isAsked 97 = .ok (.iastore, 1) := dk_79 (dk_at dksX5_isAsked_4 1 rfl rfl)
theorem dX5_isAsked_98 : decode cX5_isAsked 98 = .ok (.aload_n 0, 1) := dk_42 (dk_at dksX5_isAsked_4 2 rfl rfl)
theorem dX5_isAsked_99 : decode cX5_isAsked 99 = .ok (.iload_n 2, 1) := dk_28 (dk_at dksX5_isAsked_4 3 rfl rfl)
theorem dX5_isAsked_100 : decode cX5_isAsked 100 = .ok (.iload_n 3, 1) := dk_29 (dk_at dksX5_isAsked_4 4 rfl rfl)
theorem dX5_isAsked_101 : decode cX5_isAsked 101 = .ok (.invokevirtual 185, 3) := dk_182 0 185 (dk_at dksX5_isAsked_4 5 rfl rfl)
theorem dX5_isAsked_104 : decode cX5_isAsked 104 = .ok (.aload_n 0, 1) := dk_42 (dk_at dksX5_isAsked_4 8 rfl rfl)
theorem dX5_isAsked_105 : decode cX5_isAsked 105 = .ok (.getfield 7, 3) := dk_180 0 7 (dk_at dksX5_isAsked_4 9 rfl rfl)
theorem dX5_isAsked_108 : decode cX5_isAsked 108 = .ok (.bipush 44, 2) := dk_16 44 (dk_at dksX5_isAsked_4 12 rfl rfl)
theorem dX5_isAsked_110 : decode cX5_isAsked 110 = .ok (.iconst 4, 1) := dk_7 (dk_at dksX5_isAsked_4 14 rfl rfl)
theorem dX5_isAsked_111 : decode cX5_isAsked 111 = .ok (.iload_n 1, 1) := dk_27 (dk_at dksX5_isAsked_4 15 rfl rfl)
theorem dX5_isAsked_112 : decode cX5_isAsked 112 = .ok (.imul, 1) := dk_104 (dk_at dksX5_isAsked_4 16 rfl rfl)
theorem dX5_isAsked_113 : decode cX5_isAsked 113 = .ok (.iadd, 1) := dk_96 (dk_at dksX5_isAsked_4 17 rfl rfl)
theorem dX5_isAsked_114 : decode cX5_isAsked 114 = .ok (.iconst 0, 1) := dk_3 (dk_at dksX5_isAsked_4 18 rfl rfl)
theorem dX5_isAsked_115 : decode cX5_isAsked 115 = .ok (.iadd, 1) := dk_96 (dk_at dksX5_isAsked_4 19 rfl rfl)
theorem dX5_isAsked_116 : decode cX5_isAsked 116 = .ok (.iload 4, 2) := dk_21 4 (dk_at dksX5_isAsked_4 20 rfl rfl)
theorem dX5_isAsked_118 : decode cX5_isAsked 118 = .ok (.iastore, 1) := dk_79 (dk_at dksX5_isAsked_4 22 rfl rfl)
theorem dX5_isAsked_119 : decode cX5_isAsked 119 = .ok (.aload_n 0, 1) := dk_42 (dk_at dksX5_isAsked_4 23 rfl rfl)
theorem dX5_isAsked_120 : decode cX5_isAsked 120 = .ok (.getfield 7, 3) := dk_180 0 7 (dk_at dksX5_isAsked_5 0 rfl rfl)
theorem dX5_isAsked_123 : decode cX5_isAsked 123 = .ok (.iconst 4, 1) := dk_7 (dk_at dksX5_isAsked_5 3 rfl rfl)
theorem dX5_isAsked_124 : decode cX5_isAsked 124 = .ok (.dup2, 1) := dk_92 (dk_at dksX5_isAsked_5 4 rfl rfl)
theorem dX5_isAsked_125 : decode cX5_isAsked 125 = .ok (.iaload, 1) := dk_46 (dk_at dksX5_isAsked_5 5 rfl rfl)
theorem dX5_isAsked_126 : decode cX5_isAsked 126 = .ok (.iconst 1, 1) := dk_4 (dk_at dksX5_isAsked_5 6 rfl rfl)
theorem dX5_isAsked_127 : decode cX5_isAsked 127 = .ok (.iadd, 1) := dk_96 (dk_at dksX5_isAsked_5 7 rfl rfl)
theorem dX5_isAsked_128 : decode cX5_isAsked 128 = .ok (.iastore, 1) := dk_79 (dk_at dksX5_isAsked_5 8 rfl rfl)
theorem dX5_isAsked_129 : decode cX5_isAsked 129 = .ok (.aload_n 0, 1) := dk_42 (dk_at dksX5_isAsked_5 9 rfl rfl)
theorem dX5_isAsked_130 : decode cX5_isAsked 130 = .ok (.iload_n 1, 1) := dk_27 (dk_at dksX5_isAsked_5 10 rfl rfl)
theorem dX5_isAsked_131 : decode cX5_isAsked 131 = .ok (.iconst 2, 1) := dk_5 (dk_at dksX5_isAsked_5 11 rfl rfl)
theorem dX5_isAsked_132 : decode cX5_isAsked 132 = .ok (.invokevirtual 51, 3) := dk_182 0 51 (dk_at dksX5_isAsked_5 12 rfl rfl)
theorem dX5_isAsked_135 : decode cX5_isAsked 135 = .ok (.aload_n 0, 1) := dk_42 (dk_at dksX5_isAsked_5 15 rfl rfl)
theorem dX5_isAsked_136 : decode cX5_isAsked 136 = .ok (.getfield 7, 3) := dk_180 0 7 (dk_at dksX5_isAsked_5 16 rfl rfl)
theorem dX5_isAsked_139 : decode cX5_isAsked 139 = .ok (.bipush 11, 2) := dk_16 11 (dk_at dksX5_isAsked_5 19 rfl rfl)
theorem dX5_isAsked_141 : decode cX5_isAsked 141 = .ok (.iaload, 1) := dk_46 (dk_at dksX5_isAsked_5 21 rfl rfl)
theorem dX5_isAsked_142 : decode cX5_isAsked 142 = .ok (.isub, 1) := dk_100 (dk_at dksX5_isAsked_5 22 rfl rfl)
theorem dX5_isAsked_143 : decode cX5_isAsked 143 = .ok (.istore 5, 2) := dk_54 5 (dk_at dksX5_isAsked_6 0 rfl rfl)
theorem dX5_isAsked_145 : decode cX5_isAsked 145 = .ok (.aload_n 0, 1) := dk_42 (dk_at dksX5_isAsked_6 2 rfl rfl)
theorem dX5_isAsked_146 : decode cX5_isAsked 146 = .ok (.getfield 7, 3) := dk_180 0 7 (dk_at dksX5_isAsked_6 3 rfl rfl)
theorem dX5_isAsked_149 : decode cX5_isAsked 149 = .ok (.bipush 44, 2) := dk_16 44 (dk_at dksX5_isAsked_6 6 rfl rfl)
theorem dX5_isAsked_151 : decode cX5_isAsked 151 = .ok (.iconst 4, 1) := dk_7 (dk_at dksX5_isAsked_6 8 rfl rfl)
theorem dX5_isAsked_152 : decode cX5_isAsked 152 = .ok (.iload_n 1, 1) := dk_27 (dk_at dksX5_isAsked_6 9 rfl rfl)
theorem dX5_isAsked_153 : decode cX5_isAsked 153 = .ok (.imul, 1) := dk_104 (dk_at dksX5_isAsked_6 10 rfl rfl)
theorem dX5_isAsked_154 : decode cX5_isAsked 154 = .ok (.iadd, 1) := dk_96 (dk_at dksX5_isAsked_6 11 rfl rfl)
theorem dX5_isAsked_155 : decode cX5_isAsked 155 = .ok (.iconst 2, 1) := dk_5 (dk_at dksX5_isAsked_6 12 rfl rfl)
theorem dX5_isAsked_156 : decode cX5_isAsked 156 = .ok (.iadd, 1) := dk_96 (dk_at dksX5_isAsked_6 13 rfl rfl)
theorem dX5_isAsked_157 : decode cX5_isAsked 157 = .ok (.iload 5, 2) := dk_21 5 (dk_at dksX5_isAsked_6 14 rfl rfl)
theorem dX5_isAsked_159 : decode cX5_isAsked 159 = .ok (.ifCond .ge 7, 3) := dk_156 0 7 (dk_at dksX5_isAsked_6 16 rfl rfl)
theorem dX5_isAsked_162 : decode cX5_isAsked 162 = .ok (.iconst 0, 1) := dk_3 (dk_at dksX5_isAsked_6 19 rfl rfl)
theorem dX5_isAsked_163 : decode cX5_isAsked 163 = .ok (.goto 5, 3) := dk_167 0 5 (dk_at dksX5_isAsked_6 20 rfl rfl)
theorem dX5_isAsked_166 : decode cX5_isAsked 166 = .ok (.iload 5, 2) := dk_21 5 (dk_at dksX5_isAsked_7 0 rfl rfl)
theorem dX5_isAsked_168 : decode cX5_isAsked 168 = .ok (.iastore, 1) := dk_79 (dk_at dksX5_isAsked_7 2 rfl rfl)
theorem dX5_isAsked_169 : decode cX5_isAsked 169 = .ok (.return_, 1) := dk_177 (dk_at dksX5_isAsked_7 3 rfl rfl)
theorem dX5_isAsked_170 : decode cX5_isAsked 170 = .ok (.iinc 4 1, 3) := dk_132 4 1 (dk_at dksX5_isAsked_7 4 rfl rfl)
theorem dX5_isAsked_173 : decode cX5_isAsked 173 = .ok (.goto (-157), 3) := dk_167 255 99 (dk_at dksX5_isAsked_7 7 rfl rfl)
theorem dX5_isAsked_176 : decode cX5_isAsked 176 = .ok (.return_, 1) := dk_177 (dk_at dksX5_isAsked_7 10 rfl rfl)
abbrev cX5_draw : ByteArray := prog_20_method_56_code
def yX5_draw : MethodName := ⟨RX5, "draw", "()I"⟩
def dkwX5_draw_1 : List UInt8 := [180, 0, 7, 16, 8, 46, 16, 8, 124, 172]
abbrev dktX5_draw_1 : List UInt8 := dkwX5_draw_1 ++ []
def dkwX5_draw_0 : List UInt8 := [42, 180, 0, 7, 16, 8, 42, 180, 0, 7, 16, 8, 46, 18, 180, 104, 17, 48, 57, 96, 79, 42]
abbrev dktX5_draw_0 : List UInt8 := dkwX5_draw_0 ++ dktX5_draw_1
theorem dksX5_draw_0 : cX5_draw.data.toList.drop 0 = dktX5_draw_0 := by decide +kernel
theorem dksX5_draw_1 : cX5_draw.data.toList.drop 22 = dktX5_draw_1 := dk_seg dksX5_draw_0 22 rfl rfl
theorem dX5_draw_0 : decode cX5_draw 0 = .ok (.aload_n 0, 1) := dk_42 (dk_at dksX5_draw_0 0 rfl rfl)
theorem dX5_draw_1 : decode cX5_draw 1 = .ok (.getfield 7, 3) := dk_180 0 7 (dk_at dksX5_draw_0 1 rfl rfl)
theorem dX5_draw_4 : decode cX5_draw 4 = .ok (.bipush 8, 2) := dk_16 8 (dk_at dksX5_draw_0 4 rfl rfl)
theorem dX5_draw_6 : decode cX5_draw 6 = .ok (.aload_n 0, 1) := dk_42 (dk_at dksX5_draw_0 6 rfl rfl)
theorem dX5_draw_7 : decode cX5_draw 7 = .ok (.getfield 7, 3) := dk_180 0 7 (dk_at dksX5_draw_0 7 rfl rfl)
theorem dX5_draw_10 : decode cX5_draw 10 = .ok (.bipush 8, 2) := dk_16 8 (dk_at dksX5_draw_0 10 rfl rfl)
theorem dX5_draw_12 : decode cX5_draw 12 = .ok (.iaload, 1) := dk_46 (dk_at dksX5_draw_0 12 rfl rfl)
theorem dX5_draw_13 : decode cX5_draw 13 = .ok (.ldc 180, 2) := dk_18 180 (dk_at dksX5_draw_0 13 rfl rfl)
theorem dX5_draw_15 : decode cX5_draw 15 = .ok (.imul, 1) := dk_104 (dk_at dksX5_draw_0 15 rfl rfl)
theorem dX5_draw_16 : decode cX5_draw 16 = .ok (.sipush 12345, 3) := dk_17 48 57 (dk_at dksX5_draw_0 16 rfl rfl)
theorem dX5_draw_19 : decode cX5_draw 19 = .ok (.iadd, 1) := dk_96 (dk_at dksX5_draw_0 19 rfl rfl)
theorem dX5_draw_20 : decode cX5_draw 20 = .ok (.iastore, 1) := dk_79 (dk_at dksX5_draw_0 20 rfl rfl)
theorem dX5_draw_21 : decode cX5_draw 21 = .ok (.aload_n 0, 1) := dk_42 (dk_at dksX5_draw_0 21 rfl rfl)
theorem dX5_draw_22 : decode cX5_draw 22 = .ok (.getfield 7, 3) := dk_180 0 7 (dk_at dksX5_draw_1 0 rfl rfl)
theorem dX5_draw_25 : decode cX5_draw 25 = .ok (.bipush 8, 2) := dk_16 8 (dk_at dksX5_draw_1 3 rfl rfl)
theorem dX5_draw_27 : decode cX5_draw 27 = .ok (.iaload, 1) := dk_46 (dk_at dksX5_draw_1 5 rfl rfl)
theorem dX5_draw_28 : decode cX5_draw 28 = .ok (.bipush 8, 2) := dk_16 8 (dk_at dksX5_draw_1 6 rfl rfl)
theorem dX5_draw_30 : decode cX5_draw 30 = .ok (.iushr, 1) := dk_124 (dk_at dksX5_draw_1 8 rfl rfl)
theorem dX5_draw_31 : decode cX5_draw 31 = .ok (.ireturn, 1) := dk_172 (dk_at dksX5_draw_1 9 rfl rfl)
abbrev cX5_gets : ByteArray := prog_20_method_57_code
def yX5_gets : MethodName := ⟨RX5, "gets", "(II)V"⟩
def dkwX5_gets_1 : List UInt8 := [164, 0, 8, 18, 55, 167, 0, 11, 42, 180, 0, 7, 29, 46, 28, 96, 79, 177]
abbrev dktX5_gets_1 : List UInt8 := dkwX5_gets_1 ++ []
def dkwX5_gets_0 : List UInt8 := [16, 20, 7, 27, 104, 96, 4, 96, 62, 42, 180, 0, 7, 29, 28, 18, 55, 42, 180, 0, 7, 29, 46, 100]
abbrev dktX5_gets_0 : List UInt8 := dkwX5_gets_0 ++ dktX5_gets_1
theorem dksX5_gets_0 : cX5_gets.data.toList.drop 0 = dktX5_gets_0 := by decide +kernel
theorem dksX5_gets_1 : cX5_gets.data.toList.drop 24 = dktX5_gets_1 := dk_seg dksX5_gets_0 24 rfl rfl
theorem dX5_gets_0 : decode cX5_gets 0 = .ok (.bipush 20, 2) := dk_16 20 (dk_at dksX5_gets_0 0 rfl rfl)
theorem dX5_gets_2 : decode cX5_gets 2 = .ok (.iconst 4, 1) := dk_7 (dk_at dksX5_gets_0 2 rfl rfl)
theorem dX5_gets_3 : decode cX5_gets 3 = .ok (.iload_n 1, 1) := dk_27 (dk_at dksX5_gets_0 3 rfl rfl)
theorem dX5_gets_4 : decode cX5_gets 4 = .ok (.imul, 1) := dk_104 (dk_at dksX5_gets_0 4 rfl rfl)
theorem dX5_gets_5 : decode cX5_gets 5 = .ok (.iadd, 1) := dk_96 (dk_at dksX5_gets_0 5 rfl rfl)
theorem dX5_gets_6 : decode cX5_gets 6 = .ok (.iconst 1, 1) := dk_4 (dk_at dksX5_gets_0 6 rfl rfl)
theorem dX5_gets_7 : decode cX5_gets 7 = .ok (.iadd, 1) := dk_96 (dk_at dksX5_gets_0 7 rfl rfl)
theorem dX5_gets_8 : decode cX5_gets 8 = .ok (.istore_n 3, 1) := dk_62 (dk_at dksX5_gets_0 8 rfl rfl)
theorem dX5_gets_9 : decode cX5_gets 9 = .ok (.aload_n 0, 1) := dk_42 (dk_at dksX5_gets_0 9 rfl rfl)
theorem dX5_gets_10 : decode cX5_gets 10 = .ok (.getfield 7, 3) := dk_180 0 7 (dk_at dksX5_gets_0 10 rfl rfl)
theorem dX5_gets_13 : decode cX5_gets 13 = .ok (.iload_n 3, 1) := dk_29 (dk_at dksX5_gets_0 13 rfl rfl)
theorem dX5_gets_14 : decode cX5_gets 14 = .ok (.iload_n 2, 1) := dk_28 (dk_at dksX5_gets_0 14 rfl rfl)
theorem dX5_gets_15 : decode cX5_gets 15 = .ok (.ldc 55, 2) := dk_18 55 (dk_at dksX5_gets_0 15 rfl rfl)
theorem dX5_gets_17 : decode cX5_gets 17 = .ok (.aload_n 0, 1) := dk_42 (dk_at dksX5_gets_0 17 rfl rfl)
theorem dX5_gets_18 : decode cX5_gets 18 = .ok (.getfield 7, 3) := dk_180 0 7 (dk_at dksX5_gets_0 18 rfl rfl)
theorem dX5_gets_21 : decode cX5_gets 21 = .ok (.iload_n 3, 1) := dk_29 (dk_at dksX5_gets_0 21 rfl rfl)
theorem dX5_gets_22 : decode cX5_gets 22 = .ok (.iaload, 1) := dk_46 (dk_at dksX5_gets_0 22 rfl rfl)
theorem dX5_gets_23 : decode cX5_gets 23 = .ok (.isub, 1) := dk_100 (dk_at dksX5_gets_0 23 rfl rfl)
theorem dX5_gets_24 : decode cX5_gets 24 = .ok (.if_icmp .le 8, 3) := dk_164 0 8 (dk_at dksX5_gets_1 0 rfl rfl)
theorem dX5_gets_27 : decode cX5_gets 27 = .ok (.ldc 55, 2) := dk_18 55 (dk_at dksX5_gets_1 3 rfl rfl)
theorem dX5_gets_29 : decode cX5_gets 29 = .ok (.goto 11, 3) := dk_167 0 11 (dk_at dksX5_gets_1 5 rfl rfl)
theorem dX5_gets_32 : decode cX5_gets 32 = .ok (.aload_n 0, 1) := dk_42 (dk_at dksX5_gets_1 8 rfl rfl)
theorem dX5_gets_33 : decode cX5_gets 33 = .ok (.getfield 7, 3) := dk_180 0 7 (dk_at dksX5_gets_1 9 rfl rfl)
theorem dX5_gets_36 : decode cX5_gets 36 = .ok (.iload_n 3, 1) := dk_29 (dk_at dksX5_gets_1 12 rfl rfl)
theorem dX5_gets_37 : decode cX5_gets 37 = .ok (.iaload, 1) := dk_46 (dk_at dksX5_gets_1 13 rfl rfl)
theorem dX5_gets_38 : decode cX5_gets 38 = .ok (.iload_n 2, 1) := dk_28 (dk_at dksX5_gets_1 14 rfl rfl)
theorem dX5_gets_39 : decode cX5_gets 39 = .ok (.iadd, 1) := dk_96 (dk_at dksX5_gets_1 15 rfl rfl)
theorem dX5_gets_40 : decode cX5_gets 40 = .ok (.iastore, 1) := dk_79 (dk_at dksX5_gets_1 16 rfl rfl)
theorem dX5_gets_41 : decode cX5_gets 41 = .ok (.return_, 1) := dk_177 (dk_at dksX5_gets_1 17 rfl rfl)
abbrev cX5_mends : ByteArray := prog_20_method_60_code
def yX5_mends : MethodName := ⟨RX5, "mends", "(I)V"⟩
def dkwX5_mends_3 : List UInt8 := [177]
abbrev dktX5_mends_3 : List UInt8 := dkwX5_mends_3 ++ []
def dkwX5_mends_2 : List UInt8 := [180, 0, 7, 16, 44, 7, 27, 104, 96, 5, 96, 28, 16, 100, 164, 0, 8, 16, 100, 167, 0, 4, 28, 79]
abbrev dktX5_mends_2 : List UInt8 := dkwX5_mends_2 ++ dktX5_mends_3
def dkwX5_mends_1 : List UInt8 := [92, 46, 42, 180, 0, 7, 16, 14, 46, 100, 79, 42, 27, 5, 182, 0, 51, 16, 10, 96, 61, 42]
abbrev dktX5_mends_1 : List UInt8 := dkwX5_mends_1 ++ dktX5_mends_2
def dkwX5_mends_0 : List UInt8 := [42, 27, 182, 0, 177, 153, 0, 65, 42, 180, 0, 7, 16, 20, 7, 42, 27, 182, 0, 67, 104, 96, 4, 96]
abbrev dktX5_mends_0 : List UInt8 := dkwX5_mends_0 ++ dktX5_mends_1
theorem dksX5_mends_0 : cX5_mends.data.toList.drop 0 = dktX5_mends_0 := by decide +kernel
theorem dksX5_mends_1 : cX5_mends.data.toList.drop 24 = dktX5_mends_1 := dk_seg dksX5_mends_0 24 rfl rfl
theorem dksX5_mends_2 : cX5_mends.data.toList.drop 46 = dktX5_mends_2 := dk_seg dksX5_mends_1 22 rfl rfl
theorem dksX5_mends_3 : cX5_mends.data.toList.drop 70 = dktX5_mends_3 := dk_seg dksX5_mends_2 24 rfl rfl
theorem dX5_mends_0 : decode cX5_mends 0 = .ok (.aload_n 0, 1) := dk_42 (dk_at dksX5_mends_0 0 rfl rfl)
theorem dX5_mends_1 : decode cX5_mends 1 = .ok (.iload_n 1, 1) := dk_27 (dk_at dksX5_mends_0 1 rfl rfl)
theorem dX5_mends_2 : decode cX5_mends 2 = .ok (.invokevirtual 177, 3) := dk_182 0 177 (dk_at dksX5_mends_0 2 rfl rfl)
theorem dX5_mends_5 : decode cX5_mends 5 = .ok (.ifCond .eq 65, 3) := dk_153 0 65 (dk_at dksX5_mends_0 5 rfl rfl)
theorem dX5_mends_8 : decode cX5_mends 8 = .ok (.aload_n 0, 1) := dk_42 (dk_at dksX5_mends_0 8 rfl rfl)
theorem dX5_mends_9 : decode cX5_mends 9 = .ok (.getfield 7, 3) := dk_180 0 7 (dk_at dksX5_mends_0 9 rfl rfl)
theorem dX5_mends_12 : decode cX5_mends 12 = .ok (.bipush 20, 2) := dk_16 20 (dk_at dksX5_mends_0 12 rfl rfl)
theorem dX5_mends_14 : decode cX5_mends 14 = .ok (.iconst 4, 1) := dk_7 (dk_at dksX5_mends_0 14 rfl rfl)
theorem dX5_mends_15 : decode cX5_mends 15 = .ok (.aload_n 0, 1) := dk_42 (dk_at dksX5_mends_0 15 rfl rfl)
theorem dX5_mends_16 : decode cX5_mends 16 = .ok (.iload_n 1, 1) := dk_27 (dk_at dksX5_mends_0 16 rfl rfl)
theorem dX5_mends_17 : decode cX5_mends 17 = .ok (.invokevirtual 67, 3) := dk_182 0 67 (dk_at dksX5_mends_0 17 rfl rfl)
theorem dX5_mends_20 : decode cX5_mends 20 = .ok (.imul, 1) := dk_104 (dk_at dksX5_mends_0 20 rfl rfl)
theorem dX5_mends_21 : decode cX5_mends 21 = .ok (.iadd, 1) := dk_96 (dk_at dksX5_mends_0 21 rfl rfl)
theorem dX5_mends_22 : decode cX5_mends 22 = .ok (.iconst 1, 1) := dk_4 (dk_at dksX5_mends_0 22 rfl rfl)
theorem dX5_mends_23 : decode cX5_mends 23 = .ok (.iadd, 1) := dk_96 (dk_at dksX5_mends_0 23 rfl rfl)
theorem dX5_mends_24 : decode cX5_mends 24 = .ok (.dup2, 1) := dk_92 (dk_at dksX5_mends_1 0 rfl rfl)
theorem dX5_mends_25 : decode cX5_mends 25 = .ok (.iaload, 1) := dk_46 (dk_at dksX5_mends_1 1 rfl rfl)
theorem dX5_mends_26 : decode cX5_mends 26 = .ok (.aload_n 0, 1) := dk_42 (dk_at dksX5_mends_1 2 rfl rfl)
theorem dX5_mends_27 : decode cX5_mends 27 = .ok (.getfield 7, 3) := dk_180 0 7 (dk_at dksX5_mends_1 3 rfl rfl)
theorem dX5_mends_30 : decode cX5_mends 30 = .ok (.bipush 14, 2) := dk_16 14 (dk_at dksX5_mends_1 6 rfl rfl)
theorem dX5_mends_32 : decode cX5_mends 32 = .ok (.iaload, 1) := dk_46 (dk_at dksX5_mends_1 8 rfl rfl)
theorem dX5_mends_33 : decode cX5_mends 33 = .ok (.isub, 1) := dk_100 (dk_at dksX5_mends_1 9 rfl rfl)
theorem dX5_mends_34 : decode cX5_mends 34 = .ok (.iastore, 1) := dk_79 (dk_at dksX5_mends_1 10 rfl rfl)
theorem dX5_mends_35 : decode cX5_mends 35 = .ok (.aload_n 0, 1) := dk_42 (dk_at dksX5_mends_1 11 rfl rfl)
theorem dX5_mends_36 : decode cX5_mends 36 = .ok (.iload_n 1, 1) := dk_27 (dk_at dksX5_mends_1 12 rfl rfl)
theorem dX5_mends_37 : decode cX5_mends 37 = .ok (.iconst 2, 1) := dk_5 (dk_at dksX5_mends_1 13 rfl rfl)
theorem dX5_mends_38 : decode cX5_mends 38 = .ok (.invokevirtual 51, 3) := dk_182 0 51 (dk_at dksX5_mends_1 14 rfl rfl)
theorem dX5_mends_41 : decode cX5_mends 41 = .ok (.bipush 10, 2) := dk_16 10 (dk_at dksX5_mends_1 17 rfl rfl)
theorem dX5_mends_43 : decode cX5_mends 43 = .ok (.iadd, 1) := dk_96 (dk_at dksX5_mends_1 19 rfl rfl)
theorem dX5_mends_44 : decode cX5_mends 44 = .ok (.istore_n 2, 1) := dk_61 (dk_at dksX5_mends_1 20 rfl rfl)
theorem dX5_mends_45 : decode cX5_mends 45 = .ok (.aload_n 0, 1) := dk_42 (dk_at dksX5_mends_1 21 rfl rfl)
theorem dX5_mends_46 : decode cX5_mends 46 = .ok (.getfield 7, 3) := dk_180 0 7 (dk_at dksX5_mends_2 0 rfl rfl)
theorem dX5_mends_49 : decode cX5_mends 49 = .ok (.bipush 44, 2) := dk_16 44 (dk_at dksX5_mends_2 3 rfl rfl)
theorem dX5_mends_51 : decode cX5_mends 51 = .ok (.iconst 4, 1) := dk_7 (dk_at dksX5_mends_2 5 rfl rfl)
theorem dX5_mends_52 : decode cX5_mends 52 = .ok (.iload_n 1, 1) := dk_27 (dk_at dksX5_mends_2 6 rfl rfl)
theorem dX5_mends_53 : decode cX5_mends 53 = .ok (.imul, 1) := dk_104 (dk_at dksX5_mends_2 7 rfl rfl)
theorem dX5_mends_54 : decode cX5_mends 54 = .ok (.iadd, 1) := dk_96 (dk_at dksX5_mends_2 8 rfl rfl)
theorem dX5_mends_55 : decode cX5_mends 55 = .ok (.iconst 2, 1) := dk_5 (dk_at dksX5_mends_2 9 rfl rfl)
theorem dX5_mends_56 : decode cX5_mends 56 = .ok (.iadd, 1) := dk_96 (dk_at dksX5_mends_2 10 rfl rfl)
theorem dX5_mends_57 : decode cX5_mends 57 = .ok (.iload_n 2, 1) := dk_28 (dk_at dksX5_mends_2 11 rfl rfl)
theorem dX5_mends_58 : decode cX5_mends 58 = .ok (.bipush 100, 2) := dk_16 100 (dk_at dksX5_mends_2 12 rfl rfl)
theorem dX5_mends_60 : decode cX5_mends 60 = .ok (.if_icmp .le 8, 3) := dk_164 0 8 (dk_at dksX5_mends_2 14 rfl rfl)
theorem dX5_mends_63 : decode cX5_mends 63 = .ok (.bipush 100, 2) := dk_16 100 (dk_at dksX5_mends_2 17 rfl rfl)
theorem dX5_mends_65 : decode cX5_mends 65 = .ok (.goto 4, 3) := dk_167 0 4 (dk_at dksX5_mends_2 19 rfl rfl)
theorem dX5_mends_68 : decode cX5_mends 68 = .ok (.iload_n 2, 1) := dk_28 (dk_at dksX5_mends_2 22 rfl rfl)
theorem dX5_mends_69 : decode cX5_mends 69 = .ok (.iastore, 1) := dk_79 (dk_at dksX5_mends_2 23 rfl rfl)
theorem dX5_mends_70 : decode cX5_mends 70 = .ok (.return_, 1) := dk_177 (dk_at dksX5_mends_3 0 rfl rfl)
abbrev cX5_sharesOut : ByteArray := prog_20_method_61_code
def yX5_sharesOut : MethodName := ⟨RX5, "sharesOut", "()V"⟩
def dkwX5_sharesOut_5 : List UInt8 := [8, 46, 182, 0, 185, 42, 180, 0, 7, 8, 3, 79, 177]
abbrev dktX5_sharesOut_5 : List UInt8 := dkwX5_sharesOut_5 ++ []
def dkwX5_sharesOut_4 : List UInt8 := [182, 0, 79, 162, 0, 7, 29, 167, 0, 4, 28, 61, 132, 3, 1, 167, 255, 227, 42, 28, 42, 180, 0, 7]
abbrev dktX5_sharesOut_4 : List UInt8 := dkwX5_sharesOut_4 ++ dktX5_sharesOut_5
def dkwX5_sharesOut_3 : List UInt8 := [104, 100, 79, 177, 3, 61, 4, 62, 29, 27, 162, 0, 30, 42, 29, 4, 182, 0, 79, 42, 28, 4]
abbrev dktX5_sharesOut_3 : List UInt8 := dkwX5_sharesOut_3 ++ dktX5_sharesOut_4
def dkwX5_sharesOut_2 : List UInt8 := [162, 0, 15, 42, 29, 28, 182, 0, 185, 132, 3, 1, 167, 255, 242, 42, 180, 0, 7, 8, 92, 46, 28, 27]
abbrev dktX5_sharesOut_2 : List UInt8 := dkwX5_sharesOut_2 ++ dktX5_sharesOut_3
def dkwX5_sharesOut_1 : List UInt8 := [180, 0, 7, 16, 12, 46, 4, 160, 0, 44, 42, 180, 0, 7, 8, 46, 27, 108, 61, 3, 62, 29, 27]
abbrev dktX5_sharesOut_1 : List UInt8 := dkwX5_sharesOut_1 ++ dktX5_sharesOut_2
def dkwX5_sharesOut_0 : List UInt8 := [42, 180, 0, 7, 3, 46, 60, 42, 180, 0, 7, 16, 12, 46, 153, 0, 7, 27, 154, 0, 4, 177, 42]
abbrev dktX5_sharesOut_0 : List UInt8 := dkwX5_sharesOut_0 ++ dktX5_sharesOut_1
theorem dksX5_sharesOut_0 : cX5_sharesOut.data.toList.drop 0 = dktX5_sharesOut_0 := by decide +kernel
theorem dksX5_sharesOut_1 : cX5_sharesOut.data.toList.drop 23 = dktX5_sharesOut_1 := dk_seg dksX5_sharesOut_0 23 rfl rfl
theorem dksX5_sharesOut_2 : cX5_sharesOut.data.toList.drop 46 = dktX5_sharesOut_2 := dk_seg dksX5_sharesOut_1 23 rfl rfl
theorem dksX5_sharesOut_3 : cX5_sharesOut.data.toList.drop 70 = dktX5_sharesOut_3 := dk_seg dksX5_sharesOut_2 24 rfl rfl
theorem dksX5_sharesOut_4 : cX5_sharesOut.data.toList.drop 92 = dktX5_sharesOut_4 := dk_seg dksX5_sharesOut_3 22 rfl rfl
theorem dksX5_sharesOut_5 : cX5_sharesOut.data.toList.drop 116 = dktX5_sharesOut_5 := dk_seg dksX5_sharesOut_4 24 rfl rfl
theorem dX5_sharesOut_0 : decode cX5_sharesOut 0 = .ok (.aload_n 0, 1) := dk_42 (dk_at dksX5_sharesOut_0 0 rfl rfl)
theorem dX5_sharesOut_1 : decode cX5_sharesOut 1 = .ok (.getfield 7, 3) := dk_180 0 7 (dk_at dksX5_sharesOut_0 1 rfl rfl)
theorem dX5_sharesOut_4 : decode cX5_sharesOut 4 = .ok (.iconst 0, 1) := dk_3 (dk_at dksX5_sharesOut_0 4 rfl rfl)
theorem dX5_sharesOut_5 : decode cX5_sharesOut 5 = .ok (.iaload, 1) := dk_46 (dk_at dksX5_sharesOut_0 5 rfl rfl)
theorem dX5_sharesOut_6 : decode cX5_sharesOut 6 = .ok (.istore_n 1, 1) := dk_60 (dk_at dksX5_sharesOut_0 6 rfl rfl)
theorem dX5_sharesOut_7 : decode cX5_sharesOut 7 = .ok (.aload_n 0, 1) := dk_42 (dk_at dksX5_sharesOut_0 7 rfl rfl)
theorem dX5_sharesOut_8 : decode cX5_sharesOut 8 = .ok (.getfield 7, 3) := dk_180 0 7 (dk_at dksX5_sharesOut_0 8 rfl rfl)
theorem dX5_sharesOut_11 : decode cX5_sharesOut 11 = .ok (.bipush 12, 2) := dk_16 12 (dk_at dksX5_sharesOut_0 11 rfl rfl)
theorem dX5_sharesOut_13 : decode cX5_sharesOut 13 = .ok (.iaload, 1) := dk_46 (dk_at dksX5_sharesOut_0 13 rfl rfl)
theorem dX5_sharesOut_14 : decode cX5_sharesOut 14 = .ok (.ifCond .eq 7, 3) := dk_153 0 7 (dk_at dksX5_sharesOut_0 14 rfl rfl)
theorem dX5_sharesOut_17 : decode cX5_sharesOut 17 = .ok (.iload_n 1, 1) := dk_27 (dk_at dksX5_sharesOut_0 17 rfl rfl)
theorem dX5_sharesOut_18 : decode cX5_sharesOut 18 = .ok (.ifCond .ne 4, 3) := dk_154 0 4 (dk_at dksX5_sharesOut_0 18 rfl rfl)
theorem dX5_sharesOut_21 : decode cX5_sharesOut 21 = .ok (.return_, 1) := dk_177 (dk_at dksX5_sharesOut_0 21 rfl rfl)
theorem dX5_sharesOut_22 : decode cX5_sharesOut 22 = .ok (.aload_n 0, 1) := dk_42 (dk_at dksX5_sharesOut_0 22 rfl rfl)
theorem dX5_sharesOut_23 : decode cX5_sharesOut 23 = .ok (.getfield 7, 3) := dk_180 0 7 (dk_at dksX5_sharesOut_1 0 rfl rfl)
theorem dX5_sharesOut_26 : decode cX5_sharesOut 26 = .ok (.bipush 12, 2) := dk_16 12 (dk_at dksX5_sharesOut_1 3 rfl rfl)
theorem dX5_sharesOut_28 : decode cX5_sharesOut 28 = .ok (.iaload, 1) := dk_46 (dk_at dksX5_sharesOut_1 5 rfl rfl)
theorem dX5_sharesOut_29 : decode cX5_sharesOut 29 = .ok (.iconst 1, 1) := dk_4 (dk_at dksX5_sharesOut_1 6 rfl rfl)
theorem dX5_sharesOut_30 : decode cX5_sharesOut 30 = .ok (.if_icmp .ne 44, 3) := dk_160 0 44 (dk_at dksX5_sharesOut_1 7 rfl rfl)
theorem dX5_sharesOut_33 : decode cX5_sharesOut 33 = .ok (.aload_n 0, 1) := dk_42 (dk_at dksX5_sharesOut_1 10 rfl rfl)
theorem dX5_sharesOut_34 : decode cX5_sharesOut 34 = .ok (.getfield 7, 3) := dk_180 0 7 (dk_at dksX5_sharesOut_1 11 rfl rfl)
theorem dX5_sharesOut_37 : decode cX5_sharesOut 37 = .ok (.iconst 5, 1) := dk_8 (dk_at dksX5_sharesOut_1 14 rfl rfl)
theorem dX5_sharesOut_38 : decode cX5_sharesOut 38 = .ok (.iaload, 1) := dk_46 (dk_at dksX5_sharesOut_1 15 rfl rfl)
theorem dX5_sharesOut_39 : decode cX5_sharesOut 39 = .ok (.iload_n 1, 1) := dk_27 (dk_at dksX5_sharesOut_1 16 rfl rfl)
theorem dX5_sharesOut_40 : decode cX5_sharesOut 40 = .ok (.idiv, 1) := dk_108 (dk_at dksX5_sharesOut_1 17 rfl rfl)
theorem dX5_sharesOut_41 : decode cX5_sharesOut 41 = .ok (.istore_n 2, 1) := dk_61 (dk_at dksX5_sharesOut_1 18 rfl rfl)
theorem dX5_sharesOut_42 : decode cX5_sharesOut 42 = .ok (.iconst 0, 1) := dk_3 (dk_at dksX5_sharesOut_1 19 rfl rfl)
theorem dX5_sharesOut_43 : decode cX5_sharesOut 43 = .ok (.istore_n 3, 1) := dk_62 (dk_at dksX5_sharesOut_1 20 rfl rfl)
theorem dX5_sharesOut_44 : decode cX5_sharesOut 44 = .ok (.iload_n 3, 1) := dk_29 (dk_at dksX5_sharesOut_1 21 rfl rfl)
theorem dX5_sharesOut_45 : decode cX5_sharesOut 45 = .ok (.iload_n 1, 1) := dk_27 (dk_at dksX5_sharesOut_1 22 rfl rfl)
theorem dX5_sharesOut_46 : decode cX5_sharesOut 46 = .ok (.if_icmp .ge 15, 3) := dk_162 0 15 (dk_at dksX5_sharesOut_2 0 rfl rfl)
theorem dX5_sharesOut_49 : decode cX5_sharesOut 49 = .ok (.aload_n 0, 1) := dk_42 (dk_at dksX5_sharesOut_2 3 rfl rfl)
theorem dX5_sharesOut_50 : decode cX5_sharesOut 50 = .ok (.iload_n 3, 1) := dk_29 (dk_at dksX5_sharesOut_2 4 rfl rfl)
theorem dX5_sharesOut_51 : decode cX5_sharesOut 51 = .ok (.iload_n 2, 1) := dk_28 (dk_at dksX5_sharesOut_2 5 rfl rfl)
theorem dX5_sharesOut_52 : decode cX5_sharesOut 52 = .ok (.invokevirtual 185, 3) := dk_182 0 185 (dk_at dksX5_sharesOut_2 6 rfl rfl)
theorem dX5_sharesOut_55 : decode cX5_sharesOut 55 = .ok (.iinc 3 1, 3) := dk_132 3 1 (dk_at dksX5_sharesOut_2 9 rfl rfl)
theorem dX5_sharesOut_58 : decode cX5_sharesOut 58 = .ok (.goto (-14), 3) := dk_167 255 242 (dk_at dksX5_sharesOut_2 12 rfl rfl)
theorem dX5_sharesOut_61 : decode cX5_sharesOut 61 = .ok (.aload_n 0, 1) := dk_42 (dk_at dksX5_sharesOut_2 15 rfl rfl)
theorem dX5_sharesOut_62 : decode cX5_sharesOut 62 = .ok (.getfield 7, 3) := dk_180 0 7 (dk_at dksX5_sharesOut_2 16 rfl rfl)
theorem dX5_sharesOut_65 : decode cX5_sharesOut 65 = .ok (.iconst 5, 1) := dk_8 (dk_at dksX5_sharesOut_2 19 rfl rfl)
theorem dX5_sharesOut_66 : decode cX5_sharesOut 66 = .ok (.dup2, 1) := dk_92 (dk_at dksX5_sharesOut_2 20 rfl rfl)
theorem dX5_sharesOut_67 : decode cX5_sharesOut 67 = .ok (.iaload, 1) := dk_46 (dk_at dksX5_sharesOut_2 21 rfl rfl)
theorem dX5_sharesOut_68 : decode cX5_sharesOut 68 = .ok (.iload_n 2, 1) := dk_28 (dk_at dksX5_sharesOut_2 22 rfl rfl)
theorem dX5_sharesOut_69 : decode cX5_sharesOut 69 = .ok (.iload_n 1, 1) := dk_27 (dk_at dksX5_sharesOut_2 23 rfl rfl)
theorem dX5_sharesOut_70 : decode cX5_sharesOut 70 = .ok (.imul, 1) := dk_104 (dk_at dksX5_sharesOut_3 0 rfl rfl)
theorem dX5_sharesOut_71 : decode cX5_sharesOut 71 = .ok (.isub, 1) := dk_100 (dk_at dksX5_sharesOut_3 1 rfl rfl)
theorem dX5_sharesOut_72 : decode cX5_sharesOut 72 = .ok (.iastore, 1) := dk_79 (dk_at dksX5_sharesOut_3 2 rfl rfl)
theorem dX5_sharesOut_73 : decode cX5_sharesOut 73 = .ok (.return_, 1) := dk_177 (dk_at dksX5_sharesOut_3 3 rfl rfl)
theorem dX5_sharesOut_74 : decode cX5_sharesOut 74 = .ok (.iconst 0, 1) := dk_3 (dk_at dksX5_sharesOut_3 4 rfl rfl)
theorem dX5_sharesOut_75 : decode cX5_sharesOut 75 = .ok (.istore_n 2, 1) := dk_61 (dk_at dksX5_sharesOut_3 5 rfl rfl)
theorem dX5_sharesOut_76 : decode cX5_sharesOut 76 = .ok (.iconst 1, 1) := dk_4 (dk_at dksX5_sharesOut_3 6 rfl rfl)
theorem dX5_sharesOut_77 : decode cX5_sharesOut 77 = .ok (.istore_n 3, 1) := dk_62 (dk_at dksX5_sharesOut_3 7 rfl rfl)
theorem dX5_sharesOut_78 : decode cX5_sharesOut 78 = .ok (.iload_n 3, 1) := dk_29 (dk_at dksX5_sharesOut_3 8 rfl rfl)
theorem dX5_sharesOut_79 : decode cX5_sharesOut 79 = .ok (.iload_n 1, 1) := dk_27 (dk_at dksX5_sharesOut_3 9 rfl rfl)
theorem dX5_sharesOut_80 : decode cX5_sharesOut 80 = .ok (.if_icmp .ge 30, 3) := dk_162 0 30 (dk_at dksX5_sharesOut_3 10 rfl rfl)
theorem dX5_sharesOut_83 : decode cX5_sharesOut 83 = .ok (.aload_n 0, 1) := dk_42 (dk_at dksX5_sharesOut_3 13 rfl rfl)
theorem dX5_sharesOut_84 : decode cX5_sharesOut 84 = .ok (.iload_n 3, 1) := dk_29 (dk_at dksX5_sharesOut_3 14 rfl rfl)
theorem dX5_sharesOut_85 : decode cX5_sharesOut 85 = .ok (.iconst 1, 1) := dk_4 (dk_at dksX5_sharesOut_3 15 rfl rfl)
theorem dX5_sharesOut_86 : decode cX5_sharesOut 86 = .ok (.invokevirtual 79, 3) := dk_182 0 79 (dk_at dksX5_sharesOut_3 16 rfl rfl)
theorem dX5_sharesOut_89 : decode cX5_sharesOut 89 = .ok (.aload_n 0, 1) := dk_42 (dk_at dksX5_sharesOut_3 19 rfl rfl)
theorem dX5_sharesOut_90 : decode cX5_sharesOut 90 = .ok (.iload_n 2, 1) := dk_28 (dk_at dksX5_sharesOut_3 20 rfl rfl)
theorem dX5_sharesOut_91 : decode cX5_sharesOut 91 = .ok (.iconst 1, 1) := dk_4 (dk_at dksX5_sharesOut_3 21 rfl rfl)
theorem dX5_sharesOut_92 : decode cX5_sharesOut 92 = .ok (.invokevirtual 79, 3) := dk_182 0 79 (dk_at dksX5_sharesOut_4 0 rfl rfl)
theorem dX5_sharesOut_95 : decode cX5_sharesOut 95 = .ok (.if_icmp .ge 7, 3) := dk_162 0 7 (dk_at dksX5_sharesOut_4 3 rfl rfl)
theorem dX5_sharesOut_98 : decode cX5_sharesOut 98 = .ok (.iload_n 3, 1) := dk_29 (dk_at dksX5_sharesOut_4 6 rfl rfl)
theorem dX5_sharesOut_99 : decode cX5_sharesOut 99 = .ok (.goto 4, 3) := dk_167 0 4 (dk_at dksX5_sharesOut_4 7 rfl rfl)
theorem dX5_sharesOut_102 : decode cX5_sharesOut 102 = .ok (.iload_n 2, 1) := dk_28 (dk_at dksX5_sharesOut_4 10 rfl rfl)
theorem dX5_sharesOut_103 : decode cX5_sharesOut 103 = .ok (.istore_n 2, 1) := dk_61 (dk_at dksX5_sharesOut_4 11 rfl rfl)
theorem dX5_sharesOut_104 : decode cX5_sharesOut 104 = .ok (.iinc 3 1, 3) := dk_132 3 1 (dk_at dksX5_sharesOut_4 12 rfl rfl)
theorem dX5_sharesOut_107 : decode cX5_sharesOut 107 = .ok (.goto (-29), 3) := dk_167 255 227 (dk_at dksX5_sharesOut_4 15 rfl rfl)
theorem dX5_sharesOut_110 : decode cX5_sharesOut 110 = .ok (.aload_n 0, 1) := dk_42 (dk_at dksX5_sharesOut_4 18 rfl rfl)
theorem dX5_sharesOut_111 : decode cX5_sharesOut 111 = .ok (.iload_n 2, 1) := dk_28 (dk_at dksX5_sharesOut_4 19 rfl rfl)
theorem dX5_sharesOut_112 : decode cX5_sharesOut 112 = .ok (.aload_n 0, 1) := dk_42 (dk_at dksX5_sharesOut_4 20 rfl rfl)
theorem dX5_sharesOut_113 : decode cX5_sharesOut 113 = .ok (.getfield 7, 3) := dk_180 0 7 (dk_at dksX5_sharesOut_4 21 rfl rfl)
theorem dX5_sharesOut_116 : decode cX5_sharesOut 116 = .ok (.iconst 5, 1) := dk_8 (dk_at dksX5_sharesOut_5 0 rfl rfl)
theorem dX5_sharesOut_117 : decode cX5_sharesOut 117 = .ok (.iaload, 1) := dk_46 (dk_at dksX5_sharesOut_5 1 rfl rfl)
theorem dX5_sharesOut_118 : decode cX5_sharesOut 118 = .ok (.invokevirtual 185, 3) := dk_182 0 185 (dk_at dksX5_sharesOut_5 2 rfl rfl)
theorem dX5_sharesOut_121 : decode cX5_sharesOut 121 = .ok (.aload_n 0, 1) := dk_42 (dk_at dksX5_sharesOut_5 5 rfl rfl)
theorem dX5_sharesOut_122 : decode cX5_sharesOut 122 = .ok (.getfield 7, 3) := dk_180 0 7 (dk_at dksX5_sharesOut_5 6 rfl rfl)
theorem dX5_sharesOut_125 : decode cX5_sharesOut 125 = .ok (.iconst 5, 1) := dk_8 (dk_at dksX5_sharesOut_5 9 rfl rfl)
theorem dX5_sharesOut_126 : decode cX5_sharesOut 126 = .ok (.iconst 0, 1) := dk_3 (dk_at dksX5_sharesOut_5 10 rfl rfl)
theorem dX5_sharesOut_127 : decode cX5_sharesOut 127 = .ok (.iastore, 1) := dk_79 (dk_at dksX5_sharesOut_5 11 rfl rfl)
theorem dX5_sharesOut_128 : decode cX5_sharesOut 128 = .ok (.return_, 1) := dk_177 (dk_at dksX5_sharesOut_5 12 rfl rfl)
abbrev cX5_seed : ByteArray := prog_20_method_65_code
def yX5_seed : MethodName := ⟨RX5, "seed", "(I)I"⟩
def dkwX5_seed_0 : List UInt8 := [42, 180, 0, 7, 16, 8, 46, 61, 42, 180, 0, 7, 16, 8, 27, 79, 28, 172]
abbrev dktX5_seed_0 : List UInt8 := dkwX5_seed_0 ++ []
theorem dksX5_seed_0 : cX5_seed.data.toList.drop 0 = dktX5_seed_0 := by decide +kernel
theorem dX5_seed_0 : decode cX5_seed 0 = .ok (.aload_n 0, 1) := dk_42 (dk_at dksX5_seed_0 0 rfl rfl)
theorem dX5_seed_1 : decode cX5_seed 1 = .ok (.getfield 7, 3) := dk_180 0 7 (dk_at dksX5_seed_0 1 rfl rfl)
theorem dX5_seed_4 : decode cX5_seed 4 = .ok (.bipush 8, 2) := dk_16 8 (dk_at dksX5_seed_0 4 rfl rfl)
theorem dX5_seed_6 : decode cX5_seed 6 = .ok (.iaload, 1) := dk_46 (dk_at dksX5_seed_0 6 rfl rfl)
theorem dX5_seed_7 : decode cX5_seed 7 = .ok (.istore_n 2, 1) := dk_61 (dk_at dksX5_seed_0 7 rfl rfl)
theorem dX5_seed_8 : decode cX5_seed 8 = .ok (.aload_n 0, 1) := dk_42 (dk_at dksX5_seed_0 8 rfl rfl)
theorem dX5_seed_9 : decode cX5_seed 9 = .ok (.getfield 7, 3) := dk_180 0 7 (dk_at dksX5_seed_0 9 rfl rfl)
theorem dX5_seed_12 : decode cX5_seed 12 = .ok (.bipush 8, 2) := dk_16 8 (dk_at dksX5_seed_0 12 rfl rfl)
theorem dX5_seed_14 : decode cX5_seed 14 = .ok (.iload_n 1, 1) := dk_27 (dk_at dksX5_seed_0 14 rfl rfl)
theorem dX5_seed_15 : decode cX5_seed 15 = .ok (.iastore, 1) := dk_79 (dk_at dksX5_seed_0 15 rfl rfl)
theorem dX5_seed_16 : decode cX5_seed 16 = .ok (.iload_n 2, 1) := dk_28 (dk_at dksX5_seed_0 16 rfl rfl)
theorem dX5_seed_17 : decode cX5_seed 17 = .ok (.ireturn, 1) := dk_172 (dk_at dksX5_seed_0 17 rfl rfl)
abbrev cX5_taken : ByteArray := prog_20_method_71_code
def yX5_taken : MethodName := ⟨RX5, "taken", "(III)J"⟩
def dkwX5_taken_1 : List UInt8 := [22, 4, 42, 27, 28, 182, 0, 211, 101, 22, 4, 29, 184, 0, 220, 173]
abbrev dktX5_taken_1 : List UInt8 := dkwX5_taken_1 ++ []
def dkwX5_taken_0 : List UInt8 := [42, 27, 28, 29, 182, 0, 217, 154, 0, 10, 42, 4, 182, 0, 60, 133, 173, 42, 27, 182, 0, 207, 55, 4]
abbrev dktX5_taken_0 : List UInt8 := dkwX5_taken_0 ++ dktX5_taken_1
theorem dksX5_taken_0 : cX5_taken.data.toList.drop 0 = dktX5_taken_0 := by decide +kernel
theorem dksX5_taken_1 : cX5_taken.data.toList.drop 24 = dktX5_taken_1 := dk_seg dksX5_taken_0 24 rfl rfl
theorem dX5_taken_0 : decode cX5_taken 0 = .ok (.aload_n 0, 1) := dk_42 (dk_at dksX5_taken_0 0 rfl rfl)
theorem dX5_taken_1 : decode cX5_taken 1 = .ok (.iload_n 1, 1) := dk_27 (dk_at dksX5_taken_0 1 rfl rfl)
theorem dX5_taken_2 : decode cX5_taken 2 = .ok (.iload_n 2, 1) := dk_28 (dk_at dksX5_taken_0 2 rfl rfl)
theorem dX5_taken_3 : decode cX5_taken 3 = .ok (.iload_n 3, 1) := dk_29 (dk_at dksX5_taken_0 3 rfl rfl)
theorem dX5_taken_4 : decode cX5_taken 4 = .ok (.invokevirtual 217, 3) := dk_182 0 217 (dk_at dksX5_taken_0 4 rfl rfl)
theorem dX5_taken_7 : decode cX5_taken 7 = .ok (.ifCond .ne 10, 3) := dk_154 0 10 (dk_at dksX5_taken_0 7 rfl rfl)
theorem dX5_taken_10 : decode cX5_taken 10 = .ok (.aload_n 0, 1) := dk_42 (dk_at dksX5_taken_0 10 rfl rfl)
theorem dX5_taken_11 : decode cX5_taken 11 = .ok (.iconst 1, 1) := dk_4 (dk_at dksX5_taken_0 11 rfl rfl)
theorem dX5_taken_12 : decode cX5_taken 12 = .ok (.invokevirtual 60, 3) := dk_182 0 60 (dk_at dksX5_taken_0 12 rfl rfl)
theorem dX5_taken_15 : decode cX5_taken 15 = .ok (.i2l, 1) := dk_133 (dk_at dksX5_taken_0 15 rfl rfl)
theorem dX5_taken_16 : decode cX5_taken 16 = .ok (.lreturn, 1) := dk_173 (dk_at dksX5_taken_0 16 rfl rfl)
theorem dX5_taken_17 : decode cX5_taken 17 = .ok (.aload_n 0, 1) := dk_42 (dk_at dksX5_taken_0 17 rfl rfl)
theorem dX5_taken_18 : decode cX5_taken 18 = .ok (.iload_n 1, 1) := dk_27 (dk_at dksX5_taken_0 18 rfl rfl)
theorem dX5_taken_19 : decode cX5_taken 19 = .ok (.invokevirtual 207, 3) := dk_182 0 207 (dk_at dksX5_taken_0 19 rfl rfl)
theorem dX5_taken_22 : decode cX5_taken 22 = .ok (.lstore 4, 2) := dk_55 4 (dk_at dksX5_taken_0 22 rfl rfl)
theorem dX5_taken_24 : decode cX5_taken 24 = .ok (.lload 4, 2) := dk_22 4 (dk_at dksX5_taken_1 0 rfl rfl)
theorem dX5_taken_26 : decode cX5_taken 26 = .ok (.aload_n 0, 1) := dk_42 (dk_at dksX5_taken_1 2 rfl rfl)
theorem dX5_taken_27 : decode cX5_taken 27 = .ok (.iload_n 1, 1) := dk_27 (dk_at dksX5_taken_1 3 rfl rfl)
theorem dX5_taken_28 : decode cX5_taken 28 = .ok (.iload_n 2, 1) := dk_28 (dk_at dksX5_taken_1 4 rfl rfl)
theorem dX5_taken_29 : decode cX5_taken 29 = .ok (.invokevirtual 211, 3) := dk_182 0 211 (dk_at dksX5_taken_1 5 rfl rfl)
theorem dX5_taken_32 : decode cX5_taken 32 = .ok (.lsub, 1) := dk_101 (dk_at dksX5_taken_1 8 rfl rfl)
theorem dX5_taken_33 : decode cX5_taken 33 = .ok (.lload 4, 2) := dk_22 4 (dk_at dksX5_taken_1 9 rfl rfl)
theorem dX5_taken_35 : decode cX5_taken 35 = .ok (.iload_n 3, 1) := dk_29 (dk_at dksX5_taken_1 11 rfl rfl)
theorem dX5_taken_36 : decode cX5_taken 36 = .ok (.invokestatic 220, 3) := dk_184 0 220 (dk_at dksX5_taken_1 12 rfl rfl)
theorem dX5_taken_39 : decode cX5_taken 39 = .ok (.lreturn, 1) := dk_173 (dk_at dksX5_taken_1 15 rfl rfl)
abbrev cX5_isPriced : ByteArray := prog_20_method_70_code
def yX5_isPriced : MethodName := ⟨RX5, "isPriced", "(III)Z"⟩
def dkwX5_isPriced_1 : List UInt8 := [184, 0, 47, 153, 0, 7, 4, 167, 0, 4, 3, 172]
abbrev dktX5_isPriced_1 : List UInt8 := dkwX5_isPriced_1 ++ []
def dkwX5_isPriced_0 : List UInt8 := [42, 27, 182, 0, 92, 153, 0, 27, 28, 3, 17, 39, 15, 184, 0, 47, 153, 0, 16, 29, 3, 4]
abbrev dktX5_isPriced_0 : List UInt8 := dkwX5_isPriced_0 ++ dktX5_isPriced_1
theorem dksX5_isPriced_0 : cX5_isPriced.data.toList.drop 0 = dktX5_isPriced_0 := by decide +kernel
theorem dksX5_isPriced_1 : cX5_isPriced.data.toList.drop 22 = dktX5_isPriced_1 := dk_seg dksX5_isPriced_0 22 rfl rfl
theorem dX5_isPriced_0 : decode cX5_isPriced 0 = .ok (.aload_n 0, 1) := dk_42 (dk_at dksX5_isPriced_0 0 rfl rfl)
theorem dX5_isPriced_1 : decode cX5_isPriced 1 = .ok (.iload_n 1, 1) := dk_27 (dk_at dksX5_isPriced_0 1 rfl rfl)
theorem dX5_isPriced_2 : decode cX5_isPriced 2 = .ok (.invokevirtual 92, 3) := dk_182 0 92 (dk_at dksX5_isPriced_0 2 rfl rfl)
theorem dX5_isPriced_5 : decode cX5_isPriced 5 = .ok (.ifCond .eq 27, 3) := dk_153 0 27 (dk_at dksX5_isPriced_0 5 rfl rfl)
theorem dX5_isPriced_8 : decode cX5_isPriced 8 = .ok (.iload_n 2, 1) := dk_28 (dk_at dksX5_isPriced_0 8 rfl rfl)
theorem dX5_isPriced_9 : decode cX5_isPriced 9 = .ok (.iconst 0, 1) := dk_3 (dk_at dksX5_isPriced_0 9 rfl rfl)
theorem dX5_isPriced_10 : decode cX5_isPriced 10 = .ok (.sipush 9999, 3) := dk_17 39 15 (dk_at dksX5_isPriced_0 10 rfl rfl)
theorem dX5_isPriced_13 : decode cX5_isPriced 13 = .ok (.invokestatic 47, 3) := dk_184 0 47 (dk_at dksX5_isPriced_0 13 rfl rfl)
theorem dX5_isPriced_16 : decode cX5_isPriced 16 = .ok (.ifCond .eq 16, 3) := dk_153 0 16 (dk_at dksX5_isPriced_0 16 rfl rfl)
theorem dX5_isPriced_19 : decode cX5_isPriced 19 = .ok (.iload_n 3, 1) := dk_29 (dk_at dksX5_isPriced_0 19 rfl rfl)
theorem dX5_isPriced_20 : decode cX5_isPriced 20 = .ok (.iconst 0, 1) := dk_3 (dk_at dksX5_isPriced_0 20 rfl rfl)
theorem dX5_isPriced_21 : decode cX5_isPriced 21 = .ok (.iconst 1, 1) := dk_4 (dk_at dksX5_isPriced_0 21 rfl rfl)
theorem dX5_isPriced_22 : decode cX5_isPriced 22 = .ok (.invokestatic 47, 3) := dk_184 0 47 (dk_at dksX5_isPriced_1 0 rfl rfl)
theorem dX5_isPriced_25 : decode cX5_isPriced 25 = .ok (.ifCond .eq 7, 3) := dk_153 0 7 (dk_at dksX5_isPriced_1 3 rfl rfl)
theorem dX5_isPriced_28 : decode cX5_isPriced 28 = .ok (.iconst 1, 1) := dk_4 (dk_at dksX5_isPriced_1 6 rfl rfl)
theorem dX5_isPriced_29 : decode cX5_isPriced 29 = .ok (.goto 4, 3) := dk_167 0 4 (dk_at dksX5_isPriced_1 7 rfl rfl)
theorem dX5_isPriced_32 : decode cX5_isPriced 32 = .ok (.iconst 0, 1) := dk_3 (dk_at dksX5_isPriced_1 10 rfl rfl)
theorem dX5_isPriced_33 : decode cX5_isPriced 33 = .ok (.ireturn, 1) := dk_172 (dk_at dksX5_isPriced_1 11 rfl rfl)
abbrev cX5_lowest : ByteArray := prog_20_method_69_code
def yX5_lowest : MethodName := ⟨RX5, "lowest", "(JJI)J"⟩
def dkwX5_lowest_2 : List UInt8 := [22, 5, 109, 167, 0, 7, 32, 22, 5, 109, 173]
abbrev dktX5_lowest_2 : List UInt8 := dkwX5_lowest_2 ++ []
def dkwX5_lowest_1 : List UInt8 := [22, 5, 22, 7, 113, 55, 9, 22, 7, 55, 5, 22, 9, 55, 7, 167, 255, 234, 21, 4, 154, 0, 10, 30]
abbrev dktX5_lowest_1 : List UInt8 := dkwX5_lowest_1 ++ dktX5_lowest_2
def dkwX5_lowest_0 : List UInt8 := [30, 9, 148, 156, 0, 8, 30, 117, 167, 0, 4, 30, 55, 5, 32, 55, 7, 22, 7, 9, 148, 153, 0, 21]
abbrev dktX5_lowest_0 : List UInt8 := dkwX5_lowest_0 ++ dktX5_lowest_1
theorem dksX5_lowest_0 : cX5_lowest.data.toList.drop 0 = dktX5_lowest_0 := by decide +kernel
theorem dksX5_lowest_1 : cX5_lowest.data.toList.drop 24 = dktX5_lowest_1 := dk_seg dksX5_lowest_0 24 rfl rfl
theorem dksX5_lowest_2 : cX5_lowest.data.toList.drop 48 = dktX5_lowest_2 := dk_seg dksX5_lowest_1 24 rfl rfl
theorem dX5_lowest_0 : decode cX5_lowest 0 = .ok (.lload_n 0, 1) := dk_30 (dk_at dksX5_lowest_0 0 rfl rfl)
theorem dX5_lowest_1 : decode cX5_lowest 1 = .ok (.lconst 0, 1) := dk_9 (dk_at dksX5_lowest_0 1 rfl rfl)
theorem dX5_lowest_2 : decode cX5_lowest 2 = .ok (.lcmp, 1) := dk_148 (dk_at dksX5_lowest_0 2 rfl rfl)
theorem dX5_lowest_3 : decode cX5_lowest 3 = .ok (.ifCond .ge 8, 3) := dk_156 0 8 (dk_at dksX5_lowest_0 3 rfl rfl)
theorem dX5_lowest_6 : decode cX5_lowest 6 = .ok (.lload_n 0, 1) := dk_30 (dk_at dksX5_lowest_0 6 rfl rfl)
theorem dX5_lowest_7 : decode cX5_lowest 7 = .ok (.lneg, 1) := dk_117 (dk_at dksX5_lowest_0 7 rfl rfl)
theorem dX5_lowest_8 : decode cX5_lowest 8 = .ok (.goto 4, 3) := dk_167 0 4 (dk_at dksX5_lowest_0 8 rfl rfl)
theorem dX5_lowest_11 : decode cX5_lowest 11 = .ok (.lload_n 0, 1) := dk_30 (dk_at dksX5_lowest_0 11 rfl rfl)
theorem dX5_lowest_12 : decode cX5_lowest 12 = .ok (.lstore 5, 2) := dk_55 5 (dk_at dksX5_lowest_0 12 rfl rfl)
theorem dX5_lowest_14 : decode cX5_lowest 14 = .ok (.lload_n 2, 1) := dk_32 (dk_at dksX5_lowest_0 14 rfl rfl)
theorem dX5_lowest_15 : decode cX5_lowest 15 = .ok (.lstore 7, 2) := dk_55 7 (dk_at dksX5_lowest_0 15 rfl rfl)
theorem dX5_lowest_17 : decode cX5_lowest 17 = .ok (.lload 7, 2) := dk_22 7 (dk_at dksX5_lowest_0 17 rfl rfl)
theorem dX5_lowest_19 : decode cX5_lowest 19 = .ok (.lconst 0, 1) := dk_9 (dk_at dksX5_lowest_0 19 rfl rfl)
theorem dX5_lowest_20 : decode cX5_lowest 20 = .ok (.lcmp, 1) := dk_148 (dk_at dksX5_lowest_0 20 rfl rfl)
theorem dX5_lowest_21 : decode cX5_lowest 21 = .ok (.ifCond .eq 21, 3) := dk_153 0 21 (dk_at dksX5_lowest_0 21 rfl rfl)
theorem dX5_lowest_24 : decode cX5_lowest 24 = .ok (.lload 5, 2) := dk_22 5 (dk_at dksX5_lowest_1 0 rfl rfl)
theorem dX5_lowest_26 : decode cX5_lowest 26 = .ok (.lload 7, 2) := dk_22 7 (dk_at dksX5_lowest_1 2 rfl rfl)
theorem dX5_lowest_28 : decode cX5_lowest 28 = .ok (.lrem, 1) := dk_113 (dk_at dksX5_lowest_1 4 rfl rfl)
theorem dX5_lowest_29 : decode cX5_lowest 29 = .ok (.lstore 9, 2) := dk_55 9 (dk_at dksX5_lowest_1 5 rfl rfl)
theorem dX5_lowest_31 : decode cX5_lowest 31 = .ok (.lload 7, 2) := dk_22 7 (dk_at dksX5_lowest_1 7 rfl rfl)
theorem dX5_lowest_33 : decode cX5_lowest 33 = .ok (.lstore 5, 2) := dk_55 5 (dk_at dksX5_lowest_1 9 rfl rfl)
theorem dX5_lowest_35 : decode cX5_lowest 35 = .ok (.lload 9, 2) := dk_22 9 (dk_at dksX5_lowest_1 11 rfl rfl)
theorem dX5_lowest_37 : decode cX5_lowest 37 = .ok (.lstore 7, 2) := dk_55 7 (dk_at dksX5_lowest_1 13 rfl rfl)
theorem dX5_lowest_39 : decode cX5_lowest 39 = .ok (.goto (-22), 3) := dk_167 255 234 (dk_at dksX5_lowest_1 15 rfl rfl)
theorem dX5_lowest_42 : decode cX5_lowest 42 = .ok (.iload 4, 2) := dk_21 4 (dk_at dksX5_lowest_1 18 rfl rfl)
theorem dX5_lowest_44 : decode cX5_lowest 44 = .ok (.ifCond .ne 10, 3) := dk_154 0 10 (dk_at dksX5_lowest_1 20 rfl rfl)
theorem dX5_lowest_47 : decode cX5_lowest 47 = .ok (.lload_n 0, 1) := dk_30 (dk_at dksX5_lowest_1 23 rfl rfl)
theorem dX5_lowest_48 : decode cX5_lowest 48 = .ok (.lload 5, 2) := dk_22 5 (dk_at dksX5_lowest_2 0 rfl rfl)
theorem dX5_lowest_50 : decode cX5_lowest 50 = .ok (.ldiv, 1) := dk_109 (dk_at dksX5_lowest_2 2 rfl rfl)
theorem dX5_lowest_51 : decode cX5_lowest 51 = .ok (.goto 7, 3) := dk_167 0 7 (dk_at dksX5_lowest_2 3 rfl rfl)
theorem dX5_lowest_54 : decode cX5_lowest 54 = .ok (.lload_n 2, 1) := dk_32 (dk_at dksX5_lowest_2 6 rfl rfl)
theorem dX5_lowest_55 : decode cX5_lowest 55 = .ok (.lload 5, 2) := dk_22 5 (dk_at dksX5_lowest_2 7 rfl rfl)
theorem dX5_lowest_57 : decode cX5_lowest 57 = .ok (.ldiv, 1) := dk_109 (dk_at dksX5_lowest_2 9 rfl rfl)
theorem dX5_lowest_58 : decode cX5_lowest 58 = .ok (.lreturn, 1) := dk_173 (dk_at dksX5_lowest_2 10 rfl rfl)
abbrev cX5_gain : ByteArray := prog_20_method_72_code
def yX5_gain : MethodName := ⟨RX5, "gain", "(III)J"⟩
def dkwX5_gain_1 : List UInt8 := [16, 10, 46, 182, 0, 224, 20, 0, 215, 42, 27, 182, 0, 207, 105, 29, 184, 0, 220, 173]
abbrev dktX5_gain_1 : List UInt8 := dkwX5_gain_1 ++ []
def dkwX5_gain_0 : List UInt8 := [42, 27, 28, 29, 182, 0, 217, 154, 0, 10, 42, 4, 182, 0, 60, 133, 173, 42, 27, 28, 42, 180, 0, 7]
abbrev dktX5_gain_0 : List UInt8 := dkwX5_gain_0 ++ dktX5_gain_1
theorem dksX5_gain_0 : cX5_gain.data.toList.drop 0 = dktX5_gain_0 := by decide +kernel
theorem dksX5_gain_1 : cX5_gain.data.toList.drop 24 = dktX5_gain_1 := dk_seg dksX5_gain_0 24 rfl rfl
theorem dX5_gain_0 : decode cX5_gain 0 = .ok (.aload_n 0, 1) := dk_42 (dk_at dksX5_gain_0 0 rfl rfl)
theorem dX5_gain_1 : decode cX5_gain 1 = .ok (.iload_n 1, 1) := dk_27 (dk_at dksX5_gain_0 1 rfl rfl)
theorem dX5_gain_2 : decode cX5_gain 2 = .ok (.iload_n 2, 1) := dk_28 (dk_at dksX5_gain_0 2 rfl rfl)
theorem dX5_gain_3 : decode cX5_gain 3 = .ok (.iload_n 3, 1) := dk_29 (dk_at dksX5_gain_0 3 rfl rfl)
theorem dX5_gain_4 : decode cX5_gain 4 = .ok (.invokevirtual 217, 3) := dk_182 0 217 (dk_at dksX5_gain_0 4 rfl rfl)
theorem dX5_gain_7 : decode cX5_gain 7 = .ok (.ifCond .ne 10, 3) := dk_154 0 10 (dk_at dksX5_gain_0 7 rfl rfl)
theorem dX5_gain_10 : decode cX5_gain 10 = .ok (.aload_n 0, 1) := dk_42 (dk_at dksX5_gain_0 10 rfl rfl)
theorem dX5_gain_11 : decode cX5_gain 11 = .ok (.iconst 1, 1) := dk_4 (dk_at dksX5_gain_0 11 rfl rfl)
theorem dX5_gain_12 : decode cX5_gain 12 = .ok (.invokevirtual 60, 3) := dk_182 0 60 (dk_at dksX5_gain_0 12 rfl rfl)
theorem dX5_gain_15 : decode cX5_gain 15 = .ok (.i2l, 1) := dk_133 (dk_at dksX5_gain_0 15 rfl rfl)
theorem dX5_gain_16 : decode cX5_gain 16 = .ok (.lreturn, 1) := dk_173 (dk_at dksX5_gain_0 16 rfl rfl)
theorem dX5_gain_17 : decode cX5_gain 17 = .ok (.aload_n 0, 1) := dk_42 (dk_at dksX5_gain_0 17 rfl rfl)
theorem dX5_gain_18 : decode cX5_gain 18 = .ok (.iload_n 1, 1) := dk_27 (dk_at dksX5_gain_0 18 rfl rfl)
theorem dX5_gain_19 : decode cX5_gain 19 = .ok (.iload_n 2, 1) := dk_28 (dk_at dksX5_gain_0 19 rfl rfl)
theorem dX5_gain_20 : decode cX5_gain 20 = .ok (.aload_n 0, 1) := dk_42 (dk_at dksX5_gain_0 20 rfl rfl)
theorem dX5_gain_21 : decode cX5_gain 21 = .ok (.getfield 7, 3) := dk_180 0 7 (dk_at dksX5_gain_0 21 rfl rfl)
theorem dX5_gain_24 : decode cX5_gain 24 = .ok (.bipush 10, 2) := dk_16 10 (dk_at dksX5_gain_1 0 rfl rfl)
theorem dX5_gain_26 : decode cX5_gain 26 = .ok (.iaload, 1) := dk_46 (dk_at dksX5_gain_1 2 rfl rfl)
theorem dX5_gain_27 : decode cX5_gain 27 = .ok (.invokevirtual 224, 3) := dk_182 0 224 (dk_at dksX5_gain_1 3 rfl rfl)
theorem dX5_gain_30 : decode cX5_gain 30 = .ok (.ldc2_w 215, 3) := dk_20 0 215 (dk_at dksX5_gain_1 6 rfl rfl)
theorem dX5_gain_33 : decode cX5_gain 33 = .ok (.aload_n 0, 1) := dk_42 (dk_at dksX5_gain_1 9 rfl rfl)
theorem dX5_gain_34 : decode cX5_gain 34 = .ok (.iload_n 1, 1) := dk_27 (dk_at dksX5_gain_1 10 rfl rfl)
theorem dX5_gain_35 : decode cX5_gain 35 = .ok (.invokevirtual 207, 3) := dk_182 0 207 (dk_at dksX5_gain_1 11 rfl rfl)
theorem dX5_gain_38 : decode cX5_gain 38 = .ok (.lmul, 1) := dk_105 (dk_at dksX5_gain_1 14 rfl rfl)
theorem dX5_gain_39 : decode cX5_gain 39 = .ok (.iload_n 3, 1) := dk_29 (dk_at dksX5_gain_1 15 rfl rfl)
theorem dX5_gain_40 : decode cX5_gain 40 = .ok (.invokestatic 220, 3) := dk_184 0 220 (dk_at dksX5_gain_1 16 rfl rfl)
theorem dX5_gain_43 : decode cX5_gain 43 = .ok (.lreturn, 1) := dk_173 (dk_at dksX5_gain_1 19 rfl rfl)
abbrev cX5_best : ByteArray := prog_20_method_76_code
def yX5_best : MethodName := ⟨RX5, "best", "(I)I"⟩
def dkwX5_best_0 : List UInt8 := [42, 27, 182, 0, 92, 153, 0, 11, 42, 27, 182, 0, 165, 167, 0, 8, 42, 4, 182, 0, 60, 172]
abbrev dktX5_best_0 : List UInt8 := dkwX5_best_0 ++ []
theorem dksX5_best_0 : cX5_best.data.toList.drop 0 = dktX5_best_0 := by decide +kernel
theorem dX5_best_0 : decode cX5_best 0 = .ok (.aload_n 0, 1) := dk_42 (dk_at dksX5_best_0 0 rfl rfl)
theorem dX5_best_1 : decode cX5_best 1 = .ok (.iload_n 1, 1) := dk_27 (dk_at dksX5_best_0 1 rfl rfl)
theorem dX5_best_2 : decode cX5_best 2 = .ok (.invokevirtual 92, 3) := dk_182 0 92 (dk_at dksX5_best_0 2 rfl rfl)
theorem dX5_best_5 : decode cX5_best 5 = .ok (.ifCond .eq 11, 3) := dk_153 0 11 (dk_at dksX5_best_0 5 rfl rfl)
theorem dX5_best_8 : decode cX5_best 8 = .ok (.aload_n 0, 1) := dk_42 (dk_at dksX5_best_0 8 rfl rfl)
theorem dX5_best_9 : decode cX5_best 9 = .ok (.iload_n 1, 1) := dk_27 (dk_at dksX5_best_0 9 rfl rfl)
theorem dX5_best_10 : decode cX5_best 10 = .ok (.invokevirtual 165, 3) := dk_182 0 165 (dk_at dksX5_best_0 10 rfl rfl)
theorem dX5_best_13 : decode cX5_best 13 = .ok (.goto 8, 3) := dk_167 0 8 (dk_at dksX5_best_0 13 rfl rfl)
theorem dX5_best_16 : decode cX5_best 16 = .ok (.aload_n 0, 1) := dk_42 (dk_at dksX5_best_0 16 rfl rfl)
theorem dX5_best_17 : decode cX5_best 17 = .ok (.iconst 1, 1) := dk_4 (dk_at dksX5_best_0 17 rfl rfl)
theorem dX5_best_18 : decode cX5_best 18 = .ok (.invokevirtual 60, 3) := dk_182 0 60 (dk_at dksX5_best_0 18 rfl rfl)
theorem dX5_best_21 : decode cX5_best 21 = .ok (.ireturn, 1) := dk_172 (dk_at dksX5_best_0 21 rfl rfl)
abbrev cX5_right : ByteArray := prog_20_method_77_code
def yX5_right : MethodName := ⟨RX5, "right", "(I)I"⟩
def dkwX5_right_2 : List UInt8 := [167, 255, 226, 42, 5, 182, 0, 60, 172]
abbrev dktX5_right_2 : List UInt8 := dkwX5_right_2 ++ []
def dkwX5_right_1 : List UInt8 := [28, 182, 0, 232, 42, 42, 27, 182, 0, 67, 27, 182, 0, 73, 160, 0, 5, 28, 172, 132, 2, 1]
abbrev dktX5_right_1 : List UInt8 := dkwX5_right_1 ++ dktX5_right_2
def dkwX5_right_0 : List UInt8 := [42, 27, 182, 0, 92, 154, 0, 9, 42, 4, 182, 0, 60, 172, 3, 61, 28, 16, 99, 163, 0, 30, 42, 27]
abbrev dktX5_right_0 : List UInt8 := dkwX5_right_0 ++ dktX5_right_1
theorem dksX5_right_0 : cX5_right.data.toList.drop 0 = dktX5_right_0 := by decide +kernel
theorem dksX5_right_1 : cX5_right.data.toList.drop 24 = dktX5_right_1 := dk_seg dksX5_right_0 24 rfl rfl
theorem dksX5_right_2 : cX5_right.data.toList.drop 46 = dktX5_right_2 := dk_seg dksX5_right_1 22 rfl rfl
theorem dX5_right_0 : decode cX5_right 0 = .ok (.aload_n 0, 1) := dk_42 (dk_at dksX5_right_0 0 rfl rfl)
theorem dX5_right_1 : decode cX5_right 1 = .ok (.iload_n 1, 1) := dk_27 (dk_at dksX5_right_0 1 rfl rfl)
theorem dX5_right_2 : decode cX5_right 2 = .ok (.invokevirtual 92, 3) := dk_182 0 92 (dk_at dksX5_right_0 2 rfl rfl)
theorem dX5_right_5 : decode cX5_right 5 = .ok (.ifCond .ne 9, 3) := dk_154 0 9 (dk_at dksX5_right_0 5 rfl rfl)
theorem dX5_right_8 : decode cX5_right 8 = .ok (.aload_n 0, 1) := dk_42 (dk_at dksX5_right_0 8 rfl rfl)
theorem dX5_right_9 : decode cX5_right 9 = .ok (.iconst 1, 1) := dk_4 (dk_at dksX5_right_0 9 rfl rfl)
theorem dX5_right_10 : decode cX5_right 10 = .ok (.invokevirtual 60, 3) := dk_182 0 60 (dk_at dksX5_right_0 10 rfl rfl)
theorem dX5_right_13 : decode cX5_right 13 = .ok (.ireturn, 1) := dk_172 (dk_at dksX5_right_0 13 rfl rfl)
theorem dX5_right_14 : decode cX5_right 14 = .ok (.iconst 0, 1) := dk_3 (dk_at dksX5_right_0 14 rfl rfl)
theorem dX5_right_15 : decode cX5_right 15 = .ok (.istore_n 2, 1) := dk_61 (dk_at dksX5_right_0 15 rfl rfl)
theorem dX5_right_16 : decode cX5_right 16 = .ok (.iload_n 2, 1) := dk_28 (dk_at dksX5_right_0 16 rfl rfl)
theorem dX5_right_17 : decode cX5_right 17 = .ok (.bipush 99, 2) := dk_16 99 (dk_at dksX5_right_0 17 rfl rfl)
theorem dX5_right_19 : decode cX5_right 19 = .ok (.if_icmp .gt 30, 3) := dk_163 0 30 (dk_at dksX5_right_0 19 rfl rfl)
theorem dX5_right_22 : decode cX5_right 22 = .ok (.aload_n 0, 1) := dk_42 (dk_at dksX5_right_0 22 rfl rfl)
theorem dX5_right_23 : decode cX5_right 23 = .ok (.iload_n 1, 1) := dk_27 (dk_at dksX5_right_0 23 rfl rfl)
theorem dX5_right_24 : decode cX5_right 24 = .ok (.iload_n 2, 1) := dk_28 (dk_at dksX5_right_1 0 rfl rfl)
theorem dX5_right_25 : decode cX5_right 25 = .ok (.invokevirtual 232, 3) := dk_182 0 232 (dk_at dksX5_right_1 1 rfl rfl)
theorem dX5_right_28 : decode cX5_right 28 = .ok (.aload_n 0, 1) := dk_42 (dk_at dksX5_right_1 4 rfl rfl)
theorem dX5_right_29 : decode cX5_right 29 = .ok (.aload_n 0, 1) := dk_42 (dk_at dksX5_right_1 5 rfl rfl)
theorem dX5_right_30 : decode cX5_right 30 = .ok (.iload_n 1, 1) := dk_27 (dk_at dksX5_right_1 6 rfl rfl)
theorem dX5_right_31 : decode cX5_right 31 = .ok (.invokevirtual 67, 3) := dk_182 0 67 (dk_at dksX5_right_1 7 rfl rfl)
theorem dX5_right_34 : decode cX5_right 34 = .ok (.iload_n 1, 1) := dk_27 (dk_at dksX5_right_1 10 rfl rfl)
theorem dX5_right_35 : decode cX5_right 35 = .ok (.invokevirtual 73, 3) := dk_182 0 73 (dk_at dksX5_right_1 11 rfl rfl)
theorem dX5_right_38 : decode cX5_right 38 = .ok (.if_icmp .ne 5, 3) := dk_160 0 5 (dk_at dksX5_right_1 14 rfl rfl)
theorem dX5_right_41 : decode cX5_right 41 = .ok (.iload_n 2, 1) := dk_28 (dk_at dksX5_right_1 17 rfl rfl)
theorem dX5_right_42 : decode cX5_right 42 = .ok (.ireturn, 1) := dk_172 (dk_at dksX5_right_1 18 rfl rfl)
theorem dX5_right_43 : decode cX5_right 43 = .ok (.iinc 2 1, 3) := dk_132 2 1 (dk_at dksX5_right_1 19 rfl rfl)
theorem dX5_right_46 : decode cX5_right 46 = .ok (.goto (-30), 3) := dk_167 255 226 (dk_at dksX5_right_2 0 rfl rfl)
theorem dX5_right_49 : decode cX5_right 49 = .ok (.aload_n 0, 1) := dk_42 (dk_at dksX5_right_2 3 rfl rfl)
theorem dX5_right_50 : decode cX5_right 50 = .ok (.iconst 2, 1) := dk_5 (dk_at dksX5_right_2 4 rfl rfl)
theorem dX5_right_51 : decode cX5_right 51 = .ok (.invokevirtual 60, 3) := dk_182 0 60 (dk_at dksX5_right_2 5 rfl rfl)
theorem dX5_right_54 : decode cX5_right 54 = .ok (.ireturn, 1) := dk_172 (dk_at dksX5_right_2 8 rfl rfl)
abbrev cX5_town : ByteArray := prog_20_method_80_code
def yX5_town : MethodName := ⟨RX5, "town", "(I)I"⟩
def dkwX5_town_0 : List UInt8 := [27, 3, 16, 6, 184, 0, 47, 153, 0, 11, 42, 27, 182, 0, 238, 167, 0, 8, 42, 4, 182, 0, 60, 172]
abbrev dktX5_town_0 : List UInt8 := dkwX5_town_0 ++ []
theorem dksX5_town_0 : cX5_town.data.toList.drop 0 = dktX5_town_0 := by decide +kernel
theorem dX5_town_0 : decode cX5_town 0 = .ok (.iload_n 1, 1) := dk_27 (dk_at dksX5_town_0 0 rfl rfl)
theorem dX5_town_1 : decode cX5_town 1 = .ok (.iconst 0, 1) := dk_3 (dk_at dksX5_town_0 1 rfl rfl)
theorem dX5_town_2 : decode cX5_town 2 = .ok (.bipush 6, 2) := dk_16 6 (dk_at dksX5_town_0 2 rfl rfl)
theorem dX5_town_4 : decode cX5_town 4 = .ok (.invokestatic 47, 3) := dk_184 0 47 (dk_at dksX5_town_0 4 rfl rfl)
theorem dX5_town_7 : decode cX5_town 7 = .ok (.ifCond .eq 11, 3) := dk_153 0 11 (dk_at dksX5_town_0 7 rfl rfl)
theorem dX5_town_10 : decode cX5_town 10 = .ok (.aload_n 0, 1) := dk_42 (dk_at dksX5_town_0 10 rfl rfl)
theorem dX5_town_11 : decode cX5_town 11 = .ok (.iload_n 1, 1) := dk_27 (dk_at dksX5_town_0 11 rfl rfl)
theorem dX5_town_12 : decode cX5_town 12 = .ok (.invokevirtual 238, 3) := dk_182 0 238 (dk_at dksX5_town_0 12 rfl rfl)
theorem dX5_town_15 : decode cX5_town 15 = .ok (.goto 8, 3) := dk_167 0 8 (dk_at dksX5_town_0 15 rfl rfl)
theorem dX5_town_18 : decode cX5_town 18 = .ok (.aload_n 0, 1) := dk_42 (dk_at dksX5_town_0 18 rfl rfl)
theorem dX5_town_19 : decode cX5_town 19 = .ok (.iconst 1, 1) := dk_4 (dk_at dksX5_town_0 19 rfl rfl)
theorem dX5_town_20 : decode cX5_town 20 = .ok (.invokevirtual 60, 3) := dk_182 0 60 (dk_at dksX5_town_0 20 rfl rfl)
theorem dX5_town_23 : decode cX5_town 23 = .ok (.ireturn, 1) := dk_172 (dk_at dksX5_town_0 23 rfl rfl)
abbrev cX5_townOf : ByteArray := prog_20_method_79_code
def yX5_townOf : MethodName := ⟨RX5, "townOf", "(I)I"⟩
def dkwX5_townOf_2 : List UInt8 := [162, 0, 18, 28, 42, 29, 4, 182, 0, 79, 96, 61, 132, 3, 1, 167, 255, 234, 28, 172]
abbrev dktX5_townOf_2 : List UInt8 := dkwX5_townOf_2 ++ []
def dkwX5_townOf_1 : List UInt8 := [46, 172, 27, 5, 159, 0, 9, 42, 27, 182, 0, 235, 172, 3, 61, 3, 62, 29, 42, 180, 0, 7, 3, 46]
abbrev dktX5_townOf_1 : List UInt8 := dkwX5_townOf_1 ++ dktX5_townOf_2
def dkwX5_townOf_0 : List UInt8 := [27, 6, 159, 0, 8, 27, 7, 160, 0, 19, 42, 180, 0, 7, 27, 6, 160, 0, 7, 8, 167, 0, 4, 7]
abbrev dktX5_townOf_0 : List UInt8 := dkwX5_townOf_0 ++ dktX5_townOf_1
theorem dksX5_townOf_0 : cX5_townOf.data.toList.drop 0 = dktX5_townOf_0 := by decide +kernel
theorem dksX5_townOf_1 : cX5_townOf.data.toList.drop 24 = dktX5_townOf_1 := dk_seg dksX5_townOf_0 24 rfl rfl
theorem dksX5_townOf_2 : cX5_townOf.data.toList.drop 48 = dktX5_townOf_2 := dk_seg dksX5_townOf_1 24 rfl rfl
theorem dX5_townOf_0 : decode cX5_townOf 0 = .ok (.iload_n 1, 1) := dk_27 (dk_at dksX5_townOf_0 0 rfl rfl)
theorem dX5_townOf_1 : decode cX5_townOf 1 = .ok (.iconst 3, 1) := dk_6 (dk_at dksX5_townOf_0 1 rfl rfl)
theorem dX5_townOf_2 : decode cX5_townOf 2 = .ok (.if_icmp .eq 8, 3) := dk_159 0 8 (dk_at dksX5_townOf_0 2 rfl rfl)
theorem dX5_townOf_5 : decode cX5_townOf 5 = .ok (.iload_n 1, 1) := dk_27 (dk_at dksX5_townOf_0 5 rfl rfl)
theorem dX5_townOf_6 : decode cX5_townOf 6 = .ok (.iconst 4, 1) := dk_7 (dk_at dksX5_townOf_0 6 rfl rfl)
theorem dX5_townOf_7 : decode cX5_townOf 7 = .ok (.if_icmp .ne 19, 3) := dk_160 0 19 (dk_at dksX5_townOf_0 7 rfl rfl)
theorem dX5_townOf_10 : decode cX5_townOf 10 = .ok (.aload_n 0, 1) := dk_42 (dk_at dksX5_townOf_0 10 rfl rfl)
theorem dX5_townOf_11 : decode cX5_townOf 11 = .ok (.getfield 7, 3) := dk_180 0 7 (dk_at dksX5_townOf_0 11 rfl rfl)
theorem dX5_townOf_14 : decode cX5_townOf 14 = .ok (.iload_n 1, 1) := dk_27 (dk_at dksX5_townOf_0 14 rfl rfl)
theorem dX5_townOf_15 : decode cX5_townOf 15 = .ok (.iconst 3, 1) := dk_6 (dk_at dksX5_townOf_0 15 rfl rfl)
theorem dX5_townOf_16 : decode cX5_townOf 16 = .ok (.if_icmp .ne 7, 3) := dk_160 0 7 (dk_at dksX5_townOf_0 16 rfl rfl)
theorem dX5_townOf_19 : decode cX5_townOf 19 = .ok (.iconst 5, 1) := dk_8 (dk_at dksX5_townOf_0 19 rfl rfl)
theorem dX5_townOf_20 : decode cX5_townOf 20 = .ok (.goto 4, 3) := dk_167 0 4 (dk_at dksX5_townOf_0 20 rfl rfl)
theorem dX5_townOf_23 : decode cX5_townOf 23 = .ok (.iconst 4, 1) := dk_7 (dk_at dksX5_townOf_0 23 rfl rfl)
theorem dX5_townOf_24 : decode cX5_townOf 24 = .ok (.iaload, 1) := dk_46 (dk_at dksX5_townOf_1 0 rfl rfl)
theorem dX5_townOf_25 : decode cX5_townOf 25 = .ok (.ireturn, 1) := dk_172 (dk_at dksX5_townOf_1 1 rfl rfl)
theorem dX5_townOf_26 : decode cX5_townOf 26 = .ok (.iload_n 1, 1) := dk_27 (dk_at dksX5_townOf_1 2 rfl rfl)
theorem dX5_townOf_27 : decode cX5_townOf 27 = .ok (.iconst 2, 1) := dk_5 (dk_at dksX5_townOf_1 3 rfl rfl)
theorem dX5_townOf_28 : decode cX5_townOf 28 = .ok (.if_icmp .eq 9, 3) := dk_159 0 9 (dk_at dksX5_townOf_1 4 rfl rfl)
theorem dX5_townOf_31 : decode cX5_townOf 31 = .ok (.aload_n 0, 1) := dk_42 (dk_at dksX5_townOf_1 7 rfl rfl)
theorem dX5_townOf_32 : decode cX5_townOf 32 = .ok (.iload_n 1, 1) := dk_27 (dk_at dksX5_townOf_1 8 rfl rfl)
theorem dX5_townOf_33 : decode cX5_townOf 33 = .ok (.invokevirtual 235, 3) := dk_182 0 235 (dk_at dksX5_townOf_1 9 rfl rfl)
theorem dX5_townOf_36 : decode cX5_townOf 36 = .ok (.ireturn, 1) := dk_172 (dk_at dksX5_townOf_1 12 rfl rfl)
theorem dX5_townOf_37 : decode cX5_townOf 37 = .ok (.iconst 0, 1) := dk_3 (dk_at dksX5_townOf_1 13 rfl rfl)
theorem dX5_townOf_38 : decode cX5_townOf 38 = .ok (.istore_n 2, 1) := dk_61 (dk_at dksX5_townOf_1 14 rfl rfl)
theorem dX5_townOf_39 : decode cX5_townOf 39 = .ok (.iconst 0, 1) := dk_3 (dk_at dksX5_townOf_1 15 rfl rfl)
theorem dX5_townOf_40 : decode cX5_townOf 40 = .ok (.istore_n 3, 1) := dk_62 (dk_at dksX5_townOf_1 16 rfl rfl)
theorem dX5_townOf_41 : decode cX5_townOf 41 = .ok (.iload_n 3, 1) := dk_29 (dk_at dksX5_townOf_1 17 rfl rfl)
theorem dX5_townOf_42 : decode cX5_townOf 42 = .ok (.aload_n 0, 1) := dk_42 (dk_at dksX5_townOf_1 18 rfl rfl)
theorem dX5_townOf_43 : decode cX5_townOf 43 = .ok (.getfield 7, 3) := dk_180 0 7 (dk_at dksX5_townOf_1 19 rfl rfl)
theorem dX5_townOf_46 : decode cX5_townOf 46 = .ok (.iconst 0, 1) := dk_3 (dk_at dksX5_townOf_1 22 rfl rfl)
theorem dX5_townOf_47 : decode cX5_townOf 47 = .ok (.iaload, 1) := dk_46 (dk_at dksX5_townOf_1 23 rfl rfl)
theorem dX5_townOf_48 : decode cX5_townOf 48 = .ok (.if_icmp .ge 18, 3) := dk_162 0 18 (dk_at dksX5_townOf_2 0 rfl rfl)
theorem dX5_townOf_51 : decode cX5_townOf 51 = .ok (.iload_n 2, 1) := dk_28 (dk_at dksX5_townOf_2 3 rfl rfl)
theorem dX5_townOf_52 : decode cX5_townOf 52 = .ok (.aload_n 0, 1) := dk_42 (dk_at dksX5_townOf_2 4 rfl rfl)
theorem dX5_townOf_53 : decode cX5_townOf 53 = .ok (.iload_n 3, 1) := dk_29 (dk_at dksX5_townOf_2 5 rfl rfl)
theorem dX5_townOf_54 : decode cX5_townOf 54 = .ok (.iconst 1, 1) := dk_4 (dk_at dksX5_townOf_2 6 rfl rfl)
theorem dX5_townOf_55 : decode cX5_townOf 55 = .ok (.invokevirtual 79, 3) := dk_182 0 79 (dk_at dksX5_townOf_2 7 rfl rfl)
theorem dX5_townOf_58 : decode cX5_townOf 58 = .ok (.iadd, 1) := dk_96 (dk_at dksX5_townOf_2 10 rfl rfl)
theorem dX5_townOf_59 : decode cX5_townOf 59 = .ok (.istore_n 2, 1) := dk_61 (dk_at dksX5_townOf_2 11 rfl rfl)
theorem dX5_townOf_60 : decode cX5_townOf 60 = .ok (.iinc 3 1, 3) := dk_132 3 1 (dk_at dksX5_townOf_2 12 rfl rfl)
theorem dX5_townOf_63 : decode cX5_townOf 63 = .ok (.goto (-22), 3) := dk_167 255 234 (dk_at dksX5_townOf_2 15 rfl rfl)
theorem dX5_townOf_66 : decode cX5_townOf 66 = .ok (.iload_n 2, 1) := dk_28 (dk_at dksX5_townOf_2 18 rfl rfl)
theorem dX5_townOf_67 : decode cX5_townOf 67 = .ok (.ireturn, 1) := dk_172 (dk_at dksX5_townOf_2 19 rfl rfl)
abbrev cX5_sumOf : ByteArray := prog_20_method_78_code
def yX5_sumOf : MethodName := ⟨RX5, "sumOf", "(I)I"⟩
def dkwX5_sumOf_5 : List UInt8 := [132, 3, 1, 167, 255, 218, 28, 172]
abbrev dktX5_sumOf_5 : List UInt8 := dkwX5_sumOf_5 ++ []
def dkwX5_sumOf_4 : List UInt8 := [154, 0, 30, 28, 42, 29, 182, 0, 98, 156, 0, 7, 3, 167, 0, 9, 42, 29, 5, 182, 0, 64, 96, 61]
abbrev dktX5_sumOf_4 : List UInt8 := dkwX5_sumOf_4 ++ dktX5_sumOf_5
def dkwX5_sumOf_3 : List UInt8 := [182, 0, 51, 96, 61, 132, 3, 1, 167, 255, 185, 3, 62, 29, 42, 180, 0, 7, 5, 46, 162, 0, 34, 27]
abbrev dktX5_sumOf_3 : List UInt8 := dkwX5_sumOf_3 ++ dktX5_sumOf_4
def dkwX5_sumOf_2 : List UInt8 := [182, 0, 73, 167, 0, 23, 27, 8, 160, 0, 12, 42, 29, 5, 182, 0, 51, 167, 0, 9, 42, 29, 4]
abbrev dktX5_sumOf_2 : List UInt8 := dkwX5_sumOf_2 ++ dktX5_sumOf_3
def dkwX5_sumOf_1 : List UInt8 := [182, 0, 67, 29, 182, 0, 73, 167, 0, 41, 27, 4, 160, 0, 16, 42, 42, 29, 182, 0, 95, 29]
abbrev dktX5_sumOf_1 : List UInt8 := dkwX5_sumOf_1 ++ dktX5_sumOf_2
def dkwX5_sumOf_0 : List UInt8 := [3, 61, 3, 62, 29, 42, 180, 0, 7, 4, 46, 162, 0, 67, 28, 27, 154, 0, 16, 42, 42, 29]
abbrev dktX5_sumOf_0 : List UInt8 := dkwX5_sumOf_0 ++ dktX5_sumOf_1
theorem dksX5_sumOf_0 : cX5_sumOf.data.toList.drop 0 = dktX5_sumOf_0 := by decide +kernel
theorem dksX5_sumOf_1 : cX5_sumOf.data.toList.drop 22 = dktX5_sumOf_1 := dk_seg dksX5_sumOf_0 22 rfl rfl
theorem dksX5_sumOf_2 : cX5_sumOf.data.toList.drop 44 = dktX5_sumOf_2 := dk_seg dksX5_sumOf_1 22 rfl rfl
theorem dksX5_sumOf_3 : cX5_sumOf.data.toList.drop 67 = dktX5_sumOf_3 := dk_seg dksX5_sumOf_2 23 rfl rfl
theorem dksX5_sumOf_4 : cX5_sumOf.data.toList.drop 91 = dktX5_sumOf_4 := dk_seg dksX5_sumOf_3 24 rfl rfl
theorem dksX5_sumOf_5 : cX5_sumOf.data.toList.drop 115 = dktX5_sumOf_5 := dk_seg dksX5_sumOf_4 24 rfl rfl
theorem dX5_sumOf_0 : decode cX5_sumOf 0 = .ok (.iconst 0, 1) := dk_3 (dk_at dksX5_sumOf_0 0 rfl rfl)
theorem dX5_sumOf_1 : decode cX5_sumOf 1 = .ok (.istore_n 2, 1) := dk_61 (dk_at dksX5_sumOf_0 1 rfl rfl)
theorem dX5_sumOf_2 : decode cX5_sumOf 2 = .ok (.iconst 0, 1) := dk_3 (dk_at dksX5_sumOf_0 2 rfl rfl)
theorem dX5_sumOf_3 : decode cX5_sumOf 3 = .ok (.istore_n 3, 1) := dk_62 (dk_at dksX5_sumOf_0 3 rfl rfl)
theorem dX5_sumOf_4 : decode cX5_sumOf 4 = .ok (.iload_n 3, 1) := dk_29 (dk_at dksX5_sumOf_0 4 rfl rfl)
theorem dX5_sumOf_5 : decode cX5_sumOf 5 = .ok (.aload_n 0, 1) := dk_42 (dk_at dksX5_sumOf_0 5 rfl rfl)
theorem dX5_sumOf_6 : decode cX5_sumOf 6 = .ok (.getfield 7, 3) := dk_180 0 7 (dk_at dksX5_sumOf_0 6 rfl rfl)
theorem dX5_sumOf_9 : decode cX5_sumOf 9 = .ok (.iconst 1, 1) := dk_4 (dk_at dksX5_sumOf_0 9 rfl rfl)
theorem dX5_sumOf_10 : decode cX5_sumOf 10 = .ok (.iaload, 1) := dk_46 (dk_at dksX5_sumOf_0 10 rfl rfl)
theorem dX5_sumOf_11 : decode cX5_sumOf 11 = .ok (.if_icmp .ge 67, 3) := dk_162 0 67 (dk_at dksX5_sumOf_0 11 rfl rfl)
theorem dX5_sumOf_14 : decode cX5_sumOf 14 = .ok (.iload_n 2, 1) := dk_28 (dk_at dksX5_sumOf_0 14 rfl rfl)
theorem dX5_sumOf_15 : decode cX5_sumOf 15 = .ok (.iload_n 1, 1) := dk_27 (dk_at dksX5_sumOf_0 15 rfl rfl)
theorem dX5_sumOf_16 : decode cX5_sumOf 16 = .ok (.ifCond .ne 16, 3) := dk_154 0 16 (dk_at dksX5_sumOf_0 16 rfl rfl)
theorem dX5_sumOf_19 : decode cX5_sumOf 19 = .ok (.aload_n 0, 1) := dk_42 (dk_at dksX5_sumOf_0 19 rfl rfl)
theorem dX5_sumOf_20 : decode cX5_sumOf 20 = .ok (.aload_n 0, 1) := dk_42 (dk_at dksX5_sumOf_0 20 rfl rfl)
theorem dX5_sumOf_21 : decode cX5_sumOf 21 = .ok (.iload_n 3, 1) := dk_29 (dk_at dksX5_sumOf_0 21 rfl rfl)
theorem dX5_sumOf_22 : decode cX5_sumOf 22 = .ok (.invokevirtual 67, 3) := dk_182 0 67 (dk_at dksX5_sumOf_1 0 rfl rfl)
theorem dX5_sumOf_25 : decode cX5_sumOf 25 = .ok (.iload_n 3, 1) := dk_29 (dk_at dksX5_sumOf_1 3 rfl rfl)
theorem dX5_sumOf_26 : decode cX5_sumOf 26 = .ok (.invokevirtual 73, 3) := dk_182 0 73 (dk_at dksX5_sumOf_1 4 rfl rfl)
theorem dX5_sumOf_29 : decode cX5_sumOf 29 = .ok (.goto 41, 3) := dk_167 0 41 (dk_at dksX5_sumOf_1 7 rfl rfl)
theorem dX5_sumOf_32 : decode cX5_sumOf 32 = .ok (.iload_n 1, 1) := dk_27 (dk_at dksX5_sumOf_1 10 rfl rfl)
theorem dX5_sumOf_33 : decode cX5_sumOf 33 = .ok (.iconst 1, 1) := dk_4 (dk_at dksX5_sumOf_1 11 rfl rfl)
theorem dX5_sumOf_34 : decode cX5_sumOf 34 = .ok (.if_icmp .ne 16, 3) := dk_160 0 16 (dk_at dksX5_sumOf_1 12 rfl rfl)
theorem dX5_sumOf_37 : decode cX5_sumOf 37 = .ok (.aload_n 0, 1) := dk_42 (dk_at dksX5_sumOf_1 15 rfl rfl)
theorem dX5_sumOf_38 : decode cX5_sumOf 38 = .ok (.aload_n 0, 1) := dk_42 (dk_at dksX5_sumOf_1 16 rfl rfl)
theorem dX5_sumOf_39 : decode cX5_sumOf 39 = .ok (.iload_n 3, 1) := dk_29 (dk_at dksX5_sumOf_1 17 rfl rfl)
theorem dX5_sumOf_40 : decode cX5_sumOf 40 = .ok (.invokevirtual 95, 3) := dk_182 0 95 (dk_at dksX5_sumOf_1 18 rfl rfl)
theorem dX5_sumOf_43 : decode cX5_sumOf 43 = .ok (.iload_n 3, 1) := dk_29 (dk_at dksX5_sumOf_1 21 rfl rfl)
theorem dX5_sumOf_44 : decode cX5_sumOf 44 = .ok (.invokevirtual 73, 3) := dk_182 0 73 (dk_at dksX5_sumOf_2 0 rfl rfl)
theorem dX5_sumOf_47 : decode cX5_sumOf 47 = .ok (.goto 23, 3) := dk_167 0 23 (dk_at dksX5_sumOf_2 3 rfl rfl)
theorem dX5_sumOf_50 : decode cX5_sumOf 50 = .ok (.iload_n 1, 1) := dk_27 (dk_at dksX5_sumOf_2 6 rfl rfl)
theorem dX5_sumOf_51 : decode cX5_sumOf 51 = .ok (.iconst 5, 1) := dk_8 (dk_at dksX5_sumOf_2 7 rfl rfl)
theorem dX5_sumOf_52 : decode cX5_sumOf 52 = .ok (.if_icmp .ne 12, 3) := dk_160 0 12 (dk_at dksX5_sumOf_2 8 rfl rfl)
theorem dX5_sumOf_55 : decode cX5_sumOf 55 = .ok (.aload_n 0, 1) := dk_42 (dk_at dksX5_sumOf_2 11 rfl rfl)
theorem dX5_sumOf_56 : decode cX5_sumOf 56 = .ok (.iload_n 3, 1) := dk_29 (dk_at dksX5_sumOf_2 12 rfl rfl)
theorem dX5_sumOf_57 : decode cX5_sumOf 57 = .ok (.iconst 2, 1) := dk_5 (dk_at dksX5_sumOf_2 13 rfl rfl)
theorem dX5_sumOf_58 : decode cX5_sumOf 58 = .ok (.invokevirtual 51, 3) := dk_182 0 51 (dk_at dksX5_sumOf_2 14 rfl rfl)
theorem dX5_sumOf_61 : decode cX5_sumOf 61 = .ok (.goto 9, 3) := dk_167 0 9 (dk_at dksX5_sumOf_2 17 rfl rfl)
theorem dX5_sumOf_64 : decode cX5_sumOf 64 = .ok (.aload_n 0, 1) := dk_42 (dk_at dksX5_sumOf_2 20 rfl rfl)
theorem dX5_sumOf_65 : decode cX5_sumOf 65 = .ok (.iload_n 3, 1) := dk_29 (dk_at dksX5_sumOf_2 21 rfl rfl)
theorem dX5_sumOf_66 : decode cX5_sumOf 66 = .ok (.iconst 1, 1) := dk_4 (dk_at dksX5_sumOf_2 22 rfl rfl)
theorem dX5_sumOf_67 : decode cX5_sumOf 67 = .ok (.invokevirtual 51, 3) := dk_182 0 51 (dk_at dksX5_sumOf_3 0 rfl rfl)
theorem dX5_sumOf_70 : decode cX5_sumOf 70 = .ok (.iadd, 1) := dk_96 (dk_at dksX5_sumOf_3 3 rfl rfl)
theorem dX5_sumOf_71 : decode cX5_sumOf 71 = .ok (.istore_n 2, 1) := dk_61 (dk_at dksX5_sumOf_3 4 rfl rfl)
theorem dX5_sumOf_72 : decode cX5_sumOf 72 = .ok (.iinc 3 1, 3) := dk_132 3 1 (dk_at dksX5_sumOf_3 5 rfl rfl)
theorem dX5_sumOf_75 : decode cX5_sumOf 75 = .ok (.goto (-71), 3) := dk_167 255 185 (dk_at dksX5_sumOf_3 8 rfl rfl)
theorem dX5_sumOf_78 : decode cX5_sumOf 78 = .ok (.iconst 0, 1) := dk_3 (dk_at dksX5_sumOf_3 11 rfl rfl)
theorem dX5_sumOf_79 : decode cX5_sumOf 79 = .ok (.istore_n 3, 1) := dk_62 (dk_at dksX5_sumOf_3 12 rfl rfl)
theorem dX5_sumOf_80 : decode cX5_sumOf 80 = .ok (.iload_n 3, 1) := dk_29 (dk_at dksX5_sumOf_3 13 rfl rfl)
theorem dX5_sumOf_81 : decode cX5_sumOf 81 = .ok (.aload_n 0, 1) := dk_42 (dk_at dksX5_sumOf_3 14 rfl rfl)
theorem dX5_sumOf_82 : decode cX5_sumOf 82 = .ok (.getfield 7, 3) := dk_180 0 7 (dk_at dksX5_sumOf_3 15 rfl rfl)
theorem dX5_sumOf_85 : decode cX5_sumOf 85 = .ok (.iconst 2, 1) := dk_5 (dk_at dksX5_sumOf_3 18 rfl rfl)
theorem dX5_sumOf_86 : decode cX5_sumOf 86 = .ok (.iaload, 1) := dk_46 (dk_at dksX5_sumOf_3 19 rfl rfl)
theorem dX5_sumOf_87 : decode cX5_sumOf 87 = .ok (.if_icmp .ge 34, 3) := dk_162 0 34 (dk_at dksX5_sumOf_3 20 rfl rfl)
theorem dX5_sumOf_90 : decode cX5_sumOf 90 = .ok (.iload_n 1, 1) := dk_27 (dk_at dksX5_sumOf_3 23 rfl rfl)
theorem dX5_sumOf_91 : decode cX5_sumOf 91 = .ok (.ifCond .ne 30, 3) := dk_154 0 30 (dk_at dksX5_sumOf_4 0 rfl rfl)
theorem dX5_sumOf_94 : decode cX5_sumOf 94 = .ok (.iload_n 2, 1) := dk_28 (dk_at dksX5_sumOf_4 3 rfl rfl)
theorem dX5_sumOf_95 : decode cX5_sumOf 95 = .ok (.aload_n 0, 1) := dk_42 (dk_at dksX5_sumOf_4 4 rfl rfl)
theorem dX5_sumOf_96 : decode cX5_sumOf 96 = .ok (.iload_n 3, 1) := dk_29 (dk_at dksX5_sumOf_4 5 rfl rfl)
theorem dX5_sumOf_97 : decode cX5_sumOf 97 = .ok (.invokevirtual 98, 3) := dk_182 0 98 (dk_at dksX5_sumOf_4 6 rfl rfl)
theorem dX5_sumOf_100 : decode cX5_sumOf 100 = .ok (.ifCond .ge 7, 3) := dk_156 0 7 (dk_at dksX5_sumOf_4 9 rfl rfl)
theorem dX5_sumOf_103 : decode cX5_sumOf 103 = .ok (.iconst 0, 1) := dk_3 (dk_at dksX5_sumOf_4 12 rfl rfl)
theorem dX5_sumOf_104 : decode cX5_sumOf 104 = .ok (.goto 9, 3) := dk_167 0 9 (dk_at dksX5_sumOf_4 13 rfl rfl)
theorem dX5_sumOf_107 : decode cX5_sumOf 107 = .ok (.aload_n 0, 1) := dk_42 (dk_at dksX5_sumOf_4 16 rfl rfl)
theorem dX5_sumOf_108 : decode cX5_sumOf 108 = .ok (.iload_n 3, 1) := dk_29 (dk_at dksX5_sumOf_4 17 rfl rfl)
theorem dX5_sumOf_109 : decode cX5_sumOf 109 = .ok (.iconst 2, 1) := dk_5 (dk_at dksX5_sumOf_4 18 rfl rfl)
theorem dX5_sumOf_110 : decode cX5_sumOf 110 = .ok (.invokevirtual 64, 3) := dk_182 0 64 (dk_at dksX5_sumOf_4 19 rfl rfl)
theorem dX5_sumOf_113 : decode cX5_sumOf 113 = .ok (.iadd, 1) := dk_96 (dk_at dksX5_sumOf_4 22 rfl rfl)
theorem dX5_sumOf_114 : decode cX5_sumOf 114 = .ok (.istore_n 2, 1) := dk_61 (dk_at dksX5_sumOf_4 23 rfl rfl)
theorem dX5_sumOf_115 : decode cX5_sumOf 115 = .ok (.iinc 3 1, 3) := dk_132 3 1 (dk_at dksX5_sumOf_5 0 rfl rfl)
theorem dX5_sumOf_118 : decode cX5_sumOf 118 = .ok (.goto (-38), 3) := dk_167 255 218 (dk_at dksX5_sumOf_5 3 rfl rfl)
theorem dX5_sumOf_121 : decode cX5_sumOf 121 = .ok (.iload_n 2, 1) := dk_28 (dk_at dksX5_sumOf_5 6 rfl rfl)
theorem dX5_sumOf_122 : decode cX5_sumOf 122 = .ok (.ireturn, 1) := dk_172 (dk_at dksX5_sumOf_5 7 rfl rfl)
abbrev cX5_firm : ByteArray := prog_20_method_81_code
def yX5_firm : MethodName := ⟨RX5, "firm", "(II)I"⟩
def dkwX5_firm_8 : List UInt8 := [167, 0, 15, 28, 4, 160, 0, 8, 21, 5, 167, 0, 5, 21, 6, 172]
abbrev dktX5_firm_8 : List UInt8 := dkwX5_firm_8 ++ []
def dkwX5_firm_7 : List UInt8 := [4, 21, 7, 120, 167, 0, 4, 3, 128, 54, 6, 132, 7, 1, 167, 255, 117, 28, 154, 0, 8, 21, 4]
abbrev dktX5_firm_7 : List UInt8 := dkwX5_firm_7 ++ dktX5_firm_8
def dkwX5_firm_6 : List UInt8 := [42, 27, 21, 7, 182, 0, 73, 21, 8, 100, 167, 0, 4, 3, 96, 54, 5, 21, 6, 21, 9, 153, 0, 10]
abbrev dktX5_firm_6 : List UInt8 := dkwX5_firm_6 ++ dktX5_firm_7
def dkwX5_firm_5 : List UInt8 := [100, 62, 21, 4, 21, 9, 153, 0, 7, 4, 167, 0, 4, 3, 96, 54, 4, 21, 5, 21, 9, 153, 0, 16]
abbrev dktX5_firm_5 : List UInt8 := dkwX5_firm_5 ++ dktX5_firm_6
def dkwX5_firm_4 : List UInt8 := [21, 8, 161, 0, 7, 4, 167, 0, 4, 3, 54, 9, 29, 21, 9, 153, 0, 8, 21, 8, 167, 0, 4, 3]
abbrev dktX5_firm_4 : List UInt8 := dkwX5_firm_4 ++ dktX5_firm_5
def dkwX5_firm_3 : List UInt8 := [42, 21, 7, 6, 182, 0, 51, 154, 0, 25, 42, 27, 21, 7, 182, 0, 73, 21, 8, 164, 0, 13, 29]
abbrev dktX5_firm_3 : List UInt8 := dkwX5_firm_3 ++ dktX5_firm_4
def dkwX5_firm_2 : List UInt8 := [4, 46, 162, 0, 134, 42, 21, 7, 4, 182, 0, 51, 54, 8, 42, 21, 7, 182, 0, 67, 27, 159, 0, 35]
abbrev dktX5_firm_2 : List UInt8 := dkwX5_firm_2 ++ dktX5_firm_3
def dkwX5_firm_1 : List UInt8 := [27, 4, 182, 0, 79, 62, 3, 54, 4, 3, 54, 5, 3, 54, 6, 3, 54, 7, 21, 7, 42, 180, 0, 7]
abbrev dktX5_firm_1 : List UInt8 := dkwX5_firm_1 ++ dktX5_firm_2
def dkwX5_firm_0 : List UInt8 := [42, 27, 182, 0, 76, 153, 0, 12, 28, 3, 5, 184, 0, 47, 154, 0, 9, 42, 4, 182, 0, 60, 172, 42]
abbrev dktX5_firm_0 : List UInt8 := dkwX5_firm_0 ++ dktX5_firm_1
theorem dksX5_firm_0 : cX5_firm.data.toList.drop 0 = dktX5_firm_0 := by decide +kernel
theorem dksX5_firm_1 : cX5_firm.data.toList.drop 24 = dktX5_firm_1 := dk_seg dksX5_firm_0 24 rfl rfl
theorem dksX5_firm_2 : cX5_firm.data.toList.drop 48 = dktX5_firm_2 := dk_seg dksX5_firm_1 24 rfl rfl
theorem dksX5_firm_3 : cX5_firm.data.toList.drop 72 = dktX5_firm_3 := dk_seg dksX5_firm_2 24 rfl rfl
theorem dksX5_firm_4 : cX5_firm.data.toList.drop 95 = dktX5_firm_4 := dk_seg dksX5_firm_3 23 rfl rfl
theorem dksX5_firm_5 : cX5_firm.data.toList.drop 119 = dktX5_firm_5 := dk_seg dksX5_firm_4 24 rfl rfl
theorem dksX5_firm_6 : cX5_firm.data.toList.drop 143 = dktX5_firm_6 := dk_seg dksX5_firm_5 24 rfl rfl
theorem dksX5_firm_7 : cX5_firm.data.toList.drop 167 = dktX5_firm_7 := dk_seg dksX5_firm_6 24 rfl rfl
theorem dksX5_firm_8 : cX5_firm.data.toList.drop 190 = dktX5_firm_8 := dk_seg dksX5_firm_7 23 rfl rfl
theorem dX5_firm_0 : decode cX5_firm 0 = .ok (.aload_n 0, 1) := dk_42 (dk_at dksX5_firm_0 0 rfl rfl)
theorem dX5_firm_1 : decode cX5_firm 1 = .ok (.iload_n 1, 1) := dk_27 (dk_at dksX5_firm_0 1 rfl rfl)
theorem dX5_firm_2 : decode cX5_firm 2 = .ok (.invokevirtual 76, 3) := dk_182 0 76 (dk_at dksX5_firm_0 2 rfl rfl)
theorem dX5_firm_5 : decode cX5_firm 5 = .ok (.ifCond .eq 12, 3) := dk_153 0 12 (dk_at dksX5_firm_0 5 rfl rfl)
theorem dX5_firm_8 : decode cX5_firm 8 = .ok (.iload_n 2, 1) := dk_28 (dk_at dksX5_firm_0 8 rfl rfl)
theorem dX5_firm_9 : decode cX5_firm 9 = .ok (.iconst 0, 1) := dk_3 (dk_at dksX5_firm_0 9 rfl rfl)
theorem dX5_firm_10 : decode cX5_firm 10 = .ok (.iconst 2, 1) := dk_5 (dk_at dksX5_firm_0 10 rfl rfl)
theorem dX5_firm_11 : decode cX5_firm 11 = .ok (.invokestatic 47, 3) := dk_184 0 47 (dk_at dksX5_firm_0 11 rfl rfl)
theorem dX5_firm_14 : decode cX5_firm 14 = .ok (.ifCond .ne 9, 3) := dk_154 0 9 (dk_at dksX5_firm_0 14 rfl rfl)
theorem dX5_firm_17 : decode cX5_firm 17 = .ok (.aload_n 0, 1) := dk_42 (dk_at dksX5_firm_0 17 rfl rfl)
theorem dX5_firm_18 : decode cX5_firm 18 = .ok (.iconst 1, 1) := dk_4 (dk_at dksX5_firm_0 18 rfl rfl)
theorem dX5_firm_19 : decode cX5_firm 19 = .ok (.invokevirtual 60, 3) := dk_182 0 60 (dk_at dksX5_firm_0 19 rfl rfl)
theorem dX5_firm_22 : decode cX5_firm 22 = .ok (.ireturn, 1) := dk_172 (dk_at dksX5_firm_0 22 rfl rfl)
theorem dX5_firm_23 : decode cX5_firm 23 = .ok (.aload_n 0, 1) := dk_42 (dk_at dksX5_firm_0 23 rfl rfl)
theorem dX5_firm_24 : decode cX5_firm 24 = .ok (.iload_n 1, 1) := dk_27 (dk_at dksX5_firm_1 0 rfl rfl)
theorem dX5_firm_25 : decode cX5_firm 25 = .ok (.iconst 1, 1) := dk_4 (dk_at dksX5_firm_1 1 rfl rfl)
theorem dX5_firm_26 : decode cX5_firm 26 = .ok (.invokevirtual 79, 3) := dk_182 0 79 (dk_at dksX5_firm_1 2 rfl rfl)
theorem dX5_firm_29 : decode cX5_firm 29 = .ok (.istore_n 3, 1) := dk_62 (dk_at dksX5_firm_1 5 rfl rfl)
theorem dX5_firm_30 : decode cX5_firm 30 = .ok (.iconst 0, 1) := dk_3 (dk_at dksX5_firm_1 6 rfl rfl)
theorem dX5_firm_31 : decode cX5_firm 31 = .ok (.istore 4, 2) := dk_54 4 (dk_at dksX5_firm_1 7 rfl rfl)
theorem dX5_firm_33 : decode cX5_firm 33 = .ok (.iconst 0, 1) := dk_3 (dk_at dksX5_firm_1 9 rfl rfl)
theorem dX5_firm_34 : decode cX5_firm 34 = .ok (.istore 5, 2) := dk_54 5 (dk_at dksX5_firm_1 10 rfl rfl)
theorem dX5_firm_36 : decode cX5_firm 36 = .ok (.iconst 0, 1) := dk_3 (dk_at dksX5_firm_1 12 rfl rfl)
theorem dX5_firm_37 : decode cX5_firm 37 = .ok (.istore 6, 2) := dk_54 6 (dk_at dksX5_firm_1 13 rfl rfl)
theorem dX5_firm_39 : decode cX5_firm 39 = .ok (.iconst 0, 1) := dk_3 (dk_at dksX5_firm_1 15 rfl rfl)
theorem dX5_firm_40 : decode cX5_firm 40 = .ok (.istore 7, 2) := dk_54 7 (dk_at dksX5_firm_1 16 rfl rfl)
theorem dX5_firm_42 : decode cX5_firm 42 = .ok (.iload 7, 2) := dk_21 7 (dk_at dksX5_firm_1 18 rfl rfl)
theorem dX5_firm_44 : decode cX5_firm 44 = .ok (.aload_n 0, 1) := dk_42 (dk_at dksX5_firm_1 20 rfl rfl)
theorem dX5_firm_45 : decode cX5_firm 45 = .ok (.getfield 7, 3) := dk_180 0 7 (dk_at dksX5_firm_1 21 rfl rfl)
theorem dX5_firm_48 : decode cX5_firm 48 = .ok (.iconst 1, 1) := dk_4 (dk_at dksX5_firm_2 0 rfl rfl)
theorem dX5_firm_49 : decode cX5_firm 49 = .ok (.iaload, 1) := dk_46 (dk_at dksX5_firm_2 1 rfl rfl)
theorem dX5_firm_50 : decode cX5_firm 50 = .ok (.if_icmp .ge 134, 3) := dk_162 0 134 (dk_at dksX5_firm_2 2 rfl rfl)
theorem dX5_firm_53 : decode cX5_firm 53 = .ok (.aload_n 0, 1) := dk_42 (dk_at dksX5_firm_2 5 rfl rfl)
theorem dX5_firm_54 : decode cX5_firm 54 = .ok (.iload 7, 2) := dk_21 7 (dk_at dksX5_firm_2 6 rfl rfl)
theorem dX5_firm_56 : decode cX5_firm 56 = .ok (.iconst 1, 1) := dk_4 (dk_at dksX5_firm_2 8 rfl rfl)
theorem dX5_firm_57 : decode cX5_firm 57 = .ok (.invokevirtual 51, 3) := dk_182 0 51 (dk_at dksX5_firm_2 9 rfl rfl)
theorem dX5_firm_60 : decode cX5_firm 60 = .ok (.istore 8, 2) := dk_54 8 (dk_at dksX5_firm_2 12 rfl rfl)
theorem dX5_firm_62 : decode cX5_firm 62 = .ok (.aload_n 0, 1) := dk_42 (dk_at dksX5_firm_2 14 rfl rfl)
theorem dX5_firm_63 : decode cX5_firm 63 = .ok (.iload 7, 2) := dk_21 7 (dk_at dksX5_firm_2 15 rfl rfl)
theorem dX5_firm_65 : decode cX5_firm 65 = .ok (.invokevirtual 67, 3) := dk_182 0 67 (dk_at dksX5_firm_2 17 rfl rfl)
theorem dX5_firm_68 : decode cX5_firm 68 = .ok (.iload_n 1, 1) := dk_27 (dk_at dksX5_firm_2 20 rfl rfl)
theorem dX5_firm_69 : decode cX5_firm 69 = .ok (.if_icmp .eq 35, 3) := dk_159 0 35 (dk_at dksX5_firm_2 21 rfl rfl)
theorem dX5_firm_72 : decode cX5_firm 72 = .ok (.aload_n 0, 1) := dk_42 (dk_at dksX5_firm_3 0 rfl rfl)
theorem dX5_firm_73 : decode cX5_firm 73 = .ok (.iload 7, 2) := dk_21 7 (dk_at dksX5_firm_3 1 rfl rfl)
theorem dX5_firm_75 : decode cX5_firm 75 = .ok (.iconst 3, 1) := dk_6 (dk_at dksX5_firm_3 3 rfl rfl)
theorem dX5_firm_76 : decode cX5_firm 76 = .ok (.invokevirtual 51, 3) := dk_182 0 51 (dk_at dksX5_firm_3 4 rfl rfl)
theorem dX5_firm_79 : decode cX5_firm 79 = .ok (.ifCond .ne 25, 3) := dk_154 0 25 (dk_at dksX5_firm_3 7 rfl rfl)
theorem dX5_firm_82 : decode cX5_firm 82 = .ok (.aload_n 0, 1) := dk_42 (dk_at dksX5_firm_3 10 rfl rfl)
theorem dX5_firm_83 : decode cX5_firm 83 = .ok (.iload_n 1, 1) := dk_27 (dk_at dksX5_firm_3 11 rfl rfl)
theorem dX5_firm_84 : decode cX5_firm 84 = .ok (.iload 7, 2) := dk_21 7 (dk_at dksX5_firm_3 12 rfl rfl)
theorem dX5_firm_86 : decode cX5_firm 86 = .ok (.invokevirtual 73, 3) := dk_182 0 73 (dk_at dksX5_firm_3 14 rfl rfl)
theorem dX5_firm_89 : decode cX5_firm 89 = .ok (.iload 8, 2) := dk_21 8 (dk_at dksX5_firm_3 17 rfl rfl)
theorem dX5_firm_91 : decode cX5_firm 91 = .ok (.if_icmp .le 13, 3) := dk_164 0 13 (dk_at dksX5_firm_3 19 rfl rfl)
theorem dX5_firm_94 : decode cX5_firm 94 = .ok (.iload_n 3, 1) := dk_29 (dk_at dksX5_firm_3 22 rfl rfl)
theorem dX5_firm_95 : decode cX5_firm 95 = .ok (.iload 8, 2) := dk_21 8 (dk_at dksX5_firm_4 0 rfl rfl)
theorem dX5_firm_97 : decode cX5_firm 97 = .ok (.if_icmp .lt 7, 3) := dk_161 0 7 (dk_at dksX5_firm_4 2 rfl rfl)
theorem dX5_firm_100 : decode cX5_firm 100 = .ok (.iconst 1, 1) := dk_4 (dk_at dksX5_firm_4 5 rfl rfl)
theorem dX5_firm_101 : decode cX5_firm 101 = .ok (.goto 4, 3) := dk_167 0 4 (dk_at dksX5_firm_4 6 rfl rfl)
theorem dX5_firm_104 : decode cX5_firm 104 = .ok (.iconst 0, 1) := dk_3 (dk_at dksX5_firm_4 9 rfl rfl)
theorem dX5_firm_105 : decode cX5_firm 105 = .ok (.istore 9, 2) := dk_54 9 (dk_at dksX5_firm_4 10 rfl rfl)
theorem dX5_firm_107 : decode cX5_firm 107 = .ok (.iload_n 3, 1) := dk_29 (dk_at dksX5_firm_4 12 rfl rfl)
theorem dX5_firm_108 : decode cX5_firm 108 = .ok (.iload 9, 2) := dk_21 9 (dk_at dksX5_firm_4 13 rfl rfl)
theorem dX5_firm_110 : decode cX5_firm 110 = .ok (.ifCond .eq 8, 3) := dk_153 0 8 (dk_at dksX5_firm_4 15 rfl rfl)
theorem dX5_firm_113 : decode cX5_firm 113 = .ok (.iload 8, 2) := dk_21 8 (dk_at dksX5_firm_4 18 rfl rfl)
theorem dX5_firm_115 : decode cX5_firm 115 = .ok (.goto 4, 3) := dk_167 0 4 (dk_at dksX5_firm_4 20 rfl rfl)
theorem dX5_firm_118 : decode cX5_firm 118 = .ok (.iconst 0, 1) := dk_3 (dk_at dksX5_firm_4 23 rfl rfl)
theorem dX5_firm_119 : decode cX5_firm 119 = .ok (.isub, 1) := dk_100 (dk_at dksX5_firm_5 0 rfl rfl)
theorem dX5_firm_120 : decode cX5_firm 120 = .ok (.istore_n 3, 1) := dk_62 (dk_at dksX5_firm_5 1 rfl rfl)
theorem dX5_firm_121 : decode cX5_firm 121 = .ok (.iload 4, 2) := dk_21 4 (dk_at dksX5_firm_5 2 rfl rfl)
theorem dX5_firm_123 : decode cX5_firm 123 = .ok (.iload 9, 2) := dk_21 9 (dk_at dksX5_firm_5 4 rfl rfl)
theorem dX5_firm_125 : decode cX5_firm 125 = .ok (.ifCond .eq 7, 3) := dk_153 0 7 (dk_at dksX5_firm_5 6 rfl rfl)
theorem dX5_firm_128 : decode cX5_firm 128 = .ok (.iconst 1, 1) := dk_4 (dk_at dksX5_firm_5 9 rfl rfl)
theorem dX5_firm_129 : decode cX5_firm 129 = .ok (.goto 4, 3) := dk_167 0 4 (dk_at dksX5_firm_5 10 rfl rfl)
theorem dX5_firm_132 : decode cX5_firm 132 = .ok (.iconst 0, 1) := dk_3 (dk_at dksX5_firm_5 13 rfl rfl)
theorem dX5_firm_133 : decode cX5_firm 133 = .ok (.iadd, 1) := dk_96 (dk_at dksX5_firm_5 14 rfl rfl)
theorem dX5_firm_134 : decode cX5_firm 134 = .ok (.istore 4, 2) := dk_54 4 (dk_at dksX5_firm_5 15 rfl rfl)
theorem dX5_firm_136 : decode cX5_firm 136 = .ok (.iload 5, 2) := dk_21 5 (dk_at dksX5_firm_5 17 rfl rfl)
theorem dX5_firm_138 : decode cX5_firm 138 = .ok (.iload 9, 2) := dk_21 9 (dk_at dksX5_firm_5 19 rfl rfl)
theorem dX5_firm_140 : decode cX5_firm 140 = .ok (.ifCond .eq 16, 3) := dk_153 0 16 (dk_at dksX5_firm_5 21 rfl rfl)
theorem dX5_firm_143 : decode cX5_firm 143 = .ok (.aload_n 0, 1) := dk_42 (dk_at dksX5_firm_6 0 rfl rfl)
theorem dX5_firm_144 : decode cX5_firm 144 = .ok (.iload_n 1, 1) := dk_27 (dk_at dksX5_firm_6 1 rfl rfl)
theorem dX5_firm_145 : decode cX5_firm 145 = .ok (.iload 7, 2) := dk_21 7 (dk_at dksX5_firm_6 2 rfl rfl)
theorem dX5_firm_147 : decode cX5_firm 147 = .ok (.invokevirtual 73, 3) := dk_182 0 73 (dk_at dksX5_firm_6 4 rfl rfl)
theorem dX5_firm_150 : decode cX5_firm 150 = .ok (.iload 8, 2) := dk_21 8 (dk_at dksX5_firm_6 7 rfl rfl)
theorem dX5_firm_152 : decode cX5_firm 152 = .ok (.isub, 1) := dk_100 (dk_at dksX5_firm_6 9 rfl rfl)
theorem dX5_firm_153 : decode cX5_firm 153 = .ok (.goto 4, 3) := dk_167 0 4 (dk_at dksX5_firm_6 10 rfl rfl)
theorem dX5_firm_156 : decode cX5_firm 156 = .ok (.iconst 0, 1) := dk_3 (dk_at dksX5_firm_6 13 rfl rfl)
theorem dX5_firm_157 : decode cX5_firm 157 = .ok (.iadd, 1) := dk_96 (dk_at dksX5_firm_6 14 rfl rfl)
theorem dX5_firm_158 : decode cX5_firm 158 = .ok (.istore 5, 2) := dk_54 5 (dk_at dksX5_firm_6 15 rfl rfl)
theorem dX5_firm_160 : decode cX5_firm 160 = .ok (.iload 6, 2) := dk_21 6 (dk_at dksX5_firm_6 17 rfl rfl)
theorem dX5_firm_162 : decode cX5_firm 162 = .ok (.iload 9, 2) := dk_21 9 (dk_at dksX5_firm_6 19 rfl rfl)
theorem dX5_firm_164 : decode cX5_firm 164 = .ok (.ifCond .eq 10, 3) := dk_153 0 10 (dk_at dksX5_firm_6 21 rfl rfl)
theorem dX5_firm_167 : decode cX5_firm 167 = .ok (.iconst 1, 1) := dk_4 (dk_at dksX5_firm_7 0 rfl rfl)
theorem dX5_firm_168 : decode cX5_firm 168 = .ok (.iload 7, 2) := dk_21 7 (dk_at dksX5_firm_7 1 rfl rfl)
theorem dX5_firm_170 : decode cX5_firm 170 = .ok (.ishl, 1) := dk_120 (dk_at dksX5_firm_7 3 rfl rfl)
theorem dX5_firm_171 : decode cX5_firm 171 = .ok (.goto 4, 3) := dk_167 0 4 (dk_at dksX5_firm_7 4 rfl rfl)
theorem dX5_firm_174 : decode cX5_firm 174 = .ok (.iconst 0, 1) := dk_3 (dk_at dksX5_firm_7 7 rfl rfl)
theorem dX5_firm_175 : decode cX5_firm 175 = .ok (.ior, 1) := dk_128 (dk_at dksX5_firm_7 8 rfl rfl)
theorem dX5_firm_176 : decode cX5_firm 176 = .ok (.istore 6, 2) := dk_54 6 (dk_at dksX5_firm_7 9 rfl rfl)
theorem dX5_firm_178 : decode cX5_firm 178 = .ok (.iinc 7 1, 3) := dk_132 7 1 (dk_at dksX5_firm_7 11 rfl rfl)
theorem dX5_firm_181 : decode cX5_firm 181 = .ok (.goto (-139), 3) := dk_167 255 117 (dk_at dksX5_firm_7 14 rfl rfl)
theorem dX5_firm_184 : decode cX5_firm 184 = .ok (.iload_n 2, 1) := dk_28 (dk_at dksX5_firm_7 17 rfl rfl)
theorem dX5_firm_185 : decode cX5_firm 185 = .ok (.ifCond .ne 8, 3) := dk_154 0 8 (dk_at dksX5_firm_7 18 rfl rfl)
theorem dX5_firm_188 : decode cX5_firm 188 = .ok (.iload 4, 2) := dk_21 4 (dk_at dksX5_firm_7 21 rfl rfl)
theorem dX5_firm_190 : decode cX5_firm 190 = .ok (.goto 15, 3) := dk_167 0 15 (dk_at dksX5_firm_8 0 rfl rfl)
theorem dX5_firm_193 : decode cX5_firm 193 = .ok (.iload_n 2, 1) := dk_28 (dk_at dksX5_firm_8 3 rfl rfl)
theorem dX5_firm_194 : decode cX5_firm 194 = .ok (.iconst 1, 1) := dk_4 (dk_at dksX5_firm_8 4 rfl rfl)
theorem dX5_firm_195 : decode cX5_firm 195 = .ok (.if_icmp .ne 8, 3) := dk_160 0 8 (dk_at dksX5_firm_8 5 rfl rfl)
theorem dX5_firm_198 : decode cX5_firm 198 = .ok (.iload 5, 2) := dk_21 5 (dk_at dksX5_firm_8 8 rfl rfl)
theorem dX5_firm_200 : decode cX5_firm 200 = .ok (.goto 5, 3) := dk_167 0 5 (dk_at dksX5_firm_8 10 rfl rfl)
theorem dX5_firm_203 : decode cX5_firm 203 = .ok (.iload 6, 2) := dk_21 6 (dk_at dksX5_firm_8 13 rfl rfl)
theorem dX5_firm_205 : decode cX5_firm 205 = .ok (.ireturn, 1) := dk_172 (dk_at dksX5_firm_8 15 rfl rfl)
abbrev cX5_then : ByteArray := prog_20_method_82_code
def yX5_then : MethodName := ⟨RX5, "then", "(II)I"⟩
def dkwX5_then_2 : List UInt8 := [182, 0, 238, 62, 42, 180, 0, 16, 42, 180, 0, 7, 184, 0, 241, 29, 172]
abbrev dktX5_then_2 : List UInt8 := dkwX5_then_2 ++ []
def dkwX5_then_1 : List UInt8 := [182, 0, 60, 172, 42, 180, 0, 7, 42, 180, 0, 16, 184, 0, 241, 42, 27, 182, 0, 204, 42, 28]
abbrev dktX5_then_1 : List UInt8 := dkwX5_then_1 ++ dktX5_then_2
def dkwX5_then_0 : List UInt8 := [27, 3, 16, 40, 184, 0, 47, 153, 0, 13, 28, 3, 16, 6, 184, 0, 47, 154, 0, 9, 42, 4]
abbrev dktX5_then_0 : List UInt8 := dkwX5_then_0 ++ dktX5_then_1
theorem dksX5_then_0 : cX5_then.data.toList.drop 0 = dktX5_then_0 := by decide +kernel
theorem dksX5_then_1 : cX5_then.data.toList.drop 22 = dktX5_then_1 := dk_seg dksX5_then_0 22 rfl rfl
theorem dksX5_then_2 : cX5_then.data.toList.drop 44 = dktX5_then_2 := dk_seg dksX5_then_1 22 rfl rfl
theorem dX5_then_0 : decode cX5_then 0 = .ok (.iload_n 1, 1) := dk_27 (dk_at dksX5_then_0 0 rfl rfl)
theorem dX5_then_1 : decode cX5_then 1 = .ok (.iconst 0, 1) := dk_3 (dk_at dksX5_then_0 1 rfl rfl)
theorem dX5_then_2 : decode cX5_then 2 = .ok (.bipush 40, 2) := dk_16 40 (dk_at dksX5_then_0 2 rfl rfl)
theorem dX5_then_4 : decode cX5_then 4 = .ok (.invokestatic 47, 3) := dk_184 0 47 (dk_at dksX5_then_0 4 rfl rfl)
theorem dX5_then_7 : decode cX5_then 7 = .ok (.ifCond .eq 13, 3) := dk_153 0 13 (dk_at dksX5_then_0 7 rfl rfl)
theorem dX5_then_10 : decode cX5_then 10 = .ok (.iload_n 2, 1) := dk_28 (dk_at dksX5_then_0 10 rfl rfl)
theorem dX5_then_11 : decode cX5_then 11 = .ok (.iconst 0, 1) := dk_3 (dk_at dksX5_then_0 11 rfl rfl)
theorem dX5_then_12 : decode cX5_then 12 = .ok (.bipush 6, 2) := dk_16 6 (dk_at dksX5_then_0 12 rfl rfl)
theorem dX5_then_14 : decode cX5_then 14 = .ok (.invokestatic 47, 3) := dk_184 0 47 (dk_at dksX5_then_0 14 rfl rfl)
theorem dX5_then_17 : decode cX5_then 17 = .ok (.ifCond .ne 9, 3) := dk_154 0 9 (dk_at dksX5_then_0 17 rfl rfl)
theorem dX5_then_20 : decode cX5_then 20 = .ok (.aload_n 0, 1) := dk_42 (dk_at dksX5_then_0 20 rfl rfl)
theorem dX5_then_21 : decode cX5_then 21 = .ok (.iconst 1, 1) := dk_4 (dk_at dksX5_then_0 21 rfl rfl)
theorem dX5_then_22 : decode cX5_then 22 = .ok (.invokevirtual 60, 3) := dk_182 0 60 (dk_at dksX5_then_1 0 rfl rfl)
theorem dX5_then_25 : decode cX5_then 25 = .ok (.ireturn, 1) := dk_172 (dk_at dksX5_then_1 3 rfl rfl)
theorem dX5_then_26 : decode cX5_then 26 = .ok (.aload_n 0, 1) := dk_42 (dk_at dksX5_then_1 4 rfl rfl)
theorem dX5_then_27 : decode cX5_then 27 = .ok (.getfield 7, 3) := dk_180 0 7 (dk_at dksX5_then_1 5 rfl rfl)
theorem dX5_then_30 : decode cX5_then 30 = .ok (.aload_n 0, 1) := dk_42 (dk_at dksX5_then_1 8 rfl rfl)
theorem dX5_then_31 : decode cX5_then 31 = .ok (.getfield 16, 3) := dk_180 0 16 (dk_at dksX5_then_1 9 rfl rfl)
theorem dX5_then_34 : decode cX5_then 34 = .ok (.invokestatic 241, 3) := dk_184 0 241 (dk_at dksX5_then_1 12 rfl rfl)
theorem dX5_then_37 : decode cX5_then 37 = .ok (.aload_n 0, 1) := dk_42 (dk_at dksX5_then_1 15 rfl rfl)
theorem dX5_then_38 : decode cX5_then 38 = .ok (.iload_n 1, 1) := dk_27 (dk_at dksX5_then_1 16 rfl rfl)
theorem dX5_then_39 : decode cX5_then 39 = .ok (.invokevirtual 204, 3) := dk_182 0 204 (dk_at dksX5_then_1 17 rfl rfl)
theorem dX5_then_42 : decode cX5_then 42 = .ok (.aload_n 0, 1) := dk_42 (dk_at dksX5_then_1 20 rfl rfl)
theorem dX5_then_43 : decode cX5_then 43 = .ok (.iload_n 2, 1) := dk_28 (dk_at dksX5_then_1 21 rfl rfl)
theorem dX5_then_44 : decode cX5_then 44 = .ok (.invokevirtual 238, 3) := dk_182 0 238 (dk_at dksX5_then_2 0 rfl rfl)
theorem dX5_then_47 : decode cX5_then 47 = .ok (.istore_n 3, 1) := dk_62 (dk_at dksX5_then_2 3 rfl rfl)
theorem dX5_then_48 : decode cX5_then 48 = .ok (.aload_n 0, 1) := dk_42 (dk_at dksX5_then_2 4 rfl rfl)
theorem dX5_then_49 : decode cX5_then 49 = .ok (.getfield 16, 3) := dk_180 0 16 (dk_at dksX5_then_2 5 rfl rfl)
theorem dX5_then_52 : decode cX5_then 52 = .ok (.aload_n 0, 1) := dk_42 (dk_at dksX5_then_2 8 rfl rfl)
theorem dX5_then_53 : decode cX5_then 53 = .ok (.getfield 7, 3) := dk_180 0 7 (dk_at dksX5_then_2 9 rfl rfl)
theorem dX5_then_56 : decode cX5_then 56 = .ok (.invokestatic 241, 3) := dk_184 0 241 (dk_at dksX5_then_2 12 rfl rfl)
theorem dX5_then_59 : decode cX5_then 59 = .ok (.iload_n 3, 1) := dk_29 (dk_at dksX5_then_2 15 rfl rfl)
theorem dX5_then_60 : decode cX5_then 60 = .ok (.ireturn, 1) := dk_172 (dk_at dksX5_then_2 16 rfl rfl)
abbrev cX5_lay : ByteArray := prog_20_method_5_code
def yX5_lay : MethodName := ⟨RX5, "lay", "([I[I)V"⟩
def dkwX5_lay_0 : List UInt8 := [3, 61, 28, 17, 2, 4, 162, 0, 15, 43, 28, 42, 28, 46, 79, 132, 2, 1, 167, 255, 240, 177]
abbrev dktX5_lay_0 : List UInt8 := dkwX5_lay_0 ++ []
theorem dksX5_lay_0 : cX5_lay.data.toList.drop 0 = dktX5_lay_0 := by decide +kernel
theorem dX5_lay_0 : decode cX5_lay 0 = .ok (.iconst 0, 1) := dk_3 (dk_at dksX5_lay_0 0 rfl rfl)
theorem dX5_lay_1 : decode cX5_lay 1 = .ok (.istore_n 2, 1) := dk_61 (dk_at dksX5_lay_0 1 rfl rfl)
theorem dX5_lay_2 : decode cX5_lay 2 = .ok (.iload_n 2, 1) := dk_28 (dk_at dksX5_lay_0 2 rfl rfl)
theorem dX5_lay_3 : decode cX5_lay 3 = .ok (.sipush 516, 3) := dk_17 2 4 (dk_at dksX5_lay_0 3 rfl rfl)
theorem dX5_lay_6 : decode cX5_lay 6 = .ok (.if_icmp .ge 15, 3) := dk_162 0 15 (dk_at dksX5_lay_0 6 rfl rfl)
theorem dX5_lay_9 : decode cX5_lay 9 = .ok (.aload_n 1, 1) := dk_43 (dk_at dksX5_lay_0 9 rfl rfl)
theorem dX5_lay_10 : decode cX5_lay 10 = .ok (.iload_n 2, 1) := dk_28 (dk_at dksX5_lay_0 10 rfl rfl)
theorem dX5_lay_11 : decode cX5_lay 11 = .ok (.aload_n 0, 1) := dk_42 (dk_at dksX5_lay_0 11 rfl rfl)
theorem dX5_lay_12 : decode cX5_lay 12 = .ok (.iload_n 2, 1) := dk_28 (dk_at dksX5_lay_0 12 rfl rfl)
theorem dX5_lay_13 : decode cX5_lay 13 = .ok (.iaload, 1) := dk_46 (dk_at dksX5_lay_0 13 rfl rfl)
theorem dX5_lay_14 : decode cX5_lay 14 = .ok (.iastore, 1) := dk_79 (dk_at dksX5_lay_0 14 rfl rfl)
theorem dX5_lay_15 : decode cX5_lay 15 = .ok (.iinc 2 1, 3) := dk_132 2 1 (dk_at dksX5_lay_0 15 rfl rfl)
theorem dX5_lay_18 : decode cX5_lay 18 = .ok (.goto (-16), 3) := dk_167 255 240 (dk_at dksX5_lay_0 18 rfl rfl)
theorem dX5_lay_21 : decode cX5_lay 21 = .ok (.return_, 1) := dk_177 (dk_at dksX5_lay_0 21 rfl rfl)
abbrev cX5_whose : ByteArray := prog_20_method_83_code
def yX5_whose : MethodName := ⟨RX5, "whose", "(II)I"⟩
def dkwX5_whose_2 : List UInt8 := [180, 0, 16, 42, 180, 0, 7, 184, 0, 241, 29, 172]
abbrev dktX5_whose_2 : List UInt8 := dkwX5_whose_2 ++ []
def dkwX5_whose_1 : List UInt8 := [42, 180, 0, 7, 42, 180, 0, 16, 184, 0, 241, 42, 27, 182, 0, 204, 42, 28, 182, 0, 67, 62, 42]
abbrev dktX5_whose_1 : List UInt8 := dkwX5_whose_1 ++ dktX5_whose_2
def dkwX5_whose_0 : List UInt8 := [27, 3, 16, 40, 184, 0, 47, 153, 0, 11, 42, 28, 182, 0, 92, 154, 0, 9, 42, 4, 182, 0, 60, 172]
abbrev dktX5_whose_0 : List UInt8 := dkwX5_whose_0 ++ dktX5_whose_1
theorem dksX5_whose_0 : cX5_whose.data.toList.drop 0 = dktX5_whose_0 := by decide +kernel
theorem dksX5_whose_1 : cX5_whose.data.toList.drop 24 = dktX5_whose_1 := dk_seg dksX5_whose_0 24 rfl rfl
theorem dksX5_whose_2 : cX5_whose.data.toList.drop 47 = dktX5_whose_2 := dk_seg dksX5_whose_1 23 rfl rfl
theorem dX5_whose_0 : decode cX5_whose 0 = .ok (.iload_n 1, 1) := dk_27 (dk_at dksX5_whose_0 0 rfl rfl)
theorem dX5_whose_1 : decode cX5_whose 1 = .ok (.iconst 0, 1) := dk_3 (dk_at dksX5_whose_0 1 rfl rfl)
theorem dX5_whose_2 : decode cX5_whose 2 = .ok (.bipush 40, 2) := dk_16 40 (dk_at dksX5_whose_0 2 rfl rfl)
theorem dX5_whose_4 : decode cX5_whose 4 = .ok (.invokestatic 47, 3) := dk_184 0 47 (dk_at dksX5_whose_0 4 rfl rfl)
theorem dX5_whose_7 : decode cX5_whose 7 = .ok (.ifCond .eq 11, 3) := dk_153 0 11 (dk_at dksX5_whose_0 7 rfl rfl)
theorem dX5_whose_10 : decode cX5_whose 10 = .ok (.aload_n 0, 1) := dk_42 (dk_at dksX5_whose_0 10 rfl rfl)
theorem dX5_whose_11 : decode cX5_whose 11 = .ok (.iload_n 2, 1) := dk_28 (dk_at dksX5_whose_0 11 rfl rfl)
theorem dX5_whose_12 : decode cX5_whose 12 = .ok (.invokevirtual 92, 3) := dk_182 0 92 (dk_at dksX5_whose_0 12 rfl rfl)
theorem dX5_whose_15 : decode cX5_whose 15 = .ok (.ifCond .ne 9, 3) := dk_154 0 9 (dk_at dksX5_whose_0 15 rfl rfl)
theorem dX5_whose_18 : decode cX5_whose 18 = .ok (.aload_n 0, 1) := dk_42 (dk_at dksX5_whose_0 18 rfl rfl)
theorem dX5_whose_19 : decode cX5_whose 19 = .ok (.iconst 1, 1) := dk_4 (dk_at dksX5_whose_0 19 rfl rfl)
theorem dX5_whose_20 : decode cX5_whose 20 = .ok (.invokevirtual 60, 3) := dk_182 0 60 (dk_at dksX5_whose_0 20 rfl rfl)
theorem dX5_whose_23 : decode cX5_whose 23 = .ok (.ireturn, 1) := dk_172 (dk_at dksX5_whose_0 23 rfl rfl)
theorem dX5_whose_24 : decode cX5_whose 24 = .ok (.aload_n 0, 1) := dk_42 (dk_at dksX5_whose_1 0 rfl rfl)
theorem dX5_whose_25 : decode cX5_whose 25 = .ok (.getfield 7, 3) := dk_180 0 7 (dk_at dksX5_whose_1 1 rfl rfl)
theorem dX5_whose_28 : decode cX5_whose 28 = .ok (.aload_n 0, 1) := dk_42 (dk_at dksX5_whose_1 4 rfl rfl)
theorem dX5_whose_29 : decode cX5_whose 29 = .ok (.getfield 16, 3) := dk_180 0 16 (dk_at dksX5_whose_1 5 rfl rfl)
theorem dX5_whose_32 : decode cX5_whose 32 = .ok (.invokestatic 241, 3) := dk_184 0 241 (dk_at dksX5_whose_1 8 rfl rfl)
theorem dX5_whose_35 : decode cX5_whose 35 = .ok (.aload_n 0, 1) := dk_42 (dk_at dksX5_whose_1 11 rfl rfl)
theorem dX5_whose_36 : decode cX5_whose 36 = .ok (.iload_n 1, 1) := dk_27 (dk_at dksX5_whose_1 12 rfl rfl)
theorem dX5_whose_37 : decode cX5_whose 37 = .ok (.invokevirtual 204, 3) := dk_182 0 204 (dk_at dksX5_whose_1 13 rfl rfl)
theorem dX5_whose_40 : decode cX5_whose 40 = .ok (.aload_n 0, 1) := dk_42 (dk_at dksX5_whose_1 16 rfl rfl)
theorem dX5_whose_41 : decode cX5_whose 41 = .ok (.iload_n 2, 1) := dk_28 (dk_at dksX5_whose_1 17 rfl rfl)
theorem dX5_whose_42 : decode cX5_whose 42 = .ok (.invokevirtual 67, 3) := dk_182 0 67 (dk_at dksX5_whose_1 18 rfl rfl)
theorem dX5_whose_45 : decode cX5_whose 45 = .ok (.istore_n 3, 1) := dk_62 (dk_at dksX5_whose_1 21 rfl rfl)
theorem dX5_whose_46 : decode cX5_whose 46 = .ok (.aload_n 0, 1) := dk_42 (dk_at dksX5_whose_1 22 rfl rfl)
theorem dX5_whose_47 : decode cX5_whose 47 = .ok (.getfield 16, 3) := dk_180 0 16 (dk_at dksX5_whose_2 0 rfl rfl)
theorem dX5_whose_50 : decode cX5_whose 50 = .ok (.aload_n 0, 1) := dk_42 (dk_at dksX5_whose_2 3 rfl rfl)
theorem dX5_whose_51 : decode cX5_whose 51 = .ok (.getfield 7, 3) := dk_180 0 7 (dk_at dksX5_whose_2 4 rfl rfl)
theorem dX5_whose_54 : decode cX5_whose 54 = .ok (.invokestatic 241, 3) := dk_184 0 241 (dk_at dksX5_whose_2 7 rfl rfl)
theorem dX5_whose_57 : decode cX5_whose 57 = .ok (.iload_n 3, 1) := dk_29 (dk_at dksX5_whose_2 10 rfl rfl)
theorem dX5_whose_58 : decode cX5_whose 58 = .ok (.ireturn, 1) := dk_172 (dk_at dksX5_whose_2 11 rfl rfl)
abbrev cX5_part : ByteArray := prog_20_method_84_code
def yX5_part : MethodName := ⟨RX5, "part", "(I)I"⟩
def dkwX5_part_4 : List UInt8 := [160, 0, 8, 21, 5, 167, 0, 4, 29, 62, 132, 4, 1, 167, 255, 184, 28, 172]
abbrev dktX5_part_4 : List UInt8 := dkwX5_part_4 ++ []
def dkwX5_part_3 : List UInt8 := [184, 0, 241, 28, 155, 0, 9, 21, 5, 29, 164, 0, 8, 21, 4, 167, 0, 4, 28, 61, 28, 21, 4]
abbrev dktX5_part_3 : List UInt8 := dkwX5_part_3 ++ dktX5_part_4
def dkwX5_part_2 : List UInt8 := [21, 4, 79, 42, 27, 182, 0, 204, 42, 3, 182, 0, 238, 54, 5, 42, 180, 0, 16, 42, 180, 0, 7]
abbrev dktX5_part_2 : List UInt8 := dkwX5_part_2 ++ dktX5_part_3
def dkwX5_part_1 : List UInt8 := [184, 0, 241, 2, 61, 3, 62, 3, 54, 4, 21, 4, 16, 30, 163, 0, 71, 42, 180, 0, 7, 16, 10]
abbrev dktX5_part_1 : List UInt8 := dkwX5_part_1 ++ dktX5_part_2
def dkwX5_part_0 : List UInt8 := [27, 3, 16, 40, 184, 0, 47, 154, 0, 9, 42, 4, 182, 0, 60, 172, 42, 180, 0, 7, 42, 180, 0, 16]
abbrev dktX5_part_0 : List UInt8 := dkwX5_part_0 ++ dktX5_part_1
theorem dksX5_part_0 : cX5_part.data.toList.drop 0 = dktX5_part_0 := by decide +kernel
theorem dksX5_part_1 : cX5_part.data.toList.drop 24 = dktX5_part_1 := dk_seg dksX5_part_0 24 rfl rfl
theorem dksX5_part_2 : cX5_part.data.toList.drop 47 = dktX5_part_2 := dk_seg dksX5_part_1 23 rfl rfl
theorem dksX5_part_3 : cX5_part.data.toList.drop 70 = dktX5_part_3 := dk_seg dksX5_part_2 23 rfl rfl
theorem dksX5_part_4 : cX5_part.data.toList.drop 93 = dktX5_part_4 := dk_seg dksX5_part_3 23 rfl rfl
theorem dX5_part_0 : decode cX5_part 0 = .ok (.iload_n 1, 1) := dk_27 (dk_at dksX5_part_0 0 rfl rfl)
theorem dX5_part_1 : decode cX5_part 1 = .ok (.iconst 0, 1) := dk_3 (dk_at dksX5_part_0 1 rfl rfl)
theorem dX5_part_2 : decode cX5_part 2 = .ok (.bipush 40, 2) := dk_16 40 (dk_at dksX5_part_0 2 rfl rfl)
theorem dX5_part_4 : decode cX5_part 4 = .ok (.invokestatic 47, 3) := dk_184 0 47 (dk_at dksX5_part_0 4 rfl rfl)
theorem dX5_part_7 : decode cX5_part 7 = .ok (.ifCond .ne 9, 3) := dk_154 0 9 (dk_at dksX5_part_0 7 rfl rfl)
theorem dX5_part_10 : decode cX5_part 10 = .ok (.aload_n 0, 1) := dk_42 (dk_at dksX5_part_0 10 rfl rfl)
theorem dX5_part_11 : decode cX5_part 11 = .ok (.iconst 1, 1) := dk_4 (dk_at dksX5_part_0 11 rfl rfl)
theorem dX5_part_12 : decode cX5_part 12 = .ok (.invokevirtual 60, 3) := dk_182 0 60 (dk_at dksX5_part_0 12 rfl rfl)
theorem dX5_part_15 : decode cX5_part 15 = .ok (.ireturn, 1) := dk_172 (dk_at dksX5_part_0 15 rfl rfl)
theorem dX5_part_16 : decode cX5_part 16 = .ok (.aload_n 0, 1) := dk_42 (dk_at dksX5_part_0 16 rfl rfl)
theorem dX5_part_17 : decode cX5_part 17 = .ok (.getfield 7, 3) := dk_180 0 7 (dk_at dksX5_part_0 17 rfl rfl)
theorem dX5_part_20 : decode cX5_part 20 = .ok (.aload_n 0, 1) := dk_42 (dk_at dksX5_part_0 20 rfl rfl)
theorem dX5_part_21 : decode cX5_part 21 = .ok (.getfield 16, 3) := dk_180 0 16 (dk_at dksX5_part_0 21 rfl rfl)
theorem dX5_part_24 : decode cX5_part 24 = .ok (.invokestatic 241, 3) := dk_184 0 241 (dk_at dksX5_part_1 0 rfl rfl)
theorem dX5_part_27 : decode cX5_part 27 = .ok (.iconst (-1), 1) := dk_2 (dk_at dksX5_part_1 3 rfl rfl)
theorem dX5_part_28 : decode cX5_part 28 = .ok (.istore_n 2, 1) := dk_61 (dk_at dksX5_part_1 4 rfl rfl)
theorem dX5_part_29 : decode cX5_part 29 = .ok (.iconst 0, 1) := dk_3 (dk_at dksX5_part_1 5 rfl rfl)
theorem dX5_part_30 : decode cX5_part 30 = .ok (.istore_n 3, 1) := dk_62 (dk_at dksX5_part_1 6 rfl rfl)
theorem dX5_part_31 : decode cX5_part 31 = .ok (.iconst 0, 1) := dk_3 (dk_at dksX5_part_1 7 rfl rfl)
theorem dX5_part_32 : decode cX5_part 32 = .ok (.istore 4, 2) := dk_54 4 (dk_at dksX5_part_1 8 rfl rfl)
theorem dX5_part_34 : decode cX5_part 34 = .ok (.iload 4, 2) := dk_21 4 (dk_at dksX5_part_1 10 rfl rfl)
theorem dX5_part_36 : decode cX5_part 36 = .ok (.bipush 30, 2) := dk_16 30 (dk_at dksX5_part_1 12 rfl rfl)
theorem dX5_part_38 : decode cX5_part 38 = .ok (.if_icmp .gt 71, 3) := dk_163 0 71 (dk_at dksX5_part_1 14 rfl rfl)
theorem dX5_part_41 : decode cX5_part 41 = .ok (.aload_n 0, 1) := dk_42 (dk_at dksX5_part_1 17 rfl rfl)
theorem dX5_part_42 : decode cX5_part 42 = .ok (.getfield 7, 3) := dk_180 0 7 (dk_at dksX5_part_1 18 rfl rfl)
theorem dX5_part_45 : decode cX5_part 45 = .ok (.bipush 10, 2) := dk_16 10 (dk_at dksX5_part_1 21 rfl rfl)
theorem dX5_part_47 : decode cX5_part 47 = .ok (.iload 4, 2) := dk_21 4 (dk_at dksX5_part_2 0 rfl rfl)
theorem dX5_part_49 : decode cX5_part 49 = .ok (.iastore, 1) := dk_79 (dk_at dksX5_part_2 2 rfl rfl)
theorem dX5_part_50 : decode cX5_part 50 = .ok (.aload_n 0, 1) := dk_42 (dk_at dksX5_part_2 3 rfl rfl)
theorem dX5_part_51 : decode cX5_part 51 = .ok (.iload_n 1, 1) := dk_27 (dk_at dksX5_part_2 4 rfl rfl)
theorem dX5_part_52 : decode cX5_part 52 = .ok (.invokevirtual 204, 3) := dk_182 0 204 (dk_at dksX5_part_2 5 rfl rfl)
theorem dX5_part_55 : decode cX5_part 55 = .ok (.aload_n 0, 1) := dk_42 (dk_at dksX5_part_2 8 rfl rfl)
theorem dX5_part_56 : decode cX5_part 56 = .ok (.iconst 0, 1) := dk_3 (dk_at dksX5_part_2 9 rfl rfl)
theorem dX5_part_57 : decode cX5_part 57 = .ok (.invokevirtual 238, 3) := dk_182 0 238 (dk_at dksX5_part_2 10 rfl rfl)
theorem dX5_part_60 : decode cX5_part 60 = .ok (.istore 5, 2) := dk_54 5 (dk_at dksX5_part_2 13 rfl rfl)
theorem dX5_part_62 : decode cX5_part 62 = .ok (.aload_n 0, 1) := dk_42 (dk_at dksX5_part_2 15 rfl rfl)
theorem dX5_part_63 : decode cX5_part 63 = .ok (.getfield 16, 3) := dk_180 0 16 (dk_at dksX5_part_2 16 rfl rfl)
theorem dX5_part_66 : decode cX5_part 66 = .ok (.aload_n 0, 1) := dk_42 (dk_at dksX5_part_2 19 rfl rfl)
theorem dX5_part_67 : decode cX5_part 67 = .ok (.getfield 7, 3) := dk_180 0 7 (dk_at dksX5_part_2 20 rfl rfl)
theorem dX5_part_70 : decode cX5_part 70 = .ok (.invokestatic 241, 3) := dk_184 0 241 (dk_at dksX5_part_3 0 rfl rfl)
theorem dX5_part_73 : decode cX5_part 73 = .ok (.iload_n 2, 1) := dk_28 (dk_at dksX5_part_3 3 rfl rfl)
theorem dX5_part_74 : decode cX5_part 74 = .ok (.ifCond .lt 9, 3) := dk_155 0 9 (dk_at dksX5_part_3 4 rfl rfl)
theorem dX5_part_77 : decode cX5_part 77 = .ok (.iload 5, 2) := dk_21 5 (dk_at dksX5_part_3 7 rfl rfl)
theorem dX5_part_79 : decode cX5_part 79 = .ok (.iload_n 3, 1) := dk_29 (dk_at dksX5_part_3 9 rfl rfl)
theorem dX5_part_80 : decode cX5_part 80 = .ok (.if_icmp .le 8, 3) := dk_164 0 8 (dk_at dksX5_part_3 10 rfl rfl)
theorem dX5_part_83 : decode cX5_part 83 = .ok (.iload 4, 2) := dk_21 4 (dk_at dksX5_part_3 13 rfl rfl)
theorem dX5_part_85 : decode cX5_part 85 = .ok (.goto 4, 3) := dk_167 0 4 (dk_at dksX5_part_3 15 rfl rfl)
theorem dX5_part_88 : decode cX5_part 88 = .ok (.iload_n 2, 1) := dk_28 (dk_at dksX5_part_3 18 rfl rfl)
theorem dX5_part_89 : decode cX5_part 89 = .ok (.istore_n 2, 1) := dk_61 (dk_at dksX5_part_3 19 rfl rfl)
theorem dX5_part_90 : decode cX5_part 90 = .ok (.iload_n 2, 1) := dk_28 (dk_at dksX5_part_3 20 rfl rfl)
theorem dX5_part_91 : decode cX5_part 91 = .ok (.iload 4, 2) := dk_21 4 (dk_at dksX5_part_3 21 rfl rfl)
theorem dX5_part_93 : decode cX5_part 93 = .ok (.if_icmp .ne 8, 3) := dk_160 0 8 (dk_at dksX5_part_4 0 rfl rfl)
theorem dX5_part_96 : decode cX5_part 96 = .ok (.iload 5, 2) := dk_21 5 (dk_at dksX5_part_4 3 rfl rfl)
theorem dX5_part_98 : decode cX5_part 98 = .ok (.goto 4, 3) := dk_167 0 4 (dk_at dksX5_part_4 5 rfl rfl)
theorem dX5_part_101 : decode cX5_part 101 = .ok (.iload_n 3, 1) := dk_29 (dk_at dksX5_part_4 8 rfl rfl)
theorem dX5_part_102 : decode cX5_part 102 = .ok (.istore_n 3, 1) := dk_62 (dk_at dksX5_part_4 9 rfl rfl)
theorem dX5_part_103 : decode cX5_part 103 = .ok (.iinc 4 1, 3) := dk_132 4 1 (dk_at dksX5_part_4 10 rfl rfl)
theorem dX5_part_106 : decode cX5_part 106 = .ok (.goto (-72), 3) := dk_167 255 184 (dk_at dksX5_part_4 13 rfl rfl)
theorem dX5_part_109 : decode cX5_part 109 = .ok (.iload_n 2, 1) := dk_28 (dk_at dksX5_part_4 16 rfl rfl)
theorem dX5_part_110 : decode cX5_part 110 = .ok (.ireturn, 1) := dk_172 (dk_at dksX5_part_4 17 rfl rfl)
abbrev cX5_voice : ByteArray := prog_20_method_93_code
def yX5_voice : MethodName := ⟨RX5, "voice", "(III)I"⟩
def dkwX5_voice_4 : List UInt8 := [182, 1, 20, 54, 5, 42, 180, 1, 16, 153, 0, 12, 42, 16, 6, 182, 0, 60, 167, 0, 5, 21, 5, 172]
abbrev dktX5_voice_4 : List UInt8 := dkwX5_voice_4 ++ []
def dkwX5_voice_3 : List UInt8 := [167, 0, 25, 28, 5, 160, 0, 13, 42, 21, 4, 29, 182, 1, 13, 167, 0, 10, 42, 21, 4, 29]
abbrev dktX5_voice_3 : List UInt8 := dkwX5_voice_3 ++ dktX5_voice_4
def dkwX5_voice_2 : List UInt8 := [42, 21, 4, 29, 182, 1, 1, 167, 0, 40, 28, 4, 160, 0, 13, 42, 21, 4, 29, 182, 1, 7]
abbrev dktX5_voice_2 : List UInt8 := dkwX5_voice_2 ++ dktX5_voice_3
def dkwX5_voice_1 : List UInt8 := [3, 181, 0, 245, 42, 27, 181, 0, 248, 42, 3, 181, 1, 16, 42, 182, 1, 4, 54, 4, 28, 154, 0, 13]
abbrev dktX5_voice_1 : List UInt8 := dkwX5_voice_1 ++ dktX5_voice_2
def dkwX5_voice_0 : List UInt8 := [42, 27, 182, 0, 76, 153, 0, 12, 28, 3, 6, 184, 0, 47, 154, 0, 9, 42, 4, 182, 0, 60, 172, 42]
abbrev dktX5_voice_0 : List UInt8 := dkwX5_voice_0 ++ dktX5_voice_1
theorem dksX5_voice_0 : cX5_voice.data.toList.drop 0 = dktX5_voice_0 := by decide +kernel
theorem dksX5_voice_1 : cX5_voice.data.toList.drop 24 = dktX5_voice_1 := dk_seg dksX5_voice_0 24 rfl rfl
theorem dksX5_voice_2 : cX5_voice.data.toList.drop 48 = dktX5_voice_2 := dk_seg dksX5_voice_1 24 rfl rfl
theorem dksX5_voice_3 : cX5_voice.data.toList.drop 70 = dktX5_voice_3 := dk_seg dksX5_voice_2 22 rfl rfl
theorem dksX5_voice_4 : cX5_voice.data.toList.drop 92 = dktX5_voice_4 := dk_seg dksX5_voice_3 22 rfl rfl
theorem dX5_voice_0 : decode cX5_voice 0 = .ok (.aload_n 0, 1) := dk_42 (dk_at dksX5_voice_0 0 rfl rfl)
theorem dX5_voice_1 : decode cX5_voice 1 = .ok (.iload_n 1, 1) := dk_27 (dk_at dksX5_voice_0 1 rfl rfl)
theorem dX5_voice_2 : decode cX5_voice 2 = .ok (.invokevirtual 76, 3) := dk_182 0 76 (dk_at dksX5_voice_0 2 rfl rfl)
theorem dX5_voice_5 : decode cX5_voice 5 = .ok (.ifCond .eq 12, 3) := dk_153 0 12 (dk_at dksX5_voice_0 5 rfl rfl)
theorem dX5_voice_8 : decode cX5_voice 8 = .ok (.iload_n 2, 1) := dk_28 (dk_at dksX5_voice_0 8 rfl rfl)
theorem dX5_voice_9 : decode cX5_voice 9 = .ok (.iconst 0, 1) := dk_3 (dk_at dksX5_voice_0 9 rfl rfl)
theorem dX5_voice_10 : decode cX5_voice 10 = .ok (.iconst 3, 1) := dk_6 (dk_at dksX5_voice_0 10 rfl rfl)
theorem dX5_voice_11 : decode cX5_voice 11 = .ok (.invokestatic 47, 3) := dk_184 0 47 (dk_at dksX5_voice_0 11 rfl rfl)
theorem dX5_voice_14 : decode cX5_voice 14 = .ok (.ifCond .ne 9, 3) := dk_154 0 9 (dk_at dksX5_voice_0 14 rfl rfl)
theorem dX5_voice_17 : decode cX5_voice 17 = .ok (.aload_n 0, 1) := dk_42 (dk_at dksX5_voice_0 17 rfl rfl)
theorem dX5_voice_18 : decode cX5_voice 18 = .ok (.iconst 1, 1) := dk_4 (dk_at dksX5_voice_0 18 rfl rfl)
theorem dX5_voice_19 : decode cX5_voice 19 = .ok (.invokevirtual 60, 3) := dk_182 0 60 (dk_at dksX5_voice_0 19 rfl rfl)
theorem dX5_voice_22 : decode cX5_voice 22 = .ok (.ireturn, 1) := dk_172 (dk_at dksX5_voice_0 22 rfl rfl)
theorem dX5_voice_23 : decode cX5_voice 23 = .ok (.aload_n 0, 1) := dk_42 (dk_at dksX5_voice_0 23 rfl rfl)
theorem dX5_voice_24 : decode cX5_voice 24 = .ok (.iconst 0, 1) := dk_3 (dk_at dksX5_voice_1 0 rfl rfl)
theorem dX5_voice_25 : decode cX5_voice 25 = .ok (.putfield 245, 3) := dk_181 0 245 (dk_at dksX5_voice_1 1 rfl rfl)
theorem dX5_voice_28 : decode cX5_voice 28 = .ok (.aload_n 0, 1) := dk_42 (dk_at dksX5_voice_1 4 rfl rfl)
theorem dX5_voice_29 : decode cX5_voice 29 = .ok (.iload_n 1, 1) := dk_27 (dk_at dksX5_voice_1 5 rfl rfl)
theorem dX5_voice_30 : decode cX5_voice 30 = .ok (.putfield 248, 3) := dk_181 0 248 (dk_at dksX5_voice_1 6 rfl rfl)
theorem dX5_voice_33 : decode cX5_voice 33 = .ok (.aload_n 0, 1) := dk_42 (dk_at dksX5_voice_1 9 rfl rfl)
theorem dX5_voice_34 : decode cX5_voice 34 = .ok (.iconst 0, 1) := dk_3 (dk_at dksX5_voice_1 10 rfl rfl)
theorem dX5_voice_35 : decode cX5_voice 35 = .ok (.putfield 272, 3) := dk_181 1 16 (dk_at dksX5_voice_1 11 rfl rfl)
theorem dX5_voice_38 : decode cX5_voice 38 = .ok (.aload_n 0, 1) := dk_42 (dk_at dksX5_voice_1 14 rfl rfl)
theorem dX5_voice_39 : decode cX5_voice 39 = .ok (.invokevirtual 260, 3) := dk_182 1 4 (dk_at dksX5_voice_1 15 rfl rfl)
theorem dX5_voice_42 : decode cX5_voice 42 = .ok (.istore 4, 2) := dk_54 4 (dk_at dksX5_voice_1 18 rfl rfl)
theorem dX5_voice_44 : decode cX5_voice 44 = .ok (.iload_n 2, 1) := dk_28 (dk_at dksX5_voice_1 20 rfl rfl)
theorem dX5_voice_45 : decode cX5_voice 45 = .ok (.ifCond .ne 13, 3) := dk_154 0 13 (dk_at dksX5_voice_1 21 rfl rfl)
theorem dX5_voice_48 : decode cX5_voice 48 = .ok (.aload_n 0, 1) := dk_42 (dk_at dksX5_voice_2 0 rfl rfl)
theorem dX5_voice_49 : decode cX5_voice 49 = .ok (.iload 4, 2) := dk_21 4 (dk_at dksX5_voice_2 1 rfl rfl)
theorem dX5_voice_51 : decode cX5_voice 51 = .ok (.iload_n 3, 1) := dk_29 (dk_at dksX5_voice_2 3 rfl rfl)
theorem dX5_voice_52 : decode cX5_voice 52 = .ok (.invokevirtual 257, 3) := dk_182 1 1 (dk_at dksX5_voice_2 4 rfl rfl)
theorem dX5_voice_55 : decode cX5_voice 55 = .ok (.goto 40, 3) := dk_167 0 40 (dk_at dksX5_voice_2 7 rfl rfl)
theorem dX5_voice_58 : decode cX5_voice 58 = .ok (.iload_n 2, 1) := dk_28 (dk_at dksX5_voice_2 10 rfl rfl)
theorem dX5_voice_59 : decode cX5_voice 59 = .ok (.iconst 1, 1) := dk_4 (dk_at dksX5_voice_2 11 rfl rfl)
theorem dX5_voice_60 : decode cX5_voice 60 = .ok (.if_icmp .ne 13, 3) := dk_160 0 13 (dk_at dksX5_voice_2 12 rfl rfl)
theorem dX5_voice_63 : decode cX5_voice 63 = .ok (.aload_n 0, 1) := dk_42 (dk_at dksX5_voice_2 15 rfl rfl)
theorem dX5_voice_64 : decode cX5_voice 64 = .ok (.iload 4, 2) := dk_21 4 (dk_at dksX5_voice_2 16 rfl rfl)
theorem dX5_voice_66 : decode cX5_voice 66 = .ok (.iload_n 3, 1) := dk_29 (dk_at dksX5_voice_2 18 rfl rfl)
theorem dX5_voice_67 : decode cX5_voice 67 = .ok (.invokevirtual 263, 3) := dk_182 1 7 (dk_at dksX5_voice_2 19 rfl rfl)
theorem dX5_voice_70 : decode cX5_voice 70 = .ok (.goto 25, 3) := dk_167 0 25 (dk_at dksX5_voice_3 0 rfl rfl)
theorem dX5_voice_73 : decode cX5_voice 73 = .ok (.iload_n 2, 1) := dk_28 (dk_at dksX5_voice_3 3 rfl rfl)
theorem dX5_voice_74 : decode cX5_voice 74 = .ok (.iconst 2, 1) := dk_5 (dk_at dksX5_voice_3 4 rfl rfl)
theorem dX5_voice_75 : decode cX5_voice 75 = .ok (.if_icmp .ne 13, 3) := dk_160 0 13 (dk_at dksX5_voice_3 5 rfl rfl)
theorem dX5_voice_78 : decode cX5_voice 78 = .ok (.aload_n 0, 1) := dk_42 (dk_at dksX5_voice_3 8 rfl rfl)
theorem dX5_voice_79 : decode cX5_voice 79 = .ok (.iload 4, 2) := dk_21 4 (dk_at dksX5_voice_3 9 rfl rfl)
theorem dX5_voice_81 : decode cX5_voice 81 = .ok (.iload_n 3, 1) := dk_29 (dk_at dksX5_voice_3 11 rfl rfl)
theorem dX5_voice_82 : decode cX5_voice 82 = .ok (.invokevirtual 269, 3) := dk_182 1 13 (dk_at dksX5_voice_3 12 rfl rfl)
theorem dX5_voice_85 : decode cX5_voice 85 = .ok (.goto 10, 3) := dk_167 0 10 (dk_at dksX5_voice_3 15 rfl rfl)
theorem dX5_voice_88 : decode cX5_voice 88 = .ok (.aload_n 0, 1) := dk_42 (dk_at dksX5_voice_3 18 rfl rfl)
theorem dX5_voice_89 : decode cX5_voice 89 = .ok (.iload 4, 2) := dk_21 4 (dk_at dksX5_voice_3 19 rfl rfl)
theorem dX5_voice_91 : decode cX5_voice 91 = .ok (.iload_n 3, 1) := dk_29 (dk_at dksX5_voice_3 21 rfl rfl)
theorem dX5_voice_92 : decode cX5_voice 92 = .ok (.invokevirtual 276, 3) := dk_182 1 20 (dk_at dksX5_voice_4 0 rfl rfl)
theorem dX5_voice_95 : decode cX5_voice 95 = .ok (.istore 5, 2) := dk_54 5 (dk_at dksX5_voice_4 3 rfl rfl)
theorem dX5_voice_97 : decode cX5_voice 97 = .ok (.aload_n 0, 1) := dk_42 (dk_at dksX5_voice_4 5 rfl rfl)
theorem dX5_voice_98 : decode cX5_voice 98 = .ok (.getfield 272, 3) := dk_180 1 16 (dk_at dksX5_voice_4 6 rfl rfl)
theorem dX5_voice_101 : decode cX5_voice 101 = .ok (.ifCond .eq 12, 3) := dk_153 0 12 (dk_at dksX5_voice_4 9 rfl rfl)
theorem dX5_voice_104 : decode cX5_voice 104 = .ok (.aload_n 0, 1) := dk_42 (dk_at dksX5_voice_4 12 rfl rfl)
theorem dX5_voice_105 : decode cX5_voice 105 = .ok (.bipush 6, 2) := dk_16 6 (dk_at dksX5_voice_4 13 rfl rfl)
theorem dX5_voice_107 : decode cX5_voice 107 = .ok (.invokevirtual 60, 3) := dk_182 0 60 (dk_at dksX5_voice_4 15 rfl rfl)
theorem dX5_voice_110 : decode cX5_voice 110 = .ok (.goto 5, 3) := dk_167 0 5 (dk_at dksX5_voice_4 18 rfl rfl)
theorem dX5_voice_113 : decode cX5_voice 113 = .ok (.iload 5, 2) := dk_21 5 (dk_at dksX5_voice_4 21 rfl rfl)
theorem dX5_voice_115 : decode cX5_voice 115 = .ok (.ireturn, 1) := dk_172 (dk_at dksX5_voice_4 23 rfl rfl)
abbrev cX5_kindNow : ByteArray := prog_20_method_87_code
def yX5_kindNow : MethodName := ⟨RX5, "kindNow", "()I"⟩
def dkwX5_kindNow_0 : List UInt8 := [42, 42, 180, 0, 248, 3, 182, 0, 79, 172]
abbrev dktX5_kindNow_0 : List UInt8 := dkwX5_kindNow_0 ++ []
theorem dksX5_kindNow_0 : cX5_kindNow.data.toList.drop 0 = dktX5_kindNow_0 := by decide +kernel
theorem dX5_kindNow_0 : decode cX5_kindNow 0 = .ok (.aload_n 0, 1) := dk_42 (dk_at dksX5_kindNow_0 0 rfl rfl)
theorem dX5_kindNow_1 : decode cX5_kindNow 1 = .ok (.aload_n 0, 1) := dk_42 (dk_at dksX5_kindNow_0 1 rfl rfl)
theorem dX5_kindNow_2 : decode cX5_kindNow 2 = .ok (.getfield 248, 3) := dk_180 0 248 (dk_at dksX5_kindNow_0 2 rfl rfl)
theorem dX5_kindNow_5 : decode cX5_kindNow 5 = .ok (.iconst 0, 1) := dk_3 (dk_at dksX5_kindNow_0 5 rfl rfl)
theorem dX5_kindNow_6 : decode cX5_kindNow 6 = .ok (.invokevirtual 79, 3) := dk_182 0 79 (dk_at dksX5_kindNow_0 6 rfl rfl)
theorem dX5_kindNow_9 : decode cX5_kindNow 9 = .ok (.ireturn, 1) := dk_172 (dk_at dksX5_kindNow_0 9 rfl rfl)
abbrev cX5_calls : ByteArray := prog_20_method_89_code
def yX5_calls : MethodName := ⟨RX5, "calls", "(II)I"⟩
def dkwX5_calls_5 : List UInt8 := [182, 0, 251, 16, 8, 172, 42, 27, 184, 0, 254, 28, 182, 1, 1, 172]
abbrev dktX5_calls_5 : List UInt8 := dkwX5_calls_5 ++ []
def dkwX5_calls_4 : List UInt8 := [172, 42, 16, 60, 182, 0, 251, 42, 16, 6, 184, 0, 254, 28, 182, 1, 1, 6, 104, 172, 42, 16, 70]
abbrev dktX5_calls_4 : List UInt8 := dkwX5_calls_4 ++ dktX5_calls_5
def dkwX5_calls_3 : List UInt8 := [28, 182, 1, 1, 8, 96, 172, 42, 16, 40, 182, 0, 251, 42, 6, 184, 0, 254, 28, 5, 108, 182, 1, 1]
abbrev dktX5_calls_3 : List UInt8 := dkwX5_calls_3 ++ dktX5_calls_4
def dkwX5_calls_2 : List UInt8 := [42, 16, 10, 182, 0, 251, 28, 42, 180, 0, 248, 96, 172, 42, 16, 20, 182, 0, 251, 42, 4, 184, 0, 254]
abbrev dktX5_calls_2 : List UInt8 := dkwX5_calls_2 ++ dktX5_calls_3
def dkwX5_calls_1 : List UInt8 := [170, 0, 0, 0, 0, 0, 120, 0, 0, 0, 0, 0, 0, 0, 6, 0, 0, 0, 43, 0, 0, 0, 56, 0, 0, 0, 120, 0, 0, 0, 74, 0, 0, 0, 120, 0, 0, 0, 111, 0, 0, 0, 92]
abbrev dktX5_calls_1 : List UInt8 := dkwX5_calls_1 ++ dktX5_calls_2
def dkwX5_calls_0 : List UInt8 := [27]
abbrev dktX5_calls_0 : List UInt8 := dkwX5_calls_0 ++ dktX5_calls_1
theorem dksX5_calls_0 : cX5_calls.data.toList.drop 0 = dktX5_calls_0 := by decide +kernel
theorem dksX5_calls_1 : cX5_calls.data.toList.drop 1 = dktX5_calls_1 := dk_seg dksX5_calls_0 1 rfl rfl
theorem dksX5_calls_2 : cX5_calls.data.toList.drop 44 = dktX5_calls_2 := dk_seg dksX5_calls_1 43 rfl rfl
theorem dksX5_calls_3 : cX5_calls.data.toList.drop 68 = dktX5_calls_3 := dk_seg dksX5_calls_2 24 rfl rfl
theorem dksX5_calls_4 : cX5_calls.data.toList.drop 92 = dktX5_calls_4 := dk_seg dksX5_calls_3 24 rfl rfl
theorem dksX5_calls_5 : cX5_calls.data.toList.drop 115 = dktX5_calls_5 := dk_seg dksX5_calls_4 23 rfl rfl
theorem dX5_calls_0 : decode cX5_calls 0 = .ok (.iload_n 1, 1) := dk_27 (dk_at dksX5_calls_0 0 rfl rfl)
theorem dX5_calls_1 : decode cX5_calls 1 = .ok (.tableswitch 120 0 6 #[43, 56, 120, 74, 120, 111, 92], 43) := by decide +kernel
theorem dX5_calls_44 : decode cX5_calls 44 = .ok (.aload_n 0, 1) := dk_42 (dk_at dksX5_calls_2 0 rfl rfl)
theorem dX5_calls_45 : decode cX5_calls 45 = .ok (.bipush 10, 2) := dk_16 10 (dk_at dksX5_calls_2 1 rfl rfl)
theorem dX5_calls_47 : decode cX5_calls 47 = .ok (.invokevirtual 251, 3) := dk_182 0 251 (dk_at dksX5_calls_2 3 rfl rfl)
theorem dX5_calls_50 : decode cX5_calls 50 = .ok (.iload_n 2, 1) := dk_28 (dk_at dksX5_calls_2 6 rfl rfl)
theorem dX5_calls_51 : decode cX5_calls 51 = .ok (.aload_n 0, 1) := dk_42 (dk_at dksX5_calls_2 7 rfl rfl)
theorem dX5_calls_52 : decode cX5_calls 52 = .ok (.getfield 248, 3) := dk_180 0 248 (dk_at dksX5_calls_2 8 rfl rfl)
theorem dX5_calls_55 : decode cX5_calls 55 = .ok (.iadd, 1) := dk_96 (dk_at dksX5_calls_2 11 rfl rfl)
theorem dX5_calls_56 : decode cX5_calls 56 = .ok (.ireturn, 1) := dk_172 (dk_at dksX5_calls_2 12 rfl rfl)
theorem dX5_calls_57 : decode cX5_calls 57 = .ok (.aload_n 0, 1) := dk_42 (dk_at dksX5_calls_2 13 rfl rfl)
theorem dX5_calls_58 : decode cX5_calls 58 = .ok (.bipush 20, 2) := dk_16 20 (dk_at dksX5_calls_2 14 rfl rfl)
theorem dX5_calls_60 : decode cX5_calls 60 = .ok (.invokevirtual 251, 3) := dk_182 0 251 (dk_at dksX5_calls_2 16 rfl rfl)
theorem dX5_calls_63 : decode cX5_calls 63 = .ok (.aload_n 0, 1) := dk_42 (dk_at dksX5_calls_2 19 rfl rfl)
theorem dX5_calls_64 : decode cX5_calls 64 = .ok (.iconst 1, 1) := dk_4 (dk_at dksX5_calls_2 20 rfl rfl)
theorem dX5_calls_65 : decode cX5_calls 65 = .ok (.invokestatic 254, 3) := dk_184 0 254 (dk_at dksX5_calls_2 21 rfl rfl)
theorem dX5_calls_68 : decode cX5_calls 68 = .ok (.iload_n 2, 1) := dk_28 (dk_at dksX5_calls_3 0 rfl rfl)
theorem dX5_calls_69 : decode cX5_calls 69 = .ok (.invokevirtual 257, 3) := dk_182 1 1 (dk_at dksX5_calls_3 1 rfl rfl)
theorem dX5_calls_72 : decode cX5_calls 72 = .ok (.iconst 5, 1) := dk_8 (dk_at dksX5_calls_3 4 rfl rfl)
theorem dX5_calls_73 : decode cX5_calls 73 = .ok (.iadd, 1) := dk_96 (dk_at dksX5_calls_3 5 rfl rfl)
theorem dX5_calls_74 : decode cX5_calls 74 = .ok (.ireturn, 1) := dk_172 (dk_at dksX5_calls_3 6 rfl rfl)
theorem dX5_calls_75 : decode cX5_calls 75 = .ok (.aload_n 0, 1) := dk_42 (dk_at dksX5_calls_3 7 rfl rfl)
theorem dX5_calls_76 : decode cX5_calls 76 = .ok (.bipush 40, 2) := dk_16 40 (dk_at dksX5_calls_3 8 rfl rfl)
theorem dX5_calls_78 : decode cX5_calls 78 = .ok (.invokevirtual 251, 3) := dk_182 0 251 (dk_at dksX5_calls_3 10 rfl rfl)
theorem dX5_calls_81 : decode cX5_calls 81 = .ok (.aload_n 0, 1) := dk_42 (dk_at dksX5_calls_3 13 rfl rfl)
theorem dX5_calls_82 : decode cX5_calls 82 = .ok (.iconst 3, 1) := dk_6 (dk_at dksX5_calls_3 14 rfl rfl)
theorem dX5_calls_83 : decode cX5_calls 83 = .ok (.invokestatic 254, 3) := dk_184 0 254 (dk_at dksX5_calls_3 15 rfl rfl)
theorem dX5_calls_86 : decode cX5_calls 86 = .ok (.iload_n 2, 1) := dk_28 (dk_at dksX5_calls_3 18 rfl rfl)
theorem dX5_calls_87 : decode cX5_calls 87 = .ok (.iconst 2, 1) := dk_5 (dk_at dksX5_calls_3 19 rfl rfl)
theorem dX5_calls_88 : decode cX5_calls 88 = .ok (.idiv, 1) := dk_108 (dk_at dksX5_calls_3 20 rfl rfl)
theorem dX5_calls_89 : decode cX5_calls 89 = .ok (.invokevirtual 257, 3) := dk_182 1 1 (dk_at dksX5_calls_3 21 rfl rfl)
theorem dX5_calls_92 : decode cX5_calls 92 = .ok (.ireturn, 1) := dk_172 (dk_at dksX5_calls_4 0 rfl rfl)
theorem dX5_calls_93 : decode cX5_calls 93 = .ok (.aload_n 0, 1) := dk_42 (dk_at dksX5_calls_4 1 rfl rfl)
theorem dX5_calls_94 : decode cX5_calls 94 = .ok (.bipush 60, 2) := dk_16 60 (dk_at dksX5_calls_4 2 rfl rfl)
theorem dX5_calls_96 : decode cX5_calls 96 = .ok (.invokevirtual 251, 3) := dk_182 0 251 (dk_at dksX5_calls_4 4 rfl rfl)
theorem dX5_calls_99 : decode cX5_calls 99 = .ok (.aload_n 0, 1) := dk_42 (dk_at dksX5_calls_4 7 rfl rfl)
theorem dX5_calls_100 : decode cX5_calls 100 = .ok (.bipush 6, 2) := dk_16 6 (dk_at dksX5_calls_4 8 rfl rfl)
theorem dX5_calls_102 : decode cX5_calls 102 = .ok (.invokestatic 254, 3) := dk_184 0 254 (dk_at dksX5_calls_4 10 rfl rfl)
theorem dX5_calls_105 : decode cX5_calls 105 = .ok (.iload_n 2, 1) := dk_28 (dk_at dksX5_calls_4 13 rfl rfl)
theorem dX5_calls_106 : decode cX5_calls 106 = .ok (.invokevirtual 257, 3) := dk_182 1 1 (dk_at dksX5_calls_4 14 rfl rfl)
theorem dX5_calls_109 : decode cX5_calls 109 = .ok (.iconst 3, 1) := dk_6 (dk_at dksX5_calls_4 17 rfl rfl)
theorem dX5_calls_110 : decode cX5_calls 110 = .ok (.imul, 1) := dk_104 (dk_at dksX5_calls_4 18 rfl rfl)
theorem dX5_calls_111 : decode cX5_calls 111 = .ok (.ireturn, 1) := dk_172 (dk_at dksX5_calls_4 19 rfl rfl)
theorem dX5_calls_112 : decode cX5_calls 112 = .ok (.aload_n 0, 1) := dk_42 (dk_at dksX5_calls_4 20 rfl rfl)
theorem dX5_calls_113 : decode cX5_calls 113 = .ok (.bipush 70, 2) := dk_16 70 (dk_at dksX5_calls_4 21 rfl rfl)
theorem dX5_calls_115 : decode cX5_calls 115 = .ok (.invokevirtual 251, 3) := dk_182 0 251 (dk_at dksX5_calls_5 0 rfl rfl)
theorem dX5_calls_118 : decode cX5_calls 118 = .ok (.bipush 8, 2) := dk_16 8 (dk_at dksX5_calls_5 3 rfl rfl)
theorem dX5_calls_120 : decode cX5_calls 120 = .ok (.ireturn, 1) := dk_172 (dk_at dksX5_calls_5 5 rfl rfl)
theorem dX5_calls_121 : decode cX5_calls 121 = .ok (.aload_n 0, 1) := dk_42 (dk_at dksX5_calls_5 6 rfl rfl)
theorem dX5_calls_122 : decode cX5_calls 122 = .ok (.iload_n 1, 1) := dk_27 (dk_at dksX5_calls_5 7 rfl rfl)
theorem dX5_calls_123 : decode cX5_calls 123 = .ok (.invokestatic 254, 3) := dk_184 0 254 (dk_at dksX5_calls_5 8 rfl rfl)
theorem dX5_calls_126 : decode cX5_calls 126 = .ok (.iload_n 2, 1) := dk_28 (dk_at dksX5_calls_5 11 rfl rfl)
theorem dX5_calls_127 : decode cX5_calls 127 = .ok (.invokevirtual 257, 3) := dk_182 1 1 (dk_at dksX5_calls_5 12 rfl rfl)
theorem dX5_calls_130 : decode cX5_calls 130 = .ok (.ireturn, 1) := dk_172 (dk_at dksX5_calls_5 15 rfl rfl)
abbrev cX5_begins : ByteArray := prog_20_method_85_code
def yX5_begins : MethodName := ⟨RX5, "begins", "(I)V"⟩
def dkwX5_begins_1 : List UInt8 := [4, 96, 181, 0, 245, 177]
abbrev dktX5_begins_1 : List UInt8 := dkwX5_begins_1 ++ []
def dkwX5_begins_0 : List UInt8 := [42, 180, 0, 245, 16, 30, 162, 0, 23, 42, 180, 0, 31, 42, 180, 0, 245, 27, 79, 42, 89, 180, 0, 245]
abbrev dktX5_begins_0 : List UInt8 := dkwX5_begins_0 ++ dktX5_begins_1
theorem dksX5_begins_0 : cX5_begins.data.toList.drop 0 = dktX5_begins_0 := by decide +kernel
theorem dksX5_begins_1 : cX5_begins.data.toList.drop 24 = dktX5_begins_1 := dk_seg dksX5_begins_0 24 rfl rfl
theorem dX5_begins_0 : decode cX5_begins 0 = .ok (.aload_n 0, 1) := dk_42 (dk_at dksX5_begins_0 0 rfl rfl)
theorem dX5_begins_1 : decode cX5_begins 1 = .ok (.getfield 245, 3) := dk_180 0 245 (dk_at dksX5_begins_0 1 rfl rfl)
theorem dX5_begins_4 : decode cX5_begins 4 = .ok (.bipush 30, 2) := dk_16 30 (dk_at dksX5_begins_0 4 rfl rfl)
theorem dX5_begins_6 : decode cX5_begins 6 = .ok (.if_icmp .ge 23, 3) := dk_162 0 23 (dk_at dksX5_begins_0 6 rfl rfl)
theorem dX5_begins_9 : decode cX5_begins 9 = .ok (.aload_n 0, 1) := dk_42 (dk_at dksX5_begins_0 9 rfl rfl)
theorem dX5_begins_10 : decode cX5_begins 10 = .ok (.getfield 31, 3) := dk_180 0 31 (dk_at dksX5_begins_0 10 rfl rfl)
theorem dX5_begins_13 : decode cX5_begins 13 = .ok (.aload_n 0, 1) := dk_42 (dk_at dksX5_begins_0 13 rfl rfl)
theorem dX5_begins_14 : decode cX5_begins 14 = .ok (.getfield 245, 3) := dk_180 0 245 (dk_at dksX5_begins_0 14 rfl rfl)
theorem dX5_begins_17 : decode cX5_begins 17 = .ok (.iload_n 1, 1) := dk_27 (dk_at dksX5_begins_0 17 rfl rfl)
theorem dX5_begins_18 : decode cX5_begins 18 = .ok (.iastore, 1) := dk_79 (dk_at dksX5_begins_0 18 rfl rfl)
theorem dX5_begins_19 : decode cX5_begins 19 = .ok (.aload_n 0, 1) := dk_42 (dk_at dksX5_begins_0 19 rfl rfl)
theorem dX5_begins_20 : decode cX5_begins 20 = .ok (.dup, 1) := dk_89 (dk_at dksX5_begins_0 20 rfl rfl)
theorem dX5_begins_21 : decode cX5_begins 21 = .ok (.getfield 245, 3) := dk_180 0 245 (dk_at dksX5_begins_0 21 rfl rfl)
theorem dX5_begins_24 : decode cX5_begins 24 = .ok (.iconst 1, 1) := dk_4 (dk_at dksX5_begins_1 0 rfl rfl)
theorem dX5_begins_25 : decode cX5_begins 25 = .ok (.iadd, 1) := dk_96 (dk_at dksX5_begins_1 1 rfl rfl)
theorem dX5_begins_26 : decode cX5_begins 26 = .ok (.putfield 245, 3) := dk_181 0 245 (dk_at dksX5_begins_1 2 rfl rfl)
theorem dX5_begins_29 : decode cX5_begins 29 = .ok (.return_, 1) := dk_177 (dk_at dksX5_begins_1 5 rfl rfl)
abbrev cX5_above : ByteArray := prog_20_method_86_code
def yX5_above : MethodName := ⟨RX5, "above", "(I)I"⟩
def dkwX5_above_0 : List UInt8 := [26, 5, 159, 0, 14, 26, 6, 159, 0, 9, 26, 16, 6, 160, 0, 7, 4, 167, 0, 4, 3, 172]
abbrev dktX5_above_0 : List UInt8 := dkwX5_above_0 ++ []
theorem dksX5_above_0 : cX5_above.data.toList.drop 0 = dktX5_above_0 := by decide +kernel
theorem dX5_above_0 : decode cX5_above 0 = .ok (.iload_n 0, 1) := dk_26 (dk_at dksX5_above_0 0 rfl rfl)
theorem dX5_above_1 : decode cX5_above 1 = .ok (.iconst 2, 1) := dk_5 (dk_at dksX5_above_0 1 rfl rfl)
theorem dX5_above_2 : decode cX5_above 2 = .ok (.if_icmp .eq 14, 3) := dk_159 0 14 (dk_at dksX5_above_0 2 rfl rfl)
theorem dX5_above_5 : decode cX5_above 5 = .ok (.iload_n 0, 1) := dk_26 (dk_at dksX5_above_0 5 rfl rfl)
theorem dX5_above_6 : decode cX5_above 6 = .ok (.iconst 3, 1) := dk_6 (dk_at dksX5_above_0 6 rfl rfl)
theorem dX5_above_7 : decode cX5_above 7 = .ok (.if_icmp .eq 9, 3) := dk_159 0 9 (dk_at dksX5_above_0 7 rfl rfl)
theorem dX5_above_10 : decode cX5_above 10 = .ok (.iload_n 0, 1) := dk_26 (dk_at dksX5_above_0 10 rfl rfl)
theorem dX5_above_11 : decode cX5_above 11 = .ok (.bipush 6, 2) := dk_16 6 (dk_at dksX5_above_0 11 rfl rfl)
theorem dX5_above_13 : decode cX5_above 13 = .ok (.if_icmp .ne 7, 3) := dk_160 0 7 (dk_at dksX5_above_0 13 rfl rfl)
theorem dX5_above_16 : decode cX5_above 16 = .ok (.iconst 1, 1) := dk_4 (dk_at dksX5_above_0 16 rfl rfl)
theorem dX5_above_17 : decode cX5_above 17 = .ok (.goto 4, 3) := dk_167 0 4 (dk_at dksX5_above_0 17 rfl rfl)
theorem dX5_above_20 : decode cX5_above 20 = .ok (.iconst 0, 1) := dk_3 (dk_at dksX5_above_0 20 rfl rfl)
theorem dX5_above_21 : decode cX5_above 21 = .ok (.ireturn, 1) := dk_172 (dk_at dksX5_above_0 21 rfl rfl)
abbrev cX5_buys : ByteArray := prog_20_method_90_code
def yX5_buys : MethodName := ⟨RX5, "buys", "(II)I"⟩
def dkwX5_buys_4 : List UInt8 := [182, 1, 7, 42, 180, 0, 248, 96, 172, 42, 27, 184, 0, 254, 28, 182, 1, 7, 172]
abbrev dktX5_buys_4 : List UInt8 := dkwX5_buys_4 ++ []
def dkwX5_buys_3 : List UInt8 := [3, 42, 5, 184, 0, 254, 28, 182, 1, 7, 100, 172, 42, 16, 71, 182, 0, 251, 42, 8, 184, 0, 254, 28]
abbrev dktX5_buys_3 : List UInt8 := dkwX5_buys_3 ++ dktX5_buys_4
def dkwX5_buys_2 : List UInt8 := [42, 16, 11, 182, 0, 251, 42, 42, 182, 1, 4, 28, 182, 1, 1, 5, 104, 172, 42, 16, 30, 182, 0, 251]
abbrev dktX5_buys_2 : List UInt8 := dkwX5_buys_2 ++ dktX5_buys_3
def dkwX5_buys_1 : List UInt8 := [171, 0, 0, 0, 0, 0, 92, 0, 0, 0, 3, 0, 0, 0, 0, 0, 0, 0, 35, 0, 0, 0, 2, 0, 0, 0, 53, 0, 0, 0, 5, 0, 0, 0, 71]
abbrev dktX5_buys_1 : List UInt8 := dkwX5_buys_1 ++ dktX5_buys_2
def dkwX5_buys_0 : List UInt8 := [27]
abbrev dktX5_buys_0 : List UInt8 := dkwX5_buys_0 ++ dktX5_buys_1
theorem dksX5_buys_0 : cX5_buys.data.toList.drop 0 = dktX5_buys_0 := by decide +kernel
theorem dksX5_buys_1 : cX5_buys.data.toList.drop 1 = dktX5_buys_1 := dk_seg dksX5_buys_0 1 rfl rfl
theorem dksX5_buys_2 : cX5_buys.data.toList.drop 36 = dktX5_buys_2 := dk_seg dksX5_buys_1 35 rfl rfl
theorem dksX5_buys_3 : cX5_buys.data.toList.drop 60 = dktX5_buys_3 := dk_seg dksX5_buys_2 24 rfl rfl
theorem dksX5_buys_4 : cX5_buys.data.toList.drop 84 = dktX5_buys_4 := dk_seg dksX5_buys_3 24 rfl rfl
theorem dX5_buys_0 : decode cX5_buys 0 = .ok (.iload_n 1, 1) := dk_27 (dk_at dksX5_buys_0 0 rfl rfl)
theorem dX5_buys_1 : decode cX5_buys 1 = .ok (.lookupswitch 92 #[(0, 35), (2, 53), (5, 71)], 35) := by decide +kernel
theorem dX5_buys_36 : decode cX5_buys 36 = .ok (.aload_n 0, 1) := dk_42 (dk_at dksX5_buys_2 0 rfl rfl)
theorem dX5_buys_37 : decode cX5_buys 37 = .ok (.bipush 11, 2) := dk_16 11 (dk_at dksX5_buys_2 1 rfl rfl)
theorem dX5_buys_39 : decode cX5_buys 39 = .ok (.invokevirtual 251, 3) := dk_182 0 251 (dk_at dksX5_buys_2 3 rfl rfl)
theorem dX5_buys_42 : decode cX5_buys 42 = .ok (.aload_n 0, 1) := dk_42 (dk_at dksX5_buys_2 6 rfl rfl)
theorem dX5_buys_43 : decode cX5_buys 43 = .ok (.aload_n 0, 1) := dk_42 (dk_at dksX5_buys_2 7 rfl rfl)
theorem dX5_buys_44 : decode cX5_buys 44 = .ok (.invokevirtual 260, 3) := dk_182 1 4 (dk_at dksX5_buys_2 8 rfl rfl)
theorem dX5_buys_47 : decode cX5_buys 47 = .ok (.iload_n 2, 1) := dk_28 (dk_at dksX5_buys_2 11 rfl rfl)
theorem dX5_buys_48 : decode cX5_buys 48 = .ok (.invokevirtual 257, 3) := dk_182 1 1 (dk_at dksX5_buys_2 12 rfl rfl)
theorem dX5_buys_51 : decode cX5_buys 51 = .ok (.iconst 2, 1) := dk_5 (dk_at dksX5_buys_2 15 rfl rfl)
theorem dX5_buys_52 : decode cX5_buys 52 = .ok (.imul, 1) := dk_104 (dk_at dksX5_buys_2 16 rfl rfl)
theorem dX5_buys_53 : decode cX5_buys 53 = .ok (.ireturn, 1) := dk_172 (dk_at dksX5_buys_2 17 rfl rfl)
theorem dX5_buys_54 : decode cX5_buys 54 = .ok (.aload_n 0, 1) := dk_42 (dk_at dksX5_buys_2 18 rfl rfl)
theorem dX5_buys_55 : decode cX5_buys 55 = .ok (.bipush 30, 2) := dk_16 30 (dk_at dksX5_buys_2 19 rfl rfl)
theorem dX5_buys_57 : decode cX5_buys 57 = .ok (.invokevirtual 251, 3) := dk_182 0 251 (dk_at dksX5_buys_2 21 rfl rfl)
theorem dX5_buys_60 : decode cX5_buys 60 = .ok (.iconst 0, 1) := dk_3 (dk_at dksX5_buys_3 0 rfl rfl)
theorem dX5_buys_61 : decode cX5_buys 61 = .ok (.aload_n 0, 1) := dk_42 (dk_at dksX5_buys_3 1 rfl rfl)
theorem dX5_buys_62 : decode cX5_buys 62 = .ok (.iconst 2, 1) := dk_5 (dk_at dksX5_buys_3 2 rfl rfl)
theorem dX5_buys_63 : decode cX5_buys 63 = .ok (.invokestatic 254, 3) := dk_184 0 254 (dk_at dksX5_buys_3 3 rfl rfl)
theorem dX5_buys_66 : decode cX5_buys 66 = .ok (.iload_n 2, 1) := dk_28 (dk_at dksX5_buys_3 6 rfl rfl)
theorem dX5_buys_67 : decode cX5_buys 67 = .ok (.invokevirtual 263, 3) := dk_182 1 7 (dk_at dksX5_buys_3 7 rfl rfl)
theorem dX5_buys_70 : decode cX5_buys 70 = .ok (.isub, 1) := dk_100 (dk_at dksX5_buys_3 10 rfl rfl)
theorem dX5_buys_71 : decode cX5_buys 71 = .ok (.ireturn, 1) := dk_172 (dk_at dksX5_buys_3 11 rfl rfl)
theorem dX5_buys_72 : decode cX5_buys 72 = .ok (.aload_n 0, 1) := dk_42 (dk_at dksX5_buys_3 12 rfl rfl)
theorem dX5_buys_73 : decode cX5_buys 73 = .ok (.bipush 71, 2) := dk_16 71 (dk_at dksX5_buys_3 13 rfl rfl)
theorem dX5_buys_75 : decode cX5_buys 75 = .ok (.invokevirtual 251, 3) := dk_182 0 251 (dk_at dksX5_buys_3 15 rfl rfl)
theorem dX5_buys_78 : decode cX5_buys 78 = .ok (.aload_n 0, 1) := dk_42 (dk_at dksX5_buys_3 18 rfl rfl)
theorem dX5_buys_79 : decode cX5_buys 79 = .ok (.iconst 5, 1) := dk_8 (dk_at dksX5_buys_3 19 rfl rfl)
theorem dX5_buys_80 : decode cX5_buys 80 = .ok (.invokestatic 254, 3) := dk_184 0 254 (dk_at dksX5_buys_3 20 rfl rfl)
theorem dX5_buys_83 : decode cX5_buys 83 = .ok (.iload_n 2, 1) := dk_28 (dk_at dksX5_buys_3 23 rfl rfl)
theorem dX5_buys_84 : decode cX5_buys 84 = .ok (.invokevirtual 263, 3) := dk_182 1 7 (dk_at dksX5_buys_4 0 rfl rfl)
theorem dX5_buys_87 : decode cX5_buys 87 = .ok (.aload_n 0, 1) := dk_42 (dk_at dksX5_buys_4 3 rfl rfl)
theorem dX5_buys_88 : decode cX5_buys 88 = .ok (.getfield 248, 3) := dk_180 0 248 (dk_at dksX5_buys_4 4 rfl rfl)
theorem dX5_buys_91 : decode cX5_buys 91 = .ok (.iadd, 1) := dk_96 (dk_at dksX5_buys_4 7 rfl rfl)
theorem dX5_buys_92 : decode cX5_buys 92 = .ok (.ireturn, 1) := dk_172 (dk_at dksX5_buys_4 8 rfl rfl)
theorem dX5_buys_93 : decode cX5_buys 93 = .ok (.aload_n 0, 1) := dk_42 (dk_at dksX5_buys_4 9 rfl rfl)
theorem dX5_buys_94 : decode cX5_buys 94 = .ok (.iload_n 1, 1) := dk_27 (dk_at dksX5_buys_4 10 rfl rfl)
theorem dX5_buys_95 : decode cX5_buys 95 = .ok (.invokestatic 254, 3) := dk_184 0 254 (dk_at dksX5_buys_4 11 rfl rfl)
theorem dX5_buys_98 : decode cX5_buys 98 = .ok (.iload_n 2, 1) := dk_28 (dk_at dksX5_buys_4 14 rfl rfl)
theorem dX5_buys_99 : decode cX5_buys 99 = .ok (.invokevirtual 263, 3) := dk_182 1 7 (dk_at dksX5_buys_4 15 rfl rfl)
theorem dX5_buys_102 : decode cX5_buys 102 = .ok (.ireturn, 1) := dk_172 (dk_at dksX5_buys_4 18 rfl rfl)
abbrev cX5_gives : ByteArray := prog_20_method_91_code
def yX5_gives : MethodName := ⟨RX5, "gives", "(II)I"⟩
def dkwX5_gives_4 : List UInt8 := [42, 7, 184, 0, 254, 28, 4, 96, 182, 1, 13, 172, 42, 27, 184, 0, 254, 28, 182, 1, 13, 172]
abbrev dktX5_gives_4 : List UInt8 := dkwX5_gives_4 ++ []
def dkwX5_gives_3 : List UInt8 := [182, 0, 251, 42, 6, 184, 0, 254, 28, 182, 1, 13, 42, 180, 0, 248, 130, 172, 42, 16, 50, 182, 0, 251]
abbrev dktX5_gives_3 : List UInt8 := dkwX5_gives_3 ++ dktX5_gives_4
def dkwX5_gives_2 : List UInt8 := [42, 16, 12, 182, 0, 251, 42, 42, 182, 1, 4, 28, 182, 1, 7, 42, 182, 1, 10, 100, 172, 42, 16, 41]
abbrev dktX5_gives_2 : List UInt8 := dkwX5_gives_2 ++ dktX5_gives_3
def dkwX5_gives_1 : List UInt8 := [170, 0, 0, 0, 0, 0, 95, 0, 0, 0, 0, 0, 0, 0, 4, 0, 0, 0, 35, 0, 0, 0, 95, 0, 0, 0, 95, 0, 0, 0, 56, 0, 0, 0, 77]
abbrev dktX5_gives_1 : List UInt8 := dkwX5_gives_1 ++ dktX5_gives_2
def dkwX5_gives_0 : List UInt8 := [27]
abbrev dktX5_gives_0 : List UInt8 := dkwX5_gives_0 ++ dktX5_gives_1
theorem dksX5_gives_0 : cX5_gives.data.toList.drop 0 = dktX5_gives_0 := by decide +kernel
theorem dksX5_gives_1 : cX5_gives.data.toList.drop 1 = dktX5_gives_1 := dk_seg dksX5_gives_0 1 rfl rfl
theorem dksX5_gives_2 : cX5_gives.data.toList.drop 36 = dktX5_gives_2 := dk_seg dksX5_gives_1 35 rfl rfl
theorem dksX5_gives_3 : cX5_gives.data.toList.drop 60 = dktX5_gives_3 := dk_seg dksX5_gives_2 24 rfl rfl
theorem dksX5_gives_4 : cX5_gives.data.toList.drop 84 = dktX5_gives_4 := dk_seg dksX5_gives_3 24 rfl rfl
theorem dX5_gives_0 : decode cX5_gives 0 = .ok (.iload_n 1, 1) := dk_27 (dk_at dksX5_gives_0 0 rfl rfl)
theorem dX5_gives_1 : decode cX5_gives 1 = .ok (.tableswitch 95 0 4 #[35, 95, 95, 56, 77], 35) := by decide +kernel
theorem dX5_gives_36 : decode cX5_gives 36 = .ok (.aload_n 0, 1) := dk_42 (dk_at dksX5_gives_2 0 rfl rfl)
theorem dX5_gives_37 : decode cX5_gives 37 = .ok (.bipush 12, 2) := dk_16 12 (dk_at dksX5_gives_2 1 rfl rfl)
theorem dX5_gives_39 : decode cX5_gives 39 = .ok (.invokevirtual 251, 3) := dk_182 0 251 (dk_at dksX5_gives_2 3 rfl rfl)
theorem dX5_gives_42 : decode cX5_gives 42 = .ok (.aload_n 0, 1) := dk_42 (dk_at dksX5_gives_2 6 rfl rfl)
theorem dX5_gives_43 : decode cX5_gives 43 = .ok (.aload_n 0, 1) := dk_42 (dk_at dksX5_gives_2 7 rfl rfl)
theorem dX5_gives_44 : decode cX5_gives 44 = .ok (.invokevirtual 260, 3) := dk_182 1 4 (dk_at dksX5_gives_2 8 rfl rfl)
theorem dX5_gives_47 : decode cX5_gives 47 = .ok (.iload_n 2, 1) := dk_28 (dk_at dksX5_gives_2 11 rfl rfl)
theorem dX5_gives_48 : decode cX5_gives 48 = .ok (.invokevirtual 263, 3) := dk_182 1 7 (dk_at dksX5_gives_2 12 rfl rfl)
theorem dX5_gives_51 : decode cX5_gives 51 = .ok (.aload_n 0, 1) := dk_42 (dk_at dksX5_gives_2 15 rfl rfl)
theorem dX5_gives_52 : decode cX5_gives 52 = .ok (.invokevirtual 266, 3) := dk_182 1 10 (dk_at dksX5_gives_2 16 rfl rfl)
theorem dX5_gives_55 : decode cX5_gives 55 = .ok (.isub, 1) := dk_100 (dk_at dksX5_gives_2 19 rfl rfl)
theorem dX5_gives_56 : decode cX5_gives 56 = .ok (.ireturn, 1) := dk_172 (dk_at dksX5_gives_2 20 rfl rfl)
theorem dX5_gives_57 : decode cX5_gives 57 = .ok (.aload_n 0, 1) := dk_42 (dk_at dksX5_gives_2 21 rfl rfl)
theorem dX5_gives_58 : decode cX5_gives 58 = .ok (.bipush 41, 2) := dk_16 41 (dk_at dksX5_gives_2 22 rfl rfl)
theorem dX5_gives_60 : decode cX5_gives 60 = .ok (.invokevirtual 251, 3) := dk_182 0 251 (dk_at dksX5_gives_3 0 rfl rfl)
theorem dX5_gives_63 : decode cX5_gives 63 = .ok (.aload_n 0, 1) := dk_42 (dk_at dksX5_gives_3 3 rfl rfl)
theorem dX5_gives_64 : decode cX5_gives 64 = .ok (.iconst 3, 1) := dk_6 (dk_at dksX5_gives_3 4 rfl rfl)
theorem dX5_gives_65 : decode cX5_gives 65 = .ok (.invokestatic 254, 3) := dk_184 0 254 (dk_at dksX5_gives_3 5 rfl rfl)
theorem dX5_gives_68 : decode cX5_gives 68 = .ok (.iload_n 2, 1) := dk_28 (dk_at dksX5_gives_3 8 rfl rfl)
theorem dX5_gives_69 : decode cX5_gives 69 = .ok (.invokevirtual 269, 3) := dk_182 1 13 (dk_at dksX5_gives_3 9 rfl rfl)
theorem dX5_gives_72 : decode cX5_gives 72 = .ok (.aload_n 0, 1) := dk_42 (dk_at dksX5_gives_3 12 rfl rfl)
theorem dX5_gives_73 : decode cX5_gives 73 = .ok (.getfield 248, 3) := dk_180 0 248 (dk_at dksX5_gives_3 13 rfl rfl)
theorem dX5_gives_76 : decode cX5_gives 76 = .ok (.ixor, 1) := dk_130 (dk_at dksX5_gives_3 16 rfl rfl)
theorem dX5_gives_77 : decode cX5_gives 77 = .ok (.ireturn, 1) := dk_172 (dk_at dksX5_gives_3 17 rfl rfl)
theorem dX5_gives_78 : decode cX5_gives 78 = .ok (.aload_n 0, 1) := dk_42 (dk_at dksX5_gives_3 18 rfl rfl)
theorem dX5_gives_79 : decode cX5_gives 79 = .ok (.bipush 50, 2) := dk_16 50 (dk_at dksX5_gives_3 19 rfl rfl)
theorem dX5_gives_81 : decode cX5_gives 81 = .ok (.invokevirtual 251, 3) := dk_182 0 251 (dk_at dksX5_gives_3 21 rfl rfl)
theorem dX5_gives_84 : decode cX5_gives 84 = .ok (.aload_n 0, 1) := dk_42 (dk_at dksX5_gives_4 0 rfl rfl)
theorem dX5_gives_85 : decode cX5_gives 85 = .ok (.iconst 4, 1) := dk_7 (dk_at dksX5_gives_4 1 rfl rfl)
theorem dX5_gives_86 : decode cX5_gives 86 = .ok (.invokestatic 254, 3) := dk_184 0 254 (dk_at dksX5_gives_4 2 rfl rfl)
theorem dX5_gives_89 : decode cX5_gives 89 = .ok (.iload_n 2, 1) := dk_28 (dk_at dksX5_gives_4 5 rfl rfl)
theorem dX5_gives_90 : decode cX5_gives 90 = .ok (.iconst 1, 1) := dk_4 (dk_at dksX5_gives_4 6 rfl rfl)
theorem dX5_gives_91 : decode cX5_gives 91 = .ok (.iadd, 1) := dk_96 (dk_at dksX5_gives_4 7 rfl rfl)
theorem dX5_gives_92 : decode cX5_gives 92 = .ok (.invokevirtual 269, 3) := dk_182 1 13 (dk_at dksX5_gives_4 8 rfl rfl)
theorem dX5_gives_95 : decode cX5_gives 95 = .ok (.ireturn, 1) := dk_172 (dk_at dksX5_gives_4 11 rfl rfl)
theorem dX5_gives_96 : decode cX5_gives 96 = .ok (.aload_n 0, 1) := dk_42 (dk_at dksX5_gives_4 12 rfl rfl)
theorem dX5_gives_97 : decode cX5_gives 97 = .ok (.iload_n 1, 1) := dk_27 (dk_at dksX5_gives_4 13 rfl rfl)
theorem dX5_gives_98 : decode cX5_gives 98 = .ok (.invokestatic 254, 3) := dk_184 0 254 (dk_at dksX5_gives_4 14 rfl rfl)
theorem dX5_gives_101 : decode cX5_gives 101 = .ok (.iload_n 2, 1) := dk_28 (dk_at dksX5_gives_4 17 rfl rfl)
theorem dX5_gives_102 : decode cX5_gives 102 = .ok (.invokevirtual 269, 3) := dk_182 1 13 (dk_at dksX5_gives_4 18 rfl rfl)
theorem dX5_gives_105 : decode cX5_gives 105 = .ok (.ireturn, 1) := dk_172 (dk_at dksX5_gives_4 21 rfl rfl)
abbrev cX5_partNow : ByteArray := prog_20_method_88_code
def yX5_partNow : MethodName := ⟨RX5, "partNow", "()I"⟩
def dkwX5_partNow_0 : List UInt8 := [42, 42, 180, 0, 248, 5, 182, 0, 79, 172]
abbrev dktX5_partNow_0 : List UInt8 := dkwX5_partNow_0 ++ []
theorem dksX5_partNow_0 : cX5_partNow.data.toList.drop 0 = dktX5_partNow_0 := by decide +kernel
theorem dX5_partNow_0 : decode cX5_partNow 0 = .ok (.aload_n 0, 1) := dk_42 (dk_at dksX5_partNow_0 0 rfl rfl)
theorem dX5_partNow_1 : decode cX5_partNow 1 = .ok (.aload_n 0, 1) := dk_42 (dk_at dksX5_partNow_0 1 rfl rfl)
theorem dX5_partNow_2 : decode cX5_partNow 2 = .ok (.getfield 248, 3) := dk_180 0 248 (dk_at dksX5_partNow_0 2 rfl rfl)
theorem dX5_partNow_5 : decode cX5_partNow 5 = .ok (.iconst 2, 1) := dk_5 (dk_at dksX5_partNow_0 5 rfl rfl)
theorem dX5_partNow_6 : decode cX5_partNow 6 = .ok (.invokevirtual 79, 3) := dk_182 0 79 (dk_at dksX5_partNow_0 6 rfl rfl)
theorem dX5_partNow_9 : decode cX5_partNow 9 = .ok (.ireturn, 1) := dk_172 (dk_at dksX5_partNow_0 9 rfl rfl)
abbrev cX5_minds : ByteArray := prog_20_method_92_code
def yX5_minds : MethodName := ⟨RX5, "minds", "(II)I"⟩
def dkwX5_minds_8 : List UInt8 := [172]
abbrev dktX5_minds_8 : List UInt8 := dkwX5_minds_8 ++ []
def dkwX5_minds_7 : List UInt8 := [167, 0, 14, 29, 42, 42, 182, 1, 4, 3, 182, 1, 13, 100, 172, 42, 27, 184, 0, 254, 28, 182, 1, 20]
abbrev dktX5_minds_7 : List UInt8 := dkwX5_minds_7 ++ dktX5_minds_8
def dkwX5_minds_6 : List UInt8 := [16, 61, 182, 0, 251, 42, 16, 6, 184, 0, 254, 28, 182, 1, 20, 62, 42, 180, 1, 16, 153, 0, 7, 3]
abbrev dktX5_minds_6 : List UInt8 := dkwX5_minds_6 ++ dktX5_minds_7
def dkwX5_minds_5 : List UInt8 := [42, 180, 1, 16, 153, 0, 7, 3, 167, 0, 14, 29, 42, 42, 182, 1, 4, 4, 182, 1, 7, 96, 172, 42]
abbrev dktX5_minds_5 : List UInt8 := dkwX5_minds_5 ++ dktX5_minds_6
def dkwX5_minds_4 : List UInt8 := [167, 0, 7, 28, 21, 4, 108, 172, 42, 16, 21, 182, 0, 251, 42, 4, 184, 0, 254, 28, 182, 1, 20, 62]
abbrev dktX5_minds_4 : List UInt8 := dkwX5_minds_4 ++ dktX5_minds_5
def dkwX5_minds_3 : List UInt8 := [167, 0, 4, 3, 181, 1, 16, 21, 4, 154, 0, 7, 3, 167, 0, 18, 21, 4, 2, 160, 0, 8, 28, 116]
abbrev dktX5_minds_3 : List UInt8 := dkwX5_minds_3 ++ dktX5_minds_4
def dkwX5_minds_2 : List UInt8 := [42, 16, 13, 182, 0, 251, 42, 182, 1, 10, 42, 180, 0, 248, 100, 54, 4, 42, 21, 4, 154, 0, 7, 4]
abbrev dktX5_minds_2 : List UInt8 := dkwX5_minds_2 ++ dktX5_minds_3
def dkwX5_minds_1 : List UInt8 := [171, 0, 0, 0, 168, 0, 0, 0, 3, 0, 0, 0, 0, 0, 0, 0, 33, 0, 0, 0, 1, 0, 0, 0, 89, 0, 0, 0, 6, 0, 0, 0, 128]
abbrev dktX5_minds_1 : List UInt8 := dkwX5_minds_1 ++ dktX5_minds_2
def dkwX5_minds_0 : List UInt8 := [3, 62, 27]
abbrev dktX5_minds_0 : List UInt8 := dkwX5_minds_0 ++ dktX5_minds_1
theorem dksX5_minds_0 : cX5_minds.data.toList.drop 0 = dktX5_minds_0 := by decide +kernel
theorem dksX5_minds_1 : cX5_minds.data.toList.drop 3 = dktX5_minds_1 := dk_seg dksX5_minds_0 3 rfl rfl
theorem dksX5_minds_2 : cX5_minds.data.toList.drop 36 = dktX5_minds_2 := dk_seg dksX5_minds_1 33 rfl rfl
theorem dksX5_minds_3 : cX5_minds.data.toList.drop 60 = dktX5_minds_3 := dk_seg dksX5_minds_2 24 rfl rfl
theorem dksX5_minds_4 : cX5_minds.data.toList.drop 84 = dktX5_minds_4 := dk_seg dksX5_minds_3 24 rfl rfl
theorem dksX5_minds_5 : cX5_minds.data.toList.drop 108 = dktX5_minds_5 := dk_seg dksX5_minds_4 24 rfl rfl
theorem dksX5_minds_6 : cX5_minds.data.toList.drop 132 = dktX5_minds_6 := dk_seg dksX5_minds_5 24 rfl rfl
theorem dksX5_minds_7 : cX5_minds.data.toList.drop 156 = dktX5_minds_7 := dk_seg dksX5_minds_6 24 rfl rfl
theorem dksX5_minds_8 : cX5_minds.data.toList.drop 180 = dktX5_minds_8 := dk_seg dksX5_minds_7 24 rfl rfl
theorem dX5_minds_0 : decode cX5_minds 0 = .ok (.iconst 0, 1) := dk_3 (dk_at dksX5_minds_0 0 rfl rfl)
theorem dX5_minds_1 : decode cX5_minds 1 = .ok (.istore_n 3, 1) := dk_62 (dk_at dksX5_minds_0 1 rfl rfl)
theorem dX5_minds_2 : decode cX5_minds 2 = .ok (.iload_n 1, 1) := dk_27 (dk_at dksX5_minds_0 2 rfl rfl)
theorem dX5_minds_3 : decode cX5_minds 3 = .ok (.lookupswitch 168 #[(0, 33), (1, 89), (6, 128)], 33) := by decide +kernel
theorem dX5_minds_36 : decode cX5_minds 36 = .ok (.aload_n 0, 1) := dk_42 (dk_at dksX5_minds_2 0 rfl rfl)
theorem dX5_minds_37 : decode cX5_minds 37 = .ok (.bipush 13, 2) := dk_16 13 (dk_at dksX5_minds_2 1 rfl rfl)
theorem dX5_minds_39 : decode cX5_minds 39 = .ok (.invokevirtual 251, 3) := dk_182 0 251 (dk_at dksX5_minds_2 3 rfl rfl)
theorem dX5_minds_42 : decode cX5_minds 42 = .ok (.aload_n 0, 1) := dk_42 (dk_at dksX5_minds_2 6 rfl rfl)
theorem dX5_minds_43 : decode cX5_minds 43 = .ok (.invokevirtual 266, 3) := dk_182 1 10 (dk_at dksX5_minds_2 7 rfl rfl)
theorem dX5_minds_46 : decode cX5_minds 46 = .ok (.aload_n 0, 1) := dk_42 (dk_at dksX5_minds_2 10 rfl rfl)
theorem dX5_minds_47 : decode cX5_minds 47 = .ok (.getfield 248, 3) := dk_180 0 248 (dk_at dksX5_minds_2 11 rfl rfl)
theorem dX5_minds_50 : decode cX5_minds 50 = .ok (.isub, 1) := dk_100 (dk_at dksX5_minds_2 14 rfl rfl)
theorem dX5_minds_51 : decode cX5_minds 51 = .ok (.istore 4, 2) := dk_54 4 (dk_at dksX5_minds_2 15 rfl rfl)
theorem dX5_minds_53 : decode cX5_minds 53 = .ok (.aload_n 0, 1) := dk_42 (dk_at dksX5_minds_2 17 rfl rfl)
theorem dX5_minds_54 : decode cX5_minds 54 = .ok (.iload 4, 2) := dk_21 4 (dk_at dksX5_minds_2 18 rfl rfl)
theorem dX5_minds_56 : decode cX5_minds 56 = .ok (.ifCond .ne 7, 3) := dk_154 0 7 (dk_at dksX5_minds_2 20 rfl rfl)
theorem dX5_minds_59 : decode cX5_minds 59 = .ok (.iconst 1, 1) := dk_4 (dk_at dksX5_minds_2 23 rfl rfl)
theorem dX5_minds_60 : decode cX5_minds 60 = .ok (.goto 4, 3) := dk_167 0 4 (dk_at dksX5_minds_3 0 rfl rfl)
theorem dX5_minds_63 : decode cX5_minds 63 = .ok (.iconst 0, 1) := dk_3 (dk_at dksX5_minds_3 3 rfl rfl)
theorem dX5_minds_64 : decode cX5_minds 64 = .ok (.putfield 272, 3) := dk_181 1 16 (dk_at dksX5_minds_3 4 rfl rfl)
theorem dX5_minds_67 : decode cX5_minds 67 = .ok (.iload 4, 2) := dk_21 4 (dk_at dksX5_minds_3 7 rfl rfl)
theorem dX5_minds_69 : decode cX5_minds 69 = .ok (.ifCond .ne 7, 3) := dk_154 0 7 (dk_at dksX5_minds_3 9 rfl rfl)
theorem dX5_minds_72 : decode cX5_minds 72 = .ok (.iconst 0, 1) := dk_3 (dk_at dksX5_minds_3 12 rfl rfl)
theorem dX5_minds_73 : decode cX5_minds 73 = .ok (.goto 18, 3) := dk_167 0 18 (dk_at dksX5_minds_3 13 rfl rfl)
theorem dX5_minds_76 : decode cX5_minds 76 = .ok (.iload 4, 2) := dk_21 4 (dk_at dksX5_minds_3 16 rfl rfl)
theorem dX5_minds_78 : decode cX5_minds 78 = .ok (.iconst (-1), 1) := dk_2 (dk_at dksX5_minds_3 18 rfl rfl)
theorem dX5_minds_79 : decode cX5_minds 79 = .ok (.if_icmp .ne 8, 3) := dk_160 0 8 (dk_at dksX5_minds_3 19 rfl rfl)
theorem dX5_minds_82 : decode cX5_minds 82 = .ok (.iload_n 2, 1) := dk_28 (dk_at dksX5_minds_3 22 rfl rfl)
theorem dX5_minds_83 : decode cX5_minds 83 = .ok (.ineg, 1) := dk_116 (dk_at dksX5_minds_3 23 rfl rfl)
theorem dX5_minds_84 : decode cX5_minds 84 = .ok (.goto 7, 3) := dk_167 0 7 (dk_at dksX5_minds_4 0 rfl rfl)
theorem dX5_minds_87 : decode cX5_minds 87 = .ok (.iload_n 2, 1) := dk_28 (dk_at dksX5_minds_4 3 rfl rfl)
theorem dX5_minds_88 : decode cX5_minds 88 = .ok (.iload 4, 2) := dk_21 4 (dk_at dksX5_minds_4 4 rfl rfl)
theorem dX5_minds_90 : decode cX5_minds 90 = .ok (.idiv, 1) := dk_108 (dk_at dksX5_minds_4 6 rfl rfl)
theorem dX5_minds_91 : decode cX5_minds 91 = .ok (.ireturn, 1) := dk_172 (dk_at dksX5_minds_4 7 rfl rfl)
theorem dX5_minds_92 : decode cX5_minds 92 = .ok (.aload_n 0, 1) := dk_42 (dk_at dksX5_minds_4 8 rfl rfl)
theorem dX5_minds_93 : decode cX5_minds 93 = .ok (.bipush 21, 2) := dk_16 21 (dk_at dksX5_minds_4 9 rfl rfl)
theorem dX5_minds_95 : decode cX5_minds 95 = .ok (.invokevirtual 251, 3) := dk_182 0 251 (dk_at dksX5_minds_4 11 rfl rfl)
theorem dX5_minds_98 : decode cX5_minds 98 = .ok (.aload_n 0, 1) := dk_42 (dk_at dksX5_minds_4 14 rfl rfl)
theorem dX5_minds_99 : decode cX5_minds 99 = .ok (.iconst 1, 1) := dk_4 (dk_at dksX5_minds_4 15 rfl rfl)
theorem dX5_minds_100 : decode cX5_minds 100 = .ok (.invokestatic 254, 3) := dk_184 0 254 (dk_at dksX5_minds_4 16 rfl rfl)
theorem dX5_minds_103 : decode cX5_minds 103 = .ok (.iload_n 2, 1) := dk_28 (dk_at dksX5_minds_4 19 rfl rfl)
theorem dX5_minds_104 : decode cX5_minds 104 = .ok (.invokevirtual 276, 3) := dk_182 1 20 (dk_at dksX5_minds_4 20 rfl rfl)
theorem dX5_minds_107 : decode cX5_minds 107 = .ok (.istore_n 3, 1) := dk_62 (dk_at dksX5_minds_4 23 rfl rfl)
theorem dX5_minds_108 : decode cX5_minds 108 = .ok (.aload_n 0, 1) := dk_42 (dk_at dksX5_minds_5 0 rfl rfl)
theorem dX5_minds_109 : decode cX5_minds 109 = .ok (.getfield 272, 3) := dk_180 1 16 (dk_at dksX5_minds_5 1 rfl rfl)
theorem dX5_minds_112 : decode cX5_minds 112 = .ok (.ifCond .eq 7, 3) := dk_153 0 7 (dk_at dksX5_minds_5 4 rfl rfl)
theorem dX5_minds_115 : decode cX5_minds 115 = .ok (.iconst 0, 1) := dk_3 (dk_at dksX5_minds_5 7 rfl rfl)
theorem dX5_minds_116 : decode cX5_minds 116 = .ok (.goto 14, 3) := dk_167 0 14 (dk_at dksX5_minds_5 8 rfl rfl)
theorem dX5_minds_119 : decode cX5_minds 119 = .ok (.iload_n 3, 1) := dk_29 (dk_at dksX5_minds_5 11 rfl rfl)
theorem dX5_minds_120 : decode cX5_minds 120 = .ok (.aload_n 0, 1) := dk_42 (dk_at dksX5_minds_5 12 rfl rfl)
theorem dX5_minds_121 : decode cX5_minds 121 = .ok (.aload_n 0, 1) := dk_42 (dk_at dksX5_minds_5 13 rfl rfl)
theorem dX5_minds_122 : decode cX5_minds 122 = .ok (.invokevirtual 260, 3) := dk_182 1 4 (dk_at dksX5_minds_5 14 rfl rfl)
theorem dX5_minds_125 : decode cX5_minds 125 = .ok (.iconst 1, 1) := dk_4 (dk_at dksX5_minds_5 17 rfl rfl)
theorem dX5_minds_126 : decode cX5_minds 126 = .ok (.invokevirtual 263, 3) := dk_182 1 7 (dk_at dksX5_minds_5 18 rfl rfl)
theorem dX5_minds_129 : decode cX5_minds 129 = .ok (.iadd, 1) := dk_96 (dk_at dksX5_minds_5 21 rfl rfl)
theorem dX5_minds_130 : decode cX5_minds 130 = .ok (.ireturn, 1) := dk_172 (dk_at dksX5_minds_5 22 rfl rfl)
theorem dX5_minds_131 : decode cX5_minds 131 = .ok (.aload_n 0, 1) := dk_42 (dk_at dksX5_minds_5 23 rfl rfl)
theorem dX5_minds_132 : decode cX5_minds 132 = .ok (.bipush 61, 2) := dk_16 61 (dk_at dksX5_minds_6 0 rfl rfl)
theorem dX5_minds_134 : decode cX5_minds 134 = .ok (.invokevirtual 251, 3) := dk_182 0 251 (dk_at dksX5_minds_6 2 rfl rfl)
theorem dX5_minds_137 : decode cX5_minds 137 = .ok (.aload_n 0, 1) := dk_42 (dk_at dksX5_minds_6 5 rfl rfl)
theorem dX5_minds_138 : decode cX5_minds 138 = .ok (.bipush 6, 2) := dk_16 6 (dk_at dksX5_minds_6 6 rfl rfl)
theorem dX5_minds_140 : decode cX5_minds 140 = .ok (.invokestatic 254, 3) := dk_184 0 254 (dk_at dksX5_minds_6 8 rfl rfl)
theorem dX5_minds_143 : decode cX5_minds 143 = .ok (.iload_n 2, 1) := dk_28 (dk_at dksX5_minds_6 11 rfl rfl)
theorem dX5_minds_144 : decode cX5_minds 144 = .ok (.invokevirtual 276, 3) := dk_182 1 20 (dk_at dksX5_minds_6 12 rfl rfl)
theorem dX5_minds_147 : decode cX5_minds 147 = .ok (.istore_n 3, 1) := dk_62 (dk_at dksX5_minds_6 15 rfl rfl)
theorem dX5_minds_148 : decode cX5_minds 148 = .ok (.aload_n 0, 1) := dk_42 (dk_at dksX5_minds_6 16 rfl rfl)
theorem dX5_minds_149 : decode cX5_minds 149 = .ok (.getfield 272, 3) := dk_180 1 16 (dk_at dksX5_minds_6 17 rfl rfl)
theorem dX5_minds_152 : decode cX5_minds 152 = .ok (.ifCond .eq 7, 3) := dk_153 0 7 (dk_at dksX5_minds_6 20 rfl rfl)
theorem dX5_minds_155 : decode cX5_minds 155 = .ok (.iconst 0, 1) := dk_3 (dk_at dksX5_minds_6 23 rfl rfl)
theorem dX5_minds_156 : decode cX5_minds 156 = .ok (.goto 14, 3) := dk_167 0 14 (dk_at dksX5_minds_7 0 rfl rfl)
theorem dX5_minds_159 : decode cX5_minds 159 = .ok (.iload_n 3, 1) := dk_29 (dk_at dksX5_minds_7 3 rfl rfl)
theorem dX5_minds_160 : decode cX5_minds 160 = .ok (.aload_n 0, 1) := dk_42 (dk_at dksX5_minds_7 4 rfl rfl)
theorem dX5_minds_161 : decode cX5_minds 161 = .ok (.aload_n 0, 1) := dk_42 (dk_at dksX5_minds_7 5 rfl rfl)
theorem dX5_minds_162 : decode cX5_minds 162 = .ok (.invokevirtual 260, 3) := dk_182 1 4 (dk_at dksX5_minds_7 6 rfl rfl)
theorem dX5_minds_165 : decode cX5_minds 165 = .ok (.iconst 0, 1) := dk_3 (dk_at dksX5_minds_7 9 rfl rfl)
theorem dX5_minds_166 : decode cX5_minds 166 = .ok (.invokevirtual 269, 3) := dk_182 1 13 (dk_at dksX5_minds_7 10 rfl rfl)
theorem dX5_minds_169 : decode cX5_minds 169 = .ok (.isub, 1) := dk_100 (dk_at dksX5_minds_7 13 rfl rfl)
theorem dX5_minds_170 : decode cX5_minds 170 = .ok (.ireturn, 1) := dk_172 (dk_at dksX5_minds_7 14 rfl rfl)
theorem dX5_minds_171 : decode cX5_minds 171 = .ok (.aload_n 0, 1) := dk_42 (dk_at dksX5_minds_7 15 rfl rfl)
theorem dX5_minds_172 : decode cX5_minds 172 = .ok (.iload_n 1, 1) := dk_27 (dk_at dksX5_minds_7 16 rfl rfl)
theorem dX5_minds_173 : decode cX5_minds 173 = .ok (.invokestatic 254, 3) := dk_184 0 254 (dk_at dksX5_minds_7 17 rfl rfl)
theorem dX5_minds_176 : decode cX5_minds 176 = .ok (.iload_n 2, 1) := dk_28 (dk_at dksX5_minds_7 20 rfl rfl)
theorem dX5_minds_177 : decode cX5_minds 177 = .ok (.invokevirtual 276, 3) := dk_182 1 20 (dk_at dksX5_minds_7 21 rfl rfl)
theorem dX5_minds_180 : decode cX5_minds 180 = .ok (.ireturn, 1) := dk_172 (dk_at dksX5_minds_8 0 rfl rfl)
abbrev cX5_body : ByteArray := prog_20_method_94_code
def yX5_body : MethodName := ⟨RX5, "body", "(I)I"⟩
def dkwX5_body_1 : List UInt8 := [5, 182, 0, 60, 172]
abbrev dktX5_body_1 : List UInt8 := dkwX5_body_1 ++ []
def dkwX5_body_0 : List UInt8 := [27, 3, 42, 180, 0, 245, 4, 100, 184, 0, 47, 153, 0, 12, 42, 180, 0, 31, 27, 46, 167, 0, 8, 42]
abbrev dktX5_body_0 : List UInt8 := dkwX5_body_0 ++ dktX5_body_1
theorem dksX5_body_0 : cX5_body.data.toList.drop 0 = dktX5_body_0 := by decide +kernel
theorem dksX5_body_1 : cX5_body.data.toList.drop 24 = dktX5_body_1 := dk_seg dksX5_body_0 24 rfl rfl
theorem dX5_body_0 : decode cX5_body 0 = .ok (.iload_n 1, 1) := dk_27 (dk_at dksX5_body_0 0 rfl rfl)
theorem dX5_body_1 : decode cX5_body 1 = .ok (.iconst 0, 1) := dk_3 (dk_at dksX5_body_0 1 rfl rfl)
theorem dX5_body_2 : decode cX5_body 2 = .ok (.aload_n 0, 1) := dk_42 (dk_at dksX5_body_0 2 rfl rfl)
theorem dX5_body_3 : decode cX5_body 3 = .ok (.getfield 245, 3) := dk_180 0 245 (dk_at dksX5_body_0 3 rfl rfl)
theorem dX5_body_6 : decode cX5_body 6 = .ok (.iconst 1, 1) := dk_4 (dk_at dksX5_body_0 6 rfl rfl)
theorem dX5_body_7 : decode cX5_body 7 = .ok (.isub, 1) := dk_100 (dk_at dksX5_body_0 7 rfl rfl)
theorem dX5_body_8 : decode cX5_body 8 = .ok (.invokestatic 47, 3) := dk_184 0 47 (dk_at dksX5_body_0 8 rfl rfl)
theorem dX5_body_11 : decode cX5_body 11 = .ok (.ifCond .eq 12, 3) := dk_153 0 12 (dk_at dksX5_body_0 11 rfl rfl)
theorem dX5_body_14 : decode cX5_body 14 = .ok (.aload_n 0, 1) := dk_42 (dk_at dksX5_body_0 14 rfl rfl)
theorem dX5_body_15 : decode cX5_body 15 = .ok (.getfield 31, 3) := dk_180 0 31 (dk_at dksX5_body_0 15 rfl rfl)
theorem dX5_body_18 : decode cX5_body 18 = .ok (.iload_n 1, 1) := dk_27 (dk_at dksX5_body_0 18 rfl rfl)
theorem dX5_body_19 : decode cX5_body 19 = .ok (.iaload, 1) := dk_46 (dk_at dksX5_body_0 19 rfl rfl)
theorem dX5_body_20 : decode cX5_body 20 = .ok (.goto 8, 3) := dk_167 0 8 (dk_at dksX5_body_0 20 rfl rfl)
theorem dX5_body_23 : decode cX5_body 23 = .ok (.aload_n 0, 1) := dk_42 (dk_at dksX5_body_0 23 rfl rfl)
theorem dX5_body_24 : decode cX5_body 24 = .ok (.iconst 2, 1) := dk_5 (dk_at dksX5_body_1 0 rfl rfl)
theorem dX5_body_25 : decode cX5_body 25 = .ok (.invokevirtual 60, 3) := dk_182 0 60 (dk_at dksX5_body_1 1 rfl rfl)
theorem dX5_body_28 : decode cX5_body 28 = .ok (.ireturn, 1) := dk_172 (dk_at dksX5_body_1 4 rfl rfl)
abbrev cX5_sheet : ByteArray := prog_20_method_96_code
def yX5_sheet : MethodName := ⟨RX5, "sheet", "(III)I"⟩
def dkwX5_sheet_4 : List UInt8 := [162, 0, 22, 42, 180, 0, 40, 16, 24, 27, 104, 21, 4, 96, 3, 79, 132, 4, 1, 167, 255, 233, 4, 172]
abbrev dktX5_sheet_4 : List UInt8 := dkwX5_sheet_4 ++ []
def dkwX5_sheet_3 : List UInt8 := [42, 180, 0, 37, 27, 28, 154, 0, 7, 3, 167, 0, 4, 29, 79, 3, 54, 4, 21, 4, 16, 24]
abbrev dktX5_sheet_3 : List UInt8 := dkwX5_sheet_3 ++ dktX5_sheet_4
def dkwX5_sheet_2 : List UInt8 := [172, 28, 153, 0, 15, 29, 16, 24, 164, 0, 9, 42, 4, 182, 0, 60, 172, 42, 180, 0, 34, 27, 28, 79]
abbrev dktX5_sheet_2 : List UInt8 := dkwX5_sheet_2 ++ dktX5_sheet_3
def dkwX5_sheet_1 : List UInt8 := [16, 32, 159, 0, 9, 42, 4, 182, 0, 60, 172, 28, 153, 0, 13, 29, 156, 0, 9, 42, 6, 182, 0, 60]
abbrev dktX5_sheet_1 : List UInt8 := dkwX5_sheet_1 ++ dktX5_sheet_2
def dkwX5_sheet_0 : List UInt8 := [27, 184, 1, 23, 153, 0, 25, 28, 153, 0, 27, 28, 16, 8, 159, 0, 21, 28, 16, 16, 159, 0, 15, 28]
abbrev dktX5_sheet_0 : List UInt8 := dkwX5_sheet_0 ++ dktX5_sheet_1
theorem dksX5_sheet_0 : cX5_sheet.data.toList.drop 0 = dktX5_sheet_0 := by decide +kernel
theorem dksX5_sheet_1 : cX5_sheet.data.toList.drop 24 = dktX5_sheet_1 := dk_seg dksX5_sheet_0 24 rfl rfl
theorem dksX5_sheet_2 : cX5_sheet.data.toList.drop 48 = dktX5_sheet_2 := dk_seg dksX5_sheet_1 24 rfl rfl
theorem dksX5_sheet_3 : cX5_sheet.data.toList.drop 72 = dktX5_sheet_3 := dk_seg dksX5_sheet_2 24 rfl rfl
theorem dksX5_sheet_4 : cX5_sheet.data.toList.drop 94 = dktX5_sheet_4 := dk_seg dksX5_sheet_3 22 rfl rfl
theorem dX5_sheet_0 : decode cX5_sheet 0 = .ok (.iload_n 1, 1) := dk_27 (dk_at dksX5_sheet_0 0 rfl rfl)
theorem dX5_sheet_1 : decode cX5_sheet 1 = .ok (.invokestatic 279, 3) := dk_184 1 23 (dk_at dksX5_sheet_0 1 rfl rfl)
theorem dX5_sheet_4 : decode cX5_sheet 4 = .ok (.ifCond .eq 25, 3) := dk_153 0 25 (dk_at dksX5_sheet_0 4 rfl rfl)
theorem dX5_sheet_7 : decode cX5_sheet 7 = .ok (.iload_n 2, 1) := dk_28 (dk_at dksX5_sheet_0 7 rfl rfl)
theorem dX5_sheet_8 : decode cX5_sheet 8 = .ok (.ifCond .eq 27, 3) := dk_153 0 27 (dk_at dksX5_sheet_0 8 rfl rfl)
theorem dX5_sheet_11 : decode cX5_sheet 11 = .ok (.iload_n 2, 1) := dk_28 (dk_at dksX5_sheet_0 11 rfl rfl)
theorem dX5_sheet_12 : decode cX5_sheet 12 = .ok (.bipush 8, 2) := dk_16 8 (dk_at dksX5_sheet_0 12 rfl rfl)
theorem dX5_sheet_14 : decode cX5_sheet 14 = .ok (.if_icmp .eq 21, 3) := dk_159 0 21 (dk_at dksX5_sheet_0 14 rfl rfl)
theorem dX5_sheet_17 : decode cX5_sheet 17 = .ok (.iload_n 2, 1) := dk_28 (dk_at dksX5_sheet_0 17 rfl rfl)
theorem dX5_sheet_18 : decode cX5_sheet 18 = .ok (.bipush 16, 2) := dk_16 16 (dk_at dksX5_sheet_0 18 rfl rfl)
theorem dX5_sheet_20 : decode cX5_sheet 20 = .ok (.if_icmp .eq 15, 3) := dk_159 0 15 (dk_at dksX5_sheet_0 20 rfl rfl)
theorem dX5_sheet_23 : decode cX5_sheet 23 = .ok (.iload_n 2, 1) := dk_28 (dk_at dksX5_sheet_0 23 rfl rfl)
theorem dX5_sheet_24 : decode cX5_sheet 24 = .ok (.bipush 32, 2) := dk_16 32 (dk_at dksX5_sheet_1 0 rfl rfl)
theorem dX5_sheet_26 : decode cX5_sheet 26 = .ok (.if_icmp .eq 9, 3) := dk_159 0 9 (dk_at dksX5_sheet_1 2 rfl rfl)
theorem dX5_sheet_29 : decode cX5_sheet 29 = .ok (.aload_n 0, 1) := dk_42 (dk_at dksX5_sheet_1 5 rfl rfl)
theorem dX5_sheet_30 : decode cX5_sheet 30 = .ok (.iconst 1, 1) := dk_4 (dk_at dksX5_sheet_1 6 rfl rfl)
theorem dX5_sheet_31 : decode cX5_sheet 31 = .ok (.invokevirtual 60, 3) := dk_182 0 60 (dk_at dksX5_sheet_1 7 rfl rfl)
theorem dX5_sheet_34 : decode cX5_sheet 34 = .ok (.ireturn, 1) := dk_172 (dk_at dksX5_sheet_1 10 rfl rfl)
theorem dX5_sheet_35 : decode cX5_sheet 35 = .ok (.iload_n 2, 1) := dk_28 (dk_at dksX5_sheet_1 11 rfl rfl)
theorem dX5_sheet_36 : decode cX5_sheet 36 = .ok (.ifCond .eq 13, 3) := dk_153 0 13 (dk_at dksX5_sheet_1 12 rfl rfl)
theorem dX5_sheet_39 : decode cX5_sheet 39 = .ok (.iload_n 3, 1) := dk_29 (dk_at dksX5_sheet_1 15 rfl rfl)
theorem dX5_sheet_40 : decode cX5_sheet 40 = .ok (.ifCond .ge 9, 3) := dk_156 0 9 (dk_at dksX5_sheet_1 16 rfl rfl)
theorem dX5_sheet_43 : decode cX5_sheet 43 = .ok (.aload_n 0, 1) := dk_42 (dk_at dksX5_sheet_1 19 rfl rfl)
theorem dX5_sheet_44 : decode cX5_sheet 44 = .ok (.iconst 3, 1) := dk_6 (dk_at dksX5_sheet_1 20 rfl rfl)
theorem dX5_sheet_45 : decode cX5_sheet 45 = .ok (.invokevirtual 60, 3) := dk_182 0 60 (dk_at dksX5_sheet_1 21 rfl rfl)
theorem dX5_sheet_48 : decode cX5_sheet 48 = .ok (.ireturn, 1) := dk_172 (dk_at dksX5_sheet_2 0 rfl rfl)
theorem dX5_sheet_49 : decode cX5_sheet 49 = .ok (.iload_n 2, 1) := dk_28 (dk_at dksX5_sheet_2 1 rfl rfl)
theorem dX5_sheet_50 : decode cX5_sheet 50 = .ok (.ifCond .eq 15, 3) := dk_153 0 15 (dk_at dksX5_sheet_2 2 rfl rfl)
theorem dX5_sheet_53 : decode cX5_sheet 53 = .ok (.iload_n 3, 1) := dk_29 (dk_at dksX5_sheet_2 5 rfl rfl)
theorem dX5_sheet_54 : decode cX5_sheet 54 = .ok (.bipush 24, 2) := dk_16 24 (dk_at dksX5_sheet_2 6 rfl rfl)
theorem dX5_sheet_56 : decode cX5_sheet 56 = .ok (.if_icmp .le 9, 3) := dk_164 0 9 (dk_at dksX5_sheet_2 8 rfl rfl)
theorem dX5_sheet_59 : decode cX5_sheet 59 = .ok (.aload_n 0, 1) := dk_42 (dk_at dksX5_sheet_2 11 rfl rfl)
theorem dX5_sheet_60 : decode cX5_sheet 60 = .ok (.iconst 1, 1) := dk_4 (dk_at dksX5_sheet_2 12 rfl rfl)
theorem dX5_sheet_61 : decode cX5_sheet 61 = .ok (.invokevirtual 60, 3) := dk_182 0 60 (dk_at dksX5_sheet_2 13 rfl rfl)
theorem dX5_sheet_64 : decode cX5_sheet 64 = .ok (.ireturn, 1) := dk_172 (dk_at dksX5_sheet_2 16 rfl rfl)
theorem dX5_sheet_65 : decode cX5_sheet 65 = .ok (.aload_n 0, 1) := dk_42 (dk_at dksX5_sheet_2 17 rfl rfl)
theorem dX5_sheet_66 : decode cX5_sheet 66 = .ok (.getfield 34, 3) := dk_180 0 34 (dk_at dksX5_sheet_2 18 rfl rfl)
theorem dX5_sheet_69 : decode cX5_sheet 69 = .ok (.iload_n 1, 1) := dk_27 (dk_at dksX5_sheet_2 21 rfl rfl)
theorem dX5_sheet_70 : decode cX5_sheet 70 = .ok (.iload_n 2, 1) := dk_28 (dk_at dksX5_sheet_2 22 rfl rfl)
theorem dX5_sheet_71 : decode cX5_sheet 71 = .ok (.iastore, 1) := dk_79 (dk_at dksX5_sheet_2 23 rfl rfl)
theorem dX5_sheet_72 : decode cX5_sheet 72 = .ok (.aload_n 0, 1) := dk_42 (dk_at dksX5_sheet_3 0 rfl rfl)
theorem dX5_sheet_73 : decode cX5_sheet 73 = .ok (.getfield 37, 3) := dk_180 0 37 (dk_at dksX5_sheet_3 1 rfl rfl)
theorem dX5_sheet_76 : decode cX5_sheet 76 = .ok (.iload_n 1, 1) := dk_27 (dk_at dksX5_sheet_3 4 rfl rfl)
theorem dX5_sheet_77 : decode cX5_sheet 77 = .ok (.iload_n 2, 1) := dk_28 (dk_at dksX5_sheet_3 5 rfl rfl)
theorem dX5_sheet_78 : decode cX5_sheet 78 = .ok (.ifCond .ne 7, 3) := dk_154 0 7 (dk_at dksX5_sheet_3 6 rfl rfl)
theorem dX5_sheet_81 : decode cX5_sheet 81 = .ok (.iconst 0, 1) := dk_3 (dk_at dksX5_sheet_3 9 rfl rfl)
theorem dX5_sheet_82 : decode cX5_sheet 82 = .ok (.goto 4, 3) := dk_167 0 4 (dk_at dksX5_sheet_3 10 rfl rfl)
theorem dX5_sheet_85 : decode cX5_sheet 85 = .ok (.iload_n 3, 1) := dk_29 (dk_at dksX5_sheet_3 13 rfl rfl)
theorem dX5_sheet_86 : decode cX5_sheet 86 = .ok (.iastore, 1) := dk_79 (dk_at dksX5_sheet_3 14 rfl rfl)
theorem dX5_sheet_87 : decode cX5_sheet 87 = .ok (.iconst 0, 1) := dk_3 (dk_at dksX5_sheet_3 15 rfl rfl)
theorem dX5_sheet_88 : decode cX5_sheet 88 = .ok (.istore 4, 2) := dk_54 4 (dk_at dksX5_sheet_3 16 rfl rfl)
theorem dX5_sheet_90 : decode cX5_sheet 90 = .ok (.iload 4, 2) := dk_21 4 (dk_at dksX5_sheet_3 18 rfl rfl)
theorem dX5_sheet_92 : decode cX5_sheet 92 = .ok (.bipush 24, 2) := dk_16 24 (dk_at dksX5_sheet_3 20 rfl rfl)
theorem dX5_sheet_94 : decode cX5_sheet 94 = .ok (.if_icmp .ge 22, 3) := dk_162 0 22 (dk_at dksX5_sheet_4 0 rfl rfl)
theorem dX5_sheet_97 : decode cX5_sheet 97 = .ok (.aload_n 0, 1) := dk_42 (dk_at dksX5_sheet_4 3 rfl rfl)
theorem dX5_sheet_98 : decode cX5_sheet 98 = .ok (.getfield 40, 3) := dk_180 0 40 (dk_at dksX5_sheet_4 4 rfl rfl)
theorem dX5_sheet_101 : decode cX5_sheet 101 = .ok (.bipush 24, 2) := dk_16 24 (dk_at dksX5_sheet_4 7 rfl rfl)
theorem dX5_sheet_103 : decode cX5_sheet 103 = .ok (.iload_n 1, 1) := dk_27 (dk_at dksX5_sheet_4 9 rfl rfl)
theorem dX5_sheet_104 : decode cX5_sheet 104 = .ok (.imul, 1) := dk_104 (dk_at dksX5_sheet_4 10 rfl rfl)
theorem dX5_sheet_105 : decode cX5_sheet 105 = .ok (.iload 4, 2) := dk_21 4 (dk_at dksX5_sheet_4 11 rfl rfl)
theorem dX5_sheet_107 : decode cX5_sheet 107 = .ok (.iadd, 1) := dk_96 (dk_at dksX5_sheet_4 13 rfl rfl)
theorem dX5_sheet_108 : decode cX5_sheet 108 = .ok (.iconst 0, 1) := dk_3 (dk_at dksX5_sheet_4 14 rfl rfl)
theorem dX5_sheet_109 : decode cX5_sheet 109 = .ok (.iastore, 1) := dk_79 (dk_at dksX5_sheet_4 15 rfl rfl)
theorem dX5_sheet_110 : decode cX5_sheet 110 = .ok (.iinc 4 1, 3) := dk_132 4 1 (dk_at dksX5_sheet_4 16 rfl rfl)
theorem dX5_sheet_113 : decode cX5_sheet 113 = .ok (.goto (-23), 3) := dk_167 255 233 (dk_at dksX5_sheet_4 19 rfl rfl)
theorem dX5_sheet_116 : decode cX5_sheet 116 = .ok (.iconst 1, 1) := dk_4 (dk_at dksX5_sheet_4 22 rfl rfl)
theorem dX5_sheet_117 : decode cX5_sheet 117 = .ok (.ireturn, 1) := dk_172 (dk_at dksX5_sheet_4 23 rfl rfl)
abbrev cX5_isSheet : ByteArray := prog_20_method_95_code
def yX5_isSheet : MethodName := ⟨RX5, "isSheet", "(I)Z"⟩
def dkwX5_isSheet_0 : List UInt8 := [26, 3, 6, 184, 0, 47, 172]
abbrev dktX5_isSheet_0 : List UInt8 := dkwX5_isSheet_0 ++ []
theorem dksX5_isSheet_0 : cX5_isSheet.data.toList.drop 0 = dktX5_isSheet_0 := by decide +kernel
theorem dX5_isSheet_0 : decode cX5_isSheet 0 = .ok (.iload_n 0, 1) := dk_26 (dk_at dksX5_isSheet_0 0 rfl rfl)
theorem dX5_isSheet_1 : decode cX5_isSheet 1 = .ok (.iconst 0, 1) := dk_3 (dk_at dksX5_isSheet_0 1 rfl rfl)
theorem dX5_isSheet_2 : decode cX5_isSheet 2 = .ok (.iconst 3, 1) := dk_6 (dk_at dksX5_isSheet_0 2 rfl rfl)
theorem dX5_isSheet_3 : decode cX5_isSheet 3 = .ok (.invokestatic 47, 3) := dk_184 0 47 (dk_at dksX5_isSheet_0 3 rfl rfl)
theorem dX5_isSheet_6 : decode cX5_isSheet 6 = .ok (.ireturn, 1) := dk_172 (dk_at dksX5_isSheet_0 6 rfl rfl)
abbrev cX5_put : ByteArray := prog_20_method_97_code
def yX5_put : MethodName := ⟨RX5, "put", "(III)I"⟩
def dkwX5_put_3 : List UInt8 := [96, 29, 21, 4, 120, 21, 4, 122, 79, 4, 172]
abbrev dktX5_put_3 : List UInt8 := dkwX5_put_3 ++ []
def dkwX5_put_2 : List UInt8 := [182, 0, 60, 172, 16, 32, 42, 180, 0, 34, 27, 46, 100, 54, 4, 42, 180, 0, 40, 16, 24, 27, 104, 28]
abbrev dktX5_put_2 : List UInt8 := dkwX5_put_2 ++ dktX5_put_3
def dkwX5_put_1 : List UInt8 := [182, 0, 60, 172, 28, 3, 42, 180, 0, 37, 27, 46, 4, 100, 184, 0, 47, 154, 0, 9, 42, 4]
abbrev dktX5_put_1 : List UInt8 := dkwX5_put_1 ++ dktX5_put_2
def dkwX5_put_0 : List UInt8 := [27, 184, 1, 23, 154, 0, 9, 42, 4, 182, 0, 60, 172, 42, 180, 0, 34, 27, 46, 154, 0, 9, 42, 5]
abbrev dktX5_put_0 : List UInt8 := dkwX5_put_0 ++ dktX5_put_1
theorem dksX5_put_0 : cX5_put.data.toList.drop 0 = dktX5_put_0 := by decide +kernel
theorem dksX5_put_1 : cX5_put.data.toList.drop 24 = dktX5_put_1 := dk_seg dksX5_put_0 24 rfl rfl
theorem dksX5_put_2 : cX5_put.data.toList.drop 46 = dktX5_put_2 := dk_seg dksX5_put_1 22 rfl rfl
theorem dksX5_put_3 : cX5_put.data.toList.drop 70 = dktX5_put_3 := dk_seg dksX5_put_2 24 rfl rfl
theorem dX5_put_0 : decode cX5_put 0 = .ok (.iload_n 1, 1) := dk_27 (dk_at dksX5_put_0 0 rfl rfl)
theorem dX5_put_1 : decode cX5_put 1 = .ok (.invokestatic 279, 3) := dk_184 1 23 (dk_at dksX5_put_0 1 rfl rfl)
theorem dX5_put_4 : decode cX5_put 4 = .ok (.ifCond .ne 9, 3) := dk_154 0 9 (dk_at dksX5_put_0 4 rfl rfl)
theorem dX5_put_7 : decode cX5_put 7 = .ok (.aload_n 0, 1) := dk_42 (dk_at dksX5_put_0 7 rfl rfl)
theorem dX5_put_8 : decode cX5_put 8 = .ok (.iconst 1, 1) := dk_4 (dk_at dksX5_put_0 8 rfl rfl)
theorem dX5_put_9 : decode cX5_put 9 = .ok (.invokevirtual 60, 3) := dk_182 0 60 (dk_at dksX5_put_0 9 rfl rfl)
theorem dX5_put_12 : decode cX5_put 12 = .ok (.ireturn, 1) := dk_172 (dk_at dksX5_put_0 12 rfl rfl)
theorem dX5_put_13 : decode cX5_put 13 = .ok (.aload_n 0, 1) := dk_42 (dk_at dksX5_put_0 13 rfl rfl)
theorem dX5_put_14 : decode cX5_put 14 = .ok (.getfield 34, 3) := dk_180 0 34 (dk_at dksX5_put_0 14 rfl rfl)
theorem dX5_put_17 : decode cX5_put 17 = .ok (.iload_n 1, 1) := dk_27 (dk_at dksX5_put_0 17 rfl rfl)
theorem dX5_put_18 : decode cX5_put 18 = .ok (.iaload, 1) := dk_46 (dk_at dksX5_put_0 18 rfl rfl)
theorem dX5_put_19 : decode cX5_put 19 = .ok (.ifCond .ne 9, 3) := dk_154 0 9 (dk_at dksX5_put_0 19 rfl rfl)
theorem dX5_put_22 : decode cX5_put 22 = .ok (.aload_n 0, 1) := dk_42 (dk_at dksX5_put_0 22 rfl rfl)
theorem dX5_put_23 : decode cX5_put 23 = .ok (.iconst 2, 1) := dk_5 (dk_at dksX5_put_0 23 rfl rfl)
theorem dX5_put_24 : decode cX5_put 24 = .ok (.invokevirtual 60, 3) := dk_182 0 60 (dk_at dksX5_put_1 0 rfl rfl)
theorem dX5_put_27 : decode cX5_put 27 = .ok (.ireturn, 1) := dk_172 (dk_at dksX5_put_1 3 rfl rfl)
theorem dX5_put_28 : decode cX5_put 28 = .ok (.iload_n 2, 1) := dk_28 (dk_at dksX5_put_1 4 rfl rfl)
theorem dX5_put_29 : decode cX5_put 29 = .ok (.iconst 0, 1) := dk_3 (dk_at dksX5_put_1 5 rfl rfl)
theorem dX5_put_30 : decode cX5_put 30 = .ok (.aload_n 0, 1) := dk_42 (dk_at dksX5_put_1 6 rfl rfl)
theorem dX5_put_31 : decode cX5_put 31 = .ok (.getfield 37, 3) := dk_180 0 37 (dk_at dksX5_put_1 7 rfl rfl)
theorem dX5_put_34 : decode cX5_put 34 = .ok (.iload_n 1, 1) := dk_27 (dk_at dksX5_put_1 10 rfl rfl)
theorem dX5_put_35 : decode cX5_put 35 = .ok (.iaload, 1) := dk_46 (dk_at dksX5_put_1 11 rfl rfl)
theorem dX5_put_36 : decode cX5_put 36 = .ok (.iconst 1, 1) := dk_4 (dk_at dksX5_put_1 12 rfl rfl)
theorem dX5_put_37 : decode cX5_put 37 = .ok (.isub, 1) := dk_100 (dk_at dksX5_put_1 13 rfl rfl)
theorem dX5_put_38 : decode cX5_put 38 = .ok (.invokestatic 47, 3) := dk_184 0 47 (dk_at dksX5_put_1 14 rfl rfl)
theorem dX5_put_41 : decode cX5_put 41 = .ok (.ifCond .ne 9, 3) := dk_154 0 9 (dk_at dksX5_put_1 17 rfl rfl)
theorem dX5_put_44 : decode cX5_put 44 = .ok (.aload_n 0, 1) := dk_42 (dk_at dksX5_put_1 20 rfl rfl)
theorem dX5_put_45 : decode cX5_put 45 = .ok (.iconst 1, 1) := dk_4 (dk_at dksX5_put_1 21 rfl rfl)
theorem dX5_put_46 : decode cX5_put 46 = .ok (.invokevirtual 60, 3) := dk_182 0 60 (dk_at dksX5_put_2 0 rfl rfl)
theorem dX5_put_49 : decode cX5_put 49 = .ok (.ireturn, 1) := dk_172 (dk_at dksX5_put_2 3 rfl rfl)
theorem dX5_put_50 : decode cX5_put 50 = .ok (.bipush 32, 2) := dk_16 32 (dk_at dksX5_put_2 4 rfl rfl)
theorem dX5_put_52 : decode cX5_put 52 = .ok (.aload_n 0, 1) := dk_42 (dk_at dksX5_put_2 6 rfl rfl)
theorem dX5_put_53 : decode cX5_put 53 = .ok (.getfield 34, 3) := dk_180 0 34 (dk_at dksX5_put_2 7 rfl rfl)
theorem dX5_put_56 : decode cX5_put 56 = .ok (.iload_n 1, 1) := dk_27 (dk_at dksX5_put_2 10 rfl rfl)
theorem dX5_put_57 : decode cX5_put 57 = .ok (.iaload, 1) := dk_46 (dk_at dksX5_put_2 11 rfl rfl)
theorem dX5_put_58 : decode cX5_put 58 = .ok (.isub, 1) := dk_100 (dk_at dksX5_put_2 12 rfl rfl)
theorem dX5_put_59 : decode cX5_put 59 = .ok (.istore 4, 2) := dk_54 4 (dk_at dksX5_put_2 13 rfl rfl)
theorem dX5_put_61 : decode cX5_put 61 = .ok (.aload_n 0, 1) := dk_42 (dk_at dksX5_put_2 15 rfl rfl)
theorem dX5_put_62 : decode cX5_put 62 = .ok (.getfield 40, 3) := dk_180 0 40 (dk_at dksX5_put_2 16 rfl rfl)
theorem dX5_put_65 : decode cX5_put 65 = .ok (.bipush 24, 2) := dk_16 24 (dk_at dksX5_put_2 19 rfl rfl)
theorem dX5_put_67 : decode cX5_put 67 = .ok (.iload_n 1, 1) := dk_27 (dk_at dksX5_put_2 21 rfl rfl)
theorem dX5_put_68 : decode cX5_put 68 = .ok (.imul, 1) := dk_104 (dk_at dksX5_put_2 22 rfl rfl)
theorem dX5_put_69 : decode cX5_put 69 = .ok (.iload_n 2, 1) := dk_28 (dk_at dksX5_put_2 23 rfl rfl)
theorem dX5_put_70 : decode cX5_put 70 = .ok (.iadd, 1) := dk_96 (dk_at dksX5_put_3 0 rfl rfl)
theorem dX5_put_71 : decode cX5_put 71 = .ok (.iload_n 3, 1) := dk_29 (dk_at dksX5_put_3 1 rfl rfl)
theorem dX5_put_72 : decode cX5_put 72 = .ok (.iload 4, 2) := dk_21 4 (dk_at dksX5_put_3 2 rfl rfl)
theorem dX5_put_74 : decode cX5_put 74 = .ok (.ishl, 1) := dk_120 (dk_at dksX5_put_3 4 rfl rfl)
theorem dX5_put_75 : decode cX5_put 75 = .ok (.iload 4, 2) := dk_21 4 (dk_at dksX5_put_3 5 rfl rfl)
theorem dX5_put_77 : decode cX5_put 77 = .ok (.ishr, 1) := dk_122 (dk_at dksX5_put_3 7 rfl rfl)
theorem dX5_put_78 : decode cX5_put 78 = .ok (.iastore, 1) := dk_79 (dk_at dksX5_put_3 8 rfl rfl)
theorem dX5_put_79 : decode cX5_put 79 = .ok (.iconst 1, 1) := dk_4 (dk_at dksX5_put_3 9 rfl rfl)
theorem dX5_put_80 : decode cX5_put 80 = .ok (.ireturn, 1) := dk_172 (dk_at dksX5_put_3 10 rfl rfl)
abbrev cX5_move : ByteArray := prog_20_method_98_code
def yX5_move : MethodName := ⟨RX5, "move", "(IIIII)I"⟩
def dkwX5_move_7 : List UInt8 := [21, 4, 96, 21, 6, 96, 42, 180, 0, 43, 21, 6, 46, 79, 132, 6, 1, 167, 255, 224, 21, 5, 172]
abbrev dktX5_move_7 : List UInt8 := dkwX5_move_7 ++ []
def dkwX5_move_6 : List UInt8 := [132, 6, 1, 167, 255, 225, 3, 54, 6, 21, 6, 21, 5, 162, 0, 31, 42, 180, 0, 40, 16, 24, 29, 104]
abbrev dktX5_move_6 : List UInt8 := dkwX5_move_6 ++ dktX5_move_7
def dkwX5_move_5 : List UInt8 := [162, 0, 30, 42, 180, 0, 43, 21, 6, 42, 180, 0, 40, 16, 24, 27, 104, 28, 96, 21, 6, 96, 46, 79]
abbrev dktX5_move_5 : List UInt8 := dkwX5_move_5 ++ dktX5_move_6
def dkwX5_move_4 : List UInt8 := [180, 0, 37, 29, 46, 21, 5, 100, 164, 0, 9, 42, 4, 182, 0, 60, 172, 3, 54, 6, 21, 6, 21, 5]
abbrev dktX5_move_4 : List UInt8 := dkwX5_move_4 ++ dktX5_move_5
def dkwX5_move_3 : List UInt8 := [155, 0, 35, 21, 4, 155, 0, 30, 28, 42, 180, 0, 37, 27, 46, 21, 5, 100, 163, 0, 17, 21, 4, 42]
abbrev dktX5_move_3 : List UInt8 := dkwX5_move_3 ++ dktX5_move_4
def dkwX5_move_2 : List UInt8 := [27, 46, 42, 180, 0, 34, 29, 46, 159, 0, 9, 42, 8, 182, 0, 60, 172, 21, 5, 155, 0, 39, 28]
abbrev dktX5_move_2 : List UInt8 := dkwX5_move_2 ++ dktX5_move_3
def dkwX5_move_1 : List UInt8 := [27, 46, 153, 0, 12, 42, 180, 0, 34, 29, 46, 154, 0, 9, 42, 5, 182, 0, 60, 172, 42, 180, 0, 34]
abbrev dktX5_move_1 : List UInt8 := dkwX5_move_1 ++ dktX5_move_2
def dkwX5_move_0 : List UInt8 := [27, 184, 1, 23, 153, 0, 10, 29, 184, 1, 23, 154, 0, 9, 42, 4, 182, 0, 60, 172, 42, 180, 0, 34]
abbrev dktX5_move_0 : List UInt8 := dkwX5_move_0 ++ dktX5_move_1
theorem dksX5_move_0 : cX5_move.data.toList.drop 0 = dktX5_move_0 := by decide +kernel
theorem dksX5_move_1 : cX5_move.data.toList.drop 24 = dktX5_move_1 := dk_seg dksX5_move_0 24 rfl rfl
theorem dksX5_move_2 : cX5_move.data.toList.drop 48 = dktX5_move_2 := dk_seg dksX5_move_1 24 rfl rfl
theorem dksX5_move_3 : cX5_move.data.toList.drop 71 = dktX5_move_3 := dk_seg dksX5_move_2 23 rfl rfl
theorem dksX5_move_4 : cX5_move.data.toList.drop 95 = dktX5_move_4 := dk_seg dksX5_move_3 24 rfl rfl
theorem dksX5_move_5 : cX5_move.data.toList.drop 119 = dktX5_move_5 := dk_seg dksX5_move_4 24 rfl rfl
theorem dksX5_move_6 : cX5_move.data.toList.drop 143 = dktX5_move_6 := dk_seg dksX5_move_5 24 rfl rfl
theorem dksX5_move_7 : cX5_move.data.toList.drop 167 = dktX5_move_7 := dk_seg dksX5_move_6 24 rfl rfl
theorem dX5_move_0 : decode cX5_move 0 = .ok (.iload_n 1, 1) := dk_27 (dk_at dksX5_move_0 0 rfl rfl)
theorem dX5_move_1 : decode cX5_move 1 = .ok (.invokestatic 279, 3) := dk_184 1 23 (dk_at dksX5_move_0 1 rfl rfl)
theorem dX5_move_4 : decode cX5_move 4 = .ok (.ifCond .eq 10, 3) := dk_153 0 10 (dk_at dksX5_move_0 4 rfl rfl)
theorem dX5_move_7 : decode cX5_move 7 = .ok (.iload_n 3, 1) := dk_29 (dk_at dksX5_move_0 7 rfl rfl)
theorem dX5_move_8 : decode cX5_move 8 = .ok (.invokestatic 279, 3) := dk_184 1 23 (dk_at dksX5_move_0 8 rfl rfl)
theorem dX5_move_11 : decode cX5_move 11 = .ok (.ifCond .ne 9, 3) := dk_154 0 9 (dk_at dksX5_move_0 11 rfl rfl)
theorem dX5_move_14 : decode cX5_move 14 = .ok (.aload_n 0, 1) := dk_42 (dk_at dksX5_move_0 14 rfl rfl)
theorem dX5_move_15 : decode cX5_move 15 = .ok (.iconst 1, 1) := dk_4 (dk_at dksX5_move_0 15 rfl rfl)
theorem dX5_move_16 : decode cX5_move 16 = .ok (.invokevirtual 60, 3) := dk_182 0 60 (dk_at dksX5_move_0 16 rfl rfl)
theorem dX5_move_19 : decode cX5_move 19 = .ok (.ireturn, 1) := dk_172 (dk_at dksX5_move_0 19 rfl rfl)
theorem dX5_move_20 : decode cX5_move 20 = .ok (.aload_n 0, 1) := dk_42 (dk_at dksX5_move_0 20 rfl rfl)
theorem dX5_move_21 : decode cX5_move 21 = .ok (.getfield 34, 3) := dk_180 0 34 (dk_at dksX5_move_0 21 rfl rfl)
theorem dX5_move_24 : decode cX5_move 24 = .ok (.iload_n 1, 1) := dk_27 (dk_at dksX5_move_1 0 rfl rfl)
theorem dX5_move_25 : decode cX5_move 25 = .ok (.iaload, 1) := dk_46 (dk_at dksX5_move_1 1 rfl rfl)
theorem dX5_move_26 : decode cX5_move 26 = .ok (.ifCond .eq 12, 3) := dk_153 0 12 (dk_at dksX5_move_1 2 rfl rfl)
theorem dX5_move_29 : decode cX5_move 29 = .ok (.aload_n 0, 1) := dk_42 (dk_at dksX5_move_1 5 rfl rfl)
theorem dX5_move_30 : decode cX5_move 30 = .ok (.getfield 34, 3) := dk_180 0 34 (dk_at dksX5_move_1 6 rfl rfl)
theorem dX5_move_33 : decode cX5_move 33 = .ok (.iload_n 3, 1) := dk_29 (dk_at dksX5_move_1 9 rfl rfl)
theorem dX5_move_34 : decode cX5_move 34 = .ok (.iaload, 1) := dk_46 (dk_at dksX5_move_1 10 rfl rfl)
theorem dX5_move_35 : decode cX5_move 35 = .ok (.ifCond .ne 9, 3) := dk_154 0 9 (dk_at dksX5_move_1 11 rfl rfl)
theorem dX5_move_38 : decode cX5_move 38 = .ok (.aload_n 0, 1) := dk_42 (dk_at dksX5_move_1 14 rfl rfl)
theorem dX5_move_39 : decode cX5_move 39 = .ok (.iconst 2, 1) := dk_5 (dk_at dksX5_move_1 15 rfl rfl)
theorem dX5_move_40 : decode cX5_move 40 = .ok (.invokevirtual 60, 3) := dk_182 0 60 (dk_at dksX5_move_1 16 rfl rfl)
theorem dX5_move_43 : decode cX5_move 43 = .ok (.ireturn, 1) := dk_172 (dk_at dksX5_move_1 19 rfl rfl)
theorem dX5_move_44 : decode cX5_move 44 = .ok (.aload_n 0, 1) := dk_42 (dk_at dksX5_move_1 20 rfl rfl)
theorem dX5_move_45 : decode cX5_move 45 = .ok (.getfield 34, 3) := dk_180 0 34 (dk_at dksX5_move_1 21 rfl rfl)
theorem dX5_move_48 : decode cX5_move 48 = .ok (.iload_n 1, 1) := dk_27 (dk_at dksX5_move_2 0 rfl rfl)
theorem dX5_move_49 : decode cX5_move 49 = .ok (.iaload, 1) := dk_46 (dk_at dksX5_move_2 1 rfl rfl)
theorem dX5_move_50 : decode cX5_move 50 = .ok (.aload_n 0, 1) := dk_42 (dk_at dksX5_move_2 2 rfl rfl)
theorem dX5_move_51 : decode cX5_move 51 = .ok (.getfield 34, 3) := dk_180 0 34 (dk_at dksX5_move_2 3 rfl rfl)
theorem dX5_move_54 : decode cX5_move 54 = .ok (.iload_n 3, 1) := dk_29 (dk_at dksX5_move_2 6 rfl rfl)
theorem dX5_move_55 : decode cX5_move 55 = .ok (.iaload, 1) := dk_46 (dk_at dksX5_move_2 7 rfl rfl)
theorem dX5_move_56 : decode cX5_move 56 = .ok (.if_icmp .eq 9, 3) := dk_159 0 9 (dk_at dksX5_move_2 8 rfl rfl)
theorem dX5_move_59 : decode cX5_move 59 = .ok (.aload_n 0, 1) := dk_42 (dk_at dksX5_move_2 11 rfl rfl)
theorem dX5_move_60 : decode cX5_move 60 = .ok (.iconst 5, 1) := dk_8 (dk_at dksX5_move_2 12 rfl rfl)
theorem dX5_move_61 : decode cX5_move 61 = .ok (.invokevirtual 60, 3) := dk_182 0 60 (dk_at dksX5_move_2 13 rfl rfl)
theorem dX5_move_64 : decode cX5_move 64 = .ok (.ireturn, 1) := dk_172 (dk_at dksX5_move_2 16 rfl rfl)
theorem dX5_move_65 : decode cX5_move 65 = .ok (.iload 5, 2) := dk_21 5 (dk_at dksX5_move_2 17 rfl rfl)
theorem dX5_move_67 : decode cX5_move 67 = .ok (.ifCond .lt 39, 3) := dk_155 0 39 (dk_at dksX5_move_2 19 rfl rfl)
theorem dX5_move_70 : decode cX5_move 70 = .ok (.iload_n 2, 1) := dk_28 (dk_at dksX5_move_2 22 rfl rfl)
theorem dX5_move_71 : decode cX5_move 71 = .ok (.ifCond .lt 35, 3) := dk_155 0 35 (dk_at dksX5_move_3 0 rfl rfl)
theorem dX5_move_74 : decode cX5_move 74 = .ok (.iload 4, 2) := dk_21 4 (dk_at dksX5_move_3 3 rfl rfl)
theorem dX5_move_76 : decode cX5_move 76 = .ok (.ifCond .lt 30, 3) := dk_155 0 30 (dk_at dksX5_move_3 5 rfl rfl)
theorem dX5_move_79 : decode cX5_move 79 = .ok (.iload_n 2, 1) := dk_28 (dk_at dksX5_move_3 8 rfl rfl)
theorem dX5_move_80 : decode cX5_move 80 = .ok (.aload_n 0, 1) := dk_42 (dk_at dksX5_move_3 9 rfl rfl)
theorem dX5_move_81 : decode cX5_move 81 = .ok (.getfield 37, 3) := dk_180 0 37 (dk_at dksX5_move_3 10 rfl rfl)
theorem dX5_move_84 : decode cX5_move 84 = .ok (.iload_n 1, 1) := dk_27 (dk_at dksX5_move_3 13 rfl rfl)
theorem dX5_move_85 : decode cX5_move 85 = .ok (.iaload, 1) := dk_46 (dk_at dksX5_move_3 14 rfl rfl)
theorem dX5_move_86 : decode cX5_move 86 = .ok (.iload 5, 2) := dk_21 5 (dk_at dksX5_move_3 15 rfl rfl)
theorem dX5_move_88 : decode cX5_move 88 = .ok (.isub, 1) := dk_100 (dk_at dksX5_move_3 17 rfl rfl)
theorem dX5_move_89 : decode cX5_move 89 = .ok (.if_icmp .gt 17, 3) := dk_163 0 17 (dk_at dksX5_move_3 18 rfl rfl)
theorem dX5_move_92 : decode cX5_move 92 = .ok (.iload 4, 2) := dk_21 4 (dk_at dksX5_move_3 21 rfl rfl)
theorem dX5_move_94 : decode cX5_move 94 = .ok (.aload_n 0, 1) := dk_42 (dk_at dksX5_move_3 23 rfl rfl)
theorem dX5_move_95 : decode cX5_move 95 = .ok (.getfield 37, 3) := dk_180 0 37 (dk_at dksX5_move_4 0 rfl rfl)
theorem dX5_move_98 : decode cX5_move 98 = .ok (.iload_n 3, 1) := dk_29 (dk_at dksX5_move_4 3 rfl rfl)
theorem dX5_move_99 : decode cX5_move 99 = .ok (.iaload, 1) := dk_46 (dk_at dksX5_move_4 4 rfl rfl)
theorem dX5_move_100 : decode cX5_move 100 = .ok (.iload 5, 2) := dk_21 5 (dk_at dksX5_move_4 5 rfl rfl)
theorem dX5_move_102 : decode cX5_move 102 = .ok (.isub, 1) := dk_100 (dk_at dksX5_move_4 7 rfl rfl)
theorem dX5_move_103 : decode cX5_move 103 = .ok (.if_icmp .le 9, 3) := dk_164 0 9 (dk_at dksX5_move_4 8 rfl rfl)
theorem dX5_move_106 : decode cX5_move 106 = .ok (.aload_n 0, 1) := dk_42 (dk_at dksX5_move_4 11 rfl rfl)
theorem dX5_move_107 : decode cX5_move 107 = .ok (.iconst 1, 1) := dk_4 (dk_at dksX5_move_4 12 rfl rfl)
theorem dX5_move_108 : decode cX5_move 108 = .ok (.invokevirtual 60, 3) := dk_182 0 60 (dk_at dksX5_move_4 13 rfl rfl)
theorem dX5_move_111 : decode cX5_move 111 = .ok (.ireturn, 1) := dk_172 (dk_at dksX5_move_4 16 rfl rfl)
theorem dX5_move_112 : decode cX5_move 112 = .ok (.iconst 0, 1) := dk_3 (dk_at dksX5_move_4 17 rfl rfl)
theorem dX5_move_113 : decode cX5_move 113 = .ok (.istore 6, 2) := dk_54 6 (dk_at dksX5_move_4 18 rfl rfl)
theorem dX5_move_115 : decode cX5_move 115 = .ok (.iload 6, 2) := dk_21 6 (dk_at dksX5_move_4 20 rfl rfl)
theorem dX5_move_117 : decode cX5_move 117 = .ok (.iload 5, 2) := dk_21 5 (dk_at dksX5_move_4 22 rfl rfl)
theorem dX5_move_119 : decode cX5_move 119 = .ok (.if_icmp .ge 30, 3) := dk_162 0 30 (dk_at dksX5_move_5 0 rfl rfl)
theorem dX5_move_122 : decode cX5_move 122 = .ok (.aload_n 0, 1) := dk_42 (dk_at dksX5_move_5 3 rfl rfl)
theorem dX5_move_123 : decode cX5_move 123 = .ok (.getfield 43, 3) := dk_180 0 43 (dk_at dksX5_move_5 4 rfl rfl)
theorem dX5_move_126 : decode cX5_move 126 = .ok (.iload 6, 2) := dk_21 6 (dk_at dksX5_move_5 7 rfl rfl)
theorem dX5_move_128 : decode cX5_move 128 = .ok (.aload_n 0, 1) := dk_42 (dk_at dksX5_move_5 9 rfl rfl)
theorem dX5_move_129 : decode cX5_move 129 = .ok (.getfield 40, 3) := dk_180 0 40 (dk_at dksX5_move_5 10 rfl rfl)
theorem dX5_move_132 : decode cX5_move 132 = .ok (.bipush 24, 2) := dk_16 24 (dk_at dksX5_move_5 13 rfl rfl)
theorem dX5_move_134 : decode cX5_move 134 = .ok (.iload_n 1, 1) := dk_27 (dk_at dksX5_move_5 15 rfl rfl)
theorem dX5_move_135 : decode cX5_move 135 = .ok (.imul, 1) := dk_104 (dk_at dksX5_move_5 16 rfl rfl)
theorem dX5_move_136 : decode cX5_move 136 = .ok (.iload_n 2, 1) := dk_28 (dk_at dksX5_move_5 17 rfl rfl)
theorem dX5_move_137 : decode cX5_move 137 = .ok (.iadd, 1) := dk_96 (dk_at dksX5_move_5 18 rfl rfl)
theorem dX5_move_138 : decode cX5_move 138 = .ok (.iload 6, 2) := dk_21 6 (dk_at dksX5_move_5 19 rfl rfl)
theorem dX5_move_140 : decode cX5_move 140 = .ok (.iadd, 1) := dk_96 (dk_at dksX5_move_5 21 rfl rfl)
theorem dX5_move_141 : decode cX5_move 141 = .ok (.iaload, 1) := dk_46 (dk_at dksX5_move_5 22 rfl rfl)
theorem dX5_move_142 : decode cX5_move 142 = .ok (.iastore, 1) := dk_79 (dk_at dksX5_move_5 23 rfl rfl)
theorem dX5_move_143 : decode cX5_move 143 = .ok (.iinc 6 1, 3) := dk_132 6 1 (dk_at dksX5_move_6 0 rfl rfl)
theorem dX5_move_146 : decode cX5_move 146 = .ok (.goto (-31), 3) := dk_167 255 225 (dk_at dksX5_move_6 3 rfl rfl)
theorem dX5_move_149 : decode cX5_move 149 = .ok (.iconst 0, 1) := dk_3 (dk_at dksX5_move_6 6 rfl rfl)
theorem dX5_move_150 : decode cX5_move 150 = .ok (.istore 6, 2) := dk_54 6 (dk_at dksX5_move_6 7 rfl rfl)
theorem dX5_move_152 : decode cX5_move 152 = .ok (.iload 6, 2) := dk_21 6 (dk_at dksX5_move_6 9 rfl rfl)
theorem dX5_move_154 : decode cX5_move 154 = .ok (.iload 5, 2) := dk_21 5 (dk_at dksX5_move_6 11 rfl rfl)
theorem dX5_move_156 : decode cX5_move 156 = .ok (.if_icmp .ge 31, 3) := dk_162 0 31 (dk_at dksX5_move_6 13 rfl rfl)
theorem dX5_move_159 : decode cX5_move 159 = .ok (.aload_n 0, 1) := dk_42 (dk_at dksX5_move_6 16 rfl rfl)
theorem dX5_move_160 : decode cX5_move 160 = .ok (.getfield 40, 3) := dk_180 0 40 (dk_at dksX5_move_6 17 rfl rfl)
theorem dX5_move_163 : decode cX5_move 163 = .ok (.bipush 24, 2) := dk_16 24 (dk_at dksX5_move_6 20 rfl rfl)
theorem dX5_move_165 : decode cX5_move 165 = .ok (.iload_n 3, 1) := dk_29 (dk_at dksX5_move_6 22 rfl rfl)
theorem dX5_move_166 : decode cX5_move 166 = .ok (.imul, 1) := dk_104 (dk_at dksX5_move_6 23 rfl rfl)
theorem dX5_move_167 : decode cX5_move 167 = .ok (.iload 4, 2) := dk_21 4 (dk_at dksX5_move_7 0 rfl rfl)
theorem dX5_move_169 : decode cX5_move 169 = .ok (.iadd, 1) := dk_96 (dk_at dksX5_move_7 2 rfl rfl)
theorem dX5_move_170 : decode cX5_move 170 = .ok (.iload 6, 2) := dk_21 6 (dk_at dksX5_move_7 3 rfl rfl)
theorem dX5_move_172 : decode cX5_move 172 = .ok (.iadd, 1) := dk_96 (dk_at dksX5_move_7 5 rfl rfl)
theorem dX5_move_173 : decode cX5_move 173 = .ok (.aload_n 0, 1) := dk_42 (dk_at dksX5_move_7 6 rfl rfl)
theorem dX5_move_174 : decode cX5_move 174 = .ok (.getfield 43, 3) := dk_180 0 43 (dk_at dksX5_move_7 7 rfl rfl)
theorem dX5_move_177 : decode cX5_move 177 = .ok (.iload 6, 2) := dk_21 6 (dk_at dksX5_move_7 10 rfl rfl)
theorem dX5_move_179 : decode cX5_move 179 = .ok (.iaload, 1) := dk_46 (dk_at dksX5_move_7 12 rfl rfl)
theorem dX5_move_180 : decode cX5_move 180 = .ok (.iastore, 1) := dk_79 (dk_at dksX5_move_7 13 rfl rfl)
theorem dX5_move_181 : decode cX5_move 181 = .ok (.iinc 6 1, 3) := dk_132 6 1 (dk_at dksX5_move_7 14 rfl rfl)
theorem dX5_move_184 : decode cX5_move 184 = .ok (.goto (-32), 3) := dk_167 255 224 (dk_at dksX5_move_7 17 rfl rfl)
theorem dX5_move_187 : decode cX5_move 187 = .ok (.iload 5, 2) := dk_21 5 (dk_at dksX5_move_7 20 rfl rfl)
theorem dX5_move_189 : decode cX5_move 189 = .ok (.ireturn, 1) := dk_172 (dk_at dksX5_move_7 22 rfl rfl)
abbrev cX5_worths : ByteArray := prog_20_method_100_code
def yX5_worths : MethodName := ⟨RX5, "worths", "(II)I"⟩
def dkwX5_worths_4 : List UInt8 := [29, 96, 46, 79, 132, 3, 1, 167, 255, 189, 29, 172]
abbrev dktX5_worths_4 : List UInt8 := dkwX5_worths_4 ++ []
def dkwX5_worths_3 : List UInt8 := [153, 0, 34, 42, 180, 0, 7, 16, 110, 16, 12, 28, 104, 96, 29, 96, 42, 180, 0, 40, 16, 24, 27, 104]
abbrev dktX5_worths_3 : List UInt8 := dkwX5_worths_3 ++ dktX5_worths_4
def dkwX5_worths_2 : List UInt8 := [182, 0, 92, 153, 0, 55, 42, 180, 0, 40, 16, 24, 27, 104, 29, 96, 46, 3, 17, 39, 15, 184, 0, 47]
abbrev dktX5_worths_2 : List UInt8 := dkwX5_worths_2 ++ dktX5_worths_3
def dkwX5_worths_1 : List UInt8 := [182, 1, 26, 156, 0, 7, 19, 1, 29, 172, 3, 62, 29, 42, 180, 0, 37, 27, 46, 162, 0, 63, 42, 29]
abbrev dktX5_worths_1 : List UInt8 := dkwX5_worths_1 ++ dktX5_worths_2
def dkwX5_worths_0 : List UInt8 := [27, 184, 1, 23, 153, 0, 11, 42, 28, 182, 0, 76, 154, 0, 9, 42, 4, 182, 0, 60, 172, 42, 27]
abbrev dktX5_worths_0 : List UInt8 := dkwX5_worths_0 ++ dktX5_worths_1
theorem dksX5_worths_0 : cX5_worths.data.toList.drop 0 = dktX5_worths_0 := by decide +kernel
theorem dksX5_worths_1 : cX5_worths.data.toList.drop 23 = dktX5_worths_1 := dk_seg dksX5_worths_0 23 rfl rfl
theorem dksX5_worths_2 : cX5_worths.data.toList.drop 47 = dktX5_worths_2 := dk_seg dksX5_worths_1 24 rfl rfl
theorem dksX5_worths_3 : cX5_worths.data.toList.drop 71 = dktX5_worths_3 := dk_seg dksX5_worths_2 24 rfl rfl
theorem dksX5_worths_4 : cX5_worths.data.toList.drop 95 = dktX5_worths_4 := dk_seg dksX5_worths_3 24 rfl rfl
theorem dX5_worths_0 : decode cX5_worths 0 = .ok (.iload_n 1, 1) := dk_27 (dk_at dksX5_worths_0 0 rfl rfl)
theorem dX5_worths_1 : decode cX5_worths 1 = .ok (.invokestatic 279, 3) := dk_184 1 23 (dk_at dksX5_worths_0 1 rfl rfl)
theorem dX5_worths_4 : decode cX5_worths 4 = .ok (.ifCond .eq 11, 3) := dk_153 0 11 (dk_at dksX5_worths_0 4 rfl rfl)
theorem dX5_worths_7 : decode cX5_worths 7 = .ok (.aload_n 0, 1) := dk_42 (dk_at dksX5_worths_0 7 rfl rfl)
theorem dX5_worths_8 : decode cX5_worths 8 = .ok (.iload_n 2, 1) := dk_28 (dk_at dksX5_worths_0 8 rfl rfl)
theorem dX5_worths_9 : decode cX5_worths 9 = .ok (.invokevirtual 76, 3) := dk_182 0 76 (dk_at dksX5_worths_0 9 rfl rfl)
theorem dX5_worths_12 : decode cX5_worths 12 = .ok (.ifCond .ne 9, 3) := dk_154 0 9 (dk_at dksX5_worths_0 12 rfl rfl)
theorem dX5_worths_15 : decode cX5_worths 15 = .ok (.aload_n 0, 1) := dk_42 (dk_at dksX5_worths_0 15 rfl rfl)
theorem dX5_worths_16 : decode cX5_worths 16 = .ok (.iconst 1, 1) := dk_4 (dk_at dksX5_worths_0 16 rfl rfl)
theorem dX5_worths_17 : decode cX5_worths 17 = .ok (.invokevirtual 60, 3) := dk_182 0 60 (dk_at dksX5_worths_0 17 rfl rfl)
theorem dX5_worths_20 : decode cX5_worths 20 = .ok (.ireturn, 1) := dk_172 (dk_at dksX5_worths_0 20 rfl rfl)
theorem dX5_worths_21 : decode cX5_worths 21 = .ok (.aload_n 0, 1) := dk_42 (dk_at dksX5_worths_0 21 rfl rfl)
theorem dX5_worths_22 : decode cX5_worths 22 = .ok (.iload_n 1, 1) := dk_27 (dk_at dksX5_worths_0 22 rfl rfl)
theorem dX5_worths_23 : decode cX5_worths 23 = .ok (.invokevirtual 282, 3) := dk_182 1 26 (dk_at dksX5_worths_1 0 rfl rfl)
theorem dX5_worths_26 : decode cX5_worths 26 = .ok (.ifCond .ge 7, 3) := dk_156 0 7 (dk_at dksX5_worths_1 3 rfl rfl)
theorem dX5_worths_29 : decode cX5_worths 29 = .ok (.ldc_w 285, 3) := dk_19 1 29 (dk_at dksX5_worths_1 6 rfl rfl)
theorem dX5_worths_32 : decode cX5_worths 32 = .ok (.ireturn, 1) := dk_172 (dk_at dksX5_worths_1 9 rfl rfl)
theorem dX5_worths_33 : decode cX5_worths 33 = .ok (.iconst 0, 1) := dk_3 (dk_at dksX5_worths_1 10 rfl rfl)
theorem dX5_worths_34 : decode cX5_worths 34 = .ok (.istore_n 3, 1) := dk_62 (dk_at dksX5_worths_1 11 rfl rfl)
theorem dX5_worths_35 : decode cX5_worths 35 = .ok (.iload_n 3, 1) := dk_29 (dk_at dksX5_worths_1 12 rfl rfl)
theorem dX5_worths_36 : decode cX5_worths 36 = .ok (.aload_n 0, 1) := dk_42 (dk_at dksX5_worths_1 13 rfl rfl)
theorem dX5_worths_37 : decode cX5_worths 37 = .ok (.getfield 37, 3) := dk_180 0 37 (dk_at dksX5_worths_1 14 rfl rfl)
theorem dX5_worths_40 : decode cX5_worths 40 = .ok (.iload_n 1, 1) := dk_27 (dk_at dksX5_worths_1 17 rfl rfl)
theorem dX5_worths_41 : decode cX5_worths 41 = .ok (.iaload, 1) := dk_46 (dk_at dksX5_worths_1 18 rfl rfl)
theorem dX5_worths_42 : decode cX5_worths 42 = .ok (.if_icmp .ge 63, 3) := dk_162 0 63 (dk_at dksX5_worths_1 19 rfl rfl)
theorem dX5_worths_45 : decode cX5_worths 45 = .ok (.aload_n 0, 1) := dk_42 (dk_at dksX5_worths_1 22 rfl rfl)
theorem dX5_worths_46 : decode cX5_worths 46 = .ok (.iload_n 3, 1) := dk_29 (dk_at dksX5_worths_1 23 rfl rfl)
theorem dX5_worths_47 : decode cX5_worths 47 = .ok (.invokevirtual 92, 3) := dk_182 0 92 (dk_at dksX5_worths_2 0 rfl rfl)
theorem dX5_worths_50 : decode cX5_worths 50 = .ok (.ifCond .eq 55, 3) := dk_153 0 55 (dk_at dksX5_worths_2 3 rfl rfl)
theorem dX5_worths_53 : decode cX5_worths 53 = .ok (.aload_n 0, 1) := dk_42 (dk_at dksX5_worths_2 6 rfl rfl)
theorem dX5_worths_54 : decode cX5_worths 54 = .ok (.getfield 40, 3) := dk_180 0 40 (dk_at dksX5_worths_2 7 rfl rfl)
theorem dX5_worths_57 : decode cX5_worths 57 = .ok (.bipush 24, 2) := dk_16 24 (dk_at dksX5_worths_2 10 rfl rfl)
theorem dX5_worths_59 : decode cX5_worths 59 = .ok (.iload_n 1, 1) := dk_27 (dk_at dksX5_worths_2 12 rfl rfl)
theorem dX5_worths_60 : decode cX5_worths 60 = .ok (.imul, 1) := dk_104 (dk_at dksX5_worths_2 13 rfl rfl)
theorem dX5_worths_61 : decode cX5_worths 61 = .ok (.iload_n 3, 1) := dk_29 (dk_at dksX5_worths_2 14 rfl rfl)
theorem dX5_worths_62 : decode cX5_worths 62 = .ok (.iadd, 1) := dk_96 (dk_at dksX5_worths_2 15 rfl rfl)
theorem dX5_worths_63 : decode cX5_worths 63 = .ok (.iaload, 1) := dk_46 (dk_at dksX5_worths_2 16 rfl rfl)
theorem dX5_worths_64 : decode cX5_worths 64 = .ok (.iconst 0, 1) := dk_3 (dk_at dksX5_worths_2 17 rfl rfl)
theorem dX5_worths_65 : decode cX5_worths 65 = .ok (.sipush 9999, 3) := dk_17 39 15 (dk_at dksX5_worths_2 18 rfl rfl)
theorem dX5_worths_68 : decode cX5_worths 68 = .ok (.invokestatic 47, 3) := dk_184 0 47 (dk_at dksX5_worths_2 21 rfl rfl)
theorem dX5_worths_71 : decode cX5_worths 71 = .ok (.ifCond .eq 34, 3) := dk_153 0 34 (dk_at dksX5_worths_3 0 rfl rfl)
theorem dX5_worths_74 : decode cX5_worths 74 = .ok (.aload_n 0, 1) := dk_42 (dk_at dksX5_worths_3 3 rfl rfl)
theorem dX5_worths_75 : decode cX5_worths 75 = .ok (.getfield 7, 3) := dk_180 0 7 (dk_at dksX5_worths_3 4 rfl rfl)
theorem dX5_worths_78 : decode cX5_worths 78 = .ok (.bipush 110, 2) := dk_16 110 (dk_at dksX5_worths_3 7 rfl rfl)
theorem dX5_worths_80 : decode cX5_worths 80 = .ok (.bipush 12, 2) := dk_16 12 (dk_at dksX5_worths_3 9 rfl rfl)
theorem dX5_worths_82 : decode cX5_worths 82 = .ok (.iload_n 2, 1) := dk_28 (dk_at dksX5_worths_3 11 rfl rfl)
theorem dX5_worths_83 : decode cX5_worths 83 = .ok (.imul, 1) := dk_104 (dk_at dksX5_worths_3 12 rfl rfl)
theorem dX5_worths_84 : decode cX5_worths 84 = .ok (.iadd, 1) := dk_96 (dk_at dksX5_worths_3 13 rfl rfl)
theorem dX5_worths_85 : decode cX5_worths 85 = .ok (.iload_n 3, 1) := dk_29 (dk_at dksX5_worths_3 14 rfl rfl)
theorem dX5_worths_86 : decode cX5_worths 86 = .ok (.iadd, 1) := dk_96 (dk_at dksX5_worths_3 15 rfl rfl)
theorem dX5_worths_87 : decode cX5_worths 87 = .ok (.aload_n 0, 1) := dk_42 (dk_at dksX5_worths_3 16 rfl rfl)
theorem dX5_worths_88 : decode cX5_worths 88 = .ok (.getfield 40, 3) := dk_180 0 40 (dk_at dksX5_worths_3 17 rfl rfl)
theorem dX5_worths_91 : decode cX5_worths 91 = .ok (.bipush 24, 2) := dk_16 24 (dk_at dksX5_worths_3 20 rfl rfl)
theorem dX5_worths_93 : decode cX5_worths 93 = .ok (.iload_n 1, 1) := dk_27 (dk_at dksX5_worths_3 22 rfl rfl)
theorem dX5_worths_94 : decode cX5_worths 94 = .ok (.imul, 1) := dk_104 (dk_at dksX5_worths_3 23 rfl rfl)
theorem dX5_worths_95 : decode cX5_worths 95 = .ok (.iload_n 3, 1) := dk_29 (dk_at dksX5_worths_4 0 rfl rfl)
theorem dX5_worths_96 : decode cX5_worths 96 = .ok (.iadd, 1) := dk_96 (dk_at dksX5_worths_4 1 rfl rfl)
theorem dX5_worths_97 : decode cX5_worths 97 = .ok (.iaload, 1) := dk_46 (dk_at dksX5_worths_4 2 rfl rfl)
theorem dX5_worths_98 : decode cX5_worths 98 = .ok (.iastore, 1) := dk_79 (dk_at dksX5_worths_4 3 rfl rfl)
theorem dX5_worths_99 : decode cX5_worths 99 = .ok (.iinc 3 1, 3) := dk_132 3 1 (dk_at dksX5_worths_4 4 rfl rfl)
theorem dX5_worths_102 : decode cX5_worths 102 = .ok (.goto (-67), 3) := dk_167 255 189 (dk_at dksX5_worths_4 7 rfl rfl)
theorem dX5_worths_105 : decode cX5_worths 105 = .ok (.iload_n 3, 1) := dk_29 (dk_at dksX5_worths_4 10 rfl rfl)
theorem dX5_worths_106 : decode cX5_worths 106 = .ok (.ireturn, 1) := dk_172 (dk_at dksX5_worths_4 11 rfl rfl)
abbrev cX5_missing : ByteArray := prog_20_method_99_code
def yX5_missing : MethodName := ⟨RX5, "missing", "(I)I"⟩
def dkwX5_missing_0 : List UInt8 := [42, 180, 0, 34, 27, 46, 154, 0, 11, 42, 5, 182, 0, 60, 167, 0, 4, 3, 172]
abbrev dktX5_missing_0 : List UInt8 := dkwX5_missing_0 ++ []
theorem dksX5_missing_0 : cX5_missing.data.toList.drop 0 = dktX5_missing_0 := by decide +kernel
theorem dX5_missing_0 : decode cX5_missing 0 = .ok (.aload_n 0, 1) := dk_42 (dk_at dksX5_missing_0 0 rfl rfl)
theorem dX5_missing_1 : decode cX5_missing 1 = .ok (.getfield 34, 3) := dk_180 0 34 (dk_at dksX5_missing_0 1 rfl rfl)
theorem dX5_missing_4 : decode cX5_missing 4 = .ok (.iload_n 1, 1) := dk_27 (dk_at dksX5_missing_0 4 rfl rfl)
theorem dX5_missing_5 : decode cX5_missing 5 = .ok (.iaload, 1) := dk_46 (dk_at dksX5_missing_0 5 rfl rfl)
theorem dX5_missing_6 : decode cX5_missing 6 = .ok (.ifCond .ne 11, 3) := dk_154 0 11 (dk_at dksX5_missing_0 6 rfl rfl)
theorem dX5_missing_9 : decode cX5_missing 9 = .ok (.aload_n 0, 1) := dk_42 (dk_at dksX5_missing_0 9 rfl rfl)
theorem dX5_missing_10 : decode cX5_missing 10 = .ok (.iconst 2, 1) := dk_5 (dk_at dksX5_missing_0 10 rfl rfl)
theorem dX5_missing_11 : decode cX5_missing 11 = .ok (.invokevirtual 60, 3) := dk_182 0 60 (dk_at dksX5_missing_0 11 rfl rfl)
theorem dX5_missing_14 : decode cX5_missing 14 = .ok (.goto 4, 3) := dk_167 0 4 (dk_at dksX5_missing_0 14 rfl rfl)
theorem dX5_missing_17 : decode cX5_missing 17 = .ok (.iconst 0, 1) := dk_3 (dk_at dksX5_missing_0 17 rfl rfl)
theorem dX5_missing_18 : decode cX5_missing 18 = .ok (.ireturn, 1) := dk_172 (dk_at dksX5_missing_0 18 rfl rfl)
abbrev cX5_judge : ByteArray := prog_20_method_101_code
def yX5_judge : MethodName := ⟨RX5, "judge", "(I)I"⟩
def dkwX5_judge_3 : List UInt8 := [28, 172]
abbrev dktX5_judge_3 : List UInt8 := dkwX5_judge_3 ++ []
def dkwX5_judge_2 : List UInt8 := [180, 0, 40, 16, 24, 27, 104, 28, 96, 46, 42, 28, 182, 0, 174, 160, 0, 9, 132, 2, 1, 167, 255, 216]
abbrev dktX5_judge_2 : List UInt8 := dkwX5_judge_2 ++ dktX5_judge_3
def dkwX5_judge_1 : List UInt8 := [172, 3, 61, 42, 28, 182, 0, 92, 153, 0, 38, 28, 42, 180, 0, 37, 27, 46, 162, 0, 28, 42]
abbrev dktX5_judge_1 : List UInt8 := dkwX5_judge_1 ++ dktX5_judge_2
def dkwX5_judge_0 : List UInt8 := [27, 184, 1, 23, 154, 0, 9, 42, 4, 182, 0, 60, 172, 42, 27, 182, 1, 26, 156, 0, 7, 19, 1, 29]
abbrev dktX5_judge_0 : List UInt8 := dkwX5_judge_0 ++ dktX5_judge_1
theorem dksX5_judge_0 : cX5_judge.data.toList.drop 0 = dktX5_judge_0 := by decide +kernel
theorem dksX5_judge_1 : cX5_judge.data.toList.drop 24 = dktX5_judge_1 := dk_seg dksX5_judge_0 24 rfl rfl
theorem dksX5_judge_2 : cX5_judge.data.toList.drop 46 = dktX5_judge_2 := dk_seg dksX5_judge_1 22 rfl rfl
theorem dksX5_judge_3 : cX5_judge.data.toList.drop 70 = dktX5_judge_3 := dk_seg dksX5_judge_2 24 rfl rfl
theorem dX5_judge_0 : decode cX5_judge 0 = .ok (.iload_n 1, 1) := dk_27 (dk_at dksX5_judge_0 0 rfl rfl)
theorem dX5_judge_1 : decode cX5_judge 1 = .ok (.invokestatic 279, 3) := dk_184 1 23 (dk_at dksX5_judge_0 1 rfl rfl)
theorem dX5_judge_4 : decode cX5_judge 4 = .ok (.ifCond .ne 9, 3) := dk_154 0 9 (dk_at dksX5_judge_0 4 rfl rfl)
theorem dX5_judge_7 : decode cX5_judge 7 = .ok (.aload_n 0, 1) := dk_42 (dk_at dksX5_judge_0 7 rfl rfl)
theorem dX5_judge_8 : decode cX5_judge 8 = .ok (.iconst 1, 1) := dk_4 (dk_at dksX5_judge_0 8 rfl rfl)
theorem dX5_judge_9 : decode cX5_judge 9 = .ok (.invokevirtual 60, 3) := dk_182 0 60 (dk_at dksX5_judge_0 9 rfl rfl)
theorem dX5_judge_12 : decode cX5_judge 12 = .ok (.ireturn, 1) := dk_172 (dk_at dksX5_judge_0 12 rfl rfl)
theorem dX5_judge_13 : decode cX5_judge 13 = .ok (.aload_n 0, 1) := dk_42 (dk_at dksX5_judge_0 13 rfl rfl)
theorem dX5_judge_14 : decode cX5_judge 14 = .ok (.iload_n 1, 1) := dk_27 (dk_at dksX5_judge_0 14 rfl rfl)
theorem dX5_judge_15 : decode cX5_judge 15 = .ok (.invokevirtual 282, 3) := dk_182 1 26 (dk_at dksX5_judge_0 15 rfl rfl)
theorem dX5_judge_18 : decode cX5_judge 18 = .ok (.ifCond .ge 7, 3) := dk_156 0 7 (dk_at dksX5_judge_0 18 rfl rfl)
theorem dX5_judge_21 : decode cX5_judge 21 = .ok (.ldc_w 285, 3) := dk_19 1 29 (dk_at dksX5_judge_0 21 rfl rfl)
theorem dX5_judge_24 : decode cX5_judge 24 = .ok (.ireturn, 1) := dk_172 (dk_at dksX5_judge_1 0 rfl rfl)
theorem dX5_judge_25 : decode cX5_judge 25 = .ok (.iconst 0, 1) := dk_3 (dk_at dksX5_judge_1 1 rfl rfl)
theorem dX5_judge_26 : decode cX5_judge 26 = .ok (.istore_n 2, 1) := dk_61 (dk_at dksX5_judge_1 2 rfl rfl)
theorem dX5_judge_27 : decode cX5_judge 27 = .ok (.aload_n 0, 1) := dk_42 (dk_at dksX5_judge_1 3 rfl rfl)
theorem dX5_judge_28 : decode cX5_judge 28 = .ok (.iload_n 2, 1) := dk_28 (dk_at dksX5_judge_1 4 rfl rfl)
theorem dX5_judge_29 : decode cX5_judge 29 = .ok (.invokevirtual 92, 3) := dk_182 0 92 (dk_at dksX5_judge_1 5 rfl rfl)
theorem dX5_judge_32 : decode cX5_judge 32 = .ok (.ifCond .eq 38, 3) := dk_153 0 38 (dk_at dksX5_judge_1 8 rfl rfl)
theorem dX5_judge_35 : decode cX5_judge 35 = .ok (.iload_n 2, 1) := dk_28 (dk_at dksX5_judge_1 11 rfl rfl)
theorem dX5_judge_36 : decode cX5_judge 36 = .ok (.aload_n 0, 1) := dk_42 (dk_at dksX5_judge_1 12 rfl rfl)
theorem dX5_judge_37 : decode cX5_judge 37 = .ok (.getfield 37, 3) := dk_180 0 37 (dk_at dksX5_judge_1 13 rfl rfl)
theorem dX5_judge_40 : decode cX5_judge 40 = .ok (.iload_n 1, 1) := dk_27 (dk_at dksX5_judge_1 16 rfl rfl)
theorem dX5_judge_41 : decode cX5_judge 41 = .ok (.iaload, 1) := dk_46 (dk_at dksX5_judge_1 17 rfl rfl)
theorem dX5_judge_42 : decode cX5_judge 42 = .ok (.if_icmp .ge 28, 3) := dk_162 0 28 (dk_at dksX5_judge_1 18 rfl rfl)
theorem dX5_judge_45 : decode cX5_judge 45 = .ok (.aload_n 0, 1) := dk_42 (dk_at dksX5_judge_1 21 rfl rfl)
theorem dX5_judge_46 : decode cX5_judge 46 = .ok (.getfield 40, 3) := dk_180 0 40 (dk_at dksX5_judge_2 0 rfl rfl)
theorem dX5_judge_49 : decode cX5_judge 49 = .ok (.bipush 24, 2) := dk_16 24 (dk_at dksX5_judge_2 3 rfl rfl)
theorem dX5_judge_51 : decode cX5_judge 51 = .ok (.iload_n 1, 1) := dk_27 (dk_at dksX5_judge_2 5 rfl rfl)
theorem dX5_judge_52 : decode cX5_judge 52 = .ok (.imul, 1) := dk_104 (dk_at dksX5_judge_2 6 rfl rfl)
theorem dX5_judge_53 : decode cX5_judge 53 = .ok (.iload_n 2, 1) := dk_28 (dk_at dksX5_judge_2 7 rfl rfl)
theorem dX5_judge_54 : decode cX5_judge 54 = .ok (.iadd, 1) := dk_96 (dk_at dksX5_judge_2 8 rfl rfl)
theorem dX5_judge_55 : decode cX5_judge 55 = .ok (.iaload, 1) := dk_46 (dk_at dksX5_judge_2 9 rfl rfl)
theorem dX5_judge_56 : decode cX5_judge 56 = .ok (.aload_n 0, 1) := dk_42 (dk_at dksX5_judge_2 10 rfl rfl)
theorem dX5_judge_57 : decode cX5_judge 57 = .ok (.iload_n 2, 1) := dk_28 (dk_at dksX5_judge_2 11 rfl rfl)
theorem dX5_judge_58 : decode cX5_judge 58 = .ok (.invokevirtual 174, 3) := dk_182 0 174 (dk_at dksX5_judge_2 12 rfl rfl)
theorem dX5_judge_61 : decode cX5_judge 61 = .ok (.if_icmp .ne 9, 3) := dk_160 0 9 (dk_at dksX5_judge_2 15 rfl rfl)
theorem dX5_judge_64 : decode cX5_judge 64 = .ok (.iinc 2 1, 3) := dk_132 2 1 (dk_at dksX5_judge_2 18 rfl rfl)
theorem dX5_judge_67 : decode cX5_judge 67 = .ok (.goto (-40), 3) := dk_167 255 216 (dk_at dksX5_judge_2 21 rfl rfl)
theorem dX5_judge_70 : decode cX5_judge 70 = .ok (.iload_n 2, 1) := dk_28 (dk_at dksX5_judge_3 0 rfl rfl)
theorem dX5_judge_71 : decode cX5_judge 71 = .ok (.ireturn, 1) := dk_172 (dk_at dksX5_judge_3 1 rfl rfl)
abbrev cX5_image : ByteArray := prog_20_method_102_code
def yX5_image : MethodName := ⟨RX5, "image", "()I"⟩
def dkwX5_image_1 : List UInt8 := [180, 1, 30, 172]
abbrev dktX5_image_1 : List UInt8 := dkwX5_image_1 ++ []
def dkwX5_image_0 : List UInt8 := [42, 180, 0, 7, 42, 180, 0, 13, 184, 0, 241, 42, 89, 180, 1, 30, 4, 96, 181, 1, 30, 42]
abbrev dktX5_image_0 : List UInt8 := dkwX5_image_0 ++ dktX5_image_1
theorem dksX5_image_0 : cX5_image.data.toList.drop 0 = dktX5_image_0 := by decide +kernel
theorem dksX5_image_1 : cX5_image.data.toList.drop 22 = dktX5_image_1 := dk_seg dksX5_image_0 22 rfl rfl
theorem dX5_image_0 : decode cX5_image 0 = .ok (.aload_n 0, 1) := dk_42 (dk_at dksX5_image_0 0 rfl rfl)
theorem dX5_image_1 : decode cX5_image 1 = .ok (.getfield 7, 3) := dk_180 0 7 (dk_at dksX5_image_0 1 rfl rfl)
theorem dX5_image_4 : decode cX5_image 4 = .ok (.aload_n 0, 1) := dk_42 (dk_at dksX5_image_0 4 rfl rfl)
theorem dX5_image_5 : decode cX5_image 5 = .ok (.getfield 13, 3) := dk_180 0 13 (dk_at dksX5_image_0 5 rfl rfl)
theorem dX5_image_8 : decode cX5_image 8 = .ok (.invokestatic 241, 3) := dk_184 0 241 (dk_at dksX5_image_0 8 rfl rfl)
theorem dX5_image_11 : decode cX5_image 11 = .ok (.aload_n 0, 1) := dk_42 (dk_at dksX5_image_0 11 rfl rfl)
theorem dX5_image_12 : decode cX5_image 12 = .ok (.dup, 1) := dk_89 (dk_at dksX5_image_0 12 rfl rfl)
theorem dX5_image_13 : decode cX5_image 13 = .ok (.getfield 286, 3) := dk_180 1 30 (dk_at dksX5_image_0 13 rfl rfl)
theorem dX5_image_16 : decode cX5_image 16 = .ok (.iconst 1, 1) := dk_4 (dk_at dksX5_image_0 16 rfl rfl)
theorem dX5_image_17 : decode cX5_image 17 = .ok (.iadd, 1) := dk_96 (dk_at dksX5_image_0 17 rfl rfl)
theorem dX5_image_18 : decode cX5_image 18 = .ok (.putfield 286, 3) := dk_181 1 30 (dk_at dksX5_image_0 18 rfl rfl)
theorem dX5_image_21 : decode cX5_image 21 = .ok (.aload_n 0, 1) := dk_42 (dk_at dksX5_image_0 21 rfl rfl)
theorem dX5_image_22 : decode cX5_image 22 = .ok (.getfield 286, 3) := dk_180 1 30 (dk_at dksX5_image_1 0 rfl rfl)
theorem dX5_image_25 : decode cX5_image 25 = .ok (.ireturn, 1) := dk_172 (dk_at dksX5_image_1 3 rfl rfl)
abbrev cX5_restore : ByteArray := prog_20_method_103_code
def yX5_restore : MethodName := ⟨RX5, "restore", "()I"⟩
def dkwX5_restore_1 : List UInt8 := [42, 180, 0, 7, 6, 46, 172]
abbrev dktX5_restore_1 : List UInt8 := dkwX5_restore_1 ++ []
def dkwX5_restore_0 : List UInt8 := [42, 180, 1, 30, 154, 0, 9, 42, 5, 182, 0, 60, 172, 42, 180, 0, 13, 42, 180, 0, 7, 184, 0, 241]
abbrev dktX5_restore_0 : List UInt8 := dkwX5_restore_0 ++ dktX5_restore_1
theorem dksX5_restore_0 : cX5_restore.data.toList.drop 0 = dktX5_restore_0 := by decide +kernel
theorem dksX5_restore_1 : cX5_restore.data.toList.drop 24 = dktX5_restore_1 := dk_seg dksX5_restore_0 24 rfl rfl
theorem dX5_restore_0 : decode cX5_restore 0 = .ok (.aload_n 0, 1) := dk_42 (dk_at dksX5_restore_0 0 rfl rfl)
theorem dX5_restore_1 : decode cX5_restore 1 = .ok (.getfield 286, 3) := dk_180 1 30 (dk_at dksX5_restore_0 1 rfl rfl)
theorem dX5_restore_4 : decode cX5_restore 4 = .ok (.ifCond .ne 9, 3) := dk_154 0 9 (dk_at dksX5_restore_0 4 rfl rfl)
theorem dX5_restore_7 : decode cX5_restore 7 = .ok (.aload_n 0, 1) := dk_42 (dk_at dksX5_restore_0 7 rfl rfl)
theorem dX5_restore_8 : decode cX5_restore 8 = .ok (.iconst 2, 1) := dk_5 (dk_at dksX5_restore_0 8 rfl rfl)
theorem dX5_restore_9 : decode cX5_restore 9 = .ok (.invokevirtual 60, 3) := dk_182 0 60 (dk_at dksX5_restore_0 9 rfl rfl)
theorem dX5_restore_12 : decode cX5_restore 12 = .ok (.ireturn, 1) := dk_172 (dk_at dksX5_restore_0 12 rfl rfl)
theorem dX5_restore_13 : decode cX5_restore 13 = .ok (.aload_n 0, 1) := dk_42 (dk_at dksX5_restore_0 13 rfl rfl)
theorem dX5_restore_14 : decode cX5_restore 14 = .ok (.getfield 13, 3) := dk_180 0 13 (dk_at dksX5_restore_0 14 rfl rfl)
theorem dX5_restore_17 : decode cX5_restore 17 = .ok (.aload_n 0, 1) := dk_42 (dk_at dksX5_restore_0 17 rfl rfl)
theorem dX5_restore_18 : decode cX5_restore 18 = .ok (.getfield 7, 3) := dk_180 0 7 (dk_at dksX5_restore_0 18 rfl rfl)
theorem dX5_restore_21 : decode cX5_restore 21 = .ok (.invokestatic 241, 3) := dk_184 0 241 (dk_at dksX5_restore_0 21 rfl rfl)
theorem dX5_restore_24 : decode cX5_restore 24 = .ok (.aload_n 0, 1) := dk_42 (dk_at dksX5_restore_1 0 rfl rfl)
theorem dX5_restore_25 : decode cX5_restore 25 = .ok (.getfield 7, 3) := dk_180 0 7 (dk_at dksX5_restore_1 1 rfl rfl)
theorem dX5_restore_28 : decode cX5_restore 28 = .ok (.iconst 3, 1) := dk_6 (dk_at dksX5_restore_1 4 rfl rfl)
theorem dX5_restore_29 : decode cX5_restore 29 = .ok (.iaload, 1) := dk_46 (dk_at dksX5_restore_1 5 rfl rfl)
theorem dX5_restore_30 : decode cX5_restore 30 = .ok (.ireturn, 1) := dk_172 (dk_at dksX5_restore_1 6 rfl rfl)
abbrev cX5_tell : ByteArray := prog_20_method_104_code
def yX5_tell : MethodName := ⟨RX5, "tell", "(I)I"⟩
def dkwX5_tell_2 : List UInt8 := [42, 180, 0, 7, 16, 7, 46, 172]
abbrev dktX5_tell_2 : List UInt8 := dkwX5_tell_2 ++ []
def dkwX5_tell_1 : List UInt8 := [17, 1, 236, 42, 180, 0, 7, 16, 7, 46, 96, 27, 79, 42, 180, 0, 7, 16, 7, 92, 46, 4, 96, 79]
abbrev dktX5_tell_1 : List UInt8 := dkwX5_tell_1 ++ dktX5_tell_2
def dkwX5_tell_0 : List UInt8 := [42, 180, 0, 7, 16, 7, 46, 16, 24, 160, 0, 9, 42, 7, 182, 0, 60, 172, 42, 180, 0, 7]
abbrev dktX5_tell_0 : List UInt8 := dkwX5_tell_0 ++ dktX5_tell_1
theorem dksX5_tell_0 : cX5_tell.data.toList.drop 0 = dktX5_tell_0 := by decide +kernel
theorem dksX5_tell_1 : cX5_tell.data.toList.drop 22 = dktX5_tell_1 := dk_seg dksX5_tell_0 22 rfl rfl
theorem dksX5_tell_2 : cX5_tell.data.toList.drop 46 = dktX5_tell_2 := dk_seg dksX5_tell_1 24 rfl rfl
theorem dX5_tell_0 : decode cX5_tell 0 = .ok (.aload_n 0, 1) := dk_42 (dk_at dksX5_tell_0 0 rfl rfl)
theorem dX5_tell_1 : decode cX5_tell 1 = .ok (.getfield 7, 3) := dk_180 0 7 (dk_at dksX5_tell_0 1 rfl rfl)
theorem dX5_tell_4 : decode cX5_tell 4 = .ok (.bipush 7, 2) := dk_16 7 (dk_at dksX5_tell_0 4 rfl rfl)
theorem dX5_tell_6 : decode cX5_tell 6 = .ok (.iaload, 1) := dk_46 (dk_at dksX5_tell_0 6 rfl rfl)
theorem dX5_tell_7 : decode cX5_tell 7 = .ok (.bipush 24, 2) := dk_16 24 (dk_at dksX5_tell_0 7 rfl rfl)
theorem dX5_tell_9 : decode cX5_tell 9 = .ok (.if_icmp .ne 9, 3) := dk_160 0 9 (dk_at dksX5_tell_0 9 rfl rfl)
theorem dX5_tell_12 : decode cX5_tell 12 = .ok (.aload_n 0, 1) := dk_42 (dk_at dksX5_tell_0 12 rfl rfl)
theorem dX5_tell_13 : decode cX5_tell 13 = .ok (.iconst 4, 1) := dk_7 (dk_at dksX5_tell_0 13 rfl rfl)
theorem dX5_tell_14 : decode cX5_tell 14 = .ok (.invokevirtual 60, 3) := dk_182 0 60 (dk_at dksX5_tell_0 14 rfl rfl)
theorem dX5_tell_17 : decode cX5_tell 17 = .ok (.ireturn, 1) := dk_172 (dk_at dksX5_tell_0 17 rfl rfl)
theorem dX5_tell_18 : decode cX5_tell 18 = .ok (.aload_n 0, 1) := dk_42 (dk_at dksX5_tell_0 18 rfl rfl)
theorem dX5_tell_19 : decode cX5_tell 19 = .ok (.getfield 7, 3) := dk_180 0 7 (dk_at dksX5_tell_0 19 rfl rfl)
theorem dX5_tell_22 : decode cX5_tell 22 = .ok (.sipush 492, 3) := dk_17 1 236 (dk_at dksX5_tell_1 0 rfl rfl)
theorem dX5_tell_25 : decode cX5_tell 25 = .ok (.aload_n 0, 1) := dk_42 (dk_at dksX5_tell_1 3 rfl rfl)
theorem dX5_tell_26 : decode cX5_tell 26 = .ok (.getfield 7, 3) := dk_180 0 7 (dk_at dksX5_tell_1 4 rfl rfl)
theorem dX5_tell_29 : decode cX5_tell 29 = .ok (.bipush 7, 2) := dk_16 7 (dk_at dksX5_tell_1 7 rfl rfl)
theorem dX5_tell_31 : decode cX5_tell 31 = .ok (.iaload, 1) := dk_46 (dk_at dksX5_tell_1 9 rfl rfl)
theorem dX5_tell_32 : decode cX5_tell 32 = .ok (.iadd, 1) := dk_96 (dk_at dksX5_tell_1 10 rfl rfl)
theorem dX5_tell_33 : decode cX5_tell 33 = .ok (.iload_n 1, 1) := dk_27 (dk_at dksX5_tell_1 11 rfl rfl)
theorem dX5_tell_34 : decode cX5_tell 34 = .ok (.iastore, 1) := dk_79 (dk_at dksX5_tell_1 12 rfl rfl)
theorem dX5_tell_35 : decode cX5_tell 35 = .ok (.aload_n 0, 1) := dk_42 (dk_at dksX5_tell_1 13 rfl rfl)
theorem dX5_tell_36 : decode cX5_tell 36 = .ok (.getfield 7, 3) := dk_180 0 7 (dk_at dksX5_tell_1 14 rfl rfl)
theorem dX5_tell_39 : decode cX5_tell 39 = .ok (.bipush 7, 2) := dk_16 7 (dk_at dksX5_tell_1 17 rfl rfl)
theorem dX5_tell_41 : decode cX5_tell 41 = .ok (.dup2, 1) := dk_92 (dk_at dksX5_tell_1 19 rfl rfl)
theorem dX5_tell_42 : decode cX5_tell 42 = .ok (.iaload, 1) := dk_46 (dk_at dksX5_tell_1 20 rfl rfl)
theorem dX5_tell_43 : decode cX5_tell 43 = .ok (.iconst 1, 1) := dk_4 (dk_at dksX5_tell_1 21 rfl rfl)
theorem dX5_tell_44 : decode cX5_tell 44 = .ok (.iadd, 1) := dk_96 (dk_at dksX5_tell_1 22 rfl rfl)
theorem dX5_tell_45 : decode cX5_tell 45 = .ok (.iastore, 1) := dk_79 (dk_at dksX5_tell_1 23 rfl rfl)
theorem dX5_tell_46 : decode cX5_tell 46 = .ok (.aload_n 0, 1) := dk_42 (dk_at dksX5_tell_2 0 rfl rfl)
theorem dX5_tell_47 : decode cX5_tell 47 = .ok (.getfield 7, 3) := dk_180 0 7 (dk_at dksX5_tell_2 1 rfl rfl)
theorem dX5_tell_50 : decode cX5_tell 50 = .ok (.bipush 7, 2) := dk_16 7 (dk_at dksX5_tell_2 4 rfl rfl)
theorem dX5_tell_52 : decode cX5_tell 52 = .ok (.iaload, 1) := dk_46 (dk_at dksX5_tell_2 6 rfl rfl)
theorem dX5_tell_53 : decode cX5_tell 53 = .ok (.ireturn, 1) := dk_172 (dk_at dksX5_tell_2 7 rfl rfl)
abbrev cX5_check : ByteArray := prog_20_method_105_code
def yX5_check : MethodName := ⟨RX5, "check", "(I)I"⟩
def dkwX5_check_5 : List UInt8 := [160, 0, 7, 3, 167, 0, 6, 4, 29, 96, 172]
abbrev dktX5_check_5 : List UInt8 := dkwX5_check_5 ++ []
def dkwX5_check_4 : List UInt8 := [153, 0, 7, 4, 167, 0, 4, 3, 96, 62, 132, 5, 1, 167, 255, 187, 21, 4, 153, 0, 12, 29, 28]
abbrev dktX5_check_4 : List UInt8 := dkwX5_check_4 ++ dktX5_check_5
def dkwX5_check_3 : List UInt8 := [180, 0, 7, 17, 1, 236, 29, 96, 46, 21, 5, 160, 0, 7, 4, 167, 0, 4, 3, 54, 4, 29, 21, 4]
abbrev dktX5_check_3 : List UInt8 := dkwX5_check_3 ++ dktX5_check_4
def dkwX5_check_2 : List UInt8 := [162, 0, 64, 21, 4, 153, 0, 59, 42, 21, 5, 182, 0, 67, 27, 160, 0, 43, 29, 28, 162, 0, 22, 42]
abbrev dktX5_check_2 : List UInt8 := dkwX5_check_2 ++ dktX5_check_3
def dkwX5_check_1 : List UInt8 := [42, 4, 182, 0, 60, 172, 3, 62, 4, 54, 4, 3, 54, 5, 21, 5, 42, 180, 0, 7, 4, 46]
abbrev dktX5_check_1 : List UInt8 := dkwX5_check_1 ++ dktX5_check_2
def dkwX5_check_0 : List UInt8 := [42, 180, 0, 7, 16, 7, 46, 61, 42, 180, 0, 7, 16, 7, 3, 79, 42, 27, 182, 0, 76, 154, 0, 9]
abbrev dktX5_check_0 : List UInt8 := dkwX5_check_0 ++ dktX5_check_1
theorem dksX5_check_0 : cX5_check.data.toList.drop 0 = dktX5_check_0 := by decide +kernel
theorem dksX5_check_1 : cX5_check.data.toList.drop 24 = dktX5_check_1 := dk_seg dksX5_check_0 24 rfl rfl
theorem dksX5_check_2 : cX5_check.data.toList.drop 46 = dktX5_check_2 := dk_seg dksX5_check_1 22 rfl rfl
theorem dksX5_check_3 : cX5_check.data.toList.drop 70 = dktX5_check_3 := dk_seg dksX5_check_2 24 rfl rfl
theorem dksX5_check_4 : cX5_check.data.toList.drop 94 = dktX5_check_4 := dk_seg dksX5_check_3 24 rfl rfl
theorem dksX5_check_5 : cX5_check.data.toList.drop 117 = dktX5_check_5 := dk_seg dksX5_check_4 23 rfl rfl
theorem dX5_check_0 : decode cX5_check 0 = .ok (.aload_n 0, 1) := dk_42 (dk_at dksX5_check_0 0 rfl rfl)
theorem dX5_check_1 : decode cX5_check 1 = .ok (.getfield 7, 3) := dk_180 0 7 (dk_at dksX5_check_0 1 rfl rfl)
theorem dX5_check_4 : decode cX5_check 4 = .ok (.bipush 7, 2) := dk_16 7 (dk_at dksX5_check_0 4 rfl rfl)
theorem dX5_check_6 : decode cX5_check 6 = .ok (.iaload, 1) := dk_46 (dk_at dksX5_check_0 6 rfl rfl)
theorem dX5_check_7 : decode cX5_check 7 = .ok (.istore_n 2, 1) := dk_61 (dk_at dksX5_check_0 7 rfl rfl)
theorem dX5_check_8 : decode cX5_check 8 = .ok (.aload_n 0, 1) := dk_42 (dk_at dksX5_check_0 8 rfl rfl)
theorem dX5_check_9 : decode cX5_check 9 = .ok (.getfield 7, 3) := dk_180 0 7 (dk_at dksX5_check_0 9 rfl rfl)
theorem dX5_check_12 : decode cX5_check 12 = .ok (.bipush 7, 2) := dk_16 7 (dk_at dksX5_check_0 12 rfl rfl)
theorem dX5_check_14 : decode cX5_check 14 = .ok (.iconst 0, 1) := dk_3 (dk_at dksX5_check_0 14 rfl rfl)
theorem dX5_check_15 : decode cX5_check 15 = .ok (.iastore, 1) := dk_79 (dk_at dksX5_check_0 15 rfl rfl)
theorem dX5_check_16 : decode cX5_check 16 = .ok (.aload_n 0, 1) := dk_42 (dk_at dksX5_check_0 16 rfl rfl)
theorem dX5_check_17 : decode cX5_check 17 = .ok (.iload_n 1, 1) := dk_27 (dk_at dksX5_check_0 17 rfl rfl)
theorem dX5_check_18 : decode cX5_check 18 = .ok (.invokevirtual 76, 3) := dk_182 0 76 (dk_at dksX5_check_0 18 rfl rfl)
theorem dX5_check_21 : decode cX5_check 21 = .ok (.ifCond .ne 9, 3) := dk_154 0 9 (dk_at dksX5_check_0 21 rfl rfl)
theorem dX5_check_24 : decode cX5_check 24 = .ok (.aload_n 0, 1) := dk_42 (dk_at dksX5_check_1 0 rfl rfl)
theorem dX5_check_25 : decode cX5_check 25 = .ok (.iconst 1, 1) := dk_4 (dk_at dksX5_check_1 1 rfl rfl)
theorem dX5_check_26 : decode cX5_check 26 = .ok (.invokevirtual 60, 3) := dk_182 0 60 (dk_at dksX5_check_1 2 rfl rfl)
theorem dX5_check_29 : decode cX5_check 29 = .ok (.ireturn, 1) := dk_172 (dk_at dksX5_check_1 5 rfl rfl)
theorem dX5_check_30 : decode cX5_check 30 = .ok (.iconst 0, 1) := dk_3 (dk_at dksX5_check_1 6 rfl rfl)
theorem dX5_check_31 : decode cX5_check 31 = .ok (.istore_n 3, 1) := dk_62 (dk_at dksX5_check_1 7 rfl rfl)
theorem dX5_check_32 : decode cX5_check 32 = .ok (.iconst 1, 1) := dk_4 (dk_at dksX5_check_1 8 rfl rfl)
theorem dX5_check_33 : decode cX5_check 33 = .ok (.istore 4, 2) := dk_54 4 (dk_at dksX5_check_1 9 rfl rfl)
theorem dX5_check_35 : decode cX5_check 35 = .ok (.iconst 0, 1) := dk_3 (dk_at dksX5_check_1 11 rfl rfl)
theorem dX5_check_36 : decode cX5_check 36 = .ok (.istore 5, 2) := dk_54 5 (dk_at dksX5_check_1 12 rfl rfl)
theorem dX5_check_38 : decode cX5_check 38 = .ok (.iload 5, 2) := dk_21 5 (dk_at dksX5_check_1 14 rfl rfl)
theorem dX5_check_40 : decode cX5_check 40 = .ok (.aload_n 0, 1) := dk_42 (dk_at dksX5_check_1 16 rfl rfl)
theorem dX5_check_41 : decode cX5_check 41 = .ok (.getfield 7, 3) := dk_180 0 7 (dk_at dksX5_check_1 17 rfl rfl)
theorem dX5_check_44 : decode cX5_check 44 = .ok (.iconst 1, 1) := dk_4 (dk_at dksX5_check_1 20 rfl rfl)
theorem dX5_check_45 : decode cX5_check 45 = .ok (.iaload, 1) := dk_46 (dk_at dksX5_check_1 21 rfl rfl)
theorem dX5_check_46 : decode cX5_check 46 = .ok (.if_icmp .ge 64, 3) := dk_162 0 64 (dk_at dksX5_check_2 0 rfl rfl)
theorem dX5_check_49 : decode cX5_check 49 = .ok (.iload 4, 2) := dk_21 4 (dk_at dksX5_check_2 3 rfl rfl)
theorem dX5_check_51 : decode cX5_check 51 = .ok (.ifCond .eq 59, 3) := dk_153 0 59 (dk_at dksX5_check_2 5 rfl rfl)
theorem dX5_check_54 : decode cX5_check 54 = .ok (.aload_n 0, 1) := dk_42 (dk_at dksX5_check_2 8 rfl rfl)
theorem dX5_check_55 : decode cX5_check 55 = .ok (.iload 5, 2) := dk_21 5 (dk_at dksX5_check_2 9 rfl rfl)
theorem dX5_check_57 : decode cX5_check 57 = .ok (.invokevirtual 67, 3) := dk_182 0 67 (dk_at dksX5_check_2 11 rfl rfl)
theorem dX5_check_60 : decode cX5_check 60 = .ok (.iload_n 1, 1) := dk_27 (dk_at dksX5_check_2 14 rfl rfl)
theorem dX5_check_61 : decode cX5_check 61 = .ok (.if_icmp .ne 43, 3) := dk_160 0 43 (dk_at dksX5_check_2 15 rfl rfl)
theorem dX5_check_64 : decode cX5_check 64 = .ok (.iload_n 3, 1) := dk_29 (dk_at dksX5_check_2 18 rfl rfl)
theorem dX5_check_65 : decode cX5_check 65 = .ok (.iload_n 2, 1) := dk_28 (dk_at dksX5_check_2 19 rfl rfl)
theorem dX5_check_66 : decode cX5_check 66 = .ok (.if_icmp .ge 22, 3) := dk_162 0 22 (dk_at dksX5_check_2 20 rfl rfl)
theorem dX5_check_69 : decode cX5_check 69 = .ok (.aload_n 0, 1) := dk_42 (dk_at dksX5_check_2 23 rfl rfl)
theorem dX5_check_70 : decode cX5_check 70 = .ok (.getfield 7, 3) := dk_180 0 7 (dk_at dksX5_check_3 0 rfl rfl)
theorem dX5_check_73 : decode cX5_check 73 = .ok (.sipush 492, 3) := dk_17 1 236 (dk_at dksX5_check_3 3 rfl rfl)
theorem dX5_check_76 : decode cX5_check 76 = .ok (.iload_n 3, 1) := dk_29 (dk_at dksX5_check_3 6 rfl rfl)
theorem dX5_check_77 : decode cX5_check 77 = .ok (.iadd, 1) := dk_96 (dk_at dksX5_check_3 7 rfl rfl)
theorem dX5_check_78 : decode cX5_check 78 = .ok (.iaload, 1) := dk_46 (dk_at dksX5_check_3 8 rfl rfl)
theorem dX5_check_79 : decode cX5_check 79 = .ok (.iload 5, 2) := dk_21 5 (dk_at dksX5_check_3 9 rfl rfl)
theorem dX5_check_81 : decode cX5_check 81 = .ok (.if_icmp .ne 7, 3) := dk_160 0 7 (dk_at dksX5_check_3 11 rfl rfl)
theorem dX5_check_84 : decode cX5_check 84 = .ok (.iconst 1, 1) := dk_4 (dk_at dksX5_check_3 14 rfl rfl)
theorem dX5_check_85 : decode cX5_check 85 = .ok (.goto 4, 3) := dk_167 0 4 (dk_at dksX5_check_3 15 rfl rfl)
theorem dX5_check_88 : decode cX5_check 88 = .ok (.iconst 0, 1) := dk_3 (dk_at dksX5_check_3 18 rfl rfl)
theorem dX5_check_89 : decode cX5_check 89 = .ok (.istore 4, 2) := dk_54 4 (dk_at dksX5_check_3 19 rfl rfl)
theorem dX5_check_91 : decode cX5_check 91 = .ok (.iload_n 3, 1) := dk_29 (dk_at dksX5_check_3 21 rfl rfl)
theorem dX5_check_92 : decode cX5_check 92 = .ok (.iload 4, 2) := dk_21 4 (dk_at dksX5_check_3 22 rfl rfl)
theorem dX5_check_94 : decode cX5_check 94 = .ok (.ifCond .eq 7, 3) := dk_153 0 7 (dk_at dksX5_check_4 0 rfl rfl)
theorem dX5_check_97 : decode cX5_check 97 = .ok (.iconst 1, 1) := dk_4 (dk_at dksX5_check_4 3 rfl rfl)
theorem dX5_check_98 : decode cX5_check 98 = .ok (.goto 4, 3) := dk_167 0 4 (dk_at dksX5_check_4 4 rfl rfl)
theorem dX5_check_101 : decode cX5_check 101 = .ok (.iconst 0, 1) := dk_3 (dk_at dksX5_check_4 7 rfl rfl)
theorem dX5_check_102 : decode cX5_check 102 = .ok (.iadd, 1) := dk_96 (dk_at dksX5_check_4 8 rfl rfl)
theorem dX5_check_103 : decode cX5_check 103 = .ok (.istore_n 3, 1) := dk_62 (dk_at dksX5_check_4 9 rfl rfl)
theorem dX5_check_104 : decode cX5_check 104 = .ok (.iinc 5 1, 3) := dk_132 5 1 (dk_at dksX5_check_4 10 rfl rfl)
theorem dX5_check_107 : decode cX5_check 107 = .ok (.goto (-69), 3) := dk_167 255 187 (dk_at dksX5_check_4 13 rfl rfl)
theorem dX5_check_110 : decode cX5_check 110 = .ok (.iload 4, 2) := dk_21 4 (dk_at dksX5_check_4 16 rfl rfl)
theorem dX5_check_112 : decode cX5_check 112 = .ok (.ifCond .eq 12, 3) := dk_153 0 12 (dk_at dksX5_check_4 18 rfl rfl)
theorem dX5_check_115 : decode cX5_check 115 = .ok (.iload_n 3, 1) := dk_29 (dk_at dksX5_check_4 21 rfl rfl)
theorem dX5_check_116 : decode cX5_check 116 = .ok (.iload_n 2, 1) := dk_28 (dk_at dksX5_check_4 22 rfl rfl)
theorem dX5_check_117 : decode cX5_check 117 = .ok (.if_icmp .ne 7, 3) := dk_160 0 7 (dk_at dksX5_check_5 0 rfl rfl)
theorem dX5_check_120 : decode cX5_check 120 = .ok (.iconst 0, 1) := dk_3 (dk_at dksX5_check_5 3 rfl rfl)
theorem dX5_check_121 : decode cX5_check 121 = .ok (.goto 6, 3) := dk_167 0 6 (dk_at dksX5_check_5 4 rfl rfl)
theorem dX5_check_124 : decode cX5_check 124 = .ok (.iconst 1, 1) := dk_4 (dk_at dksX5_check_5 7 rfl rfl)
theorem dX5_check_125 : decode cX5_check 125 = .ok (.iload_n 3, 1) := dk_29 (dk_at dksX5_check_5 8 rfl rfl)
theorem dX5_check_126 : decode cX5_check 126 = .ok (.iadd, 1) := dk_96 (dk_at dksX5_check_5 9 rfl rfl)
theorem dX5_check_127 : decode cX5_check 127 = .ok (.ireturn, 1) := dk_172 (dk_at dksX5_check_5 10 rfl rfl)
abbrev cX5_count : ByteArray := prog_20_method_106_code
def yX5_count : MethodName := ⟨RX5, "count", "(I)I"⟩
def dkwX5_count_4 : List UInt8 := [180, 0, 245, 172, 42, 180, 0, 7, 16, 8, 46, 172, 42, 4, 182, 0, 60, 172]
abbrev dktX5_count_4 : List UInt8 := dkwX5_count_4 ++ []
def dkwX5_count_3 : List UInt8 := [180, 0, 7, 6, 46, 172, 42, 180, 0, 7, 16, 6, 46, 172, 42, 180, 0, 7, 16, 7, 46, 172, 42]
abbrev dktX5_count_3 : List UInt8 := dkwX5_count_3 ++ dktX5_count_4
def dkwX5_count_2 : List UInt8 := [42, 180, 0, 7, 3, 46, 172, 42, 180, 0, 7, 4, 46, 172, 42, 180, 0, 7, 5, 46, 172, 42]
abbrev dktX5_count_2 : List UInt8 := dkwX5_count_2 ++ dktX5_count_3
def dkwX5_count_1 : List UInt8 := [170, 0, 0, 0, 0, 0, 104, 0, 0, 0, 0, 0, 0, 0, 7, 0, 0, 0, 47, 0, 0, 0, 54, 0, 0, 0, 61, 0, 0, 0, 68, 0, 0, 0, 75, 0, 0, 0, 83, 0, 0, 0, 91, 0, 0, 0, 96]
abbrev dktX5_count_1 : List UInt8 := dkwX5_count_1 ++ dktX5_count_2
def dkwX5_count_0 : List UInt8 := [27]
abbrev dktX5_count_0 : List UInt8 := dkwX5_count_0 ++ dktX5_count_1
theorem dksX5_count_0 : cX5_count.data.toList.drop 0 = dktX5_count_0 := by decide +kernel
theorem dksX5_count_1 : cX5_count.data.toList.drop 1 = dktX5_count_1 := dk_seg dksX5_count_0 1 rfl rfl
theorem dksX5_count_2 : cX5_count.data.toList.drop 48 = dktX5_count_2 := dk_seg dksX5_count_1 47 rfl rfl
theorem dksX5_count_3 : cX5_count.data.toList.drop 70 = dktX5_count_3 := dk_seg dksX5_count_2 22 rfl rfl
theorem dksX5_count_4 : cX5_count.data.toList.drop 93 = dktX5_count_4 := dk_seg dksX5_count_3 23 rfl rfl
theorem dX5_count_0 : decode cX5_count 0 = .ok (.iload_n 1, 1) := dk_27 (dk_at dksX5_count_0 0 rfl rfl)
theorem dX5_count_1 : decode cX5_count 1 = .ok (.tableswitch 104 0 7 #[47, 54, 61, 68, 75, 83, 91, 96], 47) := by decide +kernel
theorem dX5_count_48 : decode cX5_count 48 = .ok (.aload_n 0, 1) := dk_42 (dk_at dksX5_count_2 0 rfl rfl)
theorem dX5_count_49 : decode cX5_count 49 = .ok (.getfield 7, 3) := dk_180 0 7 (dk_at dksX5_count_2 1 rfl rfl)
theorem dX5_count_52 : decode cX5_count 52 = .ok (.iconst 0, 1) := dk_3 (dk_at dksX5_count_2 4 rfl rfl)
theorem dX5_count_53 : decode cX5_count 53 = .ok (.iaload, 1) := dk_46 (dk_at dksX5_count_2 5 rfl rfl)
theorem dX5_count_54 : decode cX5_count 54 = .ok (.ireturn, 1) := dk_172 (dk_at dksX5_count_2 6 rfl rfl)
theorem dX5_count_55 : decode cX5_count 55 = .ok (.aload_n 0, 1) := dk_42 (dk_at dksX5_count_2 7 rfl rfl)
theorem dX5_count_56 : decode cX5_count 56 = .ok (.getfield 7, 3) := dk_180 0 7 (dk_at dksX5_count_2 8 rfl rfl)
theorem dX5_count_59 : decode cX5_count 59 = .ok (.iconst 1, 1) := dk_4 (dk_at dksX5_count_2 11 rfl rfl)
theorem dX5_count_60 : decode cX5_count 60 = .ok (.iaload, 1) := dk_46 (dk_at dksX5_count_2 12 rfl rfl)
theorem dX5_count_61 : decode cX5_count 61 = .ok (.ireturn, 1) := dk_172 (dk_at dksX5_count_2 13 rfl rfl)
theorem dX5_count_62 : decode cX5_count 62 = .ok (.aload_n 0, 1) := dk_42 (dk_at dksX5_count_2 14 rfl rfl)
theorem dX5_count_63 : decode cX5_count 63 = .ok (.getfield 7, 3) := dk_180 0 7 (dk_at dksX5_count_2 15 rfl rfl)
theorem dX5_count_66 : decode cX5_count 66 = .ok (.iconst 2, 1) := dk_5 (dk_at dksX5_count_2 18 rfl rfl)
theorem dX5_count_67 : decode cX5_count 67 = .ok (.iaload, 1) := dk_46 (dk_at dksX5_count_2 19 rfl rfl)
theorem dX5_count_68 : decode cX5_count 68 = .ok (.ireturn, 1) := dk_172 (dk_at dksX5_count_2 20 rfl rfl)
theorem dX5_count_69 : decode cX5_count 69 = .ok (.aload_n 0, 1) := dk_42 (dk_at dksX5_count_2 21 rfl rfl)
theorem dX5_count_70 : decode cX5_count 70 = .ok (.getfield 7, 3) := dk_180 0 7 (dk_at dksX5_count_3 0 rfl rfl)
theorem dX5_count_73 : decode cX5_count 73 = .ok (.iconst 3, 1) := dk_6 (dk_at dksX5_count_3 3 rfl rfl)
theorem dX5_count_74 : decode cX5_count 74 = .ok (.iaload, 1) := dk_46 (dk_at dksX5_count_3 4 rfl rfl)
theorem dX5_count_75 : decode cX5_count 75 = .ok (.ireturn, 1) := dk_172 (dk_at dksX5_count_3 5 rfl rfl)
theorem dX5_count_76 : decode cX5_count 76 = .ok (.aload_n 0, 1) := dk_42 (dk_at dksX5_count_3 6 rfl rfl)
theorem dX5_count_77 : decode cX5_count 77 = .ok (.getfield 7, 3) := dk_180 0 7 (dk_at dksX5_count_3 7 rfl rfl)
theorem dX5_count_80 : decode cX5_count 80 = .ok (.bipush 6, 2) := dk_16 6 (dk_at dksX5_count_3 10 rfl rfl)
theorem dX5_count_82 : decode cX5_count 82 = .ok (.iaload, 1) := dk_46 (dk_at dksX5_count_3 12 rfl rfl)
theorem dX5_count_83 : decode cX5_count 83 = .ok (.ireturn, 1) := dk_172 (dk_at dksX5_count_3 13 rfl rfl)
theorem dX5_count_84 : decode cX5_count 84 = .ok (.aload_n 0, 1) := dk_42 (dk_at dksX5_count_3 14 rfl rfl)
theorem dX5_count_85 : decode cX5_count 85 = .ok (.getfield 7, 3) := dk_180 0 7 (dk_at dksX5_count_3 15 rfl rfl)
theorem dX5_count_88 : decode cX5_count 88 = .ok (.bipush 7, 2) := dk_16 7 (dk_at dksX5_count_3 18 rfl rfl)
theorem dX5_count_90 : decode cX5_count 90 = .ok (.iaload, 1) := dk_46 (dk_at dksX5_count_3 20 rfl rfl)
theorem dX5_count_91 : decode cX5_count 91 = .ok (.ireturn, 1) := dk_172 (dk_at dksX5_count_3 21 rfl rfl)
theorem dX5_count_92 : decode cX5_count 92 = .ok (.aload_n 0, 1) := dk_42 (dk_at dksX5_count_3 22 rfl rfl)
theorem dX5_count_93 : decode cX5_count 93 = .ok (.getfield 245, 3) := dk_180 0 245 (dk_at dksX5_count_4 0 rfl rfl)
theorem dX5_count_96 : decode cX5_count 96 = .ok (.ireturn, 1) := dk_172 (dk_at dksX5_count_4 3 rfl rfl)
theorem dX5_count_97 : decode cX5_count 97 = .ok (.aload_n 0, 1) := dk_42 (dk_at dksX5_count_4 4 rfl rfl)
theorem dX5_count_98 : decode cX5_count 98 = .ok (.getfield 7, 3) := dk_180 0 7 (dk_at dksX5_count_4 5 rfl rfl)
theorem dX5_count_101 : decode cX5_count 101 = .ok (.bipush 8, 2) := dk_16 8 (dk_at dksX5_count_4 8 rfl rfl)
theorem dX5_count_103 : decode cX5_count 103 = .ok (.iaload, 1) := dk_46 (dk_at dksX5_count_4 10 rfl rfl)
theorem dX5_count_104 : decode cX5_count 104 = .ok (.ireturn, 1) := dk_172 (dk_at dksX5_count_4 11 rfl rfl)
theorem dX5_count_105 : decode cX5_count 105 = .ok (.aload_n 0, 1) := dk_42 (dk_at dksX5_count_4 12 rfl rfl)
theorem dX5_count_106 : decode cX5_count 106 = .ok (.iconst 1, 1) := dk_4 (dk_at dksX5_count_4 13 rfl rfl)
theorem dX5_count_107 : decode cX5_count 107 = .ok (.invokevirtual 60, 3) := dk_182 0 60 (dk_at dksX5_count_4 14 rfl rfl)
theorem dX5_count_110 : decode cX5_count 110 = .ok (.ireturn, 1) := dk_172 (dk_at dksX5_count_4 17 rfl rfl)
abbrev cX5_told : ByteArray := prog_20_method_107_code
def yX5_told : MethodName := ⟨RX5, "told", "(I)I"⟩
def dkwX5_told_1 : List UInt8 := [172]
abbrev dktX5_told_1 : List UInt8 := dkwX5_told_1 ++ []
def dkwX5_told_0 : List UInt8 := [27, 4, 16, 6, 184, 0, 47, 153, 0, 12, 42, 180, 0, 19, 27, 46, 167, 0, 8, 42, 4, 182, 0, 60]
abbrev dktX5_told_0 : List UInt8 := dkwX5_told_0 ++ dktX5_told_1
theorem dksX5_told_0 : cX5_told.data.toList.drop 0 = dktX5_told_0 := by decide +kernel
theorem dksX5_told_1 : cX5_told.data.toList.drop 24 = dktX5_told_1 := dk_seg dksX5_told_0 24 rfl rfl
theorem dX5_told_0 : decode cX5_told 0 = .ok (.iload_n 1, 1) := dk_27 (dk_at dksX5_told_0 0 rfl rfl)
theorem dX5_told_1 : decode cX5_told 1 = .ok (.iconst 1, 1) := dk_4 (dk_at dksX5_told_0 1 rfl rfl)
theorem dX5_told_2 : decode cX5_told 2 = .ok (.bipush 6, 2) := dk_16 6 (dk_at dksX5_told_0 2 rfl rfl)
theorem dX5_told_4 : decode cX5_told 4 = .ok (.invokestatic 47, 3) := dk_184 0 47 (dk_at dksX5_told_0 4 rfl rfl)
theorem dX5_told_7 : decode cX5_told 7 = .ok (.ifCond .eq 12, 3) := dk_153 0 12 (dk_at dksX5_told_0 7 rfl rfl)
theorem dX5_told_10 : decode cX5_told 10 = .ok (.aload_n 0, 1) := dk_42 (dk_at dksX5_told_0 10 rfl rfl)
theorem dX5_told_11 : decode cX5_told 11 = .ok (.getfield 19, 3) := dk_180 0 19 (dk_at dksX5_told_0 11 rfl rfl)
theorem dX5_told_14 : decode cX5_told 14 = .ok (.iload_n 1, 1) := dk_27 (dk_at dksX5_told_0 14 rfl rfl)
theorem dX5_told_15 : decode cX5_told 15 = .ok (.iaload, 1) := dk_46 (dk_at dksX5_told_0 15 rfl rfl)
theorem dX5_told_16 : decode cX5_told 16 = .ok (.goto 8, 3) := dk_167 0 8 (dk_at dksX5_told_0 16 rfl rfl)
theorem dX5_told_19 : decode cX5_told 19 = .ok (.aload_n 0, 1) := dk_42 (dk_at dksX5_told_0 19 rfl rfl)
theorem dX5_told_20 : decode cX5_told 20 = .ok (.iconst 1, 1) := dk_4 (dk_at dksX5_told_0 20 rfl rfl)
theorem dX5_told_21 : decode cX5_told 21 = .ok (.invokevirtual 60, 3) := dk_182 0 60 (dk_at dksX5_told_0 21 rfl rfl)
theorem dX5_told_24 : decode cX5_told 24 = .ok (.ireturn, 1) := dk_172 (dk_at dksX5_told_1 0 rfl rfl)
theorem q95 : (Jvm.Cond.initialized "NamedPricesModel") ∈ lw_all := lw_g (lw_at lw_m1 6 rfl) rfl
theorem q1369 : (Jvm.Cond.instantiable "NamedPricesModel" (20 : Nat)) ∈ lw_all := lw_g (lw_at lw_m6 80 rfl) rfl
theorem q1371 : (Jvm.Cond.instanceMethod ({ cls := "NamedPricesModel", name := "<init>", desc := "()V" } : Jvm.MethodName)) ∈ lw_all := lw_g (lw_at lw_m6 82 rfl) rfl
theorem q1372 : (Jvm.Cond.code ({ cls := "NamedPricesModel", name := "<init>", desc := "()V" } : Jvm.MethodName) prog_20_method_1_code (1 : Nat) (Option.none : Option Jvm.ClassFile.FieldType)) ∈ lw_all := lw_g (lw_at lw_m6 83 rfl) rfl
theorem q1373 : (Jvm.Cond.methodLink "NamedPricesModel" (1 : Nat) ({ cls := "java/lang/Object", name := "<init>", desc := "()V" } : Jvm.MethodName)) ∈ lw_all := lw_g (lw_at lw_m6 84 rfl) rfl
theorem q1374 : (Jvm.Cond.fieldLink "NamedPricesModel" (7 : Nat) "NamedPricesModel" "s" "[I") ∈ lw_all := lw_g (lw_at lw_m6 85 rfl) rfl
theorem q1375 : (Jvm.Cond.fieldLink "NamedPricesModel" (13 : Nat) "NamedPricesModel" "kept" "[I") ∈ lw_all := lw_g (lw_at lw_m6 86 rfl) rfl
theorem q1376 : (Jvm.Cond.fieldLink "NamedPricesModel" (16 : Nat) "NamedPricesModel" "put" "[I") ∈ lw_all := lw_g (lw_at lw_m6 87 rfl) rfl
theorem q1377 : (Jvm.Cond.fieldLink "NamedPricesModel" (286 : Nat) "NamedPricesModel" "images" "I") ∈ lw_all := lw_g (lw_at lw_m6 88 rfl) rfl
theorem q1378 : (Jvm.Cond.fieldLink "NamedPricesModel" (19 : Nat) "NamedPricesModel" "errors" "[I") ∈ lw_all := lw_g (lw_at lw_m6 89 rfl) rfl
theorem q1379 : (Jvm.Cond.fieldLink "NamedPricesModel" (106 : Nat) "NamedPricesModel" "at" "I") ∈ lw_all := lw_g (lw_at lw_m6 90 rfl) rfl
theorem q1380 : (Jvm.Cond.fieldLink "NamedPricesModel" (140 : Nat) "NamedPricesModel" "open" "I") ∈ lw_all := lw_g (lw_at lw_m6 91 rfl) rfl
theorem q1381 : (Jvm.Cond.fieldLink "NamedPricesModel" (113 : Nat) "NamedPricesModel" "steps" "I") ∈ lw_all := lw_g (lw_at lw_m6 92 rfl) rfl
theorem q1382 : (Jvm.Cond.fieldLink "NamedPricesModel" (110 : Nat) "NamedPricesModel" "use" "I") ∈ lw_all := lw_g (lw_at lw_m6 93 rfl) rfl
theorem q1383 : (Jvm.Cond.fieldLink "NamedPricesModel" (22 : Nat) "NamedPricesModel" "step" "[I") ∈ lw_all := lw_g (lw_at lw_m6 94 rfl) rfl
theorem q1384 : (Jvm.Cond.fieldLink "NamedPricesModel" (25 : Nat) "NamedPricesModel" "named" "[I") ∈ lw_all := lw_g (lw_at lw_m6 95 rfl) rfl
theorem q1385 : (Jvm.Cond.fieldLink "NamedPricesModel" (28 : Nat) "NamedPricesModel" "pile" "[I") ∈ lw_all := lw_g (lw_at lw_m6 96 rfl) rfl
theorem q1386 : (Jvm.Cond.fieldLink "NamedPricesModel" (31 : Nat) "NamedPricesModel" "trace" "[I") ∈ lw_all := lw_g (lw_at lw_m6 97 rfl) rfl
theorem q1387 : (Jvm.Cond.fieldLink "NamedPricesModel" (245 : Nat) "NamedPricesModel" "traced" "I") ∈ lw_all := lw_g (lw_at lw_m6 98 rfl) rfl
theorem q1388 : (Jvm.Cond.fieldLink "NamedPricesModel" (248 : Nat) "NamedPricesModel" "speaks" "I") ∈ lw_all := lw_g (lw_at lw_m6 99 rfl) rfl
theorem q1389 : (Jvm.Cond.fieldLink "NamedPricesModel" (272 : Nat) "NamedPricesModel" "isParted" "Z") ∈ lw_all := lw_g (lw_at lw_m6 100 rfl) rfl
theorem q1390 : (Jvm.Cond.fieldLink "NamedPricesModel" (34 : Nat) "NamedPricesModel" "bits" "[I") ∈ lw_all := lw_g (lw_at lw_m6 101 rfl) rfl
theorem q1391 : (Jvm.Cond.fieldLink "NamedPricesModel" (37 : Nat) "NamedPricesModel" "sizes" "[I") ∈ lw_all := lw_g (lw_at lw_m6 102 rfl) rfl
theorem q1392 : (Jvm.Cond.fieldLink "NamedPricesModel" (40 : Nat) "NamedPricesModel" "number" "[I") ∈ lw_all := lw_g (lw_at lw_m6 103 rfl) rfl
theorem q1393 : (Jvm.Cond.fieldLink "NamedPricesModel" (43 : Nat) "NamedPricesModel" "aside" "[I") ∈ lw_all := lw_g (lw_at lw_m6 104 rfl) rfl
theorem q1394 : (Jvm.Cond.laysFinal "NamedPricesModel" "NamedPricesModel" "s" "[I") ∈ lw_all := lw_g (lw_at lw_m6 105 rfl) rfl
theorem q1395 : (Jvm.Cond.soleField "NamedPricesModel" "s") ∈ lw_all := lw_g (lw_at lw_m6 106 rfl) rfl
theorem q1396 : (Jvm.Cond.laysFinal "NamedPricesModel" "NamedPricesModel" "kept" "[I") ∈ lw_all := lw_g (lw_at lw_m6 107 rfl) rfl
theorem q1397 : (Jvm.Cond.soleField "NamedPricesModel" "kept") ∈ lw_all := lw_g (lw_at lw_m6 108 rfl) rfl
theorem q1398 : (Jvm.Cond.laysFinal "NamedPricesModel" "NamedPricesModel" "put" "[I") ∈ lw_all := lw_g (lw_at lw_m6 109 rfl) rfl
theorem q1399 : (Jvm.Cond.soleField "NamedPricesModel" "put") ∈ lw_all := lw_g (lw_at lw_m6 110 rfl) rfl
theorem q1400 : (Jvm.Cond.lays "NamedPricesModel" "NamedPricesModel" "images" "I") ∈ lw_all := lw_g (lw_at lw_m6 111 rfl) rfl
theorem q1401 : (Jvm.Cond.soleField "NamedPricesModel" "images") ∈ lw_all := lw_g (lw_at lw_m6 112 rfl) rfl
theorem q1402 : (Jvm.Cond.laysFinal "NamedPricesModel" "NamedPricesModel" "errors" "[I") ∈ lw_all := lw_g (lw_at lw_m6 113 rfl) rfl
theorem q1403 : (Jvm.Cond.soleField "NamedPricesModel" "errors") ∈ lw_all := lw_g (lw_at lw_m6 114 rfl) rfl
theorem q1404 : (Jvm.Cond.lays "NamedPricesModel" "NamedPricesModel" "at" "I") ∈ lw_all := lw_g (lw_at lw_m6 115 rfl) rfl
theorem q1405 : (Jvm.Cond.soleField "NamedPricesModel" "at") ∈ lw_all := lw_g (lw_at lw_m6 116 rfl) rfl
theorem q1406 : (Jvm.Cond.lays "NamedPricesModel" "NamedPricesModel" "open" "I") ∈ lw_all := lw_g (lw_at lw_m6 117 rfl) rfl
theorem q1407 : (Jvm.Cond.soleField "NamedPricesModel" "open") ∈ lw_all := lw_g (lw_at lw_m6 118 rfl) rfl
theorem q1408 : (Jvm.Cond.lays "NamedPricesModel" "NamedPricesModel" "steps" "I") ∈ lw_all := lw_g (lw_at lw_m6 119 rfl) rfl
theorem q1409 : (Jvm.Cond.soleField "NamedPricesModel" "steps") ∈ lw_all := lw_g (lw_at lw_m6 120 rfl) rfl
theorem q1410 : (Jvm.Cond.lays "NamedPricesModel" "NamedPricesModel" "use" "I") ∈ lw_all := lw_g (lw_at lw_m6 121 rfl) rfl
theorem q1411 : (Jvm.Cond.soleField "NamedPricesModel" "use") ∈ lw_all := lw_g (lw_at lw_m6 122 rfl) rfl
theorem q1412 : (Jvm.Cond.laysFinal "NamedPricesModel" "NamedPricesModel" "step" "[I") ∈ lw_all := lw_g (lw_at lw_m6 123 rfl) rfl
theorem q1413 : (Jvm.Cond.soleField "NamedPricesModel" "step") ∈ lw_all := lw_g (lw_at lw_m6 124 rfl) rfl
theorem q1414 : (Jvm.Cond.laysFinal "NamedPricesModel" "NamedPricesModel" "named" "[I") ∈ lw_all := lw_g (lw_at lw_m6 125 rfl) rfl
theorem q1415 : (Jvm.Cond.soleField "NamedPricesModel" "named") ∈ lw_all := lw_g (lw_at lw_m6 126 rfl) rfl
theorem q1416 : (Jvm.Cond.laysFinal "NamedPricesModel" "NamedPricesModel" "pile" "[I") ∈ lw_all := lw_g (lw_at lw_m6 127 rfl) rfl
theorem q1417 : (Jvm.Cond.soleField "NamedPricesModel" "pile") ∈ lw_all := lw_g (lw_at lw_m6 128 rfl) rfl
theorem q1418 : (Jvm.Cond.laysFinal "NamedPricesModel" "NamedPricesModel" "trace" "[I") ∈ lw_all := lw_g (lw_at lw_m6 129 rfl) rfl
theorem q1419 : (Jvm.Cond.soleField "NamedPricesModel" "trace") ∈ lw_all := lw_g (lw_at lw_m6 130 rfl) rfl
theorem q1420 : (Jvm.Cond.lays "NamedPricesModel" "NamedPricesModel" "traced" "I") ∈ lw_all := lw_g (lw_at lw_m6 131 rfl) rfl
theorem q1421 : (Jvm.Cond.soleField "NamedPricesModel" "traced") ∈ lw_all := lw_g (lw_at lw_m6 132 rfl) rfl
theorem q1422 : (Jvm.Cond.lays "NamedPricesModel" "NamedPricesModel" "speaks" "I") ∈ lw_all := lw_g (lw_at lw_m6 133 rfl) rfl
theorem q1423 : (Jvm.Cond.soleField "NamedPricesModel" "speaks") ∈ lw_all := lw_g (lw_at lw_m6 134 rfl) rfl
theorem q1424 : (Jvm.Cond.lays "NamedPricesModel" "NamedPricesModel" "isParted" "Z") ∈ lw_all := lw_g (lw_at lw_m6 135 rfl) rfl
theorem q1425 : (Jvm.Cond.soleField "NamedPricesModel" "isParted") ∈ lw_all := lw_g (lw_at lw_m6 136 rfl) rfl
theorem q1426 : (Jvm.Cond.laysFinal "NamedPricesModel" "NamedPricesModel" "bits" "[I") ∈ lw_all := lw_g (lw_at lw_m6 137 rfl) rfl
theorem q1427 : (Jvm.Cond.soleField "NamedPricesModel" "bits") ∈ lw_all := lw_g (lw_at lw_m6 138 rfl) rfl
theorem q1428 : (Jvm.Cond.laysFinal "NamedPricesModel" "NamedPricesModel" "sizes" "[I") ∈ lw_all := lw_g (lw_at lw_m6 139 rfl) rfl
theorem q1429 : (Jvm.Cond.soleField "NamedPricesModel" "sizes") ∈ lw_all := lw_g (lw_at lw_m6 140 rfl) rfl
theorem q1430 : (Jvm.Cond.laysFinal "NamedPricesModel" "NamedPricesModel" "number" "[I") ∈ lw_all := lw_g (lw_at lw_m6 141 rfl) rfl
theorem q1431 : (Jvm.Cond.soleField "NamedPricesModel" "number") ∈ lw_all := lw_g (lw_at lw_m6 142 rfl) rfl
theorem q1432 : (Jvm.Cond.laysFinal "NamedPricesModel" "NamedPricesModel" "aside" "[I") ∈ lw_all := lw_g (lw_at lw_m6 143 rfl) rfl
theorem q1433 : (Jvm.Cond.soleField "NamedPricesModel" "aside") ∈ lw_all := lw_g (lw_at lw_m6 144 rfl) rfl
theorem q1434 : (Jvm.Cond.superclass "NamedPricesModel" "java/lang/Object") ∈ lw_all := lw_g (lw_at lw_m6 145 rfl) rfl
theorem q1436 : (Jvm.Cond.instanceMethod ({ cls := "NamedPricesModel", name := "person", desc := "(III)I" } : Jvm.MethodName)) ∈ lw_all := lw_g (lw_at lw_m6 147 rfl) rfl
theorem q1437 : (Jvm.Cond.selects "NamedPricesModel" ({ cls := "NamedPricesModel", name := "person", desc := "(III)I" } : Jvm.MethodName) ({ cls := "NamedPricesModel", name := "person", desc := "(III)I" } : Jvm.MethodName)) ∈ lw_all := lw_g (lw_at lw_m6 148 rfl) rfl
theorem q1438 : (Jvm.Cond.code ({ cls := "NamedPricesModel", name := "person", desc := "(III)I" } : Jvm.MethodName) prog_20_method_13_code (5 : Nat) (Option.some Jvm.ClassFile.FieldType.int)) ∈ lw_all := lw_g (lw_at lw_m6 149 rfl) rfl
theorem q1439 : (Jvm.Cond.methodLink "NamedPricesModel" (47 : Nat) ({ cls := "NamedPricesModel", name := "in", desc := "(III)Z" } : Jvm.MethodName)) ∈ lw_all := lw_g (lw_at lw_m6 150 rfl) rfl
theorem q1440 : (Jvm.Cond.static ({ cls := "NamedPricesModel", name := "in", desc := "(III)Z" } : Jvm.MethodName)) ∈ lw_all := lw_g (lw_at lw_m6 151 rfl) rfl
theorem q1441 : (Jvm.Cond.code ({ cls := "NamedPricesModel", name := "in", desc := "(III)Z" } : Jvm.MethodName) prog_20_method_3_code (3 : Nat) (Option.some Jvm.ClassFile.FieldType.boolean)) ∈ lw_all := lw_g (lw_at lw_m6 152 rfl) rfl
theorem q1442 : (Jvm.Cond.constant "NamedPricesModel" (55 : Nat) (999999 : Int32)) ∈ lw_all := lw_g (lw_at lw_m6 153 rfl) rfl
theorem q1443 : (Jvm.Cond.methodLink "NamedPricesModel" (56 : Nat) ({ cls := "NamedPricesModel", name := "isPart", desc := "(I)Z" } : Jvm.MethodName)) ∈ lw_all := lw_g (lw_at lw_m6 154 rfl) rfl
theorem q1444 : (Jvm.Cond.static ({ cls := "NamedPricesModel", name := "isPart", desc := "(I)Z" } : Jvm.MethodName)) ∈ lw_all := lw_g (lw_at lw_m6 155 rfl) rfl
theorem q1445 : (Jvm.Cond.code ({ cls := "NamedPricesModel", name := "isPart", desc := "(I)Z" } : Jvm.MethodName) prog_20_method_12_code (1 : Nat) (Option.some Jvm.ClassFile.FieldType.boolean)) ∈ lw_all := lw_g (lw_at lw_m6 156 rfl) rfl
theorem q1446 : (Jvm.Cond.methodLink "NamedPricesModel" (60 : Nat) ({ cls := "NamedPricesModel", name := "error", desc := "(I)I" } : Jvm.MethodName)) ∈ lw_all := lw_g (lw_at lw_m6 157 rfl) rfl
theorem q1447 : (Jvm.Cond.privateMethod ({ cls := "NamedPricesModel", name := "error", desc := "(I)I" } : Jvm.MethodName)) ∈ lw_tbl := lw_at lw_m6 158 rfl
theorem q1448 : (Jvm.Cond.instanceMethod ({ cls := "NamedPricesModel", name := "error", desc := "(I)I" } : Jvm.MethodName)) ∈ lw_all := lw_g (lw_at lw_m6 159 rfl) rfl
theorem q1449 : (Jvm.Cond.code ({ cls := "NamedPricesModel", name := "error", desc := "(I)I" } : Jvm.MethodName) prog_20_method_2_code (2 : Nat) (Option.some Jvm.ClassFile.FieldType.int)) ∈ lw_all := lw_g (lw_at lw_m6 160 rfl) rfl
theorem q1450 : (Jvm.Cond.constant "NamedPricesModel" (46 : Nat) (-1000000000 : Int32)) ∈ lw_all := lw_g (lw_at lw_m6 161 rfl) rfl
theorem q1452 : (Jvm.Cond.instanceMethod ({ cls := "NamedPricesModel", name := "personIs", desc := "(II)I" } : Jvm.MethodName)) ∈ lw_all := lw_g (lw_at lw_m6 163 rfl) rfl
theorem q1453 : (Jvm.Cond.selects "NamedPricesModel" ({ cls := "NamedPricesModel", name := "personIs", desc := "(II)I" } : Jvm.MethodName) ({ cls := "NamedPricesModel", name := "personIs", desc := "(II)I" } : Jvm.MethodName)) ∈ lw_all := lw_g (lw_at lw_m6 164 rfl) rfl
theorem q1454 : (Jvm.Cond.code ({ cls := "NamedPricesModel", name := "personIs", desc := "(II)I" } : Jvm.MethodName) prog_20_method_18_code (3 : Nat) (Option.some Jvm.ClassFile.FieldType.int)) ∈ lw_all := lw_g (lw_at lw_m6 165 rfl) rfl
theorem q1455 : (Jvm.Cond.methodLink "NamedPricesModel" (76 : Nat) ({ cls := "NamedPricesModel", name := "isPerson", desc := "(I)Z" } : Jvm.MethodName)) ∈ lw_all := lw_g (lw_at lw_m6 166 rfl) rfl
theorem q1456 : (Jvm.Cond.privateMethod ({ cls := "NamedPricesModel", name := "isPerson", desc := "(I)Z" } : Jvm.MethodName)) ∈ lw_tbl := lw_at lw_m6 167 rfl
theorem q1457 : (Jvm.Cond.instanceMethod ({ cls := "NamedPricesModel", name := "isPerson", desc := "(I)Z" } : Jvm.MethodName)) ∈ lw_all := lw_g (lw_at lw_m6 168 rfl) rfl
theorem q1458 : (Jvm.Cond.code ({ cls := "NamedPricesModel", name := "isPerson", desc := "(I)Z" } : Jvm.MethodName) prog_20_method_6_code (2 : Nat) (Option.some Jvm.ClassFile.FieldType.boolean)) ∈ lw_all := lw_g (lw_at lw_m6 169 rfl) rfl
theorem q1459 : (Jvm.Cond.methodLink "NamedPricesModel" (79 : Nat) ({ cls := "NamedPricesModel", name := "who", desc := "(II)I" } : Jvm.MethodName)) ∈ lw_all := lw_g (lw_at lw_m6 170 rfl) rfl
theorem q1460 : (Jvm.Cond.privateMethod ({ cls := "NamedPricesModel", name := "who", desc := "(II)I" } : Jvm.MethodName)) ∈ lw_tbl := lw_at lw_m6 171 rfl
theorem q1461 : (Jvm.Cond.instanceMethod ({ cls := "NamedPricesModel", name := "who", desc := "(II)I" } : Jvm.MethodName)) ∈ lw_all := lw_g (lw_at lw_m6 172 rfl) rfl
theorem q1462 : (Jvm.Cond.code ({ cls := "NamedPricesModel", name := "who", desc := "(II)I" } : Jvm.MethodName) prog_20_method_8_code (3 : Nat) (Option.some Jvm.ClassFile.FieldType.int)) ∈ lw_all := lw_g (lw_at lw_m6 173 rfl) rfl
theorem q1463 : (Jvm.Cond.methodLink "NamedPricesModel" (82 : Nat) ({ cls := "NamedPricesModel", name := "lacks", desc := "(I)I" } : Jvm.MethodName)) ∈ lw_all := lw_g (lw_at lw_m6 174 rfl) rfl
theorem q1464 : (Jvm.Cond.privateMethod ({ cls := "NamedPricesModel", name := "lacks", desc := "(I)I" } : Jvm.MethodName)) ∈ lw_tbl := lw_at lw_m6 175 rfl
theorem q1465 : (Jvm.Cond.instanceMethod ({ cls := "NamedPricesModel", name := "lacks", desc := "(I)I" } : Jvm.MethodName)) ∈ lw_all := lw_g (lw_at lw_m6 176 rfl) rfl
theorem q1466 : (Jvm.Cond.code ({ cls := "NamedPricesModel", name := "lacks", desc := "(I)I" } : Jvm.MethodName) prog_20_method_16_code (4 : Nat) (Option.some Jvm.ClassFile.FieldType.int)) ∈ lw_all := lw_g (lw_at lw_m6 177 rfl) rfl
theorem q1467 : (Jvm.Cond.methodLink "NamedPricesModel" (70 : Nat) ({ cls := "NamedPricesModel", name := "hasOne", desc := "(III)Z" } : Jvm.MethodName)) ∈ lw_all := lw_g (lw_at lw_m6 178 rfl) rfl
theorem q1468 : (Jvm.Cond.privateMethod ({ cls := "NamedPricesModel", name := "hasOne", desc := "(III)Z" } : Jvm.MethodName)) ∈ lw_tbl := lw_at lw_m6 179 rfl
theorem q1469 : (Jvm.Cond.instanceMethod ({ cls := "NamedPricesModel", name := "hasOne", desc := "(III)Z" } : Jvm.MethodName)) ∈ lw_all := lw_g (lw_at lw_m6 180 rfl) rfl
theorem q1470 : (Jvm.Cond.code ({ cls := "NamedPricesModel", name := "hasOne", desc := "(III)Z" } : Jvm.MethodName) prog_20_method_15_code (4 : Nat) (Option.some Jvm.ClassFile.FieldType.boolean)) ∈ lw_all := lw_g (lw_at lw_m6 181 rfl) rfl
theorem q1471 : (Jvm.Cond.methodLink "NamedPricesModel" (64 : Nat) ({ cls := "NamedPricesModel", name := "pairIts", desc := "(II)I" } : Jvm.MethodName)) ∈ lw_all := lw_g (lw_at lw_m6 182 rfl) rfl
theorem q1472 : (Jvm.Cond.privateMethod ({ cls := "NamedPricesModel", name := "pairIts", desc := "(II)I" } : Jvm.MethodName)) ∈ lw_tbl := lw_at lw_m6 183 rfl
theorem q1473 : (Jvm.Cond.instanceMethod ({ cls := "NamedPricesModel", name := "pairIts", desc := "(II)I" } : Jvm.MethodName)) ∈ lw_all := lw_g (lw_at lw_m6 184 rfl) rfl
theorem q1474 : (Jvm.Cond.code ({ cls := "NamedPricesModel", name := "pairIts", desc := "(II)I" } : Jvm.MethodName) prog_20_method_14_code (3 : Nat) (Option.some Jvm.ClassFile.FieldType.int)) ∈ lw_all := lw_g (lw_at lw_m6 185 rfl) rfl
theorem q1475 : (Jvm.Cond.methodLink "NamedPricesModel" (67 : Nat) ({ cls := "NamedPricesModel", name := "owner", desc := "(I)I" } : Jvm.MethodName)) ∈ lw_all := lw_g (lw_at lw_m6 186 rfl) rfl
theorem q1476 : (Jvm.Cond.privateMethod ({ cls := "NamedPricesModel", name := "owner", desc := "(I)I" } : Jvm.MethodName)) ∈ lw_tbl := lw_at lw_m6 187 rfl
theorem q1477 : (Jvm.Cond.instanceMethod ({ cls := "NamedPricesModel", name := "owner", desc := "(I)I" } : Jvm.MethodName)) ∈ lw_all := lw_g (lw_at lw_m6 188 rfl) rfl
theorem q1478 : (Jvm.Cond.code ({ cls := "NamedPricesModel", name := "owner", desc := "(I)I" } : Jvm.MethodName) prog_20_method_10_code (2 : Nat) (Option.some Jvm.ClassFile.FieldType.int)) ∈ lw_all := lw_g (lw_at lw_m6 189 rfl) rfl
theorem q1479 : (Jvm.Cond.methodLink "NamedPricesModel" (51 : Nat) ({ cls := "NamedPricesModel", name := "its", desc := "(II)I" } : Jvm.MethodName)) ∈ lw_all := lw_g (lw_at lw_m6 190 rfl) rfl
theorem q1480 : (Jvm.Cond.privateMethod ({ cls := "NamedPricesModel", name := "its", desc := "(II)I" } : Jvm.MethodName)) ∈ lw_tbl := lw_at lw_m6 191 rfl
theorem q1481 : (Jvm.Cond.instanceMethod ({ cls := "NamedPricesModel", name := "its", desc := "(II)I" } : Jvm.MethodName)) ∈ lw_all := lw_g (lw_at lw_m6 192 rfl) rfl
theorem q1482 : (Jvm.Cond.code ({ cls := "NamedPricesModel", name := "its", desc := "(II)I" } : Jvm.MethodName) prog_20_method_9_code (3 : Nat) (Option.some Jvm.ClassFile.FieldType.int)) ∈ lw_all := lw_g (lw_at lw_m6 193 rfl) rfl
theorem q1483 : (Jvm.Cond.methodLink "NamedPricesModel" (85 : Nat) ({ cls := "NamedPricesModel", name := "owns", desc := "(II)I" } : Jvm.MethodName)) ∈ lw_all := lw_g (lw_at lw_m6 194 rfl) rfl
theorem q1484 : (Jvm.Cond.privateMethod ({ cls := "NamedPricesModel", name := "owns", desc := "(II)I" } : Jvm.MethodName)) ∈ lw_tbl := lw_at lw_m6 195 rfl
theorem q1485 : (Jvm.Cond.instanceMethod ({ cls := "NamedPricesModel", name := "owns", desc := "(II)I" } : Jvm.MethodName)) ∈ lw_all := lw_g (lw_at lw_m6 196 rfl) rfl
theorem q1486 : (Jvm.Cond.code ({ cls := "NamedPricesModel", name := "owns", desc := "(II)I" } : Jvm.MethodName) prog_20_method_17_code (5 : Nat) (Option.some Jvm.ClassFile.FieldType.int)) ∈ lw_all := lw_g (lw_at lw_m6 197 rfl) rfl
theorem q1487 : (Jvm.Cond.methodLink "NamedPricesModel" (73 : Nat) ({ cls := "NamedPricesModel", name := "valueTo", desc := "(II)I" } : Jvm.MethodName)) ∈ lw_all := lw_g (lw_at lw_m6 198 rfl) rfl
theorem q1488 : (Jvm.Cond.privateMethod ({ cls := "NamedPricesModel", name := "valueTo", desc := "(II)I" } : Jvm.MethodName)) ∈ lw_tbl := lw_at lw_m6 199 rfl
theorem q1489 : (Jvm.Cond.instanceMethod ({ cls := "NamedPricesModel", name := "valueTo", desc := "(II)I" } : Jvm.MethodName)) ∈ lw_all := lw_g (lw_at lw_m6 200 rfl) rfl
theorem q1490 : (Jvm.Cond.code ({ cls := "NamedPricesModel", name := "valueTo", desc := "(II)I" } : Jvm.MethodName) prog_20_method_11_code (3 : Nat) (Option.some Jvm.ClassFile.FieldType.int)) ∈ lw_all := lw_g (lw_at lw_m6 201 rfl) rfl
theorem q1492 : (Jvm.Cond.instanceMethod ({ cls := "NamedPricesModel", name := "as", desc := "(II)I" } : Jvm.MethodName)) ∈ lw_all := lw_g (lw_at lw_m6 203 rfl) rfl
theorem q1493 : (Jvm.Cond.selects "NamedPricesModel" ({ cls := "NamedPricesModel", name := "as", desc := "(II)I" } : Jvm.MethodName) ({ cls := "NamedPricesModel", name := "as", desc := "(II)I" } : Jvm.MethodName)) ∈ lw_all := lw_g (lw_at lw_m6 204 rfl) rfl
theorem q1494 : (Jvm.Cond.code ({ cls := "NamedPricesModel", name := "as", desc := "(II)I" } : Jvm.MethodName) prog_20_method_20_code (3 : Nat) (Option.some Jvm.ClassFile.FieldType.int)) ∈ lw_all := lw_g (lw_at lw_m6 205 rfl) rfl
theorem q1495 : (Jvm.Cond.methodLink "NamedPricesModel" (88 : Nat) ({ cls := "NamedPricesModel", name := "isUnder", desc := "(II)Z" } : Jvm.MethodName)) ∈ lw_all := lw_g (lw_at lw_m6 206 rfl) rfl
theorem q1496 : (Jvm.Cond.static ({ cls := "NamedPricesModel", name := "isUnder", desc := "(II)Z" } : Jvm.MethodName)) ∈ lw_all := lw_g (lw_at lw_m6 207 rfl) rfl
theorem q1497 : (Jvm.Cond.code ({ cls := "NamedPricesModel", name := "isUnder", desc := "(II)Z" } : Jvm.MethodName) prog_20_method_19_code (2 : Nat) (Option.some Jvm.ClassFile.FieldType.boolean)) ∈ lw_all := lw_g (lw_at lw_m6 208 rfl) rfl
theorem q1499 : (Jvm.Cond.instanceMethod ({ cls := "NamedPricesModel", name := "become", desc := "(II)I" } : Jvm.MethodName)) ∈ lw_all := lw_g (lw_at lw_m6 210 rfl) rfl
theorem q1500 : (Jvm.Cond.selects "NamedPricesModel" ({ cls := "NamedPricesModel", name := "become", desc := "(II)I" } : Jvm.MethodName) ({ cls := "NamedPricesModel", name := "become", desc := "(II)I" } : Jvm.MethodName)) ∈ lw_all := lw_g (lw_at lw_m6 211 rfl) rfl
theorem q1501 : (Jvm.Cond.code ({ cls := "NamedPricesModel", name := "become", desc := "(II)I" } : Jvm.MethodName) prog_20_method_21_code (4 : Nat) (Option.some Jvm.ClassFile.FieldType.int)) ∈ lw_all := lw_g (lw_at lw_m6 212 rfl) rfl
theorem q1503 : (Jvm.Cond.instanceMethod ({ cls := "NamedPricesModel", name := "purse", desc := "(II)I" } : Jvm.MethodName)) ∈ lw_all := lw_g (lw_at lw_m6 214 rfl) rfl
theorem q1504 : (Jvm.Cond.selects "NamedPricesModel" ({ cls := "NamedPricesModel", name := "purse", desc := "(II)I" } : Jvm.MethodName) ({ cls := "NamedPricesModel", name := "purse", desc := "(II)I" } : Jvm.MethodName)) ∈ lw_all := lw_g (lw_at lw_m6 215 rfl) rfl
theorem q1505 : (Jvm.Cond.code ({ cls := "NamedPricesModel", name := "purse", desc := "(II)I" } : Jvm.MethodName) prog_20_method_22_code (4 : Nat) (Option.some Jvm.ClassFile.FieldType.int)) ∈ lw_all := lw_g (lw_at lw_m6 216 rfl) rfl
theorem q1507 : (Jvm.Cond.instanceMethod ({ cls := "NamedPricesModel", name := "thing", desc := "(II)I" } : Jvm.MethodName)) ∈ lw_all := lw_g (lw_at lw_m6 218 rfl) rfl
theorem q1508 : (Jvm.Cond.selects "NamedPricesModel" ({ cls := "NamedPricesModel", name := "thing", desc := "(II)I" } : Jvm.MethodName) ({ cls := "NamedPricesModel", name := "thing", desc := "(II)I" } : Jvm.MethodName)) ∈ lw_all := lw_g (lw_at lw_m6 219 rfl) rfl
theorem q1509 : (Jvm.Cond.code ({ cls := "NamedPricesModel", name := "thing", desc := "(II)I" } : Jvm.MethodName) prog_20_method_23_code (4 : Nat) (Option.some Jvm.ClassFile.FieldType.int)) ∈ lw_all := lw_g (lw_at lw_m6 220 rfl) rfl
theorem q1511 : (Jvm.Cond.instanceMethod ({ cls := "NamedPricesModel", name := "thingIs", desc := "(II)I" } : Jvm.MethodName)) ∈ lw_all := lw_g (lw_at lw_m6 222 rfl) rfl
theorem q1512 : (Jvm.Cond.selects "NamedPricesModel" ({ cls := "NamedPricesModel", name := "thingIs", desc := "(II)I" } : Jvm.MethodName) ({ cls := "NamedPricesModel", name := "thingIs", desc := "(II)I" } : Jvm.MethodName)) ∈ lw_all := lw_g (lw_at lw_m6 223 rfl) rfl
theorem q1513 : (Jvm.Cond.code ({ cls := "NamedPricesModel", name := "thingIs", desc := "(II)I" } : Jvm.MethodName) prog_20_method_25_code (3 : Nat) (Option.some Jvm.ClassFile.FieldType.int)) ∈ lw_all := lw_g (lw_at lw_m6 224 rfl) rfl
theorem q1514 : (Jvm.Cond.methodLink "NamedPricesModel" (92 : Nat) ({ cls := "NamedPricesModel", name := "isThing", desc := "(I)Z" } : Jvm.MethodName)) ∈ lw_all := lw_g (lw_at lw_m6 225 rfl) rfl
theorem q1515 : (Jvm.Cond.privateMethod ({ cls := "NamedPricesModel", name := "isThing", desc := "(I)Z" } : Jvm.MethodName)) ∈ lw_tbl := lw_at lw_m6 226 rfl
theorem q1516 : (Jvm.Cond.instanceMethod ({ cls := "NamedPricesModel", name := "isThing", desc := "(I)Z" } : Jvm.MethodName)) ∈ lw_all := lw_g (lw_at lw_m6 227 rfl) rfl
theorem q1517 : (Jvm.Cond.code ({ cls := "NamedPricesModel", name := "isThing", desc := "(I)Z" } : Jvm.MethodName) prog_20_method_7_code (2 : Nat) (Option.some Jvm.ClassFile.FieldType.boolean)) ∈ lw_all := lw_g (lw_at lw_m6 228 rfl) rfl
theorem q1518 : (Jvm.Cond.methodLink "NamedPricesModel" (95 : Nat) ({ cls := "NamedPricesModel", name := "fondest", desc := "(I)I" } : Jvm.MethodName)) ∈ lw_all := lw_g (lw_at lw_m6 229 rfl) rfl
theorem q1519 : (Jvm.Cond.privateMethod ({ cls := "NamedPricesModel", name := "fondest", desc := "(I)I" } : Jvm.MethodName)) ∈ lw_tbl := lw_at lw_m6 230 rfl
theorem q1520 : (Jvm.Cond.instanceMethod ({ cls := "NamedPricesModel", name := "fondest", desc := "(I)I" } : Jvm.MethodName)) ∈ lw_all := lw_g (lw_at lw_m6 231 rfl) rfl
theorem q1521 : (Jvm.Cond.code ({ cls := "NamedPricesModel", name := "fondest", desc := "(I)I" } : Jvm.MethodName) prog_20_method_24_code (4 : Nat) (Option.some Jvm.ClassFile.FieldType.int)) ∈ lw_all := lw_g (lw_at lw_m6 232 rfl) rfl
theorem q1523 : (Jvm.Cond.instanceMethod ({ cls := "NamedPricesModel", name := "worth", desc := "(III)I" } : Jvm.MethodName)) ∈ lw_all := lw_g (lw_at lw_m6 234 rfl) rfl
theorem q1524 : (Jvm.Cond.selects "NamedPricesModel" ({ cls := "NamedPricesModel", name := "worth", desc := "(III)I" } : Jvm.MethodName) ({ cls := "NamedPricesModel", name := "worth", desc := "(III)I" } : Jvm.MethodName)) ∈ lw_all := lw_g (lw_at lw_m6 235 rfl) rfl
theorem q1525 : (Jvm.Cond.code ({ cls := "NamedPricesModel", name := "worth", desc := "(III)I" } : Jvm.MethodName) prog_20_method_26_code (6 : Nat) (Option.some Jvm.ClassFile.FieldType.int)) ∈ lw_all := lw_g (lw_at lw_m6 236 rfl) rfl
theorem q1527 : (Jvm.Cond.instanceMethod ({ cls := "NamedPricesModel", name := "price", desc := "(II)I" } : Jvm.MethodName)) ∈ lw_all := lw_g (lw_at lw_m6 238 rfl) rfl
theorem q1528 : (Jvm.Cond.selects "NamedPricesModel" ({ cls := "NamedPricesModel", name := "price", desc := "(II)I" } : Jvm.MethodName) ({ cls := "NamedPricesModel", name := "price", desc := "(II)I" } : Jvm.MethodName)) ∈ lw_all := lw_g (lw_at lw_m6 239 rfl) rfl
theorem q1529 : (Jvm.Cond.code ({ cls := "NamedPricesModel", name := "price", desc := "(II)I" } : Jvm.MethodName) prog_20_method_27_code (4 : Nat) (Option.some Jvm.ClassFile.FieldType.int)) ∈ lw_all := lw_g (lw_at lw_m7 0 rfl) rfl
theorem q1531 : (Jvm.Cond.instanceMethod ({ cls := "NamedPricesModel", name := "keep", desc := "(II)I" } : Jvm.MethodName)) ∈ lw_all := lw_g (lw_at lw_m7 2 rfl) rfl
theorem q1532 : (Jvm.Cond.selects "NamedPricesModel" ({ cls := "NamedPricesModel", name := "keep", desc := "(II)I" } : Jvm.MethodName) ({ cls := "NamedPricesModel", name := "keep", desc := "(II)I" } : Jvm.MethodName)) ∈ lw_all := lw_g (lw_at lw_m7 3 rfl) rfl
theorem q1533 : (Jvm.Cond.code ({ cls := "NamedPricesModel", name := "keep", desc := "(II)I" } : Jvm.MethodName) prog_20_method_28_code (4 : Nat) (Option.some Jvm.ClassFile.FieldType.int)) ∈ lw_all := lw_g (lw_at lw_m7 4 rfl) rfl
theorem q1535 : (Jvm.Cond.instanceMethod ({ cls := "NamedPricesModel", name := "pair", desc := "(III)I" } : Jvm.MethodName)) ∈ lw_all := lw_g (lw_at lw_m7 6 rfl) rfl
theorem q1536 : (Jvm.Cond.selects "NamedPricesModel" ({ cls := "NamedPricesModel", name := "pair", desc := "(III)I" } : Jvm.MethodName) ({ cls := "NamedPricesModel", name := "pair", desc := "(III)I" } : Jvm.MethodName)) ∈ lw_all := lw_g (lw_at lw_m7 7 rfl) rfl
theorem q1537 : (Jvm.Cond.code ({ cls := "NamedPricesModel", name := "pair", desc := "(III)I" } : Jvm.MethodName) prog_20_method_29_code (5 : Nat) (Option.some Jvm.ClassFile.FieldType.int)) ∈ lw_all := lw_g (lw_at lw_m7 8 rfl) rfl
theorem q1539 : (Jvm.Cond.instanceMethod ({ cls := "NamedPricesModel", name := "pairIs", desc := "(II)I" } : Jvm.MethodName)) ∈ lw_all := lw_g (lw_at lw_m7 10 rfl) rfl
theorem q1540 : (Jvm.Cond.selects "NamedPricesModel" ({ cls := "NamedPricesModel", name := "pairIs", desc := "(II)I" } : Jvm.MethodName) ({ cls := "NamedPricesModel", name := "pairIs", desc := "(II)I" } : Jvm.MethodName)) ∈ lw_all := lw_g (lw_at lw_m7 11 rfl) rfl
theorem q1541 : (Jvm.Cond.code ({ cls := "NamedPricesModel", name := "pairIs", desc := "(II)I" } : Jvm.MethodName) prog_20_method_31_code (3 : Nat) (Option.some Jvm.ClassFile.FieldType.int)) ∈ lw_all := lw_g (lw_at lw_m7 12 rfl) rfl
theorem q1542 : (Jvm.Cond.methodLink "NamedPricesModel" (98 : Nat) ({ cls := "NamedPricesModel", name := "hasBonus", desc := "(I)I" } : Jvm.MethodName)) ∈ lw_all := lw_g (lw_at lw_m7 13 rfl) rfl
theorem q1543 : (Jvm.Cond.privateMethod ({ cls := "NamedPricesModel", name := "hasBonus", desc := "(I)I" } : Jvm.MethodName)) ∈ lw_tbl := lw_at lw_m7 14 rfl
theorem q1544 : (Jvm.Cond.instanceMethod ({ cls := "NamedPricesModel", name := "hasBonus", desc := "(I)I" } : Jvm.MethodName)) ∈ lw_all := lw_g (lw_at lw_m7 15 rfl) rfl
theorem q1545 : (Jvm.Cond.code ({ cls := "NamedPricesModel", name := "hasBonus", desc := "(I)I" } : Jvm.MethodName) prog_20_method_30_code (5 : Nat) (Option.some Jvm.ClassFile.FieldType.int)) ∈ lw_all := lw_g (lw_at lw_m7 16 rfl) rfl
theorem q1547 : (Jvm.Cond.instanceMethod ({ cls := "NamedPricesModel", name := "rule", desc := "(II)I" } : Jvm.MethodName)) ∈ lw_all := lw_g (lw_at lw_m7 18 rfl) rfl
theorem q1548 : (Jvm.Cond.selects "NamedPricesModel" ({ cls := "NamedPricesModel", name := "rule", desc := "(II)I" } : Jvm.MethodName) ({ cls := "NamedPricesModel", name := "rule", desc := "(II)I" } : Jvm.MethodName)) ∈ lw_all := lw_g (lw_at lw_m7 19 rfl) rfl
theorem q1549 : (Jvm.Cond.code ({ cls := "NamedPricesModel", name := "rule", desc := "(II)I" } : Jvm.MethodName) prog_20_method_33_code (4 : Nat) (Option.some Jvm.ClassFile.FieldType.int)) ∈ lw_all := lw_g (lw_at lw_m7 20 rfl) rfl
theorem q1550 : (Jvm.Cond.methodLink "NamedPricesModel" (101 : Nat) ({ cls := "NamedPricesModel", name := "mostOf", desc := "(I)I" } : Jvm.MethodName)) ∈ lw_all := lw_g (lw_at lw_m7 21 rfl) rfl
theorem q1551 : (Jvm.Cond.static ({ cls := "NamedPricesModel", name := "mostOf", desc := "(I)I" } : Jvm.MethodName)) ∈ lw_all := lw_g (lw_at lw_m7 22 rfl) rfl
theorem q1552 : (Jvm.Cond.code ({ cls := "NamedPricesModel", name := "mostOf", desc := "(I)I" } : Jvm.MethodName) prog_20_method_32_code (1 : Nat) (Option.some Jvm.ClassFile.FieldType.int)) ∈ lw_all := lw_g (lw_at lw_m7 23 rfl) rfl
theorem q1554 : (Jvm.Cond.instanceMethod ({ cls := "NamedPricesModel", name := "feed", desc := "(JI)I" } : Jvm.MethodName)) ∈ lw_all := lw_g (lw_at lw_m7 25 rfl) rfl
theorem q1555 : (Jvm.Cond.selects "NamedPricesModel" ({ cls := "NamedPricesModel", name := "feed", desc := "(JI)I" } : Jvm.MethodName) ({ cls := "NamedPricesModel", name := "feed", desc := "(JI)I" } : Jvm.MethodName)) ∈ lw_all := lw_g (lw_at lw_m7 26 rfl) rfl
theorem q1556 : (Jvm.Cond.code ({ cls := "NamedPricesModel", name := "feed", desc := "(JI)I" } : Jvm.MethodName) prog_20_method_34_code (5 : Nat) (Option.some Jvm.ClassFile.FieldType.int)) ∈ lw_all := lw_g (lw_at lw_m7 27 rfl) rfl
theorem q1557 : (Jvm.Cond.constantLong "NamedPricesModel" (104 : Nat) (255 : Int64)) ∈ lw_all := lw_g (lw_at lw_m7 28 rfl) rfl
theorem q1559 : (Jvm.Cond.instanceMethod ({ cls := "NamedPricesModel", name := "text", desc := "(I)I" } : Jvm.MethodName)) ∈ lw_all := lw_g (lw_at lw_m7 30 rfl) rfl
theorem q1560 : (Jvm.Cond.selects "NamedPricesModel" ({ cls := "NamedPricesModel", name := "text", desc := "(I)I" } : Jvm.MethodName) ({ cls := "NamedPricesModel", name := "text", desc := "(I)I" } : Jvm.MethodName)) ∈ lw_all := lw_g (lw_at lw_m7 31 rfl) rfl
theorem q1561 : (Jvm.Cond.code ({ cls := "NamedPricesModel", name := "text", desc := "(I)I" } : Jvm.MethodName) prog_20_method_46_code (5 : Nat) (Option.some Jvm.ClassFile.FieldType.int)) ∈ lw_all := lw_g (lw_at lw_m7 32 rfl) rfl
theorem q1562 : (Jvm.Cond.methodLink "NamedPricesModel" (149 : Nat) ({ cls := "NamedPricesModel", name := "whole", desc := "()Z" } : Jvm.MethodName)) ∈ lw_all := lw_g (lw_at lw_m7 33 rfl) rfl
theorem q1563 : (Jvm.Cond.privateMethod ({ cls := "NamedPricesModel", name := "whole", desc := "()Z" } : Jvm.MethodName)) ∈ lw_tbl := lw_at lw_m7 34 rfl
theorem q1564 : (Jvm.Cond.instanceMethod ({ cls := "NamedPricesModel", name := "whole", desc := "()Z" } : Jvm.MethodName)) ∈ lw_all := lw_g (lw_at lw_m7 35 rfl) rfl
theorem q1565 : (Jvm.Cond.code ({ cls := "NamedPricesModel", name := "whole", desc := "()Z" } : Jvm.MethodName) prog_20_method_38_code (1 : Nat) (Option.some Jvm.ClassFile.FieldType.boolean)) ∈ lw_all := lw_g (lw_at lw_m7 36 rfl) rfl
theorem q1566 : (Jvm.Cond.methodLink "NamedPricesModel" (116 : Nat) ({ cls := "NamedPricesModel", name := "both", desc := "()Z" } : Jvm.MethodName)) ∈ lw_all := lw_g (lw_at lw_m7 37 rfl) rfl
theorem q1567 : (Jvm.Cond.privateMethod ({ cls := "NamedPricesModel", name := "both", desc := "()Z" } : Jvm.MethodName)) ∈ lw_tbl := lw_at lw_m7 38 rfl
theorem q1568 : (Jvm.Cond.instanceMethod ({ cls := "NamedPricesModel", name := "both", desc := "()Z" } : Jvm.MethodName)) ∈ lw_all := lw_g (lw_at lw_m7 39 rfl) rfl
theorem q1569 : (Jvm.Cond.code ({ cls := "NamedPricesModel", name := "both", desc := "()Z" } : Jvm.MethodName) prog_20_method_39_code (1 : Nat) (Option.some Jvm.ClassFile.FieldType.boolean)) ∈ lw_all := lw_g (lw_at lw_m7 40 rfl) rfl
theorem q1570 : (Jvm.Cond.methodLink "NamedPricesModel" (128 : Nat) ({ cls := "NamedPricesModel", name := "compared", desc := "()Z" } : Jvm.MethodName)) ∈ lw_all := lw_g (lw_at lw_m7 41 rfl) rfl
theorem q1571 : (Jvm.Cond.privateMethod ({ cls := "NamedPricesModel", name := "compared", desc := "()Z" } : Jvm.MethodName)) ∈ lw_tbl := lw_at lw_m7 42 rfl
theorem q1572 : (Jvm.Cond.instanceMethod ({ cls := "NamedPricesModel", name := "compared", desc := "()Z" } : Jvm.MethodName)) ∈ lw_all := lw_g (lw_at lw_m7 43 rfl) rfl
theorem q1573 : (Jvm.Cond.code ({ cls := "NamedPricesModel", name := "compared", desc := "()Z" } : Jvm.MethodName) prog_20_method_40_code (2 : Nat) (Option.some Jvm.ClassFile.FieldType.boolean)) ∈ lw_all := lw_g (lw_at lw_m7 44 rfl) rfl
theorem q1574 : (Jvm.Cond.methodLink "NamedPricesModel" (131 : Nat) ({ cls := "NamedPricesModel", name := "sum", desc := "()Z" } : Jvm.MethodName)) ∈ lw_all := lw_g (lw_at lw_m7 45 rfl) rfl
theorem q1575 : (Jvm.Cond.privateMethod ({ cls := "NamedPricesModel", name := "sum", desc := "()Z" } : Jvm.MethodName)) ∈ lw_tbl := lw_at lw_m7 46 rfl
theorem q1576 : (Jvm.Cond.instanceMethod ({ cls := "NamedPricesModel", name := "sum", desc := "()Z" } : Jvm.MethodName)) ∈ lw_all := lw_g (lw_at lw_m7 47 rfl) rfl
theorem q1577 : (Jvm.Cond.code ({ cls := "NamedPricesModel", name := "sum", desc := "()Z" } : Jvm.MethodName) prog_20_method_41_code (2 : Nat) (Option.some Jvm.ClassFile.FieldType.boolean)) ∈ lw_all := lw_g (lw_at lw_m7 48 rfl) rfl
theorem q1578 : (Jvm.Cond.methodLink "NamedPricesModel" (134 : Nat) ({ cls := "NamedPricesModel", name := "product", desc := "()Z" } : Jvm.MethodName)) ∈ lw_all := lw_g (lw_at lw_m7 49 rfl) rfl
theorem q1579 : (Jvm.Cond.privateMethod ({ cls := "NamedPricesModel", name := "product", desc := "()Z" } : Jvm.MethodName)) ∈ lw_tbl := lw_at lw_m7 50 rfl
theorem q1580 : (Jvm.Cond.instanceMethod ({ cls := "NamedPricesModel", name := "product", desc := "()Z" } : Jvm.MethodName)) ∈ lw_all := lw_g (lw_at lw_m7 51 rfl) rfl
theorem q1581 : (Jvm.Cond.code ({ cls := "NamedPricesModel", name := "product", desc := "()Z" } : Jvm.MethodName) prog_20_method_42_code (2 : Nat) (Option.some Jvm.ClassFile.FieldType.boolean)) ∈ lw_all := lw_g (lw_at lw_m7 52 rfl) rfl
theorem q1582 : (Jvm.Cond.methodLink "NamedPricesModel" (137 : Nat) ({ cls := "NamedPricesModel", name := "one", desc := "()Z" } : Jvm.MethodName)) ∈ lw_all := lw_g (lw_at lw_m7 53 rfl) rfl
theorem q1583 : (Jvm.Cond.privateMethod ({ cls := "NamedPricesModel", name := "one", desc := "()Z" } : Jvm.MethodName)) ∈ lw_tbl := lw_at lw_m7 54 rfl
theorem q1584 : (Jvm.Cond.instanceMethod ({ cls := "NamedPricesModel", name := "one", desc := "()Z" } : Jvm.MethodName)) ∈ lw_all := lw_g (lw_at lw_m7 55 rfl) rfl
theorem q1585 : (Jvm.Cond.code ({ cls := "NamedPricesModel", name := "one", desc := "()Z" } : Jvm.MethodName) prog_20_method_44_code (4 : Nat) (Option.some Jvm.ClassFile.FieldType.boolean)) ∈ lw_all := lw_g (lw_at lw_m7 56 rfl) rfl
theorem q1586 : (Jvm.Cond.methodLink "NamedPricesModel" (120 : Nat) ({ cls := "NamedPricesModel", name := "look", desc := "()I" } : Jvm.MethodName)) ∈ lw_all := lw_g (lw_at lw_m7 57 rfl) rfl
theorem q1587 : (Jvm.Cond.privateMethod ({ cls := "NamedPricesModel", name := "look", desc := "()I" } : Jvm.MethodName)) ∈ lw_tbl := lw_at lw_m7 58 rfl
theorem q1588 : (Jvm.Cond.instanceMethod ({ cls := "NamedPricesModel", name := "look", desc := "()I" } : Jvm.MethodName)) ∈ lw_all := lw_g (lw_at lw_m7 59 rfl) rfl
theorem q1589 : (Jvm.Cond.code ({ cls := "NamedPricesModel", name := "look", desc := "()I" } : Jvm.MethodName) prog_20_method_35_code (1 : Nat) (Option.some Jvm.ClassFile.FieldType.int)) ∈ lw_all := lw_g (lw_at lw_m7 60 rfl) rfl
theorem q1590 : (Jvm.Cond.methodLink "NamedPricesModel" (143 : Nat) ({ cls := "NamedPricesModel", name := "isName", desc := "(I)Z" } : Jvm.MethodName)) ∈ lw_all := lw_g (lw_at lw_m7 61 rfl) rfl
theorem q1591 : (Jvm.Cond.privateMethod ({ cls := "NamedPricesModel", name := "isName", desc := "(I)Z" } : Jvm.MethodName)) ∈ lw_tbl := lw_at lw_m7 62 rfl
theorem q1592 : (Jvm.Cond.instanceMethod ({ cls := "NamedPricesModel", name := "isName", desc := "(I)Z" } : Jvm.MethodName)) ∈ lw_all := lw_g (lw_at lw_m7 63 rfl) rfl
theorem q1593 : (Jvm.Cond.code ({ cls := "NamedPricesModel", name := "isName", desc := "(I)Z" } : Jvm.MethodName) prog_20_method_36_code (2 : Nat) (Option.some Jvm.ClassFile.FieldType.boolean)) ∈ lw_all := lw_g (lw_at lw_m7 64 rfl) rfl
theorem q1594 : (Jvm.Cond.methodLink "NamedPricesModel" (124 : Nat) ({ cls := "NamedPricesModel", name := "lays", desc := "(II)V" } : Jvm.MethodName)) ∈ lw_all := lw_g (lw_at lw_m7 65 rfl) rfl
theorem q1595 : (Jvm.Cond.privateMethod ({ cls := "NamedPricesModel", name := "lays", desc := "(II)V" } : Jvm.MethodName)) ∈ lw_tbl := lw_at lw_m7 66 rfl
theorem q1596 : (Jvm.Cond.instanceMethod ({ cls := "NamedPricesModel", name := "lays", desc := "(II)V" } : Jvm.MethodName)) ∈ lw_all := lw_g (lw_at lw_m7 67 rfl) rfl
theorem q1597 : (Jvm.Cond.code ({ cls := "NamedPricesModel", name := "lays", desc := "(II)V" } : Jvm.MethodName) prog_20_method_37_code (3 : Nat) (Option.none : Option Jvm.ClassFile.FieldType)) ∈ lw_all := lw_g (lw_at lw_m7 68 rfl) rfl
theorem q1598 : (Jvm.Cond.methodLink "NamedPricesModel" (146 : Nat) ({ cls := "NamedPricesModel", name := "opens", desc := "()Z" } : Jvm.MethodName)) ∈ lw_all := lw_g (lw_at lw_m7 69 rfl) rfl
theorem q1599 : (Jvm.Cond.privateMethod ({ cls := "NamedPricesModel", name := "opens", desc := "()Z" } : Jvm.MethodName)) ∈ lw_tbl := lw_at lw_m7 70 rfl
theorem q1600 : (Jvm.Cond.instanceMethod ({ cls := "NamedPricesModel", name := "opens", desc := "()Z" } : Jvm.MethodName)) ∈ lw_all := lw_g (lw_at lw_m7 71 rfl) rfl
theorem q1601 : (Jvm.Cond.code ({ cls := "NamedPricesModel", name := "opens", desc := "()Z" } : Jvm.MethodName) prog_20_method_43_code (1 : Nat) (Option.some Jvm.ClassFile.FieldType.boolean)) ∈ lw_all := lw_g (lw_at lw_m7 72 rfl) rfl
theorem q1603 : (Jvm.Cond.instanceMethod ({ cls := "NamedPricesModel", name := "untell", desc := "(I)I" } : Jvm.MethodName)) ∈ lw_all := lw_g (lw_at lw_m7 74 rfl) rfl
theorem q1604 : (Jvm.Cond.selects "NamedPricesModel" ({ cls := "NamedPricesModel", name := "untell", desc := "(I)I" } : Jvm.MethodName) ({ cls := "NamedPricesModel", name := "untell", desc := "(I)I" } : Jvm.MethodName)) ∈ lw_all := lw_g (lw_at lw_m7 75 rfl) rfl
theorem q1605 : (Jvm.Cond.code ({ cls := "NamedPricesModel", name := "untell", desc := "(I)I" } : Jvm.MethodName) prog_20_method_47_code (3 : Nat) (Option.some Jvm.ClassFile.FieldType.int)) ∈ lw_all := lw_g (lw_at lw_m7 76 rfl) rfl
theorem q1606 : (Jvm.Cond.methodLink "NamedPricesModel" (152 : Nat) ({ cls := "NamedPricesModel", name := "hasText", desc := "(I)Z" } : Jvm.MethodName)) ∈ lw_all := lw_g (lw_at lw_m7 77 rfl) rfl
theorem q1607 : (Jvm.Cond.privateMethod ({ cls := "NamedPricesModel", name := "hasText", desc := "(I)Z" } : Jvm.MethodName)) ∈ lw_tbl := lw_at lw_m7 78 rfl
theorem q1608 : (Jvm.Cond.instanceMethod ({ cls := "NamedPricesModel", name := "hasText", desc := "(I)Z" } : Jvm.MethodName)) ∈ lw_all := lw_g (lw_at lw_m7 79 rfl) rfl
theorem q1609 : (Jvm.Cond.code ({ cls := "NamedPricesModel", name := "hasText", desc := "(I)Z" } : Jvm.MethodName) prog_20_method_45_code (2 : Nat) (Option.some Jvm.ClassFile.FieldType.boolean)) ∈ lw_all := lw_g (lw_at lw_m7 80 rfl) rfl
theorem q1611 : (Jvm.Cond.instanceMethod ({ cls := "NamedPricesModel", name := "named", desc := "(I)I" } : Jvm.MethodName)) ∈ lw_all := lw_g (lw_at lw_m7 82 rfl) rfl
theorem q1612 : (Jvm.Cond.selects "NamedPricesModel" ({ cls := "NamedPricesModel", name := "named", desc := "(I)I" } : Jvm.MethodName) ({ cls := "NamedPricesModel", name := "named", desc := "(I)I" } : Jvm.MethodName)) ∈ lw_all := lw_g (lw_at lw_m7 83 rfl) rfl
theorem q1613 : (Jvm.Cond.code ({ cls := "NamedPricesModel", name := "named", desc := "(I)I" } : Jvm.MethodName) prog_20_method_53_code (2 : Nat) (Option.some Jvm.ClassFile.FieldType.int)) ∈ lw_all := lw_g (lw_at lw_m7 84 rfl) rfl
theorem q1614 : (Jvm.Cond.methodLink "NamedPricesModel" (174 : Nat) ({ cls := "NamedPricesModel", name := "names", desc := "(I)I" } : Jvm.MethodName)) ∈ lw_all := lw_g (lw_at lw_m7 85 rfl) rfl
theorem q1615 : (Jvm.Cond.privateMethod ({ cls := "NamedPricesModel", name := "names", desc := "(I)I" } : Jvm.MethodName)) ∈ lw_tbl := lw_at lw_m7 86 rfl
theorem q1616 : (Jvm.Cond.instanceMethod ({ cls := "NamedPricesModel", name := "names", desc := "(I)I" } : Jvm.MethodName)) ∈ lw_all := lw_g (lw_at lw_m7 87 rfl) rfl
theorem q1617 : (Jvm.Cond.code ({ cls := "NamedPricesModel", name := "names", desc := "(I)I" } : Jvm.MethodName) prog_20_method_52_code (2 : Nat) (Option.some Jvm.ClassFile.FieldType.int)) ∈ lw_all := lw_g (lw_at lw_m7 88 rfl) rfl
theorem q1618 : (Jvm.Cond.methodLink "NamedPricesModel" (168 : Nat) ({ cls := "NamedPricesModel", name := "namedBy", desc := "(I)I" } : Jvm.MethodName)) ∈ lw_all := lw_g (lw_at lw_m7 89 rfl) rfl
theorem q1619 : (Jvm.Cond.privateMethod ({ cls := "NamedPricesModel", name := "namedBy", desc := "(I)I" } : Jvm.MethodName)) ∈ lw_tbl := lw_at lw_m7 90 rfl
theorem q1620 : (Jvm.Cond.instanceMethod ({ cls := "NamedPricesModel", name := "namedBy", desc := "(I)I" } : Jvm.MethodName)) ∈ lw_all := lw_g (lw_at lw_m7 91 rfl) rfl
theorem q1621 : (Jvm.Cond.code ({ cls := "NamedPricesModel", name := "namedBy", desc := "(I)I" } : Jvm.MethodName) prog_20_method_51_code (4 : Nat) (Option.some Jvm.ClassFile.FieldType.int)) ∈ lw_all := lw_g (lw_at lw_m7 92 rfl) rfl
theorem q1622 : (Jvm.Cond.methodLink "NamedPricesModel" (159 : Nat) ({ cls := "NamedPricesModel", name := "greatestElse", desc := "(I)I" } : Jvm.MethodName)) ∈ lw_all := lw_g (lw_at lw_m7 93 rfl) rfl
theorem q1623 : (Jvm.Cond.privateMethod ({ cls := "NamedPricesModel", name := "greatestElse", desc := "(I)I" } : Jvm.MethodName)) ∈ lw_tbl := lw_at lw_m7 94 rfl
theorem q1624 : (Jvm.Cond.instanceMethod ({ cls := "NamedPricesModel", name := "greatestElse", desc := "(I)I" } : Jvm.MethodName)) ∈ lw_all := lw_g (lw_at lw_m7 95 rfl) rfl
theorem q1625 : (Jvm.Cond.code ({ cls := "NamedPricesModel", name := "greatestElse", desc := "(I)I" } : Jvm.MethodName) prog_20_method_50_code (5 : Nat) (Option.some Jvm.ClassFile.FieldType.int)) ∈ lw_all := lw_g (lw_at lw_m7 96 rfl) rfl
theorem q1626 : (Jvm.Cond.methodLink "NamedPricesModel" (162 : Nat) ({ cls := "NamedPricesModel", name := "worked", desc := "(I)I" } : Jvm.MethodName)) ∈ lw_all := lw_g (lw_at lw_m7 97 rfl) rfl
theorem q1627 : (Jvm.Cond.privateMethod ({ cls := "NamedPricesModel", name := "worked", desc := "(I)I" } : Jvm.MethodName)) ∈ lw_tbl := lw_at lw_m7 98 rfl
theorem q1628 : (Jvm.Cond.instanceMethod ({ cls := "NamedPricesModel", name := "worked", desc := "(I)I" } : Jvm.MethodName)) ∈ lw_all := lw_g (lw_at lw_m7 99 rfl) rfl
theorem q1629 : (Jvm.Cond.code ({ cls := "NamedPricesModel", name := "worked", desc := "(I)I" } : Jvm.MethodName) prog_20_method_49_code (7 : Nat) (Option.some Jvm.ClassFile.FieldType.int)) ∈ lw_all := lw_g (lw_at lw_m7 100 rfl) rfl
theorem q1630 : (Jvm.Cond.methodLink "NamedPricesModel" (155 : Nat) ({ cls := "NamedPricesModel", name := "joined", desc := "(III)I" } : Jvm.MethodName)) ∈ lw_all := lw_g (lw_at lw_m7 101 rfl) rfl
theorem q1631 : (Jvm.Cond.static ({ cls := "NamedPricesModel", name := "joined", desc := "(III)I" } : Jvm.MethodName)) ∈ lw_all := lw_g (lw_at lw_m7 102 rfl) rfl
theorem q1632 : (Jvm.Cond.code ({ cls := "NamedPricesModel", name := "joined", desc := "(III)I" } : Jvm.MethodName) prog_20_method_48_code (3 : Nat) (Option.some Jvm.ClassFile.FieldType.int)) ∈ lw_all := lw_g (lw_at lw_m7 103 rfl) rfl
theorem q1633 : (Jvm.Cond.methodLink "NamedPricesModel" (165 : Nat) ({ cls := "NamedPricesModel", name := "bestOf", desc := "(I)I" } : Jvm.MethodName)) ∈ lw_all := lw_g (lw_at lw_m7 104 rfl) rfl
theorem q1634 : (Jvm.Cond.privateMethod ({ cls := "NamedPricesModel", name := "bestOf", desc := "(I)I" } : Jvm.MethodName)) ∈ lw_tbl := lw_at lw_m7 105 rfl
theorem q1635 : (Jvm.Cond.instanceMethod ({ cls := "NamedPricesModel", name := "bestOf", desc := "(I)I" } : Jvm.MethodName)) ∈ lw_all := lw_g (lw_at lw_m7 106 rfl) rfl
theorem q1636 : (Jvm.Cond.code ({ cls := "NamedPricesModel", name := "bestOf", desc := "(I)I" } : Jvm.MethodName) prog_20_method_75_code (2 : Nat) (Option.some Jvm.ClassFile.FieldType.int)) ∈ lw_all := lw_g (lw_at lw_m7 107 rfl) rfl
theorem q1637 : (Jvm.Cond.methodLink "NamedPricesModel" (232 : Nat) ({ cls := "NamedPricesModel", name := "bestWith", desc := "(II)I" } : Jvm.MethodName)) ∈ lw_all := lw_g (lw_at lw_m7 108 rfl) rfl
theorem q1638 : (Jvm.Cond.privateMethod ({ cls := "NamedPricesModel", name := "bestWith", desc := "(II)I" } : Jvm.MethodName)) ∈ lw_tbl := lw_at lw_m7 109 rfl
theorem q1639 : (Jvm.Cond.instanceMethod ({ cls := "NamedPricesModel", name := "bestWith", desc := "(II)I" } : Jvm.MethodName)) ∈ lw_all := lw_g (lw_at lw_m7 110 rfl) rfl
theorem q1640 : (Jvm.Cond.code ({ cls := "NamedPricesModel", name := "bestWith", desc := "(II)I" } : Jvm.MethodName) prog_20_method_74_code (5 : Nat) (Option.some Jvm.ClassFile.FieldType.int)) ∈ lw_all := lw_g (lw_at lw_m7 111 rfl) rfl
theorem q1641 : (Jvm.Cond.methodLink "NamedPricesModel" (228 : Nat) ({ cls := "NamedPricesModel", name := "better", desc := "(IIII)I" } : Jvm.MethodName)) ∈ lw_all := lw_g (lw_at lw_m7 112 rfl) rfl
theorem q1642 : (Jvm.Cond.privateMethod ({ cls := "NamedPricesModel", name := "better", desc := "(IIII)I" } : Jvm.MethodName)) ∈ lw_tbl := lw_at lw_m7 113 rfl
theorem q1643 : (Jvm.Cond.instanceMethod ({ cls := "NamedPricesModel", name := "better", desc := "(IIII)I" } : Jvm.MethodName)) ∈ lw_all := lw_g (lw_at lw_m7 114 rfl) rfl
theorem q1644 : (Jvm.Cond.code ({ cls := "NamedPricesModel", name := "better", desc := "(IIII)I" } : Jvm.MethodName) prog_20_method_73_code (9 : Nat) (Option.some Jvm.ClassFile.FieldType.int)) ∈ lw_all := lw_g (lw_at lw_m7 115 rfl) rfl
theorem q1645 : (Jvm.Cond.methodLink "NamedPricesModel" (224 : Nat) ({ cls := "NamedPricesModel", name := "gainOf", desc := "(III)J" } : Jvm.MethodName)) ∈ lw_all := lw_g (lw_at lw_m7 116 rfl) rfl
theorem q1646 : (Jvm.Cond.privateMethod ({ cls := "NamedPricesModel", name := "gainOf", desc := "(III)J" } : Jvm.MethodName)) ∈ lw_tbl := lw_at lw_m7 117 rfl
theorem q1647 : (Jvm.Cond.instanceMethod ({ cls := "NamedPricesModel", name := "gainOf", desc := "(III)J" } : Jvm.MethodName)) ∈ lw_all := lw_g (lw_at lw_m7 118 rfl) rfl
theorem q1648 : (Jvm.Cond.code ({ cls := "NamedPricesModel", name := "gainOf", desc := "(III)J" } : Jvm.MethodName) prog_20_method_68_code (10 : Nat) (Option.some Jvm.ClassFile.FieldType.long)) ∈ lw_all := lw_g (lw_at lw_m7 119 rfl) rfl
theorem q1649 : (Jvm.Cond.methodLink "NamedPricesModel" (207 : Nat) ({ cls := "NamedPricesModel", name := "allBelow", desc := "(I)J" } : Jvm.MethodName)) ∈ lw_all := lw_g (lw_at lw_m7 120 rfl) rfl
theorem q1650 : (Jvm.Cond.privateMethod ({ cls := "NamedPricesModel", name := "allBelow", desc := "(I)J" } : Jvm.MethodName)) ∈ lw_tbl := lw_at lw_m7 121 rfl
theorem q1651 : (Jvm.Cond.instanceMethod ({ cls := "NamedPricesModel", name := "allBelow", desc := "(I)J" } : Jvm.MethodName)) ∈ lw_all := lw_g (lw_at lw_m7 122 rfl) rfl
theorem q1652 : (Jvm.Cond.code ({ cls := "NamedPricesModel", name := "allBelow", desc := "(I)J" } : Jvm.MethodName) prog_20_method_66_code (5 : Nat) (Option.some Jvm.ClassFile.FieldType.long)) ∈ lw_all := lw_g (lw_at lw_m7 123 rfl) rfl
theorem q1653 : (Jvm.Cond.methodLink "NamedPricesModel" (211 : Nat) ({ cls := "NamedPricesModel", name := "nobody", desc := "(II)J" } : Jvm.MethodName)) ∈ lw_all := lw_g (lw_at lw_m7 124 rfl) rfl
theorem q1654 : (Jvm.Cond.privateMethod ({ cls := "NamedPricesModel", name := "nobody", desc := "(II)J" } : Jvm.MethodName)) ∈ lw_tbl := lw_at lw_m7 125 rfl
theorem q1655 : (Jvm.Cond.instanceMethod ({ cls := "NamedPricesModel", name := "nobody", desc := "(II)J" } : Jvm.MethodName)) ∈ lw_all := lw_g (lw_at lw_m7 126 rfl) rfl
theorem q1656 : (Jvm.Cond.code ({ cls := "NamedPricesModel", name := "nobody", desc := "(II)J" } : Jvm.MethodName) prog_20_method_67_code (7 : Nat) (Option.some Jvm.ClassFile.FieldType.long)) ∈ lw_all := lw_g (lw_at lw_m7 127 rfl) rfl
theorem q1657 : (Jvm.Cond.constantLong "NamedPricesModel" (215 : Nat) (100 : Int64)) ∈ lw_all := lw_g (lw_at lw_m7 128 rfl) rfl
theorem q1658 : (Jvm.Cond.methodLink "NamedPricesModel" (171 : Nat) ({ cls := "NamedPricesModel", name := "held", desc := "(III)I" } : Jvm.MethodName)) ∈ lw_all := lw_g (lw_at lw_m7 129 rfl) rfl
theorem q1659 : (Jvm.Cond.static ({ cls := "NamedPricesModel", name := "held", desc := "(III)I" } : Jvm.MethodName)) ∈ lw_all := lw_g (lw_at lw_m7 130 rfl) rfl
theorem q1660 : (Jvm.Cond.code ({ cls := "NamedPricesModel", name := "held", desc := "(III)I" } : Jvm.MethodName) prog_20_method_4_code (3 : Nat) (Option.some Jvm.ClassFile.FieldType.int)) ∈ lw_all := lw_g (lw_at lw_m7 131 rfl) rfl
theorem q1662 : (Jvm.Cond.instanceMethod ({ cls := "NamedPricesModel", name := "mended", desc := "(I)I" } : Jvm.MethodName)) ∈ lw_all := lw_g (lw_at lw_m7 133 rfl) rfl
theorem q1663 : (Jvm.Cond.selects "NamedPricesModel" ({ cls := "NamedPricesModel", name := "mended", desc := "(I)I" } : Jvm.MethodName) ({ cls := "NamedPricesModel", name := "mended", desc := "(I)I" } : Jvm.MethodName)) ∈ lw_all := lw_g (lw_at lw_m7 134 rfl) rfl
theorem q1664 : (Jvm.Cond.code ({ cls := "NamedPricesModel", name := "mended", desc := "(I)I" } : Jvm.MethodName) prog_20_method_55_code (2 : Nat) (Option.some Jvm.ClassFile.FieldType.int)) ∈ lw_all := lw_g (lw_at lw_m7 135 rfl) rfl
theorem q1665 : (Jvm.Cond.methodLink "NamedPricesModel" (177 : Nat) ({ cls := "NamedPricesModel", name := "isMended", desc := "(I)Z" } : Jvm.MethodName)) ∈ lw_all := lw_g (lw_at lw_m7 136 rfl) rfl
theorem q1666 : (Jvm.Cond.privateMethod ({ cls := "NamedPricesModel", name := "isMended", desc := "(I)Z" } : Jvm.MethodName)) ∈ lw_tbl := lw_at lw_m7 137 rfl
theorem q1667 : (Jvm.Cond.instanceMethod ({ cls := "NamedPricesModel", name := "isMended", desc := "(I)Z" } : Jvm.MethodName)) ∈ lw_all := lw_g (lw_at lw_m7 138 rfl) rfl
theorem q1668 : (Jvm.Cond.code ({ cls := "NamedPricesModel", name := "isMended", desc := "(I)Z" } : Jvm.MethodName) prog_20_method_54_code (5 : Nat) (Option.some Jvm.ClassFile.FieldType.boolean)) ∈ lw_all := lw_g (lw_at lw_m7 139 rfl) rfl
theorem q1670 : (Jvm.Cond.instanceMethod ({ cls := "NamedPricesModel", name := "years", desc := "(I)I" } : Jvm.MethodName)) ∈ lw_all := lw_g (lw_at lw_m7 141 rfl) rfl
theorem q1671 : (Jvm.Cond.selects "NamedPricesModel" ({ cls := "NamedPricesModel", name := "years", desc := "(I)I" } : Jvm.MethodName) ({ cls := "NamedPricesModel", name := "years", desc := "(I)I" } : Jvm.MethodName)) ∈ lw_all := lw_g (lw_at lw_m7 142 rfl) rfl
theorem q1672 : (Jvm.Cond.code ({ cls := "NamedPricesModel", name := "years", desc := "(I)I" } : Jvm.MethodName) prog_20_method_64_code (2 : Nat) (Option.some Jvm.ClassFile.FieldType.int)) ∈ lw_all := lw_g (lw_at lw_m7 143 rfl) rfl
theorem q1673 : (Jvm.Cond.methodLink "NamedPricesModel" (204 : Nat) ({ cls := "NamedPricesModel", name := "go", desc := "(I)V" } : Jvm.MethodName)) ∈ lw_all := lw_g (lw_at lw_m7 144 rfl) rfl
theorem q1674 : (Jvm.Cond.privateMethod ({ cls := "NamedPricesModel", name := "go", desc := "(I)V" } : Jvm.MethodName)) ∈ lw_tbl := lw_at lw_m7 145 rfl
theorem q1675 : (Jvm.Cond.instanceMethod ({ cls := "NamedPricesModel", name := "go", desc := "(I)V" } : Jvm.MethodName)) ∈ lw_all := lw_g (lw_at lw_m7 146 rfl) rfl
theorem q1676 : (Jvm.Cond.code ({ cls := "NamedPricesModel", name := "go", desc := "(I)V" } : Jvm.MethodName) prog_20_method_63_code (3 : Nat) (Option.none : Option Jvm.ClassFile.FieldType)) ∈ lw_all := lw_g (lw_at lw_m7 147 rfl) rfl
theorem q1677 : (Jvm.Cond.methodLink "NamedPricesModel" (201 : Nat) ({ cls := "NamedPricesModel", name := "year", desc := "()V" } : Jvm.MethodName)) ∈ lw_all := lw_g (lw_at lw_m7 148 rfl) rfl
theorem q1678 : (Jvm.Cond.privateMethod ({ cls := "NamedPricesModel", name := "year", desc := "()V" } : Jvm.MethodName)) ∈ lw_tbl := lw_at lw_m7 149 rfl
theorem q1679 : (Jvm.Cond.instanceMethod ({ cls := "NamedPricesModel", name := "year", desc := "()V" } : Jvm.MethodName)) ∈ lw_all := lw_g (lw_at lw_m7 150 rfl) rfl
theorem q1680 : (Jvm.Cond.code ({ cls := "NamedPricesModel", name := "year", desc := "()V" } : Jvm.MethodName) prog_20_method_62_code (2 : Nat) (Option.none : Option Jvm.ClassFile.FieldType)) ∈ lw_all := lw_g (lw_at lw_m7 151 rfl) rfl
theorem q1681 : (Jvm.Cond.methodLink "NamedPricesModel" (188 : Nat) ({ cls := "NamedPricesModel", name := "pays", desc := "(I)V" } : Jvm.MethodName)) ∈ lw_all := lw_g (lw_at lw_m7 152 rfl) rfl
theorem q1682 : (Jvm.Cond.privateMethod ({ cls := "NamedPricesModel", name := "pays", desc := "(I)V" } : Jvm.MethodName)) ∈ lw_tbl := lw_at lw_m7 153 rfl
theorem q1683 : (Jvm.Cond.instanceMethod ({ cls := "NamedPricesModel", name := "pays", desc := "(I)V" } : Jvm.MethodName)) ∈ lw_all := lw_g (lw_at lw_m7 154 rfl) rfl
theorem q1684 : (Jvm.Cond.code ({ cls := "NamedPricesModel", name := "pays", desc := "(I)V" } : Jvm.MethodName) prog_20_method_58_code (5 : Nat) (Option.none : Option Jvm.ClassFile.FieldType)) ∈ lw_all := lw_g (lw_at lw_m7 155 rfl) rfl
theorem q1685 : (Jvm.Cond.constant "NamedPricesModel" (181 : Nat) (1999999999 : Int32)) ∈ lw_all := lw_g (lw_at lw_m7 156 rfl) rfl
theorem q1686 : (Jvm.Cond.methodLink "NamedPricesModel" (192 : Nat) ({ cls := "NamedPricesModel", name := "isAsked", desc := "(I)V" } : Jvm.MethodName)) ∈ lw_all := lw_g (lw_at lw_m7 157 rfl) rfl
theorem q1687 : (Jvm.Cond.privateMethod ({ cls := "NamedPricesModel", name := "isAsked", desc := "(I)V" } : Jvm.MethodName)) ∈ lw_tbl := lw_at lw_m7 158 rfl
theorem q1688 : (Jvm.Cond.instanceMethod ({ cls := "NamedPricesModel", name := "isAsked", desc := "(I)V" } : Jvm.MethodName)) ∈ lw_all := lw_g (lw_at lw_m7 159 rfl) rfl
theorem q1689 : (Jvm.Cond.code ({ cls := "NamedPricesModel", name := "isAsked", desc := "(I)V" } : Jvm.MethodName) prog_20_method_59_code (6 : Nat) (Option.none : Option Jvm.ClassFile.FieldType)) ∈ lw_all := lw_g (lw_at lw_m7 160 rfl) rfl
theorem q1690 : (Jvm.Cond.methodLink "NamedPricesModel" (182 : Nat) ({ cls := "NamedPricesModel", name := "draw", desc := "()I" } : Jvm.MethodName)) ∈ lw_all := lw_g (lw_at lw_m7 161 rfl) rfl
theorem q1691 : (Jvm.Cond.privateMethod ({ cls := "NamedPricesModel", name := "draw", desc := "()I" } : Jvm.MethodName)) ∈ lw_tbl := lw_at lw_m7 162 rfl
theorem q1692 : (Jvm.Cond.instanceMethod ({ cls := "NamedPricesModel", name := "draw", desc := "()I" } : Jvm.MethodName)) ∈ lw_all := lw_g (lw_at lw_m7 163 rfl) rfl
theorem q1693 : (Jvm.Cond.code ({ cls := "NamedPricesModel", name := "draw", desc := "()I" } : Jvm.MethodName) prog_20_method_56_code (1 : Nat) (Option.some Jvm.ClassFile.FieldType.int)) ∈ lw_all := lw_g (lw_at lw_m7 164 rfl) rfl
theorem q1694 : (Jvm.Cond.constant "NamedPricesModel" (180 : Nat) (1103515245 : Int32)) ∈ lw_all := lw_g (lw_at lw_m7 165 rfl) rfl
theorem q1695 : (Jvm.Cond.methodLink "NamedPricesModel" (185 : Nat) ({ cls := "NamedPricesModel", name := "gets", desc := "(II)V" } : Jvm.MethodName)) ∈ lw_all := lw_g (lw_at lw_m7 166 rfl) rfl
theorem q1696 : (Jvm.Cond.privateMethod ({ cls := "NamedPricesModel", name := "gets", desc := "(II)V" } : Jvm.MethodName)) ∈ lw_tbl := lw_at lw_m7 167 rfl
theorem q1697 : (Jvm.Cond.instanceMethod ({ cls := "NamedPricesModel", name := "gets", desc := "(II)V" } : Jvm.MethodName)) ∈ lw_all := lw_g (lw_at lw_m7 168 rfl) rfl
theorem q1698 : (Jvm.Cond.code ({ cls := "NamedPricesModel", name := "gets", desc := "(II)V" } : Jvm.MethodName) prog_20_method_57_code (4 : Nat) (Option.none : Option Jvm.ClassFile.FieldType)) ∈ lw_all := lw_g (lw_at lw_m7 169 rfl) rfl
theorem q1699 : (Jvm.Cond.methodLink "NamedPricesModel" (195 : Nat) ({ cls := "NamedPricesModel", name := "mends", desc := "(I)V" } : Jvm.MethodName)) ∈ lw_all := lw_g (lw_at lw_m7 170 rfl) rfl
theorem q1700 : (Jvm.Cond.privateMethod ({ cls := "NamedPricesModel", name := "mends", desc := "(I)V" } : Jvm.MethodName)) ∈ lw_tbl := lw_at lw_m7 171 rfl
theorem q1701 : (Jvm.Cond.instanceMethod ({ cls := "NamedPricesModel", name := "mends", desc := "(I)V" } : Jvm.MethodName)) ∈ lw_all := lw_g (lw_at lw_m7 172 rfl) rfl
theorem q1702 : (Jvm.Cond.code ({ cls := "NamedPricesModel", name := "mends", desc := "(I)V" } : Jvm.MethodName) prog_20_method_60_code (3 : Nat) (Option.none : Option Jvm.ClassFile.FieldType)) ∈ lw_all := lw_g (lw_at lw_m7 173 rfl) rfl
theorem q1703 : (Jvm.Cond.methodLink "NamedPricesModel" (198 : Nat) ({ cls := "NamedPricesModel", name := "sharesOut", desc := "()V" } : Jvm.MethodName)) ∈ lw_all := lw_g (lw_at lw_m7 174 rfl) rfl
theorem q1704 : (Jvm.Cond.privateMethod ({ cls := "NamedPricesModel", name := "sharesOut", desc := "()V" } : Jvm.MethodName)) ∈ lw_tbl := lw_at lw_m7 175 rfl
theorem q1705 : (Jvm.Cond.instanceMethod ({ cls := "NamedPricesModel", name := "sharesOut", desc := "()V" } : Jvm.MethodName)) ∈ lw_all := lw_g (lw_at lw_m7 176 rfl) rfl
theorem q1706 : (Jvm.Cond.code ({ cls := "NamedPricesModel", name := "sharesOut", desc := "()V" } : Jvm.MethodName) prog_20_method_61_code (4 : Nat) (Option.none : Option Jvm.ClassFile.FieldType)) ∈ lw_all := lw_g (lw_at lw_m7 177 rfl) rfl
theorem q1708 : (Jvm.Cond.instanceMethod ({ cls := "NamedPricesModel", name := "seed", desc := "(I)I" } : Jvm.MethodName)) ∈ lw_all := lw_g (lw_at lw_m7 179 rfl) rfl
theorem q1709 : (Jvm.Cond.selects "NamedPricesModel" ({ cls := "NamedPricesModel", name := "seed", desc := "(I)I" } : Jvm.MethodName) ({ cls := "NamedPricesModel", name := "seed", desc := "(I)I" } : Jvm.MethodName)) ∈ lw_all := lw_g (lw_at lw_m7 180 rfl) rfl
theorem q1710 : (Jvm.Cond.code ({ cls := "NamedPricesModel", name := "seed", desc := "(I)I" } : Jvm.MethodName) prog_20_method_65_code (3 : Nat) (Option.some Jvm.ClassFile.FieldType.int)) ∈ lw_all := lw_g (lw_at lw_m7 181 rfl) rfl
theorem q1712 : (Jvm.Cond.instanceMethod ({ cls := "NamedPricesModel", name := "taken", desc := "(III)J" } : Jvm.MethodName)) ∈ lw_all := lw_g (lw_at lw_m7 183 rfl) rfl
theorem q1713 : (Jvm.Cond.selects "NamedPricesModel" ({ cls := "NamedPricesModel", name := "taken", desc := "(III)J" } : Jvm.MethodName) ({ cls := "NamedPricesModel", name := "taken", desc := "(III)J" } : Jvm.MethodName)) ∈ lw_all := lw_g (lw_at lw_m7 184 rfl) rfl
theorem q1714 : (Jvm.Cond.code ({ cls := "NamedPricesModel", name := "taken", desc := "(III)J" } : Jvm.MethodName) prog_20_method_71_code (6 : Nat) (Option.some Jvm.ClassFile.FieldType.long)) ∈ lw_all := lw_g (lw_at lw_m7 185 rfl) rfl
theorem q1715 : (Jvm.Cond.methodLink "NamedPricesModel" (217 : Nat) ({ cls := "NamedPricesModel", name := "isPriced", desc := "(III)Z" } : Jvm.MethodName)) ∈ lw_all := lw_g (lw_at lw_m7 186 rfl) rfl
theorem q1716 : (Jvm.Cond.privateMethod ({ cls := "NamedPricesModel", name := "isPriced", desc := "(III)Z" } : Jvm.MethodName)) ∈ lw_tbl := lw_at lw_m7 187 rfl
theorem q1717 : (Jvm.Cond.instanceMethod ({ cls := "NamedPricesModel", name := "isPriced", desc := "(III)Z" } : Jvm.MethodName)) ∈ lw_all := lw_g (lw_at lw_m7 188 rfl) rfl
theorem q1718 : (Jvm.Cond.code ({ cls := "NamedPricesModel", name := "isPriced", desc := "(III)Z" } : Jvm.MethodName) prog_20_method_70_code (4 : Nat) (Option.some Jvm.ClassFile.FieldType.boolean)) ∈ lw_all := lw_g (lw_at lw_m7 189 rfl) rfl
theorem q1719 : (Jvm.Cond.methodLink "NamedPricesModel" (220 : Nat) ({ cls := "NamedPricesModel", name := "lowest", desc := "(JJI)J" } : Jvm.MethodName)) ∈ lw_all := lw_g (lw_at lw_m7 190 rfl) rfl
theorem q1720 : (Jvm.Cond.static ({ cls := "NamedPricesModel", name := "lowest", desc := "(JJI)J" } : Jvm.MethodName)) ∈ lw_all := lw_g (lw_at lw_m7 191 rfl) rfl
theorem q1721 : (Jvm.Cond.code ({ cls := "NamedPricesModel", name := "lowest", desc := "(JJI)J" } : Jvm.MethodName) prog_20_method_69_code (11 : Nat) (Option.some Jvm.ClassFile.FieldType.long)) ∈ lw_all := lw_g (lw_at lw_m7 192 rfl) rfl
theorem q1723 : (Jvm.Cond.instanceMethod ({ cls := "NamedPricesModel", name := "gain", desc := "(III)J" } : Jvm.MethodName)) ∈ lw_all := lw_g (lw_at lw_m7 194 rfl) rfl
theorem q1724 : (Jvm.Cond.selects "NamedPricesModel" ({ cls := "NamedPricesModel", name := "gain", desc := "(III)J" } : Jvm.MethodName) ({ cls := "NamedPricesModel", name := "gain", desc := "(III)J" } : Jvm.MethodName)) ∈ lw_all := lw_g (lw_at lw_m7 195 rfl) rfl
theorem q1725 : (Jvm.Cond.code ({ cls := "NamedPricesModel", name := "gain", desc := "(III)J" } : Jvm.MethodName) prog_20_method_72_code (4 : Nat) (Option.some Jvm.ClassFile.FieldType.long)) ∈ lw_all := lw_g (lw_at lw_m7 196 rfl) rfl
theorem q1727 : (Jvm.Cond.instanceMethod ({ cls := "NamedPricesModel", name := "best", desc := "(I)I" } : Jvm.MethodName)) ∈ lw_all := lw_g (lw_at lw_m7 198 rfl) rfl
theorem q1728 : (Jvm.Cond.selects "NamedPricesModel" ({ cls := "NamedPricesModel", name := "best", desc := "(I)I" } : Jvm.MethodName) ({ cls := "NamedPricesModel", name := "best", desc := "(I)I" } : Jvm.MethodName)) ∈ lw_all := lw_g (lw_at lw_m7 199 rfl) rfl
theorem q1729 : (Jvm.Cond.code ({ cls := "NamedPricesModel", name := "best", desc := "(I)I" } : Jvm.MethodName) prog_20_method_76_code (2 : Nat) (Option.some Jvm.ClassFile.FieldType.int)) ∈ lw_all := lw_g (lw_at lw_m7 200 rfl) rfl
theorem q1731 : (Jvm.Cond.instanceMethod ({ cls := "NamedPricesModel", name := "right", desc := "(I)I" } : Jvm.MethodName)) ∈ lw_all := lw_g (lw_at lw_m7 202 rfl) rfl
theorem q1732 : (Jvm.Cond.selects "NamedPricesModel" ({ cls := "NamedPricesModel", name := "right", desc := "(I)I" } : Jvm.MethodName) ({ cls := "NamedPricesModel", name := "right", desc := "(I)I" } : Jvm.MethodName)) ∈ lw_all := lw_g (lw_at lw_m7 203 rfl) rfl
theorem q1733 : (Jvm.Cond.code ({ cls := "NamedPricesModel", name := "right", desc := "(I)I" } : Jvm.MethodName) prog_20_method_77_code (3 : Nat) (Option.some Jvm.ClassFile.FieldType.int)) ∈ lw_all := lw_g (lw_at lw_m7 204 rfl) rfl
theorem q1735 : (Jvm.Cond.instanceMethod ({ cls := "NamedPricesModel", name := "town", desc := "(I)I" } : Jvm.MethodName)) ∈ lw_all := lw_g (lw_at lw_m7 206 rfl) rfl
theorem q1736 : (Jvm.Cond.selects "NamedPricesModel" ({ cls := "NamedPricesModel", name := "town", desc := "(I)I" } : Jvm.MethodName) ({ cls := "NamedPricesModel", name := "town", desc := "(I)I" } : Jvm.MethodName)) ∈ lw_all := lw_g (lw_at lw_m7 207 rfl) rfl
theorem q1737 : (Jvm.Cond.code ({ cls := "NamedPricesModel", name := "town", desc := "(I)I" } : Jvm.MethodName) prog_20_method_80_code (2 : Nat) (Option.some Jvm.ClassFile.FieldType.int)) ∈ lw_all := lw_g (lw_at lw_m7 208 rfl) rfl
theorem q1738 : (Jvm.Cond.methodLink "NamedPricesModel" (238 : Nat) ({ cls := "NamedPricesModel", name := "townOf", desc := "(I)I" } : Jvm.MethodName)) ∈ lw_all := lw_g (lw_at lw_m7 209 rfl) rfl
theorem q1739 : (Jvm.Cond.privateMethod ({ cls := "NamedPricesModel", name := "townOf", desc := "(I)I" } : Jvm.MethodName)) ∈ lw_tbl := lw_at lw_m7 210 rfl
theorem q1740 : (Jvm.Cond.instanceMethod ({ cls := "NamedPricesModel", name := "townOf", desc := "(I)I" } : Jvm.MethodName)) ∈ lw_all := lw_g (lw_at lw_m7 211 rfl) rfl
theorem q1741 : (Jvm.Cond.code ({ cls := "NamedPricesModel", name := "townOf", desc := "(I)I" } : Jvm.MethodName) prog_20_method_79_code (4 : Nat) (Option.some Jvm.ClassFile.FieldType.int)) ∈ lw_all := lw_g (lw_at lw_m7 212 rfl) rfl
theorem q1742 : (Jvm.Cond.methodLink "NamedPricesModel" (235 : Nat) ({ cls := "NamedPricesModel", name := "sumOf", desc := "(I)I" } : Jvm.MethodName)) ∈ lw_all := lw_g (lw_at lw_m7 213 rfl) rfl
theorem q1743 : (Jvm.Cond.privateMethod ({ cls := "NamedPricesModel", name := "sumOf", desc := "(I)I" } : Jvm.MethodName)) ∈ lw_tbl := lw_at lw_m7 214 rfl
theorem q1744 : (Jvm.Cond.instanceMethod ({ cls := "NamedPricesModel", name := "sumOf", desc := "(I)I" } : Jvm.MethodName)) ∈ lw_all := lw_g (lw_at lw_m7 215 rfl) rfl
theorem q1745 : (Jvm.Cond.code ({ cls := "NamedPricesModel", name := "sumOf", desc := "(I)I" } : Jvm.MethodName) prog_20_method_78_code (4 : Nat) (Option.some Jvm.ClassFile.FieldType.int)) ∈ lw_all := lw_g (lw_at lw_m7 216 rfl) rfl
theorem q1747 : (Jvm.Cond.instanceMethod ({ cls := "NamedPricesModel", name := "firm", desc := "(II)I" } : Jvm.MethodName)) ∈ lw_all := lw_g (lw_at lw_m7 218 rfl) rfl
theorem q1748 : (Jvm.Cond.selects "NamedPricesModel" ({ cls := "NamedPricesModel", name := "firm", desc := "(II)I" } : Jvm.MethodName) ({ cls := "NamedPricesModel", name := "firm", desc := "(II)I" } : Jvm.MethodName)) ∈ lw_all := lw_g (lw_at lw_m7 219 rfl) rfl
theorem q1749 : (Jvm.Cond.code ({ cls := "NamedPricesModel", name := "firm", desc := "(II)I" } : Jvm.MethodName) prog_20_method_81_code (10 : Nat) (Option.some Jvm.ClassFile.FieldType.int)) ∈ lw_all := lw_g (lw_at lw_m7 220 rfl) rfl
theorem q1751 : (Jvm.Cond.instanceMethod ({ cls := "NamedPricesModel", name := "then", desc := "(II)I" } : Jvm.MethodName)) ∈ lw_all := lw_g (lw_at lw_m7 222 rfl) rfl
theorem q1752 : (Jvm.Cond.selects "NamedPricesModel" ({ cls := "NamedPricesModel", name := "then", desc := "(II)I" } : Jvm.MethodName) ({ cls := "NamedPricesModel", name := "then", desc := "(II)I" } : Jvm.MethodName)) ∈ lw_all := lw_g (lw_at lw_m7 223 rfl) rfl
theorem q1753 : (Jvm.Cond.code ({ cls := "NamedPricesModel", name := "then", desc := "(II)I" } : Jvm.MethodName) prog_20_method_82_code (4 : Nat) (Option.some Jvm.ClassFile.FieldType.int)) ∈ lw_all := lw_g (lw_at lw_m7 224 rfl) rfl
theorem q1754 : (Jvm.Cond.methodLink "NamedPricesModel" (241 : Nat) ({ cls := "NamedPricesModel", name := "lay", desc := "([I[I)V" } : Jvm.MethodName)) ∈ lw_all := lw_g (lw_at lw_m7 225 rfl) rfl
theorem q1755 : (Jvm.Cond.static ({ cls := "NamedPricesModel", name := "lay", desc := "([I[I)V" } : Jvm.MethodName)) ∈ lw_all := lw_g (lw_at lw_m7 226 rfl) rfl
theorem q1756 : (Jvm.Cond.code ({ cls := "NamedPricesModel", name := "lay", desc := "([I[I)V" } : Jvm.MethodName) prog_20_method_5_code (3 : Nat) (Option.none : Option Jvm.ClassFile.FieldType)) ∈ lw_all := lw_g (lw_at lw_m7 227 rfl) rfl
theorem q1758 : (Jvm.Cond.instanceMethod ({ cls := "NamedPricesModel", name := "whose", desc := "(II)I" } : Jvm.MethodName)) ∈ lw_all := lw_g (lw_at lw_m7 229 rfl) rfl
theorem q1759 : (Jvm.Cond.selects "NamedPricesModel" ({ cls := "NamedPricesModel", name := "whose", desc := "(II)I" } : Jvm.MethodName) ({ cls := "NamedPricesModel", name := "whose", desc := "(II)I" } : Jvm.MethodName)) ∈ lw_all := lw_g (lw_at lw_m7 230 rfl) rfl
theorem q1760 : (Jvm.Cond.code ({ cls := "NamedPricesModel", name := "whose", desc := "(II)I" } : Jvm.MethodName) prog_20_method_83_code (4 : Nat) (Option.some Jvm.ClassFile.FieldType.int)) ∈ lw_all := lw_g (lw_at lw_m7 231 rfl) rfl
theorem q1762 : (Jvm.Cond.instanceMethod ({ cls := "NamedPricesModel", name := "part", desc := "(I)I" } : Jvm.MethodName)) ∈ lw_all := lw_g (lw_at lw_m7 233 rfl) rfl
theorem q1763 : (Jvm.Cond.selects "NamedPricesModel" ({ cls := "NamedPricesModel", name := "part", desc := "(I)I" } : Jvm.MethodName) ({ cls := "NamedPricesModel", name := "part", desc := "(I)I" } : Jvm.MethodName)) ∈ lw_all := lw_g (lw_at lw_m7 234 rfl) rfl
theorem q1764 : (Jvm.Cond.code ({ cls := "NamedPricesModel", name := "part", desc := "(I)I" } : Jvm.MethodName) prog_20_method_84_code (6 : Nat) (Option.some Jvm.ClassFile.FieldType.int)) ∈ lw_all := lw_g (lw_at lw_m7 235 rfl) rfl
theorem q1766 : (Jvm.Cond.instanceMethod ({ cls := "NamedPricesModel", name := "voice", desc := "(III)I" } : Jvm.MethodName)) ∈ lw_all := lw_g (lw_at lw_m7 237 rfl) rfl
theorem q1767 : (Jvm.Cond.selects "NamedPricesModel" ({ cls := "NamedPricesModel", name := "voice", desc := "(III)I" } : Jvm.MethodName) ({ cls := "NamedPricesModel", name := "voice", desc := "(III)I" } : Jvm.MethodName)) ∈ lw_all := lw_g (lw_at lw_m7 238 rfl) rfl
theorem q1768 : (Jvm.Cond.code ({ cls := "NamedPricesModel", name := "voice", desc := "(III)I" } : Jvm.MethodName) prog_20_method_93_code (6 : Nat) (Option.some Jvm.ClassFile.FieldType.int)) ∈ lw_all := lw_g (lw_at lw_m7 239 rfl) rfl
theorem q1769 : (Jvm.Cond.methodLink "NamedPricesModel" (260 : Nat) ({ cls := "NamedPricesModel", name := "kindNow", desc := "()I" } : Jvm.MethodName)) ∈ lw_all := lw_g (lw_at lw_m8 0 rfl) rfl
theorem q1770 : (Jvm.Cond.privateMethod ({ cls := "NamedPricesModel", name := "kindNow", desc := "()I" } : Jvm.MethodName)) ∈ lw_tbl := lw_at lw_m8 1 rfl
theorem q1771 : (Jvm.Cond.instanceMethod ({ cls := "NamedPricesModel", name := "kindNow", desc := "()I" } : Jvm.MethodName)) ∈ lw_all := lw_g (lw_at lw_m8 2 rfl) rfl
theorem q1772 : (Jvm.Cond.code ({ cls := "NamedPricesModel", name := "kindNow", desc := "()I" } : Jvm.MethodName) prog_20_method_87_code (1 : Nat) (Option.some Jvm.ClassFile.FieldType.int)) ∈ lw_all := lw_g (lw_at lw_m8 3 rfl) rfl
theorem q1773 : (Jvm.Cond.methodLink "NamedPricesModel" (257 : Nat) ({ cls := "NamedPricesModel", name := "calls", desc := "(II)I" } : Jvm.MethodName)) ∈ lw_all := lw_g (lw_at lw_m8 4 rfl) rfl
theorem q1774 : (Jvm.Cond.privateMethod ({ cls := "NamedPricesModel", name := "calls", desc := "(II)I" } : Jvm.MethodName)) ∈ lw_tbl := lw_at lw_m8 5 rfl
theorem q1775 : (Jvm.Cond.instanceMethod ({ cls := "NamedPricesModel", name := "calls", desc := "(II)I" } : Jvm.MethodName)) ∈ lw_all := lw_g (lw_at lw_m8 6 rfl) rfl
theorem q1776 : (Jvm.Cond.code ({ cls := "NamedPricesModel", name := "calls", desc := "(II)I" } : Jvm.MethodName) prog_20_method_89_code (3 : Nat) (Option.some Jvm.ClassFile.FieldType.int)) ∈ lw_all := lw_g (lw_at lw_m8 7 rfl) rfl
theorem q1777 : (Jvm.Cond.methodLink "NamedPricesModel" (251 : Nat) ({ cls := "NamedPricesModel", name := "begins", desc := "(I)V" } : Jvm.MethodName)) ∈ lw_all := lw_g (lw_at lw_m8 8 rfl) rfl
theorem q1778 : (Jvm.Cond.privateMethod ({ cls := "NamedPricesModel", name := "begins", desc := "(I)V" } : Jvm.MethodName)) ∈ lw_tbl := lw_at lw_m8 9 rfl
theorem q1779 : (Jvm.Cond.instanceMethod ({ cls := "NamedPricesModel", name := "begins", desc := "(I)V" } : Jvm.MethodName)) ∈ lw_all := lw_g (lw_at lw_m8 10 rfl) rfl
theorem q1780 : (Jvm.Cond.code ({ cls := "NamedPricesModel", name := "begins", desc := "(I)V" } : Jvm.MethodName) prog_20_method_85_code (2 : Nat) (Option.none : Option Jvm.ClassFile.FieldType)) ∈ lw_all := lw_g (lw_at lw_m8 11 rfl) rfl
theorem q1781 : (Jvm.Cond.methodLink "NamedPricesModel" (254 : Nat) ({ cls := "NamedPricesModel", name := "above", desc := "(I)I" } : Jvm.MethodName)) ∈ lw_all := lw_g (lw_at lw_m8 12 rfl) rfl
theorem q1782 : (Jvm.Cond.static ({ cls := "NamedPricesModel", name := "above", desc := "(I)I" } : Jvm.MethodName)) ∈ lw_all := lw_g (lw_at lw_m8 13 rfl) rfl
theorem q1783 : (Jvm.Cond.code ({ cls := "NamedPricesModel", name := "above", desc := "(I)I" } : Jvm.MethodName) prog_20_method_86_code (1 : Nat) (Option.some Jvm.ClassFile.FieldType.int)) ∈ lw_all := lw_g (lw_at lw_m8 14 rfl) rfl
theorem q1784 : (Jvm.Cond.methodLink "NamedPricesModel" (263 : Nat) ({ cls := "NamedPricesModel", name := "buys", desc := "(II)I" } : Jvm.MethodName)) ∈ lw_all := lw_g (lw_at lw_m8 15 rfl) rfl
theorem q1785 : (Jvm.Cond.privateMethod ({ cls := "NamedPricesModel", name := "buys", desc := "(II)I" } : Jvm.MethodName)) ∈ lw_tbl := lw_at lw_m8 16 rfl
theorem q1786 : (Jvm.Cond.instanceMethod ({ cls := "NamedPricesModel", name := "buys", desc := "(II)I" } : Jvm.MethodName)) ∈ lw_all := lw_g (lw_at lw_m8 17 rfl) rfl
theorem q1787 : (Jvm.Cond.code ({ cls := "NamedPricesModel", name := "buys", desc := "(II)I" } : Jvm.MethodName) prog_20_method_90_code (3 : Nat) (Option.some Jvm.ClassFile.FieldType.int)) ∈ lw_all := lw_g (lw_at lw_m8 18 rfl) rfl
theorem q1788 : (Jvm.Cond.methodLink "NamedPricesModel" (269 : Nat) ({ cls := "NamedPricesModel", name := "gives", desc := "(II)I" } : Jvm.MethodName)) ∈ lw_all := lw_g (lw_at lw_m8 19 rfl) rfl
theorem q1789 : (Jvm.Cond.privateMethod ({ cls := "NamedPricesModel", name := "gives", desc := "(II)I" } : Jvm.MethodName)) ∈ lw_tbl := lw_at lw_m8 20 rfl
theorem q1790 : (Jvm.Cond.instanceMethod ({ cls := "NamedPricesModel", name := "gives", desc := "(II)I" } : Jvm.MethodName)) ∈ lw_all := lw_g (lw_at lw_m8 21 rfl) rfl
theorem q1791 : (Jvm.Cond.code ({ cls := "NamedPricesModel", name := "gives", desc := "(II)I" } : Jvm.MethodName) prog_20_method_91_code (3 : Nat) (Option.some Jvm.ClassFile.FieldType.int)) ∈ lw_all := lw_g (lw_at lw_m8 22 rfl) rfl
theorem q1792 : (Jvm.Cond.methodLink "NamedPricesModel" (266 : Nat) ({ cls := "NamedPricesModel", name := "partNow", desc := "()I" } : Jvm.MethodName)) ∈ lw_all := lw_g (lw_at lw_m8 23 rfl) rfl
theorem q1793 : (Jvm.Cond.privateMethod ({ cls := "NamedPricesModel", name := "partNow", desc := "()I" } : Jvm.MethodName)) ∈ lw_tbl := lw_at lw_m8 24 rfl
theorem q1794 : (Jvm.Cond.instanceMethod ({ cls := "NamedPricesModel", name := "partNow", desc := "()I" } : Jvm.MethodName)) ∈ lw_all := lw_g (lw_at lw_m8 25 rfl) rfl
theorem q1795 : (Jvm.Cond.code ({ cls := "NamedPricesModel", name := "partNow", desc := "()I" } : Jvm.MethodName) prog_20_method_88_code (1 : Nat) (Option.some Jvm.ClassFile.FieldType.int)) ∈ lw_all := lw_g (lw_at lw_m8 26 rfl) rfl
theorem q1796 : (Jvm.Cond.methodLink "NamedPricesModel" (276 : Nat) ({ cls := "NamedPricesModel", name := "minds", desc := "(II)I" } : Jvm.MethodName)) ∈ lw_all := lw_g (lw_at lw_m8 27 rfl) rfl
theorem q1797 : (Jvm.Cond.privateMethod ({ cls := "NamedPricesModel", name := "minds", desc := "(II)I" } : Jvm.MethodName)) ∈ lw_tbl := lw_at lw_m8 28 rfl
theorem q1798 : (Jvm.Cond.instanceMethod ({ cls := "NamedPricesModel", name := "minds", desc := "(II)I" } : Jvm.MethodName)) ∈ lw_all := lw_g (lw_at lw_m8 29 rfl) rfl
theorem q1799 : (Jvm.Cond.code ({ cls := "NamedPricesModel", name := "minds", desc := "(II)I" } : Jvm.MethodName) prog_20_method_92_code (5 : Nat) (Option.some Jvm.ClassFile.FieldType.int)) ∈ lw_all := lw_g (lw_at lw_m8 30 rfl) rfl
theorem q1801 : (Jvm.Cond.instanceMethod ({ cls := "NamedPricesModel", name := "body", desc := "(I)I" } : Jvm.MethodName)) ∈ lw_all := lw_g (lw_at lw_m8 32 rfl) rfl
theorem q1802 : (Jvm.Cond.selects "NamedPricesModel" ({ cls := "NamedPricesModel", name := "body", desc := "(I)I" } : Jvm.MethodName) ({ cls := "NamedPricesModel", name := "body", desc := "(I)I" } : Jvm.MethodName)) ∈ lw_all := lw_g (lw_at lw_m8 33 rfl) rfl
theorem q1803 : (Jvm.Cond.code ({ cls := "NamedPricesModel", name := "body", desc := "(I)I" } : Jvm.MethodName) prog_20_method_94_code (2 : Nat) (Option.some Jvm.ClassFile.FieldType.int)) ∈ lw_all := lw_g (lw_at lw_m8 34 rfl) rfl
theorem q1805 : (Jvm.Cond.instanceMethod ({ cls := "NamedPricesModel", name := "sheet", desc := "(III)I" } : Jvm.MethodName)) ∈ lw_all := lw_g (lw_at lw_m8 36 rfl) rfl
theorem q1806 : (Jvm.Cond.selects "NamedPricesModel" ({ cls := "NamedPricesModel", name := "sheet", desc := "(III)I" } : Jvm.MethodName) ({ cls := "NamedPricesModel", name := "sheet", desc := "(III)I" } : Jvm.MethodName)) ∈ lw_all := lw_g (lw_at lw_m8 37 rfl) rfl
theorem q1807 : (Jvm.Cond.code ({ cls := "NamedPricesModel", name := "sheet", desc := "(III)I" } : Jvm.MethodName) prog_20_method_96_code (5 : Nat) (Option.some Jvm.ClassFile.FieldType.int)) ∈ lw_all := lw_g (lw_at lw_m8 38 rfl) rfl
theorem q1808 : (Jvm.Cond.methodLink "NamedPricesModel" (279 : Nat) ({ cls := "NamedPricesModel", name := "isSheet", desc := "(I)Z" } : Jvm.MethodName)) ∈ lw_all := lw_g (lw_at lw_m8 39 rfl) rfl
theorem q1809 : (Jvm.Cond.static ({ cls := "NamedPricesModel", name := "isSheet", desc := "(I)Z" } : Jvm.MethodName)) ∈ lw_all := lw_g (lw_at lw_m8 40 rfl) rfl
theorem q1810 : (Jvm.Cond.code ({ cls := "NamedPricesModel", name := "isSheet", desc := "(I)Z" } : Jvm.MethodName) prog_20_method_95_code (1 : Nat) (Option.some Jvm.ClassFile.FieldType.boolean)) ∈ lw_all := lw_g (lw_at lw_m8 41 rfl) rfl
theorem q1812 : (Jvm.Cond.instanceMethod ({ cls := "NamedPricesModel", name := "put", desc := "(III)I" } : Jvm.MethodName)) ∈ lw_all := lw_g (lw_at lw_m8 43 rfl) rfl
theorem q1813 : (Jvm.Cond.selects "NamedPricesModel" ({ cls := "NamedPricesModel", name := "put", desc := "(III)I" } : Jvm.MethodName) ({ cls := "NamedPricesModel", name := "put", desc := "(III)I" } : Jvm.MethodName)) ∈ lw_all := lw_g (lw_at lw_m8 44 rfl) rfl
theorem q1814 : (Jvm.Cond.code ({ cls := "NamedPricesModel", name := "put", desc := "(III)I" } : Jvm.MethodName) prog_20_method_97_code (5 : Nat) (Option.some Jvm.ClassFile.FieldType.int)) ∈ lw_all := lw_g (lw_at lw_m8 45 rfl) rfl
theorem q1816 : (Jvm.Cond.instanceMethod ({ cls := "NamedPricesModel", name := "move", desc := "(IIIII)I" } : Jvm.MethodName)) ∈ lw_all := lw_g (lw_at lw_m8 47 rfl) rfl
theorem q1817 : (Jvm.Cond.selects "NamedPricesModel" ({ cls := "NamedPricesModel", name := "move", desc := "(IIIII)I" } : Jvm.MethodName) ({ cls := "NamedPricesModel", name := "move", desc := "(IIIII)I" } : Jvm.MethodName)) ∈ lw_all := lw_g (lw_at lw_m8 48 rfl) rfl
theorem q1818 : (Jvm.Cond.code ({ cls := "NamedPricesModel", name := "move", desc := "(IIIII)I" } : Jvm.MethodName) prog_20_method_98_code (7 : Nat) (Option.some Jvm.ClassFile.FieldType.int)) ∈ lw_all := lw_g (lw_at lw_m8 49 rfl) rfl
theorem q1820 : (Jvm.Cond.instanceMethod ({ cls := "NamedPricesModel", name := "worths", desc := "(II)I" } : Jvm.MethodName)) ∈ lw_all := lw_g (lw_at lw_m8 51 rfl) rfl
theorem q1821 : (Jvm.Cond.selects "NamedPricesModel" ({ cls := "NamedPricesModel", name := "worths", desc := "(II)I" } : Jvm.MethodName) ({ cls := "NamedPricesModel", name := "worths", desc := "(II)I" } : Jvm.MethodName)) ∈ lw_all := lw_g (lw_at lw_m8 52 rfl) rfl
theorem q1822 : (Jvm.Cond.code ({ cls := "NamedPricesModel", name := "worths", desc := "(II)I" } : Jvm.MethodName) prog_20_method_100_code (4 : Nat) (Option.some Jvm.ClassFile.FieldType.int)) ∈ lw_all := lw_g (lw_at lw_m8 53 rfl) rfl
theorem q1823 : (Jvm.Cond.methodLink "NamedPricesModel" (282 : Nat) ({ cls := "NamedPricesModel", name := "missing", desc := "(I)I" } : Jvm.MethodName)) ∈ lw_all := lw_g (lw_at lw_m8 54 rfl) rfl
theorem q1824 : (Jvm.Cond.privateMethod ({ cls := "NamedPricesModel", name := "missing", desc := "(I)I" } : Jvm.MethodName)) ∈ lw_tbl := lw_at lw_m8 55 rfl
theorem q1825 : (Jvm.Cond.instanceMethod ({ cls := "NamedPricesModel", name := "missing", desc := "(I)I" } : Jvm.MethodName)) ∈ lw_all := lw_g (lw_at lw_m8 56 rfl) rfl
theorem q1826 : (Jvm.Cond.code ({ cls := "NamedPricesModel", name := "missing", desc := "(I)I" } : Jvm.MethodName) prog_20_method_99_code (2 : Nat) (Option.some Jvm.ClassFile.FieldType.int)) ∈ lw_all := lw_g (lw_at lw_m8 57 rfl) rfl
theorem q1827 : (Jvm.Cond.constant "NamedPricesModel" (285 : Nat) (-1000000002 : Int32)) ∈ lw_all := lw_g (lw_at lw_m8 58 rfl) rfl
theorem q1829 : (Jvm.Cond.instanceMethod ({ cls := "NamedPricesModel", name := "judge", desc := "(I)I" } : Jvm.MethodName)) ∈ lw_all := lw_g (lw_at lw_m8 60 rfl) rfl
theorem q1830 : (Jvm.Cond.selects "NamedPricesModel" ({ cls := "NamedPricesModel", name := "judge", desc := "(I)I" } : Jvm.MethodName) ({ cls := "NamedPricesModel", name := "judge", desc := "(I)I" } : Jvm.MethodName)) ∈ lw_all := lw_g (lw_at lw_m8 61 rfl) rfl
theorem q1831 : (Jvm.Cond.code ({ cls := "NamedPricesModel", name := "judge", desc := "(I)I" } : Jvm.MethodName) prog_20_method_101_code (3 : Nat) (Option.some Jvm.ClassFile.FieldType.int)) ∈ lw_all := lw_g (lw_at lw_m8 62 rfl) rfl
theorem q1833 : (Jvm.Cond.instanceMethod ({ cls := "NamedPricesModel", name := "image", desc := "()I" } : Jvm.MethodName)) ∈ lw_all := lw_g (lw_at lw_m8 64 rfl) rfl
theorem q1834 : (Jvm.Cond.selects "NamedPricesModel" ({ cls := "NamedPricesModel", name := "image", desc := "()I" } : Jvm.MethodName) ({ cls := "NamedPricesModel", name := "image", desc := "()I" } : Jvm.MethodName)) ∈ lw_all := lw_g (lw_at lw_m8 65 rfl) rfl
theorem q1835 : (Jvm.Cond.code ({ cls := "NamedPricesModel", name := "image", desc := "()I" } : Jvm.MethodName) prog_20_method_102_code (1 : Nat) (Option.some Jvm.ClassFile.FieldType.int)) ∈ lw_all := lw_g (lw_at lw_m8 66 rfl) rfl
theorem q1837 : (Jvm.Cond.instanceMethod ({ cls := "NamedPricesModel", name := "restore", desc := "()I" } : Jvm.MethodName)) ∈ lw_all := lw_g (lw_at lw_m8 68 rfl) rfl
theorem q1838 : (Jvm.Cond.selects "NamedPricesModel" ({ cls := "NamedPricesModel", name := "restore", desc := "()I" } : Jvm.MethodName) ({ cls := "NamedPricesModel", name := "restore", desc := "()I" } : Jvm.MethodName)) ∈ lw_all := lw_g (lw_at lw_m8 69 rfl) rfl
theorem q1839 : (Jvm.Cond.code ({ cls := "NamedPricesModel", name := "restore", desc := "()I" } : Jvm.MethodName) prog_20_method_103_code (1 : Nat) (Option.some Jvm.ClassFile.FieldType.int)) ∈ lw_all := lw_g (lw_at lw_m8 70 rfl) rfl
theorem q1841 : (Jvm.Cond.instanceMethod ({ cls := "NamedPricesModel", name := "tell", desc := "(I)I" } : Jvm.MethodName)) ∈ lw_all := lw_g (lw_at lw_m8 72 rfl) rfl
theorem q1842 : (Jvm.Cond.selects "NamedPricesModel" ({ cls := "NamedPricesModel", name := "tell", desc := "(I)I" } : Jvm.MethodName) ({ cls := "NamedPricesModel", name := "tell", desc := "(I)I" } : Jvm.MethodName)) ∈ lw_all := lw_g (lw_at lw_m8 73 rfl) rfl
theorem q1843 : (Jvm.Cond.code ({ cls := "NamedPricesModel", name := "tell", desc := "(I)I" } : Jvm.MethodName) prog_20_method_104_code (2 : Nat) (Option.some Jvm.ClassFile.FieldType.int)) ∈ lw_all := lw_g (lw_at lw_m8 74 rfl) rfl
theorem q1845 : (Jvm.Cond.instanceMethod ({ cls := "NamedPricesModel", name := "check", desc := "(I)I" } : Jvm.MethodName)) ∈ lw_all := lw_g (lw_at lw_m8 76 rfl) rfl
theorem q1846 : (Jvm.Cond.selects "NamedPricesModel" ({ cls := "NamedPricesModel", name := "check", desc := "(I)I" } : Jvm.MethodName) ({ cls := "NamedPricesModel", name := "check", desc := "(I)I" } : Jvm.MethodName)) ∈ lw_all := lw_g (lw_at lw_m8 77 rfl) rfl
theorem q1847 : (Jvm.Cond.code ({ cls := "NamedPricesModel", name := "check", desc := "(I)I" } : Jvm.MethodName) prog_20_method_105_code (6 : Nat) (Option.some Jvm.ClassFile.FieldType.int)) ∈ lw_all := lw_g (lw_at lw_m8 78 rfl) rfl
theorem q1849 : (Jvm.Cond.instanceMethod ({ cls := "NamedPricesModel", name := "count", desc := "(I)I" } : Jvm.MethodName)) ∈ lw_all := lw_g (lw_at lw_m8 80 rfl) rfl
theorem q1850 : (Jvm.Cond.selects "NamedPricesModel" ({ cls := "NamedPricesModel", name := "count", desc := "(I)I" } : Jvm.MethodName) ({ cls := "NamedPricesModel", name := "count", desc := "(I)I" } : Jvm.MethodName)) ∈ lw_all := lw_g (lw_at lw_m8 81 rfl) rfl
theorem q1851 : (Jvm.Cond.code ({ cls := "NamedPricesModel", name := "count", desc := "(I)I" } : Jvm.MethodName) prog_20_method_106_code (2 : Nat) (Option.some Jvm.ClassFile.FieldType.int)) ∈ lw_all := lw_g (lw_at lw_m8 82 rfl) rfl
theorem q1853 : (Jvm.Cond.instanceMethod ({ cls := "NamedPricesModel", name := "told", desc := "(I)I" } : Jvm.MethodName)) ∈ lw_all := lw_g (lw_at lw_m8 84 rfl) rfl
theorem q1854 : (Jvm.Cond.selects "NamedPricesModel" ({ cls := "NamedPricesModel", name := "told", desc := "(I)I" } : Jvm.MethodName) ({ cls := "NamedPricesModel", name := "told", desc := "(I)I" } : Jvm.MethodName)) ∈ lw_all := lw_g (lw_at lw_m8 85 rfl) rfl
theorem q1855 : (Jvm.Cond.code ({ cls := "NamedPricesModel", name := "told", desc := "(I)I" } : Jvm.MethodName) prog_20_method_107_code (2 : Nat) (Option.some Jvm.ClassFile.FieldType.int)) ∈ lw_all := lw_g (lw_at lw_m8 86 rfl) rfl
theorem in_X5 : ∀ w ∈ wsX50, w ∈ lw_all := lw_in wsX50 [1394, 1396, 1398, 1400, 1402, 1404, 1406, 1408, 1410, 1412, 1414, 1416, 1418, 1420, 1422, 1424, 1426, 1428, 1430, 1432] (by decide +kernel) (by decide +kernel)
