/-! NamedPrices -/
set_option maxRecDepth 100000
def RX0 : String := "NamedPrices"
def TX0 : u_T := fun k => match k with
  | 0 => ("NamedPrices", "pile", "[I", true)
  | 1 => ("NamedPrices", "named", "[I", true)
  | 2 => ("NamedPrices", "house", "LNamedPrices$House;", false)
  | 3 => ("NamedPrices", "aside", "LNamedPrices$House;", false)
  | 4 => ("NamedPrices", "kept", "LNamedPrices$House;", true)
  | 5 => ("NamedPrices", "trace", "LNamedPrices$Trace;", true)
  | 6 => ("NamedPrices", "found", "[I", true)
  | 7 => ("NamedPrices", "sheets", "[LNamedPrices$Slot;", true)
  | 8 => ("NamedPrices", "eyes", "LNamedPrices$Sees;", true)
  | 9 => ("NamedPrices", "images", "I", false)
  | 10 => ("NamedPrices", "stays", "J", false)
  | 11 => ("NamedPrices", "all", "J", false)
  | 12 => ("NamedPrices", "triedPrice", "I", false)
  | _ => ("NamedPrices", "triedGain", "J", false)
def tyX0 : Nat → FieldType := fun k => match k with
  | 0 => .array .int
  | 1 => .array .int
  | 2 => .object "NamedPrices$House"
  | 3 => .object "NamedPrices$House"
  | 4 => .object "NamedPrices$House"
  | 5 => .object "NamedPrices$Trace"
  | 6 => .array .int
  | 7 => .array (.object "NamedPrices$Slot")
  | 8 => .object "NamedPrices$Sees"
  | 9 => .int
  | 10 => .long
  | 11 => .long
  | 12 => .int
  | _ => .long
abbrev wsX00 : List Cond := u_ws RX0 TX0 14
set_option maxRecDepth 100000 in
theorem nmX0 : ∀ a, a < 14 → ∀ b, b < 14 → a ≠ b → (TX0 a).2.1 ≠ (TX0 b).2.1 := by decide +kernel
set_option maxRecDepth 100000 in
theorem tyX0_ok : ∀ k, k < 14 → parseFieldDescriptor (TX0 k).2.2.1 = some (tyX0 k) := by decide +kernel
abbrev cX0_init : ByteArray := prog_1_method_8_code
def yX0_init : MethodName := ⟨RX0, "<init>", "()V"⟩
def dkwX0_init_5 : List UInt8 := [181, 0, 96, 42, 187, 0, 100, 89, 42, 183, 0, 102, 181, 0, 105, 177]
abbrev dktX0_init_5 : List UInt8 := dkwX0_init_5 ++ []
def dkwX0_init_4 : List UInt8 := [183, 0, 95, 83, 89, 5, 187, 0, 93, 89, 183, 0, 95, 83, 89, 6, 187, 0, 93, 89, 183, 0, 95, 83]
abbrev dktX0_init_4 : List UInt8 := dkwX0_init_4 ++ dktX0_init_5
def dkwX0_init_3 : List UInt8 := [181, 0, 90, 42, 7, 189, 0, 93, 89, 3, 187, 0, 93, 89, 183, 0, 95, 83, 89, 4, 187, 0, 93, 89]
abbrev dktX0_init_3 : List UInt8 := dkwX0_init_3 ++ dktX0_init_4
def dkwX0_init_2 : List UInt8 := [183, 0, 72, 181, 0, 80, 42, 187, 0, 83, 89, 183, 0, 85, 181, 0, 86, 42, 16, 7, 188, 10]
abbrev dktX0_init_2 : List UInt8 := dkwX0_init_2 ++ dktX0_init_3
def dkwX0_init_1 : List UInt8 := [183, 0, 72, 181, 0, 73, 42, 187, 0, 70, 89, 183, 0, 72, 181, 0, 77, 42, 187, 0, 70, 89]
abbrev dktX0_init_1 : List UInt8 := dkwX0_init_1 ++ dktX0_init_2
def dkwX0_init_0 : List UInt8 := [42, 183, 0, 65, 42, 16, 60, 188, 10, 181, 0, 50, 42, 8, 188, 10, 181, 0, 58, 42, 187, 0, 70, 89]
abbrev dktX0_init_0 : List UInt8 := dkwX0_init_0 ++ dktX0_init_1
theorem dksX0_init_0 : cX0_init.data.toList.drop 0 = dktX0_init_0 := by decide +kernel
theorem dksX0_init_1 : cX0_init.data.toList.drop 24 = dktX0_init_1 := dk_seg dksX0_init_0 24 rfl rfl
theorem dksX0_init_2 : cX0_init.data.toList.drop 46 = dktX0_init_2 := dk_seg dksX0_init_1 22 rfl rfl
theorem dksX0_init_3 : cX0_init.data.toList.drop 68 = dktX0_init_3 := dk_seg dksX0_init_2 22 rfl rfl
theorem dksX0_init_4 : cX0_init.data.toList.drop 92 = dktX0_init_4 := dk_seg dksX0_init_3 24 rfl rfl
theorem dksX0_init_5 : cX0_init.data.toList.drop 116 = dktX0_init_5 := dk_seg dksX0_init_4 24 rfl rfl
theorem dX0_init_0 : decode cX0_init 0 = .ok (.aload_n 0, 1) := dk_42 (dk_at dksX0_init_0 0 rfl rfl)
theorem dX0_init_1 : decode cX0_init 1 = .ok (.invokespecial 65, 3) := dk_183 0 65 (dk_at dksX0_init_0 1 rfl rfl)
theorem dX0_init_4 : decode cX0_init 4 = .ok (.aload_n 0, 1) := dk_42 (dk_at dksX0_init_0 4 rfl rfl)
theorem dX0_init_5 : decode cX0_init 5 = .ok (.bipush 60, 2) := dk_16 60 (dk_at dksX0_init_0 5 rfl rfl)
theorem dX0_init_7 : decode cX0_init 7 = .ok (.newarray .int, 2) := dk_188_10 (dk_at dksX0_init_0 7 rfl rfl)
theorem dX0_init_9 : decode cX0_init 9 = .ok (.putfield 50, 3) := dk_181 0 50 (dk_at dksX0_init_0 9 rfl rfl)
theorem dX0_init_12 : decode cX0_init 12 = .ok (.aload_n 0, 1) := dk_42 (dk_at dksX0_init_0 12 rfl rfl)
theorem dX0_init_13 : decode cX0_init 13 = .ok (.iconst 5, 1) := dk_8 (dk_at dksX0_init_0 13 rfl rfl)
theorem dX0_init_14 : decode cX0_init 14 = .ok (.newarray .int, 2) := dk_188_10 (dk_at dksX0_init_0 14 rfl rfl)
theorem dX0_init_16 : decode cX0_init 16 = .ok (.putfield 58, 3) := dk_181 0 58 (dk_at dksX0_init_0 16 rfl rfl)
theorem dX0_init_19 : decode cX0_init 19 = .ok (.aload_n 0, 1) := dk_42 (dk_at dksX0_init_0 19 rfl rfl)
theorem dX0_init_20 : decode cX0_init 20 = .ok (.new 70, 3) := dk_187 0 70 (dk_at dksX0_init_0 20 rfl rfl)
theorem dX0_init_23 : decode cX0_init 23 = .ok (.dup, 1) := dk_89 (dk_at dksX0_init_0 23 rfl rfl)
theorem dX0_init_24 : decode cX0_init 24 = .ok (.invokespecial 72, 3) := dk_183 0 72 (dk_at dksX0_init_1 0 rfl rfl)
theorem dX0_init_27 : decode cX0_init 27 = .ok (.putfield 73, 3) := dk_181 0 73 (dk_at dksX0_init_1 3 rfl rfl)
theorem dX0_init_30 : decode cX0_init 30 = .ok (.aload_n 0, 1) := dk_42 (dk_at dksX0_init_1 6 rfl rfl)
theorem dX0_init_31 : decode cX0_init 31 = .ok (.new 70, 3) := dk_187 0 70 (dk_at dksX0_init_1 7 rfl rfl)
theorem dX0_init_34 : decode cX0_init 34 = .ok (.dup, 1) := dk_89 (dk_at dksX0_init_1 10 rfl rfl)
theorem dX0_init_35 : decode cX0_init 35 = .ok (.invokespecial 72, 3) := dk_183 0 72 (dk_at dksX0_init_1 11 rfl rfl)
theorem dX0_init_38 : decode cX0_init 38 = .ok (.putfield 77, 3) := dk_181 0 77 (dk_at dksX0_init_1 14 rfl rfl)
theorem dX0_init_41 : decode cX0_init 41 = .ok (.aload_n 0, 1) := dk_42 (dk_at dksX0_init_1 17 rfl rfl)
theorem dX0_init_42 : decode cX0_init 42 = .ok (.new 70, 3) := dk_187 0 70 (dk_at dksX0_init_1 18 rfl rfl)
theorem dX0_init_45 : decode cX0_init 45 = .ok (.dup, 1) := dk_89 (dk_at dksX0_init_1 21 rfl rfl)
theorem dX0_init_46 : decode cX0_init 46 = .ok (.invokespecial 72, 3) := dk_183 0 72 (dk_at dksX0_init_2 0 rfl rfl)
theorem dX0_init_49 : decode cX0_init 49 = .ok (.putfield 80, 3) := dk_181 0 80 (dk_at dksX0_init_2 3 rfl rfl)
theorem dX0_init_52 : decode cX0_init 52 = .ok (.aload_n 0, 1) := dk_42 (dk_at dksX0_init_2 6 rfl rfl)
theorem dX0_init_53 : decode cX0_init 53 = .ok (.new 83, 3) := dk_187 0 83 (dk_at dksX0_init_2 7 rfl rfl)
theorem dX0_init_56 : decode cX0_init 56 = .ok (.dup, 1) := dk_89 (dk_at dksX0_init_2 10 rfl rfl)
theorem dX0_init_57 : decode cX0_init 57 = .ok (.invokespecial 85, 3) := dk_183 0 85 (dk_at dksX0_init_2 11 rfl rfl)
theorem dX0_init_60 : decode cX0_init 60 = .ok (.putfield 86, 3) := dk_181 0 86 (dk_at dksX0_init_2 14 rfl rfl)
theorem dX0_init_63 : decode cX0_init 63 = .ok (.aload_n 0, 1) := dk_42 (dk_at dksX0_init_2 17 rfl rfl)
theorem dX0_init_64 : decode cX0_init 64 = .ok (.bipush 7, 2) := dk_16 7 (dk_at dksX0_init_2 18 rfl rfl)
theorem dX0_init_66 : decode cX0_init 66 = .ok (.newarray .int, 2) := dk_188_10 (dk_at dksX0_init_2 20 rfl rfl)
theorem dX0_init_68 : decode cX0_init 68 = .ok (.putfield 90, 3) := dk_181 0 90 (dk_at dksX0_init_3 0 rfl rfl)
theorem dX0_init_71 : decode cX0_init 71 = .ok (.aload_n 0, 1) := dk_42 (dk_at dksX0_init_3 3 rfl rfl)
theorem dX0_init_72 : decode cX0_init 72 = .ok (.iconst 4, 1) := dk_7 (dk_at dksX0_init_3 4 rfl rfl)
theorem dX0_init_73 : decode cX0_init 73 = .ok (.anewarray 93, 3) := dk_189 0 93 (dk_at dksX0_init_3 5 rfl rfl)
theorem dX0_init_76 : decode cX0_init 76 = .ok (.dup, 1) := dk_89 (dk_at dksX0_init_3 8 rfl rfl)
theorem dX0_init_77 : decode cX0_init 77 = .ok (.iconst 0, 1) := dk_3 (dk_at dksX0_init_3 9 rfl rfl)
theorem dX0_init_78 : decode cX0_init 78 = .ok (.new 93, 3) := dk_187 0 93 (dk_at dksX0_init_3 10 rfl rfl)
theorem dX0_init_81 : decode cX0_init 81 = .ok (.dup, 1) := dk_89 (dk_at dksX0_init_3 13 rfl rfl)
theorem dX0_init_82 : decode cX0_init 82 = .ok (.invokespecial 95, 3) := dk_183 0 95 (dk_at dksX0_init_3 14 rfl rfl)
theorem dX0_init_85 : decode cX0_init 85 = .ok (.aastore, 1) := dk_83 (dk_at dksX0_init_3 17 rfl rfl)
theorem dX0_init_86 : decode cX0_init 86 = .ok (.dup, 1) := dk_89 (dk_at dksX0_init_3 18 rfl rfl)
theorem dX0_init_87 : decode cX0_init 87 = .ok (.iconst 1, 1) := dk_4 (dk_at dksX0_init_3 19 rfl rfl)
theorem dX0_init_88 : decode cX0_init 88 = .ok (.new 93, 3) := dk_187 0 93 (dk_at dksX0_init_3 20 rfl rfl)
theorem dX0_init_91 : decode cX0_init 91 = .ok (.dup, 1) := dk_89 (dk_at dksX0_init_3 23 rfl rfl)
theorem dX0_init_92 : decode cX0_init 92 = .ok (.invokespecial 95, 3) := dk_183 0 95 (dk_at dksX0_init_4 0 rfl rfl)
theorem dX0_init_95 : decode cX0_init 95 = .ok (.aastore, 1) := dk_83 (dk_at dksX0_init_4 3 rfl rfl)
theorem dX0_init_96 : decode cX0_init 96 = .ok (.dup, 1) := dk_89 (dk_at dksX0_init_4 4 rfl rfl)
theorem dX0_init_97 : decode cX0_init 97 = .ok (.iconst 2, 1) := dk_5 (dk_at dksX0_init_4 5 rfl rfl)
theorem dX0_init_98 : decode cX0_init 98 = .ok (.new 93, 3) := dk_187 0 93 (dk_at dksX0_init_4 6 rfl rfl)
theorem dX0_init_101 : decode cX0_init 101 = .ok (.dup, 1) := dk_89 (dk_at dksX0_init_4 9 rfl rfl)
theorem dX0_init_102 : decode cX0_init 102 = .ok (.invokespecial 95, 3) := dk_183 0 95 (dk_at dksX0_init_4 10 rfl rfl)
theorem dX0_init_105 : decode cX0_init 105 = .ok (.aastore, 1) := dk_83 (dk_at dksX0_init_4 13 rfl rfl)
theorem dX0_init_106 : decode cX0_init 106 = .ok (.dup, 1) := dk_89 (dk_at dksX0_init_4 14 rfl rfl)
theorem dX0_init_107 : decode cX0_init 107 = .ok (.iconst 3, 1) := dk_6 (dk_at dksX0_init_4 15 rfl rfl)
theorem dX0_init_108 : decode cX0_init 108 = .ok (.new 93, 3) := dk_187 0 93 (dk_at dksX0_init_4 16 rfl rfl)
theorem dX0_init_111 : decode cX0_init 111 = .ok (.dup, 1) := dk_89 (dk_at dksX0_init_4 19 rfl rfl)
theorem dX0_init_112 : decode cX0_init 112 = .ok (.invokespecial 95, 3) := dk_183 0 95 (dk_at dksX0_init_4 20 rfl rfl)
theorem dX0_init_115 : decode cX0_init 115 = .ok (.aastore, 1) := dk_83 (dk_at dksX0_init_4 23 rfl rfl)
theorem dX0_init_116 : decode cX0_init 116 = .ok (.putfield 96, 3) := dk_181 0 96 (dk_at dksX0_init_5 0 rfl rfl)
theorem dX0_init_119 : decode cX0_init 119 = .ok (.aload_n 0, 1) := dk_42 (dk_at dksX0_init_5 3 rfl rfl)
theorem dX0_init_120 : decode cX0_init 120 = .ok (.new 100, 3) := dk_187 0 100 (dk_at dksX0_init_5 4 rfl rfl)
theorem dX0_init_123 : decode cX0_init 123 = .ok (.dup, 1) := dk_89 (dk_at dksX0_init_5 7 rfl rfl)
theorem dX0_init_124 : decode cX0_init 124 = .ok (.aload_n 0, 1) := dk_42 (dk_at dksX0_init_5 8 rfl rfl)
theorem dX0_init_125 : decode cX0_init 125 = .ok (.invokespecial 102, 3) := dk_183 0 102 (dk_at dksX0_init_5 9 rfl rfl)
theorem dX0_init_128 : decode cX0_init 128 = .ok (.putfield 105, 3) := dk_181 0 105 (dk_at dksX0_init_5 12 rfl rfl)
theorem dX0_init_131 : decode cX0_init 131 = .ok (.return_, 1) := dk_177 (dk_at dksX0_init_5 15 rfl rfl)
abbrev cX0_person : ByteArray := prog_1_method_20_code
def yX0_person : MethodName := ⟨RX0, "person", "(III)I"⟩
def dkwX0_person_6 : List UInt8 := [181, 0, 110, 21, 4, 172]
abbrev dktX0_person_6 : List UInt8 := dkwX0_person_6 ++ []
def dkwX0_person_5 : List UInt8 := [21, 4, 104, 21, 5, 96, 3, 79, 132, 5, 1, 167, 255, 229, 42, 180, 0, 73, 89, 180, 0, 110, 4, 96]
abbrev dktX0_person_5 : List UInt8 := dkwX0_person_5 ++ dktX0_person_6
def dkwX0_person_4 : List UInt8 := [21, 4, 28, 79, 3, 54, 5, 21, 5, 16, 12, 162, 0, 26, 42, 180, 0, 73, 180, 0, 220, 16, 12]
abbrev dktX0_person_4 : List UInt8 := dkwX0_person_4 ++ dktX0_person_5
def dkwX0_person_3 : List UInt8 := [21, 4, 29, 16, 10, 108, 29, 16, 10, 112, 184, 0, 210, 181, 0, 214, 42, 180, 0, 73, 180, 0, 217]
abbrev dktX0_person_3 : List UInt8 := dkwX0_person_3 ++ dktX0_person_4
def dkwX0_person_2 : List UInt8 := [182, 0, 204, 172, 42, 180, 0, 73, 180, 0, 110, 54, 4, 42, 180, 0, 73, 180, 0, 207, 21, 4, 50, 27]
abbrev dktX0_person_2 : List UInt8 := dkwX0_person_2 ++ dktX0_person_3
def dkwX0_person_1 : List UInt8 := [154, 0, 9, 42, 4, 182, 0, 204, 172, 42, 180, 0, 73, 180, 0, 110, 16, 6, 160, 0, 9, 42, 7]
abbrev dktX0_person_1 : List UInt8 := dkwX0_person_1 ++ dktX0_person_2
def dkwX0_person_0 : List UInt8 := [27, 3, 16, 6, 184, 0, 113, 153, 0, 20, 28, 3, 18, 199, 184, 0, 113, 153, 0, 10, 29, 184, 0, 200]
abbrev dktX0_person_0 : List UInt8 := dkwX0_person_0 ++ dktX0_person_1
theorem dksX0_person_0 : cX0_person.data.toList.drop 0 = dktX0_person_0 := by decide +kernel
theorem dksX0_person_1 : cX0_person.data.toList.drop 24 = dktX0_person_1 := dk_seg dksX0_person_0 24 rfl rfl
theorem dksX0_person_2 : cX0_person.data.toList.drop 47 = dktX0_person_2 := dk_seg dksX0_person_1 23 rfl rfl
theorem dksX0_person_3 : cX0_person.data.toList.drop 71 = dktX0_person_3 := dk_seg dksX0_person_2 24 rfl rfl
theorem dksX0_person_4 : cX0_person.data.toList.drop 94 = dktX0_person_4 := dk_seg dksX0_person_3 23 rfl rfl
theorem dksX0_person_5 : cX0_person.data.toList.drop 117 = dktX0_person_5 := dk_seg dksX0_person_4 23 rfl rfl
theorem dksX0_person_6 : cX0_person.data.toList.drop 141 = dktX0_person_6 := dk_seg dksX0_person_5 24 rfl rfl
theorem dX0_person_0 : decode cX0_person 0 = .ok (.iload_n 1, 1) := dk_27 (dk_at dksX0_person_0 0 rfl rfl)
theorem dX0_person_1 : decode cX0_person 1 = .ok (.iconst 0, 1) := dk_3 (dk_at dksX0_person_0 1 rfl rfl)
theorem dX0_person_2 : decode cX0_person 2 = .ok (.bipush 6, 2) := dk_16 6 (dk_at dksX0_person_0 2 rfl rfl)
theorem dX0_person_4 : decode cX0_person 4 = .ok (.invokestatic 113, 3) := dk_184 0 113 (dk_at dksX0_person_0 4 rfl rfl)
theorem dX0_person_7 : decode cX0_person 7 = .ok (.ifCond .eq 20, 3) := dk_153 0 20 (dk_at dksX0_person_0 7 rfl rfl)
theorem dX0_person_10 : decode cX0_person 10 = .ok (.iload_n 2, 1) := dk_28 (dk_at dksX0_person_0 10 rfl rfl)
theorem dX0_person_11 : decode cX0_person 11 = .ok (.iconst 0, 1) := dk_3 (dk_at dksX0_person_0 11 rfl rfl)
theorem dX0_person_12 : decode cX0_person 12 = .ok (.ldc 199, 2) := dk_18 199 (dk_at dksX0_person_0 12 rfl rfl)
theorem dX0_person_14 : decode cX0_person 14 = .ok (.invokestatic 113, 3) := dk_184 0 113 (dk_at dksX0_person_0 14 rfl rfl)
theorem dX0_person_17 : decode cX0_person 17 = .ok (.ifCond .eq 10, 3) := dk_153 0 10 (dk_at dksX0_person_0 17 rfl rfl)
theorem dX0_person_20 : decode cX0_person 20 = .ok (.iload_n 3, 1) := dk_29 (dk_at dksX0_person_0 20 rfl rfl)
theorem dX0_person_21 : decode cX0_person 21 = .ok (.invokestatic 200, 3) := dk_184 0 200 (dk_at dksX0_person_0 21 rfl rfl)
theorem dX0_person_24 : decode cX0_person 24 = .ok (.ifCond .ne 9, 3) := dk_154 0 9 (dk_at dksX0_person_1 0 rfl rfl)
theorem dX0_person_27 : decode cX0_person 27 = .ok (.aload_n 0, 1) := dk_42 (dk_at dksX0_person_1 3 rfl rfl)
theorem dX0_person_28 : decode cX0_person 28 = .ok (.iconst 1, 1) := dk_4 (dk_at dksX0_person_1 4 rfl rfl)
theorem dX0_person_29 : decode cX0_person 29 = .ok (.invokevirtual 204, 3) := dk_182 0 204 (dk_at dksX0_person_1 5 rfl rfl)
theorem dX0_person_32 : decode cX0_person 32 = .ok (.ireturn, 1) := dk_172 (dk_at dksX0_person_1 8 rfl rfl)
theorem dX0_person_33 : decode cX0_person 33 = .ok (.aload_n 0, 1) := dk_42 (dk_at dksX0_person_1 9 rfl rfl)
theorem dX0_person_34 : decode cX0_person 34 = .ok (.getfield 73, 3) := dk_180 0 73 (dk_at dksX0_person_1 10 rfl rfl)
theorem dX0_person_37 : decode cX0_person 37 = .ok (.getfield 110, 3) := dk_180 0 110 (dk_at dksX0_person_1 13 rfl rfl)
theorem dX0_person_40 : decode cX0_person 40 = .ok (.bipush 6, 2) := dk_16 6 (dk_at dksX0_person_1 16 rfl rfl)
theorem dX0_person_42 : decode cX0_person 42 = .ok (.if_icmp .ne 9, 3) := dk_160 0 9 (dk_at dksX0_person_1 18 rfl rfl)
theorem dX0_person_45 : decode cX0_person 45 = .ok (.aload_n 0, 1) := dk_42 (dk_at dksX0_person_1 21 rfl rfl)
theorem dX0_person_46 : decode cX0_person 46 = .ok (.iconst 4, 1) := dk_7 (dk_at dksX0_person_1 22 rfl rfl)
theorem dX0_person_47 : decode cX0_person 47 = .ok (.invokevirtual 204, 3) := dk_182 0 204 (dk_at dksX0_person_2 0 rfl rfl)
theorem dX0_person_50 : decode cX0_person 50 = .ok (.ireturn, 1) := dk_172 (dk_at dksX0_person_2 3 rfl rfl)
theorem dX0_person_51 : decode cX0_person 51 = .ok (.aload_n 0, 1) := dk_42 (dk_at dksX0_person_2 4 rfl rfl)
theorem dX0_person_52 : decode cX0_person 52 = .ok (.getfield 73, 3) := dk_180 0 73 (dk_at dksX0_person_2 5 rfl rfl)
theorem dX0_person_55 : decode cX0_person 55 = .ok (.getfield 110, 3) := dk_180 0 110 (dk_at dksX0_person_2 8 rfl rfl)
theorem dX0_person_58 : decode cX0_person 58 = .ok (.istore 4, 2) := dk_54 4 (dk_at dksX0_person_2 11 rfl rfl)
theorem dX0_person_60 : decode cX0_person 60 = .ok (.aload_n 0, 1) := dk_42 (dk_at dksX0_person_2 13 rfl rfl)
theorem dX0_person_61 : decode cX0_person 61 = .ok (.getfield 73, 3) := dk_180 0 73 (dk_at dksX0_person_2 14 rfl rfl)
theorem dX0_person_64 : decode cX0_person 64 = .ok (.getfield 207, 3) := dk_180 0 207 (dk_at dksX0_person_2 17 rfl rfl)
theorem dX0_person_67 : decode cX0_person 67 = .ok (.iload 4, 2) := dk_21 4 (dk_at dksX0_person_2 20 rfl rfl)
theorem dX0_person_69 : decode cX0_person 69 = .ok (.aaload, 1) := dk_50 (dk_at dksX0_person_2 22 rfl rfl)
theorem dX0_person_70 : decode cX0_person 70 = .ok (.iload_n 1, 1) := dk_27 (dk_at dksX0_person_2 23 rfl rfl)
theorem dX0_person_71 : decode cX0_person 71 = .ok (.iload 4, 2) := dk_21 4 (dk_at dksX0_person_3 0 rfl rfl)
theorem dX0_person_73 : decode cX0_person 73 = .ok (.iload_n 3, 1) := dk_29 (dk_at dksX0_person_3 2 rfl rfl)
theorem dX0_person_74 : decode cX0_person 74 = .ok (.bipush 10, 2) := dk_16 10 (dk_at dksX0_person_3 3 rfl rfl)
theorem dX0_person_76 : decode cX0_person 76 = .ok (.idiv, 1) := dk_108 (dk_at dksX0_person_3 5 rfl rfl)
theorem dX0_person_77 : decode cX0_person 77 = .ok (.iload_n 3, 1) := dk_29 (dk_at dksX0_person_3 6 rfl rfl)
theorem dX0_person_78 : decode cX0_person 78 = .ok (.bipush 10, 2) := dk_16 10 (dk_at dksX0_person_3 7 rfl rfl)
theorem dX0_person_80 : decode cX0_person 80 = .ok (.irem, 1) := dk_112 (dk_at dksX0_person_3 9 rfl rfl)
theorem dX0_person_81 : decode cX0_person 81 = .ok (.invokestatic 210, 3) := dk_184 0 210 (dk_at dksX0_person_3 10 rfl rfl)
theorem dX0_person_84 : decode cX0_person 84 = .ok (.putfield 214, 3) := dk_181 0 214 (dk_at dksX0_person_3 13 rfl rfl)
theorem dX0_person_87 : decode cX0_person 87 = .ok (.aload_n 0, 1) := dk_42 (dk_at dksX0_person_3 16 rfl rfl)
theorem dX0_person_88 : decode cX0_person 88 = .ok (.getfield 73, 3) := dk_180 0 73 (dk_at dksX0_person_3 17 rfl rfl)
theorem dX0_person_91 : decode cX0_person 91 = .ok (.getfield 217, 3) := dk_180 0 217 (dk_at dksX0_person_3 20 rfl rfl)
theorem dX0_person_94 : decode cX0_person 94 = .ok (.iload 4, 2) := dk_21 4 (dk_at dksX0_person_4 0 rfl rfl)
theorem dX0_person_96 : decode cX0_person 96 = .ok (.iload_n 2, 1) := dk_28 (dk_at dksX0_person_4 2 rfl rfl)
theorem dX0_person_97 : decode cX0_person 97 = .ok (.iastore, 1) := dk_79 (dk_at dksX0_person_4 3 rfl rfl)
theorem dX0_person_98 : decode cX0_person 98 = .ok (.iconst 0, 1) := dk_3 (dk_at dksX0_person_4 4 rfl rfl)
theorem dX0_person_99 : decode cX0_person 99 = .ok (.istore 5, 2) := dk_54 5 (dk_at dksX0_person_4 5 rfl rfl)
theorem dX0_person_101 : decode cX0_person 101 = .ok (.iload 5, 2) := dk_21 5 (dk_at dksX0_person_4 7 rfl rfl)
theorem dX0_person_103 : decode cX0_person 103 = .ok (.bipush 12, 2) := dk_16 12 (dk_at dksX0_person_4 9 rfl rfl)
theorem dX0_person_105 : decode cX0_person 105 = .ok (.if_icmp .ge 26, 3) := dk_162 0 26 (dk_at dksX0_person_4 11 rfl rfl)
theorem dX0_person_108 : decode cX0_person 108 = .ok (.aload_n 0, 1) := dk_42 (dk_at dksX0_person_4 14 rfl rfl)
theorem dX0_person_109 : decode cX0_person 109 = .ok (.getfield 73, 3) := dk_180 0 73 (dk_at dksX0_person_4 15 rfl rfl)
theorem dX0_person_112 : decode cX0_person 112 = .ok (.getfield 220, 3) := dk_180 0 220 (dk_at dksX0_person_4 18 rfl rfl)
theorem dX0_person_115 : decode cX0_person 115 = .ok (.bipush 12, 2) := dk_16 12 (dk_at dksX0_person_4 21 rfl rfl)
theorem dX0_person_117 : decode cX0_person 117 = .ok (.iload 4, 2) := dk_21 4 (dk_at dksX0_person_5 0 rfl rfl)
theorem dX0_person_119 : decode cX0_person 119 = .ok (.imul, 1) := dk_104 (dk_at dksX0_person_5 2 rfl rfl)
theorem dX0_person_120 : decode cX0_person 120 = .ok (.iload 5, 2) := dk_21 5 (dk_at dksX0_person_5 3 rfl rfl)
theorem dX0_person_122 : decode cX0_person 122 = .ok (.iadd, 1) := dk_96 (dk_at dksX0_person_5 5 rfl rfl)
theorem dX0_person_123 : decode cX0_person 123 = .ok (.iconst 0, 1) := dk_3 (dk_at dksX0_person_5 6 rfl rfl)
theorem dX0_person_124 : decode cX0_person 124 = .ok (.iastore, 1) := dk_79 (dk_at dksX0_person_5 7 rfl rfl)
theorem dX0_person_125 : decode cX0_person 125 = .ok (.iinc 5 1, 3) := dk_132 5 1 (dk_at dksX0_person_5 8 rfl rfl)
theorem dX0_person_128 : decode cX0_person 128 = .ok (.goto (-27), 3) := dk_167 255 229 (dk_at dksX0_person_5 11 rfl rfl)
theorem dX0_person_131 : decode cX0_person 131 = .ok (.aload_n 0, 1) := dk_42 (dk_at dksX0_person_5 14 rfl rfl)
theorem dX0_person_132 : decode cX0_person 132 = .ok (.getfield 73, 3) := dk_180 0 73 (dk_at dksX0_person_5 15 rfl rfl)
theorem dX0_person_135 : decode cX0_person 135 = .ok (.dup, 1) := dk_89 (dk_at dksX0_person_5 18 rfl rfl)
theorem dX0_person_136 : decode cX0_person 136 = .ok (.getfield 110, 3) := dk_180 0 110 (dk_at dksX0_person_5 19 rfl rfl)
theorem dX0_person_139 : decode cX0_person 139 = .ok (.iconst 1, 1) := dk_4 (dk_at dksX0_person_5 22 rfl rfl)
theorem dX0_person_140 : decode cX0_person 140 = .ok (.iadd, 1) := dk_96 (dk_at dksX0_person_5 23 rfl rfl)
theorem dX0_person_141 : decode cX0_person 141 = .ok (.putfield 110, 3) := dk_181 0 110 (dk_at dksX0_person_6 0 rfl rfl)
theorem dX0_person_144 : decode cX0_person 144 = .ok (.iload 4, 2) := dk_21 4 (dk_at dksX0_person_6 3 rfl rfl)
theorem dX0_person_146 : decode cX0_person 146 = .ok (.ireturn, 1) := dk_172 (dk_at dksX0_person_6 5 rfl rfl)
abbrev cX0_isIn : ByteArray := prog_1_method_1_code
def yX0_isIn : MethodName := ⟨RX0, "isIn", "(III)Z"⟩
def dkwX0_isIn_0 : List UInt8 := [26, 27, 161, 0, 12, 26, 28, 163, 0, 7, 4, 167, 0, 4, 3, 172]
abbrev dktX0_isIn_0 : List UInt8 := dkwX0_isIn_0 ++ []
theorem dksX0_isIn_0 : cX0_isIn.data.toList.drop 0 = dktX0_isIn_0 := by decide +kernel
theorem dX0_isIn_0 : decode cX0_isIn 0 = .ok (.iload_n 0, 1) := dk_26 (dk_at dksX0_isIn_0 0 rfl rfl)
theorem dX0_isIn_1 : decode cX0_isIn 1 = .ok (.iload_n 1, 1) := dk_27 (dk_at dksX0_isIn_0 1 rfl rfl)
theorem dX0_isIn_2 : decode cX0_isIn 2 = .ok (.if_icmp .lt 12, 3) := dk_161 0 12 (dk_at dksX0_isIn_0 2 rfl rfl)
theorem dX0_isIn_5 : decode cX0_isIn 5 = .ok (.iload_n 0, 1) := dk_26 (dk_at dksX0_isIn_0 5 rfl rfl)
theorem dX0_isIn_6 : decode cX0_isIn 6 = .ok (.iload_n 2, 1) := dk_28 (dk_at dksX0_isIn_0 6 rfl rfl)
theorem dX0_isIn_7 : decode cX0_isIn 7 = .ok (.if_icmp .gt 7, 3) := dk_163 0 7 (dk_at dksX0_isIn_0 7 rfl rfl)
theorem dX0_isIn_10 : decode cX0_isIn 10 = .ok (.iconst 1, 1) := dk_4 (dk_at dksX0_isIn_0 10 rfl rfl)
theorem dX0_isIn_11 : decode cX0_isIn 11 = .ok (.goto 4, 3) := dk_167 0 4 (dk_at dksX0_isIn_0 11 rfl rfl)
theorem dX0_isIn_14 : decode cX0_isIn 14 = .ok (.iconst 0, 1) := dk_3 (dk_at dksX0_isIn_0 14 rfl rfl)
theorem dX0_isIn_15 : decode cX0_isIn 15 = .ok (.ireturn, 1) := dk_172 (dk_at dksX0_isIn_0 15 rfl rfl)
abbrev cX0_isPart : ByteArray := prog_1_method_19_code
def yX0_isPart : MethodName := ⟨RX0, "isPart", "(I)Z"⟩
def dkwX0_isPart_1 : List UInt8 := [112, 163, 0, 7, 4, 167, 0, 4, 3, 172]
abbrev dktX0_isPart_1 : List UInt8 := dkwX0_isPart_1 ++ []
def dkwX0_isPart_0 : List UInt8 := [26, 3, 16, 99, 184, 0, 113, 153, 0, 25, 26, 16, 10, 112, 158, 0, 18, 26, 16, 10, 108, 26, 16, 10]
abbrev dktX0_isPart_0 : List UInt8 := dkwX0_isPart_0 ++ dktX0_isPart_1
theorem dksX0_isPart_0 : cX0_isPart.data.toList.drop 0 = dktX0_isPart_0 := by decide +kernel
theorem dksX0_isPart_1 : cX0_isPart.data.toList.drop 24 = dktX0_isPart_1 := dk_seg dksX0_isPart_0 24 rfl rfl
theorem dX0_isPart_0 : decode cX0_isPart 0 = .ok (.iload_n 0, 1) := dk_26 (dk_at dksX0_isPart_0 0 rfl rfl)
theorem dX0_isPart_1 : decode cX0_isPart 1 = .ok (.iconst 0, 1) := dk_3 (dk_at dksX0_isPart_0 1 rfl rfl)
theorem dX0_isPart_2 : decode cX0_isPart 2 = .ok (.bipush 99, 2) := dk_16 99 (dk_at dksX0_isPart_0 2 rfl rfl)
theorem dX0_isPart_4 : decode cX0_isPart 4 = .ok (.invokestatic 113, 3) := dk_184 0 113 (dk_at dksX0_isPart_0 4 rfl rfl)
theorem dX0_isPart_7 : decode cX0_isPart 7 = .ok (.ifCond .eq 25, 3) := dk_153 0 25 (dk_at dksX0_isPart_0 7 rfl rfl)
theorem dX0_isPart_10 : decode cX0_isPart 10 = .ok (.iload_n 0, 1) := dk_26 (dk_at dksX0_isPart_0 10 rfl rfl)
theorem dX0_isPart_11 : decode cX0_isPart 11 = .ok (.bipush 10, 2) := dk_16 10 (dk_at dksX0_isPart_0 11 rfl rfl)
theorem dX0_isPart_13 : decode cX0_isPart 13 = .ok (.irem, 1) := dk_112 (dk_at dksX0_isPart_0 13 rfl rfl)
theorem dX0_isPart_14 : decode cX0_isPart 14 = .ok (.ifCond .le 18, 3) := dk_158 0 18 (dk_at dksX0_isPart_0 14 rfl rfl)
theorem dX0_isPart_17 : decode cX0_isPart 17 = .ok (.iload_n 0, 1) := dk_26 (dk_at dksX0_isPart_0 17 rfl rfl)
theorem dX0_isPart_18 : decode cX0_isPart 18 = .ok (.bipush 10, 2) := dk_16 10 (dk_at dksX0_isPart_0 18 rfl rfl)
theorem dX0_isPart_20 : decode cX0_isPart 20 = .ok (.idiv, 1) := dk_108 (dk_at dksX0_isPart_0 20 rfl rfl)
theorem dX0_isPart_21 : decode cX0_isPart 21 = .ok (.iload_n 0, 1) := dk_26 (dk_at dksX0_isPart_0 21 rfl rfl)
theorem dX0_isPart_22 : decode cX0_isPart 22 = .ok (.bipush 10, 2) := dk_16 10 (dk_at dksX0_isPart_0 22 rfl rfl)
theorem dX0_isPart_24 : decode cX0_isPart 24 = .ok (.irem, 1) := dk_112 (dk_at dksX0_isPart_1 0 rfl rfl)
theorem dX0_isPart_25 : decode cX0_isPart 25 = .ok (.if_icmp .gt 7, 3) := dk_163 0 7 (dk_at dksX0_isPart_1 1 rfl rfl)
theorem dX0_isPart_28 : decode cX0_isPart 28 = .ok (.iconst 1, 1) := dk_4 (dk_at dksX0_isPart_1 4 rfl rfl)
theorem dX0_isPart_29 : decode cX0_isPart 29 = .ok (.goto 4, 3) := dk_167 0 4 (dk_at dksX0_isPart_1 5 rfl rfl)
theorem dX0_isPart_32 : decode cX0_isPart 32 = .ok (.iconst 0, 1) := dk_3 (dk_at dksX0_isPart_1 8 rfl rfl)
theorem dX0_isPart_33 : decode cX0_isPart 33 = .ok (.ireturn, 1) := dk_172 (dk_at dksX0_isPart_1 9 rfl rfl)
abbrev cX0_finds : ByteArray := prog_1_method_9_code
def yX0_finds : MethodName := ⟨RX0, "finds", "(I)I"⟩
def dkwX0_finds_0 : List UInt8 := [42, 180, 0, 90, 27, 92, 46, 4, 96, 79, 18, 109, 27, 100, 172]
abbrev dktX0_finds_0 : List UInt8 := dkwX0_finds_0 ++ []
theorem dksX0_finds_0 : cX0_finds.data.toList.drop 0 = dktX0_finds_0 := by decide +kernel
theorem dX0_finds_0 : decode cX0_finds 0 = .ok (.aload_n 0, 1) := dk_42 (dk_at dksX0_finds_0 0 rfl rfl)
theorem dX0_finds_1 : decode cX0_finds 1 = .ok (.getfield 90, 3) := dk_180 0 90 (dk_at dksX0_finds_0 1 rfl rfl)
theorem dX0_finds_4 : decode cX0_finds 4 = .ok (.iload_n 1, 1) := dk_27 (dk_at dksX0_finds_0 4 rfl rfl)
theorem dX0_finds_5 : decode cX0_finds 5 = .ok (.dup2, 1) := dk_92 (dk_at dksX0_finds_0 5 rfl rfl)
theorem dX0_finds_6 : decode cX0_finds 6 = .ok (.iaload, 1) := dk_46 (dk_at dksX0_finds_0 6 rfl rfl)
theorem dX0_finds_7 : decode cX0_finds 7 = .ok (.iconst 1, 1) := dk_4 (dk_at dksX0_finds_0 7 rfl rfl)
theorem dX0_finds_8 : decode cX0_finds 8 = .ok (.iadd, 1) := dk_96 (dk_at dksX0_finds_0 8 rfl rfl)
theorem dX0_finds_9 : decode cX0_finds 9 = .ok (.iastore, 1) := dk_79 (dk_at dksX0_finds_0 9 rfl rfl)
theorem dX0_finds_10 : decode cX0_finds 10 = .ok (.ldc 109, 2) := dk_18 109 (dk_at dksX0_finds_0 10 rfl rfl)
theorem dX0_finds_12 : decode cX0_finds 12 = .ok (.iload_n 1, 1) := dk_27 (dk_at dksX0_finds_0 12 rfl rfl)
theorem dX0_finds_13 : decode cX0_finds 13 = .ok (.isub, 1) := dk_100 (dk_at dksX0_finds_0 13 rfl rfl)
theorem dX0_finds_14 : decode cX0_finds 14 = .ok (.ireturn, 1) := dk_172 (dk_at dksX0_finds_0 14 rfl rfl)
abbrev cX0_made : ByteArray := prog_1_method_3_code
def yX0_made : MethodName := ⟨RX0, "made", "(IIII)LNamedPrices$Namer;"⟩
def dkwX0_made_5 : List UInt8 := [187, 0, 31, 89, 27, 28, 29, 183, 0, 33, 176]
abbrev dktX0_made_5 : List UInt8 := dkwX0_made_5 ++ []
def dkwX0_made_4 : List UInt8 := [187, 0, 25, 89, 27, 28, 29, 183, 0, 27, 176, 187, 0, 28, 89, 27, 28, 29, 183, 0, 30, 176]
abbrev dktX0_made_4 : List UInt8 := dkwX0_made_4 ++ dktX0_made_5
def dkwX0_made_3 : List UInt8 := [187, 0, 19, 89, 27, 28, 29, 183, 0, 21, 176, 187, 0, 22, 89, 27, 28, 29, 183, 0, 24, 176]
abbrev dktX0_made_3 : List UInt8 := dkwX0_made_3 ++ dktX0_made_4
def dkwX0_made_2 : List UInt8 := [187, 0, 10, 89, 27, 28, 29, 183, 0, 12, 176, 187, 0, 16, 89, 27, 28, 29, 183, 0, 18, 176]
abbrev dktX0_made_2 : List UInt8 := dkwX0_made_2 ++ dktX0_made_3
def dkwX0_made_1 : List UInt8 := [170, 0, 0, 0, 0, 0, 105, 0, 0, 0, 1, 0, 0, 0, 6, 0, 0, 0, 39, 0, 0, 0, 50, 0, 0, 0, 61, 0, 0, 0, 72, 0, 0, 0, 83, 0, 0, 0, 94]
abbrev dktX0_made_1 : List UInt8 := dkwX0_made_1 ++ dktX0_made_2
def dkwX0_made_0 : List UInt8 := [26]
abbrev dktX0_made_0 : List UInt8 := dkwX0_made_0 ++ dktX0_made_1
theorem dksX0_made_0 : cX0_made.data.toList.drop 0 = dktX0_made_0 := by decide +kernel
theorem dksX0_made_1 : cX0_made.data.toList.drop 1 = dktX0_made_1 := dk_seg dksX0_made_0 1 rfl rfl
theorem dksX0_made_2 : cX0_made.data.toList.drop 40 = dktX0_made_2 := dk_seg dksX0_made_1 39 rfl rfl
theorem dksX0_made_3 : cX0_made.data.toList.drop 62 = dktX0_made_3 := dk_seg dksX0_made_2 22 rfl rfl
theorem dksX0_made_4 : cX0_made.data.toList.drop 84 = dktX0_made_4 := dk_seg dksX0_made_3 22 rfl rfl
theorem dksX0_made_5 : cX0_made.data.toList.drop 106 = dktX0_made_5 := dk_seg dksX0_made_4 22 rfl rfl
theorem dX0_made_0 : decode cX0_made 0 = .ok (.iload_n 0, 1) := dk_26 (dk_at dksX0_made_0 0 rfl rfl)
theorem dX0_made_1 : decode cX0_made 1 = .ok (.tableswitch 105 1 6 #[39, 50, 61, 72, 83, 94], 39) := by decide +kernel
theorem dX0_made_40 : decode cX0_made 40 = .ok (.new 10, 3) := dk_187 0 10 (dk_at dksX0_made_2 0 rfl rfl)
theorem dX0_made_43 : decode cX0_made 43 = .ok (.dup, 1) := dk_89 (dk_at dksX0_made_2 3 rfl rfl)
theorem dX0_made_44 : decode cX0_made 44 = .ok (.iload_n 1, 1) := dk_27 (dk_at dksX0_made_2 4 rfl rfl)
theorem dX0_made_45 : decode cX0_made 45 = .ok (.iload_n 2, 1) := dk_28 (dk_at dksX0_made_2 5 rfl rfl)
theorem dX0_made_46 : decode cX0_made 46 = .ok (.iload_n 3, 1) := dk_29 (dk_at dksX0_made_2 6 rfl rfl)
theorem dX0_made_47 : decode cX0_made 47 = .ok (.invokespecial 12, 3) := dk_183 0 12 (dk_at dksX0_made_2 7 rfl rfl)
theorem dX0_made_50 : decode cX0_made 50 = .ok (.areturn, 1) := dk_176 (dk_at dksX0_made_2 10 rfl rfl)
theorem dX0_made_51 : decode cX0_made 51 = .ok (.new 16, 3) := dk_187 0 16 (dk_at dksX0_made_2 11 rfl rfl)
theorem dX0_made_54 : decode cX0_made 54 = .ok (.dup, 1) := dk_89 (dk_at dksX0_made_2 14 rfl rfl)
theorem dX0_made_55 : decode cX0_made 55 = .ok (.iload_n 1, 1) := dk_27 (dk_at dksX0_made_2 15 rfl rfl)
theorem dX0_made_56 : decode cX0_made 56 = .ok (.iload_n 2, 1) := dk_28 (dk_at dksX0_made_2 16 rfl rfl)
theorem dX0_made_57 : decode cX0_made 57 = .ok (.iload_n 3, 1) := dk_29 (dk_at dksX0_made_2 17 rfl rfl)
theorem dX0_made_58 : decode cX0_made 58 = .ok (.invokespecial 18, 3) := dk_183 0 18 (dk_at dksX0_made_2 18 rfl rfl)
theorem dX0_made_61 : decode cX0_made 61 = .ok (.areturn, 1) := dk_176 (dk_at dksX0_made_2 21 rfl rfl)
theorem dX0_made_62 : decode cX0_made 62 = .ok (.new 19, 3) := dk_187 0 19 (dk_at dksX0_made_3 0 rfl rfl)
theorem dX0_made_65 : decode cX0_made 65 = .ok (.dup, 1) := dk_89 (dk_at dksX0_made_3 3 rfl rfl)
theorem dX0_made_66 : decode cX0_made 66 = .ok (.iload_n 1, 1) := dk_27 (dk_at dksX0_made_3 4 rfl rfl)
theorem dX0_made_67 : decode cX0_made 67 = .ok (.iload_n 2, 1) := dk_28 (dk_at dksX0_made_3 5 rfl rfl)
theorem dX0_made_68 : decode cX0_made 68 = .ok (.iload_n 3, 1) := dk_29 (dk_at dksX0_made_3 6 rfl rfl)
theorem dX0_made_69 : decode cX0_made 69 = .ok (.invokespecial 21, 3) := dk_183 0 21 (dk_at dksX0_made_3 7 rfl rfl)
theorem dX0_made_72 : decode cX0_made 72 = .ok (.areturn, 1) := dk_176 (dk_at dksX0_made_3 10 rfl rfl)
theorem dX0_made_73 : decode cX0_made 73 = .ok (.new 22, 3) := dk_187 0 22 (dk_at dksX0_made_3 11 rfl rfl)
theorem dX0_made_76 : decode cX0_made 76 = .ok (.dup, 1) := dk_89 (dk_at dksX0_made_3 14 rfl rfl)
theorem dX0_made_77 : decode cX0_made 77 = .ok (.iload_n 1, 1) := dk_27 (dk_at dksX0_made_3 15 rfl rfl)
theorem dX0_made_78 : decode cX0_made 78 = .ok (.iload_n 2, 1) := dk_28 (dk_at dksX0_made_3 16 rfl rfl)
theorem dX0_made_79 : decode cX0_made 79 = .ok (.iload_n 3, 1) := dk_29 (dk_at dksX0_made_3 17 rfl rfl)
theorem dX0_made_80 : decode cX0_made 80 = .ok (.invokespecial 24, 3) := dk_183 0 24 (dk_at dksX0_made_3 18 rfl rfl)
theorem dX0_made_83 : decode cX0_made 83 = .ok (.areturn, 1) := dk_176 (dk_at dksX0_made_3 21 rfl rfl)
theorem dX0_made_84 : decode cX0_made 84 = .ok (.new 25, 3) := dk_187 0 25 (dk_at dksX0_made_4 0 rfl rfl)
theorem dX0_made_87 : decode cX0_made 87 = .ok (.dup, 1) := dk_89 (dk_at dksX0_made_4 3 rfl rfl)
theorem dX0_made_88 : decode cX0_made 88 = .ok (.iload_n 1, 1) := dk_27 (dk_at dksX0_made_4 4 rfl rfl)
theorem dX0_made_89 : decode cX0_made 89 = .ok (.iload_n 2, 1) := dk_28 (dk_at dksX0_made_4 5 rfl rfl)
theorem dX0_made_90 : decode cX0_made 90 = .ok (.iload_n 3, 1) := dk_29 (dk_at dksX0_made_4 6 rfl rfl)
theorem dX0_made_91 : decode cX0_made 91 = .ok (.invokespecial 27, 3) := dk_183 0 27 (dk_at dksX0_made_4 7 rfl rfl)
theorem dX0_made_94 : decode cX0_made 94 = .ok (.areturn, 1) := dk_176 (dk_at dksX0_made_4 10 rfl rfl)
theorem dX0_made_95 : decode cX0_made 95 = .ok (.new 28, 3) := dk_187 0 28 (dk_at dksX0_made_4 11 rfl rfl)
theorem dX0_made_98 : decode cX0_made 98 = .ok (.dup, 1) := dk_89 (dk_at dksX0_made_4 14 rfl rfl)
theorem dX0_made_99 : decode cX0_made 99 = .ok (.iload_n 1, 1) := dk_27 (dk_at dksX0_made_4 15 rfl rfl)
theorem dX0_made_100 : decode cX0_made 100 = .ok (.iload_n 2, 1) := dk_28 (dk_at dksX0_made_4 16 rfl rfl)
theorem dX0_made_101 : decode cX0_made 101 = .ok (.iload_n 3, 1) := dk_29 (dk_at dksX0_made_4 17 rfl rfl)
theorem dX0_made_102 : decode cX0_made 102 = .ok (.invokespecial 30, 3) := dk_183 0 30 (dk_at dksX0_made_4 18 rfl rfl)
theorem dX0_made_105 : decode cX0_made 105 = .ok (.areturn, 1) := dk_176 (dk_at dksX0_made_4 21 rfl rfl)
theorem dX0_made_106 : decode cX0_made 106 = .ok (.new 31, 3) := dk_187 0 31 (dk_at dksX0_made_5 0 rfl rfl)
theorem dX0_made_109 : decode cX0_made 109 = .ok (.dup, 1) := dk_89 (dk_at dksX0_made_5 3 rfl rfl)
theorem dX0_made_110 : decode cX0_made 110 = .ok (.iload_n 1, 1) := dk_27 (dk_at dksX0_made_5 4 rfl rfl)
theorem dX0_made_111 : decode cX0_made 111 = .ok (.iload_n 2, 1) := dk_28 (dk_at dksX0_made_5 5 rfl rfl)
theorem dX0_made_112 : decode cX0_made 112 = .ok (.iload_n 3, 1) := dk_29 (dk_at dksX0_made_5 6 rfl rfl)
theorem dX0_made_113 : decode cX0_made 113 = .ok (.invokespecial 33, 3) := dk_183 0 33 (dk_at dksX0_made_5 7 rfl rfl)
theorem dX0_made_116 : decode cX0_made 116 = .ok (.areturn, 1) := dk_176 (dk_at dksX0_made_5 10 rfl rfl)
abbrev cX0_personIs : ByteArray := prog_1_method_22_code
def yX0_personIs : MethodName := ⟨RX0, "personIs", "(II)I"⟩
def dkwX0_personIs_4 : List UInt8 := [180, 0, 73, 27, 182, 0, 234, 172, 42, 27, 182, 0, 237, 172, 42, 4, 182, 0, 204, 172]
abbrev dktX0_personIs_4 : List UInt8 := dkwX0_personIs_4 ++ []
def dkwX0_personIs_3 : List UInt8 := [180, 0, 171, 96, 172, 42, 180, 0, 73, 27, 182, 0, 230, 172, 42, 180, 0, 73, 27, 182, 0, 232, 172, 42]
abbrev dktX0_personIs_3 : List UInt8 := dkwX0_personIs_3 ++ dktX0_personIs_4
def dkwX0_personIs_2 : List UInt8 := [45, 182, 0, 226, 172, 42, 180, 0, 73, 180, 0, 217, 27, 46, 172, 16, 10, 45, 180, 0, 177, 104, 45]
abbrev dktX0_personIs_2 : List UInt8 := dkwX0_personIs_2 ++ dktX0_personIs_3
def dkwX0_personIs_1 : List UInt8 := [170, 0, 0, 0, 0, 0, 0, 105, 0, 0, 0, 0, 0, 0, 0, 6, 0, 0, 0, 44, 0, 0, 0, 49, 0, 0, 0, 59, 0, 0, 0, 72, 0, 0, 0, 81, 0, 0, 0, 90, 0, 0, 0, 99]
abbrev dktX0_personIs_1 : List UInt8 := dkwX0_personIs_1 ++ dktX0_personIs_2
def dkwX0_personIs_0 : List UInt8 := [42, 27, 182, 0, 223, 154, 0, 9, 42, 4, 182, 0, 204, 172, 42, 180, 0, 73, 27, 182, 0, 150, 78, 28]
abbrev dktX0_personIs_0 : List UInt8 := dkwX0_personIs_0 ++ dktX0_personIs_1
theorem dksX0_personIs_0 : cX0_personIs.data.toList.drop 0 = dktX0_personIs_0 := by decide +kernel
theorem dksX0_personIs_1 : cX0_personIs.data.toList.drop 24 = dktX0_personIs_1 := dk_seg dksX0_personIs_0 24 rfl rfl
theorem dksX0_personIs_2 : cX0_personIs.data.toList.drop 68 = dktX0_personIs_2 := dk_seg dksX0_personIs_1 44 rfl rfl
theorem dksX0_personIs_3 : cX0_personIs.data.toList.drop 91 = dktX0_personIs_3 := dk_seg dksX0_personIs_2 23 rfl rfl
theorem dksX0_personIs_4 : cX0_personIs.data.toList.drop 115 = dktX0_personIs_4 := dk_seg dksX0_personIs_3 24 rfl rfl
theorem dX0_personIs_0 : decode cX0_personIs 0 = .ok (.aload_n 0, 1) := dk_42 (dk_at dksX0_personIs_0 0 rfl rfl)
theorem dX0_personIs_1 : decode cX0_personIs 1 = .ok (.iload_n 1, 1) := dk_27 (dk_at dksX0_personIs_0 1 rfl rfl)
theorem dX0_personIs_2 : decode cX0_personIs 2 = .ok (.invokevirtual 223, 3) := dk_182 0 223 (dk_at dksX0_personIs_0 2 rfl rfl)
theorem dX0_personIs_5 : decode cX0_personIs 5 = .ok (.ifCond .ne 9, 3) := dk_154 0 9 (dk_at dksX0_personIs_0 5 rfl rfl)
theorem dX0_personIs_8 : decode cX0_personIs 8 = .ok (.aload_n 0, 1) := dk_42 (dk_at dksX0_personIs_0 8 rfl rfl)
theorem dX0_personIs_9 : decode cX0_personIs 9 = .ok (.iconst 1, 1) := dk_4 (dk_at dksX0_personIs_0 9 rfl rfl)
theorem dX0_personIs_10 : decode cX0_personIs 10 = .ok (.invokevirtual 204, 3) := dk_182 0 204 (dk_at dksX0_personIs_0 10 rfl rfl)
theorem dX0_personIs_13 : decode cX0_personIs 13 = .ok (.ireturn, 1) := dk_172 (dk_at dksX0_personIs_0 13 rfl rfl)
theorem dX0_personIs_14 : decode cX0_personIs 14 = .ok (.aload_n 0, 1) := dk_42 (dk_at dksX0_personIs_0 14 rfl rfl)
theorem dX0_personIs_15 : decode cX0_personIs 15 = .ok (.getfield 73, 3) := dk_180 0 73 (dk_at dksX0_personIs_0 15 rfl rfl)
theorem dX0_personIs_18 : decode cX0_personIs 18 = .ok (.iload_n 1, 1) := dk_27 (dk_at dksX0_personIs_0 18 rfl rfl)
theorem dX0_personIs_19 : decode cX0_personIs 19 = .ok (.invokevirtual 150, 3) := dk_182 0 150 (dk_at dksX0_personIs_0 19 rfl rfl)
theorem dX0_personIs_22 : decode cX0_personIs 22 = .ok (.astore_n 3, 1) := dk_78 (dk_at dksX0_personIs_0 22 rfl rfl)
theorem dX0_personIs_23 : decode cX0_personIs 23 = .ok (.iload_n 2, 1) := dk_28 (dk_at dksX0_personIs_0 23 rfl rfl)
theorem dX0_personIs_24 : decode cX0_personIs 24 = .ok (.tableswitch 105 0 6 #[44, 49, 59, 72, 81, 90, 99], 44) := by decide +kernel
theorem dX0_personIs_68 : decode cX0_personIs 68 = .ok (.aload_n 3, 1) := dk_45 (dk_at dksX0_personIs_2 0 rfl rfl)
theorem dX0_personIs_69 : decode cX0_personIs 69 = .ok (.invokevirtual 226, 3) := dk_182 0 226 (dk_at dksX0_personIs_2 1 rfl rfl)
theorem dX0_personIs_72 : decode cX0_personIs 72 = .ok (.ireturn, 1) := dk_172 (dk_at dksX0_personIs_2 4 rfl rfl)
theorem dX0_personIs_73 : decode cX0_personIs 73 = .ok (.aload_n 0, 1) := dk_42 (dk_at dksX0_personIs_2 5 rfl rfl)
theorem dX0_personIs_74 : decode cX0_personIs 74 = .ok (.getfield 73, 3) := dk_180 0 73 (dk_at dksX0_personIs_2 6 rfl rfl)
theorem dX0_personIs_77 : decode cX0_personIs 77 = .ok (.getfield 217, 3) := dk_180 0 217 (dk_at dksX0_personIs_2 9 rfl rfl)
theorem dX0_personIs_80 : decode cX0_personIs 80 = .ok (.iload_n 1, 1) := dk_27 (dk_at dksX0_personIs_2 12 rfl rfl)
theorem dX0_personIs_81 : decode cX0_personIs 81 = .ok (.iaload, 1) := dk_46 (dk_at dksX0_personIs_2 13 rfl rfl)
theorem dX0_personIs_82 : decode cX0_personIs 82 = .ok (.ireturn, 1) := dk_172 (dk_at dksX0_personIs_2 14 rfl rfl)
theorem dX0_personIs_83 : decode cX0_personIs 83 = .ok (.bipush 10, 2) := dk_16 10 (dk_at dksX0_personIs_2 15 rfl rfl)
theorem dX0_personIs_85 : decode cX0_personIs 85 = .ok (.aload_n 3, 1) := dk_45 (dk_at dksX0_personIs_2 17 rfl rfl)
theorem dX0_personIs_86 : decode cX0_personIs 86 = .ok (.getfield 177, 3) := dk_180 0 177 (dk_at dksX0_personIs_2 18 rfl rfl)
theorem dX0_personIs_89 : decode cX0_personIs 89 = .ok (.imul, 1) := dk_104 (dk_at dksX0_personIs_2 21 rfl rfl)
theorem dX0_personIs_90 : decode cX0_personIs 90 = .ok (.aload_n 3, 1) := dk_45 (dk_at dksX0_personIs_2 22 rfl rfl)
theorem dX0_personIs_91 : decode cX0_personIs 91 = .ok (.getfield 171, 3) := dk_180 0 171 (dk_at dksX0_personIs_3 0 rfl rfl)
theorem dX0_personIs_94 : decode cX0_personIs 94 = .ok (.iadd, 1) := dk_96 (dk_at dksX0_personIs_3 3 rfl rfl)
theorem dX0_personIs_95 : decode cX0_personIs 95 = .ok (.ireturn, 1) := dk_172 (dk_at dksX0_personIs_3 4 rfl rfl)
theorem dX0_personIs_96 : decode cX0_personIs 96 = .ok (.aload_n 0, 1) := dk_42 (dk_at dksX0_personIs_3 5 rfl rfl)
theorem dX0_personIs_97 : decode cX0_personIs 97 = .ok (.getfield 73, 3) := dk_180 0 73 (dk_at dksX0_personIs_3 6 rfl rfl)
theorem dX0_personIs_100 : decode cX0_personIs 100 = .ok (.iload_n 1, 1) := dk_27 (dk_at dksX0_personIs_3 9 rfl rfl)
theorem dX0_personIs_101 : decode cX0_personIs 101 = .ok (.invokevirtual 230, 3) := dk_182 0 230 (dk_at dksX0_personIs_3 10 rfl rfl)
theorem dX0_personIs_104 : decode cX0_personIs 104 = .ok (.ireturn, 1) := dk_172 (dk_at dksX0_personIs_3 13 rfl rfl)
theorem dX0_personIs_105 : decode cX0_personIs 105 = .ok (.aload_n 0, 1) := dk_42 (dk_at dksX0_personIs_3 14 rfl rfl)
theorem dX0_personIs_106 : decode cX0_personIs 106 = .ok (.getfield 73, 3) := dk_180 0 73 (dk_at dksX0_personIs_3 15 rfl rfl)
theorem dX0_personIs_109 : decode cX0_personIs 109 = .ok (.iload_n 1, 1) := dk_27 (dk_at dksX0_personIs_3 18 rfl rfl)
theorem dX0_personIs_110 : decode cX0_personIs 110 = .ok (.invokevirtual 232, 3) := dk_182 0 232 (dk_at dksX0_personIs_3 19 rfl rfl)
theorem dX0_personIs_113 : decode cX0_personIs 113 = .ok (.ireturn, 1) := dk_172 (dk_at dksX0_personIs_3 22 rfl rfl)
theorem dX0_personIs_114 : decode cX0_personIs 114 = .ok (.aload_n 0, 1) := dk_42 (dk_at dksX0_personIs_3 23 rfl rfl)
theorem dX0_personIs_115 : decode cX0_personIs 115 = .ok (.getfield 73, 3) := dk_180 0 73 (dk_at dksX0_personIs_4 0 rfl rfl)
theorem dX0_personIs_118 : decode cX0_personIs 118 = .ok (.iload_n 1, 1) := dk_27 (dk_at dksX0_personIs_4 3 rfl rfl)
theorem dX0_personIs_119 : decode cX0_personIs 119 = .ok (.invokevirtual 234, 3) := dk_182 0 234 (dk_at dksX0_personIs_4 4 rfl rfl)
theorem dX0_personIs_122 : decode cX0_personIs 122 = .ok (.ireturn, 1) := dk_172 (dk_at dksX0_personIs_4 7 rfl rfl)
theorem dX0_personIs_123 : decode cX0_personIs 123 = .ok (.aload_n 0, 1) := dk_42 (dk_at dksX0_personIs_4 8 rfl rfl)
theorem dX0_personIs_124 : decode cX0_personIs 124 = .ok (.iload_n 1, 1) := dk_27 (dk_at dksX0_personIs_4 9 rfl rfl)
theorem dX0_personIs_125 : decode cX0_personIs 125 = .ok (.invokevirtual 237, 3) := dk_182 0 237 (dk_at dksX0_personIs_4 10 rfl rfl)
theorem dX0_personIs_128 : decode cX0_personIs 128 = .ok (.ireturn, 1) := dk_172 (dk_at dksX0_personIs_4 13 rfl rfl)
theorem dX0_personIs_129 : decode cX0_personIs 129 = .ok (.aload_n 0, 1) := dk_42 (dk_at dksX0_personIs_4 14 rfl rfl)
theorem dX0_personIs_130 : decode cX0_personIs 130 = .ok (.iconst 1, 1) := dk_4 (dk_at dksX0_personIs_4 15 rfl rfl)
theorem dX0_personIs_131 : decode cX0_personIs 131 = .ok (.invokevirtual 204, 3) := dk_182 0 204 (dk_at dksX0_personIs_4 16 rfl rfl)
theorem dX0_personIs_134 : decode cX0_personIs 134 = .ok (.ireturn, 1) := dk_172 (dk_at dksX0_personIs_4 19 rfl rfl)
abbrev cX0_isPerson : ByteArray := prog_1_method_10_code
def yX0_isPerson : MethodName := ⟨RX0, "isPerson", "(I)Z"⟩
def dkwX0_isPerson_0 : List UInt8 := [27, 3, 42, 180, 0, 73, 180, 0, 110, 4, 100, 184, 0, 113, 172]
abbrev dktX0_isPerson_0 : List UInt8 := dkwX0_isPerson_0 ++ []
theorem dksX0_isPerson_0 : cX0_isPerson.data.toList.drop 0 = dktX0_isPerson_0 := by decide +kernel
theorem dX0_isPerson_0 : decode cX0_isPerson 0 = .ok (.iload_n 1, 1) := dk_27 (dk_at dksX0_isPerson_0 0 rfl rfl)
theorem dX0_isPerson_1 : decode cX0_isPerson 1 = .ok (.iconst 0, 1) := dk_3 (dk_at dksX0_isPerson_0 1 rfl rfl)
theorem dX0_isPerson_2 : decode cX0_isPerson 2 = .ok (.aload_n 0, 1) := dk_42 (dk_at dksX0_isPerson_0 2 rfl rfl)
theorem dX0_isPerson_3 : decode cX0_isPerson 3 = .ok (.getfield 73, 3) := dk_180 0 73 (dk_at dksX0_isPerson_0 3 rfl rfl)
theorem dX0_isPerson_6 : decode cX0_isPerson 6 = .ok (.getfield 110, 3) := dk_180 0 110 (dk_at dksX0_isPerson_0 6 rfl rfl)
theorem dX0_isPerson_9 : decode cX0_isPerson 9 = .ok (.iconst 1, 1) := dk_4 (dk_at dksX0_isPerson_0 9 rfl rfl)
theorem dX0_isPerson_10 : decode cX0_isPerson 10 = .ok (.isub, 1) := dk_100 (dk_at dksX0_isPerson_0 10 rfl rfl)
theorem dX0_isPerson_11 : decode cX0_isPerson 11 = .ok (.invokestatic 113, 3) := dk_184 0 113 (dk_at dksX0_isPerson_0 11 rfl rfl)
theorem dX0_isPerson_14 : decode cX0_isPerson 14 = .ok (.ireturn, 1) := dk_172 (dk_at dksX0_isPerson_0 14 rfl rfl)
abbrev cX0_valuesOf : ByteArray := prog_1_method_21_code
def yX0_valuesOf : MethodName := ⟨RX0, "valuesOf", "(I)I"⟩
def dkwX0_valuesOf_2 : List UInt8 := [167, 255, 214, 28, 172]
abbrev dktX0_valuesOf_2 : List UInt8 := dkwX0_valuesOf_2 ++ []
def dkwX0_valuesOf_1 : List UInt8 := [46, 27, 160, 0, 14, 42, 180, 0, 73, 29, 182, 0, 127, 167, 0, 4, 3, 96, 61, 132, 3, 1]
abbrev dktX0_valuesOf_1 : List UInt8 := dkwX0_valuesOf_1 ++ dktX0_valuesOf_2
def dkwX0_valuesOf_0 : List UInt8 := [3, 61, 3, 62, 29, 42, 180, 0, 73, 180, 0, 117, 162, 0, 37, 28, 42, 180, 0, 73, 180, 0, 147, 29]
abbrev dktX0_valuesOf_0 : List UInt8 := dkwX0_valuesOf_0 ++ dktX0_valuesOf_1
theorem dksX0_valuesOf_0 : cX0_valuesOf.data.toList.drop 0 = dktX0_valuesOf_0 := by decide +kernel
theorem dksX0_valuesOf_1 : cX0_valuesOf.data.toList.drop 24 = dktX0_valuesOf_1 := dk_seg dksX0_valuesOf_0 24 rfl rfl
theorem dksX0_valuesOf_2 : cX0_valuesOf.data.toList.drop 46 = dktX0_valuesOf_2 := dk_seg dksX0_valuesOf_1 22 rfl rfl
theorem dX0_valuesOf_0 : decode cX0_valuesOf 0 = .ok (.iconst 0, 1) := dk_3 (dk_at dksX0_valuesOf_0 0 rfl rfl)
theorem dX0_valuesOf_1 : decode cX0_valuesOf 1 = .ok (.istore_n 2, 1) := dk_61 (dk_at dksX0_valuesOf_0 1 rfl rfl)
theorem dX0_valuesOf_2 : decode cX0_valuesOf 2 = .ok (.iconst 0, 1) := dk_3 (dk_at dksX0_valuesOf_0 2 rfl rfl)
theorem dX0_valuesOf_3 : decode cX0_valuesOf 3 = .ok (.istore_n 3, 1) := dk_62 (dk_at dksX0_valuesOf_0 3 rfl rfl)
theorem dX0_valuesOf_4 : decode cX0_valuesOf 4 = .ok (.iload_n 3, 1) := dk_29 (dk_at dksX0_valuesOf_0 4 rfl rfl)
theorem dX0_valuesOf_5 : decode cX0_valuesOf 5 = .ok (.aload_n 0, 1) := dk_42 (dk_at dksX0_valuesOf_0 5 rfl rfl)
theorem dX0_valuesOf_6 : decode cX0_valuesOf 6 = .ok (.getfield 73, 3) := dk_180 0 73 (dk_at dksX0_valuesOf_0 6 rfl rfl)
theorem dX0_valuesOf_9 : decode cX0_valuesOf 9 = .ok (.getfield 117, 3) := dk_180 0 117 (dk_at dksX0_valuesOf_0 9 rfl rfl)
theorem dX0_valuesOf_12 : decode cX0_valuesOf 12 = .ok (.if_icmp .ge 37, 3) := dk_162 0 37 (dk_at dksX0_valuesOf_0 12 rfl rfl)
theorem dX0_valuesOf_15 : decode cX0_valuesOf 15 = .ok (.iload_n 2, 1) := dk_28 (dk_at dksX0_valuesOf_0 15 rfl rfl)
theorem dX0_valuesOf_16 : decode cX0_valuesOf 16 = .ok (.aload_n 0, 1) := dk_42 (dk_at dksX0_valuesOf_0 16 rfl rfl)
theorem dX0_valuesOf_17 : decode cX0_valuesOf 17 = .ok (.getfield 73, 3) := dk_180 0 73 (dk_at dksX0_valuesOf_0 17 rfl rfl)
theorem dX0_valuesOf_20 : decode cX0_valuesOf 20 = .ok (.getfield 147, 3) := dk_180 0 147 (dk_at dksX0_valuesOf_0 20 rfl rfl)
theorem dX0_valuesOf_23 : decode cX0_valuesOf 23 = .ok (.iload_n 3, 1) := dk_29 (dk_at dksX0_valuesOf_0 23 rfl rfl)
theorem dX0_valuesOf_24 : decode cX0_valuesOf 24 = .ok (.iaload, 1) := dk_46 (dk_at dksX0_valuesOf_1 0 rfl rfl)
theorem dX0_valuesOf_25 : decode cX0_valuesOf 25 = .ok (.iload_n 1, 1) := dk_27 (dk_at dksX0_valuesOf_1 1 rfl rfl)
theorem dX0_valuesOf_26 : decode cX0_valuesOf 26 = .ok (.if_icmp .ne 14, 3) := dk_160 0 14 (dk_at dksX0_valuesOf_1 2 rfl rfl)
theorem dX0_valuesOf_29 : decode cX0_valuesOf 29 = .ok (.aload_n 0, 1) := dk_42 (dk_at dksX0_valuesOf_1 5 rfl rfl)
theorem dX0_valuesOf_30 : decode cX0_valuesOf 30 = .ok (.getfield 73, 3) := dk_180 0 73 (dk_at dksX0_valuesOf_1 6 rfl rfl)
theorem dX0_valuesOf_33 : decode cX0_valuesOf 33 = .ok (.iload_n 3, 1) := dk_29 (dk_at dksX0_valuesOf_1 9 rfl rfl)
theorem dX0_valuesOf_34 : decode cX0_valuesOf 34 = .ok (.invokevirtual 127, 3) := dk_182 0 127 (dk_at dksX0_valuesOf_1 10 rfl rfl)
theorem dX0_valuesOf_37 : decode cX0_valuesOf 37 = .ok (.goto 4, 3) := dk_167 0 4 (dk_at dksX0_valuesOf_1 13 rfl rfl)
theorem dX0_valuesOf_40 : decode cX0_valuesOf 40 = .ok (.iconst 0, 1) := dk_3 (dk_at dksX0_valuesOf_1 16 rfl rfl)
theorem dX0_valuesOf_41 : decode cX0_valuesOf 41 = .ok (.iadd, 1) := dk_96 (dk_at dksX0_valuesOf_1 17 rfl rfl)
theorem dX0_valuesOf_42 : decode cX0_valuesOf 42 = .ok (.istore_n 2, 1) := dk_61 (dk_at dksX0_valuesOf_1 18 rfl rfl)
theorem dX0_valuesOf_43 : decode cX0_valuesOf 43 = .ok (.iinc 3 1, 3) := dk_132 3 1 (dk_at dksX0_valuesOf_1 19 rfl rfl)
theorem dX0_valuesOf_46 : decode cX0_valuesOf 46 = .ok (.goto (-42), 3) := dk_167 255 214 (dk_at dksX0_valuesOf_2 0 rfl rfl)
theorem dX0_valuesOf_49 : decode cX0_valuesOf 49 = .ok (.iload_n 2, 1) := dk_28 (dk_at dksX0_valuesOf_2 3 rfl rfl)
theorem dX0_valuesOf_50 : decode cX0_valuesOf 50 = .ok (.ireturn, 1) := dk_172 (dk_at dksX0_valuesOf_2 4 rfl rfl)
abbrev cX0_as : ByteArray := prog_1_method_23_code
def yX0_as : MethodName := ⟨RX0, "as", "(II)I"⟩
def dkwX0_as_2 : List UInt8 := [180, 0, 217, 27, 46, 167, 0, 8, 42, 8, 182, 0, 204, 172]
abbrev dktX0_as_2 : List UInt8 := dkwX0_as_2 ++ []
def dkwX0_as_1 : List UInt8 := [42, 180, 0, 73, 180, 0, 207, 27, 50, 180, 0, 214, 28, 184, 0, 240, 153, 0, 15, 42, 180, 0, 73]
abbrev dktX0_as_1 : List UInt8 := dkwX0_as_1 ++ dktX0_as_2
def dkwX0_as_0 : List UInt8 := [42, 27, 182, 0, 223, 153, 0, 13, 28, 3, 16, 6, 184, 0, 113, 154, 0, 9, 42, 4, 182, 0, 204, 172]
abbrev dktX0_as_0 : List UInt8 := dkwX0_as_0 ++ dktX0_as_1
theorem dksX0_as_0 : cX0_as.data.toList.drop 0 = dktX0_as_0 := by decide +kernel
theorem dksX0_as_1 : cX0_as.data.toList.drop 24 = dktX0_as_1 := dk_seg dksX0_as_0 24 rfl rfl
theorem dksX0_as_2 : cX0_as.data.toList.drop 47 = dktX0_as_2 := dk_seg dksX0_as_1 23 rfl rfl
theorem dX0_as_0 : decode cX0_as 0 = .ok (.aload_n 0, 1) := dk_42 (dk_at dksX0_as_0 0 rfl rfl)
theorem dX0_as_1 : decode cX0_as 1 = .ok (.iload_n 1, 1) := dk_27 (dk_at dksX0_as_0 1 rfl rfl)
theorem dX0_as_2 : decode cX0_as 2 = .ok (.invokevirtual 223, 3) := dk_182 0 223 (dk_at dksX0_as_0 2 rfl rfl)
theorem dX0_as_5 : decode cX0_as 5 = .ok (.ifCond .eq 13, 3) := dk_153 0 13 (dk_at dksX0_as_0 5 rfl rfl)
theorem dX0_as_8 : decode cX0_as 8 = .ok (.iload_n 2, 1) := dk_28 (dk_at dksX0_as_0 8 rfl rfl)
theorem dX0_as_9 : decode cX0_as 9 = .ok (.iconst 0, 1) := dk_3 (dk_at dksX0_as_0 9 rfl rfl)
theorem dX0_as_10 : decode cX0_as 10 = .ok (.bipush 6, 2) := dk_16 6 (dk_at dksX0_as_0 10 rfl rfl)
theorem dX0_as_12 : decode cX0_as 12 = .ok (.invokestatic 113, 3) := dk_184 0 113 (dk_at dksX0_as_0 12 rfl rfl)
theorem dX0_as_15 : decode cX0_as 15 = .ok (.ifCond .ne 9, 3) := dk_154 0 9 (dk_at dksX0_as_0 15 rfl rfl)
theorem dX0_as_18 : decode cX0_as 18 = .ok (.aload_n 0, 1) := dk_42 (dk_at dksX0_as_0 18 rfl rfl)
theorem dX0_as_19 : decode cX0_as 19 = .ok (.iconst 1, 1) := dk_4 (dk_at dksX0_as_0 19 rfl rfl)
theorem dX0_as_20 : decode cX0_as 20 = .ok (.invokevirtual 204, 3) := dk_182 0 204 (dk_at dksX0_as_0 20 rfl rfl)
theorem dX0_as_23 : decode cX0_as 23 = .ok (.ireturn, 1) := dk_172 (dk_at dksX0_as_0 23 rfl rfl)
theorem dX0_as_24 : decode cX0_as 24 = .ok (.aload_n 0, 1) := dk_42 (dk_at dksX0_as_1 0 rfl rfl)
theorem dX0_as_25 : decode cX0_as 25 = .ok (.getfield 73, 3) := dk_180 0 73 (dk_at dksX0_as_1 1 rfl rfl)
theorem dX0_as_28 : decode cX0_as 28 = .ok (.getfield 207, 3) := dk_180 0 207 (dk_at dksX0_as_1 4 rfl rfl)
theorem dX0_as_31 : decode cX0_as 31 = .ok (.iload_n 1, 1) := dk_27 (dk_at dksX0_as_1 7 rfl rfl)
theorem dX0_as_32 : decode cX0_as 32 = .ok (.aaload, 1) := dk_50 (dk_at dksX0_as_1 8 rfl rfl)
theorem dX0_as_33 : decode cX0_as 33 = .ok (.getfield 214, 3) := dk_180 0 214 (dk_at dksX0_as_1 9 rfl rfl)
theorem dX0_as_36 : decode cX0_as 36 = .ok (.iload_n 2, 1) := dk_28 (dk_at dksX0_as_1 12 rfl rfl)
theorem dX0_as_37 : decode cX0_as 37 = .ok (.invokestatic 240, 3) := dk_184 0 240 (dk_at dksX0_as_1 13 rfl rfl)
theorem dX0_as_40 : decode cX0_as 40 = .ok (.ifCond .eq 15, 3) := dk_153 0 15 (dk_at dksX0_as_1 16 rfl rfl)
theorem dX0_as_43 : decode cX0_as 43 = .ok (.aload_n 0, 1) := dk_42 (dk_at dksX0_as_1 19 rfl rfl)
theorem dX0_as_44 : decode cX0_as 44 = .ok (.getfield 73, 3) := dk_180 0 73 (dk_at dksX0_as_1 20 rfl rfl)
theorem dX0_as_47 : decode cX0_as 47 = .ok (.getfield 217, 3) := dk_180 0 217 (dk_at dksX0_as_2 0 rfl rfl)
theorem dX0_as_50 : decode cX0_as 50 = .ok (.iload_n 1, 1) := dk_27 (dk_at dksX0_as_2 3 rfl rfl)
theorem dX0_as_51 : decode cX0_as 51 = .ok (.iaload, 1) := dk_46 (dk_at dksX0_as_2 4 rfl rfl)
theorem dX0_as_52 : decode cX0_as 52 = .ok (.goto 8, 3) := dk_167 0 8 (dk_at dksX0_as_2 5 rfl rfl)
theorem dX0_as_55 : decode cX0_as 55 = .ok (.aload_n 0, 1) := dk_42 (dk_at dksX0_as_2 8 rfl rfl)
theorem dX0_as_56 : decode cX0_as 56 = .ok (.iconst 5, 1) := dk_8 (dk_at dksX0_as_2 9 rfl rfl)
theorem dX0_as_57 : decode cX0_as 57 = .ok (.invokevirtual 204, 3) := dk_182 0 204 (dk_at dksX0_as_2 10 rfl rfl)
theorem dX0_as_60 : decode cX0_as 60 = .ok (.ireturn, 1) := dk_172 (dk_at dksX0_as_2 13 rfl rfl)
abbrev cX0_isOf : ByteArray := prog_1_method_4_code
def yX0_isOf : MethodName := ⟨RX0, "isOf", "(Ljava/lang/Object;I)Z"⟩
def dkwX0_isOf_3 : List UInt8 := [172, 42, 193, 0, 28, 172, 42, 193, 0, 31, 172]
abbrev dktX0_isOf_3 : List UInt8 := dkwX0_isOf_3 ++ []
def dkwX0_isOf_2 : List UInt8 := [42, 193, 0, 10, 172, 42, 193, 0, 16, 172, 42, 193, 0, 19, 172, 42, 193, 0, 22, 172, 42, 193, 0, 25]
abbrev dktX0_isOf_2 : List UInt8 := dkwX0_isOf_2 ++ dktX0_isOf_3
def dkwX0_isOf_1 : List UInt8 := [170, 0, 0, 0, 0, 0, 69, 0, 0, 0, 1, 0, 0, 0, 6, 0, 0, 0, 39, 0, 0, 0, 44, 0, 0, 0, 49, 0, 0, 0, 54, 0, 0, 0, 59, 0, 0, 0, 64]
abbrev dktX0_isOf_1 : List UInt8 := dkwX0_isOf_1 ++ dktX0_isOf_2
def dkwX0_isOf_0 : List UInt8 := [27]
abbrev dktX0_isOf_0 : List UInt8 := dkwX0_isOf_0 ++ dktX0_isOf_1
theorem dksX0_isOf_0 : cX0_isOf.data.toList.drop 0 = dktX0_isOf_0 := by decide +kernel
theorem dksX0_isOf_1 : cX0_isOf.data.toList.drop 1 = dktX0_isOf_1 := dk_seg dksX0_isOf_0 1 rfl rfl
theorem dksX0_isOf_2 : cX0_isOf.data.toList.drop 40 = dktX0_isOf_2 := dk_seg dksX0_isOf_1 39 rfl rfl
theorem dksX0_isOf_3 : cX0_isOf.data.toList.drop 64 = dktX0_isOf_3 := dk_seg dksX0_isOf_2 24 rfl rfl
theorem dX0_isOf_0 : decode cX0_isOf 0 = .ok (.iload_n 1, 1) := dk_27 (dk_at dksX0_isOf_0 0 rfl rfl)
theorem dX0_isOf_1 : decode cX0_isOf 1 = .ok (.tableswitch 69 1 6 #[39, 44, 49, 54, 59, 64], 39) := by decide +kernel
theorem dX0_isOf_40 : decode cX0_isOf 40 = .ok (.aload_n 0, 1) := dk_42 (dk_at dksX0_isOf_2 0 rfl rfl)
theorem dX0_isOf_41 : decode cX0_isOf 41 = .ok (.instanceof 10, 3) := dk_193 0 10 (dk_at dksX0_isOf_2 1 rfl rfl)
theorem dX0_isOf_44 : decode cX0_isOf 44 = .ok (.ireturn, 1) := dk_172 (dk_at dksX0_isOf_2 4 rfl rfl)
theorem dX0_isOf_45 : decode cX0_isOf 45 = .ok (.aload_n 0, 1) := dk_42 (dk_at dksX0_isOf_2 5 rfl rfl)
theorem dX0_isOf_46 : decode cX0_isOf 46 = .ok (.instanceof 16, 3) := dk_193 0 16 (dk_at dksX0_isOf_2 6 rfl rfl)
theorem dX0_isOf_49 : decode cX0_isOf 49 = .ok (.ireturn, 1) := dk_172 (dk_at dksX0_isOf_2 9 rfl rfl)
theorem dX0_isOf_50 : decode cX0_isOf 50 = .ok (.aload_n 0, 1) := dk_42 (dk_at dksX0_isOf_2 10 rfl rfl)
theorem dX0_isOf_51 : decode cX0_isOf 51 = .ok (.instanceof 19, 3) := dk_193 0 19 (dk_at dksX0_isOf_2 11 rfl rfl)
theorem dX0_isOf_54 : decode cX0_isOf 54 = .ok (.ireturn, 1) := dk_172 (dk_at dksX0_isOf_2 14 rfl rfl)
theorem dX0_isOf_55 : decode cX0_isOf 55 = .ok (.aload_n 0, 1) := dk_42 (dk_at dksX0_isOf_2 15 rfl rfl)
theorem dX0_isOf_56 : decode cX0_isOf 56 = .ok (.instanceof 22, 3) := dk_193 0 22 (dk_at dksX0_isOf_2 16 rfl rfl)
theorem dX0_isOf_59 : decode cX0_isOf 59 = .ok (.ireturn, 1) := dk_172 (dk_at dksX0_isOf_2 19 rfl rfl)
theorem dX0_isOf_60 : decode cX0_isOf 60 = .ok (.aload_n 0, 1) := dk_42 (dk_at dksX0_isOf_2 20 rfl rfl)
theorem dX0_isOf_61 : decode cX0_isOf 61 = .ok (.instanceof 25, 3) := dk_193 0 25 (dk_at dksX0_isOf_2 21 rfl rfl)
theorem dX0_isOf_64 : decode cX0_isOf 64 = .ok (.ireturn, 1) := dk_172 (dk_at dksX0_isOf_3 0 rfl rfl)
theorem dX0_isOf_65 : decode cX0_isOf 65 = .ok (.aload_n 0, 1) := dk_42 (dk_at dksX0_isOf_3 1 rfl rfl)
theorem dX0_isOf_66 : decode cX0_isOf 66 = .ok (.instanceof 28, 3) := dk_193 0 28 (dk_at dksX0_isOf_3 2 rfl rfl)
theorem dX0_isOf_69 : decode cX0_isOf 69 = .ok (.ireturn, 1) := dk_172 (dk_at dksX0_isOf_3 5 rfl rfl)
theorem dX0_isOf_70 : decode cX0_isOf 70 = .ok (.aload_n 0, 1) := dk_42 (dk_at dksX0_isOf_3 6 rfl rfl)
theorem dX0_isOf_71 : decode cX0_isOf 71 = .ok (.instanceof 31, 3) := dk_193 0 31 (dk_at dksX0_isOf_3 7 rfl rfl)
theorem dX0_isOf_74 : decode cX0_isOf 74 = .ok (.ireturn, 1) := dk_172 (dk_at dksX0_isOf_3 10 rfl rfl)
abbrev cX0_become : ByteArray := prog_1_method_24_code
def yX0_become : MethodName := ⟨RX0, "become", "(II)I"⟩
def dkwX0_become_2 : List UInt8 := [45, 180, 0, 171, 184, 0, 210, 181, 0, 214, 45, 182, 0, 226, 172]
abbrev dktX0_become_2 : List UInt8 := dkwX0_become_2 ++ []
def dkwX0_become_1 : List UInt8 := [42, 180, 0, 73, 27, 182, 0, 150, 78, 42, 180, 0, 73, 180, 0, 207, 27, 50, 28, 27, 45, 180, 0, 177]
abbrev dktX0_become_1 : List UInt8 := dkwX0_become_1 ++ dktX0_become_2
def dkwX0_become_0 : List UInt8 := [42, 27, 182, 0, 223, 153, 0, 13, 28, 3, 16, 6, 184, 0, 113, 154, 0, 9, 42, 4, 182, 0, 204, 172]
abbrev dktX0_become_0 : List UInt8 := dkwX0_become_0 ++ dktX0_become_1
theorem dksX0_become_0 : cX0_become.data.toList.drop 0 = dktX0_become_0 := by decide +kernel
theorem dksX0_become_1 : cX0_become.data.toList.drop 24 = dktX0_become_1 := dk_seg dksX0_become_0 24 rfl rfl
theorem dksX0_become_2 : cX0_become.data.toList.drop 48 = dktX0_become_2 := dk_seg dksX0_become_1 24 rfl rfl
theorem dX0_become_0 : decode cX0_become 0 = .ok (.aload_n 0, 1) := dk_42 (dk_at dksX0_become_0 0 rfl rfl)
theorem dX0_become_1 : decode cX0_become 1 = .ok (.iload_n 1, 1) := dk_27 (dk_at dksX0_become_0 1 rfl rfl)
theorem dX0_become_2 : decode cX0_become 2 = .ok (.invokevirtual 223, 3) := dk_182 0 223 (dk_at dksX0_become_0 2 rfl rfl)
theorem dX0_become_5 : decode cX0_become 5 = .ok (.ifCond .eq 13, 3) := dk_153 0 13 (dk_at dksX0_become_0 5 rfl rfl)
theorem dX0_become_8 : decode cX0_become 8 = .ok (.iload_n 2, 1) := dk_28 (dk_at dksX0_become_0 8 rfl rfl)
theorem dX0_become_9 : decode cX0_become 9 = .ok (.iconst 0, 1) := dk_3 (dk_at dksX0_become_0 9 rfl rfl)
theorem dX0_become_10 : decode cX0_become 10 = .ok (.bipush 6, 2) := dk_16 6 (dk_at dksX0_become_0 10 rfl rfl)
theorem dX0_become_12 : decode cX0_become 12 = .ok (.invokestatic 113, 3) := dk_184 0 113 (dk_at dksX0_become_0 12 rfl rfl)
theorem dX0_become_15 : decode cX0_become 15 = .ok (.ifCond .ne 9, 3) := dk_154 0 9 (dk_at dksX0_become_0 15 rfl rfl)
theorem dX0_become_18 : decode cX0_become 18 = .ok (.aload_n 0, 1) := dk_42 (dk_at dksX0_become_0 18 rfl rfl)
theorem dX0_become_19 : decode cX0_become 19 = .ok (.iconst 1, 1) := dk_4 (dk_at dksX0_become_0 19 rfl rfl)
theorem dX0_become_20 : decode cX0_become 20 = .ok (.invokevirtual 204, 3) := dk_182 0 204 (dk_at dksX0_become_0 20 rfl rfl)
theorem dX0_become_23 : decode cX0_become 23 = .ok (.ireturn, 1) := dk_172 (dk_at dksX0_become_0 23 rfl rfl)
theorem dX0_become_24 : decode cX0_become 24 = .ok (.aload_n 0, 1) := dk_42 (dk_at dksX0_become_1 0 rfl rfl)
theorem dX0_become_25 : decode cX0_become 25 = .ok (.getfield 73, 3) := dk_180 0 73 (dk_at dksX0_become_1 1 rfl rfl)
theorem dX0_become_28 : decode cX0_become 28 = .ok (.iload_n 1, 1) := dk_27 (dk_at dksX0_become_1 4 rfl rfl)
theorem dX0_become_29 : decode cX0_become 29 = .ok (.invokevirtual 150, 3) := dk_182 0 150 (dk_at dksX0_become_1 5 rfl rfl)
theorem dX0_become_32 : decode cX0_become 32 = .ok (.astore_n 3, 1) := dk_78 (dk_at dksX0_become_1 8 rfl rfl)
theorem dX0_become_33 : decode cX0_become 33 = .ok (.aload_n 0, 1) := dk_42 (dk_at dksX0_become_1 9 rfl rfl)
theorem dX0_become_34 : decode cX0_become 34 = .ok (.getfield 73, 3) := dk_180 0 73 (dk_at dksX0_become_1 10 rfl rfl)
theorem dX0_become_37 : decode cX0_become 37 = .ok (.getfield 207, 3) := dk_180 0 207 (dk_at dksX0_become_1 13 rfl rfl)
theorem dX0_become_40 : decode cX0_become 40 = .ok (.iload_n 1, 1) := dk_27 (dk_at dksX0_become_1 16 rfl rfl)
theorem dX0_become_41 : decode cX0_become 41 = .ok (.aaload, 1) := dk_50 (dk_at dksX0_become_1 17 rfl rfl)
theorem dX0_become_42 : decode cX0_become 42 = .ok (.iload_n 2, 1) := dk_28 (dk_at dksX0_become_1 18 rfl rfl)
theorem dX0_become_43 : decode cX0_become 43 = .ok (.iload_n 1, 1) := dk_27 (dk_at dksX0_become_1 19 rfl rfl)
theorem dX0_become_44 : decode cX0_become 44 = .ok (.aload_n 3, 1) := dk_45 (dk_at dksX0_become_1 20 rfl rfl)
theorem dX0_become_45 : decode cX0_become 45 = .ok (.getfield 177, 3) := dk_180 0 177 (dk_at dksX0_become_1 21 rfl rfl)
theorem dX0_become_48 : decode cX0_become 48 = .ok (.aload_n 3, 1) := dk_45 (dk_at dksX0_become_2 0 rfl rfl)
theorem dX0_become_49 : decode cX0_become 49 = .ok (.getfield 171, 3) := dk_180 0 171 (dk_at dksX0_become_2 1 rfl rfl)
theorem dX0_become_52 : decode cX0_become 52 = .ok (.invokestatic 210, 3) := dk_184 0 210 (dk_at dksX0_become_2 4 rfl rfl)
theorem dX0_become_55 : decode cX0_become 55 = .ok (.putfield 214, 3) := dk_181 0 214 (dk_at dksX0_become_2 7 rfl rfl)
theorem dX0_become_58 : decode cX0_become 58 = .ok (.aload_n 3, 1) := dk_45 (dk_at dksX0_become_2 10 rfl rfl)
theorem dX0_become_59 : decode cX0_become 59 = .ok (.invokevirtual 226, 3) := dk_182 0 226 (dk_at dksX0_become_2 11 rfl rfl)
theorem dX0_become_62 : decode cX0_become 62 = .ok (.ireturn, 1) := dk_172 (dk_at dksX0_become_2 14 rfl rfl)
abbrev cX0_purse : ByteArray := prog_1_method_25_code
def yX0_purse : MethodName := ⟨RX0, "purse", "(II)I"⟩
def dkwX0_purse_1 : List UInt8 := [42, 180, 0, 73, 180, 0, 217, 27, 46, 62, 42, 180, 0, 73, 180, 0, 217, 27, 28, 79, 29, 172]
abbrev dktX0_purse_1 : List UInt8 := dkwX0_purse_1 ++ []
def dkwX0_purse_0 : List UInt8 := [42, 27, 182, 0, 223, 153, 0, 13, 28, 3, 18, 199, 184, 0, 113, 154, 0, 9, 42, 4, 182, 0, 204, 172]
abbrev dktX0_purse_0 : List UInt8 := dkwX0_purse_0 ++ dktX0_purse_1
theorem dksX0_purse_0 : cX0_purse.data.toList.drop 0 = dktX0_purse_0 := by decide +kernel
theorem dksX0_purse_1 : cX0_purse.data.toList.drop 24 = dktX0_purse_1 := dk_seg dksX0_purse_0 24 rfl rfl
theorem dX0_purse_0 : decode cX0_purse 0 = .ok (.aload_n 0, 1) := dk_42 (dk_at dksX0_purse_0 0 rfl rfl)
theorem dX0_purse_1 : decode cX0_purse 1 = .ok (.iload_n 1, 1) := dk_27 (dk_at dksX0_purse_0 1 rfl rfl)
theorem dX0_purse_2 : decode cX0_purse 2 = .ok (.invokevirtual 223, 3) := dk_182 0 223 (dk_at dksX0_purse_0 2 rfl rfl)
theorem dX0_purse_5 : decode cX0_purse 5 = .ok (.ifCond .eq 13, 3) := dk_153 0 13 (dk_at dksX0_purse_0 5 rfl rfl)
theorem dX0_purse_8 : decode cX0_purse 8 = .ok (.iload_n 2, 1) := dk_28 (dk_at dksX0_purse_0 8 rfl rfl)
theorem dX0_purse_9 : decode cX0_purse 9 = .ok (.iconst 0, 1) := dk_3 (dk_at dksX0_purse_0 9 rfl rfl)
theorem dX0_purse_10 : decode cX0_purse 10 = .ok (.ldc 199, 2) := dk_18 199 (dk_at dksX0_purse_0 10 rfl rfl)
theorem dX0_purse_12 : decode cX0_purse 12 = .ok (.invokestatic 113, 3) := dk_184 0 113 (dk_at dksX0_purse_0 12 rfl rfl)
theorem dX0_purse_15 : decode cX0_purse 15 = .ok (.ifCond .ne 9, 3) := dk_154 0 9 (dk_at dksX0_purse_0 15 rfl rfl)
theorem dX0_purse_18 : decode cX0_purse 18 = .ok (.aload_n 0, 1) := dk_42 (dk_at dksX0_purse_0 18 rfl rfl)
theorem dX0_purse_19 : decode cX0_purse 19 = .ok (.iconst 1, 1) := dk_4 (dk_at dksX0_purse_0 19 rfl rfl)
theorem dX0_purse_20 : decode cX0_purse 20 = .ok (.invokevirtual 204, 3) := dk_182 0 204 (dk_at dksX0_purse_0 20 rfl rfl)
theorem dX0_purse_23 : decode cX0_purse 23 = .ok (.ireturn, 1) := dk_172 (dk_at dksX0_purse_0 23 rfl rfl)
theorem dX0_purse_24 : decode cX0_purse 24 = .ok (.aload_n 0, 1) := dk_42 (dk_at dksX0_purse_1 0 rfl rfl)
theorem dX0_purse_25 : decode cX0_purse 25 = .ok (.getfield 73, 3) := dk_180 0 73 (dk_at dksX0_purse_1 1 rfl rfl)
theorem dX0_purse_28 : decode cX0_purse 28 = .ok (.getfield 217, 3) := dk_180 0 217 (dk_at dksX0_purse_1 4 rfl rfl)
theorem dX0_purse_31 : decode cX0_purse 31 = .ok (.iload_n 1, 1) := dk_27 (dk_at dksX0_purse_1 7 rfl rfl)
theorem dX0_purse_32 : decode cX0_purse 32 = .ok (.iaload, 1) := dk_46 (dk_at dksX0_purse_1 8 rfl rfl)
theorem dX0_purse_33 : decode cX0_purse 33 = .ok (.istore_n 3, 1) := dk_62 (dk_at dksX0_purse_1 9 rfl rfl)
theorem dX0_purse_34 : decode cX0_purse 34 = .ok (.aload_n 0, 1) := dk_42 (dk_at dksX0_purse_1 10 rfl rfl)
theorem dX0_purse_35 : decode cX0_purse 35 = .ok (.getfield 73, 3) := dk_180 0 73 (dk_at dksX0_purse_1 11 rfl rfl)
theorem dX0_purse_38 : decode cX0_purse 38 = .ok (.getfield 217, 3) := dk_180 0 217 (dk_at dksX0_purse_1 14 rfl rfl)
theorem dX0_purse_41 : decode cX0_purse 41 = .ok (.iload_n 1, 1) := dk_27 (dk_at dksX0_purse_1 17 rfl rfl)
theorem dX0_purse_42 : decode cX0_purse 42 = .ok (.iload_n 2, 1) := dk_28 (dk_at dksX0_purse_1 18 rfl rfl)
theorem dX0_purse_43 : decode cX0_purse 43 = .ok (.iastore, 1) := dk_79 (dk_at dksX0_purse_1 19 rfl rfl)
theorem dX0_purse_44 : decode cX0_purse 44 = .ok (.iload_n 3, 1) := dk_29 (dk_at dksX0_purse_1 20 rfl rfl)
theorem dX0_purse_45 : decode cX0_purse 45 = .ok (.ireturn, 1) := dk_172 (dk_at dksX0_purse_1 21 rfl rfl)
abbrev cX0_thing : ByteArray := prog_1_method_26_code
def yX0_thing : MethodName := ⟨RX0, "thing", "(II)I"⟩
def dkwX0_thing_5 : List UInt8 := [132, 4, 1, 167, 255, 230, 42, 180, 0, 73, 89, 180, 0, 117, 4, 96, 181, 0, 117, 29, 172]
abbrev dktX0_thing_5 : List UInt8 := dkwX0_thing_5 ++ []
def dkwX0_thing_4 : List UInt8 := [21, 4, 16, 6, 162, 0, 25, 42, 180, 0, 73, 180, 0, 220, 16, 12, 21, 4, 104, 29, 96, 3, 79]
abbrev dktX0_thing_4 : List UInt8 := dkwX0_thing_4 ++ dktX0_thing_5
def dkwX0_thing_3 : List UInt8 := [42, 180, 0, 73, 180, 0, 244, 29, 16, 100, 79, 42, 180, 0, 73, 180, 0, 247, 29, 3, 84, 3, 54, 4]
abbrev dktX0_thing_3 : List UInt8 := dkwX0_thing_3 ++ dktX0_thing_4
def dkwX0_thing_2 : List UInt8 := [180, 0, 117, 62, 42, 180, 0, 73, 180, 0, 147, 29, 27, 79, 42, 180, 0, 73, 180, 0, 134, 29, 28, 79]
abbrev dktX0_thing_2 : List UInt8 := dkwX0_thing_2 ++ dktX0_thing_3
def dkwX0_thing_1 : List UInt8 := [172, 42, 180, 0, 73, 180, 0, 117, 16, 12, 160, 0, 9, 42, 7, 182, 0, 204, 172, 42, 180, 0, 73]
abbrev dktX0_thing_1 : List UInt8 := dkwX0_thing_1 ++ dktX0_thing_2
def dkwX0_thing_0 : List UInt8 := [42, 27, 182, 0, 223, 153, 0, 14, 28, 3, 17, 39, 15, 184, 0, 113, 154, 0, 9, 42, 4, 182, 0, 204]
abbrev dktX0_thing_0 : List UInt8 := dkwX0_thing_0 ++ dktX0_thing_1
theorem dksX0_thing_0 : cX0_thing.data.toList.drop 0 = dktX0_thing_0 := by decide +kernel
theorem dksX0_thing_1 : cX0_thing.data.toList.drop 24 = dktX0_thing_1 := dk_seg dksX0_thing_0 24 rfl rfl
theorem dksX0_thing_2 : cX0_thing.data.toList.drop 47 = dktX0_thing_2 := dk_seg dksX0_thing_1 23 rfl rfl
theorem dksX0_thing_3 : cX0_thing.data.toList.drop 71 = dktX0_thing_3 := dk_seg dksX0_thing_2 24 rfl rfl
theorem dksX0_thing_4 : cX0_thing.data.toList.drop 95 = dktX0_thing_4 := dk_seg dksX0_thing_3 24 rfl rfl
theorem dksX0_thing_5 : cX0_thing.data.toList.drop 118 = dktX0_thing_5 := dk_seg dksX0_thing_4 23 rfl rfl
theorem dX0_thing_0 : decode cX0_thing 0 = .ok (.aload_n 0, 1) := dk_42 (dk_at dksX0_thing_0 0 rfl rfl)
theorem dX0_thing_1 : decode cX0_thing 1 = .ok (.iload_n 1, 1) := dk_27 (dk_at dksX0_thing_0 1 rfl rfl)
theorem dX0_thing_2 : decode cX0_thing 2 = .ok (.invokevirtual 223, 3) := dk_182 0 223 (dk_at dksX0_thing_0 2 rfl rfl)
theorem dX0_thing_5 : decode cX0_thing 5 = .ok (.ifCond .eq 14, 3) := dk_153 0 14 (dk_at dksX0_thing_0 5 rfl rfl)
theorem dX0_thing_8 : decode cX0_thing 8 = .ok (.iload_n 2, 1) := dk_28 (dk_at dksX0_thing_0 8 rfl rfl)
theorem dX0_thing_9 : decode cX0_thing 9 = .ok (.iconst 0, 1) := dk_3 (dk_at dksX0_thing_0 9 rfl rfl)
theorem dX0_thing_10 : decode cX0_thing 10 = .ok (.sipush 9999, 3) := dk_17 39 15 (dk_at dksX0_thing_0 10 rfl rfl)
theorem dX0_thing_13 : decode cX0_thing 13 = .ok (.invokestatic 113, 3) := dk_184 0 113 (dk_at dksX0_thing_0 13 rfl rfl)
theorem dX0_thing_16 : decode cX0_thing 16 = .ok (.ifCond .ne 9, 3) := dk_154 0 9 (dk_at dksX0_thing_0 16 rfl rfl)
theorem dX0_thing_19 : decode cX0_thing 19 = .ok (.aload_n 0, 1) := dk_42 (dk_at dksX0_thing_0 19 rfl rfl)
theorem dX0_thing_20 : decode cX0_thing 20 = .ok (.iconst 1, 1) := dk_4 (dk_at dksX0_thing_0 20 rfl rfl)
theorem dX0_thing_21 : decode cX0_thing 21 = .ok (.invokevirtual 204, 3) := dk_182 0 204 (dk_at dksX0_thing_0 21 rfl rfl)
theorem dX0_thing_24 : decode cX0_thing 24 = .ok (.ireturn, 1) := dk_172 (dk_at dksX0_thing_1 0 rfl rfl)
theorem dX0_thing_25 : decode cX0_thing 25 = .ok (.aload_n 0, 1) := dk_42 (dk_at dksX0_thing_1 1 rfl rfl)
theorem dX0_thing_26 : decode cX0_thing 26 = .ok (.getfield 73, 3) := dk_180 0 73 (dk_at dksX0_thing_1 2 rfl rfl)
theorem dX0_thing_29 : decode cX0_thing 29 = .ok (.getfield 117, 3) := dk_180 0 117 (dk_at dksX0_thing_1 5 rfl rfl)
theorem dX0_thing_32 : decode cX0_thing 32 = .ok (.bipush 12, 2) := dk_16 12 (dk_at dksX0_thing_1 8 rfl rfl)
theorem dX0_thing_34 : decode cX0_thing 34 = .ok (.if_icmp .ne 9, 3) := dk_160 0 9 (dk_at dksX0_thing_1 10 rfl rfl)
theorem dX0_thing_37 : decode cX0_thing 37 = .ok (.aload_n 0, 1) := dk_42 (dk_at dksX0_thing_1 13 rfl rfl)
theorem dX0_thing_38 : decode cX0_thing 38 = .ok (.iconst 4, 1) := dk_7 (dk_at dksX0_thing_1 14 rfl rfl)
theorem dX0_thing_39 : decode cX0_thing 39 = .ok (.invokevirtual 204, 3) := dk_182 0 204 (dk_at dksX0_thing_1 15 rfl rfl)
theorem dX0_thing_42 : decode cX0_thing 42 = .ok (.ireturn, 1) := dk_172 (dk_at dksX0_thing_1 18 rfl rfl)
theorem dX0_thing_43 : decode cX0_thing 43 = .ok (.aload_n 0, 1) := dk_42 (dk_at dksX0_thing_1 19 rfl rfl)
theorem dX0_thing_44 : decode cX0_thing 44 = .ok (.getfield 73, 3) := dk_180 0 73 (dk_at dksX0_thing_1 20 rfl rfl)
theorem dX0_thing_47 : decode cX0_thing 47 = .ok (.getfield 117, 3) := dk_180 0 117 (dk_at dksX0_thing_2 0 rfl rfl)
theorem dX0_thing_50 : decode cX0_thing 50 = .ok (.istore_n 3, 1) := dk_62 (dk_at dksX0_thing_2 3 rfl rfl)
theorem dX0_thing_51 : decode cX0_thing 51 = .ok (.aload_n 0, 1) := dk_42 (dk_at dksX0_thing_2 4 rfl rfl)
theorem dX0_thing_52 : decode cX0_thing 52 = .ok (.getfield 73, 3) := dk_180 0 73 (dk_at dksX0_thing_2 5 rfl rfl)
theorem dX0_thing_55 : decode cX0_thing 55 = .ok (.getfield 147, 3) := dk_180 0 147 (dk_at dksX0_thing_2 8 rfl rfl)
theorem dX0_thing_58 : decode cX0_thing 58 = .ok (.iload_n 3, 1) := dk_29 (dk_at dksX0_thing_2 11 rfl rfl)
theorem dX0_thing_59 : decode cX0_thing 59 = .ok (.iload_n 1, 1) := dk_27 (dk_at dksX0_thing_2 12 rfl rfl)
theorem dX0_thing_60 : decode cX0_thing 60 = .ok (.iastore, 1) := dk_79 (dk_at dksX0_thing_2 13 rfl rfl)
theorem dX0_thing_61 : decode cX0_thing 61 = .ok (.aload_n 0, 1) := dk_42 (dk_at dksX0_thing_2 14 rfl rfl)
theorem dX0_thing_62 : decode cX0_thing 62 = .ok (.getfield 73, 3) := dk_180 0 73 (dk_at dksX0_thing_2 15 rfl rfl)
theorem dX0_thing_65 : decode cX0_thing 65 = .ok (.getfield 134, 3) := dk_180 0 134 (dk_at dksX0_thing_2 18 rfl rfl)
theorem dX0_thing_68 : decode cX0_thing 68 = .ok (.iload_n 3, 1) := dk_29 (dk_at dksX0_thing_2 21 rfl rfl)
theorem dX0_thing_69 : decode cX0_thing 69 = .ok (.iload_n 2, 1) := dk_28 (dk_at dksX0_thing_2 22 rfl rfl)
theorem dX0_thing_70 : decode cX0_thing 70 = .ok (.iastore, 1) := dk_79 (dk_at dksX0_thing_2 23 rfl rfl)
theorem dX0_thing_71 : decode cX0_thing 71 = .ok (.aload_n 0, 1) := dk_42 (dk_at dksX0_thing_3 0 rfl rfl)
theorem dX0_thing_72 : decode cX0_thing 72 = .ok (.getfield 73, 3) := dk_180 0 73 (dk_at dksX0_thing_3 1 rfl rfl)
theorem dX0_thing_75 : decode cX0_thing 75 = .ok (.getfield 244, 3) := dk_180 0 244 (dk_at dksX0_thing_3 4 rfl rfl)
theorem dX0_thing_78 : decode cX0_thing 78 = .ok (.iload_n 3, 1) := dk_29 (dk_at dksX0_thing_3 7 rfl rfl)
theorem dX0_thing_79 : decode cX0_thing 79 = .ok (.bipush 100, 2) := dk_16 100 (dk_at dksX0_thing_3 8 rfl rfl)
theorem dX0_thing_81 : decode cX0_thing 81 = .ok (.iastore, 1) := dk_79 (dk_at dksX0_thing_3 10 rfl rfl)
theorem dX0_thing_82 : decode cX0_thing 82 = .ok (.aload_n 0, 1) := dk_42 (dk_at dksX0_thing_3 11 rfl rfl)
theorem dX0_thing_83 : decode cX0_thing 83 = .ok (.getfield 73, 3) := dk_180 0 73 (dk_at dksX0_thing_3 12 rfl rfl)
theorem dX0_thing_86 : decode cX0_thing 86 = .ok (.getfield 247, 3) := dk_180 0 247 (dk_at dksX0_thing_3 15 rfl rfl)
theorem dX0_thing_89 : decode cX0_thing 89 = .ok (.iload_n 3, 1) := dk_29 (dk_at dksX0_thing_3 18 rfl rfl)
theorem dX0_thing_90 : decode cX0_thing 90 = .ok (.iconst 0, 1) := dk_3 (dk_at dksX0_thing_3 19 rfl rfl)
theorem dX0_thing_91 : decode cX0_thing 91 = .ok (.bastore, 1) := dk_84 (dk_at dksX0_thing_3 20 rfl rfl)
theorem dX0_thing_92 : decode cX0_thing 92 = .ok (.iconst 0, 1) := dk_3 (dk_at dksX0_thing_3 21 rfl rfl)
theorem dX0_thing_93 : decode cX0_thing 93 = .ok (.istore 4, 2) := dk_54 4 (dk_at dksX0_thing_3 22 rfl rfl)
theorem dX0_thing_95 : decode cX0_thing 95 = .ok (.iload 4, 2) := dk_21 4 (dk_at dksX0_thing_4 0 rfl rfl)
theorem dX0_thing_97 : decode cX0_thing 97 = .ok (.bipush 6, 2) := dk_16 6 (dk_at dksX0_thing_4 2 rfl rfl)
theorem dX0_thing_99 : decode cX0_thing 99 = .ok (.if_icmp .ge 25, 3) := dk_162 0 25 (dk_at dksX0_thing_4 4 rfl rfl)
theorem dX0_thing_102 : decode cX0_thing 102 = .ok (.aload_n 0, 1) := dk_42 (dk_at dksX0_thing_4 7 rfl rfl)
theorem dX0_thing_103 : decode cX0_thing 103 = .ok (.getfield 73, 3) := dk_180 0 73 (dk_at dksX0_thing_4 8 rfl rfl)
theorem dX0_thing_106 : decode cX0_thing 106 = .ok (.getfield 220, 3) := dk_180 0 220 (dk_at dksX0_thing_4 11 rfl rfl)
theorem dX0_thing_109 : decode cX0_thing 109 = .ok (.bipush 12, 2) := dk_16 12 (dk_at dksX0_thing_4 14 rfl rfl)
theorem dX0_thing_111 : decode cX0_thing 111 = .ok (.iload 4, 2) := dk_21 4 (dk_at dksX0_thing_4 16 rfl rfl)
theorem dX0_thing_113 : decode cX0_thing 113 = .ok (.imul, 1) := dk_104 (dk_at dksX0_thing_4 18 rfl rfl)
theorem dX0_thing_114 : decode cX0_thing 114 = .ok (.iload_n 3, 1) := dk_29 (dk_at dksX0_thing_4 19 rfl rfl)
theorem dX0_thing_115 : decode cX0_thing 115 = .ok (.iadd, 1) := dk_96 (dk_at dksX0_thing_4 20 rfl rfl)
theorem dX0_thing_116 : decode cX0_thing 116 = .ok (.iconst 0, 1) := dk_3 (dk_at dksX0_thing_4 21 rfl rfl)
theorem dX0_thing_117 : decode cX0_thing 117 = .ok (.iastore, 1) := dk_79 (dk_at dksX0_thing_4 22 rfl rfl)
theorem dX0_thing_118 : decode cX0_thing 118 = .ok (.iinc 4 1, 3) := dk_132 4 1 (dk_at dksX0_thing_5 0 rfl rfl)
theorem dX0_thing_121 : decode cX0_thing 121 = .ok (.goto (-26), 3) := dk_167 255 230 (dk_at dksX0_thing_5 3 rfl rfl)
theorem dX0_thing_124 : decode cX0_thing 124 = .ok (.aload_n 0, 1) := dk_42 (dk_at dksX0_thing_5 6 rfl rfl)
theorem dX0_thing_125 : decode cX0_thing 125 = .ok (.getfield 73, 3) := dk_180 0 73 (dk_at dksX0_thing_5 7 rfl rfl)
theorem dX0_thing_128 : decode cX0_thing 128 = .ok (.dup, 1) := dk_89 (dk_at dksX0_thing_5 10 rfl rfl)
theorem dX0_thing_129 : decode cX0_thing 129 = .ok (.getfield 117, 3) := dk_180 0 117 (dk_at dksX0_thing_5 11 rfl rfl)
theorem dX0_thing_132 : decode cX0_thing 132 = .ok (.iconst 1, 1) := dk_4 (dk_at dksX0_thing_5 14 rfl rfl)
theorem dX0_thing_133 : decode cX0_thing 133 = .ok (.iadd, 1) := dk_96 (dk_at dksX0_thing_5 15 rfl rfl)
theorem dX0_thing_134 : decode cX0_thing 134 = .ok (.putfield 117, 3) := dk_181 0 117 (dk_at dksX0_thing_5 16 rfl rfl)
theorem dX0_thing_137 : decode cX0_thing 137 = .ok (.iload_n 3, 1) := dk_29 (dk_at dksX0_thing_5 19 rfl rfl)
theorem dX0_thing_138 : decode cX0_thing 138 = .ok (.ireturn, 1) := dk_172 (dk_at dksX0_thing_5 20 rfl rfl)
abbrev cX0_thingIs : ByteArray := prog_1_method_27_code
def yX0_thingIs : MethodName := ⟨RX0, "thingIs", "(II)I"⟩
def dkwX0_thingIs_4 : List UInt8 := [42, 180, 0, 73, 27, 182, 0, 127, 172, 42, 180, 0, 73, 27, 182, 0, 254, 172, 42, 4, 182, 0, 204, 172]
abbrev dktX0_thingIs_4 : List UInt8 := dkwX0_thingIs_4 ++ []
def dkwX0_thingIs_3 : List UInt8 := [180, 0, 244, 27, 46, 172, 42, 180, 0, 73, 180, 0, 247, 27, 51, 153, 0, 7, 4, 167, 0, 4, 3, 172]
abbrev dktX0_thingIs_3 : List UInt8 := dkwX0_thingIs_3 ++ dktX0_thingIs_4
def dkwX0_thingIs_2 : List UInt8 := [42, 180, 0, 73, 180, 0, 147, 27, 46, 172, 42, 180, 0, 73, 180, 0, 134, 27, 46, 172, 42, 180, 0, 73]
abbrev dktX0_thingIs_2 : List UInt8 := dkwX0_thingIs_2 ++ dktX0_thingIs_3
def dkwX0_thingIs_1 : List UInt8 := [170, 0, 0, 0, 103, 0, 0, 0, 0, 0, 0, 0, 5, 0, 0, 0, 37, 0, 0, 0, 47, 0, 0, 0, 57, 0, 0, 0, 67, 0, 0, 0, 85, 0, 0, 0, 94]
abbrev dktX0_thingIs_1 : List UInt8 := dkwX0_thingIs_1 ++ dktX0_thingIs_2
def dkwX0_thingIs_0 : List UInt8 := [42, 27, 182, 0, 251, 154, 0, 9, 42, 4, 182, 0, 204, 172, 28]
abbrev dktX0_thingIs_0 : List UInt8 := dkwX0_thingIs_0 ++ dktX0_thingIs_1
theorem dksX0_thingIs_0 : cX0_thingIs.data.toList.drop 0 = dktX0_thingIs_0 := by decide +kernel
theorem dksX0_thingIs_1 : cX0_thingIs.data.toList.drop 15 = dktX0_thingIs_1 := dk_seg dksX0_thingIs_0 15 rfl rfl
theorem dksX0_thingIs_2 : cX0_thingIs.data.toList.drop 52 = dktX0_thingIs_2 := dk_seg dksX0_thingIs_1 37 rfl rfl
theorem dksX0_thingIs_3 : cX0_thingIs.data.toList.drop 76 = dktX0_thingIs_3 := dk_seg dksX0_thingIs_2 24 rfl rfl
theorem dksX0_thingIs_4 : cX0_thingIs.data.toList.drop 100 = dktX0_thingIs_4 := dk_seg dksX0_thingIs_3 24 rfl rfl
theorem dX0_thingIs_0 : decode cX0_thingIs 0 = .ok (.aload_n 0, 1) := dk_42 (dk_at dksX0_thingIs_0 0 rfl rfl)
theorem dX0_thingIs_1 : decode cX0_thingIs 1 = .ok (.iload_n 1, 1) := dk_27 (dk_at dksX0_thingIs_0 1 rfl rfl)
theorem dX0_thingIs_2 : decode cX0_thingIs 2 = .ok (.invokevirtual 251, 3) := dk_182 0 251 (dk_at dksX0_thingIs_0 2 rfl rfl)
theorem dX0_thingIs_5 : decode cX0_thingIs 5 = .ok (.ifCond .ne 9, 3) := dk_154 0 9 (dk_at dksX0_thingIs_0 5 rfl rfl)
theorem dX0_thingIs_8 : decode cX0_thingIs 8 = .ok (.aload_n 0, 1) := dk_42 (dk_at dksX0_thingIs_0 8 rfl rfl)
theorem dX0_thingIs_9 : decode cX0_thingIs 9 = .ok (.iconst 1, 1) := dk_4 (dk_at dksX0_thingIs_0 9 rfl rfl)
theorem dX0_thingIs_10 : decode cX0_thingIs 10 = .ok (.invokevirtual 204, 3) := dk_182 0 204 (dk_at dksX0_thingIs_0 10 rfl rfl)
theorem dX0_thingIs_13 : decode cX0_thingIs 13 = .ok (.ireturn, 1) := dk_172 (dk_at dksX0_thingIs_0 13 rfl rfl)
theorem dX0_thingIs_14 : decode cX0_thingIs 14 = .ok (.iload_n 2, 1) := dk_28 (dk_at dksX0_thingIs_0 14 rfl rfl)
theorem dX0_thingIs_15 : decode cX0_thingIs 15 = .ok (.tableswitch 103 0 5 #[37, 47, 57, 67, 85, 94], 37) := by decide +kernel
theorem dX0_thingIs_52 : decode cX0_thingIs 52 = .ok (.aload_n 0, 1) := dk_42 (dk_at dksX0_thingIs_2 0 rfl rfl)
theorem dX0_thingIs_53 : decode cX0_thingIs 53 = .ok (.getfield 73, 3) := dk_180 0 73 (dk_at dksX0_thingIs_2 1 rfl rfl)
theorem dX0_thingIs_56 : decode cX0_thingIs 56 = .ok (.getfield 147, 3) := dk_180 0 147 (dk_at dksX0_thingIs_2 4 rfl rfl)
theorem dX0_thingIs_59 : decode cX0_thingIs 59 = .ok (.iload_n 1, 1) := dk_27 (dk_at dksX0_thingIs_2 7 rfl rfl)
theorem dX0_thingIs_60 : decode cX0_thingIs 60 = .ok (.iaload, 1) := dk_46 (dk_at dksX0_thingIs_2 8 rfl rfl)
theorem dX0_thingIs_61 : decode cX0_thingIs 61 = .ok (.ireturn, 1) := dk_172 (dk_at dksX0_thingIs_2 9 rfl rfl)
theorem dX0_thingIs_62 : decode cX0_thingIs 62 = .ok (.aload_n 0, 1) := dk_42 (dk_at dksX0_thingIs_2 10 rfl rfl)
theorem dX0_thingIs_63 : decode cX0_thingIs 63 = .ok (.getfield 73, 3) := dk_180 0 73 (dk_at dksX0_thingIs_2 11 rfl rfl)
theorem dX0_thingIs_66 : decode cX0_thingIs 66 = .ok (.getfield 134, 3) := dk_180 0 134 (dk_at dksX0_thingIs_2 14 rfl rfl)
theorem dX0_thingIs_69 : decode cX0_thingIs 69 = .ok (.iload_n 1, 1) := dk_27 (dk_at dksX0_thingIs_2 17 rfl rfl)
theorem dX0_thingIs_70 : decode cX0_thingIs 70 = .ok (.iaload, 1) := dk_46 (dk_at dksX0_thingIs_2 18 rfl rfl)
theorem dX0_thingIs_71 : decode cX0_thingIs 71 = .ok (.ireturn, 1) := dk_172 (dk_at dksX0_thingIs_2 19 rfl rfl)
theorem dX0_thingIs_72 : decode cX0_thingIs 72 = .ok (.aload_n 0, 1) := dk_42 (dk_at dksX0_thingIs_2 20 rfl rfl)
theorem dX0_thingIs_73 : decode cX0_thingIs 73 = .ok (.getfield 73, 3) := dk_180 0 73 (dk_at dksX0_thingIs_2 21 rfl rfl)
theorem dX0_thingIs_76 : decode cX0_thingIs 76 = .ok (.getfield 244, 3) := dk_180 0 244 (dk_at dksX0_thingIs_3 0 rfl rfl)
theorem dX0_thingIs_79 : decode cX0_thingIs 79 = .ok (.iload_n 1, 1) := dk_27 (dk_at dksX0_thingIs_3 3 rfl rfl)
theorem dX0_thingIs_80 : decode cX0_thingIs 80 = .ok (.iaload, 1) := dk_46 (dk_at dksX0_thingIs_3 4 rfl rfl)
theorem dX0_thingIs_81 : decode cX0_thingIs 81 = .ok (.ireturn, 1) := dk_172 (dk_at dksX0_thingIs_3 5 rfl rfl)
theorem dX0_thingIs_82 : decode cX0_thingIs 82 = .ok (.aload_n 0, 1) := dk_42 (dk_at dksX0_thingIs_3 6 rfl rfl)
theorem dX0_thingIs_83 : decode cX0_thingIs 83 = .ok (.getfield 73, 3) := dk_180 0 73 (dk_at dksX0_thingIs_3 7 rfl rfl)
theorem dX0_thingIs_86 : decode cX0_thingIs 86 = .ok (.getfield 247, 3) := dk_180 0 247 (dk_at dksX0_thingIs_3 10 rfl rfl)
theorem dX0_thingIs_89 : decode cX0_thingIs 89 = .ok (.iload_n 1, 1) := dk_27 (dk_at dksX0_thingIs_3 13 rfl rfl)
theorem dX0_thingIs_90 : decode cX0_thingIs 90 = .ok (.baload, 1) := dk_51 (dk_at dksX0_thingIs_3 14 rfl rfl)
theorem dX0_thingIs_91 : decode cX0_thingIs 91 = .ok (.ifCond .eq 7, 3) := dk_153 0 7 (dk_at dksX0_thingIs_3 15 rfl rfl)
theorem dX0_thingIs_94 : decode cX0_thingIs 94 = .ok (.iconst 1, 1) := dk_4 (dk_at dksX0_thingIs_3 18 rfl rfl)
theorem dX0_thingIs_95 : decode cX0_thingIs 95 = .ok (.goto 4, 3) := dk_167 0 4 (dk_at dksX0_thingIs_3 19 rfl rfl)
theorem dX0_thingIs_98 : decode cX0_thingIs 98 = .ok (.iconst 0, 1) := dk_3 (dk_at dksX0_thingIs_3 22 rfl rfl)
theorem dX0_thingIs_99 : decode cX0_thingIs 99 = .ok (.ireturn, 1) := dk_172 (dk_at dksX0_thingIs_3 23 rfl rfl)
theorem dX0_thingIs_100 : decode cX0_thingIs 100 = .ok (.aload_n 0, 1) := dk_42 (dk_at dksX0_thingIs_4 0 rfl rfl)
theorem dX0_thingIs_101 : decode cX0_thingIs 101 = .ok (.getfield 73, 3) := dk_180 0 73 (dk_at dksX0_thingIs_4 1 rfl rfl)
theorem dX0_thingIs_104 : decode cX0_thingIs 104 = .ok (.iload_n 1, 1) := dk_27 (dk_at dksX0_thingIs_4 4 rfl rfl)
theorem dX0_thingIs_105 : decode cX0_thingIs 105 = .ok (.invokevirtual 127, 3) := dk_182 0 127 (dk_at dksX0_thingIs_4 5 rfl rfl)
theorem dX0_thingIs_108 : decode cX0_thingIs 108 = .ok (.ireturn, 1) := dk_172 (dk_at dksX0_thingIs_4 8 rfl rfl)
theorem dX0_thingIs_109 : decode cX0_thingIs 109 = .ok (.aload_n 0, 1) := dk_42 (dk_at dksX0_thingIs_4 9 rfl rfl)
theorem dX0_thingIs_110 : decode cX0_thingIs 110 = .ok (.getfield 73, 3) := dk_180 0 73 (dk_at dksX0_thingIs_4 10 rfl rfl)
theorem dX0_thingIs_113 : decode cX0_thingIs 113 = .ok (.iload_n 1, 1) := dk_27 (dk_at dksX0_thingIs_4 13 rfl rfl)
theorem dX0_thingIs_114 : decode cX0_thingIs 114 = .ok (.invokevirtual 254, 3) := dk_182 0 254 (dk_at dksX0_thingIs_4 14 rfl rfl)
theorem dX0_thingIs_117 : decode cX0_thingIs 117 = .ok (.ireturn, 1) := dk_172 (dk_at dksX0_thingIs_4 17 rfl rfl)
theorem dX0_thingIs_118 : decode cX0_thingIs 118 = .ok (.aload_n 0, 1) := dk_42 (dk_at dksX0_thingIs_4 18 rfl rfl)
theorem dX0_thingIs_119 : decode cX0_thingIs 119 = .ok (.iconst 1, 1) := dk_4 (dk_at dksX0_thingIs_4 19 rfl rfl)
theorem dX0_thingIs_120 : decode cX0_thingIs 120 = .ok (.invokevirtual 204, 3) := dk_182 0 204 (dk_at dksX0_thingIs_4 20 rfl rfl)
theorem dX0_thingIs_123 : decode cX0_thingIs 123 = .ok (.ireturn, 1) := dk_172 (dk_at dksX0_thingIs_4 23 rfl rfl)
abbrev cX0_isThing : ByteArray := prog_1_method_11_code
def yX0_isThing : MethodName := ⟨RX0, "isThing", "(I)Z"⟩
def dkwX0_isThing_0 : List UInt8 := [27, 3, 42, 180, 0, 73, 180, 0, 117, 4, 100, 184, 0, 113, 172]
abbrev dktX0_isThing_0 : List UInt8 := dkwX0_isThing_0 ++ []
theorem dksX0_isThing_0 : cX0_isThing.data.toList.drop 0 = dktX0_isThing_0 := by decide +kernel
theorem dX0_isThing_0 : decode cX0_isThing 0 = .ok (.iload_n 1, 1) := dk_27 (dk_at dksX0_isThing_0 0 rfl rfl)
theorem dX0_isThing_1 : decode cX0_isThing 1 = .ok (.iconst 0, 1) := dk_3 (dk_at dksX0_isThing_0 1 rfl rfl)
theorem dX0_isThing_2 : decode cX0_isThing 2 = .ok (.aload_n 0, 1) := dk_42 (dk_at dksX0_isThing_0 2 rfl rfl)
theorem dX0_isThing_3 : decode cX0_isThing 3 = .ok (.getfield 73, 3) := dk_180 0 73 (dk_at dksX0_isThing_0 3 rfl rfl)
theorem dX0_isThing_6 : decode cX0_isThing 6 = .ok (.getfield 117, 3) := dk_180 0 117 (dk_at dksX0_isThing_0 6 rfl rfl)
theorem dX0_isThing_9 : decode cX0_isThing 9 = .ok (.iconst 1, 1) := dk_4 (dk_at dksX0_isThing_0 9 rfl rfl)
theorem dX0_isThing_10 : decode cX0_isThing 10 = .ok (.isub, 1) := dk_100 (dk_at dksX0_isThing_0 10 rfl rfl)
theorem dX0_isThing_11 : decode cX0_isThing 11 = .ok (.invokestatic 113, 3) := dk_184 0 113 (dk_at dksX0_isThing_0 11 rfl rfl)
theorem dX0_isThing_14 : decode cX0_isThing 14 = .ok (.ireturn, 1) := dk_172 (dk_at dksX0_isThing_0 14 rfl rfl)
abbrev cX0_worth : ByteArray := prog_1_method_28_code
def yX0_worth : MethodName := ⟨RX0, "worth", "(III)I"⟩
def dkwX0_worth_2 : List UInt8 := [54, 4, 42, 180, 0, 73, 180, 0, 220, 16, 12, 27, 104, 28, 96, 29, 79, 21, 4, 172]
abbrev dktX0_worth_2 : List UInt8 := dkwX0_worth_2 ++ []
def dkwX0_worth_1 : List UInt8 := [154, 0, 9, 42, 4, 182, 0, 204, 172, 42, 180, 0, 73, 180, 0, 220, 16, 12, 27, 104, 28, 96, 46]
abbrev dktX0_worth_1 : List UInt8 := dkwX0_worth_1 ++ dktX0_worth_2
def dkwX0_worth_0 : List UInt8 := [42, 27, 182, 0, 223, 153, 0, 22, 42, 28, 182, 0, 251, 153, 0, 14, 29, 3, 17, 39, 15, 184, 0, 113]
abbrev dktX0_worth_0 : List UInt8 := dkwX0_worth_0 ++ dktX0_worth_1
theorem dksX0_worth_0 : cX0_worth.data.toList.drop 0 = dktX0_worth_0 := by decide +kernel
theorem dksX0_worth_1 : cX0_worth.data.toList.drop 24 = dktX0_worth_1 := dk_seg dksX0_worth_0 24 rfl rfl
theorem dksX0_worth_2 : cX0_worth.data.toList.drop 47 = dktX0_worth_2 := dk_seg dksX0_worth_1 23 rfl rfl
theorem dX0_worth_0 : decode cX0_worth 0 = .ok (.aload_n 0, 1) := dk_42 (dk_at dksX0_worth_0 0 rfl rfl)
theorem dX0_worth_1 : decode cX0_worth 1 = .ok (.iload_n 1, 1) := dk_27 (dk_at dksX0_worth_0 1 rfl rfl)
theorem dX0_worth_2 : decode cX0_worth 2 = .ok (.invokevirtual 223, 3) := dk_182 0 223 (dk_at dksX0_worth_0 2 rfl rfl)
theorem dX0_worth_5 : decode cX0_worth 5 = .ok (.ifCond .eq 22, 3) := dk_153 0 22 (dk_at dksX0_worth_0 5 rfl rfl)
theorem dX0_worth_8 : decode cX0_worth 8 = .ok (.aload_n 0, 1) := dk_42 (dk_at dksX0_worth_0 8 rfl rfl)
theorem dX0_worth_9 : decode cX0_worth 9 = .ok (.iload_n 2, 1) := dk_28 (dk_at dksX0_worth_0 9 rfl rfl)
theorem dX0_worth_10 : decode cX0_worth 10 = .ok (.invokevirtual 251, 3) := dk_182 0 251 (dk_at dksX0_worth_0 10 rfl rfl)
theorem dX0_worth_13 : decode cX0_worth 13 = .ok (.ifCond .eq 14, 3) := dk_153 0 14 (dk_at dksX0_worth_0 13 rfl rfl)
theorem dX0_worth_16 : decode cX0_worth 16 = .ok (.iload_n 3, 1) := dk_29 (dk_at dksX0_worth_0 16 rfl rfl)
theorem dX0_worth_17 : decode cX0_worth 17 = .ok (.iconst 0, 1) := dk_3 (dk_at dksX0_worth_0 17 rfl rfl)
theorem dX0_worth_18 : decode cX0_worth 18 = .ok (.sipush 9999, 3) := dk_17 39 15 (dk_at dksX0_worth_0 18 rfl rfl)
theorem dX0_worth_21 : decode cX0_worth 21 = .ok (.invokestatic 113, 3) := dk_184 0 113 (dk_at dksX0_worth_0 21 rfl rfl)
theorem dX0_worth_24 : decode cX0_worth 24 = .ok (.ifCond .ne 9, 3) := dk_154 0 9 (dk_at dksX0_worth_1 0 rfl rfl)
theorem dX0_worth_27 : decode cX0_worth 27 = .ok (.aload_n 0, 1) := dk_42 (dk_at dksX0_worth_1 3 rfl rfl)
theorem dX0_worth_28 : decode cX0_worth 28 = .ok (.iconst 1, 1) := dk_4 (dk_at dksX0_worth_1 4 rfl rfl)
theorem dX0_worth_29 : decode cX0_worth 29 = .ok (.invokevirtual 204, 3) := dk_182 0 204 (dk_at dksX0_worth_1 5 rfl rfl)
theorem dX0_worth_32 : decode cX0_worth 32 = .ok (.ireturn, 1) := dk_172 (dk_at dksX0_worth_1 8 rfl rfl)
theorem dX0_worth_33 : decode cX0_worth 33 = .ok (.aload_n 0, 1) := dk_42 (dk_at dksX0_worth_1 9 rfl rfl)
theorem dX0_worth_34 : decode cX0_worth 34 = .ok (.getfield 73, 3) := dk_180 0 73 (dk_at dksX0_worth_1 10 rfl rfl)
theorem dX0_worth_37 : decode cX0_worth 37 = .ok (.getfield 220, 3) := dk_180 0 220 (dk_at dksX0_worth_1 13 rfl rfl)
theorem dX0_worth_40 : decode cX0_worth 40 = .ok (.bipush 12, 2) := dk_16 12 (dk_at dksX0_worth_1 16 rfl rfl)
theorem dX0_worth_42 : decode cX0_worth 42 = .ok (.iload_n 1, 1) := dk_27 (dk_at dksX0_worth_1 18 rfl rfl)
theorem dX0_worth_43 : decode cX0_worth 43 = .ok (.imul, 1) := dk_104 (dk_at dksX0_worth_1 19 rfl rfl)
theorem dX0_worth_44 : decode cX0_worth 44 = .ok (.iload_n 2, 1) := dk_28 (dk_at dksX0_worth_1 20 rfl rfl)
theorem dX0_worth_45 : decode cX0_worth 45 = .ok (.iadd, 1) := dk_96 (dk_at dksX0_worth_1 21 rfl rfl)
theorem dX0_worth_46 : decode cX0_worth 46 = .ok (.iaload, 1) := dk_46 (dk_at dksX0_worth_1 22 rfl rfl)
theorem dX0_worth_47 : decode cX0_worth 47 = .ok (.istore 4, 2) := dk_54 4 (dk_at dksX0_worth_2 0 rfl rfl)
theorem dX0_worth_49 : decode cX0_worth 49 = .ok (.aload_n 0, 1) := dk_42 (dk_at dksX0_worth_2 2 rfl rfl)
theorem dX0_worth_50 : decode cX0_worth 50 = .ok (.getfield 73, 3) := dk_180 0 73 (dk_at dksX0_worth_2 3 rfl rfl)
theorem dX0_worth_53 : decode cX0_worth 53 = .ok (.getfield 220, 3) := dk_180 0 220 (dk_at dksX0_worth_2 6 rfl rfl)
theorem dX0_worth_56 : decode cX0_worth 56 = .ok (.bipush 12, 2) := dk_16 12 (dk_at dksX0_worth_2 9 rfl rfl)
theorem dX0_worth_58 : decode cX0_worth 58 = .ok (.iload_n 1, 1) := dk_27 (dk_at dksX0_worth_2 11 rfl rfl)
theorem dX0_worth_59 : decode cX0_worth 59 = .ok (.imul, 1) := dk_104 (dk_at dksX0_worth_2 12 rfl rfl)
theorem dX0_worth_60 : decode cX0_worth 60 = .ok (.iload_n 2, 1) := dk_28 (dk_at dksX0_worth_2 13 rfl rfl)
theorem dX0_worth_61 : decode cX0_worth 61 = .ok (.iadd, 1) := dk_96 (dk_at dksX0_worth_2 14 rfl rfl)
theorem dX0_worth_62 : decode cX0_worth 62 = .ok (.iload_n 3, 1) := dk_29 (dk_at dksX0_worth_2 15 rfl rfl)
theorem dX0_worth_63 : decode cX0_worth 63 = .ok (.iastore, 1) := dk_79 (dk_at dksX0_worth_2 16 rfl rfl)
theorem dX0_worth_64 : decode cX0_worth 64 = .ok (.iload 4, 2) := dk_21 4 (dk_at dksX0_worth_2 17 rfl rfl)
theorem dX0_worth_66 : decode cX0_worth 66 = .ok (.ireturn, 1) := dk_172 (dk_at dksX0_worth_2 19 rfl rfl)
abbrev cX0_price : ByteArray := prog_1_method_29_code
def yX0_price : MethodName := ⟨RX0, "price", "(II)I"⟩
def dkwX0_price_1 : List UInt8 := [172, 42, 180, 0, 73, 180, 0, 134, 27, 46, 62, 42, 180, 0, 73, 180, 0, 134, 27, 28, 79, 29, 172]
abbrev dktX0_price_1 : List UInt8 := dkwX0_price_1 ++ []
def dkwX0_price_0 : List UInt8 := [42, 27, 182, 0, 251, 153, 0, 14, 28, 3, 17, 39, 15, 184, 0, 113, 154, 0, 9, 42, 4, 182, 0, 204]
abbrev dktX0_price_0 : List UInt8 := dkwX0_price_0 ++ dktX0_price_1
theorem dksX0_price_0 : cX0_price.data.toList.drop 0 = dktX0_price_0 := by decide +kernel
theorem dksX0_price_1 : cX0_price.data.toList.drop 24 = dktX0_price_1 := dk_seg dksX0_price_0 24 rfl rfl
theorem dX0_price_0 : decode cX0_price 0 = .ok (.aload_n 0, 1) := dk_42 (dk_at dksX0_price_0 0 rfl rfl)
theorem dX0_price_1 : decode cX0_price 1 = .ok (.iload_n 1, 1) := dk_27 (dk_at dksX0_price_0 1 rfl rfl)
theorem dX0_price_2 : decode cX0_price 2 = .ok (.invokevirtual 251, 3) := dk_182 0 251 (dk_at dksX0_price_0 2 rfl rfl)
theorem dX0_price_5 : decode cX0_price 5 = .ok (.ifCond .eq 14, 3) := dk_153 0 14 (dk_at dksX0_price_0 5 rfl rfl)
theorem dX0_price_8 : decode cX0_price 8 = .ok (.iload_n 2, 1) := dk_28 (dk_at dksX0_price_0 8 rfl rfl)
theorem dX0_price_9 : decode cX0_price 9 = .ok (.iconst 0, 1) := dk_3 (dk_at dksX0_price_0 9 rfl rfl)
theorem dX0_price_10 : decode cX0_price 10 = .ok (.sipush 9999, 3) := dk_17 39 15 (dk_at dksX0_price_0 10 rfl rfl)
theorem dX0_price_13 : decode cX0_price 13 = .ok (.invokestatic 113, 3) := dk_184 0 113 (dk_at dksX0_price_0 13 rfl rfl)
theorem dX0_price_16 : decode cX0_price 16 = .ok (.ifCond .ne 9, 3) := dk_154 0 9 (dk_at dksX0_price_0 16 rfl rfl)
theorem dX0_price_19 : decode cX0_price 19 = .ok (.aload_n 0, 1) := dk_42 (dk_at dksX0_price_0 19 rfl rfl)
theorem dX0_price_20 : decode cX0_price 20 = .ok (.iconst 1, 1) := dk_4 (dk_at dksX0_price_0 20 rfl rfl)
theorem dX0_price_21 : decode cX0_price 21 = .ok (.invokevirtual 204, 3) := dk_182 0 204 (dk_at dksX0_price_0 21 rfl rfl)
theorem dX0_price_24 : decode cX0_price 24 = .ok (.ireturn, 1) := dk_172 (dk_at dksX0_price_1 0 rfl rfl)
theorem dX0_price_25 : decode cX0_price 25 = .ok (.aload_n 0, 1) := dk_42 (dk_at dksX0_price_1 1 rfl rfl)
theorem dX0_price_26 : decode cX0_price 26 = .ok (.getfield 73, 3) := dk_180 0 73 (dk_at dksX0_price_1 2 rfl rfl)
theorem dX0_price_29 : decode cX0_price 29 = .ok (.getfield 134, 3) := dk_180 0 134 (dk_at dksX0_price_1 5 rfl rfl)
theorem dX0_price_32 : decode cX0_price 32 = .ok (.iload_n 1, 1) := dk_27 (dk_at dksX0_price_1 8 rfl rfl)
theorem dX0_price_33 : decode cX0_price 33 = .ok (.iaload, 1) := dk_46 (dk_at dksX0_price_1 9 rfl rfl)
theorem dX0_price_34 : decode cX0_price 34 = .ok (.istore_n 3, 1) := dk_62 (dk_at dksX0_price_1 10 rfl rfl)
theorem dX0_price_35 : decode cX0_price 35 = .ok (.aload_n 0, 1) := dk_42 (dk_at dksX0_price_1 11 rfl rfl)
theorem dX0_price_36 : decode cX0_price 36 = .ok (.getfield 73, 3) := dk_180 0 73 (dk_at dksX0_price_1 12 rfl rfl)
theorem dX0_price_39 : decode cX0_price 39 = .ok (.getfield 134, 3) := dk_180 0 134 (dk_at dksX0_price_1 15 rfl rfl)
theorem dX0_price_42 : decode cX0_price 42 = .ok (.iload_n 1, 1) := dk_27 (dk_at dksX0_price_1 18 rfl rfl)
theorem dX0_price_43 : decode cX0_price 43 = .ok (.iload_n 2, 1) := dk_28 (dk_at dksX0_price_1 19 rfl rfl)
theorem dX0_price_44 : decode cX0_price 44 = .ok (.iastore, 1) := dk_79 (dk_at dksX0_price_1 20 rfl rfl)
theorem dX0_price_45 : decode cX0_price 45 = .ok (.iload_n 3, 1) := dk_29 (dk_at dksX0_price_1 21 rfl rfl)
theorem dX0_price_46 : decode cX0_price 46 = .ok (.ireturn, 1) := dk_172 (dk_at dksX0_price_1 22 rfl rfl)
abbrev cX0_keep : ByteArray := prog_1_method_30_code
def yX0_keep : MethodName := ⟨RX0, "keep", "(II)I"⟩
def dkwX0_keep_4 : List UInt8 := [29, 153, 0, 7, 4, 167, 0, 4, 3, 172]
abbrev dktX0_keep_4 : List UInt8 := dkwX0_keep_4 ++ []
def dkwX0_keep_3 : List UInt8 := [6, 182, 0, 204, 172, 42, 180, 0, 73, 180, 0, 247, 27, 28, 4, 160, 0, 7, 4, 167, 0, 4, 3, 84]
abbrev dktX0_keep_3 : List UInt8 := dkwX0_keep_3 ++ dktX0_keep_4
def dkwX0_keep_2 : List UInt8 := [180, 0, 73, 180, 0, 147, 27, 46, 182, 0, 232, 42, 180, 0, 73, 180, 0, 137, 6, 46, 161, 0, 9, 42]
abbrev dktX0_keep_2 : List UInt8 := dkwX0_keep_2 ++ dktX0_keep_3
def dkwX0_keep_1 : List UInt8 := [180, 0, 73, 180, 0, 247, 27, 51, 62, 29, 154, 0, 42, 28, 4, 160, 0, 37, 42, 180, 0, 73, 42]
abbrev dktX0_keep_1 : List UInt8 := dkwX0_keep_1 ++ dktX0_keep_2
def dkwX0_keep_0 : List UInt8 := [42, 27, 182, 0, 251, 153, 0, 12, 28, 3, 4, 184, 0, 113, 154, 0, 9, 42, 4, 182, 0, 204, 172, 42]
abbrev dktX0_keep_0 : List UInt8 := dkwX0_keep_0 ++ dktX0_keep_1
theorem dksX0_keep_0 : cX0_keep.data.toList.drop 0 = dktX0_keep_0 := by decide +kernel
theorem dksX0_keep_1 : cX0_keep.data.toList.drop 24 = dktX0_keep_1 := dk_seg dksX0_keep_0 24 rfl rfl
theorem dksX0_keep_2 : cX0_keep.data.toList.drop 47 = dktX0_keep_2 := dk_seg dksX0_keep_1 23 rfl rfl
theorem dksX0_keep_3 : cX0_keep.data.toList.drop 71 = dktX0_keep_3 := dk_seg dksX0_keep_2 24 rfl rfl
theorem dksX0_keep_4 : cX0_keep.data.toList.drop 95 = dktX0_keep_4 := dk_seg dksX0_keep_3 24 rfl rfl
theorem dX0_keep_0 : decode cX0_keep 0 = .ok (.aload_n 0, 1) := dk_42 (dk_at dksX0_keep_0 0 rfl rfl)
theorem dX0_keep_1 : decode cX0_keep 1 = .ok (.iload_n 1, 1) := dk_27 (dk_at dksX0_keep_0 1 rfl rfl)
theorem dX0_keep_2 : decode cX0_keep 2 = .ok (.invokevirtual 251, 3) := dk_182 0 251 (dk_at dksX0_keep_0 2 rfl rfl)
theorem dX0_keep_5 : decode cX0_keep 5 = .ok (.ifCond .eq 12, 3) := dk_153 0 12 (dk_at dksX0_keep_0 5 rfl rfl)
theorem dX0_keep_8 : decode cX0_keep 8 = .ok (.iload_n 2, 1) := dk_28 (dk_at dksX0_keep_0 8 rfl rfl)
theorem dX0_keep_9 : decode cX0_keep 9 = .ok (.iconst 0, 1) := dk_3 (dk_at dksX0_keep_0 9 rfl rfl)
theorem dX0_keep_10 : decode cX0_keep 10 = .ok (.iconst 1, 1) := dk_4 (dk_at dksX0_keep_0 10 rfl rfl)
theorem dX0_keep_11 : decode cX0_keep 11 = .ok (.invokestatic 113, 3) := dk_184 0 113 (dk_at dksX0_keep_0 11 rfl rfl)
theorem dX0_keep_14 : decode cX0_keep 14 = .ok (.ifCond .ne 9, 3) := dk_154 0 9 (dk_at dksX0_keep_0 14 rfl rfl)
theorem dX0_keep_17 : decode cX0_keep 17 = .ok (.aload_n 0, 1) := dk_42 (dk_at dksX0_keep_0 17 rfl rfl)
theorem dX0_keep_18 : decode cX0_keep 18 = .ok (.iconst 1, 1) := dk_4 (dk_at dksX0_keep_0 18 rfl rfl)
theorem dX0_keep_19 : decode cX0_keep 19 = .ok (.invokevirtual 204, 3) := dk_182 0 204 (dk_at dksX0_keep_0 19 rfl rfl)
theorem dX0_keep_22 : decode cX0_keep 22 = .ok (.ireturn, 1) := dk_172 (dk_at dksX0_keep_0 22 rfl rfl)
theorem dX0_keep_23 : decode cX0_keep 23 = .ok (.aload_n 0, 1) := dk_42 (dk_at dksX0_keep_0 23 rfl rfl)
theorem dX0_keep_24 : decode cX0_keep 24 = .ok (.getfield 73, 3) := dk_180 0 73 (dk_at dksX0_keep_1 0 rfl rfl)
theorem dX0_keep_27 : decode cX0_keep 27 = .ok (.getfield 247, 3) := dk_180 0 247 (dk_at dksX0_keep_1 3 rfl rfl)
theorem dX0_keep_30 : decode cX0_keep 30 = .ok (.iload_n 1, 1) := dk_27 (dk_at dksX0_keep_1 6 rfl rfl)
theorem dX0_keep_31 : decode cX0_keep 31 = .ok (.baload, 1) := dk_51 (dk_at dksX0_keep_1 7 rfl rfl)
theorem dX0_keep_32 : decode cX0_keep 32 = .ok (.istore_n 3, 1) := dk_62 (dk_at dksX0_keep_1 8 rfl rfl)
theorem dX0_keep_33 : decode cX0_keep 33 = .ok (.iload_n 3, 1) := dk_29 (dk_at dksX0_keep_1 9 rfl rfl)
theorem dX0_keep_34 : decode cX0_keep 34 = .ok (.ifCond .ne 42, 3) := dk_154 0 42 (dk_at dksX0_keep_1 10 rfl rfl)
theorem dX0_keep_37 : decode cX0_keep 37 = .ok (.iload_n 2, 1) := dk_28 (dk_at dksX0_keep_1 13 rfl rfl)
theorem dX0_keep_38 : decode cX0_keep 38 = .ok (.iconst 1, 1) := dk_4 (dk_at dksX0_keep_1 14 rfl rfl)
theorem dX0_keep_39 : decode cX0_keep 39 = .ok (.if_icmp .ne 37, 3) := dk_160 0 37 (dk_at dksX0_keep_1 15 rfl rfl)
theorem dX0_keep_42 : decode cX0_keep 42 = .ok (.aload_n 0, 1) := dk_42 (dk_at dksX0_keep_1 18 rfl rfl)
theorem dX0_keep_43 : decode cX0_keep 43 = .ok (.getfield 73, 3) := dk_180 0 73 (dk_at dksX0_keep_1 19 rfl rfl)
theorem dX0_keep_46 : decode cX0_keep 46 = .ok (.aload_n 0, 1) := dk_42 (dk_at dksX0_keep_1 22 rfl rfl)
theorem dX0_keep_47 : decode cX0_keep 47 = .ok (.getfield 73, 3) := dk_180 0 73 (dk_at dksX0_keep_2 0 rfl rfl)
theorem dX0_keep_50 : decode cX0_keep 50 = .ok (.getfield 147, 3) := dk_180 0 147 (dk_at dksX0_keep_2 3 rfl rfl)
theorem dX0_keep_53 : decode cX0_keep 53 = .ok (.iload_n 1, 1) := dk_27 (dk_at dksX0_keep_2 6 rfl rfl)
theorem dX0_keep_54 : decode cX0_keep 54 = .ok (.iaload, 1) := dk_46 (dk_at dksX0_keep_2 7 rfl rfl)
theorem dX0_keep_55 : decode cX0_keep 55 = .ok (.invokevirtual 232, 3) := dk_182 0 232 (dk_at dksX0_keep_2 8 rfl rfl)
theorem dX0_keep_58 : decode cX0_keep 58 = .ok (.aload_n 0, 1) := dk_42 (dk_at dksX0_keep_2 11 rfl rfl)
theorem dX0_keep_59 : decode cX0_keep 59 = .ok (.getfield 73, 3) := dk_180 0 73 (dk_at dksX0_keep_2 12 rfl rfl)
theorem dX0_keep_62 : decode cX0_keep 62 = .ok (.getfield 137, 3) := dk_180 0 137 (dk_at dksX0_keep_2 15 rfl rfl)
theorem dX0_keep_65 : decode cX0_keep 65 = .ok (.iconst 3, 1) := dk_6 (dk_at dksX0_keep_2 18 rfl rfl)
theorem dX0_keep_66 : decode cX0_keep 66 = .ok (.iaload, 1) := dk_46 (dk_at dksX0_keep_2 19 rfl rfl)
theorem dX0_keep_67 : decode cX0_keep 67 = .ok (.if_icmp .lt 9, 3) := dk_161 0 9 (dk_at dksX0_keep_2 20 rfl rfl)
theorem dX0_keep_70 : decode cX0_keep 70 = .ok (.aload_n 0, 1) := dk_42 (dk_at dksX0_keep_2 23 rfl rfl)
theorem dX0_keep_71 : decode cX0_keep 71 = .ok (.iconst 3, 1) := dk_6 (dk_at dksX0_keep_3 0 rfl rfl)
theorem dX0_keep_72 : decode cX0_keep 72 = .ok (.invokevirtual 204, 3) := dk_182 0 204 (dk_at dksX0_keep_3 1 rfl rfl)
theorem dX0_keep_75 : decode cX0_keep 75 = .ok (.ireturn, 1) := dk_172 (dk_at dksX0_keep_3 4 rfl rfl)
theorem dX0_keep_76 : decode cX0_keep 76 = .ok (.aload_n 0, 1) := dk_42 (dk_at dksX0_keep_3 5 rfl rfl)
theorem dX0_keep_77 : decode cX0_keep 77 = .ok (.getfield 73, 3) := dk_180 0 73 (dk_at dksX0_keep_3 6 rfl rfl)
theorem dX0_keep_80 : decode cX0_keep 80 = .ok (.getfield 247, 3) := dk_180 0 247 (dk_at dksX0_keep_3 9 rfl rfl)
theorem dX0_keep_83 : decode cX0_keep 83 = .ok (.iload_n 1, 1) := dk_27 (dk_at dksX0_keep_3 12 rfl rfl)
theorem dX0_keep_84 : decode cX0_keep 84 = .ok (.iload_n 2, 1) := dk_28 (dk_at dksX0_keep_3 13 rfl rfl)
theorem dX0_keep_85 : decode cX0_keep 85 = .ok (.iconst 1, 1) := dk_4 (dk_at dksX0_keep_3 14 rfl rfl)
theorem dX0_keep_86 : decode cX0_keep 86 = .ok (.if_icmp .ne 7, 3) := dk_160 0 7 (dk_at dksX0_keep_3 15 rfl rfl)
theorem dX0_keep_89 : decode cX0_keep 89 = .ok (.iconst 1, 1) := dk_4 (dk_at dksX0_keep_3 18 rfl rfl)
theorem dX0_keep_90 : decode cX0_keep 90 = .ok (.goto 4, 3) := dk_167 0 4 (dk_at dksX0_keep_3 19 rfl rfl)
theorem dX0_keep_93 : decode cX0_keep 93 = .ok (.iconst 0, 1) := dk_3 (dk_at dksX0_keep_3 22 rfl rfl)
theorem dX0_keep_94 : decode cX0_keep 94 = .ok (.bastore, 1) := dk_84 (dk_at dksX0_keep_3 23 rfl rfl)
theorem dX0_keep_95 : decode cX0_keep 95 = .ok (.iload_n 3, 1) := dk_29 (dk_at dksX0_keep_4 0 rfl rfl)
theorem dX0_keep_96 : decode cX0_keep 96 = .ok (.ifCond .eq 7, 3) := dk_153 0 7 (dk_at dksX0_keep_4 1 rfl rfl)
theorem dX0_keep_99 : decode cX0_keep 99 = .ok (.iconst 1, 1) := dk_4 (dk_at dksX0_keep_4 4 rfl rfl)
theorem dX0_keep_100 : decode cX0_keep 100 = .ok (.goto 4, 3) := dk_167 0 4 (dk_at dksX0_keep_4 5 rfl rfl)
theorem dX0_keep_103 : decode cX0_keep 103 = .ok (.iconst 0, 1) := dk_3 (dk_at dksX0_keep_4 8 rfl rfl)
theorem dX0_keep_104 : decode cX0_keep 104 = .ok (.ireturn, 1) := dk_172 (dk_at dksX0_keep_4 9 rfl rfl)
abbrev cX0_pair : ByteArray := prog_1_method_31_code
def yX0_pair : MethodName := ⟨RX0, "pair", "(III)I"⟩
def dkwX0_pair_5 : List UInt8 := [180, 0, 73, 180, 0, 120, 4, 100, 172]
abbrev dktX0_pair_5 : List UInt8 := dkwX0_pair_5 ++ []
def dkwX0_pair_4 : List UInt8 := [42, 180, 0, 73, 180, 0, 120, 29, 79, 42, 180, 0, 73, 89, 180, 0, 120, 4, 96, 181, 0, 120, 42]
abbrev dktX0_pair_4 : List UInt8 := dkwX0_pair_4 ++ dktX0_pair_5
def dkwX0_pair_3 : List UInt8 := [79, 42, 180, 0, 73, 180, 1, 4, 42, 180, 0, 73, 180, 0, 120, 28, 79, 42, 180, 0, 73, 180, 1, 7]
abbrev dktX0_pair_3 : List UInt8 := dkwX0_pair_3 ++ dktX0_pair_4
def dkwX0_pair_2 : List UInt8 := [160, 0, 9, 42, 7, 182, 0, 204, 172, 42, 180, 0, 73, 180, 1, 1, 42, 180, 0, 73, 180, 0, 120, 27]
abbrev dktX0_pair_2 : List UInt8 := dkwX0_pair_2 ++ dktX0_pair_3
def dkwX0_pair_1 : List UInt8 := [17, 39, 15, 184, 0, 113, 154, 0, 9, 42, 4, 182, 0, 204, 172, 42, 180, 0, 73, 180, 0, 120, 16, 6]
abbrev dktX0_pair_1 : List UInt8 := dkwX0_pair_1 ++ dktX0_pair_2
def dkwX0_pair_0 : List UInt8 := [42, 27, 182, 0, 251, 153, 0, 27, 42, 28, 182, 0, 251, 153, 0, 19, 27, 28, 159, 0, 14, 29, 3]
abbrev dktX0_pair_0 : List UInt8 := dkwX0_pair_0 ++ dktX0_pair_1
theorem dksX0_pair_0 : cX0_pair.data.toList.drop 0 = dktX0_pair_0 := by decide +kernel
theorem dksX0_pair_1 : cX0_pair.data.toList.drop 23 = dktX0_pair_1 := dk_seg dksX0_pair_0 23 rfl rfl
theorem dksX0_pair_2 : cX0_pair.data.toList.drop 47 = dktX0_pair_2 := dk_seg dksX0_pair_1 24 rfl rfl
theorem dksX0_pair_3 : cX0_pair.data.toList.drop 71 = dktX0_pair_3 := dk_seg dksX0_pair_2 24 rfl rfl
theorem dksX0_pair_4 : cX0_pair.data.toList.drop 95 = dktX0_pair_4 := dk_seg dksX0_pair_3 24 rfl rfl
theorem dksX0_pair_5 : cX0_pair.data.toList.drop 118 = dktX0_pair_5 := dk_seg dksX0_pair_4 23 rfl rfl
theorem dX0_pair_0 : decode cX0_pair 0 = .ok (.aload_n 0, 1) := dk_42 (dk_at dksX0_pair_0 0 rfl rfl)
theorem dX0_pair_1 : decode cX0_pair 1 = .ok (.iload_n 1, 1) := dk_27 (dk_at dksX0_pair_0 1 rfl rfl)
theorem dX0_pair_2 : decode cX0_pair 2 = .ok (.invokevirtual 251, 3) := dk_182 0 251 (dk_at dksX0_pair_0 2 rfl rfl)
theorem dX0_pair_5 : decode cX0_pair 5 = .ok (.ifCond .eq 27, 3) := dk_153 0 27 (dk_at dksX0_pair_0 5 rfl rfl)
theorem dX0_pair_8 : decode cX0_pair 8 = .ok (.aload_n 0, 1) := dk_42 (dk_at dksX0_pair_0 8 rfl rfl)
theorem dX0_pair_9 : decode cX0_pair 9 = .ok (.iload_n 2, 1) := dk_28 (dk_at dksX0_pair_0 9 rfl rfl)
theorem dX0_pair_10 : decode cX0_pair 10 = .ok (.invokevirtual 251, 3) := dk_182 0 251 (dk_at dksX0_pair_0 10 rfl rfl)
theorem dX0_pair_13 : decode cX0_pair 13 = .ok (.ifCond .eq 19, 3) := dk_153 0 19 (dk_at dksX0_pair_0 13 rfl rfl)
theorem dX0_pair_16 : decode cX0_pair 16 = .ok (.iload_n 1, 1) := dk_27 (dk_at dksX0_pair_0 16 rfl rfl)
theorem dX0_pair_17 : decode cX0_pair 17 = .ok (.iload_n 2, 1) := dk_28 (dk_at dksX0_pair_0 17 rfl rfl)
theorem dX0_pair_18 : decode cX0_pair 18 = .ok (.if_icmp .eq 14, 3) := dk_159 0 14 (dk_at dksX0_pair_0 18 rfl rfl)
theorem dX0_pair_21 : decode cX0_pair 21 = .ok (.iload_n 3, 1) := dk_29 (dk_at dksX0_pair_0 21 rfl rfl)
theorem dX0_pair_22 : decode cX0_pair 22 = .ok (.iconst 0, 1) := dk_3 (dk_at dksX0_pair_0 22 rfl rfl)
theorem dX0_pair_23 : decode cX0_pair 23 = .ok (.sipush 9999, 3) := dk_17 39 15 (dk_at dksX0_pair_1 0 rfl rfl)
theorem dX0_pair_26 : decode cX0_pair 26 = .ok (.invokestatic 113, 3) := dk_184 0 113 (dk_at dksX0_pair_1 3 rfl rfl)
theorem dX0_pair_29 : decode cX0_pair 29 = .ok (.ifCond .ne 9, 3) := dk_154 0 9 (dk_at dksX0_pair_1 6 rfl rfl)
theorem dX0_pair_32 : decode cX0_pair 32 = .ok (.aload_n 0, 1) := dk_42 (dk_at dksX0_pair_1 9 rfl rfl)
theorem dX0_pair_33 : decode cX0_pair 33 = .ok (.iconst 1, 1) := dk_4 (dk_at dksX0_pair_1 10 rfl rfl)
theorem dX0_pair_34 : decode cX0_pair 34 = .ok (.invokevirtual 204, 3) := dk_182 0 204 (dk_at dksX0_pair_1 11 rfl rfl)
theorem dX0_pair_37 : decode cX0_pair 37 = .ok (.ireturn, 1) := dk_172 (dk_at dksX0_pair_1 14 rfl rfl)
theorem dX0_pair_38 : decode cX0_pair 38 = .ok (.aload_n 0, 1) := dk_42 (dk_at dksX0_pair_1 15 rfl rfl)
theorem dX0_pair_39 : decode cX0_pair 39 = .ok (.getfield 73, 3) := dk_180 0 73 (dk_at dksX0_pair_1 16 rfl rfl)
theorem dX0_pair_42 : decode cX0_pair 42 = .ok (.getfield 120, 3) := dk_180 0 120 (dk_at dksX0_pair_1 19 rfl rfl)
theorem dX0_pair_45 : decode cX0_pair 45 = .ok (.bipush 6, 2) := dk_16 6 (dk_at dksX0_pair_1 22 rfl rfl)
theorem dX0_pair_47 : decode cX0_pair 47 = .ok (.if_icmp .ne 9, 3) := dk_160 0 9 (dk_at dksX0_pair_2 0 rfl rfl)
theorem dX0_pair_50 : decode cX0_pair 50 = .ok (.aload_n 0, 1) := dk_42 (dk_at dksX0_pair_2 3 rfl rfl)
theorem dX0_pair_51 : decode cX0_pair 51 = .ok (.iconst 4, 1) := dk_7 (dk_at dksX0_pair_2 4 rfl rfl)
theorem dX0_pair_52 : decode cX0_pair 52 = .ok (.invokevirtual 204, 3) := dk_182 0 204 (dk_at dksX0_pair_2 5 rfl rfl)
theorem dX0_pair_55 : decode cX0_pair 55 = .ok (.ireturn, 1) := dk_172 (dk_at dksX0_pair_2 8 rfl rfl)
theorem dX0_pair_56 : decode cX0_pair 56 = .ok (.aload_n 0, 1) := dk_42 (dk_at dksX0_pair_2 9 rfl rfl)
theorem dX0_pair_57 : decode cX0_pair 57 = .ok (.getfield 73, 3) := dk_180 0 73 (dk_at dksX0_pair_2 10 rfl rfl)
theorem dX0_pair_60 : decode cX0_pair 60 = .ok (.getfield 257, 3) := dk_180 1 1 (dk_at dksX0_pair_2 13 rfl rfl)
theorem dX0_pair_63 : decode cX0_pair 63 = .ok (.aload_n 0, 1) := dk_42 (dk_at dksX0_pair_2 16 rfl rfl)
theorem dX0_pair_64 : decode cX0_pair 64 = .ok (.getfield 73, 3) := dk_180 0 73 (dk_at dksX0_pair_2 17 rfl rfl)
theorem dX0_pair_67 : decode cX0_pair 67 = .ok (.getfield 120, 3) := dk_180 0 120 (dk_at dksX0_pair_2 20 rfl rfl)
theorem dX0_pair_70 : decode cX0_pair 70 = .ok (.iload_n 1, 1) := dk_27 (dk_at dksX0_pair_2 23 rfl rfl)
theorem dX0_pair_71 : decode cX0_pair 71 = .ok (.iastore, 1) := dk_79 (dk_at dksX0_pair_3 0 rfl rfl)
theorem dX0_pair_72 : decode cX0_pair 72 = .ok (.aload_n 0, 1) := dk_42 (dk_at dksX0_pair_3 1 rfl rfl)
theorem dX0_pair_73 : decode cX0_pair 73 = .ok (.getfield 73, 3) := dk_180 0 73 (dk_at dksX0_pair_3 2 rfl rfl)
theorem dX0_pair_76 : decode cX0_pair 76 = .ok (.getfield 260, 3) := dk_180 1 4 (dk_at dksX0_pair_3 5 rfl rfl)
theorem dX0_pair_79 : decode cX0_pair 79 = .ok (.aload_n 0, 1) := dk_42 (dk_at dksX0_pair_3 8 rfl rfl)
theorem dX0_pair_80 : decode cX0_pair 80 = .ok (.getfield 73, 3) := dk_180 0 73 (dk_at dksX0_pair_3 9 rfl rfl)
theorem dX0_pair_83 : decode cX0_pair 83 = .ok (.getfield 120, 3) := dk_180 0 120 (dk_at dksX0_pair_3 12 rfl rfl)
theorem dX0_pair_86 : decode cX0_pair 86 = .ok (.iload_n 2, 1) := dk_28 (dk_at dksX0_pair_3 15 rfl rfl)
theorem dX0_pair_87 : decode cX0_pair 87 = .ok (.iastore, 1) := dk_79 (dk_at dksX0_pair_3 16 rfl rfl)
theorem dX0_pair_88 : decode cX0_pair 88 = .ok (.aload_n 0, 1) := dk_42 (dk_at dksX0_pair_3 17 rfl rfl)
theorem dX0_pair_89 : decode cX0_pair 89 = .ok (.getfield 73, 3) := dk_180 0 73 (dk_at dksX0_pair_3 18 rfl rfl)
theorem dX0_pair_92 : decode cX0_pair 92 = .ok (.getfield 263, 3) := dk_180 1 7 (dk_at dksX0_pair_3 21 rfl rfl)
theorem dX0_pair_95 : decode cX0_pair 95 = .ok (.aload_n 0, 1) := dk_42 (dk_at dksX0_pair_4 0 rfl rfl)
theorem dX0_pair_96 : decode cX0_pair 96 = .ok (.getfield 73, 3) := dk_180 0 73 (dk_at dksX0_pair_4 1 rfl rfl)
theorem dX0_pair_99 : decode cX0_pair 99 = .ok (.getfield 120, 3) := dk_180 0 120 (dk_at dksX0_pair_4 4 rfl rfl)
theorem dX0_pair_102 : decode cX0_pair 102 = .ok (.iload_n 3, 1) := dk_29 (dk_at dksX0_pair_4 7 rfl rfl)
theorem dX0_pair_103 : decode cX0_pair 103 = .ok (.iastore, 1) := dk_79 (dk_at dksX0_pair_4 8 rfl rfl)
theorem dX0_pair_104 : decode cX0_pair 104 = .ok (.aload_n 0, 1) := dk_42 (dk_at dksX0_pair_4 9 rfl rfl)
theorem dX0_pair_105 : decode cX0_pair 105 = .ok (.getfield 73, 3) := dk_180 0 73 (dk_at dksX0_pair_4 10 rfl rfl)
theorem dX0_pair_108 : decode cX0_pair 108 = .ok (.dup, 1) := dk_89 (dk_at dksX0_pair_4 13 rfl rfl)
theorem dX0_pair_109 : decode cX0_pair 109 = .ok (.getfield 120, 3) := dk_180 0 120 (dk_at dksX0_pair_4 14 rfl rfl)
theorem dX0_pair_112 : decode cX0_pair 112 = .ok (.iconst 1, 1) := dk_4 (dk_at dksX0_pair_4 17 rfl rfl)
theorem dX0_pair_113 : decode cX0_pair 113 = .ok (.iadd, 1) := dk_96 (dk_at dksX0_pair_4 18 rfl rfl)
theorem dX0_pair_114 : decode cX0_pair 114 = .ok (.putfield 120, 3) := dk_181 0 120 (dk_at dksX0_pair_4 19 rfl rfl)
theorem dX0_pair_117 : decode cX0_pair 117 = .ok (.aload_n 0, 1) := dk_42 (dk_at dksX0_pair_4 22 rfl rfl)
theorem dX0_pair_118 : decode cX0_pair 118 = .ok (.getfield 73, 3) := dk_180 0 73 (dk_at dksX0_pair_5 0 rfl rfl)
theorem dX0_pair_121 : decode cX0_pair 121 = .ok (.getfield 120, 3) := dk_180 0 120 (dk_at dksX0_pair_5 3 rfl rfl)
theorem dX0_pair_124 : decode cX0_pair 124 = .ok (.iconst 1, 1) := dk_4 (dk_at dksX0_pair_5 6 rfl rfl)
theorem dX0_pair_125 : decode cX0_pair 125 = .ok (.isub, 1) := dk_100 (dk_at dksX0_pair_5 7 rfl rfl)
theorem dX0_pair_126 : decode cX0_pair 126 = .ok (.ireturn, 1) := dk_172 (dk_at dksX0_pair_5 8 rfl rfl)
abbrev cX0_pairIs : ByteArray := prog_1_method_32_code
def yX0_pairIs : MethodName := ⟨RX0, "pairIs", "(II)I"⟩
def dkwX0_pairIs_3 : List UInt8 := [180, 1, 7, 27, 46, 172, 42, 180, 0, 73, 27, 182, 1, 13, 172, 42, 4, 182, 0, 204, 172]
abbrev dktX0_pairIs_3 : List UInt8 := dkwX0_pairIs_3 ++ []
def dkwX0_pairIs_2 : List UInt8 := [42, 180, 0, 73, 180, 1, 1, 27, 46, 172, 42, 180, 0, 73, 180, 1, 4, 27, 46, 172, 42, 180, 0, 73]
abbrev dktX0_pairIs_2 : List UInt8 := dkwX0_pairIs_2 ++ dktX0_pairIs_3
def dkwX0_pairIs_1 : List UInt8 := [170, 0, 0, 0, 68, 0, 0, 0, 0, 0, 0, 0, 3, 0, 0, 0, 29, 0, 0, 0, 39, 0, 0, 0, 49, 0, 0, 0, 59]
abbrev dktX0_pairIs_1 : List UInt8 := dkwX0_pairIs_1 ++ dktX0_pairIs_2
def dkwX0_pairIs_0 : List UInt8 := [42, 27, 182, 1, 10, 154, 0, 9, 42, 4, 182, 0, 204, 172, 28]
abbrev dktX0_pairIs_0 : List UInt8 := dkwX0_pairIs_0 ++ dktX0_pairIs_1
theorem dksX0_pairIs_0 : cX0_pairIs.data.toList.drop 0 = dktX0_pairIs_0 := by decide +kernel
theorem dksX0_pairIs_1 : cX0_pairIs.data.toList.drop 15 = dktX0_pairIs_1 := dk_seg dksX0_pairIs_0 15 rfl rfl
theorem dksX0_pairIs_2 : cX0_pairIs.data.toList.drop 44 = dktX0_pairIs_2 := dk_seg dksX0_pairIs_1 29 rfl rfl
theorem dksX0_pairIs_3 : cX0_pairIs.data.toList.drop 68 = dktX0_pairIs_3 := dk_seg dksX0_pairIs_2 24 rfl rfl
theorem dX0_pairIs_0 : decode cX0_pairIs 0 = .ok (.aload_n 0, 1) := dk_42 (dk_at dksX0_pairIs_0 0 rfl rfl)
theorem dX0_pairIs_1 : decode cX0_pairIs 1 = .ok (.iload_n 1, 1) := dk_27 (dk_at dksX0_pairIs_0 1 rfl rfl)
theorem dX0_pairIs_2 : decode cX0_pairIs 2 = .ok (.invokevirtual 266, 3) := dk_182 1 10 (dk_at dksX0_pairIs_0 2 rfl rfl)
theorem dX0_pairIs_5 : decode cX0_pairIs 5 = .ok (.ifCond .ne 9, 3) := dk_154 0 9 (dk_at dksX0_pairIs_0 5 rfl rfl)
theorem dX0_pairIs_8 : decode cX0_pairIs 8 = .ok (.aload_n 0, 1) := dk_42 (dk_at dksX0_pairIs_0 8 rfl rfl)
theorem dX0_pairIs_9 : decode cX0_pairIs 9 = .ok (.iconst 1, 1) := dk_4 (dk_at dksX0_pairIs_0 9 rfl rfl)
theorem dX0_pairIs_10 : decode cX0_pairIs 10 = .ok (.invokevirtual 204, 3) := dk_182 0 204 (dk_at dksX0_pairIs_0 10 rfl rfl)
theorem dX0_pairIs_13 : decode cX0_pairIs 13 = .ok (.ireturn, 1) := dk_172 (dk_at dksX0_pairIs_0 13 rfl rfl)
theorem dX0_pairIs_14 : decode cX0_pairIs 14 = .ok (.iload_n 2, 1) := dk_28 (dk_at dksX0_pairIs_0 14 rfl rfl)
theorem dX0_pairIs_15 : decode cX0_pairIs 15 = .ok (.tableswitch 68 0 3 #[29, 39, 49, 59], 29) := by decide +kernel
theorem dX0_pairIs_44 : decode cX0_pairIs 44 = .ok (.aload_n 0, 1) := dk_42 (dk_at dksX0_pairIs_2 0 rfl rfl)
theorem dX0_pairIs_45 : decode cX0_pairIs 45 = .ok (.getfield 73, 3) := dk_180 0 73 (dk_at dksX0_pairIs_2 1 rfl rfl)
theorem dX0_pairIs_48 : decode cX0_pairIs 48 = .ok (.getfield 257, 3) := dk_180 1 1 (dk_at dksX0_pairIs_2 4 rfl rfl)
theorem dX0_pairIs_51 : decode cX0_pairIs 51 = .ok (.iload_n 1, 1) := dk_27 (dk_at dksX0_pairIs_2 7 rfl rfl)
theorem dX0_pairIs_52 : decode cX0_pairIs 52 = .ok (.iaload, 1) := dk_46 (dk_at dksX0_pairIs_2 8 rfl rfl)
theorem dX0_pairIs_53 : decode cX0_pairIs 53 = .ok (.ireturn, 1) := dk_172 (dk_at dksX0_pairIs_2 9 rfl rfl)
theorem dX0_pairIs_54 : decode cX0_pairIs 54 = .ok (.aload_n 0, 1) := dk_42 (dk_at dksX0_pairIs_2 10 rfl rfl)
theorem dX0_pairIs_55 : decode cX0_pairIs 55 = .ok (.getfield 73, 3) := dk_180 0 73 (dk_at dksX0_pairIs_2 11 rfl rfl)
theorem dX0_pairIs_58 : decode cX0_pairIs 58 = .ok (.getfield 260, 3) := dk_180 1 4 (dk_at dksX0_pairIs_2 14 rfl rfl)
theorem dX0_pairIs_61 : decode cX0_pairIs 61 = .ok (.iload_n 1, 1) := dk_27 (dk_at dksX0_pairIs_2 17 rfl rfl)
theorem dX0_pairIs_62 : decode cX0_pairIs 62 = .ok (.iaload, 1) := dk_46 (dk_at dksX0_pairIs_2 18 rfl rfl)
theorem dX0_pairIs_63 : decode cX0_pairIs 63 = .ok (.ireturn, 1) := dk_172 (dk_at dksX0_pairIs_2 19 rfl rfl)
theorem dX0_pairIs_64 : decode cX0_pairIs 64 = .ok (.aload_n 0, 1) := dk_42 (dk_at dksX0_pairIs_2 20 rfl rfl)
theorem dX0_pairIs_65 : decode cX0_pairIs 65 = .ok (.getfield 73, 3) := dk_180 0 73 (dk_at dksX0_pairIs_2 21 rfl rfl)
theorem dX0_pairIs_68 : decode cX0_pairIs 68 = .ok (.getfield 263, 3) := dk_180 1 7 (dk_at dksX0_pairIs_3 0 rfl rfl)
theorem dX0_pairIs_71 : decode cX0_pairIs 71 = .ok (.iload_n 1, 1) := dk_27 (dk_at dksX0_pairIs_3 3 rfl rfl)
theorem dX0_pairIs_72 : decode cX0_pairIs 72 = .ok (.iaload, 1) := dk_46 (dk_at dksX0_pairIs_3 4 rfl rfl)
theorem dX0_pairIs_73 : decode cX0_pairIs 73 = .ok (.ireturn, 1) := dk_172 (dk_at dksX0_pairIs_3 5 rfl rfl)
theorem dX0_pairIs_74 : decode cX0_pairIs 74 = .ok (.aload_n 0, 1) := dk_42 (dk_at dksX0_pairIs_3 6 rfl rfl)
theorem dX0_pairIs_75 : decode cX0_pairIs 75 = .ok (.getfield 73, 3) := dk_180 0 73 (dk_at dksX0_pairIs_3 7 rfl rfl)
theorem dX0_pairIs_78 : decode cX0_pairIs 78 = .ok (.iload_n 1, 1) := dk_27 (dk_at dksX0_pairIs_3 10 rfl rfl)
theorem dX0_pairIs_79 : decode cX0_pairIs 79 = .ok (.invokevirtual 269, 3) := dk_182 1 13 (dk_at dksX0_pairIs_3 11 rfl rfl)
theorem dX0_pairIs_82 : decode cX0_pairIs 82 = .ok (.ireturn, 1) := dk_172 (dk_at dksX0_pairIs_3 14 rfl rfl)
theorem dX0_pairIs_83 : decode cX0_pairIs 83 = .ok (.aload_n 0, 1) := dk_42 (dk_at dksX0_pairIs_3 15 rfl rfl)
theorem dX0_pairIs_84 : decode cX0_pairIs 84 = .ok (.iconst 1, 1) := dk_4 (dk_at dksX0_pairIs_3 16 rfl rfl)
theorem dX0_pairIs_85 : decode cX0_pairIs 85 = .ok (.invokevirtual 204, 3) := dk_182 0 204 (dk_at dksX0_pairIs_3 17 rfl rfl)
theorem dX0_pairIs_88 : decode cX0_pairIs 88 = .ok (.ireturn, 1) := dk_172 (dk_at dksX0_pairIs_3 20 rfl rfl)
abbrev cX0_isPair : ByteArray := prog_1_method_12_code
def yX0_isPair : MethodName := ⟨RX0, "isPair", "(I)Z"⟩
def dkwX0_isPair_0 : List UInt8 := [27, 3, 42, 180, 0, 73, 180, 0, 120, 4, 100, 184, 0, 113, 172]
abbrev dktX0_isPair_0 : List UInt8 := dkwX0_isPair_0 ++ []
theorem dksX0_isPair_0 : cX0_isPair.data.toList.drop 0 = dktX0_isPair_0 := by decide +kernel
theorem dX0_isPair_0 : decode cX0_isPair 0 = .ok (.iload_n 1, 1) := dk_27 (dk_at dksX0_isPair_0 0 rfl rfl)
theorem dX0_isPair_1 : decode cX0_isPair 1 = .ok (.iconst 0, 1) := dk_3 (dk_at dksX0_isPair_0 1 rfl rfl)
theorem dX0_isPair_2 : decode cX0_isPair 2 = .ok (.aload_n 0, 1) := dk_42 (dk_at dksX0_isPair_0 2 rfl rfl)
theorem dX0_isPair_3 : decode cX0_isPair 3 = .ok (.getfield 73, 3) := dk_180 0 73 (dk_at dksX0_isPair_0 3 rfl rfl)
theorem dX0_isPair_6 : decode cX0_isPair 6 = .ok (.getfield 120, 3) := dk_180 0 120 (dk_at dksX0_isPair_0 6 rfl rfl)
theorem dX0_isPair_9 : decode cX0_isPair 9 = .ok (.iconst 1, 1) := dk_4 (dk_at dksX0_isPair_0 9 rfl rfl)
theorem dX0_isPair_10 : decode cX0_isPair 10 = .ok (.isub, 1) := dk_100 (dk_at dksX0_isPair_0 10 rfl rfl)
theorem dX0_isPair_11 : decode cX0_isPair 11 = .ok (.invokestatic 113, 3) := dk_184 0 113 (dk_at dksX0_isPair_0 11 rfl rfl)
theorem dX0_isPair_14 : decode cX0_isPair 14 = .ok (.ireturn, 1) := dk_172 (dk_at dksX0_isPair_0 14 rfl rfl)
abbrev cX0_rule : ByteArray := prog_1_method_34_code
def yX0_rule : MethodName := ⟨RX0, "rule", "(II)I"⟩
def dkwX0_rule_2 : List UInt8 := [29, 172]
abbrev dktX0_rule_2 : List UInt8 := dkwX0_rule_2 ++ []
def dkwX0_rule_1 : List UInt8 := [182, 0, 204, 172, 42, 180, 0, 73, 180, 0, 137, 27, 46, 62, 42, 180, 0, 73, 180, 0, 137, 27, 28, 79]
abbrev dktX0_rule_1 : List UInt8 := dkwX0_rule_1 ++ dktX0_rule_2
def dkwX0_rule_0 : List UInt8 := [27, 3, 7, 184, 0, 113, 153, 0, 15, 28, 3, 27, 184, 1, 16, 184, 0, 113, 154, 0, 9, 42, 4]
abbrev dktX0_rule_0 : List UInt8 := dkwX0_rule_0 ++ dktX0_rule_1
theorem dksX0_rule_0 : cX0_rule.data.toList.drop 0 = dktX0_rule_0 := by decide +kernel
theorem dksX0_rule_1 : cX0_rule.data.toList.drop 23 = dktX0_rule_1 := dk_seg dksX0_rule_0 23 rfl rfl
theorem dksX0_rule_2 : cX0_rule.data.toList.drop 47 = dktX0_rule_2 := dk_seg dksX0_rule_1 24 rfl rfl
theorem dX0_rule_0 : decode cX0_rule 0 = .ok (.iload_n 1, 1) := dk_27 (dk_at dksX0_rule_0 0 rfl rfl)
theorem dX0_rule_1 : decode cX0_rule 1 = .ok (.iconst 0, 1) := dk_3 (dk_at dksX0_rule_0 1 rfl rfl)
theorem dX0_rule_2 : decode cX0_rule 2 = .ok (.iconst 4, 1) := dk_7 (dk_at dksX0_rule_0 2 rfl rfl)
theorem dX0_rule_3 : decode cX0_rule 3 = .ok (.invokestatic 113, 3) := dk_184 0 113 (dk_at dksX0_rule_0 3 rfl rfl)
theorem dX0_rule_6 : decode cX0_rule 6 = .ok (.ifCond .eq 15, 3) := dk_153 0 15 (dk_at dksX0_rule_0 6 rfl rfl)
theorem dX0_rule_9 : decode cX0_rule 9 = .ok (.iload_n 2, 1) := dk_28 (dk_at dksX0_rule_0 9 rfl rfl)
theorem dX0_rule_10 : decode cX0_rule 10 = .ok (.iconst 0, 1) := dk_3 (dk_at dksX0_rule_0 10 rfl rfl)
theorem dX0_rule_11 : decode cX0_rule 11 = .ok (.iload_n 1, 1) := dk_27 (dk_at dksX0_rule_0 11 rfl rfl)
theorem dX0_rule_12 : decode cX0_rule 12 = .ok (.invokestatic 272, 3) := dk_184 1 16 (dk_at dksX0_rule_0 12 rfl rfl)
theorem dX0_rule_15 : decode cX0_rule 15 = .ok (.invokestatic 113, 3) := dk_184 0 113 (dk_at dksX0_rule_0 15 rfl rfl)
theorem dX0_rule_18 : decode cX0_rule 18 = .ok (.ifCond .ne 9, 3) := dk_154 0 9 (dk_at dksX0_rule_0 18 rfl rfl)
theorem dX0_rule_21 : decode cX0_rule 21 = .ok (.aload_n 0, 1) := dk_42 (dk_at dksX0_rule_0 21 rfl rfl)
theorem dX0_rule_22 : decode cX0_rule 22 = .ok (.iconst 1, 1) := dk_4 (dk_at dksX0_rule_0 22 rfl rfl)
theorem dX0_rule_23 : decode cX0_rule 23 = .ok (.invokevirtual 204, 3) := dk_182 0 204 (dk_at dksX0_rule_1 0 rfl rfl)
theorem dX0_rule_26 : decode cX0_rule 26 = .ok (.ireturn, 1) := dk_172 (dk_at dksX0_rule_1 3 rfl rfl)
theorem dX0_rule_27 : decode cX0_rule 27 = .ok (.aload_n 0, 1) := dk_42 (dk_at dksX0_rule_1 4 rfl rfl)
theorem dX0_rule_28 : decode cX0_rule 28 = .ok (.getfield 73, 3) := dk_180 0 73 (dk_at dksX0_rule_1 5 rfl rfl)
theorem dX0_rule_31 : decode cX0_rule 31 = .ok (.getfield 137, 3) := dk_180 0 137 (dk_at dksX0_rule_1 8 rfl rfl)
theorem dX0_rule_34 : decode cX0_rule 34 = .ok (.iload_n 1, 1) := dk_27 (dk_at dksX0_rule_1 11 rfl rfl)
theorem dX0_rule_35 : decode cX0_rule 35 = .ok (.iaload, 1) := dk_46 (dk_at dksX0_rule_1 12 rfl rfl)
theorem dX0_rule_36 : decode cX0_rule 36 = .ok (.istore_n 3, 1) := dk_62 (dk_at dksX0_rule_1 13 rfl rfl)
theorem dX0_rule_37 : decode cX0_rule 37 = .ok (.aload_n 0, 1) := dk_42 (dk_at dksX0_rule_1 14 rfl rfl)
theorem dX0_rule_38 : decode cX0_rule 38 = .ok (.getfield 73, 3) := dk_180 0 73 (dk_at dksX0_rule_1 15 rfl rfl)
theorem dX0_rule_41 : decode cX0_rule 41 = .ok (.getfield 137, 3) := dk_180 0 137 (dk_at dksX0_rule_1 18 rfl rfl)
theorem dX0_rule_44 : decode cX0_rule 44 = .ok (.iload_n 1, 1) := dk_27 (dk_at dksX0_rule_1 21 rfl rfl)
theorem dX0_rule_45 : decode cX0_rule 45 = .ok (.iload_n 2, 1) := dk_28 (dk_at dksX0_rule_1 22 rfl rfl)
theorem dX0_rule_46 : decode cX0_rule 46 = .ok (.iastore, 1) := dk_79 (dk_at dksX0_rule_1 23 rfl rfl)
theorem dX0_rule_47 : decode cX0_rule 47 = .ok (.iload_n 3, 1) := dk_29 (dk_at dksX0_rule_2 0 rfl rfl)
theorem dX0_rule_48 : decode cX0_rule 48 = .ok (.ireturn, 1) := dk_172 (dk_at dksX0_rule_2 1 rfl rfl)
abbrev cX0_mostOf : ByteArray := prog_1_method_33_code
def yX0_mostOf : MethodName := ⟨RX0, "mostOf", "(I)I"⟩
def dkwX0_mostOf_2 : List UInt8 := [5, 172, 16, 9, 172, 17, 3, 231, 172, 16, 99, 172]
abbrev dktX0_mostOf_2 : List UInt8 := dkwX0_mostOf_2 ++ []
def dkwX0_mostOf_1 : List UInt8 := [170, 0, 0, 0, 0, 0, 36, 0, 0, 0, 2, 0, 0, 0, 4, 0, 0, 0, 27, 0, 0, 0, 29, 0, 0, 0, 32]
abbrev dktX0_mostOf_1 : List UInt8 := dkwX0_mostOf_1 ++ dktX0_mostOf_2
def dkwX0_mostOf_0 : List UInt8 := [26]
abbrev dktX0_mostOf_0 : List UInt8 := dkwX0_mostOf_0 ++ dktX0_mostOf_1
theorem dksX0_mostOf_0 : cX0_mostOf.data.toList.drop 0 = dktX0_mostOf_0 := by decide +kernel
theorem dksX0_mostOf_1 : cX0_mostOf.data.toList.drop 1 = dktX0_mostOf_1 := dk_seg dksX0_mostOf_0 1 rfl rfl
theorem dksX0_mostOf_2 : cX0_mostOf.data.toList.drop 28 = dktX0_mostOf_2 := dk_seg dksX0_mostOf_1 27 rfl rfl
theorem dX0_mostOf_0 : decode cX0_mostOf 0 = .ok (.iload_n 0, 1) := dk_26 (dk_at dksX0_mostOf_0 0 rfl rfl)
theorem dX0_mostOf_1 : decode cX0_mostOf 1 = .ok (.tableswitch 36 2 4 #[27, 29, 32], 27) := by decide +kernel
theorem dX0_mostOf_28 : decode cX0_mostOf 28 = .ok (.iconst 2, 1) := dk_5 (dk_at dksX0_mostOf_2 0 rfl rfl)
theorem dX0_mostOf_29 : decode cX0_mostOf 29 = .ok (.ireturn, 1) := dk_172 (dk_at dksX0_mostOf_2 1 rfl rfl)
theorem dX0_mostOf_30 : decode cX0_mostOf 30 = .ok (.bipush 9, 2) := dk_16 9 (dk_at dksX0_mostOf_2 2 rfl rfl)
theorem dX0_mostOf_32 : decode cX0_mostOf 32 = .ok (.ireturn, 1) := dk_172 (dk_at dksX0_mostOf_2 4 rfl rfl)
theorem dX0_mostOf_33 : decode cX0_mostOf 33 = .ok (.sipush 999, 3) := dk_17 3 231 (dk_at dksX0_mostOf_2 5 rfl rfl)
theorem dX0_mostOf_36 : decode cX0_mostOf 36 = .ok (.ireturn, 1) := dk_172 (dk_at dksX0_mostOf_2 8 rfl rfl)
theorem dX0_mostOf_37 : decode cX0_mostOf 37 = .ok (.bipush 99, 2) := dk_16 99 (dk_at dksX0_mostOf_2 9 rfl rfl)
theorem dX0_mostOf_39 : decode cX0_mostOf 39 = .ok (.ireturn, 1) := dk_172 (dk_at dksX0_mostOf_2 11 rfl rfl)
abbrev cX0_feed : ByteArray := prog_1_method_35_code
def yX0_feed : MethodName := ⟨RX0, "feed", "(JI)I"⟩
def dkwX0_feed_4 : List UInt8 := [180, 1, 19, 172]
abbrev dktX0_feed_4 : List UInt8 := dkwX0_feed_4 ++ []
def dkwX0_feed_3 : List UInt8 := [180, 0, 73, 89, 180, 1, 19, 4, 96, 181, 1, 19, 132, 4, 1, 167, 255, 210, 42, 180, 0, 73]
abbrev dktX0_feed_3 : List UInt8 := dkwX0_feed_3 ++ dktX0_feed_4
def dkwX0_feed_2 : List UInt8 := [180, 0, 73, 180, 1, 22, 42, 180, 0, 73, 180, 1, 19, 31, 16, 8, 21, 4, 104, 123, 136, 145, 84, 42]
abbrev dktX0_feed_2 : List UInt8 := dkwX0_feed_2 ++ dktX0_feed_3
def dkwX0_feed_1 : List UInt8 := [96, 16, 60, 164, 0, 9, 42, 7, 182, 0, 204, 172, 3, 54, 4, 21, 4, 29, 162, 0, 46, 42]
abbrev dktX0_feed_1 : List UInt8 := dkwX0_feed_1 ++ dktX0_feed_2
def dkwX0_feed_0 : List UInt8 := [29, 4, 16, 8, 184, 0, 113, 154, 0, 9, 42, 4, 182, 0, 204, 172, 42, 180, 0, 73, 180, 1, 19, 29]
abbrev dktX0_feed_0 : List UInt8 := dkwX0_feed_0 ++ dktX0_feed_1
theorem dksX0_feed_0 : cX0_feed.data.toList.drop 0 = dktX0_feed_0 := by decide +kernel
theorem dksX0_feed_1 : cX0_feed.data.toList.drop 24 = dktX0_feed_1 := dk_seg dksX0_feed_0 24 rfl rfl
theorem dksX0_feed_2 : cX0_feed.data.toList.drop 46 = dktX0_feed_2 := dk_seg dksX0_feed_1 22 rfl rfl
theorem dksX0_feed_3 : cX0_feed.data.toList.drop 70 = dktX0_feed_3 := dk_seg dksX0_feed_2 24 rfl rfl
theorem dksX0_feed_4 : cX0_feed.data.toList.drop 92 = dktX0_feed_4 := dk_seg dksX0_feed_3 22 rfl rfl
theorem dX0_feed_0 : decode cX0_feed 0 = .ok (.iload_n 3, 1) := dk_29 (dk_at dksX0_feed_0 0 rfl rfl)
theorem dX0_feed_1 : decode cX0_feed 1 = .ok (.iconst 1, 1) := dk_4 (dk_at dksX0_feed_0 1 rfl rfl)
theorem dX0_feed_2 : decode cX0_feed 2 = .ok (.bipush 8, 2) := dk_16 8 (dk_at dksX0_feed_0 2 rfl rfl)
theorem dX0_feed_4 : decode cX0_feed 4 = .ok (.invokestatic 113, 3) := dk_184 0 113 (dk_at dksX0_feed_0 4 rfl rfl)
theorem dX0_feed_7 : decode cX0_feed 7 = .ok (.ifCond .ne 9, 3) := dk_154 0 9 (dk_at dksX0_feed_0 7 rfl rfl)
theorem dX0_feed_10 : decode cX0_feed 10 = .ok (.aload_n 0, 1) := dk_42 (dk_at dksX0_feed_0 10 rfl rfl)
theorem dX0_feed_11 : decode cX0_feed 11 = .ok (.iconst 1, 1) := dk_4 (dk_at dksX0_feed_0 11 rfl rfl)
theorem dX0_feed_12 : decode cX0_feed 12 = .ok (.invokevirtual 204, 3) := dk_182 0 204 (dk_at dksX0_feed_0 12 rfl rfl)
theorem dX0_feed_15 : decode cX0_feed 15 = .ok (.ireturn, 1) := dk_172 (dk_at dksX0_feed_0 15 rfl rfl)
theorem dX0_feed_16 : decode cX0_feed 16 = .ok (.aload_n 0, 1) := dk_42 (dk_at dksX0_feed_0 16 rfl rfl)
theorem dX0_feed_17 : decode cX0_feed 17 = .ok (.getfield 73, 3) := dk_180 0 73 (dk_at dksX0_feed_0 17 rfl rfl)
theorem dX0_feed_20 : decode cX0_feed 20 = .ok (.getfield 275, 3) := dk_180 1 19 (dk_at dksX0_feed_0 20 rfl rfl)
theorem dX0_feed_23 : decode cX0_feed 23 = .ok (.iload_n 3, 1) := dk_29 (dk_at dksX0_feed_0 23 rfl rfl)
theorem dX0_feed_24 : decode cX0_feed 24 = .ok (.iadd, 1) := dk_96 (dk_at dksX0_feed_1 0 rfl rfl)
theorem dX0_feed_25 : decode cX0_feed 25 = .ok (.bipush 60, 2) := dk_16 60 (dk_at dksX0_feed_1 1 rfl rfl)
theorem dX0_feed_27 : decode cX0_feed 27 = .ok (.if_icmp .le 9, 3) := dk_164 0 9 (dk_at dksX0_feed_1 3 rfl rfl)
theorem dX0_feed_30 : decode cX0_feed 30 = .ok (.aload_n 0, 1) := dk_42 (dk_at dksX0_feed_1 6 rfl rfl)
theorem dX0_feed_31 : decode cX0_feed 31 = .ok (.iconst 4, 1) := dk_7 (dk_at dksX0_feed_1 7 rfl rfl)
theorem dX0_feed_32 : decode cX0_feed 32 = .ok (.invokevirtual 204, 3) := dk_182 0 204 (dk_at dksX0_feed_1 8 rfl rfl)
theorem dX0_feed_35 : decode cX0_feed 35 = .ok (.ireturn, 1) := dk_172 (dk_at dksX0_feed_1 11 rfl rfl)
theorem dX0_feed_36 : decode cX0_feed 36 = .ok (.iconst 0, 1) := dk_3 (dk_at dksX0_feed_1 12 rfl rfl)
theorem dX0_feed_37 : decode cX0_feed 37 = .ok (.istore 4, 2) := dk_54 4 (dk_at dksX0_feed_1 13 rfl rfl)
theorem dX0_feed_39 : decode cX0_feed 39 = .ok (.iload 4, 2) := dk_21 4 (dk_at dksX0_feed_1 15 rfl rfl)
theorem dX0_feed_41 : decode cX0_feed 41 = .ok (.iload_n 3, 1) := dk_29 (dk_at dksX0_feed_1 17 rfl rfl)
theorem dX0_feed_42 : decode cX0_feed 42 = .ok (.if_icmp .ge 46, 3) := dk_162 0 46 (dk_at dksX0_feed_1 18 rfl rfl)
theorem dX0_feed_45 : decode cX0_feed 45 = .ok (.aload_n 0, 1) := dk_42 (dk_at dksX0_feed_1 21 rfl rfl)
theorem dX0_feed_46 : decode cX0_feed 46 = .ok (.getfield 73, 3) := dk_180 0 73 (dk_at dksX0_feed_2 0 rfl rfl)
theorem dX0_feed_49 : decode cX0_feed 49 = .ok (.getfield 278, 3) := dk_180 1 22 (dk_at dksX0_feed_2 3 rfl rfl)
theorem dX0_feed_52 : decode cX0_feed 52 = .ok (.aload_n 0, 1) := dk_42 (dk_at dksX0_feed_2 6 rfl rfl)
theorem dX0_feed_53 : decode cX0_feed 53 = .ok (.getfield 73, 3) := dk_180 0 73 (dk_at dksX0_feed_2 7 rfl rfl)
theorem dX0_feed_56 : decode cX0_feed 56 = .ok (.getfield 275, 3) := dk_180 1 19 (dk_at dksX0_feed_2 10 rfl rfl)
theorem dX0_feed_59 : decode cX0_feed 59 = .ok (.lload_n 1, 1) := dk_31 (dk_at dksX0_feed_2 13 rfl rfl)
theorem dX0_feed_60 : decode cX0_feed 60 = .ok (.bipush 8, 2) := dk_16 8 (dk_at dksX0_feed_2 14 rfl rfl)
theorem dX0_feed_62 : decode cX0_feed 62 = .ok (.iload 4, 2) := dk_21 4 (dk_at dksX0_feed_2 16 rfl rfl)
theorem dX0_feed_64 : decode cX0_feed 64 = .ok (.imul, 1) := dk_104 (dk_at dksX0_feed_2 18 rfl rfl)
theorem dX0_feed_65 : decode cX0_feed 65 = .ok (.lshr, 1) := dk_123 (dk_at dksX0_feed_2 19 rfl rfl)
theorem dX0_feed_66 : decode cX0_feed 66 = .ok (.l2i, 1) := dk_136 (dk_at dksX0_feed_2 20 rfl rfl)
theorem dX0_feed_67 : decode cX0_feed 67 = .ok (.i2b, 1) := dk_145 (dk_at dksX0_feed_2 21 rfl rfl)
theorem dX0_feed_68 : decode cX0_feed 68 = .ok (.bastore, 1) := dk_84 (dk_at dksX0_feed_2 22 rfl rfl)
theorem dX0_feed_69 : decode cX0_feed 69 = .ok (.aload_n 0, 1) := dk_42 (dk_at dksX0_feed_2 23 rfl rfl)
theorem dX0_feed_70 : decode cX0_feed 70 = .ok (.getfield 73, 3) := dk_180 0 73 (dk_at dksX0_feed_3 0 rfl rfl)
theorem dX0_feed_73 : decode cX0_feed 73 = .ok (.dup, 1) := dk_89 (dk_at dksX0_feed_3 3 rfl rfl)
theorem dX0_feed_74 : decode cX0_feed 74 = .ok (.getfield 275, 3) := dk_180 1 19 (dk_at dksX0_feed_3 4 rfl rfl)
theorem dX0_feed_77 : decode cX0_feed 77 = .ok (.iconst 1, 1) := dk_4 (dk_at dksX0_feed_3 7 rfl rfl)
theorem dX0_feed_78 : decode cX0_feed 78 = .ok (.iadd, 1) := dk_96 (dk_at dksX0_feed_3 8 rfl rfl)
theorem dX0_feed_79 : decode cX0_feed 79 = .ok (.putfield 275, 3) := dk_181 1 19 (dk_at dksX0_feed_3 9 rfl rfl)
theorem dX0_feed_82 : decode cX0_feed 82 = .ok (.iinc 4 1, 3) := dk_132 4 1 (dk_at dksX0_feed_3 12 rfl rfl)
theorem dX0_feed_85 : decode cX0_feed 85 = .ok (.goto (-46), 3) := dk_167 255 210 (dk_at dksX0_feed_3 15 rfl rfl)
theorem dX0_feed_88 : decode cX0_feed 88 = .ok (.aload_n 0, 1) := dk_42 (dk_at dksX0_feed_3 18 rfl rfl)
theorem dX0_feed_89 : decode cX0_feed 89 = .ok (.getfield 73, 3) := dk_180 0 73 (dk_at dksX0_feed_3 19 rfl rfl)
theorem dX0_feed_92 : decode cX0_feed 92 = .ok (.getfield 275, 3) := dk_180 1 19 (dk_at dksX0_feed_4 0 rfl rfl)
theorem dX0_feed_95 : decode cX0_feed 95 = .ok (.ireturn, 1) := dk_172 (dk_at dksX0_feed_4 3 rfl rfl)
abbrev cX0_text : ByteArray := prog_1_method_37_code
def yX0_text : MethodName := ⟨RX0, "text", "(I)I"⟩
def dkwX0_text_4 : List UInt8 := [25, 5, 191]
abbrev dktX0_text_4 : List UInt8 := dkwX0_text_4 ++ []
def dkwX0_text_3 : List UInt8 := [54, 4, 42, 180, 0, 73, 3, 181, 1, 19, 21, 4, 172, 58, 5, 42, 180, 0, 73, 3, 181, 1, 19]
abbrev dktX0_text_3 : List UInt8 := dkwX0_text_3 ++ dktX0_text_4
def dkwX0_text_2 : List UInt8 := [182, 1, 37, 83, 4, 62, 42, 180, 0, 73, 3, 181, 1, 19, 29, 172, 78, 16, 246, 45, 180, 1, 43, 100]
abbrev dktX0_text_2 : List UInt8 := dkwX0_text_2 ++ dktX0_text_3
def dkwX0_text_1 : List UInt8 := [42, 180, 0, 73, 180, 1, 19, 27, 184, 1, 30, 183, 1, 34, 77, 42, 180, 0, 73, 180, 0, 123, 27, 44]
abbrev dktX0_text_1 : List UInt8 := dkwX0_text_1 ++ dktX0_text_2
def dkwX0_text_0 : List UInt8 := [27, 184, 1, 25, 154, 0, 9, 42, 4, 182, 0, 204, 172, 187, 1, 28, 89, 42, 180, 0, 73, 180, 1, 22]
abbrev dktX0_text_0 : List UInt8 := dkwX0_text_0 ++ dktX0_text_1
theorem dksX0_text_0 : cX0_text.data.toList.drop 0 = dktX0_text_0 := by decide +kernel
theorem dksX0_text_1 : cX0_text.data.toList.drop 24 = dktX0_text_1 := dk_seg dksX0_text_0 24 rfl rfl
theorem dksX0_text_2 : cX0_text.data.toList.drop 48 = dktX0_text_2 := dk_seg dksX0_text_1 24 rfl rfl
theorem dksX0_text_3 : cX0_text.data.toList.drop 72 = dktX0_text_3 := dk_seg dksX0_text_2 24 rfl rfl
theorem dksX0_text_4 : cX0_text.data.toList.drop 95 = dktX0_text_4 := dk_seg dksX0_text_3 23 rfl rfl
theorem dX0_text_0 : decode cX0_text 0 = .ok (.iload_n 1, 1) := dk_27 (dk_at dksX0_text_0 0 rfl rfl)
theorem dX0_text_1 : decode cX0_text 1 = .ok (.invokestatic 281, 3) := dk_184 1 25 (dk_at dksX0_text_0 1 rfl rfl)
theorem dX0_text_4 : decode cX0_text 4 = .ok (.ifCond .ne 9, 3) := dk_154 0 9 (dk_at dksX0_text_0 4 rfl rfl)
theorem dX0_text_7 : decode cX0_text 7 = .ok (.aload_n 0, 1) := dk_42 (dk_at dksX0_text_0 7 rfl rfl)
theorem dX0_text_8 : decode cX0_text 8 = .ok (.iconst 1, 1) := dk_4 (dk_at dksX0_text_0 8 rfl rfl)
theorem dX0_text_9 : decode cX0_text 9 = .ok (.invokevirtual 204, 3) := dk_182 0 204 (dk_at dksX0_text_0 9 rfl rfl)
theorem dX0_text_12 : decode cX0_text 12 = .ok (.ireturn, 1) := dk_172 (dk_at dksX0_text_0 12 rfl rfl)
theorem dX0_text_13 : decode cX0_text 13 = .ok (.new 284, 3) := dk_187 1 28 (dk_at dksX0_text_0 13 rfl rfl)
theorem dX0_text_16 : decode cX0_text 16 = .ok (.dup, 1) := dk_89 (dk_at dksX0_text_0 16 rfl rfl)
theorem dX0_text_17 : decode cX0_text 17 = .ok (.aload_n 0, 1) := dk_42 (dk_at dksX0_text_0 17 rfl rfl)
theorem dX0_text_18 : decode cX0_text 18 = .ok (.getfield 73, 3) := dk_180 0 73 (dk_at dksX0_text_0 18 rfl rfl)
theorem dX0_text_21 : decode cX0_text 21 = .ok (.getfield 278, 3) := dk_180 1 22 (dk_at dksX0_text_0 21 rfl rfl)
theorem dX0_text_24 : decode cX0_text 24 = .ok (.aload_n 0, 1) := dk_42 (dk_at dksX0_text_1 0 rfl rfl)
theorem dX0_text_25 : decode cX0_text 25 = .ok (.getfield 73, 3) := dk_180 0 73 (dk_at dksX0_text_1 1 rfl rfl)
theorem dX0_text_28 : decode cX0_text 28 = .ok (.getfield 275, 3) := dk_180 1 19 (dk_at dksX0_text_1 4 rfl rfl)
theorem dX0_text_31 : decode cX0_text 31 = .ok (.iload_n 1, 1) := dk_27 (dk_at dksX0_text_1 7 rfl rfl)
theorem dX0_text_32 : decode cX0_text 32 = .ok (.invokestatic 286, 3) := dk_184 1 30 (dk_at dksX0_text_1 8 rfl rfl)
theorem dX0_text_35 : decode cX0_text 35 = .ok (.invokespecial 290, 3) := dk_183 1 34 (dk_at dksX0_text_1 11 rfl rfl)
theorem dX0_text_38 : decode cX0_text 38 = .ok (.astore_n 2, 1) := dk_77 (dk_at dksX0_text_1 14 rfl rfl)
theorem dX0_text_39 : decode cX0_text 39 = .ok (.aload_n 0, 1) := dk_42 (dk_at dksX0_text_1 15 rfl rfl)
theorem dX0_text_40 : decode cX0_text 40 = .ok (.getfield 73, 3) := dk_180 0 73 (dk_at dksX0_text_1 16 rfl rfl)
theorem dX0_text_43 : decode cX0_text 43 = .ok (.getfield 123, 3) := dk_180 0 123 (dk_at dksX0_text_1 19 rfl rfl)
theorem dX0_text_46 : decode cX0_text 46 = .ok (.iload_n 1, 1) := dk_27 (dk_at dksX0_text_1 22 rfl rfl)
theorem dX0_text_47 : decode cX0_text 47 = .ok (.aload_n 2, 1) := dk_44 (dk_at dksX0_text_1 23 rfl rfl)
theorem dX0_text_48 : decode cX0_text 48 = .ok (.invokevirtual 293, 3) := dk_182 1 37 (dk_at dksX0_text_2 0 rfl rfl)
theorem dX0_text_51 : decode cX0_text 51 = .ok (.aastore, 1) := dk_83 (dk_at dksX0_text_2 3 rfl rfl)
theorem dX0_text_52 : decode cX0_text 52 = .ok (.iconst 1, 1) := dk_4 (dk_at dksX0_text_2 4 rfl rfl)
theorem dX0_text_53 : decode cX0_text 53 = .ok (.istore_n 3, 1) := dk_62 (dk_at dksX0_text_2 5 rfl rfl)
theorem dX0_text_54 : decode cX0_text 54 = .ok (.aload_n 0, 1) := dk_42 (dk_at dksX0_text_2 6 rfl rfl)
theorem dX0_text_55 : decode cX0_text 55 = .ok (.getfield 73, 3) := dk_180 0 73 (dk_at dksX0_text_2 7 rfl rfl)
theorem dX0_text_58 : decode cX0_text 58 = .ok (.iconst 0, 1) := dk_3 (dk_at dksX0_text_2 10 rfl rfl)
theorem dX0_text_59 : decode cX0_text 59 = .ok (.putfield 275, 3) := dk_181 1 19 (dk_at dksX0_text_2 11 rfl rfl)
theorem dX0_text_62 : decode cX0_text 62 = .ok (.iload_n 3, 1) := dk_29 (dk_at dksX0_text_2 14 rfl rfl)
theorem dX0_text_63 : decode cX0_text 63 = .ok (.ireturn, 1) := dk_172 (dk_at dksX0_text_2 15 rfl rfl)
theorem dX0_text_64 : decode cX0_text 64 = .ok (.astore_n 3, 1) := dk_78 (dk_at dksX0_text_2 16 rfl rfl)
theorem dX0_text_65 : decode cX0_text 65 = .ok (.bipush (-10), 2) := dk_16 246 (dk_at dksX0_text_2 17 rfl rfl)
theorem dX0_text_67 : decode cX0_text 67 = .ok (.aload_n 3, 1) := dk_45 (dk_at dksX0_text_2 19 rfl rfl)
theorem dX0_text_68 : decode cX0_text 68 = .ok (.getfield 299, 3) := dk_180 1 43 (dk_at dksX0_text_2 20 rfl rfl)
theorem dX0_text_71 : decode cX0_text 71 = .ok (.isub, 1) := dk_100 (dk_at dksX0_text_2 23 rfl rfl)
theorem dX0_text_72 : decode cX0_text 72 = .ok (.istore 4, 2) := dk_54 4 (dk_at dksX0_text_3 0 rfl rfl)
theorem dX0_text_74 : decode cX0_text 74 = .ok (.aload_n 0, 1) := dk_42 (dk_at dksX0_text_3 2 rfl rfl)
theorem dX0_text_75 : decode cX0_text 75 = .ok (.getfield 73, 3) := dk_180 0 73 (dk_at dksX0_text_3 3 rfl rfl)
theorem dX0_text_78 : decode cX0_text 78 = .ok (.iconst 0, 1) := dk_3 (dk_at dksX0_text_3 6 rfl rfl)
theorem dX0_text_79 : decode cX0_text 79 = .ok (.putfield 275, 3) := dk_181 1 19 (dk_at dksX0_text_3 7 rfl rfl)
theorem dX0_text_82 : decode cX0_text 82 = .ok (.iload 4, 2) := dk_21 4 (dk_at dksX0_text_3 10 rfl rfl)
theorem dX0_text_84 : decode cX0_text 84 = .ok (.ireturn, 1) := dk_172 (dk_at dksX0_text_3 12 rfl rfl)
theorem dX0_text_85 : decode cX0_text 85 = .ok (.astore 5, 2) := dk_58 5 (dk_at dksX0_text_3 13 rfl rfl)
theorem dX0_text_87 : decode cX0_text 87 = .ok (.aload_n 0, 1) := dk_42 (dk_at dksX0_text_3 15 rfl rfl)
theorem dX0_text_88 : decode cX0_text 88 = .ok (.getfield 73, 3) := dk_180 0 73 (dk_at dksX0_text_3 16 rfl rfl)
theorem dX0_text_91 : decode cX0_text 91 = .ok (.iconst 0, 1) := dk_3 (dk_at dksX0_text_3 19 rfl rfl)
theorem dX0_text_92 : decode cX0_text 92 = .ok (.putfield 275, 3) := dk_181 1 19 (dk_at dksX0_text_3 20 rfl rfl)
theorem dX0_text_95 : decode cX0_text 95 = .ok (.aload 5, 2) := dk_25 5 (dk_at dksX0_text_4 0 rfl rfl)
theorem dX0_text_97 : decode cX0_text 97 = .ok (.athrow, 1) := dk_191 (dk_at dksX0_text_4 2 rfl rfl)
abbrev cX0_isUse : ByteArray := prog_1_method_36_code
def yX0_isUse : MethodName := ⟨RX0, "isUse", "(I)Z"⟩
def dkwX0_isUse_0 : List UInt8 := [26, 3, 4, 184, 0, 113, 172]
abbrev dktX0_isUse_0 : List UInt8 := dkwX0_isUse_0 ++ []
theorem dksX0_isUse_0 : cX0_isUse.data.toList.drop 0 = dktX0_isUse_0 := by decide +kernel
theorem dX0_isUse_0 : decode cX0_isUse 0 = .ok (.iload_n 0, 1) := dk_26 (dk_at dksX0_isUse_0 0 rfl rfl)
theorem dX0_isUse_1 : decode cX0_isUse 1 = .ok (.iconst 0, 1) := dk_3 (dk_at dksX0_isUse_0 1 rfl rfl)
theorem dX0_isUse_2 : decode cX0_isUse 2 = .ok (.iconst 1, 1) := dk_4 (dk_at dksX0_isUse_0 2 rfl rfl)
theorem dX0_isUse_3 : decode cX0_isUse 3 = .ok (.invokestatic 113, 3) := dk_184 0 113 (dk_at dksX0_isUse_0 3 rfl rfl)
theorem dX0_isUse_6 : decode cX0_isUse 6 = .ok (.ireturn, 1) := dk_172 (dk_at dksX0_isUse_0 6 rfl rfl)
abbrev cX0_namesOf : ByteArray := prog_1_method_5_code
def yX0_namesOf : MethodName := ⟨RX0, "namesOf", "(I)Ljava/lang/String;"⟩
def dkwX0_namesOf_0 : List UInt8 := [26, 154, 0, 8, 18, 34, 167, 0, 5, 18, 36, 176]
abbrev dktX0_namesOf_0 : List UInt8 := dkwX0_namesOf_0 ++ []
theorem dksX0_namesOf_0 : cX0_namesOf.data.toList.drop 0 = dktX0_namesOf_0 := by decide +kernel
theorem dX0_namesOf_0 : decode cX0_namesOf 0 = .ok (.iload_n 0, 1) := dk_26 (dk_at dksX0_namesOf_0 0 rfl rfl)
theorem dX0_namesOf_1 : decode cX0_namesOf 1 = .ok (.ifCond .ne 8, 3) := dk_154 0 8 (dk_at dksX0_namesOf_0 1 rfl rfl)
theorem dX0_namesOf_4 : decode cX0_namesOf 4 = .ok (.ldc 34, 2) := dk_18 34 (dk_at dksX0_namesOf_0 4 rfl rfl)
theorem dX0_namesOf_6 : decode cX0_namesOf 6 = .ok (.goto 5, 3) := dk_167 0 5 (dk_at dksX0_namesOf_0 6 rfl rfl)
theorem dX0_namesOf_9 : decode cX0_namesOf 9 = .ok (.ldc 36, 2) := dk_18 36 (dk_at dksX0_namesOf_0 9 rfl rfl)
theorem dX0_namesOf_11 : decode cX0_namesOf 11 = .ok (.areturn, 1) := dk_176 (dk_at dksX0_namesOf_0 11 rfl rfl)
abbrev cX0_untell : ByteArray := prog_1_method_38_code
def yX0_untell : MethodName := ⟨RX0, "untell", "(I)I"⟩
def dkwX0_untell_1 : List UInt8 := [199, 0, 7, 3, 167, 0, 4, 4, 61, 42, 180, 0, 73, 180, 0, 123, 27, 1, 83, 28, 172]
abbrev dktX0_untell_1 : List UInt8 := dkwX0_untell_1 ++ []
def dkwX0_untell_0 : List UInt8 := [27, 184, 1, 25, 154, 0, 9, 42, 4, 182, 0, 204, 172, 42, 180, 0, 73, 180, 0, 123, 27, 50]
abbrev dktX0_untell_0 : List UInt8 := dkwX0_untell_0 ++ dktX0_untell_1
theorem dksX0_untell_0 : cX0_untell.data.toList.drop 0 = dktX0_untell_0 := by decide +kernel
theorem dksX0_untell_1 : cX0_untell.data.toList.drop 22 = dktX0_untell_1 := dk_seg dksX0_untell_0 22 rfl rfl
theorem dX0_untell_0 : decode cX0_untell 0 = .ok (.iload_n 1, 1) := dk_27 (dk_at dksX0_untell_0 0 rfl rfl)
theorem dX0_untell_1 : decode cX0_untell 1 = .ok (.invokestatic 281, 3) := dk_184 1 25 (dk_at dksX0_untell_0 1 rfl rfl)
theorem dX0_untell_4 : decode cX0_untell 4 = .ok (.ifCond .ne 9, 3) := dk_154 0 9 (dk_at dksX0_untell_0 4 rfl rfl)
theorem dX0_untell_7 : decode cX0_untell 7 = .ok (.aload_n 0, 1) := dk_42 (dk_at dksX0_untell_0 7 rfl rfl)
theorem dX0_untell_8 : decode cX0_untell 8 = .ok (.iconst 1, 1) := dk_4 (dk_at dksX0_untell_0 8 rfl rfl)
theorem dX0_untell_9 : decode cX0_untell 9 = .ok (.invokevirtual 204, 3) := dk_182 0 204 (dk_at dksX0_untell_0 9 rfl rfl)
theorem dX0_untell_12 : decode cX0_untell 12 = .ok (.ireturn, 1) := dk_172 (dk_at dksX0_untell_0 12 rfl rfl)
theorem dX0_untell_13 : decode cX0_untell 13 = .ok (.aload_n 0, 1) := dk_42 (dk_at dksX0_untell_0 13 rfl rfl)
theorem dX0_untell_14 : decode cX0_untell 14 = .ok (.getfield 73, 3) := dk_180 0 73 (dk_at dksX0_untell_0 14 rfl rfl)
theorem dX0_untell_17 : decode cX0_untell 17 = .ok (.getfield 123, 3) := dk_180 0 123 (dk_at dksX0_untell_0 17 rfl rfl)
theorem dX0_untell_20 : decode cX0_untell 20 = .ok (.iload_n 1, 1) := dk_27 (dk_at dksX0_untell_0 20 rfl rfl)
theorem dX0_untell_21 : decode cX0_untell 21 = .ok (.aaload, 1) := dk_50 (dk_at dksX0_untell_0 21 rfl rfl)
theorem dX0_untell_22 : decode cX0_untell 22 = .ok (.ifnonnull 7, 3) := dk_199 0 7 (dk_at dksX0_untell_1 0 rfl rfl)
theorem dX0_untell_25 : decode cX0_untell 25 = .ok (.iconst 0, 1) := dk_3 (dk_at dksX0_untell_1 3 rfl rfl)
theorem dX0_untell_26 : decode cX0_untell 26 = .ok (.goto 4, 3) := dk_167 0 4 (dk_at dksX0_untell_1 4 rfl rfl)
theorem dX0_untell_29 : decode cX0_untell 29 = .ok (.iconst 1, 1) := dk_4 (dk_at dksX0_untell_1 7 rfl rfl)
theorem dX0_untell_30 : decode cX0_untell 30 = .ok (.istore_n 2, 1) := dk_61 (dk_at dksX0_untell_1 8 rfl rfl)
theorem dX0_untell_31 : decode cX0_untell 31 = .ok (.aload_n 0, 1) := dk_42 (dk_at dksX0_untell_1 9 rfl rfl)
theorem dX0_untell_32 : decode cX0_untell 32 = .ok (.getfield 73, 3) := dk_180 0 73 (dk_at dksX0_untell_1 10 rfl rfl)
theorem dX0_untell_35 : decode cX0_untell 35 = .ok (.getfield 123, 3) := dk_180 0 123 (dk_at dksX0_untell_1 13 rfl rfl)
theorem dX0_untell_38 : decode cX0_untell 38 = .ok (.iload_n 1, 1) := dk_27 (dk_at dksX0_untell_1 16 rfl rfl)
theorem dX0_untell_39 : decode cX0_untell 39 = .ok (.aconst_null, 1) := dk_1 (dk_at dksX0_untell_1 17 rfl rfl)
theorem dX0_untell_40 : decode cX0_untell 40 = .ok (.aastore, 1) := dk_83 (dk_at dksX0_untell_1 18 rfl rfl)
theorem dX0_untell_41 : decode cX0_untell 41 = .ok (.iload_n 2, 1) := dk_28 (dk_at dksX0_untell_1 19 rfl rfl)
theorem dX0_untell_42 : decode cX0_untell 42 = .ok (.ireturn, 1) := dk_172 (dk_at dksX0_untell_1 20 rfl rfl)
abbrev cX0_named : ByteArray := prog_1_method_39_code
def yX0_named : MethodName := ⟨RX0, "named", "(I)I"⟩
def dkwX0_named_0 : List UInt8 := [42, 27, 182, 0, 251, 153, 0, 11, 42, 27, 182, 1, 46, 167, 0, 8, 42, 4, 182, 0, 204, 172]
abbrev dktX0_named_0 : List UInt8 := dkwX0_named_0 ++ []
theorem dksX0_named_0 : cX0_named.data.toList.drop 0 = dktX0_named_0 := by decide +kernel
theorem dX0_named_0 : decode cX0_named 0 = .ok (.aload_n 0, 1) := dk_42 (dk_at dksX0_named_0 0 rfl rfl)
theorem dX0_named_1 : decode cX0_named 1 = .ok (.iload_n 1, 1) := dk_27 (dk_at dksX0_named_0 1 rfl rfl)
theorem dX0_named_2 : decode cX0_named 2 = .ok (.invokevirtual 251, 3) := dk_182 0 251 (dk_at dksX0_named_0 2 rfl rfl)
theorem dX0_named_5 : decode cX0_named 5 = .ok (.ifCond .eq 11, 3) := dk_153 0 11 (dk_at dksX0_named_0 5 rfl rfl)
theorem dX0_named_8 : decode cX0_named 8 = .ok (.aload_n 0, 1) := dk_42 (dk_at dksX0_named_0 8 rfl rfl)
theorem dX0_named_9 : decode cX0_named 9 = .ok (.iload_n 1, 1) := dk_27 (dk_at dksX0_named_0 9 rfl rfl)
theorem dX0_named_10 : decode cX0_named 10 = .ok (.invokevirtual 302, 3) := dk_182 1 46 (dk_at dksX0_named_0 10 rfl rfl)
theorem dX0_named_13 : decode cX0_named 13 = .ok (.goto 8, 3) := dk_167 0 8 (dk_at dksX0_named_0 13 rfl rfl)
theorem dX0_named_16 : decode cX0_named 16 = .ok (.aload_n 0, 1) := dk_42 (dk_at dksX0_named_0 16 rfl rfl)
theorem dX0_named_17 : decode cX0_named 17 = .ok (.iconst 1, 1) := dk_4 (dk_at dksX0_named_0 17 rfl rfl)
theorem dX0_named_18 : decode cX0_named 18 = .ok (.invokevirtual 204, 3) := dk_182 0 204 (dk_at dksX0_named_0 18 rfl rfl)
theorem dX0_named_21 : decode cX0_named 21 = .ok (.ireturn, 1) := dk_172 (dk_at dksX0_named_0 21 rfl rfl)
abbrev cX0_nameOf : ByteArray := prog_1_method_14_code
def yX0_nameOf : MethodName := ⟨RX0, "nameOf", "(I)I"⟩
def dkwX0_nameOf_1 : List UInt8 := [185, 0, 154, 3, 0, 133, 3, 17, 39, 15, 184, 0, 160, 172]
abbrev dktX0_nameOf_1 : List UInt8 := dkwX0_nameOf_1 ++ []
def dkwX0_nameOf_0 : List UInt8 := [42, 180, 0, 73, 42, 180, 0, 73, 180, 0, 147, 27, 46, 182, 0, 150, 77, 44, 42, 180, 0, 105, 27]
abbrev dktX0_nameOf_0 : List UInt8 := dkwX0_nameOf_0 ++ dktX0_nameOf_1
theorem dksX0_nameOf_0 : cX0_nameOf.data.toList.drop 0 = dktX0_nameOf_0 := by decide +kernel
theorem dksX0_nameOf_1 : cX0_nameOf.data.toList.drop 23 = dktX0_nameOf_1 := dk_seg dksX0_nameOf_0 23 rfl rfl
theorem dX0_nameOf_0 : decode cX0_nameOf 0 = .ok (.aload_n 0, 1) := dk_42 (dk_at dksX0_nameOf_0 0 rfl rfl)
theorem dX0_nameOf_1 : decode cX0_nameOf 1 = .ok (.getfield 73, 3) := dk_180 0 73 (dk_at dksX0_nameOf_0 1 rfl rfl)
theorem dX0_nameOf_4 : decode cX0_nameOf 4 = .ok (.aload_n 0, 1) := dk_42 (dk_at dksX0_nameOf_0 4 rfl rfl)
theorem dX0_nameOf_5 : decode cX0_nameOf 5 = .ok (.getfield 73, 3) := dk_180 0 73 (dk_at dksX0_nameOf_0 5 rfl rfl)
theorem dX0_nameOf_8 : decode cX0_nameOf 8 = .ok (.getfield 147, 3) := dk_180 0 147 (dk_at dksX0_nameOf_0 8 rfl rfl)
theorem dX0_nameOf_11 : decode cX0_nameOf 11 = .ok (.iload_n 1, 1) := dk_27 (dk_at dksX0_nameOf_0 11 rfl rfl)
theorem dX0_nameOf_12 : decode cX0_nameOf 12 = .ok (.iaload, 1) := dk_46 (dk_at dksX0_nameOf_0 12 rfl rfl)
theorem dX0_nameOf_13 : decode cX0_nameOf 13 = .ok (.invokevirtual 150, 3) := dk_182 0 150 (dk_at dksX0_nameOf_0 13 rfl rfl)
theorem dX0_nameOf_16 : decode cX0_nameOf 16 = .ok (.astore_n 2, 1) := dk_77 (dk_at dksX0_nameOf_0 16 rfl rfl)
theorem dX0_nameOf_17 : decode cX0_nameOf 17 = .ok (.aload_n 2, 1) := dk_44 (dk_at dksX0_nameOf_0 17 rfl rfl)
theorem dX0_nameOf_18 : decode cX0_nameOf 18 = .ok (.aload_n 0, 1) := dk_42 (dk_at dksX0_nameOf_0 18 rfl rfl)
theorem dX0_nameOf_19 : decode cX0_nameOf 19 = .ok (.getfield 105, 3) := dk_180 0 105 (dk_at dksX0_nameOf_0 19 rfl rfl)
theorem dX0_nameOf_22 : decode cX0_nameOf 22 = .ok (.iload_n 1, 1) := dk_27 (dk_at dksX0_nameOf_0 22 rfl rfl)
theorem dX0_nameOf_23 : decode cX0_nameOf 23 = .ok (.invokeinterface 154 3, 5) := by decide +kernel
theorem dX0_nameOf_28 : decode cX0_nameOf 28 = .ok (.i2l, 1) := dk_133 (dk_at dksX0_nameOf_1 5 rfl rfl)
theorem dX0_nameOf_29 : decode cX0_nameOf 29 = .ok (.iconst 0, 1) := dk_3 (dk_at dksX0_nameOf_1 6 rfl rfl)
theorem dX0_nameOf_30 : decode cX0_nameOf 30 = .ok (.sipush 9999, 3) := dk_17 39 15 (dk_at dksX0_nameOf_1 7 rfl rfl)
theorem dX0_nameOf_33 : decode cX0_nameOf 33 = .ok (.invokestatic 160, 3) := dk_184 0 160 (dk_at dksX0_nameOf_1 10 rfl rfl)
theorem dX0_nameOf_36 : decode cX0_nameOf 36 = .ok (.ireturn, 1) := dk_172 (dk_at dksX0_nameOf_1 13 rfl rfl)
abbrev cX0_bestBy : ByteArray := prog_1_method_18_code
def yX0_bestBy : MethodName := ⟨RX0, "bestBy", "(II)I"⟩
def dkwX0_bestBy_4 : List UInt8 := [180, 0, 193, 172]
abbrev dktX0_bestBy_4 : List UInt8 := dkwX0_bestBy_4 ++ []
def dkwX0_bestBy_3 : List UInt8 := [27, 42, 180, 0, 73, 29, 27, 182, 0, 174, 4, 100, 28, 182, 0, 196, 132, 3, 1, 167, 255, 194, 42]
abbrev dktX0_bestBy_3 : List UInt8 := dkwX0_bestBy_3 ++ dktX0_bestBy_4
def dkwX0_bestBy_2 : List UInt8 := [27, 46, 160, 0, 6, 167, 0, 35, 42, 27, 42, 180, 0, 73, 29, 27, 182, 0, 174, 28, 182, 0, 196, 42]
abbrev dktX0_bestBy_2 : List UInt8 := dkwX0_bestBy_2 ++ dktX0_bestBy_3
def dkwX0_bestBy_1 : List UInt8 := [182, 0, 196, 3, 62, 29, 42, 180, 0, 73, 180, 0, 110, 162, 0, 57, 29, 42, 180, 0, 73, 180, 0, 147]
abbrev dktX0_bestBy_1 : List UInt8 := dkwX0_bestBy_1 ++ dktX0_bestBy_2
def dkwX0_bestBy_0 : List UInt8 := [42, 3, 181, 0, 193, 42, 42, 27, 3, 28, 182, 0, 186, 181, 0, 190, 42, 27, 17, 39, 15, 28]
abbrev dktX0_bestBy_0 : List UInt8 := dkwX0_bestBy_0 ++ dktX0_bestBy_1
theorem dksX0_bestBy_0 : cX0_bestBy.data.toList.drop 0 = dktX0_bestBy_0 := by decide +kernel
theorem dksX0_bestBy_1 : cX0_bestBy.data.toList.drop 22 = dktX0_bestBy_1 := dk_seg dksX0_bestBy_0 22 rfl rfl
theorem dksX0_bestBy_2 : cX0_bestBy.data.toList.drop 46 = dktX0_bestBy_2 := dk_seg dksX0_bestBy_1 24 rfl rfl
theorem dksX0_bestBy_3 : cX0_bestBy.data.toList.drop 70 = dktX0_bestBy_3 := dk_seg dksX0_bestBy_2 24 rfl rfl
theorem dksX0_bestBy_4 : cX0_bestBy.data.toList.drop 93 = dktX0_bestBy_4 := dk_seg dksX0_bestBy_3 23 rfl rfl
theorem dX0_bestBy_0 : decode cX0_bestBy 0 = .ok (.aload_n 0, 1) := dk_42 (dk_at dksX0_bestBy_0 0 rfl rfl)
theorem dX0_bestBy_1 : decode cX0_bestBy 1 = .ok (.iconst 0, 1) := dk_3 (dk_at dksX0_bestBy_0 1 rfl rfl)
theorem dX0_bestBy_2 : decode cX0_bestBy 2 = .ok (.putfield 193, 3) := dk_181 0 193 (dk_at dksX0_bestBy_0 2 rfl rfl)
theorem dX0_bestBy_5 : decode cX0_bestBy 5 = .ok (.aload_n 0, 1) := dk_42 (dk_at dksX0_bestBy_0 5 rfl rfl)
theorem dX0_bestBy_6 : decode cX0_bestBy 6 = .ok (.aload_n 0, 1) := dk_42 (dk_at dksX0_bestBy_0 6 rfl rfl)
theorem dX0_bestBy_7 : decode cX0_bestBy 7 = .ok (.iload_n 1, 1) := dk_27 (dk_at dksX0_bestBy_0 7 rfl rfl)
theorem dX0_bestBy_8 : decode cX0_bestBy 8 = .ok (.iconst 0, 1) := dk_3 (dk_at dksX0_bestBy_0 8 rfl rfl)
theorem dX0_bestBy_9 : decode cX0_bestBy 9 = .ok (.iload_n 2, 1) := dk_28 (dk_at dksX0_bestBy_0 9 rfl rfl)
theorem dX0_bestBy_10 : decode cX0_bestBy 10 = .ok (.invokevirtual 186, 3) := dk_182 0 186 (dk_at dksX0_bestBy_0 10 rfl rfl)
theorem dX0_bestBy_13 : decode cX0_bestBy 13 = .ok (.putfield 190, 3) := dk_181 0 190 (dk_at dksX0_bestBy_0 13 rfl rfl)
theorem dX0_bestBy_16 : decode cX0_bestBy 16 = .ok (.aload_n 0, 1) := dk_42 (dk_at dksX0_bestBy_0 16 rfl rfl)
theorem dX0_bestBy_17 : decode cX0_bestBy 17 = .ok (.iload_n 1, 1) := dk_27 (dk_at dksX0_bestBy_0 17 rfl rfl)
theorem dX0_bestBy_18 : decode cX0_bestBy 18 = .ok (.sipush 9999, 3) := dk_17 39 15 (dk_at dksX0_bestBy_0 18 rfl rfl)
theorem dX0_bestBy_21 : decode cX0_bestBy 21 = .ok (.iload_n 2, 1) := dk_28 (dk_at dksX0_bestBy_0 21 rfl rfl)
theorem dX0_bestBy_22 : decode cX0_bestBy 22 = .ok (.invokevirtual 196, 3) := dk_182 0 196 (dk_at dksX0_bestBy_1 0 rfl rfl)
theorem dX0_bestBy_25 : decode cX0_bestBy 25 = .ok (.iconst 0, 1) := dk_3 (dk_at dksX0_bestBy_1 3 rfl rfl)
theorem dX0_bestBy_26 : decode cX0_bestBy 26 = .ok (.istore_n 3, 1) := dk_62 (dk_at dksX0_bestBy_1 4 rfl rfl)
theorem dX0_bestBy_27 : decode cX0_bestBy 27 = .ok (.iload_n 3, 1) := dk_29 (dk_at dksX0_bestBy_1 5 rfl rfl)
theorem dX0_bestBy_28 : decode cX0_bestBy 28 = .ok (.aload_n 0, 1) := dk_42 (dk_at dksX0_bestBy_1 6 rfl rfl)
theorem dX0_bestBy_29 : decode cX0_bestBy 29 = .ok (.getfield 73, 3) := dk_180 0 73 (dk_at dksX0_bestBy_1 7 rfl rfl)
theorem dX0_bestBy_32 : decode cX0_bestBy 32 = .ok (.getfield 110, 3) := dk_180 0 110 (dk_at dksX0_bestBy_1 10 rfl rfl)
theorem dX0_bestBy_35 : decode cX0_bestBy 35 = .ok (.if_icmp .ge 57, 3) := dk_162 0 57 (dk_at dksX0_bestBy_1 13 rfl rfl)
theorem dX0_bestBy_38 : decode cX0_bestBy 38 = .ok (.iload_n 3, 1) := dk_29 (dk_at dksX0_bestBy_1 16 rfl rfl)
theorem dX0_bestBy_39 : decode cX0_bestBy 39 = .ok (.aload_n 0, 1) := dk_42 (dk_at dksX0_bestBy_1 17 rfl rfl)
theorem dX0_bestBy_40 : decode cX0_bestBy 40 = .ok (.getfield 73, 3) := dk_180 0 73 (dk_at dksX0_bestBy_1 18 rfl rfl)
theorem dX0_bestBy_43 : decode cX0_bestBy 43 = .ok (.getfield 147, 3) := dk_180 0 147 (dk_at dksX0_bestBy_1 21 rfl rfl)
theorem dX0_bestBy_46 : decode cX0_bestBy 46 = .ok (.iload_n 1, 1) := dk_27 (dk_at dksX0_bestBy_2 0 rfl rfl)
theorem dX0_bestBy_47 : decode cX0_bestBy 47 = .ok (.iaload, 1) := dk_46 (dk_at dksX0_bestBy_2 1 rfl rfl)
theorem dX0_bestBy_48 : decode cX0_bestBy 48 = .ok (.if_icmp .ne 6, 3) := dk_160 0 6 (dk_at dksX0_bestBy_2 2 rfl rfl)
theorem dX0_bestBy_51 : decode cX0_bestBy 51 = .ok (.goto 35, 3) := dk_167 0 35 (dk_at dksX0_bestBy_2 5 rfl rfl)
theorem dX0_bestBy_54 : decode cX0_bestBy 54 = .ok (.aload_n 0, 1) := dk_42 (dk_at dksX0_bestBy_2 8 rfl rfl)
theorem dX0_bestBy_55 : decode cX0_bestBy 55 = .ok (.iload_n 1, 1) := dk_27 (dk_at dksX0_bestBy_2 9 rfl rfl)
theorem dX0_bestBy_56 : decode cX0_bestBy 56 = .ok (.aload_n 0, 1) := dk_42 (dk_at dksX0_bestBy_2 10 rfl rfl)
theorem dX0_bestBy_57 : decode cX0_bestBy 57 = .ok (.getfield 73, 3) := dk_180 0 73 (dk_at dksX0_bestBy_2 11 rfl rfl)
theorem dX0_bestBy_60 : decode cX0_bestBy 60 = .ok (.iload_n 3, 1) := dk_29 (dk_at dksX0_bestBy_2 14 rfl rfl)
theorem dX0_bestBy_61 : decode cX0_bestBy 61 = .ok (.iload_n 1, 1) := dk_27 (dk_at dksX0_bestBy_2 15 rfl rfl)
theorem dX0_bestBy_62 : decode cX0_bestBy 62 = .ok (.invokevirtual 174, 3) := dk_182 0 174 (dk_at dksX0_bestBy_2 16 rfl rfl)
theorem dX0_bestBy_65 : decode cX0_bestBy 65 = .ok (.iload_n 2, 1) := dk_28 (dk_at dksX0_bestBy_2 19 rfl rfl)
theorem dX0_bestBy_66 : decode cX0_bestBy 66 = .ok (.invokevirtual 196, 3) := dk_182 0 196 (dk_at dksX0_bestBy_2 20 rfl rfl)
theorem dX0_bestBy_69 : decode cX0_bestBy 69 = .ok (.aload_n 0, 1) := dk_42 (dk_at dksX0_bestBy_2 23 rfl rfl)
theorem dX0_bestBy_70 : decode cX0_bestBy 70 = .ok (.iload_n 1, 1) := dk_27 (dk_at dksX0_bestBy_3 0 rfl rfl)
theorem dX0_bestBy_71 : decode cX0_bestBy 71 = .ok (.aload_n 0, 1) := dk_42 (dk_at dksX0_bestBy_3 1 rfl rfl)
theorem dX0_bestBy_72 : decode cX0_bestBy 72 = .ok (.getfield 73, 3) := dk_180 0 73 (dk_at dksX0_bestBy_3 2 rfl rfl)
theorem dX0_bestBy_75 : decode cX0_bestBy 75 = .ok (.iload_n 3, 1) := dk_29 (dk_at dksX0_bestBy_3 5 rfl rfl)
theorem dX0_bestBy_76 : decode cX0_bestBy 76 = .ok (.iload_n 1, 1) := dk_27 (dk_at dksX0_bestBy_3 6 rfl rfl)
theorem dX0_bestBy_77 : decode cX0_bestBy 77 = .ok (.invokevirtual 174, 3) := dk_182 0 174 (dk_at dksX0_bestBy_3 7 rfl rfl)
theorem dX0_bestBy_80 : decode cX0_bestBy 80 = .ok (.iconst 1, 1) := dk_4 (dk_at dksX0_bestBy_3 10 rfl rfl)
theorem dX0_bestBy_81 : decode cX0_bestBy 81 = .ok (.isub, 1) := dk_100 (dk_at dksX0_bestBy_3 11 rfl rfl)
theorem dX0_bestBy_82 : decode cX0_bestBy 82 = .ok (.iload_n 2, 1) := dk_28 (dk_at dksX0_bestBy_3 12 rfl rfl)
theorem dX0_bestBy_83 : decode cX0_bestBy 83 = .ok (.invokevirtual 196, 3) := dk_182 0 196 (dk_at dksX0_bestBy_3 13 rfl rfl)
theorem dX0_bestBy_86 : decode cX0_bestBy 86 = .ok (.iinc 3 1, 3) := dk_132 3 1 (dk_at dksX0_bestBy_3 16 rfl rfl)
theorem dX0_bestBy_89 : decode cX0_bestBy 89 = .ok (.goto (-62), 3) := dk_167 255 194 (dk_at dksX0_bestBy_3 19 rfl rfl)
theorem dX0_bestBy_92 : decode cX0_bestBy 92 = .ok (.aload_n 0, 1) := dk_42 (dk_at dksX0_bestBy_3 22 rfl rfl)
theorem dX0_bestBy_93 : decode cX0_bestBy 93 = .ok (.getfield 193, 3) := dk_180 0 193 (dk_at dksX0_bestBy_4 0 rfl rfl)
theorem dX0_bestBy_96 : decode cX0_bestBy 96 = .ok (.ireturn, 1) := dk_172 (dk_at dksX0_bestBy_4 3 rfl rfl)
abbrev cX0_gainOf : ByteArray := prog_1_method_16_code
def yX0_gainOf : MethodName := ⟨RX0, "gainOf", "(III)J"⟩
def dkwX0_gainOf_2 : List UInt8 := [105, 29, 133, 105, 101, 173]
abbrev dktX0_gainOf_2 : List UInt8 := dkwX0_gainOf_2 ++ []
def dkwX0_gainOf_1 : List UInt8 := [180, 0, 164, 42, 180, 0, 73, 27, 182, 0, 127, 133, 105, 20, 0, 184, 105, 97, 42, 180, 0, 168, 28, 133]
abbrev dktX0_gainOf_1 : List UInt8 := dkwX0_gainOf_1 ++ dktX0_gainOf_2
def dkwX0_gainOf_0 : List UInt8 := [42, 27, 28, 182, 0, 180, 42, 180, 0, 168, 42, 180, 0, 164, 101, 28, 133, 105, 20, 0, 184, 105, 42]
abbrev dktX0_gainOf_0 : List UInt8 := dkwX0_gainOf_0 ++ dktX0_gainOf_1
theorem dksX0_gainOf_0 : cX0_gainOf.data.toList.drop 0 = dktX0_gainOf_0 := by decide +kernel
theorem dksX0_gainOf_1 : cX0_gainOf.data.toList.drop 23 = dktX0_gainOf_1 := dk_seg dksX0_gainOf_0 23 rfl rfl
theorem dksX0_gainOf_2 : cX0_gainOf.data.toList.drop 47 = dktX0_gainOf_2 := dk_seg dksX0_gainOf_1 24 rfl rfl
theorem dX0_gainOf_0 : decode cX0_gainOf 0 = .ok (.aload_n 0, 1) := dk_42 (dk_at dksX0_gainOf_0 0 rfl rfl)
theorem dX0_gainOf_1 : decode cX0_gainOf 1 = .ok (.iload_n 1, 1) := dk_27 (dk_at dksX0_gainOf_0 1 rfl rfl)
theorem dX0_gainOf_2 : decode cX0_gainOf 2 = .ok (.iload_n 2, 1) := dk_28 (dk_at dksX0_gainOf_0 2 rfl rfl)
theorem dX0_gainOf_3 : decode cX0_gainOf 3 = .ok (.invokevirtual 180, 3) := dk_182 0 180 (dk_at dksX0_gainOf_0 3 rfl rfl)
theorem dX0_gainOf_6 : decode cX0_gainOf 6 = .ok (.aload_n 0, 1) := dk_42 (dk_at dksX0_gainOf_0 6 rfl rfl)
theorem dX0_gainOf_7 : decode cX0_gainOf 7 = .ok (.getfield 168, 3) := dk_180 0 168 (dk_at dksX0_gainOf_0 7 rfl rfl)
theorem dX0_gainOf_10 : decode cX0_gainOf 10 = .ok (.aload_n 0, 1) := dk_42 (dk_at dksX0_gainOf_0 10 rfl rfl)
theorem dX0_gainOf_11 : decode cX0_gainOf 11 = .ok (.getfield 164, 3) := dk_180 0 164 (dk_at dksX0_gainOf_0 11 rfl rfl)
theorem dX0_gainOf_14 : decode cX0_gainOf 14 = .ok (.lsub, 1) := dk_101 (dk_at dksX0_gainOf_0 14 rfl rfl)
theorem dX0_gainOf_15 : decode cX0_gainOf 15 = .ok (.iload_n 2, 1) := dk_28 (dk_at dksX0_gainOf_0 15 rfl rfl)
theorem dX0_gainOf_16 : decode cX0_gainOf 16 = .ok (.i2l, 1) := dk_133 (dk_at dksX0_gainOf_0 16 rfl rfl)
theorem dX0_gainOf_17 : decode cX0_gainOf 17 = .ok (.lmul, 1) := dk_105 (dk_at dksX0_gainOf_0 17 rfl rfl)
theorem dX0_gainOf_18 : decode cX0_gainOf 18 = .ok (.ldc2_w 184, 3) := dk_20 0 184 (dk_at dksX0_gainOf_0 18 rfl rfl)
theorem dX0_gainOf_21 : decode cX0_gainOf 21 = .ok (.lmul, 1) := dk_105 (dk_at dksX0_gainOf_0 21 rfl rfl)
theorem dX0_gainOf_22 : decode cX0_gainOf 22 = .ok (.aload_n 0, 1) := dk_42 (dk_at dksX0_gainOf_0 22 rfl rfl)
theorem dX0_gainOf_23 : decode cX0_gainOf 23 = .ok (.getfield 164, 3) := dk_180 0 164 (dk_at dksX0_gainOf_1 0 rfl rfl)
theorem dX0_gainOf_26 : decode cX0_gainOf 26 = .ok (.aload_n 0, 1) := dk_42 (dk_at dksX0_gainOf_1 3 rfl rfl)
theorem dX0_gainOf_27 : decode cX0_gainOf 27 = .ok (.getfield 73, 3) := dk_180 0 73 (dk_at dksX0_gainOf_1 4 rfl rfl)
theorem dX0_gainOf_30 : decode cX0_gainOf 30 = .ok (.iload_n 1, 1) := dk_27 (dk_at dksX0_gainOf_1 7 rfl rfl)
theorem dX0_gainOf_31 : decode cX0_gainOf 31 = .ok (.invokevirtual 127, 3) := dk_182 0 127 (dk_at dksX0_gainOf_1 8 rfl rfl)
theorem dX0_gainOf_34 : decode cX0_gainOf 34 = .ok (.i2l, 1) := dk_133 (dk_at dksX0_gainOf_1 11 rfl rfl)
theorem dX0_gainOf_35 : decode cX0_gainOf 35 = .ok (.lmul, 1) := dk_105 (dk_at dksX0_gainOf_1 12 rfl rfl)
theorem dX0_gainOf_36 : decode cX0_gainOf 36 = .ok (.ldc2_w 184, 3) := dk_20 0 184 (dk_at dksX0_gainOf_1 13 rfl rfl)
theorem dX0_gainOf_39 : decode cX0_gainOf 39 = .ok (.lmul, 1) := dk_105 (dk_at dksX0_gainOf_1 16 rfl rfl)
theorem dX0_gainOf_40 : decode cX0_gainOf 40 = .ok (.ladd, 1) := dk_97 (dk_at dksX0_gainOf_1 17 rfl rfl)
theorem dX0_gainOf_41 : decode cX0_gainOf 41 = .ok (.aload_n 0, 1) := dk_42 (dk_at dksX0_gainOf_1 18 rfl rfl)
theorem dX0_gainOf_42 : decode cX0_gainOf 42 = .ok (.getfield 168, 3) := dk_180 0 168 (dk_at dksX0_gainOf_1 19 rfl rfl)
theorem dX0_gainOf_45 : decode cX0_gainOf 45 = .ok (.iload_n 2, 1) := dk_28 (dk_at dksX0_gainOf_1 22 rfl rfl)
theorem dX0_gainOf_46 : decode cX0_gainOf 46 = .ok (.i2l, 1) := dk_133 (dk_at dksX0_gainOf_1 23 rfl rfl)
theorem dX0_gainOf_47 : decode cX0_gainOf 47 = .ok (.lmul, 1) := dk_105 (dk_at dksX0_gainOf_2 0 rfl rfl)
theorem dX0_gainOf_48 : decode cX0_gainOf 48 = .ok (.iload_n 3, 1) := dk_29 (dk_at dksX0_gainOf_2 1 rfl rfl)
theorem dX0_gainOf_49 : decode cX0_gainOf 49 = .ok (.i2l, 1) := dk_133 (dk_at dksX0_gainOf_2 2 rfl rfl)
theorem dX0_gainOf_50 : decode cX0_gainOf 50 = .ok (.lmul, 1) := dk_105 (dk_at dksX0_gainOf_2 3 rfl rfl)
theorem dX0_gainOf_51 : decode cX0_gainOf 51 = .ok (.lsub, 1) := dk_101 (dk_at dksX0_gainOf_2 4 rfl rfl)
theorem dX0_gainOf_52 : decode cX0_gainOf 52 = .ok (.lreturn, 1) := dk_173 (dk_at dksX0_gainOf_2 5 rfl rfl)
abbrev cX0_findStays : ByteArray := prog_1_method_15_code
def yX0_findStays : MethodName := ⟨RX0, "findStays", "(II)V"⟩
def dkwX0_findStays_4 : List UInt8 := [167, 0, 9, 25, 4, 180, 0, 171, 133, 105, 181, 0, 164, 132, 3, 1, 167, 255, 158, 177]
abbrev dktX0_findStays_4 : List UInt8 := dkwX0_findStays_4 ++ []
def dkwX0_findStays_3 : List UInt8 := [180, 0, 73, 29, 27, 182, 0, 174, 28, 164, 0, 18, 25, 4, 180, 0, 171, 25, 4, 180, 0, 177, 100, 133]
abbrev dktX0_findStays_3 : List UInt8 := dkwX0_findStays_3 ++ dktX0_findStays_4
def dkwX0_findStays_2 : List UInt8 := [58, 4, 42, 89, 180, 0, 168, 25, 4, 180, 0, 171, 133, 105, 181, 0, 168, 42, 89, 180, 0, 164, 42]
abbrev dktX0_findStays_2 : List UInt8 := dkwX0_findStays_2 ++ dktX0_findStays_3
def dkwX0_findStays_1 : List UInt8 := [42, 180, 0, 73, 180, 0, 147, 27, 46, 160, 0, 6, 167, 0, 71, 42, 180, 0, 73, 29, 182, 0, 150]
abbrev dktX0_findStays_1 : List UInt8 := dkwX0_findStays_1 ++ dktX0_findStays_2
def dkwX0_findStays_0 : List UInt8 := [42, 10, 181, 0, 164, 42, 10, 181, 0, 168, 3, 62, 29, 42, 180, 0, 73, 180, 0, 110, 162, 0, 93, 29]
abbrev dktX0_findStays_0 : List UInt8 := dkwX0_findStays_0 ++ dktX0_findStays_1
theorem dksX0_findStays_0 : cX0_findStays.data.toList.drop 0 = dktX0_findStays_0 := by decide +kernel
theorem dksX0_findStays_1 : cX0_findStays.data.toList.drop 24 = dktX0_findStays_1 := dk_seg dksX0_findStays_0 24 rfl rfl
theorem dksX0_findStays_2 : cX0_findStays.data.toList.drop 47 = dktX0_findStays_2 := dk_seg dksX0_findStays_1 23 rfl rfl
theorem dksX0_findStays_3 : cX0_findStays.data.toList.drop 70 = dktX0_findStays_3 := dk_seg dksX0_findStays_2 23 rfl rfl
theorem dksX0_findStays_4 : cX0_findStays.data.toList.drop 94 = dktX0_findStays_4 := dk_seg dksX0_findStays_3 24 rfl rfl
theorem dX0_findStays_0 : decode cX0_findStays 0 = .ok (.aload_n 0, 1) := dk_42 (dk_at dksX0_findStays_0 0 rfl rfl)
theorem dX0_findStays_1 : decode cX0_findStays 1 = .ok (.lconst 1, 1) := dk_10 (dk_at dksX0_findStays_0 1 rfl rfl)
theorem dX0_findStays_2 : decode cX0_findStays 2 = .ok (.putfield 164, 3) := dk_181 0 164 (dk_at dksX0_findStays_0 2 rfl rfl)
theorem dX0_findStays_5 : decode cX0_findStays 5 = .ok (.aload_n 0, 1) := dk_42 (dk_at dksX0_findStays_0 5 rfl rfl)
theorem dX0_findStays_6 : decode cX0_findStays 6 = .ok (.lconst 1, 1) := dk_10 (dk_at dksX0_findStays_0 6 rfl rfl)
theorem dX0_findStays_7 : decode cX0_findStays 7 = .ok (.putfield 168, 3) := dk_181 0 168 (dk_at dksX0_findStays_0 7 rfl rfl)
theorem dX0_findStays_10 : decode cX0_findStays 10 = .ok (.iconst 0, 1) := dk_3 (dk_at dksX0_findStays_0 10 rfl rfl)
theorem dX0_findStays_11 : decode cX0_findStays 11 = .ok (.istore_n 3, 1) := dk_62 (dk_at dksX0_findStays_0 11 rfl rfl)
theorem dX0_findStays_12 : decode cX0_findStays 12 = .ok (.iload_n 3, 1) := dk_29 (dk_at dksX0_findStays_0 12 rfl rfl)
theorem dX0_findStays_13 : decode cX0_findStays 13 = .ok (.aload_n 0, 1) := dk_42 (dk_at dksX0_findStays_0 13 rfl rfl)
theorem dX0_findStays_14 : decode cX0_findStays 14 = .ok (.getfield 73, 3) := dk_180 0 73 (dk_at dksX0_findStays_0 14 rfl rfl)
theorem dX0_findStays_17 : decode cX0_findStays 17 = .ok (.getfield 110, 3) := dk_180 0 110 (dk_at dksX0_findStays_0 17 rfl rfl)
theorem dX0_findStays_20 : decode cX0_findStays 20 = .ok (.if_icmp .ge 93, 3) := dk_162 0 93 (dk_at dksX0_findStays_0 20 rfl rfl)
theorem dX0_findStays_23 : decode cX0_findStays 23 = .ok (.iload_n 3, 1) := dk_29 (dk_at dksX0_findStays_0 23 rfl rfl)
theorem dX0_findStays_24 : decode cX0_findStays 24 = .ok (.aload_n 0, 1) := dk_42 (dk_at dksX0_findStays_1 0 rfl rfl)
theorem dX0_findStays_25 : decode cX0_findStays 25 = .ok (.getfield 73, 3) := dk_180 0 73 (dk_at dksX0_findStays_1 1 rfl rfl)
theorem dX0_findStays_28 : decode cX0_findStays 28 = .ok (.getfield 147, 3) := dk_180 0 147 (dk_at dksX0_findStays_1 4 rfl rfl)
theorem dX0_findStays_31 : decode cX0_findStays 31 = .ok (.iload_n 1, 1) := dk_27 (dk_at dksX0_findStays_1 7 rfl rfl)
theorem dX0_findStays_32 : decode cX0_findStays 32 = .ok (.iaload, 1) := dk_46 (dk_at dksX0_findStays_1 8 rfl rfl)
theorem dX0_findStays_33 : decode cX0_findStays 33 = .ok (.if_icmp .ne 6, 3) := dk_160 0 6 (dk_at dksX0_findStays_1 9 rfl rfl)
theorem dX0_findStays_36 : decode cX0_findStays 36 = .ok (.goto 71, 3) := dk_167 0 71 (dk_at dksX0_findStays_1 12 rfl rfl)
theorem dX0_findStays_39 : decode cX0_findStays 39 = .ok (.aload_n 0, 1) := dk_42 (dk_at dksX0_findStays_1 15 rfl rfl)
theorem dX0_findStays_40 : decode cX0_findStays 40 = .ok (.getfield 73, 3) := dk_180 0 73 (dk_at dksX0_findStays_1 16 rfl rfl)
theorem dX0_findStays_43 : decode cX0_findStays 43 = .ok (.iload_n 3, 1) := dk_29 (dk_at dksX0_findStays_1 19 rfl rfl)
theorem dX0_findStays_44 : decode cX0_findStays 44 = .ok (.invokevirtual 150, 3) := dk_182 0 150 (dk_at dksX0_findStays_1 20 rfl rfl)
theorem dX0_findStays_47 : decode cX0_findStays 47 = .ok (.astore 4, 2) := dk_58 4 (dk_at dksX0_findStays_2 0 rfl rfl)
theorem dX0_findStays_49 : decode cX0_findStays 49 = .ok (.aload_n 0, 1) := dk_42 (dk_at dksX0_findStays_2 2 rfl rfl)
theorem dX0_findStays_50 : decode cX0_findStays 50 = .ok (.dup, 1) := dk_89 (dk_at dksX0_findStays_2 3 rfl rfl)
theorem dX0_findStays_51 : decode cX0_findStays 51 = .ok (.getfield 168, 3) := dk_180 0 168 (dk_at dksX0_findStays_2 4 rfl rfl)
theorem dX0_findStays_54 : decode cX0_findStays 54 = .ok (.aload 4, 2) := dk_25 4 (dk_at dksX0_findStays_2 7 rfl rfl)
theorem dX0_findStays_56 : decode cX0_findStays 56 = .ok (.getfield 171, 3) := dk_180 0 171 (dk_at dksX0_findStays_2 9 rfl rfl)
theorem dX0_findStays_59 : decode cX0_findStays 59 = .ok (.i2l, 1) := dk_133 (dk_at dksX0_findStays_2 12 rfl rfl)
theorem dX0_findStays_60 : decode cX0_findStays 60 = .ok (.lmul, 1) := dk_105 (dk_at dksX0_findStays_2 13 rfl rfl)
theorem dX0_findStays_61 : decode cX0_findStays 61 = .ok (.putfield 168, 3) := dk_181 0 168 (dk_at dksX0_findStays_2 14 rfl rfl)
theorem dX0_findStays_64 : decode cX0_findStays 64 = .ok (.aload_n 0, 1) := dk_42 (dk_at dksX0_findStays_2 17 rfl rfl)
theorem dX0_findStays_65 : decode cX0_findStays 65 = .ok (.dup, 1) := dk_89 (dk_at dksX0_findStays_2 18 rfl rfl)
theorem dX0_findStays_66 : decode cX0_findStays 66 = .ok (.getfield 164, 3) := dk_180 0 164 (dk_at dksX0_findStays_2 19 rfl rfl)
theorem dX0_findStays_69 : decode cX0_findStays 69 = .ok (.aload_n 0, 1) := dk_42 (dk_at dksX0_findStays_2 22 rfl rfl)
theorem dX0_findStays_70 : decode cX0_findStays 70 = .ok (.getfield 73, 3) := dk_180 0 73 (dk_at dksX0_findStays_3 0 rfl rfl)
theorem dX0_findStays_73 : decode cX0_findStays 73 = .ok (.iload_n 3, 1) := dk_29 (dk_at dksX0_findStays_3 3 rfl rfl)
theorem dX0_findStays_74 : decode cX0_findStays 74 = .ok (.iload_n 1, 1) := dk_27 (dk_at dksX0_findStays_3 4 rfl rfl)
theorem dX0_findStays_75 : decode cX0_findStays 75 = .ok (.invokevirtual 174, 3) := dk_182 0 174 (dk_at dksX0_findStays_3 5 rfl rfl)
theorem dX0_findStays_78 : decode cX0_findStays 78 = .ok (.iload_n 2, 1) := dk_28 (dk_at dksX0_findStays_3 8 rfl rfl)
theorem dX0_findStays_79 : decode cX0_findStays 79 = .ok (.if_icmp .le 18, 3) := dk_164 0 18 (dk_at dksX0_findStays_3 9 rfl rfl)
theorem dX0_findStays_82 : decode cX0_findStays 82 = .ok (.aload 4, 2) := dk_25 4 (dk_at dksX0_findStays_3 12 rfl rfl)
theorem dX0_findStays_84 : decode cX0_findStays 84 = .ok (.getfield 171, 3) := dk_180 0 171 (dk_at dksX0_findStays_3 14 rfl rfl)
theorem dX0_findStays_87 : decode cX0_findStays 87 = .ok (.aload 4, 2) := dk_25 4 (dk_at dksX0_findStays_3 17 rfl rfl)
theorem dX0_findStays_89 : decode cX0_findStays 89 = .ok (.getfield 177, 3) := dk_180 0 177 (dk_at dksX0_findStays_3 19 rfl rfl)
theorem dX0_findStays_92 : decode cX0_findStays 92 = .ok (.isub, 1) := dk_100 (dk_at dksX0_findStays_3 22 rfl rfl)
theorem dX0_findStays_93 : decode cX0_findStays 93 = .ok (.i2l, 1) := dk_133 (dk_at dksX0_findStays_3 23 rfl rfl)
theorem dX0_findStays_94 : decode cX0_findStays 94 = .ok (.goto 9, 3) := dk_167 0 9 (dk_at dksX0_findStays_4 0 rfl rfl)
theorem dX0_findStays_97 : decode cX0_findStays 97 = .ok (.aload 4, 2) := dk_25 4 (dk_at dksX0_findStays_4 3 rfl rfl)
theorem dX0_findStays_99 : decode cX0_findStays 99 = .ok (.getfield 171, 3) := dk_180 0 171 (dk_at dksX0_findStays_4 5 rfl rfl)
theorem dX0_findStays_102 : decode cX0_findStays 102 = .ok (.i2l, 1) := dk_133 (dk_at dksX0_findStays_4 8 rfl rfl)
theorem dX0_findStays_103 : decode cX0_findStays 103 = .ok (.lmul, 1) := dk_105 (dk_at dksX0_findStays_4 9 rfl rfl)
theorem dX0_findStays_104 : decode cX0_findStays 104 = .ok (.putfield 164, 3) := dk_181 0 164 (dk_at dksX0_findStays_4 10 rfl rfl)
theorem dX0_findStays_107 : decode cX0_findStays 107 = .ok (.iinc 3 1, 3) := dk_132 3 1 (dk_at dksX0_findStays_4 13 rfl rfl)
theorem dX0_findStays_110 : decode cX0_findStays 110 = .ok (.goto (-98), 3) := dk_167 255 158 (dk_at dksX0_findStays_4 16 rfl rfl)
theorem dX0_findStays_113 : decode cX0_findStays 113 = .ok (.return_, 1) := dk_177 (dk_at dksX0_findStays_4 19 rfl rfl)
abbrev cX0_tries : ByteArray := prog_1_method_17_code
def yX0_tries : MethodName := ⟨RX0, "tries", "(III)V"⟩
def dkwX0_tries_2 : List UInt8 := [161, 0, 4, 177, 42, 22, 4, 181, 0, 190, 42, 28, 181, 0, 193, 177]
abbrev dktX0_tries_2 : List UInt8 := dkwX0_tries_2 ++ []
def dkwX0_tries_1 : List UInt8 := [180, 0, 190, 148, 155, 0, 21, 22, 4, 42, 180, 0, 190, 148, 154, 0, 12, 28, 42, 180, 0, 193]
abbrev dktX0_tries_1 : List UInt8 := dkwX0_tries_1 ++ dktX0_tries_2
def dkwX0_tries_0 : List UInt8 := [28, 3, 17, 39, 15, 184, 0, 113, 154, 0, 4, 177, 42, 27, 28, 29, 182, 0, 186, 55, 4, 22, 4, 42]
abbrev dktX0_tries_0 : List UInt8 := dkwX0_tries_0 ++ dktX0_tries_1
theorem dksX0_tries_0 : cX0_tries.data.toList.drop 0 = dktX0_tries_0 := by decide +kernel
theorem dksX0_tries_1 : cX0_tries.data.toList.drop 24 = dktX0_tries_1 := dk_seg dksX0_tries_0 24 rfl rfl
theorem dksX0_tries_2 : cX0_tries.data.toList.drop 46 = dktX0_tries_2 := dk_seg dksX0_tries_1 22 rfl rfl
theorem dX0_tries_0 : decode cX0_tries 0 = .ok (.iload_n 2, 1) := dk_28 (dk_at dksX0_tries_0 0 rfl rfl)
theorem dX0_tries_1 : decode cX0_tries 1 = .ok (.iconst 0, 1) := dk_3 (dk_at dksX0_tries_0 1 rfl rfl)
theorem dX0_tries_2 : decode cX0_tries 2 = .ok (.sipush 9999, 3) := dk_17 39 15 (dk_at dksX0_tries_0 2 rfl rfl)
theorem dX0_tries_5 : decode cX0_tries 5 = .ok (.invokestatic 113, 3) := dk_184 0 113 (dk_at dksX0_tries_0 5 rfl rfl)
theorem dX0_tries_8 : decode cX0_tries 8 = .ok (.ifCond .ne 4, 3) := dk_154 0 4 (dk_at dksX0_tries_0 8 rfl rfl)
theorem dX0_tries_11 : decode cX0_tries 11 = .ok (.return_, 1) := dk_177 (dk_at dksX0_tries_0 11 rfl rfl)
theorem dX0_tries_12 : decode cX0_tries 12 = .ok (.aload_n 0, 1) := dk_42 (dk_at dksX0_tries_0 12 rfl rfl)
theorem dX0_tries_13 : decode cX0_tries 13 = .ok (.iload_n 1, 1) := dk_27 (dk_at dksX0_tries_0 13 rfl rfl)
theorem dX0_tries_14 : decode cX0_tries 14 = .ok (.iload_n 2, 1) := dk_28 (dk_at dksX0_tries_0 14 rfl rfl)
theorem dX0_tries_15 : decode cX0_tries 15 = .ok (.iload_n 3, 1) := dk_29 (dk_at dksX0_tries_0 15 rfl rfl)
theorem dX0_tries_16 : decode cX0_tries 16 = .ok (.invokevirtual 186, 3) := dk_182 0 186 (dk_at dksX0_tries_0 16 rfl rfl)
theorem dX0_tries_19 : decode cX0_tries 19 = .ok (.lstore 4, 2) := dk_55 4 (dk_at dksX0_tries_0 19 rfl rfl)
theorem dX0_tries_21 : decode cX0_tries 21 = .ok (.lload 4, 2) := dk_22 4 (dk_at dksX0_tries_0 21 rfl rfl)
theorem dX0_tries_23 : decode cX0_tries 23 = .ok (.aload_n 0, 1) := dk_42 (dk_at dksX0_tries_0 23 rfl rfl)
theorem dX0_tries_24 : decode cX0_tries 24 = .ok (.getfield 190, 3) := dk_180 0 190 (dk_at dksX0_tries_1 0 rfl rfl)
theorem dX0_tries_27 : decode cX0_tries 27 = .ok (.lcmp, 1) := dk_148 (dk_at dksX0_tries_1 3 rfl rfl)
theorem dX0_tries_28 : decode cX0_tries 28 = .ok (.ifCond .lt 21, 3) := dk_155 0 21 (dk_at dksX0_tries_1 4 rfl rfl)
theorem dX0_tries_31 : decode cX0_tries 31 = .ok (.lload 4, 2) := dk_22 4 (dk_at dksX0_tries_1 7 rfl rfl)
theorem dX0_tries_33 : decode cX0_tries 33 = .ok (.aload_n 0, 1) := dk_42 (dk_at dksX0_tries_1 9 rfl rfl)
theorem dX0_tries_34 : decode cX0_tries 34 = .ok (.getfield 190, 3) := dk_180 0 190 (dk_at dksX0_tries_1 10 rfl rfl)
theorem dX0_tries_37 : decode cX0_tries 37 = .ok (.lcmp, 1) := dk_148 (dk_at dksX0_tries_1 13 rfl rfl)
theorem dX0_tries_38 : decode cX0_tries 38 = .ok (.ifCond .ne 12, 3) := dk_154 0 12 (dk_at dksX0_tries_1 14 rfl rfl)
theorem dX0_tries_41 : decode cX0_tries 41 = .ok (.iload_n 2, 1) := dk_28 (dk_at dksX0_tries_1 17 rfl rfl)
theorem dX0_tries_42 : decode cX0_tries 42 = .ok (.aload_n 0, 1) := dk_42 (dk_at dksX0_tries_1 18 rfl rfl)
theorem dX0_tries_43 : decode cX0_tries 43 = .ok (.getfield 193, 3) := dk_180 0 193 (dk_at dksX0_tries_1 19 rfl rfl)
theorem dX0_tries_46 : decode cX0_tries 46 = .ok (.if_icmp .lt 4, 3) := dk_161 0 4 (dk_at dksX0_tries_2 0 rfl rfl)
theorem dX0_tries_49 : decode cX0_tries 49 = .ok (.return_, 1) := dk_177 (dk_at dksX0_tries_2 3 rfl rfl)
theorem dX0_tries_50 : decode cX0_tries 50 = .ok (.aload_n 0, 1) := dk_42 (dk_at dksX0_tries_2 4 rfl rfl)
theorem dX0_tries_51 : decode cX0_tries 51 = .ok (.lload 4, 2) := dk_22 4 (dk_at dksX0_tries_2 5 rfl rfl)
theorem dX0_tries_53 : decode cX0_tries 53 = .ok (.putfield 190, 3) := dk_181 0 190 (dk_at dksX0_tries_2 7 rfl rfl)
theorem dX0_tries_56 : decode cX0_tries 56 = .ok (.aload_n 0, 1) := dk_42 (dk_at dksX0_tries_2 10 rfl rfl)
theorem dX0_tries_57 : decode cX0_tries 57 = .ok (.iload_n 2, 1) := dk_28 (dk_at dksX0_tries_2 11 rfl rfl)
theorem dX0_tries_58 : decode cX0_tries 58 = .ok (.putfield 193, 3) := dk_181 0 193 (dk_at dksX0_tries_2 12 rfl rfl)
theorem dX0_tries_61 : decode cX0_tries 61 = .ok (.return_, 1) := dk_177 (dk_at dksX0_tries_2 15 rfl rfl)
abbrev cX0_namingOf : ByteArray := prog_1_method_13_code
def yX0_namingOf : MethodName := ⟨RX0, "namingOf", "(I)I"⟩
def dkwX0_namingOf_4 : List UInt8 := [42, 180, 0, 73, 180, 0, 123, 3, 50, 182, 0, 143, 172]
abbrev dktX0_namingOf_4 : List UInt8 := dkwX0_namingOf_4 ++ []
def dkwX0_namingOf_3 : List UInt8 := [42, 180, 0, 73, 180, 0, 137, 3, 46, 79, 42, 180, 0, 58, 7, 42, 180, 0, 73, 180, 0, 140, 79, 42]
abbrev dktX0_namingOf_3 : List UInt8 := dkwX0_namingOf_3 ++ dktX0_namingOf_4
def dkwX0_namingOf_2 : List UInt8 := [182, 0, 131, 79, 42, 180, 0, 58, 5, 42, 180, 0, 73, 180, 0, 134, 27, 46, 79, 42, 180, 0, 58, 6]
abbrev dktX0_namingOf_2 : List UInt8 := dkwX0_namingOf_2 ++ dktX0_namingOf_3
def dkwX0_namingOf_1 : List UInt8 := [180, 0, 58, 3, 42, 180, 0, 73, 27, 182, 0, 127, 79, 42, 180, 0, 58, 4, 42, 180, 0, 73, 27]
abbrev dktX0_namingOf_1 : List UInt8 := dkwX0_namingOf_1 ++ dktX0_namingOf_2
def dkwX0_namingOf_0 : List UInt8 := [42, 180, 0, 73, 180, 0, 123, 3, 50, 199, 0, 12, 42, 180, 0, 73, 27, 182, 0, 127, 172, 42]
abbrev dktX0_namingOf_0 : List UInt8 := dkwX0_namingOf_0 ++ dktX0_namingOf_1
theorem dksX0_namingOf_0 : cX0_namingOf.data.toList.drop 0 = dktX0_namingOf_0 := by decide +kernel
theorem dksX0_namingOf_1 : cX0_namingOf.data.toList.drop 22 = dktX0_namingOf_1 := dk_seg dksX0_namingOf_0 22 rfl rfl
theorem dksX0_namingOf_2 : cX0_namingOf.data.toList.drop 45 = dktX0_namingOf_2 := dk_seg dksX0_namingOf_1 23 rfl rfl
theorem dksX0_namingOf_3 : cX0_namingOf.data.toList.drop 69 = dktX0_namingOf_3 := dk_seg dksX0_namingOf_2 24 rfl rfl
theorem dksX0_namingOf_4 : cX0_namingOf.data.toList.drop 93 = dktX0_namingOf_4 := dk_seg dksX0_namingOf_3 24 rfl rfl
theorem dX0_namingOf_0 : decode cX0_namingOf 0 = .ok (.aload_n 0, 1) := dk_42 (dk_at dksX0_namingOf_0 0 rfl rfl)
theorem dX0_namingOf_1 : decode cX0_namingOf 1 = .ok (.getfield 73, 3) := dk_180 0 73 (dk_at dksX0_namingOf_0 1 rfl rfl)
theorem dX0_namingOf_4 : decode cX0_namingOf 4 = .ok (.getfield 123, 3) := dk_180 0 123 (dk_at dksX0_namingOf_0 4 rfl rfl)
theorem dX0_namingOf_7 : decode cX0_namingOf 7 = .ok (.iconst 0, 1) := dk_3 (dk_at dksX0_namingOf_0 7 rfl rfl)
theorem dX0_namingOf_8 : decode cX0_namingOf 8 = .ok (.aaload, 1) := dk_50 (dk_at dksX0_namingOf_0 8 rfl rfl)
theorem dX0_namingOf_9 : decode cX0_namingOf 9 = .ok (.ifnonnull 12, 3) := dk_199 0 12 (dk_at dksX0_namingOf_0 9 rfl rfl)
theorem dX0_namingOf_12 : decode cX0_namingOf 12 = .ok (.aload_n 0, 1) := dk_42 (dk_at dksX0_namingOf_0 12 rfl rfl)
theorem dX0_namingOf_13 : decode cX0_namingOf 13 = .ok (.getfield 73, 3) := dk_180 0 73 (dk_at dksX0_namingOf_0 13 rfl rfl)
theorem dX0_namingOf_16 : decode cX0_namingOf 16 = .ok (.iload_n 1, 1) := dk_27 (dk_at dksX0_namingOf_0 16 rfl rfl)
theorem dX0_namingOf_17 : decode cX0_namingOf 17 = .ok (.invokevirtual 127, 3) := dk_182 0 127 (dk_at dksX0_namingOf_0 17 rfl rfl)
theorem dX0_namingOf_20 : decode cX0_namingOf 20 = .ok (.ireturn, 1) := dk_172 (dk_at dksX0_namingOf_0 20 rfl rfl)
theorem dX0_namingOf_21 : decode cX0_namingOf 21 = .ok (.aload_n 0, 1) := dk_42 (dk_at dksX0_namingOf_0 21 rfl rfl)
theorem dX0_namingOf_22 : decode cX0_namingOf 22 = .ok (.getfield 58, 3) := dk_180 0 58 (dk_at dksX0_namingOf_1 0 rfl rfl)
theorem dX0_namingOf_25 : decode cX0_namingOf 25 = .ok (.iconst 0, 1) := dk_3 (dk_at dksX0_namingOf_1 3 rfl rfl)
theorem dX0_namingOf_26 : decode cX0_namingOf 26 = .ok (.aload_n 0, 1) := dk_42 (dk_at dksX0_namingOf_1 4 rfl rfl)
theorem dX0_namingOf_27 : decode cX0_namingOf 27 = .ok (.getfield 73, 3) := dk_180 0 73 (dk_at dksX0_namingOf_1 5 rfl rfl)
theorem dX0_namingOf_30 : decode cX0_namingOf 30 = .ok (.iload_n 1, 1) := dk_27 (dk_at dksX0_namingOf_1 8 rfl rfl)
theorem dX0_namingOf_31 : decode cX0_namingOf 31 = .ok (.invokevirtual 127, 3) := dk_182 0 127 (dk_at dksX0_namingOf_1 9 rfl rfl)
theorem dX0_namingOf_34 : decode cX0_namingOf 34 = .ok (.iastore, 1) := dk_79 (dk_at dksX0_namingOf_1 12 rfl rfl)
theorem dX0_namingOf_35 : decode cX0_namingOf 35 = .ok (.aload_n 0, 1) := dk_42 (dk_at dksX0_namingOf_1 13 rfl rfl)
theorem dX0_namingOf_36 : decode cX0_namingOf 36 = .ok (.getfield 58, 3) := dk_180 0 58 (dk_at dksX0_namingOf_1 14 rfl rfl)
theorem dX0_namingOf_39 : decode cX0_namingOf 39 = .ok (.iconst 1, 1) := dk_4 (dk_at dksX0_namingOf_1 17 rfl rfl)
theorem dX0_namingOf_40 : decode cX0_namingOf 40 = .ok (.aload_n 0, 1) := dk_42 (dk_at dksX0_namingOf_1 18 rfl rfl)
theorem dX0_namingOf_41 : decode cX0_namingOf 41 = .ok (.getfield 73, 3) := dk_180 0 73 (dk_at dksX0_namingOf_1 19 rfl rfl)
theorem dX0_namingOf_44 : decode cX0_namingOf 44 = .ok (.iload_n 1, 1) := dk_27 (dk_at dksX0_namingOf_1 22 rfl rfl)
theorem dX0_namingOf_45 : decode cX0_namingOf 45 = .ok (.invokevirtual 131, 3) := dk_182 0 131 (dk_at dksX0_namingOf_2 0 rfl rfl)
theorem dX0_namingOf_48 : decode cX0_namingOf 48 = .ok (.iastore, 1) := dk_79 (dk_at dksX0_namingOf_2 3 rfl rfl)
theorem dX0_namingOf_49 : decode cX0_namingOf 49 = .ok (.aload_n 0, 1) := dk_42 (dk_at dksX0_namingOf_2 4 rfl rfl)
theorem dX0_namingOf_50 : decode cX0_namingOf 50 = .ok (.getfield 58, 3) := dk_180 0 58 (dk_at dksX0_namingOf_2 5 rfl rfl)
theorem dX0_namingOf_53 : decode cX0_namingOf 53 = .ok (.iconst 2, 1) := dk_5 (dk_at dksX0_namingOf_2 8 rfl rfl)
theorem dX0_namingOf_54 : decode cX0_namingOf 54 = .ok (.aload_n 0, 1) := dk_42 (dk_at dksX0_namingOf_2 9 rfl rfl)
theorem dX0_namingOf_55 : decode cX0_namingOf 55 = .ok (.getfield 73, 3) := dk_180 0 73 (dk_at dksX0_namingOf_2 10 rfl rfl)
theorem dX0_namingOf_58 : decode cX0_namingOf 58 = .ok (.getfield 134, 3) := dk_180 0 134 (dk_at dksX0_namingOf_2 13 rfl rfl)
theorem dX0_namingOf_61 : decode cX0_namingOf 61 = .ok (.iload_n 1, 1) := dk_27 (dk_at dksX0_namingOf_2 16 rfl rfl)
theorem dX0_namingOf_62 : decode cX0_namingOf 62 = .ok (.iaload, 1) := dk_46 (dk_at dksX0_namingOf_2 17 rfl rfl)
theorem dX0_namingOf_63 : decode cX0_namingOf 63 = .ok (.iastore, 1) := dk_79 (dk_at dksX0_namingOf_2 18 rfl rfl)
theorem dX0_namingOf_64 : decode cX0_namingOf 64 = .ok (.aload_n 0, 1) := dk_42 (dk_at dksX0_namingOf_2 19 rfl rfl)
theorem dX0_namingOf_65 : decode cX0_namingOf 65 = .ok (.getfield 58, 3) := dk_180 0 58 (dk_at dksX0_namingOf_2 20 rfl rfl)
theorem dX0_namingOf_68 : decode cX0_namingOf 68 = .ok (.iconst 3, 1) := dk_6 (dk_at dksX0_namingOf_2 23 rfl rfl)
theorem dX0_namingOf_69 : decode cX0_namingOf 69 = .ok (.aload_n 0, 1) := dk_42 (dk_at dksX0_namingOf_3 0 rfl rfl)
theorem dX0_namingOf_70 : decode cX0_namingOf 70 = .ok (.getfield 73, 3) := dk_180 0 73 (dk_at dksX0_namingOf_3 1 rfl rfl)
theorem dX0_namingOf_73 : decode cX0_namingOf 73 = .ok (.getfield 137, 3) := dk_180 0 137 (dk_at dksX0_namingOf_3 4 rfl rfl)
theorem dX0_namingOf_76 : decode cX0_namingOf 76 = .ok (.iconst 0, 1) := dk_3 (dk_at dksX0_namingOf_3 7 rfl rfl)
theorem dX0_namingOf_77 : decode cX0_namingOf 77 = .ok (.iaload, 1) := dk_46 (dk_at dksX0_namingOf_3 8 rfl rfl)
theorem dX0_namingOf_78 : decode cX0_namingOf 78 = .ok (.iastore, 1) := dk_79 (dk_at dksX0_namingOf_3 9 rfl rfl)
theorem dX0_namingOf_79 : decode cX0_namingOf 79 = .ok (.aload_n 0, 1) := dk_42 (dk_at dksX0_namingOf_3 10 rfl rfl)
theorem dX0_namingOf_80 : decode cX0_namingOf 80 = .ok (.getfield 58, 3) := dk_180 0 58 (dk_at dksX0_namingOf_3 11 rfl rfl)
theorem dX0_namingOf_83 : decode cX0_namingOf 83 = .ok (.iconst 4, 1) := dk_7 (dk_at dksX0_namingOf_3 14 rfl rfl)
theorem dX0_namingOf_84 : decode cX0_namingOf 84 = .ok (.aload_n 0, 1) := dk_42 (dk_at dksX0_namingOf_3 15 rfl rfl)
theorem dX0_namingOf_85 : decode cX0_namingOf 85 = .ok (.getfield 73, 3) := dk_180 0 73 (dk_at dksX0_namingOf_3 16 rfl rfl)
theorem dX0_namingOf_88 : decode cX0_namingOf 88 = .ok (.getfield 140, 3) := dk_180 0 140 (dk_at dksX0_namingOf_3 19 rfl rfl)
theorem dX0_namingOf_91 : decode cX0_namingOf 91 = .ok (.iastore, 1) := dk_79 (dk_at dksX0_namingOf_3 22 rfl rfl)
theorem dX0_namingOf_92 : decode cX0_namingOf 92 = .ok (.aload_n 0, 1) := dk_42 (dk_at dksX0_namingOf_3 23 rfl rfl)
theorem dX0_namingOf_93 : decode cX0_namingOf 93 = .ok (.aload_n 0, 1) := dk_42 (dk_at dksX0_namingOf_4 0 rfl rfl)
theorem dX0_namingOf_94 : decode cX0_namingOf 94 = .ok (.getfield 73, 3) := dk_180 0 73 (dk_at dksX0_namingOf_4 1 rfl rfl)
theorem dX0_namingOf_97 : decode cX0_namingOf 97 = .ok (.getfield 123, 3) := dk_180 0 123 (dk_at dksX0_namingOf_4 4 rfl rfl)
theorem dX0_namingOf_100 : decode cX0_namingOf 100 = .ok (.iconst 0, 1) := dk_3 (dk_at dksX0_namingOf_4 7 rfl rfl)
theorem dX0_namingOf_101 : decode cX0_namingOf 101 = .ok (.aaload, 1) := dk_50 (dk_at dksX0_namingOf_4 8 rfl rfl)
theorem dX0_namingOf_102 : decode cX0_namingOf 102 = .ok (.invokevirtual 143, 3) := dk_182 0 143 (dk_at dksX0_namingOf_4 9 rfl rfl)
theorem dX0_namingOf_105 : decode cX0_namingOf 105 = .ok (.ireturn, 1) := dk_172 (dk_at dksX0_namingOf_4 12 rfl rfl)
abbrev cX0_worked : ByteArray := prog_1_method_7_code
def yX0_worked : MethodName := ⟨RX0, "worked", "(LNamedPrices$Text;)I"⟩
def dkwX0_worked_6 : List UInt8 := [180, 0, 50, 3, 46, 172]
abbrev dktX0_worked_6 : List UInt8 := dkwX0_worked_6 ++ []
def dkwX0_worked_5 : List UInt8 := [180, 0, 50, 28, 4, 100, 46, 42, 180, 0, 50, 28, 46, 184, 0, 61, 79, 132, 3, 1, 167, 255, 124, 42]
abbrev dktX0_worked_5 : List UInt8 := dkwX0_worked_5 ++ dktX0_worked_6
def dkwX0_worked_4 : List UInt8 := [4, 167, 0, 4, 3, 79, 167, 0, 33, 132, 2, 255, 42, 180, 0, 50, 28, 4, 100, 21, 4, 42]
abbrev dktX0_worked_4 : List UInt8 := dkwX0_worked_4 ++ dktX0_worked_5
def dkwX0_worked_3 : List UInt8 := [21, 4, 6, 160, 0, 30, 42, 180, 0, 50, 28, 4, 100, 42, 180, 0, 50, 28, 4, 100, 46, 154, 0, 7]
abbrev dktX0_worked_3 : List UInt8 := dkwX0_worked_3 ++ dktX0_worked_4
def dkwX0_worked_2 : List UInt8 := [29, 53, 167, 0, 14, 42, 180, 0, 58, 43, 180, 0, 54, 29, 53, 46, 79, 132, 2, 1, 167, 0, 66]
abbrev dktX0_worked_2 : List UInt8 := dkwX0_worked_2 ++ dktX0_worked_3
def dkwX0_worked_1 : List UInt8 := [159, 0, 9, 21, 4, 5, 160, 0, 41, 42, 180, 0, 50, 28, 21, 4, 4, 160, 0, 12, 43, 180, 0, 54]
abbrev dktX0_worked_1 : List UInt8 := dkwX0_worked_1 ++ dktX0_worked_2
def dkwX0_worked_0 : List UInt8 := [3, 61, 3, 62, 29, 43, 180, 0, 38, 162, 0, 130, 43, 180, 0, 44, 29, 51, 54, 4, 21, 4, 4]
abbrev dktX0_worked_0 : List UInt8 := dkwX0_worked_0 ++ dktX0_worked_1
theorem dksX0_worked_0 : cX0_worked.data.toList.drop 0 = dktX0_worked_0 := by decide +kernel
theorem dksX0_worked_1 : cX0_worked.data.toList.drop 23 = dktX0_worked_1 := dk_seg dksX0_worked_0 23 rfl rfl
theorem dksX0_worked_2 : cX0_worked.data.toList.drop 47 = dktX0_worked_2 := dk_seg dksX0_worked_1 24 rfl rfl
theorem dksX0_worked_3 : cX0_worked.data.toList.drop 70 = dktX0_worked_3 := dk_seg dksX0_worked_2 23 rfl rfl
theorem dksX0_worked_4 : cX0_worked.data.toList.drop 94 = dktX0_worked_4 := dk_seg dksX0_worked_3 24 rfl rfl
theorem dksX0_worked_5 : cX0_worked.data.toList.drop 116 = dktX0_worked_5 := dk_seg dksX0_worked_4 22 rfl rfl
theorem dksX0_worked_6 : cX0_worked.data.toList.drop 140 = dktX0_worked_6 := dk_seg dksX0_worked_5 24 rfl rfl
theorem dX0_worked_0 : decode cX0_worked 0 = .ok (.iconst 0, 1) := dk_3 (dk_at dksX0_worked_0 0 rfl rfl)
theorem dX0_worked_1 : decode cX0_worked 1 = .ok (.istore_n 2, 1) := dk_61 (dk_at dksX0_worked_0 1 rfl rfl)
theorem dX0_worked_2 : decode cX0_worked 2 = .ok (.iconst 0, 1) := dk_3 (dk_at dksX0_worked_0 2 rfl rfl)
theorem dX0_worked_3 : decode cX0_worked 3 = .ok (.istore_n 3, 1) := dk_62 (dk_at dksX0_worked_0 3 rfl rfl)
theorem dX0_worked_4 : decode cX0_worked 4 = .ok (.iload_n 3, 1) := dk_29 (dk_at dksX0_worked_0 4 rfl rfl)
theorem dX0_worked_5 : decode cX0_worked 5 = .ok (.aload_n 1, 1) := dk_43 (dk_at dksX0_worked_0 5 rfl rfl)
theorem dX0_worked_6 : decode cX0_worked 6 = .ok (.getfield 38, 3) := dk_180 0 38 (dk_at dksX0_worked_0 6 rfl rfl)
theorem dX0_worked_9 : decode cX0_worked 9 = .ok (.if_icmp .ge 130, 3) := dk_162 0 130 (dk_at dksX0_worked_0 9 rfl rfl)
theorem dX0_worked_12 : decode cX0_worked 12 = .ok (.aload_n 1, 1) := dk_43 (dk_at dksX0_worked_0 12 rfl rfl)
theorem dX0_worked_13 : decode cX0_worked 13 = .ok (.getfield 44, 3) := dk_180 0 44 (dk_at dksX0_worked_0 13 rfl rfl)
theorem dX0_worked_16 : decode cX0_worked 16 = .ok (.iload_n 3, 1) := dk_29 (dk_at dksX0_worked_0 16 rfl rfl)
theorem dX0_worked_17 : decode cX0_worked 17 = .ok (.baload, 1) := dk_51 (dk_at dksX0_worked_0 17 rfl rfl)
theorem dX0_worked_18 : decode cX0_worked 18 = .ok (.istore 4, 2) := dk_54 4 (dk_at dksX0_worked_0 18 rfl rfl)
theorem dX0_worked_20 : decode cX0_worked 20 = .ok (.iload 4, 2) := dk_21 4 (dk_at dksX0_worked_0 20 rfl rfl)
theorem dX0_worked_22 : decode cX0_worked 22 = .ok (.iconst 1, 1) := dk_4 (dk_at dksX0_worked_0 22 rfl rfl)
theorem dX0_worked_23 : decode cX0_worked 23 = .ok (.if_icmp .eq 9, 3) := dk_159 0 9 (dk_at dksX0_worked_1 0 rfl rfl)
theorem dX0_worked_26 : decode cX0_worked 26 = .ok (.iload 4, 2) := dk_21 4 (dk_at dksX0_worked_1 3 rfl rfl)
theorem dX0_worked_28 : decode cX0_worked 28 = .ok (.iconst 2, 1) := dk_5 (dk_at dksX0_worked_1 5 rfl rfl)
theorem dX0_worked_29 : decode cX0_worked 29 = .ok (.if_icmp .ne 41, 3) := dk_160 0 41 (dk_at dksX0_worked_1 6 rfl rfl)
theorem dX0_worked_32 : decode cX0_worked 32 = .ok (.aload_n 0, 1) := dk_42 (dk_at dksX0_worked_1 9 rfl rfl)
theorem dX0_worked_33 : decode cX0_worked 33 = .ok (.getfield 50, 3) := dk_180 0 50 (dk_at dksX0_worked_1 10 rfl rfl)
theorem dX0_worked_36 : decode cX0_worked 36 = .ok (.iload_n 2, 1) := dk_28 (dk_at dksX0_worked_1 13 rfl rfl)
theorem dX0_worked_37 : decode cX0_worked 37 = .ok (.iload 4, 2) := dk_21 4 (dk_at dksX0_worked_1 14 rfl rfl)
theorem dX0_worked_39 : decode cX0_worked 39 = .ok (.iconst 1, 1) := dk_4 (dk_at dksX0_worked_1 16 rfl rfl)
theorem dX0_worked_40 : decode cX0_worked 40 = .ok (.if_icmp .ne 12, 3) := dk_160 0 12 (dk_at dksX0_worked_1 17 rfl rfl)
theorem dX0_worked_43 : decode cX0_worked 43 = .ok (.aload_n 1, 1) := dk_43 (dk_at dksX0_worked_1 20 rfl rfl)
theorem dX0_worked_44 : decode cX0_worked 44 = .ok (.getfield 54, 3) := dk_180 0 54 (dk_at dksX0_worked_1 21 rfl rfl)
theorem dX0_worked_47 : decode cX0_worked 47 = .ok (.iload_n 3, 1) := dk_29 (dk_at dksX0_worked_2 0 rfl rfl)
theorem dX0_worked_48 : decode cX0_worked 48 = .ok (.saload, 1) := dk_53 (dk_at dksX0_worked_2 1 rfl rfl)
theorem dX0_worked_49 : decode cX0_worked 49 = .ok (.goto 14, 3) := dk_167 0 14 (dk_at dksX0_worked_2 2 rfl rfl)
theorem dX0_worked_52 : decode cX0_worked 52 = .ok (.aload_n 0, 1) := dk_42 (dk_at dksX0_worked_2 5 rfl rfl)
theorem dX0_worked_53 : decode cX0_worked 53 = .ok (.getfield 58, 3) := dk_180 0 58 (dk_at dksX0_worked_2 6 rfl rfl)
theorem dX0_worked_56 : decode cX0_worked 56 = .ok (.aload_n 1, 1) := dk_43 (dk_at dksX0_worked_2 9 rfl rfl)
theorem dX0_worked_57 : decode cX0_worked 57 = .ok (.getfield 54, 3) := dk_180 0 54 (dk_at dksX0_worked_2 10 rfl rfl)
theorem dX0_worked_60 : decode cX0_worked 60 = .ok (.iload_n 3, 1) := dk_29 (dk_at dksX0_worked_2 13 rfl rfl)
theorem dX0_worked_61 : decode cX0_worked 61 = .ok (.saload, 1) := dk_53 (dk_at dksX0_worked_2 14 rfl rfl)
theorem dX0_worked_62 : decode cX0_worked 62 = .ok (.iaload, 1) := dk_46 (dk_at dksX0_worked_2 15 rfl rfl)
theorem dX0_worked_63 : decode cX0_worked 63 = .ok (.iastore, 1) := dk_79 (dk_at dksX0_worked_2 16 rfl rfl)
theorem dX0_worked_64 : decode cX0_worked 64 = .ok (.iinc 2 1, 3) := dk_132 2 1 (dk_at dksX0_worked_2 17 rfl rfl)
theorem dX0_worked_67 : decode cX0_worked 67 = .ok (.goto 66, 3) := dk_167 0 66 (dk_at dksX0_worked_2 20 rfl rfl)
theorem dX0_worked_70 : decode cX0_worked 70 = .ok (.iload 4, 2) := dk_21 4 (dk_at dksX0_worked_3 0 rfl rfl)
theorem dX0_worked_72 : decode cX0_worked 72 = .ok (.iconst 3, 1) := dk_6 (dk_at dksX0_worked_3 2 rfl rfl)
theorem dX0_worked_73 : decode cX0_worked 73 = .ok (.if_icmp .ne 30, 3) := dk_160 0 30 (dk_at dksX0_worked_3 3 rfl rfl)
theorem dX0_worked_76 : decode cX0_worked 76 = .ok (.aload_n 0, 1) := dk_42 (dk_at dksX0_worked_3 6 rfl rfl)
theorem dX0_worked_77 : decode cX0_worked 77 = .ok (.getfield 50, 3) := dk_180 0 50 (dk_at dksX0_worked_3 7 rfl rfl)
theorem dX0_worked_80 : decode cX0_worked 80 = .ok (.iload_n 2, 1) := dk_28 (dk_at dksX0_worked_3 10 rfl rfl)
theorem dX0_worked_81 : decode cX0_worked 81 = .ok (.iconst 1, 1) := dk_4 (dk_at dksX0_worked_3 11 rfl rfl)
theorem dX0_worked_82 : decode cX0_worked 82 = .ok (.isub, 1) := dk_100 (dk_at dksX0_worked_3 12 rfl rfl)
theorem dX0_worked_83 : decode cX0_worked 83 = .ok (.aload_n 0, 1) := dk_42 (dk_at dksX0_worked_3 13 rfl rfl)
theorem dX0_worked_84 : decode cX0_worked 84 = .ok (.getfield 50, 3) := dk_180 0 50 (dk_at dksX0_worked_3 14 rfl rfl)
theorem dX0_worked_87 : decode cX0_worked 87 = .ok (.iload_n 2, 1) := dk_28 (dk_at dksX0_worked_3 17 rfl rfl)
theorem dX0_worked_88 : decode cX0_worked 88 = .ok (.iconst 1, 1) := dk_4 (dk_at dksX0_worked_3 18 rfl rfl)
theorem dX0_worked_89 : decode cX0_worked 89 = .ok (.isub, 1) := dk_100 (dk_at dksX0_worked_3 19 rfl rfl)
theorem dX0_worked_90 : decode cX0_worked 90 = .ok (.iaload, 1) := dk_46 (dk_at dksX0_worked_3 20 rfl rfl)
theorem dX0_worked_91 : decode cX0_worked 91 = .ok (.ifCond .ne 7, 3) := dk_154 0 7 (dk_at dksX0_worked_3 21 rfl rfl)
theorem dX0_worked_94 : decode cX0_worked 94 = .ok (.iconst 1, 1) := dk_4 (dk_at dksX0_worked_4 0 rfl rfl)
theorem dX0_worked_95 : decode cX0_worked 95 = .ok (.goto 4, 3) := dk_167 0 4 (dk_at dksX0_worked_4 1 rfl rfl)
theorem dX0_worked_98 : decode cX0_worked 98 = .ok (.iconst 0, 1) := dk_3 (dk_at dksX0_worked_4 4 rfl rfl)
theorem dX0_worked_99 : decode cX0_worked 99 = .ok (.iastore, 1) := dk_79 (dk_at dksX0_worked_4 5 rfl rfl)
theorem dX0_worked_100 : decode cX0_worked 100 = .ok (.goto 33, 3) := dk_167 0 33 (dk_at dksX0_worked_4 6 rfl rfl)
theorem dX0_worked_103 : decode cX0_worked 103 = .ok (.iinc 2 (-1), 3) := dk_132 2 255 (dk_at dksX0_worked_4 9 rfl rfl)
theorem dX0_worked_106 : decode cX0_worked 106 = .ok (.aload_n 0, 1) := dk_42 (dk_at dksX0_worked_4 12 rfl rfl)
theorem dX0_worked_107 : decode cX0_worked 107 = .ok (.getfield 50, 3) := dk_180 0 50 (dk_at dksX0_worked_4 13 rfl rfl)
theorem dX0_worked_110 : decode cX0_worked 110 = .ok (.iload_n 2, 1) := dk_28 (dk_at dksX0_worked_4 16 rfl rfl)
theorem dX0_worked_111 : decode cX0_worked 111 = .ok (.iconst 1, 1) := dk_4 (dk_at dksX0_worked_4 17 rfl rfl)
theorem dX0_worked_112 : decode cX0_worked 112 = .ok (.isub, 1) := dk_100 (dk_at dksX0_worked_4 18 rfl rfl)
theorem dX0_worked_113 : decode cX0_worked 113 = .ok (.iload 4, 2) := dk_21 4 (dk_at dksX0_worked_4 19 rfl rfl)
theorem dX0_worked_115 : decode cX0_worked 115 = .ok (.aload_n 0, 1) := dk_42 (dk_at dksX0_worked_4 21 rfl rfl)
theorem dX0_worked_116 : decode cX0_worked 116 = .ok (.getfield 50, 3) := dk_180 0 50 (dk_at dksX0_worked_5 0 rfl rfl)
theorem dX0_worked_119 : decode cX0_worked 119 = .ok (.iload_n 2, 1) := dk_28 (dk_at dksX0_worked_5 3 rfl rfl)
theorem dX0_worked_120 : decode cX0_worked 120 = .ok (.iconst 1, 1) := dk_4 (dk_at dksX0_worked_5 4 rfl rfl)
theorem dX0_worked_121 : decode cX0_worked 121 = .ok (.isub, 1) := dk_100 (dk_at dksX0_worked_5 5 rfl rfl)
theorem dX0_worked_122 : decode cX0_worked 122 = .ok (.iaload, 1) := dk_46 (dk_at dksX0_worked_5 6 rfl rfl)
theorem dX0_worked_123 : decode cX0_worked 123 = .ok (.aload_n 0, 1) := dk_42 (dk_at dksX0_worked_5 7 rfl rfl)
theorem dX0_worked_124 : decode cX0_worked 124 = .ok (.getfield 50, 3) := dk_180 0 50 (dk_at dksX0_worked_5 8 rfl rfl)
theorem dX0_worked_127 : decode cX0_worked 127 = .ok (.iload_n 2, 1) := dk_28 (dk_at dksX0_worked_5 11 rfl rfl)
theorem dX0_worked_128 : decode cX0_worked 128 = .ok (.iaload, 1) := dk_46 (dk_at dksX0_worked_5 12 rfl rfl)
theorem dX0_worked_129 : decode cX0_worked 129 = .ok (.invokestatic 61, 3) := dk_184 0 61 (dk_at dksX0_worked_5 13 rfl rfl)
theorem dX0_worked_132 : decode cX0_worked 132 = .ok (.iastore, 1) := dk_79 (dk_at dksX0_worked_5 16 rfl rfl)
theorem dX0_worked_133 : decode cX0_worked 133 = .ok (.iinc 3 1, 3) := dk_132 3 1 (dk_at dksX0_worked_5 17 rfl rfl)
theorem dX0_worked_136 : decode cX0_worked 136 = .ok (.goto (-132), 3) := dk_167 255 124 (dk_at dksX0_worked_5 20 rfl rfl)
theorem dX0_worked_139 : decode cX0_worked 139 = .ok (.aload_n 0, 1) := dk_42 (dk_at dksX0_worked_5 23 rfl rfl)
theorem dX0_worked_140 : decode cX0_worked 140 = .ok (.getfield 50, 3) := dk_180 0 50 (dk_at dksX0_worked_6 0 rfl rfl)
theorem dX0_worked_143 : decode cX0_worked 143 = .ok (.iconst 0, 1) := dk_3 (dk_at dksX0_worked_6 3 rfl rfl)
theorem dX0_worked_144 : decode cX0_worked 144 = .ok (.iaload, 1) := dk_46 (dk_at dksX0_worked_6 4 rfl rfl)
theorem dX0_worked_145 : decode cX0_worked 145 = .ok (.ireturn, 1) := dk_172 (dk_at dksX0_worked_6 5 rfl rfl)
abbrev cX0_both : ByteArray := prog_1_method_6_code
def yX0_both : MethodName := ⟨RX0, "both", "(III)I"⟩
def dkwX0_both_6 : List UInt8 := [167, 0, 4, 3, 172]
abbrev dktX0_both_6 : List UInt8 := dkwX0_both_6 ++ []
def dkwX0_both_5 : List UInt8 := [153, 0, 11, 28, 153, 0, 7, 4, 167, 0, 4, 3, 172, 27, 154, 0, 7, 28, 153, 0, 7, 4]
abbrev dktX0_both_5 : List UInt8 := dkwX0_both_5 ++ dktX0_both_6
def dkwX0_both_4 : List UInt8 := [28, 160, 0, 7, 4, 167, 0, 4, 3, 172, 27, 28, 164, 0, 7, 4, 167, 0, 4, 3, 172, 27]
abbrev dktX0_both_4 : List UInt8 := dkwX0_both_4 ++ dktX0_both_5
def dkwX0_both_3 : List UInt8 := [28, 154, 0, 7, 3, 167, 0, 6, 27, 28, 112, 172, 27, 28, 162, 0, 7, 4, 167, 0, 4, 3, 172, 27]
abbrev dktX0_both_3 : List UInt8 := dkwX0_both_3 ++ dktX0_both_4
def dkwX0_both_2 : List UInt8 := [27, 28, 96, 172, 27, 28, 100, 172, 27, 28, 104, 172, 28, 154, 0, 7, 3, 167, 0, 6, 27, 28, 108, 172]
abbrev dktX0_both_2 : List UInt8 := dkwX0_both_2 ++ dktX0_both_3
def dkwX0_both_1 : List UInt8 := [170, 0, 0, 0, 0, 0, 202, 0, 0, 0, 37, 0, 0, 0, 62, 0, 0, 0, 143, 0, 0, 0, 188, 0, 0, 0, 202, 0, 0, 0, 202, 0, 0, 0, 202, 0, 0, 0, 127, 0, 0, 0, 119, 0, 0, 0, 202, 0, 0, 0, 123, 0, 0, 0, 202, 0, 0, 0, 131, 0, 0, 0, 202, 0, 0, 0, 202, 0, 0, 0, 202, 0, 0, 0, 202, 0, 0, 0, 202, 0, 0, 0, 202, 0, 0, 0, 202, 0, 0, 0, 202, 0, 0, 0, 202, 0, 0, 0, 202, 0, 0, 0, 202, 0, 0, 0, 202, 0, 0, 0, 155, 0, 0, 0, 166, 0, 0, 0, 177]
abbrev dktX0_both_1 : List UInt8 := dkwX0_both_1 ++ dktX0_both_2
def dkwX0_both_0 : List UInt8 := [26]
abbrev dktX0_both_0 : List UInt8 := dkwX0_both_0 ++ dktX0_both_1
theorem dksX0_both_0 : cX0_both.data.toList.drop 0 = dktX0_both_0 := by decide +kernel
theorem dksX0_both_1 : cX0_both.data.toList.drop 1 = dktX0_both_1 := dk_seg dksX0_both_0 1 rfl rfl
theorem dksX0_both_2 : cX0_both.data.toList.drop 120 = dktX0_both_2 := dk_seg dksX0_both_1 119 rfl rfl
theorem dksX0_both_3 : cX0_both.data.toList.drop 144 = dktX0_both_3 := dk_seg dksX0_both_2 24 rfl rfl
theorem dksX0_both_4 : cX0_both.data.toList.drop 168 = dktX0_both_4 := dk_seg dksX0_both_3 24 rfl rfl
theorem dksX0_both_5 : cX0_both.data.toList.drop 190 = dktX0_both_5 := dk_seg dksX0_both_4 22 rfl rfl
theorem dksX0_both_6 : cX0_both.data.toList.drop 212 = dktX0_both_6 := dk_seg dksX0_both_5 22 rfl rfl
theorem dX0_both_0 : decode cX0_both 0 = .ok (.iload_n 0, 1) := dk_26 (dk_at dksX0_both_0 0 rfl rfl)
theorem dX0_both_1 : decode cX0_both 1 = .ok (.tableswitch 202 37 62 #[143, 188, 202, 202, 202, 127, 119, 202, 123, 202, 131, 202, 202, 202, 202, 202, 202, 202, 202, 202, 202, 202, 202, 155, 166, 177], 119) := by decide +kernel
theorem dX0_both_120 : decode cX0_both 120 = .ok (.iload_n 1, 1) := dk_27 (dk_at dksX0_both_2 0 rfl rfl)
theorem dX0_both_121 : decode cX0_both 121 = .ok (.iload_n 2, 1) := dk_28 (dk_at dksX0_both_2 1 rfl rfl)
theorem dX0_both_122 : decode cX0_both 122 = .ok (.iadd, 1) := dk_96 (dk_at dksX0_both_2 2 rfl rfl)
theorem dX0_both_123 : decode cX0_both 123 = .ok (.ireturn, 1) := dk_172 (dk_at dksX0_both_2 3 rfl rfl)
theorem dX0_both_124 : decode cX0_both 124 = .ok (.iload_n 1, 1) := dk_27 (dk_at dksX0_both_2 4 rfl rfl)
theorem dX0_both_125 : decode cX0_both 125 = .ok (.iload_n 2, 1) := dk_28 (dk_at dksX0_both_2 5 rfl rfl)
theorem dX0_both_126 : decode cX0_both 126 = .ok (.isub, 1) := dk_100 (dk_at dksX0_both_2 6 rfl rfl)
theorem dX0_both_127 : decode cX0_both 127 = .ok (.ireturn, 1) := dk_172 (dk_at dksX0_both_2 7 rfl rfl)
theorem dX0_both_128 : decode cX0_both 128 = .ok (.iload_n 1, 1) := dk_27 (dk_at dksX0_both_2 8 rfl rfl)
theorem dX0_both_129 : decode cX0_both 129 = .ok (.iload_n 2, 1) := dk_28 (dk_at dksX0_both_2 9 rfl rfl)
theorem dX0_both_130 : decode cX0_both 130 = .ok (.imul, 1) := dk_104 (dk_at dksX0_both_2 10 rfl rfl)
theorem dX0_both_131 : decode cX0_both 131 = .ok (.ireturn, 1) := dk_172 (dk_at dksX0_both_2 11 rfl rfl)
theorem dX0_both_132 : decode cX0_both 132 = .ok (.iload_n 2, 1) := dk_28 (dk_at dksX0_both_2 12 rfl rfl)
theorem dX0_both_133 : decode cX0_both 133 = .ok (.ifCond .ne 7, 3) := dk_154 0 7 (dk_at dksX0_both_2 13 rfl rfl)
theorem dX0_both_136 : decode cX0_both 136 = .ok (.iconst 0, 1) := dk_3 (dk_at dksX0_both_2 16 rfl rfl)
theorem dX0_both_137 : decode cX0_both 137 = .ok (.goto 6, 3) := dk_167 0 6 (dk_at dksX0_both_2 17 rfl rfl)
theorem dX0_both_140 : decode cX0_both 140 = .ok (.iload_n 1, 1) := dk_27 (dk_at dksX0_both_2 20 rfl rfl)
theorem dX0_both_141 : decode cX0_both 141 = .ok (.iload_n 2, 1) := dk_28 (dk_at dksX0_both_2 21 rfl rfl)
theorem dX0_both_142 : decode cX0_both 142 = .ok (.idiv, 1) := dk_108 (dk_at dksX0_both_2 22 rfl rfl)
theorem dX0_both_143 : decode cX0_both 143 = .ok (.ireturn, 1) := dk_172 (dk_at dksX0_both_2 23 rfl rfl)
theorem dX0_both_144 : decode cX0_both 144 = .ok (.iload_n 2, 1) := dk_28 (dk_at dksX0_both_3 0 rfl rfl)
theorem dX0_both_145 : decode cX0_both 145 = .ok (.ifCond .ne 7, 3) := dk_154 0 7 (dk_at dksX0_both_3 1 rfl rfl)
theorem dX0_both_148 : decode cX0_both 148 = .ok (.iconst 0, 1) := dk_3 (dk_at dksX0_both_3 4 rfl rfl)
theorem dX0_both_149 : decode cX0_both 149 = .ok (.goto 6, 3) := dk_167 0 6 (dk_at dksX0_both_3 5 rfl rfl)
theorem dX0_both_152 : decode cX0_both 152 = .ok (.iload_n 1, 1) := dk_27 (dk_at dksX0_both_3 8 rfl rfl)
theorem dX0_both_153 : decode cX0_both 153 = .ok (.iload_n 2, 1) := dk_28 (dk_at dksX0_both_3 9 rfl rfl)
theorem dX0_both_154 : decode cX0_both 154 = .ok (.irem, 1) := dk_112 (dk_at dksX0_both_3 10 rfl rfl)
theorem dX0_both_155 : decode cX0_both 155 = .ok (.ireturn, 1) := dk_172 (dk_at dksX0_both_3 11 rfl rfl)
theorem dX0_both_156 : decode cX0_both 156 = .ok (.iload_n 1, 1) := dk_27 (dk_at dksX0_both_3 12 rfl rfl)
theorem dX0_both_157 : decode cX0_both 157 = .ok (.iload_n 2, 1) := dk_28 (dk_at dksX0_both_3 13 rfl rfl)
theorem dX0_both_158 : decode cX0_both 158 = .ok (.if_icmp .ge 7, 3) := dk_162 0 7 (dk_at dksX0_both_3 14 rfl rfl)
theorem dX0_both_161 : decode cX0_both 161 = .ok (.iconst 1, 1) := dk_4 (dk_at dksX0_both_3 17 rfl rfl)
theorem dX0_both_162 : decode cX0_both 162 = .ok (.goto 4, 3) := dk_167 0 4 (dk_at dksX0_both_3 18 rfl rfl)
theorem dX0_both_165 : decode cX0_both 165 = .ok (.iconst 0, 1) := dk_3 (dk_at dksX0_both_3 21 rfl rfl)
theorem dX0_both_166 : decode cX0_both 166 = .ok (.ireturn, 1) := dk_172 (dk_at dksX0_both_3 22 rfl rfl)
theorem dX0_both_167 : decode cX0_both 167 = .ok (.iload_n 1, 1) := dk_27 (dk_at dksX0_both_3 23 rfl rfl)
theorem dX0_both_168 : decode cX0_both 168 = .ok (.iload_n 2, 1) := dk_28 (dk_at dksX0_both_4 0 rfl rfl)
theorem dX0_both_169 : decode cX0_both 169 = .ok (.if_icmp .ne 7, 3) := dk_160 0 7 (dk_at dksX0_both_4 1 rfl rfl)
theorem dX0_both_172 : decode cX0_both 172 = .ok (.iconst 1, 1) := dk_4 (dk_at dksX0_both_4 4 rfl rfl)
theorem dX0_both_173 : decode cX0_both 173 = .ok (.goto 4, 3) := dk_167 0 4 (dk_at dksX0_both_4 5 rfl rfl)
theorem dX0_both_176 : decode cX0_both 176 = .ok (.iconst 0, 1) := dk_3 (dk_at dksX0_both_4 8 rfl rfl)
theorem dX0_both_177 : decode cX0_both 177 = .ok (.ireturn, 1) := dk_172 (dk_at dksX0_both_4 9 rfl rfl)
theorem dX0_both_178 : decode cX0_both 178 = .ok (.iload_n 1, 1) := dk_27 (dk_at dksX0_both_4 10 rfl rfl)
theorem dX0_both_179 : decode cX0_both 179 = .ok (.iload_n 2, 1) := dk_28 (dk_at dksX0_both_4 11 rfl rfl)
theorem dX0_both_180 : decode cX0_both 180 = .ok (.if_icmp .le 7, 3) := dk_164 0 7 (dk_at dksX0_both_4 12 rfl rfl)
theorem dX0_both_183 : decode cX0_both 183 = .ok (.iconst 1, 1) := dk_4 (dk_at dksX0_both_4 15 rfl rfl)
theorem dX0_both_184 : decode cX0_both 184 = .ok (.goto 4, 3) := dk_167 0 4 (dk_at dksX0_both_4 16 rfl rfl)
theorem dX0_both_187 : decode cX0_both 187 = .ok (.iconst 0, 1) := dk_3 (dk_at dksX0_both_4 19 rfl rfl)
theorem dX0_both_188 : decode cX0_both 188 = .ok (.ireturn, 1) := dk_172 (dk_at dksX0_both_4 20 rfl rfl)
theorem dX0_both_189 : decode cX0_both 189 = .ok (.iload_n 1, 1) := dk_27 (dk_at dksX0_both_4 21 rfl rfl)
theorem dX0_both_190 : decode cX0_both 190 = .ok (.ifCond .eq 11, 3) := dk_153 0 11 (dk_at dksX0_both_5 0 rfl rfl)
theorem dX0_both_193 : decode cX0_both 193 = .ok (.iload_n 2, 1) := dk_28 (dk_at dksX0_both_5 3 rfl rfl)
theorem dX0_both_194 : decode cX0_both 194 = .ok (.ifCond .eq 7, 3) := dk_153 0 7 (dk_at dksX0_both_5 4 rfl rfl)
theorem dX0_both_197 : decode cX0_both 197 = .ok (.iconst 1, 1) := dk_4 (dk_at dksX0_both_5 7 rfl rfl)
theorem dX0_both_198 : decode cX0_both 198 = .ok (.goto 4, 3) := dk_167 0 4 (dk_at dksX0_both_5 8 rfl rfl)
theorem dX0_both_201 : decode cX0_both 201 = .ok (.iconst 0, 1) := dk_3 (dk_at dksX0_both_5 11 rfl rfl)
theorem dX0_both_202 : decode cX0_both 202 = .ok (.ireturn, 1) := dk_172 (dk_at dksX0_both_5 12 rfl rfl)
theorem dX0_both_203 : decode cX0_both 203 = .ok (.iload_n 1, 1) := dk_27 (dk_at dksX0_both_5 13 rfl rfl)
theorem dX0_both_204 : decode cX0_both 204 = .ok (.ifCond .ne 7, 3) := dk_154 0 7 (dk_at dksX0_both_5 14 rfl rfl)
theorem dX0_both_207 : decode cX0_both 207 = .ok (.iload_n 2, 1) := dk_28 (dk_at dksX0_both_5 17 rfl rfl)
theorem dX0_both_208 : decode cX0_both 208 = .ok (.ifCond .eq 7, 3) := dk_153 0 7 (dk_at dksX0_both_5 18 rfl rfl)
theorem dX0_both_211 : decode cX0_both 211 = .ok (.iconst 1, 1) := dk_4 (dk_at dksX0_both_5 21 rfl rfl)
theorem dX0_both_212 : decode cX0_both 212 = .ok (.goto 4, 3) := dk_167 0 4 (dk_at dksX0_both_6 0 rfl rfl)
theorem dX0_both_215 : decode cX0_both 215 = .ok (.iconst 0, 1) := dk_3 (dk_at dksX0_both_6 3 rfl rfl)
theorem dX0_both_216 : decode cX0_both 216 = .ok (.ireturn, 1) := dk_172 (dk_at dksX0_both_6 4 rfl rfl)
abbrev cX0_held : ByteArray := prog_1_method_2_code
def yX0_held : MethodName := ⟨RX0, "held", "(JII)I"⟩
def dkwX0_held_0 : List UInt8 := [28, 133, 29, 133, 30, 184, 0, 1, 184, 0, 7, 136, 172]
abbrev dktX0_held_0 : List UInt8 := dkwX0_held_0 ++ []
theorem dksX0_held_0 : cX0_held.data.toList.drop 0 = dktX0_held_0 := by decide +kernel
theorem dX0_held_0 : decode cX0_held 0 = .ok (.iload_n 2, 1) := dk_28 (dk_at dksX0_held_0 0 rfl rfl)
theorem dX0_held_1 : decode cX0_held 1 = .ok (.i2l, 1) := dk_133 (dk_at dksX0_held_0 1 rfl rfl)
theorem dX0_held_2 : decode cX0_held 2 = .ok (.iload_n 3, 1) := dk_29 (dk_at dksX0_held_0 2 rfl rfl)
theorem dX0_held_3 : decode cX0_held 3 = .ok (.i2l, 1) := dk_133 (dk_at dksX0_held_0 3 rfl rfl)
theorem dX0_held_4 : decode cX0_held 4 = .ok (.lload_n 0, 1) := dk_30 (dk_at dksX0_held_0 4 rfl rfl)
theorem dX0_held_5 : decode cX0_held 5 = .ok (.invokestatic 1, 3) := dk_184 0 1 (dk_at dksX0_held_0 5 rfl rfl)
theorem dX0_held_8 : decode cX0_held 8 = .ok (.invokestatic 7, 3) := dk_184 0 7 (dk_at dksX0_held_0 8 rfl rfl)
theorem dX0_held_11 : decode cX0_held 11 = .ok (.l2i, 1) := dk_136 (dk_at dksX0_held_0 11 rfl rfl)
theorem dX0_held_12 : decode cX0_held 12 = .ok (.ireturn, 1) := dk_172 (dk_at dksX0_held_0 12 rfl rfl)
abbrev cX0_mended : ByteArray := prog_1_method_41_code
def yX0_mended : MethodName := ⟨RX0, "mended", "(I)I"⟩
def dkwX0_mended_1 : List UInt8 := [167, 0, 4, 3, 172]
abbrev dktX0_mended_1 : List UInt8 := dkwX0_mended_1 ++ []
def dkwX0_mended_0 : List UInt8 := [42, 27, 182, 0, 251, 154, 0, 9, 42, 4, 182, 0, 204, 172, 42, 27, 182, 1, 49, 153, 0, 7, 4]
abbrev dktX0_mended_0 : List UInt8 := dkwX0_mended_0 ++ dktX0_mended_1
theorem dksX0_mended_0 : cX0_mended.data.toList.drop 0 = dktX0_mended_0 := by decide +kernel
theorem dksX0_mended_1 : cX0_mended.data.toList.drop 23 = dktX0_mended_1 := dk_seg dksX0_mended_0 23 rfl rfl
theorem dX0_mended_0 : decode cX0_mended 0 = .ok (.aload_n 0, 1) := dk_42 (dk_at dksX0_mended_0 0 rfl rfl)
theorem dX0_mended_1 : decode cX0_mended 1 = .ok (.iload_n 1, 1) := dk_27 (dk_at dksX0_mended_0 1 rfl rfl)
theorem dX0_mended_2 : decode cX0_mended 2 = .ok (.invokevirtual 251, 3) := dk_182 0 251 (dk_at dksX0_mended_0 2 rfl rfl)
theorem dX0_mended_5 : decode cX0_mended 5 = .ok (.ifCond .ne 9, 3) := dk_154 0 9 (dk_at dksX0_mended_0 5 rfl rfl)
theorem dX0_mended_8 : decode cX0_mended 8 = .ok (.aload_n 0, 1) := dk_42 (dk_at dksX0_mended_0 8 rfl rfl)
theorem dX0_mended_9 : decode cX0_mended 9 = .ok (.iconst 1, 1) := dk_4 (dk_at dksX0_mended_0 9 rfl rfl)
theorem dX0_mended_10 : decode cX0_mended 10 = .ok (.invokevirtual 204, 3) := dk_182 0 204 (dk_at dksX0_mended_0 10 rfl rfl)
theorem dX0_mended_13 : decode cX0_mended 13 = .ok (.ireturn, 1) := dk_172 (dk_at dksX0_mended_0 13 rfl rfl)
theorem dX0_mended_14 : decode cX0_mended 14 = .ok (.aload_n 0, 1) := dk_42 (dk_at dksX0_mended_0 14 rfl rfl)
theorem dX0_mended_15 : decode cX0_mended 15 = .ok (.iload_n 1, 1) := dk_27 (dk_at dksX0_mended_0 15 rfl rfl)
theorem dX0_mended_16 : decode cX0_mended 16 = .ok (.invokevirtual 305, 3) := dk_182 1 49 (dk_at dksX0_mended_0 16 rfl rfl)
theorem dX0_mended_19 : decode cX0_mended 19 = .ok (.ifCond .eq 7, 3) := dk_153 0 7 (dk_at dksX0_mended_0 19 rfl rfl)
theorem dX0_mended_22 : decode cX0_mended 22 = .ok (.iconst 1, 1) := dk_4 (dk_at dksX0_mended_0 22 rfl rfl)
theorem dX0_mended_23 : decode cX0_mended 23 = .ok (.goto 4, 3) := dk_167 0 4 (dk_at dksX0_mended_1 0 rfl rfl)
theorem dX0_mended_26 : decode cX0_mended 26 = .ok (.iconst 0, 1) := dk_3 (dk_at dksX0_mended_1 3 rfl rfl)
theorem dX0_mended_27 : decode cX0_mended 27 = .ok (.ireturn, 1) := dk_172 (dk_at dksX0_mended_1 4 rfl rfl)
abbrev cX0_isMended : ByteArray := prog_1_method_40_code
def yX0_isMended : MethodName := ⟨RX0, "isMended", "(I)Z"⟩
def dkwX0_isMended_7 : List UInt8 := [167, 0, 4, 3, 172]
abbrev dktX0_isMended_7 : List UInt8 := dkwX0_isMended_7 ++ []
def dkwX0_isMended_6 : List UInt8 := [180, 0, 137, 3, 46, 79, 42, 42, 180, 0, 73, 180, 0, 123, 4, 50, 182, 0, 143, 153, 0, 7, 4]
abbrev dktX0_isMended_6 : List UInt8 := dkwX0_isMended_6 ++ dktX0_isMended_7
def dkwX0_isMended_5 : List UInt8 := [180, 0, 58, 6, 42, 180, 0, 73, 180, 0, 217, 28, 46, 79, 42, 180, 0, 58, 7, 42, 180, 0, 73]
abbrev dktX0_isMended_5 : List UInt8 := dkwX0_isMended_5 ++ dktX0_isMended_6
def dkwX0_isMended_4 : List UInt8 := [42, 180, 0, 58, 4, 42, 180, 0, 73, 180, 0, 244, 27, 46, 79, 42, 180, 0, 58, 5, 29, 79, 42]
abbrev dktX0_isMended_4 : List UInt8 := dkwX0_isMended_4 ++ dktX0_isMended_5
def dkwX0_isMended_3 : List UInt8 := [29, 161, 0, 7, 4, 167, 0, 4, 3, 172, 42, 180, 0, 58, 3, 42, 180, 0, 73, 27, 182, 0, 127, 79]
abbrev dktX0_isMended_3 : List UInt8 := dkwX0_isMended_3 ++ dktX0_isMended_4
def dkwX0_isMended_2 : List UInt8 := [172, 42, 180, 0, 73, 180, 0, 123, 4, 50, 199, 0, 24, 42, 180, 0, 73, 27, 182, 0, 127, 16, 10, 108]
abbrev dktX0_isMended_2 : List UInt8 := dkwX0_isMended_2 ++ dktX0_isMended_3
def dkwX0_isMended_1 : List UInt8 := [180, 0, 244, 27, 46, 16, 100, 162, 0, 16, 42, 180, 0, 73, 180, 0, 217, 28, 46, 29, 162, 0, 5, 3]
abbrev dktX0_isMended_1 : List UInt8 := dkwX0_isMended_1 ++ dktX0_isMended_2
def dkwX0_isMended_0 : List UInt8 := [42, 180, 0, 73, 180, 0, 147, 27, 46, 61, 42, 180, 0, 73, 180, 0, 137, 7, 46, 62, 42, 180, 0, 73]
abbrev dktX0_isMended_0 : List UInt8 := dkwX0_isMended_0 ++ dktX0_isMended_1
theorem dksX0_isMended_0 : cX0_isMended.data.toList.drop 0 = dktX0_isMended_0 := by decide +kernel
theorem dksX0_isMended_1 : cX0_isMended.data.toList.drop 24 = dktX0_isMended_1 := dk_seg dksX0_isMended_0 24 rfl rfl
theorem dksX0_isMended_2 : cX0_isMended.data.toList.drop 48 = dktX0_isMended_2 := dk_seg dksX0_isMended_1 24 rfl rfl
theorem dksX0_isMended_3 : cX0_isMended.data.toList.drop 72 = dktX0_isMended_3 := dk_seg dksX0_isMended_2 24 rfl rfl
theorem dksX0_isMended_4 : cX0_isMended.data.toList.drop 96 = dktX0_isMended_4 := dk_seg dksX0_isMended_3 24 rfl rfl
theorem dksX0_isMended_5 : cX0_isMended.data.toList.drop 119 = dktX0_isMended_5 := dk_seg dksX0_isMended_4 23 rfl rfl
theorem dksX0_isMended_6 : cX0_isMended.data.toList.drop 142 = dktX0_isMended_6 := dk_seg dksX0_isMended_5 23 rfl rfl
theorem dksX0_isMended_7 : cX0_isMended.data.toList.drop 165 = dktX0_isMended_7 := dk_seg dksX0_isMended_6 23 rfl rfl
theorem dX0_isMended_0 : decode cX0_isMended 0 = .ok (.aload_n 0, 1) := dk_42 (dk_at dksX0_isMended_0 0 rfl rfl)
theorem dX0_isMended_1 : decode cX0_isMended 1 = .ok (.getfield 73, 3) := dk_180 0 73 (dk_at dksX0_isMended_0 1 rfl rfl)
theorem dX0_isMended_4 : decode cX0_isMended 4 = .ok (.getfield 147, 3) := dk_180 0 147 (dk_at dksX0_isMended_0 4 rfl rfl)
theorem dX0_isMended_7 : decode cX0_isMended 7 = .ok (.iload_n 1, 1) := dk_27 (dk_at dksX0_isMended_0 7 rfl rfl)
theorem dX0_isMended_8 : decode cX0_isMended 8 = .ok (.iaload, 1) := dk_46 (dk_at dksX0_isMended_0 8 rfl rfl)
theorem dX0_isMended_9 : decode cX0_isMended 9 = .ok (.istore_n 2, 1) := dk_61 (dk_at dksX0_isMended_0 9 rfl rfl)
theorem dX0_isMended_10 : decode cX0_isMended 10 = .ok (.aload_n 0, 1) := dk_42 (dk_at dksX0_isMended_0 10 rfl rfl)
theorem dX0_isMended_11 : decode cX0_isMended 11 = .ok (.getfield 73, 3) := dk_180 0 73 (dk_at dksX0_isMended_0 11 rfl rfl)
theorem dX0_isMended_14 : decode cX0_isMended 14 = .ok (.getfield 137, 3) := dk_180 0 137 (dk_at dksX0_isMended_0 14 rfl rfl)
theorem dX0_isMended_17 : decode cX0_isMended 17 = .ok (.iconst 4, 1) := dk_7 (dk_at dksX0_isMended_0 17 rfl rfl)
theorem dX0_isMended_18 : decode cX0_isMended 18 = .ok (.iaload, 1) := dk_46 (dk_at dksX0_isMended_0 18 rfl rfl)
theorem dX0_isMended_19 : decode cX0_isMended 19 = .ok (.istore_n 3, 1) := dk_62 (dk_at dksX0_isMended_0 19 rfl rfl)
theorem dX0_isMended_20 : decode cX0_isMended 20 = .ok (.aload_n 0, 1) := dk_42 (dk_at dksX0_isMended_0 20 rfl rfl)
theorem dX0_isMended_21 : decode cX0_isMended 21 = .ok (.getfield 73, 3) := dk_180 0 73 (dk_at dksX0_isMended_0 21 rfl rfl)
theorem dX0_isMended_24 : decode cX0_isMended 24 = .ok (.getfield 244, 3) := dk_180 0 244 (dk_at dksX0_isMended_1 0 rfl rfl)
theorem dX0_isMended_27 : decode cX0_isMended 27 = .ok (.iload_n 1, 1) := dk_27 (dk_at dksX0_isMended_1 3 rfl rfl)
theorem dX0_isMended_28 : decode cX0_isMended 28 = .ok (.iaload, 1) := dk_46 (dk_at dksX0_isMended_1 4 rfl rfl)
theorem dX0_isMended_29 : decode cX0_isMended 29 = .ok (.bipush 100, 2) := dk_16 100 (dk_at dksX0_isMended_1 5 rfl rfl)
theorem dX0_isMended_31 : decode cX0_isMended 31 = .ok (.if_icmp .ge 16, 3) := dk_162 0 16 (dk_at dksX0_isMended_1 7 rfl rfl)
theorem dX0_isMended_34 : decode cX0_isMended 34 = .ok (.aload_n 0, 1) := dk_42 (dk_at dksX0_isMended_1 10 rfl rfl)
theorem dX0_isMended_35 : decode cX0_isMended 35 = .ok (.getfield 73, 3) := dk_180 0 73 (dk_at dksX0_isMended_1 11 rfl rfl)
theorem dX0_isMended_38 : decode cX0_isMended 38 = .ok (.getfield 217, 3) := dk_180 0 217 (dk_at dksX0_isMended_1 14 rfl rfl)
theorem dX0_isMended_41 : decode cX0_isMended 41 = .ok (.iload_n 2, 1) := dk_28 (dk_at dksX0_isMended_1 17 rfl rfl)
theorem dX0_isMended_42 : decode cX0_isMended 42 = .ok (.iaload, 1) := dk_46 (dk_at dksX0_isMended_1 18 rfl rfl)
theorem dX0_isMended_43 : decode cX0_isMended 43 = .ok (.iload_n 3, 1) := dk_29 (dk_at dksX0_isMended_1 19 rfl rfl)
theorem dX0_isMended_44 : decode cX0_isMended 44 = .ok (.if_icmp .ge 5, 3) := dk_162 0 5 (dk_at dksX0_isMended_1 20 rfl rfl)
theorem dX0_isMended_47 : decode cX0_isMended 47 = .ok (.iconst 0, 1) := dk_3 (dk_at dksX0_isMended_1 23 rfl rfl)
theorem dX0_isMended_48 : decode cX0_isMended 48 = .ok (.ireturn, 1) := dk_172 (dk_at dksX0_isMended_2 0 rfl rfl)
theorem dX0_isMended_49 : decode cX0_isMended 49 = .ok (.aload_n 0, 1) := dk_42 (dk_at dksX0_isMended_2 1 rfl rfl)
theorem dX0_isMended_50 : decode cX0_isMended 50 = .ok (.getfield 73, 3) := dk_180 0 73 (dk_at dksX0_isMended_2 2 rfl rfl)
theorem dX0_isMended_53 : decode cX0_isMended 53 = .ok (.getfield 123, 3) := dk_180 0 123 (dk_at dksX0_isMended_2 5 rfl rfl)
theorem dX0_isMended_56 : decode cX0_isMended 56 = .ok (.iconst 1, 1) := dk_4 (dk_at dksX0_isMended_2 8 rfl rfl)
theorem dX0_isMended_57 : decode cX0_isMended 57 = .ok (.aaload, 1) := dk_50 (dk_at dksX0_isMended_2 9 rfl rfl)
theorem dX0_isMended_58 : decode cX0_isMended 58 = .ok (.ifnonnull 24, 3) := dk_199 0 24 (dk_at dksX0_isMended_2 10 rfl rfl)
theorem dX0_isMended_61 : decode cX0_isMended 61 = .ok (.aload_n 0, 1) := dk_42 (dk_at dksX0_isMended_2 13 rfl rfl)
theorem dX0_isMended_62 : decode cX0_isMended 62 = .ok (.getfield 73, 3) := dk_180 0 73 (dk_at dksX0_isMended_2 14 rfl rfl)
theorem dX0_isMended_65 : decode cX0_isMended 65 = .ok (.iload_n 1, 1) := dk_27 (dk_at dksX0_isMended_2 17 rfl rfl)
theorem dX0_isMended_66 : decode cX0_isMended 66 = .ok (.invokevirtual 127, 3) := dk_182 0 127 (dk_at dksX0_isMended_2 18 rfl rfl)
theorem dX0_isMended_69 : decode cX0_isMended 69 = .ok (.bipush 10, 2) := dk_16 10 (dk_at dksX0_isMended_2 21 rfl rfl)
theorem dX0_isMended_71 : decode cX0_isMended 71 = .ok (.idiv, 1) := dk_108 (dk_at dksX0_isMended_2 23 rfl rfl)
theorem dX0_isMended_72 : decode cX0_isMended 72 = .ok (.iload_n 3, 1) := dk_29 (dk_at dksX0_isMended_3 0 rfl rfl)
theorem dX0_isMended_73 : decode cX0_isMended 73 = .ok (.if_icmp .lt 7, 3) := dk_161 0 7 (dk_at dksX0_isMended_3 1 rfl rfl)
theorem dX0_isMended_76 : decode cX0_isMended 76 = .ok (.iconst 1, 1) := dk_4 (dk_at dksX0_isMended_3 4 rfl rfl)
theorem dX0_isMended_77 : decode cX0_isMended 77 = .ok (.goto 4, 3) := dk_167 0 4 (dk_at dksX0_isMended_3 5 rfl rfl)
theorem dX0_isMended_80 : decode cX0_isMended 80 = .ok (.iconst 0, 1) := dk_3 (dk_at dksX0_isMended_3 8 rfl rfl)
theorem dX0_isMended_81 : decode cX0_isMended 81 = .ok (.ireturn, 1) := dk_172 (dk_at dksX0_isMended_3 9 rfl rfl)
theorem dX0_isMended_82 : decode cX0_isMended 82 = .ok (.aload_n 0, 1) := dk_42 (dk_at dksX0_isMended_3 10 rfl rfl)
theorem dX0_isMended_83 : decode cX0_isMended 83 = .ok (.getfield 58, 3) := dk_180 0 58 (dk_at dksX0_isMended_3 11 rfl rfl)
theorem dX0_isMended_86 : decode cX0_isMended 86 = .ok (.iconst 0, 1) := dk_3 (dk_at dksX0_isMended_3 14 rfl rfl)
theorem dX0_isMended_87 : decode cX0_isMended 87 = .ok (.aload_n 0, 1) := dk_42 (dk_at dksX0_isMended_3 15 rfl rfl)
theorem dX0_isMended_88 : decode cX0_isMended 88 = .ok (.getfield 73, 3) := dk_180 0 73 (dk_at dksX0_isMended_3 16 rfl rfl)
theorem dX0_isMended_91 : decode cX0_isMended 91 = .ok (.iload_n 1, 1) := dk_27 (dk_at dksX0_isMended_3 19 rfl rfl)
theorem dX0_isMended_92 : decode cX0_isMended 92 = .ok (.invokevirtual 127, 3) := dk_182 0 127 (dk_at dksX0_isMended_3 20 rfl rfl)
theorem dX0_isMended_95 : decode cX0_isMended 95 = .ok (.iastore, 1) := dk_79 (dk_at dksX0_isMended_3 23 rfl rfl)
theorem dX0_isMended_96 : decode cX0_isMended 96 = .ok (.aload_n 0, 1) := dk_42 (dk_at dksX0_isMended_4 0 rfl rfl)
theorem dX0_isMended_97 : decode cX0_isMended 97 = .ok (.getfield 58, 3) := dk_180 0 58 (dk_at dksX0_isMended_4 1 rfl rfl)
theorem dX0_isMended_100 : decode cX0_isMended 100 = .ok (.iconst 1, 1) := dk_4 (dk_at dksX0_isMended_4 4 rfl rfl)
theorem dX0_isMended_101 : decode cX0_isMended 101 = .ok (.aload_n 0, 1) := dk_42 (dk_at dksX0_isMended_4 5 rfl rfl)
theorem dX0_isMended_102 : decode cX0_isMended 102 = .ok (.getfield 73, 3) := dk_180 0 73 (dk_at dksX0_isMended_4 6 rfl rfl)
theorem dX0_isMended_105 : decode cX0_isMended 105 = .ok (.getfield 244, 3) := dk_180 0 244 (dk_at dksX0_isMended_4 9 rfl rfl)
theorem dX0_isMended_108 : decode cX0_isMended 108 = .ok (.iload_n 1, 1) := dk_27 (dk_at dksX0_isMended_4 12 rfl rfl)
theorem dX0_isMended_109 : decode cX0_isMended 109 = .ok (.iaload, 1) := dk_46 (dk_at dksX0_isMended_4 13 rfl rfl)
theorem dX0_isMended_110 : decode cX0_isMended 110 = .ok (.iastore, 1) := dk_79 (dk_at dksX0_isMended_4 14 rfl rfl)
theorem dX0_isMended_111 : decode cX0_isMended 111 = .ok (.aload_n 0, 1) := dk_42 (dk_at dksX0_isMended_4 15 rfl rfl)
theorem dX0_isMended_112 : decode cX0_isMended 112 = .ok (.getfield 58, 3) := dk_180 0 58 (dk_at dksX0_isMended_4 16 rfl rfl)
theorem dX0_isMended_115 : decode cX0_isMended 115 = .ok (.iconst 2, 1) := dk_5 (dk_at dksX0_isMended_4 19 rfl rfl)
theorem dX0_isMended_116 : decode cX0_isMended 116 = .ok (.iload_n 3, 1) := dk_29 (dk_at dksX0_isMended_4 20 rfl rfl)
theorem dX0_isMended_117 : decode cX0_isMended 117 = .ok (.iastore, 1) := dk_79 (dk_at dksX0_isMended_4 21 rfl rfl)
theorem dX0_isMended_118 : decode cX0_isMended 118 = .ok (.aload_n 0, 1) := dk_42 (dk_at dksX0_isMended_4 22 rfl rfl)
theorem dX0_isMended_119 : decode cX0_isMended 119 = .ok (.getfield 58, 3) := dk_180 0 58 (dk_at dksX0_isMended_5 0 rfl rfl)
theorem dX0_isMended_122 : decode cX0_isMended 122 = .ok (.iconst 3, 1) := dk_6 (dk_at dksX0_isMended_5 3 rfl rfl)
theorem dX0_isMended_123 : decode cX0_isMended 123 = .ok (.aload_n 0, 1) := dk_42 (dk_at dksX0_isMended_5 4 rfl rfl)
theorem dX0_isMended_124 : decode cX0_isMended 124 = .ok (.getfield 73, 3) := dk_180 0 73 (dk_at dksX0_isMended_5 5 rfl rfl)
theorem dX0_isMended_127 : decode cX0_isMended 127 = .ok (.getfield 217, 3) := dk_180 0 217 (dk_at dksX0_isMended_5 8 rfl rfl)
theorem dX0_isMended_130 : decode cX0_isMended 130 = .ok (.iload_n 2, 1) := dk_28 (dk_at dksX0_isMended_5 11 rfl rfl)
theorem dX0_isMended_131 : decode cX0_isMended 131 = .ok (.iaload, 1) := dk_46 (dk_at dksX0_isMended_5 12 rfl rfl)
theorem dX0_isMended_132 : decode cX0_isMended 132 = .ok (.iastore, 1) := dk_79 (dk_at dksX0_isMended_5 13 rfl rfl)
theorem dX0_isMended_133 : decode cX0_isMended 133 = .ok (.aload_n 0, 1) := dk_42 (dk_at dksX0_isMended_5 14 rfl rfl)
theorem dX0_isMended_134 : decode cX0_isMended 134 = .ok (.getfield 58, 3) := dk_180 0 58 (dk_at dksX0_isMended_5 15 rfl rfl)
theorem dX0_isMended_137 : decode cX0_isMended 137 = .ok (.iconst 4, 1) := dk_7 (dk_at dksX0_isMended_5 18 rfl rfl)
theorem dX0_isMended_138 : decode cX0_isMended 138 = .ok (.aload_n 0, 1) := dk_42 (dk_at dksX0_isMended_5 19 rfl rfl)
theorem dX0_isMended_139 : decode cX0_isMended 139 = .ok (.getfield 73, 3) := dk_180 0 73 (dk_at dksX0_isMended_5 20 rfl rfl)
theorem dX0_isMended_142 : decode cX0_isMended 142 = .ok (.getfield 137, 3) := dk_180 0 137 (dk_at dksX0_isMended_6 0 rfl rfl)
theorem dX0_isMended_145 : decode cX0_isMended 145 = .ok (.iconst 0, 1) := dk_3 (dk_at dksX0_isMended_6 3 rfl rfl)
theorem dX0_isMended_146 : decode cX0_isMended 146 = .ok (.iaload, 1) := dk_46 (dk_at dksX0_isMended_6 4 rfl rfl)
theorem dX0_isMended_147 : decode cX0_isMended 147 = .ok (.iastore, 1) := dk_79 (dk_at dksX0_isMended_6 5 rfl rfl)
theorem dX0_isMended_148 : decode cX0_isMended 148 = .ok (.aload_n 0, 1) := dk_42 (dk_at dksX0_isMended_6 6 rfl rfl)
theorem dX0_isMended_149 : decode cX0_isMended 149 = .ok (.aload_n 0, 1) := dk_42 (dk_at dksX0_isMended_6 7 rfl rfl)
theorem dX0_isMended_150 : decode cX0_isMended 150 = .ok (.getfield 73, 3) := dk_180 0 73 (dk_at dksX0_isMended_6 8 rfl rfl)
theorem dX0_isMended_153 : decode cX0_isMended 153 = .ok (.getfield 123, 3) := dk_180 0 123 (dk_at dksX0_isMended_6 11 rfl rfl)
theorem dX0_isMended_156 : decode cX0_isMended 156 = .ok (.iconst 1, 1) := dk_4 (dk_at dksX0_isMended_6 14 rfl rfl)
theorem dX0_isMended_157 : decode cX0_isMended 157 = .ok (.aaload, 1) := dk_50 (dk_at dksX0_isMended_6 15 rfl rfl)
theorem dX0_isMended_158 : decode cX0_isMended 158 = .ok (.invokevirtual 143, 3) := dk_182 0 143 (dk_at dksX0_isMended_6 16 rfl rfl)
theorem dX0_isMended_161 : decode cX0_isMended 161 = .ok (.ifCond .eq 7, 3) := dk_153 0 7 (dk_at dksX0_isMended_6 19 rfl rfl)
theorem dX0_isMended_164 : decode cX0_isMended 164 = .ok (.iconst 1, 1) := dk_4 (dk_at dksX0_isMended_6 22 rfl rfl)
theorem dX0_isMended_165 : decode cX0_isMended 165 = .ok (.goto 4, 3) := dk_167 0 4 (dk_at dksX0_isMended_7 0 rfl rfl)
theorem dX0_isMended_168 : decode cX0_isMended 168 = .ok (.iconst 0, 1) := dk_3 (dk_at dksX0_isMended_7 3 rfl rfl)
theorem dX0_isMended_169 : decode cX0_isMended 169 = .ok (.ireturn, 1) := dk_172 (dk_at dksX0_isMended_7 4 rfl rfl)
abbrev cX0_years : ByteArray := prog_1_method_45_code
def yX0_years : MethodName := ⟨RX0, "years", "(I)I"⟩
def dkwX0_years_2 : List UInt8 := [180, 1, 76, 172]
abbrev dktX0_years_2 : List UInt8 := dkwX0_years_2 ++ []
def dkwX0_years_1 : List UInt8 := [96, 17, 39, 15, 164, 0, 9, 42, 6, 182, 0, 204, 172, 42, 27, 182, 1, 73, 42, 180, 0, 73]
abbrev dktX0_years_1 : List UInt8 := dkwX0_years_1 ++ dktX0_years_2
def dkwX0_years_0 : List UInt8 := [27, 4, 16, 40, 184, 0, 113, 154, 0, 9, 42, 4, 182, 0, 204, 172, 42, 180, 0, 73, 180, 0, 140, 27]
abbrev dktX0_years_0 : List UInt8 := dkwX0_years_0 ++ dktX0_years_1
theorem dksX0_years_0 : cX0_years.data.toList.drop 0 = dktX0_years_0 := by decide +kernel
theorem dksX0_years_1 : cX0_years.data.toList.drop 24 = dktX0_years_1 := dk_seg dksX0_years_0 24 rfl rfl
theorem dksX0_years_2 : cX0_years.data.toList.drop 46 = dktX0_years_2 := dk_seg dksX0_years_1 22 rfl rfl
theorem dX0_years_0 : decode cX0_years 0 = .ok (.iload_n 1, 1) := dk_27 (dk_at dksX0_years_0 0 rfl rfl)
theorem dX0_years_1 : decode cX0_years 1 = .ok (.iconst 1, 1) := dk_4 (dk_at dksX0_years_0 1 rfl rfl)
theorem dX0_years_2 : decode cX0_years 2 = .ok (.bipush 40, 2) := dk_16 40 (dk_at dksX0_years_0 2 rfl rfl)
theorem dX0_years_4 : decode cX0_years 4 = .ok (.invokestatic 113, 3) := dk_184 0 113 (dk_at dksX0_years_0 4 rfl rfl)
theorem dX0_years_7 : decode cX0_years 7 = .ok (.ifCond .ne 9, 3) := dk_154 0 9 (dk_at dksX0_years_0 7 rfl rfl)
theorem dX0_years_10 : decode cX0_years 10 = .ok (.aload_n 0, 1) := dk_42 (dk_at dksX0_years_0 10 rfl rfl)
theorem dX0_years_11 : decode cX0_years 11 = .ok (.iconst 1, 1) := dk_4 (dk_at dksX0_years_0 11 rfl rfl)
theorem dX0_years_12 : decode cX0_years 12 = .ok (.invokevirtual 204, 3) := dk_182 0 204 (dk_at dksX0_years_0 12 rfl rfl)
theorem dX0_years_15 : decode cX0_years 15 = .ok (.ireturn, 1) := dk_172 (dk_at dksX0_years_0 15 rfl rfl)
theorem dX0_years_16 : decode cX0_years 16 = .ok (.aload_n 0, 1) := dk_42 (dk_at dksX0_years_0 16 rfl rfl)
theorem dX0_years_17 : decode cX0_years 17 = .ok (.getfield 73, 3) := dk_180 0 73 (dk_at dksX0_years_0 17 rfl rfl)
theorem dX0_years_20 : decode cX0_years 20 = .ok (.getfield 140, 3) := dk_180 0 140 (dk_at dksX0_years_0 20 rfl rfl)
theorem dX0_years_23 : decode cX0_years 23 = .ok (.iload_n 1, 1) := dk_27 (dk_at dksX0_years_0 23 rfl rfl)
theorem dX0_years_24 : decode cX0_years 24 = .ok (.iadd, 1) := dk_96 (dk_at dksX0_years_1 0 rfl rfl)
theorem dX0_years_25 : decode cX0_years 25 = .ok (.sipush 9999, 3) := dk_17 39 15 (dk_at dksX0_years_1 1 rfl rfl)
theorem dX0_years_28 : decode cX0_years 28 = .ok (.if_icmp .le 9, 3) := dk_164 0 9 (dk_at dksX0_years_1 4 rfl rfl)
theorem dX0_years_31 : decode cX0_years 31 = .ok (.aload_n 0, 1) := dk_42 (dk_at dksX0_years_1 7 rfl rfl)
theorem dX0_years_32 : decode cX0_years 32 = .ok (.iconst 3, 1) := dk_6 (dk_at dksX0_years_1 8 rfl rfl)
theorem dX0_years_33 : decode cX0_years 33 = .ok (.invokevirtual 204, 3) := dk_182 0 204 (dk_at dksX0_years_1 9 rfl rfl)
theorem dX0_years_36 : decode cX0_years 36 = .ok (.ireturn, 1) := dk_172 (dk_at dksX0_years_1 12 rfl rfl)
theorem dX0_years_37 : decode cX0_years 37 = .ok (.aload_n 0, 1) := dk_42 (dk_at dksX0_years_1 13 rfl rfl)
theorem dX0_years_38 : decode cX0_years 38 = .ok (.iload_n 1, 1) := dk_27 (dk_at dksX0_years_1 14 rfl rfl)
theorem dX0_years_39 : decode cX0_years 39 = .ok (.invokevirtual 329, 3) := dk_182 1 73 (dk_at dksX0_years_1 15 rfl rfl)
theorem dX0_years_42 : decode cX0_years 42 = .ok (.aload_n 0, 1) := dk_42 (dk_at dksX0_years_1 18 rfl rfl)
theorem dX0_years_43 : decode cX0_years 43 = .ok (.getfield 73, 3) := dk_180 0 73 (dk_at dksX0_years_1 19 rfl rfl)
theorem dX0_years_46 : decode cX0_years 46 = .ok (.getfield 332, 3) := dk_180 1 76 (dk_at dksX0_years_2 0 rfl rfl)
theorem dX0_years_49 : decode cX0_years 49 = .ok (.ireturn, 1) := dk_172 (dk_at dksX0_years_2 3 rfl rfl)
abbrev cX0_goOn : ByteArray := prog_1_method_44_code
def yX0_goOn : MethodName := ⟨RX0, "goOn", "(I)V"⟩
def dkwX0_goOn_0 : List UInt8 := [3, 61, 28, 27, 162, 0, 13, 42, 182, 1, 70, 132, 2, 1, 167, 255, 244, 177]
abbrev dktX0_goOn_0 : List UInt8 := dkwX0_goOn_0 ++ []
theorem dksX0_goOn_0 : cX0_goOn.data.toList.drop 0 = dktX0_goOn_0 := by decide +kernel
theorem dX0_goOn_0 : decode cX0_goOn 0 = .ok (.iconst 0, 1) := dk_3 (dk_at dksX0_goOn_0 0 rfl rfl)
theorem dX0_goOn_1 : decode cX0_goOn 1 = .ok (.istore_n 2, 1) := dk_61 (dk_at dksX0_goOn_0 1 rfl rfl)
theorem dX0_goOn_2 : decode cX0_goOn 2 = .ok (.iload_n 2, 1) := dk_28 (dk_at dksX0_goOn_0 2 rfl rfl)
theorem dX0_goOn_3 : decode cX0_goOn 3 = .ok (.iload_n 1, 1) := dk_27 (dk_at dksX0_goOn_0 3 rfl rfl)
theorem dX0_goOn_4 : decode cX0_goOn 4 = .ok (.if_icmp .ge 13, 3) := dk_162 0 13 (dk_at dksX0_goOn_0 4 rfl rfl)
theorem dX0_goOn_7 : decode cX0_goOn 7 = .ok (.aload_n 0, 1) := dk_42 (dk_at dksX0_goOn_0 7 rfl rfl)
theorem dX0_goOn_8 : decode cX0_goOn 8 = .ok (.invokevirtual 326, 3) := dk_182 1 70 (dk_at dksX0_goOn_0 8 rfl rfl)
theorem dX0_goOn_11 : decode cX0_goOn 11 = .ok (.iinc 2 1, 3) := dk_132 2 1 (dk_at dksX0_goOn_0 11 rfl rfl)
theorem dX0_goOn_14 : decode cX0_goOn 14 = .ok (.goto (-12), 3) := dk_167 255 244 (dk_at dksX0_goOn_0 14 rfl rfl)
theorem dX0_goOn_17 : decode cX0_goOn 17 = .ok (.return_, 1) := dk_177 (dk_at dksX0_goOn_0 17 rfl rfl)
abbrev cX0_aYear : ByteArray := prog_1_method_43_code
def yX0_aYear : MethodName := ⟨RX0, "aYear", "()V"⟩
def dkwX0_aYear_8 : List UInt8 := [182, 1, 67, 42, 180, 0, 73, 89, 180, 0, 140, 4, 96, 181, 0, 140, 177]
abbrev dktX0_aYear_8 : List UInt8 := dkwX0_aYear_8 ++ []
def dkwX0_aYear_7 : List UInt8 := [180, 0, 244, 27, 46, 16, 10, 96, 184, 1, 65, 79, 132, 1, 1, 167, 255, 176, 42, 180, 0, 73]
abbrev dktX0_aYear_7 : List UInt8 := dkwX0_aYear_7 ++ dktX0_aYear_8
def dkwX0_aYear_6 : List UInt8 := [180, 0, 73, 180, 0, 137, 7, 46, 100, 79, 42, 180, 0, 73, 180, 0, 244, 27, 16, 100, 42, 180, 0, 73]
abbrev dktX0_aYear_6 : List UInt8 := dkwX0_aYear_6 ++ dktX0_aYear_7
def dkwX0_aYear_5 : List UInt8 := [167, 0, 58, 42, 180, 0, 73, 180, 0, 217, 42, 180, 0, 73, 180, 0, 147, 27, 46, 92, 46, 42]
abbrev dktX0_aYear_5 : List UInt8 := dkwX0_aYear_5 ++ dktX0_aYear_6
def dkwX0_aYear_4 : List UInt8 := [167, 255, 225, 3, 60, 27, 42, 180, 0, 73, 180, 0, 117, 162, 0, 75, 42, 27, 182, 1, 49, 154, 0, 6]
abbrev dktX0_aYear_4 : List UInt8 := dkwX0_aYear_4 ++ dktX0_aYear_5
def dkwX0_aYear_3 : List UInt8 := [162, 0, 26, 42, 180, 0, 73, 180, 0, 247, 27, 51, 154, 0, 8, 42, 27, 182, 1, 62, 132, 1, 1]
abbrev dktX0_aYear_3 : List UInt8 := dkwX0_aYear_3 ++ dktX0_aYear_4
def dkwX0_aYear_2 : List UInt8 := [180, 0, 73, 27, 182, 1, 58, 132, 1, 1, 167, 255, 234, 3, 60, 27, 42, 180, 0, 73, 180, 0, 117]
abbrev dktX0_aYear_2 : List UInt8 := dkwX0_aYear_2 ++ dktX0_aYear_3
def dkwX0_aYear_1 : List UInt8 := [182, 1, 46, 79, 132, 1, 1, 167, 255, 228, 3, 60, 27, 42, 180, 0, 73, 180, 0, 117, 162, 0, 17, 42]
abbrev dktX0_aYear_1 : List UInt8 := dkwX0_aYear_1 ++ dktX0_aYear_2
def dkwX0_aYear_0 : List UInt8 := [3, 60, 27, 42, 180, 0, 73, 180, 0, 117, 162, 0, 23, 42, 180, 0, 73, 180, 0, 134, 27, 42, 27]
abbrev dktX0_aYear_0 : List UInt8 := dkwX0_aYear_0 ++ dktX0_aYear_1
theorem dksX0_aYear_0 : cX0_aYear.data.toList.drop 0 = dktX0_aYear_0 := by decide +kernel
theorem dksX0_aYear_1 : cX0_aYear.data.toList.drop 23 = dktX0_aYear_1 := dk_seg dksX0_aYear_0 23 rfl rfl
theorem dksX0_aYear_2 : cX0_aYear.data.toList.drop 47 = dktX0_aYear_2 := dk_seg dksX0_aYear_1 24 rfl rfl
theorem dksX0_aYear_3 : cX0_aYear.data.toList.drop 70 = dktX0_aYear_3 := dk_seg dksX0_aYear_2 23 rfl rfl
theorem dksX0_aYear_4 : cX0_aYear.data.toList.drop 93 = dktX0_aYear_4 := dk_seg dksX0_aYear_3 23 rfl rfl
theorem dksX0_aYear_5 : cX0_aYear.data.toList.drop 117 = dktX0_aYear_5 := dk_seg dksX0_aYear_4 24 rfl rfl
theorem dksX0_aYear_6 : cX0_aYear.data.toList.drop 139 = dktX0_aYear_6 := dk_seg dksX0_aYear_5 22 rfl rfl
theorem dksX0_aYear_7 : cX0_aYear.data.toList.drop 163 = dktX0_aYear_7 := dk_seg dksX0_aYear_6 24 rfl rfl
theorem dksX0_aYear_8 : cX0_aYear.data.toList.drop 185 = dktX0_aYear_8 := dk_seg dksX0_aYear_7 22 rfl rfl
theorem dX0_aYear_0 : decode cX0_aYear 0 = .ok (.iconst 0, 1) := dk_3 (dk_at dksX0_aYear_0 0 rfl rfl)
theorem dX0_aYear_1 : decode cX0_aYear 1 = .ok (.istore_n 1, 1) := dk_60 (dk_at dksX0_aYear_0 1 rfl rfl)
theorem dX0_aYear_2 : decode cX0_aYear 2 = .ok (.iload_n 1, 1) := dk_27 (dk_at dksX0_aYear_0 2 rfl rfl)
theorem dX0_aYear_3 : decode cX0_aYear 3 = .ok (.aload_n 0, 1) := dk_42 (dk_at dksX0_aYear_0 3 rfl rfl)
theorem dX0_aYear_4 : decode cX0_aYear 4 = .ok (.getfield 73, 3) := dk_180 0 73 (dk_at dksX0_aYear_0 4 rfl rfl)
theorem dX0_aYear_7 : decode cX0_aYear 7 = .ok (.getfield 117, 3) := dk_180 0 117 (dk_at dksX0_aYear_0 7 rfl rfl)
theorem dX0_aYear_10 : decode cX0_aYear 10 = .ok (.if_icmp .ge 23, 3) := dk_162 0 23 (dk_at dksX0_aYear_0 10 rfl rfl)
theorem dX0_aYear_13 : decode cX0_aYear 13 = .ok (.aload_n 0, 1) := dk_42 (dk_at dksX0_aYear_0 13 rfl rfl)
theorem dX0_aYear_14 : decode cX0_aYear 14 = .ok (.getfield 73, 3) := dk_180 0 73 (dk_at dksX0_aYear_0 14 rfl rfl)
theorem dX0_aYear_17 : decode cX0_aYear 17 = .ok (.getfield 134, 3) := dk_180 0 134 (dk_at dksX0_aYear_0 17 rfl rfl)
theorem dX0_aYear_20 : decode cX0_aYear 20 = .ok (.iload_n 1, 1) := dk_27 (dk_at dksX0_aYear_0 20 rfl rfl)
theorem dX0_aYear_21 : decode cX0_aYear 21 = .ok (.aload_n 0, 1) := dk_42 (dk_at dksX0_aYear_0 21 rfl rfl)
theorem dX0_aYear_22 : decode cX0_aYear 22 = .ok (.iload_n 1, 1) := dk_27 (dk_at dksX0_aYear_0 22 rfl rfl)
theorem dX0_aYear_23 : decode cX0_aYear 23 = .ok (.invokevirtual 302, 3) := dk_182 1 46 (dk_at dksX0_aYear_1 0 rfl rfl)
theorem dX0_aYear_26 : decode cX0_aYear 26 = .ok (.iastore, 1) := dk_79 (dk_at dksX0_aYear_1 3 rfl rfl)
theorem dX0_aYear_27 : decode cX0_aYear 27 = .ok (.iinc 1 1, 3) := dk_132 1 1 (dk_at dksX0_aYear_1 4 rfl rfl)
theorem dX0_aYear_30 : decode cX0_aYear 30 = .ok (.goto (-28), 3) := dk_167 255 228 (dk_at dksX0_aYear_1 7 rfl rfl)
theorem dX0_aYear_33 : decode cX0_aYear 33 = .ok (.iconst 0, 1) := dk_3 (dk_at dksX0_aYear_1 10 rfl rfl)
theorem dX0_aYear_34 : decode cX0_aYear 34 = .ok (.istore_n 1, 1) := dk_60 (dk_at dksX0_aYear_1 11 rfl rfl)
theorem dX0_aYear_35 : decode cX0_aYear 35 = .ok (.iload_n 1, 1) := dk_27 (dk_at dksX0_aYear_1 12 rfl rfl)
theorem dX0_aYear_36 : decode cX0_aYear 36 = .ok (.aload_n 0, 1) := dk_42 (dk_at dksX0_aYear_1 13 rfl rfl)
theorem dX0_aYear_37 : decode cX0_aYear 37 = .ok (.getfield 73, 3) := dk_180 0 73 (dk_at dksX0_aYear_1 14 rfl rfl)
theorem dX0_aYear_40 : decode cX0_aYear 40 = .ok (.getfield 117, 3) := dk_180 0 117 (dk_at dksX0_aYear_1 17 rfl rfl)
theorem dX0_aYear_43 : decode cX0_aYear 43 = .ok (.if_icmp .ge 17, 3) := dk_162 0 17 (dk_at dksX0_aYear_1 20 rfl rfl)
theorem dX0_aYear_46 : decode cX0_aYear 46 = .ok (.aload_n 0, 1) := dk_42 (dk_at dksX0_aYear_1 23 rfl rfl)
theorem dX0_aYear_47 : decode cX0_aYear 47 = .ok (.getfield 73, 3) := dk_180 0 73 (dk_at dksX0_aYear_2 0 rfl rfl)
theorem dX0_aYear_50 : decode cX0_aYear 50 = .ok (.iload_n 1, 1) := dk_27 (dk_at dksX0_aYear_2 3 rfl rfl)
theorem dX0_aYear_51 : decode cX0_aYear 51 = .ok (.invokevirtual 314, 3) := dk_182 1 58 (dk_at dksX0_aYear_2 4 rfl rfl)
theorem dX0_aYear_54 : decode cX0_aYear 54 = .ok (.iinc 1 1, 3) := dk_132 1 1 (dk_at dksX0_aYear_2 7 rfl rfl)
theorem dX0_aYear_57 : decode cX0_aYear 57 = .ok (.goto (-22), 3) := dk_167 255 234 (dk_at dksX0_aYear_2 10 rfl rfl)
theorem dX0_aYear_60 : decode cX0_aYear 60 = .ok (.iconst 0, 1) := dk_3 (dk_at dksX0_aYear_2 13 rfl rfl)
theorem dX0_aYear_61 : decode cX0_aYear 61 = .ok (.istore_n 1, 1) := dk_60 (dk_at dksX0_aYear_2 14 rfl rfl)
theorem dX0_aYear_62 : decode cX0_aYear 62 = .ok (.iload_n 1, 1) := dk_27 (dk_at dksX0_aYear_2 15 rfl rfl)
theorem dX0_aYear_63 : decode cX0_aYear 63 = .ok (.aload_n 0, 1) := dk_42 (dk_at dksX0_aYear_2 16 rfl rfl)
theorem dX0_aYear_64 : decode cX0_aYear 64 = .ok (.getfield 73, 3) := dk_180 0 73 (dk_at dksX0_aYear_2 17 rfl rfl)
theorem dX0_aYear_67 : decode cX0_aYear 67 = .ok (.getfield 117, 3) := dk_180 0 117 (dk_at dksX0_aYear_2 20 rfl rfl)
theorem dX0_aYear_70 : decode cX0_aYear 70 = .ok (.if_icmp .ge 26, 3) := dk_162 0 26 (dk_at dksX0_aYear_3 0 rfl rfl)
theorem dX0_aYear_73 : decode cX0_aYear 73 = .ok (.aload_n 0, 1) := dk_42 (dk_at dksX0_aYear_3 3 rfl rfl)
theorem dX0_aYear_74 : decode cX0_aYear 74 = .ok (.getfield 73, 3) := dk_180 0 73 (dk_at dksX0_aYear_3 4 rfl rfl)
theorem dX0_aYear_77 : decode cX0_aYear 77 = .ok (.getfield 247, 3) := dk_180 0 247 (dk_at dksX0_aYear_3 7 rfl rfl)
theorem dX0_aYear_80 : decode cX0_aYear 80 = .ok (.iload_n 1, 1) := dk_27 (dk_at dksX0_aYear_3 10 rfl rfl)
theorem dX0_aYear_81 : decode cX0_aYear 81 = .ok (.baload, 1) := dk_51 (dk_at dksX0_aYear_3 11 rfl rfl)
theorem dX0_aYear_82 : decode cX0_aYear 82 = .ok (.ifCond .ne 8, 3) := dk_154 0 8 (dk_at dksX0_aYear_3 12 rfl rfl)
theorem dX0_aYear_85 : decode cX0_aYear 85 = .ok (.aload_n 0, 1) := dk_42 (dk_at dksX0_aYear_3 15 rfl rfl)
theorem dX0_aYear_86 : decode cX0_aYear 86 = .ok (.iload_n 1, 1) := dk_27 (dk_at dksX0_aYear_3 16 rfl rfl)
theorem dX0_aYear_87 : decode cX0_aYear 87 = .ok (.invokevirtual 318, 3) := dk_182 1 62 (dk_at dksX0_aYear_3 17 rfl rfl)
theorem dX0_aYear_90 : decode cX0_aYear 90 = .ok (.iinc 1 1, 3) := dk_132 1 1 (dk_at dksX0_aYear_3 20 rfl rfl)
theorem dX0_aYear_93 : decode cX0_aYear 93 = .ok (.goto (-31), 3) := dk_167 255 225 (dk_at dksX0_aYear_4 0 rfl rfl)
theorem dX0_aYear_96 : decode cX0_aYear 96 = .ok (.iconst 0, 1) := dk_3 (dk_at dksX0_aYear_4 3 rfl rfl)
theorem dX0_aYear_97 : decode cX0_aYear 97 = .ok (.istore_n 1, 1) := dk_60 (dk_at dksX0_aYear_4 4 rfl rfl)
theorem dX0_aYear_98 : decode cX0_aYear 98 = .ok (.iload_n 1, 1) := dk_27 (dk_at dksX0_aYear_4 5 rfl rfl)
theorem dX0_aYear_99 : decode cX0_aYear 99 = .ok (.aload_n 0, 1) := dk_42 (dk_at dksX0_aYear_4 6 rfl rfl)
theorem dX0_aYear_100 : decode cX0_aYear 100 = .ok (.getfield 73, 3) := dk_180 0 73 (dk_at dksX0_aYear_4 7 rfl rfl)
theorem dX0_aYear_103 : decode cX0_aYear 103 = .ok (.getfield 117, 3) := dk_180 0 117 (dk_at dksX0_aYear_4 10 rfl rfl)
theorem dX0_aYear_106 : decode cX0_aYear 106 = .ok (.if_icmp .ge 75, 3) := dk_162 0 75 (dk_at dksX0_aYear_4 13 rfl rfl)
theorem dX0_aYear_109 : decode cX0_aYear 109 = .ok (.aload_n 0, 1) := dk_42 (dk_at dksX0_aYear_4 16 rfl rfl)
theorem dX0_aYear_110 : decode cX0_aYear 110 = .ok (.iload_n 1, 1) := dk_27 (dk_at dksX0_aYear_4 17 rfl rfl)
theorem dX0_aYear_111 : decode cX0_aYear 111 = .ok (.invokevirtual 305, 3) := dk_182 1 49 (dk_at dksX0_aYear_4 18 rfl rfl)
theorem dX0_aYear_114 : decode cX0_aYear 114 = .ok (.ifCond .ne 6, 3) := dk_154 0 6 (dk_at dksX0_aYear_4 21 rfl rfl)
theorem dX0_aYear_117 : decode cX0_aYear 117 = .ok (.goto 58, 3) := dk_167 0 58 (dk_at dksX0_aYear_5 0 rfl rfl)
theorem dX0_aYear_120 : decode cX0_aYear 120 = .ok (.aload_n 0, 1) := dk_42 (dk_at dksX0_aYear_5 3 rfl rfl)
theorem dX0_aYear_121 : decode cX0_aYear 121 = .ok (.getfield 73, 3) := dk_180 0 73 (dk_at dksX0_aYear_5 4 rfl rfl)
theorem dX0_aYear_124 : decode cX0_aYear 124 = .ok (.getfield 217, 3) := dk_180 0 217 (dk_at dksX0_aYear_5 7 rfl rfl)
theorem dX0_aYear_127 : decode cX0_aYear 127 = .ok (.aload_n 0, 1) := dk_42 (dk_at dksX0_aYear_5 10 rfl rfl)
theorem dX0_aYear_128 : decode cX0_aYear 128 = .ok (.getfield 73, 3) := dk_180 0 73 (dk_at dksX0_aYear_5 11 rfl rfl)
theorem dX0_aYear_131 : decode cX0_aYear 131 = .ok (.getfield 147, 3) := dk_180 0 147 (dk_at dksX0_aYear_5 14 rfl rfl)
theorem dX0_aYear_134 : decode cX0_aYear 134 = .ok (.iload_n 1, 1) := dk_27 (dk_at dksX0_aYear_5 17 rfl rfl)
theorem dX0_aYear_135 : decode cX0_aYear 135 = .ok (.iaload, 1) := dk_46 (dk_at dksX0_aYear_5 18 rfl rfl)
theorem dX0_aYear_136 : decode cX0_aYear 136 = .ok (.dup2, 1) := dk_92 (dk_at dksX0_aYear_5 19 rfl rfl)
theorem dX0_aYear_137 : decode cX0_aYear 137 = .ok (.iaload, 1) := dk_46 (dk_at dksX0_aYear_5 20 rfl rfl)
theorem dX0_aYear_138 : decode cX0_aYear 138 = .ok (.aload_n 0, 1) := dk_42 (dk_at dksX0_aYear_5 21 rfl rfl)
theorem dX0_aYear_139 : decode cX0_aYear 139 = .ok (.getfield 73, 3) := dk_180 0 73 (dk_at dksX0_aYear_6 0 rfl rfl)
theorem dX0_aYear_142 : decode cX0_aYear 142 = .ok (.getfield 137, 3) := dk_180 0 137 (dk_at dksX0_aYear_6 3 rfl rfl)
theorem dX0_aYear_145 : decode cX0_aYear 145 = .ok (.iconst 4, 1) := dk_7 (dk_at dksX0_aYear_6 6 rfl rfl)
theorem dX0_aYear_146 : decode cX0_aYear 146 = .ok (.iaload, 1) := dk_46 (dk_at dksX0_aYear_6 7 rfl rfl)
theorem dX0_aYear_147 : decode cX0_aYear 147 = .ok (.isub, 1) := dk_100 (dk_at dksX0_aYear_6 8 rfl rfl)
theorem dX0_aYear_148 : decode cX0_aYear 148 = .ok (.iastore, 1) := dk_79 (dk_at dksX0_aYear_6 9 rfl rfl)
theorem dX0_aYear_149 : decode cX0_aYear 149 = .ok (.aload_n 0, 1) := dk_42 (dk_at dksX0_aYear_6 10 rfl rfl)
theorem dX0_aYear_150 : decode cX0_aYear 150 = .ok (.getfield 73, 3) := dk_180 0 73 (dk_at dksX0_aYear_6 11 rfl rfl)
theorem dX0_aYear_153 : decode cX0_aYear 153 = .ok (.getfield 244, 3) := dk_180 0 244 (dk_at dksX0_aYear_6 14 rfl rfl)
theorem dX0_aYear_156 : decode cX0_aYear 156 = .ok (.iload_n 1, 1) := dk_27 (dk_at dksX0_aYear_6 17 rfl rfl)
theorem dX0_aYear_157 : decode cX0_aYear 157 = .ok (.bipush 100, 2) := dk_16 100 (dk_at dksX0_aYear_6 18 rfl rfl)
theorem dX0_aYear_159 : decode cX0_aYear 159 = .ok (.aload_n 0, 1) := dk_42 (dk_at dksX0_aYear_6 20 rfl rfl)
theorem dX0_aYear_160 : decode cX0_aYear 160 = .ok (.getfield 73, 3) := dk_180 0 73 (dk_at dksX0_aYear_6 21 rfl rfl)
theorem dX0_aYear_163 : decode cX0_aYear 163 = .ok (.getfield 244, 3) := dk_180 0 244 (dk_at dksX0_aYear_7 0 rfl rfl)
theorem dX0_aYear_166 : decode cX0_aYear 166 = .ok (.iload_n 1, 1) := dk_27 (dk_at dksX0_aYear_7 3 rfl rfl)
theorem dX0_aYear_167 : decode cX0_aYear 167 = .ok (.iaload, 1) := dk_46 (dk_at dksX0_aYear_7 4 rfl rfl)
theorem dX0_aYear_168 : decode cX0_aYear 168 = .ok (.bipush 10, 2) := dk_16 10 (dk_at dksX0_aYear_7 5 rfl rfl)
theorem dX0_aYear_170 : decode cX0_aYear 170 = .ok (.iadd, 1) := dk_96 (dk_at dksX0_aYear_7 7 rfl rfl)
theorem dX0_aYear_171 : decode cX0_aYear 171 = .ok (.invokestatic 321, 3) := dk_184 1 65 (dk_at dksX0_aYear_7 8 rfl rfl)
theorem dX0_aYear_174 : decode cX0_aYear 174 = .ok (.iastore, 1) := dk_79 (dk_at dksX0_aYear_7 11 rfl rfl)
theorem dX0_aYear_175 : decode cX0_aYear 175 = .ok (.iinc 1 1, 3) := dk_132 1 1 (dk_at dksX0_aYear_7 12 rfl rfl)
theorem dX0_aYear_178 : decode cX0_aYear 178 = .ok (.goto (-80), 3) := dk_167 255 176 (dk_at dksX0_aYear_7 15 rfl rfl)
theorem dX0_aYear_181 : decode cX0_aYear 181 = .ok (.aload_n 0, 1) := dk_42 (dk_at dksX0_aYear_7 18 rfl rfl)
theorem dX0_aYear_182 : decode cX0_aYear 182 = .ok (.getfield 73, 3) := dk_180 0 73 (dk_at dksX0_aYear_7 19 rfl rfl)
theorem dX0_aYear_185 : decode cX0_aYear 185 = .ok (.invokevirtual 323, 3) := dk_182 1 67 (dk_at dksX0_aYear_8 0 rfl rfl)
theorem dX0_aYear_188 : decode cX0_aYear 188 = .ok (.aload_n 0, 1) := dk_42 (dk_at dksX0_aYear_8 3 rfl rfl)
theorem dX0_aYear_189 : decode cX0_aYear 189 = .ok (.getfield 73, 3) := dk_180 0 73 (dk_at dksX0_aYear_8 4 rfl rfl)
theorem dX0_aYear_192 : decode cX0_aYear 192 = .ok (.dup, 1) := dk_89 (dk_at dksX0_aYear_8 7 rfl rfl)
theorem dX0_aYear_193 : decode cX0_aYear 193 = .ok (.getfield 140, 3) := dk_180 0 140 (dk_at dksX0_aYear_8 8 rfl rfl)
theorem dX0_aYear_196 : decode cX0_aYear 196 = .ok (.iconst 1, 1) := dk_4 (dk_at dksX0_aYear_8 11 rfl rfl)
theorem dX0_aYear_197 : decode cX0_aYear 197 = .ok (.iadd, 1) := dk_96 (dk_at dksX0_aYear_8 12 rfl rfl)
theorem dX0_aYear_198 : decode cX0_aYear 198 = .ok (.putfield 140, 3) := dk_181 0 140 (dk_at dksX0_aYear_8 13 rfl rfl)
theorem dX0_aYear_201 : decode cX0_aYear 201 = .ok (.return_, 1) := dk_177 (dk_at dksX0_aYear_8 16 rfl rfl)
abbrev cX0_mayGo : ByteArray := prog_1_method_42_code
def yX0_mayGo : MethodName := ⟨RX0, "mayGo", "(I)V"⟩
def dkwX0_mayGo_5 : List UInt8 := [42, 180, 0, 73, 27, 29, 182, 1, 55, 177, 132, 3, 1, 167, 255, 136, 177]
abbrev dktX0_mayGo_5 : List UInt8 := dkwX0_mayGo_5 ++ []
def dkwX0_mayGo_4 : List UInt8 := [42, 180, 0, 73, 180, 0, 217, 29, 46, 42, 180, 0, 73, 180, 0, 134, 27, 46, 162, 0, 6, 167, 0, 13]
abbrev dktX0_mayGo_4 : List UInt8 := dkwX0_mayGo_4 ++ dktX0_mayGo_5
def dkwX0_mayGo_3 : List UInt8 := [153, 0, 58, 42, 180, 0, 73, 29, 27, 182, 0, 174, 42, 180, 0, 73, 180, 0, 134, 27, 46, 164, 0, 37]
abbrev dktX0_mayGo_3 : List UInt8 := dkwX0_mayGo_3 ++ dktX0_mayGo_4
def dkwX0_mayGo_2 : List UInt8 := [25, 4, 180, 0, 171, 112, 25, 4, 180, 0, 177, 162, 0, 7, 4, 167, 0, 4, 3, 54, 5, 21, 5]
abbrev dktX0_mayGo_2 : List UInt8 := dkwX0_mayGo_2 ++ dktX0_mayGo_3
def dkwX0_mayGo_1 : List UInt8 := [28, 160, 0, 6, 167, 0, 101, 42, 180, 0, 73, 29, 182, 0, 150, 58, 4, 42, 180, 0, 73, 182, 1, 52]
abbrev dktX0_mayGo_1 : List UInt8 := dkwX0_mayGo_1 ++ dktX0_mayGo_2
def dkwX0_mayGo_0 : List UInt8 := [42, 180, 0, 73, 180, 0, 147, 27, 46, 61, 3, 62, 29, 42, 180, 0, 73, 180, 0, 110, 162, 0, 115, 29]
abbrev dktX0_mayGo_0 : List UInt8 := dkwX0_mayGo_0 ++ dktX0_mayGo_1
theorem dksX0_mayGo_0 : cX0_mayGo.data.toList.drop 0 = dktX0_mayGo_0 := by decide +kernel
theorem dksX0_mayGo_1 : cX0_mayGo.data.toList.drop 24 = dktX0_mayGo_1 := dk_seg dksX0_mayGo_0 24 rfl rfl
theorem dksX0_mayGo_2 : cX0_mayGo.data.toList.drop 48 = dktX0_mayGo_2 := dk_seg dksX0_mayGo_1 24 rfl rfl
theorem dksX0_mayGo_3 : cX0_mayGo.data.toList.drop 71 = dktX0_mayGo_3 := dk_seg dksX0_mayGo_2 23 rfl rfl
theorem dksX0_mayGo_4 : cX0_mayGo.data.toList.drop 95 = dktX0_mayGo_4 := dk_seg dksX0_mayGo_3 24 rfl rfl
theorem dksX0_mayGo_5 : cX0_mayGo.data.toList.drop 119 = dktX0_mayGo_5 := dk_seg dksX0_mayGo_4 24 rfl rfl
theorem dX0_mayGo_0 : decode cX0_mayGo 0 = .ok (.aload_n 0, 1) := dk_42 (dk_at dksX0_mayGo_0 0 rfl rfl)
theorem dX0_mayGo_1 : decode cX0_mayGo 1 = .ok (.getfield 73, 3) := dk_180 0 73 (dk_at dksX0_mayGo_0 1 rfl rfl)
theorem dX0_mayGo_4 : decode cX0_mayGo 4 = .ok (.getfield 147, 3) := dk_180 0 147 (dk_at dksX0_mayGo_0 4 rfl rfl)
theorem dX0_mayGo_7 : decode cX0_mayGo 7 = .ok (.iload_n 1, 1) := dk_27 (dk_at dksX0_mayGo_0 7 rfl rfl)
theorem dX0_mayGo_8 : decode cX0_mayGo 8 = .ok (.iaload, 1) := dk_46 (dk_at dksX0_mayGo_0 8 rfl rfl)
theorem dX0_mayGo_9 : decode cX0_mayGo 9 = .ok (.istore_n 2, 1) := dk_61 (dk_at dksX0_mayGo_0 9 rfl rfl)
theorem dX0_mayGo_10 : decode cX0_mayGo 10 = .ok (.iconst 0, 1) := dk_3 (dk_at dksX0_mayGo_0 10 rfl rfl)
theorem dX0_mayGo_11 : decode cX0_mayGo 11 = .ok (.istore_n 3, 1) := dk_62 (dk_at dksX0_mayGo_0 11 rfl rfl)
theorem dX0_mayGo_12 : decode cX0_mayGo 12 = .ok (.iload_n 3, 1) := dk_29 (dk_at dksX0_mayGo_0 12 rfl rfl)
theorem dX0_mayGo_13 : decode cX0_mayGo 13 = .ok (.aload_n 0, 1) := dk_42 (dk_at dksX0_mayGo_0 13 rfl rfl)
theorem dX0_mayGo_14 : decode cX0_mayGo 14 = .ok (.getfield 73, 3) := dk_180 0 73 (dk_at dksX0_mayGo_0 14 rfl rfl)
theorem dX0_mayGo_17 : decode cX0_mayGo 17 = .ok (.getfield 110, 3) := dk_180 0 110 (dk_at dksX0_mayGo_0 17 rfl rfl)
theorem dX0_mayGo_20 : decode cX0_mayGo 20 = .ok (.if_icmp .ge 115, 3) := dk_162 0 115 (dk_at dksX0_mayGo_0 20 rfl rfl)
theorem dX0_mayGo_23 : decode cX0_mayGo 23 = .ok (.iload_n 3, 1) := dk_29 (dk_at dksX0_mayGo_0 23 rfl rfl)
theorem dX0_mayGo_24 : decode cX0_mayGo 24 = .ok (.iload_n 2, 1) := dk_28 (dk_at dksX0_mayGo_1 0 rfl rfl)
theorem dX0_mayGo_25 : decode cX0_mayGo 25 = .ok (.if_icmp .ne 6, 3) := dk_160 0 6 (dk_at dksX0_mayGo_1 1 rfl rfl)
theorem dX0_mayGo_28 : decode cX0_mayGo 28 = .ok (.goto 101, 3) := dk_167 0 101 (dk_at dksX0_mayGo_1 4 rfl rfl)
theorem dX0_mayGo_31 : decode cX0_mayGo 31 = .ok (.aload_n 0, 1) := dk_42 (dk_at dksX0_mayGo_1 7 rfl rfl)
theorem dX0_mayGo_32 : decode cX0_mayGo 32 = .ok (.getfield 73, 3) := dk_180 0 73 (dk_at dksX0_mayGo_1 8 rfl rfl)
theorem dX0_mayGo_35 : decode cX0_mayGo 35 = .ok (.iload_n 3, 1) := dk_29 (dk_at dksX0_mayGo_1 11 rfl rfl)
theorem dX0_mayGo_36 : decode cX0_mayGo 36 = .ok (.invokevirtual 150, 3) := dk_182 0 150 (dk_at dksX0_mayGo_1 12 rfl rfl)
theorem dX0_mayGo_39 : decode cX0_mayGo 39 = .ok (.astore 4, 2) := dk_58 4 (dk_at dksX0_mayGo_1 15 rfl rfl)
theorem dX0_mayGo_41 : decode cX0_mayGo 41 = .ok (.aload_n 0, 1) := dk_42 (dk_at dksX0_mayGo_1 17 rfl rfl)
theorem dX0_mayGo_42 : decode cX0_mayGo 42 = .ok (.getfield 73, 3) := dk_180 0 73 (dk_at dksX0_mayGo_1 18 rfl rfl)
theorem dX0_mayGo_45 : decode cX0_mayGo 45 = .ok (.invokevirtual 308, 3) := dk_182 1 52 (dk_at dksX0_mayGo_1 21 rfl rfl)
theorem dX0_mayGo_48 : decode cX0_mayGo 48 = .ok (.aload 4, 2) := dk_25 4 (dk_at dksX0_mayGo_2 0 rfl rfl)
theorem dX0_mayGo_50 : decode cX0_mayGo 50 = .ok (.getfield 171, 3) := dk_180 0 171 (dk_at dksX0_mayGo_2 2 rfl rfl)
theorem dX0_mayGo_53 : decode cX0_mayGo 53 = .ok (.irem, 1) := dk_112 (dk_at dksX0_mayGo_2 5 rfl rfl)
theorem dX0_mayGo_54 : decode cX0_mayGo 54 = .ok (.aload 4, 2) := dk_25 4 (dk_at dksX0_mayGo_2 6 rfl rfl)
theorem dX0_mayGo_56 : decode cX0_mayGo 56 = .ok (.getfield 177, 3) := dk_180 0 177 (dk_at dksX0_mayGo_2 8 rfl rfl)
theorem dX0_mayGo_59 : decode cX0_mayGo 59 = .ok (.if_icmp .ge 7, 3) := dk_162 0 7 (dk_at dksX0_mayGo_2 11 rfl rfl)
theorem dX0_mayGo_62 : decode cX0_mayGo 62 = .ok (.iconst 1, 1) := dk_4 (dk_at dksX0_mayGo_2 14 rfl rfl)
theorem dX0_mayGo_63 : decode cX0_mayGo 63 = .ok (.goto 4, 3) := dk_167 0 4 (dk_at dksX0_mayGo_2 15 rfl rfl)
theorem dX0_mayGo_66 : decode cX0_mayGo 66 = .ok (.iconst 0, 1) := dk_3 (dk_at dksX0_mayGo_2 18 rfl rfl)
theorem dX0_mayGo_67 : decode cX0_mayGo 67 = .ok (.istore 5, 2) := dk_54 5 (dk_at dksX0_mayGo_2 19 rfl rfl)
theorem dX0_mayGo_69 : decode cX0_mayGo 69 = .ok (.iload 5, 2) := dk_21 5 (dk_at dksX0_mayGo_2 21 rfl rfl)
theorem dX0_mayGo_71 : decode cX0_mayGo 71 = .ok (.ifCond .eq 58, 3) := dk_153 0 58 (dk_at dksX0_mayGo_3 0 rfl rfl)
theorem dX0_mayGo_74 : decode cX0_mayGo 74 = .ok (.aload_n 0, 1) := dk_42 (dk_at dksX0_mayGo_3 3 rfl rfl)
theorem dX0_mayGo_75 : decode cX0_mayGo 75 = .ok (.getfield 73, 3) := dk_180 0 73 (dk_at dksX0_mayGo_3 4 rfl rfl)
theorem dX0_mayGo_78 : decode cX0_mayGo 78 = .ok (.iload_n 3, 1) := dk_29 (dk_at dksX0_mayGo_3 7 rfl rfl)
theorem dX0_mayGo_79 : decode cX0_mayGo 79 = .ok (.iload_n 1, 1) := dk_27 (dk_at dksX0_mayGo_3 8 rfl rfl)
theorem dX0_mayGo_80 : decode cX0_mayGo 80 = .ok (.invokevirtual 174, 3) := dk_182 0 174 (dk_at dksX0_mayGo_3 9 rfl rfl)
theorem dX0_mayGo_83 : decode cX0_mayGo 83 = .ok (.aload_n 0, 1) := dk_42 (dk_at dksX0_mayGo_3 12 rfl rfl)
theorem dX0_mayGo_84 : decode cX0_mayGo 84 = .ok (.getfield 73, 3) := dk_180 0 73 (dk_at dksX0_mayGo_3 13 rfl rfl)
theorem dX0_mayGo_87 : decode cX0_mayGo 87 = .ok (.getfield 134, 3) := dk_180 0 134 (dk_at dksX0_mayGo_3 16 rfl rfl)
theorem dX0_mayGo_90 : decode cX0_mayGo 90 = .ok (.iload_n 1, 1) := dk_27 (dk_at dksX0_mayGo_3 19 rfl rfl)
theorem dX0_mayGo_91 : decode cX0_mayGo 91 = .ok (.iaload, 1) := dk_46 (dk_at dksX0_mayGo_3 20 rfl rfl)
theorem dX0_mayGo_92 : decode cX0_mayGo 92 = .ok (.if_icmp .le 37, 3) := dk_164 0 37 (dk_at dksX0_mayGo_3 21 rfl rfl)
theorem dX0_mayGo_95 : decode cX0_mayGo 95 = .ok (.aload_n 0, 1) := dk_42 (dk_at dksX0_mayGo_4 0 rfl rfl)
theorem dX0_mayGo_96 : decode cX0_mayGo 96 = .ok (.getfield 73, 3) := dk_180 0 73 (dk_at dksX0_mayGo_4 1 rfl rfl)
theorem dX0_mayGo_99 : decode cX0_mayGo 99 = .ok (.getfield 217, 3) := dk_180 0 217 (dk_at dksX0_mayGo_4 4 rfl rfl)
theorem dX0_mayGo_102 : decode cX0_mayGo 102 = .ok (.iload_n 3, 1) := dk_29 (dk_at dksX0_mayGo_4 7 rfl rfl)
theorem dX0_mayGo_103 : decode cX0_mayGo 103 = .ok (.iaload, 1) := dk_46 (dk_at dksX0_mayGo_4 8 rfl rfl)
theorem dX0_mayGo_104 : decode cX0_mayGo 104 = .ok (.aload_n 0, 1) := dk_42 (dk_at dksX0_mayGo_4 9 rfl rfl)
theorem dX0_mayGo_105 : decode cX0_mayGo 105 = .ok (.getfield 73, 3) := dk_180 0 73 (dk_at dksX0_mayGo_4 10 rfl rfl)
theorem dX0_mayGo_108 : decode cX0_mayGo 108 = .ok (.getfield 134, 3) := dk_180 0 134 (dk_at dksX0_mayGo_4 13 rfl rfl)
theorem dX0_mayGo_111 : decode cX0_mayGo 111 = .ok (.iload_n 1, 1) := dk_27 (dk_at dksX0_mayGo_4 16 rfl rfl)
theorem dX0_mayGo_112 : decode cX0_mayGo 112 = .ok (.iaload, 1) := dk_46 (dk_at dksX0_mayGo_4 17 rfl rfl)
theorem dX0_mayGo_113 : decode cX0_mayGo 113 = .ok (.if_icmp .ge 6, 3) := dk_162 0 6 (dk_at dksX0_mayGo_4 18 rfl rfl)
theorem dX0_mayGo_116 : decode cX0_mayGo 116 = .ok (.goto 13, 3) := dk_167 0 13 (dk_at dksX0_mayGo_4 21 rfl rfl)
theorem dX0_mayGo_119 : decode cX0_mayGo 119 = .ok (.aload_n 0, 1) := dk_42 (dk_at dksX0_mayGo_5 0 rfl rfl)
theorem dX0_mayGo_120 : decode cX0_mayGo 120 = .ok (.getfield 73, 3) := dk_180 0 73 (dk_at dksX0_mayGo_5 1 rfl rfl)
theorem dX0_mayGo_123 : decode cX0_mayGo 123 = .ok (.iload_n 1, 1) := dk_27 (dk_at dksX0_mayGo_5 4 rfl rfl)
theorem dX0_mayGo_124 : decode cX0_mayGo 124 = .ok (.iload_n 3, 1) := dk_29 (dk_at dksX0_mayGo_5 5 rfl rfl)
theorem dX0_mayGo_125 : decode cX0_mayGo 125 = .ok (.invokevirtual 311, 3) := dk_182 1 55 (dk_at dksX0_mayGo_5 6 rfl rfl)
theorem dX0_mayGo_128 : decode cX0_mayGo 128 = .ok (.return_, 1) := dk_177 (dk_at dksX0_mayGo_5 9 rfl rfl)
theorem dX0_mayGo_129 : decode cX0_mayGo 129 = .ok (.iinc 3 1, 3) := dk_132 3 1 (dk_at dksX0_mayGo_5 10 rfl rfl)
theorem dX0_mayGo_132 : decode cX0_mayGo 132 = .ok (.goto (-120), 3) := dk_167 255 136 (dk_at dksX0_mayGo_5 13 rfl rfl)
theorem dX0_mayGo_135 : decode cX0_mayGo 135 = .ok (.return_, 1) := dk_177 (dk_at dksX0_mayGo_5 16 rfl rfl)
abbrev cX0_seed : ByteArray := prog_1_method_46_code
def yX0_seed : MethodName := ⟨RX0, "seed", "(I)I"⟩
def dkwX0_seed_0 : List UInt8 := [42, 180, 0, 73, 180, 1, 79, 61, 42, 180, 0, 73, 27, 181, 1, 79, 28, 172]
abbrev dktX0_seed_0 : List UInt8 := dkwX0_seed_0 ++ []
theorem dksX0_seed_0 : cX0_seed.data.toList.drop 0 = dktX0_seed_0 := by decide +kernel
theorem dX0_seed_0 : decode cX0_seed 0 = .ok (.aload_n 0, 1) := dk_42 (dk_at dksX0_seed_0 0 rfl rfl)
theorem dX0_seed_1 : decode cX0_seed 1 = .ok (.getfield 73, 3) := dk_180 0 73 (dk_at dksX0_seed_0 1 rfl rfl)
theorem dX0_seed_4 : decode cX0_seed 4 = .ok (.getfield 335, 3) := dk_180 1 79 (dk_at dksX0_seed_0 4 rfl rfl)
theorem dX0_seed_7 : decode cX0_seed 7 = .ok (.istore_n 2, 1) := dk_61 (dk_at dksX0_seed_0 7 rfl rfl)
theorem dX0_seed_8 : decode cX0_seed 8 = .ok (.aload_n 0, 1) := dk_42 (dk_at dksX0_seed_0 8 rfl rfl)
theorem dX0_seed_9 : decode cX0_seed 9 = .ok (.getfield 73, 3) := dk_180 0 73 (dk_at dksX0_seed_0 9 rfl rfl)
theorem dX0_seed_12 : decode cX0_seed 12 = .ok (.iload_n 1, 1) := dk_27 (dk_at dksX0_seed_0 12 rfl rfl)
theorem dX0_seed_13 : decode cX0_seed 13 = .ok (.putfield 335, 3) := dk_181 1 79 (dk_at dksX0_seed_0 13 rfl rfl)
theorem dX0_seed_16 : decode cX0_seed 16 = .ok (.iload_n 2, 1) := dk_28 (dk_at dksX0_seed_0 16 rfl rfl)
theorem dX0_seed_17 : decode cX0_seed 17 = .ok (.ireturn, 1) := dk_172 (dk_at dksX0_seed_0 17 rfl rfl)
abbrev cX0_taken : ByteArray := prog_1_method_50_code
def yX0_taken : MethodName := ⟨RX0, "taken", "(III)J"⟩
def dkwX0_taken_1 : List UInt8 := [180, 0, 168, 42, 180, 0, 164, 101, 42, 180, 0, 168, 29, 184, 1, 92, 173]
abbrev dktX0_taken_1 : List UInt8 := dkwX0_taken_1 ++ []
def dkwX0_taken_0 : List UInt8 := [42, 27, 28, 29, 182, 1, 89, 154, 0, 10, 42, 4, 182, 0, 204, 133, 173, 42, 27, 28, 182, 0, 180, 42]
abbrev dktX0_taken_0 : List UInt8 := dkwX0_taken_0 ++ dktX0_taken_1
theorem dksX0_taken_0 : cX0_taken.data.toList.drop 0 = dktX0_taken_0 := by decide +kernel
theorem dksX0_taken_1 : cX0_taken.data.toList.drop 24 = dktX0_taken_1 := dk_seg dksX0_taken_0 24 rfl rfl
theorem dX0_taken_0 : decode cX0_taken 0 = .ok (.aload_n 0, 1) := dk_42 (dk_at dksX0_taken_0 0 rfl rfl)
theorem dX0_taken_1 : decode cX0_taken 1 = .ok (.iload_n 1, 1) := dk_27 (dk_at dksX0_taken_0 1 rfl rfl)
theorem dX0_taken_2 : decode cX0_taken 2 = .ok (.iload_n 2, 1) := dk_28 (dk_at dksX0_taken_0 2 rfl rfl)
theorem dX0_taken_3 : decode cX0_taken 3 = .ok (.iload_n 3, 1) := dk_29 (dk_at dksX0_taken_0 3 rfl rfl)
theorem dX0_taken_4 : decode cX0_taken 4 = .ok (.invokevirtual 345, 3) := dk_182 1 89 (dk_at dksX0_taken_0 4 rfl rfl)
theorem dX0_taken_7 : decode cX0_taken 7 = .ok (.ifCond .ne 10, 3) := dk_154 0 10 (dk_at dksX0_taken_0 7 rfl rfl)
theorem dX0_taken_10 : decode cX0_taken 10 = .ok (.aload_n 0, 1) := dk_42 (dk_at dksX0_taken_0 10 rfl rfl)
theorem dX0_taken_11 : decode cX0_taken 11 = .ok (.iconst 1, 1) := dk_4 (dk_at dksX0_taken_0 11 rfl rfl)
theorem dX0_taken_12 : decode cX0_taken 12 = .ok (.invokevirtual 204, 3) := dk_182 0 204 (dk_at dksX0_taken_0 12 rfl rfl)
theorem dX0_taken_15 : decode cX0_taken 15 = .ok (.i2l, 1) := dk_133 (dk_at dksX0_taken_0 15 rfl rfl)
theorem dX0_taken_16 : decode cX0_taken 16 = .ok (.lreturn, 1) := dk_173 (dk_at dksX0_taken_0 16 rfl rfl)
theorem dX0_taken_17 : decode cX0_taken 17 = .ok (.aload_n 0, 1) := dk_42 (dk_at dksX0_taken_0 17 rfl rfl)
theorem dX0_taken_18 : decode cX0_taken 18 = .ok (.iload_n 1, 1) := dk_27 (dk_at dksX0_taken_0 18 rfl rfl)
theorem dX0_taken_19 : decode cX0_taken 19 = .ok (.iload_n 2, 1) := dk_28 (dk_at dksX0_taken_0 19 rfl rfl)
theorem dX0_taken_20 : decode cX0_taken 20 = .ok (.invokevirtual 180, 3) := dk_182 0 180 (dk_at dksX0_taken_0 20 rfl rfl)
theorem dX0_taken_23 : decode cX0_taken 23 = .ok (.aload_n 0, 1) := dk_42 (dk_at dksX0_taken_0 23 rfl rfl)
theorem dX0_taken_24 : decode cX0_taken 24 = .ok (.getfield 168, 3) := dk_180 0 168 (dk_at dksX0_taken_1 0 rfl rfl)
theorem dX0_taken_27 : decode cX0_taken 27 = .ok (.aload_n 0, 1) := dk_42 (dk_at dksX0_taken_1 3 rfl rfl)
theorem dX0_taken_28 : decode cX0_taken 28 = .ok (.getfield 164, 3) := dk_180 0 164 (dk_at dksX0_taken_1 4 rfl rfl)
theorem dX0_taken_31 : decode cX0_taken 31 = .ok (.lsub, 1) := dk_101 (dk_at dksX0_taken_1 7 rfl rfl)
theorem dX0_taken_32 : decode cX0_taken 32 = .ok (.aload_n 0, 1) := dk_42 (dk_at dksX0_taken_1 8 rfl rfl)
theorem dX0_taken_33 : decode cX0_taken 33 = .ok (.getfield 168, 3) := dk_180 0 168 (dk_at dksX0_taken_1 9 rfl rfl)
theorem dX0_taken_36 : decode cX0_taken 36 = .ok (.iload_n 3, 1) := dk_29 (dk_at dksX0_taken_1 12 rfl rfl)
theorem dX0_taken_37 : decode cX0_taken 37 = .ok (.invokestatic 348, 3) := dk_184 1 92 (dk_at dksX0_taken_1 13 rfl rfl)
theorem dX0_taken_40 : decode cX0_taken 40 = .ok (.lreturn, 1) := dk_173 (dk_at dksX0_taken_1 16 rfl rfl)
abbrev cX0_isAsked : ByteArray := prog_1_method_49_code
def yX0_isAsked : MethodName := ⟨RX0, "isAsked", "(III)Z"⟩
def dkwX0_isAsked_1 : List UInt8 := [184, 0, 113, 153, 0, 7, 4, 167, 0, 4, 3, 172]
abbrev dktX0_isAsked_1 : List UInt8 := dkwX0_isAsked_1 ++ []
def dkwX0_isAsked_0 : List UInt8 := [42, 27, 182, 0, 251, 153, 0, 27, 28, 3, 17, 39, 15, 184, 0, 113, 153, 0, 16, 29, 3, 4]
abbrev dktX0_isAsked_0 : List UInt8 := dkwX0_isAsked_0 ++ dktX0_isAsked_1
theorem dksX0_isAsked_0 : cX0_isAsked.data.toList.drop 0 = dktX0_isAsked_0 := by decide +kernel
theorem dksX0_isAsked_1 : cX0_isAsked.data.toList.drop 22 = dktX0_isAsked_1 := dk_seg dksX0_isAsked_0 22 rfl rfl
theorem dX0_isAsked_0 : decode cX0_isAsked 0 = .ok (.aload_n 0, 1) := dk_42 (dk_at dksX0_isAsked_0 0 rfl rfl)
theorem dX0_isAsked_1 : decode cX0_isAsked 1 = .ok (.iload_n 1, 1) := dk_27 (dk_at dksX0_isAsked_0 1 rfl rfl)
theorem dX0_isAsked_2 : decode cX0_isAsked 2 = .ok (.invokevirtual 251, 3) := dk_182 0 251 (dk_at dksX0_isAsked_0 2 rfl rfl)
theorem dX0_isAsked_5 : decode cX0_isAsked 5 = .ok (.ifCond .eq 27, 3) := dk_153 0 27 (dk_at dksX0_isAsked_0 5 rfl rfl)
theorem dX0_isAsked_8 : decode cX0_isAsked 8 = .ok (.iload_n 2, 1) := dk_28 (dk_at dksX0_isAsked_0 8 rfl rfl)
theorem dX0_isAsked_9 : decode cX0_isAsked 9 = .ok (.iconst 0, 1) := dk_3 (dk_at dksX0_isAsked_0 9 rfl rfl)
theorem dX0_isAsked_10 : decode cX0_isAsked 10 = .ok (.sipush 9999, 3) := dk_17 39 15 (dk_at dksX0_isAsked_0 10 rfl rfl)
theorem dX0_isAsked_13 : decode cX0_isAsked 13 = .ok (.invokestatic 113, 3) := dk_184 0 113 (dk_at dksX0_isAsked_0 13 rfl rfl)
theorem dX0_isAsked_16 : decode cX0_isAsked 16 = .ok (.ifCond .eq 16, 3) := dk_153 0 16 (dk_at dksX0_isAsked_0 16 rfl rfl)
theorem dX0_isAsked_19 : decode cX0_isAsked 19 = .ok (.iload_n 3, 1) := dk_29 (dk_at dksX0_isAsked_0 19 rfl rfl)
theorem dX0_isAsked_20 : decode cX0_isAsked 20 = .ok (.iconst 0, 1) := dk_3 (dk_at dksX0_isAsked_0 20 rfl rfl)
theorem dX0_isAsked_21 : decode cX0_isAsked 21 = .ok (.iconst 1, 1) := dk_4 (dk_at dksX0_isAsked_0 21 rfl rfl)
theorem dX0_isAsked_22 : decode cX0_isAsked 22 = .ok (.invokestatic 113, 3) := dk_184 0 113 (dk_at dksX0_isAsked_1 0 rfl rfl)
theorem dX0_isAsked_25 : decode cX0_isAsked 25 = .ok (.ifCond .eq 7, 3) := dk_153 0 7 (dk_at dksX0_isAsked_1 3 rfl rfl)
theorem dX0_isAsked_28 : decode cX0_isAsked 28 = .ok (.iconst 1, 1) := dk_4 (dk_at dksX0_isAsked_1 6 rfl rfl)
theorem dX0_isAsked_29 : decode cX0_isAsked 29 = .ok (.goto 4, 3) := dk_167 0 4 (dk_at dksX0_isAsked_1 7 rfl rfl)
theorem dX0_isAsked_32 : decode cX0_isAsked 32 = .ok (.iconst 0, 1) := dk_3 (dk_at dksX0_isAsked_1 10 rfl rfl)
theorem dX0_isAsked_33 : decode cX0_isAsked 33 = .ok (.ireturn, 1) := dk_172 (dk_at dksX0_isAsked_1 11 rfl rfl)
abbrev cX0_lowest : ByteArray := prog_1_method_48_code
def yX0_lowest : MethodName := ⟨RX0, "lowest", "(JJI)J"⟩
def dkwX0_lowest_0 : List UInt8 := [21, 4, 154, 0, 7, 30, 167, 0, 4, 32, 30, 32, 184, 1, 86, 109, 173]
abbrev dktX0_lowest_0 : List UInt8 := dkwX0_lowest_0 ++ []
theorem dksX0_lowest_0 : cX0_lowest.data.toList.drop 0 = dktX0_lowest_0 := by decide +kernel
theorem dX0_lowest_0 : decode cX0_lowest 0 = .ok (.iload 4, 2) := dk_21 4 (dk_at dksX0_lowest_0 0 rfl rfl)
theorem dX0_lowest_2 : decode cX0_lowest 2 = .ok (.ifCond .ne 7, 3) := dk_154 0 7 (dk_at dksX0_lowest_0 2 rfl rfl)
theorem dX0_lowest_5 : decode cX0_lowest 5 = .ok (.lload_n 0, 1) := dk_30 (dk_at dksX0_lowest_0 5 rfl rfl)
theorem dX0_lowest_6 : decode cX0_lowest 6 = .ok (.goto 4, 3) := dk_167 0 4 (dk_at dksX0_lowest_0 6 rfl rfl)
theorem dX0_lowest_9 : decode cX0_lowest 9 = .ok (.lload_n 2, 1) := dk_32 (dk_at dksX0_lowest_0 9 rfl rfl)
theorem dX0_lowest_10 : decode cX0_lowest 10 = .ok (.lload_n 0, 1) := dk_30 (dk_at dksX0_lowest_0 10 rfl rfl)
theorem dX0_lowest_11 : decode cX0_lowest 11 = .ok (.lload_n 2, 1) := dk_32 (dk_at dksX0_lowest_0 11 rfl rfl)
theorem dX0_lowest_12 : decode cX0_lowest 12 = .ok (.invokestatic 342, 3) := dk_184 1 86 (dk_at dksX0_lowest_0 12 rfl rfl)
theorem dX0_lowest_15 : decode cX0_lowest 15 = .ok (.ldiv, 1) := dk_109 (dk_at dksX0_lowest_0 15 rfl rfl)
theorem dX0_lowest_16 : decode cX0_lowest 16 = .ok (.lreturn, 1) := dk_173 (dk_at dksX0_lowest_0 16 rfl rfl)
abbrev cX0_common : ByteArray := prog_1_method_47_code
def yX0_common : MethodName := ⟨RX0, "common", "(JJ)J"⟩
def dkwX0_common_1 : List UInt8 := [22, 6, 55, 4, 22, 8, 55, 6, 167, 255, 234, 22, 4, 173]
abbrev dktX0_common_1 : List UInt8 := dkwX0_common_1 ++ []
def dkwX0_common_0 : List UInt8 := [30, 184, 1, 82, 55, 4, 32, 55, 6, 22, 6, 9, 148, 153, 0, 21, 22, 4, 22, 6, 113, 55, 8]
abbrev dktX0_common_0 : List UInt8 := dkwX0_common_0 ++ dktX0_common_1
theorem dksX0_common_0 : cX0_common.data.toList.drop 0 = dktX0_common_0 := by decide +kernel
theorem dksX0_common_1 : cX0_common.data.toList.drop 23 = dktX0_common_1 := dk_seg dksX0_common_0 23 rfl rfl
theorem dX0_common_0 : decode cX0_common 0 = .ok (.lload_n 0, 1) := dk_30 (dk_at dksX0_common_0 0 rfl rfl)
theorem dX0_common_1 : decode cX0_common 1 = .ok (.invokestatic 338, 3) := dk_184 1 82 (dk_at dksX0_common_0 1 rfl rfl)
theorem dX0_common_4 : decode cX0_common 4 = .ok (.lstore 4, 2) := dk_55 4 (dk_at dksX0_common_0 4 rfl rfl)
theorem dX0_common_6 : decode cX0_common 6 = .ok (.lload_n 2, 1) := dk_32 (dk_at dksX0_common_0 6 rfl rfl)
theorem dX0_common_7 : decode cX0_common 7 = .ok (.lstore 6, 2) := dk_55 6 (dk_at dksX0_common_0 7 rfl rfl)
theorem dX0_common_9 : decode cX0_common 9 = .ok (.lload 6, 2) := dk_22 6 (dk_at dksX0_common_0 9 rfl rfl)
theorem dX0_common_11 : decode cX0_common 11 = .ok (.lconst 0, 1) := dk_9 (dk_at dksX0_common_0 11 rfl rfl)
theorem dX0_common_12 : decode cX0_common 12 = .ok (.lcmp, 1) := dk_148 (dk_at dksX0_common_0 12 rfl rfl)
theorem dX0_common_13 : decode cX0_common 13 = .ok (.ifCond .eq 21, 3) := dk_153 0 21 (dk_at dksX0_common_0 13 rfl rfl)
theorem dX0_common_16 : decode cX0_common 16 = .ok (.lload 4, 2) := dk_22 4 (dk_at dksX0_common_0 16 rfl rfl)
theorem dX0_common_18 : decode cX0_common 18 = .ok (.lload 6, 2) := dk_22 6 (dk_at dksX0_common_0 18 rfl rfl)
theorem dX0_common_20 : decode cX0_common 20 = .ok (.lrem, 1) := dk_113 (dk_at dksX0_common_0 20 rfl rfl)
theorem dX0_common_21 : decode cX0_common 21 = .ok (.lstore 8, 2) := dk_55 8 (dk_at dksX0_common_0 21 rfl rfl)
theorem dX0_common_23 : decode cX0_common 23 = .ok (.lload 6, 2) := dk_22 6 (dk_at dksX0_common_1 0 rfl rfl)
theorem dX0_common_25 : decode cX0_common 25 = .ok (.lstore 4, 2) := dk_55 4 (dk_at dksX0_common_1 2 rfl rfl)
theorem dX0_common_27 : decode cX0_common 27 = .ok (.lload 8, 2) := dk_22 8 (dk_at dksX0_common_1 4 rfl rfl)
theorem dX0_common_29 : decode cX0_common 29 = .ok (.lstore 6, 2) := dk_55 6 (dk_at dksX0_common_1 6 rfl rfl)
theorem dX0_common_31 : decode cX0_common 31 = .ok (.goto (-22), 3) := dk_167 255 234 (dk_at dksX0_common_1 8 rfl rfl)
theorem dX0_common_34 : decode cX0_common 34 = .ok (.lload 4, 2) := dk_22 4 (dk_at dksX0_common_1 11 rfl rfl)
theorem dX0_common_36 : decode cX0_common 36 = .ok (.lreturn, 1) := dk_173 (dk_at dksX0_common_1 13 rfl rfl)
abbrev cX0_gain : ByteArray := prog_1_method_51_code
def yX0_gain : MethodName := ⟨RX0, "gain", "(III)J"⟩
def dkwX0_gain_2 : List UInt8 := [173]
abbrev dktX0_gain_2 : List UInt8 := dkwX0_gain_2 ++ []
def dkwX0_gain_1 : List UInt8 := [180, 0, 137, 3, 46, 182, 0, 186, 55, 4, 22, 4, 42, 180, 0, 168, 20, 0, 184, 105, 29, 184, 1, 92]
abbrev dktX0_gain_1 : List UInt8 := dkwX0_gain_1 ++ dktX0_gain_2
def dkwX0_gain_0 : List UInt8 := [42, 27, 28, 29, 182, 1, 89, 154, 0, 10, 42, 4, 182, 0, 204, 133, 173, 42, 27, 28, 42, 180, 0, 73]
abbrev dktX0_gain_0 : List UInt8 := dkwX0_gain_0 ++ dktX0_gain_1
theorem dksX0_gain_0 : cX0_gain.data.toList.drop 0 = dktX0_gain_0 := by decide +kernel
theorem dksX0_gain_1 : cX0_gain.data.toList.drop 24 = dktX0_gain_1 := dk_seg dksX0_gain_0 24 rfl rfl
theorem dksX0_gain_2 : cX0_gain.data.toList.drop 48 = dktX0_gain_2 := dk_seg dksX0_gain_1 24 rfl rfl
theorem dX0_gain_0 : decode cX0_gain 0 = .ok (.aload_n 0, 1) := dk_42 (dk_at dksX0_gain_0 0 rfl rfl)
theorem dX0_gain_1 : decode cX0_gain 1 = .ok (.iload_n 1, 1) := dk_27 (dk_at dksX0_gain_0 1 rfl rfl)
theorem dX0_gain_2 : decode cX0_gain 2 = .ok (.iload_n 2, 1) := dk_28 (dk_at dksX0_gain_0 2 rfl rfl)
theorem dX0_gain_3 : decode cX0_gain 3 = .ok (.iload_n 3, 1) := dk_29 (dk_at dksX0_gain_0 3 rfl rfl)
theorem dX0_gain_4 : decode cX0_gain 4 = .ok (.invokevirtual 345, 3) := dk_182 1 89 (dk_at dksX0_gain_0 4 rfl rfl)
theorem dX0_gain_7 : decode cX0_gain 7 = .ok (.ifCond .ne 10, 3) := dk_154 0 10 (dk_at dksX0_gain_0 7 rfl rfl)
theorem dX0_gain_10 : decode cX0_gain 10 = .ok (.aload_n 0, 1) := dk_42 (dk_at dksX0_gain_0 10 rfl rfl)
theorem dX0_gain_11 : decode cX0_gain 11 = .ok (.iconst 1, 1) := dk_4 (dk_at dksX0_gain_0 11 rfl rfl)
theorem dX0_gain_12 : decode cX0_gain 12 = .ok (.invokevirtual 204, 3) := dk_182 0 204 (dk_at dksX0_gain_0 12 rfl rfl)
theorem dX0_gain_15 : decode cX0_gain 15 = .ok (.i2l, 1) := dk_133 (dk_at dksX0_gain_0 15 rfl rfl)
theorem dX0_gain_16 : decode cX0_gain 16 = .ok (.lreturn, 1) := dk_173 (dk_at dksX0_gain_0 16 rfl rfl)
theorem dX0_gain_17 : decode cX0_gain 17 = .ok (.aload_n 0, 1) := dk_42 (dk_at dksX0_gain_0 17 rfl rfl)
theorem dX0_gain_18 : decode cX0_gain 18 = .ok (.iload_n 1, 1) := dk_27 (dk_at dksX0_gain_0 18 rfl rfl)
theorem dX0_gain_19 : decode cX0_gain 19 = .ok (.iload_n 2, 1) := dk_28 (dk_at dksX0_gain_0 19 rfl rfl)
theorem dX0_gain_20 : decode cX0_gain 20 = .ok (.aload_n 0, 1) := dk_42 (dk_at dksX0_gain_0 20 rfl rfl)
theorem dX0_gain_21 : decode cX0_gain 21 = .ok (.getfield 73, 3) := dk_180 0 73 (dk_at dksX0_gain_0 21 rfl rfl)
theorem dX0_gain_24 : decode cX0_gain 24 = .ok (.getfield 137, 3) := dk_180 0 137 (dk_at dksX0_gain_1 0 rfl rfl)
theorem dX0_gain_27 : decode cX0_gain 27 = .ok (.iconst 0, 1) := dk_3 (dk_at dksX0_gain_1 3 rfl rfl)
theorem dX0_gain_28 : decode cX0_gain 28 = .ok (.iaload, 1) := dk_46 (dk_at dksX0_gain_1 4 rfl rfl)
theorem dX0_gain_29 : decode cX0_gain 29 = .ok (.invokevirtual 186, 3) := dk_182 0 186 (dk_at dksX0_gain_1 5 rfl rfl)
theorem dX0_gain_32 : decode cX0_gain 32 = .ok (.lstore 4, 2) := dk_55 4 (dk_at dksX0_gain_1 8 rfl rfl)
theorem dX0_gain_34 : decode cX0_gain 34 = .ok (.lload 4, 2) := dk_22 4 (dk_at dksX0_gain_1 10 rfl rfl)
theorem dX0_gain_36 : decode cX0_gain 36 = .ok (.aload_n 0, 1) := dk_42 (dk_at dksX0_gain_1 12 rfl rfl)
theorem dX0_gain_37 : decode cX0_gain 37 = .ok (.getfield 168, 3) := dk_180 0 168 (dk_at dksX0_gain_1 13 rfl rfl)
theorem dX0_gain_40 : decode cX0_gain 40 = .ok (.ldc2_w 184, 3) := dk_20 0 184 (dk_at dksX0_gain_1 16 rfl rfl)
theorem dX0_gain_43 : decode cX0_gain 43 = .ok (.lmul, 1) := dk_105 (dk_at dksX0_gain_1 19 rfl rfl)
theorem dX0_gain_44 : decode cX0_gain 44 = .ok (.iload_n 3, 1) := dk_29 (dk_at dksX0_gain_1 20 rfl rfl)
theorem dX0_gain_45 : decode cX0_gain 45 = .ok (.invokestatic 348, 3) := dk_184 1 92 (dk_at dksX0_gain_1 21 rfl rfl)
theorem dX0_gain_48 : decode cX0_gain 48 = .ok (.lreturn, 1) := dk_173 (dk_at dksX0_gain_2 0 rfl rfl)
abbrev cX0_best : ByteArray := prog_1_method_52_code
def yX0_best : MethodName := ⟨RX0, "best", "(I)I"⟩
def dkwX0_best_1 : List UInt8 := [167, 0, 8, 42, 4, 182, 0, 204, 172]
abbrev dktX0_best_1 : List UInt8 := dkwX0_best_1 ++ []
def dkwX0_best_0 : List UInt8 := [42, 27, 182, 0, 251, 153, 0, 20, 42, 27, 42, 180, 0, 73, 180, 0, 137, 3, 46, 182, 1, 96]
abbrev dktX0_best_0 : List UInt8 := dkwX0_best_0 ++ dktX0_best_1
theorem dksX0_best_0 : cX0_best.data.toList.drop 0 = dktX0_best_0 := by decide +kernel
theorem dksX0_best_1 : cX0_best.data.toList.drop 22 = dktX0_best_1 := dk_seg dksX0_best_0 22 rfl rfl
theorem dX0_best_0 : decode cX0_best 0 = .ok (.aload_n 0, 1) := dk_42 (dk_at dksX0_best_0 0 rfl rfl)
theorem dX0_best_1 : decode cX0_best 1 = .ok (.iload_n 1, 1) := dk_27 (dk_at dksX0_best_0 1 rfl rfl)
theorem dX0_best_2 : decode cX0_best 2 = .ok (.invokevirtual 251, 3) := dk_182 0 251 (dk_at dksX0_best_0 2 rfl rfl)
theorem dX0_best_5 : decode cX0_best 5 = .ok (.ifCond .eq 20, 3) := dk_153 0 20 (dk_at dksX0_best_0 5 rfl rfl)
theorem dX0_best_8 : decode cX0_best 8 = .ok (.aload_n 0, 1) := dk_42 (dk_at dksX0_best_0 8 rfl rfl)
theorem dX0_best_9 : decode cX0_best 9 = .ok (.iload_n 1, 1) := dk_27 (dk_at dksX0_best_0 9 rfl rfl)
theorem dX0_best_10 : decode cX0_best 10 = .ok (.aload_n 0, 1) := dk_42 (dk_at dksX0_best_0 10 rfl rfl)
theorem dX0_best_11 : decode cX0_best 11 = .ok (.getfield 73, 3) := dk_180 0 73 (dk_at dksX0_best_0 11 rfl rfl)
theorem dX0_best_14 : decode cX0_best 14 = .ok (.getfield 137, 3) := dk_180 0 137 (dk_at dksX0_best_0 14 rfl rfl)
theorem dX0_best_17 : decode cX0_best 17 = .ok (.iconst 0, 1) := dk_3 (dk_at dksX0_best_0 17 rfl rfl)
theorem dX0_best_18 : decode cX0_best 18 = .ok (.iaload, 1) := dk_46 (dk_at dksX0_best_0 18 rfl rfl)
theorem dX0_best_19 : decode cX0_best 19 = .ok (.invokevirtual 352, 3) := dk_182 1 96 (dk_at dksX0_best_0 19 rfl rfl)
theorem dX0_best_22 : decode cX0_best 22 = .ok (.goto 8, 3) := dk_167 0 8 (dk_at dksX0_best_1 0 rfl rfl)
theorem dX0_best_25 : decode cX0_best 25 = .ok (.aload_n 0, 1) := dk_42 (dk_at dksX0_best_1 3 rfl rfl)
theorem dX0_best_26 : decode cX0_best 26 = .ok (.iconst 1, 1) := dk_4 (dk_at dksX0_best_1 4 rfl rfl)
theorem dX0_best_27 : decode cX0_best 27 = .ok (.invokevirtual 204, 3) := dk_182 0 204 (dk_at dksX0_best_1 5 rfl rfl)
theorem dX0_best_30 : decode cX0_best 30 = .ok (.ireturn, 1) := dk_172 (dk_at dksX0_best_1 8 rfl rfl)
abbrev cX0_right : ByteArray := prog_1_method_53_code
def yX0_right : MethodName := ⟨RX0, "right", "(I)I"⟩
def dkwX0_right_2 : List UInt8 := [162, 0, 7, 28, 167, 0, 8, 42, 5, 182, 0, 204, 172]
abbrev dktX0_right_2 : List UInt8 := dkwX0_right_2 ++ []
def dkwX0_right_1 : List UInt8 := [28, 182, 1, 96, 42, 180, 0, 73, 27, 182, 0, 127, 159, 0, 9, 132, 2, 1, 167, 255, 230, 28, 16, 100]
abbrev dktX0_right_1 : List UInt8 := dkwX0_right_1 ++ dktX0_right_2
def dkwX0_right_0 : List UInt8 := [42, 27, 182, 0, 251, 154, 0, 9, 42, 4, 182, 0, 204, 172, 3, 61, 28, 16, 100, 162, 0, 26, 42, 27]
abbrev dktX0_right_0 : List UInt8 := dkwX0_right_0 ++ dktX0_right_1
theorem dksX0_right_0 : cX0_right.data.toList.drop 0 = dktX0_right_0 := by decide +kernel
theorem dksX0_right_1 : cX0_right.data.toList.drop 24 = dktX0_right_1 := dk_seg dksX0_right_0 24 rfl rfl
theorem dksX0_right_2 : cX0_right.data.toList.drop 48 = dktX0_right_2 := dk_seg dksX0_right_1 24 rfl rfl
theorem dX0_right_0 : decode cX0_right 0 = .ok (.aload_n 0, 1) := dk_42 (dk_at dksX0_right_0 0 rfl rfl)
theorem dX0_right_1 : decode cX0_right 1 = .ok (.iload_n 1, 1) := dk_27 (dk_at dksX0_right_0 1 rfl rfl)
theorem dX0_right_2 : decode cX0_right 2 = .ok (.invokevirtual 251, 3) := dk_182 0 251 (dk_at dksX0_right_0 2 rfl rfl)
theorem dX0_right_5 : decode cX0_right 5 = .ok (.ifCond .ne 9, 3) := dk_154 0 9 (dk_at dksX0_right_0 5 rfl rfl)
theorem dX0_right_8 : decode cX0_right 8 = .ok (.aload_n 0, 1) := dk_42 (dk_at dksX0_right_0 8 rfl rfl)
theorem dX0_right_9 : decode cX0_right 9 = .ok (.iconst 1, 1) := dk_4 (dk_at dksX0_right_0 9 rfl rfl)
theorem dX0_right_10 : decode cX0_right 10 = .ok (.invokevirtual 204, 3) := dk_182 0 204 (dk_at dksX0_right_0 10 rfl rfl)
theorem dX0_right_13 : decode cX0_right 13 = .ok (.ireturn, 1) := dk_172 (dk_at dksX0_right_0 13 rfl rfl)
theorem dX0_right_14 : decode cX0_right 14 = .ok (.iconst 0, 1) := dk_3 (dk_at dksX0_right_0 14 rfl rfl)
theorem dX0_right_15 : decode cX0_right 15 = .ok (.istore_n 2, 1) := dk_61 (dk_at dksX0_right_0 15 rfl rfl)
theorem dX0_right_16 : decode cX0_right 16 = .ok (.iload_n 2, 1) := dk_28 (dk_at dksX0_right_0 16 rfl rfl)
theorem dX0_right_17 : decode cX0_right 17 = .ok (.bipush 100, 2) := dk_16 100 (dk_at dksX0_right_0 17 rfl rfl)
theorem dX0_right_19 : decode cX0_right 19 = .ok (.if_icmp .ge 26, 3) := dk_162 0 26 (dk_at dksX0_right_0 19 rfl rfl)
theorem dX0_right_22 : decode cX0_right 22 = .ok (.aload_n 0, 1) := dk_42 (dk_at dksX0_right_0 22 rfl rfl)
theorem dX0_right_23 : decode cX0_right 23 = .ok (.iload_n 1, 1) := dk_27 (dk_at dksX0_right_0 23 rfl rfl)
theorem dX0_right_24 : decode cX0_right 24 = .ok (.iload_n 2, 1) := dk_28 (dk_at dksX0_right_1 0 rfl rfl)
theorem dX0_right_25 : decode cX0_right 25 = .ok (.invokevirtual 352, 3) := dk_182 1 96 (dk_at dksX0_right_1 1 rfl rfl)
theorem dX0_right_28 : decode cX0_right 28 = .ok (.aload_n 0, 1) := dk_42 (dk_at dksX0_right_1 4 rfl rfl)
theorem dX0_right_29 : decode cX0_right 29 = .ok (.getfield 73, 3) := dk_180 0 73 (dk_at dksX0_right_1 5 rfl rfl)
theorem dX0_right_32 : decode cX0_right 32 = .ok (.iload_n 1, 1) := dk_27 (dk_at dksX0_right_1 8 rfl rfl)
theorem dX0_right_33 : decode cX0_right 33 = .ok (.invokevirtual 127, 3) := dk_182 0 127 (dk_at dksX0_right_1 9 rfl rfl)
theorem dX0_right_36 : decode cX0_right 36 = .ok (.if_icmp .eq 9, 3) := dk_159 0 9 (dk_at dksX0_right_1 12 rfl rfl)
theorem dX0_right_39 : decode cX0_right 39 = .ok (.iinc 2 1, 3) := dk_132 2 1 (dk_at dksX0_right_1 15 rfl rfl)
theorem dX0_right_42 : decode cX0_right 42 = .ok (.goto (-26), 3) := dk_167 255 230 (dk_at dksX0_right_1 18 rfl rfl)
theorem dX0_right_45 : decode cX0_right 45 = .ok (.iload_n 2, 1) := dk_28 (dk_at dksX0_right_1 21 rfl rfl)
theorem dX0_right_46 : decode cX0_right 46 = .ok (.bipush 100, 2) := dk_16 100 (dk_at dksX0_right_1 22 rfl rfl)
theorem dX0_right_48 : decode cX0_right 48 = .ok (.if_icmp .ge 7, 3) := dk_162 0 7 (dk_at dksX0_right_2 0 rfl rfl)
theorem dX0_right_51 : decode cX0_right 51 = .ok (.iload_n 2, 1) := dk_28 (dk_at dksX0_right_2 3 rfl rfl)
theorem dX0_right_52 : decode cX0_right 52 = .ok (.goto 8, 3) := dk_167 0 8 (dk_at dksX0_right_2 4 rfl rfl)
theorem dX0_right_55 : decode cX0_right 55 = .ok (.aload_n 0, 1) := dk_42 (dk_at dksX0_right_2 7 rfl rfl)
theorem dX0_right_56 : decode cX0_right 56 = .ok (.iconst 2, 1) := dk_5 (dk_at dksX0_right_2 8 rfl rfl)
theorem dX0_right_57 : decode cX0_right 57 = .ok (.invokevirtual 204, 3) := dk_182 0 204 (dk_at dksX0_right_2 9 rfl rfl)
theorem dX0_right_60 : decode cX0_right 60 = .ok (.ireturn, 1) := dk_172 (dk_at dksX0_right_2 12 rfl rfl)
abbrev cX0_town : ByteArray := prog_1_method_56_code
def yX0_town : MethodName := ⟨RX0, "town", "(I)I"⟩
def dkwX0_town_0 : List UInt8 := [27, 3, 16, 6, 184, 0, 113, 153, 0, 11, 42, 27, 182, 1, 112, 167, 0, 8, 42, 4, 182, 0, 204, 172]
abbrev dktX0_town_0 : List UInt8 := dkwX0_town_0 ++ []
theorem dksX0_town_0 : cX0_town.data.toList.drop 0 = dktX0_town_0 := by decide +kernel
theorem dX0_town_0 : decode cX0_town 0 = .ok (.iload_n 1, 1) := dk_27 (dk_at dksX0_town_0 0 rfl rfl)
theorem dX0_town_1 : decode cX0_town 1 = .ok (.iconst 0, 1) := dk_3 (dk_at dksX0_town_0 1 rfl rfl)
theorem dX0_town_2 : decode cX0_town 2 = .ok (.bipush 6, 2) := dk_16 6 (dk_at dksX0_town_0 2 rfl rfl)
theorem dX0_town_4 : decode cX0_town 4 = .ok (.invokestatic 113, 3) := dk_184 0 113 (dk_at dksX0_town_0 4 rfl rfl)
theorem dX0_town_7 : decode cX0_town 7 = .ok (.ifCond .eq 11, 3) := dk_153 0 11 (dk_at dksX0_town_0 7 rfl rfl)
theorem dX0_town_10 : decode cX0_town 10 = .ok (.aload_n 0, 1) := dk_42 (dk_at dksX0_town_0 10 rfl rfl)
theorem dX0_town_11 : decode cX0_town 11 = .ok (.iload_n 1, 1) := dk_27 (dk_at dksX0_town_0 11 rfl rfl)
theorem dX0_town_12 : decode cX0_town 12 = .ok (.invokevirtual 368, 3) := dk_182 1 112 (dk_at dksX0_town_0 12 rfl rfl)
theorem dX0_town_15 : decode cX0_town 15 = .ok (.goto 8, 3) := dk_167 0 8 (dk_at dksX0_town_0 15 rfl rfl)
theorem dX0_town_18 : decode cX0_town 18 = .ok (.aload_n 0, 1) := dk_42 (dk_at dksX0_town_0 18 rfl rfl)
theorem dX0_town_19 : decode cX0_town 19 = .ok (.iconst 1, 1) := dk_4 (dk_at dksX0_town_0 19 rfl rfl)
theorem dX0_town_20 : decode cX0_town 20 = .ok (.invokevirtual 204, 3) := dk_182 0 204 (dk_at dksX0_town_0 20 rfl rfl)
theorem dX0_town_23 : decode cX0_town 23 = .ok (.ireturn, 1) := dk_172 (dk_at dksX0_town_0 23 rfl rfl)
abbrev cX0_townTold : ByteArray := prog_1_method_55_code
def yX0_townTold : MethodName := ⟨RX0, "townTold", "(I)I"⟩
def dkwX0_townTold_5 : List UInt8 := [180, 0, 73, 180, 0, 134, 42, 180, 0, 73, 180, 0, 117, 184, 1, 105, 172]
abbrev dktX0_townTold_5 : List UInt8 := dkwX0_townTold_5 ++ []
def dkwX0_townTold_4 : List UInt8 := [180, 1, 76, 172, 42, 180, 0, 73, 180, 0, 244, 42, 180, 0, 73, 180, 0, 117, 184, 1, 105, 172, 42]
abbrev dktX0_townTold_4 : List UInt8 := dkwX0_townTold_4 ++ dktX0_townTold_5
def dkwX0_townTold_3 : List UInt8 := [180, 0, 73, 180, 0, 110, 184, 1, 105, 172, 42, 180, 0, 73, 180, 1, 109, 172, 42, 180, 0, 73]
abbrev dktX0_townTold_3 : List UInt8 := dkwX0_townTold_3 ++ dktX0_townTold_4
def dkwX0_townTold_2 : List UInt8 := [42, 180, 0, 73, 182, 1, 99, 172, 42, 180, 0, 73, 182, 1, 102, 172, 42, 180, 0, 73, 180, 0, 217, 42]
abbrev dktX0_townTold_2 : List UInt8 := dkwX0_townTold_2 ++ dktX0_townTold_3
def dkwX0_townTold_1 : List UInt8 := [170, 0, 0, 0, 0, 0, 107, 0, 0, 0, 0, 0, 0, 0, 5, 0, 0, 0, 39, 0, 0, 0, 47, 0, 0, 0, 55, 0, 0, 0, 73, 0, 0, 0, 81, 0, 0, 0, 89]
abbrev dktX0_townTold_1 : List UInt8 := dkwX0_townTold_1 ++ dktX0_townTold_2
def dkwX0_townTold_0 : List UInt8 := [27]
abbrev dktX0_townTold_0 : List UInt8 := dkwX0_townTold_0 ++ dktX0_townTold_1
theorem dksX0_townTold_0 : cX0_townTold.data.toList.drop 0 = dktX0_townTold_0 := by decide +kernel
theorem dksX0_townTold_1 : cX0_townTold.data.toList.drop 1 = dktX0_townTold_1 := dk_seg dksX0_townTold_0 1 rfl rfl
theorem dksX0_townTold_2 : cX0_townTold.data.toList.drop 40 = dktX0_townTold_2 := dk_seg dksX0_townTold_1 39 rfl rfl
theorem dksX0_townTold_3 : cX0_townTold.data.toList.drop 64 = dktX0_townTold_3 := dk_seg dksX0_townTold_2 24 rfl rfl
theorem dksX0_townTold_4 : cX0_townTold.data.toList.drop 86 = dktX0_townTold_4 := dk_seg dksX0_townTold_3 22 rfl rfl
theorem dksX0_townTold_5 : cX0_townTold.data.toList.drop 109 = dktX0_townTold_5 := dk_seg dksX0_townTold_4 23 rfl rfl
theorem dX0_townTold_0 : decode cX0_townTold 0 = .ok (.iload_n 1, 1) := dk_27 (dk_at dksX0_townTold_0 0 rfl rfl)
theorem dX0_townTold_1 : decode cX0_townTold 1 = .ok (.tableswitch 107 0 5 #[39, 47, 55, 73, 81, 89], 39) := by decide +kernel
theorem dX0_townTold_40 : decode cX0_townTold 40 = .ok (.aload_n 0, 1) := dk_42 (dk_at dksX0_townTold_2 0 rfl rfl)
theorem dX0_townTold_41 : decode cX0_townTold 41 = .ok (.getfield 73, 3) := dk_180 0 73 (dk_at dksX0_townTold_2 1 rfl rfl)
theorem dX0_townTold_44 : decode cX0_townTold 44 = .ok (.invokevirtual 355, 3) := dk_182 1 99 (dk_at dksX0_townTold_2 4 rfl rfl)
theorem dX0_townTold_47 : decode cX0_townTold 47 = .ok (.ireturn, 1) := dk_172 (dk_at dksX0_townTold_2 7 rfl rfl)
theorem dX0_townTold_48 : decode cX0_townTold 48 = .ok (.aload_n 0, 1) := dk_42 (dk_at dksX0_townTold_2 8 rfl rfl)
theorem dX0_townTold_49 : decode cX0_townTold 49 = .ok (.getfield 73, 3) := dk_180 0 73 (dk_at dksX0_townTold_2 9 rfl rfl)
theorem dX0_townTold_52 : decode cX0_townTold 52 = .ok (.invokevirtual 358, 3) := dk_182 1 102 (dk_at dksX0_townTold_2 12 rfl rfl)
theorem dX0_townTold_55 : decode cX0_townTold 55 = .ok (.ireturn, 1) := dk_172 (dk_at dksX0_townTold_2 15 rfl rfl)
theorem dX0_townTold_56 : decode cX0_townTold 56 = .ok (.aload_n 0, 1) := dk_42 (dk_at dksX0_townTold_2 16 rfl rfl)
theorem dX0_townTold_57 : decode cX0_townTold 57 = .ok (.getfield 73, 3) := dk_180 0 73 (dk_at dksX0_townTold_2 17 rfl rfl)
theorem dX0_townTold_60 : decode cX0_townTold 60 = .ok (.getfield 217, 3) := dk_180 0 217 (dk_at dksX0_townTold_2 20 rfl rfl)
theorem dX0_townTold_63 : decode cX0_townTold 63 = .ok (.aload_n 0, 1) := dk_42 (dk_at dksX0_townTold_2 23 rfl rfl)
theorem dX0_townTold_64 : decode cX0_townTold 64 = .ok (.getfield 73, 3) := dk_180 0 73 (dk_at dksX0_townTold_3 0 rfl rfl)
theorem dX0_townTold_67 : decode cX0_townTold 67 = .ok (.getfield 110, 3) := dk_180 0 110 (dk_at dksX0_townTold_3 3 rfl rfl)
theorem dX0_townTold_70 : decode cX0_townTold 70 = .ok (.invokestatic 361, 3) := dk_184 1 105 (dk_at dksX0_townTold_3 6 rfl rfl)
theorem dX0_townTold_73 : decode cX0_townTold 73 = .ok (.ireturn, 1) := dk_172 (dk_at dksX0_townTold_3 9 rfl rfl)
theorem dX0_townTold_74 : decode cX0_townTold 74 = .ok (.aload_n 0, 1) := dk_42 (dk_at dksX0_townTold_3 10 rfl rfl)
theorem dX0_townTold_75 : decode cX0_townTold 75 = .ok (.getfield 73, 3) := dk_180 0 73 (dk_at dksX0_townTold_3 11 rfl rfl)
theorem dX0_townTold_78 : decode cX0_townTold 78 = .ok (.getfield 365, 3) := dk_180 1 109 (dk_at dksX0_townTold_3 14 rfl rfl)
theorem dX0_townTold_81 : decode cX0_townTold 81 = .ok (.ireturn, 1) := dk_172 (dk_at dksX0_townTold_3 17 rfl rfl)
theorem dX0_townTold_82 : decode cX0_townTold 82 = .ok (.aload_n 0, 1) := dk_42 (dk_at dksX0_townTold_3 18 rfl rfl)
theorem dX0_townTold_83 : decode cX0_townTold 83 = .ok (.getfield 73, 3) := dk_180 0 73 (dk_at dksX0_townTold_3 19 rfl rfl)
theorem dX0_townTold_86 : decode cX0_townTold 86 = .ok (.getfield 332, 3) := dk_180 1 76 (dk_at dksX0_townTold_4 0 rfl rfl)
theorem dX0_townTold_89 : decode cX0_townTold 89 = .ok (.ireturn, 1) := dk_172 (dk_at dksX0_townTold_4 3 rfl rfl)
theorem dX0_townTold_90 : decode cX0_townTold 90 = .ok (.aload_n 0, 1) := dk_42 (dk_at dksX0_townTold_4 4 rfl rfl)
theorem dX0_townTold_91 : decode cX0_townTold 91 = .ok (.getfield 73, 3) := dk_180 0 73 (dk_at dksX0_townTold_4 5 rfl rfl)
theorem dX0_townTold_94 : decode cX0_townTold 94 = .ok (.getfield 244, 3) := dk_180 0 244 (dk_at dksX0_townTold_4 8 rfl rfl)
theorem dX0_townTold_97 : decode cX0_townTold 97 = .ok (.aload_n 0, 1) := dk_42 (dk_at dksX0_townTold_4 11 rfl rfl)
theorem dX0_townTold_98 : decode cX0_townTold 98 = .ok (.getfield 73, 3) := dk_180 0 73 (dk_at dksX0_townTold_4 12 rfl rfl)
theorem dX0_townTold_101 : decode cX0_townTold 101 = .ok (.getfield 117, 3) := dk_180 0 117 (dk_at dksX0_townTold_4 15 rfl rfl)
theorem dX0_townTold_104 : decode cX0_townTold 104 = .ok (.invokestatic 361, 3) := dk_184 1 105 (dk_at dksX0_townTold_4 18 rfl rfl)
theorem dX0_townTold_107 : decode cX0_townTold 107 = .ok (.ireturn, 1) := dk_172 (dk_at dksX0_townTold_4 21 rfl rfl)
theorem dX0_townTold_108 : decode cX0_townTold 108 = .ok (.aload_n 0, 1) := dk_42 (dk_at dksX0_townTold_4 22 rfl rfl)
theorem dX0_townTold_109 : decode cX0_townTold 109 = .ok (.getfield 73, 3) := dk_180 0 73 (dk_at dksX0_townTold_5 0 rfl rfl)
theorem dX0_townTold_112 : decode cX0_townTold 112 = .ok (.getfield 134, 3) := dk_180 0 134 (dk_at dksX0_townTold_5 3 rfl rfl)
theorem dX0_townTold_115 : decode cX0_townTold 115 = .ok (.aload_n 0, 1) := dk_42 (dk_at dksX0_townTold_5 6 rfl rfl)
theorem dX0_townTold_116 : decode cX0_townTold 116 = .ok (.getfield 73, 3) := dk_180 0 73 (dk_at dksX0_townTold_5 7 rfl rfl)
theorem dX0_townTold_119 : decode cX0_townTold 119 = .ok (.getfield 117, 3) := dk_180 0 117 (dk_at dksX0_townTold_5 10 rfl rfl)
theorem dX0_townTold_122 : decode cX0_townTold 122 = .ok (.invokestatic 361, 3) := dk_184 1 105 (dk_at dksX0_townTold_5 13 rfl rfl)
theorem dX0_townTold_125 : decode cX0_townTold 125 = .ok (.ireturn, 1) := dk_172 (dk_at dksX0_townTold_5 16 rfl rfl)
abbrev cX0_together : ByteArray := prog_1_method_54_code
def yX0_together : MethodName := ⟨RX0, "together", "([II)I"⟩
def dkwX0_together_0 : List UInt8 := [3, 61, 3, 62, 29, 27, 162, 0, 15, 28, 42, 29, 46, 96, 61, 132, 3, 1, 167, 255, 242, 28, 172]
abbrev dktX0_together_0 : List UInt8 := dkwX0_together_0 ++ []
theorem dksX0_together_0 : cX0_together.data.toList.drop 0 = dktX0_together_0 := by decide +kernel
theorem dX0_together_0 : decode cX0_together 0 = .ok (.iconst 0, 1) := dk_3 (dk_at dksX0_together_0 0 rfl rfl)
theorem dX0_together_1 : decode cX0_together 1 = .ok (.istore_n 2, 1) := dk_61 (dk_at dksX0_together_0 1 rfl rfl)
theorem dX0_together_2 : decode cX0_together 2 = .ok (.iconst 0, 1) := dk_3 (dk_at dksX0_together_0 2 rfl rfl)
theorem dX0_together_3 : decode cX0_together 3 = .ok (.istore_n 3, 1) := dk_62 (dk_at dksX0_together_0 3 rfl rfl)
theorem dX0_together_4 : decode cX0_together 4 = .ok (.iload_n 3, 1) := dk_29 (dk_at dksX0_together_0 4 rfl rfl)
theorem dX0_together_5 : decode cX0_together 5 = .ok (.iload_n 1, 1) := dk_27 (dk_at dksX0_together_0 5 rfl rfl)
theorem dX0_together_6 : decode cX0_together 6 = .ok (.if_icmp .ge 15, 3) := dk_162 0 15 (dk_at dksX0_together_0 6 rfl rfl)
theorem dX0_together_9 : decode cX0_together 9 = .ok (.iload_n 2, 1) := dk_28 (dk_at dksX0_together_0 9 rfl rfl)
theorem dX0_together_10 : decode cX0_together 10 = .ok (.aload_n 0, 1) := dk_42 (dk_at dksX0_together_0 10 rfl rfl)
theorem dX0_together_11 : decode cX0_together 11 = .ok (.iload_n 3, 1) := dk_29 (dk_at dksX0_together_0 11 rfl rfl)
theorem dX0_together_12 : decode cX0_together 12 = .ok (.iaload, 1) := dk_46 (dk_at dksX0_together_0 12 rfl rfl)
theorem dX0_together_13 : decode cX0_together 13 = .ok (.iadd, 1) := dk_96 (dk_at dksX0_together_0 13 rfl rfl)
theorem dX0_together_14 : decode cX0_together 14 = .ok (.istore_n 2, 1) := dk_61 (dk_at dksX0_together_0 14 rfl rfl)
theorem dX0_together_15 : decode cX0_together 15 = .ok (.iinc 3 1, 3) := dk_132 3 1 (dk_at dksX0_together_0 15 rfl rfl)
theorem dX0_together_18 : decode cX0_together 18 = .ok (.goto (-14), 3) := dk_167 255 242 (dk_at dksX0_together_0 18 rfl rfl)
theorem dX0_together_21 : decode cX0_together 21 = .ok (.iload_n 2, 1) := dk_28 (dk_at dksX0_together_0 21 rfl rfl)
theorem dX0_together_22 : decode cX0_together 22 = .ok (.ireturn, 1) := dk_172 (dk_at dksX0_together_0 22 rfl rfl)
abbrev cX0_firm : ByteArray := prog_1_method_57_code
def yX0_firm : MethodName := ⟨RX0, "firm", "(II)I"⟩
def dkwX0_firm_7 : List UInt8 := [184, 1, 115, 167, 0, 15, 28, 4, 160, 0, 8, 21, 4, 167, 0, 5, 21, 5, 172]
abbrev dktX0_firm_7 : List UInt8 := dkwX0_firm_7 ++ []
def dkwX0_firm_6 : List UInt8 := [96, 54, 4, 21, 5, 4, 21, 6, 120, 128, 54, 5, 132, 6, 1, 167, 255, 140, 28, 154, 0, 11, 21, 5]
abbrev dktX0_firm_6 : List UInt8 := dkwX0_firm_6 ++ dktX0_firm_7
def dkwX0_firm_5 : List UInt8 := [29, 164, 0, 6, 167, 0, 32, 29, 42, 180, 0, 73, 180, 0, 134, 21, 6, 46, 100, 62, 21, 4, 21, 7]
abbrev dktX0_firm_5 : List UInt8 := dkwX0_firm_5 ++ dktX0_firm_6
def dkwX0_firm_4 : List UInt8 := [180, 0, 247, 21, 6, 51, 154, 0, 54, 21, 7, 158, 0, 49, 42, 180, 0, 73, 180, 0, 134, 21, 6, 46]
abbrev dktX0_firm_4 : List UInt8 := dkwX0_firm_4 ++ dktX0_firm_5
def dkwX0_firm_3 : List UInt8 := [21, 6, 46, 100, 54, 7, 42, 180, 0, 73, 180, 0, 147, 21, 6, 46, 27, 159, 0, 67, 42, 180, 0, 73]
abbrev dktX0_firm_3 : List UInt8 := dkwX0_firm_3 ++ dktX0_firm_4
def dkwX0_firm_2 : List UInt8 := [180, 0, 117, 162, 0, 110, 42, 180, 0, 73, 27, 21, 6, 182, 0, 174, 42, 180, 0, 73, 180, 0, 134]
abbrev dktX0_firm_2 : List UInt8 := dkwX0_firm_2 ++ dktX0_firm_3
def dkwX0_firm_1 : List UInt8 := [180, 0, 73, 180, 0, 217, 27, 46, 62, 3, 54, 4, 3, 54, 5, 3, 54, 6, 21, 6, 42, 180, 0, 73]
abbrev dktX0_firm_1 : List UInt8 := dkwX0_firm_1 ++ dktX0_firm_2
def dkwX0_firm_0 : List UInt8 := [42, 27, 182, 0, 223, 153, 0, 12, 28, 3, 5, 184, 0, 113, 154, 0, 9, 42, 4, 182, 0, 204, 172, 42]
abbrev dktX0_firm_0 : List UInt8 := dkwX0_firm_0 ++ dktX0_firm_1
theorem dksX0_firm_0 : cX0_firm.data.toList.drop 0 = dktX0_firm_0 := by decide +kernel
theorem dksX0_firm_1 : cX0_firm.data.toList.drop 24 = dktX0_firm_1 := dk_seg dksX0_firm_0 24 rfl rfl
theorem dksX0_firm_2 : cX0_firm.data.toList.drop 48 = dktX0_firm_2 := dk_seg dksX0_firm_1 24 rfl rfl
theorem dksX0_firm_3 : cX0_firm.data.toList.drop 71 = dktX0_firm_3 := dk_seg dksX0_firm_2 23 rfl rfl
theorem dksX0_firm_4 : cX0_firm.data.toList.drop 95 = dktX0_firm_4 := dk_seg dksX0_firm_3 24 rfl rfl
theorem dksX0_firm_5 : cX0_firm.data.toList.drop 119 = dktX0_firm_5 := dk_seg dksX0_firm_4 24 rfl rfl
theorem dksX0_firm_6 : cX0_firm.data.toList.drop 143 = dktX0_firm_6 := dk_seg dksX0_firm_5 24 rfl rfl
theorem dksX0_firm_7 : cX0_firm.data.toList.drop 167 = dktX0_firm_7 := dk_seg dksX0_firm_6 24 rfl rfl
theorem dX0_firm_0 : decode cX0_firm 0 = .ok (.aload_n 0, 1) := dk_42 (dk_at dksX0_firm_0 0 rfl rfl)
theorem dX0_firm_1 : decode cX0_firm 1 = .ok (.iload_n 1, 1) := dk_27 (dk_at dksX0_firm_0 1 rfl rfl)
theorem dX0_firm_2 : decode cX0_firm 2 = .ok (.invokevirtual 223, 3) := dk_182 0 223 (dk_at dksX0_firm_0 2 rfl rfl)
theorem dX0_firm_5 : decode cX0_firm 5 = .ok (.ifCond .eq 12, 3) := dk_153 0 12 (dk_at dksX0_firm_0 5 rfl rfl)
theorem dX0_firm_8 : decode cX0_firm 8 = .ok (.iload_n 2, 1) := dk_28 (dk_at dksX0_firm_0 8 rfl rfl)
theorem dX0_firm_9 : decode cX0_firm 9 = .ok (.iconst 0, 1) := dk_3 (dk_at dksX0_firm_0 9 rfl rfl)
theorem dX0_firm_10 : decode cX0_firm 10 = .ok (.iconst 2, 1) := dk_5 (dk_at dksX0_firm_0 10 rfl rfl)
theorem dX0_firm_11 : decode cX0_firm 11 = .ok (.invokestatic 113, 3) := dk_184 0 113 (dk_at dksX0_firm_0 11 rfl rfl)
theorem dX0_firm_14 : decode cX0_firm 14 = .ok (.ifCond .ne 9, 3) := dk_154 0 9 (dk_at dksX0_firm_0 14 rfl rfl)
theorem dX0_firm_17 : decode cX0_firm 17 = .ok (.aload_n 0, 1) := dk_42 (dk_at dksX0_firm_0 17 rfl rfl)
theorem dX0_firm_18 : decode cX0_firm 18 = .ok (.iconst 1, 1) := dk_4 (dk_at dksX0_firm_0 18 rfl rfl)
theorem dX0_firm_19 : decode cX0_firm 19 = .ok (.invokevirtual 204, 3) := dk_182 0 204 (dk_at dksX0_firm_0 19 rfl rfl)
theorem dX0_firm_22 : decode cX0_firm 22 = .ok (.ireturn, 1) := dk_172 (dk_at dksX0_firm_0 22 rfl rfl)
theorem dX0_firm_23 : decode cX0_firm 23 = .ok (.aload_n 0, 1) := dk_42 (dk_at dksX0_firm_0 23 rfl rfl)
theorem dX0_firm_24 : decode cX0_firm 24 = .ok (.getfield 73, 3) := dk_180 0 73 (dk_at dksX0_firm_1 0 rfl rfl)
theorem dX0_firm_27 : decode cX0_firm 27 = .ok (.getfield 217, 3) := dk_180 0 217 (dk_at dksX0_firm_1 3 rfl rfl)
theorem dX0_firm_30 : decode cX0_firm 30 = .ok (.iload_n 1, 1) := dk_27 (dk_at dksX0_firm_1 6 rfl rfl)
theorem dX0_firm_31 : decode cX0_firm 31 = .ok (.iaload, 1) := dk_46 (dk_at dksX0_firm_1 7 rfl rfl)
theorem dX0_firm_32 : decode cX0_firm 32 = .ok (.istore_n 3, 1) := dk_62 (dk_at dksX0_firm_1 8 rfl rfl)
theorem dX0_firm_33 : decode cX0_firm 33 = .ok (.iconst 0, 1) := dk_3 (dk_at dksX0_firm_1 9 rfl rfl)
theorem dX0_firm_34 : decode cX0_firm 34 = .ok (.istore 4, 2) := dk_54 4 (dk_at dksX0_firm_1 10 rfl rfl)
theorem dX0_firm_36 : decode cX0_firm 36 = .ok (.iconst 0, 1) := dk_3 (dk_at dksX0_firm_1 12 rfl rfl)
theorem dX0_firm_37 : decode cX0_firm 37 = .ok (.istore 5, 2) := dk_54 5 (dk_at dksX0_firm_1 13 rfl rfl)
theorem dX0_firm_39 : decode cX0_firm 39 = .ok (.iconst 0, 1) := dk_3 (dk_at dksX0_firm_1 15 rfl rfl)
theorem dX0_firm_40 : decode cX0_firm 40 = .ok (.istore 6, 2) := dk_54 6 (dk_at dksX0_firm_1 16 rfl rfl)
theorem dX0_firm_42 : decode cX0_firm 42 = .ok (.iload 6, 2) := dk_21 6 (dk_at dksX0_firm_1 18 rfl rfl)
theorem dX0_firm_44 : decode cX0_firm 44 = .ok (.aload_n 0, 1) := dk_42 (dk_at dksX0_firm_1 20 rfl rfl)
theorem dX0_firm_45 : decode cX0_firm 45 = .ok (.getfield 73, 3) := dk_180 0 73 (dk_at dksX0_firm_1 21 rfl rfl)
theorem dX0_firm_48 : decode cX0_firm 48 = .ok (.getfield 117, 3) := dk_180 0 117 (dk_at dksX0_firm_2 0 rfl rfl)
theorem dX0_firm_51 : decode cX0_firm 51 = .ok (.if_icmp .ge 110, 3) := dk_162 0 110 (dk_at dksX0_firm_2 3 rfl rfl)
theorem dX0_firm_54 : decode cX0_firm 54 = .ok (.aload_n 0, 1) := dk_42 (dk_at dksX0_firm_2 6 rfl rfl)
theorem dX0_firm_55 : decode cX0_firm 55 = .ok (.getfield 73, 3) := dk_180 0 73 (dk_at dksX0_firm_2 7 rfl rfl)
theorem dX0_firm_58 : decode cX0_firm 58 = .ok (.iload_n 1, 1) := dk_27 (dk_at dksX0_firm_2 10 rfl rfl)
theorem dX0_firm_59 : decode cX0_firm 59 = .ok (.iload 6, 2) := dk_21 6 (dk_at dksX0_firm_2 11 rfl rfl)
theorem dX0_firm_61 : decode cX0_firm 61 = .ok (.invokevirtual 174, 3) := dk_182 0 174 (dk_at dksX0_firm_2 13 rfl rfl)
theorem dX0_firm_64 : decode cX0_firm 64 = .ok (.aload_n 0, 1) := dk_42 (dk_at dksX0_firm_2 16 rfl rfl)
theorem dX0_firm_65 : decode cX0_firm 65 = .ok (.getfield 73, 3) := dk_180 0 73 (dk_at dksX0_firm_2 17 rfl rfl)
theorem dX0_firm_68 : decode cX0_firm 68 = .ok (.getfield 134, 3) := dk_180 0 134 (dk_at dksX0_firm_2 20 rfl rfl)
theorem dX0_firm_71 : decode cX0_firm 71 = .ok (.iload 6, 2) := dk_21 6 (dk_at dksX0_firm_3 0 rfl rfl)
theorem dX0_firm_73 : decode cX0_firm 73 = .ok (.iaload, 1) := dk_46 (dk_at dksX0_firm_3 2 rfl rfl)
theorem dX0_firm_74 : decode cX0_firm 74 = .ok (.isub, 1) := dk_100 (dk_at dksX0_firm_3 3 rfl rfl)
theorem dX0_firm_75 : decode cX0_firm 75 = .ok (.istore 7, 2) := dk_54 7 (dk_at dksX0_firm_3 4 rfl rfl)
theorem dX0_firm_77 : decode cX0_firm 77 = .ok (.aload_n 0, 1) := dk_42 (dk_at dksX0_firm_3 6 rfl rfl)
theorem dX0_firm_78 : decode cX0_firm 78 = .ok (.getfield 73, 3) := dk_180 0 73 (dk_at dksX0_firm_3 7 rfl rfl)
theorem dX0_firm_81 : decode cX0_firm 81 = .ok (.getfield 147, 3) := dk_180 0 147 (dk_at dksX0_firm_3 10 rfl rfl)
theorem dX0_firm_84 : decode cX0_firm 84 = .ok (.iload 6, 2) := dk_21 6 (dk_at dksX0_firm_3 13 rfl rfl)
theorem dX0_firm_86 : decode cX0_firm 86 = .ok (.iaload, 1) := dk_46 (dk_at dksX0_firm_3 15 rfl rfl)
theorem dX0_firm_87 : decode cX0_firm 87 = .ok (.iload_n 1, 1) := dk_27 (dk_at dksX0_firm_3 16 rfl rfl)
theorem dX0_firm_88 : decode cX0_firm 88 = .ok (.if_icmp .eq 67, 3) := dk_159 0 67 (dk_at dksX0_firm_3 17 rfl rfl)
theorem dX0_firm_91 : decode cX0_firm 91 = .ok (.aload_n 0, 1) := dk_42 (dk_at dksX0_firm_3 20 rfl rfl)
theorem dX0_firm_92 : decode cX0_firm 92 = .ok (.getfield 73, 3) := dk_180 0 73 (dk_at dksX0_firm_3 21 rfl rfl)
theorem dX0_firm_95 : decode cX0_firm 95 = .ok (.getfield 247, 3) := dk_180 0 247 (dk_at dksX0_firm_4 0 rfl rfl)
theorem dX0_firm_98 : decode cX0_firm 98 = .ok (.iload 6, 2) := dk_21 6 (dk_at dksX0_firm_4 3 rfl rfl)
theorem dX0_firm_100 : decode cX0_firm 100 = .ok (.baload, 1) := dk_51 (dk_at dksX0_firm_4 5 rfl rfl)
theorem dX0_firm_101 : decode cX0_firm 101 = .ok (.ifCond .ne 54, 3) := dk_154 0 54 (dk_at dksX0_firm_4 6 rfl rfl)
theorem dX0_firm_104 : decode cX0_firm 104 = .ok (.iload 7, 2) := dk_21 7 (dk_at dksX0_firm_4 9 rfl rfl)
theorem dX0_firm_106 : decode cX0_firm 106 = .ok (.ifCond .le 49, 3) := dk_158 0 49 (dk_at dksX0_firm_4 11 rfl rfl)
theorem dX0_firm_109 : decode cX0_firm 109 = .ok (.aload_n 0, 1) := dk_42 (dk_at dksX0_firm_4 14 rfl rfl)
theorem dX0_firm_110 : decode cX0_firm 110 = .ok (.getfield 73, 3) := dk_180 0 73 (dk_at dksX0_firm_4 15 rfl rfl)
theorem dX0_firm_113 : decode cX0_firm 113 = .ok (.getfield 134, 3) := dk_180 0 134 (dk_at dksX0_firm_4 18 rfl rfl)
theorem dX0_firm_116 : decode cX0_firm 116 = .ok (.iload 6, 2) := dk_21 6 (dk_at dksX0_firm_4 21 rfl rfl)
theorem dX0_firm_118 : decode cX0_firm 118 = .ok (.iaload, 1) := dk_46 (dk_at dksX0_firm_4 23 rfl rfl)
theorem dX0_firm_119 : decode cX0_firm 119 = .ok (.iload_n 3, 1) := dk_29 (dk_at dksX0_firm_5 0 rfl rfl)
theorem dX0_firm_120 : decode cX0_firm 120 = .ok (.if_icmp .le 6, 3) := dk_164 0 6 (dk_at dksX0_firm_5 1 rfl rfl)
theorem dX0_firm_123 : decode cX0_firm 123 = .ok (.goto 32, 3) := dk_167 0 32 (dk_at dksX0_firm_5 4 rfl rfl)
theorem dX0_firm_126 : decode cX0_firm 126 = .ok (.iload_n 3, 1) := dk_29 (dk_at dksX0_firm_5 7 rfl rfl)
theorem dX0_firm_127 : decode cX0_firm 127 = .ok (.aload_n 0, 1) := dk_42 (dk_at dksX0_firm_5 8 rfl rfl)
theorem dX0_firm_128 : decode cX0_firm 128 = .ok (.getfield 73, 3) := dk_180 0 73 (dk_at dksX0_firm_5 9 rfl rfl)
theorem dX0_firm_131 : decode cX0_firm 131 = .ok (.getfield 134, 3) := dk_180 0 134 (dk_at dksX0_firm_5 12 rfl rfl)
theorem dX0_firm_134 : decode cX0_firm 134 = .ok (.iload 6, 2) := dk_21 6 (dk_at dksX0_firm_5 15 rfl rfl)
theorem dX0_firm_136 : decode cX0_firm 136 = .ok (.iaload, 1) := dk_46 (dk_at dksX0_firm_5 17 rfl rfl)
theorem dX0_firm_137 : decode cX0_firm 137 = .ok (.isub, 1) := dk_100 (dk_at dksX0_firm_5 18 rfl rfl)
theorem dX0_firm_138 : decode cX0_firm 138 = .ok (.istore_n 3, 1) := dk_62 (dk_at dksX0_firm_5 19 rfl rfl)
theorem dX0_firm_139 : decode cX0_firm 139 = .ok (.iload 4, 2) := dk_21 4 (dk_at dksX0_firm_5 20 rfl rfl)
theorem dX0_firm_141 : decode cX0_firm 141 = .ok (.iload 7, 2) := dk_21 7 (dk_at dksX0_firm_5 22 rfl rfl)
theorem dX0_firm_143 : decode cX0_firm 143 = .ok (.iadd, 1) := dk_96 (dk_at dksX0_firm_6 0 rfl rfl)
theorem dX0_firm_144 : decode cX0_firm 144 = .ok (.istore 4, 2) := dk_54 4 (dk_at dksX0_firm_6 1 rfl rfl)
theorem dX0_firm_146 : decode cX0_firm 146 = .ok (.iload 5, 2) := dk_21 5 (dk_at dksX0_firm_6 3 rfl rfl)
theorem dX0_firm_148 : decode cX0_firm 148 = .ok (.iconst 1, 1) := dk_4 (dk_at dksX0_firm_6 5 rfl rfl)
theorem dX0_firm_149 : decode cX0_firm 149 = .ok (.iload 6, 2) := dk_21 6 (dk_at dksX0_firm_6 6 rfl rfl)
theorem dX0_firm_151 : decode cX0_firm 151 = .ok (.ishl, 1) := dk_120 (dk_at dksX0_firm_6 8 rfl rfl)
theorem dX0_firm_152 : decode cX0_firm 152 = .ok (.ior, 1) := dk_128 (dk_at dksX0_firm_6 9 rfl rfl)
theorem dX0_firm_153 : decode cX0_firm 153 = .ok (.istore 5, 2) := dk_54 5 (dk_at dksX0_firm_6 10 rfl rfl)
theorem dX0_firm_155 : decode cX0_firm 155 = .ok (.iinc 6 1, 3) := dk_132 6 1 (dk_at dksX0_firm_6 12 rfl rfl)
theorem dX0_firm_158 : decode cX0_firm 158 = .ok (.goto (-116), 3) := dk_167 255 140 (dk_at dksX0_firm_6 15 rfl rfl)
theorem dX0_firm_161 : decode cX0_firm 161 = .ok (.iload_n 2, 1) := dk_28 (dk_at dksX0_firm_6 18 rfl rfl)
theorem dX0_firm_162 : decode cX0_firm 162 = .ok (.ifCond .ne 11, 3) := dk_154 0 11 (dk_at dksX0_firm_6 19 rfl rfl)
theorem dX0_firm_165 : decode cX0_firm 165 = .ok (.iload 5, 2) := dk_21 5 (dk_at dksX0_firm_6 22 rfl rfl)
theorem dX0_firm_167 : decode cX0_firm 167 = .ok (.invokestatic 371, 3) := dk_184 1 115 (dk_at dksX0_firm_7 0 rfl rfl)
theorem dX0_firm_170 : decode cX0_firm 170 = .ok (.goto 15, 3) := dk_167 0 15 (dk_at dksX0_firm_7 3 rfl rfl)
theorem dX0_firm_173 : decode cX0_firm 173 = .ok (.iload_n 2, 1) := dk_28 (dk_at dksX0_firm_7 6 rfl rfl)
theorem dX0_firm_174 : decode cX0_firm 174 = .ok (.iconst 1, 1) := dk_4 (dk_at dksX0_firm_7 7 rfl rfl)
theorem dX0_firm_175 : decode cX0_firm 175 = .ok (.if_icmp .ne 8, 3) := dk_160 0 8 (dk_at dksX0_firm_7 8 rfl rfl)
theorem dX0_firm_178 : decode cX0_firm 178 = .ok (.iload 4, 2) := dk_21 4 (dk_at dksX0_firm_7 11 rfl rfl)
theorem dX0_firm_180 : decode cX0_firm 180 = .ok (.goto 5, 3) := dk_167 0 5 (dk_at dksX0_firm_7 13 rfl rfl)
theorem dX0_firm_183 : decode cX0_firm 183 = .ok (.iload 5, 2) := dk_21 5 (dk_at dksX0_firm_7 16 rfl rfl)
theorem dX0_firm_185 : decode cX0_firm 185 = .ok (.ireturn, 1) := dk_172 (dk_at dksX0_firm_7 18 rfl rfl)
abbrev cX0_then : ByteArray := prog_1_method_61_code
def yX0_then : MethodName := ⟨RX0, "then", "(II)I"⟩
def dkwX0_then_1 : List UInt8 := [182, 1, 130, 42, 27, 182, 1, 73, 42, 28, 182, 1, 112, 62, 42, 182, 1, 124, 29, 172]
abbrev dktX0_then_1 : List UInt8 := dkwX0_then_1 ++ []
def dkwX0_then_0 : List UInt8 := [27, 184, 1, 127, 153, 0, 13, 28, 3, 16, 6, 184, 0, 113, 154, 0, 9, 42, 4, 182, 0, 204, 172, 42]
abbrev dktX0_then_0 : List UInt8 := dkwX0_then_0 ++ dktX0_then_1
theorem dksX0_then_0 : cX0_then.data.toList.drop 0 = dktX0_then_0 := by decide +kernel
theorem dksX0_then_1 : cX0_then.data.toList.drop 24 = dktX0_then_1 := dk_seg dksX0_then_0 24 rfl rfl
theorem dX0_then_0 : decode cX0_then 0 = .ok (.iload_n 1, 1) := dk_27 (dk_at dksX0_then_0 0 rfl rfl)
theorem dX0_then_1 : decode cX0_then 1 = .ok (.invokestatic 383, 3) := dk_184 1 127 (dk_at dksX0_then_0 1 rfl rfl)
theorem dX0_then_4 : decode cX0_then 4 = .ok (.ifCond .eq 13, 3) := dk_153 0 13 (dk_at dksX0_then_0 4 rfl rfl)
theorem dX0_then_7 : decode cX0_then 7 = .ok (.iload_n 2, 1) := dk_28 (dk_at dksX0_then_0 7 rfl rfl)
theorem dX0_then_8 : decode cX0_then 8 = .ok (.iconst 0, 1) := dk_3 (dk_at dksX0_then_0 8 rfl rfl)
theorem dX0_then_9 : decode cX0_then 9 = .ok (.bipush 6, 2) := dk_16 6 (dk_at dksX0_then_0 9 rfl rfl)
theorem dX0_then_11 : decode cX0_then 11 = .ok (.invokestatic 113, 3) := dk_184 0 113 (dk_at dksX0_then_0 11 rfl rfl)
theorem dX0_then_14 : decode cX0_then 14 = .ok (.ifCond .ne 9, 3) := dk_154 0 9 (dk_at dksX0_then_0 14 rfl rfl)
theorem dX0_then_17 : decode cX0_then 17 = .ok (.aload_n 0, 1) := dk_42 (dk_at dksX0_then_0 17 rfl rfl)
theorem dX0_then_18 : decode cX0_then 18 = .ok (.iconst 1, 1) := dk_4 (dk_at dksX0_then_0 18 rfl rfl)
theorem dX0_then_19 : decode cX0_then 19 = .ok (.invokevirtual 204, 3) := dk_182 0 204 (dk_at dksX0_then_0 19 rfl rfl)
theorem dX0_then_22 : decode cX0_then 22 = .ok (.ireturn, 1) := dk_172 (dk_at dksX0_then_0 22 rfl rfl)
theorem dX0_then_23 : decode cX0_then 23 = .ok (.aload_n 0, 1) := dk_42 (dk_at dksX0_then_0 23 rfl rfl)
theorem dX0_then_24 : decode cX0_then 24 = .ok (.invokevirtual 386, 3) := dk_182 1 130 (dk_at dksX0_then_1 0 rfl rfl)
theorem dX0_then_27 : decode cX0_then 27 = .ok (.aload_n 0, 1) := dk_42 (dk_at dksX0_then_1 3 rfl rfl)
theorem dX0_then_28 : decode cX0_then 28 = .ok (.iload_n 1, 1) := dk_27 (dk_at dksX0_then_1 4 rfl rfl)
theorem dX0_then_29 : decode cX0_then 29 = .ok (.invokevirtual 329, 3) := dk_182 1 73 (dk_at dksX0_then_1 5 rfl rfl)
theorem dX0_then_32 : decode cX0_then 32 = .ok (.aload_n 0, 1) := dk_42 (dk_at dksX0_then_1 8 rfl rfl)
theorem dX0_then_33 : decode cX0_then 33 = .ok (.iload_n 2, 1) := dk_28 (dk_at dksX0_then_1 9 rfl rfl)
theorem dX0_then_34 : decode cX0_then 34 = .ok (.invokevirtual 368, 3) := dk_182 1 112 (dk_at dksX0_then_1 10 rfl rfl)
theorem dX0_then_37 : decode cX0_then 37 = .ok (.istore_n 3, 1) := dk_62 (dk_at dksX0_then_1 13 rfl rfl)
theorem dX0_then_38 : decode cX0_then 38 = .ok (.aload_n 0, 1) := dk_42 (dk_at dksX0_then_1 14 rfl rfl)
theorem dX0_then_39 : decode cX0_then 39 = .ok (.invokevirtual 380, 3) := dk_182 1 124 (dk_at dksX0_then_1 15 rfl rfl)
theorem dX0_then_42 : decode cX0_then 42 = .ok (.iload_n 3, 1) := dk_29 (dk_at dksX0_then_1 18 rfl rfl)
theorem dX0_then_43 : decode cX0_then 43 = .ok (.ireturn, 1) := dk_172 (dk_at dksX0_then_1 19 rfl rfl)
abbrev cX0_isAhead : ByteArray := prog_1_method_58_code
def yX0_isAhead : MethodName := ⟨RX0, "isAhead", "(I)Z"⟩
def dkwX0_isAhead_0 : List UInt8 := [26, 3, 16, 40, 184, 0, 113, 172]
abbrev dktX0_isAhead_0 : List UInt8 := dkwX0_isAhead_0 ++ []
theorem dksX0_isAhead_0 : cX0_isAhead.data.toList.drop 0 = dktX0_isAhead_0 := by decide +kernel
theorem dX0_isAhead_0 : decode cX0_isAhead 0 = .ok (.iload_n 0, 1) := dk_26 (dk_at dksX0_isAhead_0 0 rfl rfl)
theorem dX0_isAhead_1 : decode cX0_isAhead 1 = .ok (.iconst 0, 1) := dk_3 (dk_at dksX0_isAhead_0 1 rfl rfl)
theorem dX0_isAhead_2 : decode cX0_isAhead 2 = .ok (.bipush 40, 2) := dk_16 40 (dk_at dksX0_isAhead_0 2 rfl rfl)
theorem dX0_isAhead_4 : decode cX0_isAhead 4 = .ok (.invokestatic 113, 3) := dk_184 0 113 (dk_at dksX0_isAhead_0 4 rfl rfl)
theorem dX0_isAhead_7 : decode cX0_isAhead 7 = .ok (.ireturn, 1) := dk_172 (dk_at dksX0_isAhead_0 7 rfl rfl)
abbrev cX0_begins : ByteArray := prog_1_method_60_code
def yX0_begins : MethodName := ⟨RX0, "begins", "()V"⟩
def dkwX0_begins_0 : List UInt8 := [42, 180, 0, 77, 42, 180, 0, 73, 182, 1, 120, 42, 182, 1, 124, 177]
abbrev dktX0_begins_0 : List UInt8 := dkwX0_begins_0 ++ []
theorem dksX0_begins_0 : cX0_begins.data.toList.drop 0 = dktX0_begins_0 := by decide +kernel
theorem dX0_begins_0 : decode cX0_begins 0 = .ok (.aload_n 0, 1) := dk_42 (dk_at dksX0_begins_0 0 rfl rfl)
theorem dX0_begins_1 : decode cX0_begins 1 = .ok (.getfield 77, 3) := dk_180 0 77 (dk_at dksX0_begins_0 1 rfl rfl)
theorem dX0_begins_4 : decode cX0_begins 4 = .ok (.aload_n 0, 1) := dk_42 (dk_at dksX0_begins_0 4 rfl rfl)
theorem dX0_begins_5 : decode cX0_begins 5 = .ok (.getfield 73, 3) := dk_180 0 73 (dk_at dksX0_begins_0 5 rfl rfl)
theorem dX0_begins_8 : decode cX0_begins 8 = .ok (.invokevirtual 376, 3) := dk_182 1 120 (dk_at dksX0_begins_0 8 rfl rfl)
theorem dX0_begins_11 : decode cX0_begins 11 = .ok (.aload_n 0, 1) := dk_42 (dk_at dksX0_begins_0 11 rfl rfl)
theorem dX0_begins_12 : decode cX0_begins 12 = .ok (.invokevirtual 380, 3) := dk_182 1 124 (dk_at dksX0_begins_0 12 rfl rfl)
theorem dX0_begins_15 : decode cX0_begins 15 = .ok (.return_, 1) := dk_177 (dk_at dksX0_begins_0 15 rfl rfl)
abbrev cX0_swaps : ByteArray := prog_1_method_59_code
def yX0_swaps : MethodName := ⟨RX0, "swaps", "()V"⟩
def dkwX0_swaps_0 : List UInt8 := [42, 180, 0, 73, 76, 42, 42, 180, 0, 77, 181, 0, 73, 42, 43, 181, 0, 77, 177]
abbrev dktX0_swaps_0 : List UInt8 := dkwX0_swaps_0 ++ []
theorem dksX0_swaps_0 : cX0_swaps.data.toList.drop 0 = dktX0_swaps_0 := by decide +kernel
theorem dX0_swaps_0 : decode cX0_swaps 0 = .ok (.aload_n 0, 1) := dk_42 (dk_at dksX0_swaps_0 0 rfl rfl)
theorem dX0_swaps_1 : decode cX0_swaps 1 = .ok (.getfield 73, 3) := dk_180 0 73 (dk_at dksX0_swaps_0 1 rfl rfl)
theorem dX0_swaps_4 : decode cX0_swaps 4 = .ok (.astore_n 1, 1) := dk_76 (dk_at dksX0_swaps_0 4 rfl rfl)
theorem dX0_swaps_5 : decode cX0_swaps 5 = .ok (.aload_n 0, 1) := dk_42 (dk_at dksX0_swaps_0 5 rfl rfl)
theorem dX0_swaps_6 : decode cX0_swaps 6 = .ok (.aload_n 0, 1) := dk_42 (dk_at dksX0_swaps_0 6 rfl rfl)
theorem dX0_swaps_7 : decode cX0_swaps 7 = .ok (.getfield 77, 3) := dk_180 0 77 (dk_at dksX0_swaps_0 7 rfl rfl)
theorem dX0_swaps_10 : decode cX0_swaps 10 = .ok (.putfield 73, 3) := dk_181 0 73 (dk_at dksX0_swaps_0 10 rfl rfl)
theorem dX0_swaps_13 : decode cX0_swaps 13 = .ok (.aload_n 0, 1) := dk_42 (dk_at dksX0_swaps_0 13 rfl rfl)
theorem dX0_swaps_14 : decode cX0_swaps 14 = .ok (.aload_n 1, 1) := dk_43 (dk_at dksX0_swaps_0 14 rfl rfl)
theorem dX0_swaps_15 : decode cX0_swaps 15 = .ok (.putfield 77, 3) := dk_181 0 77 (dk_at dksX0_swaps_0 15 rfl rfl)
theorem dX0_swaps_18 : decode cX0_swaps 18 = .ok (.return_, 1) := dk_177 (dk_at dksX0_swaps_0 18 rfl rfl)
abbrev cX0_whose : ByteArray := prog_1_method_62_code
def yX0_whose : MethodName := ⟨RX0, "whose", "(II)I"⟩
def dkwX0_whose_1 : List UInt8 := [182, 1, 130, 42, 27, 182, 1, 73, 42, 180, 0, 73, 180, 0, 147, 28, 46, 62, 42, 182, 1, 124, 29, 172]
abbrev dktX0_whose_1 : List UInt8 := dkwX0_whose_1 ++ []
def dkwX0_whose_0 : List UInt8 := [27, 184, 1, 127, 153, 0, 11, 42, 28, 182, 0, 251, 154, 0, 9, 42, 4, 182, 0, 204, 172, 42]
abbrev dktX0_whose_0 : List UInt8 := dkwX0_whose_0 ++ dktX0_whose_1
theorem dksX0_whose_0 : cX0_whose.data.toList.drop 0 = dktX0_whose_0 := by decide +kernel
theorem dksX0_whose_1 : cX0_whose.data.toList.drop 22 = dktX0_whose_1 := dk_seg dksX0_whose_0 22 rfl rfl
theorem dX0_whose_0 : decode cX0_whose 0 = .ok (.iload_n 1, 1) := dk_27 (dk_at dksX0_whose_0 0 rfl rfl)
theorem dX0_whose_1 : decode cX0_whose 1 = .ok (.invokestatic 383, 3) := dk_184 1 127 (dk_at dksX0_whose_0 1 rfl rfl)
theorem dX0_whose_4 : decode cX0_whose 4 = .ok (.ifCond .eq 11, 3) := dk_153 0 11 (dk_at dksX0_whose_0 4 rfl rfl)
theorem dX0_whose_7 : decode cX0_whose 7 = .ok (.aload_n 0, 1) := dk_42 (dk_at dksX0_whose_0 7 rfl rfl)
theorem dX0_whose_8 : decode cX0_whose 8 = .ok (.iload_n 2, 1) := dk_28 (dk_at dksX0_whose_0 8 rfl rfl)
theorem dX0_whose_9 : decode cX0_whose 9 = .ok (.invokevirtual 251, 3) := dk_182 0 251 (dk_at dksX0_whose_0 9 rfl rfl)
theorem dX0_whose_12 : decode cX0_whose 12 = .ok (.ifCond .ne 9, 3) := dk_154 0 9 (dk_at dksX0_whose_0 12 rfl rfl)
theorem dX0_whose_15 : decode cX0_whose 15 = .ok (.aload_n 0, 1) := dk_42 (dk_at dksX0_whose_0 15 rfl rfl)
theorem dX0_whose_16 : decode cX0_whose 16 = .ok (.iconst 1, 1) := dk_4 (dk_at dksX0_whose_0 16 rfl rfl)
theorem dX0_whose_17 : decode cX0_whose 17 = .ok (.invokevirtual 204, 3) := dk_182 0 204 (dk_at dksX0_whose_0 17 rfl rfl)
theorem dX0_whose_20 : decode cX0_whose 20 = .ok (.ireturn, 1) := dk_172 (dk_at dksX0_whose_0 20 rfl rfl)
theorem dX0_whose_21 : decode cX0_whose 21 = .ok (.aload_n 0, 1) := dk_42 (dk_at dksX0_whose_0 21 rfl rfl)
theorem dX0_whose_22 : decode cX0_whose 22 = .ok (.invokevirtual 386, 3) := dk_182 1 130 (dk_at dksX0_whose_1 0 rfl rfl)
theorem dX0_whose_25 : decode cX0_whose 25 = .ok (.aload_n 0, 1) := dk_42 (dk_at dksX0_whose_1 3 rfl rfl)
theorem dX0_whose_26 : decode cX0_whose 26 = .ok (.iload_n 1, 1) := dk_27 (dk_at dksX0_whose_1 4 rfl rfl)
theorem dX0_whose_27 : decode cX0_whose 27 = .ok (.invokevirtual 329, 3) := dk_182 1 73 (dk_at dksX0_whose_1 5 rfl rfl)
theorem dX0_whose_30 : decode cX0_whose 30 = .ok (.aload_n 0, 1) := dk_42 (dk_at dksX0_whose_1 8 rfl rfl)
theorem dX0_whose_31 : decode cX0_whose 31 = .ok (.getfield 73, 3) := dk_180 0 73 (dk_at dksX0_whose_1 9 rfl rfl)
theorem dX0_whose_34 : decode cX0_whose 34 = .ok (.getfield 147, 3) := dk_180 0 147 (dk_at dksX0_whose_1 12 rfl rfl)
theorem dX0_whose_37 : decode cX0_whose 37 = .ok (.iload_n 2, 1) := dk_28 (dk_at dksX0_whose_1 15 rfl rfl)
theorem dX0_whose_38 : decode cX0_whose 38 = .ok (.iaload, 1) := dk_46 (dk_at dksX0_whose_1 16 rfl rfl)
theorem dX0_whose_39 : decode cX0_whose 39 = .ok (.istore_n 3, 1) := dk_62 (dk_at dksX0_whose_1 17 rfl rfl)
theorem dX0_whose_40 : decode cX0_whose 40 = .ok (.aload_n 0, 1) := dk_42 (dk_at dksX0_whose_1 18 rfl rfl)
theorem dX0_whose_41 : decode cX0_whose 41 = .ok (.invokevirtual 380, 3) := dk_182 1 124 (dk_at dksX0_whose_1 19 rfl rfl)
theorem dX0_whose_44 : decode cX0_whose 44 = .ok (.iload_n 3, 1) := dk_29 (dk_at dksX0_whose_1 22 rfl rfl)
theorem dX0_whose_45 : decode cX0_whose 45 = .ok (.ireturn, 1) := dk_172 (dk_at dksX0_whose_1 23 rfl rfl)
abbrev cX0_part : ByteArray := prog_1_method_64_code
def yX0_part : MethodName := ⟨RX0, "part", "(I)I"⟩
def dkwX0_part_2 : List UInt8 := [61, 29, 21, 5, 184, 1, 136, 62, 132, 4, 1, 167, 255, 217, 28, 172]
abbrev dktX0_part_2 : List UInt8 := dkwX0_part_2 ++ []
def dkwX0_part_1 : List UInt8 := [163, 0, 38, 42, 21, 4, 27, 182, 1, 133, 54, 5, 21, 5, 29, 164, 0, 8, 21, 4, 167, 0, 4, 28]
abbrev dktX0_part_1 : List UInt8 := dkwX0_part_1 ++ dktX0_part_2
def dkwX0_part_0 : List UInt8 := [27, 184, 1, 127, 154, 0, 9, 42, 4, 182, 0, 204, 172, 3, 61, 2, 62, 3, 54, 4, 21, 4, 16, 30]
abbrev dktX0_part_0 : List UInt8 := dkwX0_part_0 ++ dktX0_part_1
theorem dksX0_part_0 : cX0_part.data.toList.drop 0 = dktX0_part_0 := by decide +kernel
theorem dksX0_part_1 : cX0_part.data.toList.drop 24 = dktX0_part_1 := dk_seg dksX0_part_0 24 rfl rfl
theorem dksX0_part_2 : cX0_part.data.toList.drop 48 = dktX0_part_2 := dk_seg dksX0_part_1 24 rfl rfl
theorem dX0_part_0 : decode cX0_part 0 = .ok (.iload_n 1, 1) := dk_27 (dk_at dksX0_part_0 0 rfl rfl)
theorem dX0_part_1 : decode cX0_part 1 = .ok (.invokestatic 383, 3) := dk_184 1 127 (dk_at dksX0_part_0 1 rfl rfl)
theorem dX0_part_4 : decode cX0_part 4 = .ok (.ifCond .ne 9, 3) := dk_154 0 9 (dk_at dksX0_part_0 4 rfl rfl)
theorem dX0_part_7 : decode cX0_part 7 = .ok (.aload_n 0, 1) := dk_42 (dk_at dksX0_part_0 7 rfl rfl)
theorem dX0_part_8 : decode cX0_part 8 = .ok (.iconst 1, 1) := dk_4 (dk_at dksX0_part_0 8 rfl rfl)
theorem dX0_part_9 : decode cX0_part 9 = .ok (.invokevirtual 204, 3) := dk_182 0 204 (dk_at dksX0_part_0 9 rfl rfl)
theorem dX0_part_12 : decode cX0_part 12 = .ok (.ireturn, 1) := dk_172 (dk_at dksX0_part_0 12 rfl rfl)
theorem dX0_part_13 : decode cX0_part 13 = .ok (.iconst 0, 1) := dk_3 (dk_at dksX0_part_0 13 rfl rfl)
theorem dX0_part_14 : decode cX0_part 14 = .ok (.istore_n 2, 1) := dk_61 (dk_at dksX0_part_0 14 rfl rfl)
theorem dX0_part_15 : decode cX0_part 15 = .ok (.iconst (-1), 1) := dk_2 (dk_at dksX0_part_0 15 rfl rfl)
theorem dX0_part_16 : decode cX0_part 16 = .ok (.istore_n 3, 1) := dk_62 (dk_at dksX0_part_0 16 rfl rfl)
theorem dX0_part_17 : decode cX0_part 17 = .ok (.iconst 0, 1) := dk_3 (dk_at dksX0_part_0 17 rfl rfl)
theorem dX0_part_18 : decode cX0_part 18 = .ok (.istore 4, 2) := dk_54 4 (dk_at dksX0_part_0 18 rfl rfl)
theorem dX0_part_20 : decode cX0_part 20 = .ok (.iload 4, 2) := dk_21 4 (dk_at dksX0_part_0 20 rfl rfl)
theorem dX0_part_22 : decode cX0_part 22 = .ok (.bipush 30, 2) := dk_16 30 (dk_at dksX0_part_0 22 rfl rfl)
theorem dX0_part_24 : decode cX0_part 24 = .ok (.if_icmp .gt 38, 3) := dk_163 0 38 (dk_at dksX0_part_1 0 rfl rfl)
theorem dX0_part_27 : decode cX0_part 27 = .ok (.aload_n 0, 1) := dk_42 (dk_at dksX0_part_1 3 rfl rfl)
theorem dX0_part_28 : decode cX0_part 28 = .ok (.iload 4, 2) := dk_21 4 (dk_at dksX0_part_1 4 rfl rfl)
theorem dX0_part_30 : decode cX0_part 30 = .ok (.iload_n 1, 1) := dk_27 (dk_at dksX0_part_1 6 rfl rfl)
theorem dX0_part_31 : decode cX0_part 31 = .ok (.invokevirtual 389, 3) := dk_182 1 133 (dk_at dksX0_part_1 7 rfl rfl)
theorem dX0_part_34 : decode cX0_part 34 = .ok (.istore 5, 2) := dk_54 5 (dk_at dksX0_part_1 10 rfl rfl)
theorem dX0_part_36 : decode cX0_part 36 = .ok (.iload 5, 2) := dk_21 5 (dk_at dksX0_part_1 12 rfl rfl)
theorem dX0_part_38 : decode cX0_part 38 = .ok (.iload_n 3, 1) := dk_29 (dk_at dksX0_part_1 14 rfl rfl)
theorem dX0_part_39 : decode cX0_part 39 = .ok (.if_icmp .le 8, 3) := dk_164 0 8 (dk_at dksX0_part_1 15 rfl rfl)
theorem dX0_part_42 : decode cX0_part 42 = .ok (.iload 4, 2) := dk_21 4 (dk_at dksX0_part_1 18 rfl rfl)
theorem dX0_part_44 : decode cX0_part 44 = .ok (.goto 4, 3) := dk_167 0 4 (dk_at dksX0_part_1 20 rfl rfl)
theorem dX0_part_47 : decode cX0_part 47 = .ok (.iload_n 2, 1) := dk_28 (dk_at dksX0_part_1 23 rfl rfl)
theorem dX0_part_48 : decode cX0_part 48 = .ok (.istore_n 2, 1) := dk_61 (dk_at dksX0_part_2 0 rfl rfl)
theorem dX0_part_49 : decode cX0_part 49 = .ok (.iload_n 3, 1) := dk_29 (dk_at dksX0_part_2 1 rfl rfl)
theorem dX0_part_50 : decode cX0_part 50 = .ok (.iload 5, 2) := dk_21 5 (dk_at dksX0_part_2 2 rfl rfl)
theorem dX0_part_52 : decode cX0_part 52 = .ok (.invokestatic 392, 3) := dk_184 1 136 (dk_at dksX0_part_2 4 rfl rfl)
theorem dX0_part_55 : decode cX0_part 55 = .ok (.istore_n 3, 1) := dk_62 (dk_at dksX0_part_2 7 rfl rfl)
theorem dX0_part_56 : decode cX0_part 56 = .ok (.iinc 4 1, 3) := dk_132 4 1 (dk_at dksX0_part_2 8 rfl rfl)
theorem dX0_part_59 : decode cX0_part 59 = .ok (.goto (-39), 3) := dk_167 255 217 (dk_at dksX0_part_2 11 rfl rfl)
theorem dX0_part_62 : decode cX0_part 62 = .ok (.iload_n 2, 1) := dk_28 (dk_at dksX0_part_2 14 rfl rfl)
theorem dX0_part_63 : decode cX0_part 63 = .ok (.ireturn, 1) := dk_172 (dk_at dksX0_part_2 15 rfl rfl)
abbrev cX0_heldWith : ByteArray := prog_1_method_63_code
def yX0_heldWith : MethodName := ⟨RX0, "heldWith", "(II)I"⟩
def dkwX0_heldWith_1 : List UInt8 := [182, 1, 99, 62, 42, 182, 1, 124, 29, 172]
abbrev dktX0_heldWith_1 : List UInt8 := dkwX0_heldWith_1 ++ []
def dkwX0_heldWith_0 : List UInt8 := [42, 182, 1, 130, 42, 180, 0, 73, 180, 0, 137, 3, 27, 79, 42, 28, 182, 1, 73, 42, 180, 0, 73]
abbrev dktX0_heldWith_0 : List UInt8 := dkwX0_heldWith_0 ++ dktX0_heldWith_1
theorem dksX0_heldWith_0 : cX0_heldWith.data.toList.drop 0 = dktX0_heldWith_0 := by decide +kernel
theorem dksX0_heldWith_1 : cX0_heldWith.data.toList.drop 23 = dktX0_heldWith_1 := dk_seg dksX0_heldWith_0 23 rfl rfl
theorem dX0_heldWith_0 : decode cX0_heldWith 0 = .ok (.aload_n 0, 1) := dk_42 (dk_at dksX0_heldWith_0 0 rfl rfl)
theorem dX0_heldWith_1 : decode cX0_heldWith 1 = .ok (.invokevirtual 386, 3) := dk_182 1 130 (dk_at dksX0_heldWith_0 1 rfl rfl)
theorem dX0_heldWith_4 : decode cX0_heldWith 4 = .ok (.aload_n 0, 1) := dk_42 (dk_at dksX0_heldWith_0 4 rfl rfl)
theorem dX0_heldWith_5 : decode cX0_heldWith 5 = .ok (.getfield 73, 3) := dk_180 0 73 (dk_at dksX0_heldWith_0 5 rfl rfl)
theorem dX0_heldWith_8 : decode cX0_heldWith 8 = .ok (.getfield 137, 3) := dk_180 0 137 (dk_at dksX0_heldWith_0 8 rfl rfl)
theorem dX0_heldWith_11 : decode cX0_heldWith 11 = .ok (.iconst 0, 1) := dk_3 (dk_at dksX0_heldWith_0 11 rfl rfl)
theorem dX0_heldWith_12 : decode cX0_heldWith 12 = .ok (.iload_n 1, 1) := dk_27 (dk_at dksX0_heldWith_0 12 rfl rfl)
theorem dX0_heldWith_13 : decode cX0_heldWith 13 = .ok (.iastore, 1) := dk_79 (dk_at dksX0_heldWith_0 13 rfl rfl)
theorem dX0_heldWith_14 : decode cX0_heldWith 14 = .ok (.aload_n 0, 1) := dk_42 (dk_at dksX0_heldWith_0 14 rfl rfl)
theorem dX0_heldWith_15 : decode cX0_heldWith 15 = .ok (.iload_n 2, 1) := dk_28 (dk_at dksX0_heldWith_0 15 rfl rfl)
theorem dX0_heldWith_16 : decode cX0_heldWith 16 = .ok (.invokevirtual 329, 3) := dk_182 1 73 (dk_at dksX0_heldWith_0 16 rfl rfl)
theorem dX0_heldWith_19 : decode cX0_heldWith 19 = .ok (.aload_n 0, 1) := dk_42 (dk_at dksX0_heldWith_0 19 rfl rfl)
theorem dX0_heldWith_20 : decode cX0_heldWith 20 = .ok (.getfield 73, 3) := dk_180 0 73 (dk_at dksX0_heldWith_0 20 rfl rfl)
theorem dX0_heldWith_23 : decode cX0_heldWith 23 = .ok (.invokevirtual 355, 3) := dk_182 1 99 (dk_at dksX0_heldWith_1 0 rfl rfl)
theorem dX0_heldWith_26 : decode cX0_heldWith 26 = .ok (.istore_n 3, 1) := dk_62 (dk_at dksX0_heldWith_1 3 rfl rfl)
theorem dX0_heldWith_27 : decode cX0_heldWith 27 = .ok (.aload_n 0, 1) := dk_42 (dk_at dksX0_heldWith_1 4 rfl rfl)
theorem dX0_heldWith_28 : decode cX0_heldWith 28 = .ok (.invokevirtual 380, 3) := dk_182 1 124 (dk_at dksX0_heldWith_1 5 rfl rfl)
theorem dX0_heldWith_31 : decode cX0_heldWith 31 = .ok (.iload_n 3, 1) := dk_29 (dk_at dksX0_heldWith_1 8 rfl rfl)
theorem dX0_heldWith_32 : decode cX0_heldWith 32 = .ok (.ireturn, 1) := dk_172 (dk_at dksX0_heldWith_1 9 rfl rfl)
abbrev cX0_voice : ByteArray := prog_1_method_65_code
def yX0_voice : MethodName := ⟨RX0, "voice", "(III)I"⟩
def dkwX0_voice_4 : List UInt8 := [25, 4, 29, 42, 180, 0, 86, 182, 1, 148, 172, 58, 5, 42, 16, 6, 182, 0, 204, 172]
abbrev dktX0_voice_4 : List UInt8 := dkwX0_voice_4 ++ []
def dkwX0_voice_3 : List UInt8 := [182, 1, 143, 167, 0, 31, 28, 5, 160, 0, 16, 25, 4, 29, 42, 180, 0, 86, 182, 1, 146, 167, 0, 13]
abbrev dktX0_voice_3 : List UInt8 := dkwX0_voice_3 ++ dktX0_voice_4
def dkwX0_voice_2 : List UInt8 := [42, 180, 0, 86, 182, 1, 139, 167, 0, 49, 28, 4, 160, 0, 16, 25, 4, 29, 42, 180, 0, 86]
abbrev dktX0_voice_2 : List UInt8 := dkwX0_voice_2 ++ dktX0_voice_3
def dkwX0_voice_1 : List UInt8 := [180, 0, 86, 3, 181, 1, 138, 42, 180, 0, 73, 27, 182, 0, 150, 58, 4, 28, 154, 0, 16, 25, 4, 29]
abbrev dktX0_voice_1 : List UInt8 := dkwX0_voice_1 ++ dktX0_voice_2
def dkwX0_voice_0 : List UInt8 := [42, 27, 182, 0, 223, 153, 0, 12, 28, 3, 6, 184, 0, 113, 154, 0, 9, 42, 4, 182, 0, 204, 172, 42]
abbrev dktX0_voice_0 : List UInt8 := dkwX0_voice_0 ++ dktX0_voice_1
theorem dksX0_voice_0 : cX0_voice.data.toList.drop 0 = dktX0_voice_0 := by decide +kernel
theorem dksX0_voice_1 : cX0_voice.data.toList.drop 24 = dktX0_voice_1 := dk_seg dksX0_voice_0 24 rfl rfl
theorem dksX0_voice_2 : cX0_voice.data.toList.drop 48 = dktX0_voice_2 := dk_seg dksX0_voice_1 24 rfl rfl
theorem dksX0_voice_3 : cX0_voice.data.toList.drop 70 = dktX0_voice_3 := dk_seg dksX0_voice_2 22 rfl rfl
theorem dksX0_voice_4 : cX0_voice.data.toList.drop 94 = dktX0_voice_4 := dk_seg dksX0_voice_3 24 rfl rfl
theorem dX0_voice_0 : decode cX0_voice 0 = .ok (.aload_n 0, 1) := dk_42 (dk_at dksX0_voice_0 0 rfl rfl)
theorem dX0_voice_1 : decode cX0_voice 1 = .ok (.iload_n 1, 1) := dk_27 (dk_at dksX0_voice_0 1 rfl rfl)
theorem dX0_voice_2 : decode cX0_voice 2 = .ok (.invokevirtual 223, 3) := dk_182 0 223 (dk_at dksX0_voice_0 2 rfl rfl)
theorem dX0_voice_5 : decode cX0_voice 5 = .ok (.ifCond .eq 12, 3) := dk_153 0 12 (dk_at dksX0_voice_0 5 rfl rfl)
theorem dX0_voice_8 : decode cX0_voice 8 = .ok (.iload_n 2, 1) := dk_28 (dk_at dksX0_voice_0 8 rfl rfl)
theorem dX0_voice_9 : decode cX0_voice 9 = .ok (.iconst 0, 1) := dk_3 (dk_at dksX0_voice_0 9 rfl rfl)
theorem dX0_voice_10 : decode cX0_voice 10 = .ok (.iconst 3, 1) := dk_6 (dk_at dksX0_voice_0 10 rfl rfl)
theorem dX0_voice_11 : decode cX0_voice 11 = .ok (.invokestatic 113, 3) := dk_184 0 113 (dk_at dksX0_voice_0 11 rfl rfl)
theorem dX0_voice_14 : decode cX0_voice 14 = .ok (.ifCond .ne 9, 3) := dk_154 0 9 (dk_at dksX0_voice_0 14 rfl rfl)
theorem dX0_voice_17 : decode cX0_voice 17 = .ok (.aload_n 0, 1) := dk_42 (dk_at dksX0_voice_0 17 rfl rfl)
theorem dX0_voice_18 : decode cX0_voice 18 = .ok (.iconst 1, 1) := dk_4 (dk_at dksX0_voice_0 18 rfl rfl)
theorem dX0_voice_19 : decode cX0_voice 19 = .ok (.invokevirtual 204, 3) := dk_182 0 204 (dk_at dksX0_voice_0 19 rfl rfl)
theorem dX0_voice_22 : decode cX0_voice 22 = .ok (.ireturn, 1) := dk_172 (dk_at dksX0_voice_0 22 rfl rfl)
theorem dX0_voice_23 : decode cX0_voice 23 = .ok (.aload_n 0, 1) := dk_42 (dk_at dksX0_voice_0 23 rfl rfl)
theorem dX0_voice_24 : decode cX0_voice 24 = .ok (.getfield 86, 3) := dk_180 0 86 (dk_at dksX0_voice_1 0 rfl rfl)
theorem dX0_voice_27 : decode cX0_voice 27 = .ok (.iconst 0, 1) := dk_3 (dk_at dksX0_voice_1 3 rfl rfl)
theorem dX0_voice_28 : decode cX0_voice 28 = .ok (.putfield 394, 3) := dk_181 1 138 (dk_at dksX0_voice_1 4 rfl rfl)
theorem dX0_voice_31 : decode cX0_voice 31 = .ok (.aload_n 0, 1) := dk_42 (dk_at dksX0_voice_1 7 rfl rfl)
theorem dX0_voice_32 : decode cX0_voice 32 = .ok (.getfield 73, 3) := dk_180 0 73 (dk_at dksX0_voice_1 8 rfl rfl)
theorem dX0_voice_35 : decode cX0_voice 35 = .ok (.iload_n 1, 1) := dk_27 (dk_at dksX0_voice_1 11 rfl rfl)
theorem dX0_voice_36 : decode cX0_voice 36 = .ok (.invokevirtual 150, 3) := dk_182 0 150 (dk_at dksX0_voice_1 12 rfl rfl)
theorem dX0_voice_39 : decode cX0_voice 39 = .ok (.astore 4, 2) := dk_58 4 (dk_at dksX0_voice_1 15 rfl rfl)
theorem dX0_voice_41 : decode cX0_voice 41 = .ok (.iload_n 2, 1) := dk_28 (dk_at dksX0_voice_1 17 rfl rfl)
theorem dX0_voice_42 : decode cX0_voice 42 = .ok (.ifCond .ne 16, 3) := dk_154 0 16 (dk_at dksX0_voice_1 18 rfl rfl)
theorem dX0_voice_45 : decode cX0_voice 45 = .ok (.aload 4, 2) := dk_25 4 (dk_at dksX0_voice_1 21 rfl rfl)
theorem dX0_voice_47 : decode cX0_voice 47 = .ok (.iload_n 3, 1) := dk_29 (dk_at dksX0_voice_1 23 rfl rfl)
theorem dX0_voice_48 : decode cX0_voice 48 = .ok (.aload_n 0, 1) := dk_42 (dk_at dksX0_voice_2 0 rfl rfl)
theorem dX0_voice_49 : decode cX0_voice 49 = .ok (.getfield 86, 3) := dk_180 0 86 (dk_at dksX0_voice_2 1 rfl rfl)
theorem dX0_voice_52 : decode cX0_voice 52 = .ok (.invokevirtual 395, 3) := dk_182 1 139 (dk_at dksX0_voice_2 4 rfl rfl)
theorem dX0_voice_55 : decode cX0_voice 55 = .ok (.goto 49, 3) := dk_167 0 49 (dk_at dksX0_voice_2 7 rfl rfl)
theorem dX0_voice_58 : decode cX0_voice 58 = .ok (.iload_n 2, 1) := dk_28 (dk_at dksX0_voice_2 10 rfl rfl)
theorem dX0_voice_59 : decode cX0_voice 59 = .ok (.iconst 1, 1) := dk_4 (dk_at dksX0_voice_2 11 rfl rfl)
theorem dX0_voice_60 : decode cX0_voice 60 = .ok (.if_icmp .ne 16, 3) := dk_160 0 16 (dk_at dksX0_voice_2 12 rfl rfl)
theorem dX0_voice_63 : decode cX0_voice 63 = .ok (.aload 4, 2) := dk_25 4 (dk_at dksX0_voice_2 15 rfl rfl)
theorem dX0_voice_65 : decode cX0_voice 65 = .ok (.iload_n 3, 1) := dk_29 (dk_at dksX0_voice_2 17 rfl rfl)
theorem dX0_voice_66 : decode cX0_voice 66 = .ok (.aload_n 0, 1) := dk_42 (dk_at dksX0_voice_2 18 rfl rfl)
theorem dX0_voice_67 : decode cX0_voice 67 = .ok (.getfield 86, 3) := dk_180 0 86 (dk_at dksX0_voice_2 19 rfl rfl)
theorem dX0_voice_70 : decode cX0_voice 70 = .ok (.invokevirtual 399, 3) := dk_182 1 143 (dk_at dksX0_voice_3 0 rfl rfl)
theorem dX0_voice_73 : decode cX0_voice 73 = .ok (.goto 31, 3) := dk_167 0 31 (dk_at dksX0_voice_3 3 rfl rfl)
theorem dX0_voice_76 : decode cX0_voice 76 = .ok (.iload_n 2, 1) := dk_28 (dk_at dksX0_voice_3 6 rfl rfl)
theorem dX0_voice_77 : decode cX0_voice 77 = .ok (.iconst 2, 1) := dk_5 (dk_at dksX0_voice_3 7 rfl rfl)
theorem dX0_voice_78 : decode cX0_voice 78 = .ok (.if_icmp .ne 16, 3) := dk_160 0 16 (dk_at dksX0_voice_3 8 rfl rfl)
theorem dX0_voice_81 : decode cX0_voice 81 = .ok (.aload 4, 2) := dk_25 4 (dk_at dksX0_voice_3 11 rfl rfl)
theorem dX0_voice_83 : decode cX0_voice 83 = .ok (.iload_n 3, 1) := dk_29 (dk_at dksX0_voice_3 13 rfl rfl)
theorem dX0_voice_84 : decode cX0_voice 84 = .ok (.aload_n 0, 1) := dk_42 (dk_at dksX0_voice_3 14 rfl rfl)
theorem dX0_voice_85 : decode cX0_voice 85 = .ok (.getfield 86, 3) := dk_180 0 86 (dk_at dksX0_voice_3 15 rfl rfl)
theorem dX0_voice_88 : decode cX0_voice 88 = .ok (.invokevirtual 402, 3) := dk_182 1 146 (dk_at dksX0_voice_3 18 rfl rfl)
theorem dX0_voice_91 : decode cX0_voice 91 = .ok (.goto 13, 3) := dk_167 0 13 (dk_at dksX0_voice_3 21 rfl rfl)
theorem dX0_voice_94 : decode cX0_voice 94 = .ok (.aload 4, 2) := dk_25 4 (dk_at dksX0_voice_4 0 rfl rfl)
theorem dX0_voice_96 : decode cX0_voice 96 = .ok (.iload_n 3, 1) := dk_29 (dk_at dksX0_voice_4 2 rfl rfl)
theorem dX0_voice_97 : decode cX0_voice 97 = .ok (.aload_n 0, 1) := dk_42 (dk_at dksX0_voice_4 3 rfl rfl)
theorem dX0_voice_98 : decode cX0_voice 98 = .ok (.getfield 86, 3) := dk_180 0 86 (dk_at dksX0_voice_4 4 rfl rfl)
theorem dX0_voice_101 : decode cX0_voice 101 = .ok (.invokevirtual 404, 3) := dk_182 1 148 (dk_at dksX0_voice_4 7 rfl rfl)
theorem dX0_voice_104 : decode cX0_voice 104 = .ok (.ireturn, 1) := dk_172 (dk_at dksX0_voice_4 10 rfl rfl)
theorem dX0_voice_105 : decode cX0_voice 105 = .ok (.astore 5, 2) := dk_58 5 (dk_at dksX0_voice_4 11 rfl rfl)
theorem dX0_voice_107 : decode cX0_voice 107 = .ok (.aload_n 0, 1) := dk_42 (dk_at dksX0_voice_4 13 rfl rfl)
theorem dX0_voice_108 : decode cX0_voice 108 = .ok (.bipush 6, 2) := dk_16 6 (dk_at dksX0_voice_4 14 rfl rfl)
theorem dX0_voice_110 : decode cX0_voice 110 = .ok (.invokevirtual 204, 3) := dk_182 0 204 (dk_at dksX0_voice_4 16 rfl rfl)
theorem dX0_voice_113 : decode cX0_voice 113 = .ok (.ireturn, 1) := dk_172 (dk_at dksX0_voice_4 19 rfl rfl)
abbrev cX0_body : ByteArray := prog_1_method_66_code
def yX0_body : MethodName := ⟨RX0, "body", "(I)I"⟩
def dkwX0_body_1 : List UInt8 := [27, 51, 167, 0, 8, 42, 5, 182, 0, 204, 172]
abbrev dktX0_body_1 : List UInt8 := dkwX0_body_1 ++ []
def dkwX0_body_0 : List UInt8 := [27, 3, 42, 180, 0, 86, 180, 1, 138, 4, 100, 184, 0, 113, 153, 0, 15, 42, 180, 0, 86, 180, 1, 153]
abbrev dktX0_body_0 : List UInt8 := dkwX0_body_0 ++ dktX0_body_1
theorem dksX0_body_0 : cX0_body.data.toList.drop 0 = dktX0_body_0 := by decide +kernel
theorem dksX0_body_1 : cX0_body.data.toList.drop 24 = dktX0_body_1 := dk_seg dksX0_body_0 24 rfl rfl
theorem dX0_body_0 : decode cX0_body 0 = .ok (.iload_n 1, 1) := dk_27 (dk_at dksX0_body_0 0 rfl rfl)
theorem dX0_body_1 : decode cX0_body 1 = .ok (.iconst 0, 1) := dk_3 (dk_at dksX0_body_0 1 rfl rfl)
theorem dX0_body_2 : decode cX0_body 2 = .ok (.aload_n 0, 1) := dk_42 (dk_at dksX0_body_0 2 rfl rfl)
theorem dX0_body_3 : decode cX0_body 3 = .ok (.getfield 86, 3) := dk_180 0 86 (dk_at dksX0_body_0 3 rfl rfl)
theorem dX0_body_6 : decode cX0_body 6 = .ok (.getfield 394, 3) := dk_180 1 138 (dk_at dksX0_body_0 6 rfl rfl)
theorem dX0_body_9 : decode cX0_body 9 = .ok (.iconst 1, 1) := dk_4 (dk_at dksX0_body_0 9 rfl rfl)
theorem dX0_body_10 : decode cX0_body 10 = .ok (.isub, 1) := dk_100 (dk_at dksX0_body_0 10 rfl rfl)
theorem dX0_body_11 : decode cX0_body 11 = .ok (.invokestatic 113, 3) := dk_184 0 113 (dk_at dksX0_body_0 11 rfl rfl)
theorem dX0_body_14 : decode cX0_body 14 = .ok (.ifCond .eq 15, 3) := dk_153 0 15 (dk_at dksX0_body_0 14 rfl rfl)
theorem dX0_body_17 : decode cX0_body 17 = .ok (.aload_n 0, 1) := dk_42 (dk_at dksX0_body_0 17 rfl rfl)
theorem dX0_body_18 : decode cX0_body 18 = .ok (.getfield 86, 3) := dk_180 0 86 (dk_at dksX0_body_0 18 rfl rfl)
theorem dX0_body_21 : decode cX0_body 21 = .ok (.getfield 409, 3) := dk_180 1 153 (dk_at dksX0_body_0 21 rfl rfl)
theorem dX0_body_24 : decode cX0_body 24 = .ok (.iload_n 1, 1) := dk_27 (dk_at dksX0_body_1 0 rfl rfl)
theorem dX0_body_25 : decode cX0_body 25 = .ok (.baload, 1) := dk_51 (dk_at dksX0_body_1 1 rfl rfl)
theorem dX0_body_26 : decode cX0_body 26 = .ok (.goto 8, 3) := dk_167 0 8 (dk_at dksX0_body_1 2 rfl rfl)
theorem dX0_body_29 : decode cX0_body 29 = .ok (.aload_n 0, 1) := dk_42 (dk_at dksX0_body_1 5 rfl rfl)
theorem dX0_body_30 : decode cX0_body 30 = .ok (.iconst 2, 1) := dk_5 (dk_at dksX0_body_1 6 rfl rfl)
theorem dX0_body_31 : decode cX0_body 31 = .ok (.invokevirtual 204, 3) := dk_182 0 204 (dk_at dksX0_body_1 7 rfl rfl)
theorem dX0_body_34 : decode cX0_body 34 = .ok (.ireturn, 1) := dk_172 (dk_at dksX0_body_1 10 rfl rfl)
abbrev cX0_sheet : ByteArray := prog_1_method_70_code
def yX0_sheet : MethodName := ⟨RX0, "sheet", "(III)I"⟩
def dkwX0_sheet_4 : List UInt8 := [4, 172, 58, 4, 42, 6, 182, 0, 204, 172]
abbrev dktX0_sheet_4 : List UInt8 := dkwX0_sheet_4 ++ []
def dkwX0_sheet_3 : List UInt8 := [29, 188, 8, 167, 0, 18, 28, 16, 16, 160, 0, 9, 29, 188, 9, 167, 0, 6, 29, 188, 10, 181, 0, 214]
abbrev dktX0_sheet_3 : List UInt8 := dkwX0_sheet_3 ++ dktX0_sheet_4
def dkwX0_sheet_2 : List UInt8 := [182, 0, 204, 172, 42, 180, 0, 96, 27, 50, 28, 154, 0, 7, 1, 167, 0, 30, 28, 16, 8, 160, 0, 9]
abbrev dktX0_sheet_2 : List UInt8 := dkwX0_sheet_2 ++ dktX0_sheet_3
def dkwX0_sheet_1 : List UInt8 := [16, 32, 159, 0, 9, 42, 4, 182, 0, 204, 172, 28, 153, 0, 15, 29, 16, 24, 164, 0, 9, 42, 4]
abbrev dktX0_sheet_1 : List UInt8 := dkwX0_sheet_1 ++ dktX0_sheet_2
def dkwX0_sheet_0 : List UInt8 := [27, 184, 1, 159, 153, 0, 25, 28, 153, 0, 27, 28, 16, 8, 159, 0, 21, 28, 16, 16, 159, 0, 15, 28]
abbrev dktX0_sheet_0 : List UInt8 := dkwX0_sheet_0 ++ dktX0_sheet_1
theorem dksX0_sheet_0 : cX0_sheet.data.toList.drop 0 = dktX0_sheet_0 := by decide +kernel
theorem dksX0_sheet_1 : cX0_sheet.data.toList.drop 24 = dktX0_sheet_1 := dk_seg dksX0_sheet_0 24 rfl rfl
theorem dksX0_sheet_2 : cX0_sheet.data.toList.drop 47 = dktX0_sheet_2 := dk_seg dksX0_sheet_1 23 rfl rfl
theorem dksX0_sheet_3 : cX0_sheet.data.toList.drop 71 = dktX0_sheet_3 := dk_seg dksX0_sheet_2 24 rfl rfl
theorem dksX0_sheet_4 : cX0_sheet.data.toList.drop 95 = dktX0_sheet_4 := dk_seg dksX0_sheet_3 24 rfl rfl
theorem dX0_sheet_0 : decode cX0_sheet 0 = .ok (.iload_n 1, 1) := dk_27 (dk_at dksX0_sheet_0 0 rfl rfl)
theorem dX0_sheet_1 : decode cX0_sheet 1 = .ok (.invokestatic 415, 3) := dk_184 1 159 (dk_at dksX0_sheet_0 1 rfl rfl)
theorem dX0_sheet_4 : decode cX0_sheet 4 = .ok (.ifCond .eq 25, 3) := dk_153 0 25 (dk_at dksX0_sheet_0 4 rfl rfl)
theorem dX0_sheet_7 : decode cX0_sheet 7 = .ok (.iload_n 2, 1) := dk_28 (dk_at dksX0_sheet_0 7 rfl rfl)
theorem dX0_sheet_8 : decode cX0_sheet 8 = .ok (.ifCond .eq 27, 3) := dk_153 0 27 (dk_at dksX0_sheet_0 8 rfl rfl)
theorem dX0_sheet_11 : decode cX0_sheet 11 = .ok (.iload_n 2, 1) := dk_28 (dk_at dksX0_sheet_0 11 rfl rfl)
theorem dX0_sheet_12 : decode cX0_sheet 12 = .ok (.bipush 8, 2) := dk_16 8 (dk_at dksX0_sheet_0 12 rfl rfl)
theorem dX0_sheet_14 : decode cX0_sheet 14 = .ok (.if_icmp .eq 21, 3) := dk_159 0 21 (dk_at dksX0_sheet_0 14 rfl rfl)
theorem dX0_sheet_17 : decode cX0_sheet 17 = .ok (.iload_n 2, 1) := dk_28 (dk_at dksX0_sheet_0 17 rfl rfl)
theorem dX0_sheet_18 : decode cX0_sheet 18 = .ok (.bipush 16, 2) := dk_16 16 (dk_at dksX0_sheet_0 18 rfl rfl)
theorem dX0_sheet_20 : decode cX0_sheet 20 = .ok (.if_icmp .eq 15, 3) := dk_159 0 15 (dk_at dksX0_sheet_0 20 rfl rfl)
theorem dX0_sheet_23 : decode cX0_sheet 23 = .ok (.iload_n 2, 1) := dk_28 (dk_at dksX0_sheet_0 23 rfl rfl)
theorem dX0_sheet_24 : decode cX0_sheet 24 = .ok (.bipush 32, 2) := dk_16 32 (dk_at dksX0_sheet_1 0 rfl rfl)
theorem dX0_sheet_26 : decode cX0_sheet 26 = .ok (.if_icmp .eq 9, 3) := dk_159 0 9 (dk_at dksX0_sheet_1 2 rfl rfl)
theorem dX0_sheet_29 : decode cX0_sheet 29 = .ok (.aload_n 0, 1) := dk_42 (dk_at dksX0_sheet_1 5 rfl rfl)
theorem dX0_sheet_30 : decode cX0_sheet 30 = .ok (.iconst 1, 1) := dk_4 (dk_at dksX0_sheet_1 6 rfl rfl)
theorem dX0_sheet_31 : decode cX0_sheet 31 = .ok (.invokevirtual 204, 3) := dk_182 0 204 (dk_at dksX0_sheet_1 7 rfl rfl)
theorem dX0_sheet_34 : decode cX0_sheet 34 = .ok (.ireturn, 1) := dk_172 (dk_at dksX0_sheet_1 10 rfl rfl)
theorem dX0_sheet_35 : decode cX0_sheet 35 = .ok (.iload_n 2, 1) := dk_28 (dk_at dksX0_sheet_1 11 rfl rfl)
theorem dX0_sheet_36 : decode cX0_sheet 36 = .ok (.ifCond .eq 15, 3) := dk_153 0 15 (dk_at dksX0_sheet_1 12 rfl rfl)
theorem dX0_sheet_39 : decode cX0_sheet 39 = .ok (.iload_n 3, 1) := dk_29 (dk_at dksX0_sheet_1 15 rfl rfl)
theorem dX0_sheet_40 : decode cX0_sheet 40 = .ok (.bipush 24, 2) := dk_16 24 (dk_at dksX0_sheet_1 16 rfl rfl)
theorem dX0_sheet_42 : decode cX0_sheet 42 = .ok (.if_icmp .le 9, 3) := dk_164 0 9 (dk_at dksX0_sheet_1 18 rfl rfl)
theorem dX0_sheet_45 : decode cX0_sheet 45 = .ok (.aload_n 0, 1) := dk_42 (dk_at dksX0_sheet_1 21 rfl rfl)
theorem dX0_sheet_46 : decode cX0_sheet 46 = .ok (.iconst 1, 1) := dk_4 (dk_at dksX0_sheet_1 22 rfl rfl)
theorem dX0_sheet_47 : decode cX0_sheet 47 = .ok (.invokevirtual 204, 3) := dk_182 0 204 (dk_at dksX0_sheet_2 0 rfl rfl)
theorem dX0_sheet_50 : decode cX0_sheet 50 = .ok (.ireturn, 1) := dk_172 (dk_at dksX0_sheet_2 3 rfl rfl)
theorem dX0_sheet_51 : decode cX0_sheet 51 = .ok (.aload_n 0, 1) := dk_42 (dk_at dksX0_sheet_2 4 rfl rfl)
theorem dX0_sheet_52 : decode cX0_sheet 52 = .ok (.getfield 96, 3) := dk_180 0 96 (dk_at dksX0_sheet_2 5 rfl rfl)
theorem dX0_sheet_55 : decode cX0_sheet 55 = .ok (.iload_n 1, 1) := dk_27 (dk_at dksX0_sheet_2 8 rfl rfl)
theorem dX0_sheet_56 : decode cX0_sheet 56 = .ok (.aaload, 1) := dk_50 (dk_at dksX0_sheet_2 9 rfl rfl)
theorem dX0_sheet_57 : decode cX0_sheet 57 = .ok (.iload_n 2, 1) := dk_28 (dk_at dksX0_sheet_2 10 rfl rfl)
theorem dX0_sheet_58 : decode cX0_sheet 58 = .ok (.ifCond .ne 7, 3) := dk_154 0 7 (dk_at dksX0_sheet_2 11 rfl rfl)
theorem dX0_sheet_61 : decode cX0_sheet 61 = .ok (.aconst_null, 1) := dk_1 (dk_at dksX0_sheet_2 14 rfl rfl)
theorem dX0_sheet_62 : decode cX0_sheet 62 = .ok (.goto 30, 3) := dk_167 0 30 (dk_at dksX0_sheet_2 15 rfl rfl)
theorem dX0_sheet_65 : decode cX0_sheet 65 = .ok (.iload_n 2, 1) := dk_28 (dk_at dksX0_sheet_2 18 rfl rfl)
theorem dX0_sheet_66 : decode cX0_sheet 66 = .ok (.bipush 8, 2) := dk_16 8 (dk_at dksX0_sheet_2 19 rfl rfl)
theorem dX0_sheet_68 : decode cX0_sheet 68 = .ok (.if_icmp .ne 9, 3) := dk_160 0 9 (dk_at dksX0_sheet_2 21 rfl rfl)
theorem dX0_sheet_71 : decode cX0_sheet 71 = .ok (.iload_n 3, 1) := dk_29 (dk_at dksX0_sheet_3 0 rfl rfl)
theorem dX0_sheet_72 : decode cX0_sheet 72 = .ok (.newarray .byte, 2) := dk_188_8 (dk_at dksX0_sheet_3 1 rfl rfl)
theorem dX0_sheet_74 : decode cX0_sheet 74 = .ok (.goto 18, 3) := dk_167 0 18 (dk_at dksX0_sheet_3 3 rfl rfl)
theorem dX0_sheet_77 : decode cX0_sheet 77 = .ok (.iload_n 2, 1) := dk_28 (dk_at dksX0_sheet_3 6 rfl rfl)
theorem dX0_sheet_78 : decode cX0_sheet 78 = .ok (.bipush 16, 2) := dk_16 16 (dk_at dksX0_sheet_3 7 rfl rfl)
theorem dX0_sheet_80 : decode cX0_sheet 80 = .ok (.if_icmp .ne 9, 3) := dk_160 0 9 (dk_at dksX0_sheet_3 9 rfl rfl)
theorem dX0_sheet_83 : decode cX0_sheet 83 = .ok (.iload_n 3, 1) := dk_29 (dk_at dksX0_sheet_3 12 rfl rfl)
theorem dX0_sheet_84 : decode cX0_sheet 84 = .ok (.newarray .short, 2) := dk_188_9 (dk_at dksX0_sheet_3 13 rfl rfl)
theorem dX0_sheet_86 : decode cX0_sheet 86 = .ok (.goto 6, 3) := dk_167 0 6 (dk_at dksX0_sheet_3 15 rfl rfl)
theorem dX0_sheet_89 : decode cX0_sheet 89 = .ok (.iload_n 3, 1) := dk_29 (dk_at dksX0_sheet_3 18 rfl rfl)
theorem dX0_sheet_90 : decode cX0_sheet 90 = .ok (.newarray .int, 2) := dk_188_10 (dk_at dksX0_sheet_3 19 rfl rfl)
theorem dX0_sheet_92 : decode cX0_sheet 92 = .ok (.putfield 214, 3) := dk_181 0 214 (dk_at dksX0_sheet_3 21 rfl rfl)
theorem dX0_sheet_95 : decode cX0_sheet 95 = .ok (.iconst 1, 1) := dk_4 (dk_at dksX0_sheet_4 0 rfl rfl)
theorem dX0_sheet_96 : decode cX0_sheet 96 = .ok (.ireturn, 1) := dk_172 (dk_at dksX0_sheet_4 1 rfl rfl)
theorem dX0_sheet_97 : decode cX0_sheet 97 = .ok (.astore 4, 2) := dk_58 4 (dk_at dksX0_sheet_4 2 rfl rfl)
theorem dX0_sheet_99 : decode cX0_sheet 99 = .ok (.aload_n 0, 1) := dk_42 (dk_at dksX0_sheet_4 4 rfl rfl)
theorem dX0_sheet_100 : decode cX0_sheet 100 = .ok (.iconst 3, 1) := dk_6 (dk_at dksX0_sheet_4 5 rfl rfl)
theorem dX0_sheet_101 : decode cX0_sheet 101 = .ok (.invokevirtual 204, 3) := dk_182 0 204 (dk_at dksX0_sheet_4 6 rfl rfl)
theorem dX0_sheet_104 : decode cX0_sheet 104 = .ok (.ireturn, 1) := dk_172 (dk_at dksX0_sheet_4 9 rfl rfl)
abbrev cX0_isSheet : ByteArray := prog_1_method_67_code
def yX0_isSheet : MethodName := ⟨RX0, "isSheet", "(I)Z"⟩
def dkwX0_isSheet_0 : List UInt8 := [26, 3, 6, 184, 0, 113, 172]
abbrev dktX0_isSheet_0 : List UInt8 := dkwX0_isSheet_0 ++ []
theorem dksX0_isSheet_0 : cX0_isSheet.data.toList.drop 0 = dktX0_isSheet_0 := by decide +kernel
theorem dX0_isSheet_0 : decode cX0_isSheet 0 = .ok (.iload_n 0, 1) := dk_26 (dk_at dksX0_isSheet_0 0 rfl rfl)
theorem dX0_isSheet_1 : decode cX0_isSheet 1 = .ok (.iconst 0, 1) := dk_3 (dk_at dksX0_isSheet_0 1 rfl rfl)
theorem dX0_isSheet_2 : decode cX0_isSheet 2 = .ok (.iconst 3, 1) := dk_6 (dk_at dksX0_isSheet_0 2 rfl rfl)
theorem dX0_isSheet_3 : decode cX0_isSheet 3 = .ok (.invokestatic 113, 3) := dk_184 0 113 (dk_at dksX0_isSheet_0 3 rfl rfl)
theorem dX0_isSheet_6 : decode cX0_isSheet 6 = .ok (.ireturn, 1) := dk_172 (dk_at dksX0_isSheet_0 6 rfl rfl)
abbrev cX0_put : ByteArray := prog_1_method_71_code
def yX0_put : MethodName := ⟨RX0, "put", "(III)I"⟩
def dkwX0_put_4 : List UInt8 := [167, 0, 11, 25, 4, 192, 1, 158, 28, 29, 79, 4, 172]
abbrev dktX0_put_4 : List UInt8 := dkwX0_put_4 ++ []
def dkwX0_put_3 : List UInt8 := [145, 84, 167, 0, 31, 25, 4, 193, 1, 157, 153, 0, 15, 25, 4, 192, 1, 157, 28, 29, 147, 86]
abbrev dktX0_put_3 : List UInt8 := dkwX0_put_3 ++ dktX0_put_4
def dkwX0_put_2 : List UInt8 := [154, 0, 9, 42, 4, 182, 0, 204, 172, 25, 4, 193, 1, 156, 153, 0, 15, 25, 4, 192, 1, 156, 28, 29]
abbrev dktX0_put_2 : List UInt8 := dkwX0_put_2 ++ dktX0_put_3
def dkwX0_put_1 : List UInt8 := [25, 4, 199, 0, 9, 42, 5, 182, 0, 204, 172, 28, 3, 25, 4, 184, 1, 164, 4, 100, 184, 0, 113]
abbrev dktX0_put_1 : List UInt8 := dkwX0_put_1 ++ dktX0_put_2
def dkwX0_put_0 : List UInt8 := [27, 184, 1, 159, 154, 0, 9, 42, 4, 182, 0, 204, 172, 42, 180, 0, 96, 27, 50, 180, 0, 214, 58, 4]
abbrev dktX0_put_0 : List UInt8 := dkwX0_put_0 ++ dktX0_put_1
theorem dksX0_put_0 : cX0_put.data.toList.drop 0 = dktX0_put_0 := by decide +kernel
theorem dksX0_put_1 : cX0_put.data.toList.drop 24 = dktX0_put_1 := dk_seg dksX0_put_0 24 rfl rfl
theorem dksX0_put_2 : cX0_put.data.toList.drop 47 = dktX0_put_2 := dk_seg dksX0_put_1 23 rfl rfl
theorem dksX0_put_3 : cX0_put.data.toList.drop 71 = dktX0_put_3 := dk_seg dksX0_put_2 24 rfl rfl
theorem dksX0_put_4 : cX0_put.data.toList.drop 93 = dktX0_put_4 := dk_seg dksX0_put_3 22 rfl rfl
theorem dX0_put_0 : decode cX0_put 0 = .ok (.iload_n 1, 1) := dk_27 (dk_at dksX0_put_0 0 rfl rfl)
theorem dX0_put_1 : decode cX0_put 1 = .ok (.invokestatic 415, 3) := dk_184 1 159 (dk_at dksX0_put_0 1 rfl rfl)
theorem dX0_put_4 : decode cX0_put 4 = .ok (.ifCond .ne 9, 3) := dk_154 0 9 (dk_at dksX0_put_0 4 rfl rfl)
theorem dX0_put_7 : decode cX0_put 7 = .ok (.aload_n 0, 1) := dk_42 (dk_at dksX0_put_0 7 rfl rfl)
theorem dX0_put_8 : decode cX0_put 8 = .ok (.iconst 1, 1) := dk_4 (dk_at dksX0_put_0 8 rfl rfl)
theorem dX0_put_9 : decode cX0_put 9 = .ok (.invokevirtual 204, 3) := dk_182 0 204 (dk_at dksX0_put_0 9 rfl rfl)
theorem dX0_put_12 : decode cX0_put 12 = .ok (.ireturn, 1) := dk_172 (dk_at dksX0_put_0 12 rfl rfl)
theorem dX0_put_13 : decode cX0_put 13 = .ok (.aload_n 0, 1) := dk_42 (dk_at dksX0_put_0 13 rfl rfl)
theorem dX0_put_14 : decode cX0_put 14 = .ok (.getfield 96, 3) := dk_180 0 96 (dk_at dksX0_put_0 14 rfl rfl)
theorem dX0_put_17 : decode cX0_put 17 = .ok (.iload_n 1, 1) := dk_27 (dk_at dksX0_put_0 17 rfl rfl)
theorem dX0_put_18 : decode cX0_put 18 = .ok (.aaload, 1) := dk_50 (dk_at dksX0_put_0 18 rfl rfl)
theorem dX0_put_19 : decode cX0_put 19 = .ok (.getfield 214, 3) := dk_180 0 214 (dk_at dksX0_put_0 19 rfl rfl)
theorem dX0_put_22 : decode cX0_put 22 = .ok (.astore 4, 2) := dk_58 4 (dk_at dksX0_put_0 22 rfl rfl)
theorem dX0_put_24 : decode cX0_put 24 = .ok (.aload 4, 2) := dk_25 4 (dk_at dksX0_put_1 0 rfl rfl)
theorem dX0_put_26 : decode cX0_put 26 = .ok (.ifnonnull 9, 3) := dk_199 0 9 (dk_at dksX0_put_1 2 rfl rfl)
theorem dX0_put_29 : decode cX0_put 29 = .ok (.aload_n 0, 1) := dk_42 (dk_at dksX0_put_1 5 rfl rfl)
theorem dX0_put_30 : decode cX0_put 30 = .ok (.iconst 2, 1) := dk_5 (dk_at dksX0_put_1 6 rfl rfl)
theorem dX0_put_31 : decode cX0_put 31 = .ok (.invokevirtual 204, 3) := dk_182 0 204 (dk_at dksX0_put_1 7 rfl rfl)
theorem dX0_put_34 : decode cX0_put 34 = .ok (.ireturn, 1) := dk_172 (dk_at dksX0_put_1 10 rfl rfl)
theorem dX0_put_35 : decode cX0_put 35 = .ok (.iload_n 2, 1) := dk_28 (dk_at dksX0_put_1 11 rfl rfl)
theorem dX0_put_36 : decode cX0_put 36 = .ok (.iconst 0, 1) := dk_3 (dk_at dksX0_put_1 12 rfl rfl)
theorem dX0_put_37 : decode cX0_put 37 = .ok (.aload 4, 2) := dk_25 4 (dk_at dksX0_put_1 13 rfl rfl)
theorem dX0_put_39 : decode cX0_put 39 = .ok (.invokestatic 420, 3) := dk_184 1 164 (dk_at dksX0_put_1 15 rfl rfl)
theorem dX0_put_42 : decode cX0_put 42 = .ok (.iconst 1, 1) := dk_4 (dk_at dksX0_put_1 18 rfl rfl)
theorem dX0_put_43 : decode cX0_put 43 = .ok (.isub, 1) := dk_100 (dk_at dksX0_put_1 19 rfl rfl)
theorem dX0_put_44 : decode cX0_put 44 = .ok (.invokestatic 113, 3) := dk_184 0 113 (dk_at dksX0_put_1 20 rfl rfl)
theorem dX0_put_47 : decode cX0_put 47 = .ok (.ifCond .ne 9, 3) := dk_154 0 9 (dk_at dksX0_put_2 0 rfl rfl)
theorem dX0_put_50 : decode cX0_put 50 = .ok (.aload_n 0, 1) := dk_42 (dk_at dksX0_put_2 3 rfl rfl)
theorem dX0_put_51 : decode cX0_put 51 = .ok (.iconst 1, 1) := dk_4 (dk_at dksX0_put_2 4 rfl rfl)
theorem dX0_put_52 : decode cX0_put 52 = .ok (.invokevirtual 204, 3) := dk_182 0 204 (dk_at dksX0_put_2 5 rfl rfl)
theorem dX0_put_55 : decode cX0_put 55 = .ok (.ireturn, 1) := dk_172 (dk_at dksX0_put_2 8 rfl rfl)
theorem dX0_put_56 : decode cX0_put 56 = .ok (.aload 4, 2) := dk_25 4 (dk_at dksX0_put_2 9 rfl rfl)
theorem dX0_put_58 : decode cX0_put 58 = .ok (.instanceof 412, 3) := dk_193 1 156 (dk_at dksX0_put_2 11 rfl rfl)
theorem dX0_put_61 : decode cX0_put 61 = .ok (.ifCond .eq 15, 3) := dk_153 0 15 (dk_at dksX0_put_2 14 rfl rfl)
theorem dX0_put_64 : decode cX0_put 64 = .ok (.aload 4, 2) := dk_25 4 (dk_at dksX0_put_2 17 rfl rfl)
theorem dX0_put_66 : decode cX0_put 66 = .ok (.checkcast 412, 3) := dk_192 1 156 (dk_at dksX0_put_2 19 rfl rfl)
theorem dX0_put_69 : decode cX0_put 69 = .ok (.iload_n 2, 1) := dk_28 (dk_at dksX0_put_2 22 rfl rfl)
theorem dX0_put_70 : decode cX0_put 70 = .ok (.iload_n 3, 1) := dk_29 (dk_at dksX0_put_2 23 rfl rfl)
theorem dX0_put_71 : decode cX0_put 71 = .ok (.i2b, 1) := dk_145 (dk_at dksX0_put_3 0 rfl rfl)
theorem dX0_put_72 : decode cX0_put 72 = .ok (.bastore, 1) := dk_84 (dk_at dksX0_put_3 1 rfl rfl)
theorem dX0_put_73 : decode cX0_put 73 = .ok (.goto 31, 3) := dk_167 0 31 (dk_at dksX0_put_3 2 rfl rfl)
theorem dX0_put_76 : decode cX0_put 76 = .ok (.aload 4, 2) := dk_25 4 (dk_at dksX0_put_3 5 rfl rfl)
theorem dX0_put_78 : decode cX0_put 78 = .ok (.instanceof 413, 3) := dk_193 1 157 (dk_at dksX0_put_3 7 rfl rfl)
theorem dX0_put_81 : decode cX0_put 81 = .ok (.ifCond .eq 15, 3) := dk_153 0 15 (dk_at dksX0_put_3 10 rfl rfl)
theorem dX0_put_84 : decode cX0_put 84 = .ok (.aload 4, 2) := dk_25 4 (dk_at dksX0_put_3 13 rfl rfl)
theorem dX0_put_86 : decode cX0_put 86 = .ok (.checkcast 413, 3) := dk_192 1 157 (dk_at dksX0_put_3 15 rfl rfl)
theorem dX0_put_89 : decode cX0_put 89 = .ok (.iload_n 2, 1) := dk_28 (dk_at dksX0_put_3 18 rfl rfl)
theorem dX0_put_90 : decode cX0_put 90 = .ok (.iload_n 3, 1) := dk_29 (dk_at dksX0_put_3 19 rfl rfl)
theorem dX0_put_91 : decode cX0_put 91 = .ok (.i2s, 1) := dk_147 (dk_at dksX0_put_3 20 rfl rfl)
theorem dX0_put_92 : decode cX0_put 92 = .ok (.sastore, 1) := dk_86 (dk_at dksX0_put_3 21 rfl rfl)
theorem dX0_put_93 : decode cX0_put 93 = .ok (.goto 11, 3) := dk_167 0 11 (dk_at dksX0_put_4 0 rfl rfl)
theorem dX0_put_96 : decode cX0_put 96 = .ok (.aload 4, 2) := dk_25 4 (dk_at dksX0_put_4 3 rfl rfl)
theorem dX0_put_98 : decode cX0_put 98 = .ok (.checkcast 414, 3) := dk_192 1 158 (dk_at dksX0_put_4 5 rfl rfl)
theorem dX0_put_101 : decode cX0_put 101 = .ok (.iload_n 2, 1) := dk_28 (dk_at dksX0_put_4 8 rfl rfl)
theorem dX0_put_102 : decode cX0_put 102 = .ok (.iload_n 3, 1) := dk_29 (dk_at dksX0_put_4 9 rfl rfl)
theorem dX0_put_103 : decode cX0_put 103 = .ok (.iastore, 1) := dk_79 (dk_at dksX0_put_4 10 rfl rfl)
theorem dX0_put_104 : decode cX0_put 104 = .ok (.iconst 1, 1) := dk_4 (dk_at dksX0_put_4 11 rfl rfl)
theorem dX0_put_105 : decode cX0_put 105 = .ok (.ireturn, 1) := dk_172 (dk_at dksX0_put_4 12 rfl rfl)
abbrev cX0_sizeOf : ByteArray := prog_1_method_68_code
def yX0_sizeOf : MethodName := ⟨RX0, "sizeOf", "(Ljava/lang/Object;)I"⟩
def dkwX0_sizeOf_1 : List UInt8 := [192, 1, 157, 190, 167, 0, 8, 42, 192, 1, 158, 190, 172]
abbrev dktX0_sizeOf_1 : List UInt8 := dkwX0_sizeOf_1 ++ []
def dkwX0_sizeOf_0 : List UInt8 := [42, 193, 1, 156, 153, 0, 11, 42, 192, 1, 156, 190, 167, 0, 23, 42, 193, 1, 157, 153, 0, 11, 42]
abbrev dktX0_sizeOf_0 : List UInt8 := dkwX0_sizeOf_0 ++ dktX0_sizeOf_1
theorem dksX0_sizeOf_0 : cX0_sizeOf.data.toList.drop 0 = dktX0_sizeOf_0 := by decide +kernel
theorem dksX0_sizeOf_1 : cX0_sizeOf.data.toList.drop 23 = dktX0_sizeOf_1 := dk_seg dksX0_sizeOf_0 23 rfl rfl
theorem dX0_sizeOf_0 : decode cX0_sizeOf 0 = .ok (.aload_n 0, 1) := dk_42 (dk_at dksX0_sizeOf_0 0 rfl rfl)
theorem dX0_sizeOf_1 : decode cX0_sizeOf 1 = .ok (.instanceof 412, 3) := dk_193 1 156 (dk_at dksX0_sizeOf_0 1 rfl rfl)
theorem dX0_sizeOf_4 : decode cX0_sizeOf 4 = .ok (.ifCond .eq 11, 3) := dk_153 0 11 (dk_at dksX0_sizeOf_0 4 rfl rfl)
theorem dX0_sizeOf_7 : decode cX0_sizeOf 7 = .ok (.aload_n 0, 1) := dk_42 (dk_at dksX0_sizeOf_0 7 rfl rfl)
theorem dX0_sizeOf_8 : decode cX0_sizeOf 8 = .ok (.checkcast 412, 3) := dk_192 1 156 (dk_at dksX0_sizeOf_0 8 rfl rfl)
theorem dX0_sizeOf_11 : decode cX0_sizeOf 11 = .ok (.arraylength, 1) := dk_190 (dk_at dksX0_sizeOf_0 11 rfl rfl)
theorem dX0_sizeOf_12 : decode cX0_sizeOf 12 = .ok (.goto 23, 3) := dk_167 0 23 (dk_at dksX0_sizeOf_0 12 rfl rfl)
theorem dX0_sizeOf_15 : decode cX0_sizeOf 15 = .ok (.aload_n 0, 1) := dk_42 (dk_at dksX0_sizeOf_0 15 rfl rfl)
theorem dX0_sizeOf_16 : decode cX0_sizeOf 16 = .ok (.instanceof 413, 3) := dk_193 1 157 (dk_at dksX0_sizeOf_0 16 rfl rfl)
theorem dX0_sizeOf_19 : decode cX0_sizeOf 19 = .ok (.ifCond .eq 11, 3) := dk_153 0 11 (dk_at dksX0_sizeOf_0 19 rfl rfl)
theorem dX0_sizeOf_22 : decode cX0_sizeOf 22 = .ok (.aload_n 0, 1) := dk_42 (dk_at dksX0_sizeOf_0 22 rfl rfl)
theorem dX0_sizeOf_23 : decode cX0_sizeOf 23 = .ok (.checkcast 413, 3) := dk_192 1 157 (dk_at dksX0_sizeOf_1 0 rfl rfl)
theorem dX0_sizeOf_26 : decode cX0_sizeOf 26 = .ok (.arraylength, 1) := dk_190 (dk_at dksX0_sizeOf_1 3 rfl rfl)
theorem dX0_sizeOf_27 : decode cX0_sizeOf 27 = .ok (.goto 8, 3) := dk_167 0 8 (dk_at dksX0_sizeOf_1 4 rfl rfl)
theorem dX0_sizeOf_30 : decode cX0_sizeOf 30 = .ok (.aload_n 0, 1) := dk_42 (dk_at dksX0_sizeOf_1 7 rfl rfl)
theorem dX0_sizeOf_31 : decode cX0_sizeOf 31 = .ok (.checkcast 414, 3) := dk_192 1 158 (dk_at dksX0_sizeOf_1 8 rfl rfl)
theorem dX0_sizeOf_34 : decode cX0_sizeOf 34 = .ok (.arraylength, 1) := dk_190 (dk_at dksX0_sizeOf_1 11 rfl rfl)
theorem dX0_sizeOf_35 : decode cX0_sizeOf 35 = .ok (.ireturn, 1) := dk_172 (dk_at dksX0_sizeOf_1 12 rfl rfl)
abbrev cX0_move : ByteArray := prog_1_method_72_code
def yX0_move : MethodName := ⟨RX0, "move", "(IIIII)I"⟩
def dkwX0_move_5 : List UInt8 := [4, 182, 0, 204, 172, 25, 6, 28, 25, 7, 21, 4, 21, 5, 184, 1, 168, 21, 5, 172]
abbrev dktX0_move_5 : List UInt8 := dkwX0_move_5 ++ []
def dkwX0_move_4 : List UInt8 := [25, 6, 184, 1, 164, 28, 100, 163, 0, 16, 21, 5, 25, 7, 184, 1, 164, 21, 4, 100, 164, 0, 9, 42]
abbrev dktX0_move_4 : List UInt8 := dkwX0_move_4 ++ dktX0_move_5
def dkwX0_move_3 : List UInt8 := [58, 8, 42, 8, 182, 0, 204, 172, 21, 5, 155, 0, 37, 28, 155, 0, 33, 21, 4, 155, 0, 28, 21, 5]
abbrev dktX0_move_3 : List UInt8 := dkwX0_move_3 ++ dktX0_move_4
def dkwX0_move_2 : List UInt8 := [25, 7, 199, 0, 9, 42, 5, 182, 0, 204, 172, 25, 6, 3, 25, 7, 3, 3, 184, 1, 168, 167, 0, 11]
abbrev dktX0_move_2 : List UInt8 := dkwX0_move_2 ++ dktX0_move_3
def dkwX0_move_1 : List UInt8 := [27, 50, 180, 0, 214, 58, 6, 42, 180, 0, 96, 29, 50, 180, 0, 214, 58, 7, 25, 6, 198, 0, 8]
abbrev dktX0_move_1 : List UInt8 := dkwX0_move_1 ++ dktX0_move_2
def dkwX0_move_0 : List UInt8 := [27, 184, 1, 159, 153, 0, 10, 29, 184, 1, 159, 154, 0, 9, 42, 4, 182, 0, 204, 172, 42, 180, 0, 96]
abbrev dktX0_move_0 : List UInt8 := dkwX0_move_0 ++ dktX0_move_1
theorem dksX0_move_0 : cX0_move.data.toList.drop 0 = dktX0_move_0 := by decide +kernel
theorem dksX0_move_1 : cX0_move.data.toList.drop 24 = dktX0_move_1 := dk_seg dksX0_move_0 24 rfl rfl
theorem dksX0_move_2 : cX0_move.data.toList.drop 47 = dktX0_move_2 := dk_seg dksX0_move_1 23 rfl rfl
theorem dksX0_move_3 : cX0_move.data.toList.drop 71 = dktX0_move_3 := dk_seg dksX0_move_2 24 rfl rfl
theorem dksX0_move_4 : cX0_move.data.toList.drop 95 = dktX0_move_4 := dk_seg dksX0_move_3 24 rfl rfl
theorem dksX0_move_5 : cX0_move.data.toList.drop 119 = dktX0_move_5 := dk_seg dksX0_move_4 24 rfl rfl
theorem dX0_move_0 : decode cX0_move 0 = .ok (.iload_n 1, 1) := dk_27 (dk_at dksX0_move_0 0 rfl rfl)
theorem dX0_move_1 : decode cX0_move 1 = .ok (.invokestatic 415, 3) := dk_184 1 159 (dk_at dksX0_move_0 1 rfl rfl)
theorem dX0_move_4 : decode cX0_move 4 = .ok (.ifCond .eq 10, 3) := dk_153 0 10 (dk_at dksX0_move_0 4 rfl rfl)
theorem dX0_move_7 : decode cX0_move 7 = .ok (.iload_n 3, 1) := dk_29 (dk_at dksX0_move_0 7 rfl rfl)
theorem dX0_move_8 : decode cX0_move 8 = .ok (.invokestatic 415, 3) := dk_184 1 159 (dk_at dksX0_move_0 8 rfl rfl)
theorem dX0_move_11 : decode cX0_move 11 = .ok (.ifCond .ne 9, 3) := dk_154 0 9 (dk_at dksX0_move_0 11 rfl rfl)
theorem dX0_move_14 : decode cX0_move 14 = .ok (.aload_n 0, 1) := dk_42 (dk_at dksX0_move_0 14 rfl rfl)
theorem dX0_move_15 : decode cX0_move 15 = .ok (.iconst 1, 1) := dk_4 (dk_at dksX0_move_0 15 rfl rfl)
theorem dX0_move_16 : decode cX0_move 16 = .ok (.invokevirtual 204, 3) := dk_182 0 204 (dk_at dksX0_move_0 16 rfl rfl)
theorem dX0_move_19 : decode cX0_move 19 = .ok (.ireturn, 1) := dk_172 (dk_at dksX0_move_0 19 rfl rfl)
theorem dX0_move_20 : decode cX0_move 20 = .ok (.aload_n 0, 1) := dk_42 (dk_at dksX0_move_0 20 rfl rfl)
theorem dX0_move_21 : decode cX0_move 21 = .ok (.getfield 96, 3) := dk_180 0 96 (dk_at dksX0_move_0 21 rfl rfl)
theorem dX0_move_24 : decode cX0_move 24 = .ok (.iload_n 1, 1) := dk_27 (dk_at dksX0_move_1 0 rfl rfl)
theorem dX0_move_25 : decode cX0_move 25 = .ok (.aaload, 1) := dk_50 (dk_at dksX0_move_1 1 rfl rfl)
theorem dX0_move_26 : decode cX0_move 26 = .ok (.getfield 214, 3) := dk_180 0 214 (dk_at dksX0_move_1 2 rfl rfl)
theorem dX0_move_29 : decode cX0_move 29 = .ok (.astore 6, 2) := dk_58 6 (dk_at dksX0_move_1 5 rfl rfl)
theorem dX0_move_31 : decode cX0_move 31 = .ok (.aload_n 0, 1) := dk_42 (dk_at dksX0_move_1 7 rfl rfl)
theorem dX0_move_32 : decode cX0_move 32 = .ok (.getfield 96, 3) := dk_180 0 96 (dk_at dksX0_move_1 8 rfl rfl)
theorem dX0_move_35 : decode cX0_move 35 = .ok (.iload_n 3, 1) := dk_29 (dk_at dksX0_move_1 11 rfl rfl)
theorem dX0_move_36 : decode cX0_move 36 = .ok (.aaload, 1) := dk_50 (dk_at dksX0_move_1 12 rfl rfl)
theorem dX0_move_37 : decode cX0_move 37 = .ok (.getfield 214, 3) := dk_180 0 214 (dk_at dksX0_move_1 13 rfl rfl)
theorem dX0_move_40 : decode cX0_move 40 = .ok (.astore 7, 2) := dk_58 7 (dk_at dksX0_move_1 16 rfl rfl)
theorem dX0_move_42 : decode cX0_move 42 = .ok (.aload 6, 2) := dk_25 6 (dk_at dksX0_move_1 18 rfl rfl)
theorem dX0_move_44 : decode cX0_move 44 = .ok (.ifnull 8, 3) := dk_198 0 8 (dk_at dksX0_move_1 20 rfl rfl)
theorem dX0_move_47 : decode cX0_move 47 = .ok (.aload 7, 2) := dk_25 7 (dk_at dksX0_move_2 0 rfl rfl)
theorem dX0_move_49 : decode cX0_move 49 = .ok (.ifnonnull 9, 3) := dk_199 0 9 (dk_at dksX0_move_2 2 rfl rfl)
theorem dX0_move_52 : decode cX0_move 52 = .ok (.aload_n 0, 1) := dk_42 (dk_at dksX0_move_2 5 rfl rfl)
theorem dX0_move_53 : decode cX0_move 53 = .ok (.iconst 2, 1) := dk_5 (dk_at dksX0_move_2 6 rfl rfl)
theorem dX0_move_54 : decode cX0_move 54 = .ok (.invokevirtual 204, 3) := dk_182 0 204 (dk_at dksX0_move_2 7 rfl rfl)
theorem dX0_move_57 : decode cX0_move 57 = .ok (.ireturn, 1) := dk_172 (dk_at dksX0_move_2 10 rfl rfl)
theorem dX0_move_58 : decode cX0_move 58 = .ok (.aload 6, 2) := dk_25 6 (dk_at dksX0_move_2 11 rfl rfl)
theorem dX0_move_60 : decode cX0_move 60 = .ok (.iconst 0, 1) := dk_3 (dk_at dksX0_move_2 13 rfl rfl)
theorem dX0_move_61 : decode cX0_move 61 = .ok (.aload 7, 2) := dk_25 7 (dk_at dksX0_move_2 14 rfl rfl)
theorem dX0_move_63 : decode cX0_move 63 = .ok (.iconst 0, 1) := dk_3 (dk_at dksX0_move_2 16 rfl rfl)
theorem dX0_move_64 : decode cX0_move 64 = .ok (.iconst 0, 1) := dk_3 (dk_at dksX0_move_2 17 rfl rfl)
theorem dX0_move_65 : decode cX0_move 65 = .ok (.invokestatic 424, 3) := dk_184 1 168 (dk_at dksX0_move_2 18 rfl rfl)
theorem dX0_move_68 : decode cX0_move 68 = .ok (.goto 11, 3) := dk_167 0 11 (dk_at dksX0_move_2 21 rfl rfl)
theorem dX0_move_71 : decode cX0_move 71 = .ok (.astore 8, 2) := dk_58 8 (dk_at dksX0_move_3 0 rfl rfl)
theorem dX0_move_73 : decode cX0_move 73 = .ok (.aload_n 0, 1) := dk_42 (dk_at dksX0_move_3 2 rfl rfl)
theorem dX0_move_74 : decode cX0_move 74 = .ok (.iconst 5, 1) := dk_8 (dk_at dksX0_move_3 3 rfl rfl)
theorem dX0_move_75 : decode cX0_move 75 = .ok (.invokevirtual 204, 3) := dk_182 0 204 (dk_at dksX0_move_3 4 rfl rfl)
theorem dX0_move_78 : decode cX0_move 78 = .ok (.ireturn, 1) := dk_172 (dk_at dksX0_move_3 7 rfl rfl)
theorem dX0_move_79 : decode cX0_move 79 = .ok (.iload 5, 2) := dk_21 5 (dk_at dksX0_move_3 8 rfl rfl)
theorem dX0_move_81 : decode cX0_move 81 = .ok (.ifCond .lt 37, 3) := dk_155 0 37 (dk_at dksX0_move_3 10 rfl rfl)
theorem dX0_move_84 : decode cX0_move 84 = .ok (.iload_n 2, 1) := dk_28 (dk_at dksX0_move_3 13 rfl rfl)
theorem dX0_move_85 : decode cX0_move 85 = .ok (.ifCond .lt 33, 3) := dk_155 0 33 (dk_at dksX0_move_3 14 rfl rfl)
theorem dX0_move_88 : decode cX0_move 88 = .ok (.iload 4, 2) := dk_21 4 (dk_at dksX0_move_3 17 rfl rfl)
theorem dX0_move_90 : decode cX0_move 90 = .ok (.ifCond .lt 28, 3) := dk_155 0 28 (dk_at dksX0_move_3 19 rfl rfl)
theorem dX0_move_93 : decode cX0_move 93 = .ok (.iload 5, 2) := dk_21 5 (dk_at dksX0_move_3 22 rfl rfl)
theorem dX0_move_95 : decode cX0_move 95 = .ok (.aload 6, 2) := dk_25 6 (dk_at dksX0_move_4 0 rfl rfl)
theorem dX0_move_97 : decode cX0_move 97 = .ok (.invokestatic 420, 3) := dk_184 1 164 (dk_at dksX0_move_4 2 rfl rfl)
theorem dX0_move_100 : decode cX0_move 100 = .ok (.iload_n 2, 1) := dk_28 (dk_at dksX0_move_4 5 rfl rfl)
theorem dX0_move_101 : decode cX0_move 101 = .ok (.isub, 1) := dk_100 (dk_at dksX0_move_4 6 rfl rfl)
theorem dX0_move_102 : decode cX0_move 102 = .ok (.if_icmp .gt 16, 3) := dk_163 0 16 (dk_at dksX0_move_4 7 rfl rfl)
theorem dX0_move_105 : decode cX0_move 105 = .ok (.iload 5, 2) := dk_21 5 (dk_at dksX0_move_4 10 rfl rfl)
theorem dX0_move_107 : decode cX0_move 107 = .ok (.aload 7, 2) := dk_25 7 (dk_at dksX0_move_4 12 rfl rfl)
theorem dX0_move_109 : decode cX0_move 109 = .ok (.invokestatic 420, 3) := dk_184 1 164 (dk_at dksX0_move_4 14 rfl rfl)
theorem dX0_move_112 : decode cX0_move 112 = .ok (.iload 4, 2) := dk_21 4 (dk_at dksX0_move_4 17 rfl rfl)
theorem dX0_move_114 : decode cX0_move 114 = .ok (.isub, 1) := dk_100 (dk_at dksX0_move_4 19 rfl rfl)
theorem dX0_move_115 : decode cX0_move 115 = .ok (.if_icmp .le 9, 3) := dk_164 0 9 (dk_at dksX0_move_4 20 rfl rfl)
theorem dX0_move_118 : decode cX0_move 118 = .ok (.aload_n 0, 1) := dk_42 (dk_at dksX0_move_4 23 rfl rfl)
theorem dX0_move_119 : decode cX0_move 119 = .ok (.iconst 1, 1) := dk_4 (dk_at dksX0_move_5 0 rfl rfl)
theorem dX0_move_120 : decode cX0_move 120 = .ok (.invokevirtual 204, 3) := dk_182 0 204 (dk_at dksX0_move_5 1 rfl rfl)
theorem dX0_move_123 : decode cX0_move 123 = .ok (.ireturn, 1) := dk_172 (dk_at dksX0_move_5 4 rfl rfl)
theorem dX0_move_124 : decode cX0_move 124 = .ok (.aload 6, 2) := dk_25 6 (dk_at dksX0_move_5 5 rfl rfl)
theorem dX0_move_126 : decode cX0_move 126 = .ok (.iload_n 2, 1) := dk_28 (dk_at dksX0_move_5 7 rfl rfl)
theorem dX0_move_127 : decode cX0_move 127 = .ok (.aload 7, 2) := dk_25 7 (dk_at dksX0_move_5 8 rfl rfl)
theorem dX0_move_129 : decode cX0_move 129 = .ok (.iload 4, 2) := dk_21 4 (dk_at dksX0_move_5 10 rfl rfl)
theorem dX0_move_131 : decode cX0_move 131 = .ok (.iload 5, 2) := dk_21 5 (dk_at dksX0_move_5 12 rfl rfl)
theorem dX0_move_133 : decode cX0_move 133 = .ok (.invokestatic 424, 3) := dk_184 1 168 (dk_at dksX0_move_5 14 rfl rfl)
theorem dX0_move_136 : decode cX0_move 136 = .ok (.iload 5, 2) := dk_21 5 (dk_at dksX0_move_5 17 rfl rfl)
theorem dX0_move_138 : decode cX0_move 138 = .ok (.ireturn, 1) := dk_172 (dk_at dksX0_move_5 19 rfl rfl)
abbrev cX0_worths : ByteArray := prog_1_method_73_code
def yX0_worths : MethodName := ⟨RX0, "worths", "(II)I"⟩
def dkwX0_worths_4 : List UInt8 := [21, 4, 96, 45, 21, 4, 184, 1, 176, 79, 132, 4, 1, 167, 255, 195, 21, 4, 172]
abbrev dktX0_worths_4 : List UInt8 := dkwX0_worths_4 ++ []
def dkwX0_worths_3 : List UInt8 := [184, 1, 176, 3, 17, 39, 15, 184, 0, 113, 153, 0, 30, 42, 180, 0, 73, 180, 0, 220, 16, 12, 28, 104]
abbrev dktX0_worths_3 : List UInt8 := dkwX0_worths_3 ++ dktX0_worths_4
def dkwX0_worths_2 : List UInt8 := [45, 184, 1, 164, 162, 0, 58, 21, 4, 42, 180, 0, 73, 180, 0, 117, 162, 0, 46, 45, 21, 4]
abbrev dktX0_worths_2 : List UInt8 := dkwX0_worths_2 ++ dktX0_worths_3
def dkwX0_worths_1 : List UInt8 := [180, 0, 96, 27, 50, 180, 0, 214, 78, 45, 199, 0, 9, 42, 5, 182, 0, 204, 172, 3, 54, 4, 21, 4]
abbrev dktX0_worths_1 : List UInt8 := dkwX0_worths_1 ++ dktX0_worths_2
def dkwX0_worths_0 : List UInt8 := [27, 184, 1, 159, 153, 0, 11, 42, 28, 182, 0, 223, 154, 0, 9, 42, 4, 182, 0, 204, 172, 42]
abbrev dktX0_worths_0 : List UInt8 := dkwX0_worths_0 ++ dktX0_worths_1
theorem dksX0_worths_0 : cX0_worths.data.toList.drop 0 = dktX0_worths_0 := by decide +kernel
theorem dksX0_worths_1 : cX0_worths.data.toList.drop 22 = dktX0_worths_1 := dk_seg dksX0_worths_0 22 rfl rfl
theorem dksX0_worths_2 : cX0_worths.data.toList.drop 46 = dktX0_worths_2 := dk_seg dksX0_worths_1 24 rfl rfl
theorem dksX0_worths_3 : cX0_worths.data.toList.drop 68 = dktX0_worths_3 := dk_seg dksX0_worths_2 22 rfl rfl
theorem dksX0_worths_4 : cX0_worths.data.toList.drop 92 = dktX0_worths_4 := dk_seg dksX0_worths_3 24 rfl rfl
theorem dX0_worths_0 : decode cX0_worths 0 = .ok (.iload_n 1, 1) := dk_27 (dk_at dksX0_worths_0 0 rfl rfl)
theorem dX0_worths_1 : decode cX0_worths 1 = .ok (.invokestatic 415, 3) := dk_184 1 159 (dk_at dksX0_worths_0 1 rfl rfl)
theorem dX0_worths_4 : decode cX0_worths 4 = .ok (.ifCond .eq 11, 3) := dk_153 0 11 (dk_at dksX0_worths_0 4 rfl rfl)
theorem dX0_worths_7 : decode cX0_worths 7 = .ok (.aload_n 0, 1) := dk_42 (dk_at dksX0_worths_0 7 rfl rfl)
theorem dX0_worths_8 : decode cX0_worths 8 = .ok (.iload_n 2, 1) := dk_28 (dk_at dksX0_worths_0 8 rfl rfl)
theorem dX0_worths_9 : decode cX0_worths 9 = .ok (.invokevirtual 223, 3) := dk_182 0 223 (dk_at dksX0_worths_0 9 rfl rfl)
theorem dX0_worths_12 : decode cX0_worths 12 = .ok (.ifCond .ne 9, 3) := dk_154 0 9 (dk_at dksX0_worths_0 12 rfl rfl)
theorem dX0_worths_15 : decode cX0_worths 15 = .ok (.aload_n 0, 1) := dk_42 (dk_at dksX0_worths_0 15 rfl rfl)
theorem dX0_worths_16 : decode cX0_worths 16 = .ok (.iconst 1, 1) := dk_4 (dk_at dksX0_worths_0 16 rfl rfl)
theorem dX0_worths_17 : decode cX0_worths 17 = .ok (.invokevirtual 204, 3) := dk_182 0 204 (dk_at dksX0_worths_0 17 rfl rfl)
theorem dX0_worths_20 : decode cX0_worths 20 = .ok (.ireturn, 1) := dk_172 (dk_at dksX0_worths_0 20 rfl rfl)
theorem dX0_worths_21 : decode cX0_worths 21 = .ok (.aload_n 0, 1) := dk_42 (dk_at dksX0_worths_0 21 rfl rfl)
theorem dX0_worths_22 : decode cX0_worths 22 = .ok (.getfield 96, 3) := dk_180 0 96 (dk_at dksX0_worths_1 0 rfl rfl)
theorem dX0_worths_25 : decode cX0_worths 25 = .ok (.iload_n 1, 1) := dk_27 (dk_at dksX0_worths_1 3 rfl rfl)
theorem dX0_worths_26 : decode cX0_worths 26 = .ok (.aaload, 1) := dk_50 (dk_at dksX0_worths_1 4 rfl rfl)
theorem dX0_worths_27 : decode cX0_worths 27 = .ok (.getfield 214, 3) := dk_180 0 214 (dk_at dksX0_worths_1 5 rfl rfl)
theorem dX0_worths_30 : decode cX0_worths 30 = .ok (.astore_n 3, 1) := dk_78 (dk_at dksX0_worths_1 8 rfl rfl)
theorem dX0_worths_31 : decode cX0_worths 31 = .ok (.aload_n 3, 1) := dk_45 (dk_at dksX0_worths_1 9 rfl rfl)
theorem dX0_worths_32 : decode cX0_worths 32 = .ok (.ifnonnull 9, 3) := dk_199 0 9 (dk_at dksX0_worths_1 10 rfl rfl)
theorem dX0_worths_35 : decode cX0_worths 35 = .ok (.aload_n 0, 1) := dk_42 (dk_at dksX0_worths_1 13 rfl rfl)
theorem dX0_worths_36 : decode cX0_worths 36 = .ok (.iconst 2, 1) := dk_5 (dk_at dksX0_worths_1 14 rfl rfl)
theorem dX0_worths_37 : decode cX0_worths 37 = .ok (.invokevirtual 204, 3) := dk_182 0 204 (dk_at dksX0_worths_1 15 rfl rfl)
theorem dX0_worths_40 : decode cX0_worths 40 = .ok (.ireturn, 1) := dk_172 (dk_at dksX0_worths_1 18 rfl rfl)
theorem dX0_worths_41 : decode cX0_worths 41 = .ok (.iconst 0, 1) := dk_3 (dk_at dksX0_worths_1 19 rfl rfl)
theorem dX0_worths_42 : decode cX0_worths 42 = .ok (.istore 4, 2) := dk_54 4 (dk_at dksX0_worths_1 20 rfl rfl)
theorem dX0_worths_44 : decode cX0_worths 44 = .ok (.iload 4, 2) := dk_21 4 (dk_at dksX0_worths_1 22 rfl rfl)
theorem dX0_worths_46 : decode cX0_worths 46 = .ok (.aload_n 3, 1) := dk_45 (dk_at dksX0_worths_2 0 rfl rfl)
theorem dX0_worths_47 : decode cX0_worths 47 = .ok (.invokestatic 420, 3) := dk_184 1 164 (dk_at dksX0_worths_2 1 rfl rfl)
theorem dX0_worths_50 : decode cX0_worths 50 = .ok (.if_icmp .ge 58, 3) := dk_162 0 58 (dk_at dksX0_worths_2 4 rfl rfl)
theorem dX0_worths_53 : decode cX0_worths 53 = .ok (.iload 4, 2) := dk_21 4 (dk_at dksX0_worths_2 7 rfl rfl)
theorem dX0_worths_55 : decode cX0_worths 55 = .ok (.aload_n 0, 1) := dk_42 (dk_at dksX0_worths_2 9 rfl rfl)
theorem dX0_worths_56 : decode cX0_worths 56 = .ok (.getfield 73, 3) := dk_180 0 73 (dk_at dksX0_worths_2 10 rfl rfl)
theorem dX0_worths_59 : decode cX0_worths 59 = .ok (.getfield 117, 3) := dk_180 0 117 (dk_at dksX0_worths_2 13 rfl rfl)
theorem dX0_worths_62 : decode cX0_worths 62 = .ok (.if_icmp .ge 46, 3) := dk_162 0 46 (dk_at dksX0_worths_2 16 rfl rfl)
theorem dX0_worths_65 : decode cX0_worths 65 = .ok (.aload_n 3, 1) := dk_45 (dk_at dksX0_worths_2 19 rfl rfl)
theorem dX0_worths_66 : decode cX0_worths 66 = .ok (.iload 4, 2) := dk_21 4 (dk_at dksX0_worths_2 20 rfl rfl)
theorem dX0_worths_68 : decode cX0_worths 68 = .ok (.invokestatic 432, 3) := dk_184 1 176 (dk_at dksX0_worths_3 0 rfl rfl)
theorem dX0_worths_71 : decode cX0_worths 71 = .ok (.iconst 0, 1) := dk_3 (dk_at dksX0_worths_3 3 rfl rfl)
theorem dX0_worths_72 : decode cX0_worths 72 = .ok (.sipush 9999, 3) := dk_17 39 15 (dk_at dksX0_worths_3 4 rfl rfl)
theorem dX0_worths_75 : decode cX0_worths 75 = .ok (.invokestatic 113, 3) := dk_184 0 113 (dk_at dksX0_worths_3 7 rfl rfl)
theorem dX0_worths_78 : decode cX0_worths 78 = .ok (.ifCond .eq 30, 3) := dk_153 0 30 (dk_at dksX0_worths_3 10 rfl rfl)
theorem dX0_worths_81 : decode cX0_worths 81 = .ok (.aload_n 0, 1) := dk_42 (dk_at dksX0_worths_3 13 rfl rfl)
theorem dX0_worths_82 : decode cX0_worths 82 = .ok (.getfield 73, 3) := dk_180 0 73 (dk_at dksX0_worths_3 14 rfl rfl)
theorem dX0_worths_85 : decode cX0_worths 85 = .ok (.getfield 220, 3) := dk_180 0 220 (dk_at dksX0_worths_3 17 rfl rfl)
theorem dX0_worths_88 : decode cX0_worths 88 = .ok (.bipush 12, 2) := dk_16 12 (dk_at dksX0_worths_3 20 rfl rfl)
theorem dX0_worths_90 : decode cX0_worths 90 = .ok (.iload_n 2, 1) := dk_28 (dk_at dksX0_worths_3 22 rfl rfl)
theorem dX0_worths_91 : decode cX0_worths 91 = .ok (.imul, 1) := dk_104 (dk_at dksX0_worths_3 23 rfl rfl)
theorem dX0_worths_92 : decode cX0_worths 92 = .ok (.iload 4, 2) := dk_21 4 (dk_at dksX0_worths_4 0 rfl rfl)
theorem dX0_worths_94 : decode cX0_worths 94 = .ok (.iadd, 1) := dk_96 (dk_at dksX0_worths_4 2 rfl rfl)
theorem dX0_worths_95 : decode cX0_worths 95 = .ok (.aload_n 3, 1) := dk_45 (dk_at dksX0_worths_4 3 rfl rfl)
theorem dX0_worths_96 : decode cX0_worths 96 = .ok (.iload 4, 2) := dk_21 4 (dk_at dksX0_worths_4 4 rfl rfl)
theorem dX0_worths_98 : decode cX0_worths 98 = .ok (.invokestatic 432, 3) := dk_184 1 176 (dk_at dksX0_worths_4 6 rfl rfl)
theorem dX0_worths_101 : decode cX0_worths 101 = .ok (.iastore, 1) := dk_79 (dk_at dksX0_worths_4 9 rfl rfl)
theorem dX0_worths_102 : decode cX0_worths 102 = .ok (.iinc 4 1, 3) := dk_132 4 1 (dk_at dksX0_worths_4 10 rfl rfl)
theorem dX0_worths_105 : decode cX0_worths 105 = .ok (.goto (-61), 3) := dk_167 255 195 (dk_at dksX0_worths_4 13 rfl rfl)
theorem dX0_worths_108 : decode cX0_worths 108 = .ok (.iload 4, 2) := dk_21 4 (dk_at dksX0_worths_4 16 rfl rfl)
theorem dX0_worths_110 : decode cX0_worths 110 = .ok (.ireturn, 1) := dk_172 (dk_at dksX0_worths_4 18 rfl rfl)
abbrev cX0_numberOf : ByteArray := prog_1_method_69_code
def yX0_numberOf : MethodName := ⟨RX0, "numberOf", "(Ljava/lang/Object;I)I"⟩
def dkwX0_numberOf_1 : List UInt8 := [192, 1, 157, 27, 53, 167, 0, 9, 42, 192, 1, 158, 27, 46, 172]
abbrev dktX0_numberOf_1 : List UInt8 := dkwX0_numberOf_1 ++ []
def dkwX0_numberOf_0 : List UInt8 := [42, 193, 1, 156, 153, 0, 12, 42, 192, 1, 156, 27, 51, 167, 0, 25, 42, 193, 1, 157, 153, 0, 12, 42]
abbrev dktX0_numberOf_0 : List UInt8 := dkwX0_numberOf_0 ++ dktX0_numberOf_1
theorem dksX0_numberOf_0 : cX0_numberOf.data.toList.drop 0 = dktX0_numberOf_0 := by decide +kernel
theorem dksX0_numberOf_1 : cX0_numberOf.data.toList.drop 24 = dktX0_numberOf_1 := dk_seg dksX0_numberOf_0 24 rfl rfl
theorem dX0_numberOf_0 : decode cX0_numberOf 0 = .ok (.aload_n 0, 1) := dk_42 (dk_at dksX0_numberOf_0 0 rfl rfl)
theorem dX0_numberOf_1 : decode cX0_numberOf 1 = .ok (.instanceof 412, 3) := dk_193 1 156 (dk_at dksX0_numberOf_0 1 rfl rfl)
theorem dX0_numberOf_4 : decode cX0_numberOf 4 = .ok (.ifCond .eq 12, 3) := dk_153 0 12 (dk_at dksX0_numberOf_0 4 rfl rfl)
theorem dX0_numberOf_7 : decode cX0_numberOf 7 = .ok (.aload_n 0, 1) := dk_42 (dk_at dksX0_numberOf_0 7 rfl rfl)
theorem dX0_numberOf_8 : decode cX0_numberOf 8 = .ok (.checkcast 412, 3) := dk_192 1 156 (dk_at dksX0_numberOf_0 8 rfl rfl)
theorem dX0_numberOf_11 : decode cX0_numberOf 11 = .ok (.iload_n 1, 1) := dk_27 (dk_at dksX0_numberOf_0 11 rfl rfl)
theorem dX0_numberOf_12 : decode cX0_numberOf 12 = .ok (.baload, 1) := dk_51 (dk_at dksX0_numberOf_0 12 rfl rfl)
theorem dX0_numberOf_13 : decode cX0_numberOf 13 = .ok (.goto 25, 3) := dk_167 0 25 (dk_at dksX0_numberOf_0 13 rfl rfl)
theorem dX0_numberOf_16 : decode cX0_numberOf 16 = .ok (.aload_n 0, 1) := dk_42 (dk_at dksX0_numberOf_0 16 rfl rfl)
theorem dX0_numberOf_17 : decode cX0_numberOf 17 = .ok (.instanceof 413, 3) := dk_193 1 157 (dk_at dksX0_numberOf_0 17 rfl rfl)
theorem dX0_numberOf_20 : decode cX0_numberOf 20 = .ok (.ifCond .eq 12, 3) := dk_153 0 12 (dk_at dksX0_numberOf_0 20 rfl rfl)
theorem dX0_numberOf_23 : decode cX0_numberOf 23 = .ok (.aload_n 0, 1) := dk_42 (dk_at dksX0_numberOf_0 23 rfl rfl)
theorem dX0_numberOf_24 : decode cX0_numberOf 24 = .ok (.checkcast 413, 3) := dk_192 1 157 (dk_at dksX0_numberOf_1 0 rfl rfl)
theorem dX0_numberOf_27 : decode cX0_numberOf 27 = .ok (.iload_n 1, 1) := dk_27 (dk_at dksX0_numberOf_1 3 rfl rfl)
theorem dX0_numberOf_28 : decode cX0_numberOf 28 = .ok (.saload, 1) := dk_53 (dk_at dksX0_numberOf_1 4 rfl rfl)
theorem dX0_numberOf_29 : decode cX0_numberOf 29 = .ok (.goto 9, 3) := dk_167 0 9 (dk_at dksX0_numberOf_1 5 rfl rfl)
theorem dX0_numberOf_32 : decode cX0_numberOf 32 = .ok (.aload_n 0, 1) := dk_42 (dk_at dksX0_numberOf_1 8 rfl rfl)
theorem dX0_numberOf_33 : decode cX0_numberOf 33 = .ok (.checkcast 414, 3) := dk_192 1 158 (dk_at dksX0_numberOf_1 9 rfl rfl)
theorem dX0_numberOf_36 : decode cX0_numberOf 36 = .ok (.iload_n 1, 1) := dk_27 (dk_at dksX0_numberOf_1 12 rfl rfl)
theorem dX0_numberOf_37 : decode cX0_numberOf 37 = .ok (.iaload, 1) := dk_46 (dk_at dksX0_numberOf_1 13 rfl rfl)
theorem dX0_numberOf_38 : decode cX0_numberOf 38 = .ok (.ireturn, 1) := dk_172 (dk_at dksX0_numberOf_1 14 rfl rfl)
abbrev cX0_judge : ByteArray := prog_1_method_74_code
def yX0_judge : MethodName := ⟨RX0, "judge", "(I)I"⟩
def dkwX0_judge_3 : List UInt8 := [167, 255, 221, 29, 172]
abbrev dktX0_judge_3 : List UInt8 := dkwX0_judge_3 ++ []
def dkwX0_judge_2 : List UInt8 := [184, 1, 164, 162, 0, 22, 44, 29, 184, 1, 176, 42, 29, 182, 1, 46, 160, 0, 9, 132, 3, 1]
abbrev dktX0_judge_2 : List UInt8 := dkwX0_judge_2 ++ dktX0_judge_3
def dkwX0_judge_1 : List UInt8 := [199, 0, 9, 42, 5, 182, 0, 204, 172, 3, 62, 29, 42, 180, 0, 73, 180, 0, 117, 162, 0, 30, 29, 44]
abbrev dktX0_judge_1 : List UInt8 := dkwX0_judge_1 ++ dktX0_judge_2
def dkwX0_judge_0 : List UInt8 := [27, 184, 1, 159, 154, 0, 9, 42, 4, 182, 0, 204, 172, 42, 180, 0, 96, 27, 50, 180, 0, 214, 77, 44]
abbrev dktX0_judge_0 : List UInt8 := dkwX0_judge_0 ++ dktX0_judge_1
theorem dksX0_judge_0 : cX0_judge.data.toList.drop 0 = dktX0_judge_0 := by decide +kernel
theorem dksX0_judge_1 : cX0_judge.data.toList.drop 24 = dktX0_judge_1 := dk_seg dksX0_judge_0 24 rfl rfl
theorem dksX0_judge_2 : cX0_judge.data.toList.drop 48 = dktX0_judge_2 := dk_seg dksX0_judge_1 24 rfl rfl
theorem dksX0_judge_3 : cX0_judge.data.toList.drop 70 = dktX0_judge_3 := dk_seg dksX0_judge_2 22 rfl rfl
theorem dX0_judge_0 : decode cX0_judge 0 = .ok (.iload_n 1, 1) := dk_27 (dk_at dksX0_judge_0 0 rfl rfl)
theorem dX0_judge_1 : decode cX0_judge 1 = .ok (.invokestatic 415, 3) := dk_184 1 159 (dk_at dksX0_judge_0 1 rfl rfl)
theorem dX0_judge_4 : decode cX0_judge 4 = .ok (.ifCond .ne 9, 3) := dk_154 0 9 (dk_at dksX0_judge_0 4 rfl rfl)
theorem dX0_judge_7 : decode cX0_judge 7 = .ok (.aload_n 0, 1) := dk_42 (dk_at dksX0_judge_0 7 rfl rfl)
theorem dX0_judge_8 : decode cX0_judge 8 = .ok (.iconst 1, 1) := dk_4 (dk_at dksX0_judge_0 8 rfl rfl)
theorem dX0_judge_9 : decode cX0_judge 9 = .ok (.invokevirtual 204, 3) := dk_182 0 204 (dk_at dksX0_judge_0 9 rfl rfl)
theorem dX0_judge_12 : decode cX0_judge 12 = .ok (.ireturn, 1) := dk_172 (dk_at dksX0_judge_0 12 rfl rfl)
theorem dX0_judge_13 : decode cX0_judge 13 = .ok (.aload_n 0, 1) := dk_42 (dk_at dksX0_judge_0 13 rfl rfl)
theorem dX0_judge_14 : decode cX0_judge 14 = .ok (.getfield 96, 3) := dk_180 0 96 (dk_at dksX0_judge_0 14 rfl rfl)
theorem dX0_judge_17 : decode cX0_judge 17 = .ok (.iload_n 1, 1) := dk_27 (dk_at dksX0_judge_0 17 rfl rfl)
theorem dX0_judge_18 : decode cX0_judge 18 = .ok (.aaload, 1) := dk_50 (dk_at dksX0_judge_0 18 rfl rfl)
theorem dX0_judge_19 : decode cX0_judge 19 = .ok (.getfield 214, 3) := dk_180 0 214 (dk_at dksX0_judge_0 19 rfl rfl)
theorem dX0_judge_22 : decode cX0_judge 22 = .ok (.astore_n 2, 1) := dk_77 (dk_at dksX0_judge_0 22 rfl rfl)
theorem dX0_judge_23 : decode cX0_judge 23 = .ok (.aload_n 2, 1) := dk_44 (dk_at dksX0_judge_0 23 rfl rfl)
theorem dX0_judge_24 : decode cX0_judge 24 = .ok (.ifnonnull 9, 3) := dk_199 0 9 (dk_at dksX0_judge_1 0 rfl rfl)
theorem dX0_judge_27 : decode cX0_judge 27 = .ok (.aload_n 0, 1) := dk_42 (dk_at dksX0_judge_1 3 rfl rfl)
theorem dX0_judge_28 : decode cX0_judge 28 = .ok (.iconst 2, 1) := dk_5 (dk_at dksX0_judge_1 4 rfl rfl)
theorem dX0_judge_29 : decode cX0_judge 29 = .ok (.invokevirtual 204, 3) := dk_182 0 204 (dk_at dksX0_judge_1 5 rfl rfl)
theorem dX0_judge_32 : decode cX0_judge 32 = .ok (.ireturn, 1) := dk_172 (dk_at dksX0_judge_1 8 rfl rfl)
theorem dX0_judge_33 : decode cX0_judge 33 = .ok (.iconst 0, 1) := dk_3 (dk_at dksX0_judge_1 9 rfl rfl)
theorem dX0_judge_34 : decode cX0_judge 34 = .ok (.istore_n 3, 1) := dk_62 (dk_at dksX0_judge_1 10 rfl rfl)
theorem dX0_judge_35 : decode cX0_judge 35 = .ok (.iload_n 3, 1) := dk_29 (dk_at dksX0_judge_1 11 rfl rfl)
theorem dX0_judge_36 : decode cX0_judge 36 = .ok (.aload_n 0, 1) := dk_42 (dk_at dksX0_judge_1 12 rfl rfl)
theorem dX0_judge_37 : decode cX0_judge 37 = .ok (.getfield 73, 3) := dk_180 0 73 (dk_at dksX0_judge_1 13 rfl rfl)
theorem dX0_judge_40 : decode cX0_judge 40 = .ok (.getfield 117, 3) := dk_180 0 117 (dk_at dksX0_judge_1 16 rfl rfl)
theorem dX0_judge_43 : decode cX0_judge 43 = .ok (.if_icmp .ge 30, 3) := dk_162 0 30 (dk_at dksX0_judge_1 19 rfl rfl)
theorem dX0_judge_46 : decode cX0_judge 46 = .ok (.iload_n 3, 1) := dk_29 (dk_at dksX0_judge_1 22 rfl rfl)
theorem dX0_judge_47 : decode cX0_judge 47 = .ok (.aload_n 2, 1) := dk_44 (dk_at dksX0_judge_1 23 rfl rfl)
theorem dX0_judge_48 : decode cX0_judge 48 = .ok (.invokestatic 420, 3) := dk_184 1 164 (dk_at dksX0_judge_2 0 rfl rfl)
theorem dX0_judge_51 : decode cX0_judge 51 = .ok (.if_icmp .ge 22, 3) := dk_162 0 22 (dk_at dksX0_judge_2 3 rfl rfl)
theorem dX0_judge_54 : decode cX0_judge 54 = .ok (.aload_n 2, 1) := dk_44 (dk_at dksX0_judge_2 6 rfl rfl)
theorem dX0_judge_55 : decode cX0_judge 55 = .ok (.iload_n 3, 1) := dk_29 (dk_at dksX0_judge_2 7 rfl rfl)
theorem dX0_judge_56 : decode cX0_judge 56 = .ok (.invokestatic 432, 3) := dk_184 1 176 (dk_at dksX0_judge_2 8 rfl rfl)
theorem dX0_judge_59 : decode cX0_judge 59 = .ok (.aload_n 0, 1) := dk_42 (dk_at dksX0_judge_2 11 rfl rfl)
theorem dX0_judge_60 : decode cX0_judge 60 = .ok (.iload_n 3, 1) := dk_29 (dk_at dksX0_judge_2 12 rfl rfl)
theorem dX0_judge_61 : decode cX0_judge 61 = .ok (.invokevirtual 302, 3) := dk_182 1 46 (dk_at dksX0_judge_2 13 rfl rfl)
theorem dX0_judge_64 : decode cX0_judge 64 = .ok (.if_icmp .ne 9, 3) := dk_160 0 9 (dk_at dksX0_judge_2 16 rfl rfl)
theorem dX0_judge_67 : decode cX0_judge 67 = .ok (.iinc 3 1, 3) := dk_132 3 1 (dk_at dksX0_judge_2 19 rfl rfl)
theorem dX0_judge_70 : decode cX0_judge 70 = .ok (.goto (-35), 3) := dk_167 255 221 (dk_at dksX0_judge_3 0 rfl rfl)
theorem dX0_judge_73 : decode cX0_judge 73 = .ok (.iload_n 3, 1) := dk_29 (dk_at dksX0_judge_3 3 rfl rfl)
theorem dX0_judge_74 : decode cX0_judge 74 = .ok (.ireturn, 1) := dk_172 (dk_at dksX0_judge_3 4 rfl rfl)
abbrev cX0_image : ByteArray := prog_1_method_75_code
def yX0_image : MethodName := ⟨RX0, "image", "()I"⟩
def dkwX0_image_1 : List UInt8 := [180, 1, 180, 172]
abbrev dktX0_image_1 : List UInt8 := dkwX0_image_1 ++ []
def dkwX0_image_0 : List UInt8 := [42, 180, 0, 80, 42, 180, 0, 73, 182, 1, 120, 42, 89, 180, 1, 180, 4, 96, 181, 1, 180, 42]
abbrev dktX0_image_0 : List UInt8 := dkwX0_image_0 ++ dktX0_image_1
theorem dksX0_image_0 : cX0_image.data.toList.drop 0 = dktX0_image_0 := by decide +kernel
theorem dksX0_image_1 : cX0_image.data.toList.drop 22 = dktX0_image_1 := dk_seg dksX0_image_0 22 rfl rfl
theorem dX0_image_0 : decode cX0_image 0 = .ok (.aload_n 0, 1) := dk_42 (dk_at dksX0_image_0 0 rfl rfl)
theorem dX0_image_1 : decode cX0_image 1 = .ok (.getfield 80, 3) := dk_180 0 80 (dk_at dksX0_image_0 1 rfl rfl)
theorem dX0_image_4 : decode cX0_image 4 = .ok (.aload_n 0, 1) := dk_42 (dk_at dksX0_image_0 4 rfl rfl)
theorem dX0_image_5 : decode cX0_image 5 = .ok (.getfield 73, 3) := dk_180 0 73 (dk_at dksX0_image_0 5 rfl rfl)
theorem dX0_image_8 : decode cX0_image 8 = .ok (.invokevirtual 376, 3) := dk_182 1 120 (dk_at dksX0_image_0 8 rfl rfl)
theorem dX0_image_11 : decode cX0_image 11 = .ok (.aload_n 0, 1) := dk_42 (dk_at dksX0_image_0 11 rfl rfl)
theorem dX0_image_12 : decode cX0_image 12 = .ok (.dup, 1) := dk_89 (dk_at dksX0_image_0 12 rfl rfl)
theorem dX0_image_13 : decode cX0_image 13 = .ok (.getfield 436, 3) := dk_180 1 180 (dk_at dksX0_image_0 13 rfl rfl)
theorem dX0_image_16 : decode cX0_image 16 = .ok (.iconst 1, 1) := dk_4 (dk_at dksX0_image_0 16 rfl rfl)
theorem dX0_image_17 : decode cX0_image 17 = .ok (.iadd, 1) := dk_96 (dk_at dksX0_image_0 17 rfl rfl)
theorem dX0_image_18 : decode cX0_image 18 = .ok (.putfield 436, 3) := dk_181 1 180 (dk_at dksX0_image_0 18 rfl rfl)
theorem dX0_image_21 : decode cX0_image 21 = .ok (.aload_n 0, 1) := dk_42 (dk_at dksX0_image_0 21 rfl rfl)
theorem dX0_image_22 : decode cX0_image 22 = .ok (.getfield 436, 3) := dk_180 1 180 (dk_at dksX0_image_1 0 rfl rfl)
theorem dX0_image_25 : decode cX0_image 25 = .ok (.ireturn, 1) := dk_172 (dk_at dksX0_image_1 3 rfl rfl)
abbrev cX0_restore : ByteArray := prog_1_method_76_code
def yX0_restore : MethodName := ⟨RX0, "restore", "()I"⟩
def dkwX0_restore_1 : List UInt8 := [42, 180, 0, 73, 180, 0, 140, 172]
abbrev dktX0_restore_1 : List UInt8 := dkwX0_restore_1 ++ []
def dkwX0_restore_0 : List UInt8 := [42, 180, 1, 180, 154, 0, 9, 42, 5, 182, 0, 204, 172, 42, 180, 0, 73, 42, 180, 0, 80, 182, 1, 120]
abbrev dktX0_restore_0 : List UInt8 := dkwX0_restore_0 ++ dktX0_restore_1
theorem dksX0_restore_0 : cX0_restore.data.toList.drop 0 = dktX0_restore_0 := by decide +kernel
theorem dksX0_restore_1 : cX0_restore.data.toList.drop 24 = dktX0_restore_1 := dk_seg dksX0_restore_0 24 rfl rfl
theorem dX0_restore_0 : decode cX0_restore 0 = .ok (.aload_n 0, 1) := dk_42 (dk_at dksX0_restore_0 0 rfl rfl)
theorem dX0_restore_1 : decode cX0_restore 1 = .ok (.getfield 436, 3) := dk_180 1 180 (dk_at dksX0_restore_0 1 rfl rfl)
theorem dX0_restore_4 : decode cX0_restore 4 = .ok (.ifCond .ne 9, 3) := dk_154 0 9 (dk_at dksX0_restore_0 4 rfl rfl)
theorem dX0_restore_7 : decode cX0_restore 7 = .ok (.aload_n 0, 1) := dk_42 (dk_at dksX0_restore_0 7 rfl rfl)
theorem dX0_restore_8 : decode cX0_restore 8 = .ok (.iconst 2, 1) := dk_5 (dk_at dksX0_restore_0 8 rfl rfl)
theorem dX0_restore_9 : decode cX0_restore 9 = .ok (.invokevirtual 204, 3) := dk_182 0 204 (dk_at dksX0_restore_0 9 rfl rfl)
theorem dX0_restore_12 : decode cX0_restore 12 = .ok (.ireturn, 1) := dk_172 (dk_at dksX0_restore_0 12 rfl rfl)
theorem dX0_restore_13 : decode cX0_restore 13 = .ok (.aload_n 0, 1) := dk_42 (dk_at dksX0_restore_0 13 rfl rfl)
theorem dX0_restore_14 : decode cX0_restore 14 = .ok (.getfield 73, 3) := dk_180 0 73 (dk_at dksX0_restore_0 14 rfl rfl)
theorem dX0_restore_17 : decode cX0_restore 17 = .ok (.aload_n 0, 1) := dk_42 (dk_at dksX0_restore_0 17 rfl rfl)
theorem dX0_restore_18 : decode cX0_restore 18 = .ok (.getfield 80, 3) := dk_180 0 80 (dk_at dksX0_restore_0 18 rfl rfl)
theorem dX0_restore_21 : decode cX0_restore 21 = .ok (.invokevirtual 376, 3) := dk_182 1 120 (dk_at dksX0_restore_0 21 rfl rfl)
theorem dX0_restore_24 : decode cX0_restore 24 = .ok (.aload_n 0, 1) := dk_42 (dk_at dksX0_restore_1 0 rfl rfl)
theorem dX0_restore_25 : decode cX0_restore 25 = .ok (.getfield 73, 3) := dk_180 0 73 (dk_at dksX0_restore_1 1 rfl rfl)
theorem dX0_restore_28 : decode cX0_restore 28 = .ok (.getfield 140, 3) := dk_180 0 140 (dk_at dksX0_restore_1 4 rfl rfl)
theorem dX0_restore_31 : decode cX0_restore 31 = .ok (.ireturn, 1) := dk_172 (dk_at dksX0_restore_1 7 rfl rfl)
abbrev cX0_tell : ByteArray := prog_1_method_77_code
def yX0_tell : MethodName := ⟨RX0, "tell", "(I)I"⟩
def dkwX0_tell_2 : List UInt8 := [181, 1, 183, 42, 180, 0, 73, 180, 1, 183, 172]
abbrev dktX0_tell_2 : List UInt8 := dkwX0_tell_2 ++ []
def dkwX0_tell_1 : List UInt8 := [180, 1, 186, 42, 180, 0, 73, 180, 1, 183, 27, 79, 42, 180, 0, 73, 89, 180, 1, 183, 4, 96]
abbrev dktX0_tell_1 : List UInt8 := dkwX0_tell_1 ++ dktX0_tell_2
def dkwX0_tell_0 : List UInt8 := [42, 180, 0, 73, 180, 1, 183, 16, 24, 160, 0, 9, 42, 7, 182, 0, 204, 172, 42, 180, 0, 73]
abbrev dktX0_tell_0 : List UInt8 := dkwX0_tell_0 ++ dktX0_tell_1
theorem dksX0_tell_0 : cX0_tell.data.toList.drop 0 = dktX0_tell_0 := by decide +kernel
theorem dksX0_tell_1 : cX0_tell.data.toList.drop 22 = dktX0_tell_1 := dk_seg dksX0_tell_0 22 rfl rfl
theorem dksX0_tell_2 : cX0_tell.data.toList.drop 44 = dktX0_tell_2 := dk_seg dksX0_tell_1 22 rfl rfl
theorem dX0_tell_0 : decode cX0_tell 0 = .ok (.aload_n 0, 1) := dk_42 (dk_at dksX0_tell_0 0 rfl rfl)
theorem dX0_tell_1 : decode cX0_tell 1 = .ok (.getfield 73, 3) := dk_180 0 73 (dk_at dksX0_tell_0 1 rfl rfl)
theorem dX0_tell_4 : decode cX0_tell 4 = .ok (.getfield 439, 3) := dk_180 1 183 (dk_at dksX0_tell_0 4 rfl rfl)
theorem dX0_tell_7 : decode cX0_tell 7 = .ok (.bipush 24, 2) := dk_16 24 (dk_at dksX0_tell_0 7 rfl rfl)
theorem dX0_tell_9 : decode cX0_tell 9 = .ok (.if_icmp .ne 9, 3) := dk_160 0 9 (dk_at dksX0_tell_0 9 rfl rfl)
theorem dX0_tell_12 : decode cX0_tell 12 = .ok (.aload_n 0, 1) := dk_42 (dk_at dksX0_tell_0 12 rfl rfl)
theorem dX0_tell_13 : decode cX0_tell 13 = .ok (.iconst 4, 1) := dk_7 (dk_at dksX0_tell_0 13 rfl rfl)
theorem dX0_tell_14 : decode cX0_tell 14 = .ok (.invokevirtual 204, 3) := dk_182 0 204 (dk_at dksX0_tell_0 14 rfl rfl)
theorem dX0_tell_17 : decode cX0_tell 17 = .ok (.ireturn, 1) := dk_172 (dk_at dksX0_tell_0 17 rfl rfl)
theorem dX0_tell_18 : decode cX0_tell 18 = .ok (.aload_n 0, 1) := dk_42 (dk_at dksX0_tell_0 18 rfl rfl)
theorem dX0_tell_19 : decode cX0_tell 19 = .ok (.getfield 73, 3) := dk_180 0 73 (dk_at dksX0_tell_0 19 rfl rfl)
theorem dX0_tell_22 : decode cX0_tell 22 = .ok (.getfield 442, 3) := dk_180 1 186 (dk_at dksX0_tell_1 0 rfl rfl)
theorem dX0_tell_25 : decode cX0_tell 25 = .ok (.aload_n 0, 1) := dk_42 (dk_at dksX0_tell_1 3 rfl rfl)
theorem dX0_tell_26 : decode cX0_tell 26 = .ok (.getfield 73, 3) := dk_180 0 73 (dk_at dksX0_tell_1 4 rfl rfl)
theorem dX0_tell_29 : decode cX0_tell 29 = .ok (.getfield 439, 3) := dk_180 1 183 (dk_at dksX0_tell_1 7 rfl rfl)
theorem dX0_tell_32 : decode cX0_tell 32 = .ok (.iload_n 1, 1) := dk_27 (dk_at dksX0_tell_1 10 rfl rfl)
theorem dX0_tell_33 : decode cX0_tell 33 = .ok (.iastore, 1) := dk_79 (dk_at dksX0_tell_1 11 rfl rfl)
theorem dX0_tell_34 : decode cX0_tell 34 = .ok (.aload_n 0, 1) := dk_42 (dk_at dksX0_tell_1 12 rfl rfl)
theorem dX0_tell_35 : decode cX0_tell 35 = .ok (.getfield 73, 3) := dk_180 0 73 (dk_at dksX0_tell_1 13 rfl rfl)
theorem dX0_tell_38 : decode cX0_tell 38 = .ok (.dup, 1) := dk_89 (dk_at dksX0_tell_1 16 rfl rfl)
theorem dX0_tell_39 : decode cX0_tell 39 = .ok (.getfield 439, 3) := dk_180 1 183 (dk_at dksX0_tell_1 17 rfl rfl)
theorem dX0_tell_42 : decode cX0_tell 42 = .ok (.iconst 1, 1) := dk_4 (dk_at dksX0_tell_1 20 rfl rfl)
theorem dX0_tell_43 : decode cX0_tell 43 = .ok (.iadd, 1) := dk_96 (dk_at dksX0_tell_1 21 rfl rfl)
theorem dX0_tell_44 : decode cX0_tell 44 = .ok (.putfield 439, 3) := dk_181 1 183 (dk_at dksX0_tell_2 0 rfl rfl)
theorem dX0_tell_47 : decode cX0_tell 47 = .ok (.aload_n 0, 1) := dk_42 (dk_at dksX0_tell_2 3 rfl rfl)
theorem dX0_tell_48 : decode cX0_tell 48 = .ok (.getfield 73, 3) := dk_180 0 73 (dk_at dksX0_tell_2 4 rfl rfl)
theorem dX0_tell_51 : decode cX0_tell 51 = .ok (.getfield 439, 3) := dk_180 1 183 (dk_at dksX0_tell_2 7 rfl rfl)
theorem dX0_tell_54 : decode cX0_tell 54 = .ok (.ireturn, 1) := dk_172 (dk_at dksX0_tell_2 10 rfl rfl)
abbrev cX0_check : ByteArray := prog_1_method_78_code
def yX0_check : MethodName := ⟨RX0, "check", "(I)I"⟩
def dkwX0_check_4 : List UInt8 := [167, 255, 198, 29, 28, 160, 0, 7, 3, 167, 0, 6, 4, 29, 96, 172]
abbrev dktX0_check_4 : List UInt8 := dkwX0_check_4 ++ []
def dkwX0_check_3 : List UInt8 := [180, 0, 73, 180, 1, 186, 29, 46, 21, 4, 159, 0, 7, 4, 29, 96, 172, 132, 3, 1, 132, 4, 1]
abbrev dktX0_check_3 : List UInt8 := dkwX0_check_3 ++ dktX0_check_4
def dkwX0_check_2 : List UInt8 := [180, 0, 73, 180, 0, 147, 21, 4, 46, 27, 159, 0, 6, 167, 0, 29, 29, 28, 159, 0, 17, 42]
abbrev dktX0_check_2 : List UInt8 := dkwX0_check_2 ++ dktX0_check_3
def dkwX0_check_1 : List UInt8 := [42, 4, 182, 0, 204, 172, 3, 62, 3, 54, 4, 21, 4, 42, 180, 0, 73, 180, 0, 117, 162, 0, 52, 42]
abbrev dktX0_check_1 : List UInt8 := dkwX0_check_1 ++ dktX0_check_2
def dkwX0_check_0 : List UInt8 := [42, 180, 0, 73, 180, 1, 183, 61, 42, 180, 0, 73, 3, 181, 1, 183, 42, 27, 182, 0, 223, 154, 0, 9]
abbrev dktX0_check_0 : List UInt8 := dkwX0_check_0 ++ dktX0_check_1
theorem dksX0_check_0 : cX0_check.data.toList.drop 0 = dktX0_check_0 := by decide +kernel
theorem dksX0_check_1 : cX0_check.data.toList.drop 24 = dktX0_check_1 := dk_seg dksX0_check_0 24 rfl rfl
theorem dksX0_check_2 : cX0_check.data.toList.drop 48 = dktX0_check_2 := dk_seg dksX0_check_1 24 rfl rfl
theorem dksX0_check_3 : cX0_check.data.toList.drop 70 = dktX0_check_3 := dk_seg dksX0_check_2 22 rfl rfl
theorem dksX0_check_4 : cX0_check.data.toList.drop 93 = dktX0_check_4 := dk_seg dksX0_check_3 23 rfl rfl
theorem dX0_check_0 : decode cX0_check 0 = .ok (.aload_n 0, 1) := dk_42 (dk_at dksX0_check_0 0 rfl rfl)
theorem dX0_check_1 : decode cX0_check 1 = .ok (.getfield 73, 3) := dk_180 0 73 (dk_at dksX0_check_0 1 rfl rfl)
theorem dX0_check_4 : decode cX0_check 4 = .ok (.getfield 439, 3) := dk_180 1 183 (dk_at dksX0_check_0 4 rfl rfl)
theorem dX0_check_7 : decode cX0_check 7 = .ok (.istore_n 2, 1) := dk_61 (dk_at dksX0_check_0 7 rfl rfl)
theorem dX0_check_8 : decode cX0_check 8 = .ok (.aload_n 0, 1) := dk_42 (dk_at dksX0_check_0 8 rfl rfl)
theorem dX0_check_9 : decode cX0_check 9 = .ok (.getfield 73, 3) := dk_180 0 73 (dk_at dksX0_check_0 9 rfl rfl)
theorem dX0_check_12 : decode cX0_check 12 = .ok (.iconst 0, 1) := dk_3 (dk_at dksX0_check_0 12 rfl rfl)
theorem dX0_check_13 : decode cX0_check 13 = .ok (.putfield 439, 3) := dk_181 1 183 (dk_at dksX0_check_0 13 rfl rfl)
theorem dX0_check_16 : decode cX0_check 16 = .ok (.aload_n 0, 1) := dk_42 (dk_at dksX0_check_0 16 rfl rfl)
theorem dX0_check_17 : decode cX0_check 17 = .ok (.iload_n 1, 1) := dk_27 (dk_at dksX0_check_0 17 rfl rfl)
theorem dX0_check_18 : decode cX0_check 18 = .ok (.invokevirtual 223, 3) := dk_182 0 223 (dk_at dksX0_check_0 18 rfl rfl)
theorem dX0_check_21 : decode cX0_check 21 = .ok (.ifCond .ne 9, 3) := dk_154 0 9 (dk_at dksX0_check_0 21 rfl rfl)
theorem dX0_check_24 : decode cX0_check 24 = .ok (.aload_n 0, 1) := dk_42 (dk_at dksX0_check_1 0 rfl rfl)
theorem dX0_check_25 : decode cX0_check 25 = .ok (.iconst 1, 1) := dk_4 (dk_at dksX0_check_1 1 rfl rfl)
theorem dX0_check_26 : decode cX0_check 26 = .ok (.invokevirtual 204, 3) := dk_182 0 204 (dk_at dksX0_check_1 2 rfl rfl)
theorem dX0_check_29 : decode cX0_check 29 = .ok (.ireturn, 1) := dk_172 (dk_at dksX0_check_1 5 rfl rfl)
theorem dX0_check_30 : decode cX0_check 30 = .ok (.iconst 0, 1) := dk_3 (dk_at dksX0_check_1 6 rfl rfl)
theorem dX0_check_31 : decode cX0_check 31 = .ok (.istore_n 3, 1) := dk_62 (dk_at dksX0_check_1 7 rfl rfl)
theorem dX0_check_32 : decode cX0_check 32 = .ok (.iconst 0, 1) := dk_3 (dk_at dksX0_check_1 8 rfl rfl)
theorem dX0_check_33 : decode cX0_check 33 = .ok (.istore 4, 2) := dk_54 4 (dk_at dksX0_check_1 9 rfl rfl)
theorem dX0_check_35 : decode cX0_check 35 = .ok (.iload 4, 2) := dk_21 4 (dk_at dksX0_check_1 11 rfl rfl)
theorem dX0_check_37 : decode cX0_check 37 = .ok (.aload_n 0, 1) := dk_42 (dk_at dksX0_check_1 13 rfl rfl)
theorem dX0_check_38 : decode cX0_check 38 = .ok (.getfield 73, 3) := dk_180 0 73 (dk_at dksX0_check_1 14 rfl rfl)
theorem dX0_check_41 : decode cX0_check 41 = .ok (.getfield 117, 3) := dk_180 0 117 (dk_at dksX0_check_1 17 rfl rfl)
theorem dX0_check_44 : decode cX0_check 44 = .ok (.if_icmp .ge 52, 3) := dk_162 0 52 (dk_at dksX0_check_1 20 rfl rfl)
theorem dX0_check_47 : decode cX0_check 47 = .ok (.aload_n 0, 1) := dk_42 (dk_at dksX0_check_1 23 rfl rfl)
theorem dX0_check_48 : decode cX0_check 48 = .ok (.getfield 73, 3) := dk_180 0 73 (dk_at dksX0_check_2 0 rfl rfl)
theorem dX0_check_51 : decode cX0_check 51 = .ok (.getfield 147, 3) := dk_180 0 147 (dk_at dksX0_check_2 3 rfl rfl)
theorem dX0_check_54 : decode cX0_check 54 = .ok (.iload 4, 2) := dk_21 4 (dk_at dksX0_check_2 6 rfl rfl)
theorem dX0_check_56 : decode cX0_check 56 = .ok (.iaload, 1) := dk_46 (dk_at dksX0_check_2 8 rfl rfl)
theorem dX0_check_57 : decode cX0_check 57 = .ok (.iload_n 1, 1) := dk_27 (dk_at dksX0_check_2 9 rfl rfl)
theorem dX0_check_58 : decode cX0_check 58 = .ok (.if_icmp .eq 6, 3) := dk_159 0 6 (dk_at dksX0_check_2 10 rfl rfl)
theorem dX0_check_61 : decode cX0_check 61 = .ok (.goto 29, 3) := dk_167 0 29 (dk_at dksX0_check_2 13 rfl rfl)
theorem dX0_check_64 : decode cX0_check 64 = .ok (.iload_n 3, 1) := dk_29 (dk_at dksX0_check_2 16 rfl rfl)
theorem dX0_check_65 : decode cX0_check 65 = .ok (.iload_n 2, 1) := dk_28 (dk_at dksX0_check_2 17 rfl rfl)
theorem dX0_check_66 : decode cX0_check 66 = .ok (.if_icmp .eq 17, 3) := dk_159 0 17 (dk_at dksX0_check_2 18 rfl rfl)
theorem dX0_check_69 : decode cX0_check 69 = .ok (.aload_n 0, 1) := dk_42 (dk_at dksX0_check_2 21 rfl rfl)
theorem dX0_check_70 : decode cX0_check 70 = .ok (.getfield 73, 3) := dk_180 0 73 (dk_at dksX0_check_3 0 rfl rfl)
theorem dX0_check_73 : decode cX0_check 73 = .ok (.getfield 442, 3) := dk_180 1 186 (dk_at dksX0_check_3 3 rfl rfl)
theorem dX0_check_76 : decode cX0_check 76 = .ok (.iload_n 3, 1) := dk_29 (dk_at dksX0_check_3 6 rfl rfl)
theorem dX0_check_77 : decode cX0_check 77 = .ok (.iaload, 1) := dk_46 (dk_at dksX0_check_3 7 rfl rfl)
theorem dX0_check_78 : decode cX0_check 78 = .ok (.iload 4, 2) := dk_21 4 (dk_at dksX0_check_3 8 rfl rfl)
theorem dX0_check_80 : decode cX0_check 80 = .ok (.if_icmp .eq 7, 3) := dk_159 0 7 (dk_at dksX0_check_3 10 rfl rfl)
theorem dX0_check_83 : decode cX0_check 83 = .ok (.iconst 1, 1) := dk_4 (dk_at dksX0_check_3 13 rfl rfl)
theorem dX0_check_84 : decode cX0_check 84 = .ok (.iload_n 3, 1) := dk_29 (dk_at dksX0_check_3 14 rfl rfl)
theorem dX0_check_85 : decode cX0_check 85 = .ok (.iadd, 1) := dk_96 (dk_at dksX0_check_3 15 rfl rfl)
theorem dX0_check_86 : decode cX0_check 86 = .ok (.ireturn, 1) := dk_172 (dk_at dksX0_check_3 16 rfl rfl)
theorem dX0_check_87 : decode cX0_check 87 = .ok (.iinc 3 1, 3) := dk_132 3 1 (dk_at dksX0_check_3 17 rfl rfl)
theorem dX0_check_90 : decode cX0_check 90 = .ok (.iinc 4 1, 3) := dk_132 4 1 (dk_at dksX0_check_3 20 rfl rfl)
theorem dX0_check_93 : decode cX0_check 93 = .ok (.goto (-58), 3) := dk_167 255 198 (dk_at dksX0_check_4 0 rfl rfl)
theorem dX0_check_96 : decode cX0_check 96 = .ok (.iload_n 3, 1) := dk_29 (dk_at dksX0_check_4 3 rfl rfl)
theorem dX0_check_97 : decode cX0_check 97 = .ok (.iload_n 2, 1) := dk_28 (dk_at dksX0_check_4 4 rfl rfl)
theorem dX0_check_98 : decode cX0_check 98 = .ok (.if_icmp .ne 7, 3) := dk_160 0 7 (dk_at dksX0_check_4 5 rfl rfl)
theorem dX0_check_101 : decode cX0_check 101 = .ok (.iconst 0, 1) := dk_3 (dk_at dksX0_check_4 8 rfl rfl)
theorem dX0_check_102 : decode cX0_check 102 = .ok (.goto 6, 3) := dk_167 0 6 (dk_at dksX0_check_4 9 rfl rfl)
theorem dX0_check_105 : decode cX0_check 105 = .ok (.iconst 1, 1) := dk_4 (dk_at dksX0_check_4 12 rfl rfl)
theorem dX0_check_106 : decode cX0_check 106 = .ok (.iload_n 3, 1) := dk_29 (dk_at dksX0_check_4 13 rfl rfl)
theorem dX0_check_107 : decode cX0_check 107 = .ok (.iadd, 1) := dk_96 (dk_at dksX0_check_4 14 rfl rfl)
theorem dX0_check_108 : decode cX0_check 108 = .ok (.ireturn, 1) := dk_172 (dk_at dksX0_check_4 15 rfl rfl)
abbrev cX0_count : ByteArray := prog_1_method_79_code
def yX0_count : MethodName := ⟨RX0, "count", "(I)I"⟩
def dkwX0_count_4 : List UInt8 := [42, 180, 0, 86, 180, 1, 138, 172, 42, 180, 0, 73, 180, 1, 79, 172, 42, 4, 182, 0, 204, 172]
abbrev dktX0_count_4 : List UInt8 := dkwX0_count_4 ++ []
def dkwX0_count_3 : List UInt8 := [42, 180, 0, 73, 180, 0, 140, 172, 42, 180, 0, 73, 180, 1, 19, 172, 42, 180, 0, 73, 180, 1, 183, 172]
abbrev dktX0_count_3 : List UInt8 := dkwX0_count_3 ++ dktX0_count_4
def dkwX0_count_2 : List UInt8 := [42, 180, 0, 73, 180, 0, 110, 172, 42, 180, 0, 73, 180, 0, 117, 172, 42, 180, 0, 73, 180, 0, 120, 172]
abbrev dktX0_count_2 : List UInt8 := dkwX0_count_2 ++ dktX0_count_3
def dkwX0_count_1 : List UInt8 := [170, 0, 0, 0, 0, 0, 111, 0, 0, 0, 0, 0, 0, 0, 7, 0, 0, 0, 47, 0, 0, 0, 55, 0, 0, 0, 63, 0, 0, 0, 71, 0, 0, 0, 79, 0, 0, 0, 87, 0, 0, 0, 95, 0, 0, 0, 103]
abbrev dktX0_count_1 : List UInt8 := dkwX0_count_1 ++ dktX0_count_2
def dkwX0_count_0 : List UInt8 := [27]
abbrev dktX0_count_0 : List UInt8 := dkwX0_count_0 ++ dktX0_count_1
theorem dksX0_count_0 : cX0_count.data.toList.drop 0 = dktX0_count_0 := by decide +kernel
theorem dksX0_count_1 : cX0_count.data.toList.drop 1 = dktX0_count_1 := dk_seg dksX0_count_0 1 rfl rfl
theorem dksX0_count_2 : cX0_count.data.toList.drop 48 = dktX0_count_2 := dk_seg dksX0_count_1 47 rfl rfl
theorem dksX0_count_3 : cX0_count.data.toList.drop 72 = dktX0_count_3 := dk_seg dksX0_count_2 24 rfl rfl
theorem dksX0_count_4 : cX0_count.data.toList.drop 96 = dktX0_count_4 := dk_seg dksX0_count_3 24 rfl rfl
theorem dX0_count_0 : decode cX0_count 0 = .ok (.iload_n 1, 1) := dk_27 (dk_at dksX0_count_0 0 rfl rfl)
theorem dX0_count_1 : decode cX0_count 1 = .ok (.tableswitch 111 0 7 #[47, 55, 63, 71, 79, 87, 95, 103], 47) := by decide +kernel
theorem dX0_count_48 : decode cX0_count 48 = .ok (.aload_n 0, 1) := dk_42 (dk_at dksX0_count_2 0 rfl rfl)
theorem dX0_count_49 : decode cX0_count 49 = .ok (.getfield 73, 3) := dk_180 0 73 (dk_at dksX0_count_2 1 rfl rfl)
theorem dX0_count_52 : decode cX0_count 52 = .ok (.getfield 110, 3) := dk_180 0 110 (dk_at dksX0_count_2 4 rfl rfl)
theorem dX0_count_55 : decode cX0_count 55 = .ok (.ireturn, 1) := dk_172 (dk_at dksX0_count_2 7 rfl rfl)
theorem dX0_count_56 : decode cX0_count 56 = .ok (.aload_n 0, 1) := dk_42 (dk_at dksX0_count_2 8 rfl rfl)
theorem dX0_count_57 : decode cX0_count 57 = .ok (.getfield 73, 3) := dk_180 0 73 (dk_at dksX0_count_2 9 rfl rfl)
theorem dX0_count_60 : decode cX0_count 60 = .ok (.getfield 117, 3) := dk_180 0 117 (dk_at dksX0_count_2 12 rfl rfl)
theorem dX0_count_63 : decode cX0_count 63 = .ok (.ireturn, 1) := dk_172 (dk_at dksX0_count_2 15 rfl rfl)
theorem dX0_count_64 : decode cX0_count 64 = .ok (.aload_n 0, 1) := dk_42 (dk_at dksX0_count_2 16 rfl rfl)
theorem dX0_count_65 : decode cX0_count 65 = .ok (.getfield 73, 3) := dk_180 0 73 (dk_at dksX0_count_2 17 rfl rfl)
theorem dX0_count_68 : decode cX0_count 68 = .ok (.getfield 120, 3) := dk_180 0 120 (dk_at dksX0_count_2 20 rfl rfl)
theorem dX0_count_71 : decode cX0_count 71 = .ok (.ireturn, 1) := dk_172 (dk_at dksX0_count_2 23 rfl rfl)
theorem dX0_count_72 : decode cX0_count 72 = .ok (.aload_n 0, 1) := dk_42 (dk_at dksX0_count_3 0 rfl rfl)
theorem dX0_count_73 : decode cX0_count 73 = .ok (.getfield 73, 3) := dk_180 0 73 (dk_at dksX0_count_3 1 rfl rfl)
theorem dX0_count_76 : decode cX0_count 76 = .ok (.getfield 140, 3) := dk_180 0 140 (dk_at dksX0_count_3 4 rfl rfl)
theorem dX0_count_79 : decode cX0_count 79 = .ok (.ireturn, 1) := dk_172 (dk_at dksX0_count_3 7 rfl rfl)
theorem dX0_count_80 : decode cX0_count 80 = .ok (.aload_n 0, 1) := dk_42 (dk_at dksX0_count_3 8 rfl rfl)
theorem dX0_count_81 : decode cX0_count 81 = .ok (.getfield 73, 3) := dk_180 0 73 (dk_at dksX0_count_3 9 rfl rfl)
theorem dX0_count_84 : decode cX0_count 84 = .ok (.getfield 275, 3) := dk_180 1 19 (dk_at dksX0_count_3 12 rfl rfl)
theorem dX0_count_87 : decode cX0_count 87 = .ok (.ireturn, 1) := dk_172 (dk_at dksX0_count_3 15 rfl rfl)
theorem dX0_count_88 : decode cX0_count 88 = .ok (.aload_n 0, 1) := dk_42 (dk_at dksX0_count_3 16 rfl rfl)
theorem dX0_count_89 : decode cX0_count 89 = .ok (.getfield 73, 3) := dk_180 0 73 (dk_at dksX0_count_3 17 rfl rfl)
theorem dX0_count_92 : decode cX0_count 92 = .ok (.getfield 439, 3) := dk_180 1 183 (dk_at dksX0_count_3 20 rfl rfl)
theorem dX0_count_95 : decode cX0_count 95 = .ok (.ireturn, 1) := dk_172 (dk_at dksX0_count_3 23 rfl rfl)
theorem dX0_count_96 : decode cX0_count 96 = .ok (.aload_n 0, 1) := dk_42 (dk_at dksX0_count_4 0 rfl rfl)
theorem dX0_count_97 : decode cX0_count 97 = .ok (.getfield 86, 3) := dk_180 0 86 (dk_at dksX0_count_4 1 rfl rfl)
theorem dX0_count_100 : decode cX0_count 100 = .ok (.getfield 394, 3) := dk_180 1 138 (dk_at dksX0_count_4 4 rfl rfl)
theorem dX0_count_103 : decode cX0_count 103 = .ok (.ireturn, 1) := dk_172 (dk_at dksX0_count_4 7 rfl rfl)
theorem dX0_count_104 : decode cX0_count 104 = .ok (.aload_n 0, 1) := dk_42 (dk_at dksX0_count_4 8 rfl rfl)
theorem dX0_count_105 : decode cX0_count 105 = .ok (.getfield 73, 3) := dk_180 0 73 (dk_at dksX0_count_4 9 rfl rfl)
theorem dX0_count_108 : decode cX0_count 108 = .ok (.getfield 335, 3) := dk_180 1 79 (dk_at dksX0_count_4 12 rfl rfl)
theorem dX0_count_111 : decode cX0_count 111 = .ok (.ireturn, 1) := dk_172 (dk_at dksX0_count_4 15 rfl rfl)
theorem dX0_count_112 : decode cX0_count 112 = .ok (.aload_n 0, 1) := dk_42 (dk_at dksX0_count_4 16 rfl rfl)
theorem dX0_count_113 : decode cX0_count 113 = .ok (.iconst 1, 1) := dk_4 (dk_at dksX0_count_4 17 rfl rfl)
theorem dX0_count_114 : decode cX0_count 114 = .ok (.invokevirtual 204, 3) := dk_182 0 204 (dk_at dksX0_count_4 18 rfl rfl)
theorem dX0_count_117 : decode cX0_count 117 = .ok (.ireturn, 1) := dk_172 (dk_at dksX0_count_4 21 rfl rfl)
abbrev cX0_told : ByteArray := prog_1_method_80_code
def yX0_told : MethodName := ⟨RX0, "told", "(I)I"⟩
def dkwX0_told_1 : List UInt8 := [172]
abbrev dktX0_told_1 : List UInt8 := dkwX0_told_1 ++ []
def dkwX0_told_0 : List UInt8 := [27, 4, 16, 6, 184, 0, 113, 153, 0, 12, 42, 180, 0, 90, 27, 46, 167, 0, 8, 42, 4, 182, 0, 204]
abbrev dktX0_told_0 : List UInt8 := dkwX0_told_0 ++ dktX0_told_1
theorem dksX0_told_0 : cX0_told.data.toList.drop 0 = dktX0_told_0 := by decide +kernel
theorem dksX0_told_1 : cX0_told.data.toList.drop 24 = dktX0_told_1 := dk_seg dksX0_told_0 24 rfl rfl
theorem dX0_told_0 : decode cX0_told 0 = .ok (.iload_n 1, 1) := dk_27 (dk_at dksX0_told_0 0 rfl rfl)
theorem dX0_told_1 : decode cX0_told 1 = .ok (.iconst 1, 1) := dk_4 (dk_at dksX0_told_0 1 rfl rfl)
theorem dX0_told_2 : decode cX0_told 2 = .ok (.bipush 6, 2) := dk_16 6 (dk_at dksX0_told_0 2 rfl rfl)
theorem dX0_told_4 : decode cX0_told 4 = .ok (.invokestatic 113, 3) := dk_184 0 113 (dk_at dksX0_told_0 4 rfl rfl)
theorem dX0_told_7 : decode cX0_told 7 = .ok (.ifCond .eq 12, 3) := dk_153 0 12 (dk_at dksX0_told_0 7 rfl rfl)
theorem dX0_told_10 : decode cX0_told 10 = .ok (.aload_n 0, 1) := dk_42 (dk_at dksX0_told_0 10 rfl rfl)
theorem dX0_told_11 : decode cX0_told 11 = .ok (.getfield 90, 3) := dk_180 0 90 (dk_at dksX0_told_0 11 rfl rfl)
theorem dX0_told_14 : decode cX0_told 14 = .ok (.iload_n 1, 1) := dk_27 (dk_at dksX0_told_0 14 rfl rfl)
theorem dX0_told_15 : decode cX0_told 15 = .ok (.iaload, 1) := dk_46 (dk_at dksX0_told_0 15 rfl rfl)
theorem dX0_told_16 : decode cX0_told 16 = .ok (.goto 8, 3) := dk_167 0 8 (dk_at dksX0_told_0 16 rfl rfl)
theorem dX0_told_19 : decode cX0_told 19 = .ok (.aload_n 0, 1) := dk_42 (dk_at dksX0_told_0 19 rfl rfl)
theorem dX0_told_20 : decode cX0_told 20 = .ok (.iconst 1, 1) := dk_4 (dk_at dksX0_told_0 20 rfl rfl)
theorem dX0_told_21 : decode cX0_told 21 = .ok (.invokevirtual 204, 3) := dk_182 0 204 (dk_at dksX0_told_0 21 rfl rfl)
theorem dX0_told_24 : decode cX0_told 24 = .ok (.ireturn, 1) := dk_172 (dk_at dksX0_told_1 0 rfl rfl)
theorem q90 : (Jvm.Cond.initialized "NamedPrices") ∈ lw_all := lw_g (lw_at lw_m1 1 rfl) rfl
theorem q121 : (Jvm.Cond.instantiable "NamedPrices" (14 : Nat)) ∈ lw_all := lw_g (lw_at lw_m1 32 rfl) rfl
theorem q123 : (Jvm.Cond.instanceMethod ({ cls := "NamedPrices", name := "<init>", desc := "()V" } : Jvm.MethodName)) ∈ lw_all := lw_g (lw_at lw_m1 34 rfl) rfl
theorem q124 : (Jvm.Cond.code ({ cls := "NamedPrices", name := "<init>", desc := "()V" } : Jvm.MethodName) prog_1_method_8_code (1 : Nat) (Option.none : Option Jvm.ClassFile.FieldType)) ∈ lw_all := lw_g (lw_at lw_m1 35 rfl) rfl
theorem q125 : (Jvm.Cond.methodLink "NamedPrices" (65 : Nat) ({ cls := "java/lang/Object", name := "<init>", desc := "()V" } : Jvm.MethodName)) ∈ lw_all := lw_g (lw_at lw_m1 36 rfl) rfl
theorem q128 : (Jvm.Cond.classLink "NamedPrices" (70 : Nat) "NamedPrices$House") ∈ lw_all := lw_g (lw_at lw_m1 39 rfl) rfl
theorem q130 : (Jvm.Cond.methodLink "NamedPrices" (72 : Nat) ({ cls := "NamedPrices$House", name := "<init>", desc := "()V" } : Jvm.MethodName)) ∈ lw_all := lw_g (lw_at lw_m1 41 rfl) rfl
theorem q144 : (Jvm.Cond.fieldLinkNest "NamedPrices" (214 : Nat) "NamedPrices$Slot" "held" "Ljava/lang/Object;" "NamedPrices") ∈ lw_tbl := lw_at lw_m1 55 rfl
theorem q152 : (Jvm.Cond.fieldLinkNest "NamedPrices" (110 : Nat) "NamedPrices$House" "people" "I" "NamedPrices") ∈ lw_tbl := lw_at lw_m1 63 rfl
theorem q154 : (Jvm.Cond.fieldLinkNest "NamedPrices" (117 : Nat) "NamedPrices$House" "things" "I" "NamedPrices") ∈ lw_tbl := lw_at lw_m1 65 rfl
theorem q156 : (Jvm.Cond.fieldLinkNest "NamedPrices" (120 : Nat) "NamedPrices$House" "pairs" "I" "NamedPrices") ∈ lw_tbl := lw_at lw_m1 67 rfl
theorem q158 : (Jvm.Cond.fieldLinkNest "NamedPrices" (365 : Nat) "NamedPrices$House" "pot" "I" "NamedPrices") ∈ lw_tbl := lw_at lw_m1 69 rfl
theorem q160 : (Jvm.Cond.fieldLinkNest "NamedPrices" (140 : Nat) "NamedPrices$House" "years" "I" "NamedPrices") ∈ lw_tbl := lw_at lw_m1 71 rfl
theorem q162 : (Jvm.Cond.fieldLinkNest "NamedPrices" (332 : Nat) "NamedPrices$House" "moves" "I" "NamedPrices") ∈ lw_tbl := lw_at lw_m1 73 rfl
theorem q164 : (Jvm.Cond.fieldLinkNest "NamedPrices" (335 : Nat) "NamedPrices$House" "z" "I" "NamedPrices") ∈ lw_tbl := lw_at lw_m1 75 rfl
theorem q166 : (Jvm.Cond.fieldLinkNest "NamedPrices" (275 : Nat) "NamedPrices$House" "taped" "I" "NamedPrices") ∈ lw_tbl := lw_at lw_m1 77 rfl
theorem q168 : (Jvm.Cond.fieldLinkNest "NamedPrices" (439 : Nat) "NamedPrices$House" "waiting" "I" "NamedPrices") ∈ lw_tbl := lw_at lw_m1 79 rfl
theorem q170 : (Jvm.Cond.fieldLinkNest "NamedPrices" (207 : Nat) "NamedPrices$House" "person" "[LNamedPrices$Slot;" "NamedPrices") ∈ lw_tbl := lw_at lw_m1 81 rfl
theorem q172 : (Jvm.Cond.fieldLinkNest "NamedPrices" (217 : Nat) "NamedPrices$House" "purse" "[I" "NamedPrices") ∈ lw_tbl := lw_at lw_m1 83 rfl
theorem q174 : (Jvm.Cond.fieldLinkNest "NamedPrices" (147 : Nat) "NamedPrices$House" "owner" "[I" "NamedPrices") ∈ lw_tbl := lw_at lw_m1 85 rfl
theorem q177 : (Jvm.Cond.fieldLinkNest "NamedPrices" (134 : Nat) "NamedPrices$House" "price" "[I" "NamedPrices") ∈ lw_tbl := lw_at lw_m1 88 rfl
theorem q179 : (Jvm.Cond.fieldLinkNest "NamedPrices" (244 : Nat) "NamedPrices$House" "sound" "[I" "NamedPrices") ∈ lw_tbl := lw_at lw_m1 90 rfl
theorem q181 : (Jvm.Cond.fieldLinkNest "NamedPrices" (247 : Nat) "NamedPrices$House" "isKept" "[Z" "NamedPrices") ∈ lw_tbl := lw_at lw_m1 92 rfl
theorem q183 : (Jvm.Cond.fieldLinkNest "NamedPrices" (220 : Nat) "NamedPrices$House" "worth" "[I" "NamedPrices") ∈ lw_tbl := lw_at lw_m1 94 rfl
theorem q185 : (Jvm.Cond.fieldLinkNest "NamedPrices" (257 : Nat) "NamedPrices$House" "pairOne" "[I" "NamedPrices") ∈ lw_tbl := lw_at lw_m1 96 rfl
theorem q187 : (Jvm.Cond.fieldLinkNest "NamedPrices" (260 : Nat) "NamedPrices$House" "pairOther" "[I" "NamedPrices") ∈ lw_tbl := lw_at lw_m1 98 rfl
theorem q189 : (Jvm.Cond.fieldLinkNest "NamedPrices" (263 : Nat) "NamedPrices$House" "bonus" "[I" "NamedPrices") ∈ lw_tbl := lw_at lw_m1 100 rfl
theorem q192 : (Jvm.Cond.fieldLinkNest "NamedPrices" (137 : Nat) "NamedPrices$House" "rule" "[I" "NamedPrices") ∈ lw_tbl := lw_at lw_m1 103 rfl
theorem q194 : (Jvm.Cond.fieldLinkNest "NamedPrices" (123 : Nat) "NamedPrices$House" "texts" "[LNamedPrices$Text;" "NamedPrices") ∈ lw_tbl := lw_at lw_m1 105 rfl
theorem q196 : (Jvm.Cond.fieldLinkNest "NamedPrices" (278 : Nat) "NamedPrices$House" "tape" "[B" "NamedPrices") ∈ lw_tbl := lw_at lw_m1 107 rfl
theorem q198 : (Jvm.Cond.fieldLinkNest "NamedPrices" (442 : Nat) "NamedPrices$House" "waits" "[I" "NamedPrices") ∈ lw_tbl := lw_at lw_m1 109 rfl
theorem q246 : (Jvm.Cond.classLink "NamedPrices" (83 : Nat) "NamedPrices$Trace") ∈ lw_all := lw_g (lw_at lw_m1 157 rfl) rfl
theorem q248 : (Jvm.Cond.methodLinkNest "NamedPrices" (85 : Nat) ({ cls := "NamedPrices$Trace", name := "<init>", desc := "()V" } : Jvm.MethodName) "NamedPrices") ∈ lw_tbl := lw_at lw_m1 159 rfl
theorem q253 : (Jvm.Cond.fieldLinkNest "NamedPrices" (409 : Nat) "NamedPrices$Trace" "bodies" "[B" "NamedPrices") ∈ lw_tbl := lw_at lw_m1 164 rfl
theorem q255 : (Jvm.Cond.fieldLinkNest "NamedPrices" (394 : Nat) "NamedPrices$Trace" "many" "I" "NamedPrices") ∈ lw_tbl := lw_at lw_m1 166 rfl
theorem q261 : (Jvm.Cond.classLink "NamedPrices" (93 : Nat) "NamedPrices$Slot") ∈ lw_all := lw_g (lw_at lw_m1 172 rfl) rfl
theorem q262 : (Jvm.Cond.methodLinkNest "NamedPrices" (95 : Nat) ({ cls := "NamedPrices$Slot", name := "<init>", desc := "()V" } : Jvm.MethodName) "NamedPrices") ∈ lw_tbl := lw_at lw_m1 173 rfl
theorem q263 : (Jvm.Cond.classLink "NamedPrices" (100 : Nat) "NamedPrices$Eyes") ∈ lw_all := lw_g (lw_at lw_m1 174 rfl) rfl
theorem q265 : (Jvm.Cond.methodLinkNest "NamedPrices" (102 : Nat) ({ cls := "NamedPrices$Eyes", name := "<init>", desc := "(LNamedPrices;)V" } : Jvm.MethodName) "NamedPrices") ∈ lw_tbl := lw_at lw_m1 176 rfl
theorem q273 : (Jvm.Cond.fieldLink "NamedPrices" (50 : Nat) "NamedPrices" "pile" "[I") ∈ lw_all := lw_g (lw_at lw_m1 184 rfl) rfl
theorem q274 : (Jvm.Cond.fieldLink "NamedPrices" (58 : Nat) "NamedPrices" "named" "[I") ∈ lw_all := lw_g (lw_at lw_m1 185 rfl) rfl
theorem q276 : (Jvm.Cond.fieldLink "NamedPrices" (73 : Nat) "NamedPrices" "house" "LNamedPrices$House;") ∈ lw_all := lw_g (lw_at lw_m1 187 rfl) rfl
theorem q277 : (Jvm.Cond.fieldLink "NamedPrices" (77 : Nat) "NamedPrices" "aside" "LNamedPrices$House;") ∈ lw_all := lw_g (lw_at lw_m1 188 rfl) rfl
theorem q278 : (Jvm.Cond.fieldLink "NamedPrices" (80 : Nat) "NamedPrices" "kept" "LNamedPrices$House;") ∈ lw_all := lw_g (lw_at lw_m1 189 rfl) rfl
theorem q279 : (Jvm.Cond.fieldLink "NamedPrices" (86 : Nat) "NamedPrices" "trace" "LNamedPrices$Trace;") ∈ lw_all := lw_g (lw_at lw_m1 190 rfl) rfl
theorem q280 : (Jvm.Cond.fieldLink "NamedPrices" (90 : Nat) "NamedPrices" "found" "[I") ∈ lw_all := lw_g (lw_at lw_m1 191 rfl) rfl
theorem q281 : (Jvm.Cond.fieldLink "NamedPrices" (96 : Nat) "NamedPrices" "sheets" "[LNamedPrices$Slot;") ∈ lw_all := lw_g (lw_at lw_m1 192 rfl) rfl
theorem q282 : (Jvm.Cond.fieldLink "NamedPrices" (105 : Nat) "NamedPrices" "eyes" "LNamedPrices$Sees;") ∈ lw_all := lw_g (lw_at lw_m1 193 rfl) rfl
theorem q283 : (Jvm.Cond.fieldLink "NamedPrices" (436 : Nat) "NamedPrices" "images" "I") ∈ lw_all := lw_g (lw_at lw_m1 194 rfl) rfl
theorem q284 : (Jvm.Cond.fieldLink "NamedPrices" (164 : Nat) "NamedPrices" "stays" "J") ∈ lw_all := lw_g (lw_at lw_m1 195 rfl) rfl
theorem q285 : (Jvm.Cond.fieldLink "NamedPrices" (168 : Nat) "NamedPrices" "all" "J") ∈ lw_all := lw_g (lw_at lw_m1 196 rfl) rfl
theorem q286 : (Jvm.Cond.fieldLink "NamedPrices" (193 : Nat) "NamedPrices" "triedPrice" "I") ∈ lw_all := lw_g (lw_at lw_m1 197 rfl) rfl
theorem q287 : (Jvm.Cond.fieldLink "NamedPrices" (190 : Nat) "NamedPrices" "triedGain" "J") ∈ lw_all := lw_g (lw_at lw_m1 198 rfl) rfl
theorem q288 : (Jvm.Cond.laysFinal "NamedPrices" "NamedPrices" "pile" "[I") ∈ lw_all := lw_g (lw_at lw_m1 199 rfl) rfl
theorem q289 : (Jvm.Cond.soleField "NamedPrices" "pile") ∈ lw_all := lw_g (lw_at lw_m1 200 rfl) rfl
theorem q290 : (Jvm.Cond.laysFinal "NamedPrices" "NamedPrices" "named" "[I") ∈ lw_all := lw_g (lw_at lw_m1 201 rfl) rfl
theorem q291 : (Jvm.Cond.soleField "NamedPrices" "named") ∈ lw_all := lw_g (lw_at lw_m1 202 rfl) rfl
theorem q292 : (Jvm.Cond.lays "NamedPrices" "NamedPrices" "house" "LNamedPrices$House;") ∈ lw_all := lw_g (lw_at lw_m1 203 rfl) rfl
theorem q293 : (Jvm.Cond.soleField "NamedPrices" "house") ∈ lw_all := lw_g (lw_at lw_m1 204 rfl) rfl
theorem q294 : (Jvm.Cond.lays "NamedPrices" "NamedPrices" "aside" "LNamedPrices$House;") ∈ lw_all := lw_g (lw_at lw_m1 205 rfl) rfl
theorem q295 : (Jvm.Cond.soleField "NamedPrices" "aside") ∈ lw_all := lw_g (lw_at lw_m1 206 rfl) rfl
theorem q296 : (Jvm.Cond.laysFinal "NamedPrices" "NamedPrices" "kept" "LNamedPrices$House;") ∈ lw_all := lw_g (lw_at lw_m1 207 rfl) rfl
theorem q297 : (Jvm.Cond.soleField "NamedPrices" "kept") ∈ lw_all := lw_g (lw_at lw_m1 208 rfl) rfl
theorem q298 : (Jvm.Cond.laysFinal "NamedPrices" "NamedPrices" "trace" "LNamedPrices$Trace;") ∈ lw_all := lw_g (lw_at lw_m1 209 rfl) rfl
theorem q299 : (Jvm.Cond.soleField "NamedPrices" "trace") ∈ lw_all := lw_g (lw_at lw_m1 210 rfl) rfl
theorem q300 : (Jvm.Cond.laysFinal "NamedPrices" "NamedPrices" "found" "[I") ∈ lw_all := lw_g (lw_at lw_m1 211 rfl) rfl
theorem q301 : (Jvm.Cond.soleField "NamedPrices" "found") ∈ lw_all := lw_g (lw_at lw_m1 212 rfl) rfl
theorem q302 : (Jvm.Cond.laysFinal "NamedPrices" "NamedPrices" "sheets" "[LNamedPrices$Slot;") ∈ lw_all := lw_g (lw_at lw_m1 213 rfl) rfl
theorem q303 : (Jvm.Cond.soleField "NamedPrices" "sheets") ∈ lw_all := lw_g (lw_at lw_m1 214 rfl) rfl
theorem q304 : (Jvm.Cond.laysFinal "NamedPrices" "NamedPrices" "eyes" "LNamedPrices$Sees;") ∈ lw_all := lw_g (lw_at lw_m1 215 rfl) rfl
theorem q305 : (Jvm.Cond.soleField "NamedPrices" "eyes") ∈ lw_all := lw_g (lw_at lw_m1 216 rfl) rfl
theorem q306 : (Jvm.Cond.lays "NamedPrices" "NamedPrices" "images" "I") ∈ lw_all := lw_g (lw_at lw_m1 217 rfl) rfl
theorem q307 : (Jvm.Cond.soleField "NamedPrices" "images") ∈ lw_all := lw_g (lw_at lw_m1 218 rfl) rfl
theorem q308 : (Jvm.Cond.lays "NamedPrices" "NamedPrices" "stays" "J") ∈ lw_all := lw_g (lw_at lw_m1 219 rfl) rfl
theorem q309 : (Jvm.Cond.soleField "NamedPrices" "stays") ∈ lw_all := lw_g (lw_at lw_m1 220 rfl) rfl
theorem q310 : (Jvm.Cond.lays "NamedPrices" "NamedPrices" "all" "J") ∈ lw_all := lw_g (lw_at lw_m1 221 rfl) rfl
theorem q311 : (Jvm.Cond.soleField "NamedPrices" "all") ∈ lw_all := lw_g (lw_at lw_m1 222 rfl) rfl
theorem q312 : (Jvm.Cond.lays "NamedPrices" "NamedPrices" "triedPrice" "I") ∈ lw_all := lw_g (lw_at lw_m1 223 rfl) rfl
theorem q313 : (Jvm.Cond.soleField "NamedPrices" "triedPrice") ∈ lw_all := lw_g (lw_at lw_m1 224 rfl) rfl
theorem q314 : (Jvm.Cond.lays "NamedPrices" "NamedPrices" "triedGain" "J") ∈ lw_all := lw_g (lw_at lw_m1 225 rfl) rfl
theorem q315 : (Jvm.Cond.soleField "NamedPrices" "triedGain") ∈ lw_all := lw_g (lw_at lw_m1 226 rfl) rfl
theorem q316 : (Jvm.Cond.superclass "NamedPrices" "java/lang/Object") ∈ lw_all := lw_g (lw_at lw_m1 227 rfl) rfl
theorem q318 : (Jvm.Cond.instanceMethod ({ cls := "NamedPrices", name := "person", desc := "(III)I" } : Jvm.MethodName)) ∈ lw_all := lw_g (lw_at lw_m1 229 rfl) rfl
theorem q319 : (Jvm.Cond.selects "NamedPrices" ({ cls := "NamedPrices", name := "person", desc := "(III)I" } : Jvm.MethodName) ({ cls := "NamedPrices", name := "person", desc := "(III)I" } : Jvm.MethodName)) ∈ lw_all := lw_g (lw_at lw_m1 230 rfl) rfl
theorem q320 : (Jvm.Cond.code ({ cls := "NamedPrices", name := "person", desc := "(III)I" } : Jvm.MethodName) prog_1_method_20_code (6 : Nat) (Option.some Jvm.ClassFile.FieldType.int)) ∈ lw_all := lw_g (lw_at lw_m1 231 rfl) rfl
theorem q321 : (Jvm.Cond.methodLink "NamedPrices" (113 : Nat) ({ cls := "NamedPrices", name := "isIn", desc := "(III)Z" } : Jvm.MethodName)) ∈ lw_all := lw_g (lw_at lw_m1 232 rfl) rfl
theorem q322 : (Jvm.Cond.static ({ cls := "NamedPrices", name := "isIn", desc := "(III)Z" } : Jvm.MethodName)) ∈ lw_all := lw_g (lw_at lw_m1 233 rfl) rfl
theorem q323 : (Jvm.Cond.code ({ cls := "NamedPrices", name := "isIn", desc := "(III)Z" } : Jvm.MethodName) prog_1_method_1_code (3 : Nat) (Option.some Jvm.ClassFile.FieldType.boolean)) ∈ lw_all := lw_g (lw_at lw_m1 234 rfl) rfl
theorem q324 : (Jvm.Cond.constant "NamedPrices" (199 : Nat) (999999 : Int32)) ∈ lw_all := lw_g (lw_at lw_m1 235 rfl) rfl
theorem q325 : (Jvm.Cond.methodLink "NamedPrices" (200 : Nat) ({ cls := "NamedPrices", name := "isPart", desc := "(I)Z" } : Jvm.MethodName)) ∈ lw_all := lw_g (lw_at lw_m1 236 rfl) rfl
theorem q326 : (Jvm.Cond.static ({ cls := "NamedPrices", name := "isPart", desc := "(I)Z" } : Jvm.MethodName)) ∈ lw_all := lw_g (lw_at lw_m1 237 rfl) rfl
theorem q327 : (Jvm.Cond.code ({ cls := "NamedPrices", name := "isPart", desc := "(I)Z" } : Jvm.MethodName) prog_1_method_19_code (1 : Nat) (Option.some Jvm.ClassFile.FieldType.boolean)) ∈ lw_all := lw_g (lw_at lw_m1 238 rfl) rfl
theorem q328 : (Jvm.Cond.methodLink "NamedPrices" (204 : Nat) ({ cls := "NamedPrices", name := "finds", desc := "(I)I" } : Jvm.MethodName)) ∈ lw_all := lw_g (lw_at lw_m1 239 rfl) rfl
theorem q329 : (Jvm.Cond.privateMethod ({ cls := "NamedPrices", name := "finds", desc := "(I)I" } : Jvm.MethodName)) ∈ lw_tbl := lw_at lw_m2 0 rfl
theorem q330 : (Jvm.Cond.instanceMethod ({ cls := "NamedPrices", name := "finds", desc := "(I)I" } : Jvm.MethodName)) ∈ lw_all := lw_g (lw_at lw_m2 1 rfl) rfl
theorem q331 : (Jvm.Cond.code ({ cls := "NamedPrices", name := "finds", desc := "(I)I" } : Jvm.MethodName) prog_1_method_9_code (2 : Nat) (Option.some Jvm.ClassFile.FieldType.int)) ∈ lw_all := lw_g (lw_at lw_m2 2 rfl) rfl
theorem q332 : (Jvm.Cond.constant "NamedPrices" (109 : Nat) (-1000000000 : Int32)) ∈ lw_all := lw_g (lw_at lw_m2 3 rfl) rfl
theorem q333 : (Jvm.Cond.methodLink "NamedPrices" (210 : Nat) ({ cls := "NamedPrices", name := "made", desc := "(IIII)LNamedPrices$Namer;" } : Jvm.MethodName)) ∈ lw_all := lw_g (lw_at lw_m2 4 rfl) rfl
theorem q334 : (Jvm.Cond.static ({ cls := "NamedPrices", name := "made", desc := "(IIII)LNamedPrices$Namer;" } : Jvm.MethodName)) ∈ lw_all := lw_g (lw_at lw_m2 5 rfl) rfl
theorem q335 : (Jvm.Cond.code ({ cls := "NamedPrices", name := "made", desc := "(IIII)LNamedPrices$Namer;" } : Jvm.MethodName) prog_1_method_3_code (4 : Nat) (Option.some (Jvm.ClassFile.FieldType.object "NamedPrices$Namer"))) ∈ lw_all := lw_g (lw_at lw_m2 6 rfl) rfl
theorem q336 : (Jvm.Cond.classLink "NamedPrices" (10 : Nat) "NamedPrices$True") ∈ lw_all := lw_g (lw_at lw_m2 7 rfl) rfl
theorem q338 : (Jvm.Cond.methodLink "NamedPrices" (12 : Nat) ({ cls := "NamedPrices$True", name := "<init>", desc := "(III)V" } : Jvm.MethodName)) ∈ lw_all := lw_g (lw_at lw_m2 9 rfl) rfl
theorem q351 : (Jvm.Cond.fieldLink "NamedPrices" (177 : Nat) "NamedPrices$Namer" "p" "I") ∈ lw_all := lw_g (lw_at lw_m2 22 rfl) rfl
theorem q353 : (Jvm.Cond.fieldLink "NamedPrices" (171 : Nat) "NamedPrices$Namer" "q" "I") ∈ lw_all := lw_g (lw_at lw_m2 24 rfl) rfl
theorem q361 : (Jvm.Cond.classLink "NamedPrices" (16 : Nat) "NamedPrices$High") ∈ lw_all := lw_g (lw_at lw_m2 32 rfl) rfl
theorem q363 : (Jvm.Cond.methodLink "NamedPrices" (18 : Nat) ({ cls := "NamedPrices$High", name := "<init>", desc := "(III)V" } : Jvm.MethodName)) ∈ lw_all := lw_g (lw_at lw_m2 34 rfl) rfl
theorem q371 : (Jvm.Cond.classLink "NamedPrices" (19 : Nat) "NamedPrices$Lower") ∈ lw_all := lw_g (lw_at lw_m2 42 rfl) rfl
theorem q373 : (Jvm.Cond.methodLink "NamedPrices" (21 : Nat) ({ cls := "NamedPrices$Lower", name := "<init>", desc := "(III)V" } : Jvm.MethodName)) ∈ lw_all := lw_g (lw_at lw_m2 44 rfl) rfl
theorem q381 : (Jvm.Cond.classLink "NamedPrices" (22 : Nat) "NamedPrices$Spite") ∈ lw_all := lw_g (lw_at lw_m2 52 rfl) rfl
theorem q383 : (Jvm.Cond.methodLink "NamedPrices" (24 : Nat) ({ cls := "NamedPrices$Spite", name := "<init>", desc := "(III)V" } : Jvm.MethodName)) ∈ lw_all := lw_g (lw_at lw_m2 54 rfl) rfl
theorem q391 : (Jvm.Cond.classLink "NamedPrices" (25 : Nat) "NamedPrices$Told") ∈ lw_all := lw_g (lw_at lw_m2 62 rfl) rfl
theorem q393 : (Jvm.Cond.methodLink "NamedPrices" (27 : Nat) ({ cls := "NamedPrices$Told", name := "<init>", desc := "(III)V" } : Jvm.MethodName)) ∈ lw_all := lw_g (lw_at lw_m2 64 rfl) rfl
theorem q401 : (Jvm.Cond.classLink "NamedPrices" (28 : Nat) "NamedPrices$Best") ∈ lw_all := lw_g (lw_at lw_m2 72 rfl) rfl
theorem q403 : (Jvm.Cond.methodLink "NamedPrices" (30 : Nat) ({ cls := "NamedPrices$Best", name := "<init>", desc := "(III)V" } : Jvm.MethodName)) ∈ lw_all := lw_g (lw_at lw_m2 74 rfl) rfl
theorem q411 : (Jvm.Cond.classLink "NamedPrices" (31 : Nat) "NamedPrices$Namer") ∈ lw_all := lw_g (lw_at lw_m2 82 rfl) rfl
theorem q413 : (Jvm.Cond.methodLink "NamedPrices" (33 : Nat) ({ cls := "NamedPrices$Namer", name := "<init>", desc := "(III)V" } : Jvm.MethodName)) ∈ lw_all := lw_g (lw_at lw_m2 84 rfl) rfl
theorem q419 : (Jvm.Cond.instanceMethod ({ cls := "NamedPrices", name := "personIs", desc := "(II)I" } : Jvm.MethodName)) ∈ lw_all := lw_g (lw_at lw_m2 90 rfl) rfl
theorem q420 : (Jvm.Cond.selects "NamedPrices" ({ cls := "NamedPrices", name := "personIs", desc := "(II)I" } : Jvm.MethodName) ({ cls := "NamedPrices", name := "personIs", desc := "(II)I" } : Jvm.MethodName)) ∈ lw_all := lw_g (lw_at lw_m2 91 rfl) rfl
theorem q421 : (Jvm.Cond.code ({ cls := "NamedPrices", name := "personIs", desc := "(II)I" } : Jvm.MethodName) prog_1_method_22_code (4 : Nat) (Option.some Jvm.ClassFile.FieldType.int)) ∈ lw_all := lw_g (lw_at lw_m2 92 rfl) rfl
theorem q422 : (Jvm.Cond.methodLink "NamedPrices" (223 : Nat) ({ cls := "NamedPrices", name := "isPerson", desc := "(I)Z" } : Jvm.MethodName)) ∈ lw_all := lw_g (lw_at lw_m2 93 rfl) rfl
theorem q423 : (Jvm.Cond.privateMethod ({ cls := "NamedPrices", name := "isPerson", desc := "(I)Z" } : Jvm.MethodName)) ∈ lw_tbl := lw_at lw_m2 94 rfl
theorem q424 : (Jvm.Cond.instanceMethod ({ cls := "NamedPrices", name := "isPerson", desc := "(I)Z" } : Jvm.MethodName)) ∈ lw_all := lw_g (lw_at lw_m2 95 rfl) rfl
theorem q425 : (Jvm.Cond.code ({ cls := "NamedPrices", name := "isPerson", desc := "(I)Z" } : Jvm.MethodName) prog_1_method_10_code (2 : Nat) (Option.some Jvm.ClassFile.FieldType.boolean)) ∈ lw_all := lw_g (lw_at lw_m2 96 rfl) rfl
theorem q426 : (Jvm.Cond.methodLink "NamedPrices" (150 : Nat) ({ cls := "NamedPrices$House", name := "at", desc := "(I)LNamedPrices$Namer;" } : Jvm.MethodName)) ∈ lw_all := lw_g (lw_at lw_m2 97 rfl) rfl
theorem q431 : (Jvm.Cond.methodLink "NamedPrices" (226 : Nat) ({ cls := "NamedPrices$Namer", name := "kind", desc := "()I" } : Jvm.MethodName)) ∈ lw_all := lw_g (lw_at lw_m2 102 rfl) rfl
theorem q460 : (Jvm.Cond.methodLink "NamedPrices" (230 : Nat) ({ cls := "NamedPrices$House", name := "many", desc := "(I)I" } : Jvm.MethodName)) ∈ lw_all := lw_g (lw_at lw_m2 131 rfl) rfl
theorem q464 : (Jvm.Cond.methodLink "NamedPrices" (232 : Nat) ({ cls := "NamedPrices$House", name := "kept", desc := "(I)I" } : Jvm.MethodName)) ∈ lw_all := lw_g (lw_at lw_m2 135 rfl) rfl
theorem q468 : (Jvm.Cond.methodLink "NamedPrices" (234 : Nat) ({ cls := "NamedPrices$House", name := "lacks", desc := "(I)I" } : Jvm.MethodName)) ∈ lw_all := lw_g (lw_at lw_m2 139 rfl) rfl
theorem q472 : (Jvm.Cond.methodLink "NamedPrices" (237 : Nat) ({ cls := "NamedPrices", name := "valuesOf", desc := "(I)I" } : Jvm.MethodName)) ∈ lw_all := lw_g (lw_at lw_m2 143 rfl) rfl
theorem q473 : (Jvm.Cond.privateMethod ({ cls := "NamedPrices", name := "valuesOf", desc := "(I)I" } : Jvm.MethodName)) ∈ lw_tbl := lw_at lw_m2 144 rfl
theorem q474 : (Jvm.Cond.instanceMethod ({ cls := "NamedPrices", name := "valuesOf", desc := "(I)I" } : Jvm.MethodName)) ∈ lw_all := lw_g (lw_at lw_m2 145 rfl) rfl
theorem q475 : (Jvm.Cond.code ({ cls := "NamedPrices", name := "valuesOf", desc := "(I)I" } : Jvm.MethodName) prog_1_method_21_code (4 : Nat) (Option.some Jvm.ClassFile.FieldType.int)) ∈ lw_all := lw_g (lw_at lw_m2 146 rfl) rfl
theorem q476 : (Jvm.Cond.methodLink "NamedPrices" (127 : Nat) ({ cls := "NamedPrices$House", name := "own", desc := "(I)I" } : Jvm.MethodName)) ∈ lw_all := lw_g (lw_at lw_m2 147 rfl) rfl
theorem q485 : (Jvm.Cond.instanceMethod ({ cls := "NamedPrices", name := "as", desc := "(II)I" } : Jvm.MethodName)) ∈ lw_all := lw_g (lw_at lw_m2 156 rfl) rfl
theorem q486 : (Jvm.Cond.selects "NamedPrices" ({ cls := "NamedPrices", name := "as", desc := "(II)I" } : Jvm.MethodName) ({ cls := "NamedPrices", name := "as", desc := "(II)I" } : Jvm.MethodName)) ∈ lw_all := lw_g (lw_at lw_m2 157 rfl) rfl
theorem q487 : (Jvm.Cond.code ({ cls := "NamedPrices", name := "as", desc := "(II)I" } : Jvm.MethodName) prog_1_method_23_code (3 : Nat) (Option.some Jvm.ClassFile.FieldType.int)) ∈ lw_all := lw_g (lw_at lw_m2 158 rfl) rfl
theorem q488 : (Jvm.Cond.methodLink "NamedPrices" (240 : Nat) ({ cls := "NamedPrices", name := "isOf", desc := "(Ljava/lang/Object;I)Z" } : Jvm.MethodName)) ∈ lw_all := lw_g (lw_at lw_m2 159 rfl) rfl
theorem q489 : (Jvm.Cond.static ({ cls := "NamedPrices", name := "isOf", desc := "(Ljava/lang/Object;I)Z" } : Jvm.MethodName)) ∈ lw_all := lw_g (lw_at lw_m2 160 rfl) rfl
theorem q490 : (Jvm.Cond.code ({ cls := "NamedPrices", name := "isOf", desc := "(Ljava/lang/Object;I)Z" } : Jvm.MethodName) prog_1_method_4_code (2 : Nat) (Option.some Jvm.ClassFile.FieldType.boolean)) ∈ lw_all := lw_g (lw_at lw_m2 161 rfl) rfl
theorem q492 : (Jvm.Cond.instanceMethod ({ cls := "NamedPrices", name := "become", desc := "(II)I" } : Jvm.MethodName)) ∈ lw_all := lw_g (lw_at lw_m2 163 rfl) rfl
theorem q493 : (Jvm.Cond.selects "NamedPrices" ({ cls := "NamedPrices", name := "become", desc := "(II)I" } : Jvm.MethodName) ({ cls := "NamedPrices", name := "become", desc := "(II)I" } : Jvm.MethodName)) ∈ lw_all := lw_g (lw_at lw_m2 164 rfl) rfl
theorem q494 : (Jvm.Cond.code ({ cls := "NamedPrices", name := "become", desc := "(II)I" } : Jvm.MethodName) prog_1_method_24_code (4 : Nat) (Option.some Jvm.ClassFile.FieldType.int)) ∈ lw_all := lw_g (lw_at lw_m2 165 rfl) rfl
theorem q496 : (Jvm.Cond.instanceMethod ({ cls := "NamedPrices", name := "purse", desc := "(II)I" } : Jvm.MethodName)) ∈ lw_all := lw_g (lw_at lw_m2 167 rfl) rfl
theorem q497 : (Jvm.Cond.selects "NamedPrices" ({ cls := "NamedPrices", name := "purse", desc := "(II)I" } : Jvm.MethodName) ({ cls := "NamedPrices", name := "purse", desc := "(II)I" } : Jvm.MethodName)) ∈ lw_all := lw_g (lw_at lw_m2 168 rfl) rfl
theorem q498 : (Jvm.Cond.code ({ cls := "NamedPrices", name := "purse", desc := "(II)I" } : Jvm.MethodName) prog_1_method_25_code (4 : Nat) (Option.some Jvm.ClassFile.FieldType.int)) ∈ lw_all := lw_g (lw_at lw_m2 169 rfl) rfl
theorem q500 : (Jvm.Cond.instanceMethod ({ cls := "NamedPrices", name := "thing", desc := "(II)I" } : Jvm.MethodName)) ∈ lw_all := lw_g (lw_at lw_m2 171 rfl) rfl
theorem q501 : (Jvm.Cond.selects "NamedPrices" ({ cls := "NamedPrices", name := "thing", desc := "(II)I" } : Jvm.MethodName) ({ cls := "NamedPrices", name := "thing", desc := "(II)I" } : Jvm.MethodName)) ∈ lw_all := lw_g (lw_at lw_m2 172 rfl) rfl
theorem q502 : (Jvm.Cond.code ({ cls := "NamedPrices", name := "thing", desc := "(II)I" } : Jvm.MethodName) prog_1_method_26_code (5 : Nat) (Option.some Jvm.ClassFile.FieldType.int)) ∈ lw_all := lw_g (lw_at lw_m2 173 rfl) rfl
theorem q504 : (Jvm.Cond.instanceMethod ({ cls := "NamedPrices", name := "thingIs", desc := "(II)I" } : Jvm.MethodName)) ∈ lw_all := lw_g (lw_at lw_m2 175 rfl) rfl
theorem q505 : (Jvm.Cond.selects "NamedPrices" ({ cls := "NamedPrices", name := "thingIs", desc := "(II)I" } : Jvm.MethodName) ({ cls := "NamedPrices", name := "thingIs", desc := "(II)I" } : Jvm.MethodName)) ∈ lw_all := lw_g (lw_at lw_m2 176 rfl) rfl
theorem q506 : (Jvm.Cond.code ({ cls := "NamedPrices", name := "thingIs", desc := "(II)I" } : Jvm.MethodName) prog_1_method_27_code (3 : Nat) (Option.some Jvm.ClassFile.FieldType.int)) ∈ lw_all := lw_g (lw_at lw_m2 177 rfl) rfl
theorem q507 : (Jvm.Cond.methodLink "NamedPrices" (251 : Nat) ({ cls := "NamedPrices", name := "isThing", desc := "(I)Z" } : Jvm.MethodName)) ∈ lw_all := lw_g (lw_at lw_m2 178 rfl) rfl
theorem q508 : (Jvm.Cond.privateMethod ({ cls := "NamedPrices", name := "isThing", desc := "(I)Z" } : Jvm.MethodName)) ∈ lw_tbl := lw_at lw_m2 179 rfl
theorem q509 : (Jvm.Cond.instanceMethod ({ cls := "NamedPrices", name := "isThing", desc := "(I)Z" } : Jvm.MethodName)) ∈ lw_all := lw_g (lw_at lw_m2 180 rfl) rfl
theorem q510 : (Jvm.Cond.code ({ cls := "NamedPrices", name := "isThing", desc := "(I)Z" } : Jvm.MethodName) prog_1_method_11_code (2 : Nat) (Option.some Jvm.ClassFile.FieldType.boolean)) ∈ lw_all := lw_g (lw_at lw_m2 181 rfl) rfl
theorem q511 : (Jvm.Cond.methodLink "NamedPrices" (254 : Nat) ({ cls := "NamedPrices$House", name := "dearest", desc := "(I)I" } : Jvm.MethodName)) ∈ lw_all := lw_g (lw_at lw_m2 182 rfl) rfl
theorem q516 : (Jvm.Cond.instanceMethod ({ cls := "NamedPrices", name := "worth", desc := "(III)I" } : Jvm.MethodName)) ∈ lw_all := lw_g (lw_at lw_m2 187 rfl) rfl
theorem q517 : (Jvm.Cond.selects "NamedPrices" ({ cls := "NamedPrices", name := "worth", desc := "(III)I" } : Jvm.MethodName) ({ cls := "NamedPrices", name := "worth", desc := "(III)I" } : Jvm.MethodName)) ∈ lw_all := lw_g (lw_at lw_m2 188 rfl) rfl
theorem q518 : (Jvm.Cond.code ({ cls := "NamedPrices", name := "worth", desc := "(III)I" } : Jvm.MethodName) prog_1_method_28_code (5 : Nat) (Option.some Jvm.ClassFile.FieldType.int)) ∈ lw_all := lw_g (lw_at lw_m2 189 rfl) rfl
theorem q520 : (Jvm.Cond.instanceMethod ({ cls := "NamedPrices", name := "price", desc := "(II)I" } : Jvm.MethodName)) ∈ lw_all := lw_g (lw_at lw_m2 191 rfl) rfl
theorem q521 : (Jvm.Cond.selects "NamedPrices" ({ cls := "NamedPrices", name := "price", desc := "(II)I" } : Jvm.MethodName) ({ cls := "NamedPrices", name := "price", desc := "(II)I" } : Jvm.MethodName)) ∈ lw_all := lw_g (lw_at lw_m2 192 rfl) rfl
theorem q522 : (Jvm.Cond.code ({ cls := "NamedPrices", name := "price", desc := "(II)I" } : Jvm.MethodName) prog_1_method_29_code (4 : Nat) (Option.some Jvm.ClassFile.FieldType.int)) ∈ lw_all := lw_g (lw_at lw_m2 193 rfl) rfl
theorem q524 : (Jvm.Cond.instanceMethod ({ cls := "NamedPrices", name := "keep", desc := "(II)I" } : Jvm.MethodName)) ∈ lw_all := lw_g (lw_at lw_m2 195 rfl) rfl
theorem q525 : (Jvm.Cond.selects "NamedPrices" ({ cls := "NamedPrices", name := "keep", desc := "(II)I" } : Jvm.MethodName) ({ cls := "NamedPrices", name := "keep", desc := "(II)I" } : Jvm.MethodName)) ∈ lw_all := lw_g (lw_at lw_m2 196 rfl) rfl
theorem q526 : (Jvm.Cond.code ({ cls := "NamedPrices", name := "keep", desc := "(II)I" } : Jvm.MethodName) prog_1_method_30_code (4 : Nat) (Option.some Jvm.ClassFile.FieldType.int)) ∈ lw_all := lw_g (lw_at lw_m2 197 rfl) rfl
theorem q528 : (Jvm.Cond.instanceMethod ({ cls := "NamedPrices", name := "pair", desc := "(III)I" } : Jvm.MethodName)) ∈ lw_all := lw_g (lw_at lw_m2 199 rfl) rfl
theorem q529 : (Jvm.Cond.selects "NamedPrices" ({ cls := "NamedPrices", name := "pair", desc := "(III)I" } : Jvm.MethodName) ({ cls := "NamedPrices", name := "pair", desc := "(III)I" } : Jvm.MethodName)) ∈ lw_all := lw_g (lw_at lw_m2 200 rfl) rfl
theorem q530 : (Jvm.Cond.code ({ cls := "NamedPrices", name := "pair", desc := "(III)I" } : Jvm.MethodName) prog_1_method_31_code (4 : Nat) (Option.some Jvm.ClassFile.FieldType.int)) ∈ lw_all := lw_g (lw_at lw_m2 201 rfl) rfl
theorem q532 : (Jvm.Cond.instanceMethod ({ cls := "NamedPrices", name := "pairIs", desc := "(II)I" } : Jvm.MethodName)) ∈ lw_all := lw_g (lw_at lw_m2 203 rfl) rfl
theorem q533 : (Jvm.Cond.selects "NamedPrices" ({ cls := "NamedPrices", name := "pairIs", desc := "(II)I" } : Jvm.MethodName) ({ cls := "NamedPrices", name := "pairIs", desc := "(II)I" } : Jvm.MethodName)) ∈ lw_all := lw_g (lw_at lw_m2 204 rfl) rfl
theorem q534 : (Jvm.Cond.code ({ cls := "NamedPrices", name := "pairIs", desc := "(II)I" } : Jvm.MethodName) prog_1_method_32_code (3 : Nat) (Option.some Jvm.ClassFile.FieldType.int)) ∈ lw_all := lw_g (lw_at lw_m2 205 rfl) rfl
theorem q535 : (Jvm.Cond.methodLink "NamedPrices" (266 : Nat) ({ cls := "NamedPrices", name := "isPair", desc := "(I)Z" } : Jvm.MethodName)) ∈ lw_all := lw_g (lw_at lw_m2 206 rfl) rfl
theorem q536 : (Jvm.Cond.privateMethod ({ cls := "NamedPrices", name := "isPair", desc := "(I)Z" } : Jvm.MethodName)) ∈ lw_tbl := lw_at lw_m2 207 rfl
theorem q537 : (Jvm.Cond.instanceMethod ({ cls := "NamedPrices", name := "isPair", desc := "(I)Z" } : Jvm.MethodName)) ∈ lw_all := lw_g (lw_at lw_m2 208 rfl) rfl
theorem q538 : (Jvm.Cond.code ({ cls := "NamedPrices", name := "isPair", desc := "(I)Z" } : Jvm.MethodName) prog_1_method_12_code (2 : Nat) (Option.some Jvm.ClassFile.FieldType.boolean)) ∈ lw_all := lw_g (lw_at lw_m2 209 rfl) rfl
theorem q539 : (Jvm.Cond.methodLink "NamedPrices" (269 : Nat) ({ cls := "NamedPrices$House", name := "hasBonus", desc := "(I)I" } : Jvm.MethodName)) ∈ lw_all := lw_g (lw_at lw_m2 210 rfl) rfl
theorem q544 : (Jvm.Cond.instanceMethod ({ cls := "NamedPrices", name := "rule", desc := "(II)I" } : Jvm.MethodName)) ∈ lw_all := lw_g (lw_at lw_m2 215 rfl) rfl
theorem q545 : (Jvm.Cond.selects "NamedPrices" ({ cls := "NamedPrices", name := "rule", desc := "(II)I" } : Jvm.MethodName) ({ cls := "NamedPrices", name := "rule", desc := "(II)I" } : Jvm.MethodName)) ∈ lw_all := lw_g (lw_at lw_m2 216 rfl) rfl
theorem q546 : (Jvm.Cond.code ({ cls := "NamedPrices", name := "rule", desc := "(II)I" } : Jvm.MethodName) prog_1_method_34_code (4 : Nat) (Option.some Jvm.ClassFile.FieldType.int)) ∈ lw_all := lw_g (lw_at lw_m2 217 rfl) rfl
theorem q547 : (Jvm.Cond.methodLink "NamedPrices" (272 : Nat) ({ cls := "NamedPrices", name := "mostOf", desc := "(I)I" } : Jvm.MethodName)) ∈ lw_all := lw_g (lw_at lw_m2 218 rfl) rfl
theorem q548 : (Jvm.Cond.static ({ cls := "NamedPrices", name := "mostOf", desc := "(I)I" } : Jvm.MethodName)) ∈ lw_all := lw_g (lw_at lw_m2 219 rfl) rfl
theorem q549 : (Jvm.Cond.code ({ cls := "NamedPrices", name := "mostOf", desc := "(I)I" } : Jvm.MethodName) prog_1_method_33_code (1 : Nat) (Option.some Jvm.ClassFile.FieldType.int)) ∈ lw_all := lw_g (lw_at lw_m2 220 rfl) rfl
theorem q551 : (Jvm.Cond.instanceMethod ({ cls := "NamedPrices", name := "feed", desc := "(JI)I" } : Jvm.MethodName)) ∈ lw_all := lw_g (lw_at lw_m2 222 rfl) rfl
theorem q552 : (Jvm.Cond.selects "NamedPrices" ({ cls := "NamedPrices", name := "feed", desc := "(JI)I" } : Jvm.MethodName) ({ cls := "NamedPrices", name := "feed", desc := "(JI)I" } : Jvm.MethodName)) ∈ lw_all := lw_g (lw_at lw_m2 223 rfl) rfl
theorem q553 : (Jvm.Cond.code ({ cls := "NamedPrices", name := "feed", desc := "(JI)I" } : Jvm.MethodName) prog_1_method_35_code (5 : Nat) (Option.some Jvm.ClassFile.FieldType.int)) ∈ lw_all := lw_g (lw_at lw_m2 224 rfl) rfl
theorem q555 : (Jvm.Cond.instanceMethod ({ cls := "NamedPrices", name := "text", desc := "(I)I" } : Jvm.MethodName)) ∈ lw_all := lw_g (lw_at lw_m2 226 rfl) rfl
theorem q556 : (Jvm.Cond.selects "NamedPrices" ({ cls := "NamedPrices", name := "text", desc := "(I)I" } : Jvm.MethodName) ({ cls := "NamedPrices", name := "text", desc := "(I)I" } : Jvm.MethodName)) ∈ lw_all := lw_g (lw_at lw_m2 227 rfl) rfl
theorem q557 : (Jvm.Cond.codeWith ({ cls := "NamedPrices", name := "text", desc := "(I)I" } : Jvm.MethodName) prog_1_method_37_code (6 : Nat) (Option.some Jvm.ClassFile.FieldType.int) [((39 : Nat), (54 : Nat), (64 : Nat), (297 : Nat)), ((39 : Nat), (54 : Nat), (85 : Nat), (0 : Nat)), ((64 : Nat), (74 : Nat), (85 : Nat), (0 : Nat)), ((85 : Nat), (87 : Nat), (85 : Nat), (0 : Nat))]) ∈ lw_all := lw_g (lw_at lw_m2 228 rfl) rfl
theorem q558 : (Jvm.Cond.classLink "NamedPrices" (297 : Nat) "NamedPrices$Fault") ∈ lw_all := lw_g (lw_at lw_m2 229 rfl) rfl
theorem q559 : (Jvm.Cond.methodLink "NamedPrices" (281 : Nat) ({ cls := "NamedPrices", name := "isUse", desc := "(I)Z" } : Jvm.MethodName)) ∈ lw_all := lw_g (lw_at lw_m2 230 rfl) rfl
theorem q560 : (Jvm.Cond.static ({ cls := "NamedPrices", name := "isUse", desc := "(I)Z" } : Jvm.MethodName)) ∈ lw_all := lw_g (lw_at lw_m2 231 rfl) rfl
theorem q561 : (Jvm.Cond.code ({ cls := "NamedPrices", name := "isUse", desc := "(I)Z" } : Jvm.MethodName) prog_1_method_36_code (1 : Nat) (Option.some Jvm.ClassFile.FieldType.boolean)) ∈ lw_all := lw_g (lw_at lw_m2 232 rfl) rfl
theorem q562 : (Jvm.Cond.classLink "NamedPrices" (284 : Nat) "NamedPrices$Reader") ∈ lw_all := lw_g (lw_at lw_m2 233 rfl) rfl
theorem q564 : (Jvm.Cond.methodLink "NamedPrices" (286 : Nat) ({ cls := "NamedPrices", name := "namesOf", desc := "(I)Ljava/lang/String;" } : Jvm.MethodName)) ∈ lw_all := lw_g (lw_at lw_m2 235 rfl) rfl
theorem q565 : (Jvm.Cond.static ({ cls := "NamedPrices", name := "namesOf", desc := "(I)Ljava/lang/String;" } : Jvm.MethodName)) ∈ lw_all := lw_g (lw_at lw_m2 236 rfl) rfl
theorem q566 : (Jvm.Cond.code ({ cls := "NamedPrices", name := "namesOf", desc := "(I)Ljava/lang/String;" } : Jvm.MethodName) prog_1_method_5_code (1 : Nat) (Option.some (Jvm.ClassFile.FieldType.object "java/lang/String"))) ∈ lw_all := lw_g (lw_at lw_m2 237 rfl) rfl
theorem q567 : (Jvm.Cond.stringRef "NamedPrices" (34 : Nat) "vmpry") ∈ lw_tbl := lw_at lw_m2 238 rfl
theorem q568 : (Jvm.Cond.stringRef "NamedPrices" (36 : Nat) "vscur") ∈ lw_tbl := lw_at lw_m2 239 rfl
theorem q569 : (Jvm.Cond.methodLink "NamedPrices" (290 : Nat) ({ cls := "NamedPrices$Reader", name := "<init>", desc := "([BILjava/lang/String;)V" } : Jvm.MethodName)) ∈ lw_all := lw_g (lw_at lw_m3 0 rfl) rfl
theorem q580 : (Jvm.Cond.fieldLinkNest "NamedPrices" (44 : Nat) "NamedPrices$Text" "step" "[B" "NamedPrices") ∈ lw_tbl := lw_at lw_m3 11 rfl
theorem q582 : (Jvm.Cond.fieldLinkNest "NamedPrices" (54 : Nat) "NamedPrices$Text" "value" "[S" "NamedPrices") ∈ lw_tbl := lw_at lw_m3 13 rfl
theorem q584 : (Jvm.Cond.fieldLinkNest "NamedPrices" (38 : Nat) "NamedPrices$Text" "many" "I" "NamedPrices") ∈ lw_tbl := lw_at lw_m3 15 rfl
theorem q612 : (Jvm.Cond.methodLink "NamedPrices" (293 : Nat) ({ cls := "NamedPrices$Reader", name := "read", desc := "()LNamedPrices$Text;" } : Jvm.MethodName)) ∈ lw_all := lw_g (lw_at lw_m3 43 rfl) rfl
theorem q702 : (Jvm.Cond.fieldLinkNest "NamedPrices" (299 : Nat) "NamedPrices$Fault" "place" "I" "NamedPrices") ∈ lw_tbl := lw_at lw_m3 133 rfl
theorem q825 : (Jvm.Cond.instanceMethod ({ cls := "NamedPrices", name := "untell", desc := "(I)I" } : Jvm.MethodName)) ∈ lw_all := lw_g (lw_at lw_m4 16 rfl) rfl
theorem q826 : (Jvm.Cond.selects "NamedPrices" ({ cls := "NamedPrices", name := "untell", desc := "(I)I" } : Jvm.MethodName) ({ cls := "NamedPrices", name := "untell", desc := "(I)I" } : Jvm.MethodName)) ∈ lw_all := lw_g (lw_at lw_m4 17 rfl) rfl
theorem q827 : (Jvm.Cond.code ({ cls := "NamedPrices", name := "untell", desc := "(I)I" } : Jvm.MethodName) prog_1_method_38_code (3 : Nat) (Option.some Jvm.ClassFile.FieldType.int)) ∈ lw_all := lw_g (lw_at lw_m4 18 rfl) rfl
theorem q829 : (Jvm.Cond.instanceMethod ({ cls := "NamedPrices", name := "named", desc := "(I)I" } : Jvm.MethodName)) ∈ lw_all := lw_g (lw_at lw_m4 20 rfl) rfl
theorem q830 : (Jvm.Cond.selects "NamedPrices" ({ cls := "NamedPrices", name := "named", desc := "(I)I" } : Jvm.MethodName) ({ cls := "NamedPrices", name := "named", desc := "(I)I" } : Jvm.MethodName)) ∈ lw_all := lw_g (lw_at lw_m4 21 rfl) rfl
theorem q831 : (Jvm.Cond.code ({ cls := "NamedPrices", name := "named", desc := "(I)I" } : Jvm.MethodName) prog_1_method_39_code (2 : Nat) (Option.some Jvm.ClassFile.FieldType.int)) ∈ lw_all := lw_g (lw_at lw_m4 22 rfl) rfl
theorem q832 : (Jvm.Cond.methodLink "NamedPrices" (302 : Nat) ({ cls := "NamedPrices", name := "nameOf", desc := "(I)I" } : Jvm.MethodName)) ∈ lw_all := lw_g (lw_at lw_m4 23 rfl) rfl
theorem q833 : (Jvm.Cond.privateMethod ({ cls := "NamedPrices", name := "nameOf", desc := "(I)I" } : Jvm.MethodName)) ∈ lw_tbl := lw_at lw_m4 24 rfl
theorem q834 : (Jvm.Cond.instanceMethod ({ cls := "NamedPrices", name := "nameOf", desc := "(I)I" } : Jvm.MethodName)) ∈ lw_all := lw_g (lw_at lw_m4 25 rfl) rfl
theorem q835 : (Jvm.Cond.code ({ cls := "NamedPrices", name := "nameOf", desc := "(I)I" } : Jvm.MethodName) prog_1_method_14_code (3 : Nat) (Option.some Jvm.ClassFile.FieldType.int)) ∈ lw_all := lw_g (lw_at lw_m4 26 rfl) rfl
theorem q836 : (Jvm.Cond.interfaceEntry "NamedPrices" (154 : Nat)) ∈ lw_tbl := lw_at lw_m4 27 rfl
theorem q837 : (Jvm.Cond.methodLink "NamedPrices" (154 : Nat) ({ cls := "NamedPrices$Names", name := "name", desc := "(LNamedPrices$Sees;I)I" } : Jvm.MethodName)) ∈ lw_all := lw_g (lw_at lw_m4 28 rfl) rfl
theorem q857 : (Jvm.Cond.privateMethod ({ cls := "NamedPrices", name := "bestBy", desc := "(II)I" } : Jvm.MethodName)) ∈ lw_tbl := lw_at lw_m4 48 rfl
theorem q858 : (Jvm.Cond.instanceMethod ({ cls := "NamedPrices", name := "bestBy", desc := "(II)I" } : Jvm.MethodName)) ∈ lw_all := lw_g (lw_at lw_m4 49 rfl) rfl
theorem q859 : (Jvm.Cond.code ({ cls := "NamedPrices", name := "bestBy", desc := "(II)I" } : Jvm.MethodName) prog_1_method_18_code (4 : Nat) (Option.some Jvm.ClassFile.FieldType.int)) ∈ lw_all := lw_g (lw_at lw_m4 50 rfl) rfl
theorem q860 : (Jvm.Cond.methodLink "NamedPrices" (186 : Nat) ({ cls := "NamedPrices", name := "gainOf", desc := "(III)J" } : Jvm.MethodName)) ∈ lw_all := lw_g (lw_at lw_m4 51 rfl) rfl
theorem q861 : (Jvm.Cond.privateMethod ({ cls := "NamedPrices", name := "gainOf", desc := "(III)J" } : Jvm.MethodName)) ∈ lw_tbl := lw_at lw_m4 52 rfl
theorem q862 : (Jvm.Cond.instanceMethod ({ cls := "NamedPrices", name := "gainOf", desc := "(III)J" } : Jvm.MethodName)) ∈ lw_all := lw_g (lw_at lw_m4 53 rfl) rfl
theorem q863 : (Jvm.Cond.code ({ cls := "NamedPrices", name := "gainOf", desc := "(III)J" } : Jvm.MethodName) prog_1_method_16_code (4 : Nat) (Option.some Jvm.ClassFile.FieldType.long)) ∈ lw_all := lw_g (lw_at lw_m4 54 rfl) rfl
theorem q864 : (Jvm.Cond.methodLink "NamedPrices" (180 : Nat) ({ cls := "NamedPrices", name := "findStays", desc := "(II)V" } : Jvm.MethodName)) ∈ lw_all := lw_g (lw_at lw_m4 55 rfl) rfl
theorem q865 : (Jvm.Cond.privateMethod ({ cls := "NamedPrices", name := "findStays", desc := "(II)V" } : Jvm.MethodName)) ∈ lw_tbl := lw_at lw_m4 56 rfl
theorem q866 : (Jvm.Cond.instanceMethod ({ cls := "NamedPrices", name := "findStays", desc := "(II)V" } : Jvm.MethodName)) ∈ lw_all := lw_g (lw_at lw_m4 57 rfl) rfl
theorem q867 : (Jvm.Cond.code ({ cls := "NamedPrices", name := "findStays", desc := "(II)V" } : Jvm.MethodName) prog_1_method_15_code (5 : Nat) (Option.none : Option Jvm.ClassFile.FieldType)) ∈ lw_all := lw_g (lw_at lw_m4 58 rfl) rfl
theorem q868 : (Jvm.Cond.methodLink "NamedPrices" (174 : Nat) ({ cls := "NamedPrices$House", name := "value", desc := "(II)I" } : Jvm.MethodName)) ∈ lw_all := lw_g (lw_at lw_m4 59 rfl) rfl
theorem q869 : (Jvm.Cond.constantLong "NamedPrices" (184 : Nat) (100 : Int64)) ∈ lw_all := lw_g (lw_at lw_m4 60 rfl) rfl
theorem q870 : (Jvm.Cond.methodLink "NamedPrices" (196 : Nat) ({ cls := "NamedPrices", name := "tries", desc := "(III)V" } : Jvm.MethodName)) ∈ lw_all := lw_g (lw_at lw_m4 61 rfl) rfl
theorem q871 : (Jvm.Cond.privateMethod ({ cls := "NamedPrices", name := "tries", desc := "(III)V" } : Jvm.MethodName)) ∈ lw_tbl := lw_at lw_m4 62 rfl
theorem q872 : (Jvm.Cond.instanceMethod ({ cls := "NamedPrices", name := "tries", desc := "(III)V" } : Jvm.MethodName)) ∈ lw_all := lw_g (lw_at lw_m4 63 rfl) rfl
theorem q873 : (Jvm.Cond.code ({ cls := "NamedPrices", name := "tries", desc := "(III)V" } : Jvm.MethodName) prog_1_method_17_code (6 : Nat) (Option.none : Option Jvm.ClassFile.FieldType)) ∈ lw_all := lw_g (lw_at lw_m4 64 rfl) rfl
theorem q950 : (Jvm.Cond.privateMethod ({ cls := "NamedPrices", name := "namingOf", desc := "(I)I" } : Jvm.MethodName)) ∈ lw_tbl := lw_at lw_m4 141 rfl
theorem q951 : (Jvm.Cond.instanceMethod ({ cls := "NamedPrices", name := "namingOf", desc := "(I)I" } : Jvm.MethodName)) ∈ lw_all := lw_g (lw_at lw_m4 142 rfl) rfl
theorem q952 : (Jvm.Cond.code ({ cls := "NamedPrices", name := "namingOf", desc := "(I)I" } : Jvm.MethodName) prog_1_method_13_code (2 : Nat) (Option.some Jvm.ClassFile.FieldType.int)) ∈ lw_all := lw_g (lw_at lw_m4 143 rfl) rfl
theorem q953 : (Jvm.Cond.methodLink "NamedPrices" (131 : Nat) ({ cls := "NamedPrices$House", name := "others", desc := "(I)I" } : Jvm.MethodName)) ∈ lw_all := lw_g (lw_at lw_m4 144 rfl) rfl
theorem q954 : (Jvm.Cond.methodLink "NamedPrices" (143 : Nat) ({ cls := "NamedPrices", name := "worked", desc := "(LNamedPrices$Text;)I" } : Jvm.MethodName)) ∈ lw_all := lw_g (lw_at lw_m4 145 rfl) rfl
theorem q955 : (Jvm.Cond.privateMethod ({ cls := "NamedPrices", name := "worked", desc := "(LNamedPrices$Text;)I" } : Jvm.MethodName)) ∈ lw_tbl := lw_at lw_m4 146 rfl
theorem q956 : (Jvm.Cond.instanceMethod ({ cls := "NamedPrices", name := "worked", desc := "(LNamedPrices$Text;)I" } : Jvm.MethodName)) ∈ lw_all := lw_g (lw_at lw_m4 147 rfl) rfl
theorem q957 : (Jvm.Cond.code ({ cls := "NamedPrices", name := "worked", desc := "(LNamedPrices$Text;)I" } : Jvm.MethodName) prog_1_method_7_code (5 : Nat) (Option.some Jvm.ClassFile.FieldType.int)) ∈ lw_all := lw_g (lw_at lw_m4 148 rfl) rfl
theorem q958 : (Jvm.Cond.methodLink "NamedPrices" (61 : Nat) ({ cls := "NamedPrices", name := "both", desc := "(III)I" } : Jvm.MethodName)) ∈ lw_all := lw_g (lw_at lw_m4 149 rfl) rfl
theorem q959 : (Jvm.Cond.static ({ cls := "NamedPrices", name := "both", desc := "(III)I" } : Jvm.MethodName)) ∈ lw_all := lw_g (lw_at lw_m4 150 rfl) rfl
theorem q960 : (Jvm.Cond.code ({ cls := "NamedPrices", name := "both", desc := "(III)I" } : Jvm.MethodName) prog_1_method_6_code (3 : Nat) (Option.some Jvm.ClassFile.FieldType.int)) ∈ lw_all := lw_g (lw_at lw_m4 151 rfl) rfl
theorem q965 : (Jvm.Cond.methodLink "NamedPrices" (160 : Nat) ({ cls := "NamedPrices", name := "held", desc := "(JII)I" } : Jvm.MethodName)) ∈ lw_all := lw_g (lw_at lw_m4 156 rfl) rfl
theorem q966 : (Jvm.Cond.static ({ cls := "NamedPrices", name := "held", desc := "(JII)I" } : Jvm.MethodName)) ∈ lw_all := lw_g (lw_at lw_m4 157 rfl) rfl
theorem q967 : (Jvm.Cond.code ({ cls := "NamedPrices", name := "held", desc := "(JII)I" } : Jvm.MethodName) prog_1_method_2_code (4 : Nat) (Option.some Jvm.ClassFile.FieldType.int)) ∈ lw_all := lw_g (lw_at lw_m4 158 rfl) rfl
theorem q968 : (Jvm.Cond.methodLink "NamedPrices" (1 : Nat) ({ cls := "java/lang/Math", name := "min", desc := "(JJ)J" } : Jvm.MethodName)) ∈ lw_all := lw_g (lw_at lw_m4 159 rfl) rfl
theorem q971 : (Jvm.Cond.methodLink "NamedPrices" (7 : Nat) ({ cls := "java/lang/Math", name := "max", desc := "(JJ)J" } : Jvm.MethodName)) ∈ lw_all := lw_g (lw_at lw_m4 162 rfl) rfl
theorem q975 : (Jvm.Cond.instanceMethod ({ cls := "NamedPrices", name := "mended", desc := "(I)I" } : Jvm.MethodName)) ∈ lw_all := lw_g (lw_at lw_m4 166 rfl) rfl
theorem q976 : (Jvm.Cond.selects "NamedPrices" ({ cls := "NamedPrices", name := "mended", desc := "(I)I" } : Jvm.MethodName) ({ cls := "NamedPrices", name := "mended", desc := "(I)I" } : Jvm.MethodName)) ∈ lw_all := lw_g (lw_at lw_m4 167 rfl) rfl
theorem q977 : (Jvm.Cond.code ({ cls := "NamedPrices", name := "mended", desc := "(I)I" } : Jvm.MethodName) prog_1_method_41_code (2 : Nat) (Option.some Jvm.ClassFile.FieldType.int)) ∈ lw_all := lw_g (lw_at lw_m4 168 rfl) rfl
theorem q978 : (Jvm.Cond.methodLink "NamedPrices" (305 : Nat) ({ cls := "NamedPrices", name := "isMended", desc := "(I)Z" } : Jvm.MethodName)) ∈ lw_all := lw_g (lw_at lw_m4 169 rfl) rfl
theorem q979 : (Jvm.Cond.privateMethod ({ cls := "NamedPrices", name := "isMended", desc := "(I)Z" } : Jvm.MethodName)) ∈ lw_tbl := lw_at lw_m4 170 rfl
theorem q980 : (Jvm.Cond.instanceMethod ({ cls := "NamedPrices", name := "isMended", desc := "(I)Z" } : Jvm.MethodName)) ∈ lw_all := lw_g (lw_at lw_m4 171 rfl) rfl
theorem q981 : (Jvm.Cond.code ({ cls := "NamedPrices", name := "isMended", desc := "(I)Z" } : Jvm.MethodName) prog_1_method_40_code (4 : Nat) (Option.some Jvm.ClassFile.FieldType.boolean)) ∈ lw_all := lw_g (lw_at lw_m4 172 rfl) rfl
theorem q983 : (Jvm.Cond.instanceMethod ({ cls := "NamedPrices", name := "years", desc := "(I)I" } : Jvm.MethodName)) ∈ lw_all := lw_g (lw_at lw_m4 174 rfl) rfl
theorem q984 : (Jvm.Cond.selects "NamedPrices" ({ cls := "NamedPrices", name := "years", desc := "(I)I" } : Jvm.MethodName) ({ cls := "NamedPrices", name := "years", desc := "(I)I" } : Jvm.MethodName)) ∈ lw_all := lw_g (lw_at lw_m4 175 rfl) rfl
theorem q985 : (Jvm.Cond.code ({ cls := "NamedPrices", name := "years", desc := "(I)I" } : Jvm.MethodName) prog_1_method_45_code (2 : Nat) (Option.some Jvm.ClassFile.FieldType.int)) ∈ lw_all := lw_g (lw_at lw_m4 176 rfl) rfl
theorem q986 : (Jvm.Cond.methodLink "NamedPrices" (329 : Nat) ({ cls := "NamedPrices", name := "goOn", desc := "(I)V" } : Jvm.MethodName)) ∈ lw_all := lw_g (lw_at lw_m4 177 rfl) rfl
theorem q987 : (Jvm.Cond.privateMethod ({ cls := "NamedPrices", name := "goOn", desc := "(I)V" } : Jvm.MethodName)) ∈ lw_tbl := lw_at lw_m4 178 rfl
theorem q988 : (Jvm.Cond.instanceMethod ({ cls := "NamedPrices", name := "goOn", desc := "(I)V" } : Jvm.MethodName)) ∈ lw_all := lw_g (lw_at lw_m4 179 rfl) rfl
theorem q989 : (Jvm.Cond.code ({ cls := "NamedPrices", name := "goOn", desc := "(I)V" } : Jvm.MethodName) prog_1_method_44_code (3 : Nat) (Option.none : Option Jvm.ClassFile.FieldType)) ∈ lw_all := lw_g (lw_at lw_m4 180 rfl) rfl
theorem q990 : (Jvm.Cond.methodLink "NamedPrices" (326 : Nat) ({ cls := "NamedPrices", name := "aYear", desc := "()V" } : Jvm.MethodName)) ∈ lw_all := lw_g (lw_at lw_m4 181 rfl) rfl
theorem q991 : (Jvm.Cond.privateMethod ({ cls := "NamedPrices", name := "aYear", desc := "()V" } : Jvm.MethodName)) ∈ lw_tbl := lw_at lw_m4 182 rfl
theorem q992 : (Jvm.Cond.instanceMethod ({ cls := "NamedPrices", name := "aYear", desc := "()V" } : Jvm.MethodName)) ∈ lw_all := lw_g (lw_at lw_m4 183 rfl) rfl
theorem q993 : (Jvm.Cond.code ({ cls := "NamedPrices", name := "aYear", desc := "()V" } : Jvm.MethodName) prog_1_method_43_code (2 : Nat) (Option.none : Option Jvm.ClassFile.FieldType)) ∈ lw_all := lw_g (lw_at lw_m4 184 rfl) rfl
theorem q994 : (Jvm.Cond.methodLink "NamedPrices" (314 : Nat) ({ cls := "NamedPrices$House", name := "pays", desc := "(I)V" } : Jvm.MethodName)) ∈ lw_all := lw_g (lw_at lw_m4 185 rfl) rfl
theorem q1001 : (Jvm.Cond.methodLink "NamedPrices" (318 : Nat) ({ cls := "NamedPrices", name := "mayGo", desc := "(I)V" } : Jvm.MethodName)) ∈ lw_all := lw_g (lw_at lw_m4 192 rfl) rfl
theorem q1002 : (Jvm.Cond.privateMethod ({ cls := "NamedPrices", name := "mayGo", desc := "(I)V" } : Jvm.MethodName)) ∈ lw_tbl := lw_at lw_m4 193 rfl
theorem q1003 : (Jvm.Cond.instanceMethod ({ cls := "NamedPrices", name := "mayGo", desc := "(I)V" } : Jvm.MethodName)) ∈ lw_all := lw_g (lw_at lw_m4 194 rfl) rfl
theorem q1004 : (Jvm.Cond.code ({ cls := "NamedPrices", name := "mayGo", desc := "(I)V" } : Jvm.MethodName) prog_1_method_42_code (6 : Nat) (Option.none : Option Jvm.ClassFile.FieldType)) ∈ lw_all := lw_g (lw_at lw_m4 195 rfl) rfl
theorem q1005 : (Jvm.Cond.methodLink "NamedPrices" (308 : Nat) ({ cls := "NamedPrices$House", name := "drawn", desc := "()I" } : Jvm.MethodName)) ∈ lw_all := lw_g (lw_at lw_m4 196 rfl) rfl
theorem q1010 : (Jvm.Cond.methodLink "NamedPrices" (311 : Nat) ({ cls := "NamedPrices$House", name := "sells", desc := "(II)V" } : Jvm.MethodName)) ∈ lw_all := lw_g (lw_at lw_m4 201 rfl) rfl
theorem q1019 : (Jvm.Cond.methodLink "NamedPrices" (321 : Nat) ({ cls := "java/lang/Math", name := "min", desc := "(II)I" } : Jvm.MethodName)) ∈ lw_all := lw_g (lw_at lw_m4 210 rfl) rfl
theorem q1020 : (Jvm.Cond.methodLink "NamedPrices" (323 : Nat) ({ cls := "NamedPrices$House", name := "shares", desc := "()V" } : Jvm.MethodName)) ∈ lw_all := lw_g (lw_at lw_m4 211 rfl) rfl
theorem q1029 : (Jvm.Cond.instanceMethod ({ cls := "NamedPrices", name := "seed", desc := "(I)I" } : Jvm.MethodName)) ∈ lw_all := lw_g (lw_at lw_m4 220 rfl) rfl
theorem q1030 : (Jvm.Cond.selects "NamedPrices" ({ cls := "NamedPrices", name := "seed", desc := "(I)I" } : Jvm.MethodName) ({ cls := "NamedPrices", name := "seed", desc := "(I)I" } : Jvm.MethodName)) ∈ lw_all := lw_g (lw_at lw_m4 221 rfl) rfl
theorem q1031 : (Jvm.Cond.code ({ cls := "NamedPrices", name := "seed", desc := "(I)I" } : Jvm.MethodName) prog_1_method_46_code (3 : Nat) (Option.some Jvm.ClassFile.FieldType.int)) ∈ lw_all := lw_g (lw_at lw_m4 222 rfl) rfl
theorem q1033 : (Jvm.Cond.instanceMethod ({ cls := "NamedPrices", name := "taken", desc := "(III)J" } : Jvm.MethodName)) ∈ lw_all := lw_g (lw_at lw_m4 224 rfl) rfl
theorem q1034 : (Jvm.Cond.selects "NamedPrices" ({ cls := "NamedPrices", name := "taken", desc := "(III)J" } : Jvm.MethodName) ({ cls := "NamedPrices", name := "taken", desc := "(III)J" } : Jvm.MethodName)) ∈ lw_all := lw_g (lw_at lw_m4 225 rfl) rfl
theorem q1035 : (Jvm.Cond.code ({ cls := "NamedPrices", name := "taken", desc := "(III)J" } : Jvm.MethodName) prog_1_method_50_code (4 : Nat) (Option.some Jvm.ClassFile.FieldType.long)) ∈ lw_all := lw_g (lw_at lw_m4 226 rfl) rfl
theorem q1036 : (Jvm.Cond.methodLink "NamedPrices" (345 : Nat) ({ cls := "NamedPrices", name := "isAsked", desc := "(III)Z" } : Jvm.MethodName)) ∈ lw_all := lw_g (lw_at lw_m4 227 rfl) rfl
theorem q1037 : (Jvm.Cond.privateMethod ({ cls := "NamedPrices", name := "isAsked", desc := "(III)Z" } : Jvm.MethodName)) ∈ lw_tbl := lw_at lw_m4 228 rfl
theorem q1038 : (Jvm.Cond.instanceMethod ({ cls := "NamedPrices", name := "isAsked", desc := "(III)Z" } : Jvm.MethodName)) ∈ lw_all := lw_g (lw_at lw_m4 229 rfl) rfl
theorem q1039 : (Jvm.Cond.code ({ cls := "NamedPrices", name := "isAsked", desc := "(III)Z" } : Jvm.MethodName) prog_1_method_49_code (4 : Nat) (Option.some Jvm.ClassFile.FieldType.boolean)) ∈ lw_all := lw_g (lw_at lw_m4 230 rfl) rfl
theorem q1040 : (Jvm.Cond.methodLink "NamedPrices" (348 : Nat) ({ cls := "NamedPrices", name := "lowest", desc := "(JJI)J" } : Jvm.MethodName)) ∈ lw_all := lw_g (lw_at lw_m4 231 rfl) rfl
theorem q1041 : (Jvm.Cond.static ({ cls := "NamedPrices", name := "lowest", desc := "(JJI)J" } : Jvm.MethodName)) ∈ lw_all := lw_g (lw_at lw_m4 232 rfl) rfl
theorem q1042 : (Jvm.Cond.code ({ cls := "NamedPrices", name := "lowest", desc := "(JJI)J" } : Jvm.MethodName) prog_1_method_48_code (5 : Nat) (Option.some Jvm.ClassFile.FieldType.long)) ∈ lw_all := lw_g (lw_at lw_m4 233 rfl) rfl
theorem q1043 : (Jvm.Cond.methodLink "NamedPrices" (342 : Nat) ({ cls := "NamedPrices", name := "common", desc := "(JJ)J" } : Jvm.MethodName)) ∈ lw_all := lw_g (lw_at lw_m4 234 rfl) rfl
theorem q1044 : (Jvm.Cond.static ({ cls := "NamedPrices", name := "common", desc := "(JJ)J" } : Jvm.MethodName)) ∈ lw_all := lw_g (lw_at lw_m4 235 rfl) rfl
theorem q1045 : (Jvm.Cond.code ({ cls := "NamedPrices", name := "common", desc := "(JJ)J" } : Jvm.MethodName) prog_1_method_47_code (10 : Nat) (Option.some Jvm.ClassFile.FieldType.long)) ∈ lw_all := lw_g (lw_at lw_m4 236 rfl) rfl
theorem q1046 : (Jvm.Cond.methodLink "NamedPrices" (338 : Nat) ({ cls := "java/lang/Math", name := "abs", desc := "(J)J" } : Jvm.MethodName)) ∈ lw_all := lw_g (lw_at lw_m4 237 rfl) rfl
theorem q1050 : (Jvm.Cond.instanceMethod ({ cls := "NamedPrices", name := "gain", desc := "(III)J" } : Jvm.MethodName)) ∈ lw_all := lw_g (lw_at lw_m5 1 rfl) rfl
theorem q1051 : (Jvm.Cond.selects "NamedPrices" ({ cls := "NamedPrices", name := "gain", desc := "(III)J" } : Jvm.MethodName) ({ cls := "NamedPrices", name := "gain", desc := "(III)J" } : Jvm.MethodName)) ∈ lw_all := lw_g (lw_at lw_m5 2 rfl) rfl
theorem q1052 : (Jvm.Cond.code ({ cls := "NamedPrices", name := "gain", desc := "(III)J" } : Jvm.MethodName) prog_1_method_51_code (6 : Nat) (Option.some Jvm.ClassFile.FieldType.long)) ∈ lw_all := lw_g (lw_at lw_m5 3 rfl) rfl
theorem q1054 : (Jvm.Cond.instanceMethod ({ cls := "NamedPrices", name := "best", desc := "(I)I" } : Jvm.MethodName)) ∈ lw_all := lw_g (lw_at lw_m5 5 rfl) rfl
theorem q1055 : (Jvm.Cond.selects "NamedPrices" ({ cls := "NamedPrices", name := "best", desc := "(I)I" } : Jvm.MethodName) ({ cls := "NamedPrices", name := "best", desc := "(I)I" } : Jvm.MethodName)) ∈ lw_all := lw_g (lw_at lw_m5 6 rfl) rfl
theorem q1056 : (Jvm.Cond.code ({ cls := "NamedPrices", name := "best", desc := "(I)I" } : Jvm.MethodName) prog_1_method_52_code (2 : Nat) (Option.some Jvm.ClassFile.FieldType.int)) ∈ lw_all := lw_g (lw_at lw_m5 7 rfl) rfl
theorem q1057 : (Jvm.Cond.methodLink "NamedPrices" (352 : Nat) ({ cls := "NamedPrices", name := "bestBy", desc := "(II)I" } : Jvm.MethodName)) ∈ lw_all := lw_g (lw_at lw_m5 8 rfl) rfl
theorem q1059 : (Jvm.Cond.instanceMethod ({ cls := "NamedPrices", name := "right", desc := "(I)I" } : Jvm.MethodName)) ∈ lw_all := lw_g (lw_at lw_m5 10 rfl) rfl
theorem q1060 : (Jvm.Cond.selects "NamedPrices" ({ cls := "NamedPrices", name := "right", desc := "(I)I" } : Jvm.MethodName) ({ cls := "NamedPrices", name := "right", desc := "(I)I" } : Jvm.MethodName)) ∈ lw_all := lw_g (lw_at lw_m5 11 rfl) rfl
theorem q1061 : (Jvm.Cond.code ({ cls := "NamedPrices", name := "right", desc := "(I)I" } : Jvm.MethodName) prog_1_method_53_code (3 : Nat) (Option.some Jvm.ClassFile.FieldType.int)) ∈ lw_all := lw_g (lw_at lw_m5 12 rfl) rfl
theorem q1063 : (Jvm.Cond.instanceMethod ({ cls := "NamedPrices", name := "town", desc := "(I)I" } : Jvm.MethodName)) ∈ lw_all := lw_g (lw_at lw_m5 14 rfl) rfl
theorem q1064 : (Jvm.Cond.selects "NamedPrices" ({ cls := "NamedPrices", name := "town", desc := "(I)I" } : Jvm.MethodName) ({ cls := "NamedPrices", name := "town", desc := "(I)I" } : Jvm.MethodName)) ∈ lw_all := lw_g (lw_at lw_m5 15 rfl) rfl
theorem q1065 : (Jvm.Cond.code ({ cls := "NamedPrices", name := "town", desc := "(I)I" } : Jvm.MethodName) prog_1_method_56_code (2 : Nat) (Option.some Jvm.ClassFile.FieldType.int)) ∈ lw_all := lw_g (lw_at lw_m5 16 rfl) rfl
theorem q1066 : (Jvm.Cond.methodLink "NamedPrices" (368 : Nat) ({ cls := "NamedPrices", name := "townTold", desc := "(I)I" } : Jvm.MethodName)) ∈ lw_all := lw_g (lw_at lw_m5 17 rfl) rfl
theorem q1067 : (Jvm.Cond.privateMethod ({ cls := "NamedPrices", name := "townTold", desc := "(I)I" } : Jvm.MethodName)) ∈ lw_tbl := lw_at lw_m5 18 rfl
theorem q1068 : (Jvm.Cond.instanceMethod ({ cls := "NamedPrices", name := "townTold", desc := "(I)I" } : Jvm.MethodName)) ∈ lw_all := lw_g (lw_at lw_m5 19 rfl) rfl
theorem q1069 : (Jvm.Cond.code ({ cls := "NamedPrices", name := "townTold", desc := "(I)I" } : Jvm.MethodName) prog_1_method_55_code (2 : Nat) (Option.some Jvm.ClassFile.FieldType.int)) ∈ lw_all := lw_g (lw_at lw_m5 20 rfl) rfl
theorem q1070 : (Jvm.Cond.methodLink "NamedPrices" (355 : Nat) ({ cls := "NamedPrices$House", name := "heldBy", desc := "()I" } : Jvm.MethodName)) ∈ lw_all := lw_g (lw_at lw_m5 21 rfl) rfl
theorem q1076 : (Jvm.Cond.methodLink "NamedPrices" (358 : Nat) ({ cls := "NamedPrices$House", name := "most", desc := "()I" } : Jvm.MethodName)) ∈ lw_all := lw_g (lw_at lw_m5 27 rfl) rfl
theorem q1081 : (Jvm.Cond.methodLink "NamedPrices" (361 : Nat) ({ cls := "NamedPrices", name := "together", desc := "([II)I" } : Jvm.MethodName)) ∈ lw_all := lw_g (lw_at lw_m5 32 rfl) rfl
theorem q1082 : (Jvm.Cond.static ({ cls := "NamedPrices", name := "together", desc := "([II)I" } : Jvm.MethodName)) ∈ lw_all := lw_g (lw_at lw_m5 33 rfl) rfl
theorem q1083 : (Jvm.Cond.code ({ cls := "NamedPrices", name := "together", desc := "([II)I" } : Jvm.MethodName) prog_1_method_54_code (4 : Nat) (Option.some Jvm.ClassFile.FieldType.int)) ∈ lw_all := lw_g (lw_at lw_m5 34 rfl) rfl
theorem q1085 : (Jvm.Cond.instanceMethod ({ cls := "NamedPrices", name := "firm", desc := "(II)I" } : Jvm.MethodName)) ∈ lw_all := lw_g (lw_at lw_m5 36 rfl) rfl
theorem q1086 : (Jvm.Cond.selects "NamedPrices" ({ cls := "NamedPrices", name := "firm", desc := "(II)I" } : Jvm.MethodName) ({ cls := "NamedPrices", name := "firm", desc := "(II)I" } : Jvm.MethodName)) ∈ lw_all := lw_g (lw_at lw_m5 37 rfl) rfl
theorem q1087 : (Jvm.Cond.code ({ cls := "NamedPrices", name := "firm", desc := "(II)I" } : Jvm.MethodName) prog_1_method_57_code (8 : Nat) (Option.some Jvm.ClassFile.FieldType.int)) ∈ lw_all := lw_g (lw_at lw_m5 38 rfl) rfl
theorem q1088 : (Jvm.Cond.methodLink "NamedPrices" (371 : Nat) ({ cls := "java/lang/Integer", name := "bitCount", desc := "(I)I" } : Jvm.MethodName)) ∈ lw_all := lw_g (lw_at lw_m5 39 rfl) rfl
theorem q1095 : (Jvm.Cond.instanceMethod ({ cls := "NamedPrices", name := "then", desc := "(II)I" } : Jvm.MethodName)) ∈ lw_all := lw_g (lw_at lw_m5 46 rfl) rfl
theorem q1096 : (Jvm.Cond.selects "NamedPrices" ({ cls := "NamedPrices", name := "then", desc := "(II)I" } : Jvm.MethodName) ({ cls := "NamedPrices", name := "then", desc := "(II)I" } : Jvm.MethodName)) ∈ lw_all := lw_g (lw_at lw_m5 47 rfl) rfl
theorem q1097 : (Jvm.Cond.code ({ cls := "NamedPrices", name := "then", desc := "(II)I" } : Jvm.MethodName) prog_1_method_61_code (4 : Nat) (Option.some Jvm.ClassFile.FieldType.int)) ∈ lw_all := lw_g (lw_at lw_m5 48 rfl) rfl
theorem q1098 : (Jvm.Cond.methodLink "NamedPrices" (383 : Nat) ({ cls := "NamedPrices", name := "isAhead", desc := "(I)Z" } : Jvm.MethodName)) ∈ lw_all := lw_g (lw_at lw_m5 49 rfl) rfl
theorem q1099 : (Jvm.Cond.static ({ cls := "NamedPrices", name := "isAhead", desc := "(I)Z" } : Jvm.MethodName)) ∈ lw_all := lw_g (lw_at lw_m5 50 rfl) rfl
theorem q1100 : (Jvm.Cond.code ({ cls := "NamedPrices", name := "isAhead", desc := "(I)Z" } : Jvm.MethodName) prog_1_method_58_code (1 : Nat) (Option.some Jvm.ClassFile.FieldType.boolean)) ∈ lw_all := lw_g (lw_at lw_m5 51 rfl) rfl
theorem q1101 : (Jvm.Cond.methodLink "NamedPrices" (386 : Nat) ({ cls := "NamedPrices", name := "begins", desc := "()V" } : Jvm.MethodName)) ∈ lw_all := lw_g (lw_at lw_m5 52 rfl) rfl
theorem q1102 : (Jvm.Cond.privateMethod ({ cls := "NamedPrices", name := "begins", desc := "()V" } : Jvm.MethodName)) ∈ lw_tbl := lw_at lw_m5 53 rfl
theorem q1103 : (Jvm.Cond.instanceMethod ({ cls := "NamedPrices", name := "begins", desc := "()V" } : Jvm.MethodName)) ∈ lw_all := lw_g (lw_at lw_m5 54 rfl) rfl
theorem q1104 : (Jvm.Cond.code ({ cls := "NamedPrices", name := "begins", desc := "()V" } : Jvm.MethodName) prog_1_method_60_code (1 : Nat) (Option.none : Option Jvm.ClassFile.FieldType)) ∈ lw_all := lw_g (lw_at lw_m5 55 rfl) rfl
theorem q1105 : (Jvm.Cond.methodLink "NamedPrices" (376 : Nat) ({ cls := "NamedPrices$House", name := "become", desc := "(LNamedPrices$House;)V" } : Jvm.MethodName)) ∈ lw_all := lw_g (lw_at lw_m5 56 rfl) rfl
theorem q1112 : (Jvm.Cond.methodLink "NamedPrices" (380 : Nat) ({ cls := "NamedPrices", name := "swaps", desc := "()V" } : Jvm.MethodName)) ∈ lw_all := lw_g (lw_at lw_m5 63 rfl) rfl
theorem q1113 : (Jvm.Cond.privateMethod ({ cls := "NamedPrices", name := "swaps", desc := "()V" } : Jvm.MethodName)) ∈ lw_tbl := lw_at lw_m5 64 rfl
theorem q1114 : (Jvm.Cond.instanceMethod ({ cls := "NamedPrices", name := "swaps", desc := "()V" } : Jvm.MethodName)) ∈ lw_all := lw_g (lw_at lw_m5 65 rfl) rfl
theorem q1115 : (Jvm.Cond.code ({ cls := "NamedPrices", name := "swaps", desc := "()V" } : Jvm.MethodName) prog_1_method_59_code (2 : Nat) (Option.none : Option Jvm.ClassFile.FieldType)) ∈ lw_all := lw_g (lw_at lw_m5 66 rfl) rfl
theorem q1117 : (Jvm.Cond.instanceMethod ({ cls := "NamedPrices", name := "whose", desc := "(II)I" } : Jvm.MethodName)) ∈ lw_all := lw_g (lw_at lw_m5 68 rfl) rfl
theorem q1118 : (Jvm.Cond.selects "NamedPrices" ({ cls := "NamedPrices", name := "whose", desc := "(II)I" } : Jvm.MethodName) ({ cls := "NamedPrices", name := "whose", desc := "(II)I" } : Jvm.MethodName)) ∈ lw_all := lw_g (lw_at lw_m5 69 rfl) rfl
theorem q1119 : (Jvm.Cond.code ({ cls := "NamedPrices", name := "whose", desc := "(II)I" } : Jvm.MethodName) prog_1_method_62_code (4 : Nat) (Option.some Jvm.ClassFile.FieldType.int)) ∈ lw_all := lw_g (lw_at lw_m5 70 rfl) rfl
theorem q1121 : (Jvm.Cond.instanceMethod ({ cls := "NamedPrices", name := "part", desc := "(I)I" } : Jvm.MethodName)) ∈ lw_all := lw_g (lw_at lw_m5 72 rfl) rfl
theorem q1122 : (Jvm.Cond.selects "NamedPrices" ({ cls := "NamedPrices", name := "part", desc := "(I)I" } : Jvm.MethodName) ({ cls := "NamedPrices", name := "part", desc := "(I)I" } : Jvm.MethodName)) ∈ lw_all := lw_g (lw_at lw_m5 73 rfl) rfl
theorem q1123 : (Jvm.Cond.code ({ cls := "NamedPrices", name := "part", desc := "(I)I" } : Jvm.MethodName) prog_1_method_64_code (6 : Nat) (Option.some Jvm.ClassFile.FieldType.int)) ∈ lw_all := lw_g (lw_at lw_m5 74 rfl) rfl
theorem q1124 : (Jvm.Cond.methodLink "NamedPrices" (389 : Nat) ({ cls := "NamedPrices", name := "heldWith", desc := "(II)I" } : Jvm.MethodName)) ∈ lw_all := lw_g (lw_at lw_m5 75 rfl) rfl
theorem q1125 : (Jvm.Cond.privateMethod ({ cls := "NamedPrices", name := "heldWith", desc := "(II)I" } : Jvm.MethodName)) ∈ lw_tbl := lw_at lw_m5 76 rfl
theorem q1126 : (Jvm.Cond.instanceMethod ({ cls := "NamedPrices", name := "heldWith", desc := "(II)I" } : Jvm.MethodName)) ∈ lw_all := lw_g (lw_at lw_m5 77 rfl) rfl
theorem q1127 : (Jvm.Cond.code ({ cls := "NamedPrices", name := "heldWith", desc := "(II)I" } : Jvm.MethodName) prog_1_method_63_code (4 : Nat) (Option.some Jvm.ClassFile.FieldType.int)) ∈ lw_all := lw_g (lw_at lw_m5 78 rfl) rfl
theorem q1128 : (Jvm.Cond.methodLink "NamedPrices" (392 : Nat) ({ cls := "java/lang/Math", name := "max", desc := "(II)I" } : Jvm.MethodName)) ∈ lw_all := lw_g (lw_at lw_m5 79 rfl) rfl
theorem q1130 : (Jvm.Cond.instanceMethod ({ cls := "NamedPrices", name := "voice", desc := "(III)I" } : Jvm.MethodName)) ∈ lw_all := lw_g (lw_at lw_m5 81 rfl) rfl
theorem q1131 : (Jvm.Cond.selects "NamedPrices" ({ cls := "NamedPrices", name := "voice", desc := "(III)I" } : Jvm.MethodName) ({ cls := "NamedPrices", name := "voice", desc := "(III)I" } : Jvm.MethodName)) ∈ lw_all := lw_g (lw_at lw_m5 82 rfl) rfl
theorem q1132 : (Jvm.Cond.codeWith ({ cls := "NamedPrices", name := "voice", desc := "(III)I" } : Jvm.MethodName) prog_1_method_65_code (6 : Nat) (Option.some Jvm.ClassFile.FieldType.int) [((41 : Nat), (104 : Nat), (105 : Nat), (407 : Nat))]) ∈ lw_all := lw_g (lw_at lw_m5 83 rfl) rfl
theorem q1133 : (Jvm.Cond.classLink "NamedPrices" (407 : Nat) "java/lang/ArithmeticException") ∈ lw_all := lw_g (lw_at lw_m5 84 rfl) rfl
theorem q1162 : (Jvm.Cond.methodLink "NamedPrices" (395 : Nat) ({ cls := "NamedPrices$Namer", name := "names", desc := "(ILNamedPrices$Trace;)I" } : Jvm.MethodName)) ∈ lw_all := lw_g (lw_at lw_m5 113 rfl) rfl
theorem q1239 : (Jvm.Cond.methodLink "NamedPrices" (402 : Nat) ({ cls := "NamedPrices$Namer", name := "pays", desc := "(ILNamedPrices$Trace;)I" } : Jvm.MethodName)) ∈ lw_all := lw_g (lw_at lw_m5 190 rfl) rfl
theorem q1259 : (Jvm.Cond.methodLink "NamedPrices" (404 : Nat) ({ cls := "NamedPrices$Namer", name := "minds", desc := "(ILNamedPrices$Trace;)I" } : Jvm.MethodName)) ∈ lw_all := lw_g (lw_at lw_m5 210 rfl) rfl
theorem q1280 : (Jvm.Cond.instanceMethod ({ cls := "NamedPrices", name := "body", desc := "(I)I" } : Jvm.MethodName)) ∈ lw_all := lw_g (lw_at lw_m5 231 rfl) rfl
theorem q1281 : (Jvm.Cond.selects "NamedPrices" ({ cls := "NamedPrices", name := "body", desc := "(I)I" } : Jvm.MethodName) ({ cls := "NamedPrices", name := "body", desc := "(I)I" } : Jvm.MethodName)) ∈ lw_all := lw_g (lw_at lw_m5 232 rfl) rfl
theorem q1282 : (Jvm.Cond.code ({ cls := "NamedPrices", name := "body", desc := "(I)I" } : Jvm.MethodName) prog_1_method_66_code (2 : Nat) (Option.some Jvm.ClassFile.FieldType.int)) ∈ lw_all := lw_g (lw_at lw_m5 233 rfl) rfl
theorem q1284 : (Jvm.Cond.instanceMethod ({ cls := "NamedPrices", name := "sheet", desc := "(III)I" } : Jvm.MethodName)) ∈ lw_all := lw_g (lw_at lw_m5 235 rfl) rfl
theorem q1285 : (Jvm.Cond.selects "NamedPrices" ({ cls := "NamedPrices", name := "sheet", desc := "(III)I" } : Jvm.MethodName) ({ cls := "NamedPrices", name := "sheet", desc := "(III)I" } : Jvm.MethodName)) ∈ lw_all := lw_g (lw_at lw_m5 236 rfl) rfl
theorem q1286 : (Jvm.Cond.codeWith ({ cls := "NamedPrices", name := "sheet", desc := "(III)I" } : Jvm.MethodName) prog_1_method_70_code (5 : Nat) (Option.some Jvm.ClassFile.FieldType.int) [((51 : Nat), (96 : Nat), (97 : Nat), (418 : Nat))]) ∈ lw_all := lw_g (lw_at lw_m5 237 rfl) rfl
theorem q1287 : (Jvm.Cond.classLink "NamedPrices" (418 : Nat) "java/lang/NegativeArraySizeException") ∈ lw_all := lw_g (lw_at lw_m5 238 rfl) rfl
theorem q1301 : (Jvm.Cond.methodLink "NamedPrices" (415 : Nat) ({ cls := "NamedPrices", name := "isSheet", desc := "(I)Z" } : Jvm.MethodName)) ∈ lw_all := lw_g (lw_at lw_m6 12 rfl) rfl
theorem q1302 : (Jvm.Cond.static ({ cls := "NamedPrices", name := "isSheet", desc := "(I)Z" } : Jvm.MethodName)) ∈ lw_all := lw_g (lw_at lw_m6 13 rfl) rfl
theorem q1303 : (Jvm.Cond.code ({ cls := "NamedPrices", name := "isSheet", desc := "(I)Z" } : Jvm.MethodName) prog_1_method_67_code (1 : Nat) (Option.some Jvm.ClassFile.FieldType.boolean)) ∈ lw_all := lw_g (lw_at lw_m6 14 rfl) rfl
theorem q1305 : (Jvm.Cond.instanceMethod ({ cls := "NamedPrices", name := "put", desc := "(III)I" } : Jvm.MethodName)) ∈ lw_all := lw_g (lw_at lw_m6 16 rfl) rfl
theorem q1306 : (Jvm.Cond.selects "NamedPrices" ({ cls := "NamedPrices", name := "put", desc := "(III)I" } : Jvm.MethodName) ({ cls := "NamedPrices", name := "put", desc := "(III)I" } : Jvm.MethodName)) ∈ lw_all := lw_g (lw_at lw_m6 17 rfl) rfl
theorem q1307 : (Jvm.Cond.code ({ cls := "NamedPrices", name := "put", desc := "(III)I" } : Jvm.MethodName) prog_1_method_71_code (5 : Nat) (Option.some Jvm.ClassFile.FieldType.int)) ∈ lw_all := lw_g (lw_at lw_m6 18 rfl) rfl
theorem q1308 : (Jvm.Cond.methodLink "NamedPrices" (420 : Nat) ({ cls := "NamedPrices", name := "sizeOf", desc := "(Ljava/lang/Object;)I" } : Jvm.MethodName)) ∈ lw_all := lw_g (lw_at lw_m6 19 rfl) rfl
theorem q1309 : (Jvm.Cond.static ({ cls := "NamedPrices", name := "sizeOf", desc := "(Ljava/lang/Object;)I" } : Jvm.MethodName)) ∈ lw_all := lw_g (lw_at lw_m6 20 rfl) rfl
theorem q1310 : (Jvm.Cond.code ({ cls := "NamedPrices", name := "sizeOf", desc := "(Ljava/lang/Object;)I" } : Jvm.MethodName) prog_1_method_68_code (1 : Nat) (Option.some Jvm.ClassFile.FieldType.int)) ∈ lw_all := lw_g (lw_at lw_m6 21 rfl) rfl
theorem q1311 : (Jvm.Cond.classLink "NamedPrices" (412 : Nat) "[B") ∈ lw_all := lw_g (lw_at lw_m6 22 rfl) rfl
theorem q1312 : (Jvm.Cond.classLink "NamedPrices" (413 : Nat) "[S") ∈ lw_all := lw_g (lw_at lw_m6 23 rfl) rfl
theorem q1313 : (Jvm.Cond.classLink "NamedPrices" (414 : Nat) "[I") ∈ lw_all := lw_g (lw_at lw_m6 24 rfl) rfl
theorem q1315 : (Jvm.Cond.instanceMethod ({ cls := "NamedPrices", name := "move", desc := "(IIIII)I" } : Jvm.MethodName)) ∈ lw_all := lw_g (lw_at lw_m6 26 rfl) rfl
theorem q1316 : (Jvm.Cond.selects "NamedPrices" ({ cls := "NamedPrices", name := "move", desc := "(IIIII)I" } : Jvm.MethodName) ({ cls := "NamedPrices", name := "move", desc := "(IIIII)I" } : Jvm.MethodName)) ∈ lw_all := lw_g (lw_at lw_m6 27 rfl) rfl
theorem q1317 : (Jvm.Cond.codeWith ({ cls := "NamedPrices", name := "move", desc := "(IIIII)I" } : Jvm.MethodName) prog_1_method_72_code (9 : Nat) (Option.some Jvm.ClassFile.FieldType.int) [((58 : Nat), (68 : Nat), (71 : Nat), (430 : Nat))]) ∈ lw_all := lw_g (lw_at lw_m6 28 rfl) rfl
theorem q1318 : (Jvm.Cond.classLink "NamedPrices" (430 : Nat) "java/lang/ArrayStoreException") ∈ lw_all := lw_g (lw_at lw_m6 29 rfl) rfl
theorem q1332 : (Jvm.Cond.methodLink "NamedPrices" (424 : Nat) ({ cls := "java/lang/System", name := "arraycopy", desc := "(Ljava/lang/Object;ILjava/lang/Object;II)V" } : Jvm.MethodName)) ∈ lw_all := lw_g (lw_at lw_m6 43 rfl) rfl
theorem q1334 : (Jvm.Cond.instanceMethod ({ cls := "NamedPrices", name := "worths", desc := "(II)I" } : Jvm.MethodName)) ∈ lw_all := lw_g (lw_at lw_m6 45 rfl) rfl
theorem q1335 : (Jvm.Cond.selects "NamedPrices" ({ cls := "NamedPrices", name := "worths", desc := "(II)I" } : Jvm.MethodName) ({ cls := "NamedPrices", name := "worths", desc := "(II)I" } : Jvm.MethodName)) ∈ lw_all := lw_g (lw_at lw_m6 46 rfl) rfl
theorem q1336 : (Jvm.Cond.code ({ cls := "NamedPrices", name := "worths", desc := "(II)I" } : Jvm.MethodName) prog_1_method_73_code (5 : Nat) (Option.some Jvm.ClassFile.FieldType.int)) ∈ lw_all := lw_g (lw_at lw_m6 47 rfl) rfl
theorem q1337 : (Jvm.Cond.methodLink "NamedPrices" (432 : Nat) ({ cls := "NamedPrices", name := "numberOf", desc := "(Ljava/lang/Object;I)I" } : Jvm.MethodName)) ∈ lw_all := lw_g (lw_at lw_m6 48 rfl) rfl
theorem q1338 : (Jvm.Cond.static ({ cls := "NamedPrices", name := "numberOf", desc := "(Ljava/lang/Object;I)I" } : Jvm.MethodName)) ∈ lw_all := lw_g (lw_at lw_m6 49 rfl) rfl
theorem q1339 : (Jvm.Cond.code ({ cls := "NamedPrices", name := "numberOf", desc := "(Ljava/lang/Object;I)I" } : Jvm.MethodName) prog_1_method_69_code (2 : Nat) (Option.some Jvm.ClassFile.FieldType.int)) ∈ lw_all := lw_g (lw_at lw_m6 50 rfl) rfl
theorem q1341 : (Jvm.Cond.instanceMethod ({ cls := "NamedPrices", name := "judge", desc := "(I)I" } : Jvm.MethodName)) ∈ lw_all := lw_g (lw_at lw_m6 52 rfl) rfl
theorem q1342 : (Jvm.Cond.selects "NamedPrices" ({ cls := "NamedPrices", name := "judge", desc := "(I)I" } : Jvm.MethodName) ({ cls := "NamedPrices", name := "judge", desc := "(I)I" } : Jvm.MethodName)) ∈ lw_all := lw_g (lw_at lw_m6 53 rfl) rfl
theorem q1343 : (Jvm.Cond.code ({ cls := "NamedPrices", name := "judge", desc := "(I)I" } : Jvm.MethodName) prog_1_method_74_code (4 : Nat) (Option.some Jvm.ClassFile.FieldType.int)) ∈ lw_all := lw_g (lw_at lw_m6 54 rfl) rfl
theorem q1345 : (Jvm.Cond.instanceMethod ({ cls := "NamedPrices", name := "image", desc := "()I" } : Jvm.MethodName)) ∈ lw_all := lw_g (lw_at lw_m6 56 rfl) rfl
theorem q1346 : (Jvm.Cond.selects "NamedPrices" ({ cls := "NamedPrices", name := "image", desc := "()I" } : Jvm.MethodName) ({ cls := "NamedPrices", name := "image", desc := "()I" } : Jvm.MethodName)) ∈ lw_all := lw_g (lw_at lw_m6 57 rfl) rfl
theorem q1347 : (Jvm.Cond.code ({ cls := "NamedPrices", name := "image", desc := "()I" } : Jvm.MethodName) prog_1_method_75_code (1 : Nat) (Option.some Jvm.ClassFile.FieldType.int)) ∈ lw_all := lw_g (lw_at lw_m6 58 rfl) rfl
theorem q1349 : (Jvm.Cond.instanceMethod ({ cls := "NamedPrices", name := "restore", desc := "()I" } : Jvm.MethodName)) ∈ lw_all := lw_g (lw_at lw_m6 60 rfl) rfl
theorem q1350 : (Jvm.Cond.selects "NamedPrices" ({ cls := "NamedPrices", name := "restore", desc := "()I" } : Jvm.MethodName) ({ cls := "NamedPrices", name := "restore", desc := "()I" } : Jvm.MethodName)) ∈ lw_all := lw_g (lw_at lw_m6 61 rfl) rfl
theorem q1351 : (Jvm.Cond.code ({ cls := "NamedPrices", name := "restore", desc := "()I" } : Jvm.MethodName) prog_1_method_76_code (1 : Nat) (Option.some Jvm.ClassFile.FieldType.int)) ∈ lw_all := lw_g (lw_at lw_m6 62 rfl) rfl
theorem q1353 : (Jvm.Cond.instanceMethod ({ cls := "NamedPrices", name := "tell", desc := "(I)I" } : Jvm.MethodName)) ∈ lw_all := lw_g (lw_at lw_m6 64 rfl) rfl
theorem q1354 : (Jvm.Cond.selects "NamedPrices" ({ cls := "NamedPrices", name := "tell", desc := "(I)I" } : Jvm.MethodName) ({ cls := "NamedPrices", name := "tell", desc := "(I)I" } : Jvm.MethodName)) ∈ lw_all := lw_g (lw_at lw_m6 65 rfl) rfl
theorem q1355 : (Jvm.Cond.code ({ cls := "NamedPrices", name := "tell", desc := "(I)I" } : Jvm.MethodName) prog_1_method_77_code (2 : Nat) (Option.some Jvm.ClassFile.FieldType.int)) ∈ lw_all := lw_g (lw_at lw_m6 66 rfl) rfl
theorem q1357 : (Jvm.Cond.instanceMethod ({ cls := "NamedPrices", name := "check", desc := "(I)I" } : Jvm.MethodName)) ∈ lw_all := lw_g (lw_at lw_m6 68 rfl) rfl
theorem q1358 : (Jvm.Cond.selects "NamedPrices" ({ cls := "NamedPrices", name := "check", desc := "(I)I" } : Jvm.MethodName) ({ cls := "NamedPrices", name := "check", desc := "(I)I" } : Jvm.MethodName)) ∈ lw_all := lw_g (lw_at lw_m6 69 rfl) rfl
theorem q1359 : (Jvm.Cond.code ({ cls := "NamedPrices", name := "check", desc := "(I)I" } : Jvm.MethodName) prog_1_method_78_code (5 : Nat) (Option.some Jvm.ClassFile.FieldType.int)) ∈ lw_all := lw_g (lw_at lw_m6 70 rfl) rfl
theorem q1361 : (Jvm.Cond.instanceMethod ({ cls := "NamedPrices", name := "count", desc := "(I)I" } : Jvm.MethodName)) ∈ lw_all := lw_g (lw_at lw_m6 72 rfl) rfl
theorem q1362 : (Jvm.Cond.selects "NamedPrices" ({ cls := "NamedPrices", name := "count", desc := "(I)I" } : Jvm.MethodName) ({ cls := "NamedPrices", name := "count", desc := "(I)I" } : Jvm.MethodName)) ∈ lw_all := lw_g (lw_at lw_m6 73 rfl) rfl
theorem q1363 : (Jvm.Cond.code ({ cls := "NamedPrices", name := "count", desc := "(I)I" } : Jvm.MethodName) prog_1_method_79_code (2 : Nat) (Option.some Jvm.ClassFile.FieldType.int)) ∈ lw_all := lw_g (lw_at lw_m6 74 rfl) rfl
theorem q1365 : (Jvm.Cond.instanceMethod ({ cls := "NamedPrices", name := "told", desc := "(I)I" } : Jvm.MethodName)) ∈ lw_all := lw_g (lw_at lw_m6 76 rfl) rfl
theorem q1366 : (Jvm.Cond.selects "NamedPrices" ({ cls := "NamedPrices", name := "told", desc := "(I)I" } : Jvm.MethodName) ({ cls := "NamedPrices", name := "told", desc := "(I)I" } : Jvm.MethodName)) ∈ lw_all := lw_g (lw_at lw_m6 77 rfl) rfl
theorem q1367 : (Jvm.Cond.code ({ cls := "NamedPrices", name := "told", desc := "(I)I" } : Jvm.MethodName) prog_1_method_80_code (2 : Nat) (Option.some Jvm.ClassFile.FieldType.int)) ∈ lw_all := lw_g (lw_at lw_m6 78 rfl) rfl
theorem in_X0 : ∀ w ∈ wsX00, w ∈ lw_all := lw_in wsX00 [288, 290, 292, 294, 296, 298, 300, 302, 304, 306, 308, 310, 312, 314] (by decide +kernel) (by decide +kernel)
