/-! NamedPrices$House -/
set_option maxRecDepth 100000
def RX1 : String := "NamedPrices$House"
def TX1 : u_T := fun k => match k with
  | 0 => ("NamedPrices$House", "people", "I", false)
  | 1 => ("NamedPrices$House", "things", "I", false)
  | 2 => ("NamedPrices$House", "pairs", "I", false)
  | 3 => ("NamedPrices$House", "pot", "I", false)
  | 4 => ("NamedPrices$House", "years", "I", false)
  | 5 => ("NamedPrices$House", "moves", "I", false)
  | 6 => ("NamedPrices$House", "z", "I", false)
  | 7 => ("NamedPrices$House", "taped", "I", false)
  | 8 => ("NamedPrices$House", "waiting", "I", false)
  | 9 => ("NamedPrices$House", "person", "[LNamedPrices$Slot;", true)
  | 10 => ("NamedPrices$House", "purse", "[I", true)
  | 11 => ("NamedPrices$House", "owner", "[I", true)
  | 12 => ("NamedPrices$House", "price", "[I", true)
  | 13 => ("NamedPrices$House", "sound", "[I", true)
  | 14 => ("NamedPrices$House", "isKept", "[Z", true)
  | 15 => ("NamedPrices$House", "worth", "[I", true)
  | 16 => ("NamedPrices$House", "pairOne", "[I", true)
  | 17 => ("NamedPrices$House", "pairOther", "[I", true)
  | 18 => ("NamedPrices$House", "bonus", "[I", true)
  | 19 => ("NamedPrices$House", "rule", "[I", true)
  | 20 => ("NamedPrices$House", "texts", "[LNamedPrices$Text;", true)
  | 21 => ("NamedPrices$House", "tape", "[B", true)
  | _ => ("NamedPrices$House", "waits", "[I", true)
def tyX1 : Nat → FieldType := fun k => match k with
  | 0 => .int
  | 1 => .int
  | 2 => .int
  | 3 => .int
  | 4 => .int
  | 5 => .int
  | 6 => .int
  | 7 => .int
  | 8 => .int
  | 9 => .array (.object "NamedPrices$Slot")
  | 10 => .array .int
  | 11 => .array .int
  | 12 => .array .int
  | 13 => .array .int
  | 14 => .array .boolean
  | 15 => .array .int
  | 16 => .array .int
  | 17 => .array .int
  | 18 => .array .int
  | 19 => .array .int
  | 20 => .array (.object "NamedPrices$Text")
  | 21 => .array .byte
  | _ => .array .int
abbrev wsX10 : List Cond := u_ws RX1 TX1 23
set_option maxRecDepth 100000 in
theorem nmX1 : ∀ a, a < 23 → ∀ b, b < 23 → a ≠ b → (TX1 a).2.1 ≠ (TX1 b).2.1 := by decide +kernel
set_option maxRecDepth 100000 in
theorem tyX1_ok : ∀ k, k < 23 → parseFieldDescriptor (TX1 k).2.2.1 = some (tyX1 k) := by decide +kernel
abbrev cX1_init : ByteArray := prog_7_method_1_code
def yX1_init : MethodName := ⟨RX1, "<init>", "()V"⟩
def dkwX1_init_7 : List UInt8 := [167, 255, 234, 177]
abbrev dktX1_init_7 : List UInt8 := dkwX1_init_7 ++ []
def dkwX1_init_6 : List UInt8 := [3, 60, 27, 16, 6, 162, 0, 22, 42, 180, 0, 17, 27, 187, 0, 15, 89, 183, 0, 66, 83, 132, 1, 1]
abbrev dktX1_init_6 : List UInt8 := dkwX1_init_6 ++ dktX1_init_7
def dkwX1_init_5 : List UInt8 := [42, 5, 189, 0, 53, 181, 0, 55, 42, 16, 60, 188, 8, 181, 0, 59, 42, 16, 24, 188, 10, 181, 0, 63]
abbrev dktX1_init_5 : List UInt8 := dkwX1_init_5 ++ dktX1_init_6
def dkwX1_init_4 : List UInt8 := [3, 8, 79, 89, 4, 16, 10, 79, 89, 5, 3, 79, 89, 6, 4, 79, 89, 7, 16, 20, 79, 181, 0, 50]
abbrev dktX1_init_4 : List UInt8 := dkwX1_init_4 ++ dktX1_init_5
def dkwX1_init_3 : List UInt8 := [181, 0, 41, 42, 16, 6, 188, 10, 181, 0, 44, 42, 16, 6, 188, 10, 181, 0, 47, 42, 8, 188, 10, 89]
abbrev dktX1_init_3 : List UInt8 := dkwX1_init_3 ++ dktX1_init_4
def dkwX1_init_2 : List UInt8 := [181, 0, 31, 42, 16, 12, 188, 4, 181, 0, 34, 42, 16, 72, 188, 10, 181, 0, 38, 42, 16, 6, 188, 10]
abbrev dktX1_init_2 : List UInt8 := dkwX1_init_2 ++ dktX1_init_3
def dkwX1_init_1 : List UInt8 := [181, 0, 21, 42, 16, 12, 188, 10, 181, 0, 25, 42, 16, 12, 188, 10, 181, 0, 28, 42, 16, 12, 188, 10]
abbrev dktX1_init_1 : List UInt8 := dkwX1_init_1 ++ dktX1_init_2
def dkwX1_init_0 : List UInt8 := [42, 183, 0, 3, 42, 4, 181, 0, 9, 42, 16, 6, 189, 0, 15, 181, 0, 17, 42, 16, 6, 188, 10]
abbrev dktX1_init_0 : List UInt8 := dkwX1_init_0 ++ dktX1_init_1
theorem dksX1_init_0 : cX1_init.data.toList.drop 0 = dktX1_init_0 := by decide +kernel
theorem dksX1_init_1 : cX1_init.data.toList.drop 23 = dktX1_init_1 := dk_seg dksX1_init_0 23 rfl rfl
theorem dksX1_init_2 : cX1_init.data.toList.drop 47 = dktX1_init_2 := dk_seg dksX1_init_1 24 rfl rfl
theorem dksX1_init_3 : cX1_init.data.toList.drop 71 = dktX1_init_3 := dk_seg dksX1_init_2 24 rfl rfl
theorem dksX1_init_4 : cX1_init.data.toList.drop 95 = dktX1_init_4 := dk_seg dksX1_init_3 24 rfl rfl
theorem dksX1_init_5 : cX1_init.data.toList.drop 119 = dktX1_init_5 := dk_seg dksX1_init_4 24 rfl rfl
theorem dksX1_init_6 : cX1_init.data.toList.drop 143 = dktX1_init_6 := dk_seg dksX1_init_5 24 rfl rfl
theorem dksX1_init_7 : cX1_init.data.toList.drop 167 = dktX1_init_7 := dk_seg dksX1_init_6 24 rfl rfl
theorem dX1_init_0 : decode cX1_init 0 = .ok (.aload_n 0, 1) := dk_42 (dk_at dksX1_init_0 0 rfl rfl)
theorem dX1_init_1 : decode cX1_init 1 = .ok (.invokespecial 3, 3) := dk_183 0 3 (dk_at dksX1_init_0 1 rfl rfl)
theorem dX1_init_4 : decode cX1_init 4 = .ok (.aload_n 0, 1) := dk_42 (dk_at dksX1_init_0 4 rfl rfl)
theorem dX1_init_5 : decode cX1_init 5 = .ok (.iconst 1, 1) := dk_4 (dk_at dksX1_init_0 5 rfl rfl)
theorem dX1_init_6 : decode cX1_init 6 = .ok (.putfield 9, 3) := dk_181 0 9 (dk_at dksX1_init_0 6 rfl rfl)
theorem dX1_init_9 : decode cX1_init 9 = .ok (.aload_n 0, 1) := dk_42 (dk_at dksX1_init_0 9 rfl rfl)
theorem dX1_init_10 : decode cX1_init 10 = .ok (.bipush 6, 2) := dk_16 6 (dk_at dksX1_init_0 10 rfl rfl)
theorem dX1_init_12 : decode cX1_init 12 = .ok (.anewarray 15, 3) := dk_189 0 15 (dk_at dksX1_init_0 12 rfl rfl)
theorem dX1_init_15 : decode cX1_init 15 = .ok (.putfield 17, 3) := dk_181 0 17 (dk_at dksX1_init_0 15 rfl rfl)
theorem dX1_init_18 : decode cX1_init 18 = .ok (.aload_n 0, 1) := dk_42 (dk_at dksX1_init_0 18 rfl rfl)
theorem dX1_init_19 : decode cX1_init 19 = .ok (.bipush 6, 2) := dk_16 6 (dk_at dksX1_init_0 19 rfl rfl)
theorem dX1_init_21 : decode cX1_init 21 = .ok (.newarray .int, 2) := dk_188_10 (dk_at dksX1_init_0 21 rfl rfl)
theorem dX1_init_23 : decode cX1_init 23 = .ok (.putfield 21, 3) := dk_181 0 21 (dk_at dksX1_init_1 0 rfl rfl)
theorem dX1_init_26 : decode cX1_init 26 = .ok (.aload_n 0, 1) := dk_42 (dk_at dksX1_init_1 3 rfl rfl)
theorem dX1_init_27 : decode cX1_init 27 = .ok (.bipush 12, 2) := dk_16 12 (dk_at dksX1_init_1 4 rfl rfl)
theorem dX1_init_29 : decode cX1_init 29 = .ok (.newarray .int, 2) := dk_188_10 (dk_at dksX1_init_1 6 rfl rfl)
theorem dX1_init_31 : decode cX1_init 31 = .ok (.putfield 25, 3) := dk_181 0 25 (dk_at dksX1_init_1 8 rfl rfl)
theorem dX1_init_34 : decode cX1_init 34 = .ok (.aload_n 0, 1) := dk_42 (dk_at dksX1_init_1 11 rfl rfl)
theorem dX1_init_35 : decode cX1_init 35 = .ok (.bipush 12, 2) := dk_16 12 (dk_at dksX1_init_1 12 rfl rfl)
theorem dX1_init_37 : decode cX1_init 37 = .ok (.newarray .int, 2) := dk_188_10 (dk_at dksX1_init_1 14 rfl rfl)
theorem dX1_init_39 : decode cX1_init 39 = .ok (.putfield 28, 3) := dk_181 0 28 (dk_at dksX1_init_1 16 rfl rfl)
theorem dX1_init_42 : decode cX1_init 42 = .ok (.aload_n 0, 1) := dk_42 (dk_at dksX1_init_1 19 rfl rfl)
theorem dX1_init_43 : decode cX1_init 43 = .ok (.bipush 12, 2) := dk_16 12 (dk_at dksX1_init_1 20 rfl rfl)
theorem dX1_init_45 : decode cX1_init 45 = .ok (.newarray .int, 2) := dk_188_10 (dk_at dksX1_init_1 22 rfl rfl)
theorem dX1_init_47 : decode cX1_init 47 = .ok (.putfield 31, 3) := dk_181 0 31 (dk_at dksX1_init_2 0 rfl rfl)
theorem dX1_init_50 : decode cX1_init 50 = .ok (.aload_n 0, 1) := dk_42 (dk_at dksX1_init_2 3 rfl rfl)
theorem dX1_init_51 : decode cX1_init 51 = .ok (.bipush 12, 2) := dk_16 12 (dk_at dksX1_init_2 4 rfl rfl)
theorem dX1_init_53 : decode cX1_init 53 = .ok (.newarray .boolean, 2) := dk_188_4 (dk_at dksX1_init_2 6 rfl rfl)
theorem dX1_init_55 : decode cX1_init 55 = .ok (.putfield 34, 3) := dk_181 0 34 (dk_at dksX1_init_2 8 rfl rfl)
theorem dX1_init_58 : decode cX1_init 58 = .ok (.aload_n 0, 1) := dk_42 (dk_at dksX1_init_2 11 rfl rfl)
theorem dX1_init_59 : decode cX1_init 59 = .ok (.bipush 72, 2) := dk_16 72 (dk_at dksX1_init_2 12 rfl rfl)
theorem dX1_init_61 : decode cX1_init 61 = .ok (.newarray .int, 2) := dk_188_10 (dk_at dksX1_init_2 14 rfl rfl)
theorem dX1_init_63 : decode cX1_init 63 = .ok (.putfield 38, 3) := dk_181 0 38 (dk_at dksX1_init_2 16 rfl rfl)
theorem dX1_init_66 : decode cX1_init 66 = .ok (.aload_n 0, 1) := dk_42 (dk_at dksX1_init_2 19 rfl rfl)
theorem dX1_init_67 : decode cX1_init 67 = .ok (.bipush 6, 2) := dk_16 6 (dk_at dksX1_init_2 20 rfl rfl)
theorem dX1_init_69 : decode cX1_init 69 = .ok (.newarray .int, 2) := dk_188_10 (dk_at dksX1_init_2 22 rfl rfl)
theorem dX1_init_71 : decode cX1_init 71 = .ok (.putfield 41, 3) := dk_181 0 41 (dk_at dksX1_init_3 0 rfl rfl)
theorem dX1_init_74 : decode cX1_init 74 = .ok (.aload_n 0, 1) := dk_42 (dk_at dksX1_init_3 3 rfl rfl)
theorem dX1_init_75 : decode cX1_init 75 = .ok (.bipush 6, 2) := dk_16 6 (dk_at dksX1_init_3 4 rfl rfl)
theorem dX1_init_77 : decode cX1_init 77 = .ok (.newarray .int, 2) := dk_188_10 (dk_at dksX1_init_3 6 rfl rfl)
theorem dX1_init_79 : decode cX1_init 79 = .ok (.putfield 44, 3) := dk_181 0 44 (dk_at dksX1_init_3 8 rfl rfl)
theorem dX1_init_82 : decode cX1_init 82 = .ok (.aload_n 0, 1) := dk_42 (dk_at dksX1_init_3 11 rfl rfl)
theorem dX1_init_83 : decode cX1_init 83 = .ok (.bipush 6, 2) := dk_16 6 (dk_at dksX1_init_3 12 rfl rfl)
theorem dX1_init_85 : decode cX1_init 85 = .ok (.newarray .int, 2) := dk_188_10 (dk_at dksX1_init_3 14 rfl rfl)
theorem dX1_init_87 : decode cX1_init 87 = .ok (.putfield 47, 3) := dk_181 0 47 (dk_at dksX1_init_3 16 rfl rfl)
theorem dX1_init_90 : decode cX1_init 90 = .ok (.aload_n 0, 1) := dk_42 (dk_at dksX1_init_3 19 rfl rfl)
theorem dX1_init_91 : decode cX1_init 91 = .ok (.iconst 5, 1) := dk_8 (dk_at dksX1_init_3 20 rfl rfl)
theorem dX1_init_92 : decode cX1_init 92 = .ok (.newarray .int, 2) := dk_188_10 (dk_at dksX1_init_3 21 rfl rfl)
theorem dX1_init_94 : decode cX1_init 94 = .ok (.dup, 1) := dk_89 (dk_at dksX1_init_3 23 rfl rfl)
theorem dX1_init_95 : decode cX1_init 95 = .ok (.iconst 0, 1) := dk_3 (dk_at dksX1_init_4 0 rfl rfl)
theorem dX1_init_96 : decode cX1_init 96 = .ok (.iconst 5, 1) := dk_8 (dk_at dksX1_init_4 1 rfl rfl)
theorem dX1_init_97 : decode cX1_init 97 = .ok (.iastore, 1) := dk_79 (dk_at dksX1_init_4 2 rfl rfl)
theorem dX1_init_98 : decode cX1_init 98 = .ok (.dup, 1) := dk_89 (dk_at dksX1_init_4 3 rfl rfl)
theorem dX1_init_99 : decode cX1_init 99 = .ok (.iconst 1, 1) := dk_4 (dk_at dksX1_init_4 4 rfl rfl)
theorem dX1_init_100 : decode cX1_init 100 = .ok (.bipush 10, 2) := dk_16 10 (dk_at dksX1_init_4 5 rfl rfl)
theorem dX1_init_102 : decode cX1_init 102 = .ok (.iastore, 1) := dk_79 (dk_at dksX1_init_4 7 rfl rfl)
theorem dX1_init_103 : decode cX1_init 103 = .ok (.dup, 1) := dk_89 (dk_at dksX1_init_4 8 rfl rfl)
theorem dX1_init_104 : decode cX1_init 104 = .ok (.iconst 2, 1) := dk_5 (dk_at dksX1_init_4 9 rfl rfl)
theorem dX1_init_105 : decode cX1_init 105 = .ok (.iconst 0, 1) := dk_3 (dk_at dksX1_init_4 10 rfl rfl)
theorem dX1_init_106 : decode cX1_init 106 = .ok (.iastore, 1) := dk_79 (dk_at dksX1_init_4 11 rfl rfl)
theorem dX1_init_107 : decode cX1_init 107 = .ok (.dup, 1) := dk_89 (dk_at dksX1_init_4 12 rfl rfl)
theorem dX1_init_108 : decode cX1_init 108 = .ok (.iconst 3, 1) := dk_6 (dk_at dksX1_init_4 13 rfl rfl)
theorem dX1_init_109 : decode cX1_init 109 = .ok (.iconst 1, 1) := dk_4 (dk_at dksX1_init_4 14 rfl rfl)
theorem dX1_init_110 : decode cX1_init 110 = .ok (.iastore, 1) := dk_79 (dk_at dksX1_init_4 15 rfl rfl)
theorem dX1_init_111 : decode cX1_init 111 = .ok (.dup, 1) := dk_89 (dk_at dksX1_init_4 16 rfl rfl)
theorem dX1_init_112 : decode cX1_init 112 = .ok (.iconst 4, 1) := dk_7 (dk_at dksX1_init_4 17 rfl rfl)
theorem dX1_init_113 : decode cX1_init 113 = .ok (.bipush 20, 2) := dk_16 20 (dk_at dksX1_init_4 18 rfl rfl)
theorem dX1_init_115 : decode cX1_init 115 = .ok (.iastore, 1) := dk_79 (dk_at dksX1_init_4 20 rfl rfl)
theorem dX1_init_116 : decode cX1_init 116 = .ok (.putfield 50, 3) := dk_181 0 50 (dk_at dksX1_init_4 21 rfl rfl)
theorem dX1_init_119 : decode cX1_init 119 = .ok (.aload_n 0, 1) := dk_42 (dk_at dksX1_init_5 0 rfl rfl)
theorem dX1_init_120 : decode cX1_init 120 = .ok (.iconst 2, 1) := dk_5 (dk_at dksX1_init_5 1 rfl rfl)
theorem dX1_init_121 : decode cX1_init 121 = .ok (.anewarray 53, 3) := dk_189 0 53 (dk_at dksX1_init_5 2 rfl rfl)
theorem dX1_init_124 : decode cX1_init 124 = .ok (.putfield 55, 3) := dk_181 0 55 (dk_at dksX1_init_5 5 rfl rfl)
theorem dX1_init_127 : decode cX1_init 127 = .ok (.aload_n 0, 1) := dk_42 (dk_at dksX1_init_5 8 rfl rfl)
theorem dX1_init_128 : decode cX1_init 128 = .ok (.bipush 60, 2) := dk_16 60 (dk_at dksX1_init_5 9 rfl rfl)
theorem dX1_init_130 : decode cX1_init 130 = .ok (.newarray .byte, 2) := dk_188_8 (dk_at dksX1_init_5 11 rfl rfl)
theorem dX1_init_132 : decode cX1_init 132 = .ok (.putfield 59, 3) := dk_181 0 59 (dk_at dksX1_init_5 13 rfl rfl)
theorem dX1_init_135 : decode cX1_init 135 = .ok (.aload_n 0, 1) := dk_42 (dk_at dksX1_init_5 16 rfl rfl)
theorem dX1_init_136 : decode cX1_init 136 = .ok (.bipush 24, 2) := dk_16 24 (dk_at dksX1_init_5 17 rfl rfl)
theorem dX1_init_138 : decode cX1_init 138 = .ok (.newarray .int, 2) := dk_188_10 (dk_at dksX1_init_5 19 rfl rfl)
theorem dX1_init_140 : decode cX1_init 140 = .ok (.putfield 63, 3) := dk_181 0 63 (dk_at dksX1_init_5 21 rfl rfl)
theorem dX1_init_143 : decode cX1_init 143 = .ok (.iconst 0, 1) := dk_3 (dk_at dksX1_init_6 0 rfl rfl)
theorem dX1_init_144 : decode cX1_init 144 = .ok (.istore_n 1, 1) := dk_60 (dk_at dksX1_init_6 1 rfl rfl)
theorem dX1_init_145 : decode cX1_init 145 = .ok (.iload_n 1, 1) := dk_27 (dk_at dksX1_init_6 2 rfl rfl)
theorem dX1_init_146 : decode cX1_init 146 = .ok (.bipush 6, 2) := dk_16 6 (dk_at dksX1_init_6 3 rfl rfl)
theorem dX1_init_148 : decode cX1_init 148 = .ok (.if_icmp .ge 22, 3) := dk_162 0 22 (dk_at dksX1_init_6 5 rfl rfl)
theorem dX1_init_151 : decode cX1_init 151 = .ok (.aload_n 0, 1) := dk_42 (dk_at dksX1_init_6 8 rfl rfl)
theorem dX1_init_152 : decode cX1_init 152 = .ok (.getfield 17, 3) := dk_180 0 17 (dk_at dksX1_init_6 9 rfl rfl)
theorem dX1_init_155 : decode cX1_init 155 = .ok (.iload_n 1, 1) := dk_27 (dk_at dksX1_init_6 12 rfl rfl)
theorem dX1_init_156 : decode cX1_init 156 = .ok (.new 15, 3) := dk_187 0 15 (dk_at dksX1_init_6 13 rfl rfl)
theorem dX1_init_159 : decode cX1_init 159 = .ok (.dup, 1) := dk_89 (dk_at dksX1_init_6 16 rfl rfl)
theorem dX1_init_160 : decode cX1_init 160 = .ok (.invokespecial 66, 3) := dk_183 0 66 (dk_at dksX1_init_6 17 rfl rfl)
theorem dX1_init_163 : decode cX1_init 163 = .ok (.aastore, 1) := dk_83 (dk_at dksX1_init_6 20 rfl rfl)
theorem dX1_init_164 : decode cX1_init 164 = .ok (.iinc 1 1, 3) := dk_132 1 1 (dk_at dksX1_init_6 21 rfl rfl)
theorem dX1_init_167 : decode cX1_init 167 = .ok (.goto (-22), 3) := dk_167 255 234 (dk_at dksX1_init_7 0 rfl rfl)
theorem dX1_init_170 : decode cX1_init 170 = .ok (.return_, 1) := dk_177 (dk_at dksX1_init_7 3 rfl rfl)
abbrev cX1_at : ByteArray := prog_7_method_3_code
def yX1_at : MethodName := ⟨RX1, "at", "(I)LNamedPrices$Namer;"⟩
def dkwX1_at_0 : List UInt8 := [42, 180, 0, 17, 27, 50, 180, 0, 91, 192, 0, 101, 176]
abbrev dktX1_at_0 : List UInt8 := dkwX1_at_0 ++ []
theorem dksX1_at_0 : cX1_at.data.toList.drop 0 = dktX1_at_0 := by decide +kernel
theorem dX1_at_0 : decode cX1_at 0 = .ok (.aload_n 0, 1) := dk_42 (dk_at dksX1_at_0 0 rfl rfl)
theorem dX1_at_1 : decode cX1_at 1 = .ok (.getfield 17, 3) := dk_180 0 17 (dk_at dksX1_at_0 1 rfl rfl)
theorem dX1_at_4 : decode cX1_at 4 = .ok (.iload_n 1, 1) := dk_27 (dk_at dksX1_at_0 4 rfl rfl)
theorem dX1_at_5 : decode cX1_at 5 = .ok (.aaload, 1) := dk_50 (dk_at dksX1_at_0 5 rfl rfl)
theorem dX1_at_6 : decode cX1_at 6 = .ok (.getfield 91, 3) := dk_180 0 91 (dk_at dksX1_at_0 6 rfl rfl)
theorem dX1_at_9 : decode cX1_at 9 = .ok (.checkcast 101, 3) := dk_192 0 101 (dk_at dksX1_at_0 9 rfl rfl)
theorem dX1_at_12 : decode cX1_at 12 = .ok (.areturn, 1) := dk_176 (dk_at dksX1_at_0 12 rfl rfl)
abbrev cX1_many : ByteArray := prog_7_method_10_code
def yX1_many : MethodName := ⟨RX1, "many", "(I)I"⟩
def dkwX1_many_1 : List UInt8 := [167, 0, 4, 3, 96, 61, 132, 3, 1, 167, 255, 227, 28, 172]
abbrev dktX1_many_1 : List UInt8 := dkwX1_many_1 ++ []
def dkwX1_many_0 : List UInt8 := [3, 61, 3, 62, 29, 42, 180, 0, 70, 162, 0, 27, 28, 42, 180, 0, 25, 29, 46, 27, 160, 0, 7, 4]
abbrev dktX1_many_0 : List UInt8 := dkwX1_many_0 ++ dktX1_many_1
theorem dksX1_many_0 : cX1_many.data.toList.drop 0 = dktX1_many_0 := by decide +kernel
theorem dksX1_many_1 : cX1_many.data.toList.drop 24 = dktX1_many_1 := dk_seg dksX1_many_0 24 rfl rfl
theorem dX1_many_0 : decode cX1_many 0 = .ok (.iconst 0, 1) := dk_3 (dk_at dksX1_many_0 0 rfl rfl)
theorem dX1_many_1 : decode cX1_many 1 = .ok (.istore_n 2, 1) := dk_61 (dk_at dksX1_many_0 1 rfl rfl)
theorem dX1_many_2 : decode cX1_many 2 = .ok (.iconst 0, 1) := dk_3 (dk_at dksX1_many_0 2 rfl rfl)
theorem dX1_many_3 : decode cX1_many 3 = .ok (.istore_n 3, 1) := dk_62 (dk_at dksX1_many_0 3 rfl rfl)
theorem dX1_many_4 : decode cX1_many 4 = .ok (.iload_n 3, 1) := dk_29 (dk_at dksX1_many_0 4 rfl rfl)
theorem dX1_many_5 : decode cX1_many 5 = .ok (.aload_n 0, 1) := dk_42 (dk_at dksX1_many_0 5 rfl rfl)
theorem dX1_many_6 : decode cX1_many 6 = .ok (.getfield 70, 3) := dk_180 0 70 (dk_at dksX1_many_0 6 rfl rfl)
theorem dX1_many_9 : decode cX1_many 9 = .ok (.if_icmp .ge 27, 3) := dk_162 0 27 (dk_at dksX1_many_0 9 rfl rfl)
theorem dX1_many_12 : decode cX1_many 12 = .ok (.iload_n 2, 1) := dk_28 (dk_at dksX1_many_0 12 rfl rfl)
theorem dX1_many_13 : decode cX1_many 13 = .ok (.aload_n 0, 1) := dk_42 (dk_at dksX1_many_0 13 rfl rfl)
theorem dX1_many_14 : decode cX1_many 14 = .ok (.getfield 25, 3) := dk_180 0 25 (dk_at dksX1_many_0 14 rfl rfl)
theorem dX1_many_17 : decode cX1_many 17 = .ok (.iload_n 3, 1) := dk_29 (dk_at dksX1_many_0 17 rfl rfl)
theorem dX1_many_18 : decode cX1_many 18 = .ok (.iaload, 1) := dk_46 (dk_at dksX1_many_0 18 rfl rfl)
theorem dX1_many_19 : decode cX1_many 19 = .ok (.iload_n 1, 1) := dk_27 (dk_at dksX1_many_0 19 rfl rfl)
theorem dX1_many_20 : decode cX1_many 20 = .ok (.if_icmp .ne 7, 3) := dk_160 0 7 (dk_at dksX1_many_0 20 rfl rfl)
theorem dX1_many_23 : decode cX1_many 23 = .ok (.iconst 1, 1) := dk_4 (dk_at dksX1_many_0 23 rfl rfl)
theorem dX1_many_24 : decode cX1_many 24 = .ok (.goto 4, 3) := dk_167 0 4 (dk_at dksX1_many_1 0 rfl rfl)
theorem dX1_many_27 : decode cX1_many 27 = .ok (.iconst 0, 1) := dk_3 (dk_at dksX1_many_1 3 rfl rfl)
theorem dX1_many_28 : decode cX1_many 28 = .ok (.iadd, 1) := dk_96 (dk_at dksX1_many_1 4 rfl rfl)
theorem dX1_many_29 : decode cX1_many 29 = .ok (.istore_n 2, 1) := dk_61 (dk_at dksX1_many_1 5 rfl rfl)
theorem dX1_many_30 : decode cX1_many 30 = .ok (.iinc 3 1, 3) := dk_132 3 1 (dk_at dksX1_many_1 6 rfl rfl)
theorem dX1_many_33 : decode cX1_many 33 = .ok (.goto (-29), 3) := dk_167 255 227 (dk_at dksX1_many_1 9 rfl rfl)
theorem dX1_many_36 : decode cX1_many 36 = .ok (.iload_n 2, 1) := dk_28 (dk_at dksX1_many_1 12 rfl rfl)
theorem dX1_many_37 : decode cX1_many 37 = .ok (.ireturn, 1) := dk_172 (dk_at dksX1_many_1 13 rfl rfl)
abbrev cX1_kept : ByteArray := prog_7_method_9_code
def yX1_kept : MethodName := ⟨RX1, "kept", "(I)I"⟩
def dkwX1_kept_1 : List UInt8 := [180, 0, 34, 29, 51, 153, 0, 7, 4, 167, 0, 4, 3, 96, 61, 132, 3, 1, 167, 255, 218, 28, 172]
abbrev dktX1_kept_1 : List UInt8 := dkwX1_kept_1 ++ []
def dkwX1_kept_0 : List UInt8 := [3, 61, 3, 62, 29, 42, 180, 0, 70, 162, 0, 36, 28, 42, 180, 0, 25, 29, 46, 27, 160, 0, 16, 42]
abbrev dktX1_kept_0 : List UInt8 := dkwX1_kept_0 ++ dktX1_kept_1
theorem dksX1_kept_0 : cX1_kept.data.toList.drop 0 = dktX1_kept_0 := by decide +kernel
theorem dksX1_kept_1 : cX1_kept.data.toList.drop 24 = dktX1_kept_1 := dk_seg dksX1_kept_0 24 rfl rfl
theorem dX1_kept_0 : decode cX1_kept 0 = .ok (.iconst 0, 1) := dk_3 (dk_at dksX1_kept_0 0 rfl rfl)
theorem dX1_kept_1 : decode cX1_kept 1 = .ok (.istore_n 2, 1) := dk_61 (dk_at dksX1_kept_0 1 rfl rfl)
theorem dX1_kept_2 : decode cX1_kept 2 = .ok (.iconst 0, 1) := dk_3 (dk_at dksX1_kept_0 2 rfl rfl)
theorem dX1_kept_3 : decode cX1_kept 3 = .ok (.istore_n 3, 1) := dk_62 (dk_at dksX1_kept_0 3 rfl rfl)
theorem dX1_kept_4 : decode cX1_kept 4 = .ok (.iload_n 3, 1) := dk_29 (dk_at dksX1_kept_0 4 rfl rfl)
theorem dX1_kept_5 : decode cX1_kept 5 = .ok (.aload_n 0, 1) := dk_42 (dk_at dksX1_kept_0 5 rfl rfl)
theorem dX1_kept_6 : decode cX1_kept 6 = .ok (.getfield 70, 3) := dk_180 0 70 (dk_at dksX1_kept_0 6 rfl rfl)
theorem dX1_kept_9 : decode cX1_kept 9 = .ok (.if_icmp .ge 36, 3) := dk_162 0 36 (dk_at dksX1_kept_0 9 rfl rfl)
theorem dX1_kept_12 : decode cX1_kept 12 = .ok (.iload_n 2, 1) := dk_28 (dk_at dksX1_kept_0 12 rfl rfl)
theorem dX1_kept_13 : decode cX1_kept 13 = .ok (.aload_n 0, 1) := dk_42 (dk_at dksX1_kept_0 13 rfl rfl)
theorem dX1_kept_14 : decode cX1_kept 14 = .ok (.getfield 25, 3) := dk_180 0 25 (dk_at dksX1_kept_0 14 rfl rfl)
theorem dX1_kept_17 : decode cX1_kept 17 = .ok (.iload_n 3, 1) := dk_29 (dk_at dksX1_kept_0 17 rfl rfl)
theorem dX1_kept_18 : decode cX1_kept 18 = .ok (.iaload, 1) := dk_46 (dk_at dksX1_kept_0 18 rfl rfl)
theorem dX1_kept_19 : decode cX1_kept 19 = .ok (.iload_n 1, 1) := dk_27 (dk_at dksX1_kept_0 19 rfl rfl)
theorem dX1_kept_20 : decode cX1_kept 20 = .ok (.if_icmp .ne 16, 3) := dk_160 0 16 (dk_at dksX1_kept_0 20 rfl rfl)
theorem dX1_kept_23 : decode cX1_kept 23 = .ok (.aload_n 0, 1) := dk_42 (dk_at dksX1_kept_0 23 rfl rfl)
theorem dX1_kept_24 : decode cX1_kept 24 = .ok (.getfield 34, 3) := dk_180 0 34 (dk_at dksX1_kept_1 0 rfl rfl)
theorem dX1_kept_27 : decode cX1_kept 27 = .ok (.iload_n 3, 1) := dk_29 (dk_at dksX1_kept_1 3 rfl rfl)
theorem dX1_kept_28 : decode cX1_kept 28 = .ok (.baload, 1) := dk_51 (dk_at dksX1_kept_1 4 rfl rfl)
theorem dX1_kept_29 : decode cX1_kept 29 = .ok (.ifCond .eq 7, 3) := dk_153 0 7 (dk_at dksX1_kept_1 5 rfl rfl)
theorem dX1_kept_32 : decode cX1_kept 32 = .ok (.iconst 1, 1) := dk_4 (dk_at dksX1_kept_1 8 rfl rfl)
theorem dX1_kept_33 : decode cX1_kept 33 = .ok (.goto 4, 3) := dk_167 0 4 (dk_at dksX1_kept_1 9 rfl rfl)
theorem dX1_kept_36 : decode cX1_kept 36 = .ok (.iconst 0, 1) := dk_3 (dk_at dksX1_kept_1 12 rfl rfl)
theorem dX1_kept_37 : decode cX1_kept 37 = .ok (.iadd, 1) := dk_96 (dk_at dksX1_kept_1 13 rfl rfl)
theorem dX1_kept_38 : decode cX1_kept 38 = .ok (.istore_n 2, 1) := dk_61 (dk_at dksX1_kept_1 14 rfl rfl)
theorem dX1_kept_39 : decode cX1_kept 39 = .ok (.iinc 3 1, 3) := dk_132 3 1 (dk_at dksX1_kept_1 15 rfl rfl)
theorem dX1_kept_42 : decode cX1_kept 42 = .ok (.goto (-38), 3) := dk_167 255 218 (dk_at dksX1_kept_1 18 rfl rfl)
theorem dX1_kept_45 : decode cX1_kept 45 = .ok (.iload_n 2, 1) := dk_28 (dk_at dksX1_kept_1 21 rfl rfl)
theorem dX1_kept_46 : decode cX1_kept 46 = .ok (.ireturn, 1) := dk_172 (dk_at dksX1_kept_1 22 rfl rfl)
abbrev cX1_lacks : ByteArray := prog_7_method_12_code
def yX1_lacks : MethodName := ⟨RX1, "lacks", "(I)I"⟩
def dkwX1_lacks_3 : List UInt8 := [172]
abbrev dktX1_lacks_3 : List UInt8 := dkwX1_lacks_3 ++ []
def dkwX1_lacks_2 : List UInt8 := [4, 167, 0, 4, 3, 159, 0, 9, 4, 29, 120, 167, 0, 4, 3, 128, 61, 132, 3, 1, 167, 255, 192, 28]
abbrev dktX1_lacks_2 : List UInt8 := dkwX1_lacks_2 ++ dktX1_lacks_3
def dkwX1_lacks_1 : List UInt8 := [27, 160, 0, 7, 4, 167, 0, 4, 3, 42, 180, 0, 25, 42, 180, 0, 44, 29, 46, 46, 27, 160, 0, 7]
abbrev dktX1_lacks_1 : List UInt8 := dkwX1_lacks_1 ++ dktX1_lacks_2
def dkwX1_lacks_0 : List UInt8 := [3, 61, 3, 62, 29, 42, 180, 0, 73, 162, 0, 62, 28, 42, 180, 0, 25, 42, 180, 0, 41, 29, 46, 46]
abbrev dktX1_lacks_0 : List UInt8 := dkwX1_lacks_0 ++ dktX1_lacks_1
theorem dksX1_lacks_0 : cX1_lacks.data.toList.drop 0 = dktX1_lacks_0 := by decide +kernel
theorem dksX1_lacks_1 : cX1_lacks.data.toList.drop 24 = dktX1_lacks_1 := dk_seg dksX1_lacks_0 24 rfl rfl
theorem dksX1_lacks_2 : cX1_lacks.data.toList.drop 48 = dktX1_lacks_2 := dk_seg dksX1_lacks_1 24 rfl rfl
theorem dksX1_lacks_3 : cX1_lacks.data.toList.drop 72 = dktX1_lacks_3 := dk_seg dksX1_lacks_2 24 rfl rfl
theorem dX1_lacks_0 : decode cX1_lacks 0 = .ok (.iconst 0, 1) := dk_3 (dk_at dksX1_lacks_0 0 rfl rfl)
theorem dX1_lacks_1 : decode cX1_lacks 1 = .ok (.istore_n 2, 1) := dk_61 (dk_at dksX1_lacks_0 1 rfl rfl)
theorem dX1_lacks_2 : decode cX1_lacks 2 = .ok (.iconst 0, 1) := dk_3 (dk_at dksX1_lacks_0 2 rfl rfl)
theorem dX1_lacks_3 : decode cX1_lacks 3 = .ok (.istore_n 3, 1) := dk_62 (dk_at dksX1_lacks_0 3 rfl rfl)
theorem dX1_lacks_4 : decode cX1_lacks 4 = .ok (.iload_n 3, 1) := dk_29 (dk_at dksX1_lacks_0 4 rfl rfl)
theorem dX1_lacks_5 : decode cX1_lacks 5 = .ok (.aload_n 0, 1) := dk_42 (dk_at dksX1_lacks_0 5 rfl rfl)
theorem dX1_lacks_6 : decode cX1_lacks 6 = .ok (.getfield 73, 3) := dk_180 0 73 (dk_at dksX1_lacks_0 6 rfl rfl)
theorem dX1_lacks_9 : decode cX1_lacks 9 = .ok (.if_icmp .ge 62, 3) := dk_162 0 62 (dk_at dksX1_lacks_0 9 rfl rfl)
theorem dX1_lacks_12 : decode cX1_lacks 12 = .ok (.iload_n 2, 1) := dk_28 (dk_at dksX1_lacks_0 12 rfl rfl)
theorem dX1_lacks_13 : decode cX1_lacks 13 = .ok (.aload_n 0, 1) := dk_42 (dk_at dksX1_lacks_0 13 rfl rfl)
theorem dX1_lacks_14 : decode cX1_lacks 14 = .ok (.getfield 25, 3) := dk_180 0 25 (dk_at dksX1_lacks_0 14 rfl rfl)
theorem dX1_lacks_17 : decode cX1_lacks 17 = .ok (.aload_n 0, 1) := dk_42 (dk_at dksX1_lacks_0 17 rfl rfl)
theorem dX1_lacks_18 : decode cX1_lacks 18 = .ok (.getfield 41, 3) := dk_180 0 41 (dk_at dksX1_lacks_0 18 rfl rfl)
theorem dX1_lacks_21 : decode cX1_lacks 21 = .ok (.iload_n 3, 1) := dk_29 (dk_at dksX1_lacks_0 21 rfl rfl)
theorem dX1_lacks_22 : decode cX1_lacks 22 = .ok (.iaload, 1) := dk_46 (dk_at dksX1_lacks_0 22 rfl rfl)
theorem dX1_lacks_23 : decode cX1_lacks 23 = .ok (.iaload, 1) := dk_46 (dk_at dksX1_lacks_0 23 rfl rfl)
theorem dX1_lacks_24 : decode cX1_lacks 24 = .ok (.iload_n 1, 1) := dk_27 (dk_at dksX1_lacks_1 0 rfl rfl)
theorem dX1_lacks_25 : decode cX1_lacks 25 = .ok (.if_icmp .ne 7, 3) := dk_160 0 7 (dk_at dksX1_lacks_1 1 rfl rfl)
theorem dX1_lacks_28 : decode cX1_lacks 28 = .ok (.iconst 1, 1) := dk_4 (dk_at dksX1_lacks_1 4 rfl rfl)
theorem dX1_lacks_29 : decode cX1_lacks 29 = .ok (.goto 4, 3) := dk_167 0 4 (dk_at dksX1_lacks_1 5 rfl rfl)
theorem dX1_lacks_32 : decode cX1_lacks 32 = .ok (.iconst 0, 1) := dk_3 (dk_at dksX1_lacks_1 8 rfl rfl)
theorem dX1_lacks_33 : decode cX1_lacks 33 = .ok (.aload_n 0, 1) := dk_42 (dk_at dksX1_lacks_1 9 rfl rfl)
theorem dX1_lacks_34 : decode cX1_lacks 34 = .ok (.getfield 25, 3) := dk_180 0 25 (dk_at dksX1_lacks_1 10 rfl rfl)
theorem dX1_lacks_37 : decode cX1_lacks 37 = .ok (.aload_n 0, 1) := dk_42 (dk_at dksX1_lacks_1 13 rfl rfl)
theorem dX1_lacks_38 : decode cX1_lacks 38 = .ok (.getfield 44, 3) := dk_180 0 44 (dk_at dksX1_lacks_1 14 rfl rfl)
theorem dX1_lacks_41 : decode cX1_lacks 41 = .ok (.iload_n 3, 1) := dk_29 (dk_at dksX1_lacks_1 17 rfl rfl)
theorem dX1_lacks_42 : decode cX1_lacks 42 = .ok (.iaload, 1) := dk_46 (dk_at dksX1_lacks_1 18 rfl rfl)
theorem dX1_lacks_43 : decode cX1_lacks 43 = .ok (.iaload, 1) := dk_46 (dk_at dksX1_lacks_1 19 rfl rfl)
theorem dX1_lacks_44 : decode cX1_lacks 44 = .ok (.iload_n 1, 1) := dk_27 (dk_at dksX1_lacks_1 20 rfl rfl)
theorem dX1_lacks_45 : decode cX1_lacks 45 = .ok (.if_icmp .ne 7, 3) := dk_160 0 7 (dk_at dksX1_lacks_1 21 rfl rfl)
theorem dX1_lacks_48 : decode cX1_lacks 48 = .ok (.iconst 1, 1) := dk_4 (dk_at dksX1_lacks_2 0 rfl rfl)
theorem dX1_lacks_49 : decode cX1_lacks 49 = .ok (.goto 4, 3) := dk_167 0 4 (dk_at dksX1_lacks_2 1 rfl rfl)
theorem dX1_lacks_52 : decode cX1_lacks 52 = .ok (.iconst 0, 1) := dk_3 (dk_at dksX1_lacks_2 4 rfl rfl)
theorem dX1_lacks_53 : decode cX1_lacks 53 = .ok (.if_icmp .eq 9, 3) := dk_159 0 9 (dk_at dksX1_lacks_2 5 rfl rfl)
theorem dX1_lacks_56 : decode cX1_lacks 56 = .ok (.iconst 1, 1) := dk_4 (dk_at dksX1_lacks_2 8 rfl rfl)
theorem dX1_lacks_57 : decode cX1_lacks 57 = .ok (.iload_n 3, 1) := dk_29 (dk_at dksX1_lacks_2 9 rfl rfl)
theorem dX1_lacks_58 : decode cX1_lacks 58 = .ok (.ishl, 1) := dk_120 (dk_at dksX1_lacks_2 10 rfl rfl)
theorem dX1_lacks_59 : decode cX1_lacks 59 = .ok (.goto 4, 3) := dk_167 0 4 (dk_at dksX1_lacks_2 11 rfl rfl)
theorem dX1_lacks_62 : decode cX1_lacks 62 = .ok (.iconst 0, 1) := dk_3 (dk_at dksX1_lacks_2 14 rfl rfl)
theorem dX1_lacks_63 : decode cX1_lacks 63 = .ok (.ior, 1) := dk_128 (dk_at dksX1_lacks_2 15 rfl rfl)
theorem dX1_lacks_64 : decode cX1_lacks 64 = .ok (.istore_n 2, 1) := dk_61 (dk_at dksX1_lacks_2 16 rfl rfl)
theorem dX1_lacks_65 : decode cX1_lacks 65 = .ok (.iinc 3 1, 3) := dk_132 3 1 (dk_at dksX1_lacks_2 17 rfl rfl)
theorem dX1_lacks_68 : decode cX1_lacks 68 = .ok (.goto (-64), 3) := dk_167 255 192 (dk_at dksX1_lacks_2 20 rfl rfl)
theorem dX1_lacks_71 : decode cX1_lacks 71 = .ok (.iload_n 2, 1) := dk_28 (dk_at dksX1_lacks_2 23 rfl rfl)
theorem dX1_lacks_72 : decode cX1_lacks 72 = .ok (.ireturn, 1) := dk_172 (dk_at dksX1_lacks_3 0 rfl rfl)
abbrev cX1_own : ByteArray := prog_7_method_5_code
def yX1_own : MethodName := ⟨RX1, "own", "(I)I"⟩
def dkwX1_own_0 : List UInt8 := [42, 42, 180, 0, 25, 27, 46, 27, 182, 0, 103, 172]
abbrev dktX1_own_0 : List UInt8 := dkwX1_own_0 ++ []
theorem dksX1_own_0 : cX1_own.data.toList.drop 0 = dktX1_own_0 := by decide +kernel
theorem dX1_own_0 : decode cX1_own 0 = .ok (.aload_n 0, 1) := dk_42 (dk_at dksX1_own_0 0 rfl rfl)
theorem dX1_own_1 : decode cX1_own 1 = .ok (.aload_n 0, 1) := dk_42 (dk_at dksX1_own_0 1 rfl rfl)
theorem dX1_own_2 : decode cX1_own 2 = .ok (.getfield 25, 3) := dk_180 0 25 (dk_at dksX1_own_0 2 rfl rfl)
theorem dX1_own_5 : decode cX1_own 5 = .ok (.iload_n 1, 1) := dk_27 (dk_at dksX1_own_0 5 rfl rfl)
theorem dX1_own_6 : decode cX1_own 6 = .ok (.iaload, 1) := dk_46 (dk_at dksX1_own_0 6 rfl rfl)
theorem dX1_own_7 : decode cX1_own 7 = .ok (.iload_n 1, 1) := dk_27 (dk_at dksX1_own_0 7 rfl rfl)
theorem dX1_own_8 : decode cX1_own 8 = .ok (.invokevirtual 103, 3) := dk_182 0 103 (dk_at dksX1_own_0 8 rfl rfl)
theorem dX1_own_11 : decode cX1_own 11 = .ok (.ireturn, 1) := dk_172 (dk_at dksX1_own_0 11 rfl rfl)
abbrev cX1_value : ByteArray := prog_7_method_4_code
def yX1_value : MethodName := ⟨RX1, "value", "(II)I"⟩
def dkwX1_value_0 : List UInt8 := [42, 180, 0, 38, 16, 12, 27, 104, 28, 96, 46, 42, 180, 0, 31, 28, 46, 104, 16, 100, 108, 172]
abbrev dktX1_value_0 : List UInt8 := dkwX1_value_0 ++ []
theorem dksX1_value_0 : cX1_value.data.toList.drop 0 = dktX1_value_0 := by decide +kernel
theorem dX1_value_0 : decode cX1_value 0 = .ok (.aload_n 0, 1) := dk_42 (dk_at dksX1_value_0 0 rfl rfl)
theorem dX1_value_1 : decode cX1_value 1 = .ok (.getfield 38, 3) := dk_180 0 38 (dk_at dksX1_value_0 1 rfl rfl)
theorem dX1_value_4 : decode cX1_value 4 = .ok (.bipush 12, 2) := dk_16 12 (dk_at dksX1_value_0 4 rfl rfl)
theorem dX1_value_6 : decode cX1_value 6 = .ok (.iload_n 1, 1) := dk_27 (dk_at dksX1_value_0 6 rfl rfl)
theorem dX1_value_7 : decode cX1_value 7 = .ok (.imul, 1) := dk_104 (dk_at dksX1_value_0 7 rfl rfl)
theorem dX1_value_8 : decode cX1_value 8 = .ok (.iload_n 2, 1) := dk_28 (dk_at dksX1_value_0 8 rfl rfl)
theorem dX1_value_9 : decode cX1_value 9 = .ok (.iadd, 1) := dk_96 (dk_at dksX1_value_0 9 rfl rfl)
theorem dX1_value_10 : decode cX1_value 10 = .ok (.iaload, 1) := dk_46 (dk_at dksX1_value_0 10 rfl rfl)
theorem dX1_value_11 : decode cX1_value 11 = .ok (.aload_n 0, 1) := dk_42 (dk_at dksX1_value_0 11 rfl rfl)
theorem dX1_value_12 : decode cX1_value 12 = .ok (.getfield 31, 3) := dk_180 0 31 (dk_at dksX1_value_0 12 rfl rfl)
theorem dX1_value_15 : decode cX1_value 15 = .ok (.iload_n 2, 1) := dk_28 (dk_at dksX1_value_0 15 rfl rfl)
theorem dX1_value_16 : decode cX1_value 16 = .ok (.iaload, 1) := dk_46 (dk_at dksX1_value_0 16 rfl rfl)
theorem dX1_value_17 : decode cX1_value 17 = .ok (.imul, 1) := dk_104 (dk_at dksX1_value_0 17 rfl rfl)
theorem dX1_value_18 : decode cX1_value 18 = .ok (.bipush 100, 2) := dk_16 100 (dk_at dksX1_value_0 18 rfl rfl)
theorem dX1_value_20 : decode cX1_value 20 = .ok (.idiv, 1) := dk_108 (dk_at dksX1_value_0 20 rfl rfl)
theorem dX1_value_21 : decode cX1_value 21 = .ok (.ireturn, 1) := dk_172 (dk_at dksX1_value_0 21 rfl rfl)
abbrev cX1_dearest : ByteArray := prog_7_method_7_code
def yX1_dearest : MethodName := ⟨RX1, "dearest", "(I)I"⟩
def dkwX1_dearest_1 : List UInt8 := [164, 0, 7, 29, 167, 0, 4, 28, 61, 132, 3, 1, 167, 255, 224, 28, 172]
abbrev dktX1_dearest_1 : List UInt8 := dkwX1_dearest_1 ++ []
def dkwX1_dearest_0 : List UInt8 := [3, 61, 4, 62, 29, 42, 180, 0, 67, 162, 0, 30, 42, 29, 27, 182, 0, 103, 42, 28, 27, 182, 0, 103]
abbrev dktX1_dearest_0 : List UInt8 := dkwX1_dearest_0 ++ dktX1_dearest_1
theorem dksX1_dearest_0 : cX1_dearest.data.toList.drop 0 = dktX1_dearest_0 := by decide +kernel
theorem dksX1_dearest_1 : cX1_dearest.data.toList.drop 24 = dktX1_dearest_1 := dk_seg dksX1_dearest_0 24 rfl rfl
theorem dX1_dearest_0 : decode cX1_dearest 0 = .ok (.iconst 0, 1) := dk_3 (dk_at dksX1_dearest_0 0 rfl rfl)
theorem dX1_dearest_1 : decode cX1_dearest 1 = .ok (.istore_n 2, 1) := dk_61 (dk_at dksX1_dearest_0 1 rfl rfl)
theorem dX1_dearest_2 : decode cX1_dearest 2 = .ok (.iconst 1, 1) := dk_4 (dk_at dksX1_dearest_0 2 rfl rfl)
theorem dX1_dearest_3 : decode cX1_dearest 3 = .ok (.istore_n 3, 1) := dk_62 (dk_at dksX1_dearest_0 3 rfl rfl)
theorem dX1_dearest_4 : decode cX1_dearest 4 = .ok (.iload_n 3, 1) := dk_29 (dk_at dksX1_dearest_0 4 rfl rfl)
theorem dX1_dearest_5 : decode cX1_dearest 5 = .ok (.aload_n 0, 1) := dk_42 (dk_at dksX1_dearest_0 5 rfl rfl)
theorem dX1_dearest_6 : decode cX1_dearest 6 = .ok (.getfield 67, 3) := dk_180 0 67 (dk_at dksX1_dearest_0 6 rfl rfl)
theorem dX1_dearest_9 : decode cX1_dearest 9 = .ok (.if_icmp .ge 30, 3) := dk_162 0 30 (dk_at dksX1_dearest_0 9 rfl rfl)
theorem dX1_dearest_12 : decode cX1_dearest 12 = .ok (.aload_n 0, 1) := dk_42 (dk_at dksX1_dearest_0 12 rfl rfl)
theorem dX1_dearest_13 : decode cX1_dearest 13 = .ok (.iload_n 3, 1) := dk_29 (dk_at dksX1_dearest_0 13 rfl rfl)
theorem dX1_dearest_14 : decode cX1_dearest 14 = .ok (.iload_n 1, 1) := dk_27 (dk_at dksX1_dearest_0 14 rfl rfl)
theorem dX1_dearest_15 : decode cX1_dearest 15 = .ok (.invokevirtual 103, 3) := dk_182 0 103 (dk_at dksX1_dearest_0 15 rfl rfl)
theorem dX1_dearest_18 : decode cX1_dearest 18 = .ok (.aload_n 0, 1) := dk_42 (dk_at dksX1_dearest_0 18 rfl rfl)
theorem dX1_dearest_19 : decode cX1_dearest 19 = .ok (.iload_n 2, 1) := dk_28 (dk_at dksX1_dearest_0 19 rfl rfl)
theorem dX1_dearest_20 : decode cX1_dearest 20 = .ok (.iload_n 1, 1) := dk_27 (dk_at dksX1_dearest_0 20 rfl rfl)
theorem dX1_dearest_21 : decode cX1_dearest 21 = .ok (.invokevirtual 103, 3) := dk_182 0 103 (dk_at dksX1_dearest_0 21 rfl rfl)
theorem dX1_dearest_24 : decode cX1_dearest 24 = .ok (.if_icmp .le 7, 3) := dk_164 0 7 (dk_at dksX1_dearest_1 0 rfl rfl)
theorem dX1_dearest_27 : decode cX1_dearest 27 = .ok (.iload_n 3, 1) := dk_29 (dk_at dksX1_dearest_1 3 rfl rfl)
theorem dX1_dearest_28 : decode cX1_dearest 28 = .ok (.goto 4, 3) := dk_167 0 4 (dk_at dksX1_dearest_1 4 rfl rfl)
theorem dX1_dearest_31 : decode cX1_dearest 31 = .ok (.iload_n 2, 1) := dk_28 (dk_at dksX1_dearest_1 7 rfl rfl)
theorem dX1_dearest_32 : decode cX1_dearest 32 = .ok (.istore_n 2, 1) := dk_61 (dk_at dksX1_dearest_1 8 rfl rfl)
theorem dX1_dearest_33 : decode cX1_dearest 33 = .ok (.iinc 3 1, 3) := dk_132 3 1 (dk_at dksX1_dearest_1 9 rfl rfl)
theorem dX1_dearest_36 : decode cX1_dearest 36 = .ok (.goto (-32), 3) := dk_167 255 224 (dk_at dksX1_dearest_1 12 rfl rfl)
theorem dX1_dearest_39 : decode cX1_dearest 39 = .ok (.iload_n 2, 1) := dk_28 (dk_at dksX1_dearest_1 15 rfl rfl)
theorem dX1_dearest_40 : decode cX1_dearest 40 = .ok (.ireturn, 1) := dk_172 (dk_at dksX1_dearest_1 16 rfl rfl)
abbrev cX1_hasBonus : ByteArray := prog_7_method_11_code
def yX1_hasBonus : MethodName := ⟨RX1, "hasBonus", "(I)I"⟩
def dkwX1_hasBonus_2 : List UInt8 := [161, 0, 12, 42, 180, 0, 25, 28, 46, 167, 0, 4, 2, 172]
abbrev dktX1_hasBonus_2 : List UInt8 := dkwX1_hasBonus_2 ++ []
def dkwX1_hasBonus_1 : List UInt8 := [29, 46, 160, 0, 34, 42, 180, 0, 31, 28, 46, 16, 50, 161, 0, 23, 42, 180, 0, 31, 29, 46, 16, 50]
abbrev dktX1_hasBonus_1 : List UInt8 := dkwX1_hasBonus_1 ++ dktX1_hasBonus_2
def dkwX1_hasBonus_0 : List UInt8 := [42, 180, 0, 41, 27, 46, 61, 42, 180, 0, 44, 27, 46, 62, 42, 180, 0, 25, 28, 46, 42, 180, 0, 25]
abbrev dktX1_hasBonus_0 : List UInt8 := dkwX1_hasBonus_0 ++ dktX1_hasBonus_1
theorem dksX1_hasBonus_0 : cX1_hasBonus.data.toList.drop 0 = dktX1_hasBonus_0 := by decide +kernel
theorem dksX1_hasBonus_1 : cX1_hasBonus.data.toList.drop 24 = dktX1_hasBonus_1 := dk_seg dksX1_hasBonus_0 24 rfl rfl
theorem dksX1_hasBonus_2 : cX1_hasBonus.data.toList.drop 48 = dktX1_hasBonus_2 := dk_seg dksX1_hasBonus_1 24 rfl rfl
theorem dX1_hasBonus_0 : decode cX1_hasBonus 0 = .ok (.aload_n 0, 1) := dk_42 (dk_at dksX1_hasBonus_0 0 rfl rfl)
theorem dX1_hasBonus_1 : decode cX1_hasBonus 1 = .ok (.getfield 41, 3) := dk_180 0 41 (dk_at dksX1_hasBonus_0 1 rfl rfl)
theorem dX1_hasBonus_4 : decode cX1_hasBonus 4 = .ok (.iload_n 1, 1) := dk_27 (dk_at dksX1_hasBonus_0 4 rfl rfl)
theorem dX1_hasBonus_5 : decode cX1_hasBonus 5 = .ok (.iaload, 1) := dk_46 (dk_at dksX1_hasBonus_0 5 rfl rfl)
theorem dX1_hasBonus_6 : decode cX1_hasBonus 6 = .ok (.istore_n 2, 1) := dk_61 (dk_at dksX1_hasBonus_0 6 rfl rfl)
theorem dX1_hasBonus_7 : decode cX1_hasBonus 7 = .ok (.aload_n 0, 1) := dk_42 (dk_at dksX1_hasBonus_0 7 rfl rfl)
theorem dX1_hasBonus_8 : decode cX1_hasBonus 8 = .ok (.getfield 44, 3) := dk_180 0 44 (dk_at dksX1_hasBonus_0 8 rfl rfl)
theorem dX1_hasBonus_11 : decode cX1_hasBonus 11 = .ok (.iload_n 1, 1) := dk_27 (dk_at dksX1_hasBonus_0 11 rfl rfl)
theorem dX1_hasBonus_12 : decode cX1_hasBonus 12 = .ok (.iaload, 1) := dk_46 (dk_at dksX1_hasBonus_0 12 rfl rfl)
theorem dX1_hasBonus_13 : decode cX1_hasBonus 13 = .ok (.istore_n 3, 1) := dk_62 (dk_at dksX1_hasBonus_0 13 rfl rfl)
theorem dX1_hasBonus_14 : decode cX1_hasBonus 14 = .ok (.aload_n 0, 1) := dk_42 (dk_at dksX1_hasBonus_0 14 rfl rfl)
theorem dX1_hasBonus_15 : decode cX1_hasBonus 15 = .ok (.getfield 25, 3) := dk_180 0 25 (dk_at dksX1_hasBonus_0 15 rfl rfl)
theorem dX1_hasBonus_18 : decode cX1_hasBonus 18 = .ok (.iload_n 2, 1) := dk_28 (dk_at dksX1_hasBonus_0 18 rfl rfl)
theorem dX1_hasBonus_19 : decode cX1_hasBonus 19 = .ok (.iaload, 1) := dk_46 (dk_at dksX1_hasBonus_0 19 rfl rfl)
theorem dX1_hasBonus_20 : decode cX1_hasBonus 20 = .ok (.aload_n 0, 1) := dk_42 (dk_at dksX1_hasBonus_0 20 rfl rfl)
theorem dX1_hasBonus_21 : decode cX1_hasBonus 21 = .ok (.getfield 25, 3) := dk_180 0 25 (dk_at dksX1_hasBonus_0 21 rfl rfl)
theorem dX1_hasBonus_24 : decode cX1_hasBonus 24 = .ok (.iload_n 3, 1) := dk_29 (dk_at dksX1_hasBonus_1 0 rfl rfl)
theorem dX1_hasBonus_25 : decode cX1_hasBonus 25 = .ok (.iaload, 1) := dk_46 (dk_at dksX1_hasBonus_1 1 rfl rfl)
theorem dX1_hasBonus_26 : decode cX1_hasBonus 26 = .ok (.if_icmp .ne 34, 3) := dk_160 0 34 (dk_at dksX1_hasBonus_1 2 rfl rfl)
theorem dX1_hasBonus_29 : decode cX1_hasBonus 29 = .ok (.aload_n 0, 1) := dk_42 (dk_at dksX1_hasBonus_1 5 rfl rfl)
theorem dX1_hasBonus_30 : decode cX1_hasBonus 30 = .ok (.getfield 31, 3) := dk_180 0 31 (dk_at dksX1_hasBonus_1 6 rfl rfl)
theorem dX1_hasBonus_33 : decode cX1_hasBonus 33 = .ok (.iload_n 2, 1) := dk_28 (dk_at dksX1_hasBonus_1 9 rfl rfl)
theorem dX1_hasBonus_34 : decode cX1_hasBonus 34 = .ok (.iaload, 1) := dk_46 (dk_at dksX1_hasBonus_1 10 rfl rfl)
theorem dX1_hasBonus_35 : decode cX1_hasBonus 35 = .ok (.bipush 50, 2) := dk_16 50 (dk_at dksX1_hasBonus_1 11 rfl rfl)
theorem dX1_hasBonus_37 : decode cX1_hasBonus 37 = .ok (.if_icmp .lt 23, 3) := dk_161 0 23 (dk_at dksX1_hasBonus_1 13 rfl rfl)
theorem dX1_hasBonus_40 : decode cX1_hasBonus 40 = .ok (.aload_n 0, 1) := dk_42 (dk_at dksX1_hasBonus_1 16 rfl rfl)
theorem dX1_hasBonus_41 : decode cX1_hasBonus 41 = .ok (.getfield 31, 3) := dk_180 0 31 (dk_at dksX1_hasBonus_1 17 rfl rfl)
theorem dX1_hasBonus_44 : decode cX1_hasBonus 44 = .ok (.iload_n 3, 1) := dk_29 (dk_at dksX1_hasBonus_1 20 rfl rfl)
theorem dX1_hasBonus_45 : decode cX1_hasBonus 45 = .ok (.iaload, 1) := dk_46 (dk_at dksX1_hasBonus_1 21 rfl rfl)
theorem dX1_hasBonus_46 : decode cX1_hasBonus 46 = .ok (.bipush 50, 2) := dk_16 50 (dk_at dksX1_hasBonus_1 22 rfl rfl)
theorem dX1_hasBonus_48 : decode cX1_hasBonus 48 = .ok (.if_icmp .lt 12, 3) := dk_161 0 12 (dk_at dksX1_hasBonus_2 0 rfl rfl)
theorem dX1_hasBonus_51 : decode cX1_hasBonus 51 = .ok (.aload_n 0, 1) := dk_42 (dk_at dksX1_hasBonus_2 3 rfl rfl)
theorem dX1_hasBonus_52 : decode cX1_hasBonus 52 = .ok (.getfield 25, 3) := dk_180 0 25 (dk_at dksX1_hasBonus_2 4 rfl rfl)
theorem dX1_hasBonus_55 : decode cX1_hasBonus 55 = .ok (.iload_n 2, 1) := dk_28 (dk_at dksX1_hasBonus_2 7 rfl rfl)
theorem dX1_hasBonus_56 : decode cX1_hasBonus 56 = .ok (.iaload, 1) := dk_46 (dk_at dksX1_hasBonus_2 8 rfl rfl)
theorem dX1_hasBonus_57 : decode cX1_hasBonus 57 = .ok (.goto 4, 3) := dk_167 0 4 (dk_at dksX1_hasBonus_2 9 rfl rfl)
theorem dX1_hasBonus_60 : decode cX1_hasBonus 60 = .ok (.iconst (-1), 1) := dk_2 (dk_at dksX1_hasBonus_2 12 rfl rfl)
theorem dX1_hasBonus_61 : decode cX1_hasBonus 61 = .ok (.ireturn, 1) := dk_172 (dk_at dksX1_hasBonus_2 13 rfl rfl)
abbrev cX1_others : ByteArray := prog_7_method_6_code
def yX1_others : MethodName := ⟨RX1, "others", "(I)I"⟩
def dkwX1_others_1 : List UInt8 := [167, 0, 13, 28, 42, 29, 27, 182, 0, 103, 184, 0, 107, 61, 132, 3, 1, 167, 255, 220, 28, 172]
abbrev dktX1_others_1 : List UInt8 := dkwX1_others_1 ++ []
def dkwX1_others_0 : List UInt8 := [3, 61, 3, 62, 29, 42, 180, 0, 67, 162, 0, 34, 29, 42, 180, 0, 25, 27, 46, 160, 0, 7, 28]
abbrev dktX1_others_0 : List UInt8 := dkwX1_others_0 ++ dktX1_others_1
theorem dksX1_others_0 : cX1_others.data.toList.drop 0 = dktX1_others_0 := by decide +kernel
theorem dksX1_others_1 : cX1_others.data.toList.drop 23 = dktX1_others_1 := dk_seg dksX1_others_0 23 rfl rfl
theorem dX1_others_0 : decode cX1_others 0 = .ok (.iconst 0, 1) := dk_3 (dk_at dksX1_others_0 0 rfl rfl)
theorem dX1_others_1 : decode cX1_others 1 = .ok (.istore_n 2, 1) := dk_61 (dk_at dksX1_others_0 1 rfl rfl)
theorem dX1_others_2 : decode cX1_others 2 = .ok (.iconst 0, 1) := dk_3 (dk_at dksX1_others_0 2 rfl rfl)
theorem dX1_others_3 : decode cX1_others 3 = .ok (.istore_n 3, 1) := dk_62 (dk_at dksX1_others_0 3 rfl rfl)
theorem dX1_others_4 : decode cX1_others 4 = .ok (.iload_n 3, 1) := dk_29 (dk_at dksX1_others_0 4 rfl rfl)
theorem dX1_others_5 : decode cX1_others 5 = .ok (.aload_n 0, 1) := dk_42 (dk_at dksX1_others_0 5 rfl rfl)
theorem dX1_others_6 : decode cX1_others 6 = .ok (.getfield 67, 3) := dk_180 0 67 (dk_at dksX1_others_0 6 rfl rfl)
theorem dX1_others_9 : decode cX1_others 9 = .ok (.if_icmp .ge 34, 3) := dk_162 0 34 (dk_at dksX1_others_0 9 rfl rfl)
theorem dX1_others_12 : decode cX1_others 12 = .ok (.iload_n 3, 1) := dk_29 (dk_at dksX1_others_0 12 rfl rfl)
theorem dX1_others_13 : decode cX1_others 13 = .ok (.aload_n 0, 1) := dk_42 (dk_at dksX1_others_0 13 rfl rfl)
theorem dX1_others_14 : decode cX1_others 14 = .ok (.getfield 25, 3) := dk_180 0 25 (dk_at dksX1_others_0 14 rfl rfl)
theorem dX1_others_17 : decode cX1_others 17 = .ok (.iload_n 1, 1) := dk_27 (dk_at dksX1_others_0 17 rfl rfl)
theorem dX1_others_18 : decode cX1_others 18 = .ok (.iaload, 1) := dk_46 (dk_at dksX1_others_0 18 rfl rfl)
theorem dX1_others_19 : decode cX1_others 19 = .ok (.if_icmp .ne 7, 3) := dk_160 0 7 (dk_at dksX1_others_0 19 rfl rfl)
theorem dX1_others_22 : decode cX1_others 22 = .ok (.iload_n 2, 1) := dk_28 (dk_at dksX1_others_0 22 rfl rfl)
theorem dX1_others_23 : decode cX1_others 23 = .ok (.goto 13, 3) := dk_167 0 13 (dk_at dksX1_others_1 0 rfl rfl)
theorem dX1_others_26 : decode cX1_others 26 = .ok (.iload_n 2, 1) := dk_28 (dk_at dksX1_others_1 3 rfl rfl)
theorem dX1_others_27 : decode cX1_others 27 = .ok (.aload_n 0, 1) := dk_42 (dk_at dksX1_others_1 4 rfl rfl)
theorem dX1_others_28 : decode cX1_others 28 = .ok (.iload_n 3, 1) := dk_29 (dk_at dksX1_others_1 5 rfl rfl)
theorem dX1_others_29 : decode cX1_others 29 = .ok (.iload_n 1, 1) := dk_27 (dk_at dksX1_others_1 6 rfl rfl)
theorem dX1_others_30 : decode cX1_others 30 = .ok (.invokevirtual 103, 3) := dk_182 0 103 (dk_at dksX1_others_1 7 rfl rfl)
theorem dX1_others_33 : decode cX1_others 33 = .ok (.invokestatic 107, 3) := dk_184 0 107 (dk_at dksX1_others_1 10 rfl rfl)
theorem dX1_others_36 : decode cX1_others 36 = .ok (.istore_n 2, 1) := dk_61 (dk_at dksX1_others_1 13 rfl rfl)
theorem dX1_others_37 : decode cX1_others 37 = .ok (.iinc 3 1, 3) := dk_132 3 1 (dk_at dksX1_others_1 14 rfl rfl)
theorem dX1_others_40 : decode cX1_others 40 = .ok (.goto (-36), 3) := dk_167 255 220 (dk_at dksX1_others_1 17 rfl rfl)
theorem dX1_others_43 : decode cX1_others 43 = .ok (.iload_n 2, 1) := dk_28 (dk_at dksX1_others_1 20 rfl rfl)
theorem dX1_others_44 : decode cX1_others 44 = .ok (.ireturn, 1) := dk_172 (dk_at dksX1_others_1 21 rfl rfl)
abbrev cX1_pays : ByteArray := prog_7_method_17_code
def yX1_pays : MethodName := ⟨RX1, "pays", "(I)V"⟩
def dkwX1_pays_2 : List UInt8 := [133, 29, 133, 97, 3, 18, 134, 184, 0, 124, 181, 0, 76, 177]
abbrev dktX1_pays_2 : List UInt8 := dkwX1_pays_2 ++ []
def dkwX1_pays_1 : List UInt8 := [46, 104, 16, 100, 108, 184, 0, 131, 62, 42, 180, 0, 21, 28, 92, 46, 29, 100, 79, 42, 42, 180, 0, 76]
abbrev dktX1_pays_1 : List UInt8 := dkwX1_pays_1 ++ dktX1_pays_2
def dkwX1_pays_0 : List UInt8 := [42, 180, 0, 25, 27, 46, 61, 42, 180, 0, 21, 28, 46, 42, 180, 0, 28, 27, 46, 42, 180, 0, 50, 3]
abbrev dktX1_pays_0 : List UInt8 := dkwX1_pays_0 ++ dktX1_pays_1
theorem dksX1_pays_0 : cX1_pays.data.toList.drop 0 = dktX1_pays_0 := by decide +kernel
theorem dksX1_pays_1 : cX1_pays.data.toList.drop 24 = dktX1_pays_1 := dk_seg dksX1_pays_0 24 rfl rfl
theorem dksX1_pays_2 : cX1_pays.data.toList.drop 48 = dktX1_pays_2 := dk_seg dksX1_pays_1 24 rfl rfl
theorem dX1_pays_0 : decode cX1_pays 0 = .ok (.aload_n 0, 1) := dk_42 (dk_at dksX1_pays_0 0 rfl rfl)
theorem dX1_pays_1 : decode cX1_pays 1 = .ok (.getfield 25, 3) := dk_180 0 25 (dk_at dksX1_pays_0 1 rfl rfl)
theorem dX1_pays_4 : decode cX1_pays 4 = .ok (.iload_n 1, 1) := dk_27 (dk_at dksX1_pays_0 4 rfl rfl)
theorem dX1_pays_5 : decode cX1_pays 5 = .ok (.iaload, 1) := dk_46 (dk_at dksX1_pays_0 5 rfl rfl)
theorem dX1_pays_6 : decode cX1_pays 6 = .ok (.istore_n 2, 1) := dk_61 (dk_at dksX1_pays_0 6 rfl rfl)
theorem dX1_pays_7 : decode cX1_pays 7 = .ok (.aload_n 0, 1) := dk_42 (dk_at dksX1_pays_0 7 rfl rfl)
theorem dX1_pays_8 : decode cX1_pays 8 = .ok (.getfield 21, 3) := dk_180 0 21 (dk_at dksX1_pays_0 8 rfl rfl)
theorem dX1_pays_11 : decode cX1_pays 11 = .ok (.iload_n 2, 1) := dk_28 (dk_at dksX1_pays_0 11 rfl rfl)
theorem dX1_pays_12 : decode cX1_pays 12 = .ok (.iaload, 1) := dk_46 (dk_at dksX1_pays_0 12 rfl rfl)
theorem dX1_pays_13 : decode cX1_pays 13 = .ok (.aload_n 0, 1) := dk_42 (dk_at dksX1_pays_0 13 rfl rfl)
theorem dX1_pays_14 : decode cX1_pays 14 = .ok (.getfield 28, 3) := dk_180 0 28 (dk_at dksX1_pays_0 14 rfl rfl)
theorem dX1_pays_17 : decode cX1_pays 17 = .ok (.iload_n 1, 1) := dk_27 (dk_at dksX1_pays_0 17 rfl rfl)
theorem dX1_pays_18 : decode cX1_pays 18 = .ok (.iaload, 1) := dk_46 (dk_at dksX1_pays_0 18 rfl rfl)
theorem dX1_pays_19 : decode cX1_pays 19 = .ok (.aload_n 0, 1) := dk_42 (dk_at dksX1_pays_0 19 rfl rfl)
theorem dX1_pays_20 : decode cX1_pays 20 = .ok (.getfield 50, 3) := dk_180 0 50 (dk_at dksX1_pays_0 20 rfl rfl)
theorem dX1_pays_23 : decode cX1_pays 23 = .ok (.iconst 0, 1) := dk_3 (dk_at dksX1_pays_0 23 rfl rfl)
theorem dX1_pays_24 : decode cX1_pays 24 = .ok (.iaload, 1) := dk_46 (dk_at dksX1_pays_1 0 rfl rfl)
theorem dX1_pays_25 : decode cX1_pays 25 = .ok (.imul, 1) := dk_104 (dk_at dksX1_pays_1 1 rfl rfl)
theorem dX1_pays_26 : decode cX1_pays 26 = .ok (.bipush 100, 2) := dk_16 100 (dk_at dksX1_pays_1 2 rfl rfl)
theorem dX1_pays_28 : decode cX1_pays 28 = .ok (.idiv, 1) := dk_108 (dk_at dksX1_pays_1 4 rfl rfl)
theorem dX1_pays_29 : decode cX1_pays 29 = .ok (.invokestatic 131, 3) := dk_184 0 131 (dk_at dksX1_pays_1 5 rfl rfl)
theorem dX1_pays_32 : decode cX1_pays 32 = .ok (.istore_n 3, 1) := dk_62 (dk_at dksX1_pays_1 8 rfl rfl)
theorem dX1_pays_33 : decode cX1_pays 33 = .ok (.aload_n 0, 1) := dk_42 (dk_at dksX1_pays_1 9 rfl rfl)
theorem dX1_pays_34 : decode cX1_pays 34 = .ok (.getfield 21, 3) := dk_180 0 21 (dk_at dksX1_pays_1 10 rfl rfl)
theorem dX1_pays_37 : decode cX1_pays 37 = .ok (.iload_n 2, 1) := dk_28 (dk_at dksX1_pays_1 13 rfl rfl)
theorem dX1_pays_38 : decode cX1_pays 38 = .ok (.dup2, 1) := dk_92 (dk_at dksX1_pays_1 14 rfl rfl)
theorem dX1_pays_39 : decode cX1_pays 39 = .ok (.iaload, 1) := dk_46 (dk_at dksX1_pays_1 15 rfl rfl)
theorem dX1_pays_40 : decode cX1_pays 40 = .ok (.iload_n 3, 1) := dk_29 (dk_at dksX1_pays_1 16 rfl rfl)
theorem dX1_pays_41 : decode cX1_pays 41 = .ok (.isub, 1) := dk_100 (dk_at dksX1_pays_1 17 rfl rfl)
theorem dX1_pays_42 : decode cX1_pays 42 = .ok (.iastore, 1) := dk_79 (dk_at dksX1_pays_1 18 rfl rfl)
theorem dX1_pays_43 : decode cX1_pays 43 = .ok (.aload_n 0, 1) := dk_42 (dk_at dksX1_pays_1 19 rfl rfl)
theorem dX1_pays_44 : decode cX1_pays 44 = .ok (.aload_n 0, 1) := dk_42 (dk_at dksX1_pays_1 20 rfl rfl)
theorem dX1_pays_45 : decode cX1_pays 45 = .ok (.getfield 76, 3) := dk_180 0 76 (dk_at dksX1_pays_1 21 rfl rfl)
theorem dX1_pays_48 : decode cX1_pays 48 = .ok (.i2l, 1) := dk_133 (dk_at dksX1_pays_2 0 rfl rfl)
theorem dX1_pays_49 : decode cX1_pays 49 = .ok (.iload_n 3, 1) := dk_29 (dk_at dksX1_pays_2 1 rfl rfl)
theorem dX1_pays_50 : decode cX1_pays 50 = .ok (.i2l, 1) := dk_133 (dk_at dksX1_pays_2 2 rfl rfl)
theorem dX1_pays_51 : decode cX1_pays 51 = .ok (.ladd, 1) := dk_97 (dk_at dksX1_pays_2 3 rfl rfl)
theorem dX1_pays_52 : decode cX1_pays 52 = .ok (.iconst 0, 1) := dk_3 (dk_at dksX1_pays_2 4 rfl rfl)
theorem dX1_pays_53 : decode cX1_pays 53 = .ok (.ldc 134, 2) := dk_18 134 (dk_at dksX1_pays_2 5 rfl rfl)
theorem dX1_pays_55 : decode cX1_pays 55 = .ok (.invokestatic 124, 3) := dk_184 0 124 (dk_at dksX1_pays_2 7 rfl rfl)
theorem dX1_pays_58 : decode cX1_pays 58 = .ok (.putfield 76, 3) := dk_181 0 76 (dk_at dksX1_pays_2 10 rfl rfl)
theorem dX1_pays_61 : decode cX1_pays 61 = .ok (.return_, 1) := dk_177 (dk_at dksX1_pays_2 13 rfl rfl)
abbrev cX1_drawn : ByteArray := prog_7_method_8_code
def yX1_drawn : MethodName := ⟨RX1, "drawn", "()I"⟩
def dkwX1_drawn_0 : List UInt8 := [42, 42, 180, 0, 9, 18, 112, 104, 17, 48, 57, 96, 181, 0, 9, 42, 180, 0, 9, 16, 8, 124, 172]
abbrev dktX1_drawn_0 : List UInt8 := dkwX1_drawn_0 ++ []
theorem dksX1_drawn_0 : cX1_drawn.data.toList.drop 0 = dktX1_drawn_0 := by decide +kernel
theorem dX1_drawn_0 : decode cX1_drawn 0 = .ok (.aload_n 0, 1) := dk_42 (dk_at dksX1_drawn_0 0 rfl rfl)
theorem dX1_drawn_1 : decode cX1_drawn 1 = .ok (.aload_n 0, 1) := dk_42 (dk_at dksX1_drawn_0 1 rfl rfl)
theorem dX1_drawn_2 : decode cX1_drawn 2 = .ok (.getfield 9, 3) := dk_180 0 9 (dk_at dksX1_drawn_0 2 rfl rfl)
theorem dX1_drawn_5 : decode cX1_drawn 5 = .ok (.ldc 112, 2) := dk_18 112 (dk_at dksX1_drawn_0 5 rfl rfl)
theorem dX1_drawn_7 : decode cX1_drawn 7 = .ok (.imul, 1) := dk_104 (dk_at dksX1_drawn_0 7 rfl rfl)
theorem dX1_drawn_8 : decode cX1_drawn 8 = .ok (.sipush 12345, 3) := dk_17 48 57 (dk_at dksX1_drawn_0 8 rfl rfl)
theorem dX1_drawn_11 : decode cX1_drawn 11 = .ok (.iadd, 1) := dk_96 (dk_at dksX1_drawn_0 11 rfl rfl)
theorem dX1_drawn_12 : decode cX1_drawn 12 = .ok (.putfield 9, 3) := dk_181 0 9 (dk_at dksX1_drawn_0 12 rfl rfl)
theorem dX1_drawn_15 : decode cX1_drawn 15 = .ok (.aload_n 0, 1) := dk_42 (dk_at dksX1_drawn_0 15 rfl rfl)
theorem dX1_drawn_16 : decode cX1_drawn 16 = .ok (.getfield 9, 3) := dk_180 0 9 (dk_at dksX1_drawn_0 16 rfl rfl)
theorem dX1_drawn_19 : decode cX1_drawn 19 = .ok (.bipush 8, 2) := dk_16 8 (dk_at dksX1_drawn_0 19 rfl rfl)
theorem dX1_drawn_21 : decode cX1_drawn 21 = .ok (.iushr, 1) := dk_124 (dk_at dksX1_drawn_0 21 rfl rfl)
theorem dX1_drawn_22 : decode cX1_drawn 22 = .ok (.ireturn, 1) := dk_172 (dk_at dksX1_drawn_0 22 rfl rfl)
abbrev cX1_sells : ByteArray := prog_7_method_16_code
def yX1_sells : MethodName := ⟨RX1, "sells", "(II)V"⟩
def dkwX1_sells_3 : List UInt8 := [184, 0, 107, 79, 177]
abbrev dktX1_sells_3 : List UInt8 := dkwX1_sells_3 ++ []
def dkwX1_sells_2 : List UInt8 := [181, 0, 82, 42, 180, 0, 31, 27, 3, 42, 180, 0, 31, 27, 46, 42, 180, 0, 50, 4, 46, 100]
abbrev dktX1_sells_2 : List UInt8 := dkwX1_sells_2 ++ dktX1_sells_3
def dkwX1_sells_1 : List UInt8 := [42, 180, 0, 28, 27, 46, 100, 79, 42, 180, 0, 25, 27, 28, 79, 42, 89, 180, 0, 82, 4, 96]
abbrev dktX1_sells_1 : List UInt8 := dkwX1_sells_1 ++ dktX1_sells_2
def dkwX1_sells_0 : List UInt8 := [42, 42, 180, 0, 25, 27, 46, 42, 180, 0, 28, 27, 46, 133, 182, 0, 127, 42, 180, 0, 21, 28, 92, 46]
abbrev dktX1_sells_0 : List UInt8 := dkwX1_sells_0 ++ dktX1_sells_1
theorem dksX1_sells_0 : cX1_sells.data.toList.drop 0 = dktX1_sells_0 := by decide +kernel
theorem dksX1_sells_1 : cX1_sells.data.toList.drop 24 = dktX1_sells_1 := dk_seg dksX1_sells_0 24 rfl rfl
theorem dksX1_sells_2 : cX1_sells.data.toList.drop 46 = dktX1_sells_2 := dk_seg dksX1_sells_1 22 rfl rfl
theorem dksX1_sells_3 : cX1_sells.data.toList.drop 68 = dktX1_sells_3 := dk_seg dksX1_sells_2 22 rfl rfl
theorem dX1_sells_0 : decode cX1_sells 0 = .ok (.aload_n 0, 1) := dk_42 (dk_at dksX1_sells_0 0 rfl rfl)
theorem dX1_sells_1 : decode cX1_sells 1 = .ok (.aload_n 0, 1) := dk_42 (dk_at dksX1_sells_0 1 rfl rfl)
theorem dX1_sells_2 : decode cX1_sells 2 = .ok (.getfield 25, 3) := dk_180 0 25 (dk_at dksX1_sells_0 2 rfl rfl)
theorem dX1_sells_5 : decode cX1_sells 5 = .ok (.iload_n 1, 1) := dk_27 (dk_at dksX1_sells_0 5 rfl rfl)
theorem dX1_sells_6 : decode cX1_sells 6 = .ok (.iaload, 1) := dk_46 (dk_at dksX1_sells_0 6 rfl rfl)
theorem dX1_sells_7 : decode cX1_sells 7 = .ok (.aload_n 0, 1) := dk_42 (dk_at dksX1_sells_0 7 rfl rfl)
theorem dX1_sells_8 : decode cX1_sells 8 = .ok (.getfield 28, 3) := dk_180 0 28 (dk_at dksX1_sells_0 8 rfl rfl)
theorem dX1_sells_11 : decode cX1_sells 11 = .ok (.iload_n 1, 1) := dk_27 (dk_at dksX1_sells_0 11 rfl rfl)
theorem dX1_sells_12 : decode cX1_sells 12 = .ok (.iaload, 1) := dk_46 (dk_at dksX1_sells_0 12 rfl rfl)
theorem dX1_sells_13 : decode cX1_sells 13 = .ok (.i2l, 1) := dk_133 (dk_at dksX1_sells_0 13 rfl rfl)
theorem dX1_sells_14 : decode cX1_sells 14 = .ok (.invokevirtual 127, 3) := dk_182 0 127 (dk_at dksX1_sells_0 14 rfl rfl)
theorem dX1_sells_17 : decode cX1_sells 17 = .ok (.aload_n 0, 1) := dk_42 (dk_at dksX1_sells_0 17 rfl rfl)
theorem dX1_sells_18 : decode cX1_sells 18 = .ok (.getfield 21, 3) := dk_180 0 21 (dk_at dksX1_sells_0 18 rfl rfl)
theorem dX1_sells_21 : decode cX1_sells 21 = .ok (.iload_n 2, 1) := dk_28 (dk_at dksX1_sells_0 21 rfl rfl)
theorem dX1_sells_22 : decode cX1_sells 22 = .ok (.dup2, 1) := dk_92 (dk_at dksX1_sells_0 22 rfl rfl)
theorem dX1_sells_23 : decode cX1_sells 23 = .ok (.iaload, 1) := dk_46 (dk_at dksX1_sells_0 23 rfl rfl)
theorem dX1_sells_24 : decode cX1_sells 24 = .ok (.aload_n 0, 1) := dk_42 (dk_at dksX1_sells_1 0 rfl rfl)
theorem dX1_sells_25 : decode cX1_sells 25 = .ok (.getfield 28, 3) := dk_180 0 28 (dk_at dksX1_sells_1 1 rfl rfl)
theorem dX1_sells_28 : decode cX1_sells 28 = .ok (.iload_n 1, 1) := dk_27 (dk_at dksX1_sells_1 4 rfl rfl)
theorem dX1_sells_29 : decode cX1_sells 29 = .ok (.iaload, 1) := dk_46 (dk_at dksX1_sells_1 5 rfl rfl)
theorem dX1_sells_30 : decode cX1_sells 30 = .ok (.isub, 1) := dk_100 (dk_at dksX1_sells_1 6 rfl rfl)
theorem dX1_sells_31 : decode cX1_sells 31 = .ok (.iastore, 1) := dk_79 (dk_at dksX1_sells_1 7 rfl rfl)
theorem dX1_sells_32 : decode cX1_sells 32 = .ok (.aload_n 0, 1) := dk_42 (dk_at dksX1_sells_1 8 rfl rfl)
theorem dX1_sells_33 : decode cX1_sells 33 = .ok (.getfield 25, 3) := dk_180 0 25 (dk_at dksX1_sells_1 9 rfl rfl)
theorem dX1_sells_36 : decode cX1_sells 36 = .ok (.iload_n 1, 1) := dk_27 (dk_at dksX1_sells_1 12 rfl rfl)
theorem dX1_sells_37 : decode cX1_sells 37 = .ok (.iload_n 2, 1) := dk_28 (dk_at dksX1_sells_1 13 rfl rfl)
theorem dX1_sells_38 : decode cX1_sells 38 = .ok (.iastore, 1) := dk_79 (dk_at dksX1_sells_1 14 rfl rfl)
theorem dX1_sells_39 : decode cX1_sells 39 = .ok (.aload_n 0, 1) := dk_42 (dk_at dksX1_sells_1 15 rfl rfl)
theorem dX1_sells_40 : decode cX1_sells 40 = .ok (.dup, 1) := dk_89 (dk_at dksX1_sells_1 16 rfl rfl)
theorem dX1_sells_41 : decode cX1_sells 41 = .ok (.getfield 82, 3) := dk_180 0 82 (dk_at dksX1_sells_1 17 rfl rfl)
theorem dX1_sells_44 : decode cX1_sells 44 = .ok (.iconst 1, 1) := dk_4 (dk_at dksX1_sells_1 20 rfl rfl)
theorem dX1_sells_45 : decode cX1_sells 45 = .ok (.iadd, 1) := dk_96 (dk_at dksX1_sells_1 21 rfl rfl)
theorem dX1_sells_46 : decode cX1_sells 46 = .ok (.putfield 82, 3) := dk_181 0 82 (dk_at dksX1_sells_2 0 rfl rfl)
theorem dX1_sells_49 : decode cX1_sells 49 = .ok (.aload_n 0, 1) := dk_42 (dk_at dksX1_sells_2 3 rfl rfl)
theorem dX1_sells_50 : decode cX1_sells 50 = .ok (.getfield 31, 3) := dk_180 0 31 (dk_at dksX1_sells_2 4 rfl rfl)
theorem dX1_sells_53 : decode cX1_sells 53 = .ok (.iload_n 1, 1) := dk_27 (dk_at dksX1_sells_2 7 rfl rfl)
theorem dX1_sells_54 : decode cX1_sells 54 = .ok (.iconst 0, 1) := dk_3 (dk_at dksX1_sells_2 8 rfl rfl)
theorem dX1_sells_55 : decode cX1_sells 55 = .ok (.aload_n 0, 1) := dk_42 (dk_at dksX1_sells_2 9 rfl rfl)
theorem dX1_sells_56 : decode cX1_sells 56 = .ok (.getfield 31, 3) := dk_180 0 31 (dk_at dksX1_sells_2 10 rfl rfl)
theorem dX1_sells_59 : decode cX1_sells 59 = .ok (.iload_n 1, 1) := dk_27 (dk_at dksX1_sells_2 13 rfl rfl)
theorem dX1_sells_60 : decode cX1_sells 60 = .ok (.iaload, 1) := dk_46 (dk_at dksX1_sells_2 14 rfl rfl)
theorem dX1_sells_61 : decode cX1_sells 61 = .ok (.aload_n 0, 1) := dk_42 (dk_at dksX1_sells_2 15 rfl rfl)
theorem dX1_sells_62 : decode cX1_sells 62 = .ok (.getfield 50, 3) := dk_180 0 50 (dk_at dksX1_sells_2 16 rfl rfl)
theorem dX1_sells_65 : decode cX1_sells 65 = .ok (.iconst 1, 1) := dk_4 (dk_at dksX1_sells_2 19 rfl rfl)
theorem dX1_sells_66 : decode cX1_sells 66 = .ok (.iaload, 1) := dk_46 (dk_at dksX1_sells_2 20 rfl rfl)
theorem dX1_sells_67 : decode cX1_sells 67 = .ok (.isub, 1) := dk_100 (dk_at dksX1_sells_2 21 rfl rfl)
theorem dX1_sells_68 : decode cX1_sells 68 = .ok (.invokestatic 107, 3) := dk_184 0 107 (dk_at dksX1_sells_3 0 rfl rfl)
theorem dX1_sells_71 : decode cX1_sells 71 = .ok (.iastore, 1) := dk_79 (dk_at dksX1_sells_3 3 rfl rfl)
theorem dX1_sells_72 : decode cX1_sells 72 = .ok (.return_, 1) := dk_177 (dk_at dksX1_sells_3 4 rfl rfl)
abbrev cX1_gives : ByteArray := prog_7_method_15_code
def yX1_gives : MethodName := ⟨RX1, "gives", "(IJ)V"⟩
def dkwX1_gives_0 : List UInt8 := [42, 180, 0, 21, 27, 42, 180, 0, 21, 27, 46, 133, 32, 97, 3, 18, 123, 184, 0, 124, 79, 177]
abbrev dktX1_gives_0 : List UInt8 := dkwX1_gives_0 ++ []
theorem dksX1_gives_0 : cX1_gives.data.toList.drop 0 = dktX1_gives_0 := by decide +kernel
theorem dX1_gives_0 : decode cX1_gives 0 = .ok (.aload_n 0, 1) := dk_42 (dk_at dksX1_gives_0 0 rfl rfl)
theorem dX1_gives_1 : decode cX1_gives 1 = .ok (.getfield 21, 3) := dk_180 0 21 (dk_at dksX1_gives_0 1 rfl rfl)
theorem dX1_gives_4 : decode cX1_gives 4 = .ok (.iload_n 1, 1) := dk_27 (dk_at dksX1_gives_0 4 rfl rfl)
theorem dX1_gives_5 : decode cX1_gives 5 = .ok (.aload_n 0, 1) := dk_42 (dk_at dksX1_gives_0 5 rfl rfl)
theorem dX1_gives_6 : decode cX1_gives 6 = .ok (.getfield 21, 3) := dk_180 0 21 (dk_at dksX1_gives_0 6 rfl rfl)
theorem dX1_gives_9 : decode cX1_gives 9 = .ok (.iload_n 1, 1) := dk_27 (dk_at dksX1_gives_0 9 rfl rfl)
theorem dX1_gives_10 : decode cX1_gives 10 = .ok (.iaload, 1) := dk_46 (dk_at dksX1_gives_0 10 rfl rfl)
theorem dX1_gives_11 : decode cX1_gives 11 = .ok (.i2l, 1) := dk_133 (dk_at dksX1_gives_0 11 rfl rfl)
theorem dX1_gives_12 : decode cX1_gives 12 = .ok (.lload_n 2, 1) := dk_32 (dk_at dksX1_gives_0 12 rfl rfl)
theorem dX1_gives_13 : decode cX1_gives 13 = .ok (.ladd, 1) := dk_97 (dk_at dksX1_gives_0 13 rfl rfl)
theorem dX1_gives_14 : decode cX1_gives 14 = .ok (.iconst 0, 1) := dk_3 (dk_at dksX1_gives_0 14 rfl rfl)
theorem dX1_gives_15 : decode cX1_gives 15 = .ok (.ldc 123, 2) := dk_18 123 (dk_at dksX1_gives_0 15 rfl rfl)
theorem dX1_gives_17 : decode cX1_gives 17 = .ok (.invokestatic 124, 3) := dk_184 0 124 (dk_at dksX1_gives_0 17 rfl rfl)
theorem dX1_gives_20 : decode cX1_gives 20 = .ok (.iastore, 1) := dk_79 (dk_at dksX1_gives_0 20 rfl rfl)
theorem dX1_gives_21 : decode cX1_gives 21 = .ok (.return_, 1) := dk_177 (dk_at dksX1_gives_0 21 rfl rfl)
abbrev cX1_shares : ByteArray := prog_7_method_19_code
def yX1_shares : MethodName := ⟨RX1, "shares", "()V"⟩
def dkwX1_shares_4 : List UInt8 := [3, 181, 0, 76, 177]
abbrev dktX1_shares_4 : List UInt8 := dkwX1_shares_4 ++ []
def dkwX1_shares_3 : List UInt8 := [42, 180, 0, 50, 5, 46, 5, 160, 0, 21, 42, 42, 182, 0, 135, 42, 180, 0, 76, 133, 182, 0, 127, 42]
abbrev dktX1_shares_3 : List UInt8 := dkwX1_shares_3 ++ dktX1_shares_4
def dkwX1_shares_2 : List UInt8 := [132, 2, 1, 167, 255, 238, 42, 89, 180, 0, 76, 27, 42, 180, 0, 67, 104, 100, 181, 0, 76, 167, 0, 31]
abbrev dktX1_shares_2 : List UInt8 := dkwX1_shares_2 ++ dktX1_shares_3
def dkwX1_shares_1 : List UInt8 := [180, 0, 67, 108, 60, 3, 61, 28, 42, 180, 0, 67, 162, 0, 16, 42, 28, 27, 133, 182, 0, 127]
abbrev dktX1_shares_1 : List UInt8 := dkwX1_shares_1 ++ dktX1_shares_2
def dkwX1_shares_0 : List UInt8 := [42, 180, 0, 67, 154, 0, 4, 177, 42, 180, 0, 50, 5, 46, 4, 160, 0, 54, 42, 180, 0, 76, 42]
abbrev dktX1_shares_0 : List UInt8 := dkwX1_shares_0 ++ dktX1_shares_1
theorem dksX1_shares_0 : cX1_shares.data.toList.drop 0 = dktX1_shares_0 := by decide +kernel
theorem dksX1_shares_1 : cX1_shares.data.toList.drop 23 = dktX1_shares_1 := dk_seg dksX1_shares_0 23 rfl rfl
theorem dksX1_shares_2 : cX1_shares.data.toList.drop 45 = dktX1_shares_2 := dk_seg dksX1_shares_1 22 rfl rfl
theorem dksX1_shares_3 : cX1_shares.data.toList.drop 69 = dktX1_shares_3 := dk_seg dksX1_shares_2 24 rfl rfl
theorem dksX1_shares_4 : cX1_shares.data.toList.drop 93 = dktX1_shares_4 := dk_seg dksX1_shares_3 24 rfl rfl
theorem dX1_shares_0 : decode cX1_shares 0 = .ok (.aload_n 0, 1) := dk_42 (dk_at dksX1_shares_0 0 rfl rfl)
theorem dX1_shares_1 : decode cX1_shares 1 = .ok (.getfield 67, 3) := dk_180 0 67 (dk_at dksX1_shares_0 1 rfl rfl)
theorem dX1_shares_4 : decode cX1_shares 4 = .ok (.ifCond .ne 4, 3) := dk_154 0 4 (dk_at dksX1_shares_0 4 rfl rfl)
theorem dX1_shares_7 : decode cX1_shares 7 = .ok (.return_, 1) := dk_177 (dk_at dksX1_shares_0 7 rfl rfl)
theorem dX1_shares_8 : decode cX1_shares 8 = .ok (.aload_n 0, 1) := dk_42 (dk_at dksX1_shares_0 8 rfl rfl)
theorem dX1_shares_9 : decode cX1_shares 9 = .ok (.getfield 50, 3) := dk_180 0 50 (dk_at dksX1_shares_0 9 rfl rfl)
theorem dX1_shares_12 : decode cX1_shares 12 = .ok (.iconst 2, 1) := dk_5 (dk_at dksX1_shares_0 12 rfl rfl)
theorem dX1_shares_13 : decode cX1_shares 13 = .ok (.iaload, 1) := dk_46 (dk_at dksX1_shares_0 13 rfl rfl)
theorem dX1_shares_14 : decode cX1_shares 14 = .ok (.iconst 1, 1) := dk_4 (dk_at dksX1_shares_0 14 rfl rfl)
theorem dX1_shares_15 : decode cX1_shares 15 = .ok (.if_icmp .ne 54, 3) := dk_160 0 54 (dk_at dksX1_shares_0 15 rfl rfl)
theorem dX1_shares_18 : decode cX1_shares 18 = .ok (.aload_n 0, 1) := dk_42 (dk_at dksX1_shares_0 18 rfl rfl)
theorem dX1_shares_19 : decode cX1_shares 19 = .ok (.getfield 76, 3) := dk_180 0 76 (dk_at dksX1_shares_0 19 rfl rfl)
theorem dX1_shares_22 : decode cX1_shares 22 = .ok (.aload_n 0, 1) := dk_42 (dk_at dksX1_shares_0 22 rfl rfl)
theorem dX1_shares_23 : decode cX1_shares 23 = .ok (.getfield 67, 3) := dk_180 0 67 (dk_at dksX1_shares_1 0 rfl rfl)
theorem dX1_shares_26 : decode cX1_shares 26 = .ok (.idiv, 1) := dk_108 (dk_at dksX1_shares_1 3 rfl rfl)
theorem dX1_shares_27 : decode cX1_shares 27 = .ok (.istore_n 1, 1) := dk_60 (dk_at dksX1_shares_1 4 rfl rfl)
theorem dX1_shares_28 : decode cX1_shares 28 = .ok (.iconst 0, 1) := dk_3 (dk_at dksX1_shares_1 5 rfl rfl)
theorem dX1_shares_29 : decode cX1_shares 29 = .ok (.istore_n 2, 1) := dk_61 (dk_at dksX1_shares_1 6 rfl rfl)
theorem dX1_shares_30 : decode cX1_shares 30 = .ok (.iload_n 2, 1) := dk_28 (dk_at dksX1_shares_1 7 rfl rfl)
theorem dX1_shares_31 : decode cX1_shares 31 = .ok (.aload_n 0, 1) := dk_42 (dk_at dksX1_shares_1 8 rfl rfl)
theorem dX1_shares_32 : decode cX1_shares 32 = .ok (.getfield 67, 3) := dk_180 0 67 (dk_at dksX1_shares_1 9 rfl rfl)
theorem dX1_shares_35 : decode cX1_shares 35 = .ok (.if_icmp .ge 16, 3) := dk_162 0 16 (dk_at dksX1_shares_1 12 rfl rfl)
theorem dX1_shares_38 : decode cX1_shares 38 = .ok (.aload_n 0, 1) := dk_42 (dk_at dksX1_shares_1 15 rfl rfl)
theorem dX1_shares_39 : decode cX1_shares 39 = .ok (.iload_n 2, 1) := dk_28 (dk_at dksX1_shares_1 16 rfl rfl)
theorem dX1_shares_40 : decode cX1_shares 40 = .ok (.iload_n 1, 1) := dk_27 (dk_at dksX1_shares_1 17 rfl rfl)
theorem dX1_shares_41 : decode cX1_shares 41 = .ok (.i2l, 1) := dk_133 (dk_at dksX1_shares_1 18 rfl rfl)
theorem dX1_shares_42 : decode cX1_shares 42 = .ok (.invokevirtual 127, 3) := dk_182 0 127 (dk_at dksX1_shares_1 19 rfl rfl)
theorem dX1_shares_45 : decode cX1_shares 45 = .ok (.iinc 2 1, 3) := dk_132 2 1 (dk_at dksX1_shares_2 0 rfl rfl)
theorem dX1_shares_48 : decode cX1_shares 48 = .ok (.goto (-18), 3) := dk_167 255 238 (dk_at dksX1_shares_2 3 rfl rfl)
theorem dX1_shares_51 : decode cX1_shares 51 = .ok (.aload_n 0, 1) := dk_42 (dk_at dksX1_shares_2 6 rfl rfl)
theorem dX1_shares_52 : decode cX1_shares 52 = .ok (.dup, 1) := dk_89 (dk_at dksX1_shares_2 7 rfl rfl)
theorem dX1_shares_53 : decode cX1_shares 53 = .ok (.getfield 76, 3) := dk_180 0 76 (dk_at dksX1_shares_2 8 rfl rfl)
theorem dX1_shares_56 : decode cX1_shares 56 = .ok (.iload_n 1, 1) := dk_27 (dk_at dksX1_shares_2 11 rfl rfl)
theorem dX1_shares_57 : decode cX1_shares 57 = .ok (.aload_n 0, 1) := dk_42 (dk_at dksX1_shares_2 12 rfl rfl)
theorem dX1_shares_58 : decode cX1_shares 58 = .ok (.getfield 67, 3) := dk_180 0 67 (dk_at dksX1_shares_2 13 rfl rfl)
theorem dX1_shares_61 : decode cX1_shares 61 = .ok (.imul, 1) := dk_104 (dk_at dksX1_shares_2 16 rfl rfl)
theorem dX1_shares_62 : decode cX1_shares 62 = .ok (.isub, 1) := dk_100 (dk_at dksX1_shares_2 17 rfl rfl)
theorem dX1_shares_63 : decode cX1_shares 63 = .ok (.putfield 76, 3) := dk_181 0 76 (dk_at dksX1_shares_2 18 rfl rfl)
theorem dX1_shares_66 : decode cX1_shares 66 = .ok (.goto 31, 3) := dk_167 0 31 (dk_at dksX1_shares_2 21 rfl rfl)
theorem dX1_shares_69 : decode cX1_shares 69 = .ok (.aload_n 0, 1) := dk_42 (dk_at dksX1_shares_3 0 rfl rfl)
theorem dX1_shares_70 : decode cX1_shares 70 = .ok (.getfield 50, 3) := dk_180 0 50 (dk_at dksX1_shares_3 1 rfl rfl)
theorem dX1_shares_73 : decode cX1_shares 73 = .ok (.iconst 2, 1) := dk_5 (dk_at dksX1_shares_3 4 rfl rfl)
theorem dX1_shares_74 : decode cX1_shares 74 = .ok (.iaload, 1) := dk_46 (dk_at dksX1_shares_3 5 rfl rfl)
theorem dX1_shares_75 : decode cX1_shares 75 = .ok (.iconst 2, 1) := dk_5 (dk_at dksX1_shares_3 6 rfl rfl)
theorem dX1_shares_76 : decode cX1_shares 76 = .ok (.if_icmp .ne 21, 3) := dk_160 0 21 (dk_at dksX1_shares_3 7 rfl rfl)
theorem dX1_shares_79 : decode cX1_shares 79 = .ok (.aload_n 0, 1) := dk_42 (dk_at dksX1_shares_3 10 rfl rfl)
theorem dX1_shares_80 : decode cX1_shares 80 = .ok (.aload_n 0, 1) := dk_42 (dk_at dksX1_shares_3 11 rfl rfl)
theorem dX1_shares_81 : decode cX1_shares 81 = .ok (.invokevirtual 135, 3) := dk_182 0 135 (dk_at dksX1_shares_3 12 rfl rfl)
theorem dX1_shares_84 : decode cX1_shares 84 = .ok (.aload_n 0, 1) := dk_42 (dk_at dksX1_shares_3 15 rfl rfl)
theorem dX1_shares_85 : decode cX1_shares 85 = .ok (.getfield 76, 3) := dk_180 0 76 (dk_at dksX1_shares_3 16 rfl rfl)
theorem dX1_shares_88 : decode cX1_shares 88 = .ok (.i2l, 1) := dk_133 (dk_at dksX1_shares_3 19 rfl rfl)
theorem dX1_shares_89 : decode cX1_shares 89 = .ok (.invokevirtual 127, 3) := dk_182 0 127 (dk_at dksX1_shares_3 20 rfl rfl)
theorem dX1_shares_92 : decode cX1_shares 92 = .ok (.aload_n 0, 1) := dk_42 (dk_at dksX1_shares_3 23 rfl rfl)
theorem dX1_shares_93 : decode cX1_shares 93 = .ok (.iconst 0, 1) := dk_3 (dk_at dksX1_shares_4 0 rfl rfl)
theorem dX1_shares_94 : decode cX1_shares 94 = .ok (.putfield 76, 3) := dk_181 0 76 (dk_at dksX1_shares_4 1 rfl rfl)
theorem dX1_shares_97 : decode cX1_shares 97 = .ok (.return_, 1) := dk_177 (dk_at dksX1_shares_4 4 rfl rfl)
abbrev cX1_poorest : ByteArray := prog_7_method_18_code
def yX1_poorest : MethodName := ⟨RX1, "poorest", "()I"⟩
def dkwX1_poorest_1 : List UInt8 := [162, 0, 7, 28, 167, 0, 4, 27, 60, 132, 2, 1, 167, 255, 224, 27, 172]
abbrev dktX1_poorest_1 : List UInt8 := dkwX1_poorest_1 ++ []
def dkwX1_poorest_0 : List UInt8 := [3, 60, 4, 61, 28, 42, 180, 0, 67, 162, 0, 30, 42, 180, 0, 21, 28, 46, 42, 180, 0, 21, 27, 46]
abbrev dktX1_poorest_0 : List UInt8 := dkwX1_poorest_0 ++ dktX1_poorest_1
theorem dksX1_poorest_0 : cX1_poorest.data.toList.drop 0 = dktX1_poorest_0 := by decide +kernel
theorem dksX1_poorest_1 : cX1_poorest.data.toList.drop 24 = dktX1_poorest_1 := dk_seg dksX1_poorest_0 24 rfl rfl
theorem dX1_poorest_0 : decode cX1_poorest 0 = .ok (.iconst 0, 1) := dk_3 (dk_at dksX1_poorest_0 0 rfl rfl)
theorem dX1_poorest_1 : decode cX1_poorest 1 = .ok (.istore_n 1, 1) := dk_60 (dk_at dksX1_poorest_0 1 rfl rfl)
theorem dX1_poorest_2 : decode cX1_poorest 2 = .ok (.iconst 1, 1) := dk_4 (dk_at dksX1_poorest_0 2 rfl rfl)
theorem dX1_poorest_3 : decode cX1_poorest 3 = .ok (.istore_n 2, 1) := dk_61 (dk_at dksX1_poorest_0 3 rfl rfl)
theorem dX1_poorest_4 : decode cX1_poorest 4 = .ok (.iload_n 2, 1) := dk_28 (dk_at dksX1_poorest_0 4 rfl rfl)
theorem dX1_poorest_5 : decode cX1_poorest 5 = .ok (.aload_n 0, 1) := dk_42 (dk_at dksX1_poorest_0 5 rfl rfl)
theorem dX1_poorest_6 : decode cX1_poorest 6 = .ok (.getfield 67, 3) := dk_180 0 67 (dk_at dksX1_poorest_0 6 rfl rfl)
theorem dX1_poorest_9 : decode cX1_poorest 9 = .ok (.if_icmp .ge 30, 3) := dk_162 0 30 (dk_at dksX1_poorest_0 9 rfl rfl)
theorem dX1_poorest_12 : decode cX1_poorest 12 = .ok (.aload_n 0, 1) := dk_42 (dk_at dksX1_poorest_0 12 rfl rfl)
theorem dX1_poorest_13 : decode cX1_poorest 13 = .ok (.getfield 21, 3) := dk_180 0 21 (dk_at dksX1_poorest_0 13 rfl rfl)
theorem dX1_poorest_16 : decode cX1_poorest 16 = .ok (.iload_n 2, 1) := dk_28 (dk_at dksX1_poorest_0 16 rfl rfl)
theorem dX1_poorest_17 : decode cX1_poorest 17 = .ok (.iaload, 1) := dk_46 (dk_at dksX1_poorest_0 17 rfl rfl)
theorem dX1_poorest_18 : decode cX1_poorest 18 = .ok (.aload_n 0, 1) := dk_42 (dk_at dksX1_poorest_0 18 rfl rfl)
theorem dX1_poorest_19 : decode cX1_poorest 19 = .ok (.getfield 21, 3) := dk_180 0 21 (dk_at dksX1_poorest_0 19 rfl rfl)
theorem dX1_poorest_22 : decode cX1_poorest 22 = .ok (.iload_n 1, 1) := dk_27 (dk_at dksX1_poorest_0 22 rfl rfl)
theorem dX1_poorest_23 : decode cX1_poorest 23 = .ok (.iaload, 1) := dk_46 (dk_at dksX1_poorest_0 23 rfl rfl)
theorem dX1_poorest_24 : decode cX1_poorest 24 = .ok (.if_icmp .ge 7, 3) := dk_162 0 7 (dk_at dksX1_poorest_1 0 rfl rfl)
theorem dX1_poorest_27 : decode cX1_poorest 27 = .ok (.iload_n 2, 1) := dk_28 (dk_at dksX1_poorest_1 3 rfl rfl)
theorem dX1_poorest_28 : decode cX1_poorest 28 = .ok (.goto 4, 3) := dk_167 0 4 (dk_at dksX1_poorest_1 4 rfl rfl)
theorem dX1_poorest_31 : decode cX1_poorest 31 = .ok (.iload_n 1, 1) := dk_27 (dk_at dksX1_poorest_1 7 rfl rfl)
theorem dX1_poorest_32 : decode cX1_poorest 32 = .ok (.istore_n 1, 1) := dk_60 (dk_at dksX1_poorest_1 8 rfl rfl)
theorem dX1_poorest_33 : decode cX1_poorest 33 = .ok (.iinc 2 1, 3) := dk_132 2 1 (dk_at dksX1_poorest_1 9 rfl rfl)
theorem dX1_poorest_36 : decode cX1_poorest 36 = .ok (.goto (-32), 3) := dk_167 255 224 (dk_at dksX1_poorest_1 12 rfl rfl)
theorem dX1_poorest_39 : decode cX1_poorest 39 = .ok (.iload_n 1, 1) := dk_27 (dk_at dksX1_poorest_1 15 rfl rfl)
theorem dX1_poorest_40 : decode cX1_poorest 40 = .ok (.ireturn, 1) := dk_172 (dk_at dksX1_poorest_1 16 rfl rfl)
abbrev cX1_heldBy : ByteArray := prog_7_method_13_code
def yX1_heldBy : MethodName := ⟨RX1, "heldBy", "()I"⟩
def dkwX1_heldBy_2 : List UInt8 := [180, 0, 47, 28, 46, 167, 0, 4, 3, 96, 60, 132, 2, 1, 167, 255, 224, 27, 172]
abbrev dktX1_heldBy_2 : List UInt8 := dkwX1_heldBy_2 ++ []
def dkwX1_heldBy_1 : List UInt8 := [167, 255, 237, 3, 61, 28, 42, 180, 0, 73, 162, 0, 30, 27, 42, 28, 182, 0, 117, 155, 0, 12, 42]
abbrev dktX1_heldBy_1 : List UInt8 := dkwX1_heldBy_1 ++ dktX1_heldBy_2
def dkwX1_heldBy_0 : List UInt8 := [3, 60, 3, 61, 28, 42, 180, 0, 70, 162, 0, 17, 27, 42, 28, 182, 0, 113, 96, 60, 132, 2, 1]
abbrev dktX1_heldBy_0 : List UInt8 := dkwX1_heldBy_0 ++ dktX1_heldBy_1
theorem dksX1_heldBy_0 : cX1_heldBy.data.toList.drop 0 = dktX1_heldBy_0 := by decide +kernel
theorem dksX1_heldBy_1 : cX1_heldBy.data.toList.drop 23 = dktX1_heldBy_1 := dk_seg dksX1_heldBy_0 23 rfl rfl
theorem dksX1_heldBy_2 : cX1_heldBy.data.toList.drop 46 = dktX1_heldBy_2 := dk_seg dksX1_heldBy_1 23 rfl rfl
theorem dX1_heldBy_0 : decode cX1_heldBy 0 = .ok (.iconst 0, 1) := dk_3 (dk_at dksX1_heldBy_0 0 rfl rfl)
theorem dX1_heldBy_1 : decode cX1_heldBy 1 = .ok (.istore_n 1, 1) := dk_60 (dk_at dksX1_heldBy_0 1 rfl rfl)
theorem dX1_heldBy_2 : decode cX1_heldBy 2 = .ok (.iconst 0, 1) := dk_3 (dk_at dksX1_heldBy_0 2 rfl rfl)
theorem dX1_heldBy_3 : decode cX1_heldBy 3 = .ok (.istore_n 2, 1) := dk_61 (dk_at dksX1_heldBy_0 3 rfl rfl)
theorem dX1_heldBy_4 : decode cX1_heldBy 4 = .ok (.iload_n 2, 1) := dk_28 (dk_at dksX1_heldBy_0 4 rfl rfl)
theorem dX1_heldBy_5 : decode cX1_heldBy 5 = .ok (.aload_n 0, 1) := dk_42 (dk_at dksX1_heldBy_0 5 rfl rfl)
theorem dX1_heldBy_6 : decode cX1_heldBy 6 = .ok (.getfield 70, 3) := dk_180 0 70 (dk_at dksX1_heldBy_0 6 rfl rfl)
theorem dX1_heldBy_9 : decode cX1_heldBy 9 = .ok (.if_icmp .ge 17, 3) := dk_162 0 17 (dk_at dksX1_heldBy_0 9 rfl rfl)
theorem dX1_heldBy_12 : decode cX1_heldBy 12 = .ok (.iload_n 1, 1) := dk_27 (dk_at dksX1_heldBy_0 12 rfl rfl)
theorem dX1_heldBy_13 : decode cX1_heldBy 13 = .ok (.aload_n 0, 1) := dk_42 (dk_at dksX1_heldBy_0 13 rfl rfl)
theorem dX1_heldBy_14 : decode cX1_heldBy 14 = .ok (.iload_n 2, 1) := dk_28 (dk_at dksX1_heldBy_0 14 rfl rfl)
theorem dX1_heldBy_15 : decode cX1_heldBy 15 = .ok (.invokevirtual 113, 3) := dk_182 0 113 (dk_at dksX1_heldBy_0 15 rfl rfl)
theorem dX1_heldBy_18 : decode cX1_heldBy 18 = .ok (.iadd, 1) := dk_96 (dk_at dksX1_heldBy_0 18 rfl rfl)
theorem dX1_heldBy_19 : decode cX1_heldBy 19 = .ok (.istore_n 1, 1) := dk_60 (dk_at dksX1_heldBy_0 19 rfl rfl)
theorem dX1_heldBy_20 : decode cX1_heldBy 20 = .ok (.iinc 2 1, 3) := dk_132 2 1 (dk_at dksX1_heldBy_0 20 rfl rfl)
theorem dX1_heldBy_23 : decode cX1_heldBy 23 = .ok (.goto (-19), 3) := dk_167 255 237 (dk_at dksX1_heldBy_1 0 rfl rfl)
theorem dX1_heldBy_26 : decode cX1_heldBy 26 = .ok (.iconst 0, 1) := dk_3 (dk_at dksX1_heldBy_1 3 rfl rfl)
theorem dX1_heldBy_27 : decode cX1_heldBy 27 = .ok (.istore_n 2, 1) := dk_61 (dk_at dksX1_heldBy_1 4 rfl rfl)
theorem dX1_heldBy_28 : decode cX1_heldBy 28 = .ok (.iload_n 2, 1) := dk_28 (dk_at dksX1_heldBy_1 5 rfl rfl)
theorem dX1_heldBy_29 : decode cX1_heldBy 29 = .ok (.aload_n 0, 1) := dk_42 (dk_at dksX1_heldBy_1 6 rfl rfl)
theorem dX1_heldBy_30 : decode cX1_heldBy 30 = .ok (.getfield 73, 3) := dk_180 0 73 (dk_at dksX1_heldBy_1 7 rfl rfl)
theorem dX1_heldBy_33 : decode cX1_heldBy 33 = .ok (.if_icmp .ge 30, 3) := dk_162 0 30 (dk_at dksX1_heldBy_1 10 rfl rfl)
theorem dX1_heldBy_36 : decode cX1_heldBy 36 = .ok (.iload_n 1, 1) := dk_27 (dk_at dksX1_heldBy_1 13 rfl rfl)
theorem dX1_heldBy_37 : decode cX1_heldBy 37 = .ok (.aload_n 0, 1) := dk_42 (dk_at dksX1_heldBy_1 14 rfl rfl)
theorem dX1_heldBy_38 : decode cX1_heldBy 38 = .ok (.iload_n 2, 1) := dk_28 (dk_at dksX1_heldBy_1 15 rfl rfl)
theorem dX1_heldBy_39 : decode cX1_heldBy 39 = .ok (.invokevirtual 117, 3) := dk_182 0 117 (dk_at dksX1_heldBy_1 16 rfl rfl)
theorem dX1_heldBy_42 : decode cX1_heldBy 42 = .ok (.ifCond .lt 12, 3) := dk_155 0 12 (dk_at dksX1_heldBy_1 19 rfl rfl)
theorem dX1_heldBy_45 : decode cX1_heldBy 45 = .ok (.aload_n 0, 1) := dk_42 (dk_at dksX1_heldBy_1 22 rfl rfl)
theorem dX1_heldBy_46 : decode cX1_heldBy 46 = .ok (.getfield 47, 3) := dk_180 0 47 (dk_at dksX1_heldBy_2 0 rfl rfl)
theorem dX1_heldBy_49 : decode cX1_heldBy 49 = .ok (.iload_n 2, 1) := dk_28 (dk_at dksX1_heldBy_2 3 rfl rfl)
theorem dX1_heldBy_50 : decode cX1_heldBy 50 = .ok (.iaload, 1) := dk_46 (dk_at dksX1_heldBy_2 4 rfl rfl)
theorem dX1_heldBy_51 : decode cX1_heldBy 51 = .ok (.goto 4, 3) := dk_167 0 4 (dk_at dksX1_heldBy_2 5 rfl rfl)
theorem dX1_heldBy_54 : decode cX1_heldBy 54 = .ok (.iconst 0, 1) := dk_3 (dk_at dksX1_heldBy_2 8 rfl rfl)
theorem dX1_heldBy_55 : decode cX1_heldBy 55 = .ok (.iadd, 1) := dk_96 (dk_at dksX1_heldBy_2 9 rfl rfl)
theorem dX1_heldBy_56 : decode cX1_heldBy 56 = .ok (.istore_n 1, 1) := dk_60 (dk_at dksX1_heldBy_2 10 rfl rfl)
theorem dX1_heldBy_57 : decode cX1_heldBy 57 = .ok (.iinc 2 1, 3) := dk_132 2 1 (dk_at dksX1_heldBy_2 11 rfl rfl)
theorem dX1_heldBy_60 : decode cX1_heldBy 60 = .ok (.goto (-32), 3) := dk_167 255 224 (dk_at dksX1_heldBy_2 14 rfl rfl)
theorem dX1_heldBy_63 : decode cX1_heldBy 63 = .ok (.iload_n 1, 1) := dk_27 (dk_at dksX1_heldBy_2 17 rfl rfl)
theorem dX1_heldBy_64 : decode cX1_heldBy 64 = .ok (.ireturn, 1) := dk_172 (dk_at dksX1_heldBy_2 18 rfl rfl)
abbrev cX1_most : ByteArray := prog_7_method_14_code
def yX1_most : MethodName := ⟨RX1, "most", "()I"⟩
def dkwX1_most_1 : List UInt8 := [60, 132, 2, 1, 167, 255, 232, 27, 172]
abbrev dktX1_most_1 : List UInt8 := dkwX1_most_1 ++ []
def dkwX1_most_0 : List UInt8 := [3, 60, 3, 61, 28, 42, 180, 0, 70, 162, 0, 22, 27, 42, 42, 28, 182, 0, 120, 28, 182, 0, 103, 96]
abbrev dktX1_most_0 : List UInt8 := dkwX1_most_0 ++ dktX1_most_1
theorem dksX1_most_0 : cX1_most.data.toList.drop 0 = dktX1_most_0 := by decide +kernel
theorem dksX1_most_1 : cX1_most.data.toList.drop 24 = dktX1_most_1 := dk_seg dksX1_most_0 24 rfl rfl
theorem dX1_most_0 : decode cX1_most 0 = .ok (.iconst 0, 1) := dk_3 (dk_at dksX1_most_0 0 rfl rfl)
theorem dX1_most_1 : decode cX1_most 1 = .ok (.istore_n 1, 1) := dk_60 (dk_at dksX1_most_0 1 rfl rfl)
theorem dX1_most_2 : decode cX1_most 2 = .ok (.iconst 0, 1) := dk_3 (dk_at dksX1_most_0 2 rfl rfl)
theorem dX1_most_3 : decode cX1_most 3 = .ok (.istore_n 2, 1) := dk_61 (dk_at dksX1_most_0 3 rfl rfl)
theorem dX1_most_4 : decode cX1_most 4 = .ok (.iload_n 2, 1) := dk_28 (dk_at dksX1_most_0 4 rfl rfl)
theorem dX1_most_5 : decode cX1_most 5 = .ok (.aload_n 0, 1) := dk_42 (dk_at dksX1_most_0 5 rfl rfl)
theorem dX1_most_6 : decode cX1_most 6 = .ok (.getfield 70, 3) := dk_180 0 70 (dk_at dksX1_most_0 6 rfl rfl)
theorem dX1_most_9 : decode cX1_most 9 = .ok (.if_icmp .ge 22, 3) := dk_162 0 22 (dk_at dksX1_most_0 9 rfl rfl)
theorem dX1_most_12 : decode cX1_most 12 = .ok (.iload_n 1, 1) := dk_27 (dk_at dksX1_most_0 12 rfl rfl)
theorem dX1_most_13 : decode cX1_most 13 = .ok (.aload_n 0, 1) := dk_42 (dk_at dksX1_most_0 13 rfl rfl)
theorem dX1_most_14 : decode cX1_most 14 = .ok (.aload_n 0, 1) := dk_42 (dk_at dksX1_most_0 14 rfl rfl)
theorem dX1_most_15 : decode cX1_most 15 = .ok (.iload_n 2, 1) := dk_28 (dk_at dksX1_most_0 15 rfl rfl)
theorem dX1_most_16 : decode cX1_most 16 = .ok (.invokevirtual 120, 3) := dk_182 0 120 (dk_at dksX1_most_0 16 rfl rfl)
theorem dX1_most_19 : decode cX1_most 19 = .ok (.iload_n 2, 1) := dk_28 (dk_at dksX1_most_0 19 rfl rfl)
theorem dX1_most_20 : decode cX1_most 20 = .ok (.invokevirtual 103, 3) := dk_182 0 103 (dk_at dksX1_most_0 20 rfl rfl)
theorem dX1_most_23 : decode cX1_most 23 = .ok (.iadd, 1) := dk_96 (dk_at dksX1_most_0 23 rfl rfl)
theorem dX1_most_24 : decode cX1_most 24 = .ok (.istore_n 1, 1) := dk_60 (dk_at dksX1_most_1 0 rfl rfl)
theorem dX1_most_25 : decode cX1_most 25 = .ok (.iinc 2 1, 3) := dk_132 2 1 (dk_at dksX1_most_1 1 rfl rfl)
theorem dX1_most_28 : decode cX1_most 28 = .ok (.goto (-24), 3) := dk_167 255 232 (dk_at dksX1_most_1 4 rfl rfl)
theorem dX1_most_31 : decode cX1_most 31 = .ok (.iload_n 1, 1) := dk_27 (dk_at dksX1_most_1 7 rfl rfl)
theorem dX1_most_32 : decode cX1_most 32 = .ok (.ireturn, 1) := dk_172 (dk_at dksX1_most_1 8 rfl rfl)
abbrev cX1_become : ByteArray := prog_7_method_2_code
def yX1_become : MethodName := ⟨RX1, "become", "(LNamedPrices$House;)V"⟩
def dkwX1_become_12 : List UInt8 := [180, 0, 63, 3, 42, 180, 0, 63, 3, 16, 24, 184, 0, 95, 177]
abbrev dktX1_become_12 : List UInt8 := dkwX1_become_12 ++ []
def dkwX1_become_11 : List UInt8 := [180, 0, 55, 3, 5, 184, 0, 95, 43, 180, 0, 59, 3, 42, 180, 0, 59, 3, 16, 60, 184, 0, 95, 43]
abbrev dktX1_become_11 : List UInt8 := dkwX1_become_11 ++ dktX1_become_12
def dkwX1_become_10 : List UInt8 := [184, 0, 95, 43, 180, 0, 50, 3, 42, 180, 0, 50, 3, 8, 184, 0, 95, 43, 180, 0, 55, 3, 42]
abbrev dktX1_become_10 : List UInt8 := dkwX1_become_10 ++ dktX1_become_11
def dkwX1_become_9 : List UInt8 := [3, 42, 180, 0, 44, 3, 16, 6, 184, 0, 95, 43, 180, 0, 47, 3, 42, 180, 0, 47, 3, 16, 6]
abbrev dktX1_become_9 : List UInt8 := dkwX1_become_9 ++ dktX1_become_10
def dkwX1_become_8 : List UInt8 := [16, 72, 184, 0, 95, 43, 180, 0, 41, 3, 42, 180, 0, 41, 3, 16, 6, 184, 0, 95, 43, 180, 0, 44]
abbrev dktX1_become_8 : List UInt8 := dkwX1_become_8 ++ dktX1_become_9
def dkwX1_become_7 : List UInt8 := [180, 0, 34, 3, 42, 180, 0, 34, 3, 16, 12, 184, 0, 95, 43, 180, 0, 38, 3, 42, 180, 0, 38, 3]
abbrev dktX1_become_7 : List UInt8 := dkwX1_become_7 ++ dktX1_become_8
def dkwX1_become_6 : List UInt8 := [3, 16, 12, 184, 0, 95, 43, 180, 0, 31, 3, 42, 180, 0, 31, 3, 16, 12, 184, 0, 95, 43]
abbrev dktX1_become_6 : List UInt8 := dkwX1_become_6 ++ dktX1_become_7
def dkwX1_become_5 : List UInt8 := [43, 180, 0, 25, 3, 42, 180, 0, 25, 3, 16, 12, 184, 0, 95, 43, 180, 0, 28, 3, 42, 180, 0, 28]
abbrev dktX1_become_5 : List UInt8 := dkwX1_become_5 ++ dktX1_become_6
def dkwX1_become_4 : List UInt8 := [181, 0, 91, 132, 2, 1, 167, 255, 229, 43, 180, 0, 21, 3, 42, 180, 0, 21, 3, 16, 6, 184, 0, 95]
abbrev dktX1_become_4 : List UInt8 := dkwX1_become_4 ++ dktX1_become_5
def dkwX1_become_3 : List UInt8 := [3, 61, 28, 16, 6, 162, 0, 27, 42, 180, 0, 17, 28, 50, 43, 180, 0, 17, 28, 50, 180, 0, 91]
abbrev dktX1_become_3 : List UInt8 := dkwX1_become_3 ++ dktX1_become_4
def dkwX1_become_2 : List UInt8 := [42, 43, 180, 0, 9, 181, 0, 9, 42, 43, 180, 0, 85, 181, 0, 85, 42, 43, 180, 0, 88, 181, 0, 88]
abbrev dktX1_become_2 : List UInt8 := dkwX1_become_2 ++ dktX1_become_3
def dkwX1_become_1 : List UInt8 := [42, 43, 180, 0, 76, 181, 0, 76, 42, 43, 180, 0, 79, 181, 0, 79, 42, 43, 180, 0, 82, 181, 0, 82]
abbrev dktX1_become_1 : List UInt8 := dkwX1_become_1 ++ dktX1_become_2
def dkwX1_become_0 : List UInt8 := [42, 43, 180, 0, 67, 181, 0, 67, 42, 43, 180, 0, 70, 181, 0, 70, 42, 43, 180, 0, 73, 181, 0, 73]
abbrev dktX1_become_0 : List UInt8 := dkwX1_become_0 ++ dktX1_become_1
theorem dksX1_become_0 : cX1_become.data.toList.drop 0 = dktX1_become_0 := by decide +kernel
theorem dksX1_become_1 : cX1_become.data.toList.drop 24 = dktX1_become_1 := dk_seg dksX1_become_0 24 rfl rfl
theorem dksX1_become_2 : cX1_become.data.toList.drop 48 = dktX1_become_2 := dk_seg dksX1_become_1 24 rfl rfl
theorem dksX1_become_3 : cX1_become.data.toList.drop 72 = dktX1_become_3 := dk_seg dksX1_become_2 24 rfl rfl
theorem dksX1_become_4 : cX1_become.data.toList.drop 95 = dktX1_become_4 := dk_seg dksX1_become_3 23 rfl rfl
theorem dksX1_become_5 : cX1_become.data.toList.drop 119 = dktX1_become_5 := dk_seg dksX1_become_4 24 rfl rfl
theorem dksX1_become_6 : cX1_become.data.toList.drop 143 = dktX1_become_6 := dk_seg dksX1_become_5 24 rfl rfl
theorem dksX1_become_7 : cX1_become.data.toList.drop 165 = dktX1_become_7 := dk_seg dksX1_become_6 22 rfl rfl
theorem dksX1_become_8 : cX1_become.data.toList.drop 189 = dktX1_become_8 := dk_seg dksX1_become_7 24 rfl rfl
theorem dksX1_become_9 : cX1_become.data.toList.drop 213 = dktX1_become_9 := dk_seg dksX1_become_8 24 rfl rfl
theorem dksX1_become_10 : cX1_become.data.toList.drop 236 = dktX1_become_10 := dk_seg dksX1_become_9 23 rfl rfl
theorem dksX1_become_11 : cX1_become.data.toList.drop 259 = dktX1_become_11 := dk_seg dksX1_become_10 23 rfl rfl
theorem dksX1_become_12 : cX1_become.data.toList.drop 283 = dktX1_become_12 := dk_seg dksX1_become_11 24 rfl rfl
theorem dX1_become_0 : decode cX1_become 0 = .ok (.aload_n 0, 1) := dk_42 (dk_at dksX1_become_0 0 rfl rfl)
theorem dX1_become_1 : decode cX1_become 1 = .ok (.aload_n 1, 1) := dk_43 (dk_at dksX1_become_0 1 rfl rfl)
theorem dX1_become_2 : decode cX1_become 2 = .ok (.getfield 67, 3) := dk_180 0 67 (dk_at dksX1_become_0 2 rfl rfl)
theorem dX1_become_5 : decode cX1_become 5 = .ok (.putfield 67, 3) := dk_181 0 67 (dk_at dksX1_become_0 5 rfl rfl)
theorem dX1_become_8 : decode cX1_become 8 = .ok (.aload_n 0, 1) := dk_42 (dk_at dksX1_become_0 8 rfl rfl)
theorem dX1_become_9 : decode cX1_become 9 = .ok (.aload_n 1, 1) := dk_43 (dk_at dksX1_become_0 9 rfl rfl)
theorem dX1_become_10 : decode cX1_become 10 = .ok (.getfield 70, 3) := dk_180 0 70 (dk_at dksX1_become_0 10 rfl rfl)
theorem dX1_become_13 : decode cX1_become 13 = .ok (.putfield 70, 3) := dk_181 0 70 (dk_at dksX1_become_0 13 rfl rfl)
theorem dX1_become_16 : decode cX1_become 16 = .ok (.aload_n 0, 1) := dk_42 (dk_at dksX1_become_0 16 rfl rfl)
theorem dX1_become_17 : decode cX1_become 17 = .ok (.aload_n 1, 1) := dk_43 (dk_at dksX1_become_0 17 rfl rfl)
theorem dX1_become_18 : decode cX1_become 18 = .ok (.getfield 73, 3) := dk_180 0 73 (dk_at dksX1_become_0 18 rfl rfl)
theorem dX1_become_21 : decode cX1_become 21 = .ok (.putfield 73, 3) := dk_181 0 73 (dk_at dksX1_become_0 21 rfl rfl)
theorem dX1_become_24 : decode cX1_become 24 = .ok (.aload_n 0, 1) := dk_42 (dk_at dksX1_become_1 0 rfl rfl)
theorem dX1_become_25 : decode cX1_become 25 = .ok (.aload_n 1, 1) := dk_43 (dk_at dksX1_become_1 1 rfl rfl)
theorem dX1_become_26 : decode cX1_become 26 = .ok (.getfield 76, 3) := dk_180 0 76 (dk_at dksX1_become_1 2 rfl rfl)
theorem dX1_become_29 : decode cX1_become 29 = .ok (.putfield 76, 3) := dk_181 0 76 (dk_at dksX1_become_1 5 rfl rfl)
theorem dX1_become_32 : decode cX1_become 32 = .ok (.aload_n 0, 1) := dk_42 (dk_at dksX1_become_1 8 rfl rfl)
theorem dX1_become_33 : decode cX1_become 33 = .ok (.aload_n 1, 1) := dk_43 (dk_at dksX1_become_1 9 rfl rfl)
theorem dX1_become_34 : decode cX1_become 34 = .ok (.getfield 79, 3) := dk_180 0 79 (dk_at dksX1_become_1 10 rfl rfl)
theorem dX1_become_37 : decode cX1_become 37 = .ok (.putfield 79, 3) := dk_181 0 79 (dk_at dksX1_become_1 13 rfl rfl)
theorem dX1_become_40 : decode cX1_become 40 = .ok (.aload_n 0, 1) := dk_42 (dk_at dksX1_become_1 16 rfl rfl)
theorem dX1_become_41 : decode cX1_become 41 = .ok (.aload_n 1, 1) := dk_43 (dk_at dksX1_become_1 17 rfl rfl)
theorem dX1_become_42 : decode cX1_become 42 = .ok (.getfield 82, 3) := dk_180 0 82 (dk_at dksX1_become_1 18 rfl rfl)
theorem dX1_become_45 : decode cX1_become 45 = .ok (.putfield 82, 3) := dk_181 0 82 (dk_at dksX1_become_1 21 rfl rfl)
theorem dX1_become_48 : decode cX1_become 48 = .ok (.aload_n 0, 1) := dk_42 (dk_at dksX1_become_2 0 rfl rfl)
theorem dX1_become_49 : decode cX1_become 49 = .ok (.aload_n 1, 1) := dk_43 (dk_at dksX1_become_2 1 rfl rfl)
theorem dX1_become_50 : decode cX1_become 50 = .ok (.getfield 9, 3) := dk_180 0 9 (dk_at dksX1_become_2 2 rfl rfl)
theorem dX1_become_53 : decode cX1_become 53 = .ok (.putfield 9, 3) := dk_181 0 9 (dk_at dksX1_become_2 5 rfl rfl)
theorem dX1_become_56 : decode cX1_become 56 = .ok (.aload_n 0, 1) := dk_42 (dk_at dksX1_become_2 8 rfl rfl)
theorem dX1_become_57 : decode cX1_become 57 = .ok (.aload_n 1, 1) := dk_43 (dk_at dksX1_become_2 9 rfl rfl)
theorem dX1_become_58 : decode cX1_become 58 = .ok (.getfield 85, 3) := dk_180 0 85 (dk_at dksX1_become_2 10 rfl rfl)
theorem dX1_become_61 : decode cX1_become 61 = .ok (.putfield 85, 3) := dk_181 0 85 (dk_at dksX1_become_2 13 rfl rfl)
theorem dX1_become_64 : decode cX1_become 64 = .ok (.aload_n 0, 1) := dk_42 (dk_at dksX1_become_2 16 rfl rfl)
theorem dX1_become_65 : decode cX1_become 65 = .ok (.aload_n 1, 1) := dk_43 (dk_at dksX1_become_2 17 rfl rfl)
theorem dX1_become_66 : decode cX1_become 66 = .ok (.getfield 88, 3) := dk_180 0 88 (dk_at dksX1_become_2 18 rfl rfl)
theorem dX1_become_69 : decode cX1_become 69 = .ok (.putfield 88, 3) := dk_181 0 88 (dk_at dksX1_become_2 21 rfl rfl)
theorem dX1_become_72 : decode cX1_become 72 = .ok (.iconst 0, 1) := dk_3 (dk_at dksX1_become_3 0 rfl rfl)
theorem dX1_become_73 : decode cX1_become 73 = .ok (.istore_n 2, 1) := dk_61 (dk_at dksX1_become_3 1 rfl rfl)
theorem dX1_become_74 : decode cX1_become 74 = .ok (.iload_n 2, 1) := dk_28 (dk_at dksX1_become_3 2 rfl rfl)
theorem dX1_become_75 : decode cX1_become 75 = .ok (.bipush 6, 2) := dk_16 6 (dk_at dksX1_become_3 3 rfl rfl)
theorem dX1_become_77 : decode cX1_become 77 = .ok (.if_icmp .ge 27, 3) := dk_162 0 27 (dk_at dksX1_become_3 5 rfl rfl)
theorem dX1_become_80 : decode cX1_become 80 = .ok (.aload_n 0, 1) := dk_42 (dk_at dksX1_become_3 8 rfl rfl)
theorem dX1_become_81 : decode cX1_become 81 = .ok (.getfield 17, 3) := dk_180 0 17 (dk_at dksX1_become_3 9 rfl rfl)
theorem dX1_become_84 : decode cX1_become 84 = .ok (.iload_n 2, 1) := dk_28 (dk_at dksX1_become_3 12 rfl rfl)
theorem dX1_become_85 : decode cX1_become 85 = .ok (.aaload, 1) := dk_50 (dk_at dksX1_become_3 13 rfl rfl)
theorem dX1_become_86 : decode cX1_become 86 = .ok (.aload_n 1, 1) := dk_43 (dk_at dksX1_become_3 14 rfl rfl)
theorem dX1_become_87 : decode cX1_become 87 = .ok (.getfield 17, 3) := dk_180 0 17 (dk_at dksX1_become_3 15 rfl rfl)
theorem dX1_become_90 : decode cX1_become 90 = .ok (.iload_n 2, 1) := dk_28 (dk_at dksX1_become_3 18 rfl rfl)
theorem dX1_become_91 : decode cX1_become 91 = .ok (.aaload, 1) := dk_50 (dk_at dksX1_become_3 19 rfl rfl)
theorem dX1_become_92 : decode cX1_become 92 = .ok (.getfield 91, 3) := dk_180 0 91 (dk_at dksX1_become_3 20 rfl rfl)
theorem dX1_become_95 : decode cX1_become 95 = .ok (.putfield 91, 3) := dk_181 0 91 (dk_at dksX1_become_4 0 rfl rfl)
theorem dX1_become_98 : decode cX1_become 98 = .ok (.iinc 2 1, 3) := dk_132 2 1 (dk_at dksX1_become_4 3 rfl rfl)
theorem dX1_become_101 : decode cX1_become 101 = .ok (.goto (-27), 3) := dk_167 255 229 (dk_at dksX1_become_4 6 rfl rfl)
theorem dX1_become_104 : decode cX1_become 104 = .ok (.aload_n 1, 1) := dk_43 (dk_at dksX1_become_4 9 rfl rfl)
theorem dX1_become_105 : decode cX1_become 105 = .ok (.getfield 21, 3) := dk_180 0 21 (dk_at dksX1_become_4 10 rfl rfl)
theorem dX1_become_108 : decode cX1_become 108 = .ok (.iconst 0, 1) := dk_3 (dk_at dksX1_become_4 13 rfl rfl)
theorem dX1_become_109 : decode cX1_become 109 = .ok (.aload_n 0, 1) := dk_42 (dk_at dksX1_become_4 14 rfl rfl)
theorem dX1_become_110 : decode cX1_become 110 = .ok (.getfield 21, 3) := dk_180 0 21 (dk_at dksX1_become_4 15 rfl rfl)
theorem dX1_become_113 : decode cX1_become 113 = .ok (.iconst 0, 1) := dk_3 (dk_at dksX1_become_4 18 rfl rfl)
theorem dX1_become_114 : decode cX1_become 114 = .ok (.bipush 6, 2) := dk_16 6 (dk_at dksX1_become_4 19 rfl rfl)
theorem dX1_become_116 : decode cX1_become 116 = .ok (.invokestatic 95, 3) := dk_184 0 95 (dk_at dksX1_become_4 21 rfl rfl)
theorem dX1_become_119 : decode cX1_become 119 = .ok (.aload_n 1, 1) := dk_43 (dk_at dksX1_become_5 0 rfl rfl)
theorem dX1_become_120 : decode cX1_become 120 = .ok (.getfield 25, 3) := dk_180 0 25 (dk_at dksX1_become_5 1 rfl rfl)
theorem dX1_become_123 : decode cX1_become 123 = .ok (.iconst 0, 1) := dk_3 (dk_at dksX1_become_5 4 rfl rfl)
theorem dX1_become_124 : decode cX1_become 124 = .ok (.aload_n 0, 1) := dk_42 (dk_at dksX1_become_5 5 rfl rfl)
theorem dX1_become_125 : decode cX1_become 125 = .ok (.getfield 25, 3) := dk_180 0 25 (dk_at dksX1_become_5 6 rfl rfl)
theorem dX1_become_128 : decode cX1_become 128 = .ok (.iconst 0, 1) := dk_3 (dk_at dksX1_become_5 9 rfl rfl)
theorem dX1_become_129 : decode cX1_become 129 = .ok (.bipush 12, 2) := dk_16 12 (dk_at dksX1_become_5 10 rfl rfl)
theorem dX1_become_131 : decode cX1_become 131 = .ok (.invokestatic 95, 3) := dk_184 0 95 (dk_at dksX1_become_5 12 rfl rfl)
theorem dX1_become_134 : decode cX1_become 134 = .ok (.aload_n 1, 1) := dk_43 (dk_at dksX1_become_5 15 rfl rfl)
theorem dX1_become_135 : decode cX1_become 135 = .ok (.getfield 28, 3) := dk_180 0 28 (dk_at dksX1_become_5 16 rfl rfl)
theorem dX1_become_138 : decode cX1_become 138 = .ok (.iconst 0, 1) := dk_3 (dk_at dksX1_become_5 19 rfl rfl)
theorem dX1_become_139 : decode cX1_become 139 = .ok (.aload_n 0, 1) := dk_42 (dk_at dksX1_become_5 20 rfl rfl)
theorem dX1_become_140 : decode cX1_become 140 = .ok (.getfield 28, 3) := dk_180 0 28 (dk_at dksX1_become_5 21 rfl rfl)
theorem dX1_become_143 : decode cX1_become 143 = .ok (.iconst 0, 1) := dk_3 (dk_at dksX1_become_6 0 rfl rfl)
theorem dX1_become_144 : decode cX1_become 144 = .ok (.bipush 12, 2) := dk_16 12 (dk_at dksX1_become_6 1 rfl rfl)
theorem dX1_become_146 : decode cX1_become 146 = .ok (.invokestatic 95, 3) := dk_184 0 95 (dk_at dksX1_become_6 3 rfl rfl)
theorem dX1_become_149 : decode cX1_become 149 = .ok (.aload_n 1, 1) := dk_43 (dk_at dksX1_become_6 6 rfl rfl)
theorem dX1_become_150 : decode cX1_become 150 = .ok (.getfield 31, 3) := dk_180 0 31 (dk_at dksX1_become_6 7 rfl rfl)
theorem dX1_become_153 : decode cX1_become 153 = .ok (.iconst 0, 1) := dk_3 (dk_at dksX1_become_6 10 rfl rfl)
theorem dX1_become_154 : decode cX1_become 154 = .ok (.aload_n 0, 1) := dk_42 (dk_at dksX1_become_6 11 rfl rfl)
theorem dX1_become_155 : decode cX1_become 155 = .ok (.getfield 31, 3) := dk_180 0 31 (dk_at dksX1_become_6 12 rfl rfl)
theorem dX1_become_158 : decode cX1_become 158 = .ok (.iconst 0, 1) := dk_3 (dk_at dksX1_become_6 15 rfl rfl)
theorem dX1_become_159 : decode cX1_become 159 = .ok (.bipush 12, 2) := dk_16 12 (dk_at dksX1_become_6 16 rfl rfl)
theorem dX1_become_161 : decode cX1_become 161 = .ok (.invokestatic 95, 3) := dk_184 0 95 (dk_at dksX1_become_6 18 rfl rfl)
theorem dX1_become_164 : decode cX1_become 164 = .ok (.aload_n 1, 1) := dk_43 (dk_at dksX1_become_6 21 rfl rfl)
theorem dX1_become_165 : decode cX1_become 165 = .ok (.getfield 34, 3) := dk_180 0 34 (dk_at dksX1_become_7 0 rfl rfl)
theorem dX1_become_168 : decode cX1_become 168 = .ok (.iconst 0, 1) := dk_3 (dk_at dksX1_become_7 3 rfl rfl)
theorem dX1_become_169 : decode cX1_become 169 = .ok (.aload_n 0, 1) := dk_42 (dk_at dksX1_become_7 4 rfl rfl)
theorem dX1_become_170 : decode cX1_become 170 = .ok (.getfield 34, 3) := dk_180 0 34 (dk_at dksX1_become_7 5 rfl rfl)
theorem dX1_become_173 : decode cX1_become 173 = .ok (.iconst 0, 1) := dk_3 (dk_at dksX1_become_7 8 rfl rfl)
theorem dX1_become_174 : decode cX1_become 174 = .ok (.bipush 12, 2) := dk_16 12 (dk_at dksX1_become_7 9 rfl rfl)
theorem dX1_become_176 : decode cX1_become 176 = .ok (.invokestatic 95, 3) := dk_184 0 95 (dk_at dksX1_become_7 11 rfl rfl)
theorem dX1_become_179 : decode cX1_become 179 = .ok (.aload_n 1, 1) := dk_43 (dk_at dksX1_become_7 14 rfl rfl)
theorem dX1_become_180 : decode cX1_become 180 = .ok (.getfield 38, 3) := dk_180 0 38 (dk_at dksX1_become_7 15 rfl rfl)
theorem dX1_become_183 : decode cX1_become 183 = .ok (.iconst 0, 1) := dk_3 (dk_at dksX1_become_7 18 rfl rfl)
theorem dX1_become_184 : decode cX1_become 184 = .ok (.aload_n 0, 1) := dk_42 (dk_at dksX1_become_7 19 rfl rfl)
theorem dX1_become_185 : decode cX1_become 185 = .ok (.getfield 38, 3) := dk_180 0 38 (dk_at dksX1_become_7 20 rfl rfl)
theorem dX1_become_188 : decode cX1_become 188 = .ok (.iconst 0, 1) := dk_3 (dk_at dksX1_become_7 23 rfl rfl)
theorem dX1_become_189 : decode cX1_become 189 = .ok (.bipush 72, 2) := dk_16 72 (dk_at dksX1_become_8 0 rfl rfl)
theorem dX1_become_191 : decode cX1_become 191 = .ok (.invokestatic 95, 3) := dk_184 0 95 (dk_at dksX1_become_8 2 rfl rfl)
theorem dX1_become_194 : decode cX1_become 194 = .ok (.aload_n 1, 1) := dk_43 (dk_at dksX1_become_8 5 rfl rfl)
theorem dX1_become_195 : decode cX1_become 195 = .ok (.getfield 41, 3) := dk_180 0 41 (dk_at dksX1_become_8 6 rfl rfl)
theorem dX1_become_198 : decode cX1_become 198 = .ok (.iconst 0, 1) := dk_3 (dk_at dksX1_become_8 9 rfl rfl)
theorem dX1_become_199 : decode cX1_become 199 = .ok (.aload_n 0, 1) := dk_42 (dk_at dksX1_become_8 10 rfl rfl)
theorem dX1_become_200 : decode cX1_become 200 = .ok (.getfield 41, 3) := dk_180 0 41 (dk_at dksX1_become_8 11 rfl rfl)
theorem dX1_become_203 : decode cX1_become 203 = .ok (.iconst 0, 1) := dk_3 (dk_at dksX1_become_8 14 rfl rfl)
theorem dX1_become_204 : decode cX1_become 204 = .ok (.bipush 6, 2) := dk_16 6 (dk_at dksX1_become_8 15 rfl rfl)
theorem dX1_become_206 : decode cX1_become 206 = .ok (.invokestatic 95, 3) := dk_184 0 95 (dk_at dksX1_become_8 17 rfl rfl)
theorem dX1_become_209 : decode cX1_become 209 = .ok (.aload_n 1, 1) := dk_43 (dk_at dksX1_become_8 20 rfl rfl)
theorem dX1_become_210 : decode cX1_become 210 = .ok (.getfield 44, 3) := dk_180 0 44 (dk_at dksX1_become_8 21 rfl rfl)
theorem dX1_become_213 : decode cX1_become 213 = .ok (.iconst 0, 1) := dk_3 (dk_at dksX1_become_9 0 rfl rfl)
theorem dX1_become_214 : decode cX1_become 214 = .ok (.aload_n 0, 1) := dk_42 (dk_at dksX1_become_9 1 rfl rfl)
theorem dX1_become_215 : decode cX1_become 215 = .ok (.getfield 44, 3) := dk_180 0 44 (dk_at dksX1_become_9 2 rfl rfl)
theorem dX1_become_218 : decode cX1_become 218 = .ok (.iconst 0, 1) := dk_3 (dk_at dksX1_become_9 5 rfl rfl)
theorem dX1_become_219 : decode cX1_become 219 = .ok (.bipush 6, 2) := dk_16 6 (dk_at dksX1_become_9 6 rfl rfl)
theorem dX1_become_221 : decode cX1_become 221 = .ok (.invokestatic 95, 3) := dk_184 0 95 (dk_at dksX1_become_9 8 rfl rfl)
theorem dX1_become_224 : decode cX1_become 224 = .ok (.aload_n 1, 1) := dk_43 (dk_at dksX1_become_9 11 rfl rfl)
theorem dX1_become_225 : decode cX1_become 225 = .ok (.getfield 47, 3) := dk_180 0 47 (dk_at dksX1_become_9 12 rfl rfl)
theorem dX1_become_228 : decode cX1_become 228 = .ok (.iconst 0, 1) := dk_3 (dk_at dksX1_become_9 15 rfl rfl)
theorem dX1_become_229 : decode cX1_become 229 = .ok (.aload_n 0, 1) := dk_42 (dk_at dksX1_become_9 16 rfl rfl)
theorem dX1_become_230 : decode cX1_become 230 = .ok (.getfield 47, 3) := dk_180 0 47 (dk_at dksX1_become_9 17 rfl rfl)
theorem dX1_become_233 : decode cX1_become 233 = .ok (.iconst 0, 1) := dk_3 (dk_at dksX1_become_9 20 rfl rfl)
theorem dX1_become_234 : decode cX1_become 234 = .ok (.bipush 6, 2) := dk_16 6 (dk_at dksX1_become_9 21 rfl rfl)
theorem dX1_become_236 : decode cX1_become 236 = .ok (.invokestatic 95, 3) := dk_184 0 95 (dk_at dksX1_become_10 0 rfl rfl)
theorem dX1_become_239 : decode cX1_become 239 = .ok (.aload_n 1, 1) := dk_43 (dk_at dksX1_become_10 3 rfl rfl)
theorem dX1_become_240 : decode cX1_become 240 = .ok (.getfield 50, 3) := dk_180 0 50 (dk_at dksX1_become_10 4 rfl rfl)
theorem dX1_become_243 : decode cX1_become 243 = .ok (.iconst 0, 1) := dk_3 (dk_at dksX1_become_10 7 rfl rfl)
theorem dX1_become_244 : decode cX1_become 244 = .ok (.aload_n 0, 1) := dk_42 (dk_at dksX1_become_10 8 rfl rfl)
theorem dX1_become_245 : decode cX1_become 245 = .ok (.getfield 50, 3) := dk_180 0 50 (dk_at dksX1_become_10 9 rfl rfl)
theorem dX1_become_248 : decode cX1_become 248 = .ok (.iconst 0, 1) := dk_3 (dk_at dksX1_become_10 12 rfl rfl)
theorem dX1_become_249 : decode cX1_become 249 = .ok (.iconst 5, 1) := dk_8 (dk_at dksX1_become_10 13 rfl rfl)
theorem dX1_become_250 : decode cX1_become 250 = .ok (.invokestatic 95, 3) := dk_184 0 95 (dk_at dksX1_become_10 14 rfl rfl)
theorem dX1_become_253 : decode cX1_become 253 = .ok (.aload_n 1, 1) := dk_43 (dk_at dksX1_become_10 17 rfl rfl)
theorem dX1_become_254 : decode cX1_become 254 = .ok (.getfield 55, 3) := dk_180 0 55 (dk_at dksX1_become_10 18 rfl rfl)
theorem dX1_become_257 : decode cX1_become 257 = .ok (.iconst 0, 1) := dk_3 (dk_at dksX1_become_10 21 rfl rfl)
theorem dX1_become_258 : decode cX1_become 258 = .ok (.aload_n 0, 1) := dk_42 (dk_at dksX1_become_10 22 rfl rfl)
theorem dX1_become_259 : decode cX1_become 259 = .ok (.getfield 55, 3) := dk_180 0 55 (dk_at dksX1_become_11 0 rfl rfl)
theorem dX1_become_262 : decode cX1_become 262 = .ok (.iconst 0, 1) := dk_3 (dk_at dksX1_become_11 3 rfl rfl)
theorem dX1_become_263 : decode cX1_become 263 = .ok (.iconst 2, 1) := dk_5 (dk_at dksX1_become_11 4 rfl rfl)
theorem dX1_become_264 : decode cX1_become 264 = .ok (.invokestatic 95, 3) := dk_184 0 95 (dk_at dksX1_become_11 5 rfl rfl)
theorem dX1_become_267 : decode cX1_become 267 = .ok (.aload_n 1, 1) := dk_43 (dk_at dksX1_become_11 8 rfl rfl)
theorem dX1_become_268 : decode cX1_become 268 = .ok (.getfield 59, 3) := dk_180 0 59 (dk_at dksX1_become_11 9 rfl rfl)
theorem dX1_become_271 : decode cX1_become 271 = .ok (.iconst 0, 1) := dk_3 (dk_at dksX1_become_11 12 rfl rfl)
theorem dX1_become_272 : decode cX1_become 272 = .ok (.aload_n 0, 1) := dk_42 (dk_at dksX1_become_11 13 rfl rfl)
theorem dX1_become_273 : decode cX1_become 273 = .ok (.getfield 59, 3) := dk_180 0 59 (dk_at dksX1_become_11 14 rfl rfl)
theorem dX1_become_276 : decode cX1_become 276 = .ok (.iconst 0, 1) := dk_3 (dk_at dksX1_become_11 17 rfl rfl)
theorem dX1_become_277 : decode cX1_become 277 = .ok (.bipush 60, 2) := dk_16 60 (dk_at dksX1_become_11 18 rfl rfl)
theorem dX1_become_279 : decode cX1_become 279 = .ok (.invokestatic 95, 3) := dk_184 0 95 (dk_at dksX1_become_11 20 rfl rfl)
theorem dX1_become_282 : decode cX1_become 282 = .ok (.aload_n 1, 1) := dk_43 (dk_at dksX1_become_11 23 rfl rfl)
theorem dX1_become_283 : decode cX1_become 283 = .ok (.getfield 63, 3) := dk_180 0 63 (dk_at dksX1_become_12 0 rfl rfl)
theorem dX1_become_286 : decode cX1_become 286 = .ok (.iconst 0, 1) := dk_3 (dk_at dksX1_become_12 3 rfl rfl)
theorem dX1_become_287 : decode cX1_become 287 = .ok (.aload_n 0, 1) := dk_42 (dk_at dksX1_become_12 4 rfl rfl)
theorem dX1_become_288 : decode cX1_become 288 = .ok (.getfield 63, 3) := dk_180 0 63 (dk_at dksX1_become_12 5 rfl rfl)
theorem dX1_become_291 : decode cX1_become 291 = .ok (.iconst 0, 1) := dk_3 (dk_at dksX1_become_12 8 rfl rfl)
theorem dX1_become_292 : decode cX1_become 292 = .ok (.bipush 24, 2) := dk_16 24 (dk_at dksX1_become_12 9 rfl rfl)
theorem dX1_become_294 : decode cX1_become 294 = .ok (.invokestatic 95, 3) := dk_184 0 95 (dk_at dksX1_become_12 11 rfl rfl)
theorem dX1_become_297 : decode cX1_become 297 = .ok (.return_, 1) := dk_177 (dk_at dksX1_become_12 14 rfl rfl)
theorem q91 : (Jvm.Cond.initialized "NamedPrices$House") ∈ lw_all := lw_g (lw_at lw_m1 2 rfl) rfl
theorem q129 : (Jvm.Cond.instantiable "NamedPrices$House" (23 : Nat)) ∈ lw_all := lw_g (lw_at lw_m1 40 rfl) rfl
theorem q131 : (Jvm.Cond.instanceMethod ({ cls := "NamedPrices$House", name := "<init>", desc := "()V" } : Jvm.MethodName)) ∈ lw_all := lw_g (lw_at lw_m1 42 rfl) rfl
theorem q132 : (Jvm.Cond.code ({ cls := "NamedPrices$House", name := "<init>", desc := "()V" } : Jvm.MethodName) prog_7_method_1_code (2 : Nat) (Option.none : Option Jvm.ClassFile.FieldType)) ∈ lw_all := lw_g (lw_at lw_m1 43 rfl) rfl
theorem q133 : (Jvm.Cond.methodLink "NamedPrices$House" (3 : Nat) ({ cls := "java/lang/Object", name := "<init>", desc := "()V" } : Jvm.MethodName)) ∈ lw_all := lw_g (lw_at lw_m1 44 rfl) rfl
theorem q134 : (Jvm.Cond.classLink "NamedPrices$House" (15 : Nat) "NamedPrices$Slot") ∈ lw_all := lw_g (lw_at lw_m1 45 rfl) rfl
theorem q136 : (Jvm.Cond.classLink "NamedPrices$House" (53 : Nat) "NamedPrices$Text") ∈ lw_all := lw_g (lw_at lw_m1 47 rfl) rfl
theorem q139 : (Jvm.Cond.methodLinkNest "NamedPrices$House" (66 : Nat) ({ cls := "NamedPrices$Slot", name := "<init>", desc := "()V" } : Jvm.MethodName) "NamedPrices") ∈ lw_tbl := lw_at lw_m1 50 rfl
theorem q143 : (Jvm.Cond.fieldLinkNest "NamedPrices$House" (91 : Nat) "NamedPrices$Slot" "held" "Ljava/lang/Object;" "NamedPrices") ∈ lw_tbl := lw_at lw_m1 54 rfl
theorem q151 : (Jvm.Cond.fieldLink "NamedPrices$House" (67 : Nat) "NamedPrices$House" "people" "I") ∈ lw_all := lw_g (lw_at lw_m1 62 rfl) rfl
theorem q153 : (Jvm.Cond.fieldLink "NamedPrices$House" (70 : Nat) "NamedPrices$House" "things" "I") ∈ lw_all := lw_g (lw_at lw_m1 64 rfl) rfl
theorem q155 : (Jvm.Cond.fieldLink "NamedPrices$House" (73 : Nat) "NamedPrices$House" "pairs" "I") ∈ lw_all := lw_g (lw_at lw_m1 66 rfl) rfl
theorem q157 : (Jvm.Cond.fieldLink "NamedPrices$House" (76 : Nat) "NamedPrices$House" "pot" "I") ∈ lw_all := lw_g (lw_at lw_m1 68 rfl) rfl
theorem q159 : (Jvm.Cond.fieldLink "NamedPrices$House" (79 : Nat) "NamedPrices$House" "years" "I") ∈ lw_all := lw_g (lw_at lw_m1 70 rfl) rfl
theorem q161 : (Jvm.Cond.fieldLink "NamedPrices$House" (82 : Nat) "NamedPrices$House" "moves" "I") ∈ lw_all := lw_g (lw_at lw_m1 72 rfl) rfl
theorem q163 : (Jvm.Cond.fieldLink "NamedPrices$House" (9 : Nat) "NamedPrices$House" "z" "I") ∈ lw_all := lw_g (lw_at lw_m1 74 rfl) rfl
theorem q165 : (Jvm.Cond.fieldLink "NamedPrices$House" (85 : Nat) "NamedPrices$House" "taped" "I") ∈ lw_all := lw_g (lw_at lw_m1 76 rfl) rfl
theorem q167 : (Jvm.Cond.fieldLink "NamedPrices$House" (88 : Nat) "NamedPrices$House" "waiting" "I") ∈ lw_all := lw_g (lw_at lw_m1 78 rfl) rfl
theorem q169 : (Jvm.Cond.fieldLink "NamedPrices$House" (17 : Nat) "NamedPrices$House" "person" "[LNamedPrices$Slot;") ∈ lw_all := lw_g (lw_at lw_m1 80 rfl) rfl
theorem q171 : (Jvm.Cond.fieldLink "NamedPrices$House" (21 : Nat) "NamedPrices$House" "purse" "[I") ∈ lw_all := lw_g (lw_at lw_m1 82 rfl) rfl
theorem q173 : (Jvm.Cond.fieldLink "NamedPrices$House" (25 : Nat) "NamedPrices$House" "owner" "[I") ∈ lw_all := lw_g (lw_at lw_m1 84 rfl) rfl
theorem q175 : (Jvm.Cond.fieldLink "NamedPrices$House" (28 : Nat) "NamedPrices$House" "price" "[I") ∈ lw_all := lw_g (lw_at lw_m1 86 rfl) rfl
theorem q178 : (Jvm.Cond.fieldLink "NamedPrices$House" (31 : Nat) "NamedPrices$House" "sound" "[I") ∈ lw_all := lw_g (lw_at lw_m1 89 rfl) rfl
theorem q180 : (Jvm.Cond.fieldLink "NamedPrices$House" (34 : Nat) "NamedPrices$House" "isKept" "[Z") ∈ lw_all := lw_g (lw_at lw_m1 91 rfl) rfl
theorem q182 : (Jvm.Cond.fieldLink "NamedPrices$House" (38 : Nat) "NamedPrices$House" "worth" "[I") ∈ lw_all := lw_g (lw_at lw_m1 93 rfl) rfl
theorem q184 : (Jvm.Cond.fieldLink "NamedPrices$House" (41 : Nat) "NamedPrices$House" "pairOne" "[I") ∈ lw_all := lw_g (lw_at lw_m1 95 rfl) rfl
theorem q186 : (Jvm.Cond.fieldLink "NamedPrices$House" (44 : Nat) "NamedPrices$House" "pairOther" "[I") ∈ lw_all := lw_g (lw_at lw_m1 97 rfl) rfl
theorem q188 : (Jvm.Cond.fieldLink "NamedPrices$House" (47 : Nat) "NamedPrices$House" "bonus" "[I") ∈ lw_all := lw_g (lw_at lw_m1 99 rfl) rfl
theorem q190 : (Jvm.Cond.fieldLink "NamedPrices$House" (50 : Nat) "NamedPrices$House" "rule" "[I") ∈ lw_all := lw_g (lw_at lw_m1 101 rfl) rfl
theorem q193 : (Jvm.Cond.fieldLink "NamedPrices$House" (55 : Nat) "NamedPrices$House" "texts" "[LNamedPrices$Text;") ∈ lw_all := lw_g (lw_at lw_m1 104 rfl) rfl
theorem q195 : (Jvm.Cond.fieldLink "NamedPrices$House" (59 : Nat) "NamedPrices$House" "tape" "[B") ∈ lw_all := lw_g (lw_at lw_m1 106 rfl) rfl
theorem q197 : (Jvm.Cond.fieldLink "NamedPrices$House" (63 : Nat) "NamedPrices$House" "waits" "[I") ∈ lw_all := lw_g (lw_at lw_m1 108 rfl) rfl
theorem q199 : (Jvm.Cond.lays "NamedPrices$House" "NamedPrices$House" "people" "I") ∈ lw_all := lw_g (lw_at lw_m1 110 rfl) rfl
theorem q200 : (Jvm.Cond.soleField "NamedPrices$House" "people") ∈ lw_all := lw_g (lw_at lw_m1 111 rfl) rfl
theorem q201 : (Jvm.Cond.lays "NamedPrices$House" "NamedPrices$House" "things" "I") ∈ lw_all := lw_g (lw_at lw_m1 112 rfl) rfl
theorem q202 : (Jvm.Cond.soleField "NamedPrices$House" "things") ∈ lw_all := lw_g (lw_at lw_m1 113 rfl) rfl
theorem q203 : (Jvm.Cond.lays "NamedPrices$House" "NamedPrices$House" "pairs" "I") ∈ lw_all := lw_g (lw_at lw_m1 114 rfl) rfl
theorem q204 : (Jvm.Cond.soleField "NamedPrices$House" "pairs") ∈ lw_all := lw_g (lw_at lw_m1 115 rfl) rfl
theorem q205 : (Jvm.Cond.lays "NamedPrices$House" "NamedPrices$House" "pot" "I") ∈ lw_all := lw_g (lw_at lw_m1 116 rfl) rfl
theorem q206 : (Jvm.Cond.soleField "NamedPrices$House" "pot") ∈ lw_all := lw_g (lw_at lw_m1 117 rfl) rfl
theorem q207 : (Jvm.Cond.lays "NamedPrices$House" "NamedPrices$House" "years" "I") ∈ lw_all := lw_g (lw_at lw_m1 118 rfl) rfl
theorem q208 : (Jvm.Cond.soleField "NamedPrices$House" "years") ∈ lw_all := lw_g (lw_at lw_m1 119 rfl) rfl
theorem q209 : (Jvm.Cond.lays "NamedPrices$House" "NamedPrices$House" "moves" "I") ∈ lw_all := lw_g (lw_at lw_m1 120 rfl) rfl
theorem q210 : (Jvm.Cond.soleField "NamedPrices$House" "moves") ∈ lw_all := lw_g (lw_at lw_m1 121 rfl) rfl
theorem q211 : (Jvm.Cond.lays "NamedPrices$House" "NamedPrices$House" "z" "I") ∈ lw_all := lw_g (lw_at lw_m1 122 rfl) rfl
theorem q212 : (Jvm.Cond.soleField "NamedPrices$House" "z") ∈ lw_all := lw_g (lw_at lw_m1 123 rfl) rfl
theorem q213 : (Jvm.Cond.lays "NamedPrices$House" "NamedPrices$House" "taped" "I") ∈ lw_all := lw_g (lw_at lw_m1 124 rfl) rfl
theorem q214 : (Jvm.Cond.soleField "NamedPrices$House" "taped") ∈ lw_all := lw_g (lw_at lw_m1 125 rfl) rfl
theorem q215 : (Jvm.Cond.lays "NamedPrices$House" "NamedPrices$House" "waiting" "I") ∈ lw_all := lw_g (lw_at lw_m1 126 rfl) rfl
theorem q216 : (Jvm.Cond.soleField "NamedPrices$House" "waiting") ∈ lw_all := lw_g (lw_at lw_m1 127 rfl) rfl
theorem q217 : (Jvm.Cond.laysFinal "NamedPrices$House" "NamedPrices$House" "person" "[LNamedPrices$Slot;") ∈ lw_all := lw_g (lw_at lw_m1 128 rfl) rfl
theorem q218 : (Jvm.Cond.soleField "NamedPrices$House" "person") ∈ lw_all := lw_g (lw_at lw_m1 129 rfl) rfl
theorem q219 : (Jvm.Cond.laysFinal "NamedPrices$House" "NamedPrices$House" "purse" "[I") ∈ lw_all := lw_g (lw_at lw_m1 130 rfl) rfl
theorem q220 : (Jvm.Cond.soleField "NamedPrices$House" "purse") ∈ lw_all := lw_g (lw_at lw_m1 131 rfl) rfl
theorem q221 : (Jvm.Cond.laysFinal "NamedPrices$House" "NamedPrices$House" "owner" "[I") ∈ lw_all := lw_g (lw_at lw_m1 132 rfl) rfl
theorem q222 : (Jvm.Cond.soleField "NamedPrices$House" "owner") ∈ lw_all := lw_g (lw_at lw_m1 133 rfl) rfl
theorem q223 : (Jvm.Cond.laysFinal "NamedPrices$House" "NamedPrices$House" "price" "[I") ∈ lw_all := lw_g (lw_at lw_m1 134 rfl) rfl
theorem q224 : (Jvm.Cond.soleField "NamedPrices$House" "price") ∈ lw_all := lw_g (lw_at lw_m1 135 rfl) rfl
theorem q225 : (Jvm.Cond.laysFinal "NamedPrices$House" "NamedPrices$House" "sound" "[I") ∈ lw_all := lw_g (lw_at lw_m1 136 rfl) rfl
theorem q226 : (Jvm.Cond.soleField "NamedPrices$House" "sound") ∈ lw_all := lw_g (lw_at lw_m1 137 rfl) rfl
theorem q227 : (Jvm.Cond.laysFinal "NamedPrices$House" "NamedPrices$House" "isKept" "[Z") ∈ lw_all := lw_g (lw_at lw_m1 138 rfl) rfl
theorem q228 : (Jvm.Cond.soleField "NamedPrices$House" "isKept") ∈ lw_all := lw_g (lw_at lw_m1 139 rfl) rfl
theorem q229 : (Jvm.Cond.laysFinal "NamedPrices$House" "NamedPrices$House" "worth" "[I") ∈ lw_all := lw_g (lw_at lw_m1 140 rfl) rfl
theorem q230 : (Jvm.Cond.soleField "NamedPrices$House" "worth") ∈ lw_all := lw_g (lw_at lw_m1 141 rfl) rfl
theorem q231 : (Jvm.Cond.laysFinal "NamedPrices$House" "NamedPrices$House" "pairOne" "[I") ∈ lw_all := lw_g (lw_at lw_m1 142 rfl) rfl
theorem q232 : (Jvm.Cond.soleField "NamedPrices$House" "pairOne") ∈ lw_all := lw_g (lw_at lw_m1 143 rfl) rfl
theorem q233 : (Jvm.Cond.laysFinal "NamedPrices$House" "NamedPrices$House" "pairOther" "[I") ∈ lw_all := lw_g (lw_at lw_m1 144 rfl) rfl
theorem q234 : (Jvm.Cond.soleField "NamedPrices$House" "pairOther") ∈ lw_all := lw_g (lw_at lw_m1 145 rfl) rfl
theorem q235 : (Jvm.Cond.laysFinal "NamedPrices$House" "NamedPrices$House" "bonus" "[I") ∈ lw_all := lw_g (lw_at lw_m1 146 rfl) rfl
theorem q236 : (Jvm.Cond.soleField "NamedPrices$House" "bonus") ∈ lw_all := lw_g (lw_at lw_m1 147 rfl) rfl
theorem q237 : (Jvm.Cond.laysFinal "NamedPrices$House" "NamedPrices$House" "rule" "[I") ∈ lw_all := lw_g (lw_at lw_m1 148 rfl) rfl
theorem q238 : (Jvm.Cond.soleField "NamedPrices$House" "rule") ∈ lw_all := lw_g (lw_at lw_m1 149 rfl) rfl
theorem q239 : (Jvm.Cond.laysFinal "NamedPrices$House" "NamedPrices$House" "texts" "[LNamedPrices$Text;") ∈ lw_all := lw_g (lw_at lw_m1 150 rfl) rfl
theorem q240 : (Jvm.Cond.soleField "NamedPrices$House" "texts") ∈ lw_all := lw_g (lw_at lw_m1 151 rfl) rfl
theorem q241 : (Jvm.Cond.laysFinal "NamedPrices$House" "NamedPrices$House" "tape" "[B") ∈ lw_all := lw_g (lw_at lw_m1 152 rfl) rfl
theorem q242 : (Jvm.Cond.soleField "NamedPrices$House" "tape") ∈ lw_all := lw_g (lw_at lw_m1 153 rfl) rfl
theorem q243 : (Jvm.Cond.laysFinal "NamedPrices$House" "NamedPrices$House" "waits" "[I") ∈ lw_all := lw_g (lw_at lw_m1 154 rfl) rfl
theorem q244 : (Jvm.Cond.soleField "NamedPrices$House" "waits") ∈ lw_all := lw_g (lw_at lw_m1 155 rfl) rfl
theorem q245 : (Jvm.Cond.superclass "NamedPrices$House" "java/lang/Object") ∈ lw_all := lw_g (lw_at lw_m1 156 rfl) rfl
theorem q427 : (Jvm.Cond.instanceMethod ({ cls := "NamedPrices$House", name := "at", desc := "(I)LNamedPrices$Namer;" } : Jvm.MethodName)) ∈ lw_all := lw_g (lw_at lw_m2 98 rfl) rfl
theorem q428 : (Jvm.Cond.selects "NamedPrices$House" ({ cls := "NamedPrices$House", name := "at", desc := "(I)LNamedPrices$Namer;" } : Jvm.MethodName) ({ cls := "NamedPrices$House", name := "at", desc := "(I)LNamedPrices$Namer;" } : Jvm.MethodName)) ∈ lw_all := lw_g (lw_at lw_m2 99 rfl) rfl
theorem q429 : (Jvm.Cond.code ({ cls := "NamedPrices$House", name := "at", desc := "(I)LNamedPrices$Namer;" } : Jvm.MethodName) prog_7_method_3_code (2 : Nat) (Option.some (Jvm.ClassFile.FieldType.object "NamedPrices$Namer"))) ∈ lw_all := lw_g (lw_at lw_m2 100 rfl) rfl
theorem q430 : (Jvm.Cond.classLink "NamedPrices$House" (101 : Nat) "NamedPrices$Namer") ∈ lw_all := lw_g (lw_at lw_m2 101 rfl) rfl
theorem q461 : (Jvm.Cond.instanceMethod ({ cls := "NamedPrices$House", name := "many", desc := "(I)I" } : Jvm.MethodName)) ∈ lw_all := lw_g (lw_at lw_m2 132 rfl) rfl
theorem q462 : (Jvm.Cond.selects "NamedPrices$House" ({ cls := "NamedPrices$House", name := "many", desc := "(I)I" } : Jvm.MethodName) ({ cls := "NamedPrices$House", name := "many", desc := "(I)I" } : Jvm.MethodName)) ∈ lw_all := lw_g (lw_at lw_m2 133 rfl) rfl
theorem q463 : (Jvm.Cond.code ({ cls := "NamedPrices$House", name := "many", desc := "(I)I" } : Jvm.MethodName) prog_7_method_10_code (4 : Nat) (Option.some Jvm.ClassFile.FieldType.int)) ∈ lw_all := lw_g (lw_at lw_m2 134 rfl) rfl
theorem q465 : (Jvm.Cond.instanceMethod ({ cls := "NamedPrices$House", name := "kept", desc := "(I)I" } : Jvm.MethodName)) ∈ lw_all := lw_g (lw_at lw_m2 136 rfl) rfl
theorem q466 : (Jvm.Cond.selects "NamedPrices$House" ({ cls := "NamedPrices$House", name := "kept", desc := "(I)I" } : Jvm.MethodName) ({ cls := "NamedPrices$House", name := "kept", desc := "(I)I" } : Jvm.MethodName)) ∈ lw_all := lw_g (lw_at lw_m2 137 rfl) rfl
theorem q467 : (Jvm.Cond.code ({ cls := "NamedPrices$House", name := "kept", desc := "(I)I" } : Jvm.MethodName) prog_7_method_9_code (4 : Nat) (Option.some Jvm.ClassFile.FieldType.int)) ∈ lw_all := lw_g (lw_at lw_m2 138 rfl) rfl
theorem q469 : (Jvm.Cond.instanceMethod ({ cls := "NamedPrices$House", name := "lacks", desc := "(I)I" } : Jvm.MethodName)) ∈ lw_all := lw_g (lw_at lw_m2 140 rfl) rfl
theorem q470 : (Jvm.Cond.selects "NamedPrices$House" ({ cls := "NamedPrices$House", name := "lacks", desc := "(I)I" } : Jvm.MethodName) ({ cls := "NamedPrices$House", name := "lacks", desc := "(I)I" } : Jvm.MethodName)) ∈ lw_all := lw_g (lw_at lw_m2 141 rfl) rfl
theorem q471 : (Jvm.Cond.code ({ cls := "NamedPrices$House", name := "lacks", desc := "(I)I" } : Jvm.MethodName) prog_7_method_12_code (4 : Nat) (Option.some Jvm.ClassFile.FieldType.int)) ∈ lw_all := lw_g (lw_at lw_m2 142 rfl) rfl
theorem q477 : (Jvm.Cond.instanceMethod ({ cls := "NamedPrices$House", name := "own", desc := "(I)I" } : Jvm.MethodName)) ∈ lw_all := lw_g (lw_at lw_m2 148 rfl) rfl
theorem q478 : (Jvm.Cond.selects "NamedPrices$House" ({ cls := "NamedPrices$House", name := "own", desc := "(I)I" } : Jvm.MethodName) ({ cls := "NamedPrices$House", name := "own", desc := "(I)I" } : Jvm.MethodName)) ∈ lw_all := lw_g (lw_at lw_m2 149 rfl) rfl
theorem q479 : (Jvm.Cond.code ({ cls := "NamedPrices$House", name := "own", desc := "(I)I" } : Jvm.MethodName) prog_7_method_5_code (2 : Nat) (Option.some Jvm.ClassFile.FieldType.int)) ∈ lw_all := lw_g (lw_at lw_m2 150 rfl) rfl
theorem q480 : (Jvm.Cond.methodLink "NamedPrices$House" (103 : Nat) ({ cls := "NamedPrices$House", name := "value", desc := "(II)I" } : Jvm.MethodName)) ∈ lw_all := lw_g (lw_at lw_m2 151 rfl) rfl
theorem q481 : (Jvm.Cond.instanceMethod ({ cls := "NamedPrices$House", name := "value", desc := "(II)I" } : Jvm.MethodName)) ∈ lw_all := lw_g (lw_at lw_m2 152 rfl) rfl
theorem q482 : (Jvm.Cond.selects "NamedPrices$House" ({ cls := "NamedPrices$House", name := "value", desc := "(II)I" } : Jvm.MethodName) ({ cls := "NamedPrices$House", name := "value", desc := "(II)I" } : Jvm.MethodName)) ∈ lw_all := lw_g (lw_at lw_m2 153 rfl) rfl
theorem q483 : (Jvm.Cond.code ({ cls := "NamedPrices$House", name := "value", desc := "(II)I" } : Jvm.MethodName) prog_7_method_4_code (3 : Nat) (Option.some Jvm.ClassFile.FieldType.int)) ∈ lw_all := lw_g (lw_at lw_m2 154 rfl) rfl
theorem q512 : (Jvm.Cond.instanceMethod ({ cls := "NamedPrices$House", name := "dearest", desc := "(I)I" } : Jvm.MethodName)) ∈ lw_all := lw_g (lw_at lw_m2 183 rfl) rfl
theorem q513 : (Jvm.Cond.selects "NamedPrices$House" ({ cls := "NamedPrices$House", name := "dearest", desc := "(I)I" } : Jvm.MethodName) ({ cls := "NamedPrices$House", name := "dearest", desc := "(I)I" } : Jvm.MethodName)) ∈ lw_all := lw_g (lw_at lw_m2 184 rfl) rfl
theorem q514 : (Jvm.Cond.code ({ cls := "NamedPrices$House", name := "dearest", desc := "(I)I" } : Jvm.MethodName) prog_7_method_7_code (4 : Nat) (Option.some Jvm.ClassFile.FieldType.int)) ∈ lw_all := lw_g (lw_at lw_m2 185 rfl) rfl
theorem q540 : (Jvm.Cond.instanceMethod ({ cls := "NamedPrices$House", name := "hasBonus", desc := "(I)I" } : Jvm.MethodName)) ∈ lw_all := lw_g (lw_at lw_m2 211 rfl) rfl
theorem q541 : (Jvm.Cond.selects "NamedPrices$House" ({ cls := "NamedPrices$House", name := "hasBonus", desc := "(I)I" } : Jvm.MethodName) ({ cls := "NamedPrices$House", name := "hasBonus", desc := "(I)I" } : Jvm.MethodName)) ∈ lw_all := lw_g (lw_at lw_m2 212 rfl) rfl
theorem q542 : (Jvm.Cond.code ({ cls := "NamedPrices$House", name := "hasBonus", desc := "(I)I" } : Jvm.MethodName) prog_7_method_11_code (4 : Nat) (Option.some Jvm.ClassFile.FieldType.int)) ∈ lw_all := lw_g (lw_at lw_m2 213 rfl) rfl
theorem q930 : (Jvm.Cond.instanceMethod ({ cls := "NamedPrices$House", name := "others", desc := "(I)I" } : Jvm.MethodName)) ∈ lw_all := lw_g (lw_at lw_m4 121 rfl) rfl
theorem q931 : (Jvm.Cond.selects "NamedPrices$House" ({ cls := "NamedPrices$House", name := "others", desc := "(I)I" } : Jvm.MethodName) ({ cls := "NamedPrices$House", name := "others", desc := "(I)I" } : Jvm.MethodName)) ∈ lw_all := lw_g (lw_at lw_m4 122 rfl) rfl
theorem q932 : (Jvm.Cond.code ({ cls := "NamedPrices$House", name := "others", desc := "(I)I" } : Jvm.MethodName) prog_7_method_6_code (4 : Nat) (Option.some Jvm.ClassFile.FieldType.int)) ∈ lw_all := lw_g (lw_at lw_m4 123 rfl) rfl
theorem q933 : (Jvm.Cond.methodLink "NamedPrices$House" (107 : Nat) ({ cls := "java/lang/Math", name := "max", desc := "(II)I" } : Jvm.MethodName)) ∈ lw_all := lw_g (lw_at lw_m4 124 rfl) rfl
theorem q995 : (Jvm.Cond.instanceMethod ({ cls := "NamedPrices$House", name := "pays", desc := "(I)V" } : Jvm.MethodName)) ∈ lw_all := lw_g (lw_at lw_m4 186 rfl) rfl
theorem q996 : (Jvm.Cond.selects "NamedPrices$House" ({ cls := "NamedPrices$House", name := "pays", desc := "(I)V" } : Jvm.MethodName) ({ cls := "NamedPrices$House", name := "pays", desc := "(I)V" } : Jvm.MethodName)) ∈ lw_all := lw_g (lw_at lw_m4 187 rfl) rfl
theorem q997 : (Jvm.Cond.code ({ cls := "NamedPrices$House", name := "pays", desc := "(I)V" } : Jvm.MethodName) prog_7_method_17_code (4 : Nat) (Option.none : Option Jvm.ClassFile.FieldType)) ∈ lw_all := lw_g (lw_at lw_m4 188 rfl) rfl
theorem q998 : (Jvm.Cond.methodLink "NamedPrices$House" (131 : Nat) ({ cls := "java/lang/Math", name := "min", desc := "(II)I" } : Jvm.MethodName)) ∈ lw_all := lw_g (lw_at lw_m4 189 rfl) rfl
theorem q999 : (Jvm.Cond.constant "NamedPrices$House" (134 : Nat) (1999999999 : Int32)) ∈ lw_all := lw_g (lw_at lw_m4 190 rfl) rfl
theorem q1000 : (Jvm.Cond.methodLinkNest "NamedPrices$House" (124 : Nat) ({ cls := "NamedPrices", name := "held", desc := "(JII)I" } : Jvm.MethodName) "NamedPrices") ∈ lw_tbl := lw_at lw_m4 191 rfl
theorem q1006 : (Jvm.Cond.instanceMethod ({ cls := "NamedPrices$House", name := "drawn", desc := "()I" } : Jvm.MethodName)) ∈ lw_all := lw_g (lw_at lw_m4 197 rfl) rfl
theorem q1007 : (Jvm.Cond.selects "NamedPrices$House" ({ cls := "NamedPrices$House", name := "drawn", desc := "()I" } : Jvm.MethodName) ({ cls := "NamedPrices$House", name := "drawn", desc := "()I" } : Jvm.MethodName)) ∈ lw_all := lw_g (lw_at lw_m4 198 rfl) rfl
theorem q1008 : (Jvm.Cond.code ({ cls := "NamedPrices$House", name := "drawn", desc := "()I" } : Jvm.MethodName) prog_7_method_8_code (1 : Nat) (Option.some Jvm.ClassFile.FieldType.int)) ∈ lw_all := lw_g (lw_at lw_m4 199 rfl) rfl
theorem q1009 : (Jvm.Cond.constant "NamedPrices$House" (112 : Nat) (1103515245 : Int32)) ∈ lw_all := lw_g (lw_at lw_m4 200 rfl) rfl
theorem q1011 : (Jvm.Cond.instanceMethod ({ cls := "NamedPrices$House", name := "sells", desc := "(II)V" } : Jvm.MethodName)) ∈ lw_all := lw_g (lw_at lw_m4 202 rfl) rfl
theorem q1012 : (Jvm.Cond.selects "NamedPrices$House" ({ cls := "NamedPrices$House", name := "sells", desc := "(II)V" } : Jvm.MethodName) ({ cls := "NamedPrices$House", name := "sells", desc := "(II)V" } : Jvm.MethodName)) ∈ lw_all := lw_g (lw_at lw_m4 203 rfl) rfl
theorem q1013 : (Jvm.Cond.code ({ cls := "NamedPrices$House", name := "sells", desc := "(II)V" } : Jvm.MethodName) prog_7_method_16_code (3 : Nat) (Option.none : Option Jvm.ClassFile.FieldType)) ∈ lw_all := lw_g (lw_at lw_m4 204 rfl) rfl
theorem q1014 : (Jvm.Cond.methodLink "NamedPrices$House" (127 : Nat) ({ cls := "NamedPrices$House", name := "gives", desc := "(IJ)V" } : Jvm.MethodName)) ∈ lw_all := lw_g (lw_at lw_m4 205 rfl) rfl
theorem q1015 : (Jvm.Cond.instanceMethod ({ cls := "NamedPrices$House", name := "gives", desc := "(IJ)V" } : Jvm.MethodName)) ∈ lw_all := lw_g (lw_at lw_m4 206 rfl) rfl
theorem q1016 : (Jvm.Cond.selects "NamedPrices$House" ({ cls := "NamedPrices$House", name := "gives", desc := "(IJ)V" } : Jvm.MethodName) ({ cls := "NamedPrices$House", name := "gives", desc := "(IJ)V" } : Jvm.MethodName)) ∈ lw_all := lw_g (lw_at lw_m4 207 rfl) rfl
theorem q1017 : (Jvm.Cond.code ({ cls := "NamedPrices$House", name := "gives", desc := "(IJ)V" } : Jvm.MethodName) prog_7_method_15_code (4 : Nat) (Option.none : Option Jvm.ClassFile.FieldType)) ∈ lw_all := lw_g (lw_at lw_m4 208 rfl) rfl
theorem q1018 : (Jvm.Cond.constant "NamedPrices$House" (123 : Nat) (999999 : Int32)) ∈ lw_all := lw_g (lw_at lw_m4 209 rfl) rfl
theorem q1021 : (Jvm.Cond.instanceMethod ({ cls := "NamedPrices$House", name := "shares", desc := "()V" } : Jvm.MethodName)) ∈ lw_all := lw_g (lw_at lw_m4 212 rfl) rfl
theorem q1022 : (Jvm.Cond.selects "NamedPrices$House" ({ cls := "NamedPrices$House", name := "shares", desc := "()V" } : Jvm.MethodName) ({ cls := "NamedPrices$House", name := "shares", desc := "()V" } : Jvm.MethodName)) ∈ lw_all := lw_g (lw_at lw_m4 213 rfl) rfl
theorem q1023 : (Jvm.Cond.code ({ cls := "NamedPrices$House", name := "shares", desc := "()V" } : Jvm.MethodName) prog_7_method_19_code (3 : Nat) (Option.none : Option Jvm.ClassFile.FieldType)) ∈ lw_all := lw_g (lw_at lw_m4 214 rfl) rfl
theorem q1024 : (Jvm.Cond.methodLink "NamedPrices$House" (135 : Nat) ({ cls := "NamedPrices$House", name := "poorest", desc := "()I" } : Jvm.MethodName)) ∈ lw_all := lw_g (lw_at lw_m4 215 rfl) rfl
theorem q1025 : (Jvm.Cond.privateMethod ({ cls := "NamedPrices$House", name := "poorest", desc := "()I" } : Jvm.MethodName)) ∈ lw_tbl := lw_at lw_m4 216 rfl
theorem q1026 : (Jvm.Cond.instanceMethod ({ cls := "NamedPrices$House", name := "poorest", desc := "()I" } : Jvm.MethodName)) ∈ lw_all := lw_g (lw_at lw_m4 217 rfl) rfl
theorem q1027 : (Jvm.Cond.code ({ cls := "NamedPrices$House", name := "poorest", desc := "()I" } : Jvm.MethodName) prog_7_method_18_code (3 : Nat) (Option.some Jvm.ClassFile.FieldType.int)) ∈ lw_all := lw_g (lw_at lw_m4 218 rfl) rfl
theorem q1071 : (Jvm.Cond.instanceMethod ({ cls := "NamedPrices$House", name := "heldBy", desc := "()I" } : Jvm.MethodName)) ∈ lw_all := lw_g (lw_at lw_m5 22 rfl) rfl
theorem q1072 : (Jvm.Cond.selects "NamedPrices$House" ({ cls := "NamedPrices$House", name := "heldBy", desc := "()I" } : Jvm.MethodName) ({ cls := "NamedPrices$House", name := "heldBy", desc := "()I" } : Jvm.MethodName)) ∈ lw_all := lw_g (lw_at lw_m5 23 rfl) rfl
theorem q1073 : (Jvm.Cond.code ({ cls := "NamedPrices$House", name := "heldBy", desc := "()I" } : Jvm.MethodName) prog_7_method_13_code (3 : Nat) (Option.some Jvm.ClassFile.FieldType.int)) ∈ lw_all := lw_g (lw_at lw_m5 24 rfl) rfl
theorem q1074 : (Jvm.Cond.methodLink "NamedPrices$House" (113 : Nat) ({ cls := "NamedPrices$House", name := "own", desc := "(I)I" } : Jvm.MethodName)) ∈ lw_all := lw_g (lw_at lw_m5 25 rfl) rfl
theorem q1075 : (Jvm.Cond.methodLink "NamedPrices$House" (117 : Nat) ({ cls := "NamedPrices$House", name := "hasBonus", desc := "(I)I" } : Jvm.MethodName)) ∈ lw_all := lw_g (lw_at lw_m5 26 rfl) rfl
theorem q1077 : (Jvm.Cond.instanceMethod ({ cls := "NamedPrices$House", name := "most", desc := "()I" } : Jvm.MethodName)) ∈ lw_all := lw_g (lw_at lw_m5 28 rfl) rfl
theorem q1078 : (Jvm.Cond.selects "NamedPrices$House" ({ cls := "NamedPrices$House", name := "most", desc := "()I" } : Jvm.MethodName) ({ cls := "NamedPrices$House", name := "most", desc := "()I" } : Jvm.MethodName)) ∈ lw_all := lw_g (lw_at lw_m5 29 rfl) rfl
theorem q1079 : (Jvm.Cond.code ({ cls := "NamedPrices$House", name := "most", desc := "()I" } : Jvm.MethodName) prog_7_method_14_code (3 : Nat) (Option.some Jvm.ClassFile.FieldType.int)) ∈ lw_all := lw_g (lw_at lw_m5 30 rfl) rfl
theorem q1080 : (Jvm.Cond.methodLink "NamedPrices$House" (120 : Nat) ({ cls := "NamedPrices$House", name := "dearest", desc := "(I)I" } : Jvm.MethodName)) ∈ lw_all := lw_g (lw_at lw_m5 31 rfl) rfl
theorem q1106 : (Jvm.Cond.instanceMethod ({ cls := "NamedPrices$House", name := "become", desc := "(LNamedPrices$House;)V" } : Jvm.MethodName)) ∈ lw_all := lw_g (lw_at lw_m5 57 rfl) rfl
theorem q1107 : (Jvm.Cond.selects "NamedPrices$House" ({ cls := "NamedPrices$House", name := "become", desc := "(LNamedPrices$House;)V" } : Jvm.MethodName) ({ cls := "NamedPrices$House", name := "become", desc := "(LNamedPrices$House;)V" } : Jvm.MethodName)) ∈ lw_all := lw_g (lw_at lw_m5 58 rfl) rfl
theorem q1108 : (Jvm.Cond.code ({ cls := "NamedPrices$House", name := "become", desc := "(LNamedPrices$House;)V" } : Jvm.MethodName) prog_7_method_2_code (3 : Nat) (Option.none : Option Jvm.ClassFile.FieldType)) ∈ lw_all := lw_g (lw_at lw_m5 59 rfl) rfl
theorem q1109 : (Jvm.Cond.methodLink "NamedPrices$House" (95 : Nat) ({ cls := "java/lang/System", name := "arraycopy", desc := "(Ljava/lang/Object;ILjava/lang/Object;II)V" } : Jvm.MethodName)) ∈ lw_all := lw_g (lw_at lw_m5 60 rfl) rfl
theorem in_X1 : ∀ w ∈ wsX10, w ∈ lw_all := lw_in wsX10 [199, 201, 203, 205, 207, 209, 211, 213, 215, 217, 219, 221, 223, 225, 227, 229, 231, 233, 235, 237, 239, 241, 243] (by decide +kernel) (by decide +kernel)
/-! NamedPrices$Slot -/
set_option maxRecDepth 100000
def RX2 : String := "NamedPrices$Slot"
def TX2 : u_T := fun k => match k with
  | _ => ("NamedPrices$Slot", "held", "Ljava/lang/Object;", false)
def tyX2 : Nat → FieldType := fun k => match k with
  | _ => .object "java/lang/Object"
abbrev wsX20 : List Cond := u_ws RX2 TX2 1
theorem nmX2 : ∀ a, a < 1 → ∀ b, b < 1 → a ≠ b → (TX2 a).2.1 ≠ (TX2 b).2.1 := by decide +kernel
theorem tyX2_ok : ∀ k, k < 1 → parseFieldDescriptor (TX2 k).2.2.1 = some (tyX2 k) := by decide +kernel
abbrev cX2_init : ByteArray := prog_13_method_1_code
def yX2_init : MethodName := ⟨RX2, "<init>", "()V"⟩
theorem dX2_init_0 : decode cX2_init 0 = .ok (.aload_n 0, 1) := by decide +kernel
theorem dX2_init_1 : decode cX2_init 1 = .ok (.invokespecial 1, 3) := by decide +kernel
theorem dX2_init_4 : decode cX2_init 4 = .ok (.return_, 1) := by decide +kernel
theorem q92 : (Jvm.Cond.initialized "NamedPrices$Slot") ∈ lw_all := lw_g (lw_at lw_m1 3 rfl) rfl
theorem q138 : (Jvm.Cond.instantiable "NamedPrices$Slot" (1 : Nat)) ∈ lw_all := lw_g (lw_at lw_m1 49 rfl) rfl
theorem q140 : (Jvm.Cond.instanceMethod ({ cls := "NamedPrices$Slot", name := "<init>", desc := "()V" } : Jvm.MethodName)) ∈ lw_all := lw_g (lw_at lw_m1 51 rfl) rfl
theorem q141 : (Jvm.Cond.code ({ cls := "NamedPrices$Slot", name := "<init>", desc := "()V" } : Jvm.MethodName) prog_13_method_1_code (1 : Nat) (Option.none : Option Jvm.ClassFile.FieldType)) ∈ lw_all := lw_g (lw_at lw_m1 52 rfl) rfl
theorem q142 : (Jvm.Cond.methodLink "NamedPrices$Slot" (1 : Nat) ({ cls := "java/lang/Object", name := "<init>", desc := "()V" } : Jvm.MethodName)) ∈ lw_all := lw_g (lw_at lw_m1 53 rfl) rfl
theorem q145 : (Jvm.Cond.lays "NamedPrices$Slot" "NamedPrices$Slot" "held" "Ljava/lang/Object;") ∈ lw_all := lw_g (lw_at lw_m1 56 rfl) rfl
theorem q146 : (Jvm.Cond.soleField "NamedPrices$Slot" "held") ∈ lw_all := lw_g (lw_at lw_m1 57 rfl) rfl
theorem q147 : (Jvm.Cond.superclass "NamedPrices$Slot" "java/lang/Object") ∈ lw_all := lw_g (lw_at lw_m1 58 rfl) rfl
theorem in_X2 : ∀ w ∈ wsX20, w ∈ lw_all := lw_in wsX20 [145] (by decide +kernel) (by decide +kernel)
/-! NamedPrices$Trace -/
set_option maxRecDepth 100000
def RX3 : String := "NamedPrices$Trace"
def TX3 : u_T := fun k => match k with
  | 0 => ("NamedPrices$Trace", "bodies", "[B", true)
  | _ => ("NamedPrices$Trace", "many", "I", false)
def tyX3 : Nat → FieldType := fun k => match k with
  | 0 => .array .byte
  | _ => .int
abbrev wsX30 : List Cond := u_ws RX3 TX3 2
theorem nmX3 : ∀ a, a < 2 → ∀ b, b < 2 → a ≠ b → (TX3 a).2.1 ≠ (TX3 b).2.1 := by decide +kernel
theorem tyX3_ok : ∀ k, k < 2 → parseFieldDescriptor (TX3 k).2.2.1 = some (tyX3 k) := by decide +kernel
abbrev cX3_init : ByteArray := prog_17_method_1_code
def yX3_init : MethodName := ⟨RX3, "<init>", "()V"⟩
def dkwX3_init_0 : List UInt8 := [42, 183, 0, 3, 42, 16, 30, 188, 8, 181, 0, 9, 177]
abbrev dktX3_init_0 : List UInt8 := dkwX3_init_0 ++ []
theorem dksX3_init_0 : cX3_init.data.toList.drop 0 = dktX3_init_0 := by decide +kernel
theorem dX3_init_0 : decode cX3_init 0 = .ok (.aload_n 0, 1) := dk_42 (dk_at dksX3_init_0 0 rfl rfl)
theorem dX3_init_1 : decode cX3_init 1 = .ok (.invokespecial 3, 3) := dk_183 0 3 (dk_at dksX3_init_0 1 rfl rfl)
theorem dX3_init_4 : decode cX3_init 4 = .ok (.aload_n 0, 1) := dk_42 (dk_at dksX3_init_0 4 rfl rfl)
theorem dX3_init_5 : decode cX3_init 5 = .ok (.bipush 30, 2) := dk_16 30 (dk_at dksX3_init_0 5 rfl rfl)
theorem dX3_init_7 : decode cX3_init 7 = .ok (.newarray .byte, 2) := dk_188_8 (dk_at dksX3_init_0 7 rfl rfl)
theorem dX3_init_9 : decode cX3_init 9 = .ok (.putfield 9, 3) := dk_181 0 9 (dk_at dksX3_init_0 9 rfl rfl)
theorem dX3_init_12 : decode cX3_init 12 = .ok (.return_, 1) := dk_177 (dk_at dksX3_init_0 12 rfl rfl)
abbrev cX3_ran : ByteArray := prog_17_method_2_code
def yX3_ran : MethodName := ⟨RX3, "ran", "(I)V"⟩
def dkwX3_ran_1 : List UInt8 := [27, 145, 84, 177]
abbrev dktX3_ran_1 : List UInt8 := dkwX3_ran_1 ++ []
def dkwX3_ran_0 : List UInt8 := [42, 180, 0, 15, 16, 30, 162, 0, 21, 42, 180, 0, 9, 42, 89, 180, 0, 15, 90, 4, 96, 181, 0, 15]
abbrev dktX3_ran_0 : List UInt8 := dkwX3_ran_0 ++ dktX3_ran_1
theorem dksX3_ran_0 : cX3_ran.data.toList.drop 0 = dktX3_ran_0 := by decide +kernel
theorem dksX3_ran_1 : cX3_ran.data.toList.drop 24 = dktX3_ran_1 := dk_seg dksX3_ran_0 24 rfl rfl
theorem dX3_ran_0 : decode cX3_ran 0 = .ok (.aload_n 0, 1) := dk_42 (dk_at dksX3_ran_0 0 rfl rfl)
theorem dX3_ran_1 : decode cX3_ran 1 = .ok (.getfield 15, 3) := dk_180 0 15 (dk_at dksX3_ran_0 1 rfl rfl)
theorem dX3_ran_4 : decode cX3_ran 4 = .ok (.bipush 30, 2) := dk_16 30 (dk_at dksX3_ran_0 4 rfl rfl)
theorem dX3_ran_6 : decode cX3_ran 6 = .ok (.if_icmp .ge 21, 3) := dk_162 0 21 (dk_at dksX3_ran_0 6 rfl rfl)
theorem dX3_ran_9 : decode cX3_ran 9 = .ok (.aload_n 0, 1) := dk_42 (dk_at dksX3_ran_0 9 rfl rfl)
theorem dX3_ran_10 : decode cX3_ran 10 = .ok (.getfield 9, 3) := dk_180 0 9 (dk_at dksX3_ran_0 10 rfl rfl)
theorem dX3_ran_13 : decode cX3_ran 13 = .ok (.aload_n 0, 1) := dk_42 (dk_at dksX3_ran_0 13 rfl rfl)
theorem dX3_ran_14 : decode cX3_ran 14 = .ok (.dup, 1) := dk_89 (dk_at dksX3_ran_0 14 rfl rfl)
theorem dX3_ran_15 : decode cX3_ran 15 = .ok (.getfield 15, 3) := dk_180 0 15 (dk_at dksX3_ran_0 15 rfl rfl)
theorem dX3_ran_18 : decode cX3_ran 18 = .ok (.dup_x1, 1) := dk_90 (dk_at dksX3_ran_0 18 rfl rfl)
theorem dX3_ran_19 : decode cX3_ran 19 = .ok (.iconst 1, 1) := dk_4 (dk_at dksX3_ran_0 19 rfl rfl)
theorem dX3_ran_20 : decode cX3_ran 20 = .ok (.iadd, 1) := dk_96 (dk_at dksX3_ran_0 20 rfl rfl)
theorem dX3_ran_21 : decode cX3_ran 21 = .ok (.putfield 15, 3) := dk_181 0 15 (dk_at dksX3_ran_0 21 rfl rfl)
theorem dX3_ran_24 : decode cX3_ran 24 = .ok (.iload_n 1, 1) := dk_27 (dk_at dksX3_ran_1 0 rfl rfl)
theorem dX3_ran_25 : decode cX3_ran 25 = .ok (.i2b, 1) := dk_145 (dk_at dksX3_ran_1 1 rfl rfl)
theorem dX3_ran_26 : decode cX3_ran 26 = .ok (.bastore, 1) := dk_84 (dk_at dksX3_ran_1 2 rfl rfl)
theorem dX3_ran_27 : decode cX3_ran 27 = .ok (.return_, 1) := dk_177 (dk_at dksX3_ran_1 3 rfl rfl)
theorem q93 : (Jvm.Cond.initialized "NamedPrices$Trace") ∈ lw_all := lw_g (lw_at lw_m1 4 rfl) rfl
theorem q247 : (Jvm.Cond.instantiable "NamedPrices$Trace" (2 : Nat)) ∈ lw_all := lw_g (lw_at lw_m1 158 rfl) rfl
theorem q249 : (Jvm.Cond.instanceMethod ({ cls := "NamedPrices$Trace", name := "<init>", desc := "()V" } : Jvm.MethodName)) ∈ lw_all := lw_g (lw_at lw_m1 160 rfl) rfl
theorem q250 : (Jvm.Cond.code ({ cls := "NamedPrices$Trace", name := "<init>", desc := "()V" } : Jvm.MethodName) prog_17_method_1_code (1 : Nat) (Option.none : Option Jvm.ClassFile.FieldType)) ∈ lw_all := lw_g (lw_at lw_m1 161 rfl) rfl
theorem q251 : (Jvm.Cond.methodLink "NamedPrices$Trace" (3 : Nat) ({ cls := "java/lang/Object", name := "<init>", desc := "()V" } : Jvm.MethodName)) ∈ lw_all := lw_g (lw_at lw_m1 162 rfl) rfl
theorem q252 : (Jvm.Cond.fieldLink "NamedPrices$Trace" (9 : Nat) "NamedPrices$Trace" "bodies" "[B") ∈ lw_all := lw_g (lw_at lw_m1 163 rfl) rfl
theorem q254 : (Jvm.Cond.fieldLink "NamedPrices$Trace" (15 : Nat) "NamedPrices$Trace" "many" "I") ∈ lw_all := lw_g (lw_at lw_m1 165 rfl) rfl
theorem q256 : (Jvm.Cond.laysFinal "NamedPrices$Trace" "NamedPrices$Trace" "bodies" "[B") ∈ lw_all := lw_g (lw_at lw_m1 167 rfl) rfl
theorem q257 : (Jvm.Cond.soleField "NamedPrices$Trace" "bodies") ∈ lw_all := lw_g (lw_at lw_m1 168 rfl) rfl
theorem q258 : (Jvm.Cond.lays "NamedPrices$Trace" "NamedPrices$Trace" "many" "I") ∈ lw_all := lw_g (lw_at lw_m1 169 rfl) rfl
theorem q259 : (Jvm.Cond.soleField "NamedPrices$Trace" "many") ∈ lw_all := lw_g (lw_at lw_m1 170 rfl) rfl
theorem q260 : (Jvm.Cond.superclass "NamedPrices$Trace" "java/lang/Object") ∈ lw_all := lw_g (lw_at lw_m1 171 rfl) rfl
theorem q1170 : (Jvm.Cond.instanceMethod ({ cls := "NamedPrices$Trace", name := "ran", desc := "(I)V" } : Jvm.MethodName)) ∈ lw_all := lw_g (lw_at lw_m5 121 rfl) rfl
theorem q1171 : (Jvm.Cond.selects "NamedPrices$Trace" ({ cls := "NamedPrices$Trace", name := "ran", desc := "(I)V" } : Jvm.MethodName) ({ cls := "NamedPrices$Trace", name := "ran", desc := "(I)V" } : Jvm.MethodName)) ∈ lw_all := lw_g (lw_at lw_m5 122 rfl) rfl
theorem q1172 : (Jvm.Cond.code ({ cls := "NamedPrices$Trace", name := "ran", desc := "(I)V" } : Jvm.MethodName) prog_17_method_2_code (2 : Nat) (Option.none : Option Jvm.ClassFile.FieldType)) ∈ lw_all := lw_g (lw_at lw_m5 123 rfl) rfl
theorem in_X3 : ∀ w ∈ wsX30, w ∈ lw_all := lw_in wsX30 [256, 258] (by decide +kernel) (by decide +kernel)
/-! NamedPrices$Eyes -/
set_option maxRecDepth 100000
def RX4 : String := "NamedPrices$Eyes"
def TX4 : u_T := fun k => match k with
  | _ => ("NamedPrices$Eyes", "this$0", "LNamedPrices;", true)
def tyX4 : Nat → FieldType := fun k => match k with
  | _ => .object "NamedPrices"
abbrev wsX40 : List Cond := u_ws RX4 TX4 1
theorem nmX4 : ∀ a, a < 1 → ∀ b, b < 1 → a ≠ b → (TX4 a).2.1 ≠ (TX4 b).2.1 := by decide +kernel
theorem tyX4_ok : ∀ k, k < 1 → parseFieldDescriptor (TX4 k).2.2.1 = some (tyX4 k) := by decide +kernel
abbrev cX4_init : ByteArray := prog_4_method_1_code
def yX4_init : MethodName := ⟨RX4, "<init>", "(LNamedPrices;)V"⟩
def dkwX4_init_0 : List UInt8 := [42, 43, 181, 0, 3, 42, 183, 0, 9, 177]
abbrev dktX4_init_0 : List UInt8 := dkwX4_init_0 ++ []
theorem dksX4_init_0 : cX4_init.data.toList.drop 0 = dktX4_init_0 := by decide +kernel
theorem dX4_init_0 : decode cX4_init 0 = .ok (.aload_n 0, 1) := dk_42 (dk_at dksX4_init_0 0 rfl rfl)
theorem dX4_init_1 : decode cX4_init 1 = .ok (.aload_n 1, 1) := dk_43 (dk_at dksX4_init_0 1 rfl rfl)
theorem dX4_init_2 : decode cX4_init 2 = .ok (.putfield 3, 3) := dk_181 0 3 (dk_at dksX4_init_0 2 rfl rfl)
theorem dX4_init_5 : decode cX4_init 5 = .ok (.aload_n 0, 1) := dk_42 (dk_at dksX4_init_0 5 rfl rfl)
theorem dX4_init_6 : decode cX4_init 6 = .ok (.invokespecial 9, 3) := dk_183 0 9 (dk_at dksX4_init_0 6 rfl rfl)
theorem dX4_init_9 : decode cX4_init 9 = .ok (.return_, 1) := dk_177 (dk_at dksX4_init_0 9 rfl rfl)
abbrev cX4_best : ByteArray := prog_4_method_6_code
def yX4_best : MethodName := ⟨RX4, "best", "(I)I"⟩
def dkwX4_best_0 : List UInt8 := [42, 180, 0, 3, 27, 42, 180, 0, 3, 180, 0, 15, 180, 0, 35, 3, 46, 182, 0, 38, 172]
abbrev dktX4_best_0 : List UInt8 := dkwX4_best_0 ++ []
theorem dksX4_best_0 : cX4_best.data.toList.drop 0 = dktX4_best_0 := by decide +kernel
theorem dX4_best_0 : decode cX4_best 0 = .ok (.aload_n 0, 1) := dk_42 (dk_at dksX4_best_0 0 rfl rfl)
theorem dX4_best_1 : decode cX4_best 1 = .ok (.getfield 3, 3) := dk_180 0 3 (dk_at dksX4_best_0 1 rfl rfl)
theorem dX4_best_4 : decode cX4_best 4 = .ok (.iload_n 1, 1) := dk_27 (dk_at dksX4_best_0 4 rfl rfl)
theorem dX4_best_5 : decode cX4_best 5 = .ok (.aload_n 0, 1) := dk_42 (dk_at dksX4_best_0 5 rfl rfl)
theorem dX4_best_6 : decode cX4_best 6 = .ok (.getfield 3, 3) := dk_180 0 3 (dk_at dksX4_best_0 6 rfl rfl)
theorem dX4_best_9 : decode cX4_best 9 = .ok (.getfield 15, 3) := dk_180 0 15 (dk_at dksX4_best_0 9 rfl rfl)
theorem dX4_best_12 : decode cX4_best 12 = .ok (.getfield 35, 3) := dk_180 0 35 (dk_at dksX4_best_0 12 rfl rfl)
theorem dX4_best_15 : decode cX4_best 15 = .ok (.iconst 0, 1) := dk_3 (dk_at dksX4_best_0 15 rfl rfl)
theorem dX4_best_16 : decode cX4_best 16 = .ok (.iaload, 1) := dk_46 (dk_at dksX4_best_0 16 rfl rfl)
theorem dX4_best_17 : decode cX4_best 17 = .ok (.invokevirtual 38, 3) := dk_182 0 38 (dk_at dksX4_best_0 17 rfl rfl)
theorem dX4_best_20 : decode cX4_best 20 = .ok (.ireturn, 1) := dk_172 (dk_at dksX4_best_0 20 rfl rfl)
abbrev cX4_value : ByteArray := prog_4_method_3_code
def yX4_value : MethodName := ⟨RX4, "value", "(I)I"⟩
def dkwX4_value_0 : List UInt8 := [42, 180, 0, 3, 180, 0, 15, 27, 182, 0, 25, 172]
abbrev dktX4_value_0 : List UInt8 := dkwX4_value_0 ++ []
theorem dksX4_value_0 : cX4_value.data.toList.drop 0 = dktX4_value_0 := by decide +kernel
theorem dX4_value_0 : decode cX4_value 0 = .ok (.aload_n 0, 1) := dk_42 (dk_at dksX4_value_0 0 rfl rfl)
theorem dX4_value_1 : decode cX4_value 1 = .ok (.getfield 3, 3) := dk_180 0 3 (dk_at dksX4_value_0 1 rfl rfl)
theorem dX4_value_4 : decode cX4_value 4 = .ok (.getfield 15, 3) := dk_180 0 15 (dk_at dksX4_value_0 4 rfl rfl)
theorem dX4_value_7 : decode cX4_value 7 = .ok (.iload_n 1, 1) := dk_27 (dk_at dksX4_value_0 7 rfl rfl)
theorem dX4_value_8 : decode cX4_value 8 = .ok (.invokevirtual 25, 3) := dk_182 0 25 (dk_at dksX4_value_0 8 rfl rfl)
theorem dX4_value_11 : decode cX4_value 11 = .ok (.ireturn, 1) := dk_172 (dk_at dksX4_value_0 11 rfl rfl)
abbrev cX4_price : ByteArray := prog_4_method_2_code
def yX4_price : MethodName := ⟨RX4, "price", "(I)I"⟩
def dkwX4_price_0 : List UInt8 := [42, 180, 0, 3, 180, 0, 15, 180, 0, 19, 27, 46, 172]
abbrev dktX4_price_0 : List UInt8 := dkwX4_price_0 ++ []
theorem dksX4_price_0 : cX4_price.data.toList.drop 0 = dktX4_price_0 := by decide +kernel
theorem dX4_price_0 : decode cX4_price 0 = .ok (.aload_n 0, 1) := dk_42 (dk_at dksX4_price_0 0 rfl rfl)
theorem dX4_price_1 : decode cX4_price 1 = .ok (.getfield 3, 3) := dk_180 0 3 (dk_at dksX4_price_0 1 rfl rfl)
theorem dX4_price_4 : decode cX4_price 4 = .ok (.getfield 15, 3) := dk_180 0 15 (dk_at dksX4_price_0 4 rfl rfl)
theorem dX4_price_7 : decode cX4_price 7 = .ok (.getfield 19, 3) := dk_180 0 19 (dk_at dksX4_price_0 7 rfl rfl)
theorem dX4_price_10 : decode cX4_price 10 = .ok (.iload_n 1, 1) := dk_27 (dk_at dksX4_price_0 10 rfl rfl)
theorem dX4_price_11 : decode cX4_price 11 = .ok (.iaload, 1) := dk_46 (dk_at dksX4_price_0 11 rfl rfl)
theorem dX4_price_12 : decode cX4_price 12 = .ok (.ireturn, 1) := dk_172 (dk_at dksX4_price_0 12 rfl rfl)
abbrev cX4_others : ByteArray := prog_4_method_4_code
def yX4_others : MethodName := ⟨RX4, "others", "(I)I"⟩
def dkwX4_others_0 : List UInt8 := [42, 180, 0, 3, 180, 0, 15, 27, 182, 0, 29, 172]
abbrev dktX4_others_0 : List UInt8 := dkwX4_others_0 ++ []
theorem dksX4_others_0 : cX4_others.data.toList.drop 0 = dktX4_others_0 := by decide +kernel
theorem dX4_others_0 : decode cX4_others 0 = .ok (.aload_n 0, 1) := dk_42 (dk_at dksX4_others_0 0 rfl rfl)
theorem dX4_others_1 : decode cX4_others 1 = .ok (.getfield 3, 3) := dk_180 0 3 (dk_at dksX4_others_0 1 rfl rfl)
theorem dX4_others_4 : decode cX4_others 4 = .ok (.getfield 15, 3) := dk_180 0 15 (dk_at dksX4_others_0 4 rfl rfl)
theorem dX4_others_7 : decode cX4_others 7 = .ok (.iload_n 1, 1) := dk_27 (dk_at dksX4_others_0 7 rfl rfl)
theorem dX4_others_8 : decode cX4_others 8 = .ok (.invokevirtual 29, 3) := dk_182 0 29 (dk_at dksX4_others_0 8 rfl rfl)
theorem dX4_others_11 : decode cX4_others 11 = .ok (.ireturn, 1) := dk_172 (dk_at dksX4_others_0 11 rfl rfl)
abbrev cX4_naming : ByteArray := prog_4_method_5_code
def yX4_naming : MethodName := ⟨RX4, "naming", "(I)I"⟩
def dkwX4_naming_0 : List UInt8 := [42, 180, 0, 3, 27, 182, 0, 32, 172]
abbrev dktX4_naming_0 : List UInt8 := dkwX4_naming_0 ++ []
theorem dksX4_naming_0 : cX4_naming.data.toList.drop 0 = dktX4_naming_0 := by decide +kernel
theorem dX4_naming_0 : decode cX4_naming 0 = .ok (.aload_n 0, 1) := dk_42 (dk_at dksX4_naming_0 0 rfl rfl)
theorem dX4_naming_1 : decode cX4_naming 1 = .ok (.getfield 3, 3) := dk_180 0 3 (dk_at dksX4_naming_0 1 rfl rfl)
theorem dX4_naming_4 : decode cX4_naming 4 = .ok (.iload_n 1, 1) := dk_27 (dk_at dksX4_naming_0 4 rfl rfl)
theorem dX4_naming_5 : decode cX4_naming 5 = .ok (.invokevirtual 32, 3) := dk_182 0 32 (dk_at dksX4_naming_0 5 rfl rfl)
theorem dX4_naming_8 : decode cX4_naming 8 = .ok (.ireturn, 1) := dk_172 (dk_at dksX4_naming_0 8 rfl rfl)
theorem q94 : (Jvm.Cond.initialized "NamedPrices$Eyes") ∈ lw_all := lw_g (lw_at lw_m1 5 rfl) rfl
theorem q176 : (Jvm.Cond.fieldLinkNest "NamedPrices$Eyes" (19 : Nat) "NamedPrices$House" "price" "[I" "NamedPrices") ∈ lw_tbl := lw_at lw_m1 87 rfl
theorem q191 : (Jvm.Cond.fieldLinkNest "NamedPrices$Eyes" (35 : Nat) "NamedPrices$House" "rule" "[I" "NamedPrices") ∈ lw_tbl := lw_at lw_m1 102 rfl
theorem q264 : (Jvm.Cond.instantiable "NamedPrices$Eyes" (1 : Nat)) ∈ lw_all := lw_g (lw_at lw_m1 175 rfl) rfl
theorem q266 : (Jvm.Cond.instanceMethod ({ cls := "NamedPrices$Eyes", name := "<init>", desc := "(LNamedPrices;)V" } : Jvm.MethodName)) ∈ lw_all := lw_g (lw_at lw_m1 177 rfl) rfl
theorem q267 : (Jvm.Cond.code ({ cls := "NamedPrices$Eyes", name := "<init>", desc := "(LNamedPrices;)V" } : Jvm.MethodName) prog_4_method_1_code (2 : Nat) (Option.none : Option Jvm.ClassFile.FieldType)) ∈ lw_all := lw_g (lw_at lw_m1 178 rfl) rfl
theorem q268 : (Jvm.Cond.methodLink "NamedPrices$Eyes" (9 : Nat) ({ cls := "java/lang/Object", name := "<init>", desc := "()V" } : Jvm.MethodName)) ∈ lw_all := lw_g (lw_at lw_m1 179 rfl) rfl
theorem q269 : (Jvm.Cond.fieldLink "NamedPrices$Eyes" (3 : Nat) "NamedPrices$Eyes" "this$0" "LNamedPrices;") ∈ lw_all := lw_g (lw_at lw_m1 180 rfl) rfl
theorem q270 : (Jvm.Cond.laysFinal "NamedPrices$Eyes" "NamedPrices$Eyes" "this$0" "LNamedPrices;") ∈ lw_all := lw_g (lw_at lw_m1 181 rfl) rfl
theorem q271 : (Jvm.Cond.soleField "NamedPrices$Eyes" "this$0") ∈ lw_all := lw_g (lw_at lw_m1 182 rfl) rfl
theorem q272 : (Jvm.Cond.superclass "NamedPrices$Eyes" "java/lang/Object") ∈ lw_all := lw_g (lw_at lw_m1 183 rfl) rfl
theorem q275 : (Jvm.Cond.fieldLinkNest "NamedPrices$Eyes" (15 : Nat) "NamedPrices" "house" "LNamedPrices$House;" "NamedPrices") ∈ lw_tbl := lw_at lw_m1 186 rfl
theorem q850 : (Jvm.Cond.castable "NamedPrices$Eyes" "NamedPrices$Sees") ∈ lw_tbl := lw_at lw_m4 41 rfl
theorem q851 : (Jvm.Cond.selects "NamedPrices$Eyes" ({ cls := "NamedPrices$Sees", name := "best", desc := "(I)I" } : Jvm.MethodName) ({ cls := "NamedPrices$Eyes", name := "best", desc := "(I)I" } : Jvm.MethodName)) ∈ lw_all := lw_g (lw_at lw_m4 42 rfl) rfl
theorem q852 : (Jvm.Cond.unhidden "NamedPrices$Eyes" "best" "(I)I") ∈ lw_tbl := lw_at lw_m4 43 rfl
theorem q853 : (Jvm.Cond.instanceMethod ({ cls := "NamedPrices$Eyes", name := "best", desc := "(I)I" } : Jvm.MethodName)) ∈ lw_all := lw_g (lw_at lw_m4 44 rfl) rfl
theorem q854 : (Jvm.Cond.publicMethod ({ cls := "NamedPrices$Eyes", name := "best", desc := "(I)I" } : Jvm.MethodName)) ∈ lw_tbl := lw_at lw_m4 45 rfl
theorem q855 : (Jvm.Cond.code ({ cls := "NamedPrices$Eyes", name := "best", desc := "(I)I" } : Jvm.MethodName) prog_4_method_6_code (2 : Nat) (Option.some Jvm.ClassFile.FieldType.int)) ∈ lw_all := lw_g (lw_at lw_m4 46 rfl) rfl
theorem q856 : (Jvm.Cond.methodLinkNest "NamedPrices$Eyes" (38 : Nat) ({ cls := "NamedPrices", name := "bestBy", desc := "(II)I" } : Jvm.MethodName) "NamedPrices") ∈ lw_tbl := lw_at lw_m4 47 rfl
theorem q887 : (Jvm.Cond.selects "NamedPrices$Eyes" ({ cls := "NamedPrices$Sees", name := "value", desc := "(I)I" } : Jvm.MethodName) ({ cls := "NamedPrices$Eyes", name := "value", desc := "(I)I" } : Jvm.MethodName)) ∈ lw_all := lw_g (lw_at lw_m4 78 rfl) rfl
theorem q888 : (Jvm.Cond.unhidden "NamedPrices$Eyes" "value" "(I)I") ∈ lw_tbl := lw_at lw_m4 79 rfl
theorem q889 : (Jvm.Cond.instanceMethod ({ cls := "NamedPrices$Eyes", name := "value", desc := "(I)I" } : Jvm.MethodName)) ∈ lw_all := lw_g (lw_at lw_m4 80 rfl) rfl
theorem q890 : (Jvm.Cond.publicMethod ({ cls := "NamedPrices$Eyes", name := "value", desc := "(I)I" } : Jvm.MethodName)) ∈ lw_tbl := lw_at lw_m4 81 rfl
theorem q891 : (Jvm.Cond.code ({ cls := "NamedPrices$Eyes", name := "value", desc := "(I)I" } : Jvm.MethodName) prog_4_method_3_code (2 : Nat) (Option.some Jvm.ClassFile.FieldType.int)) ∈ lw_all := lw_g (lw_at lw_m4 82 rfl) rfl
theorem q892 : (Jvm.Cond.methodLink "NamedPrices$Eyes" (25 : Nat) ({ cls := "NamedPrices$House", name := "own", desc := "(I)I" } : Jvm.MethodName)) ∈ lw_all := lw_g (lw_at lw_m4 83 rfl) rfl
theorem q909 : (Jvm.Cond.selects "NamedPrices$Eyes" ({ cls := "NamedPrices$Sees", name := "price", desc := "(I)I" } : Jvm.MethodName) ({ cls := "NamedPrices$Eyes", name := "price", desc := "(I)I" } : Jvm.MethodName)) ∈ lw_all := lw_g (lw_at lw_m4 100 rfl) rfl
theorem q910 : (Jvm.Cond.unhidden "NamedPrices$Eyes" "price" "(I)I") ∈ lw_tbl := lw_at lw_m4 101 rfl
theorem q911 : (Jvm.Cond.instanceMethod ({ cls := "NamedPrices$Eyes", name := "price", desc := "(I)I" } : Jvm.MethodName)) ∈ lw_all := lw_g (lw_at lw_m4 102 rfl) rfl
theorem q912 : (Jvm.Cond.publicMethod ({ cls := "NamedPrices$Eyes", name := "price", desc := "(I)I" } : Jvm.MethodName)) ∈ lw_tbl := lw_at lw_m4 103 rfl
theorem q913 : (Jvm.Cond.code ({ cls := "NamedPrices$Eyes", name := "price", desc := "(I)I" } : Jvm.MethodName) prog_4_method_2_code (2 : Nat) (Option.some Jvm.ClassFile.FieldType.int)) ∈ lw_all := lw_g (lw_at lw_m4 104 rfl) rfl
theorem q924 : (Jvm.Cond.selects "NamedPrices$Eyes" ({ cls := "NamedPrices$Sees", name := "others", desc := "(I)I" } : Jvm.MethodName) ({ cls := "NamedPrices$Eyes", name := "others", desc := "(I)I" } : Jvm.MethodName)) ∈ lw_all := lw_g (lw_at lw_m4 115 rfl) rfl
theorem q925 : (Jvm.Cond.unhidden "NamedPrices$Eyes" "others" "(I)I") ∈ lw_tbl := lw_at lw_m4 116 rfl
theorem q926 : (Jvm.Cond.instanceMethod ({ cls := "NamedPrices$Eyes", name := "others", desc := "(I)I" } : Jvm.MethodName)) ∈ lw_all := lw_g (lw_at lw_m4 117 rfl) rfl
theorem q927 : (Jvm.Cond.publicMethod ({ cls := "NamedPrices$Eyes", name := "others", desc := "(I)I" } : Jvm.MethodName)) ∈ lw_tbl := lw_at lw_m4 118 rfl
theorem q928 : (Jvm.Cond.code ({ cls := "NamedPrices$Eyes", name := "others", desc := "(I)I" } : Jvm.MethodName) prog_4_method_4_code (2 : Nat) (Option.some Jvm.ClassFile.FieldType.int)) ∈ lw_all := lw_g (lw_at lw_m4 119 rfl) rfl
theorem q929 : (Jvm.Cond.methodLink "NamedPrices$Eyes" (29 : Nat) ({ cls := "NamedPrices$House", name := "others", desc := "(I)I" } : Jvm.MethodName)) ∈ lw_all := lw_g (lw_at lw_m4 120 rfl) rfl
theorem q944 : (Jvm.Cond.selects "NamedPrices$Eyes" ({ cls := "NamedPrices$Sees", name := "naming", desc := "(I)I" } : Jvm.MethodName) ({ cls := "NamedPrices$Eyes", name := "naming", desc := "(I)I" } : Jvm.MethodName)) ∈ lw_all := lw_g (lw_at lw_m4 135 rfl) rfl
theorem q945 : (Jvm.Cond.unhidden "NamedPrices$Eyes" "naming" "(I)I") ∈ lw_tbl := lw_at lw_m4 136 rfl
theorem q946 : (Jvm.Cond.instanceMethod ({ cls := "NamedPrices$Eyes", name := "naming", desc := "(I)I" } : Jvm.MethodName)) ∈ lw_all := lw_g (lw_at lw_m4 137 rfl) rfl
theorem q947 : (Jvm.Cond.publicMethod ({ cls := "NamedPrices$Eyes", name := "naming", desc := "(I)I" } : Jvm.MethodName)) ∈ lw_tbl := lw_at lw_m4 138 rfl
theorem q948 : (Jvm.Cond.code ({ cls := "NamedPrices$Eyes", name := "naming", desc := "(I)I" } : Jvm.MethodName) prog_4_method_5_code (2 : Nat) (Option.some Jvm.ClassFile.FieldType.int)) ∈ lw_all := lw_g (lw_at lw_m4 139 rfl) rfl
theorem q949 : (Jvm.Cond.methodLinkNest "NamedPrices$Eyes" (32 : Nat) ({ cls := "NamedPrices", name := "namingOf", desc := "(I)I" } : Jvm.MethodName) "NamedPrices") ∈ lw_tbl := lw_at lw_m4 140 rfl
theorem in_X4 : ∀ w ∈ wsX40, w ∈ lw_all := lw_in wsX40 [270] (by decide +kernel) (by decide +kernel)
/-! NamedPrices$Namer -/
set_option maxRecDepth 100000
def RX6 : String := "NamedPrices$Namer"
def TX6 : u_T := fun k => match k with
  | 0 => ("NamedPrices$Namer", "number", "I", true)
  | 1 => ("NamedPrices$Namer", "p", "I", true)
  | _ => ("NamedPrices$Namer", "q", "I", true)
def tyX6 : Nat → FieldType := fun k => match k with
  | 0 => .int
  | 1 => .int
  | _ => .int
abbrev wsX60 : List Cond := u_ws RX6 TX6 3
theorem nmX6 : ∀ a, a < 3 → ∀ b, b < 3 → a ≠ b → (TX6 a).2.1 ≠ (TX6 b).2.1 := by decide +kernel
theorem tyX6_ok : ∀ k, k < 3 → parseFieldDescriptor (TX6 k).2.2.1 = some (tyX6 k) := by decide +kernel
abbrev cX6_init : ByteArray := prog_9_method_1_code
def yX6_init : MethodName := ⟨RX6, "<init>", "(III)V"⟩
def dkwX6_init_0 : List UInt8 := [42, 183, 0, 1, 42, 27, 181, 0, 7, 42, 28, 181, 0, 13, 42, 29, 181, 0, 16, 177]
abbrev dktX6_init_0 : List UInt8 := dkwX6_init_0 ++ []
theorem dksX6_init_0 : cX6_init.data.toList.drop 0 = dktX6_init_0 := by decide +kernel
theorem dX6_init_0 : decode cX6_init 0 = .ok (.aload_n 0, 1) := dk_42 (dk_at dksX6_init_0 0 rfl rfl)
theorem dX6_init_1 : decode cX6_init 1 = .ok (.invokespecial 1, 3) := dk_183 0 1 (dk_at dksX6_init_0 1 rfl rfl)
theorem dX6_init_4 : decode cX6_init 4 = .ok (.aload_n 0, 1) := dk_42 (dk_at dksX6_init_0 4 rfl rfl)
theorem dX6_init_5 : decode cX6_init 5 = .ok (.iload_n 1, 1) := dk_27 (dk_at dksX6_init_0 5 rfl rfl)
theorem dX6_init_6 : decode cX6_init 6 = .ok (.putfield 7, 3) := dk_181 0 7 (dk_at dksX6_init_0 6 rfl rfl)
theorem dX6_init_9 : decode cX6_init 9 = .ok (.aload_n 0, 1) := dk_42 (dk_at dksX6_init_0 9 rfl rfl)
theorem dX6_init_10 : decode cX6_init 10 = .ok (.iload_n 2, 1) := dk_28 (dk_at dksX6_init_0 10 rfl rfl)
theorem dX6_init_11 : decode cX6_init 11 = .ok (.putfield 13, 3) := dk_181 0 13 (dk_at dksX6_init_0 11 rfl rfl)
theorem dX6_init_14 : decode cX6_init 14 = .ok (.aload_n 0, 1) := dk_42 (dk_at dksX6_init_0 14 rfl rfl)
theorem dX6_init_15 : decode cX6_init 15 = .ok (.iload_n 3, 1) := dk_29 (dk_at dksX6_init_0 15 rfl rfl)
theorem dX6_init_16 : decode cX6_init 16 = .ok (.putfield 16, 3) := dk_181 0 16 (dk_at dksX6_init_0 16 rfl rfl)
theorem dX6_init_19 : decode cX6_init 19 = .ok (.return_, 1) := dk_177 (dk_at dksX6_init_0 19 rfl rfl)
abbrev cX6_kind : ByteArray := prog_9_method_2_code
def yX6_kind : MethodName := ⟨RX6, "kind", "()I"⟩
theorem dX6_kind_0 : decode cX6_kind 0 = .ok (.iconst 0, 1) := by decide +kernel
theorem dX6_kind_1 : decode cX6_kind 1 = .ok (.ireturn, 1) := by decide +kernel
abbrev cX6_names : ByteArray := prog_9_method_3_code
def yX6_names : MethodName := ⟨RX6, "names", "(ILNamedPrices$Trace;)I"⟩
def dkwX6_names_0 : List UInt8 := [44, 16, 10, 182, 0, 19, 27, 42, 180, 0, 7, 96, 172]
abbrev dktX6_names_0 : List UInt8 := dkwX6_names_0 ++ []
theorem dksX6_names_0 : cX6_names.data.toList.drop 0 = dktX6_names_0 := by decide +kernel
theorem dX6_names_0 : decode cX6_names 0 = .ok (.aload_n 2, 1) := dk_44 (dk_at dksX6_names_0 0 rfl rfl)
theorem dX6_names_1 : decode cX6_names 1 = .ok (.bipush 10, 2) := dk_16 10 (dk_at dksX6_names_0 1 rfl rfl)
theorem dX6_names_3 : decode cX6_names 3 = .ok (.invokevirtual 19, 3) := dk_182 0 19 (dk_at dksX6_names_0 3 rfl rfl)
theorem dX6_names_6 : decode cX6_names 6 = .ok (.iload_n 1, 1) := dk_27 (dk_at dksX6_names_0 6 rfl rfl)
theorem dX6_names_7 : decode cX6_names 7 = .ok (.aload_n 0, 1) := dk_42 (dk_at dksX6_names_0 7 rfl rfl)
theorem dX6_names_8 : decode cX6_names 8 = .ok (.getfield 7, 3) := dk_180 0 7 (dk_at dksX6_names_0 8 rfl rfl)
theorem dX6_names_11 : decode cX6_names 11 = .ok (.iadd, 1) := dk_96 (dk_at dksX6_names_0 11 rfl rfl)
theorem dX6_names_12 : decode cX6_names 12 = .ok (.ireturn, 1) := dk_172 (dk_at dksX6_names_0 12 rfl rfl)
abbrev cX6_pays : ByteArray := prog_9_method_4_code
def yX6_pays : MethodName := ⟨RX6, "pays", "(ILNamedPrices$Trace;)I"⟩
def dkwX6_pays_0 : List UInt8 := [44, 16, 12, 182, 0, 19, 42, 27, 44, 182, 0, 25, 42, 180, 0, 13, 100, 172]
abbrev dktX6_pays_0 : List UInt8 := dkwX6_pays_0 ++ []
theorem dksX6_pays_0 : cX6_pays.data.toList.drop 0 = dktX6_pays_0 := by decide +kernel
theorem dX6_pays_0 : decode cX6_pays 0 = .ok (.aload_n 2, 1) := dk_44 (dk_at dksX6_pays_0 0 rfl rfl)
theorem dX6_pays_1 : decode cX6_pays 1 = .ok (.bipush 12, 2) := dk_16 12 (dk_at dksX6_pays_0 1 rfl rfl)
theorem dX6_pays_3 : decode cX6_pays 3 = .ok (.invokevirtual 19, 3) := dk_182 0 19 (dk_at dksX6_pays_0 3 rfl rfl)
theorem dX6_pays_6 : decode cX6_pays 6 = .ok (.aload_n 0, 1) := dk_42 (dk_at dksX6_pays_0 6 rfl rfl)
theorem dX6_pays_7 : decode cX6_pays 7 = .ok (.iload_n 1, 1) := dk_27 (dk_at dksX6_pays_0 7 rfl rfl)
theorem dX6_pays_8 : decode cX6_pays 8 = .ok (.aload_n 2, 1) := dk_44 (dk_at dksX6_pays_0 8 rfl rfl)
theorem dX6_pays_9 : decode cX6_pays 9 = .ok (.invokevirtual 25, 3) := dk_182 0 25 (dk_at dksX6_pays_0 9 rfl rfl)
theorem dX6_pays_12 : decode cX6_pays 12 = .ok (.aload_n 0, 1) := dk_42 (dk_at dksX6_pays_0 12 rfl rfl)
theorem dX6_pays_13 : decode cX6_pays 13 = .ok (.getfield 13, 3) := dk_180 0 13 (dk_at dksX6_pays_0 13 rfl rfl)
theorem dX6_pays_16 : decode cX6_pays 16 = .ok (.isub, 1) := dk_100 (dk_at dksX6_pays_0 16 rfl rfl)
theorem dX6_pays_17 : decode cX6_pays 17 = .ok (.ireturn, 1) := dk_172 (dk_at dksX6_pays_0 17 rfl rfl)
abbrev cX6_minds : ByteArray := prog_9_method_5_code
def yX6_minds : MethodName := ⟨RX6, "minds", "(ILNamedPrices$Trace;)I"⟩
def dkwX6_minds_0 : List UInt8 := [44, 16, 13, 182, 0, 19, 27, 42, 180, 0, 13, 42, 180, 0, 7, 100, 108, 172]
abbrev dktX6_minds_0 : List UInt8 := dkwX6_minds_0 ++ []
theorem dksX6_minds_0 : cX6_minds.data.toList.drop 0 = dktX6_minds_0 := by decide +kernel
theorem dX6_minds_0 : decode cX6_minds 0 = .ok (.aload_n 2, 1) := dk_44 (dk_at dksX6_minds_0 0 rfl rfl)
theorem dX6_minds_1 : decode cX6_minds 1 = .ok (.bipush 13, 2) := dk_16 13 (dk_at dksX6_minds_0 1 rfl rfl)
theorem dX6_minds_3 : decode cX6_minds 3 = .ok (.invokevirtual 19, 3) := dk_182 0 19 (dk_at dksX6_minds_0 3 rfl rfl)
theorem dX6_minds_6 : decode cX6_minds 6 = .ok (.iload_n 1, 1) := dk_27 (dk_at dksX6_minds_0 6 rfl rfl)
theorem dX6_minds_7 : decode cX6_minds 7 = .ok (.aload_n 0, 1) := dk_42 (dk_at dksX6_minds_0 7 rfl rfl)
theorem dX6_minds_8 : decode cX6_minds 8 = .ok (.getfield 13, 3) := dk_180 0 13 (dk_at dksX6_minds_0 8 rfl rfl)
theorem dX6_minds_11 : decode cX6_minds 11 = .ok (.aload_n 0, 1) := dk_42 (dk_at dksX6_minds_0 11 rfl rfl)
theorem dX6_minds_12 : decode cX6_minds 12 = .ok (.getfield 7, 3) := dk_180 0 7 (dk_at dksX6_minds_0 12 rfl rfl)
theorem dX6_minds_15 : decode cX6_minds 15 = .ok (.isub, 1) := dk_100 (dk_at dksX6_minds_0 15 rfl rfl)
theorem dX6_minds_16 : decode cX6_minds 16 = .ok (.idiv, 1) := dk_108 (dk_at dksX6_minds_0 16 rfl rfl)
theorem dX6_minds_17 : decode cX6_minds 17 = .ok (.ireturn, 1) := dk_172 (dk_at dksX6_minds_0 17 rfl rfl)
theorem q96 : (Jvm.Cond.initialized "NamedPrices$Namer") ∈ lw_all := lw_g (lw_at lw_m1 7 rfl) rfl
theorem q342 : (Jvm.Cond.instanceMethod ({ cls := "NamedPrices$Namer", name := "<init>", desc := "(III)V" } : Jvm.MethodName)) ∈ lw_all := lw_g (lw_at lw_m2 13 rfl) rfl
theorem q343 : (Jvm.Cond.code ({ cls := "NamedPrices$Namer", name := "<init>", desc := "(III)V" } : Jvm.MethodName) prog_9_method_1_code (4 : Nat) (Option.none : Option Jvm.ClassFile.FieldType)) ∈ lw_all := lw_g (lw_at lw_m2 14 rfl) rfl
theorem q344 : (Jvm.Cond.methodLink "NamedPrices$Namer" (1 : Nat) ({ cls := "java/lang/Object", name := "<init>", desc := "()V" } : Jvm.MethodName)) ∈ lw_all := lw_g (lw_at lw_m2 15 rfl) rfl
theorem q345 : (Jvm.Cond.fieldLink "NamedPrices$Namer" (7 : Nat) "NamedPrices$Namer" "number" "I") ∈ lw_all := lw_g (lw_at lw_m2 16 rfl) rfl
theorem q350 : (Jvm.Cond.fieldLink "NamedPrices$Namer" (13 : Nat) "NamedPrices$Namer" "p" "I") ∈ lw_all := lw_g (lw_at lw_m2 21 rfl) rfl
theorem q352 : (Jvm.Cond.fieldLink "NamedPrices$Namer" (16 : Nat) "NamedPrices$Namer" "q" "I") ∈ lw_all := lw_g (lw_at lw_m2 23 rfl) rfl
theorem q355 : (Jvm.Cond.soleField "NamedPrices$Namer" "number") ∈ lw_all := lw_g (lw_at lw_m2 26 rfl) rfl
theorem q357 : (Jvm.Cond.soleField "NamedPrices$Namer" "p") ∈ lw_all := lw_g (lw_at lw_m2 28 rfl) rfl
theorem q359 : (Jvm.Cond.soleField "NamedPrices$Namer" "q") ∈ lw_all := lw_g (lw_at lw_m2 30 rfl) rfl
theorem q412 : (Jvm.Cond.instantiable "NamedPrices$Namer" (3 : Nat)) ∈ lw_all := lw_g (lw_at lw_m2 83 rfl) rfl
theorem q414 : (Jvm.Cond.laysFinal "NamedPrices$Namer" "NamedPrices$Namer" "number" "I") ∈ lw_all := lw_g (lw_at lw_m2 85 rfl) rfl
theorem q415 : (Jvm.Cond.laysFinal "NamedPrices$Namer" "NamedPrices$Namer" "p" "I") ∈ lw_all := lw_g (lw_at lw_m2 86 rfl) rfl
theorem q416 : (Jvm.Cond.laysFinal "NamedPrices$Namer" "NamedPrices$Namer" "q" "I") ∈ lw_all := lw_g (lw_at lw_m2 87 rfl) rfl
theorem q417 : (Jvm.Cond.superclass "NamedPrices$Namer" "java/lang/Object") ∈ lw_all := lw_g (lw_at lw_m2 88 rfl) rfl
theorem q432 : (Jvm.Cond.instanceMethod ({ cls := "NamedPrices$Namer", name := "kind", desc := "()I" } : Jvm.MethodName)) ∈ lw_all := lw_g (lw_at lw_m2 103 rfl) rfl
theorem q433 : (Jvm.Cond.selects "NamedPrices$Namer" ({ cls := "NamedPrices$Namer", name := "kind", desc := "()I" } : Jvm.MethodName) ({ cls := "NamedPrices$Namer", name := "kind", desc := "()I" } : Jvm.MethodName)) ∈ lw_all := lw_g (lw_at lw_m2 104 rfl) rfl
theorem q434 : (Jvm.Cond.sameMethod "NamedPrices$Namer" "NamedPrices$Namer" "kind" "()I") ∈ lw_all := lw_g (lw_at lw_m2 105 rfl) rfl
theorem q442 : (Jvm.Cond.code ({ cls := "NamedPrices$Namer", name := "kind", desc := "()I" } : Jvm.MethodName) prog_9_method_2_code (1 : Nat) (Option.some Jvm.ClassFile.FieldType.int)) ∈ lw_all := lw_g (lw_at lw_m2 113 rfl) rfl
theorem q900 : (Jvm.Cond.castable "NamedPrices$Namer" "NamedPrices$Names") ∈ lw_tbl := lw_at lw_m4 91 rfl
theorem q901 : (Jvm.Cond.unhidden "NamedPrices$Namer" "name" "(LNamedPrices$Sees;I)I") ∈ lw_tbl := lw_at lw_m4 92 rfl
theorem q1163 : (Jvm.Cond.instanceMethod ({ cls := "NamedPrices$Namer", name := "names", desc := "(ILNamedPrices$Trace;)I" } : Jvm.MethodName)) ∈ lw_all := lw_g (lw_at lw_m5 114 rfl) rfl
theorem q1164 : (Jvm.Cond.selects "NamedPrices$Namer" ({ cls := "NamedPrices$Namer", name := "names", desc := "(ILNamedPrices$Trace;)I" } : Jvm.MethodName) ({ cls := "NamedPrices$Namer", name := "names", desc := "(ILNamedPrices$Trace;)I" } : Jvm.MethodName)) ∈ lw_all := lw_g (lw_at lw_m5 115 rfl) rfl
theorem q1165 : (Jvm.Cond.sameMethod "NamedPrices$Namer" "NamedPrices$Namer" "names" "(ILNamedPrices$Trace;)I") ∈ lw_all := lw_g (lw_at lw_m5 116 rfl) rfl
theorem q1178 : (Jvm.Cond.code ({ cls := "NamedPrices$Namer", name := "names", desc := "(ILNamedPrices$Trace;)I" } : Jvm.MethodName) prog_9_method_3_code (3 : Nat) (Option.some Jvm.ClassFile.FieldType.int)) ∈ lw_all := lw_g (lw_at lw_m5 129 rfl) rfl
theorem q1179 : (Jvm.Cond.methodLink "NamedPrices$Namer" (19 : Nat) ({ cls := "NamedPrices$Trace", name := "ran", desc := "(I)V" } : Jvm.MethodName)) ∈ lw_all := lw_g (lw_at lw_m5 130 rfl) rfl
theorem q1217 : (Jvm.Cond.castable "NamedPrices$Namer" "NamedPrices$Buys") ∈ lw_tbl := lw_at lw_m5 168 rfl
theorem q1218 : (Jvm.Cond.selects "NamedPrices$Namer" ({ cls := "NamedPrices$Buys", name := "names", desc := "(ILNamedPrices$Trace;)I" } : Jvm.MethodName) ({ cls := "NamedPrices$Namer", name := "names", desc := "(ILNamedPrices$Trace;)I" } : Jvm.MethodName)) ∈ lw_all := lw_g (lw_at lw_m5 169 rfl) rfl
theorem q1219 : (Jvm.Cond.unhidden "NamedPrices$Namer" "names" "(ILNamedPrices$Trace;)I") ∈ lw_tbl := lw_at lw_m5 170 rfl
theorem q1220 : (Jvm.Cond.publicMethod ({ cls := "NamedPrices$Namer", name := "names", desc := "(ILNamedPrices$Trace;)I" } : Jvm.MethodName)) ∈ lw_tbl := lw_at lw_m5 171 rfl
theorem q1232 : (Jvm.Cond.unhidden "NamedPrices$Namer" "buys" "(ILNamedPrices$Trace;)I") ∈ lw_tbl := lw_at lw_m5 183 rfl
theorem q1240 : (Jvm.Cond.instanceMethod ({ cls := "NamedPrices$Namer", name := "pays", desc := "(ILNamedPrices$Trace;)I" } : Jvm.MethodName)) ∈ lw_all := lw_g (lw_at lw_m5 191 rfl) rfl
theorem q1241 : (Jvm.Cond.selects "NamedPrices$Namer" ({ cls := "NamedPrices$Namer", name := "pays", desc := "(ILNamedPrices$Trace;)I" } : Jvm.MethodName) ({ cls := "NamedPrices$Namer", name := "pays", desc := "(ILNamedPrices$Trace;)I" } : Jvm.MethodName)) ∈ lw_all := lw_g (lw_at lw_m5 192 rfl) rfl
theorem q1242 : (Jvm.Cond.sameMethod "NamedPrices$Namer" "NamedPrices$Namer" "pays" "(ILNamedPrices$Trace;)I") ∈ lw_all := lw_g (lw_at lw_m5 193 rfl) rfl
theorem q1250 : (Jvm.Cond.declares ({ cls := "NamedPrices$Namer", name := "pays", desc := "(ILNamedPrices$Trace;)I" } : Jvm.MethodName)) ∈ lw_tbl := lw_at lw_m5 201 rfl
theorem q1251 : (Jvm.Cond.code ({ cls := "NamedPrices$Namer", name := "pays", desc := "(ILNamedPrices$Trace;)I" } : Jvm.MethodName) prog_9_method_4_code (3 : Nat) (Option.some Jvm.ClassFile.FieldType.int)) ∈ lw_all := lw_g (lw_at lw_m5 202 rfl) rfl
theorem q1260 : (Jvm.Cond.instanceMethod ({ cls := "NamedPrices$Namer", name := "minds", desc := "(ILNamedPrices$Trace;)I" } : Jvm.MethodName)) ∈ lw_all := lw_g (lw_at lw_m5 211 rfl) rfl
theorem q1261 : (Jvm.Cond.selects "NamedPrices$Namer" ({ cls := "NamedPrices$Namer", name := "minds", desc := "(ILNamedPrices$Trace;)I" } : Jvm.MethodName) ({ cls := "NamedPrices$Namer", name := "minds", desc := "(ILNamedPrices$Trace;)I" } : Jvm.MethodName)) ∈ lw_all := lw_g (lw_at lw_m5 212 rfl) rfl
theorem q1262 : (Jvm.Cond.sameMethod "NamedPrices$Namer" "NamedPrices$Namer" "minds" "(ILNamedPrices$Trace;)I") ∈ lw_all := lw_g (lw_at lw_m5 213 rfl) rfl
theorem q1270 : (Jvm.Cond.code ({ cls := "NamedPrices$Namer", name := "minds", desc := "(ILNamedPrices$Trace;)I" } : Jvm.MethodName) prog_9_method_5_code (3 : Nat) (Option.some Jvm.ClassFile.FieldType.int)) ∈ lw_all := lw_g (lw_at lw_m5 221 rfl) rfl
theorem in_X6 : ∀ w ∈ wsX60, w ∈ lw_all := lw_in wsX60 [414, 415, 416] (by decide +kernel) (by decide +kernel)
/-! NamedPrices$True -/
set_option maxRecDepth 100000
def RX7 : String := "NamedPrices$True"
def TX7 : u_T := fun k => match k with
  | 0 => ("NamedPrices$Namer", "number", "I", true)
  | 1 => ("NamedPrices$Namer", "p", "I", true)
  | _ => ("NamedPrices$Namer", "q", "I", true)
def tyX7 : Nat → FieldType := fun k => match k with
  | 0 => .int
  | 1 => .int
  | _ => .int
abbrev wsX70 : List Cond := u_ws RX7 TX7 3
theorem nmX7 : ∀ a, a < 3 → ∀ b, b < 3 → a ≠ b → (TX7 a).2.1 ≠ (TX7 b).2.1 := by decide +kernel
theorem tyX7_ok : ∀ k, k < 3 → parseFieldDescriptor (TX7 k).2.2.1 = some (tyX7 k) := by decide +kernel
abbrev cX7_init : ByteArray := prog_18_method_1_code
def yX7_init : MethodName := ⟨RX7, "<init>", "(III)V"⟩
def dkwX7_init_0 : List UInt8 := [42, 27, 28, 29, 183, 0, 3, 177]
abbrev dktX7_init_0 : List UInt8 := dkwX7_init_0 ++ []
theorem dksX7_init_0 : cX7_init.data.toList.drop 0 = dktX7_init_0 := by decide +kernel
theorem dX7_init_0 : decode cX7_init 0 = .ok (.aload_n 0, 1) := dk_42 (dk_at dksX7_init_0 0 rfl rfl)
theorem dX7_init_1 : decode cX7_init 1 = .ok (.iload_n 1, 1) := dk_27 (dk_at dksX7_init_0 1 rfl rfl)
theorem dX7_init_2 : decode cX7_init 2 = .ok (.iload_n 2, 1) := dk_28 (dk_at dksX7_init_0 2 rfl rfl)
theorem dX7_init_3 : decode cX7_init 3 = .ok (.iload_n 3, 1) := dk_29 (dk_at dksX7_init_0 3 rfl rfl)
theorem dX7_init_4 : decode cX7_init 4 = .ok (.invokespecial 3, 3) := dk_183 0 3 (dk_at dksX7_init_0 4 rfl rfl)
theorem dX7_init_7 : decode cX7_init 7 = .ok (.return_, 1) := dk_177 (dk_at dksX7_init_0 7 rfl rfl)
abbrev cX7_kind : ByteArray := prog_18_method_2_code
def yX7_kind : MethodName := ⟨RX7, "kind", "()I"⟩
def dkwX7_kind_0 : List UInt8 := [42, 183, 0, 9, 4, 96, 172]
abbrev dktX7_kind_0 : List UInt8 := dkwX7_kind_0 ++ []
theorem dksX7_kind_0 : cX7_kind.data.toList.drop 0 = dktX7_kind_0 := by decide +kernel
theorem dX7_kind_0 : decode cX7_kind 0 = .ok (.aload_n 0, 1) := dk_42 (dk_at dksX7_kind_0 0 rfl rfl)
theorem dX7_kind_1 : decode cX7_kind 1 = .ok (.invokespecial 9, 3) := dk_183 0 9 (dk_at dksX7_kind_0 1 rfl rfl)
theorem dX7_kind_4 : decode cX7_kind 4 = .ok (.iconst 1, 1) := dk_4 (dk_at dksX7_kind_0 4 rfl rfl)
theorem dX7_kind_5 : decode cX7_kind 5 = .ok (.iadd, 1) := dk_96 (dk_at dksX7_kind_0 5 rfl rfl)
theorem dX7_kind_6 : decode cX7_kind 6 = .ok (.ireturn, 1) := dk_172 (dk_at dksX7_kind_0 6 rfl rfl)
abbrev cX7_name : ByteArray := prog_18_method_3_code
def yX7_name : MethodName := ⟨RX7, "name", "(LNamedPrices$Sees;I)I"⟩
def dkwX7_name_0 : List UInt8 := [43, 28, 185, 0, 13, 2, 0, 172]
abbrev dktX7_name_0 : List UInt8 := dkwX7_name_0 ++ []
theorem dksX7_name_0 : cX7_name.data.toList.drop 0 = dktX7_name_0 := by decide +kernel
theorem dX7_name_0 : decode cX7_name 0 = .ok (.aload_n 1, 1) := dk_43 (dk_at dksX7_name_0 0 rfl rfl)
theorem dX7_name_1 : decode cX7_name 1 = .ok (.iload_n 2, 1) := dk_28 (dk_at dksX7_name_0 1 rfl rfl)
theorem dX7_name_2 : decode cX7_name 2 = .ok (.invokeinterface 13 2, 5) := by decide +kernel
theorem dX7_name_7 : decode cX7_name 7 = .ok (.ireturn, 1) := dk_172 (dk_at dksX7_name_0 7 rfl rfl)
abbrev cX7_names : ByteArray := prog_18_method_4_code
def yX7_names : MethodName := ⟨RX7, "names", "(ILNamedPrices$Trace;)I"⟩
def dkwX7_names_0 : List UInt8 := [44, 16, 20, 182, 0, 19, 42, 27, 44, 183, 0, 25, 8, 96, 172]
abbrev dktX7_names_0 : List UInt8 := dkwX7_names_0 ++ []
theorem dksX7_names_0 : cX7_names.data.toList.drop 0 = dktX7_names_0 := by decide +kernel
theorem dX7_names_0 : decode cX7_names 0 = .ok (.aload_n 2, 1) := dk_44 (dk_at dksX7_names_0 0 rfl rfl)
theorem dX7_names_1 : decode cX7_names 1 = .ok (.bipush 20, 2) := dk_16 20 (dk_at dksX7_names_0 1 rfl rfl)
theorem dX7_names_3 : decode cX7_names 3 = .ok (.invokevirtual 19, 3) := dk_182 0 19 (dk_at dksX7_names_0 3 rfl rfl)
theorem dX7_names_6 : decode cX7_names 6 = .ok (.aload_n 0, 1) := dk_42 (dk_at dksX7_names_0 6 rfl rfl)
theorem dX7_names_7 : decode cX7_names 7 = .ok (.iload_n 1, 1) := dk_27 (dk_at dksX7_names_0 7 rfl rfl)
theorem dX7_names_8 : decode cX7_names 8 = .ok (.aload_n 2, 1) := dk_44 (dk_at dksX7_names_0 8 rfl rfl)
theorem dX7_names_9 : decode cX7_names 9 = .ok (.invokespecial 25, 3) := dk_183 0 25 (dk_at dksX7_names_0 9 rfl rfl)
theorem dX7_names_12 : decode cX7_names 12 = .ok (.iconst 5, 1) := dk_8 (dk_at dksX7_names_0 12 rfl rfl)
theorem dX7_names_13 : decode cX7_names 13 = .ok (.iadd, 1) := dk_96 (dk_at dksX7_names_0 13 rfl rfl)
theorem dX7_names_14 : decode cX7_names 14 = .ok (.ireturn, 1) := dk_172 (dk_at dksX7_names_0 14 rfl rfl)
abbrev cX7_minds : ByteArray := prog_18_method_5_code
def yX7_minds : MethodName := ⟨RX7, "minds", "(ILNamedPrices$Trace;)I"⟩
def dkwX7_minds_0 : List UInt8 := [44, 16, 21, 182, 0, 19, 42, 27, 44, 183, 0, 29, 62, 29, 42, 4, 44, 182, 0, 32, 96, 172]
abbrev dktX7_minds_0 : List UInt8 := dkwX7_minds_0 ++ []
theorem dksX7_minds_0 : cX7_minds.data.toList.drop 0 = dktX7_minds_0 := by decide +kernel
theorem dX7_minds_0 : decode cX7_minds 0 = .ok (.aload_n 2, 1) := dk_44 (dk_at dksX7_minds_0 0 rfl rfl)
theorem dX7_minds_1 : decode cX7_minds 1 = .ok (.bipush 21, 2) := dk_16 21 (dk_at dksX7_minds_0 1 rfl rfl)
theorem dX7_minds_3 : decode cX7_minds 3 = .ok (.invokevirtual 19, 3) := dk_182 0 19 (dk_at dksX7_minds_0 3 rfl rfl)
theorem dX7_minds_6 : decode cX7_minds 6 = .ok (.aload_n 0, 1) := dk_42 (dk_at dksX7_minds_0 6 rfl rfl)
theorem dX7_minds_7 : decode cX7_minds 7 = .ok (.iload_n 1, 1) := dk_27 (dk_at dksX7_minds_0 7 rfl rfl)
theorem dX7_minds_8 : decode cX7_minds 8 = .ok (.aload_n 2, 1) := dk_44 (dk_at dksX7_minds_0 8 rfl rfl)
theorem dX7_minds_9 : decode cX7_minds 9 = .ok (.invokespecial 29, 3) := dk_183 0 29 (dk_at dksX7_minds_0 9 rfl rfl)
theorem dX7_minds_12 : decode cX7_minds 12 = .ok (.istore_n 3, 1) := dk_62 (dk_at dksX7_minds_0 12 rfl rfl)
theorem dX7_minds_13 : decode cX7_minds 13 = .ok (.iload_n 3, 1) := dk_29 (dk_at dksX7_minds_0 13 rfl rfl)
theorem dX7_minds_14 : decode cX7_minds 14 = .ok (.aload_n 0, 1) := dk_42 (dk_at dksX7_minds_0 14 rfl rfl)
theorem dX7_minds_15 : decode cX7_minds 15 = .ok (.iconst 1, 1) := dk_4 (dk_at dksX7_minds_0 15 rfl rfl)
theorem dX7_minds_16 : decode cX7_minds 16 = .ok (.aload_n 2, 1) := dk_44 (dk_at dksX7_minds_0 16 rfl rfl)
theorem dX7_minds_17 : decode cX7_minds 17 = .ok (.invokevirtual 32, 3) := dk_182 0 32 (dk_at dksX7_minds_0 17 rfl rfl)
theorem dX7_minds_20 : decode cX7_minds 20 = .ok (.iadd, 1) := dk_96 (dk_at dksX7_minds_0 20 rfl rfl)
theorem dX7_minds_21 : decode cX7_minds 21 = .ok (.ireturn, 1) := dk_172 (dk_at dksX7_minds_0 21 rfl rfl)
theorem q97 : (Jvm.Cond.initialized "NamedPrices$True") ∈ lw_all := lw_g (lw_at lw_m1 8 rfl) rfl
theorem q337 : (Jvm.Cond.instantiable "NamedPrices$True" (3 : Nat)) ∈ lw_all := lw_g (lw_at lw_m2 8 rfl) rfl
theorem q339 : (Jvm.Cond.instanceMethod ({ cls := "NamedPrices$True", name := "<init>", desc := "(III)V" } : Jvm.MethodName)) ∈ lw_all := lw_g (lw_at lw_m2 10 rfl) rfl
theorem q340 : (Jvm.Cond.code ({ cls := "NamedPrices$True", name := "<init>", desc := "(III)V" } : Jvm.MethodName) prog_18_method_1_code (4 : Nat) (Option.none : Option Jvm.ClassFile.FieldType)) ∈ lw_all := lw_g (lw_at lw_m2 11 rfl) rfl
theorem q341 : (Jvm.Cond.methodLink "NamedPrices$True" (3 : Nat) ({ cls := "NamedPrices$Namer", name := "<init>", desc := "(III)V" } : Jvm.MethodName)) ∈ lw_all := lw_g (lw_at lw_m2 12 rfl) rfl
theorem q354 : (Jvm.Cond.laysFinal "NamedPrices$True" "NamedPrices$Namer" "number" "I") ∈ lw_all := lw_g (lw_at lw_m2 25 rfl) rfl
theorem q356 : (Jvm.Cond.laysFinal "NamedPrices$True" "NamedPrices$Namer" "p" "I") ∈ lw_all := lw_g (lw_at lw_m2 27 rfl) rfl
theorem q358 : (Jvm.Cond.laysFinal "NamedPrices$True" "NamedPrices$Namer" "q" "I") ∈ lw_all := lw_g (lw_at lw_m2 29 rfl) rfl
theorem q360 : (Jvm.Cond.superclass "NamedPrices$True" "NamedPrices$Namer") ∈ lw_all := lw_g (lw_at lw_m2 31 rfl) rfl
theorem q439 : (Jvm.Cond.instanceMethod ({ cls := "NamedPrices$True", name := "kind", desc := "()I" } : Jvm.MethodName)) ∈ lw_all := lw_g (lw_at lw_m2 110 rfl) rfl
theorem q440 : (Jvm.Cond.code ({ cls := "NamedPrices$True", name := "kind", desc := "()I" } : Jvm.MethodName) prog_18_method_2_code (1 : Nat) (Option.some Jvm.ClassFile.FieldType.int)) ∈ lw_all := lw_g (lw_at lw_m2 111 rfl) rfl
theorem q441 : (Jvm.Cond.methodLink "NamedPrices$True" (9 : Nat) ({ cls := "NamedPrices$Namer", name := "kind", desc := "()I" } : Jvm.MethodName)) ∈ lw_all := lw_g (lw_at lw_m2 112 rfl) rfl
theorem q459 : (Jvm.Cond.selects "NamedPrices$True" ({ cls := "NamedPrices$Namer", name := "kind", desc := "()I" } : Jvm.MethodName) ({ cls := "NamedPrices$True", name := "kind", desc := "()I" } : Jvm.MethodName)) ∈ lw_all := lw_g (lw_at lw_m2 130 rfl) rfl
theorem q881 : (Jvm.Cond.instanceMethod ({ cls := "NamedPrices$True", name := "name", desc := "(LNamedPrices$Sees;I)I" } : Jvm.MethodName)) ∈ lw_all := lw_g (lw_at lw_m4 72 rfl) rfl
theorem q882 : (Jvm.Cond.code ({ cls := "NamedPrices$True", name := "name", desc := "(LNamedPrices$Sees;I)I" } : Jvm.MethodName) prog_18_method_3_code (3 : Nat) (Option.some Jvm.ClassFile.FieldType.int)) ∈ lw_all := lw_g (lw_at lw_m4 73 rfl) rfl
theorem q883 : (Jvm.Cond.interfaceEntry "NamedPrices$True" (13 : Nat)) ∈ lw_tbl := lw_at lw_m4 74 rfl
theorem q884 : (Jvm.Cond.methodLink "NamedPrices$True" (13 : Nat) ({ cls := "NamedPrices$Sees", name := "value", desc := "(I)I" } : Jvm.MethodName)) ∈ lw_all := lw_g (lw_at lw_m4 75 rfl) rfl
theorem q961 : (Jvm.Cond.castable "NamedPrices$True" "NamedPrices$Names") ∈ lw_tbl := lw_at lw_m4 152 rfl
theorem q962 : (Jvm.Cond.selects "NamedPrices$True" ({ cls := "NamedPrices$Names", name := "name", desc := "(LNamedPrices$Sees;I)I" } : Jvm.MethodName) ({ cls := "NamedPrices$True", name := "name", desc := "(LNamedPrices$Sees;I)I" } : Jvm.MethodName)) ∈ lw_all := lw_g (lw_at lw_m4 153 rfl) rfl
theorem q963 : (Jvm.Cond.unhidden "NamedPrices$True" "name" "(LNamedPrices$Sees;I)I") ∈ lw_tbl := lw_at lw_m4 154 rfl
theorem q964 : (Jvm.Cond.publicMethod ({ cls := "NamedPrices$True", name := "name", desc := "(LNamedPrices$Sees;I)I" } : Jvm.MethodName)) ∈ lw_tbl := lw_at lw_m4 155 rfl
theorem q1174 : (Jvm.Cond.instanceMethod ({ cls := "NamedPrices$True", name := "names", desc := "(ILNamedPrices$Trace;)I" } : Jvm.MethodName)) ∈ lw_all := lw_g (lw_at lw_m5 125 rfl) rfl
theorem q1175 : (Jvm.Cond.code ({ cls := "NamedPrices$True", name := "names", desc := "(ILNamedPrices$Trace;)I" } : Jvm.MethodName) prog_18_method_4_code (3 : Nat) (Option.some Jvm.ClassFile.FieldType.int)) ∈ lw_all := lw_g (lw_at lw_m5 126 rfl) rfl
theorem q1176 : (Jvm.Cond.methodLink "NamedPrices$True" (19 : Nat) ({ cls := "NamedPrices$Trace", name := "ran", desc := "(I)V" } : Jvm.MethodName)) ∈ lw_all := lw_g (lw_at lw_m5 127 rfl) rfl
theorem q1177 : (Jvm.Cond.methodLink "NamedPrices$True" (25 : Nat) ({ cls := "NamedPrices$Namer", name := "names", desc := "(ILNamedPrices$Trace;)I" } : Jvm.MethodName)) ∈ lw_all := lw_g (lw_at lw_m5 128 rfl) rfl
theorem q1191 : (Jvm.Cond.selects "NamedPrices$True" ({ cls := "NamedPrices$Namer", name := "names", desc := "(ILNamedPrices$Trace;)I" } : Jvm.MethodName) ({ cls := "NamedPrices$True", name := "names", desc := "(ILNamedPrices$Trace;)I" } : Jvm.MethodName)) ∈ lw_all := lw_g (lw_at lw_m5 142 rfl) rfl
theorem q1212 : (Jvm.Cond.publicMethod ({ cls := "NamedPrices$True", name := "names", desc := "(ILNamedPrices$Trace;)I" } : Jvm.MethodName)) ∈ lw_tbl := lw_at lw_m5 163 rfl
theorem q1228 : (Jvm.Cond.castable "NamedPrices$True" "NamedPrices$Buys") ∈ lw_tbl := lw_at lw_m5 179 rfl
theorem q1229 : (Jvm.Cond.selects "NamedPrices$True" ({ cls := "NamedPrices$Buys", name := "names", desc := "(ILNamedPrices$Trace;)I" } : Jvm.MethodName) ({ cls := "NamedPrices$True", name := "names", desc := "(ILNamedPrices$Trace;)I" } : Jvm.MethodName)) ∈ lw_all := lw_g (lw_at lw_m5 180 rfl) rfl
theorem q1230 : (Jvm.Cond.unhidden "NamedPrices$True" "names" "(ILNamedPrices$Trace;)I") ∈ lw_tbl := lw_at lw_m5 181 rfl
theorem q1237 : (Jvm.Cond.unhidden "NamedPrices$True" "buys" "(ILNamedPrices$Trace;)I") ∈ lw_tbl := lw_at lw_m5 188 rfl
theorem q1249 : (Jvm.Cond.sameMethod "NamedPrices$True" "NamedPrices$Namer" "pays" "(ILNamedPrices$Trace;)I") ∈ lw_all := lw_g (lw_at lw_m5 200 rfl) rfl
theorem q1258 : (Jvm.Cond.selects "NamedPrices$True" ({ cls := "NamedPrices$Namer", name := "pays", desc := "(ILNamedPrices$Trace;)I" } : Jvm.MethodName) ({ cls := "NamedPrices$Namer", name := "pays", desc := "(ILNamedPrices$Trace;)I" } : Jvm.MethodName)) ∈ lw_all := lw_g (lw_at lw_m5 209 rfl) rfl
theorem q1267 : (Jvm.Cond.instanceMethod ({ cls := "NamedPrices$True", name := "minds", desc := "(ILNamedPrices$Trace;)I" } : Jvm.MethodName)) ∈ lw_all := lw_g (lw_at lw_m5 218 rfl) rfl
theorem q1268 : (Jvm.Cond.code ({ cls := "NamedPrices$True", name := "minds", desc := "(ILNamedPrices$Trace;)I" } : Jvm.MethodName) prog_18_method_5_code (4 : Nat) (Option.some Jvm.ClassFile.FieldType.int)) ∈ lw_all := lw_g (lw_at lw_m5 219 rfl) rfl
theorem q1269 : (Jvm.Cond.methodLink "NamedPrices$True" (29 : Nat) ({ cls := "NamedPrices$Namer", name := "minds", desc := "(ILNamedPrices$Trace;)I" } : Jvm.MethodName)) ∈ lw_all := lw_g (lw_at lw_m5 220 rfl) rfl
theorem q1278 : (Jvm.Cond.selects "NamedPrices$True" ({ cls := "NamedPrices$Namer", name := "minds", desc := "(ILNamedPrices$Trace;)I" } : Jvm.MethodName) ({ cls := "NamedPrices$True", name := "minds", desc := "(ILNamedPrices$Trace;)I" } : Jvm.MethodName)) ∈ lw_all := lw_g (lw_at lw_m5 229 rfl) rfl
theorem q1857 : (Jvm.Cond.sameMethod "NamedPrices$True" "NamedPrices$True" "kind" "()I") ∈ lw_all := lw_g (lw_at lw_m8 88 rfl) rfl
theorem q1859 : (Jvm.Cond.sameMethod "NamedPrices$True" "NamedPrices$True" "name" "(LNamedPrices$Sees;I)I") ∈ lw_all := lw_g (lw_at lw_m8 90 rfl) rfl
theorem q1860 : (Jvm.Cond.sameMethod "NamedPrices$True" "NamedPrices$True" "names" "(ILNamedPrices$Trace;)I") ∈ lw_all := lw_g (lw_at lw_m8 91 rfl) rfl
theorem q1861 : (Jvm.Cond.sameMethod "NamedPrices$True" "NamedPrices$True" "minds" "(ILNamedPrices$Trace;)I") ∈ lw_all := lw_g (lw_at lw_m8 92 rfl) rfl
theorem q1869 : (Jvm.Cond.castable "NamedPrices$True" "NamedPrices$Namer") ∈ lw_tbl := lw_at lw_m8 100 rfl
theorem in_X7 : ∀ w ∈ wsX70, w ∈ lw_all := lw_in wsX70 [354, 356, 358] (by decide +kernel) (by decide +kernel)
/-! NamedPrices$High -/
set_option maxRecDepth 100000
def RX8 : String := "NamedPrices$High"
def TX8 : u_T := fun k => match k with
  | 0 => ("NamedPrices$Namer", "number", "I", true)
  | 1 => ("NamedPrices$Namer", "p", "I", true)
  | _ => ("NamedPrices$Namer", "q", "I", true)
def tyX8 : Nat → FieldType := fun k => match k with
  | 0 => .int
  | 1 => .int
  | _ => .int
abbrev wsX80 : List Cond := u_ws RX8 TX8 3
theorem nmX8 : ∀ a, a < 3 → ∀ b, b < 3 → a ≠ b → (TX8 a).2.1 ≠ (TX8 b).2.1 := by decide +kernel
theorem tyX8_ok : ∀ k, k < 3 → parseFieldDescriptor (TX8 k).2.2.1 = some (tyX8 k) := by decide +kernel
abbrev cX8_init : ByteArray := prog_6_method_1_code
def yX8_init : MethodName := ⟨RX8, "<init>", "(III)V"⟩
def dkwX8_init_0 : List UInt8 := [42, 27, 28, 29, 183, 0, 1, 177]
abbrev dktX8_init_0 : List UInt8 := dkwX8_init_0 ++ []
theorem dksX8_init_0 : cX8_init.data.toList.drop 0 = dktX8_init_0 := by decide +kernel
theorem dX8_init_0 : decode cX8_init 0 = .ok (.aload_n 0, 1) := dk_42 (dk_at dksX8_init_0 0 rfl rfl)
theorem dX8_init_1 : decode cX8_init 1 = .ok (.iload_n 1, 1) := dk_27 (dk_at dksX8_init_0 1 rfl rfl)
theorem dX8_init_2 : decode cX8_init 2 = .ok (.iload_n 2, 1) := dk_28 (dk_at dksX8_init_0 2 rfl rfl)
theorem dX8_init_3 : decode cX8_init 3 = .ok (.iload_n 3, 1) := dk_29 (dk_at dksX8_init_0 3 rfl rfl)
theorem dX8_init_4 : decode cX8_init 4 = .ok (.invokespecial 1, 3) := dk_183 0 1 (dk_at dksX8_init_0 4 rfl rfl)
theorem dX8_init_7 : decode cX8_init 7 = .ok (.return_, 1) := dk_177 (dk_at dksX8_init_0 7 rfl rfl)
abbrev cX8_kind : ByteArray := prog_6_method_2_code
def yX8_kind : MethodName := ⟨RX8, "kind", "()I"⟩
def dkwX8_kind_0 : List UInt8 := [42, 183, 0, 7, 4, 96, 172]
abbrev dktX8_kind_0 : List UInt8 := dkwX8_kind_0 ++ []
theorem dksX8_kind_0 : cX8_kind.data.toList.drop 0 = dktX8_kind_0 := by decide +kernel
theorem dX8_kind_0 : decode cX8_kind 0 = .ok (.aload_n 0, 1) := dk_42 (dk_at dksX8_kind_0 0 rfl rfl)
theorem dX8_kind_1 : decode cX8_kind 1 = .ok (.invokespecial 7, 3) := dk_183 0 7 (dk_at dksX8_kind_0 1 rfl rfl)
theorem dX8_kind_4 : decode cX8_kind 4 = .ok (.iconst 1, 1) := dk_4 (dk_at dksX8_kind_0 4 rfl rfl)
theorem dX8_kind_5 : decode cX8_kind 5 = .ok (.iadd, 1) := dk_96 (dk_at dksX8_kind_0 5 rfl rfl)
theorem dX8_kind_6 : decode cX8_kind 6 = .ok (.ireturn, 1) := dk_172 (dk_at dksX8_kind_0 6 rfl rfl)
abbrev cX8_name : ByteArray := prog_6_method_3_code
def yX8_name : MethodName := ⟨RX8, "name", "(LNamedPrices$Sees;I)I"⟩
def dkwX8_name_0 : List UInt8 := [5, 42, 43, 28, 183, 0, 11, 104, 172]
abbrev dktX8_name_0 : List UInt8 := dkwX8_name_0 ++ []
theorem dksX8_name_0 : cX8_name.data.toList.drop 0 = dktX8_name_0 := by decide +kernel
theorem dX8_name_0 : decode cX8_name 0 = .ok (.iconst 2, 1) := dk_5 (dk_at dksX8_name_0 0 rfl rfl)
theorem dX8_name_1 : decode cX8_name 1 = .ok (.aload_n 0, 1) := dk_42 (dk_at dksX8_name_0 1 rfl rfl)
theorem dX8_name_2 : decode cX8_name 2 = .ok (.aload_n 1, 1) := dk_43 (dk_at dksX8_name_0 2 rfl rfl)
theorem dX8_name_3 : decode cX8_name 3 = .ok (.iload_n 2, 1) := dk_28 (dk_at dksX8_name_0 3 rfl rfl)
theorem dX8_name_4 : decode cX8_name 4 = .ok (.invokespecial 11, 3) := dk_183 0 11 (dk_at dksX8_name_0 4 rfl rfl)
theorem dX8_name_7 : decode cX8_name 7 = .ok (.imul, 1) := dk_104 (dk_at dksX8_name_0 7 rfl rfl)
theorem dX8_name_8 : decode cX8_name 8 = .ok (.ireturn, 1) := dk_172 (dk_at dksX8_name_0 8 rfl rfl)
abbrev cX8_buys : ByteArray := prog_6_method_4_code
def yX8_buys : MethodName := ⟨RX8, "buys", "(ILNamedPrices$Trace;)I"⟩
def dkwX8_buys_0 : List UInt8 := [44, 16, 30, 182, 0, 15, 3, 42, 27, 44, 183, 0, 21, 100, 172]
abbrev dktX8_buys_0 : List UInt8 := dkwX8_buys_0 ++ []
theorem dksX8_buys_0 : cX8_buys.data.toList.drop 0 = dktX8_buys_0 := by decide +kernel
theorem dX8_buys_0 : decode cX8_buys 0 = .ok (.aload_n 2, 1) := dk_44 (dk_at dksX8_buys_0 0 rfl rfl)
theorem dX8_buys_1 : decode cX8_buys 1 = .ok (.bipush 30, 2) := dk_16 30 (dk_at dksX8_buys_0 1 rfl rfl)
theorem dX8_buys_3 : decode cX8_buys 3 = .ok (.invokevirtual 15, 3) := dk_182 0 15 (dk_at dksX8_buys_0 3 rfl rfl)
theorem dX8_buys_6 : decode cX8_buys 6 = .ok (.iconst 0, 1) := dk_3 (dk_at dksX8_buys_0 6 rfl rfl)
theorem dX8_buys_7 : decode cX8_buys 7 = .ok (.aload_n 0, 1) := dk_42 (dk_at dksX8_buys_0 7 rfl rfl)
theorem dX8_buys_8 : decode cX8_buys 8 = .ok (.iload_n 1, 1) := dk_27 (dk_at dksX8_buys_0 8 rfl rfl)
theorem dX8_buys_9 : decode cX8_buys 9 = .ok (.aload_n 2, 1) := dk_44 (dk_at dksX8_buys_0 9 rfl rfl)
theorem dX8_buys_10 : decode cX8_buys 10 = .ok (.invokespecial 21, 3) := dk_183 0 21 (dk_at dksX8_buys_0 10 rfl rfl)
theorem dX8_buys_13 : decode cX8_buys 13 = .ok (.isub, 1) := dk_100 (dk_at dksX8_buys_0 13 rfl rfl)
theorem dX8_buys_14 : decode cX8_buys 14 = .ok (.ireturn, 1) := dk_172 (dk_at dksX8_buys_0 14 rfl rfl)
theorem q98 : (Jvm.Cond.initialized "NamedPrices$High") ∈ lw_all := lw_g (lw_at lw_m1 9 rfl) rfl
theorem q362 : (Jvm.Cond.instantiable "NamedPrices$High" (3 : Nat)) ∈ lw_all := lw_g (lw_at lw_m2 33 rfl) rfl
theorem q364 : (Jvm.Cond.instanceMethod ({ cls := "NamedPrices$High", name := "<init>", desc := "(III)V" } : Jvm.MethodName)) ∈ lw_all := lw_g (lw_at lw_m2 35 rfl) rfl
theorem q365 : (Jvm.Cond.code ({ cls := "NamedPrices$High", name := "<init>", desc := "(III)V" } : Jvm.MethodName) prog_6_method_1_code (4 : Nat) (Option.none : Option Jvm.ClassFile.FieldType)) ∈ lw_all := lw_g (lw_at lw_m2 36 rfl) rfl
theorem q366 : (Jvm.Cond.methodLink "NamedPrices$High" (1 : Nat) ({ cls := "NamedPrices$True", name := "<init>", desc := "(III)V" } : Jvm.MethodName)) ∈ lw_all := lw_g (lw_at lw_m2 37 rfl) rfl
theorem q367 : (Jvm.Cond.laysFinal "NamedPrices$High" "NamedPrices$Namer" "number" "I") ∈ lw_all := lw_g (lw_at lw_m2 38 rfl) rfl
theorem q368 : (Jvm.Cond.laysFinal "NamedPrices$High" "NamedPrices$Namer" "p" "I") ∈ lw_all := lw_g (lw_at lw_m2 39 rfl) rfl
theorem q369 : (Jvm.Cond.laysFinal "NamedPrices$High" "NamedPrices$Namer" "q" "I") ∈ lw_all := lw_g (lw_at lw_m2 40 rfl) rfl
theorem q370 : (Jvm.Cond.superclass "NamedPrices$High" "NamedPrices$True") ∈ lw_all := lw_g (lw_at lw_m2 41 rfl) rfl
theorem q443 : (Jvm.Cond.selects "NamedPrices$High" ({ cls := "NamedPrices$Namer", name := "kind", desc := "()I" } : Jvm.MethodName) ({ cls := "NamedPrices$High", name := "kind", desc := "()I" } : Jvm.MethodName)) ∈ lw_all := lw_g (lw_at lw_m2 114 rfl) rfl
theorem q444 : (Jvm.Cond.instanceMethod ({ cls := "NamedPrices$High", name := "kind", desc := "()I" } : Jvm.MethodName)) ∈ lw_all := lw_g (lw_at lw_m2 115 rfl) rfl
theorem q445 : (Jvm.Cond.code ({ cls := "NamedPrices$High", name := "kind", desc := "()I" } : Jvm.MethodName) prog_6_method_2_code (1 : Nat) (Option.some Jvm.ClassFile.FieldType.int)) ∈ lw_all := lw_g (lw_at lw_m2 116 rfl) rfl
theorem q446 : (Jvm.Cond.methodLink "NamedPrices$High" (7 : Nat) ({ cls := "NamedPrices$True", name := "kind", desc := "()I" } : Jvm.MethodName)) ∈ lw_all := lw_g (lw_at lw_m2 117 rfl) rfl
theorem q874 : (Jvm.Cond.castable "NamedPrices$High" "NamedPrices$Names") ∈ lw_tbl := lw_at lw_m4 65 rfl
theorem q875 : (Jvm.Cond.selects "NamedPrices$High" ({ cls := "NamedPrices$Names", name := "name", desc := "(LNamedPrices$Sees;I)I" } : Jvm.MethodName) ({ cls := "NamedPrices$High", name := "name", desc := "(LNamedPrices$Sees;I)I" } : Jvm.MethodName)) ∈ lw_all := lw_g (lw_at lw_m4 66 rfl) rfl
theorem q876 : (Jvm.Cond.unhidden "NamedPrices$High" "name" "(LNamedPrices$Sees;I)I") ∈ lw_tbl := lw_at lw_m4 67 rfl
theorem q877 : (Jvm.Cond.instanceMethod ({ cls := "NamedPrices$High", name := "name", desc := "(LNamedPrices$Sees;I)I" } : Jvm.MethodName)) ∈ lw_all := lw_g (lw_at lw_m4 68 rfl) rfl
theorem q878 : (Jvm.Cond.publicMethod ({ cls := "NamedPrices$High", name := "name", desc := "(LNamedPrices$Sees;I)I" } : Jvm.MethodName)) ∈ lw_tbl := lw_at lw_m4 69 rfl
theorem q879 : (Jvm.Cond.code ({ cls := "NamedPrices$High", name := "name", desc := "(LNamedPrices$Sees;I)I" } : Jvm.MethodName) prog_6_method_3_code (3 : Nat) (Option.some Jvm.ClassFile.FieldType.int)) ∈ lw_all := lw_g (lw_at lw_m4 70 rfl) rfl
theorem q880 : (Jvm.Cond.methodLink "NamedPrices$High" (11 : Nat) ({ cls := "NamedPrices$True", name := "name", desc := "(LNamedPrices$Sees;I)I" } : Jvm.MethodName)) ∈ lw_all := lw_g (lw_at lw_m4 71 rfl) rfl
theorem q1180 : (Jvm.Cond.selects "NamedPrices$High" ({ cls := "NamedPrices$Namer", name := "names", desc := "(ILNamedPrices$Trace;)I" } : Jvm.MethodName) ({ cls := "NamedPrices$True", name := "names", desc := "(ILNamedPrices$Trace;)I" } : Jvm.MethodName)) ∈ lw_all := lw_g (lw_at lw_m5 131 rfl) rfl
theorem q1194 : (Jvm.Cond.selects "NamedPrices$High" ({ cls := "NamedPrices$Buys", name := "buys", desc := "(ILNamedPrices$Trace;)I" } : Jvm.MethodName) ({ cls := "NamedPrices$High", name := "buys", desc := "(ILNamedPrices$Trace;)I" } : Jvm.MethodName)) ∈ lw_all := lw_g (lw_at lw_m5 145 rfl) rfl
theorem q1195 : (Jvm.Cond.instanceMethod ({ cls := "NamedPrices$High", name := "buys", desc := "(ILNamedPrices$Trace;)I" } : Jvm.MethodName)) ∈ lw_all := lw_g (lw_at lw_m5 146 rfl) rfl
theorem q1196 : (Jvm.Cond.code ({ cls := "NamedPrices$High", name := "buys", desc := "(ILNamedPrices$Trace;)I" } : Jvm.MethodName) prog_6_method_4_code (3 : Nat) (Option.some Jvm.ClassFile.FieldType.int)) ∈ lw_all := lw_g (lw_at lw_m5 147 rfl) rfl
theorem q1197 : (Jvm.Cond.methodLink "NamedPrices$High" (15 : Nat) ({ cls := "NamedPrices$Trace", name := "ran", desc := "(I)V" } : Jvm.MethodName)) ∈ lw_all := lw_g (lw_at lw_m5 148 rfl) rfl
theorem q1209 : (Jvm.Cond.castable "NamedPrices$High" "NamedPrices$Buys") ∈ lw_tbl := lw_at lw_m5 160 rfl
theorem q1210 : (Jvm.Cond.selects "NamedPrices$High" ({ cls := "NamedPrices$Buys", name := "names", desc := "(ILNamedPrices$Trace;)I" } : Jvm.MethodName) ({ cls := "NamedPrices$True", name := "names", desc := "(ILNamedPrices$Trace;)I" } : Jvm.MethodName)) ∈ lw_all := lw_g (lw_at lw_m5 161 rfl) rfl
theorem q1211 : (Jvm.Cond.unhidden "NamedPrices$High" "names" "(ILNamedPrices$Trace;)I") ∈ lw_tbl := lw_at lw_m5 162 rfl
theorem q1244 : (Jvm.Cond.selects "NamedPrices$High" ({ cls := "NamedPrices$Namer", name := "pays", desc := "(ILNamedPrices$Trace;)I" } : Jvm.MethodName) ({ cls := "NamedPrices$Namer", name := "pays", desc := "(ILNamedPrices$Trace;)I" } : Jvm.MethodName)) ∈ lw_all := lw_g (lw_at lw_m5 195 rfl) rfl
theorem q1274 : (Jvm.Cond.selects "NamedPrices$High" ({ cls := "NamedPrices$Namer", name := "minds", desc := "(ILNamedPrices$Trace;)I" } : Jvm.MethodName) ({ cls := "NamedPrices$True", name := "minds", desc := "(ILNamedPrices$Trace;)I" } : Jvm.MethodName)) ∈ lw_all := lw_g (lw_at lw_m5 225 rfl) rfl
theorem q1865 : (Jvm.Cond.castable "NamedPrices$High" "NamedPrices$Namer") ∈ lw_tbl := lw_at lw_m8 96 rfl
theorem q1871 : (Jvm.Cond.castable "NamedPrices$High" "NamedPrices$True") ∈ lw_tbl := lw_at lw_m8 102 rfl
theorem in_X8 : ∀ w ∈ wsX80, w ∈ lw_all := lw_in wsX80 [367, 368, 369] (by decide +kernel) (by decide +kernel)
/-! NamedPrices$Lower -/
set_option maxRecDepth 100000
def RX9 : String := "NamedPrices$Lower"
def TX9 : u_T := fun k => match k with
  | 0 => ("NamedPrices$Namer", "number", "I", true)
  | 1 => ("NamedPrices$Namer", "p", "I", true)
  | _ => ("NamedPrices$Namer", "q", "I", true)
def tyX9 : Nat → FieldType := fun k => match k with
  | 0 => .int
  | 1 => .int
  | _ => .int
abbrev wsX90 : List Cond := u_ws RX9 TX9 3
theorem nmX9 : ∀ a, a < 3 → ∀ b, b < 3 → a ≠ b → (TX9 a).2.1 ≠ (TX9 b).2.1 := by decide +kernel
theorem tyX9_ok : ∀ k, k < 3 → parseFieldDescriptor (TX9 k).2.2.1 = some (tyX9 k) := by decide +kernel
abbrev cX9_init : ByteArray := prog_8_method_1_code
def yX9_init : MethodName := ⟨RX9, "<init>", "(III)V"⟩
def dkwX9_init_0 : List UInt8 := [42, 27, 28, 29, 183, 0, 1, 177]
abbrev dktX9_init_0 : List UInt8 := dkwX9_init_0 ++ []
theorem dksX9_init_0 : cX9_init.data.toList.drop 0 = dktX9_init_0 := by decide +kernel
theorem dX9_init_0 : decode cX9_init 0 = .ok (.aload_n 0, 1) := dk_42 (dk_at dksX9_init_0 0 rfl rfl)
theorem dX9_init_1 : decode cX9_init 1 = .ok (.iload_n 1, 1) := dk_27 (dk_at dksX9_init_0 1 rfl rfl)
theorem dX9_init_2 : decode cX9_init 2 = .ok (.iload_n 2, 1) := dk_28 (dk_at dksX9_init_0 2 rfl rfl)
theorem dX9_init_3 : decode cX9_init 3 = .ok (.iload_n 3, 1) := dk_29 (dk_at dksX9_init_0 3 rfl rfl)
theorem dX9_init_4 : decode cX9_init 4 = .ok (.invokespecial 1, 3) := dk_183 0 1 (dk_at dksX9_init_0 4 rfl rfl)
theorem dX9_init_7 : decode cX9_init 7 = .ok (.return_, 1) := dk_177 (dk_at dksX9_init_0 7 rfl rfl)
abbrev cX9_kind : ByteArray := prog_8_method_2_code
def yX9_kind : MethodName := ⟨RX9, "kind", "()I"⟩
def dkwX9_kind_0 : List UInt8 := [42, 183, 0, 7, 5, 96, 172]
abbrev dktX9_kind_0 : List UInt8 := dkwX9_kind_0 ++ []
theorem dksX9_kind_0 : cX9_kind.data.toList.drop 0 = dktX9_kind_0 := by decide +kernel
theorem dX9_kind_0 : decode cX9_kind 0 = .ok (.aload_n 0, 1) := dk_42 (dk_at dksX9_kind_0 0 rfl rfl)
theorem dX9_kind_1 : decode cX9_kind 1 = .ok (.invokespecial 7, 3) := dk_183 0 7 (dk_at dksX9_kind_0 1 rfl rfl)
theorem dX9_kind_4 : decode cX9_kind 4 = .ok (.iconst 2, 1) := dk_5 (dk_at dksX9_kind_0 4 rfl rfl)
theorem dX9_kind_5 : decode cX9_kind 5 = .ok (.iadd, 1) := dk_96 (dk_at dksX9_kind_0 5 rfl rfl)
theorem dX9_kind_6 : decode cX9_kind 6 = .ok (.ireturn, 1) := dk_172 (dk_at dksX9_kind_0 6 rfl rfl)
abbrev cX9_name : ByteArray := prog_8_method_3_code
def yX9_name : MethodName := ⟨RX9, "name", "(LNamedPrices$Sees;I)I"⟩
def dkwX9_name_0 : List UInt8 := [42, 43, 28, 183, 0, 11, 5, 108, 172]
abbrev dktX9_name_0 : List UInt8 := dkwX9_name_0 ++ []
theorem dksX9_name_0 : cX9_name.data.toList.drop 0 = dktX9_name_0 := by decide +kernel
theorem dX9_name_0 : decode cX9_name 0 = .ok (.aload_n 0, 1) := dk_42 (dk_at dksX9_name_0 0 rfl rfl)
theorem dX9_name_1 : decode cX9_name 1 = .ok (.aload_n 1, 1) := dk_43 (dk_at dksX9_name_0 1 rfl rfl)
theorem dX9_name_2 : decode cX9_name 2 = .ok (.iload_n 2, 1) := dk_28 (dk_at dksX9_name_0 2 rfl rfl)
theorem dX9_name_3 : decode cX9_name 3 = .ok (.invokespecial 11, 3) := dk_183 0 11 (dk_at dksX9_name_0 3 rfl rfl)
theorem dX9_name_6 : decode cX9_name 6 = .ok (.iconst 2, 1) := dk_5 (dk_at dksX9_name_0 6 rfl rfl)
theorem dX9_name_7 : decode cX9_name 7 = .ok (.idiv, 1) := dk_108 (dk_at dksX9_name_0 7 rfl rfl)
theorem dX9_name_8 : decode cX9_name 8 = .ok (.ireturn, 1) := dk_172 (dk_at dksX9_name_0 8 rfl rfl)
abbrev cX9_names : ByteArray := prog_8_method_4_code
def yX9_names : MethodName := ⟨RX9, "names", "(ILNamedPrices$Trace;)I"⟩
def dkwX9_names_0 : List UInt8 := [44, 16, 40, 182, 0, 15, 42, 27, 5, 108, 44, 183, 0, 21, 172]
abbrev dktX9_names_0 : List UInt8 := dkwX9_names_0 ++ []
theorem dksX9_names_0 : cX9_names.data.toList.drop 0 = dktX9_names_0 := by decide +kernel
theorem dX9_names_0 : decode cX9_names 0 = .ok (.aload_n 2, 1) := dk_44 (dk_at dksX9_names_0 0 rfl rfl)
theorem dX9_names_1 : decode cX9_names 1 = .ok (.bipush 40, 2) := dk_16 40 (dk_at dksX9_names_0 1 rfl rfl)
theorem dX9_names_3 : decode cX9_names 3 = .ok (.invokevirtual 15, 3) := dk_182 0 15 (dk_at dksX9_names_0 3 rfl rfl)
theorem dX9_names_6 : decode cX9_names 6 = .ok (.aload_n 0, 1) := dk_42 (dk_at dksX9_names_0 6 rfl rfl)
theorem dX9_names_7 : decode cX9_names 7 = .ok (.iload_n 1, 1) := dk_27 (dk_at dksX9_names_0 7 rfl rfl)
theorem dX9_names_8 : decode cX9_names 8 = .ok (.iconst 2, 1) := dk_5 (dk_at dksX9_names_0 8 rfl rfl)
theorem dX9_names_9 : decode cX9_names 9 = .ok (.idiv, 1) := dk_108 (dk_at dksX9_names_0 9 rfl rfl)
theorem dX9_names_10 : decode cX9_names 10 = .ok (.aload_n 2, 1) := dk_44 (dk_at dksX9_names_0 10 rfl rfl)
theorem dX9_names_11 : decode cX9_names 11 = .ok (.invokespecial 21, 3) := dk_183 0 21 (dk_at dksX9_names_0 11 rfl rfl)
theorem dX9_names_14 : decode cX9_names 14 = .ok (.ireturn, 1) := dk_172 (dk_at dksX9_names_0 14 rfl rfl)
abbrev cX9_pays : ByteArray := prog_8_method_5_code
def yX9_pays : MethodName := ⟨RX9, "pays", "(ILNamedPrices$Trace;)I"⟩
def dkwX9_pays_0 : List UInt8 := [44, 16, 41, 182, 0, 15, 42, 27, 44, 183, 0, 25, 42, 180, 0, 28, 130, 172]
abbrev dktX9_pays_0 : List UInt8 := dkwX9_pays_0 ++ []
theorem dksX9_pays_0 : cX9_pays.data.toList.drop 0 = dktX9_pays_0 := by decide +kernel
theorem dX9_pays_0 : decode cX9_pays 0 = .ok (.aload_n 2, 1) := dk_44 (dk_at dksX9_pays_0 0 rfl rfl)
theorem dX9_pays_1 : decode cX9_pays 1 = .ok (.bipush 41, 2) := dk_16 41 (dk_at dksX9_pays_0 1 rfl rfl)
theorem dX9_pays_3 : decode cX9_pays 3 = .ok (.invokevirtual 15, 3) := dk_182 0 15 (dk_at dksX9_pays_0 3 rfl rfl)
theorem dX9_pays_6 : decode cX9_pays 6 = .ok (.aload_n 0, 1) := dk_42 (dk_at dksX9_pays_0 6 rfl rfl)
theorem dX9_pays_7 : decode cX9_pays 7 = .ok (.iload_n 1, 1) := dk_27 (dk_at dksX9_pays_0 7 rfl rfl)
theorem dX9_pays_8 : decode cX9_pays 8 = .ok (.aload_n 2, 1) := dk_44 (dk_at dksX9_pays_0 8 rfl rfl)
theorem dX9_pays_9 : decode cX9_pays 9 = .ok (.invokespecial 25, 3) := dk_183 0 25 (dk_at dksX9_pays_0 9 rfl rfl)
theorem dX9_pays_12 : decode cX9_pays 12 = .ok (.aload_n 0, 1) := dk_42 (dk_at dksX9_pays_0 12 rfl rfl)
theorem dX9_pays_13 : decode cX9_pays 13 = .ok (.getfield 28, 3) := dk_180 0 28 (dk_at dksX9_pays_0 13 rfl rfl)
theorem dX9_pays_16 : decode cX9_pays 16 = .ok (.ixor, 1) := dk_130 (dk_at dksX9_pays_0 16 rfl rfl)
theorem dX9_pays_17 : decode cX9_pays 17 = .ok (.ireturn, 1) := dk_172 (dk_at dksX9_pays_0 17 rfl rfl)
theorem q99 : (Jvm.Cond.initialized "NamedPrices$Lower") ∈ lw_all := lw_g (lw_at lw_m1 10 rfl) rfl
theorem q348 : (Jvm.Cond.fieldLink "NamedPrices$Lower" (28 : Nat) "NamedPrices$Lower" "number" "I") ∈ lw_all := lw_g (lw_at lw_m2 19 rfl) rfl
theorem q349 : (Jvm.Cond.sameField "NamedPrices$Lower" "NamedPrices$Namer" "number" "I") ∈ lw_all := lw_g (lw_at lw_m2 20 rfl) rfl
theorem q372 : (Jvm.Cond.instantiable "NamedPrices$Lower" (3 : Nat)) ∈ lw_all := lw_g (lw_at lw_m2 43 rfl) rfl
theorem q374 : (Jvm.Cond.instanceMethod ({ cls := "NamedPrices$Lower", name := "<init>", desc := "(III)V" } : Jvm.MethodName)) ∈ lw_all := lw_g (lw_at lw_m2 45 rfl) rfl
theorem q375 : (Jvm.Cond.code ({ cls := "NamedPrices$Lower", name := "<init>", desc := "(III)V" } : Jvm.MethodName) prog_8_method_1_code (4 : Nat) (Option.none : Option Jvm.ClassFile.FieldType)) ∈ lw_all := lw_g (lw_at lw_m2 46 rfl) rfl
theorem q376 : (Jvm.Cond.methodLink "NamedPrices$Lower" (1 : Nat) ({ cls := "NamedPrices$True", name := "<init>", desc := "(III)V" } : Jvm.MethodName)) ∈ lw_all := lw_g (lw_at lw_m2 47 rfl) rfl
theorem q377 : (Jvm.Cond.laysFinal "NamedPrices$Lower" "NamedPrices$Namer" "number" "I") ∈ lw_all := lw_g (lw_at lw_m2 48 rfl) rfl
theorem q378 : (Jvm.Cond.laysFinal "NamedPrices$Lower" "NamedPrices$Namer" "p" "I") ∈ lw_all := lw_g (lw_at lw_m2 49 rfl) rfl
theorem q379 : (Jvm.Cond.laysFinal "NamedPrices$Lower" "NamedPrices$Namer" "q" "I") ∈ lw_all := lw_g (lw_at lw_m2 50 rfl) rfl
theorem q380 : (Jvm.Cond.superclass "NamedPrices$Lower" "NamedPrices$True") ∈ lw_all := lw_g (lw_at lw_m2 51 rfl) rfl
theorem q447 : (Jvm.Cond.selects "NamedPrices$Lower" ({ cls := "NamedPrices$Namer", name := "kind", desc := "()I" } : Jvm.MethodName) ({ cls := "NamedPrices$Lower", name := "kind", desc := "()I" } : Jvm.MethodName)) ∈ lw_all := lw_g (lw_at lw_m2 118 rfl) rfl
theorem q448 : (Jvm.Cond.instanceMethod ({ cls := "NamedPrices$Lower", name := "kind", desc := "()I" } : Jvm.MethodName)) ∈ lw_all := lw_g (lw_at lw_m2 119 rfl) rfl
theorem q449 : (Jvm.Cond.code ({ cls := "NamedPrices$Lower", name := "kind", desc := "()I" } : Jvm.MethodName) prog_8_method_2_code (1 : Nat) (Option.some Jvm.ClassFile.FieldType.int)) ∈ lw_all := lw_g (lw_at lw_m2 120 rfl) rfl
theorem q450 : (Jvm.Cond.methodLink "NamedPrices$Lower" (7 : Nat) ({ cls := "NamedPrices$True", name := "kind", desc := "()I" } : Jvm.MethodName)) ∈ lw_all := lw_g (lw_at lw_m2 121 rfl) rfl
theorem q893 : (Jvm.Cond.castable "NamedPrices$Lower" "NamedPrices$Names") ∈ lw_tbl := lw_at lw_m4 84 rfl
theorem q894 : (Jvm.Cond.selects "NamedPrices$Lower" ({ cls := "NamedPrices$Names", name := "name", desc := "(LNamedPrices$Sees;I)I" } : Jvm.MethodName) ({ cls := "NamedPrices$Lower", name := "name", desc := "(LNamedPrices$Sees;I)I" } : Jvm.MethodName)) ∈ lw_all := lw_g (lw_at lw_m4 85 rfl) rfl
theorem q895 : (Jvm.Cond.unhidden "NamedPrices$Lower" "name" "(LNamedPrices$Sees;I)I") ∈ lw_tbl := lw_at lw_m4 86 rfl
theorem q896 : (Jvm.Cond.instanceMethod ({ cls := "NamedPrices$Lower", name := "name", desc := "(LNamedPrices$Sees;I)I" } : Jvm.MethodName)) ∈ lw_all := lw_g (lw_at lw_m4 87 rfl) rfl
theorem q897 : (Jvm.Cond.publicMethod ({ cls := "NamedPrices$Lower", name := "name", desc := "(LNamedPrices$Sees;I)I" } : Jvm.MethodName)) ∈ lw_tbl := lw_at lw_m4 88 rfl
theorem q898 : (Jvm.Cond.code ({ cls := "NamedPrices$Lower", name := "name", desc := "(LNamedPrices$Sees;I)I" } : Jvm.MethodName) prog_8_method_3_code (3 : Nat) (Option.some Jvm.ClassFile.FieldType.int)) ∈ lw_all := lw_g (lw_at lw_m4 89 rfl) rfl
theorem q899 : (Jvm.Cond.methodLink "NamedPrices$Lower" (11 : Nat) ({ cls := "NamedPrices$True", name := "name", desc := "(LNamedPrices$Sees;I)I" } : Jvm.MethodName)) ∈ lw_all := lw_g (lw_at lw_m4 90 rfl) rfl
theorem q1181 : (Jvm.Cond.selects "NamedPrices$Lower" ({ cls := "NamedPrices$Namer", name := "names", desc := "(ILNamedPrices$Trace;)I" } : Jvm.MethodName) ({ cls := "NamedPrices$Lower", name := "names", desc := "(ILNamedPrices$Trace;)I" } : Jvm.MethodName)) ∈ lw_all := lw_g (lw_at lw_m5 132 rfl) rfl
theorem q1182 : (Jvm.Cond.instanceMethod ({ cls := "NamedPrices$Lower", name := "names", desc := "(ILNamedPrices$Trace;)I" } : Jvm.MethodName)) ∈ lw_all := lw_g (lw_at lw_m5 133 rfl) rfl
theorem q1183 : (Jvm.Cond.code ({ cls := "NamedPrices$Lower", name := "names", desc := "(ILNamedPrices$Trace;)I" } : Jvm.MethodName) prog_8_method_4_code (3 : Nat) (Option.some Jvm.ClassFile.FieldType.int)) ∈ lw_all := lw_g (lw_at lw_m5 134 rfl) rfl
theorem q1184 : (Jvm.Cond.methodLink "NamedPrices$Lower" (15 : Nat) ({ cls := "NamedPrices$Trace", name := "ran", desc := "(I)V" } : Jvm.MethodName)) ∈ lw_all := lw_g (lw_at lw_m5 135 rfl) rfl
theorem q1185 : (Jvm.Cond.methodLink "NamedPrices$Lower" (21 : Nat) ({ cls := "NamedPrices$True", name := "names", desc := "(ILNamedPrices$Trace;)I" } : Jvm.MethodName)) ∈ lw_all := lw_g (lw_at lw_m5 136 rfl) rfl
theorem q1213 : (Jvm.Cond.castable "NamedPrices$Lower" "NamedPrices$Buys") ∈ lw_tbl := lw_at lw_m5 164 rfl
theorem q1214 : (Jvm.Cond.selects "NamedPrices$Lower" ({ cls := "NamedPrices$Buys", name := "names", desc := "(ILNamedPrices$Trace;)I" } : Jvm.MethodName) ({ cls := "NamedPrices$Lower", name := "names", desc := "(ILNamedPrices$Trace;)I" } : Jvm.MethodName)) ∈ lw_all := lw_g (lw_at lw_m5 165 rfl) rfl
theorem q1215 : (Jvm.Cond.unhidden "NamedPrices$Lower" "names" "(ILNamedPrices$Trace;)I") ∈ lw_tbl := lw_at lw_m5 166 rfl
theorem q1216 : (Jvm.Cond.publicMethod ({ cls := "NamedPrices$Lower", name := "names", desc := "(ILNamedPrices$Trace;)I" } : Jvm.MethodName)) ∈ lw_tbl := lw_at lw_m5 167 rfl
theorem q1231 : (Jvm.Cond.unhidden "NamedPrices$Lower" "buys" "(ILNamedPrices$Trace;)I") ∈ lw_tbl := lw_at lw_m5 182 rfl
theorem q1245 : (Jvm.Cond.selects "NamedPrices$Lower" ({ cls := "NamedPrices$Namer", name := "pays", desc := "(ILNamedPrices$Trace;)I" } : Jvm.MethodName) ({ cls := "NamedPrices$Lower", name := "pays", desc := "(ILNamedPrices$Trace;)I" } : Jvm.MethodName)) ∈ lw_all := lw_g (lw_at lw_m5 196 rfl) rfl
theorem q1246 : (Jvm.Cond.instanceMethod ({ cls := "NamedPrices$Lower", name := "pays", desc := "(ILNamedPrices$Trace;)I" } : Jvm.MethodName)) ∈ lw_all := lw_g (lw_at lw_m5 197 rfl) rfl
theorem q1247 : (Jvm.Cond.code ({ cls := "NamedPrices$Lower", name := "pays", desc := "(ILNamedPrices$Trace;)I" } : Jvm.MethodName) prog_8_method_5_code (3 : Nat) (Option.some Jvm.ClassFile.FieldType.int)) ∈ lw_all := lw_g (lw_at lw_m5 198 rfl) rfl
theorem q1248 : (Jvm.Cond.methodLink "NamedPrices$Lower" (25 : Nat) ({ cls := "NamedPrices$True", name := "pays", desc := "(ILNamedPrices$Trace;)I" } : Jvm.MethodName)) ∈ lw_all := lw_g (lw_at lw_m5 199 rfl) rfl
theorem q1275 : (Jvm.Cond.selects "NamedPrices$Lower" ({ cls := "NamedPrices$Namer", name := "minds", desc := "(ILNamedPrices$Trace;)I" } : Jvm.MethodName) ({ cls := "NamedPrices$True", name := "minds", desc := "(ILNamedPrices$Trace;)I" } : Jvm.MethodName)) ∈ lw_all := lw_g (lw_at lw_m5 226 rfl) rfl
theorem q1866 : (Jvm.Cond.castable "NamedPrices$Lower" "NamedPrices$Namer") ∈ lw_tbl := lw_at lw_m8 97 rfl
theorem q1872 : (Jvm.Cond.castable "NamedPrices$Lower" "NamedPrices$True") ∈ lw_tbl := lw_at lw_m8 103 rfl
theorem in_X9 : ∀ w ∈ wsX90, w ∈ lw_all := lw_in wsX90 [377, 378, 379] (by decide +kernel) (by decide +kernel)
/-! NamedPrices$Spite -/
set_option maxRecDepth 100000
def RX10 : String := "NamedPrices$Spite"
def TX10 : u_T := fun k => match k with
  | 0 => ("NamedPrices$Namer", "number", "I", true)
  | 1 => ("NamedPrices$Namer", "p", "I", true)
  | _ => ("NamedPrices$Namer", "q", "I", true)
def tyX10 : Nat → FieldType := fun k => match k with
  | 0 => .int
  | 1 => .int
  | _ => .int
abbrev wsX100 : List Cond := u_ws RX10 TX10 3
theorem nmX10 : ∀ a, a < 3 → ∀ b, b < 3 → a ≠ b → (TX10 a).2.1 ≠ (TX10 b).2.1 := by decide +kernel
theorem tyX10_ok : ∀ k, k < 3 → parseFieldDescriptor (TX10 k).2.2.1 = some (tyX10 k) := by decide +kernel
abbrev cX10_init : ByteArray := prog_14_method_1_code
def yX10_init : MethodName := ⟨RX10, "<init>", "(III)V"⟩
def dkwX10_init_0 : List UInt8 := [42, 27, 28, 29, 183, 0, 3, 177]
abbrev dktX10_init_0 : List UInt8 := dkwX10_init_0 ++ []
theorem dksX10_init_0 : cX10_init.data.toList.drop 0 = dktX10_init_0 := by decide +kernel
theorem dX10_init_0 : decode cX10_init 0 = .ok (.aload_n 0, 1) := dk_42 (dk_at dksX10_init_0 0 rfl rfl)
theorem dX10_init_1 : decode cX10_init 1 = .ok (.iload_n 1, 1) := dk_27 (dk_at dksX10_init_0 1 rfl rfl)
theorem dX10_init_2 : decode cX10_init 2 = .ok (.iload_n 2, 1) := dk_28 (dk_at dksX10_init_0 2 rfl rfl)
theorem dX10_init_3 : decode cX10_init 3 = .ok (.iload_n 3, 1) := dk_29 (dk_at dksX10_init_0 3 rfl rfl)
theorem dX10_init_4 : decode cX10_init 4 = .ok (.invokespecial 3, 3) := dk_183 0 3 (dk_at dksX10_init_0 4 rfl rfl)
theorem dX10_init_7 : decode cX10_init 7 = .ok (.return_, 1) := dk_177 (dk_at dksX10_init_0 7 rfl rfl)
abbrev cX10_kind : ByteArray := prog_14_method_2_code
def yX10_kind : MethodName := ⟨RX10, "kind", "()I"⟩
def dkwX10_kind_0 : List UInt8 := [42, 183, 0, 9, 7, 96, 172]
abbrev dktX10_kind_0 : List UInt8 := dkwX10_kind_0 ++ []
theorem dksX10_kind_0 : cX10_kind.data.toList.drop 0 = dktX10_kind_0 := by decide +kernel
theorem dX10_kind_0 : decode cX10_kind 0 = .ok (.aload_n 0, 1) := dk_42 (dk_at dksX10_kind_0 0 rfl rfl)
theorem dX10_kind_1 : decode cX10_kind 1 = .ok (.invokespecial 9, 3) := dk_183 0 9 (dk_at dksX10_kind_0 1 rfl rfl)
theorem dX10_kind_4 : decode cX10_kind 4 = .ok (.iconst 4, 1) := dk_7 (dk_at dksX10_kind_0 4 rfl rfl)
theorem dX10_kind_5 : decode cX10_kind 5 = .ok (.iadd, 1) := dk_96 (dk_at dksX10_kind_0 5 rfl rfl)
theorem dX10_kind_6 : decode cX10_kind 6 = .ok (.ireturn, 1) := dk_172 (dk_at dksX10_kind_0 6 rfl rfl)
abbrev cX10_name : ByteArray := prog_14_method_3_code
def yX10_name : MethodName := ⟨RX10, "name", "(LNamedPrices$Sees;I)I"⟩
def dkwX10_name_0 : List UInt8 := [43, 28, 185, 0, 13, 2, 0, 4, 100, 172]
abbrev dktX10_name_0 : List UInt8 := dkwX10_name_0 ++ []
theorem dksX10_name_0 : cX10_name.data.toList.drop 0 = dktX10_name_0 := by decide +kernel
theorem dX10_name_0 : decode cX10_name 0 = .ok (.aload_n 1, 1) := dk_43 (dk_at dksX10_name_0 0 rfl rfl)
theorem dX10_name_1 : decode cX10_name 1 = .ok (.iload_n 2, 1) := dk_28 (dk_at dksX10_name_0 1 rfl rfl)
theorem dX10_name_2 : decode cX10_name 2 = .ok (.invokeinterface 13 2, 5) := by decide +kernel
theorem dX10_name_7 : decode cX10_name 7 = .ok (.iconst 1, 1) := dk_4 (dk_at dksX10_name_0 7 rfl rfl)
theorem dX10_name_8 : decode cX10_name 8 = .ok (.isub, 1) := dk_100 (dk_at dksX10_name_0 8 rfl rfl)
theorem dX10_name_9 : decode cX10_name 9 = .ok (.ireturn, 1) := dk_172 (dk_at dksX10_name_0 9 rfl rfl)
abbrev cX10_pays : ByteArray := prog_14_method_4_code
def yX10_pays : MethodName := ⟨RX10, "pays", "(ILNamedPrices$Trace;)I"⟩
def dkwX10_pays_0 : List UInt8 := [44, 16, 50, 182, 0, 19, 42, 27, 4, 96, 44, 183, 0, 25, 172]
abbrev dktX10_pays_0 : List UInt8 := dkwX10_pays_0 ++ []
theorem dksX10_pays_0 : cX10_pays.data.toList.drop 0 = dktX10_pays_0 := by decide +kernel
theorem dX10_pays_0 : decode cX10_pays 0 = .ok (.aload_n 2, 1) := dk_44 (dk_at dksX10_pays_0 0 rfl rfl)
theorem dX10_pays_1 : decode cX10_pays 1 = .ok (.bipush 50, 2) := dk_16 50 (dk_at dksX10_pays_0 1 rfl rfl)
theorem dX10_pays_3 : decode cX10_pays 3 = .ok (.invokevirtual 19, 3) := dk_182 0 19 (dk_at dksX10_pays_0 3 rfl rfl)
theorem dX10_pays_6 : decode cX10_pays 6 = .ok (.aload_n 0, 1) := dk_42 (dk_at dksX10_pays_0 6 rfl rfl)
theorem dX10_pays_7 : decode cX10_pays 7 = .ok (.iload_n 1, 1) := dk_27 (dk_at dksX10_pays_0 7 rfl rfl)
theorem dX10_pays_8 : decode cX10_pays 8 = .ok (.iconst 1, 1) := dk_4 (dk_at dksX10_pays_0 8 rfl rfl)
theorem dX10_pays_9 : decode cX10_pays 9 = .ok (.iadd, 1) := dk_96 (dk_at dksX10_pays_0 9 rfl rfl)
theorem dX10_pays_10 : decode cX10_pays 10 = .ok (.aload_n 2, 1) := dk_44 (dk_at dksX10_pays_0 10 rfl rfl)
theorem dX10_pays_11 : decode cX10_pays 11 = .ok (.invokespecial 25, 3) := dk_183 0 25 (dk_at dksX10_pays_0 11 rfl rfl)
theorem dX10_pays_14 : decode cX10_pays 14 = .ok (.ireturn, 1) := dk_172 (dk_at dksX10_pays_0 14 rfl rfl)
theorem q100 : (Jvm.Cond.initialized "NamedPrices$Spite") ∈ lw_all := lw_g (lw_at lw_m1 11 rfl) rfl
theorem q382 : (Jvm.Cond.instantiable "NamedPrices$Spite" (3 : Nat)) ∈ lw_all := lw_g (lw_at lw_m2 53 rfl) rfl
theorem q384 : (Jvm.Cond.instanceMethod ({ cls := "NamedPrices$Spite", name := "<init>", desc := "(III)V" } : Jvm.MethodName)) ∈ lw_all := lw_g (lw_at lw_m2 55 rfl) rfl
theorem q385 : (Jvm.Cond.code ({ cls := "NamedPrices$Spite", name := "<init>", desc := "(III)V" } : Jvm.MethodName) prog_14_method_1_code (4 : Nat) (Option.none : Option Jvm.ClassFile.FieldType)) ∈ lw_all := lw_g (lw_at lw_m2 56 rfl) rfl
theorem q386 : (Jvm.Cond.methodLink "NamedPrices$Spite" (3 : Nat) ({ cls := "NamedPrices$Namer", name := "<init>", desc := "(III)V" } : Jvm.MethodName)) ∈ lw_all := lw_g (lw_at lw_m2 57 rfl) rfl
theorem q387 : (Jvm.Cond.laysFinal "NamedPrices$Spite" "NamedPrices$Namer" "number" "I") ∈ lw_all := lw_g (lw_at lw_m2 58 rfl) rfl
theorem q388 : (Jvm.Cond.laysFinal "NamedPrices$Spite" "NamedPrices$Namer" "p" "I") ∈ lw_all := lw_g (lw_at lw_m2 59 rfl) rfl
theorem q389 : (Jvm.Cond.laysFinal "NamedPrices$Spite" "NamedPrices$Namer" "q" "I") ∈ lw_all := lw_g (lw_at lw_m2 60 rfl) rfl
theorem q390 : (Jvm.Cond.superclass "NamedPrices$Spite" "NamedPrices$Namer") ∈ lw_all := lw_g (lw_at lw_m2 61 rfl) rfl
theorem q451 : (Jvm.Cond.selects "NamedPrices$Spite" ({ cls := "NamedPrices$Namer", name := "kind", desc := "()I" } : Jvm.MethodName) ({ cls := "NamedPrices$Spite", name := "kind", desc := "()I" } : Jvm.MethodName)) ∈ lw_all := lw_g (lw_at lw_m2 122 rfl) rfl
theorem q452 : (Jvm.Cond.instanceMethod ({ cls := "NamedPrices$Spite", name := "kind", desc := "()I" } : Jvm.MethodName)) ∈ lw_all := lw_g (lw_at lw_m2 123 rfl) rfl
theorem q453 : (Jvm.Cond.code ({ cls := "NamedPrices$Spite", name := "kind", desc := "()I" } : Jvm.MethodName) prog_14_method_2_code (1 : Nat) (Option.some Jvm.ClassFile.FieldType.int)) ∈ lw_all := lw_g (lw_at lw_m2 124 rfl) rfl
theorem q454 : (Jvm.Cond.methodLink "NamedPrices$Spite" (9 : Nat) ({ cls := "NamedPrices$Namer", name := "kind", desc := "()I" } : Jvm.MethodName)) ∈ lw_all := lw_g (lw_at lw_m2 125 rfl) rfl
theorem q914 : (Jvm.Cond.castable "NamedPrices$Spite" "NamedPrices$Names") ∈ lw_tbl := lw_at lw_m4 105 rfl
theorem q915 : (Jvm.Cond.selects "NamedPrices$Spite" ({ cls := "NamedPrices$Names", name := "name", desc := "(LNamedPrices$Sees;I)I" } : Jvm.MethodName) ({ cls := "NamedPrices$Spite", name := "name", desc := "(LNamedPrices$Sees;I)I" } : Jvm.MethodName)) ∈ lw_all := lw_g (lw_at lw_m4 106 rfl) rfl
theorem q916 : (Jvm.Cond.unhidden "NamedPrices$Spite" "name" "(LNamedPrices$Sees;I)I") ∈ lw_tbl := lw_at lw_m4 107 rfl
theorem q917 : (Jvm.Cond.instanceMethod ({ cls := "NamedPrices$Spite", name := "name", desc := "(LNamedPrices$Sees;I)I" } : Jvm.MethodName)) ∈ lw_all := lw_g (lw_at lw_m4 108 rfl) rfl
theorem q918 : (Jvm.Cond.publicMethod ({ cls := "NamedPrices$Spite", name := "name", desc := "(LNamedPrices$Sees;I)I" } : Jvm.MethodName)) ∈ lw_tbl := lw_at lw_m4 109 rfl
theorem q919 : (Jvm.Cond.code ({ cls := "NamedPrices$Spite", name := "name", desc := "(LNamedPrices$Sees;I)I" } : Jvm.MethodName) prog_14_method_3_code (3 : Nat) (Option.some Jvm.ClassFile.FieldType.int)) ∈ lw_all := lw_g (lw_at lw_m4 110 rfl) rfl
theorem q920 : (Jvm.Cond.interfaceEntry "NamedPrices$Spite" (13 : Nat)) ∈ lw_tbl := lw_at lw_m4 111 rfl
theorem q921 : (Jvm.Cond.methodLink "NamedPrices$Spite" (13 : Nat) ({ cls := "NamedPrices$Sees", name := "others", desc := "(I)I" } : Jvm.MethodName)) ∈ lw_all := lw_g (lw_at lw_m4 112 rfl) rfl
theorem q1186 : (Jvm.Cond.selects "NamedPrices$Spite" ({ cls := "NamedPrices$Namer", name := "names", desc := "(ILNamedPrices$Trace;)I" } : Jvm.MethodName) ({ cls := "NamedPrices$Namer", name := "names", desc := "(ILNamedPrices$Trace;)I" } : Jvm.MethodName)) ∈ lw_all := lw_g (lw_at lw_m5 137 rfl) rfl
theorem q1221 : (Jvm.Cond.castable "NamedPrices$Spite" "NamedPrices$Buys") ∈ lw_tbl := lw_at lw_m5 172 rfl
theorem q1222 : (Jvm.Cond.selects "NamedPrices$Spite" ({ cls := "NamedPrices$Buys", name := "names", desc := "(ILNamedPrices$Trace;)I" } : Jvm.MethodName) ({ cls := "NamedPrices$Namer", name := "names", desc := "(ILNamedPrices$Trace;)I" } : Jvm.MethodName)) ∈ lw_all := lw_g (lw_at lw_m5 173 rfl) rfl
theorem q1223 : (Jvm.Cond.unhidden "NamedPrices$Spite" "names" "(ILNamedPrices$Trace;)I") ∈ lw_tbl := lw_at lw_m5 174 rfl
theorem q1233 : (Jvm.Cond.unhidden "NamedPrices$Spite" "buys" "(ILNamedPrices$Trace;)I") ∈ lw_tbl := lw_at lw_m5 184 rfl
theorem q1252 : (Jvm.Cond.selects "NamedPrices$Spite" ({ cls := "NamedPrices$Namer", name := "pays", desc := "(ILNamedPrices$Trace;)I" } : Jvm.MethodName) ({ cls := "NamedPrices$Spite", name := "pays", desc := "(ILNamedPrices$Trace;)I" } : Jvm.MethodName)) ∈ lw_all := lw_g (lw_at lw_m5 203 rfl) rfl
theorem q1253 : (Jvm.Cond.instanceMethod ({ cls := "NamedPrices$Spite", name := "pays", desc := "(ILNamedPrices$Trace;)I" } : Jvm.MethodName)) ∈ lw_all := lw_g (lw_at lw_m5 204 rfl) rfl
theorem q1254 : (Jvm.Cond.code ({ cls := "NamedPrices$Spite", name := "pays", desc := "(ILNamedPrices$Trace;)I" } : Jvm.MethodName) prog_14_method_4_code (3 : Nat) (Option.some Jvm.ClassFile.FieldType.int)) ∈ lw_all := lw_g (lw_at lw_m5 205 rfl) rfl
theorem q1255 : (Jvm.Cond.methodLink "NamedPrices$Spite" (19 : Nat) ({ cls := "NamedPrices$Trace", name := "ran", desc := "(I)V" } : Jvm.MethodName)) ∈ lw_all := lw_g (lw_at lw_m5 206 rfl) rfl
theorem q1256 : (Jvm.Cond.methodLink "NamedPrices$Spite" (25 : Nat) ({ cls := "NamedPrices$Namer", name := "pays", desc := "(ILNamedPrices$Trace;)I" } : Jvm.MethodName)) ∈ lw_all := lw_g (lw_at lw_m5 207 rfl) rfl
theorem q1276 : (Jvm.Cond.selects "NamedPrices$Spite" ({ cls := "NamedPrices$Namer", name := "minds", desc := "(ILNamedPrices$Trace;)I" } : Jvm.MethodName) ({ cls := "NamedPrices$Namer", name := "minds", desc := "(ILNamedPrices$Trace;)I" } : Jvm.MethodName)) ∈ lw_all := lw_g (lw_at lw_m5 227 rfl) rfl
theorem q1867 : (Jvm.Cond.castable "NamedPrices$Spite" "NamedPrices$Namer") ∈ lw_tbl := lw_at lw_m8 98 rfl
theorem in_X10 : ∀ w ∈ wsX100, w ∈ lw_all := lw_in wsX100 [387, 388, 389] (by decide +kernel) (by decide +kernel)
/-! NamedPrices$Told -/
set_option maxRecDepth 100000
def RX11 : String := "NamedPrices$Told"
def TX11 : u_T := fun k => match k with
  | 0 => ("NamedPrices$Namer", "number", "I", true)
  | 1 => ("NamedPrices$Namer", "p", "I", true)
  | _ => ("NamedPrices$Namer", "q", "I", true)
def tyX11 : Nat → FieldType := fun k => match k with
  | 0 => .int
  | 1 => .int
  | _ => .int
abbrev wsX110 : List Cond := u_ws RX11 TX11 3
theorem nmX11 : ∀ a, a < 3 → ∀ b, b < 3 → a ≠ b → (TX11 a).2.1 ≠ (TX11 b).2.1 := by decide +kernel
theorem tyX11_ok : ∀ k, k < 3 → parseFieldDescriptor (TX11 k).2.2.1 = some (tyX11 k) := by decide +kernel
abbrev cX11_init : ByteArray := prog_16_method_1_code
def yX11_init : MethodName := ⟨RX11, "<init>", "(III)V"⟩
def dkwX11_init_0 : List UInt8 := [42, 27, 28, 29, 183, 0, 3, 177]
abbrev dktX11_init_0 : List UInt8 := dkwX11_init_0 ++ []
theorem dksX11_init_0 : cX11_init.data.toList.drop 0 = dktX11_init_0 := by decide +kernel
theorem dX11_init_0 : decode cX11_init 0 = .ok (.aload_n 0, 1) := dk_42 (dk_at dksX11_init_0 0 rfl rfl)
theorem dX11_init_1 : decode cX11_init 1 = .ok (.iload_n 1, 1) := dk_27 (dk_at dksX11_init_0 1 rfl rfl)
theorem dX11_init_2 : decode cX11_init 2 = .ok (.iload_n 2, 1) := dk_28 (dk_at dksX11_init_0 2 rfl rfl)
theorem dX11_init_3 : decode cX11_init 3 = .ok (.iload_n 3, 1) := dk_29 (dk_at dksX11_init_0 3 rfl rfl)
theorem dX11_init_4 : decode cX11_init 4 = .ok (.invokespecial 3, 3) := dk_183 0 3 (dk_at dksX11_init_0 4 rfl rfl)
theorem dX11_init_7 : decode cX11_init 7 = .ok (.return_, 1) := dk_177 (dk_at dksX11_init_0 7 rfl rfl)
abbrev cX11_kind : ByteArray := prog_16_method_2_code
def yX11_kind : MethodName := ⟨RX11, "kind", "()I"⟩
def dkwX11_kind_0 : List UInt8 := [42, 183, 0, 9, 8, 96, 172]
abbrev dktX11_kind_0 : List UInt8 := dkwX11_kind_0 ++ []
theorem dksX11_kind_0 : cX11_kind.data.toList.drop 0 = dktX11_kind_0 := by decide +kernel
theorem dX11_kind_0 : decode cX11_kind 0 = .ok (.aload_n 0, 1) := dk_42 (dk_at dksX11_kind_0 0 rfl rfl)
theorem dX11_kind_1 : decode cX11_kind 1 = .ok (.invokespecial 9, 3) := dk_183 0 9 (dk_at dksX11_kind_0 1 rfl rfl)
theorem dX11_kind_4 : decode cX11_kind 4 = .ok (.iconst 5, 1) := dk_8 (dk_at dksX11_kind_0 4 rfl rfl)
theorem dX11_kind_5 : decode cX11_kind 5 = .ok (.iadd, 1) := dk_96 (dk_at dksX11_kind_0 5 rfl rfl)
theorem dX11_kind_6 : decode cX11_kind 6 = .ok (.ireturn, 1) := dk_172 (dk_at dksX11_kind_0 6 rfl rfl)
abbrev cX11_name : ByteArray := prog_16_method_3_code
def yX11_name : MethodName := ⟨RX11, "name", "(LNamedPrices$Sees;I)I"⟩
def dkwX11_name_0 : List UInt8 := [43, 28, 185, 0, 13, 2, 0, 172]
abbrev dktX11_name_0 : List UInt8 := dkwX11_name_0 ++ []
theorem dksX11_name_0 : cX11_name.data.toList.drop 0 = dktX11_name_0 := by decide +kernel
theorem dX11_name_0 : decode cX11_name 0 = .ok (.aload_n 1, 1) := dk_43 (dk_at dksX11_name_0 0 rfl rfl)
theorem dX11_name_1 : decode cX11_name 1 = .ok (.iload_n 2, 1) := dk_28 (dk_at dksX11_name_0 1 rfl rfl)
theorem dX11_name_2 : decode cX11_name 2 = .ok (.invokeinterface 13 2, 5) := by decide +kernel
theorem dX11_name_7 : decode cX11_name 7 = .ok (.ireturn, 1) := dk_172 (dk_at dksX11_name_0 7 rfl rfl)
abbrev cX11_names : ByteArray := prog_16_method_4_code
def yX11_names : MethodName := ⟨RX11, "names", "(ILNamedPrices$Trace;)I"⟩
def dkwX11_names_0 : List UInt8 := [44, 16, 70, 182, 0, 19, 16, 8, 172]
abbrev dktX11_names_0 : List UInt8 := dkwX11_names_0 ++ []
theorem dksX11_names_0 : cX11_names.data.toList.drop 0 = dktX11_names_0 := by decide +kernel
theorem dX11_names_0 : decode cX11_names 0 = .ok (.aload_n 2, 1) := dk_44 (dk_at dksX11_names_0 0 rfl rfl)
theorem dX11_names_1 : decode cX11_names 1 = .ok (.bipush 70, 2) := dk_16 70 (dk_at dksX11_names_0 1 rfl rfl)
theorem dX11_names_3 : decode cX11_names 3 = .ok (.invokevirtual 19, 3) := dk_182 0 19 (dk_at dksX11_names_0 3 rfl rfl)
theorem dX11_names_6 : decode cX11_names 6 = .ok (.bipush 8, 2) := dk_16 8 (dk_at dksX11_names_0 6 rfl rfl)
theorem dX11_names_8 : decode cX11_names 8 = .ok (.ireturn, 1) := dk_172 (dk_at dksX11_names_0 8 rfl rfl)
abbrev cX11_buys : ByteArray := prog_16_method_5_code
def yX11_buys : MethodName := ⟨RX11, "buys", "(ILNamedPrices$Trace;)I"⟩
def dkwX11_buys_0 : List UInt8 := [44, 16, 71, 182, 0, 19, 42, 27, 44, 183, 0, 25, 42, 180, 0, 29, 96, 172]
abbrev dktX11_buys_0 : List UInt8 := dkwX11_buys_0 ++ []
theorem dksX11_buys_0 : cX11_buys.data.toList.drop 0 = dktX11_buys_0 := by decide +kernel
theorem dX11_buys_0 : decode cX11_buys 0 = .ok (.aload_n 2, 1) := dk_44 (dk_at dksX11_buys_0 0 rfl rfl)
theorem dX11_buys_1 : decode cX11_buys 1 = .ok (.bipush 71, 2) := dk_16 71 (dk_at dksX11_buys_0 1 rfl rfl)
theorem dX11_buys_3 : decode cX11_buys 3 = .ok (.invokevirtual 19, 3) := dk_182 0 19 (dk_at dksX11_buys_0 3 rfl rfl)
theorem dX11_buys_6 : decode cX11_buys 6 = .ok (.aload_n 0, 1) := dk_42 (dk_at dksX11_buys_0 6 rfl rfl)
theorem dX11_buys_7 : decode cX11_buys 7 = .ok (.iload_n 1, 1) := dk_27 (dk_at dksX11_buys_0 7 rfl rfl)
theorem dX11_buys_8 : decode cX11_buys 8 = .ok (.aload_n 2, 1) := dk_44 (dk_at dksX11_buys_0 8 rfl rfl)
theorem dX11_buys_9 : decode cX11_buys 9 = .ok (.invokespecial 25, 3) := dk_183 0 25 (dk_at dksX11_buys_0 9 rfl rfl)
theorem dX11_buys_12 : decode cX11_buys 12 = .ok (.aload_n 0, 1) := dk_42 (dk_at dksX11_buys_0 12 rfl rfl)
theorem dX11_buys_13 : decode cX11_buys 13 = .ok (.getfield 29, 3) := dk_180 0 29 (dk_at dksX11_buys_0 13 rfl rfl)
theorem dX11_buys_16 : decode cX11_buys 16 = .ok (.iadd, 1) := dk_96 (dk_at dksX11_buys_0 16 rfl rfl)
theorem dX11_buys_17 : decode cX11_buys 17 = .ok (.ireturn, 1) := dk_172 (dk_at dksX11_buys_0 17 rfl rfl)
theorem q101 : (Jvm.Cond.initialized "NamedPrices$Told") ∈ lw_all := lw_g (lw_at lw_m1 12 rfl) rfl
theorem q346 : (Jvm.Cond.fieldLink "NamedPrices$Told" (29 : Nat) "NamedPrices$Told" "number" "I") ∈ lw_all := lw_g (lw_at lw_m2 17 rfl) rfl
theorem q347 : (Jvm.Cond.sameField "NamedPrices$Told" "NamedPrices$Namer" "number" "I") ∈ lw_all := lw_g (lw_at lw_m2 18 rfl) rfl
theorem q392 : (Jvm.Cond.instantiable "NamedPrices$Told" (3 : Nat)) ∈ lw_all := lw_g (lw_at lw_m2 63 rfl) rfl
theorem q394 : (Jvm.Cond.instanceMethod ({ cls := "NamedPrices$Told", name := "<init>", desc := "(III)V" } : Jvm.MethodName)) ∈ lw_all := lw_g (lw_at lw_m2 65 rfl) rfl
theorem q395 : (Jvm.Cond.code ({ cls := "NamedPrices$Told", name := "<init>", desc := "(III)V" } : Jvm.MethodName) prog_16_method_1_code (4 : Nat) (Option.none : Option Jvm.ClassFile.FieldType)) ∈ lw_all := lw_g (lw_at lw_m2 66 rfl) rfl
theorem q396 : (Jvm.Cond.methodLink "NamedPrices$Told" (3 : Nat) ({ cls := "NamedPrices$Namer", name := "<init>", desc := "(III)V" } : Jvm.MethodName)) ∈ lw_all := lw_g (lw_at lw_m2 67 rfl) rfl
theorem q397 : (Jvm.Cond.laysFinal "NamedPrices$Told" "NamedPrices$Namer" "number" "I") ∈ lw_all := lw_g (lw_at lw_m2 68 rfl) rfl
theorem q398 : (Jvm.Cond.laysFinal "NamedPrices$Told" "NamedPrices$Namer" "p" "I") ∈ lw_all := lw_g (lw_at lw_m2 69 rfl) rfl
theorem q399 : (Jvm.Cond.laysFinal "NamedPrices$Told" "NamedPrices$Namer" "q" "I") ∈ lw_all := lw_g (lw_at lw_m2 70 rfl) rfl
theorem q400 : (Jvm.Cond.superclass "NamedPrices$Told" "NamedPrices$Namer") ∈ lw_all := lw_g (lw_at lw_m2 71 rfl) rfl
theorem q455 : (Jvm.Cond.selects "NamedPrices$Told" ({ cls := "NamedPrices$Namer", name := "kind", desc := "()I" } : Jvm.MethodName) ({ cls := "NamedPrices$Told", name := "kind", desc := "()I" } : Jvm.MethodName)) ∈ lw_all := lw_g (lw_at lw_m2 126 rfl) rfl
theorem q456 : (Jvm.Cond.instanceMethod ({ cls := "NamedPrices$Told", name := "kind", desc := "()I" } : Jvm.MethodName)) ∈ lw_all := lw_g (lw_at lw_m2 127 rfl) rfl
theorem q457 : (Jvm.Cond.code ({ cls := "NamedPrices$Told", name := "kind", desc := "()I" } : Jvm.MethodName) prog_16_method_2_code (1 : Nat) (Option.some Jvm.ClassFile.FieldType.int)) ∈ lw_all := lw_g (lw_at lw_m2 128 rfl) rfl
theorem q458 : (Jvm.Cond.methodLink "NamedPrices$Told" (9 : Nat) ({ cls := "NamedPrices$Namer", name := "kind", desc := "()I" } : Jvm.MethodName)) ∈ lw_all := lw_g (lw_at lw_m2 129 rfl) rfl
theorem q934 : (Jvm.Cond.castable "NamedPrices$Told" "NamedPrices$Names") ∈ lw_tbl := lw_at lw_m4 125 rfl
theorem q935 : (Jvm.Cond.selects "NamedPrices$Told" ({ cls := "NamedPrices$Names", name := "name", desc := "(LNamedPrices$Sees;I)I" } : Jvm.MethodName) ({ cls := "NamedPrices$Told", name := "name", desc := "(LNamedPrices$Sees;I)I" } : Jvm.MethodName)) ∈ lw_all := lw_g (lw_at lw_m4 126 rfl) rfl
theorem q936 : (Jvm.Cond.unhidden "NamedPrices$Told" "name" "(LNamedPrices$Sees;I)I") ∈ lw_tbl := lw_at lw_m4 127 rfl
theorem q937 : (Jvm.Cond.instanceMethod ({ cls := "NamedPrices$Told", name := "name", desc := "(LNamedPrices$Sees;I)I" } : Jvm.MethodName)) ∈ lw_all := lw_g (lw_at lw_m4 128 rfl) rfl
theorem q938 : (Jvm.Cond.publicMethod ({ cls := "NamedPrices$Told", name := "name", desc := "(LNamedPrices$Sees;I)I" } : Jvm.MethodName)) ∈ lw_tbl := lw_at lw_m4 129 rfl
theorem q939 : (Jvm.Cond.code ({ cls := "NamedPrices$Told", name := "name", desc := "(LNamedPrices$Sees;I)I" } : Jvm.MethodName) prog_16_method_3_code (3 : Nat) (Option.some Jvm.ClassFile.FieldType.int)) ∈ lw_all := lw_g (lw_at lw_m4 130 rfl) rfl
theorem q940 : (Jvm.Cond.interfaceEntry "NamedPrices$Told" (13 : Nat)) ∈ lw_tbl := lw_at lw_m4 131 rfl
theorem q941 : (Jvm.Cond.methodLink "NamedPrices$Told" (13 : Nat) ({ cls := "NamedPrices$Sees", name := "naming", desc := "(I)I" } : Jvm.MethodName)) ∈ lw_all := lw_g (lw_at lw_m4 132 rfl) rfl
theorem q1187 : (Jvm.Cond.selects "NamedPrices$Told" ({ cls := "NamedPrices$Namer", name := "names", desc := "(ILNamedPrices$Trace;)I" } : Jvm.MethodName) ({ cls := "NamedPrices$Told", name := "names", desc := "(ILNamedPrices$Trace;)I" } : Jvm.MethodName)) ∈ lw_all := lw_g (lw_at lw_m5 138 rfl) rfl
theorem q1188 : (Jvm.Cond.instanceMethod ({ cls := "NamedPrices$Told", name := "names", desc := "(ILNamedPrices$Trace;)I" } : Jvm.MethodName)) ∈ lw_all := lw_g (lw_at lw_m5 139 rfl) rfl
theorem q1189 : (Jvm.Cond.code ({ cls := "NamedPrices$Told", name := "names", desc := "(ILNamedPrices$Trace;)I" } : Jvm.MethodName) prog_16_method_4_code (3 : Nat) (Option.some Jvm.ClassFile.FieldType.int)) ∈ lw_all := lw_g (lw_at lw_m5 140 rfl) rfl
theorem q1190 : (Jvm.Cond.methodLink "NamedPrices$Told" (19 : Nat) ({ cls := "NamedPrices$Trace", name := "ran", desc := "(I)V" } : Jvm.MethodName)) ∈ lw_all := lw_g (lw_at lw_m5 141 rfl) rfl
theorem q1224 : (Jvm.Cond.castable "NamedPrices$Told" "NamedPrices$Buys") ∈ lw_tbl := lw_at lw_m5 175 rfl
theorem q1225 : (Jvm.Cond.selects "NamedPrices$Told" ({ cls := "NamedPrices$Buys", name := "names", desc := "(ILNamedPrices$Trace;)I" } : Jvm.MethodName) ({ cls := "NamedPrices$Told", name := "names", desc := "(ILNamedPrices$Trace;)I" } : Jvm.MethodName)) ∈ lw_all := lw_g (lw_at lw_m5 176 rfl) rfl
theorem q1226 : (Jvm.Cond.unhidden "NamedPrices$Told" "names" "(ILNamedPrices$Trace;)I") ∈ lw_tbl := lw_at lw_m5 177 rfl
theorem q1227 : (Jvm.Cond.publicMethod ({ cls := "NamedPrices$Told", name := "names", desc := "(ILNamedPrices$Trace;)I" } : Jvm.MethodName)) ∈ lw_tbl := lw_at lw_m5 178 rfl
theorem q1234 : (Jvm.Cond.selects "NamedPrices$Told" ({ cls := "NamedPrices$Buys", name := "buys", desc := "(ILNamedPrices$Trace;)I" } : Jvm.MethodName) ({ cls := "NamedPrices$Told", name := "buys", desc := "(ILNamedPrices$Trace;)I" } : Jvm.MethodName)) ∈ lw_all := lw_g (lw_at lw_m5 185 rfl) rfl
theorem q1235 : (Jvm.Cond.instanceMethod ({ cls := "NamedPrices$Told", name := "buys", desc := "(ILNamedPrices$Trace;)I" } : Jvm.MethodName)) ∈ lw_all := lw_g (lw_at lw_m5 186 rfl) rfl
theorem q1236 : (Jvm.Cond.code ({ cls := "NamedPrices$Told", name := "buys", desc := "(ILNamedPrices$Trace;)I" } : Jvm.MethodName) prog_16_method_5_code (3 : Nat) (Option.some Jvm.ClassFile.FieldType.int)) ∈ lw_all := lw_g (lw_at lw_m5 187 rfl) rfl
theorem q1257 : (Jvm.Cond.selects "NamedPrices$Told" ({ cls := "NamedPrices$Namer", name := "pays", desc := "(ILNamedPrices$Trace;)I" } : Jvm.MethodName) ({ cls := "NamedPrices$Namer", name := "pays", desc := "(ILNamedPrices$Trace;)I" } : Jvm.MethodName)) ∈ lw_all := lw_g (lw_at lw_m5 208 rfl) rfl
theorem q1277 : (Jvm.Cond.selects "NamedPrices$Told" ({ cls := "NamedPrices$Namer", name := "minds", desc := "(ILNamedPrices$Trace;)I" } : Jvm.MethodName) ({ cls := "NamedPrices$Namer", name := "minds", desc := "(ILNamedPrices$Trace;)I" } : Jvm.MethodName)) ∈ lw_all := lw_g (lw_at lw_m5 228 rfl) rfl
theorem q1868 : (Jvm.Cond.castable "NamedPrices$Told" "NamedPrices$Namer") ∈ lw_tbl := lw_at lw_m8 99 rfl
theorem in_X11 : ∀ w ∈ wsX110, w ∈ lw_all := lw_in wsX110 [397, 398, 399] (by decide +kernel) (by decide +kernel)
/-! NamedPrices$Best -/
set_option maxRecDepth 100000
def RX12 : String := "NamedPrices$Best"
def TX12 : u_T := fun k => match k with
  | 0 => ("NamedPrices$Namer", "number", "I", true)
  | 1 => ("NamedPrices$Namer", "p", "I", true)
  | _ => ("NamedPrices$Namer", "q", "I", true)
def tyX12 : Nat → FieldType := fun k => match k with
  | 0 => .int
  | 1 => .int
  | _ => .int
abbrev wsX120 : List Cond := u_ws RX12 TX12 3
theorem nmX12 : ∀ a, a < 3 → ∀ b, b < 3 → a ≠ b → (TX12 a).2.1 ≠ (TX12 b).2.1 := by decide +kernel
theorem tyX12_ok : ∀ k, k < 3 → parseFieldDescriptor (TX12 k).2.2.1 = some (tyX12 k) := by decide +kernel
abbrev cX12_init : ByteArray := prog_2_method_1_code
def yX12_init : MethodName := ⟨RX12, "<init>", "(III)V"⟩
def dkwX12_init_0 : List UInt8 := [42, 27, 28, 29, 183, 0, 1, 177]
abbrev dktX12_init_0 : List UInt8 := dkwX12_init_0 ++ []
theorem dksX12_init_0 : cX12_init.data.toList.drop 0 = dktX12_init_0 := by decide +kernel
theorem dX12_init_0 : decode cX12_init 0 = .ok (.aload_n 0, 1) := dk_42 (dk_at dksX12_init_0 0 rfl rfl)
theorem dX12_init_1 : decode cX12_init 1 = .ok (.iload_n 1, 1) := dk_27 (dk_at dksX12_init_0 1 rfl rfl)
theorem dX12_init_2 : decode cX12_init 2 = .ok (.iload_n 2, 1) := dk_28 (dk_at dksX12_init_0 2 rfl rfl)
theorem dX12_init_3 : decode cX12_init 3 = .ok (.iload_n 3, 1) := dk_29 (dk_at dksX12_init_0 3 rfl rfl)
theorem dX12_init_4 : decode cX12_init 4 = .ok (.invokespecial 1, 3) := dk_183 0 1 (dk_at dksX12_init_0 4 rfl rfl)
theorem dX12_init_7 : decode cX12_init 7 = .ok (.return_, 1) := dk_177 (dk_at dksX12_init_0 7 rfl rfl)
abbrev cX12_kind : ByteArray := prog_2_method_2_code
def yX12_kind : MethodName := ⟨RX12, "kind", "()I"⟩
def dkwX12_kind_0 : List UInt8 := [42, 183, 0, 7, 8, 96, 172]
abbrev dktX12_kind_0 : List UInt8 := dkwX12_kind_0 ++ []
theorem dksX12_kind_0 : cX12_kind.data.toList.drop 0 = dktX12_kind_0 := by decide +kernel
theorem dX12_kind_0 : decode cX12_kind 0 = .ok (.aload_n 0, 1) := dk_42 (dk_at dksX12_kind_0 0 rfl rfl)
theorem dX12_kind_1 : decode cX12_kind 1 = .ok (.invokespecial 7, 3) := dk_183 0 7 (dk_at dksX12_kind_0 1 rfl rfl)
theorem dX12_kind_4 : decode cX12_kind 4 = .ok (.iconst 5, 1) := dk_8 (dk_at dksX12_kind_0 4 rfl rfl)
theorem dX12_kind_5 : decode cX12_kind 5 = .ok (.iadd, 1) := dk_96 (dk_at dksX12_kind_0 5 rfl rfl)
theorem dX12_kind_6 : decode cX12_kind 6 = .ok (.ireturn, 1) := dk_172 (dk_at dksX12_kind_0 6 rfl rfl)
abbrev cX12_name : ByteArray := prog_2_method_3_code
def yX12_name : MethodName := ⟨RX12, "name", "(LNamedPrices$Sees;I)I"⟩
def dkwX12_name_0 : List UInt8 := [43, 28, 185, 0, 11, 2, 0, 172]
abbrev dktX12_name_0 : List UInt8 := dkwX12_name_0 ++ []
theorem dksX12_name_0 : cX12_name.data.toList.drop 0 = dktX12_name_0 := by decide +kernel
theorem dX12_name_0 : decode cX12_name 0 = .ok (.aload_n 1, 1) := dk_43 (dk_at dksX12_name_0 0 rfl rfl)
theorem dX12_name_1 : decode cX12_name 1 = .ok (.iload_n 2, 1) := dk_28 (dk_at dksX12_name_0 1 rfl rfl)
theorem dX12_name_2 : decode cX12_name 2 = .ok (.invokeinterface 11 2, 5) := by decide +kernel
theorem dX12_name_7 : decode cX12_name 7 = .ok (.ireturn, 1) := dk_172 (dk_at dksX12_name_0 7 rfl rfl)
abbrev cX12_names : ByteArray := prog_2_method_4_code
def yX12_names : MethodName := ⟨RX12, "names", "(ILNamedPrices$Trace;)I"⟩
def dkwX12_names_0 : List UInt8 := [44, 16, 60, 182, 0, 17, 42, 27, 44, 183, 0, 23, 6, 104, 172]
abbrev dktX12_names_0 : List UInt8 := dkwX12_names_0 ++ []
theorem dksX12_names_0 : cX12_names.data.toList.drop 0 = dktX12_names_0 := by decide +kernel
theorem dX12_names_0 : decode cX12_names 0 = .ok (.aload_n 2, 1) := dk_44 (dk_at dksX12_names_0 0 rfl rfl)
theorem dX12_names_1 : decode cX12_names 1 = .ok (.bipush 60, 2) := dk_16 60 (dk_at dksX12_names_0 1 rfl rfl)
theorem dX12_names_3 : decode cX12_names 3 = .ok (.invokevirtual 17, 3) := dk_182 0 17 (dk_at dksX12_names_0 3 rfl rfl)
theorem dX12_names_6 : decode cX12_names 6 = .ok (.aload_n 0, 1) := dk_42 (dk_at dksX12_names_0 6 rfl rfl)
theorem dX12_names_7 : decode cX12_names 7 = .ok (.iload_n 1, 1) := dk_27 (dk_at dksX12_names_0 7 rfl rfl)
theorem dX12_names_8 : decode cX12_names 8 = .ok (.aload_n 2, 1) := dk_44 (dk_at dksX12_names_0 8 rfl rfl)
theorem dX12_names_9 : decode cX12_names 9 = .ok (.invokespecial 23, 3) := dk_183 0 23 (dk_at dksX12_names_0 9 rfl rfl)
theorem dX12_names_12 : decode cX12_names 12 = .ok (.iconst 3, 1) := dk_6 (dk_at dksX12_names_0 12 rfl rfl)
theorem dX12_names_13 : decode cX12_names 13 = .ok (.imul, 1) := dk_104 (dk_at dksX12_names_0 13 rfl rfl)
theorem dX12_names_14 : decode cX12_names 14 = .ok (.ireturn, 1) := dk_172 (dk_at dksX12_names_0 14 rfl rfl)
abbrev cX12_minds : ByteArray := prog_2_method_5_code
def yX12_minds : MethodName := ⟨RX12, "minds", "(ILNamedPrices$Trace;)I"⟩
def dkwX12_minds_0 : List UInt8 := [44, 16, 61, 182, 0, 17, 42, 27, 44, 183, 0, 27, 62, 29, 42, 3, 44, 182, 0, 30, 100, 172]
abbrev dktX12_minds_0 : List UInt8 := dkwX12_minds_0 ++ []
theorem dksX12_minds_0 : cX12_minds.data.toList.drop 0 = dktX12_minds_0 := by decide +kernel
theorem dX12_minds_0 : decode cX12_minds 0 = .ok (.aload_n 2, 1) := dk_44 (dk_at dksX12_minds_0 0 rfl rfl)
theorem dX12_minds_1 : decode cX12_minds 1 = .ok (.bipush 61, 2) := dk_16 61 (dk_at dksX12_minds_0 1 rfl rfl)
theorem dX12_minds_3 : decode cX12_minds 3 = .ok (.invokevirtual 17, 3) := dk_182 0 17 (dk_at dksX12_minds_0 3 rfl rfl)
theorem dX12_minds_6 : decode cX12_minds 6 = .ok (.aload_n 0, 1) := dk_42 (dk_at dksX12_minds_0 6 rfl rfl)
theorem dX12_minds_7 : decode cX12_minds 7 = .ok (.iload_n 1, 1) := dk_27 (dk_at dksX12_minds_0 7 rfl rfl)
theorem dX12_minds_8 : decode cX12_minds 8 = .ok (.aload_n 2, 1) := dk_44 (dk_at dksX12_minds_0 8 rfl rfl)
theorem dX12_minds_9 : decode cX12_minds 9 = .ok (.invokespecial 27, 3) := dk_183 0 27 (dk_at dksX12_minds_0 9 rfl rfl)
theorem dX12_minds_12 : decode cX12_minds 12 = .ok (.istore_n 3, 1) := dk_62 (dk_at dksX12_minds_0 12 rfl rfl)
theorem dX12_minds_13 : decode cX12_minds 13 = .ok (.iload_n 3, 1) := dk_29 (dk_at dksX12_minds_0 13 rfl rfl)
theorem dX12_minds_14 : decode cX12_minds 14 = .ok (.aload_n 0, 1) := dk_42 (dk_at dksX12_minds_0 14 rfl rfl)
theorem dX12_minds_15 : decode cX12_minds 15 = .ok (.iconst 0, 1) := dk_3 (dk_at dksX12_minds_0 15 rfl rfl)
theorem dX12_minds_16 : decode cX12_minds 16 = .ok (.aload_n 2, 1) := dk_44 (dk_at dksX12_minds_0 16 rfl rfl)
theorem dX12_minds_17 : decode cX12_minds 17 = .ok (.invokevirtual 30, 3) := dk_182 0 30 (dk_at dksX12_minds_0 17 rfl rfl)
theorem dX12_minds_20 : decode cX12_minds 20 = .ok (.isub, 1) := dk_100 (dk_at dksX12_minds_0 20 rfl rfl)
theorem dX12_minds_21 : decode cX12_minds 21 = .ok (.ireturn, 1) := dk_172 (dk_at dksX12_minds_0 21 rfl rfl)
theorem q102 : (Jvm.Cond.initialized "NamedPrices$Best") ∈ lw_all := lw_g (lw_at lw_m1 13 rfl) rfl
theorem q402 : (Jvm.Cond.instantiable "NamedPrices$Best" (3 : Nat)) ∈ lw_all := lw_g (lw_at lw_m2 73 rfl) rfl
theorem q404 : (Jvm.Cond.instanceMethod ({ cls := "NamedPrices$Best", name := "<init>", desc := "(III)V" } : Jvm.MethodName)) ∈ lw_all := lw_g (lw_at lw_m2 75 rfl) rfl
theorem q405 : (Jvm.Cond.code ({ cls := "NamedPrices$Best", name := "<init>", desc := "(III)V" } : Jvm.MethodName) prog_2_method_1_code (4 : Nat) (Option.none : Option Jvm.ClassFile.FieldType)) ∈ lw_all := lw_g (lw_at lw_m2 76 rfl) rfl
theorem q406 : (Jvm.Cond.methodLink "NamedPrices$Best" (1 : Nat) ({ cls := "NamedPrices$True", name := "<init>", desc := "(III)V" } : Jvm.MethodName)) ∈ lw_all := lw_g (lw_at lw_m2 77 rfl) rfl
theorem q407 : (Jvm.Cond.laysFinal "NamedPrices$Best" "NamedPrices$Namer" "number" "I") ∈ lw_all := lw_g (lw_at lw_m2 78 rfl) rfl
theorem q408 : (Jvm.Cond.laysFinal "NamedPrices$Best" "NamedPrices$Namer" "p" "I") ∈ lw_all := lw_g (lw_at lw_m2 79 rfl) rfl
theorem q409 : (Jvm.Cond.laysFinal "NamedPrices$Best" "NamedPrices$Namer" "q" "I") ∈ lw_all := lw_g (lw_at lw_m2 80 rfl) rfl
theorem q410 : (Jvm.Cond.superclass "NamedPrices$Best" "NamedPrices$True") ∈ lw_all := lw_g (lw_at lw_m2 81 rfl) rfl
theorem q435 : (Jvm.Cond.selects "NamedPrices$Best" ({ cls := "NamedPrices$Namer", name := "kind", desc := "()I" } : Jvm.MethodName) ({ cls := "NamedPrices$Best", name := "kind", desc := "()I" } : Jvm.MethodName)) ∈ lw_all := lw_g (lw_at lw_m2 106 rfl) rfl
theorem q436 : (Jvm.Cond.instanceMethod ({ cls := "NamedPrices$Best", name := "kind", desc := "()I" } : Jvm.MethodName)) ∈ lw_all := lw_g (lw_at lw_m2 107 rfl) rfl
theorem q437 : (Jvm.Cond.code ({ cls := "NamedPrices$Best", name := "kind", desc := "()I" } : Jvm.MethodName) prog_2_method_2_code (1 : Nat) (Option.some Jvm.ClassFile.FieldType.int)) ∈ lw_all := lw_g (lw_at lw_m2 108 rfl) rfl
theorem q438 : (Jvm.Cond.methodLink "NamedPrices$Best" (7 : Nat) ({ cls := "NamedPrices$True", name := "kind", desc := "()I" } : Jvm.MethodName)) ∈ lw_all := lw_g (lw_at lw_m2 109 rfl) rfl
theorem q840 : (Jvm.Cond.castable "NamedPrices$Best" "NamedPrices$Names") ∈ lw_tbl := lw_at lw_m4 31 rfl
theorem q841 : (Jvm.Cond.selects "NamedPrices$Best" ({ cls := "NamedPrices$Names", name := "name", desc := "(LNamedPrices$Sees;I)I" } : Jvm.MethodName) ({ cls := "NamedPrices$Best", name := "name", desc := "(LNamedPrices$Sees;I)I" } : Jvm.MethodName)) ∈ lw_all := lw_g (lw_at lw_m4 32 rfl) rfl
theorem q842 : (Jvm.Cond.unhidden "NamedPrices$Best" "name" "(LNamedPrices$Sees;I)I") ∈ lw_tbl := lw_at lw_m4 33 rfl
theorem q843 : (Jvm.Cond.instanceMethod ({ cls := "NamedPrices$Best", name := "name", desc := "(LNamedPrices$Sees;I)I" } : Jvm.MethodName)) ∈ lw_all := lw_g (lw_at lw_m4 34 rfl) rfl
theorem q844 : (Jvm.Cond.publicMethod ({ cls := "NamedPrices$Best", name := "name", desc := "(LNamedPrices$Sees;I)I" } : Jvm.MethodName)) ∈ lw_tbl := lw_at lw_m4 35 rfl
theorem q845 : (Jvm.Cond.code ({ cls := "NamedPrices$Best", name := "name", desc := "(LNamedPrices$Sees;I)I" } : Jvm.MethodName) prog_2_method_3_code (3 : Nat) (Option.some Jvm.ClassFile.FieldType.int)) ∈ lw_all := lw_g (lw_at lw_m4 36 rfl) rfl
theorem q846 : (Jvm.Cond.interfaceEntry "NamedPrices$Best" (11 : Nat)) ∈ lw_tbl := lw_at lw_m4 37 rfl
theorem q847 : (Jvm.Cond.methodLink "NamedPrices$Best" (11 : Nat) ({ cls := "NamedPrices$Sees", name := "best", desc := "(I)I" } : Jvm.MethodName)) ∈ lw_all := lw_g (lw_at lw_m4 38 rfl) rfl
theorem q1166 : (Jvm.Cond.selects "NamedPrices$Best" ({ cls := "NamedPrices$Namer", name := "names", desc := "(ILNamedPrices$Trace;)I" } : Jvm.MethodName) ({ cls := "NamedPrices$Best", name := "names", desc := "(ILNamedPrices$Trace;)I" } : Jvm.MethodName)) ∈ lw_all := lw_g (lw_at lw_m5 117 rfl) rfl
theorem q1167 : (Jvm.Cond.instanceMethod ({ cls := "NamedPrices$Best", name := "names", desc := "(ILNamedPrices$Trace;)I" } : Jvm.MethodName)) ∈ lw_all := lw_g (lw_at lw_m5 118 rfl) rfl
theorem q1168 : (Jvm.Cond.code ({ cls := "NamedPrices$Best", name := "names", desc := "(ILNamedPrices$Trace;)I" } : Jvm.MethodName) prog_2_method_4_code (3 : Nat) (Option.some Jvm.ClassFile.FieldType.int)) ∈ lw_all := lw_g (lw_at lw_m5 119 rfl) rfl
theorem q1169 : (Jvm.Cond.methodLink "NamedPrices$Best" (17 : Nat) ({ cls := "NamedPrices$Trace", name := "ran", desc := "(I)V" } : Jvm.MethodName)) ∈ lw_all := lw_g (lw_at lw_m5 120 rfl) rfl
theorem q1173 : (Jvm.Cond.methodLink "NamedPrices$Best" (23 : Nat) ({ cls := "NamedPrices$True", name := "names", desc := "(ILNamedPrices$Trace;)I" } : Jvm.MethodName)) ∈ lw_all := lw_g (lw_at lw_m5 124 rfl) rfl
theorem q1193 : (Jvm.Cond.unhidden "NamedPrices$Best" "buys" "(ILNamedPrices$Trace;)I") ∈ lw_tbl := lw_at lw_m5 144 rfl
theorem q1205 : (Jvm.Cond.castable "NamedPrices$Best" "NamedPrices$Buys") ∈ lw_tbl := lw_at lw_m5 156 rfl
theorem q1206 : (Jvm.Cond.selects "NamedPrices$Best" ({ cls := "NamedPrices$Buys", name := "names", desc := "(ILNamedPrices$Trace;)I" } : Jvm.MethodName) ({ cls := "NamedPrices$Best", name := "names", desc := "(ILNamedPrices$Trace;)I" } : Jvm.MethodName)) ∈ lw_all := lw_g (lw_at lw_m5 157 rfl) rfl
theorem q1207 : (Jvm.Cond.unhidden "NamedPrices$Best" "names" "(ILNamedPrices$Trace;)I") ∈ lw_tbl := lw_at lw_m5 158 rfl
theorem q1208 : (Jvm.Cond.publicMethod ({ cls := "NamedPrices$Best", name := "names", desc := "(ILNamedPrices$Trace;)I" } : Jvm.MethodName)) ∈ lw_tbl := lw_at lw_m5 159 rfl
theorem q1243 : (Jvm.Cond.selects "NamedPrices$Best" ({ cls := "NamedPrices$Namer", name := "pays", desc := "(ILNamedPrices$Trace;)I" } : Jvm.MethodName) ({ cls := "NamedPrices$Namer", name := "pays", desc := "(ILNamedPrices$Trace;)I" } : Jvm.MethodName)) ∈ lw_all := lw_g (lw_at lw_m5 194 rfl) rfl
theorem q1263 : (Jvm.Cond.selects "NamedPrices$Best" ({ cls := "NamedPrices$Namer", name := "minds", desc := "(ILNamedPrices$Trace;)I" } : Jvm.MethodName) ({ cls := "NamedPrices$Best", name := "minds", desc := "(ILNamedPrices$Trace;)I" } : Jvm.MethodName)) ∈ lw_all := lw_g (lw_at lw_m5 214 rfl) rfl
theorem q1264 : (Jvm.Cond.instanceMethod ({ cls := "NamedPrices$Best", name := "minds", desc := "(ILNamedPrices$Trace;)I" } : Jvm.MethodName)) ∈ lw_all := lw_g (lw_at lw_m5 215 rfl) rfl
theorem q1265 : (Jvm.Cond.code ({ cls := "NamedPrices$Best", name := "minds", desc := "(ILNamedPrices$Trace;)I" } : Jvm.MethodName) prog_2_method_5_code (4 : Nat) (Option.some Jvm.ClassFile.FieldType.int)) ∈ lw_all := lw_g (lw_at lw_m5 216 rfl) rfl
theorem q1266 : (Jvm.Cond.methodLink "NamedPrices$Best" (27 : Nat) ({ cls := "NamedPrices$True", name := "minds", desc := "(ILNamedPrices$Trace;)I" } : Jvm.MethodName)) ∈ lw_all := lw_g (lw_at lw_m5 217 rfl) rfl
theorem q1271 : (Jvm.Cond.methodLink "NamedPrices$Best" (30 : Nat) ({ cls := "NamedPrices$Best", name := "pays", desc := "(ILNamedPrices$Trace;)I" } : Jvm.MethodName)) ∈ lw_all := lw_g (lw_at lw_m5 222 rfl) rfl
theorem q1272 : (Jvm.Cond.sameMethod "NamedPrices$Best" "NamedPrices$Namer" "pays" "(ILNamedPrices$Trace;)I") ∈ lw_all := lw_g (lw_at lw_m5 223 rfl) rfl
theorem q1273 : (Jvm.Cond.selects "NamedPrices$Best" ({ cls := "NamedPrices$Best", name := "pays", desc := "(ILNamedPrices$Trace;)I" } : Jvm.MethodName) ({ cls := "NamedPrices$Namer", name := "pays", desc := "(ILNamedPrices$Trace;)I" } : Jvm.MethodName)) ∈ lw_all := lw_g (lw_at lw_m5 224 rfl) rfl
theorem q1864 : (Jvm.Cond.castable "NamedPrices$Best" "NamedPrices$Namer") ∈ lw_tbl := lw_at lw_m8 95 rfl
theorem q1870 : (Jvm.Cond.castable "NamedPrices$Best" "NamedPrices$True") ∈ lw_tbl := lw_at lw_m8 101 rfl
theorem in_X12 : ∀ w ∈ wsX120, w ∈ lw_all := lw_in wsX120 [407, 408, 409] (by decide +kernel) (by decide +kernel)
/-! NamedPrices$Reader -/
set_option maxRecDepth 100000
def RX13 : String := "NamedPrices$Reader"
def TX13 : u_T := fun k => match k with
  | 0 => ("NamedPrices$Reader", "tape", "[B", true)
  | 1 => ("NamedPrices$Reader", "size", "I", true)
  | 2 => ("NamedPrices$Reader", "names", "Ljava/lang/String;", true)
  | 3 => ("NamedPrices$Reader", "text", "LNamedPrices$Text;", true)
  | 4 => ("NamedPrices$Reader", "at", "I", false)
  | _ => ("NamedPrices$Reader", "open", "I", false)
def tyX13 : Nat → FieldType := fun k => match k with
  | 0 => .array .byte
  | 1 => .int
  | 2 => .object "java/lang/String"
  | 3 => .object "NamedPrices$Text"
  | 4 => .int
  | _ => .int
abbrev wsX130 : List Cond := u_ws RX13 TX13 6
theorem nmX13 : ∀ a, a < 6 → ∀ b, b < 6 → a ≠ b → (TX13 a).2.1 ≠ (TX13 b).2.1 := by decide +kernel
theorem tyX13_ok : ∀ k, k < 6 → parseFieldDescriptor (TX13 k).2.2.1 = some (tyX13 k) := by decide +kernel
abbrev cX13_init : ByteArray := prog_11_method_1_code
def yX13_init : MethodName := ⟨RX13, "<init>", "([BILjava/lang/String;)V"⟩
def dkwX13_init_1 : List UInt8 := [181, 0, 22, 42, 45, 181, 0, 26, 177]
abbrev dktX13_init_1 : List UInt8 := dkwX13_init_1 ++ []
def dkwX13_init_0 : List UInt8 := [42, 183, 0, 3, 42, 187, 0, 9, 89, 183, 0, 11, 181, 0, 12, 42, 43, 181, 0, 18, 42, 28]
abbrev dktX13_init_0 : List UInt8 := dkwX13_init_0 ++ dktX13_init_1
theorem dksX13_init_0 : cX13_init.data.toList.drop 0 = dktX13_init_0 := by decide +kernel
theorem dksX13_init_1 : cX13_init.data.toList.drop 22 = dktX13_init_1 := dk_seg dksX13_init_0 22 rfl rfl
theorem dX13_init_0 : decode cX13_init 0 = .ok (.aload_n 0, 1) := dk_42 (dk_at dksX13_init_0 0 rfl rfl)
theorem dX13_init_1 : decode cX13_init 1 = .ok (.invokespecial 3, 3) := dk_183 0 3 (dk_at dksX13_init_0 1 rfl rfl)
theorem dX13_init_4 : decode cX13_init 4 = .ok (.aload_n 0, 1) := dk_42 (dk_at dksX13_init_0 4 rfl rfl)
theorem dX13_init_5 : decode cX13_init 5 = .ok (.new 9, 3) := dk_187 0 9 (dk_at dksX13_init_0 5 rfl rfl)
theorem dX13_init_8 : decode cX13_init 8 = .ok (.dup, 1) := dk_89 (dk_at dksX13_init_0 8 rfl rfl)
theorem dX13_init_9 : decode cX13_init 9 = .ok (.invokespecial 11, 3) := dk_183 0 11 (dk_at dksX13_init_0 9 rfl rfl)
theorem dX13_init_12 : decode cX13_init 12 = .ok (.putfield 12, 3) := dk_181 0 12 (dk_at dksX13_init_0 12 rfl rfl)
theorem dX13_init_15 : decode cX13_init 15 = .ok (.aload_n 0, 1) := dk_42 (dk_at dksX13_init_0 15 rfl rfl)
theorem dX13_init_16 : decode cX13_init 16 = .ok (.aload_n 1, 1) := dk_43 (dk_at dksX13_init_0 16 rfl rfl)
theorem dX13_init_17 : decode cX13_init 17 = .ok (.putfield 18, 3) := dk_181 0 18 (dk_at dksX13_init_0 17 rfl rfl)
theorem dX13_init_20 : decode cX13_init 20 = .ok (.aload_n 0, 1) := dk_42 (dk_at dksX13_init_0 20 rfl rfl)
theorem dX13_init_21 : decode cX13_init 21 = .ok (.iload_n 2, 1) := dk_28 (dk_at dksX13_init_0 21 rfl rfl)
theorem dX13_init_22 : decode cX13_init 22 = .ok (.putfield 22, 3) := dk_181 0 22 (dk_at dksX13_init_1 0 rfl rfl)
theorem dX13_init_25 : decode cX13_init 25 = .ok (.aload_n 0, 1) := dk_42 (dk_at dksX13_init_1 3 rfl rfl)
theorem dX13_init_26 : decode cX13_init 26 = .ok (.aload_n 3, 1) := dk_45 (dk_at dksX13_init_1 4 rfl rfl)
theorem dX13_init_27 : decode cX13_init 27 = .ok (.putfield 26, 3) := dk_181 0 26 (dk_at dksX13_init_1 5 rfl rfl)
theorem dX13_init_30 : decode cX13_init 30 = .ok (.return_, 1) := dk_177 (dk_at dksX13_init_1 8 rfl rfl)
abbrev cX13_read : ByteArray := prog_11_method_6_code
def yX13_read : MethodName := ⟨RX13, "read", "()LNamedPrices$Text;"⟩
def dkwX13_read_1 : List UInt8 := [176]
abbrev dktX13_read_1 : List UInt8 := dkwX13_read_1 ++ []
def dkwX13_read_0 : List UInt8 := [42, 182, 0, 48, 42, 180, 0, 30, 42, 180, 0, 22, 162, 0, 8, 42, 182, 0, 51, 191, 42, 180, 0, 12]
abbrev dktX13_read_0 : List UInt8 := dkwX13_read_0 ++ dktX13_read_1
theorem dksX13_read_0 : cX13_read.data.toList.drop 0 = dktX13_read_0 := by decide +kernel
theorem dksX13_read_1 : cX13_read.data.toList.drop 24 = dktX13_read_1 := dk_seg dksX13_read_0 24 rfl rfl
theorem dX13_read_0 : decode cX13_read 0 = .ok (.aload_n 0, 1) := dk_42 (dk_at dksX13_read_0 0 rfl rfl)
theorem dX13_read_1 : decode cX13_read 1 = .ok (.invokevirtual 48, 3) := dk_182 0 48 (dk_at dksX13_read_0 1 rfl rfl)
theorem dX13_read_4 : decode cX13_read 4 = .ok (.aload_n 0, 1) := dk_42 (dk_at dksX13_read_0 4 rfl rfl)
theorem dX13_read_5 : decode cX13_read 5 = .ok (.getfield 30, 3) := dk_180 0 30 (dk_at dksX13_read_0 5 rfl rfl)
theorem dX13_read_8 : decode cX13_read 8 = .ok (.aload_n 0, 1) := dk_42 (dk_at dksX13_read_0 8 rfl rfl)
theorem dX13_read_9 : decode cX13_read 9 = .ok (.getfield 22, 3) := dk_180 0 22 (dk_at dksX13_read_0 9 rfl rfl)
theorem dX13_read_12 : decode cX13_read 12 = .ok (.if_icmp .ge 8, 3) := dk_162 0 8 (dk_at dksX13_read_0 12 rfl rfl)
theorem dX13_read_15 : decode cX13_read 15 = .ok (.aload_n 0, 1) := dk_42 (dk_at dksX13_read_0 15 rfl rfl)
theorem dX13_read_16 : decode cX13_read 16 = .ok (.invokevirtual 51, 3) := dk_182 0 51 (dk_at dksX13_read_0 16 rfl rfl)
theorem dX13_read_19 : decode cX13_read 19 = .ok (.athrow, 1) := dk_191 (dk_at dksX13_read_0 19 rfl rfl)
theorem dX13_read_20 : decode cX13_read 20 = .ok (.aload_n 0, 1) := dk_42 (dk_at dksX13_read_0 20 rfl rfl)
theorem dX13_read_21 : decode cX13_read 21 = .ok (.getfield 12, 3) := dk_180 0 12 (dk_at dksX13_read_0 21 rfl rfl)
theorem dX13_read_24 : decode cX13_read 24 = .ok (.areturn, 1) := dk_176 (dk_at dksX13_read_1 0 rfl rfl)
abbrev cX13_either : ByteArray := prog_11_method_7_code
def yX13_either : MethodName := ⟨RX13, "either", "()V"⟩
def dkwX13_either_1 : List UInt8 := [182, 0, 62, 167, 255, 233, 177]
abbrev dktX13_either_1 : List UInt8 := dkwX13_either_1 ++ []
def dkwX13_either_0 : List UInt8 := [42, 182, 0, 55, 42, 16, 124, 182, 0, 58, 153, 0, 20, 42, 182, 0, 55, 42, 180, 0, 12, 16, 124, 3]
abbrev dktX13_either_0 : List UInt8 := dkwX13_either_0 ++ dktX13_either_1
theorem dksX13_either_0 : cX13_either.data.toList.drop 0 = dktX13_either_0 := by decide +kernel
theorem dksX13_either_1 : cX13_either.data.toList.drop 24 = dktX13_either_1 := dk_seg dksX13_either_0 24 rfl rfl
theorem dX13_either_0 : decode cX13_either 0 = .ok (.aload_n 0, 1) := dk_42 (dk_at dksX13_either_0 0 rfl rfl)
theorem dX13_either_1 : decode cX13_either 1 = .ok (.invokevirtual 55, 3) := dk_182 0 55 (dk_at dksX13_either_0 1 rfl rfl)
theorem dX13_either_4 : decode cX13_either 4 = .ok (.aload_n 0, 1) := dk_42 (dk_at dksX13_either_0 4 rfl rfl)
theorem dX13_either_5 : decode cX13_either 5 = .ok (.bipush 124, 2) := dk_16 124 (dk_at dksX13_either_0 5 rfl rfl)
theorem dX13_either_7 : decode cX13_either 7 = .ok (.invokevirtual 58, 3) := dk_182 0 58 (dk_at dksX13_either_0 7 rfl rfl)
theorem dX13_either_10 : decode cX13_either 10 = .ok (.ifCond .eq 20, 3) := dk_153 0 20 (dk_at dksX13_either_0 10 rfl rfl)
theorem dX13_either_13 : decode cX13_either 13 = .ok (.aload_n 0, 1) := dk_42 (dk_at dksX13_either_0 13 rfl rfl)
theorem dX13_either_14 : decode cX13_either 14 = .ok (.invokevirtual 55, 3) := dk_182 0 55 (dk_at dksX13_either_0 14 rfl rfl)
theorem dX13_either_17 : decode cX13_either 17 = .ok (.aload_n 0, 1) := dk_42 (dk_at dksX13_either_0 17 rfl rfl)
theorem dX13_either_18 : decode cX13_either 18 = .ok (.getfield 12, 3) := dk_180 0 12 (dk_at dksX13_either_0 18 rfl rfl)
theorem dX13_either_21 : decode cX13_either 21 = .ok (.bipush 124, 2) := dk_16 124 (dk_at dksX13_either_0 21 rfl rfl)
theorem dX13_either_23 : decode cX13_either 23 = .ok (.iconst 0, 1) := dk_3 (dk_at dksX13_either_0 23 rfl rfl)
theorem dX13_either_24 : decode cX13_either 24 = .ok (.invokevirtual 62, 3) := dk_182 0 62 (dk_at dksX13_either_1 0 rfl rfl)
theorem dX13_either_27 : decode cX13_either 27 = .ok (.goto (-23), 3) := dk_167 255 233 (dk_at dksX13_either_1 3 rfl rfl)
theorem dX13_either_30 : decode cX13_either 30 = .ok (.return_, 1) := dk_177 (dk_at dksX13_either_1 6 rfl rfl)
abbrev cX13_both : ByteArray := prog_11_method_8_code
def yX13_both : MethodName := ⟨RX13, "both", "()V"⟩
def dkwX13_both_1 : List UInt8 := [182, 0, 62, 167, 255, 233, 177]
abbrev dktX13_both_1 : List UInt8 := dkwX13_both_1 ++ []
def dkwX13_both_0 : List UInt8 := [42, 182, 0, 66, 42, 16, 38, 182, 0, 58, 153, 0, 20, 42, 182, 0, 66, 42, 180, 0, 12, 16, 38, 3]
abbrev dktX13_both_0 : List UInt8 := dkwX13_both_0 ++ dktX13_both_1
theorem dksX13_both_0 : cX13_both.data.toList.drop 0 = dktX13_both_0 := by decide +kernel
theorem dksX13_both_1 : cX13_both.data.toList.drop 24 = dktX13_both_1 := dk_seg dksX13_both_0 24 rfl rfl
theorem dX13_both_0 : decode cX13_both 0 = .ok (.aload_n 0, 1) := dk_42 (dk_at dksX13_both_0 0 rfl rfl)
theorem dX13_both_1 : decode cX13_both 1 = .ok (.invokevirtual 66, 3) := dk_182 0 66 (dk_at dksX13_both_0 1 rfl rfl)
theorem dX13_both_4 : decode cX13_both 4 = .ok (.aload_n 0, 1) := dk_42 (dk_at dksX13_both_0 4 rfl rfl)
theorem dX13_both_5 : decode cX13_both 5 = .ok (.bipush 38, 2) := dk_16 38 (dk_at dksX13_both_0 5 rfl rfl)
theorem dX13_both_7 : decode cX13_both 7 = .ok (.invokevirtual 58, 3) := dk_182 0 58 (dk_at dksX13_both_0 7 rfl rfl)
theorem dX13_both_10 : decode cX13_both 10 = .ok (.ifCond .eq 20, 3) := dk_153 0 20 (dk_at dksX13_both_0 10 rfl rfl)
theorem dX13_both_13 : decode cX13_both 13 = .ok (.aload_n 0, 1) := dk_42 (dk_at dksX13_both_0 13 rfl rfl)
theorem dX13_both_14 : decode cX13_both 14 = .ok (.invokevirtual 66, 3) := dk_182 0 66 (dk_at dksX13_both_0 14 rfl rfl)
theorem dX13_both_17 : decode cX13_both 17 = .ok (.aload_n 0, 1) := dk_42 (dk_at dksX13_both_0 17 rfl rfl)
theorem dX13_both_18 : decode cX13_both 18 = .ok (.getfield 12, 3) := dk_180 0 12 (dk_at dksX13_both_0 18 rfl rfl)
theorem dX13_both_21 : decode cX13_both 21 = .ok (.bipush 38, 2) := dk_16 38 (dk_at dksX13_both_0 21 rfl rfl)
theorem dX13_both_23 : decode cX13_both 23 = .ok (.iconst 0, 1) := dk_3 (dk_at dksX13_both_0 23 rfl rfl)
theorem dX13_both_24 : decode cX13_both 24 = .ok (.invokevirtual 62, 3) := dk_182 0 62 (dk_at dksX13_both_1 0 rfl rfl)
theorem dX13_both_27 : decode cX13_both 27 = .ok (.goto (-23), 3) := dk_167 255 233 (dk_at dksX13_both_1 3 rfl rfl)
theorem dX13_both_30 : decode cX13_both 30 = .ok (.return_, 1) := dk_177 (dk_at dksX13_both_1 6 rfl rfl)
abbrev cX13_compared : ByteArray := prog_11_method_9_code
def yX13_compared : MethodName := ⟨RX13, "compared", "()V"⟩
def dkwX13_compared_1 : List UInt8 := [4, 96, 181, 0, 30, 42, 182, 0, 69, 42, 180, 0, 12, 27, 3, 182, 0, 62, 177]
abbrev dktX13_compared_1 : List UInt8 := dkwX13_compared_1 ++ []
def dkwX13_compared_0 : List UInt8 := [42, 182, 0, 69, 42, 18, 72, 182, 0, 74, 154, 0, 4, 177, 42, 182, 0, 33, 60, 42, 89, 180, 0, 30]
abbrev dktX13_compared_0 : List UInt8 := dkwX13_compared_0 ++ dktX13_compared_1
theorem dksX13_compared_0 : cX13_compared.data.toList.drop 0 = dktX13_compared_0 := by decide +kernel
theorem dksX13_compared_1 : cX13_compared.data.toList.drop 24 = dktX13_compared_1 := dk_seg dksX13_compared_0 24 rfl rfl
theorem dX13_compared_0 : decode cX13_compared 0 = .ok (.aload_n 0, 1) := dk_42 (dk_at dksX13_compared_0 0 rfl rfl)
theorem dX13_compared_1 : decode cX13_compared 1 = .ok (.invokevirtual 69, 3) := dk_182 0 69 (dk_at dksX13_compared_0 1 rfl rfl)
theorem dX13_compared_4 : decode cX13_compared 4 = .ok (.aload_n 0, 1) := dk_42 (dk_at dksX13_compared_0 4 rfl rfl)
theorem dX13_compared_5 : decode cX13_compared 5 = .ok (.ldc 72, 2) := dk_18 72 (dk_at dksX13_compared_0 5 rfl rfl)
theorem dX13_compared_7 : decode cX13_compared 7 = .ok (.invokevirtual 74, 3) := dk_182 0 74 (dk_at dksX13_compared_0 7 rfl rfl)
theorem dX13_compared_10 : decode cX13_compared 10 = .ok (.ifCond .ne 4, 3) := dk_154 0 4 (dk_at dksX13_compared_0 10 rfl rfl)
theorem dX13_compared_13 : decode cX13_compared 13 = .ok (.return_, 1) := dk_177 (dk_at dksX13_compared_0 13 rfl rfl)
theorem dX13_compared_14 : decode cX13_compared 14 = .ok (.aload_n 0, 1) := dk_42 (dk_at dksX13_compared_0 14 rfl rfl)
theorem dX13_compared_15 : decode cX13_compared 15 = .ok (.invokevirtual 33, 3) := dk_182 0 33 (dk_at dksX13_compared_0 15 rfl rfl)
theorem dX13_compared_18 : decode cX13_compared 18 = .ok (.istore_n 1, 1) := dk_60 (dk_at dksX13_compared_0 18 rfl rfl)
theorem dX13_compared_19 : decode cX13_compared 19 = .ok (.aload_n 0, 1) := dk_42 (dk_at dksX13_compared_0 19 rfl rfl)
theorem dX13_compared_20 : decode cX13_compared 20 = .ok (.dup, 1) := dk_89 (dk_at dksX13_compared_0 20 rfl rfl)
theorem dX13_compared_21 : decode cX13_compared 21 = .ok (.getfield 30, 3) := dk_180 0 30 (dk_at dksX13_compared_0 21 rfl rfl)
theorem dX13_compared_24 : decode cX13_compared 24 = .ok (.iconst 1, 1) := dk_4 (dk_at dksX13_compared_1 0 rfl rfl)
theorem dX13_compared_25 : decode cX13_compared 25 = .ok (.iadd, 1) := dk_96 (dk_at dksX13_compared_1 1 rfl rfl)
theorem dX13_compared_26 : decode cX13_compared 26 = .ok (.putfield 30, 3) := dk_181 0 30 (dk_at dksX13_compared_1 2 rfl rfl)
theorem dX13_compared_29 : decode cX13_compared 29 = .ok (.aload_n 0, 1) := dk_42 (dk_at dksX13_compared_1 5 rfl rfl)
theorem dX13_compared_30 : decode cX13_compared 30 = .ok (.invokevirtual 69, 3) := dk_182 0 69 (dk_at dksX13_compared_1 6 rfl rfl)
theorem dX13_compared_33 : decode cX13_compared 33 = .ok (.aload_n 0, 1) := dk_42 (dk_at dksX13_compared_1 9 rfl rfl)
theorem dX13_compared_34 : decode cX13_compared 34 = .ok (.getfield 12, 3) := dk_180 0 12 (dk_at dksX13_compared_1 10 rfl rfl)
theorem dX13_compared_37 : decode cX13_compared 37 = .ok (.iload_n 1, 1) := dk_27 (dk_at dksX13_compared_1 13 rfl rfl)
theorem dX13_compared_38 : decode cX13_compared 38 = .ok (.iconst 0, 1) := dk_3 (dk_at dksX13_compared_1 14 rfl rfl)
theorem dX13_compared_39 : decode cX13_compared 39 = .ok (.invokevirtual 62, 3) := dk_182 0 62 (dk_at dksX13_compared_1 15 rfl rfl)
theorem dX13_compared_42 : decode cX13_compared 42 = .ok (.return_, 1) := dk_177 (dk_at dksX13_compared_1 18 rfl rfl)
abbrev cX13_sum : ByteArray := prog_11_method_10_code
def yX13_sum : MethodName := ⟨RX13, "sum", "()V"⟩
def dkwX13_sum_1 : List UInt8 := [96, 181, 0, 30, 42, 182, 0, 78, 42, 180, 0, 12, 27, 3, 182, 0, 62, 167, 255, 219, 177]
abbrev dktX13_sum_1 : List UInt8 := dkwX13_sum_1 ++ []
def dkwX13_sum_0 : List UInt8 := [42, 182, 0, 78, 42, 18, 81, 182, 0, 74, 153, 0, 34, 42, 182, 0, 33, 60, 42, 89, 180, 0, 30, 4]
abbrev dktX13_sum_0 : List UInt8 := dkwX13_sum_0 ++ dktX13_sum_1
theorem dksX13_sum_0 : cX13_sum.data.toList.drop 0 = dktX13_sum_0 := by decide +kernel
theorem dksX13_sum_1 : cX13_sum.data.toList.drop 24 = dktX13_sum_1 := dk_seg dksX13_sum_0 24 rfl rfl
theorem dX13_sum_0 : decode cX13_sum 0 = .ok (.aload_n 0, 1) := dk_42 (dk_at dksX13_sum_0 0 rfl rfl)
theorem dX13_sum_1 : decode cX13_sum 1 = .ok (.invokevirtual 78, 3) := dk_182 0 78 (dk_at dksX13_sum_0 1 rfl rfl)
theorem dX13_sum_4 : decode cX13_sum 4 = .ok (.aload_n 0, 1) := dk_42 (dk_at dksX13_sum_0 4 rfl rfl)
theorem dX13_sum_5 : decode cX13_sum 5 = .ok (.ldc 81, 2) := dk_18 81 (dk_at dksX13_sum_0 5 rfl rfl)
theorem dX13_sum_7 : decode cX13_sum 7 = .ok (.invokevirtual 74, 3) := dk_182 0 74 (dk_at dksX13_sum_0 7 rfl rfl)
theorem dX13_sum_10 : decode cX13_sum 10 = .ok (.ifCond .eq 34, 3) := dk_153 0 34 (dk_at dksX13_sum_0 10 rfl rfl)
theorem dX13_sum_13 : decode cX13_sum 13 = .ok (.aload_n 0, 1) := dk_42 (dk_at dksX13_sum_0 13 rfl rfl)
theorem dX13_sum_14 : decode cX13_sum 14 = .ok (.invokevirtual 33, 3) := dk_182 0 33 (dk_at dksX13_sum_0 14 rfl rfl)
theorem dX13_sum_17 : decode cX13_sum 17 = .ok (.istore_n 1, 1) := dk_60 (dk_at dksX13_sum_0 17 rfl rfl)
theorem dX13_sum_18 : decode cX13_sum 18 = .ok (.aload_n 0, 1) := dk_42 (dk_at dksX13_sum_0 18 rfl rfl)
theorem dX13_sum_19 : decode cX13_sum 19 = .ok (.dup, 1) := dk_89 (dk_at dksX13_sum_0 19 rfl rfl)
theorem dX13_sum_20 : decode cX13_sum 20 = .ok (.getfield 30, 3) := dk_180 0 30 (dk_at dksX13_sum_0 20 rfl rfl)
theorem dX13_sum_23 : decode cX13_sum 23 = .ok (.iconst 1, 1) := dk_4 (dk_at dksX13_sum_0 23 rfl rfl)
theorem dX13_sum_24 : decode cX13_sum 24 = .ok (.iadd, 1) := dk_96 (dk_at dksX13_sum_1 0 rfl rfl)
theorem dX13_sum_25 : decode cX13_sum 25 = .ok (.putfield 30, 3) := dk_181 0 30 (dk_at dksX13_sum_1 1 rfl rfl)
theorem dX13_sum_28 : decode cX13_sum 28 = .ok (.aload_n 0, 1) := dk_42 (dk_at dksX13_sum_1 4 rfl rfl)
theorem dX13_sum_29 : decode cX13_sum 29 = .ok (.invokevirtual 78, 3) := dk_182 0 78 (dk_at dksX13_sum_1 5 rfl rfl)
theorem dX13_sum_32 : decode cX13_sum 32 = .ok (.aload_n 0, 1) := dk_42 (dk_at dksX13_sum_1 8 rfl rfl)
theorem dX13_sum_33 : decode cX13_sum 33 = .ok (.getfield 12, 3) := dk_180 0 12 (dk_at dksX13_sum_1 9 rfl rfl)
theorem dX13_sum_36 : decode cX13_sum 36 = .ok (.iload_n 1, 1) := dk_27 (dk_at dksX13_sum_1 12 rfl rfl)
theorem dX13_sum_37 : decode cX13_sum 37 = .ok (.iconst 0, 1) := dk_3 (dk_at dksX13_sum_1 13 rfl rfl)
theorem dX13_sum_38 : decode cX13_sum 38 = .ok (.invokevirtual 62, 3) := dk_182 0 62 (dk_at dksX13_sum_1 14 rfl rfl)
theorem dX13_sum_41 : decode cX13_sum 41 = .ok (.goto (-37), 3) := dk_167 255 219 (dk_at dksX13_sum_1 17 rfl rfl)
theorem dX13_sum_44 : decode cX13_sum 44 = .ok (.return_, 1) := dk_177 (dk_at dksX13_sum_1 20 rfl rfl)
abbrev cX13_product : ByteArray := prog_11_method_11_code
def yX13_product : MethodName := ⟨RX13, "product", "()V"⟩
def dkwX13_product_1 : List UInt8 := [96, 181, 0, 30, 42, 182, 0, 83, 42, 180, 0, 12, 27, 3, 182, 0, 62, 167, 255, 219, 177]
abbrev dktX13_product_1 : List UInt8 := dkwX13_product_1 ++ []
def dkwX13_product_0 : List UInt8 := [42, 182, 0, 83, 42, 18, 86, 182, 0, 74, 153, 0, 34, 42, 182, 0, 33, 60, 42, 89, 180, 0, 30, 4]
abbrev dktX13_product_0 : List UInt8 := dkwX13_product_0 ++ dktX13_product_1
theorem dksX13_product_0 : cX13_product.data.toList.drop 0 = dktX13_product_0 := by decide +kernel
theorem dksX13_product_1 : cX13_product.data.toList.drop 24 = dktX13_product_1 := dk_seg dksX13_product_0 24 rfl rfl
theorem dX13_product_0 : decode cX13_product 0 = .ok (.aload_n 0, 1) := dk_42 (dk_at dksX13_product_0 0 rfl rfl)
theorem dX13_product_1 : decode cX13_product 1 = .ok (.invokevirtual 83, 3) := dk_182 0 83 (dk_at dksX13_product_0 1 rfl rfl)
theorem dX13_product_4 : decode cX13_product 4 = .ok (.aload_n 0, 1) := dk_42 (dk_at dksX13_product_0 4 rfl rfl)
theorem dX13_product_5 : decode cX13_product 5 = .ok (.ldc 86, 2) := dk_18 86 (dk_at dksX13_product_0 5 rfl rfl)
theorem dX13_product_7 : decode cX13_product 7 = .ok (.invokevirtual 74, 3) := dk_182 0 74 (dk_at dksX13_product_0 7 rfl rfl)
theorem dX13_product_10 : decode cX13_product 10 = .ok (.ifCond .eq 34, 3) := dk_153 0 34 (dk_at dksX13_product_0 10 rfl rfl)
theorem dX13_product_13 : decode cX13_product 13 = .ok (.aload_n 0, 1) := dk_42 (dk_at dksX13_product_0 13 rfl rfl)
theorem dX13_product_14 : decode cX13_product 14 = .ok (.invokevirtual 33, 3) := dk_182 0 33 (dk_at dksX13_product_0 14 rfl rfl)
theorem dX13_product_17 : decode cX13_product 17 = .ok (.istore_n 1, 1) := dk_60 (dk_at dksX13_product_0 17 rfl rfl)
theorem dX13_product_18 : decode cX13_product 18 = .ok (.aload_n 0, 1) := dk_42 (dk_at dksX13_product_0 18 rfl rfl)
theorem dX13_product_19 : decode cX13_product 19 = .ok (.dup, 1) := dk_89 (dk_at dksX13_product_0 19 rfl rfl)
theorem dX13_product_20 : decode cX13_product 20 = .ok (.getfield 30, 3) := dk_180 0 30 (dk_at dksX13_product_0 20 rfl rfl)
theorem dX13_product_23 : decode cX13_product 23 = .ok (.iconst 1, 1) := dk_4 (dk_at dksX13_product_0 23 rfl rfl)
theorem dX13_product_24 : decode cX13_product 24 = .ok (.iadd, 1) := dk_96 (dk_at dksX13_product_1 0 rfl rfl)
theorem dX13_product_25 : decode cX13_product 25 = .ok (.putfield 30, 3) := dk_181 0 30 (dk_at dksX13_product_1 1 rfl rfl)
theorem dX13_product_28 : decode cX13_product 28 = .ok (.aload_n 0, 1) := dk_42 (dk_at dksX13_product_1 4 rfl rfl)
theorem dX13_product_29 : decode cX13_product 29 = .ok (.invokevirtual 83, 3) := dk_182 0 83 (dk_at dksX13_product_1 5 rfl rfl)
theorem dX13_product_32 : decode cX13_product 32 = .ok (.aload_n 0, 1) := dk_42 (dk_at dksX13_product_1 8 rfl rfl)
theorem dX13_product_33 : decode cX13_product 33 = .ok (.getfield 12, 3) := dk_180 0 12 (dk_at dksX13_product_1 9 rfl rfl)
theorem dX13_product_36 : decode cX13_product 36 = .ok (.iload_n 1, 1) := dk_27 (dk_at dksX13_product_1 12 rfl rfl)
theorem dX13_product_37 : decode cX13_product 37 = .ok (.iconst 0, 1) := dk_3 (dk_at dksX13_product_1 13 rfl rfl)
theorem dX13_product_38 : decode cX13_product 38 = .ok (.invokevirtual 62, 3) := dk_182 0 62 (dk_at dksX13_product_1 14 rfl rfl)
theorem dX13_product_41 : decode cX13_product 41 = .ok (.goto (-37), 3) := dk_167 255 219 (dk_at dksX13_product_1 17 rfl rfl)
theorem dX13_product_44 : decode cX13_product 44 = .ok (.return_, 1) := dk_177 (dk_at dksX13_product_1 20 rfl rfl)
abbrev cX13_unit : ByteArray := prog_11_method_13_code
def yX13_unit : MethodName := ⟨RX13, "unit", "()V"⟩
def dkwX13_unit_5 : List UInt8 := [180, 0, 30, 4, 96, 181, 0, 30, 167, 0, 15, 42, 180, 0, 12, 4, 42, 182, 0, 94, 182, 0, 62, 177]
abbrev dktX13_unit_5 : List UInt8 := dkwX13_unit_5 ++ []
def dkwX13_unit_4 : List UInt8 := [153, 0, 35, 42, 180, 0, 12, 5, 42, 180, 0, 26, 42, 182, 0, 33, 182, 0, 37, 182, 0, 62, 42, 89]
abbrev dktX13_unit_4 : List UInt8 := dkwX13_unit_4 ++ dktX13_unit_5
def dkwX13_unit_3 : List UInt8 := [191, 42, 89, 180, 0, 88, 4, 100, 181, 0, 88, 167, 0, 58, 42, 42, 180, 0, 26, 182, 0, 74]
abbrev dktX13_unit_3 : List UInt8 := dkwX13_unit_3 ++ dktX13_unit_4
def dkwX13_unit_2 : List UInt8 := [160, 0, 38, 42, 182, 0, 91, 42, 182, 0, 48, 42, 16, 41, 182, 0, 58, 154, 0, 8, 42, 182, 0, 51]
abbrev dktX13_unit_2 : List UInt8 := dkwX13_unit_2 ++ dktX13_unit_3
def dkwX13_unit_1 : List UInt8 := [182, 0, 62, 42, 89, 180, 0, 88, 4, 100, 181, 0, 88, 167, 0, 102, 42, 182, 0, 33, 16, 40]
abbrev dktX13_unit_1 : List UInt8 := dkwX13_unit_1 ++ dktX13_unit_2
def dkwX13_unit_0 : List UInt8 := [42, 182, 0, 33, 16, 33, 160, 0, 33, 42, 182, 0, 91, 42, 182, 0, 83, 42, 180, 0, 12, 6, 3]
abbrev dktX13_unit_0 : List UInt8 := dkwX13_unit_0 ++ dktX13_unit_1
theorem dksX13_unit_0 : cX13_unit.data.toList.drop 0 = dktX13_unit_0 := by decide +kernel
theorem dksX13_unit_1 : cX13_unit.data.toList.drop 23 = dktX13_unit_1 := dk_seg dksX13_unit_0 23 rfl rfl
theorem dksX13_unit_2 : cX13_unit.data.toList.drop 45 = dktX13_unit_2 := dk_seg dksX13_unit_1 22 rfl rfl
theorem dksX13_unit_3 : cX13_unit.data.toList.drop 69 = dktX13_unit_3 := dk_seg dksX13_unit_2 24 rfl rfl
theorem dksX13_unit_4 : cX13_unit.data.toList.drop 91 = dktX13_unit_4 := dk_seg dksX13_unit_3 22 rfl rfl
theorem dksX13_unit_5 : cX13_unit.data.toList.drop 115 = dktX13_unit_5 := dk_seg dksX13_unit_4 24 rfl rfl
theorem dX13_unit_0 : decode cX13_unit 0 = .ok (.aload_n 0, 1) := dk_42 (dk_at dksX13_unit_0 0 rfl rfl)
theorem dX13_unit_1 : decode cX13_unit 1 = .ok (.invokevirtual 33, 3) := dk_182 0 33 (dk_at dksX13_unit_0 1 rfl rfl)
theorem dX13_unit_4 : decode cX13_unit 4 = .ok (.bipush 33, 2) := dk_16 33 (dk_at dksX13_unit_0 4 rfl rfl)
theorem dX13_unit_6 : decode cX13_unit 6 = .ok (.if_icmp .ne 33, 3) := dk_160 0 33 (dk_at dksX13_unit_0 6 rfl rfl)
theorem dX13_unit_9 : decode cX13_unit 9 = .ok (.aload_n 0, 1) := dk_42 (dk_at dksX13_unit_0 9 rfl rfl)
theorem dX13_unit_10 : decode cX13_unit 10 = .ok (.invokevirtual 91, 3) := dk_182 0 91 (dk_at dksX13_unit_0 10 rfl rfl)
theorem dX13_unit_13 : decode cX13_unit 13 = .ok (.aload_n 0, 1) := dk_42 (dk_at dksX13_unit_0 13 rfl rfl)
theorem dX13_unit_14 : decode cX13_unit 14 = .ok (.invokevirtual 83, 3) := dk_182 0 83 (dk_at dksX13_unit_0 14 rfl rfl)
theorem dX13_unit_17 : decode cX13_unit 17 = .ok (.aload_n 0, 1) := dk_42 (dk_at dksX13_unit_0 17 rfl rfl)
theorem dX13_unit_18 : decode cX13_unit 18 = .ok (.getfield 12, 3) := dk_180 0 12 (dk_at dksX13_unit_0 18 rfl rfl)
theorem dX13_unit_21 : decode cX13_unit 21 = .ok (.iconst 3, 1) := dk_6 (dk_at dksX13_unit_0 21 rfl rfl)
theorem dX13_unit_22 : decode cX13_unit 22 = .ok (.iconst 0, 1) := dk_3 (dk_at dksX13_unit_0 22 rfl rfl)
theorem dX13_unit_23 : decode cX13_unit 23 = .ok (.invokevirtual 62, 3) := dk_182 0 62 (dk_at dksX13_unit_1 0 rfl rfl)
theorem dX13_unit_26 : decode cX13_unit 26 = .ok (.aload_n 0, 1) := dk_42 (dk_at dksX13_unit_1 3 rfl rfl)
theorem dX13_unit_27 : decode cX13_unit 27 = .ok (.dup, 1) := dk_89 (dk_at dksX13_unit_1 4 rfl rfl)
theorem dX13_unit_28 : decode cX13_unit 28 = .ok (.getfield 88, 3) := dk_180 0 88 (dk_at dksX13_unit_1 5 rfl rfl)
theorem dX13_unit_31 : decode cX13_unit 31 = .ok (.iconst 1, 1) := dk_4 (dk_at dksX13_unit_1 8 rfl rfl)
theorem dX13_unit_32 : decode cX13_unit 32 = .ok (.isub, 1) := dk_100 (dk_at dksX13_unit_1 9 rfl rfl)
theorem dX13_unit_33 : decode cX13_unit 33 = .ok (.putfield 88, 3) := dk_181 0 88 (dk_at dksX13_unit_1 10 rfl rfl)
theorem dX13_unit_36 : decode cX13_unit 36 = .ok (.goto 102, 3) := dk_167 0 102 (dk_at dksX13_unit_1 13 rfl rfl)
theorem dX13_unit_39 : decode cX13_unit 39 = .ok (.aload_n 0, 1) := dk_42 (dk_at dksX13_unit_1 16 rfl rfl)
theorem dX13_unit_40 : decode cX13_unit 40 = .ok (.invokevirtual 33, 3) := dk_182 0 33 (dk_at dksX13_unit_1 17 rfl rfl)
theorem dX13_unit_43 : decode cX13_unit 43 = .ok (.bipush 40, 2) := dk_16 40 (dk_at dksX13_unit_1 20 rfl rfl)
theorem dX13_unit_45 : decode cX13_unit 45 = .ok (.if_icmp .ne 38, 3) := dk_160 0 38 (dk_at dksX13_unit_2 0 rfl rfl)
theorem dX13_unit_48 : decode cX13_unit 48 = .ok (.aload_n 0, 1) := dk_42 (dk_at dksX13_unit_2 3 rfl rfl)
theorem dX13_unit_49 : decode cX13_unit 49 = .ok (.invokevirtual 91, 3) := dk_182 0 91 (dk_at dksX13_unit_2 4 rfl rfl)
theorem dX13_unit_52 : decode cX13_unit 52 = .ok (.aload_n 0, 1) := dk_42 (dk_at dksX13_unit_2 7 rfl rfl)
theorem dX13_unit_53 : decode cX13_unit 53 = .ok (.invokevirtual 48, 3) := dk_182 0 48 (dk_at dksX13_unit_2 8 rfl rfl)
theorem dX13_unit_56 : decode cX13_unit 56 = .ok (.aload_n 0, 1) := dk_42 (dk_at dksX13_unit_2 11 rfl rfl)
theorem dX13_unit_57 : decode cX13_unit 57 = .ok (.bipush 41, 2) := dk_16 41 (dk_at dksX13_unit_2 12 rfl rfl)
theorem dX13_unit_59 : decode cX13_unit 59 = .ok (.invokevirtual 58, 3) := dk_182 0 58 (dk_at dksX13_unit_2 14 rfl rfl)
theorem dX13_unit_62 : decode cX13_unit 62 = .ok (.ifCond .ne 8, 3) := dk_154 0 8 (dk_at dksX13_unit_2 17 rfl rfl)
theorem dX13_unit_65 : decode cX13_unit 65 = .ok (.aload_n 0, 1) := dk_42 (dk_at dksX13_unit_2 20 rfl rfl)
theorem dX13_unit_66 : decode cX13_unit 66 = .ok (.invokevirtual 51, 3) := dk_182 0 51 (dk_at dksX13_unit_2 21 rfl rfl)
theorem dX13_unit_69 : decode cX13_unit 69 = .ok (.athrow, 1) := dk_191 (dk_at dksX13_unit_3 0 rfl rfl)
theorem dX13_unit_70 : decode cX13_unit 70 = .ok (.aload_n 0, 1) := dk_42 (dk_at dksX13_unit_3 1 rfl rfl)
theorem dX13_unit_71 : decode cX13_unit 71 = .ok (.dup, 1) := dk_89 (dk_at dksX13_unit_3 2 rfl rfl)
theorem dX13_unit_72 : decode cX13_unit 72 = .ok (.getfield 88, 3) := dk_180 0 88 (dk_at dksX13_unit_3 3 rfl rfl)
theorem dX13_unit_75 : decode cX13_unit 75 = .ok (.iconst 1, 1) := dk_4 (dk_at dksX13_unit_3 6 rfl rfl)
theorem dX13_unit_76 : decode cX13_unit 76 = .ok (.isub, 1) := dk_100 (dk_at dksX13_unit_3 7 rfl rfl)
theorem dX13_unit_77 : decode cX13_unit 77 = .ok (.putfield 88, 3) := dk_181 0 88 (dk_at dksX13_unit_3 8 rfl rfl)
theorem dX13_unit_80 : decode cX13_unit 80 = .ok (.goto 58, 3) := dk_167 0 58 (dk_at dksX13_unit_3 11 rfl rfl)
theorem dX13_unit_83 : decode cX13_unit 83 = .ok (.aload_n 0, 1) := dk_42 (dk_at dksX13_unit_3 14 rfl rfl)
theorem dX13_unit_84 : decode cX13_unit 84 = .ok (.aload_n 0, 1) := dk_42 (dk_at dksX13_unit_3 15 rfl rfl)
theorem dX13_unit_85 : decode cX13_unit 85 = .ok (.getfield 26, 3) := dk_180 0 26 (dk_at dksX13_unit_3 16 rfl rfl)
theorem dX13_unit_88 : decode cX13_unit 88 = .ok (.invokevirtual 74, 3) := dk_182 0 74 (dk_at dksX13_unit_3 19 rfl rfl)
theorem dX13_unit_91 : decode cX13_unit 91 = .ok (.ifCond .eq 35, 3) := dk_153 0 35 (dk_at dksX13_unit_4 0 rfl rfl)
theorem dX13_unit_94 : decode cX13_unit 94 = .ok (.aload_n 0, 1) := dk_42 (dk_at dksX13_unit_4 3 rfl rfl)
theorem dX13_unit_95 : decode cX13_unit 95 = .ok (.getfield 12, 3) := dk_180 0 12 (dk_at dksX13_unit_4 4 rfl rfl)
theorem dX13_unit_98 : decode cX13_unit 98 = .ok (.iconst 2, 1) := dk_5 (dk_at dksX13_unit_4 7 rfl rfl)
theorem dX13_unit_99 : decode cX13_unit 99 = .ok (.aload_n 0, 1) := dk_42 (dk_at dksX13_unit_4 8 rfl rfl)
theorem dX13_unit_100 : decode cX13_unit 100 = .ok (.getfield 26, 3) := dk_180 0 26 (dk_at dksX13_unit_4 9 rfl rfl)
theorem dX13_unit_103 : decode cX13_unit 103 = .ok (.aload_n 0, 1) := dk_42 (dk_at dksX13_unit_4 12 rfl rfl)
theorem dX13_unit_104 : decode cX13_unit 104 = .ok (.invokevirtual 33, 3) := dk_182 0 33 (dk_at dksX13_unit_4 13 rfl rfl)
theorem dX13_unit_107 : decode cX13_unit 107 = .ok (.invokevirtual 37, 3) := dk_182 0 37 (dk_at dksX13_unit_4 16 rfl rfl)
theorem dX13_unit_110 : decode cX13_unit 110 = .ok (.invokevirtual 62, 3) := dk_182 0 62 (dk_at dksX13_unit_4 19 rfl rfl)
theorem dX13_unit_113 : decode cX13_unit 113 = .ok (.aload_n 0, 1) := dk_42 (dk_at dksX13_unit_4 22 rfl rfl)
theorem dX13_unit_114 : decode cX13_unit 114 = .ok (.dup, 1) := dk_89 (dk_at dksX13_unit_4 23 rfl rfl)
theorem dX13_unit_115 : decode cX13_unit 115 = .ok (.getfield 30, 3) := dk_180 0 30 (dk_at dksX13_unit_5 0 rfl rfl)
theorem dX13_unit_118 : decode cX13_unit 118 = .ok (.iconst 1, 1) := dk_4 (dk_at dksX13_unit_5 3 rfl rfl)
theorem dX13_unit_119 : decode cX13_unit 119 = .ok (.iadd, 1) := dk_96 (dk_at dksX13_unit_5 4 rfl rfl)
theorem dX13_unit_120 : decode cX13_unit 120 = .ok (.putfield 30, 3) := dk_181 0 30 (dk_at dksX13_unit_5 5 rfl rfl)
theorem dX13_unit_123 : decode cX13_unit 123 = .ok (.goto 15, 3) := dk_167 0 15 (dk_at dksX13_unit_5 8 rfl rfl)
theorem dX13_unit_126 : decode cX13_unit 126 = .ok (.aload_n 0, 1) := dk_42 (dk_at dksX13_unit_5 11 rfl rfl)
theorem dX13_unit_127 : decode cX13_unit 127 = .ok (.getfield 12, 3) := dk_180 0 12 (dk_at dksX13_unit_5 12 rfl rfl)
theorem dX13_unit_130 : decode cX13_unit 130 = .ok (.iconst 1, 1) := dk_4 (dk_at dksX13_unit_5 15 rfl rfl)
theorem dX13_unit_131 : decode cX13_unit 131 = .ok (.aload_n 0, 1) := dk_42 (dk_at dksX13_unit_5 16 rfl rfl)
theorem dX13_unit_132 : decode cX13_unit 132 = .ok (.invokevirtual 94, 3) := dk_182 0 94 (dk_at dksX13_unit_5 17 rfl rfl)
theorem dX13_unit_135 : decode cX13_unit 135 = .ok (.invokevirtual 62, 3) := dk_182 0 62 (dk_at dksX13_unit_5 20 rfl rfl)
theorem dX13_unit_138 : decode cX13_unit 138 = .ok (.return_, 1) := dk_177 (dk_at dksX13_unit_5 23 rfl rfl)
abbrev cX13_here : ByteArray := prog_11_method_2_code
def yX13_here : MethodName := ⟨RX13, "here", "()I"⟩
def dkwX13_here_1 : List UInt8 := [172]
abbrev dktX13_here_1 : List UInt8 := dkwX13_here_1 ++ []
def dkwX13_here_0 : List UInt8 := [42, 180, 0, 30, 42, 180, 0, 22, 162, 0, 15, 42, 180, 0, 18, 42, 180, 0, 30, 51, 167, 0, 4, 2]
abbrev dktX13_here_0 : List UInt8 := dkwX13_here_0 ++ dktX13_here_1
theorem dksX13_here_0 : cX13_here.data.toList.drop 0 = dktX13_here_0 := by decide +kernel
theorem dksX13_here_1 : cX13_here.data.toList.drop 24 = dktX13_here_1 := dk_seg dksX13_here_0 24 rfl rfl
theorem dX13_here_0 : decode cX13_here 0 = .ok (.aload_n 0, 1) := dk_42 (dk_at dksX13_here_0 0 rfl rfl)
theorem dX13_here_1 : decode cX13_here 1 = .ok (.getfield 30, 3) := dk_180 0 30 (dk_at dksX13_here_0 1 rfl rfl)
theorem dX13_here_4 : decode cX13_here 4 = .ok (.aload_n 0, 1) := dk_42 (dk_at dksX13_here_0 4 rfl rfl)
theorem dX13_here_5 : decode cX13_here 5 = .ok (.getfield 22, 3) := dk_180 0 22 (dk_at dksX13_here_0 5 rfl rfl)
theorem dX13_here_8 : decode cX13_here 8 = .ok (.if_icmp .ge 15, 3) := dk_162 0 15 (dk_at dksX13_here_0 8 rfl rfl)
theorem dX13_here_11 : decode cX13_here 11 = .ok (.aload_n 0, 1) := dk_42 (dk_at dksX13_here_0 11 rfl rfl)
theorem dX13_here_12 : decode cX13_here 12 = .ok (.getfield 18, 3) := dk_180 0 18 (dk_at dksX13_here_0 12 rfl rfl)
theorem dX13_here_15 : decode cX13_here 15 = .ok (.aload_n 0, 1) := dk_42 (dk_at dksX13_here_0 15 rfl rfl)
theorem dX13_here_16 : decode cX13_here 16 = .ok (.getfield 30, 3) := dk_180 0 30 (dk_at dksX13_here_0 16 rfl rfl)
theorem dX13_here_19 : decode cX13_here 19 = .ok (.baload, 1) := dk_51 (dk_at dksX13_here_0 19 rfl rfl)
theorem dX13_here_20 : decode cX13_here 20 = .ok (.goto 4, 3) := dk_167 0 4 (dk_at dksX13_here_0 20 rfl rfl)
theorem dX13_here_23 : decode cX13_here 23 = .ok (.iconst (-1), 1) := dk_2 (dk_at dksX13_here_0 23 rfl rfl)
theorem dX13_here_24 : decode cX13_here 24 = .ok (.ireturn, 1) := dk_172 (dk_at dksX13_here_1 0 rfl rfl)
abbrev cX13_opens : ByteArray := prog_11_method_12_code
def yX13_opens : MethodName := ⟨RX13, "opens", "()V"⟩
def dkwX13_opens_1 : List UInt8 := [89, 180, 0, 30, 4, 96, 181, 0, 30, 177]
abbrev dktX13_opens_1 : List UInt8 := dkwX13_opens_1 ++ []
def dkwX13_opens_0 : List UInt8 := [42, 180, 0, 88, 8, 160, 0, 8, 42, 182, 0, 51, 191, 42, 89, 180, 0, 88, 4, 96, 181, 0, 88, 42]
abbrev dktX13_opens_0 : List UInt8 := dkwX13_opens_0 ++ dktX13_opens_1
theorem dksX13_opens_0 : cX13_opens.data.toList.drop 0 = dktX13_opens_0 := by decide +kernel
theorem dksX13_opens_1 : cX13_opens.data.toList.drop 24 = dktX13_opens_1 := dk_seg dksX13_opens_0 24 rfl rfl
theorem dX13_opens_0 : decode cX13_opens 0 = .ok (.aload_n 0, 1) := dk_42 (dk_at dksX13_opens_0 0 rfl rfl)
theorem dX13_opens_1 : decode cX13_opens 1 = .ok (.getfield 88, 3) := dk_180 0 88 (dk_at dksX13_opens_0 1 rfl rfl)
theorem dX13_opens_4 : decode cX13_opens 4 = .ok (.iconst 5, 1) := dk_8 (dk_at dksX13_opens_0 4 rfl rfl)
theorem dX13_opens_5 : decode cX13_opens 5 = .ok (.if_icmp .ne 8, 3) := dk_160 0 8 (dk_at dksX13_opens_0 5 rfl rfl)
theorem dX13_opens_8 : decode cX13_opens 8 = .ok (.aload_n 0, 1) := dk_42 (dk_at dksX13_opens_0 8 rfl rfl)
theorem dX13_opens_9 : decode cX13_opens 9 = .ok (.invokevirtual 51, 3) := dk_182 0 51 (dk_at dksX13_opens_0 9 rfl rfl)
theorem dX13_opens_12 : decode cX13_opens 12 = .ok (.athrow, 1) := dk_191 (dk_at dksX13_opens_0 12 rfl rfl)
theorem dX13_opens_13 : decode cX13_opens 13 = .ok (.aload_n 0, 1) := dk_42 (dk_at dksX13_opens_0 13 rfl rfl)
theorem dX13_opens_14 : decode cX13_opens 14 = .ok (.dup, 1) := dk_89 (dk_at dksX13_opens_0 14 rfl rfl)
theorem dX13_opens_15 : decode cX13_opens 15 = .ok (.getfield 88, 3) := dk_180 0 88 (dk_at dksX13_opens_0 15 rfl rfl)
theorem dX13_opens_18 : decode cX13_opens 18 = .ok (.iconst 1, 1) := dk_4 (dk_at dksX13_opens_0 18 rfl rfl)
theorem dX13_opens_19 : decode cX13_opens 19 = .ok (.iadd, 1) := dk_96 (dk_at dksX13_opens_0 19 rfl rfl)
theorem dX13_opens_20 : decode cX13_opens 20 = .ok (.putfield 88, 3) := dk_181 0 88 (dk_at dksX13_opens_0 20 rfl rfl)
theorem dX13_opens_23 : decode cX13_opens 23 = .ok (.aload_n 0, 1) := dk_42 (dk_at dksX13_opens_0 23 rfl rfl)
theorem dX13_opens_24 : decode cX13_opens 24 = .ok (.dup, 1) := dk_89 (dk_at dksX13_opens_1 0 rfl rfl)
theorem dX13_opens_25 : decode cX13_opens 25 = .ok (.getfield 30, 3) := dk_180 0 30 (dk_at dksX13_opens_1 1 rfl rfl)
theorem dX13_opens_28 : decode cX13_opens 28 = .ok (.iconst 1, 1) := dk_4 (dk_at dksX13_opens_1 4 rfl rfl)
theorem dX13_opens_29 : decode cX13_opens 29 = .ok (.iadd, 1) := dk_96 (dk_at dksX13_opens_1 5 rfl rfl)
theorem dX13_opens_30 : decode cX13_opens 30 = .ok (.putfield 30, 3) := dk_181 0 30 (dk_at dksX13_opens_1 6 rfl rfl)
theorem dX13_opens_33 : decode cX13_opens 33 = .ok (.return_, 1) := dk_177 (dk_at dksX13_opens_1 9 rfl rfl)
abbrev cX13_wrong : ByteArray := prog_11_method_5_code
def yX13_wrong : MethodName := ⟨RX13, "wrong", "()LNamedPrices$Fault;"⟩
def dkwX13_wrong_0 : List UInt8 := [187, 0, 43, 89, 42, 180, 0, 30, 183, 0, 45, 176]
abbrev dktX13_wrong_0 : List UInt8 := dkwX13_wrong_0 ++ []
theorem dksX13_wrong_0 : cX13_wrong.data.toList.drop 0 = dktX13_wrong_0 := by decide +kernel
theorem dX13_wrong_0 : decode cX13_wrong 0 = .ok (.new 43, 3) := dk_187 0 43 (dk_at dksX13_wrong_0 0 rfl rfl)
theorem dX13_wrong_3 : decode cX13_wrong 3 = .ok (.dup, 1) := dk_89 (dk_at dksX13_wrong_0 3 rfl rfl)
theorem dX13_wrong_4 : decode cX13_wrong 4 = .ok (.aload_n 0, 1) := dk_42 (dk_at dksX13_wrong_0 4 rfl rfl)
theorem dX13_wrong_5 : decode cX13_wrong 5 = .ok (.getfield 30, 3) := dk_180 0 30 (dk_at dksX13_wrong_0 5 rfl rfl)
theorem dX13_wrong_8 : decode cX13_wrong 8 = .ok (.invokespecial 45, 3) := dk_183 0 45 (dk_at dksX13_wrong_0 8 rfl rfl)
theorem dX13_wrong_11 : decode cX13_wrong 11 = .ok (.areturn, 1) := dk_176 (dk_at dksX13_wrong_0 11 rfl rfl)
abbrev cX13_takes : ByteArray := prog_11_method_3_code
def yX13_takes : MethodName := ⟨RX13, "takes", "(I)Z"⟩
def dkwX13_takes_1 : List UInt8 := [167, 0, 4, 3, 96, 181, 0, 30, 28, 172]
abbrev dktX13_takes_1 : List UInt8 := dkwX13_takes_1 ++ []
def dkwX13_takes_0 : List UInt8 := [42, 182, 0, 33, 27, 160, 0, 7, 4, 167, 0, 4, 3, 61, 42, 89, 180, 0, 30, 28, 153, 0, 7, 4]
abbrev dktX13_takes_0 : List UInt8 := dkwX13_takes_0 ++ dktX13_takes_1
theorem dksX13_takes_0 : cX13_takes.data.toList.drop 0 = dktX13_takes_0 := by decide +kernel
theorem dksX13_takes_1 : cX13_takes.data.toList.drop 24 = dktX13_takes_1 := dk_seg dksX13_takes_0 24 rfl rfl
theorem dX13_takes_0 : decode cX13_takes 0 = .ok (.aload_n 0, 1) := dk_42 (dk_at dksX13_takes_0 0 rfl rfl)
theorem dX13_takes_1 : decode cX13_takes 1 = .ok (.invokevirtual 33, 3) := dk_182 0 33 (dk_at dksX13_takes_0 1 rfl rfl)
theorem dX13_takes_4 : decode cX13_takes 4 = .ok (.iload_n 1, 1) := dk_27 (dk_at dksX13_takes_0 4 rfl rfl)
theorem dX13_takes_5 : decode cX13_takes 5 = .ok (.if_icmp .ne 7, 3) := dk_160 0 7 (dk_at dksX13_takes_0 5 rfl rfl)
theorem dX13_takes_8 : decode cX13_takes 8 = .ok (.iconst 1, 1) := dk_4 (dk_at dksX13_takes_0 8 rfl rfl)
theorem dX13_takes_9 : decode cX13_takes 9 = .ok (.goto 4, 3) := dk_167 0 4 (dk_at dksX13_takes_0 9 rfl rfl)
theorem dX13_takes_12 : decode cX13_takes 12 = .ok (.iconst 0, 1) := dk_3 (dk_at dksX13_takes_0 12 rfl rfl)
theorem dX13_takes_13 : decode cX13_takes 13 = .ok (.istore_n 2, 1) := dk_61 (dk_at dksX13_takes_0 13 rfl rfl)
theorem dX13_takes_14 : decode cX13_takes 14 = .ok (.aload_n 0, 1) := dk_42 (dk_at dksX13_takes_0 14 rfl rfl)
theorem dX13_takes_15 : decode cX13_takes 15 = .ok (.dup, 1) := dk_89 (dk_at dksX13_takes_0 15 rfl rfl)
theorem dX13_takes_16 : decode cX13_takes 16 = .ok (.getfield 30, 3) := dk_180 0 30 (dk_at dksX13_takes_0 16 rfl rfl)
theorem dX13_takes_19 : decode cX13_takes 19 = .ok (.iload_n 2, 1) := dk_28 (dk_at dksX13_takes_0 19 rfl rfl)
theorem dX13_takes_20 : decode cX13_takes 20 = .ok (.ifCond .eq 7, 3) := dk_153 0 7 (dk_at dksX13_takes_0 20 rfl rfl)
theorem dX13_takes_23 : decode cX13_takes 23 = .ok (.iconst 1, 1) := dk_4 (dk_at dksX13_takes_0 23 rfl rfl)
theorem dX13_takes_24 : decode cX13_takes 24 = .ok (.goto 4, 3) := dk_167 0 4 (dk_at dksX13_takes_1 0 rfl rfl)
theorem dX13_takes_27 : decode cX13_takes 27 = .ok (.iconst 0, 1) := dk_3 (dk_at dksX13_takes_1 3 rfl rfl)
theorem dX13_takes_28 : decode cX13_takes 28 = .ok (.iadd, 1) := dk_96 (dk_at dksX13_takes_1 4 rfl rfl)
theorem dX13_takes_29 : decode cX13_takes 29 = .ok (.putfield 30, 3) := dk_181 0 30 (dk_at dksX13_takes_1 5 rfl rfl)
theorem dX13_takes_32 : decode cX13_takes 32 = .ok (.iload_n 2, 1) := dk_28 (dk_at dksX13_takes_1 8 rfl rfl)
theorem dX13_takes_33 : decode cX13_takes 33 = .ok (.ireturn, 1) := dk_172 (dk_at dksX13_takes_1 9 rfl rfl)
abbrev cX13_isOneOf : ByteArray := prog_11_method_4_code
def yX13_isOneOf : MethodName := ⟨RX13, "isOneOf", "(Ljava/lang/String;)Z"⟩
def dkwX13_isOneOf_0 : List UInt8 := [42, 182, 0, 33, 155, 0, 18, 43, 42, 182, 0, 33, 182, 0, 37, 155, 0, 7, 4, 167, 0, 4, 3, 172]
abbrev dktX13_isOneOf_0 : List UInt8 := dkwX13_isOneOf_0 ++ []
theorem dksX13_isOneOf_0 : cX13_isOneOf.data.toList.drop 0 = dktX13_isOneOf_0 := by decide +kernel
theorem dX13_isOneOf_0 : decode cX13_isOneOf 0 = .ok (.aload_n 0, 1) := dk_42 (dk_at dksX13_isOneOf_0 0 rfl rfl)
theorem dX13_isOneOf_1 : decode cX13_isOneOf 1 = .ok (.invokevirtual 33, 3) := dk_182 0 33 (dk_at dksX13_isOneOf_0 1 rfl rfl)
theorem dX13_isOneOf_4 : decode cX13_isOneOf 4 = .ok (.ifCond .lt 18, 3) := dk_155 0 18 (dk_at dksX13_isOneOf_0 4 rfl rfl)
theorem dX13_isOneOf_7 : decode cX13_isOneOf 7 = .ok (.aload_n 1, 1) := dk_43 (dk_at dksX13_isOneOf_0 7 rfl rfl)
theorem dX13_isOneOf_8 : decode cX13_isOneOf 8 = .ok (.aload_n 0, 1) := dk_42 (dk_at dksX13_isOneOf_0 8 rfl rfl)
theorem dX13_isOneOf_9 : decode cX13_isOneOf 9 = .ok (.invokevirtual 33, 3) := dk_182 0 33 (dk_at dksX13_isOneOf_0 9 rfl rfl)
theorem dX13_isOneOf_12 : decode cX13_isOneOf 12 = .ok (.invokevirtual 37, 3) := dk_182 0 37 (dk_at dksX13_isOneOf_0 12 rfl rfl)
theorem dX13_isOneOf_15 : decode cX13_isOneOf 15 = .ok (.ifCond .lt 7, 3) := dk_155 0 7 (dk_at dksX13_isOneOf_0 15 rfl rfl)
theorem dX13_isOneOf_18 : decode cX13_isOneOf 18 = .ok (.iconst 1, 1) := dk_4 (dk_at dksX13_isOneOf_0 18 rfl rfl)
theorem dX13_isOneOf_19 : decode cX13_isOneOf 19 = .ok (.goto 4, 3) := dk_167 0 4 (dk_at dksX13_isOneOf_0 19 rfl rfl)
theorem dX13_isOneOf_22 : decode cX13_isOneOf 22 = .ok (.iconst 0, 1) := dk_3 (dk_at dksX13_isOneOf_0 22 rfl rfl)
theorem dX13_isOneOf_23 : decode cX13_isOneOf 23 = .ok (.ireturn, 1) := dk_172 (dk_at dksX13_isOneOf_0 23 rfl rfl)
abbrev cX13_number : ByteArray := prog_11_method_14_code
def yX13_number : MethodName := ⟨RX13, "number", "()I"⟩
def dkwX13_number_2 : List UInt8 := [132, 2, 1, 167, 255, 211, 28, 154, 0, 8, 42, 182, 0, 51, 191, 27, 172]
abbrev dktX13_number_2 : List UInt8 := dkwX13_number_2 ++ []
def dkwX13_number_1 : List UInt8 := [16, 10, 27, 104, 42, 182, 0, 33, 96, 16, 48, 100, 60, 42, 89, 180, 0, 30, 4, 96, 181, 0, 30]
abbrev dktX13_number_1 : List UInt8 := dkwX13_number_1 ++ dktX13_number_2
def dkwX13_number_0 : List UInt8 := [3, 60, 3, 61, 28, 7, 162, 0, 46, 42, 182, 0, 33, 16, 48, 16, 57, 184, 0, 97, 153, 0, 32]
abbrev dktX13_number_0 : List UInt8 := dkwX13_number_0 ++ dktX13_number_1
theorem dksX13_number_0 : cX13_number.data.toList.drop 0 = dktX13_number_0 := by decide +kernel
theorem dksX13_number_1 : cX13_number.data.toList.drop 23 = dktX13_number_1 := dk_seg dksX13_number_0 23 rfl rfl
theorem dksX13_number_2 : cX13_number.data.toList.drop 46 = dktX13_number_2 := dk_seg dksX13_number_1 23 rfl rfl
theorem dX13_number_0 : decode cX13_number 0 = .ok (.iconst 0, 1) := dk_3 (dk_at dksX13_number_0 0 rfl rfl)
theorem dX13_number_1 : decode cX13_number 1 = .ok (.istore_n 1, 1) := dk_60 (dk_at dksX13_number_0 1 rfl rfl)
theorem dX13_number_2 : decode cX13_number 2 = .ok (.iconst 0, 1) := dk_3 (dk_at dksX13_number_0 2 rfl rfl)
theorem dX13_number_3 : decode cX13_number 3 = .ok (.istore_n 2, 1) := dk_61 (dk_at dksX13_number_0 3 rfl rfl)
theorem dX13_number_4 : decode cX13_number 4 = .ok (.iload_n 2, 1) := dk_28 (dk_at dksX13_number_0 4 rfl rfl)
theorem dX13_number_5 : decode cX13_number 5 = .ok (.iconst 4, 1) := dk_7 (dk_at dksX13_number_0 5 rfl rfl)
theorem dX13_number_6 : decode cX13_number 6 = .ok (.if_icmp .ge 46, 3) := dk_162 0 46 (dk_at dksX13_number_0 6 rfl rfl)
theorem dX13_number_9 : decode cX13_number 9 = .ok (.aload_n 0, 1) := dk_42 (dk_at dksX13_number_0 9 rfl rfl)
theorem dX13_number_10 : decode cX13_number 10 = .ok (.invokevirtual 33, 3) := dk_182 0 33 (dk_at dksX13_number_0 10 rfl rfl)
theorem dX13_number_13 : decode cX13_number 13 = .ok (.bipush 48, 2) := dk_16 48 (dk_at dksX13_number_0 13 rfl rfl)
theorem dX13_number_15 : decode cX13_number 15 = .ok (.bipush 57, 2) := dk_16 57 (dk_at dksX13_number_0 15 rfl rfl)
theorem dX13_number_17 : decode cX13_number 17 = .ok (.invokestatic 97, 3) := dk_184 0 97 (dk_at dksX13_number_0 17 rfl rfl)
theorem dX13_number_20 : decode cX13_number 20 = .ok (.ifCond .eq 32, 3) := dk_153 0 32 (dk_at dksX13_number_0 20 rfl rfl)
theorem dX13_number_23 : decode cX13_number 23 = .ok (.bipush 10, 2) := dk_16 10 (dk_at dksX13_number_1 0 rfl rfl)
theorem dX13_number_25 : decode cX13_number 25 = .ok (.iload_n 1, 1) := dk_27 (dk_at dksX13_number_1 2 rfl rfl)
theorem dX13_number_26 : decode cX13_number 26 = .ok (.imul, 1) := dk_104 (dk_at dksX13_number_1 3 rfl rfl)
theorem dX13_number_27 : decode cX13_number 27 = .ok (.aload_n 0, 1) := dk_42 (dk_at dksX13_number_1 4 rfl rfl)
theorem dX13_number_28 : decode cX13_number 28 = .ok (.invokevirtual 33, 3) := dk_182 0 33 (dk_at dksX13_number_1 5 rfl rfl)
theorem dX13_number_31 : decode cX13_number 31 = .ok (.iadd, 1) := dk_96 (dk_at dksX13_number_1 8 rfl rfl)
theorem dX13_number_32 : decode cX13_number 32 = .ok (.bipush 48, 2) := dk_16 48 (dk_at dksX13_number_1 9 rfl rfl)
theorem dX13_number_34 : decode cX13_number 34 = .ok (.isub, 1) := dk_100 (dk_at dksX13_number_1 11 rfl rfl)
theorem dX13_number_35 : decode cX13_number 35 = .ok (.istore_n 1, 1) := dk_60 (dk_at dksX13_number_1 12 rfl rfl)
theorem dX13_number_36 : decode cX13_number 36 = .ok (.aload_n 0, 1) := dk_42 (dk_at dksX13_number_1 13 rfl rfl)
theorem dX13_number_37 : decode cX13_number 37 = .ok (.dup, 1) := dk_89 (dk_at dksX13_number_1 14 rfl rfl)
theorem dX13_number_38 : decode cX13_number 38 = .ok (.getfield 30, 3) := dk_180 0 30 (dk_at dksX13_number_1 15 rfl rfl)
theorem dX13_number_41 : decode cX13_number 41 = .ok (.iconst 1, 1) := dk_4 (dk_at dksX13_number_1 18 rfl rfl)
theorem dX13_number_42 : decode cX13_number 42 = .ok (.iadd, 1) := dk_96 (dk_at dksX13_number_1 19 rfl rfl)
theorem dX13_number_43 : decode cX13_number 43 = .ok (.putfield 30, 3) := dk_181 0 30 (dk_at dksX13_number_1 20 rfl rfl)
theorem dX13_number_46 : decode cX13_number 46 = .ok (.iinc 2 1, 3) := dk_132 2 1 (dk_at dksX13_number_2 0 rfl rfl)
theorem dX13_number_49 : decode cX13_number 49 = .ok (.goto (-45), 3) := dk_167 255 211 (dk_at dksX13_number_2 3 rfl rfl)
theorem dX13_number_52 : decode cX13_number 52 = .ok (.iload_n 2, 1) := dk_28 (dk_at dksX13_number_2 6 rfl rfl)
theorem dX13_number_53 : decode cX13_number 53 = .ok (.ifCond .ne 8, 3) := dk_154 0 8 (dk_at dksX13_number_2 7 rfl rfl)
theorem dX13_number_56 : decode cX13_number 56 = .ok (.aload_n 0, 1) := dk_42 (dk_at dksX13_number_2 10 rfl rfl)
theorem dX13_number_57 : decode cX13_number 57 = .ok (.invokevirtual 51, 3) := dk_182 0 51 (dk_at dksX13_number_2 11 rfl rfl)
theorem dX13_number_60 : decode cX13_number 60 = .ok (.athrow, 1) := dk_191 (dk_at dksX13_number_2 14 rfl rfl)
theorem dX13_number_61 : decode cX13_number 61 = .ok (.iload_n 1, 1) := dk_27 (dk_at dksX13_number_2 15 rfl rfl)
theorem dX13_number_62 : decode cX13_number 62 = .ok (.ireturn, 1) := dk_172 (dk_at dksX13_number_2 16 rfl rfl)
theorem q103 : (Jvm.Cond.initialized "NamedPrices$Reader") ∈ lw_all := lw_g (lw_at lw_m1 14 rfl) rfl
theorem q563 : (Jvm.Cond.instantiable "NamedPrices$Reader" (6 : Nat)) ∈ lw_all := lw_g (lw_at lw_m2 234 rfl) rfl
theorem q570 : (Jvm.Cond.instanceMethod ({ cls := "NamedPrices$Reader", name := "<init>", desc := "([BILjava/lang/String;)V" } : Jvm.MethodName)) ∈ lw_all := lw_g (lw_at lw_m3 1 rfl) rfl
theorem q571 : (Jvm.Cond.code ({ cls := "NamedPrices$Reader", name := "<init>", desc := "([BILjava/lang/String;)V" } : Jvm.MethodName) prog_11_method_1_code (4 : Nat) (Option.none : Option Jvm.ClassFile.FieldType)) ∈ lw_all := lw_g (lw_at lw_m3 2 rfl) rfl
theorem q572 : (Jvm.Cond.methodLink "NamedPrices$Reader" (3 : Nat) ({ cls := "java/lang/Object", name := "<init>", desc := "()V" } : Jvm.MethodName)) ∈ lw_all := lw_g (lw_at lw_m3 3 rfl) rfl
theorem q573 : (Jvm.Cond.classLink "NamedPrices$Reader" (9 : Nat) "NamedPrices$Text") ∈ lw_all := lw_g (lw_at lw_m3 4 rfl) rfl
theorem q575 : (Jvm.Cond.methodLinkNest "NamedPrices$Reader" (11 : Nat) ({ cls := "NamedPrices$Text", name := "<init>", desc := "()V" } : Jvm.MethodName) "NamedPrices") ∈ lw_tbl := lw_at lw_m3 6 rfl
theorem q593 : (Jvm.Cond.fieldLink "NamedPrices$Reader" (18 : Nat) "NamedPrices$Reader" "tape" "[B") ∈ lw_all := lw_g (lw_at lw_m3 24 rfl) rfl
theorem q594 : (Jvm.Cond.fieldLink "NamedPrices$Reader" (22 : Nat) "NamedPrices$Reader" "size" "I") ∈ lw_all := lw_g (lw_at lw_m3 25 rfl) rfl
theorem q595 : (Jvm.Cond.fieldLink "NamedPrices$Reader" (26 : Nat) "NamedPrices$Reader" "names" "Ljava/lang/String;") ∈ lw_all := lw_g (lw_at lw_m3 26 rfl) rfl
theorem q596 : (Jvm.Cond.fieldLink "NamedPrices$Reader" (12 : Nat) "NamedPrices$Reader" "text" "LNamedPrices$Text;") ∈ lw_all := lw_g (lw_at lw_m3 27 rfl) rfl
theorem q597 : (Jvm.Cond.fieldLink "NamedPrices$Reader" (30 : Nat) "NamedPrices$Reader" "at" "I") ∈ lw_all := lw_g (lw_at lw_m3 28 rfl) rfl
theorem q598 : (Jvm.Cond.fieldLink "NamedPrices$Reader" (88 : Nat) "NamedPrices$Reader" "open" "I") ∈ lw_all := lw_g (lw_at lw_m3 29 rfl) rfl
theorem q599 : (Jvm.Cond.laysFinal "NamedPrices$Reader" "NamedPrices$Reader" "tape" "[B") ∈ lw_all := lw_g (lw_at lw_m3 30 rfl) rfl
theorem q600 : (Jvm.Cond.soleField "NamedPrices$Reader" "tape") ∈ lw_all := lw_g (lw_at lw_m3 31 rfl) rfl
theorem q601 : (Jvm.Cond.laysFinal "NamedPrices$Reader" "NamedPrices$Reader" "size" "I") ∈ lw_all := lw_g (lw_at lw_m3 32 rfl) rfl
theorem q602 : (Jvm.Cond.soleField "NamedPrices$Reader" "size") ∈ lw_all := lw_g (lw_at lw_m3 33 rfl) rfl
theorem q603 : (Jvm.Cond.laysFinal "NamedPrices$Reader" "NamedPrices$Reader" "names" "Ljava/lang/String;") ∈ lw_all := lw_g (lw_at lw_m3 34 rfl) rfl
theorem q604 : (Jvm.Cond.soleField "NamedPrices$Reader" "names") ∈ lw_all := lw_g (lw_at lw_m3 35 rfl) rfl
theorem q605 : (Jvm.Cond.laysFinal "NamedPrices$Reader" "NamedPrices$Reader" "text" "LNamedPrices$Text;") ∈ lw_all := lw_g (lw_at lw_m3 36 rfl) rfl
theorem q606 : (Jvm.Cond.soleField "NamedPrices$Reader" "text") ∈ lw_all := lw_g (lw_at lw_m3 37 rfl) rfl
theorem q607 : (Jvm.Cond.lays "NamedPrices$Reader" "NamedPrices$Reader" "at" "I") ∈ lw_all := lw_g (lw_at lw_m3 38 rfl) rfl
theorem q608 : (Jvm.Cond.soleField "NamedPrices$Reader" "at") ∈ lw_all := lw_g (lw_at lw_m3 39 rfl) rfl
theorem q609 : (Jvm.Cond.lays "NamedPrices$Reader" "NamedPrices$Reader" "open" "I") ∈ lw_all := lw_g (lw_at lw_m3 40 rfl) rfl
theorem q610 : (Jvm.Cond.soleField "NamedPrices$Reader" "open") ∈ lw_all := lw_g (lw_at lw_m3 41 rfl) rfl
theorem q611 : (Jvm.Cond.superclass "NamedPrices$Reader" "java/lang/Object") ∈ lw_all := lw_g (lw_at lw_m3 42 rfl) rfl
theorem q613 : (Jvm.Cond.instanceMethod ({ cls := "NamedPrices$Reader", name := "read", desc := "()LNamedPrices$Text;" } : Jvm.MethodName)) ∈ lw_all := lw_g (lw_at lw_m3 44 rfl) rfl
theorem q614 : (Jvm.Cond.selects "NamedPrices$Reader" ({ cls := "NamedPrices$Reader", name := "read", desc := "()LNamedPrices$Text;" } : Jvm.MethodName) ({ cls := "NamedPrices$Reader", name := "read", desc := "()LNamedPrices$Text;" } : Jvm.MethodName)) ∈ lw_all := lw_g (lw_at lw_m3 45 rfl) rfl
theorem q615 : (Jvm.Cond.code ({ cls := "NamedPrices$Reader", name := "read", desc := "()LNamedPrices$Text;" } : Jvm.MethodName) prog_11_method_6_code (1 : Nat) (Option.some (Jvm.ClassFile.FieldType.object "NamedPrices$Text"))) ∈ lw_all := lw_g (lw_at lw_m3 46 rfl) rfl
theorem q616 : (Jvm.Cond.methodLink "NamedPrices$Reader" (48 : Nat) ({ cls := "NamedPrices$Reader", name := "either", desc := "()V" } : Jvm.MethodName)) ∈ lw_all := lw_g (lw_at lw_m3 47 rfl) rfl
theorem q617 : (Jvm.Cond.privateMethod ({ cls := "NamedPrices$Reader", name := "either", desc := "()V" } : Jvm.MethodName)) ∈ lw_tbl := lw_at lw_m3 48 rfl
theorem q618 : (Jvm.Cond.instanceMethod ({ cls := "NamedPrices$Reader", name := "either", desc := "()V" } : Jvm.MethodName)) ∈ lw_all := lw_g (lw_at lw_m3 49 rfl) rfl
theorem q619 : (Jvm.Cond.code ({ cls := "NamedPrices$Reader", name := "either", desc := "()V" } : Jvm.MethodName) prog_11_method_7_code (1 : Nat) (Option.none : Option Jvm.ClassFile.FieldType)) ∈ lw_all := lw_g (lw_at lw_m3 50 rfl) rfl
theorem q620 : (Jvm.Cond.methodLink "NamedPrices$Reader" (55 : Nat) ({ cls := "NamedPrices$Reader", name := "both", desc := "()V" } : Jvm.MethodName)) ∈ lw_all := lw_g (lw_at lw_m3 51 rfl) rfl
theorem q621 : (Jvm.Cond.privateMethod ({ cls := "NamedPrices$Reader", name := "both", desc := "()V" } : Jvm.MethodName)) ∈ lw_tbl := lw_at lw_m3 52 rfl
theorem q622 : (Jvm.Cond.instanceMethod ({ cls := "NamedPrices$Reader", name := "both", desc := "()V" } : Jvm.MethodName)) ∈ lw_all := lw_g (lw_at lw_m3 53 rfl) rfl
theorem q623 : (Jvm.Cond.code ({ cls := "NamedPrices$Reader", name := "both", desc := "()V" } : Jvm.MethodName) prog_11_method_8_code (1 : Nat) (Option.none : Option Jvm.ClassFile.FieldType)) ∈ lw_all := lw_g (lw_at lw_m3 54 rfl) rfl
theorem q624 : (Jvm.Cond.methodLink "NamedPrices$Reader" (66 : Nat) ({ cls := "NamedPrices$Reader", name := "compared", desc := "()V" } : Jvm.MethodName)) ∈ lw_all := lw_g (lw_at lw_m3 55 rfl) rfl
theorem q625 : (Jvm.Cond.privateMethod ({ cls := "NamedPrices$Reader", name := "compared", desc := "()V" } : Jvm.MethodName)) ∈ lw_tbl := lw_at lw_m3 56 rfl
theorem q626 : (Jvm.Cond.instanceMethod ({ cls := "NamedPrices$Reader", name := "compared", desc := "()V" } : Jvm.MethodName)) ∈ lw_all := lw_g (lw_at lw_m3 57 rfl) rfl
theorem q627 : (Jvm.Cond.code ({ cls := "NamedPrices$Reader", name := "compared", desc := "()V" } : Jvm.MethodName) prog_11_method_9_code (2 : Nat) (Option.none : Option Jvm.ClassFile.FieldType)) ∈ lw_all := lw_g (lw_at lw_m3 58 rfl) rfl
theorem q628 : (Jvm.Cond.methodLink "NamedPrices$Reader" (69 : Nat) ({ cls := "NamedPrices$Reader", name := "sum", desc := "()V" } : Jvm.MethodName)) ∈ lw_all := lw_g (lw_at lw_m3 59 rfl) rfl
theorem q629 : (Jvm.Cond.privateMethod ({ cls := "NamedPrices$Reader", name := "sum", desc := "()V" } : Jvm.MethodName)) ∈ lw_tbl := lw_at lw_m3 60 rfl
theorem q630 : (Jvm.Cond.instanceMethod ({ cls := "NamedPrices$Reader", name := "sum", desc := "()V" } : Jvm.MethodName)) ∈ lw_all := lw_g (lw_at lw_m3 61 rfl) rfl
theorem q631 : (Jvm.Cond.code ({ cls := "NamedPrices$Reader", name := "sum", desc := "()V" } : Jvm.MethodName) prog_11_method_10_code (2 : Nat) (Option.none : Option Jvm.ClassFile.FieldType)) ∈ lw_all := lw_g (lw_at lw_m3 62 rfl) rfl
theorem q632 : (Jvm.Cond.methodLink "NamedPrices$Reader" (78 : Nat) ({ cls := "NamedPrices$Reader", name := "product", desc := "()V" } : Jvm.MethodName)) ∈ lw_all := lw_g (lw_at lw_m3 63 rfl) rfl
theorem q633 : (Jvm.Cond.privateMethod ({ cls := "NamedPrices$Reader", name := "product", desc := "()V" } : Jvm.MethodName)) ∈ lw_tbl := lw_at lw_m3 64 rfl
theorem q634 : (Jvm.Cond.instanceMethod ({ cls := "NamedPrices$Reader", name := "product", desc := "()V" } : Jvm.MethodName)) ∈ lw_all := lw_g (lw_at lw_m3 65 rfl) rfl
theorem q635 : (Jvm.Cond.code ({ cls := "NamedPrices$Reader", name := "product", desc := "()V" } : Jvm.MethodName) prog_11_method_11_code (2 : Nat) (Option.none : Option Jvm.ClassFile.FieldType)) ∈ lw_all := lw_g (lw_at lw_m3 66 rfl) rfl
theorem q636 : (Jvm.Cond.methodLink "NamedPrices$Reader" (83 : Nat) ({ cls := "NamedPrices$Reader", name := "unit", desc := "()V" } : Jvm.MethodName)) ∈ lw_all := lw_g (lw_at lw_m3 67 rfl) rfl
theorem q637 : (Jvm.Cond.privateMethod ({ cls := "NamedPrices$Reader", name := "unit", desc := "()V" } : Jvm.MethodName)) ∈ lw_tbl := lw_at lw_m3 68 rfl
theorem q638 : (Jvm.Cond.instanceMethod ({ cls := "NamedPrices$Reader", name := "unit", desc := "()V" } : Jvm.MethodName)) ∈ lw_all := lw_g (lw_at lw_m3 69 rfl) rfl
theorem q639 : (Jvm.Cond.code ({ cls := "NamedPrices$Reader", name := "unit", desc := "()V" } : Jvm.MethodName) prog_11_method_13_code (1 : Nat) (Option.none : Option Jvm.ClassFile.FieldType)) ∈ lw_all := lw_g (lw_at lw_m3 70 rfl) rfl
theorem q640 : (Jvm.Cond.methodLink "NamedPrices$Reader" (33 : Nat) ({ cls := "NamedPrices$Reader", name := "here", desc := "()I" } : Jvm.MethodName)) ∈ lw_all := lw_g (lw_at lw_m3 71 rfl) rfl
theorem q641 : (Jvm.Cond.privateMethod ({ cls := "NamedPrices$Reader", name := "here", desc := "()I" } : Jvm.MethodName)) ∈ lw_tbl := lw_at lw_m3 72 rfl
theorem q642 : (Jvm.Cond.instanceMethod ({ cls := "NamedPrices$Reader", name := "here", desc := "()I" } : Jvm.MethodName)) ∈ lw_all := lw_g (lw_at lw_m3 73 rfl) rfl
theorem q643 : (Jvm.Cond.code ({ cls := "NamedPrices$Reader", name := "here", desc := "()I" } : Jvm.MethodName) prog_11_method_2_code (1 : Nat) (Option.some Jvm.ClassFile.FieldType.int)) ∈ lw_all := lw_g (lw_at lw_m3 74 rfl) rfl
theorem q644 : (Jvm.Cond.methodLink "NamedPrices$Reader" (91 : Nat) ({ cls := "NamedPrices$Reader", name := "opens", desc := "()V" } : Jvm.MethodName)) ∈ lw_all := lw_g (lw_at lw_m3 75 rfl) rfl
theorem q645 : (Jvm.Cond.privateMethod ({ cls := "NamedPrices$Reader", name := "opens", desc := "()V" } : Jvm.MethodName)) ∈ lw_tbl := lw_at lw_m3 76 rfl
theorem q646 : (Jvm.Cond.instanceMethod ({ cls := "NamedPrices$Reader", name := "opens", desc := "()V" } : Jvm.MethodName)) ∈ lw_all := lw_g (lw_at lw_m3 77 rfl) rfl
theorem q647 : (Jvm.Cond.code ({ cls := "NamedPrices$Reader", name := "opens", desc := "()V" } : Jvm.MethodName) prog_11_method_12_code (1 : Nat) (Option.none : Option Jvm.ClassFile.FieldType)) ∈ lw_all := lw_g (lw_at lw_m3 78 rfl) rfl
theorem q648 : (Jvm.Cond.methodLink "NamedPrices$Reader" (51 : Nat) ({ cls := "NamedPrices$Reader", name := "wrong", desc := "()LNamedPrices$Fault;" } : Jvm.MethodName)) ∈ lw_all := lw_g (lw_at lw_m3 79 rfl) rfl
theorem q649 : (Jvm.Cond.privateMethod ({ cls := "NamedPrices$Reader", name := "wrong", desc := "()LNamedPrices$Fault;" } : Jvm.MethodName)) ∈ lw_tbl := lw_at lw_m3 80 rfl
theorem q650 : (Jvm.Cond.instanceMethod ({ cls := "NamedPrices$Reader", name := "wrong", desc := "()LNamedPrices$Fault;" } : Jvm.MethodName)) ∈ lw_all := lw_g (lw_at lw_m3 81 rfl) rfl
theorem q651 : (Jvm.Cond.code ({ cls := "NamedPrices$Reader", name := "wrong", desc := "()LNamedPrices$Fault;" } : Jvm.MethodName) prog_11_method_5_code (1 : Nat) (Option.some (Jvm.ClassFile.FieldType.object "NamedPrices$Fault"))) ∈ lw_all := lw_g (lw_at lw_m3 82 rfl) rfl
theorem q652 : (Jvm.Cond.classLink "NamedPrices$Reader" (43 : Nat) "NamedPrices$Fault") ∈ lw_all := lw_g (lw_at lw_m3 83 rfl) rfl
theorem q692 : (Jvm.Cond.methodLink "NamedPrices$Reader" (45 : Nat) ({ cls := "NamedPrices$Fault", name := "<init>", desc := "(I)V" } : Jvm.MethodName)) ∈ lw_all := lw_g (lw_at lw_m3 123 rfl) rfl
theorem q718 : (Jvm.Cond.methodLink "NamedPrices$Reader" (62 : Nat) ({ cls := "NamedPrices$Text", name := "add", desc := "(II)V" } : Jvm.MethodName)) ∈ lw_all := lw_g (lw_at lw_m3 149 rfl) rfl
theorem q722 : (Jvm.Cond.methodLink "NamedPrices$Reader" (58 : Nat) ({ cls := "NamedPrices$Reader", name := "takes", desc := "(I)Z" } : Jvm.MethodName)) ∈ lw_all := lw_g (lw_at lw_m3 153 rfl) rfl
theorem q723 : (Jvm.Cond.privateMethod ({ cls := "NamedPrices$Reader", name := "takes", desc := "(I)Z" } : Jvm.MethodName)) ∈ lw_tbl := lw_at lw_m3 154 rfl
theorem q724 : (Jvm.Cond.instanceMethod ({ cls := "NamedPrices$Reader", name := "takes", desc := "(I)Z" } : Jvm.MethodName)) ∈ lw_all := lw_g (lw_at lw_m3 155 rfl) rfl
theorem q725 : (Jvm.Cond.code ({ cls := "NamedPrices$Reader", name := "takes", desc := "(I)Z" } : Jvm.MethodName) prog_11_method_3_code (3 : Nat) (Option.some Jvm.ClassFile.FieldType.boolean)) ∈ lw_all := lw_g (lw_at lw_m3 156 rfl) rfl
theorem q726 : (Jvm.Cond.methodLink "NamedPrices$Reader" (74 : Nat) ({ cls := "NamedPrices$Reader", name := "isOneOf", desc := "(Ljava/lang/String;)Z" } : Jvm.MethodName)) ∈ lw_all := lw_g (lw_at lw_m3 157 rfl) rfl
theorem q727 : (Jvm.Cond.privateMethod ({ cls := "NamedPrices$Reader", name := "isOneOf", desc := "(Ljava/lang/String;)Z" } : Jvm.MethodName)) ∈ lw_tbl := lw_at lw_m3 158 rfl
theorem q728 : (Jvm.Cond.instanceMethod ({ cls := "NamedPrices$Reader", name := "isOneOf", desc := "(Ljava/lang/String;)Z" } : Jvm.MethodName)) ∈ lw_all := lw_g (lw_at lw_m3 159 rfl) rfl
theorem q729 : (Jvm.Cond.code ({ cls := "NamedPrices$Reader", name := "isOneOf", desc := "(Ljava/lang/String;)Z" } : Jvm.MethodName) prog_11_method_4_code (2 : Nat) (Option.some Jvm.ClassFile.FieldType.boolean)) ∈ lw_all := lw_g (lw_at lw_m3 160 rfl) rfl
theorem q730 : (Jvm.Cond.methodLink "NamedPrices$Reader" (37 : Nat) ({ cls := "java/lang/String", name := "indexOf", desc := "(I)I" } : Jvm.MethodName)) ∈ lw_all := lw_g (lw_at lw_m3 161 rfl) rfl
theorem q816 : (Jvm.Cond.methodLink "NamedPrices$Reader" (94 : Nat) ({ cls := "NamedPrices$Reader", name := "number", desc := "()I" } : Jvm.MethodName)) ∈ lw_all := lw_g (lw_at lw_m4 7 rfl) rfl
theorem q817 : (Jvm.Cond.privateMethod ({ cls := "NamedPrices$Reader", name := "number", desc := "()I" } : Jvm.MethodName)) ∈ lw_tbl := lw_at lw_m4 8 rfl
theorem q818 : (Jvm.Cond.instanceMethod ({ cls := "NamedPrices$Reader", name := "number", desc := "()I" } : Jvm.MethodName)) ∈ lw_all := lw_g (lw_at lw_m4 9 rfl) rfl
theorem q819 : (Jvm.Cond.code ({ cls := "NamedPrices$Reader", name := "number", desc := "()I" } : Jvm.MethodName) prog_11_method_14_code (3 : Nat) (Option.some Jvm.ClassFile.FieldType.int)) ∈ lw_all := lw_g (lw_at lw_m4 10 rfl) rfl
theorem q820 : (Jvm.Cond.methodLinkNest "NamedPrices$Reader" (97 : Nat) ({ cls := "NamedPrices", name := "isIn", desc := "(III)Z" } : Jvm.MethodName) "NamedPrices") ∈ lw_tbl := lw_at lw_m4 11 rfl
theorem q821 : (Jvm.Cond.stringRef "NamedPrices$Reader" (86 : Nat) "*/%") ∈ lw_tbl := lw_at lw_m4 12 rfl
theorem q822 : (Jvm.Cond.stringRef "NamedPrices$Reader" (81 : Nat) "+-") ∈ lw_tbl := lw_at lw_m4 13 rfl
theorem q823 : (Jvm.Cond.stringRef "NamedPrices$Reader" (72 : Nat) "<=>") ∈ lw_tbl := lw_at lw_m4 14 rfl
theorem in_X13 : ∀ w ∈ wsX130, w ∈ lw_all := lw_in wsX130 [599, 601, 603, 605, 607, 609] (by decide +kernel) (by decide +kernel)
/-! NamedPrices$Text -/
set_option maxRecDepth 100000
def RX14 : String := "NamedPrices$Text"
def TX14 : u_T := fun k => match k with
  | 0 => ("NamedPrices$Text", "step", "[B", true)
  | 1 => ("NamedPrices$Text", "value", "[S", true)
  | _ => ("NamedPrices$Text", "many", "I", false)
def tyX14 : Nat → FieldType := fun k => match k with
  | 0 => .array .byte
  | 1 => .array .short
  | _ => .int
abbrev wsX140 : List Cond := u_ws RX14 TX14 3
theorem nmX14 : ∀ a, a < 3 → ∀ b, b < 3 → a ≠ b → (TX14 a).2.1 ≠ (TX14 b).2.1 := by decide +kernel
theorem tyX14_ok : ∀ k, k < 3 → parseFieldDescriptor (TX14 k).2.2.1 = some (tyX14 k) := by decide +kernel
abbrev cX14_init : ByteArray := prog_15_method_1_code
def yX14_init : MethodName := ⟨RX14, "<init>", "()V"⟩
def dkwX14_init_0 : List UInt8 := [42, 183, 0, 3, 42, 16, 60, 188, 8, 181, 0, 9, 42, 16, 60, 188, 9, 181, 0, 15, 177]
abbrev dktX14_init_0 : List UInt8 := dkwX14_init_0 ++ []
theorem dksX14_init_0 : cX14_init.data.toList.drop 0 = dktX14_init_0 := by decide +kernel
theorem dX14_init_0 : decode cX14_init 0 = .ok (.aload_n 0, 1) := dk_42 (dk_at dksX14_init_0 0 rfl rfl)
theorem dX14_init_1 : decode cX14_init 1 = .ok (.invokespecial 3, 3) := dk_183 0 3 (dk_at dksX14_init_0 1 rfl rfl)
theorem dX14_init_4 : decode cX14_init 4 = .ok (.aload_n 0, 1) := dk_42 (dk_at dksX14_init_0 4 rfl rfl)
theorem dX14_init_5 : decode cX14_init 5 = .ok (.bipush 60, 2) := dk_16 60 (dk_at dksX14_init_0 5 rfl rfl)
theorem dX14_init_7 : decode cX14_init 7 = .ok (.newarray .byte, 2) := dk_188_8 (dk_at dksX14_init_0 7 rfl rfl)
theorem dX14_init_9 : decode cX14_init 9 = .ok (.putfield 9, 3) := dk_181 0 9 (dk_at dksX14_init_0 9 rfl rfl)
theorem dX14_init_12 : decode cX14_init 12 = .ok (.aload_n 0, 1) := dk_42 (dk_at dksX14_init_0 12 rfl rfl)
theorem dX14_init_13 : decode cX14_init 13 = .ok (.bipush 60, 2) := dk_16 60 (dk_at dksX14_init_0 13 rfl rfl)
theorem dX14_init_15 : decode cX14_init 15 = .ok (.newarray .short, 2) := dk_188_9 (dk_at dksX14_init_0 15 rfl rfl)
theorem dX14_init_17 : decode cX14_init 17 = .ok (.putfield 15, 3) := dk_181 0 15 (dk_at dksX14_init_0 17 rfl rfl)
theorem dX14_init_20 : decode cX14_init 20 = .ok (.return_, 1) := dk_177 (dk_at dksX14_init_0 20 rfl rfl)
abbrev cX14_add : ByteArray := prog_15_method_2_code
def yX14_add : MethodName := ⟨RX14, "add", "(II)V"⟩
def dkwX14_add_1 : List UInt8 := [180, 0, 19, 4, 96, 181, 0, 19, 177]
abbrev dktX14_add_1 : List UInt8 := dkwX14_add_1 ++ []
def dkwX14_add_0 : List UInt8 := [42, 180, 0, 9, 42, 180, 0, 19, 27, 145, 84, 42, 180, 0, 15, 42, 180, 0, 19, 28, 147, 86, 42, 89]
abbrev dktX14_add_0 : List UInt8 := dkwX14_add_0 ++ dktX14_add_1
theorem dksX14_add_0 : cX14_add.data.toList.drop 0 = dktX14_add_0 := by decide +kernel
theorem dksX14_add_1 : cX14_add.data.toList.drop 24 = dktX14_add_1 := dk_seg dksX14_add_0 24 rfl rfl
theorem dX14_add_0 : decode cX14_add 0 = .ok (.aload_n 0, 1) := dk_42 (dk_at dksX14_add_0 0 rfl rfl)
theorem dX14_add_1 : decode cX14_add 1 = .ok (.getfield 9, 3) := dk_180 0 9 (dk_at dksX14_add_0 1 rfl rfl)
theorem dX14_add_4 : decode cX14_add 4 = .ok (.aload_n 0, 1) := dk_42 (dk_at dksX14_add_0 4 rfl rfl)
theorem dX14_add_5 : decode cX14_add 5 = .ok (.getfield 19, 3) := dk_180 0 19 (dk_at dksX14_add_0 5 rfl rfl)
theorem dX14_add_8 : decode cX14_add 8 = .ok (.iload_n 1, 1) := dk_27 (dk_at dksX14_add_0 8 rfl rfl)
theorem dX14_add_9 : decode cX14_add 9 = .ok (.i2b, 1) := dk_145 (dk_at dksX14_add_0 9 rfl rfl)
theorem dX14_add_10 : decode cX14_add 10 = .ok (.bastore, 1) := dk_84 (dk_at dksX14_add_0 10 rfl rfl)
theorem dX14_add_11 : decode cX14_add 11 = .ok (.aload_n 0, 1) := dk_42 (dk_at dksX14_add_0 11 rfl rfl)
theorem dX14_add_12 : decode cX14_add 12 = .ok (.getfield 15, 3) := dk_180 0 15 (dk_at dksX14_add_0 12 rfl rfl)
theorem dX14_add_15 : decode cX14_add 15 = .ok (.aload_n 0, 1) := dk_42 (dk_at dksX14_add_0 15 rfl rfl)
theorem dX14_add_16 : decode cX14_add 16 = .ok (.getfield 19, 3) := dk_180 0 19 (dk_at dksX14_add_0 16 rfl rfl)
theorem dX14_add_19 : decode cX14_add 19 = .ok (.iload_n 2, 1) := dk_28 (dk_at dksX14_add_0 19 rfl rfl)
theorem dX14_add_20 : decode cX14_add 20 = .ok (.i2s, 1) := dk_147 (dk_at dksX14_add_0 20 rfl rfl)
theorem dX14_add_21 : decode cX14_add 21 = .ok (.sastore, 1) := dk_86 (dk_at dksX14_add_0 21 rfl rfl)
theorem dX14_add_22 : decode cX14_add 22 = .ok (.aload_n 0, 1) := dk_42 (dk_at dksX14_add_0 22 rfl rfl)
theorem dX14_add_23 : decode cX14_add 23 = .ok (.dup, 1) := dk_89 (dk_at dksX14_add_0 23 rfl rfl)
theorem dX14_add_24 : decode cX14_add 24 = .ok (.getfield 19, 3) := dk_180 0 19 (dk_at dksX14_add_1 0 rfl rfl)
theorem dX14_add_27 : decode cX14_add 27 = .ok (.iconst 1, 1) := dk_4 (dk_at dksX14_add_1 3 rfl rfl)
theorem dX14_add_28 : decode cX14_add 28 = .ok (.iadd, 1) := dk_96 (dk_at dksX14_add_1 4 rfl rfl)
theorem dX14_add_29 : decode cX14_add 29 = .ok (.putfield 19, 3) := dk_181 0 19 (dk_at dksX14_add_1 5 rfl rfl)
theorem dX14_add_32 : decode cX14_add 32 = .ok (.return_, 1) := dk_177 (dk_at dksX14_add_1 8 rfl rfl)
theorem q104 : (Jvm.Cond.initialized "NamedPrices$Text") ∈ lw_all := lw_g (lw_at lw_m1 15 rfl) rfl
theorem q574 : (Jvm.Cond.instantiable "NamedPrices$Text" (3 : Nat)) ∈ lw_all := lw_g (lw_at lw_m3 5 rfl) rfl
theorem q576 : (Jvm.Cond.instanceMethod ({ cls := "NamedPrices$Text", name := "<init>", desc := "()V" } : Jvm.MethodName)) ∈ lw_all := lw_g (lw_at lw_m3 7 rfl) rfl
theorem q577 : (Jvm.Cond.code ({ cls := "NamedPrices$Text", name := "<init>", desc := "()V" } : Jvm.MethodName) prog_15_method_1_code (1 : Nat) (Option.none : Option Jvm.ClassFile.FieldType)) ∈ lw_all := lw_g (lw_at lw_m3 8 rfl) rfl
theorem q578 : (Jvm.Cond.methodLink "NamedPrices$Text" (3 : Nat) ({ cls := "java/lang/Object", name := "<init>", desc := "()V" } : Jvm.MethodName)) ∈ lw_all := lw_g (lw_at lw_m3 9 rfl) rfl
theorem q579 : (Jvm.Cond.fieldLink "NamedPrices$Text" (9 : Nat) "NamedPrices$Text" "step" "[B") ∈ lw_all := lw_g (lw_at lw_m3 10 rfl) rfl
theorem q581 : (Jvm.Cond.fieldLink "NamedPrices$Text" (15 : Nat) "NamedPrices$Text" "value" "[S") ∈ lw_all := lw_g (lw_at lw_m3 12 rfl) rfl
theorem q583 : (Jvm.Cond.fieldLink "NamedPrices$Text" (19 : Nat) "NamedPrices$Text" "many" "I") ∈ lw_all := lw_g (lw_at lw_m3 14 rfl) rfl
theorem q585 : (Jvm.Cond.laysFinal "NamedPrices$Text" "NamedPrices$Text" "step" "[B") ∈ lw_all := lw_g (lw_at lw_m3 16 rfl) rfl
theorem q586 : (Jvm.Cond.soleField "NamedPrices$Text" "step") ∈ lw_all := lw_g (lw_at lw_m3 17 rfl) rfl
theorem q587 : (Jvm.Cond.laysFinal "NamedPrices$Text" "NamedPrices$Text" "value" "[S") ∈ lw_all := lw_g (lw_at lw_m3 18 rfl) rfl
theorem q588 : (Jvm.Cond.soleField "NamedPrices$Text" "value") ∈ lw_all := lw_g (lw_at lw_m3 19 rfl) rfl
theorem q589 : (Jvm.Cond.lays "NamedPrices$Text" "NamedPrices$Text" "many" "I") ∈ lw_all := lw_g (lw_at lw_m3 20 rfl) rfl
theorem q590 : (Jvm.Cond.soleField "NamedPrices$Text" "many") ∈ lw_all := lw_g (lw_at lw_m3 21 rfl) rfl
theorem q591 : (Jvm.Cond.superclass "NamedPrices$Text" "java/lang/Object") ∈ lw_all := lw_g (lw_at lw_m3 22 rfl) rfl
theorem q719 : (Jvm.Cond.instanceMethod ({ cls := "NamedPrices$Text", name := "add", desc := "(II)V" } : Jvm.MethodName)) ∈ lw_all := lw_g (lw_at lw_m3 150 rfl) rfl
theorem q720 : (Jvm.Cond.selects "NamedPrices$Text" ({ cls := "NamedPrices$Text", name := "add", desc := "(II)V" } : Jvm.MethodName) ({ cls := "NamedPrices$Text", name := "add", desc := "(II)V" } : Jvm.MethodName)) ∈ lw_all := lw_g (lw_at lw_m3 151 rfl) rfl
theorem q721 : (Jvm.Cond.code ({ cls := "NamedPrices$Text", name := "add", desc := "(II)V" } : Jvm.MethodName) prog_15_method_2_code (3 : Nat) (Option.none : Option Jvm.ClassFile.FieldType)) ∈ lw_all := lw_g (lw_at lw_m3 152 rfl) rfl
theorem in_X14 : ∀ w ∈ wsX140, w ∈ lw_all := lw_in wsX140 [585, 587, 589] (by decide +kernel) (by decide +kernel)
/-! NamedPrices$Fault -/
set_option maxRecDepth 100000
def RX15 : String := "NamedPrices$Fault"
def TX15 : u_T := fun k => match k with
  | 0 => ("java/lang/Throwable", "cause", "Ljava/lang/Throwable;", false)
  | 1 => ("java/lang/Throwable", "stackTrace", "[Ljava/lang/StackTraceElement;", false)
  | 2 => ("java/lang/Throwable", "suppressedExceptions", "Ljava/util/List;", false)
  | 3 => ("java/lang/Throwable", "detailMessage", "Ljava/lang/String;", false)
  | 4 => ("java/lang/Throwable", "backtrace", "Ljava/lang/Object;", false)
  | 5 => ("java/lang/Throwable", "depth", "I", false)
  | _ => ("NamedPrices$Fault", "place", "I", true)
def tyX15 : Nat → FieldType := fun k => match k with
  | 0 => .object "java/lang/Throwable"
  | 1 => .array (.object "java/lang/StackTraceElement")
  | 2 => .object "java/util/List"
  | 3 => .object "java/lang/String"
  | 4 => .object "java/lang/Object"
  | 5 => .int
  | _ => .int
abbrev wsX150 : List Cond := u_ws RX15 TX15 7
theorem nmX15 : ∀ a, a < 7 → ∀ b, b < 7 → a ≠ b → (TX15 a).2.1 ≠ (TX15 b).2.1 := by decide +kernel
theorem tyX15_ok : ∀ k, k < 7 → parseFieldDescriptor (TX15 k).2.2.1 = some (tyX15 k) := by decide +kernel
abbrev cX15_init : ByteArray := prog_5_method_1_code
def yX15_init : MethodName := ⟨RX15, "<init>", "(I)V"⟩
def dkwX15_init_0 : List UInt8 := [42, 1, 1, 3, 3, 183, 0, 1, 42, 27, 181, 0, 7, 177]
abbrev dktX15_init_0 : List UInt8 := dkwX15_init_0 ++ []
theorem dksX15_init_0 : cX15_init.data.toList.drop 0 = dktX15_init_0 := by decide +kernel
theorem dX15_init_0 : decode cX15_init 0 = .ok (.aload_n 0, 1) := dk_42 (dk_at dksX15_init_0 0 rfl rfl)
theorem dX15_init_1 : decode cX15_init 1 = .ok (.aconst_null, 1) := dk_1 (dk_at dksX15_init_0 1 rfl rfl)
theorem dX15_init_2 : decode cX15_init 2 = .ok (.aconst_null, 1) := dk_1 (dk_at dksX15_init_0 2 rfl rfl)
theorem dX15_init_3 : decode cX15_init 3 = .ok (.iconst 0, 1) := dk_3 (dk_at dksX15_init_0 3 rfl rfl)
theorem dX15_init_4 : decode cX15_init 4 = .ok (.iconst 0, 1) := dk_3 (dk_at dksX15_init_0 4 rfl rfl)
theorem dX15_init_5 : decode cX15_init 5 = .ok (.invokespecial 1, 3) := dk_183 0 1 (dk_at dksX15_init_0 5 rfl rfl)
theorem dX15_init_8 : decode cX15_init 8 = .ok (.aload_n 0, 1) := dk_42 (dk_at dksX15_init_0 8 rfl rfl)
theorem dX15_init_9 : decode cX15_init 9 = .ok (.iload_n 1, 1) := dk_27 (dk_at dksX15_init_0 9 rfl rfl)
theorem dX15_init_10 : decode cX15_init 10 = .ok (.putfield 7, 3) := dk_181 0 7 (dk_at dksX15_init_0 10 rfl rfl)
theorem dX15_init_13 : decode cX15_init 13 = .ok (.return_, 1) := dk_177 (dk_at dksX15_init_0 13 rfl rfl)
theorem q107 : (Jvm.Cond.initialized "NamedPrices$Fault") ∈ lw_all := lw_g (lw_at lw_m1 18 rfl) rfl
theorem q653 : (Jvm.Cond.instantiable "NamedPrices$Fault" (7 : Nat)) ∈ lw_all := lw_g (lw_at lw_m3 84 rfl) rfl
theorem q654 : (Jvm.Cond.castable "NamedPrices$Fault" "NamedPrices$Fault") ∈ lw_tbl := lw_at lw_m3 85 rfl
theorem q659 : (Jvm.Cond.selects "NamedPrices$Fault" ({ cls := "java/lang/Throwable", name := "fillInStackTrace", desc := "(I)Ljava/lang/Throwable;" } : Jvm.MethodName) ({ cls := "java/lang/Throwable", name := "fillInStackTrace", desc := "(I)Ljava/lang/Throwable;" } : Jvm.MethodName)) ∈ lw_all := lw_g (lw_at lw_m3 90 rfl) rfl
theorem q660 : (Jvm.Cond.selects "NamedPrices$Fault" ({ cls := "java/lang/Throwable", name := "fillInStackTrace", desc := "()Ljava/lang/Throwable;" } : Jvm.MethodName) ({ cls := "java/lang/Throwable", name := "fillInStackTrace", desc := "()Ljava/lang/Throwable;" } : Jvm.MethodName)) ∈ lw_all := lw_g (lw_at lw_m3 91 rfl) rfl
theorem q661 : (Jvm.Cond.lays "NamedPrices$Fault" "java/lang/Throwable" "cause" "Ljava/lang/Throwable;") ∈ lw_all := lw_g (lw_at lw_m3 92 rfl) rfl
theorem q663 : (Jvm.Cond.lays "NamedPrices$Fault" "java/lang/Throwable" "stackTrace" "[Ljava/lang/StackTraceElement;") ∈ lw_all := lw_g (lw_at lw_m3 94 rfl) rfl
theorem q665 : (Jvm.Cond.lays "NamedPrices$Fault" "java/lang/Throwable" "suppressedExceptions" "Ljava/util/List;") ∈ lw_all := lw_g (lw_at lw_m3 96 rfl) rfl
theorem q667 : (Jvm.Cond.lays "NamedPrices$Fault" "java/lang/Throwable" "detailMessage" "Ljava/lang/String;") ∈ lw_all := lw_g (lw_at lw_m3 98 rfl) rfl
theorem q669 : (Jvm.Cond.lays "NamedPrices$Fault" "java/lang/Throwable" "backtrace" "Ljava/lang/Object;") ∈ lw_all := lw_g (lw_at lw_m3 100 rfl) rfl
theorem q693 : (Jvm.Cond.instanceMethod ({ cls := "NamedPrices$Fault", name := "<init>", desc := "(I)V" } : Jvm.MethodName)) ∈ lw_all := lw_g (lw_at lw_m3 124 rfl) rfl
theorem q694 : (Jvm.Cond.code ({ cls := "NamedPrices$Fault", name := "<init>", desc := "(I)V" } : Jvm.MethodName) prog_5_method_1_code (2 : Nat) (Option.none : Option Jvm.ClassFile.FieldType)) ∈ lw_all := lw_g (lw_at lw_m3 125 rfl) rfl
theorem q695 : (Jvm.Cond.methodLink "NamedPrices$Fault" (1 : Nat) ({ cls := "java/lang/Exception", name := "<init>", desc := "(Ljava/lang/String;Ljava/lang/Throwable;ZZ)V" } : Jvm.MethodName)) ∈ lw_all := lw_g (lw_at lw_m3 126 rfl) rfl
theorem q701 : (Jvm.Cond.fieldLink "NamedPrices$Fault" (7 : Nat) "NamedPrices$Fault" "place" "I") ∈ lw_all := lw_g (lw_at lw_m3 132 rfl) rfl
theorem q708 : (Jvm.Cond.laysFinal "NamedPrices$Fault" "NamedPrices$Fault" "place" "I") ∈ lw_all := lw_g (lw_at lw_m3 139 rfl) rfl
theorem q709 : (Jvm.Cond.soleField "NamedPrices$Fault" "place") ∈ lw_all := lw_g (lw_at lw_m3 140 rfl) rfl
theorem q714 : (Jvm.Cond.lays "NamedPrices$Fault" "java/lang/Throwable" "depth" "I") ∈ lw_all := lw_g (lw_at lw_m3 145 rfl) rfl
theorem q717 : (Jvm.Cond.superclass "NamedPrices$Fault" "java/lang/Exception") ∈ lw_all := lw_g (lw_at lw_m3 148 rfl) rfl
theorem in_X15 : ∀ w ∈ wsX150, w ∈ lw_all := lw_in wsX150 [661, 663, 665, 667, 669, 714, 708] (by decide +kernel) (by decide +kernel)
/-! NamedPrices$Names -/
set_option maxRecDepth 100000
def RX16 : String := "NamedPrices$Names"
abbrev cX16_name : ByteArray := prog_10_method_1_code
def yX16_name : MethodName := ⟨RX16, "name", "(LNamedPrices$Sees;I)I"⟩
def dkwX16_name_0 : List UInt8 := [43, 28, 185, 0, 1, 2, 0, 172]
abbrev dktX16_name_0 : List UInt8 := dkwX16_name_0 ++ []
theorem dksX16_name_0 : cX16_name.data.toList.drop 0 = dktX16_name_0 := by decide +kernel
theorem dX16_name_0 : decode cX16_name 0 = .ok (.aload_n 1, 1) := dk_43 (dk_at dksX16_name_0 0 rfl rfl)
theorem dX16_name_1 : decode cX16_name 1 = .ok (.iload_n 2, 1) := dk_28 (dk_at dksX16_name_0 1 rfl rfl)
theorem dX16_name_2 : decode cX16_name 2 = .ok (.invokeinterface 1 2, 5) := by decide +kernel
theorem dX16_name_7 : decode cX16_name 7 = .ok (.ireturn, 1) := dk_172 (dk_at dksX16_name_0 7 rfl rfl)
theorem q838 : (Jvm.Cond.interfaceMethod "NamedPrices$Names" "NamedPrices$Names" "name" "(LNamedPrices$Sees;I)I") ∈ lw_tbl := lw_at lw_m4 29 rfl
theorem q839 : (Jvm.Cond.declares ({ cls := "NamedPrices$Names", name := "name", desc := "(LNamedPrices$Sees;I)I" } : Jvm.MethodName)) ∈ lw_tbl := lw_at lw_m4 30 rfl
theorem q902 : (Jvm.Cond.instanceMethod ({ cls := "NamedPrices$Names", name := "name", desc := "(LNamedPrices$Sees;I)I" } : Jvm.MethodName)) ∈ lw_all := lw_g (lw_at lw_m4 93 rfl) rfl
theorem q903 : (Jvm.Cond.publicMethod ({ cls := "NamedPrices$Names", name := "name", desc := "(LNamedPrices$Sees;I)I" } : Jvm.MethodName)) ∈ lw_tbl := lw_at lw_m4 94 rfl
theorem q904 : (Jvm.Cond.code ({ cls := "NamedPrices$Names", name := "name", desc := "(LNamedPrices$Sees;I)I" } : Jvm.MethodName) prog_10_method_1_code (3 : Nat) (Option.some Jvm.ClassFile.FieldType.int)) ∈ lw_all := lw_g (lw_at lw_m4 95 rfl) rfl
theorem q905 : (Jvm.Cond.interfaceEntry "NamedPrices$Names" (1 : Nat)) ∈ lw_tbl := lw_at lw_m4 96 rfl
theorem q906 : (Jvm.Cond.methodLink "NamedPrices$Names" (1 : Nat) ({ cls := "NamedPrices$Sees", name := "price", desc := "(I)I" } : Jvm.MethodName)) ∈ lw_all := lw_g (lw_at lw_m4 97 rfl) rfl
theorem q1862 : (Jvm.Cond.initialized "NamedPrices$Names") ∈ lw_all := lw_g (lw_at lw_m8 93 rfl) rfl
/-! NamedPrices$Buys -/
set_option maxRecDepth 100000
def RX17 : String := "NamedPrices$Buys"
abbrev cX17_buys : ByteArray := prog_3_method_2_code
def yX17_buys : MethodName := ⟨RX17, "buys", "(ILNamedPrices$Trace;)I"⟩
def dkwX17_buys_0 : List UInt8 := [44, 16, 11, 182, 0, 1, 42, 27, 44, 185, 0, 7, 3, 0, 5, 104, 172]
abbrev dktX17_buys_0 : List UInt8 := dkwX17_buys_0 ++ []
theorem dksX17_buys_0 : cX17_buys.data.toList.drop 0 = dktX17_buys_0 := by decide +kernel
theorem dX17_buys_0 : decode cX17_buys 0 = .ok (.aload_n 2, 1) := dk_44 (dk_at dksX17_buys_0 0 rfl rfl)
theorem dX17_buys_1 : decode cX17_buys 1 = .ok (.bipush 11, 2) := dk_16 11 (dk_at dksX17_buys_0 1 rfl rfl)
theorem dX17_buys_3 : decode cX17_buys 3 = .ok (.invokevirtual 1, 3) := dk_182 0 1 (dk_at dksX17_buys_0 3 rfl rfl)
theorem dX17_buys_6 : decode cX17_buys 6 = .ok (.aload_n 0, 1) := dk_42 (dk_at dksX17_buys_0 6 rfl rfl)
theorem dX17_buys_7 : decode cX17_buys 7 = .ok (.iload_n 1, 1) := dk_27 (dk_at dksX17_buys_0 7 rfl rfl)
theorem dX17_buys_8 : decode cX17_buys 8 = .ok (.aload_n 2, 1) := dk_44 (dk_at dksX17_buys_0 8 rfl rfl)
theorem dX17_buys_9 : decode cX17_buys 9 = .ok (.invokeinterface 7 3, 5) := by decide +kernel
theorem dX17_buys_14 : decode cX17_buys 14 = .ok (.iconst 2, 1) := dk_5 (dk_at dksX17_buys_0 14 rfl rfl)
theorem dX17_buys_15 : decode cX17_buys 15 = .ok (.imul, 1) := dk_104 (dk_at dksX17_buys_0 15 rfl rfl)
theorem dX17_buys_16 : decode cX17_buys 16 = .ok (.ireturn, 1) := dk_172 (dk_at dksX17_buys_0 16 rfl rfl)
theorem q1192 : (Jvm.Cond.declares ({ cls := "NamedPrices$Buys", name := "buys", desc := "(ILNamedPrices$Trace;)I" } : Jvm.MethodName)) ∈ lw_tbl := lw_at lw_m5 143 rfl
theorem q1198 : (Jvm.Cond.instanceMethod ({ cls := "NamedPrices$Buys", name := "buys", desc := "(ILNamedPrices$Trace;)I" } : Jvm.MethodName)) ∈ lw_all := lw_g (lw_at lw_m5 149 rfl) rfl
theorem q1199 : (Jvm.Cond.code ({ cls := "NamedPrices$Buys", name := "buys", desc := "(ILNamedPrices$Trace;)I" } : Jvm.MethodName) prog_3_method_2_code (3 : Nat) (Option.some Jvm.ClassFile.FieldType.int)) ∈ lw_all := lw_g (lw_at lw_m5 150 rfl) rfl
theorem q1200 : (Jvm.Cond.methodLink "NamedPrices$Buys" (1 : Nat) ({ cls := "NamedPrices$Trace", name := "ran", desc := "(I)V" } : Jvm.MethodName)) ∈ lw_all := lw_g (lw_at lw_m5 151 rfl) rfl
theorem q1201 : (Jvm.Cond.interfaceEntry "NamedPrices$Buys" (7 : Nat)) ∈ lw_tbl := lw_at lw_m5 152 rfl
theorem q1202 : (Jvm.Cond.methodLink "NamedPrices$Buys" (7 : Nat) ({ cls := "NamedPrices$Buys", name := "names", desc := "(ILNamedPrices$Trace;)I" } : Jvm.MethodName)) ∈ lw_all := lw_g (lw_at lw_m5 153 rfl) rfl
theorem q1203 : (Jvm.Cond.interfaceMethod "NamedPrices$Buys" "NamedPrices$Buys" "names" "(ILNamedPrices$Trace;)I") ∈ lw_tbl := lw_at lw_m5 154 rfl
theorem q1204 : (Jvm.Cond.declares ({ cls := "NamedPrices$Buys", name := "names", desc := "(ILNamedPrices$Trace;)I" } : Jvm.MethodName)) ∈ lw_tbl := lw_at lw_m5 155 rfl
theorem q1238 : (Jvm.Cond.publicMethod ({ cls := "NamedPrices$Buys", name := "buys", desc := "(ILNamedPrices$Trace;)I" } : Jvm.MethodName)) ∈ lw_tbl := lw_at lw_m5 189 rfl
theorem q1863 : (Jvm.Cond.initialized "NamedPrices$Buys") ∈ lw_all := lw_g (lw_at lw_m8 94 rfl) rfl
