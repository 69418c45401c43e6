/-! RoseProverbsModel -/
set_option maxRecDepth 100000
def RX4 : String := "RoseProverbsModel"
def TX4 : u_T := fun k => match k with
  | 0 => ("RoseProverbsModel", "w", "[I", true)
  | 1 => ("RoseProverbsModel", "wKept", "[I", true)
  | 2 => ("RoseProverbsModel", "aside", "[I", true)
  | 3 => ("RoseProverbsModel", "saved", "[I", true)
  | 4 => ("RoseProverbsModel", "past", "[I", true)
  | 5 => ("RoseProverbsModel", "log", "[I", true)
  | 6 => ("RoseProverbsModel", "logSaved", "[I", true)
  | 7 => ("RoseProverbsModel", "pastMany", "I", false)
  | 8 => ("RoseProverbsModel", "isSaved", "Z", false)
  | 9 => ("RoseProverbsModel", "thrown", "I", false)
  | 10 => ("RoseProverbsModel", "input", "[I", true)
  | 11 => ("RoseProverbsModel", "inputMany", "I", false)
  | 12 => ("RoseProverbsModel", "lastError", "I", false)
  | 13 => ("RoseProverbsModel", "lastOffset", "I", false)
  | 14 => ("RoseProverbsModel", "error", "I", false)
  | 15 => ("RoseProverbsModel", "offset", "I", false)
  | 16 => ("RoseProverbsModel", "nextByte", "I", false)
  | 17 => ("RoseProverbsModel", "begin", "I", false)
  | 18 => ("RoseProverbsModel", "value", "I", false)
  | 19 => ("RoseProverbsModel", "token", "I", false)
  | 20 => ("RoseProverbsModel", "got", "I", false)
  | 21 => ("RoseProverbsModel", "n", "[I", true)
  | 22 => ("RoseProverbsModel", "order", "[I", true)
  | 23 => ("RoseProverbsModel", "numbers", "[I", true)
  | 24 => ("RoseProverbsModel", "orders", "I", false)
  | 25 => ("RoseProverbsModel", "told", "[I", true)
  | 26 => ("RoseProverbsModel", "output", "[I", true)
  | _ => ("RoseProverbsModel", "outputMany", "I", false)
def tyX4 : Nat → FieldType := fun k => match k with
  | 0 => .array .int
  | 1 => .array .int
  | 2 => .array .int
  | 3 => .array .int
  | 4 => .array .int
  | 5 => .array .int
  | 6 => .array .int
  | 7 => .int
  | 8 => .boolean
  | 9 => .int
  | 10 => .array .int
  | 11 => .int
  | 12 => .int
  | 13 => .int
  | 14 => .int
  | 15 => .int
  | 16 => .int
  | 17 => .int
  | 18 => .int
  | 19 => .int
  | 20 => .int
  | 21 => .array .int
  | 22 => .array .int
  | 23 => .array .int
  | 24 => .int
  | 25 => .array .int
  | 26 => .array .int
  | _ => .int
abbrev wsX40 : List Cond := u_ws RX4 TX4 28
set_option maxRecDepth 100000 in
theorem nmX4 : ∀ a, a < 28 → ∀ b, b < 28 → a ≠ b → (TX4 a).2.1 ≠ (TX4 b).2.1 := by decide +kernel
set_option maxRecDepth 100000 in
theorem tyX4_ok : ∀ k, k < 28 → parseFieldDescriptor (TX4 k).2.2.1 = some (tyX4 k) := by decide +kernel
abbrev cX4_init : ByteArray := prog_20_method_1_code
def yX4_init : MethodName := ⟨RX4, "<init>", "()V"⟩
def dkwX4_init_7 : List UInt8 := [182, 0, 56, 60, 42, 16, 10, 16, 10, 3, 16, 11, 6, 17, 1, 44, 182, 0, 56, 60, 177]
abbrev dktX4_init_7 : List UInt8 := dkwX4_init_7 ++ []
def dkwX4_init_6 : List UInt8 := [60, 42, 3, 7, 3, 4, 5, 16, 120, 182, 0, 56, 60, 42, 16, 8, 16, 12, 5, 16, 9, 4, 16, 80]
abbrev dktX4_init_6 : List UInt8 := dkwX4_init_6 ++ dktX4_init_7
def dkwX4_init_5 : List UInt8 := [16, 60, 188, 10, 181, 0, 50, 42, 182, 0, 53, 42, 16, 14, 5, 3, 16, 11, 3, 16, 100, 182, 0, 56]
abbrev dktX4_init_5 : List UInt8 := dkwX4_init_5 ++ dktX4_init_6
def dkwX4_init_4 : List UInt8 := [188, 10, 181, 0, 41, 42, 17, 0, 186, 188, 10, 181, 0, 44, 42, 17, 0, 192, 188, 10, 181, 0, 47, 42]
abbrev dktX4_init_4 : List UInt8 := dkwX4_init_4 ++ dktX4_init_5
def dkwX4_init_3 : List UInt8 := [17, 2, 188, 188, 10, 181, 0, 31, 42, 2, 181, 0, 34, 42, 16, 6, 188, 10, 181, 0, 38, 42, 16, 31]
abbrev dktX4_init_3 : List UInt8 := dkwX4_init_3 ++ dktX4_init_4
def dkwX4_init_2 : List UInt8 := [181, 0, 22, 42, 17, 8, 112, 188, 10, 181, 0, 25, 42, 17, 8, 112, 188, 10, 181, 0, 28, 42]
abbrev dktX4_init_2 : List UInt8 := dkwX4_init_2 ++ dktX4_init_3
def dkwX4_init_1 : List UInt8 := [17, 5, 137, 188, 10, 181, 0, 16, 42, 17, 5, 137, 188, 10, 181, 0, 19, 42, 17, 44, 72, 188, 10]
abbrev dktX4_init_1 : List UInt8 := dkwX4_init_1 ++ dktX4_init_2
def dkwX4_init_0 : List UInt8 := [42, 183, 0, 1, 42, 17, 5, 137, 188, 10, 181, 0, 7, 42, 17, 5, 137, 188, 10, 181, 0, 13, 42]
abbrev dktX4_init_0 : List UInt8 := dkwX4_init_0 ++ dktX4_init_1
theorem dksX4_init_0 : cX4_init.data.toList.drop 0 = dktX4_init_0 := by decide +kernel
theorem dksX4_init_1 : cX4_init.data.toList.drop 23 = dktX4_init_1 := dk_seg dksX4_init_0 23 rfl rfl
theorem dksX4_init_2 : cX4_init.data.toList.drop 46 = dktX4_init_2 := dk_seg dksX4_init_1 23 rfl rfl
theorem dksX4_init_3 : cX4_init.data.toList.drop 68 = dktX4_init_3 := dk_seg dksX4_init_2 22 rfl rfl
theorem dksX4_init_4 : cX4_init.data.toList.drop 92 = dktX4_init_4 := dk_seg dksX4_init_3 24 rfl rfl
theorem dksX4_init_5 : cX4_init.data.toList.drop 116 = dktX4_init_5 := dk_seg dksX4_init_4 24 rfl rfl
theorem dksX4_init_6 : cX4_init.data.toList.drop 140 = dktX4_init_6 := dk_seg dksX4_init_5 24 rfl rfl
theorem dksX4_init_7 : cX4_init.data.toList.drop 164 = dktX4_init_7 := dk_seg dksX4_init_6 24 rfl rfl
theorem dX4_init_0 : decode cX4_init 0 = .ok (.aload_n 0, 1) := dk_42 (dk_at dksX4_init_0 0 rfl rfl)
theorem dX4_init_1 : decode cX4_init 1 = .ok (.invokespecial 1, 3) := dk_183 0 1 (dk_at dksX4_init_0 1 rfl rfl)
theorem dX4_init_4 : decode cX4_init 4 = .ok (.aload_n 0, 1) := dk_42 (dk_at dksX4_init_0 4 rfl rfl)
theorem dX4_init_5 : decode cX4_init 5 = .ok (.sipush 1417, 3) := dk_17 5 137 (dk_at dksX4_init_0 5 rfl rfl)
theorem dX4_init_8 : decode cX4_init 8 = .ok (.newarray .int, 2) := dk_188_10 (dk_at dksX4_init_0 8 rfl rfl)
theorem dX4_init_10 : decode cX4_init 10 = .ok (.putfield 7, 3) := dk_181 0 7 (dk_at dksX4_init_0 10 rfl rfl)
theorem dX4_init_13 : decode cX4_init 13 = .ok (.aload_n 0, 1) := dk_42 (dk_at dksX4_init_0 13 rfl rfl)
theorem dX4_init_14 : decode cX4_init 14 = .ok (.sipush 1417, 3) := dk_17 5 137 (dk_at dksX4_init_0 14 rfl rfl)
theorem dX4_init_17 : decode cX4_init 17 = .ok (.newarray .int, 2) := dk_188_10 (dk_at dksX4_init_0 17 rfl rfl)
theorem dX4_init_19 : decode cX4_init 19 = .ok (.putfield 13, 3) := dk_181 0 13 (dk_at dksX4_init_0 19 rfl rfl)
theorem dX4_init_22 : decode cX4_init 22 = .ok (.aload_n 0, 1) := dk_42 (dk_at dksX4_init_0 22 rfl rfl)
theorem dX4_init_23 : decode cX4_init 23 = .ok (.sipush 1417, 3) := dk_17 5 137 (dk_at dksX4_init_1 0 rfl rfl)
theorem dX4_init_26 : decode cX4_init 26 = .ok (.newarray .int, 2) := dk_188_10 (dk_at dksX4_init_1 3 rfl rfl)
theorem dX4_init_28 : decode cX4_init 28 = .ok (.putfield 16, 3) := dk_181 0 16 (dk_at dksX4_init_1 5 rfl rfl)
theorem dX4_init_31 : decode cX4_init 31 = .ok (.aload_n 0, 1) := dk_42 (dk_at dksX4_init_1 8 rfl rfl)
theorem dX4_init_32 : decode cX4_init 32 = .ok (.sipush 1417, 3) := dk_17 5 137 (dk_at dksX4_init_1 9 rfl rfl)
theorem dX4_init_35 : decode cX4_init 35 = .ok (.newarray .int, 2) := dk_188_10 (dk_at dksX4_init_1 12 rfl rfl)
theorem dX4_init_37 : decode cX4_init 37 = .ok (.putfield 19, 3) := dk_181 0 19 (dk_at dksX4_init_1 14 rfl rfl)
theorem dX4_init_40 : decode cX4_init 40 = .ok (.aload_n 0, 1) := dk_42 (dk_at dksX4_init_1 17 rfl rfl)
theorem dX4_init_41 : decode cX4_init 41 = .ok (.sipush 11336, 3) := dk_17 44 72 (dk_at dksX4_init_1 18 rfl rfl)
theorem dX4_init_44 : decode cX4_init 44 = .ok (.newarray .int, 2) := dk_188_10 (dk_at dksX4_init_1 21 rfl rfl)
theorem dX4_init_46 : decode cX4_init 46 = .ok (.putfield 22, 3) := dk_181 0 22 (dk_at dksX4_init_2 0 rfl rfl)
theorem dX4_init_49 : decode cX4_init 49 = .ok (.aload_n 0, 1) := dk_42 (dk_at dksX4_init_2 3 rfl rfl)
theorem dX4_init_50 : decode cX4_init 50 = .ok (.sipush 2160, 3) := dk_17 8 112 (dk_at dksX4_init_2 4 rfl rfl)
theorem dX4_init_53 : decode cX4_init 53 = .ok (.newarray .int, 2) := dk_188_10 (dk_at dksX4_init_2 7 rfl rfl)
theorem dX4_init_55 : decode cX4_init 55 = .ok (.putfield 25, 3) := dk_181 0 25 (dk_at dksX4_init_2 9 rfl rfl)
theorem dX4_init_58 : decode cX4_init 58 = .ok (.aload_n 0, 1) := dk_42 (dk_at dksX4_init_2 12 rfl rfl)
theorem dX4_init_59 : decode cX4_init 59 = .ok (.sipush 2160, 3) := dk_17 8 112 (dk_at dksX4_init_2 13 rfl rfl)
theorem dX4_init_62 : decode cX4_init 62 = .ok (.newarray .int, 2) := dk_188_10 (dk_at dksX4_init_2 16 rfl rfl)
theorem dX4_init_64 : decode cX4_init 64 = .ok (.putfield 28, 3) := dk_181 0 28 (dk_at dksX4_init_2 18 rfl rfl)
theorem dX4_init_67 : decode cX4_init 67 = .ok (.aload_n 0, 1) := dk_42 (dk_at dksX4_init_2 21 rfl rfl)
theorem dX4_init_68 : decode cX4_init 68 = .ok (.sipush 700, 3) := dk_17 2 188 (dk_at dksX4_init_3 0 rfl rfl)
theorem dX4_init_71 : decode cX4_init 71 = .ok (.newarray .int, 2) := dk_188_10 (dk_at dksX4_init_3 3 rfl rfl)
theorem dX4_init_73 : decode cX4_init 73 = .ok (.putfield 31, 3) := dk_181 0 31 (dk_at dksX4_init_3 5 rfl rfl)
theorem dX4_init_76 : decode cX4_init 76 = .ok (.aload_n 0, 1) := dk_42 (dk_at dksX4_init_3 8 rfl rfl)
theorem dX4_init_77 : decode cX4_init 77 = .ok (.iconst (-1), 1) := dk_2 (dk_at dksX4_init_3 9 rfl rfl)
theorem dX4_init_78 : decode cX4_init 78 = .ok (.putfield 34, 3) := dk_181 0 34 (dk_at dksX4_init_3 10 rfl rfl)
theorem dX4_init_81 : decode cX4_init 81 = .ok (.aload_n 0, 1) := dk_42 (dk_at dksX4_init_3 13 rfl rfl)
theorem dX4_init_82 : decode cX4_init 82 = .ok (.bipush 6, 2) := dk_16 6 (dk_at dksX4_init_3 14 rfl rfl)
theorem dX4_init_84 : decode cX4_init 84 = .ok (.newarray .int, 2) := dk_188_10 (dk_at dksX4_init_3 16 rfl rfl)
theorem dX4_init_86 : decode cX4_init 86 = .ok (.putfield 38, 3) := dk_181 0 38 (dk_at dksX4_init_3 18 rfl rfl)
theorem dX4_init_89 : decode cX4_init 89 = .ok (.aload_n 0, 1) := dk_42 (dk_at dksX4_init_3 21 rfl rfl)
theorem dX4_init_90 : decode cX4_init 90 = .ok (.bipush 31, 2) := dk_16 31 (dk_at dksX4_init_3 22 rfl rfl)
theorem dX4_init_92 : decode cX4_init 92 = .ok (.newarray .int, 2) := dk_188_10 (dk_at dksX4_init_4 0 rfl rfl)
theorem dX4_init_94 : decode cX4_init 94 = .ok (.putfield 41, 3) := dk_181 0 41 (dk_at dksX4_init_4 2 rfl rfl)
theorem dX4_init_97 : decode cX4_init 97 = .ok (.aload_n 0, 1) := dk_42 (dk_at dksX4_init_4 5 rfl rfl)
theorem dX4_init_98 : decode cX4_init 98 = .ok (.sipush 186, 3) := dk_17 0 186 (dk_at dksX4_init_4 6 rfl rfl)
theorem dX4_init_101 : decode cX4_init 101 = .ok (.newarray .int, 2) := dk_188_10 (dk_at dksX4_init_4 9 rfl rfl)
theorem dX4_init_103 : decode cX4_init 103 = .ok (.putfield 44, 3) := dk_181 0 44 (dk_at dksX4_init_4 11 rfl rfl)
theorem dX4_init_106 : decode cX4_init 106 = .ok (.aload_n 0, 1) := dk_42 (dk_at dksX4_init_4 14 rfl rfl)
theorem dX4_init_107 : decode cX4_init 107 = .ok (.sipush 192, 3) := dk_17 0 192 (dk_at dksX4_init_4 15 rfl rfl)
theorem dX4_init_110 : decode cX4_init 110 = .ok (.newarray .int, 2) := dk_188_10 (dk_at dksX4_init_4 18 rfl rfl)
theorem dX4_init_112 : decode cX4_init 112 = .ok (.putfield 47, 3) := dk_181 0 47 (dk_at dksX4_init_4 20 rfl rfl)
theorem dX4_init_115 : decode cX4_init 115 = .ok (.aload_n 0, 1) := dk_42 (dk_at dksX4_init_4 23 rfl rfl)
theorem dX4_init_116 : decode cX4_init 116 = .ok (.bipush 60, 2) := dk_16 60 (dk_at dksX4_init_5 0 rfl rfl)
theorem dX4_init_118 : decode cX4_init 118 = .ok (.newarray .int, 2) := dk_188_10 (dk_at dksX4_init_5 2 rfl rfl)
theorem dX4_init_120 : decode cX4_init 120 = .ok (.putfield 50, 3) := dk_181 0 50 (dk_at dksX4_init_5 4 rfl rfl)
theorem dX4_init_123 : decode cX4_init 123 = .ok (.aload_n 0, 1) := dk_42 (dk_at dksX4_init_5 7 rfl rfl)
theorem dX4_init_124 : decode cX4_init 124 = .ok (.invokevirtual 53, 3) := dk_182 0 53 (dk_at dksX4_init_5 8 rfl rfl)
theorem dX4_init_127 : decode cX4_init 127 = .ok (.aload_n 0, 1) := dk_42 (dk_at dksX4_init_5 11 rfl rfl)
theorem dX4_init_128 : decode cX4_init 128 = .ok (.bipush 14, 2) := dk_16 14 (dk_at dksX4_init_5 12 rfl rfl)
theorem dX4_init_130 : decode cX4_init 130 = .ok (.iconst 2, 1) := dk_5 (dk_at dksX4_init_5 14 rfl rfl)
theorem dX4_init_131 : decode cX4_init 131 = .ok (.iconst 0, 1) := dk_3 (dk_at dksX4_init_5 15 rfl rfl)
theorem dX4_init_132 : decode cX4_init 132 = .ok (.bipush 11, 2) := dk_16 11 (dk_at dksX4_init_5 16 rfl rfl)
theorem dX4_init_134 : decode cX4_init 134 = .ok (.iconst 0, 1) := dk_3 (dk_at dksX4_init_5 18 rfl rfl)
theorem dX4_init_135 : decode cX4_init 135 = .ok (.bipush 100, 2) := dk_16 100 (dk_at dksX4_init_5 19 rfl rfl)
theorem dX4_init_137 : decode cX4_init 137 = .ok (.invokevirtual 56, 3) := dk_182 0 56 (dk_at dksX4_init_5 21 rfl rfl)
theorem dX4_init_140 : decode cX4_init 140 = .ok (.istore_n 1, 1) := dk_60 (dk_at dksX4_init_6 0 rfl rfl)
theorem dX4_init_141 : decode cX4_init 141 = .ok (.aload_n 0, 1) := dk_42 (dk_at dksX4_init_6 1 rfl rfl)
theorem dX4_init_142 : decode cX4_init 142 = .ok (.iconst 0, 1) := dk_3 (dk_at dksX4_init_6 2 rfl rfl)
theorem dX4_init_143 : decode cX4_init 143 = .ok (.iconst 4, 1) := dk_7 (dk_at dksX4_init_6 3 rfl rfl)
theorem dX4_init_144 : decode cX4_init 144 = .ok (.iconst 0, 1) := dk_3 (dk_at dksX4_init_6 4 rfl rfl)
theorem dX4_init_145 : decode cX4_init 145 = .ok (.iconst 1, 1) := dk_4 (dk_at dksX4_init_6 5 rfl rfl)
theorem dX4_init_146 : decode cX4_init 146 = .ok (.iconst 2, 1) := dk_5 (dk_at dksX4_init_6 6 rfl rfl)
theorem dX4_init_147 : decode cX4_init 147 = .ok (.bipush 120, 2) := dk_16 120 (dk_at dksX4_init_6 7 rfl rfl)
theorem dX4_init_149 : decode cX4_init 149 = .ok (.invokevirtual 56, 3) := dk_182 0 56 (dk_at dksX4_init_6 9 rfl rfl)
theorem dX4_init_152 : decode cX4_init 152 = .ok (.istore_n 1, 1) := dk_60 (dk_at dksX4_init_6 12 rfl rfl)
theorem dX4_init_153 : decode cX4_init 153 = .ok (.aload_n 0, 1) := dk_42 (dk_at dksX4_init_6 13 rfl rfl)
theorem dX4_init_154 : decode cX4_init 154 = .ok (.bipush 8, 2) := dk_16 8 (dk_at dksX4_init_6 14 rfl rfl)
theorem dX4_init_156 : decode cX4_init 156 = .ok (.bipush 12, 2) := dk_16 12 (dk_at dksX4_init_6 16 rfl rfl)
theorem dX4_init_158 : decode cX4_init 158 = .ok (.iconst 2, 1) := dk_5 (dk_at dksX4_init_6 18 rfl rfl)
theorem dX4_init_159 : decode cX4_init 159 = .ok (.bipush 9, 2) := dk_16 9 (dk_at dksX4_init_6 19 rfl rfl)
theorem dX4_init_161 : decode cX4_init 161 = .ok (.iconst 1, 1) := dk_4 (dk_at dksX4_init_6 21 rfl rfl)
theorem dX4_init_162 : decode cX4_init 162 = .ok (.bipush 80, 2) := dk_16 80 (dk_at dksX4_init_6 22 rfl rfl)
theorem dX4_init_164 : decode cX4_init 164 = .ok (.invokevirtual 56, 3) := dk_182 0 56 (dk_at dksX4_init_7 0 rfl rfl)
theorem dX4_init_167 : decode cX4_init 167 = .ok (.istore_n 1, 1) := dk_60 (dk_at dksX4_init_7 3 rfl rfl)
theorem dX4_init_168 : decode cX4_init 168 = .ok (.aload_n 0, 1) := dk_42 (dk_at dksX4_init_7 4 rfl rfl)
theorem dX4_init_169 : decode cX4_init 169 = .ok (.bipush 10, 2) := dk_16 10 (dk_at dksX4_init_7 5 rfl rfl)
theorem dX4_init_171 : decode cX4_init 171 = .ok (.bipush 10, 2) := dk_16 10 (dk_at dksX4_init_7 7 rfl rfl)
theorem dX4_init_173 : decode cX4_init 173 = .ok (.iconst 0, 1) := dk_3 (dk_at dksX4_init_7 9 rfl rfl)
theorem dX4_init_174 : decode cX4_init 174 = .ok (.bipush 11, 2) := dk_16 11 (dk_at dksX4_init_7 10 rfl rfl)
theorem dX4_init_176 : decode cX4_init 176 = .ok (.iconst 3, 1) := dk_6 (dk_at dksX4_init_7 12 rfl rfl)
theorem dX4_init_177 : decode cX4_init 177 = .ok (.sipush 300, 3) := dk_17 1 44 (dk_at dksX4_init_7 13 rfl rfl)
theorem dX4_init_180 : decode cX4_init 180 = .ok (.invokevirtual 56, 3) := dk_182 0 56 (dk_at dksX4_init_7 16 rfl rfl)
theorem dX4_init_183 : decode cX4_init 183 = .ok (.istore_n 1, 1) := dk_60 (dk_at dksX4_init_7 19 rfl rfl)
theorem dX4_init_184 : decode cX4_init 184 = .ok (.return_, 1) := dk_177 (dk_at dksX4_init_7 20 rfl rfl)
abbrev cX4_begins : ByteArray := prog_20_method_8_code
def yX4_begins : MethodName := ⟨RX4, "begins", "()V"⟩
def dkwX4_begins_1 : List UInt8 := [180, 0, 7, 16, 6, 16, 10, 79, 42, 180, 0, 7, 16, 7, 16, 20, 79, 177]
abbrev dktX4_begins_1 : List UInt8 := dkwX4_begins_1 ++ []
def dkwX4_begins_0 : List UInt8 := [3, 60, 27, 17, 5, 137, 162, 0, 16, 42, 180, 0, 7, 27, 3, 79, 132, 1, 1, 167, 255, 239, 42]
abbrev dktX4_begins_0 : List UInt8 := dkwX4_begins_0 ++ dktX4_begins_1
theorem dksX4_begins_0 : cX4_begins.data.toList.drop 0 = dktX4_begins_0 := by decide +kernel
theorem dksX4_begins_1 : cX4_begins.data.toList.drop 23 = dktX4_begins_1 := dk_seg dksX4_begins_0 23 rfl rfl
theorem dX4_begins_0 : decode cX4_begins 0 = .ok (.iconst 0, 1) := dk_3 (dk_at dksX4_begins_0 0 rfl rfl)
theorem dX4_begins_1 : decode cX4_begins 1 = .ok (.istore_n 1, 1) := dk_60 (dk_at dksX4_begins_0 1 rfl rfl)
theorem dX4_begins_2 : decode cX4_begins 2 = .ok (.iload_n 1, 1) := dk_27 (dk_at dksX4_begins_0 2 rfl rfl)
theorem dX4_begins_3 : decode cX4_begins 3 = .ok (.sipush 1417, 3) := dk_17 5 137 (dk_at dksX4_begins_0 3 rfl rfl)
theorem dX4_begins_6 : decode cX4_begins 6 = .ok (.if_icmp .ge 16, 3) := dk_162 0 16 (dk_at dksX4_begins_0 6 rfl rfl)
theorem dX4_begins_9 : decode cX4_begins 9 = .ok (.aload_n 0, 1) := dk_42 (dk_at dksX4_begins_0 9 rfl rfl)
theorem dX4_begins_10 : decode cX4_begins 10 = .ok (.getfield 7, 3) := dk_180 0 7 (dk_at dksX4_begins_0 10 rfl rfl)
theorem dX4_begins_13 : decode cX4_begins 13 = .ok (.iload_n 1, 1) := dk_27 (dk_at dksX4_begins_0 13 rfl rfl)
theorem dX4_begins_14 : decode cX4_begins 14 = .ok (.iconst 0, 1) := dk_3 (dk_at dksX4_begins_0 14 rfl rfl)
theorem dX4_begins_15 : decode cX4_begins 15 = .ok (.iastore, 1) := dk_79 (dk_at dksX4_begins_0 15 rfl rfl)
theorem dX4_begins_16 : decode cX4_begins 16 = .ok (.iinc 1 1, 3) := dk_132 1 1 (dk_at dksX4_begins_0 16 rfl rfl)
theorem dX4_begins_19 : decode cX4_begins 19 = .ok (.goto (-17), 3) := dk_167 255 239 (dk_at dksX4_begins_0 19 rfl rfl)
theorem dX4_begins_22 : decode cX4_begins 22 = .ok (.aload_n 0, 1) := dk_42 (dk_at dksX4_begins_0 22 rfl rfl)
theorem dX4_begins_23 : decode cX4_begins 23 = .ok (.getfield 7, 3) := dk_180 0 7 (dk_at dksX4_begins_1 0 rfl rfl)
theorem dX4_begins_26 : decode cX4_begins 26 = .ok (.bipush 6, 2) := dk_16 6 (dk_at dksX4_begins_1 3 rfl rfl)
theorem dX4_begins_28 : decode cX4_begins 28 = .ok (.bipush 10, 2) := dk_16 10 (dk_at dksX4_begins_1 5 rfl rfl)
theorem dX4_begins_30 : decode cX4_begins 30 = .ok (.iastore, 1) := dk_79 (dk_at dksX4_begins_1 7 rfl rfl)
theorem dX4_begins_31 : decode cX4_begins 31 = .ok (.aload_n 0, 1) := dk_42 (dk_at dksX4_begins_1 8 rfl rfl)
theorem dX4_begins_32 : decode cX4_begins 32 = .ok (.getfield 7, 3) := dk_180 0 7 (dk_at dksX4_begins_1 9 rfl rfl)
theorem dX4_begins_35 : decode cX4_begins 35 = .ok (.bipush 7, 2) := dk_16 7 (dk_at dksX4_begins_1 12 rfl rfl)
theorem dX4_begins_37 : decode cX4_begins 37 = .ok (.bipush 20, 2) := dk_16 20 (dk_at dksX4_begins_1 14 rfl rfl)
theorem dX4_begins_39 : decode cX4_begins 39 = .ok (.iastore, 1) := dk_79 (dk_at dksX4_begins_1 16 rfl rfl)
theorem dX4_begins_40 : decode cX4_begins 40 = .ok (.return_, 1) := dk_177 (dk_at dksX4_begins_1 17 rfl rfl)
abbrev cX4_adds : ByteArray := prog_20_method_11_code
def yX4_adds : MethodName := ⟨RX4, "adds", "(IIIIII)I"⟩
def dkwX4_adds_4 : List UInt8 := [42, 180, 0, 7, 3, 92, 46, 4, 96, 79, 21, 7, 172]
abbrev dktX4_adds_4 : List UInt8 := dkwX4_adds_4 ++ []
def dkwX4_adds_3 : List UInt8 := [21, 5, 182, 0, 63, 42, 21, 7, 8, 21, 6, 182, 0, 63, 42, 21, 7, 16, 6, 21, 6, 182, 0, 63]
abbrev dktX4_adds_3 : List UInt8 := dkwX4_adds_3 ++ dktX4_adds_4
def dkwX4_adds_2 : List UInt8 := [182, 0, 63, 42, 21, 7, 5, 29, 182, 0, 63, 42, 21, 7, 6, 21, 4, 182, 0, 63, 42, 21, 7, 7]
abbrev dktX4_adds_2 : List UInt8 := dkwX4_adds_2 ++ dktX4_adds_3
def dkwX4_adds_1 : List UInt8 := [182, 0, 63, 132, 8, 1, 167, 255, 237, 42, 21, 7, 3, 27, 182, 0, 63, 42, 21, 7, 4, 28]
abbrev dktX4_adds_1 : List UInt8 := dkwX4_adds_1 ++ dktX4_adds_2
def dkwX4_adds_0 : List UInt8 := [42, 180, 0, 7, 3, 46, 54, 7, 3, 54, 8, 21, 8, 16, 10, 162, 0, 18, 42, 21, 7, 21, 8, 3]
abbrev dktX4_adds_0 : List UInt8 := dkwX4_adds_0 ++ dktX4_adds_1
theorem dksX4_adds_0 : cX4_adds.data.toList.drop 0 = dktX4_adds_0 := by decide +kernel
theorem dksX4_adds_1 : cX4_adds.data.toList.drop 24 = dktX4_adds_1 := dk_seg dksX4_adds_0 24 rfl rfl
theorem dksX4_adds_2 : cX4_adds.data.toList.drop 46 = dktX4_adds_2 := dk_seg dksX4_adds_1 22 rfl rfl
theorem dksX4_adds_3 : cX4_adds.data.toList.drop 70 = dktX4_adds_3 := dk_seg dksX4_adds_2 24 rfl rfl
theorem dksX4_adds_4 : cX4_adds.data.toList.drop 94 = dktX4_adds_4 := dk_seg dksX4_adds_3 24 rfl rfl
theorem dX4_adds_0 : decode cX4_adds 0 = .ok (.aload_n 0, 1) := dk_42 (dk_at dksX4_adds_0 0 rfl rfl)
theorem dX4_adds_1 : decode cX4_adds 1 = .ok (.getfield 7, 3) := dk_180 0 7 (dk_at dksX4_adds_0 1 rfl rfl)
theorem dX4_adds_4 : decode cX4_adds 4 = .ok (.iconst 0, 1) := dk_3 (dk_at dksX4_adds_0 4 rfl rfl)
theorem dX4_adds_5 : decode cX4_adds 5 = .ok (.iaload, 1) := dk_46 (dk_at dksX4_adds_0 5 rfl rfl)
theorem dX4_adds_6 : decode cX4_adds 6 = .ok (.istore 7, 2) := dk_54 7 (dk_at dksX4_adds_0 6 rfl rfl)
theorem dX4_adds_8 : decode cX4_adds 8 = .ok (.iconst 0, 1) := dk_3 (dk_at dksX4_adds_0 8 rfl rfl)
theorem dX4_adds_9 : decode cX4_adds 9 = .ok (.istore 8, 2) := dk_54 8 (dk_at dksX4_adds_0 9 rfl rfl)
theorem dX4_adds_11 : decode cX4_adds 11 = .ok (.iload 8, 2) := dk_21 8 (dk_at dksX4_adds_0 11 rfl rfl)
theorem dX4_adds_13 : decode cX4_adds 13 = .ok (.bipush 10, 2) := dk_16 10 (dk_at dksX4_adds_0 13 rfl rfl)
theorem dX4_adds_15 : decode cX4_adds 15 = .ok (.if_icmp .ge 18, 3) := dk_162 0 18 (dk_at dksX4_adds_0 15 rfl rfl)
theorem dX4_adds_18 : decode cX4_adds 18 = .ok (.aload_n 0, 1) := dk_42 (dk_at dksX4_adds_0 18 rfl rfl)
theorem dX4_adds_19 : decode cX4_adds 19 = .ok (.iload 7, 2) := dk_21 7 (dk_at dksX4_adds_0 19 rfl rfl)
theorem dX4_adds_21 : decode cX4_adds 21 = .ok (.iload 8, 2) := dk_21 8 (dk_at dksX4_adds_0 21 rfl rfl)
theorem dX4_adds_23 : decode cX4_adds 23 = .ok (.iconst 0, 1) := dk_3 (dk_at dksX4_adds_0 23 rfl rfl)
theorem dX4_adds_24 : decode cX4_adds 24 = .ok (.invokevirtual 63, 3) := dk_182 0 63 (dk_at dksX4_adds_1 0 rfl rfl)
theorem dX4_adds_27 : decode cX4_adds 27 = .ok (.iinc 8 1, 3) := dk_132 8 1 (dk_at dksX4_adds_1 3 rfl rfl)
theorem dX4_adds_30 : decode cX4_adds 30 = .ok (.goto (-19), 3) := dk_167 255 237 (dk_at dksX4_adds_1 6 rfl rfl)
theorem dX4_adds_33 : decode cX4_adds 33 = .ok (.aload_n 0, 1) := dk_42 (dk_at dksX4_adds_1 9 rfl rfl)
theorem dX4_adds_34 : decode cX4_adds 34 = .ok (.iload 7, 2) := dk_21 7 (dk_at dksX4_adds_1 10 rfl rfl)
theorem dX4_adds_36 : decode cX4_adds 36 = .ok (.iconst 0, 1) := dk_3 (dk_at dksX4_adds_1 12 rfl rfl)
theorem dX4_adds_37 : decode cX4_adds 37 = .ok (.iload_n 1, 1) := dk_27 (dk_at dksX4_adds_1 13 rfl rfl)
theorem dX4_adds_38 : decode cX4_adds 38 = .ok (.invokevirtual 63, 3) := dk_182 0 63 (dk_at dksX4_adds_1 14 rfl rfl)
theorem dX4_adds_41 : decode cX4_adds 41 = .ok (.aload_n 0, 1) := dk_42 (dk_at dksX4_adds_1 17 rfl rfl)
theorem dX4_adds_42 : decode cX4_adds 42 = .ok (.iload 7, 2) := dk_21 7 (dk_at dksX4_adds_1 18 rfl rfl)
theorem dX4_adds_44 : decode cX4_adds 44 = .ok (.iconst 1, 1) := dk_4 (dk_at dksX4_adds_1 20 rfl rfl)
theorem dX4_adds_45 : decode cX4_adds 45 = .ok (.iload_n 2, 1) := dk_28 (dk_at dksX4_adds_1 21 rfl rfl)
theorem dX4_adds_46 : decode cX4_adds 46 = .ok (.invokevirtual 63, 3) := dk_182 0 63 (dk_at dksX4_adds_2 0 rfl rfl)
theorem dX4_adds_49 : decode cX4_adds 49 = .ok (.aload_n 0, 1) := dk_42 (dk_at dksX4_adds_2 3 rfl rfl)
theorem dX4_adds_50 : decode cX4_adds 50 = .ok (.iload 7, 2) := dk_21 7 (dk_at dksX4_adds_2 4 rfl rfl)
theorem dX4_adds_52 : decode cX4_adds 52 = .ok (.iconst 2, 1) := dk_5 (dk_at dksX4_adds_2 6 rfl rfl)
theorem dX4_adds_53 : decode cX4_adds 53 = .ok (.iload_n 3, 1) := dk_29 (dk_at dksX4_adds_2 7 rfl rfl)
theorem dX4_adds_54 : decode cX4_adds 54 = .ok (.invokevirtual 63, 3) := dk_182 0 63 (dk_at dksX4_adds_2 8 rfl rfl)
theorem dX4_adds_57 : decode cX4_adds 57 = .ok (.aload_n 0, 1) := dk_42 (dk_at dksX4_adds_2 11 rfl rfl)
theorem dX4_adds_58 : decode cX4_adds 58 = .ok (.iload 7, 2) := dk_21 7 (dk_at dksX4_adds_2 12 rfl rfl)
theorem dX4_adds_60 : decode cX4_adds 60 = .ok (.iconst 3, 1) := dk_6 (dk_at dksX4_adds_2 14 rfl rfl)
theorem dX4_adds_61 : decode cX4_adds 61 = .ok (.iload 4, 2) := dk_21 4 (dk_at dksX4_adds_2 15 rfl rfl)
theorem dX4_adds_63 : decode cX4_adds 63 = .ok (.invokevirtual 63, 3) := dk_182 0 63 (dk_at dksX4_adds_2 17 rfl rfl)
theorem dX4_adds_66 : decode cX4_adds 66 = .ok (.aload_n 0, 1) := dk_42 (dk_at dksX4_adds_2 20 rfl rfl)
theorem dX4_adds_67 : decode cX4_adds 67 = .ok (.iload 7, 2) := dk_21 7 (dk_at dksX4_adds_2 21 rfl rfl)
theorem dX4_adds_69 : decode cX4_adds 69 = .ok (.iconst 4, 1) := dk_7 (dk_at dksX4_adds_2 23 rfl rfl)
theorem dX4_adds_70 : decode cX4_adds 70 = .ok (.iload 5, 2) := dk_21 5 (dk_at dksX4_adds_3 0 rfl rfl)
theorem dX4_adds_72 : decode cX4_adds 72 = .ok (.invokevirtual 63, 3) := dk_182 0 63 (dk_at dksX4_adds_3 2 rfl rfl)
theorem dX4_adds_75 : decode cX4_adds 75 = .ok (.aload_n 0, 1) := dk_42 (dk_at dksX4_adds_3 5 rfl rfl)
theorem dX4_adds_76 : decode cX4_adds 76 = .ok (.iload 7, 2) := dk_21 7 (dk_at dksX4_adds_3 6 rfl rfl)
theorem dX4_adds_78 : decode cX4_adds 78 = .ok (.iconst 5, 1) := dk_8 (dk_at dksX4_adds_3 8 rfl rfl)
theorem dX4_adds_79 : decode cX4_adds 79 = .ok (.iload 6, 2) := dk_21 6 (dk_at dksX4_adds_3 9 rfl rfl)
theorem dX4_adds_81 : decode cX4_adds 81 = .ok (.invokevirtual 63, 3) := dk_182 0 63 (dk_at dksX4_adds_3 11 rfl rfl)
theorem dX4_adds_84 : decode cX4_adds 84 = .ok (.aload_n 0, 1) := dk_42 (dk_at dksX4_adds_3 14 rfl rfl)
theorem dX4_adds_85 : decode cX4_adds 85 = .ok (.iload 7, 2) := dk_21 7 (dk_at dksX4_adds_3 15 rfl rfl)
theorem dX4_adds_87 : decode cX4_adds 87 = .ok (.bipush 6, 2) := dk_16 6 (dk_at dksX4_adds_3 17 rfl rfl)
theorem dX4_adds_89 : decode cX4_adds 89 = .ok (.iload 6, 2) := dk_21 6 (dk_at dksX4_adds_3 19 rfl rfl)
theorem dX4_adds_91 : decode cX4_adds 91 = .ok (.invokevirtual 63, 3) := dk_182 0 63 (dk_at dksX4_adds_3 21 rfl rfl)
theorem dX4_adds_94 : decode cX4_adds 94 = .ok (.aload_n 0, 1) := dk_42 (dk_at dksX4_adds_4 0 rfl rfl)
theorem dX4_adds_95 : decode cX4_adds 95 = .ok (.getfield 7, 3) := dk_180 0 7 (dk_at dksX4_adds_4 1 rfl rfl)
theorem dX4_adds_98 : decode cX4_adds 98 = .ok (.iconst 0, 1) := dk_3 (dk_at dksX4_adds_4 4 rfl rfl)
theorem dX4_adds_99 : decode cX4_adds 99 = .ok (.dup2, 1) := dk_92 (dk_at dksX4_adds_4 5 rfl rfl)
theorem dX4_adds_100 : decode cX4_adds 100 = .ok (.iaload, 1) := dk_46 (dk_at dksX4_adds_4 6 rfl rfl)
theorem dX4_adds_101 : decode cX4_adds 101 = .ok (.iconst 1, 1) := dk_4 (dk_at dksX4_adds_4 7 rfl rfl)
theorem dX4_adds_102 : decode cX4_adds 102 = .ok (.iadd, 1) := dk_96 (dk_at dksX4_adds_4 8 rfl rfl)
theorem dX4_adds_103 : decode cX4_adds 103 = .ok (.iastore, 1) := dk_79 (dk_at dksX4_adds_4 9 rfl rfl)
theorem dX4_adds_104 : decode cX4_adds 104 = .ok (.iload 7, 2) := dk_21 7 (dk_at dksX4_adds_4 10 rfl rfl)
theorem dX4_adds_106 : decode cX4_adds 106 = .ok (.ireturn, 1) := dk_172 (dk_at dksX4_adds_4 12 rfl rfl)
abbrev cX4_puts : ByteArray := prog_20_method_10_code
def yX4_puts : MethodName := ⟨RX4, "puts", "(III)V"⟩
def dkwX4_puts_0 : List UInt8 := [42, 180, 0, 7, 16, 25, 16, 10, 27, 104, 96, 28, 96, 29, 79, 177]
abbrev dktX4_puts_0 : List UInt8 := dkwX4_puts_0 ++ []
theorem dksX4_puts_0 : cX4_puts.data.toList.drop 0 = dktX4_puts_0 := by decide +kernel
theorem dX4_puts_0 : decode cX4_puts 0 = .ok (.aload_n 0, 1) := dk_42 (dk_at dksX4_puts_0 0 rfl rfl)
theorem dX4_puts_1 : decode cX4_puts 1 = .ok (.getfield 7, 3) := dk_180 0 7 (dk_at dksX4_puts_0 1 rfl rfl)
theorem dX4_puts_4 : decode cX4_puts 4 = .ok (.bipush 25, 2) := dk_16 25 (dk_at dksX4_puts_0 4 rfl rfl)
theorem dX4_puts_6 : decode cX4_puts 6 = .ok (.bipush 10, 2) := dk_16 10 (dk_at dksX4_puts_0 6 rfl rfl)
theorem dX4_puts_8 : decode cX4_puts 8 = .ok (.iload_n 1, 1) := dk_27 (dk_at dksX4_puts_0 8 rfl rfl)
theorem dX4_puts_9 : decode cX4_puts 9 = .ok (.imul, 1) := dk_104 (dk_at dksX4_puts_0 9 rfl rfl)
theorem dX4_puts_10 : decode cX4_puts 10 = .ok (.iadd, 1) := dk_96 (dk_at dksX4_puts_0 10 rfl rfl)
theorem dX4_puts_11 : decode cX4_puts 11 = .ok (.iload_n 2, 1) := dk_28 (dk_at dksX4_puts_0 11 rfl rfl)
theorem dX4_puts_12 : decode cX4_puts 12 = .ok (.iadd, 1) := dk_96 (dk_at dksX4_puts_0 12 rfl rfl)
theorem dX4_puts_13 : decode cX4_puts 13 = .ok (.iload_n 3, 1) := dk_29 (dk_at dksX4_puts_0 13 rfl rfl)
theorem dX4_puts_14 : decode cX4_puts 14 = .ok (.iastore, 1) := dk_79 (dk_at dksX4_puts_0 14 rfl rfl)
theorem dX4_puts_15 : decode cX4_puts 15 = .ok (.return_, 1) := dk_177 (dk_at dksX4_puts_0 15 rfl rfl)
abbrev cX4_thrown : ByteArray := prog_20_method_2_code
def yX4_thrown : MethodName := ⟨RX4, "thrown", "()I"⟩
theorem dX4_thrown_0 : decode cX4_thrown 0 = .ok (.aload_n 0, 1) := by decide +kernel
theorem dX4_thrown_1 : decode cX4_thrown 1 = .ok (.getfield 60, 3) := by decide +kernel
theorem dX4_thrown_4 : decode cX4_thrown 4 = .ok (.ireturn, 1) := by decide +kernel
abbrev cX4_appendInput : ByteArray := prog_20_method_40_code
def yX4_appendInput : MethodName := ⟨RX4, "appendInput", "(IIIII)I"⟩
def dkwX4_appendInput_2 : List UInt8 := [182, 0, 156, 42, 180, 0, 153, 172]
abbrev dktX4_appendInput_2 : List UInt8 := dkwX4_appendInput_2 ++ []
def dkwX4_appendInput_1 : List UInt8 := [182, 0, 156, 42, 28, 182, 0, 156, 42, 29, 182, 0, 156, 42, 21, 4, 182, 0, 156, 42, 21, 5]
abbrev dktX4_appendInput_1 : List UInt8 := dkwX4_appendInput_1 ++ dktX4_appendInput_2
def dkwX4_appendInput_0 : List UInt8 := [42, 3, 181, 0, 60, 42, 180, 0, 153, 16, 20, 96, 17, 2, 188, 164, 0, 5, 2, 172, 42, 27]
abbrev dktX4_appendInput_0 : List UInt8 := dkwX4_appendInput_0 ++ dktX4_appendInput_1
theorem dksX4_appendInput_0 : cX4_appendInput.data.toList.drop 0 = dktX4_appendInput_0 := by decide +kernel
theorem dksX4_appendInput_1 : cX4_appendInput.data.toList.drop 22 = dktX4_appendInput_1 := dk_seg dksX4_appendInput_0 22 rfl rfl
theorem dksX4_appendInput_2 : cX4_appendInput.data.toList.drop 44 = dktX4_appendInput_2 := dk_seg dksX4_appendInput_1 22 rfl rfl
theorem dX4_appendInput_0 : decode cX4_appendInput 0 = .ok (.aload_n 0, 1) := dk_42 (dk_at dksX4_appendInput_0 0 rfl rfl)
theorem dX4_appendInput_1 : decode cX4_appendInput 1 = .ok (.iconst 0, 1) := dk_3 (dk_at dksX4_appendInput_0 1 rfl rfl)
theorem dX4_appendInput_2 : decode cX4_appendInput 2 = .ok (.putfield 60, 3) := dk_181 0 60 (dk_at dksX4_appendInput_0 2 rfl rfl)
theorem dX4_appendInput_5 : decode cX4_appendInput 5 = .ok (.aload_n 0, 1) := dk_42 (dk_at dksX4_appendInput_0 5 rfl rfl)
theorem dX4_appendInput_6 : decode cX4_appendInput 6 = .ok (.getfield 153, 3) := dk_180 0 153 (dk_at dksX4_appendInput_0 6 rfl rfl)
theorem dX4_appendInput_9 : decode cX4_appendInput 9 = .ok (.bipush 20, 2) := dk_16 20 (dk_at dksX4_appendInput_0 9 rfl rfl)
theorem dX4_appendInput_11 : decode cX4_appendInput 11 = .ok (.iadd, 1) := dk_96 (dk_at dksX4_appendInput_0 11 rfl rfl)
theorem dX4_appendInput_12 : decode cX4_appendInput 12 = .ok (.sipush 700, 3) := dk_17 2 188 (dk_at dksX4_appendInput_0 12 rfl rfl)
theorem dX4_appendInput_15 : decode cX4_appendInput 15 = .ok (.if_icmp .le 5, 3) := dk_164 0 5 (dk_at dksX4_appendInput_0 15 rfl rfl)
theorem dX4_appendInput_18 : decode cX4_appendInput 18 = .ok (.iconst (-1), 1) := dk_2 (dk_at dksX4_appendInput_0 18 rfl rfl)
theorem dX4_appendInput_19 : decode cX4_appendInput 19 = .ok (.ireturn, 1) := dk_172 (dk_at dksX4_appendInput_0 19 rfl rfl)
theorem dX4_appendInput_20 : decode cX4_appendInput 20 = .ok (.aload_n 0, 1) := dk_42 (dk_at dksX4_appendInput_0 20 rfl rfl)
theorem dX4_appendInput_21 : decode cX4_appendInput 21 = .ok (.iload_n 1, 1) := dk_27 (dk_at dksX4_appendInput_0 21 rfl rfl)
theorem dX4_appendInput_22 : decode cX4_appendInput 22 = .ok (.invokevirtual 156, 3) := dk_182 0 156 (dk_at dksX4_appendInput_1 0 rfl rfl)
theorem dX4_appendInput_25 : decode cX4_appendInput 25 = .ok (.aload_n 0, 1) := dk_42 (dk_at dksX4_appendInput_1 3 rfl rfl)
theorem dX4_appendInput_26 : decode cX4_appendInput 26 = .ok (.iload_n 2, 1) := dk_28 (dk_at dksX4_appendInput_1 4 rfl rfl)
theorem dX4_appendInput_27 : decode cX4_appendInput 27 = .ok (.invokevirtual 156, 3) := dk_182 0 156 (dk_at dksX4_appendInput_1 5 rfl rfl)
theorem dX4_appendInput_30 : decode cX4_appendInput 30 = .ok (.aload_n 0, 1) := dk_42 (dk_at dksX4_appendInput_1 8 rfl rfl)
theorem dX4_appendInput_31 : decode cX4_appendInput 31 = .ok (.iload_n 3, 1) := dk_29 (dk_at dksX4_appendInput_1 9 rfl rfl)
theorem dX4_appendInput_32 : decode cX4_appendInput 32 = .ok (.invokevirtual 156, 3) := dk_182 0 156 (dk_at dksX4_appendInput_1 10 rfl rfl)
theorem dX4_appendInput_35 : decode cX4_appendInput 35 = .ok (.aload_n 0, 1) := dk_42 (dk_at dksX4_appendInput_1 13 rfl rfl)
theorem dX4_appendInput_36 : decode cX4_appendInput 36 = .ok (.iload 4, 2) := dk_21 4 (dk_at dksX4_appendInput_1 14 rfl rfl)
theorem dX4_appendInput_38 : decode cX4_appendInput 38 = .ok (.invokevirtual 156, 3) := dk_182 0 156 (dk_at dksX4_appendInput_1 16 rfl rfl)
theorem dX4_appendInput_41 : decode cX4_appendInput 41 = .ok (.aload_n 0, 1) := dk_42 (dk_at dksX4_appendInput_1 19 rfl rfl)
theorem dX4_appendInput_42 : decode cX4_appendInput 42 = .ok (.iload 5, 2) := dk_21 5 (dk_at dksX4_appendInput_1 20 rfl rfl)
theorem dX4_appendInput_44 : decode cX4_appendInput 44 = .ok (.invokevirtual 156, 3) := dk_182 0 156 (dk_at dksX4_appendInput_2 0 rfl rfl)
theorem dX4_appendInput_47 : decode cX4_appendInput 47 = .ok (.aload_n 0, 1) := dk_42 (dk_at dksX4_appendInput_2 3 rfl rfl)
theorem dX4_appendInput_48 : decode cX4_appendInput 48 = .ok (.getfield 153, 3) := dk_180 0 153 (dk_at dksX4_appendInput_2 4 rfl rfl)
theorem dX4_appendInput_51 : decode cX4_appendInput 51 = .ok (.ireturn, 1) := dk_172 (dk_at dksX4_appendInput_2 7 rfl rfl)
abbrev cX4_appendWord : ByteArray := prog_20_method_39_code
def yX4_appendWord : MethodName := ⟨RX4, "appendWord", "(I)V"⟩
def dkwX4_appendWord_1 : List UInt8 := [89, 180, 0, 153, 4, 96, 181, 0, 153, 132, 2, 248, 167, 255, 223, 177]
abbrev dktX4_appendWord_1 : List UInt8 := dkwX4_appendWord_1 ++ []
def dkwX4_appendWord_0 : List UInt8 := [16, 24, 61, 28, 155, 0, 35, 42, 180, 0, 31, 42, 180, 0, 153, 27, 28, 122, 17, 0, 255, 126, 79, 42]
abbrev dktX4_appendWord_0 : List UInt8 := dkwX4_appendWord_0 ++ dktX4_appendWord_1
theorem dksX4_appendWord_0 : cX4_appendWord.data.toList.drop 0 = dktX4_appendWord_0 := by decide +kernel
theorem dksX4_appendWord_1 : cX4_appendWord.data.toList.drop 24 = dktX4_appendWord_1 := dk_seg dksX4_appendWord_0 24 rfl rfl
theorem dX4_appendWord_0 : decode cX4_appendWord 0 = .ok (.bipush 24, 2) := dk_16 24 (dk_at dksX4_appendWord_0 0 rfl rfl)
theorem dX4_appendWord_2 : decode cX4_appendWord 2 = .ok (.istore_n 2, 1) := dk_61 (dk_at dksX4_appendWord_0 2 rfl rfl)
theorem dX4_appendWord_3 : decode cX4_appendWord 3 = .ok (.iload_n 2, 1) := dk_28 (dk_at dksX4_appendWord_0 3 rfl rfl)
theorem dX4_appendWord_4 : decode cX4_appendWord 4 = .ok (.ifCond .lt 35, 3) := dk_155 0 35 (dk_at dksX4_appendWord_0 4 rfl rfl)
theorem dX4_appendWord_7 : decode cX4_appendWord 7 = .ok (.aload_n 0, 1) := dk_42 (dk_at dksX4_appendWord_0 7 rfl rfl)
theorem dX4_appendWord_8 : decode cX4_appendWord 8 = .ok (.getfield 31, 3) := dk_180 0 31 (dk_at dksX4_appendWord_0 8 rfl rfl)
theorem dX4_appendWord_11 : decode cX4_appendWord 11 = .ok (.aload_n 0, 1) := dk_42 (dk_at dksX4_appendWord_0 11 rfl rfl)
theorem dX4_appendWord_12 : decode cX4_appendWord 12 = .ok (.getfield 153, 3) := dk_180 0 153 (dk_at dksX4_appendWord_0 12 rfl rfl)
theorem dX4_appendWord_15 : decode cX4_appendWord 15 = .ok (.iload_n 1, 1) := dk_27 (dk_at dksX4_appendWord_0 15 rfl rfl)
theorem dX4_appendWord_16 : decode cX4_appendWord 16 = .ok (.iload_n 2, 1) := dk_28 (dk_at dksX4_appendWord_0 16 rfl rfl)
theorem dX4_appendWord_17 : decode cX4_appendWord 17 = .ok (.ishr, 1) := dk_122 (dk_at dksX4_appendWord_0 17 rfl rfl)
theorem dX4_appendWord_18 : decode cX4_appendWord 18 = .ok (.sipush 255, 3) := dk_17 0 255 (dk_at dksX4_appendWord_0 18 rfl rfl)
theorem dX4_appendWord_21 : decode cX4_appendWord 21 = .ok (.iand, 1) := dk_126 (dk_at dksX4_appendWord_0 21 rfl rfl)
theorem dX4_appendWord_22 : decode cX4_appendWord 22 = .ok (.iastore, 1) := dk_79 (dk_at dksX4_appendWord_0 22 rfl rfl)
theorem dX4_appendWord_23 : decode cX4_appendWord 23 = .ok (.aload_n 0, 1) := dk_42 (dk_at dksX4_appendWord_0 23 rfl rfl)
theorem dX4_appendWord_24 : decode cX4_appendWord 24 = .ok (.dup, 1) := dk_89 (dk_at dksX4_appendWord_1 0 rfl rfl)
theorem dX4_appendWord_25 : decode cX4_appendWord 25 = .ok (.getfield 153, 3) := dk_180 0 153 (dk_at dksX4_appendWord_1 1 rfl rfl)
theorem dX4_appendWord_28 : decode cX4_appendWord 28 = .ok (.iconst 1, 1) := dk_4 (dk_at dksX4_appendWord_1 4 rfl rfl)
theorem dX4_appendWord_29 : decode cX4_appendWord 29 = .ok (.iadd, 1) := dk_96 (dk_at dksX4_appendWord_1 5 rfl rfl)
theorem dX4_appendWord_30 : decode cX4_appendWord 30 = .ok (.putfield 153, 3) := dk_181 0 153 (dk_at dksX4_appendWord_1 6 rfl rfl)
theorem dX4_appendWord_33 : decode cX4_appendWord 33 = .ok (.iinc 2 (-8), 3) := dk_132 2 248 (dk_at dksX4_appendWord_1 9 rfl rfl)
theorem dX4_appendWord_36 : decode cX4_appendWord 36 = .ok (.goto (-33), 3) := dk_167 255 223 (dk_at dksX4_appendWord_1 12 rfl rfl)
theorem dX4_appendWord_39 : decode cX4_appendWord 39 = .ok (.return_, 1) := dk_177 (dk_at dksX4_appendWord_1 15 rfl rfl)
abbrev cX4_truncateInput : ByteArray := prog_20_method_41_code
def yX4_truncateInput : MethodName := ⟨RX4, "truncateInput", "(I)Z"⟩
def dkwX4_truncateInput_1 : List UInt8 := [4, 172]
abbrev dktX4_truncateInput_1 : List UInt8 := dkwX4_truncateInput_1 ++ []
def dkwX4_truncateInput_0 : List UInt8 := [42, 3, 181, 0, 60, 27, 3, 42, 180, 0, 153, 184, 0, 159, 154, 0, 5, 3, 172, 42, 27, 181, 0, 153]
abbrev dktX4_truncateInput_0 : List UInt8 := dkwX4_truncateInput_0 ++ dktX4_truncateInput_1
theorem dksX4_truncateInput_0 : cX4_truncateInput.data.toList.drop 0 = dktX4_truncateInput_0 := by decide +kernel
theorem dksX4_truncateInput_1 : cX4_truncateInput.data.toList.drop 24 = dktX4_truncateInput_1 := dk_seg dksX4_truncateInput_0 24 rfl rfl
theorem dX4_truncateInput_0 : decode cX4_truncateInput 0 = .ok (.aload_n 0, 1) := dk_42 (dk_at dksX4_truncateInput_0 0 rfl rfl)
theorem dX4_truncateInput_1 : decode cX4_truncateInput 1 = .ok (.iconst 0, 1) := dk_3 (dk_at dksX4_truncateInput_0 1 rfl rfl)
theorem dX4_truncateInput_2 : decode cX4_truncateInput 2 = .ok (.putfield 60, 3) := dk_181 0 60 (dk_at dksX4_truncateInput_0 2 rfl rfl)
theorem dX4_truncateInput_5 : decode cX4_truncateInput 5 = .ok (.iload_n 1, 1) := dk_27 (dk_at dksX4_truncateInput_0 5 rfl rfl)
theorem dX4_truncateInput_6 : decode cX4_truncateInput 6 = .ok (.iconst 0, 1) := dk_3 (dk_at dksX4_truncateInput_0 6 rfl rfl)
theorem dX4_truncateInput_7 : decode cX4_truncateInput 7 = .ok (.aload_n 0, 1) := dk_42 (dk_at dksX4_truncateInput_0 7 rfl rfl)
theorem dX4_truncateInput_8 : decode cX4_truncateInput 8 = .ok (.getfield 153, 3) := dk_180 0 153 (dk_at dksX4_truncateInput_0 8 rfl rfl)
theorem dX4_truncateInput_11 : decode cX4_truncateInput 11 = .ok (.invokestatic 159, 3) := dk_184 0 159 (dk_at dksX4_truncateInput_0 11 rfl rfl)
theorem dX4_truncateInput_14 : decode cX4_truncateInput 14 = .ok (.ifCond .ne 5, 3) := dk_154 0 5 (dk_at dksX4_truncateInput_0 14 rfl rfl)
theorem dX4_truncateInput_17 : decode cX4_truncateInput 17 = .ok (.iconst 0, 1) := dk_3 (dk_at dksX4_truncateInput_0 17 rfl rfl)
theorem dX4_truncateInput_18 : decode cX4_truncateInput 18 = .ok (.ireturn, 1) := dk_172 (dk_at dksX4_truncateInput_0 18 rfl rfl)
theorem dX4_truncateInput_19 : decode cX4_truncateInput 19 = .ok (.aload_n 0, 1) := dk_42 (dk_at dksX4_truncateInput_0 19 rfl rfl)
theorem dX4_truncateInput_20 : decode cX4_truncateInput 20 = .ok (.iload_n 1, 1) := dk_27 (dk_at dksX4_truncateInput_0 20 rfl rfl)
theorem dX4_truncateInput_21 : decode cX4_truncateInput 21 = .ok (.putfield 153, 3) := dk_181 0 153 (dk_at dksX4_truncateInput_0 21 rfl rfl)
theorem dX4_truncateInput_24 : decode cX4_truncateInput 24 = .ok (.iconst 1, 1) := dk_4 (dk_at dksX4_truncateInput_1 0 rfl rfl)
theorem dX4_truncateInput_25 : decode cX4_truncateInput 25 = .ok (.ireturn, 1) := dk_172 (dk_at dksX4_truncateInput_1 1 rfl rfl)
abbrev cX4_inRange : ByteArray := prog_20_method_3_code
def yX4_inRange : MethodName := ⟨RX4, "inRange", "(III)Z"⟩
def dkwX4_inRange_0 : List UInt8 := [26, 27, 161, 0, 12, 26, 28, 163, 0, 7, 4, 167, 0, 4, 3, 172]
abbrev dktX4_inRange_0 : List UInt8 := dkwX4_inRange_0 ++ []
theorem dksX4_inRange_0 : cX4_inRange.data.toList.drop 0 = dktX4_inRange_0 := by decide +kernel
theorem dX4_inRange_0 : decode cX4_inRange 0 = .ok (.iload_n 0, 1) := dk_26 (dk_at dksX4_inRange_0 0 rfl rfl)
theorem dX4_inRange_1 : decode cX4_inRange 1 = .ok (.iload_n 1, 1) := dk_27 (dk_at dksX4_inRange_0 1 rfl rfl)
theorem dX4_inRange_2 : decode cX4_inRange 2 = .ok (.if_icmp .lt 12, 3) := dk_161 0 12 (dk_at dksX4_inRange_0 2 rfl rfl)
theorem dX4_inRange_5 : decode cX4_inRange 5 = .ok (.iload_n 0, 1) := dk_26 (dk_at dksX4_inRange_0 5 rfl rfl)
theorem dX4_inRange_6 : decode cX4_inRange 6 = .ok (.iload_n 2, 1) := dk_28 (dk_at dksX4_inRange_0 6 rfl rfl)
theorem dX4_inRange_7 : decode cX4_inRange 7 = .ok (.if_icmp .gt 7, 3) := dk_163 0 7 (dk_at dksX4_inRange_0 7 rfl rfl)
theorem dX4_inRange_10 : decode cX4_inRange 10 = .ok (.iconst 1, 1) := dk_4 (dk_at dksX4_inRange_0 10 rfl rfl)
theorem dX4_inRange_11 : decode cX4_inRange 11 = .ok (.goto 4, 3) := dk_167 0 4 (dk_at dksX4_inRange_0 11 rfl rfl)
theorem dX4_inRange_14 : decode cX4_inRange 14 = .ok (.iconst 0, 1) := dk_3 (dk_at dksX4_inRange_0 14 rfl rfl)
theorem dX4_inRange_15 : decode cX4_inRange 15 = .ok (.ireturn, 1) := dk_172 (dk_at dksX4_inRange_0 15 rfl rfl)
abbrev cX4_loadRose : ByteArray := prog_20_method_60_code
def yX4_loadRose : MethodName := ⟨RX4, "loadRose", "()I"⟩
def dkwX4_loadRose_2 : List UInt8 := [184, 0, 149, 2, 172, 42, 3, 181, 0, 146, 42, 3, 181, 1, 10, 42, 180, 0, 7, 3, 46, 172]
abbrev dktX4_loadRose_2 : List UInt8 := dkwX4_loadRose_2 ++ []
def dkwX4_loadRose_1 : List UInt8 := [182, 1, 4, 60, 42, 182, 1, 7, 27, 154, 0, 18, 42, 180, 0, 13, 3, 42, 180, 0, 7, 3]
abbrev dktX4_loadRose_1 : List UInt8 := dkwX4_loadRose_1 ++ dktX4_loadRose_2
def dkwX4_loadRose_0 : List UInt8 := [42, 3, 181, 0, 60, 42, 180, 0, 7, 3, 42, 180, 0, 13, 3, 184, 0, 149, 42, 182, 1, 1, 42]
abbrev dktX4_loadRose_0 : List UInt8 := dkwX4_loadRose_0 ++ dktX4_loadRose_1
theorem dksX4_loadRose_0 : cX4_loadRose.data.toList.drop 0 = dktX4_loadRose_0 := by decide +kernel
theorem dksX4_loadRose_1 : cX4_loadRose.data.toList.drop 23 = dktX4_loadRose_1 := dk_seg dksX4_loadRose_0 23 rfl rfl
theorem dksX4_loadRose_2 : cX4_loadRose.data.toList.drop 45 = dktX4_loadRose_2 := dk_seg dksX4_loadRose_1 22 rfl rfl
theorem dX4_loadRose_0 : decode cX4_loadRose 0 = .ok (.aload_n 0, 1) := dk_42 (dk_at dksX4_loadRose_0 0 rfl rfl)
theorem dX4_loadRose_1 : decode cX4_loadRose 1 = .ok (.iconst 0, 1) := dk_3 (dk_at dksX4_loadRose_0 1 rfl rfl)
theorem dX4_loadRose_2 : decode cX4_loadRose 2 = .ok (.putfield 60, 3) := dk_181 0 60 (dk_at dksX4_loadRose_0 2 rfl rfl)
theorem dX4_loadRose_5 : decode cX4_loadRose 5 = .ok (.aload_n 0, 1) := dk_42 (dk_at dksX4_loadRose_0 5 rfl rfl)
theorem dX4_loadRose_6 : decode cX4_loadRose 6 = .ok (.getfield 7, 3) := dk_180 0 7 (dk_at dksX4_loadRose_0 6 rfl rfl)
theorem dX4_loadRose_9 : decode cX4_loadRose 9 = .ok (.iconst 0, 1) := dk_3 (dk_at dksX4_loadRose_0 9 rfl rfl)
theorem dX4_loadRose_10 : decode cX4_loadRose 10 = .ok (.aload_n 0, 1) := dk_42 (dk_at dksX4_loadRose_0 10 rfl rfl)
theorem dX4_loadRose_11 : decode cX4_loadRose 11 = .ok (.getfield 13, 3) := dk_180 0 13 (dk_at dksX4_loadRose_0 11 rfl rfl)
theorem dX4_loadRose_14 : decode cX4_loadRose 14 = .ok (.iconst 0, 1) := dk_3 (dk_at dksX4_loadRose_0 14 rfl rfl)
theorem dX4_loadRose_15 : decode cX4_loadRose 15 = .ok (.invokestatic 149, 3) := dk_184 0 149 (dk_at dksX4_loadRose_0 15 rfl rfl)
theorem dX4_loadRose_18 : decode cX4_loadRose 18 = .ok (.aload_n 0, 1) := dk_42 (dk_at dksX4_loadRose_0 18 rfl rfl)
theorem dX4_loadRose_19 : decode cX4_loadRose 19 = .ok (.invokevirtual 257, 3) := dk_182 1 1 (dk_at dksX4_loadRose_0 19 rfl rfl)
theorem dX4_loadRose_22 : decode cX4_loadRose 22 = .ok (.aload_n 0, 1) := dk_42 (dk_at dksX4_loadRose_0 22 rfl rfl)
theorem dX4_loadRose_23 : decode cX4_loadRose 23 = .ok (.invokevirtual 260, 3) := dk_182 1 4 (dk_at dksX4_loadRose_1 0 rfl rfl)
theorem dX4_loadRose_26 : decode cX4_loadRose 26 = .ok (.istore_n 1, 1) := dk_60 (dk_at dksX4_loadRose_1 3 rfl rfl)
theorem dX4_loadRose_27 : decode cX4_loadRose 27 = .ok (.aload_n 0, 1) := dk_42 (dk_at dksX4_loadRose_1 4 rfl rfl)
theorem dX4_loadRose_28 : decode cX4_loadRose 28 = .ok (.invokevirtual 263, 3) := dk_182 1 7 (dk_at dksX4_loadRose_1 5 rfl rfl)
theorem dX4_loadRose_31 : decode cX4_loadRose 31 = .ok (.iload_n 1, 1) := dk_27 (dk_at dksX4_loadRose_1 8 rfl rfl)
theorem dX4_loadRose_32 : decode cX4_loadRose 32 = .ok (.ifCond .ne 18, 3) := dk_154 0 18 (dk_at dksX4_loadRose_1 9 rfl rfl)
theorem dX4_loadRose_35 : decode cX4_loadRose 35 = .ok (.aload_n 0, 1) := dk_42 (dk_at dksX4_loadRose_1 12 rfl rfl)
theorem dX4_loadRose_36 : decode cX4_loadRose 36 = .ok (.getfield 13, 3) := dk_180 0 13 (dk_at dksX4_loadRose_1 13 rfl rfl)
theorem dX4_loadRose_39 : decode cX4_loadRose 39 = .ok (.iconst 0, 1) := dk_3 (dk_at dksX4_loadRose_1 16 rfl rfl)
theorem dX4_loadRose_40 : decode cX4_loadRose 40 = .ok (.aload_n 0, 1) := dk_42 (dk_at dksX4_loadRose_1 17 rfl rfl)
theorem dX4_loadRose_41 : decode cX4_loadRose 41 = .ok (.getfield 7, 3) := dk_180 0 7 (dk_at dksX4_loadRose_1 18 rfl rfl)
theorem dX4_loadRose_44 : decode cX4_loadRose 44 = .ok (.iconst 0, 1) := dk_3 (dk_at dksX4_loadRose_1 21 rfl rfl)
theorem dX4_loadRose_45 : decode cX4_loadRose 45 = .ok (.invokestatic 149, 3) := dk_184 0 149 (dk_at dksX4_loadRose_2 0 rfl rfl)
theorem dX4_loadRose_48 : decode cX4_loadRose 48 = .ok (.iconst (-1), 1) := dk_2 (dk_at dksX4_loadRose_2 3 rfl rfl)
theorem dX4_loadRose_49 : decode cX4_loadRose 49 = .ok (.ireturn, 1) := dk_172 (dk_at dksX4_loadRose_2 4 rfl rfl)
theorem dX4_loadRose_50 : decode cX4_loadRose 50 = .ok (.aload_n 0, 1) := dk_42 (dk_at dksX4_loadRose_2 5 rfl rfl)
theorem dX4_loadRose_51 : decode cX4_loadRose 51 = .ok (.iconst 0, 1) := dk_3 (dk_at dksX4_loadRose_2 6 rfl rfl)
theorem dX4_loadRose_52 : decode cX4_loadRose 52 = .ok (.putfield 146, 3) := dk_181 0 146 (dk_at dksX4_loadRose_2 7 rfl rfl)
theorem dX4_loadRose_55 : decode cX4_loadRose 55 = .ok (.aload_n 0, 1) := dk_42 (dk_at dksX4_loadRose_2 10 rfl rfl)
theorem dX4_loadRose_56 : decode cX4_loadRose 56 = .ok (.iconst 0, 1) := dk_3 (dk_at dksX4_loadRose_2 11 rfl rfl)
theorem dX4_loadRose_57 : decode cX4_loadRose 57 = .ok (.putfield 266, 3) := dk_181 1 10 (dk_at dksX4_loadRose_2 12 rfl rfl)
theorem dX4_loadRose_60 : decode cX4_loadRose 60 = .ok (.aload_n 0, 1) := dk_42 (dk_at dksX4_loadRose_2 15 rfl rfl)
theorem dX4_loadRose_61 : decode cX4_loadRose 61 = .ok (.getfield 7, 3) := dk_180 0 7 (dk_at dksX4_loadRose_2 16 rfl rfl)
theorem dX4_loadRose_64 : decode cX4_loadRose 64 = .ok (.iconst 0, 1) := dk_3 (dk_at dksX4_loadRose_2 19 rfl rfl)
theorem dX4_loadRose_65 : decode cX4_loadRose 65 = .ok (.iaload, 1) := dk_46 (dk_at dksX4_loadRose_2 20 rfl rfl)
theorem dX4_loadRose_66 : decode cX4_loadRose 66 = .ok (.ireturn, 1) := dk_172 (dk_at dksX4_loadRose_2 21 rfl rfl)
abbrev cX4_copies : ByteArray := prog_20_method_6_code
def yX4_copies : MethodName := ⟨RX4, "copies", "([II[II)V"⟩
def dkwX4_copies_1 : List UInt8 := [132, 4, 1, 167, 255, 233, 177]
abbrev dktX4_copies_1 : List UInt8 := dkwX4_copies_1 ++ []
def dkwX4_copies_0 : List UInt8 := [3, 54, 4, 21, 4, 17, 5, 137, 162, 0, 21, 44, 29, 21, 4, 96, 42, 27, 21, 4, 96, 46, 79]
abbrev dktX4_copies_0 : List UInt8 := dkwX4_copies_0 ++ dktX4_copies_1
theorem dksX4_copies_0 : cX4_copies.data.toList.drop 0 = dktX4_copies_0 := by decide +kernel
theorem dksX4_copies_1 : cX4_copies.data.toList.drop 23 = dktX4_copies_1 := dk_seg dksX4_copies_0 23 rfl rfl
theorem dX4_copies_0 : decode cX4_copies 0 = .ok (.iconst 0, 1) := dk_3 (dk_at dksX4_copies_0 0 rfl rfl)
theorem dX4_copies_1 : decode cX4_copies 1 = .ok (.istore 4, 2) := dk_54 4 (dk_at dksX4_copies_0 1 rfl rfl)
theorem dX4_copies_3 : decode cX4_copies 3 = .ok (.iload 4, 2) := dk_21 4 (dk_at dksX4_copies_0 3 rfl rfl)
theorem dX4_copies_5 : decode cX4_copies 5 = .ok (.sipush 1417, 3) := dk_17 5 137 (dk_at dksX4_copies_0 5 rfl rfl)
theorem dX4_copies_8 : decode cX4_copies 8 = .ok (.if_icmp .ge 21, 3) := dk_162 0 21 (dk_at dksX4_copies_0 8 rfl rfl)
theorem dX4_copies_11 : decode cX4_copies 11 = .ok (.aload_n 2, 1) := dk_44 (dk_at dksX4_copies_0 11 rfl rfl)
theorem dX4_copies_12 : decode cX4_copies 12 = .ok (.iload_n 3, 1) := dk_29 (dk_at dksX4_copies_0 12 rfl rfl)
theorem dX4_copies_13 : decode cX4_copies 13 = .ok (.iload 4, 2) := dk_21 4 (dk_at dksX4_copies_0 13 rfl rfl)
theorem dX4_copies_15 : decode cX4_copies 15 = .ok (.iadd, 1) := dk_96 (dk_at dksX4_copies_0 15 rfl rfl)
theorem dX4_copies_16 : decode cX4_copies 16 = .ok (.aload_n 0, 1) := dk_42 (dk_at dksX4_copies_0 16 rfl rfl)
theorem dX4_copies_17 : decode cX4_copies 17 = .ok (.iload_n 1, 1) := dk_27 (dk_at dksX4_copies_0 17 rfl rfl)
theorem dX4_copies_18 : decode cX4_copies 18 = .ok (.iload 4, 2) := dk_21 4 (dk_at dksX4_copies_0 18 rfl rfl)
theorem dX4_copies_20 : decode cX4_copies 20 = .ok (.iadd, 1) := dk_96 (dk_at dksX4_copies_0 20 rfl rfl)
theorem dX4_copies_21 : decode cX4_copies 21 = .ok (.iaload, 1) := dk_46 (dk_at dksX4_copies_0 21 rfl rfl)
theorem dX4_copies_22 : decode cX4_copies 22 = .ok (.iastore, 1) := dk_79 (dk_at dksX4_copies_0 22 rfl rfl)
theorem dX4_copies_23 : decode cX4_copies 23 = .ok (.iinc 4 1, 3) := dk_132 4 1 (dk_at dksX4_copies_1 0 rfl rfl)
theorem dX4_copies_26 : decode cX4_copies 26 = .ok (.goto (-23), 3) := dk_167 255 233 (dk_at dksX4_copies_1 3 rfl rfl)
theorem dX4_copies_29 : decode cX4_copies 29 = .ok (.return_, 1) := dk_177 (dk_at dksX4_copies_1 6 rfl rfl)
abbrev cX4_startsText : ByteArray := prog_20_method_58_code
def yX4_startsText : MethodName := ⟨RX4, "startsText", "()V"⟩
def dkwX4_startsText_1 : List UInt8 := [177]
abbrev dktX4_startsText_1 : List UInt8 := dkwX4_startsText_1 ++ []
def dkwX4_startsText_0 : List UInt8 := [42, 3, 181, 0, 180, 42, 2, 181, 0, 183, 42, 3, 181, 0, 251, 42, 3, 181, 0, 165, 42, 182, 0, 204]
abbrev dktX4_startsText_0 : List UInt8 := dkwX4_startsText_0 ++ dktX4_startsText_1
theorem dksX4_startsText_0 : cX4_startsText.data.toList.drop 0 = dktX4_startsText_0 := by decide +kernel
theorem dksX4_startsText_1 : cX4_startsText.data.toList.drop 24 = dktX4_startsText_1 := dk_seg dksX4_startsText_0 24 rfl rfl
theorem dX4_startsText_0 : decode cX4_startsText 0 = .ok (.aload_n 0, 1) := dk_42 (dk_at dksX4_startsText_0 0 rfl rfl)
theorem dX4_startsText_1 : decode cX4_startsText 1 = .ok (.iconst 0, 1) := dk_3 (dk_at dksX4_startsText_0 1 rfl rfl)
theorem dX4_startsText_2 : decode cX4_startsText 2 = .ok (.putfield 180, 3) := dk_181 0 180 (dk_at dksX4_startsText_0 2 rfl rfl)
theorem dX4_startsText_5 : decode cX4_startsText 5 = .ok (.aload_n 0, 1) := dk_42 (dk_at dksX4_startsText_0 5 rfl rfl)
theorem dX4_startsText_6 : decode cX4_startsText 6 = .ok (.iconst (-1), 1) := dk_2 (dk_at dksX4_startsText_0 6 rfl rfl)
theorem dX4_startsText_7 : decode cX4_startsText 7 = .ok (.putfield 183, 3) := dk_181 0 183 (dk_at dksX4_startsText_0 7 rfl rfl)
theorem dX4_startsText_10 : decode cX4_startsText 10 = .ok (.aload_n 0, 1) := dk_42 (dk_at dksX4_startsText_0 10 rfl rfl)
theorem dX4_startsText_11 : decode cX4_startsText 11 = .ok (.iconst 0, 1) := dk_3 (dk_at dksX4_startsText_0 11 rfl rfl)
theorem dX4_startsText_12 : decode cX4_startsText 12 = .ok (.putfield 251, 3) := dk_181 0 251 (dk_at dksX4_startsText_0 12 rfl rfl)
theorem dX4_startsText_15 : decode cX4_startsText 15 = .ok (.aload_n 0, 1) := dk_42 (dk_at dksX4_startsText_0 15 rfl rfl)
theorem dX4_startsText_16 : decode cX4_startsText 16 = .ok (.iconst 0, 1) := dk_3 (dk_at dksX4_startsText_0 16 rfl rfl)
theorem dX4_startsText_17 : decode cX4_startsText 17 = .ok (.putfield 165, 3) := dk_181 0 165 (dk_at dksX4_startsText_0 17 rfl rfl)
theorem dX4_startsText_20 : decode cX4_startsText 20 = .ok (.aload_n 0, 1) := dk_42 (dk_at dksX4_startsText_0 20 rfl rfl)
theorem dX4_startsText_21 : decode cX4_startsText 21 = .ok (.invokevirtual 204, 3) := dk_182 0 204 (dk_at dksX4_startsText_0 21 rfl rfl)
theorem dX4_startsText_24 : decode cX4_startsText 24 = .ok (.return_, 1) := dk_177 (dk_at dksX4_startsText_1 0 rfl rfl)
abbrev cX4_advanceToken : ByteArray := prog_20_method_44_code
def yX4_advanceToken : MethodName := ⟨RX4, "advanceToken", "()V"⟩
def dkwX4_advanceToken_11 : List UInt8 := [167, 0, 4, 7, 181, 0, 174, 42, 89, 180, 0, 165, 4, 96, 181, 0, 165, 177]
abbrev dktX4_advanceToken_11 : List UInt8 := dkwX4_advanceToken_11 ++ []
def dkwX4_advanceToken_10 : List UInt8 := [164, 0, 7, 7, 167, 0, 4, 5, 181, 0, 174, 167, 0, 28, 42, 27, 16, 59, 160, 0, 7, 6]
abbrev dktX4_advanceToken_10 : List UInt8 := dkwX4_advanceToken_10 ++ dktX4_advanceToken_11
def dkwX4_advanceToken_9 : List UInt8 := [180, 0, 165, 4, 96, 181, 0, 165, 167, 255, 185, 42, 42, 180, 0, 165, 42, 180, 0, 168, 100, 6]
abbrev dktX4_advanceToken_9 : List UInt8 := dkwX4_advanceToken_9 ++ dktX4_advanceToken_10
def dkwX4_advanceToken_8 : List UInt8 := [42, 42, 180, 0, 165, 182, 0, 162, 96, 16, 48, 100, 167, 0, 7, 42, 180, 0, 171, 181, 0, 171, 42, 89]
abbrev dktX4_advanceToken_8 : List UInt8 := dkwX4_advanceToken_8 ++ dktX4_advanceToken_9
def dkwX4_advanceToken_7 : List UInt8 := [153, 0, 59, 42, 42, 180, 0, 165, 42, 180, 0, 168, 100, 6, 162, 0, 25, 16, 10, 42, 180, 0, 171, 104]
abbrev dktX4_advanceToken_7 : List UInt8 := dkwX4_advanceToken_7 ++ dktX4_advanceToken_8
def dkwX4_advanceToken_6 : List UInt8 := [16, 57, 184, 0, 159, 153, 0, 102, 42, 42, 180, 0, 165, 182, 0, 162, 16, 48, 16, 57, 184, 0, 159]
abbrev dktX4_advanceToken_6 : List UInt8 := dkwX4_advanceToken_6 ++ dktX4_advanceToken_7
def dkwX4_advanceToken_5 : List UInt8 := [180, 0, 168, 100, 16, 8, 164, 0, 7, 7, 167, 0, 4, 4, 181, 0, 174, 167, 0, 138, 27, 16, 48]
abbrev dktX4_advanceToken_5 : List UInt8 := dkwX4_advanceToken_5 ++ dktX4_advanceToken_6
def dkwX4_advanceToken_4 : List UInt8 := [153, 0, 16, 42, 89, 180, 0, 165, 4, 96, 181, 0, 165, 167, 255, 235, 42, 42, 180, 0, 165, 42]
abbrev dktX4_advanceToken_4 : List UInt8 := dkwX4_advanceToken_4 ++ dktX4_advanceToken_5
def dkwX4_advanceToken_3 : List UInt8 := [167, 0, 199, 42, 42, 180, 0, 165, 182, 0, 177, 153, 0, 53, 42, 42, 180, 0, 165, 182, 0, 177]
abbrev dktX4_advanceToken_3 : List UInt8 := dkwX4_advanceToken_3 ++ dktX4_advanceToken_4
def dkwX4_advanceToken_2 : List UInt8 := [42, 42, 180, 0, 165, 182, 0, 162, 60, 42, 3, 181, 0, 171, 27, 2, 160, 0, 11, 42, 3, 181, 0, 174]
abbrev dktX4_advanceToken_2 : List UInt8 := dkwX4_advanceToken_2 ++ dktX4_advanceToken_3
def dkwX4_advanceToken_1 : List UInt8 := [160, 0, 16, 42, 89, 180, 0, 165, 4, 96, 181, 0, 165, 167, 255, 220, 42, 42, 180, 0, 165, 181, 0, 168]
abbrev dktX4_advanceToken_1 : List UInt8 := dkwX4_advanceToken_1 ++ dktX4_advanceToken_2
def dkwX4_advanceToken_0 : List UInt8 := [42, 42, 180, 0, 165, 182, 0, 162, 16, 32, 159, 0, 16, 42, 42, 180, 0, 165, 182, 0, 162, 16, 10]
abbrev dktX4_advanceToken_0 : List UInt8 := dkwX4_advanceToken_0 ++ dktX4_advanceToken_1
theorem dksX4_advanceToken_0 : cX4_advanceToken.data.toList.drop 0 = dktX4_advanceToken_0 := by decide +kernel
theorem dksX4_advanceToken_1 : cX4_advanceToken.data.toList.drop 23 = dktX4_advanceToken_1 := dk_seg dksX4_advanceToken_0 23 rfl rfl
theorem dksX4_advanceToken_2 : cX4_advanceToken.data.toList.drop 47 = dktX4_advanceToken_2 := dk_seg dksX4_advanceToken_1 24 rfl rfl
theorem dksX4_advanceToken_3 : cX4_advanceToken.data.toList.drop 71 = dktX4_advanceToken_3 := dk_seg dksX4_advanceToken_2 24 rfl rfl
theorem dksX4_advanceToken_4 : cX4_advanceToken.data.toList.drop 93 = dktX4_advanceToken_4 := dk_seg dksX4_advanceToken_3 22 rfl rfl
theorem dksX4_advanceToken_5 : cX4_advanceToken.data.toList.drop 115 = dktX4_advanceToken_5 := dk_seg dksX4_advanceToken_4 22 rfl rfl
theorem dksX4_advanceToken_6 : cX4_advanceToken.data.toList.drop 138 = dktX4_advanceToken_6 := dk_seg dksX4_advanceToken_5 23 rfl rfl
theorem dksX4_advanceToken_7 : cX4_advanceToken.data.toList.drop 161 = dktX4_advanceToken_7 := dk_seg dksX4_advanceToken_6 23 rfl rfl
theorem dksX4_advanceToken_8 : cX4_advanceToken.data.toList.drop 185 = dktX4_advanceToken_8 := dk_seg dksX4_advanceToken_7 24 rfl rfl
theorem dksX4_advanceToken_9 : cX4_advanceToken.data.toList.drop 209 = dktX4_advanceToken_9 := dk_seg dksX4_advanceToken_8 24 rfl rfl
theorem dksX4_advanceToken_10 : cX4_advanceToken.data.toList.drop 231 = dktX4_advanceToken_10 := dk_seg dksX4_advanceToken_9 22 rfl rfl
theorem dksX4_advanceToken_11 : cX4_advanceToken.data.toList.drop 253 = dktX4_advanceToken_11 := dk_seg dksX4_advanceToken_10 22 rfl rfl
theorem dX4_advanceToken_0 : decode cX4_advanceToken 0 = .ok (.aload_n 0, 1) := dk_42 (dk_at dksX4_advanceToken_0 0 rfl rfl)
theorem dX4_advanceToken_1 : decode cX4_advanceToken 1 = .ok (.aload_n 0, 1) := dk_42 (dk_at dksX4_advanceToken_0 1 rfl rfl)
theorem dX4_advanceToken_2 : decode cX4_advanceToken 2 = .ok (.getfield 165, 3) := dk_180 0 165 (dk_at dksX4_advanceToken_0 2 rfl rfl)
theorem dX4_advanceToken_5 : decode cX4_advanceToken 5 = .ok (.invokevirtual 162, 3) := dk_182 0 162 (dk_at dksX4_advanceToken_0 5 rfl rfl)
theorem dX4_advanceToken_8 : decode cX4_advanceToken 8 = .ok (.bipush 32, 2) := dk_16 32 (dk_at dksX4_advanceToken_0 8 rfl rfl)
theorem dX4_advanceToken_10 : decode cX4_advanceToken 10 = .ok (.if_icmp .eq 16, 3) := dk_159 0 16 (dk_at dksX4_advanceToken_0 10 rfl rfl)
theorem dX4_advanceToken_13 : decode cX4_advanceToken 13 = .ok (.aload_n 0, 1) := dk_42 (dk_at dksX4_advanceToken_0 13 rfl rfl)
theorem dX4_advanceToken_14 : decode cX4_advanceToken 14 = .ok (.aload_n 0, 1) := dk_42 (dk_at dksX4_advanceToken_0 14 rfl rfl)
theorem dX4_advanceToken_15 : decode cX4_advanceToken 15 = .ok (.getfield 165, 3) := dk_180 0 165 (dk_at dksX4_advanceToken_0 15 rfl rfl)
theorem dX4_advanceToken_18 : decode cX4_advanceToken 18 = .ok (.invokevirtual 162, 3) := dk_182 0 162 (dk_at dksX4_advanceToken_0 18 rfl rfl)
theorem dX4_advanceToken_21 : decode cX4_advanceToken 21 = .ok (.bipush 10, 2) := dk_16 10 (dk_at dksX4_advanceToken_0 21 rfl rfl)
theorem dX4_advanceToken_23 : decode cX4_advanceToken 23 = .ok (.if_icmp .ne 16, 3) := dk_160 0 16 (dk_at dksX4_advanceToken_1 0 rfl rfl)
theorem dX4_advanceToken_26 : decode cX4_advanceToken 26 = .ok (.aload_n 0, 1) := dk_42 (dk_at dksX4_advanceToken_1 3 rfl rfl)
theorem dX4_advanceToken_27 : decode cX4_advanceToken 27 = .ok (.dup, 1) := dk_89 (dk_at dksX4_advanceToken_1 4 rfl rfl)
theorem dX4_advanceToken_28 : decode cX4_advanceToken 28 = .ok (.getfield 165, 3) := dk_180 0 165 (dk_at dksX4_advanceToken_1 5 rfl rfl)
theorem dX4_advanceToken_31 : decode cX4_advanceToken 31 = .ok (.iconst 1, 1) := dk_4 (dk_at dksX4_advanceToken_1 8 rfl rfl)
theorem dX4_advanceToken_32 : decode cX4_advanceToken 32 = .ok (.iadd, 1) := dk_96 (dk_at dksX4_advanceToken_1 9 rfl rfl)
theorem dX4_advanceToken_33 : decode cX4_advanceToken 33 = .ok (.putfield 165, 3) := dk_181 0 165 (dk_at dksX4_advanceToken_1 10 rfl rfl)
theorem dX4_advanceToken_36 : decode cX4_advanceToken 36 = .ok (.goto (-36), 3) := dk_167 255 220 (dk_at dksX4_advanceToken_1 13 rfl rfl)
theorem dX4_advanceToken_39 : decode cX4_advanceToken 39 = .ok (.aload_n 0, 1) := dk_42 (dk_at dksX4_advanceToken_1 16 rfl rfl)
theorem dX4_advanceToken_40 : decode cX4_advanceToken 40 = .ok (.aload_n 0, 1) := dk_42 (dk_at dksX4_advanceToken_1 17 rfl rfl)
theorem dX4_advanceToken_41 : decode cX4_advanceToken 41 = .ok (.getfield 165, 3) := dk_180 0 165 (dk_at dksX4_advanceToken_1 18 rfl rfl)
theorem dX4_advanceToken_44 : decode cX4_advanceToken 44 = .ok (.putfield 168, 3) := dk_181 0 168 (dk_at dksX4_advanceToken_1 21 rfl rfl)
theorem dX4_advanceToken_47 : decode cX4_advanceToken 47 = .ok (.aload_n 0, 1) := dk_42 (dk_at dksX4_advanceToken_2 0 rfl rfl)
theorem dX4_advanceToken_48 : decode cX4_advanceToken 48 = .ok (.aload_n 0, 1) := dk_42 (dk_at dksX4_advanceToken_2 1 rfl rfl)
theorem dX4_advanceToken_49 : decode cX4_advanceToken 49 = .ok (.getfield 165, 3) := dk_180 0 165 (dk_at dksX4_advanceToken_2 2 rfl rfl)
theorem dX4_advanceToken_52 : decode cX4_advanceToken 52 = .ok (.invokevirtual 162, 3) := dk_182 0 162 (dk_at dksX4_advanceToken_2 5 rfl rfl)
theorem dX4_advanceToken_55 : decode cX4_advanceToken 55 = .ok (.istore_n 1, 1) := dk_60 (dk_at dksX4_advanceToken_2 8 rfl rfl)
theorem dX4_advanceToken_56 : decode cX4_advanceToken 56 = .ok (.aload_n 0, 1) := dk_42 (dk_at dksX4_advanceToken_2 9 rfl rfl)
theorem dX4_advanceToken_57 : decode cX4_advanceToken 57 = .ok (.iconst 0, 1) := dk_3 (dk_at dksX4_advanceToken_2 10 rfl rfl)
theorem dX4_advanceToken_58 : decode cX4_advanceToken 58 = .ok (.putfield 171, 3) := dk_181 0 171 (dk_at dksX4_advanceToken_2 11 rfl rfl)
theorem dX4_advanceToken_61 : decode cX4_advanceToken 61 = .ok (.iload_n 1, 1) := dk_27 (dk_at dksX4_advanceToken_2 14 rfl rfl)
theorem dX4_advanceToken_62 : decode cX4_advanceToken 62 = .ok (.iconst (-1), 1) := dk_2 (dk_at dksX4_advanceToken_2 15 rfl rfl)
theorem dX4_advanceToken_63 : decode cX4_advanceToken 63 = .ok (.if_icmp .ne 11, 3) := dk_160 0 11 (dk_at dksX4_advanceToken_2 16 rfl rfl)
theorem dX4_advanceToken_66 : decode cX4_advanceToken 66 = .ok (.aload_n 0, 1) := dk_42 (dk_at dksX4_advanceToken_2 19 rfl rfl)
theorem dX4_advanceToken_67 : decode cX4_advanceToken 67 = .ok (.iconst 0, 1) := dk_3 (dk_at dksX4_advanceToken_2 20 rfl rfl)
theorem dX4_advanceToken_68 : decode cX4_advanceToken 68 = .ok (.putfield 174, 3) := dk_181 0 174 (dk_at dksX4_advanceToken_2 21 rfl rfl)
theorem dX4_advanceToken_71 : decode cX4_advanceToken 71 = .ok (.goto 199, 3) := dk_167 0 199 (dk_at dksX4_advanceToken_3 0 rfl rfl)
theorem dX4_advanceToken_74 : decode cX4_advanceToken 74 = .ok (.aload_n 0, 1) := dk_42 (dk_at dksX4_advanceToken_3 3 rfl rfl)
theorem dX4_advanceToken_75 : decode cX4_advanceToken 75 = .ok (.aload_n 0, 1) := dk_42 (dk_at dksX4_advanceToken_3 4 rfl rfl)
theorem dX4_advanceToken_76 : decode cX4_advanceToken 76 = .ok (.getfield 165, 3) := dk_180 0 165 (dk_at dksX4_advanceToken_3 5 rfl rfl)
theorem dX4_advanceToken_79 : decode cX4_advanceToken 79 = .ok (.invokevirtual 177, 3) := dk_182 0 177 (dk_at dksX4_advanceToken_3 8 rfl rfl)
theorem dX4_advanceToken_82 : decode cX4_advanceToken 82 = .ok (.ifCond .eq 53, 3) := dk_153 0 53 (dk_at dksX4_advanceToken_3 11 rfl rfl)
theorem dX4_advanceToken_85 : decode cX4_advanceToken 85 = .ok (.aload_n 0, 1) := dk_42 (dk_at dksX4_advanceToken_3 14 rfl rfl)
theorem dX4_advanceToken_86 : decode cX4_advanceToken 86 = .ok (.aload_n 0, 1) := dk_42 (dk_at dksX4_advanceToken_3 15 rfl rfl)
theorem dX4_advanceToken_87 : decode cX4_advanceToken 87 = .ok (.getfield 165, 3) := dk_180 0 165 (dk_at dksX4_advanceToken_3 16 rfl rfl)
theorem dX4_advanceToken_90 : decode cX4_advanceToken 90 = .ok (.invokevirtual 177, 3) := dk_182 0 177 (dk_at dksX4_advanceToken_3 19 rfl rfl)
theorem dX4_advanceToken_93 : decode cX4_advanceToken 93 = .ok (.ifCond .eq 16, 3) := dk_153 0 16 (dk_at dksX4_advanceToken_4 0 rfl rfl)
theorem dX4_advanceToken_96 : decode cX4_advanceToken 96 = .ok (.aload_n 0, 1) := dk_42 (dk_at dksX4_advanceToken_4 3 rfl rfl)
theorem dX4_advanceToken_97 : decode cX4_advanceToken 97 = .ok (.dup, 1) := dk_89 (dk_at dksX4_advanceToken_4 4 rfl rfl)
theorem dX4_advanceToken_98 : decode cX4_advanceToken 98 = .ok (.getfield 165, 3) := dk_180 0 165 (dk_at dksX4_advanceToken_4 5 rfl rfl)
theorem dX4_advanceToken_101 : decode cX4_advanceToken 101 = .ok (.iconst 1, 1) := dk_4 (dk_at dksX4_advanceToken_4 8 rfl rfl)
theorem dX4_advanceToken_102 : decode cX4_advanceToken 102 = .ok (.iadd, 1) := dk_96 (dk_at dksX4_advanceToken_4 9 rfl rfl)
theorem dX4_advanceToken_103 : decode cX4_advanceToken 103 = .ok (.putfield 165, 3) := dk_181 0 165 (dk_at dksX4_advanceToken_4 10 rfl rfl)
theorem dX4_advanceToken_106 : decode cX4_advanceToken 106 = .ok (.goto (-21), 3) := dk_167 255 235 (dk_at dksX4_advanceToken_4 13 rfl rfl)
theorem dX4_advanceToken_109 : decode cX4_advanceToken 109 = .ok (.aload_n 0, 1) := dk_42 (dk_at dksX4_advanceToken_4 16 rfl rfl)
theorem dX4_advanceToken_110 : decode cX4_advanceToken 110 = .ok (.aload_n 0, 1) := dk_42 (dk_at dksX4_advanceToken_4 17 rfl rfl)
theorem dX4_advanceToken_111 : decode cX4_advanceToken 111 = .ok (.getfield 165, 3) := dk_180 0 165 (dk_at dksX4_advanceToken_4 18 rfl rfl)
theorem dX4_advanceToken_114 : decode cX4_advanceToken 114 = .ok (.aload_n 0, 1) := dk_42 (dk_at dksX4_advanceToken_4 21 rfl rfl)
theorem dX4_advanceToken_115 : decode cX4_advanceToken 115 = .ok (.getfield 168, 3) := dk_180 0 168 (dk_at dksX4_advanceToken_5 0 rfl rfl)
theorem dX4_advanceToken_118 : decode cX4_advanceToken 118 = .ok (.isub, 1) := dk_100 (dk_at dksX4_advanceToken_5 3 rfl rfl)
theorem dX4_advanceToken_119 : decode cX4_advanceToken 119 = .ok (.bipush 8, 2) := dk_16 8 (dk_at dksX4_advanceToken_5 4 rfl rfl)
theorem dX4_advanceToken_121 : decode cX4_advanceToken 121 = .ok (.if_icmp .le 7, 3) := dk_164 0 7 (dk_at dksX4_advanceToken_5 6 rfl rfl)
theorem dX4_advanceToken_124 : decode cX4_advanceToken 124 = .ok (.iconst 4, 1) := dk_7 (dk_at dksX4_advanceToken_5 9 rfl rfl)
theorem dX4_advanceToken_125 : decode cX4_advanceToken 125 = .ok (.goto 4, 3) := dk_167 0 4 (dk_at dksX4_advanceToken_5 10 rfl rfl)
theorem dX4_advanceToken_128 : decode cX4_advanceToken 128 = .ok (.iconst 1, 1) := dk_4 (dk_at dksX4_advanceToken_5 13 rfl rfl)
theorem dX4_advanceToken_129 : decode cX4_advanceToken 129 = .ok (.putfield 174, 3) := dk_181 0 174 (dk_at dksX4_advanceToken_5 14 rfl rfl)
theorem dX4_advanceToken_132 : decode cX4_advanceToken 132 = .ok (.goto 138, 3) := dk_167 0 138 (dk_at dksX4_advanceToken_5 17 rfl rfl)
theorem dX4_advanceToken_135 : decode cX4_advanceToken 135 = .ok (.iload_n 1, 1) := dk_27 (dk_at dksX4_advanceToken_5 20 rfl rfl)
theorem dX4_advanceToken_136 : decode cX4_advanceToken 136 = .ok (.bipush 48, 2) := dk_16 48 (dk_at dksX4_advanceToken_5 21 rfl rfl)
theorem dX4_advanceToken_138 : decode cX4_advanceToken 138 = .ok (.bipush 57, 2) := dk_16 57 (dk_at dksX4_advanceToken_6 0 rfl rfl)
theorem dX4_advanceToken_140 : decode cX4_advanceToken 140 = .ok (.invokestatic 159, 3) := dk_184 0 159 (dk_at dksX4_advanceToken_6 2 rfl rfl)
theorem dX4_advanceToken_143 : decode cX4_advanceToken 143 = .ok (.ifCond .eq 102, 3) := dk_153 0 102 (dk_at dksX4_advanceToken_6 5 rfl rfl)
theorem dX4_advanceToken_146 : decode cX4_advanceToken 146 = .ok (.aload_n 0, 1) := dk_42 (dk_at dksX4_advanceToken_6 8 rfl rfl)
theorem dX4_advanceToken_147 : decode cX4_advanceToken 147 = .ok (.aload_n 0, 1) := dk_42 (dk_at dksX4_advanceToken_6 9 rfl rfl)
theorem dX4_advanceToken_148 : decode cX4_advanceToken 148 = .ok (.getfield 165, 3) := dk_180 0 165 (dk_at dksX4_advanceToken_6 10 rfl rfl)
theorem dX4_advanceToken_151 : decode cX4_advanceToken 151 = .ok (.invokevirtual 162, 3) := dk_182 0 162 (dk_at dksX4_advanceToken_6 13 rfl rfl)
theorem dX4_advanceToken_154 : decode cX4_advanceToken 154 = .ok (.bipush 48, 2) := dk_16 48 (dk_at dksX4_advanceToken_6 16 rfl rfl)
theorem dX4_advanceToken_156 : decode cX4_advanceToken 156 = .ok (.bipush 57, 2) := dk_16 57 (dk_at dksX4_advanceToken_6 18 rfl rfl)
theorem dX4_advanceToken_158 : decode cX4_advanceToken 158 = .ok (.invokestatic 159, 3) := dk_184 0 159 (dk_at dksX4_advanceToken_6 20 rfl rfl)
theorem dX4_advanceToken_161 : decode cX4_advanceToken 161 = .ok (.ifCond .eq 59, 3) := dk_153 0 59 (dk_at dksX4_advanceToken_7 0 rfl rfl)
theorem dX4_advanceToken_164 : decode cX4_advanceToken 164 = .ok (.aload_n 0, 1) := dk_42 (dk_at dksX4_advanceToken_7 3 rfl rfl)
theorem dX4_advanceToken_165 : decode cX4_advanceToken 165 = .ok (.aload_n 0, 1) := dk_42 (dk_at dksX4_advanceToken_7 4 rfl rfl)
theorem dX4_advanceToken_166 : decode cX4_advanceToken 166 = .ok (.getfield 165, 3) := dk_180 0 165 (dk_at dksX4_advanceToken_7 5 rfl rfl)
theorem dX4_advanceToken_169 : decode cX4_advanceToken 169 = .ok (.aload_n 0, 1) := dk_42 (dk_at dksX4_advanceToken_7 8 rfl rfl)
theorem dX4_advanceToken_170 : decode cX4_advanceToken 170 = .ok (.getfield 168, 3) := dk_180 0 168 (dk_at dksX4_advanceToken_7 9 rfl rfl)
theorem dX4_advanceToken_173 : decode cX4_advanceToken 173 = .ok (.isub, 1) := dk_100 (dk_at dksX4_advanceToken_7 12 rfl rfl)
theorem dX4_advanceToken_174 : decode cX4_advanceToken 174 = .ok (.iconst 3, 1) := dk_6 (dk_at dksX4_advanceToken_7 13 rfl rfl)
theorem dX4_advanceToken_175 : decode cX4_advanceToken 175 = .ok (.if_icmp .ge 25, 3) := dk_162 0 25 (dk_at dksX4_advanceToken_7 14 rfl rfl)
theorem dX4_advanceToken_178 : decode cX4_advanceToken 178 = .ok (.bipush 10, 2) := dk_16 10 (dk_at dksX4_advanceToken_7 17 rfl rfl)
theorem dX4_advanceToken_180 : decode cX4_advanceToken 180 = .ok (.aload_n 0, 1) := dk_42 (dk_at dksX4_advanceToken_7 19 rfl rfl)
theorem dX4_advanceToken_181 : decode cX4_advanceToken 181 = .ok (.getfield 171, 3) := dk_180 0 171 (dk_at dksX4_advanceToken_7 20 rfl rfl)
theorem dX4_advanceToken_184 : decode cX4_advanceToken 184 = .ok (.imul, 1) := dk_104 (dk_at dksX4_advanceToken_7 23 rfl rfl)
theorem dX4_advanceToken_185 : decode cX4_advanceToken 185 = .ok (.aload_n 0, 1) := dk_42 (dk_at dksX4_advanceToken_8 0 rfl rfl)
theorem dX4_advanceToken_186 : decode cX4_advanceToken 186 = .ok (.aload_n 0, 1) := dk_42 (dk_at dksX4_advanceToken_8 1 rfl rfl)
theorem dX4_advanceToken_187 : decode cX4_advanceToken 187 = .ok (.getfield 165, 3) := dk_180 0 165 (dk_at dksX4_advanceToken_8 2 rfl rfl)
theorem dX4_advanceToken_190 : decode cX4_advanceToken 190 = .ok (.invokevirtual 162, 3) := dk_182 0 162 (dk_at dksX4_advanceToken_8 5 rfl rfl)
theorem dX4_advanceToken_193 : decode cX4_advanceToken 193 = .ok (.iadd, 1) := dk_96 (dk_at dksX4_advanceToken_8 8 rfl rfl)
theorem dX4_advanceToken_194 : decode cX4_advanceToken 194 = .ok (.bipush 48, 2) := dk_16 48 (dk_at dksX4_advanceToken_8 9 rfl rfl)
theorem dX4_advanceToken_196 : decode cX4_advanceToken 196 = .ok (.isub, 1) := dk_100 (dk_at dksX4_advanceToken_8 11 rfl rfl)
theorem dX4_advanceToken_197 : decode cX4_advanceToken 197 = .ok (.goto 7, 3) := dk_167 0 7 (dk_at dksX4_advanceToken_8 12 rfl rfl)
theorem dX4_advanceToken_200 : decode cX4_advanceToken 200 = .ok (.aload_n 0, 1) := dk_42 (dk_at dksX4_advanceToken_8 15 rfl rfl)
theorem dX4_advanceToken_201 : decode cX4_advanceToken 201 = .ok (.getfield 171, 3) := dk_180 0 171 (dk_at dksX4_advanceToken_8 16 rfl rfl)
theorem dX4_advanceToken_204 : decode cX4_advanceToken 204 = .ok (.putfield 171, 3) := dk_181 0 171 (dk_at dksX4_advanceToken_8 19 rfl rfl)
theorem dX4_advanceToken_207 : decode cX4_advanceToken 207 = .ok (.aload_n 0, 1) := dk_42 (dk_at dksX4_advanceToken_8 22 rfl rfl)
theorem dX4_advanceToken_208 : decode cX4_advanceToken 208 = .ok (.dup, 1) := dk_89 (dk_at dksX4_advanceToken_8 23 rfl rfl)
theorem dX4_advanceToken_209 : decode cX4_advanceToken 209 = .ok (.getfield 165, 3) := dk_180 0 165 (dk_at dksX4_advanceToken_9 0 rfl rfl)
theorem dX4_advanceToken_212 : decode cX4_advanceToken 212 = .ok (.iconst 1, 1) := dk_4 (dk_at dksX4_advanceToken_9 3 rfl rfl)
theorem dX4_advanceToken_213 : decode cX4_advanceToken 213 = .ok (.iadd, 1) := dk_96 (dk_at dksX4_advanceToken_9 4 rfl rfl)
theorem dX4_advanceToken_214 : decode cX4_advanceToken 214 = .ok (.putfield 165, 3) := dk_181 0 165 (dk_at dksX4_advanceToken_9 5 rfl rfl)
theorem dX4_advanceToken_217 : decode cX4_advanceToken 217 = .ok (.goto (-71), 3) := dk_167 255 185 (dk_at dksX4_advanceToken_9 8 rfl rfl)
theorem dX4_advanceToken_220 : decode cX4_advanceToken 220 = .ok (.aload_n 0, 1) := dk_42 (dk_at dksX4_advanceToken_9 11 rfl rfl)
theorem dX4_advanceToken_221 : decode cX4_advanceToken 221 = .ok (.aload_n 0, 1) := dk_42 (dk_at dksX4_advanceToken_9 12 rfl rfl)
theorem dX4_advanceToken_222 : decode cX4_advanceToken 222 = .ok (.getfield 165, 3) := dk_180 0 165 (dk_at dksX4_advanceToken_9 13 rfl rfl)
theorem dX4_advanceToken_225 : decode cX4_advanceToken 225 = .ok (.aload_n 0, 1) := dk_42 (dk_at dksX4_advanceToken_9 16 rfl rfl)
theorem dX4_advanceToken_226 : decode cX4_advanceToken 226 = .ok (.getfield 168, 3) := dk_180 0 168 (dk_at dksX4_advanceToken_9 17 rfl rfl)
theorem dX4_advanceToken_229 : decode cX4_advanceToken 229 = .ok (.isub, 1) := dk_100 (dk_at dksX4_advanceToken_9 20 rfl rfl)
theorem dX4_advanceToken_230 : decode cX4_advanceToken 230 = .ok (.iconst 3, 1) := dk_6 (dk_at dksX4_advanceToken_9 21 rfl rfl)
theorem dX4_advanceToken_231 : decode cX4_advanceToken 231 = .ok (.if_icmp .le 7, 3) := dk_164 0 7 (dk_at dksX4_advanceToken_10 0 rfl rfl)
theorem dX4_advanceToken_234 : decode cX4_advanceToken 234 = .ok (.iconst 4, 1) := dk_7 (dk_at dksX4_advanceToken_10 3 rfl rfl)
theorem dX4_advanceToken_235 : decode cX4_advanceToken 235 = .ok (.goto 4, 3) := dk_167 0 4 (dk_at dksX4_advanceToken_10 4 rfl rfl)
theorem dX4_advanceToken_238 : decode cX4_advanceToken 238 = .ok (.iconst 2, 1) := dk_5 (dk_at dksX4_advanceToken_10 7 rfl rfl)
theorem dX4_advanceToken_239 : decode cX4_advanceToken 239 = .ok (.putfield 174, 3) := dk_181 0 174 (dk_at dksX4_advanceToken_10 8 rfl rfl)
theorem dX4_advanceToken_242 : decode cX4_advanceToken 242 = .ok (.goto 28, 3) := dk_167 0 28 (dk_at dksX4_advanceToken_10 11 rfl rfl)
theorem dX4_advanceToken_245 : decode cX4_advanceToken 245 = .ok (.aload_n 0, 1) := dk_42 (dk_at dksX4_advanceToken_10 14 rfl rfl)
theorem dX4_advanceToken_246 : decode cX4_advanceToken 246 = .ok (.iload_n 1, 1) := dk_27 (dk_at dksX4_advanceToken_10 15 rfl rfl)
theorem dX4_advanceToken_247 : decode cX4_advanceToken 247 = .ok (.bipush 59, 2) := dk_16 59 (dk_at dksX4_advanceToken_10 16 rfl rfl)
theorem dX4_advanceToken_249 : decode cX4_advanceToken 249 = .ok (.if_icmp .ne 7, 3) := dk_160 0 7 (dk_at dksX4_advanceToken_10 18 rfl rfl)
theorem dX4_advanceToken_252 : decode cX4_advanceToken 252 = .ok (.iconst 3, 1) := dk_6 (dk_at dksX4_advanceToken_10 21 rfl rfl)
theorem dX4_advanceToken_253 : decode cX4_advanceToken 253 = .ok (.goto 4, 3) := dk_167 0 4 (dk_at dksX4_advanceToken_11 0 rfl rfl)
theorem dX4_advanceToken_256 : decode cX4_advanceToken 256 = .ok (.iconst 4, 1) := dk_7 (dk_at dksX4_advanceToken_11 3 rfl rfl)
theorem dX4_advanceToken_257 : decode cX4_advanceToken 257 = .ok (.putfield 174, 3) := dk_181 0 174 (dk_at dksX4_advanceToken_11 4 rfl rfl)
theorem dX4_advanceToken_260 : decode cX4_advanceToken 260 = .ok (.aload_n 0, 1) := dk_42 (dk_at dksX4_advanceToken_11 7 rfl rfl)
theorem dX4_advanceToken_261 : decode cX4_advanceToken 261 = .ok (.dup, 1) := dk_89 (dk_at dksX4_advanceToken_11 8 rfl rfl)
theorem dX4_advanceToken_262 : decode cX4_advanceToken 262 = .ok (.getfield 165, 3) := dk_180 0 165 (dk_at dksX4_advanceToken_11 9 rfl rfl)
theorem dX4_advanceToken_265 : decode cX4_advanceToken 265 = .ok (.iconst 1, 1) := dk_4 (dk_at dksX4_advanceToken_11 12 rfl rfl)
theorem dX4_advanceToken_266 : decode cX4_advanceToken 266 = .ok (.iadd, 1) := dk_96 (dk_at dksX4_advanceToken_11 13 rfl rfl)
theorem dX4_advanceToken_267 : decode cX4_advanceToken 267 = .ok (.putfield 165, 3) := dk_181 0 165 (dk_at dksX4_advanceToken_11 14 rfl rfl)
theorem dX4_advanceToken_270 : decode cX4_advanceToken 270 = .ok (.return_, 1) := dk_177 (dk_at dksX4_advanceToken_11 17 rfl rfl)
abbrev cX4_byteAt : ByteArray := prog_20_method_42_code
def yX4_byteAt : MethodName := ⟨RX4, "byteAt", "(I)I"⟩
def dkwX4_byteAt_0 : List UInt8 := [27, 42, 180, 0, 153, 162, 0, 12, 42, 180, 0, 31, 27, 46, 167, 0, 4, 2, 172]
abbrev dktX4_byteAt_0 : List UInt8 := dkwX4_byteAt_0 ++ []
theorem dksX4_byteAt_0 : cX4_byteAt.data.toList.drop 0 = dktX4_byteAt_0 := by decide +kernel
theorem dX4_byteAt_0 : decode cX4_byteAt 0 = .ok (.iload_n 1, 1) := dk_27 (dk_at dksX4_byteAt_0 0 rfl rfl)
theorem dX4_byteAt_1 : decode cX4_byteAt 1 = .ok (.aload_n 0, 1) := dk_42 (dk_at dksX4_byteAt_0 1 rfl rfl)
theorem dX4_byteAt_2 : decode cX4_byteAt 2 = .ok (.getfield 153, 3) := dk_180 0 153 (dk_at dksX4_byteAt_0 2 rfl rfl)
theorem dX4_byteAt_5 : decode cX4_byteAt 5 = .ok (.if_icmp .ge 12, 3) := dk_162 0 12 (dk_at dksX4_byteAt_0 5 rfl rfl)
theorem dX4_byteAt_8 : decode cX4_byteAt 8 = .ok (.aload_n 0, 1) := dk_42 (dk_at dksX4_byteAt_0 8 rfl rfl)
theorem dX4_byteAt_9 : decode cX4_byteAt 9 = .ok (.getfield 31, 3) := dk_180 0 31 (dk_at dksX4_byteAt_0 9 rfl rfl)
theorem dX4_byteAt_12 : decode cX4_byteAt 12 = .ok (.iload_n 1, 1) := dk_27 (dk_at dksX4_byteAt_0 12 rfl rfl)
theorem dX4_byteAt_13 : decode cX4_byteAt 13 = .ok (.iaload, 1) := dk_46 (dk_at dksX4_byteAt_0 13 rfl rfl)
theorem dX4_byteAt_14 : decode cX4_byteAt 14 = .ok (.goto 4, 3) := dk_167 0 4 (dk_at dksX4_byteAt_0 14 rfl rfl)
theorem dX4_byteAt_17 : decode cX4_byteAt 17 = .ok (.iconst (-1), 1) := dk_2 (dk_at dksX4_byteAt_0 17 rfl rfl)
theorem dX4_byteAt_18 : decode cX4_byteAt 18 = .ok (.ireturn, 1) := dk_172 (dk_at dksX4_byteAt_0 18 rfl rfl)
abbrev cX4_isLetter : ByteArray := prog_20_method_43_code
def yX4_isLetter : MethodName := ⟨RX4, "isLetter", "(I)Z"⟩
def dkwX4_isLetter_0 : List UInt8 := [42, 27, 182, 0, 162, 16, 97, 16, 122, 184, 0, 159, 172]
abbrev dktX4_isLetter_0 : List UInt8 := dkwX4_isLetter_0 ++ []
theorem dksX4_isLetter_0 : cX4_isLetter.data.toList.drop 0 = dktX4_isLetter_0 := by decide +kernel
theorem dX4_isLetter_0 : decode cX4_isLetter 0 = .ok (.aload_n 0, 1) := dk_42 (dk_at dksX4_isLetter_0 0 rfl rfl)
theorem dX4_isLetter_1 : decode cX4_isLetter 1 = .ok (.iload_n 1, 1) := dk_27 (dk_at dksX4_isLetter_0 1 rfl rfl)
theorem dX4_isLetter_2 : decode cX4_isLetter 2 = .ok (.invokevirtual 162, 3) := dk_182 0 162 (dk_at dksX4_isLetter_0 2 rfl rfl)
theorem dX4_isLetter_5 : decode cX4_isLetter 5 = .ok (.bipush 97, 2) := dk_16 97 (dk_at dksX4_isLetter_0 5 rfl rfl)
theorem dX4_isLetter_7 : decode cX4_isLetter 7 = .ok (.bipush 122, 2) := dk_16 122 (dk_at dksX4_isLetter_0 7 rfl rfl)
theorem dX4_isLetter_9 : decode cX4_isLetter 9 = .ok (.invokestatic 159, 3) := dk_184 0 159 (dk_at dksX4_isLetter_0 9 rfl rfl)
theorem dX4_isLetter_12 : decode cX4_isLetter 12 = .ok (.ireturn, 1) := dk_172 (dk_at dksX4_isLetter_0 12 rfl rfl)
abbrev cX4_readText : ByteArray := prog_20_method_57_code
def yX4_readText : MethodName := ⟨RX4, "readText", "()Z"⟩
def dkwX4_readText_0 : List UInt8 := [42, 182, 0, 53, 42, 180, 0, 174, 153, 0, 12, 42, 182, 0, 248, 154, 255, 245, 3, 172, 4, 172]
abbrev dktX4_readText_0 : List UInt8 := dkwX4_readText_0 ++ []
theorem dksX4_readText_0 : cX4_readText.data.toList.drop 0 = dktX4_readText_0 := by decide +kernel
theorem dX4_readText_0 : decode cX4_readText 0 = .ok (.aload_n 0, 1) := dk_42 (dk_at dksX4_readText_0 0 rfl rfl)
theorem dX4_readText_1 : decode cX4_readText 1 = .ok (.invokevirtual 53, 3) := dk_182 0 53 (dk_at dksX4_readText_0 1 rfl rfl)
theorem dX4_readText_4 : decode cX4_readText 4 = .ok (.aload_n 0, 1) := dk_42 (dk_at dksX4_readText_0 4 rfl rfl)
theorem dX4_readText_5 : decode cX4_readText 5 = .ok (.getfield 174, 3) := dk_180 0 174 (dk_at dksX4_readText_0 5 rfl rfl)
theorem dX4_readText_8 : decode cX4_readText 8 = .ok (.ifCond .eq 12, 3) := dk_153 0 12 (dk_at dksX4_readText_0 8 rfl rfl)
theorem dX4_readText_11 : decode cX4_readText 11 = .ok (.aload_n 0, 1) := dk_42 (dk_at dksX4_readText_0 11 rfl rfl)
theorem dX4_readText_12 : decode cX4_readText 12 = .ok (.invokevirtual 248, 3) := dk_182 0 248 (dk_at dksX4_readText_0 12 rfl rfl)
theorem dX4_readText_15 : decode cX4_readText 15 = .ok (.ifCond .ne (-11), 3) := dk_154 255 245 (dk_at dksX4_readText_0 15 rfl rfl)
theorem dX4_readText_18 : decode cX4_readText 18 = .ok (.iconst 0, 1) := dk_3 (dk_at dksX4_readText_0 18 rfl rfl)
theorem dX4_readText_19 : decode cX4_readText 19 = .ok (.ireturn, 1) := dk_172 (dk_at dksX4_readText_0 19 rfl rfl)
theorem dX4_readText_20 : decode cX4_readText 20 = .ok (.iconst 1, 1) := dk_4 (dk_at dksX4_readText_0 20 rfl rfl)
theorem dX4_readText_21 : decode cX4_readText 21 = .ok (.ireturn, 1) := dk_172 (dk_at dksX4_readText_0 21 rfl rfl)
abbrev cX4_readSetupStatement : ByteArray := prog_20_method_56_code
def yX4_readSetupStatement : MethodName := ⟨RX4, "readSetupStatement", "()Z"⟩
def dkwX4_readSetupStatement_1 : List UInt8 := [42, 4, 182, 0, 195, 167, 0, 8, 42, 27, 182, 0, 245, 172]
abbrev dktX4_readSetupStatement_1 : List UInt8 := dkwX4_readSetupStatement_1 ++ []
def dkwX4_readSetupStatement_0 : List UInt8 := [42, 18, 237, 182, 0, 215, 153, 0, 8, 42, 182, 0, 239, 172, 42, 182, 0, 242, 60, 27, 2, 160, 0, 11]
abbrev dktX4_readSetupStatement_0 : List UInt8 := dkwX4_readSetupStatement_0 ++ dktX4_readSetupStatement_1
theorem dksX4_readSetupStatement_0 : cX4_readSetupStatement.data.toList.drop 0 = dktX4_readSetupStatement_0 := by decide +kernel
theorem dksX4_readSetupStatement_1 : cX4_readSetupStatement.data.toList.drop 24 = dktX4_readSetupStatement_1 := dk_seg dksX4_readSetupStatement_0 24 rfl rfl
theorem dX4_readSetupStatement_0 : decode cX4_readSetupStatement 0 = .ok (.aload_n 0, 1) := dk_42 (dk_at dksX4_readSetupStatement_0 0 rfl rfl)
theorem dX4_readSetupStatement_1 : decode cX4_readSetupStatement 1 = .ok (.ldc 237, 2) := dk_18 237 (dk_at dksX4_readSetupStatement_0 1 rfl rfl)
theorem dX4_readSetupStatement_3 : decode cX4_readSetupStatement 3 = .ok (.invokevirtual 215, 3) := dk_182 0 215 (dk_at dksX4_readSetupStatement_0 3 rfl rfl)
theorem dX4_readSetupStatement_6 : decode cX4_readSetupStatement 6 = .ok (.ifCond .eq 8, 3) := dk_153 0 8 (dk_at dksX4_readSetupStatement_0 6 rfl rfl)
theorem dX4_readSetupStatement_9 : decode cX4_readSetupStatement 9 = .ok (.aload_n 0, 1) := dk_42 (dk_at dksX4_readSetupStatement_0 9 rfl rfl)
theorem dX4_readSetupStatement_10 : decode cX4_readSetupStatement 10 = .ok (.invokevirtual 239, 3) := dk_182 0 239 (dk_at dksX4_readSetupStatement_0 10 rfl rfl)
theorem dX4_readSetupStatement_13 : decode cX4_readSetupStatement 13 = .ok (.ireturn, 1) := dk_172 (dk_at dksX4_readSetupStatement_0 13 rfl rfl)
theorem dX4_readSetupStatement_14 : decode cX4_readSetupStatement 14 = .ok (.aload_n 0, 1) := dk_42 (dk_at dksX4_readSetupStatement_0 14 rfl rfl)
theorem dX4_readSetupStatement_15 : decode cX4_readSetupStatement 15 = .ok (.invokevirtual 242, 3) := dk_182 0 242 (dk_at dksX4_readSetupStatement_0 15 rfl rfl)
theorem dX4_readSetupStatement_18 : decode cX4_readSetupStatement 18 = .ok (.istore_n 1, 1) := dk_60 (dk_at dksX4_readSetupStatement_0 18 rfl rfl)
theorem dX4_readSetupStatement_19 : decode cX4_readSetupStatement 19 = .ok (.iload_n 1, 1) := dk_27 (dk_at dksX4_readSetupStatement_0 19 rfl rfl)
theorem dX4_readSetupStatement_20 : decode cX4_readSetupStatement 20 = .ok (.iconst (-1), 1) := dk_2 (dk_at dksX4_readSetupStatement_0 20 rfl rfl)
theorem dX4_readSetupStatement_21 : decode cX4_readSetupStatement 21 = .ok (.if_icmp .ne 11, 3) := dk_160 0 11 (dk_at dksX4_readSetupStatement_0 21 rfl rfl)
theorem dX4_readSetupStatement_24 : decode cX4_readSetupStatement 24 = .ok (.aload_n 0, 1) := dk_42 (dk_at dksX4_readSetupStatement_1 0 rfl rfl)
theorem dX4_readSetupStatement_25 : decode cX4_readSetupStatement 25 = .ok (.iconst 1, 1) := dk_4 (dk_at dksX4_readSetupStatement_1 1 rfl rfl)
theorem dX4_readSetupStatement_26 : decode cX4_readSetupStatement 26 = .ok (.invokevirtual 195, 3) := dk_182 0 195 (dk_at dksX4_readSetupStatement_1 2 rfl rfl)
theorem dX4_readSetupStatement_29 : decode cX4_readSetupStatement 29 = .ok (.goto 8, 3) := dk_167 0 8 (dk_at dksX4_readSetupStatement_1 5 rfl rfl)
theorem dX4_readSetupStatement_32 : decode cX4_readSetupStatement 32 = .ok (.aload_n 0, 1) := dk_42 (dk_at dksX4_readSetupStatement_1 8 rfl rfl)
theorem dX4_readSetupStatement_33 : decode cX4_readSetupStatement 33 = .ok (.iload_n 1, 1) := dk_27 (dk_at dksX4_readSetupStatement_1 9 rfl rfl)
theorem dX4_readSetupStatement_34 : decode cX4_readSetupStatement 34 = .ok (.invokevirtual 245, 3) := dk_182 0 245 (dk_at dksX4_readSetupStatement_1 10 rfl rfl)
theorem dX4_readSetupStatement_37 : decode cX4_readSetupStatement 37 = .ok (.ireturn, 1) := dk_172 (dk_at dksX4_readSetupStatement_1 13 rfl rfl)
abbrev cX4_isWord : ByteArray := prog_20_method_46_code
def yX4_isWord : MethodName := ⟨RX4, "isWord", "(Ljava/lang/String;)Z"⟩
def dkwX4_isWord_2 : List UInt8 := [28, 182, 0, 191, 159, 0, 5, 3, 172, 132, 2, 1, 167, 255, 224, 4, 172]
abbrev dktX4_isWord_2 : List UInt8 := dkwX4_isWord_2 ++ []
def dkwX4_isWord_1 : List UInt8 := [3, 172, 3, 61, 28, 43, 182, 0, 186, 162, 0, 30, 42, 180, 0, 31, 42, 180, 0, 168, 28, 96, 46, 43]
abbrev dktX4_isWord_1 : List UInt8 := dkwX4_isWord_1 ++ dktX4_isWord_2
def dkwX4_isWord_0 : List UInt8 := [42, 180, 0, 174, 4, 160, 0, 19, 42, 180, 0, 165, 42, 180, 0, 168, 100, 43, 182, 0, 186, 159, 0, 5]
abbrev dktX4_isWord_0 : List UInt8 := dkwX4_isWord_0 ++ dktX4_isWord_1
theorem dksX4_isWord_0 : cX4_isWord.data.toList.drop 0 = dktX4_isWord_0 := by decide +kernel
theorem dksX4_isWord_1 : cX4_isWord.data.toList.drop 24 = dktX4_isWord_1 := dk_seg dksX4_isWord_0 24 rfl rfl
theorem dksX4_isWord_2 : cX4_isWord.data.toList.drop 48 = dktX4_isWord_2 := dk_seg dksX4_isWord_1 24 rfl rfl
theorem dX4_isWord_0 : decode cX4_isWord 0 = .ok (.aload_n 0, 1) := dk_42 (dk_at dksX4_isWord_0 0 rfl rfl)
theorem dX4_isWord_1 : decode cX4_isWord 1 = .ok (.getfield 174, 3) := dk_180 0 174 (dk_at dksX4_isWord_0 1 rfl rfl)
theorem dX4_isWord_4 : decode cX4_isWord 4 = .ok (.iconst 1, 1) := dk_4 (dk_at dksX4_isWord_0 4 rfl rfl)
theorem dX4_isWord_5 : decode cX4_isWord 5 = .ok (.if_icmp .ne 19, 3) := dk_160 0 19 (dk_at dksX4_isWord_0 5 rfl rfl)
theorem dX4_isWord_8 : decode cX4_isWord 8 = .ok (.aload_n 0, 1) := dk_42 (dk_at dksX4_isWord_0 8 rfl rfl)
theorem dX4_isWord_9 : decode cX4_isWord 9 = .ok (.getfield 165, 3) := dk_180 0 165 (dk_at dksX4_isWord_0 9 rfl rfl)
theorem dX4_isWord_12 : decode cX4_isWord 12 = .ok (.aload_n 0, 1) := dk_42 (dk_at dksX4_isWord_0 12 rfl rfl)
theorem dX4_isWord_13 : decode cX4_isWord 13 = .ok (.getfield 168, 3) := dk_180 0 168 (dk_at dksX4_isWord_0 13 rfl rfl)
theorem dX4_isWord_16 : decode cX4_isWord 16 = .ok (.isub, 1) := dk_100 (dk_at dksX4_isWord_0 16 rfl rfl)
theorem dX4_isWord_17 : decode cX4_isWord 17 = .ok (.aload_n 1, 1) := dk_43 (dk_at dksX4_isWord_0 17 rfl rfl)
theorem dX4_isWord_18 : decode cX4_isWord 18 = .ok (.invokevirtual 186, 3) := dk_182 0 186 (dk_at dksX4_isWord_0 18 rfl rfl)
theorem dX4_isWord_21 : decode cX4_isWord 21 = .ok (.if_icmp .eq 5, 3) := dk_159 0 5 (dk_at dksX4_isWord_0 21 rfl rfl)
theorem dX4_isWord_24 : decode cX4_isWord 24 = .ok (.iconst 0, 1) := dk_3 (dk_at dksX4_isWord_1 0 rfl rfl)
theorem dX4_isWord_25 : decode cX4_isWord 25 = .ok (.ireturn, 1) := dk_172 (dk_at dksX4_isWord_1 1 rfl rfl)
theorem dX4_isWord_26 : decode cX4_isWord 26 = .ok (.iconst 0, 1) := dk_3 (dk_at dksX4_isWord_1 2 rfl rfl)
theorem dX4_isWord_27 : decode cX4_isWord 27 = .ok (.istore_n 2, 1) := dk_61 (dk_at dksX4_isWord_1 3 rfl rfl)
theorem dX4_isWord_28 : decode cX4_isWord 28 = .ok (.iload_n 2, 1) := dk_28 (dk_at dksX4_isWord_1 4 rfl rfl)
theorem dX4_isWord_29 : decode cX4_isWord 29 = .ok (.aload_n 1, 1) := dk_43 (dk_at dksX4_isWord_1 5 rfl rfl)
theorem dX4_isWord_30 : decode cX4_isWord 30 = .ok (.invokevirtual 186, 3) := dk_182 0 186 (dk_at dksX4_isWord_1 6 rfl rfl)
theorem dX4_isWord_33 : decode cX4_isWord 33 = .ok (.if_icmp .ge 30, 3) := dk_162 0 30 (dk_at dksX4_isWord_1 9 rfl rfl)
theorem dX4_isWord_36 : decode cX4_isWord 36 = .ok (.aload_n 0, 1) := dk_42 (dk_at dksX4_isWord_1 12 rfl rfl)
theorem dX4_isWord_37 : decode cX4_isWord 37 = .ok (.getfield 31, 3) := dk_180 0 31 (dk_at dksX4_isWord_1 13 rfl rfl)
theorem dX4_isWord_40 : decode cX4_isWord 40 = .ok (.aload_n 0, 1) := dk_42 (dk_at dksX4_isWord_1 16 rfl rfl)
theorem dX4_isWord_41 : decode cX4_isWord 41 = .ok (.getfield 168, 3) := dk_180 0 168 (dk_at dksX4_isWord_1 17 rfl rfl)
theorem dX4_isWord_44 : decode cX4_isWord 44 = .ok (.iload_n 2, 1) := dk_28 (dk_at dksX4_isWord_1 20 rfl rfl)
theorem dX4_isWord_45 : decode cX4_isWord 45 = .ok (.iadd, 1) := dk_96 (dk_at dksX4_isWord_1 21 rfl rfl)
theorem dX4_isWord_46 : decode cX4_isWord 46 = .ok (.iaload, 1) := dk_46 (dk_at dksX4_isWord_1 22 rfl rfl)
theorem dX4_isWord_47 : decode cX4_isWord 47 = .ok (.aload_n 1, 1) := dk_43 (dk_at dksX4_isWord_1 23 rfl rfl)
theorem dX4_isWord_48 : decode cX4_isWord 48 = .ok (.iload_n 2, 1) := dk_28 (dk_at dksX4_isWord_2 0 rfl rfl)
theorem dX4_isWord_49 : decode cX4_isWord 49 = .ok (.invokevirtual 191, 3) := dk_182 0 191 (dk_at dksX4_isWord_2 1 rfl rfl)
theorem dX4_isWord_52 : decode cX4_isWord 52 = .ok (.if_icmp .eq 5, 3) := dk_159 0 5 (dk_at dksX4_isWord_2 4 rfl rfl)
theorem dX4_isWord_55 : decode cX4_isWord 55 = .ok (.iconst 0, 1) := dk_3 (dk_at dksX4_isWord_2 7 rfl rfl)
theorem dX4_isWord_56 : decode cX4_isWord 56 = .ok (.ireturn, 1) := dk_172 (dk_at dksX4_isWord_2 8 rfl rfl)
theorem dX4_isWord_57 : decode cX4_isWord 57 = .ok (.iinc 2 1, 3) := dk_132 2 1 (dk_at dksX4_isWord_2 9 rfl rfl)
theorem dX4_isWord_60 : decode cX4_isWord 60 = .ok (.goto (-32), 3) := dk_167 255 224 (dk_at dksX4_isWord_2 12 rfl rfl)
theorem dX4_isWord_63 : decode cX4_isWord 63 = .ok (.iconst 1, 1) := dk_4 (dk_at dksX4_isWord_2 15 rfl rfl)
theorem dX4_isWord_64 : decode cX4_isWord 64 = .ok (.ireturn, 1) := dk_172 (dk_at dksX4_isWord_2 16 rfl rfl)
abbrev cX4_readProverb : ByteArray := prog_20_method_54_code
def yX4_readProverb : MethodName := ⟨RX4, "readProverb", "()Z"⟩
def dkwX4_readProverb_5 : List UInt8 := [42, 180, 0, 38, 8, 46, 182, 0, 56, 60, 42, 182, 0, 204, 4, 172]
abbrev dktX4_readProverb_5 : List UInt8 := dkwX4_readProverb_5 ++ []
def dkwX4_readProverb_4 : List UInt8 := [42, 180, 0, 38, 4, 46, 42, 180, 0, 38, 5, 46, 42, 180, 0, 38, 6, 46, 42, 180, 0, 38, 7, 46]
abbrev dktX4_readProverb_4 : List UInt8 := dkwX4_readProverb_4 ++ dktX4_readProverb_5
def dkwX4_readProverb_3 : List UInt8 := [180, 0, 38, 7, 46, 182, 0, 227, 153, 0, 9, 42, 7, 182, 0, 195, 172, 42, 42, 180, 0, 38, 3, 46]
abbrev dktX4_readProverb_3 : List UInt8 := dkwX4_readProverb_3 ++ dktX4_readProverb_4
def dkwX4_readProverb_2 : List UInt8 := [180, 0, 38, 3, 46, 42, 180, 0, 38, 4, 46, 42, 180, 0, 38, 5, 46, 42, 180, 0, 38, 6, 46, 42]
abbrev dktX4_readProverb_2 : List UInt8 := dkwX4_readProverb_2 ++ dktX4_readProverb_3
def dkwX4_readProverb_1 : List UInt8 := [182, 0, 223, 154, 0, 5, 3, 172, 42, 180, 0, 174, 6, 159, 0, 9, 42, 4, 182, 0, 195, 172, 42, 42]
abbrev dktX4_readProverb_1 : List UInt8 := dkwX4_readProverb_1 ++ dktX4_readProverb_2
def dkwX4_readProverb_0 : List UInt8 := [42, 180, 0, 7, 3, 46, 16, 24, 160, 0, 9, 42, 6, 182, 0, 195, 172, 42, 182, 0, 204, 42]
abbrev dktX4_readProverb_0 : List UInt8 := dkwX4_readProverb_0 ++ dktX4_readProverb_1
theorem dksX4_readProverb_0 : cX4_readProverb.data.toList.drop 0 = dktX4_readProverb_0 := by decide +kernel
theorem dksX4_readProverb_1 : cX4_readProverb.data.toList.drop 22 = dktX4_readProverb_1 := dk_seg dksX4_readProverb_0 22 rfl rfl
theorem dksX4_readProverb_2 : cX4_readProverb.data.toList.drop 46 = dktX4_readProverb_2 := dk_seg dksX4_readProverb_1 24 rfl rfl
theorem dksX4_readProverb_3 : cX4_readProverb.data.toList.drop 70 = dktX4_readProverb_3 := dk_seg dksX4_readProverb_2 24 rfl rfl
theorem dksX4_readProverb_4 : cX4_readProverb.data.toList.drop 94 = dktX4_readProverb_4 := dk_seg dksX4_readProverb_3 24 rfl rfl
theorem dksX4_readProverb_5 : cX4_readProverb.data.toList.drop 118 = dktX4_readProverb_5 := dk_seg dksX4_readProverb_4 24 rfl rfl
theorem dX4_readProverb_0 : decode cX4_readProverb 0 = .ok (.aload_n 0, 1) := dk_42 (dk_at dksX4_readProverb_0 0 rfl rfl)
theorem dX4_readProverb_1 : decode cX4_readProverb 1 = .ok (.getfield 7, 3) := dk_180 0 7 (dk_at dksX4_readProverb_0 1 rfl rfl)
theorem dX4_readProverb_4 : decode cX4_readProverb 4 = .ok (.iconst 0, 1) := dk_3 (dk_at dksX4_readProverb_0 4 rfl rfl)
theorem dX4_readProverb_5 : decode cX4_readProverb 5 = .ok (.iaload, 1) := dk_46 (dk_at dksX4_readProverb_0 5 rfl rfl)
theorem dX4_readProverb_6 : decode cX4_readProverb 6 = .ok (.bipush 24, 2) := dk_16 24 (dk_at dksX4_readProverb_0 6 rfl rfl)
theorem dX4_readProverb_8 : decode cX4_readProverb 8 = .ok (.if_icmp .ne 9, 3) := dk_160 0 9 (dk_at dksX4_readProverb_0 8 rfl rfl)
theorem dX4_readProverb_11 : decode cX4_readProverb 11 = .ok (.aload_n 0, 1) := dk_42 (dk_at dksX4_readProverb_0 11 rfl rfl)
theorem dX4_readProverb_12 : decode cX4_readProverb 12 = .ok (.iconst 3, 1) := dk_6 (dk_at dksX4_readProverb_0 12 rfl rfl)
theorem dX4_readProverb_13 : decode cX4_readProverb 13 = .ok (.invokevirtual 195, 3) := dk_182 0 195 (dk_at dksX4_readProverb_0 13 rfl rfl)
theorem dX4_readProverb_16 : decode cX4_readProverb 16 = .ok (.ireturn, 1) := dk_172 (dk_at dksX4_readProverb_0 16 rfl rfl)
theorem dX4_readProverb_17 : decode cX4_readProverb 17 = .ok (.aload_n 0, 1) := dk_42 (dk_at dksX4_readProverb_0 17 rfl rfl)
theorem dX4_readProverb_18 : decode cX4_readProverb 18 = .ok (.invokevirtual 204, 3) := dk_182 0 204 (dk_at dksX4_readProverb_0 18 rfl rfl)
theorem dX4_readProverb_21 : decode cX4_readProverb 21 = .ok (.aload_n 0, 1) := dk_42 (dk_at dksX4_readProverb_0 21 rfl rfl)
theorem dX4_readProverb_22 : decode cX4_readProverb 22 = .ok (.invokevirtual 223, 3) := dk_182 0 223 (dk_at dksX4_readProverb_1 0 rfl rfl)
theorem dX4_readProverb_25 : decode cX4_readProverb 25 = .ok (.ifCond .ne 5, 3) := dk_154 0 5 (dk_at dksX4_readProverb_1 3 rfl rfl)
theorem dX4_readProverb_28 : decode cX4_readProverb 28 = .ok (.iconst 0, 1) := dk_3 (dk_at dksX4_readProverb_1 6 rfl rfl)
theorem dX4_readProverb_29 : decode cX4_readProverb 29 = .ok (.ireturn, 1) := dk_172 (dk_at dksX4_readProverb_1 7 rfl rfl)
theorem dX4_readProverb_30 : decode cX4_readProverb 30 = .ok (.aload_n 0, 1) := dk_42 (dk_at dksX4_readProverb_1 8 rfl rfl)
theorem dX4_readProverb_31 : decode cX4_readProverb 31 = .ok (.getfield 174, 3) := dk_180 0 174 (dk_at dksX4_readProverb_1 9 rfl rfl)
theorem dX4_readProverb_34 : decode cX4_readProverb 34 = .ok (.iconst 3, 1) := dk_6 (dk_at dksX4_readProverb_1 12 rfl rfl)
theorem dX4_readProverb_35 : decode cX4_readProverb 35 = .ok (.if_icmp .eq 9, 3) := dk_159 0 9 (dk_at dksX4_readProverb_1 13 rfl rfl)
theorem dX4_readProverb_38 : decode cX4_readProverb 38 = .ok (.aload_n 0, 1) := dk_42 (dk_at dksX4_readProverb_1 16 rfl rfl)
theorem dX4_readProverb_39 : decode cX4_readProverb 39 = .ok (.iconst 1, 1) := dk_4 (dk_at dksX4_readProverb_1 17 rfl rfl)
theorem dX4_readProverb_40 : decode cX4_readProverb 40 = .ok (.invokevirtual 195, 3) := dk_182 0 195 (dk_at dksX4_readProverb_1 18 rfl rfl)
theorem dX4_readProverb_43 : decode cX4_readProverb 43 = .ok (.ireturn, 1) := dk_172 (dk_at dksX4_readProverb_1 21 rfl rfl)
theorem dX4_readProverb_44 : decode cX4_readProverb 44 = .ok (.aload_n 0, 1) := dk_42 (dk_at dksX4_readProverb_1 22 rfl rfl)
theorem dX4_readProverb_45 : decode cX4_readProverb 45 = .ok (.aload_n 0, 1) := dk_42 (dk_at dksX4_readProverb_1 23 rfl rfl)
theorem dX4_readProverb_46 : decode cX4_readProverb 46 = .ok (.getfield 38, 3) := dk_180 0 38 (dk_at dksX4_readProverb_2 0 rfl rfl)
theorem dX4_readProverb_49 : decode cX4_readProverb 49 = .ok (.iconst 0, 1) := dk_3 (dk_at dksX4_readProverb_2 3 rfl rfl)
theorem dX4_readProverb_50 : decode cX4_readProverb 50 = .ok (.iaload, 1) := dk_46 (dk_at dksX4_readProverb_2 4 rfl rfl)
theorem dX4_readProverb_51 : decode cX4_readProverb 51 = .ok (.aload_n 0, 1) := dk_42 (dk_at dksX4_readProverb_2 5 rfl rfl)
theorem dX4_readProverb_52 : decode cX4_readProverb 52 = .ok (.getfield 38, 3) := dk_180 0 38 (dk_at dksX4_readProverb_2 6 rfl rfl)
theorem dX4_readProverb_55 : decode cX4_readProverb 55 = .ok (.iconst 1, 1) := dk_4 (dk_at dksX4_readProverb_2 9 rfl rfl)
theorem dX4_readProverb_56 : decode cX4_readProverb 56 = .ok (.iaload, 1) := dk_46 (dk_at dksX4_readProverb_2 10 rfl rfl)
theorem dX4_readProverb_57 : decode cX4_readProverb 57 = .ok (.aload_n 0, 1) := dk_42 (dk_at dksX4_readProverb_2 11 rfl rfl)
theorem dX4_readProverb_58 : decode cX4_readProverb 58 = .ok (.getfield 38, 3) := dk_180 0 38 (dk_at dksX4_readProverb_2 12 rfl rfl)
theorem dX4_readProverb_61 : decode cX4_readProverb 61 = .ok (.iconst 2, 1) := dk_5 (dk_at dksX4_readProverb_2 15 rfl rfl)
theorem dX4_readProverb_62 : decode cX4_readProverb 62 = .ok (.iaload, 1) := dk_46 (dk_at dksX4_readProverb_2 16 rfl rfl)
theorem dX4_readProverb_63 : decode cX4_readProverb 63 = .ok (.aload_n 0, 1) := dk_42 (dk_at dksX4_readProverb_2 17 rfl rfl)
theorem dX4_readProverb_64 : decode cX4_readProverb 64 = .ok (.getfield 38, 3) := dk_180 0 38 (dk_at dksX4_readProverb_2 18 rfl rfl)
theorem dX4_readProverb_67 : decode cX4_readProverb 67 = .ok (.iconst 3, 1) := dk_6 (dk_at dksX4_readProverb_2 21 rfl rfl)
theorem dX4_readProverb_68 : decode cX4_readProverb 68 = .ok (.iaload, 1) := dk_46 (dk_at dksX4_readProverb_2 22 rfl rfl)
theorem dX4_readProverb_69 : decode cX4_readProverb 69 = .ok (.aload_n 0, 1) := dk_42 (dk_at dksX4_readProverb_2 23 rfl rfl)
theorem dX4_readProverb_70 : decode cX4_readProverb 70 = .ok (.getfield 38, 3) := dk_180 0 38 (dk_at dksX4_readProverb_3 0 rfl rfl)
theorem dX4_readProverb_73 : decode cX4_readProverb 73 = .ok (.iconst 4, 1) := dk_7 (dk_at dksX4_readProverb_3 3 rfl rfl)
theorem dX4_readProverb_74 : decode cX4_readProverb 74 = .ok (.iaload, 1) := dk_46 (dk_at dksX4_readProverb_3 4 rfl rfl)
theorem dX4_readProverb_75 : decode cX4_readProverb 75 = .ok (.invokevirtual 227, 3) := dk_182 0 227 (dk_at dksX4_readProverb_3 5 rfl rfl)
theorem dX4_readProverb_78 : decode cX4_readProverb 78 = .ok (.ifCond .eq 9, 3) := dk_153 0 9 (dk_at dksX4_readProverb_3 8 rfl rfl)
theorem dX4_readProverb_81 : decode cX4_readProverb 81 = .ok (.aload_n 0, 1) := dk_42 (dk_at dksX4_readProverb_3 11 rfl rfl)
theorem dX4_readProverb_82 : decode cX4_readProverb 82 = .ok (.iconst 4, 1) := dk_7 (dk_at dksX4_readProverb_3 12 rfl rfl)
theorem dX4_readProverb_83 : decode cX4_readProverb 83 = .ok (.invokevirtual 195, 3) := dk_182 0 195 (dk_at dksX4_readProverb_3 13 rfl rfl)
theorem dX4_readProverb_86 : decode cX4_readProverb 86 = .ok (.ireturn, 1) := dk_172 (dk_at dksX4_readProverb_3 16 rfl rfl)
theorem dX4_readProverb_87 : decode cX4_readProverb 87 = .ok (.aload_n 0, 1) := dk_42 (dk_at dksX4_readProverb_3 17 rfl rfl)
theorem dX4_readProverb_88 : decode cX4_readProverb 88 = .ok (.aload_n 0, 1) := dk_42 (dk_at dksX4_readProverb_3 18 rfl rfl)
theorem dX4_readProverb_89 : decode cX4_readProverb 89 = .ok (.getfield 38, 3) := dk_180 0 38 (dk_at dksX4_readProverb_3 19 rfl rfl)
theorem dX4_readProverb_92 : decode cX4_readProverb 92 = .ok (.iconst 0, 1) := dk_3 (dk_at dksX4_readProverb_3 22 rfl rfl)
theorem dX4_readProverb_93 : decode cX4_readProverb 93 = .ok (.iaload, 1) := dk_46 (dk_at dksX4_readProverb_3 23 rfl rfl)
theorem dX4_readProverb_94 : decode cX4_readProverb 94 = .ok (.aload_n 0, 1) := dk_42 (dk_at dksX4_readProverb_4 0 rfl rfl)
theorem dX4_readProverb_95 : decode cX4_readProverb 95 = .ok (.getfield 38, 3) := dk_180 0 38 (dk_at dksX4_readProverb_4 1 rfl rfl)
theorem dX4_readProverb_98 : decode cX4_readProverb 98 = .ok (.iconst 1, 1) := dk_4 (dk_at dksX4_readProverb_4 4 rfl rfl)
theorem dX4_readProverb_99 : decode cX4_readProverb 99 = .ok (.iaload, 1) := dk_46 (dk_at dksX4_readProverb_4 5 rfl rfl)
theorem dX4_readProverb_100 : decode cX4_readProverb 100 = .ok (.aload_n 0, 1) := dk_42 (dk_at dksX4_readProverb_4 6 rfl rfl)
theorem dX4_readProverb_101 : decode cX4_readProverb 101 = .ok (.getfield 38, 3) := dk_180 0 38 (dk_at dksX4_readProverb_4 7 rfl rfl)
theorem dX4_readProverb_104 : decode cX4_readProverb 104 = .ok (.iconst 2, 1) := dk_5 (dk_at dksX4_readProverb_4 10 rfl rfl)
theorem dX4_readProverb_105 : decode cX4_readProverb 105 = .ok (.iaload, 1) := dk_46 (dk_at dksX4_readProverb_4 11 rfl rfl)
theorem dX4_readProverb_106 : decode cX4_readProverb 106 = .ok (.aload_n 0, 1) := dk_42 (dk_at dksX4_readProverb_4 12 rfl rfl)
theorem dX4_readProverb_107 : decode cX4_readProverb 107 = .ok (.getfield 38, 3) := dk_180 0 38 (dk_at dksX4_readProverb_4 13 rfl rfl)
theorem dX4_readProverb_110 : decode cX4_readProverb 110 = .ok (.iconst 3, 1) := dk_6 (dk_at dksX4_readProverb_4 16 rfl rfl)
theorem dX4_readProverb_111 : decode cX4_readProverb 111 = .ok (.iaload, 1) := dk_46 (dk_at dksX4_readProverb_4 17 rfl rfl)
theorem dX4_readProverb_112 : decode cX4_readProverb 112 = .ok (.aload_n 0, 1) := dk_42 (dk_at dksX4_readProverb_4 18 rfl rfl)
theorem dX4_readProverb_113 : decode cX4_readProverb 113 = .ok (.getfield 38, 3) := dk_180 0 38 (dk_at dksX4_readProverb_4 19 rfl rfl)
theorem dX4_readProverb_116 : decode cX4_readProverb 116 = .ok (.iconst 4, 1) := dk_7 (dk_at dksX4_readProverb_4 22 rfl rfl)
theorem dX4_readProverb_117 : decode cX4_readProverb 117 = .ok (.iaload, 1) := dk_46 (dk_at dksX4_readProverb_4 23 rfl rfl)
theorem dX4_readProverb_118 : decode cX4_readProverb 118 = .ok (.aload_n 0, 1) := dk_42 (dk_at dksX4_readProverb_5 0 rfl rfl)
theorem dX4_readProverb_119 : decode cX4_readProverb 119 = .ok (.getfield 38, 3) := dk_180 0 38 (dk_at dksX4_readProverb_5 1 rfl rfl)
theorem dX4_readProverb_122 : decode cX4_readProverb 122 = .ok (.iconst 5, 1) := dk_8 (dk_at dksX4_readProverb_5 4 rfl rfl)
theorem dX4_readProverb_123 : decode cX4_readProverb 123 = .ok (.iaload, 1) := dk_46 (dk_at dksX4_readProverb_5 5 rfl rfl)
theorem dX4_readProverb_124 : decode cX4_readProverb 124 = .ok (.invokevirtual 56, 3) := dk_182 0 56 (dk_at dksX4_readProverb_5 6 rfl rfl)
theorem dX4_readProverb_127 : decode cX4_readProverb 127 = .ok (.istore_n 1, 1) := dk_60 (dk_at dksX4_readProverb_5 9 rfl rfl)
theorem dX4_readProverb_128 : decode cX4_readProverb 128 = .ok (.aload_n 0, 1) := dk_42 (dk_at dksX4_readProverb_5 10 rfl rfl)
theorem dX4_readProverb_129 : decode cX4_readProverb 129 = .ok (.invokevirtual 204, 3) := dk_182 0 204 (dk_at dksX4_readProverb_5 11 rfl rfl)
theorem dX4_readProverb_132 : decode cX4_readProverb 132 = .ok (.iconst 1, 1) := dk_4 (dk_at dksX4_readProverb_5 14 rfl rfl)
theorem dX4_readProverb_133 : decode cX4_readProverb 133 = .ok (.ireturn, 1) := dk_172 (dk_at dksX4_readProverb_5 15 rfl rfl)
abbrev cX4_failsAt : ByteArray := prog_20_method_45_code
def yX4_failsAt : MethodName := ⟨RX4, "failsAt", "(I)Z"⟩
def dkwX4_failsAt_0 : List UInt8 := [42, 180, 0, 180, 154, 0, 16, 42, 27, 181, 0, 180, 42, 42, 180, 0, 168, 181, 0, 183, 3, 172]
abbrev dktX4_failsAt_0 : List UInt8 := dkwX4_failsAt_0 ++ []
theorem dksX4_failsAt_0 : cX4_failsAt.data.toList.drop 0 = dktX4_failsAt_0 := by decide +kernel
theorem dX4_failsAt_0 : decode cX4_failsAt 0 = .ok (.aload_n 0, 1) := dk_42 (dk_at dksX4_failsAt_0 0 rfl rfl)
theorem dX4_failsAt_1 : decode cX4_failsAt 1 = .ok (.getfield 180, 3) := dk_180 0 180 (dk_at dksX4_failsAt_0 1 rfl rfl)
theorem dX4_failsAt_4 : decode cX4_failsAt 4 = .ok (.ifCond .ne 16, 3) := dk_154 0 16 (dk_at dksX4_failsAt_0 4 rfl rfl)
theorem dX4_failsAt_7 : decode cX4_failsAt 7 = .ok (.aload_n 0, 1) := dk_42 (dk_at dksX4_failsAt_0 7 rfl rfl)
theorem dX4_failsAt_8 : decode cX4_failsAt 8 = .ok (.iload_n 1, 1) := dk_27 (dk_at dksX4_failsAt_0 8 rfl rfl)
theorem dX4_failsAt_9 : decode cX4_failsAt 9 = .ok (.putfield 180, 3) := dk_181 0 180 (dk_at dksX4_failsAt_0 9 rfl rfl)
theorem dX4_failsAt_12 : decode cX4_failsAt 12 = .ok (.aload_n 0, 1) := dk_42 (dk_at dksX4_failsAt_0 12 rfl rfl)
theorem dX4_failsAt_13 : decode cX4_failsAt 13 = .ok (.aload_n 0, 1) := dk_42 (dk_at dksX4_failsAt_0 13 rfl rfl)
theorem dX4_failsAt_14 : decode cX4_failsAt 14 = .ok (.getfield 168, 3) := dk_180 0 168 (dk_at dksX4_failsAt_0 14 rfl rfl)
theorem dX4_failsAt_17 : decode cX4_failsAt 17 = .ok (.putfield 183, 3) := dk_181 0 183 (dk_at dksX4_failsAt_0 17 rfl rfl)
theorem dX4_failsAt_20 : decode cX4_failsAt 20 = .ok (.iconst 0, 1) := dk_3 (dk_at dksX4_failsAt_0 20 rfl rfl)
theorem dX4_failsAt_21 : decode cX4_failsAt 21 = .ok (.ireturn, 1) := dk_172 (dk_at dksX4_failsAt_0 21 rfl rfl)
abbrev cX4_takesProverb : ByteArray := prog_20_method_51_code
def yX4_takesProverb : MethodName := ⟨RX4, "takesProverb", "()Z"⟩
def dkwX4_takesProverb_2 : List UInt8 := [182, 0, 210, 153, 0, 19, 42, 8, 4, 17, 3, 231, 182, 0, 210, 153, 0, 7, 4, 167, 0, 4, 3, 172]
abbrev dktX4_takesProverb_2 : List UInt8 := dkwX4_takesProverb_2 ++ []
def dkwX4_takesProverb_1 : List UInt8 := [3, 16, 11, 182, 0, 210, 153, 0, 40, 42, 6, 3, 16, 11, 182, 0, 210, 153, 0, 29, 42, 7, 3, 7]
abbrev dktX4_takesProverb_1 : List UInt8 := dkwX4_takesProverb_1 ++ dktX4_takesProverb_2
def dkwX4_takesProverb_0 : List UInt8 := [42, 3, 3, 16, 15, 182, 0, 210, 153, 0, 62, 42, 4, 3, 16, 15, 182, 0, 210, 153, 0, 51, 42, 5]
abbrev dktX4_takesProverb_0 : List UInt8 := dkwX4_takesProverb_0 ++ dktX4_takesProverb_1
theorem dksX4_takesProverb_0 : cX4_takesProverb.data.toList.drop 0 = dktX4_takesProverb_0 := by decide +kernel
theorem dksX4_takesProverb_1 : cX4_takesProverb.data.toList.drop 24 = dktX4_takesProverb_1 := dk_seg dksX4_takesProverb_0 24 rfl rfl
theorem dksX4_takesProverb_2 : cX4_takesProverb.data.toList.drop 48 = dktX4_takesProverb_2 := dk_seg dksX4_takesProverb_1 24 rfl rfl
theorem dX4_takesProverb_0 : decode cX4_takesProverb 0 = .ok (.aload_n 0, 1) := dk_42 (dk_at dksX4_takesProverb_0 0 rfl rfl)
theorem dX4_takesProverb_1 : decode cX4_takesProverb 1 = .ok (.iconst 0, 1) := dk_3 (dk_at dksX4_takesProverb_0 1 rfl rfl)
theorem dX4_takesProverb_2 : decode cX4_takesProverb 2 = .ok (.iconst 0, 1) := dk_3 (dk_at dksX4_takesProverb_0 2 rfl rfl)
theorem dX4_takesProverb_3 : decode cX4_takesProverb 3 = .ok (.bipush 15, 2) := dk_16 15 (dk_at dksX4_takesProverb_0 3 rfl rfl)
theorem dX4_takesProverb_5 : decode cX4_takesProverb 5 = .ok (.invokevirtual 210, 3) := dk_182 0 210 (dk_at dksX4_takesProverb_0 5 rfl rfl)
theorem dX4_takesProverb_8 : decode cX4_takesProverb 8 = .ok (.ifCond .eq 62, 3) := dk_153 0 62 (dk_at dksX4_takesProverb_0 8 rfl rfl)
theorem dX4_takesProverb_11 : decode cX4_takesProverb 11 = .ok (.aload_n 0, 1) := dk_42 (dk_at dksX4_takesProverb_0 11 rfl rfl)
theorem dX4_takesProverb_12 : decode cX4_takesProverb 12 = .ok (.iconst 1, 1) := dk_4 (dk_at dksX4_takesProverb_0 12 rfl rfl)
theorem dX4_takesProverb_13 : decode cX4_takesProverb 13 = .ok (.iconst 0, 1) := dk_3 (dk_at dksX4_takesProverb_0 13 rfl rfl)
theorem dX4_takesProverb_14 : decode cX4_takesProverb 14 = .ok (.bipush 15, 2) := dk_16 15 (dk_at dksX4_takesProverb_0 14 rfl rfl)
theorem dX4_takesProverb_16 : decode cX4_takesProverb 16 = .ok (.invokevirtual 210, 3) := dk_182 0 210 (dk_at dksX4_takesProverb_0 16 rfl rfl)
theorem dX4_takesProverb_19 : decode cX4_takesProverb 19 = .ok (.ifCond .eq 51, 3) := dk_153 0 51 (dk_at dksX4_takesProverb_0 19 rfl rfl)
theorem dX4_takesProverb_22 : decode cX4_takesProverb 22 = .ok (.aload_n 0, 1) := dk_42 (dk_at dksX4_takesProverb_0 22 rfl rfl)
theorem dX4_takesProverb_23 : decode cX4_takesProverb 23 = .ok (.iconst 2, 1) := dk_5 (dk_at dksX4_takesProverb_0 23 rfl rfl)
theorem dX4_takesProverb_24 : decode cX4_takesProverb 24 = .ok (.iconst 0, 1) := dk_3 (dk_at dksX4_takesProverb_1 0 rfl rfl)
theorem dX4_takesProverb_25 : decode cX4_takesProverb 25 = .ok (.bipush 11, 2) := dk_16 11 (dk_at dksX4_takesProverb_1 1 rfl rfl)
theorem dX4_takesProverb_27 : decode cX4_takesProverb 27 = .ok (.invokevirtual 210, 3) := dk_182 0 210 (dk_at dksX4_takesProverb_1 3 rfl rfl)
theorem dX4_takesProverb_30 : decode cX4_takesProverb 30 = .ok (.ifCond .eq 40, 3) := dk_153 0 40 (dk_at dksX4_takesProverb_1 6 rfl rfl)
theorem dX4_takesProverb_33 : decode cX4_takesProverb 33 = .ok (.aload_n 0, 1) := dk_42 (dk_at dksX4_takesProverb_1 9 rfl rfl)
theorem dX4_takesProverb_34 : decode cX4_takesProverb 34 = .ok (.iconst 3, 1) := dk_6 (dk_at dksX4_takesProverb_1 10 rfl rfl)
theorem dX4_takesProverb_35 : decode cX4_takesProverb 35 = .ok (.iconst 0, 1) := dk_3 (dk_at dksX4_takesProverb_1 11 rfl rfl)
theorem dX4_takesProverb_36 : decode cX4_takesProverb 36 = .ok (.bipush 11, 2) := dk_16 11 (dk_at dksX4_takesProverb_1 12 rfl rfl)
theorem dX4_takesProverb_38 : decode cX4_takesProverb 38 = .ok (.invokevirtual 210, 3) := dk_182 0 210 (dk_at dksX4_takesProverb_1 14 rfl rfl)
theorem dX4_takesProverb_41 : decode cX4_takesProverb 41 = .ok (.ifCond .eq 29, 3) := dk_153 0 29 (dk_at dksX4_takesProverb_1 17 rfl rfl)
theorem dX4_takesProverb_44 : decode cX4_takesProverb 44 = .ok (.aload_n 0, 1) := dk_42 (dk_at dksX4_takesProverb_1 20 rfl rfl)
theorem dX4_takesProverb_45 : decode cX4_takesProverb 45 = .ok (.iconst 4, 1) := dk_7 (dk_at dksX4_takesProverb_1 21 rfl rfl)
theorem dX4_takesProverb_46 : decode cX4_takesProverb 46 = .ok (.iconst 0, 1) := dk_3 (dk_at dksX4_takesProverb_1 22 rfl rfl)
theorem dX4_takesProverb_47 : decode cX4_takesProverb 47 = .ok (.iconst 4, 1) := dk_7 (dk_at dksX4_takesProverb_1 23 rfl rfl)
theorem dX4_takesProverb_48 : decode cX4_takesProverb 48 = .ok (.invokevirtual 210, 3) := dk_182 0 210 (dk_at dksX4_takesProverb_2 0 rfl rfl)
theorem dX4_takesProverb_51 : decode cX4_takesProverb 51 = .ok (.ifCond .eq 19, 3) := dk_153 0 19 (dk_at dksX4_takesProverb_2 3 rfl rfl)
theorem dX4_takesProverb_54 : decode cX4_takesProverb 54 = .ok (.aload_n 0, 1) := dk_42 (dk_at dksX4_takesProverb_2 6 rfl rfl)
theorem dX4_takesProverb_55 : decode cX4_takesProverb 55 = .ok (.iconst 5, 1) := dk_8 (dk_at dksX4_takesProverb_2 7 rfl rfl)
theorem dX4_takesProverb_56 : decode cX4_takesProverb 56 = .ok (.iconst 1, 1) := dk_4 (dk_at dksX4_takesProverb_2 8 rfl rfl)
theorem dX4_takesProverb_57 : decode cX4_takesProverb 57 = .ok (.sipush 999, 3) := dk_17 3 231 (dk_at dksX4_takesProverb_2 9 rfl rfl)
theorem dX4_takesProverb_60 : decode cX4_takesProverb 60 = .ok (.invokevirtual 210, 3) := dk_182 0 210 (dk_at dksX4_takesProverb_2 12 rfl rfl)
theorem dX4_takesProverb_63 : decode cX4_takesProverb 63 = .ok (.ifCond .eq 7, 3) := dk_153 0 7 (dk_at dksX4_takesProverb_2 15 rfl rfl)
theorem dX4_takesProverb_66 : decode cX4_takesProverb 66 = .ok (.iconst 1, 1) := dk_4 (dk_at dksX4_takesProverb_2 18 rfl rfl)
theorem dX4_takesProverb_67 : decode cX4_takesProverb 67 = .ok (.goto 4, 3) := dk_167 0 4 (dk_at dksX4_takesProverb_2 19 rfl rfl)
theorem dX4_takesProverb_70 : decode cX4_takesProverb 70 = .ok (.iconst 0, 1) := dk_3 (dk_at dksX4_takesProverb_2 22 rfl rfl)
theorem dX4_takesProverb_71 : decode cX4_takesProverb 71 = .ok (.ireturn, 1) := dk_172 (dk_at dksX4_takesProverb_2 23 rfl rfl)
abbrev cX4_takes : ByteArray := prog_20_method_50_code
def yX4_takes : MethodName := ⟨RX4, "takes", "(III)Z"⟩
def dkwX4_takes_0 : List UInt8 := [42, 28, 29, 182, 0, 207, 154, 0, 5, 3, 172, 42, 180, 0, 38, 27, 42, 180, 0, 198, 79, 4, 172]
abbrev dktX4_takes_0 : List UInt8 := dkwX4_takes_0 ++ []
theorem dksX4_takes_0 : cX4_takes.data.toList.drop 0 = dktX4_takes_0 := by decide +kernel
theorem dX4_takes_0 : decode cX4_takes 0 = .ok (.aload_n 0, 1) := dk_42 (dk_at dksX4_takes_0 0 rfl rfl)
theorem dX4_takes_1 : decode cX4_takes 1 = .ok (.iload_n 2, 1) := dk_28 (dk_at dksX4_takes_0 1 rfl rfl)
theorem dX4_takes_2 : decode cX4_takes 2 = .ok (.iload_n 3, 1) := dk_29 (dk_at dksX4_takes_0 2 rfl rfl)
theorem dX4_takes_3 : decode cX4_takes 3 = .ok (.invokevirtual 207, 3) := dk_182 0 207 (dk_at dksX4_takes_0 3 rfl rfl)
theorem dX4_takes_6 : decode cX4_takes 6 = .ok (.ifCond .ne 5, 3) := dk_154 0 5 (dk_at dksX4_takes_0 6 rfl rfl)
theorem dX4_takes_9 : decode cX4_takes 9 = .ok (.iconst 0, 1) := dk_3 (dk_at dksX4_takes_0 9 rfl rfl)
theorem dX4_takes_10 : decode cX4_takes 10 = .ok (.ireturn, 1) := dk_172 (dk_at dksX4_takes_0 10 rfl rfl)
theorem dX4_takes_11 : decode cX4_takes 11 = .ok (.aload_n 0, 1) := dk_42 (dk_at dksX4_takes_0 11 rfl rfl)
theorem dX4_takes_12 : decode cX4_takes 12 = .ok (.getfield 38, 3) := dk_180 0 38 (dk_at dksX4_takes_0 12 rfl rfl)
theorem dX4_takes_15 : decode cX4_takes 15 = .ok (.iload_n 1, 1) := dk_27 (dk_at dksX4_takes_0 15 rfl rfl)
theorem dX4_takes_16 : decode cX4_takes 16 = .ok (.aload_n 0, 1) := dk_42 (dk_at dksX4_takes_0 16 rfl rfl)
theorem dX4_takes_17 : decode cX4_takes 17 = .ok (.getfield 198, 3) := dk_180 0 198 (dk_at dksX4_takes_0 17 rfl rfl)
theorem dX4_takes_20 : decode cX4_takes 20 = .ok (.iastore, 1) := dk_79 (dk_at dksX4_takes_0 20 rfl rfl)
theorem dX4_takes_21 : decode cX4_takes 21 = .ok (.iconst 1, 1) := dk_4 (dk_at dksX4_takes_0 21 rfl rfl)
theorem dX4_takes_22 : decode cX4_takes 22 = .ok (.ireturn, 1) := dk_172 (dk_at dksX4_takes_0 22 rfl rfl)
abbrev cX4_takesNumber : ByteArray := prog_20_method_48_code
def yX4_takesNumber : MethodName := ⟨RX4, "takesNumber", "(II)Z"⟩
def dkwX4_takesNumber_0 : List UInt8 := [42, 27, 28, 182, 0, 201, 154, 0, 5, 3, 172, 42, 182, 0, 204, 4, 172]
abbrev dktX4_takesNumber_0 : List UInt8 := dkwX4_takesNumber_0 ++ []
theorem dksX4_takesNumber_0 : cX4_takesNumber.data.toList.drop 0 = dktX4_takesNumber_0 := by decide +kernel
theorem dX4_takesNumber_0 : decode cX4_takesNumber 0 = .ok (.aload_n 0, 1) := dk_42 (dk_at dksX4_takesNumber_0 0 rfl rfl)
theorem dX4_takesNumber_1 : decode cX4_takesNumber 1 = .ok (.iload_n 1, 1) := dk_27 (dk_at dksX4_takesNumber_0 1 rfl rfl)
theorem dX4_takesNumber_2 : decode cX4_takesNumber 2 = .ok (.iload_n 2, 1) := dk_28 (dk_at dksX4_takesNumber_0 2 rfl rfl)
theorem dX4_takesNumber_3 : decode cX4_takesNumber 3 = .ok (.invokevirtual 201, 3) := dk_182 0 201 (dk_at dksX4_takesNumber_0 3 rfl rfl)
theorem dX4_takesNumber_6 : decode cX4_takesNumber 6 = .ok (.ifCond .ne 5, 3) := dk_154 0 5 (dk_at dksX4_takesNumber_0 6 rfl rfl)
theorem dX4_takesNumber_9 : decode cX4_takesNumber 9 = .ok (.iconst 0, 1) := dk_3 (dk_at dksX4_takesNumber_0 9 rfl rfl)
theorem dX4_takesNumber_10 : decode cX4_takesNumber 10 = .ok (.ireturn, 1) := dk_172 (dk_at dksX4_takesNumber_0 10 rfl rfl)
theorem dX4_takesNumber_11 : decode cX4_takesNumber 11 = .ok (.aload_n 0, 1) := dk_42 (dk_at dksX4_takesNumber_0 11 rfl rfl)
theorem dX4_takesNumber_12 : decode cX4_takesNumber 12 = .ok (.invokevirtual 204, 3) := dk_182 0 204 (dk_at dksX4_takesNumber_0 12 rfl rfl)
theorem dX4_takesNumber_15 : decode cX4_takesNumber 15 = .ok (.iconst 1, 1) := dk_4 (dk_at dksX4_takesNumber_0 15 rfl rfl)
theorem dX4_takesNumber_16 : decode cX4_takesNumber 16 = .ok (.ireturn, 1) := dk_172 (dk_at dksX4_takesNumber_0 16 rfl rfl)
abbrev cX4_seesNumber : ByteArray := prog_20_method_47_code
def yX4_seesNumber : MethodName := ⟨RX4, "seesNumber", "(II)Z"⟩
def dkwX4_seesNumber_1 : List UInt8 := [154, 0, 9, 42, 5, 182, 0, 195, 172, 42, 42, 180, 0, 171, 181, 0, 198, 4, 172]
abbrev dktX4_seesNumber_1 : List UInt8 := dkwX4_seesNumber_1 ++ []
def dkwX4_seesNumber_0 : List UInt8 := [42, 180, 0, 174, 5, 159, 0, 9, 42, 4, 182, 0, 195, 172, 42, 180, 0, 171, 27, 28, 184, 0, 159]
abbrev dktX4_seesNumber_0 : List UInt8 := dkwX4_seesNumber_0 ++ dktX4_seesNumber_1
theorem dksX4_seesNumber_0 : cX4_seesNumber.data.toList.drop 0 = dktX4_seesNumber_0 := by decide +kernel
theorem dksX4_seesNumber_1 : cX4_seesNumber.data.toList.drop 23 = dktX4_seesNumber_1 := dk_seg dksX4_seesNumber_0 23 rfl rfl
theorem dX4_seesNumber_0 : decode cX4_seesNumber 0 = .ok (.aload_n 0, 1) := dk_42 (dk_at dksX4_seesNumber_0 0 rfl rfl)
theorem dX4_seesNumber_1 : decode cX4_seesNumber 1 = .ok (.getfield 174, 3) := dk_180 0 174 (dk_at dksX4_seesNumber_0 1 rfl rfl)
theorem dX4_seesNumber_4 : decode cX4_seesNumber 4 = .ok (.iconst 2, 1) := dk_5 (dk_at dksX4_seesNumber_0 4 rfl rfl)
theorem dX4_seesNumber_5 : decode cX4_seesNumber 5 = .ok (.if_icmp .eq 9, 3) := dk_159 0 9 (dk_at dksX4_seesNumber_0 5 rfl rfl)
theorem dX4_seesNumber_8 : decode cX4_seesNumber 8 = .ok (.aload_n 0, 1) := dk_42 (dk_at dksX4_seesNumber_0 8 rfl rfl)
theorem dX4_seesNumber_9 : decode cX4_seesNumber 9 = .ok (.iconst 1, 1) := dk_4 (dk_at dksX4_seesNumber_0 9 rfl rfl)
theorem dX4_seesNumber_10 : decode cX4_seesNumber 10 = .ok (.invokevirtual 195, 3) := dk_182 0 195 (dk_at dksX4_seesNumber_0 10 rfl rfl)
theorem dX4_seesNumber_13 : decode cX4_seesNumber 13 = .ok (.ireturn, 1) := dk_172 (dk_at dksX4_seesNumber_0 13 rfl rfl)
theorem dX4_seesNumber_14 : decode cX4_seesNumber 14 = .ok (.aload_n 0, 1) := dk_42 (dk_at dksX4_seesNumber_0 14 rfl rfl)
theorem dX4_seesNumber_15 : decode cX4_seesNumber 15 = .ok (.getfield 171, 3) := dk_180 0 171 (dk_at dksX4_seesNumber_0 15 rfl rfl)
theorem dX4_seesNumber_18 : decode cX4_seesNumber 18 = .ok (.iload_n 1, 1) := dk_27 (dk_at dksX4_seesNumber_0 18 rfl rfl)
theorem dX4_seesNumber_19 : decode cX4_seesNumber 19 = .ok (.iload_n 2, 1) := dk_28 (dk_at dksX4_seesNumber_0 19 rfl rfl)
theorem dX4_seesNumber_20 : decode cX4_seesNumber 20 = .ok (.invokestatic 159, 3) := dk_184 0 159 (dk_at dksX4_seesNumber_0 20 rfl rfl)
theorem dX4_seesNumber_23 : decode cX4_seesNumber 23 = .ok (.ifCond .ne 9, 3) := dk_154 0 9 (dk_at dksX4_seesNumber_1 0 rfl rfl)
theorem dX4_seesNumber_26 : decode cX4_seesNumber 26 = .ok (.aload_n 0, 1) := dk_42 (dk_at dksX4_seesNumber_1 3 rfl rfl)
theorem dX4_seesNumber_27 : decode cX4_seesNumber 27 = .ok (.iconst 2, 1) := dk_5 (dk_at dksX4_seesNumber_1 4 rfl rfl)
theorem dX4_seesNumber_28 : decode cX4_seesNumber 28 = .ok (.invokevirtual 195, 3) := dk_182 0 195 (dk_at dksX4_seesNumber_1 5 rfl rfl)
theorem dX4_seesNumber_31 : decode cX4_seesNumber 31 = .ok (.ireturn, 1) := dk_172 (dk_at dksX4_seesNumber_1 8 rfl rfl)
theorem dX4_seesNumber_32 : decode cX4_seesNumber 32 = .ok (.aload_n 0, 1) := dk_42 (dk_at dksX4_seesNumber_1 9 rfl rfl)
theorem dX4_seesNumber_33 : decode cX4_seesNumber 33 = .ok (.aload_n 0, 1) := dk_42 (dk_at dksX4_seesNumber_1 10 rfl rfl)
theorem dX4_seesNumber_34 : decode cX4_seesNumber 34 = .ok (.getfield 171, 3) := dk_180 0 171 (dk_at dksX4_seesNumber_1 11 rfl rfl)
theorem dX4_seesNumber_37 : decode cX4_seesNumber 37 = .ok (.putfield 198, 3) := dk_181 0 198 (dk_at dksX4_seesNumber_1 14 rfl rfl)
theorem dX4_seesNumber_40 : decode cX4_seesNumber 40 = .ok (.iconst 1, 1) := dk_4 (dk_at dksX4_seesNumber_1 17 rfl rfl)
theorem dX4_seesNumber_41 : decode cX4_seesNumber 41 = .ok (.ireturn, 1) := dk_172 (dk_at dksX4_seesNumber_1 18 rfl rfl)
abbrev cX4_isTwice : ByteArray := prog_20_method_19_code
def yX4_isTwice : MethodName := ⟨RX4, "isTwice", "(IIIII)Z"⟩
def dkwX4_isTwice_4 : List UInt8 := [4, 172, 132, 6, 1, 167, 255, 162, 3, 172]
abbrev dktX4_isTwice_4 : List UInt8 := dkwX4_isTwice_4 ++ []
def dkwX4_isTwice_3 : List UInt8 := [160, 0, 7, 4, 167, 0, 4, 3, 54, 7, 21, 7, 153, 0, 14, 42, 21, 6, 182, 0, 84, 153, 0, 5]
abbrev dktX4_isTwice_3 : List UInt8 := dkwX4_isTwice_3 ++ dktX4_isTwice_4
def dkwX4_isTwice_2 : List UInt8 := [160, 0, 31, 42, 21, 6, 6, 182, 0, 67, 21, 4, 160, 0, 19, 42, 21, 6, 7, 182, 0, 67, 21, 5]
abbrev dktX4_isTwice_2 : List UInt8 := dkwX4_isTwice_2 ++ dktX4_isTwice_3
def dkwX4_isTwice_1 : List UInt8 := [160, 0, 53, 42, 21, 6, 4, 182, 0, 67, 28, 160, 0, 42, 42, 21, 6, 5, 182, 0, 67, 29]
abbrev dktX4_isTwice_1 : List UInt8 := dkwX4_isTwice_1 ++ dktX4_isTwice_2
def dkwX4_isTwice_0 : List UInt8 := [3, 54, 6, 21, 6, 42, 180, 0, 7, 3, 46, 162, 0, 89, 42, 21, 6, 3, 182, 0, 67, 27]
abbrev dktX4_isTwice_0 : List UInt8 := dkwX4_isTwice_0 ++ dktX4_isTwice_1
theorem dksX4_isTwice_0 : cX4_isTwice.data.toList.drop 0 = dktX4_isTwice_0 := by decide +kernel
theorem dksX4_isTwice_1 : cX4_isTwice.data.toList.drop 22 = dktX4_isTwice_1 := dk_seg dksX4_isTwice_0 22 rfl rfl
theorem dksX4_isTwice_2 : cX4_isTwice.data.toList.drop 44 = dktX4_isTwice_2 := dk_seg dksX4_isTwice_1 22 rfl rfl
theorem dksX4_isTwice_3 : cX4_isTwice.data.toList.drop 68 = dktX4_isTwice_3 := dk_seg dksX4_isTwice_2 24 rfl rfl
theorem dksX4_isTwice_4 : cX4_isTwice.data.toList.drop 92 = dktX4_isTwice_4 := dk_seg dksX4_isTwice_3 24 rfl rfl
theorem dX4_isTwice_0 : decode cX4_isTwice 0 = .ok (.iconst 0, 1) := dk_3 (dk_at dksX4_isTwice_0 0 rfl rfl)
theorem dX4_isTwice_1 : decode cX4_isTwice 1 = .ok (.istore 6, 2) := dk_54 6 (dk_at dksX4_isTwice_0 1 rfl rfl)
theorem dX4_isTwice_3 : decode cX4_isTwice 3 = .ok (.iload 6, 2) := dk_21 6 (dk_at dksX4_isTwice_0 3 rfl rfl)
theorem dX4_isTwice_5 : decode cX4_isTwice 5 = .ok (.aload_n 0, 1) := dk_42 (dk_at dksX4_isTwice_0 5 rfl rfl)
theorem dX4_isTwice_6 : decode cX4_isTwice 6 = .ok (.getfield 7, 3) := dk_180 0 7 (dk_at dksX4_isTwice_0 6 rfl rfl)
theorem dX4_isTwice_9 : decode cX4_isTwice 9 = .ok (.iconst 0, 1) := dk_3 (dk_at dksX4_isTwice_0 9 rfl rfl)
theorem dX4_isTwice_10 : decode cX4_isTwice 10 = .ok (.iaload, 1) := dk_46 (dk_at dksX4_isTwice_0 10 rfl rfl)
theorem dX4_isTwice_11 : decode cX4_isTwice 11 = .ok (.if_icmp .ge 89, 3) := dk_162 0 89 (dk_at dksX4_isTwice_0 11 rfl rfl)
theorem dX4_isTwice_14 : decode cX4_isTwice 14 = .ok (.aload_n 0, 1) := dk_42 (dk_at dksX4_isTwice_0 14 rfl rfl)
theorem dX4_isTwice_15 : decode cX4_isTwice 15 = .ok (.iload 6, 2) := dk_21 6 (dk_at dksX4_isTwice_0 15 rfl rfl)
theorem dX4_isTwice_17 : decode cX4_isTwice 17 = .ok (.iconst 0, 1) := dk_3 (dk_at dksX4_isTwice_0 17 rfl rfl)
theorem dX4_isTwice_18 : decode cX4_isTwice 18 = .ok (.invokevirtual 67, 3) := dk_182 0 67 (dk_at dksX4_isTwice_0 18 rfl rfl)
theorem dX4_isTwice_21 : decode cX4_isTwice 21 = .ok (.iload_n 1, 1) := dk_27 (dk_at dksX4_isTwice_0 21 rfl rfl)
theorem dX4_isTwice_22 : decode cX4_isTwice 22 = .ok (.if_icmp .ne 53, 3) := dk_160 0 53 (dk_at dksX4_isTwice_1 0 rfl rfl)
theorem dX4_isTwice_25 : decode cX4_isTwice 25 = .ok (.aload_n 0, 1) := dk_42 (dk_at dksX4_isTwice_1 3 rfl rfl)
theorem dX4_isTwice_26 : decode cX4_isTwice 26 = .ok (.iload 6, 2) := dk_21 6 (dk_at dksX4_isTwice_1 4 rfl rfl)
theorem dX4_isTwice_28 : decode cX4_isTwice 28 = .ok (.iconst 1, 1) := dk_4 (dk_at dksX4_isTwice_1 6 rfl rfl)
theorem dX4_isTwice_29 : decode cX4_isTwice 29 = .ok (.invokevirtual 67, 3) := dk_182 0 67 (dk_at dksX4_isTwice_1 7 rfl rfl)
theorem dX4_isTwice_32 : decode cX4_isTwice 32 = .ok (.iload_n 2, 1) := dk_28 (dk_at dksX4_isTwice_1 10 rfl rfl)
theorem dX4_isTwice_33 : decode cX4_isTwice 33 = .ok (.if_icmp .ne 42, 3) := dk_160 0 42 (dk_at dksX4_isTwice_1 11 rfl rfl)
theorem dX4_isTwice_36 : decode cX4_isTwice 36 = .ok (.aload_n 0, 1) := dk_42 (dk_at dksX4_isTwice_1 14 rfl rfl)
theorem dX4_isTwice_37 : decode cX4_isTwice 37 = .ok (.iload 6, 2) := dk_21 6 (dk_at dksX4_isTwice_1 15 rfl rfl)
theorem dX4_isTwice_39 : decode cX4_isTwice 39 = .ok (.iconst 2, 1) := dk_5 (dk_at dksX4_isTwice_1 17 rfl rfl)
theorem dX4_isTwice_40 : decode cX4_isTwice 40 = .ok (.invokevirtual 67, 3) := dk_182 0 67 (dk_at dksX4_isTwice_1 18 rfl rfl)
theorem dX4_isTwice_43 : decode cX4_isTwice 43 = .ok (.iload_n 3, 1) := dk_29 (dk_at dksX4_isTwice_1 21 rfl rfl)
theorem dX4_isTwice_44 : decode cX4_isTwice 44 = .ok (.if_icmp .ne 31, 3) := dk_160 0 31 (dk_at dksX4_isTwice_2 0 rfl rfl)
theorem dX4_isTwice_47 : decode cX4_isTwice 47 = .ok (.aload_n 0, 1) := dk_42 (dk_at dksX4_isTwice_2 3 rfl rfl)
theorem dX4_isTwice_48 : decode cX4_isTwice 48 = .ok (.iload 6, 2) := dk_21 6 (dk_at dksX4_isTwice_2 4 rfl rfl)
theorem dX4_isTwice_50 : decode cX4_isTwice 50 = .ok (.iconst 3, 1) := dk_6 (dk_at dksX4_isTwice_2 6 rfl rfl)
theorem dX4_isTwice_51 : decode cX4_isTwice 51 = .ok (.invokevirtual 67, 3) := dk_182 0 67 (dk_at dksX4_isTwice_2 7 rfl rfl)
theorem dX4_isTwice_54 : decode cX4_isTwice 54 = .ok (.iload 4, 2) := dk_21 4 (dk_at dksX4_isTwice_2 10 rfl rfl)
theorem dX4_isTwice_56 : decode cX4_isTwice 56 = .ok (.if_icmp .ne 19, 3) := dk_160 0 19 (dk_at dksX4_isTwice_2 12 rfl rfl)
theorem dX4_isTwice_59 : decode cX4_isTwice 59 = .ok (.aload_n 0, 1) := dk_42 (dk_at dksX4_isTwice_2 15 rfl rfl)
theorem dX4_isTwice_60 : decode cX4_isTwice 60 = .ok (.iload 6, 2) := dk_21 6 (dk_at dksX4_isTwice_2 16 rfl rfl)
theorem dX4_isTwice_62 : decode cX4_isTwice 62 = .ok (.iconst 4, 1) := dk_7 (dk_at dksX4_isTwice_2 18 rfl rfl)
theorem dX4_isTwice_63 : decode cX4_isTwice 63 = .ok (.invokevirtual 67, 3) := dk_182 0 67 (dk_at dksX4_isTwice_2 19 rfl rfl)
theorem dX4_isTwice_66 : decode cX4_isTwice 66 = .ok (.iload 5, 2) := dk_21 5 (dk_at dksX4_isTwice_2 22 rfl rfl)
theorem dX4_isTwice_68 : decode cX4_isTwice 68 = .ok (.if_icmp .ne 7, 3) := dk_160 0 7 (dk_at dksX4_isTwice_3 0 rfl rfl)
theorem dX4_isTwice_71 : decode cX4_isTwice 71 = .ok (.iconst 1, 1) := dk_4 (dk_at dksX4_isTwice_3 3 rfl rfl)
theorem dX4_isTwice_72 : decode cX4_isTwice 72 = .ok (.goto 4, 3) := dk_167 0 4 (dk_at dksX4_isTwice_3 4 rfl rfl)
theorem dX4_isTwice_75 : decode cX4_isTwice 75 = .ok (.iconst 0, 1) := dk_3 (dk_at dksX4_isTwice_3 7 rfl rfl)
theorem dX4_isTwice_76 : decode cX4_isTwice 76 = .ok (.istore 7, 2) := dk_54 7 (dk_at dksX4_isTwice_3 8 rfl rfl)
theorem dX4_isTwice_78 : decode cX4_isTwice 78 = .ok (.iload 7, 2) := dk_21 7 (dk_at dksX4_isTwice_3 10 rfl rfl)
theorem dX4_isTwice_80 : decode cX4_isTwice 80 = .ok (.ifCond .eq 14, 3) := dk_153 0 14 (dk_at dksX4_isTwice_3 12 rfl rfl)
theorem dX4_isTwice_83 : decode cX4_isTwice 83 = .ok (.aload_n 0, 1) := dk_42 (dk_at dksX4_isTwice_3 15 rfl rfl)
theorem dX4_isTwice_84 : decode cX4_isTwice 84 = .ok (.iload 6, 2) := dk_21 6 (dk_at dksX4_isTwice_3 16 rfl rfl)
theorem dX4_isTwice_86 : decode cX4_isTwice 86 = .ok (.invokevirtual 84, 3) := dk_182 0 84 (dk_at dksX4_isTwice_3 18 rfl rfl)
theorem dX4_isTwice_89 : decode cX4_isTwice 89 = .ok (.ifCond .eq 5, 3) := dk_153 0 5 (dk_at dksX4_isTwice_3 21 rfl rfl)
theorem dX4_isTwice_92 : decode cX4_isTwice 92 = .ok (.iconst 1, 1) := dk_4 (dk_at dksX4_isTwice_4 0 rfl rfl)
theorem dX4_isTwice_93 : decode cX4_isTwice 93 = .ok (.ireturn, 1) := dk_172 (dk_at dksX4_isTwice_4 1 rfl rfl)
theorem dX4_isTwice_94 : decode cX4_isTwice 94 = .ok (.iinc 6 1, 3) := dk_132 6 1 (dk_at dksX4_isTwice_4 2 rfl rfl)
theorem dX4_isTwice_97 : decode cX4_isTwice 97 = .ok (.goto (-94), 3) := dk_167 255 162 (dk_at dksX4_isTwice_4 5 rfl rfl)
theorem dX4_isTwice_100 : decode cX4_isTwice 100 = .ok (.iconst 0, 1) := dk_3 (dk_at dksX4_isTwice_4 8 rfl rfl)
theorem dX4_isTwice_101 : decode cX4_isTwice 101 = .ok (.ireturn, 1) := dk_172 (dk_at dksX4_isTwice_4 9 rfl rfl)
abbrev cX4_of : ByteArray := prog_20_method_9_code
def yX4_of : MethodName := ⟨RX4, "of", "(II)I"⟩
def dkwX4_of_0 : List UInt8 := [42, 180, 0, 7, 16, 25, 16, 10, 27, 104, 96, 28, 96, 46, 172]
abbrev dktX4_of_0 : List UInt8 := dkwX4_of_0 ++ []
theorem dksX4_of_0 : cX4_of.data.toList.drop 0 = dktX4_of_0 := by decide +kernel
theorem dX4_of_0 : decode cX4_of 0 = .ok (.aload_n 0, 1) := dk_42 (dk_at dksX4_of_0 0 rfl rfl)
theorem dX4_of_1 : decode cX4_of 1 = .ok (.getfield 7, 3) := dk_180 0 7 (dk_at dksX4_of_0 1 rfl rfl)
theorem dX4_of_4 : decode cX4_of 4 = .ok (.bipush 25, 2) := dk_16 25 (dk_at dksX4_of_0 4 rfl rfl)
theorem dX4_of_6 : decode cX4_of 6 = .ok (.bipush 10, 2) := dk_16 10 (dk_at dksX4_of_0 6 rfl rfl)
theorem dX4_of_8 : decode cX4_of 8 = .ok (.iload_n 1, 1) := dk_27 (dk_at dksX4_of_0 8 rfl rfl)
theorem dX4_of_9 : decode cX4_of 9 = .ok (.imul, 1) := dk_104 (dk_at dksX4_of_0 9 rfl rfl)
theorem dX4_of_10 : decode cX4_of 10 = .ok (.iadd, 1) := dk_96 (dk_at dksX4_of_0 10 rfl rfl)
theorem dX4_of_11 : decode cX4_of 11 = .ok (.iload_n 2, 1) := dk_28 (dk_at dksX4_of_0 11 rfl rfl)
theorem dX4_of_12 : decode cX4_of 12 = .ok (.iadd, 1) := dk_96 (dk_at dksX4_of_0 12 rfl rfl)
theorem dX4_of_13 : decode cX4_of 13 = .ok (.iaload, 1) := dk_46 (dk_at dksX4_of_0 13 rfl rfl)
theorem dX4_of_14 : decode cX4_of 14 = .ok (.ireturn, 1) := dk_172 (dk_at dksX4_of_0 14 rfl rfl)
abbrev cX4_isLive : ByteArray := prog_20_method_12_code
def yX4_isLive : MethodName := ⟨RX4, "isLive", "(I)Z"⟩
def dkwX4_isLive_0 : List UInt8 := [42, 27, 16, 9, 182, 0, 67, 154, 0, 7, 4, 167, 0, 4, 3, 172]
abbrev dktX4_isLive_0 : List UInt8 := dkwX4_isLive_0 ++ []
theorem dksX4_isLive_0 : cX4_isLive.data.toList.drop 0 = dktX4_isLive_0 := by decide +kernel
theorem dX4_isLive_0 : decode cX4_isLive 0 = .ok (.aload_n 0, 1) := dk_42 (dk_at dksX4_isLive_0 0 rfl rfl)
theorem dX4_isLive_1 : decode cX4_isLive 1 = .ok (.iload_n 1, 1) := dk_27 (dk_at dksX4_isLive_0 1 rfl rfl)
theorem dX4_isLive_2 : decode cX4_isLive 2 = .ok (.bipush 9, 2) := dk_16 9 (dk_at dksX4_isLive_0 2 rfl rfl)
theorem dX4_isLive_4 : decode cX4_isLive 4 = .ok (.invokevirtual 67, 3) := dk_182 0 67 (dk_at dksX4_isLive_0 4 rfl rfl)
theorem dX4_isLive_7 : decode cX4_isLive 7 = .ok (.ifCond .ne 7, 3) := dk_154 0 7 (dk_at dksX4_isLive_0 7 rfl rfl)
theorem dX4_isLive_10 : decode cX4_isLive 10 = .ok (.iconst 1, 1) := dk_4 (dk_at dksX4_isLive_0 10 rfl rfl)
theorem dX4_isLive_11 : decode cX4_isLive 11 = .ok (.goto 4, 3) := dk_167 0 4 (dk_at dksX4_isLive_0 11 rfl rfl)
theorem dX4_isLive_14 : decode cX4_isLive 14 = .ok (.iconst 0, 1) := dk_3 (dk_at dksX4_isLive_0 14 rfl rfl)
theorem dX4_isLive_15 : decode cX4_isLive 15 = .ok (.ireturn, 1) := dk_172 (dk_at dksX4_isLive_0 15 rfl rfl)
abbrev cX4_settingHere : ByteArray := prog_20_method_53_code
def yX4_settingHere : MethodName := ⟨RX4, "settingHere", "()I"⟩
def dkwX4_settingHere_1 : List UInt8 := [18, 221, 182, 0, 215, 153, 0, 8, 16, 7, 167, 0, 4, 2, 172]
abbrev dktX4_settingHere_1 : List UInt8 := dkwX4_settingHere_1 ++ []
def dkwX4_settingHere_0 : List UInt8 := [42, 18, 213, 182, 0, 215, 153, 0, 5, 8, 172, 42, 18, 219, 182, 0, 215, 153, 0, 6, 16, 6, 172, 42]
abbrev dktX4_settingHere_0 : List UInt8 := dkwX4_settingHere_0 ++ dktX4_settingHere_1
theorem dksX4_settingHere_0 : cX4_settingHere.data.toList.drop 0 = dktX4_settingHere_0 := by decide +kernel
theorem dksX4_settingHere_1 : cX4_settingHere.data.toList.drop 24 = dktX4_settingHere_1 := dk_seg dksX4_settingHere_0 24 rfl rfl
theorem dX4_settingHere_0 : decode cX4_settingHere 0 = .ok (.aload_n 0, 1) := dk_42 (dk_at dksX4_settingHere_0 0 rfl rfl)
theorem dX4_settingHere_1 : decode cX4_settingHere 1 = .ok (.ldc 213, 2) := dk_18 213 (dk_at dksX4_settingHere_0 1 rfl rfl)
theorem dX4_settingHere_3 : decode cX4_settingHere 3 = .ok (.invokevirtual 215, 3) := dk_182 0 215 (dk_at dksX4_settingHere_0 3 rfl rfl)
theorem dX4_settingHere_6 : decode cX4_settingHere 6 = .ok (.ifCond .eq 5, 3) := dk_153 0 5 (dk_at dksX4_settingHere_0 6 rfl rfl)
theorem dX4_settingHere_9 : decode cX4_settingHere 9 = .ok (.iconst 5, 1) := dk_8 (dk_at dksX4_settingHere_0 9 rfl rfl)
theorem dX4_settingHere_10 : decode cX4_settingHere 10 = .ok (.ireturn, 1) := dk_172 (dk_at dksX4_settingHere_0 10 rfl rfl)
theorem dX4_settingHere_11 : decode cX4_settingHere 11 = .ok (.aload_n 0, 1) := dk_42 (dk_at dksX4_settingHere_0 11 rfl rfl)
theorem dX4_settingHere_12 : decode cX4_settingHere 12 = .ok (.ldc 219, 2) := dk_18 219 (dk_at dksX4_settingHere_0 12 rfl rfl)
theorem dX4_settingHere_14 : decode cX4_settingHere 14 = .ok (.invokevirtual 215, 3) := dk_182 0 215 (dk_at dksX4_settingHere_0 14 rfl rfl)
theorem dX4_settingHere_17 : decode cX4_settingHere 17 = .ok (.ifCond .eq 6, 3) := dk_153 0 6 (dk_at dksX4_settingHere_0 17 rfl rfl)
theorem dX4_settingHere_20 : decode cX4_settingHere 20 = .ok (.bipush 6, 2) := dk_16 6 (dk_at dksX4_settingHere_0 20 rfl rfl)
theorem dX4_settingHere_22 : decode cX4_settingHere 22 = .ok (.ireturn, 1) := dk_172 (dk_at dksX4_settingHere_0 22 rfl rfl)
theorem dX4_settingHere_23 : decode cX4_settingHere 23 = .ok (.aload_n 0, 1) := dk_42 (dk_at dksX4_settingHere_0 23 rfl rfl)
theorem dX4_settingHere_24 : decode cX4_settingHere 24 = .ok (.ldc 221, 2) := dk_18 221 (dk_at dksX4_settingHere_1 0 rfl rfl)
theorem dX4_settingHere_26 : decode cX4_settingHere 26 = .ok (.invokevirtual 215, 3) := dk_182 0 215 (dk_at dksX4_settingHere_1 2 rfl rfl)
theorem dX4_settingHere_29 : decode cX4_settingHere 29 = .ok (.ifCond .eq 8, 3) := dk_153 0 8 (dk_at dksX4_settingHere_1 5 rfl rfl)
theorem dX4_settingHere_32 : decode cX4_settingHere 32 = .ok (.bipush 7, 2) := dk_16 7 (dk_at dksX4_settingHere_1 8 rfl rfl)
theorem dX4_settingHere_34 : decode cX4_settingHere 34 = .ok (.goto 4, 3) := dk_167 0 4 (dk_at dksX4_settingHere_1 10 rfl rfl)
theorem dX4_settingHere_37 : decode cX4_settingHere 37 = .ok (.iconst (-1), 1) := dk_2 (dk_at dksX4_settingHere_1 13 rfl rfl)
theorem dX4_settingHere_38 : decode cX4_settingHere 38 = .ok (.ireturn, 1) := dk_172 (dk_at dksX4_settingHere_1 14 rfl rfl)
abbrev cX4_readSetting : ByteArray := prog_20_method_55_code
def yX4_readSetting : MethodName := ⟨RX4, "readSetting", "(I)Z"⟩
def dkwX4_readSetting_1 : List UInt8 := [42, 180, 0, 38, 3, 46, 79, 42, 182, 0, 234, 172]
abbrev dktX4_readSetting_1 : List UInt8 := dkwX4_readSetting_1 ++ []
def dkwX4_readSetting_0 : List UInt8 := [42, 182, 0, 204, 42, 3, 3, 27, 184, 0, 231, 182, 0, 210, 154, 0, 5, 3, 172, 42, 180, 0, 7, 27]
abbrev dktX4_readSetting_0 : List UInt8 := dkwX4_readSetting_0 ++ dktX4_readSetting_1
theorem dksX4_readSetting_0 : cX4_readSetting.data.toList.drop 0 = dktX4_readSetting_0 := by decide +kernel
theorem dksX4_readSetting_1 : cX4_readSetting.data.toList.drop 24 = dktX4_readSetting_1 := dk_seg dksX4_readSetting_0 24 rfl rfl
theorem dX4_readSetting_0 : decode cX4_readSetting 0 = .ok (.aload_n 0, 1) := dk_42 (dk_at dksX4_readSetting_0 0 rfl rfl)
theorem dX4_readSetting_1 : decode cX4_readSetting 1 = .ok (.invokevirtual 204, 3) := dk_182 0 204 (dk_at dksX4_readSetting_0 1 rfl rfl)
theorem dX4_readSetting_4 : decode cX4_readSetting 4 = .ok (.aload_n 0, 1) := dk_42 (dk_at dksX4_readSetting_0 4 rfl rfl)
theorem dX4_readSetting_5 : decode cX4_readSetting 5 = .ok (.iconst 0, 1) := dk_3 (dk_at dksX4_readSetting_0 5 rfl rfl)
theorem dX4_readSetting_6 : decode cX4_readSetting 6 = .ok (.iconst 0, 1) := dk_3 (dk_at dksX4_readSetting_0 6 rfl rfl)
theorem dX4_readSetting_7 : decode cX4_readSetting 7 = .ok (.iload_n 1, 1) := dk_27 (dk_at dksX4_readSetting_0 7 rfl rfl)
theorem dX4_readSetting_8 : decode cX4_readSetting 8 = .ok (.invokestatic 231, 3) := dk_184 0 231 (dk_at dksX4_readSetting_0 8 rfl rfl)
theorem dX4_readSetting_11 : decode cX4_readSetting 11 = .ok (.invokevirtual 210, 3) := dk_182 0 210 (dk_at dksX4_readSetting_0 11 rfl rfl)
theorem dX4_readSetting_14 : decode cX4_readSetting 14 = .ok (.ifCond .ne 5, 3) := dk_154 0 5 (dk_at dksX4_readSetting_0 14 rfl rfl)
theorem dX4_readSetting_17 : decode cX4_readSetting 17 = .ok (.iconst 0, 1) := dk_3 (dk_at dksX4_readSetting_0 17 rfl rfl)
theorem dX4_readSetting_18 : decode cX4_readSetting 18 = .ok (.ireturn, 1) := dk_172 (dk_at dksX4_readSetting_0 18 rfl rfl)
theorem dX4_readSetting_19 : decode cX4_readSetting 19 = .ok (.aload_n 0, 1) := dk_42 (dk_at dksX4_readSetting_0 19 rfl rfl)
theorem dX4_readSetting_20 : decode cX4_readSetting 20 = .ok (.getfield 7, 3) := dk_180 0 7 (dk_at dksX4_readSetting_0 20 rfl rfl)
theorem dX4_readSetting_23 : decode cX4_readSetting 23 = .ok (.iload_n 1, 1) := dk_27 (dk_at dksX4_readSetting_0 23 rfl rfl)
theorem dX4_readSetting_24 : decode cX4_readSetting 24 = .ok (.aload_n 0, 1) := dk_42 (dk_at dksX4_readSetting_1 0 rfl rfl)
theorem dX4_readSetting_25 : decode cX4_readSetting 25 = .ok (.getfield 38, 3) := dk_180 0 38 (dk_at dksX4_readSetting_1 1 rfl rfl)
theorem dX4_readSetting_28 : decode cX4_readSetting 28 = .ok (.iconst 0, 1) := dk_3 (dk_at dksX4_readSetting_1 4 rfl rfl)
theorem dX4_readSetting_29 : decode cX4_readSetting 29 = .ok (.iaload, 1) := dk_46 (dk_at dksX4_readSetting_1 5 rfl rfl)
theorem dX4_readSetting_30 : decode cX4_readSetting 30 = .ok (.iastore, 1) := dk_79 (dk_at dksX4_readSetting_1 6 rfl rfl)
theorem dX4_readSetting_31 : decode cX4_readSetting 31 = .ok (.aload_n 0, 1) := dk_42 (dk_at dksX4_readSetting_1 7 rfl rfl)
theorem dX4_readSetting_32 : decode cX4_readSetting 32 = .ok (.invokevirtual 234, 3) := dk_182 0 234 (dk_at dksX4_readSetting_1 8 rfl rfl)
theorem dX4_readSetting_35 : decode cX4_readSetting 35 = .ok (.ireturn, 1) := dk_172 (dk_at dksX4_readSetting_1 11 rfl rfl)
abbrev cX4_mostOf : ByteArray := prog_20_method_52_code
def yX4_mostOf : MethodName := ⟨RX4, "mostOf", "(I)I"⟩
def dkwX4_mostOf_0 : List UInt8 := [26, 8, 160, 0, 7, 5, 167, 0, 5, 16, 50, 172]
abbrev dktX4_mostOf_0 : List UInt8 := dkwX4_mostOf_0 ++ []
theorem dksX4_mostOf_0 : cX4_mostOf.data.toList.drop 0 = dktX4_mostOf_0 := by decide +kernel
theorem dX4_mostOf_0 : decode cX4_mostOf 0 = .ok (.iload_n 0, 1) := dk_26 (dk_at dksX4_mostOf_0 0 rfl rfl)
theorem dX4_mostOf_1 : decode cX4_mostOf 1 = .ok (.iconst 5, 1) := dk_8 (dk_at dksX4_mostOf_0 1 rfl rfl)
theorem dX4_mostOf_2 : decode cX4_mostOf 2 = .ok (.if_icmp .ne 7, 3) := dk_160 0 7 (dk_at dksX4_mostOf_0 2 rfl rfl)
theorem dX4_mostOf_5 : decode cX4_mostOf 5 = .ok (.iconst 2, 1) := dk_5 (dk_at dksX4_mostOf_0 5 rfl rfl)
theorem dX4_mostOf_6 : decode cX4_mostOf 6 = .ok (.goto 5, 3) := dk_167 0 5 (dk_at dksX4_mostOf_0 6 rfl rfl)
theorem dX4_mostOf_9 : decode cX4_mostOf 9 = .ok (.bipush 50, 2) := dk_16 50 (dk_at dksX4_mostOf_0 9 rfl rfl)
theorem dX4_mostOf_11 : decode cX4_mostOf 11 = .ok (.ireturn, 1) := dk_172 (dk_at dksX4_mostOf_0 11 rfl rfl)
abbrev cX4_takesSemicolon : ByteArray := prog_20_method_49_code
def yX4_takesSemicolon : MethodName := ⟨RX4, "takesSemicolon", "()Z"⟩
def dkwX4_takesSemicolon_0 : List UInt8 := [42, 180, 0, 174, 6, 159, 0, 9, 42, 4, 182, 0, 195, 172, 42, 182, 0, 204, 4, 172]
abbrev dktX4_takesSemicolon_0 : List UInt8 := dkwX4_takesSemicolon_0 ++ []
theorem dksX4_takesSemicolon_0 : cX4_takesSemicolon.data.toList.drop 0 = dktX4_takesSemicolon_0 := by decide +kernel
theorem dX4_takesSemicolon_0 : decode cX4_takesSemicolon 0 = .ok (.aload_n 0, 1) := dk_42 (dk_at dksX4_takesSemicolon_0 0 rfl rfl)
theorem dX4_takesSemicolon_1 : decode cX4_takesSemicolon 1 = .ok (.getfield 174, 3) := dk_180 0 174 (dk_at dksX4_takesSemicolon_0 1 rfl rfl)
theorem dX4_takesSemicolon_4 : decode cX4_takesSemicolon 4 = .ok (.iconst 3, 1) := dk_6 (dk_at dksX4_takesSemicolon_0 4 rfl rfl)
theorem dX4_takesSemicolon_5 : decode cX4_takesSemicolon 5 = .ok (.if_icmp .eq 9, 3) := dk_159 0 9 (dk_at dksX4_takesSemicolon_0 5 rfl rfl)
theorem dX4_takesSemicolon_8 : decode cX4_takesSemicolon 8 = .ok (.aload_n 0, 1) := dk_42 (dk_at dksX4_takesSemicolon_0 8 rfl rfl)
theorem dX4_takesSemicolon_9 : decode cX4_takesSemicolon 9 = .ok (.iconst 1, 1) := dk_4 (dk_at dksX4_takesSemicolon_0 9 rfl rfl)
theorem dX4_takesSemicolon_10 : decode cX4_takesSemicolon 10 = .ok (.invokevirtual 195, 3) := dk_182 0 195 (dk_at dksX4_takesSemicolon_0 10 rfl rfl)
theorem dX4_takesSemicolon_13 : decode cX4_takesSemicolon 13 = .ok (.ireturn, 1) := dk_172 (dk_at dksX4_takesSemicolon_0 13 rfl rfl)
theorem dX4_takesSemicolon_14 : decode cX4_takesSemicolon 14 = .ok (.aload_n 0, 1) := dk_42 (dk_at dksX4_takesSemicolon_0 14 rfl rfl)
theorem dX4_takesSemicolon_15 : decode cX4_takesSemicolon 15 = .ok (.invokevirtual 204, 3) := dk_182 0 204 (dk_at dksX4_takesSemicolon_0 15 rfl rfl)
theorem dX4_takesSemicolon_18 : decode cX4_takesSemicolon 18 = .ok (.iconst 1, 1) := dk_4 (dk_at dksX4_takesSemicolon_0 18 rfl rfl)
theorem dX4_takesSemicolon_19 : decode cX4_takesSemicolon 19 = .ok (.ireturn, 1) := dk_172 (dk_at dksX4_takesSemicolon_0 19 rfl rfl)
abbrev cX4_endsText : ByteArray := prog_20_method_59_code
def yX4_endsText : MethodName := ⟨RX4, "endsText", "()V"⟩
def dkwX4_endsText_0 : List UInt8 := [42, 3, 181, 0, 153, 42, 42, 180, 0, 180, 181, 0, 254, 42, 42, 180, 0, 183, 181, 0, 34, 177]
abbrev dktX4_endsText_0 : List UInt8 := dkwX4_endsText_0 ++ []
theorem dksX4_endsText_0 : cX4_endsText.data.toList.drop 0 = dktX4_endsText_0 := by decide +kernel
theorem dX4_endsText_0 : decode cX4_endsText 0 = .ok (.aload_n 0, 1) := dk_42 (dk_at dksX4_endsText_0 0 rfl rfl)
theorem dX4_endsText_1 : decode cX4_endsText 1 = .ok (.iconst 0, 1) := dk_3 (dk_at dksX4_endsText_0 1 rfl rfl)
theorem dX4_endsText_2 : decode cX4_endsText 2 = .ok (.putfield 153, 3) := dk_181 0 153 (dk_at dksX4_endsText_0 2 rfl rfl)
theorem dX4_endsText_5 : decode cX4_endsText 5 = .ok (.aload_n 0, 1) := dk_42 (dk_at dksX4_endsText_0 5 rfl rfl)
theorem dX4_endsText_6 : decode cX4_endsText 6 = .ok (.aload_n 0, 1) := dk_42 (dk_at dksX4_endsText_0 6 rfl rfl)
theorem dX4_endsText_7 : decode cX4_endsText 7 = .ok (.getfield 180, 3) := dk_180 0 180 (dk_at dksX4_endsText_0 7 rfl rfl)
theorem dX4_endsText_10 : decode cX4_endsText 10 = .ok (.putfield 254, 3) := dk_181 0 254 (dk_at dksX4_endsText_0 10 rfl rfl)
theorem dX4_endsText_13 : decode cX4_endsText 13 = .ok (.aload_n 0, 1) := dk_42 (dk_at dksX4_endsText_0 13 rfl rfl)
theorem dX4_endsText_14 : decode cX4_endsText 14 = .ok (.aload_n 0, 1) := dk_42 (dk_at dksX4_endsText_0 14 rfl rfl)
theorem dX4_endsText_15 : decode cX4_endsText 15 = .ok (.getfield 183, 3) := dk_180 0 183 (dk_at dksX4_endsText_0 15 rfl rfl)
theorem dX4_endsText_18 : decode cX4_endsText 18 = .ok (.putfield 34, 3) := dk_181 0 34 (dk_at dksX4_endsText_0 18 rfl rfl)
theorem dX4_endsText_21 : decode cX4_endsText 21 = .ok (.return_, 1) := dk_177 (dk_at dksX4_endsText_0 21 rfl rfl)
abbrev cX4_playScript : ByteArray := prog_20_method_66_code
def yX4_playScript : MethodName := ⟨RX4, "playScript", "()I"⟩
def dkwX4_playScript_2 : List UInt8 := [42, 180, 0, 251, 162, 0, 17, 42, 28, 182, 1, 50, 153, 0, 9, 132, 2, 1, 167, 255, 237, 28, 172]
abbrev dktX4_playScript_2 : List UInt8 := dkwX4_playScript_2 ++ []
def dkwX4_playScript_1 : List UInt8 := [182, 1, 44, 60, 167, 255, 240, 42, 182, 1, 7, 27, 154, 0, 5, 2, 172, 42, 182, 1, 47, 3, 61, 28]
abbrev dktX4_playScript_1 : List UInt8 := dkwX4_playScript_1 ++ dktX4_playScript_2
def dkwX4_playScript_0 : List UInt8 := [42, 3, 181, 0, 60, 42, 182, 1, 1, 4, 60, 27, 153, 0, 18, 42, 180, 0, 174, 153, 0, 11, 42]
abbrev dktX4_playScript_0 : List UInt8 := dkwX4_playScript_0 ++ dktX4_playScript_1
theorem dksX4_playScript_0 : cX4_playScript.data.toList.drop 0 = dktX4_playScript_0 := by decide +kernel
theorem dksX4_playScript_1 : cX4_playScript.data.toList.drop 23 = dktX4_playScript_1 := dk_seg dksX4_playScript_0 23 rfl rfl
theorem dksX4_playScript_2 : cX4_playScript.data.toList.drop 47 = dktX4_playScript_2 := dk_seg dksX4_playScript_1 24 rfl rfl
theorem dX4_playScript_0 : decode cX4_playScript 0 = .ok (.aload_n 0, 1) := dk_42 (dk_at dksX4_playScript_0 0 rfl rfl)
theorem dX4_playScript_1 : decode cX4_playScript 1 = .ok (.iconst 0, 1) := dk_3 (dk_at dksX4_playScript_0 1 rfl rfl)
theorem dX4_playScript_2 : decode cX4_playScript 2 = .ok (.putfield 60, 3) := dk_181 0 60 (dk_at dksX4_playScript_0 2 rfl rfl)
theorem dX4_playScript_5 : decode cX4_playScript 5 = .ok (.aload_n 0, 1) := dk_42 (dk_at dksX4_playScript_0 5 rfl rfl)
theorem dX4_playScript_6 : decode cX4_playScript 6 = .ok (.invokevirtual 257, 3) := dk_182 1 1 (dk_at dksX4_playScript_0 6 rfl rfl)
theorem dX4_playScript_9 : decode cX4_playScript 9 = .ok (.iconst 1, 1) := dk_4 (dk_at dksX4_playScript_0 9 rfl rfl)
theorem dX4_playScript_10 : decode cX4_playScript 10 = .ok (.istore_n 1, 1) := dk_60 (dk_at dksX4_playScript_0 10 rfl rfl)
theorem dX4_playScript_11 : decode cX4_playScript 11 = .ok (.iload_n 1, 1) := dk_27 (dk_at dksX4_playScript_0 11 rfl rfl)
theorem dX4_playScript_12 : decode cX4_playScript 12 = .ok (.ifCond .eq 18, 3) := dk_153 0 18 (dk_at dksX4_playScript_0 12 rfl rfl)
theorem dX4_playScript_15 : decode cX4_playScript 15 = .ok (.aload_n 0, 1) := dk_42 (dk_at dksX4_playScript_0 15 rfl rfl)
theorem dX4_playScript_16 : decode cX4_playScript 16 = .ok (.getfield 174, 3) := dk_180 0 174 (dk_at dksX4_playScript_0 16 rfl rfl)
theorem dX4_playScript_19 : decode cX4_playScript 19 = .ok (.ifCond .eq 11, 3) := dk_153 0 11 (dk_at dksX4_playScript_0 19 rfl rfl)
theorem dX4_playScript_22 : decode cX4_playScript 22 = .ok (.aload_n 0, 1) := dk_42 (dk_at dksX4_playScript_0 22 rfl rfl)
theorem dX4_playScript_23 : decode cX4_playScript 23 = .ok (.invokevirtual 300, 3) := dk_182 1 44 (dk_at dksX4_playScript_1 0 rfl rfl)
theorem dX4_playScript_26 : decode cX4_playScript 26 = .ok (.istore_n 1, 1) := dk_60 (dk_at dksX4_playScript_1 3 rfl rfl)
theorem dX4_playScript_27 : decode cX4_playScript 27 = .ok (.goto (-16), 3) := dk_167 255 240 (dk_at dksX4_playScript_1 4 rfl rfl)
theorem dX4_playScript_30 : decode cX4_playScript 30 = .ok (.aload_n 0, 1) := dk_42 (dk_at dksX4_playScript_1 7 rfl rfl)
theorem dX4_playScript_31 : decode cX4_playScript 31 = .ok (.invokevirtual 263, 3) := dk_182 1 7 (dk_at dksX4_playScript_1 8 rfl rfl)
theorem dX4_playScript_34 : decode cX4_playScript 34 = .ok (.iload_n 1, 1) := dk_27 (dk_at dksX4_playScript_1 11 rfl rfl)
theorem dX4_playScript_35 : decode cX4_playScript 35 = .ok (.ifCond .ne 5, 3) := dk_154 0 5 (dk_at dksX4_playScript_1 12 rfl rfl)
theorem dX4_playScript_38 : decode cX4_playScript 38 = .ok (.iconst (-1), 1) := dk_2 (dk_at dksX4_playScript_1 15 rfl rfl)
theorem dX4_playScript_39 : decode cX4_playScript 39 = .ok (.ireturn, 1) := dk_172 (dk_at dksX4_playScript_1 16 rfl rfl)
theorem dX4_playScript_40 : decode cX4_playScript 40 = .ok (.aload_n 0, 1) := dk_42 (dk_at dksX4_playScript_1 17 rfl rfl)
theorem dX4_playScript_41 : decode cX4_playScript 41 = .ok (.invokevirtual 303, 3) := dk_182 1 47 (dk_at dksX4_playScript_1 18 rfl rfl)
theorem dX4_playScript_44 : decode cX4_playScript 44 = .ok (.iconst 0, 1) := dk_3 (dk_at dksX4_playScript_1 21 rfl rfl)
theorem dX4_playScript_45 : decode cX4_playScript 45 = .ok (.istore_n 2, 1) := dk_61 (dk_at dksX4_playScript_1 22 rfl rfl)
theorem dX4_playScript_46 : decode cX4_playScript 46 = .ok (.iload_n 2, 1) := dk_28 (dk_at dksX4_playScript_1 23 rfl rfl)
theorem dX4_playScript_47 : decode cX4_playScript 47 = .ok (.aload_n 0, 1) := dk_42 (dk_at dksX4_playScript_2 0 rfl rfl)
theorem dX4_playScript_48 : decode cX4_playScript 48 = .ok (.getfield 251, 3) := dk_180 0 251 (dk_at dksX4_playScript_2 1 rfl rfl)
theorem dX4_playScript_51 : decode cX4_playScript 51 = .ok (.if_icmp .ge 17, 3) := dk_162 0 17 (dk_at dksX4_playScript_2 4 rfl rfl)
theorem dX4_playScript_54 : decode cX4_playScript 54 = .ok (.aload_n 0, 1) := dk_42 (dk_at dksX4_playScript_2 7 rfl rfl)
theorem dX4_playScript_55 : decode cX4_playScript 55 = .ok (.iload_n 2, 1) := dk_28 (dk_at dksX4_playScript_2 8 rfl rfl)
theorem dX4_playScript_56 : decode cX4_playScript 56 = .ok (.invokevirtual 306, 3) := dk_182 1 50 (dk_at dksX4_playScript_2 9 rfl rfl)
theorem dX4_playScript_59 : decode cX4_playScript 59 = .ok (.ifCond .eq 9, 3) := dk_153 0 9 (dk_at dksX4_playScript_2 12 rfl rfl)
theorem dX4_playScript_62 : decode cX4_playScript 62 = .ok (.iinc 2 1, 3) := dk_132 2 1 (dk_at dksX4_playScript_2 15 rfl rfl)
theorem dX4_playScript_65 : decode cX4_playScript 65 = .ok (.goto (-19), 3) := dk_167 255 237 (dk_at dksX4_playScript_2 18 rfl rfl)
theorem dX4_playScript_68 : decode cX4_playScript 68 = .ok (.iload_n 2, 1) := dk_28 (dk_at dksX4_playScript_2 21 rfl rfl)
theorem dX4_playScript_69 : decode cX4_playScript 69 = .ok (.ireturn, 1) := dk_172 (dk_at dksX4_playScript_2 22 rfl rfl)
abbrev cX4_readScriptStatement : ByteArray := prog_20_method_63_code
def yX4_readScriptStatement : MethodName := ⟨RX4, "readScriptStatement", "()Z"⟩
def dkwX4_readScriptStatement_4 : List UInt8 := [182, 0, 234, 172]
abbrev dktX4_readScriptStatement_4 : List UInt8 := dkwX4_readScriptStatement_4 ++ []
def dkwX4_readScriptStatement_3 : List UInt8 := [180, 0, 38, 28, 46, 79, 132, 2, 1, 167, 255, 227, 42, 89, 180, 0, 251, 4, 96, 181, 0, 251, 42]
abbrev dktX4_readScriptStatement_3 : List UInt8 := dkwX4_readScriptStatement_3 ++ dktX4_readScriptStatement_4
def dkwX4_readScriptStatement_2 : List UInt8 := [27, 79, 3, 61, 28, 16, 6, 162, 0, 29, 42, 180, 0, 44, 16, 6, 42, 180, 0, 251, 104, 28, 96, 42]
abbrev dktX4_readScriptStatement_2 : List UInt8 := dkwX4_readScriptStatement_2 ++ dktX4_readScriptStatement_3
def dkwX4_readScriptStatement_1 : List UInt8 := [42, 6, 182, 0, 195, 172, 42, 27, 182, 1, 23, 154, 0, 5, 3, 172, 42, 180, 0, 41, 42, 180, 0, 251]
abbrev dktX4_readScriptStatement_1 : List UInt8 := dkwX4_readScriptStatement_1 ++ dktX4_readScriptStatement_2
def dkwX4_readScriptStatement_0 : List UInt8 := [42, 182, 1, 20, 60, 27, 154, 0, 9, 42, 4, 182, 0, 195, 172, 42, 180, 0, 251, 16, 30, 160, 0, 9]
abbrev dktX4_readScriptStatement_0 : List UInt8 := dkwX4_readScriptStatement_0 ++ dktX4_readScriptStatement_1
theorem dksX4_readScriptStatement_0 : cX4_readScriptStatement.data.toList.drop 0 = dktX4_readScriptStatement_0 := by decide +kernel
theorem dksX4_readScriptStatement_1 : cX4_readScriptStatement.data.toList.drop 24 = dktX4_readScriptStatement_1 := dk_seg dksX4_readScriptStatement_0 24 rfl rfl
theorem dksX4_readScriptStatement_2 : cX4_readScriptStatement.data.toList.drop 48 = dktX4_readScriptStatement_2 := dk_seg dksX4_readScriptStatement_1 24 rfl rfl
theorem dksX4_readScriptStatement_3 : cX4_readScriptStatement.data.toList.drop 72 = dktX4_readScriptStatement_3 := dk_seg dksX4_readScriptStatement_2 24 rfl rfl
theorem dksX4_readScriptStatement_4 : cX4_readScriptStatement.data.toList.drop 95 = dktX4_readScriptStatement_4 := dk_seg dksX4_readScriptStatement_3 23 rfl rfl
theorem dX4_readScriptStatement_0 : decode cX4_readScriptStatement 0 = .ok (.aload_n 0, 1) := dk_42 (dk_at dksX4_readScriptStatement_0 0 rfl rfl)
theorem dX4_readScriptStatement_1 : decode cX4_readScriptStatement 1 = .ok (.invokevirtual 276, 3) := dk_182 1 20 (dk_at dksX4_readScriptStatement_0 1 rfl rfl)
theorem dX4_readScriptStatement_4 : decode cX4_readScriptStatement 4 = .ok (.istore_n 1, 1) := dk_60 (dk_at dksX4_readScriptStatement_0 4 rfl rfl)
theorem dX4_readScriptStatement_5 : decode cX4_readScriptStatement 5 = .ok (.iload_n 1, 1) := dk_27 (dk_at dksX4_readScriptStatement_0 5 rfl rfl)
theorem dX4_readScriptStatement_6 : decode cX4_readScriptStatement 6 = .ok (.ifCond .ne 9, 3) := dk_154 0 9 (dk_at dksX4_readScriptStatement_0 6 rfl rfl)
theorem dX4_readScriptStatement_9 : decode cX4_readScriptStatement 9 = .ok (.aload_n 0, 1) := dk_42 (dk_at dksX4_readScriptStatement_0 9 rfl rfl)
theorem dX4_readScriptStatement_10 : decode cX4_readScriptStatement 10 = .ok (.iconst 1, 1) := dk_4 (dk_at dksX4_readScriptStatement_0 10 rfl rfl)
theorem dX4_readScriptStatement_11 : decode cX4_readScriptStatement 11 = .ok (.invokevirtual 195, 3) := dk_182 0 195 (dk_at dksX4_readScriptStatement_0 11 rfl rfl)
theorem dX4_readScriptStatement_14 : decode cX4_readScriptStatement 14 = .ok (.ireturn, 1) := dk_172 (dk_at dksX4_readScriptStatement_0 14 rfl rfl)
theorem dX4_readScriptStatement_15 : decode cX4_readScriptStatement 15 = .ok (.aload_n 0, 1) := dk_42 (dk_at dksX4_readScriptStatement_0 15 rfl rfl)
theorem dX4_readScriptStatement_16 : decode cX4_readScriptStatement 16 = .ok (.getfield 251, 3) := dk_180 0 251 (dk_at dksX4_readScriptStatement_0 16 rfl rfl)
theorem dX4_readScriptStatement_19 : decode cX4_readScriptStatement 19 = .ok (.bipush 30, 2) := dk_16 30 (dk_at dksX4_readScriptStatement_0 19 rfl rfl)
theorem dX4_readScriptStatement_21 : decode cX4_readScriptStatement 21 = .ok (.if_icmp .ne 9, 3) := dk_160 0 9 (dk_at dksX4_readScriptStatement_0 21 rfl rfl)
theorem dX4_readScriptStatement_24 : decode cX4_readScriptStatement 24 = .ok (.aload_n 0, 1) := dk_42 (dk_at dksX4_readScriptStatement_1 0 rfl rfl)
theorem dX4_readScriptStatement_25 : decode cX4_readScriptStatement 25 = .ok (.iconst 3, 1) := dk_6 (dk_at dksX4_readScriptStatement_1 1 rfl rfl)
theorem dX4_readScriptStatement_26 : decode cX4_readScriptStatement 26 = .ok (.invokevirtual 195, 3) := dk_182 0 195 (dk_at dksX4_readScriptStatement_1 2 rfl rfl)
theorem dX4_readScriptStatement_29 : decode cX4_readScriptStatement 29 = .ok (.ireturn, 1) := dk_172 (dk_at dksX4_readScriptStatement_1 5 rfl rfl)
theorem dX4_readScriptStatement_30 : decode cX4_readScriptStatement 30 = .ok (.aload_n 0, 1) := dk_42 (dk_at dksX4_readScriptStatement_1 6 rfl rfl)
theorem dX4_readScriptStatement_31 : decode cX4_readScriptStatement 31 = .ok (.iload_n 1, 1) := dk_27 (dk_at dksX4_readScriptStatement_1 7 rfl rfl)
theorem dX4_readScriptStatement_32 : decode cX4_readScriptStatement 32 = .ok (.invokevirtual 279, 3) := dk_182 1 23 (dk_at dksX4_readScriptStatement_1 8 rfl rfl)
theorem dX4_readScriptStatement_35 : decode cX4_readScriptStatement 35 = .ok (.ifCond .ne 5, 3) := dk_154 0 5 (dk_at dksX4_readScriptStatement_1 11 rfl rfl)
theorem dX4_readScriptStatement_38 : decode cX4_readScriptStatement 38 = .ok (.iconst 0, 1) := dk_3 (dk_at dksX4_readScriptStatement_1 14 rfl rfl)
theorem dX4_readScriptStatement_39 : decode cX4_readScriptStatement 39 = .ok (.ireturn, 1) := dk_172 (dk_at dksX4_readScriptStatement_1 15 rfl rfl)
theorem dX4_readScriptStatement_40 : decode cX4_readScriptStatement 40 = .ok (.aload_n 0, 1) := dk_42 (dk_at dksX4_readScriptStatement_1 16 rfl rfl)
theorem dX4_readScriptStatement_41 : decode cX4_readScriptStatement 41 = .ok (.getfield 41, 3) := dk_180 0 41 (dk_at dksX4_readScriptStatement_1 17 rfl rfl)
theorem dX4_readScriptStatement_44 : decode cX4_readScriptStatement 44 = .ok (.aload_n 0, 1) := dk_42 (dk_at dksX4_readScriptStatement_1 20 rfl rfl)
theorem dX4_readScriptStatement_45 : decode cX4_readScriptStatement 45 = .ok (.getfield 251, 3) := dk_180 0 251 (dk_at dksX4_readScriptStatement_1 21 rfl rfl)
theorem dX4_readScriptStatement_48 : decode cX4_readScriptStatement 48 = .ok (.iload_n 1, 1) := dk_27 (dk_at dksX4_readScriptStatement_2 0 rfl rfl)
theorem dX4_readScriptStatement_49 : decode cX4_readScriptStatement 49 = .ok (.iastore, 1) := dk_79 (dk_at dksX4_readScriptStatement_2 1 rfl rfl)
theorem dX4_readScriptStatement_50 : decode cX4_readScriptStatement 50 = .ok (.iconst 0, 1) := dk_3 (dk_at dksX4_readScriptStatement_2 2 rfl rfl)
theorem dX4_readScriptStatement_51 : decode cX4_readScriptStatement 51 = .ok (.istore_n 2, 1) := dk_61 (dk_at dksX4_readScriptStatement_2 3 rfl rfl)
theorem dX4_readScriptStatement_52 : decode cX4_readScriptStatement 52 = .ok (.iload_n 2, 1) := dk_28 (dk_at dksX4_readScriptStatement_2 4 rfl rfl)
theorem dX4_readScriptStatement_53 : decode cX4_readScriptStatement 53 = .ok (.bipush 6, 2) := dk_16 6 (dk_at dksX4_readScriptStatement_2 5 rfl rfl)
theorem dX4_readScriptStatement_55 : decode cX4_readScriptStatement 55 = .ok (.if_icmp .ge 29, 3) := dk_162 0 29 (dk_at dksX4_readScriptStatement_2 7 rfl rfl)
theorem dX4_readScriptStatement_58 : decode cX4_readScriptStatement 58 = .ok (.aload_n 0, 1) := dk_42 (dk_at dksX4_readScriptStatement_2 10 rfl rfl)
theorem dX4_readScriptStatement_59 : decode cX4_readScriptStatement 59 = .ok (.getfield 44, 3) := dk_180 0 44 (dk_at dksX4_readScriptStatement_2 11 rfl rfl)
theorem dX4_readScriptStatement_62 : decode cX4_readScriptStatement 62 = .ok (.bipush 6, 2) := dk_16 6 (dk_at dksX4_readScriptStatement_2 14 rfl rfl)
theorem dX4_readScriptStatement_64 : decode cX4_readScriptStatement 64 = .ok (.aload_n 0, 1) := dk_42 (dk_at dksX4_readScriptStatement_2 16 rfl rfl)
theorem dX4_readScriptStatement_65 : decode cX4_readScriptStatement 65 = .ok (.getfield 251, 3) := dk_180 0 251 (dk_at dksX4_readScriptStatement_2 17 rfl rfl)
theorem dX4_readScriptStatement_68 : decode cX4_readScriptStatement 68 = .ok (.imul, 1) := dk_104 (dk_at dksX4_readScriptStatement_2 20 rfl rfl)
theorem dX4_readScriptStatement_69 : decode cX4_readScriptStatement 69 = .ok (.iload_n 2, 1) := dk_28 (dk_at dksX4_readScriptStatement_2 21 rfl rfl)
theorem dX4_readScriptStatement_70 : decode cX4_readScriptStatement 70 = .ok (.iadd, 1) := dk_96 (dk_at dksX4_readScriptStatement_2 22 rfl rfl)
theorem dX4_readScriptStatement_71 : decode cX4_readScriptStatement 71 = .ok (.aload_n 0, 1) := dk_42 (dk_at dksX4_readScriptStatement_2 23 rfl rfl)
theorem dX4_readScriptStatement_72 : decode cX4_readScriptStatement 72 = .ok (.getfield 38, 3) := dk_180 0 38 (dk_at dksX4_readScriptStatement_3 0 rfl rfl)
theorem dX4_readScriptStatement_75 : decode cX4_readScriptStatement 75 = .ok (.iload_n 2, 1) := dk_28 (dk_at dksX4_readScriptStatement_3 3 rfl rfl)
theorem dX4_readScriptStatement_76 : decode cX4_readScriptStatement 76 = .ok (.iaload, 1) := dk_46 (dk_at dksX4_readScriptStatement_3 4 rfl rfl)
theorem dX4_readScriptStatement_77 : decode cX4_readScriptStatement 77 = .ok (.iastore, 1) := dk_79 (dk_at dksX4_readScriptStatement_3 5 rfl rfl)
theorem dX4_readScriptStatement_78 : decode cX4_readScriptStatement 78 = .ok (.iinc 2 1, 3) := dk_132 2 1 (dk_at dksX4_readScriptStatement_3 6 rfl rfl)
theorem dX4_readScriptStatement_81 : decode cX4_readScriptStatement 81 = .ok (.goto (-29), 3) := dk_167 255 227 (dk_at dksX4_readScriptStatement_3 9 rfl rfl)
theorem dX4_readScriptStatement_84 : decode cX4_readScriptStatement 84 = .ok (.aload_n 0, 1) := dk_42 (dk_at dksX4_readScriptStatement_3 12 rfl rfl)
theorem dX4_readScriptStatement_85 : decode cX4_readScriptStatement 85 = .ok (.dup, 1) := dk_89 (dk_at dksX4_readScriptStatement_3 13 rfl rfl)
theorem dX4_readScriptStatement_86 : decode cX4_readScriptStatement 86 = .ok (.getfield 251, 3) := dk_180 0 251 (dk_at dksX4_readScriptStatement_3 14 rfl rfl)
theorem dX4_readScriptStatement_89 : decode cX4_readScriptStatement 89 = .ok (.iconst 1, 1) := dk_4 (dk_at dksX4_readScriptStatement_3 17 rfl rfl)
theorem dX4_readScriptStatement_90 : decode cX4_readScriptStatement 90 = .ok (.iadd, 1) := dk_96 (dk_at dksX4_readScriptStatement_3 18 rfl rfl)
theorem dX4_readScriptStatement_91 : decode cX4_readScriptStatement 91 = .ok (.putfield 251, 3) := dk_181 0 251 (dk_at dksX4_readScriptStatement_3 19 rfl rfl)
theorem dX4_readScriptStatement_94 : decode cX4_readScriptStatement 94 = .ok (.aload_n 0, 1) := dk_42 (dk_at dksX4_readScriptStatement_3 22 rfl rfl)
theorem dX4_readScriptStatement_95 : decode cX4_readScriptStatement 95 = .ok (.invokevirtual 234, 3) := dk_182 0 234 (dk_at dksX4_readScriptStatement_4 0 rfl rfl)
theorem dX4_readScriptStatement_98 : decode cX4_readScriptStatement 98 = .ok (.ireturn, 1) := dk_172 (dk_at dksX4_readScriptStatement_4 3 rfl rfl)
abbrev cX4_scriptHere : ByteArray := prog_20_method_61_code
def yX4_scriptHere : MethodName := ⟨RX4, "scriptHere", "()I"⟩
def dkwX4_scriptHere_2 : List UInt8 := [182, 0, 242, 2, 160, 0, 7, 3, 167, 0, 4, 8, 172]
abbrev dktX4_scriptHere_2 : List UInt8 := dkwX4_scriptHere_2 ++ []
def dkwX4_scriptHere_1 : List UInt8 := [19, 1, 16, 182, 0, 215, 153, 0, 5, 6, 172, 42, 19, 1, 18, 182, 0, 215, 153, 0, 5, 7, 172, 42]
abbrev dktX4_scriptHere_1 : List UInt8 := dkwX4_scriptHere_1 ++ dktX4_scriptHere_2
def dkwX4_scriptHere_0 : List UInt8 := [42, 19, 1, 14, 182, 0, 215, 153, 0, 5, 4, 172, 42, 18, 237, 182, 0, 215, 153, 0, 5, 5, 172, 42]
abbrev dktX4_scriptHere_0 : List UInt8 := dkwX4_scriptHere_0 ++ dktX4_scriptHere_1
theorem dksX4_scriptHere_0 : cX4_scriptHere.data.toList.drop 0 = dktX4_scriptHere_0 := by decide +kernel
theorem dksX4_scriptHere_1 : cX4_scriptHere.data.toList.drop 24 = dktX4_scriptHere_1 := dk_seg dksX4_scriptHere_0 24 rfl rfl
theorem dksX4_scriptHere_2 : cX4_scriptHere.data.toList.drop 48 = dktX4_scriptHere_2 := dk_seg dksX4_scriptHere_1 24 rfl rfl
theorem dX4_scriptHere_0 : decode cX4_scriptHere 0 = .ok (.aload_n 0, 1) := dk_42 (dk_at dksX4_scriptHere_0 0 rfl rfl)
theorem dX4_scriptHere_1 : decode cX4_scriptHere 1 = .ok (.ldc_w 270, 3) := dk_19 1 14 (dk_at dksX4_scriptHere_0 1 rfl rfl)
theorem dX4_scriptHere_4 : decode cX4_scriptHere 4 = .ok (.invokevirtual 215, 3) := dk_182 0 215 (dk_at dksX4_scriptHere_0 4 rfl rfl)
theorem dX4_scriptHere_7 : decode cX4_scriptHere 7 = .ok (.ifCond .eq 5, 3) := dk_153 0 5 (dk_at dksX4_scriptHere_0 7 rfl rfl)
theorem dX4_scriptHere_10 : decode cX4_scriptHere 10 = .ok (.iconst 1, 1) := dk_4 (dk_at dksX4_scriptHere_0 10 rfl rfl)
theorem dX4_scriptHere_11 : decode cX4_scriptHere 11 = .ok (.ireturn, 1) := dk_172 (dk_at dksX4_scriptHere_0 11 rfl rfl)
theorem dX4_scriptHere_12 : decode cX4_scriptHere 12 = .ok (.aload_n 0, 1) := dk_42 (dk_at dksX4_scriptHere_0 12 rfl rfl)
theorem dX4_scriptHere_13 : decode cX4_scriptHere 13 = .ok (.ldc 237, 2) := dk_18 237 (dk_at dksX4_scriptHere_0 13 rfl rfl)
theorem dX4_scriptHere_15 : decode cX4_scriptHere 15 = .ok (.invokevirtual 215, 3) := dk_182 0 215 (dk_at dksX4_scriptHere_0 15 rfl rfl)
theorem dX4_scriptHere_18 : decode cX4_scriptHere 18 = .ok (.ifCond .eq 5, 3) := dk_153 0 5 (dk_at dksX4_scriptHere_0 18 rfl rfl)
theorem dX4_scriptHere_21 : decode cX4_scriptHere 21 = .ok (.iconst 2, 1) := dk_5 (dk_at dksX4_scriptHere_0 21 rfl rfl)
theorem dX4_scriptHere_22 : decode cX4_scriptHere 22 = .ok (.ireturn, 1) := dk_172 (dk_at dksX4_scriptHere_0 22 rfl rfl)
theorem dX4_scriptHere_23 : decode cX4_scriptHere 23 = .ok (.aload_n 0, 1) := dk_42 (dk_at dksX4_scriptHere_0 23 rfl rfl)
theorem dX4_scriptHere_24 : decode cX4_scriptHere 24 = .ok (.ldc_w 272, 3) := dk_19 1 16 (dk_at dksX4_scriptHere_1 0 rfl rfl)
theorem dX4_scriptHere_27 : decode cX4_scriptHere 27 = .ok (.invokevirtual 215, 3) := dk_182 0 215 (dk_at dksX4_scriptHere_1 3 rfl rfl)
theorem dX4_scriptHere_30 : decode cX4_scriptHere 30 = .ok (.ifCond .eq 5, 3) := dk_153 0 5 (dk_at dksX4_scriptHere_1 6 rfl rfl)
theorem dX4_scriptHere_33 : decode cX4_scriptHere 33 = .ok (.iconst 3, 1) := dk_6 (dk_at dksX4_scriptHere_1 9 rfl rfl)
theorem dX4_scriptHere_34 : decode cX4_scriptHere 34 = .ok (.ireturn, 1) := dk_172 (dk_at dksX4_scriptHere_1 10 rfl rfl)
theorem dX4_scriptHere_35 : decode cX4_scriptHere 35 = .ok (.aload_n 0, 1) := dk_42 (dk_at dksX4_scriptHere_1 11 rfl rfl)
theorem dX4_scriptHere_36 : decode cX4_scriptHere 36 = .ok (.ldc_w 274, 3) := dk_19 1 18 (dk_at dksX4_scriptHere_1 12 rfl rfl)
theorem dX4_scriptHere_39 : decode cX4_scriptHere 39 = .ok (.invokevirtual 215, 3) := dk_182 0 215 (dk_at dksX4_scriptHere_1 15 rfl rfl)
theorem dX4_scriptHere_42 : decode cX4_scriptHere 42 = .ok (.ifCond .eq 5, 3) := dk_153 0 5 (dk_at dksX4_scriptHere_1 18 rfl rfl)
theorem dX4_scriptHere_45 : decode cX4_scriptHere 45 = .ok (.iconst 4, 1) := dk_7 (dk_at dksX4_scriptHere_1 21 rfl rfl)
theorem dX4_scriptHere_46 : decode cX4_scriptHere 46 = .ok (.ireturn, 1) := dk_172 (dk_at dksX4_scriptHere_1 22 rfl rfl)
theorem dX4_scriptHere_47 : decode cX4_scriptHere 47 = .ok (.aload_n 0, 1) := dk_42 (dk_at dksX4_scriptHere_1 23 rfl rfl)
theorem dX4_scriptHere_48 : decode cX4_scriptHere 48 = .ok (.invokevirtual 242, 3) := dk_182 0 242 (dk_at dksX4_scriptHere_2 0 rfl rfl)
theorem dX4_scriptHere_51 : decode cX4_scriptHere 51 = .ok (.iconst (-1), 1) := dk_2 (dk_at dksX4_scriptHere_2 3 rfl rfl)
theorem dX4_scriptHere_52 : decode cX4_scriptHere 52 = .ok (.if_icmp .ne 7, 3) := dk_160 0 7 (dk_at dksX4_scriptHere_2 4 rfl rfl)
theorem dX4_scriptHere_55 : decode cX4_scriptHere 55 = .ok (.iconst 0, 1) := dk_3 (dk_at dksX4_scriptHere_2 7 rfl rfl)
theorem dX4_scriptHere_56 : decode cX4_scriptHere 56 = .ok (.goto 4, 3) := dk_167 0 4 (dk_at dksX4_scriptHere_2 8 rfl rfl)
theorem dX4_scriptHere_59 : decode cX4_scriptHere 59 = .ok (.iconst 5, 1) := dk_8 (dk_at dksX4_scriptHere_2 11 rfl rfl)
theorem dX4_scriptHere_60 : decode cX4_scriptHere 60 = .ok (.ireturn, 1) := dk_172 (dk_at dksX4_scriptHere_2 12 rfl rfl)
abbrev cX4_takesRest : ByteArray := prog_20_method_62_code
def yX4_takesRest : MethodName := ⟨RX4, "takesRest", "(I)Z"⟩
def dkwX4_takesRest_5 : List UInt8 := [42, 3, 3, 28, 184, 0, 231, 182, 0, 210, 172]
abbrev dktX4_takesRest_5 : List UInt8 := dkwX4_takesRest_5 ++ []
def dkwX4_takesRest_4 : List UInt8 := [182, 0, 210, 153, 0, 19, 42, 4, 4, 17, 3, 231, 182, 0, 210, 153, 0, 7, 4, 167, 0, 4, 3, 172]
abbrev dktX4_takesRest_4 : List UInt8 := dkwX4_takesRest_4 ++ dktX4_takesRest_5
def dkwX4_takesRest_3 : List UInt8 := [167, 0, 4, 3, 172, 42, 182, 0, 223, 172, 42, 3, 3, 16, 23, 182, 0, 210, 172, 42, 3, 3, 16, 23]
abbrev dktX4_takesRest_3 : List UInt8 := dkwX4_takesRest_3 ++ dktX4_takesRest_4
def dkwX4_takesRest_2 : List UInt8 := [42, 3, 3, 16, 15, 182, 0, 210, 153, 0, 17, 42, 4, 3, 7, 182, 0, 210, 153, 0, 7, 4]
abbrev dktX4_takesRest_2 : List UInt8 := dkwX4_takesRest_2 ++ dktX4_takesRest_3
def dkwX4_takesRest_1 : List UInt8 := [170, 0, 0, 0, 0, 0, 101, 0, 0, 0, 1, 0, 0, 0, 4, 0, 0, 0, 31, 0, 0, 0, 58, 0, 0, 0, 63, 0, 0, 0, 72]
abbrev dktX4_takesRest_1 : List UInt8 := dkwX4_takesRest_1 ++ dktX4_takesRest_2
def dkwX4_takesRest_0 : List UInt8 := [42, 182, 0, 242, 61, 42, 180, 0, 38, 4, 28, 79, 42, 182, 0, 204, 27]
abbrev dktX4_takesRest_0 : List UInt8 := dkwX4_takesRest_0 ++ dktX4_takesRest_1
theorem dksX4_takesRest_0 : cX4_takesRest.data.toList.drop 0 = dktX4_takesRest_0 := by decide +kernel
theorem dksX4_takesRest_1 : cX4_takesRest.data.toList.drop 17 = dktX4_takesRest_1 := dk_seg dksX4_takesRest_0 17 rfl rfl
theorem dksX4_takesRest_2 : cX4_takesRest.data.toList.drop 48 = dktX4_takesRest_2 := dk_seg dksX4_takesRest_1 31 rfl rfl
theorem dksX4_takesRest_3 : cX4_takesRest.data.toList.drop 70 = dktX4_takesRest_3 := dk_seg dksX4_takesRest_2 22 rfl rfl
theorem dksX4_takesRest_4 : cX4_takesRest.data.toList.drop 94 = dktX4_takesRest_4 := dk_seg dksX4_takesRest_3 24 rfl rfl
theorem dksX4_takesRest_5 : cX4_takesRest.data.toList.drop 118 = dktX4_takesRest_5 := dk_seg dksX4_takesRest_4 24 rfl rfl
theorem dX4_takesRest_0 : decode cX4_takesRest 0 = .ok (.aload_n 0, 1) := dk_42 (dk_at dksX4_takesRest_0 0 rfl rfl)
theorem dX4_takesRest_1 : decode cX4_takesRest 1 = .ok (.invokevirtual 242, 3) := dk_182 0 242 (dk_at dksX4_takesRest_0 1 rfl rfl)
theorem dX4_takesRest_4 : decode cX4_takesRest 4 = .ok (.istore_n 2, 1) := dk_61 (dk_at dksX4_takesRest_0 4 rfl rfl)
theorem dX4_takesRest_5 : decode cX4_takesRest 5 = .ok (.aload_n 0, 1) := dk_42 (dk_at dksX4_takesRest_0 5 rfl rfl)
theorem dX4_takesRest_6 : decode cX4_takesRest 6 = .ok (.getfield 38, 3) := dk_180 0 38 (dk_at dksX4_takesRest_0 6 rfl rfl)
theorem dX4_takesRest_9 : decode cX4_takesRest 9 = .ok (.iconst 1, 1) := dk_4 (dk_at dksX4_takesRest_0 9 rfl rfl)
theorem dX4_takesRest_10 : decode cX4_takesRest 10 = .ok (.iload_n 2, 1) := dk_28 (dk_at dksX4_takesRest_0 10 rfl rfl)
theorem dX4_takesRest_11 : decode cX4_takesRest 11 = .ok (.iastore, 1) := dk_79 (dk_at dksX4_takesRest_0 11 rfl rfl)
theorem dX4_takesRest_12 : decode cX4_takesRest 12 = .ok (.aload_n 0, 1) := dk_42 (dk_at dksX4_takesRest_0 12 rfl rfl)
theorem dX4_takesRest_13 : decode cX4_takesRest 13 = .ok (.invokevirtual 204, 3) := dk_182 0 204 (dk_at dksX4_takesRest_0 13 rfl rfl)
theorem dX4_takesRest_16 : decode cX4_takesRest 16 = .ok (.iload_n 1, 1) := dk_27 (dk_at dksX4_takesRest_0 16 rfl rfl)
theorem dX4_takesRest_17 : decode cX4_takesRest 17 = .ok (.tableswitch 101 1 4 #[31, 58, 63, 72], 31) := by decide +kernel
theorem dX4_takesRest_48 : decode cX4_takesRest 48 = .ok (.aload_n 0, 1) := dk_42 (dk_at dksX4_takesRest_2 0 rfl rfl)
theorem dX4_takesRest_49 : decode cX4_takesRest 49 = .ok (.iconst 0, 1) := dk_3 (dk_at dksX4_takesRest_2 1 rfl rfl)
theorem dX4_takesRest_50 : decode cX4_takesRest 50 = .ok (.iconst 0, 1) := dk_3 (dk_at dksX4_takesRest_2 2 rfl rfl)
theorem dX4_takesRest_51 : decode cX4_takesRest 51 = .ok (.bipush 15, 2) := dk_16 15 (dk_at dksX4_takesRest_2 3 rfl rfl)
theorem dX4_takesRest_53 : decode cX4_takesRest 53 = .ok (.invokevirtual 210, 3) := dk_182 0 210 (dk_at dksX4_takesRest_2 5 rfl rfl)
theorem dX4_takesRest_56 : decode cX4_takesRest 56 = .ok (.ifCond .eq 17, 3) := dk_153 0 17 (dk_at dksX4_takesRest_2 8 rfl rfl)
theorem dX4_takesRest_59 : decode cX4_takesRest 59 = .ok (.aload_n 0, 1) := dk_42 (dk_at dksX4_takesRest_2 11 rfl rfl)
theorem dX4_takesRest_60 : decode cX4_takesRest 60 = .ok (.iconst 1, 1) := dk_4 (dk_at dksX4_takesRest_2 12 rfl rfl)
theorem dX4_takesRest_61 : decode cX4_takesRest 61 = .ok (.iconst 0, 1) := dk_3 (dk_at dksX4_takesRest_2 13 rfl rfl)
theorem dX4_takesRest_62 : decode cX4_takesRest 62 = .ok (.iconst 4, 1) := dk_7 (dk_at dksX4_takesRest_2 14 rfl rfl)
theorem dX4_takesRest_63 : decode cX4_takesRest 63 = .ok (.invokevirtual 210, 3) := dk_182 0 210 (dk_at dksX4_takesRest_2 15 rfl rfl)
theorem dX4_takesRest_66 : decode cX4_takesRest 66 = .ok (.ifCond .eq 7, 3) := dk_153 0 7 (dk_at dksX4_takesRest_2 18 rfl rfl)
theorem dX4_takesRest_69 : decode cX4_takesRest 69 = .ok (.iconst 1, 1) := dk_4 (dk_at dksX4_takesRest_2 21 rfl rfl)
theorem dX4_takesRest_70 : decode cX4_takesRest 70 = .ok (.goto 4, 3) := dk_167 0 4 (dk_at dksX4_takesRest_3 0 rfl rfl)
theorem dX4_takesRest_73 : decode cX4_takesRest 73 = .ok (.iconst 0, 1) := dk_3 (dk_at dksX4_takesRest_3 3 rfl rfl)
theorem dX4_takesRest_74 : decode cX4_takesRest 74 = .ok (.ireturn, 1) := dk_172 (dk_at dksX4_takesRest_3 4 rfl rfl)
theorem dX4_takesRest_75 : decode cX4_takesRest 75 = .ok (.aload_n 0, 1) := dk_42 (dk_at dksX4_takesRest_3 5 rfl rfl)
theorem dX4_takesRest_76 : decode cX4_takesRest 76 = .ok (.invokevirtual 223, 3) := dk_182 0 223 (dk_at dksX4_takesRest_3 6 rfl rfl)
theorem dX4_takesRest_79 : decode cX4_takesRest 79 = .ok (.ireturn, 1) := dk_172 (dk_at dksX4_takesRest_3 9 rfl rfl)
theorem dX4_takesRest_80 : decode cX4_takesRest 80 = .ok (.aload_n 0, 1) := dk_42 (dk_at dksX4_takesRest_3 10 rfl rfl)
theorem dX4_takesRest_81 : decode cX4_takesRest 81 = .ok (.iconst 0, 1) := dk_3 (dk_at dksX4_takesRest_3 11 rfl rfl)
theorem dX4_takesRest_82 : decode cX4_takesRest 82 = .ok (.iconst 0, 1) := dk_3 (dk_at dksX4_takesRest_3 12 rfl rfl)
theorem dX4_takesRest_83 : decode cX4_takesRest 83 = .ok (.bipush 23, 2) := dk_16 23 (dk_at dksX4_takesRest_3 13 rfl rfl)
theorem dX4_takesRest_85 : decode cX4_takesRest 85 = .ok (.invokevirtual 210, 3) := dk_182 0 210 (dk_at dksX4_takesRest_3 15 rfl rfl)
theorem dX4_takesRest_88 : decode cX4_takesRest 88 = .ok (.ireturn, 1) := dk_172 (dk_at dksX4_takesRest_3 18 rfl rfl)
theorem dX4_takesRest_89 : decode cX4_takesRest 89 = .ok (.aload_n 0, 1) := dk_42 (dk_at dksX4_takesRest_3 19 rfl rfl)
theorem dX4_takesRest_90 : decode cX4_takesRest 90 = .ok (.iconst 0, 1) := dk_3 (dk_at dksX4_takesRest_3 20 rfl rfl)
theorem dX4_takesRest_91 : decode cX4_takesRest 91 = .ok (.iconst 0, 1) := dk_3 (dk_at dksX4_takesRest_3 21 rfl rfl)
theorem dX4_takesRest_92 : decode cX4_takesRest 92 = .ok (.bipush 23, 2) := dk_16 23 (dk_at dksX4_takesRest_3 22 rfl rfl)
theorem dX4_takesRest_94 : decode cX4_takesRest 94 = .ok (.invokevirtual 210, 3) := dk_182 0 210 (dk_at dksX4_takesRest_4 0 rfl rfl)
theorem dX4_takesRest_97 : decode cX4_takesRest 97 = .ok (.ifCond .eq 19, 3) := dk_153 0 19 (dk_at dksX4_takesRest_4 3 rfl rfl)
theorem dX4_takesRest_100 : decode cX4_takesRest 100 = .ok (.aload_n 0, 1) := dk_42 (dk_at dksX4_takesRest_4 6 rfl rfl)
theorem dX4_takesRest_101 : decode cX4_takesRest 101 = .ok (.iconst 1, 1) := dk_4 (dk_at dksX4_takesRest_4 7 rfl rfl)
theorem dX4_takesRest_102 : decode cX4_takesRest 102 = .ok (.iconst 1, 1) := dk_4 (dk_at dksX4_takesRest_4 8 rfl rfl)
theorem dX4_takesRest_103 : decode cX4_takesRest 103 = .ok (.sipush 999, 3) := dk_17 3 231 (dk_at dksX4_takesRest_4 9 rfl rfl)
theorem dX4_takesRest_106 : decode cX4_takesRest 106 = .ok (.invokevirtual 210, 3) := dk_182 0 210 (dk_at dksX4_takesRest_4 12 rfl rfl)
theorem dX4_takesRest_109 : decode cX4_takesRest 109 = .ok (.ifCond .eq 7, 3) := dk_153 0 7 (dk_at dksX4_takesRest_4 15 rfl rfl)
theorem dX4_takesRest_112 : decode cX4_takesRest 112 = .ok (.iconst 1, 1) := dk_4 (dk_at dksX4_takesRest_4 18 rfl rfl)
theorem dX4_takesRest_113 : decode cX4_takesRest 113 = .ok (.goto 4, 3) := dk_167 0 4 (dk_at dksX4_takesRest_4 19 rfl rfl)
theorem dX4_takesRest_116 : decode cX4_takesRest 116 = .ok (.iconst 0, 1) := dk_3 (dk_at dksX4_takesRest_4 22 rfl rfl)
theorem dX4_takesRest_117 : decode cX4_takesRest 117 = .ok (.ireturn, 1) := dk_172 (dk_at dksX4_takesRest_4 23 rfl rfl)
theorem dX4_takesRest_118 : decode cX4_takesRest 118 = .ok (.aload_n 0, 1) := dk_42 (dk_at dksX4_takesRest_5 0 rfl rfl)
theorem dX4_takesRest_119 : decode cX4_takesRest 119 = .ok (.iconst 0, 1) := dk_3 (dk_at dksX4_takesRest_5 1 rfl rfl)
theorem dX4_takesRest_120 : decode cX4_takesRest 120 = .ok (.iconst 0, 1) := dk_3 (dk_at dksX4_takesRest_5 2 rfl rfl)
theorem dX4_takesRest_121 : decode cX4_takesRest 121 = .ok (.iload_n 2, 1) := dk_28 (dk_at dksX4_takesRest_5 3 rfl rfl)
theorem dX4_takesRest_122 : decode cX4_takesRest 122 = .ok (.invokestatic 231, 3) := dk_184 0 231 (dk_at dksX4_takesRest_5 4 rfl rfl)
theorem dX4_takesRest_125 : decode cX4_takesRest 125 = .ok (.invokevirtual 210, 3) := dk_182 0 210 (dk_at dksX4_takesRest_5 7 rfl rfl)
theorem dX4_takesRest_128 : decode cX4_takesRest 128 = .ok (.ireturn, 1) := dk_172 (dk_at dksX4_takesRest_5 10 rfl rfl)
abbrev cX4_remembers : ByteArray := prog_20_method_36_code
def yX4_remembers : MethodName := ⟨RX4, "remembers", "()V"⟩
def dkwX4_remembers_3 : List UInt8 := [89, 180, 0, 146, 4, 96, 181, 0, 146, 177]
abbrev dktX4_remembers_3 : List UInt8 := dkwX4_remembers_3 ++ []
def dkwX4_remembers_2 : List UInt8 := [181, 0, 146, 42, 180, 0, 7, 3, 42, 180, 0, 22, 17, 5, 137, 42, 180, 0, 146, 104, 184, 0, 149, 42]
abbrev dktX4_remembers_2 : List UInt8 := dkwX4_remembers_2 ++ dktX4_remembers_3
def dkwX4_remembers_1 : List UInt8 := [180, 0, 22, 27, 17, 5, 137, 96, 46, 79, 132, 1, 1, 167, 255, 230, 42, 89, 180, 0, 146, 4, 100]
abbrev dktX4_remembers_1 : List UInt8 := dkwX4_remembers_1 ++ dktX4_remembers_2
def dkwX4_remembers_0 : List UInt8 := [42, 180, 0, 146, 16, 8, 160, 0, 44, 3, 60, 27, 17, 38, 191, 162, 0, 25, 42, 180, 0, 22, 27, 42]
abbrev dktX4_remembers_0 : List UInt8 := dkwX4_remembers_0 ++ dktX4_remembers_1
theorem dksX4_remembers_0 : cX4_remembers.data.toList.drop 0 = dktX4_remembers_0 := by decide +kernel
theorem dksX4_remembers_1 : cX4_remembers.data.toList.drop 24 = dktX4_remembers_1 := dk_seg dksX4_remembers_0 24 rfl rfl
theorem dksX4_remembers_2 : cX4_remembers.data.toList.drop 47 = dktX4_remembers_2 := dk_seg dksX4_remembers_1 23 rfl rfl
theorem dksX4_remembers_3 : cX4_remembers.data.toList.drop 71 = dktX4_remembers_3 := dk_seg dksX4_remembers_2 24 rfl rfl
theorem dX4_remembers_0 : decode cX4_remembers 0 = .ok (.aload_n 0, 1) := dk_42 (dk_at dksX4_remembers_0 0 rfl rfl)
theorem dX4_remembers_1 : decode cX4_remembers 1 = .ok (.getfield 146, 3) := dk_180 0 146 (dk_at dksX4_remembers_0 1 rfl rfl)
theorem dX4_remembers_4 : decode cX4_remembers 4 = .ok (.bipush 8, 2) := dk_16 8 (dk_at dksX4_remembers_0 4 rfl rfl)
theorem dX4_remembers_6 : decode cX4_remembers 6 = .ok (.if_icmp .ne 44, 3) := dk_160 0 44 (dk_at dksX4_remembers_0 6 rfl rfl)
theorem dX4_remembers_9 : decode cX4_remembers 9 = .ok (.iconst 0, 1) := dk_3 (dk_at dksX4_remembers_0 9 rfl rfl)
theorem dX4_remembers_10 : decode cX4_remembers 10 = .ok (.istore_n 1, 1) := dk_60 (dk_at dksX4_remembers_0 10 rfl rfl)
theorem dX4_remembers_11 : decode cX4_remembers 11 = .ok (.iload_n 1, 1) := dk_27 (dk_at dksX4_remembers_0 11 rfl rfl)
theorem dX4_remembers_12 : decode cX4_remembers 12 = .ok (.sipush 9919, 3) := dk_17 38 191 (dk_at dksX4_remembers_0 12 rfl rfl)
theorem dX4_remembers_15 : decode cX4_remembers 15 = .ok (.if_icmp .ge 25, 3) := dk_162 0 25 (dk_at dksX4_remembers_0 15 rfl rfl)
theorem dX4_remembers_18 : decode cX4_remembers 18 = .ok (.aload_n 0, 1) := dk_42 (dk_at dksX4_remembers_0 18 rfl rfl)
theorem dX4_remembers_19 : decode cX4_remembers 19 = .ok (.getfield 22, 3) := dk_180 0 22 (dk_at dksX4_remembers_0 19 rfl rfl)
theorem dX4_remembers_22 : decode cX4_remembers 22 = .ok (.iload_n 1, 1) := dk_27 (dk_at dksX4_remembers_0 22 rfl rfl)
theorem dX4_remembers_23 : decode cX4_remembers 23 = .ok (.aload_n 0, 1) := dk_42 (dk_at dksX4_remembers_0 23 rfl rfl)
theorem dX4_remembers_24 : decode cX4_remembers 24 = .ok (.getfield 22, 3) := dk_180 0 22 (dk_at dksX4_remembers_1 0 rfl rfl)
theorem dX4_remembers_27 : decode cX4_remembers 27 = .ok (.iload_n 1, 1) := dk_27 (dk_at dksX4_remembers_1 3 rfl rfl)
theorem dX4_remembers_28 : decode cX4_remembers 28 = .ok (.sipush 1417, 3) := dk_17 5 137 (dk_at dksX4_remembers_1 4 rfl rfl)
theorem dX4_remembers_31 : decode cX4_remembers 31 = .ok (.iadd, 1) := dk_96 (dk_at dksX4_remembers_1 7 rfl rfl)
theorem dX4_remembers_32 : decode cX4_remembers 32 = .ok (.iaload, 1) := dk_46 (dk_at dksX4_remembers_1 8 rfl rfl)
theorem dX4_remembers_33 : decode cX4_remembers 33 = .ok (.iastore, 1) := dk_79 (dk_at dksX4_remembers_1 9 rfl rfl)
theorem dX4_remembers_34 : decode cX4_remembers 34 = .ok (.iinc 1 1, 3) := dk_132 1 1 (dk_at dksX4_remembers_1 10 rfl rfl)
theorem dX4_remembers_37 : decode cX4_remembers 37 = .ok (.goto (-26), 3) := dk_167 255 230 (dk_at dksX4_remembers_1 13 rfl rfl)
theorem dX4_remembers_40 : decode cX4_remembers 40 = .ok (.aload_n 0, 1) := dk_42 (dk_at dksX4_remembers_1 16 rfl rfl)
theorem dX4_remembers_41 : decode cX4_remembers 41 = .ok (.dup, 1) := dk_89 (dk_at dksX4_remembers_1 17 rfl rfl)
theorem dX4_remembers_42 : decode cX4_remembers 42 = .ok (.getfield 146, 3) := dk_180 0 146 (dk_at dksX4_remembers_1 18 rfl rfl)
theorem dX4_remembers_45 : decode cX4_remembers 45 = .ok (.iconst 1, 1) := dk_4 (dk_at dksX4_remembers_1 21 rfl rfl)
theorem dX4_remembers_46 : decode cX4_remembers 46 = .ok (.isub, 1) := dk_100 (dk_at dksX4_remembers_1 22 rfl rfl)
theorem dX4_remembers_47 : decode cX4_remembers 47 = .ok (.putfield 146, 3) := dk_181 0 146 (dk_at dksX4_remembers_2 0 rfl rfl)
theorem dX4_remembers_50 : decode cX4_remembers 50 = .ok (.aload_n 0, 1) := dk_42 (dk_at dksX4_remembers_2 3 rfl rfl)
theorem dX4_remembers_51 : decode cX4_remembers 51 = .ok (.getfield 7, 3) := dk_180 0 7 (dk_at dksX4_remembers_2 4 rfl rfl)
theorem dX4_remembers_54 : decode cX4_remembers 54 = .ok (.iconst 0, 1) := dk_3 (dk_at dksX4_remembers_2 7 rfl rfl)
theorem dX4_remembers_55 : decode cX4_remembers 55 = .ok (.aload_n 0, 1) := dk_42 (dk_at dksX4_remembers_2 8 rfl rfl)
theorem dX4_remembers_56 : decode cX4_remembers 56 = .ok (.getfield 22, 3) := dk_180 0 22 (dk_at dksX4_remembers_2 9 rfl rfl)
theorem dX4_remembers_59 : decode cX4_remembers 59 = .ok (.sipush 1417, 3) := dk_17 5 137 (dk_at dksX4_remembers_2 12 rfl rfl)
theorem dX4_remembers_62 : decode cX4_remembers 62 = .ok (.aload_n 0, 1) := dk_42 (dk_at dksX4_remembers_2 15 rfl rfl)
theorem dX4_remembers_63 : decode cX4_remembers 63 = .ok (.getfield 146, 3) := dk_180 0 146 (dk_at dksX4_remembers_2 16 rfl rfl)
theorem dX4_remembers_66 : decode cX4_remembers 66 = .ok (.imul, 1) := dk_104 (dk_at dksX4_remembers_2 19 rfl rfl)
theorem dX4_remembers_67 : decode cX4_remembers 67 = .ok (.invokestatic 149, 3) := dk_184 0 149 (dk_at dksX4_remembers_2 20 rfl rfl)
theorem dX4_remembers_70 : decode cX4_remembers 70 = .ok (.aload_n 0, 1) := dk_42 (dk_at dksX4_remembers_2 23 rfl rfl)
theorem dX4_remembers_71 : decode cX4_remembers 71 = .ok (.dup, 1) := dk_89 (dk_at dksX4_remembers_3 0 rfl rfl)
theorem dX4_remembers_72 : decode cX4_remembers 72 = .ok (.getfield 146, 3) := dk_180 0 146 (dk_at dksX4_remembers_3 1 rfl rfl)
theorem dX4_remembers_75 : decode cX4_remembers 75 = .ok (.iconst 1, 1) := dk_4 (dk_at dksX4_remembers_3 4 rfl rfl)
theorem dX4_remembers_76 : decode cX4_remembers 76 = .ok (.iadd, 1) := dk_96 (dk_at dksX4_remembers_3 5 rfl rfl)
theorem dX4_remembers_77 : decode cX4_remembers 77 = .ok (.putfield 146, 3) := dk_181 0 146 (dk_at dksX4_remembers_3 6 rfl rfl)
theorem dX4_remembers_80 : decode cX4_remembers 80 = .ok (.return_, 1) := dk_177 (dk_at dksX4_remembers_3 9 rfl rfl)
abbrev cX4_does : ByteArray := prog_20_method_65_code
def yX4_does : MethodName := ⟨RX4, "does", "(I)Z"⟩
def dkwX4_does_11 : List UInt8 := [42, 180, 0, 38, 3, 46, 182, 1, 41, 155, 0, 7, 4, 167, 0, 4, 3, 172]
abbrev dktX4_does_11 : List UInt8 := dkwX4_does_11 ++ []
def dkwX4_does_10 : List UInt8 := [180, 0, 38, 4, 46, 182, 1, 38, 155, 0, 7, 4, 167, 0, 4, 3, 172, 42, 42, 180, 0, 38, 4, 46]
abbrev dktX4_does_10 : List UInt8 := dkwX4_does_10 ++ dktX4_does_11
def dkwX4_does_9 : List UInt8 := [180, 0, 38, 3, 46, 42, 180, 0, 7, 3, 46, 162, 0, 26, 42, 42, 180, 0, 38, 3, 46, 42]
abbrev dktX4_does_9 : List UInt8 := dkwX4_does_9 ++ dktX4_does_10
def dkwX4_does_8 : List UInt8 := [153, 0, 20, 42, 42, 180, 0, 38, 3, 46, 182, 1, 35, 155, 0, 7, 4, 167, 0, 4, 3, 172, 42]
abbrev dktX4_does_8 : List UInt8 := dkwX4_does_8 ++ dktX4_does_9
def dkwX4_does_7 : List UInt8 := [180, 0, 38, 3, 46, 42, 180, 0, 7, 3, 46, 162, 0, 33, 42, 42, 180, 0, 38, 3, 46, 182, 0, 84]
abbrev dktX4_does_7 : List UInt8 := dkwX4_does_7 ++ dktX4_does_8
def dkwX4_does_6 : List UInt8 := [180, 0, 38, 7, 46, 42, 180, 0, 38, 8, 46, 182, 1, 32, 155, 0, 7, 4, 167, 0, 4, 3, 172, 42]
abbrev dktX4_does_6 : List UInt8 := dkwX4_does_6 ++ dktX4_does_7
def dkwX4_does_5 : List UInt8 := [180, 0, 38, 3, 46, 42, 180, 0, 38, 4, 46, 42, 180, 0, 38, 5, 46, 42, 180, 0, 38, 6, 46, 42]
abbrev dktX4_does_5 : List UInt8 := dkwX4_does_5 ++ dktX4_does_6
def dkwX4_does_4 : List UInt8 := [46, 182, 1, 26, 2, 161, 0, 7, 4, 167, 0, 4, 3, 172, 42, 182, 1, 29, 153, 0, 50, 42, 42]
abbrev dktX4_does_4 : List UInt8 := dkwX4_does_4 ++ dktX4_does_5
def dkwX4_does_3 : List UInt8 := [42, 180, 0, 7, 5, 46, 17, 2, 208, 162, 0, 27, 42, 42, 180, 0, 38, 3, 46, 42, 180, 0, 38, 4]
abbrev dktX4_does_3 : List UInt8 := dkwX4_does_3 ++ dktX4_does_4
def dkwX4_does_2 : List UInt8 := [170, 0, 0, 0, 0, 0, 212, 0, 0, 0, 1, 0, 0, 0, 4, 0, 0, 0, 31, 0, 0, 0, 69, 0, 0, 0, 125, 0, 0, 0, 172]
abbrev dktX4_does_2 : List UInt8 := dkwX4_does_2 ++ dktX4_does_3
def dkwX4_does_1 : List UInt8 := [79, 132, 2, 1, 167, 255, 230, 42, 180, 0, 41, 27, 46]
abbrev dktX4_does_1 : List UInt8 := dkwX4_does_1 ++ dktX4_does_2
def dkwX4_does_0 : List UInt8 := [3, 61, 28, 16, 6, 162, 0, 26, 42, 180, 0, 38, 28, 42, 180, 0, 44, 16, 6, 27, 104, 28, 96, 46]
abbrev dktX4_does_0 : List UInt8 := dkwX4_does_0 ++ dktX4_does_1
theorem dksX4_does_0 : cX4_does.data.toList.drop 0 = dktX4_does_0 := by decide +kernel
theorem dksX4_does_1 : cX4_does.data.toList.drop 24 = dktX4_does_1 := dk_seg dksX4_does_0 24 rfl rfl
theorem dksX4_does_2 : cX4_does.data.toList.drop 37 = dktX4_does_2 := dk_seg dksX4_does_1 13 rfl rfl
theorem dksX4_does_3 : cX4_does.data.toList.drop 68 = dktX4_does_3 := dk_seg dksX4_does_2 31 rfl rfl
theorem dksX4_does_4 : cX4_does.data.toList.drop 92 = dktX4_does_4 := dk_seg dksX4_does_3 24 rfl rfl
theorem dksX4_does_5 : cX4_does.data.toList.drop 115 = dktX4_does_5 := dk_seg dksX4_does_4 23 rfl rfl
theorem dksX4_does_6 : cX4_does.data.toList.drop 139 = dktX4_does_6 := dk_seg dksX4_does_5 24 rfl rfl
theorem dksX4_does_7 : cX4_does.data.toList.drop 163 = dktX4_does_7 := dk_seg dksX4_does_6 24 rfl rfl
theorem dksX4_does_8 : cX4_does.data.toList.drop 187 = dktX4_does_8 := dk_seg dksX4_does_7 24 rfl rfl
theorem dksX4_does_9 : cX4_does.data.toList.drop 210 = dktX4_does_9 := dk_seg dksX4_does_8 23 rfl rfl
theorem dksX4_does_10 : cX4_does.data.toList.drop 232 = dktX4_does_10 := dk_seg dksX4_does_9 22 rfl rfl
theorem dksX4_does_11 : cX4_does.data.toList.drop 256 = dktX4_does_11 := dk_seg dksX4_does_10 24 rfl rfl
theorem dX4_does_0 : decode cX4_does 0 = .ok (.iconst 0, 1) := dk_3 (dk_at dksX4_does_0 0 rfl rfl)
theorem dX4_does_1 : decode cX4_does 1 = .ok (.istore_n 2, 1) := dk_61 (dk_at dksX4_does_0 1 rfl rfl)
theorem dX4_does_2 : decode cX4_does 2 = .ok (.iload_n 2, 1) := dk_28 (dk_at dksX4_does_0 2 rfl rfl)
theorem dX4_does_3 : decode cX4_does 3 = .ok (.bipush 6, 2) := dk_16 6 (dk_at dksX4_does_0 3 rfl rfl)
theorem dX4_does_5 : decode cX4_does 5 = .ok (.if_icmp .ge 26, 3) := dk_162 0 26 (dk_at dksX4_does_0 5 rfl rfl)
theorem dX4_does_8 : decode cX4_does 8 = .ok (.aload_n 0, 1) := dk_42 (dk_at dksX4_does_0 8 rfl rfl)
theorem dX4_does_9 : decode cX4_does 9 = .ok (.getfield 38, 3) := dk_180 0 38 (dk_at dksX4_does_0 9 rfl rfl)
theorem dX4_does_12 : decode cX4_does 12 = .ok (.iload_n 2, 1) := dk_28 (dk_at dksX4_does_0 12 rfl rfl)
theorem dX4_does_13 : decode cX4_does 13 = .ok (.aload_n 0, 1) := dk_42 (dk_at dksX4_does_0 13 rfl rfl)
theorem dX4_does_14 : decode cX4_does 14 = .ok (.getfield 44, 3) := dk_180 0 44 (dk_at dksX4_does_0 14 rfl rfl)
theorem dX4_does_17 : decode cX4_does 17 = .ok (.bipush 6, 2) := dk_16 6 (dk_at dksX4_does_0 17 rfl rfl)
theorem dX4_does_19 : decode cX4_does 19 = .ok (.iload_n 1, 1) := dk_27 (dk_at dksX4_does_0 19 rfl rfl)
theorem dX4_does_20 : decode cX4_does 20 = .ok (.imul, 1) := dk_104 (dk_at dksX4_does_0 20 rfl rfl)
theorem dX4_does_21 : decode cX4_does 21 = .ok (.iload_n 2, 1) := dk_28 (dk_at dksX4_does_0 21 rfl rfl)
theorem dX4_does_22 : decode cX4_does 22 = .ok (.iadd, 1) := dk_96 (dk_at dksX4_does_0 22 rfl rfl)
theorem dX4_does_23 : decode cX4_does 23 = .ok (.iaload, 1) := dk_46 (dk_at dksX4_does_0 23 rfl rfl)
theorem dX4_does_24 : decode cX4_does 24 = .ok (.iastore, 1) := dk_79 (dk_at dksX4_does_1 0 rfl rfl)
theorem dX4_does_25 : decode cX4_does 25 = .ok (.iinc 2 1, 3) := dk_132 2 1 (dk_at dksX4_does_1 1 rfl rfl)
theorem dX4_does_28 : decode cX4_does 28 = .ok (.goto (-26), 3) := dk_167 255 230 (dk_at dksX4_does_1 4 rfl rfl)
theorem dX4_does_31 : decode cX4_does 31 = .ok (.aload_n 0, 1) := dk_42 (dk_at dksX4_does_1 7 rfl rfl)
theorem dX4_does_32 : decode cX4_does 32 = .ok (.getfield 41, 3) := dk_180 0 41 (dk_at dksX4_does_1 8 rfl rfl)
theorem dX4_does_35 : decode cX4_does 35 = .ok (.iload_n 1, 1) := dk_27 (dk_at dksX4_does_1 11 rfl rfl)
theorem dX4_does_36 : decode cX4_does 36 = .ok (.iaload, 1) := dk_46 (dk_at dksX4_does_1 12 rfl rfl)
theorem dX4_does_37 : decode cX4_does 37 = .ok (.tableswitch 212 1 4 #[31, 69, 125, 172], 31) := by decide +kernel
theorem dX4_does_68 : decode cX4_does 68 = .ok (.aload_n 0, 1) := dk_42 (dk_at dksX4_does_3 0 rfl rfl)
theorem dX4_does_69 : decode cX4_does 69 = .ok (.getfield 7, 3) := dk_180 0 7 (dk_at dksX4_does_3 1 rfl rfl)
theorem dX4_does_72 : decode cX4_does 72 = .ok (.iconst 2, 1) := dk_5 (dk_at dksX4_does_3 4 rfl rfl)
theorem dX4_does_73 : decode cX4_does 73 = .ok (.iaload, 1) := dk_46 (dk_at dksX4_does_3 5 rfl rfl)
theorem dX4_does_74 : decode cX4_does 74 = .ok (.sipush 720, 3) := dk_17 2 208 (dk_at dksX4_does_3 6 rfl rfl)
theorem dX4_does_77 : decode cX4_does 77 = .ok (.if_icmp .ge 27, 3) := dk_162 0 27 (dk_at dksX4_does_3 9 rfl rfl)
theorem dX4_does_80 : decode cX4_does 80 = .ok (.aload_n 0, 1) := dk_42 (dk_at dksX4_does_3 12 rfl rfl)
theorem dX4_does_81 : decode cX4_does 81 = .ok (.aload_n 0, 1) := dk_42 (dk_at dksX4_does_3 13 rfl rfl)
theorem dX4_does_82 : decode cX4_does 82 = .ok (.getfield 38, 3) := dk_180 0 38 (dk_at dksX4_does_3 14 rfl rfl)
theorem dX4_does_85 : decode cX4_does 85 = .ok (.iconst 0, 1) := dk_3 (dk_at dksX4_does_3 17 rfl rfl)
theorem dX4_does_86 : decode cX4_does 86 = .ok (.iaload, 1) := dk_46 (dk_at dksX4_does_3 18 rfl rfl)
theorem dX4_does_87 : decode cX4_does 87 = .ok (.aload_n 0, 1) := dk_42 (dk_at dksX4_does_3 19 rfl rfl)
theorem dX4_does_88 : decode cX4_does 88 = .ok (.getfield 38, 3) := dk_180 0 38 (dk_at dksX4_does_3 20 rfl rfl)
theorem dX4_does_91 : decode cX4_does 91 = .ok (.iconst 1, 1) := dk_4 (dk_at dksX4_does_3 23 rfl rfl)
theorem dX4_does_92 : decode cX4_does 92 = .ok (.iaload, 1) := dk_46 (dk_at dksX4_does_4 0 rfl rfl)
theorem dX4_does_93 : decode cX4_does 93 = .ok (.invokevirtual 282, 3) := dk_182 1 26 (dk_at dksX4_does_4 1 rfl rfl)
theorem dX4_does_96 : decode cX4_does 96 = .ok (.iconst (-1), 1) := dk_2 (dk_at dksX4_does_4 4 rfl rfl)
theorem dX4_does_97 : decode cX4_does 97 = .ok (.if_icmp .lt 7, 3) := dk_161 0 7 (dk_at dksX4_does_4 5 rfl rfl)
theorem dX4_does_100 : decode cX4_does 100 = .ok (.iconst 1, 1) := dk_4 (dk_at dksX4_does_4 8 rfl rfl)
theorem dX4_does_101 : decode cX4_does 101 = .ok (.goto 4, 3) := dk_167 0 4 (dk_at dksX4_does_4 9 rfl rfl)
theorem dX4_does_104 : decode cX4_does 104 = .ok (.iconst 0, 1) := dk_3 (dk_at dksX4_does_4 12 rfl rfl)
theorem dX4_does_105 : decode cX4_does 105 = .ok (.ireturn, 1) := dk_172 (dk_at dksX4_does_4 13 rfl rfl)
theorem dX4_does_106 : decode cX4_does 106 = .ok (.aload_n 0, 1) := dk_42 (dk_at dksX4_does_4 14 rfl rfl)
theorem dX4_does_107 : decode cX4_does 107 = .ok (.invokevirtual 285, 3) := dk_182 1 29 (dk_at dksX4_does_4 15 rfl rfl)
theorem dX4_does_110 : decode cX4_does 110 = .ok (.ifCond .eq 50, 3) := dk_153 0 50 (dk_at dksX4_does_4 18 rfl rfl)
theorem dX4_does_113 : decode cX4_does 113 = .ok (.aload_n 0, 1) := dk_42 (dk_at dksX4_does_4 21 rfl rfl)
theorem dX4_does_114 : decode cX4_does 114 = .ok (.aload_n 0, 1) := dk_42 (dk_at dksX4_does_4 22 rfl rfl)
theorem dX4_does_115 : decode cX4_does 115 = .ok (.getfield 38, 3) := dk_180 0 38 (dk_at dksX4_does_5 0 rfl rfl)
theorem dX4_does_118 : decode cX4_does 118 = .ok (.iconst 0, 1) := dk_3 (dk_at dksX4_does_5 3 rfl rfl)
theorem dX4_does_119 : decode cX4_does 119 = .ok (.iaload, 1) := dk_46 (dk_at dksX4_does_5 4 rfl rfl)
theorem dX4_does_120 : decode cX4_does 120 = .ok (.aload_n 0, 1) := dk_42 (dk_at dksX4_does_5 5 rfl rfl)
theorem dX4_does_121 : decode cX4_does 121 = .ok (.getfield 38, 3) := dk_180 0 38 (dk_at dksX4_does_5 6 rfl rfl)
theorem dX4_does_124 : decode cX4_does 124 = .ok (.iconst 1, 1) := dk_4 (dk_at dksX4_does_5 9 rfl rfl)
theorem dX4_does_125 : decode cX4_does 125 = .ok (.iaload, 1) := dk_46 (dk_at dksX4_does_5 10 rfl rfl)
theorem dX4_does_126 : decode cX4_does 126 = .ok (.aload_n 0, 1) := dk_42 (dk_at dksX4_does_5 11 rfl rfl)
theorem dX4_does_127 : decode cX4_does 127 = .ok (.getfield 38, 3) := dk_180 0 38 (dk_at dksX4_does_5 12 rfl rfl)
theorem dX4_does_130 : decode cX4_does 130 = .ok (.iconst 2, 1) := dk_5 (dk_at dksX4_does_5 15 rfl rfl)
theorem dX4_does_131 : decode cX4_does 131 = .ok (.iaload, 1) := dk_46 (dk_at dksX4_does_5 16 rfl rfl)
theorem dX4_does_132 : decode cX4_does 132 = .ok (.aload_n 0, 1) := dk_42 (dk_at dksX4_does_5 17 rfl rfl)
theorem dX4_does_133 : decode cX4_does 133 = .ok (.getfield 38, 3) := dk_180 0 38 (dk_at dksX4_does_5 18 rfl rfl)
theorem dX4_does_136 : decode cX4_does 136 = .ok (.iconst 3, 1) := dk_6 (dk_at dksX4_does_5 21 rfl rfl)
theorem dX4_does_137 : decode cX4_does 137 = .ok (.iaload, 1) := dk_46 (dk_at dksX4_does_5 22 rfl rfl)
theorem dX4_does_138 : decode cX4_does 138 = .ok (.aload_n 0, 1) := dk_42 (dk_at dksX4_does_5 23 rfl rfl)
theorem dX4_does_139 : decode cX4_does 139 = .ok (.getfield 38, 3) := dk_180 0 38 (dk_at dksX4_does_6 0 rfl rfl)
theorem dX4_does_142 : decode cX4_does 142 = .ok (.iconst 4, 1) := dk_7 (dk_at dksX4_does_6 3 rfl rfl)
theorem dX4_does_143 : decode cX4_does 143 = .ok (.iaload, 1) := dk_46 (dk_at dksX4_does_6 4 rfl rfl)
theorem dX4_does_144 : decode cX4_does 144 = .ok (.aload_n 0, 1) := dk_42 (dk_at dksX4_does_6 5 rfl rfl)
theorem dX4_does_145 : decode cX4_does 145 = .ok (.getfield 38, 3) := dk_180 0 38 (dk_at dksX4_does_6 6 rfl rfl)
theorem dX4_does_148 : decode cX4_does 148 = .ok (.iconst 5, 1) := dk_8 (dk_at dksX4_does_6 9 rfl rfl)
theorem dX4_does_149 : decode cX4_does 149 = .ok (.iaload, 1) := dk_46 (dk_at dksX4_does_6 10 rfl rfl)
theorem dX4_does_150 : decode cX4_does 150 = .ok (.invokevirtual 288, 3) := dk_182 1 32 (dk_at dksX4_does_6 11 rfl rfl)
theorem dX4_does_153 : decode cX4_does 153 = .ok (.ifCond .lt 7, 3) := dk_155 0 7 (dk_at dksX4_does_6 14 rfl rfl)
theorem dX4_does_156 : decode cX4_does 156 = .ok (.iconst 1, 1) := dk_4 (dk_at dksX4_does_6 17 rfl rfl)
theorem dX4_does_157 : decode cX4_does 157 = .ok (.goto 4, 3) := dk_167 0 4 (dk_at dksX4_does_6 18 rfl rfl)
theorem dX4_does_160 : decode cX4_does 160 = .ok (.iconst 0, 1) := dk_3 (dk_at dksX4_does_6 21 rfl rfl)
theorem dX4_does_161 : decode cX4_does 161 = .ok (.ireturn, 1) := dk_172 (dk_at dksX4_does_6 22 rfl rfl)
theorem dX4_does_162 : decode cX4_does 162 = .ok (.aload_n 0, 1) := dk_42 (dk_at dksX4_does_6 23 rfl rfl)
theorem dX4_does_163 : decode cX4_does 163 = .ok (.getfield 38, 3) := dk_180 0 38 (dk_at dksX4_does_7 0 rfl rfl)
theorem dX4_does_166 : decode cX4_does 166 = .ok (.iconst 0, 1) := dk_3 (dk_at dksX4_does_7 3 rfl rfl)
theorem dX4_does_167 : decode cX4_does 167 = .ok (.iaload, 1) := dk_46 (dk_at dksX4_does_7 4 rfl rfl)
theorem dX4_does_168 : decode cX4_does 168 = .ok (.aload_n 0, 1) := dk_42 (dk_at dksX4_does_7 5 rfl rfl)
theorem dX4_does_169 : decode cX4_does 169 = .ok (.getfield 7, 3) := dk_180 0 7 (dk_at dksX4_does_7 6 rfl rfl)
theorem dX4_does_172 : decode cX4_does 172 = .ok (.iconst 0, 1) := dk_3 (dk_at dksX4_does_7 9 rfl rfl)
theorem dX4_does_173 : decode cX4_does 173 = .ok (.iaload, 1) := dk_46 (dk_at dksX4_does_7 10 rfl rfl)
theorem dX4_does_174 : decode cX4_does 174 = .ok (.if_icmp .ge 33, 3) := dk_162 0 33 (dk_at dksX4_does_7 11 rfl rfl)
theorem dX4_does_177 : decode cX4_does 177 = .ok (.aload_n 0, 1) := dk_42 (dk_at dksX4_does_7 14 rfl rfl)
theorem dX4_does_178 : decode cX4_does 178 = .ok (.aload_n 0, 1) := dk_42 (dk_at dksX4_does_7 15 rfl rfl)
theorem dX4_does_179 : decode cX4_does 179 = .ok (.getfield 38, 3) := dk_180 0 38 (dk_at dksX4_does_7 16 rfl rfl)
theorem dX4_does_182 : decode cX4_does 182 = .ok (.iconst 0, 1) := dk_3 (dk_at dksX4_does_7 19 rfl rfl)
theorem dX4_does_183 : decode cX4_does 183 = .ok (.iaload, 1) := dk_46 (dk_at dksX4_does_7 20 rfl rfl)
theorem dX4_does_184 : decode cX4_does 184 = .ok (.invokevirtual 84, 3) := dk_182 0 84 (dk_at dksX4_does_7 21 rfl rfl)
theorem dX4_does_187 : decode cX4_does 187 = .ok (.ifCond .eq 20, 3) := dk_153 0 20 (dk_at dksX4_does_8 0 rfl rfl)
theorem dX4_does_190 : decode cX4_does 190 = .ok (.aload_n 0, 1) := dk_42 (dk_at dksX4_does_8 3 rfl rfl)
theorem dX4_does_191 : decode cX4_does 191 = .ok (.aload_n 0, 1) := dk_42 (dk_at dksX4_does_8 4 rfl rfl)
theorem dX4_does_192 : decode cX4_does 192 = .ok (.getfield 38, 3) := dk_180 0 38 (dk_at dksX4_does_8 5 rfl rfl)
theorem dX4_does_195 : decode cX4_does 195 = .ok (.iconst 0, 1) := dk_3 (dk_at dksX4_does_8 8 rfl rfl)
theorem dX4_does_196 : decode cX4_does 196 = .ok (.iaload, 1) := dk_46 (dk_at dksX4_does_8 9 rfl rfl)
theorem dX4_does_197 : decode cX4_does 197 = .ok (.invokevirtual 291, 3) := dk_182 1 35 (dk_at dksX4_does_8 10 rfl rfl)
theorem dX4_does_200 : decode cX4_does 200 = .ok (.ifCond .lt 7, 3) := dk_155 0 7 (dk_at dksX4_does_8 13 rfl rfl)
theorem dX4_does_203 : decode cX4_does 203 = .ok (.iconst 1, 1) := dk_4 (dk_at dksX4_does_8 16 rfl rfl)
theorem dX4_does_204 : decode cX4_does 204 = .ok (.goto 4, 3) := dk_167 0 4 (dk_at dksX4_does_8 17 rfl rfl)
theorem dX4_does_207 : decode cX4_does 207 = .ok (.iconst 0, 1) := dk_3 (dk_at dksX4_does_8 20 rfl rfl)
theorem dX4_does_208 : decode cX4_does 208 = .ok (.ireturn, 1) := dk_172 (dk_at dksX4_does_8 21 rfl rfl)
theorem dX4_does_209 : decode cX4_does 209 = .ok (.aload_n 0, 1) := dk_42 (dk_at dksX4_does_8 22 rfl rfl)
theorem dX4_does_210 : decode cX4_does 210 = .ok (.getfield 38, 3) := dk_180 0 38 (dk_at dksX4_does_9 0 rfl rfl)
theorem dX4_does_213 : decode cX4_does 213 = .ok (.iconst 0, 1) := dk_3 (dk_at dksX4_does_9 3 rfl rfl)
theorem dX4_does_214 : decode cX4_does 214 = .ok (.iaload, 1) := dk_46 (dk_at dksX4_does_9 4 rfl rfl)
theorem dX4_does_215 : decode cX4_does 215 = .ok (.aload_n 0, 1) := dk_42 (dk_at dksX4_does_9 5 rfl rfl)
theorem dX4_does_216 : decode cX4_does 216 = .ok (.getfield 7, 3) := dk_180 0 7 (dk_at dksX4_does_9 6 rfl rfl)
theorem dX4_does_219 : decode cX4_does 219 = .ok (.iconst 0, 1) := dk_3 (dk_at dksX4_does_9 9 rfl rfl)
theorem dX4_does_220 : decode cX4_does 220 = .ok (.iaload, 1) := dk_46 (dk_at dksX4_does_9 10 rfl rfl)
theorem dX4_does_221 : decode cX4_does 221 = .ok (.if_icmp .ge 26, 3) := dk_162 0 26 (dk_at dksX4_does_9 11 rfl rfl)
theorem dX4_does_224 : decode cX4_does 224 = .ok (.aload_n 0, 1) := dk_42 (dk_at dksX4_does_9 14 rfl rfl)
theorem dX4_does_225 : decode cX4_does 225 = .ok (.aload_n 0, 1) := dk_42 (dk_at dksX4_does_9 15 rfl rfl)
theorem dX4_does_226 : decode cX4_does 226 = .ok (.getfield 38, 3) := dk_180 0 38 (dk_at dksX4_does_9 16 rfl rfl)
theorem dX4_does_229 : decode cX4_does 229 = .ok (.iconst 0, 1) := dk_3 (dk_at dksX4_does_9 19 rfl rfl)
theorem dX4_does_230 : decode cX4_does 230 = .ok (.iaload, 1) := dk_46 (dk_at dksX4_does_9 20 rfl rfl)
theorem dX4_does_231 : decode cX4_does 231 = .ok (.aload_n 0, 1) := dk_42 (dk_at dksX4_does_9 21 rfl rfl)
theorem dX4_does_232 : decode cX4_does 232 = .ok (.getfield 38, 3) := dk_180 0 38 (dk_at dksX4_does_10 0 rfl rfl)
theorem dX4_does_235 : decode cX4_does 235 = .ok (.iconst 1, 1) := dk_4 (dk_at dksX4_does_10 3 rfl rfl)
theorem dX4_does_236 : decode cX4_does 236 = .ok (.iaload, 1) := dk_46 (dk_at dksX4_does_10 4 rfl rfl)
theorem dX4_does_237 : decode cX4_does 237 = .ok (.invokevirtual 294, 3) := dk_182 1 38 (dk_at dksX4_does_10 5 rfl rfl)
theorem dX4_does_240 : decode cX4_does 240 = .ok (.ifCond .lt 7, 3) := dk_155 0 7 (dk_at dksX4_does_10 8 rfl rfl)
theorem dX4_does_243 : decode cX4_does 243 = .ok (.iconst 1, 1) := dk_4 (dk_at dksX4_does_10 11 rfl rfl)
theorem dX4_does_244 : decode cX4_does 244 = .ok (.goto 4, 3) := dk_167 0 4 (dk_at dksX4_does_10 12 rfl rfl)
theorem dX4_does_247 : decode cX4_does 247 = .ok (.iconst 0, 1) := dk_3 (dk_at dksX4_does_10 15 rfl rfl)
theorem dX4_does_248 : decode cX4_does 248 = .ok (.ireturn, 1) := dk_172 (dk_at dksX4_does_10 16 rfl rfl)
theorem dX4_does_249 : decode cX4_does 249 = .ok (.aload_n 0, 1) := dk_42 (dk_at dksX4_does_10 17 rfl rfl)
theorem dX4_does_250 : decode cX4_does 250 = .ok (.aload_n 0, 1) := dk_42 (dk_at dksX4_does_10 18 rfl rfl)
theorem dX4_does_251 : decode cX4_does 251 = .ok (.getfield 38, 3) := dk_180 0 38 (dk_at dksX4_does_10 19 rfl rfl)
theorem dX4_does_254 : decode cX4_does 254 = .ok (.iconst 1, 1) := dk_4 (dk_at dksX4_does_10 22 rfl rfl)
theorem dX4_does_255 : decode cX4_does 255 = .ok (.iaload, 1) := dk_46 (dk_at dksX4_does_10 23 rfl rfl)
theorem dX4_does_256 : decode cX4_does 256 = .ok (.aload_n 0, 1) := dk_42 (dk_at dksX4_does_11 0 rfl rfl)
theorem dX4_does_257 : decode cX4_does 257 = .ok (.getfield 38, 3) := dk_180 0 38 (dk_at dksX4_does_11 1 rfl rfl)
theorem dX4_does_260 : decode cX4_does 260 = .ok (.iconst 0, 1) := dk_3 (dk_at dksX4_does_11 4 rfl rfl)
theorem dX4_does_261 : decode cX4_does 261 = .ok (.iaload, 1) := dk_46 (dk_at dksX4_does_11 5 rfl rfl)
theorem dX4_does_262 : decode cX4_does 262 = .ok (.invokevirtual 297, 3) := dk_182 1 41 (dk_at dksX4_does_11 6 rfl rfl)
theorem dX4_does_265 : decode cX4_does 265 = .ok (.ifCond .lt 7, 3) := dk_155 0 7 (dk_at dksX4_does_11 9 rfl rfl)
theorem dX4_does_268 : decode cX4_does 268 = .ok (.iconst 1, 1) := dk_4 (dk_at dksX4_does_11 12 rfl rfl)
theorem dX4_does_269 : decode cX4_does 269 = .ok (.goto 4, 3) := dk_167 0 4 (dk_at dksX4_does_11 13 rfl rfl)
theorem dX4_does_272 : decode cX4_does 272 = .ok (.iconst 0, 1) := dk_3 (dk_at dksX4_does_11 16 rfl rfl)
theorem dX4_does_273 : decode cX4_does 273 = .ok (.ireturn, 1) := dk_172 (dk_at dksX4_does_11 17 rfl rfl)
abbrev cX4_passesNow : ByteArray := prog_20_method_29_code
def yX4_passesNow : MethodName := ⟨RX4, "passesNow", "(II)I"⟩
def dkwX4_passesNow_1 : List UInt8 := [42, 180, 0, 25, 29, 4, 96, 28, 79, 42, 180, 0, 25, 29, 5, 96, 21, 4, 79, 21, 4, 172]
abbrev dktX4_passesNow_1 : List UInt8 := dkwX4_passesNow_1 ++ []
def dkwX4_passesNow_0 : List UInt8 := [6, 42, 180, 0, 7, 5, 46, 104, 62, 42, 27, 28, 182, 0, 139, 54, 4, 42, 180, 0, 25, 29, 27, 79]
abbrev dktX4_passesNow_0 : List UInt8 := dkwX4_passesNow_0 ++ dktX4_passesNow_1
theorem dksX4_passesNow_0 : cX4_passesNow.data.toList.drop 0 = dktX4_passesNow_0 := by decide +kernel
theorem dksX4_passesNow_1 : cX4_passesNow.data.toList.drop 24 = dktX4_passesNow_1 := dk_seg dksX4_passesNow_0 24 rfl rfl
theorem dX4_passesNow_0 : decode cX4_passesNow 0 = .ok (.iconst 3, 1) := dk_6 (dk_at dksX4_passesNow_0 0 rfl rfl)
theorem dX4_passesNow_1 : decode cX4_passesNow 1 = .ok (.aload_n 0, 1) := dk_42 (dk_at dksX4_passesNow_0 1 rfl rfl)
theorem dX4_passesNow_2 : decode cX4_passesNow 2 = .ok (.getfield 7, 3) := dk_180 0 7 (dk_at dksX4_passesNow_0 2 rfl rfl)
theorem dX4_passesNow_5 : decode cX4_passesNow 5 = .ok (.iconst 2, 1) := dk_5 (dk_at dksX4_passesNow_0 5 rfl rfl)
theorem dX4_passesNow_6 : decode cX4_passesNow 6 = .ok (.iaload, 1) := dk_46 (dk_at dksX4_passesNow_0 6 rfl rfl)
theorem dX4_passesNow_7 : decode cX4_passesNow 7 = .ok (.imul, 1) := dk_104 (dk_at dksX4_passesNow_0 7 rfl rfl)
theorem dX4_passesNow_8 : decode cX4_passesNow 8 = .ok (.istore_n 3, 1) := dk_62 (dk_at dksX4_passesNow_0 8 rfl rfl)
theorem dX4_passesNow_9 : decode cX4_passesNow 9 = .ok (.aload_n 0, 1) := dk_42 (dk_at dksX4_passesNow_0 9 rfl rfl)
theorem dX4_passesNow_10 : decode cX4_passesNow 10 = .ok (.iload_n 1, 1) := dk_27 (dk_at dksX4_passesNow_0 10 rfl rfl)
theorem dX4_passesNow_11 : decode cX4_passesNow 11 = .ok (.iload_n 2, 1) := dk_28 (dk_at dksX4_passesNow_0 11 rfl rfl)
theorem dX4_passesNow_12 : decode cX4_passesNow 12 = .ok (.invokevirtual 139, 3) := dk_182 0 139 (dk_at dksX4_passesNow_0 12 rfl rfl)
theorem dX4_passesNow_15 : decode cX4_passesNow 15 = .ok (.istore 4, 2) := dk_54 4 (dk_at dksX4_passesNow_0 15 rfl rfl)
theorem dX4_passesNow_17 : decode cX4_passesNow 17 = .ok (.aload_n 0, 1) := dk_42 (dk_at dksX4_passesNow_0 17 rfl rfl)
theorem dX4_passesNow_18 : decode cX4_passesNow 18 = .ok (.getfield 25, 3) := dk_180 0 25 (dk_at dksX4_passesNow_0 18 rfl rfl)
theorem dX4_passesNow_21 : decode cX4_passesNow 21 = .ok (.iload_n 3, 1) := dk_29 (dk_at dksX4_passesNow_0 21 rfl rfl)
theorem dX4_passesNow_22 : decode cX4_passesNow 22 = .ok (.iload_n 1, 1) := dk_27 (dk_at dksX4_passesNow_0 22 rfl rfl)
theorem dX4_passesNow_23 : decode cX4_passesNow 23 = .ok (.iastore, 1) := dk_79 (dk_at dksX4_passesNow_0 23 rfl rfl)
theorem dX4_passesNow_24 : decode cX4_passesNow 24 = .ok (.aload_n 0, 1) := dk_42 (dk_at dksX4_passesNow_1 0 rfl rfl)
theorem dX4_passesNow_25 : decode cX4_passesNow 25 = .ok (.getfield 25, 3) := dk_180 0 25 (dk_at dksX4_passesNow_1 1 rfl rfl)
theorem dX4_passesNow_28 : decode cX4_passesNow 28 = .ok (.iload_n 3, 1) := dk_29 (dk_at dksX4_passesNow_1 4 rfl rfl)
theorem dX4_passesNow_29 : decode cX4_passesNow 29 = .ok (.iconst 1, 1) := dk_4 (dk_at dksX4_passesNow_1 5 rfl rfl)
theorem dX4_passesNow_30 : decode cX4_passesNow 30 = .ok (.iadd, 1) := dk_96 (dk_at dksX4_passesNow_1 6 rfl rfl)
theorem dX4_passesNow_31 : decode cX4_passesNow 31 = .ok (.iload_n 2, 1) := dk_28 (dk_at dksX4_passesNow_1 7 rfl rfl)
theorem dX4_passesNow_32 : decode cX4_passesNow 32 = .ok (.iastore, 1) := dk_79 (dk_at dksX4_passesNow_1 8 rfl rfl)
theorem dX4_passesNow_33 : decode cX4_passesNow 33 = .ok (.aload_n 0, 1) := dk_42 (dk_at dksX4_passesNow_1 9 rfl rfl)
theorem dX4_passesNow_34 : decode cX4_passesNow 34 = .ok (.getfield 25, 3) := dk_180 0 25 (dk_at dksX4_passesNow_1 10 rfl rfl)
theorem dX4_passesNow_37 : decode cX4_passesNow 37 = .ok (.iload_n 3, 1) := dk_29 (dk_at dksX4_passesNow_1 13 rfl rfl)
theorem dX4_passesNow_38 : decode cX4_passesNow 38 = .ok (.iconst 2, 1) := dk_5 (dk_at dksX4_passesNow_1 14 rfl rfl)
theorem dX4_passesNow_39 : decode cX4_passesNow 39 = .ok (.iadd, 1) := dk_96 (dk_at dksX4_passesNow_1 15 rfl rfl)
theorem dX4_passesNow_40 : decode cX4_passesNow 40 = .ok (.iload 4, 2) := dk_21 4 (dk_at dksX4_passesNow_1 16 rfl rfl)
theorem dX4_passesNow_42 : decode cX4_passesNow 42 = .ok (.iastore, 1) := dk_79 (dk_at dksX4_passesNow_1 18 rfl rfl)
theorem dX4_passesNow_43 : decode cX4_passesNow 43 = .ok (.iload 4, 2) := dk_21 4 (dk_at dksX4_passesNow_1 19 rfl rfl)
theorem dX4_passesNow_45 : decode cX4_passesNow 45 = .ok (.ireturn, 1) := dk_172 (dk_at dksX4_passesNow_1 21 rfl rfl)
abbrev cX4_passes : ByteArray := prog_20_method_28_code
def yX4_passes : MethodName := ⟨RX4, "passes", "(II)I"⟩
def dkwX4_passes_0 : List UInt8 := [42, 27, 28, 42, 42, 180, 0, 7, 5, 46, 182, 0, 132, 182, 0, 136, 172]
abbrev dktX4_passes_0 : List UInt8 := dkwX4_passes_0 ++ []
theorem dksX4_passes_0 : cX4_passes.data.toList.drop 0 = dktX4_passes_0 := by decide +kernel
theorem dX4_passes_0 : decode cX4_passes 0 = .ok (.aload_n 0, 1) := dk_42 (dk_at dksX4_passes_0 0 rfl rfl)
theorem dX4_passes_1 : decode cX4_passes 1 = .ok (.iload_n 1, 1) := dk_27 (dk_at dksX4_passes_0 1 rfl rfl)
theorem dX4_passes_2 : decode cX4_passes 2 = .ok (.iload_n 2, 1) := dk_28 (dk_at dksX4_passes_0 2 rfl rfl)
theorem dX4_passes_3 : decode cX4_passes 3 = .ok (.aload_n 0, 1) := dk_42 (dk_at dksX4_passes_0 3 rfl rfl)
theorem dX4_passes_4 : decode cX4_passes 4 = .ok (.aload_n 0, 1) := dk_42 (dk_at dksX4_passes_0 4 rfl rfl)
theorem dX4_passes_5 : decode cX4_passes 5 = .ok (.getfield 7, 3) := dk_180 0 7 (dk_at dksX4_passes_0 5 rfl rfl)
theorem dX4_passes_8 : decode cX4_passes 8 = .ok (.iconst 2, 1) := dk_5 (dk_at dksX4_passes_0 8 rfl rfl)
theorem dX4_passes_9 : decode cX4_passes 9 = .ok (.iaload, 1) := dk_46 (dk_at dksX4_passes_0 9 rfl rfl)
theorem dX4_passes_10 : decode cX4_passes 10 = .ok (.invokevirtual 132, 3) := dk_182 0 132 (dk_at dksX4_passes_0 10 rfl rfl)
theorem dX4_passes_13 : decode cX4_passes 13 = .ok (.invokevirtual 136, 3) := dk_182 0 136 (dk_at dksX4_passes_0 13 rfl rfl)
theorem dX4_passes_16 : decode cX4_passes 16 = .ok (.ireturn, 1) := dk_172 (dk_at dksX4_passes_0 16 rfl rfl)
abbrev cX4_monthOf : ByteArray := prog_20_method_18_code
def yX4_monthOf : MethodName := ⟨RX4, "monthOf", "(I)I"⟩
def dkwX4_monthOf_0 : List UInt8 := [27, 16, 30, 108, 16, 12, 112, 172]
abbrev dktX4_monthOf_0 : List UInt8 := dkwX4_monthOf_0 ++ []
theorem dksX4_monthOf_0 : cX4_monthOf.data.toList.drop 0 = dktX4_monthOf_0 := by decide +kernel
theorem dX4_monthOf_0 : decode cX4_monthOf 0 = .ok (.iload_n 1, 1) := dk_27 (dk_at dksX4_monthOf_0 0 rfl rfl)
theorem dX4_monthOf_1 : decode cX4_monthOf 1 = .ok (.bipush 30, 2) := dk_16 30 (dk_at dksX4_monthOf_0 1 rfl rfl)
theorem dX4_monthOf_3 : decode cX4_monthOf 3 = .ok (.idiv, 1) := dk_108 (dk_at dksX4_monthOf_0 3 rfl rfl)
theorem dX4_monthOf_4 : decode cX4_monthOf 4 = .ok (.bipush 12, 2) := dk_16 12 (dk_at dksX4_monthOf_0 4 rfl rfl)
theorem dX4_monthOf_6 : decode cX4_monthOf 6 = .ok (.irem, 1) := dk_112 (dk_at dksX4_monthOf_0 6 rfl rfl)
theorem dX4_monthOf_7 : decode cX4_monthOf 7 = .ok (.ireturn, 1) := dk_172 (dk_at dksX4_monthOf_0 7 rfl rfl)
abbrev cX4_passesIn : ByteArray := prog_20_method_27_code
def yX4_passesIn : MethodName := ⟨RX4, "passesIn", "(III)I"⟩
def dkwX4_passesIn_9 : List UInt8 := [21, 4, 172]
abbrev dktX4_passesIn_9 : List UInt8 := dkwX4_passesIn_9 ++ []
def dkwX4_passesIn_8 : List UInt8 := [184, 0, 99, 182, 0, 112, 42, 21, 4, 28, 182, 0, 129, 42, 180, 0, 7, 5, 92, 46, 4, 96, 79]
abbrev dktX4_passesIn_8 : List UInt8 := dkwX4_passesIn_8 ++ dktX4_passesIn_9
def dkwX4_passesIn_7 : List UInt8 := [182, 0, 126, 132, 6, 1, 167, 255, 202, 42, 16, 8, 21, 5, 158, 0, 7, 4, 167, 0, 4, 3]
abbrev dktX4_passesIn_7 : List UInt8 := dkwX4_passesIn_7 ++ dktX4_passesIn_8
def dkwX4_passesIn_6 : List UInt8 := [21, 6, 7, 182, 0, 67, 28, 160, 0, 12, 42, 21, 6, 182, 0, 122, 167, 0, 9, 42, 21, 6]
abbrev dktX4_passesIn_6 : List UInt8 := dkwX4_passesIn_6 ++ dktX4_passesIn_7
def dkwX4_passesIn_5 : List UInt8 := [180, 0, 7, 3, 46, 162, 0, 49, 42, 21, 6, 27, 29, 182, 0, 95, 154, 0, 6, 167, 0, 29, 42]
abbrev dktX4_passesIn_5 : List UInt8 := dkwX4_passesIn_5 ++ dktX4_passesIn_6
def dkwX4_passesIn_4 : List UInt8 := [4, 167, 0, 4, 3, 184, 0, 99, 96, 54, 5, 132, 6, 1, 167, 255, 163, 3, 54, 6, 21, 6, 42]
abbrev dktX4_passesIn_4 : List UInt8 := dkwX4_passesIn_4 ++ dktX4_passesIn_5
def dkwX4_passesIn_3 : List UInt8 := [28, 182, 0, 119, 132, 7, 1, 167, 255, 222, 21, 5, 42, 21, 6, 7, 182, 0, 67, 21, 4, 159, 0, 7]
abbrev dktX4_passesIn_3 : List UInt8 := dkwX4_passesIn_3 ++ dktX4_passesIn_4
def dkwX4_passesIn_2 : List UInt8 := [180, 0, 7, 3, 46, 162, 0, 29, 42, 21, 7, 27, 29, 182, 0, 95, 153, 0, 12, 42, 21, 6, 21, 7]
abbrev dktX4_passesIn_2 : List UInt8 := dkwX4_passesIn_2 ++ dktX4_passesIn_3
def dkwX4_passesIn_1 : List UInt8 := [162, 0, 88, 42, 21, 6, 27, 29, 182, 0, 95, 154, 0, 6, 167, 0, 68, 3, 54, 7, 21, 7, 42]
abbrev dktX4_passesIn_1 : List UInt8 := dkwX4_passesIn_1 ++ dktX4_passesIn_2
def dkwX4_passesIn_0 : List UInt8 := [42, 27, 29, 182, 0, 116, 54, 4, 3, 54, 5, 3, 54, 6, 21, 6, 42, 180, 0, 7, 3, 46]
abbrev dktX4_passesIn_0 : List UInt8 := dkwX4_passesIn_0 ++ dktX4_passesIn_1
theorem dksX4_passesIn_0 : cX4_passesIn.data.toList.drop 0 = dktX4_passesIn_0 := by decide +kernel
theorem dksX4_passesIn_1 : cX4_passesIn.data.toList.drop 22 = dktX4_passesIn_1 := dk_seg dksX4_passesIn_0 22 rfl rfl
theorem dksX4_passesIn_2 : cX4_passesIn.data.toList.drop 45 = dktX4_passesIn_2 := dk_seg dksX4_passesIn_1 23 rfl rfl
theorem dksX4_passesIn_3 : cX4_passesIn.data.toList.drop 69 = dktX4_passesIn_3 := dk_seg dksX4_passesIn_2 24 rfl rfl
theorem dksX4_passesIn_4 : cX4_passesIn.data.toList.drop 93 = dktX4_passesIn_4 := dk_seg dksX4_passesIn_3 24 rfl rfl
theorem dksX4_passesIn_5 : cX4_passesIn.data.toList.drop 116 = dktX4_passesIn_5 := dk_seg dksX4_passesIn_4 23 rfl rfl
theorem dksX4_passesIn_6 : cX4_passesIn.data.toList.drop 139 = dktX4_passesIn_6 := dk_seg dksX4_passesIn_5 23 rfl rfl
theorem dksX4_passesIn_7 : cX4_passesIn.data.toList.drop 161 = dktX4_passesIn_7 := dk_seg dksX4_passesIn_6 22 rfl rfl
theorem dksX4_passesIn_8 : cX4_passesIn.data.toList.drop 183 = dktX4_passesIn_8 := dk_seg dksX4_passesIn_7 22 rfl rfl
theorem dksX4_passesIn_9 : cX4_passesIn.data.toList.drop 206 = dktX4_passesIn_9 := dk_seg dksX4_passesIn_8 23 rfl rfl
theorem dX4_passesIn_0 : decode cX4_passesIn 0 = .ok (.aload_n 0, 1) := dk_42 (dk_at dksX4_passesIn_0 0 rfl rfl)
theorem dX4_passesIn_1 : decode cX4_passesIn 1 = .ok (.iload_n 1, 1) := dk_27 (dk_at dksX4_passesIn_0 1 rfl rfl)
theorem dX4_passesIn_2 : decode cX4_passesIn 2 = .ok (.iload_n 3, 1) := dk_29 (dk_at dksX4_passesIn_0 2 rfl rfl)
theorem dX4_passesIn_3 : decode cX4_passesIn 3 = .ok (.invokevirtual 116, 3) := dk_182 0 116 (dk_at dksX4_passesIn_0 3 rfl rfl)
theorem dX4_passesIn_6 : decode cX4_passesIn 6 = .ok (.istore 4, 2) := dk_54 4 (dk_at dksX4_passesIn_0 6 rfl rfl)
theorem dX4_passesIn_8 : decode cX4_passesIn 8 = .ok (.iconst 0, 1) := dk_3 (dk_at dksX4_passesIn_0 8 rfl rfl)
theorem dX4_passesIn_9 : decode cX4_passesIn 9 = .ok (.istore 5, 2) := dk_54 5 (dk_at dksX4_passesIn_0 9 rfl rfl)
theorem dX4_passesIn_11 : decode cX4_passesIn 11 = .ok (.iconst 0, 1) := dk_3 (dk_at dksX4_passesIn_0 11 rfl rfl)
theorem dX4_passesIn_12 : decode cX4_passesIn 12 = .ok (.istore 6, 2) := dk_54 6 (dk_at dksX4_passesIn_0 12 rfl rfl)
theorem dX4_passesIn_14 : decode cX4_passesIn 14 = .ok (.iload 6, 2) := dk_21 6 (dk_at dksX4_passesIn_0 14 rfl rfl)
theorem dX4_passesIn_16 : decode cX4_passesIn 16 = .ok (.aload_n 0, 1) := dk_42 (dk_at dksX4_passesIn_0 16 rfl rfl)
theorem dX4_passesIn_17 : decode cX4_passesIn 17 = .ok (.getfield 7, 3) := dk_180 0 7 (dk_at dksX4_passesIn_0 17 rfl rfl)
theorem dX4_passesIn_20 : decode cX4_passesIn 20 = .ok (.iconst 0, 1) := dk_3 (dk_at dksX4_passesIn_0 20 rfl rfl)
theorem dX4_passesIn_21 : decode cX4_passesIn 21 = .ok (.iaload, 1) := dk_46 (dk_at dksX4_passesIn_0 21 rfl rfl)
theorem dX4_passesIn_22 : decode cX4_passesIn 22 = .ok (.if_icmp .ge 88, 3) := dk_162 0 88 (dk_at dksX4_passesIn_1 0 rfl rfl)
theorem dX4_passesIn_25 : decode cX4_passesIn 25 = .ok (.aload_n 0, 1) := dk_42 (dk_at dksX4_passesIn_1 3 rfl rfl)
theorem dX4_passesIn_26 : decode cX4_passesIn 26 = .ok (.iload 6, 2) := dk_21 6 (dk_at dksX4_passesIn_1 4 rfl rfl)
theorem dX4_passesIn_28 : decode cX4_passesIn 28 = .ok (.iload_n 1, 1) := dk_27 (dk_at dksX4_passesIn_1 6 rfl rfl)
theorem dX4_passesIn_29 : decode cX4_passesIn 29 = .ok (.iload_n 3, 1) := dk_29 (dk_at dksX4_passesIn_1 7 rfl rfl)
theorem dX4_passesIn_30 : decode cX4_passesIn 30 = .ok (.invokevirtual 95, 3) := dk_182 0 95 (dk_at dksX4_passesIn_1 8 rfl rfl)
theorem dX4_passesIn_33 : decode cX4_passesIn 33 = .ok (.ifCond .ne 6, 3) := dk_154 0 6 (dk_at dksX4_passesIn_1 11 rfl rfl)
theorem dX4_passesIn_36 : decode cX4_passesIn 36 = .ok (.goto 68, 3) := dk_167 0 68 (dk_at dksX4_passesIn_1 14 rfl rfl)
theorem dX4_passesIn_39 : decode cX4_passesIn 39 = .ok (.iconst 0, 1) := dk_3 (dk_at dksX4_passesIn_1 17 rfl rfl)
theorem dX4_passesIn_40 : decode cX4_passesIn 40 = .ok (.istore 7, 2) := dk_54 7 (dk_at dksX4_passesIn_1 18 rfl rfl)
theorem dX4_passesIn_42 : decode cX4_passesIn 42 = .ok (.iload 7, 2) := dk_21 7 (dk_at dksX4_passesIn_1 20 rfl rfl)
theorem dX4_passesIn_44 : decode cX4_passesIn 44 = .ok (.aload_n 0, 1) := dk_42 (dk_at dksX4_passesIn_1 22 rfl rfl)
theorem dX4_passesIn_45 : decode cX4_passesIn 45 = .ok (.getfield 7, 3) := dk_180 0 7 (dk_at dksX4_passesIn_2 0 rfl rfl)
theorem dX4_passesIn_48 : decode cX4_passesIn 48 = .ok (.iconst 0, 1) := dk_3 (dk_at dksX4_passesIn_2 3 rfl rfl)
theorem dX4_passesIn_49 : decode cX4_passesIn 49 = .ok (.iaload, 1) := dk_46 (dk_at dksX4_passesIn_2 4 rfl rfl)
theorem dX4_passesIn_50 : decode cX4_passesIn 50 = .ok (.if_icmp .ge 29, 3) := dk_162 0 29 (dk_at dksX4_passesIn_2 5 rfl rfl)
theorem dX4_passesIn_53 : decode cX4_passesIn 53 = .ok (.aload_n 0, 1) := dk_42 (dk_at dksX4_passesIn_2 8 rfl rfl)
theorem dX4_passesIn_54 : decode cX4_passesIn 54 = .ok (.iload 7, 2) := dk_21 7 (dk_at dksX4_passesIn_2 9 rfl rfl)
theorem dX4_passesIn_56 : decode cX4_passesIn 56 = .ok (.iload_n 1, 1) := dk_27 (dk_at dksX4_passesIn_2 11 rfl rfl)
theorem dX4_passesIn_57 : decode cX4_passesIn 57 = .ok (.iload_n 3, 1) := dk_29 (dk_at dksX4_passesIn_2 12 rfl rfl)
theorem dX4_passesIn_58 : decode cX4_passesIn 58 = .ok (.invokevirtual 95, 3) := dk_182 0 95 (dk_at dksX4_passesIn_2 13 rfl rfl)
theorem dX4_passesIn_61 : decode cX4_passesIn 61 = .ok (.ifCond .eq 12, 3) := dk_153 0 12 (dk_at dksX4_passesIn_2 16 rfl rfl)
theorem dX4_passesIn_64 : decode cX4_passesIn 64 = .ok (.aload_n 0, 1) := dk_42 (dk_at dksX4_passesIn_2 19 rfl rfl)
theorem dX4_passesIn_65 : decode cX4_passesIn 65 = .ok (.iload 6, 2) := dk_21 6 (dk_at dksX4_passesIn_2 20 rfl rfl)
theorem dX4_passesIn_67 : decode cX4_passesIn 67 = .ok (.iload 7, 2) := dk_21 7 (dk_at dksX4_passesIn_2 22 rfl rfl)
theorem dX4_passesIn_69 : decode cX4_passesIn 69 = .ok (.iload_n 2, 1) := dk_28 (dk_at dksX4_passesIn_3 0 rfl rfl)
theorem dX4_passesIn_70 : decode cX4_passesIn 70 = .ok (.invokevirtual 119, 3) := dk_182 0 119 (dk_at dksX4_passesIn_3 1 rfl rfl)
theorem dX4_passesIn_73 : decode cX4_passesIn 73 = .ok (.iinc 7 1, 3) := dk_132 7 1 (dk_at dksX4_passesIn_3 4 rfl rfl)
theorem dX4_passesIn_76 : decode cX4_passesIn 76 = .ok (.goto (-34), 3) := dk_167 255 222 (dk_at dksX4_passesIn_3 7 rfl rfl)
theorem dX4_passesIn_79 : decode cX4_passesIn 79 = .ok (.iload 5, 2) := dk_21 5 (dk_at dksX4_passesIn_3 10 rfl rfl)
theorem dX4_passesIn_81 : decode cX4_passesIn 81 = .ok (.aload_n 0, 1) := dk_42 (dk_at dksX4_passesIn_3 12 rfl rfl)
theorem dX4_passesIn_82 : decode cX4_passesIn 82 = .ok (.iload 6, 2) := dk_21 6 (dk_at dksX4_passesIn_3 13 rfl rfl)
theorem dX4_passesIn_84 : decode cX4_passesIn 84 = .ok (.iconst 4, 1) := dk_7 (dk_at dksX4_passesIn_3 15 rfl rfl)
theorem dX4_passesIn_85 : decode cX4_passesIn 85 = .ok (.invokevirtual 67, 3) := dk_182 0 67 (dk_at dksX4_passesIn_3 16 rfl rfl)
theorem dX4_passesIn_88 : decode cX4_passesIn 88 = .ok (.iload 4, 2) := dk_21 4 (dk_at dksX4_passesIn_3 19 rfl rfl)
theorem dX4_passesIn_90 : decode cX4_passesIn 90 = .ok (.if_icmp .eq 7, 3) := dk_159 0 7 (dk_at dksX4_passesIn_3 21 rfl rfl)
theorem dX4_passesIn_93 : decode cX4_passesIn 93 = .ok (.iconst 1, 1) := dk_4 (dk_at dksX4_passesIn_4 0 rfl rfl)
theorem dX4_passesIn_94 : decode cX4_passesIn 94 = .ok (.goto 4, 3) := dk_167 0 4 (dk_at dksX4_passesIn_4 1 rfl rfl)
theorem dX4_passesIn_97 : decode cX4_passesIn 97 = .ok (.iconst 0, 1) := dk_3 (dk_at dksX4_passesIn_4 4 rfl rfl)
theorem dX4_passesIn_98 : decode cX4_passesIn 98 = .ok (.invokestatic 99, 3) := dk_184 0 99 (dk_at dksX4_passesIn_4 5 rfl rfl)
theorem dX4_passesIn_101 : decode cX4_passesIn 101 = .ok (.iadd, 1) := dk_96 (dk_at dksX4_passesIn_4 8 rfl rfl)
theorem dX4_passesIn_102 : decode cX4_passesIn 102 = .ok (.istore 5, 2) := dk_54 5 (dk_at dksX4_passesIn_4 9 rfl rfl)
theorem dX4_passesIn_104 : decode cX4_passesIn 104 = .ok (.iinc 6 1, 3) := dk_132 6 1 (dk_at dksX4_passesIn_4 11 rfl rfl)
theorem dX4_passesIn_107 : decode cX4_passesIn 107 = .ok (.goto (-93), 3) := dk_167 255 163 (dk_at dksX4_passesIn_4 14 rfl rfl)
theorem dX4_passesIn_110 : decode cX4_passesIn 110 = .ok (.iconst 0, 1) := dk_3 (dk_at dksX4_passesIn_4 17 rfl rfl)
theorem dX4_passesIn_111 : decode cX4_passesIn 111 = .ok (.istore 6, 2) := dk_54 6 (dk_at dksX4_passesIn_4 18 rfl rfl)
theorem dX4_passesIn_113 : decode cX4_passesIn 113 = .ok (.iload 6, 2) := dk_21 6 (dk_at dksX4_passesIn_4 20 rfl rfl)
theorem dX4_passesIn_115 : decode cX4_passesIn 115 = .ok (.aload_n 0, 1) := dk_42 (dk_at dksX4_passesIn_4 22 rfl rfl)
theorem dX4_passesIn_116 : decode cX4_passesIn 116 = .ok (.getfield 7, 3) := dk_180 0 7 (dk_at dksX4_passesIn_5 0 rfl rfl)
theorem dX4_passesIn_119 : decode cX4_passesIn 119 = .ok (.iconst 0, 1) := dk_3 (dk_at dksX4_passesIn_5 3 rfl rfl)
theorem dX4_passesIn_120 : decode cX4_passesIn 120 = .ok (.iaload, 1) := dk_46 (dk_at dksX4_passesIn_5 4 rfl rfl)
theorem dX4_passesIn_121 : decode cX4_passesIn 121 = .ok (.if_icmp .ge 49, 3) := dk_162 0 49 (dk_at dksX4_passesIn_5 5 rfl rfl)
theorem dX4_passesIn_124 : decode cX4_passesIn 124 = .ok (.aload_n 0, 1) := dk_42 (dk_at dksX4_passesIn_5 8 rfl rfl)
theorem dX4_passesIn_125 : decode cX4_passesIn 125 = .ok (.iload 6, 2) := dk_21 6 (dk_at dksX4_passesIn_5 9 rfl rfl)
theorem dX4_passesIn_127 : decode cX4_passesIn 127 = .ok (.iload_n 1, 1) := dk_27 (dk_at dksX4_passesIn_5 11 rfl rfl)
theorem dX4_passesIn_128 : decode cX4_passesIn 128 = .ok (.iload_n 3, 1) := dk_29 (dk_at dksX4_passesIn_5 12 rfl rfl)
theorem dX4_passesIn_129 : decode cX4_passesIn 129 = .ok (.invokevirtual 95, 3) := dk_182 0 95 (dk_at dksX4_passesIn_5 13 rfl rfl)
theorem dX4_passesIn_132 : decode cX4_passesIn 132 = .ok (.ifCond .ne 6, 3) := dk_154 0 6 (dk_at dksX4_passesIn_5 16 rfl rfl)
theorem dX4_passesIn_135 : decode cX4_passesIn 135 = .ok (.goto 29, 3) := dk_167 0 29 (dk_at dksX4_passesIn_5 19 rfl rfl)
theorem dX4_passesIn_138 : decode cX4_passesIn 138 = .ok (.aload_n 0, 1) := dk_42 (dk_at dksX4_passesIn_5 22 rfl rfl)
theorem dX4_passesIn_139 : decode cX4_passesIn 139 = .ok (.iload 6, 2) := dk_21 6 (dk_at dksX4_passesIn_6 0 rfl rfl)
theorem dX4_passesIn_141 : decode cX4_passesIn 141 = .ok (.iconst 4, 1) := dk_7 (dk_at dksX4_passesIn_6 2 rfl rfl)
theorem dX4_passesIn_142 : decode cX4_passesIn 142 = .ok (.invokevirtual 67, 3) := dk_182 0 67 (dk_at dksX4_passesIn_6 3 rfl rfl)
theorem dX4_passesIn_145 : decode cX4_passesIn 145 = .ok (.iload_n 2, 1) := dk_28 (dk_at dksX4_passesIn_6 6 rfl rfl)
theorem dX4_passesIn_146 : decode cX4_passesIn 146 = .ok (.if_icmp .ne 12, 3) := dk_160 0 12 (dk_at dksX4_passesIn_6 7 rfl rfl)
theorem dX4_passesIn_149 : decode cX4_passesIn 149 = .ok (.aload_n 0, 1) := dk_42 (dk_at dksX4_passesIn_6 10 rfl rfl)
theorem dX4_passesIn_150 : decode cX4_passesIn 150 = .ok (.iload 6, 2) := dk_21 6 (dk_at dksX4_passesIn_6 11 rfl rfl)
theorem dX4_passesIn_152 : decode cX4_passesIn 152 = .ok (.invokevirtual 122, 3) := dk_182 0 122 (dk_at dksX4_passesIn_6 13 rfl rfl)
theorem dX4_passesIn_155 : decode cX4_passesIn 155 = .ok (.goto 9, 3) := dk_167 0 9 (dk_at dksX4_passesIn_6 16 rfl rfl)
theorem dX4_passesIn_158 : decode cX4_passesIn 158 = .ok (.aload_n 0, 1) := dk_42 (dk_at dksX4_passesIn_6 19 rfl rfl)
theorem dX4_passesIn_159 : decode cX4_passesIn 159 = .ok (.iload 6, 2) := dk_21 6 (dk_at dksX4_passesIn_6 20 rfl rfl)
theorem dX4_passesIn_161 : decode cX4_passesIn 161 = .ok (.invokevirtual 126, 3) := dk_182 0 126 (dk_at dksX4_passesIn_7 0 rfl rfl)
theorem dX4_passesIn_164 : decode cX4_passesIn 164 = .ok (.iinc 6 1, 3) := dk_132 6 1 (dk_at dksX4_passesIn_7 3 rfl rfl)
theorem dX4_passesIn_167 : decode cX4_passesIn 167 = .ok (.goto (-54), 3) := dk_167 255 202 (dk_at dksX4_passesIn_7 6 rfl rfl)
theorem dX4_passesIn_170 : decode cX4_passesIn 170 = .ok (.aload_n 0, 1) := dk_42 (dk_at dksX4_passesIn_7 9 rfl rfl)
theorem dX4_passesIn_171 : decode cX4_passesIn 171 = .ok (.bipush 8, 2) := dk_16 8 (dk_at dksX4_passesIn_7 10 rfl rfl)
theorem dX4_passesIn_173 : decode cX4_passesIn 173 = .ok (.iload 5, 2) := dk_21 5 (dk_at dksX4_passesIn_7 12 rfl rfl)
theorem dX4_passesIn_175 : decode cX4_passesIn 175 = .ok (.ifCond .le 7, 3) := dk_158 0 7 (dk_at dksX4_passesIn_7 14 rfl rfl)
theorem dX4_passesIn_178 : decode cX4_passesIn 178 = .ok (.iconst 1, 1) := dk_4 (dk_at dksX4_passesIn_7 17 rfl rfl)
theorem dX4_passesIn_179 : decode cX4_passesIn 179 = .ok (.goto 4, 3) := dk_167 0 4 (dk_at dksX4_passesIn_7 18 rfl rfl)
theorem dX4_passesIn_182 : decode cX4_passesIn 182 = .ok (.iconst 0, 1) := dk_3 (dk_at dksX4_passesIn_7 21 rfl rfl)
theorem dX4_passesIn_183 : decode cX4_passesIn 183 = .ok (.invokestatic 99, 3) := dk_184 0 99 (dk_at dksX4_passesIn_8 0 rfl rfl)
theorem dX4_passesIn_186 : decode cX4_passesIn 186 = .ok (.invokevirtual 112, 3) := dk_182 0 112 (dk_at dksX4_passesIn_8 3 rfl rfl)
theorem dX4_passesIn_189 : decode cX4_passesIn 189 = .ok (.aload_n 0, 1) := dk_42 (dk_at dksX4_passesIn_8 6 rfl rfl)
theorem dX4_passesIn_190 : decode cX4_passesIn 190 = .ok (.iload 4, 2) := dk_21 4 (dk_at dksX4_passesIn_8 7 rfl rfl)
theorem dX4_passesIn_192 : decode cX4_passesIn 192 = .ok (.iload_n 2, 1) := dk_28 (dk_at dksX4_passesIn_8 9 rfl rfl)
theorem dX4_passesIn_193 : decode cX4_passesIn 193 = .ok (.invokevirtual 129, 3) := dk_182 0 129 (dk_at dksX4_passesIn_8 10 rfl rfl)
theorem dX4_passesIn_196 : decode cX4_passesIn 196 = .ok (.aload_n 0, 1) := dk_42 (dk_at dksX4_passesIn_8 13 rfl rfl)
theorem dX4_passesIn_197 : decode cX4_passesIn 197 = .ok (.getfield 7, 3) := dk_180 0 7 (dk_at dksX4_passesIn_8 14 rfl rfl)
theorem dX4_passesIn_200 : decode cX4_passesIn 200 = .ok (.iconst 2, 1) := dk_5 (dk_at dksX4_passesIn_8 17 rfl rfl)
theorem dX4_passesIn_201 : decode cX4_passesIn 201 = .ok (.dup2, 1) := dk_92 (dk_at dksX4_passesIn_8 18 rfl rfl)
theorem dX4_passesIn_202 : decode cX4_passesIn 202 = .ok (.iaload, 1) := dk_46 (dk_at dksX4_passesIn_8 19 rfl rfl)
theorem dX4_passesIn_203 : decode cX4_passesIn 203 = .ok (.iconst 1, 1) := dk_4 (dk_at dksX4_passesIn_8 20 rfl rfl)
theorem dX4_passesIn_204 : decode cX4_passesIn 204 = .ok (.iadd, 1) := dk_96 (dk_at dksX4_passesIn_8 21 rfl rfl)
theorem dX4_passesIn_205 : decode cX4_passesIn 205 = .ok (.iastore, 1) := dk_79 (dk_at dksX4_passesIn_8 22 rfl rfl)
theorem dX4_passesIn_206 : decode cX4_passesIn 206 = .ok (.iload 4, 2) := dk_21 4 (dk_at dksX4_passesIn_9 0 rfl rfl)
theorem dX4_passesIn_208 : decode cX4_passesIn 208 = .ok (.ireturn, 1) := dk_172 (dk_at dksX4_passesIn_9 2 rfl rfl)
abbrev cX4_toldAt : ByteArray := prog_20_method_22_code
def yX4_toldAt : MethodName := ⟨RX4, "toldAt", "(II)I"⟩
def dkwX4_toldAt_2 : List UInt8 := [167, 255, 218, 29, 172]
abbrev dktX4_toldAt_2 : List UInt8 := dkwX4_toldAt_2 ++ []
def dkwX4_toldAt_1 : List UInt8 := [21, 6, 21, 4, 164, 0, 6, 21, 5, 62, 21, 4, 21, 6, 184, 0, 103, 54, 4, 132, 5, 1]
abbrev dktX4_toldAt_1 : List UInt8 := dkwX4_toldAt_1 ++ dktX4_toldAt_2
def dkwX4_toldAt_0 : List UInt8 := [2, 62, 3, 54, 4, 3, 54, 5, 21, 5, 8, 162, 0, 38, 42, 27, 28, 21, 5, 182, 0, 106, 54, 6]
abbrev dktX4_toldAt_0 : List UInt8 := dkwX4_toldAt_0 ++ dktX4_toldAt_1
theorem dksX4_toldAt_0 : cX4_toldAt.data.toList.drop 0 = dktX4_toldAt_0 := by decide +kernel
theorem dksX4_toldAt_1 : cX4_toldAt.data.toList.drop 24 = dktX4_toldAt_1 := dk_seg dksX4_toldAt_0 24 rfl rfl
theorem dksX4_toldAt_2 : cX4_toldAt.data.toList.drop 46 = dktX4_toldAt_2 := dk_seg dksX4_toldAt_1 22 rfl rfl
theorem dX4_toldAt_0 : decode cX4_toldAt 0 = .ok (.iconst (-1), 1) := dk_2 (dk_at dksX4_toldAt_0 0 rfl rfl)
theorem dX4_toldAt_1 : decode cX4_toldAt 1 = .ok (.istore_n 3, 1) := dk_62 (dk_at dksX4_toldAt_0 1 rfl rfl)
theorem dX4_toldAt_2 : decode cX4_toldAt 2 = .ok (.iconst 0, 1) := dk_3 (dk_at dksX4_toldAt_0 2 rfl rfl)
theorem dX4_toldAt_3 : decode cX4_toldAt 3 = .ok (.istore 4, 2) := dk_54 4 (dk_at dksX4_toldAt_0 3 rfl rfl)
theorem dX4_toldAt_5 : decode cX4_toldAt 5 = .ok (.iconst 0, 1) := dk_3 (dk_at dksX4_toldAt_0 5 rfl rfl)
theorem dX4_toldAt_6 : decode cX4_toldAt 6 = .ok (.istore 5, 2) := dk_54 5 (dk_at dksX4_toldAt_0 6 rfl rfl)
theorem dX4_toldAt_8 : decode cX4_toldAt 8 = .ok (.iload 5, 2) := dk_21 5 (dk_at dksX4_toldAt_0 8 rfl rfl)
theorem dX4_toldAt_10 : decode cX4_toldAt 10 = .ok (.iconst 5, 1) := dk_8 (dk_at dksX4_toldAt_0 10 rfl rfl)
theorem dX4_toldAt_11 : decode cX4_toldAt 11 = .ok (.if_icmp .ge 38, 3) := dk_162 0 38 (dk_at dksX4_toldAt_0 11 rfl rfl)
theorem dX4_toldAt_14 : decode cX4_toldAt 14 = .ok (.aload_n 0, 1) := dk_42 (dk_at dksX4_toldAt_0 14 rfl rfl)
theorem dX4_toldAt_15 : decode cX4_toldAt 15 = .ok (.iload_n 1, 1) := dk_27 (dk_at dksX4_toldAt_0 15 rfl rfl)
theorem dX4_toldAt_16 : decode cX4_toldAt 16 = .ok (.iload_n 2, 1) := dk_28 (dk_at dksX4_toldAt_0 16 rfl rfl)
theorem dX4_toldAt_17 : decode cX4_toldAt 17 = .ok (.iload 5, 2) := dk_21 5 (dk_at dksX4_toldAt_0 17 rfl rfl)
theorem dX4_toldAt_19 : decode cX4_toldAt 19 = .ok (.invokevirtual 106, 3) := dk_182 0 106 (dk_at dksX4_toldAt_0 19 rfl rfl)
theorem dX4_toldAt_22 : decode cX4_toldAt 22 = .ok (.istore 6, 2) := dk_54 6 (dk_at dksX4_toldAt_0 22 rfl rfl)
theorem dX4_toldAt_24 : decode cX4_toldAt 24 = .ok (.iload 6, 2) := dk_21 6 (dk_at dksX4_toldAt_1 0 rfl rfl)
theorem dX4_toldAt_26 : decode cX4_toldAt 26 = .ok (.iload 4, 2) := dk_21 4 (dk_at dksX4_toldAt_1 2 rfl rfl)
theorem dX4_toldAt_28 : decode cX4_toldAt 28 = .ok (.if_icmp .le 6, 3) := dk_164 0 6 (dk_at dksX4_toldAt_1 4 rfl rfl)
theorem dX4_toldAt_31 : decode cX4_toldAt 31 = .ok (.iload 5, 2) := dk_21 5 (dk_at dksX4_toldAt_1 7 rfl rfl)
theorem dX4_toldAt_33 : decode cX4_toldAt 33 = .ok (.istore_n 3, 1) := dk_62 (dk_at dksX4_toldAt_1 9 rfl rfl)
theorem dX4_toldAt_34 : decode cX4_toldAt 34 = .ok (.iload 4, 2) := dk_21 4 (dk_at dksX4_toldAt_1 10 rfl rfl)
theorem dX4_toldAt_36 : decode cX4_toldAt 36 = .ok (.iload 6, 2) := dk_21 6 (dk_at dksX4_toldAt_1 12 rfl rfl)
theorem dX4_toldAt_38 : decode cX4_toldAt 38 = .ok (.invokestatic 103, 3) := dk_184 0 103 (dk_at dksX4_toldAt_1 14 rfl rfl)
theorem dX4_toldAt_41 : decode cX4_toldAt 41 = .ok (.istore 4, 2) := dk_54 4 (dk_at dksX4_toldAt_1 17 rfl rfl)
theorem dX4_toldAt_43 : decode cX4_toldAt 43 = .ok (.iinc 5 1, 3) := dk_132 5 1 (dk_at dksX4_toldAt_1 19 rfl rfl)
theorem dX4_toldAt_46 : decode cX4_toldAt 46 = .ok (.goto (-38), 3) := dk_167 255 218 (dk_at dksX4_toldAt_2 0 rfl rfl)
theorem dX4_toldAt_49 : decode cX4_toldAt 49 = .ok (.iload_n 3, 1) := dk_29 (dk_at dksX4_toldAt_2 3 rfl rfl)
theorem dX4_toldAt_50 : decode cX4_toldAt 50 = .ok (.ireturn, 1) := dk_172 (dk_at dksX4_toldAt_2 4 rfl rfl)
abbrev cX4_voiceOf : ByteArray := prog_20_method_21_code
def yX4_voiceOf : MethodName := ⟨RX4, "voiceOf", "(III)I"⟩
def dkwX4_voiceOf_5 : List UInt8 := [21, 6, 104, 21, 5, 96, 172]
abbrev dktX4_voiceOf_5 : List UInt8 := dkwX4_voiceOf_5 ++ []
def dkwX4_voiceOf_4 : List UInt8 := [21, 4, 167, 0, 27, 42, 180, 0, 7, 8, 46, 4, 160, 0, 8, 21, 5, 167, 0, 12, 17, 3, 232]
abbrev dktX4_voiceOf_4 : List UInt8 := dkwX4_voiceOf_4 ++ dktX4_voiceOf_5
def dkwX4_voiceOf_3 : List UInt8 := [184, 0, 103, 54, 5, 132, 6, 1, 132, 7, 1, 167, 255, 186, 42, 180, 0, 7, 8, 46, 154, 0, 8]
abbrev dktX4_voiceOf_3 : List UInt8 := dkwX4_voiceOf_3 ++ dktX4_voiceOf_4
def dkwX4_voiceOf_2 : List UInt8 := [21, 4, 42, 21, 7, 16, 6, 182, 0, 67, 96, 54, 4, 21, 5, 42, 21, 7, 16, 6, 182, 0, 67]
abbrev dktX4_voiceOf_2 : List UInt8 := dkwX4_voiceOf_2 ++ dktX4_voiceOf_3
def dkwX4_voiceOf_1 : List UInt8 := [21, 7, 27, 28, 182, 0, 95, 153, 0, 48, 42, 21, 7, 7, 182, 0, 67, 29, 159, 0, 6, 167, 0, 34]
abbrev dktX4_voiceOf_1 : List UInt8 := dkwX4_voiceOf_1 ++ dktX4_voiceOf_2
def dkwX4_voiceOf_0 : List UInt8 := [3, 54, 4, 3, 54, 5, 3, 54, 6, 3, 54, 7, 21, 7, 42, 180, 0, 7, 3, 46, 162, 0, 65, 42]
abbrev dktX4_voiceOf_0 : List UInt8 := dkwX4_voiceOf_0 ++ dktX4_voiceOf_1
theorem dksX4_voiceOf_0 : cX4_voiceOf.data.toList.drop 0 = dktX4_voiceOf_0 := by decide +kernel
theorem dksX4_voiceOf_1 : cX4_voiceOf.data.toList.drop 24 = dktX4_voiceOf_1 := dk_seg dksX4_voiceOf_0 24 rfl rfl
theorem dksX4_voiceOf_2 : cX4_voiceOf.data.toList.drop 48 = dktX4_voiceOf_2 := dk_seg dksX4_voiceOf_1 24 rfl rfl
theorem dksX4_voiceOf_3 : cX4_voiceOf.data.toList.drop 71 = dktX4_voiceOf_3 := dk_seg dksX4_voiceOf_2 23 rfl rfl
theorem dksX4_voiceOf_4 : cX4_voiceOf.data.toList.drop 94 = dktX4_voiceOf_4 := dk_seg dksX4_voiceOf_3 23 rfl rfl
theorem dksX4_voiceOf_5 : cX4_voiceOf.data.toList.drop 117 = dktX4_voiceOf_5 := dk_seg dksX4_voiceOf_4 23 rfl rfl
theorem dX4_voiceOf_0 : decode cX4_voiceOf 0 = .ok (.iconst 0, 1) := dk_3 (dk_at dksX4_voiceOf_0 0 rfl rfl)
theorem dX4_voiceOf_1 : decode cX4_voiceOf 1 = .ok (.istore 4, 2) := dk_54 4 (dk_at dksX4_voiceOf_0 1 rfl rfl)
theorem dX4_voiceOf_3 : decode cX4_voiceOf 3 = .ok (.iconst 0, 1) := dk_3 (dk_at dksX4_voiceOf_0 3 rfl rfl)
theorem dX4_voiceOf_4 : decode cX4_voiceOf 4 = .ok (.istore 5, 2) := dk_54 5 (dk_at dksX4_voiceOf_0 4 rfl rfl)
theorem dX4_voiceOf_6 : decode cX4_voiceOf 6 = .ok (.iconst 0, 1) := dk_3 (dk_at dksX4_voiceOf_0 6 rfl rfl)
theorem dX4_voiceOf_7 : decode cX4_voiceOf 7 = .ok (.istore 6, 2) := dk_54 6 (dk_at dksX4_voiceOf_0 7 rfl rfl)
theorem dX4_voiceOf_9 : decode cX4_voiceOf 9 = .ok (.iconst 0, 1) := dk_3 (dk_at dksX4_voiceOf_0 9 rfl rfl)
theorem dX4_voiceOf_10 : decode cX4_voiceOf 10 = .ok (.istore 7, 2) := dk_54 7 (dk_at dksX4_voiceOf_0 10 rfl rfl)
theorem dX4_voiceOf_12 : decode cX4_voiceOf 12 = .ok (.iload 7, 2) := dk_21 7 (dk_at dksX4_voiceOf_0 12 rfl rfl)
theorem dX4_voiceOf_14 : decode cX4_voiceOf 14 = .ok (.aload_n 0, 1) := dk_42 (dk_at dksX4_voiceOf_0 14 rfl rfl)
theorem dX4_voiceOf_15 : decode cX4_voiceOf 15 = .ok (.getfield 7, 3) := dk_180 0 7 (dk_at dksX4_voiceOf_0 15 rfl rfl)
theorem dX4_voiceOf_18 : decode cX4_voiceOf 18 = .ok (.iconst 0, 1) := dk_3 (dk_at dksX4_voiceOf_0 18 rfl rfl)
theorem dX4_voiceOf_19 : decode cX4_voiceOf 19 = .ok (.iaload, 1) := dk_46 (dk_at dksX4_voiceOf_0 19 rfl rfl)
theorem dX4_voiceOf_20 : decode cX4_voiceOf 20 = .ok (.if_icmp .ge 65, 3) := dk_162 0 65 (dk_at dksX4_voiceOf_0 20 rfl rfl)
theorem dX4_voiceOf_23 : decode cX4_voiceOf 23 = .ok (.aload_n 0, 1) := dk_42 (dk_at dksX4_voiceOf_0 23 rfl rfl)
theorem dX4_voiceOf_24 : decode cX4_voiceOf 24 = .ok (.iload 7, 2) := dk_21 7 (dk_at dksX4_voiceOf_1 0 rfl rfl)
theorem dX4_voiceOf_26 : decode cX4_voiceOf 26 = .ok (.iload_n 1, 1) := dk_27 (dk_at dksX4_voiceOf_1 2 rfl rfl)
theorem dX4_voiceOf_27 : decode cX4_voiceOf 27 = .ok (.iload_n 2, 1) := dk_28 (dk_at dksX4_voiceOf_1 3 rfl rfl)
theorem dX4_voiceOf_28 : decode cX4_voiceOf 28 = .ok (.invokevirtual 95, 3) := dk_182 0 95 (dk_at dksX4_voiceOf_1 4 rfl rfl)
theorem dX4_voiceOf_31 : decode cX4_voiceOf 31 = .ok (.ifCond .eq 48, 3) := dk_153 0 48 (dk_at dksX4_voiceOf_1 7 rfl rfl)
theorem dX4_voiceOf_34 : decode cX4_voiceOf 34 = .ok (.aload_n 0, 1) := dk_42 (dk_at dksX4_voiceOf_1 10 rfl rfl)
theorem dX4_voiceOf_35 : decode cX4_voiceOf 35 = .ok (.iload 7, 2) := dk_21 7 (dk_at dksX4_voiceOf_1 11 rfl rfl)
theorem dX4_voiceOf_37 : decode cX4_voiceOf 37 = .ok (.iconst 4, 1) := dk_7 (dk_at dksX4_voiceOf_1 13 rfl rfl)
theorem dX4_voiceOf_38 : decode cX4_voiceOf 38 = .ok (.invokevirtual 67, 3) := dk_182 0 67 (dk_at dksX4_voiceOf_1 14 rfl rfl)
theorem dX4_voiceOf_41 : decode cX4_voiceOf 41 = .ok (.iload_n 3, 1) := dk_29 (dk_at dksX4_voiceOf_1 17 rfl rfl)
theorem dX4_voiceOf_42 : decode cX4_voiceOf 42 = .ok (.if_icmp .eq 6, 3) := dk_159 0 6 (dk_at dksX4_voiceOf_1 18 rfl rfl)
theorem dX4_voiceOf_45 : decode cX4_voiceOf 45 = .ok (.goto 34, 3) := dk_167 0 34 (dk_at dksX4_voiceOf_1 21 rfl rfl)
theorem dX4_voiceOf_48 : decode cX4_voiceOf 48 = .ok (.iload 4, 2) := dk_21 4 (dk_at dksX4_voiceOf_2 0 rfl rfl)
theorem dX4_voiceOf_50 : decode cX4_voiceOf 50 = .ok (.aload_n 0, 1) := dk_42 (dk_at dksX4_voiceOf_2 2 rfl rfl)
theorem dX4_voiceOf_51 : decode cX4_voiceOf 51 = .ok (.iload 7, 2) := dk_21 7 (dk_at dksX4_voiceOf_2 3 rfl rfl)
theorem dX4_voiceOf_53 : decode cX4_voiceOf 53 = .ok (.bipush 6, 2) := dk_16 6 (dk_at dksX4_voiceOf_2 5 rfl rfl)
theorem dX4_voiceOf_55 : decode cX4_voiceOf 55 = .ok (.invokevirtual 67, 3) := dk_182 0 67 (dk_at dksX4_voiceOf_2 7 rfl rfl)
theorem dX4_voiceOf_58 : decode cX4_voiceOf 58 = .ok (.iadd, 1) := dk_96 (dk_at dksX4_voiceOf_2 10 rfl rfl)
theorem dX4_voiceOf_59 : decode cX4_voiceOf 59 = .ok (.istore 4, 2) := dk_54 4 (dk_at dksX4_voiceOf_2 11 rfl rfl)
theorem dX4_voiceOf_61 : decode cX4_voiceOf 61 = .ok (.iload 5, 2) := dk_21 5 (dk_at dksX4_voiceOf_2 13 rfl rfl)
theorem dX4_voiceOf_63 : decode cX4_voiceOf 63 = .ok (.aload_n 0, 1) := dk_42 (dk_at dksX4_voiceOf_2 15 rfl rfl)
theorem dX4_voiceOf_64 : decode cX4_voiceOf 64 = .ok (.iload 7, 2) := dk_21 7 (dk_at dksX4_voiceOf_2 16 rfl rfl)
theorem dX4_voiceOf_66 : decode cX4_voiceOf 66 = .ok (.bipush 6, 2) := dk_16 6 (dk_at dksX4_voiceOf_2 18 rfl rfl)
theorem dX4_voiceOf_68 : decode cX4_voiceOf 68 = .ok (.invokevirtual 67, 3) := dk_182 0 67 (dk_at dksX4_voiceOf_2 20 rfl rfl)
theorem dX4_voiceOf_71 : decode cX4_voiceOf 71 = .ok (.invokestatic 103, 3) := dk_184 0 103 (dk_at dksX4_voiceOf_3 0 rfl rfl)
theorem dX4_voiceOf_74 : decode cX4_voiceOf 74 = .ok (.istore 5, 2) := dk_54 5 (dk_at dksX4_voiceOf_3 3 rfl rfl)
theorem dX4_voiceOf_76 : decode cX4_voiceOf 76 = .ok (.iinc 6 1, 3) := dk_132 6 1 (dk_at dksX4_voiceOf_3 5 rfl rfl)
theorem dX4_voiceOf_79 : decode cX4_voiceOf 79 = .ok (.iinc 7 1, 3) := dk_132 7 1 (dk_at dksX4_voiceOf_3 8 rfl rfl)
theorem dX4_voiceOf_82 : decode cX4_voiceOf 82 = .ok (.goto (-70), 3) := dk_167 255 186 (dk_at dksX4_voiceOf_3 11 rfl rfl)
theorem dX4_voiceOf_85 : decode cX4_voiceOf 85 = .ok (.aload_n 0, 1) := dk_42 (dk_at dksX4_voiceOf_3 14 rfl rfl)
theorem dX4_voiceOf_86 : decode cX4_voiceOf 86 = .ok (.getfield 7, 3) := dk_180 0 7 (dk_at dksX4_voiceOf_3 15 rfl rfl)
theorem dX4_voiceOf_89 : decode cX4_voiceOf 89 = .ok (.iconst 5, 1) := dk_8 (dk_at dksX4_voiceOf_3 18 rfl rfl)
theorem dX4_voiceOf_90 : decode cX4_voiceOf 90 = .ok (.iaload, 1) := dk_46 (dk_at dksX4_voiceOf_3 19 rfl rfl)
theorem dX4_voiceOf_91 : decode cX4_voiceOf 91 = .ok (.ifCond .ne 8, 3) := dk_154 0 8 (dk_at dksX4_voiceOf_3 20 rfl rfl)
theorem dX4_voiceOf_94 : decode cX4_voiceOf 94 = .ok (.iload 4, 2) := dk_21 4 (dk_at dksX4_voiceOf_4 0 rfl rfl)
theorem dX4_voiceOf_96 : decode cX4_voiceOf 96 = .ok (.goto 27, 3) := dk_167 0 27 (dk_at dksX4_voiceOf_4 2 rfl rfl)
theorem dX4_voiceOf_99 : decode cX4_voiceOf 99 = .ok (.aload_n 0, 1) := dk_42 (dk_at dksX4_voiceOf_4 5 rfl rfl)
theorem dX4_voiceOf_100 : decode cX4_voiceOf 100 = .ok (.getfield 7, 3) := dk_180 0 7 (dk_at dksX4_voiceOf_4 6 rfl rfl)
theorem dX4_voiceOf_103 : decode cX4_voiceOf 103 = .ok (.iconst 5, 1) := dk_8 (dk_at dksX4_voiceOf_4 9 rfl rfl)
theorem dX4_voiceOf_104 : decode cX4_voiceOf 104 = .ok (.iaload, 1) := dk_46 (dk_at dksX4_voiceOf_4 10 rfl rfl)
theorem dX4_voiceOf_105 : decode cX4_voiceOf 105 = .ok (.iconst 1, 1) := dk_4 (dk_at dksX4_voiceOf_4 11 rfl rfl)
theorem dX4_voiceOf_106 : decode cX4_voiceOf 106 = .ok (.if_icmp .ne 8, 3) := dk_160 0 8 (dk_at dksX4_voiceOf_4 12 rfl rfl)
theorem dX4_voiceOf_109 : decode cX4_voiceOf 109 = .ok (.iload 5, 2) := dk_21 5 (dk_at dksX4_voiceOf_4 15 rfl rfl)
theorem dX4_voiceOf_111 : decode cX4_voiceOf 111 = .ok (.goto 12, 3) := dk_167 0 12 (dk_at dksX4_voiceOf_4 17 rfl rfl)
theorem dX4_voiceOf_114 : decode cX4_voiceOf 114 = .ok (.sipush 1000, 3) := dk_17 3 232 (dk_at dksX4_voiceOf_4 20 rfl rfl)
theorem dX4_voiceOf_117 : decode cX4_voiceOf 117 = .ok (.iload 6, 2) := dk_21 6 (dk_at dksX4_voiceOf_5 0 rfl rfl)
theorem dX4_voiceOf_119 : decode cX4_voiceOf 119 = .ok (.imul, 1) := dk_104 (dk_at dksX4_voiceOf_5 2 rfl rfl)
theorem dX4_voiceOf_120 : decode cX4_voiceOf 120 = .ok (.iload 5, 2) := dk_21 5 (dk_at dksX4_voiceOf_5 3 rfl rfl)
theorem dX4_voiceOf_122 : decode cX4_voiceOf 122 = .ok (.iadd, 1) := dk_96 (dk_at dksX4_voiceOf_5 5 rfl rfl)
theorem dX4_voiceOf_123 : decode cX4_voiceOf 123 = .ok (.ireturn, 1) := dk_172 (dk_at dksX4_voiceOf_5 6 rfl rfl)
abbrev cX4_isSpeaking : ByteArray := prog_20_method_17_code
def yX4_isSpeaking : MethodName := ⟨RX4, "isSpeaking", "(III)Z"⟩
def dkwX4_isSpeaking_1 : List UInt8 := [153, 0, 7, 4, 167, 0, 4, 3, 172]
abbrev dktX4_isSpeaking_1 : List UInt8 := dkwX4_isSpeaking_1 ++ []
def dkwX4_isSpeaking_0 : List UInt8 := [42, 27, 182, 0, 84, 153, 0, 25, 42, 27, 28, 182, 0, 88, 153, 0, 16, 42, 27, 29, 182, 0, 92]
abbrev dktX4_isSpeaking_0 : List UInt8 := dkwX4_isSpeaking_0 ++ dktX4_isSpeaking_1
theorem dksX4_isSpeaking_0 : cX4_isSpeaking.data.toList.drop 0 = dktX4_isSpeaking_0 := by decide +kernel
theorem dksX4_isSpeaking_1 : cX4_isSpeaking.data.toList.drop 23 = dktX4_isSpeaking_1 := dk_seg dksX4_isSpeaking_0 23 rfl rfl
theorem dX4_isSpeaking_0 : decode cX4_isSpeaking 0 = .ok (.aload_n 0, 1) := dk_42 (dk_at dksX4_isSpeaking_0 0 rfl rfl)
theorem dX4_isSpeaking_1 : decode cX4_isSpeaking 1 = .ok (.iload_n 1, 1) := dk_27 (dk_at dksX4_isSpeaking_0 1 rfl rfl)
theorem dX4_isSpeaking_2 : decode cX4_isSpeaking 2 = .ok (.invokevirtual 84, 3) := dk_182 0 84 (dk_at dksX4_isSpeaking_0 2 rfl rfl)
theorem dX4_isSpeaking_5 : decode cX4_isSpeaking 5 = .ok (.ifCond .eq 25, 3) := dk_153 0 25 (dk_at dksX4_isSpeaking_0 5 rfl rfl)
theorem dX4_isSpeaking_8 : decode cX4_isSpeaking 8 = .ok (.aload_n 0, 1) := dk_42 (dk_at dksX4_isSpeaking_0 8 rfl rfl)
theorem dX4_isSpeaking_9 : decode cX4_isSpeaking 9 = .ok (.iload_n 1, 1) := dk_27 (dk_at dksX4_isSpeaking_0 9 rfl rfl)
theorem dX4_isSpeaking_10 : decode cX4_isSpeaking 10 = .ok (.iload_n 2, 1) := dk_28 (dk_at dksX4_isSpeaking_0 10 rfl rfl)
theorem dX4_isSpeaking_11 : decode cX4_isSpeaking 11 = .ok (.invokevirtual 88, 3) := dk_182 0 88 (dk_at dksX4_isSpeaking_0 11 rfl rfl)
theorem dX4_isSpeaking_14 : decode cX4_isSpeaking 14 = .ok (.ifCond .eq 16, 3) := dk_153 0 16 (dk_at dksX4_isSpeaking_0 14 rfl rfl)
theorem dX4_isSpeaking_17 : decode cX4_isSpeaking 17 = .ok (.aload_n 0, 1) := dk_42 (dk_at dksX4_isSpeaking_0 17 rfl rfl)
theorem dX4_isSpeaking_18 : decode cX4_isSpeaking 18 = .ok (.iload_n 1, 1) := dk_27 (dk_at dksX4_isSpeaking_0 18 rfl rfl)
theorem dX4_isSpeaking_19 : decode cX4_isSpeaking 19 = .ok (.iload_n 3, 1) := dk_29 (dk_at dksX4_isSpeaking_0 19 rfl rfl)
theorem dX4_isSpeaking_20 : decode cX4_isSpeaking 20 = .ok (.invokevirtual 92, 3) := dk_182 0 92 (dk_at dksX4_isSpeaking_0 20 rfl rfl)
theorem dX4_isSpeaking_23 : decode cX4_isSpeaking 23 = .ok (.ifCond .eq 7, 3) := dk_153 0 7 (dk_at dksX4_isSpeaking_1 0 rfl rfl)
theorem dX4_isSpeaking_26 : decode cX4_isSpeaking 26 = .ok (.iconst 1, 1) := dk_4 (dk_at dksX4_isSpeaking_1 3 rfl rfl)
theorem dX4_isSpeaking_27 : decode cX4_isSpeaking 27 = .ok (.goto 4, 3) := dk_167 0 4 (dk_at dksX4_isSpeaking_1 4 rfl rfl)
theorem dX4_isSpeaking_30 : decode cX4_isSpeaking 30 = .ok (.iconst 0, 1) := dk_3 (dk_at dksX4_isSpeaking_1 7 rfl rfl)
theorem dX4_isSpeaking_31 : decode cX4_isSpeaking 31 = .ok (.ireturn, 1) := dk_172 (dk_at dksX4_isSpeaking_1 8 rfl rfl)
abbrev cX4_hasPoint : ByteArray := prog_20_method_15_code
def yX4_hasPoint : MethodName := ⟨RX4, "hasPoint", "(II)Z"⟩
def dkwX4_hasPoint_0 : List UInt8 := [28, 42, 27, 3, 182, 0, 67, 42, 27, 4, 182, 0, 67, 16, 16, 184, 0, 80, 172]
abbrev dktX4_hasPoint_0 : List UInt8 := dkwX4_hasPoint_0 ++ []
theorem dksX4_hasPoint_0 : cX4_hasPoint.data.toList.drop 0 = dktX4_hasPoint_0 := by decide +kernel
theorem dX4_hasPoint_0 : decode cX4_hasPoint 0 = .ok (.iload_n 2, 1) := dk_28 (dk_at dksX4_hasPoint_0 0 rfl rfl)
theorem dX4_hasPoint_1 : decode cX4_hasPoint 1 = .ok (.aload_n 0, 1) := dk_42 (dk_at dksX4_hasPoint_0 1 rfl rfl)
theorem dX4_hasPoint_2 : decode cX4_hasPoint 2 = .ok (.iload_n 1, 1) := dk_27 (dk_at dksX4_hasPoint_0 2 rfl rfl)
theorem dX4_hasPoint_3 : decode cX4_hasPoint 3 = .ok (.iconst 0, 1) := dk_3 (dk_at dksX4_hasPoint_0 3 rfl rfl)
theorem dX4_hasPoint_4 : decode cX4_hasPoint 4 = .ok (.invokevirtual 67, 3) := dk_182 0 67 (dk_at dksX4_hasPoint_0 4 rfl rfl)
theorem dX4_hasPoint_7 : decode cX4_hasPoint 7 = .ok (.aload_n 0, 1) := dk_42 (dk_at dksX4_hasPoint_0 7 rfl rfl)
theorem dX4_hasPoint_8 : decode cX4_hasPoint 8 = .ok (.iload_n 1, 1) := dk_27 (dk_at dksX4_hasPoint_0 8 rfl rfl)
theorem dX4_hasPoint_9 : decode cX4_hasPoint 9 = .ok (.iconst 1, 1) := dk_4 (dk_at dksX4_hasPoint_0 9 rfl rfl)
theorem dX4_hasPoint_10 : decode cX4_hasPoint 10 = .ok (.invokevirtual 67, 3) := dk_182 0 67 (dk_at dksX4_hasPoint_0 10 rfl rfl)
theorem dX4_hasPoint_13 : decode cX4_hasPoint 13 = .ok (.bipush 16, 2) := dk_16 16 (dk_at dksX4_hasPoint_0 13 rfl rfl)
theorem dX4_hasPoint_15 : decode cX4_hasPoint 15 = .ok (.invokestatic 80, 3) := dk_184 0 80 (dk_at dksX4_hasPoint_0 15 rfl rfl)
theorem dX4_hasPoint_18 : decode cX4_hasPoint 18 = .ok (.ireturn, 1) := dk_172 (dk_at dksX4_hasPoint_0 18 rfl rfl)
abbrev cX4_isWithin : ByteArray := prog_20_method_14_code
def yX4_isWithin : MethodName := ⟨RX4, "isWithin", "(IIII)Z"⟩
def dkwX4_isWithin_0 : List UInt8 := [26, 27, 100, 29, 184, 0, 71, 27, 28, 29, 184, 0, 76, 162, 0, 7, 4, 167, 0, 4, 3, 172]
abbrev dktX4_isWithin_0 : List UInt8 := dkwX4_isWithin_0 ++ []
theorem dksX4_isWithin_0 : cX4_isWithin.data.toList.drop 0 = dktX4_isWithin_0 := by decide +kernel
theorem dX4_isWithin_0 : decode cX4_isWithin 0 = .ok (.iload_n 0, 1) := dk_26 (dk_at dksX4_isWithin_0 0 rfl rfl)
theorem dX4_isWithin_1 : decode cX4_isWithin 1 = .ok (.iload_n 1, 1) := dk_27 (dk_at dksX4_isWithin_0 1 rfl rfl)
theorem dX4_isWithin_2 : decode cX4_isWithin 2 = .ok (.isub, 1) := dk_100 (dk_at dksX4_isWithin_0 2 rfl rfl)
theorem dX4_isWithin_3 : decode cX4_isWithin 3 = .ok (.iload_n 3, 1) := dk_29 (dk_at dksX4_isWithin_0 3 rfl rfl)
theorem dX4_isWithin_4 : decode cX4_isWithin 4 = .ok (.invokestatic 71, 3) := dk_184 0 71 (dk_at dksX4_isWithin_0 4 rfl rfl)
theorem dX4_isWithin_7 : decode cX4_isWithin 7 = .ok (.iload_n 1, 1) := dk_27 (dk_at dksX4_isWithin_0 7 rfl rfl)
theorem dX4_isWithin_8 : decode cX4_isWithin 8 = .ok (.iload_n 2, 1) := dk_28 (dk_at dksX4_isWithin_0 8 rfl rfl)
theorem dX4_isWithin_9 : decode cX4_isWithin 9 = .ok (.iload_n 3, 1) := dk_29 (dk_at dksX4_isWithin_0 9 rfl rfl)
theorem dX4_isWithin_10 : decode cX4_isWithin 10 = .ok (.invokestatic 76, 3) := dk_184 0 76 (dk_at dksX4_isWithin_0 10 rfl rfl)
theorem dX4_isWithin_13 : decode cX4_isWithin 13 = .ok (.if_icmp .ge 7, 3) := dk_162 0 7 (dk_at dksX4_isWithin_0 13 rfl rfl)
theorem dX4_isWithin_16 : decode cX4_isWithin 16 = .ok (.iconst 1, 1) := dk_4 (dk_at dksX4_isWithin_0 16 rfl rfl)
theorem dX4_isWithin_17 : decode cX4_isWithin 17 = .ok (.goto 4, 3) := dk_167 0 4 (dk_at dksX4_isWithin_0 17 rfl rfl)
theorem dX4_isWithin_20 : decode cX4_isWithin 20 = .ok (.iconst 0, 1) := dk_3 (dk_at dksX4_isWithin_0 20 rfl rfl)
theorem dX4_isWithin_21 : decode cX4_isWithin 21 = .ok (.ireturn, 1) := dk_172 (dk_at dksX4_isWithin_0 21 rfl rfl)
abbrev cX4_width : ByteArray := prog_20_method_13_code
def yX4_width : MethodName := ⟨RX4, "width", "(III)I"⟩
def dkwX4_width_0 : List UInt8 := [27, 26, 100, 28, 184, 0, 71, 4, 96, 172]
abbrev dktX4_width_0 : List UInt8 := dkwX4_width_0 ++ []
theorem dksX4_width_0 : cX4_width.data.toList.drop 0 = dktX4_width_0 := by decide +kernel
theorem dX4_width_0 : decode cX4_width 0 = .ok (.iload_n 1, 1) := dk_27 (dk_at dksX4_width_0 0 rfl rfl)
theorem dX4_width_1 : decode cX4_width 1 = .ok (.iload_n 0, 1) := dk_26 (dk_at dksX4_width_0 1 rfl rfl)
theorem dX4_width_2 : decode cX4_width 2 = .ok (.isub, 1) := dk_100 (dk_at dksX4_width_0 2 rfl rfl)
theorem dX4_width_3 : decode cX4_width 3 = .ok (.iload_n 2, 1) := dk_28 (dk_at dksX4_width_0 3 rfl rfl)
theorem dX4_width_4 : decode cX4_width 4 = .ok (.invokestatic 71, 3) := dk_184 0 71 (dk_at dksX4_width_0 4 rfl rfl)
theorem dX4_width_7 : decode cX4_width 7 = .ok (.iconst 1, 1) := dk_4 (dk_at dksX4_width_0 7 rfl rfl)
theorem dX4_width_8 : decode cX4_width 8 = .ok (.iadd, 1) := dk_96 (dk_at dksX4_width_0 8 rfl rfl)
theorem dX4_width_9 : decode cX4_width 9 = .ok (.ireturn, 1) := dk_172 (dk_at dksX4_width_0 9 rfl rfl)
abbrev cX4_hasMonth : ByteArray := prog_20_method_16_code
def yX4_hasMonth : MethodName := ⟨RX4, "hasMonth", "(II)Z"⟩
def dkwX4_hasMonth_0 : List UInt8 := [28, 42, 27, 5, 182, 0, 67, 42, 27, 6, 182, 0, 67, 16, 12, 184, 0, 80, 172]
abbrev dktX4_hasMonth_0 : List UInt8 := dkwX4_hasMonth_0 ++ []
theorem dksX4_hasMonth_0 : cX4_hasMonth.data.toList.drop 0 = dktX4_hasMonth_0 := by decide +kernel
theorem dX4_hasMonth_0 : decode cX4_hasMonth 0 = .ok (.iload_n 2, 1) := dk_28 (dk_at dksX4_hasMonth_0 0 rfl rfl)
theorem dX4_hasMonth_1 : decode cX4_hasMonth 1 = .ok (.aload_n 0, 1) := dk_42 (dk_at dksX4_hasMonth_0 1 rfl rfl)
theorem dX4_hasMonth_2 : decode cX4_hasMonth 2 = .ok (.iload_n 1, 1) := dk_27 (dk_at dksX4_hasMonth_0 2 rfl rfl)
theorem dX4_hasMonth_3 : decode cX4_hasMonth 3 = .ok (.iconst 2, 1) := dk_5 (dk_at dksX4_hasMonth_0 3 rfl rfl)
theorem dX4_hasMonth_4 : decode cX4_hasMonth 4 = .ok (.invokevirtual 67, 3) := dk_182 0 67 (dk_at dksX4_hasMonth_0 4 rfl rfl)
theorem dX4_hasMonth_7 : decode cX4_hasMonth 7 = .ok (.aload_n 0, 1) := dk_42 (dk_at dksX4_hasMonth_0 7 rfl rfl)
theorem dX4_hasMonth_8 : decode cX4_hasMonth 8 = .ok (.iload_n 1, 1) := dk_27 (dk_at dksX4_hasMonth_0 8 rfl rfl)
theorem dX4_hasMonth_9 : decode cX4_hasMonth 9 = .ok (.iconst 3, 1) := dk_6 (dk_at dksX4_hasMonth_0 9 rfl rfl)
theorem dX4_hasMonth_10 : decode cX4_hasMonth 10 = .ok (.invokevirtual 67, 3) := dk_182 0 67 (dk_at dksX4_hasMonth_0 10 rfl rfl)
theorem dX4_hasMonth_13 : decode cX4_hasMonth 13 = .ok (.bipush 12, 2) := dk_16 12 (dk_at dksX4_hasMonth_0 13 rfl rfl)
theorem dX4_hasMonth_15 : decode cX4_hasMonth 15 = .ok (.invokestatic 80, 3) := dk_184 0 80 (dk_at dksX4_hasMonth_0 15 rfl rfl)
theorem dX4_hasMonth_18 : decode cX4_hasMonth 18 = .ok (.ireturn, 1) := dk_172 (dk_at dksX4_hasMonth_0 18 rfl rfl)
abbrev cX4_meets : ByteArray := prog_20_method_25_code
def yX4_meets : MethodName := ⟨RX4, "meets", "(III)V"⟩
def dkwX4_meets_2 : List UInt8 := [7, 182, 0, 67, 29, 159, 0, 7, 4, 167, 0, 4, 3, 184, 0, 99, 96, 79, 177]
abbrev dktX4_meets_2 : List UInt8 := dkwX4_meets_2 ++ []
def dkwX4_meets_1 : List UInt8 := [17, 3, 73, 16, 24, 27, 104, 96, 28, 96, 92, 46, 42, 27, 7, 182, 0, 67, 29, 160, 0, 17, 42, 28]
abbrev dktX4_meets_1 : List UInt8 := dkwX4_meets_1 ++ dktX4_meets_2
def dkwX4_meets_0 : List UInt8 := [42, 180, 0, 7, 17, 1, 9, 16, 24, 27, 104, 96, 28, 96, 92, 46, 4, 96, 79, 42, 180, 0, 7]
abbrev dktX4_meets_0 : List UInt8 := dkwX4_meets_0 ++ dktX4_meets_1
theorem dksX4_meets_0 : cX4_meets.data.toList.drop 0 = dktX4_meets_0 := by decide +kernel
theorem dksX4_meets_1 : cX4_meets.data.toList.drop 23 = dktX4_meets_1 := dk_seg dksX4_meets_0 23 rfl rfl
theorem dksX4_meets_2 : cX4_meets.data.toList.drop 47 = dktX4_meets_2 := dk_seg dksX4_meets_1 24 rfl rfl
theorem dX4_meets_0 : decode cX4_meets 0 = .ok (.aload_n 0, 1) := dk_42 (dk_at dksX4_meets_0 0 rfl rfl)
theorem dX4_meets_1 : decode cX4_meets 1 = .ok (.getfield 7, 3) := dk_180 0 7 (dk_at dksX4_meets_0 1 rfl rfl)
theorem dX4_meets_4 : decode cX4_meets 4 = .ok (.sipush 265, 3) := dk_17 1 9 (dk_at dksX4_meets_0 4 rfl rfl)
theorem dX4_meets_7 : decode cX4_meets 7 = .ok (.bipush 24, 2) := dk_16 24 (dk_at dksX4_meets_0 7 rfl rfl)
theorem dX4_meets_9 : decode cX4_meets 9 = .ok (.iload_n 1, 1) := dk_27 (dk_at dksX4_meets_0 9 rfl rfl)
theorem dX4_meets_10 : decode cX4_meets 10 = .ok (.imul, 1) := dk_104 (dk_at dksX4_meets_0 10 rfl rfl)
theorem dX4_meets_11 : decode cX4_meets 11 = .ok (.iadd, 1) := dk_96 (dk_at dksX4_meets_0 11 rfl rfl)
theorem dX4_meets_12 : decode cX4_meets 12 = .ok (.iload_n 2, 1) := dk_28 (dk_at dksX4_meets_0 12 rfl rfl)
theorem dX4_meets_13 : decode cX4_meets 13 = .ok (.iadd, 1) := dk_96 (dk_at dksX4_meets_0 13 rfl rfl)
theorem dX4_meets_14 : decode cX4_meets 14 = .ok (.dup2, 1) := dk_92 (dk_at dksX4_meets_0 14 rfl rfl)
theorem dX4_meets_15 : decode cX4_meets 15 = .ok (.iaload, 1) := dk_46 (dk_at dksX4_meets_0 15 rfl rfl)
theorem dX4_meets_16 : decode cX4_meets 16 = .ok (.iconst 1, 1) := dk_4 (dk_at dksX4_meets_0 16 rfl rfl)
theorem dX4_meets_17 : decode cX4_meets 17 = .ok (.iadd, 1) := dk_96 (dk_at dksX4_meets_0 17 rfl rfl)
theorem dX4_meets_18 : decode cX4_meets 18 = .ok (.iastore, 1) := dk_79 (dk_at dksX4_meets_0 18 rfl rfl)
theorem dX4_meets_19 : decode cX4_meets 19 = .ok (.aload_n 0, 1) := dk_42 (dk_at dksX4_meets_0 19 rfl rfl)
theorem dX4_meets_20 : decode cX4_meets 20 = .ok (.getfield 7, 3) := dk_180 0 7 (dk_at dksX4_meets_0 20 rfl rfl)
theorem dX4_meets_23 : decode cX4_meets 23 = .ok (.sipush 841, 3) := dk_17 3 73 (dk_at dksX4_meets_1 0 rfl rfl)
theorem dX4_meets_26 : decode cX4_meets 26 = .ok (.bipush 24, 2) := dk_16 24 (dk_at dksX4_meets_1 3 rfl rfl)
theorem dX4_meets_28 : decode cX4_meets 28 = .ok (.iload_n 1, 1) := dk_27 (dk_at dksX4_meets_1 5 rfl rfl)
theorem dX4_meets_29 : decode cX4_meets 29 = .ok (.imul, 1) := dk_104 (dk_at dksX4_meets_1 6 rfl rfl)
theorem dX4_meets_30 : decode cX4_meets 30 = .ok (.iadd, 1) := dk_96 (dk_at dksX4_meets_1 7 rfl rfl)
theorem dX4_meets_31 : decode cX4_meets 31 = .ok (.iload_n 2, 1) := dk_28 (dk_at dksX4_meets_1 8 rfl rfl)
theorem dX4_meets_32 : decode cX4_meets 32 = .ok (.iadd, 1) := dk_96 (dk_at dksX4_meets_1 9 rfl rfl)
theorem dX4_meets_33 : decode cX4_meets 33 = .ok (.dup2, 1) := dk_92 (dk_at dksX4_meets_1 10 rfl rfl)
theorem dX4_meets_34 : decode cX4_meets 34 = .ok (.iaload, 1) := dk_46 (dk_at dksX4_meets_1 11 rfl rfl)
theorem dX4_meets_35 : decode cX4_meets 35 = .ok (.aload_n 0, 1) := dk_42 (dk_at dksX4_meets_1 12 rfl rfl)
theorem dX4_meets_36 : decode cX4_meets 36 = .ok (.iload_n 1, 1) := dk_27 (dk_at dksX4_meets_1 13 rfl rfl)
theorem dX4_meets_37 : decode cX4_meets 37 = .ok (.iconst 4, 1) := dk_7 (dk_at dksX4_meets_1 14 rfl rfl)
theorem dX4_meets_38 : decode cX4_meets 38 = .ok (.invokevirtual 67, 3) := dk_182 0 67 (dk_at dksX4_meets_1 15 rfl rfl)
theorem dX4_meets_41 : decode cX4_meets 41 = .ok (.iload_n 3, 1) := dk_29 (dk_at dksX4_meets_1 18 rfl rfl)
theorem dX4_meets_42 : decode cX4_meets 42 = .ok (.if_icmp .ne 17, 3) := dk_160 0 17 (dk_at dksX4_meets_1 19 rfl rfl)
theorem dX4_meets_45 : decode cX4_meets 45 = .ok (.aload_n 0, 1) := dk_42 (dk_at dksX4_meets_1 22 rfl rfl)
theorem dX4_meets_46 : decode cX4_meets 46 = .ok (.iload_n 2, 1) := dk_28 (dk_at dksX4_meets_1 23 rfl rfl)
theorem dX4_meets_47 : decode cX4_meets 47 = .ok (.iconst 4, 1) := dk_7 (dk_at dksX4_meets_2 0 rfl rfl)
theorem dX4_meets_48 : decode cX4_meets 48 = .ok (.invokevirtual 67, 3) := dk_182 0 67 (dk_at dksX4_meets_2 1 rfl rfl)
theorem dX4_meets_51 : decode cX4_meets 51 = .ok (.iload_n 3, 1) := dk_29 (dk_at dksX4_meets_2 4 rfl rfl)
theorem dX4_meets_52 : decode cX4_meets 52 = .ok (.if_icmp .eq 7, 3) := dk_159 0 7 (dk_at dksX4_meets_2 5 rfl rfl)
theorem dX4_meets_55 : decode cX4_meets 55 = .ok (.iconst 1, 1) := dk_4 (dk_at dksX4_meets_2 8 rfl rfl)
theorem dX4_meets_56 : decode cX4_meets 56 = .ok (.goto 4, 3) := dk_167 0 4 (dk_at dksX4_meets_2 9 rfl rfl)
theorem dX4_meets_59 : decode cX4_meets 59 = .ok (.iconst 0, 1) := dk_3 (dk_at dksX4_meets_2 12 rfl rfl)
theorem dX4_meets_60 : decode cX4_meets 60 = .ok (.invokestatic 99, 3) := dk_184 0 99 (dk_at dksX4_meets_2 13 rfl rfl)
theorem dX4_meets_63 : decode cX4_meets 63 = .ok (.iadd, 1) := dk_96 (dk_at dksX4_meets_2 16 rfl rfl)
theorem dX4_meets_64 : decode cX4_meets 64 = .ok (.iastore, 1) := dk_79 (dk_at dksX4_meets_2 17 rfl rfl)
theorem dX4_meets_65 : decode cX4_meets 65 = .ok (.return_, 1) := dk_177 (dk_at dksX4_meets_2 18 rfl rfl)
abbrev cX4_one : ByteArray := prog_20_method_4_code
def yX4_one : MethodName := ⟨RX4, "one", "(Z)I"⟩
def dkwX4_one_0 : List UInt8 := [26, 153, 0, 7, 4, 167, 0, 4, 3, 172]
abbrev dktX4_one_0 : List UInt8 := dkwX4_one_0 ++ []
theorem dksX4_one_0 : cX4_one.data.toList.drop 0 = dktX4_one_0 := by decide +kernel
theorem dX4_one_0 : decode cX4_one 0 = .ok (.iload_n 0, 1) := dk_26 (dk_at dksX4_one_0 0 rfl rfl)
theorem dX4_one_1 : decode cX4_one 1 = .ok (.ifCond .eq 7, 3) := dk_153 0 7 (dk_at dksX4_one_0 1 rfl rfl)
theorem dX4_one_4 : decode cX4_one 4 = .ok (.iconst 1, 1) := dk_4 (dk_at dksX4_one_0 4 rfl rfl)
theorem dX4_one_5 : decode cX4_one 5 = .ok (.goto 4, 3) := dk_167 0 4 (dk_at dksX4_one_0 5 rfl rfl)
theorem dX4_one_8 : decode cX4_one 8 = .ok (.iconst 0, 1) := dk_3 (dk_at dksX4_one_0 8 rfl rfl)
theorem dX4_one_9 : decode cX4_one 9 = .ok (.ireturn, 1) := dk_172 (dk_at dksX4_one_0 9 rfl rfl)
abbrev cX4_rises : ByteArray := prog_20_method_23_code
def yX4_rises : MethodName := ⟨RX4, "rises", "(I)V"⟩
def dkwX4_rises_2 : List UInt8 := [184, 0, 109, 182, 0, 63, 42, 7, 4, 182, 0, 112, 177]
abbrev dktX4_rises_2 : List UInt8 := dkwX4_rises_2 ++ []
def dkwX4_rises_1 : List UInt8 := [42, 27, 16, 6, 17, 3, 231, 28, 28, 42, 180, 0, 7, 16, 6, 46, 104, 16, 100, 108, 96, 4, 96]
abbrev dktX4_rises_1 : List UInt8 := dkwX4_rises_1 ++ dktX4_rises_2
def dkwX4_rises_0 : List UInt8 := [42, 27, 16, 6, 182, 0, 67, 61, 42, 27, 16, 7, 42, 27, 16, 7, 182, 0, 67, 4, 96, 182, 0, 63]
abbrev dktX4_rises_0 : List UInt8 := dkwX4_rises_0 ++ dktX4_rises_1
theorem dksX4_rises_0 : cX4_rises.data.toList.drop 0 = dktX4_rises_0 := by decide +kernel
theorem dksX4_rises_1 : cX4_rises.data.toList.drop 24 = dktX4_rises_1 := dk_seg dksX4_rises_0 24 rfl rfl
theorem dksX4_rises_2 : cX4_rises.data.toList.drop 47 = dktX4_rises_2 := dk_seg dksX4_rises_1 23 rfl rfl
theorem dX4_rises_0 : decode cX4_rises 0 = .ok (.aload_n 0, 1) := dk_42 (dk_at dksX4_rises_0 0 rfl rfl)
theorem dX4_rises_1 : decode cX4_rises 1 = .ok (.iload_n 1, 1) := dk_27 (dk_at dksX4_rises_0 1 rfl rfl)
theorem dX4_rises_2 : decode cX4_rises 2 = .ok (.bipush 6, 2) := dk_16 6 (dk_at dksX4_rises_0 2 rfl rfl)
theorem dX4_rises_4 : decode cX4_rises 4 = .ok (.invokevirtual 67, 3) := dk_182 0 67 (dk_at dksX4_rises_0 4 rfl rfl)
theorem dX4_rises_7 : decode cX4_rises 7 = .ok (.istore_n 2, 1) := dk_61 (dk_at dksX4_rises_0 7 rfl rfl)
theorem dX4_rises_8 : decode cX4_rises 8 = .ok (.aload_n 0, 1) := dk_42 (dk_at dksX4_rises_0 8 rfl rfl)
theorem dX4_rises_9 : decode cX4_rises 9 = .ok (.iload_n 1, 1) := dk_27 (dk_at dksX4_rises_0 9 rfl rfl)
theorem dX4_rises_10 : decode cX4_rises 10 = .ok (.bipush 7, 2) := dk_16 7 (dk_at dksX4_rises_0 10 rfl rfl)
theorem dX4_rises_12 : decode cX4_rises 12 = .ok (.aload_n 0, 1) := dk_42 (dk_at dksX4_rises_0 12 rfl rfl)
theorem dX4_rises_13 : decode cX4_rises 13 = .ok (.iload_n 1, 1) := dk_27 (dk_at dksX4_rises_0 13 rfl rfl)
theorem dX4_rises_14 : decode cX4_rises 14 = .ok (.bipush 7, 2) := dk_16 7 (dk_at dksX4_rises_0 14 rfl rfl)
theorem dX4_rises_16 : decode cX4_rises 16 = .ok (.invokevirtual 67, 3) := dk_182 0 67 (dk_at dksX4_rises_0 16 rfl rfl)
theorem dX4_rises_19 : decode cX4_rises 19 = .ok (.iconst 1, 1) := dk_4 (dk_at dksX4_rises_0 19 rfl rfl)
theorem dX4_rises_20 : decode cX4_rises 20 = .ok (.iadd, 1) := dk_96 (dk_at dksX4_rises_0 20 rfl rfl)
theorem dX4_rises_21 : decode cX4_rises 21 = .ok (.invokevirtual 63, 3) := dk_182 0 63 (dk_at dksX4_rises_0 21 rfl rfl)
theorem dX4_rises_24 : decode cX4_rises 24 = .ok (.aload_n 0, 1) := dk_42 (dk_at dksX4_rises_1 0 rfl rfl)
theorem dX4_rises_25 : decode cX4_rises 25 = .ok (.iload_n 1, 1) := dk_27 (dk_at dksX4_rises_1 1 rfl rfl)
theorem dX4_rises_26 : decode cX4_rises 26 = .ok (.bipush 6, 2) := dk_16 6 (dk_at dksX4_rises_1 2 rfl rfl)
theorem dX4_rises_28 : decode cX4_rises 28 = .ok (.sipush 999, 3) := dk_17 3 231 (dk_at dksX4_rises_1 4 rfl rfl)
theorem dX4_rises_31 : decode cX4_rises 31 = .ok (.iload_n 2, 1) := dk_28 (dk_at dksX4_rises_1 7 rfl rfl)
theorem dX4_rises_32 : decode cX4_rises 32 = .ok (.iload_n 2, 1) := dk_28 (dk_at dksX4_rises_1 8 rfl rfl)
theorem dX4_rises_33 : decode cX4_rises 33 = .ok (.aload_n 0, 1) := dk_42 (dk_at dksX4_rises_1 9 rfl rfl)
theorem dX4_rises_34 : decode cX4_rises 34 = .ok (.getfield 7, 3) := dk_180 0 7 (dk_at dksX4_rises_1 10 rfl rfl)
theorem dX4_rises_37 : decode cX4_rises 37 = .ok (.bipush 6, 2) := dk_16 6 (dk_at dksX4_rises_1 13 rfl rfl)
theorem dX4_rises_39 : decode cX4_rises 39 = .ok (.iaload, 1) := dk_46 (dk_at dksX4_rises_1 15 rfl rfl)
theorem dX4_rises_40 : decode cX4_rises 40 = .ok (.imul, 1) := dk_104 (dk_at dksX4_rises_1 16 rfl rfl)
theorem dX4_rises_41 : decode cX4_rises 41 = .ok (.bipush 100, 2) := dk_16 100 (dk_at dksX4_rises_1 17 rfl rfl)
theorem dX4_rises_43 : decode cX4_rises 43 = .ok (.idiv, 1) := dk_108 (dk_at dksX4_rises_1 19 rfl rfl)
theorem dX4_rises_44 : decode cX4_rises 44 = .ok (.iadd, 1) := dk_96 (dk_at dksX4_rises_1 20 rfl rfl)
theorem dX4_rises_45 : decode cX4_rises 45 = .ok (.iconst 1, 1) := dk_4 (dk_at dksX4_rises_1 21 rfl rfl)
theorem dX4_rises_46 : decode cX4_rises 46 = .ok (.iadd, 1) := dk_96 (dk_at dksX4_rises_1 22 rfl rfl)
theorem dX4_rises_47 : decode cX4_rises 47 = .ok (.invokestatic 109, 3) := dk_184 0 109 (dk_at dksX4_rises_2 0 rfl rfl)
theorem dX4_rises_50 : decode cX4_rises 50 = .ok (.invokevirtual 63, 3) := dk_182 0 63 (dk_at dksX4_rises_2 3 rfl rfl)
theorem dX4_rises_53 : decode cX4_rises 53 = .ok (.aload_n 0, 1) := dk_42 (dk_at dksX4_rises_2 6 rfl rfl)
theorem dX4_rises_54 : decode cX4_rises 54 = .ok (.iconst 4, 1) := dk_7 (dk_at dksX4_rises_2 7 rfl rfl)
theorem dX4_rises_55 : decode cX4_rises 55 = .ok (.iconst 1, 1) := dk_4 (dk_at dksX4_rises_2 8 rfl rfl)
theorem dX4_rises_56 : decode cX4_rises 56 = .ok (.invokevirtual 112, 3) := dk_182 0 112 (dk_at dksX4_rises_2 9 rfl rfl)
theorem dX4_rises_59 : decode cX4_rises 59 = .ok (.return_, 1) := dk_177 (dk_at dksX4_rises_2 12 rfl rfl)
abbrev cX4_counts : ByteArray := prog_20_method_7_code
def yX4_counts : MethodName := ⟨RX4, "counts", "(II)V"⟩
def dkwX4_counts_0 : List UInt8 := [42, 180, 0, 7, 16, 8, 27, 96, 92, 46, 28, 96, 79, 177]
abbrev dktX4_counts_0 : List UInt8 := dkwX4_counts_0 ++ []
theorem dksX4_counts_0 : cX4_counts.data.toList.drop 0 = dktX4_counts_0 := by decide +kernel
theorem dX4_counts_0 : decode cX4_counts 0 = .ok (.aload_n 0, 1) := dk_42 (dk_at dksX4_counts_0 0 rfl rfl)
theorem dX4_counts_1 : decode cX4_counts 1 = .ok (.getfield 7, 3) := dk_180 0 7 (dk_at dksX4_counts_0 1 rfl rfl)
theorem dX4_counts_4 : decode cX4_counts 4 = .ok (.bipush 8, 2) := dk_16 8 (dk_at dksX4_counts_0 4 rfl rfl)
theorem dX4_counts_6 : decode cX4_counts 6 = .ok (.iload_n 1, 1) := dk_27 (dk_at dksX4_counts_0 6 rfl rfl)
theorem dX4_counts_7 : decode cX4_counts 7 = .ok (.iadd, 1) := dk_96 (dk_at dksX4_counts_0 7 rfl rfl)
theorem dX4_counts_8 : decode cX4_counts 8 = .ok (.dup2, 1) := dk_92 (dk_at dksX4_counts_0 8 rfl rfl)
theorem dX4_counts_9 : decode cX4_counts 9 = .ok (.iaload, 1) := dk_46 (dk_at dksX4_counts_0 9 rfl rfl)
theorem dX4_counts_10 : decode cX4_counts 10 = .ok (.iload_n 2, 1) := dk_28 (dk_at dksX4_counts_0 10 rfl rfl)
theorem dX4_counts_11 : decode cX4_counts 11 = .ok (.iadd, 1) := dk_96 (dk_at dksX4_counts_0 11 rfl rfl)
theorem dX4_counts_12 : decode cX4_counts 12 = .ok (.iastore, 1) := dk_79 (dk_at dksX4_counts_0 12 rfl rfl)
theorem dX4_counts_13 : decode cX4_counts 13 = .ok (.return_, 1) := dk_177 (dk_at dksX4_counts_0 13 rfl rfl)
abbrev cX4_falls : ByteArray := prog_20_method_24_code
def yX4_falls : MethodName := ⟨RX4, "falls", "(I)V"⟩
def dkwX4_falls_2 : List UInt8 := [182, 0, 63, 42, 8, 4, 182, 0, 112, 177]
abbrev dktX4_falls_2 : List UInt8 := dkwX4_falls_2 ++ []
def dkwX4_falls_1 : List UInt8 := [42, 27, 16, 6, 4, 28, 28, 42, 180, 0, 7, 16, 7, 46, 104, 16, 100, 108, 100, 4, 100, 184, 0, 103]
abbrev dktX4_falls_1 : List UInt8 := dkwX4_falls_1 ++ dktX4_falls_2
def dkwX4_falls_0 : List UInt8 := [42, 27, 16, 6, 182, 0, 67, 61, 42, 27, 16, 8, 42, 27, 16, 8, 182, 0, 67, 4, 96, 182, 0, 63]
abbrev dktX4_falls_0 : List UInt8 := dkwX4_falls_0 ++ dktX4_falls_1
theorem dksX4_falls_0 : cX4_falls.data.toList.drop 0 = dktX4_falls_0 := by decide +kernel
theorem dksX4_falls_1 : cX4_falls.data.toList.drop 24 = dktX4_falls_1 := dk_seg dksX4_falls_0 24 rfl rfl
theorem dksX4_falls_2 : cX4_falls.data.toList.drop 48 = dktX4_falls_2 := dk_seg dksX4_falls_1 24 rfl rfl
theorem dX4_falls_0 : decode cX4_falls 0 = .ok (.aload_n 0, 1) := dk_42 (dk_at dksX4_falls_0 0 rfl rfl)
theorem dX4_falls_1 : decode cX4_falls 1 = .ok (.iload_n 1, 1) := dk_27 (dk_at dksX4_falls_0 1 rfl rfl)
theorem dX4_falls_2 : decode cX4_falls 2 = .ok (.bipush 6, 2) := dk_16 6 (dk_at dksX4_falls_0 2 rfl rfl)
theorem dX4_falls_4 : decode cX4_falls 4 = .ok (.invokevirtual 67, 3) := dk_182 0 67 (dk_at dksX4_falls_0 4 rfl rfl)
theorem dX4_falls_7 : decode cX4_falls 7 = .ok (.istore_n 2, 1) := dk_61 (dk_at dksX4_falls_0 7 rfl rfl)
theorem dX4_falls_8 : decode cX4_falls 8 = .ok (.aload_n 0, 1) := dk_42 (dk_at dksX4_falls_0 8 rfl rfl)
theorem dX4_falls_9 : decode cX4_falls 9 = .ok (.iload_n 1, 1) := dk_27 (dk_at dksX4_falls_0 9 rfl rfl)
theorem dX4_falls_10 : decode cX4_falls 10 = .ok (.bipush 8, 2) := dk_16 8 (dk_at dksX4_falls_0 10 rfl rfl)
theorem dX4_falls_12 : decode cX4_falls 12 = .ok (.aload_n 0, 1) := dk_42 (dk_at dksX4_falls_0 12 rfl rfl)
theorem dX4_falls_13 : decode cX4_falls 13 = .ok (.iload_n 1, 1) := dk_27 (dk_at dksX4_falls_0 13 rfl rfl)
theorem dX4_falls_14 : decode cX4_falls 14 = .ok (.bipush 8, 2) := dk_16 8 (dk_at dksX4_falls_0 14 rfl rfl)
theorem dX4_falls_16 : decode cX4_falls 16 = .ok (.invokevirtual 67, 3) := dk_182 0 67 (dk_at dksX4_falls_0 16 rfl rfl)
theorem dX4_falls_19 : decode cX4_falls 19 = .ok (.iconst 1, 1) := dk_4 (dk_at dksX4_falls_0 19 rfl rfl)
theorem dX4_falls_20 : decode cX4_falls 20 = .ok (.iadd, 1) := dk_96 (dk_at dksX4_falls_0 20 rfl rfl)
theorem dX4_falls_21 : decode cX4_falls 21 = .ok (.invokevirtual 63, 3) := dk_182 0 63 (dk_at dksX4_falls_0 21 rfl rfl)
theorem dX4_falls_24 : decode cX4_falls 24 = .ok (.aload_n 0, 1) := dk_42 (dk_at dksX4_falls_1 0 rfl rfl)
theorem dX4_falls_25 : decode cX4_falls 25 = .ok (.iload_n 1, 1) := dk_27 (dk_at dksX4_falls_1 1 rfl rfl)
theorem dX4_falls_26 : decode cX4_falls 26 = .ok (.bipush 6, 2) := dk_16 6 (dk_at dksX4_falls_1 2 rfl rfl)
theorem dX4_falls_28 : decode cX4_falls 28 = .ok (.iconst 1, 1) := dk_4 (dk_at dksX4_falls_1 4 rfl rfl)
theorem dX4_falls_29 : decode cX4_falls 29 = .ok (.iload_n 2, 1) := dk_28 (dk_at dksX4_falls_1 5 rfl rfl)
theorem dX4_falls_30 : decode cX4_falls 30 = .ok (.iload_n 2, 1) := dk_28 (dk_at dksX4_falls_1 6 rfl rfl)
theorem dX4_falls_31 : decode cX4_falls 31 = .ok (.aload_n 0, 1) := dk_42 (dk_at dksX4_falls_1 7 rfl rfl)
theorem dX4_falls_32 : decode cX4_falls 32 = .ok (.getfield 7, 3) := dk_180 0 7 (dk_at dksX4_falls_1 8 rfl rfl)
theorem dX4_falls_35 : decode cX4_falls 35 = .ok (.bipush 7, 2) := dk_16 7 (dk_at dksX4_falls_1 11 rfl rfl)
theorem dX4_falls_37 : decode cX4_falls 37 = .ok (.iaload, 1) := dk_46 (dk_at dksX4_falls_1 13 rfl rfl)
theorem dX4_falls_38 : decode cX4_falls 38 = .ok (.imul, 1) := dk_104 (dk_at dksX4_falls_1 14 rfl rfl)
theorem dX4_falls_39 : decode cX4_falls 39 = .ok (.bipush 100, 2) := dk_16 100 (dk_at dksX4_falls_1 15 rfl rfl)
theorem dX4_falls_41 : decode cX4_falls 41 = .ok (.idiv, 1) := dk_108 (dk_at dksX4_falls_1 17 rfl rfl)
theorem dX4_falls_42 : decode cX4_falls 42 = .ok (.isub, 1) := dk_100 (dk_at dksX4_falls_1 18 rfl rfl)
theorem dX4_falls_43 : decode cX4_falls 43 = .ok (.iconst 1, 1) := dk_4 (dk_at dksX4_falls_1 19 rfl rfl)
theorem dX4_falls_44 : decode cX4_falls 44 = .ok (.isub, 1) := dk_100 (dk_at dksX4_falls_1 20 rfl rfl)
theorem dX4_falls_45 : decode cX4_falls 45 = .ok (.invokestatic 103, 3) := dk_184 0 103 (dk_at dksX4_falls_1 21 rfl rfl)
theorem dX4_falls_48 : decode cX4_falls 48 = .ok (.invokevirtual 63, 3) := dk_182 0 63 (dk_at dksX4_falls_2 0 rfl rfl)
theorem dX4_falls_51 : decode cX4_falls 51 = .ok (.aload_n 0, 1) := dk_42 (dk_at dksX4_falls_2 3 rfl rfl)
theorem dX4_falls_52 : decode cX4_falls 52 = .ok (.iconst 5, 1) := dk_8 (dk_at dksX4_falls_2 4 rfl rfl)
theorem dX4_falls_53 : decode cX4_falls 53 = .ok (.iconst 1, 1) := dk_4 (dk_at dksX4_falls_2 5 rfl rfl)
theorem dX4_falls_54 : decode cX4_falls 54 = .ok (.invokevirtual 112, 3) := dk_182 0 112 (dk_at dksX4_falls_2 6 rfl rfl)
theorem dX4_falls_57 : decode cX4_falls 57 = .ok (.return_, 1) := dk_177 (dk_at dksX4_falls_2 9 rfl rfl)
abbrev cX4_countsYear : ByteArray := prog_20_method_26_code
def yX4_countsYear : MethodName := ⟨RX4, "countsYear", "(II)V"⟩
def dkwX4_countsYear_3 : List UInt8 := [16, 17, 7, 29, 104, 96, 21, 4, 96, 92, 46, 4, 96, 79, 177]
abbrev dktX4_countsYear_3 : List UInt8 := dkwX4_countsYear_3 ++ []
def dkwX4_countsYear_2 : List UInt8 := [4, 164, 0, 4, 177, 42, 180, 0, 7, 16, 17, 7, 29, 104, 96, 92, 46, 4, 96, 79, 42, 180, 0, 7]
abbrev dktX4_countsYear_2 : List UInt8 := dkwX4_countsYear_2 ++ dktX4_countsYear_3
def dkwX4_countsYear_1 : List UInt8 := [160, 0, 7, 4, 167, 0, 4, 5, 54, 4, 42, 3, 4, 182, 0, 112, 42, 21, 4, 4, 182, 0, 112, 29]
abbrev dktX4_countsYear_1 : List UInt8 := dkwX4_countsYear_1 ++ dktX4_countsYear_2
def dkwX4_countsYear_0 : List UInt8 := [42, 180, 0, 7, 5, 46, 17, 1, 104, 108, 62, 27, 2, 160, 0, 7, 6, 167, 0, 13, 27, 28]
abbrev dktX4_countsYear_0 : List UInt8 := dkwX4_countsYear_0 ++ dktX4_countsYear_1
theorem dksX4_countsYear_0 : cX4_countsYear.data.toList.drop 0 = dktX4_countsYear_0 := by decide +kernel
theorem dksX4_countsYear_1 : cX4_countsYear.data.toList.drop 22 = dktX4_countsYear_1 := dk_seg dksX4_countsYear_0 22 rfl rfl
theorem dksX4_countsYear_2 : cX4_countsYear.data.toList.drop 46 = dktX4_countsYear_2 := dk_seg dksX4_countsYear_1 24 rfl rfl
theorem dksX4_countsYear_3 : cX4_countsYear.data.toList.drop 70 = dktX4_countsYear_3 := dk_seg dksX4_countsYear_2 24 rfl rfl
theorem dX4_countsYear_0 : decode cX4_countsYear 0 = .ok (.aload_n 0, 1) := dk_42 (dk_at dksX4_countsYear_0 0 rfl rfl)
theorem dX4_countsYear_1 : decode cX4_countsYear 1 = .ok (.getfield 7, 3) := dk_180 0 7 (dk_at dksX4_countsYear_0 1 rfl rfl)
theorem dX4_countsYear_4 : decode cX4_countsYear 4 = .ok (.iconst 2, 1) := dk_5 (dk_at dksX4_countsYear_0 4 rfl rfl)
theorem dX4_countsYear_5 : decode cX4_countsYear 5 = .ok (.iaload, 1) := dk_46 (dk_at dksX4_countsYear_0 5 rfl rfl)
theorem dX4_countsYear_6 : decode cX4_countsYear 6 = .ok (.sipush 360, 3) := dk_17 1 104 (dk_at dksX4_countsYear_0 6 rfl rfl)
theorem dX4_countsYear_9 : decode cX4_countsYear 9 = .ok (.idiv, 1) := dk_108 (dk_at dksX4_countsYear_0 9 rfl rfl)
theorem dX4_countsYear_10 : decode cX4_countsYear 10 = .ok (.istore_n 3, 1) := dk_62 (dk_at dksX4_countsYear_0 10 rfl rfl)
theorem dX4_countsYear_11 : decode cX4_countsYear 11 = .ok (.iload_n 1, 1) := dk_27 (dk_at dksX4_countsYear_0 11 rfl rfl)
theorem dX4_countsYear_12 : decode cX4_countsYear 12 = .ok (.iconst (-1), 1) := dk_2 (dk_at dksX4_countsYear_0 12 rfl rfl)
theorem dX4_countsYear_13 : decode cX4_countsYear 13 = .ok (.if_icmp .ne 7, 3) := dk_160 0 7 (dk_at dksX4_countsYear_0 13 rfl rfl)
theorem dX4_countsYear_16 : decode cX4_countsYear 16 = .ok (.iconst 3, 1) := dk_6 (dk_at dksX4_countsYear_0 16 rfl rfl)
theorem dX4_countsYear_17 : decode cX4_countsYear 17 = .ok (.goto 13, 3) := dk_167 0 13 (dk_at dksX4_countsYear_0 17 rfl rfl)
theorem dX4_countsYear_20 : decode cX4_countsYear 20 = .ok (.iload_n 1, 1) := dk_27 (dk_at dksX4_countsYear_0 20 rfl rfl)
theorem dX4_countsYear_21 : decode cX4_countsYear 21 = .ok (.iload_n 2, 1) := dk_28 (dk_at dksX4_countsYear_0 21 rfl rfl)
theorem dX4_countsYear_22 : decode cX4_countsYear 22 = .ok (.if_icmp .ne 7, 3) := dk_160 0 7 (dk_at dksX4_countsYear_1 0 rfl rfl)
theorem dX4_countsYear_25 : decode cX4_countsYear 25 = .ok (.iconst 1, 1) := dk_4 (dk_at dksX4_countsYear_1 3 rfl rfl)
theorem dX4_countsYear_26 : decode cX4_countsYear 26 = .ok (.goto 4, 3) := dk_167 0 4 (dk_at dksX4_countsYear_1 4 rfl rfl)
theorem dX4_countsYear_29 : decode cX4_countsYear 29 = .ok (.iconst 2, 1) := dk_5 (dk_at dksX4_countsYear_1 7 rfl rfl)
theorem dX4_countsYear_30 : decode cX4_countsYear 30 = .ok (.istore 4, 2) := dk_54 4 (dk_at dksX4_countsYear_1 8 rfl rfl)
theorem dX4_countsYear_32 : decode cX4_countsYear 32 = .ok (.aload_n 0, 1) := dk_42 (dk_at dksX4_countsYear_1 10 rfl rfl)
theorem dX4_countsYear_33 : decode cX4_countsYear 33 = .ok (.iconst 0, 1) := dk_3 (dk_at dksX4_countsYear_1 11 rfl rfl)
theorem dX4_countsYear_34 : decode cX4_countsYear 34 = .ok (.iconst 1, 1) := dk_4 (dk_at dksX4_countsYear_1 12 rfl rfl)
theorem dX4_countsYear_35 : decode cX4_countsYear 35 = .ok (.invokevirtual 112, 3) := dk_182 0 112 (dk_at dksX4_countsYear_1 13 rfl rfl)
theorem dX4_countsYear_38 : decode cX4_countsYear 38 = .ok (.aload_n 0, 1) := dk_42 (dk_at dksX4_countsYear_1 16 rfl rfl)
theorem dX4_countsYear_39 : decode cX4_countsYear 39 = .ok (.iload 4, 2) := dk_21 4 (dk_at dksX4_countsYear_1 17 rfl rfl)
theorem dX4_countsYear_41 : decode cX4_countsYear 41 = .ok (.iconst 1, 1) := dk_4 (dk_at dksX4_countsYear_1 19 rfl rfl)
theorem dX4_countsYear_42 : decode cX4_countsYear 42 = .ok (.invokevirtual 112, 3) := dk_182 0 112 (dk_at dksX4_countsYear_1 20 rfl rfl)
theorem dX4_countsYear_45 : decode cX4_countsYear 45 = .ok (.iload_n 3, 1) := dk_29 (dk_at dksX4_countsYear_1 23 rfl rfl)
theorem dX4_countsYear_46 : decode cX4_countsYear 46 = .ok (.iconst 1, 1) := dk_4 (dk_at dksX4_countsYear_2 0 rfl rfl)
theorem dX4_countsYear_47 : decode cX4_countsYear 47 = .ok (.if_icmp .le 4, 3) := dk_164 0 4 (dk_at dksX4_countsYear_2 1 rfl rfl)
theorem dX4_countsYear_50 : decode cX4_countsYear 50 = .ok (.return_, 1) := dk_177 (dk_at dksX4_countsYear_2 4 rfl rfl)
theorem dX4_countsYear_51 : decode cX4_countsYear 51 = .ok (.aload_n 0, 1) := dk_42 (dk_at dksX4_countsYear_2 5 rfl rfl)
theorem dX4_countsYear_52 : decode cX4_countsYear 52 = .ok (.getfield 7, 3) := dk_180 0 7 (dk_at dksX4_countsYear_2 6 rfl rfl)
theorem dX4_countsYear_55 : decode cX4_countsYear 55 = .ok (.bipush 17, 2) := dk_16 17 (dk_at dksX4_countsYear_2 9 rfl rfl)
theorem dX4_countsYear_57 : decode cX4_countsYear 57 = .ok (.iconst 4, 1) := dk_7 (dk_at dksX4_countsYear_2 11 rfl rfl)
theorem dX4_countsYear_58 : decode cX4_countsYear 58 = .ok (.iload_n 3, 1) := dk_29 (dk_at dksX4_countsYear_2 12 rfl rfl)
theorem dX4_countsYear_59 : decode cX4_countsYear 59 = .ok (.imul, 1) := dk_104 (dk_at dksX4_countsYear_2 13 rfl rfl)
theorem dX4_countsYear_60 : decode cX4_countsYear 60 = .ok (.iadd, 1) := dk_96 (dk_at dksX4_countsYear_2 14 rfl rfl)
theorem dX4_countsYear_61 : decode cX4_countsYear 61 = .ok (.dup2, 1) := dk_92 (dk_at dksX4_countsYear_2 15 rfl rfl)
theorem dX4_countsYear_62 : decode cX4_countsYear 62 = .ok (.iaload, 1) := dk_46 (dk_at dksX4_countsYear_2 16 rfl rfl)
theorem dX4_countsYear_63 : decode cX4_countsYear 63 = .ok (.iconst 1, 1) := dk_4 (dk_at dksX4_countsYear_2 17 rfl rfl)
theorem dX4_countsYear_64 : decode cX4_countsYear 64 = .ok (.iadd, 1) := dk_96 (dk_at dksX4_countsYear_2 18 rfl rfl)
theorem dX4_countsYear_65 : decode cX4_countsYear 65 = .ok (.iastore, 1) := dk_79 (dk_at dksX4_countsYear_2 19 rfl rfl)
theorem dX4_countsYear_66 : decode cX4_countsYear 66 = .ok (.aload_n 0, 1) := dk_42 (dk_at dksX4_countsYear_2 20 rfl rfl)
theorem dX4_countsYear_67 : decode cX4_countsYear 67 = .ok (.getfield 7, 3) := dk_180 0 7 (dk_at dksX4_countsYear_2 21 rfl rfl)
theorem dX4_countsYear_70 : decode cX4_countsYear 70 = .ok (.bipush 17, 2) := dk_16 17 (dk_at dksX4_countsYear_3 0 rfl rfl)
theorem dX4_countsYear_72 : decode cX4_countsYear 72 = .ok (.iconst 4, 1) := dk_7 (dk_at dksX4_countsYear_3 2 rfl rfl)
theorem dX4_countsYear_73 : decode cX4_countsYear 73 = .ok (.iload_n 3, 1) := dk_29 (dk_at dksX4_countsYear_3 3 rfl rfl)
theorem dX4_countsYear_74 : decode cX4_countsYear 74 = .ok (.imul, 1) := dk_104 (dk_at dksX4_countsYear_3 4 rfl rfl)
theorem dX4_countsYear_75 : decode cX4_countsYear 75 = .ok (.iadd, 1) := dk_96 (dk_at dksX4_countsYear_3 5 rfl rfl)
theorem dX4_countsYear_76 : decode cX4_countsYear 76 = .ok (.iload 4, 2) := dk_21 4 (dk_at dksX4_countsYear_3 6 rfl rfl)
theorem dX4_countsYear_78 : decode cX4_countsYear 78 = .ok (.iadd, 1) := dk_96 (dk_at dksX4_countsYear_3 8 rfl rfl)
theorem dX4_countsYear_79 : decode cX4_countsYear 79 = .ok (.dup2, 1) := dk_92 (dk_at dksX4_countsYear_3 9 rfl rfl)
theorem dX4_countsYear_80 : decode cX4_countsYear 80 = .ok (.iaload, 1) := dk_46 (dk_at dksX4_countsYear_3 10 rfl rfl)
theorem dX4_countsYear_81 : decode cX4_countsYear 81 = .ok (.iconst 1, 1) := dk_4 (dk_at dksX4_countsYear_3 11 rfl rfl)
theorem dX4_countsYear_82 : decode cX4_countsYear 82 = .ok (.iadd, 1) := dk_96 (dk_at dksX4_countsYear_3 12 rfl rfl)
theorem dX4_countsYear_83 : decode cX4_countsYear 83 = .ok (.iastore, 1) := dk_79 (dk_at dksX4_countsYear_3 13 rfl rfl)
theorem dX4_countsYear_84 : decode cX4_countsYear 84 = .ok (.return_, 1) := dk_177 (dk_at dksX4_countsYear_3 14 rfl rfl)
abbrev cX4_mayCome : ByteArray := prog_20_method_64_code
def yX4_mayCome : MethodName := ⟨RX4, "mayCome", "()Z"⟩
def dkwX4_mayCome_2 : List UInt8 := [4, 167, 0, 4, 3, 172]
abbrev dktX4_mayCome_2 : List UInt8 := dkwX4_mayCome_2 ++ []
def dkwX4_mayCome_1 : List UInt8 := [42, 180, 0, 38, 5, 46, 42, 180, 0, 38, 6, 46, 42, 180, 0, 38, 7, 46, 182, 0, 227, 154, 0, 7]
abbrev dktX4_mayCome_1 : List UInt8 := dkwX4_mayCome_1 ++ dktX4_mayCome_2
def dkwX4_mayCome_0 : List UInt8 := [42, 180, 0, 7, 3, 46, 16, 24, 162, 0, 44, 42, 42, 180, 0, 38, 3, 46, 42, 180, 0, 38, 4, 46]
abbrev dktX4_mayCome_0 : List UInt8 := dkwX4_mayCome_0 ++ dktX4_mayCome_1
theorem dksX4_mayCome_0 : cX4_mayCome.data.toList.drop 0 = dktX4_mayCome_0 := by decide +kernel
theorem dksX4_mayCome_1 : cX4_mayCome.data.toList.drop 24 = dktX4_mayCome_1 := dk_seg dksX4_mayCome_0 24 rfl rfl
theorem dksX4_mayCome_2 : cX4_mayCome.data.toList.drop 48 = dktX4_mayCome_2 := dk_seg dksX4_mayCome_1 24 rfl rfl
theorem dX4_mayCome_0 : decode cX4_mayCome 0 = .ok (.aload_n 0, 1) := dk_42 (dk_at dksX4_mayCome_0 0 rfl rfl)
theorem dX4_mayCome_1 : decode cX4_mayCome 1 = .ok (.getfield 7, 3) := dk_180 0 7 (dk_at dksX4_mayCome_0 1 rfl rfl)
theorem dX4_mayCome_4 : decode cX4_mayCome 4 = .ok (.iconst 0, 1) := dk_3 (dk_at dksX4_mayCome_0 4 rfl rfl)
theorem dX4_mayCome_5 : decode cX4_mayCome 5 = .ok (.iaload, 1) := dk_46 (dk_at dksX4_mayCome_0 5 rfl rfl)
theorem dX4_mayCome_6 : decode cX4_mayCome 6 = .ok (.bipush 24, 2) := dk_16 24 (dk_at dksX4_mayCome_0 6 rfl rfl)
theorem dX4_mayCome_8 : decode cX4_mayCome 8 = .ok (.if_icmp .ge 44, 3) := dk_162 0 44 (dk_at dksX4_mayCome_0 8 rfl rfl)
theorem dX4_mayCome_11 : decode cX4_mayCome 11 = .ok (.aload_n 0, 1) := dk_42 (dk_at dksX4_mayCome_0 11 rfl rfl)
theorem dX4_mayCome_12 : decode cX4_mayCome 12 = .ok (.aload_n 0, 1) := dk_42 (dk_at dksX4_mayCome_0 12 rfl rfl)
theorem dX4_mayCome_13 : decode cX4_mayCome 13 = .ok (.getfield 38, 3) := dk_180 0 38 (dk_at dksX4_mayCome_0 13 rfl rfl)
theorem dX4_mayCome_16 : decode cX4_mayCome 16 = .ok (.iconst 0, 1) := dk_3 (dk_at dksX4_mayCome_0 16 rfl rfl)
theorem dX4_mayCome_17 : decode cX4_mayCome 17 = .ok (.iaload, 1) := dk_46 (dk_at dksX4_mayCome_0 17 rfl rfl)
theorem dX4_mayCome_18 : decode cX4_mayCome 18 = .ok (.aload_n 0, 1) := dk_42 (dk_at dksX4_mayCome_0 18 rfl rfl)
theorem dX4_mayCome_19 : decode cX4_mayCome 19 = .ok (.getfield 38, 3) := dk_180 0 38 (dk_at dksX4_mayCome_0 19 rfl rfl)
theorem dX4_mayCome_22 : decode cX4_mayCome 22 = .ok (.iconst 1, 1) := dk_4 (dk_at dksX4_mayCome_0 22 rfl rfl)
theorem dX4_mayCome_23 : decode cX4_mayCome 23 = .ok (.iaload, 1) := dk_46 (dk_at dksX4_mayCome_0 23 rfl rfl)
theorem dX4_mayCome_24 : decode cX4_mayCome 24 = .ok (.aload_n 0, 1) := dk_42 (dk_at dksX4_mayCome_1 0 rfl rfl)
theorem dX4_mayCome_25 : decode cX4_mayCome 25 = .ok (.getfield 38, 3) := dk_180 0 38 (dk_at dksX4_mayCome_1 1 rfl rfl)
theorem dX4_mayCome_28 : decode cX4_mayCome 28 = .ok (.iconst 2, 1) := dk_5 (dk_at dksX4_mayCome_1 4 rfl rfl)
theorem dX4_mayCome_29 : decode cX4_mayCome 29 = .ok (.iaload, 1) := dk_46 (dk_at dksX4_mayCome_1 5 rfl rfl)
theorem dX4_mayCome_30 : decode cX4_mayCome 30 = .ok (.aload_n 0, 1) := dk_42 (dk_at dksX4_mayCome_1 6 rfl rfl)
theorem dX4_mayCome_31 : decode cX4_mayCome 31 = .ok (.getfield 38, 3) := dk_180 0 38 (dk_at dksX4_mayCome_1 7 rfl rfl)
theorem dX4_mayCome_34 : decode cX4_mayCome 34 = .ok (.iconst 3, 1) := dk_6 (dk_at dksX4_mayCome_1 10 rfl rfl)
theorem dX4_mayCome_35 : decode cX4_mayCome 35 = .ok (.iaload, 1) := dk_46 (dk_at dksX4_mayCome_1 11 rfl rfl)
theorem dX4_mayCome_36 : decode cX4_mayCome 36 = .ok (.aload_n 0, 1) := dk_42 (dk_at dksX4_mayCome_1 12 rfl rfl)
theorem dX4_mayCome_37 : decode cX4_mayCome 37 = .ok (.getfield 38, 3) := dk_180 0 38 (dk_at dksX4_mayCome_1 13 rfl rfl)
theorem dX4_mayCome_40 : decode cX4_mayCome 40 = .ok (.iconst 4, 1) := dk_7 (dk_at dksX4_mayCome_1 16 rfl rfl)
theorem dX4_mayCome_41 : decode cX4_mayCome 41 = .ok (.iaload, 1) := dk_46 (dk_at dksX4_mayCome_1 17 rfl rfl)
theorem dX4_mayCome_42 : decode cX4_mayCome 42 = .ok (.invokevirtual 227, 3) := dk_182 0 227 (dk_at dksX4_mayCome_1 18 rfl rfl)
theorem dX4_mayCome_45 : decode cX4_mayCome 45 = .ok (.ifCond .ne 7, 3) := dk_154 0 7 (dk_at dksX4_mayCome_1 21 rfl rfl)
theorem dX4_mayCome_48 : decode cX4_mayCome 48 = .ok (.iconst 1, 1) := dk_4 (dk_at dksX4_mayCome_2 0 rfl rfl)
theorem dX4_mayCome_49 : decode cX4_mayCome 49 = .ok (.goto 4, 3) := dk_167 0 4 (dk_at dksX4_mayCome_2 1 rfl rfl)
theorem dX4_mayCome_52 : decode cX4_mayCome 52 = .ok (.iconst 0, 1) := dk_3 (dk_at dksX4_mayCome_2 4 rfl rfl)
theorem dX4_mayCome_53 : decode cX4_mayCome 53 = .ok (.ireturn, 1) := dk_172 (dk_at dksX4_mayCome_2 5 rfl rfl)
abbrev cX4_comes : ByteArray := prog_20_method_31_code
def yX4_comes : MethodName := ⟨RX4, "comes", "(IIIIII)I"⟩
def dkwX4_comes_0 : List UInt8 := [42, 16, 6, 4, 182, 0, 112, 42, 27, 28, 29, 21, 4, 21, 5, 21, 6, 182, 0, 56, 172]
abbrev dktX4_comes_0 : List UInt8 := dkwX4_comes_0 ++ []
theorem dksX4_comes_0 : cX4_comes.data.toList.drop 0 = dktX4_comes_0 := by decide +kernel
theorem dX4_comes_0 : decode cX4_comes 0 = .ok (.aload_n 0, 1) := dk_42 (dk_at dksX4_comes_0 0 rfl rfl)
theorem dX4_comes_1 : decode cX4_comes 1 = .ok (.bipush 6, 2) := dk_16 6 (dk_at dksX4_comes_0 1 rfl rfl)
theorem dX4_comes_3 : decode cX4_comes 3 = .ok (.iconst 1, 1) := dk_4 (dk_at dksX4_comes_0 3 rfl rfl)
theorem dX4_comes_4 : decode cX4_comes 4 = .ok (.invokevirtual 112, 3) := dk_182 0 112 (dk_at dksX4_comes_0 4 rfl rfl)
theorem dX4_comes_7 : decode cX4_comes 7 = .ok (.aload_n 0, 1) := dk_42 (dk_at dksX4_comes_0 7 rfl rfl)
theorem dX4_comes_8 : decode cX4_comes 8 = .ok (.iload_n 1, 1) := dk_27 (dk_at dksX4_comes_0 8 rfl rfl)
theorem dX4_comes_9 : decode cX4_comes 9 = .ok (.iload_n 2, 1) := dk_28 (dk_at dksX4_comes_0 9 rfl rfl)
theorem dX4_comes_10 : decode cX4_comes 10 = .ok (.iload_n 3, 1) := dk_29 (dk_at dksX4_comes_0 10 rfl rfl)
theorem dX4_comes_11 : decode cX4_comes 11 = .ok (.iload 4, 2) := dk_21 4 (dk_at dksX4_comes_0 11 rfl rfl)
theorem dX4_comes_13 : decode cX4_comes 13 = .ok (.iload 5, 2) := dk_21 5 (dk_at dksX4_comes_0 13 rfl rfl)
theorem dX4_comes_15 : decode cX4_comes 15 = .ok (.iload 6, 2) := dk_21 6 (dk_at dksX4_comes_0 15 rfl rfl)
theorem dX4_comes_17 : decode cX4_comes 17 = .ok (.invokevirtual 56, 3) := dk_182 0 56 (dk_at dksX4_comes_0 17 rfl rfl)
theorem dX4_comes_20 : decode cX4_comes 20 = .ok (.ireturn, 1) := dk_172 (dk_at dksX4_comes_0 20 rfl rfl)
abbrev cX4_forgets : ByteArray := prog_20_method_33_code
def yX4_forgets : MethodName := ⟨RX4, "forgets", "(I)I"⟩
def dkwX4_forgets_0 : List UInt8 := [42, 27, 16, 9, 4, 182, 0, 63, 42, 16, 7, 4, 182, 0, 112, 42, 182, 0, 142, 172]
abbrev dktX4_forgets_0 : List UInt8 := dkwX4_forgets_0 ++ []
theorem dksX4_forgets_0 : cX4_forgets.data.toList.drop 0 = dktX4_forgets_0 := by decide +kernel
theorem dX4_forgets_0 : decode cX4_forgets 0 = .ok (.aload_n 0, 1) := dk_42 (dk_at dksX4_forgets_0 0 rfl rfl)
theorem dX4_forgets_1 : decode cX4_forgets 1 = .ok (.iload_n 1, 1) := dk_27 (dk_at dksX4_forgets_0 1 rfl rfl)
theorem dX4_forgets_2 : decode cX4_forgets 2 = .ok (.bipush 9, 2) := dk_16 9 (dk_at dksX4_forgets_0 2 rfl rfl)
theorem dX4_forgets_4 : decode cX4_forgets 4 = .ok (.iconst 1, 1) := dk_4 (dk_at dksX4_forgets_0 4 rfl rfl)
theorem dX4_forgets_5 : decode cX4_forgets 5 = .ok (.invokevirtual 63, 3) := dk_182 0 63 (dk_at dksX4_forgets_0 5 rfl rfl)
theorem dX4_forgets_8 : decode cX4_forgets 8 = .ok (.aload_n 0, 1) := dk_42 (dk_at dksX4_forgets_0 8 rfl rfl)
theorem dX4_forgets_9 : decode cX4_forgets 9 = .ok (.bipush 7, 2) := dk_16 7 (dk_at dksX4_forgets_0 9 rfl rfl)
theorem dX4_forgets_11 : decode cX4_forgets 11 = .ok (.iconst 1, 1) := dk_4 (dk_at dksX4_forgets_0 11 rfl rfl)
theorem dX4_forgets_12 : decode cX4_forgets 12 = .ok (.invokevirtual 112, 3) := dk_182 0 112 (dk_at dksX4_forgets_0 12 rfl rfl)
theorem dX4_forgets_15 : decode cX4_forgets 15 = .ok (.aload_n 0, 1) := dk_42 (dk_at dksX4_forgets_0 15 rfl rfl)
theorem dX4_forgets_16 : decode cX4_forgets 16 = .ok (.invokevirtual 142, 3) := dk_182 0 142 (dk_at dksX4_forgets_0 16 rfl rfl)
theorem dX4_forgets_19 : decode cX4_forgets 19 = .ok (.ireturn, 1) := dk_172 (dk_at dksX4_forgets_0 19 rfl rfl)
abbrev cX4_liveMany : ByteArray := prog_20_method_32_code
def yX4_liveMany : MethodName := ⟨RX4, "liveMany", "()I"⟩
def dkwX4_liveMany_1 : List UInt8 := [60, 132, 2, 1, 167, 255, 232, 27, 172]
abbrev dktX4_liveMany_1 : List UInt8 := dkwX4_liveMany_1 ++ []
def dkwX4_liveMany_0 : List UInt8 := [3, 60, 3, 61, 28, 42, 180, 0, 7, 3, 46, 162, 0, 20, 27, 42, 28, 182, 0, 84, 184, 0, 99, 96]
abbrev dktX4_liveMany_0 : List UInt8 := dkwX4_liveMany_0 ++ dktX4_liveMany_1
theorem dksX4_liveMany_0 : cX4_liveMany.data.toList.drop 0 = dktX4_liveMany_0 := by decide +kernel
theorem dksX4_liveMany_1 : cX4_liveMany.data.toList.drop 24 = dktX4_liveMany_1 := dk_seg dksX4_liveMany_0 24 rfl rfl
theorem dX4_liveMany_0 : decode cX4_liveMany 0 = .ok (.iconst 0, 1) := dk_3 (dk_at dksX4_liveMany_0 0 rfl rfl)
theorem dX4_liveMany_1 : decode cX4_liveMany 1 = .ok (.istore_n 1, 1) := dk_60 (dk_at dksX4_liveMany_0 1 rfl rfl)
theorem dX4_liveMany_2 : decode cX4_liveMany 2 = .ok (.iconst 0, 1) := dk_3 (dk_at dksX4_liveMany_0 2 rfl rfl)
theorem dX4_liveMany_3 : decode cX4_liveMany 3 = .ok (.istore_n 2, 1) := dk_61 (dk_at dksX4_liveMany_0 3 rfl rfl)
theorem dX4_liveMany_4 : decode cX4_liveMany 4 = .ok (.iload_n 2, 1) := dk_28 (dk_at dksX4_liveMany_0 4 rfl rfl)
theorem dX4_liveMany_5 : decode cX4_liveMany 5 = .ok (.aload_n 0, 1) := dk_42 (dk_at dksX4_liveMany_0 5 rfl rfl)
theorem dX4_liveMany_6 : decode cX4_liveMany 6 = .ok (.getfield 7, 3) := dk_180 0 7 (dk_at dksX4_liveMany_0 6 rfl rfl)
theorem dX4_liveMany_9 : decode cX4_liveMany 9 = .ok (.iconst 0, 1) := dk_3 (dk_at dksX4_liveMany_0 9 rfl rfl)
theorem dX4_liveMany_10 : decode cX4_liveMany 10 = .ok (.iaload, 1) := dk_46 (dk_at dksX4_liveMany_0 10 rfl rfl)
theorem dX4_liveMany_11 : decode cX4_liveMany 11 = .ok (.if_icmp .ge 20, 3) := dk_162 0 20 (dk_at dksX4_liveMany_0 11 rfl rfl)
theorem dX4_liveMany_14 : decode cX4_liveMany 14 = .ok (.iload_n 1, 1) := dk_27 (dk_at dksX4_liveMany_0 14 rfl rfl)
theorem dX4_liveMany_15 : decode cX4_liveMany 15 = .ok (.aload_n 0, 1) := dk_42 (dk_at dksX4_liveMany_0 15 rfl rfl)
theorem dX4_liveMany_16 : decode cX4_liveMany 16 = .ok (.iload_n 2, 1) := dk_28 (dk_at dksX4_liveMany_0 16 rfl rfl)
theorem dX4_liveMany_17 : decode cX4_liveMany 17 = .ok (.invokevirtual 84, 3) := dk_182 0 84 (dk_at dksX4_liveMany_0 17 rfl rfl)
theorem dX4_liveMany_20 : decode cX4_liveMany 20 = .ok (.invokestatic 99, 3) := dk_184 0 99 (dk_at dksX4_liveMany_0 20 rfl rfl)
theorem dX4_liveMany_23 : decode cX4_liveMany 23 = .ok (.iadd, 1) := dk_96 (dk_at dksX4_liveMany_0 23 rfl rfl)
theorem dX4_liveMany_24 : decode cX4_liveMany 24 = .ok (.istore_n 1, 1) := dk_60 (dk_at dksX4_liveMany_1 0 rfl rfl)
theorem dX4_liveMany_25 : decode cX4_liveMany 25 = .ok (.iinc 2 1, 3) := dk_132 2 1 (dk_at dksX4_liveMany_1 1 rfl rfl)
theorem dX4_liveMany_28 : decode cX4_liveMany 28 = .ok (.goto (-24), 3) := dk_167 255 232 (dk_at dksX4_liveMany_1 4 rfl rfl)
theorem dX4_liveMany_31 : decode cX4_liveMany 31 = .ok (.iload_n 1, 1) := dk_27 (dk_at dksX4_liveMany_1 7 rfl rfl)
theorem dX4_liveMany_32 : decode cX4_liveMany 32 = .ok (.ireturn, 1) := dk_172 (dk_at dksX4_liveMany_1 8 rfl rfl)
abbrev cX4_weighs : ByteArray := prog_20_method_34_code
def yX4_weighs : MethodName := ⟨RX4, "weighs", "(II)I"⟩
def dkwX4_weighs_0 : List UInt8 := [42, 27, 16, 6, 182, 0, 67, 62, 42, 27, 16, 6, 28, 182, 0, 63, 29, 172]
abbrev dktX4_weighs_0 : List UInt8 := dkwX4_weighs_0 ++ []
theorem dksX4_weighs_0 : cX4_weighs.data.toList.drop 0 = dktX4_weighs_0 := by decide +kernel
theorem dX4_weighs_0 : decode cX4_weighs 0 = .ok (.aload_n 0, 1) := dk_42 (dk_at dksX4_weighs_0 0 rfl rfl)
theorem dX4_weighs_1 : decode cX4_weighs 1 = .ok (.iload_n 1, 1) := dk_27 (dk_at dksX4_weighs_0 1 rfl rfl)
theorem dX4_weighs_2 : decode cX4_weighs 2 = .ok (.bipush 6, 2) := dk_16 6 (dk_at dksX4_weighs_0 2 rfl rfl)
theorem dX4_weighs_4 : decode cX4_weighs 4 = .ok (.invokevirtual 67, 3) := dk_182 0 67 (dk_at dksX4_weighs_0 4 rfl rfl)
theorem dX4_weighs_7 : decode cX4_weighs 7 = .ok (.istore_n 3, 1) := dk_62 (dk_at dksX4_weighs_0 7 rfl rfl)
theorem dX4_weighs_8 : decode cX4_weighs 8 = .ok (.aload_n 0, 1) := dk_42 (dk_at dksX4_weighs_0 8 rfl rfl)
theorem dX4_weighs_9 : decode cX4_weighs 9 = .ok (.iload_n 1, 1) := dk_27 (dk_at dksX4_weighs_0 9 rfl rfl)
theorem dX4_weighs_10 : decode cX4_weighs 10 = .ok (.bipush 6, 2) := dk_16 6 (dk_at dksX4_weighs_0 10 rfl rfl)
theorem dX4_weighs_12 : decode cX4_weighs 12 = .ok (.iload_n 2, 1) := dk_28 (dk_at dksX4_weighs_0 12 rfl rfl)
theorem dX4_weighs_13 : decode cX4_weighs 13 = .ok (.invokevirtual 63, 3) := dk_182 0 63 (dk_at dksX4_weighs_0 13 rfl rfl)
theorem dX4_weighs_16 : decode cX4_weighs 16 = .ok (.iload_n 3, 1) := dk_29 (dk_at dksX4_weighs_0 16 rfl rfl)
theorem dX4_weighs_17 : decode cX4_weighs 17 = .ok (.ireturn, 1) := dk_172 (dk_at dksX4_weighs_0 17 rfl rfl)
abbrev cX4_sets : ByteArray := prog_20_method_35_code
def yX4_sets : MethodName := ⟨RX4, "sets", "(II)I"⟩
def dkwX4_sets_0 : List UInt8 := [42, 180, 0, 7, 27, 46, 62, 42, 180, 0, 7, 27, 28, 79, 29, 172]
abbrev dktX4_sets_0 : List UInt8 := dkwX4_sets_0 ++ []
theorem dksX4_sets_0 : cX4_sets.data.toList.drop 0 = dktX4_sets_0 := by decide +kernel
theorem dX4_sets_0 : decode cX4_sets 0 = .ok (.aload_n 0, 1) := dk_42 (dk_at dksX4_sets_0 0 rfl rfl)
theorem dX4_sets_1 : decode cX4_sets 1 = .ok (.getfield 7, 3) := dk_180 0 7 (dk_at dksX4_sets_0 1 rfl rfl)
theorem dX4_sets_4 : decode cX4_sets 4 = .ok (.iload_n 1, 1) := dk_27 (dk_at dksX4_sets_0 4 rfl rfl)
theorem dX4_sets_5 : decode cX4_sets 5 = .ok (.iaload, 1) := dk_46 (dk_at dksX4_sets_0 5 rfl rfl)
theorem dX4_sets_6 : decode cX4_sets 6 = .ok (.istore_n 3, 1) := dk_62 (dk_at dksX4_sets_0 6 rfl rfl)
theorem dX4_sets_7 : decode cX4_sets 7 = .ok (.aload_n 0, 1) := dk_42 (dk_at dksX4_sets_0 7 rfl rfl)
theorem dX4_sets_8 : decode cX4_sets 8 = .ok (.getfield 7, 3) := dk_180 0 7 (dk_at dksX4_sets_0 8 rfl rfl)
theorem dX4_sets_11 : decode cX4_sets 11 = .ok (.iload_n 1, 1) := dk_27 (dk_at dksX4_sets_0 11 rfl rfl)
theorem dX4_sets_12 : decode cX4_sets 12 = .ok (.iload_n 2, 1) := dk_28 (dk_at dksX4_sets_0 12 rfl rfl)
theorem dX4_sets_13 : decode cX4_sets 13 = .ok (.iastore, 1) := dk_79 (dk_at dksX4_sets_0 13 rfl rfl)
theorem dX4_sets_14 : decode cX4_sets 14 = .ok (.iload_n 3, 1) := dk_29 (dk_at dksX4_sets_0 14 rfl rfl)
theorem dX4_sets_15 : decode cX4_sets 15 = .ok (.ireturn, 1) := dk_172 (dk_at dksX4_sets_0 15 rfl rfl)
abbrev cX4_errorCode : ByteArray := prog_20_method_67_code
def yX4_errorCode : MethodName := ⟨RX4, "errorCode", "()I"⟩
def dkwX4_errorCode_0 : List UInt8 := [42, 3, 181, 0, 60, 42, 180, 0, 254, 172]
abbrev dktX4_errorCode_0 : List UInt8 := dkwX4_errorCode_0 ++ []
theorem dksX4_errorCode_0 : cX4_errorCode.data.toList.drop 0 = dktX4_errorCode_0 := by decide +kernel
theorem dX4_errorCode_0 : decode cX4_errorCode 0 = .ok (.aload_n 0, 1) := dk_42 (dk_at dksX4_errorCode_0 0 rfl rfl)
theorem dX4_errorCode_1 : decode cX4_errorCode 1 = .ok (.iconst 0, 1) := dk_3 (dk_at dksX4_errorCode_0 1 rfl rfl)
theorem dX4_errorCode_2 : decode cX4_errorCode 2 = .ok (.putfield 60, 3) := dk_181 0 60 (dk_at dksX4_errorCode_0 2 rfl rfl)
theorem dX4_errorCode_5 : decode cX4_errorCode 5 = .ok (.aload_n 0, 1) := dk_42 (dk_at dksX4_errorCode_0 5 rfl rfl)
theorem dX4_errorCode_6 : decode cX4_errorCode 6 = .ok (.getfield 254, 3) := dk_180 0 254 (dk_at dksX4_errorCode_0 6 rfl rfl)
theorem dX4_errorCode_9 : decode cX4_errorCode 9 = .ok (.ireturn, 1) := dk_172 (dk_at dksX4_errorCode_0 9 rfl rfl)
abbrev cX4_errorOffset : ByteArray := prog_20_method_68_code
def yX4_errorOffset : MethodName := ⟨RX4, "errorOffset", "()I"⟩
def dkwX4_errorOffset_0 : List UInt8 := [42, 3, 181, 0, 60, 42, 180, 0, 34, 172]
abbrev dktX4_errorOffset_0 : List UInt8 := dkwX4_errorOffset_0 ++ []
theorem dksX4_errorOffset_0 : cX4_errorOffset.data.toList.drop 0 = dktX4_errorOffset_0 := by decide +kernel
theorem dX4_errorOffset_0 : decode cX4_errorOffset 0 = .ok (.aload_n 0, 1) := dk_42 (dk_at dksX4_errorOffset_0 0 rfl rfl)
theorem dX4_errorOffset_1 : decode cX4_errorOffset 1 = .ok (.iconst 0, 1) := dk_3 (dk_at dksX4_errorOffset_0 1 rfl rfl)
theorem dX4_errorOffset_2 : decode cX4_errorOffset 2 = .ok (.putfield 60, 3) := dk_181 0 60 (dk_at dksX4_errorOffset_0 2 rfl rfl)
theorem dX4_errorOffset_5 : decode cX4_errorOffset 5 = .ok (.aload_n 0, 1) := dk_42 (dk_at dksX4_errorOffset_0 5 rfl rfl)
theorem dX4_errorOffset_6 : decode cX4_errorOffset 6 = .ok (.getfield 34, 3) := dk_180 0 34 (dk_at dksX4_errorOffset_0 6 rfl rfl)
theorem dX4_errorOffset_9 : decode cX4_errorOffset 9 = .ok (.ireturn, 1) := dk_172 (dk_at dksX4_errorOffset_0 9 rfl rfl)
abbrev cX4_count : ByteArray := prog_20_method_76_code
def yX4_count : MethodName := ⟨RX4, "count", "(I)I"⟩
def dkwX4_count_5 : List UInt8 := [172, 42, 180, 0, 7, 27, 46, 172]
abbrev dktX4_count_5 : List UInt8 := dkwX4_count_5 ++ []
def dkwX4_count_4 : List UInt8 := [17, 1, 104, 108, 172, 42, 182, 1, 69, 172, 42, 182, 1, 72, 172, 42, 182, 1, 75, 172, 42, 180, 0, 146]
abbrev dktX4_count_4 : List UInt8 := dkwX4_count_4 ++ dktX4_count_5
def dkwX4_count_3 : List UInt8 := [42, 182, 0, 142, 172, 42, 42, 180, 0, 7, 5, 46, 182, 0, 132, 172, 42, 180, 0, 7, 5, 46]
abbrev dktX4_count_3 : List UInt8 := dkwX4_count_3 ++ dktX4_count_4
def dkwX4_count_2 : List UInt8 := [170, 0, 0, 0, 104, 0, 0, 0, 1, 0, 0, 0, 11, 0, 0, 0, 57, 0, 0, 0, 104, 0, 0, 0, 62, 0, 0, 0, 73, 0, 0, 0, 104, 0, 0, 0, 104, 0, 0, 0, 104, 0, 0, 0, 84, 0, 0, 0, 89, 0, 0, 0, 94, 0, 0, 0, 99]
abbrev dktX4_count_2 : List UInt8 := dkwX4_count_2 ++ dktX4_count_3
def dkwX4_count_1 : List UInt8 := [182, 1, 65, 153, 0, 5, 3, 172, 27]
abbrev dktX4_count_1 : List UInt8 := dkwX4_count_1 ++ dktX4_count_2
def dkwX4_count_0 : List UInt8 := [42, 3, 181, 0, 60, 42, 27, 3, 16, 11, 184, 0, 159, 154, 0, 7, 4, 167, 0, 4, 3, 4]
abbrev dktX4_count_0 : List UInt8 := dkwX4_count_0 ++ dktX4_count_1
theorem dksX4_count_0 : cX4_count.data.toList.drop 0 = dktX4_count_0 := by decide +kernel
theorem dksX4_count_1 : cX4_count.data.toList.drop 22 = dktX4_count_1 := dk_seg dksX4_count_0 22 rfl rfl
theorem dksX4_count_2 : cX4_count.data.toList.drop 31 = dktX4_count_2 := dk_seg dksX4_count_1 9 rfl rfl
theorem dksX4_count_3 : cX4_count.data.toList.drop 88 = dktX4_count_3 := dk_seg dksX4_count_2 57 rfl rfl
theorem dksX4_count_4 : cX4_count.data.toList.drop 110 = dktX4_count_4 := dk_seg dksX4_count_3 22 rfl rfl
theorem dksX4_count_5 : cX4_count.data.toList.drop 134 = dktX4_count_5 := dk_seg dksX4_count_4 24 rfl rfl
theorem dX4_count_0 : decode cX4_count 0 = .ok (.aload_n 0, 1) := dk_42 (dk_at dksX4_count_0 0 rfl rfl)
theorem dX4_count_1 : decode cX4_count 1 = .ok (.iconst 0, 1) := dk_3 (dk_at dksX4_count_0 1 rfl rfl)
theorem dX4_count_2 : decode cX4_count 2 = .ok (.putfield 60, 3) := dk_181 0 60 (dk_at dksX4_count_0 2 rfl rfl)
theorem dX4_count_5 : decode cX4_count 5 = .ok (.aload_n 0, 1) := dk_42 (dk_at dksX4_count_0 5 rfl rfl)
theorem dX4_count_6 : decode cX4_count 6 = .ok (.iload_n 1, 1) := dk_27 (dk_at dksX4_count_0 6 rfl rfl)
theorem dX4_count_7 : decode cX4_count 7 = .ok (.iconst 0, 1) := dk_3 (dk_at dksX4_count_0 7 rfl rfl)
theorem dX4_count_8 : decode cX4_count 8 = .ok (.bipush 11, 2) := dk_16 11 (dk_at dksX4_count_0 8 rfl rfl)
theorem dX4_count_10 : decode cX4_count 10 = .ok (.invokestatic 159, 3) := dk_184 0 159 (dk_at dksX4_count_0 10 rfl rfl)
theorem dX4_count_13 : decode cX4_count 13 = .ok (.ifCond .ne 7, 3) := dk_154 0 7 (dk_at dksX4_count_0 13 rfl rfl)
theorem dX4_count_16 : decode cX4_count 16 = .ok (.iconst 1, 1) := dk_4 (dk_at dksX4_count_0 16 rfl rfl)
theorem dX4_count_17 : decode cX4_count 17 = .ok (.goto 4, 3) := dk_167 0 4 (dk_at dksX4_count_0 17 rfl rfl)
theorem dX4_count_20 : decode cX4_count 20 = .ok (.iconst 0, 1) := dk_3 (dk_at dksX4_count_0 20 rfl rfl)
theorem dX4_count_21 : decode cX4_count 21 = .ok (.iconst 1, 1) := dk_4 (dk_at dksX4_count_0 21 rfl rfl)
theorem dX4_count_22 : decode cX4_count 22 = .ok (.invokevirtual 321, 3) := dk_182 1 65 (dk_at dksX4_count_1 0 rfl rfl)
theorem dX4_count_25 : decode cX4_count 25 = .ok (.ifCond .eq 5, 3) := dk_153 0 5 (dk_at dksX4_count_1 3 rfl rfl)
theorem dX4_count_28 : decode cX4_count 28 = .ok (.iconst 0, 1) := dk_3 (dk_at dksX4_count_1 6 rfl rfl)
theorem dX4_count_29 : decode cX4_count 29 = .ok (.ireturn, 1) := dk_172 (dk_at dksX4_count_1 7 rfl rfl)
theorem dX4_count_30 : decode cX4_count 30 = .ok (.iload_n 1, 1) := dk_27 (dk_at dksX4_count_1 8 rfl rfl)
theorem dX4_count_31 : decode cX4_count 31 = .ok (.tableswitch 104 1 11 #[57, 104, 62, 73, 104, 104, 104, 84, 89, 94, 99], 57) := by decide +kernel
theorem dX4_count_88 : decode cX4_count 88 = .ok (.aload_n 0, 1) := dk_42 (dk_at dksX4_count_3 0 rfl rfl)
theorem dX4_count_89 : decode cX4_count 89 = .ok (.invokevirtual 142, 3) := dk_182 0 142 (dk_at dksX4_count_3 1 rfl rfl)
theorem dX4_count_92 : decode cX4_count 92 = .ok (.ireturn, 1) := dk_172 (dk_at dksX4_count_3 4 rfl rfl)
theorem dX4_count_93 : decode cX4_count 93 = .ok (.aload_n 0, 1) := dk_42 (dk_at dksX4_count_3 5 rfl rfl)
theorem dX4_count_94 : decode cX4_count 94 = .ok (.aload_n 0, 1) := dk_42 (dk_at dksX4_count_3 6 rfl rfl)
theorem dX4_count_95 : decode cX4_count 95 = .ok (.getfield 7, 3) := dk_180 0 7 (dk_at dksX4_count_3 7 rfl rfl)
theorem dX4_count_98 : decode cX4_count 98 = .ok (.iconst 2, 1) := dk_5 (dk_at dksX4_count_3 10 rfl rfl)
theorem dX4_count_99 : decode cX4_count 99 = .ok (.iaload, 1) := dk_46 (dk_at dksX4_count_3 11 rfl rfl)
theorem dX4_count_100 : decode cX4_count 100 = .ok (.invokevirtual 132, 3) := dk_182 0 132 (dk_at dksX4_count_3 12 rfl rfl)
theorem dX4_count_103 : decode cX4_count 103 = .ok (.ireturn, 1) := dk_172 (dk_at dksX4_count_3 15 rfl rfl)
theorem dX4_count_104 : decode cX4_count 104 = .ok (.aload_n 0, 1) := dk_42 (dk_at dksX4_count_3 16 rfl rfl)
theorem dX4_count_105 : decode cX4_count 105 = .ok (.getfield 7, 3) := dk_180 0 7 (dk_at dksX4_count_3 17 rfl rfl)
theorem dX4_count_108 : decode cX4_count 108 = .ok (.iconst 2, 1) := dk_5 (dk_at dksX4_count_3 20 rfl rfl)
theorem dX4_count_109 : decode cX4_count 109 = .ok (.iaload, 1) := dk_46 (dk_at dksX4_count_3 21 rfl rfl)
theorem dX4_count_110 : decode cX4_count 110 = .ok (.sipush 360, 3) := dk_17 1 104 (dk_at dksX4_count_4 0 rfl rfl)
theorem dX4_count_113 : decode cX4_count 113 = .ok (.idiv, 1) := dk_108 (dk_at dksX4_count_4 3 rfl rfl)
theorem dX4_count_114 : decode cX4_count 114 = .ok (.ireturn, 1) := dk_172 (dk_at dksX4_count_4 4 rfl rfl)
theorem dX4_count_115 : decode cX4_count 115 = .ok (.aload_n 0, 1) := dk_42 (dk_at dksX4_count_4 5 rfl rfl)
theorem dX4_count_116 : decode cX4_count 116 = .ok (.invokevirtual 325, 3) := dk_182 1 69 (dk_at dksX4_count_4 6 rfl rfl)
theorem dX4_count_119 : decode cX4_count 119 = .ok (.ireturn, 1) := dk_172 (dk_at dksX4_count_4 9 rfl rfl)
theorem dX4_count_120 : decode cX4_count 120 = .ok (.aload_n 0, 1) := dk_42 (dk_at dksX4_count_4 10 rfl rfl)
theorem dX4_count_121 : decode cX4_count 121 = .ok (.invokevirtual 328, 3) := dk_182 1 72 (dk_at dksX4_count_4 11 rfl rfl)
theorem dX4_count_124 : decode cX4_count 124 = .ok (.ireturn, 1) := dk_172 (dk_at dksX4_count_4 14 rfl rfl)
theorem dX4_count_125 : decode cX4_count 125 = .ok (.aload_n 0, 1) := dk_42 (dk_at dksX4_count_4 15 rfl rfl)
theorem dX4_count_126 : decode cX4_count 126 = .ok (.invokevirtual 331, 3) := dk_182 1 75 (dk_at dksX4_count_4 16 rfl rfl)
theorem dX4_count_129 : decode cX4_count 129 = .ok (.ireturn, 1) := dk_172 (dk_at dksX4_count_4 19 rfl rfl)
theorem dX4_count_130 : decode cX4_count 130 = .ok (.aload_n 0, 1) := dk_42 (dk_at dksX4_count_4 20 rfl rfl)
theorem dX4_count_131 : decode cX4_count 131 = .ok (.getfield 146, 3) := dk_180 0 146 (dk_at dksX4_count_4 21 rfl rfl)
theorem dX4_count_134 : decode cX4_count 134 = .ok (.ireturn, 1) := dk_172 (dk_at dksX4_count_5 0 rfl rfl)
theorem dX4_count_135 : decode cX4_count 135 = .ok (.aload_n 0, 1) := dk_42 (dk_at dksX4_count_5 1 rfl rfl)
theorem dX4_count_136 : decode cX4_count 136 = .ok (.getfield 7, 3) := dk_180 0 7 (dk_at dksX4_count_5 2 rfl rfl)
theorem dX4_count_139 : decode cX4_count 139 = .ok (.iload_n 1, 1) := dk_27 (dk_at dksX4_count_5 5 rfl rfl)
theorem dX4_count_140 : decode cX4_count 140 = .ok (.iaload, 1) := dk_46 (dk_at dksX4_count_5 6 rfl rfl)
theorem dX4_count_141 : decode cX4_count 141 = .ok (.ireturn, 1) := dk_172 (dk_at dksX4_count_5 7 rfl rfl)
abbrev cX4_fails : ByteArray := prog_20_method_5_code
def yX4_fails : MethodName := ⟨RX4, "fails", "(ZI)Z"⟩
def dkwX4_fails_0 : List UInt8 := [27, 153, 0, 8, 42, 28, 181, 0, 60, 27, 172]
abbrev dktX4_fails_0 : List UInt8 := dkwX4_fails_0 ++ []
theorem dksX4_fails_0 : cX4_fails.data.toList.drop 0 = dktX4_fails_0 := by decide +kernel
theorem dX4_fails_0 : decode cX4_fails 0 = .ok (.iload_n 1, 1) := dk_27 (dk_at dksX4_fails_0 0 rfl rfl)
theorem dX4_fails_1 : decode cX4_fails 1 = .ok (.ifCond .eq 8, 3) := dk_153 0 8 (dk_at dksX4_fails_0 1 rfl rfl)
theorem dX4_fails_4 : decode cX4_fails 4 = .ok (.aload_n 0, 1) := dk_42 (dk_at dksX4_fails_0 4 rfl rfl)
theorem dX4_fails_5 : decode cX4_fails 5 = .ok (.iload_n 2, 1) := dk_28 (dk_at dksX4_fails_0 5 rfl rfl)
theorem dX4_fails_6 : decode cX4_fails 6 = .ok (.putfield 60, 3) := dk_181 0 60 (dk_at dksX4_fails_0 6 rfl rfl)
theorem dX4_fails_9 : decode cX4_fails 9 = .ok (.iload_n 1, 1) := dk_27 (dk_at dksX4_fails_0 9 rfl rfl)
theorem dX4_fails_10 : decode cX4_fails 10 = .ok (.ireturn, 1) := dk_172 (dk_at dksX4_fails_0 10 rfl rfl)
abbrev cX4_allWeights : ByteArray := prog_20_method_69_code
def yX4_allWeights : MethodName := ⟨RX4, "allWeights", "()I"⟩
def dkwX4_allWeights_1 : List UInt8 := [28, 16, 6, 182, 0, 67, 167, 0, 4, 3, 96, 60, 132, 2, 1, 167, 255, 221, 27, 172]
abbrev dktX4_allWeights_1 : List UInt8 := dkwX4_allWeights_1 ++ []
def dkwX4_allWeights_0 : List UInt8 := [3, 60, 3, 61, 28, 42, 180, 0, 7, 3, 46, 162, 0, 31, 27, 42, 28, 182, 0, 84, 153, 0, 13, 42]
abbrev dktX4_allWeights_0 : List UInt8 := dkwX4_allWeights_0 ++ dktX4_allWeights_1
theorem dksX4_allWeights_0 : cX4_allWeights.data.toList.drop 0 = dktX4_allWeights_0 := by decide +kernel
theorem dksX4_allWeights_1 : cX4_allWeights.data.toList.drop 24 = dktX4_allWeights_1 := dk_seg dksX4_allWeights_0 24 rfl rfl
theorem dX4_allWeights_0 : decode cX4_allWeights 0 = .ok (.iconst 0, 1) := dk_3 (dk_at dksX4_allWeights_0 0 rfl rfl)
theorem dX4_allWeights_1 : decode cX4_allWeights 1 = .ok (.istore_n 1, 1) := dk_60 (dk_at dksX4_allWeights_0 1 rfl rfl)
theorem dX4_allWeights_2 : decode cX4_allWeights 2 = .ok (.iconst 0, 1) := dk_3 (dk_at dksX4_allWeights_0 2 rfl rfl)
theorem dX4_allWeights_3 : decode cX4_allWeights 3 = .ok (.istore_n 2, 1) := dk_61 (dk_at dksX4_allWeights_0 3 rfl rfl)
theorem dX4_allWeights_4 : decode cX4_allWeights 4 = .ok (.iload_n 2, 1) := dk_28 (dk_at dksX4_allWeights_0 4 rfl rfl)
theorem dX4_allWeights_5 : decode cX4_allWeights 5 = .ok (.aload_n 0, 1) := dk_42 (dk_at dksX4_allWeights_0 5 rfl rfl)
theorem dX4_allWeights_6 : decode cX4_allWeights 6 = .ok (.getfield 7, 3) := dk_180 0 7 (dk_at dksX4_allWeights_0 6 rfl rfl)
theorem dX4_allWeights_9 : decode cX4_allWeights 9 = .ok (.iconst 0, 1) := dk_3 (dk_at dksX4_allWeights_0 9 rfl rfl)
theorem dX4_allWeights_10 : decode cX4_allWeights 10 = .ok (.iaload, 1) := dk_46 (dk_at dksX4_allWeights_0 10 rfl rfl)
theorem dX4_allWeights_11 : decode cX4_allWeights 11 = .ok (.if_icmp .ge 31, 3) := dk_162 0 31 (dk_at dksX4_allWeights_0 11 rfl rfl)
theorem dX4_allWeights_14 : decode cX4_allWeights 14 = .ok (.iload_n 1, 1) := dk_27 (dk_at dksX4_allWeights_0 14 rfl rfl)
theorem dX4_allWeights_15 : decode cX4_allWeights 15 = .ok (.aload_n 0, 1) := dk_42 (dk_at dksX4_allWeights_0 15 rfl rfl)
theorem dX4_allWeights_16 : decode cX4_allWeights 16 = .ok (.iload_n 2, 1) := dk_28 (dk_at dksX4_allWeights_0 16 rfl rfl)
theorem dX4_allWeights_17 : decode cX4_allWeights 17 = .ok (.invokevirtual 84, 3) := dk_182 0 84 (dk_at dksX4_allWeights_0 17 rfl rfl)
theorem dX4_allWeights_20 : decode cX4_allWeights 20 = .ok (.ifCond .eq 13, 3) := dk_153 0 13 (dk_at dksX4_allWeights_0 20 rfl rfl)
theorem dX4_allWeights_23 : decode cX4_allWeights 23 = .ok (.aload_n 0, 1) := dk_42 (dk_at dksX4_allWeights_0 23 rfl rfl)
theorem dX4_allWeights_24 : decode cX4_allWeights 24 = .ok (.iload_n 2, 1) := dk_28 (dk_at dksX4_allWeights_1 0 rfl rfl)
theorem dX4_allWeights_25 : decode cX4_allWeights 25 = .ok (.bipush 6, 2) := dk_16 6 (dk_at dksX4_allWeights_1 1 rfl rfl)
theorem dX4_allWeights_27 : decode cX4_allWeights 27 = .ok (.invokevirtual 67, 3) := dk_182 0 67 (dk_at dksX4_allWeights_1 3 rfl rfl)
theorem dX4_allWeights_30 : decode cX4_allWeights 30 = .ok (.goto 4, 3) := dk_167 0 4 (dk_at dksX4_allWeights_1 6 rfl rfl)
theorem dX4_allWeights_33 : decode cX4_allWeights 33 = .ok (.iconst 0, 1) := dk_3 (dk_at dksX4_allWeights_1 9 rfl rfl)
theorem dX4_allWeights_34 : decode cX4_allWeights 34 = .ok (.iadd, 1) := dk_96 (dk_at dksX4_allWeights_1 10 rfl rfl)
theorem dX4_allWeights_35 : decode cX4_allWeights 35 = .ok (.istore_n 1, 1) := dk_60 (dk_at dksX4_allWeights_1 11 rfl rfl)
theorem dX4_allWeights_36 : decode cX4_allWeights 36 = .ok (.iinc 2 1, 3) := dk_132 2 1 (dk_at dksX4_allWeights_1 12 rfl rfl)
theorem dX4_allWeights_39 : decode cX4_allWeights 39 = .ok (.goto (-35), 3) := dk_167 255 221 (dk_at dksX4_allWeights_1 15 rfl rfl)
theorem dX4_allWeights_42 : decode cX4_allWeights 42 = .ok (.iload_n 1, 1) := dk_27 (dk_at dksX4_allWeights_1 18 rfl rfl)
theorem dX4_allWeights_43 : decode cX4_allWeights 43 = .ok (.ireturn, 1) := dk_172 (dk_at dksX4_allWeights_1 19 rfl rfl)
abbrev cX4_allClashes : ByteArray := prog_20_method_73_code
def yX4_allClashes : MethodName := ⟨RX4, "allClashes", "()I"⟩
def dkwX4_allClashes_1 : List UInt8 := [132, 2, 1, 167, 255, 235, 27, 5, 108, 172]
abbrev dktX4_allClashes_1 : List UInt8 := dkwX4_allClashes_1 ++ []
def dkwX4_allClashes_0 : List UInt8 := [3, 60, 3, 61, 28, 42, 180, 0, 7, 3, 46, 162, 0, 17, 27, 42, 28, 182, 1, 59, 96, 60]
abbrev dktX4_allClashes_0 : List UInt8 := dkwX4_allClashes_0 ++ dktX4_allClashes_1
theorem dksX4_allClashes_0 : cX4_allClashes.data.toList.drop 0 = dktX4_allClashes_0 := by decide +kernel
theorem dksX4_allClashes_1 : cX4_allClashes.data.toList.drop 22 = dktX4_allClashes_1 := dk_seg dksX4_allClashes_0 22 rfl rfl
theorem dX4_allClashes_0 : decode cX4_allClashes 0 = .ok (.iconst 0, 1) := dk_3 (dk_at dksX4_allClashes_0 0 rfl rfl)
theorem dX4_allClashes_1 : decode cX4_allClashes 1 = .ok (.istore_n 1, 1) := dk_60 (dk_at dksX4_allClashes_0 1 rfl rfl)
theorem dX4_allClashes_2 : decode cX4_allClashes 2 = .ok (.iconst 0, 1) := dk_3 (dk_at dksX4_allClashes_0 2 rfl rfl)
theorem dX4_allClashes_3 : decode cX4_allClashes 3 = .ok (.istore_n 2, 1) := dk_61 (dk_at dksX4_allClashes_0 3 rfl rfl)
theorem dX4_allClashes_4 : decode cX4_allClashes 4 = .ok (.iload_n 2, 1) := dk_28 (dk_at dksX4_allClashes_0 4 rfl rfl)
theorem dX4_allClashes_5 : decode cX4_allClashes 5 = .ok (.aload_n 0, 1) := dk_42 (dk_at dksX4_allClashes_0 5 rfl rfl)
theorem dX4_allClashes_6 : decode cX4_allClashes 6 = .ok (.getfield 7, 3) := dk_180 0 7 (dk_at dksX4_allClashes_0 6 rfl rfl)
theorem dX4_allClashes_9 : decode cX4_allClashes 9 = .ok (.iconst 0, 1) := dk_3 (dk_at dksX4_allClashes_0 9 rfl rfl)
theorem dX4_allClashes_10 : decode cX4_allClashes 10 = .ok (.iaload, 1) := dk_46 (dk_at dksX4_allClashes_0 10 rfl rfl)
theorem dX4_allClashes_11 : decode cX4_allClashes 11 = .ok (.if_icmp .ge 17, 3) := dk_162 0 17 (dk_at dksX4_allClashes_0 11 rfl rfl)
theorem dX4_allClashes_14 : decode cX4_allClashes 14 = .ok (.iload_n 1, 1) := dk_27 (dk_at dksX4_allClashes_0 14 rfl rfl)
theorem dX4_allClashes_15 : decode cX4_allClashes 15 = .ok (.aload_n 0, 1) := dk_42 (dk_at dksX4_allClashes_0 15 rfl rfl)
theorem dX4_allClashes_16 : decode cX4_allClashes 16 = .ok (.iload_n 2, 1) := dk_28 (dk_at dksX4_allClashes_0 16 rfl rfl)
theorem dX4_allClashes_17 : decode cX4_allClashes 17 = .ok (.invokevirtual 315, 3) := dk_182 1 59 (dk_at dksX4_allClashes_0 17 rfl rfl)
theorem dX4_allClashes_20 : decode cX4_allClashes 20 = .ok (.iadd, 1) := dk_96 (dk_at dksX4_allClashes_0 20 rfl rfl)
theorem dX4_allClashes_21 : decode cX4_allClashes 21 = .ok (.istore_n 1, 1) := dk_60 (dk_at dksX4_allClashes_0 21 rfl rfl)
theorem dX4_allClashes_22 : decode cX4_allClashes 22 = .ok (.iinc 2 1, 3) := dk_132 2 1 (dk_at dksX4_allClashes_1 0 rfl rfl)
theorem dX4_allClashes_25 : decode cX4_allClashes 25 = .ok (.goto (-21), 3) := dk_167 255 235 (dk_at dksX4_allClashes_1 3 rfl rfl)
theorem dX4_allClashes_28 : decode cX4_allClashes 28 = .ok (.iload_n 1, 1) := dk_27 (dk_at dksX4_allClashes_1 6 rfl rfl)
theorem dX4_allClashes_29 : decode cX4_allClashes 29 = .ok (.iconst 2, 1) := dk_5 (dk_at dksX4_allClashes_1 7 rfl rfl)
theorem dX4_allClashes_30 : decode cX4_allClashes 30 = .ok (.idiv, 1) := dk_108 (dk_at dksX4_allClashes_1 8 rfl rfl)
theorem dX4_allClashes_31 : decode cX4_allClashes 31 = .ok (.ireturn, 1) := dk_172 (dk_at dksX4_allClashes_1 9 rfl rfl)
abbrev cX4_clashesOf : ByteArray := prog_20_method_72_code
def yX4_clashesOf : MethodName := ⟨RX4, "clashesOf", "(I)I"⟩
def dkwX4_clashesOf_1 : List UInt8 := [96, 61, 132, 3, 1, 167, 255, 231, 28, 172]
abbrev dktX4_clashesOf_1 : List UInt8 := dkwX4_clashesOf_1 ++ []
def dkwX4_clashesOf_0 : List UInt8 := [3, 61, 3, 62, 29, 42, 180, 0, 7, 3, 46, 162, 0, 21, 28, 42, 27, 29, 182, 1, 56, 184, 0, 99]
abbrev dktX4_clashesOf_0 : List UInt8 := dkwX4_clashesOf_0 ++ dktX4_clashesOf_1
theorem dksX4_clashesOf_0 : cX4_clashesOf.data.toList.drop 0 = dktX4_clashesOf_0 := by decide +kernel
theorem dksX4_clashesOf_1 : cX4_clashesOf.data.toList.drop 24 = dktX4_clashesOf_1 := dk_seg dksX4_clashesOf_0 24 rfl rfl
theorem dX4_clashesOf_0 : decode cX4_clashesOf 0 = .ok (.iconst 0, 1) := dk_3 (dk_at dksX4_clashesOf_0 0 rfl rfl)
theorem dX4_clashesOf_1 : decode cX4_clashesOf 1 = .ok (.istore_n 2, 1) := dk_61 (dk_at dksX4_clashesOf_0 1 rfl rfl)
theorem dX4_clashesOf_2 : decode cX4_clashesOf 2 = .ok (.iconst 0, 1) := dk_3 (dk_at dksX4_clashesOf_0 2 rfl rfl)
theorem dX4_clashesOf_3 : decode cX4_clashesOf 3 = .ok (.istore_n 3, 1) := dk_62 (dk_at dksX4_clashesOf_0 3 rfl rfl)
theorem dX4_clashesOf_4 : decode cX4_clashesOf 4 = .ok (.iload_n 3, 1) := dk_29 (dk_at dksX4_clashesOf_0 4 rfl rfl)
theorem dX4_clashesOf_5 : decode cX4_clashesOf 5 = .ok (.aload_n 0, 1) := dk_42 (dk_at dksX4_clashesOf_0 5 rfl rfl)
theorem dX4_clashesOf_6 : decode cX4_clashesOf 6 = .ok (.getfield 7, 3) := dk_180 0 7 (dk_at dksX4_clashesOf_0 6 rfl rfl)
theorem dX4_clashesOf_9 : decode cX4_clashesOf 9 = .ok (.iconst 0, 1) := dk_3 (dk_at dksX4_clashesOf_0 9 rfl rfl)
theorem dX4_clashesOf_10 : decode cX4_clashesOf 10 = .ok (.iaload, 1) := dk_46 (dk_at dksX4_clashesOf_0 10 rfl rfl)
theorem dX4_clashesOf_11 : decode cX4_clashesOf 11 = .ok (.if_icmp .ge 21, 3) := dk_162 0 21 (dk_at dksX4_clashesOf_0 11 rfl rfl)
theorem dX4_clashesOf_14 : decode cX4_clashesOf 14 = .ok (.iload_n 2, 1) := dk_28 (dk_at dksX4_clashesOf_0 14 rfl rfl)
theorem dX4_clashesOf_15 : decode cX4_clashesOf 15 = .ok (.aload_n 0, 1) := dk_42 (dk_at dksX4_clashesOf_0 15 rfl rfl)
theorem dX4_clashesOf_16 : decode cX4_clashesOf 16 = .ok (.iload_n 1, 1) := dk_27 (dk_at dksX4_clashesOf_0 16 rfl rfl)
theorem dX4_clashesOf_17 : decode cX4_clashesOf 17 = .ok (.iload_n 3, 1) := dk_29 (dk_at dksX4_clashesOf_0 17 rfl rfl)
theorem dX4_clashesOf_18 : decode cX4_clashesOf 18 = .ok (.invokevirtual 312, 3) := dk_182 1 56 (dk_at dksX4_clashesOf_0 18 rfl rfl)
theorem dX4_clashesOf_21 : decode cX4_clashesOf 21 = .ok (.invokestatic 99, 3) := dk_184 0 99 (dk_at dksX4_clashesOf_0 21 rfl rfl)
theorem dX4_clashesOf_24 : decode cX4_clashesOf 24 = .ok (.iadd, 1) := dk_96 (dk_at dksX4_clashesOf_1 0 rfl rfl)
theorem dX4_clashesOf_25 : decode cX4_clashesOf 25 = .ok (.istore_n 2, 1) := dk_61 (dk_at dksX4_clashesOf_1 1 rfl rfl)
theorem dX4_clashesOf_26 : decode cX4_clashesOf 26 = .ok (.iinc 3 1, 3) := dk_132 3 1 (dk_at dksX4_clashesOf_1 2 rfl rfl)
theorem dX4_clashesOf_29 : decode cX4_clashesOf 29 = .ok (.goto (-25), 3) := dk_167 255 231 (dk_at dksX4_clashesOf_1 5 rfl rfl)
theorem dX4_clashesOf_32 : decode cX4_clashesOf 32 = .ok (.iload_n 2, 1) := dk_28 (dk_at dksX4_clashesOf_1 8 rfl rfl)
theorem dX4_clashesOf_33 : decode cX4_clashesOf 33 = .ok (.ireturn, 1) := dk_172 (dk_at dksX4_clashesOf_1 9 rfl rfl)
abbrev cX4_areClashing : ByteArray := prog_20_method_71_code
def yX4_areClashing : MethodName := ⟨RX4, "areClashing", "(II)Z"⟩
def dkwX4_areClashing_4 : List UInt8 := [153, 0, 7, 4, 167, 0, 4, 3, 172]
abbrev dktX4_areClashing_4 : List UInt8 := dkwX4_areClashing_4 ++ []
def dkwX4_areClashing_3 : List UInt8 := [27, 6, 182, 0, 67, 42, 28, 5, 182, 0, 67, 42, 28, 6, 182, 0, 67, 16, 12, 184, 1, 53]
abbrev dktX4_areClashing_3 : List UInt8 := dkwX4_areClashing_3 ++ dktX4_areClashing_4
def dkwX4_areClashing_2 : List UInt8 := [182, 0, 67, 42, 28, 4, 182, 0, 67, 16, 16, 184, 1, 53, 153, 0, 39, 42, 27, 5, 182, 0, 67, 42]
abbrev dktX4_areClashing_2 : List UInt8 := dkwX4_areClashing_2 ++ dktX4_areClashing_3
def dkwX4_areClashing_1 : List UInt8 := [7, 182, 0, 67, 160, 0, 5, 3, 172, 42, 27, 3, 182, 0, 67, 42, 27, 4, 182, 0, 67, 42, 28, 3]
abbrev dktX4_areClashing_1 : List UInt8 := dkwX4_areClashing_1 ++ dktX4_areClashing_2
def dkwX4_areClashing_0 : List UInt8 := [42, 27, 182, 0, 84, 153, 0, 26, 42, 28, 182, 0, 84, 153, 0, 18, 42, 27, 7, 182, 0, 67, 42, 28]
abbrev dktX4_areClashing_0 : List UInt8 := dkwX4_areClashing_0 ++ dktX4_areClashing_1
theorem dksX4_areClashing_0 : cX4_areClashing.data.toList.drop 0 = dktX4_areClashing_0 := by decide +kernel
theorem dksX4_areClashing_1 : cX4_areClashing.data.toList.drop 24 = dktX4_areClashing_1 := dk_seg dksX4_areClashing_0 24 rfl rfl
theorem dksX4_areClashing_2 : cX4_areClashing.data.toList.drop 48 = dktX4_areClashing_2 := dk_seg dksX4_areClashing_1 24 rfl rfl
theorem dksX4_areClashing_3 : cX4_areClashing.data.toList.drop 72 = dktX4_areClashing_3 := dk_seg dksX4_areClashing_2 24 rfl rfl
theorem dksX4_areClashing_4 : cX4_areClashing.data.toList.drop 94 = dktX4_areClashing_4 := dk_seg dksX4_areClashing_3 22 rfl rfl
theorem dX4_areClashing_0 : decode cX4_areClashing 0 = .ok (.aload_n 0, 1) := dk_42 (dk_at dksX4_areClashing_0 0 rfl rfl)
theorem dX4_areClashing_1 : decode cX4_areClashing 1 = .ok (.iload_n 1, 1) := dk_27 (dk_at dksX4_areClashing_0 1 rfl rfl)
theorem dX4_areClashing_2 : decode cX4_areClashing 2 = .ok (.invokevirtual 84, 3) := dk_182 0 84 (dk_at dksX4_areClashing_0 2 rfl rfl)
theorem dX4_areClashing_5 : decode cX4_areClashing 5 = .ok (.ifCond .eq 26, 3) := dk_153 0 26 (dk_at dksX4_areClashing_0 5 rfl rfl)
theorem dX4_areClashing_8 : decode cX4_areClashing 8 = .ok (.aload_n 0, 1) := dk_42 (dk_at dksX4_areClashing_0 8 rfl rfl)
theorem dX4_areClashing_9 : decode cX4_areClashing 9 = .ok (.iload_n 2, 1) := dk_28 (dk_at dksX4_areClashing_0 9 rfl rfl)
theorem dX4_areClashing_10 : decode cX4_areClashing 10 = .ok (.invokevirtual 84, 3) := dk_182 0 84 (dk_at dksX4_areClashing_0 10 rfl rfl)
theorem dX4_areClashing_13 : decode cX4_areClashing 13 = .ok (.ifCond .eq 18, 3) := dk_153 0 18 (dk_at dksX4_areClashing_0 13 rfl rfl)
theorem dX4_areClashing_16 : decode cX4_areClashing 16 = .ok (.aload_n 0, 1) := dk_42 (dk_at dksX4_areClashing_0 16 rfl rfl)
theorem dX4_areClashing_17 : decode cX4_areClashing 17 = .ok (.iload_n 1, 1) := dk_27 (dk_at dksX4_areClashing_0 17 rfl rfl)
theorem dX4_areClashing_18 : decode cX4_areClashing 18 = .ok (.iconst 4, 1) := dk_7 (dk_at dksX4_areClashing_0 18 rfl rfl)
theorem dX4_areClashing_19 : decode cX4_areClashing 19 = .ok (.invokevirtual 67, 3) := dk_182 0 67 (dk_at dksX4_areClashing_0 19 rfl rfl)
theorem dX4_areClashing_22 : decode cX4_areClashing 22 = .ok (.aload_n 0, 1) := dk_42 (dk_at dksX4_areClashing_0 22 rfl rfl)
theorem dX4_areClashing_23 : decode cX4_areClashing 23 = .ok (.iload_n 2, 1) := dk_28 (dk_at dksX4_areClashing_0 23 rfl rfl)
theorem dX4_areClashing_24 : decode cX4_areClashing 24 = .ok (.iconst 4, 1) := dk_7 (dk_at dksX4_areClashing_1 0 rfl rfl)
theorem dX4_areClashing_25 : decode cX4_areClashing 25 = .ok (.invokevirtual 67, 3) := dk_182 0 67 (dk_at dksX4_areClashing_1 1 rfl rfl)
theorem dX4_areClashing_28 : decode cX4_areClashing 28 = .ok (.if_icmp .ne 5, 3) := dk_160 0 5 (dk_at dksX4_areClashing_1 4 rfl rfl)
theorem dX4_areClashing_31 : decode cX4_areClashing 31 = .ok (.iconst 0, 1) := dk_3 (dk_at dksX4_areClashing_1 7 rfl rfl)
theorem dX4_areClashing_32 : decode cX4_areClashing 32 = .ok (.ireturn, 1) := dk_172 (dk_at dksX4_areClashing_1 8 rfl rfl)
theorem dX4_areClashing_33 : decode cX4_areClashing 33 = .ok (.aload_n 0, 1) := dk_42 (dk_at dksX4_areClashing_1 9 rfl rfl)
theorem dX4_areClashing_34 : decode cX4_areClashing 34 = .ok (.iload_n 1, 1) := dk_27 (dk_at dksX4_areClashing_1 10 rfl rfl)
theorem dX4_areClashing_35 : decode cX4_areClashing 35 = .ok (.iconst 0, 1) := dk_3 (dk_at dksX4_areClashing_1 11 rfl rfl)
theorem dX4_areClashing_36 : decode cX4_areClashing 36 = .ok (.invokevirtual 67, 3) := dk_182 0 67 (dk_at dksX4_areClashing_1 12 rfl rfl)
theorem dX4_areClashing_39 : decode cX4_areClashing 39 = .ok (.aload_n 0, 1) := dk_42 (dk_at dksX4_areClashing_1 15 rfl rfl)
theorem dX4_areClashing_40 : decode cX4_areClashing 40 = .ok (.iload_n 1, 1) := dk_27 (dk_at dksX4_areClashing_1 16 rfl rfl)
theorem dX4_areClashing_41 : decode cX4_areClashing 41 = .ok (.iconst 1, 1) := dk_4 (dk_at dksX4_areClashing_1 17 rfl rfl)
theorem dX4_areClashing_42 : decode cX4_areClashing 42 = .ok (.invokevirtual 67, 3) := dk_182 0 67 (dk_at dksX4_areClashing_1 18 rfl rfl)
theorem dX4_areClashing_45 : decode cX4_areClashing 45 = .ok (.aload_n 0, 1) := dk_42 (dk_at dksX4_areClashing_1 21 rfl rfl)
theorem dX4_areClashing_46 : decode cX4_areClashing 46 = .ok (.iload_n 2, 1) := dk_28 (dk_at dksX4_areClashing_1 22 rfl rfl)
theorem dX4_areClashing_47 : decode cX4_areClashing 47 = .ok (.iconst 0, 1) := dk_3 (dk_at dksX4_areClashing_1 23 rfl rfl)
theorem dX4_areClashing_48 : decode cX4_areClashing 48 = .ok (.invokevirtual 67, 3) := dk_182 0 67 (dk_at dksX4_areClashing_2 0 rfl rfl)
theorem dX4_areClashing_51 : decode cX4_areClashing 51 = .ok (.aload_n 0, 1) := dk_42 (dk_at dksX4_areClashing_2 3 rfl rfl)
theorem dX4_areClashing_52 : decode cX4_areClashing 52 = .ok (.iload_n 2, 1) := dk_28 (dk_at dksX4_areClashing_2 4 rfl rfl)
theorem dX4_areClashing_53 : decode cX4_areClashing 53 = .ok (.iconst 1, 1) := dk_4 (dk_at dksX4_areClashing_2 5 rfl rfl)
theorem dX4_areClashing_54 : decode cX4_areClashing 54 = .ok (.invokevirtual 67, 3) := dk_182 0 67 (dk_at dksX4_areClashing_2 6 rfl rfl)
theorem dX4_areClashing_57 : decode cX4_areClashing 57 = .ok (.bipush 16, 2) := dk_16 16 (dk_at dksX4_areClashing_2 9 rfl rfl)
theorem dX4_areClashing_59 : decode cX4_areClashing 59 = .ok (.invokestatic 309, 3) := dk_184 1 53 (dk_at dksX4_areClashing_2 11 rfl rfl)
theorem dX4_areClashing_62 : decode cX4_areClashing 62 = .ok (.ifCond .eq 39, 3) := dk_153 0 39 (dk_at dksX4_areClashing_2 14 rfl rfl)
theorem dX4_areClashing_65 : decode cX4_areClashing 65 = .ok (.aload_n 0, 1) := dk_42 (dk_at dksX4_areClashing_2 17 rfl rfl)
theorem dX4_areClashing_66 : decode cX4_areClashing 66 = .ok (.iload_n 1, 1) := dk_27 (dk_at dksX4_areClashing_2 18 rfl rfl)
theorem dX4_areClashing_67 : decode cX4_areClashing 67 = .ok (.iconst 2, 1) := dk_5 (dk_at dksX4_areClashing_2 19 rfl rfl)
theorem dX4_areClashing_68 : decode cX4_areClashing 68 = .ok (.invokevirtual 67, 3) := dk_182 0 67 (dk_at dksX4_areClashing_2 20 rfl rfl)
theorem dX4_areClashing_71 : decode cX4_areClashing 71 = .ok (.aload_n 0, 1) := dk_42 (dk_at dksX4_areClashing_2 23 rfl rfl)
theorem dX4_areClashing_72 : decode cX4_areClashing 72 = .ok (.iload_n 1, 1) := dk_27 (dk_at dksX4_areClashing_3 0 rfl rfl)
theorem dX4_areClashing_73 : decode cX4_areClashing 73 = .ok (.iconst 3, 1) := dk_6 (dk_at dksX4_areClashing_3 1 rfl rfl)
theorem dX4_areClashing_74 : decode cX4_areClashing 74 = .ok (.invokevirtual 67, 3) := dk_182 0 67 (dk_at dksX4_areClashing_3 2 rfl rfl)
theorem dX4_areClashing_77 : decode cX4_areClashing 77 = .ok (.aload_n 0, 1) := dk_42 (dk_at dksX4_areClashing_3 5 rfl rfl)
theorem dX4_areClashing_78 : decode cX4_areClashing 78 = .ok (.iload_n 2, 1) := dk_28 (dk_at dksX4_areClashing_3 6 rfl rfl)
theorem dX4_areClashing_79 : decode cX4_areClashing 79 = .ok (.iconst 2, 1) := dk_5 (dk_at dksX4_areClashing_3 7 rfl rfl)
theorem dX4_areClashing_80 : decode cX4_areClashing 80 = .ok (.invokevirtual 67, 3) := dk_182 0 67 (dk_at dksX4_areClashing_3 8 rfl rfl)
theorem dX4_areClashing_83 : decode cX4_areClashing 83 = .ok (.aload_n 0, 1) := dk_42 (dk_at dksX4_areClashing_3 11 rfl rfl)
theorem dX4_areClashing_84 : decode cX4_areClashing 84 = .ok (.iload_n 2, 1) := dk_28 (dk_at dksX4_areClashing_3 12 rfl rfl)
theorem dX4_areClashing_85 : decode cX4_areClashing 85 = .ok (.iconst 3, 1) := dk_6 (dk_at dksX4_areClashing_3 13 rfl rfl)
theorem dX4_areClashing_86 : decode cX4_areClashing 86 = .ok (.invokevirtual 67, 3) := dk_182 0 67 (dk_at dksX4_areClashing_3 14 rfl rfl)
theorem dX4_areClashing_89 : decode cX4_areClashing 89 = .ok (.bipush 12, 2) := dk_16 12 (dk_at dksX4_areClashing_3 17 rfl rfl)
theorem dX4_areClashing_91 : decode cX4_areClashing 91 = .ok (.invokestatic 309, 3) := dk_184 1 53 (dk_at dksX4_areClashing_3 19 rfl rfl)
theorem dX4_areClashing_94 : decode cX4_areClashing 94 = .ok (.ifCond .eq 7, 3) := dk_153 0 7 (dk_at dksX4_areClashing_4 0 rfl rfl)
theorem dX4_areClashing_97 : decode cX4_areClashing 97 = .ok (.iconst 1, 1) := dk_4 (dk_at dksX4_areClashing_4 3 rfl rfl)
theorem dX4_areClashing_98 : decode cX4_areClashing 98 = .ok (.goto 4, 3) := dk_167 0 4 (dk_at dksX4_areClashing_4 4 rfl rfl)
theorem dX4_areClashing_101 : decode cX4_areClashing 101 = .ok (.iconst 0, 1) := dk_3 (dk_at dksX4_areClashing_4 7 rfl rfl)
theorem dX4_areClashing_102 : decode cX4_areClashing 102 = .ok (.ireturn, 1) := dk_172 (dk_at dksX4_areClashing_4 8 rfl rfl)
abbrev cX4_haveCommon : ByteArray := prog_20_method_70_code
def yX4_haveCommon : MethodName := ⟨RX4, "haveCommon", "(IIIII)Z"⟩
def dkwX4_haveCommon_1 : List UInt8 := [167, 0, 4, 3, 172]
abbrev dktX4_haveCommon_1 : List UInt8 := dkwX4_haveCommon_1 ++ []
def dkwX4_haveCommon_0 : List UInt8 := [28, 26, 27, 21, 4, 184, 0, 80, 154, 0, 14, 26, 28, 29, 21, 4, 184, 0, 80, 153, 0, 7, 4]
abbrev dktX4_haveCommon_0 : List UInt8 := dkwX4_haveCommon_0 ++ dktX4_haveCommon_1
theorem dksX4_haveCommon_0 : cX4_haveCommon.data.toList.drop 0 = dktX4_haveCommon_0 := by decide +kernel
theorem dksX4_haveCommon_1 : cX4_haveCommon.data.toList.drop 23 = dktX4_haveCommon_1 := dk_seg dksX4_haveCommon_0 23 rfl rfl
theorem dX4_haveCommon_0 : decode cX4_haveCommon 0 = .ok (.iload_n 2, 1) := dk_28 (dk_at dksX4_haveCommon_0 0 rfl rfl)
theorem dX4_haveCommon_1 : decode cX4_haveCommon 1 = .ok (.iload_n 0, 1) := dk_26 (dk_at dksX4_haveCommon_0 1 rfl rfl)
theorem dX4_haveCommon_2 : decode cX4_haveCommon 2 = .ok (.iload_n 1, 1) := dk_27 (dk_at dksX4_haveCommon_0 2 rfl rfl)
theorem dX4_haveCommon_3 : decode cX4_haveCommon 3 = .ok (.iload 4, 2) := dk_21 4 (dk_at dksX4_haveCommon_0 3 rfl rfl)
theorem dX4_haveCommon_5 : decode cX4_haveCommon 5 = .ok (.invokestatic 80, 3) := dk_184 0 80 (dk_at dksX4_haveCommon_0 5 rfl rfl)
theorem dX4_haveCommon_8 : decode cX4_haveCommon 8 = .ok (.ifCond .ne 14, 3) := dk_154 0 14 (dk_at dksX4_haveCommon_0 8 rfl rfl)
theorem dX4_haveCommon_11 : decode cX4_haveCommon 11 = .ok (.iload_n 0, 1) := dk_26 (dk_at dksX4_haveCommon_0 11 rfl rfl)
theorem dX4_haveCommon_12 : decode cX4_haveCommon 12 = .ok (.iload_n 2, 1) := dk_28 (dk_at dksX4_haveCommon_0 12 rfl rfl)
theorem dX4_haveCommon_13 : decode cX4_haveCommon 13 = .ok (.iload_n 3, 1) := dk_29 (dk_at dksX4_haveCommon_0 13 rfl rfl)
theorem dX4_haveCommon_14 : decode cX4_haveCommon 14 = .ok (.iload 4, 2) := dk_21 4 (dk_at dksX4_haveCommon_0 14 rfl rfl)
theorem dX4_haveCommon_16 : decode cX4_haveCommon 16 = .ok (.invokestatic 80, 3) := dk_184 0 80 (dk_at dksX4_haveCommon_0 16 rfl rfl)
theorem dX4_haveCommon_19 : decode cX4_haveCommon 19 = .ok (.ifCond .eq 7, 3) := dk_153 0 7 (dk_at dksX4_haveCommon_0 19 rfl rfl)
theorem dX4_haveCommon_22 : decode cX4_haveCommon 22 = .ok (.iconst 1, 1) := dk_4 (dk_at dksX4_haveCommon_0 22 rfl rfl)
theorem dX4_haveCommon_23 : decode cX4_haveCommon 23 = .ok (.goto 4, 3) := dk_167 0 4 (dk_at dksX4_haveCommon_1 0 rfl rfl)
theorem dX4_haveCommon_26 : decode cX4_haveCommon 26 = .ok (.iconst 0, 1) := dk_3 (dk_at dksX4_haveCommon_1 3 rfl rfl)
theorem dX4_haveCommon_27 : decode cX4_haveCommon 27 = .ok (.ireturn, 1) := dk_172 (dk_at dksX4_haveCommon_1 4 rfl rfl)
abbrev cX4_silent : ByteArray := prog_20_method_75_code
def yX4_silent : MethodName := ⟨RX4, "silent", "()I"⟩
def dkwX4_silent_2 : List UInt8 := [132, 2, 1, 167, 255, 213, 27, 172]
abbrev dktX4_silent_2 : List UInt8 := dkwX4_silent_2 ++ []
def dkwX4_silent_1 : List UInt8 := [182, 1, 62, 154, 0, 7, 4, 167, 0, 4, 3, 184, 0, 99, 96, 60, 132, 3, 1, 167, 255, 227]
abbrev dktX4_silent_1 : List UInt8 := dkwX4_silent_1 ++ dktX4_silent_2
def dkwX4_silent_0 : List UInt8 := [3, 60, 3, 61, 28, 16, 16, 162, 0, 43, 3, 62, 29, 16, 12, 162, 0, 29, 27, 42, 28, 29]
abbrev dktX4_silent_0 : List UInt8 := dkwX4_silent_0 ++ dktX4_silent_1
theorem dksX4_silent_0 : cX4_silent.data.toList.drop 0 = dktX4_silent_0 := by decide +kernel
theorem dksX4_silent_1 : cX4_silent.data.toList.drop 22 = dktX4_silent_1 := dk_seg dksX4_silent_0 22 rfl rfl
theorem dksX4_silent_2 : cX4_silent.data.toList.drop 44 = dktX4_silent_2 := dk_seg dksX4_silent_1 22 rfl rfl
theorem dX4_silent_0 : decode cX4_silent 0 = .ok (.iconst 0, 1) := dk_3 (dk_at dksX4_silent_0 0 rfl rfl)
theorem dX4_silent_1 : decode cX4_silent 1 = .ok (.istore_n 1, 1) := dk_60 (dk_at dksX4_silent_0 1 rfl rfl)
theorem dX4_silent_2 : decode cX4_silent 2 = .ok (.iconst 0, 1) := dk_3 (dk_at dksX4_silent_0 2 rfl rfl)
theorem dX4_silent_3 : decode cX4_silent 3 = .ok (.istore_n 2, 1) := dk_61 (dk_at dksX4_silent_0 3 rfl rfl)
theorem dX4_silent_4 : decode cX4_silent 4 = .ok (.iload_n 2, 1) := dk_28 (dk_at dksX4_silent_0 4 rfl rfl)
theorem dX4_silent_5 : decode cX4_silent 5 = .ok (.bipush 16, 2) := dk_16 16 (dk_at dksX4_silent_0 5 rfl rfl)
theorem dX4_silent_7 : decode cX4_silent 7 = .ok (.if_icmp .ge 43, 3) := dk_162 0 43 (dk_at dksX4_silent_0 7 rfl rfl)
theorem dX4_silent_10 : decode cX4_silent 10 = .ok (.iconst 0, 1) := dk_3 (dk_at dksX4_silent_0 10 rfl rfl)
theorem dX4_silent_11 : decode cX4_silent 11 = .ok (.istore_n 3, 1) := dk_62 (dk_at dksX4_silent_0 11 rfl rfl)
theorem dX4_silent_12 : decode cX4_silent 12 = .ok (.iload_n 3, 1) := dk_29 (dk_at dksX4_silent_0 12 rfl rfl)
theorem dX4_silent_13 : decode cX4_silent 13 = .ok (.bipush 12, 2) := dk_16 12 (dk_at dksX4_silent_0 13 rfl rfl)
theorem dX4_silent_15 : decode cX4_silent 15 = .ok (.if_icmp .ge 29, 3) := dk_162 0 29 (dk_at dksX4_silent_0 15 rfl rfl)
theorem dX4_silent_18 : decode cX4_silent 18 = .ok (.iload_n 1, 1) := dk_27 (dk_at dksX4_silent_0 18 rfl rfl)
theorem dX4_silent_19 : decode cX4_silent 19 = .ok (.aload_n 0, 1) := dk_42 (dk_at dksX4_silent_0 19 rfl rfl)
theorem dX4_silent_20 : decode cX4_silent 20 = .ok (.iload_n 2, 1) := dk_28 (dk_at dksX4_silent_0 20 rfl rfl)
theorem dX4_silent_21 : decode cX4_silent 21 = .ok (.iload_n 3, 1) := dk_29 (dk_at dksX4_silent_0 21 rfl rfl)
theorem dX4_silent_22 : decode cX4_silent 22 = .ok (.invokevirtual 318, 3) := dk_182 1 62 (dk_at dksX4_silent_1 0 rfl rfl)
theorem dX4_silent_25 : decode cX4_silent 25 = .ok (.ifCond .ne 7, 3) := dk_154 0 7 (dk_at dksX4_silent_1 3 rfl rfl)
theorem dX4_silent_28 : decode cX4_silent 28 = .ok (.iconst 1, 1) := dk_4 (dk_at dksX4_silent_1 6 rfl rfl)
theorem dX4_silent_29 : decode cX4_silent 29 = .ok (.goto 4, 3) := dk_167 0 4 (dk_at dksX4_silent_1 7 rfl rfl)
theorem dX4_silent_32 : decode cX4_silent 32 = .ok (.iconst 0, 1) := dk_3 (dk_at dksX4_silent_1 10 rfl rfl)
theorem dX4_silent_33 : decode cX4_silent 33 = .ok (.invokestatic 99, 3) := dk_184 0 99 (dk_at dksX4_silent_1 11 rfl rfl)
theorem dX4_silent_36 : decode cX4_silent 36 = .ok (.iadd, 1) := dk_96 (dk_at dksX4_silent_1 14 rfl rfl)
theorem dX4_silent_37 : decode cX4_silent 37 = .ok (.istore_n 1, 1) := dk_60 (dk_at dksX4_silent_1 15 rfl rfl)
theorem dX4_silent_38 : decode cX4_silent 38 = .ok (.iinc 3 1, 3) := dk_132 3 1 (dk_at dksX4_silent_1 16 rfl rfl)
theorem dX4_silent_41 : decode cX4_silent 41 = .ok (.goto (-29), 3) := dk_167 255 227 (dk_at dksX4_silent_1 19 rfl rfl)
theorem dX4_silent_44 : decode cX4_silent 44 = .ok (.iinc 2 1, 3) := dk_132 2 1 (dk_at dksX4_silent_2 0 rfl rfl)
theorem dX4_silent_47 : decode cX4_silent 47 = .ok (.goto (-43), 3) := dk_167 255 213 (dk_at dksX4_silent_2 3 rfl rfl)
theorem dX4_silent_50 : decode cX4_silent 50 = .ok (.iload_n 1, 1) := dk_27 (dk_at dksX4_silent_2 6 rfl rfl)
theorem dX4_silent_51 : decode cX4_silent 51 = .ok (.ireturn, 1) := dk_172 (dk_at dksX4_silent_2 7 rfl rfl)
abbrev cX4_speakersAt : ByteArray := prog_20_method_74_code
def yX4_speakersAt : MethodName := ⟨RX4, "speakersAt", "(II)I"⟩
def dkwX4_speakersAt_1 : List UInt8 := [182, 0, 95, 184, 0, 99, 96, 62, 132, 4, 1, 167, 255, 228, 29, 172]
abbrev dktX4_speakersAt_1 : List UInt8 := dkwX4_speakersAt_1 ++ []
def dkwX4_speakersAt_0 : List UInt8 := [3, 62, 3, 54, 4, 21, 4, 42, 180, 0, 7, 3, 46, 162, 0, 23, 29, 42, 21, 4, 27, 28]
abbrev dktX4_speakersAt_0 : List UInt8 := dkwX4_speakersAt_0 ++ dktX4_speakersAt_1
theorem dksX4_speakersAt_0 : cX4_speakersAt.data.toList.drop 0 = dktX4_speakersAt_0 := by decide +kernel
theorem dksX4_speakersAt_1 : cX4_speakersAt.data.toList.drop 22 = dktX4_speakersAt_1 := dk_seg dksX4_speakersAt_0 22 rfl rfl
theorem dX4_speakersAt_0 : decode cX4_speakersAt 0 = .ok (.iconst 0, 1) := dk_3 (dk_at dksX4_speakersAt_0 0 rfl rfl)
theorem dX4_speakersAt_1 : decode cX4_speakersAt 1 = .ok (.istore_n 3, 1) := dk_62 (dk_at dksX4_speakersAt_0 1 rfl rfl)
theorem dX4_speakersAt_2 : decode cX4_speakersAt 2 = .ok (.iconst 0, 1) := dk_3 (dk_at dksX4_speakersAt_0 2 rfl rfl)
theorem dX4_speakersAt_3 : decode cX4_speakersAt 3 = .ok (.istore 4, 2) := dk_54 4 (dk_at dksX4_speakersAt_0 3 rfl rfl)
theorem dX4_speakersAt_5 : decode cX4_speakersAt 5 = .ok (.iload 4, 2) := dk_21 4 (dk_at dksX4_speakersAt_0 5 rfl rfl)
theorem dX4_speakersAt_7 : decode cX4_speakersAt 7 = .ok (.aload_n 0, 1) := dk_42 (dk_at dksX4_speakersAt_0 7 rfl rfl)
theorem dX4_speakersAt_8 : decode cX4_speakersAt 8 = .ok (.getfield 7, 3) := dk_180 0 7 (dk_at dksX4_speakersAt_0 8 rfl rfl)
theorem dX4_speakersAt_11 : decode cX4_speakersAt 11 = .ok (.iconst 0, 1) := dk_3 (dk_at dksX4_speakersAt_0 11 rfl rfl)
theorem dX4_speakersAt_12 : decode cX4_speakersAt 12 = .ok (.iaload, 1) := dk_46 (dk_at dksX4_speakersAt_0 12 rfl rfl)
theorem dX4_speakersAt_13 : decode cX4_speakersAt 13 = .ok (.if_icmp .ge 23, 3) := dk_162 0 23 (dk_at dksX4_speakersAt_0 13 rfl rfl)
theorem dX4_speakersAt_16 : decode cX4_speakersAt 16 = .ok (.iload_n 3, 1) := dk_29 (dk_at dksX4_speakersAt_0 16 rfl rfl)
theorem dX4_speakersAt_17 : decode cX4_speakersAt 17 = .ok (.aload_n 0, 1) := dk_42 (dk_at dksX4_speakersAt_0 17 rfl rfl)
theorem dX4_speakersAt_18 : decode cX4_speakersAt 18 = .ok (.iload 4, 2) := dk_21 4 (dk_at dksX4_speakersAt_0 18 rfl rfl)
theorem dX4_speakersAt_20 : decode cX4_speakersAt 20 = .ok (.iload_n 1, 1) := dk_27 (dk_at dksX4_speakersAt_0 20 rfl rfl)
theorem dX4_speakersAt_21 : decode cX4_speakersAt 21 = .ok (.iload_n 2, 1) := dk_28 (dk_at dksX4_speakersAt_0 21 rfl rfl)
theorem dX4_speakersAt_22 : decode cX4_speakersAt 22 = .ok (.invokevirtual 95, 3) := dk_182 0 95 (dk_at dksX4_speakersAt_1 0 rfl rfl)
theorem dX4_speakersAt_25 : decode cX4_speakersAt 25 = .ok (.invokestatic 99, 3) := dk_184 0 99 (dk_at dksX4_speakersAt_1 3 rfl rfl)
theorem dX4_speakersAt_28 : decode cX4_speakersAt 28 = .ok (.iadd, 1) := dk_96 (dk_at dksX4_speakersAt_1 6 rfl rfl)
theorem dX4_speakersAt_29 : decode cX4_speakersAt 29 = .ok (.istore_n 3, 1) := dk_62 (dk_at dksX4_speakersAt_1 7 rfl rfl)
theorem dX4_speakersAt_30 : decode cX4_speakersAt 30 = .ok (.iinc 4 1, 3) := dk_132 4 1 (dk_at dksX4_speakersAt_1 8 rfl rfl)
theorem dX4_speakersAt_33 : decode cX4_speakersAt 33 = .ok (.goto (-28), 3) := dk_167 255 228 (dk_at dksX4_speakersAt_1 11 rfl rfl)
theorem dX4_speakersAt_36 : decode cX4_speakersAt 36 = .ok (.iload_n 3, 1) := dk_29 (dk_at dksX4_speakersAt_1 14 rfl rfl)
theorem dX4_speakersAt_37 : decode cX4_speakersAt 37 = .ok (.ireturn, 1) := dk_172 (dk_at dksX4_speakersAt_1 15 rfl rfl)
abbrev cX4_account : ByteArray := prog_20_method_77_code
def yX4_account : MethodName := ⟨RX4, "account", "(I)I"⟩
def dkwX4_account_1 : List UInt8 := [182, 1, 65, 153, 0, 7, 3, 167, 0, 12, 42, 180, 0, 7, 16, 8, 27, 96, 46, 172]
abbrev dktX4_account_1 : List UInt8 := dkwX4_account_1 ++ []
def dkwX4_account_0 : List UInt8 := [42, 3, 181, 0, 60, 42, 27, 3, 16, 8, 184, 0, 159, 154, 0, 7, 4, 167, 0, 4, 3, 4]
abbrev dktX4_account_0 : List UInt8 := dkwX4_account_0 ++ dktX4_account_1
theorem dksX4_account_0 : cX4_account.data.toList.drop 0 = dktX4_account_0 := by decide +kernel
theorem dksX4_account_1 : cX4_account.data.toList.drop 22 = dktX4_account_1 := dk_seg dksX4_account_0 22 rfl rfl
theorem dX4_account_0 : decode cX4_account 0 = .ok (.aload_n 0, 1) := dk_42 (dk_at dksX4_account_0 0 rfl rfl)
theorem dX4_account_1 : decode cX4_account 1 = .ok (.iconst 0, 1) := dk_3 (dk_at dksX4_account_0 1 rfl rfl)
theorem dX4_account_2 : decode cX4_account 2 = .ok (.putfield 60, 3) := dk_181 0 60 (dk_at dksX4_account_0 2 rfl rfl)
theorem dX4_account_5 : decode cX4_account 5 = .ok (.aload_n 0, 1) := dk_42 (dk_at dksX4_account_0 5 rfl rfl)
theorem dX4_account_6 : decode cX4_account 6 = .ok (.iload_n 1, 1) := dk_27 (dk_at dksX4_account_0 6 rfl rfl)
theorem dX4_account_7 : decode cX4_account 7 = .ok (.iconst 0, 1) := dk_3 (dk_at dksX4_account_0 7 rfl rfl)
theorem dX4_account_8 : decode cX4_account 8 = .ok (.bipush 8, 2) := dk_16 8 (dk_at dksX4_account_0 8 rfl rfl)
theorem dX4_account_10 : decode cX4_account 10 = .ok (.invokestatic 159, 3) := dk_184 0 159 (dk_at dksX4_account_0 10 rfl rfl)
theorem dX4_account_13 : decode cX4_account 13 = .ok (.ifCond .ne 7, 3) := dk_154 0 7 (dk_at dksX4_account_0 13 rfl rfl)
theorem dX4_account_16 : decode cX4_account 16 = .ok (.iconst 1, 1) := dk_4 (dk_at dksX4_account_0 16 rfl rfl)
theorem dX4_account_17 : decode cX4_account 17 = .ok (.goto 4, 3) := dk_167 0 4 (dk_at dksX4_account_0 17 rfl rfl)
theorem dX4_account_20 : decode cX4_account 20 = .ok (.iconst 0, 1) := dk_3 (dk_at dksX4_account_0 20 rfl rfl)
theorem dX4_account_21 : decode cX4_account 21 = .ok (.iconst 1, 1) := dk_4 (dk_at dksX4_account_0 21 rfl rfl)
theorem dX4_account_22 : decode cX4_account 22 = .ok (.invokevirtual 321, 3) := dk_182 1 65 (dk_at dksX4_account_1 0 rfl rfl)
theorem dX4_account_25 : decode cX4_account 25 = .ok (.ifCond .eq 7, 3) := dk_153 0 7 (dk_at dksX4_account_1 3 rfl rfl)
theorem dX4_account_28 : decode cX4_account 28 = .ok (.iconst 0, 1) := dk_3 (dk_at dksX4_account_1 6 rfl rfl)
theorem dX4_account_29 : decode cX4_account 29 = .ok (.goto 12, 3) := dk_167 0 12 (dk_at dksX4_account_1 7 rfl rfl)
theorem dX4_account_32 : decode cX4_account 32 = .ok (.aload_n 0, 1) := dk_42 (dk_at dksX4_account_1 10 rfl rfl)
theorem dX4_account_33 : decode cX4_account 33 = .ok (.getfield 7, 3) := dk_180 0 7 (dk_at dksX4_account_1 11 rfl rfl)
theorem dX4_account_36 : decode cX4_account 36 = .ok (.bipush 8, 2) := dk_16 8 (dk_at dksX4_account_1 14 rfl rfl)
theorem dX4_account_38 : decode cX4_account 38 = .ok (.iload_n 1, 1) := dk_27 (dk_at dksX4_account_1 16 rfl rfl)
theorem dX4_account_39 : decode cX4_account 39 = .ok (.iadd, 1) := dk_96 (dk_at dksX4_account_1 17 rfl rfl)
theorem dX4_account_40 : decode cX4_account 40 = .ok (.iaload, 1) := dk_46 (dk_at dksX4_account_1 18 rfl rfl)
theorem dX4_account_41 : decode cX4_account 41 = .ok (.ireturn, 1) := dk_172 (dk_at dksX4_account_1 19 rfl rfl)
abbrev cX4_proverb : ByteArray := prog_20_method_82_code
def yX4_proverb : MethodName := ⟨RX4, "proverb", "(II)I"⟩
def dkwX4_proverb_5 : List UInt8 := [172]
abbrev dktX4_proverb_5 : List UInt8 := dkwX4_proverb_5 ++ []
def dkwX4_proverb_4 : List UInt8 := [42, 27, 6, 182, 0, 67, 16, 12, 184, 0, 76, 172, 42, 27, 182, 1, 59, 172, 42, 27, 28, 182, 0, 67]
abbrev dktX4_proverb_4 : List UInt8 := dkwX4_proverb_4 ++ dktX4_proverb_5
def dkwX4_proverb_3 : List UInt8 := [42, 27, 3, 182, 0, 67, 42, 27, 4, 182, 0, 67, 16, 16, 184, 0, 76, 172, 42, 27, 5, 182, 0, 67]
abbrev dktX4_proverb_3 : List UInt8 := dkwX4_proverb_3 ++ dktX4_proverb_4
def dkwX4_proverb_2 : List UInt8 := [170, 0, 0, 0, 67, 0, 0, 0, 10, 0, 0, 0, 12, 0, 0, 0, 25, 0, 0, 0, 43, 0, 0, 0, 61]
abbrev dktX4_proverb_2 : List UInt8 := dkwX4_proverb_2 ++ dktX4_proverb_3
def dkwX4_proverb_1 : List UInt8 := [4, 167, 0, 4, 3, 5, 182, 1, 65, 153, 0, 5, 3, 172, 28]
abbrev dktX4_proverb_1 : List UInt8 := dkwX4_proverb_1 ++ dktX4_proverb_2
def dkwX4_proverb_0 : List UInt8 := [42, 3, 181, 0, 60, 42, 27, 182, 1, 81, 154, 0, 26, 42, 28, 3, 16, 12, 184, 0, 159, 154, 0, 7]
abbrev dktX4_proverb_0 : List UInt8 := dkwX4_proverb_0 ++ dktX4_proverb_1
theorem dksX4_proverb_0 : cX4_proverb.data.toList.drop 0 = dktX4_proverb_0 := by decide +kernel
theorem dksX4_proverb_1 : cX4_proverb.data.toList.drop 24 = dktX4_proverb_1 := dk_seg dksX4_proverb_0 24 rfl rfl
theorem dksX4_proverb_2 : cX4_proverb.data.toList.drop 39 = dktX4_proverb_2 := dk_seg dksX4_proverb_1 15 rfl rfl
theorem dksX4_proverb_3 : cX4_proverb.data.toList.drop 64 = dktX4_proverb_3 := dk_seg dksX4_proverb_2 25 rfl rfl
theorem dksX4_proverb_4 : cX4_proverb.data.toList.drop 88 = dktX4_proverb_4 := dk_seg dksX4_proverb_3 24 rfl rfl
theorem dksX4_proverb_5 : cX4_proverb.data.toList.drop 112 = dktX4_proverb_5 := dk_seg dksX4_proverb_4 24 rfl rfl
theorem dX4_proverb_0 : decode cX4_proverb 0 = .ok (.aload_n 0, 1) := dk_42 (dk_at dksX4_proverb_0 0 rfl rfl)
theorem dX4_proverb_1 : decode cX4_proverb 1 = .ok (.iconst 0, 1) := dk_3 (dk_at dksX4_proverb_0 1 rfl rfl)
theorem dX4_proverb_2 : decode cX4_proverb 2 = .ok (.putfield 60, 3) := dk_181 0 60 (dk_at dksX4_proverb_0 2 rfl rfl)
theorem dX4_proverb_5 : decode cX4_proverb 5 = .ok (.aload_n 0, 1) := dk_42 (dk_at dksX4_proverb_0 5 rfl rfl)
theorem dX4_proverb_6 : decode cX4_proverb 6 = .ok (.iload_n 1, 1) := dk_27 (dk_at dksX4_proverb_0 6 rfl rfl)
theorem dX4_proverb_7 : decode cX4_proverb 7 = .ok (.invokevirtual 337, 3) := dk_182 1 81 (dk_at dksX4_proverb_0 7 rfl rfl)
theorem dX4_proverb_10 : decode cX4_proverb 10 = .ok (.ifCond .ne 26, 3) := dk_154 0 26 (dk_at dksX4_proverb_0 10 rfl rfl)
theorem dX4_proverb_13 : decode cX4_proverb 13 = .ok (.aload_n 0, 1) := dk_42 (dk_at dksX4_proverb_0 13 rfl rfl)
theorem dX4_proverb_14 : decode cX4_proverb 14 = .ok (.iload_n 2, 1) := dk_28 (dk_at dksX4_proverb_0 14 rfl rfl)
theorem dX4_proverb_15 : decode cX4_proverb 15 = .ok (.iconst 0, 1) := dk_3 (dk_at dksX4_proverb_0 15 rfl rfl)
theorem dX4_proverb_16 : decode cX4_proverb 16 = .ok (.bipush 12, 2) := dk_16 12 (dk_at dksX4_proverb_0 16 rfl rfl)
theorem dX4_proverb_18 : decode cX4_proverb 18 = .ok (.invokestatic 159, 3) := dk_184 0 159 (dk_at dksX4_proverb_0 18 rfl rfl)
theorem dX4_proverb_21 : decode cX4_proverb 21 = .ok (.ifCond .ne 7, 3) := dk_154 0 7 (dk_at dksX4_proverb_0 21 rfl rfl)
theorem dX4_proverb_24 : decode cX4_proverb 24 = .ok (.iconst 1, 1) := dk_4 (dk_at dksX4_proverb_1 0 rfl rfl)
theorem dX4_proverb_25 : decode cX4_proverb 25 = .ok (.goto 4, 3) := dk_167 0 4 (dk_at dksX4_proverb_1 1 rfl rfl)
theorem dX4_proverb_28 : decode cX4_proverb 28 = .ok (.iconst 0, 1) := dk_3 (dk_at dksX4_proverb_1 4 rfl rfl)
theorem dX4_proverb_29 : decode cX4_proverb 29 = .ok (.iconst 2, 1) := dk_5 (dk_at dksX4_proverb_1 5 rfl rfl)
theorem dX4_proverb_30 : decode cX4_proverb 30 = .ok (.invokevirtual 321, 3) := dk_182 1 65 (dk_at dksX4_proverb_1 6 rfl rfl)
theorem dX4_proverb_33 : decode cX4_proverb 33 = .ok (.ifCond .eq 5, 3) := dk_153 0 5 (dk_at dksX4_proverb_1 9 rfl rfl)
theorem dX4_proverb_36 : decode cX4_proverb 36 = .ok (.iconst 0, 1) := dk_3 (dk_at dksX4_proverb_1 12 rfl rfl)
theorem dX4_proverb_37 : decode cX4_proverb 37 = .ok (.ireturn, 1) := dk_172 (dk_at dksX4_proverb_1 13 rfl rfl)
theorem dX4_proverb_38 : decode cX4_proverb 38 = .ok (.iload_n 2, 1) := dk_28 (dk_at dksX4_proverb_1 14 rfl rfl)
theorem dX4_proverb_39 : decode cX4_proverb 39 = .ok (.tableswitch 67 10 12 #[25, 43, 61], 25) := by decide +kernel
theorem dX4_proverb_64 : decode cX4_proverb 64 = .ok (.aload_n 0, 1) := dk_42 (dk_at dksX4_proverb_3 0 rfl rfl)
theorem dX4_proverb_65 : decode cX4_proverb 65 = .ok (.iload_n 1, 1) := dk_27 (dk_at dksX4_proverb_3 1 rfl rfl)
theorem dX4_proverb_66 : decode cX4_proverb 66 = .ok (.iconst 0, 1) := dk_3 (dk_at dksX4_proverb_3 2 rfl rfl)
theorem dX4_proverb_67 : decode cX4_proverb 67 = .ok (.invokevirtual 67, 3) := dk_182 0 67 (dk_at dksX4_proverb_3 3 rfl rfl)
theorem dX4_proverb_70 : decode cX4_proverb 70 = .ok (.aload_n 0, 1) := dk_42 (dk_at dksX4_proverb_3 6 rfl rfl)
theorem dX4_proverb_71 : decode cX4_proverb 71 = .ok (.iload_n 1, 1) := dk_27 (dk_at dksX4_proverb_3 7 rfl rfl)
theorem dX4_proverb_72 : decode cX4_proverb 72 = .ok (.iconst 1, 1) := dk_4 (dk_at dksX4_proverb_3 8 rfl rfl)
theorem dX4_proverb_73 : decode cX4_proverb 73 = .ok (.invokevirtual 67, 3) := dk_182 0 67 (dk_at dksX4_proverb_3 9 rfl rfl)
theorem dX4_proverb_76 : decode cX4_proverb 76 = .ok (.bipush 16, 2) := dk_16 16 (dk_at dksX4_proverb_3 12 rfl rfl)
theorem dX4_proverb_78 : decode cX4_proverb 78 = .ok (.invokestatic 76, 3) := dk_184 0 76 (dk_at dksX4_proverb_3 14 rfl rfl)
theorem dX4_proverb_81 : decode cX4_proverb 81 = .ok (.ireturn, 1) := dk_172 (dk_at dksX4_proverb_3 17 rfl rfl)
theorem dX4_proverb_82 : decode cX4_proverb 82 = .ok (.aload_n 0, 1) := dk_42 (dk_at dksX4_proverb_3 18 rfl rfl)
theorem dX4_proverb_83 : decode cX4_proverb 83 = .ok (.iload_n 1, 1) := dk_27 (dk_at dksX4_proverb_3 19 rfl rfl)
theorem dX4_proverb_84 : decode cX4_proverb 84 = .ok (.iconst 2, 1) := dk_5 (dk_at dksX4_proverb_3 20 rfl rfl)
theorem dX4_proverb_85 : decode cX4_proverb 85 = .ok (.invokevirtual 67, 3) := dk_182 0 67 (dk_at dksX4_proverb_3 21 rfl rfl)
theorem dX4_proverb_88 : decode cX4_proverb 88 = .ok (.aload_n 0, 1) := dk_42 (dk_at dksX4_proverb_4 0 rfl rfl)
theorem dX4_proverb_89 : decode cX4_proverb 89 = .ok (.iload_n 1, 1) := dk_27 (dk_at dksX4_proverb_4 1 rfl rfl)
theorem dX4_proverb_90 : decode cX4_proverb 90 = .ok (.iconst 3, 1) := dk_6 (dk_at dksX4_proverb_4 2 rfl rfl)
theorem dX4_proverb_91 : decode cX4_proverb 91 = .ok (.invokevirtual 67, 3) := dk_182 0 67 (dk_at dksX4_proverb_4 3 rfl rfl)
theorem dX4_proverb_94 : decode cX4_proverb 94 = .ok (.bipush 12, 2) := dk_16 12 (dk_at dksX4_proverb_4 6 rfl rfl)
theorem dX4_proverb_96 : decode cX4_proverb 96 = .ok (.invokestatic 76, 3) := dk_184 0 76 (dk_at dksX4_proverb_4 8 rfl rfl)
theorem dX4_proverb_99 : decode cX4_proverb 99 = .ok (.ireturn, 1) := dk_172 (dk_at dksX4_proverb_4 11 rfl rfl)
theorem dX4_proverb_100 : decode cX4_proverb 100 = .ok (.aload_n 0, 1) := dk_42 (dk_at dksX4_proverb_4 12 rfl rfl)
theorem dX4_proverb_101 : decode cX4_proverb 101 = .ok (.iload_n 1, 1) := dk_27 (dk_at dksX4_proverb_4 13 rfl rfl)
theorem dX4_proverb_102 : decode cX4_proverb 102 = .ok (.invokevirtual 315, 3) := dk_182 1 59 (dk_at dksX4_proverb_4 14 rfl rfl)
theorem dX4_proverb_105 : decode cX4_proverb 105 = .ok (.ireturn, 1) := dk_172 (dk_at dksX4_proverb_4 17 rfl rfl)
theorem dX4_proverb_106 : decode cX4_proverb 106 = .ok (.aload_n 0, 1) := dk_42 (dk_at dksX4_proverb_4 18 rfl rfl)
theorem dX4_proverb_107 : decode cX4_proverb 107 = .ok (.iload_n 1, 1) := dk_27 (dk_at dksX4_proverb_4 19 rfl rfl)
theorem dX4_proverb_108 : decode cX4_proverb 108 = .ok (.iload_n 2, 1) := dk_28 (dk_at dksX4_proverb_4 20 rfl rfl)
theorem dX4_proverb_109 : decode cX4_proverb 109 = .ok (.invokevirtual 67, 3) := dk_182 0 67 (dk_at dksX4_proverb_4 21 rfl rfl)
theorem dX4_proverb_112 : decode cX4_proverb 112 = .ok (.ireturn, 1) := dk_172 (dk_at dksX4_proverb_5 0 rfl rfl)
abbrev cX4_noProverb : ByteArray := prog_20_method_78_code
def yX4_noProverb : MethodName := ⟨RX4, "noProverb", "(I)Z"⟩
def dkwX4_noProverb_1 : List UInt8 := [182, 1, 65, 172]
abbrev dktX4_noProverb_1 : List UInt8 := dkwX4_noProverb_1 ++ []
def dkwX4_noProverb_0 : List UInt8 := [42, 27, 3, 42, 180, 0, 7, 3, 46, 4, 100, 184, 0, 159, 154, 0, 7, 4, 167, 0, 4, 3, 4]
abbrev dktX4_noProverb_0 : List UInt8 := dkwX4_noProverb_0 ++ dktX4_noProverb_1
theorem dksX4_noProverb_0 : cX4_noProverb.data.toList.drop 0 = dktX4_noProverb_0 := by decide +kernel
theorem dksX4_noProverb_1 : cX4_noProverb.data.toList.drop 23 = dktX4_noProverb_1 := dk_seg dksX4_noProverb_0 23 rfl rfl
theorem dX4_noProverb_0 : decode cX4_noProverb 0 = .ok (.aload_n 0, 1) := dk_42 (dk_at dksX4_noProverb_0 0 rfl rfl)
theorem dX4_noProverb_1 : decode cX4_noProverb 1 = .ok (.iload_n 1, 1) := dk_27 (dk_at dksX4_noProverb_0 1 rfl rfl)
theorem dX4_noProverb_2 : decode cX4_noProverb 2 = .ok (.iconst 0, 1) := dk_3 (dk_at dksX4_noProverb_0 2 rfl rfl)
theorem dX4_noProverb_3 : decode cX4_noProverb 3 = .ok (.aload_n 0, 1) := dk_42 (dk_at dksX4_noProverb_0 3 rfl rfl)
theorem dX4_noProverb_4 : decode cX4_noProverb 4 = .ok (.getfield 7, 3) := dk_180 0 7 (dk_at dksX4_noProverb_0 4 rfl rfl)
theorem dX4_noProverb_7 : decode cX4_noProverb 7 = .ok (.iconst 0, 1) := dk_3 (dk_at dksX4_noProverb_0 7 rfl rfl)
theorem dX4_noProverb_8 : decode cX4_noProverb 8 = .ok (.iaload, 1) := dk_46 (dk_at dksX4_noProverb_0 8 rfl rfl)
theorem dX4_noProverb_9 : decode cX4_noProverb 9 = .ok (.iconst 1, 1) := dk_4 (dk_at dksX4_noProverb_0 9 rfl rfl)
theorem dX4_noProverb_10 : decode cX4_noProverb 10 = .ok (.isub, 1) := dk_100 (dk_at dksX4_noProverb_0 10 rfl rfl)
theorem dX4_noProverb_11 : decode cX4_noProverb 11 = .ok (.invokestatic 159, 3) := dk_184 0 159 (dk_at dksX4_noProverb_0 11 rfl rfl)
theorem dX4_noProverb_14 : decode cX4_noProverb 14 = .ok (.ifCond .ne 7, 3) := dk_154 0 7 (dk_at dksX4_noProverb_0 14 rfl rfl)
theorem dX4_noProverb_17 : decode cX4_noProverb 17 = .ok (.iconst 1, 1) := dk_4 (dk_at dksX4_noProverb_0 17 rfl rfl)
theorem dX4_noProverb_18 : decode cX4_noProverb 18 = .ok (.goto 4, 3) := dk_167 0 4 (dk_at dksX4_noProverb_0 18 rfl rfl)
theorem dX4_noProverb_21 : decode cX4_noProverb 21 = .ok (.iconst 0, 1) := dk_3 (dk_at dksX4_noProverb_0 21 rfl rfl)
theorem dX4_noProverb_22 : decode cX4_noProverb 22 = .ok (.iconst 1, 1) := dk_4 (dk_at dksX4_noProverb_0 22 rfl rfl)
theorem dX4_noProverb_23 : decode cX4_noProverb 23 = .ok (.invokevirtual 321, 3) := dk_182 1 65 (dk_at dksX4_noProverb_1 0 rfl rfl)
theorem dX4_noProverb_26 : decode cX4_noProverb 26 = .ok (.ireturn, 1) := dk_172 (dk_at dksX4_noProverb_1 3 rfl rfl)
abbrev cX4_speaks : ByteArray := prog_20_method_83_code
def yX4_speaks : MethodName := ⟨RX4, "speaks", "(III)Z"⟩
def dkwX4_speaks_1 : List UInt8 := [28, 29, 182, 0, 95, 153, 0, 7, 4, 167, 0, 4, 3, 172]
abbrev dktX4_speaks_1 : List UInt8 := dkwX4_speaks_1 ++ []
def dkwX4_speaks_0 : List UInt8 := [42, 3, 181, 0, 60, 42, 27, 182, 1, 81, 154, 0, 26, 42, 28, 29, 182, 1, 84, 154, 0, 17, 42, 27]
abbrev dktX4_speaks_0 : List UInt8 := dkwX4_speaks_0 ++ dktX4_speaks_1
theorem dksX4_speaks_0 : cX4_speaks.data.toList.drop 0 = dktX4_speaks_0 := by decide +kernel
theorem dksX4_speaks_1 : cX4_speaks.data.toList.drop 24 = dktX4_speaks_1 := dk_seg dksX4_speaks_0 24 rfl rfl
theorem dX4_speaks_0 : decode cX4_speaks 0 = .ok (.aload_n 0, 1) := dk_42 (dk_at dksX4_speaks_0 0 rfl rfl)
theorem dX4_speaks_1 : decode cX4_speaks 1 = .ok (.iconst 0, 1) := dk_3 (dk_at dksX4_speaks_0 1 rfl rfl)
theorem dX4_speaks_2 : decode cX4_speaks 2 = .ok (.putfield 60, 3) := dk_181 0 60 (dk_at dksX4_speaks_0 2 rfl rfl)
theorem dX4_speaks_5 : decode cX4_speaks 5 = .ok (.aload_n 0, 1) := dk_42 (dk_at dksX4_speaks_0 5 rfl rfl)
theorem dX4_speaks_6 : decode cX4_speaks 6 = .ok (.iload_n 1, 1) := dk_27 (dk_at dksX4_speaks_0 6 rfl rfl)
theorem dX4_speaks_7 : decode cX4_speaks 7 = .ok (.invokevirtual 337, 3) := dk_182 1 81 (dk_at dksX4_speaks_0 7 rfl rfl)
theorem dX4_speaks_10 : decode cX4_speaks 10 = .ok (.ifCond .ne 26, 3) := dk_154 0 26 (dk_at dksX4_speaks_0 10 rfl rfl)
theorem dX4_speaks_13 : decode cX4_speaks 13 = .ok (.aload_n 0, 1) := dk_42 (dk_at dksX4_speaks_0 13 rfl rfl)
theorem dX4_speaks_14 : decode cX4_speaks 14 = .ok (.iload_n 2, 1) := dk_28 (dk_at dksX4_speaks_0 14 rfl rfl)
theorem dX4_speaks_15 : decode cX4_speaks 15 = .ok (.iload_n 3, 1) := dk_29 (dk_at dksX4_speaks_0 15 rfl rfl)
theorem dX4_speaks_16 : decode cX4_speaks 16 = .ok (.invokevirtual 340, 3) := dk_182 1 84 (dk_at dksX4_speaks_0 16 rfl rfl)
theorem dX4_speaks_19 : decode cX4_speaks 19 = .ok (.ifCond .ne 17, 3) := dk_154 0 17 (dk_at dksX4_speaks_0 19 rfl rfl)
theorem dX4_speaks_22 : decode cX4_speaks 22 = .ok (.aload_n 0, 1) := dk_42 (dk_at dksX4_speaks_0 22 rfl rfl)
theorem dX4_speaks_23 : decode cX4_speaks 23 = .ok (.iload_n 1, 1) := dk_27 (dk_at dksX4_speaks_0 23 rfl rfl)
theorem dX4_speaks_24 : decode cX4_speaks 24 = .ok (.iload_n 2, 1) := dk_28 (dk_at dksX4_speaks_1 0 rfl rfl)
theorem dX4_speaks_25 : decode cX4_speaks 25 = .ok (.iload_n 3, 1) := dk_29 (dk_at dksX4_speaks_1 1 rfl rfl)
theorem dX4_speaks_26 : decode cX4_speaks 26 = .ok (.invokevirtual 95, 3) := dk_182 0 95 (dk_at dksX4_speaks_1 2 rfl rfl)
theorem dX4_speaks_29 : decode cX4_speaks 29 = .ok (.ifCond .eq 7, 3) := dk_153 0 7 (dk_at dksX4_speaks_1 5 rfl rfl)
theorem dX4_speaks_32 : decode cX4_speaks 32 = .ok (.iconst 1, 1) := dk_4 (dk_at dksX4_speaks_1 8 rfl rfl)
theorem dX4_speaks_33 : decode cX4_speaks 33 = .ok (.goto 4, 3) := dk_167 0 4 (dk_at dksX4_speaks_1 9 rfl rfl)
theorem dX4_speaks_36 : decode cX4_speaks 36 = .ok (.iconst 0, 1) := dk_3 (dk_at dksX4_speaks_1 12 rfl rfl)
theorem dX4_speaks_37 : decode cX4_speaks 37 = .ok (.ireturn, 1) := dk_172 (dk_at dksX4_speaks_1 13 rfl rfl)
abbrev cX4_noPlace : ByteArray := prog_20_method_80_code
def yX4_noPlace : MethodName := ⟨RX4, "noPlace", "(II)Z"⟩
def dkwX4_noPlace_1 : List UInt8 := [4, 182, 1, 65, 153, 0, 7, 4, 167, 0, 4, 3, 172]
abbrev dktX4_noPlace_1 : List UInt8 := dkwX4_noPlace_1 ++ []
def dkwX4_noPlace_0 : List UInt8 := [42, 27, 182, 1, 78, 154, 0, 26, 42, 28, 3, 16, 11, 184, 0, 159, 154, 0, 7, 4, 167, 0, 4, 3]
abbrev dktX4_noPlace_0 : List UInt8 := dkwX4_noPlace_0 ++ dktX4_noPlace_1
theorem dksX4_noPlace_0 : cX4_noPlace.data.toList.drop 0 = dktX4_noPlace_0 := by decide +kernel
theorem dksX4_noPlace_1 : cX4_noPlace.data.toList.drop 24 = dktX4_noPlace_1 := dk_seg dksX4_noPlace_0 24 rfl rfl
theorem dX4_noPlace_0 : decode cX4_noPlace 0 = .ok (.aload_n 0, 1) := dk_42 (dk_at dksX4_noPlace_0 0 rfl rfl)
theorem dX4_noPlace_1 : decode cX4_noPlace 1 = .ok (.iload_n 1, 1) := dk_27 (dk_at dksX4_noPlace_0 1 rfl rfl)
theorem dX4_noPlace_2 : decode cX4_noPlace 2 = .ok (.invokevirtual 334, 3) := dk_182 1 78 (dk_at dksX4_noPlace_0 2 rfl rfl)
theorem dX4_noPlace_5 : decode cX4_noPlace 5 = .ok (.ifCond .ne 26, 3) := dk_154 0 26 (dk_at dksX4_noPlace_0 5 rfl rfl)
theorem dX4_noPlace_8 : decode cX4_noPlace 8 = .ok (.aload_n 0, 1) := dk_42 (dk_at dksX4_noPlace_0 8 rfl rfl)
theorem dX4_noPlace_9 : decode cX4_noPlace 9 = .ok (.iload_n 2, 1) := dk_28 (dk_at dksX4_noPlace_0 9 rfl rfl)
theorem dX4_noPlace_10 : decode cX4_noPlace 10 = .ok (.iconst 0, 1) := dk_3 (dk_at dksX4_noPlace_0 10 rfl rfl)
theorem dX4_noPlace_11 : decode cX4_noPlace 11 = .ok (.bipush 11, 2) := dk_16 11 (dk_at dksX4_noPlace_0 11 rfl rfl)
theorem dX4_noPlace_13 : decode cX4_noPlace 13 = .ok (.invokestatic 159, 3) := dk_184 0 159 (dk_at dksX4_noPlace_0 13 rfl rfl)
theorem dX4_noPlace_16 : decode cX4_noPlace 16 = .ok (.ifCond .ne 7, 3) := dk_154 0 7 (dk_at dksX4_noPlace_0 16 rfl rfl)
theorem dX4_noPlace_19 : decode cX4_noPlace 19 = .ok (.iconst 1, 1) := dk_4 (dk_at dksX4_noPlace_0 19 rfl rfl)
theorem dX4_noPlace_20 : decode cX4_noPlace 20 = .ok (.goto 4, 3) := dk_167 0 4 (dk_at dksX4_noPlace_0 20 rfl rfl)
theorem dX4_noPlace_23 : decode cX4_noPlace 23 = .ok (.iconst 0, 1) := dk_3 (dk_at dksX4_noPlace_0 23 rfl rfl)
theorem dX4_noPlace_24 : decode cX4_noPlace 24 = .ok (.iconst 1, 1) := dk_4 (dk_at dksX4_noPlace_1 0 rfl rfl)
theorem dX4_noPlace_25 : decode cX4_noPlace 25 = .ok (.invokevirtual 321, 3) := dk_182 1 65 (dk_at dksX4_noPlace_1 1 rfl rfl)
theorem dX4_noPlace_28 : decode cX4_noPlace 28 = .ok (.ifCond .eq 7, 3) := dk_153 0 7 (dk_at dksX4_noPlace_1 4 rfl rfl)
theorem dX4_noPlace_31 : decode cX4_noPlace 31 = .ok (.iconst 1, 1) := dk_4 (dk_at dksX4_noPlace_1 7 rfl rfl)
theorem dX4_noPlace_32 : decode cX4_noPlace 32 = .ok (.goto 4, 3) := dk_167 0 4 (dk_at dksX4_noPlace_1 8 rfl rfl)
theorem dX4_noPlace_35 : decode cX4_noPlace 35 = .ok (.iconst 0, 1) := dk_3 (dk_at dksX4_noPlace_1 11 rfl rfl)
theorem dX4_noPlace_36 : decode cX4_noPlace 36 = .ok (.ireturn, 1) := dk_172 (dk_at dksX4_noPlace_1 12 rfl rfl)
abbrev cX4_noPoint : ByteArray := prog_20_method_79_code
def yX4_noPoint : MethodName := ⟨RX4, "noPoint", "(I)Z"⟩
def dkwX4_noPoint_0 : List UInt8 := [42, 27, 3, 16, 15, 184, 0, 159, 154, 0, 7, 4, 167, 0, 4, 3, 4, 182, 1, 65, 172]
abbrev dktX4_noPoint_0 : List UInt8 := dkwX4_noPoint_0 ++ []
theorem dksX4_noPoint_0 : cX4_noPoint.data.toList.drop 0 = dktX4_noPoint_0 := by decide +kernel
theorem dX4_noPoint_0 : decode cX4_noPoint 0 = .ok (.aload_n 0, 1) := dk_42 (dk_at dksX4_noPoint_0 0 rfl rfl)
theorem dX4_noPoint_1 : decode cX4_noPoint 1 = .ok (.iload_n 1, 1) := dk_27 (dk_at dksX4_noPoint_0 1 rfl rfl)
theorem dX4_noPoint_2 : decode cX4_noPoint 2 = .ok (.iconst 0, 1) := dk_3 (dk_at dksX4_noPoint_0 2 rfl rfl)
theorem dX4_noPoint_3 : decode cX4_noPoint 3 = .ok (.bipush 15, 2) := dk_16 15 (dk_at dksX4_noPoint_0 3 rfl rfl)
theorem dX4_noPoint_5 : decode cX4_noPoint 5 = .ok (.invokestatic 159, 3) := dk_184 0 159 (dk_at dksX4_noPoint_0 5 rfl rfl)
theorem dX4_noPoint_8 : decode cX4_noPoint 8 = .ok (.ifCond .ne 7, 3) := dk_154 0 7 (dk_at dksX4_noPoint_0 8 rfl rfl)
theorem dX4_noPoint_11 : decode cX4_noPoint 11 = .ok (.iconst 1, 1) := dk_4 (dk_at dksX4_noPoint_0 11 rfl rfl)
theorem dX4_noPoint_12 : decode cX4_noPoint 12 = .ok (.goto 4, 3) := dk_167 0 4 (dk_at dksX4_noPoint_0 12 rfl rfl)
theorem dX4_noPoint_15 : decode cX4_noPoint 15 = .ok (.iconst 0, 1) := dk_3 (dk_at dksX4_noPoint_0 15 rfl rfl)
theorem dX4_noPoint_16 : decode cX4_noPoint 16 = .ok (.iconst 1, 1) := dk_4 (dk_at dksX4_noPoint_0 16 rfl rfl)
theorem dX4_noPoint_17 : decode cX4_noPoint 17 = .ok (.invokevirtual 321, 3) := dk_182 1 65 (dk_at dksX4_noPoint_0 17 rfl rfl)
theorem dX4_noPoint_20 : decode cX4_noPoint 20 = .ok (.ireturn, 1) := dk_172 (dk_at dksX4_noPoint_0 20 rfl rfl)
abbrev cX4_speakers : ByteArray := prog_20_method_84_code
def yX4_speakers : MethodName := ⟨RX4, "speakers", "(II)I"⟩
def dkwX4_speakers_1 : List UInt8 := [172]
abbrev dktX4_speakers_1 : List UInt8 := dkwX4_speakers_1 ++ []
def dkwX4_speakers_0 : List UInt8 := [42, 3, 181, 0, 60, 42, 27, 28, 182, 1, 84, 153, 0, 7, 3, 167, 0, 9, 42, 27, 28, 182, 1, 62]
abbrev dktX4_speakers_0 : List UInt8 := dkwX4_speakers_0 ++ dktX4_speakers_1
theorem dksX4_speakers_0 : cX4_speakers.data.toList.drop 0 = dktX4_speakers_0 := by decide +kernel
theorem dksX4_speakers_1 : cX4_speakers.data.toList.drop 24 = dktX4_speakers_1 := dk_seg dksX4_speakers_0 24 rfl rfl
theorem dX4_speakers_0 : decode cX4_speakers 0 = .ok (.aload_n 0, 1) := dk_42 (dk_at dksX4_speakers_0 0 rfl rfl)
theorem dX4_speakers_1 : decode cX4_speakers 1 = .ok (.iconst 0, 1) := dk_3 (dk_at dksX4_speakers_0 1 rfl rfl)
theorem dX4_speakers_2 : decode cX4_speakers 2 = .ok (.putfield 60, 3) := dk_181 0 60 (dk_at dksX4_speakers_0 2 rfl rfl)
theorem dX4_speakers_5 : decode cX4_speakers 5 = .ok (.aload_n 0, 1) := dk_42 (dk_at dksX4_speakers_0 5 rfl rfl)
theorem dX4_speakers_6 : decode cX4_speakers 6 = .ok (.iload_n 1, 1) := dk_27 (dk_at dksX4_speakers_0 6 rfl rfl)
theorem dX4_speakers_7 : decode cX4_speakers 7 = .ok (.iload_n 2, 1) := dk_28 (dk_at dksX4_speakers_0 7 rfl rfl)
theorem dX4_speakers_8 : decode cX4_speakers 8 = .ok (.invokevirtual 340, 3) := dk_182 1 84 (dk_at dksX4_speakers_0 8 rfl rfl)
theorem dX4_speakers_11 : decode cX4_speakers 11 = .ok (.ifCond .eq 7, 3) := dk_153 0 7 (dk_at dksX4_speakers_0 11 rfl rfl)
theorem dX4_speakers_14 : decode cX4_speakers 14 = .ok (.iconst 0, 1) := dk_3 (dk_at dksX4_speakers_0 14 rfl rfl)
theorem dX4_speakers_15 : decode cX4_speakers 15 = .ok (.goto 9, 3) := dk_167 0 9 (dk_at dksX4_speakers_0 15 rfl rfl)
theorem dX4_speakers_18 : decode cX4_speakers 18 = .ok (.aload_n 0, 1) := dk_42 (dk_at dksX4_speakers_0 18 rfl rfl)
theorem dX4_speakers_19 : decode cX4_speakers 19 = .ok (.iload_n 1, 1) := dk_27 (dk_at dksX4_speakers_0 19 rfl rfl)
theorem dX4_speakers_20 : decode cX4_speakers 20 = .ok (.iload_n 2, 1) := dk_28 (dk_at dksX4_speakers_0 20 rfl rfl)
theorem dX4_speakers_21 : decode cX4_speakers 21 = .ok (.invokevirtual 318, 3) := dk_182 1 62 (dk_at dksX4_speakers_0 21 rfl rfl)
theorem dX4_speakers_24 : decode cX4_speakers 24 = .ok (.ireturn, 1) := dk_172 (dk_at dksX4_speakers_1 0 rfl rfl)
abbrev cX4_speaker : ByteArray := prog_20_method_85_code
def yX4_speaker : MethodName := ⟨RX4, "speaker", "(III)I"⟩
def dkwX4_speaker_2 : List UInt8 := [21, 4, 154, 0, 6, 21, 5, 172, 132, 4, 255, 132, 5, 1, 167, 255, 217, 2, 172]
abbrev dktX4_speaker_2 : List UInt8 := dkwX4_speaker_2 ++ []
def dkwX4_speaker_1 : List UInt8 := [42, 180, 0, 7, 3, 46, 162, 0, 34, 42, 21, 5, 27, 28, 182, 0, 95, 154, 0, 6, 167, 0, 14]
abbrev dktX4_speaker_1 : List UInt8 := dkwX4_speaker_1 ++ dktX4_speaker_2
def dkwX4_speaker_0 : List UInt8 := [42, 3, 181, 0, 60, 42, 27, 28, 182, 1, 84, 153, 0, 5, 3, 172, 29, 54, 4, 3, 54, 5, 21, 5]
abbrev dktX4_speaker_0 : List UInt8 := dkwX4_speaker_0 ++ dktX4_speaker_1
theorem dksX4_speaker_0 : cX4_speaker.data.toList.drop 0 = dktX4_speaker_0 := by decide +kernel
theorem dksX4_speaker_1 : cX4_speaker.data.toList.drop 24 = dktX4_speaker_1 := dk_seg dksX4_speaker_0 24 rfl rfl
theorem dksX4_speaker_2 : cX4_speaker.data.toList.drop 47 = dktX4_speaker_2 := dk_seg dksX4_speaker_1 23 rfl rfl
theorem dX4_speaker_0 : decode cX4_speaker 0 = .ok (.aload_n 0, 1) := dk_42 (dk_at dksX4_speaker_0 0 rfl rfl)
theorem dX4_speaker_1 : decode cX4_speaker 1 = .ok (.iconst 0, 1) := dk_3 (dk_at dksX4_speaker_0 1 rfl rfl)
theorem dX4_speaker_2 : decode cX4_speaker 2 = .ok (.putfield 60, 3) := dk_181 0 60 (dk_at dksX4_speaker_0 2 rfl rfl)
theorem dX4_speaker_5 : decode cX4_speaker 5 = .ok (.aload_n 0, 1) := dk_42 (dk_at dksX4_speaker_0 5 rfl rfl)
theorem dX4_speaker_6 : decode cX4_speaker 6 = .ok (.iload_n 1, 1) := dk_27 (dk_at dksX4_speaker_0 6 rfl rfl)
theorem dX4_speaker_7 : decode cX4_speaker 7 = .ok (.iload_n 2, 1) := dk_28 (dk_at dksX4_speaker_0 7 rfl rfl)
theorem dX4_speaker_8 : decode cX4_speaker 8 = .ok (.invokevirtual 340, 3) := dk_182 1 84 (dk_at dksX4_speaker_0 8 rfl rfl)
theorem dX4_speaker_11 : decode cX4_speaker 11 = .ok (.ifCond .eq 5, 3) := dk_153 0 5 (dk_at dksX4_speaker_0 11 rfl rfl)
theorem dX4_speaker_14 : decode cX4_speaker 14 = .ok (.iconst 0, 1) := dk_3 (dk_at dksX4_speaker_0 14 rfl rfl)
theorem dX4_speaker_15 : decode cX4_speaker 15 = .ok (.ireturn, 1) := dk_172 (dk_at dksX4_speaker_0 15 rfl rfl)
theorem dX4_speaker_16 : decode cX4_speaker 16 = .ok (.iload_n 3, 1) := dk_29 (dk_at dksX4_speaker_0 16 rfl rfl)
theorem dX4_speaker_17 : decode cX4_speaker 17 = .ok (.istore 4, 2) := dk_54 4 (dk_at dksX4_speaker_0 17 rfl rfl)
theorem dX4_speaker_19 : decode cX4_speaker 19 = .ok (.iconst 0, 1) := dk_3 (dk_at dksX4_speaker_0 19 rfl rfl)
theorem dX4_speaker_20 : decode cX4_speaker 20 = .ok (.istore 5, 2) := dk_54 5 (dk_at dksX4_speaker_0 20 rfl rfl)
theorem dX4_speaker_22 : decode cX4_speaker 22 = .ok (.iload 5, 2) := dk_21 5 (dk_at dksX4_speaker_0 22 rfl rfl)
theorem dX4_speaker_24 : decode cX4_speaker 24 = .ok (.aload_n 0, 1) := dk_42 (dk_at dksX4_speaker_1 0 rfl rfl)
theorem dX4_speaker_25 : decode cX4_speaker 25 = .ok (.getfield 7, 3) := dk_180 0 7 (dk_at dksX4_speaker_1 1 rfl rfl)
theorem dX4_speaker_28 : decode cX4_speaker 28 = .ok (.iconst 0, 1) := dk_3 (dk_at dksX4_speaker_1 4 rfl rfl)
theorem dX4_speaker_29 : decode cX4_speaker 29 = .ok (.iaload, 1) := dk_46 (dk_at dksX4_speaker_1 5 rfl rfl)
theorem dX4_speaker_30 : decode cX4_speaker 30 = .ok (.if_icmp .ge 34, 3) := dk_162 0 34 (dk_at dksX4_speaker_1 6 rfl rfl)
theorem dX4_speaker_33 : decode cX4_speaker 33 = .ok (.aload_n 0, 1) := dk_42 (dk_at dksX4_speaker_1 9 rfl rfl)
theorem dX4_speaker_34 : decode cX4_speaker 34 = .ok (.iload 5, 2) := dk_21 5 (dk_at dksX4_speaker_1 10 rfl rfl)
theorem dX4_speaker_36 : decode cX4_speaker 36 = .ok (.iload_n 1, 1) := dk_27 (dk_at dksX4_speaker_1 12 rfl rfl)
theorem dX4_speaker_37 : decode cX4_speaker 37 = .ok (.iload_n 2, 1) := dk_28 (dk_at dksX4_speaker_1 13 rfl rfl)
theorem dX4_speaker_38 : decode cX4_speaker 38 = .ok (.invokevirtual 95, 3) := dk_182 0 95 (dk_at dksX4_speaker_1 14 rfl rfl)
theorem dX4_speaker_41 : decode cX4_speaker 41 = .ok (.ifCond .ne 6, 3) := dk_154 0 6 (dk_at dksX4_speaker_1 17 rfl rfl)
theorem dX4_speaker_44 : decode cX4_speaker 44 = .ok (.goto 14, 3) := dk_167 0 14 (dk_at dksX4_speaker_1 20 rfl rfl)
theorem dX4_speaker_47 : decode cX4_speaker 47 = .ok (.iload 4, 2) := dk_21 4 (dk_at dksX4_speaker_2 0 rfl rfl)
theorem dX4_speaker_49 : decode cX4_speaker 49 = .ok (.ifCond .ne 6, 3) := dk_154 0 6 (dk_at dksX4_speaker_2 2 rfl rfl)
theorem dX4_speaker_52 : decode cX4_speaker 52 = .ok (.iload 5, 2) := dk_21 5 (dk_at dksX4_speaker_2 5 rfl rfl)
theorem dX4_speaker_54 : decode cX4_speaker 54 = .ok (.ireturn, 1) := dk_172 (dk_at dksX4_speaker_2 7 rfl rfl)
theorem dX4_speaker_55 : decode cX4_speaker 55 = .ok (.iinc 4 (-1), 3) := dk_132 4 255 (dk_at dksX4_speaker_2 8 rfl rfl)
theorem dX4_speaker_58 : decode cX4_speaker 58 = .ok (.iinc 5 1, 3) := dk_132 5 1 (dk_at dksX4_speaker_2 11 rfl rfl)
theorem dX4_speaker_61 : decode cX4_speaker 61 = .ok (.goto (-39), 3) := dk_167 255 217 (dk_at dksX4_speaker_2 14 rfl rfl)
theorem dX4_speaker_64 : decode cX4_speaker 64 = .ok (.iconst (-1), 1) := dk_2 (dk_at dksX4_speaker_2 17 rfl rfl)
theorem dX4_speaker_65 : decode cX4_speaker 65 = .ok (.ireturn, 1) := dk_172 (dk_at dksX4_speaker_2 18 rfl rfl)
abbrev cX4_voice : ByteArray := prog_20_method_86_code
def yX4_voice : MethodName := ⟨RX4, "voice", "(III)I"⟩
def dkwX4_voice_1 : List UInt8 := [167, 0, 10, 42, 27, 28, 29, 182, 0, 106, 172]
abbrev dktX4_voice_1 : List UInt8 := dkwX4_voice_1 ++ []
def dkwX4_voice_0 : List UInt8 := [42, 3, 181, 0, 60, 42, 27, 28, 182, 1, 84, 154, 0, 11, 42, 29, 182, 1, 87, 153, 0, 7, 3]
abbrev dktX4_voice_0 : List UInt8 := dkwX4_voice_0 ++ dktX4_voice_1
theorem dksX4_voice_0 : cX4_voice.data.toList.drop 0 = dktX4_voice_0 := by decide +kernel
theorem dksX4_voice_1 : cX4_voice.data.toList.drop 23 = dktX4_voice_1 := dk_seg dksX4_voice_0 23 rfl rfl
theorem dX4_voice_0 : decode cX4_voice 0 = .ok (.aload_n 0, 1) := dk_42 (dk_at dksX4_voice_0 0 rfl rfl)
theorem dX4_voice_1 : decode cX4_voice 1 = .ok (.iconst 0, 1) := dk_3 (dk_at dksX4_voice_0 1 rfl rfl)
theorem dX4_voice_2 : decode cX4_voice 2 = .ok (.putfield 60, 3) := dk_181 0 60 (dk_at dksX4_voice_0 2 rfl rfl)
theorem dX4_voice_5 : decode cX4_voice 5 = .ok (.aload_n 0, 1) := dk_42 (dk_at dksX4_voice_0 5 rfl rfl)
theorem dX4_voice_6 : decode cX4_voice 6 = .ok (.iload_n 1, 1) := dk_27 (dk_at dksX4_voice_0 6 rfl rfl)
theorem dX4_voice_7 : decode cX4_voice 7 = .ok (.iload_n 2, 1) := dk_28 (dk_at dksX4_voice_0 7 rfl rfl)
theorem dX4_voice_8 : decode cX4_voice 8 = .ok (.invokevirtual 340, 3) := dk_182 1 84 (dk_at dksX4_voice_0 8 rfl rfl)
theorem dX4_voice_11 : decode cX4_voice 11 = .ok (.ifCond .ne 11, 3) := dk_154 0 11 (dk_at dksX4_voice_0 11 rfl rfl)
theorem dX4_voice_14 : decode cX4_voice 14 = .ok (.aload_n 0, 1) := dk_42 (dk_at dksX4_voice_0 14 rfl rfl)
theorem dX4_voice_15 : decode cX4_voice 15 = .ok (.iload_n 3, 1) := dk_29 (dk_at dksX4_voice_0 15 rfl rfl)
theorem dX4_voice_16 : decode cX4_voice 16 = .ok (.invokevirtual 343, 3) := dk_182 1 87 (dk_at dksX4_voice_0 16 rfl rfl)
theorem dX4_voice_19 : decode cX4_voice 19 = .ok (.ifCond .eq 7, 3) := dk_153 0 7 (dk_at dksX4_voice_0 19 rfl rfl)
theorem dX4_voice_22 : decode cX4_voice 22 = .ok (.iconst 0, 1) := dk_3 (dk_at dksX4_voice_0 22 rfl rfl)
theorem dX4_voice_23 : decode cX4_voice 23 = .ok (.goto 10, 3) := dk_167 0 10 (dk_at dksX4_voice_1 0 rfl rfl)
theorem dX4_voice_26 : decode cX4_voice 26 = .ok (.aload_n 0, 1) := dk_42 (dk_at dksX4_voice_1 3 rfl rfl)
theorem dX4_voice_27 : decode cX4_voice 27 = .ok (.iload_n 1, 1) := dk_27 (dk_at dksX4_voice_1 4 rfl rfl)
theorem dX4_voice_28 : decode cX4_voice 28 = .ok (.iload_n 2, 1) := dk_28 (dk_at dksX4_voice_1 5 rfl rfl)
theorem dX4_voice_29 : decode cX4_voice 29 = .ok (.iload_n 3, 1) := dk_29 (dk_at dksX4_voice_1 6 rfl rfl)
theorem dX4_voice_30 : decode cX4_voice 30 = .ok (.invokevirtual 106, 3) := dk_182 0 106 (dk_at dksX4_voice_1 7 rfl rfl)
theorem dX4_voice_33 : decode cX4_voice 33 = .ok (.ireturn, 1) := dk_172 (dk_at dksX4_voice_1 10 rfl rfl)
abbrev cX4_noWeather : ByteArray := prog_20_method_81_code
def yX4_noWeather : MethodName := ⟨RX4, "noWeather", "(I)Z"⟩
def dkwX4_noWeather_0 : List UInt8 := [42, 27, 3, 7, 184, 0, 159, 154, 0, 7, 4, 167, 0, 4, 3, 5, 182, 1, 65, 172]
abbrev dktX4_noWeather_0 : List UInt8 := dkwX4_noWeather_0 ++ []
theorem dksX4_noWeather_0 : cX4_noWeather.data.toList.drop 0 = dktX4_noWeather_0 := by decide +kernel
theorem dX4_noWeather_0 : decode cX4_noWeather 0 = .ok (.aload_n 0, 1) := dk_42 (dk_at dksX4_noWeather_0 0 rfl rfl)
theorem dX4_noWeather_1 : decode cX4_noWeather 1 = .ok (.iload_n 1, 1) := dk_27 (dk_at dksX4_noWeather_0 1 rfl rfl)
theorem dX4_noWeather_2 : decode cX4_noWeather 2 = .ok (.iconst 0, 1) := dk_3 (dk_at dksX4_noWeather_0 2 rfl rfl)
theorem dX4_noWeather_3 : decode cX4_noWeather 3 = .ok (.iconst 4, 1) := dk_7 (dk_at dksX4_noWeather_0 3 rfl rfl)
theorem dX4_noWeather_4 : decode cX4_noWeather 4 = .ok (.invokestatic 159, 3) := dk_184 0 159 (dk_at dksX4_noWeather_0 4 rfl rfl)
theorem dX4_noWeather_7 : decode cX4_noWeather 7 = .ok (.ifCond .ne 7, 3) := dk_154 0 7 (dk_at dksX4_noWeather_0 7 rfl rfl)
theorem dX4_noWeather_10 : decode cX4_noWeather 10 = .ok (.iconst 1, 1) := dk_4 (dk_at dksX4_noWeather_0 10 rfl rfl)
theorem dX4_noWeather_11 : decode cX4_noWeather 11 = .ok (.goto 4, 3) := dk_167 0 4 (dk_at dksX4_noWeather_0 11 rfl rfl)
theorem dX4_noWeather_14 : decode cX4_noWeather 14 = .ok (.iconst 0, 1) := dk_3 (dk_at dksX4_noWeather_0 14 rfl rfl)
theorem dX4_noWeather_15 : decode cX4_noWeather 15 = .ok (.iconst 2, 1) := dk_5 (dk_at dksX4_noWeather_0 15 rfl rfl)
theorem dX4_noWeather_16 : decode cX4_noWeather 16 = .ok (.invokevirtual 321, 3) := dk_182 1 65 (dk_at dksX4_noWeather_0 16 rfl rfl)
theorem dX4_noWeather_19 : decode cX4_noWeather 19 = .ok (.ireturn, 1) := dk_172 (dk_at dksX4_noWeather_0 19 rfl rfl)
abbrev cX4_told : ByteArray := prog_20_method_87_code
def yX4_told : MethodName := ⟨RX4, "told", "(II)I"⟩
def dkwX4_told_1 : List UInt8 := [172]
abbrev dktX4_told_1 : List UInt8 := dkwX4_told_1 ++ []
def dkwX4_told_0 : List UInt8 := [42, 3, 181, 0, 60, 42, 27, 28, 182, 1, 84, 153, 0, 7, 3, 167, 0, 9, 42, 27, 28, 182, 0, 116]
abbrev dktX4_told_0 : List UInt8 := dkwX4_told_0 ++ dktX4_told_1
theorem dksX4_told_0 : cX4_told.data.toList.drop 0 = dktX4_told_0 := by decide +kernel
theorem dksX4_told_1 : cX4_told.data.toList.drop 24 = dktX4_told_1 := dk_seg dksX4_told_0 24 rfl rfl
theorem dX4_told_0 : decode cX4_told 0 = .ok (.aload_n 0, 1) := dk_42 (dk_at dksX4_told_0 0 rfl rfl)
theorem dX4_told_1 : decode cX4_told 1 = .ok (.iconst 0, 1) := dk_3 (dk_at dksX4_told_0 1 rfl rfl)
theorem dX4_told_2 : decode cX4_told 2 = .ok (.putfield 60, 3) := dk_181 0 60 (dk_at dksX4_told_0 2 rfl rfl)
theorem dX4_told_5 : decode cX4_told 5 = .ok (.aload_n 0, 1) := dk_42 (dk_at dksX4_told_0 5 rfl rfl)
theorem dX4_told_6 : decode cX4_told 6 = .ok (.iload_n 1, 1) := dk_27 (dk_at dksX4_told_0 6 rfl rfl)
theorem dX4_told_7 : decode cX4_told 7 = .ok (.iload_n 2, 1) := dk_28 (dk_at dksX4_told_0 7 rfl rfl)
theorem dX4_told_8 : decode cX4_told 8 = .ok (.invokevirtual 340, 3) := dk_182 1 84 (dk_at dksX4_told_0 8 rfl rfl)
theorem dX4_told_11 : decode cX4_told 11 = .ok (.ifCond .eq 7, 3) := dk_153 0 7 (dk_at dksX4_told_0 11 rfl rfl)
theorem dX4_told_14 : decode cX4_told 14 = .ok (.iconst 0, 1) := dk_3 (dk_at dksX4_told_0 14 rfl rfl)
theorem dX4_told_15 : decode cX4_told 15 = .ok (.goto 9, 3) := dk_167 0 9 (dk_at dksX4_told_0 15 rfl rfl)
theorem dX4_told_18 : decode cX4_told 18 = .ok (.aload_n 0, 1) := dk_42 (dk_at dksX4_told_0 18 rfl rfl)
theorem dX4_told_19 : decode cX4_told 19 = .ok (.iload_n 1, 1) := dk_27 (dk_at dksX4_told_0 19 rfl rfl)
theorem dX4_told_20 : decode cX4_told 20 = .ok (.iload_n 2, 1) := dk_28 (dk_at dksX4_told_0 20 rfl rfl)
theorem dX4_told_21 : decode cX4_told 21 = .ok (.invokevirtual 116, 3) := dk_182 0 116 (dk_at dksX4_told_0 21 rfl rfl)
theorem dX4_told_24 : decode cX4_told 24 = .ok (.ireturn, 1) := dk_172 (dk_at dksX4_told_1 0 rfl rfl)
abbrev cX4_lead : ByteArray := prog_20_method_88_code
def yX4_lead : MethodName := ⟨RX4, "lead", "(II)I"⟩
def dkwX4_lead_3 : List UInt8 := [2, 167, 0, 13, 42, 27, 28, 29, 182, 0, 106, 21, 4, 100, 172]
abbrev dktX4_lead_3 : List UInt8 := dkwX4_lead_3 ++ []
def dkwX4_lead_2 : List UInt8 := [42, 27, 28, 21, 5, 182, 0, 106, 184, 0, 103, 54, 4, 132, 5, 1, 167, 255, 221, 29, 2, 160, 0, 7]
abbrev dktX4_lead_2 : List UInt8 := dkwX4_lead_2 ++ dktX4_lead_3
def dkwX4_lead_1 : List UInt8 := [54, 4, 3, 54, 5, 21, 5, 8, 162, 0, 35, 21, 5, 29, 160, 0, 8, 21, 4, 167, 0, 16, 21, 4]
abbrev dktX4_lead_1 : List UInt8 := dkwX4_lead_1 ++ dktX4_lead_2
def dkwX4_lead_0 : List UInt8 := [42, 3, 181, 0, 60, 42, 27, 28, 182, 1, 84, 153, 0, 5, 3, 172, 42, 27, 28, 182, 0, 116, 62, 3]
abbrev dktX4_lead_0 : List UInt8 := dkwX4_lead_0 ++ dktX4_lead_1
theorem dksX4_lead_0 : cX4_lead.data.toList.drop 0 = dktX4_lead_0 := by decide +kernel
theorem dksX4_lead_1 : cX4_lead.data.toList.drop 24 = dktX4_lead_1 := dk_seg dksX4_lead_0 24 rfl rfl
theorem dksX4_lead_2 : cX4_lead.data.toList.drop 48 = dktX4_lead_2 := dk_seg dksX4_lead_1 24 rfl rfl
theorem dksX4_lead_3 : cX4_lead.data.toList.drop 72 = dktX4_lead_3 := dk_seg dksX4_lead_2 24 rfl rfl
theorem dX4_lead_0 : decode cX4_lead 0 = .ok (.aload_n 0, 1) := dk_42 (dk_at dksX4_lead_0 0 rfl rfl)
theorem dX4_lead_1 : decode cX4_lead 1 = .ok (.iconst 0, 1) := dk_3 (dk_at dksX4_lead_0 1 rfl rfl)
theorem dX4_lead_2 : decode cX4_lead 2 = .ok (.putfield 60, 3) := dk_181 0 60 (dk_at dksX4_lead_0 2 rfl rfl)
theorem dX4_lead_5 : decode cX4_lead 5 = .ok (.aload_n 0, 1) := dk_42 (dk_at dksX4_lead_0 5 rfl rfl)
theorem dX4_lead_6 : decode cX4_lead 6 = .ok (.iload_n 1, 1) := dk_27 (dk_at dksX4_lead_0 6 rfl rfl)
theorem dX4_lead_7 : decode cX4_lead 7 = .ok (.iload_n 2, 1) := dk_28 (dk_at dksX4_lead_0 7 rfl rfl)
theorem dX4_lead_8 : decode cX4_lead 8 = .ok (.invokevirtual 340, 3) := dk_182 1 84 (dk_at dksX4_lead_0 8 rfl rfl)
theorem dX4_lead_11 : decode cX4_lead 11 = .ok (.ifCond .eq 5, 3) := dk_153 0 5 (dk_at dksX4_lead_0 11 rfl rfl)
theorem dX4_lead_14 : decode cX4_lead 14 = .ok (.iconst 0, 1) := dk_3 (dk_at dksX4_lead_0 14 rfl rfl)
theorem dX4_lead_15 : decode cX4_lead 15 = .ok (.ireturn, 1) := dk_172 (dk_at dksX4_lead_0 15 rfl rfl)
theorem dX4_lead_16 : decode cX4_lead 16 = .ok (.aload_n 0, 1) := dk_42 (dk_at dksX4_lead_0 16 rfl rfl)
theorem dX4_lead_17 : decode cX4_lead 17 = .ok (.iload_n 1, 1) := dk_27 (dk_at dksX4_lead_0 17 rfl rfl)
theorem dX4_lead_18 : decode cX4_lead 18 = .ok (.iload_n 2, 1) := dk_28 (dk_at dksX4_lead_0 18 rfl rfl)
theorem dX4_lead_19 : decode cX4_lead 19 = .ok (.invokevirtual 116, 3) := dk_182 0 116 (dk_at dksX4_lead_0 19 rfl rfl)
theorem dX4_lead_22 : decode cX4_lead 22 = .ok (.istore_n 3, 1) := dk_62 (dk_at dksX4_lead_0 22 rfl rfl)
theorem dX4_lead_23 : decode cX4_lead 23 = .ok (.iconst 0, 1) := dk_3 (dk_at dksX4_lead_0 23 rfl rfl)
theorem dX4_lead_24 : decode cX4_lead 24 = .ok (.istore 4, 2) := dk_54 4 (dk_at dksX4_lead_1 0 rfl rfl)
theorem dX4_lead_26 : decode cX4_lead 26 = .ok (.iconst 0, 1) := dk_3 (dk_at dksX4_lead_1 2 rfl rfl)
theorem dX4_lead_27 : decode cX4_lead 27 = .ok (.istore 5, 2) := dk_54 5 (dk_at dksX4_lead_1 3 rfl rfl)
theorem dX4_lead_29 : decode cX4_lead 29 = .ok (.iload 5, 2) := dk_21 5 (dk_at dksX4_lead_1 5 rfl rfl)
theorem dX4_lead_31 : decode cX4_lead 31 = .ok (.iconst 5, 1) := dk_8 (dk_at dksX4_lead_1 7 rfl rfl)
theorem dX4_lead_32 : decode cX4_lead 32 = .ok (.if_icmp .ge 35, 3) := dk_162 0 35 (dk_at dksX4_lead_1 8 rfl rfl)
theorem dX4_lead_35 : decode cX4_lead 35 = .ok (.iload 5, 2) := dk_21 5 (dk_at dksX4_lead_1 11 rfl rfl)
theorem dX4_lead_37 : decode cX4_lead 37 = .ok (.iload_n 3, 1) := dk_29 (dk_at dksX4_lead_1 13 rfl rfl)
theorem dX4_lead_38 : decode cX4_lead 38 = .ok (.if_icmp .ne 8, 3) := dk_160 0 8 (dk_at dksX4_lead_1 14 rfl rfl)
theorem dX4_lead_41 : decode cX4_lead 41 = .ok (.iload 4, 2) := dk_21 4 (dk_at dksX4_lead_1 17 rfl rfl)
theorem dX4_lead_43 : decode cX4_lead 43 = .ok (.goto 16, 3) := dk_167 0 16 (dk_at dksX4_lead_1 19 rfl rfl)
theorem dX4_lead_46 : decode cX4_lead 46 = .ok (.iload 4, 2) := dk_21 4 (dk_at dksX4_lead_1 22 rfl rfl)
theorem dX4_lead_48 : decode cX4_lead 48 = .ok (.aload_n 0, 1) := dk_42 (dk_at dksX4_lead_2 0 rfl rfl)
theorem dX4_lead_49 : decode cX4_lead 49 = .ok (.iload_n 1, 1) := dk_27 (dk_at dksX4_lead_2 1 rfl rfl)
theorem dX4_lead_50 : decode cX4_lead 50 = .ok (.iload_n 2, 1) := dk_28 (dk_at dksX4_lead_2 2 rfl rfl)
theorem dX4_lead_51 : decode cX4_lead 51 = .ok (.iload 5, 2) := dk_21 5 (dk_at dksX4_lead_2 3 rfl rfl)
theorem dX4_lead_53 : decode cX4_lead 53 = .ok (.invokevirtual 106, 3) := dk_182 0 106 (dk_at dksX4_lead_2 5 rfl rfl)
theorem dX4_lead_56 : decode cX4_lead 56 = .ok (.invokestatic 103, 3) := dk_184 0 103 (dk_at dksX4_lead_2 8 rfl rfl)
theorem dX4_lead_59 : decode cX4_lead 59 = .ok (.istore 4, 2) := dk_54 4 (dk_at dksX4_lead_2 11 rfl rfl)
theorem dX4_lead_61 : decode cX4_lead 61 = .ok (.iinc 5 1, 3) := dk_132 5 1 (dk_at dksX4_lead_2 13 rfl rfl)
theorem dX4_lead_64 : decode cX4_lead 64 = .ok (.goto (-35), 3) := dk_167 255 221 (dk_at dksX4_lead_2 16 rfl rfl)
theorem dX4_lead_67 : decode cX4_lead 67 = .ok (.iload_n 3, 1) := dk_29 (dk_at dksX4_lead_2 19 rfl rfl)
theorem dX4_lead_68 : decode cX4_lead 68 = .ok (.iconst (-1), 1) := dk_2 (dk_at dksX4_lead_2 20 rfl rfl)
theorem dX4_lead_69 : decode cX4_lead 69 = .ok (.if_icmp .ne 7, 3) := dk_160 0 7 (dk_at dksX4_lead_2 21 rfl rfl)
theorem dX4_lead_72 : decode cX4_lead 72 = .ok (.iconst (-1), 1) := dk_2 (dk_at dksX4_lead_3 0 rfl rfl)
theorem dX4_lead_73 : decode cX4_lead 73 = .ok (.goto 13, 3) := dk_167 0 13 (dk_at dksX4_lead_3 1 rfl rfl)
theorem dX4_lead_76 : decode cX4_lead 76 = .ok (.aload_n 0, 1) := dk_42 (dk_at dksX4_lead_3 4 rfl rfl)
theorem dX4_lead_77 : decode cX4_lead 77 = .ok (.iload_n 1, 1) := dk_27 (dk_at dksX4_lead_3 5 rfl rfl)
theorem dX4_lead_78 : decode cX4_lead 78 = .ok (.iload_n 2, 1) := dk_28 (dk_at dksX4_lead_3 6 rfl rfl)
theorem dX4_lead_79 : decode cX4_lead 79 = .ok (.iload_n 3, 1) := dk_29 (dk_at dksX4_lead_3 7 rfl rfl)
theorem dX4_lead_80 : decode cX4_lead 80 = .ok (.invokevirtual 106, 3) := dk_182 0 106 (dk_at dksX4_lead_3 8 rfl rfl)
theorem dX4_lead_83 : decode cX4_lead 83 = .ok (.iload 4, 2) := dk_21 4 (dk_at dksX4_lead_3 11 rfl rfl)
theorem dX4_lead_85 : decode cX4_lead 85 = .ok (.isub, 1) := dk_100 (dk_at dksX4_lead_3 13 rfl rfl)
theorem dX4_lead_86 : decode cX4_lead 86 = .ok (.ireturn, 1) := dk_172 (dk_at dksX4_lead_3 14 rfl rfl)
abbrev cX4_why : ByteArray := prog_20_method_91_code
def yX4_why : MethodName := ⟨RX4, "why", "(IIII)I"⟩
def dkwX4_why_4 : List UInt8 := [28, 182, 0, 116, 96, 167, 0, 4, 3, 172]
abbrev dktX4_why_4 : List UInt8 := dkwX4_why_4 ++ []
def dkwX4_why_3 : List UInt8 := [27, 28, 29, 21, 5, 182, 1, 96, 172, 21, 5, 4, 164, 0, 20, 16, 100, 21, 5, 4, 100, 104, 42, 27]
abbrev dktX4_why_3 : List UInt8 := dkwX4_why_3 ++ dktX4_why_4
def dkwX4_why_2 : List UInt8 := [42, 27, 28, 29, 182, 1, 93, 54, 5, 21, 4, 154, 0, 6, 21, 5, 172, 21, 4, 5, 160, 0, 13, 42]
abbrev dktX4_why_2 : List UInt8 := dkwX4_why_2 ++ dktX4_why_3
def dkwX4_why_1 : List UInt8 := [21, 4, 3, 5, 184, 0, 159, 154, 0, 7, 4, 167, 0, 4, 3, 5, 182, 1, 65, 153, 0, 5, 3, 172]
abbrev dktX4_why_1 : List UInt8 := dkwX4_why_1 ++ dktX4_why_2
def dkwX4_why_0 : List UInt8 := [42, 3, 181, 0, 60, 42, 27, 28, 182, 1, 84, 154, 0, 34, 42, 29, 182, 1, 87, 154, 0, 26, 42]
abbrev dktX4_why_0 : List UInt8 := dkwX4_why_0 ++ dktX4_why_1
theorem dksX4_why_0 : cX4_why.data.toList.drop 0 = dktX4_why_0 := by decide +kernel
theorem dksX4_why_1 : cX4_why.data.toList.drop 23 = dktX4_why_1 := dk_seg dksX4_why_0 23 rfl rfl
theorem dksX4_why_2 : cX4_why.data.toList.drop 47 = dktX4_why_2 := dk_seg dksX4_why_1 24 rfl rfl
theorem dksX4_why_3 : cX4_why.data.toList.drop 71 = dktX4_why_3 := dk_seg dksX4_why_2 24 rfl rfl
theorem dksX4_why_4 : cX4_why.data.toList.drop 95 = dktX4_why_4 := dk_seg dksX4_why_3 24 rfl rfl
theorem dX4_why_0 : decode cX4_why 0 = .ok (.aload_n 0, 1) := dk_42 (dk_at dksX4_why_0 0 rfl rfl)
theorem dX4_why_1 : decode cX4_why 1 = .ok (.iconst 0, 1) := dk_3 (dk_at dksX4_why_0 1 rfl rfl)
theorem dX4_why_2 : decode cX4_why 2 = .ok (.putfield 60, 3) := dk_181 0 60 (dk_at dksX4_why_0 2 rfl rfl)
theorem dX4_why_5 : decode cX4_why 5 = .ok (.aload_n 0, 1) := dk_42 (dk_at dksX4_why_0 5 rfl rfl)
theorem dX4_why_6 : decode cX4_why 6 = .ok (.iload_n 1, 1) := dk_27 (dk_at dksX4_why_0 6 rfl rfl)
theorem dX4_why_7 : decode cX4_why 7 = .ok (.iload_n 2, 1) := dk_28 (dk_at dksX4_why_0 7 rfl rfl)
theorem dX4_why_8 : decode cX4_why 8 = .ok (.invokevirtual 340, 3) := dk_182 1 84 (dk_at dksX4_why_0 8 rfl rfl)
theorem dX4_why_11 : decode cX4_why 11 = .ok (.ifCond .ne 34, 3) := dk_154 0 34 (dk_at dksX4_why_0 11 rfl rfl)
theorem dX4_why_14 : decode cX4_why 14 = .ok (.aload_n 0, 1) := dk_42 (dk_at dksX4_why_0 14 rfl rfl)
theorem dX4_why_15 : decode cX4_why 15 = .ok (.iload_n 3, 1) := dk_29 (dk_at dksX4_why_0 15 rfl rfl)
theorem dX4_why_16 : decode cX4_why 16 = .ok (.invokevirtual 343, 3) := dk_182 1 87 (dk_at dksX4_why_0 16 rfl rfl)
theorem dX4_why_19 : decode cX4_why 19 = .ok (.ifCond .ne 26, 3) := dk_154 0 26 (dk_at dksX4_why_0 19 rfl rfl)
theorem dX4_why_22 : decode cX4_why 22 = .ok (.aload_n 0, 1) := dk_42 (dk_at dksX4_why_0 22 rfl rfl)
theorem dX4_why_23 : decode cX4_why 23 = .ok (.iload 4, 2) := dk_21 4 (dk_at dksX4_why_1 0 rfl rfl)
theorem dX4_why_25 : decode cX4_why 25 = .ok (.iconst 0, 1) := dk_3 (dk_at dksX4_why_1 2 rfl rfl)
theorem dX4_why_26 : decode cX4_why 26 = .ok (.iconst 2, 1) := dk_5 (dk_at dksX4_why_1 3 rfl rfl)
theorem dX4_why_27 : decode cX4_why 27 = .ok (.invokestatic 159, 3) := dk_184 0 159 (dk_at dksX4_why_1 4 rfl rfl)
theorem dX4_why_30 : decode cX4_why 30 = .ok (.ifCond .ne 7, 3) := dk_154 0 7 (dk_at dksX4_why_1 7 rfl rfl)
theorem dX4_why_33 : decode cX4_why 33 = .ok (.iconst 1, 1) := dk_4 (dk_at dksX4_why_1 10 rfl rfl)
theorem dX4_why_34 : decode cX4_why 34 = .ok (.goto 4, 3) := dk_167 0 4 (dk_at dksX4_why_1 11 rfl rfl)
theorem dX4_why_37 : decode cX4_why 37 = .ok (.iconst 0, 1) := dk_3 (dk_at dksX4_why_1 14 rfl rfl)
theorem dX4_why_38 : decode cX4_why 38 = .ok (.iconst 2, 1) := dk_5 (dk_at dksX4_why_1 15 rfl rfl)
theorem dX4_why_39 : decode cX4_why 39 = .ok (.invokevirtual 321, 3) := dk_182 1 65 (dk_at dksX4_why_1 16 rfl rfl)
theorem dX4_why_42 : decode cX4_why 42 = .ok (.ifCond .eq 5, 3) := dk_153 0 5 (dk_at dksX4_why_1 19 rfl rfl)
theorem dX4_why_45 : decode cX4_why 45 = .ok (.iconst 0, 1) := dk_3 (dk_at dksX4_why_1 22 rfl rfl)
theorem dX4_why_46 : decode cX4_why 46 = .ok (.ireturn, 1) := dk_172 (dk_at dksX4_why_1 23 rfl rfl)
theorem dX4_why_47 : decode cX4_why 47 = .ok (.aload_n 0, 1) := dk_42 (dk_at dksX4_why_2 0 rfl rfl)
theorem dX4_why_48 : decode cX4_why 48 = .ok (.iload_n 1, 1) := dk_27 (dk_at dksX4_why_2 1 rfl rfl)
theorem dX4_why_49 : decode cX4_why 49 = .ok (.iload_n 2, 1) := dk_28 (dk_at dksX4_why_2 2 rfl rfl)
theorem dX4_why_50 : decode cX4_why 50 = .ok (.iload_n 3, 1) := dk_29 (dk_at dksX4_why_2 3 rfl rfl)
theorem dX4_why_51 : decode cX4_why 51 = .ok (.invokevirtual 349, 3) := dk_182 1 93 (dk_at dksX4_why_2 4 rfl rfl)
theorem dX4_why_54 : decode cX4_why 54 = .ok (.istore 5, 2) := dk_54 5 (dk_at dksX4_why_2 7 rfl rfl)
theorem dX4_why_56 : decode cX4_why 56 = .ok (.iload 4, 2) := dk_21 4 (dk_at dksX4_why_2 9 rfl rfl)
theorem dX4_why_58 : decode cX4_why 58 = .ok (.ifCond .ne 6, 3) := dk_154 0 6 (dk_at dksX4_why_2 11 rfl rfl)
theorem dX4_why_61 : decode cX4_why 61 = .ok (.iload 5, 2) := dk_21 5 (dk_at dksX4_why_2 14 rfl rfl)
theorem dX4_why_63 : decode cX4_why 63 = .ok (.ireturn, 1) := dk_172 (dk_at dksX4_why_2 16 rfl rfl)
theorem dX4_why_64 : decode cX4_why 64 = .ok (.iload 4, 2) := dk_21 4 (dk_at dksX4_why_2 17 rfl rfl)
theorem dX4_why_66 : decode cX4_why 66 = .ok (.iconst 2, 1) := dk_5 (dk_at dksX4_why_2 19 rfl rfl)
theorem dX4_why_67 : decode cX4_why 67 = .ok (.if_icmp .ne 13, 3) := dk_160 0 13 (dk_at dksX4_why_2 20 rfl rfl)
theorem dX4_why_70 : decode cX4_why 70 = .ok (.aload_n 0, 1) := dk_42 (dk_at dksX4_why_2 23 rfl rfl)
theorem dX4_why_71 : decode cX4_why 71 = .ok (.iload_n 1, 1) := dk_27 (dk_at dksX4_why_3 0 rfl rfl)
theorem dX4_why_72 : decode cX4_why 72 = .ok (.iload_n 2, 1) := dk_28 (dk_at dksX4_why_3 1 rfl rfl)
theorem dX4_why_73 : decode cX4_why 73 = .ok (.iload_n 3, 1) := dk_29 (dk_at dksX4_why_3 2 rfl rfl)
theorem dX4_why_74 : decode cX4_why 74 = .ok (.iload 5, 2) := dk_21 5 (dk_at dksX4_why_3 3 rfl rfl)
theorem dX4_why_76 : decode cX4_why 76 = .ok (.invokevirtual 352, 3) := dk_182 1 96 (dk_at dksX4_why_3 5 rfl rfl)
theorem dX4_why_79 : decode cX4_why 79 = .ok (.ireturn, 1) := dk_172 (dk_at dksX4_why_3 8 rfl rfl)
theorem dX4_why_80 : decode cX4_why 80 = .ok (.iload 5, 2) := dk_21 5 (dk_at dksX4_why_3 9 rfl rfl)
theorem dX4_why_82 : decode cX4_why 82 = .ok (.iconst 1, 1) := dk_4 (dk_at dksX4_why_3 11 rfl rfl)
theorem dX4_why_83 : decode cX4_why 83 = .ok (.if_icmp .le 20, 3) := dk_164 0 20 (dk_at dksX4_why_3 12 rfl rfl)
theorem dX4_why_86 : decode cX4_why 86 = .ok (.bipush 100, 2) := dk_16 100 (dk_at dksX4_why_3 15 rfl rfl)
theorem dX4_why_88 : decode cX4_why 88 = .ok (.iload 5, 2) := dk_21 5 (dk_at dksX4_why_3 17 rfl rfl)
theorem dX4_why_90 : decode cX4_why 90 = .ok (.iconst 1, 1) := dk_4 (dk_at dksX4_why_3 19 rfl rfl)
theorem dX4_why_91 : decode cX4_why 91 = .ok (.isub, 1) := dk_100 (dk_at dksX4_why_3 20 rfl rfl)
theorem dX4_why_92 : decode cX4_why 92 = .ok (.imul, 1) := dk_104 (dk_at dksX4_why_3 21 rfl rfl)
theorem dX4_why_93 : decode cX4_why 93 = .ok (.aload_n 0, 1) := dk_42 (dk_at dksX4_why_3 22 rfl rfl)
theorem dX4_why_94 : decode cX4_why 94 = .ok (.iload_n 1, 1) := dk_27 (dk_at dksX4_why_3 23 rfl rfl)
theorem dX4_why_95 : decode cX4_why 95 = .ok (.iload_n 2, 1) := dk_28 (dk_at dksX4_why_4 0 rfl rfl)
theorem dX4_why_96 : decode cX4_why 96 = .ok (.invokevirtual 116, 3) := dk_182 0 116 (dk_at dksX4_why_4 1 rfl rfl)
theorem dX4_why_99 : decode cX4_why 99 = .ok (.iadd, 1) := dk_96 (dk_at dksX4_why_4 4 rfl rfl)
theorem dX4_why_100 : decode cX4_why 100 = .ok (.goto 4, 3) := dk_167 0 4 (dk_at dksX4_why_4 5 rfl rfl)
theorem dX4_why_103 : decode cX4_why 103 = .ok (.iconst 0, 1) := dk_3 (dk_at dksX4_why_4 8 rfl rfl)
theorem dX4_why_104 : decode cX4_why 104 = .ok (.ireturn, 1) := dk_172 (dk_at dksX4_why_4 9 rfl rfl)
abbrev cX4_reasonOf : ByteArray := prog_20_method_89_code
def yX4_reasonOf : MethodName := ⟨RX4, "reasonOf", "(III)I"⟩
def dkwX4_reasonOf_2 : List UInt8 := [182, 0, 106, 162, 0, 7, 6, 167, 0, 4, 7, 172]
abbrev dktX4_reasonOf_2 : List UInt8 := dkwX4_reasonOf_2 ++ []
def dkwX4_reasonOf_1 : List UInt8 := [42, 27, 28, 29, 182, 0, 106, 54, 5, 21, 5, 154, 0, 5, 5, 172, 21, 5, 42, 27, 28, 21, 4]
abbrev dktX4_reasonOf_1 : List UInt8 := dkwX4_reasonOf_1 ++ dktX4_reasonOf_2
def dkwX4_reasonOf_0 : List UInt8 := [42, 27, 28, 182, 0, 116, 54, 4, 21, 4, 29, 160, 0, 5, 3, 172, 21, 4, 2, 160, 0, 5, 4, 172]
abbrev dktX4_reasonOf_0 : List UInt8 := dkwX4_reasonOf_0 ++ dktX4_reasonOf_1
theorem dksX4_reasonOf_0 : cX4_reasonOf.data.toList.drop 0 = dktX4_reasonOf_0 := by decide +kernel
theorem dksX4_reasonOf_1 : cX4_reasonOf.data.toList.drop 24 = dktX4_reasonOf_1 := dk_seg dksX4_reasonOf_0 24 rfl rfl
theorem dksX4_reasonOf_2 : cX4_reasonOf.data.toList.drop 47 = dktX4_reasonOf_2 := dk_seg dksX4_reasonOf_1 23 rfl rfl
theorem dX4_reasonOf_0 : decode cX4_reasonOf 0 = .ok (.aload_n 0, 1) := dk_42 (dk_at dksX4_reasonOf_0 0 rfl rfl)
theorem dX4_reasonOf_1 : decode cX4_reasonOf 1 = .ok (.iload_n 1, 1) := dk_27 (dk_at dksX4_reasonOf_0 1 rfl rfl)
theorem dX4_reasonOf_2 : decode cX4_reasonOf 2 = .ok (.iload_n 2, 1) := dk_28 (dk_at dksX4_reasonOf_0 2 rfl rfl)
theorem dX4_reasonOf_3 : decode cX4_reasonOf 3 = .ok (.invokevirtual 116, 3) := dk_182 0 116 (dk_at dksX4_reasonOf_0 3 rfl rfl)
theorem dX4_reasonOf_6 : decode cX4_reasonOf 6 = .ok (.istore 4, 2) := dk_54 4 (dk_at dksX4_reasonOf_0 6 rfl rfl)
theorem dX4_reasonOf_8 : decode cX4_reasonOf 8 = .ok (.iload 4, 2) := dk_21 4 (dk_at dksX4_reasonOf_0 8 rfl rfl)
theorem dX4_reasonOf_10 : decode cX4_reasonOf 10 = .ok (.iload_n 3, 1) := dk_29 (dk_at dksX4_reasonOf_0 10 rfl rfl)
theorem dX4_reasonOf_11 : decode cX4_reasonOf 11 = .ok (.if_icmp .ne 5, 3) := dk_160 0 5 (dk_at dksX4_reasonOf_0 11 rfl rfl)
theorem dX4_reasonOf_14 : decode cX4_reasonOf 14 = .ok (.iconst 0, 1) := dk_3 (dk_at dksX4_reasonOf_0 14 rfl rfl)
theorem dX4_reasonOf_15 : decode cX4_reasonOf 15 = .ok (.ireturn, 1) := dk_172 (dk_at dksX4_reasonOf_0 15 rfl rfl)
theorem dX4_reasonOf_16 : decode cX4_reasonOf 16 = .ok (.iload 4, 2) := dk_21 4 (dk_at dksX4_reasonOf_0 16 rfl rfl)
theorem dX4_reasonOf_18 : decode cX4_reasonOf 18 = .ok (.iconst (-1), 1) := dk_2 (dk_at dksX4_reasonOf_0 18 rfl rfl)
theorem dX4_reasonOf_19 : decode cX4_reasonOf 19 = .ok (.if_icmp .ne 5, 3) := dk_160 0 5 (dk_at dksX4_reasonOf_0 19 rfl rfl)
theorem dX4_reasonOf_22 : decode cX4_reasonOf 22 = .ok (.iconst 1, 1) := dk_4 (dk_at dksX4_reasonOf_0 22 rfl rfl)
theorem dX4_reasonOf_23 : decode cX4_reasonOf 23 = .ok (.ireturn, 1) := dk_172 (dk_at dksX4_reasonOf_0 23 rfl rfl)
theorem dX4_reasonOf_24 : decode cX4_reasonOf 24 = .ok (.aload_n 0, 1) := dk_42 (dk_at dksX4_reasonOf_1 0 rfl rfl)
theorem dX4_reasonOf_25 : decode cX4_reasonOf 25 = .ok (.iload_n 1, 1) := dk_27 (dk_at dksX4_reasonOf_1 1 rfl rfl)
theorem dX4_reasonOf_26 : decode cX4_reasonOf 26 = .ok (.iload_n 2, 1) := dk_28 (dk_at dksX4_reasonOf_1 2 rfl rfl)
theorem dX4_reasonOf_27 : decode cX4_reasonOf 27 = .ok (.iload_n 3, 1) := dk_29 (dk_at dksX4_reasonOf_1 3 rfl rfl)
theorem dX4_reasonOf_28 : decode cX4_reasonOf 28 = .ok (.invokevirtual 106, 3) := dk_182 0 106 (dk_at dksX4_reasonOf_1 4 rfl rfl)
theorem dX4_reasonOf_31 : decode cX4_reasonOf 31 = .ok (.istore 5, 2) := dk_54 5 (dk_at dksX4_reasonOf_1 7 rfl rfl)
theorem dX4_reasonOf_33 : decode cX4_reasonOf 33 = .ok (.iload 5, 2) := dk_21 5 (dk_at dksX4_reasonOf_1 9 rfl rfl)
theorem dX4_reasonOf_35 : decode cX4_reasonOf 35 = .ok (.ifCond .ne 5, 3) := dk_154 0 5 (dk_at dksX4_reasonOf_1 11 rfl rfl)
theorem dX4_reasonOf_38 : decode cX4_reasonOf 38 = .ok (.iconst 2, 1) := dk_5 (dk_at dksX4_reasonOf_1 14 rfl rfl)
theorem dX4_reasonOf_39 : decode cX4_reasonOf 39 = .ok (.ireturn, 1) := dk_172 (dk_at dksX4_reasonOf_1 15 rfl rfl)
theorem dX4_reasonOf_40 : decode cX4_reasonOf 40 = .ok (.iload 5, 2) := dk_21 5 (dk_at dksX4_reasonOf_1 16 rfl rfl)
theorem dX4_reasonOf_42 : decode cX4_reasonOf 42 = .ok (.aload_n 0, 1) := dk_42 (dk_at dksX4_reasonOf_1 18 rfl rfl)
theorem dX4_reasonOf_43 : decode cX4_reasonOf 43 = .ok (.iload_n 1, 1) := dk_27 (dk_at dksX4_reasonOf_1 19 rfl rfl)
theorem dX4_reasonOf_44 : decode cX4_reasonOf 44 = .ok (.iload_n 2, 1) := dk_28 (dk_at dksX4_reasonOf_1 20 rfl rfl)
theorem dX4_reasonOf_45 : decode cX4_reasonOf 45 = .ok (.iload 4, 2) := dk_21 4 (dk_at dksX4_reasonOf_1 21 rfl rfl)
theorem dX4_reasonOf_47 : decode cX4_reasonOf 47 = .ok (.invokevirtual 106, 3) := dk_182 0 106 (dk_at dksX4_reasonOf_2 0 rfl rfl)
theorem dX4_reasonOf_50 : decode cX4_reasonOf 50 = .ok (.if_icmp .ge 7, 3) := dk_162 0 7 (dk_at dksX4_reasonOf_2 3 rfl rfl)
theorem dX4_reasonOf_53 : decode cX4_reasonOf 53 = .ok (.iconst 3, 1) := dk_6 (dk_at dksX4_reasonOf_2 6 rfl rfl)
theorem dX4_reasonOf_54 : decode cX4_reasonOf 54 = .ok (.goto 4, 3) := dk_167 0 4 (dk_at dksX4_reasonOf_2 7 rfl rfl)
theorem dX4_reasonOf_57 : decode cX4_reasonOf 57 = .ok (.iconst 4, 1) := dk_7 (dk_at dksX4_reasonOf_2 10 rfl rfl)
theorem dX4_reasonOf_58 : decode cX4_reasonOf 58 = .ok (.ireturn, 1) := dk_172 (dk_at dksX4_reasonOf_2 11 rfl rfl)
abbrev cX4_deeperOf : ByteArray := prog_20_method_90_code
def yX4_deeperOf : MethodName := ⟨RX4, "deeperOf", "(IIII)I"⟩
def dkwX4_deeperOf_2 : List UInt8 := [182, 0, 106, 100, 184, 0, 109, 167, 0, 4, 3, 172]
abbrev dktX4_deeperOf_2 : List UInt8 := dkwX4_deeperOf_2 ++ []
def dkwX4_deeperOf_1 : List UInt8 := [17, 39, 15, 17, 3, 232, 42, 27, 28, 42, 27, 28, 182, 0, 116, 182, 0, 106, 96, 42, 27, 28, 29]
abbrev dktX4_deeperOf_1 : List UInt8 := dkwX4_deeperOf_1 ++ dktX4_deeperOf_2
def dkwX4_deeperOf_0 : List UInt8 := [21, 4, 7, 160, 0, 15, 17, 1, 144, 42, 27, 28, 29, 182, 1, 90, 96, 172, 21, 4, 6, 160, 0, 36]
abbrev dktX4_deeperOf_0 : List UInt8 := dkwX4_deeperOf_0 ++ dktX4_deeperOf_1
theorem dksX4_deeperOf_0 : cX4_deeperOf.data.toList.drop 0 = dktX4_deeperOf_0 := by decide +kernel
theorem dksX4_deeperOf_1 : cX4_deeperOf.data.toList.drop 24 = dktX4_deeperOf_1 := dk_seg dksX4_deeperOf_0 24 rfl rfl
theorem dksX4_deeperOf_2 : cX4_deeperOf.data.toList.drop 47 = dktX4_deeperOf_2 := dk_seg dksX4_deeperOf_1 23 rfl rfl
theorem dX4_deeperOf_0 : decode cX4_deeperOf 0 = .ok (.iload 4, 2) := dk_21 4 (dk_at dksX4_deeperOf_0 0 rfl rfl)
theorem dX4_deeperOf_2 : decode cX4_deeperOf 2 = .ok (.iconst 4, 1) := dk_7 (dk_at dksX4_deeperOf_0 2 rfl rfl)
theorem dX4_deeperOf_3 : decode cX4_deeperOf 3 = .ok (.if_icmp .ne 15, 3) := dk_160 0 15 (dk_at dksX4_deeperOf_0 3 rfl rfl)
theorem dX4_deeperOf_6 : decode cX4_deeperOf 6 = .ok (.sipush 400, 3) := dk_17 1 144 (dk_at dksX4_deeperOf_0 6 rfl rfl)
theorem dX4_deeperOf_9 : decode cX4_deeperOf 9 = .ok (.aload_n 0, 1) := dk_42 (dk_at dksX4_deeperOf_0 9 rfl rfl)
theorem dX4_deeperOf_10 : decode cX4_deeperOf 10 = .ok (.iload_n 1, 1) := dk_27 (dk_at dksX4_deeperOf_0 10 rfl rfl)
theorem dX4_deeperOf_11 : decode cX4_deeperOf 11 = .ok (.iload_n 2, 1) := dk_28 (dk_at dksX4_deeperOf_0 11 rfl rfl)
theorem dX4_deeperOf_12 : decode cX4_deeperOf 12 = .ok (.iload_n 3, 1) := dk_29 (dk_at dksX4_deeperOf_0 12 rfl rfl)
theorem dX4_deeperOf_13 : decode cX4_deeperOf 13 = .ok (.invokevirtual 346, 3) := dk_182 1 90 (dk_at dksX4_deeperOf_0 13 rfl rfl)
theorem dX4_deeperOf_16 : decode cX4_deeperOf 16 = .ok (.iadd, 1) := dk_96 (dk_at dksX4_deeperOf_0 16 rfl rfl)
theorem dX4_deeperOf_17 : decode cX4_deeperOf 17 = .ok (.ireturn, 1) := dk_172 (dk_at dksX4_deeperOf_0 17 rfl rfl)
theorem dX4_deeperOf_18 : decode cX4_deeperOf 18 = .ok (.iload 4, 2) := dk_21 4 (dk_at dksX4_deeperOf_0 18 rfl rfl)
theorem dX4_deeperOf_20 : decode cX4_deeperOf 20 = .ok (.iconst 3, 1) := dk_6 (dk_at dksX4_deeperOf_0 20 rfl rfl)
theorem dX4_deeperOf_21 : decode cX4_deeperOf 21 = .ok (.if_icmp .ne 36, 3) := dk_160 0 36 (dk_at dksX4_deeperOf_0 21 rfl rfl)
theorem dX4_deeperOf_24 : decode cX4_deeperOf 24 = .ok (.sipush 9999, 3) := dk_17 39 15 (dk_at dksX4_deeperOf_1 0 rfl rfl)
theorem dX4_deeperOf_27 : decode cX4_deeperOf 27 = .ok (.sipush 1000, 3) := dk_17 3 232 (dk_at dksX4_deeperOf_1 3 rfl rfl)
theorem dX4_deeperOf_30 : decode cX4_deeperOf 30 = .ok (.aload_n 0, 1) := dk_42 (dk_at dksX4_deeperOf_1 6 rfl rfl)
theorem dX4_deeperOf_31 : decode cX4_deeperOf 31 = .ok (.iload_n 1, 1) := dk_27 (dk_at dksX4_deeperOf_1 7 rfl rfl)
theorem dX4_deeperOf_32 : decode cX4_deeperOf 32 = .ok (.iload_n 2, 1) := dk_28 (dk_at dksX4_deeperOf_1 8 rfl rfl)
theorem dX4_deeperOf_33 : decode cX4_deeperOf 33 = .ok (.aload_n 0, 1) := dk_42 (dk_at dksX4_deeperOf_1 9 rfl rfl)
theorem dX4_deeperOf_34 : decode cX4_deeperOf 34 = .ok (.iload_n 1, 1) := dk_27 (dk_at dksX4_deeperOf_1 10 rfl rfl)
theorem dX4_deeperOf_35 : decode cX4_deeperOf 35 = .ok (.iload_n 2, 1) := dk_28 (dk_at dksX4_deeperOf_1 11 rfl rfl)
theorem dX4_deeperOf_36 : decode cX4_deeperOf 36 = .ok (.invokevirtual 116, 3) := dk_182 0 116 (dk_at dksX4_deeperOf_1 12 rfl rfl)
theorem dX4_deeperOf_39 : decode cX4_deeperOf 39 = .ok (.invokevirtual 106, 3) := dk_182 0 106 (dk_at dksX4_deeperOf_1 15 rfl rfl)
theorem dX4_deeperOf_42 : decode cX4_deeperOf 42 = .ok (.iadd, 1) := dk_96 (dk_at dksX4_deeperOf_1 18 rfl rfl)
theorem dX4_deeperOf_43 : decode cX4_deeperOf 43 = .ok (.aload_n 0, 1) := dk_42 (dk_at dksX4_deeperOf_1 19 rfl rfl)
theorem dX4_deeperOf_44 : decode cX4_deeperOf 44 = .ok (.iload_n 1, 1) := dk_27 (dk_at dksX4_deeperOf_1 20 rfl rfl)
theorem dX4_deeperOf_45 : decode cX4_deeperOf 45 = .ok (.iload_n 2, 1) := dk_28 (dk_at dksX4_deeperOf_1 21 rfl rfl)
theorem dX4_deeperOf_46 : decode cX4_deeperOf 46 = .ok (.iload_n 3, 1) := dk_29 (dk_at dksX4_deeperOf_1 22 rfl rfl)
theorem dX4_deeperOf_47 : decode cX4_deeperOf 47 = .ok (.invokevirtual 106, 3) := dk_182 0 106 (dk_at dksX4_deeperOf_2 0 rfl rfl)
theorem dX4_deeperOf_50 : decode cX4_deeperOf 50 = .ok (.isub, 1) := dk_100 (dk_at dksX4_deeperOf_2 3 rfl rfl)
theorem dX4_deeperOf_51 : decode cX4_deeperOf 51 = .ok (.invokestatic 109, 3) := dk_184 0 109 (dk_at dksX4_deeperOf_2 4 rfl rfl)
theorem dX4_deeperOf_54 : decode cX4_deeperOf 54 = .ok (.goto 4, 3) := dk_167 0 4 (dk_at dksX4_deeperOf_2 7 rfl rfl)
theorem dX4_deeperOf_57 : decode cX4_deeperOf 57 = .ok (.iconst 0, 1) := dk_3 (dk_at dksX4_deeperOf_2 10 rfl rfl)
theorem dX4_deeperOf_58 : decode cX4_deeperOf 58 = .ok (.ireturn, 1) := dk_172 (dk_at dksX4_deeperOf_2 11 rfl rfl)
abbrev cX4_tellers : ByteArray := prog_20_method_20_code
def yX4_tellers : MethodName := ⟨RX4, "tellers", "(III)I"⟩
def dkwX4_tellers_2 : List UInt8 := [184, 0, 99, 96, 54, 4, 132, 5, 1, 167, 255, 207, 21, 4, 172]
abbrev dktX4_tellers_2 : List UInt8 := dkwX4_tellers_2 ++ []
def dkwX4_tellers_1 : List UInt8 := [182, 0, 95, 153, 0, 18, 42, 21, 5, 7, 182, 0, 67, 29, 160, 0, 7, 4, 167, 0, 4, 3]
abbrev dktX4_tellers_1 : List UInt8 := dkwX4_tellers_1 ++ dktX4_tellers_2
def dkwX4_tellers_0 : List UInt8 := [3, 54, 4, 3, 54, 5, 21, 5, 42, 180, 0, 7, 3, 46, 162, 0, 44, 21, 4, 42, 21, 5, 27, 28]
abbrev dktX4_tellers_0 : List UInt8 := dkwX4_tellers_0 ++ dktX4_tellers_1
theorem dksX4_tellers_0 : cX4_tellers.data.toList.drop 0 = dktX4_tellers_0 := by decide +kernel
theorem dksX4_tellers_1 : cX4_tellers.data.toList.drop 24 = dktX4_tellers_1 := dk_seg dksX4_tellers_0 24 rfl rfl
theorem dksX4_tellers_2 : cX4_tellers.data.toList.drop 46 = dktX4_tellers_2 := dk_seg dksX4_tellers_1 22 rfl rfl
theorem dX4_tellers_0 : decode cX4_tellers 0 = .ok (.iconst 0, 1) := dk_3 (dk_at dksX4_tellers_0 0 rfl rfl)
theorem dX4_tellers_1 : decode cX4_tellers 1 = .ok (.istore 4, 2) := dk_54 4 (dk_at dksX4_tellers_0 1 rfl rfl)
theorem dX4_tellers_3 : decode cX4_tellers 3 = .ok (.iconst 0, 1) := dk_3 (dk_at dksX4_tellers_0 3 rfl rfl)
theorem dX4_tellers_4 : decode cX4_tellers 4 = .ok (.istore 5, 2) := dk_54 5 (dk_at dksX4_tellers_0 4 rfl rfl)
theorem dX4_tellers_6 : decode cX4_tellers 6 = .ok (.iload 5, 2) := dk_21 5 (dk_at dksX4_tellers_0 6 rfl rfl)
theorem dX4_tellers_8 : decode cX4_tellers 8 = .ok (.aload_n 0, 1) := dk_42 (dk_at dksX4_tellers_0 8 rfl rfl)
theorem dX4_tellers_9 : decode cX4_tellers 9 = .ok (.getfield 7, 3) := dk_180 0 7 (dk_at dksX4_tellers_0 9 rfl rfl)
theorem dX4_tellers_12 : decode cX4_tellers 12 = .ok (.iconst 0, 1) := dk_3 (dk_at dksX4_tellers_0 12 rfl rfl)
theorem dX4_tellers_13 : decode cX4_tellers 13 = .ok (.iaload, 1) := dk_46 (dk_at dksX4_tellers_0 13 rfl rfl)
theorem dX4_tellers_14 : decode cX4_tellers 14 = .ok (.if_icmp .ge 44, 3) := dk_162 0 44 (dk_at dksX4_tellers_0 14 rfl rfl)
theorem dX4_tellers_17 : decode cX4_tellers 17 = .ok (.iload 4, 2) := dk_21 4 (dk_at dksX4_tellers_0 17 rfl rfl)
theorem dX4_tellers_19 : decode cX4_tellers 19 = .ok (.aload_n 0, 1) := dk_42 (dk_at dksX4_tellers_0 19 rfl rfl)
theorem dX4_tellers_20 : decode cX4_tellers 20 = .ok (.iload 5, 2) := dk_21 5 (dk_at dksX4_tellers_0 20 rfl rfl)
theorem dX4_tellers_22 : decode cX4_tellers 22 = .ok (.iload_n 1, 1) := dk_27 (dk_at dksX4_tellers_0 22 rfl rfl)
theorem dX4_tellers_23 : decode cX4_tellers 23 = .ok (.iload_n 2, 1) := dk_28 (dk_at dksX4_tellers_0 23 rfl rfl)
theorem dX4_tellers_24 : decode cX4_tellers 24 = .ok (.invokevirtual 95, 3) := dk_182 0 95 (dk_at dksX4_tellers_1 0 rfl rfl)
theorem dX4_tellers_27 : decode cX4_tellers 27 = .ok (.ifCond .eq 18, 3) := dk_153 0 18 (dk_at dksX4_tellers_1 3 rfl rfl)
theorem dX4_tellers_30 : decode cX4_tellers 30 = .ok (.aload_n 0, 1) := dk_42 (dk_at dksX4_tellers_1 6 rfl rfl)
theorem dX4_tellers_31 : decode cX4_tellers 31 = .ok (.iload 5, 2) := dk_21 5 (dk_at dksX4_tellers_1 7 rfl rfl)
theorem dX4_tellers_33 : decode cX4_tellers 33 = .ok (.iconst 4, 1) := dk_7 (dk_at dksX4_tellers_1 9 rfl rfl)
theorem dX4_tellers_34 : decode cX4_tellers 34 = .ok (.invokevirtual 67, 3) := dk_182 0 67 (dk_at dksX4_tellers_1 10 rfl rfl)
theorem dX4_tellers_37 : decode cX4_tellers 37 = .ok (.iload_n 3, 1) := dk_29 (dk_at dksX4_tellers_1 13 rfl rfl)
theorem dX4_tellers_38 : decode cX4_tellers 38 = .ok (.if_icmp .ne 7, 3) := dk_160 0 7 (dk_at dksX4_tellers_1 14 rfl rfl)
theorem dX4_tellers_41 : decode cX4_tellers 41 = .ok (.iconst 1, 1) := dk_4 (dk_at dksX4_tellers_1 17 rfl rfl)
theorem dX4_tellers_42 : decode cX4_tellers 42 = .ok (.goto 4, 3) := dk_167 0 4 (dk_at dksX4_tellers_1 18 rfl rfl)
theorem dX4_tellers_45 : decode cX4_tellers 45 = .ok (.iconst 0, 1) := dk_3 (dk_at dksX4_tellers_1 21 rfl rfl)
theorem dX4_tellers_46 : decode cX4_tellers 46 = .ok (.invokestatic 99, 3) := dk_184 0 99 (dk_at dksX4_tellers_2 0 rfl rfl)
theorem dX4_tellers_49 : decode cX4_tellers 49 = .ok (.iadd, 1) := dk_96 (dk_at dksX4_tellers_2 3 rfl rfl)
theorem dX4_tellers_50 : decode cX4_tellers 50 = .ok (.istore 4, 2) := dk_54 4 (dk_at dksX4_tellers_2 4 rfl rfl)
theorem dX4_tellers_52 : decode cX4_tellers 52 = .ok (.iinc 5 1, 3) := dk_132 5 1 (dk_at dksX4_tellers_2 6 rfl rfl)
theorem dX4_tellers_55 : decode cX4_tellers 55 = .ok (.goto (-49), 3) := dk_167 255 207 (dk_at dksX4_tellers_2 9 rfl rfl)
theorem dX4_tellers_58 : decode cX4_tellers 58 = .ok (.iload 4, 2) := dk_21 4 (dk_at dksX4_tellers_2 12 rfl rfl)
theorem dX4_tellers_60 : decode cX4_tellers 60 = .ok (.ireturn, 1) := dk_172 (dk_at dksX4_tellers_2 14 rfl rfl)
abbrev cX4_clash : ByteArray := prog_20_method_92_code
def yX4_clash : MethodName := ⟨RX4, "clash", "(II)Z"⟩
def dkwX4_clash_1 : List UInt8 := [182, 1, 56, 153, 0, 7, 4, 167, 0, 4, 3, 172]
abbrev dktX4_clash_1 : List UInt8 := dkwX4_clash_1 ++ []
def dkwX4_clash_0 : List UInt8 := [42, 3, 181, 0, 60, 42, 27, 182, 1, 81, 154, 0, 24, 42, 28, 182, 1, 81, 154, 0, 16, 42, 27, 28]
abbrev dktX4_clash_0 : List UInt8 := dkwX4_clash_0 ++ dktX4_clash_1
theorem dksX4_clash_0 : cX4_clash.data.toList.drop 0 = dktX4_clash_0 := by decide +kernel
theorem dksX4_clash_1 : cX4_clash.data.toList.drop 24 = dktX4_clash_1 := dk_seg dksX4_clash_0 24 rfl rfl
theorem dX4_clash_0 : decode cX4_clash 0 = .ok (.aload_n 0, 1) := dk_42 (dk_at dksX4_clash_0 0 rfl rfl)
theorem dX4_clash_1 : decode cX4_clash 1 = .ok (.iconst 0, 1) := dk_3 (dk_at dksX4_clash_0 1 rfl rfl)
theorem dX4_clash_2 : decode cX4_clash 2 = .ok (.putfield 60, 3) := dk_181 0 60 (dk_at dksX4_clash_0 2 rfl rfl)
theorem dX4_clash_5 : decode cX4_clash 5 = .ok (.aload_n 0, 1) := dk_42 (dk_at dksX4_clash_0 5 rfl rfl)
theorem dX4_clash_6 : decode cX4_clash 6 = .ok (.iload_n 1, 1) := dk_27 (dk_at dksX4_clash_0 6 rfl rfl)
theorem dX4_clash_7 : decode cX4_clash 7 = .ok (.invokevirtual 337, 3) := dk_182 1 81 (dk_at dksX4_clash_0 7 rfl rfl)
theorem dX4_clash_10 : decode cX4_clash 10 = .ok (.ifCond .ne 24, 3) := dk_154 0 24 (dk_at dksX4_clash_0 10 rfl rfl)
theorem dX4_clash_13 : decode cX4_clash 13 = .ok (.aload_n 0, 1) := dk_42 (dk_at dksX4_clash_0 13 rfl rfl)
theorem dX4_clash_14 : decode cX4_clash 14 = .ok (.iload_n 2, 1) := dk_28 (dk_at dksX4_clash_0 14 rfl rfl)
theorem dX4_clash_15 : decode cX4_clash 15 = .ok (.invokevirtual 337, 3) := dk_182 1 81 (dk_at dksX4_clash_0 15 rfl rfl)
theorem dX4_clash_18 : decode cX4_clash 18 = .ok (.ifCond .ne 16, 3) := dk_154 0 16 (dk_at dksX4_clash_0 18 rfl rfl)
theorem dX4_clash_21 : decode cX4_clash 21 = .ok (.aload_n 0, 1) := dk_42 (dk_at dksX4_clash_0 21 rfl rfl)
theorem dX4_clash_22 : decode cX4_clash 22 = .ok (.iload_n 1, 1) := dk_27 (dk_at dksX4_clash_0 22 rfl rfl)
theorem dX4_clash_23 : decode cX4_clash 23 = .ok (.iload_n 2, 1) := dk_28 (dk_at dksX4_clash_0 23 rfl rfl)
theorem dX4_clash_24 : decode cX4_clash 24 = .ok (.invokevirtual 312, 3) := dk_182 1 56 (dk_at dksX4_clash_1 0 rfl rfl)
theorem dX4_clash_27 : decode cX4_clash 27 = .ok (.ifCond .eq 7, 3) := dk_153 0 7 (dk_at dksX4_clash_1 3 rfl rfl)
theorem dX4_clash_30 : decode cX4_clash 30 = .ok (.iconst 1, 1) := dk_4 (dk_at dksX4_clash_1 6 rfl rfl)
theorem dX4_clash_31 : decode cX4_clash 31 = .ok (.goto 4, 3) := dk_167 0 4 (dk_at dksX4_clash_1 7 rfl rfl)
theorem dX4_clash_34 : decode cX4_clash 34 = .ok (.iconst 0, 1) := dk_3 (dk_at dksX4_clash_1 10 rfl rfl)
theorem dX4_clash_35 : decode cX4_clash 35 = .ok (.ireturn, 1) := dk_172 (dk_at dksX4_clash_1 11 rfl rfl)
abbrev cX4_met : ByteArray := prog_20_method_95_code
def yX4_met : MethodName := ⟨RX4, "met", "(II)I"⟩
def dkwX4_met_1 : List UInt8 := [167, 0, 9, 42, 27, 28, 182, 1, 100, 172]
abbrev dktX4_met_1 : List UInt8 := dkwX4_met_1 ++ []
def dkwX4_met_0 : List UInt8 := [42, 3, 181, 0, 60, 42, 27, 182, 1, 81, 154, 0, 11, 42, 28, 182, 1, 81, 153, 0, 7, 3]
abbrev dktX4_met_0 : List UInt8 := dkwX4_met_0 ++ dktX4_met_1
theorem dksX4_met_0 : cX4_met.data.toList.drop 0 = dktX4_met_0 := by decide +kernel
theorem dksX4_met_1 : cX4_met.data.toList.drop 22 = dktX4_met_1 := dk_seg dksX4_met_0 22 rfl rfl
theorem dX4_met_0 : decode cX4_met 0 = .ok (.aload_n 0, 1) := dk_42 (dk_at dksX4_met_0 0 rfl rfl)
theorem dX4_met_1 : decode cX4_met 1 = .ok (.iconst 0, 1) := dk_3 (dk_at dksX4_met_0 1 rfl rfl)
theorem dX4_met_2 : decode cX4_met 2 = .ok (.putfield 60, 3) := dk_181 0 60 (dk_at dksX4_met_0 2 rfl rfl)
theorem dX4_met_5 : decode cX4_met 5 = .ok (.aload_n 0, 1) := dk_42 (dk_at dksX4_met_0 5 rfl rfl)
theorem dX4_met_6 : decode cX4_met 6 = .ok (.iload_n 1, 1) := dk_27 (dk_at dksX4_met_0 6 rfl rfl)
theorem dX4_met_7 : decode cX4_met 7 = .ok (.invokevirtual 337, 3) := dk_182 1 81 (dk_at dksX4_met_0 7 rfl rfl)
theorem dX4_met_10 : decode cX4_met 10 = .ok (.ifCond .ne 11, 3) := dk_154 0 11 (dk_at dksX4_met_0 10 rfl rfl)
theorem dX4_met_13 : decode cX4_met 13 = .ok (.aload_n 0, 1) := dk_42 (dk_at dksX4_met_0 13 rfl rfl)
theorem dX4_met_14 : decode cX4_met 14 = .ok (.iload_n 2, 1) := dk_28 (dk_at dksX4_met_0 14 rfl rfl)
theorem dX4_met_15 : decode cX4_met 15 = .ok (.invokevirtual 337, 3) := dk_182 1 81 (dk_at dksX4_met_0 15 rfl rfl)
theorem dX4_met_18 : decode cX4_met 18 = .ok (.ifCond .eq 7, 3) := dk_153 0 7 (dk_at dksX4_met_0 18 rfl rfl)
theorem dX4_met_21 : decode cX4_met 21 = .ok (.iconst 0, 1) := dk_3 (dk_at dksX4_met_0 21 rfl rfl)
theorem dX4_met_22 : decode cX4_met 22 = .ok (.goto 9, 3) := dk_167 0 9 (dk_at dksX4_met_1 0 rfl rfl)
theorem dX4_met_25 : decode cX4_met 25 = .ok (.aload_n 0, 1) := dk_42 (dk_at dksX4_met_1 3 rfl rfl)
theorem dX4_met_26 : decode cX4_met 26 = .ok (.iload_n 1, 1) := dk_27 (dk_at dksX4_met_1 4 rfl rfl)
theorem dX4_met_27 : decode cX4_met 27 = .ok (.iload_n 2, 1) := dk_28 (dk_at dksX4_met_1 5 rfl rfl)
theorem dX4_met_28 : decode cX4_met 28 = .ok (.invokevirtual 356, 3) := dk_182 1 100 (dk_at dksX4_met_1 6 rfl rfl)
theorem dX4_met_31 : decode cX4_met 31 = .ok (.ireturn, 1) := dk_172 (dk_at dksX4_met_1 9 rfl rfl)
abbrev cX4_metOf : ByteArray := prog_20_method_93_code
def yX4_metOf : MethodName := ⟨RX4, "metOf", "(II)I"⟩
def dkwX4_metOf_0 : List UInt8 := [42, 180, 0, 7, 17, 1, 9, 16, 24, 27, 104, 96, 28, 96, 46, 172]
abbrev dktX4_metOf_0 : List UInt8 := dkwX4_metOf_0 ++ []
theorem dksX4_metOf_0 : cX4_metOf.data.toList.drop 0 = dktX4_metOf_0 := by decide +kernel
theorem dX4_metOf_0 : decode cX4_metOf 0 = .ok (.aload_n 0, 1) := dk_42 (dk_at dksX4_metOf_0 0 rfl rfl)
theorem dX4_metOf_1 : decode cX4_metOf 1 = .ok (.getfield 7, 3) := dk_180 0 7 (dk_at dksX4_metOf_0 1 rfl rfl)
theorem dX4_metOf_4 : decode cX4_metOf 4 = .ok (.sipush 265, 3) := dk_17 1 9 (dk_at dksX4_metOf_0 4 rfl rfl)
theorem dX4_metOf_7 : decode cX4_metOf 7 = .ok (.bipush 24, 2) := dk_16 24 (dk_at dksX4_metOf_0 7 rfl rfl)
theorem dX4_metOf_9 : decode cX4_metOf 9 = .ok (.iload_n 1, 1) := dk_27 (dk_at dksX4_metOf_0 9 rfl rfl)
theorem dX4_metOf_10 : decode cX4_metOf 10 = .ok (.imul, 1) := dk_104 (dk_at dksX4_metOf_0 10 rfl rfl)
theorem dX4_metOf_11 : decode cX4_metOf 11 = .ok (.iadd, 1) := dk_96 (dk_at dksX4_metOf_0 11 rfl rfl)
theorem dX4_metOf_12 : decode cX4_metOf 12 = .ok (.iload_n 2, 1) := dk_28 (dk_at dksX4_metOf_0 12 rfl rfl)
theorem dX4_metOf_13 : decode cX4_metOf 13 = .ok (.iadd, 1) := dk_96 (dk_at dksX4_metOf_0 13 rfl rfl)
theorem dX4_metOf_14 : decode cX4_metOf 14 = .ok (.iaload, 1) := dk_46 (dk_at dksX4_metOf_0 14 rfl rfl)
theorem dX4_metOf_15 : decode cX4_metOf 15 = .ok (.ireturn, 1) := dk_172 (dk_at dksX4_metOf_0 15 rfl rfl)
abbrev cX4_beat : ByteArray := prog_20_method_96_code
def yX4_beat : MethodName := ⟨RX4, "beat", "(II)I"⟩
def dkwX4_beat_1 : List UInt8 := [167, 0, 9, 42, 27, 28, 182, 1, 103, 172]
abbrev dktX4_beat_1 : List UInt8 := dkwX4_beat_1 ++ []
def dkwX4_beat_0 : List UInt8 := [42, 3, 181, 0, 60, 42, 27, 182, 1, 81, 154, 0, 11, 42, 28, 182, 1, 81, 153, 0, 7, 3]
abbrev dktX4_beat_0 : List UInt8 := dkwX4_beat_0 ++ dktX4_beat_1
theorem dksX4_beat_0 : cX4_beat.data.toList.drop 0 = dktX4_beat_0 := by decide +kernel
theorem dksX4_beat_1 : cX4_beat.data.toList.drop 22 = dktX4_beat_1 := dk_seg dksX4_beat_0 22 rfl rfl
theorem dX4_beat_0 : decode cX4_beat 0 = .ok (.aload_n 0, 1) := dk_42 (dk_at dksX4_beat_0 0 rfl rfl)
theorem dX4_beat_1 : decode cX4_beat 1 = .ok (.iconst 0, 1) := dk_3 (dk_at dksX4_beat_0 1 rfl rfl)
theorem dX4_beat_2 : decode cX4_beat 2 = .ok (.putfield 60, 3) := dk_181 0 60 (dk_at dksX4_beat_0 2 rfl rfl)
theorem dX4_beat_5 : decode cX4_beat 5 = .ok (.aload_n 0, 1) := dk_42 (dk_at dksX4_beat_0 5 rfl rfl)
theorem dX4_beat_6 : decode cX4_beat 6 = .ok (.iload_n 1, 1) := dk_27 (dk_at dksX4_beat_0 6 rfl rfl)
theorem dX4_beat_7 : decode cX4_beat 7 = .ok (.invokevirtual 337, 3) := dk_182 1 81 (dk_at dksX4_beat_0 7 rfl rfl)
theorem dX4_beat_10 : decode cX4_beat 10 = .ok (.ifCond .ne 11, 3) := dk_154 0 11 (dk_at dksX4_beat_0 10 rfl rfl)
theorem dX4_beat_13 : decode cX4_beat 13 = .ok (.aload_n 0, 1) := dk_42 (dk_at dksX4_beat_0 13 rfl rfl)
theorem dX4_beat_14 : decode cX4_beat 14 = .ok (.iload_n 2, 1) := dk_28 (dk_at dksX4_beat_0 14 rfl rfl)
theorem dX4_beat_15 : decode cX4_beat 15 = .ok (.invokevirtual 337, 3) := dk_182 1 81 (dk_at dksX4_beat_0 15 rfl rfl)
theorem dX4_beat_18 : decode cX4_beat 18 = .ok (.ifCond .eq 7, 3) := dk_153 0 7 (dk_at dksX4_beat_0 18 rfl rfl)
theorem dX4_beat_21 : decode cX4_beat 21 = .ok (.iconst 0, 1) := dk_3 (dk_at dksX4_beat_0 21 rfl rfl)
theorem dX4_beat_22 : decode cX4_beat 22 = .ok (.goto 9, 3) := dk_167 0 9 (dk_at dksX4_beat_1 0 rfl rfl)
theorem dX4_beat_25 : decode cX4_beat 25 = .ok (.aload_n 0, 1) := dk_42 (dk_at dksX4_beat_1 3 rfl rfl)
theorem dX4_beat_26 : decode cX4_beat 26 = .ok (.iload_n 1, 1) := dk_27 (dk_at dksX4_beat_1 4 rfl rfl)
theorem dX4_beat_27 : decode cX4_beat 27 = .ok (.iload_n 2, 1) := dk_28 (dk_at dksX4_beat_1 5 rfl rfl)
theorem dX4_beat_28 : decode cX4_beat 28 = .ok (.invokevirtual 359, 3) := dk_182 1 103 (dk_at dksX4_beat_1 6 rfl rfl)
theorem dX4_beat_31 : decode cX4_beat 31 = .ok (.ireturn, 1) := dk_172 (dk_at dksX4_beat_1 9 rfl rfl)
abbrev cX4_beatOf : ByteArray := prog_20_method_94_code
def yX4_beatOf : MethodName := ⟨RX4, "beatOf", "(II)I"⟩
def dkwX4_beatOf_0 : List UInt8 := [42, 180, 0, 7, 17, 3, 73, 16, 24, 27, 104, 96, 28, 96, 46, 172]
abbrev dktX4_beatOf_0 : List UInt8 := dkwX4_beatOf_0 ++ []
theorem dksX4_beatOf_0 : cX4_beatOf.data.toList.drop 0 = dktX4_beatOf_0 := by decide +kernel
theorem dX4_beatOf_0 : decode cX4_beatOf 0 = .ok (.aload_n 0, 1) := dk_42 (dk_at dksX4_beatOf_0 0 rfl rfl)
theorem dX4_beatOf_1 : decode cX4_beatOf 1 = .ok (.getfield 7, 3) := dk_180 0 7 (dk_at dksX4_beatOf_0 1 rfl rfl)
theorem dX4_beatOf_4 : decode cX4_beatOf 4 = .ok (.sipush 841, 3) := dk_17 3 73 (dk_at dksX4_beatOf_0 4 rfl rfl)
theorem dX4_beatOf_7 : decode cX4_beatOf 7 = .ok (.bipush 24, 2) := dk_16 24 (dk_at dksX4_beatOf_0 7 rfl rfl)
theorem dX4_beatOf_9 : decode cX4_beatOf 9 = .ok (.iload_n 1, 1) := dk_27 (dk_at dksX4_beatOf_0 9 rfl rfl)
theorem dX4_beatOf_10 : decode cX4_beatOf 10 = .ok (.imul, 1) := dk_104 (dk_at dksX4_beatOf_0 10 rfl rfl)
theorem dX4_beatOf_11 : decode cX4_beatOf 11 = .ok (.iadd, 1) := dk_96 (dk_at dksX4_beatOf_0 11 rfl rfl)
theorem dX4_beatOf_12 : decode cX4_beatOf 12 = .ok (.iload_n 2, 1) := dk_28 (dk_at dksX4_beatOf_0 12 rfl rfl)
theorem dX4_beatOf_13 : decode cX4_beatOf 13 = .ok (.iadd, 1) := dk_96 (dk_at dksX4_beatOf_0 13 rfl rfl)
theorem dX4_beatOf_14 : decode cX4_beatOf 14 = .ok (.iaload, 1) := dk_46 (dk_at dksX4_beatOf_0 14 rfl rfl)
theorem dX4_beatOf_15 : decode cX4_beatOf 15 = .ok (.ireturn, 1) := dk_172 (dk_at dksX4_beatOf_0 15 rfl rfl)
abbrev cX4_rival : ByteArray := prog_20_method_97_code
def yX4_rival : MethodName := ⟨RX4, "rival", "(I)I"⟩
def dkwX4_rival_2 : List UInt8 := [42, 21, 4, 27, 182, 1, 103, 184, 0, 103, 62, 132, 4, 1, 167, 255, 216, 28, 172]
abbrev dktX4_rival_2 : List UInt8 := dkwX4_rival_2 ++ []
def dkwX4_rival_1 : List UInt8 := [42, 180, 0, 7, 3, 46, 162, 0, 35, 42, 21, 4, 27, 182, 1, 103, 29, 164, 0, 6, 21, 4, 61, 29]
abbrev dktX4_rival_1 : List UInt8 := dkwX4_rival_1 ++ dktX4_rival_2
def dkwX4_rival_0 : List UInt8 := [42, 3, 181, 0, 60, 42, 27, 182, 1, 81, 153, 0, 5, 3, 172, 2, 61, 3, 62, 3, 54, 4, 21, 4]
abbrev dktX4_rival_0 : List UInt8 := dkwX4_rival_0 ++ dktX4_rival_1
theorem dksX4_rival_0 : cX4_rival.data.toList.drop 0 = dktX4_rival_0 := by decide +kernel
theorem dksX4_rival_1 : cX4_rival.data.toList.drop 24 = dktX4_rival_1 := dk_seg dksX4_rival_0 24 rfl rfl
theorem dksX4_rival_2 : cX4_rival.data.toList.drop 48 = dktX4_rival_2 := dk_seg dksX4_rival_1 24 rfl rfl
theorem dX4_rival_0 : decode cX4_rival 0 = .ok (.aload_n 0, 1) := dk_42 (dk_at dksX4_rival_0 0 rfl rfl)
theorem dX4_rival_1 : decode cX4_rival 1 = .ok (.iconst 0, 1) := dk_3 (dk_at dksX4_rival_0 1 rfl rfl)
theorem dX4_rival_2 : decode cX4_rival 2 = .ok (.putfield 60, 3) := dk_181 0 60 (dk_at dksX4_rival_0 2 rfl rfl)
theorem dX4_rival_5 : decode cX4_rival 5 = .ok (.aload_n 0, 1) := dk_42 (dk_at dksX4_rival_0 5 rfl rfl)
theorem dX4_rival_6 : decode cX4_rival 6 = .ok (.iload_n 1, 1) := dk_27 (dk_at dksX4_rival_0 6 rfl rfl)
theorem dX4_rival_7 : decode cX4_rival 7 = .ok (.invokevirtual 337, 3) := dk_182 1 81 (dk_at dksX4_rival_0 7 rfl rfl)
theorem dX4_rival_10 : decode cX4_rival 10 = .ok (.ifCond .eq 5, 3) := dk_153 0 5 (dk_at dksX4_rival_0 10 rfl rfl)
theorem dX4_rival_13 : decode cX4_rival 13 = .ok (.iconst 0, 1) := dk_3 (dk_at dksX4_rival_0 13 rfl rfl)
theorem dX4_rival_14 : decode cX4_rival 14 = .ok (.ireturn, 1) := dk_172 (dk_at dksX4_rival_0 14 rfl rfl)
theorem dX4_rival_15 : decode cX4_rival 15 = .ok (.iconst (-1), 1) := dk_2 (dk_at dksX4_rival_0 15 rfl rfl)
theorem dX4_rival_16 : decode cX4_rival 16 = .ok (.istore_n 2, 1) := dk_61 (dk_at dksX4_rival_0 16 rfl rfl)
theorem dX4_rival_17 : decode cX4_rival 17 = .ok (.iconst 0, 1) := dk_3 (dk_at dksX4_rival_0 17 rfl rfl)
theorem dX4_rival_18 : decode cX4_rival 18 = .ok (.istore_n 3, 1) := dk_62 (dk_at dksX4_rival_0 18 rfl rfl)
theorem dX4_rival_19 : decode cX4_rival 19 = .ok (.iconst 0, 1) := dk_3 (dk_at dksX4_rival_0 19 rfl rfl)
theorem dX4_rival_20 : decode cX4_rival 20 = .ok (.istore 4, 2) := dk_54 4 (dk_at dksX4_rival_0 20 rfl rfl)
theorem dX4_rival_22 : decode cX4_rival 22 = .ok (.iload 4, 2) := dk_21 4 (dk_at dksX4_rival_0 22 rfl rfl)
theorem dX4_rival_24 : decode cX4_rival 24 = .ok (.aload_n 0, 1) := dk_42 (dk_at dksX4_rival_1 0 rfl rfl)
theorem dX4_rival_25 : decode cX4_rival 25 = .ok (.getfield 7, 3) := dk_180 0 7 (dk_at dksX4_rival_1 1 rfl rfl)
theorem dX4_rival_28 : decode cX4_rival 28 = .ok (.iconst 0, 1) := dk_3 (dk_at dksX4_rival_1 4 rfl rfl)
theorem dX4_rival_29 : decode cX4_rival 29 = .ok (.iaload, 1) := dk_46 (dk_at dksX4_rival_1 5 rfl rfl)
theorem dX4_rival_30 : decode cX4_rival 30 = .ok (.if_icmp .ge 35, 3) := dk_162 0 35 (dk_at dksX4_rival_1 6 rfl rfl)
theorem dX4_rival_33 : decode cX4_rival 33 = .ok (.aload_n 0, 1) := dk_42 (dk_at dksX4_rival_1 9 rfl rfl)
theorem dX4_rival_34 : decode cX4_rival 34 = .ok (.iload 4, 2) := dk_21 4 (dk_at dksX4_rival_1 10 rfl rfl)
theorem dX4_rival_36 : decode cX4_rival 36 = .ok (.iload_n 1, 1) := dk_27 (dk_at dksX4_rival_1 12 rfl rfl)
theorem dX4_rival_37 : decode cX4_rival 37 = .ok (.invokevirtual 359, 3) := dk_182 1 103 (dk_at dksX4_rival_1 13 rfl rfl)
theorem dX4_rival_40 : decode cX4_rival 40 = .ok (.iload_n 3, 1) := dk_29 (dk_at dksX4_rival_1 16 rfl rfl)
theorem dX4_rival_41 : decode cX4_rival 41 = .ok (.if_icmp .le 6, 3) := dk_164 0 6 (dk_at dksX4_rival_1 17 rfl rfl)
theorem dX4_rival_44 : decode cX4_rival 44 = .ok (.iload 4, 2) := dk_21 4 (dk_at dksX4_rival_1 20 rfl rfl)
theorem dX4_rival_46 : decode cX4_rival 46 = .ok (.istore_n 2, 1) := dk_61 (dk_at dksX4_rival_1 22 rfl rfl)
theorem dX4_rival_47 : decode cX4_rival 47 = .ok (.iload_n 3, 1) := dk_29 (dk_at dksX4_rival_1 23 rfl rfl)
theorem dX4_rival_48 : decode cX4_rival 48 = .ok (.aload_n 0, 1) := dk_42 (dk_at dksX4_rival_2 0 rfl rfl)
theorem dX4_rival_49 : decode cX4_rival 49 = .ok (.iload 4, 2) := dk_21 4 (dk_at dksX4_rival_2 1 rfl rfl)
theorem dX4_rival_51 : decode cX4_rival 51 = .ok (.iload_n 1, 1) := dk_27 (dk_at dksX4_rival_2 3 rfl rfl)
theorem dX4_rival_52 : decode cX4_rival 52 = .ok (.invokevirtual 359, 3) := dk_182 1 103 (dk_at dksX4_rival_2 4 rfl rfl)
theorem dX4_rival_55 : decode cX4_rival 55 = .ok (.invokestatic 103, 3) := dk_184 0 103 (dk_at dksX4_rival_2 7 rfl rfl)
theorem dX4_rival_58 : decode cX4_rival 58 = .ok (.istore_n 3, 1) := dk_62 (dk_at dksX4_rival_2 10 rfl rfl)
theorem dX4_rival_59 : decode cX4_rival 59 = .ok (.iinc 4 1, 3) := dk_132 4 1 (dk_at dksX4_rival_2 11 rfl rfl)
theorem dX4_rival_62 : decode cX4_rival 62 = .ok (.goto (-40), 3) := dk_167 255 216 (dk_at dksX4_rival_2 14 rfl rfl)
theorem dX4_rival_65 : decode cX4_rival 65 = .ok (.iload_n 2, 1) := dk_28 (dk_at dksX4_rival_2 17 rfl rfl)
theorem dX4_rival_66 : decode cX4_rival 66 = .ok (.ireturn, 1) := dk_172 (dk_at dksX4_rival_2 18 rfl rfl)
abbrev cX4_byWeight : ByteArray := prog_20_method_99_code
def yX4_byWeight : MethodName := ⟨RX4, "byWeight", "(I)I"⟩
def dkwX4_byWeight_1 : List UInt8 := [153, 0, 14, 42, 28, 182, 1, 106, 27, 160, 0, 5, 28, 172, 132, 2, 1, 167, 255, 224, 2, 172]
abbrev dktX4_byWeight_1 : List UInt8 := dkwX4_byWeight_1 ++ []
def dkwX4_byWeight_0 : List UInt8 := [42, 3, 181, 0, 60, 3, 61, 28, 42, 180, 0, 7, 3, 46, 162, 0, 28, 42, 28, 182, 0, 84]
abbrev dktX4_byWeight_0 : List UInt8 := dkwX4_byWeight_0 ++ dktX4_byWeight_1
theorem dksX4_byWeight_0 : cX4_byWeight.data.toList.drop 0 = dktX4_byWeight_0 := by decide +kernel
theorem dksX4_byWeight_1 : cX4_byWeight.data.toList.drop 22 = dktX4_byWeight_1 := dk_seg dksX4_byWeight_0 22 rfl rfl
theorem dX4_byWeight_0 : decode cX4_byWeight 0 = .ok (.aload_n 0, 1) := dk_42 (dk_at dksX4_byWeight_0 0 rfl rfl)
theorem dX4_byWeight_1 : decode cX4_byWeight 1 = .ok (.iconst 0, 1) := dk_3 (dk_at dksX4_byWeight_0 1 rfl rfl)
theorem dX4_byWeight_2 : decode cX4_byWeight 2 = .ok (.putfield 60, 3) := dk_181 0 60 (dk_at dksX4_byWeight_0 2 rfl rfl)
theorem dX4_byWeight_5 : decode cX4_byWeight 5 = .ok (.iconst 0, 1) := dk_3 (dk_at dksX4_byWeight_0 5 rfl rfl)
theorem dX4_byWeight_6 : decode cX4_byWeight 6 = .ok (.istore_n 2, 1) := dk_61 (dk_at dksX4_byWeight_0 6 rfl rfl)
theorem dX4_byWeight_7 : decode cX4_byWeight 7 = .ok (.iload_n 2, 1) := dk_28 (dk_at dksX4_byWeight_0 7 rfl rfl)
theorem dX4_byWeight_8 : decode cX4_byWeight 8 = .ok (.aload_n 0, 1) := dk_42 (dk_at dksX4_byWeight_0 8 rfl rfl)
theorem dX4_byWeight_9 : decode cX4_byWeight 9 = .ok (.getfield 7, 3) := dk_180 0 7 (dk_at dksX4_byWeight_0 9 rfl rfl)
theorem dX4_byWeight_12 : decode cX4_byWeight 12 = .ok (.iconst 0, 1) := dk_3 (dk_at dksX4_byWeight_0 12 rfl rfl)
theorem dX4_byWeight_13 : decode cX4_byWeight 13 = .ok (.iaload, 1) := dk_46 (dk_at dksX4_byWeight_0 13 rfl rfl)
theorem dX4_byWeight_14 : decode cX4_byWeight 14 = .ok (.if_icmp .ge 28, 3) := dk_162 0 28 (dk_at dksX4_byWeight_0 14 rfl rfl)
theorem dX4_byWeight_17 : decode cX4_byWeight 17 = .ok (.aload_n 0, 1) := dk_42 (dk_at dksX4_byWeight_0 17 rfl rfl)
theorem dX4_byWeight_18 : decode cX4_byWeight 18 = .ok (.iload_n 2, 1) := dk_28 (dk_at dksX4_byWeight_0 18 rfl rfl)
theorem dX4_byWeight_19 : decode cX4_byWeight 19 = .ok (.invokevirtual 84, 3) := dk_182 0 84 (dk_at dksX4_byWeight_0 19 rfl rfl)
theorem dX4_byWeight_22 : decode cX4_byWeight 22 = .ok (.ifCond .eq 14, 3) := dk_153 0 14 (dk_at dksX4_byWeight_1 0 rfl rfl)
theorem dX4_byWeight_25 : decode cX4_byWeight 25 = .ok (.aload_n 0, 1) := dk_42 (dk_at dksX4_byWeight_1 3 rfl rfl)
theorem dX4_byWeight_26 : decode cX4_byWeight 26 = .ok (.iload_n 2, 1) := dk_28 (dk_at dksX4_byWeight_1 4 rfl rfl)
theorem dX4_byWeight_27 : decode cX4_byWeight 27 = .ok (.invokevirtual 362, 3) := dk_182 1 106 (dk_at dksX4_byWeight_1 5 rfl rfl)
theorem dX4_byWeight_30 : decode cX4_byWeight 30 = .ok (.iload_n 1, 1) := dk_27 (dk_at dksX4_byWeight_1 8 rfl rfl)
theorem dX4_byWeight_31 : decode cX4_byWeight 31 = .ok (.if_icmp .ne 5, 3) := dk_160 0 5 (dk_at dksX4_byWeight_1 9 rfl rfl)
theorem dX4_byWeight_34 : decode cX4_byWeight 34 = .ok (.iload_n 2, 1) := dk_28 (dk_at dksX4_byWeight_1 12 rfl rfl)
theorem dX4_byWeight_35 : decode cX4_byWeight 35 = .ok (.ireturn, 1) := dk_172 (dk_at dksX4_byWeight_1 13 rfl rfl)
theorem dX4_byWeight_36 : decode cX4_byWeight 36 = .ok (.iinc 2 1, 3) := dk_132 2 1 (dk_at dksX4_byWeight_1 14 rfl rfl)
theorem dX4_byWeight_39 : decode cX4_byWeight 39 = .ok (.goto (-32), 3) := dk_167 255 224 (dk_at dksX4_byWeight_1 17 rfl rfl)
theorem dX4_byWeight_42 : decode cX4_byWeight 42 = .ok (.iconst (-1), 1) := dk_2 (dk_at dksX4_byWeight_1 20 rfl rfl)
theorem dX4_byWeight_43 : decode cX4_byWeight 43 = .ok (.ireturn, 1) := dk_172 (dk_at dksX4_byWeight_1 21 rfl rfl)
abbrev cX4_heavier : ByteArray := prog_20_method_98_code
def yX4_heavier : MethodName := ⟨RX4, "heavier", "(I)I"⟩
def dkwX4_heavier_3 : List UInt8 := [132, 3, 1, 167, 255, 185, 28, 172]
abbrev dktX4_heavier_3 : List UInt8 := dkwX4_heavier_3 ++ []
def dkwX4_heavier_2 : List UInt8 := [27, 16, 6, 182, 0, 67, 160, 0, 12, 29, 27, 162, 0, 7, 4, 167, 0, 4, 3, 184, 0, 99, 96, 61]
abbrev dktX4_heavier_2 : List UInt8 := dkwX4_heavier_2 ++ dktX4_heavier_3
def dkwX4_heavier_1 : List UInt8 := [29, 16, 6, 182, 0, 67, 42, 27, 16, 6, 182, 0, 67, 163, 0, 25, 42, 29, 16, 6, 182, 0, 67, 42]
abbrev dktX4_heavier_1 : List UInt8 := dkwX4_heavier_1 ++ dktX4_heavier_2
def dkwX4_heavier_0 : List UInt8 := [3, 61, 3, 62, 29, 42, 180, 0, 7, 3, 46, 162, 0, 67, 28, 42, 29, 182, 0, 84, 153, 0, 46, 42]
abbrev dktX4_heavier_0 : List UInt8 := dkwX4_heavier_0 ++ dktX4_heavier_1
theorem dksX4_heavier_0 : cX4_heavier.data.toList.drop 0 = dktX4_heavier_0 := by decide +kernel
theorem dksX4_heavier_1 : cX4_heavier.data.toList.drop 24 = dktX4_heavier_1 := dk_seg dksX4_heavier_0 24 rfl rfl
theorem dksX4_heavier_2 : cX4_heavier.data.toList.drop 48 = dktX4_heavier_2 := dk_seg dksX4_heavier_1 24 rfl rfl
theorem dksX4_heavier_3 : cX4_heavier.data.toList.drop 72 = dktX4_heavier_3 := dk_seg dksX4_heavier_2 24 rfl rfl
theorem dX4_heavier_0 : decode cX4_heavier 0 = .ok (.iconst 0, 1) := dk_3 (dk_at dksX4_heavier_0 0 rfl rfl)
theorem dX4_heavier_1 : decode cX4_heavier 1 = .ok (.istore_n 2, 1) := dk_61 (dk_at dksX4_heavier_0 1 rfl rfl)
theorem dX4_heavier_2 : decode cX4_heavier 2 = .ok (.iconst 0, 1) := dk_3 (dk_at dksX4_heavier_0 2 rfl rfl)
theorem dX4_heavier_3 : decode cX4_heavier 3 = .ok (.istore_n 3, 1) := dk_62 (dk_at dksX4_heavier_0 3 rfl rfl)
theorem dX4_heavier_4 : decode cX4_heavier 4 = .ok (.iload_n 3, 1) := dk_29 (dk_at dksX4_heavier_0 4 rfl rfl)
theorem dX4_heavier_5 : decode cX4_heavier 5 = .ok (.aload_n 0, 1) := dk_42 (dk_at dksX4_heavier_0 5 rfl rfl)
theorem dX4_heavier_6 : decode cX4_heavier 6 = .ok (.getfield 7, 3) := dk_180 0 7 (dk_at dksX4_heavier_0 6 rfl rfl)
theorem dX4_heavier_9 : decode cX4_heavier 9 = .ok (.iconst 0, 1) := dk_3 (dk_at dksX4_heavier_0 9 rfl rfl)
theorem dX4_heavier_10 : decode cX4_heavier 10 = .ok (.iaload, 1) := dk_46 (dk_at dksX4_heavier_0 10 rfl rfl)
theorem dX4_heavier_11 : decode cX4_heavier 11 = .ok (.if_icmp .ge 67, 3) := dk_162 0 67 (dk_at dksX4_heavier_0 11 rfl rfl)
theorem dX4_heavier_14 : decode cX4_heavier 14 = .ok (.iload_n 2, 1) := dk_28 (dk_at dksX4_heavier_0 14 rfl rfl)
theorem dX4_heavier_15 : decode cX4_heavier 15 = .ok (.aload_n 0, 1) := dk_42 (dk_at dksX4_heavier_0 15 rfl rfl)
theorem dX4_heavier_16 : decode cX4_heavier 16 = .ok (.iload_n 3, 1) := dk_29 (dk_at dksX4_heavier_0 16 rfl rfl)
theorem dX4_heavier_17 : decode cX4_heavier 17 = .ok (.invokevirtual 84, 3) := dk_182 0 84 (dk_at dksX4_heavier_0 17 rfl rfl)
theorem dX4_heavier_20 : decode cX4_heavier 20 = .ok (.ifCond .eq 46, 3) := dk_153 0 46 (dk_at dksX4_heavier_0 20 rfl rfl)
theorem dX4_heavier_23 : decode cX4_heavier 23 = .ok (.aload_n 0, 1) := dk_42 (dk_at dksX4_heavier_0 23 rfl rfl)
theorem dX4_heavier_24 : decode cX4_heavier 24 = .ok (.iload_n 3, 1) := dk_29 (dk_at dksX4_heavier_1 0 rfl rfl)
theorem dX4_heavier_25 : decode cX4_heavier 25 = .ok (.bipush 6, 2) := dk_16 6 (dk_at dksX4_heavier_1 1 rfl rfl)
theorem dX4_heavier_27 : decode cX4_heavier 27 = .ok (.invokevirtual 67, 3) := dk_182 0 67 (dk_at dksX4_heavier_1 3 rfl rfl)
theorem dX4_heavier_30 : decode cX4_heavier 30 = .ok (.aload_n 0, 1) := dk_42 (dk_at dksX4_heavier_1 6 rfl rfl)
theorem dX4_heavier_31 : decode cX4_heavier 31 = .ok (.iload_n 1, 1) := dk_27 (dk_at dksX4_heavier_1 7 rfl rfl)
theorem dX4_heavier_32 : decode cX4_heavier 32 = .ok (.bipush 6, 2) := dk_16 6 (dk_at dksX4_heavier_1 8 rfl rfl)
theorem dX4_heavier_34 : decode cX4_heavier 34 = .ok (.invokevirtual 67, 3) := dk_182 0 67 (dk_at dksX4_heavier_1 10 rfl rfl)
theorem dX4_heavier_37 : decode cX4_heavier 37 = .ok (.if_icmp .gt 25, 3) := dk_163 0 25 (dk_at dksX4_heavier_1 13 rfl rfl)
theorem dX4_heavier_40 : decode cX4_heavier 40 = .ok (.aload_n 0, 1) := dk_42 (dk_at dksX4_heavier_1 16 rfl rfl)
theorem dX4_heavier_41 : decode cX4_heavier 41 = .ok (.iload_n 3, 1) := dk_29 (dk_at dksX4_heavier_1 17 rfl rfl)
theorem dX4_heavier_42 : decode cX4_heavier 42 = .ok (.bipush 6, 2) := dk_16 6 (dk_at dksX4_heavier_1 18 rfl rfl)
theorem dX4_heavier_44 : decode cX4_heavier 44 = .ok (.invokevirtual 67, 3) := dk_182 0 67 (dk_at dksX4_heavier_1 20 rfl rfl)
theorem dX4_heavier_47 : decode cX4_heavier 47 = .ok (.aload_n 0, 1) := dk_42 (dk_at dksX4_heavier_1 23 rfl rfl)
theorem dX4_heavier_48 : decode cX4_heavier 48 = .ok (.iload_n 1, 1) := dk_27 (dk_at dksX4_heavier_2 0 rfl rfl)
theorem dX4_heavier_49 : decode cX4_heavier 49 = .ok (.bipush 6, 2) := dk_16 6 (dk_at dksX4_heavier_2 1 rfl rfl)
theorem dX4_heavier_51 : decode cX4_heavier 51 = .ok (.invokevirtual 67, 3) := dk_182 0 67 (dk_at dksX4_heavier_2 3 rfl rfl)
theorem dX4_heavier_54 : decode cX4_heavier 54 = .ok (.if_icmp .ne 12, 3) := dk_160 0 12 (dk_at dksX4_heavier_2 6 rfl rfl)
theorem dX4_heavier_57 : decode cX4_heavier 57 = .ok (.iload_n 3, 1) := dk_29 (dk_at dksX4_heavier_2 9 rfl rfl)
theorem dX4_heavier_58 : decode cX4_heavier 58 = .ok (.iload_n 1, 1) := dk_27 (dk_at dksX4_heavier_2 10 rfl rfl)
theorem dX4_heavier_59 : decode cX4_heavier 59 = .ok (.if_icmp .ge 7, 3) := dk_162 0 7 (dk_at dksX4_heavier_2 11 rfl rfl)
theorem dX4_heavier_62 : decode cX4_heavier 62 = .ok (.iconst 1, 1) := dk_4 (dk_at dksX4_heavier_2 14 rfl rfl)
theorem dX4_heavier_63 : decode cX4_heavier 63 = .ok (.goto 4, 3) := dk_167 0 4 (dk_at dksX4_heavier_2 15 rfl rfl)
theorem dX4_heavier_66 : decode cX4_heavier 66 = .ok (.iconst 0, 1) := dk_3 (dk_at dksX4_heavier_2 18 rfl rfl)
theorem dX4_heavier_67 : decode cX4_heavier 67 = .ok (.invokestatic 99, 3) := dk_184 0 99 (dk_at dksX4_heavier_2 19 rfl rfl)
theorem dX4_heavier_70 : decode cX4_heavier 70 = .ok (.iadd, 1) := dk_96 (dk_at dksX4_heavier_2 22 rfl rfl)
theorem dX4_heavier_71 : decode cX4_heavier 71 = .ok (.istore_n 2, 1) := dk_61 (dk_at dksX4_heavier_2 23 rfl rfl)
theorem dX4_heavier_72 : decode cX4_heavier 72 = .ok (.iinc 3 1, 3) := dk_132 3 1 (dk_at dksX4_heavier_3 0 rfl rfl)
theorem dX4_heavier_75 : decode cX4_heavier 75 = .ok (.goto (-71), 3) := dk_167 255 185 (dk_at dksX4_heavier_3 3 rfl rfl)
theorem dX4_heavier_78 : decode cX4_heavier 78 = .ok (.iload_n 2, 1) := dk_28 (dk_at dksX4_heavier_3 6 rfl rfl)
theorem dX4_heavier_79 : decode cX4_heavier 79 = .ok (.ireturn, 1) := dk_172 (dk_at dksX4_heavier_3 7 rfl rfl)
abbrev cX4_year : ByteArray := prog_20_method_100_code
def yX4_year : MethodName := ⟨RX4, "year", "(II)I"⟩
def dkwX4_year_2 : List UInt8 := [104, 96, 28, 96, 46, 172]
abbrev dktX4_year_2 : List UInt8 := dkwX4_year_2 ++ []
def dkwX4_year_1 : List UInt8 := [4, 167, 0, 4, 3, 4, 182, 1, 65, 153, 0, 7, 3, 167, 0, 16, 42, 180, 0, 7, 16, 17, 7, 27]
abbrev dktX4_year_1 : List UInt8 := dkwX4_year_1 ++ dktX4_year_2
def dkwX4_year_0 : List UInt8 := [42, 3, 181, 0, 60, 42, 27, 3, 4, 184, 0, 159, 153, 0, 12, 28, 3, 6, 184, 0, 159, 154, 0, 7]
abbrev dktX4_year_0 : List UInt8 := dkwX4_year_0 ++ dktX4_year_1
theorem dksX4_year_0 : cX4_year.data.toList.drop 0 = dktX4_year_0 := by decide +kernel
theorem dksX4_year_1 : cX4_year.data.toList.drop 24 = dktX4_year_1 := dk_seg dksX4_year_0 24 rfl rfl
theorem dksX4_year_2 : cX4_year.data.toList.drop 48 = dktX4_year_2 := dk_seg dksX4_year_1 24 rfl rfl
theorem dX4_year_0 : decode cX4_year 0 = .ok (.aload_n 0, 1) := dk_42 (dk_at dksX4_year_0 0 rfl rfl)
theorem dX4_year_1 : decode cX4_year 1 = .ok (.iconst 0, 1) := dk_3 (dk_at dksX4_year_0 1 rfl rfl)
theorem dX4_year_2 : decode cX4_year 2 = .ok (.putfield 60, 3) := dk_181 0 60 (dk_at dksX4_year_0 2 rfl rfl)
theorem dX4_year_5 : decode cX4_year 5 = .ok (.aload_n 0, 1) := dk_42 (dk_at dksX4_year_0 5 rfl rfl)
theorem dX4_year_6 : decode cX4_year 6 = .ok (.iload_n 1, 1) := dk_27 (dk_at dksX4_year_0 6 rfl rfl)
theorem dX4_year_7 : decode cX4_year 7 = .ok (.iconst 0, 1) := dk_3 (dk_at dksX4_year_0 7 rfl rfl)
theorem dX4_year_8 : decode cX4_year 8 = .ok (.iconst 1, 1) := dk_4 (dk_at dksX4_year_0 8 rfl rfl)
theorem dX4_year_9 : decode cX4_year 9 = .ok (.invokestatic 159, 3) := dk_184 0 159 (dk_at dksX4_year_0 9 rfl rfl)
theorem dX4_year_12 : decode cX4_year 12 = .ok (.ifCond .eq 12, 3) := dk_153 0 12 (dk_at dksX4_year_0 12 rfl rfl)
theorem dX4_year_15 : decode cX4_year 15 = .ok (.iload_n 2, 1) := dk_28 (dk_at dksX4_year_0 15 rfl rfl)
theorem dX4_year_16 : decode cX4_year 16 = .ok (.iconst 0, 1) := dk_3 (dk_at dksX4_year_0 16 rfl rfl)
theorem dX4_year_17 : decode cX4_year 17 = .ok (.iconst 3, 1) := dk_6 (dk_at dksX4_year_0 17 rfl rfl)
theorem dX4_year_18 : decode cX4_year 18 = .ok (.invokestatic 159, 3) := dk_184 0 159 (dk_at dksX4_year_0 18 rfl rfl)
theorem dX4_year_21 : decode cX4_year 21 = .ok (.ifCond .ne 7, 3) := dk_154 0 7 (dk_at dksX4_year_0 21 rfl rfl)
theorem dX4_year_24 : decode cX4_year 24 = .ok (.iconst 1, 1) := dk_4 (dk_at dksX4_year_1 0 rfl rfl)
theorem dX4_year_25 : decode cX4_year 25 = .ok (.goto 4, 3) := dk_167 0 4 (dk_at dksX4_year_1 1 rfl rfl)
theorem dX4_year_28 : decode cX4_year 28 = .ok (.iconst 0, 1) := dk_3 (dk_at dksX4_year_1 4 rfl rfl)
theorem dX4_year_29 : decode cX4_year 29 = .ok (.iconst 1, 1) := dk_4 (dk_at dksX4_year_1 5 rfl rfl)
theorem dX4_year_30 : decode cX4_year 30 = .ok (.invokevirtual 321, 3) := dk_182 1 65 (dk_at dksX4_year_1 6 rfl rfl)
theorem dX4_year_33 : decode cX4_year 33 = .ok (.ifCond .eq 7, 3) := dk_153 0 7 (dk_at dksX4_year_1 9 rfl rfl)
theorem dX4_year_36 : decode cX4_year 36 = .ok (.iconst 0, 1) := dk_3 (dk_at dksX4_year_1 12 rfl rfl)
theorem dX4_year_37 : decode cX4_year 37 = .ok (.goto 16, 3) := dk_167 0 16 (dk_at dksX4_year_1 13 rfl rfl)
theorem dX4_year_40 : decode cX4_year 40 = .ok (.aload_n 0, 1) := dk_42 (dk_at dksX4_year_1 16 rfl rfl)
theorem dX4_year_41 : decode cX4_year 41 = .ok (.getfield 7, 3) := dk_180 0 7 (dk_at dksX4_year_1 17 rfl rfl)
theorem dX4_year_44 : decode cX4_year 44 = .ok (.bipush 17, 2) := dk_16 17 (dk_at dksX4_year_1 20 rfl rfl)
theorem dX4_year_46 : decode cX4_year 46 = .ok (.iconst 4, 1) := dk_7 (dk_at dksX4_year_1 22 rfl rfl)
theorem dX4_year_47 : decode cX4_year 47 = .ok (.iload_n 1, 1) := dk_27 (dk_at dksX4_year_1 23 rfl rfl)
theorem dX4_year_48 : decode cX4_year 48 = .ok (.imul, 1) := dk_104 (dk_at dksX4_year_2 0 rfl rfl)
theorem dX4_year_49 : decode cX4_year 49 = .ok (.iadd, 1) := dk_96 (dk_at dksX4_year_2 1 rfl rfl)
theorem dX4_year_50 : decode cX4_year 50 = .ok (.iload_n 2, 1) := dk_28 (dk_at dksX4_year_2 2 rfl rfl)
theorem dX4_year_51 : decode cX4_year 51 = .ok (.iadd, 1) := dk_96 (dk_at dksX4_year_2 3 rfl rfl)
theorem dX4_year_52 : decode cX4_year 52 = .ok (.iaload, 1) := dk_46 (dk_at dksX4_year_2 4 rfl rfl)
theorem dX4_year_53 : decode cX4_year 53 = .ok (.ireturn, 1) := dk_172 (dk_at dksX4_year_2 5 rfl rfl)
abbrev cX4_dayOf : ByteArray := prog_20_method_101_code
def yX4_dayOf : MethodName := ⟨RX4, "dayOf", "(II)I"⟩
def dkwX4_dayOf_2 : List UInt8 := [180, 0, 25, 6, 27, 104, 28, 96, 46, 167, 0, 4, 2, 172]
abbrev dktX4_dayOf_2 : List UInt8 := dkwX4_dayOf_2 ++ []
def dkwX4_dayOf_1 : List UInt8 := [153, 0, 5, 3, 172, 27, 3, 42, 180, 0, 7, 5, 46, 4, 100, 184, 0, 159, 153, 0, 16, 42]
abbrev dktX4_dayOf_1 : List UInt8 := dkwX4_dayOf_1 ++ dktX4_dayOf_2
def dkwX4_dayOf_0 : List UInt8 := [42, 3, 181, 0, 60, 42, 28, 3, 5, 184, 0, 159, 154, 0, 7, 4, 167, 0, 4, 3, 4, 182, 1, 65]
abbrev dktX4_dayOf_0 : List UInt8 := dkwX4_dayOf_0 ++ dktX4_dayOf_1
theorem dksX4_dayOf_0 : cX4_dayOf.data.toList.drop 0 = dktX4_dayOf_0 := by decide +kernel
theorem dksX4_dayOf_1 : cX4_dayOf.data.toList.drop 24 = dktX4_dayOf_1 := dk_seg dksX4_dayOf_0 24 rfl rfl
theorem dksX4_dayOf_2 : cX4_dayOf.data.toList.drop 46 = dktX4_dayOf_2 := dk_seg dksX4_dayOf_1 22 rfl rfl
theorem dX4_dayOf_0 : decode cX4_dayOf 0 = .ok (.aload_n 0, 1) := dk_42 (dk_at dksX4_dayOf_0 0 rfl rfl)
theorem dX4_dayOf_1 : decode cX4_dayOf 1 = .ok (.iconst 0, 1) := dk_3 (dk_at dksX4_dayOf_0 1 rfl rfl)
theorem dX4_dayOf_2 : decode cX4_dayOf 2 = .ok (.putfield 60, 3) := dk_181 0 60 (dk_at dksX4_dayOf_0 2 rfl rfl)
theorem dX4_dayOf_5 : decode cX4_dayOf 5 = .ok (.aload_n 0, 1) := dk_42 (dk_at dksX4_dayOf_0 5 rfl rfl)
theorem dX4_dayOf_6 : decode cX4_dayOf 6 = .ok (.iload_n 2, 1) := dk_28 (dk_at dksX4_dayOf_0 6 rfl rfl)
theorem dX4_dayOf_7 : decode cX4_dayOf 7 = .ok (.iconst 0, 1) := dk_3 (dk_at dksX4_dayOf_0 7 rfl rfl)
theorem dX4_dayOf_8 : decode cX4_dayOf 8 = .ok (.iconst 2, 1) := dk_5 (dk_at dksX4_dayOf_0 8 rfl rfl)
theorem dX4_dayOf_9 : decode cX4_dayOf 9 = .ok (.invokestatic 159, 3) := dk_184 0 159 (dk_at dksX4_dayOf_0 9 rfl rfl)
theorem dX4_dayOf_12 : decode cX4_dayOf 12 = .ok (.ifCond .ne 7, 3) := dk_154 0 7 (dk_at dksX4_dayOf_0 12 rfl rfl)
theorem dX4_dayOf_15 : decode cX4_dayOf 15 = .ok (.iconst 1, 1) := dk_4 (dk_at dksX4_dayOf_0 15 rfl rfl)
theorem dX4_dayOf_16 : decode cX4_dayOf 16 = .ok (.goto 4, 3) := dk_167 0 4 (dk_at dksX4_dayOf_0 16 rfl rfl)
theorem dX4_dayOf_19 : decode cX4_dayOf 19 = .ok (.iconst 0, 1) := dk_3 (dk_at dksX4_dayOf_0 19 rfl rfl)
theorem dX4_dayOf_20 : decode cX4_dayOf 20 = .ok (.iconst 1, 1) := dk_4 (dk_at dksX4_dayOf_0 20 rfl rfl)
theorem dX4_dayOf_21 : decode cX4_dayOf 21 = .ok (.invokevirtual 321, 3) := dk_182 1 65 (dk_at dksX4_dayOf_0 21 rfl rfl)
theorem dX4_dayOf_24 : decode cX4_dayOf 24 = .ok (.ifCond .eq 5, 3) := dk_153 0 5 (dk_at dksX4_dayOf_1 0 rfl rfl)
theorem dX4_dayOf_27 : decode cX4_dayOf 27 = .ok (.iconst 0, 1) := dk_3 (dk_at dksX4_dayOf_1 3 rfl rfl)
theorem dX4_dayOf_28 : decode cX4_dayOf 28 = .ok (.ireturn, 1) := dk_172 (dk_at dksX4_dayOf_1 4 rfl rfl)
theorem dX4_dayOf_29 : decode cX4_dayOf 29 = .ok (.iload_n 1, 1) := dk_27 (dk_at dksX4_dayOf_1 5 rfl rfl)
theorem dX4_dayOf_30 : decode cX4_dayOf 30 = .ok (.iconst 0, 1) := dk_3 (dk_at dksX4_dayOf_1 6 rfl rfl)
theorem dX4_dayOf_31 : decode cX4_dayOf 31 = .ok (.aload_n 0, 1) := dk_42 (dk_at dksX4_dayOf_1 7 rfl rfl)
theorem dX4_dayOf_32 : decode cX4_dayOf 32 = .ok (.getfield 7, 3) := dk_180 0 7 (dk_at dksX4_dayOf_1 8 rfl rfl)
theorem dX4_dayOf_35 : decode cX4_dayOf 35 = .ok (.iconst 2, 1) := dk_5 (dk_at dksX4_dayOf_1 11 rfl rfl)
theorem dX4_dayOf_36 : decode cX4_dayOf 36 = .ok (.iaload, 1) := dk_46 (dk_at dksX4_dayOf_1 12 rfl rfl)
theorem dX4_dayOf_37 : decode cX4_dayOf 37 = .ok (.iconst 1, 1) := dk_4 (dk_at dksX4_dayOf_1 13 rfl rfl)
theorem dX4_dayOf_38 : decode cX4_dayOf 38 = .ok (.isub, 1) := dk_100 (dk_at dksX4_dayOf_1 14 rfl rfl)
theorem dX4_dayOf_39 : decode cX4_dayOf 39 = .ok (.invokestatic 159, 3) := dk_184 0 159 (dk_at dksX4_dayOf_1 15 rfl rfl)
theorem dX4_dayOf_42 : decode cX4_dayOf 42 = .ok (.ifCond .eq 16, 3) := dk_153 0 16 (dk_at dksX4_dayOf_1 18 rfl rfl)
theorem dX4_dayOf_45 : decode cX4_dayOf 45 = .ok (.aload_n 0, 1) := dk_42 (dk_at dksX4_dayOf_1 21 rfl rfl)
theorem dX4_dayOf_46 : decode cX4_dayOf 46 = .ok (.getfield 25, 3) := dk_180 0 25 (dk_at dksX4_dayOf_2 0 rfl rfl)
theorem dX4_dayOf_49 : decode cX4_dayOf 49 = .ok (.iconst 3, 1) := dk_6 (dk_at dksX4_dayOf_2 3 rfl rfl)
theorem dX4_dayOf_50 : decode cX4_dayOf 50 = .ok (.iload_n 1, 1) := dk_27 (dk_at dksX4_dayOf_2 4 rfl rfl)
theorem dX4_dayOf_51 : decode cX4_dayOf 51 = .ok (.imul, 1) := dk_104 (dk_at dksX4_dayOf_2 5 rfl rfl)
theorem dX4_dayOf_52 : decode cX4_dayOf 52 = .ok (.iload_n 2, 1) := dk_28 (dk_at dksX4_dayOf_2 6 rfl rfl)
theorem dX4_dayOf_53 : decode cX4_dayOf 53 = .ok (.iadd, 1) := dk_96 (dk_at dksX4_dayOf_2 7 rfl rfl)
theorem dX4_dayOf_54 : decode cX4_dayOf 54 = .ok (.iaload, 1) := dk_46 (dk_at dksX4_dayOf_2 8 rfl rfl)
theorem dX4_dayOf_55 : decode cX4_dayOf 55 = .ok (.goto 4, 3) := dk_167 0 4 (dk_at dksX4_dayOf_2 9 rfl rfl)
theorem dX4_dayOf_58 : decode cX4_dayOf 58 = .ok (.iconst (-1), 1) := dk_2 (dk_at dksX4_dayOf_2 12 rfl rfl)
theorem dX4_dayOf_59 : decode cX4_dayOf 59 = .ok (.ireturn, 1) := dk_172 (dk_at dksX4_dayOf_2 13 rfl rfl)
abbrev cX4_turnsIn : ByteArray := prog_20_method_102_code
def yX4_turnsIn : MethodName := ⟨RX4, "turnsIn", "(II)I"⟩
def dkwX4_turnsIn_4 : List UInt8 := [182, 1, 112, 172]
abbrev dktX4_turnsIn_4 : List UInt8 := dkwX4_turnsIn_4 ++ []
def dkwX4_turnsIn_3 : List UInt8 := [42, 42, 180, 0, 7, 5, 46, 182, 0, 132, 182, 0, 116, 28, 160, 0, 7, 29, 167, 0, 4, 2]
abbrev dktX4_turnsIn_3 : List UInt8 := dkwX4_turnsIn_3 ++ dktX4_turnsIn_4
def dkwX4_turnsIn_2 : List UInt8 := [182, 0, 116, 28, 159, 0, 17, 42, 27, 28, 182, 0, 139, 54, 4, 132, 3, 1, 167, 255, 220, 42, 42, 27]
abbrev dktX4_turnsIn_2 : List UInt8 := dkwX4_turnsIn_2 ++ dktX4_turnsIn_3
def dkwX4_turnsIn_1 : List UInt8 := [182, 1, 109, 3, 62, 29, 16, 99, 162, 0, 36, 42, 27, 42, 42, 180, 0, 7, 5, 46, 182, 0, 132]
abbrev dktX4_turnsIn_1 : List UInt8 := dkwX4_turnsIn_1 ++ dktX4_turnsIn_2
def dkwX4_turnsIn_0 : List UInt8 := [42, 3, 181, 0, 60, 42, 27, 182, 1, 78, 154, 0, 11, 42, 28, 182, 1, 87, 153, 0, 5, 3, 172, 42]
abbrev dktX4_turnsIn_0 : List UInt8 := dkwX4_turnsIn_0 ++ dktX4_turnsIn_1
theorem dksX4_turnsIn_0 : cX4_turnsIn.data.toList.drop 0 = dktX4_turnsIn_0 := by decide +kernel
theorem dksX4_turnsIn_1 : cX4_turnsIn.data.toList.drop 24 = dktX4_turnsIn_1 := dk_seg dksX4_turnsIn_0 24 rfl rfl
theorem dksX4_turnsIn_2 : cX4_turnsIn.data.toList.drop 47 = dktX4_turnsIn_2 := dk_seg dksX4_turnsIn_1 23 rfl rfl
theorem dksX4_turnsIn_3 : cX4_turnsIn.data.toList.drop 71 = dktX4_turnsIn_3 := dk_seg dksX4_turnsIn_2 24 rfl rfl
theorem dksX4_turnsIn_4 : cX4_turnsIn.data.toList.drop 93 = dktX4_turnsIn_4 := dk_seg dksX4_turnsIn_3 22 rfl rfl
theorem dX4_turnsIn_0 : decode cX4_turnsIn 0 = .ok (.aload_n 0, 1) := dk_42 (dk_at dksX4_turnsIn_0 0 rfl rfl)
theorem dX4_turnsIn_1 : decode cX4_turnsIn 1 = .ok (.iconst 0, 1) := dk_3 (dk_at dksX4_turnsIn_0 1 rfl rfl)
theorem dX4_turnsIn_2 : decode cX4_turnsIn 2 = .ok (.putfield 60, 3) := dk_181 0 60 (dk_at dksX4_turnsIn_0 2 rfl rfl)
theorem dX4_turnsIn_5 : decode cX4_turnsIn 5 = .ok (.aload_n 0, 1) := dk_42 (dk_at dksX4_turnsIn_0 5 rfl rfl)
theorem dX4_turnsIn_6 : decode cX4_turnsIn 6 = .ok (.iload_n 1, 1) := dk_27 (dk_at dksX4_turnsIn_0 6 rfl rfl)
theorem dX4_turnsIn_7 : decode cX4_turnsIn 7 = .ok (.invokevirtual 334, 3) := dk_182 1 78 (dk_at dksX4_turnsIn_0 7 rfl rfl)
theorem dX4_turnsIn_10 : decode cX4_turnsIn 10 = .ok (.ifCond .ne 11, 3) := dk_154 0 11 (dk_at dksX4_turnsIn_0 10 rfl rfl)
theorem dX4_turnsIn_13 : decode cX4_turnsIn 13 = .ok (.aload_n 0, 1) := dk_42 (dk_at dksX4_turnsIn_0 13 rfl rfl)
theorem dX4_turnsIn_14 : decode cX4_turnsIn 14 = .ok (.iload_n 2, 1) := dk_28 (dk_at dksX4_turnsIn_0 14 rfl rfl)
theorem dX4_turnsIn_15 : decode cX4_turnsIn 15 = .ok (.invokevirtual 343, 3) := dk_182 1 87 (dk_at dksX4_turnsIn_0 15 rfl rfl)
theorem dX4_turnsIn_18 : decode cX4_turnsIn 18 = .ok (.ifCond .eq 5, 3) := dk_153 0 5 (dk_at dksX4_turnsIn_0 18 rfl rfl)
theorem dX4_turnsIn_21 : decode cX4_turnsIn 21 = .ok (.iconst 0, 1) := dk_3 (dk_at dksX4_turnsIn_0 21 rfl rfl)
theorem dX4_turnsIn_22 : decode cX4_turnsIn 22 = .ok (.ireturn, 1) := dk_172 (dk_at dksX4_turnsIn_0 22 rfl rfl)
theorem dX4_turnsIn_23 : decode cX4_turnsIn 23 = .ok (.aload_n 0, 1) := dk_42 (dk_at dksX4_turnsIn_0 23 rfl rfl)
theorem dX4_turnsIn_24 : decode cX4_turnsIn 24 = .ok (.invokevirtual 365, 3) := dk_182 1 109 (dk_at dksX4_turnsIn_1 0 rfl rfl)
theorem dX4_turnsIn_27 : decode cX4_turnsIn 27 = .ok (.iconst 0, 1) := dk_3 (dk_at dksX4_turnsIn_1 3 rfl rfl)
theorem dX4_turnsIn_28 : decode cX4_turnsIn 28 = .ok (.istore_n 3, 1) := dk_62 (dk_at dksX4_turnsIn_1 4 rfl rfl)
theorem dX4_turnsIn_29 : decode cX4_turnsIn 29 = .ok (.iload_n 3, 1) := dk_29 (dk_at dksX4_turnsIn_1 5 rfl rfl)
theorem dX4_turnsIn_30 : decode cX4_turnsIn 30 = .ok (.bipush 99, 2) := dk_16 99 (dk_at dksX4_turnsIn_1 6 rfl rfl)
theorem dX4_turnsIn_32 : decode cX4_turnsIn 32 = .ok (.if_icmp .ge 36, 3) := dk_162 0 36 (dk_at dksX4_turnsIn_1 8 rfl rfl)
theorem dX4_turnsIn_35 : decode cX4_turnsIn 35 = .ok (.aload_n 0, 1) := dk_42 (dk_at dksX4_turnsIn_1 11 rfl rfl)
theorem dX4_turnsIn_36 : decode cX4_turnsIn 36 = .ok (.iload_n 1, 1) := dk_27 (dk_at dksX4_turnsIn_1 12 rfl rfl)
theorem dX4_turnsIn_37 : decode cX4_turnsIn 37 = .ok (.aload_n 0, 1) := dk_42 (dk_at dksX4_turnsIn_1 13 rfl rfl)
theorem dX4_turnsIn_38 : decode cX4_turnsIn 38 = .ok (.aload_n 0, 1) := dk_42 (dk_at dksX4_turnsIn_1 14 rfl rfl)
theorem dX4_turnsIn_39 : decode cX4_turnsIn 39 = .ok (.getfield 7, 3) := dk_180 0 7 (dk_at dksX4_turnsIn_1 15 rfl rfl)
theorem dX4_turnsIn_42 : decode cX4_turnsIn 42 = .ok (.iconst 2, 1) := dk_5 (dk_at dksX4_turnsIn_1 18 rfl rfl)
theorem dX4_turnsIn_43 : decode cX4_turnsIn 43 = .ok (.iaload, 1) := dk_46 (dk_at dksX4_turnsIn_1 19 rfl rfl)
theorem dX4_turnsIn_44 : decode cX4_turnsIn 44 = .ok (.invokevirtual 132, 3) := dk_182 0 132 (dk_at dksX4_turnsIn_1 20 rfl rfl)
theorem dX4_turnsIn_47 : decode cX4_turnsIn 47 = .ok (.invokevirtual 116, 3) := dk_182 0 116 (dk_at dksX4_turnsIn_2 0 rfl rfl)
theorem dX4_turnsIn_50 : decode cX4_turnsIn 50 = .ok (.iload_n 2, 1) := dk_28 (dk_at dksX4_turnsIn_2 3 rfl rfl)
theorem dX4_turnsIn_51 : decode cX4_turnsIn 51 = .ok (.if_icmp .eq 17, 3) := dk_159 0 17 (dk_at dksX4_turnsIn_2 4 rfl rfl)
theorem dX4_turnsIn_54 : decode cX4_turnsIn 54 = .ok (.aload_n 0, 1) := dk_42 (dk_at dksX4_turnsIn_2 7 rfl rfl)
theorem dX4_turnsIn_55 : decode cX4_turnsIn 55 = .ok (.iload_n 1, 1) := dk_27 (dk_at dksX4_turnsIn_2 8 rfl rfl)
theorem dX4_turnsIn_56 : decode cX4_turnsIn 56 = .ok (.iload_n 2, 1) := dk_28 (dk_at dksX4_turnsIn_2 9 rfl rfl)
theorem dX4_turnsIn_57 : decode cX4_turnsIn 57 = .ok (.invokevirtual 139, 3) := dk_182 0 139 (dk_at dksX4_turnsIn_2 10 rfl rfl)
theorem dX4_turnsIn_60 : decode cX4_turnsIn 60 = .ok (.istore 4, 2) := dk_54 4 (dk_at dksX4_turnsIn_2 13 rfl rfl)
theorem dX4_turnsIn_62 : decode cX4_turnsIn 62 = .ok (.iinc 3 1, 3) := dk_132 3 1 (dk_at dksX4_turnsIn_2 15 rfl rfl)
theorem dX4_turnsIn_65 : decode cX4_turnsIn 65 = .ok (.goto (-36), 3) := dk_167 255 220 (dk_at dksX4_turnsIn_2 18 rfl rfl)
theorem dX4_turnsIn_68 : decode cX4_turnsIn 68 = .ok (.aload_n 0, 1) := dk_42 (dk_at dksX4_turnsIn_2 21 rfl rfl)
theorem dX4_turnsIn_69 : decode cX4_turnsIn 69 = .ok (.aload_n 0, 1) := dk_42 (dk_at dksX4_turnsIn_2 22 rfl rfl)
theorem dX4_turnsIn_70 : decode cX4_turnsIn 70 = .ok (.iload_n 1, 1) := dk_27 (dk_at dksX4_turnsIn_2 23 rfl rfl)
theorem dX4_turnsIn_71 : decode cX4_turnsIn 71 = .ok (.aload_n 0, 1) := dk_42 (dk_at dksX4_turnsIn_3 0 rfl rfl)
theorem dX4_turnsIn_72 : decode cX4_turnsIn 72 = .ok (.aload_n 0, 1) := dk_42 (dk_at dksX4_turnsIn_3 1 rfl rfl)
theorem dX4_turnsIn_73 : decode cX4_turnsIn 73 = .ok (.getfield 7, 3) := dk_180 0 7 (dk_at dksX4_turnsIn_3 2 rfl rfl)
theorem dX4_turnsIn_76 : decode cX4_turnsIn 76 = .ok (.iconst 2, 1) := dk_5 (dk_at dksX4_turnsIn_3 5 rfl rfl)
theorem dX4_turnsIn_77 : decode cX4_turnsIn 77 = .ok (.iaload, 1) := dk_46 (dk_at dksX4_turnsIn_3 6 rfl rfl)
theorem dX4_turnsIn_78 : decode cX4_turnsIn 78 = .ok (.invokevirtual 132, 3) := dk_182 0 132 (dk_at dksX4_turnsIn_3 7 rfl rfl)
theorem dX4_turnsIn_81 : decode cX4_turnsIn 81 = .ok (.invokevirtual 116, 3) := dk_182 0 116 (dk_at dksX4_turnsIn_3 10 rfl rfl)
theorem dX4_turnsIn_84 : decode cX4_turnsIn 84 = .ok (.iload_n 2, 1) := dk_28 (dk_at dksX4_turnsIn_3 13 rfl rfl)
theorem dX4_turnsIn_85 : decode cX4_turnsIn 85 = .ok (.if_icmp .ne 7, 3) := dk_160 0 7 (dk_at dksX4_turnsIn_3 14 rfl rfl)
theorem dX4_turnsIn_88 : decode cX4_turnsIn 88 = .ok (.iload_n 3, 1) := dk_29 (dk_at dksX4_turnsIn_3 17 rfl rfl)
theorem dX4_turnsIn_89 : decode cX4_turnsIn 89 = .ok (.goto 4, 3) := dk_167 0 4 (dk_at dksX4_turnsIn_3 18 rfl rfl)
theorem dX4_turnsIn_92 : decode cX4_turnsIn 92 = .ok (.iconst (-1), 1) := dk_2 (dk_at dksX4_turnsIn_3 21 rfl rfl)
theorem dX4_turnsIn_93 : decode cX4_turnsIn 93 = .ok (.invokevirtual 368, 3) := dk_182 1 112 (dk_at dksX4_turnsIn_4 0 rfl rfl)
theorem dX4_turnsIn_96 : decode cX4_turnsIn 96 = .ok (.ireturn, 1) := dk_172 (dk_at dksX4_turnsIn_4 3 rfl rfl)
abbrev cX4_goesAside : ByteArray := prog_20_method_37_code
def yX4_goesAside : MethodName := ⟨RX4, "goesAside", "()V"⟩
def dkwX4_goesAside_0 : List UInt8 := [42, 180, 0, 7, 3, 42, 180, 0, 16, 3, 184, 0, 149, 177]
abbrev dktX4_goesAside_0 : List UInt8 := dkwX4_goesAside_0 ++ []
theorem dksX4_goesAside_0 : cX4_goesAside.data.toList.drop 0 = dktX4_goesAside_0 := by decide +kernel
theorem dX4_goesAside_0 : decode cX4_goesAside 0 = .ok (.aload_n 0, 1) := dk_42 (dk_at dksX4_goesAside_0 0 rfl rfl)
theorem dX4_goesAside_1 : decode cX4_goesAside 1 = .ok (.getfield 7, 3) := dk_180 0 7 (dk_at dksX4_goesAside_0 1 rfl rfl)
theorem dX4_goesAside_4 : decode cX4_goesAside 4 = .ok (.iconst 0, 1) := dk_3 (dk_at dksX4_goesAside_0 4 rfl rfl)
theorem dX4_goesAside_5 : decode cX4_goesAside 5 = .ok (.aload_n 0, 1) := dk_42 (dk_at dksX4_goesAside_0 5 rfl rfl)
theorem dX4_goesAside_6 : decode cX4_goesAside 6 = .ok (.getfield 16, 3) := dk_180 0 16 (dk_at dksX4_goesAside_0 6 rfl rfl)
theorem dX4_goesAside_9 : decode cX4_goesAside 9 = .ok (.iconst 0, 1) := dk_3 (dk_at dksX4_goesAside_0 9 rfl rfl)
theorem dX4_goesAside_10 : decode cX4_goesAside 10 = .ok (.invokestatic 149, 3) := dk_184 0 149 (dk_at dksX4_goesAside_0 10 rfl rfl)
theorem dX4_goesAside_13 : decode cX4_goesAside 13 = .ok (.return_, 1) := dk_177 (dk_at dksX4_goesAside_0 13 rfl rfl)
abbrev cX4_goesBack : ByteArray := prog_20_method_38_code
def yX4_goesBack : MethodName := ⟨RX4, "goesBack", "(I)I"⟩
def dkwX4_goesBack_0 : List UInt8 := [42, 180, 0, 16, 3, 42, 180, 0, 7, 3, 184, 0, 149, 27, 172]
abbrev dktX4_goesBack_0 : List UInt8 := dkwX4_goesBack_0 ++ []
theorem dksX4_goesBack_0 : cX4_goesBack.data.toList.drop 0 = dktX4_goesBack_0 := by decide +kernel
theorem dX4_goesBack_0 : decode cX4_goesBack 0 = .ok (.aload_n 0, 1) := dk_42 (dk_at dksX4_goesBack_0 0 rfl rfl)
theorem dX4_goesBack_1 : decode cX4_goesBack 1 = .ok (.getfield 16, 3) := dk_180 0 16 (dk_at dksX4_goesBack_0 1 rfl rfl)
theorem dX4_goesBack_4 : decode cX4_goesBack 4 = .ok (.iconst 0, 1) := dk_3 (dk_at dksX4_goesBack_0 4 rfl rfl)
theorem dX4_goesBack_5 : decode cX4_goesBack 5 = .ok (.aload_n 0, 1) := dk_42 (dk_at dksX4_goesBack_0 5 rfl rfl)
theorem dX4_goesBack_6 : decode cX4_goesBack 6 = .ok (.getfield 7, 3) := dk_180 0 7 (dk_at dksX4_goesBack_0 6 rfl rfl)
theorem dX4_goesBack_9 : decode cX4_goesBack 9 = .ok (.iconst 0, 1) := dk_3 (dk_at dksX4_goesBack_0 9 rfl rfl)
theorem dX4_goesBack_10 : decode cX4_goesBack 10 = .ok (.invokestatic 149, 3) := dk_184 0 149 (dk_at dksX4_goesBack_0 10 rfl rfl)
theorem dX4_goesBack_13 : decode cX4_goesBack 13 = .ok (.iload_n 1, 1) := dk_27 (dk_at dksX4_goesBack_0 13 rfl rfl)
theorem dX4_goesBack_14 : decode cX4_goesBack 14 = .ok (.ireturn, 1) := dk_172 (dk_at dksX4_goesBack_0 14 rfl rfl)
abbrev cX4_weightIn : ByteArray := prog_20_method_103_code
def yX4_weightIn : MethodName := ⟨RX4, "weightIn", "(IIII)I"⟩
def dkwX4_weightIn_3 : List UInt8 := [29, 182, 0, 139, 54, 6, 132, 5, 1, 167, 255, 238, 42, 42, 27, 16, 6, 182, 0, 67, 182, 1, 112, 172]
abbrev dktX4_weightIn_3 : List UInt8 := dkwX4_weightIn_3 ++ []
def dkwX4_weightIn_2 : List UInt8 := [182, 1, 65, 153, 0, 5, 3, 172, 42, 182, 1, 109, 3, 54, 5, 21, 5, 21, 4, 162, 0, 17, 42, 28]
abbrev dktX4_weightIn_2 : List UInt8 := dkwX4_weightIn_2 ++ dktX4_weightIn_3
def dkwX4_weightIn_1 : List UInt8 := [182, 1, 87, 154, 0, 27, 42, 21, 4, 3, 16, 99, 184, 0, 159, 154, 0, 7, 4, 167, 0, 4, 3, 5]
abbrev dktX4_weightIn_1 : List UInt8 := dkwX4_weightIn_1 ++ dktX4_weightIn_2
def dkwX4_weightIn_0 : List UInt8 := [42, 3, 181, 0, 60, 42, 27, 182, 1, 81, 154, 0, 43, 42, 28, 182, 1, 78, 154, 0, 35, 42, 29]
abbrev dktX4_weightIn_0 : List UInt8 := dkwX4_weightIn_0 ++ dktX4_weightIn_1
theorem dksX4_weightIn_0 : cX4_weightIn.data.toList.drop 0 = dktX4_weightIn_0 := by decide +kernel
theorem dksX4_weightIn_1 : cX4_weightIn.data.toList.drop 23 = dktX4_weightIn_1 := dk_seg dksX4_weightIn_0 23 rfl rfl
theorem dksX4_weightIn_2 : cX4_weightIn.data.toList.drop 47 = dktX4_weightIn_2 := dk_seg dksX4_weightIn_1 24 rfl rfl
theorem dksX4_weightIn_3 : cX4_weightIn.data.toList.drop 71 = dktX4_weightIn_3 := dk_seg dksX4_weightIn_2 24 rfl rfl
theorem dX4_weightIn_0 : decode cX4_weightIn 0 = .ok (.aload_n 0, 1) := dk_42 (dk_at dksX4_weightIn_0 0 rfl rfl)
theorem dX4_weightIn_1 : decode cX4_weightIn 1 = .ok (.iconst 0, 1) := dk_3 (dk_at dksX4_weightIn_0 1 rfl rfl)
theorem dX4_weightIn_2 : decode cX4_weightIn 2 = .ok (.putfield 60, 3) := dk_181 0 60 (dk_at dksX4_weightIn_0 2 rfl rfl)
theorem dX4_weightIn_5 : decode cX4_weightIn 5 = .ok (.aload_n 0, 1) := dk_42 (dk_at dksX4_weightIn_0 5 rfl rfl)
theorem dX4_weightIn_6 : decode cX4_weightIn 6 = .ok (.iload_n 1, 1) := dk_27 (dk_at dksX4_weightIn_0 6 rfl rfl)
theorem dX4_weightIn_7 : decode cX4_weightIn 7 = .ok (.invokevirtual 337, 3) := dk_182 1 81 (dk_at dksX4_weightIn_0 7 rfl rfl)
theorem dX4_weightIn_10 : decode cX4_weightIn 10 = .ok (.ifCond .ne 43, 3) := dk_154 0 43 (dk_at dksX4_weightIn_0 10 rfl rfl)
theorem dX4_weightIn_13 : decode cX4_weightIn 13 = .ok (.aload_n 0, 1) := dk_42 (dk_at dksX4_weightIn_0 13 rfl rfl)
theorem dX4_weightIn_14 : decode cX4_weightIn 14 = .ok (.iload_n 2, 1) := dk_28 (dk_at dksX4_weightIn_0 14 rfl rfl)
theorem dX4_weightIn_15 : decode cX4_weightIn 15 = .ok (.invokevirtual 334, 3) := dk_182 1 78 (dk_at dksX4_weightIn_0 15 rfl rfl)
theorem dX4_weightIn_18 : decode cX4_weightIn 18 = .ok (.ifCond .ne 35, 3) := dk_154 0 35 (dk_at dksX4_weightIn_0 18 rfl rfl)
theorem dX4_weightIn_21 : decode cX4_weightIn 21 = .ok (.aload_n 0, 1) := dk_42 (dk_at dksX4_weightIn_0 21 rfl rfl)
theorem dX4_weightIn_22 : decode cX4_weightIn 22 = .ok (.iload_n 3, 1) := dk_29 (dk_at dksX4_weightIn_0 22 rfl rfl)
theorem dX4_weightIn_23 : decode cX4_weightIn 23 = .ok (.invokevirtual 343, 3) := dk_182 1 87 (dk_at dksX4_weightIn_1 0 rfl rfl)
theorem dX4_weightIn_26 : decode cX4_weightIn 26 = .ok (.ifCond .ne 27, 3) := dk_154 0 27 (dk_at dksX4_weightIn_1 3 rfl rfl)
theorem dX4_weightIn_29 : decode cX4_weightIn 29 = .ok (.aload_n 0, 1) := dk_42 (dk_at dksX4_weightIn_1 6 rfl rfl)
theorem dX4_weightIn_30 : decode cX4_weightIn 30 = .ok (.iload 4, 2) := dk_21 4 (dk_at dksX4_weightIn_1 7 rfl rfl)
theorem dX4_weightIn_32 : decode cX4_weightIn 32 = .ok (.iconst 0, 1) := dk_3 (dk_at dksX4_weightIn_1 9 rfl rfl)
theorem dX4_weightIn_33 : decode cX4_weightIn 33 = .ok (.bipush 99, 2) := dk_16 99 (dk_at dksX4_weightIn_1 10 rfl rfl)
theorem dX4_weightIn_35 : decode cX4_weightIn 35 = .ok (.invokestatic 159, 3) := dk_184 0 159 (dk_at dksX4_weightIn_1 12 rfl rfl)
theorem dX4_weightIn_38 : decode cX4_weightIn 38 = .ok (.ifCond .ne 7, 3) := dk_154 0 7 (dk_at dksX4_weightIn_1 15 rfl rfl)
theorem dX4_weightIn_41 : decode cX4_weightIn 41 = .ok (.iconst 1, 1) := dk_4 (dk_at dksX4_weightIn_1 18 rfl rfl)
theorem dX4_weightIn_42 : decode cX4_weightIn 42 = .ok (.goto 4, 3) := dk_167 0 4 (dk_at dksX4_weightIn_1 19 rfl rfl)
theorem dX4_weightIn_45 : decode cX4_weightIn 45 = .ok (.iconst 0, 1) := dk_3 (dk_at dksX4_weightIn_1 22 rfl rfl)
theorem dX4_weightIn_46 : decode cX4_weightIn 46 = .ok (.iconst 2, 1) := dk_5 (dk_at dksX4_weightIn_1 23 rfl rfl)
theorem dX4_weightIn_47 : decode cX4_weightIn 47 = .ok (.invokevirtual 321, 3) := dk_182 1 65 (dk_at dksX4_weightIn_2 0 rfl rfl)
theorem dX4_weightIn_50 : decode cX4_weightIn 50 = .ok (.ifCond .eq 5, 3) := dk_153 0 5 (dk_at dksX4_weightIn_2 3 rfl rfl)
theorem dX4_weightIn_53 : decode cX4_weightIn 53 = .ok (.iconst 0, 1) := dk_3 (dk_at dksX4_weightIn_2 6 rfl rfl)
theorem dX4_weightIn_54 : decode cX4_weightIn 54 = .ok (.ireturn, 1) := dk_172 (dk_at dksX4_weightIn_2 7 rfl rfl)
theorem dX4_weightIn_55 : decode cX4_weightIn 55 = .ok (.aload_n 0, 1) := dk_42 (dk_at dksX4_weightIn_2 8 rfl rfl)
theorem dX4_weightIn_56 : decode cX4_weightIn 56 = .ok (.invokevirtual 365, 3) := dk_182 1 109 (dk_at dksX4_weightIn_2 9 rfl rfl)
theorem dX4_weightIn_59 : decode cX4_weightIn 59 = .ok (.iconst 0, 1) := dk_3 (dk_at dksX4_weightIn_2 12 rfl rfl)
theorem dX4_weightIn_60 : decode cX4_weightIn 60 = .ok (.istore 5, 2) := dk_54 5 (dk_at dksX4_weightIn_2 13 rfl rfl)
theorem dX4_weightIn_62 : decode cX4_weightIn 62 = .ok (.iload 5, 2) := dk_21 5 (dk_at dksX4_weightIn_2 15 rfl rfl)
theorem dX4_weightIn_64 : decode cX4_weightIn 64 = .ok (.iload 4, 2) := dk_21 4 (dk_at dksX4_weightIn_2 17 rfl rfl)
theorem dX4_weightIn_66 : decode cX4_weightIn 66 = .ok (.if_icmp .ge 17, 3) := dk_162 0 17 (dk_at dksX4_weightIn_2 19 rfl rfl)
theorem dX4_weightIn_69 : decode cX4_weightIn 69 = .ok (.aload_n 0, 1) := dk_42 (dk_at dksX4_weightIn_2 22 rfl rfl)
theorem dX4_weightIn_70 : decode cX4_weightIn 70 = .ok (.iload_n 2, 1) := dk_28 (dk_at dksX4_weightIn_2 23 rfl rfl)
theorem dX4_weightIn_71 : decode cX4_weightIn 71 = .ok (.iload_n 3, 1) := dk_29 (dk_at dksX4_weightIn_3 0 rfl rfl)
theorem dX4_weightIn_72 : decode cX4_weightIn 72 = .ok (.invokevirtual 139, 3) := dk_182 0 139 (dk_at dksX4_weightIn_3 1 rfl rfl)
theorem dX4_weightIn_75 : decode cX4_weightIn 75 = .ok (.istore 6, 2) := dk_54 6 (dk_at dksX4_weightIn_3 4 rfl rfl)
theorem dX4_weightIn_77 : decode cX4_weightIn 77 = .ok (.iinc 5 1, 3) := dk_132 5 1 (dk_at dksX4_weightIn_3 6 rfl rfl)
theorem dX4_weightIn_80 : decode cX4_weightIn 80 = .ok (.goto (-18), 3) := dk_167 255 238 (dk_at dksX4_weightIn_3 9 rfl rfl)
theorem dX4_weightIn_83 : decode cX4_weightIn 83 = .ok (.aload_n 0, 1) := dk_42 (dk_at dksX4_weightIn_3 12 rfl rfl)
theorem dX4_weightIn_84 : decode cX4_weightIn 84 = .ok (.aload_n 0, 1) := dk_42 (dk_at dksX4_weightIn_3 13 rfl rfl)
theorem dX4_weightIn_85 : decode cX4_weightIn 85 = .ok (.iload_n 1, 1) := dk_27 (dk_at dksX4_weightIn_3 14 rfl rfl)
theorem dX4_weightIn_86 : decode cX4_weightIn 86 = .ok (.bipush 6, 2) := dk_16 6 (dk_at dksX4_weightIn_3 15 rfl rfl)
theorem dX4_weightIn_88 : decode cX4_weightIn 88 = .ok (.invokevirtual 67, 3) := dk_182 0 67 (dk_at dksX4_weightIn_3 17 rfl rfl)
theorem dX4_weightIn_91 : decode cX4_weightIn 91 = .ok (.invokevirtual 368, 3) := dk_182 1 112 (dk_at dksX4_weightIn_3 20 rfl rfl)
theorem dX4_weightIn_94 : decode cX4_weightIn 94 = .ok (.ireturn, 1) := dk_172 (dk_at dksX4_weightIn_3 23 rfl rfl)
abbrev cX4_rightBy : ByteArray := prog_20_method_105_code
def yX4_rightBy : MethodName := ⟨RX4, "rightBy", "(I)I"⟩
def dkwX4_rightBy_1 : List UInt8 := [153, 0, 7, 3, 167, 0, 9, 42, 8, 27, 182, 1, 118, 172]
abbrev dktX4_rightBy_1 : List UInt8 := dkwX4_rightBy_1 ++ []
def dkwX4_rightBy_0 : List UInt8 := [42, 3, 181, 0, 60, 42, 27, 3, 5, 184, 0, 159, 154, 0, 7, 4, 167, 0, 4, 3, 4, 182, 1, 65]
abbrev dktX4_rightBy_0 : List UInt8 := dkwX4_rightBy_0 ++ dktX4_rightBy_1
theorem dksX4_rightBy_0 : cX4_rightBy.data.toList.drop 0 = dktX4_rightBy_0 := by decide +kernel
theorem dksX4_rightBy_1 : cX4_rightBy.data.toList.drop 24 = dktX4_rightBy_1 := dk_seg dksX4_rightBy_0 24 rfl rfl
theorem dX4_rightBy_0 : decode cX4_rightBy 0 = .ok (.aload_n 0, 1) := dk_42 (dk_at dksX4_rightBy_0 0 rfl rfl)
theorem dX4_rightBy_1 : decode cX4_rightBy 1 = .ok (.iconst 0, 1) := dk_3 (dk_at dksX4_rightBy_0 1 rfl rfl)
theorem dX4_rightBy_2 : decode cX4_rightBy 2 = .ok (.putfield 60, 3) := dk_181 0 60 (dk_at dksX4_rightBy_0 2 rfl rfl)
theorem dX4_rightBy_5 : decode cX4_rightBy 5 = .ok (.aload_n 0, 1) := dk_42 (dk_at dksX4_rightBy_0 5 rfl rfl)
theorem dX4_rightBy_6 : decode cX4_rightBy 6 = .ok (.iload_n 1, 1) := dk_27 (dk_at dksX4_rightBy_0 6 rfl rfl)
theorem dX4_rightBy_7 : decode cX4_rightBy 7 = .ok (.iconst 0, 1) := dk_3 (dk_at dksX4_rightBy_0 7 rfl rfl)
theorem dX4_rightBy_8 : decode cX4_rightBy 8 = .ok (.iconst 2, 1) := dk_5 (dk_at dksX4_rightBy_0 8 rfl rfl)
theorem dX4_rightBy_9 : decode cX4_rightBy 9 = .ok (.invokestatic 159, 3) := dk_184 0 159 (dk_at dksX4_rightBy_0 9 rfl rfl)
theorem dX4_rightBy_12 : decode cX4_rightBy 12 = .ok (.ifCond .ne 7, 3) := dk_154 0 7 (dk_at dksX4_rightBy_0 12 rfl rfl)
theorem dX4_rightBy_15 : decode cX4_rightBy 15 = .ok (.iconst 1, 1) := dk_4 (dk_at dksX4_rightBy_0 15 rfl rfl)
theorem dX4_rightBy_16 : decode cX4_rightBy 16 = .ok (.goto 4, 3) := dk_167 0 4 (dk_at dksX4_rightBy_0 16 rfl rfl)
theorem dX4_rightBy_19 : decode cX4_rightBy 19 = .ok (.iconst 0, 1) := dk_3 (dk_at dksX4_rightBy_0 19 rfl rfl)
theorem dX4_rightBy_20 : decode cX4_rightBy 20 = .ok (.iconst 1, 1) := dk_4 (dk_at dksX4_rightBy_0 20 rfl rfl)
theorem dX4_rightBy_21 : decode cX4_rightBy 21 = .ok (.invokevirtual 321, 3) := dk_182 1 65 (dk_at dksX4_rightBy_0 21 rfl rfl)
theorem dX4_rightBy_24 : decode cX4_rightBy 24 = .ok (.ifCond .eq 7, 3) := dk_153 0 7 (dk_at dksX4_rightBy_1 0 rfl rfl)
theorem dX4_rightBy_27 : decode cX4_rightBy 27 = .ok (.iconst 0, 1) := dk_3 (dk_at dksX4_rightBy_1 3 rfl rfl)
theorem dX4_rightBy_28 : decode cX4_rightBy 28 = .ok (.goto 9, 3) := dk_167 0 9 (dk_at dksX4_rightBy_1 4 rfl rfl)
theorem dX4_rightBy_31 : decode cX4_rightBy 31 = .ok (.aload_n 0, 1) := dk_42 (dk_at dksX4_rightBy_1 7 rfl rfl)
theorem dX4_rightBy_32 : decode cX4_rightBy 32 = .ok (.iconst 5, 1) := dk_8 (dk_at dksX4_rightBy_1 8 rfl rfl)
theorem dX4_rightBy_33 : decode cX4_rightBy 33 = .ok (.iload_n 1, 1) := dk_27 (dk_at dksX4_rightBy_1 9 rfl rfl)
theorem dX4_rightBy_34 : decode cX4_rightBy 34 = .ok (.invokevirtual 374, 3) := dk_182 1 118 (dk_at dksX4_rightBy_1 10 rfl rfl)
theorem dX4_rightBy_37 : decode cX4_rightBy 37 = .ok (.ireturn, 1) := dk_172 (dk_at dksX4_rightBy_1 13 rfl rfl)
abbrev cX4_rightWhen : ByteArray := prog_20_method_104_code
def yX4_rightWhen : MethodName := ⟨RX4, "rightWhen", "(II)I"⟩
def dkwX4_rightWhen_0 : List UInt8 := [42, 182, 1, 109, 42, 180, 0, 7, 27, 28, 79, 42, 42, 182, 1, 115, 182, 1, 112, 172]
abbrev dktX4_rightWhen_0 : List UInt8 := dkwX4_rightWhen_0 ++ []
theorem dksX4_rightWhen_0 : cX4_rightWhen.data.toList.drop 0 = dktX4_rightWhen_0 := by decide +kernel
theorem dX4_rightWhen_0 : decode cX4_rightWhen 0 = .ok (.aload_n 0, 1) := dk_42 (dk_at dksX4_rightWhen_0 0 rfl rfl)
theorem dX4_rightWhen_1 : decode cX4_rightWhen 1 = .ok (.invokevirtual 365, 3) := dk_182 1 109 (dk_at dksX4_rightWhen_0 1 rfl rfl)
theorem dX4_rightWhen_4 : decode cX4_rightWhen 4 = .ok (.aload_n 0, 1) := dk_42 (dk_at dksX4_rightWhen_0 4 rfl rfl)
theorem dX4_rightWhen_5 : decode cX4_rightWhen 5 = .ok (.getfield 7, 3) := dk_180 0 7 (dk_at dksX4_rightWhen_0 5 rfl rfl)
theorem dX4_rightWhen_8 : decode cX4_rightWhen 8 = .ok (.iload_n 1, 1) := dk_27 (dk_at dksX4_rightWhen_0 8 rfl rfl)
theorem dX4_rightWhen_9 : decode cX4_rightWhen 9 = .ok (.iload_n 2, 1) := dk_28 (dk_at dksX4_rightWhen_0 9 rfl rfl)
theorem dX4_rightWhen_10 : decode cX4_rightWhen 10 = .ok (.iastore, 1) := dk_79 (dk_at dksX4_rightWhen_0 10 rfl rfl)
theorem dX4_rightWhen_11 : decode cX4_rightWhen 11 = .ok (.aload_n 0, 1) := dk_42 (dk_at dksX4_rightWhen_0 11 rfl rfl)
theorem dX4_rightWhen_12 : decode cX4_rightWhen 12 = .ok (.aload_n 0, 1) := dk_42 (dk_at dksX4_rightWhen_0 12 rfl rfl)
theorem dX4_rightWhen_13 : decode cX4_rightWhen 13 = .ok (.invokevirtual 371, 3) := dk_182 1 115 (dk_at dksX4_rightWhen_0 13 rfl rfl)
theorem dX4_rightWhen_16 : decode cX4_rightWhen 16 = .ok (.invokevirtual 368, 3) := dk_182 1 112 (dk_at dksX4_rightWhen_0 16 rfl rfl)
theorem dX4_rightWhen_19 : decode cX4_rightWhen 19 = .ok (.ireturn, 1) := dk_172 (dk_at dksX4_rightWhen_0 19 rfl rfl)
abbrev cX4_again : ByteArray := prog_20_method_30_code
def yX4_again : MethodName := ⟨RX4, "again", "()I"⟩
def dkwX4_again_4 : List UInt8 := [100, 172]
abbrev dktX4_again_4 : List UInt8 := dkwX4_again_4 ++ []
def dkwX4_again_3 : List UInt8 := [42, 29, 182, 0, 132, 182, 0, 136, 54, 4, 132, 3, 1, 167, 255, 219, 42, 180, 0, 7, 16, 9, 46, 28]
abbrev dktX4_again_3 : List UInt8 := dkwX4_again_3 ++ dktX4_again_4
def dkwX4_again_2 : List UInt8 := [29, 27, 162, 0, 38, 42, 42, 180, 0, 25, 6, 29, 104, 46, 42, 180, 0, 25, 6, 29, 104, 4, 96, 46]
abbrev dktX4_again_2 : List UInt8 := dkwX4_again_2 ++ dktX4_again_3
def dkwX4_again_1 : List UInt8 := [28, 8, 182, 0, 67, 182, 0, 63, 132, 2, 1, 167, 255, 230, 42, 180, 0, 7, 16, 9, 46, 61, 3, 62]
abbrev dktX4_again_1 : List UInt8 := dkwX4_again_1 ++ dktX4_again_2
def dkwX4_again_0 : List UInt8 := [42, 180, 0, 7, 5, 46, 60, 3, 61, 28, 42, 180, 0, 7, 3, 46, 162, 0, 22, 42, 28, 16, 6, 42]
abbrev dktX4_again_0 : List UInt8 := dkwX4_again_0 ++ dktX4_again_1
theorem dksX4_again_0 : cX4_again.data.toList.drop 0 = dktX4_again_0 := by decide +kernel
theorem dksX4_again_1 : cX4_again.data.toList.drop 24 = dktX4_again_1 := dk_seg dksX4_again_0 24 rfl rfl
theorem dksX4_again_2 : cX4_again.data.toList.drop 48 = dktX4_again_2 := dk_seg dksX4_again_1 24 rfl rfl
theorem dksX4_again_3 : cX4_again.data.toList.drop 72 = dktX4_again_3 := dk_seg dksX4_again_2 24 rfl rfl
theorem dksX4_again_4 : cX4_again.data.toList.drop 96 = dktX4_again_4 := dk_seg dksX4_again_3 24 rfl rfl
theorem dX4_again_0 : decode cX4_again 0 = .ok (.aload_n 0, 1) := dk_42 (dk_at dksX4_again_0 0 rfl rfl)
theorem dX4_again_1 : decode cX4_again 1 = .ok (.getfield 7, 3) := dk_180 0 7 (dk_at dksX4_again_0 1 rfl rfl)
theorem dX4_again_4 : decode cX4_again 4 = .ok (.iconst 2, 1) := dk_5 (dk_at dksX4_again_0 4 rfl rfl)
theorem dX4_again_5 : decode cX4_again 5 = .ok (.iaload, 1) := dk_46 (dk_at dksX4_again_0 5 rfl rfl)
theorem dX4_again_6 : decode cX4_again 6 = .ok (.istore_n 1, 1) := dk_60 (dk_at dksX4_again_0 6 rfl rfl)
theorem dX4_again_7 : decode cX4_again 7 = .ok (.iconst 0, 1) := dk_3 (dk_at dksX4_again_0 7 rfl rfl)
theorem dX4_again_8 : decode cX4_again 8 = .ok (.istore_n 2, 1) := dk_61 (dk_at dksX4_again_0 8 rfl rfl)
theorem dX4_again_9 : decode cX4_again 9 = .ok (.iload_n 2, 1) := dk_28 (dk_at dksX4_again_0 9 rfl rfl)
theorem dX4_again_10 : decode cX4_again 10 = .ok (.aload_n 0, 1) := dk_42 (dk_at dksX4_again_0 10 rfl rfl)
theorem dX4_again_11 : decode cX4_again 11 = .ok (.getfield 7, 3) := dk_180 0 7 (dk_at dksX4_again_0 11 rfl rfl)
theorem dX4_again_14 : decode cX4_again 14 = .ok (.iconst 0, 1) := dk_3 (dk_at dksX4_again_0 14 rfl rfl)
theorem dX4_again_15 : decode cX4_again 15 = .ok (.iaload, 1) := dk_46 (dk_at dksX4_again_0 15 rfl rfl)
theorem dX4_again_16 : decode cX4_again 16 = .ok (.if_icmp .ge 22, 3) := dk_162 0 22 (dk_at dksX4_again_0 16 rfl rfl)
theorem dX4_again_19 : decode cX4_again 19 = .ok (.aload_n 0, 1) := dk_42 (dk_at dksX4_again_0 19 rfl rfl)
theorem dX4_again_20 : decode cX4_again 20 = .ok (.iload_n 2, 1) := dk_28 (dk_at dksX4_again_0 20 rfl rfl)
theorem dX4_again_21 : decode cX4_again 21 = .ok (.bipush 6, 2) := dk_16 6 (dk_at dksX4_again_0 21 rfl rfl)
theorem dX4_again_23 : decode cX4_again 23 = .ok (.aload_n 0, 1) := dk_42 (dk_at dksX4_again_0 23 rfl rfl)
theorem dX4_again_24 : decode cX4_again 24 = .ok (.iload_n 2, 1) := dk_28 (dk_at dksX4_again_1 0 rfl rfl)
theorem dX4_again_25 : decode cX4_again 25 = .ok (.iconst 5, 1) := dk_8 (dk_at dksX4_again_1 1 rfl rfl)
theorem dX4_again_26 : decode cX4_again 26 = .ok (.invokevirtual 67, 3) := dk_182 0 67 (dk_at dksX4_again_1 2 rfl rfl)
theorem dX4_again_29 : decode cX4_again 29 = .ok (.invokevirtual 63, 3) := dk_182 0 63 (dk_at dksX4_again_1 5 rfl rfl)
theorem dX4_again_32 : decode cX4_again 32 = .ok (.iinc 2 1, 3) := dk_132 2 1 (dk_at dksX4_again_1 8 rfl rfl)
theorem dX4_again_35 : decode cX4_again 35 = .ok (.goto (-26), 3) := dk_167 255 230 (dk_at dksX4_again_1 11 rfl rfl)
theorem dX4_again_38 : decode cX4_again 38 = .ok (.aload_n 0, 1) := dk_42 (dk_at dksX4_again_1 14 rfl rfl)
theorem dX4_again_39 : decode cX4_again 39 = .ok (.getfield 7, 3) := dk_180 0 7 (dk_at dksX4_again_1 15 rfl rfl)
theorem dX4_again_42 : decode cX4_again 42 = .ok (.bipush 9, 2) := dk_16 9 (dk_at dksX4_again_1 18 rfl rfl)
theorem dX4_again_44 : decode cX4_again 44 = .ok (.iaload, 1) := dk_46 (dk_at dksX4_again_1 20 rfl rfl)
theorem dX4_again_45 : decode cX4_again 45 = .ok (.istore_n 2, 1) := dk_61 (dk_at dksX4_again_1 21 rfl rfl)
theorem dX4_again_46 : decode cX4_again 46 = .ok (.iconst 0, 1) := dk_3 (dk_at dksX4_again_1 22 rfl rfl)
theorem dX4_again_47 : decode cX4_again 47 = .ok (.istore_n 3, 1) := dk_62 (dk_at dksX4_again_1 23 rfl rfl)
theorem dX4_again_48 : decode cX4_again 48 = .ok (.iload_n 3, 1) := dk_29 (dk_at dksX4_again_2 0 rfl rfl)
theorem dX4_again_49 : decode cX4_again 49 = .ok (.iload_n 1, 1) := dk_27 (dk_at dksX4_again_2 1 rfl rfl)
theorem dX4_again_50 : decode cX4_again 50 = .ok (.if_icmp .ge 38, 3) := dk_162 0 38 (dk_at dksX4_again_2 2 rfl rfl)
theorem dX4_again_53 : decode cX4_again 53 = .ok (.aload_n 0, 1) := dk_42 (dk_at dksX4_again_2 5 rfl rfl)
theorem dX4_again_54 : decode cX4_again 54 = .ok (.aload_n 0, 1) := dk_42 (dk_at dksX4_again_2 6 rfl rfl)
theorem dX4_again_55 : decode cX4_again 55 = .ok (.getfield 25, 3) := dk_180 0 25 (dk_at dksX4_again_2 7 rfl rfl)
theorem dX4_again_58 : decode cX4_again 58 = .ok (.iconst 3, 1) := dk_6 (dk_at dksX4_again_2 10 rfl rfl)
theorem dX4_again_59 : decode cX4_again 59 = .ok (.iload_n 3, 1) := dk_29 (dk_at dksX4_again_2 11 rfl rfl)
theorem dX4_again_60 : decode cX4_again 60 = .ok (.imul, 1) := dk_104 (dk_at dksX4_again_2 12 rfl rfl)
theorem dX4_again_61 : decode cX4_again 61 = .ok (.iaload, 1) := dk_46 (dk_at dksX4_again_2 13 rfl rfl)
theorem dX4_again_62 : decode cX4_again 62 = .ok (.aload_n 0, 1) := dk_42 (dk_at dksX4_again_2 14 rfl rfl)
theorem dX4_again_63 : decode cX4_again 63 = .ok (.getfield 25, 3) := dk_180 0 25 (dk_at dksX4_again_2 15 rfl rfl)
theorem dX4_again_66 : decode cX4_again 66 = .ok (.iconst 3, 1) := dk_6 (dk_at dksX4_again_2 18 rfl rfl)
theorem dX4_again_67 : decode cX4_again 67 = .ok (.iload_n 3, 1) := dk_29 (dk_at dksX4_again_2 19 rfl rfl)
theorem dX4_again_68 : decode cX4_again 68 = .ok (.imul, 1) := dk_104 (dk_at dksX4_again_2 20 rfl rfl)
theorem dX4_again_69 : decode cX4_again 69 = .ok (.iconst 1, 1) := dk_4 (dk_at dksX4_again_2 21 rfl rfl)
theorem dX4_again_70 : decode cX4_again 70 = .ok (.iadd, 1) := dk_96 (dk_at dksX4_again_2 22 rfl rfl)
theorem dX4_again_71 : decode cX4_again 71 = .ok (.iaload, 1) := dk_46 (dk_at dksX4_again_2 23 rfl rfl)
theorem dX4_again_72 : decode cX4_again 72 = .ok (.aload_n 0, 1) := dk_42 (dk_at dksX4_again_3 0 rfl rfl)
theorem dX4_again_73 : decode cX4_again 73 = .ok (.iload_n 3, 1) := dk_29 (dk_at dksX4_again_3 1 rfl rfl)
theorem dX4_again_74 : decode cX4_again 74 = .ok (.invokevirtual 132, 3) := dk_182 0 132 (dk_at dksX4_again_3 2 rfl rfl)
theorem dX4_again_77 : decode cX4_again 77 = .ok (.invokevirtual 136, 3) := dk_182 0 136 (dk_at dksX4_again_3 5 rfl rfl)
theorem dX4_again_80 : decode cX4_again 80 = .ok (.istore 4, 2) := dk_54 4 (dk_at dksX4_again_3 8 rfl rfl)
theorem dX4_again_82 : decode cX4_again 82 = .ok (.iinc 3 1, 3) := dk_132 3 1 (dk_at dksX4_again_3 10 rfl rfl)
theorem dX4_again_85 : decode cX4_again 85 = .ok (.goto (-37), 3) := dk_167 255 219 (dk_at dksX4_again_3 13 rfl rfl)
theorem dX4_again_88 : decode cX4_again 88 = .ok (.aload_n 0, 1) := dk_42 (dk_at dksX4_again_3 16 rfl rfl)
theorem dX4_again_89 : decode cX4_again 89 = .ok (.getfield 7, 3) := dk_180 0 7 (dk_at dksX4_again_3 17 rfl rfl)
theorem dX4_again_92 : decode cX4_again 92 = .ok (.bipush 9, 2) := dk_16 9 (dk_at dksX4_again_3 20 rfl rfl)
theorem dX4_again_94 : decode cX4_again 94 = .ok (.iaload, 1) := dk_46 (dk_at dksX4_again_3 22 rfl rfl)
theorem dX4_again_95 : decode cX4_again 95 = .ok (.iload_n 2, 1) := dk_28 (dk_at dksX4_again_3 23 rfl rfl)
theorem dX4_again_96 : decode cX4_again 96 = .ok (.isub, 1) := dk_100 (dk_at dksX4_again_4 0 rfl rfl)
theorem dX4_again_97 : decode cX4_again 97 = .ok (.ireturn, 1) := dk_172 (dk_at dksX4_again_4 1 rfl rfl)
abbrev cX4_bestRule : ByteArray := prog_20_method_106_code
def yX4_bestRule : MethodName := ⟨RX4, "bestRule", "()I"⟩
def dkwX4_bestRule_2 : List UInt8 := [167, 255, 225, 27, 172]
abbrev dktX4_bestRule_2 : List UInt8 := dkwX4_bestRule_2 ++ []
def dkwX4_bestRule_1 : List UInt8 := [182, 1, 118, 54, 4, 21, 4, 28, 164, 0, 5, 29, 60, 28, 21, 4, 184, 0, 103, 61, 132, 3, 1]
abbrev dktX4_bestRule_1 : List UInt8 := dkwX4_bestRule_1 ++ dktX4_bestRule_2
def dkwX4_bestRule_0 : List UInt8 := [42, 3, 181, 0, 60, 3, 60, 42, 8, 3, 182, 1, 118, 61, 4, 62, 29, 5, 163, 0, 32, 42, 8, 29]
abbrev dktX4_bestRule_0 : List UInt8 := dkwX4_bestRule_0 ++ dktX4_bestRule_1
theorem dksX4_bestRule_0 : cX4_bestRule.data.toList.drop 0 = dktX4_bestRule_0 := by decide +kernel
theorem dksX4_bestRule_1 : cX4_bestRule.data.toList.drop 24 = dktX4_bestRule_1 := dk_seg dksX4_bestRule_0 24 rfl rfl
theorem dksX4_bestRule_2 : cX4_bestRule.data.toList.drop 47 = dktX4_bestRule_2 := dk_seg dksX4_bestRule_1 23 rfl rfl
theorem dX4_bestRule_0 : decode cX4_bestRule 0 = .ok (.aload_n 0, 1) := dk_42 (dk_at dksX4_bestRule_0 0 rfl rfl)
theorem dX4_bestRule_1 : decode cX4_bestRule 1 = .ok (.iconst 0, 1) := dk_3 (dk_at dksX4_bestRule_0 1 rfl rfl)
theorem dX4_bestRule_2 : decode cX4_bestRule 2 = .ok (.putfield 60, 3) := dk_181 0 60 (dk_at dksX4_bestRule_0 2 rfl rfl)
theorem dX4_bestRule_5 : decode cX4_bestRule 5 = .ok (.iconst 0, 1) := dk_3 (dk_at dksX4_bestRule_0 5 rfl rfl)
theorem dX4_bestRule_6 : decode cX4_bestRule 6 = .ok (.istore_n 1, 1) := dk_60 (dk_at dksX4_bestRule_0 6 rfl rfl)
theorem dX4_bestRule_7 : decode cX4_bestRule 7 = .ok (.aload_n 0, 1) := dk_42 (dk_at dksX4_bestRule_0 7 rfl rfl)
theorem dX4_bestRule_8 : decode cX4_bestRule 8 = .ok (.iconst 5, 1) := dk_8 (dk_at dksX4_bestRule_0 8 rfl rfl)
theorem dX4_bestRule_9 : decode cX4_bestRule 9 = .ok (.iconst 0, 1) := dk_3 (dk_at dksX4_bestRule_0 9 rfl rfl)
theorem dX4_bestRule_10 : decode cX4_bestRule 10 = .ok (.invokevirtual 374, 3) := dk_182 1 118 (dk_at dksX4_bestRule_0 10 rfl rfl)
theorem dX4_bestRule_13 : decode cX4_bestRule 13 = .ok (.istore_n 2, 1) := dk_61 (dk_at dksX4_bestRule_0 13 rfl rfl)
theorem dX4_bestRule_14 : decode cX4_bestRule 14 = .ok (.iconst 1, 1) := dk_4 (dk_at dksX4_bestRule_0 14 rfl rfl)
theorem dX4_bestRule_15 : decode cX4_bestRule 15 = .ok (.istore_n 3, 1) := dk_62 (dk_at dksX4_bestRule_0 15 rfl rfl)
theorem dX4_bestRule_16 : decode cX4_bestRule 16 = .ok (.iload_n 3, 1) := dk_29 (dk_at dksX4_bestRule_0 16 rfl rfl)
theorem dX4_bestRule_17 : decode cX4_bestRule 17 = .ok (.iconst 2, 1) := dk_5 (dk_at dksX4_bestRule_0 17 rfl rfl)
theorem dX4_bestRule_18 : decode cX4_bestRule 18 = .ok (.if_icmp .gt 32, 3) := dk_163 0 32 (dk_at dksX4_bestRule_0 18 rfl rfl)
theorem dX4_bestRule_21 : decode cX4_bestRule 21 = .ok (.aload_n 0, 1) := dk_42 (dk_at dksX4_bestRule_0 21 rfl rfl)
theorem dX4_bestRule_22 : decode cX4_bestRule 22 = .ok (.iconst 5, 1) := dk_8 (dk_at dksX4_bestRule_0 22 rfl rfl)
theorem dX4_bestRule_23 : decode cX4_bestRule 23 = .ok (.iload_n 3, 1) := dk_29 (dk_at dksX4_bestRule_0 23 rfl rfl)
theorem dX4_bestRule_24 : decode cX4_bestRule 24 = .ok (.invokevirtual 374, 3) := dk_182 1 118 (dk_at dksX4_bestRule_1 0 rfl rfl)
theorem dX4_bestRule_27 : decode cX4_bestRule 27 = .ok (.istore 4, 2) := dk_54 4 (dk_at dksX4_bestRule_1 3 rfl rfl)
theorem dX4_bestRule_29 : decode cX4_bestRule 29 = .ok (.iload 4, 2) := dk_21 4 (dk_at dksX4_bestRule_1 5 rfl rfl)
theorem dX4_bestRule_31 : decode cX4_bestRule 31 = .ok (.iload_n 2, 1) := dk_28 (dk_at dksX4_bestRule_1 7 rfl rfl)
theorem dX4_bestRule_32 : decode cX4_bestRule 32 = .ok (.if_icmp .le 5, 3) := dk_164 0 5 (dk_at dksX4_bestRule_1 8 rfl rfl)
theorem dX4_bestRule_35 : decode cX4_bestRule 35 = .ok (.iload_n 3, 1) := dk_29 (dk_at dksX4_bestRule_1 11 rfl rfl)
theorem dX4_bestRule_36 : decode cX4_bestRule 36 = .ok (.istore_n 1, 1) := dk_60 (dk_at dksX4_bestRule_1 12 rfl rfl)
theorem dX4_bestRule_37 : decode cX4_bestRule 37 = .ok (.iload_n 2, 1) := dk_28 (dk_at dksX4_bestRule_1 13 rfl rfl)
theorem dX4_bestRule_38 : decode cX4_bestRule 38 = .ok (.iload 4, 2) := dk_21 4 (dk_at dksX4_bestRule_1 14 rfl rfl)
theorem dX4_bestRule_40 : decode cX4_bestRule 40 = .ok (.invokestatic 103, 3) := dk_184 0 103 (dk_at dksX4_bestRule_1 16 rfl rfl)
theorem dX4_bestRule_43 : decode cX4_bestRule 43 = .ok (.istore_n 2, 1) := dk_61 (dk_at dksX4_bestRule_1 19 rfl rfl)
theorem dX4_bestRule_44 : decode cX4_bestRule 44 = .ok (.iinc 3 1, 3) := dk_132 3 1 (dk_at dksX4_bestRule_1 20 rfl rfl)
theorem dX4_bestRule_47 : decode cX4_bestRule 47 = .ok (.goto (-31), 3) := dk_167 255 225 (dk_at dksX4_bestRule_2 0 rfl rfl)
theorem dX4_bestRule_50 : decode cX4_bestRule 50 = .ok (.iload_n 1, 1) := dk_27 (dk_at dksX4_bestRule_2 3 rfl rfl)
theorem dX4_bestRule_51 : decode cX4_bestRule 51 = .ok (.ireturn, 1) := dk_172 (dk_at dksX4_bestRule_2 4 rfl rfl)
abbrev cX4_rightWith : ByteArray := prog_20_method_107_code
def yX4_rightWith : MethodName := ⟨RX4, "rightWith", "(II)I"⟩
def dkwX4_rightWith_2 : List UInt8 := [180, 0, 7, 16, 6, 27, 79, 42, 180, 0, 7, 16, 7, 28, 79, 42, 42, 182, 1, 115, 182, 1, 112, 172]
abbrev dktX4_rightWith_2 : List UInt8 := dkwX4_rightWith_2 ++ []
def dkwX4_rightWith_1 : List UInt8 := [154, 0, 7, 4, 167, 0, 4, 3, 4, 182, 1, 65, 153, 0, 5, 3, 172, 42, 182, 1, 109, 42]
abbrev dktX4_rightWith_1 : List UInt8 := dkwX4_rightWith_1 ++ dktX4_rightWith_2
def dkwX4_rightWith_0 : List UInt8 := [42, 3, 181, 0, 60, 42, 27, 3, 16, 50, 184, 0, 159, 153, 0, 13, 28, 3, 16, 50, 184, 0, 159]
abbrev dktX4_rightWith_0 : List UInt8 := dkwX4_rightWith_0 ++ dktX4_rightWith_1
theorem dksX4_rightWith_0 : cX4_rightWith.data.toList.drop 0 = dktX4_rightWith_0 := by decide +kernel
theorem dksX4_rightWith_1 : cX4_rightWith.data.toList.drop 23 = dktX4_rightWith_1 := dk_seg dksX4_rightWith_0 23 rfl rfl
theorem dksX4_rightWith_2 : cX4_rightWith.data.toList.drop 45 = dktX4_rightWith_2 := dk_seg dksX4_rightWith_1 22 rfl rfl
theorem dX4_rightWith_0 : decode cX4_rightWith 0 = .ok (.aload_n 0, 1) := dk_42 (dk_at dksX4_rightWith_0 0 rfl rfl)
theorem dX4_rightWith_1 : decode cX4_rightWith 1 = .ok (.iconst 0, 1) := dk_3 (dk_at dksX4_rightWith_0 1 rfl rfl)
theorem dX4_rightWith_2 : decode cX4_rightWith 2 = .ok (.putfield 60, 3) := dk_181 0 60 (dk_at dksX4_rightWith_0 2 rfl rfl)
theorem dX4_rightWith_5 : decode cX4_rightWith 5 = .ok (.aload_n 0, 1) := dk_42 (dk_at dksX4_rightWith_0 5 rfl rfl)
theorem dX4_rightWith_6 : decode cX4_rightWith 6 = .ok (.iload_n 1, 1) := dk_27 (dk_at dksX4_rightWith_0 6 rfl rfl)
theorem dX4_rightWith_7 : decode cX4_rightWith 7 = .ok (.iconst 0, 1) := dk_3 (dk_at dksX4_rightWith_0 7 rfl rfl)
theorem dX4_rightWith_8 : decode cX4_rightWith 8 = .ok (.bipush 50, 2) := dk_16 50 (dk_at dksX4_rightWith_0 8 rfl rfl)
theorem dX4_rightWith_10 : decode cX4_rightWith 10 = .ok (.invokestatic 159, 3) := dk_184 0 159 (dk_at dksX4_rightWith_0 10 rfl rfl)
theorem dX4_rightWith_13 : decode cX4_rightWith 13 = .ok (.ifCond .eq 13, 3) := dk_153 0 13 (dk_at dksX4_rightWith_0 13 rfl rfl)
theorem dX4_rightWith_16 : decode cX4_rightWith 16 = .ok (.iload_n 2, 1) := dk_28 (dk_at dksX4_rightWith_0 16 rfl rfl)
theorem dX4_rightWith_17 : decode cX4_rightWith 17 = .ok (.iconst 0, 1) := dk_3 (dk_at dksX4_rightWith_0 17 rfl rfl)
theorem dX4_rightWith_18 : decode cX4_rightWith 18 = .ok (.bipush 50, 2) := dk_16 50 (dk_at dksX4_rightWith_0 18 rfl rfl)
theorem dX4_rightWith_20 : decode cX4_rightWith 20 = .ok (.invokestatic 159, 3) := dk_184 0 159 (dk_at dksX4_rightWith_0 20 rfl rfl)
theorem dX4_rightWith_23 : decode cX4_rightWith 23 = .ok (.ifCond .ne 7, 3) := dk_154 0 7 (dk_at dksX4_rightWith_1 0 rfl rfl)
theorem dX4_rightWith_26 : decode cX4_rightWith 26 = .ok (.iconst 1, 1) := dk_4 (dk_at dksX4_rightWith_1 3 rfl rfl)
theorem dX4_rightWith_27 : decode cX4_rightWith 27 = .ok (.goto 4, 3) := dk_167 0 4 (dk_at dksX4_rightWith_1 4 rfl rfl)
theorem dX4_rightWith_30 : decode cX4_rightWith 30 = .ok (.iconst 0, 1) := dk_3 (dk_at dksX4_rightWith_1 7 rfl rfl)
theorem dX4_rightWith_31 : decode cX4_rightWith 31 = .ok (.iconst 1, 1) := dk_4 (dk_at dksX4_rightWith_1 8 rfl rfl)
theorem dX4_rightWith_32 : decode cX4_rightWith 32 = .ok (.invokevirtual 321, 3) := dk_182 1 65 (dk_at dksX4_rightWith_1 9 rfl rfl)
theorem dX4_rightWith_35 : decode cX4_rightWith 35 = .ok (.ifCond .eq 5, 3) := dk_153 0 5 (dk_at dksX4_rightWith_1 12 rfl rfl)
theorem dX4_rightWith_38 : decode cX4_rightWith 38 = .ok (.iconst 0, 1) := dk_3 (dk_at dksX4_rightWith_1 15 rfl rfl)
theorem dX4_rightWith_39 : decode cX4_rightWith 39 = .ok (.ireturn, 1) := dk_172 (dk_at dksX4_rightWith_1 16 rfl rfl)
theorem dX4_rightWith_40 : decode cX4_rightWith 40 = .ok (.aload_n 0, 1) := dk_42 (dk_at dksX4_rightWith_1 17 rfl rfl)
theorem dX4_rightWith_41 : decode cX4_rightWith 41 = .ok (.invokevirtual 365, 3) := dk_182 1 109 (dk_at dksX4_rightWith_1 18 rfl rfl)
theorem dX4_rightWith_44 : decode cX4_rightWith 44 = .ok (.aload_n 0, 1) := dk_42 (dk_at dksX4_rightWith_1 21 rfl rfl)
theorem dX4_rightWith_45 : decode cX4_rightWith 45 = .ok (.getfield 7, 3) := dk_180 0 7 (dk_at dksX4_rightWith_2 0 rfl rfl)
theorem dX4_rightWith_48 : decode cX4_rightWith 48 = .ok (.bipush 6, 2) := dk_16 6 (dk_at dksX4_rightWith_2 3 rfl rfl)
theorem dX4_rightWith_50 : decode cX4_rightWith 50 = .ok (.iload_n 1, 1) := dk_27 (dk_at dksX4_rightWith_2 5 rfl rfl)
theorem dX4_rightWith_51 : decode cX4_rightWith 51 = .ok (.iastore, 1) := dk_79 (dk_at dksX4_rightWith_2 6 rfl rfl)
theorem dX4_rightWith_52 : decode cX4_rightWith 52 = .ok (.aload_n 0, 1) := dk_42 (dk_at dksX4_rightWith_2 7 rfl rfl)
theorem dX4_rightWith_53 : decode cX4_rightWith 53 = .ok (.getfield 7, 3) := dk_180 0 7 (dk_at dksX4_rightWith_2 8 rfl rfl)
theorem dX4_rightWith_56 : decode cX4_rightWith 56 = .ok (.bipush 7, 2) := dk_16 7 (dk_at dksX4_rightWith_2 11 rfl rfl)
theorem dX4_rightWith_58 : decode cX4_rightWith 58 = .ok (.iload_n 2, 1) := dk_28 (dk_at dksX4_rightWith_2 13 rfl rfl)
theorem dX4_rightWith_59 : decode cX4_rightWith 59 = .ok (.iastore, 1) := dk_79 (dk_at dksX4_rightWith_2 14 rfl rfl)
theorem dX4_rightWith_60 : decode cX4_rightWith 60 = .ok (.aload_n 0, 1) := dk_42 (dk_at dksX4_rightWith_2 15 rfl rfl)
theorem dX4_rightWith_61 : decode cX4_rightWith 61 = .ok (.aload_n 0, 1) := dk_42 (dk_at dksX4_rightWith_2 16 rfl rfl)
theorem dX4_rightWith_62 : decode cX4_rightWith 62 = .ok (.invokevirtual 371, 3) := dk_182 1 115 (dk_at dksX4_rightWith_2 17 rfl rfl)
theorem dX4_rightWith_65 : decode cX4_rightWith 65 = .ok (.invokevirtual 368, 3) := dk_182 1 112 (dk_at dksX4_rightWith_2 20 rfl rfl)
theorem dX4_rightWith_68 : decode cX4_rightWith 68 = .ok (.ireturn, 1) := dk_172 (dk_at dksX4_rightWith_2 23 rfl rfl)
abbrev cX4_harmOf : ByteArray := prog_20_method_108_code
def yX4_harmOf : MethodName := ⟨RX4, "harmOf", "(I)I"⟩
def dkwX4_harmOf_1 : List UInt8 := [182, 1, 118, 61, 42, 16, 25, 16, 10, 27, 104, 96, 16, 9, 96, 4, 182, 1, 118, 28, 100, 172]
abbrev dktX4_harmOf_1 : List UInt8 := dkwX4_harmOf_1 ++ []
def dkwX4_harmOf_0 : List UInt8 := [42, 3, 181, 0, 60, 42, 27, 182, 1, 81, 153, 0, 5, 3, 172, 42, 8, 42, 180, 0, 7, 8, 46]
abbrev dktX4_harmOf_0 : List UInt8 := dkwX4_harmOf_0 ++ dktX4_harmOf_1
theorem dksX4_harmOf_0 : cX4_harmOf.data.toList.drop 0 = dktX4_harmOf_0 := by decide +kernel
theorem dksX4_harmOf_1 : cX4_harmOf.data.toList.drop 23 = dktX4_harmOf_1 := dk_seg dksX4_harmOf_0 23 rfl rfl
theorem dX4_harmOf_0 : decode cX4_harmOf 0 = .ok (.aload_n 0, 1) := dk_42 (dk_at dksX4_harmOf_0 0 rfl rfl)
theorem dX4_harmOf_1 : decode cX4_harmOf 1 = .ok (.iconst 0, 1) := dk_3 (dk_at dksX4_harmOf_0 1 rfl rfl)
theorem dX4_harmOf_2 : decode cX4_harmOf 2 = .ok (.putfield 60, 3) := dk_181 0 60 (dk_at dksX4_harmOf_0 2 rfl rfl)
theorem dX4_harmOf_5 : decode cX4_harmOf 5 = .ok (.aload_n 0, 1) := dk_42 (dk_at dksX4_harmOf_0 5 rfl rfl)
theorem dX4_harmOf_6 : decode cX4_harmOf 6 = .ok (.iload_n 1, 1) := dk_27 (dk_at dksX4_harmOf_0 6 rfl rfl)
theorem dX4_harmOf_7 : decode cX4_harmOf 7 = .ok (.invokevirtual 337, 3) := dk_182 1 81 (dk_at dksX4_harmOf_0 7 rfl rfl)
theorem dX4_harmOf_10 : decode cX4_harmOf 10 = .ok (.ifCond .eq 5, 3) := dk_153 0 5 (dk_at dksX4_harmOf_0 10 rfl rfl)
theorem dX4_harmOf_13 : decode cX4_harmOf 13 = .ok (.iconst 0, 1) := dk_3 (dk_at dksX4_harmOf_0 13 rfl rfl)
theorem dX4_harmOf_14 : decode cX4_harmOf 14 = .ok (.ireturn, 1) := dk_172 (dk_at dksX4_harmOf_0 14 rfl rfl)
theorem dX4_harmOf_15 : decode cX4_harmOf 15 = .ok (.aload_n 0, 1) := dk_42 (dk_at dksX4_harmOf_0 15 rfl rfl)
theorem dX4_harmOf_16 : decode cX4_harmOf 16 = .ok (.iconst 5, 1) := dk_8 (dk_at dksX4_harmOf_0 16 rfl rfl)
theorem dX4_harmOf_17 : decode cX4_harmOf 17 = .ok (.aload_n 0, 1) := dk_42 (dk_at dksX4_harmOf_0 17 rfl rfl)
theorem dX4_harmOf_18 : decode cX4_harmOf 18 = .ok (.getfield 7, 3) := dk_180 0 7 (dk_at dksX4_harmOf_0 18 rfl rfl)
theorem dX4_harmOf_21 : decode cX4_harmOf 21 = .ok (.iconst 5, 1) := dk_8 (dk_at dksX4_harmOf_0 21 rfl rfl)
theorem dX4_harmOf_22 : decode cX4_harmOf 22 = .ok (.iaload, 1) := dk_46 (dk_at dksX4_harmOf_0 22 rfl rfl)
theorem dX4_harmOf_23 : decode cX4_harmOf 23 = .ok (.invokevirtual 374, 3) := dk_182 1 118 (dk_at dksX4_harmOf_1 0 rfl rfl)
theorem dX4_harmOf_26 : decode cX4_harmOf 26 = .ok (.istore_n 2, 1) := dk_61 (dk_at dksX4_harmOf_1 3 rfl rfl)
theorem dX4_harmOf_27 : decode cX4_harmOf 27 = .ok (.aload_n 0, 1) := dk_42 (dk_at dksX4_harmOf_1 4 rfl rfl)
theorem dX4_harmOf_28 : decode cX4_harmOf 28 = .ok (.bipush 25, 2) := dk_16 25 (dk_at dksX4_harmOf_1 5 rfl rfl)
theorem dX4_harmOf_30 : decode cX4_harmOf 30 = .ok (.bipush 10, 2) := dk_16 10 (dk_at dksX4_harmOf_1 7 rfl rfl)
theorem dX4_harmOf_32 : decode cX4_harmOf 32 = .ok (.iload_n 1, 1) := dk_27 (dk_at dksX4_harmOf_1 9 rfl rfl)
theorem dX4_harmOf_33 : decode cX4_harmOf 33 = .ok (.imul, 1) := dk_104 (dk_at dksX4_harmOf_1 10 rfl rfl)
theorem dX4_harmOf_34 : decode cX4_harmOf 34 = .ok (.iadd, 1) := dk_96 (dk_at dksX4_harmOf_1 11 rfl rfl)
theorem dX4_harmOf_35 : decode cX4_harmOf 35 = .ok (.bipush 9, 2) := dk_16 9 (dk_at dksX4_harmOf_1 12 rfl rfl)
theorem dX4_harmOf_37 : decode cX4_harmOf 37 = .ok (.iadd, 1) := dk_96 (dk_at dksX4_harmOf_1 14 rfl rfl)
theorem dX4_harmOf_38 : decode cX4_harmOf 38 = .ok (.iconst 1, 1) := dk_4 (dk_at dksX4_harmOf_1 15 rfl rfl)
theorem dX4_harmOf_39 : decode cX4_harmOf 39 = .ok (.invokevirtual 374, 3) := dk_182 1 118 (dk_at dksX4_harmOf_1 16 rfl rfl)
theorem dX4_harmOf_42 : decode cX4_harmOf 42 = .ok (.iload_n 2, 1) := dk_28 (dk_at dksX4_harmOf_1 19 rfl rfl)
theorem dX4_harmOf_43 : decode cX4_harmOf 43 = .ok (.isub, 1) := dk_100 (dk_at dksX4_harmOf_1 20 rfl rfl)
theorem dX4_harmOf_44 : decode cX4_harmOf 44 = .ok (.ireturn, 1) := dk_172 (dk_at dksX4_harmOf_1 21 rfl rfl)
abbrev cX4_reachOf : ByteArray := prog_20_method_109_code
def yX4_reachOf : MethodName := ⟨RX4, "reachOf", "(I)I"⟩
def dkwX4_reachOf_4 : List UInt8 := [167, 0, 4, 3, 184, 0, 99, 96, 61, 132, 3, 1, 167, 255, 214, 42, 28, 182, 1, 112, 172]
abbrev dktX4_reachOf_4 : List UInt8 := dkwX4_reachOf_4 ++ []
def dkwX4_reachOf_3 : List UInt8 := [42, 29, 16, 12, 108, 29, 16, 12, 112, 182, 0, 116, 42, 180, 0, 47, 29, 46, 159, 0, 7, 4]
abbrev dktX4_reachOf_3 : List UInt8 := dkwX4_reachOf_3 ++ dktX4_reachOf_4
def dkwX4_reachOf_2 : List UInt8 := [42, 182, 1, 109, 42, 27, 16, 9, 4, 182, 0, 63, 3, 61, 3, 62, 29, 17, 0, 192, 162, 0, 41, 28]
abbrev dktX4_reachOf_2 : List UInt8 := dkwX4_reachOf_2 ++ dktX4_reachOf_3
def dkwX4_reachOf_1 : List UInt8 := [42, 180, 0, 47, 28, 42, 28, 16, 12, 108, 28, 16, 12, 112, 182, 0, 116, 79, 132, 2, 1, 167, 255, 228]
abbrev dktX4_reachOf_1 : List UInt8 := dkwX4_reachOf_1 ++ dktX4_reachOf_2
def dkwX4_reachOf_0 : List UInt8 := [42, 3, 181, 0, 60, 42, 27, 182, 1, 81, 153, 0, 5, 3, 172, 3, 61, 28, 17, 0, 192, 162, 0, 27]
abbrev dktX4_reachOf_0 : List UInt8 := dkwX4_reachOf_0 ++ dktX4_reachOf_1
theorem dksX4_reachOf_0 : cX4_reachOf.data.toList.drop 0 = dktX4_reachOf_0 := by decide +kernel
theorem dksX4_reachOf_1 : cX4_reachOf.data.toList.drop 24 = dktX4_reachOf_1 := dk_seg dksX4_reachOf_0 24 rfl rfl
theorem dksX4_reachOf_2 : cX4_reachOf.data.toList.drop 48 = dktX4_reachOf_2 := dk_seg dksX4_reachOf_1 24 rfl rfl
theorem dksX4_reachOf_3 : cX4_reachOf.data.toList.drop 72 = dktX4_reachOf_3 := dk_seg dksX4_reachOf_2 24 rfl rfl
theorem dksX4_reachOf_4 : cX4_reachOf.data.toList.drop 94 = dktX4_reachOf_4 := dk_seg dksX4_reachOf_3 22 rfl rfl
theorem dX4_reachOf_0 : decode cX4_reachOf 0 = .ok (.aload_n 0, 1) := dk_42 (dk_at dksX4_reachOf_0 0 rfl rfl)
theorem dX4_reachOf_1 : decode cX4_reachOf 1 = .ok (.iconst 0, 1) := dk_3 (dk_at dksX4_reachOf_0 1 rfl rfl)
theorem dX4_reachOf_2 : decode cX4_reachOf 2 = .ok (.putfield 60, 3) := dk_181 0 60 (dk_at dksX4_reachOf_0 2 rfl rfl)
theorem dX4_reachOf_5 : decode cX4_reachOf 5 = .ok (.aload_n 0, 1) := dk_42 (dk_at dksX4_reachOf_0 5 rfl rfl)
theorem dX4_reachOf_6 : decode cX4_reachOf 6 = .ok (.iload_n 1, 1) := dk_27 (dk_at dksX4_reachOf_0 6 rfl rfl)
theorem dX4_reachOf_7 : decode cX4_reachOf 7 = .ok (.invokevirtual 337, 3) := dk_182 1 81 (dk_at dksX4_reachOf_0 7 rfl rfl)
theorem dX4_reachOf_10 : decode cX4_reachOf 10 = .ok (.ifCond .eq 5, 3) := dk_153 0 5 (dk_at dksX4_reachOf_0 10 rfl rfl)
theorem dX4_reachOf_13 : decode cX4_reachOf 13 = .ok (.iconst 0, 1) := dk_3 (dk_at dksX4_reachOf_0 13 rfl rfl)
theorem dX4_reachOf_14 : decode cX4_reachOf 14 = .ok (.ireturn, 1) := dk_172 (dk_at dksX4_reachOf_0 14 rfl rfl)
theorem dX4_reachOf_15 : decode cX4_reachOf 15 = .ok (.iconst 0, 1) := dk_3 (dk_at dksX4_reachOf_0 15 rfl rfl)
theorem dX4_reachOf_16 : decode cX4_reachOf 16 = .ok (.istore_n 2, 1) := dk_61 (dk_at dksX4_reachOf_0 16 rfl rfl)
theorem dX4_reachOf_17 : decode cX4_reachOf 17 = .ok (.iload_n 2, 1) := dk_28 (dk_at dksX4_reachOf_0 17 rfl rfl)
theorem dX4_reachOf_18 : decode cX4_reachOf 18 = .ok (.sipush 192, 3) := dk_17 0 192 (dk_at dksX4_reachOf_0 18 rfl rfl)
theorem dX4_reachOf_21 : decode cX4_reachOf 21 = .ok (.if_icmp .ge 27, 3) := dk_162 0 27 (dk_at dksX4_reachOf_0 21 rfl rfl)
theorem dX4_reachOf_24 : decode cX4_reachOf 24 = .ok (.aload_n 0, 1) := dk_42 (dk_at dksX4_reachOf_1 0 rfl rfl)
theorem dX4_reachOf_25 : decode cX4_reachOf 25 = .ok (.getfield 47, 3) := dk_180 0 47 (dk_at dksX4_reachOf_1 1 rfl rfl)
theorem dX4_reachOf_28 : decode cX4_reachOf 28 = .ok (.iload_n 2, 1) := dk_28 (dk_at dksX4_reachOf_1 4 rfl rfl)
theorem dX4_reachOf_29 : decode cX4_reachOf 29 = .ok (.aload_n 0, 1) := dk_42 (dk_at dksX4_reachOf_1 5 rfl rfl)
theorem dX4_reachOf_30 : decode cX4_reachOf 30 = .ok (.iload_n 2, 1) := dk_28 (dk_at dksX4_reachOf_1 6 rfl rfl)
theorem dX4_reachOf_31 : decode cX4_reachOf 31 = .ok (.bipush 12, 2) := dk_16 12 (dk_at dksX4_reachOf_1 7 rfl rfl)
theorem dX4_reachOf_33 : decode cX4_reachOf 33 = .ok (.idiv, 1) := dk_108 (dk_at dksX4_reachOf_1 9 rfl rfl)
theorem dX4_reachOf_34 : decode cX4_reachOf 34 = .ok (.iload_n 2, 1) := dk_28 (dk_at dksX4_reachOf_1 10 rfl rfl)
theorem dX4_reachOf_35 : decode cX4_reachOf 35 = .ok (.bipush 12, 2) := dk_16 12 (dk_at dksX4_reachOf_1 11 rfl rfl)
theorem dX4_reachOf_37 : decode cX4_reachOf 37 = .ok (.irem, 1) := dk_112 (dk_at dksX4_reachOf_1 13 rfl rfl)
theorem dX4_reachOf_38 : decode cX4_reachOf 38 = .ok (.invokevirtual 116, 3) := dk_182 0 116 (dk_at dksX4_reachOf_1 14 rfl rfl)
theorem dX4_reachOf_41 : decode cX4_reachOf 41 = .ok (.iastore, 1) := dk_79 (dk_at dksX4_reachOf_1 17 rfl rfl)
theorem dX4_reachOf_42 : decode cX4_reachOf 42 = .ok (.iinc 2 1, 3) := dk_132 2 1 (dk_at dksX4_reachOf_1 18 rfl rfl)
theorem dX4_reachOf_45 : decode cX4_reachOf 45 = .ok (.goto (-28), 3) := dk_167 255 228 (dk_at dksX4_reachOf_1 21 rfl rfl)
theorem dX4_reachOf_48 : decode cX4_reachOf 48 = .ok (.aload_n 0, 1) := dk_42 (dk_at dksX4_reachOf_2 0 rfl rfl)
theorem dX4_reachOf_49 : decode cX4_reachOf 49 = .ok (.invokevirtual 365, 3) := dk_182 1 109 (dk_at dksX4_reachOf_2 1 rfl rfl)
theorem dX4_reachOf_52 : decode cX4_reachOf 52 = .ok (.aload_n 0, 1) := dk_42 (dk_at dksX4_reachOf_2 4 rfl rfl)
theorem dX4_reachOf_53 : decode cX4_reachOf 53 = .ok (.iload_n 1, 1) := dk_27 (dk_at dksX4_reachOf_2 5 rfl rfl)
theorem dX4_reachOf_54 : decode cX4_reachOf 54 = .ok (.bipush 9, 2) := dk_16 9 (dk_at dksX4_reachOf_2 6 rfl rfl)
theorem dX4_reachOf_56 : decode cX4_reachOf 56 = .ok (.iconst 1, 1) := dk_4 (dk_at dksX4_reachOf_2 8 rfl rfl)
theorem dX4_reachOf_57 : decode cX4_reachOf 57 = .ok (.invokevirtual 63, 3) := dk_182 0 63 (dk_at dksX4_reachOf_2 9 rfl rfl)
theorem dX4_reachOf_60 : decode cX4_reachOf 60 = .ok (.iconst 0, 1) := dk_3 (dk_at dksX4_reachOf_2 12 rfl rfl)
theorem dX4_reachOf_61 : decode cX4_reachOf 61 = .ok (.istore_n 2, 1) := dk_61 (dk_at dksX4_reachOf_2 13 rfl rfl)
theorem dX4_reachOf_62 : decode cX4_reachOf 62 = .ok (.iconst 0, 1) := dk_3 (dk_at dksX4_reachOf_2 14 rfl rfl)
theorem dX4_reachOf_63 : decode cX4_reachOf 63 = .ok (.istore_n 3, 1) := dk_62 (dk_at dksX4_reachOf_2 15 rfl rfl)
theorem dX4_reachOf_64 : decode cX4_reachOf 64 = .ok (.iload_n 3, 1) := dk_29 (dk_at dksX4_reachOf_2 16 rfl rfl)
theorem dX4_reachOf_65 : decode cX4_reachOf 65 = .ok (.sipush 192, 3) := dk_17 0 192 (dk_at dksX4_reachOf_2 17 rfl rfl)
theorem dX4_reachOf_68 : decode cX4_reachOf 68 = .ok (.if_icmp .ge 41, 3) := dk_162 0 41 (dk_at dksX4_reachOf_2 20 rfl rfl)
theorem dX4_reachOf_71 : decode cX4_reachOf 71 = .ok (.iload_n 2, 1) := dk_28 (dk_at dksX4_reachOf_2 23 rfl rfl)
theorem dX4_reachOf_72 : decode cX4_reachOf 72 = .ok (.aload_n 0, 1) := dk_42 (dk_at dksX4_reachOf_3 0 rfl rfl)
theorem dX4_reachOf_73 : decode cX4_reachOf 73 = .ok (.iload_n 3, 1) := dk_29 (dk_at dksX4_reachOf_3 1 rfl rfl)
theorem dX4_reachOf_74 : decode cX4_reachOf 74 = .ok (.bipush 12, 2) := dk_16 12 (dk_at dksX4_reachOf_3 2 rfl rfl)
theorem dX4_reachOf_76 : decode cX4_reachOf 76 = .ok (.idiv, 1) := dk_108 (dk_at dksX4_reachOf_3 4 rfl rfl)
theorem dX4_reachOf_77 : decode cX4_reachOf 77 = .ok (.iload_n 3, 1) := dk_29 (dk_at dksX4_reachOf_3 5 rfl rfl)
theorem dX4_reachOf_78 : decode cX4_reachOf 78 = .ok (.bipush 12, 2) := dk_16 12 (dk_at dksX4_reachOf_3 6 rfl rfl)
theorem dX4_reachOf_80 : decode cX4_reachOf 80 = .ok (.irem, 1) := dk_112 (dk_at dksX4_reachOf_3 8 rfl rfl)
theorem dX4_reachOf_81 : decode cX4_reachOf 81 = .ok (.invokevirtual 116, 3) := dk_182 0 116 (dk_at dksX4_reachOf_3 9 rfl rfl)
theorem dX4_reachOf_84 : decode cX4_reachOf 84 = .ok (.aload_n 0, 1) := dk_42 (dk_at dksX4_reachOf_3 12 rfl rfl)
theorem dX4_reachOf_85 : decode cX4_reachOf 85 = .ok (.getfield 47, 3) := dk_180 0 47 (dk_at dksX4_reachOf_3 13 rfl rfl)
theorem dX4_reachOf_88 : decode cX4_reachOf 88 = .ok (.iload_n 3, 1) := dk_29 (dk_at dksX4_reachOf_3 16 rfl rfl)
theorem dX4_reachOf_89 : decode cX4_reachOf 89 = .ok (.iaload, 1) := dk_46 (dk_at dksX4_reachOf_3 17 rfl rfl)
theorem dX4_reachOf_90 : decode cX4_reachOf 90 = .ok (.if_icmp .eq 7, 3) := dk_159 0 7 (dk_at dksX4_reachOf_3 18 rfl rfl)
theorem dX4_reachOf_93 : decode cX4_reachOf 93 = .ok (.iconst 1, 1) := dk_4 (dk_at dksX4_reachOf_3 21 rfl rfl)
theorem dX4_reachOf_94 : decode cX4_reachOf 94 = .ok (.goto 4, 3) := dk_167 0 4 (dk_at dksX4_reachOf_4 0 rfl rfl)
theorem dX4_reachOf_97 : decode cX4_reachOf 97 = .ok (.iconst 0, 1) := dk_3 (dk_at dksX4_reachOf_4 3 rfl rfl)
theorem dX4_reachOf_98 : decode cX4_reachOf 98 = .ok (.invokestatic 99, 3) := dk_184 0 99 (dk_at dksX4_reachOf_4 4 rfl rfl)
theorem dX4_reachOf_101 : decode cX4_reachOf 101 = .ok (.iadd, 1) := dk_96 (dk_at dksX4_reachOf_4 7 rfl rfl)
theorem dX4_reachOf_102 : decode cX4_reachOf 102 = .ok (.istore_n 2, 1) := dk_61 (dk_at dksX4_reachOf_4 8 rfl rfl)
theorem dX4_reachOf_103 : decode cX4_reachOf 103 = .ok (.iinc 3 1, 3) := dk_132 3 1 (dk_at dksX4_reachOf_4 9 rfl rfl)
theorem dX4_reachOf_106 : decode cX4_reachOf 106 = .ok (.goto (-42), 3) := dk_167 255 214 (dk_at dksX4_reachOf_4 12 rfl rfl)
theorem dX4_reachOf_109 : decode cX4_reachOf 109 = .ok (.aload_n 0, 1) := dk_42 (dk_at dksX4_reachOf_4 15 rfl rfl)
theorem dX4_reachOf_110 : decode cX4_reachOf 110 = .ok (.iload_n 2, 1) := dk_28 (dk_at dksX4_reachOf_4 16 rfl rfl)
theorem dX4_reachOf_111 : decode cX4_reachOf 111 = .ok (.invokevirtual 368, 3) := dk_182 1 112 (dk_at dksX4_reachOf_4 17 rfl rfl)
theorem dX4_reachOf_114 : decode cX4_reachOf 114 = .ok (.ireturn, 1) := dk_172 (dk_at dksX4_reachOf_4 20 rfl rfl)
abbrev cX4_agree : ByteArray := prog_20_method_113_code
def yX4_agree : MethodName := ⟨RX4, "agree", "()Z"⟩
def dkwX4_agree_5 : List UInt8 := [153, 0, 7, 4, 167, 0, 4, 3, 172]
abbrev dktX4_agree_5 : List UInt8 := dkwX4_agree_5 ++ []
def dkwX4_agree_4 : List UInt8 := [180, 0, 7, 16, 12, 46, 160, 0, 25, 28, 42, 180, 0, 7, 16, 13, 46, 160, 0, 14, 42, 182, 1, 127]
abbrev dktX4_agree_4 : List UInt8 := dkwX4_agree_4 ++ dktX4_agree_5
def dkwX4_agree_3 : List UInt8 := [182, 0, 67, 96, 60, 28, 42, 29, 16, 8, 182, 0, 67, 96, 61, 132, 3, 1, 167, 255, 213, 27, 42]
abbrev dktX4_agree_3 : List UInt8 := dkwX4_agree_3 ++ dktX4_agree_4
def dkwX4_agree_2 : List UInt8 := [180, 0, 7, 3, 46, 162, 0, 39, 42, 29, 182, 1, 124, 154, 0, 5, 3, 172, 27, 42, 29, 16, 7]
abbrev dktX4_agree_2 : List UInt8 := dkwX4_agree_2 ++ dktX4_agree_3
def dkwX4_agree_1 : List UInt8 := [182, 1, 121, 154, 0, 5, 3, 172, 132, 1, 1, 167, 255, 229, 3, 60, 3, 61, 3, 62, 29, 42]
abbrev dktX4_agree_1 : List UInt8 := dkwX4_agree_1 ++ dktX4_agree_2
def dkwX4_agree_0 : List UInt8 := [42, 3, 181, 0, 60, 3, 60, 27, 17, 0, 192, 162, 0, 26, 42, 27, 16, 12, 108, 27, 16, 12, 112]
abbrev dktX4_agree_0 : List UInt8 := dkwX4_agree_0 ++ dktX4_agree_1
theorem dksX4_agree_0 : cX4_agree.data.toList.drop 0 = dktX4_agree_0 := by decide +kernel
theorem dksX4_agree_1 : cX4_agree.data.toList.drop 23 = dktX4_agree_1 := dk_seg dksX4_agree_0 23 rfl rfl
theorem dksX4_agree_2 : cX4_agree.data.toList.drop 45 = dktX4_agree_2 := dk_seg dksX4_agree_1 22 rfl rfl
theorem dksX4_agree_3 : cX4_agree.data.toList.drop 68 = dktX4_agree_3 := dk_seg dksX4_agree_2 23 rfl rfl
theorem dksX4_agree_4 : cX4_agree.data.toList.drop 91 = dktX4_agree_4 := dk_seg dksX4_agree_3 23 rfl rfl
theorem dksX4_agree_5 : cX4_agree.data.toList.drop 115 = dktX4_agree_5 := dk_seg dksX4_agree_4 24 rfl rfl
theorem dX4_agree_0 : decode cX4_agree 0 = .ok (.aload_n 0, 1) := dk_42 (dk_at dksX4_agree_0 0 rfl rfl)
theorem dX4_agree_1 : decode cX4_agree 1 = .ok (.iconst 0, 1) := dk_3 (dk_at dksX4_agree_0 1 rfl rfl)
theorem dX4_agree_2 : decode cX4_agree 2 = .ok (.putfield 60, 3) := dk_181 0 60 (dk_at dksX4_agree_0 2 rfl rfl)
theorem dX4_agree_5 : decode cX4_agree 5 = .ok (.iconst 0, 1) := dk_3 (dk_at dksX4_agree_0 5 rfl rfl)
theorem dX4_agree_6 : decode cX4_agree 6 = .ok (.istore_n 1, 1) := dk_60 (dk_at dksX4_agree_0 6 rfl rfl)
theorem dX4_agree_7 : decode cX4_agree 7 = .ok (.iload_n 1, 1) := dk_27 (dk_at dksX4_agree_0 7 rfl rfl)
theorem dX4_agree_8 : decode cX4_agree 8 = .ok (.sipush 192, 3) := dk_17 0 192 (dk_at dksX4_agree_0 8 rfl rfl)
theorem dX4_agree_11 : decode cX4_agree 11 = .ok (.if_icmp .ge 26, 3) := dk_162 0 26 (dk_at dksX4_agree_0 11 rfl rfl)
theorem dX4_agree_14 : decode cX4_agree 14 = .ok (.aload_n 0, 1) := dk_42 (dk_at dksX4_agree_0 14 rfl rfl)
theorem dX4_agree_15 : decode cX4_agree 15 = .ok (.iload_n 1, 1) := dk_27 (dk_at dksX4_agree_0 15 rfl rfl)
theorem dX4_agree_16 : decode cX4_agree 16 = .ok (.bipush 12, 2) := dk_16 12 (dk_at dksX4_agree_0 16 rfl rfl)
theorem dX4_agree_18 : decode cX4_agree 18 = .ok (.idiv, 1) := dk_108 (dk_at dksX4_agree_0 18 rfl rfl)
theorem dX4_agree_19 : decode cX4_agree 19 = .ok (.iload_n 1, 1) := dk_27 (dk_at dksX4_agree_0 19 rfl rfl)
theorem dX4_agree_20 : decode cX4_agree 20 = .ok (.bipush 12, 2) := dk_16 12 (dk_at dksX4_agree_0 20 rfl rfl)
theorem dX4_agree_22 : decode cX4_agree 22 = .ok (.irem, 1) := dk_112 (dk_at dksX4_agree_0 22 rfl rfl)
theorem dX4_agree_23 : decode cX4_agree 23 = .ok (.invokevirtual 377, 3) := dk_182 1 121 (dk_at dksX4_agree_1 0 rfl rfl)
theorem dX4_agree_26 : decode cX4_agree 26 = .ok (.ifCond .ne 5, 3) := dk_154 0 5 (dk_at dksX4_agree_1 3 rfl rfl)
theorem dX4_agree_29 : decode cX4_agree 29 = .ok (.iconst 0, 1) := dk_3 (dk_at dksX4_agree_1 6 rfl rfl)
theorem dX4_agree_30 : decode cX4_agree 30 = .ok (.ireturn, 1) := dk_172 (dk_at dksX4_agree_1 7 rfl rfl)
theorem dX4_agree_31 : decode cX4_agree 31 = .ok (.iinc 1 1, 3) := dk_132 1 1 (dk_at dksX4_agree_1 8 rfl rfl)
theorem dX4_agree_34 : decode cX4_agree 34 = .ok (.goto (-27), 3) := dk_167 255 229 (dk_at dksX4_agree_1 11 rfl rfl)
theorem dX4_agree_37 : decode cX4_agree 37 = .ok (.iconst 0, 1) := dk_3 (dk_at dksX4_agree_1 14 rfl rfl)
theorem dX4_agree_38 : decode cX4_agree 38 = .ok (.istore_n 1, 1) := dk_60 (dk_at dksX4_agree_1 15 rfl rfl)
theorem dX4_agree_39 : decode cX4_agree 39 = .ok (.iconst 0, 1) := dk_3 (dk_at dksX4_agree_1 16 rfl rfl)
theorem dX4_agree_40 : decode cX4_agree 40 = .ok (.istore_n 2, 1) := dk_61 (dk_at dksX4_agree_1 17 rfl rfl)
theorem dX4_agree_41 : decode cX4_agree 41 = .ok (.iconst 0, 1) := dk_3 (dk_at dksX4_agree_1 18 rfl rfl)
theorem dX4_agree_42 : decode cX4_agree 42 = .ok (.istore_n 3, 1) := dk_62 (dk_at dksX4_agree_1 19 rfl rfl)
theorem dX4_agree_43 : decode cX4_agree 43 = .ok (.iload_n 3, 1) := dk_29 (dk_at dksX4_agree_1 20 rfl rfl)
theorem dX4_agree_44 : decode cX4_agree 44 = .ok (.aload_n 0, 1) := dk_42 (dk_at dksX4_agree_1 21 rfl rfl)
theorem dX4_agree_45 : decode cX4_agree 45 = .ok (.getfield 7, 3) := dk_180 0 7 (dk_at dksX4_agree_2 0 rfl rfl)
theorem dX4_agree_48 : decode cX4_agree 48 = .ok (.iconst 0, 1) := dk_3 (dk_at dksX4_agree_2 3 rfl rfl)
theorem dX4_agree_49 : decode cX4_agree 49 = .ok (.iaload, 1) := dk_46 (dk_at dksX4_agree_2 4 rfl rfl)
theorem dX4_agree_50 : decode cX4_agree 50 = .ok (.if_icmp .ge 39, 3) := dk_162 0 39 (dk_at dksX4_agree_2 5 rfl rfl)
theorem dX4_agree_53 : decode cX4_agree 53 = .ok (.aload_n 0, 1) := dk_42 (dk_at dksX4_agree_2 8 rfl rfl)
theorem dX4_agree_54 : decode cX4_agree 54 = .ok (.iload_n 3, 1) := dk_29 (dk_at dksX4_agree_2 9 rfl rfl)
theorem dX4_agree_55 : decode cX4_agree 55 = .ok (.invokevirtual 380, 3) := dk_182 1 124 (dk_at dksX4_agree_2 10 rfl rfl)
theorem dX4_agree_58 : decode cX4_agree 58 = .ok (.ifCond .ne 5, 3) := dk_154 0 5 (dk_at dksX4_agree_2 13 rfl rfl)
theorem dX4_agree_61 : decode cX4_agree 61 = .ok (.iconst 0, 1) := dk_3 (dk_at dksX4_agree_2 16 rfl rfl)
theorem dX4_agree_62 : decode cX4_agree 62 = .ok (.ireturn, 1) := dk_172 (dk_at dksX4_agree_2 17 rfl rfl)
theorem dX4_agree_63 : decode cX4_agree 63 = .ok (.iload_n 1, 1) := dk_27 (dk_at dksX4_agree_2 18 rfl rfl)
theorem dX4_agree_64 : decode cX4_agree 64 = .ok (.aload_n 0, 1) := dk_42 (dk_at dksX4_agree_2 19 rfl rfl)
theorem dX4_agree_65 : decode cX4_agree 65 = .ok (.iload_n 3, 1) := dk_29 (dk_at dksX4_agree_2 20 rfl rfl)
theorem dX4_agree_66 : decode cX4_agree 66 = .ok (.bipush 7, 2) := dk_16 7 (dk_at dksX4_agree_2 21 rfl rfl)
theorem dX4_agree_68 : decode cX4_agree 68 = .ok (.invokevirtual 67, 3) := dk_182 0 67 (dk_at dksX4_agree_3 0 rfl rfl)
theorem dX4_agree_71 : decode cX4_agree 71 = .ok (.iadd, 1) := dk_96 (dk_at dksX4_agree_3 3 rfl rfl)
theorem dX4_agree_72 : decode cX4_agree 72 = .ok (.istore_n 1, 1) := dk_60 (dk_at dksX4_agree_3 4 rfl rfl)
theorem dX4_agree_73 : decode cX4_agree 73 = .ok (.iload_n 2, 1) := dk_28 (dk_at dksX4_agree_3 5 rfl rfl)
theorem dX4_agree_74 : decode cX4_agree 74 = .ok (.aload_n 0, 1) := dk_42 (dk_at dksX4_agree_3 6 rfl rfl)
theorem dX4_agree_75 : decode cX4_agree 75 = .ok (.iload_n 3, 1) := dk_29 (dk_at dksX4_agree_3 7 rfl rfl)
theorem dX4_agree_76 : decode cX4_agree 76 = .ok (.bipush 8, 2) := dk_16 8 (dk_at dksX4_agree_3 8 rfl rfl)
theorem dX4_agree_78 : decode cX4_agree 78 = .ok (.invokevirtual 67, 3) := dk_182 0 67 (dk_at dksX4_agree_3 10 rfl rfl)
theorem dX4_agree_81 : decode cX4_agree 81 = .ok (.iadd, 1) := dk_96 (dk_at dksX4_agree_3 13 rfl rfl)
theorem dX4_agree_82 : decode cX4_agree 82 = .ok (.istore_n 2, 1) := dk_61 (dk_at dksX4_agree_3 14 rfl rfl)
theorem dX4_agree_83 : decode cX4_agree 83 = .ok (.iinc 3 1, 3) := dk_132 3 1 (dk_at dksX4_agree_3 15 rfl rfl)
theorem dX4_agree_86 : decode cX4_agree 86 = .ok (.goto (-43), 3) := dk_167 255 213 (dk_at dksX4_agree_3 18 rfl rfl)
theorem dX4_agree_89 : decode cX4_agree 89 = .ok (.iload_n 1, 1) := dk_27 (dk_at dksX4_agree_3 21 rfl rfl)
theorem dX4_agree_90 : decode cX4_agree 90 = .ok (.aload_n 0, 1) := dk_42 (dk_at dksX4_agree_3 22 rfl rfl)
theorem dX4_agree_91 : decode cX4_agree 91 = .ok (.getfield 7, 3) := dk_180 0 7 (dk_at dksX4_agree_4 0 rfl rfl)
theorem dX4_agree_94 : decode cX4_agree 94 = .ok (.bipush 12, 2) := dk_16 12 (dk_at dksX4_agree_4 3 rfl rfl)
theorem dX4_agree_96 : decode cX4_agree 96 = .ok (.iaload, 1) := dk_46 (dk_at dksX4_agree_4 5 rfl rfl)
theorem dX4_agree_97 : decode cX4_agree 97 = .ok (.if_icmp .ne 25, 3) := dk_160 0 25 (dk_at dksX4_agree_4 6 rfl rfl)
theorem dX4_agree_100 : decode cX4_agree 100 = .ok (.iload_n 2, 1) := dk_28 (dk_at dksX4_agree_4 9 rfl rfl)
theorem dX4_agree_101 : decode cX4_agree 101 = .ok (.aload_n 0, 1) := dk_42 (dk_at dksX4_agree_4 10 rfl rfl)
theorem dX4_agree_102 : decode cX4_agree 102 = .ok (.getfield 7, 3) := dk_180 0 7 (dk_at dksX4_agree_4 11 rfl rfl)
theorem dX4_agree_105 : decode cX4_agree 105 = .ok (.bipush 13, 2) := dk_16 13 (dk_at dksX4_agree_4 14 rfl rfl)
theorem dX4_agree_107 : decode cX4_agree 107 = .ok (.iaload, 1) := dk_46 (dk_at dksX4_agree_4 16 rfl rfl)
theorem dX4_agree_108 : decode cX4_agree 108 = .ok (.if_icmp .ne 14, 3) := dk_160 0 14 (dk_at dksX4_agree_4 17 rfl rfl)
theorem dX4_agree_111 : decode cX4_agree 111 = .ok (.aload_n 0, 1) := dk_42 (dk_at dksX4_agree_4 20 rfl rfl)
theorem dX4_agree_112 : decode cX4_agree 112 = .ok (.invokevirtual 383, 3) := dk_182 1 127 (dk_at dksX4_agree_4 21 rfl rfl)
theorem dX4_agree_115 : decode cX4_agree 115 = .ok (.ifCond .eq 7, 3) := dk_153 0 7 (dk_at dksX4_agree_5 0 rfl rfl)
theorem dX4_agree_118 : decode cX4_agree 118 = .ok (.iconst 1, 1) := dk_4 (dk_at dksX4_agree_5 3 rfl rfl)
theorem dX4_agree_119 : decode cX4_agree 119 = .ok (.goto 4, 3) := dk_167 0 4 (dk_at dksX4_agree_5 4 rfl rfl)
theorem dX4_agree_122 : decode cX4_agree 122 = .ok (.iconst 0, 1) := dk_3 (dk_at dksX4_agree_5 7 rfl rfl)
theorem dX4_agree_123 : decode cX4_agree 123 = .ok (.ireturn, 1) := dk_172 (dk_at dksX4_agree_5 8 rfl rfl)
abbrev cX4_isToldRight : ByteArray := prog_20_method_110_code
def yX4_isToldRight : MethodName := ⟨RX4, "isToldRight", "(II)Z"⟩
def dkwX4_isToldRight_9 : List UInt8 := [21, 9, 21, 4, 160, 0, 11, 21, 5, 29, 162, 0, 5, 3, 172, 132, 5, 1, 167, 255, 68, 4, 172]
abbrev dktX4_isToldRight_9 : List UInt8 := dkwX4_isToldRight_9 ++ []
def dkwX4_isToldRight_8 : List UInt8 := [21, 7, 167, 0, 12, 17, 3, 232, 21, 8, 104, 21, 7, 96, 54, 9, 21, 9, 21, 4, 163, 0, 16]
abbrev dktX4_isToldRight_8 : List UInt8 := dkwX4_isToldRight_8 ++ dktX4_isToldRight_9
def dkwX4_isToldRight_7 : List UInt8 := [180, 0, 7, 8, 46, 154, 0, 8, 21, 6, 167, 0, 27, 42, 180, 0, 7, 8, 46, 4, 160, 0, 8]
abbrev dktX4_isToldRight_7 : List UInt8 := dkwX4_isToldRight_7 ++ dktX4_isToldRight_8
def dkwX4_isToldRight_6 : List UInt8 := [167, 0, 5, 21, 7, 54, 7, 21, 8, 21, 10, 184, 0, 99, 96, 54, 8, 132, 9, 255, 167, 255, 161, 42]
abbrev dktX4_isToldRight_6 : List UInt8 := dkwX4_isToldRight_6 ++ dktX4_isToldRight_7
def dkwX4_isToldRight_5 : List UInt8 := [3, 96, 54, 6, 21, 10, 153, 0, 19, 21, 7, 42, 21, 9, 16, 6, 182, 0, 67, 184, 0, 103]
abbrev dktX4_isToldRight_5 : List UInt8 := dkwX4_isToldRight_5 ++ dktX4_isToldRight_6
def dkwX4_isToldRight_4 : List UInt8 := [167, 0, 4, 3, 54, 10, 21, 6, 21, 10, 153, 0, 14, 42, 21, 9, 16, 6, 182, 0, 67, 167, 0, 4]
abbrev dktX4_isToldRight_4 : List UInt8 := dkwX4_isToldRight_4 ++ dktX4_isToldRight_5
def dkwX4_isToldRight_3 : List UInt8 := [21, 9, 7, 182, 0, 67, 21, 5, 160, 0, 18, 42, 21, 9, 27, 28, 182, 0, 95, 153, 0, 7, 4]
abbrev dktX4_isToldRight_3 : List UInt8 := dkwX4_isToldRight_3 ++ dktX4_isToldRight_4
def dkwX4_isToldRight_2 : List UInt8 := [54, 6, 3, 54, 7, 3, 54, 8, 42, 180, 0, 7, 3, 46, 4, 100, 54, 9, 21, 9, 155, 0, 96, 42]
abbrev dktX4_isToldRight_2 : List UInt8 := dkwX4_isToldRight_2 ++ dktX4_isToldRight_3
def dkwX4_isToldRight_1 : List UInt8 := [167, 0, 4, 3, 172, 42, 27, 28, 29, 182, 0, 106, 54, 4, 3, 54, 5, 21, 5, 8, 162, 0, 188, 3]
abbrev dktX4_isToldRight_1 : List UInt8 := dkwX4_isToldRight_1 ++ dktX4_isToldRight_2
def dkwX4_isToldRight_0 : List UInt8 := [42, 27, 28, 182, 0, 116, 62, 29, 2, 160, 0, 18, 42, 27, 28, 182, 1, 62, 154, 0, 7, 4]
abbrev dktX4_isToldRight_0 : List UInt8 := dkwX4_isToldRight_0 ++ dktX4_isToldRight_1
theorem dksX4_isToldRight_0 : cX4_isToldRight.data.toList.drop 0 = dktX4_isToldRight_0 := by decide +kernel
theorem dksX4_isToldRight_1 : cX4_isToldRight.data.toList.drop 22 = dktX4_isToldRight_1 := dk_seg dksX4_isToldRight_0 22 rfl rfl
theorem dksX4_isToldRight_2 : cX4_isToldRight.data.toList.drop 46 = dktX4_isToldRight_2 := dk_seg dksX4_isToldRight_1 24 rfl rfl
theorem dksX4_isToldRight_3 : cX4_isToldRight.data.toList.drop 70 = dktX4_isToldRight_3 := dk_seg dksX4_isToldRight_2 24 rfl rfl
theorem dksX4_isToldRight_4 : cX4_isToldRight.data.toList.drop 93 = dktX4_isToldRight_4 := dk_seg dksX4_isToldRight_3 23 rfl rfl
theorem dksX4_isToldRight_5 : cX4_isToldRight.data.toList.drop 117 = dktX4_isToldRight_5 := dk_seg dksX4_isToldRight_4 24 rfl rfl
theorem dksX4_isToldRight_6 : cX4_isToldRight.data.toList.drop 139 = dktX4_isToldRight_6 := dk_seg dksX4_isToldRight_5 22 rfl rfl
theorem dksX4_isToldRight_7 : cX4_isToldRight.data.toList.drop 163 = dktX4_isToldRight_7 := dk_seg dksX4_isToldRight_6 24 rfl rfl
theorem dksX4_isToldRight_8 : cX4_isToldRight.data.toList.drop 186 = dktX4_isToldRight_8 := dk_seg dksX4_isToldRight_7 23 rfl rfl
theorem dksX4_isToldRight_9 : cX4_isToldRight.data.toList.drop 209 = dktX4_isToldRight_9 := dk_seg dksX4_isToldRight_8 23 rfl rfl
theorem dX4_isToldRight_0 : decode cX4_isToldRight 0 = .ok (.aload_n 0, 1) := dk_42 (dk_at dksX4_isToldRight_0 0 rfl rfl)
theorem dX4_isToldRight_1 : decode cX4_isToldRight 1 = .ok (.iload_n 1, 1) := dk_27 (dk_at dksX4_isToldRight_0 1 rfl rfl)
theorem dX4_isToldRight_2 : decode cX4_isToldRight 2 = .ok (.iload_n 2, 1) := dk_28 (dk_at dksX4_isToldRight_0 2 rfl rfl)
theorem dX4_isToldRight_3 : decode cX4_isToldRight 3 = .ok (.invokevirtual 116, 3) := dk_182 0 116 (dk_at dksX4_isToldRight_0 3 rfl rfl)
theorem dX4_isToldRight_6 : decode cX4_isToldRight 6 = .ok (.istore_n 3, 1) := dk_62 (dk_at dksX4_isToldRight_0 6 rfl rfl)
theorem dX4_isToldRight_7 : decode cX4_isToldRight 7 = .ok (.iload_n 3, 1) := dk_29 (dk_at dksX4_isToldRight_0 7 rfl rfl)
theorem dX4_isToldRight_8 : decode cX4_isToldRight 8 = .ok (.iconst (-1), 1) := dk_2 (dk_at dksX4_isToldRight_0 8 rfl rfl)
theorem dX4_isToldRight_9 : decode cX4_isToldRight 9 = .ok (.if_icmp .ne 18, 3) := dk_160 0 18 (dk_at dksX4_isToldRight_0 9 rfl rfl)
theorem dX4_isToldRight_12 : decode cX4_isToldRight 12 = .ok (.aload_n 0, 1) := dk_42 (dk_at dksX4_isToldRight_0 12 rfl rfl)
theorem dX4_isToldRight_13 : decode cX4_isToldRight 13 = .ok (.iload_n 1, 1) := dk_27 (dk_at dksX4_isToldRight_0 13 rfl rfl)
theorem dX4_isToldRight_14 : decode cX4_isToldRight 14 = .ok (.iload_n 2, 1) := dk_28 (dk_at dksX4_isToldRight_0 14 rfl rfl)
theorem dX4_isToldRight_15 : decode cX4_isToldRight 15 = .ok (.invokevirtual 318, 3) := dk_182 1 62 (dk_at dksX4_isToldRight_0 15 rfl rfl)
theorem dX4_isToldRight_18 : decode cX4_isToldRight 18 = .ok (.ifCond .ne 7, 3) := dk_154 0 7 (dk_at dksX4_isToldRight_0 18 rfl rfl)
theorem dX4_isToldRight_21 : decode cX4_isToldRight 21 = .ok (.iconst 1, 1) := dk_4 (dk_at dksX4_isToldRight_0 21 rfl rfl)
theorem dX4_isToldRight_22 : decode cX4_isToldRight 22 = .ok (.goto 4, 3) := dk_167 0 4 (dk_at dksX4_isToldRight_1 0 rfl rfl)
theorem dX4_isToldRight_25 : decode cX4_isToldRight 25 = .ok (.iconst 0, 1) := dk_3 (dk_at dksX4_isToldRight_1 3 rfl rfl)
theorem dX4_isToldRight_26 : decode cX4_isToldRight 26 = .ok (.ireturn, 1) := dk_172 (dk_at dksX4_isToldRight_1 4 rfl rfl)
theorem dX4_isToldRight_27 : decode cX4_isToldRight 27 = .ok (.aload_n 0, 1) := dk_42 (dk_at dksX4_isToldRight_1 5 rfl rfl)
theorem dX4_isToldRight_28 : decode cX4_isToldRight 28 = .ok (.iload_n 1, 1) := dk_27 (dk_at dksX4_isToldRight_1 6 rfl rfl)
theorem dX4_isToldRight_29 : decode cX4_isToldRight 29 = .ok (.iload_n 2, 1) := dk_28 (dk_at dksX4_isToldRight_1 7 rfl rfl)
theorem dX4_isToldRight_30 : decode cX4_isToldRight 30 = .ok (.iload_n 3, 1) := dk_29 (dk_at dksX4_isToldRight_1 8 rfl rfl)
theorem dX4_isToldRight_31 : decode cX4_isToldRight 31 = .ok (.invokevirtual 106, 3) := dk_182 0 106 (dk_at dksX4_isToldRight_1 9 rfl rfl)
theorem dX4_isToldRight_34 : decode cX4_isToldRight 34 = .ok (.istore 4, 2) := dk_54 4 (dk_at dksX4_isToldRight_1 12 rfl rfl)
theorem dX4_isToldRight_36 : decode cX4_isToldRight 36 = .ok (.iconst 0, 1) := dk_3 (dk_at dksX4_isToldRight_1 14 rfl rfl)
theorem dX4_isToldRight_37 : decode cX4_isToldRight 37 = .ok (.istore 5, 2) := dk_54 5 (dk_at dksX4_isToldRight_1 15 rfl rfl)
theorem dX4_isToldRight_39 : decode cX4_isToldRight 39 = .ok (.iload 5, 2) := dk_21 5 (dk_at dksX4_isToldRight_1 17 rfl rfl)
theorem dX4_isToldRight_41 : decode cX4_isToldRight 41 = .ok (.iconst 5, 1) := dk_8 (dk_at dksX4_isToldRight_1 19 rfl rfl)
theorem dX4_isToldRight_42 : decode cX4_isToldRight 42 = .ok (.if_icmp .ge 188, 3) := dk_162 0 188 (dk_at dksX4_isToldRight_1 20 rfl rfl)
theorem dX4_isToldRight_45 : decode cX4_isToldRight 45 = .ok (.iconst 0, 1) := dk_3 (dk_at dksX4_isToldRight_1 23 rfl rfl)
theorem dX4_isToldRight_46 : decode cX4_isToldRight 46 = .ok (.istore 6, 2) := dk_54 6 (dk_at dksX4_isToldRight_2 0 rfl rfl)
theorem dX4_isToldRight_48 : decode cX4_isToldRight 48 = .ok (.iconst 0, 1) := dk_3 (dk_at dksX4_isToldRight_2 2 rfl rfl)
theorem dX4_isToldRight_49 : decode cX4_isToldRight 49 = .ok (.istore 7, 2) := dk_54 7 (dk_at dksX4_isToldRight_2 3 rfl rfl)
theorem dX4_isToldRight_51 : decode cX4_isToldRight 51 = .ok (.iconst 0, 1) := dk_3 (dk_at dksX4_isToldRight_2 5 rfl rfl)
theorem dX4_isToldRight_52 : decode cX4_isToldRight 52 = .ok (.istore 8, 2) := dk_54 8 (dk_at dksX4_isToldRight_2 6 rfl rfl)
theorem dX4_isToldRight_54 : decode cX4_isToldRight 54 = .ok (.aload_n 0, 1) := dk_42 (dk_at dksX4_isToldRight_2 8 rfl rfl)
theorem dX4_isToldRight_55 : decode cX4_isToldRight 55 = .ok (.getfield 7, 3) := dk_180 0 7 (dk_at dksX4_isToldRight_2 9 rfl rfl)
theorem dX4_isToldRight_58 : decode cX4_isToldRight 58 = .ok (.iconst 0, 1) := dk_3 (dk_at dksX4_isToldRight_2 12 rfl rfl)
theorem dX4_isToldRight_59 : decode cX4_isToldRight 59 = .ok (.iaload, 1) := dk_46 (dk_at dksX4_isToldRight_2 13 rfl rfl)
theorem dX4_isToldRight_60 : decode cX4_isToldRight 60 = .ok (.iconst 1, 1) := dk_4 (dk_at dksX4_isToldRight_2 14 rfl rfl)
theorem dX4_isToldRight_61 : decode cX4_isToldRight 61 = .ok (.isub, 1) := dk_100 (dk_at dksX4_isToldRight_2 15 rfl rfl)
theorem dX4_isToldRight_62 : decode cX4_isToldRight 62 = .ok (.istore 9, 2) := dk_54 9 (dk_at dksX4_isToldRight_2 16 rfl rfl)
theorem dX4_isToldRight_64 : decode cX4_isToldRight 64 = .ok (.iload 9, 2) := dk_21 9 (dk_at dksX4_isToldRight_2 18 rfl rfl)
theorem dX4_isToldRight_66 : decode cX4_isToldRight 66 = .ok (.ifCond .lt 96, 3) := dk_155 0 96 (dk_at dksX4_isToldRight_2 20 rfl rfl)
theorem dX4_isToldRight_69 : decode cX4_isToldRight 69 = .ok (.aload_n 0, 1) := dk_42 (dk_at dksX4_isToldRight_2 23 rfl rfl)
theorem dX4_isToldRight_70 : decode cX4_isToldRight 70 = .ok (.iload 9, 2) := dk_21 9 (dk_at dksX4_isToldRight_3 0 rfl rfl)
theorem dX4_isToldRight_72 : decode cX4_isToldRight 72 = .ok (.iconst 4, 1) := dk_7 (dk_at dksX4_isToldRight_3 2 rfl rfl)
theorem dX4_isToldRight_73 : decode cX4_isToldRight 73 = .ok (.invokevirtual 67, 3) := dk_182 0 67 (dk_at dksX4_isToldRight_3 3 rfl rfl)
theorem dX4_isToldRight_76 : decode cX4_isToldRight 76 = .ok (.iload 5, 2) := dk_21 5 (dk_at dksX4_isToldRight_3 6 rfl rfl)
theorem dX4_isToldRight_78 : decode cX4_isToldRight 78 = .ok (.if_icmp .ne 18, 3) := dk_160 0 18 (dk_at dksX4_isToldRight_3 8 rfl rfl)
theorem dX4_isToldRight_81 : decode cX4_isToldRight 81 = .ok (.aload_n 0, 1) := dk_42 (dk_at dksX4_isToldRight_3 11 rfl rfl)
theorem dX4_isToldRight_82 : decode cX4_isToldRight 82 = .ok (.iload 9, 2) := dk_21 9 (dk_at dksX4_isToldRight_3 12 rfl rfl)
theorem dX4_isToldRight_84 : decode cX4_isToldRight 84 = .ok (.iload_n 1, 1) := dk_27 (dk_at dksX4_isToldRight_3 14 rfl rfl)
theorem dX4_isToldRight_85 : decode cX4_isToldRight 85 = .ok (.iload_n 2, 1) := dk_28 (dk_at dksX4_isToldRight_3 15 rfl rfl)
theorem dX4_isToldRight_86 : decode cX4_isToldRight 86 = .ok (.invokevirtual 95, 3) := dk_182 0 95 (dk_at dksX4_isToldRight_3 16 rfl rfl)
theorem dX4_isToldRight_89 : decode cX4_isToldRight 89 = .ok (.ifCond .eq 7, 3) := dk_153 0 7 (dk_at dksX4_isToldRight_3 19 rfl rfl)
theorem dX4_isToldRight_92 : decode cX4_isToldRight 92 = .ok (.iconst 1, 1) := dk_4 (dk_at dksX4_isToldRight_3 22 rfl rfl)
theorem dX4_isToldRight_93 : decode cX4_isToldRight 93 = .ok (.goto 4, 3) := dk_167 0 4 (dk_at dksX4_isToldRight_4 0 rfl rfl)
theorem dX4_isToldRight_96 : decode cX4_isToldRight 96 = .ok (.iconst 0, 1) := dk_3 (dk_at dksX4_isToldRight_4 3 rfl rfl)
theorem dX4_isToldRight_97 : decode cX4_isToldRight 97 = .ok (.istore 10, 2) := dk_54 10 (dk_at dksX4_isToldRight_4 4 rfl rfl)
theorem dX4_isToldRight_99 : decode cX4_isToldRight 99 = .ok (.iload 6, 2) := dk_21 6 (dk_at dksX4_isToldRight_4 6 rfl rfl)
theorem dX4_isToldRight_101 : decode cX4_isToldRight 101 = .ok (.iload 10, 2) := dk_21 10 (dk_at dksX4_isToldRight_4 8 rfl rfl)
theorem dX4_isToldRight_103 : decode cX4_isToldRight 103 = .ok (.ifCond .eq 14, 3) := dk_153 0 14 (dk_at dksX4_isToldRight_4 10 rfl rfl)
theorem dX4_isToldRight_106 : decode cX4_isToldRight 106 = .ok (.aload_n 0, 1) := dk_42 (dk_at dksX4_isToldRight_4 13 rfl rfl)
theorem dX4_isToldRight_107 : decode cX4_isToldRight 107 = .ok (.iload 9, 2) := dk_21 9 (dk_at dksX4_isToldRight_4 14 rfl rfl)
theorem dX4_isToldRight_109 : decode cX4_isToldRight 109 = .ok (.bipush 6, 2) := dk_16 6 (dk_at dksX4_isToldRight_4 16 rfl rfl)
theorem dX4_isToldRight_111 : decode cX4_isToldRight 111 = .ok (.invokevirtual 67, 3) := dk_182 0 67 (dk_at dksX4_isToldRight_4 18 rfl rfl)
theorem dX4_isToldRight_114 : decode cX4_isToldRight 114 = .ok (.goto 4, 3) := dk_167 0 4 (dk_at dksX4_isToldRight_4 21 rfl rfl)
theorem dX4_isToldRight_117 : decode cX4_isToldRight 117 = .ok (.iconst 0, 1) := dk_3 (dk_at dksX4_isToldRight_5 0 rfl rfl)
theorem dX4_isToldRight_118 : decode cX4_isToldRight 118 = .ok (.iadd, 1) := dk_96 (dk_at dksX4_isToldRight_5 1 rfl rfl)
theorem dX4_isToldRight_119 : decode cX4_isToldRight 119 = .ok (.istore 6, 2) := dk_54 6 (dk_at dksX4_isToldRight_5 2 rfl rfl)
theorem dX4_isToldRight_121 : decode cX4_isToldRight 121 = .ok (.iload 10, 2) := dk_21 10 (dk_at dksX4_isToldRight_5 4 rfl rfl)
theorem dX4_isToldRight_123 : decode cX4_isToldRight 123 = .ok (.ifCond .eq 19, 3) := dk_153 0 19 (dk_at dksX4_isToldRight_5 6 rfl rfl)
theorem dX4_isToldRight_126 : decode cX4_isToldRight 126 = .ok (.iload 7, 2) := dk_21 7 (dk_at dksX4_isToldRight_5 9 rfl rfl)
theorem dX4_isToldRight_128 : decode cX4_isToldRight 128 = .ok (.aload_n 0, 1) := dk_42 (dk_at dksX4_isToldRight_5 11 rfl rfl)
theorem dX4_isToldRight_129 : decode cX4_isToldRight 129 = .ok (.iload 9, 2) := dk_21 9 (dk_at dksX4_isToldRight_5 12 rfl rfl)
theorem dX4_isToldRight_131 : decode cX4_isToldRight 131 = .ok (.bipush 6, 2) := dk_16 6 (dk_at dksX4_isToldRight_5 14 rfl rfl)
theorem dX4_isToldRight_133 : decode cX4_isToldRight 133 = .ok (.invokevirtual 67, 3) := dk_182 0 67 (dk_at dksX4_isToldRight_5 16 rfl rfl)
theorem dX4_isToldRight_136 : decode cX4_isToldRight 136 = .ok (.invokestatic 103, 3) := dk_184 0 103 (dk_at dksX4_isToldRight_5 19 rfl rfl)
theorem dX4_isToldRight_139 : decode cX4_isToldRight 139 = .ok (.goto 5, 3) := dk_167 0 5 (dk_at dksX4_isToldRight_6 0 rfl rfl)
theorem dX4_isToldRight_142 : decode cX4_isToldRight 142 = .ok (.iload 7, 2) := dk_21 7 (dk_at dksX4_isToldRight_6 3 rfl rfl)
theorem dX4_isToldRight_144 : decode cX4_isToldRight 144 = .ok (.istore 7, 2) := dk_54 7 (dk_at dksX4_isToldRight_6 5 rfl rfl)
theorem dX4_isToldRight_146 : decode cX4_isToldRight 146 = .ok (.iload 8, 2) := dk_21 8 (dk_at dksX4_isToldRight_6 7 rfl rfl)
theorem dX4_isToldRight_148 : decode cX4_isToldRight 148 = .ok (.iload 10, 2) := dk_21 10 (dk_at dksX4_isToldRight_6 9 rfl rfl)
theorem dX4_isToldRight_150 : decode cX4_isToldRight 150 = .ok (.invokestatic 99, 3) := dk_184 0 99 (dk_at dksX4_isToldRight_6 11 rfl rfl)
theorem dX4_isToldRight_153 : decode cX4_isToldRight 153 = .ok (.iadd, 1) := dk_96 (dk_at dksX4_isToldRight_6 14 rfl rfl)
theorem dX4_isToldRight_154 : decode cX4_isToldRight 154 = .ok (.istore 8, 2) := dk_54 8 (dk_at dksX4_isToldRight_6 15 rfl rfl)
theorem dX4_isToldRight_156 : decode cX4_isToldRight 156 = .ok (.iinc 9 (-1), 3) := dk_132 9 255 (dk_at dksX4_isToldRight_6 17 rfl rfl)
theorem dX4_isToldRight_159 : decode cX4_isToldRight 159 = .ok (.goto (-95), 3) := dk_167 255 161 (dk_at dksX4_isToldRight_6 20 rfl rfl)
theorem dX4_isToldRight_162 : decode cX4_isToldRight 162 = .ok (.aload_n 0, 1) := dk_42 (dk_at dksX4_isToldRight_6 23 rfl rfl)
theorem dX4_isToldRight_163 : decode cX4_isToldRight 163 = .ok (.getfield 7, 3) := dk_180 0 7 (dk_at dksX4_isToldRight_7 0 rfl rfl)
theorem dX4_isToldRight_166 : decode cX4_isToldRight 166 = .ok (.iconst 5, 1) := dk_8 (dk_at dksX4_isToldRight_7 3 rfl rfl)
theorem dX4_isToldRight_167 : decode cX4_isToldRight 167 = .ok (.iaload, 1) := dk_46 (dk_at dksX4_isToldRight_7 4 rfl rfl)
theorem dX4_isToldRight_168 : decode cX4_isToldRight 168 = .ok (.ifCond .ne 8, 3) := dk_154 0 8 (dk_at dksX4_isToldRight_7 5 rfl rfl)
theorem dX4_isToldRight_171 : decode cX4_isToldRight 171 = .ok (.iload 6, 2) := dk_21 6 (dk_at dksX4_isToldRight_7 8 rfl rfl)
theorem dX4_isToldRight_173 : decode cX4_isToldRight 173 = .ok (.goto 27, 3) := dk_167 0 27 (dk_at dksX4_isToldRight_7 10 rfl rfl)
theorem dX4_isToldRight_176 : decode cX4_isToldRight 176 = .ok (.aload_n 0, 1) := dk_42 (dk_at dksX4_isToldRight_7 13 rfl rfl)
theorem dX4_isToldRight_177 : decode cX4_isToldRight 177 = .ok (.getfield 7, 3) := dk_180 0 7 (dk_at dksX4_isToldRight_7 14 rfl rfl)
theorem dX4_isToldRight_180 : decode cX4_isToldRight 180 = .ok (.iconst 5, 1) := dk_8 (dk_at dksX4_isToldRight_7 17 rfl rfl)
theorem dX4_isToldRight_181 : decode cX4_isToldRight 181 = .ok (.iaload, 1) := dk_46 (dk_at dksX4_isToldRight_7 18 rfl rfl)
theorem dX4_isToldRight_182 : decode cX4_isToldRight 182 = .ok (.iconst 1, 1) := dk_4 (dk_at dksX4_isToldRight_7 19 rfl rfl)
theorem dX4_isToldRight_183 : decode cX4_isToldRight 183 = .ok (.if_icmp .ne 8, 3) := dk_160 0 8 (dk_at dksX4_isToldRight_7 20 rfl rfl)
theorem dX4_isToldRight_186 : decode cX4_isToldRight 186 = .ok (.iload 7, 2) := dk_21 7 (dk_at dksX4_isToldRight_8 0 rfl rfl)
theorem dX4_isToldRight_188 : decode cX4_isToldRight 188 = .ok (.goto 12, 3) := dk_167 0 12 (dk_at dksX4_isToldRight_8 2 rfl rfl)
theorem dX4_isToldRight_191 : decode cX4_isToldRight 191 = .ok (.sipush 1000, 3) := dk_17 3 232 (dk_at dksX4_isToldRight_8 5 rfl rfl)
theorem dX4_isToldRight_194 : decode cX4_isToldRight 194 = .ok (.iload 8, 2) := dk_21 8 (dk_at dksX4_isToldRight_8 8 rfl rfl)
theorem dX4_isToldRight_196 : decode cX4_isToldRight 196 = .ok (.imul, 1) := dk_104 (dk_at dksX4_isToldRight_8 10 rfl rfl)
theorem dX4_isToldRight_197 : decode cX4_isToldRight 197 = .ok (.iload 7, 2) := dk_21 7 (dk_at dksX4_isToldRight_8 11 rfl rfl)
theorem dX4_isToldRight_199 : decode cX4_isToldRight 199 = .ok (.iadd, 1) := dk_96 (dk_at dksX4_isToldRight_8 13 rfl rfl)
theorem dX4_isToldRight_200 : decode cX4_isToldRight 200 = .ok (.istore 9, 2) := dk_54 9 (dk_at dksX4_isToldRight_8 14 rfl rfl)
theorem dX4_isToldRight_202 : decode cX4_isToldRight 202 = .ok (.iload 9, 2) := dk_21 9 (dk_at dksX4_isToldRight_8 16 rfl rfl)
theorem dX4_isToldRight_204 : decode cX4_isToldRight 204 = .ok (.iload 4, 2) := dk_21 4 (dk_at dksX4_isToldRight_8 18 rfl rfl)
theorem dX4_isToldRight_206 : decode cX4_isToldRight 206 = .ok (.if_icmp .gt 16, 3) := dk_163 0 16 (dk_at dksX4_isToldRight_8 20 rfl rfl)
theorem dX4_isToldRight_209 : decode cX4_isToldRight 209 = .ok (.iload 9, 2) := dk_21 9 (dk_at dksX4_isToldRight_9 0 rfl rfl)
theorem dX4_isToldRight_211 : decode cX4_isToldRight 211 = .ok (.iload 4, 2) := dk_21 4 (dk_at dksX4_isToldRight_9 2 rfl rfl)
theorem dX4_isToldRight_213 : decode cX4_isToldRight 213 = .ok (.if_icmp .ne 11, 3) := dk_160 0 11 (dk_at dksX4_isToldRight_9 4 rfl rfl)
theorem dX4_isToldRight_216 : decode cX4_isToldRight 216 = .ok (.iload 5, 2) := dk_21 5 (dk_at dksX4_isToldRight_9 7 rfl rfl)
theorem dX4_isToldRight_218 : decode cX4_isToldRight 218 = .ok (.iload_n 3, 1) := dk_29 (dk_at dksX4_isToldRight_9 9 rfl rfl)
theorem dX4_isToldRight_219 : decode cX4_isToldRight 219 = .ok (.if_icmp .ge 5, 3) := dk_162 0 5 (dk_at dksX4_isToldRight_9 10 rfl rfl)
theorem dX4_isToldRight_222 : decode cX4_isToldRight 222 = .ok (.iconst 0, 1) := dk_3 (dk_at dksX4_isToldRight_9 13 rfl rfl)
theorem dX4_isToldRight_223 : decode cX4_isToldRight 223 = .ok (.ireturn, 1) := dk_172 (dk_at dksX4_isToldRight_9 14 rfl rfl)
theorem dX4_isToldRight_224 : decode cX4_isToldRight 224 = .ok (.iinc 5 1, 3) := dk_132 5 1 (dk_at dksX4_isToldRight_9 15 rfl rfl)
theorem dX4_isToldRight_227 : decode cX4_isToldRight 227 = .ok (.goto (-188), 3) := dk_167 255 68 (dk_at dksX4_isToldRight_9 18 rfl rfl)
theorem dX4_isToldRight_230 : decode cX4_isToldRight 230 = .ok (.iconst 1, 1) := dk_4 (dk_at dksX4_isToldRight_9 21 rfl rfl)
theorem dX4_isToldRight_231 : decode cX4_isToldRight 231 = .ok (.ireturn, 1) := dk_172 (dk_at dksX4_isToldRight_9 22 rfl rfl)
abbrev cX4_areMeetingsRight : ByteArray := prog_20_method_111_code
def yX4_areMeetingsRight : MethodName := ⟨RX4, "areMeetingsRight", "(I)Z"⟩
def dkwX4_areMeetingsRight_3 : List UInt8 := [184, 0, 159, 172]
abbrev dktX4_areMeetingsRight_3 : List UInt8 := dkwX4_areMeetingsRight_3 ++ []
def dkwX4_areMeetingsRight_2 : List UInt8 := [164, 0, 5, 3, 172, 132, 2, 1, 167, 255, 204, 42, 27, 16, 6, 182, 0, 67, 4, 17, 3, 231]
abbrev dktX4_areMeetingsRight_2 : List UInt8 := dkwX4_areMeetingsRight_2 ++ dktX4_areMeetingsRight_3
def dkwX4_areMeetingsRight_1 : List UInt8 := [160, 0, 25, 42, 27, 28, 182, 1, 103, 42, 28, 27, 182, 1, 103, 96, 42, 27, 28, 182, 1, 100]
abbrev dktX4_areMeetingsRight_1 : List UInt8 := dkwX4_areMeetingsRight_1 ++ dktX4_areMeetingsRight_2
def dkwX4_areMeetingsRight_0 : List UInt8 := [3, 61, 28, 42, 180, 0, 7, 3, 46, 162, 0, 48, 42, 27, 28, 182, 1, 100, 42, 28, 27, 182, 1, 100]
abbrev dktX4_areMeetingsRight_0 : List UInt8 := dkwX4_areMeetingsRight_0 ++ dktX4_areMeetingsRight_1
theorem dksX4_areMeetingsRight_0 : cX4_areMeetingsRight.data.toList.drop 0 = dktX4_areMeetingsRight_0 := by decide +kernel
theorem dksX4_areMeetingsRight_1 : cX4_areMeetingsRight.data.toList.drop 24 = dktX4_areMeetingsRight_1 := dk_seg dksX4_areMeetingsRight_0 24 rfl rfl
theorem dksX4_areMeetingsRight_2 : cX4_areMeetingsRight.data.toList.drop 46 = dktX4_areMeetingsRight_2 := dk_seg dksX4_areMeetingsRight_1 22 rfl rfl
theorem dksX4_areMeetingsRight_3 : cX4_areMeetingsRight.data.toList.drop 68 = dktX4_areMeetingsRight_3 := dk_seg dksX4_areMeetingsRight_2 22 rfl rfl
theorem dX4_areMeetingsRight_0 : decode cX4_areMeetingsRight 0 = .ok (.iconst 0, 1) := dk_3 (dk_at dksX4_areMeetingsRight_0 0 rfl rfl)
theorem dX4_areMeetingsRight_1 : decode cX4_areMeetingsRight 1 = .ok (.istore_n 2, 1) := dk_61 (dk_at dksX4_areMeetingsRight_0 1 rfl rfl)
theorem dX4_areMeetingsRight_2 : decode cX4_areMeetingsRight 2 = .ok (.iload_n 2, 1) := dk_28 (dk_at dksX4_areMeetingsRight_0 2 rfl rfl)
theorem dX4_areMeetingsRight_3 : decode cX4_areMeetingsRight 3 = .ok (.aload_n 0, 1) := dk_42 (dk_at dksX4_areMeetingsRight_0 3 rfl rfl)
theorem dX4_areMeetingsRight_4 : decode cX4_areMeetingsRight 4 = .ok (.getfield 7, 3) := dk_180 0 7 (dk_at dksX4_areMeetingsRight_0 4 rfl rfl)
theorem dX4_areMeetingsRight_7 : decode cX4_areMeetingsRight 7 = .ok (.iconst 0, 1) := dk_3 (dk_at dksX4_areMeetingsRight_0 7 rfl rfl)
theorem dX4_areMeetingsRight_8 : decode cX4_areMeetingsRight 8 = .ok (.iaload, 1) := dk_46 (dk_at dksX4_areMeetingsRight_0 8 rfl rfl)
theorem dX4_areMeetingsRight_9 : decode cX4_areMeetingsRight 9 = .ok (.if_icmp .ge 48, 3) := dk_162 0 48 (dk_at dksX4_areMeetingsRight_0 9 rfl rfl)
theorem dX4_areMeetingsRight_12 : decode cX4_areMeetingsRight 12 = .ok (.aload_n 0, 1) := dk_42 (dk_at dksX4_areMeetingsRight_0 12 rfl rfl)
theorem dX4_areMeetingsRight_13 : decode cX4_areMeetingsRight 13 = .ok (.iload_n 1, 1) := dk_27 (dk_at dksX4_areMeetingsRight_0 13 rfl rfl)
theorem dX4_areMeetingsRight_14 : decode cX4_areMeetingsRight 14 = .ok (.iload_n 2, 1) := dk_28 (dk_at dksX4_areMeetingsRight_0 14 rfl rfl)
theorem dX4_areMeetingsRight_15 : decode cX4_areMeetingsRight 15 = .ok (.invokevirtual 356, 3) := dk_182 1 100 (dk_at dksX4_areMeetingsRight_0 15 rfl rfl)
theorem dX4_areMeetingsRight_18 : decode cX4_areMeetingsRight 18 = .ok (.aload_n 0, 1) := dk_42 (dk_at dksX4_areMeetingsRight_0 18 rfl rfl)
theorem dX4_areMeetingsRight_19 : decode cX4_areMeetingsRight 19 = .ok (.iload_n 2, 1) := dk_28 (dk_at dksX4_areMeetingsRight_0 19 rfl rfl)
theorem dX4_areMeetingsRight_20 : decode cX4_areMeetingsRight 20 = .ok (.iload_n 1, 1) := dk_27 (dk_at dksX4_areMeetingsRight_0 20 rfl rfl)
theorem dX4_areMeetingsRight_21 : decode cX4_areMeetingsRight 21 = .ok (.invokevirtual 356, 3) := dk_182 1 100 (dk_at dksX4_areMeetingsRight_0 21 rfl rfl)
theorem dX4_areMeetingsRight_24 : decode cX4_areMeetingsRight 24 = .ok (.if_icmp .ne 25, 3) := dk_160 0 25 (dk_at dksX4_areMeetingsRight_1 0 rfl rfl)
theorem dX4_areMeetingsRight_27 : decode cX4_areMeetingsRight 27 = .ok (.aload_n 0, 1) := dk_42 (dk_at dksX4_areMeetingsRight_1 3 rfl rfl)
theorem dX4_areMeetingsRight_28 : decode cX4_areMeetingsRight 28 = .ok (.iload_n 1, 1) := dk_27 (dk_at dksX4_areMeetingsRight_1 4 rfl rfl)
theorem dX4_areMeetingsRight_29 : decode cX4_areMeetingsRight 29 = .ok (.iload_n 2, 1) := dk_28 (dk_at dksX4_areMeetingsRight_1 5 rfl rfl)
theorem dX4_areMeetingsRight_30 : decode cX4_areMeetingsRight 30 = .ok (.invokevirtual 359, 3) := dk_182 1 103 (dk_at dksX4_areMeetingsRight_1 6 rfl rfl)
theorem dX4_areMeetingsRight_33 : decode cX4_areMeetingsRight 33 = .ok (.aload_n 0, 1) := dk_42 (dk_at dksX4_areMeetingsRight_1 9 rfl rfl)
theorem dX4_areMeetingsRight_34 : decode cX4_areMeetingsRight 34 = .ok (.iload_n 2, 1) := dk_28 (dk_at dksX4_areMeetingsRight_1 10 rfl rfl)
theorem dX4_areMeetingsRight_35 : decode cX4_areMeetingsRight 35 = .ok (.iload_n 1, 1) := dk_27 (dk_at dksX4_areMeetingsRight_1 11 rfl rfl)
theorem dX4_areMeetingsRight_36 : decode cX4_areMeetingsRight 36 = .ok (.invokevirtual 359, 3) := dk_182 1 103 (dk_at dksX4_areMeetingsRight_1 12 rfl rfl)
theorem dX4_areMeetingsRight_39 : decode cX4_areMeetingsRight 39 = .ok (.iadd, 1) := dk_96 (dk_at dksX4_areMeetingsRight_1 15 rfl rfl)
theorem dX4_areMeetingsRight_40 : decode cX4_areMeetingsRight 40 = .ok (.aload_n 0, 1) := dk_42 (dk_at dksX4_areMeetingsRight_1 16 rfl rfl)
theorem dX4_areMeetingsRight_41 : decode cX4_areMeetingsRight 41 = .ok (.iload_n 1, 1) := dk_27 (dk_at dksX4_areMeetingsRight_1 17 rfl rfl)
theorem dX4_areMeetingsRight_42 : decode cX4_areMeetingsRight 42 = .ok (.iload_n 2, 1) := dk_28 (dk_at dksX4_areMeetingsRight_1 18 rfl rfl)
theorem dX4_areMeetingsRight_43 : decode cX4_areMeetingsRight 43 = .ok (.invokevirtual 356, 3) := dk_182 1 100 (dk_at dksX4_areMeetingsRight_1 19 rfl rfl)
theorem dX4_areMeetingsRight_46 : decode cX4_areMeetingsRight 46 = .ok (.if_icmp .le 5, 3) := dk_164 0 5 (dk_at dksX4_areMeetingsRight_2 0 rfl rfl)
theorem dX4_areMeetingsRight_49 : decode cX4_areMeetingsRight 49 = .ok (.iconst 0, 1) := dk_3 (dk_at dksX4_areMeetingsRight_2 3 rfl rfl)
theorem dX4_areMeetingsRight_50 : decode cX4_areMeetingsRight 50 = .ok (.ireturn, 1) := dk_172 (dk_at dksX4_areMeetingsRight_2 4 rfl rfl)
theorem dX4_areMeetingsRight_51 : decode cX4_areMeetingsRight 51 = .ok (.iinc 2 1, 3) := dk_132 2 1 (dk_at dksX4_areMeetingsRight_2 5 rfl rfl)
theorem dX4_areMeetingsRight_54 : decode cX4_areMeetingsRight 54 = .ok (.goto (-52), 3) := dk_167 255 204 (dk_at dksX4_areMeetingsRight_2 8 rfl rfl)
theorem dX4_areMeetingsRight_57 : decode cX4_areMeetingsRight 57 = .ok (.aload_n 0, 1) := dk_42 (dk_at dksX4_areMeetingsRight_2 11 rfl rfl)
theorem dX4_areMeetingsRight_58 : decode cX4_areMeetingsRight 58 = .ok (.iload_n 1, 1) := dk_27 (dk_at dksX4_areMeetingsRight_2 12 rfl rfl)
theorem dX4_areMeetingsRight_59 : decode cX4_areMeetingsRight 59 = .ok (.bipush 6, 2) := dk_16 6 (dk_at dksX4_areMeetingsRight_2 13 rfl rfl)
theorem dX4_areMeetingsRight_61 : decode cX4_areMeetingsRight 61 = .ok (.invokevirtual 67, 3) := dk_182 0 67 (dk_at dksX4_areMeetingsRight_2 15 rfl rfl)
theorem dX4_areMeetingsRight_64 : decode cX4_areMeetingsRight 64 = .ok (.iconst 1, 1) := dk_4 (dk_at dksX4_areMeetingsRight_2 18 rfl rfl)
theorem dX4_areMeetingsRight_65 : decode cX4_areMeetingsRight 65 = .ok (.sipush 999, 3) := dk_17 3 231 (dk_at dksX4_areMeetingsRight_2 19 rfl rfl)
theorem dX4_areMeetingsRight_68 : decode cX4_areMeetingsRight 68 = .ok (.invokestatic 159, 3) := dk_184 0 159 (dk_at dksX4_areMeetingsRight_3 0 rfl rfl)
theorem dX4_areMeetingsRight_71 : decode cX4_areMeetingsRight 71 = .ok (.ireturn, 1) := dk_172 (dk_at dksX4_areMeetingsRight_3 3 rfl rfl)
abbrev cX4_areDaysRight : ByteArray := prog_20_method_112_code
def yX4_areDaysRight : MethodName := ⟨RX4, "areDaysRight", "()Z"⟩
def dkwX4_areDaysRight_4 : List UInt8 := [172]
abbrev dktX4_areDaysRight_4 : List UInt8 := dkwX4_areDaysRight_4 ++ []
def dkwX4_areDaysRight_3 : List UInt8 := [42, 180, 0, 7, 16, 10, 46, 96, 42, 180, 0, 7, 16, 11, 46, 96, 160, 0, 7, 4, 167, 0, 4, 3]
abbrev dktX4_areDaysRight_3 : List UInt8 := dkwX4_areDaysRight_3 ++ dktX4_areDaysRight_4
def dkwX4_areDaysRight_2 : List UInt8 := [132, 2, 1, 167, 255, 215, 27, 42, 180, 0, 7, 5, 46, 160, 0, 34, 27, 42, 180, 0, 7, 16, 9, 46]
abbrev dktX4_areDaysRight_2 : List UInt8 := dkwX4_areDaysRight_2 ++ dktX4_areDaysRight_3
def dkwX4_areDaysRight_1 : List UInt8 := [42, 180, 0, 7, 16, 21, 28, 96, 46, 96, 42, 180, 0, 7, 16, 8, 28, 96, 46, 159, 0, 5, 3, 172]
abbrev dktX4_areDaysRight_1 : List UInt8 := dkwX4_areDaysRight_1 ++ dktX4_areDaysRight_2
def dkwX4_areDaysRight_0 : List UInt8 := [42, 180, 0, 7, 16, 8, 46, 60, 3, 61, 28, 7, 162, 0, 42, 42, 180, 0, 7, 16, 17, 28, 96, 46]
abbrev dktX4_areDaysRight_0 : List UInt8 := dkwX4_areDaysRight_0 ++ dktX4_areDaysRight_1
theorem dksX4_areDaysRight_0 : cX4_areDaysRight.data.toList.drop 0 = dktX4_areDaysRight_0 := by decide +kernel
theorem dksX4_areDaysRight_1 : cX4_areDaysRight.data.toList.drop 24 = dktX4_areDaysRight_1 := dk_seg dksX4_areDaysRight_0 24 rfl rfl
theorem dksX4_areDaysRight_2 : cX4_areDaysRight.data.toList.drop 48 = dktX4_areDaysRight_2 := dk_seg dksX4_areDaysRight_1 24 rfl rfl
theorem dksX4_areDaysRight_3 : cX4_areDaysRight.data.toList.drop 72 = dktX4_areDaysRight_3 := dk_seg dksX4_areDaysRight_2 24 rfl rfl
theorem dksX4_areDaysRight_4 : cX4_areDaysRight.data.toList.drop 96 = dktX4_areDaysRight_4 := dk_seg dksX4_areDaysRight_3 24 rfl rfl
theorem dX4_areDaysRight_0 : decode cX4_areDaysRight 0 = .ok (.aload_n 0, 1) := dk_42 (dk_at dksX4_areDaysRight_0 0 rfl rfl)
theorem dX4_areDaysRight_1 : decode cX4_areDaysRight 1 = .ok (.getfield 7, 3) := dk_180 0 7 (dk_at dksX4_areDaysRight_0 1 rfl rfl)
theorem dX4_areDaysRight_4 : decode cX4_areDaysRight 4 = .ok (.bipush 8, 2) := dk_16 8 (dk_at dksX4_areDaysRight_0 4 rfl rfl)
theorem dX4_areDaysRight_6 : decode cX4_areDaysRight 6 = .ok (.iaload, 1) := dk_46 (dk_at dksX4_areDaysRight_0 6 rfl rfl)
theorem dX4_areDaysRight_7 : decode cX4_areDaysRight 7 = .ok (.istore_n 1, 1) := dk_60 (dk_at dksX4_areDaysRight_0 7 rfl rfl)
theorem dX4_areDaysRight_8 : decode cX4_areDaysRight 8 = .ok (.iconst 0, 1) := dk_3 (dk_at dksX4_areDaysRight_0 8 rfl rfl)
theorem dX4_areDaysRight_9 : decode cX4_areDaysRight 9 = .ok (.istore_n 2, 1) := dk_61 (dk_at dksX4_areDaysRight_0 9 rfl rfl)
theorem dX4_areDaysRight_10 : decode cX4_areDaysRight 10 = .ok (.iload_n 2, 1) := dk_28 (dk_at dksX4_areDaysRight_0 10 rfl rfl)
theorem dX4_areDaysRight_11 : decode cX4_areDaysRight 11 = .ok (.iconst 4, 1) := dk_7 (dk_at dksX4_areDaysRight_0 11 rfl rfl)
theorem dX4_areDaysRight_12 : decode cX4_areDaysRight 12 = .ok (.if_icmp .ge 42, 3) := dk_162 0 42 (dk_at dksX4_areDaysRight_0 12 rfl rfl)
theorem dX4_areDaysRight_15 : decode cX4_areDaysRight 15 = .ok (.aload_n 0, 1) := dk_42 (dk_at dksX4_areDaysRight_0 15 rfl rfl)
theorem dX4_areDaysRight_16 : decode cX4_areDaysRight 16 = .ok (.getfield 7, 3) := dk_180 0 7 (dk_at dksX4_areDaysRight_0 16 rfl rfl)
theorem dX4_areDaysRight_19 : decode cX4_areDaysRight 19 = .ok (.bipush 17, 2) := dk_16 17 (dk_at dksX4_areDaysRight_0 19 rfl rfl)
theorem dX4_areDaysRight_21 : decode cX4_areDaysRight 21 = .ok (.iload_n 2, 1) := dk_28 (dk_at dksX4_areDaysRight_0 21 rfl rfl)
theorem dX4_areDaysRight_22 : decode cX4_areDaysRight 22 = .ok (.iadd, 1) := dk_96 (dk_at dksX4_areDaysRight_0 22 rfl rfl)
theorem dX4_areDaysRight_23 : decode cX4_areDaysRight 23 = .ok (.iaload, 1) := dk_46 (dk_at dksX4_areDaysRight_0 23 rfl rfl)
theorem dX4_areDaysRight_24 : decode cX4_areDaysRight 24 = .ok (.aload_n 0, 1) := dk_42 (dk_at dksX4_areDaysRight_1 0 rfl rfl)
theorem dX4_areDaysRight_25 : decode cX4_areDaysRight 25 = .ok (.getfield 7, 3) := dk_180 0 7 (dk_at dksX4_areDaysRight_1 1 rfl rfl)
theorem dX4_areDaysRight_28 : decode cX4_areDaysRight 28 = .ok (.bipush 21, 2) := dk_16 21 (dk_at dksX4_areDaysRight_1 4 rfl rfl)
theorem dX4_areDaysRight_30 : decode cX4_areDaysRight 30 = .ok (.iload_n 2, 1) := dk_28 (dk_at dksX4_areDaysRight_1 6 rfl rfl)
theorem dX4_areDaysRight_31 : decode cX4_areDaysRight 31 = .ok (.iadd, 1) := dk_96 (dk_at dksX4_areDaysRight_1 7 rfl rfl)
theorem dX4_areDaysRight_32 : decode cX4_areDaysRight 32 = .ok (.iaload, 1) := dk_46 (dk_at dksX4_areDaysRight_1 8 rfl rfl)
theorem dX4_areDaysRight_33 : decode cX4_areDaysRight 33 = .ok (.iadd, 1) := dk_96 (dk_at dksX4_areDaysRight_1 9 rfl rfl)
theorem dX4_areDaysRight_34 : decode cX4_areDaysRight 34 = .ok (.aload_n 0, 1) := dk_42 (dk_at dksX4_areDaysRight_1 10 rfl rfl)
theorem dX4_areDaysRight_35 : decode cX4_areDaysRight 35 = .ok (.getfield 7, 3) := dk_180 0 7 (dk_at dksX4_areDaysRight_1 11 rfl rfl)
theorem dX4_areDaysRight_38 : decode cX4_areDaysRight 38 = .ok (.bipush 8, 2) := dk_16 8 (dk_at dksX4_areDaysRight_1 14 rfl rfl)
theorem dX4_areDaysRight_40 : decode cX4_areDaysRight 40 = .ok (.iload_n 2, 1) := dk_28 (dk_at dksX4_areDaysRight_1 16 rfl rfl)
theorem dX4_areDaysRight_41 : decode cX4_areDaysRight 41 = .ok (.iadd, 1) := dk_96 (dk_at dksX4_areDaysRight_1 17 rfl rfl)
theorem dX4_areDaysRight_42 : decode cX4_areDaysRight 42 = .ok (.iaload, 1) := dk_46 (dk_at dksX4_areDaysRight_1 18 rfl rfl)
theorem dX4_areDaysRight_43 : decode cX4_areDaysRight 43 = .ok (.if_icmp .eq 5, 3) := dk_159 0 5 (dk_at dksX4_areDaysRight_1 19 rfl rfl)
theorem dX4_areDaysRight_46 : decode cX4_areDaysRight 46 = .ok (.iconst 0, 1) := dk_3 (dk_at dksX4_areDaysRight_1 22 rfl rfl)
theorem dX4_areDaysRight_47 : decode cX4_areDaysRight 47 = .ok (.ireturn, 1) := dk_172 (dk_at dksX4_areDaysRight_1 23 rfl rfl)
theorem dX4_areDaysRight_48 : decode cX4_areDaysRight 48 = .ok (.iinc 2 1, 3) := dk_132 2 1 (dk_at dksX4_areDaysRight_2 0 rfl rfl)
theorem dX4_areDaysRight_51 : decode cX4_areDaysRight 51 = .ok (.goto (-41), 3) := dk_167 255 215 (dk_at dksX4_areDaysRight_2 3 rfl rfl)
theorem dX4_areDaysRight_54 : decode cX4_areDaysRight 54 = .ok (.iload_n 1, 1) := dk_27 (dk_at dksX4_areDaysRight_2 6 rfl rfl)
theorem dX4_areDaysRight_55 : decode cX4_areDaysRight 55 = .ok (.aload_n 0, 1) := dk_42 (dk_at dksX4_areDaysRight_2 7 rfl rfl)
theorem dX4_areDaysRight_56 : decode cX4_areDaysRight 56 = .ok (.getfield 7, 3) := dk_180 0 7 (dk_at dksX4_areDaysRight_2 8 rfl rfl)
theorem dX4_areDaysRight_59 : decode cX4_areDaysRight 59 = .ok (.iconst 2, 1) := dk_5 (dk_at dksX4_areDaysRight_2 11 rfl rfl)
theorem dX4_areDaysRight_60 : decode cX4_areDaysRight 60 = .ok (.iaload, 1) := dk_46 (dk_at dksX4_areDaysRight_2 12 rfl rfl)
theorem dX4_areDaysRight_61 : decode cX4_areDaysRight 61 = .ok (.if_icmp .ne 34, 3) := dk_160 0 34 (dk_at dksX4_areDaysRight_2 13 rfl rfl)
theorem dX4_areDaysRight_64 : decode cX4_areDaysRight 64 = .ok (.iload_n 1, 1) := dk_27 (dk_at dksX4_areDaysRight_2 16 rfl rfl)
theorem dX4_areDaysRight_65 : decode cX4_areDaysRight 65 = .ok (.aload_n 0, 1) := dk_42 (dk_at dksX4_areDaysRight_2 17 rfl rfl)
theorem dX4_areDaysRight_66 : decode cX4_areDaysRight 66 = .ok (.getfield 7, 3) := dk_180 0 7 (dk_at dksX4_areDaysRight_2 18 rfl rfl)
theorem dX4_areDaysRight_69 : decode cX4_areDaysRight 69 = .ok (.bipush 9, 2) := dk_16 9 (dk_at dksX4_areDaysRight_2 21 rfl rfl)
theorem dX4_areDaysRight_71 : decode cX4_areDaysRight 71 = .ok (.iaload, 1) := dk_46 (dk_at dksX4_areDaysRight_2 23 rfl rfl)
theorem dX4_areDaysRight_72 : decode cX4_areDaysRight 72 = .ok (.aload_n 0, 1) := dk_42 (dk_at dksX4_areDaysRight_3 0 rfl rfl)
theorem dX4_areDaysRight_73 : decode cX4_areDaysRight 73 = .ok (.getfield 7, 3) := dk_180 0 7 (dk_at dksX4_areDaysRight_3 1 rfl rfl)
theorem dX4_areDaysRight_76 : decode cX4_areDaysRight 76 = .ok (.bipush 10, 2) := dk_16 10 (dk_at dksX4_areDaysRight_3 4 rfl rfl)
theorem dX4_areDaysRight_78 : decode cX4_areDaysRight 78 = .ok (.iaload, 1) := dk_46 (dk_at dksX4_areDaysRight_3 6 rfl rfl)
theorem dX4_areDaysRight_79 : decode cX4_areDaysRight 79 = .ok (.iadd, 1) := dk_96 (dk_at dksX4_areDaysRight_3 7 rfl rfl)
theorem dX4_areDaysRight_80 : decode cX4_areDaysRight 80 = .ok (.aload_n 0, 1) := dk_42 (dk_at dksX4_areDaysRight_3 8 rfl rfl)
theorem dX4_areDaysRight_81 : decode cX4_areDaysRight 81 = .ok (.getfield 7, 3) := dk_180 0 7 (dk_at dksX4_areDaysRight_3 9 rfl rfl)
theorem dX4_areDaysRight_84 : decode cX4_areDaysRight 84 = .ok (.bipush 11, 2) := dk_16 11 (dk_at dksX4_areDaysRight_3 12 rfl rfl)
theorem dX4_areDaysRight_86 : decode cX4_areDaysRight 86 = .ok (.iaload, 1) := dk_46 (dk_at dksX4_areDaysRight_3 14 rfl rfl)
theorem dX4_areDaysRight_87 : decode cX4_areDaysRight 87 = .ok (.iadd, 1) := dk_96 (dk_at dksX4_areDaysRight_3 15 rfl rfl)
theorem dX4_areDaysRight_88 : decode cX4_areDaysRight 88 = .ok (.if_icmp .ne 7, 3) := dk_160 0 7 (dk_at dksX4_areDaysRight_3 16 rfl rfl)
theorem dX4_areDaysRight_91 : decode cX4_areDaysRight 91 = .ok (.iconst 1, 1) := dk_4 (dk_at dksX4_areDaysRight_3 19 rfl rfl)
theorem dX4_areDaysRight_92 : decode cX4_areDaysRight 92 = .ok (.goto 4, 3) := dk_167 0 4 (dk_at dksX4_areDaysRight_3 20 rfl rfl)
theorem dX4_areDaysRight_95 : decode cX4_areDaysRight 95 = .ok (.iconst 0, 1) := dk_3 (dk_at dksX4_areDaysRight_3 23 rfl rfl)
theorem dX4_areDaysRight_96 : decode cX4_areDaysRight 96 = .ok (.ireturn, 1) := dk_172 (dk_at dksX4_areDaysRight_4 0 rfl rfl)
abbrev cX4_truth : ByteArray := prog_20_method_114_code
def yX4_truth : MethodName := ⟨RX4, "truth", "()D"⟩
def dkwX4_truth_1 : List UInt8 := [154, 0, 7, 14, 167, 0, 8, 27, 135, 28, 135, 111, 175]
abbrev dktX4_truth_1 : List UInt8 := dkwX4_truth_1 ++ []
def dkwX4_truth_0 : List UInt8 := [42, 3, 181, 0, 60, 42, 180, 0, 7, 16, 9, 46, 60, 27, 42, 180, 0, 7, 16, 10, 46, 96, 61, 28]
abbrev dktX4_truth_0 : List UInt8 := dkwX4_truth_0 ++ dktX4_truth_1
theorem dksX4_truth_0 : cX4_truth.data.toList.drop 0 = dktX4_truth_0 := by decide +kernel
theorem dksX4_truth_1 : cX4_truth.data.toList.drop 24 = dktX4_truth_1 := dk_seg dksX4_truth_0 24 rfl rfl
theorem dX4_truth_0 : decode cX4_truth 0 = .ok (.aload_n 0, 1) := dk_42 (dk_at dksX4_truth_0 0 rfl rfl)
theorem dX4_truth_1 : decode cX4_truth 1 = .ok (.iconst 0, 1) := dk_3 (dk_at dksX4_truth_0 1 rfl rfl)
theorem dX4_truth_2 : decode cX4_truth 2 = .ok (.putfield 60, 3) := dk_181 0 60 (dk_at dksX4_truth_0 2 rfl rfl)
theorem dX4_truth_5 : decode cX4_truth 5 = .ok (.aload_n 0, 1) := dk_42 (dk_at dksX4_truth_0 5 rfl rfl)
theorem dX4_truth_6 : decode cX4_truth 6 = .ok (.getfield 7, 3) := dk_180 0 7 (dk_at dksX4_truth_0 6 rfl rfl)
theorem dX4_truth_9 : decode cX4_truth 9 = .ok (.bipush 9, 2) := dk_16 9 (dk_at dksX4_truth_0 9 rfl rfl)
theorem dX4_truth_11 : decode cX4_truth 11 = .ok (.iaload, 1) := dk_46 (dk_at dksX4_truth_0 11 rfl rfl)
theorem dX4_truth_12 : decode cX4_truth 12 = .ok (.istore_n 1, 1) := dk_60 (dk_at dksX4_truth_0 12 rfl rfl)
theorem dX4_truth_13 : decode cX4_truth 13 = .ok (.iload_n 1, 1) := dk_27 (dk_at dksX4_truth_0 13 rfl rfl)
theorem dX4_truth_14 : decode cX4_truth 14 = .ok (.aload_n 0, 1) := dk_42 (dk_at dksX4_truth_0 14 rfl rfl)
theorem dX4_truth_15 : decode cX4_truth 15 = .ok (.getfield 7, 3) := dk_180 0 7 (dk_at dksX4_truth_0 15 rfl rfl)
theorem dX4_truth_18 : decode cX4_truth 18 = .ok (.bipush 10, 2) := dk_16 10 (dk_at dksX4_truth_0 18 rfl rfl)
theorem dX4_truth_20 : decode cX4_truth 20 = .ok (.iaload, 1) := dk_46 (dk_at dksX4_truth_0 20 rfl rfl)
theorem dX4_truth_21 : decode cX4_truth 21 = .ok (.iadd, 1) := dk_96 (dk_at dksX4_truth_0 21 rfl rfl)
theorem dX4_truth_22 : decode cX4_truth 22 = .ok (.istore_n 2, 1) := dk_61 (dk_at dksX4_truth_0 22 rfl rfl)
theorem dX4_truth_23 : decode cX4_truth 23 = .ok (.iload_n 2, 1) := dk_28 (dk_at dksX4_truth_0 23 rfl rfl)
theorem dX4_truth_24 : decode cX4_truth 24 = .ok (.ifCond .ne 7, 3) := dk_154 0 7 (dk_at dksX4_truth_1 0 rfl rfl)
theorem dX4_truth_27 : decode cX4_truth 27 = .ok (.dconst 0, 1) := dk_14 (dk_at dksX4_truth_1 3 rfl rfl)
theorem dX4_truth_28 : decode cX4_truth 28 = .ok (.goto 8, 3) := dk_167 0 8 (dk_at dksX4_truth_1 4 rfl rfl)
theorem dX4_truth_31 : decode cX4_truth 31 = .ok (.iload_n 1, 1) := dk_27 (dk_at dksX4_truth_1 7 rfl rfl)
theorem dX4_truth_32 : decode cX4_truth 32 = .ok (.i2d, 1) := dk_135 (dk_at dksX4_truth_1 8 rfl rfl)
theorem dX4_truth_33 : decode cX4_truth 33 = .ok (.iload_n 2, 1) := dk_28 (dk_at dksX4_truth_1 9 rfl rfl)
theorem dX4_truth_34 : decode cX4_truth 34 = .ok (.i2d, 1) := dk_135 (dk_at dksX4_truth_1 10 rfl rfl)
theorem dX4_truth_35 : decode cX4_truth 35 = .ok (.ddiv, 1) := dk_111 (dk_at dksX4_truth_1 11 rfl rfl)
theorem dX4_truth_36 : decode cX4_truth 36 = .ok (.dreturn, 1) := dk_175 (dk_at dksX4_truth_1 12 rfl rfl)
abbrev cX4_meanWeight : ByteArray := prog_20_method_115_code
def yX4_meanWeight : MethodName := ⟨RX4, "meanWeight", "()F"⟩
def dkwX4_meanWeight_1 : List UInt8 := [182, 0, 142, 134, 110, 174]
abbrev dktX4_meanWeight_1 : List UInt8 := dkwX4_meanWeight_1 ++ []
def dkwX4_meanWeight_0 : List UInt8 := [42, 3, 181, 0, 60, 42, 182, 0, 142, 154, 0, 7, 11, 167, 0, 14, 42, 182, 1, 69, 134, 42]
abbrev dktX4_meanWeight_0 : List UInt8 := dkwX4_meanWeight_0 ++ dktX4_meanWeight_1
theorem dksX4_meanWeight_0 : cX4_meanWeight.data.toList.drop 0 = dktX4_meanWeight_0 := by decide +kernel
theorem dksX4_meanWeight_1 : cX4_meanWeight.data.toList.drop 22 = dktX4_meanWeight_1 := dk_seg dksX4_meanWeight_0 22 rfl rfl
theorem dX4_meanWeight_0 : decode cX4_meanWeight 0 = .ok (.aload_n 0, 1) := dk_42 (dk_at dksX4_meanWeight_0 0 rfl rfl)
theorem dX4_meanWeight_1 : decode cX4_meanWeight 1 = .ok (.iconst 0, 1) := dk_3 (dk_at dksX4_meanWeight_0 1 rfl rfl)
theorem dX4_meanWeight_2 : decode cX4_meanWeight 2 = .ok (.putfield 60, 3) := dk_181 0 60 (dk_at dksX4_meanWeight_0 2 rfl rfl)
theorem dX4_meanWeight_5 : decode cX4_meanWeight 5 = .ok (.aload_n 0, 1) := dk_42 (dk_at dksX4_meanWeight_0 5 rfl rfl)
theorem dX4_meanWeight_6 : decode cX4_meanWeight 6 = .ok (.invokevirtual 142, 3) := dk_182 0 142 (dk_at dksX4_meanWeight_0 6 rfl rfl)
theorem dX4_meanWeight_9 : decode cX4_meanWeight 9 = .ok (.ifCond .ne 7, 3) := dk_154 0 7 (dk_at dksX4_meanWeight_0 9 rfl rfl)
theorem dX4_meanWeight_12 : decode cX4_meanWeight 12 = .ok (.fconst 0, 1) := dk_11 (dk_at dksX4_meanWeight_0 12 rfl rfl)
theorem dX4_meanWeight_13 : decode cX4_meanWeight 13 = .ok (.goto 14, 3) := dk_167 0 14 (dk_at dksX4_meanWeight_0 13 rfl rfl)
theorem dX4_meanWeight_16 : decode cX4_meanWeight 16 = .ok (.aload_n 0, 1) := dk_42 (dk_at dksX4_meanWeight_0 16 rfl rfl)
theorem dX4_meanWeight_17 : decode cX4_meanWeight 17 = .ok (.invokevirtual 325, 3) := dk_182 1 69 (dk_at dksX4_meanWeight_0 17 rfl rfl)
theorem dX4_meanWeight_20 : decode cX4_meanWeight 20 = .ok (.i2f, 1) := dk_134 (dk_at dksX4_meanWeight_0 20 rfl rfl)
theorem dX4_meanWeight_21 : decode cX4_meanWeight 21 = .ok (.aload_n 0, 1) := dk_42 (dk_at dksX4_meanWeight_0 21 rfl rfl)
theorem dX4_meanWeight_22 : decode cX4_meanWeight 22 = .ok (.invokevirtual 142, 3) := dk_182 0 142 (dk_at dksX4_meanWeight_1 0 rfl rfl)
theorem dX4_meanWeight_25 : decode cX4_meanWeight 25 = .ok (.i2f, 1) := dk_134 (dk_at dksX4_meanWeight_1 3 rfl rfl)
theorem dX4_meanWeight_26 : decode cX4_meanWeight 26 = .ok (.fdiv, 1) := dk_110 (dk_at dksX4_meanWeight_1 4 rfl rfl)
theorem dX4_meanWeight_27 : decode cX4_meanWeight 27 = .ok (.freturn, 1) := dk_174 (dk_at dksX4_meanWeight_1 5 rfl rfl)
abbrev cX4_day : ByteArray := prog_20_method_116_code
def yX4_day : MethodName := ⟨RX4, "day", "(II)I"⟩
def dkwX4_day_2 : List UInt8 := [172, 42, 182, 1, 47, 42, 27, 28, 182, 1, 26, 172]
abbrev dktX4_day_2 : List UInt8 := dkwX4_day_2 ++ []
def dkwX4_day_1 : List UInt8 := [180, 0, 7, 5, 46, 17, 2, 208, 160, 0, 7, 4, 167, 0, 4, 3, 6, 182, 1, 65, 153, 0, 5, 3]
abbrev dktX4_day_1 : List UInt8 := dkwX4_day_1 ++ dktX4_day_2
def dkwX4_day_0 : List UInt8 := [42, 3, 181, 0, 60, 42, 27, 182, 1, 78, 154, 0, 36, 42, 28, 182, 1, 87, 154, 0, 28, 42, 42]
abbrev dktX4_day_0 : List UInt8 := dkwX4_day_0 ++ dktX4_day_1
theorem dksX4_day_0 : cX4_day.data.toList.drop 0 = dktX4_day_0 := by decide +kernel
theorem dksX4_day_1 : cX4_day.data.toList.drop 23 = dktX4_day_1 := dk_seg dksX4_day_0 23 rfl rfl
theorem dksX4_day_2 : cX4_day.data.toList.drop 47 = dktX4_day_2 := dk_seg dksX4_day_1 24 rfl rfl
theorem dX4_day_0 : decode cX4_day 0 = .ok (.aload_n 0, 1) := dk_42 (dk_at dksX4_day_0 0 rfl rfl)
theorem dX4_day_1 : decode cX4_day 1 = .ok (.iconst 0, 1) := dk_3 (dk_at dksX4_day_0 1 rfl rfl)
theorem dX4_day_2 : decode cX4_day 2 = .ok (.putfield 60, 3) := dk_181 0 60 (dk_at dksX4_day_0 2 rfl rfl)
theorem dX4_day_5 : decode cX4_day 5 = .ok (.aload_n 0, 1) := dk_42 (dk_at dksX4_day_0 5 rfl rfl)
theorem dX4_day_6 : decode cX4_day 6 = .ok (.iload_n 1, 1) := dk_27 (dk_at dksX4_day_0 6 rfl rfl)
theorem dX4_day_7 : decode cX4_day 7 = .ok (.invokevirtual 334, 3) := dk_182 1 78 (dk_at dksX4_day_0 7 rfl rfl)
theorem dX4_day_10 : decode cX4_day 10 = .ok (.ifCond .ne 36, 3) := dk_154 0 36 (dk_at dksX4_day_0 10 rfl rfl)
theorem dX4_day_13 : decode cX4_day 13 = .ok (.aload_n 0, 1) := dk_42 (dk_at dksX4_day_0 13 rfl rfl)
theorem dX4_day_14 : decode cX4_day 14 = .ok (.iload_n 2, 1) := dk_28 (dk_at dksX4_day_0 14 rfl rfl)
theorem dX4_day_15 : decode cX4_day 15 = .ok (.invokevirtual 343, 3) := dk_182 1 87 (dk_at dksX4_day_0 15 rfl rfl)
theorem dX4_day_18 : decode cX4_day 18 = .ok (.ifCond .ne 28, 3) := dk_154 0 28 (dk_at dksX4_day_0 18 rfl rfl)
theorem dX4_day_21 : decode cX4_day 21 = .ok (.aload_n 0, 1) := dk_42 (dk_at dksX4_day_0 21 rfl rfl)
theorem dX4_day_22 : decode cX4_day 22 = .ok (.aload_n 0, 1) := dk_42 (dk_at dksX4_day_0 22 rfl rfl)
theorem dX4_day_23 : decode cX4_day 23 = .ok (.getfield 7, 3) := dk_180 0 7 (dk_at dksX4_day_1 0 rfl rfl)
theorem dX4_day_26 : decode cX4_day 26 = .ok (.iconst 2, 1) := dk_5 (dk_at dksX4_day_1 3 rfl rfl)
theorem dX4_day_27 : decode cX4_day 27 = .ok (.iaload, 1) := dk_46 (dk_at dksX4_day_1 4 rfl rfl)
theorem dX4_day_28 : decode cX4_day 28 = .ok (.sipush 720, 3) := dk_17 2 208 (dk_at dksX4_day_1 5 rfl rfl)
theorem dX4_day_31 : decode cX4_day 31 = .ok (.if_icmp .ne 7, 3) := dk_160 0 7 (dk_at dksX4_day_1 8 rfl rfl)
theorem dX4_day_34 : decode cX4_day 34 = .ok (.iconst 1, 1) := dk_4 (dk_at dksX4_day_1 11 rfl rfl)
theorem dX4_day_35 : decode cX4_day 35 = .ok (.goto 4, 3) := dk_167 0 4 (dk_at dksX4_day_1 12 rfl rfl)
theorem dX4_day_38 : decode cX4_day 38 = .ok (.iconst 0, 1) := dk_3 (dk_at dksX4_day_1 15 rfl rfl)
theorem dX4_day_39 : decode cX4_day 39 = .ok (.iconst 3, 1) := dk_6 (dk_at dksX4_day_1 16 rfl rfl)
theorem dX4_day_40 : decode cX4_day 40 = .ok (.invokevirtual 321, 3) := dk_182 1 65 (dk_at dksX4_day_1 17 rfl rfl)
theorem dX4_day_43 : decode cX4_day 43 = .ok (.ifCond .eq 5, 3) := dk_153 0 5 (dk_at dksX4_day_1 20 rfl rfl)
theorem dX4_day_46 : decode cX4_day 46 = .ok (.iconst 0, 1) := dk_3 (dk_at dksX4_day_1 23 rfl rfl)
theorem dX4_day_47 : decode cX4_day 47 = .ok (.ireturn, 1) := dk_172 (dk_at dksX4_day_2 0 rfl rfl)
theorem dX4_day_48 : decode cX4_day 48 = .ok (.aload_n 0, 1) := dk_42 (dk_at dksX4_day_2 1 rfl rfl)
theorem dX4_day_49 : decode cX4_day 49 = .ok (.invokevirtual 303, 3) := dk_182 1 47 (dk_at dksX4_day_2 2 rfl rfl)
theorem dX4_day_52 : decode cX4_day 52 = .ok (.aload_n 0, 1) := dk_42 (dk_at dksX4_day_2 5 rfl rfl)
theorem dX4_day_53 : decode cX4_day 53 = .ok (.iload_n 1, 1) := dk_27 (dk_at dksX4_day_2 6 rfl rfl)
theorem dX4_day_54 : decode cX4_day 54 = .ok (.iload_n 2, 1) := dk_28 (dk_at dksX4_day_2 7 rfl rfl)
theorem dX4_day_55 : decode cX4_day 55 = .ok (.invokevirtual 282, 3) := dk_182 1 26 (dk_at dksX4_day_2 8 rfl rfl)
theorem dX4_day_58 : decode cX4_day 58 = .ok (.ireturn, 1) := dk_172 (dk_at dksX4_day_2 11 rfl rfl)
abbrev cX4_proverbNew : ByteArray := prog_20_method_117_code
def yX4_proverbNew : MethodName := ⟨RX4, "proverbNew", "(IIIIII)I"⟩
def dkwX4_proverbNew_4 : List UInt8 := [153, 0, 5, 3, 172, 42, 182, 1, 47, 42, 27, 28, 29, 21, 4, 21, 5, 21, 6, 182, 1, 32, 172]
abbrev dktX4_proverbNew_4 : List UInt8 := dkwX4_proverbNew_4 ++ []
def dkwX4_proverbNew_3 : List UInt8 := [27, 28, 29, 21, 4, 21, 5, 182, 0, 227, 153, 0, 7, 4, 167, 0, 4, 3, 6, 182, 1, 65]
abbrev dktX4_proverbNew_3 : List UInt8 := dkwX4_proverbNew_3 ++ dktX4_proverbNew_4
def dkwX4_proverbNew_2 : List UInt8 := [167, 0, 4, 3, 5, 182, 1, 65, 154, 0, 41, 42, 42, 180, 0, 7, 3, 46, 16, 24, 159, 0, 17, 42]
abbrev dktX4_proverbNew_2 : List UInt8 := dkwX4_proverbNew_2 ++ dktX4_proverbNew_3
def dkwX4_proverbNew_1 : List UInt8 := [42, 21, 5, 182, 1, 87, 154, 0, 66, 42, 21, 6, 4, 17, 3, 231, 184, 0, 159, 154, 0, 7, 4]
abbrev dktX4_proverbNew_1 : List UInt8 := dkwX4_proverbNew_1 ++ dktX4_proverbNew_2
def dkwX4_proverbNew_0 : List UInt8 := [42, 3, 181, 0, 60, 42, 27, 29, 182, 1, 84, 154, 0, 85, 42, 28, 21, 4, 182, 1, 84, 154, 0, 75]
abbrev dktX4_proverbNew_0 : List UInt8 := dkwX4_proverbNew_0 ++ dktX4_proverbNew_1
theorem dksX4_proverbNew_0 : cX4_proverbNew.data.toList.drop 0 = dktX4_proverbNew_0 := by decide +kernel
theorem dksX4_proverbNew_1 : cX4_proverbNew.data.toList.drop 24 = dktX4_proverbNew_1 := dk_seg dksX4_proverbNew_0 24 rfl rfl
theorem dksX4_proverbNew_2 : cX4_proverbNew.data.toList.drop 47 = dktX4_proverbNew_2 := dk_seg dksX4_proverbNew_1 23 rfl rfl
theorem dksX4_proverbNew_3 : cX4_proverbNew.data.toList.drop 71 = dktX4_proverbNew_3 := dk_seg dksX4_proverbNew_2 24 rfl rfl
theorem dksX4_proverbNew_4 : cX4_proverbNew.data.toList.drop 93 = dktX4_proverbNew_4 := dk_seg dksX4_proverbNew_3 22 rfl rfl
theorem dX4_proverbNew_0 : decode cX4_proverbNew 0 = .ok (.aload_n 0, 1) := dk_42 (dk_at dksX4_proverbNew_0 0 rfl rfl)
theorem dX4_proverbNew_1 : decode cX4_proverbNew 1 = .ok (.iconst 0, 1) := dk_3 (dk_at dksX4_proverbNew_0 1 rfl rfl)
theorem dX4_proverbNew_2 : decode cX4_proverbNew 2 = .ok (.putfield 60, 3) := dk_181 0 60 (dk_at dksX4_proverbNew_0 2 rfl rfl)
theorem dX4_proverbNew_5 : decode cX4_proverbNew 5 = .ok (.aload_n 0, 1) := dk_42 (dk_at dksX4_proverbNew_0 5 rfl rfl)
theorem dX4_proverbNew_6 : decode cX4_proverbNew 6 = .ok (.iload_n 1, 1) := dk_27 (dk_at dksX4_proverbNew_0 6 rfl rfl)
theorem dX4_proverbNew_7 : decode cX4_proverbNew 7 = .ok (.iload_n 3, 1) := dk_29 (dk_at dksX4_proverbNew_0 7 rfl rfl)
theorem dX4_proverbNew_8 : decode cX4_proverbNew 8 = .ok (.invokevirtual 340, 3) := dk_182 1 84 (dk_at dksX4_proverbNew_0 8 rfl rfl)
theorem dX4_proverbNew_11 : decode cX4_proverbNew 11 = .ok (.ifCond .ne 85, 3) := dk_154 0 85 (dk_at dksX4_proverbNew_0 11 rfl rfl)
theorem dX4_proverbNew_14 : decode cX4_proverbNew 14 = .ok (.aload_n 0, 1) := dk_42 (dk_at dksX4_proverbNew_0 14 rfl rfl)
theorem dX4_proverbNew_15 : decode cX4_proverbNew 15 = .ok (.iload_n 2, 1) := dk_28 (dk_at dksX4_proverbNew_0 15 rfl rfl)
theorem dX4_proverbNew_16 : decode cX4_proverbNew 16 = .ok (.iload 4, 2) := dk_21 4 (dk_at dksX4_proverbNew_0 16 rfl rfl)
theorem dX4_proverbNew_18 : decode cX4_proverbNew 18 = .ok (.invokevirtual 340, 3) := dk_182 1 84 (dk_at dksX4_proverbNew_0 18 rfl rfl)
theorem dX4_proverbNew_21 : decode cX4_proverbNew 21 = .ok (.ifCond .ne 75, 3) := dk_154 0 75 (dk_at dksX4_proverbNew_0 21 rfl rfl)
theorem dX4_proverbNew_24 : decode cX4_proverbNew 24 = .ok (.aload_n 0, 1) := dk_42 (dk_at dksX4_proverbNew_1 0 rfl rfl)
theorem dX4_proverbNew_25 : decode cX4_proverbNew 25 = .ok (.iload 5, 2) := dk_21 5 (dk_at dksX4_proverbNew_1 1 rfl rfl)
theorem dX4_proverbNew_27 : decode cX4_proverbNew 27 = .ok (.invokevirtual 343, 3) := dk_182 1 87 (dk_at dksX4_proverbNew_1 3 rfl rfl)
theorem dX4_proverbNew_30 : decode cX4_proverbNew 30 = .ok (.ifCond .ne 66, 3) := dk_154 0 66 (dk_at dksX4_proverbNew_1 6 rfl rfl)
theorem dX4_proverbNew_33 : decode cX4_proverbNew 33 = .ok (.aload_n 0, 1) := dk_42 (dk_at dksX4_proverbNew_1 9 rfl rfl)
theorem dX4_proverbNew_34 : decode cX4_proverbNew 34 = .ok (.iload 6, 2) := dk_21 6 (dk_at dksX4_proverbNew_1 10 rfl rfl)
theorem dX4_proverbNew_36 : decode cX4_proverbNew 36 = .ok (.iconst 1, 1) := dk_4 (dk_at dksX4_proverbNew_1 12 rfl rfl)
theorem dX4_proverbNew_37 : decode cX4_proverbNew 37 = .ok (.sipush 999, 3) := dk_17 3 231 (dk_at dksX4_proverbNew_1 13 rfl rfl)
theorem dX4_proverbNew_40 : decode cX4_proverbNew 40 = .ok (.invokestatic 159, 3) := dk_184 0 159 (dk_at dksX4_proverbNew_1 16 rfl rfl)
theorem dX4_proverbNew_43 : decode cX4_proverbNew 43 = .ok (.ifCond .ne 7, 3) := dk_154 0 7 (dk_at dksX4_proverbNew_1 19 rfl rfl)
theorem dX4_proverbNew_46 : decode cX4_proverbNew 46 = .ok (.iconst 1, 1) := dk_4 (dk_at dksX4_proverbNew_1 22 rfl rfl)
theorem dX4_proverbNew_47 : decode cX4_proverbNew 47 = .ok (.goto 4, 3) := dk_167 0 4 (dk_at dksX4_proverbNew_2 0 rfl rfl)
theorem dX4_proverbNew_50 : decode cX4_proverbNew 50 = .ok (.iconst 0, 1) := dk_3 (dk_at dksX4_proverbNew_2 3 rfl rfl)
theorem dX4_proverbNew_51 : decode cX4_proverbNew 51 = .ok (.iconst 2, 1) := dk_5 (dk_at dksX4_proverbNew_2 4 rfl rfl)
theorem dX4_proverbNew_52 : decode cX4_proverbNew 52 = .ok (.invokevirtual 321, 3) := dk_182 1 65 (dk_at dksX4_proverbNew_2 5 rfl rfl)
theorem dX4_proverbNew_55 : decode cX4_proverbNew 55 = .ok (.ifCond .ne 41, 3) := dk_154 0 41 (dk_at dksX4_proverbNew_2 8 rfl rfl)
theorem dX4_proverbNew_58 : decode cX4_proverbNew 58 = .ok (.aload_n 0, 1) := dk_42 (dk_at dksX4_proverbNew_2 11 rfl rfl)
theorem dX4_proverbNew_59 : decode cX4_proverbNew 59 = .ok (.aload_n 0, 1) := dk_42 (dk_at dksX4_proverbNew_2 12 rfl rfl)
theorem dX4_proverbNew_60 : decode cX4_proverbNew 60 = .ok (.getfield 7, 3) := dk_180 0 7 (dk_at dksX4_proverbNew_2 13 rfl rfl)
theorem dX4_proverbNew_63 : decode cX4_proverbNew 63 = .ok (.iconst 0, 1) := dk_3 (dk_at dksX4_proverbNew_2 16 rfl rfl)
theorem dX4_proverbNew_64 : decode cX4_proverbNew 64 = .ok (.iaload, 1) := dk_46 (dk_at dksX4_proverbNew_2 17 rfl rfl)
theorem dX4_proverbNew_65 : decode cX4_proverbNew 65 = .ok (.bipush 24, 2) := dk_16 24 (dk_at dksX4_proverbNew_2 18 rfl rfl)
theorem dX4_proverbNew_67 : decode cX4_proverbNew 67 = .ok (.if_icmp .eq 17, 3) := dk_159 0 17 (dk_at dksX4_proverbNew_2 20 rfl rfl)
theorem dX4_proverbNew_70 : decode cX4_proverbNew 70 = .ok (.aload_n 0, 1) := dk_42 (dk_at dksX4_proverbNew_2 23 rfl rfl)
theorem dX4_proverbNew_71 : decode cX4_proverbNew 71 = .ok (.iload_n 1, 1) := dk_27 (dk_at dksX4_proverbNew_3 0 rfl rfl)
theorem dX4_proverbNew_72 : decode cX4_proverbNew 72 = .ok (.iload_n 2, 1) := dk_28 (dk_at dksX4_proverbNew_3 1 rfl rfl)
theorem dX4_proverbNew_73 : decode cX4_proverbNew 73 = .ok (.iload_n 3, 1) := dk_29 (dk_at dksX4_proverbNew_3 2 rfl rfl)
theorem dX4_proverbNew_74 : decode cX4_proverbNew 74 = .ok (.iload 4, 2) := dk_21 4 (dk_at dksX4_proverbNew_3 3 rfl rfl)
theorem dX4_proverbNew_76 : decode cX4_proverbNew 76 = .ok (.iload 5, 2) := dk_21 5 (dk_at dksX4_proverbNew_3 5 rfl rfl)
theorem dX4_proverbNew_78 : decode cX4_proverbNew 78 = .ok (.invokevirtual 227, 3) := dk_182 0 227 (dk_at dksX4_proverbNew_3 7 rfl rfl)
theorem dX4_proverbNew_81 : decode cX4_proverbNew 81 = .ok (.ifCond .eq 7, 3) := dk_153 0 7 (dk_at dksX4_proverbNew_3 10 rfl rfl)
theorem dX4_proverbNew_84 : decode cX4_proverbNew 84 = .ok (.iconst 1, 1) := dk_4 (dk_at dksX4_proverbNew_3 13 rfl rfl)
theorem dX4_proverbNew_85 : decode cX4_proverbNew 85 = .ok (.goto 4, 3) := dk_167 0 4 (dk_at dksX4_proverbNew_3 14 rfl rfl)
theorem dX4_proverbNew_88 : decode cX4_proverbNew 88 = .ok (.iconst 0, 1) := dk_3 (dk_at dksX4_proverbNew_3 17 rfl rfl)
theorem dX4_proverbNew_89 : decode cX4_proverbNew 89 = .ok (.iconst 3, 1) := dk_6 (dk_at dksX4_proverbNew_3 18 rfl rfl)
theorem dX4_proverbNew_90 : decode cX4_proverbNew 90 = .ok (.invokevirtual 321, 3) := dk_182 1 65 (dk_at dksX4_proverbNew_3 19 rfl rfl)
theorem dX4_proverbNew_93 : decode cX4_proverbNew 93 = .ok (.ifCond .eq 5, 3) := dk_153 0 5 (dk_at dksX4_proverbNew_4 0 rfl rfl)
theorem dX4_proverbNew_96 : decode cX4_proverbNew 96 = .ok (.iconst 0, 1) := dk_3 (dk_at dksX4_proverbNew_4 3 rfl rfl)
theorem dX4_proverbNew_97 : decode cX4_proverbNew 97 = .ok (.ireturn, 1) := dk_172 (dk_at dksX4_proverbNew_4 4 rfl rfl)
theorem dX4_proverbNew_98 : decode cX4_proverbNew 98 = .ok (.aload_n 0, 1) := dk_42 (dk_at dksX4_proverbNew_4 5 rfl rfl)
theorem dX4_proverbNew_99 : decode cX4_proverbNew 99 = .ok (.invokevirtual 303, 3) := dk_182 1 47 (dk_at dksX4_proverbNew_4 6 rfl rfl)
theorem dX4_proverbNew_102 : decode cX4_proverbNew 102 = .ok (.aload_n 0, 1) := dk_42 (dk_at dksX4_proverbNew_4 9 rfl rfl)
theorem dX4_proverbNew_103 : decode cX4_proverbNew 103 = .ok (.iload_n 1, 1) := dk_27 (dk_at dksX4_proverbNew_4 10 rfl rfl)
theorem dX4_proverbNew_104 : decode cX4_proverbNew 104 = .ok (.iload_n 2, 1) := dk_28 (dk_at dksX4_proverbNew_4 11 rfl rfl)
theorem dX4_proverbNew_105 : decode cX4_proverbNew 105 = .ok (.iload_n 3, 1) := dk_29 (dk_at dksX4_proverbNew_4 12 rfl rfl)
theorem dX4_proverbNew_106 : decode cX4_proverbNew 106 = .ok (.iload 4, 2) := dk_21 4 (dk_at dksX4_proverbNew_4 13 rfl rfl)
theorem dX4_proverbNew_108 : decode cX4_proverbNew 108 = .ok (.iload 5, 2) := dk_21 5 (dk_at dksX4_proverbNew_4 15 rfl rfl)
theorem dX4_proverbNew_110 : decode cX4_proverbNew 110 = .ok (.iload 6, 2) := dk_21 6 (dk_at dksX4_proverbNew_4 17 rfl rfl)
theorem dX4_proverbNew_112 : decode cX4_proverbNew 112 = .ok (.invokevirtual 288, 3) := dk_182 1 32 (dk_at dksX4_proverbNew_4 19 rfl rfl)
theorem dX4_proverbNew_115 : decode cX4_proverbNew 115 = .ok (.ireturn, 1) := dk_172 (dk_at dksX4_proverbNew_4 22 rfl rfl)
abbrev cX4_forget : ByteArray := prog_20_method_118_code
def yX4_forget : MethodName := ⟨RX4, "forget", "(I)I"⟩
def dkwX4_forget_1 : List UInt8 := [167, 0, 4, 3, 5, 182, 1, 65, 153, 0, 5, 3, 172, 42, 182, 1, 47, 42, 27, 182, 1, 35, 172]
abbrev dktX4_forget_1 : List UInt8 := dkwX4_forget_1 ++ []
def dkwX4_forget_0 : List UInt8 := [42, 3, 181, 0, 60, 42, 27, 182, 1, 81, 154, 0, 24, 42, 42, 27, 182, 0, 84, 154, 0, 7, 4]
abbrev dktX4_forget_0 : List UInt8 := dkwX4_forget_0 ++ dktX4_forget_1
theorem dksX4_forget_0 : cX4_forget.data.toList.drop 0 = dktX4_forget_0 := by decide +kernel
theorem dksX4_forget_1 : cX4_forget.data.toList.drop 23 = dktX4_forget_1 := dk_seg dksX4_forget_0 23 rfl rfl
theorem dX4_forget_0 : decode cX4_forget 0 = .ok (.aload_n 0, 1) := dk_42 (dk_at dksX4_forget_0 0 rfl rfl)
theorem dX4_forget_1 : decode cX4_forget 1 = .ok (.iconst 0, 1) := dk_3 (dk_at dksX4_forget_0 1 rfl rfl)
theorem dX4_forget_2 : decode cX4_forget 2 = .ok (.putfield 60, 3) := dk_181 0 60 (dk_at dksX4_forget_0 2 rfl rfl)
theorem dX4_forget_5 : decode cX4_forget 5 = .ok (.aload_n 0, 1) := dk_42 (dk_at dksX4_forget_0 5 rfl rfl)
theorem dX4_forget_6 : decode cX4_forget 6 = .ok (.iload_n 1, 1) := dk_27 (dk_at dksX4_forget_0 6 rfl rfl)
theorem dX4_forget_7 : decode cX4_forget 7 = .ok (.invokevirtual 337, 3) := dk_182 1 81 (dk_at dksX4_forget_0 7 rfl rfl)
theorem dX4_forget_10 : decode cX4_forget 10 = .ok (.ifCond .ne 24, 3) := dk_154 0 24 (dk_at dksX4_forget_0 10 rfl rfl)
theorem dX4_forget_13 : decode cX4_forget 13 = .ok (.aload_n 0, 1) := dk_42 (dk_at dksX4_forget_0 13 rfl rfl)
theorem dX4_forget_14 : decode cX4_forget 14 = .ok (.aload_n 0, 1) := dk_42 (dk_at dksX4_forget_0 14 rfl rfl)
theorem dX4_forget_15 : decode cX4_forget 15 = .ok (.iload_n 1, 1) := dk_27 (dk_at dksX4_forget_0 15 rfl rfl)
theorem dX4_forget_16 : decode cX4_forget 16 = .ok (.invokevirtual 84, 3) := dk_182 0 84 (dk_at dksX4_forget_0 16 rfl rfl)
theorem dX4_forget_19 : decode cX4_forget 19 = .ok (.ifCond .ne 7, 3) := dk_154 0 7 (dk_at dksX4_forget_0 19 rfl rfl)
theorem dX4_forget_22 : decode cX4_forget 22 = .ok (.iconst 1, 1) := dk_4 (dk_at dksX4_forget_0 22 rfl rfl)
theorem dX4_forget_23 : decode cX4_forget 23 = .ok (.goto 4, 3) := dk_167 0 4 (dk_at dksX4_forget_1 0 rfl rfl)
theorem dX4_forget_26 : decode cX4_forget 26 = .ok (.iconst 0, 1) := dk_3 (dk_at dksX4_forget_1 3 rfl rfl)
theorem dX4_forget_27 : decode cX4_forget 27 = .ok (.iconst 2, 1) := dk_5 (dk_at dksX4_forget_1 4 rfl rfl)
theorem dX4_forget_28 : decode cX4_forget 28 = .ok (.invokevirtual 321, 3) := dk_182 1 65 (dk_at dksX4_forget_1 5 rfl rfl)
theorem dX4_forget_31 : decode cX4_forget 31 = .ok (.ifCond .eq 5, 3) := dk_153 0 5 (dk_at dksX4_forget_1 8 rfl rfl)
theorem dX4_forget_34 : decode cX4_forget 34 = .ok (.iconst 0, 1) := dk_3 (dk_at dksX4_forget_1 11 rfl rfl)
theorem dX4_forget_35 : decode cX4_forget 35 = .ok (.ireturn, 1) := dk_172 (dk_at dksX4_forget_1 12 rfl rfl)
theorem dX4_forget_36 : decode cX4_forget 36 = .ok (.aload_n 0, 1) := dk_42 (dk_at dksX4_forget_1 13 rfl rfl)
theorem dX4_forget_37 : decode cX4_forget 37 = .ok (.invokevirtual 303, 3) := dk_182 1 47 (dk_at dksX4_forget_1 14 rfl rfl)
theorem dX4_forget_40 : decode cX4_forget 40 = .ok (.aload_n 0, 1) := dk_42 (dk_at dksX4_forget_1 17 rfl rfl)
theorem dX4_forget_41 : decode cX4_forget 41 = .ok (.iload_n 1, 1) := dk_27 (dk_at dksX4_forget_1 18 rfl rfl)
theorem dX4_forget_42 : decode cX4_forget 42 = .ok (.invokevirtual 291, 3) := dk_182 1 35 (dk_at dksX4_forget_1 19 rfl rfl)
theorem dX4_forget_45 : decode cX4_forget 45 = .ok (.ireturn, 1) := dk_172 (dk_at dksX4_forget_1 22 rfl rfl)
abbrev cX4_weigh : ByteArray := prog_20_method_119_code
def yX4_weigh : MethodName := ⟨RX4, "weigh", "(II)I"⟩
def dkwX4_weigh_2 : List UInt8 := [182, 1, 38, 172]
abbrev dktX4_weigh_2 : List UInt8 := dkwX4_weigh_2 ++ []
def dkwX4_weigh_1 : List UInt8 := [154, 0, 7, 4, 167, 0, 4, 3, 5, 182, 1, 65, 153, 0, 5, 3, 172, 42, 182, 1, 47, 42, 27, 28]
abbrev dktX4_weigh_1 : List UInt8 := dkwX4_weigh_1 ++ dktX4_weigh_2
def dkwX4_weigh_0 : List UInt8 := [42, 3, 181, 0, 60, 42, 27, 182, 1, 81, 154, 0, 27, 42, 28, 4, 17, 3, 231, 184, 0, 159]
abbrev dktX4_weigh_0 : List UInt8 := dkwX4_weigh_0 ++ dktX4_weigh_1
theorem dksX4_weigh_0 : cX4_weigh.data.toList.drop 0 = dktX4_weigh_0 := by decide +kernel
theorem dksX4_weigh_1 : cX4_weigh.data.toList.drop 22 = dktX4_weigh_1 := dk_seg dksX4_weigh_0 22 rfl rfl
theorem dksX4_weigh_2 : cX4_weigh.data.toList.drop 46 = dktX4_weigh_2 := dk_seg dksX4_weigh_1 24 rfl rfl
theorem dX4_weigh_0 : decode cX4_weigh 0 = .ok (.aload_n 0, 1) := dk_42 (dk_at dksX4_weigh_0 0 rfl rfl)
theorem dX4_weigh_1 : decode cX4_weigh 1 = .ok (.iconst 0, 1) := dk_3 (dk_at dksX4_weigh_0 1 rfl rfl)
theorem dX4_weigh_2 : decode cX4_weigh 2 = .ok (.putfield 60, 3) := dk_181 0 60 (dk_at dksX4_weigh_0 2 rfl rfl)
theorem dX4_weigh_5 : decode cX4_weigh 5 = .ok (.aload_n 0, 1) := dk_42 (dk_at dksX4_weigh_0 5 rfl rfl)
theorem dX4_weigh_6 : decode cX4_weigh 6 = .ok (.iload_n 1, 1) := dk_27 (dk_at dksX4_weigh_0 6 rfl rfl)
theorem dX4_weigh_7 : decode cX4_weigh 7 = .ok (.invokevirtual 337, 3) := dk_182 1 81 (dk_at dksX4_weigh_0 7 rfl rfl)
theorem dX4_weigh_10 : decode cX4_weigh 10 = .ok (.ifCond .ne 27, 3) := dk_154 0 27 (dk_at dksX4_weigh_0 10 rfl rfl)
theorem dX4_weigh_13 : decode cX4_weigh 13 = .ok (.aload_n 0, 1) := dk_42 (dk_at dksX4_weigh_0 13 rfl rfl)
theorem dX4_weigh_14 : decode cX4_weigh 14 = .ok (.iload_n 2, 1) := dk_28 (dk_at dksX4_weigh_0 14 rfl rfl)
theorem dX4_weigh_15 : decode cX4_weigh 15 = .ok (.iconst 1, 1) := dk_4 (dk_at dksX4_weigh_0 15 rfl rfl)
theorem dX4_weigh_16 : decode cX4_weigh 16 = .ok (.sipush 999, 3) := dk_17 3 231 (dk_at dksX4_weigh_0 16 rfl rfl)
theorem dX4_weigh_19 : decode cX4_weigh 19 = .ok (.invokestatic 159, 3) := dk_184 0 159 (dk_at dksX4_weigh_0 19 rfl rfl)
theorem dX4_weigh_22 : decode cX4_weigh 22 = .ok (.ifCond .ne 7, 3) := dk_154 0 7 (dk_at dksX4_weigh_1 0 rfl rfl)
theorem dX4_weigh_25 : decode cX4_weigh 25 = .ok (.iconst 1, 1) := dk_4 (dk_at dksX4_weigh_1 3 rfl rfl)
theorem dX4_weigh_26 : decode cX4_weigh 26 = .ok (.goto 4, 3) := dk_167 0 4 (dk_at dksX4_weigh_1 4 rfl rfl)
theorem dX4_weigh_29 : decode cX4_weigh 29 = .ok (.iconst 0, 1) := dk_3 (dk_at dksX4_weigh_1 7 rfl rfl)
theorem dX4_weigh_30 : decode cX4_weigh 30 = .ok (.iconst 2, 1) := dk_5 (dk_at dksX4_weigh_1 8 rfl rfl)
theorem dX4_weigh_31 : decode cX4_weigh 31 = .ok (.invokevirtual 321, 3) := dk_182 1 65 (dk_at dksX4_weigh_1 9 rfl rfl)
theorem dX4_weigh_34 : decode cX4_weigh 34 = .ok (.ifCond .eq 5, 3) := dk_153 0 5 (dk_at dksX4_weigh_1 12 rfl rfl)
theorem dX4_weigh_37 : decode cX4_weigh 37 = .ok (.iconst 0, 1) := dk_3 (dk_at dksX4_weigh_1 15 rfl rfl)
theorem dX4_weigh_38 : decode cX4_weigh 38 = .ok (.ireturn, 1) := dk_172 (dk_at dksX4_weigh_1 16 rfl rfl)
theorem dX4_weigh_39 : decode cX4_weigh 39 = .ok (.aload_n 0, 1) := dk_42 (dk_at dksX4_weigh_1 17 rfl rfl)
theorem dX4_weigh_40 : decode cX4_weigh 40 = .ok (.invokevirtual 303, 3) := dk_182 1 47 (dk_at dksX4_weigh_1 18 rfl rfl)
theorem dX4_weigh_43 : decode cX4_weigh 43 = .ok (.aload_n 0, 1) := dk_42 (dk_at dksX4_weigh_1 21 rfl rfl)
theorem dX4_weigh_44 : decode cX4_weigh 44 = .ok (.iload_n 1, 1) := dk_27 (dk_at dksX4_weigh_1 22 rfl rfl)
theorem dX4_weigh_45 : decode cX4_weigh 45 = .ok (.iload_n 2, 1) := dk_28 (dk_at dksX4_weigh_1 23 rfl rfl)
theorem dX4_weigh_46 : decode cX4_weigh 46 = .ok (.invokevirtual 294, 3) := dk_182 1 38 (dk_at dksX4_weigh_2 0 rfl rfl)
theorem dX4_weigh_49 : decode cX4_weigh 49 = .ok (.ireturn, 1) := dk_172 (dk_at dksX4_weigh_2 3 rfl rfl)
abbrev cX4_set : ByteArray := prog_20_method_120_code
def yX4_set : MethodName := ⟨RX4, "set", "(II)I"⟩
def dkwX4_set_2 : List UInt8 := [4, 182, 1, 65, 153, 0, 5, 3, 172, 42, 182, 1, 47, 42, 27, 28, 182, 1, 41, 172]
abbrev dktX4_set_2 : List UInt8 := dkwX4_set_2 ++ []
def dkwX4_set_1 : List UInt8 := [182, 1, 65, 154, 0, 28, 42, 28, 3, 27, 184, 0, 231, 184, 0, 159, 154, 0, 7, 4, 167, 0, 4, 3]
abbrev dktX4_set_1 : List UInt8 := dkwX4_set_1 ++ dktX4_set_2
def dkwX4_set_0 : List UInt8 := [42, 3, 181, 0, 60, 42, 27, 8, 16, 7, 184, 0, 159, 154, 0, 7, 4, 167, 0, 4, 3, 4]
abbrev dktX4_set_0 : List UInt8 := dkwX4_set_0 ++ dktX4_set_1
theorem dksX4_set_0 : cX4_set.data.toList.drop 0 = dktX4_set_0 := by decide +kernel
theorem dksX4_set_1 : cX4_set.data.toList.drop 22 = dktX4_set_1 := dk_seg dksX4_set_0 22 rfl rfl
theorem dksX4_set_2 : cX4_set.data.toList.drop 46 = dktX4_set_2 := dk_seg dksX4_set_1 24 rfl rfl
theorem dX4_set_0 : decode cX4_set 0 = .ok (.aload_n 0, 1) := dk_42 (dk_at dksX4_set_0 0 rfl rfl)
theorem dX4_set_1 : decode cX4_set 1 = .ok (.iconst 0, 1) := dk_3 (dk_at dksX4_set_0 1 rfl rfl)
theorem dX4_set_2 : decode cX4_set 2 = .ok (.putfield 60, 3) := dk_181 0 60 (dk_at dksX4_set_0 2 rfl rfl)
theorem dX4_set_5 : decode cX4_set 5 = .ok (.aload_n 0, 1) := dk_42 (dk_at dksX4_set_0 5 rfl rfl)
theorem dX4_set_6 : decode cX4_set 6 = .ok (.iload_n 1, 1) := dk_27 (dk_at dksX4_set_0 6 rfl rfl)
theorem dX4_set_7 : decode cX4_set 7 = .ok (.iconst 5, 1) := dk_8 (dk_at dksX4_set_0 7 rfl rfl)
theorem dX4_set_8 : decode cX4_set 8 = .ok (.bipush 7, 2) := dk_16 7 (dk_at dksX4_set_0 8 rfl rfl)
theorem dX4_set_10 : decode cX4_set 10 = .ok (.invokestatic 159, 3) := dk_184 0 159 (dk_at dksX4_set_0 10 rfl rfl)
theorem dX4_set_13 : decode cX4_set 13 = .ok (.ifCond .ne 7, 3) := dk_154 0 7 (dk_at dksX4_set_0 13 rfl rfl)
theorem dX4_set_16 : decode cX4_set 16 = .ok (.iconst 1, 1) := dk_4 (dk_at dksX4_set_0 16 rfl rfl)
theorem dX4_set_17 : decode cX4_set 17 = .ok (.goto 4, 3) := dk_167 0 4 (dk_at dksX4_set_0 17 rfl rfl)
theorem dX4_set_20 : decode cX4_set 20 = .ok (.iconst 0, 1) := dk_3 (dk_at dksX4_set_0 20 rfl rfl)
theorem dX4_set_21 : decode cX4_set 21 = .ok (.iconst 1, 1) := dk_4 (dk_at dksX4_set_0 21 rfl rfl)
theorem dX4_set_22 : decode cX4_set 22 = .ok (.invokevirtual 321, 3) := dk_182 1 65 (dk_at dksX4_set_1 0 rfl rfl)
theorem dX4_set_25 : decode cX4_set 25 = .ok (.ifCond .ne 28, 3) := dk_154 0 28 (dk_at dksX4_set_1 3 rfl rfl)
theorem dX4_set_28 : decode cX4_set 28 = .ok (.aload_n 0, 1) := dk_42 (dk_at dksX4_set_1 6 rfl rfl)
theorem dX4_set_29 : decode cX4_set 29 = .ok (.iload_n 2, 1) := dk_28 (dk_at dksX4_set_1 7 rfl rfl)
theorem dX4_set_30 : decode cX4_set 30 = .ok (.iconst 0, 1) := dk_3 (dk_at dksX4_set_1 8 rfl rfl)
theorem dX4_set_31 : decode cX4_set 31 = .ok (.iload_n 1, 1) := dk_27 (dk_at dksX4_set_1 9 rfl rfl)
theorem dX4_set_32 : decode cX4_set 32 = .ok (.invokestatic 231, 3) := dk_184 0 231 (dk_at dksX4_set_1 10 rfl rfl)
theorem dX4_set_35 : decode cX4_set 35 = .ok (.invokestatic 159, 3) := dk_184 0 159 (dk_at dksX4_set_1 13 rfl rfl)
theorem dX4_set_38 : decode cX4_set 38 = .ok (.ifCond .ne 7, 3) := dk_154 0 7 (dk_at dksX4_set_1 16 rfl rfl)
theorem dX4_set_41 : decode cX4_set 41 = .ok (.iconst 1, 1) := dk_4 (dk_at dksX4_set_1 19 rfl rfl)
theorem dX4_set_42 : decode cX4_set 42 = .ok (.goto 4, 3) := dk_167 0 4 (dk_at dksX4_set_1 20 rfl rfl)
theorem dX4_set_45 : decode cX4_set 45 = .ok (.iconst 0, 1) := dk_3 (dk_at dksX4_set_1 23 rfl rfl)
theorem dX4_set_46 : decode cX4_set 46 = .ok (.iconst 1, 1) := dk_4 (dk_at dksX4_set_2 0 rfl rfl)
theorem dX4_set_47 : decode cX4_set 47 = .ok (.invokevirtual 321, 3) := dk_182 1 65 (dk_at dksX4_set_2 1 rfl rfl)
theorem dX4_set_50 : decode cX4_set 50 = .ok (.ifCond .eq 5, 3) := dk_153 0 5 (dk_at dksX4_set_2 4 rfl rfl)
theorem dX4_set_53 : decode cX4_set 53 = .ok (.iconst 0, 1) := dk_3 (dk_at dksX4_set_2 7 rfl rfl)
theorem dX4_set_54 : decode cX4_set 54 = .ok (.ireturn, 1) := dk_172 (dk_at dksX4_set_2 8 rfl rfl)
theorem dX4_set_55 : decode cX4_set 55 = .ok (.aload_n 0, 1) := dk_42 (dk_at dksX4_set_2 9 rfl rfl)
theorem dX4_set_56 : decode cX4_set 56 = .ok (.invokevirtual 303, 3) := dk_182 1 47 (dk_at dksX4_set_2 10 rfl rfl)
theorem dX4_set_59 : decode cX4_set 59 = .ok (.aload_n 0, 1) := dk_42 (dk_at dksX4_set_2 13 rfl rfl)
theorem dX4_set_60 : decode cX4_set 60 = .ok (.iload_n 1, 1) := dk_27 (dk_at dksX4_set_2 14 rfl rfl)
theorem dX4_set_61 : decode cX4_set 61 = .ok (.iload_n 2, 1) := dk_28 (dk_at dksX4_set_2 15 rfl rfl)
theorem dX4_set_62 : decode cX4_set 62 = .ok (.invokevirtual 297, 3) := dk_182 1 41 (dk_at dksX4_set_2 16 rfl rfl)
theorem dX4_set_65 : decode cX4_set 65 = .ok (.ireturn, 1) := dk_172 (dk_at dksX4_set_2 19 rfl rfl)
abbrev cX4_undo : ByteArray := prog_20_method_121_code
def yX4_undo : MethodName := ⟨RX4, "undo", "()I"⟩
def dkwX4_undo_2 : List UInt8 := [180, 0, 146, 104, 42, 180, 0, 7, 3, 184, 0, 149, 42, 180, 0, 146, 172]
abbrev dktX4_undo_2 : List UInt8 := dkwX4_undo_2 ++ []
def dkwX4_undo_1 : List UInt8 := [153, 0, 5, 3, 172, 42, 89, 180, 0, 146, 4, 100, 181, 0, 146, 42, 180, 0, 22, 17, 5, 137, 42]
abbrev dktX4_undo_1 : List UInt8 := dkwX4_undo_1 ++ dktX4_undo_2
def dkwX4_undo_0 : List UInt8 := [42, 3, 181, 0, 60, 42, 42, 180, 0, 146, 154, 0, 7, 4, 167, 0, 4, 3, 4, 182, 1, 65]
abbrev dktX4_undo_0 : List UInt8 := dkwX4_undo_0 ++ dktX4_undo_1
theorem dksX4_undo_0 : cX4_undo.data.toList.drop 0 = dktX4_undo_0 := by decide +kernel
theorem dksX4_undo_1 : cX4_undo.data.toList.drop 22 = dktX4_undo_1 := dk_seg dksX4_undo_0 22 rfl rfl
theorem dksX4_undo_2 : cX4_undo.data.toList.drop 45 = dktX4_undo_2 := dk_seg dksX4_undo_1 23 rfl rfl
theorem dX4_undo_0 : decode cX4_undo 0 = .ok (.aload_n 0, 1) := dk_42 (dk_at dksX4_undo_0 0 rfl rfl)
theorem dX4_undo_1 : decode cX4_undo 1 = .ok (.iconst 0, 1) := dk_3 (dk_at dksX4_undo_0 1 rfl rfl)
theorem dX4_undo_2 : decode cX4_undo 2 = .ok (.putfield 60, 3) := dk_181 0 60 (dk_at dksX4_undo_0 2 rfl rfl)
theorem dX4_undo_5 : decode cX4_undo 5 = .ok (.aload_n 0, 1) := dk_42 (dk_at dksX4_undo_0 5 rfl rfl)
theorem dX4_undo_6 : decode cX4_undo 6 = .ok (.aload_n 0, 1) := dk_42 (dk_at dksX4_undo_0 6 rfl rfl)
theorem dX4_undo_7 : decode cX4_undo 7 = .ok (.getfield 146, 3) := dk_180 0 146 (dk_at dksX4_undo_0 7 rfl rfl)
theorem dX4_undo_10 : decode cX4_undo 10 = .ok (.ifCond .ne 7, 3) := dk_154 0 7 (dk_at dksX4_undo_0 10 rfl rfl)
theorem dX4_undo_13 : decode cX4_undo 13 = .ok (.iconst 1, 1) := dk_4 (dk_at dksX4_undo_0 13 rfl rfl)
theorem dX4_undo_14 : decode cX4_undo 14 = .ok (.goto 4, 3) := dk_167 0 4 (dk_at dksX4_undo_0 14 rfl rfl)
theorem dX4_undo_17 : decode cX4_undo 17 = .ok (.iconst 0, 1) := dk_3 (dk_at dksX4_undo_0 17 rfl rfl)
theorem dX4_undo_18 : decode cX4_undo 18 = .ok (.iconst 1, 1) := dk_4 (dk_at dksX4_undo_0 18 rfl rfl)
theorem dX4_undo_19 : decode cX4_undo 19 = .ok (.invokevirtual 321, 3) := dk_182 1 65 (dk_at dksX4_undo_0 19 rfl rfl)
theorem dX4_undo_22 : decode cX4_undo 22 = .ok (.ifCond .eq 5, 3) := dk_153 0 5 (dk_at dksX4_undo_1 0 rfl rfl)
theorem dX4_undo_25 : decode cX4_undo 25 = .ok (.iconst 0, 1) := dk_3 (dk_at dksX4_undo_1 3 rfl rfl)
theorem dX4_undo_26 : decode cX4_undo 26 = .ok (.ireturn, 1) := dk_172 (dk_at dksX4_undo_1 4 rfl rfl)
theorem dX4_undo_27 : decode cX4_undo 27 = .ok (.aload_n 0, 1) := dk_42 (dk_at dksX4_undo_1 5 rfl rfl)
theorem dX4_undo_28 : decode cX4_undo 28 = .ok (.dup, 1) := dk_89 (dk_at dksX4_undo_1 6 rfl rfl)
theorem dX4_undo_29 : decode cX4_undo 29 = .ok (.getfield 146, 3) := dk_180 0 146 (dk_at dksX4_undo_1 7 rfl rfl)
theorem dX4_undo_32 : decode cX4_undo 32 = .ok (.iconst 1, 1) := dk_4 (dk_at dksX4_undo_1 10 rfl rfl)
theorem dX4_undo_33 : decode cX4_undo 33 = .ok (.isub, 1) := dk_100 (dk_at dksX4_undo_1 11 rfl rfl)
theorem dX4_undo_34 : decode cX4_undo 34 = .ok (.putfield 146, 3) := dk_181 0 146 (dk_at dksX4_undo_1 12 rfl rfl)
theorem dX4_undo_37 : decode cX4_undo 37 = .ok (.aload_n 0, 1) := dk_42 (dk_at dksX4_undo_1 15 rfl rfl)
theorem dX4_undo_38 : decode cX4_undo 38 = .ok (.getfield 22, 3) := dk_180 0 22 (dk_at dksX4_undo_1 16 rfl rfl)
theorem dX4_undo_41 : decode cX4_undo 41 = .ok (.sipush 1417, 3) := dk_17 5 137 (dk_at dksX4_undo_1 19 rfl rfl)
theorem dX4_undo_44 : decode cX4_undo 44 = .ok (.aload_n 0, 1) := dk_42 (dk_at dksX4_undo_1 22 rfl rfl)
theorem dX4_undo_45 : decode cX4_undo 45 = .ok (.getfield 146, 3) := dk_180 0 146 (dk_at dksX4_undo_2 0 rfl rfl)
theorem dX4_undo_48 : decode cX4_undo 48 = .ok (.imul, 1) := dk_104 (dk_at dksX4_undo_2 3 rfl rfl)
theorem dX4_undo_49 : decode cX4_undo 49 = .ok (.aload_n 0, 1) := dk_42 (dk_at dksX4_undo_2 4 rfl rfl)
theorem dX4_undo_50 : decode cX4_undo 50 = .ok (.getfield 7, 3) := dk_180 0 7 (dk_at dksX4_undo_2 5 rfl rfl)
theorem dX4_undo_53 : decode cX4_undo 53 = .ok (.iconst 0, 1) := dk_3 (dk_at dksX4_undo_2 8 rfl rfl)
theorem dX4_undo_54 : decode cX4_undo 54 = .ok (.invokestatic 149, 3) := dk_184 0 149 (dk_at dksX4_undo_2 9 rfl rfl)
theorem dX4_undo_57 : decode cX4_undo 57 = .ok (.aload_n 0, 1) := dk_42 (dk_at dksX4_undo_2 12 rfl rfl)
theorem dX4_undo_58 : decode cX4_undo 58 = .ok (.getfield 146, 3) := dk_180 0 146 (dk_at dksX4_undo_2 13 rfl rfl)
theorem dX4_undo_61 : decode cX4_undo 61 = .ok (.ireturn, 1) := dk_172 (dk_at dksX4_undo_2 16 rfl rfl)
abbrev cX4_printMonth : ByteArray := prog_20_method_124_code
def yX4_printMonth : MethodName := ⟨RX4, "printMonth", "(I)I"⟩
def dkwX4_printMonth_2 : List UInt8 := [28, 27, 182, 0, 116, 96, 182, 1, 133, 132, 2, 1, 167, 255, 219, 42, 180, 1, 130, 172]
abbrev dktX4_printMonth_2 : List UInt8 := dkwX4_printMonth_2 ++ []
def dkwX4_printMonth_1 : List UInt8 := [16, 16, 162, 0, 37, 42, 42, 28, 27, 182, 0, 116, 2, 160, 0, 8, 16, 46, 167, 0, 12, 16, 48, 42]
abbrev dktX4_printMonth_1 : List UInt8 := dkwX4_printMonth_1 ++ dktX4_printMonth_2
def dkwX4_printMonth_0 : List UInt8 := [42, 3, 181, 0, 60, 42, 3, 27, 182, 1, 84, 153, 0, 5, 3, 172, 42, 3, 181, 1, 130, 3, 61, 28]
abbrev dktX4_printMonth_0 : List UInt8 := dkwX4_printMonth_0 ++ dktX4_printMonth_1
theorem dksX4_printMonth_0 : cX4_printMonth.data.toList.drop 0 = dktX4_printMonth_0 := by decide +kernel
theorem dksX4_printMonth_1 : cX4_printMonth.data.toList.drop 24 = dktX4_printMonth_1 := dk_seg dksX4_printMonth_0 24 rfl rfl
theorem dksX4_printMonth_2 : cX4_printMonth.data.toList.drop 48 = dktX4_printMonth_2 := dk_seg dksX4_printMonth_1 24 rfl rfl
theorem dX4_printMonth_0 : decode cX4_printMonth 0 = .ok (.aload_n 0, 1) := dk_42 (dk_at dksX4_printMonth_0 0 rfl rfl)
theorem dX4_printMonth_1 : decode cX4_printMonth 1 = .ok (.iconst 0, 1) := dk_3 (dk_at dksX4_printMonth_0 1 rfl rfl)
theorem dX4_printMonth_2 : decode cX4_printMonth 2 = .ok (.putfield 60, 3) := dk_181 0 60 (dk_at dksX4_printMonth_0 2 rfl rfl)
theorem dX4_printMonth_5 : decode cX4_printMonth 5 = .ok (.aload_n 0, 1) := dk_42 (dk_at dksX4_printMonth_0 5 rfl rfl)
theorem dX4_printMonth_6 : decode cX4_printMonth 6 = .ok (.iconst 0, 1) := dk_3 (dk_at dksX4_printMonth_0 6 rfl rfl)
theorem dX4_printMonth_7 : decode cX4_printMonth 7 = .ok (.iload_n 1, 1) := dk_27 (dk_at dksX4_printMonth_0 7 rfl rfl)
theorem dX4_printMonth_8 : decode cX4_printMonth 8 = .ok (.invokevirtual 340, 3) := dk_182 1 84 (dk_at dksX4_printMonth_0 8 rfl rfl)
theorem dX4_printMonth_11 : decode cX4_printMonth 11 = .ok (.ifCond .eq 5, 3) := dk_153 0 5 (dk_at dksX4_printMonth_0 11 rfl rfl)
theorem dX4_printMonth_14 : decode cX4_printMonth 14 = .ok (.iconst 0, 1) := dk_3 (dk_at dksX4_printMonth_0 14 rfl rfl)
theorem dX4_printMonth_15 : decode cX4_printMonth 15 = .ok (.ireturn, 1) := dk_172 (dk_at dksX4_printMonth_0 15 rfl rfl)
theorem dX4_printMonth_16 : decode cX4_printMonth 16 = .ok (.aload_n 0, 1) := dk_42 (dk_at dksX4_printMonth_0 16 rfl rfl)
theorem dX4_printMonth_17 : decode cX4_printMonth 17 = .ok (.iconst 0, 1) := dk_3 (dk_at dksX4_printMonth_0 17 rfl rfl)
theorem dX4_printMonth_18 : decode cX4_printMonth 18 = .ok (.putfield 386, 3) := dk_181 1 130 (dk_at dksX4_printMonth_0 18 rfl rfl)
theorem dX4_printMonth_21 : decode cX4_printMonth 21 = .ok (.iconst 0, 1) := dk_3 (dk_at dksX4_printMonth_0 21 rfl rfl)
theorem dX4_printMonth_22 : decode cX4_printMonth 22 = .ok (.istore_n 2, 1) := dk_61 (dk_at dksX4_printMonth_0 22 rfl rfl)
theorem dX4_printMonth_23 : decode cX4_printMonth 23 = .ok (.iload_n 2, 1) := dk_28 (dk_at dksX4_printMonth_0 23 rfl rfl)
theorem dX4_printMonth_24 : decode cX4_printMonth 24 = .ok (.bipush 16, 2) := dk_16 16 (dk_at dksX4_printMonth_1 0 rfl rfl)
theorem dX4_printMonth_26 : decode cX4_printMonth 26 = .ok (.if_icmp .ge 37, 3) := dk_162 0 37 (dk_at dksX4_printMonth_1 2 rfl rfl)
theorem dX4_printMonth_29 : decode cX4_printMonth 29 = .ok (.aload_n 0, 1) := dk_42 (dk_at dksX4_printMonth_1 5 rfl rfl)
theorem dX4_printMonth_30 : decode cX4_printMonth 30 = .ok (.aload_n 0, 1) := dk_42 (dk_at dksX4_printMonth_1 6 rfl rfl)
theorem dX4_printMonth_31 : decode cX4_printMonth 31 = .ok (.iload_n 2, 1) := dk_28 (dk_at dksX4_printMonth_1 7 rfl rfl)
theorem dX4_printMonth_32 : decode cX4_printMonth 32 = .ok (.iload_n 1, 1) := dk_27 (dk_at dksX4_printMonth_1 8 rfl rfl)
theorem dX4_printMonth_33 : decode cX4_printMonth 33 = .ok (.invokevirtual 116, 3) := dk_182 0 116 (dk_at dksX4_printMonth_1 9 rfl rfl)
theorem dX4_printMonth_36 : decode cX4_printMonth 36 = .ok (.iconst (-1), 1) := dk_2 (dk_at dksX4_printMonth_1 12 rfl rfl)
theorem dX4_printMonth_37 : decode cX4_printMonth 37 = .ok (.if_icmp .ne 8, 3) := dk_160 0 8 (dk_at dksX4_printMonth_1 13 rfl rfl)
theorem dX4_printMonth_40 : decode cX4_printMonth 40 = .ok (.bipush 46, 2) := dk_16 46 (dk_at dksX4_printMonth_1 16 rfl rfl)
theorem dX4_printMonth_42 : decode cX4_printMonth 42 = .ok (.goto 12, 3) := dk_167 0 12 (dk_at dksX4_printMonth_1 18 rfl rfl)
theorem dX4_printMonth_45 : decode cX4_printMonth 45 = .ok (.bipush 48, 2) := dk_16 48 (dk_at dksX4_printMonth_1 21 rfl rfl)
theorem dX4_printMonth_47 : decode cX4_printMonth 47 = .ok (.aload_n 0, 1) := dk_42 (dk_at dksX4_printMonth_1 23 rfl rfl)
theorem dX4_printMonth_48 : decode cX4_printMonth 48 = .ok (.iload_n 2, 1) := dk_28 (dk_at dksX4_printMonth_2 0 rfl rfl)
theorem dX4_printMonth_49 : decode cX4_printMonth 49 = .ok (.iload_n 1, 1) := dk_27 (dk_at dksX4_printMonth_2 1 rfl rfl)
theorem dX4_printMonth_50 : decode cX4_printMonth 50 = .ok (.invokevirtual 116, 3) := dk_182 0 116 (dk_at dksX4_printMonth_2 2 rfl rfl)
theorem dX4_printMonth_53 : decode cX4_printMonth 53 = .ok (.iadd, 1) := dk_96 (dk_at dksX4_printMonth_2 5 rfl rfl)
theorem dX4_printMonth_54 : decode cX4_printMonth 54 = .ok (.invokevirtual 389, 3) := dk_182 1 133 (dk_at dksX4_printMonth_2 6 rfl rfl)
theorem dX4_printMonth_57 : decode cX4_printMonth 57 = .ok (.iinc 2 1, 3) := dk_132 2 1 (dk_at dksX4_printMonth_2 9 rfl rfl)
theorem dX4_printMonth_60 : decode cX4_printMonth 60 = .ok (.goto (-37), 3) := dk_167 255 219 (dk_at dksX4_printMonth_2 12 rfl rfl)
theorem dX4_printMonth_63 : decode cX4_printMonth 63 = .ok (.aload_n 0, 1) := dk_42 (dk_at dksX4_printMonth_2 15 rfl rfl)
theorem dX4_printMonth_64 : decode cX4_printMonth 64 = .ok (.getfield 386, 3) := dk_180 1 130 (dk_at dksX4_printMonth_2 16 rfl rfl)
theorem dX4_printMonth_67 : decode cX4_printMonth 67 = .ok (.ireturn, 1) := dk_172 (dk_at dksX4_printMonth_2 19 rfl rfl)
abbrev cX4_write : ByteArray := prog_20_method_122_code
def yX4_write : MethodName := ⟨RX4, "write", "(I)V"⟩
def dkwX4_write_0 : List UInt8 := [42, 180, 0, 50, 42, 180, 1, 130, 27, 79, 42, 89, 180, 1, 130, 4, 96, 181, 1, 130, 177]
abbrev dktX4_write_0 : List UInt8 := dkwX4_write_0 ++ []
theorem dksX4_write_0 : cX4_write.data.toList.drop 0 = dktX4_write_0 := by decide +kernel
theorem dX4_write_0 : decode cX4_write 0 = .ok (.aload_n 0, 1) := dk_42 (dk_at dksX4_write_0 0 rfl rfl)
theorem dX4_write_1 : decode cX4_write 1 = .ok (.getfield 50, 3) := dk_180 0 50 (dk_at dksX4_write_0 1 rfl rfl)
theorem dX4_write_4 : decode cX4_write 4 = .ok (.aload_n 0, 1) := dk_42 (dk_at dksX4_write_0 4 rfl rfl)
theorem dX4_write_5 : decode cX4_write 5 = .ok (.getfield 386, 3) := dk_180 1 130 (dk_at dksX4_write_0 5 rfl rfl)
theorem dX4_write_8 : decode cX4_write 8 = .ok (.iload_n 1, 1) := dk_27 (dk_at dksX4_write_0 8 rfl rfl)
theorem dX4_write_9 : decode cX4_write 9 = .ok (.iastore, 1) := dk_79 (dk_at dksX4_write_0 9 rfl rfl)
theorem dX4_write_10 : decode cX4_write 10 = .ok (.aload_n 0, 1) := dk_42 (dk_at dksX4_write_0 10 rfl rfl)
theorem dX4_write_11 : decode cX4_write 11 = .ok (.dup, 1) := dk_89 (dk_at dksX4_write_0 11 rfl rfl)
theorem dX4_write_12 : decode cX4_write 12 = .ok (.getfield 386, 3) := dk_180 1 130 (dk_at dksX4_write_0 12 rfl rfl)
theorem dX4_write_15 : decode cX4_write 15 = .ok (.iconst 1, 1) := dk_4 (dk_at dksX4_write_0 15 rfl rfl)
theorem dX4_write_16 : decode cX4_write 16 = .ok (.iadd, 1) := dk_96 (dk_at dksX4_write_0 16 rfl rfl)
theorem dX4_write_17 : decode cX4_write 17 = .ok (.putfield 386, 3) := dk_181 1 130 (dk_at dksX4_write_0 17 rfl rfl)
theorem dX4_write_20 : decode cX4_write 20 = .ok (.return_, 1) := dk_177 (dk_at dksX4_write_0 20 rfl rfl)
abbrev cX4_printProverb : ByteArray := prog_20_method_125_code
def yX4_printProverb : MethodName := ⟨RX4, "printProverb", "(I)I"⟩
def dkwX4_printProverb_5 : List UInt8 := [42, 16, 120, 182, 1, 133, 42, 180, 1, 130, 172]
abbrev dktX4_printProverb_5 : List UInt8 := dkwX4_printProverb_5 ++ []
def dkwX4_printProverb_4 : List UInt8 := [16, 61, 182, 1, 133, 42, 42, 27, 16, 6, 182, 0, 67, 182, 1, 136, 42, 27, 182, 0, 84, 154, 0, 9]
abbrev dktX4_printProverb_4 : List UInt8 := dkwX4_printProverb_4 ++ dktX4_printProverb_5
def dkwX4_printProverb_3 : List UInt8 := [6, 182, 0, 67, 182, 1, 136, 42, 16, 62, 182, 1, 133, 42, 42, 27, 7, 182, 0, 67, 182, 1, 136, 42]
abbrev dktX4_printProverb_3 : List UInt8 := dkwX4_printProverb_3 ++ dktX4_printProverb_4
def dkwX4_printProverb_2 : List UInt8 := [16, 64, 182, 1, 133, 42, 42, 27, 5, 182, 0, 67, 182, 1, 136, 42, 16, 45, 182, 1, 133, 42, 42, 27]
abbrev dktX4_printProverb_2 : List UInt8 := dkwX4_printProverb_2 ++ dktX4_printProverb_3
def dkwX4_printProverb_1 : List UInt8 := [182, 0, 67, 182, 1, 136, 42, 16, 45, 182, 1, 133, 42, 42, 27, 4, 182, 0, 67, 182, 1, 136, 42]
abbrev dktX4_printProverb_1 : List UInt8 := dkwX4_printProverb_1 ++ dktX4_printProverb_2
def dkwX4_printProverb_0 : List UInt8 := [42, 3, 181, 0, 60, 42, 27, 182, 1, 81, 153, 0, 5, 3, 172, 42, 3, 181, 1, 130, 42, 42, 27, 3]
abbrev dktX4_printProverb_0 : List UInt8 := dkwX4_printProverb_0 ++ dktX4_printProverb_1
theorem dksX4_printProverb_0 : cX4_printProverb.data.toList.drop 0 = dktX4_printProverb_0 := by decide +kernel
theorem dksX4_printProverb_1 : cX4_printProverb.data.toList.drop 24 = dktX4_printProverb_1 := dk_seg dksX4_printProverb_0 24 rfl rfl
theorem dksX4_printProverb_2 : cX4_printProverb.data.toList.drop 47 = dktX4_printProverb_2 := dk_seg dksX4_printProverb_1 23 rfl rfl
theorem dksX4_printProverb_3 : cX4_printProverb.data.toList.drop 71 = dktX4_printProverb_3 := dk_seg dksX4_printProverb_2 24 rfl rfl
theorem dksX4_printProverb_4 : cX4_printProverb.data.toList.drop 95 = dktX4_printProverb_4 := dk_seg dksX4_printProverb_3 24 rfl rfl
theorem dksX4_printProverb_5 : cX4_printProverb.data.toList.drop 119 = dktX4_printProverb_5 := dk_seg dksX4_printProverb_4 24 rfl rfl
theorem dX4_printProverb_0 : decode cX4_printProverb 0 = .ok (.aload_n 0, 1) := dk_42 (dk_at dksX4_printProverb_0 0 rfl rfl)
theorem dX4_printProverb_1 : decode cX4_printProverb 1 = .ok (.iconst 0, 1) := dk_3 (dk_at dksX4_printProverb_0 1 rfl rfl)
theorem dX4_printProverb_2 : decode cX4_printProverb 2 = .ok (.putfield 60, 3) := dk_181 0 60 (dk_at dksX4_printProverb_0 2 rfl rfl)
theorem dX4_printProverb_5 : decode cX4_printProverb 5 = .ok (.aload_n 0, 1) := dk_42 (dk_at dksX4_printProverb_0 5 rfl rfl)
theorem dX4_printProverb_6 : decode cX4_printProverb 6 = .ok (.iload_n 1, 1) := dk_27 (dk_at dksX4_printProverb_0 6 rfl rfl)
theorem dX4_printProverb_7 : decode cX4_printProverb 7 = .ok (.invokevirtual 337, 3) := dk_182 1 81 (dk_at dksX4_printProverb_0 7 rfl rfl)
theorem dX4_printProverb_10 : decode cX4_printProverb 10 = .ok (.ifCond .eq 5, 3) := dk_153 0 5 (dk_at dksX4_printProverb_0 10 rfl rfl)
theorem dX4_printProverb_13 : decode cX4_printProverb 13 = .ok (.iconst 0, 1) := dk_3 (dk_at dksX4_printProverb_0 13 rfl rfl)
theorem dX4_printProverb_14 : decode cX4_printProverb 14 = .ok (.ireturn, 1) := dk_172 (dk_at dksX4_printProverb_0 14 rfl rfl)
theorem dX4_printProverb_15 : decode cX4_printProverb 15 = .ok (.aload_n 0, 1) := dk_42 (dk_at dksX4_printProverb_0 15 rfl rfl)
theorem dX4_printProverb_16 : decode cX4_printProverb 16 = .ok (.iconst 0, 1) := dk_3 (dk_at dksX4_printProverb_0 16 rfl rfl)
theorem dX4_printProverb_17 : decode cX4_printProverb 17 = .ok (.putfield 386, 3) := dk_181 1 130 (dk_at dksX4_printProverb_0 17 rfl rfl)
theorem dX4_printProverb_20 : decode cX4_printProverb 20 = .ok (.aload_n 0, 1) := dk_42 (dk_at dksX4_printProverb_0 20 rfl rfl)
theorem dX4_printProverb_21 : decode cX4_printProverb 21 = .ok (.aload_n 0, 1) := dk_42 (dk_at dksX4_printProverb_0 21 rfl rfl)
theorem dX4_printProverb_22 : decode cX4_printProverb 22 = .ok (.iload_n 1, 1) := dk_27 (dk_at dksX4_printProverb_0 22 rfl rfl)
theorem dX4_printProverb_23 : decode cX4_printProverb 23 = .ok (.iconst 0, 1) := dk_3 (dk_at dksX4_printProverb_0 23 rfl rfl)
theorem dX4_printProverb_24 : decode cX4_printProverb 24 = .ok (.invokevirtual 67, 3) := dk_182 0 67 (dk_at dksX4_printProverb_1 0 rfl rfl)
theorem dX4_printProverb_27 : decode cX4_printProverb 27 = .ok (.invokevirtual 392, 3) := dk_182 1 136 (dk_at dksX4_printProverb_1 3 rfl rfl)
theorem dX4_printProverb_30 : decode cX4_printProverb 30 = .ok (.aload_n 0, 1) := dk_42 (dk_at dksX4_printProverb_1 6 rfl rfl)
theorem dX4_printProverb_31 : decode cX4_printProverb 31 = .ok (.bipush 45, 2) := dk_16 45 (dk_at dksX4_printProverb_1 7 rfl rfl)
theorem dX4_printProverb_33 : decode cX4_printProverb 33 = .ok (.invokevirtual 389, 3) := dk_182 1 133 (dk_at dksX4_printProverb_1 9 rfl rfl)
theorem dX4_printProverb_36 : decode cX4_printProverb 36 = .ok (.aload_n 0, 1) := dk_42 (dk_at dksX4_printProverb_1 12 rfl rfl)
theorem dX4_printProverb_37 : decode cX4_printProverb 37 = .ok (.aload_n 0, 1) := dk_42 (dk_at dksX4_printProverb_1 13 rfl rfl)
theorem dX4_printProverb_38 : decode cX4_printProverb 38 = .ok (.iload_n 1, 1) := dk_27 (dk_at dksX4_printProverb_1 14 rfl rfl)
theorem dX4_printProverb_39 : decode cX4_printProverb 39 = .ok (.iconst 1, 1) := dk_4 (dk_at dksX4_printProverb_1 15 rfl rfl)
theorem dX4_printProverb_40 : decode cX4_printProverb 40 = .ok (.invokevirtual 67, 3) := dk_182 0 67 (dk_at dksX4_printProverb_1 16 rfl rfl)
theorem dX4_printProverb_43 : decode cX4_printProverb 43 = .ok (.invokevirtual 392, 3) := dk_182 1 136 (dk_at dksX4_printProverb_1 19 rfl rfl)
theorem dX4_printProverb_46 : decode cX4_printProverb 46 = .ok (.aload_n 0, 1) := dk_42 (dk_at dksX4_printProverb_1 22 rfl rfl)
theorem dX4_printProverb_47 : decode cX4_printProverb 47 = .ok (.bipush 64, 2) := dk_16 64 (dk_at dksX4_printProverb_2 0 rfl rfl)
theorem dX4_printProverb_49 : decode cX4_printProverb 49 = .ok (.invokevirtual 389, 3) := dk_182 1 133 (dk_at dksX4_printProverb_2 2 rfl rfl)
theorem dX4_printProverb_52 : decode cX4_printProverb 52 = .ok (.aload_n 0, 1) := dk_42 (dk_at dksX4_printProverb_2 5 rfl rfl)
theorem dX4_printProverb_53 : decode cX4_printProverb 53 = .ok (.aload_n 0, 1) := dk_42 (dk_at dksX4_printProverb_2 6 rfl rfl)
theorem dX4_printProverb_54 : decode cX4_printProverb 54 = .ok (.iload_n 1, 1) := dk_27 (dk_at dksX4_printProverb_2 7 rfl rfl)
theorem dX4_printProverb_55 : decode cX4_printProverb 55 = .ok (.iconst 2, 1) := dk_5 (dk_at dksX4_printProverb_2 8 rfl rfl)
theorem dX4_printProverb_56 : decode cX4_printProverb 56 = .ok (.invokevirtual 67, 3) := dk_182 0 67 (dk_at dksX4_printProverb_2 9 rfl rfl)
theorem dX4_printProverb_59 : decode cX4_printProverb 59 = .ok (.invokevirtual 392, 3) := dk_182 1 136 (dk_at dksX4_printProverb_2 12 rfl rfl)
theorem dX4_printProverb_62 : decode cX4_printProverb 62 = .ok (.aload_n 0, 1) := dk_42 (dk_at dksX4_printProverb_2 15 rfl rfl)
theorem dX4_printProverb_63 : decode cX4_printProverb 63 = .ok (.bipush 45, 2) := dk_16 45 (dk_at dksX4_printProverb_2 16 rfl rfl)
theorem dX4_printProverb_65 : decode cX4_printProverb 65 = .ok (.invokevirtual 389, 3) := dk_182 1 133 (dk_at dksX4_printProverb_2 18 rfl rfl)
theorem dX4_printProverb_68 : decode cX4_printProverb 68 = .ok (.aload_n 0, 1) := dk_42 (dk_at dksX4_printProverb_2 21 rfl rfl)
theorem dX4_printProverb_69 : decode cX4_printProverb 69 = .ok (.aload_n 0, 1) := dk_42 (dk_at dksX4_printProverb_2 22 rfl rfl)
theorem dX4_printProverb_70 : decode cX4_printProverb 70 = .ok (.iload_n 1, 1) := dk_27 (dk_at dksX4_printProverb_2 23 rfl rfl)
theorem dX4_printProverb_71 : decode cX4_printProverb 71 = .ok (.iconst 3, 1) := dk_6 (dk_at dksX4_printProverb_3 0 rfl rfl)
theorem dX4_printProverb_72 : decode cX4_printProverb 72 = .ok (.invokevirtual 67, 3) := dk_182 0 67 (dk_at dksX4_printProverb_3 1 rfl rfl)
theorem dX4_printProverb_75 : decode cX4_printProverb 75 = .ok (.invokevirtual 392, 3) := dk_182 1 136 (dk_at dksX4_printProverb_3 4 rfl rfl)
theorem dX4_printProverb_78 : decode cX4_printProverb 78 = .ok (.aload_n 0, 1) := dk_42 (dk_at dksX4_printProverb_3 7 rfl rfl)
theorem dX4_printProverb_79 : decode cX4_printProverb 79 = .ok (.bipush 62, 2) := dk_16 62 (dk_at dksX4_printProverb_3 8 rfl rfl)
theorem dX4_printProverb_81 : decode cX4_printProverb 81 = .ok (.invokevirtual 389, 3) := dk_182 1 133 (dk_at dksX4_printProverb_3 10 rfl rfl)
theorem dX4_printProverb_84 : decode cX4_printProverb 84 = .ok (.aload_n 0, 1) := dk_42 (dk_at dksX4_printProverb_3 13 rfl rfl)
theorem dX4_printProverb_85 : decode cX4_printProverb 85 = .ok (.aload_n 0, 1) := dk_42 (dk_at dksX4_printProverb_3 14 rfl rfl)
theorem dX4_printProverb_86 : decode cX4_printProverb 86 = .ok (.iload_n 1, 1) := dk_27 (dk_at dksX4_printProverb_3 15 rfl rfl)
theorem dX4_printProverb_87 : decode cX4_printProverb 87 = .ok (.iconst 4, 1) := dk_7 (dk_at dksX4_printProverb_3 16 rfl rfl)
theorem dX4_printProverb_88 : decode cX4_printProverb 88 = .ok (.invokevirtual 67, 3) := dk_182 0 67 (dk_at dksX4_printProverb_3 17 rfl rfl)
theorem dX4_printProverb_91 : decode cX4_printProverb 91 = .ok (.invokevirtual 392, 3) := dk_182 1 136 (dk_at dksX4_printProverb_3 20 rfl rfl)
theorem dX4_printProverb_94 : decode cX4_printProverb 94 = .ok (.aload_n 0, 1) := dk_42 (dk_at dksX4_printProverb_3 23 rfl rfl)
theorem dX4_printProverb_95 : decode cX4_printProverb 95 = .ok (.bipush 61, 2) := dk_16 61 (dk_at dksX4_printProverb_4 0 rfl rfl)
theorem dX4_printProverb_97 : decode cX4_printProverb 97 = .ok (.invokevirtual 389, 3) := dk_182 1 133 (dk_at dksX4_printProverb_4 2 rfl rfl)
theorem dX4_printProverb_100 : decode cX4_printProverb 100 = .ok (.aload_n 0, 1) := dk_42 (dk_at dksX4_printProverb_4 5 rfl rfl)
theorem dX4_printProverb_101 : decode cX4_printProverb 101 = .ok (.aload_n 0, 1) := dk_42 (dk_at dksX4_printProverb_4 6 rfl rfl)
theorem dX4_printProverb_102 : decode cX4_printProverb 102 = .ok (.iload_n 1, 1) := dk_27 (dk_at dksX4_printProverb_4 7 rfl rfl)
theorem dX4_printProverb_103 : decode cX4_printProverb 103 = .ok (.bipush 6, 2) := dk_16 6 (dk_at dksX4_printProverb_4 8 rfl rfl)
theorem dX4_printProverb_105 : decode cX4_printProverb 105 = .ok (.invokevirtual 67, 3) := dk_182 0 67 (dk_at dksX4_printProverb_4 10 rfl rfl)
theorem dX4_printProverb_108 : decode cX4_printProverb 108 = .ok (.invokevirtual 392, 3) := dk_182 1 136 (dk_at dksX4_printProverb_4 13 rfl rfl)
theorem dX4_printProverb_111 : decode cX4_printProverb 111 = .ok (.aload_n 0, 1) := dk_42 (dk_at dksX4_printProverb_4 16 rfl rfl)
theorem dX4_printProverb_112 : decode cX4_printProverb 112 = .ok (.iload_n 1, 1) := dk_27 (dk_at dksX4_printProverb_4 17 rfl rfl)
theorem dX4_printProverb_113 : decode cX4_printProverb 113 = .ok (.invokevirtual 84, 3) := dk_182 0 84 (dk_at dksX4_printProverb_4 18 rfl rfl)
theorem dX4_printProverb_116 : decode cX4_printProverb 116 = .ok (.ifCond .ne 9, 3) := dk_154 0 9 (dk_at dksX4_printProverb_4 21 rfl rfl)
theorem dX4_printProverb_119 : decode cX4_printProverb 119 = .ok (.aload_n 0, 1) := dk_42 (dk_at dksX4_printProverb_5 0 rfl rfl)
theorem dX4_printProverb_120 : decode cX4_printProverb 120 = .ok (.bipush 120, 2) := dk_16 120 (dk_at dksX4_printProverb_5 1 rfl rfl)
theorem dX4_printProverb_122 : decode cX4_printProverb 122 = .ok (.invokevirtual 389, 3) := dk_182 1 133 (dk_at dksX4_printProverb_5 3 rfl rfl)
theorem dX4_printProverb_125 : decode cX4_printProverb 125 = .ok (.aload_n 0, 1) := dk_42 (dk_at dksX4_printProverb_5 6 rfl rfl)
theorem dX4_printProverb_126 : decode cX4_printProverb 126 = .ok (.getfield 386, 3) := dk_180 1 130 (dk_at dksX4_printProverb_5 7 rfl rfl)
theorem dX4_printProverb_129 : decode cX4_printProverb 129 = .ok (.ireturn, 1) := dk_172 (dk_at dksX4_printProverb_5 10 rfl rfl)
abbrev cX4_writeNumber : ByteArray := prog_20_method_123_code
def yX4_writeNumber : MethodName := ⟨RX4, "writeNumber", "(I)V"⟩
def dkwX4_writeNumber_2 : List UInt8 := [177]
abbrev dktX4_writeNumber_2 : List UInt8 := dkwX4_writeNumber_2 ++ []
def dkwX4_writeNumber_1 : List UInt8 := [16, 48, 27, 16, 10, 108, 16, 10, 112, 96, 182, 1, 133, 42, 16, 48, 27, 16, 10, 112, 96, 182, 1, 133]
abbrev dktX4_writeNumber_1 : List UInt8 := dkwX4_writeNumber_1 ++ dktX4_writeNumber_2
def dkwX4_writeNumber_0 : List UInt8 := [27, 16, 99, 164, 0, 14, 42, 16, 48, 27, 16, 100, 108, 96, 182, 1, 133, 27, 16, 9, 164, 0, 17, 42]
abbrev dktX4_writeNumber_0 : List UInt8 := dkwX4_writeNumber_0 ++ dktX4_writeNumber_1
theorem dksX4_writeNumber_0 : cX4_writeNumber.data.toList.drop 0 = dktX4_writeNumber_0 := by decide +kernel
theorem dksX4_writeNumber_1 : cX4_writeNumber.data.toList.drop 24 = dktX4_writeNumber_1 := dk_seg dksX4_writeNumber_0 24 rfl rfl
theorem dksX4_writeNumber_2 : cX4_writeNumber.data.toList.drop 48 = dktX4_writeNumber_2 := dk_seg dksX4_writeNumber_1 24 rfl rfl
theorem dX4_writeNumber_0 : decode cX4_writeNumber 0 = .ok (.iload_n 1, 1) := dk_27 (dk_at dksX4_writeNumber_0 0 rfl rfl)
theorem dX4_writeNumber_1 : decode cX4_writeNumber 1 = .ok (.bipush 99, 2) := dk_16 99 (dk_at dksX4_writeNumber_0 1 rfl rfl)
theorem dX4_writeNumber_3 : decode cX4_writeNumber 3 = .ok (.if_icmp .le 14, 3) := dk_164 0 14 (dk_at dksX4_writeNumber_0 3 rfl rfl)
theorem dX4_writeNumber_6 : decode cX4_writeNumber 6 = .ok (.aload_n 0, 1) := dk_42 (dk_at dksX4_writeNumber_0 6 rfl rfl)
theorem dX4_writeNumber_7 : decode cX4_writeNumber 7 = .ok (.bipush 48, 2) := dk_16 48 (dk_at dksX4_writeNumber_0 7 rfl rfl)
theorem dX4_writeNumber_9 : decode cX4_writeNumber 9 = .ok (.iload_n 1, 1) := dk_27 (dk_at dksX4_writeNumber_0 9 rfl rfl)
theorem dX4_writeNumber_10 : decode cX4_writeNumber 10 = .ok (.bipush 100, 2) := dk_16 100 (dk_at dksX4_writeNumber_0 10 rfl rfl)
theorem dX4_writeNumber_12 : decode cX4_writeNumber 12 = .ok (.idiv, 1) := dk_108 (dk_at dksX4_writeNumber_0 12 rfl rfl)
theorem dX4_writeNumber_13 : decode cX4_writeNumber 13 = .ok (.iadd, 1) := dk_96 (dk_at dksX4_writeNumber_0 13 rfl rfl)
theorem dX4_writeNumber_14 : decode cX4_writeNumber 14 = .ok (.invokevirtual 389, 3) := dk_182 1 133 (dk_at dksX4_writeNumber_0 14 rfl rfl)
theorem dX4_writeNumber_17 : decode cX4_writeNumber 17 = .ok (.iload_n 1, 1) := dk_27 (dk_at dksX4_writeNumber_0 17 rfl rfl)
theorem dX4_writeNumber_18 : decode cX4_writeNumber 18 = .ok (.bipush 9, 2) := dk_16 9 (dk_at dksX4_writeNumber_0 18 rfl rfl)
theorem dX4_writeNumber_20 : decode cX4_writeNumber 20 = .ok (.if_icmp .le 17, 3) := dk_164 0 17 (dk_at dksX4_writeNumber_0 20 rfl rfl)
theorem dX4_writeNumber_23 : decode cX4_writeNumber 23 = .ok (.aload_n 0, 1) := dk_42 (dk_at dksX4_writeNumber_0 23 rfl rfl)
theorem dX4_writeNumber_24 : decode cX4_writeNumber 24 = .ok (.bipush 48, 2) := dk_16 48 (dk_at dksX4_writeNumber_1 0 rfl rfl)
theorem dX4_writeNumber_26 : decode cX4_writeNumber 26 = .ok (.iload_n 1, 1) := dk_27 (dk_at dksX4_writeNumber_1 2 rfl rfl)
theorem dX4_writeNumber_27 : decode cX4_writeNumber 27 = .ok (.bipush 10, 2) := dk_16 10 (dk_at dksX4_writeNumber_1 3 rfl rfl)
theorem dX4_writeNumber_29 : decode cX4_writeNumber 29 = .ok (.idiv, 1) := dk_108 (dk_at dksX4_writeNumber_1 5 rfl rfl)
theorem dX4_writeNumber_30 : decode cX4_writeNumber 30 = .ok (.bipush 10, 2) := dk_16 10 (dk_at dksX4_writeNumber_1 6 rfl rfl)
theorem dX4_writeNumber_32 : decode cX4_writeNumber 32 = .ok (.irem, 1) := dk_112 (dk_at dksX4_writeNumber_1 8 rfl rfl)
theorem dX4_writeNumber_33 : decode cX4_writeNumber 33 = .ok (.iadd, 1) := dk_96 (dk_at dksX4_writeNumber_1 9 rfl rfl)
theorem dX4_writeNumber_34 : decode cX4_writeNumber 34 = .ok (.invokevirtual 389, 3) := dk_182 1 133 (dk_at dksX4_writeNumber_1 10 rfl rfl)
theorem dX4_writeNumber_37 : decode cX4_writeNumber 37 = .ok (.aload_n 0, 1) := dk_42 (dk_at dksX4_writeNumber_1 13 rfl rfl)
theorem dX4_writeNumber_38 : decode cX4_writeNumber 38 = .ok (.bipush 48, 2) := dk_16 48 (dk_at dksX4_writeNumber_1 14 rfl rfl)
theorem dX4_writeNumber_40 : decode cX4_writeNumber 40 = .ok (.iload_n 1, 1) := dk_27 (dk_at dksX4_writeNumber_1 16 rfl rfl)
theorem dX4_writeNumber_41 : decode cX4_writeNumber 41 = .ok (.bipush 10, 2) := dk_16 10 (dk_at dksX4_writeNumber_1 17 rfl rfl)
theorem dX4_writeNumber_43 : decode cX4_writeNumber 43 = .ok (.irem, 1) := dk_112 (dk_at dksX4_writeNumber_1 19 rfl rfl)
theorem dX4_writeNumber_44 : decode cX4_writeNumber 44 = .ok (.iadd, 1) := dk_96 (dk_at dksX4_writeNumber_1 20 rfl rfl)
theorem dX4_writeNumber_45 : decode cX4_writeNumber 45 = .ok (.invokevirtual 389, 3) := dk_182 1 133 (dk_at dksX4_writeNumber_1 21 rfl rfl)
theorem dX4_writeNumber_48 : decode cX4_writeNumber 48 = .ok (.return_, 1) := dk_177 (dk_at dksX4_writeNumber_2 0 rfl rfl)
abbrev cX4_outputByte : ByteArray := prog_20_method_126_code
def yX4_outputByte : MethodName := ⟨RX4, "outputByte", "(I)I"⟩
def dkwX4_outputByte_1 : List UInt8 := [46, 167, 0, 4, 2, 172]
abbrev dktX4_outputByte_1 : List UInt8 := dkwX4_outputByte_1 ++ []
def dkwX4_outputByte_0 : List UInt8 := [42, 3, 181, 0, 60, 27, 3, 42, 180, 1, 130, 4, 100, 184, 0, 159, 153, 0, 12, 42, 180, 0, 50, 27]
abbrev dktX4_outputByte_0 : List UInt8 := dkwX4_outputByte_0 ++ dktX4_outputByte_1
theorem dksX4_outputByte_0 : cX4_outputByte.data.toList.drop 0 = dktX4_outputByte_0 := by decide +kernel
theorem dksX4_outputByte_1 : cX4_outputByte.data.toList.drop 24 = dktX4_outputByte_1 := dk_seg dksX4_outputByte_0 24 rfl rfl
theorem dX4_outputByte_0 : decode cX4_outputByte 0 = .ok (.aload_n 0, 1) := dk_42 (dk_at dksX4_outputByte_0 0 rfl rfl)
theorem dX4_outputByte_1 : decode cX4_outputByte 1 = .ok (.iconst 0, 1) := dk_3 (dk_at dksX4_outputByte_0 1 rfl rfl)
theorem dX4_outputByte_2 : decode cX4_outputByte 2 = .ok (.putfield 60, 3) := dk_181 0 60 (dk_at dksX4_outputByte_0 2 rfl rfl)
theorem dX4_outputByte_5 : decode cX4_outputByte 5 = .ok (.iload_n 1, 1) := dk_27 (dk_at dksX4_outputByte_0 5 rfl rfl)
theorem dX4_outputByte_6 : decode cX4_outputByte 6 = .ok (.iconst 0, 1) := dk_3 (dk_at dksX4_outputByte_0 6 rfl rfl)
theorem dX4_outputByte_7 : decode cX4_outputByte 7 = .ok (.aload_n 0, 1) := dk_42 (dk_at dksX4_outputByte_0 7 rfl rfl)
theorem dX4_outputByte_8 : decode cX4_outputByte 8 = .ok (.getfield 386, 3) := dk_180 1 130 (dk_at dksX4_outputByte_0 8 rfl rfl)
theorem dX4_outputByte_11 : decode cX4_outputByte 11 = .ok (.iconst 1, 1) := dk_4 (dk_at dksX4_outputByte_0 11 rfl rfl)
theorem dX4_outputByte_12 : decode cX4_outputByte 12 = .ok (.isub, 1) := dk_100 (dk_at dksX4_outputByte_0 12 rfl rfl)
theorem dX4_outputByte_13 : decode cX4_outputByte 13 = .ok (.invokestatic 159, 3) := dk_184 0 159 (dk_at dksX4_outputByte_0 13 rfl rfl)
theorem dX4_outputByte_16 : decode cX4_outputByte 16 = .ok (.ifCond .eq 12, 3) := dk_153 0 12 (dk_at dksX4_outputByte_0 16 rfl rfl)
theorem dX4_outputByte_19 : decode cX4_outputByte 19 = .ok (.aload_n 0, 1) := dk_42 (dk_at dksX4_outputByte_0 19 rfl rfl)
theorem dX4_outputByte_20 : decode cX4_outputByte 20 = .ok (.getfield 50, 3) := dk_180 0 50 (dk_at dksX4_outputByte_0 20 rfl rfl)
theorem dX4_outputByte_23 : decode cX4_outputByte 23 = .ok (.iload_n 1, 1) := dk_27 (dk_at dksX4_outputByte_0 23 rfl rfl)
theorem dX4_outputByte_24 : decode cX4_outputByte 24 = .ok (.iaload, 1) := dk_46 (dk_at dksX4_outputByte_1 0 rfl rfl)
theorem dX4_outputByte_25 : decode cX4_outputByte 25 = .ok (.goto 4, 3) := dk_167 0 4 (dk_at dksX4_outputByte_1 1 rfl rfl)
theorem dX4_outputByte_28 : decode cX4_outputByte 28 = .ok (.iconst (-1), 1) := dk_2 (dk_at dksX4_outputByte_1 4 rfl rfl)
theorem dX4_outputByte_29 : decode cX4_outputByte 29 = .ok (.ireturn, 1) := dk_172 (dk_at dksX4_outputByte_1 5 rfl rfl)
abbrev cX4_saveState : ByteArray := prog_20_method_127_code
def yX4_saveState : MethodName := ⟨RX4, "saveState", "()I"⟩
def dkwX4_saveState_2 : List UInt8 := [181, 1, 10, 42, 180, 0, 7, 5, 46, 172]
abbrev dktX4_saveState_2 : List UInt8 := dkwX4_saveState_2 ++ []
def dkwX4_saveState_1 : List UInt8 := [162, 0, 21, 42, 180, 0, 28, 27, 42, 180, 0, 25, 27, 46, 79, 132, 1, 1, 167, 255, 234, 42, 4]
abbrev dktX4_saveState_1 : List UInt8 := dkwX4_saveState_1 ++ dktX4_saveState_2
def dkwX4_saveState_0 : List UInt8 := [42, 3, 181, 0, 60, 42, 180, 0, 7, 3, 42, 180, 0, 19, 3, 184, 0, 149, 3, 60, 27, 17, 8, 112]
abbrev dktX4_saveState_0 : List UInt8 := dkwX4_saveState_0 ++ dktX4_saveState_1
theorem dksX4_saveState_0 : cX4_saveState.data.toList.drop 0 = dktX4_saveState_0 := by decide +kernel
theorem dksX4_saveState_1 : cX4_saveState.data.toList.drop 24 = dktX4_saveState_1 := dk_seg dksX4_saveState_0 24 rfl rfl
theorem dksX4_saveState_2 : cX4_saveState.data.toList.drop 47 = dktX4_saveState_2 := dk_seg dksX4_saveState_1 23 rfl rfl
theorem dX4_saveState_0 : decode cX4_saveState 0 = .ok (.aload_n 0, 1) := dk_42 (dk_at dksX4_saveState_0 0 rfl rfl)
theorem dX4_saveState_1 : decode cX4_saveState 1 = .ok (.iconst 0, 1) := dk_3 (dk_at dksX4_saveState_0 1 rfl rfl)
theorem dX4_saveState_2 : decode cX4_saveState 2 = .ok (.putfield 60, 3) := dk_181 0 60 (dk_at dksX4_saveState_0 2 rfl rfl)
theorem dX4_saveState_5 : decode cX4_saveState 5 = .ok (.aload_n 0, 1) := dk_42 (dk_at dksX4_saveState_0 5 rfl rfl)
theorem dX4_saveState_6 : decode cX4_saveState 6 = .ok (.getfield 7, 3) := dk_180 0 7 (dk_at dksX4_saveState_0 6 rfl rfl)
theorem dX4_saveState_9 : decode cX4_saveState 9 = .ok (.iconst 0, 1) := dk_3 (dk_at dksX4_saveState_0 9 rfl rfl)
theorem dX4_saveState_10 : decode cX4_saveState 10 = .ok (.aload_n 0, 1) := dk_42 (dk_at dksX4_saveState_0 10 rfl rfl)
theorem dX4_saveState_11 : decode cX4_saveState 11 = .ok (.getfield 19, 3) := dk_180 0 19 (dk_at dksX4_saveState_0 11 rfl rfl)
theorem dX4_saveState_14 : decode cX4_saveState 14 = .ok (.iconst 0, 1) := dk_3 (dk_at dksX4_saveState_0 14 rfl rfl)
theorem dX4_saveState_15 : decode cX4_saveState 15 = .ok (.invokestatic 149, 3) := dk_184 0 149 (dk_at dksX4_saveState_0 15 rfl rfl)
theorem dX4_saveState_18 : decode cX4_saveState 18 = .ok (.iconst 0, 1) := dk_3 (dk_at dksX4_saveState_0 18 rfl rfl)
theorem dX4_saveState_19 : decode cX4_saveState 19 = .ok (.istore_n 1, 1) := dk_60 (dk_at dksX4_saveState_0 19 rfl rfl)
theorem dX4_saveState_20 : decode cX4_saveState 20 = .ok (.iload_n 1, 1) := dk_27 (dk_at dksX4_saveState_0 20 rfl rfl)
theorem dX4_saveState_21 : decode cX4_saveState 21 = .ok (.sipush 2160, 3) := dk_17 8 112 (dk_at dksX4_saveState_0 21 rfl rfl)
theorem dX4_saveState_24 : decode cX4_saveState 24 = .ok (.if_icmp .ge 21, 3) := dk_162 0 21 (dk_at dksX4_saveState_1 0 rfl rfl)
theorem dX4_saveState_27 : decode cX4_saveState 27 = .ok (.aload_n 0, 1) := dk_42 (dk_at dksX4_saveState_1 3 rfl rfl)
theorem dX4_saveState_28 : decode cX4_saveState 28 = .ok (.getfield 28, 3) := dk_180 0 28 (dk_at dksX4_saveState_1 4 rfl rfl)
theorem dX4_saveState_31 : decode cX4_saveState 31 = .ok (.iload_n 1, 1) := dk_27 (dk_at dksX4_saveState_1 7 rfl rfl)
theorem dX4_saveState_32 : decode cX4_saveState 32 = .ok (.aload_n 0, 1) := dk_42 (dk_at dksX4_saveState_1 8 rfl rfl)
theorem dX4_saveState_33 : decode cX4_saveState 33 = .ok (.getfield 25, 3) := dk_180 0 25 (dk_at dksX4_saveState_1 9 rfl rfl)
theorem dX4_saveState_36 : decode cX4_saveState 36 = .ok (.iload_n 1, 1) := dk_27 (dk_at dksX4_saveState_1 12 rfl rfl)
theorem dX4_saveState_37 : decode cX4_saveState 37 = .ok (.iaload, 1) := dk_46 (dk_at dksX4_saveState_1 13 rfl rfl)
theorem dX4_saveState_38 : decode cX4_saveState 38 = .ok (.iastore, 1) := dk_79 (dk_at dksX4_saveState_1 14 rfl rfl)
theorem dX4_saveState_39 : decode cX4_saveState 39 = .ok (.iinc 1 1, 3) := dk_132 1 1 (dk_at dksX4_saveState_1 15 rfl rfl)
theorem dX4_saveState_42 : decode cX4_saveState 42 = .ok (.goto (-22), 3) := dk_167 255 234 (dk_at dksX4_saveState_1 18 rfl rfl)
theorem dX4_saveState_45 : decode cX4_saveState 45 = .ok (.aload_n 0, 1) := dk_42 (dk_at dksX4_saveState_1 21 rfl rfl)
theorem dX4_saveState_46 : decode cX4_saveState 46 = .ok (.iconst 1, 1) := dk_4 (dk_at dksX4_saveState_1 22 rfl rfl)
theorem dX4_saveState_47 : decode cX4_saveState 47 = .ok (.putfield 266, 3) := dk_181 1 10 (dk_at dksX4_saveState_2 0 rfl rfl)
theorem dX4_saveState_50 : decode cX4_saveState 50 = .ok (.aload_n 0, 1) := dk_42 (dk_at dksX4_saveState_2 3 rfl rfl)
theorem dX4_saveState_51 : decode cX4_saveState 51 = .ok (.getfield 7, 3) := dk_180 0 7 (dk_at dksX4_saveState_2 4 rfl rfl)
theorem dX4_saveState_54 : decode cX4_saveState 54 = .ok (.iconst 2, 1) := dk_5 (dk_at dksX4_saveState_2 7 rfl rfl)
theorem dX4_saveState_55 : decode cX4_saveState 55 = .ok (.iaload, 1) := dk_46 (dk_at dksX4_saveState_2 8 rfl rfl)
theorem dX4_saveState_56 : decode cX4_saveState 56 = .ok (.ireturn, 1) := dk_172 (dk_at dksX4_saveState_2 9 rfl rfl)
abbrev cX4_restoreState : ByteArray := prog_20_method_128_code
def yX4_restoreState : MethodName := ⟨RX4, "restoreState", "()I"⟩
def dkwX4_restoreState_3 : List UInt8 := [181, 0, 146, 42, 180, 0, 7, 5, 46, 172]
abbrev dktX4_restoreState_3 : List UInt8 := dkwX4_restoreState_3 ++ []
def dkwX4_restoreState_2 : List UInt8 := [162, 0, 21, 42, 180, 0, 25, 27, 42, 180, 0, 28, 27, 46, 79, 132, 1, 1, 167, 255, 234, 42, 3]
abbrev dktX4_restoreState_2 : List UInt8 := dkwX4_restoreState_2 ++ dktX4_restoreState_3
def dkwX4_restoreState_1 : List UInt8 := [153, 0, 5, 3, 172, 42, 180, 0, 19, 3, 42, 180, 0, 7, 3, 184, 0, 149, 3, 60, 27, 17, 8, 112]
abbrev dktX4_restoreState_1 : List UInt8 := dkwX4_restoreState_1 ++ dktX4_restoreState_2
def dkwX4_restoreState_0 : List UInt8 := [42, 3, 181, 0, 60, 42, 42, 180, 1, 10, 154, 0, 7, 4, 167, 0, 4, 3, 4, 182, 1, 65]
abbrev dktX4_restoreState_0 : List UInt8 := dkwX4_restoreState_0 ++ dktX4_restoreState_1
theorem dksX4_restoreState_0 : cX4_restoreState.data.toList.drop 0 = dktX4_restoreState_0 := by decide +kernel
theorem dksX4_restoreState_1 : cX4_restoreState.data.toList.drop 22 = dktX4_restoreState_1 := dk_seg dksX4_restoreState_0 22 rfl rfl
theorem dksX4_restoreState_2 : cX4_restoreState.data.toList.drop 46 = dktX4_restoreState_2 := dk_seg dksX4_restoreState_1 24 rfl rfl
theorem dksX4_restoreState_3 : cX4_restoreState.data.toList.drop 69 = dktX4_restoreState_3 := dk_seg dksX4_restoreState_2 23 rfl rfl
theorem dX4_restoreState_0 : decode cX4_restoreState 0 = .ok (.aload_n 0, 1) := dk_42 (dk_at dksX4_restoreState_0 0 rfl rfl)
theorem dX4_restoreState_1 : decode cX4_restoreState 1 = .ok (.iconst 0, 1) := dk_3 (dk_at dksX4_restoreState_0 1 rfl rfl)
theorem dX4_restoreState_2 : decode cX4_restoreState 2 = .ok (.putfield 60, 3) := dk_181 0 60 (dk_at dksX4_restoreState_0 2 rfl rfl)
theorem dX4_restoreState_5 : decode cX4_restoreState 5 = .ok (.aload_n 0, 1) := dk_42 (dk_at dksX4_restoreState_0 5 rfl rfl)
theorem dX4_restoreState_6 : decode cX4_restoreState 6 = .ok (.aload_n 0, 1) := dk_42 (dk_at dksX4_restoreState_0 6 rfl rfl)
theorem dX4_restoreState_7 : decode cX4_restoreState 7 = .ok (.getfield 266, 3) := dk_180 1 10 (dk_at dksX4_restoreState_0 7 rfl rfl)
theorem dX4_restoreState_10 : decode cX4_restoreState 10 = .ok (.ifCond .ne 7, 3) := dk_154 0 7 (dk_at dksX4_restoreState_0 10 rfl rfl)
theorem dX4_restoreState_13 : decode cX4_restoreState 13 = .ok (.iconst 1, 1) := dk_4 (dk_at dksX4_restoreState_0 13 rfl rfl)
theorem dX4_restoreState_14 : decode cX4_restoreState 14 = .ok (.goto 4, 3) := dk_167 0 4 (dk_at dksX4_restoreState_0 14 rfl rfl)
theorem dX4_restoreState_17 : decode cX4_restoreState 17 = .ok (.iconst 0, 1) := dk_3 (dk_at dksX4_restoreState_0 17 rfl rfl)
theorem dX4_restoreState_18 : decode cX4_restoreState 18 = .ok (.iconst 1, 1) := dk_4 (dk_at dksX4_restoreState_0 18 rfl rfl)
theorem dX4_restoreState_19 : decode cX4_restoreState 19 = .ok (.invokevirtual 321, 3) := dk_182 1 65 (dk_at dksX4_restoreState_0 19 rfl rfl)
theorem dX4_restoreState_22 : decode cX4_restoreState 22 = .ok (.ifCond .eq 5, 3) := dk_153 0 5 (dk_at dksX4_restoreState_1 0 rfl rfl)
theorem dX4_restoreState_25 : decode cX4_restoreState 25 = .ok (.iconst 0, 1) := dk_3 (dk_at dksX4_restoreState_1 3 rfl rfl)
theorem dX4_restoreState_26 : decode cX4_restoreState 26 = .ok (.ireturn, 1) := dk_172 (dk_at dksX4_restoreState_1 4 rfl rfl)
theorem dX4_restoreState_27 : decode cX4_restoreState 27 = .ok (.aload_n 0, 1) := dk_42 (dk_at dksX4_restoreState_1 5 rfl rfl)
theorem dX4_restoreState_28 : decode cX4_restoreState 28 = .ok (.getfield 19, 3) := dk_180 0 19 (dk_at dksX4_restoreState_1 6 rfl rfl)
theorem dX4_restoreState_31 : decode cX4_restoreState 31 = .ok (.iconst 0, 1) := dk_3 (dk_at dksX4_restoreState_1 9 rfl rfl)
theorem dX4_restoreState_32 : decode cX4_restoreState 32 = .ok (.aload_n 0, 1) := dk_42 (dk_at dksX4_restoreState_1 10 rfl rfl)
theorem dX4_restoreState_33 : decode cX4_restoreState 33 = .ok (.getfield 7, 3) := dk_180 0 7 (dk_at dksX4_restoreState_1 11 rfl rfl)
theorem dX4_restoreState_36 : decode cX4_restoreState 36 = .ok (.iconst 0, 1) := dk_3 (dk_at dksX4_restoreState_1 14 rfl rfl)
theorem dX4_restoreState_37 : decode cX4_restoreState 37 = .ok (.invokestatic 149, 3) := dk_184 0 149 (dk_at dksX4_restoreState_1 15 rfl rfl)
theorem dX4_restoreState_40 : decode cX4_restoreState 40 = .ok (.iconst 0, 1) := dk_3 (dk_at dksX4_restoreState_1 18 rfl rfl)
theorem dX4_restoreState_41 : decode cX4_restoreState 41 = .ok (.istore_n 1, 1) := dk_60 (dk_at dksX4_restoreState_1 19 rfl rfl)
theorem dX4_restoreState_42 : decode cX4_restoreState 42 = .ok (.iload_n 1, 1) := dk_27 (dk_at dksX4_restoreState_1 20 rfl rfl)
theorem dX4_restoreState_43 : decode cX4_restoreState 43 = .ok (.sipush 2160, 3) := dk_17 8 112 (dk_at dksX4_restoreState_1 21 rfl rfl)
theorem dX4_restoreState_46 : decode cX4_restoreState 46 = .ok (.if_icmp .ge 21, 3) := dk_162 0 21 (dk_at dksX4_restoreState_2 0 rfl rfl)
theorem dX4_restoreState_49 : decode cX4_restoreState 49 = .ok (.aload_n 0, 1) := dk_42 (dk_at dksX4_restoreState_2 3 rfl rfl)
theorem dX4_restoreState_50 : decode cX4_restoreState 50 = .ok (.getfield 25, 3) := dk_180 0 25 (dk_at dksX4_restoreState_2 4 rfl rfl)
theorem dX4_restoreState_53 : decode cX4_restoreState 53 = .ok (.iload_n 1, 1) := dk_27 (dk_at dksX4_restoreState_2 7 rfl rfl)
theorem dX4_restoreState_54 : decode cX4_restoreState 54 = .ok (.aload_n 0, 1) := dk_42 (dk_at dksX4_restoreState_2 8 rfl rfl)
theorem dX4_restoreState_55 : decode cX4_restoreState 55 = .ok (.getfield 28, 3) := dk_180 0 28 (dk_at dksX4_restoreState_2 9 rfl rfl)
theorem dX4_restoreState_58 : decode cX4_restoreState 58 = .ok (.iload_n 1, 1) := dk_27 (dk_at dksX4_restoreState_2 12 rfl rfl)
theorem dX4_restoreState_59 : decode cX4_restoreState 59 = .ok (.iaload, 1) := dk_46 (dk_at dksX4_restoreState_2 13 rfl rfl)
theorem dX4_restoreState_60 : decode cX4_restoreState 60 = .ok (.iastore, 1) := dk_79 (dk_at dksX4_restoreState_2 14 rfl rfl)
theorem dX4_restoreState_61 : decode cX4_restoreState 61 = .ok (.iinc 1 1, 3) := dk_132 1 1 (dk_at dksX4_restoreState_2 15 rfl rfl)
theorem dX4_restoreState_64 : decode cX4_restoreState 64 = .ok (.goto (-22), 3) := dk_167 255 234 (dk_at dksX4_restoreState_2 18 rfl rfl)
theorem dX4_restoreState_67 : decode cX4_restoreState 67 = .ok (.aload_n 0, 1) := dk_42 (dk_at dksX4_restoreState_2 21 rfl rfl)
theorem dX4_restoreState_68 : decode cX4_restoreState 68 = .ok (.iconst 0, 1) := dk_3 (dk_at dksX4_restoreState_2 22 rfl rfl)
theorem dX4_restoreState_69 : decode cX4_restoreState 69 = .ok (.putfield 146, 3) := dk_181 0 146 (dk_at dksX4_restoreState_3 0 rfl rfl)
theorem dX4_restoreState_72 : decode cX4_restoreState 72 = .ok (.aload_n 0, 1) := dk_42 (dk_at dksX4_restoreState_3 3 rfl rfl)
theorem dX4_restoreState_73 : decode cX4_restoreState 73 = .ok (.getfield 7, 3) := dk_180 0 7 (dk_at dksX4_restoreState_3 4 rfl rfl)
theorem dX4_restoreState_76 : decode cX4_restoreState 76 = .ok (.iconst 2, 1) := dk_5 (dk_at dksX4_restoreState_3 7 rfl rfl)
theorem dX4_restoreState_77 : decode cX4_restoreState 77 = .ok (.iaload, 1) := dk_46 (dk_at dksX4_restoreState_3 8 rfl rfl)
theorem dX4_restoreState_78 : decode cX4_restoreState 78 = .ok (.ireturn, 1) := dk_172 (dk_at dksX4_restoreState_3 9 rfl rfl)
theorem q164 : (Jvm.Cond.initialized "RoseProverbsModel") ∈ lw_all := lw_g (lw_at lw_m1 32 rfl) rfl
theorem q790 : (Jvm.Cond.selects "RoseProverbsModel" ({ cls := "java/lang/Object", name := "getClass", desc := "()Ljava/lang/Class;" } : Jvm.MethodName) ({ cls := "java/lang/Object", name := "getClass", desc := "()Ljava/lang/Class;" } : Jvm.MethodName)) ∈ lw_all := lw_g (lw_at lw_m3 178 rfl) rfl
theorem q2953 : (Jvm.Cond.instantiable "RoseProverbsModel" (28 : Nat)) ∈ lw_all := lw_g (lw_at lw_m12 181 rfl) rfl
theorem q2955 : (Jvm.Cond.instanceMethod ({ cls := "RoseProverbsModel", name := "<init>", desc := "()V" } : Jvm.MethodName)) ∈ lw_all := lw_g (lw_at lw_m12 183 rfl) rfl
theorem q2956 : (Jvm.Cond.code ({ cls := "RoseProverbsModel", name := "<init>", desc := "()V" } : Jvm.MethodName) prog_20_method_1_code (2 : Nat) (Option.none : Option Jvm.ClassFile.FieldType)) ∈ lw_all := lw_g (lw_at lw_m12 184 rfl) rfl
theorem q2957 : (Jvm.Cond.methodLink "RoseProverbsModel" (1 : Nat) ({ cls := "java/lang/Object", name := "<init>", desc := "()V" } : Jvm.MethodName)) ∈ lw_all := lw_g (lw_at lw_m12 185 rfl) rfl
theorem q2958 : (Jvm.Cond.methodLink "RoseProverbsModel" (53 : Nat) ({ cls := "RoseProverbsModel", name := "begins", desc := "()V" } : Jvm.MethodName)) ∈ lw_all := lw_g (lw_at lw_m12 186 rfl) rfl
theorem q2959 : (Jvm.Cond.privateMethod ({ cls := "RoseProverbsModel", name := "begins", desc := "()V" } : Jvm.MethodName)) ∈ lw_tbl := lw_at lw_m12 187 rfl
theorem q2960 : (Jvm.Cond.instanceMethod ({ cls := "RoseProverbsModel", name := "begins", desc := "()V" } : Jvm.MethodName)) ∈ lw_all := lw_g (lw_at lw_m12 188 rfl) rfl
theorem q2961 : (Jvm.Cond.code ({ cls := "RoseProverbsModel", name := "begins", desc := "()V" } : Jvm.MethodName) prog_20_method_8_code (2 : Nat) (Option.none : Option Jvm.ClassFile.FieldType)) ∈ lw_all := lw_g (lw_at lw_m12 189 rfl) rfl
theorem q2962 : (Jvm.Cond.methodLink "RoseProverbsModel" (56 : Nat) ({ cls := "RoseProverbsModel", name := "adds", desc := "(IIIIII)I" } : Jvm.MethodName)) ∈ lw_all := lw_g (lw_at lw_m12 190 rfl) rfl
theorem q2963 : (Jvm.Cond.privateMethod ({ cls := "RoseProverbsModel", name := "adds", desc := "(IIIIII)I" } : Jvm.MethodName)) ∈ lw_tbl := lw_at lw_m12 191 rfl
theorem q2964 : (Jvm.Cond.instanceMethod ({ cls := "RoseProverbsModel", name := "adds", desc := "(IIIIII)I" } : Jvm.MethodName)) ∈ lw_all := lw_g (lw_at lw_m12 192 rfl) rfl
theorem q2965 : (Jvm.Cond.code ({ cls := "RoseProverbsModel", name := "adds", desc := "(IIIIII)I" } : Jvm.MethodName) prog_20_method_11_code (9 : Nat) (Option.some Jvm.ClassFile.FieldType.int)) ∈ lw_all := lw_g (lw_at lw_m12 193 rfl) rfl
theorem q2966 : (Jvm.Cond.methodLink "RoseProverbsModel" (63 : Nat) ({ cls := "RoseProverbsModel", name := "puts", desc := "(III)V" } : Jvm.MethodName)) ∈ lw_all := lw_g (lw_at lw_m12 194 rfl) rfl
theorem q2967 : (Jvm.Cond.privateMethod ({ cls := "RoseProverbsModel", name := "puts", desc := "(III)V" } : Jvm.MethodName)) ∈ lw_tbl := lw_at lw_m12 195 rfl
theorem q2968 : (Jvm.Cond.instanceMethod ({ cls := "RoseProverbsModel", name := "puts", desc := "(III)V" } : Jvm.MethodName)) ∈ lw_all := lw_g (lw_at lw_m12 196 rfl) rfl
theorem q2969 : (Jvm.Cond.code ({ cls := "RoseProverbsModel", name := "puts", desc := "(III)V" } : Jvm.MethodName) prog_20_method_10_code (4 : Nat) (Option.none : Option Jvm.ClassFile.FieldType)) ∈ lw_all := lw_g (lw_at lw_m12 197 rfl) rfl
theorem q2970 : (Jvm.Cond.fieldLink "RoseProverbsModel" (7 : Nat) "RoseProverbsModel" "w" "[I") ∈ lw_all := lw_g (lw_at lw_m12 198 rfl) rfl
theorem q2971 : (Jvm.Cond.fieldLink "RoseProverbsModel" (13 : Nat) "RoseProverbsModel" "wKept" "[I") ∈ lw_all := lw_g (lw_at lw_m12 199 rfl) rfl
theorem q2972 : (Jvm.Cond.fieldLink "RoseProverbsModel" (16 : Nat) "RoseProverbsModel" "aside" "[I") ∈ lw_all := lw_g (lw_at lw_m12 200 rfl) rfl
theorem q2973 : (Jvm.Cond.fieldLink "RoseProverbsModel" (19 : Nat) "RoseProverbsModel" "saved" "[I") ∈ lw_all := lw_g (lw_at lw_m12 201 rfl) rfl
theorem q2974 : (Jvm.Cond.fieldLink "RoseProverbsModel" (22 : Nat) "RoseProverbsModel" "past" "[I") ∈ lw_all := lw_g (lw_at lw_m12 202 rfl) rfl
theorem q2975 : (Jvm.Cond.fieldLink "RoseProverbsModel" (25 : Nat) "RoseProverbsModel" "log" "[I") ∈ lw_all := lw_g (lw_at lw_m12 203 rfl) rfl
theorem q2976 : (Jvm.Cond.fieldLink "RoseProverbsModel" (28 : Nat) "RoseProverbsModel" "logSaved" "[I") ∈ lw_all := lw_g (lw_at lw_m12 204 rfl) rfl
theorem q2977 : (Jvm.Cond.fieldLink "RoseProverbsModel" (146 : Nat) "RoseProverbsModel" "pastMany" "I") ∈ lw_all := lw_g (lw_at lw_m12 205 rfl) rfl
theorem q2978 : (Jvm.Cond.fieldLink "RoseProverbsModel" (266 : Nat) "RoseProverbsModel" "isSaved" "Z") ∈ lw_all := lw_g (lw_at lw_m12 206 rfl) rfl
theorem q2979 : (Jvm.Cond.fieldLink "RoseProverbsModel" (60 : Nat) "RoseProverbsModel" "thrown" "I") ∈ lw_all := lw_g (lw_at lw_m12 207 rfl) rfl
theorem q2980 : (Jvm.Cond.fieldLink "RoseProverbsModel" (31 : Nat) "RoseProverbsModel" "input" "[I") ∈ lw_all := lw_g (lw_at lw_m12 208 rfl) rfl
theorem q2981 : (Jvm.Cond.fieldLink "RoseProverbsModel" (153 : Nat) "RoseProverbsModel" "inputMany" "I") ∈ lw_all := lw_g (lw_at lw_m12 209 rfl) rfl
theorem q2982 : (Jvm.Cond.fieldLink "RoseProverbsModel" (254 : Nat) "RoseProverbsModel" "lastError" "I") ∈ lw_all := lw_g (lw_at lw_m12 210 rfl) rfl
theorem q2983 : (Jvm.Cond.fieldLink "RoseProverbsModel" (34 : Nat) "RoseProverbsModel" "lastOffset" "I") ∈ lw_all := lw_g (lw_at lw_m12 211 rfl) rfl
theorem q2984 : (Jvm.Cond.fieldLink "RoseProverbsModel" (180 : Nat) "RoseProverbsModel" "error" "I") ∈ lw_all := lw_g (lw_at lw_m12 212 rfl) rfl
theorem q2985 : (Jvm.Cond.fieldLink "RoseProverbsModel" (183 : Nat) "RoseProverbsModel" "offset" "I") ∈ lw_all := lw_g (lw_at lw_m12 213 rfl) rfl
theorem q2986 : (Jvm.Cond.fieldLink "RoseProverbsModel" (165 : Nat) "RoseProverbsModel" "nextByte" "I") ∈ lw_all := lw_g (lw_at lw_m12 214 rfl) rfl
theorem q2987 : (Jvm.Cond.fieldLink "RoseProverbsModel" (168 : Nat) "RoseProverbsModel" "begin" "I") ∈ lw_all := lw_g (lw_at lw_m12 215 rfl) rfl
theorem q2988 : (Jvm.Cond.fieldLink "RoseProverbsModel" (171 : Nat) "RoseProverbsModel" "value" "I") ∈ lw_all := lw_g (lw_at lw_m12 216 rfl) rfl
theorem q2989 : (Jvm.Cond.fieldLink "RoseProverbsModel" (174 : Nat) "RoseProverbsModel" "token" "I") ∈ lw_all := lw_g (lw_at lw_m12 217 rfl) rfl
theorem q2990 : (Jvm.Cond.fieldLink "RoseProverbsModel" (198 : Nat) "RoseProverbsModel" "got" "I") ∈ lw_all := lw_g (lw_at lw_m12 218 rfl) rfl
theorem q2991 : (Jvm.Cond.fieldLink "RoseProverbsModel" (38 : Nat) "RoseProverbsModel" "n" "[I") ∈ lw_all := lw_g (lw_at lw_m12 219 rfl) rfl
theorem q2992 : (Jvm.Cond.fieldLink "RoseProverbsModel" (41 : Nat) "RoseProverbsModel" "order" "[I") ∈ lw_all := lw_g (lw_at lw_m12 220 rfl) rfl
theorem q2993 : (Jvm.Cond.fieldLink "RoseProverbsModel" (44 : Nat) "RoseProverbsModel" "numbers" "[I") ∈ lw_all := lw_g (lw_at lw_m12 221 rfl) rfl
theorem q2994 : (Jvm.Cond.fieldLink "RoseProverbsModel" (251 : Nat) "RoseProverbsModel" "orders" "I") ∈ lw_all := lw_g (lw_at lw_m12 222 rfl) rfl
theorem q2995 : (Jvm.Cond.fieldLink "RoseProverbsModel" (47 : Nat) "RoseProverbsModel" "told" "[I") ∈ lw_all := lw_g (lw_at lw_m12 223 rfl) rfl
theorem q2996 : (Jvm.Cond.fieldLink "RoseProverbsModel" (50 : Nat) "RoseProverbsModel" "output" "[I") ∈ lw_all := lw_g (lw_at lw_m12 224 rfl) rfl
theorem q2997 : (Jvm.Cond.fieldLink "RoseProverbsModel" (386 : Nat) "RoseProverbsModel" "outputMany" "I") ∈ lw_all := lw_g (lw_at lw_m12 225 rfl) rfl
theorem q2998 : (Jvm.Cond.laysFinal "RoseProverbsModel" "RoseProverbsModel" "w" "[I") ∈ lw_all := lw_g (lw_at lw_m12 226 rfl) rfl
theorem q2999 : (Jvm.Cond.soleField "RoseProverbsModel" "w") ∈ lw_all := lw_g (lw_at lw_m12 227 rfl) rfl
theorem q3000 : (Jvm.Cond.laysFinal "RoseProverbsModel" "RoseProverbsModel" "wKept" "[I") ∈ lw_all := lw_g (lw_at lw_m12 228 rfl) rfl
theorem q3001 : (Jvm.Cond.soleField "RoseProverbsModel" "wKept") ∈ lw_all := lw_g (lw_at lw_m12 229 rfl) rfl
theorem q3002 : (Jvm.Cond.laysFinal "RoseProverbsModel" "RoseProverbsModel" "aside" "[I") ∈ lw_all := lw_g (lw_at lw_m12 230 rfl) rfl
theorem q3003 : (Jvm.Cond.soleField "RoseProverbsModel" "aside") ∈ lw_all := lw_g (lw_at lw_m12 231 rfl) rfl
theorem q3004 : (Jvm.Cond.laysFinal "RoseProverbsModel" "RoseProverbsModel" "saved" "[I") ∈ lw_all := lw_g (lw_at lw_m12 232 rfl) rfl
theorem q3005 : (Jvm.Cond.soleField "RoseProverbsModel" "saved") ∈ lw_all := lw_g (lw_at lw_m12 233 rfl) rfl
theorem q3006 : (Jvm.Cond.laysFinal "RoseProverbsModel" "RoseProverbsModel" "past" "[I") ∈ lw_all := lw_g (lw_at lw_m12 234 rfl) rfl
theorem q3007 : (Jvm.Cond.soleField "RoseProverbsModel" "past") ∈ lw_all := lw_g (lw_at lw_m12 235 rfl) rfl
theorem q3008 : (Jvm.Cond.laysFinal "RoseProverbsModel" "RoseProverbsModel" "log" "[I") ∈ lw_all := lw_g (lw_at lw_m12 236 rfl) rfl
theorem q3009 : (Jvm.Cond.soleField "RoseProverbsModel" "log") ∈ lw_all := lw_g (lw_at lw_m12 237 rfl) rfl
theorem q3010 : (Jvm.Cond.laysFinal "RoseProverbsModel" "RoseProverbsModel" "logSaved" "[I") ∈ lw_all := lw_g (lw_at lw_m12 238 rfl) rfl
theorem q3011 : (Jvm.Cond.soleField "RoseProverbsModel" "logSaved") ∈ lw_all := lw_g (lw_at lw_m12 239 rfl) rfl
theorem q3012 : (Jvm.Cond.lays "RoseProverbsModel" "RoseProverbsModel" "pastMany" "I") ∈ lw_all := lw_g (lw_at lw_m13 0 rfl) rfl
theorem q3013 : (Jvm.Cond.soleField "RoseProverbsModel" "pastMany") ∈ lw_all := lw_g (lw_at lw_m13 1 rfl) rfl
theorem q3014 : (Jvm.Cond.lays "RoseProverbsModel" "RoseProverbsModel" "isSaved" "Z") ∈ lw_all := lw_g (lw_at lw_m13 2 rfl) rfl
theorem q3015 : (Jvm.Cond.soleField "RoseProverbsModel" "isSaved") ∈ lw_all := lw_g (lw_at lw_m13 3 rfl) rfl
theorem q3016 : (Jvm.Cond.lays "RoseProverbsModel" "RoseProverbsModel" "thrown" "I") ∈ lw_all := lw_g (lw_at lw_m13 4 rfl) rfl
theorem q3017 : (Jvm.Cond.soleField "RoseProverbsModel" "thrown") ∈ lw_all := lw_g (lw_at lw_m13 5 rfl) rfl
theorem q3018 : (Jvm.Cond.laysFinal "RoseProverbsModel" "RoseProverbsModel" "input" "[I") ∈ lw_all := lw_g (lw_at lw_m13 6 rfl) rfl
theorem q3019 : (Jvm.Cond.soleField "RoseProverbsModel" "input") ∈ lw_all := lw_g (lw_at lw_m13 7 rfl) rfl
theorem q3020 : (Jvm.Cond.lays "RoseProverbsModel" "RoseProverbsModel" "inputMany" "I") ∈ lw_all := lw_g (lw_at lw_m13 8 rfl) rfl
theorem q3021 : (Jvm.Cond.soleField "RoseProverbsModel" "inputMany") ∈ lw_all := lw_g (lw_at lw_m13 9 rfl) rfl
theorem q3022 : (Jvm.Cond.lays "RoseProverbsModel" "RoseProverbsModel" "lastError" "I") ∈ lw_all := lw_g (lw_at lw_m13 10 rfl) rfl
theorem q3023 : (Jvm.Cond.soleField "RoseProverbsModel" "lastError") ∈ lw_all := lw_g (lw_at lw_m13 11 rfl) rfl
theorem q3024 : (Jvm.Cond.lays "RoseProverbsModel" "RoseProverbsModel" "lastOffset" "I") ∈ lw_all := lw_g (lw_at lw_m13 12 rfl) rfl
theorem q3025 : (Jvm.Cond.soleField "RoseProverbsModel" "lastOffset") ∈ lw_all := lw_g (lw_at lw_m13 13 rfl) rfl
theorem q3026 : (Jvm.Cond.lays "RoseProverbsModel" "RoseProverbsModel" "error" "I") ∈ lw_all := lw_g (lw_at lw_m13 14 rfl) rfl
theorem q3027 : (Jvm.Cond.soleField "RoseProverbsModel" "error") ∈ lw_all := lw_g (lw_at lw_m13 15 rfl) rfl
theorem q3028 : (Jvm.Cond.lays "RoseProverbsModel" "RoseProverbsModel" "offset" "I") ∈ lw_all := lw_g (lw_at lw_m13 16 rfl) rfl
theorem q3029 : (Jvm.Cond.soleField "RoseProverbsModel" "offset") ∈ lw_all := lw_g (lw_at lw_m13 17 rfl) rfl
theorem q3030 : (Jvm.Cond.lays "RoseProverbsModel" "RoseProverbsModel" "nextByte" "I") ∈ lw_all := lw_g (lw_at lw_m13 18 rfl) rfl
theorem q3031 : (Jvm.Cond.soleField "RoseProverbsModel" "nextByte") ∈ lw_all := lw_g (lw_at lw_m13 19 rfl) rfl
theorem q3032 : (Jvm.Cond.lays "RoseProverbsModel" "RoseProverbsModel" "begin" "I") ∈ lw_all := lw_g (lw_at lw_m13 20 rfl) rfl
theorem q3033 : (Jvm.Cond.soleField "RoseProverbsModel" "begin") ∈ lw_all := lw_g (lw_at lw_m13 21 rfl) rfl
theorem q3034 : (Jvm.Cond.lays "RoseProverbsModel" "RoseProverbsModel" "value" "I") ∈ lw_all := lw_g (lw_at lw_m13 22 rfl) rfl
theorem q3035 : (Jvm.Cond.soleField "RoseProverbsModel" "value") ∈ lw_all := lw_g (lw_at lw_m13 23 rfl) rfl
theorem q3036 : (Jvm.Cond.lays "RoseProverbsModel" "RoseProverbsModel" "token" "I") ∈ lw_all := lw_g (lw_at lw_m13 24 rfl) rfl
theorem q3037 : (Jvm.Cond.soleField "RoseProverbsModel" "token") ∈ lw_all := lw_g (lw_at lw_m13 25 rfl) rfl
theorem q3038 : (Jvm.Cond.lays "RoseProverbsModel" "RoseProverbsModel" "got" "I") ∈ lw_all := lw_g (lw_at lw_m13 26 rfl) rfl
theorem q3039 : (Jvm.Cond.soleField "RoseProverbsModel" "got") ∈ lw_all := lw_g (lw_at lw_m13 27 rfl) rfl
theorem q3040 : (Jvm.Cond.laysFinal "RoseProverbsModel" "RoseProverbsModel" "n" "[I") ∈ lw_all := lw_g (lw_at lw_m13 28 rfl) rfl
theorem q3041 : (Jvm.Cond.soleField "RoseProverbsModel" "n") ∈ lw_all := lw_g (lw_at lw_m13 29 rfl) rfl
theorem q3042 : (Jvm.Cond.laysFinal "RoseProverbsModel" "RoseProverbsModel" "order" "[I") ∈ lw_all := lw_g (lw_at lw_m13 30 rfl) rfl
theorem q3043 : (Jvm.Cond.soleField "RoseProverbsModel" "order") ∈ lw_all := lw_g (lw_at lw_m13 31 rfl) rfl
theorem q3044 : (Jvm.Cond.laysFinal "RoseProverbsModel" "RoseProverbsModel" "numbers" "[I") ∈ lw_all := lw_g (lw_at lw_m13 32 rfl) rfl
theorem q3045 : (Jvm.Cond.soleField "RoseProverbsModel" "numbers") ∈ lw_all := lw_g (lw_at lw_m13 33 rfl) rfl
theorem q3046 : (Jvm.Cond.lays "RoseProverbsModel" "RoseProverbsModel" "orders" "I") ∈ lw_all := lw_g (lw_at lw_m13 34 rfl) rfl
theorem q3047 : (Jvm.Cond.soleField "RoseProverbsModel" "orders") ∈ lw_all := lw_g (lw_at lw_m13 35 rfl) rfl
theorem q3048 : (Jvm.Cond.laysFinal "RoseProverbsModel" "RoseProverbsModel" "told" "[I") ∈ lw_all := lw_g (lw_at lw_m13 36 rfl) rfl
theorem q3049 : (Jvm.Cond.soleField "RoseProverbsModel" "told") ∈ lw_all := lw_g (lw_at lw_m13 37 rfl) rfl
theorem q3050 : (Jvm.Cond.laysFinal "RoseProverbsModel" "RoseProverbsModel" "output" "[I") ∈ lw_all := lw_g (lw_at lw_m13 38 rfl) rfl
theorem q3051 : (Jvm.Cond.soleField "RoseProverbsModel" "output") ∈ lw_all := lw_g (lw_at lw_m13 39 rfl) rfl
theorem q3052 : (Jvm.Cond.lays "RoseProverbsModel" "RoseProverbsModel" "outputMany" "I") ∈ lw_all := lw_g (lw_at lw_m13 40 rfl) rfl
theorem q3053 : (Jvm.Cond.soleField "RoseProverbsModel" "outputMany") ∈ lw_all := lw_g (lw_at lw_m13 41 rfl) rfl
theorem q3054 : (Jvm.Cond.superclass "RoseProverbsModel" "java/lang/Object") ∈ lw_all := lw_g (lw_at lw_m13 42 rfl) rfl
theorem q3056 : (Jvm.Cond.instanceMethod ({ cls := "RoseProverbsModel", name := "thrown", desc := "()I" } : Jvm.MethodName)) ∈ lw_all := lw_g (lw_at lw_m13 44 rfl) rfl
theorem q3057 : (Jvm.Cond.selects "RoseProverbsModel" ({ cls := "RoseProverbsModel", name := "thrown", desc := "()I" } : Jvm.MethodName) ({ cls := "RoseProverbsModel", name := "thrown", desc := "()I" } : Jvm.MethodName)) ∈ lw_all := lw_g (lw_at lw_m13 45 rfl) rfl
theorem q3058 : (Jvm.Cond.code ({ cls := "RoseProverbsModel", name := "thrown", desc := "()I" } : Jvm.MethodName) prog_20_method_2_code (1 : Nat) (Option.some Jvm.ClassFile.FieldType.int)) ∈ lw_all := lw_g (lw_at lw_m13 46 rfl) rfl
theorem q3060 : (Jvm.Cond.instanceMethod ({ cls := "RoseProverbsModel", name := "appendInput", desc := "(IIIII)I" } : Jvm.MethodName)) ∈ lw_all := lw_g (lw_at lw_m13 48 rfl) rfl
theorem q3061 : (Jvm.Cond.selects "RoseProverbsModel" ({ cls := "RoseProverbsModel", name := "appendInput", desc := "(IIIII)I" } : Jvm.MethodName) ({ cls := "RoseProverbsModel", name := "appendInput", desc := "(IIIII)I" } : Jvm.MethodName)) ∈ lw_all := lw_g (lw_at lw_m13 49 rfl) rfl
theorem q3062 : (Jvm.Cond.code ({ cls := "RoseProverbsModel", name := "appendInput", desc := "(IIIII)I" } : Jvm.MethodName) prog_20_method_40_code (6 : Nat) (Option.some Jvm.ClassFile.FieldType.int)) ∈ lw_all := lw_g (lw_at lw_m13 50 rfl) rfl
theorem q3063 : (Jvm.Cond.methodLink "RoseProverbsModel" (156 : Nat) ({ cls := "RoseProverbsModel", name := "appendWord", desc := "(I)V" } : Jvm.MethodName)) ∈ lw_all := lw_g (lw_at lw_m13 51 rfl) rfl
theorem q3064 : (Jvm.Cond.privateMethod ({ cls := "RoseProverbsModel", name := "appendWord", desc := "(I)V" } : Jvm.MethodName)) ∈ lw_tbl := lw_at lw_m13 52 rfl
theorem q3065 : (Jvm.Cond.instanceMethod ({ cls := "RoseProverbsModel", name := "appendWord", desc := "(I)V" } : Jvm.MethodName)) ∈ lw_all := lw_g (lw_at lw_m13 53 rfl) rfl
theorem q3066 : (Jvm.Cond.code ({ cls := "RoseProverbsModel", name := "appendWord", desc := "(I)V" } : Jvm.MethodName) prog_20_method_39_code (3 : Nat) (Option.none : Option Jvm.ClassFile.FieldType)) ∈ lw_all := lw_g (lw_at lw_m13 54 rfl) rfl
theorem q3068 : (Jvm.Cond.instanceMethod ({ cls := "RoseProverbsModel", name := "truncateInput", desc := "(I)Z" } : Jvm.MethodName)) ∈ lw_all := lw_g (lw_at lw_m13 56 rfl) rfl
theorem q3069 : (Jvm.Cond.selects "RoseProverbsModel" ({ cls := "RoseProverbsModel", name := "truncateInput", desc := "(I)Z" } : Jvm.MethodName) ({ cls := "RoseProverbsModel", name := "truncateInput", desc := "(I)Z" } : Jvm.MethodName)) ∈ lw_all := lw_g (lw_at lw_m13 57 rfl) rfl
theorem q3070 : (Jvm.Cond.code ({ cls := "RoseProverbsModel", name := "truncateInput", desc := "(I)Z" } : Jvm.MethodName) prog_20_method_41_code (2 : Nat) (Option.some Jvm.ClassFile.FieldType.boolean)) ∈ lw_all := lw_g (lw_at lw_m13 58 rfl) rfl
theorem q3071 : (Jvm.Cond.methodLink "RoseProverbsModel" (159 : Nat) ({ cls := "RoseProverbsModel", name := "inRange", desc := "(III)Z" } : Jvm.MethodName)) ∈ lw_all := lw_g (lw_at lw_m13 59 rfl) rfl
theorem q3072 : (Jvm.Cond.static ({ cls := "RoseProverbsModel", name := "inRange", desc := "(III)Z" } : Jvm.MethodName)) ∈ lw_all := lw_g (lw_at lw_m13 60 rfl) rfl
theorem q3073 : (Jvm.Cond.code ({ cls := "RoseProverbsModel", name := "inRange", desc := "(III)Z" } : Jvm.MethodName) prog_20_method_3_code (3 : Nat) (Option.some Jvm.ClassFile.FieldType.boolean)) ∈ lw_all := lw_g (lw_at lw_m13 61 rfl) rfl
theorem q3075 : (Jvm.Cond.instanceMethod ({ cls := "RoseProverbsModel", name := "loadRose", desc := "()I" } : Jvm.MethodName)) ∈ lw_all := lw_g (lw_at lw_m13 63 rfl) rfl
theorem q3076 : (Jvm.Cond.selects "RoseProverbsModel" ({ cls := "RoseProverbsModel", name := "loadRose", desc := "()I" } : Jvm.MethodName) ({ cls := "RoseProverbsModel", name := "loadRose", desc := "()I" } : Jvm.MethodName)) ∈ lw_all := lw_g (lw_at lw_m13 64 rfl) rfl
theorem q3077 : (Jvm.Cond.code ({ cls := "RoseProverbsModel", name := "loadRose", desc := "()I" } : Jvm.MethodName) prog_20_method_60_code (2 : Nat) (Option.some Jvm.ClassFile.FieldType.int)) ∈ lw_all := lw_g (lw_at lw_m13 65 rfl) rfl
theorem q3078 : (Jvm.Cond.methodLink "RoseProverbsModel" (149 : Nat) ({ cls := "RoseProverbsModel", name := "copies", desc := "([II[II)V" } : Jvm.MethodName)) ∈ lw_all := lw_g (lw_at lw_m13 66 rfl) rfl
theorem q3079 : (Jvm.Cond.static ({ cls := "RoseProverbsModel", name := "copies", desc := "([II[II)V" } : Jvm.MethodName)) ∈ lw_all := lw_g (lw_at lw_m13 67 rfl) rfl
theorem q3080 : (Jvm.Cond.code ({ cls := "RoseProverbsModel", name := "copies", desc := "([II[II)V" } : Jvm.MethodName) prog_20_method_6_code (5 : Nat) (Option.none : Option Jvm.ClassFile.FieldType)) ∈ lw_all := lw_g (lw_at lw_m13 68 rfl) rfl
theorem q3081 : (Jvm.Cond.methodLink "RoseProverbsModel" (257 : Nat) ({ cls := "RoseProverbsModel", name := "startsText", desc := "()V" } : Jvm.MethodName)) ∈ lw_all := lw_g (lw_at lw_m13 69 rfl) rfl
theorem q3082 : (Jvm.Cond.privateMethod ({ cls := "RoseProverbsModel", name := "startsText", desc := "()V" } : Jvm.MethodName)) ∈ lw_tbl := lw_at lw_m13 70 rfl
theorem q3083 : (Jvm.Cond.instanceMethod ({ cls := "RoseProverbsModel", name := "startsText", desc := "()V" } : Jvm.MethodName)) ∈ lw_all := lw_g (lw_at lw_m13 71 rfl) rfl
theorem q3084 : (Jvm.Cond.code ({ cls := "RoseProverbsModel", name := "startsText", desc := "()V" } : Jvm.MethodName) prog_20_method_58_code (1 : Nat) (Option.none : Option Jvm.ClassFile.FieldType)) ∈ lw_all := lw_g (lw_at lw_m13 72 rfl) rfl
theorem q3085 : (Jvm.Cond.methodLink "RoseProverbsModel" (204 : Nat) ({ cls := "RoseProverbsModel", name := "advanceToken", desc := "()V" } : Jvm.MethodName)) ∈ lw_all := lw_g (lw_at lw_m13 73 rfl) rfl
theorem q3086 : (Jvm.Cond.privateMethod ({ cls := "RoseProverbsModel", name := "advanceToken", desc := "()V" } : Jvm.MethodName)) ∈ lw_tbl := lw_at lw_m13 74 rfl
theorem q3087 : (Jvm.Cond.instanceMethod ({ cls := "RoseProverbsModel", name := "advanceToken", desc := "()V" } : Jvm.MethodName)) ∈ lw_all := lw_g (lw_at lw_m13 75 rfl) rfl
theorem q3088 : (Jvm.Cond.code ({ cls := "RoseProverbsModel", name := "advanceToken", desc := "()V" } : Jvm.MethodName) prog_20_method_44_code (2 : Nat) (Option.none : Option Jvm.ClassFile.FieldType)) ∈ lw_all := lw_g (lw_at lw_m13 76 rfl) rfl
theorem q3089 : (Jvm.Cond.methodLink "RoseProverbsModel" (162 : Nat) ({ cls := "RoseProverbsModel", name := "byteAt", desc := "(I)I" } : Jvm.MethodName)) ∈ lw_all := lw_g (lw_at lw_m13 77 rfl) rfl
theorem q3090 : (Jvm.Cond.privateMethod ({ cls := "RoseProverbsModel", name := "byteAt", desc := "(I)I" } : Jvm.MethodName)) ∈ lw_tbl := lw_at lw_m13 78 rfl
theorem q3091 : (Jvm.Cond.instanceMethod ({ cls := "RoseProverbsModel", name := "byteAt", desc := "(I)I" } : Jvm.MethodName)) ∈ lw_all := lw_g (lw_at lw_m13 79 rfl) rfl
theorem q3092 : (Jvm.Cond.code ({ cls := "RoseProverbsModel", name := "byteAt", desc := "(I)I" } : Jvm.MethodName) prog_20_method_42_code (2 : Nat) (Option.some Jvm.ClassFile.FieldType.int)) ∈ lw_all := lw_g (lw_at lw_m13 80 rfl) rfl
theorem q3093 : (Jvm.Cond.methodLink "RoseProverbsModel" (177 : Nat) ({ cls := "RoseProverbsModel", name := "isLetter", desc := "(I)Z" } : Jvm.MethodName)) ∈ lw_all := lw_g (lw_at lw_m13 81 rfl) rfl
theorem q3094 : (Jvm.Cond.privateMethod ({ cls := "RoseProverbsModel", name := "isLetter", desc := "(I)Z" } : Jvm.MethodName)) ∈ lw_tbl := lw_at lw_m13 82 rfl
theorem q3095 : (Jvm.Cond.instanceMethod ({ cls := "RoseProverbsModel", name := "isLetter", desc := "(I)Z" } : Jvm.MethodName)) ∈ lw_all := lw_g (lw_at lw_m13 83 rfl) rfl
theorem q3096 : (Jvm.Cond.code ({ cls := "RoseProverbsModel", name := "isLetter", desc := "(I)Z" } : Jvm.MethodName) prog_20_method_43_code (2 : Nat) (Option.some Jvm.ClassFile.FieldType.boolean)) ∈ lw_all := lw_g (lw_at lw_m13 84 rfl) rfl
theorem q3097 : (Jvm.Cond.methodLink "RoseProverbsModel" (260 : Nat) ({ cls := "RoseProverbsModel", name := "readText", desc := "()Z" } : Jvm.MethodName)) ∈ lw_all := lw_g (lw_at lw_m13 85 rfl) rfl
theorem q3098 : (Jvm.Cond.privateMethod ({ cls := "RoseProverbsModel", name := "readText", desc := "()Z" } : Jvm.MethodName)) ∈ lw_tbl := lw_at lw_m13 86 rfl
theorem q3099 : (Jvm.Cond.instanceMethod ({ cls := "RoseProverbsModel", name := "readText", desc := "()Z" } : Jvm.MethodName)) ∈ lw_all := lw_g (lw_at lw_m13 87 rfl) rfl
theorem q3100 : (Jvm.Cond.code ({ cls := "RoseProverbsModel", name := "readText", desc := "()Z" } : Jvm.MethodName) prog_20_method_57_code (1 : Nat) (Option.some Jvm.ClassFile.FieldType.boolean)) ∈ lw_all := lw_g (lw_at lw_m13 88 rfl) rfl
theorem q3101 : (Jvm.Cond.methodLink "RoseProverbsModel" (248 : Nat) ({ cls := "RoseProverbsModel", name := "readSetupStatement", desc := "()Z" } : Jvm.MethodName)) ∈ lw_all := lw_g (lw_at lw_m13 89 rfl) rfl
theorem q3102 : (Jvm.Cond.privateMethod ({ cls := "RoseProverbsModel", name := "readSetupStatement", desc := "()Z" } : Jvm.MethodName)) ∈ lw_tbl := lw_at lw_m13 90 rfl
theorem q3103 : (Jvm.Cond.instanceMethod ({ cls := "RoseProverbsModel", name := "readSetupStatement", desc := "()Z" } : Jvm.MethodName)) ∈ lw_all := lw_g (lw_at lw_m13 91 rfl) rfl
theorem q3104 : (Jvm.Cond.code ({ cls := "RoseProverbsModel", name := "readSetupStatement", desc := "()Z" } : Jvm.MethodName) prog_20_method_56_code (2 : Nat) (Option.some Jvm.ClassFile.FieldType.boolean)) ∈ lw_all := lw_g (lw_at lw_m13 92 rfl) rfl
theorem q3105 : (Jvm.Cond.stringRef "RoseProverbsModel" (237 : Nat) "proverb") ∈ lw_tbl := lw_at lw_m13 93 rfl
theorem q3106 : (Jvm.Cond.methodLink "RoseProverbsModel" (215 : Nat) ({ cls := "RoseProverbsModel", name := "isWord", desc := "(Ljava/lang/String;)Z" } : Jvm.MethodName)) ∈ lw_all := lw_g (lw_at lw_m13 94 rfl) rfl
theorem q3107 : (Jvm.Cond.privateMethod ({ cls := "RoseProverbsModel", name := "isWord", desc := "(Ljava/lang/String;)Z" } : Jvm.MethodName)) ∈ lw_tbl := lw_at lw_m13 95 rfl
theorem q3108 : (Jvm.Cond.instanceMethod ({ cls := "RoseProverbsModel", name := "isWord", desc := "(Ljava/lang/String;)Z" } : Jvm.MethodName)) ∈ lw_all := lw_g (lw_at lw_m13 96 rfl) rfl
theorem q3109 : (Jvm.Cond.code ({ cls := "RoseProverbsModel", name := "isWord", desc := "(Ljava/lang/String;)Z" } : Jvm.MethodName) prog_20_method_46_code (3 : Nat) (Option.some Jvm.ClassFile.FieldType.boolean)) ∈ lw_all := lw_g (lw_at lw_m13 97 rfl) rfl
theorem q3110 : (Jvm.Cond.methodLink "RoseProverbsModel" (186 : Nat) ({ cls := "java/lang/String", name := "length", desc := "()I" } : Jvm.MethodName)) ∈ lw_all := lw_g (lw_at lw_m13 98 rfl) rfl
theorem q3111 : (Jvm.Cond.methodLink "RoseProverbsModel" (191 : Nat) ({ cls := "java/lang/String", name := "charAt", desc := "(I)C" } : Jvm.MethodName)) ∈ lw_all := lw_g (lw_at lw_m13 99 rfl) rfl
theorem q3112 : (Jvm.Cond.methodLink "RoseProverbsModel" (239 : Nat) ({ cls := "RoseProverbsModel", name := "readProverb", desc := "()Z" } : Jvm.MethodName)) ∈ lw_all := lw_g (lw_at lw_m13 100 rfl) rfl
theorem q3113 : (Jvm.Cond.privateMethod ({ cls := "RoseProverbsModel", name := "readProverb", desc := "()Z" } : Jvm.MethodName)) ∈ lw_tbl := lw_at lw_m13 101 rfl
theorem q3114 : (Jvm.Cond.instanceMethod ({ cls := "RoseProverbsModel", name := "readProverb", desc := "()Z" } : Jvm.MethodName)) ∈ lw_all := lw_g (lw_at lw_m13 102 rfl) rfl
theorem q3115 : (Jvm.Cond.code ({ cls := "RoseProverbsModel", name := "readProverb", desc := "()Z" } : Jvm.MethodName) prog_20_method_54_code (2 : Nat) (Option.some Jvm.ClassFile.FieldType.boolean)) ∈ lw_all := lw_g (lw_at lw_m13 103 rfl) rfl
theorem q3116 : (Jvm.Cond.methodLink "RoseProverbsModel" (195 : Nat) ({ cls := "RoseProverbsModel", name := "failsAt", desc := "(I)Z" } : Jvm.MethodName)) ∈ lw_all := lw_g (lw_at lw_m13 104 rfl) rfl
theorem q3117 : (Jvm.Cond.privateMethod ({ cls := "RoseProverbsModel", name := "failsAt", desc := "(I)Z" } : Jvm.MethodName)) ∈ lw_tbl := lw_at lw_m13 105 rfl
theorem q3118 : (Jvm.Cond.instanceMethod ({ cls := "RoseProverbsModel", name := "failsAt", desc := "(I)Z" } : Jvm.MethodName)) ∈ lw_all := lw_g (lw_at lw_m13 106 rfl) rfl
theorem q3119 : (Jvm.Cond.code ({ cls := "RoseProverbsModel", name := "failsAt", desc := "(I)Z" } : Jvm.MethodName) prog_20_method_45_code (2 : Nat) (Option.some Jvm.ClassFile.FieldType.boolean)) ∈ lw_all := lw_g (lw_at lw_m13 107 rfl) rfl
theorem q3120 : (Jvm.Cond.methodLink "RoseProverbsModel" (223 : Nat) ({ cls := "RoseProverbsModel", name := "takesProverb", desc := "()Z" } : Jvm.MethodName)) ∈ lw_all := lw_g (lw_at lw_m13 108 rfl) rfl
theorem q3121 : (Jvm.Cond.privateMethod ({ cls := "RoseProverbsModel", name := "takesProverb", desc := "()Z" } : Jvm.MethodName)) ∈ lw_tbl := lw_at lw_m13 109 rfl
theorem q3122 : (Jvm.Cond.instanceMethod ({ cls := "RoseProverbsModel", name := "takesProverb", desc := "()Z" } : Jvm.MethodName)) ∈ lw_all := lw_g (lw_at lw_m13 110 rfl) rfl
theorem q3123 : (Jvm.Cond.code ({ cls := "RoseProverbsModel", name := "takesProverb", desc := "()Z" } : Jvm.MethodName) prog_20_method_51_code (1 : Nat) (Option.some Jvm.ClassFile.FieldType.boolean)) ∈ lw_all := lw_g (lw_at lw_m13 111 rfl) rfl
theorem q3124 : (Jvm.Cond.methodLink "RoseProverbsModel" (210 : Nat) ({ cls := "RoseProverbsModel", name := "takes", desc := "(III)Z" } : Jvm.MethodName)) ∈ lw_all := lw_g (lw_at lw_m13 112 rfl) rfl
theorem q3125 : (Jvm.Cond.privateMethod ({ cls := "RoseProverbsModel", name := "takes", desc := "(III)Z" } : Jvm.MethodName)) ∈ lw_tbl := lw_at lw_m13 113 rfl
theorem q3126 : (Jvm.Cond.instanceMethod ({ cls := "RoseProverbsModel", name := "takes", desc := "(III)Z" } : Jvm.MethodName)) ∈ lw_all := lw_g (lw_at lw_m13 114 rfl) rfl
theorem q3127 : (Jvm.Cond.code ({ cls := "RoseProverbsModel", name := "takes", desc := "(III)Z" } : Jvm.MethodName) prog_20_method_50_code (4 : Nat) (Option.some Jvm.ClassFile.FieldType.boolean)) ∈ lw_all := lw_g (lw_at lw_m13 115 rfl) rfl
theorem q3128 : (Jvm.Cond.methodLink "RoseProverbsModel" (207 : Nat) ({ cls := "RoseProverbsModel", name := "takesNumber", desc := "(II)Z" } : Jvm.MethodName)) ∈ lw_all := lw_g (lw_at lw_m13 116 rfl) rfl
theorem q3129 : (Jvm.Cond.privateMethod ({ cls := "RoseProverbsModel", name := "takesNumber", desc := "(II)Z" } : Jvm.MethodName)) ∈ lw_tbl := lw_at lw_m13 117 rfl
theorem q3130 : (Jvm.Cond.instanceMethod ({ cls := "RoseProverbsModel", name := "takesNumber", desc := "(II)Z" } : Jvm.MethodName)) ∈ lw_all := lw_g (lw_at lw_m13 118 rfl) rfl
theorem q3131 : (Jvm.Cond.code ({ cls := "RoseProverbsModel", name := "takesNumber", desc := "(II)Z" } : Jvm.MethodName) prog_20_method_48_code (3 : Nat) (Option.some Jvm.ClassFile.FieldType.boolean)) ∈ lw_all := lw_g (lw_at lw_m13 119 rfl) rfl
theorem q3132 : (Jvm.Cond.methodLink "RoseProverbsModel" (201 : Nat) ({ cls := "RoseProverbsModel", name := "seesNumber", desc := "(II)Z" } : Jvm.MethodName)) ∈ lw_all := lw_g (lw_at lw_m13 120 rfl) rfl
theorem q3133 : (Jvm.Cond.privateMethod ({ cls := "RoseProverbsModel", name := "seesNumber", desc := "(II)Z" } : Jvm.MethodName)) ∈ lw_tbl := lw_at lw_m13 121 rfl
theorem q3134 : (Jvm.Cond.instanceMethod ({ cls := "RoseProverbsModel", name := "seesNumber", desc := "(II)Z" } : Jvm.MethodName)) ∈ lw_all := lw_g (lw_at lw_m13 122 rfl) rfl
theorem q3135 : (Jvm.Cond.code ({ cls := "RoseProverbsModel", name := "seesNumber", desc := "(II)Z" } : Jvm.MethodName) prog_20_method_47_code (3 : Nat) (Option.some Jvm.ClassFile.FieldType.boolean)) ∈ lw_all := lw_g (lw_at lw_m13 123 rfl) rfl
theorem q3136 : (Jvm.Cond.methodLink "RoseProverbsModel" (227 : Nat) ({ cls := "RoseProverbsModel", name := "isTwice", desc := "(IIIII)Z" } : Jvm.MethodName)) ∈ lw_all := lw_g (lw_at lw_m13 124 rfl) rfl
theorem q3137 : (Jvm.Cond.privateMethod ({ cls := "RoseProverbsModel", name := "isTwice", desc := "(IIIII)Z" } : Jvm.MethodName)) ∈ lw_tbl := lw_at lw_m13 125 rfl
theorem q3138 : (Jvm.Cond.instanceMethod ({ cls := "RoseProverbsModel", name := "isTwice", desc := "(IIIII)Z" } : Jvm.MethodName)) ∈ lw_all := lw_g (lw_at lw_m13 126 rfl) rfl
theorem q3139 : (Jvm.Cond.code ({ cls := "RoseProverbsModel", name := "isTwice", desc := "(IIIII)Z" } : Jvm.MethodName) prog_20_method_19_code (8 : Nat) (Option.some Jvm.ClassFile.FieldType.boolean)) ∈ lw_all := lw_g (lw_at lw_m13 127 rfl) rfl
theorem q3140 : (Jvm.Cond.methodLink "RoseProverbsModel" (67 : Nat) ({ cls := "RoseProverbsModel", name := "of", desc := "(II)I" } : Jvm.MethodName)) ∈ lw_all := lw_g (lw_at lw_m13 128 rfl) rfl
theorem q3141 : (Jvm.Cond.privateMethod ({ cls := "RoseProverbsModel", name := "of", desc := "(II)I" } : Jvm.MethodName)) ∈ lw_tbl := lw_at lw_m13 129 rfl
theorem q3142 : (Jvm.Cond.instanceMethod ({ cls := "RoseProverbsModel", name := "of", desc := "(II)I" } : Jvm.MethodName)) ∈ lw_all := lw_g (lw_at lw_m13 130 rfl) rfl
theorem q3143 : (Jvm.Cond.code ({ cls := "RoseProverbsModel", name := "of", desc := "(II)I" } : Jvm.MethodName) prog_20_method_9_code (3 : Nat) (Option.some Jvm.ClassFile.FieldType.int)) ∈ lw_all := lw_g (lw_at lw_m13 131 rfl) rfl
theorem q3144 : (Jvm.Cond.methodLink "RoseProverbsModel" (84 : Nat) ({ cls := "RoseProverbsModel", name := "isLive", desc := "(I)Z" } : Jvm.MethodName)) ∈ lw_all := lw_g (lw_at lw_m13 132 rfl) rfl
theorem q3145 : (Jvm.Cond.privateMethod ({ cls := "RoseProverbsModel", name := "isLive", desc := "(I)Z" } : Jvm.MethodName)) ∈ lw_tbl := lw_at lw_m13 133 rfl
theorem q3146 : (Jvm.Cond.instanceMethod ({ cls := "RoseProverbsModel", name := "isLive", desc := "(I)Z" } : Jvm.MethodName)) ∈ lw_all := lw_g (lw_at lw_m13 134 rfl) rfl
theorem q3147 : (Jvm.Cond.code ({ cls := "RoseProverbsModel", name := "isLive", desc := "(I)Z" } : Jvm.MethodName) prog_20_method_12_code (2 : Nat) (Option.some Jvm.ClassFile.FieldType.boolean)) ∈ lw_all := lw_g (lw_at lw_m13 135 rfl) rfl
theorem q3148 : (Jvm.Cond.methodLink "RoseProverbsModel" (242 : Nat) ({ cls := "RoseProverbsModel", name := "settingHere", desc := "()I" } : Jvm.MethodName)) ∈ lw_all := lw_g (lw_at lw_m13 136 rfl) rfl
theorem q3149 : (Jvm.Cond.privateMethod ({ cls := "RoseProverbsModel", name := "settingHere", desc := "()I" } : Jvm.MethodName)) ∈ lw_tbl := lw_at lw_m13 137 rfl
theorem q3150 : (Jvm.Cond.instanceMethod ({ cls := "RoseProverbsModel", name := "settingHere", desc := "()I" } : Jvm.MethodName)) ∈ lw_all := lw_g (lw_at lw_m13 138 rfl) rfl
theorem q3151 : (Jvm.Cond.code ({ cls := "RoseProverbsModel", name := "settingHere", desc := "()I" } : Jvm.MethodName) prog_20_method_53_code (1 : Nat) (Option.some Jvm.ClassFile.FieldType.int)) ∈ lw_all := lw_g (lw_at lw_m13 139 rfl) rfl
theorem q3152 : (Jvm.Cond.stringRef "RoseProverbsModel" (213 : Nat) "rule") ∈ lw_tbl := lw_at lw_m13 140 rfl
theorem q3153 : (Jvm.Cond.stringRef "RoseProverbsModel" (219 : Nat) "rise") ∈ lw_tbl := lw_at lw_m13 141 rfl
theorem q3154 : (Jvm.Cond.stringRef "RoseProverbsModel" (221 : Nat) "fall") ∈ lw_tbl := lw_at lw_m13 142 rfl
theorem q3155 : (Jvm.Cond.methodLink "RoseProverbsModel" (245 : Nat) ({ cls := "RoseProverbsModel", name := "readSetting", desc := "(I)Z" } : Jvm.MethodName)) ∈ lw_all := lw_g (lw_at lw_m13 143 rfl) rfl
theorem q3156 : (Jvm.Cond.privateMethod ({ cls := "RoseProverbsModel", name := "readSetting", desc := "(I)Z" } : Jvm.MethodName)) ∈ lw_tbl := lw_at lw_m13 144 rfl
theorem q3157 : (Jvm.Cond.instanceMethod ({ cls := "RoseProverbsModel", name := "readSetting", desc := "(I)Z" } : Jvm.MethodName)) ∈ lw_all := lw_g (lw_at lw_m13 145 rfl) rfl
theorem q3158 : (Jvm.Cond.code ({ cls := "RoseProverbsModel", name := "readSetting", desc := "(I)Z" } : Jvm.MethodName) prog_20_method_55_code (2 : Nat) (Option.some Jvm.ClassFile.FieldType.boolean)) ∈ lw_all := lw_g (lw_at lw_m13 146 rfl) rfl
theorem q3159 : (Jvm.Cond.methodLink "RoseProverbsModel" (231 : Nat) ({ cls := "RoseProverbsModel", name := "mostOf", desc := "(I)I" } : Jvm.MethodName)) ∈ lw_all := lw_g (lw_at lw_m13 147 rfl) rfl
theorem q3160 : (Jvm.Cond.static ({ cls := "RoseProverbsModel", name := "mostOf", desc := "(I)I" } : Jvm.MethodName)) ∈ lw_all := lw_g (lw_at lw_m13 148 rfl) rfl
theorem q3161 : (Jvm.Cond.code ({ cls := "RoseProverbsModel", name := "mostOf", desc := "(I)I" } : Jvm.MethodName) prog_20_method_52_code (1 : Nat) (Option.some Jvm.ClassFile.FieldType.int)) ∈ lw_all := lw_g (lw_at lw_m13 149 rfl) rfl
theorem q3162 : (Jvm.Cond.methodLink "RoseProverbsModel" (234 : Nat) ({ cls := "RoseProverbsModel", name := "takesSemicolon", desc := "()Z" } : Jvm.MethodName)) ∈ lw_all := lw_g (lw_at lw_m13 150 rfl) rfl
theorem q3163 : (Jvm.Cond.privateMethod ({ cls := "RoseProverbsModel", name := "takesSemicolon", desc := "()Z" } : Jvm.MethodName)) ∈ lw_tbl := lw_at lw_m13 151 rfl
theorem q3164 : (Jvm.Cond.instanceMethod ({ cls := "RoseProverbsModel", name := "takesSemicolon", desc := "()Z" } : Jvm.MethodName)) ∈ lw_all := lw_g (lw_at lw_m13 152 rfl) rfl
theorem q3165 : (Jvm.Cond.code ({ cls := "RoseProverbsModel", name := "takesSemicolon", desc := "()Z" } : Jvm.MethodName) prog_20_method_49_code (1 : Nat) (Option.some Jvm.ClassFile.FieldType.boolean)) ∈ lw_all := lw_g (lw_at lw_m13 153 rfl) rfl
theorem q3166 : (Jvm.Cond.methodLink "RoseProverbsModel" (263 : Nat) ({ cls := "RoseProverbsModel", name := "endsText", desc := "()V" } : Jvm.MethodName)) ∈ lw_all := lw_g (lw_at lw_m13 154 rfl) rfl
theorem q3167 : (Jvm.Cond.privateMethod ({ cls := "RoseProverbsModel", name := "endsText", desc := "()V" } : Jvm.MethodName)) ∈ lw_tbl := lw_at lw_m13 155 rfl
theorem q3168 : (Jvm.Cond.instanceMethod ({ cls := "RoseProverbsModel", name := "endsText", desc := "()V" } : Jvm.MethodName)) ∈ lw_all := lw_g (lw_at lw_m13 156 rfl) rfl
theorem q3169 : (Jvm.Cond.code ({ cls := "RoseProverbsModel", name := "endsText", desc := "()V" } : Jvm.MethodName) prog_20_method_59_code (1 : Nat) (Option.none : Option Jvm.ClassFile.FieldType)) ∈ lw_all := lw_g (lw_at lw_m13 157 rfl) rfl
theorem q3171 : (Jvm.Cond.instanceMethod ({ cls := "RoseProverbsModel", name := "playScript", desc := "()I" } : Jvm.MethodName)) ∈ lw_all := lw_g (lw_at lw_m13 159 rfl) rfl
theorem q3172 : (Jvm.Cond.selects "RoseProverbsModel" ({ cls := "RoseProverbsModel", name := "playScript", desc := "()I" } : Jvm.MethodName) ({ cls := "RoseProverbsModel", name := "playScript", desc := "()I" } : Jvm.MethodName)) ∈ lw_all := lw_g (lw_at lw_m13 160 rfl) rfl
theorem q3173 : (Jvm.Cond.code ({ cls := "RoseProverbsModel", name := "playScript", desc := "()I" } : Jvm.MethodName) prog_20_method_66_code (3 : Nat) (Option.some Jvm.ClassFile.FieldType.int)) ∈ lw_all := lw_g (lw_at lw_m13 161 rfl) rfl
theorem q3174 : (Jvm.Cond.methodLink "RoseProverbsModel" (300 : Nat) ({ cls := "RoseProverbsModel", name := "readScriptStatement", desc := "()Z" } : Jvm.MethodName)) ∈ lw_all := lw_g (lw_at lw_m13 162 rfl) rfl
theorem q3175 : (Jvm.Cond.privateMethod ({ cls := "RoseProverbsModel", name := "readScriptStatement", desc := "()Z" } : Jvm.MethodName)) ∈ lw_tbl := lw_at lw_m13 163 rfl
theorem q3176 : (Jvm.Cond.instanceMethod ({ cls := "RoseProverbsModel", name := "readScriptStatement", desc := "()Z" } : Jvm.MethodName)) ∈ lw_all := lw_g (lw_at lw_m13 164 rfl) rfl
theorem q3177 : (Jvm.Cond.code ({ cls := "RoseProverbsModel", name := "readScriptStatement", desc := "()Z" } : Jvm.MethodName) prog_20_method_63_code (3 : Nat) (Option.some Jvm.ClassFile.FieldType.boolean)) ∈ lw_all := lw_g (lw_at lw_m13 165 rfl) rfl
theorem q3178 : (Jvm.Cond.methodLink "RoseProverbsModel" (276 : Nat) ({ cls := "RoseProverbsModel", name := "scriptHere", desc := "()I" } : Jvm.MethodName)) ∈ lw_all := lw_g (lw_at lw_m13 166 rfl) rfl
theorem q3179 : (Jvm.Cond.privateMethod ({ cls := "RoseProverbsModel", name := "scriptHere", desc := "()I" } : Jvm.MethodName)) ∈ lw_tbl := lw_at lw_m13 167 rfl
theorem q3180 : (Jvm.Cond.instanceMethod ({ cls := "RoseProverbsModel", name := "scriptHere", desc := "()I" } : Jvm.MethodName)) ∈ lw_all := lw_g (lw_at lw_m13 168 rfl) rfl
theorem q3181 : (Jvm.Cond.code ({ cls := "RoseProverbsModel", name := "scriptHere", desc := "()I" } : Jvm.MethodName) prog_20_method_61_code (1 : Nat) (Option.some Jvm.ClassFile.FieldType.int)) ∈ lw_all := lw_g (lw_at lw_m13 169 rfl) rfl
theorem q3182 : (Jvm.Cond.stringRef "RoseProverbsModel" (270 : Nat) "day") ∈ lw_tbl := lw_at lw_m13 170 rfl
theorem q3183 : (Jvm.Cond.stringRef "RoseProverbsModel" (272 : Nat) "forget") ∈ lw_tbl := lw_at lw_m13 171 rfl
theorem q3184 : (Jvm.Cond.stringRef "RoseProverbsModel" (274 : Nat) "weigh") ∈ lw_tbl := lw_at lw_m13 172 rfl
theorem q3185 : (Jvm.Cond.methodLink "RoseProverbsModel" (279 : Nat) ({ cls := "RoseProverbsModel", name := "takesRest", desc := "(I)Z" } : Jvm.MethodName)) ∈ lw_all := lw_g (lw_at lw_m13 173 rfl) rfl
theorem q3186 : (Jvm.Cond.privateMethod ({ cls := "RoseProverbsModel", name := "takesRest", desc := "(I)Z" } : Jvm.MethodName)) ∈ lw_tbl := lw_at lw_m13 174 rfl
theorem q3187 : (Jvm.Cond.instanceMethod ({ cls := "RoseProverbsModel", name := "takesRest", desc := "(I)Z" } : Jvm.MethodName)) ∈ lw_all := lw_g (lw_at lw_m13 175 rfl) rfl
theorem q3188 : (Jvm.Cond.code ({ cls := "RoseProverbsModel", name := "takesRest", desc := "(I)Z" } : Jvm.MethodName) prog_20_method_62_code (3 : Nat) (Option.some Jvm.ClassFile.FieldType.boolean)) ∈ lw_all := lw_g (lw_at lw_m13 176 rfl) rfl
theorem q3189 : (Jvm.Cond.methodLink "RoseProverbsModel" (303 : Nat) ({ cls := "RoseProverbsModel", name := "remembers", desc := "()V" } : Jvm.MethodName)) ∈ lw_all := lw_g (lw_at lw_m13 177 rfl) rfl
theorem q3190 : (Jvm.Cond.privateMethod ({ cls := "RoseProverbsModel", name := "remembers", desc := "()V" } : Jvm.MethodName)) ∈ lw_tbl := lw_at lw_m13 178 rfl
theorem q3191 : (Jvm.Cond.instanceMethod ({ cls := "RoseProverbsModel", name := "remembers", desc := "()V" } : Jvm.MethodName)) ∈ lw_all := lw_g (lw_at lw_m13 179 rfl) rfl
theorem q3192 : (Jvm.Cond.code ({ cls := "RoseProverbsModel", name := "remembers", desc := "()V" } : Jvm.MethodName) prog_20_method_36_code (2 : Nat) (Option.none : Option Jvm.ClassFile.FieldType)) ∈ lw_all := lw_g (lw_at lw_m13 180 rfl) rfl
theorem q3193 : (Jvm.Cond.methodLink "RoseProverbsModel" (306 : Nat) ({ cls := "RoseProverbsModel", name := "does", desc := "(I)Z" } : Jvm.MethodName)) ∈ lw_all := lw_g (lw_at lw_m13 181 rfl) rfl
theorem q3194 : (Jvm.Cond.privateMethod ({ cls := "RoseProverbsModel", name := "does", desc := "(I)Z" } : Jvm.MethodName)) ∈ lw_tbl := lw_at lw_m13 182 rfl
theorem q3195 : (Jvm.Cond.instanceMethod ({ cls := "RoseProverbsModel", name := "does", desc := "(I)Z" } : Jvm.MethodName)) ∈ lw_all := lw_g (lw_at lw_m13 183 rfl) rfl
theorem q3196 : (Jvm.Cond.code ({ cls := "RoseProverbsModel", name := "does", desc := "(I)Z" } : Jvm.MethodName) prog_20_method_65_code (3 : Nat) (Option.some Jvm.ClassFile.FieldType.boolean)) ∈ lw_all := lw_g (lw_at lw_m13 184 rfl) rfl
theorem q3197 : (Jvm.Cond.methodLink "RoseProverbsModel" (282 : Nat) ({ cls := "RoseProverbsModel", name := "passesNow", desc := "(II)I" } : Jvm.MethodName)) ∈ lw_all := lw_g (lw_at lw_m13 185 rfl) rfl
theorem q3198 : (Jvm.Cond.privateMethod ({ cls := "RoseProverbsModel", name := "passesNow", desc := "(II)I" } : Jvm.MethodName)) ∈ lw_tbl := lw_at lw_m13 186 rfl
theorem q3199 : (Jvm.Cond.instanceMethod ({ cls := "RoseProverbsModel", name := "passesNow", desc := "(II)I" } : Jvm.MethodName)) ∈ lw_all := lw_g (lw_at lw_m13 187 rfl) rfl
theorem q3200 : (Jvm.Cond.code ({ cls := "RoseProverbsModel", name := "passesNow", desc := "(II)I" } : Jvm.MethodName) prog_20_method_29_code (5 : Nat) (Option.some Jvm.ClassFile.FieldType.int)) ∈ lw_all := lw_g (lw_at lw_m13 188 rfl) rfl
theorem q3201 : (Jvm.Cond.methodLink "RoseProverbsModel" (139 : Nat) ({ cls := "RoseProverbsModel", name := "passes", desc := "(II)I" } : Jvm.MethodName)) ∈ lw_all := lw_g (lw_at lw_m13 189 rfl) rfl
theorem q3202 : (Jvm.Cond.privateMethod ({ cls := "RoseProverbsModel", name := "passes", desc := "(II)I" } : Jvm.MethodName)) ∈ lw_tbl := lw_at lw_m13 190 rfl
theorem q3203 : (Jvm.Cond.instanceMethod ({ cls := "RoseProverbsModel", name := "passes", desc := "(II)I" } : Jvm.MethodName)) ∈ lw_all := lw_g (lw_at lw_m13 191 rfl) rfl
theorem q3204 : (Jvm.Cond.code ({ cls := "RoseProverbsModel", name := "passes", desc := "(II)I" } : Jvm.MethodName) prog_20_method_28_code (3 : Nat) (Option.some Jvm.ClassFile.FieldType.int)) ∈ lw_all := lw_g (lw_at lw_m13 192 rfl) rfl
theorem q3205 : (Jvm.Cond.methodLink "RoseProverbsModel" (132 : Nat) ({ cls := "RoseProverbsModel", name := "monthOf", desc := "(I)I" } : Jvm.MethodName)) ∈ lw_all := lw_g (lw_at lw_m13 193 rfl) rfl
theorem q3206 : (Jvm.Cond.privateMethod ({ cls := "RoseProverbsModel", name := "monthOf", desc := "(I)I" } : Jvm.MethodName)) ∈ lw_tbl := lw_at lw_m13 194 rfl
theorem q3207 : (Jvm.Cond.instanceMethod ({ cls := "RoseProverbsModel", name := "monthOf", desc := "(I)I" } : Jvm.MethodName)) ∈ lw_all := lw_g (lw_at lw_m13 195 rfl) rfl
theorem q3208 : (Jvm.Cond.code ({ cls := "RoseProverbsModel", name := "monthOf", desc := "(I)I" } : Jvm.MethodName) prog_20_method_18_code (2 : Nat) (Option.some Jvm.ClassFile.FieldType.int)) ∈ lw_all := lw_g (lw_at lw_m13 196 rfl) rfl
theorem q3209 : (Jvm.Cond.methodLink "RoseProverbsModel" (136 : Nat) ({ cls := "RoseProverbsModel", name := "passesIn", desc := "(III)I" } : Jvm.MethodName)) ∈ lw_all := lw_g (lw_at lw_m13 197 rfl) rfl
theorem q3210 : (Jvm.Cond.privateMethod ({ cls := "RoseProverbsModel", name := "passesIn", desc := "(III)I" } : Jvm.MethodName)) ∈ lw_tbl := lw_at lw_m13 198 rfl
theorem q3211 : (Jvm.Cond.instanceMethod ({ cls := "RoseProverbsModel", name := "passesIn", desc := "(III)I" } : Jvm.MethodName)) ∈ lw_all := lw_g (lw_at lw_m13 199 rfl) rfl
theorem q3212 : (Jvm.Cond.code ({ cls := "RoseProverbsModel", name := "passesIn", desc := "(III)I" } : Jvm.MethodName) prog_20_method_27_code (8 : Nat) (Option.some Jvm.ClassFile.FieldType.int)) ∈ lw_all := lw_g (lw_at lw_m13 200 rfl) rfl
theorem q3213 : (Jvm.Cond.methodLink "RoseProverbsModel" (116 : Nat) ({ cls := "RoseProverbsModel", name := "toldAt", desc := "(II)I" } : Jvm.MethodName)) ∈ lw_all := lw_g (lw_at lw_m13 201 rfl) rfl
theorem q3214 : (Jvm.Cond.privateMethod ({ cls := "RoseProverbsModel", name := "toldAt", desc := "(II)I" } : Jvm.MethodName)) ∈ lw_tbl := lw_at lw_m13 202 rfl
theorem q3215 : (Jvm.Cond.instanceMethod ({ cls := "RoseProverbsModel", name := "toldAt", desc := "(II)I" } : Jvm.MethodName)) ∈ lw_all := lw_g (lw_at lw_m13 203 rfl) rfl
theorem q3216 : (Jvm.Cond.code ({ cls := "RoseProverbsModel", name := "toldAt", desc := "(II)I" } : Jvm.MethodName) prog_20_method_22_code (7 : Nat) (Option.some Jvm.ClassFile.FieldType.int)) ∈ lw_all := lw_g (lw_at lw_m13 204 rfl) rfl
theorem q3217 : (Jvm.Cond.methodLink "RoseProverbsModel" (106 : Nat) ({ cls := "RoseProverbsModel", name := "voiceOf", desc := "(III)I" } : Jvm.MethodName)) ∈ lw_all := lw_g (lw_at lw_m13 205 rfl) rfl
theorem q3218 : (Jvm.Cond.privateMethod ({ cls := "RoseProverbsModel", name := "voiceOf", desc := "(III)I" } : Jvm.MethodName)) ∈ lw_tbl := lw_at lw_m13 206 rfl
theorem q3219 : (Jvm.Cond.instanceMethod ({ cls := "RoseProverbsModel", name := "voiceOf", desc := "(III)I" } : Jvm.MethodName)) ∈ lw_all := lw_g (lw_at lw_m13 207 rfl) rfl
theorem q3220 : (Jvm.Cond.code ({ cls := "RoseProverbsModel", name := "voiceOf", desc := "(III)I" } : Jvm.MethodName) prog_20_method_21_code (8 : Nat) (Option.some Jvm.ClassFile.FieldType.int)) ∈ lw_all := lw_g (lw_at lw_m13 208 rfl) rfl
theorem q3221 : (Jvm.Cond.methodLink "RoseProverbsModel" (95 : Nat) ({ cls := "RoseProverbsModel", name := "isSpeaking", desc := "(III)Z" } : Jvm.MethodName)) ∈ lw_all := lw_g (lw_at lw_m13 209 rfl) rfl
theorem q3222 : (Jvm.Cond.privateMethod ({ cls := "RoseProverbsModel", name := "isSpeaking", desc := "(III)Z" } : Jvm.MethodName)) ∈ lw_tbl := lw_at lw_m13 210 rfl
theorem q3223 : (Jvm.Cond.instanceMethod ({ cls := "RoseProverbsModel", name := "isSpeaking", desc := "(III)Z" } : Jvm.MethodName)) ∈ lw_all := lw_g (lw_at lw_m13 211 rfl) rfl
theorem q3224 : (Jvm.Cond.code ({ cls := "RoseProverbsModel", name := "isSpeaking", desc := "(III)Z" } : Jvm.MethodName) prog_20_method_17_code (4 : Nat) (Option.some Jvm.ClassFile.FieldType.boolean)) ∈ lw_all := lw_g (lw_at lw_m13 212 rfl) rfl
theorem q3225 : (Jvm.Cond.methodLink "RoseProverbsModel" (88 : Nat) ({ cls := "RoseProverbsModel", name := "hasPoint", desc := "(II)Z" } : Jvm.MethodName)) ∈ lw_all := lw_g (lw_at lw_m13 213 rfl) rfl
theorem q3226 : (Jvm.Cond.privateMethod ({ cls := "RoseProverbsModel", name := "hasPoint", desc := "(II)Z" } : Jvm.MethodName)) ∈ lw_tbl := lw_at lw_m13 214 rfl
theorem q3227 : (Jvm.Cond.instanceMethod ({ cls := "RoseProverbsModel", name := "hasPoint", desc := "(II)Z" } : Jvm.MethodName)) ∈ lw_all := lw_g (lw_at lw_m13 215 rfl) rfl
theorem q3228 : (Jvm.Cond.code ({ cls := "RoseProverbsModel", name := "hasPoint", desc := "(II)Z" } : Jvm.MethodName) prog_20_method_15_code (3 : Nat) (Option.some Jvm.ClassFile.FieldType.boolean)) ∈ lw_all := lw_g (lw_at lw_m13 216 rfl) rfl
theorem q3229 : (Jvm.Cond.methodLink "RoseProverbsModel" (80 : Nat) ({ cls := "RoseProverbsModel", name := "isWithin", desc := "(IIII)Z" } : Jvm.MethodName)) ∈ lw_all := lw_g (lw_at lw_m13 217 rfl) rfl
theorem q3230 : (Jvm.Cond.static ({ cls := "RoseProverbsModel", name := "isWithin", desc := "(IIII)Z" } : Jvm.MethodName)) ∈ lw_all := lw_g (lw_at lw_m13 218 rfl) rfl
theorem q3231 : (Jvm.Cond.code ({ cls := "RoseProverbsModel", name := "isWithin", desc := "(IIII)Z" } : Jvm.MethodName) prog_20_method_14_code (4 : Nat) (Option.some Jvm.ClassFile.FieldType.boolean)) ∈ lw_all := lw_g (lw_at lw_m13 219 rfl) rfl
theorem q3232 : (Jvm.Cond.methodLink "RoseProverbsModel" (71 : Nat) ({ cls := "java/lang/Math", name := "floorMod", desc := "(II)I" } : Jvm.MethodName)) ∈ lw_all := lw_g (lw_at lw_m13 220 rfl) rfl
theorem q3235 : (Jvm.Cond.methodLink "RoseProverbsModel" (76 : Nat) ({ cls := "RoseProverbsModel", name := "width", desc := "(III)I" } : Jvm.MethodName)) ∈ lw_all := lw_g (lw_at lw_m13 223 rfl) rfl
theorem q3236 : (Jvm.Cond.static ({ cls := "RoseProverbsModel", name := "width", desc := "(III)I" } : Jvm.MethodName)) ∈ lw_all := lw_g (lw_at lw_m13 224 rfl) rfl
theorem q3237 : (Jvm.Cond.code ({ cls := "RoseProverbsModel", name := "width", desc := "(III)I" } : Jvm.MethodName) prog_20_method_13_code (3 : Nat) (Option.some Jvm.ClassFile.FieldType.int)) ∈ lw_all := lw_g (lw_at lw_m13 225 rfl) rfl
theorem q3238 : (Jvm.Cond.methodLink "RoseProverbsModel" (92 : Nat) ({ cls := "RoseProverbsModel", name := "hasMonth", desc := "(II)Z" } : Jvm.MethodName)) ∈ lw_all := lw_g (lw_at lw_m13 226 rfl) rfl
theorem q3239 : (Jvm.Cond.privateMethod ({ cls := "RoseProverbsModel", name := "hasMonth", desc := "(II)Z" } : Jvm.MethodName)) ∈ lw_tbl := lw_at lw_m13 227 rfl
theorem q3240 : (Jvm.Cond.instanceMethod ({ cls := "RoseProverbsModel", name := "hasMonth", desc := "(II)Z" } : Jvm.MethodName)) ∈ lw_all := lw_g (lw_at lw_m13 228 rfl) rfl
theorem q3241 : (Jvm.Cond.code ({ cls := "RoseProverbsModel", name := "hasMonth", desc := "(II)Z" } : Jvm.MethodName) prog_20_method_16_code (3 : Nat) (Option.some Jvm.ClassFile.FieldType.boolean)) ∈ lw_all := lw_g (lw_at lw_m13 229 rfl) rfl
theorem q3242 : (Jvm.Cond.methodLink "RoseProverbsModel" (103 : Nat) ({ cls := "java/lang/Math", name := "max", desc := "(II)I" } : Jvm.MethodName)) ∈ lw_all := lw_g (lw_at lw_m13 230 rfl) rfl
theorem q3243 : (Jvm.Cond.methodLink "RoseProverbsModel" (119 : Nat) ({ cls := "RoseProverbsModel", name := "meets", desc := "(III)V" } : Jvm.MethodName)) ∈ lw_all := lw_g (lw_at lw_m13 231 rfl) rfl
theorem q3244 : (Jvm.Cond.privateMethod ({ cls := "RoseProverbsModel", name := "meets", desc := "(III)V" } : Jvm.MethodName)) ∈ lw_tbl := lw_at lw_m13 232 rfl
theorem q3245 : (Jvm.Cond.instanceMethod ({ cls := "RoseProverbsModel", name := "meets", desc := "(III)V" } : Jvm.MethodName)) ∈ lw_all := lw_g (lw_at lw_m13 233 rfl) rfl
theorem q3246 : (Jvm.Cond.code ({ cls := "RoseProverbsModel", name := "meets", desc := "(III)V" } : Jvm.MethodName) prog_20_method_25_code (4 : Nat) (Option.none : Option Jvm.ClassFile.FieldType)) ∈ lw_all := lw_g (lw_at lw_m13 234 rfl) rfl
theorem q3247 : (Jvm.Cond.methodLink "RoseProverbsModel" (99 : Nat) ({ cls := "RoseProverbsModel", name := "one", desc := "(Z)I" } : Jvm.MethodName)) ∈ lw_all := lw_g (lw_at lw_m13 235 rfl) rfl
theorem q3248 : (Jvm.Cond.static ({ cls := "RoseProverbsModel", name := "one", desc := "(Z)I" } : Jvm.MethodName)) ∈ lw_all := lw_g (lw_at lw_m13 236 rfl) rfl
theorem q3249 : (Jvm.Cond.code ({ cls := "RoseProverbsModel", name := "one", desc := "(Z)I" } : Jvm.MethodName) prog_20_method_4_code (1 : Nat) (Option.some Jvm.ClassFile.FieldType.int)) ∈ lw_all := lw_g (lw_at lw_m13 237 rfl) rfl
theorem q3250 : (Jvm.Cond.methodLink "RoseProverbsModel" (122 : Nat) ({ cls := "RoseProverbsModel", name := "rises", desc := "(I)V" } : Jvm.MethodName)) ∈ lw_all := lw_g (lw_at lw_m13 238 rfl) rfl
theorem q3251 : (Jvm.Cond.privateMethod ({ cls := "RoseProverbsModel", name := "rises", desc := "(I)V" } : Jvm.MethodName)) ∈ lw_tbl := lw_at lw_m13 239 rfl
theorem q3252 : (Jvm.Cond.instanceMethod ({ cls := "RoseProverbsModel", name := "rises", desc := "(I)V" } : Jvm.MethodName)) ∈ lw_all := lw_g (lw_at lw_m14 0 rfl) rfl
theorem q3253 : (Jvm.Cond.code ({ cls := "RoseProverbsModel", name := "rises", desc := "(I)V" } : Jvm.MethodName) prog_20_method_23_code (3 : Nat) (Option.none : Option Jvm.ClassFile.FieldType)) ∈ lw_all := lw_g (lw_at lw_m14 1 rfl) rfl
theorem q3254 : (Jvm.Cond.methodLink "RoseProverbsModel" (109 : Nat) ({ cls := "java/lang/Math", name := "min", desc := "(II)I" } : Jvm.MethodName)) ∈ lw_all := lw_g (lw_at lw_m14 2 rfl) rfl
theorem q3255 : (Jvm.Cond.methodLink "RoseProverbsModel" (112 : Nat) ({ cls := "RoseProverbsModel", name := "counts", desc := "(II)V" } : Jvm.MethodName)) ∈ lw_all := lw_g (lw_at lw_m14 3 rfl) rfl
theorem q3256 : (Jvm.Cond.privateMethod ({ cls := "RoseProverbsModel", name := "counts", desc := "(II)V" } : Jvm.MethodName)) ∈ lw_tbl := lw_at lw_m14 4 rfl
theorem q3257 : (Jvm.Cond.instanceMethod ({ cls := "RoseProverbsModel", name := "counts", desc := "(II)V" } : Jvm.MethodName)) ∈ lw_all := lw_g (lw_at lw_m14 5 rfl) rfl
theorem q3258 : (Jvm.Cond.code ({ cls := "RoseProverbsModel", name := "counts", desc := "(II)V" } : Jvm.MethodName) prog_20_method_7_code (3 : Nat) (Option.none : Option Jvm.ClassFile.FieldType)) ∈ lw_all := lw_g (lw_at lw_m14 6 rfl) rfl
theorem q3259 : (Jvm.Cond.methodLink "RoseProverbsModel" (126 : Nat) ({ cls := "RoseProverbsModel", name := "falls", desc := "(I)V" } : Jvm.MethodName)) ∈ lw_all := lw_g (lw_at lw_m14 7 rfl) rfl
theorem q3260 : (Jvm.Cond.privateMethod ({ cls := "RoseProverbsModel", name := "falls", desc := "(I)V" } : Jvm.MethodName)) ∈ lw_tbl := lw_at lw_m14 8 rfl
theorem q3261 : (Jvm.Cond.instanceMethod ({ cls := "RoseProverbsModel", name := "falls", desc := "(I)V" } : Jvm.MethodName)) ∈ lw_all := lw_g (lw_at lw_m14 9 rfl) rfl
theorem q3262 : (Jvm.Cond.code ({ cls := "RoseProverbsModel", name := "falls", desc := "(I)V" } : Jvm.MethodName) prog_20_method_24_code (3 : Nat) (Option.none : Option Jvm.ClassFile.FieldType)) ∈ lw_all := lw_g (lw_at lw_m14 10 rfl) rfl
theorem q3263 : (Jvm.Cond.methodLink "RoseProverbsModel" (129 : Nat) ({ cls := "RoseProverbsModel", name := "countsYear", desc := "(II)V" } : Jvm.MethodName)) ∈ lw_all := lw_g (lw_at lw_m14 11 rfl) rfl
theorem q3264 : (Jvm.Cond.privateMethod ({ cls := "RoseProverbsModel", name := "countsYear", desc := "(II)V" } : Jvm.MethodName)) ∈ lw_tbl := lw_at lw_m14 12 rfl
theorem q3265 : (Jvm.Cond.instanceMethod ({ cls := "RoseProverbsModel", name := "countsYear", desc := "(II)V" } : Jvm.MethodName)) ∈ lw_all := lw_g (lw_at lw_m14 13 rfl) rfl
theorem q3266 : (Jvm.Cond.code ({ cls := "RoseProverbsModel", name := "countsYear", desc := "(II)V" } : Jvm.MethodName) prog_20_method_26_code (5 : Nat) (Option.none : Option Jvm.ClassFile.FieldType)) ∈ lw_all := lw_g (lw_at lw_m14 14 rfl) rfl
theorem q3267 : (Jvm.Cond.methodLink "RoseProverbsModel" (285 : Nat) ({ cls := "RoseProverbsModel", name := "mayCome", desc := "()Z" } : Jvm.MethodName)) ∈ lw_all := lw_g (lw_at lw_m14 15 rfl) rfl
theorem q3268 : (Jvm.Cond.privateMethod ({ cls := "RoseProverbsModel", name := "mayCome", desc := "()Z" } : Jvm.MethodName)) ∈ lw_tbl := lw_at lw_m14 16 rfl
theorem q3269 : (Jvm.Cond.instanceMethod ({ cls := "RoseProverbsModel", name := "mayCome", desc := "()Z" } : Jvm.MethodName)) ∈ lw_all := lw_g (lw_at lw_m14 17 rfl) rfl
theorem q3270 : (Jvm.Cond.code ({ cls := "RoseProverbsModel", name := "mayCome", desc := "()Z" } : Jvm.MethodName) prog_20_method_64_code (1 : Nat) (Option.some Jvm.ClassFile.FieldType.boolean)) ∈ lw_all := lw_g (lw_at lw_m14 18 rfl) rfl
theorem q3271 : (Jvm.Cond.methodLink "RoseProverbsModel" (288 : Nat) ({ cls := "RoseProverbsModel", name := "comes", desc := "(IIIIII)I" } : Jvm.MethodName)) ∈ lw_all := lw_g (lw_at lw_m14 19 rfl) rfl
theorem q3272 : (Jvm.Cond.privateMethod ({ cls := "RoseProverbsModel", name := "comes", desc := "(IIIIII)I" } : Jvm.MethodName)) ∈ lw_tbl := lw_at lw_m14 20 rfl
theorem q3273 : (Jvm.Cond.instanceMethod ({ cls := "RoseProverbsModel", name := "comes", desc := "(IIIIII)I" } : Jvm.MethodName)) ∈ lw_all := lw_g (lw_at lw_m14 21 rfl) rfl
theorem q3274 : (Jvm.Cond.code ({ cls := "RoseProverbsModel", name := "comes", desc := "(IIIIII)I" } : Jvm.MethodName) prog_20_method_31_code (7 : Nat) (Option.some Jvm.ClassFile.FieldType.int)) ∈ lw_all := lw_g (lw_at lw_m14 22 rfl) rfl
theorem q3275 : (Jvm.Cond.methodLink "RoseProverbsModel" (291 : Nat) ({ cls := "RoseProverbsModel", name := "forgets", desc := "(I)I" } : Jvm.MethodName)) ∈ lw_all := lw_g (lw_at lw_m14 23 rfl) rfl
theorem q3276 : (Jvm.Cond.privateMethod ({ cls := "RoseProverbsModel", name := "forgets", desc := "(I)I" } : Jvm.MethodName)) ∈ lw_tbl := lw_at lw_m14 24 rfl
theorem q3277 : (Jvm.Cond.instanceMethod ({ cls := "RoseProverbsModel", name := "forgets", desc := "(I)I" } : Jvm.MethodName)) ∈ lw_all := lw_g (lw_at lw_m14 25 rfl) rfl
theorem q3278 : (Jvm.Cond.code ({ cls := "RoseProverbsModel", name := "forgets", desc := "(I)I" } : Jvm.MethodName) prog_20_method_33_code (2 : Nat) (Option.some Jvm.ClassFile.FieldType.int)) ∈ lw_all := lw_g (lw_at lw_m14 26 rfl) rfl
theorem q3279 : (Jvm.Cond.methodLink "RoseProverbsModel" (142 : Nat) ({ cls := "RoseProverbsModel", name := "liveMany", desc := "()I" } : Jvm.MethodName)) ∈ lw_all := lw_g (lw_at lw_m14 27 rfl) rfl
theorem q3280 : (Jvm.Cond.privateMethod ({ cls := "RoseProverbsModel", name := "liveMany", desc := "()I" } : Jvm.MethodName)) ∈ lw_tbl := lw_at lw_m14 28 rfl
theorem q3281 : (Jvm.Cond.instanceMethod ({ cls := "RoseProverbsModel", name := "liveMany", desc := "()I" } : Jvm.MethodName)) ∈ lw_all := lw_g (lw_at lw_m14 29 rfl) rfl
theorem q3282 : (Jvm.Cond.code ({ cls := "RoseProverbsModel", name := "liveMany", desc := "()I" } : Jvm.MethodName) prog_20_method_32_code (3 : Nat) (Option.some Jvm.ClassFile.FieldType.int)) ∈ lw_all := lw_g (lw_at lw_m14 30 rfl) rfl
theorem q3283 : (Jvm.Cond.methodLink "RoseProverbsModel" (294 : Nat) ({ cls := "RoseProverbsModel", name := "weighs", desc := "(II)I" } : Jvm.MethodName)) ∈ lw_all := lw_g (lw_at lw_m14 31 rfl) rfl
theorem q3284 : (Jvm.Cond.privateMethod ({ cls := "RoseProverbsModel", name := "weighs", desc := "(II)I" } : Jvm.MethodName)) ∈ lw_tbl := lw_at lw_m14 32 rfl
theorem q3285 : (Jvm.Cond.instanceMethod ({ cls := "RoseProverbsModel", name := "weighs", desc := "(II)I" } : Jvm.MethodName)) ∈ lw_all := lw_g (lw_at lw_m14 33 rfl) rfl
theorem q3286 : (Jvm.Cond.code ({ cls := "RoseProverbsModel", name := "weighs", desc := "(II)I" } : Jvm.MethodName) prog_20_method_34_code (4 : Nat) (Option.some Jvm.ClassFile.FieldType.int)) ∈ lw_all := lw_g (lw_at lw_m14 34 rfl) rfl
theorem q3287 : (Jvm.Cond.methodLink "RoseProverbsModel" (297 : Nat) ({ cls := "RoseProverbsModel", name := "sets", desc := "(II)I" } : Jvm.MethodName)) ∈ lw_all := lw_g (lw_at lw_m14 35 rfl) rfl
theorem q3288 : (Jvm.Cond.privateMethod ({ cls := "RoseProverbsModel", name := "sets", desc := "(II)I" } : Jvm.MethodName)) ∈ lw_tbl := lw_at lw_m14 36 rfl
theorem q3289 : (Jvm.Cond.instanceMethod ({ cls := "RoseProverbsModel", name := "sets", desc := "(II)I" } : Jvm.MethodName)) ∈ lw_all := lw_g (lw_at lw_m14 37 rfl) rfl
theorem q3290 : (Jvm.Cond.code ({ cls := "RoseProverbsModel", name := "sets", desc := "(II)I" } : Jvm.MethodName) prog_20_method_35_code (4 : Nat) (Option.some Jvm.ClassFile.FieldType.int)) ∈ lw_all := lw_g (lw_at lw_m14 38 rfl) rfl
theorem q3292 : (Jvm.Cond.instanceMethod ({ cls := "RoseProverbsModel", name := "errorCode", desc := "()I" } : Jvm.MethodName)) ∈ lw_all := lw_g (lw_at lw_m14 40 rfl) rfl
theorem q3293 : (Jvm.Cond.selects "RoseProverbsModel" ({ cls := "RoseProverbsModel", name := "errorCode", desc := "()I" } : Jvm.MethodName) ({ cls := "RoseProverbsModel", name := "errorCode", desc := "()I" } : Jvm.MethodName)) ∈ lw_all := lw_g (lw_at lw_m14 41 rfl) rfl
theorem q3294 : (Jvm.Cond.code ({ cls := "RoseProverbsModel", name := "errorCode", desc := "()I" } : Jvm.MethodName) prog_20_method_67_code (1 : Nat) (Option.some Jvm.ClassFile.FieldType.int)) ∈ lw_all := lw_g (lw_at lw_m14 42 rfl) rfl
theorem q3296 : (Jvm.Cond.instanceMethod ({ cls := "RoseProverbsModel", name := "errorOffset", desc := "()I" } : Jvm.MethodName)) ∈ lw_all := lw_g (lw_at lw_m14 44 rfl) rfl
theorem q3297 : (Jvm.Cond.selects "RoseProverbsModel" ({ cls := "RoseProverbsModel", name := "errorOffset", desc := "()I" } : Jvm.MethodName) ({ cls := "RoseProverbsModel", name := "errorOffset", desc := "()I" } : Jvm.MethodName)) ∈ lw_all := lw_g (lw_at lw_m14 45 rfl) rfl
theorem q3298 : (Jvm.Cond.code ({ cls := "RoseProverbsModel", name := "errorOffset", desc := "()I" } : Jvm.MethodName) prog_20_method_68_code (1 : Nat) (Option.some Jvm.ClassFile.FieldType.int)) ∈ lw_all := lw_g (lw_at lw_m14 46 rfl) rfl
theorem q3300 : (Jvm.Cond.instanceMethod ({ cls := "RoseProverbsModel", name := "count", desc := "(I)I" } : Jvm.MethodName)) ∈ lw_all := lw_g (lw_at lw_m14 48 rfl) rfl
theorem q3301 : (Jvm.Cond.selects "RoseProverbsModel" ({ cls := "RoseProverbsModel", name := "count", desc := "(I)I" } : Jvm.MethodName) ({ cls := "RoseProverbsModel", name := "count", desc := "(I)I" } : Jvm.MethodName)) ∈ lw_all := lw_g (lw_at lw_m14 49 rfl) rfl
theorem q3302 : (Jvm.Cond.code ({ cls := "RoseProverbsModel", name := "count", desc := "(I)I" } : Jvm.MethodName) prog_20_method_76_code (2 : Nat) (Option.some Jvm.ClassFile.FieldType.int)) ∈ lw_all := lw_g (lw_at lw_m14 50 rfl) rfl
theorem q3303 : (Jvm.Cond.methodLink "RoseProverbsModel" (321 : Nat) ({ cls := "RoseProverbsModel", name := "fails", desc := "(ZI)Z" } : Jvm.MethodName)) ∈ lw_all := lw_g (lw_at lw_m14 51 rfl) rfl
theorem q3304 : (Jvm.Cond.privateMethod ({ cls := "RoseProverbsModel", name := "fails", desc := "(ZI)Z" } : Jvm.MethodName)) ∈ lw_tbl := lw_at lw_m14 52 rfl
theorem q3305 : (Jvm.Cond.instanceMethod ({ cls := "RoseProverbsModel", name := "fails", desc := "(ZI)Z" } : Jvm.MethodName)) ∈ lw_all := lw_g (lw_at lw_m14 53 rfl) rfl
theorem q3306 : (Jvm.Cond.code ({ cls := "RoseProverbsModel", name := "fails", desc := "(ZI)Z" } : Jvm.MethodName) prog_20_method_5_code (3 : Nat) (Option.some Jvm.ClassFile.FieldType.boolean)) ∈ lw_all := lw_g (lw_at lw_m14 54 rfl) rfl
theorem q3307 : (Jvm.Cond.methodLink "RoseProverbsModel" (325 : Nat) ({ cls := "RoseProverbsModel", name := "allWeights", desc := "()I" } : Jvm.MethodName)) ∈ lw_all := lw_g (lw_at lw_m14 55 rfl) rfl
theorem q3308 : (Jvm.Cond.privateMethod ({ cls := "RoseProverbsModel", name := "allWeights", desc := "()I" } : Jvm.MethodName)) ∈ lw_tbl := lw_at lw_m14 56 rfl
theorem q3309 : (Jvm.Cond.instanceMethod ({ cls := "RoseProverbsModel", name := "allWeights", desc := "()I" } : Jvm.MethodName)) ∈ lw_all := lw_g (lw_at lw_m14 57 rfl) rfl
theorem q3310 : (Jvm.Cond.code ({ cls := "RoseProverbsModel", name := "allWeights", desc := "()I" } : Jvm.MethodName) prog_20_method_69_code (3 : Nat) (Option.some Jvm.ClassFile.FieldType.int)) ∈ lw_all := lw_g (lw_at lw_m14 58 rfl) rfl
theorem q3311 : (Jvm.Cond.methodLink "RoseProverbsModel" (328 : Nat) ({ cls := "RoseProverbsModel", name := "allClashes", desc := "()I" } : Jvm.MethodName)) ∈ lw_all := lw_g (lw_at lw_m14 59 rfl) rfl
theorem q3312 : (Jvm.Cond.privateMethod ({ cls := "RoseProverbsModel", name := "allClashes", desc := "()I" } : Jvm.MethodName)) ∈ lw_tbl := lw_at lw_m14 60 rfl
theorem q3313 : (Jvm.Cond.instanceMethod ({ cls := "RoseProverbsModel", name := "allClashes", desc := "()I" } : Jvm.MethodName)) ∈ lw_all := lw_g (lw_at lw_m14 61 rfl) rfl
theorem q3314 : (Jvm.Cond.code ({ cls := "RoseProverbsModel", name := "allClashes", desc := "()I" } : Jvm.MethodName) prog_20_method_73_code (3 : Nat) (Option.some Jvm.ClassFile.FieldType.int)) ∈ lw_all := lw_g (lw_at lw_m14 62 rfl) rfl
theorem q3315 : (Jvm.Cond.methodLink "RoseProverbsModel" (315 : Nat) ({ cls := "RoseProverbsModel", name := "clashesOf", desc := "(I)I" } : Jvm.MethodName)) ∈ lw_all := lw_g (lw_at lw_m14 63 rfl) rfl
theorem q3316 : (Jvm.Cond.privateMethod ({ cls := "RoseProverbsModel", name := "clashesOf", desc := "(I)I" } : Jvm.MethodName)) ∈ lw_tbl := lw_at lw_m14 64 rfl
theorem q3317 : (Jvm.Cond.instanceMethod ({ cls := "RoseProverbsModel", name := "clashesOf", desc := "(I)I" } : Jvm.MethodName)) ∈ lw_all := lw_g (lw_at lw_m14 65 rfl) rfl
theorem q3318 : (Jvm.Cond.code ({ cls := "RoseProverbsModel", name := "clashesOf", desc := "(I)I" } : Jvm.MethodName) prog_20_method_72_code (4 : Nat) (Option.some Jvm.ClassFile.FieldType.int)) ∈ lw_all := lw_g (lw_at lw_m14 66 rfl) rfl
theorem q3319 : (Jvm.Cond.methodLink "RoseProverbsModel" (312 : Nat) ({ cls := "RoseProverbsModel", name := "areClashing", desc := "(II)Z" } : Jvm.MethodName)) ∈ lw_all := lw_g (lw_at lw_m14 67 rfl) rfl
theorem q3320 : (Jvm.Cond.privateMethod ({ cls := "RoseProverbsModel", name := "areClashing", desc := "(II)Z" } : Jvm.MethodName)) ∈ lw_tbl := lw_at lw_m14 68 rfl
theorem q3321 : (Jvm.Cond.instanceMethod ({ cls := "RoseProverbsModel", name := "areClashing", desc := "(II)Z" } : Jvm.MethodName)) ∈ lw_all := lw_g (lw_at lw_m14 69 rfl) rfl
theorem q3322 : (Jvm.Cond.code ({ cls := "RoseProverbsModel", name := "areClashing", desc := "(II)Z" } : Jvm.MethodName) prog_20_method_71_code (3 : Nat) (Option.some Jvm.ClassFile.FieldType.boolean)) ∈ lw_all := lw_g (lw_at lw_m14 70 rfl) rfl
theorem q3323 : (Jvm.Cond.methodLink "RoseProverbsModel" (309 : Nat) ({ cls := "RoseProverbsModel", name := "haveCommon", desc := "(IIIII)Z" } : Jvm.MethodName)) ∈ lw_all := lw_g (lw_at lw_m14 71 rfl) rfl
theorem q3324 : (Jvm.Cond.static ({ cls := "RoseProverbsModel", name := "haveCommon", desc := "(IIIII)Z" } : Jvm.MethodName)) ∈ lw_all := lw_g (lw_at lw_m14 72 rfl) rfl
theorem q3325 : (Jvm.Cond.code ({ cls := "RoseProverbsModel", name := "haveCommon", desc := "(IIIII)Z" } : Jvm.MethodName) prog_20_method_70_code (5 : Nat) (Option.some Jvm.ClassFile.FieldType.boolean)) ∈ lw_all := lw_g (lw_at lw_m14 73 rfl) rfl
theorem q3326 : (Jvm.Cond.methodLink "RoseProverbsModel" (331 : Nat) ({ cls := "RoseProverbsModel", name := "silent", desc := "()I" } : Jvm.MethodName)) ∈ lw_all := lw_g (lw_at lw_m14 74 rfl) rfl
theorem q3327 : (Jvm.Cond.privateMethod ({ cls := "RoseProverbsModel", name := "silent", desc := "()I" } : Jvm.MethodName)) ∈ lw_tbl := lw_at lw_m14 75 rfl
theorem q3328 : (Jvm.Cond.instanceMethod ({ cls := "RoseProverbsModel", name := "silent", desc := "()I" } : Jvm.MethodName)) ∈ lw_all := lw_g (lw_at lw_m14 76 rfl) rfl
theorem q3329 : (Jvm.Cond.code ({ cls := "RoseProverbsModel", name := "silent", desc := "()I" } : Jvm.MethodName) prog_20_method_75_code (4 : Nat) (Option.some Jvm.ClassFile.FieldType.int)) ∈ lw_all := lw_g (lw_at lw_m14 77 rfl) rfl
theorem q3330 : (Jvm.Cond.methodLink "RoseProverbsModel" (318 : Nat) ({ cls := "RoseProverbsModel", name := "speakersAt", desc := "(II)I" } : Jvm.MethodName)) ∈ lw_all := lw_g (lw_at lw_m14 78 rfl) rfl
theorem q3331 : (Jvm.Cond.privateMethod ({ cls := "RoseProverbsModel", name := "speakersAt", desc := "(II)I" } : Jvm.MethodName)) ∈ lw_tbl := lw_at lw_m14 79 rfl
theorem q3332 : (Jvm.Cond.instanceMethod ({ cls := "RoseProverbsModel", name := "speakersAt", desc := "(II)I" } : Jvm.MethodName)) ∈ lw_all := lw_g (lw_at lw_m14 80 rfl) rfl
theorem q3333 : (Jvm.Cond.code ({ cls := "RoseProverbsModel", name := "speakersAt", desc := "(II)I" } : Jvm.MethodName) prog_20_method_74_code (5 : Nat) (Option.some Jvm.ClassFile.FieldType.int)) ∈ lw_all := lw_g (lw_at lw_m14 81 rfl) rfl
theorem q3335 : (Jvm.Cond.instanceMethod ({ cls := "RoseProverbsModel", name := "account", desc := "(I)I" } : Jvm.MethodName)) ∈ lw_all := lw_g (lw_at lw_m14 83 rfl) rfl
theorem q3336 : (Jvm.Cond.selects "RoseProverbsModel" ({ cls := "RoseProverbsModel", name := "account", desc := "(I)I" } : Jvm.MethodName) ({ cls := "RoseProverbsModel", name := "account", desc := "(I)I" } : Jvm.MethodName)) ∈ lw_all := lw_g (lw_at lw_m14 84 rfl) rfl
theorem q3337 : (Jvm.Cond.code ({ cls := "RoseProverbsModel", name := "account", desc := "(I)I" } : Jvm.MethodName) prog_20_method_77_code (2 : Nat) (Option.some Jvm.ClassFile.FieldType.int)) ∈ lw_all := lw_g (lw_at lw_m14 85 rfl) rfl
theorem q3339 : (Jvm.Cond.instanceMethod ({ cls := "RoseProverbsModel", name := "proverb", desc := "(II)I" } : Jvm.MethodName)) ∈ lw_all := lw_g (lw_at lw_m14 87 rfl) rfl
theorem q3340 : (Jvm.Cond.selects "RoseProverbsModel" ({ cls := "RoseProverbsModel", name := "proverb", desc := "(II)I" } : Jvm.MethodName) ({ cls := "RoseProverbsModel", name := "proverb", desc := "(II)I" } : Jvm.MethodName)) ∈ lw_all := lw_g (lw_at lw_m14 88 rfl) rfl
theorem q3341 : (Jvm.Cond.code ({ cls := "RoseProverbsModel", name := "proverb", desc := "(II)I" } : Jvm.MethodName) prog_20_method_82_code (3 : Nat) (Option.some Jvm.ClassFile.FieldType.int)) ∈ lw_all := lw_g (lw_at lw_m14 89 rfl) rfl
theorem q3342 : (Jvm.Cond.methodLink "RoseProverbsModel" (337 : Nat) ({ cls := "RoseProverbsModel", name := "noProverb", desc := "(I)Z" } : Jvm.MethodName)) ∈ lw_all := lw_g (lw_at lw_m14 90 rfl) rfl
theorem q3343 : (Jvm.Cond.privateMethod ({ cls := "RoseProverbsModel", name := "noProverb", desc := "(I)Z" } : Jvm.MethodName)) ∈ lw_tbl := lw_at lw_m14 91 rfl
theorem q3344 : (Jvm.Cond.instanceMethod ({ cls := "RoseProverbsModel", name := "noProverb", desc := "(I)Z" } : Jvm.MethodName)) ∈ lw_all := lw_g (lw_at lw_m14 92 rfl) rfl
theorem q3345 : (Jvm.Cond.code ({ cls := "RoseProverbsModel", name := "noProverb", desc := "(I)Z" } : Jvm.MethodName) prog_20_method_78_code (2 : Nat) (Option.some Jvm.ClassFile.FieldType.boolean)) ∈ lw_all := lw_g (lw_at lw_m14 93 rfl) rfl
theorem q3347 : (Jvm.Cond.instanceMethod ({ cls := "RoseProverbsModel", name := "speaks", desc := "(III)Z" } : Jvm.MethodName)) ∈ lw_all := lw_g (lw_at lw_m14 95 rfl) rfl
theorem q3348 : (Jvm.Cond.selects "RoseProverbsModel" ({ cls := "RoseProverbsModel", name := "speaks", desc := "(III)Z" } : Jvm.MethodName) ({ cls := "RoseProverbsModel", name := "speaks", desc := "(III)Z" } : Jvm.MethodName)) ∈ lw_all := lw_g (lw_at lw_m14 96 rfl) rfl
theorem q3349 : (Jvm.Cond.code ({ cls := "RoseProverbsModel", name := "speaks", desc := "(III)Z" } : Jvm.MethodName) prog_20_method_83_code (4 : Nat) (Option.some Jvm.ClassFile.FieldType.boolean)) ∈ lw_all := lw_g (lw_at lw_m14 97 rfl) rfl
theorem q3350 : (Jvm.Cond.methodLink "RoseProverbsModel" (340 : Nat) ({ cls := "RoseProverbsModel", name := "noPlace", desc := "(II)Z" } : Jvm.MethodName)) ∈ lw_all := lw_g (lw_at lw_m14 98 rfl) rfl
theorem q3351 : (Jvm.Cond.privateMethod ({ cls := "RoseProverbsModel", name := "noPlace", desc := "(II)Z" } : Jvm.MethodName)) ∈ lw_tbl := lw_at lw_m14 99 rfl
theorem q3352 : (Jvm.Cond.instanceMethod ({ cls := "RoseProverbsModel", name := "noPlace", desc := "(II)Z" } : Jvm.MethodName)) ∈ lw_all := lw_g (lw_at lw_m14 100 rfl) rfl
theorem q3353 : (Jvm.Cond.code ({ cls := "RoseProverbsModel", name := "noPlace", desc := "(II)Z" } : Jvm.MethodName) prog_20_method_80_code (3 : Nat) (Option.some Jvm.ClassFile.FieldType.boolean)) ∈ lw_all := lw_g (lw_at lw_m14 101 rfl) rfl
theorem q3354 : (Jvm.Cond.methodLink "RoseProverbsModel" (334 : Nat) ({ cls := "RoseProverbsModel", name := "noPoint", desc := "(I)Z" } : Jvm.MethodName)) ∈ lw_all := lw_g (lw_at lw_m14 102 rfl) rfl
theorem q3355 : (Jvm.Cond.privateMethod ({ cls := "RoseProverbsModel", name := "noPoint", desc := "(I)Z" } : Jvm.MethodName)) ∈ lw_tbl := lw_at lw_m14 103 rfl
theorem q3356 : (Jvm.Cond.instanceMethod ({ cls := "RoseProverbsModel", name := "noPoint", desc := "(I)Z" } : Jvm.MethodName)) ∈ lw_all := lw_g (lw_at lw_m14 104 rfl) rfl
theorem q3357 : (Jvm.Cond.code ({ cls := "RoseProverbsModel", name := "noPoint", desc := "(I)Z" } : Jvm.MethodName) prog_20_method_79_code (2 : Nat) (Option.some Jvm.ClassFile.FieldType.boolean)) ∈ lw_all := lw_g (lw_at lw_m14 105 rfl) rfl
theorem q3359 : (Jvm.Cond.instanceMethod ({ cls := "RoseProverbsModel", name := "speakers", desc := "(II)I" } : Jvm.MethodName)) ∈ lw_all := lw_g (lw_at lw_m14 107 rfl) rfl
theorem q3360 : (Jvm.Cond.selects "RoseProverbsModel" ({ cls := "RoseProverbsModel", name := "speakers", desc := "(II)I" } : Jvm.MethodName) ({ cls := "RoseProverbsModel", name := "speakers", desc := "(II)I" } : Jvm.MethodName)) ∈ lw_all := lw_g (lw_at lw_m14 108 rfl) rfl
theorem q3361 : (Jvm.Cond.code ({ cls := "RoseProverbsModel", name := "speakers", desc := "(II)I" } : Jvm.MethodName) prog_20_method_84_code (3 : Nat) (Option.some Jvm.ClassFile.FieldType.int)) ∈ lw_all := lw_g (lw_at lw_m14 109 rfl) rfl
theorem q3363 : (Jvm.Cond.instanceMethod ({ cls := "RoseProverbsModel", name := "speaker", desc := "(III)I" } : Jvm.MethodName)) ∈ lw_all := lw_g (lw_at lw_m14 111 rfl) rfl
theorem q3364 : (Jvm.Cond.selects "RoseProverbsModel" ({ cls := "RoseProverbsModel", name := "speaker", desc := "(III)I" } : Jvm.MethodName) ({ cls := "RoseProverbsModel", name := "speaker", desc := "(III)I" } : Jvm.MethodName)) ∈ lw_all := lw_g (lw_at lw_m14 112 rfl) rfl
theorem q3365 : (Jvm.Cond.code ({ cls := "RoseProverbsModel", name := "speaker", desc := "(III)I" } : Jvm.MethodName) prog_20_method_85_code (6 : Nat) (Option.some Jvm.ClassFile.FieldType.int)) ∈ lw_all := lw_g (lw_at lw_m14 113 rfl) rfl
theorem q3367 : (Jvm.Cond.instanceMethod ({ cls := "RoseProverbsModel", name := "voice", desc := "(III)I" } : Jvm.MethodName)) ∈ lw_all := lw_g (lw_at lw_m14 115 rfl) rfl
theorem q3368 : (Jvm.Cond.selects "RoseProverbsModel" ({ cls := "RoseProverbsModel", name := "voice", desc := "(III)I" } : Jvm.MethodName) ({ cls := "RoseProverbsModel", name := "voice", desc := "(III)I" } : Jvm.MethodName)) ∈ lw_all := lw_g (lw_at lw_m14 116 rfl) rfl
theorem q3369 : (Jvm.Cond.code ({ cls := "RoseProverbsModel", name := "voice", desc := "(III)I" } : Jvm.MethodName) prog_20_method_86_code (4 : Nat) (Option.some Jvm.ClassFile.FieldType.int)) ∈ lw_all := lw_g (lw_at lw_m14 117 rfl) rfl
theorem q3370 : (Jvm.Cond.methodLink "RoseProverbsModel" (343 : Nat) ({ cls := "RoseProverbsModel", name := "noWeather", desc := "(I)Z" } : Jvm.MethodName)) ∈ lw_all := lw_g (lw_at lw_m14 118 rfl) rfl
theorem q3371 : (Jvm.Cond.privateMethod ({ cls := "RoseProverbsModel", name := "noWeather", desc := "(I)Z" } : Jvm.MethodName)) ∈ lw_tbl := lw_at lw_m14 119 rfl
theorem q3372 : (Jvm.Cond.instanceMethod ({ cls := "RoseProverbsModel", name := "noWeather", desc := "(I)Z" } : Jvm.MethodName)) ∈ lw_all := lw_g (lw_at lw_m14 120 rfl) rfl
theorem q3373 : (Jvm.Cond.code ({ cls := "RoseProverbsModel", name := "noWeather", desc := "(I)Z" } : Jvm.MethodName) prog_20_method_81_code (2 : Nat) (Option.some Jvm.ClassFile.FieldType.boolean)) ∈ lw_all := lw_g (lw_at lw_m14 121 rfl) rfl
theorem q3375 : (Jvm.Cond.instanceMethod ({ cls := "RoseProverbsModel", name := "told", desc := "(II)I" } : Jvm.MethodName)) ∈ lw_all := lw_g (lw_at lw_m14 123 rfl) rfl
theorem q3376 : (Jvm.Cond.selects "RoseProverbsModel" ({ cls := "RoseProverbsModel", name := "told", desc := "(II)I" } : Jvm.MethodName) ({ cls := "RoseProverbsModel", name := "told", desc := "(II)I" } : Jvm.MethodName)) ∈ lw_all := lw_g (lw_at lw_m14 124 rfl) rfl
theorem q3377 : (Jvm.Cond.code ({ cls := "RoseProverbsModel", name := "told", desc := "(II)I" } : Jvm.MethodName) prog_20_method_87_code (3 : Nat) (Option.some Jvm.ClassFile.FieldType.int)) ∈ lw_all := lw_g (lw_at lw_m14 125 rfl) rfl
theorem q3379 : (Jvm.Cond.instanceMethod ({ cls := "RoseProverbsModel", name := "lead", desc := "(II)I" } : Jvm.MethodName)) ∈ lw_all := lw_g (lw_at lw_m14 127 rfl) rfl
theorem q3380 : (Jvm.Cond.selects "RoseProverbsModel" ({ cls := "RoseProverbsModel", name := "lead", desc := "(II)I" } : Jvm.MethodName) ({ cls := "RoseProverbsModel", name := "lead", desc := "(II)I" } : Jvm.MethodName)) ∈ lw_all := lw_g (lw_at lw_m14 128 rfl) rfl
theorem q3381 : (Jvm.Cond.code ({ cls := "RoseProverbsModel", name := "lead", desc := "(II)I" } : Jvm.MethodName) prog_20_method_88_code (6 : Nat) (Option.some Jvm.ClassFile.FieldType.int)) ∈ lw_all := lw_g (lw_at lw_m14 129 rfl) rfl
theorem q3383 : (Jvm.Cond.instanceMethod ({ cls := "RoseProverbsModel", name := "why", desc := "(IIII)I" } : Jvm.MethodName)) ∈ lw_all := lw_g (lw_at lw_m14 131 rfl) rfl
theorem q3384 : (Jvm.Cond.selects "RoseProverbsModel" ({ cls := "RoseProverbsModel", name := "why", desc := "(IIII)I" } : Jvm.MethodName) ({ cls := "RoseProverbsModel", name := "why", desc := "(IIII)I" } : Jvm.MethodName)) ∈ lw_all := lw_g (lw_at lw_m14 132 rfl) rfl
theorem q3385 : (Jvm.Cond.code ({ cls := "RoseProverbsModel", name := "why", desc := "(IIII)I" } : Jvm.MethodName) prog_20_method_91_code (6 : Nat) (Option.some Jvm.ClassFile.FieldType.int)) ∈ lw_all := lw_g (lw_at lw_m14 133 rfl) rfl
theorem q3386 : (Jvm.Cond.methodLink "RoseProverbsModel" (349 : Nat) ({ cls := "RoseProverbsModel", name := "reasonOf", desc := "(III)I" } : Jvm.MethodName)) ∈ lw_all := lw_g (lw_at lw_m14 134 rfl) rfl
theorem q3387 : (Jvm.Cond.privateMethod ({ cls := "RoseProverbsModel", name := "reasonOf", desc := "(III)I" } : Jvm.MethodName)) ∈ lw_tbl := lw_at lw_m14 135 rfl
theorem q3388 : (Jvm.Cond.instanceMethod ({ cls := "RoseProverbsModel", name := "reasonOf", desc := "(III)I" } : Jvm.MethodName)) ∈ lw_all := lw_g (lw_at lw_m14 136 rfl) rfl
theorem q3389 : (Jvm.Cond.code ({ cls := "RoseProverbsModel", name := "reasonOf", desc := "(III)I" } : Jvm.MethodName) prog_20_method_89_code (6 : Nat) (Option.some Jvm.ClassFile.FieldType.int)) ∈ lw_all := lw_g (lw_at lw_m14 137 rfl) rfl
theorem q3390 : (Jvm.Cond.methodLink "RoseProverbsModel" (352 : Nat) ({ cls := "RoseProverbsModel", name := "deeperOf", desc := "(IIII)I" } : Jvm.MethodName)) ∈ lw_all := lw_g (lw_at lw_m14 138 rfl) rfl
theorem q3391 : (Jvm.Cond.privateMethod ({ cls := "RoseProverbsModel", name := "deeperOf", desc := "(IIII)I" } : Jvm.MethodName)) ∈ lw_tbl := lw_at lw_m14 139 rfl
theorem q3392 : (Jvm.Cond.instanceMethod ({ cls := "RoseProverbsModel", name := "deeperOf", desc := "(IIII)I" } : Jvm.MethodName)) ∈ lw_all := lw_g (lw_at lw_m14 140 rfl) rfl
theorem q3393 : (Jvm.Cond.code ({ cls := "RoseProverbsModel", name := "deeperOf", desc := "(IIII)I" } : Jvm.MethodName) prog_20_method_90_code (5 : Nat) (Option.some Jvm.ClassFile.FieldType.int)) ∈ lw_all := lw_g (lw_at lw_m14 141 rfl) rfl
theorem q3394 : (Jvm.Cond.methodLink "RoseProverbsModel" (346 : Nat) ({ cls := "RoseProverbsModel", name := "tellers", desc := "(III)I" } : Jvm.MethodName)) ∈ lw_all := lw_g (lw_at lw_m14 142 rfl) rfl
theorem q3395 : (Jvm.Cond.privateMethod ({ cls := "RoseProverbsModel", name := "tellers", desc := "(III)I" } : Jvm.MethodName)) ∈ lw_tbl := lw_at lw_m14 143 rfl
theorem q3396 : (Jvm.Cond.instanceMethod ({ cls := "RoseProverbsModel", name := "tellers", desc := "(III)I" } : Jvm.MethodName)) ∈ lw_all := lw_g (lw_at lw_m14 144 rfl) rfl
theorem q3397 : (Jvm.Cond.code ({ cls := "RoseProverbsModel", name := "tellers", desc := "(III)I" } : Jvm.MethodName) prog_20_method_20_code (6 : Nat) (Option.some Jvm.ClassFile.FieldType.int)) ∈ lw_all := lw_g (lw_at lw_m14 145 rfl) rfl
theorem q3399 : (Jvm.Cond.instanceMethod ({ cls := "RoseProverbsModel", name := "clash", desc := "(II)Z" } : Jvm.MethodName)) ∈ lw_all := lw_g (lw_at lw_m14 147 rfl) rfl
theorem q3400 : (Jvm.Cond.selects "RoseProverbsModel" ({ cls := "RoseProverbsModel", name := "clash", desc := "(II)Z" } : Jvm.MethodName) ({ cls := "RoseProverbsModel", name := "clash", desc := "(II)Z" } : Jvm.MethodName)) ∈ lw_all := lw_g (lw_at lw_m14 148 rfl) rfl
theorem q3401 : (Jvm.Cond.code ({ cls := "RoseProverbsModel", name := "clash", desc := "(II)Z" } : Jvm.MethodName) prog_20_method_92_code (3 : Nat) (Option.some Jvm.ClassFile.FieldType.boolean)) ∈ lw_all := lw_g (lw_at lw_m14 149 rfl) rfl
theorem q3403 : (Jvm.Cond.instanceMethod ({ cls := "RoseProverbsModel", name := "met", desc := "(II)I" } : Jvm.MethodName)) ∈ lw_all := lw_g (lw_at lw_m14 151 rfl) rfl
theorem q3404 : (Jvm.Cond.selects "RoseProverbsModel" ({ cls := "RoseProverbsModel", name := "met", desc := "(II)I" } : Jvm.MethodName) ({ cls := "RoseProverbsModel", name := "met", desc := "(II)I" } : Jvm.MethodName)) ∈ lw_all := lw_g (lw_at lw_m14 152 rfl) rfl
theorem q3405 : (Jvm.Cond.code ({ cls := "RoseProverbsModel", name := "met", desc := "(II)I" } : Jvm.MethodName) prog_20_method_95_code (3 : Nat) (Option.some Jvm.ClassFile.FieldType.int)) ∈ lw_all := lw_g (lw_at lw_m14 153 rfl) rfl
theorem q3406 : (Jvm.Cond.methodLink "RoseProverbsModel" (356 : Nat) ({ cls := "RoseProverbsModel", name := "metOf", desc := "(II)I" } : Jvm.MethodName)) ∈ lw_all := lw_g (lw_at lw_m14 154 rfl) rfl
theorem q3407 : (Jvm.Cond.privateMethod ({ cls := "RoseProverbsModel", name := "metOf", desc := "(II)I" } : Jvm.MethodName)) ∈ lw_tbl := lw_at lw_m14 155 rfl
theorem q3408 : (Jvm.Cond.instanceMethod ({ cls := "RoseProverbsModel", name := "metOf", desc := "(II)I" } : Jvm.MethodName)) ∈ lw_all := lw_g (lw_at lw_m14 156 rfl) rfl
theorem q3409 : (Jvm.Cond.code ({ cls := "RoseProverbsModel", name := "metOf", desc := "(II)I" } : Jvm.MethodName) prog_20_method_93_code (3 : Nat) (Option.some Jvm.ClassFile.FieldType.int)) ∈ lw_all := lw_g (lw_at lw_m14 157 rfl) rfl
theorem q3411 : (Jvm.Cond.instanceMethod ({ cls := "RoseProverbsModel", name := "beat", desc := "(II)I" } : Jvm.MethodName)) ∈ lw_all := lw_g (lw_at lw_m14 159 rfl) rfl
theorem q3412 : (Jvm.Cond.selects "RoseProverbsModel" ({ cls := "RoseProverbsModel", name := "beat", desc := "(II)I" } : Jvm.MethodName) ({ cls := "RoseProverbsModel", name := "beat", desc := "(II)I" } : Jvm.MethodName)) ∈ lw_all := lw_g (lw_at lw_m14 160 rfl) rfl
theorem q3413 : (Jvm.Cond.code ({ cls := "RoseProverbsModel", name := "beat", desc := "(II)I" } : Jvm.MethodName) prog_20_method_96_code (3 : Nat) (Option.some Jvm.ClassFile.FieldType.int)) ∈ lw_all := lw_g (lw_at lw_m14 161 rfl) rfl
theorem q3414 : (Jvm.Cond.methodLink "RoseProverbsModel" (359 : Nat) ({ cls := "RoseProverbsModel", name := "beatOf", desc := "(II)I" } : Jvm.MethodName)) ∈ lw_all := lw_g (lw_at lw_m14 162 rfl) rfl
theorem q3415 : (Jvm.Cond.privateMethod ({ cls := "RoseProverbsModel", name := "beatOf", desc := "(II)I" } : Jvm.MethodName)) ∈ lw_tbl := lw_at lw_m14 163 rfl
theorem q3416 : (Jvm.Cond.instanceMethod ({ cls := "RoseProverbsModel", name := "beatOf", desc := "(II)I" } : Jvm.MethodName)) ∈ lw_all := lw_g (lw_at lw_m14 164 rfl) rfl
theorem q3417 : (Jvm.Cond.code ({ cls := "RoseProverbsModel", name := "beatOf", desc := "(II)I" } : Jvm.MethodName) prog_20_method_94_code (3 : Nat) (Option.some Jvm.ClassFile.FieldType.int)) ∈ lw_all := lw_g (lw_at lw_m14 165 rfl) rfl
theorem q3419 : (Jvm.Cond.instanceMethod ({ cls := "RoseProverbsModel", name := "rival", desc := "(I)I" } : Jvm.MethodName)) ∈ lw_all := lw_g (lw_at lw_m14 167 rfl) rfl
theorem q3420 : (Jvm.Cond.selects "RoseProverbsModel" ({ cls := "RoseProverbsModel", name := "rival", desc := "(I)I" } : Jvm.MethodName) ({ cls := "RoseProverbsModel", name := "rival", desc := "(I)I" } : Jvm.MethodName)) ∈ lw_all := lw_g (lw_at lw_m14 168 rfl) rfl
theorem q3421 : (Jvm.Cond.code ({ cls := "RoseProverbsModel", name := "rival", desc := "(I)I" } : Jvm.MethodName) prog_20_method_97_code (5 : Nat) (Option.some Jvm.ClassFile.FieldType.int)) ∈ lw_all := lw_g (lw_at lw_m14 169 rfl) rfl
theorem q3423 : (Jvm.Cond.instanceMethod ({ cls := "RoseProverbsModel", name := "byWeight", desc := "(I)I" } : Jvm.MethodName)) ∈ lw_all := lw_g (lw_at lw_m14 171 rfl) rfl
theorem q3424 : (Jvm.Cond.selects "RoseProverbsModel" ({ cls := "RoseProverbsModel", name := "byWeight", desc := "(I)I" } : Jvm.MethodName) ({ cls := "RoseProverbsModel", name := "byWeight", desc := "(I)I" } : Jvm.MethodName)) ∈ lw_all := lw_g (lw_at lw_m14 172 rfl) rfl
theorem q3425 : (Jvm.Cond.code ({ cls := "RoseProverbsModel", name := "byWeight", desc := "(I)I" } : Jvm.MethodName) prog_20_method_99_code (3 : Nat) (Option.some Jvm.ClassFile.FieldType.int)) ∈ lw_all := lw_g (lw_at lw_m14 173 rfl) rfl
theorem q3426 : (Jvm.Cond.methodLink "RoseProverbsModel" (362 : Nat) ({ cls := "RoseProverbsModel", name := "heavier", desc := "(I)I" } : Jvm.MethodName)) ∈ lw_all := lw_g (lw_at lw_m14 174 rfl) rfl
theorem q3427 : (Jvm.Cond.privateMethod ({ cls := "RoseProverbsModel", name := "heavier", desc := "(I)I" } : Jvm.MethodName)) ∈ lw_tbl := lw_at lw_m14 175 rfl
theorem q3428 : (Jvm.Cond.instanceMethod ({ cls := "RoseProverbsModel", name := "heavier", desc := "(I)I" } : Jvm.MethodName)) ∈ lw_all := lw_g (lw_at lw_m14 176 rfl) rfl
theorem q3429 : (Jvm.Cond.code ({ cls := "RoseProverbsModel", name := "heavier", desc := "(I)I" } : Jvm.MethodName) prog_20_method_98_code (4 : Nat) (Option.some Jvm.ClassFile.FieldType.int)) ∈ lw_all := lw_g (lw_at lw_m14 177 rfl) rfl
theorem q3431 : (Jvm.Cond.instanceMethod ({ cls := "RoseProverbsModel", name := "year", desc := "(II)I" } : Jvm.MethodName)) ∈ lw_all := lw_g (lw_at lw_m14 179 rfl) rfl
theorem q3432 : (Jvm.Cond.selects "RoseProverbsModel" ({ cls := "RoseProverbsModel", name := "year", desc := "(II)I" } : Jvm.MethodName) ({ cls := "RoseProverbsModel", name := "year", desc := "(II)I" } : Jvm.MethodName)) ∈ lw_all := lw_g (lw_at lw_m14 180 rfl) rfl
theorem q3433 : (Jvm.Cond.code ({ cls := "RoseProverbsModel", name := "year", desc := "(II)I" } : Jvm.MethodName) prog_20_method_100_code (3 : Nat) (Option.some Jvm.ClassFile.FieldType.int)) ∈ lw_all := lw_g (lw_at lw_m14 181 rfl) rfl
theorem q3435 : (Jvm.Cond.instanceMethod ({ cls := "RoseProverbsModel", name := "dayOf", desc := "(II)I" } : Jvm.MethodName)) ∈ lw_all := lw_g (lw_at lw_m14 183 rfl) rfl
theorem q3436 : (Jvm.Cond.selects "RoseProverbsModel" ({ cls := "RoseProverbsModel", name := "dayOf", desc := "(II)I" } : Jvm.MethodName) ({ cls := "RoseProverbsModel", name := "dayOf", desc := "(II)I" } : Jvm.MethodName)) ∈ lw_all := lw_g (lw_at lw_m14 184 rfl) rfl
theorem q3437 : (Jvm.Cond.code ({ cls := "RoseProverbsModel", name := "dayOf", desc := "(II)I" } : Jvm.MethodName) prog_20_method_101_code (3 : Nat) (Option.some Jvm.ClassFile.FieldType.int)) ∈ lw_all := lw_g (lw_at lw_m14 185 rfl) rfl
theorem q3439 : (Jvm.Cond.instanceMethod ({ cls := "RoseProverbsModel", name := "turnsIn", desc := "(II)I" } : Jvm.MethodName)) ∈ lw_all := lw_g (lw_at lw_m14 187 rfl) rfl
theorem q3440 : (Jvm.Cond.selects "RoseProverbsModel" ({ cls := "RoseProverbsModel", name := "turnsIn", desc := "(II)I" } : Jvm.MethodName) ({ cls := "RoseProverbsModel", name := "turnsIn", desc := "(II)I" } : Jvm.MethodName)) ∈ lw_all := lw_g (lw_at lw_m14 188 rfl) rfl
theorem q3441 : (Jvm.Cond.code ({ cls := "RoseProverbsModel", name := "turnsIn", desc := "(II)I" } : Jvm.MethodName) prog_20_method_102_code (5 : Nat) (Option.some Jvm.ClassFile.FieldType.int)) ∈ lw_all := lw_g (lw_at lw_m14 189 rfl) rfl
theorem q3442 : (Jvm.Cond.methodLink "RoseProverbsModel" (365 : Nat) ({ cls := "RoseProverbsModel", name := "goesAside", desc := "()V" } : Jvm.MethodName)) ∈ lw_all := lw_g (lw_at lw_m14 190 rfl) rfl
theorem q3443 : (Jvm.Cond.privateMethod ({ cls := "RoseProverbsModel", name := "goesAside", desc := "()V" } : Jvm.MethodName)) ∈ lw_tbl := lw_at lw_m14 191 rfl
theorem q3444 : (Jvm.Cond.instanceMethod ({ cls := "RoseProverbsModel", name := "goesAside", desc := "()V" } : Jvm.MethodName)) ∈ lw_all := lw_g (lw_at lw_m14 192 rfl) rfl
theorem q3445 : (Jvm.Cond.code ({ cls := "RoseProverbsModel", name := "goesAside", desc := "()V" } : Jvm.MethodName) prog_20_method_37_code (1 : Nat) (Option.none : Option Jvm.ClassFile.FieldType)) ∈ lw_all := lw_g (lw_at lw_m14 193 rfl) rfl
theorem q3446 : (Jvm.Cond.methodLink "RoseProverbsModel" (368 : Nat) ({ cls := "RoseProverbsModel", name := "goesBack", desc := "(I)I" } : Jvm.MethodName)) ∈ lw_all := lw_g (lw_at lw_m14 194 rfl) rfl
theorem q3447 : (Jvm.Cond.privateMethod ({ cls := "RoseProverbsModel", name := "goesBack", desc := "(I)I" } : Jvm.MethodName)) ∈ lw_tbl := lw_at lw_m14 195 rfl
theorem q3448 : (Jvm.Cond.instanceMethod ({ cls := "RoseProverbsModel", name := "goesBack", desc := "(I)I" } : Jvm.MethodName)) ∈ lw_all := lw_g (lw_at lw_m14 196 rfl) rfl
theorem q3449 : (Jvm.Cond.code ({ cls := "RoseProverbsModel", name := "goesBack", desc := "(I)I" } : Jvm.MethodName) prog_20_method_38_code (2 : Nat) (Option.some Jvm.ClassFile.FieldType.int)) ∈ lw_all := lw_g (lw_at lw_m14 197 rfl) rfl
theorem q3451 : (Jvm.Cond.instanceMethod ({ cls := "RoseProverbsModel", name := "weightIn", desc := "(IIII)I" } : Jvm.MethodName)) ∈ lw_all := lw_g (lw_at lw_m14 199 rfl) rfl
theorem q3452 : (Jvm.Cond.selects "RoseProverbsModel" ({ cls := "RoseProverbsModel", name := "weightIn", desc := "(IIII)I" } : Jvm.MethodName) ({ cls := "RoseProverbsModel", name := "weightIn", desc := "(IIII)I" } : Jvm.MethodName)) ∈ lw_all := lw_g (lw_at lw_m14 200 rfl) rfl
theorem q3453 : (Jvm.Cond.code ({ cls := "RoseProverbsModel", name := "weightIn", desc := "(IIII)I" } : Jvm.MethodName) prog_20_method_103_code (7 : Nat) (Option.some Jvm.ClassFile.FieldType.int)) ∈ lw_all := lw_g (lw_at lw_m14 201 rfl) rfl
theorem q3455 : (Jvm.Cond.instanceMethod ({ cls := "RoseProverbsModel", name := "rightBy", desc := "(I)I" } : Jvm.MethodName)) ∈ lw_all := lw_g (lw_at lw_m14 203 rfl) rfl
theorem q3456 : (Jvm.Cond.selects "RoseProverbsModel" ({ cls := "RoseProverbsModel", name := "rightBy", desc := "(I)I" } : Jvm.MethodName) ({ cls := "RoseProverbsModel", name := "rightBy", desc := "(I)I" } : Jvm.MethodName)) ∈ lw_all := lw_g (lw_at lw_m14 204 rfl) rfl
theorem q3457 : (Jvm.Cond.code ({ cls := "RoseProverbsModel", name := "rightBy", desc := "(I)I" } : Jvm.MethodName) prog_20_method_105_code (2 : Nat) (Option.some Jvm.ClassFile.FieldType.int)) ∈ lw_all := lw_g (lw_at lw_m14 205 rfl) rfl
theorem q3458 : (Jvm.Cond.methodLink "RoseProverbsModel" (374 : Nat) ({ cls := "RoseProverbsModel", name := "rightWhen", desc := "(II)I" } : Jvm.MethodName)) ∈ lw_all := lw_g (lw_at lw_m14 206 rfl) rfl
theorem q3459 : (Jvm.Cond.privateMethod ({ cls := "RoseProverbsModel", name := "rightWhen", desc := "(II)I" } : Jvm.MethodName)) ∈ lw_tbl := lw_at lw_m14 207 rfl
theorem q3460 : (Jvm.Cond.instanceMethod ({ cls := "RoseProverbsModel", name := "rightWhen", desc := "(II)I" } : Jvm.MethodName)) ∈ lw_all := lw_g (lw_at lw_m14 208 rfl) rfl
theorem q3461 : (Jvm.Cond.code ({ cls := "RoseProverbsModel", name := "rightWhen", desc := "(II)I" } : Jvm.MethodName) prog_20_method_104_code (3 : Nat) (Option.some Jvm.ClassFile.FieldType.int)) ∈ lw_all := lw_g (lw_at lw_m14 209 rfl) rfl
theorem q3462 : (Jvm.Cond.methodLink "RoseProverbsModel" (371 : Nat) ({ cls := "RoseProverbsModel", name := "again", desc := "()I" } : Jvm.MethodName)) ∈ lw_all := lw_g (lw_at lw_m14 210 rfl) rfl
theorem q3463 : (Jvm.Cond.privateMethod ({ cls := "RoseProverbsModel", name := "again", desc := "()I" } : Jvm.MethodName)) ∈ lw_tbl := lw_at lw_m14 211 rfl
theorem q3464 : (Jvm.Cond.instanceMethod ({ cls := "RoseProverbsModel", name := "again", desc := "()I" } : Jvm.MethodName)) ∈ lw_all := lw_g (lw_at lw_m14 212 rfl) rfl
theorem q3465 : (Jvm.Cond.code ({ cls := "RoseProverbsModel", name := "again", desc := "()I" } : Jvm.MethodName) prog_20_method_30_code (5 : Nat) (Option.some Jvm.ClassFile.FieldType.int)) ∈ lw_all := lw_g (lw_at lw_m14 213 rfl) rfl
theorem q3467 : (Jvm.Cond.instanceMethod ({ cls := "RoseProverbsModel", name := "bestRule", desc := "()I" } : Jvm.MethodName)) ∈ lw_all := lw_g (lw_at lw_m14 215 rfl) rfl
theorem q3468 : (Jvm.Cond.selects "RoseProverbsModel" ({ cls := "RoseProverbsModel", name := "bestRule", desc := "()I" } : Jvm.MethodName) ({ cls := "RoseProverbsModel", name := "bestRule", desc := "()I" } : Jvm.MethodName)) ∈ lw_all := lw_g (lw_at lw_m14 216 rfl) rfl
theorem q3469 : (Jvm.Cond.code ({ cls := "RoseProverbsModel", name := "bestRule", desc := "()I" } : Jvm.MethodName) prog_20_method_106_code (5 : Nat) (Option.some Jvm.ClassFile.FieldType.int)) ∈ lw_all := lw_g (lw_at lw_m14 217 rfl) rfl
theorem q3471 : (Jvm.Cond.instanceMethod ({ cls := "RoseProverbsModel", name := "rightWith", desc := "(II)I" } : Jvm.MethodName)) ∈ lw_all := lw_g (lw_at lw_m14 219 rfl) rfl
theorem q3472 : (Jvm.Cond.selects "RoseProverbsModel" ({ cls := "RoseProverbsModel", name := "rightWith", desc := "(II)I" } : Jvm.MethodName) ({ cls := "RoseProverbsModel", name := "rightWith", desc := "(II)I" } : Jvm.MethodName)) ∈ lw_all := lw_g (lw_at lw_m14 220 rfl) rfl
theorem q3473 : (Jvm.Cond.code ({ cls := "RoseProverbsModel", name := "rightWith", desc := "(II)I" } : Jvm.MethodName) prog_20_method_107_code (3 : Nat) (Option.some Jvm.ClassFile.FieldType.int)) ∈ lw_all := lw_g (lw_at lw_m14 221 rfl) rfl
theorem q3475 : (Jvm.Cond.instanceMethod ({ cls := "RoseProverbsModel", name := "harmOf", desc := "(I)I" } : Jvm.MethodName)) ∈ lw_all := lw_g (lw_at lw_m14 223 rfl) rfl
theorem q3476 : (Jvm.Cond.selects "RoseProverbsModel" ({ cls := "RoseProverbsModel", name := "harmOf", desc := "(I)I" } : Jvm.MethodName) ({ cls := "RoseProverbsModel", name := "harmOf", desc := "(I)I" } : Jvm.MethodName)) ∈ lw_all := lw_g (lw_at lw_m14 224 rfl) rfl
theorem q3477 : (Jvm.Cond.code ({ cls := "RoseProverbsModel", name := "harmOf", desc := "(I)I" } : Jvm.MethodName) prog_20_method_108_code (3 : Nat) (Option.some Jvm.ClassFile.FieldType.int)) ∈ lw_all := lw_g (lw_at lw_m14 225 rfl) rfl
theorem q3479 : (Jvm.Cond.instanceMethod ({ cls := "RoseProverbsModel", name := "reachOf", desc := "(I)I" } : Jvm.MethodName)) ∈ lw_all := lw_g (lw_at lw_m14 227 rfl) rfl
theorem q3480 : (Jvm.Cond.selects "RoseProverbsModel" ({ cls := "RoseProverbsModel", name := "reachOf", desc := "(I)I" } : Jvm.MethodName) ({ cls := "RoseProverbsModel", name := "reachOf", desc := "(I)I" } : Jvm.MethodName)) ∈ lw_all := lw_g (lw_at lw_m14 228 rfl) rfl
theorem q3481 : (Jvm.Cond.code ({ cls := "RoseProverbsModel", name := "reachOf", desc := "(I)I" } : Jvm.MethodName) prog_20_method_109_code (4 : Nat) (Option.some Jvm.ClassFile.FieldType.int)) ∈ lw_all := lw_g (lw_at lw_m14 229 rfl) rfl
theorem q3483 : (Jvm.Cond.instanceMethod ({ cls := "RoseProverbsModel", name := "agree", desc := "()Z" } : Jvm.MethodName)) ∈ lw_all := lw_g (lw_at lw_m14 231 rfl) rfl
theorem q3484 : (Jvm.Cond.selects "RoseProverbsModel" ({ cls := "RoseProverbsModel", name := "agree", desc := "()Z" } : Jvm.MethodName) ({ cls := "RoseProverbsModel", name := "agree", desc := "()Z" } : Jvm.MethodName)) ∈ lw_all := lw_g (lw_at lw_m14 232 rfl) rfl
theorem q3485 : (Jvm.Cond.code ({ cls := "RoseProverbsModel", name := "agree", desc := "()Z" } : Jvm.MethodName) prog_20_method_113_code (4 : Nat) (Option.some Jvm.ClassFile.FieldType.boolean)) ∈ lw_all := lw_g (lw_at lw_m14 233 rfl) rfl
theorem q3486 : (Jvm.Cond.methodLink "RoseProverbsModel" (377 : Nat) ({ cls := "RoseProverbsModel", name := "isToldRight", desc := "(II)Z" } : Jvm.MethodName)) ∈ lw_all := lw_g (lw_at lw_m14 234 rfl) rfl
theorem q3487 : (Jvm.Cond.privateMethod ({ cls := "RoseProverbsModel", name := "isToldRight", desc := "(II)Z" } : Jvm.MethodName)) ∈ lw_tbl := lw_at lw_m14 235 rfl
theorem q3488 : (Jvm.Cond.instanceMethod ({ cls := "RoseProverbsModel", name := "isToldRight", desc := "(II)Z" } : Jvm.MethodName)) ∈ lw_all := lw_g (lw_at lw_m14 236 rfl) rfl
theorem q3489 : (Jvm.Cond.code ({ cls := "RoseProverbsModel", name := "isToldRight", desc := "(II)Z" } : Jvm.MethodName) prog_20_method_110_code (11 : Nat) (Option.some Jvm.ClassFile.FieldType.boolean)) ∈ lw_all := lw_g (lw_at lw_m14 237 rfl) rfl
theorem q3490 : (Jvm.Cond.methodLink "RoseProverbsModel" (380 : Nat) ({ cls := "RoseProverbsModel", name := "areMeetingsRight", desc := "(I)Z" } : Jvm.MethodName)) ∈ lw_all := lw_g (lw_at lw_m14 238 rfl) rfl
theorem q3491 : (Jvm.Cond.privateMethod ({ cls := "RoseProverbsModel", name := "areMeetingsRight", desc := "(I)Z" } : Jvm.MethodName)) ∈ lw_tbl := lw_at lw_m14 239 rfl
theorem q3492 : (Jvm.Cond.instanceMethod ({ cls := "RoseProverbsModel", name := "areMeetingsRight", desc := "(I)Z" } : Jvm.MethodName)) ∈ lw_all := lw_g (lw_at lw_m15 0 rfl) rfl
theorem q3493 : (Jvm.Cond.code ({ cls := "RoseProverbsModel", name := "areMeetingsRight", desc := "(I)Z" } : Jvm.MethodName) prog_20_method_111_code (3 : Nat) (Option.some Jvm.ClassFile.FieldType.boolean)) ∈ lw_all := lw_g (lw_at lw_m15 1 rfl) rfl
theorem q3494 : (Jvm.Cond.methodLink "RoseProverbsModel" (383 : Nat) ({ cls := "RoseProverbsModel", name := "areDaysRight", desc := "()Z" } : Jvm.MethodName)) ∈ lw_all := lw_g (lw_at lw_m15 2 rfl) rfl
theorem q3495 : (Jvm.Cond.privateMethod ({ cls := "RoseProverbsModel", name := "areDaysRight", desc := "()Z" } : Jvm.MethodName)) ∈ lw_tbl := lw_at lw_m15 3 rfl
theorem q3496 : (Jvm.Cond.instanceMethod ({ cls := "RoseProverbsModel", name := "areDaysRight", desc := "()Z" } : Jvm.MethodName)) ∈ lw_all := lw_g (lw_at lw_m15 4 rfl) rfl
theorem q3497 : (Jvm.Cond.code ({ cls := "RoseProverbsModel", name := "areDaysRight", desc := "()Z" } : Jvm.MethodName) prog_20_method_112_code (3 : Nat) (Option.some Jvm.ClassFile.FieldType.boolean)) ∈ lw_all := lw_g (lw_at lw_m15 5 rfl) rfl
theorem q3499 : (Jvm.Cond.instanceMethod ({ cls := "RoseProverbsModel", name := "truth", desc := "()D" } : Jvm.MethodName)) ∈ lw_all := lw_g (lw_at lw_m15 7 rfl) rfl
theorem q3500 : (Jvm.Cond.selects "RoseProverbsModel" ({ cls := "RoseProverbsModel", name := "truth", desc := "()D" } : Jvm.MethodName) ({ cls := "RoseProverbsModel", name := "truth", desc := "()D" } : Jvm.MethodName)) ∈ lw_all := lw_g (lw_at lw_m15 8 rfl) rfl
theorem q3501 : (Jvm.Cond.code ({ cls := "RoseProverbsModel", name := "truth", desc := "()D" } : Jvm.MethodName) prog_20_method_114_code (3 : Nat) (Option.some Jvm.ClassFile.FieldType.double)) ∈ lw_all := lw_g (lw_at lw_m15 9 rfl) rfl
theorem q3503 : (Jvm.Cond.instanceMethod ({ cls := "RoseProverbsModel", name := "meanWeight", desc := "()F" } : Jvm.MethodName)) ∈ lw_all := lw_g (lw_at lw_m15 11 rfl) rfl
theorem q3504 : (Jvm.Cond.selects "RoseProverbsModel" ({ cls := "RoseProverbsModel", name := "meanWeight", desc := "()F" } : Jvm.MethodName) ({ cls := "RoseProverbsModel", name := "meanWeight", desc := "()F" } : Jvm.MethodName)) ∈ lw_all := lw_g (lw_at lw_m15 12 rfl) rfl
theorem q3505 : (Jvm.Cond.code ({ cls := "RoseProverbsModel", name := "meanWeight", desc := "()F" } : Jvm.MethodName) prog_20_method_115_code (1 : Nat) (Option.some Jvm.ClassFile.FieldType.float)) ∈ lw_all := lw_g (lw_at lw_m15 13 rfl) rfl
theorem q3507 : (Jvm.Cond.instanceMethod ({ cls := "RoseProverbsModel", name := "day", desc := "(II)I" } : Jvm.MethodName)) ∈ lw_all := lw_g (lw_at lw_m15 15 rfl) rfl
theorem q3508 : (Jvm.Cond.selects "RoseProverbsModel" ({ cls := "RoseProverbsModel", name := "day", desc := "(II)I" } : Jvm.MethodName) ({ cls := "RoseProverbsModel", name := "day", desc := "(II)I" } : Jvm.MethodName)) ∈ lw_all := lw_g (lw_at lw_m15 16 rfl) rfl
theorem q3509 : (Jvm.Cond.code ({ cls := "RoseProverbsModel", name := "day", desc := "(II)I" } : Jvm.MethodName) prog_20_method_116_code (3 : Nat) (Option.some Jvm.ClassFile.FieldType.int)) ∈ lw_all := lw_g (lw_at lw_m15 17 rfl) rfl
theorem q3511 : (Jvm.Cond.instanceMethod ({ cls := "RoseProverbsModel", name := "proverbNew", desc := "(IIIIII)I" } : Jvm.MethodName)) ∈ lw_all := lw_g (lw_at lw_m15 19 rfl) rfl
theorem q3512 : (Jvm.Cond.selects "RoseProverbsModel" ({ cls := "RoseProverbsModel", name := "proverbNew", desc := "(IIIIII)I" } : Jvm.MethodName) ({ cls := "RoseProverbsModel", name := "proverbNew", desc := "(IIIIII)I" } : Jvm.MethodName)) ∈ lw_all := lw_g (lw_at lw_m15 20 rfl) rfl
theorem q3513 : (Jvm.Cond.code ({ cls := "RoseProverbsModel", name := "proverbNew", desc := "(IIIIII)I" } : Jvm.MethodName) prog_20_method_117_code (7 : Nat) (Option.some Jvm.ClassFile.FieldType.int)) ∈ lw_all := lw_g (lw_at lw_m15 21 rfl) rfl
theorem q3515 : (Jvm.Cond.instanceMethod ({ cls := "RoseProverbsModel", name := "forget", desc := "(I)I" } : Jvm.MethodName)) ∈ lw_all := lw_g (lw_at lw_m15 23 rfl) rfl
theorem q3516 : (Jvm.Cond.selects "RoseProverbsModel" ({ cls := "RoseProverbsModel", name := "forget", desc := "(I)I" } : Jvm.MethodName) ({ cls := "RoseProverbsModel", name := "forget", desc := "(I)I" } : Jvm.MethodName)) ∈ lw_all := lw_g (lw_at lw_m15 24 rfl) rfl
theorem q3517 : (Jvm.Cond.code ({ cls := "RoseProverbsModel", name := "forget", desc := "(I)I" } : Jvm.MethodName) prog_20_method_118_code (2 : Nat) (Option.some Jvm.ClassFile.FieldType.int)) ∈ lw_all := lw_g (lw_at lw_m15 25 rfl) rfl
theorem q3519 : (Jvm.Cond.instanceMethod ({ cls := "RoseProverbsModel", name := "weigh", desc := "(II)I" } : Jvm.MethodName)) ∈ lw_all := lw_g (lw_at lw_m15 27 rfl) rfl
theorem q3520 : (Jvm.Cond.selects "RoseProverbsModel" ({ cls := "RoseProverbsModel", name := "weigh", desc := "(II)I" } : Jvm.MethodName) ({ cls := "RoseProverbsModel", name := "weigh", desc := "(II)I" } : Jvm.MethodName)) ∈ lw_all := lw_g (lw_at lw_m15 28 rfl) rfl
theorem q3521 : (Jvm.Cond.code ({ cls := "RoseProverbsModel", name := "weigh", desc := "(II)I" } : Jvm.MethodName) prog_20_method_119_code (3 : Nat) (Option.some Jvm.ClassFile.FieldType.int)) ∈ lw_all := lw_g (lw_at lw_m15 29 rfl) rfl
theorem q3523 : (Jvm.Cond.instanceMethod ({ cls := "RoseProverbsModel", name := "set", desc := "(II)I" } : Jvm.MethodName)) ∈ lw_all := lw_g (lw_at lw_m15 31 rfl) rfl
theorem q3524 : (Jvm.Cond.selects "RoseProverbsModel" ({ cls := "RoseProverbsModel", name := "set", desc := "(II)I" } : Jvm.MethodName) ({ cls := "RoseProverbsModel", name := "set", desc := "(II)I" } : Jvm.MethodName)) ∈ lw_all := lw_g (lw_at lw_m15 32 rfl) rfl
theorem q3525 : (Jvm.Cond.code ({ cls := "RoseProverbsModel", name := "set", desc := "(II)I" } : Jvm.MethodName) prog_20_method_120_code (3 : Nat) (Option.some Jvm.ClassFile.FieldType.int)) ∈ lw_all := lw_g (lw_at lw_m15 33 rfl) rfl
theorem q3527 : (Jvm.Cond.instanceMethod ({ cls := "RoseProverbsModel", name := "undo", desc := "()I" } : Jvm.MethodName)) ∈ lw_all := lw_g (lw_at lw_m15 35 rfl) rfl
theorem q3528 : (Jvm.Cond.selects "RoseProverbsModel" ({ cls := "RoseProverbsModel", name := "undo", desc := "()I" } : Jvm.MethodName) ({ cls := "RoseProverbsModel", name := "undo", desc := "()I" } : Jvm.MethodName)) ∈ lw_all := lw_g (lw_at lw_m15 36 rfl) rfl
theorem q3529 : (Jvm.Cond.code ({ cls := "RoseProverbsModel", name := "undo", desc := "()I" } : Jvm.MethodName) prog_20_method_121_code (1 : Nat) (Option.some Jvm.ClassFile.FieldType.int)) ∈ lw_all := lw_g (lw_at lw_m15 37 rfl) rfl
theorem q3531 : (Jvm.Cond.instanceMethod ({ cls := "RoseProverbsModel", name := "printMonth", desc := "(I)I" } : Jvm.MethodName)) ∈ lw_all := lw_g (lw_at lw_m15 39 rfl) rfl
theorem q3532 : (Jvm.Cond.selects "RoseProverbsModel" ({ cls := "RoseProverbsModel", name := "printMonth", desc := "(I)I" } : Jvm.MethodName) ({ cls := "RoseProverbsModel", name := "printMonth", desc := "(I)I" } : Jvm.MethodName)) ∈ lw_all := lw_g (lw_at lw_m15 40 rfl) rfl
theorem q3533 : (Jvm.Cond.code ({ cls := "RoseProverbsModel", name := "printMonth", desc := "(I)I" } : Jvm.MethodName) prog_20_method_124_code (3 : Nat) (Option.some Jvm.ClassFile.FieldType.int)) ∈ lw_all := lw_g (lw_at lw_m15 41 rfl) rfl
theorem q3534 : (Jvm.Cond.methodLink "RoseProverbsModel" (389 : Nat) ({ cls := "RoseProverbsModel", name := "write", desc := "(I)V" } : Jvm.MethodName)) ∈ lw_all := lw_g (lw_at lw_m15 42 rfl) rfl
theorem q3535 : (Jvm.Cond.privateMethod ({ cls := "RoseProverbsModel", name := "write", desc := "(I)V" } : Jvm.MethodName)) ∈ lw_tbl := lw_at lw_m15 43 rfl
theorem q3536 : (Jvm.Cond.instanceMethod ({ cls := "RoseProverbsModel", name := "write", desc := "(I)V" } : Jvm.MethodName)) ∈ lw_all := lw_g (lw_at lw_m15 44 rfl) rfl
theorem q3537 : (Jvm.Cond.code ({ cls := "RoseProverbsModel", name := "write", desc := "(I)V" } : Jvm.MethodName) prog_20_method_122_code (2 : Nat) (Option.none : Option Jvm.ClassFile.FieldType)) ∈ lw_all := lw_g (lw_at lw_m15 45 rfl) rfl
theorem q3539 : (Jvm.Cond.instanceMethod ({ cls := "RoseProverbsModel", name := "printProverb", desc := "(I)I" } : Jvm.MethodName)) ∈ lw_all := lw_g (lw_at lw_m15 47 rfl) rfl
theorem q3540 : (Jvm.Cond.selects "RoseProverbsModel" ({ cls := "RoseProverbsModel", name := "printProverb", desc := "(I)I" } : Jvm.MethodName) ({ cls := "RoseProverbsModel", name := "printProverb", desc := "(I)I" } : Jvm.MethodName)) ∈ lw_all := lw_g (lw_at lw_m15 48 rfl) rfl
theorem q3541 : (Jvm.Cond.code ({ cls := "RoseProverbsModel", name := "printProverb", desc := "(I)I" } : Jvm.MethodName) prog_20_method_125_code (2 : Nat) (Option.some Jvm.ClassFile.FieldType.int)) ∈ lw_all := lw_g (lw_at lw_m15 49 rfl) rfl
theorem q3542 : (Jvm.Cond.methodLink "RoseProverbsModel" (392 : Nat) ({ cls := "RoseProverbsModel", name := "writeNumber", desc := "(I)V" } : Jvm.MethodName)) ∈ lw_all := lw_g (lw_at lw_m15 50 rfl) rfl
theorem q3543 : (Jvm.Cond.privateMethod ({ cls := "RoseProverbsModel", name := "writeNumber", desc := "(I)V" } : Jvm.MethodName)) ∈ lw_tbl := lw_at lw_m15 51 rfl
theorem q3544 : (Jvm.Cond.instanceMethod ({ cls := "RoseProverbsModel", name := "writeNumber", desc := "(I)V" } : Jvm.MethodName)) ∈ lw_all := lw_g (lw_at lw_m15 52 rfl) rfl
theorem q3545 : (Jvm.Cond.code ({ cls := "RoseProverbsModel", name := "writeNumber", desc := "(I)V" } : Jvm.MethodName) prog_20_method_123_code (2 : Nat) (Option.none : Option Jvm.ClassFile.FieldType)) ∈ lw_all := lw_g (lw_at lw_m15 53 rfl) rfl
theorem q3547 : (Jvm.Cond.instanceMethod ({ cls := "RoseProverbsModel", name := "outputByte", desc := "(I)I" } : Jvm.MethodName)) ∈ lw_all := lw_g (lw_at lw_m15 55 rfl) rfl
theorem q3548 : (Jvm.Cond.selects "RoseProverbsModel" ({ cls := "RoseProverbsModel", name := "outputByte", desc := "(I)I" } : Jvm.MethodName) ({ cls := "RoseProverbsModel", name := "outputByte", desc := "(I)I" } : Jvm.MethodName)) ∈ lw_all := lw_g (lw_at lw_m15 56 rfl) rfl
theorem q3549 : (Jvm.Cond.code ({ cls := "RoseProverbsModel", name := "outputByte", desc := "(I)I" } : Jvm.MethodName) prog_20_method_126_code (2 : Nat) (Option.some Jvm.ClassFile.FieldType.int)) ∈ lw_all := lw_g (lw_at lw_m15 57 rfl) rfl
theorem q3551 : (Jvm.Cond.instanceMethod ({ cls := "RoseProverbsModel", name := "saveState", desc := "()I" } : Jvm.MethodName)) ∈ lw_all := lw_g (lw_at lw_m15 59 rfl) rfl
theorem q3552 : (Jvm.Cond.selects "RoseProverbsModel" ({ cls := "RoseProverbsModel", name := "saveState", desc := "()I" } : Jvm.MethodName) ({ cls := "RoseProverbsModel", name := "saveState", desc := "()I" } : Jvm.MethodName)) ∈ lw_all := lw_g (lw_at lw_m15 60 rfl) rfl
theorem q3553 : (Jvm.Cond.code ({ cls := "RoseProverbsModel", name := "saveState", desc := "()I" } : Jvm.MethodName) prog_20_method_127_code (2 : Nat) (Option.some Jvm.ClassFile.FieldType.int)) ∈ lw_all := lw_g (lw_at lw_m15 61 rfl) rfl
theorem q3555 : (Jvm.Cond.instanceMethod ({ cls := "RoseProverbsModel", name := "restoreState", desc := "()I" } : Jvm.MethodName)) ∈ lw_all := lw_g (lw_at lw_m15 63 rfl) rfl
theorem q3556 : (Jvm.Cond.selects "RoseProverbsModel" ({ cls := "RoseProverbsModel", name := "restoreState", desc := "()I" } : Jvm.MethodName) ({ cls := "RoseProverbsModel", name := "restoreState", desc := "()I" } : Jvm.MethodName)) ∈ lw_all := lw_g (lw_at lw_m15 64 rfl) rfl
theorem q3557 : (Jvm.Cond.code ({ cls := "RoseProverbsModel", name := "restoreState", desc := "()I" } : Jvm.MethodName) prog_20_method_128_code (2 : Nat) (Option.some Jvm.ClassFile.FieldType.int)) ∈ lw_all := lw_g (lw_at lw_m15 65 rfl) rfl
theorem q3602 : (Jvm.Cond.castable "RoseProverbsModel" "java/lang/Object") ∈ lw_tbl := lw_at lw_m15 110 rfl
theorem in_X4 : ∀ w ∈ wsX40, w ∈ lw_all := lw_in wsX40 [2998, 3000, 3002, 3004, 3006, 3008, 3010, 3012, 3014, 3016, 3018, 3020, 3022, 3024, 3026, 3028, 3030, 3032, 3034, 3036, 3038, 3040, 3042, 3044, 3046, 3048, 3050, 3052] (by decide +kernel) (by decide +kernel)
